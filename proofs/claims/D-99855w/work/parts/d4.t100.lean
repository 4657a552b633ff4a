/-! LINES READ: a house. Printed by t100.py -/
set_option maxRecDepth 100000
section LADD
variable {g : zG} {X0 X : zX} {r l e e' n c c' a w : Nat} {mc mc' : Int32} {f f' : Nat → Option Nat} {T : rTP} {vo : Option Nat}
theorem rto.add {va : va_E} (h : rto X0 X r) (hr : X r = some va) (hl0 : X0 l = none) (he0 : X0 e = none) (hq : e' = e ∨ X e' = none) {e1 e2 : va_E} : X0 e' = none ∧ rto X0 (zup (zup X e' e1) l e2) r := by
  have h0 : X0 e' = none := by
    rcases hq with rfl | hq
    · exact he0
    · exact h.back hq hr
  exact ⟨h0, (h.new h0).new hl0⟩
theorem rW.add (h : rW g X r T a w vo) (hl : X l = some (.inr (23, [.int mc, .ref e, .int (nI n)]))) (he : X e = some (.inl (zar g 4, c, .inr (.inr (.inr (.inr f)))))) (hq : e' = e ∨ X e' = none) {fs2 : List Value} : rW g (zup (zup X e' (.inl (zar g 4, c', .inr (.inr (.inr (.inr f')))))) l (.inr (23, fs2))) r T a w vo := by
  have h1 : rW g (zup X e' (.inl (zar g 4, c', .inr (.inr (.inr (.inr f')))))) r T a w vo := by
    rcases hq with rfl | hq
    · obtain ⟨g1, hx, hk, g2, va, hr, g3⟩ := h
      have n9 : ∀ {b : Nat} {f9 : va_E}, X b = some f9 → (∀ m f8, f9 ≠ .inl (zar g 4, m, .inr (.inr (.inr (.inr f8))))) → zup X e' (.inl (zar g 4, c', .inr (.inr (.inr (.inr f'))))) b = some f9 := fun hb g4 => zup_k (fun z => by rw [z, he] at hb; exact g4 _ _ (Option.some.inj hb).symm) hb
      refine ⟨g1, n9 hx (fun _ _ => va_b4), fun i hi => ?_, g2, va, n9 hr (fun _ _ z => by cases z), g3⟩
      obtain ⟨b, hs, hz, q1, q2⟩ := hk i hi
      exact ⟨b, hs, hz, n9 q1 (fun _ _ z => by cases z), n9 q2 (fun _ _ => va_b4)⟩
    · exact h.nw hq
  have hl2 : zup X e' (.inl (zar g 4, c', .inr (.inr (.inr (.inr f'))))) l = some (.inr (23, [.int mc, .ref e, .int (nI n)])) := by
    refine zup_k (fun z => ?_) hl
    rcases hq with rfl | hq
    · rw [z, he] at hl; cases hl
    · rw [z, hq] at hl; cases hl
  exact h1.up hl2 (by decide) (by decide)
end LADD
section KH
variable (kd pl : Nat → Nat) (vl wd : Nat → Int64)
def k_home (hx gx : Int64 → Int32) (a : Nat) : Int32 × Nat × Nat := s_tA kd pl vl wd (k_fresh kd pl vl wd hx gx a).1 (k_fresh kd pl vl wd hx gx a).2 1 (nI 1) (nI 6)
end KH
set_option maxHeartbeats 4000000 in
theorem rd_line_0 {g : zG} {X : zX} {r a w : Nat} {T : rTP} {X0 : zX} {v nh nd : Nat} {B : vB} {vs : Nat → Int32} {hv gv : Nat → Int64} {st : Int32} {fa : Option Nat} (hT : rTk T) (hW : rW g X r T a w (some v)) (hX0 : rto X0 X r) (hU0 : vU g X0 X v B vs nh nd hv gv st fa) (hnh : nh < 4) : zV g m_X2_line ({ frames := 9, cells := 9, slots := 148, locals := 304 } : Room) [.ref r, .int 0] X (fun rv X' => rv = none ∧ ∃ b : Nat, k_home T.kd T.pl T.vl T.wd (fun val => kwf (fun k => decide (hv k = val)) nh 0) (fun val => kwf (fun k => decide (gv k = val)) nd 0) a = (nI b, a + 3, 0) ∧ T.kd a = 1 ∧ kwf (fun k => decide (hv k = (T.vl a))) nh 0 < 0 ∧ kwf (fun k => decide (gv k = (T.vl a))) nd 0 < 0 ∧ rto X0 X' r ∧ rW g X' r T (a + 3) w (some v) ∧ ∃ B', ∀ vs' : Nat → Int32, vs' (2 * nh + 4) = nI b → vs' (2 * nh + 5) = 0 → (∀ k, k < nh → vs' (2 * k + 4) = vs (2 * k + 4) ∧ vs' (2 * k + 5) = vs (2 * k + 5)) → (∀ k j, k < nd → j < 5 → vs' (5 * k + 12 + j) = vs (5 * k + 12 + j)) → vU g X0 X' v B' vs' (nh + 1) nd (fun k => if k = nh then T.vl a else hv k) gv st fa) (fun q E X' => ∃ f, ¬ f = 0 ∧ (k_home T.kd T.pl T.vl T.wd (fun val => kwf (fun k => decide (hv k = val)) nh 0) (fun val => kwf (fun k => decide (gv k = val)) nd 0) a).2.2 = f ∧ rX X r T (some v) f q E X') := by
  refine zV.of (by decide +kernel) (Nat.le_of_ble_eq_true rfl) rfl ?_
  refine z_lv (lv' := [(0, .ref r), (1, .int 0)]) [0, 1] rfl ?_
  have hn := hT.n
  have hW2 := hW
  obtain ⟨hr0, hx, hks, ha, va, hr, hva⟩ := hW
  have hcn := hT.c
  have hpl := hT.le ha
  have hto := hT.to ha
  have hk4 := hT.kd4 ha
  have hU := hU0
  obtain ⟨hv0, hv00, hxv, hlh, hlg, hlhg, hehg, hhU, hgU⟩ := hU0
  refine z_iload_n 1 dX2_line_0 rfl ?_
  refine z_tableIn (off := 35) 36 dX2_line_1 (by decide) (by decide) (by rfl) (by decide) ?_
  refine z_new (ci := 7) (fs := [.null, .int 0, .int 0]) rfl in_X7 tyX7 tyX7_ok q618 q619 q131 zd_X7 dX2_line_36 rfl rfl (Nat.le_of_ble_eq_true rfl) (Nat.le_of_ble_eq_true rfl) (fun n_1 hn_2 hl_3 => ?_)
  have ne_4 : r ≠ n_1 := fun q9 => by rw [← q9, hr] at hn_2; cases hn_2
  have ne_5 : T.x ≠ n_1 := fun q9 => by rw [← q9, hx] at hn_2; cases hn_2
  have ne_6 : v ≠ n_1 := fun q9 => by rw [← q9, hxv] at hn_2; cases hn_2
  have hx_7 : (zup X n_1 (.inr (7, [.null, .int 0, .int 0]))) r = some (rdT T a va w (some v)) := zup_k ne_4 hr
  have hx_8 : (zup X n_1 (.inr (7, [.null, .int 0, .int 0]))) T.x = some (.inl (zar g 1, 1000, .inl T.t)) := zup_k ne_5 hx
  have hx_9 : (zup X n_1 (.inr (7, [.null, .int 0, .int 0]))) v = some (.inr (3, [.ref B.lh, .ref B.lg, .int st, va_rf (fa)])) := zup_k ne_6 hxv
  have hx_10 : (zup X n_1 (.inr (7, [.null, .int 0, .int 0]))) n_1 = some (.inr (7, [.null, .int 0, .int 0])) := zup_s
  have hz0n_1 := (rto.rf).back hn_2 hr
  have hz1n_1 := (hU).fgn hn_2
  refine z_dup dX2_line_39 rfl ?_
  refine z_aload_n 0 dX2_line_40 rfl ?_
  refine z_callVx (As := []) (rd_fresh2 hT (hW2.nw hn_2) (hX0.tr (rto.rf.nw hn_2)) (hU.nw hn_2)) q620 q622 qs7 q113 q623 nm_X2_fresh hx_7 rfl rfl rfl (Nat.le_of_ble_eq_true rfl) ⟨Nat.le_of_ble_eq_true rfl, Nat.le_of_ble_eq_true rfl⟩ dX2_line_41 rfl rfl (Nat.le_of_ble_eq_true rfl) (Nat.le_of_ble_eq_true rfl) rfl (fun q9 E9 X8 hp9 => by obtain ⟨f9, hf9, hs9, hx9⟩ := hp9; exact ⟨f9, hf9, (by unfold k_home; rw [hs9, s_tA_f hf9]), hx9.tr (rto.rf.nw hn_2)⟩) (fun v_13 X11 hp_14 => ?_)
  obtain ⟨s11, rfl, he11, hkd11, hf111, hf211, hn11, hzs11, hkS11, ht11, hw11⟩ := hp_14
  have hWk12 := hw11
  obtain ⟨-, hx12, hks12, ha12, va12, hr12, hva12⟩ := hw11
  have hrt12 := (rto.rf.nw hn_2).tr ht11
  have he12_v := ht11 _ _ (zne hx_9 hx_7 (by unfold rdT; simp)) hx_9
  have he12_n_1 := ht11 _ _ (zne hx_10 hx_7 (by unfold rdT; simp)) hx_10
  have hvU12 := (hU.nw hn_2).to hx_7 ht11
  have hpl12 := hT.le ha12
  have hto12 := hT.to ha12
  have hk412 := hT.kd4 ha12
  refine z_st (st' := [.ref s11, .ref n_1, .ref n_1]) rfl ?_
  refine z_callI (As := [.ref s11]) (rd_hoI he12_n_1 hl_3) q807 q808 q131 q809 rfl rfl nm_X7_init rfl (Nat.le_of_ble_eq_true rfl) ⟨Nat.le_of_ble_eq_true rfl, Nat.le_of_ble_eq_true rfl⟩ dX2_line_44 rfl rfl (Nat.le_of_ble_eq_true rfl) (Nat.le_of_ble_eq_true rfl) (fun v_19 X_20 hp_21 => ?_)
  obtain ⟨rfl, h7⟩ := hp_21
  replace h7 := h7.symm
  subst h7
  refine z_X (X' := (zup X11 n_1 (.inr (7, [.ref s11, .int 0, .int 0])))) rfl ?_
  have hx_15 : (zup X11 n_1 (.inr (7, [.ref s11, .int 0, .int 0]))) r = some (rdT T (a + 1) va12 w (some v)) := zup_k (zne hr12 he12_n_1 (by unfold rdT; simp)) hr12
  have hx_16 : (zup X11 n_1 (.inr (7, [.ref s11, .int 0, .int 0]))) T.x = some (.inl (zar g 1, 1000, .inl T.t)) := zup_k (zne hx12 he12_n_1 (by simp)) hx12
  have hx_17 : (zup X11 n_1 (.inr (7, [.ref s11, .int 0, .int 0]))) v = some (.inr (3, [.ref B.lh, .ref B.lg, .int st, va_rf (fa)])) := zup_k (zne he12_v he12_n_1 (by simp)) he12_v
  have hx_18 : (zup X11 n_1 (.inr (7, [.ref s11, .int 0, .int 0]))) n_1 = some (.inr (7, [.ref s11, .int 0, .int 0])) := zup_s
  refine z_st (st' := [.ref n_1]) rfl ?_
  refine z_astore_n (lv' := [(2, .ref n_1), (0, .ref r), (1, .int 0)]) dX2_line_47 rfl (by decide) rfl ?_
  refine z_aload_n 0 dX2_line_48 rfl ?_
  refine z_aload_n 1 dX2_line_49 rfl ?_
  refine z_ldcS 3 rfl dX2_line_50 ?_
  refine z_iconst (v := 1) dX2_line_52 (by decide) ?_
  refine z_bipush (v := 6) dX2_line_53 (by decide) ?_
  refine z_callVx (As := [.ref (zk g 13), .int 1, .int 6]) (rd_numw hT (hWk12.up he12_n_1 (by decide) (by decide)) 3 1 (by decide) (by decide) rfl (by decide) (by decide) 1 6 (by decide) (by decide)) q825 q827 qs9 q113 q828 nm_X2_number hx_15 rfl rfl rfl (Nat.le_of_ble_eq_true rfl) ⟨Nat.le_of_ble_eq_true rfl, Nat.le_of_ble_eq_true rfl⟩ dX2_line_55 rfl rfl (Nat.le_of_ble_eq_true rfl) (Nat.le_of_ble_eq_true rfl) rfl (fun q9 E9 X8 hp9 => by obtain ⟨f9, hf9, hs9, hx9⟩ := hp9; exact ⟨f9, hf9, (by obtain ⟨a8, hs8⟩ := hs9; unfold k_home; rw [he11, hs8]), hx9.tr (hrt12.new hz0n_1)⟩) (fun v_24 X22 hp_25 => ?_)
  obtain ⟨k22, hk22, hlo22, hhi22, rfl, he22, ht22, hw22⟩ := hp_25
  have hWk23 := hw22
  obtain ⟨-, hx23, hks23, ha23, va23, hr23, hva23⟩ := hw22
  have hrt23 := (hrt12.new hz0n_1).tr ht22
  have he23_v := ht22 _ _ (zne hx_17 hx_15 (by unfold rdT; simp)) hx_17
  have he23_n_1 := ht22 _ _ (zne hx_18 hx_15 (by unfold rdT; simp)) hx_18
  have hvU23 := (hvU12.own hz1n_1 he12_n_1 (by decide) (by decide) (by decide)).to hx_15 ht22
  have hst23_s11 := (hkS11.up he12_n_1 (by decide)).to hx_15 (by decide) ht22
  have hpl23 := hT.le ha23
  have hto23 := hT.to ha23
  have hk423 := hT.kd4 ha23
  refine z_st (st' := [.int (nI (k22)), .ref n_1]) rfl ?_
  refine z_putN (X' := (zup X22 n_1 (.inr (7, [.ref s11, .int (nI (k22)), .int 0])))) 1 he23_n_1 rfl in_X7 (by decide) tyX7 tyX7_ok nmX7 q814 rfl (tyX7_ok 1 (by decide)) rfl rfl (Nat.le_of_ble_eq_true rfl) hl_3 dX2_line_58 rfl ?_
  have hx_26 : (zup X22 n_1 (.inr (7, [.ref s11, .int (nI (k22)), .int 0]))) r = some (rdT T (a + 1 + 2) va23 w (some v)) := zup_k (zne hr23 he23_n_1 (by unfold rdT; simp)) hr23
  have hx_27 : (zup X22 n_1 (.inr (7, [.ref s11, .int (nI (k22)), .int 0]))) T.x = some (.inl (zar g 1, 1000, .inl T.t)) := zup_k (zne hx23 he23_n_1 (by simp)) hx23
  have hx_28 : (zup X22 n_1 (.inr (7, [.ref s11, .int (nI (k22)), .int 0]))) v = some (.inr (3, [.ref B.lh, .ref B.lg, .int st, va_rf (fa)])) := zup_k (zne he23_v he23_n_1 (by simp)) he23_v
  have hx_29 : (zup X22 n_1 (.inr (7, [.ref s11, .int (nI (k22)), .int 0]))) n_1 = some (.inr (7, [.ref s11, .int (nI (k22)), .int 0])) := zup_s
  refine z_aload_n 1 dX2_line_61 rfl ?_
  refine z_get (v := .ref v) 7 hx_26 rfl in_X2 (by decide) q175 rfl dX2_line_62 ?_
  refine z_getN (v := .ref B.lh) 0 hx_28 rfl in_X3 (by decide) q231 rfl dX2_line_65 ?_
  refine z_aload_n 0 dX2_line_68 rfl ?_
  have hVW : vU g X0 (zup X22 n_1 (.inr (7, [.ref s11, .int (nI (k22)), .int 0]))) v B vs nh nd hv gv st fa := (hvU23.own hz1n_1 he23_n_1 (by decide) (by decide) (by decide))
  have hrtW : rto X (zup X22 n_1 (.inr (7, [.ref s11, .int (nI (k22)), .int 0]))) r := (hrt23.new hz0n_1)
  have hrwW : rW g (zup X22 n_1 (.inr (7, [.ref s11, .int (nI (k22)), .int 0]))) r T (a + 1 + 2) w (some v) := (hWk23.up he23_n_1 (by decide) (by decide))
  obtain ⟨hv0W, hv00W, hxvW, hlhW, hlgW, hneW, hneeW, hhW, hgW⟩ := id hVW
  obtain ⟨l1, l2, l3, l4, l5, l6, l7, l8, l9⟩ := hlhW
  refine z_callV (As := [.ref n_1]) (t_addL l5 l1 l6 l2 hx_29 rfl q2094 (zne hx_29 l5 (by simp)) l7 l8 l9 (fun q hq => by obtain ⟨a0, nm0, q1, q2, q3, q4, q5⟩ := hhW.1 q hq; exact Or.inr ⟨a0, 7, _, _, q1, q4, rfl, q2094⟩)) q837 q838 q839 q117 q840 nm_J2_add l5 rfl rfl rfl (Nat.le_of_ble_eq_true rfl) ⟨Nat.le_of_ble_eq_true rfl, Nat.le_of_ble_eq_true rfl⟩ dX2_line_69 rfl rfl (Nat.le_of_ble_eq_true rfl) (Nat.le_of_ble_eq_true rfl) (fun v_30 X_31 hp_32 => ?_)
  obtain ⟨rfl, mc', e', c', f', rfl, q1, q2, q3, q4, q5, q6⟩ := hp_32
  refine z_st (st' := [.int 1]) rfl ?_
  refine z_pop dX2_line_72 rfl ?_
  refine z_goto 369 dX2_line_73 (by decide) ?_
  obtain ⟨hz8, hrt8⟩ := (hX0.tr hrtW).add hx_26 l3 l4 q1 (e1 := .inl (zar g 4, c', .inr (.inr (.inr (.inr f'))))) (e2 := .inr (23, [.int mc', .ref e', .int (nI (nh + 1))]))
  exact z_vret dX2_line_369 rfl (Nat.le_of_ble_eq_true rfl) (Nat.le_of_ble_eq_true rfl) ⟨rfl, k22, (by unfold k_home; rw [he11, he22]), hkd11, hf111, hf211, hrt8, hrwW.add l5 l6 q1, _, fun vs' g1 g2 g3 g4 => hVW.addH hl_3 (hX0.back hz0n_1 hr) hz1n_1.1 (by rw [g1, g2]; exact hx_29) (hst23_s11.up he23_n_1 (by decide)) (q1.imp id (fun z => ⟨z, hz8⟩)) q2 q3 (by omega) q5 q6 g3 g4⟩
