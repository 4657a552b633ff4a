/-! THE READER: a name. Printed by t94.py -/
set_option maxRecDepth 100000
theorem kup_s {f : Nat → Int32} {k : Nat} {v : Int32} : upd f k v k = v := by unfold upd; simp
theorem kup_n {f : Nat → Int32} {k j : Nat} {v : Int32} (h : ¬ j = k) : upd f k v j = f j := by unfold upd; simp [h]
/-- a text made, by its value -/
def kS (X : zX) (s : Nat) (g : zG) (v : Int64) : Prop := ∃ (b m : Nat) (f : Nat → Int32) (hs hz : Int32), X s = some (.inr (24, [.ref b, .int 0, .int hs, .int hz])) ∧ X b = some (.inl (zar g 1, m, .inl f)) ∧ m ≤ 8 ∧ (∀ j, j < m → s_le (f j) = true) ∧ v = s_w37 f 0 m
theorem kS.to {X Y : zX} {s r : Nat} {g : zG} {v : Int64} {ci : Nat} {fs : List Value} (h : kS X s g v) (hr : X r = some (.inr (ci, fs))) (hc : ci ≠ 24) (ht : rto X Y r) : kS Y s g v := by
  obtain ⟨b, m, f, hs, hz, h1, h2, h3⟩ := h
  refine ⟨b, m, f, hs, hz, ht _ _ (fun z => ?_) h1, ht _ _ (fun z => ?_) h2, h3⟩
  · rw [z, hr] at h1
    cases h1
    exact hc rfl
  · rw [z, hr] at h2
    cases h2
theorem rW.nw {g : zG} {X : zX} {r a w q : Nat} {vo : Option Nat} {T : rTP} {e : va_E} (h : rW g X r T a w vo) (hq : X q = none) : rW g (zup X q e) r T a w vo := by
  obtain ⟨h1, hx, hk, h2, va, hr, h3⟩ := h
  have n9 : ∀ {b : Nat} {f : va_E}, X b = some f → b ≠ q := fun hb z => by rw [z, hq] at hb; cases hb
  exact ⟨h1, zup_k (n9 hx) hx, hk.mono (fun b f hb => zup_k (n9 hb) hb), h2, va, zup_k (n9 hr) hr, h3⟩
theorem zup4 {X : zX} {a b : Nat} {e1 e2 e3 e4 : va_E} (h : a ≠ b) : zup (zup (zup (zup X a e1) b e2) a e3) b e4 = zup (zup X a e3) b e4 := by
  funext q
  by_cases h1 : q = b
  · rw [h1, zup_s, zup_s]
  · by_cases h2 : q = a
    · rw [h2, zup_n h, zup_s, zup_n h, zup_s]
    · rw [zup_n h1, zup_n h2, zup_n h1, zup_n h2, zup_n h1, zup_n h2]
theorem s_w37_e {f h : Nat → Int32} {q r : Nat} : ∀ m, (∀ j, j < m → f (q + j) = h (r + j)) → s_w37 f q m = s_w37 h r m
  | 0, _ => rfl
  | m + 1, e => by
    unfold s_w37
    rw [s_w37_e m (fun j hj => e j (by omega)), e m (by omega)]
theorem k_i2c8 : ∀ x, x < 128 → ((nI x).toUInt32 % 65536).toInt32 = nI x := by decide +kernel
set_option maxHeartbeats 4000000 in
theorem rd_name {g : zG} {X : zX} {r a w : Nat} {vo : Option Nat} {T : rTP} (hT : rTk T) (hW : rW g X r T a w vo)  : zV g m_X2_name ({ frames := 6, cells := 4, slots := 24, locals := 171 } : Room) [.ref r] X (fun rv X' => ∃ s, rv = some (.ref s) ∧ s_isN T.kd T.vl T.wd a 0 = true ∧ X s = none ∧ z0 g ≤ s ∧ kS X' s g (T.vl a) ∧ rto X X' r ∧ rW g X' r T a w vo) (fun q E X' => ∃ f, ¬ f = 0 ∧ (s_isN T.kd T.vl T.wd a 0 = false ∧ s_wr T.pl a 0 1 = f) ∧ rX X r T vo f q E X') := by
  refine zV.of (by decide +kernel) (Nat.le_of_ble_eq_true rfl) rfl ?_
  refine z_lv (lv' := [(0, .ref r)]) [0] rfl ?_
  have hn := hT.n
  have hW2 := hW
  obtain ⟨hr0, hx, hks, ha, va, hr, hva⟩ := hW
  have hcn := hT.c
  have hpl := hT.le ha
  have hto := hT.to ha
  have hk4 := hT.kd4 ha
  refine z_aload_n 0 dX2_name_0 rfl ?_
  refine z_get (v := .int (nI ((T.kd a)))) 3 hr rfl in_X2 (by decide) q171 rfl dX2_name_1 ?_
  refine z_iconst (v := 1) dX2_name_4 (by decide) ?_
  refine z_icmp_neN (a := (T.kd a)) (b := 1) 17 (by omega) (by omega) dX2_name_5 (by decide) (fun c_1 => ?_) (fun c_1 => ?_)
  · -- (T.kd a) ≠ 1
    refine z_aload_n 0 dX2_name_17 rfl ?_
    refine z_iconst (v := 1) dX2_name_18 (by decide) ?_
    refine z_callV (As := [.int 1]) (rd_wrong hr 1) q540 q542 qs4 q113 q543 nm_X2_wrong hr rfl rfl rfl (Nat.le_of_ble_eq_true rfl) ⟨Nat.le_of_ble_eq_true rfl, Nat.le_of_ble_eq_true rfl⟩ dX2_name_19 rfl rfl (Nat.le_of_ble_eq_true rfl) (Nat.le_of_ble_eq_true rfl) (fun v_8 X_9 hp_10 => ?_)
    obtain ⟨q_2, rfl, h7, hnq_2, hzq_2⟩ := hp_10
    subst h7
    have ne_3 : r ≠ q_2 := fun q9 => by rw [← q9, hr] at hnq_2; cases hnq_2
    have ne_4 : T.x ≠ q_2 := fun q9 => by rw [← q9, hx] at hnq_2; cases hnq_2
    have hx_5 : (zup X q_2 (.inr (6, [.null, .null, .null, .null, .null, .int 0, .int (nI ((16 * T.pl a + 1)))]))) r = some (rdT T a va w vo) := zup_k ne_3 hr
    have hx_6 : (zup X q_2 (.inr (6, [.null, .null, .null, .null, .null, .int 0, .int (nI ((16 * T.pl a + 1)))]))) T.x = some (.inl (zar g 1, 1000, .inl T.t)) := zup_k ne_4 hx
    have hx_7 : (zup X q_2 (.inr (6, [.null, .null, .null, .null, .null, .int 0, .int (nI ((16 * T.pl a + 1)))]))) q_2 = some (.inr (6, [.null, .null, .null, .null, .null, .int 0, .int (nI ((16 * T.pl a + 1)))])) := zup_s
    refine z_st (st' := [.ref q_2]) rfl ?_
    exact z_athrow hx_7 rfl dX2_name_22 rfl (Nat.le_of_ble_eq_true rfl) (Nat.le_of_ble_eq_true rfl) ⟨(16 * T.pl a + 1), (by omega), ⟨(by unfold s_isN; rw [decide_eq_false c_1]; rfl), (by rw [s_wr_e])⟩, rfl, (rto.rf.nw hnq_2), ⟨_, _, _, hx_5⟩, hx_7⟩
  · -- (T.kd a) = 1
    refine z_aload_n 0 dX2_name_8 rfl ?_
    refine z_ldcS 2 rfl dX2_name_9 ?_
    refine z_callV (As := [.ref (zk g 12)]) (rd_wh hT hW2 2 0 21 (by decide) (by decide) rfl (by decide) (by decide)) q516 q518 qs3 q113 q519 nm_X2_which hr rfl rfl rfl (Nat.le_of_ble_eq_true rfl) ⟨Nat.le_of_ble_eq_true rfl, Nat.le_of_ble_eq_true rfl⟩ dX2_name_11 rfl rfl (Nat.le_of_ble_eq_true rfl) (Nat.le_of_ble_eq_true rfl) (fun v_11 X_12 hp_13 => ?_)
    obtain ⟨rfl, h7⟩ := hp_13
    replace h7 := h7.symm
    subst h7
    refine z_st (st' := [.int (s_wh T.kd T.vl T.wd a 0 0 21)]) rfl ?_
    refine z_if_lt 23 dX2_name_14 (by decide) (fun c_14 => ?_) (fun c_14 => ?_)
    · -- s_wh T.kd T.vl T.wd a 0 0 21 < 0
      have c_14' := Int32.not_le.mpr c_14
      obtain ⟨hw1, hw2, hw3, hw4⟩ := hT.wr ha (by omega)
      have hisn : s_isN T.kd T.vl T.wd a 0 = true := by unfold s_isN; rw [decide_eq_true (show T.kd a = 1 by omega), decide_eq_true c_14]; rfl
      refine z_new (ci := 25) (fs := [.null, .int 0, .int 0, .int 0]) rfl in_J14 tyJ14 tyJ14_ok q629 q630 q133 zd_J14 dX2_name_23 rfl rfl (Nat.le_of_ble_eq_true rfl) (Nat.le_of_ble_eq_true rfl) (fun n_15 hn_16 hl_17 => ?_)
      have ne_18 : r ≠ n_15 := fun q9 => by rw [← q9, hr] at hn_16; cases hn_16
      have ne_19 : T.x ≠ n_15 := fun q9 => by rw [← q9, hx] at hn_16; cases hn_16
      have hx_20 : (zup X n_15 (.inr (25, [.null, .int 0, .int 0, .int 0]))) r = some (rdT T a va w vo) := zup_k ne_18 hr
      have hx_21 : (zup X n_15 (.inr (25, [.null, .int 0, .int 0, .int 0]))) T.x = some (.inl (zar g 1, 1000, .inl T.t)) := zup_k ne_19 hx
      have hx_22 : (zup X n_15 (.inr (25, [.null, .int 0, .int 0, .int 0]))) n_15 = some (.inr (25, [.null, .int 0, .int 0, .int 0])) := zup_s
      refine z_dup dX2_name_26 rfl ?_
      refine z_bipush (v := 8) dX2_name_27 (by decide) ?_
      refine z_callI (As := [.int 8]) (t_sbI14 hx_22 hl_17) q631 q632 q133 q633 rfl rfl nm_J14_init rfl (Nat.le_of_ble_eq_true rfl) ⟨Nat.le_of_ble_eq_true rfl, Nat.le_of_ble_eq_true rfl⟩ dX2_name_29 rfl rfl (Nat.le_of_ble_eq_true rfl) (Nat.le_of_ble_eq_true rfl) (fun v_23 X_24 hp_25 => ?_)
      obtain ⟨rfl, b9, rfl, hb9, hz9⟩ := hp_25
      have hbo : b9 ≠ n_15 := fun z => by rw [z, zup_s] at hb9; cases hb9
      have hb0 : X b9 = none := by rw [← hb9]; exact (zup_n hbo).symm
      have hro : r ≠ n_15 := fun z => by rw [z, hn_16] at hr; cases hr
      have hxo : T.x ≠ n_15 := fun z => by rw [z, hn_16] at hx; cases hx
      have hrb : r ≠ b9 := fun z => by rw [z, hb0] at hr; cases hr
      have hxb : T.x ≠ b9 := fun z => by rw [z, hb0] at hx; cases hx
      refine z_X (X' := (zup (zup X b9 (.inl (zar g 1, 8, .inl (fun _ => 0)))) n_15 (.inr (25, [.ref b9, .int 0, .int 0, .int (nI (0))])))) (zup_mid9 hbo) ?_
      refine z_st (st' := [.ref n_15]) rfl ?_
      refine z_astore_n (lv' := [(1, .ref n_15), (0, .ref r)]) dX2_name_32 rfl (by decide) rfl ?_
      refine z_aload_n 1 dX2_name_33 rfl ?_
      refine z_get (v := .int (nI ((T.pl a)))) 4 (zup_k hro (zup_k hrb hr)) rfl in_X2 (by decide) q172 rfl dX2_name_34 ?_
      refine z_istore_n (lv' := [(2, .int (nI ((T.pl a)))), (1, .ref n_15), (0, .ref r)]) dX2_name_37 rfl (by decide) rfl ?_
      have loop_29 : ∀ (q_26 : Nat) (q_30 : Nat) (f_31 : Nat → Int32), (q_30 ≤ (k_to T.t T.n (T.pl a) - T.pl a)) → ((∀ j, j < q_30 → f_31 j = T.t (T.pl a + j)) ∧ ∀ j, j < 8 → fits .byte (.int (f_31 j)) = true) → (k_to T.t T.n (T.pl a) - T.pl a) - q_30 < q_26 → zZ g m_X2_name (fun rv X' => ∃ s, rv = some (.ref s) ∧ s_isN T.kd T.vl T.wd a 0 = true ∧ X s = none ∧ z0 g ≤ s ∧ kS X' s g (T.vl a) ∧ rto X X' r ∧ rW g X' r T a w vo, fun q E X' => ∃ f, ¬ f = 0 ∧ (s_isN T.kd T.vl T.wd a 0 = false ∧ s_wr T.pl a 0 1 = f) ∧ rX X r T vo f q E X', ({ frames := 6, cells := 4, slots := 24, locals := 171 } : Room)) 2 12 (zup (zup X b9 (.inl (zar g 1, 8, .inl f_31))) n_15 (.inr (25, [.ref b9, .int 0, .int 0, .int (nI (q_30))]))) 38 [(0, .ref r), (1, .ref n_15), (2, .int (nI ((T.pl a) + q_30)))] [] := by
        intro q_26
        induction q_26 with
        | zero => intro q_30 f_31 h1_32 hf_33 hm_28; exact absurd hm_28 (Nat.not_lt_zero _)
        | succ q_26 ih_27 =>
          intro q_30 f_31 h1_32 hf_33 hm_28
          refine z_iload_n 2 dX2_name_38 rfl ?_
          refine z_aload_n 0 dX2_name_39 rfl ?_
          refine z_get (v := .int (nI ((k_to T.t T.n (T.pl a))))) 2 (zup_k hro (zup_k hrb hr)) rfl in_X2 (by decide) q170 rfl dX2_name_40 ?_
          refine z_icmp_geN (a := (T.pl a) + q_30) (b := (k_to T.t T.n (T.pl a))) 64 (by omega) (by omega) dX2_name_43 (by decide) (fun c_34 => ?_) (fun c_34 => ?_)
          · -- (k_to T.t T.n (T.pl a)) ≤ (T.pl a) + q_30
            refine z_aload_n 1 dX2_name_64 rfl ?_
            refine z_callV (As := []) (t_sbT zup_s hl_17 (zup_k hbo zup_s) hz9 (show q_30 ≤ 8 by omega) hf_33.2) q730 q731 q732 q133 q733 nm_J14_toString zup_s rfl rfl rfl (Nat.le_of_ble_eq_true rfl) ⟨Nat.le_of_ble_eq_true rfl, Nat.le_of_ble_eq_true rfl⟩ dX2_name_65 rfl rfl (Nat.le_of_ble_eq_true rfl) (Nat.le_of_ble_eq_true rfl) (fun v_35 X_36 hp_37 => ?_)
            obtain ⟨s9, c9, f9, rfl, rfl, hc9, hzc9, hs9, hzs9, hsc9, hf9⟩ := hp_37
            refine z_st (st' := [.ref s9]) rfl ?_
            have hs9c : ∀ e : va_E, zup (zup (zup X b9 (.inl (zar g 1, 8, .inl f_31))) n_15 (.inr (25, [.ref b9, .int 0, .int 0, .int (nI (q_30))]))) c9 e s9 = none := fun e => (zup_n hsc9).trans hs9
            exact z_aret dX2_name_68 rfl (Or.inl ⟨_, rfl⟩) (Or.inr ⟨_, rfl⟩) (Nat.le_of_ble_eq_true rfl) (Nat.le_of_ble_eq_true rfl) ⟨s9, rfl, hisn, (by have h9 := hs9; rw [zup_n (fun z => by rw [z, zup_s] at hs9; cases hs9), zup_n (fun z => by rw [z, zup_k hbo zup_s] at hs9; cases hs9)] at h9; exact h9), hzs9, ⟨c9, q_30, f9, 0, 0, zup_s, zup_k (Ne.symm hsc9) zup_s, (by omega), (fun j hj => by rw [hf9 j hj, hf_33.1 j hj]; exact hw4 j (by omega)), (by rw [hw1, show (k_to T.t T.n (T.pl a) - T.pl a) = q_30 by omega]; exact s_w37_e _ (fun j hj => by rw [Nat.zero_add, hf9 j hj, hf_33.1 j hj]))⟩, ((((rto.rf.nw hb0).nw ((zup_n (Ne.symm hbo)).trans hn_16)).nw hc9).nw (hs9c _)), ((((hW2.nw hb0).nw ((zup_n (Ne.symm hbo)).trans hn_16)).nw hc9).nw (hs9c _))⟩
          · -- (T.pl a) + q_30 < (k_to T.t T.n (T.pl a))
            obtain ⟨hc1, hc2⟩ := k_at hT.1 (show T.pl a + q_30 < T.n by omega)
            refine z_aload_n 1 dX2_name_46 rfl ?_
            refine z_aload_n 0 dX2_name_47 rfl ?_
            refine z_get (v := .ref T.x) 0 (zup_k hro (zup_k hrb hr)) rfl in_X2 (by decide) q168 rfl dX2_name_48 ?_
            refine z_iload_n 2 dX2_name_51 rfl ?_
            refine z_bald ((T.pl a) + q_30) (zup_k hxo (zup_k hxb hx)) rfl (by omega) (by omega) dX2_name_52 ?_
            refine z_eq (y := nI ((T.c (T.pl a + q_30)))) hc1 ?_
            refine z_i2c (v := ((nI ((T.c (T.pl a + q_30)))).toUInt32 % 65536).toInt32) dX2_name_53 rfl ?_
            refine z_eq (y := nI ((T.c (T.pl a + q_30)))) (k_i2c8 _ hc2) ?_
            refine z_callV (As := [.int (nI ((T.c (T.pl a + q_30))))]) (t_sbA14 zup_s hl_17 (zup_k hbo zup_s) hz9 (show q_30 < 8 by omega) (T.c (T.pl a + q_30)) hc2) q659 q660 q661 q133 q662 nm_J14_append zup_s rfl rfl rfl (Nat.le_of_ble_eq_true rfl) ⟨Nat.le_of_ble_eq_true rfl, Nat.le_of_ble_eq_true rfl⟩ dX2_name_54 rfl rfl (Nat.le_of_ble_eq_true rfl) (Nat.le_of_ble_eq_true rfl) (fun v_38 X_39 hp_40 => ?_)
            obtain ⟨rfl, h7⟩ := hp_40
            replace h7 := h7.symm
            subst h7
            refine z_X (X' := (zup (zup X b9 (.inl (zar g 1, 8, .inl (upd f_31 q_30 (nI (T.c (T.pl a + q_30))))))) n_15 (.inr (25, [.ref b9, .int 0, .int 0, .int (nI (q_30 + 1))])))) (zup4 hbo) ?_
            refine z_st (st' := [.ref n_15]) rfl ?_
            refine z_pop dX2_name_57 rfl ?_
            refine z_iinc (v := nI ((T.pl a) + q_30 + 1)) (lv' := [(2, .int (nI ((T.pl a) + q_30 + 1))), (0, .ref r), (1, .ref n_15)]) 2 dX2_name_58 rfl (nI_1 _) (by decide) rfl ?_
            refine z_goto 38 dX2_name_61 (by decide) ?_
            have f_41 : nI ((T.pl a) + q_30 + 1) = nI ((T.pl a) + (q_30 + 1)) := congrArg nI (by omega)
            refine z_lv (lv' := [(0, .ref r), (1, .ref n_15), (2, .int (nI ((T.pl a) + (q_30 + 1))))]) [1, 2, 0] (by rw [← f_41]; rfl) ?_
            refine z_X (X' := (zup (zup X b9 (.inl (zar g 1, 8, .inl (upd f_31 q_30 (nI (T.c (T.pl a + q_30))))))) n_15 (.inr (25, [.ref b9, .int 0, .int 0, .int (nI ((q_30 + 1)))])))) (by rfl) ?_
            exact ih_27 (q_30 + 1) (upd f_31 q_30 (nI (T.c (T.pl a + q_30)))) (by omega) ⟨fun j hj => by by_cases e : j = q_30; (· rw [e]; exact (kup_s).trans hc1.symm); exact (kup_n e).trans (hf_33.1 j (by omega)), fun j hj => by by_cases e : j = q_30; (· rw [e, kup_s]; exact (s_by128 _ hc2).2.2); rw [kup_n e]; exact hf_33.2 j hj⟩ (by omega)
      refine z_lv (lv' := [(0, .ref r), (1, .ref n_15), (2, .int (nI ((T.pl a))))]) [2, 1, 0] rfl ?_
      exact loop_29 ((k_to T.t T.n (T.pl a) - T.pl a) - 0 + 1) 0 (fun _ => 0) (Nat.zero_le _) ⟨fun j hj => absurd hj (Nat.not_lt_zero j), fun j hj => by decide⟩ (Nat.lt_succ_self _)
    · -- ¬ s_wh T.kd T.vl T.wd a 0 0 21 < 0
      have c_14' := Int32.not_lt.mp c_14
      refine z_aload_n 0 dX2_name_17 rfl ?_
      refine z_iconst (v := 1) dX2_name_18 (by decide) ?_
      refine z_callV (As := [.int 1]) (rd_wrong hr 1) q540 q542 qs4 q113 q543 nm_X2_wrong hr rfl rfl rfl (Nat.le_of_ble_eq_true rfl) ⟨Nat.le_of_ble_eq_true rfl, Nat.le_of_ble_eq_true rfl⟩ dX2_name_19 rfl rfl (Nat.le_of_ble_eq_true rfl) (Nat.le_of_ble_eq_true rfl) (fun v_48 X_49 hp_50 => ?_)
      obtain ⟨q_42, rfl, h7, hnq_42, hzq_42⟩ := hp_50
      subst h7
      have ne_43 : r ≠ q_42 := fun q9 => by rw [← q9, hr] at hnq_42; cases hnq_42
      have ne_44 : T.x ≠ q_42 := fun q9 => by rw [← q9, hx] at hnq_42; cases hnq_42
      have hx_45 : (zup X q_42 (.inr (6, [.null, .null, .null, .null, .null, .int 0, .int (nI ((16 * T.pl a + 1)))]))) r = some (rdT T a va w vo) := zup_k ne_43 hr
      have hx_46 : (zup X q_42 (.inr (6, [.null, .null, .null, .null, .null, .int 0, .int (nI ((16 * T.pl a + 1)))]))) T.x = some (.inl (zar g 1, 1000, .inl T.t)) := zup_k ne_44 hx
      have hx_47 : (zup X q_42 (.inr (6, [.null, .null, .null, .null, .null, .int 0, .int (nI ((16 * T.pl a + 1)))]))) q_42 = some (.inr (6, [.null, .null, .null, .null, .null, .int 0, .int (nI ((16 * T.pl a + 1)))])) := zup_s
      refine z_st (st' := [.ref q_42]) rfl ?_
      exact z_athrow hx_47 rfl dX2_name_22 rfl (Nat.le_of_ble_eq_true rfl) (Nat.le_of_ble_eq_true rfl) ⟨(16 * T.pl a + 1), (by omega), ⟨(by unfold s_isN; rw [decide_eq_false c_14, Bool.and_false, Bool.and_false]), (by rw [s_wr_e])⟩, rfl, (rto.rf.nw hnq_42), ⟨_, _, _, hx_45⟩, hx_47⟩
