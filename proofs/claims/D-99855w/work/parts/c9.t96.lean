/-! THE READER: names that are fresh. Printed by t96.py -/
set_option maxRecDepth 100000
theorem rd_homeU {g : zG} {X : zX} {X0 : zX} {v nh nd : Nat} {B : vB} {vs : Nat → Int32} {hv gv : Nat → Int64} {st : Int32} {fa : Option Nat} {s : Nat} {val : Int64} (h : vU g X0 X v B vs nh nd hv gv st fa) (hs : kS X s g val) : zN g m_X3_home ({ frames := 3, cells := 0, slots := 0, locals := 64 } : Room) [.ref v, .ref s] X (fun rv X' => rv = some (.int (kwf (fun k => decide (hv k = val)) nh 0)) ∧ X' = X) := by
  obtain ⟨h1, h2, h3, h4, h5, h6, h7, h8, h9⟩ := h
  exact rd_home h3 h4.2.2.2.2.1 h4.2.2.2.2.2.1 h4.2.2.2.2.2.2.1 h4.2.2.2.2.2.2.2.2 h8 hs
theorem rd_guestU {g : zG} {X : zX} {X0 : zX} {v nh nd : Nat} {B : vB} {vs : Nat → Int32} {hv gv : Nat → Int64} {st : Int32} {fa : Option Nat} {s : Nat} {val : Int64} (h : vU g X0 X v B vs nh nd hv gv st fa) (hs : kS X s g val) : zN g m_X3_guest ({ frames := 3, cells := 0, slots := 0, locals := 64 } : Room) [.ref v, .ref s] X (fun rv X' => rv = some (.int (kwf (fun k => decide (gv k = val)) nd 0)) ∧ X' = X) := by
  obtain ⟨h1, h2, h3, h4, h5, h6, h7, h8, h9⟩ := h
  exact rd_guest h3 h5.2.2.2.2.1 h5.2.2.2.2.2.1 h5.2.2.2.2.2.2.1 h5.2.2.2.2.2.2.2.2 h9 hs
set_option maxHeartbeats 4000000 in
theorem rd_fresh {g : zG} {X : zX} {r a w : Nat} {T : rTP} {X0 : zX} {v nh nd : Nat} {B : vB} {vs : Nat → Int32} {hv gv : Nat → Int64} {st : Int32} {fa : Option Nat} (hT : rTk T) (hW : rW g X r T a w (some v)) (hX0 : rto X0 X r) (hU0 : vU g X0 X v B vs nh nd hv gv st fa)  : zV g m_X2_fresh ({ frames := 7, cells := 5, slots := 31, locals := 193 } : Room) [.ref r] X (fun rv X' => ∃ s, rv = some (.ref s) ∧ s_isN T.kd T.vl T.wd a 0 = true ∧ kwf (fun k => decide (hv k = (T.vl a))) nh 0 < 0 ∧ kwf (fun k => decide (gv k = (T.vl a))) nd 0 < 0 ∧ X s = none ∧ z0 g ≤ s ∧ kS X' s g (T.vl a) ∧ rto X X' r ∧ rW g X' r T (a + 1) w (some v)) (fun q E X' => ∃ f, ¬ f = 0 ∧ ((s_isN T.kd T.vl T.wd a 0 = false ∧ s_wr T.pl a 0 1 = f) ∨ (s_isN T.kd T.vl T.wd a 0 = true ∧ (0 ≤ kwf (fun k => decide (hv k = (T.vl a))) nh 0 ∨ 0 ≤ kwf (fun k => decide (gv k = (T.vl a))) nd 0) ∧ s_wr T.pl a 0 3 = f)) ∧ rX X r T (some v) f q E X') := by
  refine zV.of (by decide +kernel) (Nat.le_of_ble_eq_true rfl) rfl ?_
  refine z_lv (lv' := [(0, .ref r)]) [0] rfl ?_
  have hn := hT.n
  have hW2 := hW
  obtain ⟨hr0, hx, hks, ha, va, hr, hva⟩ := hW
  have hcn := hT.c
  have hpl := hT.le ha
  have hto := hT.to ha
  have hk4 := hT.kd4 ha
  have hU := hU0
  obtain ⟨hv0, hv00, hxv, hlh, hlg, hlhg, hehg, hhU, hgU⟩ := hU0
  refine z_aload_n 0 dX2_fresh_0 rfl ?_
  refine z_callVx (As := []) (rd_name hT hW2) q624 q626 qs8 q113 q627 nm_X2_name hr rfl rfl rfl (Nat.le_of_ble_eq_true rfl) ⟨Nat.le_of_ble_eq_true rfl, Nat.le_of_ble_eq_true rfl⟩ dX2_fresh_1 rfl rfl (Nat.le_of_ble_eq_true rfl) (Nat.le_of_ble_eq_true rfl) rfl (fun q9 E9 X8 hp9 => by obtain ⟨f9, hf9, hs9, hx9⟩ := hp9; exact ⟨f9, hf9, Or.inl hs9, hx9.tr rto.rf⟩) (fun v_4 X_1 hp_5 => ?_)
  obtain ⟨s_2, rfl, hi_2, hn_2, hzs_2, hkS_2, ht_2, hw_2⟩ := hp_5
  have hWk3 := hw_2
  obtain ⟨-, hx3, hks3, ha3, va3, hr3, hva3⟩ := hw_2
  have hrt3 := rto.rf.tr ht_2
  have he3_v := ht_2 _ _ (fun z => by have h9 := hxv; rw [z, hr] at h9; cases h9) hxv
  have hvU3 := hU.to hr ht_2
  have hpl3 := hT.le ha3
  have hto3 := hT.to ha3
  have hk43 := hT.kd4 ha3
  refine z_st (st' := [.ref s_2]) rfl ?_
  refine z_astore_n (lv' := [(1, .ref s_2), (0, .ref r)]) dX2_fresh_4 rfl (by decide) rfl ?_
  refine z_aload_n 1 dX2_fresh_5 rfl ?_
  refine z_get (v := .ref v) 7 hr3 rfl in_X2 (by decide) q175 rfl dX2_fresh_6 ?_
  refine z_aload_n 0 dX2_fresh_9 rfl ?_
  refine z_callV (As := [.ref s_2]) (rd_homeU hvU3 hkS_2) q787 q788 q789 q114 q790 nm_X3_home he3_v rfl rfl rfl (Nat.le_of_ble_eq_true rfl) ⟨Nat.le_of_ble_eq_true rfl, Nat.le_of_ble_eq_true rfl⟩ dX2_fresh_10 rfl rfl (Nat.le_of_ble_eq_true rfl) (Nat.le_of_ble_eq_true rfl) (fun v_6 X_7 hp_8 => ?_)
  obtain ⟨rfl, h7⟩ := hp_8
  replace h7 := h7.symm
  subst h7
  refine z_st (st' := [.int (kwf (fun k => decide (hv k = (T.vl a))) nh 0)]) rfl ?_
  refine z_if_ge 27 dX2_fresh_13 (by decide) (fun c_9 => ?_) (fun c_9 => ?_)
  · -- 0 ≤ kwf (fun k => decide (hv k = (T.vl a))) nh 0
    have c_9' := Int32.not_lt.mpr c_9
    refine z_aload_n 1 dX2_fresh_27 rfl ?_
    refine z_iconst (v := 3) dX2_fresh_28 (by decide) ?_
    refine z_callV (As := [.int 3]) (rd_wrong hr3 3) q540 q542 qs4 q113 q543 nm_X2_wrong hr3 rfl rfl rfl (Nat.le_of_ble_eq_true rfl) ⟨Nat.le_of_ble_eq_true rfl, Nat.le_of_ble_eq_true rfl⟩ dX2_fresh_29 rfl rfl (Nat.le_of_ble_eq_true rfl) (Nat.le_of_ble_eq_true rfl) (fun v_18 X_19 hp_20 => ?_)
    obtain ⟨q_10, rfl, h7, hnq_10, hzq_10⟩ := hp_20
    subst h7
    have ne_11 : r ≠ q_10 := fun q9 => by rw [← q9, hr3] at hnq_10; cases hnq_10
    have ne_12 : T.x ≠ q_10 := fun q9 => by rw [← q9, hx3] at hnq_10; cases hnq_10
    have ne_13 : v ≠ q_10 := fun q9 => by rw [← q9, he3_v] at hnq_10; cases hnq_10
    have hx_14 : (zup X_1 q_10 (.inr (6, [.null, .null, .null, .null, .null, .int 0, .int (nI ((16 * T.pl a + 3)))]))) r = some (rdT T a va3 w (some v)) := zup_k ne_11 hr3
    have hx_15 : (zup X_1 q_10 (.inr (6, [.null, .null, .null, .null, .null, .int 0, .int (nI ((16 * T.pl a + 3)))]))) T.x = some (.inl (zar g 1, 1000, .inl T.t)) := zup_k ne_12 hx3
    have hx_16 : (zup X_1 q_10 (.inr (6, [.null, .null, .null, .null, .null, .int 0, .int (nI ((16 * T.pl a + 3)))]))) v = some (.inr (3, [.ref B.lh, .ref B.lg, .int st, va_rf (fa)])) := zup_k ne_13 he3_v
    have hx_17 : (zup X_1 q_10 (.inr (6, [.null, .null, .null, .null, .null, .int 0, .int (nI ((16 * T.pl a + 3)))]))) q_10 = some (.inr (6, [.null, .null, .null, .null, .null, .int 0, .int (nI ((16 * T.pl a + 3)))])) := zup_s
    refine z_st (st' := [.ref q_10]) rfl ?_
    exact z_athrow hx_17 rfl dX2_fresh_32 rfl (Nat.le_of_ble_eq_true rfl) (Nat.le_of_ble_eq_true rfl) ⟨(16 * T.pl a + 3), (by omega), (Or.inr ⟨hi_2, Or.inl c_9, (by rw [s_wr_e])⟩), rfl, (hrt3.nw hnq_10), ⟨_, _, _, hx_14⟩, hx_17⟩
  · -- ¬ 0 ≤ kwf (fun k => decide (hv k = (T.vl a))) nh 0
    have c_9' := Int32.not_le.mp c_9
    refine z_aload_n 1 dX2_fresh_16 rfl ?_
    refine z_get (v := .ref v) 7 hr3 rfl in_X2 (by decide) q175 rfl dX2_fresh_17 ?_
    refine z_aload_n 0 dX2_fresh_20 rfl ?_
    refine z_callV (As := [.ref s_2]) (rd_guestU hvU3 hkS_2) q802 q803 q804 q114 q805 nm_X3_guest he3_v rfl rfl rfl (Nat.le_of_ble_eq_true rfl) ⟨Nat.le_of_ble_eq_true rfl, Nat.le_of_ble_eq_true rfl⟩ dX2_fresh_21 rfl rfl (Nat.le_of_ble_eq_true rfl) (Nat.le_of_ble_eq_true rfl) (fun v_21 X_22 hp_23 => ?_)
    obtain ⟨rfl, h7⟩ := hp_23
    replace h7 := h7.symm
    subst h7
    refine z_st (st' := [.int (kwf (fun k => decide (gv k = (T.vl a))) nd 0)]) rfl ?_
    refine z_if_lt 33 dX2_fresh_24 (by decide) (fun c_24 => ?_) (fun c_24 => ?_)
    · -- kwf (fun k => decide (gv k = (T.vl a))) nd 0 < 0
      have c_24' := Int32.not_le.mpr c_24
      have hal := (hT.lt ha (by rw [(s_isN_k hi_2).2]; decide)).1
      refine z_aload_n 1 dX2_fresh_33 rfl ?_
      refine z_callV (As := []) (rd_nxt hT hWk3 (by omega)) q408 q410 qs1 q113 q411 nm_X2_next hr3 rfl rfl rfl (Nat.le_of_ble_eq_true rfl) ⟨Nat.le_of_ble_eq_true rfl, Nat.le_of_ble_eq_true rfl⟩ dX2_fresh_34 rfl rfl (Nat.le_of_ble_eq_true rfl) (Nat.le_of_ble_eq_true rfl) (fun v_28 X_25 hp_29 => ?_)
      obtain ⟨rfl, ht_26, hw_26⟩ := hp_29
      have hWk27 := hw_26
      obtain ⟨-, hx27, hks27, ha27, va27, hr27, hva27⟩ := hw_26
      have hrt27 := hrt3.tr ht_26
      have he27_v := ht_26 _ _ (fun z => by have h9 := he3_v; rw [z, hr3] at h9; cases h9) he3_v
      have hvU27 := hvU3.to hr3 ht_26
      have hst27_s_2 := hkS_2.to hr3 (by decide) ht_26
      have hpl27 := hT.le ha27
      have hto27 := hT.to ha27
      have hk427 := hT.kd4 ha27
      refine z_st (st' := []) rfl ?_
      refine z_aload_n 0 dX2_fresh_37 rfl ?_
      exact z_aret dX2_fresh_38 rfl (Or.inl ⟨_, rfl⟩) (Or.inr ⟨_, rfl⟩) (Nat.le_of_ble_eq_true rfl) (Nat.le_of_ble_eq_true rfl) ⟨s_2, rfl, hi_2, Int32.not_le.mp c_9, c_24, hn_2, hzs_2, hst27_s_2, hrt27, hWk27⟩
    · -- ¬ kwf (fun k => decide (gv k = (T.vl a))) nd 0 < 0
      have c_24' := Int32.not_lt.mp c_24
      refine z_aload_n 1 dX2_fresh_27 rfl ?_
      refine z_iconst (v := 3) dX2_fresh_28 (by decide) ?_
      refine z_callV (As := [.int 3]) (rd_wrong hr3 3) q540 q542 qs4 q113 q543 nm_X2_wrong hr3 rfl rfl rfl (Nat.le_of_ble_eq_true rfl) ⟨Nat.le_of_ble_eq_true rfl, Nat.le_of_ble_eq_true rfl⟩ dX2_fresh_29 rfl rfl (Nat.le_of_ble_eq_true rfl) (Nat.le_of_ble_eq_true rfl) (fun v_38 X_39 hp_40 => ?_)
      obtain ⟨q_30, rfl, h7, hnq_30, hzq_30⟩ := hp_40
      subst h7
      have ne_31 : r ≠ q_30 := fun q9 => by rw [← q9, hr3] at hnq_30; cases hnq_30
      have ne_32 : T.x ≠ q_30 := fun q9 => by rw [← q9, hx3] at hnq_30; cases hnq_30
      have ne_33 : v ≠ q_30 := fun q9 => by rw [← q9, he3_v] at hnq_30; cases hnq_30
      have hx_34 : (zup X_1 q_30 (.inr (6, [.null, .null, .null, .null, .null, .int 0, .int (nI ((16 * T.pl a + 3)))]))) r = some (rdT T a va3 w (some v)) := zup_k ne_31 hr3
      have hx_35 : (zup X_1 q_30 (.inr (6, [.null, .null, .null, .null, .null, .int 0, .int (nI ((16 * T.pl a + 3)))]))) T.x = some (.inl (zar g 1, 1000, .inl T.t)) := zup_k ne_32 hx3
      have hx_36 : (zup X_1 q_30 (.inr (6, [.null, .null, .null, .null, .null, .int 0, .int (nI ((16 * T.pl a + 3)))]))) v = some (.inr (3, [.ref B.lh, .ref B.lg, .int st, va_rf (fa)])) := zup_k ne_33 he3_v
      have hx_37 : (zup X_1 q_30 (.inr (6, [.null, .null, .null, .null, .null, .int 0, .int (nI ((16 * T.pl a + 3)))]))) q_30 = some (.inr (6, [.null, .null, .null, .null, .null, .int 0, .int (nI ((16 * T.pl a + 3)))])) := zup_s
      refine z_st (st' := [.ref q_30]) rfl ?_
      exact z_athrow hx_37 rfl dX2_fresh_32 rfl (Nat.le_of_ble_eq_true rfl) (Nat.le_of_ble_eq_true rfl) ⟨(16 * T.pl a + 3), (by omega), (Or.inr ⟨hi_2, Or.inr (Int32.not_lt.mp c_24), (by rw [s_wr_e])⟩), rfl, (hrt3.nw hnq_30), ⟨_, _, _, hx_34⟩, hx_37⟩
