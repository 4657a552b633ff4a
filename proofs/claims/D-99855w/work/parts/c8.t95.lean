/-! NAMES TOLD: whose. Printed by t95.py -/
set_option maxRecDepth 100000
set_option maxHeartbeats 4000000 in
theorem rd_home {g : zG} {X : zX} {v lh lg e c n : Nat} {mc : Int32} {st : Value} {fa : Value} {f : Nat → Option Nat} {X0 : zX} {vs : Nat → Int32} {hv : Nat → Int64} {s : Nat} {val : Int64} (hxv : X v = some (.inr (3, [.ref lh, .ref lg, st, fa]))) (hl : X lh = some (.inr (23, [.int mc, .ref e, .int (nI n)]))) (he : X e = some (.inl (zar g 4, c, .inr (.inr (.inr (.inr f)))))) (hnc : n ≤ c) (hc : c ≤ 60) (hh : hU g X0 X n f vs hv) (hs : kS X s g val) : zN g m_X3_home ({ frames := 3, cells := 0, slots := 0, locals := 64 } : Room) [.ref v, .ref s] X (fun rv X' => rv = some (.int (kwf (fun k => decide (hv k = val)) n 0)) ∧ X' = X) := by
  refine zN.of (by decide +kernel) (Nat.le_of_ble_eq_true rfl) rfl ?_
  refine z_lv (lv' := [(0, .ref v), (1, .ref s)]) [0, 1] rfl ?_
  obtain ⟨sb, sm, sf, hs1, hz1, h1, h2, h3, h4, h5⟩ := hs
  refine z_iconst (v := 0) dX3_home_0 (by decide) ?_
  refine z_istore_n (lv' := [(2, .int 0), (0, .ref v), (1, .ref s)]) dX3_home_1 rfl (by decide) rfl ?_
  have loop_4 : ∀ (q_1 : Nat) (k_5 : Nat), (k_5 ≤ n) → (kwf (fun k => decide (hv k = val)) (n - k_5) k_5 = kwf (fun k => decide (hv k = val)) n 0) → n - k_5 < q_1 → zZ g m_X3_home (fun rv X' => rv = some (.int (kwf (fun k => decide (hv k = val)) n 0)) ∧ X' = X, zno, ({ frames := 3, cells := 0, slots := 0, locals := 64 } : Room)) 0 0 X 2 [(0, .ref v), (1, .ref s), (2, .int (nI (k_5)))] [] := by
    intro q_1
    induction q_1 with
    | zero => intro k_5 h1_6 h2_7 hm_3; exact absurd hm_3 (Nat.not_lt_zero _)
    | succ q_1 ih_2 =>
      intro k_5 h1_6 h2_7 hm_3
      refine z_iload_n 2 dX3_home_2 rfl ?_
      refine z_aload_n 0 dX3_home_3 rfl ?_
      refine z_get (v := .ref lh) 0 hxv rfl in_X3 (by decide) q228 rfl dX3_home_4 ?_
      refine z_callV (As := []) (t_size hl) q791 q308 q309 q117 q310 nm_J2_size hl rfl rfl rfl (Nat.le_of_ble_eq_true rfl) ⟨Nat.le_of_ble_eq_true rfl, Nat.le_of_ble_eq_true rfl⟩ dX3_home_7 rfl rfl (Nat.le_of_ble_eq_true rfl) (Nat.le_of_ble_eq_true rfl) (fun v_8 X_9 hp_10 => ?_)
      obtain ⟨rfl, h7⟩ := hp_10
      replace h7 := h7.symm
      subst h7
      refine z_st (st' := [.int (nI (n)), .int (nI (k_5))]) rfl ?_
      refine z_icmp_geN (a := k_5) (b := n) 42 (by omega) (by omega) dX3_home_10 (by decide) (fun c_11 => ?_) (fun c_11 => ?_)
      · -- n ≤ k_5
        refine z_iconst (v := zm1) dX3_home_42 (by decide) ?_
        exact z_iret dX3_home_43 rfl (Nat.le_of_ble_eq_true rfl) (Nat.le_of_ble_eq_true rfl) ⟨congrArg (fun z => some (Value.int z)) (Eq.symm (h2_7.symm.trans (by rw [show n - k_5 = 0 by omega]; rfl))), rfl⟩
      · -- k_5 < n
        obtain ⟨a9, nm9, hf9, hz9, hx09, ha9, hn9⟩ := hh.1 k_5 (by omega)
        obtain ⟨b9, m9, f9, hs9, hq9, g1, g2, g3, g4, g5⟩ := hn9
        have hy := kS_b g3 h3 g4 h4 g5 h5
        refine z_aload_n 0 dX3_home_13 rfl ?_
        refine z_get (v := .ref lh) 0 hxv rfl in_X3 (by decide) q228 rfl dX3_home_14 ?_
        refine z_iload_n 2 dX3_home_17 rfl ?_
        refine z_callV (As := [.int (nI (k_5))]) (t_getL hl he (by omega) k_5 (by omega) hnc hf9) q792 q312 q313 q117 q314 nm_J2_get hl rfl rfl rfl (Nat.le_of_ble_eq_true rfl) ⟨Nat.le_of_ble_eq_true rfl, Nat.le_of_ble_eq_true rfl⟩ dX3_home_18 rfl rfl (Nat.le_of_ble_eq_true rfl) (Nat.le_of_ble_eq_true rfl) (fun v_12 X_13 hp_14 => ?_)
        obtain ⟨rfl, h7⟩ := hp_14
        replace h7 := h7.symm
        subst h7
        refine z_st (st' := [.ref a9]) rfl ?_
        refine z_castS ha9 rfl q793 rfl dX3_home_21 ?_
        refine z_getN (v := .ref nm9) 0 ha9 rfl in_X7 (by decide) q812 rfl dX3_home_24 ?_
        refine z_aload_n 1 dX3_home_27 rfl ?_
        refine z_callV (As := [.ref s]) (t_eqS g1 g2 (by omega) h1 h2 (by omega)) q794 q795 q796 q122 q797 nm_J5_equals g1 rfl rfl rfl (Nat.le_of_ble_eq_true rfl) ⟨Nat.le_of_ble_eq_true rfl, Nat.le_of_ble_eq_true rfl⟩ dX3_home_28 rfl rfl (Nat.le_of_ble_eq_true rfl) (Nat.le_of_ble_eq_true rfl) (fun v_15 X_16 hp_17 => ?_)
        obtain ⟨rfl, h7⟩ := hp_17
        replace h7 := h7.symm
        subst h7
        rw [hy]
        refine z_st (st' := [.int (zb (decide (hv k_5 = val)))]) rfl ?_
        refine z_if_eqb 36 dX3_home_31 (by decide) (fun c_18 => ?_) (fun c_18 => ?_)
        · -- decide (hv k_5 = val) = false
          refine z_iinc (v := nI (k_5 + 1)) (lv' := [(2, .int (nI (k_5 + 1))), (0, .ref v), (1, .ref s)]) 2 dX3_home_36 rfl (nI_1 _) (by decide) rfl ?_
          refine z_goto 2 dX3_home_39 (by decide) ?_
          have f_19 : nI (k_5 + 1) = nI ((k_5 + 1)) := congrArg nI (by omega)
          refine z_lv (lv' := [(0, .ref v), (1, .ref s), (2, .int (nI ((k_5 + 1))))]) [1, 2, 0] (by rw [← f_19]; rfl) ?_
          exact ih_2 (k_5 + 1) (by omega) ((by rw [kwf_s (show k_5 < n by omega), if_neg (by rw [c_18]; decide)] : kwf (fun k => decide (hv k = val)) (n - k_5) k_5 = kwf (fun k => decide (hv k = val)) (n - (k_5 + 1)) (k_5 + 1)).symm.trans h2_7) (by omega)
        · -- decide (hv k_5 = val) = true
          refine z_iload_n 2 dX3_home_34 rfl ?_
          exact z_iret dX3_home_35 rfl (Nat.le_of_ble_eq_true rfl) (Nat.le_of_ble_eq_true rfl) ⟨congrArg (fun z => some (Value.int z)) (Eq.symm (h2_7.symm.trans ((kwf_s (show k_5 < n by omega)).trans (if_pos c_18)))), rfl⟩
  refine z_lv (lv' := [(0, .ref v), (1, .ref s), (2, .int 0)]) [1, 2, 0] rfl ?_
  exact loop_4 (n - 0 + 1) 0 (Nat.zero_le _) (by rw [Nat.sub_zero]) (Nat.lt_succ_self _)
set_option maxHeartbeats 4000000 in
theorem rd_guest {g : zG} {X : zX} {v lh lg e c n : Nat} {mc : Int32} {st : Value} {fa : Value} {f : Nat → Option Nat} {X0 : zX} {vs : Nat → Int32} {hv : Nat → Int64} {s : Nat} {val : Int64} (hxv : X v = some (.inr (3, [.ref lh, .ref lg, st, fa]))) (hl : X lg = some (.inr (23, [.int mc, .ref e, .int (nI n)]))) (he : X e = some (.inl (zar g 4, c, .inr (.inr (.inr (.inr f)))))) (hnc : n ≤ c) (hc : c ≤ 60) (hh : gU g X0 X n f vs hv) (hs : kS X s g val) : zN g m_X3_guest ({ frames := 3, cells := 0, slots := 0, locals := 64 } : Room) [.ref v, .ref s] X (fun rv X' => rv = some (.int (kwf (fun k => decide (hv k = val)) n 0)) ∧ X' = X) := by
  refine zN.of (by decide +kernel) (Nat.le_of_ble_eq_true rfl) rfl ?_
  refine z_lv (lv' := [(0, .ref v), (1, .ref s)]) [0, 1] rfl ?_
  obtain ⟨sb, sm, sf, hs1, hz1, h1, h2, h3, h4, h5⟩ := hs
  refine z_iconst (v := 0) dX3_guest_0 (by decide) ?_
  refine z_istore_n (lv' := [(2, .int 0), (0, .ref v), (1, .ref s)]) dX3_guest_1 rfl (by decide) rfl ?_
  have loop_4 : ∀ (q_1 : Nat) (k_5 : Nat), (k_5 ≤ n) → (kwf (fun k => decide (hv k = val)) (n - k_5) k_5 = kwf (fun k => decide (hv k = val)) n 0) → n - k_5 < q_1 → zZ g m_X3_guest (fun rv X' => rv = some (.int (kwf (fun k => decide (hv k = val)) n 0)) ∧ X' = X, zno, ({ frames := 3, cells := 0, slots := 0, locals := 64 } : Room)) 0 0 X 2 [(0, .ref v), (1, .ref s), (2, .int (nI (k_5)))] [] := by
    intro q_1
    induction q_1 with
    | zero => intro k_5 h1_6 h2_7 hm_3; exact absurd hm_3 (Nat.not_lt_zero _)
    | succ q_1 ih_2 =>
      intro k_5 h1_6 h2_7 hm_3
      refine z_iload_n 2 dX3_guest_2 rfl ?_
      refine z_aload_n 0 dX3_guest_3 rfl ?_
      refine z_get (v := .ref lg) 1 hxv rfl in_X3 (by decide) q232 rfl dX3_guest_4 ?_
      refine z_callV (As := []) (t_size hl) q791 q308 q309 q117 q310 nm_J2_size hl rfl rfl rfl (Nat.le_of_ble_eq_true rfl) ⟨Nat.le_of_ble_eq_true rfl, Nat.le_of_ble_eq_true rfl⟩ dX3_guest_7 rfl rfl (Nat.le_of_ble_eq_true rfl) (Nat.le_of_ble_eq_true rfl) (fun v_8 X_9 hp_10 => ?_)
      obtain ⟨rfl, h7⟩ := hp_10
      replace h7 := h7.symm
      subst h7
      refine z_st (st' := [.int (nI (n)), .int (nI (k_5))]) rfl ?_
      refine z_icmp_geN (a := k_5) (b := n) 42 (by omega) (by omega) dX3_guest_10 (by decide) (fun c_11 => ?_) (fun c_11 => ?_)
      · -- n ≤ k_5
        refine z_iconst (v := zm1) dX3_guest_42 (by decide) ?_
        exact z_iret dX3_guest_43 rfl (Nat.le_of_ble_eq_true rfl) (Nat.le_of_ble_eq_true rfl) ⟨congrArg (fun z => some (Value.int z)) (Eq.symm (h2_7.symm.trans (by rw [show n - k_5 = 0 by omega]; rfl))), rfl⟩
      · -- k_5 < n
        obtain ⟨a9, nm9, k9, hf9, hz9, hx09, hk9, hkv9, ha9, hn9⟩ := hh.1 k_5 (by omega)
        obtain ⟨b9, m9, f9, hs9, hq9, g1, g2, g3, g4, g5⟩ := hn9
        have hy := kS_b g3 h3 g4 h4 g5 h5
        refine z_aload_n 0 dX3_guest_13 rfl ?_
        refine z_get (v := .ref lg) 1 hxv rfl in_X3 (by decide) q232 rfl dX3_guest_14 ?_
        refine z_iload_n 2 dX3_guest_17 rfl ?_
        refine z_callV (As := [.int (nI (k_5))]) (t_getL hl he (by omega) k_5 (by omega) hnc hf9) q792 q312 q313 q117 q314 nm_J2_get hl rfl rfl rfl (Nat.le_of_ble_eq_true rfl) ⟨Nat.le_of_ble_eq_true rfl, Nat.le_of_ble_eq_true rfl⟩ dX3_guest_18 rfl rfl (Nat.le_of_ble_eq_true rfl) (Nat.le_of_ble_eq_true rfl) (fun v_12 X_13 hp_14 => ?_)
        obtain ⟨rfl, h7⟩ := hp_14
        replace h7 := h7.symm
        subst h7
        refine z_st (st' := [.ref a9]) rfl ?_
        refine z_castG ha9 hk9 q806 dX3_guest_21 ?_
        refine z_getG (v := .ref nm9) 0 ha9 hk9 (by decide) q921 rfl dX3_guest_24 ?_
        refine z_aload_n 1 dX3_guest_27 rfl ?_
        refine z_callV (As := [.ref s]) (t_eqS g1 g2 (by omega) h1 h2 (by omega)) q794 q795 q796 q122 q797 nm_J5_equals g1 rfl rfl rfl (Nat.le_of_ble_eq_true rfl) ⟨Nat.le_of_ble_eq_true rfl, Nat.le_of_ble_eq_true rfl⟩ dX3_guest_28 rfl rfl (Nat.le_of_ble_eq_true rfl) (Nat.le_of_ble_eq_true rfl) (fun v_15 X_16 hp_17 => ?_)
        obtain ⟨rfl, h7⟩ := hp_17
        replace h7 := h7.symm
        subst h7
        rw [hy]
        refine z_st (st' := [.int (zb (decide (hv k_5 = val)))]) rfl ?_
        refine z_if_eqb 36 dX3_guest_31 (by decide) (fun c_18 => ?_) (fun c_18 => ?_)
        · -- decide (hv k_5 = val) = false
          refine z_iinc (v := nI (k_5 + 1)) (lv' := [(2, .int (nI (k_5 + 1))), (0, .ref v), (1, .ref s)]) 2 dX3_guest_36 rfl (nI_1 _) (by decide) rfl ?_
          refine z_goto 2 dX3_guest_39 (by decide) ?_
          have f_19 : nI (k_5 + 1) = nI ((k_5 + 1)) := congrArg nI (by omega)
          refine z_lv (lv' := [(0, .ref v), (1, .ref s), (2, .int (nI ((k_5 + 1))))]) [1, 2, 0] (by rw [← f_19]; rfl) ?_
          exact ih_2 (k_5 + 1) (by omega) ((by rw [kwf_s (show k_5 < n by omega), if_neg (by rw [c_18]; decide)] : kwf (fun k => decide (hv k = val)) (n - k_5) k_5 = kwf (fun k => decide (hv k = val)) (n - (k_5 + 1)) (k_5 + 1)).symm.trans h2_7) (by omega)
        · -- decide (hv k_5 = val) = true
          refine z_iload_n 2 dX3_guest_34 rfl ?_
          exact z_iret dX3_guest_35 rfl (Nat.le_of_ble_eq_true rfl) (Nat.le_of_ble_eq_true rfl) ⟨congrArg (fun z => some (Value.int z)) (Eq.symm (h2_7.symm.trans ((kwf_s (show k_5 < n by omega)).trans (if_pos c_18)))), rfl⟩
  refine z_lv (lv' := [(0, .ref v), (1, .ref s), (2, .int 0)]) [1, 2, 0] rfl ?_
  exact loop_4 (n - 0 + 1) 0 (Nat.zero_le _) (by rw [Nat.sub_zero]) (Nat.lt_succ_self _)
