/-! THE MODEL: laid anew, kept apart. Printed by t18.py -/
set_option maxRecDepth 100000
theorem t_laysFrom {g : zG} {L : Nat → Nat} {I : Nat → Nat → Int32} {J : Nat → Nat → Int64} {Gb : Nat → Nat → Int32} {X : zX} (hL : tok g L) {τ : Nat → Int32} {nh nd : Nat} (h0 : I 10 0 = nI nh) (hnh : nh ≤ 4) (h1 : I 10 1 = nI nd) (hnd : nd ≤ 6) (hτ : ∀ j, j < nd → τ (j + 6) = zm1) : zN g m_X5_laysFrom ({ frames := 9, cells := 0, slots := 0, locals := 205 } : Room) [.ref (L 99), .int 0] (tX g L (tput I 987 τ) J Gb X) (fun rv X' => rv = some (.int (s_lays (I 10) (I 24) nh nd nd τ)) ∧ X' = tX g L (tput I 987 τ) J Gb X) := by
  rcases (by omega : nd = 0 ∨ nd = 1 ∨ nd = 2 ∨ nd = 3 ∨ nd = 4 ∨ nd = 5 ∨ nd = 6) with rfl | rfl | rfl | rfl | rfl | rfl | rfl
  · exact zN.room (R := ({ frames := 1, cells := 0, slots := 0, locals := 20 } : Room)) (by decide) rfl rfl (by decide) (t_laysFrom_0 (I := I) (τ := τ) hL 0 (by decide) h0 hnh h1 (by decide) (fun j _ hj => hτ j (by omega)))
  · exact zN.room (R := ({ frames := 4, cells := 0, slots := 0, locals := 90 } : Room)) (by decide) rfl rfl (by decide) (t_laysFrom_1 (I := I) (τ := τ) hL 0 (by decide) h0 hnh h1 (by decide) (fun j _ hj => hτ j (by omega)))
  · exact zN.room (R := ({ frames := 5, cells := 0, slots := 0, locals := 113 } : Room)) (by decide) rfl rfl (by decide) (t_laysFrom_2 (I := I) (τ := τ) hL 0 (by decide) h0 hnh h1 (by decide) (fun j _ hj => hτ j (by omega)))
  · exact zN.room (R := ({ frames := 6, cells := 0, slots := 0, locals := 136 } : Room)) (by decide) rfl rfl (by decide) (t_laysFrom_3 (I := I) (τ := τ) hL 0 (by decide) h0 hnh h1 (by decide) (fun j _ hj => hτ j (by omega)))
  · exact zN.room (R := ({ frames := 7, cells := 0, slots := 0, locals := 159 } : Room)) (by decide) rfl rfl (by decide) (t_laysFrom_4 (I := I) (τ := τ) hL 0 (by decide) h0 hnh h1 (by decide) (fun j _ hj => hτ j (by omega)))
  · exact zN.room (R := ({ frames := 8, cells := 0, slots := 0, locals := 182 } : Room)) (by decide) rfl rfl (by decide) (t_laysFrom_5 (I := I) (τ := τ) hL 0 (by decide) h0 hnh h1 (by decide) (fun j _ hj => hτ j (by omega)))
  · exact zN.room (R := ({ frames := 9, cells := 0, slots := 0, locals := 205 } : Room)) (by decide) rfl rfl (by decide) (t_laysFrom_6 (I := I) (τ := τ) hL 0 (by decide) h0 hnh h1 (by decide) (fun j _ hj => hτ j (by omega)))
set_option maxHeartbeats 4000000 in
theorem t_laying {g : zG} {L : Nat → Nat} {I : Nat → Nat → Int32} {J : Nat → Nat → Int64} {Gb : Nat → Nat → Int32} {X : zX} (hL : tok g L) {nh nd : Nat} {own : Nat → Nat} (hV : s_ok (I 10) nh nd own) : zN g m_X5_laying ({ frames := 10, cells := 0, slots := 0, locals := 228 } : Room) [.ref (L 99)] (tX g L I J Gb X) (fun rv X' => rv = some (.int (s_lays (I 10) (I 24) nh nd nd (s_none (I 24) 6))) ∧ ∃ (I' : Nat → Nat → Int32) (Gb' : Nat → Nat → Int32), X' = tX g L I' J Gb' X ∧ tobs I I' ∧ I' 99 0 = 0) := by
  refine zN.of (by decide +kernel) (Nat.le_of_ble_eq_true rfl) rfl ?_
  refine z_lv (lv' := [(0, .ref (L 99))]) [0] rfl ?_
  have hV9 := hV
  obtain ⟨h0, hnh, h1, hnd, hown⟩ := hV9
  refine z_aload_n 0 dX5_laying_0 rfl ?_
  refine z_iconst (v := 0) dX5_laying_1 (by decide) ?_
  refine tz_put (I' := (zs I 99 0 0)) 0 hL (by decide) q1593 rfl dX5_laying_2 ?_
  refine z_X (X' := (tX g L (tput (tco (zs I 99 0 0) (I 99 28) (I 99 29)) 987 (s_tau I)) J Gb X)) (by show tX g L (zs I 99 0 0) J Gb X = (tX g L (tput (tco (zs I 99 0 0) (I 99 28) (I 99 29)) 987 (s_tau I)) J Gb X); rw [show tput (tco (zs I 99 0 0) (I 99 28) (I 99 29)) 987 (s_tau I) = tco (zs I 99 0 0) (I 99 28) (I 99 29) from tput_tau (I := tco (zs I 99 0 0) (I 99 28) (I 99 29))]; exact congrArg (fun z => tX g L z J Gb X) (tco_self (I := (zs I 99 0 0))).symm) ?_
  refine z_aload_n 0 dX5_laying_5 rfl ?_
  refine z_callV (As := []) (t_triesNow (I := (tco (zs I 99 0 0) (I 99 28) (I 99 29))) (τ := (s_tau I)) hL) q1928 q1930 qs100 q121 q1931 nm_X5_triesNow (tX_obj hL) rfl rfl rfl (Nat.le_of_ble_eq_true rfl) ⟨Nat.le_of_ble_eq_true rfl, Nat.le_of_ble_eq_true rfl⟩ dX5_laying_6 rfl rfl (Nat.le_of_ble_eq_true rfl) (Nat.le_of_ble_eq_true rfl) (fun v_1 X_2 hp_3 => ?_)
  obtain ⟨rfl, rfl⟩ := hp_3
  refine z_st (st' := []) rfl ?_
  refine z_iconst (v := 0) dX5_laying_9 (by decide) ?_
  refine z_istore_n (lv' := [(1, .int 0), (0, .ref (L 99))]) dX5_laying_10 rfl (by decide) rfl ?_
  have loop_8 : ∀ (q_5 i_4 : Nat), i_4 + q_5 = 6 → 0 ≤ i_4 → zZ g m_X5_laying (fun rv X' => rv = some (.int (s_lays (I 10) (I 24) nh nd nd (s_none (I 24) 6))) ∧ ∃ (I' : Nat → Nat → Int32) (Gb' : Nat → Nat → Int32), X' = tX g L I' J Gb' X ∧ tobs I I' ∧ I' 99 0 = 0, zno, ({ frames := 10, cells := 0, slots := 0, locals := 228 } : Room)) 0 0 (tX g L (tput (tco (zs I 99 0 0) (I 99 28) (I 99 29)) 987 (s_none (I 24) i_4)) J Gb X) 11 [(0, .ref (L 99)), (1, .int (nI (i_4)))] [] := by
    intro q_5
    induction q_5 with
    | zero =>
      intro i_4 hb_7 lo_9  
      obtain rfl : 6 = i_4 := by omega
      refine z_iload_n 1 dX5_laying_11 rfl ?_
      refine z_bipush (v := 6) dX5_laying_12 (by decide) ?_
      refine z_icmp_geN (a := 6) (b := 6) 34 (by decide) (by decide) dX5_laying_14 (by decide) (fun h_ => ?_) (fun h_ => absurd h_ (by decide))
      refine z_aload_n 0 dX5_laying_34 rfl ?_
      refine z_iconst (v := 0) dX5_laying_35 (by decide) ?_
      refine z_callV (As := [.int 0]) (t_laysFrom (I := (tco (zs I 99 0 0) (I 99 28) (I 99 29))) (τ := (s_none (I 24) 6)) hL h0 hnh h1 hnd (fun j hj => if_pos (by omega))) q1972 q1974 qs104 q121 q1975 nm_X5_laysFrom (tX_obj hL) rfl rfl rfl (Nat.le_of_ble_eq_true rfl) ⟨Nat.le_of_ble_eq_true rfl, Nat.le_of_ble_eq_true rfl⟩ dX5_laying_36 rfl rfl (Nat.le_of_ble_eq_true rfl) (Nat.le_of_ble_eq_true rfl) (fun v_10 X_11 hp_12 => ?_)
      obtain ⟨rfl, rfl⟩ := hp_12
      refine z_st (st' := [.int (s_lays (I 10) (I 24) nh nd nd (s_none (I 24) 6))]) rfl ?_
      exact z_iret dX5_laying_39 rfl (Nat.le_of_ble_eq_true rfl) (Nat.le_of_ble_eq_true rfl) ⟨congrArg some (congrArg Value.int rfl), (tput (tco (zs I 99 0 0) (I 99 28) (I 99 29)) 987 (s_none (I 24) 6)), Gb, rfl, (tobs_put (tobs_co (tobs_zs tobs_rf rfl)) (by decide)), rfl⟩
    | succ q_5 ih_6 =>
      intro i_4 hb_7 lo_9  
      refine z_iload_n 1 dX5_laying_11 rfl ?_
      refine z_bipush (v := 6) dX5_laying_12 (by decide) ?_
      refine z_icmp_geN (a := i_4) (b := 6) 34 (by omega) (by omega) dX5_laying_14 (by decide) (fun c_13 => absurd c_13 (by omega)) (fun c_13 => ?_)
      refine z_aload_n 0 dX5_laying_17 rfl ?_
      refine tz_get (v := .ref (L 24)) 24 hL (by decide) q1617 rfl dX5_laying_18 ?_
      refine z_sipush (v := 993) dX5_laying_21 (by decide) ?_
      refine z_iload_n 1 dX5_laying_24 rfl ?_
      refine z_iaddN (a := 993) (b := i_4) dX5_laying_25 ?_
      refine z_eq (y := nI (i_4 + 993)) (congrArg nI (by omega)) ?_
      refine z_iconst (v := zm1) dX5_laying_26 (by decide) ?_
      refine tz_iast 24 (987 + (i_4 + 6)) hL (by decide) (congrArg nI (by omega)) (by show 987 + (i_4 + 6) < 1081; omega) (tput_zs (by omega)) dX5_laying_27 ?_
      refine z_iinc (v := nI (i_4 + 1)) (lv' := [(1, .int (nI (i_4 + 1))), (0, .ref (L 99))]) 1 dX5_laying_28 rfl (nI_1 _) (by decide) rfl ?_
      refine z_goto 11 dX5_laying_31 (by decide) ?_
      refine z_lv (lv' := [(0, .ref (L 99)), (1, .int (nI (i_4 + 1)))]) [1, 0] rfl ?_
      refine z_X (X' := (tX g L (tput (tco (zs I 99 0 0) (I 99 28) (I 99 29)) 987 (s_none (I 24) (i_4 + 1))) J Gb X)) (by rw [s_none_1]) ?_
      exact ih_6 (i_4 + 1) (by omega) (by omega)  
  refine z_lv (lv' := [(0, .ref (L 99)), (1, .int 0)]) [1, 0] rfl ?_
  refine z_X (X' := (tX g L (tput (tco (zs I 99 0 0) (I 99 28) (I 99 29)) 987 (s_none (I 24) 0)) J Gb X)) (by first | (rw [s_none_0]; done) | (rw [s_none_0]; rfl)) ?_
  exact loop_8 (6 - 0) 0 (by omega) (Nat.le_refl _)  
set_option maxHeartbeats 4000000 in
theorem t_isApart_0 {g : zG} {L : Nat → Nat} {I : Nat → Nat → Int32} {J : Nat → Nat → Int64} {Gb : Nat → Nat → Int32} {X : zX} (hL : tok g L) (d m : Nat) (hd : d + 0 ≤ 6) (hm : m < 2 ^ 30) (h1 : I 10 1 = nI (d)) {ap : Nat → Int32} (hap : ∀ o, o < d → Gb 30 o = ap o) : zN g m_X5_isApart ({ frames := 1, cells := 0, slots := 0, locals := 20 } : Room) [.ref (L 99), .int (nI (d)), .int (nI (m))] (tX g L I J Gb X) (fun rv X' => rv = some (.int (zb (s_apt (I 10) m (d) 0 ap))) ∧ ∃ Gb' : Nat → Nat → Int32, X' = tX g L I J Gb' X ∧ ∀ o, o < d → Gb' 30 o = ap o) := by
  refine zN.of (by decide +kernel) (Nat.le_of_ble_eq_true rfl) rfl ?_
  refine z_lv (lv' := [(0, .ref (L 99)), (1, .int (nI (d))), (2, .int (nI (m)))]) [0, 1, 2] rfl ?_
  refine z_iload_n 1 dX5_isApart_0 rfl ?_
  refine z_aload_n 0 dX5_isApart_1 rfl ?_
  refine z_callV (As := []) (t_days (I := I) hL h1) q1573 q1575 qs53 q121 q1576 nm_X5_days (tX_obj hL) rfl rfl rfl (Nat.le_of_ble_eq_true rfl) ⟨Nat.le_of_ble_eq_true rfl, Nat.le_of_ble_eq_true rfl⟩ dX5_isApart_2 rfl rfl (Nat.le_of_ble_eq_true rfl) (Nat.le_of_ble_eq_true rfl) (fun v_1 X_2 hp_3 => ?_)
  obtain ⟨rfl, rfl⟩ := hp_3
  refine z_st (st' := [.int (nI (d)), .int (nI (d))]) rfl ?_
  refine z_icmp_neN (a := d) (b := d) 10 (by omega) (by omega) dX5_isApart_5 (by decide) (fun c_4 => absurd c_4 ((fun h => h rfl))) (fun c_4 => ?_)
  refine z_iconst (v := 1) dX5_isApart_8 (by decide) ?_
  exact z_zret dX5_isApart_9 rfl (by first | rfl | decide | exact zb_nar _) (Nat.le_of_ble_eq_true rfl) (Nat.le_of_ble_eq_true rfl) ⟨rfl, Gb, rfl, hap⟩
set_option maxHeartbeats 4000000 in
theorem t_isApart_1 {g : zG} {L : Nat → Nat} {I : Nat → Nat → Int32} {J : Nat → Nat → Int64} {Gb : Nat → Nat → Int32} {X : zX} (hL : tok g L) (d m : Nat) (hd : d + 1 ≤ 6) (hm : m < 2 ^ 30) (h1 : I 10 1 = nI (d + 1)) {ap : Nat → Int32} (hap : ∀ o, o < d → Gb 30 o = ap o) : zN g m_X5_isApart ({ frames := 2, cells := 0, slots := 0, locals := 46 } : Room) [.ref (L 99), .int (nI (d)), .int (nI (m))] (tX g L I J Gb X) (fun rv X' => rv = some (.int (zb (s_apt (I 10) m (d + 1) 1 ap))) ∧ ∃ Gb' : Nat → Nat → Int32, X' = tX g L I J Gb' X ∧ ∀ o, o < d → Gb' 30 o = ap o) := by
  refine zN.of (by decide +kernel) (Nat.le_of_ble_eq_true rfl) rfl ?_
  refine z_lv (lv' := [(0, .ref (L 99)), (1, .int (nI (d))), (2, .int (nI (m)))]) [0, 1, 2] rfl ?_
  refine z_iload_n 1 dX5_isApart_0 rfl ?_
  refine z_aload_n 0 dX5_isApart_1 rfl ?_
  refine z_callV (As := []) (t_days (I := I) hL h1) q1573 q1575 qs53 q121 q1576 nm_X5_days (tX_obj hL) rfl rfl rfl (Nat.le_of_ble_eq_true rfl) ⟨Nat.le_of_ble_eq_true rfl, Nat.le_of_ble_eq_true rfl⟩ dX5_isApart_2 rfl rfl (Nat.le_of_ble_eq_true rfl) (Nat.le_of_ble_eq_true rfl) (fun v_1 X_2 hp_3 => ?_)
  obtain ⟨rfl, rfl⟩ := hp_3
  refine z_st (st' := [.int (nI (d + 1)), .int (nI (d))]) rfl ?_
  refine z_icmp_neN (a := d) (b := d + 1) 10 (by omega) (by omega) dX5_isApart_5 (by decide) (fun c_4 => ?_) (fun c_4 => absurd c_4 ((by omega)))
  refine z_iconst (v := 0) dX5_isApart_10 (by decide) ?_
  refine z_istore_n (lv' := [(3, .int 0), (0, .ref (L 99)), (1, .int (nI (d))), (2, .int (nI (m)))]) dX5_isApart_11 rfl (by decide) rfl ?_
  refine z_iconst (v := 0) dX5_isApart_12 (by decide) ?_
  refine z_istore (lv' := [(4, .int 0), (3, .int 0), (0, .ref (L 99)), (1, .int (nI (d))), (2, .int (nI (m)))]) dX5_isApart_13 (by decide) rfl ?_
  have loop_9 : ∀ (q_6 i_5 : Nat), i_5 + q_6 = m → 0 ≤ i_5 → ∀ (Gb_10 : Nat → Nat → Int32), (∀ o, o < d → Gb_10 30 o = ap o) → zZ g m_X5_isApart (fun rv X' => rv = some (.int (zb (s_apt (I 10) m (d + 1) 1 ap))) ∧ ∃ Gb' : Nat → Nat → Int32, X' = tX g L I J Gb' X ∧ ∀ o, o < d → Gb' 30 o = ap o, zno, ({ frames := 2, cells := 0, slots := 0, locals := 46 } : Room)) 0 0 (tX g L I J Gb_10 X) 15 [(0, .ref (L 99)), (1, .int (nI (d))), (2, .int (nI (m))), (3, .int (zb (s_ex (fun h => s_mayA (I 10 (5 * d + 16)) ap h d && s_apt (I 10) m (d + 1) 0 (zs1 ap d (nI h))) i_5))), (4, .int (nI (i_5)))] [] := by
    intro q_6
    induction q_6 with
    | zero =>
      intro i_5 hb_8 lo_12 Gb_10 hi_11
      obtain rfl : m = i_5 := by omega
      refine z_iload 4 dX5_isApart_15 rfl ?_
      refine z_iload_n 2 dX5_isApart_17 rfl ?_
      refine z_icmp_geN (a := m) (b := m) 117 (by omega) (by omega) dX5_isApart_18 (by decide) (fun c_13 => ?_) (fun c_13 => absurd c_13 (by omega))
      refine z_iload_n 3 dX5_isApart_117 rfl ?_
      exact z_zret dX5_isApart_118 rfl (by first | rfl | decide | exact zb_nar _) (Nat.le_of_ble_eq_true rfl) (Nat.le_of_ble_eq_true rfl) ⟨congrArg some (congrArg Value.int (by show zb _ = zb (s_apt (I 10) m (d + 1) (0 + 1) ap); rw [s_apt_1 (r := 0), show d + 1 - (0 + 1) = d by omega] <;> rfl)), Gb_10, rfl, hi_11⟩
    | succ q_6 ih_7 =>
      intro i_5 hb_8 lo_12 Gb_10 hi_11
      refine z_iload 4 dX5_isApart_15 rfl ?_
      refine z_iload_n 2 dX5_isApart_17 rfl ?_
      refine z_icmp_geN (a := i_5) (b := m) 117 (by omega) (by omega) dX5_isApart_18 (by decide) (fun c_14 => absurd c_14 (by omega)) (fun c_14 => ?_)
      refine z_iload_n 3 dX5_isApart_21 rfl ?_
      refine z_if_neb 117 dX5_isApart_22 (by decide) (fun c_15 => ?_) (fun c_15 => ?_)
      · -- s_ex (fun h => s_mayA (I 10 (5 * d + 16)) ap h d && s_apt (I 10) m (d + 1) 0 (zs1 ap d (nI h))) i_5 = true
        refine z_iload_n 3 dX5_isApart_117 rfl ?_
        exact z_zret dX5_isApart_118 rfl (by first | rfl | decide | exact zb_nar _) (Nat.le_of_ble_eq_true rfl) (Nat.le_of_ble_eq_true rfl) ⟨congrArg some (congrArg Value.int (by show zb _ = zb (s_apt (I 10) m (d + 1) (0 + 1) ap); rw [s_apt_1 (r := 0), show d + 1 - (0 + 1) = d by omega]; exact congrArg zb (c_15.trans (s_ex_up c_15 m (by omega)).symm))), Gb_10, rfl, hi_11⟩
      · -- s_ex (fun h => s_mayA (I 10 (5 * d + 16)) ap h d && s_apt (I 10) m (d + 1) 0 (zs1 ap d (nI h))) i_5 = false
        refine z_iconst (v := 1) dX5_isApart_25 (by decide) ?_
        refine z_istore (lv' := [(5, .int 1), (0, .ref (L 99)), (1, .int (nI (d))), (2, .int (nI (m))), (3, .int (zb (s_ex (fun h => s_mayA (I 10 (5 * d + 16)) ap h d && s_apt (I 10) m (d + 1) 0 (zs1 ap d (nI h))) i_5))), (4, .int (nI (i_5)))]) dX5_isApart_26 (by decide) rfl ?_
        refine z_iconst (v := 0) dX5_isApart_28 (by decide) ?_
        refine z_istore (lv' := [(6, .int 0), (5, .int 1), (0, .ref (L 99)), (1, .int (nI (d))), (2, .int (nI (m))), (3, .int (zb (s_ex (fun h => s_mayA (I 10 (5 * d + 16)) ap h d && s_apt (I 10) m (d + 1) 0 (zs1 ap d (nI h))) i_5))), (4, .int (nI (i_5)))]) dX5_isApart_29 (by decide) rfl ?_
        have loop_20 : ∀ (q_17 i_16 : Nat), i_16 + q_17 = d → 0 ≤ i_16 → zZ g m_X5_isApart (fun rv X' => rv = some (.int (zb (s_apt (I 10) m (d + 1) 1 ap))) ∧ ∃ Gb' : Nat → Nat → Int32, X' = tX g L I J Gb' X ∧ ∀ o, o < d → Gb' 30 o = ap o, zno, ({ frames := 2, cells := 0, slots := 0, locals := 46 } : Room)) 0 0 (tX g L I J Gb_10 X) 31 [(0, .ref (L 99)), (1, .int (nI (d))), (2, .int (nI (m))), (3, .int (zb (s_ex (fun h => s_mayA (I 10 (5 * d + 16)) ap h d && s_apt (I 10) m (d + 1) 0 (zs1 ap d (nI h))) i_5))), (4, .int (nI (i_5))), (5, .int (zb (s_mayA (I 10 (5 * d + 16)) ap (i_5) i_16))), (6, .int (nI (i_16)))] [] := by
          intro q_17
          induction q_17 with
          | zero =>
            intro i_16 hb_19 lo_21  
            obtain rfl : d = i_16 := by omega
            refine z_iload 6 dX5_isApart_31 rfl ?_
            refine z_iload_n 1 dX5_isApart_33 rfl ?_
            refine z_icmp_geN (a := d) (b := d) 81 (by omega) (by omega) dX5_isApart_34 (by decide) (fun c_22 => ?_) (fun c_22 => absurd c_22 (by omega))
            refine z_aload_n 0 dX5_isApart_81 rfl ?_
            refine tz_get (v := .ref (L 30)) 30 hL (by decide) q1623 rfl dX5_isApart_82 ?_
            refine z_iload_n 1 dX5_isApart_85 rfl ?_
            refine z_iload 4 dX5_isApart_86 rfl ?_
            refine tz_iastG 30 (d) hL (by decide) rfl (by show d < 6; omega) dX5_isApart_88 ?_
            refine z_iload 5 dX5_isApart_89 rfl ?_
            refine z_if_eqb 109 dX5_isApart_91 (by decide) (fun c_23 => ?_) (fun c_23 => ?_)
            · -- s_mayA (I 10 (5 * d + 16)) ap (i_5) d = false
              refine z_iconst (v := 0) dX5_isApart_109 (by decide) ?_
              refine z_istore_n (lv' := [(3, .int 0), (0, .ref (L 99)), (1, .int (nI (d))), (2, .int (nI (m))), (4, .int (nI (i_5))), (5, .int (zb (s_mayA (I 10 (5 * d + 16)) ap (i_5) d))), (6, .int (nI (d)))]) dX5_isApart_110 rfl (by decide) rfl ?_
              refine z_iinc (v := nI (i_5 + 1)) (lv' := [(4, .int (nI (i_5 + 1))), (3, .int 0), (0, .ref (L 99)), (1, .int (nI (d))), (2, .int (nI (m))), (5, .int (zb (s_mayA (I 10 (5 * d + 16)) ap (i_5) d))), (6, .int (nI (d)))]) 4 dX5_isApart_111 rfl (nI_1 _) (by decide) rfl ?_
              refine z_goto 15 dX5_isApart_114 (by decide) ?_
              have f_24 : 0 = zb (s_ex (fun h => s_mayA (I 10 (5 * d + 16)) ap h d && s_apt (I 10) m (d + 1) 0 (zs1 ap d (nI h))) (i_5 + 1)) := by simp [s_ex, zb, c_4, c_14, c_15, c_22, c_23]
              refine z_lv (lv' := [(0, .ref (L 99)), (1, .int (nI (d))), (2, .int (nI (m))), (3, .int (zb (s_ex (fun h => s_mayA (I 10 (5 * d + 16)) ap h d && s_apt (I 10) m (d + 1) 0 (zs1 ap d (nI h))) (i_5 + 1)))), (4, .int (nI (i_5 + 1)))]) [2, 3, 4, 1, 0] (by rw [← f_24]; rfl) ?_
              exact ih_7 (i_5 + 1) (by omega) (by omega) _ (s_ap_0 hi_11)
            · -- s_mayA (I 10 (5 * d + 16)) ap (i_5) d = true
              refine z_aload_n 0 dX5_isApart_94 rfl ?_
              refine z_iload_n 1 dX5_isApart_95 rfl ?_
              refine z_iconst (v := 1) dX5_isApart_96 (by decide) ?_
              refine z_iaddN (a := d) (b := 1) dX5_isApart_97 ?_
              refine z_iload_n 2 dX5_isApart_98 rfl ?_
              refine z_callV (As := [.int (nI (d + 1)), .int (nI (m))]) (t_isApart_0 (I := I) (Gb := (zs Gb_10 30 d (nI (i_5)))) hL (d + 1) m (by omega) hm (h1.trans (congrArg nI (by omega))) (ap := zs1 ap d (nI (i_5))) (s_ap_1 hi_11)) q1980 q1982 qs105 q121 q1983 nm_X5_isApart (tX_obj hL) rfl rfl rfl (Nat.le_of_ble_eq_true rfl) ⟨Nat.le_of_ble_eq_true rfl, Nat.le_of_ble_eq_true rfl⟩ dX5_isApart_99 rfl rfl (Nat.le_of_ble_eq_true rfl) (Nat.le_of_ble_eq_true rfl) (fun v_27 X_28 hp_29 => ?_)
              obtain ⟨rfl, Gb_25, rfl, hap_26⟩ := hp_29
              refine z_st (st' := [.int (zb (s_apt (I 10) m (d + 1) 0 (zs1 ap d (nI (i_5)))))]) rfl ?_
              refine z_if_eqb 109 dX5_isApart_102 (by decide) (fun c_30 => ?_) (fun c_30 => ?_)
              · -- s_apt (I 10) m (d + 1) 0 (zs1 ap d (nI (i_5))) = false
                refine z_iconst (v := 0) dX5_isApart_109 (by decide) ?_
                refine z_istore_n (lv' := [(3, .int 0), (0, .ref (L 99)), (1, .int (nI (d))), (2, .int (nI (m))), (4, .int (nI (i_5))), (5, .int (zb (s_mayA (I 10 (5 * d + 16)) ap (i_5) d))), (6, .int (nI (d)))]) dX5_isApart_110 rfl (by decide) rfl ?_
                refine z_iinc (v := nI (i_5 + 1)) (lv' := [(4, .int (nI (i_5 + 1))), (3, .int 0), (0, .ref (L 99)), (1, .int (nI (d))), (2, .int (nI (m))), (5, .int (zb (s_mayA (I 10 (5 * d + 16)) ap (i_5) d))), (6, .int (nI (d)))]) 4 dX5_isApart_111 rfl (nI_1 _) (by decide) rfl ?_
                refine z_goto 15 dX5_isApart_114 (by decide) ?_
                have f_31 : 0 = zb (s_ex (fun h => s_mayA (I 10 (5 * d + 16)) ap h d && s_apt (I 10) m (d + 1) 0 (zs1 ap d (nI h))) (i_5 + 1)) := by simp [s_ex, zb, c_4, c_14, c_15, c_22, c_23, c_30]
                refine z_lv (lv' := [(0, .ref (L 99)), (1, .int (nI (d))), (2, .int (nI (m))), (3, .int (zb (s_ex (fun h => s_mayA (I 10 (5 * d + 16)) ap h d && s_apt (I 10) m (d + 1) 0 (zs1 ap d (nI h))) (i_5 + 1)))), (4, .int (nI (i_5 + 1)))]) [2, 3, 4, 1, 0] (by rw [← f_31]; rfl) ?_
                exact ih_7 (i_5 + 1) (by omega) (by omega) _ (s_ap_2 hap_26)
              · -- s_apt (I 10) m (d + 1) 0 (zs1 ap d (nI (i_5))) = true
                refine z_iconst (v := 1) dX5_isApart_105 (by decide) ?_
                refine z_goto 110 dX5_isApart_106 (by decide) ?_
                refine z_istore_n (lv' := [(3, .int 1), (0, .ref (L 99)), (1, .int (nI (d))), (2, .int (nI (m))), (4, .int (nI (i_5))), (5, .int (zb (s_mayA (I 10 (5 * d + 16)) ap (i_5) d))), (6, .int (nI (d)))]) dX5_isApart_110 rfl (by decide) rfl ?_
                refine z_iinc (v := nI (i_5 + 1)) (lv' := [(4, .int (nI (i_5 + 1))), (3, .int 1), (0, .ref (L 99)), (1, .int (nI (d))), (2, .int (nI (m))), (5, .int (zb (s_mayA (I 10 (5 * d + 16)) ap (i_5) d))), (6, .int (nI (d)))]) 4 dX5_isApart_111 rfl (nI_1 _) (by decide) rfl ?_
                refine z_goto 15 dX5_isApart_114 (by decide) ?_
                have f_32 : 1 = zb (s_ex (fun h => s_mayA (I 10 (5 * d + 16)) ap h d && s_apt (I 10) m (d + 1) 0 (zs1 ap d (nI h))) (i_5 + 1)) := by simp [s_ex, zb, c_4, c_14, c_15, c_22, c_23, c_30]
                refine z_lv (lv' := [(0, .ref (L 99)), (1, .int (nI (d))), (2, .int (nI (m))), (3, .int (zb (s_ex (fun h => s_mayA (I 10 (5 * d + 16)) ap h d && s_apt (I 10) m (d + 1) 0 (zs1 ap d (nI h))) (i_5 + 1)))), (4, .int (nI (i_5 + 1)))]) [2, 3, 4, 1, 0] (by rw [← f_32]; rfl) ?_
                exact ih_7 (i_5 + 1) (by omega) (by omega) _ (s_ap_2 hap_26)
          | succ q_17 ih_18 =>
            intro i_16 hb_19 lo_21  
            refine z_iload 6 dX5_isApart_31 rfl ?_
            refine z_iload_n 1 dX5_isApart_33 rfl ?_
            refine z_icmp_geN (a := i_16) (b := d) 81 (by omega) (by omega) dX5_isApart_34 (by decide) (fun c_33 => absurd c_33 (by omega)) (fun c_33 => ?_)
            refine z_iload 5 dX5_isApart_37 rfl ?_
            refine z_if_eqb 72 dX5_isApart_39 (by decide) (fun c_34 => ?_) (fun c_34 => ?_)
            · -- s_mayA (I 10 (5 * d + 16)) ap (i_5) i_16 = false
              refine z_iconst (v := 0) dX5_isApart_72 (by decide) ?_
              refine z_istore (lv' := [(5, .int 0), (0, .ref (L 99)), (1, .int (nI (d))), (2, .int (nI (m))), (3, .int (zb (s_ex (fun h => s_mayA (I 10 (5 * d + 16)) ap h d && s_apt (I 10) m (d + 1) 0 (zs1 ap d (nI h))) i_5))), (4, .int (nI (i_5))), (6, .int (nI (i_16)))]) dX5_isApart_73 (by decide) rfl ?_
              refine z_iinc (v := nI (i_16 + 1)) (lv' := [(6, .int (nI (i_16 + 1))), (5, .int 0), (0, .ref (L 99)), (1, .int (nI (d))), (2, .int (nI (m))), (3, .int (zb (s_ex (fun h => s_mayA (I 10 (5 * d + 16)) ap h d && s_apt (I 10) m (d + 1) 0 (zs1 ap d (nI h))) i_5))), (4, .int (nI (i_5)))]) 6 dX5_isApart_75 rfl (nI_1 _) (by decide) rfl ?_
              refine z_goto 31 dX5_isApart_78 (by decide) ?_
              have f_35 : 0 = zb (s_mayA (I 10 (5 * d + 16)) ap (i_5) (i_16 + 1)) := by simp [s_mayA, zb, c_4, c_14, c_15, c_33, c_34]
              refine z_lv (lv' := [(0, .ref (L 99)), (1, .int (nI (d))), (2, .int (nI (m))), (3, .int (zb (s_ex (fun h => s_mayA (I 10 (5 * d + 16)) ap h d && s_apt (I 10) m (d + 1) 0 (zs1 ap d (nI h))) i_5))), (4, .int (nI (i_5))), (5, .int (zb (s_mayA (I 10 (5 * d + 16)) ap (i_5) (i_16 + 1)))), (6, .int (nI (i_16 + 1)))]) [2, 3, 4, 5, 6, 1, 0] (by rw [← f_35]; rfl) ?_
              exact ih_18 (i_16 + 1) (by omega) (by omega)  
            · -- s_mayA (I 10 (5 * d + 16)) ap (i_5) i_16 = true
              refine z_aload_n 0 dX5_isApart_42 rfl ?_
              refine tz_get (v := .ref (L 30)) 30 hL (by decide) q1623 rfl dX5_isApart_43 ?_
              refine z_iload 6 dX5_isApart_46 rfl ?_
              refine tz_ialdG (v := ap i_16) 30 (i_16) hL (by decide) rfl (by show i_16 < 6; omega) (hi_11 i_16 (by omega)) dX5_isApart_48 ?_
              refine z_iload 4 dX5_isApart_49 rfl ?_
              refine z_icmp_ne 68 dX5_isApart_51 (by decide) (fun c_36 => ?_) (fun c_36 => ?_)
              · -- ¬ ap i_16 = nI (i_5)
                refine z_iconst (v := 1) dX5_isApart_68 (by decide) ?_
                refine z_goto 73 dX5_isApart_69 (by decide) ?_
                refine z_istore (lv' := [(5, .int 1), (0, .ref (L 99)), (1, .int (nI (d))), (2, .int (nI (m))), (3, .int (zb (s_ex (fun h => s_mayA (I 10 (5 * d + 16)) ap h d && s_apt (I 10) m (d + 1) 0 (zs1 ap d (nI h))) i_5))), (4, .int (nI (i_5))), (6, .int (nI (i_16)))]) dX5_isApart_73 (by decide) rfl ?_
                refine z_iinc (v := nI (i_16 + 1)) (lv' := [(6, .int (nI (i_16 + 1))), (5, .int 1), (0, .ref (L 99)), (1, .int (nI (d))), (2, .int (nI (m))), (3, .int (zb (s_ex (fun h => s_mayA (I 10 (5 * d + 16)) ap h d && s_apt (I 10) m (d + 1) 0 (zs1 ap d (nI h))) i_5))), (4, .int (nI (i_5)))]) 6 dX5_isApart_75 rfl (nI_1 _) (by decide) rfl ?_
                refine z_goto 31 dX5_isApart_78 (by decide) ?_
                have f_37 : 1 = zb (s_mayA (I 10 (5 * d + 16)) ap (i_5) (i_16 + 1)) := by simp [s_mayA, zb, c_4, c_14, c_15, c_33, c_34, c_36]
                refine z_lv (lv' := [(0, .ref (L 99)), (1, .int (nI (d))), (2, .int (nI (m))), (3, .int (zb (s_ex (fun h => s_mayA (I 10 (5 * d + 16)) ap h d && s_apt (I 10) m (d + 1) 0 (zs1 ap d (nI h))) i_5))), (4, .int (nI (i_5))), (5, .int (zb (s_mayA (I 10 (5 * d + 16)) ap (i_5) (i_16 + 1)))), (6, .int (nI (i_16 + 1)))]) [2, 3, 4, 5, 6, 1, 0] (by rw [← f_37]; rfl) ?_
                exact ih_18 (i_16 + 1) (by omega) (by omega)  
              · -- ap i_16 = nI (i_5)
                refine z_aload_n 0 dX5_isApart_54 rfl ?_
                refine z_iload_n 1 dX5_isApart_55 rfl ?_
                refine z_iconst (v := 4) dX5_isApart_56 (by decide) ?_
                refine z_callV (As := [.int (nI (d)), .int 4]) (t_dayOf (I := I) hL d 4 (by omega)) q1577 q1579 qs54 q121 q1580 nm_X5_dayOf (tX_obj hL) rfl rfl rfl (Nat.le_of_ble_eq_true rfl) ⟨Nat.le_of_ble_eq_true rfl, Nat.le_of_ble_eq_true rfl⟩ dX5_isApart_57 rfl rfl (Nat.le_of_ble_eq_true rfl) (Nat.le_of_ble_eq_true rfl) (fun v_38 X_39 hp_40 => ?_)
                obtain ⟨rfl, rfl⟩ := hp_40
                refine z_st (st' := [.int (I 10 (5 * d + 16))]) rfl ?_
                refine z_iload 6 dX5_isApart_60 rfl ?_
                refine z_ishr dX5_isApart_62 ?_
                refine z_iconst (v := 1) dX5_isApart_63 (by decide) ?_
                refine z_iand dX5_isApart_64 ?_
                refine z_if_ne 72 dX5_isApart_65 (by decide) (fun c_41 => ?_) (fun c_41 => ?_)
                · -- ¬ (((I 10 (5 * d + 16)) >>> ((nI (i_16)) &&& 31)) &&& 1) = 0
                  refine z_iconst (v := 0) dX5_isApart_72 (by decide) ?_
                  refine z_istore (lv' := [(5, .int 0), (0, .ref (L 99)), (1, .int (nI (d))), (2, .int (nI (m))), (3, .int (zb (s_ex (fun h => s_mayA (I 10 (5 * d + 16)) ap h d && s_apt (I 10) m (d + 1) 0 (zs1 ap d (nI h))) i_5))), (4, .int (nI (i_5))), (6, .int (nI (i_16)))]) dX5_isApart_73 (by decide) rfl ?_
                  refine z_iinc (v := nI (i_16 + 1)) (lv' := [(6, .int (nI (i_16 + 1))), (5, .int 0), (0, .ref (L 99)), (1, .int (nI (d))), (2, .int (nI (m))), (3, .int (zb (s_ex (fun h => s_mayA (I 10 (5 * d + 16)) ap h d && s_apt (I 10) m (d + 1) 0 (zs1 ap d (nI h))) i_5))), (4, .int (nI (i_5)))]) 6 dX5_isApart_75 rfl (nI_1 _) (by decide) rfl ?_
                  refine z_goto 31 dX5_isApart_78 (by decide) ?_
                  have f_42 : 0 = zb (s_mayA (I 10 (5 * d + 16)) ap (i_5) (i_16 + 1)) := by simp [s_mayA, zb, c_4, c_14, c_15, c_33, c_34, c_36, s_bit1 (show i_16 < 32 by omega) c_41]
                  refine z_lv (lv' := [(0, .ref (L 99)), (1, .int (nI (d))), (2, .int (nI (m))), (3, .int (zb (s_ex (fun h => s_mayA (I 10 (5 * d + 16)) ap h d && s_apt (I 10) m (d + 1) 0 (zs1 ap d (nI h))) i_5))), (4, .int (nI (i_5))), (5, .int (zb (s_mayA (I 10 (5 * d + 16)) ap (i_5) (i_16 + 1)))), (6, .int (nI (i_16 + 1)))]) [2, 3, 4, 5, 6, 1, 0] (by rw [← f_42]; rfl) ?_
                  exact ih_18 (i_16 + 1) (by omega) (by omega)  
                · -- (((I 10 (5 * d + 16)) >>> ((nI (i_16)) &&& 31)) &&& 1) = 0
                  refine z_iconst (v := 1) dX5_isApart_68 (by decide) ?_
                  refine z_goto 73 dX5_isApart_69 (by decide) ?_
                  refine z_istore (lv' := [(5, .int 1), (0, .ref (L 99)), (1, .int (nI (d))), (2, .int (nI (m))), (3, .int (zb (s_ex (fun h => s_mayA (I 10 (5 * d + 16)) ap h d && s_apt (I 10) m (d + 1) 0 (zs1 ap d (nI h))) i_5))), (4, .int (nI (i_5))), (6, .int (nI (i_16)))]) dX5_isApart_73 (by decide) rfl ?_
                  refine z_iinc (v := nI (i_16 + 1)) (lv' := [(6, .int (nI (i_16 + 1))), (5, .int 1), (0, .ref (L 99)), (1, .int (nI (d))), (2, .int (nI (m))), (3, .int (zb (s_ex (fun h => s_mayA (I 10 (5 * d + 16)) ap h d && s_apt (I 10) m (d + 1) 0 (zs1 ap d (nI h))) i_5))), (4, .int (nI (i_5)))]) 6 dX5_isApart_75 rfl (nI_1 _) (by decide) rfl ?_
                  refine z_goto 31 dX5_isApart_78 (by decide) ?_
                  have f_43 : 1 = zb (s_mayA (I 10 (5 * d + 16)) ap (i_5) (i_16 + 1)) := by simp [s_mayA, zb, c_4, c_14, c_15, c_33, c_34, c_36, (s_bit0 _ (show i_16 < 32 by omega)).mp c_41]
                  refine z_lv (lv' := [(0, .ref (L 99)), (1, .int (nI (d))), (2, .int (nI (m))), (3, .int (zb (s_ex (fun h => s_mayA (I 10 (5 * d + 16)) ap h d && s_apt (I 10) m (d + 1) 0 (zs1 ap d (nI h))) i_5))), (4, .int (nI (i_5))), (5, .int (zb (s_mayA (I 10 (5 * d + 16)) ap (i_5) (i_16 + 1)))), (6, .int (nI (i_16 + 1)))]) [2, 3, 4, 5, 6, 1, 0] (by rw [← f_43]; rfl) ?_
                  exact ih_18 (i_16 + 1) (by omega) (by omega)  
        have f_44 : 1 = zb (s_mayA (I 10 (5 * d + 16)) ap (i_5) 0) := by rfl
        refine z_lv (lv' := [(0, .ref (L 99)), (1, .int (nI (d))), (2, .int (nI (m))), (3, .int (zb (s_ex (fun h => s_mayA (I 10 (5 * d + 16)) ap h d && s_apt (I 10) m (d + 1) 0 (zs1 ap d (nI h))) i_5))), (4, .int (nI (i_5))), (5, .int (zb (s_mayA (I 10 (5 * d + 16)) ap (i_5) 0))), (6, .int 0)]) [2, 3, 4, 5, 6, 1, 0] (by rw [← f_44]; rfl) ?_
        exact loop_20 (d - 0) 0 (by omega) (Nat.le_refl _)  
  have f_45 : 0 = zb (s_ex (fun h => s_mayA (I 10 (5 * d + 16)) ap h d && s_apt (I 10) m (d + 1) 0 (zs1 ap d (nI h))) 0) := by rfl
  refine z_lv (lv' := [(0, .ref (L 99)), (1, .int (nI (d))), (2, .int (nI (m))), (3, .int (zb (s_ex (fun h => s_mayA (I 10 (5 * d + 16)) ap h d && s_apt (I 10) m (d + 1) 0 (zs1 ap d (nI h))) 0))), (4, .int 0)]) [2, 3, 4, 1, 0] (by rw [← f_45]; rfl) ?_
  exact loop_9 (m - 0) 0 (by omega) (Nat.le_refl _) _ hap
set_option maxHeartbeats 4000000 in
theorem t_isApart_2 {g : zG} {L : Nat → Nat} {I : Nat → Nat → Int32} {J : Nat → Nat → Int64} {Gb : Nat → Nat → Int32} {X : zX} (hL : tok g L) (d m : Nat) (hd : d + 2 ≤ 6) (hm : m < 2 ^ 30) (h1 : I 10 1 = nI (d + 2)) {ap : Nat → Int32} (hap : ∀ o, o < d → Gb 30 o = ap o) : zN g m_X5_isApart ({ frames := 3, cells := 0, slots := 0, locals := 72 } : Room) [.ref (L 99), .int (nI (d)), .int (nI (m))] (tX g L I J Gb X) (fun rv X' => rv = some (.int (zb (s_apt (I 10) m (d + 2) 2 ap))) ∧ ∃ Gb' : Nat → Nat → Int32, X' = tX g L I J Gb' X ∧ ∀ o, o < d → Gb' 30 o = ap o) := by
  refine zN.of (by decide +kernel) (Nat.le_of_ble_eq_true rfl) rfl ?_
  refine z_lv (lv' := [(0, .ref (L 99)), (1, .int (nI (d))), (2, .int (nI (m)))]) [0, 1, 2] rfl ?_
  refine z_iload_n 1 dX5_isApart_0 rfl ?_
  refine z_aload_n 0 dX5_isApart_1 rfl ?_
  refine z_callV (As := []) (t_days (I := I) hL h1) q1573 q1575 qs53 q121 q1576 nm_X5_days (tX_obj hL) rfl rfl rfl (Nat.le_of_ble_eq_true rfl) ⟨Nat.le_of_ble_eq_true rfl, Nat.le_of_ble_eq_true rfl⟩ dX5_isApart_2 rfl rfl (Nat.le_of_ble_eq_true rfl) (Nat.le_of_ble_eq_true rfl) (fun v_1 X_2 hp_3 => ?_)
  obtain ⟨rfl, rfl⟩ := hp_3
  refine z_st (st' := [.int (nI (d + 2)), .int (nI (d))]) rfl ?_
  refine z_icmp_neN (a := d) (b := d + 2) 10 (by omega) (by omega) dX5_isApart_5 (by decide) (fun c_4 => ?_) (fun c_4 => absurd c_4 ((by omega)))
  refine z_iconst (v := 0) dX5_isApart_10 (by decide) ?_
  refine z_istore_n (lv' := [(3, .int 0), (0, .ref (L 99)), (1, .int (nI (d))), (2, .int (nI (m)))]) dX5_isApart_11 rfl (by decide) rfl ?_
  refine z_iconst (v := 0) dX5_isApart_12 (by decide) ?_
  refine z_istore (lv' := [(4, .int 0), (3, .int 0), (0, .ref (L 99)), (1, .int (nI (d))), (2, .int (nI (m)))]) dX5_isApart_13 (by decide) rfl ?_
  have loop_9 : ∀ (q_6 i_5 : Nat), i_5 + q_6 = m → 0 ≤ i_5 → ∀ (Gb_10 : Nat → Nat → Int32), (∀ o, o < d → Gb_10 30 o = ap o) → zZ g m_X5_isApart (fun rv X' => rv = some (.int (zb (s_apt (I 10) m (d + 2) 2 ap))) ∧ ∃ Gb' : Nat → Nat → Int32, X' = tX g L I J Gb' X ∧ ∀ o, o < d → Gb' 30 o = ap o, zno, ({ frames := 3, cells := 0, slots := 0, locals := 72 } : Room)) 0 0 (tX g L I J Gb_10 X) 15 [(0, .ref (L 99)), (1, .int (nI (d))), (2, .int (nI (m))), (3, .int (zb (s_ex (fun h => s_mayA (I 10 (5 * d + 16)) ap h d && s_apt (I 10) m (d + 2) 1 (zs1 ap d (nI h))) i_5))), (4, .int (nI (i_5)))] [] := by
    intro q_6
    induction q_6 with
    | zero =>
      intro i_5 hb_8 lo_12 Gb_10 hi_11
      obtain rfl : m = i_5 := by omega
      refine z_iload 4 dX5_isApart_15 rfl ?_
      refine z_iload_n 2 dX5_isApart_17 rfl ?_
      refine z_icmp_geN (a := m) (b := m) 117 (by omega) (by omega) dX5_isApart_18 (by decide) (fun c_13 => ?_) (fun c_13 => absurd c_13 (by omega))
      refine z_iload_n 3 dX5_isApart_117 rfl ?_
      exact z_zret dX5_isApart_118 rfl (by first | rfl | decide | exact zb_nar _) (Nat.le_of_ble_eq_true rfl) (Nat.le_of_ble_eq_true rfl) ⟨congrArg some (congrArg Value.int (by show zb _ = zb (s_apt (I 10) m (d + 2) (1 + 1) ap); rw [s_apt_1 (r := 1), show d + 2 - (1 + 1) = d by omega] <;> rfl)), Gb_10, rfl, hi_11⟩
    | succ q_6 ih_7 =>
      intro i_5 hb_8 lo_12 Gb_10 hi_11
      refine z_iload 4 dX5_isApart_15 rfl ?_
      refine z_iload_n 2 dX5_isApart_17 rfl ?_
      refine z_icmp_geN (a := i_5) (b := m) 117 (by omega) (by omega) dX5_isApart_18 (by decide) (fun c_14 => absurd c_14 (by omega)) (fun c_14 => ?_)
      refine z_iload_n 3 dX5_isApart_21 rfl ?_
      refine z_if_neb 117 dX5_isApart_22 (by decide) (fun c_15 => ?_) (fun c_15 => ?_)
      · -- s_ex (fun h => s_mayA (I 10 (5 * d + 16)) ap h d && s_apt (I 10) m (d + 2) 1 (zs1 ap d (nI h))) i_5 = true
        refine z_iload_n 3 dX5_isApart_117 rfl ?_
        exact z_zret dX5_isApart_118 rfl (by first | rfl | decide | exact zb_nar _) (Nat.le_of_ble_eq_true rfl) (Nat.le_of_ble_eq_true rfl) ⟨congrArg some (congrArg Value.int (by show zb _ = zb (s_apt (I 10) m (d + 2) (1 + 1) ap); rw [s_apt_1 (r := 1), show d + 2 - (1 + 1) = d by omega]; exact congrArg zb (c_15.trans (s_ex_up c_15 m (by omega)).symm))), Gb_10, rfl, hi_11⟩
      · -- s_ex (fun h => s_mayA (I 10 (5 * d + 16)) ap h d && s_apt (I 10) m (d + 2) 1 (zs1 ap d (nI h))) i_5 = false
        refine z_iconst (v := 1) dX5_isApart_25 (by decide) ?_
        refine z_istore (lv' := [(5, .int 1), (0, .ref (L 99)), (1, .int (nI (d))), (2, .int (nI (m))), (3, .int (zb (s_ex (fun h => s_mayA (I 10 (5 * d + 16)) ap h d && s_apt (I 10) m (d + 2) 1 (zs1 ap d (nI h))) i_5))), (4, .int (nI (i_5)))]) dX5_isApart_26 (by decide) rfl ?_
        refine z_iconst (v := 0) dX5_isApart_28 (by decide) ?_
        refine z_istore (lv' := [(6, .int 0), (5, .int 1), (0, .ref (L 99)), (1, .int (nI (d))), (2, .int (nI (m))), (3, .int (zb (s_ex (fun h => s_mayA (I 10 (5 * d + 16)) ap h d && s_apt (I 10) m (d + 2) 1 (zs1 ap d (nI h))) i_5))), (4, .int (nI (i_5)))]) dX5_isApart_29 (by decide) rfl ?_
        have loop_20 : ∀ (q_17 i_16 : Nat), i_16 + q_17 = d → 0 ≤ i_16 → zZ g m_X5_isApart (fun rv X' => rv = some (.int (zb (s_apt (I 10) m (d + 2) 2 ap))) ∧ ∃ Gb' : Nat → Nat → Int32, X' = tX g L I J Gb' X ∧ ∀ o, o < d → Gb' 30 o = ap o, zno, ({ frames := 3, cells := 0, slots := 0, locals := 72 } : Room)) 0 0 (tX g L I J Gb_10 X) 31 [(0, .ref (L 99)), (1, .int (nI (d))), (2, .int (nI (m))), (3, .int (zb (s_ex (fun h => s_mayA (I 10 (5 * d + 16)) ap h d && s_apt (I 10) m (d + 2) 1 (zs1 ap d (nI h))) i_5))), (4, .int (nI (i_5))), (5, .int (zb (s_mayA (I 10 (5 * d + 16)) ap (i_5) i_16))), (6, .int (nI (i_16)))] [] := by
          intro q_17
          induction q_17 with
          | zero =>
            intro i_16 hb_19 lo_21  
            obtain rfl : d = i_16 := by omega
            refine z_iload 6 dX5_isApart_31 rfl ?_
            refine z_iload_n 1 dX5_isApart_33 rfl ?_
            refine z_icmp_geN (a := d) (b := d) 81 (by omega) (by omega) dX5_isApart_34 (by decide) (fun c_22 => ?_) (fun c_22 => absurd c_22 (by omega))
            refine z_aload_n 0 dX5_isApart_81 rfl ?_
            refine tz_get (v := .ref (L 30)) 30 hL (by decide) q1623 rfl dX5_isApart_82 ?_
            refine z_iload_n 1 dX5_isApart_85 rfl ?_
            refine z_iload 4 dX5_isApart_86 rfl ?_
            refine tz_iastG 30 (d) hL (by decide) rfl (by show d < 6; omega) dX5_isApart_88 ?_
            refine z_iload 5 dX5_isApart_89 rfl ?_
            refine z_if_eqb 109 dX5_isApart_91 (by decide) (fun c_23 => ?_) (fun c_23 => ?_)
            · -- s_mayA (I 10 (5 * d + 16)) ap (i_5) d = false
              refine z_iconst (v := 0) dX5_isApart_109 (by decide) ?_
              refine z_istore_n (lv' := [(3, .int 0), (0, .ref (L 99)), (1, .int (nI (d))), (2, .int (nI (m))), (4, .int (nI (i_5))), (5, .int (zb (s_mayA (I 10 (5 * d + 16)) ap (i_5) d))), (6, .int (nI (d)))]) dX5_isApart_110 rfl (by decide) rfl ?_
              refine z_iinc (v := nI (i_5 + 1)) (lv' := [(4, .int (nI (i_5 + 1))), (3, .int 0), (0, .ref (L 99)), (1, .int (nI (d))), (2, .int (nI (m))), (5, .int (zb (s_mayA (I 10 (5 * d + 16)) ap (i_5) d))), (6, .int (nI (d)))]) 4 dX5_isApart_111 rfl (nI_1 _) (by decide) rfl ?_
              refine z_goto 15 dX5_isApart_114 (by decide) ?_
              have f_24 : 0 = zb (s_ex (fun h => s_mayA (I 10 (5 * d + 16)) ap h d && s_apt (I 10) m (d + 2) 1 (zs1 ap d (nI h))) (i_5 + 1)) := by simp [s_ex, zb, c_4, c_14, c_15, c_22, c_23]
              refine z_lv (lv' := [(0, .ref (L 99)), (1, .int (nI (d))), (2, .int (nI (m))), (3, .int (zb (s_ex (fun h => s_mayA (I 10 (5 * d + 16)) ap h d && s_apt (I 10) m (d + 2) 1 (zs1 ap d (nI h))) (i_5 + 1)))), (4, .int (nI (i_5 + 1)))]) [2, 3, 4, 1, 0] (by rw [← f_24]; rfl) ?_
              exact ih_7 (i_5 + 1) (by omega) (by omega) _ (s_ap_0 hi_11)
            · -- s_mayA (I 10 (5 * d + 16)) ap (i_5) d = true
              refine z_aload_n 0 dX5_isApart_94 rfl ?_
              refine z_iload_n 1 dX5_isApart_95 rfl ?_
              refine z_iconst (v := 1) dX5_isApart_96 (by decide) ?_
              refine z_iaddN (a := d) (b := 1) dX5_isApart_97 ?_
              refine z_iload_n 2 dX5_isApart_98 rfl ?_
              refine z_callV (As := [.int (nI (d + 1)), .int (nI (m))]) (t_isApart_1 (I := I) (Gb := (zs Gb_10 30 d (nI (i_5)))) hL (d + 1) m (by omega) hm (h1.trans (congrArg nI (by omega))) (ap := zs1 ap d (nI (i_5))) (s_ap_1 hi_11)) q1980 q1982 qs105 q121 q1983 nm_X5_isApart (tX_obj hL) rfl rfl rfl (Nat.le_of_ble_eq_true rfl) ⟨Nat.le_of_ble_eq_true rfl, Nat.le_of_ble_eq_true rfl⟩ dX5_isApart_99 rfl rfl (Nat.le_of_ble_eq_true rfl) (Nat.le_of_ble_eq_true rfl) (fun v_27 X_28 hp_29 => ?_)
              obtain ⟨rfl, Gb_25, rfl, hap_26⟩ := hp_29
              refine z_st (st' := [.int (zb (s_apt (I 10) m (d + 2) 1 (zs1 ap d (nI (i_5)))))]) rfl ?_
              refine z_if_eqb 109 dX5_isApart_102 (by decide) (fun c_30 => ?_) (fun c_30 => ?_)
              · -- s_apt (I 10) m (d + 2) 1 (zs1 ap d (nI (i_5))) = false
                refine z_iconst (v := 0) dX5_isApart_109 (by decide) ?_
                refine z_istore_n (lv' := [(3, .int 0), (0, .ref (L 99)), (1, .int (nI (d))), (2, .int (nI (m))), (4, .int (nI (i_5))), (5, .int (zb (s_mayA (I 10 (5 * d + 16)) ap (i_5) d))), (6, .int (nI (d)))]) dX5_isApart_110 rfl (by decide) rfl ?_
                refine z_iinc (v := nI (i_5 + 1)) (lv' := [(4, .int (nI (i_5 + 1))), (3, .int 0), (0, .ref (L 99)), (1, .int (nI (d))), (2, .int (nI (m))), (5, .int (zb (s_mayA (I 10 (5 * d + 16)) ap (i_5) d))), (6, .int (nI (d)))]) 4 dX5_isApart_111 rfl (nI_1 _) (by decide) rfl ?_
                refine z_goto 15 dX5_isApart_114 (by decide) ?_
                have f_31 : 0 = zb (s_ex (fun h => s_mayA (I 10 (5 * d + 16)) ap h d && s_apt (I 10) m (d + 2) 1 (zs1 ap d (nI h))) (i_5 + 1)) := by simp [s_ex, zb, c_4, c_14, c_15, c_22, c_23, c_30]
                refine z_lv (lv' := [(0, .ref (L 99)), (1, .int (nI (d))), (2, .int (nI (m))), (3, .int (zb (s_ex (fun h => s_mayA (I 10 (5 * d + 16)) ap h d && s_apt (I 10) m (d + 2) 1 (zs1 ap d (nI h))) (i_5 + 1)))), (4, .int (nI (i_5 + 1)))]) [2, 3, 4, 1, 0] (by rw [← f_31]; rfl) ?_
                exact ih_7 (i_5 + 1) (by omega) (by omega) _ (s_ap_2 hap_26)
              · -- s_apt (I 10) m (d + 2) 1 (zs1 ap d (nI (i_5))) = true
                refine z_iconst (v := 1) dX5_isApart_105 (by decide) ?_
                refine z_goto 110 dX5_isApart_106 (by decide) ?_
                refine z_istore_n (lv' := [(3, .int 1), (0, .ref (L 99)), (1, .int (nI (d))), (2, .int (nI (m))), (4, .int (nI (i_5))), (5, .int (zb (s_mayA (I 10 (5 * d + 16)) ap (i_5) d))), (6, .int (nI (d)))]) dX5_isApart_110 rfl (by decide) rfl ?_
                refine z_iinc (v := nI (i_5 + 1)) (lv' := [(4, .int (nI (i_5 + 1))), (3, .int 1), (0, .ref (L 99)), (1, .int (nI (d))), (2, .int (nI (m))), (5, .int (zb (s_mayA (I 10 (5 * d + 16)) ap (i_5) d))), (6, .int (nI (d)))]) 4 dX5_isApart_111 rfl (nI_1 _) (by decide) rfl ?_
                refine z_goto 15 dX5_isApart_114 (by decide) ?_
                have f_32 : 1 = zb (s_ex (fun h => s_mayA (I 10 (5 * d + 16)) ap h d && s_apt (I 10) m (d + 2) 1 (zs1 ap d (nI h))) (i_5 + 1)) := by simp [s_ex, zb, c_4, c_14, c_15, c_22, c_23, c_30]
                refine z_lv (lv' := [(0, .ref (L 99)), (1, .int (nI (d))), (2, .int (nI (m))), (3, .int (zb (s_ex (fun h => s_mayA (I 10 (5 * d + 16)) ap h d && s_apt (I 10) m (d + 2) 1 (zs1 ap d (nI h))) (i_5 + 1)))), (4, .int (nI (i_5 + 1)))]) [2, 3, 4, 1, 0] (by rw [← f_32]; rfl) ?_
                exact ih_7 (i_5 + 1) (by omega) (by omega) _ (s_ap_2 hap_26)
          | succ q_17 ih_18 =>
            intro i_16 hb_19 lo_21  
            refine z_iload 6 dX5_isApart_31 rfl ?_
            refine z_iload_n 1 dX5_isApart_33 rfl ?_
            refine z_icmp_geN (a := i_16) (b := d) 81 (by omega) (by omega) dX5_isApart_34 (by decide) (fun c_33 => absurd c_33 (by omega)) (fun c_33 => ?_)
            refine z_iload 5 dX5_isApart_37 rfl ?_
            refine z_if_eqb 72 dX5_isApart_39 (by decide) (fun c_34 => ?_) (fun c_34 => ?_)
            · -- s_mayA (I 10 (5 * d + 16)) ap (i_5) i_16 = false
              refine z_iconst (v := 0) dX5_isApart_72 (by decide) ?_
              refine z_istore (lv' := [(5, .int 0), (0, .ref (L 99)), (1, .int (nI (d))), (2, .int (nI (m))), (3, .int (zb (s_ex (fun h => s_mayA (I 10 (5 * d + 16)) ap h d && s_apt (I 10) m (d + 2) 1 (zs1 ap d (nI h))) i_5))), (4, .int (nI (i_5))), (6, .int (nI (i_16)))]) dX5_isApart_73 (by decide) rfl ?_
              refine z_iinc (v := nI (i_16 + 1)) (lv' := [(6, .int (nI (i_16 + 1))), (5, .int 0), (0, .ref (L 99)), (1, .int (nI (d))), (2, .int (nI (m))), (3, .int (zb (s_ex (fun h => s_mayA (I 10 (5 * d + 16)) ap h d && s_apt (I 10) m (d + 2) 1 (zs1 ap d (nI h))) i_5))), (4, .int (nI (i_5)))]) 6 dX5_isApart_75 rfl (nI_1 _) (by decide) rfl ?_
              refine z_goto 31 dX5_isApart_78 (by decide) ?_
              have f_35 : 0 = zb (s_mayA (I 10 (5 * d + 16)) ap (i_5) (i_16 + 1)) := by simp [s_mayA, zb, c_4, c_14, c_15, c_33, c_34]
              refine z_lv (lv' := [(0, .ref (L 99)), (1, .int (nI (d))), (2, .int (nI (m))), (3, .int (zb (s_ex (fun h => s_mayA (I 10 (5 * d + 16)) ap h d && s_apt (I 10) m (d + 2) 1 (zs1 ap d (nI h))) i_5))), (4, .int (nI (i_5))), (5, .int (zb (s_mayA (I 10 (5 * d + 16)) ap (i_5) (i_16 + 1)))), (6, .int (nI (i_16 + 1)))]) [2, 3, 4, 5, 6, 1, 0] (by rw [← f_35]; rfl) ?_
              exact ih_18 (i_16 + 1) (by omega) (by omega)  
            · -- s_mayA (I 10 (5 * d + 16)) ap (i_5) i_16 = true
              refine z_aload_n 0 dX5_isApart_42 rfl ?_
              refine tz_get (v := .ref (L 30)) 30 hL (by decide) q1623 rfl dX5_isApart_43 ?_
              refine z_iload 6 dX5_isApart_46 rfl ?_
              refine tz_ialdG (v := ap i_16) 30 (i_16) hL (by decide) rfl (by show i_16 < 6; omega) (hi_11 i_16 (by omega)) dX5_isApart_48 ?_
              refine z_iload 4 dX5_isApart_49 rfl ?_
              refine z_icmp_ne 68 dX5_isApart_51 (by decide) (fun c_36 => ?_) (fun c_36 => ?_)
              · -- ¬ ap i_16 = nI (i_5)
                refine z_iconst (v := 1) dX5_isApart_68 (by decide) ?_
                refine z_goto 73 dX5_isApart_69 (by decide) ?_
                refine z_istore (lv' := [(5, .int 1), (0, .ref (L 99)), (1, .int (nI (d))), (2, .int (nI (m))), (3, .int (zb (s_ex (fun h => s_mayA (I 10 (5 * d + 16)) ap h d && s_apt (I 10) m (d + 2) 1 (zs1 ap d (nI h))) i_5))), (4, .int (nI (i_5))), (6, .int (nI (i_16)))]) dX5_isApart_73 (by decide) rfl ?_
                refine z_iinc (v := nI (i_16 + 1)) (lv' := [(6, .int (nI (i_16 + 1))), (5, .int 1), (0, .ref (L 99)), (1, .int (nI (d))), (2, .int (nI (m))), (3, .int (zb (s_ex (fun h => s_mayA (I 10 (5 * d + 16)) ap h d && s_apt (I 10) m (d + 2) 1 (zs1 ap d (nI h))) i_5))), (4, .int (nI (i_5)))]) 6 dX5_isApart_75 rfl (nI_1 _) (by decide) rfl ?_
                refine z_goto 31 dX5_isApart_78 (by decide) ?_
                have f_37 : 1 = zb (s_mayA (I 10 (5 * d + 16)) ap (i_5) (i_16 + 1)) := by simp [s_mayA, zb, c_4, c_14, c_15, c_33, c_34, c_36]
                refine z_lv (lv' := [(0, .ref (L 99)), (1, .int (nI (d))), (2, .int (nI (m))), (3, .int (zb (s_ex (fun h => s_mayA (I 10 (5 * d + 16)) ap h d && s_apt (I 10) m (d + 2) 1 (zs1 ap d (nI h))) i_5))), (4, .int (nI (i_5))), (5, .int (zb (s_mayA (I 10 (5 * d + 16)) ap (i_5) (i_16 + 1)))), (6, .int (nI (i_16 + 1)))]) [2, 3, 4, 5, 6, 1, 0] (by rw [← f_37]; rfl) ?_
                exact ih_18 (i_16 + 1) (by omega) (by omega)  
              · -- ap i_16 = nI (i_5)
                refine z_aload_n 0 dX5_isApart_54 rfl ?_
                refine z_iload_n 1 dX5_isApart_55 rfl ?_
                refine z_iconst (v := 4) dX5_isApart_56 (by decide) ?_
                refine z_callV (As := [.int (nI (d)), .int 4]) (t_dayOf (I := I) hL d 4 (by omega)) q1577 q1579 qs54 q121 q1580 nm_X5_dayOf (tX_obj hL) rfl rfl rfl (Nat.le_of_ble_eq_true rfl) ⟨Nat.le_of_ble_eq_true rfl, Nat.le_of_ble_eq_true rfl⟩ dX5_isApart_57 rfl rfl (Nat.le_of_ble_eq_true rfl) (Nat.le_of_ble_eq_true rfl) (fun v_38 X_39 hp_40 => ?_)
                obtain ⟨rfl, rfl⟩ := hp_40
                refine z_st (st' := [.int (I 10 (5 * d + 16))]) rfl ?_
                refine z_iload 6 dX5_isApart_60 rfl ?_
                refine z_ishr dX5_isApart_62 ?_
                refine z_iconst (v := 1) dX5_isApart_63 (by decide) ?_
                refine z_iand dX5_isApart_64 ?_
                refine z_if_ne 72 dX5_isApart_65 (by decide) (fun c_41 => ?_) (fun c_41 => ?_)
                · -- ¬ (((I 10 (5 * d + 16)) >>> ((nI (i_16)) &&& 31)) &&& 1) = 0
                  refine z_iconst (v := 0) dX5_isApart_72 (by decide) ?_
                  refine z_istore (lv' := [(5, .int 0), (0, .ref (L 99)), (1, .int (nI (d))), (2, .int (nI (m))), (3, .int (zb (s_ex (fun h => s_mayA (I 10 (5 * d + 16)) ap h d && s_apt (I 10) m (d + 2) 1 (zs1 ap d (nI h))) i_5))), (4, .int (nI (i_5))), (6, .int (nI (i_16)))]) dX5_isApart_73 (by decide) rfl ?_
                  refine z_iinc (v := nI (i_16 + 1)) (lv' := [(6, .int (nI (i_16 + 1))), (5, .int 0), (0, .ref (L 99)), (1, .int (nI (d))), (2, .int (nI (m))), (3, .int (zb (s_ex (fun h => s_mayA (I 10 (5 * d + 16)) ap h d && s_apt (I 10) m (d + 2) 1 (zs1 ap d (nI h))) i_5))), (4, .int (nI (i_5)))]) 6 dX5_isApart_75 rfl (nI_1 _) (by decide) rfl ?_
                  refine z_goto 31 dX5_isApart_78 (by decide) ?_
                  have f_42 : 0 = zb (s_mayA (I 10 (5 * d + 16)) ap (i_5) (i_16 + 1)) := by simp [s_mayA, zb, c_4, c_14, c_15, c_33, c_34, c_36, s_bit1 (show i_16 < 32 by omega) c_41]
                  refine z_lv (lv' := [(0, .ref (L 99)), (1, .int (nI (d))), (2, .int (nI (m))), (3, .int (zb (s_ex (fun h => s_mayA (I 10 (5 * d + 16)) ap h d && s_apt (I 10) m (d + 2) 1 (zs1 ap d (nI h))) i_5))), (4, .int (nI (i_5))), (5, .int (zb (s_mayA (I 10 (5 * d + 16)) ap (i_5) (i_16 + 1)))), (6, .int (nI (i_16 + 1)))]) [2, 3, 4, 5, 6, 1, 0] (by rw [← f_42]; rfl) ?_
                  exact ih_18 (i_16 + 1) (by omega) (by omega)  
                · -- (((I 10 (5 * d + 16)) >>> ((nI (i_16)) &&& 31)) &&& 1) = 0
                  refine z_iconst (v := 1) dX5_isApart_68 (by decide) ?_
                  refine z_goto 73 dX5_isApart_69 (by decide) ?_
                  refine z_istore (lv' := [(5, .int 1), (0, .ref (L 99)), (1, .int (nI (d))), (2, .int (nI (m))), (3, .int (zb (s_ex (fun h => s_mayA (I 10 (5 * d + 16)) ap h d && s_apt (I 10) m (d + 2) 1 (zs1 ap d (nI h))) i_5))), (4, .int (nI (i_5))), (6, .int (nI (i_16)))]) dX5_isApart_73 (by decide) rfl ?_
                  refine z_iinc (v := nI (i_16 + 1)) (lv' := [(6, .int (nI (i_16 + 1))), (5, .int 1), (0, .ref (L 99)), (1, .int (nI (d))), (2, .int (nI (m))), (3, .int (zb (s_ex (fun h => s_mayA (I 10 (5 * d + 16)) ap h d && s_apt (I 10) m (d + 2) 1 (zs1 ap d (nI h))) i_5))), (4, .int (nI (i_5)))]) 6 dX5_isApart_75 rfl (nI_1 _) (by decide) rfl ?_
                  refine z_goto 31 dX5_isApart_78 (by decide) ?_
                  have f_43 : 1 = zb (s_mayA (I 10 (5 * d + 16)) ap (i_5) (i_16 + 1)) := by simp [s_mayA, zb, c_4, c_14, c_15, c_33, c_34, c_36, (s_bit0 _ (show i_16 < 32 by omega)).mp c_41]
                  refine z_lv (lv' := [(0, .ref (L 99)), (1, .int (nI (d))), (2, .int (nI (m))), (3, .int (zb (s_ex (fun h => s_mayA (I 10 (5 * d + 16)) ap h d && s_apt (I 10) m (d + 2) 1 (zs1 ap d (nI h))) i_5))), (4, .int (nI (i_5))), (5, .int (zb (s_mayA (I 10 (5 * d + 16)) ap (i_5) (i_16 + 1)))), (6, .int (nI (i_16 + 1)))]) [2, 3, 4, 5, 6, 1, 0] (by rw [← f_43]; rfl) ?_
                  exact ih_18 (i_16 + 1) (by omega) (by omega)  
        have f_44 : 1 = zb (s_mayA (I 10 (5 * d + 16)) ap (i_5) 0) := by rfl
        refine z_lv (lv' := [(0, .ref (L 99)), (1, .int (nI (d))), (2, .int (nI (m))), (3, .int (zb (s_ex (fun h => s_mayA (I 10 (5 * d + 16)) ap h d && s_apt (I 10) m (d + 2) 1 (zs1 ap d (nI h))) i_5))), (4, .int (nI (i_5))), (5, .int (zb (s_mayA (I 10 (5 * d + 16)) ap (i_5) 0))), (6, .int 0)]) [2, 3, 4, 5, 6, 1, 0] (by rw [← f_44]; rfl) ?_
        exact loop_20 (d - 0) 0 (by omega) (Nat.le_refl _)  
  have f_45 : 0 = zb (s_ex (fun h => s_mayA (I 10 (5 * d + 16)) ap h d && s_apt (I 10) m (d + 2) 1 (zs1 ap d (nI h))) 0) := by rfl
  refine z_lv (lv' := [(0, .ref (L 99)), (1, .int (nI (d))), (2, .int (nI (m))), (3, .int (zb (s_ex (fun h => s_mayA (I 10 (5 * d + 16)) ap h d && s_apt (I 10) m (d + 2) 1 (zs1 ap d (nI h))) 0))), (4, .int 0)]) [2, 3, 4, 1, 0] (by rw [← f_45]; rfl) ?_
  exact loop_9 (m - 0) 0 (by omega) (Nat.le_refl _) _ hap
set_option maxHeartbeats 4000000 in
theorem t_isApart_3 {g : zG} {L : Nat → Nat} {I : Nat → Nat → Int32} {J : Nat → Nat → Int64} {Gb : Nat → Nat → Int32} {X : zX} (hL : tok g L) (d m : Nat) (hd : d + 3 ≤ 6) (hm : m < 2 ^ 30) (h1 : I 10 1 = nI (d + 3)) {ap : Nat → Int32} (hap : ∀ o, o < d → Gb 30 o = ap o) : zN g m_X5_isApart ({ frames := 4, cells := 0, slots := 0, locals := 98 } : Room) [.ref (L 99), .int (nI (d)), .int (nI (m))] (tX g L I J Gb X) (fun rv X' => rv = some (.int (zb (s_apt (I 10) m (d + 3) 3 ap))) ∧ ∃ Gb' : Nat → Nat → Int32, X' = tX g L I J Gb' X ∧ ∀ o, o < d → Gb' 30 o = ap o) := by
  refine zN.of (by decide +kernel) (Nat.le_of_ble_eq_true rfl) rfl ?_
  refine z_lv (lv' := [(0, .ref (L 99)), (1, .int (nI (d))), (2, .int (nI (m)))]) [0, 1, 2] rfl ?_
  refine z_iload_n 1 dX5_isApart_0 rfl ?_
  refine z_aload_n 0 dX5_isApart_1 rfl ?_
  refine z_callV (As := []) (t_days (I := I) hL h1) q1573 q1575 qs53 q121 q1576 nm_X5_days (tX_obj hL) rfl rfl rfl (Nat.le_of_ble_eq_true rfl) ⟨Nat.le_of_ble_eq_true rfl, Nat.le_of_ble_eq_true rfl⟩ dX5_isApart_2 rfl rfl (Nat.le_of_ble_eq_true rfl) (Nat.le_of_ble_eq_true rfl) (fun v_1 X_2 hp_3 => ?_)
  obtain ⟨rfl, rfl⟩ := hp_3
  refine z_st (st' := [.int (nI (d + 3)), .int (nI (d))]) rfl ?_
  refine z_icmp_neN (a := d) (b := d + 3) 10 (by omega) (by omega) dX5_isApart_5 (by decide) (fun c_4 => ?_) (fun c_4 => absurd c_4 ((by omega)))
  refine z_iconst (v := 0) dX5_isApart_10 (by decide) ?_
  refine z_istore_n (lv' := [(3, .int 0), (0, .ref (L 99)), (1, .int (nI (d))), (2, .int (nI (m)))]) dX5_isApart_11 rfl (by decide) rfl ?_
  refine z_iconst (v := 0) dX5_isApart_12 (by decide) ?_
  refine z_istore (lv' := [(4, .int 0), (3, .int 0), (0, .ref (L 99)), (1, .int (nI (d))), (2, .int (nI (m)))]) dX5_isApart_13 (by decide) rfl ?_
  have loop_9 : ∀ (q_6 i_5 : Nat), i_5 + q_6 = m → 0 ≤ i_5 → ∀ (Gb_10 : Nat → Nat → Int32), (∀ o, o < d → Gb_10 30 o = ap o) → zZ g m_X5_isApart (fun rv X' => rv = some (.int (zb (s_apt (I 10) m (d + 3) 3 ap))) ∧ ∃ Gb' : Nat → Nat → Int32, X' = tX g L I J Gb' X ∧ ∀ o, o < d → Gb' 30 o = ap o, zno, ({ frames := 4, cells := 0, slots := 0, locals := 98 } : Room)) 0 0 (tX g L I J Gb_10 X) 15 [(0, .ref (L 99)), (1, .int (nI (d))), (2, .int (nI (m))), (3, .int (zb (s_ex (fun h => s_mayA (I 10 (5 * d + 16)) ap h d && s_apt (I 10) m (d + 3) 2 (zs1 ap d (nI h))) i_5))), (4, .int (nI (i_5)))] [] := by
    intro q_6
    induction q_6 with
    | zero =>
      intro i_5 hb_8 lo_12 Gb_10 hi_11
      obtain rfl : m = i_5 := by omega
      refine z_iload 4 dX5_isApart_15 rfl ?_
      refine z_iload_n 2 dX5_isApart_17 rfl ?_
      refine z_icmp_geN (a := m) (b := m) 117 (by omega) (by omega) dX5_isApart_18 (by decide) (fun c_13 => ?_) (fun c_13 => absurd c_13 (by omega))
      refine z_iload_n 3 dX5_isApart_117 rfl ?_
      exact z_zret dX5_isApart_118 rfl (by first | rfl | decide | exact zb_nar _) (Nat.le_of_ble_eq_true rfl) (Nat.le_of_ble_eq_true rfl) ⟨congrArg some (congrArg Value.int (by show zb _ = zb (s_apt (I 10) m (d + 3) (2 + 1) ap); rw [s_apt_1 (r := 2), show d + 3 - (2 + 1) = d by omega] <;> rfl)), Gb_10, rfl, hi_11⟩
    | succ q_6 ih_7 =>
      intro i_5 hb_8 lo_12 Gb_10 hi_11
      refine z_iload 4 dX5_isApart_15 rfl ?_
      refine z_iload_n 2 dX5_isApart_17 rfl ?_
      refine z_icmp_geN (a := i_5) (b := m) 117 (by omega) (by omega) dX5_isApart_18 (by decide) (fun c_14 => absurd c_14 (by omega)) (fun c_14 => ?_)
      refine z_iload_n 3 dX5_isApart_21 rfl ?_
      refine z_if_neb 117 dX5_isApart_22 (by decide) (fun c_15 => ?_) (fun c_15 => ?_)
      · -- s_ex (fun h => s_mayA (I 10 (5 * d + 16)) ap h d && s_apt (I 10) m (d + 3) 2 (zs1 ap d (nI h))) i_5 = true
        refine z_iload_n 3 dX5_isApart_117 rfl ?_
        exact z_zret dX5_isApart_118 rfl (by first | rfl | decide | exact zb_nar _) (Nat.le_of_ble_eq_true rfl) (Nat.le_of_ble_eq_true rfl) ⟨congrArg some (congrArg Value.int (by show zb _ = zb (s_apt (I 10) m (d + 3) (2 + 1) ap); rw [s_apt_1 (r := 2), show d + 3 - (2 + 1) = d by omega]; exact congrArg zb (c_15.trans (s_ex_up c_15 m (by omega)).symm))), Gb_10, rfl, hi_11⟩
      · -- s_ex (fun h => s_mayA (I 10 (5 * d + 16)) ap h d && s_apt (I 10) m (d + 3) 2 (zs1 ap d (nI h))) i_5 = false
        refine z_iconst (v := 1) dX5_isApart_25 (by decide) ?_
        refine z_istore (lv' := [(5, .int 1), (0, .ref (L 99)), (1, .int (nI (d))), (2, .int (nI (m))), (3, .int (zb (s_ex (fun h => s_mayA (I 10 (5 * d + 16)) ap h d && s_apt (I 10) m (d + 3) 2 (zs1 ap d (nI h))) i_5))), (4, .int (nI (i_5)))]) dX5_isApart_26 (by decide) rfl ?_
        refine z_iconst (v := 0) dX5_isApart_28 (by decide) ?_
        refine z_istore (lv' := [(6, .int 0), (5, .int 1), (0, .ref (L 99)), (1, .int (nI (d))), (2, .int (nI (m))), (3, .int (zb (s_ex (fun h => s_mayA (I 10 (5 * d + 16)) ap h d && s_apt (I 10) m (d + 3) 2 (zs1 ap d (nI h))) i_5))), (4, .int (nI (i_5)))]) dX5_isApart_29 (by decide) rfl ?_
        have loop_20 : ∀ (q_17 i_16 : Nat), i_16 + q_17 = d → 0 ≤ i_16 → zZ g m_X5_isApart (fun rv X' => rv = some (.int (zb (s_apt (I 10) m (d + 3) 3 ap))) ∧ ∃ Gb' : Nat → Nat → Int32, X' = tX g L I J Gb' X ∧ ∀ o, o < d → Gb' 30 o = ap o, zno, ({ frames := 4, cells := 0, slots := 0, locals := 98 } : Room)) 0 0 (tX g L I J Gb_10 X) 31 [(0, .ref (L 99)), (1, .int (nI (d))), (2, .int (nI (m))), (3, .int (zb (s_ex (fun h => s_mayA (I 10 (5 * d + 16)) ap h d && s_apt (I 10) m (d + 3) 2 (zs1 ap d (nI h))) i_5))), (4, .int (nI (i_5))), (5, .int (zb (s_mayA (I 10 (5 * d + 16)) ap (i_5) i_16))), (6, .int (nI (i_16)))] [] := by
          intro q_17
          induction q_17 with
          | zero =>
            intro i_16 hb_19 lo_21  
            obtain rfl : d = i_16 := by omega
            refine z_iload 6 dX5_isApart_31 rfl ?_
            refine z_iload_n 1 dX5_isApart_33 rfl ?_
            refine z_icmp_geN (a := d) (b := d) 81 (by omega) (by omega) dX5_isApart_34 (by decide) (fun c_22 => ?_) (fun c_22 => absurd c_22 (by omega))
            refine z_aload_n 0 dX5_isApart_81 rfl ?_
            refine tz_get (v := .ref (L 30)) 30 hL (by decide) q1623 rfl dX5_isApart_82 ?_
            refine z_iload_n 1 dX5_isApart_85 rfl ?_
            refine z_iload 4 dX5_isApart_86 rfl ?_
            refine tz_iastG 30 (d) hL (by decide) rfl (by show d < 6; omega) dX5_isApart_88 ?_
            refine z_iload 5 dX5_isApart_89 rfl ?_
            refine z_if_eqb 109 dX5_isApart_91 (by decide) (fun c_23 => ?_) (fun c_23 => ?_)
            · -- s_mayA (I 10 (5 * d + 16)) ap (i_5) d = false
              refine z_iconst (v := 0) dX5_isApart_109 (by decide) ?_
              refine z_istore_n (lv' := [(3, .int 0), (0, .ref (L 99)), (1, .int (nI (d))), (2, .int (nI (m))), (4, .int (nI (i_5))), (5, .int (zb (s_mayA (I 10 (5 * d + 16)) ap (i_5) d))), (6, .int (nI (d)))]) dX5_isApart_110 rfl (by decide) rfl ?_
              refine z_iinc (v := nI (i_5 + 1)) (lv' := [(4, .int (nI (i_5 + 1))), (3, .int 0), (0, .ref (L 99)), (1, .int (nI (d))), (2, .int (nI (m))), (5, .int (zb (s_mayA (I 10 (5 * d + 16)) ap (i_5) d))), (6, .int (nI (d)))]) 4 dX5_isApart_111 rfl (nI_1 _) (by decide) rfl ?_
              refine z_goto 15 dX5_isApart_114 (by decide) ?_
              have f_24 : 0 = zb (s_ex (fun h => s_mayA (I 10 (5 * d + 16)) ap h d && s_apt (I 10) m (d + 3) 2 (zs1 ap d (nI h))) (i_5 + 1)) := by simp [s_ex, zb, c_4, c_14, c_15, c_22, c_23]
              refine z_lv (lv' := [(0, .ref (L 99)), (1, .int (nI (d))), (2, .int (nI (m))), (3, .int (zb (s_ex (fun h => s_mayA (I 10 (5 * d + 16)) ap h d && s_apt (I 10) m (d + 3) 2 (zs1 ap d (nI h))) (i_5 + 1)))), (4, .int (nI (i_5 + 1)))]) [2, 3, 4, 1, 0] (by rw [← f_24]; rfl) ?_
              exact ih_7 (i_5 + 1) (by omega) (by omega) _ (s_ap_0 hi_11)
            · -- s_mayA (I 10 (5 * d + 16)) ap (i_5) d = true
              refine z_aload_n 0 dX5_isApart_94 rfl ?_
              refine z_iload_n 1 dX5_isApart_95 rfl ?_
              refine z_iconst (v := 1) dX5_isApart_96 (by decide) ?_
              refine z_iaddN (a := d) (b := 1) dX5_isApart_97 ?_
              refine z_iload_n 2 dX5_isApart_98 rfl ?_
              refine z_callV (As := [.int (nI (d + 1)), .int (nI (m))]) (t_isApart_2 (I := I) (Gb := (zs Gb_10 30 d (nI (i_5)))) hL (d + 1) m (by omega) hm (h1.trans (congrArg nI (by omega))) (ap := zs1 ap d (nI (i_5))) (s_ap_1 hi_11)) q1980 q1982 qs105 q121 q1983 nm_X5_isApart (tX_obj hL) rfl rfl rfl (Nat.le_of_ble_eq_true rfl) ⟨Nat.le_of_ble_eq_true rfl, Nat.le_of_ble_eq_true rfl⟩ dX5_isApart_99 rfl rfl (Nat.le_of_ble_eq_true rfl) (Nat.le_of_ble_eq_true rfl) (fun v_27 X_28 hp_29 => ?_)
              obtain ⟨rfl, Gb_25, rfl, hap_26⟩ := hp_29
              refine z_st (st' := [.int (zb (s_apt (I 10) m (d + 3) 2 (zs1 ap d (nI (i_5)))))]) rfl ?_
              refine z_if_eqb 109 dX5_isApart_102 (by decide) (fun c_30 => ?_) (fun c_30 => ?_)
              · -- s_apt (I 10) m (d + 3) 2 (zs1 ap d (nI (i_5))) = false
                refine z_iconst (v := 0) dX5_isApart_109 (by decide) ?_
                refine z_istore_n (lv' := [(3, .int 0), (0, .ref (L 99)), (1, .int (nI (d))), (2, .int (nI (m))), (4, .int (nI (i_5))), (5, .int (zb (s_mayA (I 10 (5 * d + 16)) ap (i_5) d))), (6, .int (nI (d)))]) dX5_isApart_110 rfl (by decide) rfl ?_
                refine z_iinc (v := nI (i_5 + 1)) (lv' := [(4, .int (nI (i_5 + 1))), (3, .int 0), (0, .ref (L 99)), (1, .int (nI (d))), (2, .int (nI (m))), (5, .int (zb (s_mayA (I 10 (5 * d + 16)) ap (i_5) d))), (6, .int (nI (d)))]) 4 dX5_isApart_111 rfl (nI_1 _) (by decide) rfl ?_
                refine z_goto 15 dX5_isApart_114 (by decide) ?_
                have f_31 : 0 = zb (s_ex (fun h => s_mayA (I 10 (5 * d + 16)) ap h d && s_apt (I 10) m (d + 3) 2 (zs1 ap d (nI h))) (i_5 + 1)) := by simp [s_ex, zb, c_4, c_14, c_15, c_22, c_23, c_30]
                refine z_lv (lv' := [(0, .ref (L 99)), (1, .int (nI (d))), (2, .int (nI (m))), (3, .int (zb (s_ex (fun h => s_mayA (I 10 (5 * d + 16)) ap h d && s_apt (I 10) m (d + 3) 2 (zs1 ap d (nI h))) (i_5 + 1)))), (4, .int (nI (i_5 + 1)))]) [2, 3, 4, 1, 0] (by rw [← f_31]; rfl) ?_
                exact ih_7 (i_5 + 1) (by omega) (by omega) _ (s_ap_2 hap_26)
              · -- s_apt (I 10) m (d + 3) 2 (zs1 ap d (nI (i_5))) = true
                refine z_iconst (v := 1) dX5_isApart_105 (by decide) ?_
                refine z_goto 110 dX5_isApart_106 (by decide) ?_
                refine z_istore_n (lv' := [(3, .int 1), (0, .ref (L 99)), (1, .int (nI (d))), (2, .int (nI (m))), (4, .int (nI (i_5))), (5, .int (zb (s_mayA (I 10 (5 * d + 16)) ap (i_5) d))), (6, .int (nI (d)))]) dX5_isApart_110 rfl (by decide) rfl ?_
                refine z_iinc (v := nI (i_5 + 1)) (lv' := [(4, .int (nI (i_5 + 1))), (3, .int 1), (0, .ref (L 99)), (1, .int (nI (d))), (2, .int (nI (m))), (5, .int (zb (s_mayA (I 10 (5 * d + 16)) ap (i_5) d))), (6, .int (nI (d)))]) 4 dX5_isApart_111 rfl (nI_1 _) (by decide) rfl ?_
                refine z_goto 15 dX5_isApart_114 (by decide) ?_
                have f_32 : 1 = zb (s_ex (fun h => s_mayA (I 10 (5 * d + 16)) ap h d && s_apt (I 10) m (d + 3) 2 (zs1 ap d (nI h))) (i_5 + 1)) := by simp [s_ex, zb, c_4, c_14, c_15, c_22, c_23, c_30]
                refine z_lv (lv' := [(0, .ref (L 99)), (1, .int (nI (d))), (2, .int (nI (m))), (3, .int (zb (s_ex (fun h => s_mayA (I 10 (5 * d + 16)) ap h d && s_apt (I 10) m (d + 3) 2 (zs1 ap d (nI h))) (i_5 + 1)))), (4, .int (nI (i_5 + 1)))]) [2, 3, 4, 1, 0] (by rw [← f_32]; rfl) ?_
                exact ih_7 (i_5 + 1) (by omega) (by omega) _ (s_ap_2 hap_26)
          | succ q_17 ih_18 =>
            intro i_16 hb_19 lo_21  
            refine z_iload 6 dX5_isApart_31 rfl ?_
            refine z_iload_n 1 dX5_isApart_33 rfl ?_
            refine z_icmp_geN (a := i_16) (b := d) 81 (by omega) (by omega) dX5_isApart_34 (by decide) (fun c_33 => absurd c_33 (by omega)) (fun c_33 => ?_)
            refine z_iload 5 dX5_isApart_37 rfl ?_
            refine z_if_eqb 72 dX5_isApart_39 (by decide) (fun c_34 => ?_) (fun c_34 => ?_)
            · -- s_mayA (I 10 (5 * d + 16)) ap (i_5) i_16 = false
              refine z_iconst (v := 0) dX5_isApart_72 (by decide) ?_
              refine z_istore (lv' := [(5, .int 0), (0, .ref (L 99)), (1, .int (nI (d))), (2, .int (nI (m))), (3, .int (zb (s_ex (fun h => s_mayA (I 10 (5 * d + 16)) ap h d && s_apt (I 10) m (d + 3) 2 (zs1 ap d (nI h))) i_5))), (4, .int (nI (i_5))), (6, .int (nI (i_16)))]) dX5_isApart_73 (by decide) rfl ?_
              refine z_iinc (v := nI (i_16 + 1)) (lv' := [(6, .int (nI (i_16 + 1))), (5, .int 0), (0, .ref (L 99)), (1, .int (nI (d))), (2, .int (nI (m))), (3, .int (zb (s_ex (fun h => s_mayA (I 10 (5 * d + 16)) ap h d && s_apt (I 10) m (d + 3) 2 (zs1 ap d (nI h))) i_5))), (4, .int (nI (i_5)))]) 6 dX5_isApart_75 rfl (nI_1 _) (by decide) rfl ?_
              refine z_goto 31 dX5_isApart_78 (by decide) ?_
              have f_35 : 0 = zb (s_mayA (I 10 (5 * d + 16)) ap (i_5) (i_16 + 1)) := by simp [s_mayA, zb, c_4, c_14, c_15, c_33, c_34]
              refine z_lv (lv' := [(0, .ref (L 99)), (1, .int (nI (d))), (2, .int (nI (m))), (3, .int (zb (s_ex (fun h => s_mayA (I 10 (5 * d + 16)) ap h d && s_apt (I 10) m (d + 3) 2 (zs1 ap d (nI h))) i_5))), (4, .int (nI (i_5))), (5, .int (zb (s_mayA (I 10 (5 * d + 16)) ap (i_5) (i_16 + 1)))), (6, .int (nI (i_16 + 1)))]) [2, 3, 4, 5, 6, 1, 0] (by rw [← f_35]; rfl) ?_
              exact ih_18 (i_16 + 1) (by omega) (by omega)  
            · -- s_mayA (I 10 (5 * d + 16)) ap (i_5) i_16 = true
              refine z_aload_n 0 dX5_isApart_42 rfl ?_
              refine tz_get (v := .ref (L 30)) 30 hL (by decide) q1623 rfl dX5_isApart_43 ?_
              refine z_iload 6 dX5_isApart_46 rfl ?_
              refine tz_ialdG (v := ap i_16) 30 (i_16) hL (by decide) rfl (by show i_16 < 6; omega) (hi_11 i_16 (by omega)) dX5_isApart_48 ?_
              refine z_iload 4 dX5_isApart_49 rfl ?_
              refine z_icmp_ne 68 dX5_isApart_51 (by decide) (fun c_36 => ?_) (fun c_36 => ?_)
              · -- ¬ ap i_16 = nI (i_5)
                refine z_iconst (v := 1) dX5_isApart_68 (by decide) ?_
                refine z_goto 73 dX5_isApart_69 (by decide) ?_
                refine z_istore (lv' := [(5, .int 1), (0, .ref (L 99)), (1, .int (nI (d))), (2, .int (nI (m))), (3, .int (zb (s_ex (fun h => s_mayA (I 10 (5 * d + 16)) ap h d && s_apt (I 10) m (d + 3) 2 (zs1 ap d (nI h))) i_5))), (4, .int (nI (i_5))), (6, .int (nI (i_16)))]) dX5_isApart_73 (by decide) rfl ?_
                refine z_iinc (v := nI (i_16 + 1)) (lv' := [(6, .int (nI (i_16 + 1))), (5, .int 1), (0, .ref (L 99)), (1, .int (nI (d))), (2, .int (nI (m))), (3, .int (zb (s_ex (fun h => s_mayA (I 10 (5 * d + 16)) ap h d && s_apt (I 10) m (d + 3) 2 (zs1 ap d (nI h))) i_5))), (4, .int (nI (i_5)))]) 6 dX5_isApart_75 rfl (nI_1 _) (by decide) rfl ?_
                refine z_goto 31 dX5_isApart_78 (by decide) ?_
                have f_37 : 1 = zb (s_mayA (I 10 (5 * d + 16)) ap (i_5) (i_16 + 1)) := by simp [s_mayA, zb, c_4, c_14, c_15, c_33, c_34, c_36]
                refine z_lv (lv' := [(0, .ref (L 99)), (1, .int (nI (d))), (2, .int (nI (m))), (3, .int (zb (s_ex (fun h => s_mayA (I 10 (5 * d + 16)) ap h d && s_apt (I 10) m (d + 3) 2 (zs1 ap d (nI h))) i_5))), (4, .int (nI (i_5))), (5, .int (zb (s_mayA (I 10 (5 * d + 16)) ap (i_5) (i_16 + 1)))), (6, .int (nI (i_16 + 1)))]) [2, 3, 4, 5, 6, 1, 0] (by rw [← f_37]; rfl) ?_
                exact ih_18 (i_16 + 1) (by omega) (by omega)  
              · -- ap i_16 = nI (i_5)
                refine z_aload_n 0 dX5_isApart_54 rfl ?_
                refine z_iload_n 1 dX5_isApart_55 rfl ?_
                refine z_iconst (v := 4) dX5_isApart_56 (by decide) ?_
                refine z_callV (As := [.int (nI (d)), .int 4]) (t_dayOf (I := I) hL d 4 (by omega)) q1577 q1579 qs54 q121 q1580 nm_X5_dayOf (tX_obj hL) rfl rfl rfl (Nat.le_of_ble_eq_true rfl) ⟨Nat.le_of_ble_eq_true rfl, Nat.le_of_ble_eq_true rfl⟩ dX5_isApart_57 rfl rfl (Nat.le_of_ble_eq_true rfl) (Nat.le_of_ble_eq_true rfl) (fun v_38 X_39 hp_40 => ?_)
                obtain ⟨rfl, rfl⟩ := hp_40
                refine z_st (st' := [.int (I 10 (5 * d + 16))]) rfl ?_
                refine z_iload 6 dX5_isApart_60 rfl ?_
                refine z_ishr dX5_isApart_62 ?_
                refine z_iconst (v := 1) dX5_isApart_63 (by decide) ?_
                refine z_iand dX5_isApart_64 ?_
                refine z_if_ne 72 dX5_isApart_65 (by decide) (fun c_41 => ?_) (fun c_41 => ?_)
                · -- ¬ (((I 10 (5 * d + 16)) >>> ((nI (i_16)) &&& 31)) &&& 1) = 0
                  refine z_iconst (v := 0) dX5_isApart_72 (by decide) ?_
                  refine z_istore (lv' := [(5, .int 0), (0, .ref (L 99)), (1, .int (nI (d))), (2, .int (nI (m))), (3, .int (zb (s_ex (fun h => s_mayA (I 10 (5 * d + 16)) ap h d && s_apt (I 10) m (d + 3) 2 (zs1 ap d (nI h))) i_5))), (4, .int (nI (i_5))), (6, .int (nI (i_16)))]) dX5_isApart_73 (by decide) rfl ?_
                  refine z_iinc (v := nI (i_16 + 1)) (lv' := [(6, .int (nI (i_16 + 1))), (5, .int 0), (0, .ref (L 99)), (1, .int (nI (d))), (2, .int (nI (m))), (3, .int (zb (s_ex (fun h => s_mayA (I 10 (5 * d + 16)) ap h d && s_apt (I 10) m (d + 3) 2 (zs1 ap d (nI h))) i_5))), (4, .int (nI (i_5)))]) 6 dX5_isApart_75 rfl (nI_1 _) (by decide) rfl ?_
                  refine z_goto 31 dX5_isApart_78 (by decide) ?_
                  have f_42 : 0 = zb (s_mayA (I 10 (5 * d + 16)) ap (i_5) (i_16 + 1)) := by simp [s_mayA, zb, c_4, c_14, c_15, c_33, c_34, c_36, s_bit1 (show i_16 < 32 by omega) c_41]
                  refine z_lv (lv' := [(0, .ref (L 99)), (1, .int (nI (d))), (2, .int (nI (m))), (3, .int (zb (s_ex (fun h => s_mayA (I 10 (5 * d + 16)) ap h d && s_apt (I 10) m (d + 3) 2 (zs1 ap d (nI h))) i_5))), (4, .int (nI (i_5))), (5, .int (zb (s_mayA (I 10 (5 * d + 16)) ap (i_5) (i_16 + 1)))), (6, .int (nI (i_16 + 1)))]) [2, 3, 4, 5, 6, 1, 0] (by rw [← f_42]; rfl) ?_
                  exact ih_18 (i_16 + 1) (by omega) (by omega)  
                · -- (((I 10 (5 * d + 16)) >>> ((nI (i_16)) &&& 31)) &&& 1) = 0
                  refine z_iconst (v := 1) dX5_isApart_68 (by decide) ?_
                  refine z_goto 73 dX5_isApart_69 (by decide) ?_
                  refine z_istore (lv' := [(5, .int 1), (0, .ref (L 99)), (1, .int (nI (d))), (2, .int (nI (m))), (3, .int (zb (s_ex (fun h => s_mayA (I 10 (5 * d + 16)) ap h d && s_apt (I 10) m (d + 3) 2 (zs1 ap d (nI h))) i_5))), (4, .int (nI (i_5))), (6, .int (nI (i_16)))]) dX5_isApart_73 (by decide) rfl ?_
                  refine z_iinc (v := nI (i_16 + 1)) (lv' := [(6, .int (nI (i_16 + 1))), (5, .int 1), (0, .ref (L 99)), (1, .int (nI (d))), (2, .int (nI (m))), (3, .int (zb (s_ex (fun h => s_mayA (I 10 (5 * d + 16)) ap h d && s_apt (I 10) m (d + 3) 2 (zs1 ap d (nI h))) i_5))), (4, .int (nI (i_5)))]) 6 dX5_isApart_75 rfl (nI_1 _) (by decide) rfl ?_
                  refine z_goto 31 dX5_isApart_78 (by decide) ?_
                  have f_43 : 1 = zb (s_mayA (I 10 (5 * d + 16)) ap (i_5) (i_16 + 1)) := by simp [s_mayA, zb, c_4, c_14, c_15, c_33, c_34, c_36, (s_bit0 _ (show i_16 < 32 by omega)).mp c_41]
                  refine z_lv (lv' := [(0, .ref (L 99)), (1, .int (nI (d))), (2, .int (nI (m))), (3, .int (zb (s_ex (fun h => s_mayA (I 10 (5 * d + 16)) ap h d && s_apt (I 10) m (d + 3) 2 (zs1 ap d (nI h))) i_5))), (4, .int (nI (i_5))), (5, .int (zb (s_mayA (I 10 (5 * d + 16)) ap (i_5) (i_16 + 1)))), (6, .int (nI (i_16 + 1)))]) [2, 3, 4, 5, 6, 1, 0] (by rw [← f_43]; rfl) ?_
                  exact ih_18 (i_16 + 1) (by omega) (by omega)  
        have f_44 : 1 = zb (s_mayA (I 10 (5 * d + 16)) ap (i_5) 0) := by rfl
        refine z_lv (lv' := [(0, .ref (L 99)), (1, .int (nI (d))), (2, .int (nI (m))), (3, .int (zb (s_ex (fun h => s_mayA (I 10 (5 * d + 16)) ap h d && s_apt (I 10) m (d + 3) 2 (zs1 ap d (nI h))) i_5))), (4, .int (nI (i_5))), (5, .int (zb (s_mayA (I 10 (5 * d + 16)) ap (i_5) 0))), (6, .int 0)]) [2, 3, 4, 5, 6, 1, 0] (by rw [← f_44]; rfl) ?_
        exact loop_20 (d - 0) 0 (by omega) (Nat.le_refl _)  
  have f_45 : 0 = zb (s_ex (fun h => s_mayA (I 10 (5 * d + 16)) ap h d && s_apt (I 10) m (d + 3) 2 (zs1 ap d (nI h))) 0) := by rfl
  refine z_lv (lv' := [(0, .ref (L 99)), (1, .int (nI (d))), (2, .int (nI (m))), (3, .int (zb (s_ex (fun h => s_mayA (I 10 (5 * d + 16)) ap h d && s_apt (I 10) m (d + 3) 2 (zs1 ap d (nI h))) 0))), (4, .int 0)]) [2, 3, 4, 1, 0] (by rw [← f_45]; rfl) ?_
  exact loop_9 (m - 0) 0 (by omega) (Nat.le_refl _) _ hap
set_option maxHeartbeats 4000000 in
theorem t_isApart_4 {g : zG} {L : Nat → Nat} {I : Nat → Nat → Int32} {J : Nat → Nat → Int64} {Gb : Nat → Nat → Int32} {X : zX} (hL : tok g L) (d m : Nat) (hd : d + 4 ≤ 6) (hm : m < 2 ^ 30) (h1 : I 10 1 = nI (d + 4)) {ap : Nat → Int32} (hap : ∀ o, o < d → Gb 30 o = ap o) : zN g m_X5_isApart ({ frames := 5, cells := 0, slots := 0, locals := 124 } : Room) [.ref (L 99), .int (nI (d)), .int (nI (m))] (tX g L I J Gb X) (fun rv X' => rv = some (.int (zb (s_apt (I 10) m (d + 4) 4 ap))) ∧ ∃ Gb' : Nat → Nat → Int32, X' = tX g L I J Gb' X ∧ ∀ o, o < d → Gb' 30 o = ap o) := by
  refine zN.of (by decide +kernel) (Nat.le_of_ble_eq_true rfl) rfl ?_
  refine z_lv (lv' := [(0, .ref (L 99)), (1, .int (nI (d))), (2, .int (nI (m)))]) [0, 1, 2] rfl ?_
  refine z_iload_n 1 dX5_isApart_0 rfl ?_
  refine z_aload_n 0 dX5_isApart_1 rfl ?_
  refine z_callV (As := []) (t_days (I := I) hL h1) q1573 q1575 qs53 q121 q1576 nm_X5_days (tX_obj hL) rfl rfl rfl (Nat.le_of_ble_eq_true rfl) ⟨Nat.le_of_ble_eq_true rfl, Nat.le_of_ble_eq_true rfl⟩ dX5_isApart_2 rfl rfl (Nat.le_of_ble_eq_true rfl) (Nat.le_of_ble_eq_true rfl) (fun v_1 X_2 hp_3 => ?_)
  obtain ⟨rfl, rfl⟩ := hp_3
  refine z_st (st' := [.int (nI (d + 4)), .int (nI (d))]) rfl ?_
  refine z_icmp_neN (a := d) (b := d + 4) 10 (by omega) (by omega) dX5_isApart_5 (by decide) (fun c_4 => ?_) (fun c_4 => absurd c_4 ((by omega)))
  refine z_iconst (v := 0) dX5_isApart_10 (by decide) ?_
  refine z_istore_n (lv' := [(3, .int 0), (0, .ref (L 99)), (1, .int (nI (d))), (2, .int (nI (m)))]) dX5_isApart_11 rfl (by decide) rfl ?_
  refine z_iconst (v := 0) dX5_isApart_12 (by decide) ?_
  refine z_istore (lv' := [(4, .int 0), (3, .int 0), (0, .ref (L 99)), (1, .int (nI (d))), (2, .int (nI (m)))]) dX5_isApart_13 (by decide) rfl ?_
  have loop_9 : ∀ (q_6 i_5 : Nat), i_5 + q_6 = m → 0 ≤ i_5 → ∀ (Gb_10 : Nat → Nat → Int32), (∀ o, o < d → Gb_10 30 o = ap o) → zZ g m_X5_isApart (fun rv X' => rv = some (.int (zb (s_apt (I 10) m (d + 4) 4 ap))) ∧ ∃ Gb' : Nat → Nat → Int32, X' = tX g L I J Gb' X ∧ ∀ o, o < d → Gb' 30 o = ap o, zno, ({ frames := 5, cells := 0, slots := 0, locals := 124 } : Room)) 0 0 (tX g L I J Gb_10 X) 15 [(0, .ref (L 99)), (1, .int (nI (d))), (2, .int (nI (m))), (3, .int (zb (s_ex (fun h => s_mayA (I 10 (5 * d + 16)) ap h d && s_apt (I 10) m (d + 4) 3 (zs1 ap d (nI h))) i_5))), (4, .int (nI (i_5)))] [] := by
    intro q_6
    induction q_6 with
    | zero =>
      intro i_5 hb_8 lo_12 Gb_10 hi_11
      obtain rfl : m = i_5 := by omega
      refine z_iload 4 dX5_isApart_15 rfl ?_
      refine z_iload_n 2 dX5_isApart_17 rfl ?_
      refine z_icmp_geN (a := m) (b := m) 117 (by omega) (by omega) dX5_isApart_18 (by decide) (fun c_13 => ?_) (fun c_13 => absurd c_13 (by omega))
      refine z_iload_n 3 dX5_isApart_117 rfl ?_
      exact z_zret dX5_isApart_118 rfl (by first | rfl | decide | exact zb_nar _) (Nat.le_of_ble_eq_true rfl) (Nat.le_of_ble_eq_true rfl) ⟨congrArg some (congrArg Value.int (by show zb _ = zb (s_apt (I 10) m (d + 4) (3 + 1) ap); rw [s_apt_1 (r := 3), show d + 4 - (3 + 1) = d by omega] <;> rfl)), Gb_10, rfl, hi_11⟩
    | succ q_6 ih_7 =>
      intro i_5 hb_8 lo_12 Gb_10 hi_11
      refine z_iload 4 dX5_isApart_15 rfl ?_
      refine z_iload_n 2 dX5_isApart_17 rfl ?_
      refine z_icmp_geN (a := i_5) (b := m) 117 (by omega) (by omega) dX5_isApart_18 (by decide) (fun c_14 => absurd c_14 (by omega)) (fun c_14 => ?_)
      refine z_iload_n 3 dX5_isApart_21 rfl ?_
      refine z_if_neb 117 dX5_isApart_22 (by decide) (fun c_15 => ?_) (fun c_15 => ?_)
      · -- s_ex (fun h => s_mayA (I 10 (5 * d + 16)) ap h d && s_apt (I 10) m (d + 4) 3 (zs1 ap d (nI h))) i_5 = true
        refine z_iload_n 3 dX5_isApart_117 rfl ?_
        exact z_zret dX5_isApart_118 rfl (by first | rfl | decide | exact zb_nar _) (Nat.le_of_ble_eq_true rfl) (Nat.le_of_ble_eq_true rfl) ⟨congrArg some (congrArg Value.int (by show zb _ = zb (s_apt (I 10) m (d + 4) (3 + 1) ap); rw [s_apt_1 (r := 3), show d + 4 - (3 + 1) = d by omega]; exact congrArg zb (c_15.trans (s_ex_up c_15 m (by omega)).symm))), Gb_10, rfl, hi_11⟩
      · -- s_ex (fun h => s_mayA (I 10 (5 * d + 16)) ap h d && s_apt (I 10) m (d + 4) 3 (zs1 ap d (nI h))) i_5 = false
        refine z_iconst (v := 1) dX5_isApart_25 (by decide) ?_
        refine z_istore (lv' := [(5, .int 1), (0, .ref (L 99)), (1, .int (nI (d))), (2, .int (nI (m))), (3, .int (zb (s_ex (fun h => s_mayA (I 10 (5 * d + 16)) ap h d && s_apt (I 10) m (d + 4) 3 (zs1 ap d (nI h))) i_5))), (4, .int (nI (i_5)))]) dX5_isApart_26 (by decide) rfl ?_
        refine z_iconst (v := 0) dX5_isApart_28 (by decide) ?_
        refine z_istore (lv' := [(6, .int 0), (5, .int 1), (0, .ref (L 99)), (1, .int (nI (d))), (2, .int (nI (m))), (3, .int (zb (s_ex (fun h => s_mayA (I 10 (5 * d + 16)) ap h d && s_apt (I 10) m (d + 4) 3 (zs1 ap d (nI h))) i_5))), (4, .int (nI (i_5)))]) dX5_isApart_29 (by decide) rfl ?_
        have loop_20 : ∀ (q_17 i_16 : Nat), i_16 + q_17 = d → 0 ≤ i_16 → zZ g m_X5_isApart (fun rv X' => rv = some (.int (zb (s_apt (I 10) m (d + 4) 4 ap))) ∧ ∃ Gb' : Nat → Nat → Int32, X' = tX g L I J Gb' X ∧ ∀ o, o < d → Gb' 30 o = ap o, zno, ({ frames := 5, cells := 0, slots := 0, locals := 124 } : Room)) 0 0 (tX g L I J Gb_10 X) 31 [(0, .ref (L 99)), (1, .int (nI (d))), (2, .int (nI (m))), (3, .int (zb (s_ex (fun h => s_mayA (I 10 (5 * d + 16)) ap h d && s_apt (I 10) m (d + 4) 3 (zs1 ap d (nI h))) i_5))), (4, .int (nI (i_5))), (5, .int (zb (s_mayA (I 10 (5 * d + 16)) ap (i_5) i_16))), (6, .int (nI (i_16)))] [] := by
          intro q_17
          induction q_17 with
          | zero =>
            intro i_16 hb_19 lo_21  
            obtain rfl : d = i_16 := by omega
            refine z_iload 6 dX5_isApart_31 rfl ?_
            refine z_iload_n 1 dX5_isApart_33 rfl ?_
            refine z_icmp_geN (a := d) (b := d) 81 (by omega) (by omega) dX5_isApart_34 (by decide) (fun c_22 => ?_) (fun c_22 => absurd c_22 (by omega))
            refine z_aload_n 0 dX5_isApart_81 rfl ?_
            refine tz_get (v := .ref (L 30)) 30 hL (by decide) q1623 rfl dX5_isApart_82 ?_
            refine z_iload_n 1 dX5_isApart_85 rfl ?_
            refine z_iload 4 dX5_isApart_86 rfl ?_
            refine tz_iastG 30 (d) hL (by decide) rfl (by show d < 6; omega) dX5_isApart_88 ?_
            refine z_iload 5 dX5_isApart_89 rfl ?_
            refine z_if_eqb 109 dX5_isApart_91 (by decide) (fun c_23 => ?_) (fun c_23 => ?_)
            · -- s_mayA (I 10 (5 * d + 16)) ap (i_5) d = false
              refine z_iconst (v := 0) dX5_isApart_109 (by decide) ?_
              refine z_istore_n (lv' := [(3, .int 0), (0, .ref (L 99)), (1, .int (nI (d))), (2, .int (nI (m))), (4, .int (nI (i_5))), (5, .int (zb (s_mayA (I 10 (5 * d + 16)) ap (i_5) d))), (6, .int (nI (d)))]) dX5_isApart_110 rfl (by decide) rfl ?_
              refine z_iinc (v := nI (i_5 + 1)) (lv' := [(4, .int (nI (i_5 + 1))), (3, .int 0), (0, .ref (L 99)), (1, .int (nI (d))), (2, .int (nI (m))), (5, .int (zb (s_mayA (I 10 (5 * d + 16)) ap (i_5) d))), (6, .int (nI (d)))]) 4 dX5_isApart_111 rfl (nI_1 _) (by decide) rfl ?_
              refine z_goto 15 dX5_isApart_114 (by decide) ?_
              have f_24 : 0 = zb (s_ex (fun h => s_mayA (I 10 (5 * d + 16)) ap h d && s_apt (I 10) m (d + 4) 3 (zs1 ap d (nI h))) (i_5 + 1)) := by simp [s_ex, zb, c_4, c_14, c_15, c_22, c_23]
              refine z_lv (lv' := [(0, .ref (L 99)), (1, .int (nI (d))), (2, .int (nI (m))), (3, .int (zb (s_ex (fun h => s_mayA (I 10 (5 * d + 16)) ap h d && s_apt (I 10) m (d + 4) 3 (zs1 ap d (nI h))) (i_5 + 1)))), (4, .int (nI (i_5 + 1)))]) [2, 3, 4, 1, 0] (by rw [← f_24]; rfl) ?_
              exact ih_7 (i_5 + 1) (by omega) (by omega) _ (s_ap_0 hi_11)
            · -- s_mayA (I 10 (5 * d + 16)) ap (i_5) d = true
              refine z_aload_n 0 dX5_isApart_94 rfl ?_
              refine z_iload_n 1 dX5_isApart_95 rfl ?_
              refine z_iconst (v := 1) dX5_isApart_96 (by decide) ?_
              refine z_iaddN (a := d) (b := 1) dX5_isApart_97 ?_
              refine z_iload_n 2 dX5_isApart_98 rfl ?_
              refine z_callV (As := [.int (nI (d + 1)), .int (nI (m))]) (t_isApart_3 (I := I) (Gb := (zs Gb_10 30 d (nI (i_5)))) hL (d + 1) m (by omega) hm (h1.trans (congrArg nI (by omega))) (ap := zs1 ap d (nI (i_5))) (s_ap_1 hi_11)) q1980 q1982 qs105 q121 q1983 nm_X5_isApart (tX_obj hL) rfl rfl rfl (Nat.le_of_ble_eq_true rfl) ⟨Nat.le_of_ble_eq_true rfl, Nat.le_of_ble_eq_true rfl⟩ dX5_isApart_99 rfl rfl (Nat.le_of_ble_eq_true rfl) (Nat.le_of_ble_eq_true rfl) (fun v_27 X_28 hp_29 => ?_)
              obtain ⟨rfl, Gb_25, rfl, hap_26⟩ := hp_29
              refine z_st (st' := [.int (zb (s_apt (I 10) m (d + 4) 3 (zs1 ap d (nI (i_5)))))]) rfl ?_
              refine z_if_eqb 109 dX5_isApart_102 (by decide) (fun c_30 => ?_) (fun c_30 => ?_)
              · -- s_apt (I 10) m (d + 4) 3 (zs1 ap d (nI (i_5))) = false
                refine z_iconst (v := 0) dX5_isApart_109 (by decide) ?_
                refine z_istore_n (lv' := [(3, .int 0), (0, .ref (L 99)), (1, .int (nI (d))), (2, .int (nI (m))), (4, .int (nI (i_5))), (5, .int (zb (s_mayA (I 10 (5 * d + 16)) ap (i_5) d))), (6, .int (nI (d)))]) dX5_isApart_110 rfl (by decide) rfl ?_
                refine z_iinc (v := nI (i_5 + 1)) (lv' := [(4, .int (nI (i_5 + 1))), (3, .int 0), (0, .ref (L 99)), (1, .int (nI (d))), (2, .int (nI (m))), (5, .int (zb (s_mayA (I 10 (5 * d + 16)) ap (i_5) d))), (6, .int (nI (d)))]) 4 dX5_isApart_111 rfl (nI_1 _) (by decide) rfl ?_
                refine z_goto 15 dX5_isApart_114 (by decide) ?_
                have f_31 : 0 = zb (s_ex (fun h => s_mayA (I 10 (5 * d + 16)) ap h d && s_apt (I 10) m (d + 4) 3 (zs1 ap d (nI h))) (i_5 + 1)) := by simp [s_ex, zb, c_4, c_14, c_15, c_22, c_23, c_30]
                refine z_lv (lv' := [(0, .ref (L 99)), (1, .int (nI (d))), (2, .int (nI (m))), (3, .int (zb (s_ex (fun h => s_mayA (I 10 (5 * d + 16)) ap h d && s_apt (I 10) m (d + 4) 3 (zs1 ap d (nI h))) (i_5 + 1)))), (4, .int (nI (i_5 + 1)))]) [2, 3, 4, 1, 0] (by rw [← f_31]; rfl) ?_
                exact ih_7 (i_5 + 1) (by omega) (by omega) _ (s_ap_2 hap_26)
              · -- s_apt (I 10) m (d + 4) 3 (zs1 ap d (nI (i_5))) = true
                refine z_iconst (v := 1) dX5_isApart_105 (by decide) ?_
                refine z_goto 110 dX5_isApart_106 (by decide) ?_
                refine z_istore_n (lv' := [(3, .int 1), (0, .ref (L 99)), (1, .int (nI (d))), (2, .int (nI (m))), (4, .int (nI (i_5))), (5, .int (zb (s_mayA (I 10 (5 * d + 16)) ap (i_5) d))), (6, .int (nI (d)))]) dX5_isApart_110 rfl (by decide) rfl ?_
                refine z_iinc (v := nI (i_5 + 1)) (lv' := [(4, .int (nI (i_5 + 1))), (3, .int 1), (0, .ref (L 99)), (1, .int (nI (d))), (2, .int (nI (m))), (5, .int (zb (s_mayA (I 10 (5 * d + 16)) ap (i_5) d))), (6, .int (nI (d)))]) 4 dX5_isApart_111 rfl (nI_1 _) (by decide) rfl ?_
                refine z_goto 15 dX5_isApart_114 (by decide) ?_
                have f_32 : 1 = zb (s_ex (fun h => s_mayA (I 10 (5 * d + 16)) ap h d && s_apt (I 10) m (d + 4) 3 (zs1 ap d (nI h))) (i_5 + 1)) := by simp [s_ex, zb, c_4, c_14, c_15, c_22, c_23, c_30]
                refine z_lv (lv' := [(0, .ref (L 99)), (1, .int (nI (d))), (2, .int (nI (m))), (3, .int (zb (s_ex (fun h => s_mayA (I 10 (5 * d + 16)) ap h d && s_apt (I 10) m (d + 4) 3 (zs1 ap d (nI h))) (i_5 + 1)))), (4, .int (nI (i_5 + 1)))]) [2, 3, 4, 1, 0] (by rw [← f_32]; rfl) ?_
                exact ih_7 (i_5 + 1) (by omega) (by omega) _ (s_ap_2 hap_26)
          | succ q_17 ih_18 =>
            intro i_16 hb_19 lo_21  
            refine z_iload 6 dX5_isApart_31 rfl ?_
            refine z_iload_n 1 dX5_isApart_33 rfl ?_
            refine z_icmp_geN (a := i_16) (b := d) 81 (by omega) (by omega) dX5_isApart_34 (by decide) (fun c_33 => absurd c_33 (by omega)) (fun c_33 => ?_)
            refine z_iload 5 dX5_isApart_37 rfl ?_
            refine z_if_eqb 72 dX5_isApart_39 (by decide) (fun c_34 => ?_) (fun c_34 => ?_)
            · -- s_mayA (I 10 (5 * d + 16)) ap (i_5) i_16 = false
              refine z_iconst (v := 0) dX5_isApart_72 (by decide) ?_
              refine z_istore (lv' := [(5, .int 0), (0, .ref (L 99)), (1, .int (nI (d))), (2, .int (nI (m))), (3, .int (zb (s_ex (fun h => s_mayA (I 10 (5 * d + 16)) ap h d && s_apt (I 10) m (d + 4) 3 (zs1 ap d (nI h))) i_5))), (4, .int (nI (i_5))), (6, .int (nI (i_16)))]) dX5_isApart_73 (by decide) rfl ?_
              refine z_iinc (v := nI (i_16 + 1)) (lv' := [(6, .int (nI (i_16 + 1))), (5, .int 0), (0, .ref (L 99)), (1, .int (nI (d))), (2, .int (nI (m))), (3, .int (zb (s_ex (fun h => s_mayA (I 10 (5 * d + 16)) ap h d && s_apt (I 10) m (d + 4) 3 (zs1 ap d (nI h))) i_5))), (4, .int (nI (i_5)))]) 6 dX5_isApart_75 rfl (nI_1 _) (by decide) rfl ?_
              refine z_goto 31 dX5_isApart_78 (by decide) ?_
              have f_35 : 0 = zb (s_mayA (I 10 (5 * d + 16)) ap (i_5) (i_16 + 1)) := by simp [s_mayA, zb, c_4, c_14, c_15, c_33, c_34]
              refine z_lv (lv' := [(0, .ref (L 99)), (1, .int (nI (d))), (2, .int (nI (m))), (3, .int (zb (s_ex (fun h => s_mayA (I 10 (5 * d + 16)) ap h d && s_apt (I 10) m (d + 4) 3 (zs1 ap d (nI h))) i_5))), (4, .int (nI (i_5))), (5, .int (zb (s_mayA (I 10 (5 * d + 16)) ap (i_5) (i_16 + 1)))), (6, .int (nI (i_16 + 1)))]) [2, 3, 4, 5, 6, 1, 0] (by rw [← f_35]; rfl) ?_
              exact ih_18 (i_16 + 1) (by omega) (by omega)  
            · -- s_mayA (I 10 (5 * d + 16)) ap (i_5) i_16 = true
              refine z_aload_n 0 dX5_isApart_42 rfl ?_
              refine tz_get (v := .ref (L 30)) 30 hL (by decide) q1623 rfl dX5_isApart_43 ?_
              refine z_iload 6 dX5_isApart_46 rfl ?_
              refine tz_ialdG (v := ap i_16) 30 (i_16) hL (by decide) rfl (by show i_16 < 6; omega) (hi_11 i_16 (by omega)) dX5_isApart_48 ?_
              refine z_iload 4 dX5_isApart_49 rfl ?_
              refine z_icmp_ne 68 dX5_isApart_51 (by decide) (fun c_36 => ?_) (fun c_36 => ?_)
              · -- ¬ ap i_16 = nI (i_5)
                refine z_iconst (v := 1) dX5_isApart_68 (by decide) ?_
                refine z_goto 73 dX5_isApart_69 (by decide) ?_
                refine z_istore (lv' := [(5, .int 1), (0, .ref (L 99)), (1, .int (nI (d))), (2, .int (nI (m))), (3, .int (zb (s_ex (fun h => s_mayA (I 10 (5 * d + 16)) ap h d && s_apt (I 10) m (d + 4) 3 (zs1 ap d (nI h))) i_5))), (4, .int (nI (i_5))), (6, .int (nI (i_16)))]) dX5_isApart_73 (by decide) rfl ?_
                refine z_iinc (v := nI (i_16 + 1)) (lv' := [(6, .int (nI (i_16 + 1))), (5, .int 1), (0, .ref (L 99)), (1, .int (nI (d))), (2, .int (nI (m))), (3, .int (zb (s_ex (fun h => s_mayA (I 10 (5 * d + 16)) ap h d && s_apt (I 10) m (d + 4) 3 (zs1 ap d (nI h))) i_5))), (4, .int (nI (i_5)))]) 6 dX5_isApart_75 rfl (nI_1 _) (by decide) rfl ?_
                refine z_goto 31 dX5_isApart_78 (by decide) ?_
                have f_37 : 1 = zb (s_mayA (I 10 (5 * d + 16)) ap (i_5) (i_16 + 1)) := by simp [s_mayA, zb, c_4, c_14, c_15, c_33, c_34, c_36]
                refine z_lv (lv' := [(0, .ref (L 99)), (1, .int (nI (d))), (2, .int (nI (m))), (3, .int (zb (s_ex (fun h => s_mayA (I 10 (5 * d + 16)) ap h d && s_apt (I 10) m (d + 4) 3 (zs1 ap d (nI h))) i_5))), (4, .int (nI (i_5))), (5, .int (zb (s_mayA (I 10 (5 * d + 16)) ap (i_5) (i_16 + 1)))), (6, .int (nI (i_16 + 1)))]) [2, 3, 4, 5, 6, 1, 0] (by rw [← f_37]; rfl) ?_
                exact ih_18 (i_16 + 1) (by omega) (by omega)  
              · -- ap i_16 = nI (i_5)
                refine z_aload_n 0 dX5_isApart_54 rfl ?_
                refine z_iload_n 1 dX5_isApart_55 rfl ?_
                refine z_iconst (v := 4) dX5_isApart_56 (by decide) ?_
                refine z_callV (As := [.int (nI (d)), .int 4]) (t_dayOf (I := I) hL d 4 (by omega)) q1577 q1579 qs54 q121 q1580 nm_X5_dayOf (tX_obj hL) rfl rfl rfl (Nat.le_of_ble_eq_true rfl) ⟨Nat.le_of_ble_eq_true rfl, Nat.le_of_ble_eq_true rfl⟩ dX5_isApart_57 rfl rfl (Nat.le_of_ble_eq_true rfl) (Nat.le_of_ble_eq_true rfl) (fun v_38 X_39 hp_40 => ?_)
                obtain ⟨rfl, rfl⟩ := hp_40
                refine z_st (st' := [.int (I 10 (5 * d + 16))]) rfl ?_
                refine z_iload 6 dX5_isApart_60 rfl ?_
                refine z_ishr dX5_isApart_62 ?_
                refine z_iconst (v := 1) dX5_isApart_63 (by decide) ?_
                refine z_iand dX5_isApart_64 ?_
                refine z_if_ne 72 dX5_isApart_65 (by decide) (fun c_41 => ?_) (fun c_41 => ?_)
                · -- ¬ (((I 10 (5 * d + 16)) >>> ((nI (i_16)) &&& 31)) &&& 1) = 0
                  refine z_iconst (v := 0) dX5_isApart_72 (by decide) ?_
                  refine z_istore (lv' := [(5, .int 0), (0, .ref (L 99)), (1, .int (nI (d))), (2, .int (nI (m))), (3, .int (zb (s_ex (fun h => s_mayA (I 10 (5 * d + 16)) ap h d && s_apt (I 10) m (d + 4) 3 (zs1 ap d (nI h))) i_5))), (4, .int (nI (i_5))), (6, .int (nI (i_16)))]) dX5_isApart_73 (by decide) rfl ?_
                  refine z_iinc (v := nI (i_16 + 1)) (lv' := [(6, .int (nI (i_16 + 1))), (5, .int 0), (0, .ref (L 99)), (1, .int (nI (d))), (2, .int (nI (m))), (3, .int (zb (s_ex (fun h => s_mayA (I 10 (5 * d + 16)) ap h d && s_apt (I 10) m (d + 4) 3 (zs1 ap d (nI h))) i_5))), (4, .int (nI (i_5)))]) 6 dX5_isApart_75 rfl (nI_1 _) (by decide) rfl ?_
                  refine z_goto 31 dX5_isApart_78 (by decide) ?_
                  have f_42 : 0 = zb (s_mayA (I 10 (5 * d + 16)) ap (i_5) (i_16 + 1)) := by simp [s_mayA, zb, c_4, c_14, c_15, c_33, c_34, c_36, s_bit1 (show i_16 < 32 by omega) c_41]
                  refine z_lv (lv' := [(0, .ref (L 99)), (1, .int (nI (d))), (2, .int (nI (m))), (3, .int (zb (s_ex (fun h => s_mayA (I 10 (5 * d + 16)) ap h d && s_apt (I 10) m (d + 4) 3 (zs1 ap d (nI h))) i_5))), (4, .int (nI (i_5))), (5, .int (zb (s_mayA (I 10 (5 * d + 16)) ap (i_5) (i_16 + 1)))), (6, .int (nI (i_16 + 1)))]) [2, 3, 4, 5, 6, 1, 0] (by rw [← f_42]; rfl) ?_
                  exact ih_18 (i_16 + 1) (by omega) (by omega)  
                · -- (((I 10 (5 * d + 16)) >>> ((nI (i_16)) &&& 31)) &&& 1) = 0
                  refine z_iconst (v := 1) dX5_isApart_68 (by decide) ?_
                  refine z_goto 73 dX5_isApart_69 (by decide) ?_
                  refine z_istore (lv' := [(5, .int 1), (0, .ref (L 99)), (1, .int (nI (d))), (2, .int (nI (m))), (3, .int (zb (s_ex (fun h => s_mayA (I 10 (5 * d + 16)) ap h d && s_apt (I 10) m (d + 4) 3 (zs1 ap d (nI h))) i_5))), (4, .int (nI (i_5))), (6, .int (nI (i_16)))]) dX5_isApart_73 (by decide) rfl ?_
                  refine z_iinc (v := nI (i_16 + 1)) (lv' := [(6, .int (nI (i_16 + 1))), (5, .int 1), (0, .ref (L 99)), (1, .int (nI (d))), (2, .int (nI (m))), (3, .int (zb (s_ex (fun h => s_mayA (I 10 (5 * d + 16)) ap h d && s_apt (I 10) m (d + 4) 3 (zs1 ap d (nI h))) i_5))), (4, .int (nI (i_5)))]) 6 dX5_isApart_75 rfl (nI_1 _) (by decide) rfl ?_
                  refine z_goto 31 dX5_isApart_78 (by decide) ?_
                  have f_43 : 1 = zb (s_mayA (I 10 (5 * d + 16)) ap (i_5) (i_16 + 1)) := by simp [s_mayA, zb, c_4, c_14, c_15, c_33, c_34, c_36, (s_bit0 _ (show i_16 < 32 by omega)).mp c_41]
                  refine z_lv (lv' := [(0, .ref (L 99)), (1, .int (nI (d))), (2, .int (nI (m))), (3, .int (zb (s_ex (fun h => s_mayA (I 10 (5 * d + 16)) ap h d && s_apt (I 10) m (d + 4) 3 (zs1 ap d (nI h))) i_5))), (4, .int (nI (i_5))), (5, .int (zb (s_mayA (I 10 (5 * d + 16)) ap (i_5) (i_16 + 1)))), (6, .int (nI (i_16 + 1)))]) [2, 3, 4, 5, 6, 1, 0] (by rw [← f_43]; rfl) ?_
                  exact ih_18 (i_16 + 1) (by omega) (by omega)  
        have f_44 : 1 = zb (s_mayA (I 10 (5 * d + 16)) ap (i_5) 0) := by rfl
        refine z_lv (lv' := [(0, .ref (L 99)), (1, .int (nI (d))), (2, .int (nI (m))), (3, .int (zb (s_ex (fun h => s_mayA (I 10 (5 * d + 16)) ap h d && s_apt (I 10) m (d + 4) 3 (zs1 ap d (nI h))) i_5))), (4, .int (nI (i_5))), (5, .int (zb (s_mayA (I 10 (5 * d + 16)) ap (i_5) 0))), (6, .int 0)]) [2, 3, 4, 5, 6, 1, 0] (by rw [← f_44]; rfl) ?_
        exact loop_20 (d - 0) 0 (by omega) (Nat.le_refl _)  
  have f_45 : 0 = zb (s_ex (fun h => s_mayA (I 10 (5 * d + 16)) ap h d && s_apt (I 10) m (d + 4) 3 (zs1 ap d (nI h))) 0) := by rfl
  refine z_lv (lv' := [(0, .ref (L 99)), (1, .int (nI (d))), (2, .int (nI (m))), (3, .int (zb (s_ex (fun h => s_mayA (I 10 (5 * d + 16)) ap h d && s_apt (I 10) m (d + 4) 3 (zs1 ap d (nI h))) 0))), (4, .int 0)]) [2, 3, 4, 1, 0] (by rw [← f_45]; rfl) ?_
  exact loop_9 (m - 0) 0 (by omega) (Nat.le_refl _) _ hap
set_option maxHeartbeats 4000000 in
theorem t_isApart_5 {g : zG} {L : Nat → Nat} {I : Nat → Nat → Int32} {J : Nat → Nat → Int64} {Gb : Nat → Nat → Int32} {X : zX} (hL : tok g L) (d m : Nat) (hd : d + 5 ≤ 6) (hm : m < 2 ^ 30) (h1 : I 10 1 = nI (d + 5)) {ap : Nat → Int32} (hap : ∀ o, o < d → Gb 30 o = ap o) : zN g m_X5_isApart ({ frames := 6, cells := 0, slots := 0, locals := 150 } : Room) [.ref (L 99), .int (nI (d)), .int (nI (m))] (tX g L I J Gb X) (fun rv X' => rv = some (.int (zb (s_apt (I 10) m (d + 5) 5 ap))) ∧ ∃ Gb' : Nat → Nat → Int32, X' = tX g L I J Gb' X ∧ ∀ o, o < d → Gb' 30 o = ap o) := by
  refine zN.of (by decide +kernel) (Nat.le_of_ble_eq_true rfl) rfl ?_
  refine z_lv (lv' := [(0, .ref (L 99)), (1, .int (nI (d))), (2, .int (nI (m)))]) [0, 1, 2] rfl ?_
  refine z_iload_n 1 dX5_isApart_0 rfl ?_
  refine z_aload_n 0 dX5_isApart_1 rfl ?_
  refine z_callV (As := []) (t_days (I := I) hL h1) q1573 q1575 qs53 q121 q1576 nm_X5_days (tX_obj hL) rfl rfl rfl (Nat.le_of_ble_eq_true rfl) ⟨Nat.le_of_ble_eq_true rfl, Nat.le_of_ble_eq_true rfl⟩ dX5_isApart_2 rfl rfl (Nat.le_of_ble_eq_true rfl) (Nat.le_of_ble_eq_true rfl) (fun v_1 X_2 hp_3 => ?_)
  obtain ⟨rfl, rfl⟩ := hp_3
  refine z_st (st' := [.int (nI (d + 5)), .int (nI (d))]) rfl ?_
  refine z_icmp_neN (a := d) (b := d + 5) 10 (by omega) (by omega) dX5_isApart_5 (by decide) (fun c_4 => ?_) (fun c_4 => absurd c_4 ((by omega)))
  refine z_iconst (v := 0) dX5_isApart_10 (by decide) ?_
  refine z_istore_n (lv' := [(3, .int 0), (0, .ref (L 99)), (1, .int (nI (d))), (2, .int (nI (m)))]) dX5_isApart_11 rfl (by decide) rfl ?_
  refine z_iconst (v := 0) dX5_isApart_12 (by decide) ?_
  refine z_istore (lv' := [(4, .int 0), (3, .int 0), (0, .ref (L 99)), (1, .int (nI (d))), (2, .int (nI (m)))]) dX5_isApart_13 (by decide) rfl ?_
  have loop_9 : ∀ (q_6 i_5 : Nat), i_5 + q_6 = m → 0 ≤ i_5 → ∀ (Gb_10 : Nat → Nat → Int32), (∀ o, o < d → Gb_10 30 o = ap o) → zZ g m_X5_isApart (fun rv X' => rv = some (.int (zb (s_apt (I 10) m (d + 5) 5 ap))) ∧ ∃ Gb' : Nat → Nat → Int32, X' = tX g L I J Gb' X ∧ ∀ o, o < d → Gb' 30 o = ap o, zno, ({ frames := 6, cells := 0, slots := 0, locals := 150 } : Room)) 0 0 (tX g L I J Gb_10 X) 15 [(0, .ref (L 99)), (1, .int (nI (d))), (2, .int (nI (m))), (3, .int (zb (s_ex (fun h => s_mayA (I 10 (5 * d + 16)) ap h d && s_apt (I 10) m (d + 5) 4 (zs1 ap d (nI h))) i_5))), (4, .int (nI (i_5)))] [] := by
    intro q_6
    induction q_6 with
    | zero =>
      intro i_5 hb_8 lo_12 Gb_10 hi_11
      obtain rfl : m = i_5 := by omega
      refine z_iload 4 dX5_isApart_15 rfl ?_
      refine z_iload_n 2 dX5_isApart_17 rfl ?_
      refine z_icmp_geN (a := m) (b := m) 117 (by omega) (by omega) dX5_isApart_18 (by decide) (fun c_13 => ?_) (fun c_13 => absurd c_13 (by omega))
      refine z_iload_n 3 dX5_isApart_117 rfl ?_
      exact z_zret dX5_isApart_118 rfl (by first | rfl | decide | exact zb_nar _) (Nat.le_of_ble_eq_true rfl) (Nat.le_of_ble_eq_true rfl) ⟨congrArg some (congrArg Value.int (by show zb _ = zb (s_apt (I 10) m (d + 5) (4 + 1) ap); rw [s_apt_1 (r := 4), show d + 5 - (4 + 1) = d by omega] <;> rfl)), Gb_10, rfl, hi_11⟩
    | succ q_6 ih_7 =>
      intro i_5 hb_8 lo_12 Gb_10 hi_11
      refine z_iload 4 dX5_isApart_15 rfl ?_
      refine z_iload_n 2 dX5_isApart_17 rfl ?_
      refine z_icmp_geN (a := i_5) (b := m) 117 (by omega) (by omega) dX5_isApart_18 (by decide) (fun c_14 => absurd c_14 (by omega)) (fun c_14 => ?_)
      refine z_iload_n 3 dX5_isApart_21 rfl ?_
      refine z_if_neb 117 dX5_isApart_22 (by decide) (fun c_15 => ?_) (fun c_15 => ?_)
      · -- s_ex (fun h => s_mayA (I 10 (5 * d + 16)) ap h d && s_apt (I 10) m (d + 5) 4 (zs1 ap d (nI h))) i_5 = true
        refine z_iload_n 3 dX5_isApart_117 rfl ?_
        exact z_zret dX5_isApart_118 rfl (by first | rfl | decide | exact zb_nar _) (Nat.le_of_ble_eq_true rfl) (Nat.le_of_ble_eq_true rfl) ⟨congrArg some (congrArg Value.int (by show zb _ = zb (s_apt (I 10) m (d + 5) (4 + 1) ap); rw [s_apt_1 (r := 4), show d + 5 - (4 + 1) = d by omega]; exact congrArg zb (c_15.trans (s_ex_up c_15 m (by omega)).symm))), Gb_10, rfl, hi_11⟩
      · -- s_ex (fun h => s_mayA (I 10 (5 * d + 16)) ap h d && s_apt (I 10) m (d + 5) 4 (zs1 ap d (nI h))) i_5 = false
        refine z_iconst (v := 1) dX5_isApart_25 (by decide) ?_
        refine z_istore (lv' := [(5, .int 1), (0, .ref (L 99)), (1, .int (nI (d))), (2, .int (nI (m))), (3, .int (zb (s_ex (fun h => s_mayA (I 10 (5 * d + 16)) ap h d && s_apt (I 10) m (d + 5) 4 (zs1 ap d (nI h))) i_5))), (4, .int (nI (i_5)))]) dX5_isApart_26 (by decide) rfl ?_
        refine z_iconst (v := 0) dX5_isApart_28 (by decide) ?_
        refine z_istore (lv' := [(6, .int 0), (5, .int 1), (0, .ref (L 99)), (1, .int (nI (d))), (2, .int (nI (m))), (3, .int (zb (s_ex (fun h => s_mayA (I 10 (5 * d + 16)) ap h d && s_apt (I 10) m (d + 5) 4 (zs1 ap d (nI h))) i_5))), (4, .int (nI (i_5)))]) dX5_isApart_29 (by decide) rfl ?_
        have loop_20 : ∀ (q_17 i_16 : Nat), i_16 + q_17 = d → 0 ≤ i_16 → zZ g m_X5_isApart (fun rv X' => rv = some (.int (zb (s_apt (I 10) m (d + 5) 5 ap))) ∧ ∃ Gb' : Nat → Nat → Int32, X' = tX g L I J Gb' X ∧ ∀ o, o < d → Gb' 30 o = ap o, zno, ({ frames := 6, cells := 0, slots := 0, locals := 150 } : Room)) 0 0 (tX g L I J Gb_10 X) 31 [(0, .ref (L 99)), (1, .int (nI (d))), (2, .int (nI (m))), (3, .int (zb (s_ex (fun h => s_mayA (I 10 (5 * d + 16)) ap h d && s_apt (I 10) m (d + 5) 4 (zs1 ap d (nI h))) i_5))), (4, .int (nI (i_5))), (5, .int (zb (s_mayA (I 10 (5 * d + 16)) ap (i_5) i_16))), (6, .int (nI (i_16)))] [] := by
          intro q_17
          induction q_17 with
          | zero =>
            intro i_16 hb_19 lo_21  
            obtain rfl : d = i_16 := by omega
            refine z_iload 6 dX5_isApart_31 rfl ?_
            refine z_iload_n 1 dX5_isApart_33 rfl ?_
            refine z_icmp_geN (a := d) (b := d) 81 (by omega) (by omega) dX5_isApart_34 (by decide) (fun c_22 => ?_) (fun c_22 => absurd c_22 (by omega))
            refine z_aload_n 0 dX5_isApart_81 rfl ?_
            refine tz_get (v := .ref (L 30)) 30 hL (by decide) q1623 rfl dX5_isApart_82 ?_
            refine z_iload_n 1 dX5_isApart_85 rfl ?_
            refine z_iload 4 dX5_isApart_86 rfl ?_
            refine tz_iastG 30 (d) hL (by decide) rfl (by show d < 6; omega) dX5_isApart_88 ?_
            refine z_iload 5 dX5_isApart_89 rfl ?_
            refine z_if_eqb 109 dX5_isApart_91 (by decide) (fun c_23 => ?_) (fun c_23 => ?_)
            · -- s_mayA (I 10 (5 * d + 16)) ap (i_5) d = false
              refine z_iconst (v := 0) dX5_isApart_109 (by decide) ?_
              refine z_istore_n (lv' := [(3, .int 0), (0, .ref (L 99)), (1, .int (nI (d))), (2, .int (nI (m))), (4, .int (nI (i_5))), (5, .int (zb (s_mayA (I 10 (5 * d + 16)) ap (i_5) d))), (6, .int (nI (d)))]) dX5_isApart_110 rfl (by decide) rfl ?_
              refine z_iinc (v := nI (i_5 + 1)) (lv' := [(4, .int (nI (i_5 + 1))), (3, .int 0), (0, .ref (L 99)), (1, .int (nI (d))), (2, .int (nI (m))), (5, .int (zb (s_mayA (I 10 (5 * d + 16)) ap (i_5) d))), (6, .int (nI (d)))]) 4 dX5_isApart_111 rfl (nI_1 _) (by decide) rfl ?_
              refine z_goto 15 dX5_isApart_114 (by decide) ?_
              have f_24 : 0 = zb (s_ex (fun h => s_mayA (I 10 (5 * d + 16)) ap h d && s_apt (I 10) m (d + 5) 4 (zs1 ap d (nI h))) (i_5 + 1)) := by simp [s_ex, zb, c_4, c_14, c_15, c_22, c_23]
              refine z_lv (lv' := [(0, .ref (L 99)), (1, .int (nI (d))), (2, .int (nI (m))), (3, .int (zb (s_ex (fun h => s_mayA (I 10 (5 * d + 16)) ap h d && s_apt (I 10) m (d + 5) 4 (zs1 ap d (nI h))) (i_5 + 1)))), (4, .int (nI (i_5 + 1)))]) [2, 3, 4, 1, 0] (by rw [← f_24]; rfl) ?_
              exact ih_7 (i_5 + 1) (by omega) (by omega) _ (s_ap_0 hi_11)
            · -- s_mayA (I 10 (5 * d + 16)) ap (i_5) d = true
              refine z_aload_n 0 dX5_isApart_94 rfl ?_
              refine z_iload_n 1 dX5_isApart_95 rfl ?_
              refine z_iconst (v := 1) dX5_isApart_96 (by decide) ?_
              refine z_iaddN (a := d) (b := 1) dX5_isApart_97 ?_
              refine z_iload_n 2 dX5_isApart_98 rfl ?_
              refine z_callV (As := [.int (nI (d + 1)), .int (nI (m))]) (t_isApart_4 (I := I) (Gb := (zs Gb_10 30 d (nI (i_5)))) hL (d + 1) m (by omega) hm (h1.trans (congrArg nI (by omega))) (ap := zs1 ap d (nI (i_5))) (s_ap_1 hi_11)) q1980 q1982 qs105 q121 q1983 nm_X5_isApart (tX_obj hL) rfl rfl rfl (Nat.le_of_ble_eq_true rfl) ⟨Nat.le_of_ble_eq_true rfl, Nat.le_of_ble_eq_true rfl⟩ dX5_isApart_99 rfl rfl (Nat.le_of_ble_eq_true rfl) (Nat.le_of_ble_eq_true rfl) (fun v_27 X_28 hp_29 => ?_)
              obtain ⟨rfl, Gb_25, rfl, hap_26⟩ := hp_29
              refine z_st (st' := [.int (zb (s_apt (I 10) m (d + 5) 4 (zs1 ap d (nI (i_5)))))]) rfl ?_
              refine z_if_eqb 109 dX5_isApart_102 (by decide) (fun c_30 => ?_) (fun c_30 => ?_)
              · -- s_apt (I 10) m (d + 5) 4 (zs1 ap d (nI (i_5))) = false
                refine z_iconst (v := 0) dX5_isApart_109 (by decide) ?_
                refine z_istore_n (lv' := [(3, .int 0), (0, .ref (L 99)), (1, .int (nI (d))), (2, .int (nI (m))), (4, .int (nI (i_5))), (5, .int (zb (s_mayA (I 10 (5 * d + 16)) ap (i_5) d))), (6, .int (nI (d)))]) dX5_isApart_110 rfl (by decide) rfl ?_
                refine z_iinc (v := nI (i_5 + 1)) (lv' := [(4, .int (nI (i_5 + 1))), (3, .int 0), (0, .ref (L 99)), (1, .int (nI (d))), (2, .int (nI (m))), (5, .int (zb (s_mayA (I 10 (5 * d + 16)) ap (i_5) d))), (6, .int (nI (d)))]) 4 dX5_isApart_111 rfl (nI_1 _) (by decide) rfl ?_
                refine z_goto 15 dX5_isApart_114 (by decide) ?_
                have f_31 : 0 = zb (s_ex (fun h => s_mayA (I 10 (5 * d + 16)) ap h d && s_apt (I 10) m (d + 5) 4 (zs1 ap d (nI h))) (i_5 + 1)) := by simp [s_ex, zb, c_4, c_14, c_15, c_22, c_23, c_30]
                refine z_lv (lv' := [(0, .ref (L 99)), (1, .int (nI (d))), (2, .int (nI (m))), (3, .int (zb (s_ex (fun h => s_mayA (I 10 (5 * d + 16)) ap h d && s_apt (I 10) m (d + 5) 4 (zs1 ap d (nI h))) (i_5 + 1)))), (4, .int (nI (i_5 + 1)))]) [2, 3, 4, 1, 0] (by rw [← f_31]; rfl) ?_
                exact ih_7 (i_5 + 1) (by omega) (by omega) _ (s_ap_2 hap_26)
              · -- s_apt (I 10) m (d + 5) 4 (zs1 ap d (nI (i_5))) = true
                refine z_iconst (v := 1) dX5_isApart_105 (by decide) ?_
                refine z_goto 110 dX5_isApart_106 (by decide) ?_
                refine z_istore_n (lv' := [(3, .int 1), (0, .ref (L 99)), (1, .int (nI (d))), (2, .int (nI (m))), (4, .int (nI (i_5))), (5, .int (zb (s_mayA (I 10 (5 * d + 16)) ap (i_5) d))), (6, .int (nI (d)))]) dX5_isApart_110 rfl (by decide) rfl ?_
                refine z_iinc (v := nI (i_5 + 1)) (lv' := [(4, .int (nI (i_5 + 1))), (3, .int 1), (0, .ref (L 99)), (1, .int (nI (d))), (2, .int (nI (m))), (5, .int (zb (s_mayA (I 10 (5 * d + 16)) ap (i_5) d))), (6, .int (nI (d)))]) 4 dX5_isApart_111 rfl (nI_1 _) (by decide) rfl ?_
                refine z_goto 15 dX5_isApart_114 (by decide) ?_
                have f_32 : 1 = zb (s_ex (fun h => s_mayA (I 10 (5 * d + 16)) ap h d && s_apt (I 10) m (d + 5) 4 (zs1 ap d (nI h))) (i_5 + 1)) := by simp [s_ex, zb, c_4, c_14, c_15, c_22, c_23, c_30]
                refine z_lv (lv' := [(0, .ref (L 99)), (1, .int (nI (d))), (2, .int (nI (m))), (3, .int (zb (s_ex (fun h => s_mayA (I 10 (5 * d + 16)) ap h d && s_apt (I 10) m (d + 5) 4 (zs1 ap d (nI h))) (i_5 + 1)))), (4, .int (nI (i_5 + 1)))]) [2, 3, 4, 1, 0] (by rw [← f_32]; rfl) ?_
                exact ih_7 (i_5 + 1) (by omega) (by omega) _ (s_ap_2 hap_26)
          | succ q_17 ih_18 =>
            intro i_16 hb_19 lo_21  
            refine z_iload 6 dX5_isApart_31 rfl ?_
            refine z_iload_n 1 dX5_isApart_33 rfl ?_
            refine z_icmp_geN (a := i_16) (b := d) 81 (by omega) (by omega) dX5_isApart_34 (by decide) (fun c_33 => absurd c_33 (by omega)) (fun c_33 => ?_)
            refine z_iload 5 dX5_isApart_37 rfl ?_
            refine z_if_eqb 72 dX5_isApart_39 (by decide) (fun c_34 => ?_) (fun c_34 => ?_)
            · -- s_mayA (I 10 (5 * d + 16)) ap (i_5) i_16 = false
              refine z_iconst (v := 0) dX5_isApart_72 (by decide) ?_
              refine z_istore (lv' := [(5, .int 0), (0, .ref (L 99)), (1, .int (nI (d))), (2, .int (nI (m))), (3, .int (zb (s_ex (fun h => s_mayA (I 10 (5 * d + 16)) ap h d && s_apt (I 10) m (d + 5) 4 (zs1 ap d (nI h))) i_5))), (4, .int (nI (i_5))), (6, .int (nI (i_16)))]) dX5_isApart_73 (by decide) rfl ?_
              refine z_iinc (v := nI (i_16 + 1)) (lv' := [(6, .int (nI (i_16 + 1))), (5, .int 0), (0, .ref (L 99)), (1, .int (nI (d))), (2, .int (nI (m))), (3, .int (zb (s_ex (fun h => s_mayA (I 10 (5 * d + 16)) ap h d && s_apt (I 10) m (d + 5) 4 (zs1 ap d (nI h))) i_5))), (4, .int (nI (i_5)))]) 6 dX5_isApart_75 rfl (nI_1 _) (by decide) rfl ?_
              refine z_goto 31 dX5_isApart_78 (by decide) ?_
              have f_35 : 0 = zb (s_mayA (I 10 (5 * d + 16)) ap (i_5) (i_16 + 1)) := by simp [s_mayA, zb, c_4, c_14, c_15, c_33, c_34]
              refine z_lv (lv' := [(0, .ref (L 99)), (1, .int (nI (d))), (2, .int (nI (m))), (3, .int (zb (s_ex (fun h => s_mayA (I 10 (5 * d + 16)) ap h d && s_apt (I 10) m (d + 5) 4 (zs1 ap d (nI h))) i_5))), (4, .int (nI (i_5))), (5, .int (zb (s_mayA (I 10 (5 * d + 16)) ap (i_5) (i_16 + 1)))), (6, .int (nI (i_16 + 1)))]) [2, 3, 4, 5, 6, 1, 0] (by rw [← f_35]; rfl) ?_
              exact ih_18 (i_16 + 1) (by omega) (by omega)  
            · -- s_mayA (I 10 (5 * d + 16)) ap (i_5) i_16 = true
              refine z_aload_n 0 dX5_isApart_42 rfl ?_
              refine tz_get (v := .ref (L 30)) 30 hL (by decide) q1623 rfl dX5_isApart_43 ?_
              refine z_iload 6 dX5_isApart_46 rfl ?_
              refine tz_ialdG (v := ap i_16) 30 (i_16) hL (by decide) rfl (by show i_16 < 6; omega) (hi_11 i_16 (by omega)) dX5_isApart_48 ?_
              refine z_iload 4 dX5_isApart_49 rfl ?_
              refine z_icmp_ne 68 dX5_isApart_51 (by decide) (fun c_36 => ?_) (fun c_36 => ?_)
              · -- ¬ ap i_16 = nI (i_5)
                refine z_iconst (v := 1) dX5_isApart_68 (by decide) ?_
                refine z_goto 73 dX5_isApart_69 (by decide) ?_
                refine z_istore (lv' := [(5, .int 1), (0, .ref (L 99)), (1, .int (nI (d))), (2, .int (nI (m))), (3, .int (zb (s_ex (fun h => s_mayA (I 10 (5 * d + 16)) ap h d && s_apt (I 10) m (d + 5) 4 (zs1 ap d (nI h))) i_5))), (4, .int (nI (i_5))), (6, .int (nI (i_16)))]) dX5_isApart_73 (by decide) rfl ?_
                refine z_iinc (v := nI (i_16 + 1)) (lv' := [(6, .int (nI (i_16 + 1))), (5, .int 1), (0, .ref (L 99)), (1, .int (nI (d))), (2, .int (nI (m))), (3, .int (zb (s_ex (fun h => s_mayA (I 10 (5 * d + 16)) ap h d && s_apt (I 10) m (d + 5) 4 (zs1 ap d (nI h))) i_5))), (4, .int (nI (i_5)))]) 6 dX5_isApart_75 rfl (nI_1 _) (by decide) rfl ?_
                refine z_goto 31 dX5_isApart_78 (by decide) ?_
                have f_37 : 1 = zb (s_mayA (I 10 (5 * d + 16)) ap (i_5) (i_16 + 1)) := by simp [s_mayA, zb, c_4, c_14, c_15, c_33, c_34, c_36]
                refine z_lv (lv' := [(0, .ref (L 99)), (1, .int (nI (d))), (2, .int (nI (m))), (3, .int (zb (s_ex (fun h => s_mayA (I 10 (5 * d + 16)) ap h d && s_apt (I 10) m (d + 5) 4 (zs1 ap d (nI h))) i_5))), (4, .int (nI (i_5))), (5, .int (zb (s_mayA (I 10 (5 * d + 16)) ap (i_5) (i_16 + 1)))), (6, .int (nI (i_16 + 1)))]) [2, 3, 4, 5, 6, 1, 0] (by rw [← f_37]; rfl) ?_
                exact ih_18 (i_16 + 1) (by omega) (by omega)  
              · -- ap i_16 = nI (i_5)
                refine z_aload_n 0 dX5_isApart_54 rfl ?_
                refine z_iload_n 1 dX5_isApart_55 rfl ?_
                refine z_iconst (v := 4) dX5_isApart_56 (by decide) ?_
                refine z_callV (As := [.int (nI (d)), .int 4]) (t_dayOf (I := I) hL d 4 (by omega)) q1577 q1579 qs54 q121 q1580 nm_X5_dayOf (tX_obj hL) rfl rfl rfl (Nat.le_of_ble_eq_true rfl) ⟨Nat.le_of_ble_eq_true rfl, Nat.le_of_ble_eq_true rfl⟩ dX5_isApart_57 rfl rfl (Nat.le_of_ble_eq_true rfl) (Nat.le_of_ble_eq_true rfl) (fun v_38 X_39 hp_40 => ?_)
                obtain ⟨rfl, rfl⟩ := hp_40
                refine z_st (st' := [.int (I 10 (5 * d + 16))]) rfl ?_
                refine z_iload 6 dX5_isApart_60 rfl ?_
                refine z_ishr dX5_isApart_62 ?_
                refine z_iconst (v := 1) dX5_isApart_63 (by decide) ?_
                refine z_iand dX5_isApart_64 ?_
                refine z_if_ne 72 dX5_isApart_65 (by decide) (fun c_41 => ?_) (fun c_41 => ?_)
                · -- ¬ (((I 10 (5 * d + 16)) >>> ((nI (i_16)) &&& 31)) &&& 1) = 0
                  refine z_iconst (v := 0) dX5_isApart_72 (by decide) ?_
                  refine z_istore (lv' := [(5, .int 0), (0, .ref (L 99)), (1, .int (nI (d))), (2, .int (nI (m))), (3, .int (zb (s_ex (fun h => s_mayA (I 10 (5 * d + 16)) ap h d && s_apt (I 10) m (d + 5) 4 (zs1 ap d (nI h))) i_5))), (4, .int (nI (i_5))), (6, .int (nI (i_16)))]) dX5_isApart_73 (by decide) rfl ?_
                  refine z_iinc (v := nI (i_16 + 1)) (lv' := [(6, .int (nI (i_16 + 1))), (5, .int 0), (0, .ref (L 99)), (1, .int (nI (d))), (2, .int (nI (m))), (3, .int (zb (s_ex (fun h => s_mayA (I 10 (5 * d + 16)) ap h d && s_apt (I 10) m (d + 5) 4 (zs1 ap d (nI h))) i_5))), (4, .int (nI (i_5)))]) 6 dX5_isApart_75 rfl (nI_1 _) (by decide) rfl ?_
                  refine z_goto 31 dX5_isApart_78 (by decide) ?_
                  have f_42 : 0 = zb (s_mayA (I 10 (5 * d + 16)) ap (i_5) (i_16 + 1)) := by simp [s_mayA, zb, c_4, c_14, c_15, c_33, c_34, c_36, s_bit1 (show i_16 < 32 by omega) c_41]
                  refine z_lv (lv' := [(0, .ref (L 99)), (1, .int (nI (d))), (2, .int (nI (m))), (3, .int (zb (s_ex (fun h => s_mayA (I 10 (5 * d + 16)) ap h d && s_apt (I 10) m (d + 5) 4 (zs1 ap d (nI h))) i_5))), (4, .int (nI (i_5))), (5, .int (zb (s_mayA (I 10 (5 * d + 16)) ap (i_5) (i_16 + 1)))), (6, .int (nI (i_16 + 1)))]) [2, 3, 4, 5, 6, 1, 0] (by rw [← f_42]; rfl) ?_
                  exact ih_18 (i_16 + 1) (by omega) (by omega)  
                · -- (((I 10 (5 * d + 16)) >>> ((nI (i_16)) &&& 31)) &&& 1) = 0
                  refine z_iconst (v := 1) dX5_isApart_68 (by decide) ?_
                  refine z_goto 73 dX5_isApart_69 (by decide) ?_
                  refine z_istore (lv' := [(5, .int 1), (0, .ref (L 99)), (1, .int (nI (d))), (2, .int (nI (m))), (3, .int (zb (s_ex (fun h => s_mayA (I 10 (5 * d + 16)) ap h d && s_apt (I 10) m (d + 5) 4 (zs1 ap d (nI h))) i_5))), (4, .int (nI (i_5))), (6, .int (nI (i_16)))]) dX5_isApart_73 (by decide) rfl ?_
                  refine z_iinc (v := nI (i_16 + 1)) (lv' := [(6, .int (nI (i_16 + 1))), (5, .int 1), (0, .ref (L 99)), (1, .int (nI (d))), (2, .int (nI (m))), (3, .int (zb (s_ex (fun h => s_mayA (I 10 (5 * d + 16)) ap h d && s_apt (I 10) m (d + 5) 4 (zs1 ap d (nI h))) i_5))), (4, .int (nI (i_5)))]) 6 dX5_isApart_75 rfl (nI_1 _) (by decide) rfl ?_
                  refine z_goto 31 dX5_isApart_78 (by decide) ?_
                  have f_43 : 1 = zb (s_mayA (I 10 (5 * d + 16)) ap (i_5) (i_16 + 1)) := by simp [s_mayA, zb, c_4, c_14, c_15, c_33, c_34, c_36, (s_bit0 _ (show i_16 < 32 by omega)).mp c_41]
                  refine z_lv (lv' := [(0, .ref (L 99)), (1, .int (nI (d))), (2, .int (nI (m))), (3, .int (zb (s_ex (fun h => s_mayA (I 10 (5 * d + 16)) ap h d && s_apt (I 10) m (d + 5) 4 (zs1 ap d (nI h))) i_5))), (4, .int (nI (i_5))), (5, .int (zb (s_mayA (I 10 (5 * d + 16)) ap (i_5) (i_16 + 1)))), (6, .int (nI (i_16 + 1)))]) [2, 3, 4, 5, 6, 1, 0] (by rw [← f_43]; rfl) ?_
                  exact ih_18 (i_16 + 1) (by omega) (by omega)  
        have f_44 : 1 = zb (s_mayA (I 10 (5 * d + 16)) ap (i_5) 0) := by rfl
        refine z_lv (lv' := [(0, .ref (L 99)), (1, .int (nI (d))), (2, .int (nI (m))), (3, .int (zb (s_ex (fun h => s_mayA (I 10 (5 * d + 16)) ap h d && s_apt (I 10) m (d + 5) 4 (zs1 ap d (nI h))) i_5))), (4, .int (nI (i_5))), (5, .int (zb (s_mayA (I 10 (5 * d + 16)) ap (i_5) 0))), (6, .int 0)]) [2, 3, 4, 5, 6, 1, 0] (by rw [← f_44]; rfl) ?_
        exact loop_20 (d - 0) 0 (by omega) (Nat.le_refl _)  
  have f_45 : 0 = zb (s_ex (fun h => s_mayA (I 10 (5 * d + 16)) ap h d && s_apt (I 10) m (d + 5) 4 (zs1 ap d (nI h))) 0) := by rfl
  refine z_lv (lv' := [(0, .ref (L 99)), (1, .int (nI (d))), (2, .int (nI (m))), (3, .int (zb (s_ex (fun h => s_mayA (I 10 (5 * d + 16)) ap h d && s_apt (I 10) m (d + 5) 4 (zs1 ap d (nI h))) 0))), (4, .int 0)]) [2, 3, 4, 1, 0] (by rw [← f_45]; rfl) ?_
  exact loop_9 (m - 0) 0 (by omega) (Nat.le_refl _) _ hap
set_option maxHeartbeats 4000000 in
theorem t_isApart_6 {g : zG} {L : Nat → Nat} {I : Nat → Nat → Int32} {J : Nat → Nat → Int64} {Gb : Nat → Nat → Int32} {X : zX} (hL : tok g L) (d m : Nat) (hd : d + 6 ≤ 6) (hm : m < 2 ^ 30) (h1 : I 10 1 = nI (d + 6)) {ap : Nat → Int32} (hap : ∀ o, o < d → Gb 30 o = ap o) : zN g m_X5_isApart ({ frames := 7, cells := 0, slots := 0, locals := 176 } : Room) [.ref (L 99), .int (nI (d)), .int (nI (m))] (tX g L I J Gb X) (fun rv X' => rv = some (.int (zb (s_apt (I 10) m (d + 6) 6 ap))) ∧ ∃ Gb' : Nat → Nat → Int32, X' = tX g L I J Gb' X ∧ ∀ o, o < d → Gb' 30 o = ap o) := by
  refine zN.of (by decide +kernel) (Nat.le_of_ble_eq_true rfl) rfl ?_
  refine z_lv (lv' := [(0, .ref (L 99)), (1, .int (nI (d))), (2, .int (nI (m)))]) [0, 1, 2] rfl ?_
  refine z_iload_n 1 dX5_isApart_0 rfl ?_
  refine z_aload_n 0 dX5_isApart_1 rfl ?_
  refine z_callV (As := []) (t_days (I := I) hL h1) q1573 q1575 qs53 q121 q1576 nm_X5_days (tX_obj hL) rfl rfl rfl (Nat.le_of_ble_eq_true rfl) ⟨Nat.le_of_ble_eq_true rfl, Nat.le_of_ble_eq_true rfl⟩ dX5_isApart_2 rfl rfl (Nat.le_of_ble_eq_true rfl) (Nat.le_of_ble_eq_true rfl) (fun v_1 X_2 hp_3 => ?_)
  obtain ⟨rfl, rfl⟩ := hp_3
  refine z_st (st' := [.int (nI (d + 6)), .int (nI (d))]) rfl ?_
  refine z_icmp_neN (a := d) (b := d + 6) 10 (by omega) (by omega) dX5_isApart_5 (by decide) (fun c_4 => ?_) (fun c_4 => absurd c_4 ((by omega)))
  refine z_iconst (v := 0) dX5_isApart_10 (by decide) ?_
  refine z_istore_n (lv' := [(3, .int 0), (0, .ref (L 99)), (1, .int (nI (d))), (2, .int (nI (m)))]) dX5_isApart_11 rfl (by decide) rfl ?_
  refine z_iconst (v := 0) dX5_isApart_12 (by decide) ?_
  refine z_istore (lv' := [(4, .int 0), (3, .int 0), (0, .ref (L 99)), (1, .int (nI (d))), (2, .int (nI (m)))]) dX5_isApart_13 (by decide) rfl ?_
  have loop_9 : ∀ (q_6 i_5 : Nat), i_5 + q_6 = m → 0 ≤ i_5 → ∀ (Gb_10 : Nat → Nat → Int32), (∀ o, o < d → Gb_10 30 o = ap o) → zZ g m_X5_isApart (fun rv X' => rv = some (.int (zb (s_apt (I 10) m (d + 6) 6 ap))) ∧ ∃ Gb' : Nat → Nat → Int32, X' = tX g L I J Gb' X ∧ ∀ o, o < d → Gb' 30 o = ap o, zno, ({ frames := 7, cells := 0, slots := 0, locals := 176 } : Room)) 0 0 (tX g L I J Gb_10 X) 15 [(0, .ref (L 99)), (1, .int (nI (d))), (2, .int (nI (m))), (3, .int (zb (s_ex (fun h => s_mayA (I 10 (5 * d + 16)) ap h d && s_apt (I 10) m (d + 6) 5 (zs1 ap d (nI h))) i_5))), (4, .int (nI (i_5)))] [] := by
    intro q_6
    induction q_6 with
    | zero =>
      intro i_5 hb_8 lo_12 Gb_10 hi_11
      obtain rfl : m = i_5 := by omega
      refine z_iload 4 dX5_isApart_15 rfl ?_
      refine z_iload_n 2 dX5_isApart_17 rfl ?_
      refine z_icmp_geN (a := m) (b := m) 117 (by omega) (by omega) dX5_isApart_18 (by decide) (fun c_13 => ?_) (fun c_13 => absurd c_13 (by omega))
      refine z_iload_n 3 dX5_isApart_117 rfl ?_
      exact z_zret dX5_isApart_118 rfl (by first | rfl | decide | exact zb_nar _) (Nat.le_of_ble_eq_true rfl) (Nat.le_of_ble_eq_true rfl) ⟨congrArg some (congrArg Value.int (by show zb _ = zb (s_apt (I 10) m (d + 6) (5 + 1) ap); rw [s_apt_1 (r := 5), show d + 6 - (5 + 1) = d by omega] <;> rfl)), Gb_10, rfl, hi_11⟩
    | succ q_6 ih_7 =>
      intro i_5 hb_8 lo_12 Gb_10 hi_11
      refine z_iload 4 dX5_isApart_15 rfl ?_
      refine z_iload_n 2 dX5_isApart_17 rfl ?_
      refine z_icmp_geN (a := i_5) (b := m) 117 (by omega) (by omega) dX5_isApart_18 (by decide) (fun c_14 => absurd c_14 (by omega)) (fun c_14 => ?_)
      refine z_iload_n 3 dX5_isApart_21 rfl ?_
      refine z_if_neb 117 dX5_isApart_22 (by decide) (fun c_15 => ?_) (fun c_15 => ?_)
      · -- s_ex (fun h => s_mayA (I 10 (5 * d + 16)) ap h d && s_apt (I 10) m (d + 6) 5 (zs1 ap d (nI h))) i_5 = true
        refine z_iload_n 3 dX5_isApart_117 rfl ?_
        exact z_zret dX5_isApart_118 rfl (by first | rfl | decide | exact zb_nar _) (Nat.le_of_ble_eq_true rfl) (Nat.le_of_ble_eq_true rfl) ⟨congrArg some (congrArg Value.int (by show zb _ = zb (s_apt (I 10) m (d + 6) (5 + 1) ap); rw [s_apt_1 (r := 5), show d + 6 - (5 + 1) = d by omega]; exact congrArg zb (c_15.trans (s_ex_up c_15 m (by omega)).symm))), Gb_10, rfl, hi_11⟩
      · -- s_ex (fun h => s_mayA (I 10 (5 * d + 16)) ap h d && s_apt (I 10) m (d + 6) 5 (zs1 ap d (nI h))) i_5 = false
        refine z_iconst (v := 1) dX5_isApart_25 (by decide) ?_
        refine z_istore (lv' := [(5, .int 1), (0, .ref (L 99)), (1, .int (nI (d))), (2, .int (nI (m))), (3, .int (zb (s_ex (fun h => s_mayA (I 10 (5 * d + 16)) ap h d && s_apt (I 10) m (d + 6) 5 (zs1 ap d (nI h))) i_5))), (4, .int (nI (i_5)))]) dX5_isApart_26 (by decide) rfl ?_
        refine z_iconst (v := 0) dX5_isApart_28 (by decide) ?_
        refine z_istore (lv' := [(6, .int 0), (5, .int 1), (0, .ref (L 99)), (1, .int (nI (d))), (2, .int (nI (m))), (3, .int (zb (s_ex (fun h => s_mayA (I 10 (5 * d + 16)) ap h d && s_apt (I 10) m (d + 6) 5 (zs1 ap d (nI h))) i_5))), (4, .int (nI (i_5)))]) dX5_isApart_29 (by decide) rfl ?_
        have loop_20 : ∀ (q_17 i_16 : Nat), i_16 + q_17 = d → 0 ≤ i_16 → zZ g m_X5_isApart (fun rv X' => rv = some (.int (zb (s_apt (I 10) m (d + 6) 6 ap))) ∧ ∃ Gb' : Nat → Nat → Int32, X' = tX g L I J Gb' X ∧ ∀ o, o < d → Gb' 30 o = ap o, zno, ({ frames := 7, cells := 0, slots := 0, locals := 176 } : Room)) 0 0 (tX g L I J Gb_10 X) 31 [(0, .ref (L 99)), (1, .int (nI (d))), (2, .int (nI (m))), (3, .int (zb (s_ex (fun h => s_mayA (I 10 (5 * d + 16)) ap h d && s_apt (I 10) m (d + 6) 5 (zs1 ap d (nI h))) i_5))), (4, .int (nI (i_5))), (5, .int (zb (s_mayA (I 10 (5 * d + 16)) ap (i_5) i_16))), (6, .int (nI (i_16)))] [] := by
          intro q_17
          induction q_17 with
          | zero =>
            intro i_16 hb_19 lo_21  
            obtain rfl : d = i_16 := by omega
            refine z_iload 6 dX5_isApart_31 rfl ?_
            refine z_iload_n 1 dX5_isApart_33 rfl ?_
            refine z_icmp_geN (a := d) (b := d) 81 (by omega) (by omega) dX5_isApart_34 (by decide) (fun c_22 => ?_) (fun c_22 => absurd c_22 (by omega))
            refine z_aload_n 0 dX5_isApart_81 rfl ?_
            refine tz_get (v := .ref (L 30)) 30 hL (by decide) q1623 rfl dX5_isApart_82 ?_
            refine z_iload_n 1 dX5_isApart_85 rfl ?_
            refine z_iload 4 dX5_isApart_86 rfl ?_
            refine tz_iastG 30 (d) hL (by decide) rfl (by show d < 6; omega) dX5_isApart_88 ?_
            refine z_iload 5 dX5_isApart_89 rfl ?_
            refine z_if_eqb 109 dX5_isApart_91 (by decide) (fun c_23 => ?_) (fun c_23 => ?_)
            · -- s_mayA (I 10 (5 * d + 16)) ap (i_5) d = false
              refine z_iconst (v := 0) dX5_isApart_109 (by decide) ?_
              refine z_istore_n (lv' := [(3, .int 0), (0, .ref (L 99)), (1, .int (nI (d))), (2, .int (nI (m))), (4, .int (nI (i_5))), (5, .int (zb (s_mayA (I 10 (5 * d + 16)) ap (i_5) d))), (6, .int (nI (d)))]) dX5_isApart_110 rfl (by decide) rfl ?_
              refine z_iinc (v := nI (i_5 + 1)) (lv' := [(4, .int (nI (i_5 + 1))), (3, .int 0), (0, .ref (L 99)), (1, .int (nI (d))), (2, .int (nI (m))), (5, .int (zb (s_mayA (I 10 (5 * d + 16)) ap (i_5) d))), (6, .int (nI (d)))]) 4 dX5_isApart_111 rfl (nI_1 _) (by decide) rfl ?_
              refine z_goto 15 dX5_isApart_114 (by decide) ?_
              have f_24 : 0 = zb (s_ex (fun h => s_mayA (I 10 (5 * d + 16)) ap h d && s_apt (I 10) m (d + 6) 5 (zs1 ap d (nI h))) (i_5 + 1)) := by simp [s_ex, zb, c_4, c_14, c_15, c_22, c_23]
              refine z_lv (lv' := [(0, .ref (L 99)), (1, .int (nI (d))), (2, .int (nI (m))), (3, .int (zb (s_ex (fun h => s_mayA (I 10 (5 * d + 16)) ap h d && s_apt (I 10) m (d + 6) 5 (zs1 ap d (nI h))) (i_5 + 1)))), (4, .int (nI (i_5 + 1)))]) [2, 3, 4, 1, 0] (by rw [← f_24]; rfl) ?_
              exact ih_7 (i_5 + 1) (by omega) (by omega) _ (s_ap_0 hi_11)
            · -- s_mayA (I 10 (5 * d + 16)) ap (i_5) d = true
              refine z_aload_n 0 dX5_isApart_94 rfl ?_
              refine z_iload_n 1 dX5_isApart_95 rfl ?_
              refine z_iconst (v := 1) dX5_isApart_96 (by decide) ?_
              refine z_iaddN (a := d) (b := 1) dX5_isApart_97 ?_
              refine z_iload_n 2 dX5_isApart_98 rfl ?_
              refine z_callV (As := [.int (nI (d + 1)), .int (nI (m))]) (t_isApart_5 (I := I) (Gb := (zs Gb_10 30 d (nI (i_5)))) hL (d + 1) m (by omega) hm (h1.trans (congrArg nI (by omega))) (ap := zs1 ap d (nI (i_5))) (s_ap_1 hi_11)) q1980 q1982 qs105 q121 q1983 nm_X5_isApart (tX_obj hL) rfl rfl rfl (Nat.le_of_ble_eq_true rfl) ⟨Nat.le_of_ble_eq_true rfl, Nat.le_of_ble_eq_true rfl⟩ dX5_isApart_99 rfl rfl (Nat.le_of_ble_eq_true rfl) (Nat.le_of_ble_eq_true rfl) (fun v_27 X_28 hp_29 => ?_)
              obtain ⟨rfl, Gb_25, rfl, hap_26⟩ := hp_29
              refine z_st (st' := [.int (zb (s_apt (I 10) m (d + 6) 5 (zs1 ap d (nI (i_5)))))]) rfl ?_
              refine z_if_eqb 109 dX5_isApart_102 (by decide) (fun c_30 => ?_) (fun c_30 => ?_)
              · -- s_apt (I 10) m (d + 6) 5 (zs1 ap d (nI (i_5))) = false
                refine z_iconst (v := 0) dX5_isApart_109 (by decide) ?_
                refine z_istore_n (lv' := [(3, .int 0), (0, .ref (L 99)), (1, .int (nI (d))), (2, .int (nI (m))), (4, .int (nI (i_5))), (5, .int (zb (s_mayA (I 10 (5 * d + 16)) ap (i_5) d))), (6, .int (nI (d)))]) dX5_isApart_110 rfl (by decide) rfl ?_
                refine z_iinc (v := nI (i_5 + 1)) (lv' := [(4, .int (nI (i_5 + 1))), (3, .int 0), (0, .ref (L 99)), (1, .int (nI (d))), (2, .int (nI (m))), (5, .int (zb (s_mayA (I 10 (5 * d + 16)) ap (i_5) d))), (6, .int (nI (d)))]) 4 dX5_isApart_111 rfl (nI_1 _) (by decide) rfl ?_
                refine z_goto 15 dX5_isApart_114 (by decide) ?_
                have f_31 : 0 = zb (s_ex (fun h => s_mayA (I 10 (5 * d + 16)) ap h d && s_apt (I 10) m (d + 6) 5 (zs1 ap d (nI h))) (i_5 + 1)) := by simp [s_ex, zb, c_4, c_14, c_15, c_22, c_23, c_30]
                refine z_lv (lv' := [(0, .ref (L 99)), (1, .int (nI (d))), (2, .int (nI (m))), (3, .int (zb (s_ex (fun h => s_mayA (I 10 (5 * d + 16)) ap h d && s_apt (I 10) m (d + 6) 5 (zs1 ap d (nI h))) (i_5 + 1)))), (4, .int (nI (i_5 + 1)))]) [2, 3, 4, 1, 0] (by rw [← f_31]; rfl) ?_
                exact ih_7 (i_5 + 1) (by omega) (by omega) _ (s_ap_2 hap_26)
              · -- s_apt (I 10) m (d + 6) 5 (zs1 ap d (nI (i_5))) = true
                refine z_iconst (v := 1) dX5_isApart_105 (by decide) ?_
                refine z_goto 110 dX5_isApart_106 (by decide) ?_
                refine z_istore_n (lv' := [(3, .int 1), (0, .ref (L 99)), (1, .int (nI (d))), (2, .int (nI (m))), (4, .int (nI (i_5))), (5, .int (zb (s_mayA (I 10 (5 * d + 16)) ap (i_5) d))), (6, .int (nI (d)))]) dX5_isApart_110 rfl (by decide) rfl ?_
                refine z_iinc (v := nI (i_5 + 1)) (lv' := [(4, .int (nI (i_5 + 1))), (3, .int 1), (0, .ref (L 99)), (1, .int (nI (d))), (2, .int (nI (m))), (5, .int (zb (s_mayA (I 10 (5 * d + 16)) ap (i_5) d))), (6, .int (nI (d)))]) 4 dX5_isApart_111 rfl (nI_1 _) (by decide) rfl ?_
                refine z_goto 15 dX5_isApart_114 (by decide) ?_
                have f_32 : 1 = zb (s_ex (fun h => s_mayA (I 10 (5 * d + 16)) ap h d && s_apt (I 10) m (d + 6) 5 (zs1 ap d (nI h))) (i_5 + 1)) := by simp [s_ex, zb, c_4, c_14, c_15, c_22, c_23, c_30]
                refine z_lv (lv' := [(0, .ref (L 99)), (1, .int (nI (d))), (2, .int (nI (m))), (3, .int (zb (s_ex (fun h => s_mayA (I 10 (5 * d + 16)) ap h d && s_apt (I 10) m (d + 6) 5 (zs1 ap d (nI h))) (i_5 + 1)))), (4, .int (nI (i_5 + 1)))]) [2, 3, 4, 1, 0] (by rw [← f_32]; rfl) ?_
                exact ih_7 (i_5 + 1) (by omega) (by omega) _ (s_ap_2 hap_26)
          | succ q_17 ih_18 =>
            intro i_16 hb_19 lo_21  
            refine z_iload 6 dX5_isApart_31 rfl ?_
            refine z_iload_n 1 dX5_isApart_33 rfl ?_
            refine z_icmp_geN (a := i_16) (b := d) 81 (by omega) (by omega) dX5_isApart_34 (by decide) (fun c_33 => absurd c_33 (by omega)) (fun c_33 => ?_)
            refine z_iload 5 dX5_isApart_37 rfl ?_
            refine z_if_eqb 72 dX5_isApart_39 (by decide) (fun c_34 => ?_) (fun c_34 => ?_)
            · -- s_mayA (I 10 (5 * d + 16)) ap (i_5) i_16 = false
              refine z_iconst (v := 0) dX5_isApart_72 (by decide) ?_
              refine z_istore (lv' := [(5, .int 0), (0, .ref (L 99)), (1, .int (nI (d))), (2, .int (nI (m))), (3, .int (zb (s_ex (fun h => s_mayA (I 10 (5 * d + 16)) ap h d && s_apt (I 10) m (d + 6) 5 (zs1 ap d (nI h))) i_5))), (4, .int (nI (i_5))), (6, .int (nI (i_16)))]) dX5_isApart_73 (by decide) rfl ?_
              refine z_iinc (v := nI (i_16 + 1)) (lv' := [(6, .int (nI (i_16 + 1))), (5, .int 0), (0, .ref (L 99)), (1, .int (nI (d))), (2, .int (nI (m))), (3, .int (zb (s_ex (fun h => s_mayA (I 10 (5 * d + 16)) ap h d && s_apt (I 10) m (d + 6) 5 (zs1 ap d (nI h))) i_5))), (4, .int (nI (i_5)))]) 6 dX5_isApart_75 rfl (nI_1 _) (by decide) rfl ?_
              refine z_goto 31 dX5_isApart_78 (by decide) ?_
              have f_35 : 0 = zb (s_mayA (I 10 (5 * d + 16)) ap (i_5) (i_16 + 1)) := by simp [s_mayA, zb, c_4, c_14, c_15, c_33, c_34]
              refine z_lv (lv' := [(0, .ref (L 99)), (1, .int (nI (d))), (2, .int (nI (m))), (3, .int (zb (s_ex (fun h => s_mayA (I 10 (5 * d + 16)) ap h d && s_apt (I 10) m (d + 6) 5 (zs1 ap d (nI h))) i_5))), (4, .int (nI (i_5))), (5, .int (zb (s_mayA (I 10 (5 * d + 16)) ap (i_5) (i_16 + 1)))), (6, .int (nI (i_16 + 1)))]) [2, 3, 4, 5, 6, 1, 0] (by rw [← f_35]; rfl) ?_
              exact ih_18 (i_16 + 1) (by omega) (by omega)  
            · -- s_mayA (I 10 (5 * d + 16)) ap (i_5) i_16 = true
              refine z_aload_n 0 dX5_isApart_42 rfl ?_
              refine tz_get (v := .ref (L 30)) 30 hL (by decide) q1623 rfl dX5_isApart_43 ?_
              refine z_iload 6 dX5_isApart_46 rfl ?_
              refine tz_ialdG (v := ap i_16) 30 (i_16) hL (by decide) rfl (by show i_16 < 6; omega) (hi_11 i_16 (by omega)) dX5_isApart_48 ?_
              refine z_iload 4 dX5_isApart_49 rfl ?_
              refine z_icmp_ne 68 dX5_isApart_51 (by decide) (fun c_36 => ?_) (fun c_36 => ?_)
              · -- ¬ ap i_16 = nI (i_5)
                refine z_iconst (v := 1) dX5_isApart_68 (by decide) ?_
                refine z_goto 73 dX5_isApart_69 (by decide) ?_
                refine z_istore (lv' := [(5, .int 1), (0, .ref (L 99)), (1, .int (nI (d))), (2, .int (nI (m))), (3, .int (zb (s_ex (fun h => s_mayA (I 10 (5 * d + 16)) ap h d && s_apt (I 10) m (d + 6) 5 (zs1 ap d (nI h))) i_5))), (4, .int (nI (i_5))), (6, .int (nI (i_16)))]) dX5_isApart_73 (by decide) rfl ?_
                refine z_iinc (v := nI (i_16 + 1)) (lv' := [(6, .int (nI (i_16 + 1))), (5, .int 1), (0, .ref (L 99)), (1, .int (nI (d))), (2, .int (nI (m))), (3, .int (zb (s_ex (fun h => s_mayA (I 10 (5 * d + 16)) ap h d && s_apt (I 10) m (d + 6) 5 (zs1 ap d (nI h))) i_5))), (4, .int (nI (i_5)))]) 6 dX5_isApart_75 rfl (nI_1 _) (by decide) rfl ?_
                refine z_goto 31 dX5_isApart_78 (by decide) ?_
                have f_37 : 1 = zb (s_mayA (I 10 (5 * d + 16)) ap (i_5) (i_16 + 1)) := by simp [s_mayA, zb, c_4, c_14, c_15, c_33, c_34, c_36]
                refine z_lv (lv' := [(0, .ref (L 99)), (1, .int (nI (d))), (2, .int (nI (m))), (3, .int (zb (s_ex (fun h => s_mayA (I 10 (5 * d + 16)) ap h d && s_apt (I 10) m (d + 6) 5 (zs1 ap d (nI h))) i_5))), (4, .int (nI (i_5))), (5, .int (zb (s_mayA (I 10 (5 * d + 16)) ap (i_5) (i_16 + 1)))), (6, .int (nI (i_16 + 1)))]) [2, 3, 4, 5, 6, 1, 0] (by rw [← f_37]; rfl) ?_
                exact ih_18 (i_16 + 1) (by omega) (by omega)  
              · -- ap i_16 = nI (i_5)
                refine z_aload_n 0 dX5_isApart_54 rfl ?_
                refine z_iload_n 1 dX5_isApart_55 rfl ?_
                refine z_iconst (v := 4) dX5_isApart_56 (by decide) ?_
                refine z_callV (As := [.int (nI (d)), .int 4]) (t_dayOf (I := I) hL d 4 (by omega)) q1577 q1579 qs54 q121 q1580 nm_X5_dayOf (tX_obj hL) rfl rfl rfl (Nat.le_of_ble_eq_true rfl) ⟨Nat.le_of_ble_eq_true rfl, Nat.le_of_ble_eq_true rfl⟩ dX5_isApart_57 rfl rfl (Nat.le_of_ble_eq_true rfl) (Nat.le_of_ble_eq_true rfl) (fun v_38 X_39 hp_40 => ?_)
                obtain ⟨rfl, rfl⟩ := hp_40
                refine z_st (st' := [.int (I 10 (5 * d + 16))]) rfl ?_
                refine z_iload 6 dX5_isApart_60 rfl ?_
                refine z_ishr dX5_isApart_62 ?_
                refine z_iconst (v := 1) dX5_isApart_63 (by decide) ?_
                refine z_iand dX5_isApart_64 ?_
                refine z_if_ne 72 dX5_isApart_65 (by decide) (fun c_41 => ?_) (fun c_41 => ?_)
                · -- ¬ (((I 10 (5 * d + 16)) >>> ((nI (i_16)) &&& 31)) &&& 1) = 0
                  refine z_iconst (v := 0) dX5_isApart_72 (by decide) ?_
                  refine z_istore (lv' := [(5, .int 0), (0, .ref (L 99)), (1, .int (nI (d))), (2, .int (nI (m))), (3, .int (zb (s_ex (fun h => s_mayA (I 10 (5 * d + 16)) ap h d && s_apt (I 10) m (d + 6) 5 (zs1 ap d (nI h))) i_5))), (4, .int (nI (i_5))), (6, .int (nI (i_16)))]) dX5_isApart_73 (by decide) rfl ?_
                  refine z_iinc (v := nI (i_16 + 1)) (lv' := [(6, .int (nI (i_16 + 1))), (5, .int 0), (0, .ref (L 99)), (1, .int (nI (d))), (2, .int (nI (m))), (3, .int (zb (s_ex (fun h => s_mayA (I 10 (5 * d + 16)) ap h d && s_apt (I 10) m (d + 6) 5 (zs1 ap d (nI h))) i_5))), (4, .int (nI (i_5)))]) 6 dX5_isApart_75 rfl (nI_1 _) (by decide) rfl ?_
                  refine z_goto 31 dX5_isApart_78 (by decide) ?_
                  have f_42 : 0 = zb (s_mayA (I 10 (5 * d + 16)) ap (i_5) (i_16 + 1)) := by simp [s_mayA, zb, c_4, c_14, c_15, c_33, c_34, c_36, s_bit1 (show i_16 < 32 by omega) c_41]
                  refine z_lv (lv' := [(0, .ref (L 99)), (1, .int (nI (d))), (2, .int (nI (m))), (3, .int (zb (s_ex (fun h => s_mayA (I 10 (5 * d + 16)) ap h d && s_apt (I 10) m (d + 6) 5 (zs1 ap d (nI h))) i_5))), (4, .int (nI (i_5))), (5, .int (zb (s_mayA (I 10 (5 * d + 16)) ap (i_5) (i_16 + 1)))), (6, .int (nI (i_16 + 1)))]) [2, 3, 4, 5, 6, 1, 0] (by rw [← f_42]; rfl) ?_
                  exact ih_18 (i_16 + 1) (by omega) (by omega)  
                · -- (((I 10 (5 * d + 16)) >>> ((nI (i_16)) &&& 31)) &&& 1) = 0
                  refine z_iconst (v := 1) dX5_isApart_68 (by decide) ?_
                  refine z_goto 73 dX5_isApart_69 (by decide) ?_
                  refine z_istore (lv' := [(5, .int 1), (0, .ref (L 99)), (1, .int (nI (d))), (2, .int (nI (m))), (3, .int (zb (s_ex (fun h => s_mayA (I 10 (5 * d + 16)) ap h d && s_apt (I 10) m (d + 6) 5 (zs1 ap d (nI h))) i_5))), (4, .int (nI (i_5))), (6, .int (nI (i_16)))]) dX5_isApart_73 (by decide) rfl ?_
                  refine z_iinc (v := nI (i_16 + 1)) (lv' := [(6, .int (nI (i_16 + 1))), (5, .int 1), (0, .ref (L 99)), (1, .int (nI (d))), (2, .int (nI (m))), (3, .int (zb (s_ex (fun h => s_mayA (I 10 (5 * d + 16)) ap h d && s_apt (I 10) m (d + 6) 5 (zs1 ap d (nI h))) i_5))), (4, .int (nI (i_5)))]) 6 dX5_isApart_75 rfl (nI_1 _) (by decide) rfl ?_
                  refine z_goto 31 dX5_isApart_78 (by decide) ?_
                  have f_43 : 1 = zb (s_mayA (I 10 (5 * d + 16)) ap (i_5) (i_16 + 1)) := by simp [s_mayA, zb, c_4, c_14, c_15, c_33, c_34, c_36, (s_bit0 _ (show i_16 < 32 by omega)).mp c_41]
                  refine z_lv (lv' := [(0, .ref (L 99)), (1, .int (nI (d))), (2, .int (nI (m))), (3, .int (zb (s_ex (fun h => s_mayA (I 10 (5 * d + 16)) ap h d && s_apt (I 10) m (d + 6) 5 (zs1 ap d (nI h))) i_5))), (4, .int (nI (i_5))), (5, .int (zb (s_mayA (I 10 (5 * d + 16)) ap (i_5) (i_16 + 1)))), (6, .int (nI (i_16 + 1)))]) [2, 3, 4, 5, 6, 1, 0] (by rw [← f_43]; rfl) ?_
                  exact ih_18 (i_16 + 1) (by omega) (by omega)  
        have f_44 : 1 = zb (s_mayA (I 10 (5 * d + 16)) ap (i_5) 0) := by rfl
        refine z_lv (lv' := [(0, .ref (L 99)), (1, .int (nI (d))), (2, .int (nI (m))), (3, .int (zb (s_ex (fun h => s_mayA (I 10 (5 * d + 16)) ap h d && s_apt (I 10) m (d + 6) 5 (zs1 ap d (nI h))) i_5))), (4, .int (nI (i_5))), (5, .int (zb (s_mayA (I 10 (5 * d + 16)) ap (i_5) 0))), (6, .int 0)]) [2, 3, 4, 5, 6, 1, 0] (by rw [← f_44]; rfl) ?_
        exact loop_20 (d - 0) 0 (by omega) (Nat.le_refl _)  
  have f_45 : 0 = zb (s_ex (fun h => s_mayA (I 10 (5 * d + 16)) ap h d && s_apt (I 10) m (d + 6) 5 (zs1 ap d (nI h))) 0) := by rfl
  refine z_lv (lv' := [(0, .ref (L 99)), (1, .int (nI (d))), (2, .int (nI (m))), (3, .int (zb (s_ex (fun h => s_mayA (I 10 (5 * d + 16)) ap h d && s_apt (I 10) m (d + 6) 5 (zs1 ap d (nI h))) 0))), (4, .int 0)]) [2, 3, 4, 1, 0] (by rw [← f_45]; rfl) ?_
  exact loop_9 (m - 0) 0 (by omega) (Nat.le_refl _) _ hap
theorem t_isApart {g : zG} {L : Nat → Nat} {I : Nat → Nat → Int32} {J : Nat → Nat → Int64} {Gb : Nat → Nat → Int32} {X : zX} (hL : tok g L) (m : Nat) (hm : m < 2 ^ 30) {nd : Nat} (h1 : I 10 1 = nI nd) (hnd : nd ≤ 6) : zN g m_X5_isApart ({ frames := 7, cells := 0, slots := 0, locals := 176 } : Room) [.ref (L 99), .int 0, .int (nI m)] (tX g L I J Gb X) (fun rv X' => rv = some (.int (zb (s_apt (I 10) m nd nd (fun _ => 0)))) ∧ ∃ Gb' : Nat → Nat → Int32, X' = tX g L I J Gb' X ∧ ∀ o, o < 0 → Gb' 30 o = (fun _ => 0) o) := by
  rcases (by omega : nd = 0 ∨ nd = 1 ∨ nd = 2 ∨ nd = 3 ∨ nd = 4 ∨ nd = 5 ∨ nd = 6) with rfl | rfl | rfl | rfl | rfl | rfl | rfl
  · exact zN.room (R := ({ frames := 1, cells := 0, slots := 0, locals := 20 } : Room)) (by decide) rfl rfl (by decide) (t_isApart_0 (I := I) hL 0 m (by decide) hm h1 (fun o ho => absurd ho (Nat.not_lt_zero o)))
  · exact zN.room (R := ({ frames := 2, cells := 0, slots := 0, locals := 46 } : Room)) (by decide) rfl rfl (by decide) (t_isApart_1 (I := I) hL 0 m (by decide) hm h1 (fun o ho => absurd ho (Nat.not_lt_zero o)))
  · exact zN.room (R := ({ frames := 3, cells := 0, slots := 0, locals := 72 } : Room)) (by decide) rfl rfl (by decide) (t_isApart_2 (I := I) hL 0 m (by decide) hm h1 (fun o ho => absurd ho (Nat.not_lt_zero o)))
  · exact zN.room (R := ({ frames := 4, cells := 0, slots := 0, locals := 98 } : Room)) (by decide) rfl rfl (by decide) (t_isApart_3 (I := I) hL 0 m (by decide) hm h1 (fun o ho => absurd ho (Nat.not_lt_zero o)))
  · exact zN.room (R := ({ frames := 5, cells := 0, slots := 0, locals := 124 } : Room)) (by decide) rfl rfl (by decide) (t_isApart_4 (I := I) hL 0 m (by decide) hm h1 (fun o ho => absurd ho (Nat.not_lt_zero o)))
  · exact zN.room (R := ({ frames := 6, cells := 0, slots := 0, locals := 150 } : Room)) (by decide) rfl rfl (by decide) (t_isApart_5 (I := I) hL 0 m (by decide) hm h1 (fun o ho => absurd ho (Nat.not_lt_zero o)))
  · exact zN.room (R := ({ frames := 7, cells := 0, slots := 0, locals := 176 } : Room)) (by decide) rfl rfl (by decide) (t_isApart_6 (I := I) hL 0 m (by decide) hm h1 (fun o ho => absurd ho (Nat.not_lt_zero o)))
set_option maxHeartbeats 4000000 in
theorem t_apart {g : zG} {L : Nat → Nat} {I : Nat → Nat → Int32} {J : Nat → Nat → Int64} {Gb : Nat → Nat → Int32} {X : zX} (hL : tok g L) {nh nd : Nat} {own : Nat → Nat} (hV : s_ok (I 10) nh nd own) : zN g m_X5_apart ({ frames := 8, cells := 0, slots := 0, locals := 202 } : Room) [.ref (L 99)] (tX g L I J Gb X) (fun rv X' => rv = some (.int (s_apart (I 10) nd)) ∧ ∃ (I' : Nat → Nat → Int32) (Gb' : Nat → Nat → Int32), X' = tX g L I' J Gb' X ∧ tobs I I' ∧ I' 99 0 = 0) := by
  refine zN.of (by decide +kernel) (Nat.le_of_ble_eq_true rfl) rfl ?_
  refine z_lv (lv' := [(0, .ref (L 99))]) [0] rfl ?_
  have hV9 := hV
  obtain ⟨h0, hnh, h1, hnd, hown⟩ := hV9
  refine z_aload_n 0 dX5_apart_0 rfl ?_
  refine z_iconst (v := 0) dX5_apart_1 (by decide) ?_
  refine tz_put (I' := (zs I 99 0 0)) 0 hL (by decide) q1593 rfl dX5_apart_2 ?_
  refine z_iconst (v := 0) dX5_apart_5 (by decide) ?_
  refine z_istore_n (lv' := [(1, .int 0), (0, .ref (L 99))]) dX5_apart_6 rfl (by decide) rfl ?_
  have loop_5 : ∀ (q_2 i_1 : Nat), i_1 + q_2 = nd → 0 ≤ i_1 → ∀ (Gb_6 : Nat → Nat → Int32), s_fst (fun n => s_apt (I 10) n nd nd (fun _ => 0)) nI (nd + 1) 0 = s_fst (fun n => s_apt (I 10) n nd nd (fun _ => 0)) nI (q_2 + 1) i_1 → zZ g m_X5_apart (fun rv X' => rv = some (.int (s_apart (I 10) nd)) ∧ ∃ (I' : Nat → Nat → Int32) (Gb' : Nat → Nat → Int32), X' = tX g L I' J Gb' X ∧ tobs I I' ∧ I' 99 0 = 0, zno, ({ frames := 8, cells := 0, slots := 0, locals := 202 } : Room)) 0 0 (tX g L (zs I 99 0 0) J Gb_6 X) 7 [(0, .ref (L 99)), (1, .int (nI (i_1)))] [] := by
    intro q_2
    induction q_2 with
    | zero =>
      intro i_1 hb_4 lo_8 Gb_6 hi_7
      obtain rfl : nd = i_1 := by omega
      refine z_aload_n 0 dX5_apart_7 rfl ?_
      refine z_iconst (v := 0) dX5_apart_8 (by decide) ?_
      refine z_iload_n 1 dX5_apart_9 rfl ?_
      refine z_callV (As := [.int 0, .int (nI (nd))]) (t_isApart (I := (zs I 99 0 0)) (Gb := Gb_6) hL nd (by omega) h1 hnd) q1980 q1982 qs105 q121 q1983 nm_X5_isApart (tX_obj hL) rfl rfl rfl (Nat.le_of_ble_eq_true rfl) ⟨Nat.le_of_ble_eq_true rfl, Nat.le_of_ble_eq_true rfl⟩ dX5_apart_10 rfl rfl (Nat.le_of_ble_eq_true rfl) (Nat.le_of_ble_eq_true rfl) (fun v_10 X_11 hp_12 => ?_)
      obtain ⟨rfl, Gb_9, rfl, -⟩ := hp_12
      refine z_st (st' := [.int (zb (s_apt (I 10) nd nd nd (fun _ => 0)))]) rfl ?_
      refine z_if_neb 22 dX5_apart_13 (by decide) (fun c_13 => ?_) (fun c_13 => absurd c_13 ((fun h9 => absurd (h9.symm.trans (s_apt_all (by omega) nd _ (Nat.le_refl _) (fun o ho => absurd ho (by omega)))) (by decide))))
      refine z_iload_n 1 dX5_apart_22 rfl ?_
      exact z_iret dX5_apart_23 rfl (Nat.le_of_ble_eq_true rfl) (Nat.le_of_ble_eq_true rfl) ⟨congrArg some (congrArg Value.int (hi_7.trans (s_fst_t c_13)).symm), (zs I 99 0 0), Gb_9, rfl, (tobs_zs tobs_rf rfl), rfl⟩
    | succ q_2 ih_3 =>
      intro i_1 hb_4 lo_8 Gb_6 hi_7
      refine z_aload_n 0 dX5_apart_7 rfl ?_
      refine z_iconst (v := 0) dX5_apart_8 (by decide) ?_
      refine z_iload_n 1 dX5_apart_9 rfl ?_
      refine z_callV (As := [.int 0, .int (nI (i_1))]) (t_isApart (I := (zs I 99 0 0)) (Gb := Gb_6) hL i_1 (by omega) h1 hnd) q1980 q1982 qs105 q121 q1983 nm_X5_isApart (tX_obj hL) rfl rfl rfl (Nat.le_of_ble_eq_true rfl) ⟨Nat.le_of_ble_eq_true rfl, Nat.le_of_ble_eq_true rfl⟩ dX5_apart_10 rfl rfl (Nat.le_of_ble_eq_true rfl) (Nat.le_of_ble_eq_true rfl) (fun v_15 X_16 hp_17 => ?_)
      obtain ⟨rfl, Gb_14, rfl, -⟩ := hp_17
      refine z_st (st' := [.int (zb (s_apt (I 10) i_1 nd nd (fun _ => 0)))]) rfl ?_
      refine z_if_neb 22 dX5_apart_13 (by decide) (fun c_18 => ?_) (fun c_18 => ?_)
      · -- s_apt (I 10) i_1 nd nd (fun _ => 0) = true
        refine z_iload_n 1 dX5_apart_22 rfl ?_
        exact z_iret dX5_apart_23 rfl (Nat.le_of_ble_eq_true rfl) (Nat.le_of_ble_eq_true rfl) ⟨congrArg some (congrArg Value.int (hi_7.trans (s_fst_t c_18)).symm), (zs I 99 0 0), Gb_14, rfl, (tobs_zs tobs_rf rfl), rfl⟩
      · -- s_apt (I 10) i_1 nd nd (fun _ => 0) = false
        refine z_iinc (v := nI (i_1 + 1)) (lv' := [(1, .int (nI (i_1 + 1))), (0, .ref (L 99))]) 1 dX5_apart_16 rfl (nI_1 _) (by decide) rfl ?_
        refine z_goto 7 dX5_apart_19 (by decide) ?_
        refine z_lv (lv' := [(0, .ref (L 99)), (1, .int (nI (i_1 + 1)))]) [1, 0] rfl ?_
        exact ih_3 (i_1 + 1) (by omega) (by omega) _ (hi_7.trans (s_fst_f c_18))
  refine z_lv (lv' := [(0, .ref (L 99)), (1, .int 0)]) [1, 0] rfl ?_
  exact loop_5 (nd - 0) 0 (by omega) (Nat.le_refl _) _ rfl
