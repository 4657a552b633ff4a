/-! THE MODEL: leaves. Printed by t1.py -/
set_option maxRecDepth 100000
set_option maxHeartbeats 4000000 in
theorem t_houses {g : zG} {L : Nat → Nat} {I : Nat → Nat → Int32} {J : Nat → Nat → Int64} {Gb : Nat → Nat → Int32} {X : zX} (hL : tok g L) {nh : Nat} (h0 : I 10 0 = nI nh) : zN g m_X5_houses ({ frames := 0, cells := 0, slots := 0, locals := 0 } : Room) [.ref (L 99)] (tX g L I J Gb X) (fun rv X' => rv = some (.int (nI nh)) ∧ X' = (tX g L I J Gb X)) := by
  refine zN.of (by decide +kernel) (Nat.le_of_ble_eq_true rfl) rfl ?_
  refine z_lv (lv' := [(0, .ref (L 99))]) [0] rfl ?_
  refine z_aload_n 0 dX5_houses_0 rfl ?_
  refine tz_get (v := .ref (L 10)) 10 hL (by decide) q1603 rfl dX5_houses_1 ?_
  refine z_iconst (v := 0) dX5_houses_4 (by decide) ?_
  refine tz_iald (v := nI (nh)) 10 (0) hL (by decide) rfl (by show 0 < 100; omega) h0 dX5_houses_5 ?_
  exact z_iret dX5_houses_6 rfl (Nat.le_of_ble_eq_true rfl) (Nat.le_of_ble_eq_true rfl) ⟨congrArg some (congrArg Value.int (by first | rfl | (simp []; done) | (skip; simp []))), (by first | rfl | (simp []; done) | (skip; simp []))⟩
set_option maxHeartbeats 4000000 in
theorem t_days {g : zG} {L : Nat → Nat} {I : Nat → Nat → Int32} {J : Nat → Nat → Int64} {Gb : Nat → Nat → Int32} {X : zX} (hL : tok g L) {nd : Nat} (h1 : I 10 1 = nI nd) : zN g m_X5_days ({ frames := 0, cells := 0, slots := 0, locals := 0 } : Room) [.ref (L 99)] (tX g L I J Gb X) (fun rv X' => rv = some (.int (nI nd)) ∧ X' = (tX g L I J Gb X)) := by
  refine zN.of (by decide +kernel) (Nat.le_of_ble_eq_true rfl) rfl ?_
  refine z_lv (lv' := [(0, .ref (L 99))]) [0] rfl ?_
  refine z_aload_n 0 dX5_days_0 rfl ?_
  refine tz_get (v := .ref (L 10)) 10 hL (by decide) q1603 rfl dX5_days_1 ?_
  refine z_iconst (v := 1) dX5_days_4 (by decide) ?_
  refine tz_iald (v := nI (nd)) 10 (1) hL (by decide) rfl (by show 1 < 100; omega) h1 dX5_days_5 ?_
  exact z_iret dX5_days_6 rfl (Nat.le_of_ble_eq_true rfl) (Nat.le_of_ble_eq_true rfl) ⟨congrArg some (congrArg Value.int (by first | rfl | (simp []; done) | (skip; simp []))), (by first | rfl | (simp []; done) | (skip; simp []))⟩
set_option maxHeartbeats 4000000 in
theorem t_houseOf {g : zG} {L : Nat → Nat} {I : Nat → Nat → Int32} {J : Nat → Nat → Int64} {Gb : Nat → Nat → Int32} {X : zX} (hL : tok g L) (h w : Nat) (hh : 2 * h + w < 96) : zN g m_X5_houseOf ({ frames := 0, cells := 0, slots := 0, locals := 0 } : Room) [.ref (L 99), .int (nI (h)), .int (nI (w))] (tX g L I J Gb X) (fun rv X' => rv = some (.int (I 10 (2 * h + w + 4))) ∧ X' = (tX g L I J Gb X)) := by
  refine zN.of (by decide +kernel) (Nat.le_of_ble_eq_true rfl) rfl ?_
  refine z_lv (lv' := [(0, .ref (L 99)), (1, .int (nI (h))), (2, .int (nI (w)))]) [0, 1, 2] rfl ?_
  refine z_aload_n 0 dX5_houseOf_0 rfl ?_
  refine tz_get (v := .ref (L 10)) 10 hL (by decide) q1603 rfl dX5_houseOf_1 ?_
  refine z_iconst (v := 4) dX5_houseOf_4 (by decide) ?_
  refine z_iconst (v := 2) dX5_houseOf_5 (by decide) ?_
  refine z_iload_n 1 dX5_houseOf_6 rfl ?_
  refine z_imulN (a := 2) (b := h) dX5_houseOf_7 ?_
  refine z_iaddN (a := 4) (b := 2 * h) dX5_houseOf_8 ?_
  refine z_eq (y := nI (2 * h + 4)) (congrArg nI (by omega)) ?_
  refine z_iload_n 2 dX5_houseOf_9 rfl ?_
  refine z_iaddN (a := 2 * h + 4) (b := w) dX5_houseOf_10 ?_
  refine z_eq (y := nI (2 * h + w + 4)) (congrArg nI (by omega)) ?_
  refine tz_iald (v := I 10 (2 * h + w + 4)) 10 (2 * h + w + 4) hL (by decide) rfl (by show 2 * h + w + 4 < 100; omega) rfl dX5_houseOf_11 ?_
  exact z_iret dX5_houseOf_12 rfl (Nat.le_of_ble_eq_true rfl) (Nat.le_of_ble_eq_true rfl) ⟨congrArg some (congrArg Value.int (by first | rfl | (simp []; done) | (skip; simp []))), (by first | rfl | (simp []; done) | (skip; simp []))⟩
set_option maxHeartbeats 4000000 in
theorem t_dayOf {g : zG} {L : Nat → Nat} {I : Nat → Nat → Int32} {J : Nat → Nat → Int64} {Gb : Nat → Nat → Int32} {X : zX} (hL : tok g L) (d w : Nat) (hd : 5 * d + w < 88) : zN g m_X5_dayOf ({ frames := 0, cells := 0, slots := 0, locals := 0 } : Room) [.ref (L 99), .int (nI (d)), .int (nI (w))] (tX g L I J Gb X) (fun rv X' => rv = some (.int (I 10 (5 * d + w + 12))) ∧ X' = (tX g L I J Gb X)) := by
  refine zN.of (by decide +kernel) (Nat.le_of_ble_eq_true rfl) rfl ?_
  refine z_lv (lv' := [(0, .ref (L 99)), (1, .int (nI (d))), (2, .int (nI (w)))]) [0, 1, 2] rfl ?_
  refine z_aload_n 0 dX5_dayOf_0 rfl ?_
  refine tz_get (v := .ref (L 10)) 10 hL (by decide) q1603 rfl dX5_dayOf_1 ?_
  refine z_bipush (v := 12) dX5_dayOf_4 (by decide) ?_
  refine z_iconst (v := 5) dX5_dayOf_6 (by decide) ?_
  refine z_iload_n 1 dX5_dayOf_7 rfl ?_
  refine z_imulN (a := 5) (b := d) dX5_dayOf_8 ?_
  refine z_iaddN (a := 12) (b := 5 * d) dX5_dayOf_9 ?_
  refine z_eq (y := nI (5 * d + 12)) (congrArg nI (by omega)) ?_
  refine z_iload_n 2 dX5_dayOf_10 rfl ?_
  refine z_iaddN (a := 5 * d + 12) (b := w) dX5_dayOf_11 ?_
  refine z_eq (y := nI (5 * d + w + 12)) (congrArg nI (by omega)) ?_
  refine tz_iald (v := I 10 (5 * d + w + 12)) 10 (5 * d + w + 12) hL (by decide) rfl (by show 5 * d + w + 12 < 100; omega) rfl dX5_dayOf_12 ?_
  exact z_iret dX5_dayOf_13 rfl (Nat.le_of_ble_eq_true rfl) (Nat.le_of_ble_eq_true rfl) ⟨congrArg some (congrArg Value.int (by first | rfl | (simp []; done) | (skip; simp []))), (by first | rfl | (simp []; done) | (skip; simp []))⟩
set_option maxHeartbeats 4000000 in
theorem t_isHouse {g : zG} {L : Nat → Nat} {I : Nat → Nat → Int32} {J : Nat → Nat → Int64} {Gb : Nat → Nat → Int32} {X : zX} (hL : tok g L) {nh : Nat} (h0 : I 10 0 = nI nh) (h : Int32) : zN g m_X5_isHouse ({ frames := 1, cells := 0, slots := 0, locals := 20 } : Room) [.ref (L 99), .int h] (tX g L I J Gb X) (fun rv X' => rv = some (.int (zb (decide (0 ≤ h) && decide (h < nI nh)))) ∧ X' = (tX g L I J Gb X)) := by
  refine zN.of (by decide +kernel) (Nat.le_of_ble_eq_true rfl) rfl ?_
  refine z_lv (lv' := [(0, .ref (L 99)), (1, .int h)]) [0, 1] rfl ?_
  refine z_iload_n 1 dX5_isHouse_0 rfl ?_
  refine z_if_lt 16 dX5_isHouse_1 (by decide) (fun c_1 => ?_) (fun c_1 => ?_)
  · -- h < 0
    have c_1' := Int32.not_le.mpr c_1
    refine z_iconst (v := 0) dX5_isHouse_16 (by decide) ?_
    exact z_zret dX5_isHouse_17 rfl (by first | rfl | decide | exact zb_nar _) (Nat.le_of_ble_eq_true rfl) (Nat.le_of_ble_eq_true rfl) ⟨congrArg some (congrArg Value.int (by first | rfl | (simp [zb, c_1, c_1']; done) | (skip; simp [zb, c_1, c_1']))), (by first | rfl | (simp [zb, c_1, c_1']; done) | (skip; simp [zb, c_1, c_1']))⟩
  · -- ¬ h < 0
    have c_1' := Int32.not_lt.mp c_1
    refine z_iload_n 1 dX5_isHouse_4 rfl ?_
    refine z_aload_n 0 dX5_isHouse_5 rfl ?_
    refine z_callV (As := []) (t_houses (I := I) hL h0) q1585 q1587 qs56 q121 q1588 nm_X5_houses (tX_obj hL) rfl rfl rfl (Nat.le_of_ble_eq_true rfl) ⟨Nat.le_of_ble_eq_true rfl, Nat.le_of_ble_eq_true rfl⟩ dX5_isHouse_6 rfl rfl (Nat.le_of_ble_eq_true rfl) (Nat.le_of_ble_eq_true rfl) (fun v_2 X_3 hp_4 => ?_)
    obtain ⟨rfl, rfl⟩ := hp_4
    refine z_st (st' := [.int (nI (nh)), .int h]) rfl ?_
    refine z_icmp_ge 16 dX5_isHouse_9 (by decide) (fun c_5 => ?_) (fun c_5 => ?_)
    · -- nI (nh) ≤ h
      have c_5' := Int32.not_lt.mpr c_5
      refine z_iconst (v := 0) dX5_isHouse_16 (by decide) ?_
      exact z_zret dX5_isHouse_17 rfl (by first | rfl | decide | exact zb_nar _) (Nat.le_of_ble_eq_true rfl) (Nat.le_of_ble_eq_true rfl) ⟨congrArg some (congrArg Value.int (by first | rfl | (simp [zb, c_1, c_1', c_5, c_5']; done) | (skip; simp [zb, c_1, c_1', c_5, c_5']))), (by first | rfl | (simp [zb, c_1, c_1', c_5, c_5']; done) | (skip; simp [zb, c_1, c_1', c_5, c_5']))⟩
    · -- ¬ nI (nh) ≤ h
      have c_5' := Int32.not_le.mp c_5
      refine z_iconst (v := 1) dX5_isHouse_12 (by decide) ?_
      refine z_goto 17 dX5_isHouse_13 (by decide) ?_
      exact z_zret dX5_isHouse_17 rfl (by first | rfl | decide | exact zb_nar _) (Nat.le_of_ble_eq_true rfl) (Nat.le_of_ble_eq_true rfl) ⟨congrArg some (congrArg Value.int (by first | rfl | (simp [zb, c_1, c_1', c_5, c_5']; done) | (skip; simp [zb, c_1, c_1', c_5, c_5']))), (by first | rfl | (simp [zb, c_1, c_1', c_5, c_5']; done) | (skip; simp [zb, c_1, c_1', c_5, c_5']))⟩
set_option maxHeartbeats 4000000 in
theorem t_isDay {g : zG} {L : Nat → Nat} {I : Nat → Nat → Int32} {J : Nat → Nat → Int64} {Gb : Nat → Nat → Int32} {X : zX} (hL : tok g L) {nd : Nat} (h1 : I 10 1 = nI nd) (d : Int32) : zN g m_X5_isDay ({ frames := 1, cells := 0, slots := 0, locals := 20 } : Room) [.ref (L 99), .int d] (tX g L I J Gb X) (fun rv X' => rv = some (.int (zb (decide (0 ≤ d) && decide (d < nI nd)))) ∧ X' = (tX g L I J Gb X)) := by
  refine zN.of (by decide +kernel) (Nat.le_of_ble_eq_true rfl) rfl ?_
  refine z_lv (lv' := [(0, .ref (L 99)), (1, .int d)]) [0, 1] rfl ?_
  refine z_iload_n 1 dX5_isDay_0 rfl ?_
  refine z_if_lt 16 dX5_isDay_1 (by decide) (fun c_1 => ?_) (fun c_1 => ?_)
  · -- d < 0
    have c_1' := Int32.not_le.mpr c_1
    refine z_iconst (v := 0) dX5_isDay_16 (by decide) ?_
    exact z_zret dX5_isDay_17 rfl (by first | rfl | decide | exact zb_nar _) (Nat.le_of_ble_eq_true rfl) (Nat.le_of_ble_eq_true rfl) ⟨congrArg some (congrArg Value.int (by first | rfl | (simp [zb, c_1, c_1']; done) | (skip; simp [zb, c_1, c_1']))), (by first | rfl | (simp [zb, c_1, c_1']; done) | (skip; simp [zb, c_1, c_1']))⟩
  · -- ¬ d < 0
    have c_1' := Int32.not_lt.mp c_1
    refine z_iload_n 1 dX5_isDay_4 rfl ?_
    refine z_aload_n 0 dX5_isDay_5 rfl ?_
    refine z_callV (As := []) (t_days (I := I) hL h1) q1573 q1575 qs53 q121 q1576 nm_X5_days (tX_obj hL) rfl rfl rfl (Nat.le_of_ble_eq_true rfl) ⟨Nat.le_of_ble_eq_true rfl, Nat.le_of_ble_eq_true rfl⟩ dX5_isDay_6 rfl rfl (Nat.le_of_ble_eq_true rfl) (Nat.le_of_ble_eq_true rfl) (fun v_2 X_3 hp_4 => ?_)
    obtain ⟨rfl, rfl⟩ := hp_4
    refine z_st (st' := [.int (nI (nd)), .int d]) rfl ?_
    refine z_icmp_ge 16 dX5_isDay_9 (by decide) (fun c_5 => ?_) (fun c_5 => ?_)
    · -- nI (nd) ≤ d
      have c_5' := Int32.not_lt.mpr c_5
      refine z_iconst (v := 0) dX5_isDay_16 (by decide) ?_
      exact z_zret dX5_isDay_17 rfl (by first | rfl | decide | exact zb_nar _) (Nat.le_of_ble_eq_true rfl) (Nat.le_of_ble_eq_true rfl) ⟨congrArg some (congrArg Value.int (by first | rfl | (simp [zb, c_1, c_1', c_5, c_5']; done) | (skip; simp [zb, c_1, c_1', c_5, c_5']))), (by first | rfl | (simp [zb, c_1, c_1', c_5, c_5']; done) | (skip; simp [zb, c_1, c_1', c_5, c_5']))⟩
    · -- ¬ nI (nd) ≤ d
      have c_5' := Int32.not_le.mp c_5
      refine z_iconst (v := 1) dX5_isDay_12 (by decide) ?_
      refine z_goto 17 dX5_isDay_13 (by decide) ?_
      exact z_zret dX5_isDay_17 rfl (by first | rfl | decide | exact zb_nar _) (Nat.le_of_ble_eq_true rfl) (Nat.le_of_ble_eq_true rfl) ⟨congrArg some (congrArg Value.int (by first | rfl | (simp [zb, c_1, c_1', c_5, c_5']; done) | (skip; simp [zb, c_1, c_1', c_5, c_5']))), (by first | rfl | (simp [zb, c_1, c_1', c_5, c_5']; done) | (skip; simp [zb, c_1, c_1', c_5, c_5']))⟩
set_option maxHeartbeats 4000000 in
theorem t_widthOf {g : zG} {L : Nat → Nat} {I : Nat → Nat → Int32} {J : Nat → Nat → Int64} {Gb : Nat → Nat → Int32} {X : zX} (hL : tok g L) (d : Nat) (hd : d < 6) : zN g m_X5_widthOf ({ frames := 1, cells := 0, slots := 0, locals := 22 } : Room) [.ref (L 99), .int (nI (d))] (tX g L I J Gb X) (fun rv X' => rv = some (.int (s_wid (I 10) d)) ∧ X' = (tX g L I J Gb X)) := by
  refine zN.of (by decide +kernel) (Nat.le_of_ble_eq_true rfl) rfl ?_
  refine z_lv (lv' := [(0, .ref (L 99)), (1, .int (nI (d)))]) [0, 1] rfl ?_
  refine z_aload_n 0 dX5_widthOf_0 rfl ?_
  refine z_iload_n 1 dX5_widthOf_1 rfl ?_
  refine z_iconst (v := 0) dX5_widthOf_2 (by decide) ?_
  refine z_callV (As := [.int (nI (d)), .int 0]) (t_dayOf (I := I) hL d 0 (by omega)) q1577 q1579 qs54 q121 q1580 nm_X5_dayOf (tX_obj hL) rfl rfl rfl (Nat.le_of_ble_eq_true rfl) ⟨Nat.le_of_ble_eq_true rfl, Nat.le_of_ble_eq_true rfl⟩ dX5_widthOf_3 rfl rfl (Nat.le_of_ble_eq_true rfl) (Nat.le_of_ble_eq_true rfl) (fun v_1 X_2 hp_3 => ?_)
  obtain ⟨rfl, rfl⟩ := hp_3
  refine z_st (st' := [.int (I 10 (5 * d + 12))]) rfl ?_
  refine z_iconst (v := 1) dX5_widthOf_6 (by decide) ?_
  refine z_icmp_ne 14 dX5_widthOf_7 (by decide) (fun c_4 => ?_) (fun c_4 => ?_)
  · -- ¬ I 10 (5 * d + 12) = 1
    refine z_iconst (v := 1) dX5_widthOf_14 (by decide) ?_
    exact z_iret dX5_widthOf_15 rfl (Nat.le_of_ble_eq_true rfl) (Nat.le_of_ble_eq_true rfl) ⟨congrArg some (congrArg Value.int (by first | rfl | (simp [s_wid, c_4]; done) | (skip; simp [s_wid, c_4]))), (by first | rfl | (simp [s_wid, c_4]; done) | (skip; simp [s_wid, c_4]))⟩
  · -- I 10 (5 * d + 12) = 1
    refine z_iconst (v := 2) dX5_widthOf_10 (by decide) ?_
    refine z_goto 15 dX5_widthOf_11 (by decide) ?_
    exact z_iret dX5_widthOf_15 rfl (Nat.le_of_ble_eq_true rfl) (Nat.le_of_ble_eq_true rfl) ⟨congrArg some (congrArg Value.int (by first | rfl | (simp [s_wid, c_4]; done) | (skip; simp [s_wid, c_4]))), (by first | rfl | (simp [s_wid, c_4]; done) | (skip; simp [s_wid, c_4]))⟩
set_option maxHeartbeats 4000000 in
theorem t_inHouse {g : zG} {L : Nat → Nat} {I : Nat → Nat → Int32} {J : Nat → Nat → Int64} {Gb : Nat → Nat → Int32} {X : zX} (hL : tok g L) {σ : Nat → Int32} {nd : Nat} (h1 : I 10 1 = nI nd) (hnd : nd ≤ 6) (b : Nat) (hb : b + 47 ≤ 1081) (h : Int32) : zN g m_X5_inHouse ({ frames := 1, cells := 0, slots := 0, locals := 20 } : Room) [.ref (L 99), .int (nI (b)), .int h] (tX g L (tput I b σ) J Gb X) (fun rv X' => rv = some (.int (s_in σ h nd)) ∧ X' = (tX g L (tput I b σ) J Gb X)) := by
  refine zN.of (by decide +kernel) (Nat.le_of_ble_eq_true rfl) rfl ?_
  refine z_lv (lv' := [(0, .ref (L 99)), (1, .int (nI (b))), (2, .int h)]) [0, 1, 2] rfl ?_
  refine z_iconst (v := 0) dX5_inHouse_0 (by decide) ?_
  refine z_istore_n (lv' := [(3, .int 0), (0, .ref (L 99)), (1, .int (nI (b))), (2, .int h)]) dX5_inHouse_1 rfl (by decide) rfl ?_
  refine z_iconst (v := 0) dX5_inHouse_2 (by decide) ?_
  refine z_istore (lv' := [(4, .int 0), (3, .int 0), (0, .ref (L 99)), (1, .int (nI (b))), (2, .int h)]) dX5_inHouse_3 (by decide) rfl ?_
  have loop_5 : ∀ (q_2 i_1 : Nat), i_1 + q_2 = nd → 0 ≤ i_1 → zZ g m_X5_inHouse (fun rv X' => rv = some (.int (s_in σ h nd)) ∧ X' = (tX g L (tput I b σ) J Gb X), zno, ({ frames := 1, cells := 0, slots := 0, locals := 20 } : Room)) 0 0 (tX g L (tput I b σ) J Gb X) 5 [(0, .ref (L 99)), (1, .int (nI (b))), (2, .int h), (3, .int (s_in σ h i_1)), (4, .int (nI (i_1)))] [] := by
    intro q_2
    induction q_2 with
    | zero =>
      intro i_1 hb_4 lo_6  
      obtain rfl : nd = i_1 := by omega
      refine z_iload 4 dX5_inHouse_5 rfl ?_
      refine z_aload_n 0 dX5_inHouse_7 rfl ?_
      refine z_callV (As := []) (t_days (I := (tput I b σ)) hL h1) q1573 q1575 qs53 q121 q1576 nm_X5_days (tX_obj hL) rfl rfl rfl (Nat.le_of_ble_eq_true rfl) ⟨Nat.le_of_ble_eq_true rfl, Nat.le_of_ble_eq_true rfl⟩ dX5_inHouse_8 rfl rfl (Nat.le_of_ble_eq_true rfl) (Nat.le_of_ble_eq_true rfl) (fun v_7 X_8 hp_9 => ?_)
      obtain ⟨rfl, rfl⟩ := hp_9
      refine z_st (st' := [.int (nI (nd)), .int (nI (nd))]) rfl ?_
      refine z_icmp_geN (a := nd) (b := nd) 47 (by omega) (by omega) dX5_inHouse_11 (by decide) (fun c_10 => ?_) (fun c_10 => absurd c_10 (by omega))
      refine z_iload_n 3 dX5_inHouse_47 rfl ?_
      exact z_iret dX5_inHouse_48 rfl (Nat.le_of_ble_eq_true rfl) (Nat.le_of_ble_eq_true rfl) ⟨congrArg some (congrArg Value.int (by first | rfl | (simp [s_in, s_bit, hb_4, c_10]; done) | (skip; simp [s_in, s_bit, hb_4, c_10]))), (by first | rfl | (simp [s_in, s_bit, hb_4, c_10]; done) | (skip; simp [s_in, s_bit, hb_4, c_10]))⟩
    | succ q_2 ih_3 =>
      intro i_1 hb_4 lo_6  
      refine z_iload 4 dX5_inHouse_5 rfl ?_
      refine z_aload_n 0 dX5_inHouse_7 rfl ?_
      refine z_callV (As := []) (t_days (I := (tput I b σ)) hL h1) q1573 q1575 qs53 q121 q1576 nm_X5_days (tX_obj hL) rfl rfl rfl (Nat.le_of_ble_eq_true rfl) ⟨Nat.le_of_ble_eq_true rfl, Nat.le_of_ble_eq_true rfl⟩ dX5_inHouse_8 rfl rfl (Nat.le_of_ble_eq_true rfl) (Nat.le_of_ble_eq_true rfl) (fun v_11 X_12 hp_13 => ?_)
      obtain ⟨rfl, rfl⟩ := hp_13
      refine z_st (st' := [.int (nI (nd)), .int (nI (i_1))]) rfl ?_
      refine z_icmp_geN (a := i_1) (b := nd) 47 (by omega) (by omega) dX5_inHouse_11 (by decide) (fun c_14 => absurd c_14 (by omega)) (fun c_14 => ?_)
      refine z_iload_n 3 dX5_inHouse_14 rfl ?_
      refine z_aload_n 0 dX5_inHouse_15 rfl ?_
      refine tz_get (v := .ref (L 24)) 24 hL (by decide) q1617 rfl dX5_inHouse_16 ?_
      refine z_iload_n 1 dX5_inHouse_19 rfl ?_
      refine z_bipush (v := 6) dX5_inHouse_20 (by decide) ?_
      refine z_iaddN (a := b) (b := 6) dX5_inHouse_22 ?_
      refine z_iload 4 dX5_inHouse_23 rfl ?_
      refine z_iaddN (a := b + 6) (b := i_1) dX5_inHouse_25 ?_
      refine z_eq (y := nI (b + i_1 + 6)) (congrArg nI (by omega)) ?_
      refine tz_iald (v := σ (i_1 + 6)) 24 (b + (i_1 + 6)) hL (by decide) (congrArg nI (by omega)) (by show b + (i_1 + 6) < 1081; omega) (tput_at (by omega)) dX5_inHouse_26 ?_
      refine z_iload_n 2 dX5_inHouse_27 rfl ?_
      refine z_icmp_ne 38 dX5_inHouse_28 (by decide) (fun c_15 => ?_) (fun c_15 => ?_)
      · -- ¬ σ (i_1 + 6) = h
        refine z_iconst (v := 0) dX5_inHouse_38 (by decide) ?_
        refine z_ior dX5_inHouse_39 ?_
        obtain ⟨x_16, ex_16⟩ : ∃ y : Int32, ((s_in σ h i_1) ||| 0) = y := ⟨_, rfl⟩
        refine z_eq ex_16 ?_
        refine z_istore_n (lv' := [(3, .int x_16), (0, .ref (L 99)), (1, .int (nI (b))), (2, .int h), (4, .int (nI (i_1)))]) dX5_inHouse_40 rfl (by decide) rfl ?_
        refine z_iinc (v := nI (i_1 + 1)) (lv' := [(4, .int (nI (i_1 + 1))), (3, .int x_16), (0, .ref (L 99)), (1, .int (nI (b))), (2, .int h)]) 4 dX5_inHouse_41 rfl (nI_1 _) (by decide) rfl ?_
        refine z_goto 5 dX5_inHouse_44 (by decide) ?_
        have f_17 : x_16 = s_in σ h (i_1 + 1) := by first | rfl | omega | (simp [s_in, s_bit, hb_4, c_14, c_15]; done) | ((try subst ex_16); simp [s_in, s_bit, hb_4, c_14, c_15])
        subst f_17
        refine z_lv (lv' := [(0, .ref (L 99)), (1, .int (nI (b))), (2, .int h), (3, .int (s_in σ h (i_1 + 1))), (4, .int (nI (i_1 + 1)))]) [2, 3, 4, 1, 0] rfl ?_
        exact ih_3 (i_1 + 1) (by omega) (by omega)  
      · -- σ (i_1 + 6) = h
        refine z_iconst (v := 1) dX5_inHouse_31 (by decide) ?_
        refine z_iload 4 dX5_inHouse_32 rfl ?_
        refine z_ishl dX5_inHouse_34 ?_
        refine z_goto 39 dX5_inHouse_35 (by decide) ?_
        refine z_ior dX5_inHouse_39 ?_
        obtain ⟨x_18, ex_18⟩ : ∃ y : Int32, ((s_in σ h i_1) ||| (1 <<< ((nI (i_1)) &&& 31))) = y := ⟨_, rfl⟩
        refine z_eq ex_18 ?_
        refine z_istore_n (lv' := [(3, .int x_18), (0, .ref (L 99)), (1, .int (nI (b))), (2, .int h), (4, .int (nI (i_1)))]) dX5_inHouse_40 rfl (by decide) rfl ?_
        refine z_iinc (v := nI (i_1 + 1)) (lv' := [(4, .int (nI (i_1 + 1))), (3, .int x_18), (0, .ref (L 99)), (1, .int (nI (b))), (2, .int h)]) 4 dX5_inHouse_41 rfl (nI_1 _) (by decide) rfl ?_
        refine z_goto 5 dX5_inHouse_44 (by decide) ?_
        have f_19 : x_18 = s_in σ h (i_1 + 1) := by first | rfl | omega | (simp [s_in, s_bit, hb_4, c_14, c_15]; done) | ((try subst ex_18); simp [s_in, s_bit, hb_4, c_14, c_15])
        subst f_19
        refine z_lv (lv' := [(0, .ref (L 99)), (1, .int (nI (b))), (2, .int h), (3, .int (s_in σ h (i_1 + 1))), (4, .int (nI (i_1 + 1)))]) [2, 3, 4, 1, 0] rfl ?_
        exact ih_3 (i_1 + 1) (by omega) (by omega)  
  have f_20 : 0 = s_in σ h 0 := by first | rfl | omega | (simp [s_in, s_bit]; done) | (skip; simp [s_in, s_bit])
  refine z_lv (lv' := [(0, .ref (L 99)), (1, .int (nI (b))), (2, .int h), (3, .int (s_in σ h 0)), (4, .int 0)]) [2, 3, 4, 1, 0] (by rw [← f_20]; rfl) ?_
  exact loop_5 (nd - 0) 0 (by omega) (Nat.le_refl _)  
