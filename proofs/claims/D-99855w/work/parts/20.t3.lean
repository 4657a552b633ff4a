/-! THE MODEL: a day that comes. Printed by t3.py -/
set_option maxRecDepth 100000
set_option maxHeartbeats 4000000 in
theorem t_bedFor {g : zG} {L : Nat → Nat} {I : Nat → Nat → Int32} {J : Nat → Nat → Int64} {Gb : Nat → Nat → Int32} {X : zX} (hL : tok g L) {σ : Nat → Int32} {nd : Nat} (h1 : I 10 1 = nI nd) (hnd : nd ≤ 6) (b : Nat) (hb : b + 47 ≤ 1081) {nh own : Nat} (h0 : I 10 0 = nI nh) (hnh : nh ≤ 4) (d : Nat) (hd : d < 6) (ho : I 10 (5 * d + 13) = nI own) (hoh : own < nh) : zN g m_X5_bedFor ({ frames := 4, cells := 0, slots := 0, locals := 90 } : Room) [.ref (L 99), .int (nI (b)), .int (nI (d))] (tX g L (tput I b σ) J Gb X) (fun rv X' => rv = some (.int (s_bed (I 10) σ nh nd own d)) ∧ X' = (tX g L (tput I b σ) J Gb X)) := by
  refine zN.of (by decide +kernel) (Nat.le_of_ble_eq_true rfl) rfl ?_
  refine z_lv (lv' := [(0, .ref (L 99)), (1, .int (nI (b))), (2, .int (nI (d)))]) [0, 1, 2] rfl ?_
  refine z_aload_n 0 dX5_bedFor_0 rfl ?_
  refine z_iload_n 2 dX5_bedFor_1 rfl ?_
  refine z_iconst (v := 1) dX5_bedFor_2 (by decide) ?_
  refine z_callV (As := [.int (nI (d)), .int 1]) (t_dayOf (I := (tput I b σ)) hL d 1 (by omega)) q1577 q1579 qs54 q121 q1580 nm_X5_dayOf (tX_obj hL) rfl rfl rfl (Nat.le_of_ble_eq_true rfl) ⟨Nat.le_of_ble_eq_true rfl, Nat.le_of_ble_eq_true rfl⟩ dX5_bedFor_3 rfl rfl (Nat.le_of_ble_eq_true rfl) (Nat.le_of_ble_eq_true rfl) (fun v_1 X_2 hp_3 => ?_)
  obtain ⟨rfl, rfl⟩ := hp_3
  refine z_st (st' := [.int (I 10 (5 * d + 13))]) rfl ?_
  refine z_eq (y := nI (own)) ho ?_
  refine z_istore_n (lv' := [(3, .int (nI (own))), (0, .ref (L 99)), (1, .int (nI (b))), (2, .int (nI (d)))]) dX5_bedFor_6 rfl (by decide) rfl ?_
  refine z_aload_n 1 dX5_bedFor_7 rfl ?_
  refine z_iload_n 2 dX5_bedFor_8 rfl ?_
  refine z_iload_n 0 dX5_bedFor_9 rfl ?_
  refine z_iload_n 3 dX5_bedFor_10 rfl ?_
  refine z_callV (As := [.int (nI (b)), .int (nI (own)), .int (nI (d))]) (t_doesHold (I := I) (σ := σ) hL h1 hnd b (by omega) own d (by omega) (by omega)) q1886 q1888 qs97 q121 q1889 nm_X5_doesHold (tX_obj hL) rfl rfl rfl (Nat.le_of_ble_eq_true rfl) ⟨Nat.le_of_ble_eq_true rfl, Nat.le_of_ble_eq_true rfl⟩ dX5_bedFor_11 rfl rfl (Nat.le_of_ble_eq_true rfl) (Nat.le_of_ble_eq_true rfl) (fun v_4 X_5 hp_6 => ?_)
  obtain ⟨rfl, rfl⟩ := hp_6
  refine z_st (st' := [.int (zb (s_holds (I 10) σ nd own d))]) rfl ?_
  refine z_if_eqb 19 dX5_bedFor_14 (by decide) (fun c_7 => ?_) (fun c_7 => ?_)
  · -- s_holds (I 10) σ nd own d = false
    refine z_iconst (v := 0) dX5_bedFor_19 (by decide) ?_
    refine z_istore (lv' := [(4, .int 0), (3, .int (nI (own))), (0, .ref (L 99)), (1, .int (nI (b))), (2, .int (nI (d)))]) dX5_bedFor_20 (by decide) rfl ?_
    have loop_12 : ∀ (q_9 i_8 : Nat), i_8 + q_9 = nh → 0 ≤ i_8 → s_first (I 10) σ nd own d nh 0 = s_first (I 10) σ nd own d q_9 i_8 → zZ g m_X5_bedFor (fun rv X' => rv = some (.int (s_bed (I 10) σ nh nd own d)) ∧ X' = (tX g L (tput I b σ) J Gb X), zno, ({ frames := 4, cells := 0, slots := 0, locals := 90 } : Room)) 0 0 (tX g L (tput I b σ) J Gb X) 22 [(0, .ref (L 99)), (1, .int (nI (b))), (2, .int (nI (d))), (3, .int (nI (own))), (4, .int (nI (i_8)))] [] := by
      intro q_9
      induction q_9 with
      | zero =>
        intro i_8 hb_11 lo_14  hi_13
        obtain rfl : nh = i_8 := by omega
        refine z_iload 4 dX5_bedFor_22 rfl ?_
        refine z_aload_n 0 dX5_bedFor_24 rfl ?_
        refine z_callV (As := []) (t_houses (I := (tput I b σ)) hL h0) q1585 q1587 qs56 q121 q1588 nm_X5_houses (tX_obj hL) rfl rfl rfl (Nat.le_of_ble_eq_true rfl) ⟨Nat.le_of_ble_eq_true rfl, Nat.le_of_ble_eq_true rfl⟩ dX5_bedFor_25 rfl rfl (Nat.le_of_ble_eq_true rfl) (Nat.le_of_ble_eq_true rfl) (fun v_15 X_16 hp_17 => ?_)
        obtain ⟨rfl, rfl⟩ := hp_17
        refine z_st (st' := [.int (nI (nh)), .int (nI (nh))]) rfl ?_
        refine z_icmp_geN (a := nh) (b := nh) 66 (by omega) (by omega) dX5_bedFor_28 (by decide) (fun c_18 => ?_) (fun c_18 => absurd c_18 (by omega))
        refine z_iconst (v := zm1) dX5_bedFor_66 (by decide) ?_
        exact z_iret dX5_bedFor_67 rfl (Nat.le_of_ble_eq_true rfl) (Nat.le_of_ble_eq_true rfl) ⟨congrArg some (congrArg Value.int (by first | rfl | (simp [s_bed, s_first, s_isBit, c_7, hb_11, hi_13, c_18]; done) | (skip; simp [s_bed, s_first, s_isBit, c_7, hb_11, hi_13, c_18]))), (by first | rfl | (simp [s_bed, s_first, s_isBit, c_7, hb_11, hi_13, c_18]; done) | (skip; simp [s_bed, s_first, s_isBit, c_7, hb_11, hi_13, c_18]))⟩
      | succ q_9 ih_10 =>
        intro i_8 hb_11 lo_14  hi_13
        refine z_iload 4 dX5_bedFor_22 rfl ?_
        refine z_aload_n 0 dX5_bedFor_24 rfl ?_
        refine z_callV (As := []) (t_houses (I := (tput I b σ)) hL h0) q1585 q1587 qs56 q121 q1588 nm_X5_houses (tX_obj hL) rfl rfl rfl (Nat.le_of_ble_eq_true rfl) ⟨Nat.le_of_ble_eq_true rfl, Nat.le_of_ble_eq_true rfl⟩ dX5_bedFor_25 rfl rfl (Nat.le_of_ble_eq_true rfl) (Nat.le_of_ble_eq_true rfl) (fun v_19 X_20 hp_21 => ?_)
        obtain ⟨rfl, rfl⟩ := hp_21
        refine z_st (st' := [.int (nI (nh)), .int (nI (i_8))]) rfl ?_
        refine z_icmp_geN (a := i_8) (b := nh) 66 (by omega) (by omega) dX5_bedFor_28 (by decide) (fun c_22 => absurd c_22 (by omega)) (fun c_22 => ?_)
        refine z_aload_n 0 dX5_bedFor_31 rfl ?_
        refine z_iload_n 3 dX5_bedFor_32 rfl ?_
        refine z_iconst (v := 1) dX5_bedFor_33 (by decide) ?_
        refine z_callV (As := [.int (nI (own)), .int 1]) (t_houseOf (I := (tput I b σ)) hL own 1 (by omega)) q1589 q1591 qs57 q121 q1592 nm_X5_houseOf (tX_obj hL) rfl rfl rfl (Nat.le_of_ble_eq_true rfl) ⟨Nat.le_of_ble_eq_true rfl, Nat.le_of_ble_eq_true rfl⟩ dX5_bedFor_34 rfl rfl (Nat.le_of_ble_eq_true rfl) (Nat.le_of_ble_eq_true rfl) (fun v_23 X_24 hp_25 => ?_)
        obtain ⟨rfl, rfl⟩ := hp_25
        refine z_st (st' := [.int (I 10 (2 * own + 5))]) rfl ?_
        refine z_iload 4 dX5_bedFor_37 rfl ?_
        refine z_ishr dX5_bedFor_39 ?_
        refine z_iconst (v := 1) dX5_bedFor_40 (by decide) ?_
        refine z_iand dX5_bedFor_41 ?_
        refine z_iconst (v := 1) dX5_bedFor_42 (by decide) ?_
        refine z_icmp_ne 60 dX5_bedFor_43 (by decide) (fun c_26 => ?_) (fun c_26 => ?_)
        · -- ¬ (((I 10 (2 * own + 5)) >>> ((nI (i_8)) &&& 31)) &&& 1) = 1
          refine z_iinc (v := nI (i_8 + 1)) (lv' := [(4, .int (nI (i_8 + 1))), (0, .ref (L 99)), (1, .int (nI (b))), (2, .int (nI (d))), (3, .int (nI (own)))]) 4 dX5_bedFor_60 rfl (nI_1 _) (by decide) rfl ?_
          refine z_goto 22 dX5_bedFor_63 (by decide) ?_
          refine z_lv (lv' := [(0, .ref (L 99)), (1, .int (nI (b))), (2, .int (nI (d))), (3, .int (nI (own))), (4, .int (nI (i_8 + 1)))]) [1, 2, 3, 4, 0] rfl ?_
          exact ih_10 (i_8 + 1) (by omega) (by omega)  (hi_13.trans (by simp [s_first, s_isBit, c_7, hb_11, c_22, c_26]))
        · -- (((I 10 (2 * own + 5)) >>> ((nI (i_8)) &&& 31)) &&& 1) = 1
          refine z_aload_n 0 dX5_bedFor_46 rfl ?_
          refine z_iload_n 1 dX5_bedFor_47 rfl ?_
          refine z_iload 4 dX5_bedFor_48 rfl ?_
          refine z_iload_n 2 dX5_bedFor_50 rfl ?_
          refine z_callV (As := [.int (nI (b)), .int (nI (i_8)), .int (nI (d))]) (t_doesHold (I := I) (σ := σ) hL h1 hnd b (by omega) i_8 d (by omega) (by omega)) q1886 q1888 qs97 q121 q1889 nm_X5_doesHold (tX_obj hL) rfl rfl rfl (Nat.le_of_ble_eq_true rfl) ⟨Nat.le_of_ble_eq_true rfl, Nat.le_of_ble_eq_true rfl⟩ dX5_bedFor_51 rfl rfl (Nat.le_of_ble_eq_true rfl) (Nat.le_of_ble_eq_true rfl) (fun v_27 X_28 hp_29 => ?_)
          obtain ⟨rfl, rfl⟩ := hp_29
          refine z_st (st' := [.int (zb (s_holds (I 10) σ nd i_8 d))]) rfl ?_
          refine z_if_eqb 60 dX5_bedFor_54 (by decide) (fun c_30 => ?_) (fun c_30 => ?_)
          · -- s_holds (I 10) σ nd i_8 d = false
            refine z_iinc (v := nI (i_8 + 1)) (lv' := [(4, .int (nI (i_8 + 1))), (0, .ref (L 99)), (1, .int (nI (b))), (2, .int (nI (d))), (3, .int (nI (own)))]) 4 dX5_bedFor_60 rfl (nI_1 _) (by decide) rfl ?_
            refine z_goto 22 dX5_bedFor_63 (by decide) ?_
            refine z_lv (lv' := [(0, .ref (L 99)), (1, .int (nI (b))), (2, .int (nI (d))), (3, .int (nI (own))), (4, .int (nI (i_8 + 1)))]) [1, 2, 3, 4, 0] rfl ?_
            exact ih_10 (i_8 + 1) (by omega) (by omega)  (hi_13.trans (by simp [s_first, s_isBit, c_7, hb_11, c_22, c_26, c_30]))
          · -- s_holds (I 10) σ nd i_8 d = true
            refine z_iload 4 dX5_bedFor_57 rfl ?_
            exact z_iret dX5_bedFor_59 rfl (Nat.le_of_ble_eq_true rfl) (Nat.le_of_ble_eq_true rfl) ⟨congrArg some (congrArg Value.int (by first | rfl | (simp [s_bed, s_first, s_isBit, c_7, hb_11, hi_13, c_22, c_26, c_30]; done) | (skip; simp [s_bed, s_first, s_isBit, c_7, hb_11, hi_13, c_22, c_26, c_30]))), (by first | rfl | (simp [s_bed, s_first, s_isBit, c_7, hb_11, hi_13, c_22, c_26, c_30]; done) | (skip; simp [s_bed, s_first, s_isBit, c_7, hb_11, hi_13, c_22, c_26, c_30]))⟩
    refine z_lv (lv' := [(0, .ref (L 99)), (1, .int (nI (b))), (2, .int (nI (d))), (3, .int (nI (own))), (4, .int 0)]) [2, 3, 4, 1, 0] rfl ?_
    exact loop_12 (nh - 0) 0 (by omega) (Nat.le_refl _)  rfl
  · -- s_holds (I 10) σ nd own d = true
    refine z_iload_n 0 dX5_bedFor_17 rfl ?_
    exact z_iret dX5_bedFor_18 rfl (Nat.le_of_ble_eq_true rfl) (Nat.le_of_ble_eq_true rfl) ⟨congrArg some (congrArg Value.int (by first | rfl | (simp [s_bed, s_first, s_isBit, c_7]; done) | (skip; simp [s_bed, s_first, s_isBit, c_7]))), (by first | rfl | (simp [s_bed, s_first, s_isBit, c_7]; done) | (skip; simp [s_bed, s_first, s_isBit, c_7]))⟩
set_option maxHeartbeats 4000000 in
theorem t_both {g : zG} {X : zX} (c : Nat) (a b : Int32) (hc : 4 ≤ c ∧ c ≤ 10) : zN g m_X5_both ({ frames := 0, cells := 0, slots := 0, locals := 0 } : Room) [.int (nI (c)), .int a, .int b] X (fun rv X' => rv = some (.int (s_both c a b)) ∧ X' = X) := by
  refine zN.of (by decide +kernel) (Nat.le_of_ble_eq_true rfl) rfl ?_
  refine z_lv (lv' := [(0, .int (nI (c))), (1, .int a), (2, .int b)]) [0, 1, 2] rfl ?_
  refine z_iload_n 0 dX5_both_0 rfl ?_
  by_cases c_1 : c = 4
  · refine z_tableIn (off := 39) 40 dX5_both_1 (by rw [c_1]; decide) (by rw [c_1]; decide) (by rw [c_1]; rfl) (by decide) ?_
    refine z_iload_n 1 dX5_both_40 rfl ?_
    refine z_iload_n 2 dX5_both_41 rfl ?_
    refine z_iadd dX5_both_42 ?_
    exact z_iret dX5_both_43 rfl (Nat.le_of_ble_eq_true rfl) (Nat.le_of_ble_eq_true rfl) ⟨congrArg some (congrArg Value.int (by first | rfl | (simp [s_both, c_1]; done) | (skip; simp [s_both, c_1]))), (by first | rfl | (simp [s_both, c_1]; done) | (skip; simp [s_both, c_1]))⟩
  by_cases c_2 : c = 5
  · refine z_tableIn (off := 43) 44 dX5_both_1 (by rw [c_2]; decide) (by rw [c_2]; decide) (by rw [c_2]; rfl) (by decide) ?_
    refine z_iload_n 1 dX5_both_44 rfl ?_
    refine z_iload_n 2 dX5_both_45 rfl ?_
    refine z_isub dX5_both_46 ?_
    exact z_iret dX5_both_47 rfl (Nat.le_of_ble_eq_true rfl) (Nat.le_of_ble_eq_true rfl) ⟨congrArg some (congrArg Value.int (by first | rfl | (simp [s_both, c_1, c_2]; done) | (skip; simp [s_both, c_1, c_2]))), (by first | rfl | (simp [s_both, c_1, c_2]; done) | (skip; simp [s_both, c_1, c_2]))⟩
  by_cases c_3 : c = 6
  · refine z_tableIn (off := 47) 48 dX5_both_1 (by rw [c_3]; decide) (by rw [c_3]; decide) (by rw [c_3]; rfl) (by decide) ?_
    refine z_iload_n 1 dX5_both_48 rfl ?_
    refine z_iload_n 2 dX5_both_49 rfl ?_
    refine z_imul dX5_both_50 ?_
    exact z_iret dX5_both_51 rfl (Nat.le_of_ble_eq_true rfl) (Nat.le_of_ble_eq_true rfl) ⟨congrArg some (congrArg Value.int (by first | rfl | (simp [s_both, c_1, c_2, c_3]; done) | (skip; simp [s_both, c_1, c_2, c_3]))), (by first | rfl | (simp [s_both, c_1, c_2, c_3]; done) | (skip; simp [s_both, c_1, c_2, c_3]))⟩
  by_cases c_4 : c = 7
  · refine z_tableIn (off := 51) 52 dX5_both_1 (by rw [c_4]; decide) (by rw [c_4]; decide) (by rw [c_4]; rfl) (by decide) ?_
    refine z_iload_n 1 dX5_both_52 rfl ?_
    refine z_iload_n 2 dX5_both_53 rfl ?_
    refine z_icmp_ge 61 dX5_both_54 (by decide) (fun c_5 => ?_) (fun c_5 => ?_)
    · -- b ≤ a
      have c_5' := Int32.not_lt.mpr c_5
      refine z_iconst (v := 0) dX5_both_61 (by decide) ?_
      exact z_iret dX5_both_62 rfl (Nat.le_of_ble_eq_true rfl) (Nat.le_of_ble_eq_true rfl) ⟨congrArg some (congrArg Value.int (by first | rfl | (simp [s_both, c_1, c_2, c_3, c_4, c_5, c_5']; done) | (skip; simp [s_both, c_1, c_2, c_3, c_4, c_5, c_5']))), (by first | rfl | (simp [s_both, c_1, c_2, c_3, c_4, c_5, c_5']; done) | (skip; simp [s_both, c_1, c_2, c_3, c_4, c_5, c_5']))⟩
    · -- ¬ b ≤ a
      have c_5' := Int32.not_le.mp c_5
      refine z_iconst (v := 1) dX5_both_57 (by decide) ?_
      refine z_goto 62 dX5_both_58 (by decide) ?_
      exact z_iret dX5_both_62 rfl (Nat.le_of_ble_eq_true rfl) (Nat.le_of_ble_eq_true rfl) ⟨congrArg some (congrArg Value.int (by first | rfl | (simp [s_both, c_1, c_2, c_3, c_4, c_5, c_5']; done) | (skip; simp [s_both, c_1, c_2, c_3, c_4, c_5, c_5']))), (by first | rfl | (simp [s_both, c_1, c_2, c_3, c_4, c_5, c_5']; done) | (skip; simp [s_both, c_1, c_2, c_3, c_4, c_5, c_5']))⟩
  by_cases c_6 : c = 8
  · refine z_tableIn (off := 62) 63 dX5_both_1 (by rw [c_6]; decide) (by rw [c_6]; decide) (by rw [c_6]; rfl) (by decide) ?_
    refine z_iload_n 1 dX5_both_63 rfl ?_
    refine z_iload_n 2 dX5_both_64 rfl ?_
    refine z_icmp_ne 72 dX5_both_65 (by decide) (fun c_7 => ?_) (fun c_7 => ?_)
    · -- ¬ a = b
      refine z_iconst (v := 0) dX5_both_72 (by decide) ?_
      exact z_iret dX5_both_73 rfl (Nat.le_of_ble_eq_true rfl) (Nat.le_of_ble_eq_true rfl) ⟨congrArg some (congrArg Value.int (by first | rfl | (simp [s_both, c_1, c_2, c_3, c_4, c_6, c_7]; done) | (skip; simp [s_both, c_1, c_2, c_3, c_4, c_6, c_7]))), (by first | rfl | (simp [s_both, c_1, c_2, c_3, c_4, c_6, c_7]; done) | (skip; simp [s_both, c_1, c_2, c_3, c_4, c_6, c_7]))⟩
    · -- a = b
      refine z_iconst (v := 1) dX5_both_68 (by decide) ?_
      refine z_goto 73 dX5_both_69 (by decide) ?_
      exact z_iret dX5_both_73 rfl (Nat.le_of_ble_eq_true rfl) (Nat.le_of_ble_eq_true rfl) ⟨congrArg some (congrArg Value.int (by first | rfl | (simp [s_both, c_1, c_2, c_3, c_4, c_6, c_7]; done) | (skip; simp [s_both, c_1, c_2, c_3, c_4, c_6, c_7]))), (by first | rfl | (simp [s_both, c_1, c_2, c_3, c_4, c_6, c_7]; done) | (skip; simp [s_both, c_1, c_2, c_3, c_4, c_6, c_7]))⟩
  by_cases c_8 : c = 9
  · refine z_tableIn (off := 73) 74 dX5_both_1 (by rw [c_8]; decide) (by rw [c_8]; decide) (by rw [c_8]; rfl) (by decide) ?_
    refine z_iload_n 1 dX5_both_74 rfl ?_
    refine z_if_eq 86 dX5_both_75 (by decide) (fun c_9 => ?_) (fun c_9 => ?_)
    · -- a = 0
      refine z_iconst (v := 0) dX5_both_86 (by decide) ?_
      exact z_iret dX5_both_87 rfl (Nat.le_of_ble_eq_true rfl) (Nat.le_of_ble_eq_true rfl) ⟨congrArg some (congrArg Value.int (by first | rfl | (simp [s_both, c_1, c_2, c_3, c_4, c_6, c_8, c_9]; done) | (skip; simp [s_both, c_1, c_2, c_3, c_4, c_6, c_8, c_9]))), (by first | rfl | (simp [s_both, c_1, c_2, c_3, c_4, c_6, c_8, c_9]; done) | (skip; simp [s_both, c_1, c_2, c_3, c_4, c_6, c_8, c_9]))⟩
    · -- ¬ a = 0
      refine z_iload_n 2 dX5_both_78 rfl ?_
      refine z_if_eq 86 dX5_both_79 (by decide) (fun c_10 => ?_) (fun c_10 => ?_)
      · -- b = 0
        refine z_iconst (v := 0) dX5_both_86 (by decide) ?_
        exact z_iret dX5_both_87 rfl (Nat.le_of_ble_eq_true rfl) (Nat.le_of_ble_eq_true rfl) ⟨congrArg some (congrArg Value.int (by first | rfl | (simp [s_both, c_1, c_2, c_3, c_4, c_6, c_8, c_9, c_10]; done) | (skip; simp [s_both, c_1, c_2, c_3, c_4, c_6, c_8, c_9, c_10]))), (by first | rfl | (simp [s_both, c_1, c_2, c_3, c_4, c_6, c_8, c_9, c_10]; done) | (skip; simp [s_both, c_1, c_2, c_3, c_4, c_6, c_8, c_9, c_10]))⟩
      · -- ¬ b = 0
        refine z_iconst (v := 1) dX5_both_82 (by decide) ?_
        refine z_goto 87 dX5_both_83 (by decide) ?_
        exact z_iret dX5_both_87 rfl (Nat.le_of_ble_eq_true rfl) (Nat.le_of_ble_eq_true rfl) ⟨congrArg some (congrArg Value.int (by first | rfl | (simp [s_both, c_1, c_2, c_3, c_4, c_6, c_8, c_9, c_10]; done) | (skip; simp [s_both, c_1, c_2, c_3, c_4, c_6, c_8, c_9, c_10]))), (by first | rfl | (simp [s_both, c_1, c_2, c_3, c_4, c_6, c_8, c_9, c_10]; done) | (skip; simp [s_both, c_1, c_2, c_3, c_4, c_6, c_8, c_9, c_10]))⟩
  refine z_tableOut 88 dX5_both_1 (by have i0 := lv_neT (x := nI (c)) (k := 4) (a := 4) (fun h9 => c_1 ((nI_eq (by omega) (by decide)).mp h9)) rfl; have i1 := lv_neT (x := nI (c)) (k := 5) (a := 5) (fun h9 => c_2 ((nI_eq (by omega) (by decide)).mp h9)) rfl; have i2 := lv_neT (x := nI (c)) (k := 6) (a := 6) (fun h9 => c_3 ((nI_eq (by omega) (by decide)).mp h9)) rfl; have i3 := lv_neT (x := nI (c)) (k := 7) (a := 7) (fun h9 => c_4 ((nI_eq (by omega) (by decide)).mp h9)) rfl; have i4 := lv_neT (x := nI (c)) (k := 8) (a := 8) (fun h9 => c_6 ((nI_eq (by omega) (by decide)).mp h9)) rfl; have i5 := lv_neT (x := nI (c)) (k := 9) (a := 9) (fun h9 => c_8 ((nI_eq (by omega) (by decide)).mp h9)) rfl; omega) (by decide) ?_
  refine z_iload_n 1 dX5_both_88 rfl ?_
  refine z_if_ne 96 dX5_both_89 (by decide) (fun c_11 => ?_) (fun c_11 => ?_)
  · -- ¬ a = 0
    refine z_iconst (v := 1) dX5_both_96 (by decide) ?_
    refine z_goto 101 dX5_both_97 (by decide) ?_
    exact z_iret dX5_both_101 rfl (Nat.le_of_ble_eq_true rfl) (Nat.le_of_ble_eq_true rfl) ⟨congrArg some (congrArg Value.int (by first | rfl | (simp [s_both, c_1, c_2, c_3, c_4, c_6, c_8, c_11]; done) | (skip; simp [s_both, c_1, c_2, c_3, c_4, c_6, c_8, c_11]))), (by first | rfl | (simp [s_both, c_1, c_2, c_3, c_4, c_6, c_8, c_11]; done) | (skip; simp [s_both, c_1, c_2, c_3, c_4, c_6, c_8, c_11]))⟩
  · -- a = 0
    refine z_iload_n 2 dX5_both_92 rfl ?_
    refine z_if_eq 100 dX5_both_93 (by decide) (fun c_12 => ?_) (fun c_12 => ?_)
    · -- b = 0
      refine z_iconst (v := 0) dX5_both_100 (by decide) ?_
      exact z_iret dX5_both_101 rfl (Nat.le_of_ble_eq_true rfl) (Nat.le_of_ble_eq_true rfl) ⟨congrArg some (congrArg Value.int (by first | rfl | (simp [s_both, c_1, c_2, c_3, c_4, c_6, c_8, c_11, c_12]; done) | (skip; simp [s_both, c_1, c_2, c_3, c_4, c_6, c_8, c_11, c_12]))), (by first | rfl | (simp [s_both, c_1, c_2, c_3, c_4, c_6, c_8, c_11, c_12]; done) | (skip; simp [s_both, c_1, c_2, c_3, c_4, c_6, c_8, c_11, c_12]))⟩
    · -- ¬ b = 0
      refine z_iconst (v := 1) dX5_both_96 (by decide) ?_
      refine z_goto 101 dX5_both_97 (by decide) ?_
      exact z_iret dX5_both_101 rfl (Nat.le_of_ble_eq_true rfl) (Nat.le_of_ble_eq_true rfl) ⟨congrArg some (congrArg Value.int (by first | rfl | (simp [s_both, c_1, c_2, c_3, c_4, c_6, c_8, c_11, c_12]; done) | (skip; simp [s_both, c_1, c_2, c_3, c_4, c_6, c_8, c_11, c_12]))), (by first | rfl | (simp [s_both, c_1, c_2, c_3, c_4, c_6, c_8, c_11, c_12]; done) | (skip; simp [s_both, c_1, c_2, c_3, c_4, c_6, c_8, c_11, c_12]))⟩
set_option maxHeartbeats 4000000 in
theorem t_isDate {g : zG} {L : Nat → Nat} {I : Nat → Nat → Int32} {J : Nat → Nat → Int64} {Gb : Nat → Nat → Int32} {X : zX} (hL : tok g L) {σ : Nat → Int32} (b : Nat) (hb : b + 47 ≤ 1081) (d : Nat) (hd : d < 6) {now : Nat} (hw : σ 0 = nI now) (hw2 : now < 2 ^ 30) : zN g m_X5_isDate ({ frames := 1, cells := 0, slots := 0, locals := 22 } : Room) [.ref (L 99), .int (nI (b)), .int (nI (d))] (tX g L (tput I b σ) J Gb X) (fun rv X' => rv = some (.int (zb (s_date (I 10) (I 27) now d))) ∧ X' = (tX g L (tput I b σ) J Gb X)) := by
  refine zN.of (by decide +kernel) (Nat.le_of_ble_eq_true rfl) rfl ?_
  refine z_lv (lv' := [(0, .ref (L 99)), (1, .int (nI (b))), (2, .int (nI (d)))]) [0, 1, 2] rfl ?_
  refine z_aload_n 0 dX5_isDate_0 rfl ?_
  refine z_iload_n 2 dX5_isDate_1 rfl ?_
  refine z_iconst (v := 0) dX5_isDate_2 (by decide) ?_
  refine z_callV (As := [.int (nI (d)), .int 0]) (t_dayOf (I := (tput I b σ)) hL d 0 (by omega)) q1577 q1579 qs54 q121 q1580 nm_X5_dayOf (tX_obj hL) rfl rfl rfl (Nat.le_of_ble_eq_true rfl) ⟨Nat.le_of_ble_eq_true rfl, Nat.le_of_ble_eq_true rfl⟩ dX5_isDate_3 rfl rfl (Nat.le_of_ble_eq_true rfl) (Nat.le_of_ble_eq_true rfl) (fun v_1 X_2 hp_3 => ?_)
  obtain ⟨rfl, rfl⟩ := hp_3
  refine z_st (st' := [.int (I 10 (5 * d + 12))]) rfl ?_
  refine z_istore_n (lv' := [(3, .int (I 10 (5 * d + 12))), (0, .ref (L 99)), (1, .int (nI (b))), (2, .int (nI (d)))]) dX5_isDate_6 rfl (by decide) rfl ?_
  refine z_aload_n 1 dX5_isDate_7 rfl ?_
  refine tz_get (v := .ref (L 24)) 24 hL (by decide) q1617 rfl dX5_isDate_8 ?_
  refine z_iload_n 2 dX5_isDate_11 rfl ?_
  refine z_iconst (v := 0) dX5_isDate_12 (by decide) ?_
  refine z_iaddN (a := b) (b := 0) dX5_isDate_13 ?_
  refine z_eq (y := nI (b)) (congrArg nI (by omega)) ?_
  refine tz_iald (v := nI (now)) 24 (b + 0) hL (by decide) (congrArg nI (by omega)) (by show b + 0 < 1081; omega) ((tput_at (by omega)).trans hw) dX5_isDate_14 ?_
  refine z_bipush (v := 12) dX5_isDate_15 (by decide) ?_
  refine z_iremN (a := now) (b := 12) (by omega) (by decide) (by decide) dX5_isDate_17 ?_
  refine z_istore (lv' := [(4, .int (nI ((now % 12)))), (3, .int (I 10 (5 * d + 12))), (0, .ref (L 99)), (1, .int (nI (b))), (2, .int (nI (d)))]) dX5_isDate_18 (by decide) rfl ?_
  refine z_iload_n 1 dX5_isDate_20 rfl ?_
  refine z_iconst (v := 2) dX5_isDate_21 (by decide) ?_
  refine z_icmp_ne 49 dX5_isDate_22 (by decide) (fun c_4 => ?_) (fun c_4 => ?_)
  · -- ¬ I 10 (5 * d + 12) = 2
    refine z_iload 0 dX5_isDate_49 rfl ?_
    refine z_aload_n 2 dX5_isDate_51 rfl ?_
    refine tz_get (v := .ref (L 27)) 27 hL (by decide) q1620 rfl dX5_isDate_52 ?_
    refine z_iload_n 4 dX5_isDate_55 rfl ?_
    refine tz_iald (v := I 27 d) 27 (d) hL (by decide) rfl (by show d < 6; omega) rfl dX5_isDate_56 ?_
    refine z_icmp_ne 85 dX5_isDate_57 (by decide) (fun c_5 => ?_) (fun c_5 => ?_)
    · -- ¬ nI ((now % 12)) = I 27 d
      refine z_iconst (v := 0) dX5_isDate_85 (by decide) ?_
      exact z_zret dX5_isDate_86 rfl (by first | rfl | decide | exact zb_nar _) (Nat.le_of_ble_eq_true rfl) (Nat.le_of_ble_eq_true rfl) ⟨congrArg some (congrArg Value.int (by first | (simp [zb, s_date, c_4, c_5]; done) | (simp only [Nat.mod_add_mod] at *; simp [zb, s_date, c_4, c_5]; done))), (by first | rfl | (simp [zb, s_date, c_4, c_5]; done) | (skip; simp [zb, s_date, c_4, c_5]))⟩
    · -- nI ((now % 12)) = I 27 d
      refine z_iload_n 1 dX5_isDate_60 rfl ?_
      refine z_iconst (v := 3) dX5_isDate_61 (by decide) ?_
      refine z_icmp_ne 81 dX5_isDate_62 (by decide) (fun c_6 => ?_) (fun c_6 => ?_)
      · -- ¬ I 10 (5 * d + 12) = 3
        refine z_iconst (v := 1) dX5_isDate_81 (by decide) ?_
        refine z_goto 86 dX5_isDate_82 (by decide) ?_
        exact z_zret dX5_isDate_86 rfl (by first | rfl | decide | exact zb_nar _) (Nat.le_of_ble_eq_true rfl) (Nat.le_of_ble_eq_true rfl) ⟨congrArg some (congrArg Value.int (by first | (simp [zb, s_date, c_4, c_5, c_6]; done) | (simp only [Nat.mod_add_mod] at *; simp [zb, s_date, c_4, c_5, c_6]; done))), (by first | rfl | (simp [zb, s_date, c_4, c_5, c_6]; done) | (skip; simp [zb, s_date, c_4, c_5, c_6]))⟩
      · -- I 10 (5 * d + 12) = 3
        refine z_aload_n 2 dX5_isDate_65 rfl ?_
        refine tz_get (v := .ref (L 24)) 24 hL (by decide) q1617 rfl dX5_isDate_66 ?_
        refine z_iload_n 3 dX5_isDate_69 rfl ?_
        refine z_iconst (v := 0) dX5_isDate_70 (by decide) ?_
        refine z_iaddN (a := b) (b := 0) dX5_isDate_71 ?_
        refine z_eq (y := nI (b)) (congrArg nI (by omega)) ?_
        refine tz_iald (v := nI (now)) 24 (b + 0) hL (by decide) (congrArg nI (by omega)) (by show b + 0 < 1081; omega) ((tput_at (by omega)).trans hw) dX5_isDate_72 ?_
        refine z_bipush (v := 12) dX5_isDate_73 (by decide) ?_
        refine z_idivN (a := now) (b := 12) (by omega) (by decide) (by decide) dX5_isDate_75 ?_
        refine z_iconst (v := 4) dX5_isDate_76 (by decide) ?_
        refine z_iremN (a := (now / 12)) (b := 4) (by omega) (by decide) (by decide) dX5_isDate_77 ?_
        refine z_if_neN 85 (by omega) dX5_isDate_78 (by decide) (fun c_7 => ?_) (fun c_7 => ?_)
        · -- ((now / 12) % 4) ≠ 0
          refine z_iconst (v := 0) dX5_isDate_85 (by decide) ?_
          exact z_zret dX5_isDate_86 rfl (by first | rfl | decide | exact zb_nar _) (Nat.le_of_ble_eq_true rfl) (Nat.le_of_ble_eq_true rfl) ⟨congrArg some (congrArg Value.int (by first | (simp [zb, s_date, c_4, c_5, c_6, c_7]; done) | (simp only [Nat.mod_add_mod] at *; simp [zb, s_date, c_4, c_5, c_6, c_7]; done))), (by first | rfl | (simp [zb, s_date, c_4, c_5, c_6, c_7]; done) | (skip; simp [zb, s_date, c_4, c_5, c_6, c_7]))⟩
        · -- ((now / 12) % 4) = 0
          refine z_iconst (v := 1) dX5_isDate_81 (by decide) ?_
          refine z_goto 86 dX5_isDate_82 (by decide) ?_
          exact z_zret dX5_isDate_86 rfl (by first | rfl | decide | exact zb_nar _) (Nat.le_of_ble_eq_true rfl) (Nat.le_of_ble_eq_true rfl) ⟨congrArg some (congrArg Value.int (by first | (simp [zb, s_date, c_4, c_5, c_6, c_7]; done) | (simp only [Nat.mod_add_mod] at *; simp [zb, s_date, c_4, c_5, c_6, c_7]; done))), (by first | rfl | (simp [zb, s_date, c_4, c_5, c_6, c_7]; done) | (skip; simp [zb, s_date, c_4, c_5, c_6, c_7]))⟩
  · -- I 10 (5 * d + 12) = 2
    refine z_iload 0 dX5_isDate_25 rfl ?_
    refine z_iconst (v := 1) dX5_isDate_27 (by decide) ?_
    refine z_iaddN (a := (now % 12)) (b := 1) dX5_isDate_28 ?_
    refine z_bipush (v := 12) dX5_isDate_29 (by decide) ?_
    refine z_iremN (a := (now % 12) + 1) (b := 12) (by omega) (by decide) (by decide) dX5_isDate_31 ?_
    refine z_aload_n 2 dX5_isDate_32 rfl ?_
    refine tz_get (v := .ref (L 27)) 27 hL (by decide) q1620 rfl dX5_isDate_33 ?_
    refine z_iload_n 4 dX5_isDate_36 rfl ?_
    refine tz_iald (v := I 27 d) 27 (d) hL (by decide) rfl (by show d < 6; omega) rfl dX5_isDate_37 ?_
    refine z_icmp_ne 45 dX5_isDate_38 (by decide) (fun c_8 => ?_) (fun c_8 => ?_)
    · -- ¬ nI ((((now % 12) + 1) % 12)) = I 27 d
      refine z_iconst (v := 0) dX5_isDate_45 (by decide) ?_
      refine z_goto 86 dX5_isDate_46 (by decide) ?_
      exact z_zret dX5_isDate_86 rfl (by first | rfl | decide | exact zb_nar _) (Nat.le_of_ble_eq_true rfl) (Nat.le_of_ble_eq_true rfl) ⟨congrArg some (congrArg Value.int (by first | (simp [zb, s_date, c_4, c_8]; done) | (simp only [Nat.mod_add_mod] at *; simp [zb, s_date, c_4, c_8]; done))), (by first | rfl | (simp [zb, s_date, c_4, c_8]; done) | (skip; simp [zb, s_date, c_4, c_8]))⟩
    · -- nI ((((now % 12) + 1) % 12)) = I 27 d
      refine z_iconst (v := 1) dX5_isDate_41 (by decide) ?_
      refine z_goto 86 dX5_isDate_42 (by decide) ?_
      exact z_zret dX5_isDate_86 rfl (by first | rfl | decide | exact zb_nar _) (Nat.le_of_ble_eq_true rfl) (Nat.le_of_ble_eq_true rfl) ⟨congrArg some (congrArg Value.int (by first | (simp [zb, s_date, c_4, c_8]; done) | (simp only [Nat.mod_add_mod] at *; simp [zb, s_date, c_4, c_8]; done))), (by first | rfl | (simp [zb, s_date, c_4, c_8]; done) | (skip; simp [zb, s_date, c_4, c_8]))⟩
set_option maxHeartbeats 4000000 in
theorem t_worthAt {g : zG} {L : Nat → Nat} {I : Nat → Nat → Int32} {J : Nat → Nat → Int64} {Gb : Nat → Nat → Int32} {X : zX} (hL : tok g L) {fa : Nat → Int32} {c0 : List (Nat × Int32)} (f : Nat) (hco : s_code (I 11) (I 12) f c0) (hwf : s_wf c0 0) (hlen : f + c0.length < 2200) (hl2 : c0.length ≤ 1100) (hfa : Gb 22 = fa) : zN g m_X5_worthAt ({ frames := 1, cells := 0, slots := 0, locals := 22 } : Room) [.ref (L 99), .int (nI (f))] (tX g L I J Gb X) (fun rv X' => rv = some (.int (s_ev fa c0 [])) ∧ ∃ Gb' : Nat → Nat → Int32, X' = tX g L I J Gb' X) := by
  refine zN.of (by decide +kernel) (Nat.le_of_ble_eq_true rfl) rfl ?_
  refine z_lv (lv' := [(0, .ref (L 99)), (1, .int (nI (f)))]) [0, 1] rfl ?_
  refine z_iconst (v := 0) dX5_worthAt_0 (by decide) ?_
  refine z_istore_n (lv' := [(2, .int 0), (0, .ref (L 99)), (1, .int (nI (f)))]) dX5_worthAt_1 rfl (by decide) rfl ?_
  refine z_iload_n 2 dX5_worthAt_2 rfl ?_
  refine z_istore_n (lv' := [(3, .int (nI (f))), (2, .int 0), (0, .ref (L 99)), (1, .int (nI (f)))]) dX5_worthAt_3 rfl (by decide) rfl ?_
  have loop : ∀ (r : List (Nat × Int32)) (i : Nat) (st : List Int32) (Gb : Nat → Nat → Int32), s_code (I 11) (I 12) i r → s_wf r st.length → s_pile (Gb 23) st → i + r.length < 2200 → st.length + r.length ≤ 1100 → Gb 22 = fa → s_ev fa c0 [] = s_ev fa r st → zZ g m_X5_worthAt (fun rv X' => rv = some (.int (s_ev fa c0 [])) ∧ ∃ Gb' : Nat → Nat → Int32, X' = tX g L I J Gb' X, zno, ({ frames := 1, cells := 0, slots := 0, locals := 22 } : Room)) 0 0 (tX g L I J Gb X) 4 [(0, .ref (L 99)), (1, .int (nI f)), (2, .int (nI st.length)), (3, .int (nI i))] [] := by
    intro r
    induction r with
    | nil =>
      intro i st Gb hc hw hp h1 h2 hf hr
      obtain ⟨x, rfl⟩ : ∃ x, st = [x] := List.length_eq_one_iff.mp hw
      have hc : I 11 i = 0 := hc
      have h1 : i < 2200 := h1
      refine z_aload_n 0 dX5_worthAt_4 rfl ?_
      refine tz_get (v := .ref (L 11)) 11 hL (by decide) q1604 rfl dX5_worthAt_5 ?_
      refine z_iload_n 3 dX5_worthAt_8 rfl ?_
      refine tz_iald (v := 0) 11 (i) hL (by decide) rfl (by show i < 2200; omega) hc dX5_worthAt_9 ?_
      refine z_if_eq 140 dX5_worthAt_10 (by decide) (fun h_ => ?_) (fun h_ => absurd h_ (by decide))
      refine z_aload_n 0 dX5_worthAt_140 rfl ?_
      refine tz_get (v := .ref (L 23)) 23 hL (by decide) q1616 rfl dX5_worthAt_141 ?_
      refine z_iconst (v := 0) dX5_worthAt_144 (by decide) ?_
      refine tz_ialdG (v := x) 23 (0) hL (by decide) rfl (by show 0 < 1100; omega) hp.1 dX5_worthAt_145 ?_
      exact z_iret dX5_worthAt_146 rfl (Nat.le_of_ble_eq_true rfl) (Nat.le_of_ble_eq_true rfl) ⟨by rw [hr]; rfl, Gb, rfl⟩
    | cons c r ih =>
      obtain ⟨c, a⟩ := c
      intro i st Gb hc hw hp h1 h2 hf hr
      obtain ⟨hc1, hc2, hc3⟩ := hc
      have hc1 : I 11 i = nI c := hc1
      have hc2 : I 12 i = a := hc2
      have h1 : i + (r.length + 1) < 2200 := h1
      have h2 : st.length + (r.length + 1) ≤ 1100 := h2
      rcases hw with ⟨e, hw⟩ | ⟨e, ⟨kf, hk, ek⟩, hw⟩ | ⟨e, hd1, hw⟩ | ⟨hd1, hd2, hd3, hw⟩
      · have e : c = 1 := e
        subst e
        refine z_aload_n 0 dX5_worthAt_4 rfl ?_
        refine tz_get (v := .ref (L 11)) 11 hL (by decide) q1604 rfl dX5_worthAt_5 ?_
        refine z_iload_n 3 dX5_worthAt_8 rfl ?_
        refine tz_iald (v := 1) 11 (i) hL (by decide) rfl (by show i < 2200; omega) hc1 dX5_worthAt_9 ?_
        refine z_if_eq 140 dX5_worthAt_10 (by decide) (fun h_ => absurd h_ (by decide)) (fun h_ => ?_)
        refine z_aload_n 0 dX5_worthAt_13 rfl ?_
        refine tz_get (v := .ref (L 11)) 11 hL (by decide) q1604 rfl dX5_worthAt_14 ?_
        refine z_iload_n 3 dX5_worthAt_17 rfl ?_
        refine tz_iald (v := 1) 11 (i) hL (by decide) rfl (by show i < 2200; omega) hc1 dX5_worthAt_18 ?_
        refine z_istore (lv' := [(4, .int 1), (0, .ref (L 99)), (1, .int (nI (f))), (2, .int (nI (st.length))), (3, .int (nI (i)))]) dX5_worthAt_19 (by decide) rfl ?_
        refine z_iload 0 dX5_worthAt_21 rfl ?_
        refine z_iconst (v := 1) dX5_worthAt_23 (by decide) ?_
        refine z_icmp_eqN (a := 1) (b := 1) 33 (by decide) (by decide) dX5_worthAt_24 (by decide) (fun h_ => ?_) (fun h_ => absurd h_ (by decide))
        refine z_aload_n 1 dX5_worthAt_33 rfl ?_
        refine tz_get (v := .ref (L 23)) 23 hL (by decide) q1616 rfl dX5_worthAt_34 ?_
        refine z_iload_n 3 dX5_worthAt_37 rfl ?_
        refine z_iload 0 dX5_worthAt_38 rfl ?_
        refine z_iconst (v := 1) dX5_worthAt_40 (by decide) ?_
        refine z_icmp_neN (a := 1) (b := 1) 53 (by decide) (by decide) dX5_worthAt_41 (by decide) (fun h_ => absurd h_ (by decide)) (fun h_ => ?_)
        refine z_aload_n 1 dX5_worthAt_44 rfl ?_
        refine tz_get (v := .ref (L 12)) 12 hL (by decide) q1605 rfl dX5_worthAt_45 ?_
        refine z_iload_n 4 dX5_worthAt_48 rfl ?_
        refine tz_iald (v := a) 12 (i) hL (by decide) rfl (by show i < 2200; omega) hc2 dX5_worthAt_49 ?_
        refine z_goto 64 dX5_worthAt_50 (by decide) ?_
        refine tz_iastG 23 (st.length) hL (by decide) rfl (by show st.length < 1100; omega) dX5_worthAt_64 ?_
        refine z_iinc (v := nI (st.length + 1)) (lv' := [(2, .int (nI (st.length + 1))), (4, .int 1), (0, .ref (L 99)), (1, .int (nI (f))), (3, .int (nI (i)))]) 3 dX5_worthAt_65 rfl (nI_1 _) (by decide) rfl ?_
        refine z_goto 134 dX5_worthAt_68 (by decide) ?_
        refine z_iinc (v := nI (i + 1)) (lv' := [(3, .int (nI (i + 1))), (2, .int (nI (st.length + 1))), (4, .int 1), (0, .ref (L 99)), (1, .int (nI (f)))]) 4 dX5_worthAt_134 rfl (nI_1 _) (by decide) rfl ?_
        refine z_goto 4 dX5_worthAt_137 (by decide) ?_
        refine z_lv (lv' := [(0, .ref (L 99)), (1, .int (nI f)), (2, .int (nI (a :: st).length)), (3, .int (nI (i + 1)))]) [3, 4, 1, 0] rfl ?_
        exact ih (i + 1) (a :: st) _ hc3 hw (s_pile_push hp) (by omega) (by show (st.length + 1) + r.length ≤ 1100; omega) hf (hr.trans (by rfl))
      · have e : c = 2 := e
        subst e
        have ek : a = nI kf := ek
        subst ek
        refine z_aload_n 0 dX5_worthAt_4 rfl ?_
        refine tz_get (v := .ref (L 11)) 11 hL (by decide) q1604 rfl dX5_worthAt_5 ?_
        refine z_iload_n 3 dX5_worthAt_8 rfl ?_
        refine tz_iald (v := 2) 11 (i) hL (by decide) rfl (by show i < 2200; omega) hc1 dX5_worthAt_9 ?_
        refine z_if_eq 140 dX5_worthAt_10 (by decide) (fun h_ => absurd h_ (by decide)) (fun h_ => ?_)
        refine z_aload_n 0 dX5_worthAt_13 rfl ?_
        refine tz_get (v := .ref (L 11)) 11 hL (by decide) q1604 rfl dX5_worthAt_14 ?_
        refine z_iload_n 3 dX5_worthAt_17 rfl ?_
        refine tz_iald (v := 2) 11 (i) hL (by decide) rfl (by show i < 2200; omega) hc1 dX5_worthAt_18 ?_
        refine z_istore (lv' := [(4, .int 2), (0, .ref (L 99)), (1, .int (nI (f))), (2, .int (nI (st.length))), (3, .int (nI (i)))]) dX5_worthAt_19 (by decide) rfl ?_
        refine z_iload 0 dX5_worthAt_21 rfl ?_
        refine z_iconst (v := 1) dX5_worthAt_23 (by decide) ?_
        refine z_icmp_eqN (a := 2) (b := 1) 33 (by decide) (by decide) dX5_worthAt_24 (by decide) (fun h_ => absurd h_ (by decide)) (fun h_ => ?_)
        refine z_iload 0 dX5_worthAt_27 rfl ?_
        refine z_iconst (v := 2) dX5_worthAt_29 (by decide) ?_
        refine z_icmp_neN (a := 2) (b := 2) 71 (by decide) (by decide) dX5_worthAt_30 (by decide) (fun h_ => absurd h_ (by decide)) (fun h_ => ?_)
        refine z_aload_n 1 dX5_worthAt_33 rfl ?_
        refine tz_get (v := .ref (L 23)) 23 hL (by decide) q1616 rfl dX5_worthAt_34 ?_
        refine z_iload_n 3 dX5_worthAt_37 rfl ?_
        refine z_iload 0 dX5_worthAt_38 rfl ?_
        refine z_iconst (v := 1) dX5_worthAt_40 (by decide) ?_
        refine z_icmp_neN (a := 2) (b := 1) 53 (by decide) (by decide) dX5_worthAt_41 (by decide) (fun h_ => ?_) (fun h_ => absurd h_ (by decide))
        refine z_aload_n 1 dX5_worthAt_53 rfl ?_
        refine tz_get (v := .ref (L 22)) 22 hL (by decide) q1615 rfl dX5_worthAt_54 ?_
        refine z_aload_n 1 dX5_worthAt_57 rfl ?_
        refine tz_get (v := .ref (L 12)) 12 hL (by decide) q1605 rfl dX5_worthAt_58 ?_
        refine z_iload_n 4 dX5_worthAt_61 rfl ?_
        refine tz_iald (v := nI (kf)) 12 (i) hL (by decide) rfl (by show i < 2200; omega) hc2 dX5_worthAt_62 ?_
        refine tz_ialdG (v := fa kf) 22 (kf) hL (by decide) rfl (by show kf < 4; omega) (congrFun hf kf) dX5_worthAt_63 ?_
        refine tz_iastG 23 (st.length) hL (by decide) rfl (by show st.length < 1100; omega) dX5_worthAt_64 ?_
        refine z_iinc (v := nI (st.length + 1)) (lv' := [(2, .int (nI (st.length + 1))), (4, .int 2), (0, .ref (L 99)), (1, .int (nI (f))), (3, .int (nI (i)))]) 3 dX5_worthAt_65 rfl (nI_1 _) (by decide) rfl ?_
        refine z_goto 134 dX5_worthAt_68 (by decide) ?_
        refine z_iinc (v := nI (i + 1)) (lv' := [(3, .int (nI (i + 1))), (2, .int (nI (st.length + 1))), (4, .int 2), (0, .ref (L 99)), (1, .int (nI (f)))]) 4 dX5_worthAt_134 rfl (nI_1 _) (by decide) rfl ?_
        refine z_goto 4 dX5_worthAt_137 (by decide) ?_
        refine z_lv (lv' := [(0, .ref (L 99)), (1, .int (nI f)), (2, .int (nI (fa kf :: st).length)), (3, .int (nI (i + 1)))]) [3, 4, 1, 0] rfl ?_
        exact ih (i + 1) (fa kf :: st) _ hc3 hw (s_pile_push hp) (by omega) (by show (st.length + 1) + r.length ≤ 1100; omega) hf (hr.trans (by show s_ev fa r (s_step fa (2, nI kf) st) = _; unfold s_step; rw [if_neg (by show ¬ (2 : Nat) = 1; decide), if_pos rfl]; show s_ev fa r (fa (nI kf).toNatClampNeg :: st) = _; rw [nI_clamp (by omega)]))
      · have e : c = 3 := e
        subst e
        obtain ⟨x, st, rfl⟩ : ∃ x s9, st = x :: s9 := by cases st; exact absurd hd1 (by decide); exact ⟨_, _, rfl⟩
        have h2 : st.length + 1 + (r.length + 1) ≤ 1100 := h2
        refine z_lv (lv' := [(0, .ref (L 99)), (1, .int (nI (f))), (2, .int (nI (st.length + 1))), (3, .int (nI (i)))]) [0, 1, 2, 3] rfl ?_
        refine z_aload_n 0 dX5_worthAt_4 rfl ?_
        refine tz_get (v := .ref (L 11)) 11 hL (by decide) q1604 rfl dX5_worthAt_5 ?_
        refine z_iload_n 3 dX5_worthAt_8 rfl ?_
        refine tz_iald (v := 3) 11 (i) hL (by decide) rfl (by show i < 2200; omega) hc1 dX5_worthAt_9 ?_
        refine z_if_eq 140 dX5_worthAt_10 (by decide) (fun h_ => absurd h_ (by decide)) (fun h_ => ?_)
        refine z_aload_n 0 dX5_worthAt_13 rfl ?_
        refine tz_get (v := .ref (L 11)) 11 hL (by decide) q1604 rfl dX5_worthAt_14 ?_
        refine z_iload_n 3 dX5_worthAt_17 rfl ?_
        refine tz_iald (v := 3) 11 (i) hL (by decide) rfl (by show i < 2200; omega) hc1 dX5_worthAt_18 ?_
        refine z_istore (lv' := [(4, .int 3), (0, .ref (L 99)), (1, .int (nI (f))), (2, .int (nI (st.length + 1))), (3, .int (nI (i)))]) dX5_worthAt_19 (by decide) rfl ?_
        refine z_iload 0 dX5_worthAt_21 rfl ?_
        refine z_iconst (v := 1) dX5_worthAt_23 (by decide) ?_
        refine z_icmp_eqN (a := 3) (b := 1) 33 (by decide) (by decide) dX5_worthAt_24 (by decide) (fun h_ => absurd h_ (by decide)) (fun h_ => ?_)
        refine z_iload 0 dX5_worthAt_27 rfl ?_
        refine z_iconst (v := 2) dX5_worthAt_29 (by decide) ?_
        refine z_icmp_neN (a := 3) (b := 2) 71 (by decide) (by decide) dX5_worthAt_30 (by decide) (fun h_ => ?_) (fun h_ => absurd h_ (by decide))
        refine z_iload 0 dX5_worthAt_71 rfl ?_
        refine z_iconst (v := 3) dX5_worthAt_73 (by decide) ?_
        refine z_icmp_neN (a := 3) (b := 3) 104 (by decide) (by decide) dX5_worthAt_74 (by decide) (fun h_ => absurd h_ (by decide)) (fun h_ => ?_)
        refine z_aload_n 1 dX5_worthAt_77 rfl ?_
        refine tz_get (v := .ref (L 23)) 23 hL (by decide) q1616 rfl dX5_worthAt_78 ?_
        refine z_iload_n 3 dX5_worthAt_81 rfl ?_
        refine z_iconst (v := 1) dX5_worthAt_82 (by decide) ?_
        refine z_isubN (a := st.length + 1) (b := 1) (by omega) dX5_worthAt_83 ?_
        refine z_eq (y := nI (st.length)) (congrArg nI (by omega)) ?_
        refine z_aload_n 1 dX5_worthAt_84 rfl ?_
        refine tz_get (v := .ref (L 23)) 23 hL (by decide) q1616 rfl dX5_worthAt_85 ?_
        refine z_iload_n 3 dX5_worthAt_88 rfl ?_
        refine z_iconst (v := 1) dX5_worthAt_89 (by decide) ?_
        refine z_isubN (a := st.length + 1) (b := 1) (by omega) dX5_worthAt_90 ?_
        refine z_eq (y := nI (st.length)) (congrArg nI (by omega)) ?_
        refine tz_ialdG (v := x) 23 (st.length) hL (by decide) rfl (by show st.length < 1100; omega) hp.1 dX5_worthAt_91 ?_
        refine z_if_ne 99 dX5_worthAt_92 (by decide) (fun c_1 => ?_) (fun c_1 => ?_)
        · -- ¬ x = 0
          refine z_iconst (v := 0) dX5_worthAt_99 (by decide) ?_
          refine tz_iastG 23 (st.length) hL (by decide) rfl (by show st.length < 1100; omega) dX5_worthAt_100 ?_
          refine z_goto 134 dX5_worthAt_101 (by decide) ?_
          refine z_iinc (v := nI (i + 1)) (lv' := [(3, .int (nI (i + 1))), (4, .int 3), (0, .ref (L 99)), (1, .int (nI (f))), (2, .int (nI (st.length + 1)))]) 4 dX5_worthAt_134 rfl (nI_1 _) (by decide) rfl ?_
          refine z_goto 4 dX5_worthAt_137 (by decide) ?_
          refine z_lv (lv' := [(0, .ref (L 99)), (1, .int (nI f)), (2, .int (nI (0 :: st).length)), (3, .int (nI (i + 1)))]) [2, 3, 4, 0] rfl ?_
          exact ih (i + 1) (0 :: st) _ hc3 hw (s_pile_push hp.2) (by omega) (by show (st.length + 1) + r.length ≤ 1100; omega) hf (hr.trans (by show s_ev fa r ((if x = 0 then 1 else 0) :: st) = _; simp [c_1]))
        · -- x = 0
          refine z_iconst (v := 1) dX5_worthAt_95 (by decide) ?_
          refine z_goto 100 dX5_worthAt_96 (by decide) ?_
          refine tz_iastG 23 (st.length) hL (by decide) rfl (by show st.length < 1100; omega) dX5_worthAt_100 ?_
          refine z_goto 134 dX5_worthAt_101 (by decide) ?_
          refine z_iinc (v := nI (i + 1)) (lv' := [(3, .int (nI (i + 1))), (4, .int 3), (0, .ref (L 99)), (1, .int (nI (f))), (2, .int (nI (st.length + 1)))]) 4 dX5_worthAt_134 rfl (nI_1 _) (by decide) rfl ?_
          refine z_goto 4 dX5_worthAt_137 (by decide) ?_
          refine z_lv (lv' := [(0, .ref (L 99)), (1, .int (nI f)), (2, .int (nI (1 :: st).length)), (3, .int (nI (i + 1)))]) [2, 3, 4, 0] rfl ?_
          exact ih (i + 1) (1 :: st) _ hc3 hw (s_pile_push hp.2) (by omega) (by show (st.length + 1) + r.length ≤ 1100; omega) hf (hr.trans (by show s_ev fa r ((if x = 0 then 1 else 0) :: st) = _; simp [c_1]))
      · have hd1 : 4 ≤ c := hd1
        have hd2 : c ≤ 10 := hd2
        obtain ⟨x, y, st, rfl⟩ : ∃ x y s9, st = x :: y :: s9 := by cases st with | nil => exact absurd hd3 (by show ¬ 2 ≤ 0; decide) | cons x s9 => cases s9 with | nil => exact absurd hd3 (by show ¬ 2 ≤ 1; decide) | cons y s9 => exact ⟨_, _, _, rfl⟩
        have h2 : st.length + 2 + (r.length + 1) ≤ 1100 := h2
        refine z_lv (lv' := [(0, .ref (L 99)), (1, .int (nI (f))), (2, .int (nI (st.length + 2))), (3, .int (nI (i)))]) [0, 1, 2, 3] rfl ?_
        refine z_aload_n 0 dX5_worthAt_4 rfl ?_
        refine tz_get (v := .ref (L 11)) 11 hL (by decide) q1604 rfl dX5_worthAt_5 ?_
        refine z_iload_n 3 dX5_worthAt_8 rfl ?_
        refine tz_iald (v := nI (c)) 11 (i) hL (by decide) rfl (by show i < 2200; omega) hc1 dX5_worthAt_9 ?_
        refine z_if_eqN 140 (by omega) dX5_worthAt_10 (by decide) (fun c_2 => absurd c_2 (by omega)) (fun c_2 => ?_)
        refine z_aload_n 0 dX5_worthAt_13 rfl ?_
        refine tz_get (v := .ref (L 11)) 11 hL (by decide) q1604 rfl dX5_worthAt_14 ?_
        refine z_iload_n 3 dX5_worthAt_17 rfl ?_
        refine tz_iald (v := nI (c)) 11 (i) hL (by decide) rfl (by show i < 2200; omega) hc1 dX5_worthAt_18 ?_
        refine z_istore (lv' := [(4, .int (nI (c))), (0, .ref (L 99)), (1, .int (nI (f))), (2, .int (nI (st.length + 2))), (3, .int (nI (i)))]) dX5_worthAt_19 (by decide) rfl ?_
        refine z_iload 0 dX5_worthAt_21 rfl ?_
        refine z_iconst (v := 1) dX5_worthAt_23 (by decide) ?_
        refine z_icmp_eqN (a := c) (b := 1) 33 (by omega) (by omega) dX5_worthAt_24 (by decide) (fun c_3 => absurd c_3 (by omega)) (fun c_3 => ?_)
        refine z_iload 0 dX5_worthAt_27 rfl ?_
        refine z_iconst (v := 2) dX5_worthAt_29 (by decide) ?_
        refine z_icmp_neN (a := c) (b := 2) 71 (by omega) (by omega) dX5_worthAt_30 (by decide) (fun c_4 => ?_) (fun c_4 => absurd c_4 (by omega))
        refine z_iload 0 dX5_worthAt_71 rfl ?_
        refine z_iconst (v := 3) dX5_worthAt_73 (by decide) ?_
        refine z_icmp_neN (a := c) (b := 3) 104 (by omega) (by omega) dX5_worthAt_74 (by decide) (fun c_5 => ?_) (fun c_5 => absurd c_5 (by omega))
        refine z_iinc (v := nI (st.length + 1)) (lv' := [(2, .int (nI (st.length + 1))), (4, .int (nI (c))), (0, .ref (L 99)), (1, .int (nI (f))), (3, .int (nI (i)))]) 3 dX5_worthAt_104 rfl (pk_m1 _) (by decide) rfl ?_
        refine z_aload_n 2 dX5_worthAt_107 rfl ?_
        refine tz_get (v := .ref (L 23)) 23 hL (by decide) q1616 rfl dX5_worthAt_108 ?_
        refine z_iload_n 0 dX5_worthAt_111 rfl ?_
        refine z_iconst (v := 1) dX5_worthAt_112 (by decide) ?_
        refine z_isubN (a := st.length + 1) (b := 1) (by omega) dX5_worthAt_113 ?_
        refine z_eq (y := nI (st.length)) (congrArg nI (by omega)) ?_
        refine z_iload 1 dX5_worthAt_114 rfl ?_
        refine z_aload_n 2 dX5_worthAt_116 rfl ?_
        refine tz_get (v := .ref (L 23)) 23 hL (by decide) q1616 rfl dX5_worthAt_117 ?_
        refine z_iload_n 0 dX5_worthAt_120 rfl ?_
        refine z_iconst (v := 1) dX5_worthAt_121 (by decide) ?_
        refine z_isubN (a := st.length + 1) (b := 1) (by omega) dX5_worthAt_122 ?_
        refine z_eq (y := nI (st.length)) (congrArg nI (by omega)) ?_
        refine tz_ialdG (v := y) 23 (st.length) hL (by decide) rfl (by show st.length < 1100; omega) hp.2.1 dX5_worthAt_123 ?_
        refine z_aload_n 2 dX5_worthAt_124 rfl ?_
        refine tz_get (v := .ref (L 23)) 23 hL (by decide) q1616 rfl dX5_worthAt_125 ?_
        refine z_iload_n 0 dX5_worthAt_128 rfl ?_
        refine tz_ialdG (v := x) 23 (st.length + 1) hL (by decide) rfl (by show st.length + 1 < 1100; omega) hp.1 dX5_worthAt_129 ?_
        refine z_callS (As := [.int (nI (c)), .int y, .int x]) (t_both c y x (by omega)) q1897 q1898 q121 q1899 nm_X5_both rfl (Nat.le_of_ble_eq_true rfl) ⟨Nat.le_of_ble_eq_true rfl, Nat.le_of_ble_eq_true rfl⟩ dX5_worthAt_130 rfl rfl (Nat.le_of_ble_eq_true rfl) (Nat.le_of_ble_eq_true rfl) (fun v_6 X_7 hp_8 => ?_)
        obtain ⟨rfl, rfl⟩ := hp_8
        refine z_st (st' := [.int (s_both c y x), .int (nI (st.length)), .ref (L 23)]) rfl ?_
        refine tz_iastG 23 (st.length) hL (by decide) rfl (by show st.length < 1100; omega) dX5_worthAt_133 ?_
        refine z_iinc (v := nI (i + 1)) (lv' := [(3, .int (nI (i + 1))), (2, .int (nI (st.length + 1))), (4, .int (nI (c))), (0, .ref (L 99)), (1, .int (nI (f)))]) 4 dX5_worthAt_134 rfl (nI_1 _) (by decide) rfl ?_
        refine z_goto 4 dX5_worthAt_137 (by decide) ?_
        refine z_lv (lv' := [(0, .ref (L 99)), (1, .int (nI f)), (2, .int (nI (s_both c y x :: st).length)), (3, .int (nI (i + 1)))]) [3, 4, 1, 0] rfl ?_
        exact ih (i + 1) (s_both c y x :: st) _ hc3 hw (s_pile_push hp.2.2) (by omega) (by show (st.length + 1) + r.length ≤ 1100; omega) hf (hr.trans (by show s_ev fa r (s_step fa (c, a) (x :: y :: st)) = _; unfold s_step; rw [if_neg (by show ¬ c = 1; omega), if_neg (by show ¬ c = 2; omega), if_neg (by show ¬ c = 3; omega)]))
  refine z_lv (lv' := [(0, .ref (L 99)), (1, .int (nI f)), (2, .int (nI ([] : List Int32).length)), (3, .int (nI f))]) [2, 3, 1, 0] rfl ?_
  exact loop c0 f [] Gb hco hwf trivial hlen (by show 0 + c0.length ≤ 1100; omega) hfa rfl
