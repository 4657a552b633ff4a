/-! THE MODEL: layings. Printed by t17.py -/
set_option maxRecDepth 100000
set_option maxHeartbeats 4000000 in
theorem t_laysFrom_0 {g : zG} {L : Nat → Nat} {I : Nat → Nat → Int32} {J : Nat → Nat → Int64} {Gb : Nat → Nat → Int32} {X : zX} (hL : tok g L) {τ : Nat → Int32} {nh : Nat} (d : Nat) (hd : d + 0 ≤ 6) (h0 : I 10 0 = nI nh) (hnh : nh ≤ 4) (h1 : I 10 1 = nI (d)) (hd2 : d ≤ 6) (hτ : ∀ j, d ≤ j → j < d → τ (j + 6) = zm1) : zN g m_X5_laysFrom ({ frames := 1, cells := 0, slots := 0, locals := 20 } : Room) [.ref (L 99), .int (nI (d))] (tX g L (tput I 987 τ) J Gb X) (fun rv X' => rv = some (.int (s_lays (I 10) (I 24) nh (d) 0 τ)) ∧ X' = (tX g L (tput I 987 τ) J Gb X)) := by
  refine zN.of (by decide +kernel) (Nat.le_of_ble_eq_true rfl) rfl ?_
  refine z_lv (lv' := [(0, .ref (L 99)), (1, .int (nI (d)))]) [0, 1] rfl ?_
  refine z_iload_n 1 dX5_laysFrom_0 rfl ?_
  refine z_aload_n 0 dX5_laysFrom_1 rfl ?_
  refine z_callV (As := []) (t_days (I := (tput I 987 τ)) hL h1) q1573 q1575 qs53 q121 q1576 nm_X5_days (tX_obj hL) rfl rfl rfl (Nat.le_of_ble_eq_true rfl) ⟨Nat.le_of_ble_eq_true rfl, Nat.le_of_ble_eq_true rfl⟩ dX5_laysFrom_2 rfl rfl (Nat.le_of_ble_eq_true rfl) (Nat.le_of_ble_eq_true rfl) (fun v_1 X_2 hp_3 => ?_)
  obtain ⟨rfl, rfl⟩ := hp_3
  refine z_st (st' := [.int (nI (d)), .int (nI (d))]) rfl ?_
  refine z_icmp_neN (a := d) (b := d) 10 (by omega) (by omega) dX5_laysFrom_5 (by decide) (fun c_4 => absurd c_4 ((fun h => h rfl))) (fun c_4 => ?_)
  refine z_iconst (v := 1) dX5_laysFrom_8 (by decide) ?_
  exact z_iret dX5_laysFrom_9 rfl (Nat.le_of_ble_eq_true rfl) (Nat.le_of_ble_eq_true rfl) ⟨rfl, rfl⟩
set_option maxHeartbeats 4000000 in
theorem t_laysFrom_1 {g : zG} {L : Nat → Nat} {I : Nat → Nat → Int32} {J : Nat → Nat → Int64} {Gb : Nat → Nat → Int32} {X : zX} (hL : tok g L) {τ : Nat → Int32} {nh : Nat} (d : Nat) (hd : d + 1 ≤ 6) (h0 : I 10 0 = nI nh) (hnh : nh ≤ 4) (h1 : I 10 1 = nI (d + 1)) (hd2 : d ≤ 6) (hτ : ∀ j, d ≤ j → j < d + 1 → τ (j + 6) = zm1) : zN g m_X5_laysFrom ({ frames := 4, cells := 0, slots := 0, locals := 90 } : Room) [.ref (L 99), .int (nI (d))] (tX g L (tput I 987 τ) J Gb X) (fun rv X' => rv = some (.int (s_lays (I 10) (I 24) nh (d + 1) 1 τ)) ∧ X' = (tX g L (tput I 987 τ) J Gb X)) := by
  refine zN.of (by decide +kernel) (Nat.le_of_ble_eq_true rfl) rfl ?_
  refine z_lv (lv' := [(0, .ref (L 99)), (1, .int (nI (d)))]) [0, 1] rfl ?_
  refine z_iload_n 1 dX5_laysFrom_0 rfl ?_
  refine z_aload_n 0 dX5_laysFrom_1 rfl ?_
  refine z_callV (As := []) (t_days (I := (tput I 987 τ)) hL h1) q1573 q1575 qs53 q121 q1576 nm_X5_days (tX_obj hL) rfl rfl rfl (Nat.le_of_ble_eq_true rfl) ⟨Nat.le_of_ble_eq_true rfl, Nat.le_of_ble_eq_true rfl⟩ dX5_laysFrom_2 rfl rfl (Nat.le_of_ble_eq_true rfl) (Nat.le_of_ble_eq_true rfl) (fun v_1 X_2 hp_3 => ?_)
  obtain ⟨rfl, rfl⟩ := hp_3
  refine z_st (st' := [.int (nI (d + 1)), .int (nI (d))]) rfl ?_
  refine z_icmp_neN (a := d) (b := d + 1) 10 (by omega) (by omega) dX5_laysFrom_5 (by decide) (fun c_4 => ?_) (fun c_4 => absurd c_4 ((by omega)))
  refine z_aload_n 0 dX5_laysFrom_10 rfl ?_
  refine tz_get (v := .ref (L 24)) 24 hL (by decide) q1617 rfl dX5_laysFrom_11 ?_
  refine z_bipush (v := 6) dX5_laysFrom_14 (by decide) ?_
  refine z_iload_n 1 dX5_laysFrom_16 rfl ?_
  refine z_iaddN (a := 6) (b := d) dX5_laysFrom_17 ?_
  refine z_eq (y := nI (d + 6)) (congrArg nI (by omega)) ?_
  refine tz_iald (v := I 24 (d + 6)) 24 (d + 6) hL (by decide) rfl (by show d + 6 < 1081; omega) ((tput_off (by omega)).trans rfl) dX5_laysFrom_18 ?_
  refine z_if_ge 30 dX5_laysFrom_19 (by decide) (fun c_5 => ?_) (fun c_5 => ?_)
  · -- 0 ≤ I 24 (d + 6)
    have c_5' := Int32.not_lt.mpr c_5
    refine z_iconst (v := 0) dX5_laysFrom_30 (by decide) ?_
    refine z_istore_n (lv' := [(2, .int 0), (0, .ref (L 99)), (1, .int (nI (d)))]) dX5_laysFrom_31 rfl (by decide) rfl ?_
    refine z_iconst (v := 0) dX5_laysFrom_32 (by decide) ?_
    refine z_istore_n (lv' := [(3, .int 0), (2, .int 0), (0, .ref (L 99)), (1, .int (nI (d)))]) dX5_laysFrom_33 rfl (by decide) rfl ?_
    have loop_10 : ∀ (q_7 i_6 : Nat), i_6 + q_7 = nh → 0 ≤ i_6 → zZ g m_X5_laysFrom (fun rv X' => rv = some (.int (s_lays (I 10) (I 24) nh (d + 1) 1 τ)) ∧ X' = (tX g L (tput I 987 τ) J Gb X), zno, ({ frames := 4, cells := 0, slots := 0, locals := 90 } : Room)) 0 0 (tX g L (tput I 987 τ) J Gb X) 34 [(0, .ref (L 99)), (1, .int (nI (d))), (2, .int (s_sum (fun h => if s_holds (I 10) τ (d + 1) h d = true then s_lays (I 10) (I 24) nh (d + 1) 0 (zs1 τ (d + 6) (nI h)) else 0) i_6)), (3, .int (nI (i_6)))] [] := by
      intro q_7
      induction q_7 with
      | zero =>
        intro i_6 hb_9 lo_11  
        obtain rfl : nh = i_6 := by omega
        refine z_iload_n 3 dX5_laysFrom_34 rfl ?_
        refine z_aload_n 0 dX5_laysFrom_35 rfl ?_
        refine z_callV (As := []) (t_houses (I := (tput I 987 τ)) hL h0) q1585 q1587 qs56 q121 q1588 nm_X5_houses (tX_obj hL) rfl rfl rfl (Nat.le_of_ble_eq_true rfl) ⟨Nat.le_of_ble_eq_true rfl, Nat.le_of_ble_eq_true rfl⟩ dX5_laysFrom_36 rfl rfl (Nat.le_of_ble_eq_true rfl) (Nat.le_of_ble_eq_true rfl) (fun v_12 X_13 hp_14 => ?_)
        obtain ⟨rfl, rfl⟩ := hp_14
        refine z_st (st' := [.int (nI (nh)), .int (nI (nh))]) rfl ?_
        refine z_icmp_geN (a := nh) (b := nh) 92 (by omega) (by omega) dX5_laysFrom_39 (by decide) (fun c_15 => ?_) (fun c_15 => absurd c_15 (by omega))
        refine z_iload_n 2 dX5_laysFrom_92 rfl ?_
        exact z_iret dX5_laysFrom_93 rfl (Nat.le_of_ble_eq_true rfl) (Nat.le_of_ble_eq_true rfl) ⟨congrArg some (congrArg Value.int (by show _ = s_lays (I 10) (I 24) nh (d + 1) (0 + 1) τ; rw [s_lays_1 (r := 0), show d + 1 - (0 + 1) = d by omega]; simp [c_5, c_5'])), rfl⟩
      | succ q_7 ih_8 =>
        intro i_6 hb_9 lo_11  
        refine z_iload_n 3 dX5_laysFrom_34 rfl ?_
        refine z_aload_n 0 dX5_laysFrom_35 rfl ?_
        refine z_callV (As := []) (t_houses (I := (tput I 987 τ)) hL h0) q1585 q1587 qs56 q121 q1588 nm_X5_houses (tX_obj hL) rfl rfl rfl (Nat.le_of_ble_eq_true rfl) ⟨Nat.le_of_ble_eq_true rfl, Nat.le_of_ble_eq_true rfl⟩ dX5_laysFrom_36 rfl rfl (Nat.le_of_ble_eq_true rfl) (Nat.le_of_ble_eq_true rfl) (fun v_16 X_17 hp_18 => ?_)
        obtain ⟨rfl, rfl⟩ := hp_18
        refine z_st (st' := [.int (nI (nh)), .int (nI (i_6))]) rfl ?_
        refine z_icmp_geN (a := i_6) (b := nh) 92 (by omega) (by omega) dX5_laysFrom_39 (by decide) (fun c_19 => absurd c_19 (by omega)) (fun c_19 => ?_)
        refine z_aload_n 0 dX5_laysFrom_42 rfl ?_
        refine z_sipush (v := 987) dX5_laysFrom_43 (by decide) ?_
        refine z_iload_n 3 dX5_laysFrom_46 rfl ?_
        refine z_iload_n 1 dX5_laysFrom_47 rfl ?_
        refine z_callV (As := [.int 987, .int (nI (i_6)), .int (nI (d))]) (t_doesHold (I := I) (σ := τ) hL h1 (by omega) 987 (by omega) i_6 d (by omega) (by omega)) q1886 q1888 qs97 q121 q1889 nm_X5_doesHold (tX_obj hL) rfl rfl rfl (Nat.le_of_ble_eq_true rfl) ⟨Nat.le_of_ble_eq_true rfl, Nat.le_of_ble_eq_true rfl⟩ dX5_laysFrom_48 rfl rfl (Nat.le_of_ble_eq_true rfl) (Nat.le_of_ble_eq_true rfl) (fun v_20 X_21 hp_22 => ?_)
        obtain ⟨rfl, rfl⟩ := hp_22
        refine z_st (st' := [.int (zb (s_holds (I 10) τ (d + 1) i_6 d))]) rfl ?_
        refine z_if_eqb 86 dX5_laysFrom_51 (by decide) (fun c_23 => ?_) (fun c_23 => ?_)
        · -- s_holds (I 10) τ (d + 1) i_6 d = false
          refine z_iinc (v := nI (i_6 + 1)) (lv' := [(3, .int (nI (i_6 + 1))), (0, .ref (L 99)), (1, .int (nI (d))), (2, .int (s_sum (fun h => if s_holds (I 10) τ (d + 1) h d = true then s_lays (I 10) (I 24) nh (d + 1) 0 (zs1 τ (d + 6) (nI h)) else 0) i_6))]) 3 dX5_laysFrom_86 rfl (nI_1 _) (by decide) rfl ?_
          refine z_goto 34 dX5_laysFrom_89 (by decide) ?_
          have f_24 : s_sum (fun h => if s_holds (I 10) τ (d + 1) h d = true then s_lays (I 10) (I 24) nh (d + 1) 0 (zs1 τ (d + 6) (nI h)) else 0) i_6 = s_sum (fun h => if s_holds (I 10) τ (d + 1) h d = true then s_lays (I 10) (I 24) nh (d + 1) 0 (zs1 τ (d + 6) (nI h)) else 0) (i_6 + 1) := by first | rfl | omega | (simp [s_sum, c_4, c_5, c_5', hb_9, c_19, c_23]; done) | (skip; simp [s_sum, c_4, c_5, c_5', hb_9, c_19, c_23])
          refine z_lv (lv' := [(0, .ref (L 99)), (1, .int (nI (d))), (2, .int (s_sum (fun h => if s_holds (I 10) τ (d + 1) h d = true then s_lays (I 10) (I 24) nh (d + 1) 0 (zs1 τ (d + 6) (nI h)) else 0) (i_6 + 1))), (3, .int (nI (i_6 + 1)))]) [1, 2, 3, 0] (by rw [← f_24]; rfl) ?_
          exact ih_8 (i_6 + 1) (by omega) (by omega)  
        · -- s_holds (I 10) τ (d + 1) i_6 d = true
          refine z_aload_n 0 dX5_laysFrom_54 rfl ?_
          refine tz_get (v := .ref (L 24)) 24 hL (by decide) q1617 rfl dX5_laysFrom_55 ?_
          refine z_sipush (v := 993) dX5_laysFrom_58 (by decide) ?_
          refine z_iload_n 1 dX5_laysFrom_61 rfl ?_
          refine z_iaddN (a := 993) (b := d) dX5_laysFrom_62 ?_
          refine z_eq (y := nI (d + 993)) (congrArg nI (by omega)) ?_
          refine z_iload_n 3 dX5_laysFrom_63 rfl ?_
          refine tz_iast 24 (987 + (d + 6)) hL (by decide) (congrArg nI (by omega)) (by show 987 + (d + 6) < 1081; omega) (tput_zs (by omega)) dX5_laysFrom_64 ?_
          refine z_iload_n 2 dX5_laysFrom_65 rfl ?_
          refine z_aload_n 0 dX5_laysFrom_66 rfl ?_
          refine z_iload_n 1 dX5_laysFrom_67 rfl ?_
          refine z_iconst (v := 1) dX5_laysFrom_68 (by decide) ?_
          refine z_iaddN (a := d) (b := 1) dX5_laysFrom_69 ?_
          refine z_callV (As := [.int (nI (d + 1))]) (t_laysFrom_0 (I := I) (τ := (zs1 τ (d + 6) (nI (i_6)))) hL (d + 1) (by omega) h0 hnh (by first | exact h1 | (rw [h1]; exact congrArg nI (by omega))) (by omega) (fun j h8 h9 => (zs1_n (by omega)).trans (hτ j (by omega) (by omega)))) q1972 q1974 qs104 q121 q1975 nm_X5_laysFrom (tX_obj hL) rfl rfl rfl (Nat.le_of_ble_eq_true rfl) ⟨Nat.le_of_ble_eq_true rfl, Nat.le_of_ble_eq_true rfl⟩ dX5_laysFrom_70 rfl rfl (Nat.le_of_ble_eq_true rfl) (Nat.le_of_ble_eq_true rfl) (fun v_25 X_26 hp_27 => ?_)
          obtain ⟨rfl, rfl⟩ := hp_27
          refine z_st (st' := [.int (s_lays (I 10) (I 24) nh (d + 1) 0 (zs1 τ (d + 6) (nI (i_6)))), .int (s_sum (fun h => if s_holds (I 10) τ (d + 1) h d = true then s_lays (I 10) (I 24) nh (d + 1) 0 (zs1 τ (d + 6) (nI h)) else 0) i_6)]) rfl ?_
          refine z_iadd dX5_laysFrom_73 ?_
          obtain ⟨x_28, ex_28⟩ : ∃ y : Int32, ((s_sum (fun h => if s_holds (I 10) τ (d + 1) h d = true then s_lays (I 10) (I 24) nh (d + 1) 0 (zs1 τ (d + 6) (nI h)) else 0) i_6) + (s_lays (I 10) (I 24) nh (d + 1) 0 (zs1 τ (d + 6) (nI (i_6))))) = y := ⟨_, rfl⟩
          refine z_eq ex_28 ?_
          refine z_istore_n (lv' := [(2, .int x_28), (0, .ref (L 99)), (1, .int (nI (d))), (3, .int (nI (i_6)))]) dX5_laysFrom_74 rfl (by decide) rfl ?_
          refine z_aload_n 1 dX5_laysFrom_75 rfl ?_
          refine tz_get (v := .ref (L 24)) 24 hL (by decide) q1617 rfl dX5_laysFrom_76 ?_
          refine z_sipush (v := 993) dX5_laysFrom_79 (by decide) ?_
          refine z_iload_n 2 dX5_laysFrom_82 rfl ?_
          refine z_iaddN (a := 993) (b := d) dX5_laysFrom_83 ?_
          refine z_eq (y := nI (d + 993)) (congrArg nI (by omega)) ?_
          refine z_iconst (v := zm1) dX5_laysFrom_84 (by decide) ?_
          refine tz_iast 24 (987 + (d + 6)) hL (by decide) (congrArg nI (by omega)) (by show 987 + (d + 6) < 1081; omega) (tput_zs (by omega)) dX5_laysFrom_85 ?_
          refine z_iinc (v := nI (i_6 + 1)) (lv' := [(3, .int (nI (i_6 + 1))), (2, .int x_28), (0, .ref (L 99)), (1, .int (nI (d)))]) 3 dX5_laysFrom_86 rfl (nI_1 _) (by decide) rfl ?_
          refine z_goto 34 dX5_laysFrom_89 (by decide) ?_
          have f_29 : x_28 = s_sum (fun h => if s_holds (I 10) τ (d + 1) h d = true then s_lays (I 10) (I 24) nh (d + 1) 0 (zs1 τ (d + 6) (nI h)) else 0) (i_6 + 1) := by first | rfl | omega | (simp [s_sum, c_4, c_5, c_5', hb_9, c_19, c_23]; done) | ((try subst ex_28); simp [s_sum, c_4, c_5, c_5', hb_9, c_19, c_23])
          subst f_29
          refine z_lv (lv' := [(0, .ref (L 99)), (1, .int (nI (d))), (2, .int (s_sum (fun h => if s_holds (I 10) τ (d + 1) h d = true then s_lays (I 10) (I 24) nh (d + 1) 0 (zs1 τ (d + 6) (nI h)) else 0) (i_6 + 1))), (3, .int (nI (i_6 + 1)))]) [2, 3, 1, 0] rfl ?_
          refine z_X (X' := (tX g L (tput I 987 τ) J Gb X)) (congrArg (fun z => tX g L (tput I 987 z) J Gb X) (zs1_back (hτ d (Nat.le_refl _) (by omega)))) ?_
          exact ih_8 (i_6 + 1) (by omega) (by omega)  
    have f_30 : 0 = s_sum (fun h => if s_holds (I 10) τ (d + 1) h d = true then s_lays (I 10) (I 24) nh (d + 1) 0 (zs1 τ (d + 6) (nI h)) else 0) 0 := by rfl
    refine z_lv (lv' := [(0, .ref (L 99)), (1, .int (nI (d))), (2, .int (s_sum (fun h => if s_holds (I 10) τ (d + 1) h d = true then s_lays (I 10) (I 24) nh (d + 1) 0 (zs1 τ (d + 6) (nI h)) else 0) 0)), (3, .int 0)]) [2, 3, 1, 0] (by rw [← f_30]; rfl) ?_
    exact loop_10 (nh - 0) 0 (by omega) (Nat.le_refl _)  
  · -- ¬ 0 ≤ I 24 (d + 6)
    have c_5' := Int32.not_le.mp c_5
    refine z_aload_n 0 dX5_laysFrom_22 rfl ?_
    refine z_iload_n 1 dX5_laysFrom_23 rfl ?_
    refine z_iconst (v := 1) dX5_laysFrom_24 (by decide) ?_
    refine z_iaddN (a := d) (b := 1) dX5_laysFrom_25 ?_
    refine z_callV (As := [.int (nI (d + 1))]) (t_laysFrom_0 (I := I) (τ := τ) hL (d + 1) (by omega) h0 hnh (by first | exact h1 | (rw [h1]; exact congrArg nI (by omega))) (by omega) (fun j h8 h9 => hτ j (by omega) (by omega))) q1972 q1974 qs104 q121 q1975 nm_X5_laysFrom (tX_obj hL) rfl rfl rfl (Nat.le_of_ble_eq_true rfl) ⟨Nat.le_of_ble_eq_true rfl, Nat.le_of_ble_eq_true rfl⟩ dX5_laysFrom_26 rfl rfl (Nat.le_of_ble_eq_true rfl) (Nat.le_of_ble_eq_true rfl) (fun v_31 X_32 hp_33 => ?_)
    obtain ⟨rfl, rfl⟩ := hp_33
    refine z_st (st' := [.int (s_lays (I 10) (I 24) nh (d + 1) 0 τ)]) rfl ?_
    exact z_iret dX5_laysFrom_29 rfl (Nat.le_of_ble_eq_true rfl) (Nat.le_of_ble_eq_true rfl) ⟨congrArg some (congrArg Value.int (by show _ = s_lays (I 10) (I 24) nh (d + 1) (0 + 1) τ; rw [s_lays_1 (r := 0), show d + 1 - (0 + 1) = d by omega]; simp [c_5, c_5'])), rfl⟩
set_option maxHeartbeats 4000000 in
theorem t_laysFrom_2 {g : zG} {L : Nat → Nat} {I : Nat → Nat → Int32} {J : Nat → Nat → Int64} {Gb : Nat → Nat → Int32} {X : zX} (hL : tok g L) {τ : Nat → Int32} {nh : Nat} (d : Nat) (hd : d + 2 ≤ 6) (h0 : I 10 0 = nI nh) (hnh : nh ≤ 4) (h1 : I 10 1 = nI (d + 2)) (hd2 : d ≤ 6) (hτ : ∀ j, d ≤ j → j < d + 2 → τ (j + 6) = zm1) : zN g m_X5_laysFrom ({ frames := 5, cells := 0, slots := 0, locals := 113 } : Room) [.ref (L 99), .int (nI (d))] (tX g L (tput I 987 τ) J Gb X) (fun rv X' => rv = some (.int (s_lays (I 10) (I 24) nh (d + 2) 2 τ)) ∧ X' = (tX g L (tput I 987 τ) J Gb X)) := by
  refine zN.of (by decide +kernel) (Nat.le_of_ble_eq_true rfl) rfl ?_
  refine z_lv (lv' := [(0, .ref (L 99)), (1, .int (nI (d)))]) [0, 1] rfl ?_
  refine z_iload_n 1 dX5_laysFrom_0 rfl ?_
  refine z_aload_n 0 dX5_laysFrom_1 rfl ?_
  refine z_callV (As := []) (t_days (I := (tput I 987 τ)) hL h1) q1573 q1575 qs53 q121 q1576 nm_X5_days (tX_obj hL) rfl rfl rfl (Nat.le_of_ble_eq_true rfl) ⟨Nat.le_of_ble_eq_true rfl, Nat.le_of_ble_eq_true rfl⟩ dX5_laysFrom_2 rfl rfl (Nat.le_of_ble_eq_true rfl) (Nat.le_of_ble_eq_true rfl) (fun v_1 X_2 hp_3 => ?_)
  obtain ⟨rfl, rfl⟩ := hp_3
  refine z_st (st' := [.int (nI (d + 2)), .int (nI (d))]) rfl ?_
  refine z_icmp_neN (a := d) (b := d + 2) 10 (by omega) (by omega) dX5_laysFrom_5 (by decide) (fun c_4 => ?_) (fun c_4 => absurd c_4 ((by omega)))
  refine z_aload_n 0 dX5_laysFrom_10 rfl ?_
  refine tz_get (v := .ref (L 24)) 24 hL (by decide) q1617 rfl dX5_laysFrom_11 ?_
  refine z_bipush (v := 6) dX5_laysFrom_14 (by decide) ?_
  refine z_iload_n 1 dX5_laysFrom_16 rfl ?_
  refine z_iaddN (a := 6) (b := d) dX5_laysFrom_17 ?_
  refine z_eq (y := nI (d + 6)) (congrArg nI (by omega)) ?_
  refine tz_iald (v := I 24 (d + 6)) 24 (d + 6) hL (by decide) rfl (by show d + 6 < 1081; omega) ((tput_off (by omega)).trans rfl) dX5_laysFrom_18 ?_
  refine z_if_ge 30 dX5_laysFrom_19 (by decide) (fun c_5 => ?_) (fun c_5 => ?_)
  · -- 0 ≤ I 24 (d + 6)
    have c_5' := Int32.not_lt.mpr c_5
    refine z_iconst (v := 0) dX5_laysFrom_30 (by decide) ?_
    refine z_istore_n (lv' := [(2, .int 0), (0, .ref (L 99)), (1, .int (nI (d)))]) dX5_laysFrom_31 rfl (by decide) rfl ?_
    refine z_iconst (v := 0) dX5_laysFrom_32 (by decide) ?_
    refine z_istore_n (lv' := [(3, .int 0), (2, .int 0), (0, .ref (L 99)), (1, .int (nI (d)))]) dX5_laysFrom_33 rfl (by decide) rfl ?_
    have loop_10 : ∀ (q_7 i_6 : Nat), i_6 + q_7 = nh → 0 ≤ i_6 → zZ g m_X5_laysFrom (fun rv X' => rv = some (.int (s_lays (I 10) (I 24) nh (d + 2) 2 τ)) ∧ X' = (tX g L (tput I 987 τ) J Gb X), zno, ({ frames := 5, cells := 0, slots := 0, locals := 113 } : Room)) 0 0 (tX g L (tput I 987 τ) J Gb X) 34 [(0, .ref (L 99)), (1, .int (nI (d))), (2, .int (s_sum (fun h => if s_holds (I 10) τ (d + 2) h d = true then s_lays (I 10) (I 24) nh (d + 2) 1 (zs1 τ (d + 6) (nI h)) else 0) i_6)), (3, .int (nI (i_6)))] [] := by
      intro q_7
      induction q_7 with
      | zero =>
        intro i_6 hb_9 lo_11  
        obtain rfl : nh = i_6 := by omega
        refine z_iload_n 3 dX5_laysFrom_34 rfl ?_
        refine z_aload_n 0 dX5_laysFrom_35 rfl ?_
        refine z_callV (As := []) (t_houses (I := (tput I 987 τ)) hL h0) q1585 q1587 qs56 q121 q1588 nm_X5_houses (tX_obj hL) rfl rfl rfl (Nat.le_of_ble_eq_true rfl) ⟨Nat.le_of_ble_eq_true rfl, Nat.le_of_ble_eq_true rfl⟩ dX5_laysFrom_36 rfl rfl (Nat.le_of_ble_eq_true rfl) (Nat.le_of_ble_eq_true rfl) (fun v_12 X_13 hp_14 => ?_)
        obtain ⟨rfl, rfl⟩ := hp_14
        refine z_st (st' := [.int (nI (nh)), .int (nI (nh))]) rfl ?_
        refine z_icmp_geN (a := nh) (b := nh) 92 (by omega) (by omega) dX5_laysFrom_39 (by decide) (fun c_15 => ?_) (fun c_15 => absurd c_15 (by omega))
        refine z_iload_n 2 dX5_laysFrom_92 rfl ?_
        exact z_iret dX5_laysFrom_93 rfl (Nat.le_of_ble_eq_true rfl) (Nat.le_of_ble_eq_true rfl) ⟨congrArg some (congrArg Value.int (by show _ = s_lays (I 10) (I 24) nh (d + 2) (1 + 1) τ; rw [s_lays_1 (r := 1), show d + 2 - (1 + 1) = d by omega]; simp [c_5, c_5'])), rfl⟩
      | succ q_7 ih_8 =>
        intro i_6 hb_9 lo_11  
        refine z_iload_n 3 dX5_laysFrom_34 rfl ?_
        refine z_aload_n 0 dX5_laysFrom_35 rfl ?_
        refine z_callV (As := []) (t_houses (I := (tput I 987 τ)) hL h0) q1585 q1587 qs56 q121 q1588 nm_X5_houses (tX_obj hL) rfl rfl rfl (Nat.le_of_ble_eq_true rfl) ⟨Nat.le_of_ble_eq_true rfl, Nat.le_of_ble_eq_true rfl⟩ dX5_laysFrom_36 rfl rfl (Nat.le_of_ble_eq_true rfl) (Nat.le_of_ble_eq_true rfl) (fun v_16 X_17 hp_18 => ?_)
        obtain ⟨rfl, rfl⟩ := hp_18
        refine z_st (st' := [.int (nI (nh)), .int (nI (i_6))]) rfl ?_
        refine z_icmp_geN (a := i_6) (b := nh) 92 (by omega) (by omega) dX5_laysFrom_39 (by decide) (fun c_19 => absurd c_19 (by omega)) (fun c_19 => ?_)
        refine z_aload_n 0 dX5_laysFrom_42 rfl ?_
        refine z_sipush (v := 987) dX5_laysFrom_43 (by decide) ?_
        refine z_iload_n 3 dX5_laysFrom_46 rfl ?_
        refine z_iload_n 1 dX5_laysFrom_47 rfl ?_
        refine z_callV (As := [.int 987, .int (nI (i_6)), .int (nI (d))]) (t_doesHold (I := I) (σ := τ) hL h1 (by omega) 987 (by omega) i_6 d (by omega) (by omega)) q1886 q1888 qs97 q121 q1889 nm_X5_doesHold (tX_obj hL) rfl rfl rfl (Nat.le_of_ble_eq_true rfl) ⟨Nat.le_of_ble_eq_true rfl, Nat.le_of_ble_eq_true rfl⟩ dX5_laysFrom_48 rfl rfl (Nat.le_of_ble_eq_true rfl) (Nat.le_of_ble_eq_true rfl) (fun v_20 X_21 hp_22 => ?_)
        obtain ⟨rfl, rfl⟩ := hp_22
        refine z_st (st' := [.int (zb (s_holds (I 10) τ (d + 2) i_6 d))]) rfl ?_
        refine z_if_eqb 86 dX5_laysFrom_51 (by decide) (fun c_23 => ?_) (fun c_23 => ?_)
        · -- s_holds (I 10) τ (d + 2) i_6 d = false
          refine z_iinc (v := nI (i_6 + 1)) (lv' := [(3, .int (nI (i_6 + 1))), (0, .ref (L 99)), (1, .int (nI (d))), (2, .int (s_sum (fun h => if s_holds (I 10) τ (d + 2) h d = true then s_lays (I 10) (I 24) nh (d + 2) 1 (zs1 τ (d + 6) (nI h)) else 0) i_6))]) 3 dX5_laysFrom_86 rfl (nI_1 _) (by decide) rfl ?_
          refine z_goto 34 dX5_laysFrom_89 (by decide) ?_
          have f_24 : s_sum (fun h => if s_holds (I 10) τ (d + 2) h d = true then s_lays (I 10) (I 24) nh (d + 2) 1 (zs1 τ (d + 6) (nI h)) else 0) i_6 = s_sum (fun h => if s_holds (I 10) τ (d + 2) h d = true then s_lays (I 10) (I 24) nh (d + 2) 1 (zs1 τ (d + 6) (nI h)) else 0) (i_6 + 1) := by first | rfl | omega | (simp [s_sum, c_4, c_5, c_5', hb_9, c_19, c_23]; done) | (skip; simp [s_sum, c_4, c_5, c_5', hb_9, c_19, c_23])
          refine z_lv (lv' := [(0, .ref (L 99)), (1, .int (nI (d))), (2, .int (s_sum (fun h => if s_holds (I 10) τ (d + 2) h d = true then s_lays (I 10) (I 24) nh (d + 2) 1 (zs1 τ (d + 6) (nI h)) else 0) (i_6 + 1))), (3, .int (nI (i_6 + 1)))]) [1, 2, 3, 0] (by rw [← f_24]; rfl) ?_
          exact ih_8 (i_6 + 1) (by omega) (by omega)  
        · -- s_holds (I 10) τ (d + 2) i_6 d = true
          refine z_aload_n 0 dX5_laysFrom_54 rfl ?_
          refine tz_get (v := .ref (L 24)) 24 hL (by decide) q1617 rfl dX5_laysFrom_55 ?_
          refine z_sipush (v := 993) dX5_laysFrom_58 (by decide) ?_
          refine z_iload_n 1 dX5_laysFrom_61 rfl ?_
          refine z_iaddN (a := 993) (b := d) dX5_laysFrom_62 ?_
          refine z_eq (y := nI (d + 993)) (congrArg nI (by omega)) ?_
          refine z_iload_n 3 dX5_laysFrom_63 rfl ?_
          refine tz_iast 24 (987 + (d + 6)) hL (by decide) (congrArg nI (by omega)) (by show 987 + (d + 6) < 1081; omega) (tput_zs (by omega)) dX5_laysFrom_64 ?_
          refine z_iload_n 2 dX5_laysFrom_65 rfl ?_
          refine z_aload_n 0 dX5_laysFrom_66 rfl ?_
          refine z_iload_n 1 dX5_laysFrom_67 rfl ?_
          refine z_iconst (v := 1) dX5_laysFrom_68 (by decide) ?_
          refine z_iaddN (a := d) (b := 1) dX5_laysFrom_69 ?_
          refine z_callV (As := [.int (nI (d + 1))]) (t_laysFrom_1 (I := I) (τ := (zs1 τ (d + 6) (nI (i_6)))) hL (d + 1) (by omega) h0 hnh (by first | exact h1 | (rw [h1]; exact congrArg nI (by omega))) (by omega) (fun j h8 h9 => (zs1_n (by omega)).trans (hτ j (by omega) (by omega)))) q1972 q1974 qs104 q121 q1975 nm_X5_laysFrom (tX_obj hL) rfl rfl rfl (Nat.le_of_ble_eq_true rfl) ⟨Nat.le_of_ble_eq_true rfl, Nat.le_of_ble_eq_true rfl⟩ dX5_laysFrom_70 rfl rfl (Nat.le_of_ble_eq_true rfl) (Nat.le_of_ble_eq_true rfl) (fun v_25 X_26 hp_27 => ?_)
          obtain ⟨rfl, rfl⟩ := hp_27
          refine z_st (st' := [.int (s_lays (I 10) (I 24) nh (d + 2) 1 (zs1 τ (d + 6) (nI (i_6)))), .int (s_sum (fun h => if s_holds (I 10) τ (d + 2) h d = true then s_lays (I 10) (I 24) nh (d + 2) 1 (zs1 τ (d + 6) (nI h)) else 0) i_6)]) rfl ?_
          refine z_iadd dX5_laysFrom_73 ?_
          obtain ⟨x_28, ex_28⟩ : ∃ y : Int32, ((s_sum (fun h => if s_holds (I 10) τ (d + 2) h d = true then s_lays (I 10) (I 24) nh (d + 2) 1 (zs1 τ (d + 6) (nI h)) else 0) i_6) + (s_lays (I 10) (I 24) nh (d + 2) 1 (zs1 τ (d + 6) (nI (i_6))))) = y := ⟨_, rfl⟩
          refine z_eq ex_28 ?_
          refine z_istore_n (lv' := [(2, .int x_28), (0, .ref (L 99)), (1, .int (nI (d))), (3, .int (nI (i_6)))]) dX5_laysFrom_74 rfl (by decide) rfl ?_
          refine z_aload_n 1 dX5_laysFrom_75 rfl ?_
          refine tz_get (v := .ref (L 24)) 24 hL (by decide) q1617 rfl dX5_laysFrom_76 ?_
          refine z_sipush (v := 993) dX5_laysFrom_79 (by decide) ?_
          refine z_iload_n 2 dX5_laysFrom_82 rfl ?_
          refine z_iaddN (a := 993) (b := d) dX5_laysFrom_83 ?_
          refine z_eq (y := nI (d + 993)) (congrArg nI (by omega)) ?_
          refine z_iconst (v := zm1) dX5_laysFrom_84 (by decide) ?_
          refine tz_iast 24 (987 + (d + 6)) hL (by decide) (congrArg nI (by omega)) (by show 987 + (d + 6) < 1081; omega) (tput_zs (by omega)) dX5_laysFrom_85 ?_
          refine z_iinc (v := nI (i_6 + 1)) (lv' := [(3, .int (nI (i_6 + 1))), (2, .int x_28), (0, .ref (L 99)), (1, .int (nI (d)))]) 3 dX5_laysFrom_86 rfl (nI_1 _) (by decide) rfl ?_
          refine z_goto 34 dX5_laysFrom_89 (by decide) ?_
          have f_29 : x_28 = s_sum (fun h => if s_holds (I 10) τ (d + 2) h d = true then s_lays (I 10) (I 24) nh (d + 2) 1 (zs1 τ (d + 6) (nI h)) else 0) (i_6 + 1) := by first | rfl | omega | (simp [s_sum, c_4, c_5, c_5', hb_9, c_19, c_23]; done) | ((try subst ex_28); simp [s_sum, c_4, c_5, c_5', hb_9, c_19, c_23])
          subst f_29
          refine z_lv (lv' := [(0, .ref (L 99)), (1, .int (nI (d))), (2, .int (s_sum (fun h => if s_holds (I 10) τ (d + 2) h d = true then s_lays (I 10) (I 24) nh (d + 2) 1 (zs1 τ (d + 6) (nI h)) else 0) (i_6 + 1))), (3, .int (nI (i_6 + 1)))]) [2, 3, 1, 0] rfl ?_
          refine z_X (X' := (tX g L (tput I 987 τ) J Gb X)) (congrArg (fun z => tX g L (tput I 987 z) J Gb X) (zs1_back (hτ d (Nat.le_refl _) (by omega)))) ?_
          exact ih_8 (i_6 + 1) (by omega) (by omega)  
    have f_30 : 0 = s_sum (fun h => if s_holds (I 10) τ (d + 2) h d = true then s_lays (I 10) (I 24) nh (d + 2) 1 (zs1 τ (d + 6) (nI h)) else 0) 0 := by rfl
    refine z_lv (lv' := [(0, .ref (L 99)), (1, .int (nI (d))), (2, .int (s_sum (fun h => if s_holds (I 10) τ (d + 2) h d = true then s_lays (I 10) (I 24) nh (d + 2) 1 (zs1 τ (d + 6) (nI h)) else 0) 0)), (3, .int 0)]) [2, 3, 1, 0] (by rw [← f_30]; rfl) ?_
    exact loop_10 (nh - 0) 0 (by omega) (Nat.le_refl _)  
  · -- ¬ 0 ≤ I 24 (d + 6)
    have c_5' := Int32.not_le.mp c_5
    refine z_aload_n 0 dX5_laysFrom_22 rfl ?_
    refine z_iload_n 1 dX5_laysFrom_23 rfl ?_
    refine z_iconst (v := 1) dX5_laysFrom_24 (by decide) ?_
    refine z_iaddN (a := d) (b := 1) dX5_laysFrom_25 ?_
    refine z_callV (As := [.int (nI (d + 1))]) (t_laysFrom_1 (I := I) (τ := τ) hL (d + 1) (by omega) h0 hnh (by first | exact h1 | (rw [h1]; exact congrArg nI (by omega))) (by omega) (fun j h8 h9 => hτ j (by omega) (by omega))) q1972 q1974 qs104 q121 q1975 nm_X5_laysFrom (tX_obj hL) rfl rfl rfl (Nat.le_of_ble_eq_true rfl) ⟨Nat.le_of_ble_eq_true rfl, Nat.le_of_ble_eq_true rfl⟩ dX5_laysFrom_26 rfl rfl (Nat.le_of_ble_eq_true rfl) (Nat.le_of_ble_eq_true rfl) (fun v_31 X_32 hp_33 => ?_)
    obtain ⟨rfl, rfl⟩ := hp_33
    refine z_st (st' := [.int (s_lays (I 10) (I 24) nh (d + 2) 1 τ)]) rfl ?_
    exact z_iret dX5_laysFrom_29 rfl (Nat.le_of_ble_eq_true rfl) (Nat.le_of_ble_eq_true rfl) ⟨congrArg some (congrArg Value.int (by show _ = s_lays (I 10) (I 24) nh (d + 2) (1 + 1) τ; rw [s_lays_1 (r := 1), show d + 2 - (1 + 1) = d by omega]; simp [c_5, c_5'])), rfl⟩
set_option maxHeartbeats 4000000 in
theorem t_laysFrom_3 {g : zG} {L : Nat → Nat} {I : Nat → Nat → Int32} {J : Nat → Nat → Int64} {Gb : Nat → Nat → Int32} {X : zX} (hL : tok g L) {τ : Nat → Int32} {nh : Nat} (d : Nat) (hd : d + 3 ≤ 6) (h0 : I 10 0 = nI nh) (hnh : nh ≤ 4) (h1 : I 10 1 = nI (d + 3)) (hd2 : d ≤ 6) (hτ : ∀ j, d ≤ j → j < d + 3 → τ (j + 6) = zm1) : zN g m_X5_laysFrom ({ frames := 6, cells := 0, slots := 0, locals := 136 } : Room) [.ref (L 99), .int (nI (d))] (tX g L (tput I 987 τ) J Gb X) (fun rv X' => rv = some (.int (s_lays (I 10) (I 24) nh (d + 3) 3 τ)) ∧ X' = (tX g L (tput I 987 τ) J Gb X)) := by
  refine zN.of (by decide +kernel) (Nat.le_of_ble_eq_true rfl) rfl ?_
  refine z_lv (lv' := [(0, .ref (L 99)), (1, .int (nI (d)))]) [0, 1] rfl ?_
  refine z_iload_n 1 dX5_laysFrom_0 rfl ?_
  refine z_aload_n 0 dX5_laysFrom_1 rfl ?_
  refine z_callV (As := []) (t_days (I := (tput I 987 τ)) hL h1) q1573 q1575 qs53 q121 q1576 nm_X5_days (tX_obj hL) rfl rfl rfl (Nat.le_of_ble_eq_true rfl) ⟨Nat.le_of_ble_eq_true rfl, Nat.le_of_ble_eq_true rfl⟩ dX5_laysFrom_2 rfl rfl (Nat.le_of_ble_eq_true rfl) (Nat.le_of_ble_eq_true rfl) (fun v_1 X_2 hp_3 => ?_)
  obtain ⟨rfl, rfl⟩ := hp_3
  refine z_st (st' := [.int (nI (d + 3)), .int (nI (d))]) rfl ?_
  refine z_icmp_neN (a := d) (b := d + 3) 10 (by omega) (by omega) dX5_laysFrom_5 (by decide) (fun c_4 => ?_) (fun c_4 => absurd c_4 ((by omega)))
  refine z_aload_n 0 dX5_laysFrom_10 rfl ?_
  refine tz_get (v := .ref (L 24)) 24 hL (by decide) q1617 rfl dX5_laysFrom_11 ?_
  refine z_bipush (v := 6) dX5_laysFrom_14 (by decide) ?_
  refine z_iload_n 1 dX5_laysFrom_16 rfl ?_
  refine z_iaddN (a := 6) (b := d) dX5_laysFrom_17 ?_
  refine z_eq (y := nI (d + 6)) (congrArg nI (by omega)) ?_
  refine tz_iald (v := I 24 (d + 6)) 24 (d + 6) hL (by decide) rfl (by show d + 6 < 1081; omega) ((tput_off (by omega)).trans rfl) dX5_laysFrom_18 ?_
  refine z_if_ge 30 dX5_laysFrom_19 (by decide) (fun c_5 => ?_) (fun c_5 => ?_)
  · -- 0 ≤ I 24 (d + 6)
    have c_5' := Int32.not_lt.mpr c_5
    refine z_iconst (v := 0) dX5_laysFrom_30 (by decide) ?_
    refine z_istore_n (lv' := [(2, .int 0), (0, .ref (L 99)), (1, .int (nI (d)))]) dX5_laysFrom_31 rfl (by decide) rfl ?_
    refine z_iconst (v := 0) dX5_laysFrom_32 (by decide) ?_
    refine z_istore_n (lv' := [(3, .int 0), (2, .int 0), (0, .ref (L 99)), (1, .int (nI (d)))]) dX5_laysFrom_33 rfl (by decide) rfl ?_
    have loop_10 : ∀ (q_7 i_6 : Nat), i_6 + q_7 = nh → 0 ≤ i_6 → zZ g m_X5_laysFrom (fun rv X' => rv = some (.int (s_lays (I 10) (I 24) nh (d + 3) 3 τ)) ∧ X' = (tX g L (tput I 987 τ) J Gb X), zno, ({ frames := 6, cells := 0, slots := 0, locals := 136 } : Room)) 0 0 (tX g L (tput I 987 τ) J Gb X) 34 [(0, .ref (L 99)), (1, .int (nI (d))), (2, .int (s_sum (fun h => if s_holds (I 10) τ (d + 3) h d = true then s_lays (I 10) (I 24) nh (d + 3) 2 (zs1 τ (d + 6) (nI h)) else 0) i_6)), (3, .int (nI (i_6)))] [] := by
      intro q_7
      induction q_7 with
      | zero =>
        intro i_6 hb_9 lo_11  
        obtain rfl : nh = i_6 := by omega
        refine z_iload_n 3 dX5_laysFrom_34 rfl ?_
        refine z_aload_n 0 dX5_laysFrom_35 rfl ?_
        refine z_callV (As := []) (t_houses (I := (tput I 987 τ)) hL h0) q1585 q1587 qs56 q121 q1588 nm_X5_houses (tX_obj hL) rfl rfl rfl (Nat.le_of_ble_eq_true rfl) ⟨Nat.le_of_ble_eq_true rfl, Nat.le_of_ble_eq_true rfl⟩ dX5_laysFrom_36 rfl rfl (Nat.le_of_ble_eq_true rfl) (Nat.le_of_ble_eq_true rfl) (fun v_12 X_13 hp_14 => ?_)
        obtain ⟨rfl, rfl⟩ := hp_14
        refine z_st (st' := [.int (nI (nh)), .int (nI (nh))]) rfl ?_
        refine z_icmp_geN (a := nh) (b := nh) 92 (by omega) (by omega) dX5_laysFrom_39 (by decide) (fun c_15 => ?_) (fun c_15 => absurd c_15 (by omega))
        refine z_iload_n 2 dX5_laysFrom_92 rfl ?_
        exact z_iret dX5_laysFrom_93 rfl (Nat.le_of_ble_eq_true rfl) (Nat.le_of_ble_eq_true rfl) ⟨congrArg some (congrArg Value.int (by show _ = s_lays (I 10) (I 24) nh (d + 3) (2 + 1) τ; rw [s_lays_1 (r := 2), show d + 3 - (2 + 1) = d by omega]; simp [c_5, c_5'])), rfl⟩
      | succ q_7 ih_8 =>
        intro i_6 hb_9 lo_11  
        refine z_iload_n 3 dX5_laysFrom_34 rfl ?_
        refine z_aload_n 0 dX5_laysFrom_35 rfl ?_
        refine z_callV (As := []) (t_houses (I := (tput I 987 τ)) hL h0) q1585 q1587 qs56 q121 q1588 nm_X5_houses (tX_obj hL) rfl rfl rfl (Nat.le_of_ble_eq_true rfl) ⟨Nat.le_of_ble_eq_true rfl, Nat.le_of_ble_eq_true rfl⟩ dX5_laysFrom_36 rfl rfl (Nat.le_of_ble_eq_true rfl) (Nat.le_of_ble_eq_true rfl) (fun v_16 X_17 hp_18 => ?_)
        obtain ⟨rfl, rfl⟩ := hp_18
        refine z_st (st' := [.int (nI (nh)), .int (nI (i_6))]) rfl ?_
        refine z_icmp_geN (a := i_6) (b := nh) 92 (by omega) (by omega) dX5_laysFrom_39 (by decide) (fun c_19 => absurd c_19 (by omega)) (fun c_19 => ?_)
        refine z_aload_n 0 dX5_laysFrom_42 rfl ?_
        refine z_sipush (v := 987) dX5_laysFrom_43 (by decide) ?_
        refine z_iload_n 3 dX5_laysFrom_46 rfl ?_
        refine z_iload_n 1 dX5_laysFrom_47 rfl ?_
        refine z_callV (As := [.int 987, .int (nI (i_6)), .int (nI (d))]) (t_doesHold (I := I) (σ := τ) hL h1 (by omega) 987 (by omega) i_6 d (by omega) (by omega)) q1886 q1888 qs97 q121 q1889 nm_X5_doesHold (tX_obj hL) rfl rfl rfl (Nat.le_of_ble_eq_true rfl) ⟨Nat.le_of_ble_eq_true rfl, Nat.le_of_ble_eq_true rfl⟩ dX5_laysFrom_48 rfl rfl (Nat.le_of_ble_eq_true rfl) (Nat.le_of_ble_eq_true rfl) (fun v_20 X_21 hp_22 => ?_)
        obtain ⟨rfl, rfl⟩ := hp_22
        refine z_st (st' := [.int (zb (s_holds (I 10) τ (d + 3) i_6 d))]) rfl ?_
        refine z_if_eqb 86 dX5_laysFrom_51 (by decide) (fun c_23 => ?_) (fun c_23 => ?_)
        · -- s_holds (I 10) τ (d + 3) i_6 d = false
          refine z_iinc (v := nI (i_6 + 1)) (lv' := [(3, .int (nI (i_6 + 1))), (0, .ref (L 99)), (1, .int (nI (d))), (2, .int (s_sum (fun h => if s_holds (I 10) τ (d + 3) h d = true then s_lays (I 10) (I 24) nh (d + 3) 2 (zs1 τ (d + 6) (nI h)) else 0) i_6))]) 3 dX5_laysFrom_86 rfl (nI_1 _) (by decide) rfl ?_
          refine z_goto 34 dX5_laysFrom_89 (by decide) ?_
          have f_24 : s_sum (fun h => if s_holds (I 10) τ (d + 3) h d = true then s_lays (I 10) (I 24) nh (d + 3) 2 (zs1 τ (d + 6) (nI h)) else 0) i_6 = s_sum (fun h => if s_holds (I 10) τ (d + 3) h d = true then s_lays (I 10) (I 24) nh (d + 3) 2 (zs1 τ (d + 6) (nI h)) else 0) (i_6 + 1) := by first | rfl | omega | (simp [s_sum, c_4, c_5, c_5', hb_9, c_19, c_23]; done) | (skip; simp [s_sum, c_4, c_5, c_5', hb_9, c_19, c_23])
          refine z_lv (lv' := [(0, .ref (L 99)), (1, .int (nI (d))), (2, .int (s_sum (fun h => if s_holds (I 10) τ (d + 3) h d = true then s_lays (I 10) (I 24) nh (d + 3) 2 (zs1 τ (d + 6) (nI h)) else 0) (i_6 + 1))), (3, .int (nI (i_6 + 1)))]) [1, 2, 3, 0] (by rw [← f_24]; rfl) ?_
          exact ih_8 (i_6 + 1) (by omega) (by omega)  
        · -- s_holds (I 10) τ (d + 3) i_6 d = true
          refine z_aload_n 0 dX5_laysFrom_54 rfl ?_
          refine tz_get (v := .ref (L 24)) 24 hL (by decide) q1617 rfl dX5_laysFrom_55 ?_
          refine z_sipush (v := 993) dX5_laysFrom_58 (by decide) ?_
          refine z_iload_n 1 dX5_laysFrom_61 rfl ?_
          refine z_iaddN (a := 993) (b := d) dX5_laysFrom_62 ?_
          refine z_eq (y := nI (d + 993)) (congrArg nI (by omega)) ?_
          refine z_iload_n 3 dX5_laysFrom_63 rfl ?_
          refine tz_iast 24 (987 + (d + 6)) hL (by decide) (congrArg nI (by omega)) (by show 987 + (d + 6) < 1081; omega) (tput_zs (by omega)) dX5_laysFrom_64 ?_
          refine z_iload_n 2 dX5_laysFrom_65 rfl ?_
          refine z_aload_n 0 dX5_laysFrom_66 rfl ?_
          refine z_iload_n 1 dX5_laysFrom_67 rfl ?_
          refine z_iconst (v := 1) dX5_laysFrom_68 (by decide) ?_
          refine z_iaddN (a := d) (b := 1) dX5_laysFrom_69 ?_
          refine z_callV (As := [.int (nI (d + 1))]) (t_laysFrom_2 (I := I) (τ := (zs1 τ (d + 6) (nI (i_6)))) hL (d + 1) (by omega) h0 hnh (by first | exact h1 | (rw [h1]; exact congrArg nI (by omega))) (by omega) (fun j h8 h9 => (zs1_n (by omega)).trans (hτ j (by omega) (by omega)))) q1972 q1974 qs104 q121 q1975 nm_X5_laysFrom (tX_obj hL) rfl rfl rfl (Nat.le_of_ble_eq_true rfl) ⟨Nat.le_of_ble_eq_true rfl, Nat.le_of_ble_eq_true rfl⟩ dX5_laysFrom_70 rfl rfl (Nat.le_of_ble_eq_true rfl) (Nat.le_of_ble_eq_true rfl) (fun v_25 X_26 hp_27 => ?_)
          obtain ⟨rfl, rfl⟩ := hp_27
          refine z_st (st' := [.int (s_lays (I 10) (I 24) nh (d + 3) 2 (zs1 τ (d + 6) (nI (i_6)))), .int (s_sum (fun h => if s_holds (I 10) τ (d + 3) h d = true then s_lays (I 10) (I 24) nh (d + 3) 2 (zs1 τ (d + 6) (nI h)) else 0) i_6)]) rfl ?_
          refine z_iadd dX5_laysFrom_73 ?_
          obtain ⟨x_28, ex_28⟩ : ∃ y : Int32, ((s_sum (fun h => if s_holds (I 10) τ (d + 3) h d = true then s_lays (I 10) (I 24) nh (d + 3) 2 (zs1 τ (d + 6) (nI h)) else 0) i_6) + (s_lays (I 10) (I 24) nh (d + 3) 2 (zs1 τ (d + 6) (nI (i_6))))) = y := ⟨_, rfl⟩
          refine z_eq ex_28 ?_
          refine z_istore_n (lv' := [(2, .int x_28), (0, .ref (L 99)), (1, .int (nI (d))), (3, .int (nI (i_6)))]) dX5_laysFrom_74 rfl (by decide) rfl ?_
          refine z_aload_n 1 dX5_laysFrom_75 rfl ?_
          refine tz_get (v := .ref (L 24)) 24 hL (by decide) q1617 rfl dX5_laysFrom_76 ?_
          refine z_sipush (v := 993) dX5_laysFrom_79 (by decide) ?_
          refine z_iload_n 2 dX5_laysFrom_82 rfl ?_
          refine z_iaddN (a := 993) (b := d) dX5_laysFrom_83 ?_
          refine z_eq (y := nI (d + 993)) (congrArg nI (by omega)) ?_
          refine z_iconst (v := zm1) dX5_laysFrom_84 (by decide) ?_
          refine tz_iast 24 (987 + (d + 6)) hL (by decide) (congrArg nI (by omega)) (by show 987 + (d + 6) < 1081; omega) (tput_zs (by omega)) dX5_laysFrom_85 ?_
          refine z_iinc (v := nI (i_6 + 1)) (lv' := [(3, .int (nI (i_6 + 1))), (2, .int x_28), (0, .ref (L 99)), (1, .int (nI (d)))]) 3 dX5_laysFrom_86 rfl (nI_1 _) (by decide) rfl ?_
          refine z_goto 34 dX5_laysFrom_89 (by decide) ?_
          have f_29 : x_28 = s_sum (fun h => if s_holds (I 10) τ (d + 3) h d = true then s_lays (I 10) (I 24) nh (d + 3) 2 (zs1 τ (d + 6) (nI h)) else 0) (i_6 + 1) := by first | rfl | omega | (simp [s_sum, c_4, c_5, c_5', hb_9, c_19, c_23]; done) | ((try subst ex_28); simp [s_sum, c_4, c_5, c_5', hb_9, c_19, c_23])
          subst f_29
          refine z_lv (lv' := [(0, .ref (L 99)), (1, .int (nI (d))), (2, .int (s_sum (fun h => if s_holds (I 10) τ (d + 3) h d = true then s_lays (I 10) (I 24) nh (d + 3) 2 (zs1 τ (d + 6) (nI h)) else 0) (i_6 + 1))), (3, .int (nI (i_6 + 1)))]) [2, 3, 1, 0] rfl ?_
          refine z_X (X' := (tX g L (tput I 987 τ) J Gb X)) (congrArg (fun z => tX g L (tput I 987 z) J Gb X) (zs1_back (hτ d (Nat.le_refl _) (by omega)))) ?_
          exact ih_8 (i_6 + 1) (by omega) (by omega)  
    have f_30 : 0 = s_sum (fun h => if s_holds (I 10) τ (d + 3) h d = true then s_lays (I 10) (I 24) nh (d + 3) 2 (zs1 τ (d + 6) (nI h)) else 0) 0 := by rfl
    refine z_lv (lv' := [(0, .ref (L 99)), (1, .int (nI (d))), (2, .int (s_sum (fun h => if s_holds (I 10) τ (d + 3) h d = true then s_lays (I 10) (I 24) nh (d + 3) 2 (zs1 τ (d + 6) (nI h)) else 0) 0)), (3, .int 0)]) [2, 3, 1, 0] (by rw [← f_30]; rfl) ?_
    exact loop_10 (nh - 0) 0 (by omega) (Nat.le_refl _)  
  · -- ¬ 0 ≤ I 24 (d + 6)
    have c_5' := Int32.not_le.mp c_5
    refine z_aload_n 0 dX5_laysFrom_22 rfl ?_
    refine z_iload_n 1 dX5_laysFrom_23 rfl ?_
    refine z_iconst (v := 1) dX5_laysFrom_24 (by decide) ?_
    refine z_iaddN (a := d) (b := 1) dX5_laysFrom_25 ?_
    refine z_callV (As := [.int (nI (d + 1))]) (t_laysFrom_2 (I := I) (τ := τ) hL (d + 1) (by omega) h0 hnh (by first | exact h1 | (rw [h1]; exact congrArg nI (by omega))) (by omega) (fun j h8 h9 => hτ j (by omega) (by omega))) q1972 q1974 qs104 q121 q1975 nm_X5_laysFrom (tX_obj hL) rfl rfl rfl (Nat.le_of_ble_eq_true rfl) ⟨Nat.le_of_ble_eq_true rfl, Nat.le_of_ble_eq_true rfl⟩ dX5_laysFrom_26 rfl rfl (Nat.le_of_ble_eq_true rfl) (Nat.le_of_ble_eq_true rfl) (fun v_31 X_32 hp_33 => ?_)
    obtain ⟨rfl, rfl⟩ := hp_33
    refine z_st (st' := [.int (s_lays (I 10) (I 24) nh (d + 3) 2 τ)]) rfl ?_
    exact z_iret dX5_laysFrom_29 rfl (Nat.le_of_ble_eq_true rfl) (Nat.le_of_ble_eq_true rfl) ⟨congrArg some (congrArg Value.int (by show _ = s_lays (I 10) (I 24) nh (d + 3) (2 + 1) τ; rw [s_lays_1 (r := 2), show d + 3 - (2 + 1) = d by omega]; simp [c_5, c_5'])), rfl⟩
set_option maxHeartbeats 4000000 in
theorem t_laysFrom_4 {g : zG} {L : Nat → Nat} {I : Nat → Nat → Int32} {J : Nat → Nat → Int64} {Gb : Nat → Nat → Int32} {X : zX} (hL : tok g L) {τ : Nat → Int32} {nh : Nat} (d : Nat) (hd : d + 4 ≤ 6) (h0 : I 10 0 = nI nh) (hnh : nh ≤ 4) (h1 : I 10 1 = nI (d + 4)) (hd2 : d ≤ 6) (hτ : ∀ j, d ≤ j → j < d + 4 → τ (j + 6) = zm1) : zN g m_X5_laysFrom ({ frames := 7, cells := 0, slots := 0, locals := 159 } : Room) [.ref (L 99), .int (nI (d))] (tX g L (tput I 987 τ) J Gb X) (fun rv X' => rv = some (.int (s_lays (I 10) (I 24) nh (d + 4) 4 τ)) ∧ X' = (tX g L (tput I 987 τ) J Gb X)) := by
  refine zN.of (by decide +kernel) (Nat.le_of_ble_eq_true rfl) rfl ?_
  refine z_lv (lv' := [(0, .ref (L 99)), (1, .int (nI (d)))]) [0, 1] rfl ?_
  refine z_iload_n 1 dX5_laysFrom_0 rfl ?_
  refine z_aload_n 0 dX5_laysFrom_1 rfl ?_
  refine z_callV (As := []) (t_days (I := (tput I 987 τ)) hL h1) q1573 q1575 qs53 q121 q1576 nm_X5_days (tX_obj hL) rfl rfl rfl (Nat.le_of_ble_eq_true rfl) ⟨Nat.le_of_ble_eq_true rfl, Nat.le_of_ble_eq_true rfl⟩ dX5_laysFrom_2 rfl rfl (Nat.le_of_ble_eq_true rfl) (Nat.le_of_ble_eq_true rfl) (fun v_1 X_2 hp_3 => ?_)
  obtain ⟨rfl, rfl⟩ := hp_3
  refine z_st (st' := [.int (nI (d + 4)), .int (nI (d))]) rfl ?_
  refine z_icmp_neN (a := d) (b := d + 4) 10 (by omega) (by omega) dX5_laysFrom_5 (by decide) (fun c_4 => ?_) (fun c_4 => absurd c_4 ((by omega)))
  refine z_aload_n 0 dX5_laysFrom_10 rfl ?_
  refine tz_get (v := .ref (L 24)) 24 hL (by decide) q1617 rfl dX5_laysFrom_11 ?_
  refine z_bipush (v := 6) dX5_laysFrom_14 (by decide) ?_
  refine z_iload_n 1 dX5_laysFrom_16 rfl ?_
  refine z_iaddN (a := 6) (b := d) dX5_laysFrom_17 ?_
  refine z_eq (y := nI (d + 6)) (congrArg nI (by omega)) ?_
  refine tz_iald (v := I 24 (d + 6)) 24 (d + 6) hL (by decide) rfl (by show d + 6 < 1081; omega) ((tput_off (by omega)).trans rfl) dX5_laysFrom_18 ?_
  refine z_if_ge 30 dX5_laysFrom_19 (by decide) (fun c_5 => ?_) (fun c_5 => ?_)
  · -- 0 ≤ I 24 (d + 6)
    have c_5' := Int32.not_lt.mpr c_5
    refine z_iconst (v := 0) dX5_laysFrom_30 (by decide) ?_
    refine z_istore_n (lv' := [(2, .int 0), (0, .ref (L 99)), (1, .int (nI (d)))]) dX5_laysFrom_31 rfl (by decide) rfl ?_
    refine z_iconst (v := 0) dX5_laysFrom_32 (by decide) ?_
    refine z_istore_n (lv' := [(3, .int 0), (2, .int 0), (0, .ref (L 99)), (1, .int (nI (d)))]) dX5_laysFrom_33 rfl (by decide) rfl ?_
    have loop_10 : ∀ (q_7 i_6 : Nat), i_6 + q_7 = nh → 0 ≤ i_6 → zZ g m_X5_laysFrom (fun rv X' => rv = some (.int (s_lays (I 10) (I 24) nh (d + 4) 4 τ)) ∧ X' = (tX g L (tput I 987 τ) J Gb X), zno, ({ frames := 7, cells := 0, slots := 0, locals := 159 } : Room)) 0 0 (tX g L (tput I 987 τ) J Gb X) 34 [(0, .ref (L 99)), (1, .int (nI (d))), (2, .int (s_sum (fun h => if s_holds (I 10) τ (d + 4) h d = true then s_lays (I 10) (I 24) nh (d + 4) 3 (zs1 τ (d + 6) (nI h)) else 0) i_6)), (3, .int (nI (i_6)))] [] := by
      intro q_7
      induction q_7 with
      | zero =>
        intro i_6 hb_9 lo_11  
        obtain rfl : nh = i_6 := by omega
        refine z_iload_n 3 dX5_laysFrom_34 rfl ?_
        refine z_aload_n 0 dX5_laysFrom_35 rfl ?_
        refine z_callV (As := []) (t_houses (I := (tput I 987 τ)) hL h0) q1585 q1587 qs56 q121 q1588 nm_X5_houses (tX_obj hL) rfl rfl rfl (Nat.le_of_ble_eq_true rfl) ⟨Nat.le_of_ble_eq_true rfl, Nat.le_of_ble_eq_true rfl⟩ dX5_laysFrom_36 rfl rfl (Nat.le_of_ble_eq_true rfl) (Nat.le_of_ble_eq_true rfl) (fun v_12 X_13 hp_14 => ?_)
        obtain ⟨rfl, rfl⟩ := hp_14
        refine z_st (st' := [.int (nI (nh)), .int (nI (nh))]) rfl ?_
        refine z_icmp_geN (a := nh) (b := nh) 92 (by omega) (by omega) dX5_laysFrom_39 (by decide) (fun c_15 => ?_) (fun c_15 => absurd c_15 (by omega))
        refine z_iload_n 2 dX5_laysFrom_92 rfl ?_
        exact z_iret dX5_laysFrom_93 rfl (Nat.le_of_ble_eq_true rfl) (Nat.le_of_ble_eq_true rfl) ⟨congrArg some (congrArg Value.int (by show _ = s_lays (I 10) (I 24) nh (d + 4) (3 + 1) τ; rw [s_lays_1 (r := 3), show d + 4 - (3 + 1) = d by omega]; simp [c_5, c_5'])), rfl⟩
      | succ q_7 ih_8 =>
        intro i_6 hb_9 lo_11  
        refine z_iload_n 3 dX5_laysFrom_34 rfl ?_
        refine z_aload_n 0 dX5_laysFrom_35 rfl ?_
        refine z_callV (As := []) (t_houses (I := (tput I 987 τ)) hL h0) q1585 q1587 qs56 q121 q1588 nm_X5_houses (tX_obj hL) rfl rfl rfl (Nat.le_of_ble_eq_true rfl) ⟨Nat.le_of_ble_eq_true rfl, Nat.le_of_ble_eq_true rfl⟩ dX5_laysFrom_36 rfl rfl (Nat.le_of_ble_eq_true rfl) (Nat.le_of_ble_eq_true rfl) (fun v_16 X_17 hp_18 => ?_)
        obtain ⟨rfl, rfl⟩ := hp_18
        refine z_st (st' := [.int (nI (nh)), .int (nI (i_6))]) rfl ?_
        refine z_icmp_geN (a := i_6) (b := nh) 92 (by omega) (by omega) dX5_laysFrom_39 (by decide) (fun c_19 => absurd c_19 (by omega)) (fun c_19 => ?_)
        refine z_aload_n 0 dX5_laysFrom_42 rfl ?_
        refine z_sipush (v := 987) dX5_laysFrom_43 (by decide) ?_
        refine z_iload_n 3 dX5_laysFrom_46 rfl ?_
        refine z_iload_n 1 dX5_laysFrom_47 rfl ?_
        refine z_callV (As := [.int 987, .int (nI (i_6)), .int (nI (d))]) (t_doesHold (I := I) (σ := τ) hL h1 (by omega) 987 (by omega) i_6 d (by omega) (by omega)) q1886 q1888 qs97 q121 q1889 nm_X5_doesHold (tX_obj hL) rfl rfl rfl (Nat.le_of_ble_eq_true rfl) ⟨Nat.le_of_ble_eq_true rfl, Nat.le_of_ble_eq_true rfl⟩ dX5_laysFrom_48 rfl rfl (Nat.le_of_ble_eq_true rfl) (Nat.le_of_ble_eq_true rfl) (fun v_20 X_21 hp_22 => ?_)
        obtain ⟨rfl, rfl⟩ := hp_22
        refine z_st (st' := [.int (zb (s_holds (I 10) τ (d + 4) i_6 d))]) rfl ?_
        refine z_if_eqb 86 dX5_laysFrom_51 (by decide) (fun c_23 => ?_) (fun c_23 => ?_)
        · -- s_holds (I 10) τ (d + 4) i_6 d = false
          refine z_iinc (v := nI (i_6 + 1)) (lv' := [(3, .int (nI (i_6 + 1))), (0, .ref (L 99)), (1, .int (nI (d))), (2, .int (s_sum (fun h => if s_holds (I 10) τ (d + 4) h d = true then s_lays (I 10) (I 24) nh (d + 4) 3 (zs1 τ (d + 6) (nI h)) else 0) i_6))]) 3 dX5_laysFrom_86 rfl (nI_1 _) (by decide) rfl ?_
          refine z_goto 34 dX5_laysFrom_89 (by decide) ?_
          have f_24 : s_sum (fun h => if s_holds (I 10) τ (d + 4) h d = true then s_lays (I 10) (I 24) nh (d + 4) 3 (zs1 τ (d + 6) (nI h)) else 0) i_6 = s_sum (fun h => if s_holds (I 10) τ (d + 4) h d = true then s_lays (I 10) (I 24) nh (d + 4) 3 (zs1 τ (d + 6) (nI h)) else 0) (i_6 + 1) := by first | rfl | omega | (simp [s_sum, c_4, c_5, c_5', hb_9, c_19, c_23]; done) | (skip; simp [s_sum, c_4, c_5, c_5', hb_9, c_19, c_23])
          refine z_lv (lv' := [(0, .ref (L 99)), (1, .int (nI (d))), (2, .int (s_sum (fun h => if s_holds (I 10) τ (d + 4) h d = true then s_lays (I 10) (I 24) nh (d + 4) 3 (zs1 τ (d + 6) (nI h)) else 0) (i_6 + 1))), (3, .int (nI (i_6 + 1)))]) [1, 2, 3, 0] (by rw [← f_24]; rfl) ?_
          exact ih_8 (i_6 + 1) (by omega) (by omega)  
        · -- s_holds (I 10) τ (d + 4) i_6 d = true
          refine z_aload_n 0 dX5_laysFrom_54 rfl ?_
          refine tz_get (v := .ref (L 24)) 24 hL (by decide) q1617 rfl dX5_laysFrom_55 ?_
          refine z_sipush (v := 993) dX5_laysFrom_58 (by decide) ?_
          refine z_iload_n 1 dX5_laysFrom_61 rfl ?_
          refine z_iaddN (a := 993) (b := d) dX5_laysFrom_62 ?_
          refine z_eq (y := nI (d + 993)) (congrArg nI (by omega)) ?_
          refine z_iload_n 3 dX5_laysFrom_63 rfl ?_
          refine tz_iast 24 (987 + (d + 6)) hL (by decide) (congrArg nI (by omega)) (by show 987 + (d + 6) < 1081; omega) (tput_zs (by omega)) dX5_laysFrom_64 ?_
          refine z_iload_n 2 dX5_laysFrom_65 rfl ?_
          refine z_aload_n 0 dX5_laysFrom_66 rfl ?_
          refine z_iload_n 1 dX5_laysFrom_67 rfl ?_
          refine z_iconst (v := 1) dX5_laysFrom_68 (by decide) ?_
          refine z_iaddN (a := d) (b := 1) dX5_laysFrom_69 ?_
          refine z_callV (As := [.int (nI (d + 1))]) (t_laysFrom_3 (I := I) (τ := (zs1 τ (d + 6) (nI (i_6)))) hL (d + 1) (by omega) h0 hnh (by first | exact h1 | (rw [h1]; exact congrArg nI (by omega))) (by omega) (fun j h8 h9 => (zs1_n (by omega)).trans (hτ j (by omega) (by omega)))) q1972 q1974 qs104 q121 q1975 nm_X5_laysFrom (tX_obj hL) rfl rfl rfl (Nat.le_of_ble_eq_true rfl) ⟨Nat.le_of_ble_eq_true rfl, Nat.le_of_ble_eq_true rfl⟩ dX5_laysFrom_70 rfl rfl (Nat.le_of_ble_eq_true rfl) (Nat.le_of_ble_eq_true rfl) (fun v_25 X_26 hp_27 => ?_)
          obtain ⟨rfl, rfl⟩ := hp_27
          refine z_st (st' := [.int (s_lays (I 10) (I 24) nh (d + 4) 3 (zs1 τ (d + 6) (nI (i_6)))), .int (s_sum (fun h => if s_holds (I 10) τ (d + 4) h d = true then s_lays (I 10) (I 24) nh (d + 4) 3 (zs1 τ (d + 6) (nI h)) else 0) i_6)]) rfl ?_
          refine z_iadd dX5_laysFrom_73 ?_
          obtain ⟨x_28, ex_28⟩ : ∃ y : Int32, ((s_sum (fun h => if s_holds (I 10) τ (d + 4) h d = true then s_lays (I 10) (I 24) nh (d + 4) 3 (zs1 τ (d + 6) (nI h)) else 0) i_6) + (s_lays (I 10) (I 24) nh (d + 4) 3 (zs1 τ (d + 6) (nI (i_6))))) = y := ⟨_, rfl⟩
          refine z_eq ex_28 ?_
          refine z_istore_n (lv' := [(2, .int x_28), (0, .ref (L 99)), (1, .int (nI (d))), (3, .int (nI (i_6)))]) dX5_laysFrom_74 rfl (by decide) rfl ?_
          refine z_aload_n 1 dX5_laysFrom_75 rfl ?_
          refine tz_get (v := .ref (L 24)) 24 hL (by decide) q1617 rfl dX5_laysFrom_76 ?_
          refine z_sipush (v := 993) dX5_laysFrom_79 (by decide) ?_
          refine z_iload_n 2 dX5_laysFrom_82 rfl ?_
          refine z_iaddN (a := 993) (b := d) dX5_laysFrom_83 ?_
          refine z_eq (y := nI (d + 993)) (congrArg nI (by omega)) ?_
          refine z_iconst (v := zm1) dX5_laysFrom_84 (by decide) ?_
          refine tz_iast 24 (987 + (d + 6)) hL (by decide) (congrArg nI (by omega)) (by show 987 + (d + 6) < 1081; omega) (tput_zs (by omega)) dX5_laysFrom_85 ?_
          refine z_iinc (v := nI (i_6 + 1)) (lv' := [(3, .int (nI (i_6 + 1))), (2, .int x_28), (0, .ref (L 99)), (1, .int (nI (d)))]) 3 dX5_laysFrom_86 rfl (nI_1 _) (by decide) rfl ?_
          refine z_goto 34 dX5_laysFrom_89 (by decide) ?_
          have f_29 : x_28 = s_sum (fun h => if s_holds (I 10) τ (d + 4) h d = true then s_lays (I 10) (I 24) nh (d + 4) 3 (zs1 τ (d + 6) (nI h)) else 0) (i_6 + 1) := by first | rfl | omega | (simp [s_sum, c_4, c_5, c_5', hb_9, c_19, c_23]; done) | ((try subst ex_28); simp [s_sum, c_4, c_5, c_5', hb_9, c_19, c_23])
          subst f_29
          refine z_lv (lv' := [(0, .ref (L 99)), (1, .int (nI (d))), (2, .int (s_sum (fun h => if s_holds (I 10) τ (d + 4) h d = true then s_lays (I 10) (I 24) nh (d + 4) 3 (zs1 τ (d + 6) (nI h)) else 0) (i_6 + 1))), (3, .int (nI (i_6 + 1)))]) [2, 3, 1, 0] rfl ?_
          refine z_X (X' := (tX g L (tput I 987 τ) J Gb X)) (congrArg (fun z => tX g L (tput I 987 z) J Gb X) (zs1_back (hτ d (Nat.le_refl _) (by omega)))) ?_
          exact ih_8 (i_6 + 1) (by omega) (by omega)  
    have f_30 : 0 = s_sum (fun h => if s_holds (I 10) τ (d + 4) h d = true then s_lays (I 10) (I 24) nh (d + 4) 3 (zs1 τ (d + 6) (nI h)) else 0) 0 := by rfl
    refine z_lv (lv' := [(0, .ref (L 99)), (1, .int (nI (d))), (2, .int (s_sum (fun h => if s_holds (I 10) τ (d + 4) h d = true then s_lays (I 10) (I 24) nh (d + 4) 3 (zs1 τ (d + 6) (nI h)) else 0) 0)), (3, .int 0)]) [2, 3, 1, 0] (by rw [← f_30]; rfl) ?_
    exact loop_10 (nh - 0) 0 (by omega) (Nat.le_refl _)  
  · -- ¬ 0 ≤ I 24 (d + 6)
    have c_5' := Int32.not_le.mp c_5
    refine z_aload_n 0 dX5_laysFrom_22 rfl ?_
    refine z_iload_n 1 dX5_laysFrom_23 rfl ?_
    refine z_iconst (v := 1) dX5_laysFrom_24 (by decide) ?_
    refine z_iaddN (a := d) (b := 1) dX5_laysFrom_25 ?_
    refine z_callV (As := [.int (nI (d + 1))]) (t_laysFrom_3 (I := I) (τ := τ) hL (d + 1) (by omega) h0 hnh (by first | exact h1 | (rw [h1]; exact congrArg nI (by omega))) (by omega) (fun j h8 h9 => hτ j (by omega) (by omega))) q1972 q1974 qs104 q121 q1975 nm_X5_laysFrom (tX_obj hL) rfl rfl rfl (Nat.le_of_ble_eq_true rfl) ⟨Nat.le_of_ble_eq_true rfl, Nat.le_of_ble_eq_true rfl⟩ dX5_laysFrom_26 rfl rfl (Nat.le_of_ble_eq_true rfl) (Nat.le_of_ble_eq_true rfl) (fun v_31 X_32 hp_33 => ?_)
    obtain ⟨rfl, rfl⟩ := hp_33
    refine z_st (st' := [.int (s_lays (I 10) (I 24) nh (d + 4) 3 τ)]) rfl ?_
    exact z_iret dX5_laysFrom_29 rfl (Nat.le_of_ble_eq_true rfl) (Nat.le_of_ble_eq_true rfl) ⟨congrArg some (congrArg Value.int (by show _ = s_lays (I 10) (I 24) nh (d + 4) (3 + 1) τ; rw [s_lays_1 (r := 3), show d + 4 - (3 + 1) = d by omega]; simp [c_5, c_5'])), rfl⟩
set_option maxHeartbeats 4000000 in
theorem t_laysFrom_5 {g : zG} {L : Nat → Nat} {I : Nat → Nat → Int32} {J : Nat → Nat → Int64} {Gb : Nat → Nat → Int32} {X : zX} (hL : tok g L) {τ : Nat → Int32} {nh : Nat} (d : Nat) (hd : d + 5 ≤ 6) (h0 : I 10 0 = nI nh) (hnh : nh ≤ 4) (h1 : I 10 1 = nI (d + 5)) (hd2 : d ≤ 6) (hτ : ∀ j, d ≤ j → j < d + 5 → τ (j + 6) = zm1) : zN g m_X5_laysFrom ({ frames := 8, cells := 0, slots := 0, locals := 182 } : Room) [.ref (L 99), .int (nI (d))] (tX g L (tput I 987 τ) J Gb X) (fun rv X' => rv = some (.int (s_lays (I 10) (I 24) nh (d + 5) 5 τ)) ∧ X' = (tX g L (tput I 987 τ) J Gb X)) := by
  refine zN.of (by decide +kernel) (Nat.le_of_ble_eq_true rfl) rfl ?_
  refine z_lv (lv' := [(0, .ref (L 99)), (1, .int (nI (d)))]) [0, 1] rfl ?_
  refine z_iload_n 1 dX5_laysFrom_0 rfl ?_
  refine z_aload_n 0 dX5_laysFrom_1 rfl ?_
  refine z_callV (As := []) (t_days (I := (tput I 987 τ)) hL h1) q1573 q1575 qs53 q121 q1576 nm_X5_days (tX_obj hL) rfl rfl rfl (Nat.le_of_ble_eq_true rfl) ⟨Nat.le_of_ble_eq_true rfl, Nat.le_of_ble_eq_true rfl⟩ dX5_laysFrom_2 rfl rfl (Nat.le_of_ble_eq_true rfl) (Nat.le_of_ble_eq_true rfl) (fun v_1 X_2 hp_3 => ?_)
  obtain ⟨rfl, rfl⟩ := hp_3
  refine z_st (st' := [.int (nI (d + 5)), .int (nI (d))]) rfl ?_
  refine z_icmp_neN (a := d) (b := d + 5) 10 (by omega) (by omega) dX5_laysFrom_5 (by decide) (fun c_4 => ?_) (fun c_4 => absurd c_4 ((by omega)))
  refine z_aload_n 0 dX5_laysFrom_10 rfl ?_
  refine tz_get (v := .ref (L 24)) 24 hL (by decide) q1617 rfl dX5_laysFrom_11 ?_
  refine z_bipush (v := 6) dX5_laysFrom_14 (by decide) ?_
  refine z_iload_n 1 dX5_laysFrom_16 rfl ?_
  refine z_iaddN (a := 6) (b := d) dX5_laysFrom_17 ?_
  refine z_eq (y := nI (d + 6)) (congrArg nI (by omega)) ?_
  refine tz_iald (v := I 24 (d + 6)) 24 (d + 6) hL (by decide) rfl (by show d + 6 < 1081; omega) ((tput_off (by omega)).trans rfl) dX5_laysFrom_18 ?_
  refine z_if_ge 30 dX5_laysFrom_19 (by decide) (fun c_5 => ?_) (fun c_5 => ?_)
  · -- 0 ≤ I 24 (d + 6)
    have c_5' := Int32.not_lt.mpr c_5
    refine z_iconst (v := 0) dX5_laysFrom_30 (by decide) ?_
    refine z_istore_n (lv' := [(2, .int 0), (0, .ref (L 99)), (1, .int (nI (d)))]) dX5_laysFrom_31 rfl (by decide) rfl ?_
    refine z_iconst (v := 0) dX5_laysFrom_32 (by decide) ?_
    refine z_istore_n (lv' := [(3, .int 0), (2, .int 0), (0, .ref (L 99)), (1, .int (nI (d)))]) dX5_laysFrom_33 rfl (by decide) rfl ?_
    have loop_10 : ∀ (q_7 i_6 : Nat), i_6 + q_7 = nh → 0 ≤ i_6 → zZ g m_X5_laysFrom (fun rv X' => rv = some (.int (s_lays (I 10) (I 24) nh (d + 5) 5 τ)) ∧ X' = (tX g L (tput I 987 τ) J Gb X), zno, ({ frames := 8, cells := 0, slots := 0, locals := 182 } : Room)) 0 0 (tX g L (tput I 987 τ) J Gb X) 34 [(0, .ref (L 99)), (1, .int (nI (d))), (2, .int (s_sum (fun h => if s_holds (I 10) τ (d + 5) h d = true then s_lays (I 10) (I 24) nh (d + 5) 4 (zs1 τ (d + 6) (nI h)) else 0) i_6)), (3, .int (nI (i_6)))] [] := by
      intro q_7
      induction q_7 with
      | zero =>
        intro i_6 hb_9 lo_11  
        obtain rfl : nh = i_6 := by omega
        refine z_iload_n 3 dX5_laysFrom_34 rfl ?_
        refine z_aload_n 0 dX5_laysFrom_35 rfl ?_
        refine z_callV (As := []) (t_houses (I := (tput I 987 τ)) hL h0) q1585 q1587 qs56 q121 q1588 nm_X5_houses (tX_obj hL) rfl rfl rfl (Nat.le_of_ble_eq_true rfl) ⟨Nat.le_of_ble_eq_true rfl, Nat.le_of_ble_eq_true rfl⟩ dX5_laysFrom_36 rfl rfl (Nat.le_of_ble_eq_true rfl) (Nat.le_of_ble_eq_true rfl) (fun v_12 X_13 hp_14 => ?_)
        obtain ⟨rfl, rfl⟩ := hp_14
        refine z_st (st' := [.int (nI (nh)), .int (nI (nh))]) rfl ?_
        refine z_icmp_geN (a := nh) (b := nh) 92 (by omega) (by omega) dX5_laysFrom_39 (by decide) (fun c_15 => ?_) (fun c_15 => absurd c_15 (by omega))
        refine z_iload_n 2 dX5_laysFrom_92 rfl ?_
        exact z_iret dX5_laysFrom_93 rfl (Nat.le_of_ble_eq_true rfl) (Nat.le_of_ble_eq_true rfl) ⟨congrArg some (congrArg Value.int (by show _ = s_lays (I 10) (I 24) nh (d + 5) (4 + 1) τ; rw [s_lays_1 (r := 4), show d + 5 - (4 + 1) = d by omega]; simp [c_5, c_5'])), rfl⟩
      | succ q_7 ih_8 =>
        intro i_6 hb_9 lo_11  
        refine z_iload_n 3 dX5_laysFrom_34 rfl ?_
        refine z_aload_n 0 dX5_laysFrom_35 rfl ?_
        refine z_callV (As := []) (t_houses (I := (tput I 987 τ)) hL h0) q1585 q1587 qs56 q121 q1588 nm_X5_houses (tX_obj hL) rfl rfl rfl (Nat.le_of_ble_eq_true rfl) ⟨Nat.le_of_ble_eq_true rfl, Nat.le_of_ble_eq_true rfl⟩ dX5_laysFrom_36 rfl rfl (Nat.le_of_ble_eq_true rfl) (Nat.le_of_ble_eq_true rfl) (fun v_16 X_17 hp_18 => ?_)
        obtain ⟨rfl, rfl⟩ := hp_18
        refine z_st (st' := [.int (nI (nh)), .int (nI (i_6))]) rfl ?_
        refine z_icmp_geN (a := i_6) (b := nh) 92 (by omega) (by omega) dX5_laysFrom_39 (by decide) (fun c_19 => absurd c_19 (by omega)) (fun c_19 => ?_)
        refine z_aload_n 0 dX5_laysFrom_42 rfl ?_
        refine z_sipush (v := 987) dX5_laysFrom_43 (by decide) ?_
        refine z_iload_n 3 dX5_laysFrom_46 rfl ?_
        refine z_iload_n 1 dX5_laysFrom_47 rfl ?_
        refine z_callV (As := [.int 987, .int (nI (i_6)), .int (nI (d))]) (t_doesHold (I := I) (σ := τ) hL h1 (by omega) 987 (by omega) i_6 d (by omega) (by omega)) q1886 q1888 qs97 q121 q1889 nm_X5_doesHold (tX_obj hL) rfl rfl rfl (Nat.le_of_ble_eq_true rfl) ⟨Nat.le_of_ble_eq_true rfl, Nat.le_of_ble_eq_true rfl⟩ dX5_laysFrom_48 rfl rfl (Nat.le_of_ble_eq_true rfl) (Nat.le_of_ble_eq_true rfl) (fun v_20 X_21 hp_22 => ?_)
        obtain ⟨rfl, rfl⟩ := hp_22
        refine z_st (st' := [.int (zb (s_holds (I 10) τ (d + 5) i_6 d))]) rfl ?_
        refine z_if_eqb 86 dX5_laysFrom_51 (by decide) (fun c_23 => ?_) (fun c_23 => ?_)
        · -- s_holds (I 10) τ (d + 5) i_6 d = false
          refine z_iinc (v := nI (i_6 + 1)) (lv' := [(3, .int (nI (i_6 + 1))), (0, .ref (L 99)), (1, .int (nI (d))), (2, .int (s_sum (fun h => if s_holds (I 10) τ (d + 5) h d = true then s_lays (I 10) (I 24) nh (d + 5) 4 (zs1 τ (d + 6) (nI h)) else 0) i_6))]) 3 dX5_laysFrom_86 rfl (nI_1 _) (by decide) rfl ?_
          refine z_goto 34 dX5_laysFrom_89 (by decide) ?_
          have f_24 : s_sum (fun h => if s_holds (I 10) τ (d + 5) h d = true then s_lays (I 10) (I 24) nh (d + 5) 4 (zs1 τ (d + 6) (nI h)) else 0) i_6 = s_sum (fun h => if s_holds (I 10) τ (d + 5) h d = true then s_lays (I 10) (I 24) nh (d + 5) 4 (zs1 τ (d + 6) (nI h)) else 0) (i_6 + 1) := by first | rfl | omega | (simp [s_sum, c_4, c_5, c_5', hb_9, c_19, c_23]; done) | (skip; simp [s_sum, c_4, c_5, c_5', hb_9, c_19, c_23])
          refine z_lv (lv' := [(0, .ref (L 99)), (1, .int (nI (d))), (2, .int (s_sum (fun h => if s_holds (I 10) τ (d + 5) h d = true then s_lays (I 10) (I 24) nh (d + 5) 4 (zs1 τ (d + 6) (nI h)) else 0) (i_6 + 1))), (3, .int (nI (i_6 + 1)))]) [1, 2, 3, 0] (by rw [← f_24]; rfl) ?_
          exact ih_8 (i_6 + 1) (by omega) (by omega)  
        · -- s_holds (I 10) τ (d + 5) i_6 d = true
          refine z_aload_n 0 dX5_laysFrom_54 rfl ?_
          refine tz_get (v := .ref (L 24)) 24 hL (by decide) q1617 rfl dX5_laysFrom_55 ?_
          refine z_sipush (v := 993) dX5_laysFrom_58 (by decide) ?_
          refine z_iload_n 1 dX5_laysFrom_61 rfl ?_
          refine z_iaddN (a := 993) (b := d) dX5_laysFrom_62 ?_
          refine z_eq (y := nI (d + 993)) (congrArg nI (by omega)) ?_
          refine z_iload_n 3 dX5_laysFrom_63 rfl ?_
          refine tz_iast 24 (987 + (d + 6)) hL (by decide) (congrArg nI (by omega)) (by show 987 + (d + 6) < 1081; omega) (tput_zs (by omega)) dX5_laysFrom_64 ?_
          refine z_iload_n 2 dX5_laysFrom_65 rfl ?_
          refine z_aload_n 0 dX5_laysFrom_66 rfl ?_
          refine z_iload_n 1 dX5_laysFrom_67 rfl ?_
          refine z_iconst (v := 1) dX5_laysFrom_68 (by decide) ?_
          refine z_iaddN (a := d) (b := 1) dX5_laysFrom_69 ?_
          refine z_callV (As := [.int (nI (d + 1))]) (t_laysFrom_4 (I := I) (τ := (zs1 τ (d + 6) (nI (i_6)))) hL (d + 1) (by omega) h0 hnh (by first | exact h1 | (rw [h1]; exact congrArg nI (by omega))) (by omega) (fun j h8 h9 => (zs1_n (by omega)).trans (hτ j (by omega) (by omega)))) q1972 q1974 qs104 q121 q1975 nm_X5_laysFrom (tX_obj hL) rfl rfl rfl (Nat.le_of_ble_eq_true rfl) ⟨Nat.le_of_ble_eq_true rfl, Nat.le_of_ble_eq_true rfl⟩ dX5_laysFrom_70 rfl rfl (Nat.le_of_ble_eq_true rfl) (Nat.le_of_ble_eq_true rfl) (fun v_25 X_26 hp_27 => ?_)
          obtain ⟨rfl, rfl⟩ := hp_27
          refine z_st (st' := [.int (s_lays (I 10) (I 24) nh (d + 5) 4 (zs1 τ (d + 6) (nI (i_6)))), .int (s_sum (fun h => if s_holds (I 10) τ (d + 5) h d = true then s_lays (I 10) (I 24) nh (d + 5) 4 (zs1 τ (d + 6) (nI h)) else 0) i_6)]) rfl ?_
          refine z_iadd dX5_laysFrom_73 ?_
          obtain ⟨x_28, ex_28⟩ : ∃ y : Int32, ((s_sum (fun h => if s_holds (I 10) τ (d + 5) h d = true then s_lays (I 10) (I 24) nh (d + 5) 4 (zs1 τ (d + 6) (nI h)) else 0) i_6) + (s_lays (I 10) (I 24) nh (d + 5) 4 (zs1 τ (d + 6) (nI (i_6))))) = y := ⟨_, rfl⟩
          refine z_eq ex_28 ?_
          refine z_istore_n (lv' := [(2, .int x_28), (0, .ref (L 99)), (1, .int (nI (d))), (3, .int (nI (i_6)))]) dX5_laysFrom_74 rfl (by decide) rfl ?_
          refine z_aload_n 1 dX5_laysFrom_75 rfl ?_
          refine tz_get (v := .ref (L 24)) 24 hL (by decide) q1617 rfl dX5_laysFrom_76 ?_
          refine z_sipush (v := 993) dX5_laysFrom_79 (by decide) ?_
          refine z_iload_n 2 dX5_laysFrom_82 rfl ?_
          refine z_iaddN (a := 993) (b := d) dX5_laysFrom_83 ?_
          refine z_eq (y := nI (d + 993)) (congrArg nI (by omega)) ?_
          refine z_iconst (v := zm1) dX5_laysFrom_84 (by decide) ?_
          refine tz_iast 24 (987 + (d + 6)) hL (by decide) (congrArg nI (by omega)) (by show 987 + (d + 6) < 1081; omega) (tput_zs (by omega)) dX5_laysFrom_85 ?_
          refine z_iinc (v := nI (i_6 + 1)) (lv' := [(3, .int (nI (i_6 + 1))), (2, .int x_28), (0, .ref (L 99)), (1, .int (nI (d)))]) 3 dX5_laysFrom_86 rfl (nI_1 _) (by decide) rfl ?_
          refine z_goto 34 dX5_laysFrom_89 (by decide) ?_
          have f_29 : x_28 = s_sum (fun h => if s_holds (I 10) τ (d + 5) h d = true then s_lays (I 10) (I 24) nh (d + 5) 4 (zs1 τ (d + 6) (nI h)) else 0) (i_6 + 1) := by first | rfl | omega | (simp [s_sum, c_4, c_5, c_5', hb_9, c_19, c_23]; done) | ((try subst ex_28); simp [s_sum, c_4, c_5, c_5', hb_9, c_19, c_23])
          subst f_29
          refine z_lv (lv' := [(0, .ref (L 99)), (1, .int (nI (d))), (2, .int (s_sum (fun h => if s_holds (I 10) τ (d + 5) h d = true then s_lays (I 10) (I 24) nh (d + 5) 4 (zs1 τ (d + 6) (nI h)) else 0) (i_6 + 1))), (3, .int (nI (i_6 + 1)))]) [2, 3, 1, 0] rfl ?_
          refine z_X (X' := (tX g L (tput I 987 τ) J Gb X)) (congrArg (fun z => tX g L (tput I 987 z) J Gb X) (zs1_back (hτ d (Nat.le_refl _) (by omega)))) ?_
          exact ih_8 (i_6 + 1) (by omega) (by omega)  
    have f_30 : 0 = s_sum (fun h => if s_holds (I 10) τ (d + 5) h d = true then s_lays (I 10) (I 24) nh (d + 5) 4 (zs1 τ (d + 6) (nI h)) else 0) 0 := by rfl
    refine z_lv (lv' := [(0, .ref (L 99)), (1, .int (nI (d))), (2, .int (s_sum (fun h => if s_holds (I 10) τ (d + 5) h d = true then s_lays (I 10) (I 24) nh (d + 5) 4 (zs1 τ (d + 6) (nI h)) else 0) 0)), (3, .int 0)]) [2, 3, 1, 0] (by rw [← f_30]; rfl) ?_
    exact loop_10 (nh - 0) 0 (by omega) (Nat.le_refl _)  
  · -- ¬ 0 ≤ I 24 (d + 6)
    have c_5' := Int32.not_le.mp c_5
    refine z_aload_n 0 dX5_laysFrom_22 rfl ?_
    refine z_iload_n 1 dX5_laysFrom_23 rfl ?_
    refine z_iconst (v := 1) dX5_laysFrom_24 (by decide) ?_
    refine z_iaddN (a := d) (b := 1) dX5_laysFrom_25 ?_
    refine z_callV (As := [.int (nI (d + 1))]) (t_laysFrom_4 (I := I) (τ := τ) hL (d + 1) (by omega) h0 hnh (by first | exact h1 | (rw [h1]; exact congrArg nI (by omega))) (by omega) (fun j h8 h9 => hτ j (by omega) (by omega))) q1972 q1974 qs104 q121 q1975 nm_X5_laysFrom (tX_obj hL) rfl rfl rfl (Nat.le_of_ble_eq_true rfl) ⟨Nat.le_of_ble_eq_true rfl, Nat.le_of_ble_eq_true rfl⟩ dX5_laysFrom_26 rfl rfl (Nat.le_of_ble_eq_true rfl) (Nat.le_of_ble_eq_true rfl) (fun v_31 X_32 hp_33 => ?_)
    obtain ⟨rfl, rfl⟩ := hp_33
    refine z_st (st' := [.int (s_lays (I 10) (I 24) nh (d + 5) 4 τ)]) rfl ?_
    exact z_iret dX5_laysFrom_29 rfl (Nat.le_of_ble_eq_true rfl) (Nat.le_of_ble_eq_true rfl) ⟨congrArg some (congrArg Value.int (by show _ = s_lays (I 10) (I 24) nh (d + 5) (4 + 1) τ; rw [s_lays_1 (r := 4), show d + 5 - (4 + 1) = d by omega]; simp [c_5, c_5'])), rfl⟩
set_option maxHeartbeats 4000000 in
theorem t_laysFrom_6 {g : zG} {L : Nat → Nat} {I : Nat → Nat → Int32} {J : Nat → Nat → Int64} {Gb : Nat → Nat → Int32} {X : zX} (hL : tok g L) {τ : Nat → Int32} {nh : Nat} (d : Nat) (hd : d + 6 ≤ 6) (h0 : I 10 0 = nI nh) (hnh : nh ≤ 4) (h1 : I 10 1 = nI (d + 6)) (hd2 : d ≤ 6) (hτ : ∀ j, d ≤ j → j < d + 6 → τ (j + 6) = zm1) : zN g m_X5_laysFrom ({ frames := 9, cells := 0, slots := 0, locals := 205 } : Room) [.ref (L 99), .int (nI (d))] (tX g L (tput I 987 τ) J Gb X) (fun rv X' => rv = some (.int (s_lays (I 10) (I 24) nh (d + 6) 6 τ)) ∧ X' = (tX g L (tput I 987 τ) J Gb X)) := by
  refine zN.of (by decide +kernel) (Nat.le_of_ble_eq_true rfl) rfl ?_
  refine z_lv (lv' := [(0, .ref (L 99)), (1, .int (nI (d)))]) [0, 1] rfl ?_
  refine z_iload_n 1 dX5_laysFrom_0 rfl ?_
  refine z_aload_n 0 dX5_laysFrom_1 rfl ?_
  refine z_callV (As := []) (t_days (I := (tput I 987 τ)) hL h1) q1573 q1575 qs53 q121 q1576 nm_X5_days (tX_obj hL) rfl rfl rfl (Nat.le_of_ble_eq_true rfl) ⟨Nat.le_of_ble_eq_true rfl, Nat.le_of_ble_eq_true rfl⟩ dX5_laysFrom_2 rfl rfl (Nat.le_of_ble_eq_true rfl) (Nat.le_of_ble_eq_true rfl) (fun v_1 X_2 hp_3 => ?_)
  obtain ⟨rfl, rfl⟩ := hp_3
  refine z_st (st' := [.int (nI (d + 6)), .int (nI (d))]) rfl ?_
  refine z_icmp_neN (a := d) (b := d + 6) 10 (by omega) (by omega) dX5_laysFrom_5 (by decide) (fun c_4 => ?_) (fun c_4 => absurd c_4 ((by omega)))
  refine z_aload_n 0 dX5_laysFrom_10 rfl ?_
  refine tz_get (v := .ref (L 24)) 24 hL (by decide) q1617 rfl dX5_laysFrom_11 ?_
  refine z_bipush (v := 6) dX5_laysFrom_14 (by decide) ?_
  refine z_iload_n 1 dX5_laysFrom_16 rfl ?_
  refine z_iaddN (a := 6) (b := d) dX5_laysFrom_17 ?_
  refine z_eq (y := nI (d + 6)) (congrArg nI (by omega)) ?_
  refine tz_iald (v := I 24 (d + 6)) 24 (d + 6) hL (by decide) rfl (by show d + 6 < 1081; omega) ((tput_off (by omega)).trans rfl) dX5_laysFrom_18 ?_
  refine z_if_ge 30 dX5_laysFrom_19 (by decide) (fun c_5 => ?_) (fun c_5 => ?_)
  · -- 0 ≤ I 24 (d + 6)
    have c_5' := Int32.not_lt.mpr c_5
    refine z_iconst (v := 0) dX5_laysFrom_30 (by decide) ?_
    refine z_istore_n (lv' := [(2, .int 0), (0, .ref (L 99)), (1, .int (nI (d)))]) dX5_laysFrom_31 rfl (by decide) rfl ?_
    refine z_iconst (v := 0) dX5_laysFrom_32 (by decide) ?_
    refine z_istore_n (lv' := [(3, .int 0), (2, .int 0), (0, .ref (L 99)), (1, .int (nI (d)))]) dX5_laysFrom_33 rfl (by decide) rfl ?_
    have loop_10 : ∀ (q_7 i_6 : Nat), i_6 + q_7 = nh → 0 ≤ i_6 → zZ g m_X5_laysFrom (fun rv X' => rv = some (.int (s_lays (I 10) (I 24) nh (d + 6) 6 τ)) ∧ X' = (tX g L (tput I 987 τ) J Gb X), zno, ({ frames := 9, cells := 0, slots := 0, locals := 205 } : Room)) 0 0 (tX g L (tput I 987 τ) J Gb X) 34 [(0, .ref (L 99)), (1, .int (nI (d))), (2, .int (s_sum (fun h => if s_holds (I 10) τ (d + 6) h d = true then s_lays (I 10) (I 24) nh (d + 6) 5 (zs1 τ (d + 6) (nI h)) else 0) i_6)), (3, .int (nI (i_6)))] [] := by
      intro q_7
      induction q_7 with
      | zero =>
        intro i_6 hb_9 lo_11  
        obtain rfl : nh = i_6 := by omega
        refine z_iload_n 3 dX5_laysFrom_34 rfl ?_
        refine z_aload_n 0 dX5_laysFrom_35 rfl ?_
        refine z_callV (As := []) (t_houses (I := (tput I 987 τ)) hL h0) q1585 q1587 qs56 q121 q1588 nm_X5_houses (tX_obj hL) rfl rfl rfl (Nat.le_of_ble_eq_true rfl) ⟨Nat.le_of_ble_eq_true rfl, Nat.le_of_ble_eq_true rfl⟩ dX5_laysFrom_36 rfl rfl (Nat.le_of_ble_eq_true rfl) (Nat.le_of_ble_eq_true rfl) (fun v_12 X_13 hp_14 => ?_)
        obtain ⟨rfl, rfl⟩ := hp_14
        refine z_st (st' := [.int (nI (nh)), .int (nI (nh))]) rfl ?_
        refine z_icmp_geN (a := nh) (b := nh) 92 (by omega) (by omega) dX5_laysFrom_39 (by decide) (fun c_15 => ?_) (fun c_15 => absurd c_15 (by omega))
        refine z_iload_n 2 dX5_laysFrom_92 rfl ?_
        exact z_iret dX5_laysFrom_93 rfl (Nat.le_of_ble_eq_true rfl) (Nat.le_of_ble_eq_true rfl) ⟨congrArg some (congrArg Value.int (by show _ = s_lays (I 10) (I 24) nh (d + 6) (5 + 1) τ; rw [s_lays_1 (r := 5), show d + 6 - (5 + 1) = d by omega]; simp [c_5, c_5'])), rfl⟩
      | succ q_7 ih_8 =>
        intro i_6 hb_9 lo_11  
        refine z_iload_n 3 dX5_laysFrom_34 rfl ?_
        refine z_aload_n 0 dX5_laysFrom_35 rfl ?_
        refine z_callV (As := []) (t_houses (I := (tput I 987 τ)) hL h0) q1585 q1587 qs56 q121 q1588 nm_X5_houses (tX_obj hL) rfl rfl rfl (Nat.le_of_ble_eq_true rfl) ⟨Nat.le_of_ble_eq_true rfl, Nat.le_of_ble_eq_true rfl⟩ dX5_laysFrom_36 rfl rfl (Nat.le_of_ble_eq_true rfl) (Nat.le_of_ble_eq_true rfl) (fun v_16 X_17 hp_18 => ?_)
        obtain ⟨rfl, rfl⟩ := hp_18
        refine z_st (st' := [.int (nI (nh)), .int (nI (i_6))]) rfl ?_
        refine z_icmp_geN (a := i_6) (b := nh) 92 (by omega) (by omega) dX5_laysFrom_39 (by decide) (fun c_19 => absurd c_19 (by omega)) (fun c_19 => ?_)
        refine z_aload_n 0 dX5_laysFrom_42 rfl ?_
        refine z_sipush (v := 987) dX5_laysFrom_43 (by decide) ?_
        refine z_iload_n 3 dX5_laysFrom_46 rfl ?_
        refine z_iload_n 1 dX5_laysFrom_47 rfl ?_
        refine z_callV (As := [.int 987, .int (nI (i_6)), .int (nI (d))]) (t_doesHold (I := I) (σ := τ) hL h1 (by omega) 987 (by omega) i_6 d (by omega) (by omega)) q1886 q1888 qs97 q121 q1889 nm_X5_doesHold (tX_obj hL) rfl rfl rfl (Nat.le_of_ble_eq_true rfl) ⟨Nat.le_of_ble_eq_true rfl, Nat.le_of_ble_eq_true rfl⟩ dX5_laysFrom_48 rfl rfl (Nat.le_of_ble_eq_true rfl) (Nat.le_of_ble_eq_true rfl) (fun v_20 X_21 hp_22 => ?_)
        obtain ⟨rfl, rfl⟩ := hp_22
        refine z_st (st' := [.int (zb (s_holds (I 10) τ (d + 6) i_6 d))]) rfl ?_
        refine z_if_eqb 86 dX5_laysFrom_51 (by decide) (fun c_23 => ?_) (fun c_23 => ?_)
        · -- s_holds (I 10) τ (d + 6) i_6 d = false
          refine z_iinc (v := nI (i_6 + 1)) (lv' := [(3, .int (nI (i_6 + 1))), (0, .ref (L 99)), (1, .int (nI (d))), (2, .int (s_sum (fun h => if s_holds (I 10) τ (d + 6) h d = true then s_lays (I 10) (I 24) nh (d + 6) 5 (zs1 τ (d + 6) (nI h)) else 0) i_6))]) 3 dX5_laysFrom_86 rfl (nI_1 _) (by decide) rfl ?_
          refine z_goto 34 dX5_laysFrom_89 (by decide) ?_
          have f_24 : s_sum (fun h => if s_holds (I 10) τ (d + 6) h d = true then s_lays (I 10) (I 24) nh (d + 6) 5 (zs1 τ (d + 6) (nI h)) else 0) i_6 = s_sum (fun h => if s_holds (I 10) τ (d + 6) h d = true then s_lays (I 10) (I 24) nh (d + 6) 5 (zs1 τ (d + 6) (nI h)) else 0) (i_6 + 1) := by first | rfl | omega | (simp [s_sum, c_4, c_5, c_5', hb_9, c_19, c_23]; done) | (skip; simp [s_sum, c_4, c_5, c_5', hb_9, c_19, c_23])
          refine z_lv (lv' := [(0, .ref (L 99)), (1, .int (nI (d))), (2, .int (s_sum (fun h => if s_holds (I 10) τ (d + 6) h d = true then s_lays (I 10) (I 24) nh (d + 6) 5 (zs1 τ (d + 6) (nI h)) else 0) (i_6 + 1))), (3, .int (nI (i_6 + 1)))]) [1, 2, 3, 0] (by rw [← f_24]; rfl) ?_
          exact ih_8 (i_6 + 1) (by omega) (by omega)  
        · -- s_holds (I 10) τ (d + 6) i_6 d = true
          refine z_aload_n 0 dX5_laysFrom_54 rfl ?_
          refine tz_get (v := .ref (L 24)) 24 hL (by decide) q1617 rfl dX5_laysFrom_55 ?_
          refine z_sipush (v := 993) dX5_laysFrom_58 (by decide) ?_
          refine z_iload_n 1 dX5_laysFrom_61 rfl ?_
          refine z_iaddN (a := 993) (b := d) dX5_laysFrom_62 ?_
          refine z_eq (y := nI (d + 993)) (congrArg nI (by omega)) ?_
          refine z_iload_n 3 dX5_laysFrom_63 rfl ?_
          refine tz_iast 24 (987 + (d + 6)) hL (by decide) (congrArg nI (by omega)) (by show 987 + (d + 6) < 1081; omega) (tput_zs (by omega)) dX5_laysFrom_64 ?_
          refine z_iload_n 2 dX5_laysFrom_65 rfl ?_
          refine z_aload_n 0 dX5_laysFrom_66 rfl ?_
          refine z_iload_n 1 dX5_laysFrom_67 rfl ?_
          refine z_iconst (v := 1) dX5_laysFrom_68 (by decide) ?_
          refine z_iaddN (a := d) (b := 1) dX5_laysFrom_69 ?_
          refine z_callV (As := [.int (nI (d + 1))]) (t_laysFrom_5 (I := I) (τ := (zs1 τ (d + 6) (nI (i_6)))) hL (d + 1) (by omega) h0 hnh (by first | exact h1 | (rw [h1]; exact congrArg nI (by omega))) (by omega) (fun j h8 h9 => (zs1_n (by omega)).trans (hτ j (by omega) (by omega)))) q1972 q1974 qs104 q121 q1975 nm_X5_laysFrom (tX_obj hL) rfl rfl rfl (Nat.le_of_ble_eq_true rfl) ⟨Nat.le_of_ble_eq_true rfl, Nat.le_of_ble_eq_true rfl⟩ dX5_laysFrom_70 rfl rfl (Nat.le_of_ble_eq_true rfl) (Nat.le_of_ble_eq_true rfl) (fun v_25 X_26 hp_27 => ?_)
          obtain ⟨rfl, rfl⟩ := hp_27
          refine z_st (st' := [.int (s_lays (I 10) (I 24) nh (d + 6) 5 (zs1 τ (d + 6) (nI (i_6)))), .int (s_sum (fun h => if s_holds (I 10) τ (d + 6) h d = true then s_lays (I 10) (I 24) nh (d + 6) 5 (zs1 τ (d + 6) (nI h)) else 0) i_6)]) rfl ?_
          refine z_iadd dX5_laysFrom_73 ?_
          obtain ⟨x_28, ex_28⟩ : ∃ y : Int32, ((s_sum (fun h => if s_holds (I 10) τ (d + 6) h d = true then s_lays (I 10) (I 24) nh (d + 6) 5 (zs1 τ (d + 6) (nI h)) else 0) i_6) + (s_lays (I 10) (I 24) nh (d + 6) 5 (zs1 τ (d + 6) (nI (i_6))))) = y := ⟨_, rfl⟩
          refine z_eq ex_28 ?_
          refine z_istore_n (lv' := [(2, .int x_28), (0, .ref (L 99)), (1, .int (nI (d))), (3, .int (nI (i_6)))]) dX5_laysFrom_74 rfl (by decide) rfl ?_
          refine z_aload_n 1 dX5_laysFrom_75 rfl ?_
          refine tz_get (v := .ref (L 24)) 24 hL (by decide) q1617 rfl dX5_laysFrom_76 ?_
          refine z_sipush (v := 993) dX5_laysFrom_79 (by decide) ?_
          refine z_iload_n 2 dX5_laysFrom_82 rfl ?_
          refine z_iaddN (a := 993) (b := d) dX5_laysFrom_83 ?_
          refine z_eq (y := nI (d + 993)) (congrArg nI (by omega)) ?_
          refine z_iconst (v := zm1) dX5_laysFrom_84 (by decide) ?_
          refine tz_iast 24 (987 + (d + 6)) hL (by decide) (congrArg nI (by omega)) (by show 987 + (d + 6) < 1081; omega) (tput_zs (by omega)) dX5_laysFrom_85 ?_
          refine z_iinc (v := nI (i_6 + 1)) (lv' := [(3, .int (nI (i_6 + 1))), (2, .int x_28), (0, .ref (L 99)), (1, .int (nI (d)))]) 3 dX5_laysFrom_86 rfl (nI_1 _) (by decide) rfl ?_
          refine z_goto 34 dX5_laysFrom_89 (by decide) ?_
          have f_29 : x_28 = s_sum (fun h => if s_holds (I 10) τ (d + 6) h d = true then s_lays (I 10) (I 24) nh (d + 6) 5 (zs1 τ (d + 6) (nI h)) else 0) (i_6 + 1) := by first | rfl | omega | (simp [s_sum, c_4, c_5, c_5', hb_9, c_19, c_23]; done) | ((try subst ex_28); simp [s_sum, c_4, c_5, c_5', hb_9, c_19, c_23])
          subst f_29
          refine z_lv (lv' := [(0, .ref (L 99)), (1, .int (nI (d))), (2, .int (s_sum (fun h => if s_holds (I 10) τ (d + 6) h d = true then s_lays (I 10) (I 24) nh (d + 6) 5 (zs1 τ (d + 6) (nI h)) else 0) (i_6 + 1))), (3, .int (nI (i_6 + 1)))]) [2, 3, 1, 0] rfl ?_
          refine z_X (X' := (tX g L (tput I 987 τ) J Gb X)) (congrArg (fun z => tX g L (tput I 987 z) J Gb X) (zs1_back (hτ d (Nat.le_refl _) (by omega)))) ?_
          exact ih_8 (i_6 + 1) (by omega) (by omega)  
    have f_30 : 0 = s_sum (fun h => if s_holds (I 10) τ (d + 6) h d = true then s_lays (I 10) (I 24) nh (d + 6) 5 (zs1 τ (d + 6) (nI h)) else 0) 0 := by rfl
    refine z_lv (lv' := [(0, .ref (L 99)), (1, .int (nI (d))), (2, .int (s_sum (fun h => if s_holds (I 10) τ (d + 6) h d = true then s_lays (I 10) (I 24) nh (d + 6) 5 (zs1 τ (d + 6) (nI h)) else 0) 0)), (3, .int 0)]) [2, 3, 1, 0] (by rw [← f_30]; rfl) ?_
    exact loop_10 (nh - 0) 0 (by omega) (Nat.le_refl _)  
  · -- ¬ 0 ≤ I 24 (d + 6)
    have c_5' := Int32.not_le.mp c_5
    refine z_aload_n 0 dX5_laysFrom_22 rfl ?_
    refine z_iload_n 1 dX5_laysFrom_23 rfl ?_
    refine z_iconst (v := 1) dX5_laysFrom_24 (by decide) ?_
    refine z_iaddN (a := d) (b := 1) dX5_laysFrom_25 ?_
    refine z_callV (As := [.int (nI (d + 1))]) (t_laysFrom_5 (I := I) (τ := τ) hL (d + 1) (by omega) h0 hnh (by first | exact h1 | (rw [h1]; exact congrArg nI (by omega))) (by omega) (fun j h8 h9 => hτ j (by omega) (by omega))) q1972 q1974 qs104 q121 q1975 nm_X5_laysFrom (tX_obj hL) rfl rfl rfl (Nat.le_of_ble_eq_true rfl) ⟨Nat.le_of_ble_eq_true rfl, Nat.le_of_ble_eq_true rfl⟩ dX5_laysFrom_26 rfl rfl (Nat.le_of_ble_eq_true rfl) (Nat.le_of_ble_eq_true rfl) (fun v_31 X_32 hp_33 => ?_)
    obtain ⟨rfl, rfl⟩ := hp_33
    refine z_st (st' := [.int (s_lays (I 10) (I 24) nh (d + 6) 5 τ)]) rfl ?_
    exact z_iret dX5_laysFrom_29 rfl (Nat.le_of_ble_eq_true rfl) (Nat.le_of_ble_eq_true rfl) ⟨congrArg some (congrArg Value.int (by show _ = s_lays (I 10) (I 24) nh (d + 6) (5 + 1) τ; rw [s_lays_1 (r := 5), show d + 6 - (5 + 1) = d by omega]; simp [c_5, c_5'])), rfl⟩
