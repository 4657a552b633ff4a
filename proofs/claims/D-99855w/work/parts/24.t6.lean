/-! THE MODEL: dates to come. Printed by t6.py -/
set_option maxRecDepth 100000
set_option maxHeartbeats 4000000 in
theorem t_triesNow {g : zG} {L : Nat → Nat} {I : Nat → Nat → Int32} {J : Nat → Nat → Int64} {Gb : Nat → Nat → Int32} {X : zX} (hL : tok g L) {τ : Nat → Int32} : zN g m_X5_triesNow ({ frames := 1, cells := 0, slots := 0, locals := 24 } : Room) [.ref (L 99)] (tX g L (tput I 987 τ) J Gb X) (fun rv X' => rv = none ∧ X' = (tX g L (tput I 987 (I 24)) J Gb X)) := by
  refine zN.of (by decide +kernel) (Nat.le_of_ble_eq_true rfl) rfl ?_
  refine z_lv (lv' := [(0, .ref (L 99))]) [0] rfl ?_
  refine z_aload_n 0 dX5_triesNow_0 rfl ?_
  refine z_iconst (v := 0) dX5_triesNow_1 (by decide) ?_
  refine z_sipush (v := 987) dX5_triesNow_2 (by decide) ?_
  refine z_bipush (v := 30) dX5_triesNow_5 (by decide) ?_
  refine z_callV (As := [.int 0, .int 987, .int 30]) (t_copies (I := (tput I 987 τ)) hL 0 987 30 (by omega) (by omega) (by omega)) q1862 q1864 qs91 q121 q1865 nm_X5_copies (tX_obj hL) rfl rfl rfl (Nat.le_of_ble_eq_true rfl) ⟨Nat.le_of_ble_eq_true rfl, Nat.le_of_ble_eq_true rfl⟩ dX5_triesNow_7 rfl rfl (Nat.le_of_ble_eq_true rfl) (Nat.le_of_ble_eq_true rfl) (fun v_1 X_2 hp_3 => ?_)
  obtain ⟨rfl, rfl⟩ := hp_3
  refine z_X (X' := (tX g L (tput I 987 (I 24)) J Gb X)) (by rw [s_copy_try (by decide)]) ?_
  refine z_st (st' := []) rfl ?_
  exact z_vret dX5_triesNow_10 rfl (Nat.le_of_ble_eq_true rfl) (Nat.le_of_ble_eq_true rfl) ⟨rfl, (by first | rfl | (simp []; done) | (skip; simp []))⟩
set_option maxHeartbeats 4000000 in
theorem t_where {g : zG} {L : Nat → Nat} {I : Nat → Nat → Int32} {J : Nat → Nat → Int64} {Gb : Nat → Nat → Int32} {X : zX} (hL : tok g L) {nh nd : Nat} {own : Nat → Nat} (hV : s_ok (I 10) nh nd own) {wv : Int32 → Int32 → Int32 → Int32 → Int32} (hlaw : s_law (I 10) (I 11) (I 12) wv) {now : Nat} (hw : I 24 0 = nI now) (hw2 : now < 2 ^ 29) (d m : Int32) : zN g m_X5_where ({ frames := 7, cells := 0, slots := 0, locals := 161 } : Room) [.ref (L 99), .int d, .int m] (tX g L I J Gb X) (fun rv X' => rv = some (.int (if ((decide (0 ≤ d) && decide (d < nI nd)) && (decide (0 ≤ m) && decide (m ≤ 60))) = true then (s_go wv (I 10) (I 27) nh nd own now (I 24) m.toNatClampNeg).1 (d.toNatClampNeg + 6) else zm2)) ∧ ∃ (I' : Nat → Nat → Int32) (Gb' : Nat → Nat → Int32), X' = tX g L I' J Gb' X ∧ tobs I I' ∧ I' 99 0 = 0) := by
  refine zN.of (by decide +kernel) (Nat.le_of_ble_eq_true rfl) rfl ?_
  refine z_lv (lv' := [(0, .ref (L 99)), (1, .int d), (2, .int m)]) [0, 1, 2] rfl ?_
  have hV9 := hV
  obtain ⟨h0, hnh, h1, hnd, hown⟩ := hV9
  refine z_aload_n 0 dX5_where_0 rfl ?_
  refine z_iconst (v := 0) dX5_where_1 (by decide) ?_
  refine tz_put (I' := (zs I 99 0 0)) 0 hL (by decide) q1593 rfl dX5_where_2 ?_
  refine z_X (X' := (tX g L (tput (tco (zs I 99 0 0) (I 99 28) (I 99 29)) 987 (s_tau I)) J Gb X)) (by show tX g L (zs I 99 0 0) J Gb X = (tX g L (tput (tco (zs I 99 0 0) (I 99 28) (I 99 29)) 987 (s_tau I)) J Gb X); rw [show tput (tco (zs I 99 0 0) (I 99 28) (I 99 29)) 987 (s_tau I) = tco (zs I 99 0 0) (I 99 28) (I 99 29) from tput_tau (I := tco (zs I 99 0 0) (I 99 28) (I 99 29))]; exact congrArg (fun z => tX g L z J Gb X) (tco_self (I := (zs I 99 0 0))).symm) ?_
  refine z_aload_n 0 dX5_where_5 rfl ?_
  refine z_iload_n 1 dX5_where_6 rfl ?_
  refine z_callV (As := [.int d]) (t_isDay (I := (tput (tco (zs I 99 0 0) (I 99 28) (I 99 29)) 987 (s_tau I))) hL h1 d) q1850 q1852 qs89 q121 q1853 nm_X5_isDay (tX_obj hL) rfl rfl rfl (Nat.le_of_ble_eq_true rfl) ⟨Nat.le_of_ble_eq_true rfl, Nat.le_of_ble_eq_true rfl⟩ dX5_where_7 rfl rfl (Nat.le_of_ble_eq_true rfl) (Nat.le_of_ble_eq_true rfl) (fun v_1 X_2 hp_3 => ?_)
  obtain ⟨rfl, rfl⟩ := hp_3
  refine z_st (st' := [.int (zb (decide (0 ≤ d) && decide (d < nI nd)))]) rfl ?_
  refine z_if_eqb 23 dX5_where_10 (by decide) (fun c_4 => ?_) (fun c_4 => ?_)
  · -- decide (0 ≤ d) && decide (d < nI nd) = false
    refine z_bipush (v := zm2) dX5_where_23 (by decide) ?_
    exact z_iret dX5_where_25 rfl (Nat.le_of_ble_eq_true rfl) (Nat.le_of_ble_eq_true rfl) ⟨congrArg some (congrArg Value.int (by simp [c_4])), (tput (tco (zs I 99 0 0) (I 99 28) (I 99 29)) 987 (s_tau I)), Gb, rfl, (tobs_put (tobs_co (tobs_zs tobs_rf rfl)) (by decide)), rfl⟩
  · -- decide (0 ≤ d) && decide (d < nI nd) = true
    refine z_iload_n 2 dX5_where_13 rfl ?_
    refine z_iconst (v := 0) dX5_where_14 (by decide) ?_
    refine z_bipush (v := 60) dX5_where_15 (by decide) ?_
    refine z_callS (As := [.int m, .int 0, .int 60]) (t_within m 0 60) q1771 q1772 q121 q1773 nm_X5_within rfl (Nat.le_of_ble_eq_true rfl) ⟨Nat.le_of_ble_eq_true rfl, Nat.le_of_ble_eq_true rfl⟩ dX5_where_17 rfl rfl (Nat.le_of_ble_eq_true rfl) (Nat.le_of_ble_eq_true rfl) (fun v_5 X_6 hp_7 => ?_)
    obtain ⟨rfl, rfl⟩ := hp_7
    refine z_st (st' := [.int (zb (decide (0 ≤ m) && decide (m ≤ 60)))]) rfl ?_
    refine z_if_neb 26 dX5_where_20 (by decide) (fun c_8 => ?_) (fun c_8 => ?_)
    · -- decide (0 ≤ m) && decide (m ≤ 60) = true
      obtain ⟨dd, hdd, e_d⟩ := zday (by omega) c_4
      obtain ⟨mm, -, hmm, e_m⟩ := zwin 0 60 (by decide) c_8
      refine z_lv (lv' := [(0, .ref (L 99)), (1, .int (nI (dd))), (2, .int (nI (mm)))]) [0, 1, 2] (by rw [e_d, e_m]; rfl) ?_
      refine z_aload_n 0 dX5_where_26 rfl ?_
      refine z_callV (As := []) (t_triesNow (I := (tco (zs I 99 0 0) (I 99 28) (I 99 29))) (τ := (s_tau I)) hL) q1928 q1930 qs100 q121 q1931 nm_X5_triesNow (tX_obj hL) rfl rfl rfl (Nat.le_of_ble_eq_true rfl) ⟨Nat.le_of_ble_eq_true rfl, Nat.le_of_ble_eq_true rfl⟩ dX5_where_27 rfl rfl (Nat.le_of_ble_eq_true rfl) (Nat.le_of_ble_eq_true rfl) (fun v_9 X_10 hp_11 => ?_)
      obtain ⟨rfl, rfl⟩ := hp_11
      refine z_st (st' := []) rfl ?_
      refine z_X (X' := (tX g L (tput (tco (zs I 99 0 0) (I 99 28) (I 99 29)) 987 (I 24)) J Gb X)) (by rfl) ?_
      refine z_iconst (v := 0) dX5_where_30 (by decide) ?_
      refine z_istore_n (lv' := [(3, .int 0), (0, .ref (L 99)), (1, .int (nI (dd))), (2, .int (nI (mm)))]) dX5_where_31 rfl (by decide) rfl ?_
      have loop_16 : ∀ (q_13 i_12 : Nat), i_12 + q_13 = mm → 0 ≤ i_12 → ∀ (Gb_17 : Nat → Nat → Int32), ∀ (c_18 : Int32), ∀ (o_19 : Int32), zZ g m_X5_where (fun rv X' => rv = some (.int (if ((decide (0 ≤ d) && decide (d < nI nd)) && (decide (0 ≤ m) && decide (m ≤ 60))) = true then (s_go wv (I 10) (I 27) nh nd own now (I 24) m.toNatClampNeg).1 (d.toNatClampNeg + 6) else zm2)) ∧ ∃ (I' : Nat → Nat → Int32) (Gb' : Nat → Nat → Int32), X' = tX g L I' J Gb' X ∧ tobs I I' ∧ I' 99 0 = 0, zno, ({ frames := 7, cells := 0, slots := 0, locals := 161 } : Room)) 0 0 (tX g L (tput (tco (zs I 99 0 0) c_18 o_19) 987 ((s_go wv (I 10) (I 27) nh nd own now (I 24) i_12).1)) J Gb_17 X) 32 [(0, .ref (L 99)), (1, .int (nI (dd))), (2, .int (nI (mm))), (3, .int (nI (i_12)))] [] := by
        intro q_13
        induction q_13 with
        | zero =>
          intro i_12 hb_15 lo_20 Gb_17 c_18 o_19 
          obtain rfl : mm = i_12 := by omega
          refine z_iload_n 3 dX5_where_32 rfl ?_
          refine z_iload_n 2 dX5_where_33 rfl ?_
          refine z_icmp_geN (a := mm) (b := mm) 50 (by omega) (by omega) dX5_where_34 (by decide) (fun c_21 => ?_) (fun c_21 => absurd c_21 (by omega))
          refine z_aload_n 0 dX5_where_50 rfl ?_
          refine tz_get (v := .ref (L 24)) 24 hL (by decide) q1617 rfl dX5_where_51 ?_
          refine z_sipush (v := 993) dX5_where_54 (by decide) ?_
          refine z_iload_n 1 dX5_where_57 rfl ?_
          refine z_iaddN (a := 993) (b := dd) dX5_where_58 ?_
          refine z_eq (y := nI (dd + 993)) (congrArg nI (by omega)) ?_
          refine tz_iald (v := ((s_go wv (I 10) (I 27) nh nd own now (I 24) mm).1) (dd + 6)) 24 (987 + (dd + 6)) hL (by decide) (congrArg nI (by omega)) (by show 987 + (dd + 6) < 1081; omega) (tput_at (by omega)) dX5_where_59 ?_
          exact z_iret dX5_where_60 rfl (Nat.le_of_ble_eq_true rfl) (Nat.le_of_ble_eq_true rfl) ⟨congrArg some (congrArg Value.int (by have ca := c_4; have cb := c_8; rw [ca, cb, e_d, e_m, ncl (by omega), ncl (by omega)]; rfl)), (tput (tco (zs I 99 0 0) c_18 o_19) 987 ((s_go wv (I 10) (I 27) nh nd own now (I 24) mm).1)), Gb_17, rfl, (tobs_put (tobs_co (tobs_zs tobs_rf rfl)) (by decide)), rfl⟩
        | succ q_13 ih_14 =>
          intro i_12 hb_15 lo_20 Gb_17 c_18 o_19 
          refine z_iload_n 3 dX5_where_32 rfl ?_
          refine z_iload_n 2 dX5_where_33 rfl ?_
          refine z_icmp_geN (a := i_12) (b := mm) 50 (by omega) (by omega) dX5_where_34 (by decide) (fun c_22 => absurd c_22 (by omega)) (fun c_22 => ?_)
          refine z_aload_n 0 dX5_where_37 rfl ?_
          refine z_sipush (v := 987) dX5_where_38 (by decide) ?_
          refine z_callV (As := [.int 987]) (t_passes_ (I := (zs I 99 0 0)) (hds := rfl) (σ := (s_go wv (I 10) (I 27) nh nd own now (I 24) i_12).1) (c := c_18) (o := o_19) hL hV hlaw 987 (by omega) (s_go_0 hw i_12) (by omega)) q1866 q1868 qs92 q121 q1869 nm_X5_passes (tX_obj hL) rfl rfl rfl (Nat.le_of_ble_eq_true rfl) ⟨Nat.le_of_ble_eq_true rfl, Nat.le_of_ble_eq_true rfl⟩ dX5_where_41 rfl rfl (Nat.le_of_ble_eq_true rfl) (Nat.le_of_ble_eq_true rfl) (fun v_24 X_25 hp_26 => ?_)
          obtain ⟨rfl, Gb_23, rfl⟩ := hp_26
          refine z_st (st' := []) rfl ?_
          refine z_iinc (v := nI (i_12 + 1)) (lv' := [(3, .int (nI (i_12 + 1))), (0, .ref (L 99)), (1, .int (nI (dd))), (2, .int (nI (mm)))]) 3 dX5_where_44 rfl (nI_1 _) (by decide) rfl ?_
          refine z_goto 32 dX5_where_47 (by decide) ?_
          refine z_lv (lv' := [(0, .ref (L 99)), (1, .int (nI (dd))), (2, .int (nI (mm))), (3, .int (nI (i_12 + 1)))]) [1, 2, 3, 0] rfl ?_
          refine z_X (X' := (tX g L (tput (tco (zs I 99 0 0) ((s_pass wv (I 10) (I 27) nh nd own (now + i_12) ((s_go wv (I 10) (I 27) nh nd own now (I 24) i_12).1)).2.1) ((s_pass wv (I 10) (I 27) nh nd own (now + i_12) ((s_go wv (I 10) (I 27) nh nd own now (I 24) i_12).1)).2.2)) 987 ((s_go wv (I 10) (I 27) nh nd own now (I 24) (i_12 + 1)).1)) J Gb_23 X)) (by rfl) ?_
          exact ih_14 (i_12 + 1) (by omega) (by omega) _ _ _ 
      refine z_lv (lv' := [(0, .ref (L 99)), (1, .int (nI (dd))), (2, .int (nI (mm))), (3, .int 0)]) [1, 2, 3, 0] rfl ?_
      refine z_X (X' := (tX g L (tput (tco (zs I 99 0 0) (I 99 28) (I 99 29)) 987 ((s_go wv (I 10) (I 27) nh nd own now (I 24) 0).1)) J Gb X)) (by rfl) ?_
      exact loop_16 (mm - 0) 0 (by omega) (Nat.le_refl _) _ _ _ 
    · -- decide (0 ≤ m) && decide (m ≤ 60) = false
      refine z_bipush (v := zm2) dX5_where_23 (by decide) ?_
      exact z_iret dX5_where_25 rfl (Nat.le_of_ble_eq_true rfl) (Nat.le_of_ble_eq_true rfl) ⟨congrArg some (congrArg Value.int (by simp [c_4, c_8])), (tput (tco (zs I 99 0 0) (I 99 28) (I 99 29)) 987 (s_tau I)), Gb, rfl, (tobs_put (tobs_co (tobs_zs tobs_rf rfl)) (by decide)), rfl⟩
set_option maxHeartbeats 4000000 in
theorem t_next {g : zG} {L : Nat → Nat} {I : Nat → Nat → Int32} {J : Nat → Nat → Int64} {Gb : Nat → Nat → Int32} {X : zX} (hL : tok g L) {nh nd : Nat} {own : Nat → Nat} (hV : s_ok (I 10) nh nd own) {wv : Int32 → Int32 → Int32 → Int32 → Int32} (hlaw : s_law (I 10) (I 11) (I 12) wv) {now : Nat} (hw : I 24 0 = nI now) (hw2 : now < 2 ^ 29) (d : Int32) : zN g m_X5_next ({ frames := 7, cells := 0, slots := 0, locals := 161 } : Room) [.ref (L 99), .int d] (tX g L I J Gb X) (fun rv X' => rv = some (.int (if (decide (0 ≤ d) && decide (d < nI nd)) = true then s_fst (s_hitP (s_go wv (I 10) (I 27) nh nd own now (I 24)) d.toNatClampNeg) nI 60 1 else zm1)) ∧ ∃ (I' : Nat → Nat → Int32) (Gb' : Nat → Nat → Int32), X' = tX g L I' J Gb' X ∧ tobs I I' ∧ I' 99 0 = 0) := by
  refine zN.of (by decide +kernel) (Nat.le_of_ble_eq_true rfl) rfl ?_
  refine z_lv (lv' := [(0, .ref (L 99)), (1, .int d)]) [0, 1] rfl ?_
  have hV9 := hV
  obtain ⟨h0, hnh, h1, hnd, hown⟩ := hV9
  refine z_aload_n 0 dX5_next_0 rfl ?_
  refine z_iconst (v := 0) dX5_next_1 (by decide) ?_
  refine tz_put (I' := (zs I 99 0 0)) 0 hL (by decide) q1593 rfl dX5_next_2 ?_
  refine z_X (X' := (tX g L (tput (tco (zs I 99 0 0) (I 99 28) (I 99 29)) 987 (s_tau I)) J Gb X)) (by show tX g L (zs I 99 0 0) J Gb X = (tX g L (tput (tco (zs I 99 0 0) (I 99 28) (I 99 29)) 987 (s_tau I)) J Gb X); rw [show tput (tco (zs I 99 0 0) (I 99 28) (I 99 29)) 987 (s_tau I) = tco (zs I 99 0 0) (I 99 28) (I 99 29) from tput_tau (I := tco (zs I 99 0 0) (I 99 28) (I 99 29))]; exact congrArg (fun z => tX g L z J Gb X) (tco_self (I := (zs I 99 0 0))).symm) ?_
  refine z_aload_n 0 dX5_next_5 rfl ?_
  refine z_callV (As := []) (t_triesNow (I := (tco (zs I 99 0 0) (I 99 28) (I 99 29))) (τ := (s_tau I)) hL) q1928 q1930 qs100 q121 q1931 nm_X5_triesNow (tX_obj hL) rfl rfl rfl (Nat.le_of_ble_eq_true rfl) ⟨Nat.le_of_ble_eq_true rfl, Nat.le_of_ble_eq_true rfl⟩ dX5_next_6 rfl rfl (Nat.le_of_ble_eq_true rfl) (Nat.le_of_ble_eq_true rfl) (fun v_1 X_2 hp_3 => ?_)
  obtain ⟨rfl, rfl⟩ := hp_3
  refine z_st (st' := []) rfl ?_
  refine z_X (X' := (tX g L (tput (tco (zs I 99 0 0) (I 99 28) (I 99 29)) 987 (I 24)) J Gb X)) (by rfl) ?_
  by_cases hv : (decide (0 ≤ d) && decide (d < nI nd)) = true
  · skip
    obtain ⟨dd, hdd, e_d⟩ := zday (by omega) hv
    refine z_lv (lv' := [(0, .ref (L 99)), (1, .int (nI (dd)))]) [0, 1] (by rw [e_d]; rfl) ?_
    refine z_iconst (v := 1) dX5_next_9 (by decide) ?_
    refine z_istore_n (lv' := [(2, .int 1), (0, .ref (L 99)), (1, .int (nI (dd)))]) dX5_next_10 rfl (by decide) rfl ?_
    have loop_8 : ∀ (q_5 i_4 : Nat), i_4 + q_5 = 60 → 0 ≤ i_4 → ∀ (Gb_9 : Nat → Nat → Int32), ∀ (c_10 : Int32), ∀ (o_11 : Int32), s_fst (s_hitP (s_go wv (I 10) (I 27) nh nd own now (I 24)) dd) (nI) 60 1 = s_fst (s_hitP (s_go wv (I 10) (I 27) nh nd own now (I 24)) dd) (nI) q_5 (i_4 + 1) → zZ g m_X5_next (fun rv X' => rv = some (.int (if (decide (0 ≤ d) && decide (d < nI nd)) = true then s_fst (s_hitP (s_go wv (I 10) (I 27) nh nd own now (I 24)) d.toNatClampNeg) nI 60 1 else zm1)) ∧ ∃ (I' : Nat → Nat → Int32) (Gb' : Nat → Nat → Int32), X' = tX g L I' J Gb' X ∧ tobs I I' ∧ I' 99 0 = 0, zno, ({ frames := 7, cells := 0, slots := 0, locals := 161 } : Room)) 0 0 (tX g L (tput (tco (zs I 99 0 0) c_10 o_11) 987 ((s_go wv (I 10) (I 27) nh nd own now (I 24) i_4).1)) J Gb_9 X) 11 [(0, .ref (L 99)), (1, .int (nI (dd))), (2, .int (nI (i_4 + 1)))] [] := by
      intro q_5
      induction q_5 with
      | zero =>
        intro i_4 hb_7 lo_13 Gb_9 c_10 o_11 hi_12
        obtain rfl : 60 = i_4 := by omega
        refine z_iload_n 2 dX5_next_11 rfl ?_
        refine z_bipush (v := 60) dX5_next_12 (by decide) ?_
        refine z_icmp_gtN (a := 61) (b := 60) 57 (by decide) (by decide) dX5_next_14 (by decide) (fun h_ => ?_) (fun h_ => absurd h_ (by decide))
        refine z_iconst (v := zm1) dX5_next_57 (by decide) ?_
        exact z_iret dX5_next_58 rfl (Nat.le_of_ble_eq_true rfl) (Nat.le_of_ble_eq_true rfl) ⟨congrArg some (congrArg Value.int (by rw [if_pos hv, e_d, ncl (by omega)]; exact hi_12.symm)), (tput (tco (zs I 99 0 0) c_10 o_11) 987 ((s_go wv (I 10) (I 27) nh nd own now (I 24) 60).1)), Gb_9, rfl, (tobs_put (tobs_co (tobs_zs tobs_rf rfl)) (by decide)), rfl⟩
      | succ q_5 ih_6 =>
        intro i_4 hb_7 lo_13 Gb_9 c_10 o_11 hi_12
        refine z_iload_n 2 dX5_next_11 rfl ?_
        refine z_bipush (v := 60) dX5_next_12 (by decide) ?_
        refine z_icmp_gtN (a := i_4 + 1) (b := 60) 57 (by omega) (by omega) dX5_next_14 (by decide) (fun c_14 => absurd c_14 (by omega)) (fun c_14 => ?_)
        refine z_aload_n 0 dX5_next_17 rfl ?_
        refine z_iload_n 1 dX5_next_18 rfl ?_
        refine z_callV (As := [.int (nI (dd))]) (t_isDay (I := (tput (tco (zs I 99 0 0) c_10 o_11) 987 ((s_go wv (I 10) (I 27) nh nd own now (I 24) i_4).1))) hL h1 (nI (dd))) q1850 q1852 qs89 q121 q1853 nm_X5_isDay (tX_obj hL) rfl rfl rfl (Nat.le_of_ble_eq_true rfl) ⟨Nat.le_of_ble_eq_true rfl, Nat.le_of_ble_eq_true rfl⟩ dX5_next_19 rfl rfl (Nat.le_of_ble_eq_true rfl) (Nat.le_of_ble_eq_true rfl) (fun v_15 X_16 hp_17 => ?_)
        obtain ⟨rfl, rfl⟩ := hp_17
        refine z_st (st' := [.int (zb (decide (0 ≤ nI (dd)) && decide (nI (dd) < nI nd)))]) rfl ?_
        refine z_eq (y := 1) (zb_t (zday_t (by omega) (by omega))) ?_
        refine z_if_eq 57 dX5_next_22 (by decide) (fun h_ => absurd h_ (by decide)) (fun h_ => ?_)
        refine z_aload_n 0 dX5_next_25 rfl ?_
        refine z_sipush (v := 987) dX5_next_26 (by decide) ?_
        refine z_callV (As := [.int 987]) (t_passes_ (I := (zs I 99 0 0)) (hds := rfl) (σ := (s_go wv (I 10) (I 27) nh nd own now (I 24) i_4).1) (c := c_10) (o := o_11) hL hV hlaw 987 (by omega) (s_go_0 hw i_4) (by omega)) q1866 q1868 qs92 q121 q1869 nm_X5_passes (tX_obj hL) rfl rfl rfl (Nat.le_of_ble_eq_true rfl) ⟨Nat.le_of_ble_eq_true rfl, Nat.le_of_ble_eq_true rfl⟩ dX5_next_29 rfl rfl (Nat.le_of_ble_eq_true rfl) (Nat.le_of_ble_eq_true rfl) (fun v_19 X_20 hp_21 => ?_)
        obtain ⟨rfl, Gb_18, rfl⟩ := hp_21
        refine z_st (st' := []) rfl ?_
        refine z_aload_n 0 dX5_next_32 rfl ?_
        refine tz_get (v := .int ((s_pass wv (I 10) (I 27) nh nd own (now + i_4) ((s_go wv (I 10) (I 27) nh nd own now (I 24) i_4).1)).2.1)) 28 hL (by decide) q1621 rfl dX5_next_33 ?_
        refine z_aload_n 0 dX5_next_36 rfl ?_
        refine tz_get (v := .int ((s_pass wv (I 10) (I 27) nh nd own (now + i_4) ((s_go wv (I 10) (I 27) nh nd own now (I 24) i_4).1)).2.2)) 29 hL (by decide) q1622 rfl dX5_next_37 ?_
        refine z_ior dX5_next_40 ?_
        refine z_iload_n 1 dX5_next_41 rfl ?_
        refine z_ishr dX5_next_42 ?_
        refine z_iconst (v := 1) dX5_next_43 (by decide) ?_
        refine z_iand dX5_next_44 ?_
        refine z_iconst (v := 1) dX5_next_45 (by decide) ?_
        refine z_icmp_ne 51 dX5_next_46 (by decide) (fun c_22 => ?_) (fun c_22 => ?_)
        · -- ¬ (((((s_pass wv (I 10) (I 27) nh nd own (now + i_4) ((s_go wv (I 10) (I 27) nh nd own now (I 24) i_4).1)).2.1) ||| ((s_pass wv (I 10) (I 27) nh nd own (now + i_4) ((s_go wv (I 10) (I 27) nh nd own now (I 24) i_4).1)).2.2)) >>> ((nI (dd)) &&& 31)) &&& 1) = 1
          refine z_iinc (v := nI (i_4 + 2)) (lv' := [(2, .int (nI (i_4 + 2))), (0, .ref (L 99)), (1, .int (nI (dd)))]) 2 dX5_next_51 rfl (nI_1 _) (by decide) rfl ?_
          refine z_goto 11 dX5_next_54 (by decide) ?_
          refine z_lv (lv' := [(0, .ref (L 99)), (1, .int (nI (dd))), (2, .int (nI (i_4 + 2)))]) [1, 2, 0] rfl ?_
          refine z_X (X' := (tX g L (tput (tco (zs I 99 0 0) ((s_pass wv (I 10) (I 27) nh nd own (now + i_4) ((s_go wv (I 10) (I 27) nh nd own now (I 24) i_4).1)).2.1) ((s_pass wv (I 10) (I 27) nh nd own (now + i_4) ((s_go wv (I 10) (I 27) nh nd own now (I 24) i_4).1)).2.2)) 987 ((s_go wv (I 10) (I 27) nh nd own now (I 24) (i_4 + 1)).1)) J Gb_18 X)) (by rfl) ?_
          exact ih_6 (i_4 + 1) (by omega) (by omega) _ _ _ (hi_12.trans (s_fst_f (decide_eq_false c_22)))
        · -- (((((s_pass wv (I 10) (I 27) nh nd own (now + i_4) ((s_go wv (I 10) (I 27) nh nd own now (I 24) i_4).1)).2.1) ||| ((s_pass wv (I 10) (I 27) nh nd own (now + i_4) ((s_go wv (I 10) (I 27) nh nd own now (I 24) i_4).1)).2.2)) >>> ((nI (dd)) &&& 31)) &&& 1) = 1
          refine z_iload_n 2 dX5_next_49 rfl ?_
          exact z_iret dX5_next_50 rfl (Nat.le_of_ble_eq_true rfl) (Nat.le_of_ble_eq_true rfl) ⟨congrArg some (congrArg Value.int (by rw [if_pos hv, e_d, ncl (by omega)]; exact (hi_12.trans (s_fst_t (decide_eq_true c_22))).symm)), (tput (tco (zs I 99 0 0) ((s_pass wv (I 10) (I 27) nh nd own (now + i_4) ((s_go wv (I 10) (I 27) nh nd own now (I 24) i_4).1)).2.1) ((s_pass wv (I 10) (I 27) nh nd own (now + i_4) ((s_go wv (I 10) (I 27) nh nd own now (I 24) i_4).1)).2.2)) 987 ((s_pass wv (I 10) (I 27) nh nd own (now + i_4) ((s_go wv (I 10) (I 27) nh nd own now (I 24) i_4).1)).1)), Gb_18, rfl, (tobs_put (tobs_co (tobs_zs tobs_rf rfl)) (by decide)), rfl⟩
    refine z_lv (lv' := [(0, .ref (L 99)), (1, .int (nI (dd))), (2, .int 1)]) [1, 2, 0] rfl ?_
    refine z_X (X' := (tX g L (tput (tco (zs I 99 0 0) (I 99 28) (I 99 29)) 987 ((s_go wv (I 10) (I 27) nh nd own now (I 24) 0).1)) J Gb X)) (by rfl) ?_
    exact loop_8 (60 - 0) 0 (by omega) (Nat.le_refl _) _ _ _ rfl
  · have hv := zb_not hv
    refine z_iconst (v := 1) dX5_next_9 (by decide) ?_
    refine z_istore_n (lv' := [(2, .int 1), (0, .ref (L 99)), (1, .int d)]) dX5_next_10 rfl (by decide) rfl ?_
    refine z_iload_n 0 dX5_next_11 rfl ?_
    refine z_bipush (v := 60) dX5_next_12 (by decide) ?_
    refine z_icmp_gtN (a := 1) (b := 60) 57 (by decide) (by decide) dX5_next_14 (by decide) (fun h_ => absurd h_ (by decide)) (fun h_ => ?_)
    refine z_aload_n 1 dX5_next_17 rfl ?_
    refine z_iload_n 2 dX5_next_18 rfl ?_
    refine z_callV (As := [.int d]) (t_isDay (I := (tput (tco (zs I 99 0 0) (I 99 28) (I 99 29)) 987 (I 24))) hL h1 d) q1850 q1852 qs89 q121 q1853 nm_X5_isDay (tX_obj hL) rfl rfl rfl (Nat.le_of_ble_eq_true rfl) ⟨Nat.le_of_ble_eq_true rfl, Nat.le_of_ble_eq_true rfl⟩ dX5_next_19 rfl rfl (Nat.le_of_ble_eq_true rfl) (Nat.le_of_ble_eq_true rfl) (fun v_23 X_24 hp_25 => ?_)
    obtain ⟨rfl, rfl⟩ := hp_25
    refine z_st (st' := [.int (zb (decide (0 ≤ d) && decide (d < nI nd)))]) rfl ?_
    refine z_eq (y := 0) (zb_f hv) ?_
    refine z_if_eq 57 dX5_next_22 (by decide) (fun h_ => ?_) (fun h_ => absurd h_ (by decide))
    refine z_iconst (v := zm1) dX5_next_57 (by decide) ?_
    exact z_iret dX5_next_58 rfl (Nat.le_of_ble_eq_true rfl) (Nat.le_of_ble_eq_true rfl) ⟨congrArg some (congrArg Value.int (by rw [if_neg (by rw [hv]; decide)])), (tput (tco (zs I 99 0 0) (I 99 28) (I 99 29)) 987 (I 24)), Gb, rfl, (tobs_put (tobs_co (tobs_zs tobs_rf rfl)) (by decide)), rfl⟩
set_option maxHeartbeats 4000000 in
theorem t_gone {g : zG} {L : Nat → Nat} {I : Nat → Nat → Int32} {J : Nat → Nat → Int64} {Gb : Nat → Nat → Int32} {X : zX} (hL : tok g L) {nh nd : Nat} {own : Nat → Nat} (hV : s_ok (I 10) nh nd own) {wv : Int32 → Int32 → Int32 → Int32 → Int32} (hlaw : s_law (I 10) (I 11) (I 12) wv) {now : Nat} (hw : I 24 0 = nI now) (hw2 : now < 2 ^ 29) (d : Int32) : zN g m_X5_gone ({ frames := 7, cells := 0, slots := 0, locals := 161 } : Room) [.ref (L 99), .int d] (tX g L I J Gb X) (fun rv X' => rv = some (.int (if (decide (0 ≤ d) && decide (d < nI nd)) = true then s_fst (s_goneP (s_go wv (I 10) (I 27) nh nd own now (I 24)) d.toNatClampNeg) nI 100 0 else zm1)) ∧ ∃ (I' : Nat → Nat → Int32) (Gb' : Nat → Nat → Int32), X' = tX g L I' J Gb' X ∧ tobs I I' ∧ I' 99 0 = 0) := by
  refine zN.of (by decide +kernel) (Nat.le_of_ble_eq_true rfl) rfl ?_
  refine z_lv (lv' := [(0, .ref (L 99)), (1, .int d)]) [0, 1] rfl ?_
  have hV9 := hV
  obtain ⟨h0, hnh, h1, hnd, hown⟩ := hV9
  refine z_aload_n 0 dX5_gone_0 rfl ?_
  refine z_iconst (v := 0) dX5_gone_1 (by decide) ?_
  refine tz_put (I' := (zs I 99 0 0)) 0 hL (by decide) q1593 rfl dX5_gone_2 ?_
  refine z_X (X' := (tX g L (tput (tco (zs I 99 0 0) (I 99 28) (I 99 29)) 987 (s_tau I)) J Gb X)) (by show tX g L (zs I 99 0 0) J Gb X = (tX g L (tput (tco (zs I 99 0 0) (I 99 28) (I 99 29)) 987 (s_tau I)) J Gb X); rw [show tput (tco (zs I 99 0 0) (I 99 28) (I 99 29)) 987 (s_tau I) = tco (zs I 99 0 0) (I 99 28) (I 99 29) from tput_tau (I := tco (zs I 99 0 0) (I 99 28) (I 99 29))]; exact congrArg (fun z => tX g L z J Gb X) (tco_self (I := (zs I 99 0 0))).symm) ?_
  refine z_aload_n 0 dX5_gone_5 rfl ?_
  refine z_callV (As := []) (t_triesNow (I := (tco (zs I 99 0 0) (I 99 28) (I 99 29))) (τ := (s_tau I)) hL) q1928 q1930 qs100 q121 q1931 nm_X5_triesNow (tX_obj hL) rfl rfl rfl (Nat.le_of_ble_eq_true rfl) ⟨Nat.le_of_ble_eq_true rfl, Nat.le_of_ble_eq_true rfl⟩ dX5_gone_6 rfl rfl (Nat.le_of_ble_eq_true rfl) (Nat.le_of_ble_eq_true rfl) (fun v_1 X_2 hp_3 => ?_)
  obtain ⟨rfl, rfl⟩ := hp_3
  refine z_st (st' := []) rfl ?_
  refine z_X (X' := (tX g L (tput (tco (zs I 99 0 0) (I 99 28) (I 99 29)) 987 (I 24)) J Gb X)) (by rfl) ?_
  by_cases hv : (decide (0 ≤ d) && decide (d < nI nd)) = true
  · skip
    obtain ⟨dd, hdd, e_d⟩ := zday (by omega) hv
    refine z_lv (lv' := [(0, .ref (L 99)), (1, .int (nI (dd)))]) [0, 1] (by rw [e_d]; rfl) ?_
    refine z_iconst (v := 0) dX5_gone_9 (by decide) ?_
    refine z_istore_n (lv' := [(2, .int 0), (0, .ref (L 99)), (1, .int (nI (dd)))]) dX5_gone_10 rfl (by decide) rfl ?_
    have loop_8 : ∀ (q_5 i_4 : Nat), i_4 + q_5 = 100 → 0 ≤ i_4 → ∀ (Gb_9 : Nat → Nat → Int32), ∀ (c_10 : Int32), ∀ (o_11 : Int32), s_fst (s_goneP (s_go wv (I 10) (I 27) nh nd own now (I 24)) dd) (nI) 100 0 = s_fst (s_goneP (s_go wv (I 10) (I 27) nh nd own now (I 24)) dd) (nI) q_5 i_4 → zZ g m_X5_gone (fun rv X' => rv = some (.int (if (decide (0 ≤ d) && decide (d < nI nd)) = true then s_fst (s_goneP (s_go wv (I 10) (I 27) nh nd own now (I 24)) d.toNatClampNeg) nI 100 0 else zm1)) ∧ ∃ (I' : Nat → Nat → Int32) (Gb' : Nat → Nat → Int32), X' = tX g L I' J Gb' X ∧ tobs I I' ∧ I' 99 0 = 0, zno, ({ frames := 7, cells := 0, slots := 0, locals := 161 } : Room)) 0 0 (tX g L (tput (tco (zs I 99 0 0) c_10 o_11) 987 ((s_go wv (I 10) (I 27) nh nd own now (I 24) i_4).1)) J Gb_9 X) 11 [(0, .ref (L 99)), (1, .int (nI (dd))), (2, .int (nI (i_4)))] [] := by
      intro q_5
      induction q_5 with
      | zero =>
        intro i_4 hb_7 lo_13 Gb_9 c_10 o_11 hi_12
        obtain rfl : 100 = i_4 := by omega
        refine z_iload_n 2 dX5_gone_11 rfl ?_
        refine z_bipush (v := 99) dX5_gone_12 (by decide) ?_
        refine z_icmp_gtN (a := 100) (b := 99) 53 (by decide) (by decide) dX5_gone_14 (by decide) (fun h_ => ?_) (fun h_ => absurd h_ (by decide))
        refine z_iconst (v := zm1) dX5_gone_53 (by decide) ?_
        exact z_iret dX5_gone_54 rfl (Nat.le_of_ble_eq_true rfl) (Nat.le_of_ble_eq_true rfl) ⟨congrArg some (congrArg Value.int (by rw [if_pos hv, e_d, ncl (by omega)]; exact hi_12.symm)), (tput (tco (zs I 99 0 0) c_10 o_11) 987 ((s_go wv (I 10) (I 27) nh nd own now (I 24) 100).1)), Gb_9, rfl, (tobs_put (tobs_co (tobs_zs tobs_rf rfl)) (by decide)), rfl⟩
      | succ q_5 ih_6 =>
        intro i_4 hb_7 lo_13 Gb_9 c_10 o_11 hi_12
        refine z_iload_n 2 dX5_gone_11 rfl ?_
        refine z_bipush (v := 99) dX5_gone_12 (by decide) ?_
        refine z_icmp_gtN (a := i_4) (b := 99) 53 (by omega) (by omega) dX5_gone_14 (by decide) (fun c_14 => absurd c_14 (by omega)) (fun c_14 => ?_)
        refine z_aload_n 0 dX5_gone_17 rfl ?_
        refine z_iload_n 1 dX5_gone_18 rfl ?_
        refine z_callV (As := [.int (nI (dd))]) (t_isDay (I := (tput (tco (zs I 99 0 0) c_10 o_11) 987 ((s_go wv (I 10) (I 27) nh nd own now (I 24) i_4).1))) hL h1 (nI (dd))) q1850 q1852 qs89 q121 q1853 nm_X5_isDay (tX_obj hL) rfl rfl rfl (Nat.le_of_ble_eq_true rfl) ⟨Nat.le_of_ble_eq_true rfl, Nat.le_of_ble_eq_true rfl⟩ dX5_gone_19 rfl rfl (Nat.le_of_ble_eq_true rfl) (Nat.le_of_ble_eq_true rfl) (fun v_15 X_16 hp_17 => ?_)
        obtain ⟨rfl, rfl⟩ := hp_17
        refine z_st (st' := [.int (zb (decide (0 ≤ nI (dd)) && decide (nI (dd) < nI nd)))]) rfl ?_
        refine z_eq (y := 1) (zb_t (zday_t (by omega) (by omega))) ?_
        refine z_if_eq 53 dX5_gone_22 (by decide) (fun h_ => absurd h_ (by decide)) (fun h_ => ?_)
        refine z_aload_n 0 dX5_gone_25 rfl ?_
        refine tz_get (v := .ref (L 24)) 24 hL (by decide) q1617 rfl dX5_gone_26 ?_
        refine z_sipush (v := 1005) dX5_gone_29 (by decide) ?_
        refine z_iload_n 1 dX5_gone_32 rfl ?_
        refine z_iaddN (a := 1005) (b := dd) dX5_gone_33 ?_
        refine z_eq (y := nI (dd + 1005)) (congrArg nI (by omega)) ?_
        refine tz_iald (v := ((s_go wv (I 10) (I 27) nh nd own now (I 24) i_4).1) (dd + 18)) 24 (987 + (dd + 18)) hL (by decide) (congrArg nI (by omega)) (by show 987 + (dd + 18) < 1081; omega) (tput_at (by omega)) dX5_gone_34 ?_
        refine z_if_ne 40 dX5_gone_35 (by decide) (fun c_18 => ?_) (fun c_18 => ?_)
        · -- ¬ ((s_go wv (I 10) (I 27) nh nd own now (I 24) i_4).1) (dd + 18) = 0
          refine z_aload_n 0 dX5_gone_40 rfl ?_
          refine z_sipush (v := 987) dX5_gone_41 (by decide) ?_
          refine z_callV (As := [.int 987]) (t_passes_ (I := (zs I 99 0 0)) (hds := rfl) (σ := (s_go wv (I 10) (I 27) nh nd own now (I 24) i_4).1) (c := c_10) (o := o_11) hL hV hlaw 987 (by omega) (s_go_0 hw i_4) (by omega)) q1866 q1868 qs92 q121 q1869 nm_X5_passes (tX_obj hL) rfl rfl rfl (Nat.le_of_ble_eq_true rfl) ⟨Nat.le_of_ble_eq_true rfl, Nat.le_of_ble_eq_true rfl⟩ dX5_gone_44 rfl rfl (Nat.le_of_ble_eq_true rfl) (Nat.le_of_ble_eq_true rfl) (fun v_20 X_21 hp_22 => ?_)
          obtain ⟨rfl, Gb_19, rfl⟩ := hp_22
          refine z_st (st' := []) rfl ?_
          refine z_iinc (v := nI (i_4 + 1)) (lv' := [(2, .int (nI (i_4 + 1))), (0, .ref (L 99)), (1, .int (nI (dd)))]) 2 dX5_gone_47 rfl (nI_1 _) (by decide) rfl ?_
          refine z_goto 11 dX5_gone_50 (by decide) ?_
          refine z_lv (lv' := [(0, .ref (L 99)), (1, .int (nI (dd))), (2, .int (nI (i_4 + 1)))]) [1, 2, 0] rfl ?_
          refine z_X (X' := (tX g L (tput (tco (zs I 99 0 0) ((s_pass wv (I 10) (I 27) nh nd own (now + i_4) ((s_go wv (I 10) (I 27) nh nd own now (I 24) i_4).1)).2.1) ((s_pass wv (I 10) (I 27) nh nd own (now + i_4) ((s_go wv (I 10) (I 27) nh nd own now (I 24) i_4).1)).2.2)) 987 ((s_go wv (I 10) (I 27) nh nd own now (I 24) (i_4 + 1)).1)) J Gb_19 X)) (by rfl) ?_
          exact ih_6 (i_4 + 1) (by omega) (by omega) _ _ _ (hi_12.trans (s_fst_f (decide_eq_false c_18)))
        · -- ((s_go wv (I 10) (I 27) nh nd own now (I 24) i_4).1) (dd + 18) = 0
          refine z_iload_n 2 dX5_gone_38 rfl ?_
          exact z_iret dX5_gone_39 rfl (Nat.le_of_ble_eq_true rfl) (Nat.le_of_ble_eq_true rfl) ⟨congrArg some (congrArg Value.int (by rw [if_pos hv, e_d, ncl (by omega)]; exact (hi_12.trans (s_fst_t (decide_eq_true c_18))).symm)), (tput (tco (zs I 99 0 0) c_10 o_11) 987 ((s_go wv (I 10) (I 27) nh nd own now (I 24) i_4).1)), Gb_9, rfl, (tobs_put (tobs_co (tobs_zs tobs_rf rfl)) (by decide)), rfl⟩
    refine z_lv (lv' := [(0, .ref (L 99)), (1, .int (nI (dd))), (2, .int 0)]) [1, 2, 0] rfl ?_
    refine z_X (X' := (tX g L (tput (tco (zs I 99 0 0) (I 99 28) (I 99 29)) 987 ((s_go wv (I 10) (I 27) nh nd own now (I 24) 0).1)) J Gb X)) (by rfl) ?_
    exact loop_8 (100 - 0) 0 (by omega) (Nat.le_refl _) _ _ _ rfl
  · have hv := zb_not hv
    refine z_iconst (v := 0) dX5_gone_9 (by decide) ?_
    refine z_istore_n (lv' := [(2, .int 0), (0, .ref (L 99)), (1, .int d)]) dX5_gone_10 rfl (by decide) rfl ?_
    refine z_iload_n 0 dX5_gone_11 rfl ?_
    refine z_bipush (v := 99) dX5_gone_12 (by decide) ?_
    refine z_icmp_gtN (a := 0) (b := 99) 53 (by decide) (by decide) dX5_gone_14 (by decide) (fun h_ => absurd h_ (by decide)) (fun h_ => ?_)
    refine z_aload_n 1 dX5_gone_17 rfl ?_
    refine z_iload_n 2 dX5_gone_18 rfl ?_
    refine z_callV (As := [.int d]) (t_isDay (I := (tput (tco (zs I 99 0 0) (I 99 28) (I 99 29)) 987 (I 24))) hL h1 d) q1850 q1852 qs89 q121 q1853 nm_X5_isDay (tX_obj hL) rfl rfl rfl (Nat.le_of_ble_eq_true rfl) ⟨Nat.le_of_ble_eq_true rfl, Nat.le_of_ble_eq_true rfl⟩ dX5_gone_19 rfl rfl (Nat.le_of_ble_eq_true rfl) (Nat.le_of_ble_eq_true rfl) (fun v_23 X_24 hp_25 => ?_)
    obtain ⟨rfl, rfl⟩ := hp_25
    refine z_st (st' := [.int (zb (decide (0 ≤ d) && decide (d < nI nd)))]) rfl ?_
    refine z_eq (y := 0) (zb_f hv) ?_
    refine z_if_eq 53 dX5_gone_22 (by decide) (fun h_ => ?_) (fun h_ => absurd h_ (by decide))
    refine z_iconst (v := zm1) dX5_gone_53 (by decide) ?_
    exact z_iret dX5_gone_54 rfl (Nat.le_of_ble_eq_true rfl) (Nat.le_of_ble_eq_true rfl) ⟨congrArg some (congrArg Value.int (by rw [if_neg (by rw [hv]; decide)])), (tput (tco (zs I 99 0 0) (I 99 28) (I 99 29)) 987 (I 24)), Gb, rfl, (tobs_put (tobs_co (tobs_zs tobs_rf rfl)) (by decide)), rfl⟩
