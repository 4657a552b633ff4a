/-! THE MODEL: dates to come, on. Printed by t7.py -/
set_option maxRecDepth 100000
set_option maxHeartbeats 4000000 in
theorem t_meets {g : zG} {L : Nat → Nat} {I : Nat → Nat → Int32} {J : Nat → Nat → Int64} {Gb : Nat → Nat → Int32} {X : zX} (hL : tok g L) {nh nd : Nat} {own : Nat → Nat} (hV : s_ok (I 10) nh nd own) {wv : Int32 → Int32 → Int32 → Int32 → Int32} (hlaw : s_law (I 10) (I 11) (I 12) wv) {now : Nat} (hw : I 24 0 = nI now) (hw2 : now < 2 ^ 29) (d o : Int32) : zN g m_X5_meets ({ frames := 7, cells := 0, slots := 0, locals := 161 } : Room) [.ref (L 99), .int d, .int o] (tX g L I J Gb X) (fun rv X' => rv = some (.int (if (((decide (0 ≤ d) && decide (d < nI nd)) && (decide (0 ≤ o) && decide (o < nI nd))) && decide (¬ d = o)) = true then s_fst (s_meetP (s_go wv (I 10) (I 27) nh nd own now (I 24)) d.toNatClampNeg o.toNatClampNeg) nI 61 0 else zm1)) ∧ ∃ (I' : Nat → Nat → Int32) (Gb' : Nat → Nat → Int32), X' = tX g L I' J Gb' X ∧ tobs I I' ∧ I' 99 0 = 0) := by
  refine zN.of (by decide +kernel) (Nat.le_of_ble_eq_true rfl) rfl ?_
  refine z_lv (lv' := [(0, .ref (L 99)), (1, .int d), (2, .int o)]) [0, 1, 2] rfl ?_
  have hV9 := hV
  obtain ⟨h0, hnh, h1, hnd, hown⟩ := hV9
  refine z_aload_n 0 dX5_meets_0 rfl ?_
  refine z_iconst (v := 0) dX5_meets_1 (by decide) ?_
  refine tz_put (I' := (zs I 99 0 0)) 0 hL (by decide) q1593 rfl dX5_meets_2 ?_
  refine z_X (X' := (tX g L (tput (tco (zs I 99 0 0) (I 99 28) (I 99 29)) 987 (s_tau I)) J Gb X)) (by show tX g L (zs I 99 0 0) J Gb X = (tX g L (tput (tco (zs I 99 0 0) (I 99 28) (I 99 29)) 987 (s_tau I)) J Gb X); rw [show tput (tco (zs I 99 0 0) (I 99 28) (I 99 29)) 987 (s_tau I) = tco (zs I 99 0 0) (I 99 28) (I 99 29) from tput_tau (I := tco (zs I 99 0 0) (I 99 28) (I 99 29))]; exact congrArg (fun z => tX g L z J Gb X) (tco_self (I := (zs I 99 0 0))).symm) ?_
  refine z_aload_n 0 dX5_meets_5 rfl ?_
  refine z_callV (As := []) (t_triesNow (I := (tco (zs I 99 0 0) (I 99 28) (I 99 29))) (τ := (s_tau I)) hL) q1928 q1930 qs100 q121 q1931 nm_X5_triesNow (tX_obj hL) rfl rfl rfl (Nat.le_of_ble_eq_true rfl) ⟨Nat.le_of_ble_eq_true rfl, Nat.le_of_ble_eq_true rfl⟩ dX5_meets_6 rfl rfl (Nat.le_of_ble_eq_true rfl) (Nat.le_of_ble_eq_true rfl) (fun v_1 X_2 hp_3 => ?_)
  obtain ⟨rfl, rfl⟩ := hp_3
  refine z_st (st' := []) rfl ?_
  refine z_X (X' := (tX g L (tput (tco (zs I 99 0 0) (I 99 28) (I 99 29)) 987 (I 24)) J Gb X)) (by rfl) ?_
  by_cases hv : (((decide (0 ≤ d) && decide (d < nI nd)) && (decide (0 ≤ o) && decide (o < nI nd))) && decide (¬ d = o)) = true
  · skip
    obtain ⟨hv12, hv3⟩ := Bool.and_eq_true_iff.mp hv
    obtain ⟨hv1, hv2⟩ := Bool.and_eq_true_iff.mp hv12
    obtain ⟨dd, hdd, e_d⟩ := zday (by omega) hv1
    obtain ⟨oo, hoo, e_o⟩ := zday (by omega) hv2
    have hne : dd ≠ oo := fun h9 => of_decide_eq_true hv3 (by rw [e_d, e_o, h9])
    refine z_lv (lv' := [(0, .ref (L 99)), (1, .int (nI (dd))), (2, .int (nI (oo)))]) [0, 1, 2] (by rw [e_d, e_o]; rfl) ?_
    refine z_iconst (v := 0) dX5_meets_9 (by decide) ?_
    refine z_istore_n (lv' := [(3, .int 0), (0, .ref (L 99)), (1, .int (nI (dd))), (2, .int (nI (oo)))]) dX5_meets_10 rfl (by decide) rfl ?_
    have loop_8 : ∀ (q_5 i_4 : Nat), i_4 + q_5 = 61 → 0 ≤ i_4 → ∀ (Gb_9 : Nat → Nat → Int32), ∀ (c_10 : Int32), ∀ (o_11 : Int32), s_fst (s_meetP (s_go wv (I 10) (I 27) nh nd own now (I 24)) dd oo) (nI) 61 0 = s_fst (s_meetP (s_go wv (I 10) (I 27) nh nd own now (I 24)) dd oo) (nI) q_5 i_4 → zZ g m_X5_meets (fun rv X' => rv = some (.int (if (((decide (0 ≤ d) && decide (d < nI nd)) && (decide (0 ≤ o) && decide (o < nI nd))) && decide (¬ d = o)) = true then s_fst (s_meetP (s_go wv (I 10) (I 27) nh nd own now (I 24)) d.toNatClampNeg o.toNatClampNeg) nI 61 0 else zm1)) ∧ ∃ (I' : Nat → Nat → Int32) (Gb' : Nat → Nat → Int32), X' = tX g L I' J Gb' X ∧ tobs I I' ∧ I' 99 0 = 0, zno, ({ frames := 7, cells := 0, slots := 0, locals := 161 } : Room)) 0 0 (tX g L (tput (tco (zs I 99 0 0) c_10 o_11) 987 ((s_go wv (I 10) (I 27) nh nd own now (I 24) i_4).1)) J Gb_9 X) 11 [(0, .ref (L 99)), (1, .int (nI (dd))), (2, .int (nI (oo))), (3, .int (nI (i_4)))] [] := by
      intro q_5
      induction q_5 with
      | zero =>
        intro i_4 hb_7 lo_13 Gb_9 c_10 o_11 hi_12
        obtain rfl : 61 = i_4 := by omega
        refine z_iload_n 3 dX5_meets_11 rfl ?_
        refine z_bipush (v := 60) dX5_meets_12 (by decide) ?_
        refine z_icmp_gtN (a := 61) (b := 60) 89 (by decide) (by decide) dX5_meets_14 (by decide) (fun h_ => ?_) (fun h_ => absurd h_ (by decide))
        refine z_iconst (v := zm1) dX5_meets_89 (by decide) ?_
        exact z_iret dX5_meets_90 rfl (Nat.le_of_ble_eq_true rfl) (Nat.le_of_ble_eq_true rfl) ⟨congrArg some (congrArg Value.int (by rw [if_pos hv, e_d, ncl (by omega), e_o, ncl (by omega)]; exact hi_12.symm)), (tput (tco (zs I 99 0 0) c_10 o_11) 987 ((s_go wv (I 10) (I 27) nh nd own now (I 24) 61).1)), Gb_9, rfl, (tobs_put (tobs_co (tobs_zs tobs_rf rfl)) (by decide)), rfl⟩
      | succ q_5 ih_6 =>
        intro i_4 hb_7 lo_13 Gb_9 c_10 o_11 hi_12
        refine z_iload_n 3 dX5_meets_11 rfl ?_
        refine z_bipush (v := 60) dX5_meets_12 (by decide) ?_
        refine z_icmp_gtN (a := i_4) (b := 60) 89 (by omega) (by omega) dX5_meets_14 (by decide) (fun c_14 => absurd c_14 (by omega)) (fun c_14 => ?_)
        refine z_aload_n 0 dX5_meets_17 rfl ?_
        refine z_iload_n 1 dX5_meets_18 rfl ?_
        refine z_callV (As := [.int (nI (dd))]) (t_isDay (I := (tput (tco (zs I 99 0 0) c_10 o_11) 987 ((s_go wv (I 10) (I 27) nh nd own now (I 24) i_4).1))) hL h1 (nI (dd))) q1850 q1852 qs89 q121 q1853 nm_X5_isDay (tX_obj hL) rfl rfl rfl (Nat.le_of_ble_eq_true rfl) ⟨Nat.le_of_ble_eq_true rfl, Nat.le_of_ble_eq_true rfl⟩ dX5_meets_19 rfl rfl (Nat.le_of_ble_eq_true rfl) (Nat.le_of_ble_eq_true rfl) (fun v_15 X_16 hp_17 => ?_)
        obtain ⟨rfl, rfl⟩ := hp_17
        refine z_st (st' := [.int (zb (decide (0 ≤ nI (dd)) && decide (nI (dd) < nI nd)))]) rfl ?_
        refine z_eq (y := 1) (zb_t (zday_t (by omega) (by omega))) ?_
        refine z_if_eq 89 dX5_meets_22 (by decide) (fun h_ => absurd h_ (by decide)) (fun h_ => ?_)
        refine z_aload_n 0 dX5_meets_25 rfl ?_
        refine z_iload_n 2 dX5_meets_26 rfl ?_
        refine z_callV (As := [.int (nI (oo))]) (t_isDay (I := (tput (tco (zs I 99 0 0) c_10 o_11) 987 ((s_go wv (I 10) (I 27) nh nd own now (I 24) i_4).1))) hL h1 (nI (oo))) q1850 q1852 qs89 q121 q1853 nm_X5_isDay (tX_obj hL) rfl rfl rfl (Nat.le_of_ble_eq_true rfl) ⟨Nat.le_of_ble_eq_true rfl, Nat.le_of_ble_eq_true rfl⟩ dX5_meets_27 rfl rfl (Nat.le_of_ble_eq_true rfl) (Nat.le_of_ble_eq_true rfl) (fun v_18 X_19 hp_20 => ?_)
        obtain ⟨rfl, rfl⟩ := hp_20
        refine z_st (st' := [.int (zb (decide (0 ≤ nI (oo)) && decide (nI (oo) < nI nd)))]) rfl ?_
        refine z_eq (y := 1) (zb_t (zday_t (by omega) (by omega))) ?_
        refine z_if_eq 89 dX5_meets_30 (by decide) (fun h_ => absurd h_ (by decide)) (fun h_ => ?_)
        refine z_iload_n 1 dX5_meets_33 rfl ?_
        refine z_iload_n 2 dX5_meets_34 rfl ?_
        refine z_icmp_eqN (a := dd) (b := oo) 89 (by omega) (by omega) dX5_meets_35 (by decide) (fun c_21 => absurd c_21 (by omega)) (fun c_21 => ?_)
        refine z_aload_n 0 dX5_meets_38 rfl ?_
        refine tz_get (v := .ref (L 24)) 24 hL (by decide) q1617 rfl dX5_meets_39 ?_
        refine z_sipush (v := 993) dX5_meets_42 (by decide) ?_
        refine z_iload_n 1 dX5_meets_45 rfl ?_
        refine z_iaddN (a := 993) (b := dd) dX5_meets_46 ?_
        refine z_eq (y := nI (dd + 993)) (congrArg nI (by omega)) ?_
        refine tz_iald (v := ((s_go wv (I 10) (I 27) nh nd own now (I 24) i_4).1) (dd + 6)) 24 (987 + (dd + 6)) hL (by decide) (congrArg nI (by omega)) (by show 987 + (dd + 6) < 1081; omega) (tput_at (by omega)) dX5_meets_47 ?_
        refine z_if_lt 76 dX5_meets_48 (by decide) (fun c_22 => ?_) (fun c_22 => ?_)
        · -- ((s_go wv (I 10) (I 27) nh nd own now (I 24) i_4).1) (dd + 6) < 0
          have c_22' := Int32.not_le.mpr c_22
          refine z_aload_n 0 dX5_meets_76 rfl ?_
          refine z_sipush (v := 987) dX5_meets_77 (by decide) ?_
          refine z_callV (As := [.int 987]) (t_passes_ (I := (zs I 99 0 0)) (hds := rfl) (σ := (s_go wv (I 10) (I 27) nh nd own now (I 24) i_4).1) (c := c_10) (o := o_11) hL hV hlaw 987 (by omega) (s_go_0 hw i_4) (by omega)) q1866 q1868 qs92 q121 q1869 nm_X5_passes (tX_obj hL) rfl rfl rfl (Nat.le_of_ble_eq_true rfl) ⟨Nat.le_of_ble_eq_true rfl, Nat.le_of_ble_eq_true rfl⟩ dX5_meets_80 rfl rfl (Nat.le_of_ble_eq_true rfl) (Nat.le_of_ble_eq_true rfl) (fun v_24 X_25 hp_26 => ?_)
          obtain ⟨rfl, Gb_23, rfl⟩ := hp_26
          refine z_st (st' := []) rfl ?_
          refine z_iinc (v := nI (i_4 + 1)) (lv' := [(3, .int (nI (i_4 + 1))), (0, .ref (L 99)), (1, .int (nI (dd))), (2, .int (nI (oo)))]) 3 dX5_meets_83 rfl (nI_1 _) (by decide) rfl ?_
          refine z_goto 11 dX5_meets_86 (by decide) ?_
          refine z_lv (lv' := [(0, .ref (L 99)), (1, .int (nI (dd))), (2, .int (nI (oo))), (3, .int (nI (i_4 + 1)))]) [1, 2, 3, 0] rfl ?_
          refine z_X (X' := (tX g L (tput (tco (zs I 99 0 0) ((s_pass wv (I 10) (I 27) nh nd own (now + i_4) ((s_go wv (I 10) (I 27) nh nd own now (I 24) i_4).1)).2.1) ((s_pass wv (I 10) (I 27) nh nd own (now + i_4) ((s_go wv (I 10) (I 27) nh nd own now (I 24) i_4).1)).2.2)) 987 ((s_go wv (I 10) (I 27) nh nd own now (I 24) (i_4 + 1)).1)) J Gb_23 X)) (by rfl) ?_
          exact ih_6 (i_4 + 1) (by omega) (by omega) _ _ _ (hi_12.trans (s_fst_f (by show (decide _ && _) = false; rw [decide_eq_false c_22']; rfl)))
        · -- ¬ ((s_go wv (I 10) (I 27) nh nd own now (I 24) i_4).1) (dd + 6) < 0
          have c_22' := Int32.not_lt.mp c_22
          refine z_aload_n 0 dX5_meets_51 rfl ?_
          refine tz_get (v := .ref (L 24)) 24 hL (by decide) q1617 rfl dX5_meets_52 ?_
          refine z_sipush (v := 993) dX5_meets_55 (by decide) ?_
          refine z_iload_n 1 dX5_meets_58 rfl ?_
          refine z_iaddN (a := 993) (b := dd) dX5_meets_59 ?_
          refine z_eq (y := nI (dd + 993)) (congrArg nI (by omega)) ?_
          refine tz_iald (v := ((s_go wv (I 10) (I 27) nh nd own now (I 24) i_4).1) (dd + 6)) 24 (987 + (dd + 6)) hL (by decide) (congrArg nI (by omega)) (by show 987 + (dd + 6) < 1081; omega) (tput_at (by omega)) dX5_meets_60 ?_
          refine z_aload_n 0 dX5_meets_61 rfl ?_
          refine tz_get (v := .ref (L 24)) 24 hL (by decide) q1617 rfl dX5_meets_62 ?_
          refine z_sipush (v := 993) dX5_meets_65 (by decide) ?_
          refine z_iload_n 2 dX5_meets_68 rfl ?_
          refine z_iaddN (a := 993) (b := oo) dX5_meets_69 ?_
          refine z_eq (y := nI (oo + 993)) (congrArg nI (by omega)) ?_
          refine tz_iald (v := ((s_go wv (I 10) (I 27) nh nd own now (I 24) i_4).1) (oo + 6)) 24 (987 + (oo + 6)) hL (by decide) (congrArg nI (by omega)) (by show 987 + (oo + 6) < 1081; omega) (tput_at (by omega)) dX5_meets_70 ?_
          refine z_icmp_ne 76 dX5_meets_71 (by decide) (fun c_27 => ?_) (fun c_27 => ?_)
          · -- ¬ ((s_go wv (I 10) (I 27) nh nd own now (I 24) i_4).1) (dd + 6) = ((s_go wv (I 10) (I 27) nh nd own now (I 24) i_4).1) (oo + 6)
            refine z_aload_n 0 dX5_meets_76 rfl ?_
            refine z_sipush (v := 987) dX5_meets_77 (by decide) ?_
            refine z_callV (As := [.int 987]) (t_passes_ (I := (zs I 99 0 0)) (hds := rfl) (σ := (s_go wv (I 10) (I 27) nh nd own now (I 24) i_4).1) (c := c_10) (o := o_11) hL hV hlaw 987 (by omega) (s_go_0 hw i_4) (by omega)) q1866 q1868 qs92 q121 q1869 nm_X5_passes (tX_obj hL) rfl rfl rfl (Nat.le_of_ble_eq_true rfl) ⟨Nat.le_of_ble_eq_true rfl, Nat.le_of_ble_eq_true rfl⟩ dX5_meets_80 rfl rfl (Nat.le_of_ble_eq_true rfl) (Nat.le_of_ble_eq_true rfl) (fun v_29 X_30 hp_31 => ?_)
            obtain ⟨rfl, Gb_28, rfl⟩ := hp_31
            refine z_st (st' := []) rfl ?_
            refine z_iinc (v := nI (i_4 + 1)) (lv' := [(3, .int (nI (i_4 + 1))), (0, .ref (L 99)), (1, .int (nI (dd))), (2, .int (nI (oo)))]) 3 dX5_meets_83 rfl (nI_1 _) (by decide) rfl ?_
            refine z_goto 11 dX5_meets_86 (by decide) ?_
            refine z_lv (lv' := [(0, .ref (L 99)), (1, .int (nI (dd))), (2, .int (nI (oo))), (3, .int (nI (i_4 + 1)))]) [1, 2, 3, 0] rfl ?_
            refine z_X (X' := (tX g L (tput (tco (zs I 99 0 0) ((s_pass wv (I 10) (I 27) nh nd own (now + i_4) ((s_go wv (I 10) (I 27) nh nd own now (I 24) i_4).1)).2.1) ((s_pass wv (I 10) (I 27) nh nd own (now + i_4) ((s_go wv (I 10) (I 27) nh nd own now (I 24) i_4).1)).2.2)) 987 ((s_go wv (I 10) (I 27) nh nd own now (I 24) (i_4 + 1)).1)) J Gb_28 X)) (by rfl) ?_
            exact ih_6 (i_4 + 1) (by omega) (by omega) _ _ _ (hi_12.trans (s_fst_f (by show (_ && decide _) = false; rw [decide_eq_false c_27, Bool.and_false])))
          · -- ((s_go wv (I 10) (I 27) nh nd own now (I 24) i_4).1) (dd + 6) = ((s_go wv (I 10) (I 27) nh nd own now (I 24) i_4).1) (oo + 6)
            refine z_iload_n 3 dX5_meets_74 rfl ?_
            exact z_iret dX5_meets_75 rfl (Nat.le_of_ble_eq_true rfl) (Nat.le_of_ble_eq_true rfl) ⟨congrArg some (congrArg Value.int (by rw [if_pos hv, e_d, ncl (by omega), e_o, ncl (by omega)]; exact (hi_12.trans (s_fst_t (by show (decide _ && decide _) = true; rw [decide_eq_true c_22', decide_eq_true c_27]; rfl))).symm)), (tput (tco (zs I 99 0 0) c_10 o_11) 987 ((s_go wv (I 10) (I 27) nh nd own now (I 24) i_4).1)), Gb_9, rfl, (tobs_put (tobs_co (tobs_zs tobs_rf rfl)) (by decide)), rfl⟩
    refine z_lv (lv' := [(0, .ref (L 99)), (1, .int (nI (dd))), (2, .int (nI (oo))), (3, .int 0)]) [1, 2, 3, 0] rfl ?_
    refine z_X (X' := (tX g L (tput (tco (zs I 99 0 0) (I 99 28) (I 99 29)) 987 ((s_go wv (I 10) (I 27) nh nd own now (I 24) 0).1)) J Gb X)) (by rfl) ?_
    exact loop_8 (61 - 0) 0 (by omega) (Nat.le_refl _) _ _ _ rfl
  · have hv := zb_not hv
    refine z_iconst (v := 0) dX5_meets_9 (by decide) ?_
    refine z_istore_n (lv' := [(3, .int 0), (0, .ref (L 99)), (1, .int d), (2, .int o)]) dX5_meets_10 rfl (by decide) rfl ?_
    refine z_iload_n 0 dX5_meets_11 rfl ?_
    refine z_bipush (v := 60) dX5_meets_12 (by decide) ?_
    refine z_icmp_gtN (a := 0) (b := 60) 89 (by decide) (by decide) dX5_meets_14 (by decide) (fun h_ => absurd h_ (by decide)) (fun h_ => ?_)
    refine z_aload_n 1 dX5_meets_17 rfl ?_
    refine z_iload_n 2 dX5_meets_18 rfl ?_
    refine z_callV (As := [.int d]) (t_isDay (I := (tput (tco (zs I 99 0 0) (I 99 28) (I 99 29)) 987 (I 24))) hL h1 d) q1850 q1852 qs89 q121 q1853 nm_X5_isDay (tX_obj hL) rfl rfl rfl (Nat.le_of_ble_eq_true rfl) ⟨Nat.le_of_ble_eq_true rfl, Nat.le_of_ble_eq_true rfl⟩ dX5_meets_19 rfl rfl (Nat.le_of_ble_eq_true rfl) (Nat.le_of_ble_eq_true rfl) (fun v_32 X_33 hp_34 => ?_)
    obtain ⟨rfl, rfl⟩ := hp_34
    refine z_st (st' := [.int (zb (decide (0 ≤ d) && decide (d < nI nd)))]) rfl ?_
    refine z_if_eqb 89 dX5_meets_22 (by decide) (fun c_35 => ?_) (fun c_35 => ?_)
    · -- decide (0 ≤ d) && decide (d < nI nd) = false
      refine z_iconst (v := zm1) dX5_meets_89 (by decide) ?_
      exact z_iret dX5_meets_90 rfl (Nat.le_of_ble_eq_true rfl) (Nat.le_of_ble_eq_true rfl) ⟨congrArg some (congrArg Value.int (by rw [if_neg (by rw [hv]; decide)])), (tput (tco (zs I 99 0 0) (I 99 28) (I 99 29)) 987 (I 24)), Gb, rfl, (tobs_put (tobs_co (tobs_zs tobs_rf rfl)) (by decide)), rfl⟩
    · -- decide (0 ≤ d) && decide (d < nI nd) = true
      refine z_aload_n 1 dX5_meets_25 rfl ?_
      refine z_iload_n 3 dX5_meets_26 rfl ?_
      refine z_callV (As := [.int o]) (t_isDay (I := (tput (tco (zs I 99 0 0) (I 99 28) (I 99 29)) 987 (I 24))) hL h1 o) q1850 q1852 qs89 q121 q1853 nm_X5_isDay (tX_obj hL) rfl rfl rfl (Nat.le_of_ble_eq_true rfl) ⟨Nat.le_of_ble_eq_true rfl, Nat.le_of_ble_eq_true rfl⟩ dX5_meets_27 rfl rfl (Nat.le_of_ble_eq_true rfl) (Nat.le_of_ble_eq_true rfl) (fun v_36 X_37 hp_38 => ?_)
      obtain ⟨rfl, rfl⟩ := hp_38
      refine z_st (st' := [.int (zb (decide (0 ≤ o) && decide (o < nI nd)))]) rfl ?_
      refine z_if_eqb 89 dX5_meets_30 (by decide) (fun c_39 => ?_) (fun c_39 => ?_)
      · -- decide (0 ≤ o) && decide (o < nI nd) = false
        refine z_iconst (v := zm1) dX5_meets_89 (by decide) ?_
        exact z_iret dX5_meets_90 rfl (Nat.le_of_ble_eq_true rfl) (Nat.le_of_ble_eq_true rfl) ⟨congrArg some (congrArg Value.int (by rw [if_neg (by rw [hv]; decide)])), (tput (tco (zs I 99 0 0) (I 99 28) (I 99 29)) 987 (I 24)), Gb, rfl, (tobs_put (tobs_co (tobs_zs tobs_rf rfl)) (by decide)), rfl⟩
      · -- decide (0 ≤ o) && decide (o < nI nd) = true
        refine z_iload_n 2 dX5_meets_33 rfl ?_
        refine z_iload_n 3 dX5_meets_34 rfl ?_
        refine z_icmp_eq 89 dX5_meets_35 (by decide) (fun c_40 => ?_) (fun c_40 => absurd c_40 (fun h9 => by rw [c_35, c_39] at hv; simp [h9] at hv))
        refine z_iconst (v := zm1) dX5_meets_89 (by decide) ?_
        exact z_iret dX5_meets_90 rfl (Nat.le_of_ble_eq_true rfl) (Nat.le_of_ble_eq_true rfl) ⟨congrArg some (congrArg Value.int (by rw [if_neg (by rw [hv]; decide)])), (tput (tco (zs I 99 0 0) (I 99 28) (I 99 29)) 987 (I 24)), Gb, rfl, (tobs_put (tobs_co (tobs_zs tobs_rf rfl)) (by decide)), rfl⟩
set_option maxHeartbeats 4000000 in
theorem t_crowd {g : zG} {L : Nat → Nat} {I : Nat → Nat → Int32} {J : Nat → Nat → Int64} {Gb : Nat → Nat → Int32} {X : zX} (hL : tok g L) {nh nd : Nat} {own : Nat → Nat} (hV : s_ok (I 10) nh nd own) {wv : Int32 → Int32 → Int32 → Int32 → Int32} (hlaw : s_law (I 10) (I 11) (I 12) wv) {now : Nat} (hw : I 24 0 = nI now) (hw2 : now < 2 ^ 29) : zN g m_X5_crowd ({ frames := 7, cells := 0, slots := 0, locals := 161 } : Room) [.ref (L 99)] (tX g L I J Gb X) (fun rv X' => rv = some (.int ((s_crowd nd (fun n => (s_go wv (I 10) (I 27) nh nd own now (I 24) n).1) 61).1)) ∧ ∃ (I' : Nat → Nat → Int32) (Gb' : Nat → Nat → Int32), X' = tX g L I' J Gb' X ∧ tobs I I' ∧ I' 99 0 = 0) := by
  refine zN.of (by decide +kernel) (Nat.le_of_ble_eq_true rfl) rfl ?_
  refine z_lv (lv' := [(0, .ref (L 99))]) [0] rfl ?_
  have hV9 := hV
  obtain ⟨h0, hnh, h1, hnd, hown⟩ := hV9
  refine z_aload_n 0 dX5_crowd_0 rfl ?_
  refine z_iconst (v := 0) dX5_crowd_1 (by decide) ?_
  refine tz_put (I' := (zs I 99 0 0)) 0 hL (by decide) q1593 rfl dX5_crowd_2 ?_
  refine z_X (X' := (tX g L (tput (tco (zs I 99 0 0) (I 99 28) (I 99 29)) 987 (s_tau I)) J Gb X)) (by show tX g L (zs I 99 0 0) J Gb X = (tX g L (tput (tco (zs I 99 0 0) (I 99 28) (I 99 29)) 987 (s_tau I)) J Gb X); rw [show tput (tco (zs I 99 0 0) (I 99 28) (I 99 29)) 987 (s_tau I) = tco (zs I 99 0 0) (I 99 28) (I 99 29) from tput_tau (I := tco (zs I 99 0 0) (I 99 28) (I 99 29))]; exact congrArg (fun z => tX g L z J Gb X) (tco_self (I := (zs I 99 0 0))).symm) ?_
  refine z_aload_n 0 dX5_crowd_5 rfl ?_
  refine z_callV (As := []) (t_triesNow (I := (tco (zs I 99 0 0) (I 99 28) (I 99 29))) (τ := (s_tau I)) hL) q1928 q1930 qs100 q121 q1931 nm_X5_triesNow (tX_obj hL) rfl rfl rfl (Nat.le_of_ble_eq_true rfl) ⟨Nat.le_of_ble_eq_true rfl, Nat.le_of_ble_eq_true rfl⟩ dX5_crowd_6 rfl rfl (Nat.le_of_ble_eq_true rfl) (Nat.le_of_ble_eq_true rfl) (fun v_1 X_2 hp_3 => ?_)
  obtain ⟨rfl, rfl⟩ := hp_3
  refine z_st (st' := []) rfl ?_
  refine z_X (X' := (tX g L (tput (tco (zs I 99 0 0) (I 99 28) (I 99 29)) 987 (I 24)) J Gb X)) (by rfl) ?_
  refine z_iconst (v := 0) dX5_crowd_9 (by decide) ?_
  refine z_istore_n (lv' := [(1, .int 0), (0, .ref (L 99))]) dX5_crowd_10 rfl (by decide) rfl ?_
  refine z_iconst (v := zm1) dX5_crowd_11 (by decide) ?_
  refine z_istore_n (lv' := [(2, .int zm1), (1, .int 0), (0, .ref (L 99))]) dX5_crowd_12 rfl (by decide) rfl ?_
  refine z_iconst (v := 0) dX5_crowd_13 (by decide) ?_
  refine z_istore_n (lv' := [(3, .int 0), (2, .int zm1), (1, .int 0), (0, .ref (L 99))]) dX5_crowd_14 rfl (by decide) rfl ?_
  have loop_8 : ∀ (q_5 i_4 : Nat), i_4 + q_5 = 61 → 0 ≤ i_4 → ∀ (Gb_9 : Nat → Nat → Int32), ∀ (c_10 : Int32), ∀ (o_11 : Int32), zZ g m_X5_crowd (fun rv X' => rv = some (.int ((s_crowd nd (fun n => (s_go wv (I 10) (I 27) nh nd own now (I 24) n).1) 61).1)) ∧ ∃ (I' : Nat → Nat → Int32) (Gb' : Nat → Nat → Int32), X' = tX g L I' J Gb' X ∧ tobs I I' ∧ I' 99 0 = 0, zno, ({ frames := 7, cells := 0, slots := 0, locals := 161 } : Room)) 0 0 (tX g L (tput (tco (zs I 99 0 0) c_10 o_11) 987 ((s_go wv (I 10) (I 27) nh nd own now (I 24) i_4).1)) J Gb_9 X) 15 [(0, .ref (L 99)), (1, .int ((s_crowd nd (fun n => (s_go wv (I 10) (I 27) nh nd own now (I 24) n).1) i_4).1)), (2, .int ((s_crowd nd (fun n => (s_go wv (I 10) (I 27) nh nd own now (I 24) n).1) i_4).2)), (3, .int (nI (i_4)))] [] := by
    intro q_5
    induction q_5 with
    | zero =>
      intro i_4 hb_7 lo_12 Gb_9 c_10 o_11 
      obtain rfl : 61 = i_4 := by omega
      refine z_iload_n 3 dX5_crowd_15 rfl ?_
      refine z_bipush (v := 60) dX5_crowd_16 (by decide) ?_
      refine z_icmp_gtN (a := 61) (b := 60) 71 (by decide) (by decide) dX5_crowd_18 (by decide) (fun h_ => ?_) (fun h_ => absurd h_ (by decide))
      refine z_iload_n 1 dX5_crowd_71 rfl ?_
      exact z_iret dX5_crowd_72 rfl (Nat.le_of_ble_eq_true rfl) (Nat.le_of_ble_eq_true rfl) ⟨congrArg some (congrArg Value.int (by first | rfl | (simp [hb_7]; done) | (skip; simp [hb_7]))), (tput (tco (zs I 99 0 0) c_10 o_11) 987 ((s_go wv (I 10) (I 27) nh nd own now (I 24) 61).1)), Gb_9, rfl, (tobs_put (tobs_co (tobs_zs tobs_rf rfl)) (by decide)), rfl⟩
    | succ q_5 ih_6 =>
      intro i_4 hb_7 lo_12 Gb_9 c_10 o_11 
      refine z_iload_n 3 dX5_crowd_15 rfl ?_
      refine z_bipush (v := 60) dX5_crowd_16 (by decide) ?_
      refine z_icmp_gtN (a := i_4) (b := 60) 71 (by omega) (by omega) dX5_crowd_18 (by decide) (fun c_13 => absurd c_13 (by omega)) (fun c_13 => ?_)
      refine z_aload_n 0 dX5_crowd_21 rfl ?_
      refine z_sipush (v := 987) dX5_crowd_22 (by decide) ?_
      refine z_callV (As := [.int 987]) (t_somewhere (I := (tco (zs I 99 0 0) c_10 o_11)) (σ := (s_go wv (I 10) (I 27) nh nd own now (I 24) i_4).1) hL h1 hnd 987 (by omega)) q1944 q1946 qs101 q121 q1947 nm_X5_somewhere (tX_obj hL) rfl rfl rfl (Nat.le_of_ble_eq_true rfl) ⟨Nat.le_of_ble_eq_true rfl, Nat.le_of_ble_eq_true rfl⟩ dX5_crowd_25 rfl rfl (Nat.le_of_ble_eq_true rfl) (Nat.le_of_ble_eq_true rfl) (fun v_14 X_15 hp_16 => ?_)
      obtain ⟨rfl, rfl⟩ := hp_16
      refine z_st (st' := [.int (s_some ((s_go wv (I 10) (I 27) nh nd own now (I 24) i_4).1) nd)]) rfl ?_
      refine z_callS (As := [.int (s_some ((s_go wv (I 10) (I 27) nh nd own now (I 24) i_4).1) nd)]) (t_bits (s_some ((s_go wv (I 10) (I 27) nh nd own now (I 24) i_4).1) nd)) q1890 q1891 q121 q1892 nm_X5_bits rfl (Nat.le_of_ble_eq_true rfl) ⟨Nat.le_of_ble_eq_true rfl, Nat.le_of_ble_eq_true rfl⟩ dX5_crowd_28 rfl rfl (Nat.le_of_ble_eq_true rfl) (Nat.le_of_ble_eq_true rfl) (fun v_17 X_18 hp_19 => ?_)
      obtain ⟨rfl, rfl⟩ := hp_19
      refine z_st (st' := [.int (s_bits (s_some ((s_go wv (I 10) (I 27) nh nd own now (I 24) i_4).1) nd) 30)]) rfl ?_
      refine z_istore (lv' := [(4, .int (s_bits (s_some ((s_go wv (I 10) (I 27) nh nd own now (I 24) i_4).1) nd) 30)), (0, .ref (L 99)), (1, .int ((s_crowd nd (fun n => (s_go wv (I 10) (I 27) nh nd own now (I 24) n).1) i_4).1)), (2, .int ((s_crowd nd (fun n => (s_go wv (I 10) (I 27) nh nd own now (I 24) n).1) i_4).2)), (3, .int (nI (i_4)))]) dX5_crowd_31 (by decide) rfl ?_
      refine z_iload 0 dX5_crowd_33 rfl ?_
      refine z_iload_n 3 dX5_crowd_35 rfl ?_
      refine z_icmp_le 43 dX5_crowd_36 (by decide) (fun c_20 => ?_) (fun c_20 => ?_)
      · -- s_bits (s_some ((s_go wv (I 10) (I 27) nh nd own now (I 24) i_4).1) nd) 30 ≤ (s_crowd nd (fun n => (s_go wv (I 10) (I 27) nh nd own now (I 24) n).1) i_4).2
        have c_20' := Int32.not_lt.mpr c_20
        refine z_iload_n 2 dX5_crowd_43 rfl ?_
        refine z_istore_n (lv' := [(1, .int ((s_crowd nd (fun n => (s_go wv (I 10) (I 27) nh nd own now (I 24) n).1) i_4).1)), (4, .int (s_bits (s_some ((s_go wv (I 10) (I 27) nh nd own now (I 24) i_4).1) nd) 30)), (0, .ref (L 99)), (2, .int ((s_crowd nd (fun n => (s_go wv (I 10) (I 27) nh nd own now (I 24) n).1) i_4).2)), (3, .int (nI (i_4)))]) dX5_crowd_44 rfl (by decide) rfl ?_
        refine z_iload 1 dX5_crowd_45 rfl ?_
        refine z_iload_n 3 dX5_crowd_47 rfl ?_
        refine z_icmp_le 56 dX5_crowd_48 (by decide) (fun _ => ?_) (fun c_ => absurd c_20 c_)
        refine z_iload_n 3 dX5_crowd_56 rfl ?_
        refine z_istore_n (lv' := [(2, .int ((s_crowd nd (fun n => (s_go wv (I 10) (I 27) nh nd own now (I 24) n).1) i_4).2)), (1, .int ((s_crowd nd (fun n => (s_go wv (I 10) (I 27) nh nd own now (I 24) n).1) i_4).1)), (4, .int (s_bits (s_some ((s_go wv (I 10) (I 27) nh nd own now (I 24) i_4).1) nd) 30)), (0, .ref (L 99)), (3, .int (nI (i_4)))]) dX5_crowd_57 rfl (by decide) rfl ?_
        refine z_aload_n 3 dX5_crowd_58 rfl ?_
        refine z_sipush (v := 987) dX5_crowd_59 (by decide) ?_
        refine z_callV (As := [.int 987]) (t_passes_ (I := (zs I 99 0 0)) (hds := rfl) (σ := (s_go wv (I 10) (I 27) nh nd own now (I 24) i_4).1) (c := c_10) (o := o_11) hL hV hlaw 987 (by omega) (s_go_0 hw i_4) (by omega)) q1866 q1868 qs92 q121 q1869 nm_X5_passes (tX_obj hL) rfl rfl rfl (Nat.le_of_ble_eq_true rfl) ⟨Nat.le_of_ble_eq_true rfl, Nat.le_of_ble_eq_true rfl⟩ dX5_crowd_62 rfl rfl (Nat.le_of_ble_eq_true rfl) (Nat.le_of_ble_eq_true rfl) (fun v_22 X_23 hp_24 => ?_)
        obtain ⟨rfl, Gb_21, rfl⟩ := hp_24
        refine z_st (st' := []) rfl ?_
        refine z_iinc (v := nI (i_4 + 1)) (lv' := [(3, .int (nI (i_4 + 1))), (2, .int ((s_crowd nd (fun n => (s_go wv (I 10) (I 27) nh nd own now (I 24) n).1) i_4).2)), (1, .int ((s_crowd nd (fun n => (s_go wv (I 10) (I 27) nh nd own now (I 24) n).1) i_4).1)), (4, .int (s_bits (s_some ((s_go wv (I 10) (I 27) nh nd own now (I 24) i_4).1) nd) 30)), (0, .ref (L 99))]) 4 dX5_crowd_65 rfl (nI_1 _) (by decide) rfl ?_
        refine z_goto 15 dX5_crowd_68 (by decide) ?_
        have f_25 : (s_crowd nd (fun n => (s_go wv (I 10) (I 27) nh nd own now (I 24) n).1) i_4).1 = (s_crowd nd (fun n => (s_go wv (I 10) (I 27) nh nd own now (I 24) n).1) (i_4 + 1)).1 := by simp [s_crowd, hb_7, c_13, c_20, c_20']
        have f_26 : (s_crowd nd (fun n => (s_go wv (I 10) (I 27) nh nd own now (I 24) n).1) i_4).2 = (s_crowd nd (fun n => (s_go wv (I 10) (I 27) nh nd own now (I 24) n).1) (i_4 + 1)).2 := by simp [s_crowd, hb_7, c_13, c_20, c_20']
        refine z_lv (lv' := [(0, .ref (L 99)), (1, .int ((s_crowd nd (fun n => (s_go wv (I 10) (I 27) nh nd own now (I 24) n).1) (i_4 + 1)).1)), (2, .int ((s_crowd nd (fun n => (s_go wv (I 10) (I 27) nh nd own now (I 24) n).1) (i_4 + 1)).2)), (3, .int (nI (i_4 + 1)))]) [4, 2, 1, 0] (by rw [← f_25, ← f_26]; rfl) ?_
        refine z_X (X' := (tX g L (tput (tco (zs I 99 0 0) ((s_pass wv (I 10) (I 27) nh nd own (now + i_4) ((s_go wv (I 10) (I 27) nh nd own now (I 24) i_4).1)).2.1) ((s_pass wv (I 10) (I 27) nh nd own (now + i_4) ((s_go wv (I 10) (I 27) nh nd own now (I 24) i_4).1)).2.2)) 987 ((s_go wv (I 10) (I 27) nh nd own now (I 24) (i_4 + 1)).1)) J Gb_21 X)) (by rfl) ?_
        exact ih_6 (i_4 + 1) (by omega) (by omega) _ _ _ 
      · -- ¬ s_bits (s_some ((s_go wv (I 10) (I 27) nh nd own now (I 24) i_4).1) nd) 30 ≤ (s_crowd nd (fun n => (s_go wv (I 10) (I 27) nh nd own now (I 24) n).1) i_4).2
        have c_20' := Int32.not_le.mp c_20
        refine z_iload_n 4 dX5_crowd_39 rfl ?_
        refine z_goto 44 dX5_crowd_40 (by decide) ?_
        refine z_istore_n (lv' := [(1, .int (nI (i_4))), (4, .int (s_bits (s_some ((s_go wv (I 10) (I 27) nh nd own now (I 24) i_4).1) nd) 30)), (0, .ref (L 99)), (2, .int ((s_crowd nd (fun n => (s_go wv (I 10) (I 27) nh nd own now (I 24) n).1) i_4).2)), (3, .int (nI (i_4)))]) dX5_crowd_44 rfl (by decide) rfl ?_
        refine z_iload 1 dX5_crowd_45 rfl ?_
        refine z_iload_n 3 dX5_crowd_47 rfl ?_
        refine z_icmp_le 56 dX5_crowd_48 (by decide) (fun c_ => absurd c_ c_20) (fun _ => ?_)
        refine z_iload 1 dX5_crowd_51 rfl ?_
        refine z_goto 57 dX5_crowd_53 (by decide) ?_
        refine z_istore_n (lv' := [(2, .int (s_bits (s_some ((s_go wv (I 10) (I 27) nh nd own now (I 24) i_4).1) nd) 30)), (1, .int (nI (i_4))), (4, .int (s_bits (s_some ((s_go wv (I 10) (I 27) nh nd own now (I 24) i_4).1) nd) 30)), (0, .ref (L 99)), (3, .int (nI (i_4)))]) dX5_crowd_57 rfl (by decide) rfl ?_
        refine z_aload_n 3 dX5_crowd_58 rfl ?_
        refine z_sipush (v := 987) dX5_crowd_59 (by decide) ?_
        refine z_callV (As := [.int 987]) (t_passes_ (I := (zs I 99 0 0)) (hds := rfl) (σ := (s_go wv (I 10) (I 27) nh nd own now (I 24) i_4).1) (c := c_10) (o := o_11) hL hV hlaw 987 (by omega) (s_go_0 hw i_4) (by omega)) q1866 q1868 qs92 q121 q1869 nm_X5_passes (tX_obj hL) rfl rfl rfl (Nat.le_of_ble_eq_true rfl) ⟨Nat.le_of_ble_eq_true rfl, Nat.le_of_ble_eq_true rfl⟩ dX5_crowd_62 rfl rfl (Nat.le_of_ble_eq_true rfl) (Nat.le_of_ble_eq_true rfl) (fun v_28 X_29 hp_30 => ?_)
        obtain ⟨rfl, Gb_27, rfl⟩ := hp_30
        refine z_st (st' := []) rfl ?_
        refine z_iinc (v := nI (i_4 + 1)) (lv' := [(3, .int (nI (i_4 + 1))), (2, .int (s_bits (s_some ((s_go wv (I 10) (I 27) nh nd own now (I 24) i_4).1) nd) 30)), (1, .int (nI (i_4))), (4, .int (s_bits (s_some ((s_go wv (I 10) (I 27) nh nd own now (I 24) i_4).1) nd) 30)), (0, .ref (L 99))]) 4 dX5_crowd_65 rfl (nI_1 _) (by decide) rfl ?_
        refine z_goto 15 dX5_crowd_68 (by decide) ?_
        have f_31 : nI (i_4) = (s_crowd nd (fun n => (s_go wv (I 10) (I 27) nh nd own now (I 24) n).1) (i_4 + 1)).1 := by simp [s_crowd, hb_7, c_13, c_20, c_20']
        have f_32 : s_bits (s_some ((s_go wv (I 10) (I 27) nh nd own now (I 24) i_4).1) nd) 30 = (s_crowd nd (fun n => (s_go wv (I 10) (I 27) nh nd own now (I 24) n).1) (i_4 + 1)).2 := by simp [s_crowd, hb_7, c_13, c_20, c_20']
        refine z_lv (lv' := [(0, .ref (L 99)), (1, .int ((s_crowd nd (fun n => (s_go wv (I 10) (I 27) nh nd own now (I 24) n).1) (i_4 + 1)).1)), (2, .int ((s_crowd nd (fun n => (s_go wv (I 10) (I 27) nh nd own now (I 24) n).1) (i_4 + 1)).2)), (3, .int (nI (i_4 + 1)))]) [4, 2, 1, 0] (by rw [← f_31, ← f_32]; rfl) ?_
        refine z_X (X' := (tX g L (tput (tco (zs I 99 0 0) ((s_pass wv (I 10) (I 27) nh nd own (now + i_4) ((s_go wv (I 10) (I 27) nh nd own now (I 24) i_4).1)).2.1) ((s_pass wv (I 10) (I 27) nh nd own (now + i_4) ((s_go wv (I 10) (I 27) nh nd own now (I 24) i_4).1)).2.2)) 987 ((s_go wv (I 10) (I 27) nh nd own now (I 24) (i_4 + 1)).1)) J Gb_27 X)) (by rfl) ?_
        exact ih_6 (i_4 + 1) (by omega) (by omega) _ _ _ 
  have f_33 : 0 = (s_crowd nd (fun n => (s_go wv (I 10) (I 27) nh nd own now (I 24) n).1) 0).1 := by rfl
  have f_34 : zm1 = (s_crowd nd (fun n => (s_go wv (I 10) (I 27) nh nd own now (I 24) n).1) 0).2 := by rfl
  refine z_lv (lv' := [(0, .ref (L 99)), (1, .int ((s_crowd nd (fun n => (s_go wv (I 10) (I 27) nh nd own now (I 24) n).1) 0).1)), (2, .int ((s_crowd nd (fun n => (s_go wv (I 10) (I 27) nh nd own now (I 24) n).1) 0).2)), (3, .int 0)]) [3, 2, 1, 0] (by rw [← f_33, ← f_34]; rfl) ?_
  refine z_X (X' := (tX g L (tput (tco (zs I 99 0 0) (I 99 28) (I 99 29)) 987 ((s_go wv (I 10) (I 27) nh nd own now (I 24) 0).1)) J Gb X)) (by rfl) ?_
  exact loop_8 (61 - 0) 0 (by omega) (Nat.le_refl _) _ _ _ 
set_option maxHeartbeats 4000000 in
theorem t_isCalm {g : zG} {L : Nat → Nat} {I : Nat → Nat → Int32} {J : Nat → Nat → Int64} {Gb : Nat → Nat → Int32} {X : zX} (hL : tok g L) {τ : Nat → Int32} {c o : Int32} {nh nd : Nat} {own : Nat → Nat} (hV : s_ok (I 10) nh nd own) {wv : Int32 → Int32 → Int32 → Int32 → Int32} (hlaw : s_law (I 10) (I 11) (I 12) wv) (m : Nat) (hm : m < 1000) {now : Nat} (hw : τ 0 = nI now) (hw2 : now < 2 ^ 29) : zN g m_X5_isCalm ({ frames := 7, cells := 0, slots := 0, locals := 161 } : Room) [.ref (L 99), .int (nI (m))] (tX g L (tput (tco I c o) 987 τ) J Gb X) (fun rv X' => rv = some (.int (zb (decide ((s_go wv (I 10) (I 27) nh nd own now τ m).1 1 = τ 1)))) ∧ ∃ (c' o' : Int32) (Gb' : Nat → Nat → Int32), X' = (tX g L (tput (tco I c' o') 987 ((s_go wv (I 10) (I 27) nh nd own now τ m).1)) J Gb' X)) := by
  refine zN.of (by decide +kernel) (Nat.le_of_ble_eq_true rfl) rfl ?_
  refine z_lv (lv' := [(0, .ref (L 99)), (1, .int (nI (m)))]) [0, 1] rfl ?_
  have hV9 := hV
  obtain ⟨h0, hnh, h1, hnd, hown⟩ := hV9
  refine z_aload_n 0 dX5_isCalm_0 rfl ?_
  refine tz_get (v := .ref (L 24)) 24 hL (by decide) q1617 rfl dX5_isCalm_1 ?_
  refine z_sipush (v := 988) dX5_isCalm_4 (by decide) ?_
  refine tz_iald (v := τ 1) 24 (987 + 1) hL (by decide) (by decide) (by show 987 + 1 < 1081; omega) (tput_at (by omega)) dX5_isCalm_7 ?_
  refine z_istore_n (lv' := [(2, .int (τ 1)), (0, .ref (L 99)), (1, .int (nI (m)))]) dX5_isCalm_8 rfl (by decide) rfl ?_
  refine z_iconst (v := 0) dX5_isCalm_9 (by decide) ?_
  refine z_istore_n (lv' := [(3, .int 0), (2, .int (τ 1)), (0, .ref (L 99)), (1, .int (nI (m)))]) dX5_isCalm_10 rfl (by decide) rfl ?_
  have loop_5 : ∀ (q_2 i_1 : Nat), i_1 + q_2 = m → 0 ≤ i_1 → ∀ (Gb_6 : Nat → Nat → Int32), ∀ (c_7 : Int32), ∀ (o_8 : Int32), zZ g m_X5_isCalm (fun rv X' => rv = some (.int (zb (decide ((s_go wv (I 10) (I 27) nh nd own now τ m).1 1 = τ 1)))) ∧ ∃ (c' o' : Int32) (Gb' : Nat → Nat → Int32), X' = (tX g L (tput (tco I c' o') 987 ((s_go wv (I 10) (I 27) nh nd own now τ m).1)) J Gb' X), zno, ({ frames := 7, cells := 0, slots := 0, locals := 161 } : Room)) 0 0 (tX g L (tput (tco I c_7 o_8) 987 ((s_go wv (I 10) (I 27) nh nd own now τ i_1).1)) J Gb_6 X) 11 [(0, .ref (L 99)), (1, .int (nI (m))), (2, .int (τ 1)), (3, .int (nI (i_1)))] [] := by
    intro q_2
    induction q_2 with
    | zero =>
      intro i_1 hb_4 lo_9 Gb_6 c_7 o_8 
      obtain rfl : m = i_1 := by omega
      refine z_iload_n 3 dX5_isCalm_11 rfl ?_
      refine z_iload_n 1 dX5_isCalm_12 rfl ?_
      refine z_icmp_geN (a := m) (b := m) 29 (by omega) (by omega) dX5_isCalm_13 (by decide) (fun c_10 => ?_) (fun c_10 => absurd c_10 (by omega))
      refine z_aload_n 0 dX5_isCalm_29 rfl ?_
      refine tz_get (v := .ref (L 24)) 24 hL (by decide) q1617 rfl dX5_isCalm_30 ?_
      refine z_sipush (v := 988) dX5_isCalm_33 (by decide) ?_
      refine tz_iald (v := ((s_go wv (I 10) (I 27) nh nd own now τ m).1) 1) 24 (987 + 1) hL (by decide) (by decide) (by show 987 + 1 < 1081; omega) (tput_at (by omega)) dX5_isCalm_36 ?_
      refine z_iload_n 2 dX5_isCalm_37 rfl ?_
      refine z_icmp_ne 45 dX5_isCalm_38 (by decide) (fun c_11 => ?_) (fun c_11 => ?_)
      · -- ¬ ((s_go wv (I 10) (I 27) nh nd own now τ m).1) 1 = τ 1
        refine z_iconst (v := 0) dX5_isCalm_45 (by decide) ?_
        exact z_zret dX5_isCalm_46 rfl (by first | rfl | decide | exact zb_nar _) (Nat.le_of_ble_eq_true rfl) (Nat.le_of_ble_eq_true rfl) ⟨congrArg some (congrArg Value.int (by simp [zb, hb_4, c_10, c_11])), c_7, o_8, Gb_6, rfl⟩
      · -- ((s_go wv (I 10) (I 27) nh nd own now τ m).1) 1 = τ 1
        refine z_iconst (v := 1) dX5_isCalm_41 (by decide) ?_
        refine z_goto 46 dX5_isCalm_42 (by decide) ?_
        exact z_zret dX5_isCalm_46 rfl (by first | rfl | decide | exact zb_nar _) (Nat.le_of_ble_eq_true rfl) (Nat.le_of_ble_eq_true rfl) ⟨congrArg some (congrArg Value.int (by simp [zb, hb_4, c_10, c_11])), c_7, o_8, Gb_6, rfl⟩
    | succ q_2 ih_3 =>
      intro i_1 hb_4 lo_9 Gb_6 c_7 o_8 
      refine z_iload_n 3 dX5_isCalm_11 rfl ?_
      refine z_iload_n 1 dX5_isCalm_12 rfl ?_
      refine z_icmp_geN (a := i_1) (b := m) 29 (by omega) (by omega) dX5_isCalm_13 (by decide) (fun c_12 => absurd c_12 (by omega)) (fun c_12 => ?_)
      refine z_aload_n 0 dX5_isCalm_16 rfl ?_
      refine z_sipush (v := 987) dX5_isCalm_17 (by decide) ?_
      refine z_callV (As := [.int 987]) (t_passes_ (I := I) (hds := rfl) (σ := (s_go wv (I 10) (I 27) nh nd own now τ i_1).1) (c := c_7) (o := o_8) hL hV hlaw 987 (by omega) (s_go_0 hw i_1) (by omega)) q1866 q1868 qs92 q121 q1869 nm_X5_passes (tX_obj hL) rfl rfl rfl (Nat.le_of_ble_eq_true rfl) ⟨Nat.le_of_ble_eq_true rfl, Nat.le_of_ble_eq_true rfl⟩ dX5_isCalm_20 rfl rfl (Nat.le_of_ble_eq_true rfl) (Nat.le_of_ble_eq_true rfl) (fun v_14 X_15 hp_16 => ?_)
      obtain ⟨rfl, Gb_13, rfl⟩ := hp_16
      refine z_st (st' := []) rfl ?_
      refine z_iinc (v := nI (i_1 + 1)) (lv' := [(3, .int (nI (i_1 + 1))), (0, .ref (L 99)), (1, .int (nI (m))), (2, .int (τ 1))]) 3 dX5_isCalm_23 rfl (nI_1 _) (by decide) rfl ?_
      refine z_goto 11 dX5_isCalm_26 (by decide) ?_
      refine z_lv (lv' := [(0, .ref (L 99)), (1, .int (nI (m))), (2, .int (τ 1)), (3, .int (nI (i_1 + 1)))]) [1, 2, 3, 0] rfl ?_
      refine z_X (X' := (tX g L (tput (tco I ((s_pass wv (I 10) (I 27) nh nd own (now + i_1) ((s_go wv (I 10) (I 27) nh nd own now τ i_1).1)).2.1) ((s_pass wv (I 10) (I 27) nh nd own (now + i_1) ((s_go wv (I 10) (I 27) nh nd own now τ i_1).1)).2.2)) 987 ((s_go wv (I 10) (I 27) nh nd own now τ (i_1 + 1)).1)) J Gb_13 X)) (by rfl) ?_
      exact ih_3 (i_1 + 1) (by omega) (by omega) _ _ _ 
  refine z_lv (lv' := [(0, .ref (L 99)), (1, .int (nI (m))), (2, .int (τ 1)), (3, .int 0)]) [2, 3, 1, 0] rfl ?_
  refine z_X (X' := (tX g L (tput (tco I c o) 987 ((s_go wv (I 10) (I 27) nh nd own now τ 0).1)) J Gb X)) (by rfl) ?_
  exact loop_5 (m - 0) 0 (by omega) (Nat.le_refl _) _ _ _ 
