/-! THE MODEL: which one it is. Printed by t16.py -/
set_option maxRecDepth 100000
set_option maxHeartbeats 4000000 in
theorem t_whoNow {g : zG} {L : Nat → Nat} {I : Nat → Nat → Int32} {J : Nat → Nat → Int64} {Gb : Nat → Nat → Int32} {X : zX} (hL : tok g L) {τ : Nat → Int32} {c o : Int32} {nh nd : Nat} {own : Nat → Nat} (hV : s_ok (I 10) nh nd own) {wv : Int32 → Int32 → Int32 → Int32 → Int32} (hlaw : s_law (I 10) (I 11) (I 12) wv) {sm : Nat} (hsm : I 24 30 = nI sm) (hsm2 : sm ≤ 8) {now : Nat} (hw : I 24 0 = nI now) (hw2 : now < 2 ^ 29) : zN g m_X5_whoNow ({ frames := 7, cells := 0, slots := 0, locals := 161 } : Room) [.ref (L 99)] (tX g L (tput (tco I c o) 987 τ) J Gb X) (fun rv X' => rv = some (.int (s_who (fun k => I 24 (2 * k + 31)) (fun k => I 24 (2 * k + 32)) nd sm (fun n => (s_go wv (I 10) (I 27) nh nd own now (I 24) n).1))) ∧ ∃ (c' o' : Int32) (τ' : Nat → Int32) (Gb' : Nat → Nat → Int32), X' = (tX g L (tput (tco I c' o') 987 τ') J Gb' X)) := by
  refine zN.of (by decide +kernel) (Nat.le_of_ble_eq_true rfl) rfl ?_
  refine z_lv (lv' := [(0, .ref (L 99))]) [0] rfl ?_
  have hV9 := hV
  obtain ⟨h0, hnh, h1, hnd, hown⟩ := hV9
  refine z_iconst (v := 1) dX5_whoNow_0 (by decide) ?_
  refine z_aload_n 0 dX5_whoNow_1 rfl ?_
  refine z_callV (As := []) (t_days (I := (tput (tco I c o) 987 τ)) hL h1) q1573 q1575 qs53 q121 q1576 nm_X5_days (tX_obj hL) rfl rfl rfl (Nat.le_of_ble_eq_true rfl) ⟨Nat.le_of_ble_eq_true rfl, Nat.le_of_ble_eq_true rfl⟩ dX5_whoNow_2 rfl rfl (Nat.le_of_ble_eq_true rfl) (Nat.le_of_ble_eq_true rfl) (fun v_1 X_2 hp_3 => ?_)
  obtain ⟨rfl, rfl⟩ := hp_3
  refine z_st (st' := [.int (nI (nd)), .int 1]) rfl ?_
  refine z_ishl dX5_whoNow_5 ?_
  refine z_iconst (v := 1) dX5_whoNow_6 (by decide) ?_
  refine z_isub dX5_whoNow_7 ?_
  obtain ⟨x_4, ex_4⟩ : ∃ y : Int32, ((1 <<< ((nI (nd)) &&& 31)) - 1) = y := ⟨_, rfl⟩
  refine z_eq ex_4 ?_
  refine z_istore_n (lv' := [(1, .int x_4), (0, .ref (L 99))]) dX5_whoNow_8 rfl (by decide) rfl ?_
  refine z_aload_n 1 dX5_whoNow_9 rfl ?_
  refine z_callV (As := []) (t_triesNow (I := (tco I c o)) (τ := τ) hL) q1928 q1930 qs100 q121 q1931 nm_X5_triesNow (tX_obj hL) rfl rfl rfl (Nat.le_of_ble_eq_true rfl) ⟨Nat.le_of_ble_eq_true rfl, Nat.le_of_ble_eq_true rfl⟩ dX5_whoNow_10 rfl rfl (Nat.le_of_ble_eq_true rfl) (Nat.le_of_ble_eq_true rfl) (fun v_5 X_6 hp_7 => ?_)
  obtain ⟨rfl, rfl⟩ := hp_7
  refine z_st (st' := []) rfl ?_
  refine z_iconst (v := 0) dX5_whoNow_13 (by decide) ?_
  refine z_istore_n (lv' := [(2, .int 0), (1, .int x_4), (0, .ref (L 99))]) dX5_whoNow_14 rfl (by decide) rfl ?_
  have loop_12 : ∀ (q_9 i_8 : Nat), i_8 + q_9 = 25 → 0 ≤ i_8 → ∀ (Gb_13 : Nat → Nat → Int32), ∀ (c_14 : Int32), ∀ (o_15 : Int32), zZ g m_X5_whoNow (fun rv X' => rv = some (.int (s_who (fun k => I 24 (2 * k + 31)) (fun k => I 24 (2 * k + 32)) nd sm (fun n => (s_go wv (I 10) (I 27) nh nd own now (I 24) n).1))) ∧ ∃ (c' o' : Int32) (τ' : Nat → Int32) (Gb' : Nat → Nat → Int32), X' = (tX g L (tput (tco I c' o') 987 τ') J Gb' X), zno, ({ frames := 7, cells := 0, slots := 0, locals := 161 } : Room)) 0 0 (tX g L (tput (tco I c_14 o_15) 987 ((s_go wv (I 10) (I 27) nh nd own now (I 24) i_8).1)) J Gb_13 X) 15 [(0, .ref (L 99)), (1, .int (s_wn (fun k => I 24 (2 * k + 31)) (fun k => I 24 (2 * k + 32)) nd sm (fun n => (s_go wv (I 10) (I 27) nh nd own now (I 24) n).1) (s_bit nd - 1) i_8)), (2, .int (nI (i_8)))] [] := by
    intro q_9
    induction q_9 with
    | zero =>
      intro i_8 hb_11 lo_16 Gb_13 c_14 o_15 
      obtain rfl : 25 = i_8 := by omega
      refine z_iload_n 2 dX5_whoNow_15 rfl ?_
      refine z_bipush (v := 24) dX5_whoNow_16 (by decide) ?_
      refine z_icmp_gtN (a := 25) (b := 24) 126 (by decide) (by decide) dX5_whoNow_18 (by decide) (fun h_ => ?_) (fun h_ => absurd h_ (by decide))
      refine z_iload_n 1 dX5_whoNow_126 rfl ?_
      exact z_iret dX5_whoNow_127 rfl (Nat.le_of_ble_eq_true rfl) (Nat.le_of_ble_eq_true rfl) ⟨rfl, c_14, o_15, (s_go wv (I 10) (I 27) nh nd own now (I 24) 25).1, Gb_13, rfl⟩
    | succ q_9 ih_10 =>
      intro i_8 hb_11 lo_16 Gb_13 c_14 o_15 
      refine z_iload_n 2 dX5_whoNow_15 rfl ?_
      refine z_bipush (v := 24) dX5_whoNow_16 (by decide) ?_
      refine z_icmp_gtN (a := i_8) (b := 24) 126 (by omega) (by omega) dX5_whoNow_18 (by decide) (fun c_17 => absurd c_17 (by omega)) (fun c_17 => ?_)
      refine z_iconst (v := 0) dX5_whoNow_21 (by decide) ?_
      refine z_istore_n (lv' := [(3, .int 0), (0, .ref (L 99)), (1, .int (s_wn (fun k => I 24 (2 * k + 31)) (fun k => I 24 (2 * k + 32)) nd sm (fun n => (s_go wv (I 10) (I 27) nh nd own now (I 24) n).1) (s_bit nd - 1) i_8)), (2, .int (nI (i_8)))]) dX5_whoNow_22 rfl (by decide) rfl ?_
      have loop_22 : ∀ (q_19 i_18 : Nat), i_18 + q_19 = sm → 0 ≤ i_18 → zZ g m_X5_whoNow (fun rv X' => rv = some (.int (s_who (fun k => I 24 (2 * k + 31)) (fun k => I 24 (2 * k + 32)) nd sm (fun n => (s_go wv (I 10) (I 27) nh nd own now (I 24) n).1))) ∧ ∃ (c' o' : Int32) (τ' : Nat → Int32) (Gb' : Nat → Nat → Int32), X' = (tX g L (tput (tco I c' o') 987 τ') J Gb' X), zno, ({ frames := 7, cells := 0, slots := 0, locals := 161 } : Room)) 0 0 (tX g L (tput (tco I c_14 o_15) 987 ((s_go wv (I 10) (I 27) nh nd own now (I 24) i_8).1)) J Gb_13 X) 23 [(0, .ref (L 99)), (1, .int (s_wk (fun k => I 24 (2 * k + 31)) (fun k => I 24 (2 * k + 32)) nd (s_go wv (I 10) (I 27) nh nd own now (I 24) i_8).1 i_8 (s_wn (fun k => I 24 (2 * k + 31)) (fun k => I 24 (2 * k + 32)) nd sm (fun n => (s_go wv (I 10) (I 27) nh nd own now (I 24) n).1) (s_bit nd - 1) i_8) i_18)), (2, .int (nI (i_8))), (3, .int (nI (i_18)))] [] := by
        intro q_19
        induction q_19 with
        | zero =>
          intro i_18 hb_21 lo_23  
          obtain rfl : sm = i_18 := by omega
          refine z_iload_n 3 dX5_whoNow_23 rfl ?_
          refine z_aload_n 0 dX5_whoNow_24 rfl ?_
          refine tz_get (v := .ref (L 24)) 24 hL (by decide) q1617 rfl dX5_whoNow_25 ?_
          refine z_bipush (v := 30) dX5_whoNow_28 (by decide) ?_
          refine tz_iald (v := nI (sm)) 24 (30) hL (by decide) rfl (by show 30 < 1081; omega) (((tput_off (by omega)).trans rfl).trans hsm) dX5_whoNow_30 ?_
          refine z_icmp_geN (a := sm) (b := sm) 113 (by omega) (by omega) dX5_whoNow_31 (by decide) (fun c_24 => ?_) (fun c_24 => absurd c_24 (by omega))
          refine z_aload_n 0 dX5_whoNow_113 rfl ?_
          refine z_sipush (v := 987) dX5_whoNow_114 (by decide) ?_
          refine z_callV (As := [.int 987]) (t_passes_ (I := I) (hds := rfl) (σ := (s_go wv (I 10) (I 27) nh nd own now (I 24) i_8).1) (c := c_14) (o := o_15) hL hV hlaw 987 (by omega) (s_go_0 hw i_8) (by omega)) q1866 q1868 qs92 q121 q1869 nm_X5_passes (tX_obj hL) rfl rfl rfl (Nat.le_of_ble_eq_true rfl) ⟨Nat.le_of_ble_eq_true rfl, Nat.le_of_ble_eq_true rfl⟩ dX5_whoNow_117 rfl rfl (Nat.le_of_ble_eq_true rfl) (Nat.le_of_ble_eq_true rfl) (fun v_26 X_27 hp_28 => ?_)
          obtain ⟨rfl, Gb_25, rfl⟩ := hp_28
          refine z_st (st' := []) rfl ?_
          refine z_iinc (v := nI (i_8 + 1)) (lv' := [(2, .int (nI (i_8 + 1))), (0, .ref (L 99)), (1, .int (s_wk (fun k => I 24 (2 * k + 31)) (fun k => I 24 (2 * k + 32)) nd (s_go wv (I 10) (I 27) nh nd own now (I 24) i_8).1 i_8 (s_wn (fun k => I 24 (2 * k + 31)) (fun k => I 24 (2 * k + 32)) nd sm (fun n => (s_go wv (I 10) (I 27) nh nd own now (I 24) n).1) (s_bit nd - 1) i_8) sm)), (3, .int (nI (sm)))]) 2 dX5_whoNow_120 rfl (nI_1 _) (by decide) rfl ?_
          refine z_goto 15 dX5_whoNow_123 (by decide) ?_
          have f_29 : s_wk (fun k => I 24 (2 * k + 31)) (fun k => I 24 (2 * k + 32)) nd (s_go wv (I 10) (I 27) nh nd own now (I 24) i_8).1 i_8 (s_wn (fun k => I 24 (2 * k + 31)) (fun k => I 24 (2 * k + 32)) nd sm (fun n => (s_go wv (I 10) (I 27) nh nd own now (I 24) n).1) (s_bit nd - 1) i_8) sm = s_wn (fun k => I 24 (2 * k + 31)) (fun k => I 24 (2 * k + 32)) nd sm (fun n => (s_go wv (I 10) (I 27) nh nd own now (I 24) n).1) (s_bit nd - 1) (i_8 + 1) := by (try subst ex_4); rfl
          refine z_lv (lv' := [(0, .ref (L 99)), (1, .int (s_wn (fun k => I 24 (2 * k + 31)) (fun k => I 24 (2 * k + 32)) nd sm (fun n => (s_go wv (I 10) (I 27) nh nd own now (I 24) n).1) (s_bit nd - 1) (i_8 + 1))), (2, .int (nI (i_8 + 1)))]) [1, 2, 0] (by rw [← f_29]; rfl) ?_
          refine z_X (X' := (tX g L (tput (tco I ((s_pass wv (I 10) (I 27) nh nd own (now + i_8) ((s_go wv (I 10) (I 27) nh nd own now (I 24) i_8).1)).2.1) ((s_pass wv (I 10) (I 27) nh nd own (now + i_8) ((s_go wv (I 10) (I 27) nh nd own now (I 24) i_8).1)).2.2)) 987 ((s_go wv (I 10) (I 27) nh nd own now (I 24) (i_8 + 1)).1)) J Gb_25 X)) (by (try subst ex_4); rfl) ?_
          exact ih_10 (i_8 + 1) (by omega) (by omega) _ _ _ 
        | succ q_19 ih_20 =>
          intro i_18 hb_21 lo_23  
          refine z_iload_n 3 dX5_whoNow_23 rfl ?_
          refine z_aload_n 0 dX5_whoNow_24 rfl ?_
          refine tz_get (v := .ref (L 24)) 24 hL (by decide) q1617 rfl dX5_whoNow_25 ?_
          refine z_bipush (v := 30) dX5_whoNow_28 (by decide) ?_
          refine tz_iald (v := nI (sm)) 24 (30) hL (by decide) rfl (by show 30 < 1081; omega) (((tput_off (by omega)).trans rfl).trans hsm) dX5_whoNow_30 ?_
          refine z_icmp_geN (a := i_18) (b := sm) 113 (by omega) (by omega) dX5_whoNow_31 (by decide) (fun c_30 => absurd c_30 (by omega)) (fun c_30 => ?_)
          refine z_bipush (v := 31) dX5_whoNow_34 (by decide) ?_
          refine z_iconst (v := 2) dX5_whoNow_36 (by decide) ?_
          refine z_iload_n 3 dX5_whoNow_37 rfl ?_
          refine z_imulN (a := 2) (b := i_18) dX5_whoNow_38 ?_
          refine z_iaddN (a := 31) (b := 2 * i_18) dX5_whoNow_39 ?_
          refine z_eq (y := nI (2 * i_18 + 31)) (congrArg nI (by omega)) ?_
          refine z_istore (lv' := [(4, .int (nI (2 * i_18 + 31))), (0, .ref (L 99)), (1, .int (s_wk (fun k => I 24 (2 * k + 31)) (fun k => I 24 (2 * k + 32)) nd (s_go wv (I 10) (I 27) nh nd own now (I 24) i_8).1 i_8 (s_wn (fun k => I 24 (2 * k + 31)) (fun k => I 24 (2 * k + 32)) nd sm (fun n => (s_go wv (I 10) (I 27) nh nd own now (I 24) n).1) (s_bit nd - 1) i_8) i_18)), (2, .int (nI (i_8))), (3, .int (nI (i_18)))]) dX5_whoNow_40 (by decide) rfl ?_
          refine z_iconst (v := 0) dX5_whoNow_42 (by decide) ?_
          refine z_istore (lv' := [(5, .int 0), (4, .int (nI (2 * i_18 + 31))), (0, .ref (L 99)), (1, .int (s_wk (fun k => I 24 (2 * k + 31)) (fun k => I 24 (2 * k + 32)) nd (s_go wv (I 10) (I 27) nh nd own now (I 24) i_8).1 i_8 (s_wn (fun k => I 24 (2 * k + 31)) (fun k => I 24 (2 * k + 32)) nd sm (fun n => (s_go wv (I 10) (I 27) nh nd own now (I 24) n).1) (s_bit nd - 1) i_8) i_18)), (2, .int (nI (i_8))), (3, .int (nI (i_18)))]) dX5_whoNow_43 (by decide) rfl ?_
          have loop_35 : ∀ (q_32 i_31 : Nat), i_31 + q_32 = nd → 0 ≤ i_31 → zZ g m_X5_whoNow (fun rv X' => rv = some (.int (s_who (fun k => I 24 (2 * k + 31)) (fun k => I 24 (2 * k + 32)) nd sm (fun n => (s_go wv (I 10) (I 27) nh nd own now (I 24) n).1))) ∧ ∃ (c' o' : Int32) (τ' : Nat → Int32) (Gb' : Nat → Nat → Int32), X' = (tX g L (tput (tco I c' o') 987 τ') J Gb' X), zno, ({ frames := 7, cells := 0, slots := 0, locals := 161 } : Room)) 0 0 (tX g L (tput (tco I c_14 o_15) 987 ((s_go wv (I 10) (I 27) nh nd own now (I 24) i_8).1)) J Gb_13 X) 45 [(0, .ref (L 99)), (1, .int (s_wd (s_go wv (I 10) (I 27) nh nd own now (I 24) i_8).1 i_8 (I 24 (2 * i_18 + 31)) (I 24 (2 * i_18 + 32)) (s_wk (fun k => I 24 (2 * k + 31)) (fun k => I 24 (2 * k + 32)) nd (s_go wv (I 10) (I 27) nh nd own now (I 24) i_8).1 i_8 (s_wn (fun k => I 24 (2 * k + 31)) (fun k => I 24 (2 * k + 32)) nd sm (fun n => (s_go wv (I 10) (I 27) nh nd own now (I 24) n).1) (s_bit nd - 1) i_8) i_18) i_31)), (2, .int (nI (i_8))), (3, .int (nI (i_18))), (4, .int (nI (2 * i_18 + 31))), (5, .int (nI (i_31)))] [] := by
            intro q_32
            induction q_32 with
            | zero =>
              intro i_31 hb_34 lo_36  
              obtain rfl : nd = i_31 := by omega
              refine z_iload 5 dX5_whoNow_45 rfl ?_
              refine z_aload_n 0 dX5_whoNow_47 rfl ?_
              refine z_callV (As := []) (t_days (I := (tput (tco I c_14 o_15) 987 ((s_go wv (I 10) (I 27) nh nd own now (I 24) i_8).1))) hL h1) q1573 q1575 qs53 q121 q1576 nm_X5_days (tX_obj hL) rfl rfl rfl (Nat.le_of_ble_eq_true rfl) ⟨Nat.le_of_ble_eq_true rfl, Nat.le_of_ble_eq_true rfl⟩ dX5_whoNow_48 rfl rfl (Nat.le_of_ble_eq_true rfl) (Nat.le_of_ble_eq_true rfl) (fun v_37 X_38 hp_39 => ?_)
              obtain ⟨rfl, rfl⟩ := hp_39
              refine z_st (st' := [.int (nI (nd)), .int (nI (nd))]) rfl ?_
              refine z_icmp_geN (a := nd) (b := nd) 107 (by omega) (by omega) dX5_whoNow_51 (by decide) (fun c_40 => ?_) (fun c_40 => absurd c_40 (by omega))
              refine z_iinc (v := nI (i_18 + 1)) (lv' := [(3, .int (nI (i_18 + 1))), (0, .ref (L 99)), (1, .int (s_wd (s_go wv (I 10) (I 27) nh nd own now (I 24) i_8).1 i_8 (I 24 (2 * i_18 + 31)) (I 24 (2 * i_18 + 32)) (s_wk (fun k => I 24 (2 * k + 31)) (fun k => I 24 (2 * k + 32)) nd (s_go wv (I 10) (I 27) nh nd own now (I 24) i_8).1 i_8 (s_wn (fun k => I 24 (2 * k + 31)) (fun k => I 24 (2 * k + 32)) nd sm (fun n => (s_go wv (I 10) (I 27) nh nd own now (I 24) n).1) (s_bit nd - 1) i_8) i_18) nd)), (2, .int (nI (i_8))), (4, .int (nI (2 * i_18 + 31))), (5, .int (nI (nd)))]) 3 dX5_whoNow_107 rfl (nI_1 _) (by decide) rfl ?_
              refine z_goto 23 dX5_whoNow_110 (by decide) ?_
              have f_41 : s_wd (s_go wv (I 10) (I 27) nh nd own now (I 24) i_8).1 i_8 (I 24 (2 * i_18 + 31)) (I 24 (2 * i_18 + 32)) (s_wk (fun k => I 24 (2 * k + 31)) (fun k => I 24 (2 * k + 32)) nd (s_go wv (I 10) (I 27) nh nd own now (I 24) i_8).1 i_8 (s_wn (fun k => I 24 (2 * k + 31)) (fun k => I 24 (2 * k + 32)) nd sm (fun n => (s_go wv (I 10) (I 27) nh nd own now (I 24) n).1) (s_bit nd - 1) i_8) i_18) nd = s_wk (fun k => I 24 (2 * k + 31)) (fun k => I 24 (2 * k + 32)) nd (s_go wv (I 10) (I 27) nh nd own now (I 24) i_8).1 i_8 (s_wn (fun k => I 24 (2 * k + 31)) (fun k => I 24 (2 * k + 32)) nd sm (fun n => (s_go wv (I 10) (I 27) nh nd own now (I 24) n).1) (s_bit nd - 1) i_8) (i_18 + 1) := by rfl
              refine z_lv (lv' := [(0, .ref (L 99)), (1, .int (s_wk (fun k => I 24 (2 * k + 31)) (fun k => I 24 (2 * k + 32)) nd (s_go wv (I 10) (I 27) nh nd own now (I 24) i_8).1 i_8 (s_wn (fun k => I 24 (2 * k + 31)) (fun k => I 24 (2 * k + 32)) nd sm (fun n => (s_go wv (I 10) (I 27) nh nd own now (I 24) n).1) (s_bit nd - 1) i_8) (i_18 + 1))), (2, .int (nI (i_8))), (3, .int (nI (i_18 + 1)))]) [1, 2, 3, 0] (by rw [← f_41]; rfl) ?_
              exact ih_20 (i_18 + 1) (by omega) (by omega)  
            | succ q_32 ih_33 =>
              intro i_31 hb_34 lo_36  
              refine z_iload 5 dX5_whoNow_45 rfl ?_
              refine z_aload_n 0 dX5_whoNow_47 rfl ?_
              refine z_callV (As := []) (t_days (I := (tput (tco I c_14 o_15) 987 ((s_go wv (I 10) (I 27) nh nd own now (I 24) i_8).1))) hL h1) q1573 q1575 qs53 q121 q1576 nm_X5_days (tX_obj hL) rfl rfl rfl (Nat.le_of_ble_eq_true rfl) ⟨Nat.le_of_ble_eq_true rfl, Nat.le_of_ble_eq_true rfl⟩ dX5_whoNow_48 rfl rfl (Nat.le_of_ble_eq_true rfl) (Nat.le_of_ble_eq_true rfl) (fun v_42 X_43 hp_44 => ?_)
              obtain ⟨rfl, rfl⟩ := hp_44
              refine z_st (st' := [.int (nI (nd)), .int (nI (i_31))]) rfl ?_
              refine z_icmp_geN (a := i_31) (b := nd) 107 (by omega) (by omega) dX5_whoNow_51 (by decide) (fun c_45 => absurd c_45 (by omega)) (fun c_45 => ?_)
              refine z_iload_n 1 dX5_whoNow_54 rfl ?_
              refine z_aload_n 0 dX5_whoNow_55 rfl ?_
              refine tz_get (v := .ref (L 24)) 24 hL (by decide) q1617 rfl dX5_whoNow_56 ?_
              refine z_iload 4 dX5_whoNow_59 rfl ?_
              refine z_iconst (v := 1) dX5_whoNow_61 (by decide) ?_
              refine z_iaddN (a := 2 * i_18 + 31) (b := 1) dX5_whoNow_62 ?_
              refine z_eq (y := nI (2 * i_18 + 32)) (congrArg nI (by omega)) ?_
              refine tz_iald (v := I 24 (2 * i_18 + 32)) 24 (2 * i_18 + 32) hL (by decide) rfl (by show 2 * i_18 + 32 < 1081; omega) ((tput_off (by omega)).trans rfl) dX5_whoNow_63 ?_
              refine z_iload_n 2 dX5_whoNow_64 rfl ?_
              refine z_icmp_ne 98 dX5_whoNow_65 (by decide) (fun c_46 => ?_) (fun c_46 => ?_)
              · -- ¬ I 24 (2 * i_18 + 32) = nI (i_8)
                refine z_iconst (v := zm1) dX5_whoNow_98 (by decide) ?_
                refine z_iand dX5_whoNow_99 ?_
                obtain ⟨x_47, ex_47⟩ : ∃ y : Int32, ((s_wd (s_go wv (I 10) (I 27) nh nd own now (I 24) i_8).1 i_8 (I 24 (2 * i_18 + 31)) (I 24 (2 * i_18 + 32)) (s_wk (fun k => I 24 (2 * k + 31)) (fun k => I 24 (2 * k + 32)) nd (s_go wv (I 10) (I 27) nh nd own now (I 24) i_8).1 i_8 (s_wn (fun k => I 24 (2 * k + 31)) (fun k => I 24 (2 * k + 32)) nd sm (fun n => (s_go wv (I 10) (I 27) nh nd own now (I 24) n).1) (s_bit nd - 1) i_8) i_18) i_31) &&& zm1) = y := ⟨_, rfl⟩
                refine z_eq ex_47 ?_
                refine z_istore_n (lv' := [(1, .int x_47), (0, .ref (L 99)), (2, .int (nI (i_8))), (3, .int (nI (i_18))), (4, .int (nI (2 * i_18 + 31))), (5, .int (nI (i_31)))]) dX5_whoNow_100 rfl (by decide) rfl ?_
                refine z_iinc (v := nI (i_31 + 1)) (lv' := [(5, .int (nI (i_31 + 1))), (1, .int x_47), (0, .ref (L 99)), (2, .int (nI (i_8))), (3, .int (nI (i_18))), (4, .int (nI (2 * i_18 + 31)))]) 5 dX5_whoNow_101 rfl (nI_1 _) (by decide) rfl ?_
                refine z_goto 45 dX5_whoNow_104 (by decide) ?_
                have f_48 : x_47 = s_wd (s_go wv (I 10) (I 27) nh nd own now (I 24) i_8).1 i_8 (I 24 (2 * i_18 + 31)) (I 24 (2 * i_18 + 32)) (s_wk (fun k => I 24 (2 * k + 31)) (fun k => I 24 (2 * k + 32)) nd (s_go wv (I 10) (I 27) nh nd own now (I 24) i_8).1 i_8 (s_wn (fun k => I 24 (2 * k + 31)) (fun k => I 24 (2 * k + 32)) nd sm (fun n => (s_go wv (I 10) (I 27) nh nd own now (I 24) n).1) (s_bit nd - 1) i_8) i_18) (i_31 + 1) := by (try subst ex_47); (try subst ex_4); simp [s_wd, s_bit, c_17, c_30, c_45, c_46]
                subst f_48
                refine z_lv (lv' := [(0, .ref (L 99)), (1, .int (s_wd (s_go wv (I 10) (I 27) nh nd own now (I 24) i_8).1 i_8 (I 24 (2 * i_18 + 31)) (I 24 (2 * i_18 + 32)) (s_wk (fun k => I 24 (2 * k + 31)) (fun k => I 24 (2 * k + 32)) nd (s_go wv (I 10) (I 27) nh nd own now (I 24) i_8).1 i_8 (s_wn (fun k => I 24 (2 * k + 31)) (fun k => I 24 (2 * k + 32)) nd sm (fun n => (s_go wv (I 10) (I 27) nh nd own now (I 24) n).1) (s_bit nd - 1) i_8) i_18) (i_31 + 1))), (2, .int (nI (i_8))), (3, .int (nI (i_18))), (4, .int (nI (2 * i_18 + 31))), (5, .int (nI (i_31 + 1)))]) [2, 1, 3, 4, 5, 0] rfl ?_
                exact ih_33 (i_31 + 1) (by omega) (by omega)  
              · -- I 24 (2 * i_18 + 32) = nI (i_8)
                refine z_aload_n 0 dX5_whoNow_68 rfl ?_
                refine tz_get (v := .ref (L 24)) 24 hL (by decide) q1617 rfl dX5_whoNow_69 ?_
                refine z_sipush (v := 993) dX5_whoNow_72 (by decide) ?_
                refine z_iload 5 dX5_whoNow_75 rfl ?_
                refine z_iaddN (a := 993) (b := i_31) dX5_whoNow_77 ?_
                refine z_eq (y := nI (i_31 + 993)) (congrArg nI (by omega)) ?_
                refine tz_iald (v := ((s_go wv (I 10) (I 27) nh nd own now (I 24) i_8).1) (i_31 + 6)) 24 (987 + (i_31 + 6)) hL (by decide) (congrArg nI (by omega)) (by show 987 + (i_31 + 6) < 1081; omega) (tput_at (by omega)) dX5_whoNow_78 ?_
                refine z_aload_n 0 dX5_whoNow_79 rfl ?_
                refine tz_get (v := .ref (L 24)) 24 hL (by decide) q1617 rfl dX5_whoNow_80 ?_
                refine z_iload 4 dX5_whoNow_83 rfl ?_
                refine tz_iald (v := I 24 (2 * i_18 + 31)) 24 (2 * i_18 + 31) hL (by decide) rfl (by show 2 * i_18 + 31 < 1081; omega) ((tput_off (by omega)).trans rfl) dX5_whoNow_85 ?_
                refine z_icmp_eq 98 dX5_whoNow_86 (by decide) (fun c_49 => ?_) (fun c_49 => ?_)
                · -- ((s_go wv (I 10) (I 27) nh nd own now (I 24) i_8).1) (i_31 + 6) = I 24 (2 * i_18 + 31)
                  refine z_iconst (v := zm1) dX5_whoNow_98 (by decide) ?_
                  refine z_iand dX5_whoNow_99 ?_
                  obtain ⟨x_50, ex_50⟩ : ∃ y : Int32, ((s_wd (s_go wv (I 10) (I 27) nh nd own now (I 24) i_8).1 i_8 (I 24 (2 * i_18 + 31)) (I 24 (2 * i_18 + 32)) (s_wk (fun k => I 24 (2 * k + 31)) (fun k => I 24 (2 * k + 32)) nd (s_go wv (I 10) (I 27) nh nd own now (I 24) i_8).1 i_8 (s_wn (fun k => I 24 (2 * k + 31)) (fun k => I 24 (2 * k + 32)) nd sm (fun n => (s_go wv (I 10) (I 27) nh nd own now (I 24) n).1) (s_bit nd - 1) i_8) i_18) i_31) &&& zm1) = y := ⟨_, rfl⟩
                  refine z_eq ex_50 ?_
                  refine z_istore_n (lv' := [(1, .int x_50), (0, .ref (L 99)), (2, .int (nI (i_8))), (3, .int (nI (i_18))), (4, .int (nI (2 * i_18 + 31))), (5, .int (nI (i_31)))]) dX5_whoNow_100 rfl (by decide) rfl ?_
                  refine z_iinc (v := nI (i_31 + 1)) (lv' := [(5, .int (nI (i_31 + 1))), (1, .int x_50), (0, .ref (L 99)), (2, .int (nI (i_8))), (3, .int (nI (i_18))), (4, .int (nI (2 * i_18 + 31)))]) 5 dX5_whoNow_101 rfl (nI_1 _) (by decide) rfl ?_
                  refine z_goto 45 dX5_whoNow_104 (by decide) ?_
                  have f_51 : x_50 = s_wd (s_go wv (I 10) (I 27) nh nd own now (I 24) i_8).1 i_8 (I 24 (2 * i_18 + 31)) (I 24 (2 * i_18 + 32)) (s_wk (fun k => I 24 (2 * k + 31)) (fun k => I 24 (2 * k + 32)) nd (s_go wv (I 10) (I 27) nh nd own now (I 24) i_8).1 i_8 (s_wn (fun k => I 24 (2 * k + 31)) (fun k => I 24 (2 * k + 32)) nd sm (fun n => (s_go wv (I 10) (I 27) nh nd own now (I 24) n).1) (s_bit nd - 1) i_8) i_18) (i_31 + 1) := by (try subst ex_50); (try subst ex_4); simp [s_wd, s_bit, c_17, c_30, c_45, c_46, c_49]
                  subst f_51
                  refine z_lv (lv' := [(0, .ref (L 99)), (1, .int (s_wd (s_go wv (I 10) (I 27) nh nd own now (I 24) i_8).1 i_8 (I 24 (2 * i_18 + 31)) (I 24 (2 * i_18 + 32)) (s_wk (fun k => I 24 (2 * k + 31)) (fun k => I 24 (2 * k + 32)) nd (s_go wv (I 10) (I 27) nh nd own now (I 24) i_8).1 i_8 (s_wn (fun k => I 24 (2 * k + 31)) (fun k => I 24 (2 * k + 32)) nd sm (fun n => (s_go wv (I 10) (I 27) nh nd own now (I 24) n).1) (s_bit nd - 1) i_8) i_18) (i_31 + 1))), (2, .int (nI (i_8))), (3, .int (nI (i_18))), (4, .int (nI (2 * i_18 + 31))), (5, .int (nI (i_31 + 1)))]) [2, 1, 3, 4, 5, 0] rfl ?_
                  exact ih_33 (i_31 + 1) (by omega) (by omega)  
                · -- ¬ ((s_go wv (I 10) (I 27) nh nd own now (I 24) i_8).1) (i_31 + 6) = I 24 (2 * i_18 + 31)
                  refine z_iconst (v := 1) dX5_whoNow_89 (by decide) ?_
                  refine z_iload 5 dX5_whoNow_90 rfl ?_
                  refine z_ishl dX5_whoNow_92 ?_
                  refine z_iconst (v := zm1) dX5_whoNow_93 (by decide) ?_
                  refine z_ixor dX5_whoNow_94 ?_
                  refine z_goto 99 dX5_whoNow_95 (by decide) ?_
                  refine z_iand dX5_whoNow_99 ?_
                  obtain ⟨x_52, ex_52⟩ : ∃ y : Int32, ((s_wd (s_go wv (I 10) (I 27) nh nd own now (I 24) i_8).1 i_8 (I 24 (2 * i_18 + 31)) (I 24 (2 * i_18 + 32)) (s_wk (fun k => I 24 (2 * k + 31)) (fun k => I 24 (2 * k + 32)) nd (s_go wv (I 10) (I 27) nh nd own now (I 24) i_8).1 i_8 (s_wn (fun k => I 24 (2 * k + 31)) (fun k => I 24 (2 * k + 32)) nd sm (fun n => (s_go wv (I 10) (I 27) nh nd own now (I 24) n).1) (s_bit nd - 1) i_8) i_18) i_31) &&& ((1 <<< ((nI (i_31)) &&& 31)) ^^^ zm1)) = y := ⟨_, rfl⟩
                  refine z_eq ex_52 ?_
                  refine z_istore_n (lv' := [(1, .int x_52), (0, .ref (L 99)), (2, .int (nI (i_8))), (3, .int (nI (i_18))), (4, .int (nI (2 * i_18 + 31))), (5, .int (nI (i_31)))]) dX5_whoNow_100 rfl (by decide) rfl ?_
                  refine z_iinc (v := nI (i_31 + 1)) (lv' := [(5, .int (nI (i_31 + 1))), (1, .int x_52), (0, .ref (L 99)), (2, .int (nI (i_8))), (3, .int (nI (i_18))), (4, .int (nI (2 * i_18 + 31)))]) 5 dX5_whoNow_101 rfl (nI_1 _) (by decide) rfl ?_
                  refine z_goto 45 dX5_whoNow_104 (by decide) ?_
                  have f_53 : x_52 = s_wd (s_go wv (I 10) (I 27) nh nd own now (I 24) i_8).1 i_8 (I 24 (2 * i_18 + 31)) (I 24 (2 * i_18 + 32)) (s_wk (fun k => I 24 (2 * k + 31)) (fun k => I 24 (2 * k + 32)) nd (s_go wv (I 10) (I 27) nh nd own now (I 24) i_8).1 i_8 (s_wn (fun k => I 24 (2 * k + 31)) (fun k => I 24 (2 * k + 32)) nd sm (fun n => (s_go wv (I 10) (I 27) nh nd own now (I 24) n).1) (s_bit nd - 1) i_8) i_18) (i_31 + 1) := by (try subst ex_52); (try subst ex_4); simp [s_wd, s_bit, c_17, c_30, c_45, c_46, c_49]
                  subst f_53
                  refine z_lv (lv' := [(0, .ref (L 99)), (1, .int (s_wd (s_go wv (I 10) (I 27) nh nd own now (I 24) i_8).1 i_8 (I 24 (2 * i_18 + 31)) (I 24 (2 * i_18 + 32)) (s_wk (fun k => I 24 (2 * k + 31)) (fun k => I 24 (2 * k + 32)) nd (s_go wv (I 10) (I 27) nh nd own now (I 24) i_8).1 i_8 (s_wn (fun k => I 24 (2 * k + 31)) (fun k => I 24 (2 * k + 32)) nd sm (fun n => (s_go wv (I 10) (I 27) nh nd own now (I 24) n).1) (s_bit nd - 1) i_8) i_18) (i_31 + 1))), (2, .int (nI (i_8))), (3, .int (nI (i_18))), (4, .int (nI (2 * i_18 + 31))), (5, .int (nI (i_31 + 1)))]) [2, 1, 3, 4, 5, 0] rfl ?_
                  exact ih_33 (i_31 + 1) (by omega) (by omega)  
          have f_54 : s_wk (fun k => I 24 (2 * k + 31)) (fun k => I 24 (2 * k + 32)) nd (s_go wv (I 10) (I 27) nh nd own now (I 24) i_8).1 i_8 (s_wn (fun k => I 24 (2 * k + 31)) (fun k => I 24 (2 * k + 32)) nd sm (fun n => (s_go wv (I 10) (I 27) nh nd own now (I 24) n).1) (s_bit nd - 1) i_8) i_18 = s_wd (s_go wv (I 10) (I 27) nh nd own now (I 24) i_8).1 i_8 (I 24 (2 * i_18 + 31)) (I 24 (2 * i_18 + 32)) (s_wk (fun k => I 24 (2 * k + 31)) (fun k => I 24 (2 * k + 32)) nd (s_go wv (I 10) (I 27) nh nd own now (I 24) i_8).1 i_8 (s_wn (fun k => I 24 (2 * k + 31)) (fun k => I 24 (2 * k + 32)) nd sm (fun n => (s_go wv (I 10) (I 27) nh nd own now (I 24) n).1) (s_bit nd - 1) i_8) i_18) 0 := by rfl
          refine z_lv (lv' := [(0, .ref (L 99)), (1, .int (s_wd (s_go wv (I 10) (I 27) nh nd own now (I 24) i_8).1 i_8 (I 24 (2 * i_18 + 31)) (I 24 (2 * i_18 + 32)) (s_wk (fun k => I 24 (2 * k + 31)) (fun k => I 24 (2 * k + 32)) nd (s_go wv (I 10) (I 27) nh nd own now (I 24) i_8).1 i_8 (s_wn (fun k => I 24 (2 * k + 31)) (fun k => I 24 (2 * k + 32)) nd sm (fun n => (s_go wv (I 10) (I 27) nh nd own now (I 24) n).1) (s_bit nd - 1) i_8) i_18) 0)), (2, .int (nI (i_8))), (3, .int (nI (i_18))), (4, .int (nI (2 * i_18 + 31))), (5, .int 0)]) [2, 3, 4, 5, 1, 0] (by rw [← f_54]; rfl) ?_
          exact loop_35 (nd - 0) 0 (by omega) (Nat.le_refl _)  
      have f_55 : s_wn (fun k => I 24 (2 * k + 31)) (fun k => I 24 (2 * k + 32)) nd sm (fun n => (s_go wv (I 10) (I 27) nh nd own now (I 24) n).1) (s_bit nd - 1) i_8 = s_wk (fun k => I 24 (2 * k + 31)) (fun k => I 24 (2 * k + 32)) nd (s_go wv (I 10) (I 27) nh nd own now (I 24) i_8).1 i_8 (s_wn (fun k => I 24 (2 * k + 31)) (fun k => I 24 (2 * k + 32)) nd sm (fun n => (s_go wv (I 10) (I 27) nh nd own now (I 24) n).1) (s_bit nd - 1) i_8) 0 := by rfl
      refine z_lv (lv' := [(0, .ref (L 99)), (1, .int (s_wk (fun k => I 24 (2 * k + 31)) (fun k => I 24 (2 * k + 32)) nd (s_go wv (I 10) (I 27) nh nd own now (I 24) i_8).1 i_8 (s_wn (fun k => I 24 (2 * k + 31)) (fun k => I 24 (2 * k + 32)) nd sm (fun n => (s_go wv (I 10) (I 27) nh nd own now (I 24) n).1) (s_bit nd - 1) i_8) 0)), (2, .int (nI (i_8))), (3, .int 0)]) [1, 2, 3, 0] (by rw [← f_55]; rfl) ?_
      exact loop_22 (sm - 0) 0 (by omega) (Nat.le_refl _)  
  have f_56 : x_4 = s_wn (fun k => I 24 (2 * k + 31)) (fun k => I 24 (2 * k + 32)) nd sm (fun n => (s_go wv (I 10) (I 27) nh nd own now (I 24) n).1) (s_bit nd - 1) 0 := by (try subst ex_4); rfl
  subst f_56
  refine z_lv (lv' := [(0, .ref (L 99)), (1, .int (s_wn (fun k => I 24 (2 * k + 31)) (fun k => I 24 (2 * k + 32)) nd sm (fun n => (s_go wv (I 10) (I 27) nh nd own now (I 24) n).1) (s_bit nd - 1) 0)), (2, .int 0)]) [2, 1, 0] rfl ?_
  refine z_X (X' := (tX g L (tput (tco I c o) 987 ((s_go wv (I 10) (I 27) nh nd own now (I 24) 0).1)) J Gb X)) (by (try subst ex_4); rfl) ?_
  exact loop_12 (25 - 0) 0 (by omega) (Nat.le_refl _) _ _ _ 
set_option maxHeartbeats 4000000 in
theorem t_who {g : zG} {L : Nat → Nat} {I : Nat → Nat → Int32} {J : Nat → Nat → Int64} {Gb : Nat → Nat → Int32} {X : zX} (hL : tok g L) {nh nd : Nat} {own : Nat → Nat} (hV : s_ok (I 10) nh nd own) {wv : Int32 → Int32 → Int32 → Int32 → Int32} (hlaw : s_law (I 10) (I 11) (I 12) wv) {now : Nat} (hw : I 24 0 = nI now) (hw2 : now < 2 ^ 29) {sm : Nat} (hsm : I 24 30 = nI sm) (hsm2 : sm ≤ 8) : zN g m_X5_who ({ frames := 8, cells := 0, slots := 0, locals := 186 } : Room) [.ref (L 99)] (tX g L I J Gb X) (fun rv X' => rv = some (.int (s_who (fun k => I 24 (2 * k + 31)) (fun k => I 24 (2 * k + 32)) nd sm (fun n => (s_go wv (I 10) (I 27) nh nd own now (I 24) n).1))) ∧ ∃ (I' : Nat → Nat → Int32) (Gb' : Nat → Nat → Int32), X' = tX g L I' J Gb' X ∧ tobs I I' ∧ I' 99 0 = 0) := by
  refine zN.of (by decide +kernel) (Nat.le_of_ble_eq_true rfl) rfl ?_
  refine z_lv (lv' := [(0, .ref (L 99))]) [0] rfl ?_
  have hV9 := hV
  obtain ⟨h0, hnh, h1, hnd, hown⟩ := hV9
  refine z_aload_n 0 dX5_who_0 rfl ?_
  refine z_iconst (v := 0) dX5_who_1 (by decide) ?_
  refine tz_put (I' := (zs I 99 0 0)) 0 hL (by decide) q1593 rfl dX5_who_2 ?_
  refine z_X (X' := (tX g L (tput (tco (zs I 99 0 0) (I 99 28) (I 99 29)) 987 (s_tau I)) J Gb X)) (by show tX g L (zs I 99 0 0) J Gb X = (tX g L (tput (tco (zs I 99 0 0) (I 99 28) (I 99 29)) 987 (s_tau I)) J Gb X); rw [show tput (tco (zs I 99 0 0) (I 99 28) (I 99 29)) 987 (s_tau I) = tco (zs I 99 0 0) (I 99 28) (I 99 29) from tput_tau (I := tco (zs I 99 0 0) (I 99 28) (I 99 29))]; exact congrArg (fun z => tX g L z J Gb X) (tco_self (I := (zs I 99 0 0))).symm) ?_
  refine z_aload_n 0 dX5_who_5 rfl ?_
  refine z_callV (As := []) (t_whoNow (I := (zs I 99 0 0)) (τ := (s_tau I)) (c := (I 99 28)) (o := (I 99 29)) hL hV hlaw hsm hsm2 hw hw2) q2000 q2002 qs106 q121 q2003 nm_X5_whoNow (tX_obj hL) rfl rfl rfl (Nat.le_of_ble_eq_true rfl) ⟨Nat.le_of_ble_eq_true rfl, Nat.le_of_ble_eq_true rfl⟩ dX5_who_6 rfl rfl (Nat.le_of_ble_eq_true rfl) (Nat.le_of_ble_eq_true rfl) (fun v_5 X_6 hp_7 => ?_)
  obtain ⟨rfl, c_1, o_2, t_3, Gb_4, rfl⟩ := hp_7
  refine z_st (st' := [.int (s_who (fun k => I 24 (2 * k + 31)) (fun k => I 24 (2 * k + 32)) nd sm (fun n => (s_go wv (I 10) (I 27) nh nd own now (I 24) n).1))]) rfl ?_
  exact z_iret dX5_who_9 rfl (Nat.le_of_ble_eq_true rfl) (Nat.le_of_ble_eq_true rfl) ⟨congrArg some (congrArg Value.int rfl), (tput (tco (zs I 99 0 0) c_1 o_2) 987 t_3), Gb_4, rfl, (tobs_put (tobs_co (tobs_zs tobs_rf rfl)) (by decide)), rfl⟩
set_option maxHeartbeats 4000000 in
theorem t_look {g : zG} {L : Nat → Nat} {I : Nat → Nat → Int32} {J : Nat → Nat → Int64} {Gb : Nat → Nat → Int32} {X : zX} (hL : tok g L) {nh nd : Nat} {own : Nat → Nat} (hV : s_ok (I 10) nh nd own) {wv : Int32 → Int32 → Int32 → Int32 → Int32} (hlaw : s_law (I 10) (I 11) (I 12) wv) {now : Nat} (hw : I 24 0 = nI now) (hw2 : now < 2 ^ 29) {sm : Nat} (hsm : I 24 30 = nI sm) (hsm2 : sm ≤ 8) : zN g m_X5_look ({ frames := 8, cells := 0, slots := 0, locals := 186 } : Room) [.ref (L 99)] (tX g L I J Gb X) (fun rv X' => rv = some (.int ((s_lk (fun n => s_mx (s_lookf (s_go wv (I 10) (I 27) nh nd own now (I 24) n).1 nd (s_who (fun k => I 24 (2 * k + 31)) (fun k => I 24 (2 * k + 32)) nd sm (fun n => (s_go wv (I 10) (I 27) nh nd own now (I 24) n).1))) nh) (s_bits (s_who (fun k => I 24 (2 * k + 31)) (fun k => I 24 (2 * k + 32)) nd sm (fun n => (s_go wv (I 10) (I 27) nh nd own now (I 24) n).1)) 30) 25).1)) ∧ ∃ (I' : Nat → Nat → Int32) (Gb' : Nat → Nat → Int32), X' = tX g L I' J Gb' X ∧ tobs I I' ∧ I' 99 0 = 0) := by
  refine zN.of (by decide +kernel) (Nat.le_of_ble_eq_true rfl) rfl ?_
  refine z_lv (lv' := [(0, .ref (L 99))]) [0] rfl ?_
  have hV9 := hV
  obtain ⟨h0, hnh, h1, hnd, hown⟩ := hV9
  refine z_aload_n 0 dX5_look_0 rfl ?_
  refine z_iconst (v := 0) dX5_look_1 (by decide) ?_
  refine tz_put (I' := (zs I 99 0 0)) 0 hL (by decide) q1593 rfl dX5_look_2 ?_
  refine z_X (X' := (tX g L (tput (tco (zs I 99 0 0) (I 99 28) (I 99 29)) 987 (s_tau I)) J Gb X)) (by show tX g L (zs I 99 0 0) J Gb X = (tX g L (tput (tco (zs I 99 0 0) (I 99 28) (I 99 29)) 987 (s_tau I)) J Gb X); rw [show tput (tco (zs I 99 0 0) (I 99 28) (I 99 29)) 987 (s_tau I) = tco (zs I 99 0 0) (I 99 28) (I 99 29) from tput_tau (I := tco (zs I 99 0 0) (I 99 28) (I 99 29))]; exact congrArg (fun z => tX g L z J Gb X) (tco_self (I := (zs I 99 0 0))).symm) ?_
  refine z_aload_n 0 dX5_look_5 rfl ?_
  refine z_callV (As := []) (t_whoNow (I := (zs I 99 0 0)) (τ := (s_tau I)) (c := (I 99 28)) (o := (I 99 29)) hL hV hlaw hsm hsm2 hw hw2) q2000 q2002 qs106 q121 q2003 nm_X5_whoNow (tX_obj hL) rfl rfl rfl (Nat.le_of_ble_eq_true rfl) ⟨Nat.le_of_ble_eq_true rfl, Nat.le_of_ble_eq_true rfl⟩ dX5_look_6 rfl rfl (Nat.le_of_ble_eq_true rfl) (Nat.le_of_ble_eq_true rfl) (fun v_5 X_6 hp_7 => ?_)
  obtain ⟨rfl, c_1, o_2, t_3, Gb_4, rfl⟩ := hp_7
  refine z_st (st' := [.int (s_who (fun k => I 24 (2 * k + 31)) (fun k => I 24 (2 * k + 32)) nd sm (fun n => (s_go wv (I 10) (I 27) nh nd own now (I 24) n).1))]) rfl ?_
  refine z_istore_n (lv' := [(1, .int (s_who (fun k => I 24 (2 * k + 31)) (fun k => I 24 (2 * k + 32)) nd sm (fun n => (s_go wv (I 10) (I 27) nh nd own now (I 24) n).1))), (0, .ref (L 99))]) dX5_look_9 rfl (by decide) rfl ?_
  obtain ⟨set, hset⟩ : ∃ x, s_who (fun k => I 24 (2 * k + 31)) (fun k => I 24 (2 * k + 32)) nd sm (fun n => (s_go wv (I 10) (I 27) nh nd own now (I 24) n).1) = x := ⟨_, rfl⟩
  refine z_lv (lv' := [(1, .int set), (0, .ref (L 99))]) [0, 1] (by rw [hset]; rfl) ?_
  refine z_iconst (v := zm1) dX5_look_10 (by decide) ?_
  refine z_istore_n (lv' := [(2, .int zm1), (1, .int set), (0, .ref (L 99))]) dX5_look_11 rfl (by decide) rfl ?_
  refine z_iload_n 1 dX5_look_12 rfl ?_
  refine z_callS (As := [.int set]) (t_bits set) q1890 q1891 q121 q1892 nm_X5_bits rfl (Nat.le_of_ble_eq_true rfl) ⟨Nat.le_of_ble_eq_true rfl, Nat.le_of_ble_eq_true rfl⟩ dX5_look_13 rfl rfl (Nat.le_of_ble_eq_true rfl) (Nat.le_of_ble_eq_true rfl) (fun v_8 X_9 hp_10 => ?_)
  obtain ⟨rfl, rfl⟩ := hp_10
  refine z_st (st' := [.int (s_bits set 30)]) rfl ?_
  refine z_istore_n (lv' := [(3, .int (s_bits set 30)), (2, .int zm1), (1, .int set), (0, .ref (L 99))]) dX5_look_16 rfl (by decide) rfl ?_
  refine z_aload_n 3 dX5_look_17 rfl ?_
  refine z_callV (As := []) (t_triesNow (I := (tco (zs I 99 0 0) c_1 o_2)) (τ := t_3) hL) q1928 q1930 qs100 q121 q1931 nm_X5_triesNow (tX_obj hL) rfl rfl rfl (Nat.le_of_ble_eq_true rfl) ⟨Nat.le_of_ble_eq_true rfl, Nat.le_of_ble_eq_true rfl⟩ dX5_look_18 rfl rfl (Nat.le_of_ble_eq_true rfl) (Nat.le_of_ble_eq_true rfl) (fun v_11 X_12 hp_13 => ?_)
  obtain ⟨rfl, rfl⟩ := hp_13
  refine z_st (st' := []) rfl ?_
  refine z_iconst (v := 0) dX5_look_21 (by decide) ?_
  refine z_istore (lv' := [(4, .int 0), (3, .int (s_bits set 30)), (2, .int zm1), (1, .int set), (0, .ref (L 99))]) dX5_look_22 (by decide) rfl ?_
  have loop_18 : ∀ (q_15 i_14 : Nat), i_14 + q_15 = 25 → 0 ≤ i_14 → ∀ (Gb_19 : Nat → Nat → Int32), ∀ (c_20 : Int32), ∀ (o_21 : Int32), zZ g m_X5_look (fun rv X' => rv = some (.int ((s_lk (fun n => s_mx (s_lookf (s_go wv (I 10) (I 27) nh nd own now (I 24) n).1 nd (s_who (fun k => I 24 (2 * k + 31)) (fun k => I 24 (2 * k + 32)) nd sm (fun n => (s_go wv (I 10) (I 27) nh nd own now (I 24) n).1))) nh) (s_bits (s_who (fun k => I 24 (2 * k + 31)) (fun k => I 24 (2 * k + 32)) nd sm (fun n => (s_go wv (I 10) (I 27) nh nd own now (I 24) n).1)) 30) 25).1)) ∧ ∃ (I' : Nat → Nat → Int32) (Gb' : Nat → Nat → Int32), X' = tX g L I' J Gb' X ∧ tobs I I' ∧ I' 99 0 = 0, zno, ({ frames := 8, cells := 0, slots := 0, locals := 186 } : Room)) 0 0 (tX g L (tput (tco (zs I 99 0 0) c_20 o_21) 987 ((s_go wv (I 10) (I 27) nh nd own now (I 24) i_14).1)) J Gb_19 X) 24 [(0, .ref (L 99)), (1, .int set), (2, .int ((s_lk (fun n => s_mx (s_lookf (s_go wv (I 10) (I 27) nh nd own now (I 24) n).1 nd set) nh) (s_bits set 30) i_14).1)), (3, .int ((s_lk (fun n => s_mx (s_lookf (s_go wv (I 10) (I 27) nh nd own now (I 24) n).1 nd set) nh) (s_bits set 30) i_14).2)), (4, .int (nI (i_14)))] [] := by
    intro q_15
    induction q_15 with
    | zero =>
      intro i_14 hb_17 lo_22 Gb_19 c_20 o_21 
      obtain rfl : 25 = i_14 := by omega
      refine z_iload 4 dX5_look_24 rfl ?_
      refine z_bipush (v := 24) dX5_look_26 (by decide) ?_
      refine z_icmp_gtN (a := 25) (b := 24) 123 (by decide) (by decide) dX5_look_28 (by decide) (fun h_ => ?_) (fun h_ => absurd h_ (by decide))
      refine z_iload_n 2 dX5_look_123 rfl ?_
      exact z_iret dX5_look_124 rfl (Nat.le_of_ble_eq_true rfl) (Nat.le_of_ble_eq_true rfl) ⟨congrArg some (congrArg Value.int (by rw [hset])), (tput (tco (zs I 99 0 0) c_20 o_21) 987 ((s_go wv (I 10) (I 27) nh nd own now (I 24) 25).1)), Gb_19, rfl, (tobs_put (tobs_co (tobs_zs tobs_rf rfl)) (by decide)), rfl⟩
    | succ q_15 ih_16 =>
      intro i_14 hb_17 lo_22 Gb_19 c_20 o_21 
      refine z_iload 4 dX5_look_24 rfl ?_
      refine z_bipush (v := 24) dX5_look_26 (by decide) ?_
      refine z_icmp_gtN (a := i_14) (b := 24) 123 (by omega) (by omega) dX5_look_28 (by decide) (fun c_23 => absurd c_23 (by omega)) (fun c_23 => ?_)
      refine z_iconst (v := 0) dX5_look_31 (by decide) ?_
      refine z_istore (lv' := [(5, .int 0), (0, .ref (L 99)), (1, .int set), (2, .int ((s_lk (fun n => s_mx (s_lookf (s_go wv (I 10) (I 27) nh nd own now (I 24) n).1 nd set) nh) (s_bits set 30) i_14).1)), (3, .int ((s_lk (fun n => s_mx (s_lookf (s_go wv (I 10) (I 27) nh nd own now (I 24) n).1 nd set) nh) (s_bits set 30) i_14).2)), (4, .int (nI (i_14)))]) dX5_look_32 (by decide) rfl ?_
      refine z_iconst (v := zm1) dX5_look_34 (by decide) ?_
      refine z_istore (lv' := [(6, .int zm1), (5, .int 0), (0, .ref (L 99)), (1, .int set), (2, .int ((s_lk (fun n => s_mx (s_lookf (s_go wv (I 10) (I 27) nh nd own now (I 24) n).1 nd set) nh) (s_bits set 30) i_14).1)), (3, .int ((s_lk (fun n => s_mx (s_lookf (s_go wv (I 10) (I 27) nh nd own now (I 24) n).1 nd set) nh) (s_bits set 30) i_14).2)), (4, .int (nI (i_14)))]) dX5_look_35 (by decide) rfl ?_
      refine z_iload 0 dX5_look_37 rfl ?_
      refine z_aload_n 2 dX5_look_39 rfl ?_
      refine z_callV (As := []) (t_houses (I := (tput (tco (zs I 99 0 0) c_20 o_21) 987 ((s_go wv (I 10) (I 27) nh nd own now (I 24) i_14).1))) hL h0) q1585 q1587 qs56 q121 q1588 nm_X5_houses (tX_obj hL) rfl rfl rfl (Nat.le_of_ble_eq_true rfl) ⟨Nat.le_of_ble_eq_true rfl, Nat.le_of_ble_eq_true rfl⟩ dX5_look_40 rfl rfl (Nat.le_of_ble_eq_true rfl) (Nat.le_of_ble_eq_true rfl) (fun v_24 X_25 hp_26 => ?_)
      obtain ⟨rfl, rfl⟩ := hp_26
      refine z_st (st' := [.int (nI (nh)), .int zm1]) rfl ?_
      refine z_icmp_ge 84 dX5_look_43 (by decide) (fun c_27 => absurd c_27 (zm1_lt (by omega))) (fun c_27 => ?_)
      refine z_aload_n 2 dX5_look_46 rfl ?_
      refine z_sipush (v := 987) dX5_look_47 (by decide) ?_
      refine z_iload 0 dX5_look_50 rfl ?_
      refine z_callV (As := [.int 987, .int zm1]) (t_inHouse (I := (tco (zs I 99 0 0) c_20 o_21)) (σ := (s_go wv (I 10) (I 27) nh nd own now (I 24) i_14).1) hL h1 hnd 987 (by omega) zm1) q1838 q1840 qs87 q121 q1841 nm_X5_inHouse (tX_obj hL) rfl rfl rfl (Nat.le_of_ble_eq_true rfl) ⟨Nat.le_of_ble_eq_true rfl, Nat.le_of_ble_eq_true rfl⟩ dX5_look_52 rfl rfl (Nat.le_of_ble_eq_true rfl) (Nat.le_of_ble_eq_true rfl) (fun v_28 X_29 hp_30 => ?_)
      obtain ⟨rfl, rfl⟩ := hp_30
      refine z_st (st' := [.int (s_in ((s_go wv (I 10) (I 27) nh nd own now (I 24) i_14).1) zm1 nd)]) rfl ?_
      refine z_iload_n 3 dX5_look_55 rfl ?_
      refine z_iand dX5_look_56 ?_
      refine z_callS (As := [.int ((s_in ((s_go wv (I 10) (I 27) nh nd own now (I 24) i_14).1) zm1 nd) &&& set)]) (t_bits ((s_in ((s_go wv (I 10) (I 27) nh nd own now (I 24) i_14).1) zm1 nd) &&& set)) q1890 q1891 q121 q1892 nm_X5_bits rfl (Nat.le_of_ble_eq_true rfl) ⟨Nat.le_of_ble_eq_true rfl, Nat.le_of_ble_eq_true rfl⟩ dX5_look_57 rfl rfl (Nat.le_of_ble_eq_true rfl) (Nat.le_of_ble_eq_true rfl) (fun v_31 X_32 hp_33 => ?_)
      obtain ⟨rfl, rfl⟩ := hp_33
      refine z_st (st' := [.int (s_bits ((s_in ((s_go wv (I 10) (I 27) nh nd own now (I 24) i_14).1) zm1 nd) &&& set) 30)]) rfl ?_
      refine z_istore (lv' := [(7, .int (s_bits ((s_in ((s_go wv (I 10) (I 27) nh nd own now (I 24) i_14).1) zm1 nd) &&& set) 30)), (6, .int zm1), (5, .int 0), (0, .ref (L 99)), (1, .int set), (2, .int ((s_lk (fun n => s_mx (s_lookf (s_go wv (I 10) (I 27) nh nd own now (I 24) n).1 nd set) nh) (s_bits set 30) i_14).1)), (3, .int ((s_lk (fun n => s_mx (s_lookf (s_go wv (I 10) (I 27) nh nd own now (I 24) n).1 nd set) nh) (s_bits set 30) i_14).2)), (4, .int (nI (i_14)))]) dX5_look_60 (by decide) rfl ?_
      refine z_iload 0 dX5_look_62 rfl ?_
      refine z_iload 2 dX5_look_64 rfl ?_
      refine z_icmp_le 74 dX5_look_66 (by decide) (fun c_34 => ?_) (fun c_34 => ?_)
      · -- s_bits ((s_in ((s_go wv (I 10) (I 27) nh nd own now (I 24) i_14).1) zm1 nd) &&& set) 30 ≤ 0
        have c_34' := Int32.not_lt.mpr c_34
        refine z_iload 2 dX5_look_74 rfl ?_
        refine z_istore (lv' := [(5, .int 0), (7, .int (s_bits ((s_in ((s_go wv (I 10) (I 27) nh nd own now (I 24) i_14).1) zm1 nd) &&& set) 30)), (6, .int zm1), (0, .ref (L 99)), (1, .int set), (2, .int ((s_lk (fun n => s_mx (s_lookf (s_go wv (I 10) (I 27) nh nd own now (I 24) n).1 nd set) nh) (s_bits set 30) i_14).1)), (3, .int ((s_lk (fun n => s_mx (s_lookf (s_go wv (I 10) (I 27) nh nd own now (I 24) n).1 nd set) nh) (s_bits set 30) i_14).2)), (4, .int (nI (i_14)))]) dX5_look_76 (by decide) rfl ?_
        refine z_iinc (v := 0) (lv' := [(6, .int 0), (5, .int 0), (7, .int (s_bits ((s_in ((s_go wv (I 10) (I 27) nh nd own now (I 24) i_14).1) zm1 nd) &&& set) 30)), (0, .ref (L 99)), (1, .int set), (2, .int ((s_lk (fun n => s_mx (s_lookf (s_go wv (I 10) (I 27) nh nd own now (I 24) n).1 nd set) nh) (s_bits set 30) i_14).1)), (3, .int ((s_lk (fun n => s_mx (s_lookf (s_go wv (I 10) (I 27) nh nd own now (I 24) n).1 nd set) nh) (s_bits set 30) i_14).2)), (4, .int (nI (i_14)))]) 2 dX5_look_78 rfl (by decide) (by decide) rfl ?_
        refine z_goto 37 dX5_look_81 (by decide) ?_
        have loop_39 : ∀ (q_36 i_35 : Nat), i_35 + q_36 = nh → 0 ≤ i_35 → zZ g m_X5_look (fun rv X' => rv = some (.int ((s_lk (fun n => s_mx (s_lookf (s_go wv (I 10) (I 27) nh nd own now (I 24) n).1 nd (s_who (fun k => I 24 (2 * k + 31)) (fun k => I 24 (2 * k + 32)) nd sm (fun n => (s_go wv (I 10) (I 27) nh nd own now (I 24) n).1))) nh) (s_bits (s_who (fun k => I 24 (2 * k + 31)) (fun k => I 24 (2 * k + 32)) nd sm (fun n => (s_go wv (I 10) (I 27) nh nd own now (I 24) n).1)) 30) 25).1)) ∧ ∃ (I' : Nat → Nat → Int32) (Gb' : Nat → Nat → Int32), X' = tX g L I' J Gb' X ∧ tobs I I' ∧ I' 99 0 = 0, zno, ({ frames := 8, cells := 0, slots := 0, locals := 186 } : Room)) 0 0 (tX g L (tput (tco (zs I 99 0 0) c_20 o_21) 987 ((s_go wv (I 10) (I 27) nh nd own now (I 24) i_14).1)) J Gb_19 X) 37 [(0, .ref (L 99)), (1, .int set), (2, .int ((s_lk (fun n => s_mx (s_lookf (s_go wv (I 10) (I 27) nh nd own now (I 24) n).1 nd set) nh) (s_bits set 30) i_14).1)), (3, .int ((s_lk (fun n => s_mx (s_lookf (s_go wv (I 10) (I 27) nh nd own now (I 24) n).1 nd set) nh) (s_bits set 30) i_14).2)), (4, .int (nI (i_14))), (5, .int (s_mx (s_lookf (s_go wv (I 10) (I 27) nh nd own now (I 24) i_14).1 nd set) i_35)), (6, .int (nI (i_35)))] [] := by
          intro q_36
          induction q_36 with
          | zero =>
            intro i_35 hb_38 lo_40  
            obtain rfl : nh = i_35 := by omega
            refine z_iload 6 dX5_look_37 rfl ?_
            refine z_aload_n 0 dX5_look_39 rfl ?_
            refine z_callV (As := []) (t_houses (I := (tput (tco (zs I 99 0 0) c_20 o_21) 987 ((s_go wv (I 10) (I 27) nh nd own now (I 24) i_14).1))) hL h0) q1585 q1587 qs56 q121 q1588 nm_X5_houses (tX_obj hL) rfl rfl rfl (Nat.le_of_ble_eq_true rfl) ⟨Nat.le_of_ble_eq_true rfl, Nat.le_of_ble_eq_true rfl⟩ dX5_look_40 rfl rfl (Nat.le_of_ble_eq_true rfl) (Nat.le_of_ble_eq_true rfl) (fun v_41 X_42 hp_43 => ?_)
            obtain ⟨rfl, rfl⟩ := hp_43
            refine z_st (st' := [.int (nI (nh)), .int (nI (nh))]) rfl ?_
            refine z_icmp_geN (a := nh) (b := nh) 84 (by omega) (by omega) dX5_look_43 (by decide) (fun c_44 => ?_) (fun c_44 => absurd c_44 (by omega))
            refine z_iload 5 dX5_look_84 rfl ?_
            refine z_iload_n 3 dX5_look_86 rfl ?_
            refine z_icmp_ge 95 dX5_look_87 (by decide) (fun c_45 => ?_) (fun c_45 => ?_)
            · -- (s_lk (fun n => s_mx (s_lookf (s_go wv (I 10) (I 27) nh nd own now (I 24) n).1 nd set) nh) (s_bits set 30) i_14).2 ≤ s_mx (s_lookf (s_go wv (I 10) (I 27) nh nd own now (I 24) i_14).1 nd set) nh
              have c_45' := Int32.not_lt.mpr c_45
              refine z_iload_n 2 dX5_look_95 rfl ?_
              refine z_istore_n (lv' := [(2, .int ((s_lk (fun n => s_mx (s_lookf (s_go wv (I 10) (I 27) nh nd own now (I 24) n).1 nd set) nh) (s_bits set 30) i_14).1)), (0, .ref (L 99)), (1, .int set), (3, .int ((s_lk (fun n => s_mx (s_lookf (s_go wv (I 10) (I 27) nh nd own now (I 24) n).1 nd set) nh) (s_bits set 30) i_14).2)), (4, .int (nI (i_14))), (5, .int (s_mx (s_lookf (s_go wv (I 10) (I 27) nh nd own now (I 24) i_14).1 nd set) nh)), (6, .int (nI (nh)))]) dX5_look_96 rfl (by decide) rfl ?_
              refine z_iload 5 dX5_look_97 rfl ?_
              refine z_iload_n 3 dX5_look_99 rfl ?_
              refine z_icmp_ge 108 dX5_look_100 (by decide) (fun _ => ?_) (fun c_ => absurd c_45 c_)
              refine z_iload_n 3 dX5_look_108 rfl ?_
              refine z_istore_n (lv' := [(3, .int ((s_lk (fun n => s_mx (s_lookf (s_go wv (I 10) (I 27) nh nd own now (I 24) n).1 nd set) nh) (s_bits set 30) i_14).2)), (2, .int ((s_lk (fun n => s_mx (s_lookf (s_go wv (I 10) (I 27) nh nd own now (I 24) n).1 nd set) nh) (s_bits set 30) i_14).1)), (0, .ref (L 99)), (1, .int set), (4, .int (nI (i_14))), (5, .int (s_mx (s_lookf (s_go wv (I 10) (I 27) nh nd own now (I 24) i_14).1 nd set) nh)), (6, .int (nI (nh)))]) dX5_look_109 rfl (by decide) rfl ?_
              refine z_aload_n 2 dX5_look_110 rfl ?_
              refine z_sipush (v := 987) dX5_look_111 (by decide) ?_
              refine z_callV (As := [.int 987]) (t_passes_ (I := (zs I 99 0 0)) (hds := rfl) (σ := (s_go wv (I 10) (I 27) nh nd own now (I 24) i_14).1) (c := c_20) (o := o_21) hL hV hlaw 987 (by omega) (s_go_0 hw i_14) (by omega)) q1866 q1868 qs92 q121 q1869 nm_X5_passes (tX_obj hL) rfl rfl rfl (Nat.le_of_ble_eq_true rfl) ⟨Nat.le_of_ble_eq_true rfl, Nat.le_of_ble_eq_true rfl⟩ dX5_look_114 rfl rfl (Nat.le_of_ble_eq_true rfl) (Nat.le_of_ble_eq_true rfl) (fun v_47 X_48 hp_49 => ?_)
              obtain ⟨rfl, Gb_46, rfl⟩ := hp_49
              refine z_st (st' := []) rfl ?_
              refine z_iinc (v := nI (i_14 + 1)) (lv' := [(4, .int (nI (i_14 + 1))), (3, .int ((s_lk (fun n => s_mx (s_lookf (s_go wv (I 10) (I 27) nh nd own now (I 24) n).1 nd set) nh) (s_bits set 30) i_14).2)), (2, .int ((s_lk (fun n => s_mx (s_lookf (s_go wv (I 10) (I 27) nh nd own now (I 24) n).1 nd set) nh) (s_bits set 30) i_14).1)), (0, .ref (L 99)), (1, .int set), (5, .int (s_mx (s_lookf (s_go wv (I 10) (I 27) nh nd own now (I 24) i_14).1 nd set) nh)), (6, .int (nI (nh)))]) 4 dX5_look_117 rfl (nI_1 _) (by decide) rfl ?_
              refine z_goto 24 dX5_look_120 (by decide) ?_
              have f_50 : (s_lk (fun n => s_mx (s_lookf (s_go wv (I 10) (I 27) nh nd own now (I 24) n).1 nd set) nh) (s_bits set 30) i_14).1 = (s_lk (fun n => s_mx (s_lookf (s_go wv (I 10) (I 27) nh nd own now (I 24) n).1 nd set) nh) (s_bits set 30) (i_14 + 1)).1 := by first | rfl | omega | (simp [s_lk, hb_17, c_23, c_27, c_34, c_34', hb_38, c_44, c_45, c_45']; done) | (skip; simp [s_lk, hb_17, c_23, c_27, c_34, c_34', hb_38, c_44, c_45, c_45'])
              have f_51 : (s_lk (fun n => s_mx (s_lookf (s_go wv (I 10) (I 27) nh nd own now (I 24) n).1 nd set) nh) (s_bits set 30) i_14).2 = (s_lk (fun n => s_mx (s_lookf (s_go wv (I 10) (I 27) nh nd own now (I 24) n).1 nd set) nh) (s_bits set 30) (i_14 + 1)).2 := by first | rfl | omega | (simp [s_lk, hb_17, c_23, c_27, c_34, c_34', hb_38, c_44, c_45, c_45']; done) | (skip; simp [s_lk, hb_17, c_23, c_27, c_34, c_34', hb_38, c_44, c_45, c_45'])
              refine z_lv (lv' := [(0, .ref (L 99)), (1, .int set), (2, .int ((s_lk (fun n => s_mx (s_lookf (s_go wv (I 10) (I 27) nh nd own now (I 24) n).1 nd set) nh) (s_bits set 30) (i_14 + 1)).1)), (3, .int ((s_lk (fun n => s_mx (s_lookf (s_go wv (I 10) (I 27) nh nd own now (I 24) n).1 nd set) nh) (s_bits set 30) (i_14 + 1)).2)), (4, .int (nI (i_14 + 1)))]) [3, 4, 2, 1, 0] (by rw [← f_50, ← f_51]; rfl) ?_
              refine z_X (X' := (tX g L (tput (tco (zs I 99 0 0) ((s_pass wv (I 10) (I 27) nh nd own (now + i_14) ((s_go wv (I 10) (I 27) nh nd own now (I 24) i_14).1)).2.1) ((s_pass wv (I 10) (I 27) nh nd own (now + i_14) ((s_go wv (I 10) (I 27) nh nd own now (I 24) i_14).1)).2.2)) 987 ((s_go wv (I 10) (I 27) nh nd own now (I 24) (i_14 + 1)).1)) J Gb_46 X)) (by rfl) ?_
              exact ih_16 (i_14 + 1) (by omega) (by omega) _ _ _ 
            · -- ¬ (s_lk (fun n => s_mx (s_lookf (s_go wv (I 10) (I 27) nh nd own now (I 24) n).1 nd set) nh) (s_bits set 30) i_14).2 ≤ s_mx (s_lookf (s_go wv (I 10) (I 27) nh nd own now (I 24) i_14).1 nd set) nh
              have c_45' := Int32.not_le.mp c_45
              refine z_iload 4 dX5_look_90 rfl ?_
              refine z_goto 96 dX5_look_92 (by decide) ?_
              refine z_istore_n (lv' := [(2, .int (nI (i_14))), (0, .ref (L 99)), (1, .int set), (3, .int ((s_lk (fun n => s_mx (s_lookf (s_go wv (I 10) (I 27) nh nd own now (I 24) n).1 nd set) nh) (s_bits set 30) i_14).2)), (4, .int (nI (i_14))), (5, .int (s_mx (s_lookf (s_go wv (I 10) (I 27) nh nd own now (I 24) i_14).1 nd set) nh)), (6, .int (nI (nh)))]) dX5_look_96 rfl (by decide) rfl ?_
              refine z_iload 5 dX5_look_97 rfl ?_
              refine z_iload_n 3 dX5_look_99 rfl ?_
              refine z_icmp_ge 108 dX5_look_100 (by decide) (fun c_ => absurd c_ c_45) (fun _ => ?_)
              refine z_iload 5 dX5_look_103 rfl ?_
              refine z_goto 109 dX5_look_105 (by decide) ?_
              refine z_istore_n (lv' := [(3, .int (s_mx (s_lookf (s_go wv (I 10) (I 27) nh nd own now (I 24) i_14).1 nd set) nh)), (2, .int (nI (i_14))), (0, .ref (L 99)), (1, .int set), (4, .int (nI (i_14))), (5, .int (s_mx (s_lookf (s_go wv (I 10) (I 27) nh nd own now (I 24) i_14).1 nd set) nh)), (6, .int (nI (nh)))]) dX5_look_109 rfl (by decide) rfl ?_
              refine z_aload_n 2 dX5_look_110 rfl ?_
              refine z_sipush (v := 987) dX5_look_111 (by decide) ?_
              refine z_callV (As := [.int 987]) (t_passes_ (I := (zs I 99 0 0)) (hds := rfl) (σ := (s_go wv (I 10) (I 27) nh nd own now (I 24) i_14).1) (c := c_20) (o := o_21) hL hV hlaw 987 (by omega) (s_go_0 hw i_14) (by omega)) q1866 q1868 qs92 q121 q1869 nm_X5_passes (tX_obj hL) rfl rfl rfl (Nat.le_of_ble_eq_true rfl) ⟨Nat.le_of_ble_eq_true rfl, Nat.le_of_ble_eq_true rfl⟩ dX5_look_114 rfl rfl (Nat.le_of_ble_eq_true rfl) (Nat.le_of_ble_eq_true rfl) (fun v_53 X_54 hp_55 => ?_)
              obtain ⟨rfl, Gb_52, rfl⟩ := hp_55
              refine z_st (st' := []) rfl ?_
              refine z_iinc (v := nI (i_14 + 1)) (lv' := [(4, .int (nI (i_14 + 1))), (3, .int (s_mx (s_lookf (s_go wv (I 10) (I 27) nh nd own now (I 24) i_14).1 nd set) nh)), (2, .int (nI (i_14))), (0, .ref (L 99)), (1, .int set), (5, .int (s_mx (s_lookf (s_go wv (I 10) (I 27) nh nd own now (I 24) i_14).1 nd set) nh)), (6, .int (nI (nh)))]) 4 dX5_look_117 rfl (nI_1 _) (by decide) rfl ?_
              refine z_goto 24 dX5_look_120 (by decide) ?_
              have f_56 : nI (i_14) = (s_lk (fun n => s_mx (s_lookf (s_go wv (I 10) (I 27) nh nd own now (I 24) n).1 nd set) nh) (s_bits set 30) (i_14 + 1)).1 := by first | rfl | omega | (simp [s_lk, hb_17, c_23, c_27, c_34, c_34', hb_38, c_44, c_45, c_45']; done) | (skip; simp [s_lk, hb_17, c_23, c_27, c_34, c_34', hb_38, c_44, c_45, c_45'])
              have f_57 : s_mx (s_lookf (s_go wv (I 10) (I 27) nh nd own now (I 24) i_14).1 nd set) nh = (s_lk (fun n => s_mx (s_lookf (s_go wv (I 10) (I 27) nh nd own now (I 24) n).1 nd set) nh) (s_bits set 30) (i_14 + 1)).2 := by first | rfl | omega | (simp [s_lk, hb_17, c_23, c_27, c_34, c_34', hb_38, c_44, c_45, c_45']; done) | (skip; simp [s_lk, hb_17, c_23, c_27, c_34, c_34', hb_38, c_44, c_45, c_45'])
              refine z_lv (lv' := [(0, .ref (L 99)), (1, .int set), (2, .int ((s_lk (fun n => s_mx (s_lookf (s_go wv (I 10) (I 27) nh nd own now (I 24) n).1 nd set) nh) (s_bits set 30) (i_14 + 1)).1)), (3, .int ((s_lk (fun n => s_mx (s_lookf (s_go wv (I 10) (I 27) nh nd own now (I 24) n).1 nd set) nh) (s_bits set 30) (i_14 + 1)).2)), (4, .int (nI (i_14 + 1)))]) [3, 4, 2, 1, 0] (by rw [← f_56, ← f_57]; rfl) ?_
              refine z_X (X' := (tX g L (tput (tco (zs I 99 0 0) ((s_pass wv (I 10) (I 27) nh nd own (now + i_14) ((s_go wv (I 10) (I 27) nh nd own now (I 24) i_14).1)).2.1) ((s_pass wv (I 10) (I 27) nh nd own (now + i_14) ((s_go wv (I 10) (I 27) nh nd own now (I 24) i_14).1)).2.2)) 987 ((s_go wv (I 10) (I 27) nh nd own now (I 24) (i_14 + 1)).1)) J Gb_52 X)) (by rfl) ?_
              exact ih_16 (i_14 + 1) (by omega) (by omega) _ _ _ 
          | succ q_36 ih_37 =>
            intro i_35 hb_38 lo_40  
            refine z_iload 6 dX5_look_37 rfl ?_
            refine z_aload_n 0 dX5_look_39 rfl ?_
            refine z_callV (As := []) (t_houses (I := (tput (tco (zs I 99 0 0) c_20 o_21) 987 ((s_go wv (I 10) (I 27) nh nd own now (I 24) i_14).1))) hL h0) q1585 q1587 qs56 q121 q1588 nm_X5_houses (tX_obj hL) rfl rfl rfl (Nat.le_of_ble_eq_true rfl) ⟨Nat.le_of_ble_eq_true rfl, Nat.le_of_ble_eq_true rfl⟩ dX5_look_40 rfl rfl (Nat.le_of_ble_eq_true rfl) (Nat.le_of_ble_eq_true rfl) (fun v_58 X_59 hp_60 => ?_)
            obtain ⟨rfl, rfl⟩ := hp_60
            refine z_st (st' := [.int (nI (nh)), .int (nI (i_35))]) rfl ?_
            refine z_icmp_geN (a := i_35) (b := nh) 84 (by omega) (by omega) dX5_look_43 (by decide) (fun c_61 => absurd c_61 (by omega)) (fun c_61 => ?_)
            refine z_aload_n 0 dX5_look_46 rfl ?_
            refine z_sipush (v := 987) dX5_look_47 (by decide) ?_
            refine z_iload 6 dX5_look_50 rfl ?_
            refine z_callV (As := [.int 987, .int (nI (i_35))]) (t_inHouse (I := (tco (zs I 99 0 0) c_20 o_21)) (σ := (s_go wv (I 10) (I 27) nh nd own now (I 24) i_14).1) hL h1 hnd 987 (by omega) (nI (i_35))) q1838 q1840 qs87 q121 q1841 nm_X5_inHouse (tX_obj hL) rfl rfl rfl (Nat.le_of_ble_eq_true rfl) ⟨Nat.le_of_ble_eq_true rfl, Nat.le_of_ble_eq_true rfl⟩ dX5_look_52 rfl rfl (Nat.le_of_ble_eq_true rfl) (Nat.le_of_ble_eq_true rfl) (fun v_62 X_63 hp_64 => ?_)
            obtain ⟨rfl, rfl⟩ := hp_64
            refine z_st (st' := [.int (s_in ((s_go wv (I 10) (I 27) nh nd own now (I 24) i_14).1) (nI (i_35)) nd)]) rfl ?_
            refine z_iload_n 1 dX5_look_55 rfl ?_
            refine z_iand dX5_look_56 ?_
            refine z_callS (As := [.int ((s_in ((s_go wv (I 10) (I 27) nh nd own now (I 24) i_14).1) (nI (i_35)) nd) &&& set)]) (t_bits ((s_in ((s_go wv (I 10) (I 27) nh nd own now (I 24) i_14).1) (nI (i_35)) nd) &&& set)) q1890 q1891 q121 q1892 nm_X5_bits rfl (Nat.le_of_ble_eq_true rfl) ⟨Nat.le_of_ble_eq_true rfl, Nat.le_of_ble_eq_true rfl⟩ dX5_look_57 rfl rfl (Nat.le_of_ble_eq_true rfl) (Nat.le_of_ble_eq_true rfl) (fun v_65 X_66 hp_67 => ?_)
            obtain ⟨rfl, rfl⟩ := hp_67
            refine z_st (st' := [.int (s_bits ((s_in ((s_go wv (I 10) (I 27) nh nd own now (I 24) i_14).1) (nI (i_35)) nd) &&& set) 30)]) rfl ?_
            refine z_istore (lv' := [(7, .int (s_bits ((s_in ((s_go wv (I 10) (I 27) nh nd own now (I 24) i_14).1) (nI (i_35)) nd) &&& set) 30)), (0, .ref (L 99)), (1, .int set), (2, .int ((s_lk (fun n => s_mx (s_lookf (s_go wv (I 10) (I 27) nh nd own now (I 24) n).1 nd set) nh) (s_bits set 30) i_14).1)), (3, .int ((s_lk (fun n => s_mx (s_lookf (s_go wv (I 10) (I 27) nh nd own now (I 24) n).1 nd set) nh) (s_bits set 30) i_14).2)), (4, .int (nI (i_14))), (5, .int (s_mx (s_lookf (s_go wv (I 10) (I 27) nh nd own now (I 24) i_14).1 nd set) i_35)), (6, .int (nI (i_35)))]) dX5_look_60 (by decide) rfl ?_
            refine z_iload 0 dX5_look_62 rfl ?_
            refine z_iload 6 dX5_look_64 rfl ?_
            refine z_icmp_le 74 dX5_look_66 (by decide) (fun c_68 => ?_) (fun c_68 => ?_)
            · -- s_bits ((s_in ((s_go wv (I 10) (I 27) nh nd own now (I 24) i_14).1) (nI (i_35)) nd) &&& set) 30 ≤ s_mx (s_lookf (s_go wv (I 10) (I 27) nh nd own now (I 24) i_14).1 nd set) i_35
              have c_68' := Int32.not_lt.mpr c_68
              refine z_iload 6 dX5_look_74 rfl ?_
              refine z_istore (lv' := [(5, .int (s_mx (s_lookf (s_go wv (I 10) (I 27) nh nd own now (I 24) i_14).1 nd set) i_35)), (7, .int (s_bits ((s_in ((s_go wv (I 10) (I 27) nh nd own now (I 24) i_14).1) (nI (i_35)) nd) &&& set) 30)), (0, .ref (L 99)), (1, .int set), (2, .int ((s_lk (fun n => s_mx (s_lookf (s_go wv (I 10) (I 27) nh nd own now (I 24) n).1 nd set) nh) (s_bits set 30) i_14).1)), (3, .int ((s_lk (fun n => s_mx (s_lookf (s_go wv (I 10) (I 27) nh nd own now (I 24) n).1 nd set) nh) (s_bits set 30) i_14).2)), (4, .int (nI (i_14))), (6, .int (nI (i_35)))]) dX5_look_76 (by decide) rfl ?_
              refine z_iinc (v := nI (i_35 + 1)) (lv' := [(6, .int (nI (i_35 + 1))), (5, .int (s_mx (s_lookf (s_go wv (I 10) (I 27) nh nd own now (I 24) i_14).1 nd set) i_35)), (7, .int (s_bits ((s_in ((s_go wv (I 10) (I 27) nh nd own now (I 24) i_14).1) (nI (i_35)) nd) &&& set) 30)), (0, .ref (L 99)), (1, .int set), (2, .int ((s_lk (fun n => s_mx (s_lookf (s_go wv (I 10) (I 27) nh nd own now (I 24) n).1 nd set) nh) (s_bits set 30) i_14).1)), (3, .int ((s_lk (fun n => s_mx (s_lookf (s_go wv (I 10) (I 27) nh nd own now (I 24) n).1 nd set) nh) (s_bits set 30) i_14).2)), (4, .int (nI (i_14)))]) 7 dX5_look_78 rfl (nI_1 _) (by decide) rfl ?_
              refine z_goto 37 dX5_look_81 (by decide) ?_
              have f_69 : s_mx (s_lookf (s_go wv (I 10) (I 27) nh nd own now (I 24) i_14).1 nd set) i_35 = s_mx (s_lookf (s_go wv (I 10) (I 27) nh nd own now (I 24) i_14).1 nd set) (i_35 + 1) := by skip; first | rfl | (simp [s_mx, s_lookf, c_23, c_27, c_34, c_34', c_61, c_68, c_68']; done) | (simp [s_mx, s_lookf, m1neg, c_23, c_27, c_34, c_34', c_61, c_68, c_68'])
              refine z_lv (lv' := [(0, .ref (L 99)), (1, .int set), (2, .int ((s_lk (fun n => s_mx (s_lookf (s_go wv (I 10) (I 27) nh nd own now (I 24) n).1 nd set) nh) (s_bits set 30) i_14).1)), (3, .int ((s_lk (fun n => s_mx (s_lookf (s_go wv (I 10) (I 27) nh nd own now (I 24) n).1 nd set) nh) (s_bits set 30) i_14).2)), (4, .int (nI (i_14))), (5, .int (s_mx (s_lookf (s_go wv (I 10) (I 27) nh nd own now (I 24) i_14).1 nd set) (i_35 + 1))), (6, .int (nI (i_35 + 1)))]) [3, 4, 5, 6, 7, 1, 0] (by rw [← f_69]; rfl) ?_
              exact ih_37 (i_35 + 1) (by omega) (by omega)  
            · -- ¬ s_bits ((s_in ((s_go wv (I 10) (I 27) nh nd own now (I 24) i_14).1) (nI (i_35)) nd) &&& set) 30 ≤ s_mx (s_lookf (s_go wv (I 10) (I 27) nh nd own now (I 24) i_14).1 nd set) i_35
              have c_68' := Int32.not_le.mp c_68
              refine z_iload 0 dX5_look_69 rfl ?_
              refine z_goto 76 dX5_look_71 (by decide) ?_
              refine z_istore (lv' := [(5, .int (s_bits ((s_in ((s_go wv (I 10) (I 27) nh nd own now (I 24) i_14).1) (nI (i_35)) nd) &&& set) 30)), (7, .int (s_bits ((s_in ((s_go wv (I 10) (I 27) nh nd own now (I 24) i_14).1) (nI (i_35)) nd) &&& set) 30)), (0, .ref (L 99)), (1, .int set), (2, .int ((s_lk (fun n => s_mx (s_lookf (s_go wv (I 10) (I 27) nh nd own now (I 24) n).1 nd set) nh) (s_bits set 30) i_14).1)), (3, .int ((s_lk (fun n => s_mx (s_lookf (s_go wv (I 10) (I 27) nh nd own now (I 24) n).1 nd set) nh) (s_bits set 30) i_14).2)), (4, .int (nI (i_14))), (6, .int (nI (i_35)))]) dX5_look_76 (by decide) rfl ?_
              refine z_iinc (v := nI (i_35 + 1)) (lv' := [(6, .int (nI (i_35 + 1))), (5, .int (s_bits ((s_in ((s_go wv (I 10) (I 27) nh nd own now (I 24) i_14).1) (nI (i_35)) nd) &&& set) 30)), (7, .int (s_bits ((s_in ((s_go wv (I 10) (I 27) nh nd own now (I 24) i_14).1) (nI (i_35)) nd) &&& set) 30)), (0, .ref (L 99)), (1, .int set), (2, .int ((s_lk (fun n => s_mx (s_lookf (s_go wv (I 10) (I 27) nh nd own now (I 24) n).1 nd set) nh) (s_bits set 30) i_14).1)), (3, .int ((s_lk (fun n => s_mx (s_lookf (s_go wv (I 10) (I 27) nh nd own now (I 24) n).1 nd set) nh) (s_bits set 30) i_14).2)), (4, .int (nI (i_14)))]) 7 dX5_look_78 rfl (nI_1 _) (by decide) rfl ?_
              refine z_goto 37 dX5_look_81 (by decide) ?_
              have f_70 : s_bits ((s_in ((s_go wv (I 10) (I 27) nh nd own now (I 24) i_14).1) (nI (i_35)) nd) &&& set) 30 = s_mx (s_lookf (s_go wv (I 10) (I 27) nh nd own now (I 24) i_14).1 nd set) (i_35 + 1) := by skip; first | rfl | (simp [s_mx, s_lookf, c_23, c_27, c_34, c_34', c_61, c_68, c_68']; done) | (simp [s_mx, s_lookf, m1neg, c_23, c_27, c_34, c_34', c_61, c_68, c_68'])
              refine z_lv (lv' := [(0, .ref (L 99)), (1, .int set), (2, .int ((s_lk (fun n => s_mx (s_lookf (s_go wv (I 10) (I 27) nh nd own now (I 24) n).1 nd set) nh) (s_bits set 30) i_14).1)), (3, .int ((s_lk (fun n => s_mx (s_lookf (s_go wv (I 10) (I 27) nh nd own now (I 24) n).1 nd set) nh) (s_bits set 30) i_14).2)), (4, .int (nI (i_14))), (5, .int (s_mx (s_lookf (s_go wv (I 10) (I 27) nh nd own now (I 24) i_14).1 nd set) (i_35 + 1))), (6, .int (nI (i_35 + 1)))]) [3, 4, 5, 6, 7, 1, 0] (by rw [← f_70]; rfl) ?_
              exact ih_37 (i_35 + 1) (by omega) (by omega)  
        have f_71 : 0 = s_mx (s_lookf (s_go wv (I 10) (I 27) nh nd own now (I 24) i_14).1 nd set) 0 := by skip; first | rfl | (simp [s_mx, s_lookf, c_23, c_27, c_34, c_34']; done) | (simp [s_mx, s_lookf, m1neg, c_23, c_27, c_34, c_34'])
        refine z_lv (lv' := [(0, .ref (L 99)), (1, .int set), (2, .int ((s_lk (fun n => s_mx (s_lookf (s_go wv (I 10) (I 27) nh nd own now (I 24) n).1 nd set) nh) (s_bits set 30) i_14).1)), (3, .int ((s_lk (fun n => s_mx (s_lookf (s_go wv (I 10) (I 27) nh nd own now (I 24) n).1 nd set) nh) (s_bits set 30) i_14).2)), (4, .int (nI (i_14))), (5, .int (s_mx (s_lookf (s_go wv (I 10) (I 27) nh nd own now (I 24) i_14).1 nd set) 0)), (6, .int 0)]) [3, 4, 5, 6, 7, 1, 0] (by rw [← f_71]; rfl) ?_
        exact loop_39 (nh - 0) 0 (by omega) (Nat.le_refl _)  
      · -- ¬ s_bits ((s_in ((s_go wv (I 10) (I 27) nh nd own now (I 24) i_14).1) zm1 nd) &&& set) 30 ≤ 0
        have c_34' := Int32.not_le.mp c_34
        refine z_iload 0 dX5_look_69 rfl ?_
        refine z_goto 76 dX5_look_71 (by decide) ?_
        refine z_istore (lv' := [(5, .int (s_bits ((s_in ((s_go wv (I 10) (I 27) nh nd own now (I 24) i_14).1) zm1 nd) &&& set) 30)), (7, .int (s_bits ((s_in ((s_go wv (I 10) (I 27) nh nd own now (I 24) i_14).1) zm1 nd) &&& set) 30)), (6, .int zm1), (0, .ref (L 99)), (1, .int set), (2, .int ((s_lk (fun n => s_mx (s_lookf (s_go wv (I 10) (I 27) nh nd own now (I 24) n).1 nd set) nh) (s_bits set 30) i_14).1)), (3, .int ((s_lk (fun n => s_mx (s_lookf (s_go wv (I 10) (I 27) nh nd own now (I 24) n).1 nd set) nh) (s_bits set 30) i_14).2)), (4, .int (nI (i_14)))]) dX5_look_76 (by decide) rfl ?_
        refine z_iinc (v := 0) (lv' := [(6, .int 0), (5, .int (s_bits ((s_in ((s_go wv (I 10) (I 27) nh nd own now (I 24) i_14).1) zm1 nd) &&& set) 30)), (7, .int (s_bits ((s_in ((s_go wv (I 10) (I 27) nh nd own now (I 24) i_14).1) zm1 nd) &&& set) 30)), (0, .ref (L 99)), (1, .int set), (2, .int ((s_lk (fun n => s_mx (s_lookf (s_go wv (I 10) (I 27) nh nd own now (I 24) n).1 nd set) nh) (s_bits set 30) i_14).1)), (3, .int ((s_lk (fun n => s_mx (s_lookf (s_go wv (I 10) (I 27) nh nd own now (I 24) n).1 nd set) nh) (s_bits set 30) i_14).2)), (4, .int (nI (i_14)))]) 2 dX5_look_78 rfl (by decide) (by decide) rfl ?_
        refine z_goto 37 dX5_look_81 (by decide) ?_
        have loop_76 : ∀ (q_73 i_72 : Nat), i_72 + q_73 = nh → 0 ≤ i_72 → zZ g m_X5_look (fun rv X' => rv = some (.int ((s_lk (fun n => s_mx (s_lookf (s_go wv (I 10) (I 27) nh nd own now (I 24) n).1 nd (s_who (fun k => I 24 (2 * k + 31)) (fun k => I 24 (2 * k + 32)) nd sm (fun n => (s_go wv (I 10) (I 27) nh nd own now (I 24) n).1))) nh) (s_bits (s_who (fun k => I 24 (2 * k + 31)) (fun k => I 24 (2 * k + 32)) nd sm (fun n => (s_go wv (I 10) (I 27) nh nd own now (I 24) n).1)) 30) 25).1)) ∧ ∃ (I' : Nat → Nat → Int32) (Gb' : Nat → Nat → Int32), X' = tX g L I' J Gb' X ∧ tobs I I' ∧ I' 99 0 = 0, zno, ({ frames := 8, cells := 0, slots := 0, locals := 186 } : Room)) 0 0 (tX g L (tput (tco (zs I 99 0 0) c_20 o_21) 987 ((s_go wv (I 10) (I 27) nh nd own now (I 24) i_14).1)) J Gb_19 X) 37 [(0, .ref (L 99)), (1, .int set), (2, .int ((s_lk (fun n => s_mx (s_lookf (s_go wv (I 10) (I 27) nh nd own now (I 24) n).1 nd set) nh) (s_bits set 30) i_14).1)), (3, .int ((s_lk (fun n => s_mx (s_lookf (s_go wv (I 10) (I 27) nh nd own now (I 24) n).1 nd set) nh) (s_bits set 30) i_14).2)), (4, .int (nI (i_14))), (5, .int (s_mx (s_lookf (s_go wv (I 10) (I 27) nh nd own now (I 24) i_14).1 nd set) i_72)), (6, .int (nI (i_72)))] [] := by
          intro q_73
          induction q_73 with
          | zero =>
            intro i_72 hb_75 lo_77  
            obtain rfl : nh = i_72 := by omega
            refine z_iload 6 dX5_look_37 rfl ?_
            refine z_aload_n 0 dX5_look_39 rfl ?_
            refine z_callV (As := []) (t_houses (I := (tput (tco (zs I 99 0 0) c_20 o_21) 987 ((s_go wv (I 10) (I 27) nh nd own now (I 24) i_14).1))) hL h0) q1585 q1587 qs56 q121 q1588 nm_X5_houses (tX_obj hL) rfl rfl rfl (Nat.le_of_ble_eq_true rfl) ⟨Nat.le_of_ble_eq_true rfl, Nat.le_of_ble_eq_true rfl⟩ dX5_look_40 rfl rfl (Nat.le_of_ble_eq_true rfl) (Nat.le_of_ble_eq_true rfl) (fun v_78 X_79 hp_80 => ?_)
            obtain ⟨rfl, rfl⟩ := hp_80
            refine z_st (st' := [.int (nI (nh)), .int (nI (nh))]) rfl ?_
            refine z_icmp_geN (a := nh) (b := nh) 84 (by omega) (by omega) dX5_look_43 (by decide) (fun c_81 => ?_) (fun c_81 => absurd c_81 (by omega))
            refine z_iload 5 dX5_look_84 rfl ?_
            refine z_iload_n 3 dX5_look_86 rfl ?_
            refine z_icmp_ge 95 dX5_look_87 (by decide) (fun c_82 => ?_) (fun c_82 => ?_)
            · -- (s_lk (fun n => s_mx (s_lookf (s_go wv (I 10) (I 27) nh nd own now (I 24) n).1 nd set) nh) (s_bits set 30) i_14).2 ≤ s_mx (s_lookf (s_go wv (I 10) (I 27) nh nd own now (I 24) i_14).1 nd set) nh
              have c_82' := Int32.not_lt.mpr c_82
              refine z_iload_n 2 dX5_look_95 rfl ?_
              refine z_istore_n (lv' := [(2, .int ((s_lk (fun n => s_mx (s_lookf (s_go wv (I 10) (I 27) nh nd own now (I 24) n).1 nd set) nh) (s_bits set 30) i_14).1)), (0, .ref (L 99)), (1, .int set), (3, .int ((s_lk (fun n => s_mx (s_lookf (s_go wv (I 10) (I 27) nh nd own now (I 24) n).1 nd set) nh) (s_bits set 30) i_14).2)), (4, .int (nI (i_14))), (5, .int (s_mx (s_lookf (s_go wv (I 10) (I 27) nh nd own now (I 24) i_14).1 nd set) nh)), (6, .int (nI (nh)))]) dX5_look_96 rfl (by decide) rfl ?_
              refine z_iload 5 dX5_look_97 rfl ?_
              refine z_iload_n 3 dX5_look_99 rfl ?_
              refine z_icmp_ge 108 dX5_look_100 (by decide) (fun _ => ?_) (fun c_ => absurd c_82 c_)
              refine z_iload_n 3 dX5_look_108 rfl ?_
              refine z_istore_n (lv' := [(3, .int ((s_lk (fun n => s_mx (s_lookf (s_go wv (I 10) (I 27) nh nd own now (I 24) n).1 nd set) nh) (s_bits set 30) i_14).2)), (2, .int ((s_lk (fun n => s_mx (s_lookf (s_go wv (I 10) (I 27) nh nd own now (I 24) n).1 nd set) nh) (s_bits set 30) i_14).1)), (0, .ref (L 99)), (1, .int set), (4, .int (nI (i_14))), (5, .int (s_mx (s_lookf (s_go wv (I 10) (I 27) nh nd own now (I 24) i_14).1 nd set) nh)), (6, .int (nI (nh)))]) dX5_look_109 rfl (by decide) rfl ?_
              refine z_aload_n 2 dX5_look_110 rfl ?_
              refine z_sipush (v := 987) dX5_look_111 (by decide) ?_
              refine z_callV (As := [.int 987]) (t_passes_ (I := (zs I 99 0 0)) (hds := rfl) (σ := (s_go wv (I 10) (I 27) nh nd own now (I 24) i_14).1) (c := c_20) (o := o_21) hL hV hlaw 987 (by omega) (s_go_0 hw i_14) (by omega)) q1866 q1868 qs92 q121 q1869 nm_X5_passes (tX_obj hL) rfl rfl rfl (Nat.le_of_ble_eq_true rfl) ⟨Nat.le_of_ble_eq_true rfl, Nat.le_of_ble_eq_true rfl⟩ dX5_look_114 rfl rfl (Nat.le_of_ble_eq_true rfl) (Nat.le_of_ble_eq_true rfl) (fun v_84 X_85 hp_86 => ?_)
              obtain ⟨rfl, Gb_83, rfl⟩ := hp_86
              refine z_st (st' := []) rfl ?_
              refine z_iinc (v := nI (i_14 + 1)) (lv' := [(4, .int (nI (i_14 + 1))), (3, .int ((s_lk (fun n => s_mx (s_lookf (s_go wv (I 10) (I 27) nh nd own now (I 24) n).1 nd set) nh) (s_bits set 30) i_14).2)), (2, .int ((s_lk (fun n => s_mx (s_lookf (s_go wv (I 10) (I 27) nh nd own now (I 24) n).1 nd set) nh) (s_bits set 30) i_14).1)), (0, .ref (L 99)), (1, .int set), (5, .int (s_mx (s_lookf (s_go wv (I 10) (I 27) nh nd own now (I 24) i_14).1 nd set) nh)), (6, .int (nI (nh)))]) 4 dX5_look_117 rfl (nI_1 _) (by decide) rfl ?_
              refine z_goto 24 dX5_look_120 (by decide) ?_
              have f_87 : (s_lk (fun n => s_mx (s_lookf (s_go wv (I 10) (I 27) nh nd own now (I 24) n).1 nd set) nh) (s_bits set 30) i_14).1 = (s_lk (fun n => s_mx (s_lookf (s_go wv (I 10) (I 27) nh nd own now (I 24) n).1 nd set) nh) (s_bits set 30) (i_14 + 1)).1 := by first | rfl | omega | (simp [s_lk, hb_17, c_23, c_27, c_34, c_34', hb_75, c_81, c_82, c_82']; done) | (skip; simp [s_lk, hb_17, c_23, c_27, c_34, c_34', hb_75, c_81, c_82, c_82'])
              have f_88 : (s_lk (fun n => s_mx (s_lookf (s_go wv (I 10) (I 27) nh nd own now (I 24) n).1 nd set) nh) (s_bits set 30) i_14).2 = (s_lk (fun n => s_mx (s_lookf (s_go wv (I 10) (I 27) nh nd own now (I 24) n).1 nd set) nh) (s_bits set 30) (i_14 + 1)).2 := by first | rfl | omega | (simp [s_lk, hb_17, c_23, c_27, c_34, c_34', hb_75, c_81, c_82, c_82']; done) | (skip; simp [s_lk, hb_17, c_23, c_27, c_34, c_34', hb_75, c_81, c_82, c_82'])
              refine z_lv (lv' := [(0, .ref (L 99)), (1, .int set), (2, .int ((s_lk (fun n => s_mx (s_lookf (s_go wv (I 10) (I 27) nh nd own now (I 24) n).1 nd set) nh) (s_bits set 30) (i_14 + 1)).1)), (3, .int ((s_lk (fun n => s_mx (s_lookf (s_go wv (I 10) (I 27) nh nd own now (I 24) n).1 nd set) nh) (s_bits set 30) (i_14 + 1)).2)), (4, .int (nI (i_14 + 1)))]) [3, 4, 2, 1, 0] (by rw [← f_87, ← f_88]; rfl) ?_
              refine z_X (X' := (tX g L (tput (tco (zs I 99 0 0) ((s_pass wv (I 10) (I 27) nh nd own (now + i_14) ((s_go wv (I 10) (I 27) nh nd own now (I 24) i_14).1)).2.1) ((s_pass wv (I 10) (I 27) nh nd own (now + i_14) ((s_go wv (I 10) (I 27) nh nd own now (I 24) i_14).1)).2.2)) 987 ((s_go wv (I 10) (I 27) nh nd own now (I 24) (i_14 + 1)).1)) J Gb_83 X)) (by rfl) ?_
              exact ih_16 (i_14 + 1) (by omega) (by omega) _ _ _ 
            · -- ¬ (s_lk (fun n => s_mx (s_lookf (s_go wv (I 10) (I 27) nh nd own now (I 24) n).1 nd set) nh) (s_bits set 30) i_14).2 ≤ s_mx (s_lookf (s_go wv (I 10) (I 27) nh nd own now (I 24) i_14).1 nd set) nh
              have c_82' := Int32.not_le.mp c_82
              refine z_iload 4 dX5_look_90 rfl ?_
              refine z_goto 96 dX5_look_92 (by decide) ?_
              refine z_istore_n (lv' := [(2, .int (nI (i_14))), (0, .ref (L 99)), (1, .int set), (3, .int ((s_lk (fun n => s_mx (s_lookf (s_go wv (I 10) (I 27) nh nd own now (I 24) n).1 nd set) nh) (s_bits set 30) i_14).2)), (4, .int (nI (i_14))), (5, .int (s_mx (s_lookf (s_go wv (I 10) (I 27) nh nd own now (I 24) i_14).1 nd set) nh)), (6, .int (nI (nh)))]) dX5_look_96 rfl (by decide) rfl ?_
              refine z_iload 5 dX5_look_97 rfl ?_
              refine z_iload_n 3 dX5_look_99 rfl ?_
              refine z_icmp_ge 108 dX5_look_100 (by decide) (fun c_ => absurd c_ c_82) (fun _ => ?_)
              refine z_iload 5 dX5_look_103 rfl ?_
              refine z_goto 109 dX5_look_105 (by decide) ?_
              refine z_istore_n (lv' := [(3, .int (s_mx (s_lookf (s_go wv (I 10) (I 27) nh nd own now (I 24) i_14).1 nd set) nh)), (2, .int (nI (i_14))), (0, .ref (L 99)), (1, .int set), (4, .int (nI (i_14))), (5, .int (s_mx (s_lookf (s_go wv (I 10) (I 27) nh nd own now (I 24) i_14).1 nd set) nh)), (6, .int (nI (nh)))]) dX5_look_109 rfl (by decide) rfl ?_
              refine z_aload_n 2 dX5_look_110 rfl ?_
              refine z_sipush (v := 987) dX5_look_111 (by decide) ?_
              refine z_callV (As := [.int 987]) (t_passes_ (I := (zs I 99 0 0)) (hds := rfl) (σ := (s_go wv (I 10) (I 27) nh nd own now (I 24) i_14).1) (c := c_20) (o := o_21) hL hV hlaw 987 (by omega) (s_go_0 hw i_14) (by omega)) q1866 q1868 qs92 q121 q1869 nm_X5_passes (tX_obj hL) rfl rfl rfl (Nat.le_of_ble_eq_true rfl) ⟨Nat.le_of_ble_eq_true rfl, Nat.le_of_ble_eq_true rfl⟩ dX5_look_114 rfl rfl (Nat.le_of_ble_eq_true rfl) (Nat.le_of_ble_eq_true rfl) (fun v_90 X_91 hp_92 => ?_)
              obtain ⟨rfl, Gb_89, rfl⟩ := hp_92
              refine z_st (st' := []) rfl ?_
              refine z_iinc (v := nI (i_14 + 1)) (lv' := [(4, .int (nI (i_14 + 1))), (3, .int (s_mx (s_lookf (s_go wv (I 10) (I 27) nh nd own now (I 24) i_14).1 nd set) nh)), (2, .int (nI (i_14))), (0, .ref (L 99)), (1, .int set), (5, .int (s_mx (s_lookf (s_go wv (I 10) (I 27) nh nd own now (I 24) i_14).1 nd set) nh)), (6, .int (nI (nh)))]) 4 dX5_look_117 rfl (nI_1 _) (by decide) rfl ?_
              refine z_goto 24 dX5_look_120 (by decide) ?_
              have f_93 : nI (i_14) = (s_lk (fun n => s_mx (s_lookf (s_go wv (I 10) (I 27) nh nd own now (I 24) n).1 nd set) nh) (s_bits set 30) (i_14 + 1)).1 := by first | rfl | omega | (simp [s_lk, hb_17, c_23, c_27, c_34, c_34', hb_75, c_81, c_82, c_82']; done) | (skip; simp [s_lk, hb_17, c_23, c_27, c_34, c_34', hb_75, c_81, c_82, c_82'])
              have f_94 : s_mx (s_lookf (s_go wv (I 10) (I 27) nh nd own now (I 24) i_14).1 nd set) nh = (s_lk (fun n => s_mx (s_lookf (s_go wv (I 10) (I 27) nh nd own now (I 24) n).1 nd set) nh) (s_bits set 30) (i_14 + 1)).2 := by first | rfl | omega | (simp [s_lk, hb_17, c_23, c_27, c_34, c_34', hb_75, c_81, c_82, c_82']; done) | (skip; simp [s_lk, hb_17, c_23, c_27, c_34, c_34', hb_75, c_81, c_82, c_82'])
              refine z_lv (lv' := [(0, .ref (L 99)), (1, .int set), (2, .int ((s_lk (fun n => s_mx (s_lookf (s_go wv (I 10) (I 27) nh nd own now (I 24) n).1 nd set) nh) (s_bits set 30) (i_14 + 1)).1)), (3, .int ((s_lk (fun n => s_mx (s_lookf (s_go wv (I 10) (I 27) nh nd own now (I 24) n).1 nd set) nh) (s_bits set 30) (i_14 + 1)).2)), (4, .int (nI (i_14 + 1)))]) [3, 4, 2, 1, 0] (by rw [← f_93, ← f_94]; rfl) ?_
              refine z_X (X' := (tX g L (tput (tco (zs I 99 0 0) ((s_pass wv (I 10) (I 27) nh nd own (now + i_14) ((s_go wv (I 10) (I 27) nh nd own now (I 24) i_14).1)).2.1) ((s_pass wv (I 10) (I 27) nh nd own (now + i_14) ((s_go wv (I 10) (I 27) nh nd own now (I 24) i_14).1)).2.2)) 987 ((s_go wv (I 10) (I 27) nh nd own now (I 24) (i_14 + 1)).1)) J Gb_89 X)) (by rfl) ?_
              exact ih_16 (i_14 + 1) (by omega) (by omega) _ _ _ 
          | succ q_73 ih_74 =>
            intro i_72 hb_75 lo_77  
            refine z_iload 6 dX5_look_37 rfl ?_
            refine z_aload_n 0 dX5_look_39 rfl ?_
            refine z_callV (As := []) (t_houses (I := (tput (tco (zs I 99 0 0) c_20 o_21) 987 ((s_go wv (I 10) (I 27) nh nd own now (I 24) i_14).1))) hL h0) q1585 q1587 qs56 q121 q1588 nm_X5_houses (tX_obj hL) rfl rfl rfl (Nat.le_of_ble_eq_true rfl) ⟨Nat.le_of_ble_eq_true rfl, Nat.le_of_ble_eq_true rfl⟩ dX5_look_40 rfl rfl (Nat.le_of_ble_eq_true rfl) (Nat.le_of_ble_eq_true rfl) (fun v_95 X_96 hp_97 => ?_)
            obtain ⟨rfl, rfl⟩ := hp_97
            refine z_st (st' := [.int (nI (nh)), .int (nI (i_72))]) rfl ?_
            refine z_icmp_geN (a := i_72) (b := nh) 84 (by omega) (by omega) dX5_look_43 (by decide) (fun c_98 => absurd c_98 (by omega)) (fun c_98 => ?_)
            refine z_aload_n 0 dX5_look_46 rfl ?_
            refine z_sipush (v := 987) dX5_look_47 (by decide) ?_
            refine z_iload 6 dX5_look_50 rfl ?_
            refine z_callV (As := [.int 987, .int (nI (i_72))]) (t_inHouse (I := (tco (zs I 99 0 0) c_20 o_21)) (σ := (s_go wv (I 10) (I 27) nh nd own now (I 24) i_14).1) hL h1 hnd 987 (by omega) (nI (i_72))) q1838 q1840 qs87 q121 q1841 nm_X5_inHouse (tX_obj hL) rfl rfl rfl (Nat.le_of_ble_eq_true rfl) ⟨Nat.le_of_ble_eq_true rfl, Nat.le_of_ble_eq_true rfl⟩ dX5_look_52 rfl rfl (Nat.le_of_ble_eq_true rfl) (Nat.le_of_ble_eq_true rfl) (fun v_99 X_100 hp_101 => ?_)
            obtain ⟨rfl, rfl⟩ := hp_101
            refine z_st (st' := [.int (s_in ((s_go wv (I 10) (I 27) nh nd own now (I 24) i_14).1) (nI (i_72)) nd)]) rfl ?_
            refine z_iload_n 1 dX5_look_55 rfl ?_
            refine z_iand dX5_look_56 ?_
            refine z_callS (As := [.int ((s_in ((s_go wv (I 10) (I 27) nh nd own now (I 24) i_14).1) (nI (i_72)) nd) &&& set)]) (t_bits ((s_in ((s_go wv (I 10) (I 27) nh nd own now (I 24) i_14).1) (nI (i_72)) nd) &&& set)) q1890 q1891 q121 q1892 nm_X5_bits rfl (Nat.le_of_ble_eq_true rfl) ⟨Nat.le_of_ble_eq_true rfl, Nat.le_of_ble_eq_true rfl⟩ dX5_look_57 rfl rfl (Nat.le_of_ble_eq_true rfl) (Nat.le_of_ble_eq_true rfl) (fun v_102 X_103 hp_104 => ?_)
            obtain ⟨rfl, rfl⟩ := hp_104
            refine z_st (st' := [.int (s_bits ((s_in ((s_go wv (I 10) (I 27) nh nd own now (I 24) i_14).1) (nI (i_72)) nd) &&& set) 30)]) rfl ?_
            refine z_istore (lv' := [(7, .int (s_bits ((s_in ((s_go wv (I 10) (I 27) nh nd own now (I 24) i_14).1) (nI (i_72)) nd) &&& set) 30)), (0, .ref (L 99)), (1, .int set), (2, .int ((s_lk (fun n => s_mx (s_lookf (s_go wv (I 10) (I 27) nh nd own now (I 24) n).1 nd set) nh) (s_bits set 30) i_14).1)), (3, .int ((s_lk (fun n => s_mx (s_lookf (s_go wv (I 10) (I 27) nh nd own now (I 24) n).1 nd set) nh) (s_bits set 30) i_14).2)), (4, .int (nI (i_14))), (5, .int (s_mx (s_lookf (s_go wv (I 10) (I 27) nh nd own now (I 24) i_14).1 nd set) i_72)), (6, .int (nI (i_72)))]) dX5_look_60 (by decide) rfl ?_
            refine z_iload 0 dX5_look_62 rfl ?_
            refine z_iload 6 dX5_look_64 rfl ?_
            refine z_icmp_le 74 dX5_look_66 (by decide) (fun c_105 => ?_) (fun c_105 => ?_)
            · -- s_bits ((s_in ((s_go wv (I 10) (I 27) nh nd own now (I 24) i_14).1) (nI (i_72)) nd) &&& set) 30 ≤ s_mx (s_lookf (s_go wv (I 10) (I 27) nh nd own now (I 24) i_14).1 nd set) i_72
              have c_105' := Int32.not_lt.mpr c_105
              refine z_iload 6 dX5_look_74 rfl ?_
              refine z_istore (lv' := [(5, .int (s_mx (s_lookf (s_go wv (I 10) (I 27) nh nd own now (I 24) i_14).1 nd set) i_72)), (7, .int (s_bits ((s_in ((s_go wv (I 10) (I 27) nh nd own now (I 24) i_14).1) (nI (i_72)) nd) &&& set) 30)), (0, .ref (L 99)), (1, .int set), (2, .int ((s_lk (fun n => s_mx (s_lookf (s_go wv (I 10) (I 27) nh nd own now (I 24) n).1 nd set) nh) (s_bits set 30) i_14).1)), (3, .int ((s_lk (fun n => s_mx (s_lookf (s_go wv (I 10) (I 27) nh nd own now (I 24) n).1 nd set) nh) (s_bits set 30) i_14).2)), (4, .int (nI (i_14))), (6, .int (nI (i_72)))]) dX5_look_76 (by decide) rfl ?_
              refine z_iinc (v := nI (i_72 + 1)) (lv' := [(6, .int (nI (i_72 + 1))), (5, .int (s_mx (s_lookf (s_go wv (I 10) (I 27) nh nd own now (I 24) i_14).1 nd set) i_72)), (7, .int (s_bits ((s_in ((s_go wv (I 10) (I 27) nh nd own now (I 24) i_14).1) (nI (i_72)) nd) &&& set) 30)), (0, .ref (L 99)), (1, .int set), (2, .int ((s_lk (fun n => s_mx (s_lookf (s_go wv (I 10) (I 27) nh nd own now (I 24) n).1 nd set) nh) (s_bits set 30) i_14).1)), (3, .int ((s_lk (fun n => s_mx (s_lookf (s_go wv (I 10) (I 27) nh nd own now (I 24) n).1 nd set) nh) (s_bits set 30) i_14).2)), (4, .int (nI (i_14)))]) 7 dX5_look_78 rfl (nI_1 _) (by decide) rfl ?_
              refine z_goto 37 dX5_look_81 (by decide) ?_
              have f_106 : s_mx (s_lookf (s_go wv (I 10) (I 27) nh nd own now (I 24) i_14).1 nd set) i_72 = s_mx (s_lookf (s_go wv (I 10) (I 27) nh nd own now (I 24) i_14).1 nd set) (i_72 + 1) := by skip; first | rfl | (simp [s_mx, s_lookf, c_23, c_27, c_34, c_34', c_98, c_105, c_105']; done) | (simp [s_mx, s_lookf, m1neg, c_23, c_27, c_34, c_34', c_98, c_105, c_105'])
              refine z_lv (lv' := [(0, .ref (L 99)), (1, .int set), (2, .int ((s_lk (fun n => s_mx (s_lookf (s_go wv (I 10) (I 27) nh nd own now (I 24) n).1 nd set) nh) (s_bits set 30) i_14).1)), (3, .int ((s_lk (fun n => s_mx (s_lookf (s_go wv (I 10) (I 27) nh nd own now (I 24) n).1 nd set) nh) (s_bits set 30) i_14).2)), (4, .int (nI (i_14))), (5, .int (s_mx (s_lookf (s_go wv (I 10) (I 27) nh nd own now (I 24) i_14).1 nd set) (i_72 + 1))), (6, .int (nI (i_72 + 1)))]) [3, 4, 5, 6, 7, 1, 0] (by rw [← f_106]; rfl) ?_
              exact ih_74 (i_72 + 1) (by omega) (by omega)  
            · -- ¬ s_bits ((s_in ((s_go wv (I 10) (I 27) nh nd own now (I 24) i_14).1) (nI (i_72)) nd) &&& set) 30 ≤ s_mx (s_lookf (s_go wv (I 10) (I 27) nh nd own now (I 24) i_14).1 nd set) i_72
              have c_105' := Int32.not_le.mp c_105
              refine z_iload 0 dX5_look_69 rfl ?_
              refine z_goto 76 dX5_look_71 (by decide) ?_
              refine z_istore (lv' := [(5, .int (s_bits ((s_in ((s_go wv (I 10) (I 27) nh nd own now (I 24) i_14).1) (nI (i_72)) nd) &&& set) 30)), (7, .int (s_bits ((s_in ((s_go wv (I 10) (I 27) nh nd own now (I 24) i_14).1) (nI (i_72)) nd) &&& set) 30)), (0, .ref (L 99)), (1, .int set), (2, .int ((s_lk (fun n => s_mx (s_lookf (s_go wv (I 10) (I 27) nh nd own now (I 24) n).1 nd set) nh) (s_bits set 30) i_14).1)), (3, .int ((s_lk (fun n => s_mx (s_lookf (s_go wv (I 10) (I 27) nh nd own now (I 24) n).1 nd set) nh) (s_bits set 30) i_14).2)), (4, .int (nI (i_14))), (6, .int (nI (i_72)))]) dX5_look_76 (by decide) rfl ?_
              refine z_iinc (v := nI (i_72 + 1)) (lv' := [(6, .int (nI (i_72 + 1))), (5, .int (s_bits ((s_in ((s_go wv (I 10) (I 27) nh nd own now (I 24) i_14).1) (nI (i_72)) nd) &&& set) 30)), (7, .int (s_bits ((s_in ((s_go wv (I 10) (I 27) nh nd own now (I 24) i_14).1) (nI (i_72)) nd) &&& set) 30)), (0, .ref (L 99)), (1, .int set), (2, .int ((s_lk (fun n => s_mx (s_lookf (s_go wv (I 10) (I 27) nh nd own now (I 24) n).1 nd set) nh) (s_bits set 30) i_14).1)), (3, .int ((s_lk (fun n => s_mx (s_lookf (s_go wv (I 10) (I 27) nh nd own now (I 24) n).1 nd set) nh) (s_bits set 30) i_14).2)), (4, .int (nI (i_14)))]) 7 dX5_look_78 rfl (nI_1 _) (by decide) rfl ?_
              refine z_goto 37 dX5_look_81 (by decide) ?_
              have f_107 : s_bits ((s_in ((s_go wv (I 10) (I 27) nh nd own now (I 24) i_14).1) (nI (i_72)) nd) &&& set) 30 = s_mx (s_lookf (s_go wv (I 10) (I 27) nh nd own now (I 24) i_14).1 nd set) (i_72 + 1) := by skip; first | rfl | (simp [s_mx, s_lookf, c_23, c_27, c_34, c_34', c_98, c_105, c_105']; done) | (simp [s_mx, s_lookf, m1neg, c_23, c_27, c_34, c_34', c_98, c_105, c_105'])
              refine z_lv (lv' := [(0, .ref (L 99)), (1, .int set), (2, .int ((s_lk (fun n => s_mx (s_lookf (s_go wv (I 10) (I 27) nh nd own now (I 24) n).1 nd set) nh) (s_bits set 30) i_14).1)), (3, .int ((s_lk (fun n => s_mx (s_lookf (s_go wv (I 10) (I 27) nh nd own now (I 24) n).1 nd set) nh) (s_bits set 30) i_14).2)), (4, .int (nI (i_14))), (5, .int (s_mx (s_lookf (s_go wv (I 10) (I 27) nh nd own now (I 24) i_14).1 nd set) (i_72 + 1))), (6, .int (nI (i_72 + 1)))]) [3, 4, 5, 6, 7, 1, 0] (by rw [← f_107]; rfl) ?_
              exact ih_74 (i_72 + 1) (by omega) (by omega)  
        have f_108 : s_bits ((s_in ((s_go wv (I 10) (I 27) nh nd own now (I 24) i_14).1) zm1 nd) &&& set) 30 = s_mx (s_lookf (s_go wv (I 10) (I 27) nh nd own now (I 24) i_14).1 nd set) 0 := by skip; first | rfl | (simp [s_mx, s_lookf, c_23, c_27, c_34, c_34']; done) | (simp [s_mx, s_lookf, m1neg, c_23, c_27, c_34, c_34'])
        refine z_lv (lv' := [(0, .ref (L 99)), (1, .int set), (2, .int ((s_lk (fun n => s_mx (s_lookf (s_go wv (I 10) (I 27) nh nd own now (I 24) n).1 nd set) nh) (s_bits set 30) i_14).1)), (3, .int ((s_lk (fun n => s_mx (s_lookf (s_go wv (I 10) (I 27) nh nd own now (I 24) n).1 nd set) nh) (s_bits set 30) i_14).2)), (4, .int (nI (i_14))), (5, .int (s_mx (s_lookf (s_go wv (I 10) (I 27) nh nd own now (I 24) i_14).1 nd set) 0)), (6, .int 0)]) [3, 4, 5, 6, 7, 1, 0] (by rw [← f_108]; rfl) ?_
        exact loop_76 (nh - 0) 0 (by omega) (Nat.le_refl _)  
  have f_109 : zm1 = (s_lk (fun n => s_mx (s_lookf (s_go wv (I 10) (I 27) nh nd own now (I 24) n).1 nd set) nh) (s_bits set 30) 0).1 := by first | rfl | omega | (simp [s_lk]; done) | (skip; simp [s_lk])
  have f_110 : s_bits set 30 = (s_lk (fun n => s_mx (s_lookf (s_go wv (I 10) (I 27) nh nd own now (I 24) n).1 nd set) nh) (s_bits set 30) 0).2 := by first | rfl | omega | (simp [s_lk]; done) | (skip; simp [s_lk])
  refine z_lv (lv' := [(0, .ref (L 99)), (1, .int set), (2, .int ((s_lk (fun n => s_mx (s_lookf (s_go wv (I 10) (I 27) nh nd own now (I 24) n).1 nd set) nh) (s_bits set 30) 0).1)), (3, .int ((s_lk (fun n => s_mx (s_lookf (s_go wv (I 10) (I 27) nh nd own now (I 24) n).1 nd set) nh) (s_bits set 30) 0).2)), (4, .int 0)]) [4, 3, 2, 1, 0] (by rw [← f_109, ← f_110]; rfl) ?_
  refine z_X (X' := (tX g L (tput (tco (zs I 99 0 0) c_1 o_2) 987 ((s_go wv (I 10) (I 27) nh nd own now (I 24) 0).1)) J Gb_4 X)) (by rfl) ?_
  exact loop_18 (25 - 0) 0 (by omega) (Nat.le_refl _) _ _ _ 
