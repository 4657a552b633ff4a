/-! THE MODEL: a date passes. Printed by t5.py -/
set_option maxRecDepth 100000
set_option maxHeartbeats 4000000 in
theorem t_passes {g : zG} {L : Nat → Nat} {I : Nat → Nat → Int32} {J : Nat → Nat → Int64} {Gb : Nat → Nat → Int32} {X : zX} (hL : tok g L) {σ : Nat → Int32} {c o : Int32} {nh nd : Nat} {own : Nat → Nat} (hV : s_ok (I 10) nh nd own) {wv : Int32 → Int32 → Int32 → Int32 → Int32} (hlaw : s_law (I 10) (I 11) (I 12) wv) (b : Nat) (hb9 : b + 47 ≤ 1081) {now : Nat} (hw : σ 0 = nI now) (hw2 : now + 1 < 2 ^ 30) : zN g m_X5_passes ({ frames := 6, cells := 0, slots := 0, locals := 139 } : Room) [.ref (L 99), .int (nI (b))] (tX g L (tput (tco I c o) b σ) J Gb X) (fun rv X' => rv = none ∧ ∃ Gb' : Nat → Nat → Int32, X' = (tX g L (tput (tco I ((s_pass wv (I 10) (I 27) nh nd own now σ).2.1) ((s_pass wv (I 10) (I 27) nh nd own now σ).2.2)) b ((s_pass wv (I 10) (I 27) nh nd own now σ).1)) J Gb' X)) := by
  refine zN.of (by decide +kernel) (Nat.le_of_ble_eq_true rfl) rfl ?_
  refine z_lv (lv' := [(0, .ref (L 99)), (1, .int (nI (b)))]) [0, 1] rfl ?_
  have hV9 := hV
  obtain ⟨h0, hnh, h1, hnd, hown⟩ := hV9
  refine z_aload_n 0 dX5_passes_0 rfl ?_
  refine tz_get (v := .ref (L 24)) 24 hL (by decide) q1617 rfl dX5_passes_1 ?_
  refine z_iload_n 1 dX5_passes_4 rfl ?_
  refine z_iconst (v := 0) dX5_passes_5 (by decide) ?_
  refine z_iaddN (a := b) (b := 0) dX5_passes_6 ?_
  refine z_eq (y := nI (b)) (congrArg nI (by omega)) ?_
  refine z_dup2_11 dX5_passes_7 rfl rfl ?_
  refine tz_iald (v := nI (now)) 24 (b + 0) hL (by decide) (congrArg nI (by omega)) (by show b + 0 < 1081; omega) ((tput_at (by omega)).trans hw) dX5_passes_8 ?_
  refine z_iconst (v := 1) dX5_passes_9 (by decide) ?_
  refine z_iaddN (a := now) (b := 1) dX5_passes_10 ?_
  refine tz_iast 24 (b + 0) hL (by decide) (congrArg nI (by omega)) (by show b + 0 < 1081; omega) (tput_zs (by omega)) dX5_passes_11 ?_
  refine z_aload_n 0 dX5_passes_12 rfl ?_
  refine z_iconst (v := 0) dX5_passes_13 (by decide) ?_
  refine tz_put (I' := (tput (tco I 0 o) b (zs1 σ 0 (nI (now + 1))))) 28 hL (by decide) q1621 (by rw [tput_zsa (by decide), tco_28]) dX5_passes_14 ?_
  refine z_aload_n 0 dX5_passes_17 rfl ?_
  refine z_iconst (v := 0) dX5_passes_18 (by decide) ?_
  refine tz_put (I' := (tput (tco I 0 0) b (zs1 σ 0 (nI (now + 1))))) 29 hL (by decide) q1622 (by rw [tput_zsa (by decide), tco_29]) dX5_passes_19 ?_
  refine z_iconst (v := 0) dX5_passes_22 (by decide) ?_
  refine z_istore_n (lv' := [(2, .int 0), (0, .ref (L 99)), (1, .int (nI (b)))]) dX5_passes_23 rfl (by decide) rfl ?_
  have loop_5 : ∀ (q_2 i_1 : Nat), i_1 + q_2 = nd → 0 ≤ i_1 → zZ g m_X5_passes (fun rv X' => rv = none ∧ ∃ Gb' : Nat → Nat → Int32, X' = (tX g L (tput (tco I ((s_pass wv (I 10) (I 27) nh nd own now σ).2.1) ((s_pass wv (I 10) (I 27) nh nd own now σ).2.2)) b ((s_pass wv (I 10) (I 27) nh nd own now σ).1)) J Gb' X), zno, ({ frames := 6, cells := 0, slots := 0, locals := 139 } : Room)) 0 0 (tX g L (tput (tco I 0 0) b (s_stay (I 10) (zs1 σ 0 (nI (now + 1))) i_1)) J Gb X) 24 [(0, .ref (L 99)), (1, .int (nI (b))), (2, .int (nI (i_1)))] [] := by
    intro q_2
    induction q_2 with
    | zero =>
      intro i_1 hb_4 lo_6  
      obtain rfl : nd = i_1 := by omega
      refine z_iload_n 2 dX5_passes_24 rfl ?_
      refine z_aload_n 0 dX5_passes_25 rfl ?_
      refine z_callV (As := []) (t_days (I := (tput (tco I 0 0) b (s_stay (I 10) (zs1 σ 0 (nI (now + 1))) nd))) hL h1) q1573 q1575 qs53 q121 q1576 nm_X5_days (tX_obj hL) rfl rfl rfl (Nat.le_of_ble_eq_true rfl) ⟨Nat.le_of_ble_eq_true rfl, Nat.le_of_ble_eq_true rfl⟩ dX5_passes_26 rfl rfl (Nat.le_of_ble_eq_true rfl) (Nat.le_of_ble_eq_true rfl) (fun v_7 X_8 hp_9 => ?_)
      obtain ⟨rfl, rfl⟩ := hp_9
      refine z_st (st' := [.int (nI (nd)), .int (nI (nd))]) rfl ?_
      refine z_icmp_geN (a := nd) (b := nd) 93 (by omega) (by omega) dX5_passes_29 (by decide) (fun c_10 => ?_) (fun c_10 => absurd c_10 (by omega))
      refine z_iconst (v := 0) dX5_passes_93 (by decide) ?_
      refine z_istore_n (lv' := [(2, .int 0), (0, .ref (L 99)), (1, .int (nI (b)))]) dX5_passes_94 rfl (by decide) rfl ?_
      have loop_15 : ∀ (q_12 i_11 : Nat), i_11 + q_12 = nd → 0 ≤ i_11 → ∀ (Gb_16 : Nat → Nat → Int32), zZ g m_X5_passes (fun rv X' => rv = none ∧ ∃ Gb' : Nat → Nat → Int32, X' = (tX g L (tput (tco I ((s_pass wv (I 10) (I 27) nh nd own now σ).2.1) ((s_pass wv (I 10) (I 27) nh nd own now σ).2.2)) b ((s_pass wv (I 10) (I 27) nh nd own now σ).1)) J Gb' X), zno, ({ frames := 6, cells := 0, slots := 0, locals := 139 } : Room)) 0 0 (tX g L (tput (tco I ((s_newly wv (I 10) (I 27) nh nd own (now + 1) (s_stay (I 10) (zs1 σ 0 (nI (now + 1))) nd) i_11).2.1) ((s_newly wv (I 10) (I 27) nh nd own (now + 1) (s_stay (I 10) (zs1 σ 0 (nI (now + 1))) nd) i_11).2.2)) b ((s_newly wv (I 10) (I 27) nh nd own (now + 1) (s_stay (I 10) (zs1 σ 0 (nI (now + 1))) nd) i_11).1)) J Gb_16 X) 95 [(0, .ref (L 99)), (1, .int (nI (b))), (2, .int (nI (i_11)))] [] := by
        intro q_12
        induction q_12 with
        | zero =>
          intro i_11 hb_14 lo_17 Gb_16 
          obtain rfl : nd = i_11 := by omega
          refine z_iload_n 2 dX5_passes_95 rfl ?_
          refine z_aload_n 0 dX5_passes_96 rfl ?_
          refine z_callV (As := []) (t_days (I := (tput (tco I ((s_newly wv (I 10) (I 27) nh nd own (now + 1) (s_stay (I 10) (zs1 σ 0 (nI (now + 1))) nd) nd).2.1) ((s_newly wv (I 10) (I 27) nh nd own (now + 1) (s_stay (I 10) (zs1 σ 0 (nI (now + 1))) nd) nd).2.2)) b ((s_newly wv (I 10) (I 27) nh nd own (now + 1) (s_stay (I 10) (zs1 σ 0 (nI (now + 1))) nd) nd).1))) hL h1) q1573 q1575 qs53 q121 q1576 nm_X5_days (tX_obj hL) rfl rfl rfl (Nat.le_of_ble_eq_true rfl) ⟨Nat.le_of_ble_eq_true rfl, Nat.le_of_ble_eq_true rfl⟩ dX5_passes_97 rfl rfl (Nat.le_of_ble_eq_true rfl) (Nat.le_of_ble_eq_true rfl) (fun v_18 X_19 hp_20 => ?_)
          obtain ⟨rfl, rfl⟩ := hp_20
          refine z_st (st' := [.int (nI (nd)), .int (nI (nd))]) rfl ?_
          refine z_icmp_geN (a := nd) (b := nd) 152 (by omega) (by omega) dX5_passes_100 (by decide) (fun c_21 => ?_) (fun c_21 => absurd c_21 (by omega))
          exact z_vret dX5_passes_152 rfl (Nat.le_of_ble_eq_true rfl) (Nat.le_of_ble_eq_true rfl) ⟨rfl, Gb_16, rfl⟩
        | succ q_12 ih_13 =>
          intro i_11 hb_14 lo_17 Gb_16 
          refine z_iload_n 2 dX5_passes_95 rfl ?_
          refine z_aload_n 0 dX5_passes_96 rfl ?_
          refine z_callV (As := []) (t_days (I := (tput (tco I ((s_newly wv (I 10) (I 27) nh nd own (now + 1) (s_stay (I 10) (zs1 σ 0 (nI (now + 1))) nd) i_11).2.1) ((s_newly wv (I 10) (I 27) nh nd own (now + 1) (s_stay (I 10) (zs1 σ 0 (nI (now + 1))) nd) i_11).2.2)) b ((s_newly wv (I 10) (I 27) nh nd own (now + 1) (s_stay (I 10) (zs1 σ 0 (nI (now + 1))) nd) i_11).1))) hL h1) q1573 q1575 qs53 q121 q1576 nm_X5_days (tX_obj hL) rfl rfl rfl (Nat.le_of_ble_eq_true rfl) ⟨Nat.le_of_ble_eq_true rfl, Nat.le_of_ble_eq_true rfl⟩ dX5_passes_97 rfl rfl (Nat.le_of_ble_eq_true rfl) (Nat.le_of_ble_eq_true rfl) (fun v_22 X_23 hp_24 => ?_)
          obtain ⟨rfl, rfl⟩ := hp_24
          refine z_st (st' := [.int (nI (nd)), .int (nI (i_11))]) rfl ?_
          refine z_icmp_geN (a := i_11) (b := nd) 152 (by omega) (by omega) dX5_passes_100 (by decide) (fun c_25 => absurd c_25 (by omega)) (fun c_25 => ?_)
          refine z_aload_n 0 dX5_passes_103 rfl ?_
          refine tz_get (v := .ref (L 24)) 24 hL (by decide) q1617 rfl dX5_passes_104 ?_
          refine z_iload_n 1 dX5_passes_107 rfl ?_
          refine z_bipush (v := 6) dX5_passes_108 (by decide) ?_
          refine z_iaddN (a := b) (b := 6) dX5_passes_110 ?_
          refine z_iload_n 2 dX5_passes_111 rfl ?_
          refine z_iaddN (a := b + 6) (b := i_11) dX5_passes_112 ?_
          refine z_eq (y := nI (b + i_11 + 6)) (congrArg nI (by omega)) ?_
          refine tz_iald (v := ((s_newly wv (I 10) (I 27) nh nd own (now + 1) (s_stay (I 10) (zs1 σ 0 (nI (now + 1))) nd) i_11).1) (i_11 + 6)) 24 (b + (i_11 + 6)) hL (by decide) (congrArg nI (by omega)) (by show b + (i_11 + 6) < 1081; omega) (tput_at (by omega)) dX5_passes_113 ?_
          refine z_if_ge 146 dX5_passes_114 (by decide) (fun c_26 => ?_) (fun c_26 => ?_)
          · -- 0 ≤ ((s_newly wv (I 10) (I 27) nh nd own (now + 1) (s_stay (I 10) (zs1 σ 0 (nI (now + 1))) nd) i_11).1) (i_11 + 6)
            have c_26' := Int32.not_lt.mpr c_26
            refine z_iinc (v := nI (i_11 + 1)) (lv' := [(2, .int (nI (i_11 + 1))), (0, .ref (L 99)), (1, .int (nI (b)))]) 2 dX5_passes_146 rfl (nI_1 _) (by decide) rfl ?_
            refine z_goto 95 dX5_passes_149 (by decide) ?_
            refine z_lv (lv' := [(0, .ref (L 99)), (1, .int (nI (b))), (2, .int (nI (i_11 + 1)))]) [1, 2, 0] rfl ?_
            refine z_X (X' := (tX g L (tput (tco I ((s_newly wv (I 10) (I 27) nh nd own (now + 1) (s_stay (I 10) (zs1 σ 0 (nI (now + 1))) nd) (i_11 + 1)).2.1) ((s_newly wv (I 10) (I 27) nh nd own (now + 1) (s_stay (I 10) (zs1 σ 0 (nI (now + 1))) nd) (i_11 + 1)).2.2)) b ((s_newly wv (I 10) (I 27) nh nd own (now + 1) (s_stay (I 10) (zs1 σ 0 (nI (now + 1))) nd) (i_11 + 1)).1)) J Gb_16 X)) (by simp [s_newly, hb_4, c_10, hb_14, c_25, c_26, c_26']) ?_
            exact ih_13 (i_11 + 1) (by omega) (by omega) _ 
          · -- ¬ 0 ≤ ((s_newly wv (I 10) (I 27) nh nd own (now + 1) (s_stay (I 10) (zs1 σ 0 (nI (now + 1))) nd) i_11).1) (i_11 + 6)
            have c_26' := Int32.not_le.mp c_26
            refine z_aload_n 0 dX5_passes_117 rfl ?_
            refine tz_get (v := .ref (L 24)) 24 hL (by decide) q1617 rfl dX5_passes_118 ?_
            refine z_iload_n 1 dX5_passes_121 rfl ?_
            refine z_bipush (v := 18) dX5_passes_122 (by decide) ?_
            refine z_iaddN (a := b) (b := 18) dX5_passes_124 ?_
            refine z_iload_n 2 dX5_passes_125 rfl ?_
            refine z_iaddN (a := b + 18) (b := i_11) dX5_passes_126 ?_
            refine z_eq (y := nI (b + i_11 + 18)) (congrArg nI (by omega)) ?_
            refine tz_iald (v := ((s_newly wv (I 10) (I 27) nh nd own (now + 1) (s_stay (I 10) (zs1 σ 0 (nI (now + 1))) nd) i_11).1) (i_11 + 18)) 24 (b + (i_11 + 18)) hL (by decide) (congrArg nI (by omega)) (by show b + (i_11 + 18) < 1081; omega) (tput_at (by omega)) dX5_passes_127 ?_
            refine z_if_le 146 dX5_passes_128 (by decide) (fun c_27 => ?_) (fun c_27 => ?_)
            · -- ((s_newly wv (I 10) (I 27) nh nd own (now + 1) (s_stay (I 10) (zs1 σ 0 (nI (now + 1))) nd) i_11).1) (i_11 + 18) ≤ 0
              have c_27' := Int32.not_lt.mpr c_27
              refine z_iinc (v := nI (i_11 + 1)) (lv' := [(2, .int (nI (i_11 + 1))), (0, .ref (L 99)), (1, .int (nI (b)))]) 2 dX5_passes_146 rfl (nI_1 _) (by decide) rfl ?_
              refine z_goto 95 dX5_passes_149 (by decide) ?_
              refine z_lv (lv' := [(0, .ref (L 99)), (1, .int (nI (b))), (2, .int (nI (i_11 + 1)))]) [1, 2, 0] rfl ?_
              refine z_X (X' := (tX g L (tput (tco I ((s_newly wv (I 10) (I 27) nh nd own (now + 1) (s_stay (I 10) (zs1 σ 0 (nI (now + 1))) nd) (i_11 + 1)).2.1) ((s_newly wv (I 10) (I 27) nh nd own (now + 1) (s_stay (I 10) (zs1 σ 0 (nI (now + 1))) nd) (i_11 + 1)).2.2)) b ((s_newly wv (I 10) (I 27) nh nd own (now + 1) (s_stay (I 10) (zs1 σ 0 (nI (now + 1))) nd) (i_11 + 1)).1)) J Gb_16 X)) (by simp [s_newly, hb_4, c_10, hb_14, c_25, c_26, c_26', c_27, c_27']) ?_
              exact ih_13 (i_11 + 1) (by omega) (by omega) _ 
            · -- ¬ ((s_newly wv (I 10) (I 27) nh nd own (now + 1) (s_stay (I 10) (zs1 σ 0 (nI (now + 1))) nd) i_11).1) (i_11 + 18) ≤ 0
              have c_27' := Int32.not_le.mp c_27
              refine z_aload_n 0 dX5_passes_131 rfl ?_
              refine z_iload_n 1 dX5_passes_132 rfl ?_
              refine z_iload_n 2 dX5_passes_133 rfl ?_
              refine z_callV (As := [.int (nI (b)), .int (nI (i_11))]) (t_isDate (I := (tco I ((s_newly wv (I 10) (I 27) nh nd own (now + 1) (s_stay (I 10) (zs1 σ 0 (nI (now + 1))) nd) i_11).2.1) ((s_newly wv (I 10) (I 27) nh nd own (now + 1) (s_stay (I 10) (zs1 σ 0 (nI (now + 1))) nd) i_11).2.2))) (σ := (s_newly wv (I 10) (I 27) nh nd own (now + 1) (s_stay (I 10) (zs1 σ 0 (nI (now + 1))) nd) i_11).1) hL b (by omega) i_11 (by omega) s_pass_now (by omega)) q1874 q1876 qs94 q121 q1877 nm_X5_isDate (tX_obj hL) rfl rfl rfl (Nat.le_of_ble_eq_true rfl) ⟨Nat.le_of_ble_eq_true rfl, Nat.le_of_ble_eq_true rfl⟩ dX5_passes_134 rfl rfl (Nat.le_of_ble_eq_true rfl) (Nat.le_of_ble_eq_true rfl) (fun v_28 X_29 hp_30 => ?_)
              obtain ⟨rfl, rfl⟩ := hp_30
              refine z_st (st' := [.int (zb (s_date (I 10) (I 27) (now + 1) i_11))]) rfl ?_
              refine z_if_eqb 146 dX5_passes_137 (by decide) (fun c_31 => ?_) (fun c_31 => ?_)
              · -- s_date (I 10) (I 27) (now + 1) i_11 = false
                refine z_iinc (v := nI (i_11 + 1)) (lv' := [(2, .int (nI (i_11 + 1))), (0, .ref (L 99)), (1, .int (nI (b)))]) 2 dX5_passes_146 rfl (nI_1 _) (by decide) rfl ?_
                refine z_goto 95 dX5_passes_149 (by decide) ?_
                refine z_lv (lv' := [(0, .ref (L 99)), (1, .int (nI (b))), (2, .int (nI (i_11 + 1)))]) [1, 2, 0] rfl ?_
                refine z_X (X' := (tX g L (tput (tco I ((s_newly wv (I 10) (I 27) nh nd own (now + 1) (s_stay (I 10) (zs1 σ 0 (nI (now + 1))) nd) (i_11 + 1)).2.1) ((s_newly wv (I 10) (I 27) nh nd own (now + 1) (s_stay (I 10) (zs1 σ 0 (nI (now + 1))) nd) (i_11 + 1)).2.2)) b ((s_newly wv (I 10) (I 27) nh nd own (now + 1) (s_stay (I 10) (zs1 σ 0 (nI (now + 1))) nd) (i_11 + 1)).1)) J Gb_16 X)) (by simp [s_newly, hb_4, c_10, hb_14, c_25, c_26, c_26', c_27, c_27', c_31]) ?_
                exact ih_13 (i_11 + 1) (by omega) (by omega) _ 
              · -- s_date (I 10) (I 27) (now + 1) i_11 = true
                refine z_aload_n 0 dX5_passes_140 rfl ?_
                refine z_iload_n 1 dX5_passes_141 rfl ?_
                refine z_iload_n 2 dX5_passes_142 rfl ?_
                refine z_callV (As := [.int (nI (b)), .int (nI (i_11))]) (t_comes (I := I) (σ := (s_newly wv (I 10) (I 27) nh nd own (now + 1) (s_stay (I 10) (zs1 σ 0 (nI (now + 1))) nd) i_11).1) (c := (s_newly wv (I 10) (I 27) nh nd own (now + 1) (s_stay (I 10) (zs1 σ 0 (nI (now + 1))) nd) i_11).2.1) (o := (s_newly wv (I 10) (I 27) nh nd own (now + 1) (s_stay (I 10) (zs1 σ 0 (nI (now + 1))) nd) i_11).2.2) hL hV hlaw b (by omega) i_11 (by omega) s_pass_now (by omega)) q1878 q1880 qs95 q121 q1881 nm_X5_comes (tX_obj hL) rfl rfl rfl (Nat.le_of_ble_eq_true rfl) ⟨Nat.le_of_ble_eq_true rfl, Nat.le_of_ble_eq_true rfl⟩ dX5_passes_143 rfl rfl (Nat.le_of_ble_eq_true rfl) (Nat.le_of_ble_eq_true rfl) (fun v_32 X_33 hp_34 => ?_)
                obtain ⟨rfl, Gb8, rfl⟩ := hp_34
                refine z_st (st' := []) rfl ?_
                refine z_iinc (v := nI (i_11 + 1)) (lv' := [(2, .int (nI (i_11 + 1))), (0, .ref (L 99)), (1, .int (nI (b)))]) 2 dX5_passes_146 rfl (nI_1 _) (by decide) rfl ?_
                refine z_goto 95 dX5_passes_149 (by decide) ?_
                refine z_lv (lv' := [(0, .ref (L 99)), (1, .int (nI (b))), (2, .int (nI (i_11 + 1)))]) [1, 2, 0] rfl ?_
                refine z_X (X' := (tX g L (tput (tco I ((s_newly wv (I 10) (I 27) nh nd own (now + 1) (s_stay (I 10) (zs1 σ 0 (nI (now + 1))) nd) (i_11 + 1)).2.1) ((s_newly wv (I 10) (I 27) nh nd own (now + 1) (s_stay (I 10) (zs1 σ 0 (nI (now + 1))) nd) (i_11 + 1)).2.2)) b ((s_newly wv (I 10) (I 27) nh nd own (now + 1) (s_stay (I 10) (zs1 σ 0 (nI (now + 1))) nd) (i_11 + 1)).1)) J Gb8 X)) (by simp [s_newly, hb_4, c_10, hb_14, c_25, c_26, c_26', c_27, c_27', c_31]) ?_
                exact ih_13 (i_11 + 1) (by omega) (by omega) _ 
      refine z_lv (lv' := [(0, .ref (L 99)), (1, .int (nI (b))), (2, .int 0)]) [1, 2, 0] rfl ?_
      refine z_X (X' := (tX g L (tput (tco I ((s_newly wv (I 10) (I 27) nh nd own (now + 1) (s_stay (I 10) (zs1 σ 0 (nI (now + 1))) nd) 0).2.1) ((s_newly wv (I 10) (I 27) nh nd own (now + 1) (s_stay (I 10) (zs1 σ 0 (nI (now + 1))) nd) 0).2.2)) b ((s_newly wv (I 10) (I 27) nh nd own (now + 1) (s_stay (I 10) (zs1 σ 0 (nI (now + 1))) nd) 0).1)) J Gb X)) (by simp [s_newly, hb_4, c_10]) ?_
      exact loop_15 (nd - 0) 0 (by omega) (Nat.le_refl _) _ 
    | succ q_2 ih_3 =>
      intro i_1 hb_4 lo_6  
      refine z_iload_n 2 dX5_passes_24 rfl ?_
      refine z_aload_n 0 dX5_passes_25 rfl ?_
      refine z_callV (As := []) (t_days (I := (tput (tco I 0 0) b (s_stay (I 10) (zs1 σ 0 (nI (now + 1))) i_1))) hL h1) q1573 q1575 qs53 q121 q1576 nm_X5_days (tX_obj hL) rfl rfl rfl (Nat.le_of_ble_eq_true rfl) ⟨Nat.le_of_ble_eq_true rfl, Nat.le_of_ble_eq_true rfl⟩ dX5_passes_26 rfl rfl (Nat.le_of_ble_eq_true rfl) (Nat.le_of_ble_eq_true rfl) (fun v_35 X_36 hp_37 => ?_)
      obtain ⟨rfl, rfl⟩ := hp_37
      refine z_st (st' := [.int (nI (nd)), .int (nI (i_1))]) rfl ?_
      refine z_icmp_geN (a := i_1) (b := nd) 93 (by omega) (by omega) dX5_passes_29 (by decide) (fun c_38 => absurd c_38 (by omega)) (fun c_38 => ?_)
      refine z_aload_n 0 dX5_passes_32 rfl ?_
      refine tz_get (v := .ref (L 24)) 24 hL (by decide) q1617 rfl dX5_passes_33 ?_
      refine z_iload_n 1 dX5_passes_36 rfl ?_
      refine z_bipush (v := 6) dX5_passes_37 (by decide) ?_
      refine z_iaddN (a := b) (b := 6) dX5_passes_39 ?_
      refine z_iload_n 2 dX5_passes_40 rfl ?_
      refine z_iaddN (a := b + 6) (b := i_1) dX5_passes_41 ?_
      refine z_eq (y := nI (b + i_1 + 6)) (congrArg nI (by omega)) ?_
      refine tz_iald (v := (s_stay (I 10) (zs1 σ 0 (nI (now + 1))) i_1) (i_1 + 6)) 24 (b + (i_1 + 6)) hL (by decide) (congrArg nI (by omega)) (by show b + (i_1 + 6) < 1081; omega) (tput_at (by omega)) dX5_passes_42 ?_
      refine z_if_lt 87 dX5_passes_43 (by decide) (fun c_39 => ?_) (fun c_39 => ?_)
      · -- (s_stay (I 10) (zs1 σ 0 (nI (now + 1))) i_1) (i_1 + 6) < 0
        have c_39' := Int32.not_le.mpr c_39
        refine z_iinc (v := nI (i_1 + 1)) (lv' := [(2, .int (nI (i_1 + 1))), (0, .ref (L 99)), (1, .int (nI (b)))]) 2 dX5_passes_87 rfl (nI_1 _) (by decide) rfl ?_
        refine z_goto 24 dX5_passes_90 (by decide) ?_
        refine z_lv (lv' := [(0, .ref (L 99)), (1, .int (nI (b))), (2, .int (nI (i_1 + 1)))]) [1, 2, 0] rfl ?_
        refine z_X (X' := (tX g L (tput (tco I 0 0) b (s_stay (I 10) (zs1 σ 0 (nI (now + 1))) (i_1 + 1))) J Gb X)) (by skip; simp only [s_stay, reduceIte, hb_4, c_38, c_39, c_39']) ?_
        exact ih_3 (i_1 + 1) (by omega) (by omega)  
      · -- ¬ (s_stay (I 10) (zs1 σ 0 (nI (now + 1))) i_1) (i_1 + 6) < 0
        have c_39' := Int32.not_lt.mp c_39
        refine z_aload_n 0 dX5_passes_46 rfl ?_
        refine tz_get (v := .ref (L 24)) 24 hL (by decide) q1617 rfl dX5_passes_47 ?_
        refine z_iload_n 1 dX5_passes_50 rfl ?_
        refine z_bipush (v := 12) dX5_passes_51 (by decide) ?_
        refine z_iaddN (a := b) (b := 12) dX5_passes_53 ?_
        refine z_iload_n 2 dX5_passes_54 rfl ?_
        refine z_iaddN (a := b + 12) (b := i_1) dX5_passes_55 ?_
        refine z_eq (y := nI (b + i_1 + 12)) (congrArg nI (by omega)) ?_
        refine z_dup2_11 dX5_passes_56 rfl rfl ?_
        refine tz_iald (v := (s_stay (I 10) (zs1 σ 0 (nI (now + 1))) i_1) (i_1 + 12)) 24 (b + (i_1 + 12)) hL (by decide) (congrArg nI (by omega)) (by show b + (i_1 + 12) < 1081; omega) (tput_at (by omega)) dX5_passes_57 ?_
        refine z_iconst (v := 1) dX5_passes_58 (by decide) ?_
        refine z_iadd dX5_passes_59 ?_
        obtain ⟨x_40, ex_40⟩ : ∃ y : Int32, (((s_stay (I 10) (zs1 σ 0 (nI (now + 1))) i_1) (i_1 + 12)) + 1) = y := ⟨_, rfl⟩
        refine z_eq ex_40 ?_
        refine tz_iast 24 (b + (i_1 + 12)) hL (by decide) (congrArg nI (by omega)) (by show b + (i_1 + 12) < 1081; omega) (tput_zs (by omega)) dX5_passes_60 ?_
        refine z_aload_n 0 dX5_passes_61 rfl ?_
        refine tz_get (v := .ref (L 24)) 24 hL (by decide) q1617 rfl dX5_passes_62 ?_
        refine z_iload_n 1 dX5_passes_65 rfl ?_
        refine z_bipush (v := 12) dX5_passes_66 (by decide) ?_
        refine z_iaddN (a := b) (b := 12) dX5_passes_68 ?_
        refine z_iload_n 2 dX5_passes_69 rfl ?_
        refine z_iaddN (a := b + 12) (b := i_1) dX5_passes_70 ?_
        refine z_eq (y := nI (b + i_1 + 12)) (congrArg nI (by omega)) ?_
        refine tz_iald (v := x_40) 24 (b + (i_1 + 12)) hL (by decide) (congrArg nI (by omega)) (by show b + (i_1 + 12) < 1081; omega) ((tput_at (by omega)).trans (by rw [zs1_s])) dX5_passes_71 ?_
        refine z_aload_n 0 dX5_passes_72 rfl ?_
        refine tz_get (v := .ref (L 10)) 10 hL (by decide) q1603 rfl dX5_passes_73 ?_
        refine z_iconst (v := 2) dX5_passes_76 (by decide) ?_
        refine tz_iald (v := I 10 2) 10 (2) hL (by decide) rfl (by show 2 < 100; omega) rfl dX5_passes_77 ?_
        refine z_icmp_ne 87 dX5_passes_78 (by decide) (fun c_41 => ?_) (fun c_41 => ?_)
        · -- ¬ x_40 = I 10 2
          refine z_iinc (v := nI (i_1 + 1)) (lv' := [(2, .int (nI (i_1 + 1))), (0, .ref (L 99)), (1, .int (nI (b)))]) 2 dX5_passes_87 rfl (nI_1 _) (by decide) rfl ?_
          refine z_goto 24 dX5_passes_90 (by decide) ?_
          refine z_lv (lv' := [(0, .ref (L 99)), (1, .int (nI (b))), (2, .int (nI (i_1 + 1)))]) [1, 2, 0] rfl ?_
          refine z_X (X' := (tX g L (tput (tco I 0 0) b (s_stay (I 10) (zs1 σ 0 (nI (now + 1))) (i_1 + 1))) J Gb X)) (by (try subst ex_40); simp only [s_stay, reduceIte, hb_4, c_38, c_39, c_39', c_41]) ?_
          exact ih_3 (i_1 + 1) (by omega) (by omega)  
        · -- x_40 = I 10 2
          refine z_aload_n 0 dX5_passes_81 rfl ?_
          refine z_iload_n 1 dX5_passes_82 rfl ?_
          refine z_iload_n 2 dX5_passes_83 rfl ?_
          refine z_callV (As := [.int (nI (b)), .int (nI (i_1))]) (t_leaves (I := (tco I 0 0)) (σ := (zs1 (s_stay (I 10) (zs1 σ 0 (nI (now + 1))) i_1) (i_1 + 12) x_40)) hL b (by omega) i_1 (by omega)) q1870 q1872 qs93 q121 q1873 nm_X5_leaves (tX_obj hL) rfl rfl rfl (Nat.le_of_ble_eq_true rfl) ⟨Nat.le_of_ble_eq_true rfl, Nat.le_of_ble_eq_true rfl⟩ dX5_passes_84 rfl rfl (Nat.le_of_ble_eq_true rfl) (Nat.le_of_ble_eq_true rfl) (fun v_42 X_43 hp_44 => ?_)
          obtain ⟨rfl, rfl⟩ := hp_44
          refine z_st (st' := []) rfl ?_
          refine z_iinc (v := nI (i_1 + 1)) (lv' := [(2, .int (nI (i_1 + 1))), (0, .ref (L 99)), (1, .int (nI (b)))]) 2 dX5_passes_87 rfl (nI_1 _) (by decide) rfl ?_
          refine z_goto 24 dX5_passes_90 (by decide) ?_
          refine z_lv (lv' := [(0, .ref (L 99)), (1, .int (nI (b))), (2, .int (nI (i_1 + 1)))]) [1, 2, 0] rfl ?_
          refine z_X (X' := (tX g L (tput (tco I 0 0) b (s_stay (I 10) (zs1 σ 0 (nI (now + 1))) (i_1 + 1))) J Gb X)) (by (try subst ex_40); simp only [s_stay, reduceIte, hb_4, c_38, c_39, c_39', c_41]) ?_
          exact ih_3 (i_1 + 1) (by omega) (by omega)  
  refine z_lv (lv' := [(0, .ref (L 99)), (1, .int (nI (b))), (2, .int 0)]) [1, 2, 0] rfl ?_
  refine z_X (X' := (tX g L (tput (tco I 0 0) b (s_stay (I 10) (zs1 σ 0 (nI (now + 1))) 0)) J Gb X)) (by rfl) ?_
  exact loop_5 (nd - 0) 0 (by omega) (Nat.le_refl _)  
theorem t_passes_ {g : zG} {L : Nat → Nat} {I : Nat → Nat → Int32} {J : Nat → Nat → Int64} {Gb : Nat → Nat → Int32} {X : zX} (hL : tok g L) {ds : Nat → Int32} (hds : I 27 = ds) {σ : Nat → Int32} {c o : Int32} {nh nd : Nat} {own : Nat → Nat} (hV : s_ok (I 10) nh nd own) {wv : Int32 → Int32 → Int32 → Int32 → Int32} (hlaw : s_law (I 10) (I 11) (I 12) wv) (b : Nat) (hb9 : b + 47 ≤ 1081) {now : Nat} (hw : σ 0 = nI now) (hw2 : now + 1 < 2 ^ 30) : zN g m_X5_passes ({ frames := 6, cells := 0, slots := 0, locals := 139 } : Room) [.ref (L 99), .int (nI b)] (tX g L (tput (tco I c o) b σ) J Gb X) (fun rv X' => rv = none ∧ ∃ Gb' : Nat → Nat → Int32, X' = (tX g L (tput (tco I ((s_pass wv (I 10) ds nh nd own now σ).2.1) ((s_pass wv (I 10) ds nh nd own now σ).2.2)) b ((s_pass wv (I 10) ds nh nd own now σ).1)) J Gb' X)) := by
  subst hds
  exact t_passes hL hV hlaw b hb9 hw hw2
