/-! THE MODEL: deferring. Printed by t15.py -/
set_option maxRecDepth 100000
set_option maxHeartbeats 4000000 in
theorem t_defer {g : zG} {L : Nat → Nat} {I : Nat → Nat → Int32} {J : Nat → Nat → Int64} {Gb : Nat → Nat → Int32} {X : zX} (hL : tok g L) {nh nd : Nat} {own : Nat → Nat} (hV : s_ok (I 10) nh nd own) {wv : Int32 → Int32 → Int32 → Int32 → Int32} (hlaw : s_law (I 10) (I 11) (I 12) wv) {now : Nat} (hw : I 24 0 = nI now) (hw2 : now < 2 ^ 29) (hdt : ∀ j, j < nd → I 27 j = I 10 (5 * j + 14)) (d : Int32) : zN g m_X5_defer ({ frames := 7, cells := 0, slots := 0, locals := 161 } : Room) [.ref (L 99), .int d] (tX g L I J Gb X) (fun rv X' => rv = some (.int (if (decide (0 ≤ d) && decide (d < nI nd)) = true then (s_defer (fun n => s_most nd (fun k => (s_go wv (I 10) (zs1 (I 27) d.toNatClampNeg (nI n)) nh nd own now (I 24) k).1) 24) 12).1 else zm1)) ∧ ∃ (I' : Nat → Nat → Int32) (Gb' : Nat → Nat → Int32), X' = tX g L I' J Gb' X ∧ tobs I I' ∧ I' 99 0 = 0) := by
  refine zN.of (by decide +kernel) (Nat.le_of_ble_eq_true rfl) rfl ?_
  refine z_lv (lv' := [(0, .ref (L 99)), (1, .int d)]) [0, 1] rfl ?_
  have hV9 := hV
  obtain ⟨h0, hnh, h1, hnd, hown⟩ := hV9
  refine z_aload_n 0 dX5_defer_0 rfl ?_
  refine z_iconst (v := 0) dX5_defer_1 (by decide) ?_
  refine tz_put (I' := (zs I 99 0 0)) 0 hL (by decide) q1593 rfl dX5_defer_2 ?_
  refine z_X (X' := (tX g L (tput (tco (zs I 99 0 0) (I 99 28) (I 99 29)) 987 (s_tau I)) J Gb X)) (by show tX g L (zs I 99 0 0) J Gb X = (tX g L (tput (tco (zs I 99 0 0) (I 99 28) (I 99 29)) 987 (s_tau I)) J Gb X); rw [show tput (tco (zs I 99 0 0) (I 99 28) (I 99 29)) 987 (s_tau I) = tco (zs I 99 0 0) (I 99 28) (I 99 29) from tput_tau (I := tco (zs I 99 0 0) (I 99 28) (I 99 29))]; exact congrArg (fun z => tX g L z J Gb X) (tco_self (I := (zs I 99 0 0))).symm) ?_
  by_cases hv : (decide (0 ≤ d) && decide (d < nI nd)) = true
  · skip
    obtain ⟨dd, hdd, e_d⟩ := zday (by omega) hv
    subst e_d
    refine z_iconst (v := zm1) dX5_defer_5 (by decide) ?_
    refine z_istore_n (lv' := [(2, .int zm1), (0, .ref (L 99)), (1, .int (nI (dd)))]) dX5_defer_6 rfl (by decide) rfl ?_
    refine z_iconst (v := 0) dX5_defer_7 (by decide) ?_
    refine z_istore_n (lv' := [(3, .int 0), (2, .int zm1), (0, .ref (L 99)), (1, .int (nI (dd)))]) dX5_defer_8 rfl (by decide) rfl ?_
    refine z_X (X' := (tX g L (tput (tco (zs (zs I 99 0 0) 27 dd (I 27 dd)) (I 99 28) (I 99 29)) 987 (s_tau I)) J Gb X)) (congrArg (fun z => tX g L (tput (tco z (I 99 28) (I 99 29)) 987 (s_tau I)) J Gb X) (zs_self (I := (zs I 99 0 0)) (a := 27) (k := dd)).symm) ?_
    refine z_iconst (v := 0) dX5_defer_9 (by decide) ?_
    refine z_istore (lv' := [(4, .int 0), (3, .int 0), (2, .int zm1), (0, .ref (L 99)), (1, .int (nI (dd)))]) dX5_defer_10 (by decide) rfl ?_
    have loop_5 : ∀ (q_2 i_1 : Nat), i_1 + q_2 = 12 → 0 ≤ i_1 → ∀ (v_6 : Int32), ∀ (Gb_7 : Nat → Nat → Int32), ∀ (c_8 : Int32), ∀ (o_9 : Int32), ∀ (t_10 : Nat → Int32), zZ g m_X5_defer (fun rv X' => rv = some (.int (if (decide (0 ≤ (nI (dd))) && decide ((nI (dd)) < nI nd)) = true then (s_defer (fun n => s_most nd (fun k => (s_go wv (I 10) (zs1 (I 27) (nI (dd)).toNatClampNeg (nI n)) nh nd own now (I 24) k).1) 24) 12).1 else zm1)) ∧ ∃ (I' : Nat → Nat → Int32) (Gb' : Nat → Nat → Int32), X' = tX g L I' J Gb' X ∧ tobs I I' ∧ I' 99 0 = 0, zno, ({ frames := 7, cells := 0, slots := 0, locals := 161 } : Room)) 0 0 (tX g L (tput (tco (zs (zs I 99 0 0) 27 dd v_6) c_8 o_9) 987 t_10) J Gb_7 X) 12 [(0, .ref (L 99)), (1, .int (nI (dd))), (2, .int ((s_defer (fun n => s_most nd (fun k => (s_go wv (I 10) (zs1 (I 27) dd (nI n)) nh nd own now (I 24) k).1) 24) i_1).1)), (3, .int ((s_defer (fun n => s_most nd (fun k => (s_go wv (I 10) (zs1 (I 27) dd (nI n)) nh nd own now (I 24) k).1) 24) i_1).2)), (4, .int (nI (i_1)))] [] := by
      intro q_2
      induction q_2 with
      | zero =>
        intro i_1 hb_4 lo_11 v_6 Gb_7 c_8 o_9 t_10 
        obtain rfl : 12 = i_1 := by omega
        refine z_iload 4 dX5_defer_12 rfl ?_
        refine z_bipush (v := 12) dX5_defer_14 (by decide) ?_
        refine z_icmp_geN (a := 12) (b := 12) 144 (by decide) (by decide) dX5_defer_16 (by decide) (fun h_ => ?_) (fun h_ => absurd h_ (by decide))
        refine z_aload_n 0 dX5_defer_144 rfl ?_
        refine z_callV (As := []) (t_datesAsTold (I := (tput (tco (zs (zs I 99 0 0) 27 dd v_6) c_8 o_9) 987 t_10)) hL h1 hnd) q1569 q1571 qs52 q121 q1572 nm_X5_datesAsTold (tX_obj hL) rfl rfl rfl (Nat.le_of_ble_eq_true rfl) ⟨Nat.le_of_ble_eq_true rfl, Nat.le_of_ble_eq_true rfl⟩ dX5_defer_145 rfl rfl (Nat.le_of_ble_eq_true rfl) (Nat.le_of_ble_eq_true rfl) (fun v_12 X_13 hp_14 => ?_)
        obtain ⟨rfl, rfl⟩ := hp_14
        refine z_st (st' := []) rfl ?_
        refine z_iload_n 2 dX5_defer_148 rfl ?_
        exact z_iret dX5_defer_149 rfl (Nat.le_of_ble_eq_true rfl) (Nat.le_of_ble_eq_true rfl) ⟨congrArg some (congrArg Value.int (by rw [if_pos hv, ncl (by omega)])), (s_dts (tput (tco (zs (zs I 99 0 0) 27 dd v_6) c_8 o_9) 987 t_10) nd), Gb_7, rfl, tobs_dts hdt (fun j => rfl) (fun a j h1 h2 => ((tobs_put (tobs_co tobs_rf) (by decide) : tobs (zs (zs I 99 0 0) 27 dd _) (tput (tco (zs (zs I 99 0 0) 27 dd _) _ _) 987 _)) a j h1).trans (tobs_off hdd a j h1 h2)), rfl⟩
      | succ q_2 ih_3 =>
        intro i_1 hb_4 lo_11 v_6 Gb_7 c_8 o_9 t_10 
        refine z_iload 4 dX5_defer_12 rfl ?_
        refine z_bipush (v := 12) dX5_defer_14 (by decide) ?_
        refine z_icmp_geN (a := i_1) (b := 12) 144 (by omega) (by omega) dX5_defer_16 (by decide) (fun c_15 => absurd c_15 (by omega)) (fun c_15 => ?_)
        refine z_aload_n 0 dX5_defer_19 rfl ?_
        refine z_iload_n 1 dX5_defer_20 rfl ?_
        refine z_callV (As := [.int (nI (dd))]) (t_isDay (I := (tput (tco (zs (zs I 99 0 0) 27 dd v_6) c_8 o_9) 987 t_10)) hL h1 (nI (dd))) q1850 q1852 qs89 q121 q1853 nm_X5_isDay (tX_obj hL) rfl rfl rfl (Nat.le_of_ble_eq_true rfl) ⟨Nat.le_of_ble_eq_true rfl, Nat.le_of_ble_eq_true rfl⟩ dX5_defer_21 rfl rfl (Nat.le_of_ble_eq_true rfl) (Nat.le_of_ble_eq_true rfl) (fun v_16 X_17 hp_18 => ?_)
        obtain ⟨rfl, rfl⟩ := hp_18
        refine z_st (st' := [.int (zb (decide (0 ≤ nI (dd)) && decide (nI (dd) < nI nd)))]) rfl ?_
        refine z_eq (y := 1) (zb_t (zday_t (by omega) (by omega))) ?_
        refine z_if_eq 144 dX5_defer_24 (by decide) (fun h_ => absurd h_ (by decide)) (fun h_ => ?_)
        refine z_aload_n 0 dX5_defer_27 rfl ?_
        refine tz_get (v := .ref (L 27)) 27 hL (by decide) q1620 rfl dX5_defer_28 ?_
        refine z_iload_n 1 dX5_defer_31 rfl ?_
        refine z_iload 4 dX5_defer_32 rfl ?_
        refine tz_iast 27 (dd) hL (by decide) rfl (by show dd < 6; omega) (by rw [tput_zsa (by decide), tco_zs (by decide), zs_zs]) dX5_defer_34 ?_
        refine z_aload_n 0 dX5_defer_35 rfl ?_
        refine z_callV (As := []) (t_triesNow (I := (tco (zs (zs I 99 0 0) 27 dd (nI (i_1))) c_8 o_9)) (τ := t_10) hL) q1928 q1930 qs100 q121 q1931 nm_X5_triesNow (tX_obj hL) rfl rfl rfl (Nat.le_of_ble_eq_true rfl) ⟨Nat.le_of_ble_eq_true rfl, Nat.le_of_ble_eq_true rfl⟩ dX5_defer_36 rfl rfl (Nat.le_of_ble_eq_true rfl) (Nat.le_of_ble_eq_true rfl) (fun v_19 X_20 hp_21 => ?_)
        obtain ⟨rfl, rfl⟩ := hp_21
        refine z_st (st' := []) rfl ?_
        refine z_iconst (v := 0) dX5_defer_39 (by decide) ?_
        refine z_istore (lv' := [(5, .int 0), (0, .ref (L 99)), (1, .int (nI (dd))), (2, .int ((s_defer (fun n => s_most nd (fun k => (s_go wv (I 10) (zs1 (I 27) dd (nI n)) nh nd own now (I 24) k).1) 24) i_1).1)), (3, .int ((s_defer (fun n => s_most nd (fun k => (s_go wv (I 10) (zs1 (I 27) dd (nI n)) nh nd own now (I 24) k).1) 24) i_1).2)), (4, .int (nI (i_1)))]) dX5_defer_40 (by decide) rfl ?_
        refine z_iconst (v := 0) dX5_defer_42 (by decide) ?_
        refine z_istore (lv' := [(6, .int 0), (5, .int 0), (0, .ref (L 99)), (1, .int (nI (dd))), (2, .int ((s_defer (fun n => s_most nd (fun k => (s_go wv (I 10) (zs1 (I 27) dd (nI n)) nh nd own now (I 24) k).1) 24) i_1).1)), (3, .int ((s_defer (fun n => s_most nd (fun k => (s_go wv (I 10) (zs1 (I 27) dd (nI n)) nh nd own now (I 24) k).1) 24) i_1).2)), (4, .int (nI (i_1)))]) dX5_defer_43 (by decide) rfl ?_
        have loop_26 : ∀ (q_23 i_22 : Nat), i_22 + q_23 = 24 → 0 ≤ i_22 → ∀ (Gb_27 : Nat → Nat → Int32), ∀ (c_28 : Int32), ∀ (o_29 : Int32), zZ g m_X5_defer (fun rv X' => rv = some (.int (if (decide (0 ≤ (nI (dd))) && decide ((nI (dd)) < nI nd)) = true then (s_defer (fun n => s_most nd (fun k => (s_go wv (I 10) (zs1 (I 27) (nI (dd)).toNatClampNeg (nI n)) nh nd own now (I 24) k).1) 24) 12).1 else zm1)) ∧ ∃ (I' : Nat → Nat → Int32) (Gb' : Nat → Nat → Int32), X' = tX g L I' J Gb' X ∧ tobs I I' ∧ I' 99 0 = 0, zno, ({ frames := 7, cells := 0, slots := 0, locals := 161 } : Room)) 0 0 (tX g L (tput (tco (zs (zs I 99 0 0) 27 dd (nI (i_1))) c_28 o_29) 987 ((s_go wv (I 10) (zs1 (I 27) dd (nI (i_1))) nh nd own now (I 24) i_22).1)) J Gb_27 X) 45 [(0, .ref (L 99)), (1, .int (nI (dd))), (2, .int ((s_defer (fun n => s_most nd (fun k => (s_go wv (I 10) (zs1 (I 27) dd (nI n)) nh nd own now (I 24) k).1) 24) i_1).1)), (3, .int ((s_defer (fun n => s_most nd (fun k => (s_go wv (I 10) (zs1 (I 27) dd (nI n)) nh nd own now (I 24) k).1) 24) i_1).2)), (4, .int (nI (i_1))), (5, .int (s_most nd (fun k => (s_go wv (I 10) (zs1 (I 27) dd (nI (i_1))) nh nd own now (I 24) k).1) i_22)), (6, .int (nI (i_22)))] [] := by
          intro q_23
          induction q_23 with
          | zero =>
            intro i_22 hb_25 lo_30 Gb_27 c_28 o_29 
            obtain rfl : 24 = i_22 := by omega
            refine z_iload 6 dX5_defer_45 rfl ?_
            refine z_bipush (v := 24) dX5_defer_47 (by decide) ?_
            refine z_icmp_geN (a := 24) (b := 24) 97 (by decide) (by decide) dX5_defer_49 (by decide) (fun h_ => ?_) (fun h_ => absurd h_ (by decide))
            refine z_iload_n 2 dX5_defer_97 rfl ?_
            refine z_if_lt 107 dX5_defer_98 (by decide) (fun c_31 => ?_) (fun c_31 => ?_)
            · -- (s_defer (fun n => s_most nd (fun k => (s_go wv (I 10) (zs1 (I 27) dd (nI n)) nh nd own now (I 24) k).1) 24) i_1).1 < 0
              have c_31' := Int32.not_le.mpr c_31
              refine z_iconst (v := 1) dX5_defer_107 (by decide) ?_
              refine z_goto 112 dX5_defer_108 (by decide) ?_
              refine z_istore (lv' := [(6, .int 1), (0, .ref (L 99)), (1, .int (nI (dd))), (2, .int ((s_defer (fun n => s_most nd (fun k => (s_go wv (I 10) (zs1 (I 27) dd (nI n)) nh nd own now (I 24) k).1) 24) i_1).1)), (3, .int ((s_defer (fun n => s_most nd (fun k => (s_go wv (I 10) (zs1 (I 27) dd (nI n)) nh nd own now (I 24) k).1) 24) i_1).2)), (4, .int (nI (i_1))), (5, .int (s_most nd (fun k => (s_go wv (I 10) (zs1 (I 27) dd (nI (i_1))) nh nd own now (I 24) k).1) 24))]) dX5_defer_112 (by decide) rfl ?_
              refine z_iload 0 dX5_defer_114 rfl ?_
              refine z_if_eq 124 dX5_defer_116 (by decide) (fun h_ => absurd h_ (by decide)) (fun h_ => ?_)
              refine z_iload 5 dX5_defer_119 rfl ?_
              refine z_goto 125 dX5_defer_121 (by decide) ?_
              refine z_istore_n (lv' := [(2, .int (nI (i_1))), (6, .int 1), (0, .ref (L 99)), (1, .int (nI (dd))), (3, .int ((s_defer (fun n => s_most nd (fun k => (s_go wv (I 10) (zs1 (I 27) dd (nI n)) nh nd own now (I 24) k).1) 24) i_1).2)), (4, .int (nI (i_1))), (5, .int (s_most nd (fun k => (s_go wv (I 10) (zs1 (I 27) dd (nI (i_1))) nh nd own now (I 24) k).1) 24))]) dX5_defer_125 rfl (by decide) rfl ?_
              refine z_iload 1 dX5_defer_126 rfl ?_
              refine z_if_eq 136 dX5_defer_128 (by decide) (fun h_ => absurd h_ (by decide)) (fun h_ => ?_)
              refine z_iload 6 dX5_defer_131 rfl ?_
              refine z_goto 137 dX5_defer_133 (by decide) ?_
              refine z_istore_n (lv' := [(3, .int (s_most nd (fun k => (s_go wv (I 10) (zs1 (I 27) dd (nI (i_1))) nh nd own now (I 24) k).1) 24)), (2, .int (nI (i_1))), (6, .int 1), (0, .ref (L 99)), (1, .int (nI (dd))), (4, .int (nI (i_1))), (5, .int (s_most nd (fun k => (s_go wv (I 10) (zs1 (I 27) dd (nI (i_1))) nh nd own now (I 24) k).1) 24))]) dX5_defer_137 rfl (by decide) rfl ?_
              refine z_iinc (v := nI (i_1 + 1)) (lv' := [(4, .int (nI (i_1 + 1))), (3, .int (s_most nd (fun k => (s_go wv (I 10) (zs1 (I 27) dd (nI (i_1))) nh nd own now (I 24) k).1) 24)), (2, .int (nI (i_1))), (6, .int 1), (0, .ref (L 99)), (1, .int (nI (dd))), (5, .int (s_most nd (fun k => (s_go wv (I 10) (zs1 (I 27) dd (nI (i_1))) nh nd own now (I 24) k).1) 24))]) 5 dX5_defer_138 rfl (nI_1 _) (by decide) rfl ?_
              refine z_goto 12 dX5_defer_141 (by decide) ?_
              have f_32 : nI (i_1) = (s_defer (fun n => s_most nd (fun k => (s_go wv (I 10) (zs1 (I 27) dd (nI n)) nh nd own now (I 24) k).1) 24) (i_1 + 1)).1 := by first | rfl | omega | (simp [s_defer, hv, hb_4, c_15, hb_25, c_31, c_31']; done) | (skip; simp [s_defer, hv, hb_4, c_15, hb_25, c_31, c_31'])
              have f_33 : s_most nd (fun k => (s_go wv (I 10) (zs1 (I 27) dd (nI (i_1))) nh nd own now (I 24) k).1) 24 = (s_defer (fun n => s_most nd (fun k => (s_go wv (I 10) (zs1 (I 27) dd (nI n)) nh nd own now (I 24) k).1) 24) (i_1 + 1)).2 := by first | rfl | omega | (simp [s_defer, hv, hb_4, c_15, hb_25, c_31, c_31']; done) | (skip; simp [s_defer, hv, hb_4, c_15, hb_25, c_31, c_31'])
              refine z_lv (lv' := [(0, .ref (L 99)), (1, .int (nI (dd))), (2, .int ((s_defer (fun n => s_most nd (fun k => (s_go wv (I 10) (zs1 (I 27) dd (nI n)) nh nd own now (I 24) k).1) 24) (i_1 + 1)).1)), (3, .int ((s_defer (fun n => s_most nd (fun k => (s_go wv (I 10) (zs1 (I 27) dd (nI n)) nh nd own now (I 24) k).1) 24) (i_1 + 1)).2)), (4, .int (nI (i_1 + 1)))]) [4, 5, 2, 1, 0] (by rw [← f_32, ← f_33]; rfl) ?_
              exact ih_3 (i_1 + 1) (by omega) (by omega) _ _ _ _ _ 
            · -- ¬ (s_defer (fun n => s_most nd (fun k => (s_go wv (I 10) (zs1 (I 27) dd (nI n)) nh nd own now (I 24) k).1) 24) i_1).1 < 0
              have c_31' := Int32.not_lt.mp c_31
              refine z_iload 5 dX5_defer_101 rfl ?_
              refine z_iload_n 3 dX5_defer_103 rfl ?_
              refine z_icmp_ge 111 dX5_defer_104 (by decide) (fun c_34 => ?_) (fun c_34 => ?_)
              · -- (s_defer (fun n => s_most nd (fun k => (s_go wv (I 10) (zs1 (I 27) dd (nI n)) nh nd own now (I 24) k).1) 24) i_1).2 ≤ s_most nd (fun k => (s_go wv (I 10) (zs1 (I 27) dd (nI (i_1))) nh nd own now (I 24) k).1) 24
                have c_34' := Int32.not_lt.mpr c_34
                refine z_iconst (v := 0) dX5_defer_111 (by decide) ?_
                refine z_istore (lv' := [(6, .int 0), (0, .ref (L 99)), (1, .int (nI (dd))), (2, .int ((s_defer (fun n => s_most nd (fun k => (s_go wv (I 10) (zs1 (I 27) dd (nI n)) nh nd own now (I 24) k).1) 24) i_1).1)), (3, .int ((s_defer (fun n => s_most nd (fun k => (s_go wv (I 10) (zs1 (I 27) dd (nI n)) nh nd own now (I 24) k).1) 24) i_1).2)), (4, .int (nI (i_1))), (5, .int (s_most nd (fun k => (s_go wv (I 10) (zs1 (I 27) dd (nI (i_1))) nh nd own now (I 24) k).1) 24))]) dX5_defer_112 (by decide) rfl ?_
                refine z_iload 0 dX5_defer_114 rfl ?_
                refine z_if_eq 124 dX5_defer_116 (by decide) (fun h_ => ?_) (fun h_ => absurd h_ (by decide))
                refine z_iload_n 3 dX5_defer_124 rfl ?_
                refine z_istore_n (lv' := [(2, .int ((s_defer (fun n => s_most nd (fun k => (s_go wv (I 10) (zs1 (I 27) dd (nI n)) nh nd own now (I 24) k).1) 24) i_1).1)), (6, .int 0), (0, .ref (L 99)), (1, .int (nI (dd))), (3, .int ((s_defer (fun n => s_most nd (fun k => (s_go wv (I 10) (zs1 (I 27) dd (nI n)) nh nd own now (I 24) k).1) 24) i_1).2)), (4, .int (nI (i_1))), (5, .int (s_most nd (fun k => (s_go wv (I 10) (zs1 (I 27) dd (nI (i_1))) nh nd own now (I 24) k).1) 24))]) dX5_defer_125 rfl (by decide) rfl ?_
                refine z_iload 1 dX5_defer_126 rfl ?_
                refine z_if_eq 136 dX5_defer_128 (by decide) (fun h_ => ?_) (fun h_ => absurd h_ (by decide))
                refine z_iload_n 4 dX5_defer_136 rfl ?_
                refine z_istore_n (lv' := [(3, .int ((s_defer (fun n => s_most nd (fun k => (s_go wv (I 10) (zs1 (I 27) dd (nI n)) nh nd own now (I 24) k).1) 24) i_1).2)), (2, .int ((s_defer (fun n => s_most nd (fun k => (s_go wv (I 10) (zs1 (I 27) dd (nI n)) nh nd own now (I 24) k).1) 24) i_1).1)), (6, .int 0), (0, .ref (L 99)), (1, .int (nI (dd))), (4, .int (nI (i_1))), (5, .int (s_most nd (fun k => (s_go wv (I 10) (zs1 (I 27) dd (nI (i_1))) nh nd own now (I 24) k).1) 24))]) dX5_defer_137 rfl (by decide) rfl ?_
                refine z_iinc (v := nI (i_1 + 1)) (lv' := [(4, .int (nI (i_1 + 1))), (3, .int ((s_defer (fun n => s_most nd (fun k => (s_go wv (I 10) (zs1 (I 27) dd (nI n)) nh nd own now (I 24) k).1) 24) i_1).2)), (2, .int ((s_defer (fun n => s_most nd (fun k => (s_go wv (I 10) (zs1 (I 27) dd (nI n)) nh nd own now (I 24) k).1) 24) i_1).1)), (6, .int 0), (0, .ref (L 99)), (1, .int (nI (dd))), (5, .int (s_most nd (fun k => (s_go wv (I 10) (zs1 (I 27) dd (nI (i_1))) nh nd own now (I 24) k).1) 24))]) 5 dX5_defer_138 rfl (nI_1 _) (by decide) rfl ?_
                refine z_goto 12 dX5_defer_141 (by decide) ?_
                have f_35 : (s_defer (fun n => s_most nd (fun k => (s_go wv (I 10) (zs1 (I 27) dd (nI n)) nh nd own now (I 24) k).1) 24) i_1).1 = (s_defer (fun n => s_most nd (fun k => (s_go wv (I 10) (zs1 (I 27) dd (nI n)) nh nd own now (I 24) k).1) 24) (i_1 + 1)).1 := by first | rfl | omega | (simp [s_defer, hv, hb_4, c_15, hb_25, c_31, c_31', c_34, c_34']; done) | (skip; simp [s_defer, hv, hb_4, c_15, hb_25, c_31, c_31', c_34, c_34'])
                have f_36 : (s_defer (fun n => s_most nd (fun k => (s_go wv (I 10) (zs1 (I 27) dd (nI n)) nh nd own now (I 24) k).1) 24) i_1).2 = (s_defer (fun n => s_most nd (fun k => (s_go wv (I 10) (zs1 (I 27) dd (nI n)) nh nd own now (I 24) k).1) 24) (i_1 + 1)).2 := by first | rfl | omega | (simp [s_defer, hv, hb_4, c_15, hb_25, c_31, c_31', c_34, c_34']; done) | (skip; simp [s_defer, hv, hb_4, c_15, hb_25, c_31, c_31', c_34, c_34'])
                refine z_lv (lv' := [(0, .ref (L 99)), (1, .int (nI (dd))), (2, .int ((s_defer (fun n => s_most nd (fun k => (s_go wv (I 10) (zs1 (I 27) dd (nI n)) nh nd own now (I 24) k).1) 24) (i_1 + 1)).1)), (3, .int ((s_defer (fun n => s_most nd (fun k => (s_go wv (I 10) (zs1 (I 27) dd (nI n)) nh nd own now (I 24) k).1) 24) (i_1 + 1)).2)), (4, .int (nI (i_1 + 1)))]) [4, 5, 2, 1, 0] (by rw [← f_35, ← f_36]; rfl) ?_
                exact ih_3 (i_1 + 1) (by omega) (by omega) _ _ _ _ _ 
              · -- ¬ (s_defer (fun n => s_most nd (fun k => (s_go wv (I 10) (zs1 (I 27) dd (nI n)) nh nd own now (I 24) k).1) 24) i_1).2 ≤ s_most nd (fun k => (s_go wv (I 10) (zs1 (I 27) dd (nI (i_1))) nh nd own now (I 24) k).1) 24
                have c_34' := Int32.not_le.mp c_34
                refine z_iconst (v := 1) dX5_defer_107 (by decide) ?_
                refine z_goto 112 dX5_defer_108 (by decide) ?_
                refine z_istore (lv' := [(6, .int 1), (0, .ref (L 99)), (1, .int (nI (dd))), (2, .int ((s_defer (fun n => s_most nd (fun k => (s_go wv (I 10) (zs1 (I 27) dd (nI n)) nh nd own now (I 24) k).1) 24) i_1).1)), (3, .int ((s_defer (fun n => s_most nd (fun k => (s_go wv (I 10) (zs1 (I 27) dd (nI n)) nh nd own now (I 24) k).1) 24) i_1).2)), (4, .int (nI (i_1))), (5, .int (s_most nd (fun k => (s_go wv (I 10) (zs1 (I 27) dd (nI (i_1))) nh nd own now (I 24) k).1) 24))]) dX5_defer_112 (by decide) rfl ?_
                refine z_iload 0 dX5_defer_114 rfl ?_
                refine z_if_eq 124 dX5_defer_116 (by decide) (fun h_ => absurd h_ (by decide)) (fun h_ => ?_)
                refine z_iload 5 dX5_defer_119 rfl ?_
                refine z_goto 125 dX5_defer_121 (by decide) ?_
                refine z_istore_n (lv' := [(2, .int (nI (i_1))), (6, .int 1), (0, .ref (L 99)), (1, .int (nI (dd))), (3, .int ((s_defer (fun n => s_most nd (fun k => (s_go wv (I 10) (zs1 (I 27) dd (nI n)) nh nd own now (I 24) k).1) 24) i_1).2)), (4, .int (nI (i_1))), (5, .int (s_most nd (fun k => (s_go wv (I 10) (zs1 (I 27) dd (nI (i_1))) nh nd own now (I 24) k).1) 24))]) dX5_defer_125 rfl (by decide) rfl ?_
                refine z_iload 1 dX5_defer_126 rfl ?_
                refine z_if_eq 136 dX5_defer_128 (by decide) (fun h_ => absurd h_ (by decide)) (fun h_ => ?_)
                refine z_iload 6 dX5_defer_131 rfl ?_
                refine z_goto 137 dX5_defer_133 (by decide) ?_
                refine z_istore_n (lv' := [(3, .int (s_most nd (fun k => (s_go wv (I 10) (zs1 (I 27) dd (nI (i_1))) nh nd own now (I 24) k).1) 24)), (2, .int (nI (i_1))), (6, .int 1), (0, .ref (L 99)), (1, .int (nI (dd))), (4, .int (nI (i_1))), (5, .int (s_most nd (fun k => (s_go wv (I 10) (zs1 (I 27) dd (nI (i_1))) nh nd own now (I 24) k).1) 24))]) dX5_defer_137 rfl (by decide) rfl ?_
                refine z_iinc (v := nI (i_1 + 1)) (lv' := [(4, .int (nI (i_1 + 1))), (3, .int (s_most nd (fun k => (s_go wv (I 10) (zs1 (I 27) dd (nI (i_1))) nh nd own now (I 24) k).1) 24)), (2, .int (nI (i_1))), (6, .int 1), (0, .ref (L 99)), (1, .int (nI (dd))), (5, .int (s_most nd (fun k => (s_go wv (I 10) (zs1 (I 27) dd (nI (i_1))) nh nd own now (I 24) k).1) 24))]) 5 dX5_defer_138 rfl (nI_1 _) (by decide) rfl ?_
                refine z_goto 12 dX5_defer_141 (by decide) ?_
                have f_37 : nI (i_1) = (s_defer (fun n => s_most nd (fun k => (s_go wv (I 10) (zs1 (I 27) dd (nI n)) nh nd own now (I 24) k).1) 24) (i_1 + 1)).1 := by first | rfl | omega | (simp [s_defer, hv, hb_4, c_15, hb_25, c_31, c_31', c_34, c_34']; done) | (skip; simp [s_defer, hv, hb_4, c_15, hb_25, c_31, c_31', c_34, c_34'])
                have f_38 : s_most nd (fun k => (s_go wv (I 10) (zs1 (I 27) dd (nI (i_1))) nh nd own now (I 24) k).1) 24 = (s_defer (fun n => s_most nd (fun k => (s_go wv (I 10) (zs1 (I 27) dd (nI n)) nh nd own now (I 24) k).1) 24) (i_1 + 1)).2 := by first | rfl | omega | (simp [s_defer, hv, hb_4, c_15, hb_25, c_31, c_31', c_34, c_34']; done) | (skip; simp [s_defer, hv, hb_4, c_15, hb_25, c_31, c_31', c_34, c_34'])
                refine z_lv (lv' := [(0, .ref (L 99)), (1, .int (nI (dd))), (2, .int ((s_defer (fun n => s_most nd (fun k => (s_go wv (I 10) (zs1 (I 27) dd (nI n)) nh nd own now (I 24) k).1) 24) (i_1 + 1)).1)), (3, .int ((s_defer (fun n => s_most nd (fun k => (s_go wv (I 10) (zs1 (I 27) dd (nI n)) nh nd own now (I 24) k).1) 24) (i_1 + 1)).2)), (4, .int (nI (i_1 + 1)))]) [4, 5, 2, 1, 0] (by rw [← f_37, ← f_38]; rfl) ?_
                exact ih_3 (i_1 + 1) (by omega) (by omega) _ _ _ _ _ 
          | succ q_23 ih_24 =>
            intro i_22 hb_25 lo_30 Gb_27 c_28 o_29 
            refine z_iload 6 dX5_defer_45 rfl ?_
            refine z_bipush (v := 24) dX5_defer_47 (by decide) ?_
            refine z_icmp_geN (a := i_22) (b := 24) 97 (by omega) (by omega) dX5_defer_49 (by decide) (fun c_39 => absurd c_39 (by omega)) (fun c_39 => ?_)
            refine z_aload_n 0 dX5_defer_52 rfl ?_
            refine z_sipush (v := 987) dX5_defer_53 (by decide) ?_
            refine z_callV (As := [.int 987]) (t_passes_ (I := (zs (zs I 99 0 0) 27 dd (nI (i_1)))) (hds := zs_r) (σ := (s_go wv (I 10) (zs1 (I 27) dd (nI (i_1))) nh nd own now (I 24) i_22).1) (c := c_28) (o := o_29) hL hV hlaw 987 (by omega) (s_go_0 hw i_22) (by omega)) q1866 q1868 qs92 q121 q1869 nm_X5_passes (tX_obj hL) rfl rfl rfl (Nat.le_of_ble_eq_true rfl) ⟨Nat.le_of_ble_eq_true rfl, Nat.le_of_ble_eq_true rfl⟩ dX5_defer_56 rfl rfl (Nat.le_of_ble_eq_true rfl) (Nat.le_of_ble_eq_true rfl) (fun v_41 X_42 hp_43 => ?_)
            obtain ⟨rfl, Gb_40, rfl⟩ := hp_43
            refine z_st (st' := []) rfl ?_
            refine z_aload_n 0 dX5_defer_59 rfl ?_
            refine z_sipush (v := 987) dX5_defer_60 (by decide) ?_
            refine z_callV (As := [.int 987]) (t_somewhere (I := (tco (zs (zs I 99 0 0) 27 dd (nI (i_1))) ((s_pass wv (I 10) (zs1 (I 27) dd (nI (i_1))) nh nd own (now + i_22) ((s_go wv (I 10) (zs1 (I 27) dd (nI (i_1))) nh nd own now (I 24) i_22).1)).2.1) ((s_pass wv (I 10) (zs1 (I 27) dd (nI (i_1))) nh nd own (now + i_22) ((s_go wv (I 10) (zs1 (I 27) dd (nI (i_1))) nh nd own now (I 24) i_22).1)).2.2))) (σ := (s_pass wv (I 10) (zs1 (I 27) dd (nI (i_1))) nh nd own (now + i_22) ((s_go wv (I 10) (zs1 (I 27) dd (nI (i_1))) nh nd own now (I 24) i_22).1)).1) hL h1 hnd 987 (by omega)) q1944 q1946 qs101 q121 q1947 nm_X5_somewhere (tX_obj hL) rfl rfl rfl (Nat.le_of_ble_eq_true rfl) ⟨Nat.le_of_ble_eq_true rfl, Nat.le_of_ble_eq_true rfl⟩ dX5_defer_63 rfl rfl (Nat.le_of_ble_eq_true rfl) (Nat.le_of_ble_eq_true rfl) (fun v_44 X_45 hp_46 => ?_)
            obtain ⟨rfl, rfl⟩ := hp_46
            refine z_st (st' := [.int (s_some ((s_pass wv (I 10) (zs1 (I 27) dd (nI (i_1))) nh nd own (now + i_22) ((s_go wv (I 10) (zs1 (I 27) dd (nI (i_1))) nh nd own now (I 24) i_22).1)).1) nd)]) rfl ?_
            refine z_callS (As := [.int (s_some ((s_pass wv (I 10) (zs1 (I 27) dd (nI (i_1))) nh nd own (now + i_22) ((s_go wv (I 10) (zs1 (I 27) dd (nI (i_1))) nh nd own now (I 24) i_22).1)).1) nd)]) (t_bits (s_some ((s_pass wv (I 10) (zs1 (I 27) dd (nI (i_1))) nh nd own (now + i_22) ((s_go wv (I 10) (zs1 (I 27) dd (nI (i_1))) nh nd own now (I 24) i_22).1)).1) nd)) q1890 q1891 q121 q1892 nm_X5_bits rfl (Nat.le_of_ble_eq_true rfl) ⟨Nat.le_of_ble_eq_true rfl, Nat.le_of_ble_eq_true rfl⟩ dX5_defer_66 rfl rfl (Nat.le_of_ble_eq_true rfl) (Nat.le_of_ble_eq_true rfl) (fun v_47 X_48 hp_49 => ?_)
            obtain ⟨rfl, rfl⟩ := hp_49
            refine z_st (st' := [.int (s_bits (s_some ((s_pass wv (I 10) (zs1 (I 27) dd (nI (i_1))) nh nd own (now + i_22) ((s_go wv (I 10) (zs1 (I 27) dd (nI (i_1))) nh nd own now (I 24) i_22).1)).1) nd) 30)]) rfl ?_
            refine z_iload 5 dX5_defer_69 rfl ?_
            refine z_icmp_le 87 dX5_defer_71 (by decide) (fun c_50 => ?_) (fun c_50 => ?_)
            · -- s_bits (s_some ((s_pass wv (I 10) (zs1 (I 27) dd (nI (i_1))) nh nd own (now + i_22) ((s_go wv (I 10) (zs1 (I 27) dd (nI (i_1))) nh nd own now (I 24) i_22).1)).1) nd) 30 ≤ s_most nd (fun k => (s_go wv (I 10) (zs1 (I 27) dd (nI (i_1))) nh nd own now (I 24) k).1) i_22
              have c_50' := Int32.not_lt.mpr c_50
              refine z_iload 5 dX5_defer_87 rfl ?_
              refine z_istore (lv' := [(5, .int (s_most nd (fun k => (s_go wv (I 10) (zs1 (I 27) dd (nI (i_1))) nh nd own now (I 24) k).1) i_22)), (0, .ref (L 99)), (1, .int (nI (dd))), (2, .int ((s_defer (fun n => s_most nd (fun k => (s_go wv (I 10) (zs1 (I 27) dd (nI n)) nh nd own now (I 24) k).1) 24) i_1).1)), (3, .int ((s_defer (fun n => s_most nd (fun k => (s_go wv (I 10) (zs1 (I 27) dd (nI n)) nh nd own now (I 24) k).1) 24) i_1).2)), (4, .int (nI (i_1))), (6, .int (nI (i_22)))]) dX5_defer_89 (by decide) rfl ?_
              refine z_iinc (v := nI (i_22 + 1)) (lv' := [(6, .int (nI (i_22 + 1))), (5, .int (s_most nd (fun k => (s_go wv (I 10) (zs1 (I 27) dd (nI (i_1))) nh nd own now (I 24) k).1) i_22)), (0, .ref (L 99)), (1, .int (nI (dd))), (2, .int ((s_defer (fun n => s_most nd (fun k => (s_go wv (I 10) (zs1 (I 27) dd (nI n)) nh nd own now (I 24) k).1) 24) i_1).1)), (3, .int ((s_defer (fun n => s_most nd (fun k => (s_go wv (I 10) (zs1 (I 27) dd (nI n)) nh nd own now (I 24) k).1) 24) i_1).2)), (4, .int (nI (i_1)))]) 6 dX5_defer_91 rfl (nI_1 _) (by decide) rfl ?_
              refine z_goto 45 dX5_defer_94 (by decide) ?_
              have f_51 : s_most nd (fun k => (s_go wv (I 10) (zs1 (I 27) dd (nI (i_1))) nh nd own now (I 24) k).1) i_22 = s_most nd (fun k => (s_go wv (I 10) (zs1 (I 27) dd (nI (i_1))) nh nd own now (I 24) k).1) (i_22 + 1) := by skip; simp [s_most, s_go, c_15, c_39, c_50, c_50']
              refine z_lv (lv' := [(0, .ref (L 99)), (1, .int (nI (dd))), (2, .int ((s_defer (fun n => s_most nd (fun k => (s_go wv (I 10) (zs1 (I 27) dd (nI n)) nh nd own now (I 24) k).1) 24) i_1).1)), (3, .int ((s_defer (fun n => s_most nd (fun k => (s_go wv (I 10) (zs1 (I 27) dd (nI n)) nh nd own now (I 24) k).1) 24) i_1).2)), (4, .int (nI (i_1))), (5, .int (s_most nd (fun k => (s_go wv (I 10) (zs1 (I 27) dd (nI (i_1))) nh nd own now (I 24) k).1) (i_22 + 1))), (6, .int (nI (i_22 + 1)))]) [2, 3, 4, 5, 6, 1, 0] (by rw [← f_51]; rfl) ?_
              refine z_X (X' := (tX g L (tput (tco (zs (zs I 99 0 0) 27 dd (nI (i_1))) ((s_pass wv (I 10) (zs1 (I 27) dd (nI (i_1))) nh nd own (now + i_22) ((s_go wv (I 10) (zs1 (I 27) dd (nI (i_1))) nh nd own now (I 24) i_22).1)).2.1) ((s_pass wv (I 10) (zs1 (I 27) dd (nI (i_1))) nh nd own (now + i_22) ((s_go wv (I 10) (zs1 (I 27) dd (nI (i_1))) nh nd own now (I 24) i_22).1)).2.2)) 987 ((s_go wv (I 10) (zs1 (I 27) dd (nI (i_1))) nh nd own now (I 24) (i_22 + 1)).1)) J Gb_40 X)) (by rfl) ?_
              exact ih_24 (i_22 + 1) (by omega) (by omega) _ _ _ 
            · -- ¬ s_bits (s_some ((s_pass wv (I 10) (zs1 (I 27) dd (nI (i_1))) nh nd own (now + i_22) ((s_go wv (I 10) (zs1 (I 27) dd (nI (i_1))) nh nd own now (I 24) i_22).1)).1) nd) 30 ≤ s_most nd (fun k => (s_go wv (I 10) (zs1 (I 27) dd (nI (i_1))) nh nd own now (I 24) k).1) i_22
              have c_50' := Int32.not_le.mp c_50
              refine z_aload_n 0 dX5_defer_74 rfl ?_
              refine z_sipush (v := 987) dX5_defer_75 (by decide) ?_
              refine z_callV (As := [.int 987]) (t_somewhere (I := (tco (zs (zs I 99 0 0) 27 dd (nI (i_1))) ((s_pass wv (I 10) (zs1 (I 27) dd (nI (i_1))) nh nd own (now + i_22) ((s_go wv (I 10) (zs1 (I 27) dd (nI (i_1))) nh nd own now (I 24) i_22).1)).2.1) ((s_pass wv (I 10) (zs1 (I 27) dd (nI (i_1))) nh nd own (now + i_22) ((s_go wv (I 10) (zs1 (I 27) dd (nI (i_1))) nh nd own now (I 24) i_22).1)).2.2))) (σ := (s_pass wv (I 10) (zs1 (I 27) dd (nI (i_1))) nh nd own (now + i_22) ((s_go wv (I 10) (zs1 (I 27) dd (nI (i_1))) nh nd own now (I 24) i_22).1)).1) hL h1 hnd 987 (by omega)) q1944 q1946 qs101 q121 q1947 nm_X5_somewhere (tX_obj hL) rfl rfl rfl (Nat.le_of_ble_eq_true rfl) ⟨Nat.le_of_ble_eq_true rfl, Nat.le_of_ble_eq_true rfl⟩ dX5_defer_78 rfl rfl (Nat.le_of_ble_eq_true rfl) (Nat.le_of_ble_eq_true rfl) (fun v_52 X_53 hp_54 => ?_)
              obtain ⟨rfl, rfl⟩ := hp_54
              refine z_st (st' := [.int (s_some ((s_pass wv (I 10) (zs1 (I 27) dd (nI (i_1))) nh nd own (now + i_22) ((s_go wv (I 10) (zs1 (I 27) dd (nI (i_1))) nh nd own now (I 24) i_22).1)).1) nd)]) rfl ?_
              refine z_callS (As := [.int (s_some ((s_pass wv (I 10) (zs1 (I 27) dd (nI (i_1))) nh nd own (now + i_22) ((s_go wv (I 10) (zs1 (I 27) dd (nI (i_1))) nh nd own now (I 24) i_22).1)).1) nd)]) (t_bits (s_some ((s_pass wv (I 10) (zs1 (I 27) dd (nI (i_1))) nh nd own (now + i_22) ((s_go wv (I 10) (zs1 (I 27) dd (nI (i_1))) nh nd own now (I 24) i_22).1)).1) nd)) q1890 q1891 q121 q1892 nm_X5_bits rfl (Nat.le_of_ble_eq_true rfl) ⟨Nat.le_of_ble_eq_true rfl, Nat.le_of_ble_eq_true rfl⟩ dX5_defer_81 rfl rfl (Nat.le_of_ble_eq_true rfl) (Nat.le_of_ble_eq_true rfl) (fun v_55 X_56 hp_57 => ?_)
              obtain ⟨rfl, rfl⟩ := hp_57
              refine z_st (st' := [.int (s_bits (s_some ((s_pass wv (I 10) (zs1 (I 27) dd (nI (i_1))) nh nd own (now + i_22) ((s_go wv (I 10) (zs1 (I 27) dd (nI (i_1))) nh nd own now (I 24) i_22).1)).1) nd) 30)]) rfl ?_
              refine z_goto 89 dX5_defer_84 (by decide) ?_
              refine z_istore (lv' := [(5, .int (s_bits (s_some ((s_pass wv (I 10) (zs1 (I 27) dd (nI (i_1))) nh nd own (now + i_22) ((s_go wv (I 10) (zs1 (I 27) dd (nI (i_1))) nh nd own now (I 24) i_22).1)).1) nd) 30)), (0, .ref (L 99)), (1, .int (nI (dd))), (2, .int ((s_defer (fun n => s_most nd (fun k => (s_go wv (I 10) (zs1 (I 27) dd (nI n)) nh nd own now (I 24) k).1) 24) i_1).1)), (3, .int ((s_defer (fun n => s_most nd (fun k => (s_go wv (I 10) (zs1 (I 27) dd (nI n)) nh nd own now (I 24) k).1) 24) i_1).2)), (4, .int (nI (i_1))), (6, .int (nI (i_22)))]) dX5_defer_89 (by decide) rfl ?_
              refine z_iinc (v := nI (i_22 + 1)) (lv' := [(6, .int (nI (i_22 + 1))), (5, .int (s_bits (s_some ((s_pass wv (I 10) (zs1 (I 27) dd (nI (i_1))) nh nd own (now + i_22) ((s_go wv (I 10) (zs1 (I 27) dd (nI (i_1))) nh nd own now (I 24) i_22).1)).1) nd) 30)), (0, .ref (L 99)), (1, .int (nI (dd))), (2, .int ((s_defer (fun n => s_most nd (fun k => (s_go wv (I 10) (zs1 (I 27) dd (nI n)) nh nd own now (I 24) k).1) 24) i_1).1)), (3, .int ((s_defer (fun n => s_most nd (fun k => (s_go wv (I 10) (zs1 (I 27) dd (nI n)) nh nd own now (I 24) k).1) 24) i_1).2)), (4, .int (nI (i_1)))]) 6 dX5_defer_91 rfl (nI_1 _) (by decide) rfl ?_
              refine z_goto 45 dX5_defer_94 (by decide) ?_
              have f_58 : s_bits (s_some ((s_pass wv (I 10) (zs1 (I 27) dd (nI (i_1))) nh nd own (now + i_22) ((s_go wv (I 10) (zs1 (I 27) dd (nI (i_1))) nh nd own now (I 24) i_22).1)).1) nd) 30 = s_most nd (fun k => (s_go wv (I 10) (zs1 (I 27) dd (nI (i_1))) nh nd own now (I 24) k).1) (i_22 + 1) := by skip; simp [s_most, s_go, c_15, c_39, c_50, c_50']
              refine z_lv (lv' := [(0, .ref (L 99)), (1, .int (nI (dd))), (2, .int ((s_defer (fun n => s_most nd (fun k => (s_go wv (I 10) (zs1 (I 27) dd (nI n)) nh nd own now (I 24) k).1) 24) i_1).1)), (3, .int ((s_defer (fun n => s_most nd (fun k => (s_go wv (I 10) (zs1 (I 27) dd (nI n)) nh nd own now (I 24) k).1) 24) i_1).2)), (4, .int (nI (i_1))), (5, .int (s_most nd (fun k => (s_go wv (I 10) (zs1 (I 27) dd (nI (i_1))) nh nd own now (I 24) k).1) (i_22 + 1))), (6, .int (nI (i_22 + 1)))]) [2, 3, 4, 5, 6, 1, 0] (by rw [← f_58]; rfl) ?_
              refine z_X (X' := (tX g L (tput (tco (zs (zs I 99 0 0) 27 dd (nI (i_1))) ((s_pass wv (I 10) (zs1 (I 27) dd (nI (i_1))) nh nd own (now + i_22) ((s_go wv (I 10) (zs1 (I 27) dd (nI (i_1))) nh nd own now (I 24) i_22).1)).2.1) ((s_pass wv (I 10) (zs1 (I 27) dd (nI (i_1))) nh nd own (now + i_22) ((s_go wv (I 10) (zs1 (I 27) dd (nI (i_1))) nh nd own now (I 24) i_22).1)).2.2)) 987 ((s_go wv (I 10) (zs1 (I 27) dd (nI (i_1))) nh nd own now (I 24) (i_22 + 1)).1)) J Gb_40 X)) (by rfl) ?_
              exact ih_24 (i_22 + 1) (by omega) (by omega) _ _ _ 
        have f_59 : 0 = s_most nd (fun k => (s_go wv (I 10) (zs1 (I 27) dd (nI (i_1))) nh nd own now (I 24) k).1) 0 := by rfl
        refine z_lv (lv' := [(0, .ref (L 99)), (1, .int (nI (dd))), (2, .int ((s_defer (fun n => s_most nd (fun k => (s_go wv (I 10) (zs1 (I 27) dd (nI n)) nh nd own now (I 24) k).1) 24) i_1).1)), (3, .int ((s_defer (fun n => s_most nd (fun k => (s_go wv (I 10) (zs1 (I 27) dd (nI n)) nh nd own now (I 24) k).1) 24) i_1).2)), (4, .int (nI (i_1))), (5, .int (s_most nd (fun k => (s_go wv (I 10) (zs1 (I 27) dd (nI (i_1))) nh nd own now (I 24) k).1) 0)), (6, .int 0)]) [2, 3, 4, 5, 6, 1, 0] (by rw [← f_59]; rfl) ?_
        refine z_X (X' := (tX g L (tput (tco (zs (zs I 99 0 0) 27 dd (nI (i_1))) c_8 o_9) 987 ((s_go wv (I 10) (zs1 (I 27) dd (nI (i_1))) nh nd own now (I 24) 0).1)) J Gb_7 X)) (by rfl) ?_
        exact loop_26 (24 - 0) 0 (by omega) (Nat.le_refl _) _ _ _ 
    have f_60 : zm1 = (s_defer (fun n => s_most nd (fun k => (s_go wv (I 10) (zs1 (I 27) dd (nI n)) nh nd own now (I 24) k).1) 24) 0).1 := by rfl
    have f_61 : 0 = (s_defer (fun n => s_most nd (fun k => (s_go wv (I 10) (zs1 (I 27) dd (nI n)) nh nd own now (I 24) k).1) 24) 0).2 := by rfl
    refine z_lv (lv' := [(0, .ref (L 99)), (1, .int (nI (dd))), (2, .int ((s_defer (fun n => s_most nd (fun k => (s_go wv (I 10) (zs1 (I 27) dd (nI n)) nh nd own now (I 24) k).1) 24) 0).1)), (3, .int ((s_defer (fun n => s_most nd (fun k => (s_go wv (I 10) (zs1 (I 27) dd (nI n)) nh nd own now (I 24) k).1) 24) 0).2)), (4, .int 0)]) [3, 4, 2, 1, 0] (by rw [← f_60, ← f_61]; rfl) ?_
    exact loop_5 (12 - 0) 0 (by omega) (Nat.le_refl _) _ _ _ _ _ 
  · have hv := zb_not hv
    refine z_iconst (v := zm1) dX5_defer_5 (by decide) ?_
    refine z_istore_n (lv' := [(2, .int zm1), (0, .ref (L 99)), (1, .int d)]) dX5_defer_6 rfl (by decide) rfl ?_
    refine z_iconst (v := 0) dX5_defer_7 (by decide) ?_
    refine z_istore_n (lv' := [(3, .int 0), (2, .int zm1), (0, .ref (L 99)), (1, .int d)]) dX5_defer_8 rfl (by decide) rfl ?_
    refine z_iconst (v := 0) dX5_defer_9 (by decide) ?_
    refine z_istore (lv' := [(4, .int 0), (3, .int 0), (2, .int zm1), (0, .ref (L 99)), (1, .int d)]) dX5_defer_10 (by decide) rfl ?_
    refine z_iload 0 dX5_defer_12 rfl ?_
    refine z_bipush (v := 12) dX5_defer_14 (by decide) ?_
    refine z_icmp_geN (a := 0) (b := 12) 144 (by decide) (by decide) dX5_defer_16 (by decide) (fun h_ => absurd h_ (by decide)) (fun h_ => ?_)
    refine z_aload_n 3 dX5_defer_19 rfl ?_
    refine z_iload_n 4 dX5_defer_20 rfl ?_
    refine z_callV (As := [.int d]) (t_isDay (I := (tput (tco (zs I 99 0 0) (I 99 28) (I 99 29)) 987 (s_tau I))) hL h1 d) q1850 q1852 qs89 q121 q1853 nm_X5_isDay (tX_obj hL) rfl rfl rfl (Nat.le_of_ble_eq_true rfl) ⟨Nat.le_of_ble_eq_true rfl, Nat.le_of_ble_eq_true rfl⟩ dX5_defer_21 rfl rfl (Nat.le_of_ble_eq_true rfl) (Nat.le_of_ble_eq_true rfl) (fun v_62 X_63 hp_64 => ?_)
    obtain ⟨rfl, rfl⟩ := hp_64
    refine z_st (st' := [.int (zb (decide (0 ≤ d) && decide (d < nI nd)))]) rfl ?_
    refine z_if_eqb 144 dX5_defer_24 (by decide) (fun c_65 => ?_) (fun c_65 => absurd c_65 (fun h9 => by rw [h9] at hv; exact absurd hv (by decide)))
    refine z_aload_n 3 dX5_defer_144 rfl ?_
    refine z_callV (As := []) (t_datesAsTold (I := (tput (tco (zs I 99 0 0) (I 99 28) (I 99 29)) 987 (s_tau I))) hL h1 hnd) q1569 q1571 qs52 q121 q1572 nm_X5_datesAsTold (tX_obj hL) rfl rfl rfl (Nat.le_of_ble_eq_true rfl) ⟨Nat.le_of_ble_eq_true rfl, Nat.le_of_ble_eq_true rfl⟩ dX5_defer_145 rfl rfl (Nat.le_of_ble_eq_true rfl) (Nat.le_of_ble_eq_true rfl) (fun v_66 X_67 hp_68 => ?_)
    obtain ⟨rfl, rfl⟩ := hp_68
    refine z_st (st' := []) rfl ?_
    refine z_iload_n 2 dX5_defer_148 rfl ?_
    exact z_iret dX5_defer_149 rfl (Nat.le_of_ble_eq_true rfl) (Nat.le_of_ble_eq_true rfl) ⟨congrArg some (congrArg Value.int (by rw [if_neg (by rw [hv]; decide)])), (s_dts (tput (tco (zs I 99 0 0) (I 99 28) (I 99 29)) 987 (s_tau I)) nd), Gb, rfl, tobs_dts hdt (fun j => rfl) (fun a j h1 _ => (tobs_put (tobs_co (tobs_zs tobs_rf rfl)) (by decide) : tobs I (tput (tco (zs I 99 0 0) _ _) 987 _)) a j h1), rfl⟩
