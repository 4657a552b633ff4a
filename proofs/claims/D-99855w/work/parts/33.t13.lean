/-! THE MODEL: beginnings. Printed by t13.py -/
set_option maxRecDepth 100000
set_option maxHeartbeats 4000000 in
theorem t_getsBy {g : zG} {X : zX}  (own other lose sits gives : Int32) : zN g m_X5_getsBy ({ frames := 0, cells := 0, slots := 0, locals := 0 } : Room) [.int own, .int other, .int lose, .int sits, .int gives] X (fun rv X' => rv = some (.int (s_gets own other lose sits gives)) ∧ X' = X) := by
  refine zN.of (by decide +kernel) (Nat.le_of_ble_eq_true rfl) rfl ?_
  refine z_lv (lv' := [(0, .int own), (1, .int other), (2, .int lose), (3, .int sits), (4, .int gives)]) [0, 1, 2, 3, 4] rfl ?_
  refine z_iload_n 0 dX5_getsBy_0 rfl ?_
  refine z_iconst (v := 1) dX5_getsBy_1 (by decide) ?_
  refine z_icmp_ne 19 dX5_getsBy_2 (by decide) (fun c_1 => ?_) (fun c_1 => ?_)
  · -- ¬ own = 1
    refine z_iload_n 1 dX5_getsBy_19 rfl ?_
    refine z_iconst (v := 1) dX5_getsBy_20 (by decide) ?_
    refine z_icmp_ne 29 dX5_getsBy_21 (by decide) (fun c_2 => ?_) (fun c_2 => ?_)
    · -- ¬ other = 1
      refine z_iconst (v := 0) dX5_getsBy_29 (by decide) ?_
      exact z_iret dX5_getsBy_30 rfl (Nat.le_of_ble_eq_true rfl) (Nat.le_of_ble_eq_true rfl) ⟨congrArg some (congrArg Value.int (by first | rfl | (simp [s_gets, c_1, c_2]; done) | (skip; simp [s_gets, c_1, c_2]))), (by first | rfl | (simp [s_gets, c_1, c_2]; done) | (skip; simp [s_gets, c_1, c_2]))⟩
    · -- other = 1
      refine z_iload 4 dX5_getsBy_24 rfl ?_
      refine z_goto 30 dX5_getsBy_26 (by decide) ?_
      exact z_iret dX5_getsBy_30 rfl (Nat.le_of_ble_eq_true rfl) (Nat.le_of_ble_eq_true rfl) ⟨congrArg some (congrArg Value.int (by first | rfl | (simp [s_gets, c_1, c_2]; done) | (skip; simp [s_gets, c_1, c_2]))), (by first | rfl | (simp [s_gets, c_1, c_2]; done) | (skip; simp [s_gets, c_1, c_2]))⟩
  · -- own = 1
    refine z_iload_n 1 dX5_getsBy_5 rfl ?_
    refine z_iconst (v := 1) dX5_getsBy_6 (by decide) ?_
    refine z_icmp_ne 15 dX5_getsBy_7 (by decide) (fun c_3 => ?_) (fun c_3 => ?_)
    · -- ¬ other = 1
      refine z_iload_n 3 dX5_getsBy_15 rfl ?_
      refine z_goto 30 dX5_getsBy_16 (by decide) ?_
      exact z_iret dX5_getsBy_30 rfl (Nat.le_of_ble_eq_true rfl) (Nat.le_of_ble_eq_true rfl) ⟨congrArg some (congrArg Value.int (by first | rfl | (simp [s_gets, c_1, c_3]; done) | (skip; simp [s_gets, c_1, c_3]))), (by first | rfl | (simp [s_gets, c_1, c_3]; done) | (skip; simp [s_gets, c_1, c_3]))⟩
    · -- other = 1
      refine z_iload_n 2 dX5_getsBy_10 rfl ?_
      refine z_ineg dX5_getsBy_11 ?_
      refine z_goto 30 dX5_getsBy_12 (by decide) ?_
      exact z_iret dX5_getsBy_30 rfl (Nat.le_of_ble_eq_true rfl) (Nat.le_of_ble_eq_true rfl) ⟨congrArg some (congrArg Value.int (by first | rfl | (simp [s_gets, c_1, c_3]; done) | (skip; simp [s_gets, c_1, c_3]))), (by first | rfl | (simp [s_gets, c_1, c_3]; done) | (skip; simp [s_gets, c_1, c_3]))⟩
set_option maxHeartbeats 4000000 in
theorem t_rests {g : zG} {L : Nat → Nat} {I : Nat → Nat → Int32} {J : Nat → Nat → Int64} {Gb : Nat → Nat → Int32} {X : zX} (hL : tok g L) (l s g9 w : Int32) : zN g m_X5_rests ({ frames := 1, cells := 0, slots := 0, locals := 24 } : Room) [.ref (L 99), .int l, .int s, .int g9, .int w] (tX g L I J Gb X) (fun rv X' => rv = some (.int (s_rest l s g9 w).2) ∧ X' = tX g L (zs I 99 0 (if (s_rest l s g9 w).1 = true then 0 else 1)) J Gb X) := by
  refine zN.of (by decide +kernel) (Nat.le_of_ble_eq_true rfl) rfl ?_
  refine z_lv (lv' := [(0, .ref (L 99)), (1, .int l), (2, .int s), (3, .int g9), (4, .int w)]) [0, 1, 2, 3, 4] rfl ?_
  by_cases hv : ((((decide (0 ≤ l) && decide (l ≤ 9)) && (decide (0 ≤ s) && decide (s ≤ 9))) && (decide (0 ≤ g9) && decide (g9 ≤ 9))) && decide (zm1 ≤ w)) = true
  · skip
    obtain ⟨hv123, hvw⟩ := Bool.and_eq_true_iff.mp hv
    obtain ⟨hv12, hvg9⟩ := Bool.and_eq_true_iff.mp hv123
    obtain ⟨hvl, hvs⟩ := Bool.and_eq_true_iff.mp hv12
    refine z_iload_n 1 dX5_rests_0 rfl ?_
    refine z_iconst (v := 0) dX5_rests_1 (by decide) ?_
    refine z_bipush (v := 9) dX5_rests_2 (by decide) ?_
    refine z_callS (As := [.int l, .int 0, .int 9]) (t_within l 0 9) q1771 q1772 q121 q1773 nm_X5_within rfl (Nat.le_of_ble_eq_true rfl) ⟨Nat.le_of_ble_eq_true rfl, Nat.le_of_ble_eq_true rfl⟩ dX5_rests_4 rfl rfl (Nat.le_of_ble_eq_true rfl) (Nat.le_of_ble_eq_true rfl) (fun v_1 X_2 hp_3 => ?_)
    obtain ⟨rfl, rfl⟩ := hp_3
    refine z_st (st' := [.int (zb (decide (0 ≤ l) && decide (l ≤ 9)))]) rfl ?_
    refine z_eq (y := 1) (zb_t hvl) ?_
    refine z_if_eq 40 dX5_rests_7 (by decide) (fun h_ => absurd h_ (by decide)) (fun h_ => ?_)
    refine z_iload_n 2 dX5_rests_10 rfl ?_
    refine z_iconst (v := 0) dX5_rests_11 (by decide) ?_
    refine z_bipush (v := 9) dX5_rests_12 (by decide) ?_
    refine z_callS (As := [.int s, .int 0, .int 9]) (t_within s 0 9) q1771 q1772 q121 q1773 nm_X5_within rfl (Nat.le_of_ble_eq_true rfl) ⟨Nat.le_of_ble_eq_true rfl, Nat.le_of_ble_eq_true rfl⟩ dX5_rests_14 rfl rfl (Nat.le_of_ble_eq_true rfl) (Nat.le_of_ble_eq_true rfl) (fun v_4 X_5 hp_6 => ?_)
    obtain ⟨rfl, rfl⟩ := hp_6
    refine z_st (st' := [.int (zb (decide (0 ≤ s) && decide (s ≤ 9)))]) rfl ?_
    refine z_eq (y := 1) (zb_t hvs) ?_
    refine z_if_eq 40 dX5_rests_17 (by decide) (fun h_ => absurd h_ (by decide)) (fun h_ => ?_)
    refine z_iload_n 3 dX5_rests_20 rfl ?_
    refine z_iconst (v := 0) dX5_rests_21 (by decide) ?_
    refine z_bipush (v := 9) dX5_rests_22 (by decide) ?_
    refine z_callS (As := [.int g9, .int 0, .int 9]) (t_within g9 0 9) q1771 q1772 q121 q1773 nm_X5_within rfl (Nat.le_of_ble_eq_true rfl) ⟨Nat.le_of_ble_eq_true rfl, Nat.le_of_ble_eq_true rfl⟩ dX5_rests_24 rfl rfl (Nat.le_of_ble_eq_true rfl) (Nat.le_of_ble_eq_true rfl) (fun v_7 X_8 hp_9 => ?_)
    obtain ⟨rfl, rfl⟩ := hp_9
    refine z_st (st' := [.int (zb (decide (0 ≤ g9) && decide (g9 ≤ 9)))]) rfl ?_
    refine z_eq (y := 1) (zb_t hvg9) ?_
    refine z_if_eq 40 dX5_rests_27 (by decide) (fun h_ => absurd h_ (by decide)) (fun h_ => ?_)
    refine z_iload 4 dX5_rests_30 rfl ?_
    refine z_iconst (v := zm1) dX5_rests_32 (by decide) ?_
    refine z_icmp_lt 40 dX5_rests_33 (by decide) (fun c_10 => absurd c_10 (Int32.not_lt.mpr (of_decide_eq_true hvw))) (fun c_10 => ?_)
    refine z_iconst (v := 1) dX5_rests_36 (by decide) ?_
    refine z_goto 41 dX5_rests_37 (by decide) ?_
    refine z_istore (lv' := [(5, .int 1), (0, .ref (L 99)), (1, .int l), (2, .int s), (3, .int g9), (4, .int w)]) dX5_rests_41 (by decide) rfl ?_
    refine z_iconst (v := 0) dX5_rests_43 (by decide) ?_
    refine z_istore (lv' := [(6, .int 0), (5, .int 1), (0, .ref (L 99)), (1, .int l), (2, .int s), (3, .int g9), (4, .int w)]) dX5_rests_44 (by decide) rfl ?_
    refine z_iconst (v := zm1) dX5_rests_46 (by decide) ?_
    refine z_istore (lv' := [(7, .int zm1), (6, .int 0), (5, .int 1), (0, .ref (L 99)), (1, .int l), (2, .int s), (3, .int g9), (4, .int w)]) dX5_rests_47 (by decide) rfl ?_
    refine z_iconst (v := 0) dX5_rests_49 (by decide) ?_
    refine z_istore (lv' := [(8, .int 0), (7, .int zm1), (6, .int 0), (5, .int 1), (0, .ref (L 99)), (1, .int l), (2, .int s), (3, .int g9), (4, .int w)]) dX5_rests_50 (by decide) rfl ?_
    have loop_15 : ∀ (q_12 i_11 : Nat), i_11 + q_12 = 4 → 0 ≤ i_11 → zZ g m_X5_rests (fun rv X' => rv = some (.int (s_rest l s g9 w).2) ∧ X' = tX g L (zs I 99 0 (if (s_rest l s g9 w).1 = true then 0 else 1)) J Gb X, zno, ({ frames := 1, cells := 0, slots := 0, locals := 24 } : Room)) 0 0 (tX g L I J Gb X) 52 [(0, .ref (L 99)), (1, .int l), (2, .int s), (3, .int g9), (4, .int w), (5, .int 1), (6, .int ((s_rests l s g9 w i_11).1)), (7, .int ((s_rests l s g9 w i_11).2)), (8, .int (nI (i_11)))] [] := by
      intro q_12
      induction q_12 with
      | zero =>
        intro i_11 hb_14 lo_16  
        obtain rfl : 4 = i_11 := by omega
        refine z_iload 8 dX5_rests_52 rfl ?_
        refine z_iconst (v := 4) dX5_rests_54 (by decide) ?_
        refine z_icmp_geN (a := 4) (b := 4) 174 (by decide) (by decide) dX5_rests_55 (by decide) (fun h_ => ?_) (fun h_ => absurd h_ (by decide))
        refine z_aload_n 0 dX5_rests_174 rfl ?_
        refine z_iload 5 dX5_rests_175 rfl ?_
        refine z_if_eq 194 dX5_rests_177 (by decide) (fun h_ => absurd h_ (by decide)) (fun h_ => ?_)
        refine z_iload 4 dX5_rests_180 rfl ?_
        refine z_if_lt 190 dX5_rests_182 (by decide) (fun c_17 => ?_) (fun c_17 => ?_)
        · -- w < 0
          have c_17' := Int32.not_le.mpr c_17
          refine z_iconst (v := 0) dX5_rests_190 (by decide) ?_
          refine z_goto 195 dX5_rests_191 (by decide) ?_
          refine tz_put (I' := (zs I 99 0 0)) 0 hL (by decide) q1593 rfl dX5_rests_195 ?_
          refine z_aload_n 0 dX5_rests_198 rfl ?_
          refine tz_get (v := .int 0) 0 hL (by decide) q1593 rfl dX5_rests_199 ?_
          refine z_if_le 209 dX5_rests_202 (by decide) (fun h_ => ?_) (fun h_ => absurd h_ (by decide))
          refine z_iload 4 dX5_rests_209 rfl ?_
          refine z_if_ge 219 dX5_rests_211 (by decide) (fun c_ => absurd c_ c_17') (fun _ => ?_)
          refine z_iload 6 dX5_rests_214 rfl ?_
          refine z_goto 221 dX5_rests_216 (by decide) ?_
          exact z_iret dX5_rests_221 rfl (Nat.le_of_ble_eq_true rfl) (Nat.le_of_ble_eq_true rfl) (by rw [show s_rest l s g9 w = (true, (s_rests l s g9 w 4).1) from (by unfold s_rest; rw [hv]; simp [c_10, hb_14, c_17, c_17'])]; exact ⟨rfl, rfl⟩)
        · -- ¬ w < 0
          have c_17' := Int32.not_lt.mp c_17
          refine z_iload 7 dX5_rests_185 rfl ?_
          refine z_if_lt 194 dX5_rests_187 (by decide) (fun c_18 => ?_) (fun c_18 => ?_)
          · -- (s_rests l s g9 w 4).2 < 0
            have c_18' := Int32.not_le.mpr c_18
            refine z_iconst (v := 1) dX5_rests_194 (by decide) ?_
            refine tz_put (I' := (zs I 99 0 1)) 0 hL (by decide) q1593 rfl dX5_rests_195 ?_
            refine z_aload_n 0 dX5_rests_198 rfl ?_
            refine tz_get (v := .int 1) 0 hL (by decide) q1593 rfl dX5_rests_199 ?_
            refine z_if_le 209 dX5_rests_202 (by decide) (fun h_ => absurd h_ (by decide)) (fun h_ => ?_)
            refine z_iconst (v := 0) dX5_rests_205 (by decide) ?_
            refine z_goto 221 dX5_rests_206 (by decide) ?_
            exact z_iret dX5_rests_221 rfl (Nat.le_of_ble_eq_true rfl) (Nat.le_of_ble_eq_true rfl) (by rw [show s_rest l s g9 w = (false, 0) from (by unfold s_rest; rw [hv]; simp [c_10, hb_14, c_17, c_17', c_18, c_18'])]; exact ⟨rfl, rfl⟩)
          · -- ¬ (s_rests l s g9 w 4).2 < 0
            have c_18' := Int32.not_lt.mp c_18
            refine z_iconst (v := 0) dX5_rests_190 (by decide) ?_
            refine z_goto 195 dX5_rests_191 (by decide) ?_
            refine tz_put (I' := (zs I 99 0 0)) 0 hL (by decide) q1593 rfl dX5_rests_195 ?_
            refine z_aload_n 0 dX5_rests_198 rfl ?_
            refine tz_get (v := .int 0) 0 hL (by decide) q1593 rfl dX5_rests_199 ?_
            refine z_if_le 209 dX5_rests_202 (by decide) (fun h_ => ?_) (fun h_ => absurd h_ (by decide))
            refine z_iload 4 dX5_rests_209 rfl ?_
            refine z_if_ge 219 dX5_rests_211 (by decide) (fun _ => ?_) (fun c_ => absurd c_17' c_)
            refine z_iload 7 dX5_rests_219 rfl ?_
            exact z_iret dX5_rests_221 rfl (Nat.le_of_ble_eq_true rfl) (Nat.le_of_ble_eq_true rfl) (by rw [show s_rest l s g9 w = (true, (s_rests l s g9 w 4).2) from (by unfold s_rest; rw [hv]; simp [c_10, hb_14, c_17, c_17', c_18, c_18'])]; exact ⟨rfl, rfl⟩)
      | succ q_12 ih_13 =>
        intro i_11 hb_14 lo_16  
        refine z_iload 8 dX5_rests_52 rfl ?_
        refine z_iconst (v := 4) dX5_rests_54 (by decide) ?_
        refine z_icmp_geN (a := i_11) (b := 4) 174 (by omega) (by omega) dX5_rests_55 (by decide) (fun c_19 => absurd c_19 (by omega)) (fun c_19 => ?_)
        refine z_iload 5 dX5_rests_58 rfl ?_
        refine z_if_eq 174 dX5_rests_60 (by decide) (fun h_ => absurd h_ (by decide)) (fun h_ => ?_)
        refine z_iload 8 dX5_rests_63 rfl ?_
        refine z_iconst (v := 2) dX5_rests_65 (by decide) ?_
        refine z_idivN (a := i_11) (b := 2) (by omega) (by decide) (by decide) dX5_rests_66 ?_
        refine z_istore (lv' := [(9, .int (nI ((i_11 / 2)))), (0, .ref (L 99)), (1, .int l), (2, .int s), (3, .int g9), (4, .int w), (5, .int 1), (6, .int ((s_rests l s g9 w i_11).1)), (7, .int ((s_rests l s g9 w i_11).2)), (8, .int (nI (i_11)))]) dX5_rests_67 (by decide) rfl ?_
        refine z_iload 9 dX5_rests_69 rfl ?_
        refine z_iconst (v := 2) dX5_rests_71 (by decide) ?_
        refine z_iremN (a := i_11) (b := 2) (by omega) (by decide) (by decide) dX5_rests_72 ?_
        refine z_istore (lv' := [(10, .int (nI ((i_11 % 2)))), (9, .int (nI ((i_11 / 2)))), (0, .ref (L 99)), (1, .int l), (2, .int s), (3, .int g9), (4, .int w), (5, .int 1), (6, .int ((s_rests l s g9 w i_11).1)), (7, .int ((s_rests l s g9 w i_11).2)), (8, .int (nI (i_11)))]) dX5_rests_73 (by decide) rfl ?_
        refine z_iconst (v := 1) dX5_rests_75 (by decide) ?_
        refine z_iload 1 dX5_rests_76 rfl ?_
        refine z_isub dX5_rests_78 ?_
        refine z_iload 0 dX5_rests_79 rfl ?_
        refine z_iload_n 3 dX5_rests_81 rfl ?_
        refine z_iload_n 4 dX5_rests_82 rfl ?_
        refine z_iload_n 5 dX5_rests_83 rfl ?_
        refine z_callS (As := [.int (1 - (nI ((i_11 / 2)))), .int (nI ((i_11 % 2))), .int l, .int s, .int g9]) (t_getsBy (1 - (nI ((i_11 / 2)))) (nI ((i_11 % 2))) l s g9) q2037 q2038 q121 q2039 nm_X5_getsBy rfl (Nat.le_of_ble_eq_true rfl) ⟨Nat.le_of_ble_eq_true rfl, Nat.le_of_ble_eq_true rfl⟩ dX5_rests_84 rfl rfl (Nat.le_of_ble_eq_true rfl) (Nat.le_of_ble_eq_true rfl) (fun v_20 X_21 hp_22 => ?_)
        obtain ⟨rfl, rfl⟩ := hp_22
        refine z_st (st' := [.int (s_gets (1 - (nI ((i_11 / 2)))) (nI ((i_11 % 2))) l s g9)]) rfl ?_
        refine z_iload 1 dX5_rests_87 rfl ?_
        refine z_iload 0 dX5_rests_89 rfl ?_
        refine z_iload_n 3 dX5_rests_91 rfl ?_
        refine z_iload_n 4 dX5_rests_92 rfl ?_
        refine z_iload_n 5 dX5_rests_93 rfl ?_
        refine z_callS (As := [.int (nI ((i_11 / 2))), .int (nI ((i_11 % 2))), .int l, .int s, .int g9]) (t_getsBy (nI ((i_11 / 2))) (nI ((i_11 % 2))) l s g9) q2037 q2038 q121 q2039 nm_X5_getsBy rfl (Nat.le_of_ble_eq_true rfl) ⟨Nat.le_of_ble_eq_true rfl, Nat.le_of_ble_eq_true rfl⟩ dX5_rests_94 rfl rfl (Nat.le_of_ble_eq_true rfl) (Nat.le_of_ble_eq_true rfl) (fun v_23 X_24 hp_25 => ?_)
        obtain ⟨rfl, rfl⟩ := hp_25
        refine z_st (st' := [.int (s_gets (nI ((i_11 / 2))) (nI ((i_11 % 2))) l s g9), .int (s_gets (1 - (nI ((i_11 / 2)))) (nI ((i_11 % 2))) l s g9)]) rfl ?_
        refine z_icmp_gt 129 dX5_rests_97 (by decide) (fun c_26 => ?_) (fun c_26 => ?_)
        · -- s_gets (nI ((i_11 / 2))) (nI ((i_11 % 2))) l s g9 < s_gets (1 - (nI ((i_11 / 2)))) (nI ((i_11 % 2))) l s g9
          have c_26' := Int32.not_le.mpr c_26
          refine z_iconst (v := 0) dX5_rests_129 (by decide) ?_
          refine z_istore (lv' := [(11, .int 0), (10, .int (nI ((i_11 % 2)))), (9, .int (nI ((i_11 / 2)))), (0, .ref (L 99)), (1, .int l), (2, .int s), (3, .int g9), (4, .int w), (5, .int 1), (6, .int ((s_rests l s g9 w i_11).1)), (7, .int ((s_rests l s g9 w i_11).2)), (8, .int (nI (i_11)))]) dX5_rests_130 (by decide) rfl ?_
          refine z_iload 0 dX5_rests_132 rfl ?_
          refine z_if_eq 149 dX5_rests_134 (by decide) (fun h_ => ?_) (fun h_ => absurd h_ (by decide))
          refine z_iload 10 dX5_rests_149 rfl ?_
          refine z_istore (lv' := [(7, .int ((s_rests l s g9 w i_11).2)), (11, .int 0), (10, .int (nI ((i_11 % 2)))), (9, .int (nI ((i_11 / 2)))), (0, .ref (L 99)), (1, .int l), (2, .int s), (3, .int g9), (4, .int w), (5, .int 1), (6, .int ((s_rests l s g9 w i_11).1)), (8, .int (nI (i_11)))]) dX5_rests_151 (by decide) rfl ?_
          refine z_iload 10 dX5_rests_153 rfl ?_
          refine z_iload 1 dX5_rests_155 rfl ?_
          refine z_if_eq 164 dX5_rests_157 (by decide) (fun h_ => ?_) (fun h_ => absurd h_ (by decide))
          refine z_iconst (v := 0) dX5_rests_164 (by decide) ?_
          refine z_iadd dX5_rests_165 ?_
          obtain ⟨x_27, ex_27⟩ : ∃ y : Int32, (((s_rests l s g9 w i_11).1) + 0) = y := ⟨_, rfl⟩
          refine z_eq ex_27 ?_
          refine z_istore (lv' := [(6, .int x_27), (7, .int ((s_rests l s g9 w i_11).2)), (11, .int 0), (10, .int (nI ((i_11 % 2)))), (9, .int (nI ((i_11 / 2)))), (0, .ref (L 99)), (1, .int l), (2, .int s), (3, .int g9), (4, .int w), (5, .int 1), (8, .int (nI (i_11)))]) dX5_rests_166 (by decide) rfl ?_
          refine z_iinc (v := nI (i_11 + 1)) (lv' := [(8, .int (nI (i_11 + 1))), (6, .int x_27), (7, .int ((s_rests l s g9 w i_11).2)), (11, .int 0), (10, .int (nI ((i_11 % 2)))), (9, .int (nI ((i_11 / 2)))), (0, .ref (L 99)), (1, .int l), (2, .int s), (3, .int g9), (4, .int w), (5, .int 1)]) 11 dX5_rests_168 rfl (nI_1 _) (by decide) rfl ?_
          refine z_goto 52 dX5_rests_171 (by decide) ?_
          have f_28 : x_27 = (s_rests l s g9 w (i_11 + 1)).1 := by first | rfl | omega | (simp [s_rests, s_isr, hv, c_10, hb_14, c_19, c_26, c_26']; done) | ((try subst ex_27); simp [s_rests, s_isr, hv, c_10, hb_14, c_19, c_26, c_26'])
          subst f_28
          have f_29 : (s_rests l s g9 w i_11).2 = (s_rests l s g9 w (i_11 + 1)).2 := by first | rfl | omega | (simp [s_rests, s_isr, hv, c_10, hb_14, c_19, c_26, c_26']; done) | ((try subst ex_27); simp [s_rests, s_isr, hv, c_10, hb_14, c_19, c_26, c_26'])
          refine z_lv (lv' := [(0, .ref (L 99)), (1, .int l), (2, .int s), (3, .int g9), (4, .int w), (5, .int 1), (6, .int ((s_rests l s g9 w (i_11 + 1)).1)), (7, .int ((s_rests l s g9 w (i_11 + 1)).2)), (8, .int (nI (i_11 + 1)))]) [6, 7, 8, 9, 10, 11, 1, 2, 0] (by rw [← f_29]; rfl) ?_
          exact ih_13 (i_11 + 1) (by omega) (by omega)  
        · -- ¬ s_gets (nI ((i_11 / 2))) (nI ((i_11 % 2))) l s g9 < s_gets (1 - (nI ((i_11 / 2)))) (nI ((i_11 % 2))) l s g9
          have c_26' := Int32.not_lt.mp c_26
          refine z_iconst (v := 1) dX5_rests_100 (by decide) ?_
          refine z_iload 0 dX5_rests_101 rfl ?_
          refine z_isub dX5_rests_103 ?_
          refine z_iload 1 dX5_rests_104 rfl ?_
          refine z_iload_n 3 dX5_rests_106 rfl ?_
          refine z_iload_n 4 dX5_rests_107 rfl ?_
          refine z_iload_n 5 dX5_rests_108 rfl ?_
          refine z_callS (As := [.int (1 - (nI ((i_11 % 2)))), .int (nI ((i_11 / 2))), .int l, .int s, .int g9]) (t_getsBy (1 - (nI ((i_11 % 2)))) (nI ((i_11 / 2))) l s g9) q2037 q2038 q121 q2039 nm_X5_getsBy rfl (Nat.le_of_ble_eq_true rfl) ⟨Nat.le_of_ble_eq_true rfl, Nat.le_of_ble_eq_true rfl⟩ dX5_rests_109 rfl rfl (Nat.le_of_ble_eq_true rfl) (Nat.le_of_ble_eq_true rfl) (fun v_30 X_31 hp_32 => ?_)
          obtain ⟨rfl, rfl⟩ := hp_32
          refine z_st (st' := [.int (s_gets (1 - (nI ((i_11 % 2)))) (nI ((i_11 / 2))) l s g9)]) rfl ?_
          refine z_iload 0 dX5_rests_112 rfl ?_
          refine z_iload 1 dX5_rests_114 rfl ?_
          refine z_iload_n 3 dX5_rests_116 rfl ?_
          refine z_iload_n 4 dX5_rests_117 rfl ?_
          refine z_iload_n 5 dX5_rests_118 rfl ?_
          refine z_callS (As := [.int (nI ((i_11 % 2))), .int (nI ((i_11 / 2))), .int l, .int s, .int g9]) (t_getsBy (nI ((i_11 % 2))) (nI ((i_11 / 2))) l s g9) q2037 q2038 q121 q2039 nm_X5_getsBy rfl (Nat.le_of_ble_eq_true rfl) ⟨Nat.le_of_ble_eq_true rfl, Nat.le_of_ble_eq_true rfl⟩ dX5_rests_119 rfl rfl (Nat.le_of_ble_eq_true rfl) (Nat.le_of_ble_eq_true rfl) (fun v_33 X_34 hp_35 => ?_)
          obtain ⟨rfl, rfl⟩ := hp_35
          refine z_st (st' := [.int (s_gets (nI ((i_11 % 2))) (nI ((i_11 / 2))) l s g9), .int (s_gets (1 - (nI ((i_11 % 2)))) (nI ((i_11 / 2))) l s g9)]) rfl ?_
          refine z_icmp_gt 129 dX5_rests_122 (by decide) (fun c_36 => ?_) (fun c_36 => ?_)
          · -- s_gets (nI ((i_11 % 2))) (nI ((i_11 / 2))) l s g9 < s_gets (1 - (nI ((i_11 % 2)))) (nI ((i_11 / 2))) l s g9
            have c_36' := Int32.not_le.mpr c_36
            refine z_iconst (v := 0) dX5_rests_129 (by decide) ?_
            refine z_istore (lv' := [(11, .int 0), (10, .int (nI ((i_11 % 2)))), (9, .int (nI ((i_11 / 2)))), (0, .ref (L 99)), (1, .int l), (2, .int s), (3, .int g9), (4, .int w), (5, .int 1), (6, .int ((s_rests l s g9 w i_11).1)), (7, .int ((s_rests l s g9 w i_11).2)), (8, .int (nI (i_11)))]) dX5_rests_130 (by decide) rfl ?_
            refine z_iload 0 dX5_rests_132 rfl ?_
            refine z_if_eq 149 dX5_rests_134 (by decide) (fun h_ => ?_) (fun h_ => absurd h_ (by decide))
            refine z_iload 10 dX5_rests_149 rfl ?_
            refine z_istore (lv' := [(7, .int ((s_rests l s g9 w i_11).2)), (11, .int 0), (10, .int (nI ((i_11 % 2)))), (9, .int (nI ((i_11 / 2)))), (0, .ref (L 99)), (1, .int l), (2, .int s), (3, .int g9), (4, .int w), (5, .int 1), (6, .int ((s_rests l s g9 w i_11).1)), (8, .int (nI (i_11)))]) dX5_rests_151 (by decide) rfl ?_
            refine z_iload 10 dX5_rests_153 rfl ?_
            refine z_iload 1 dX5_rests_155 rfl ?_
            refine z_if_eq 164 dX5_rests_157 (by decide) (fun h_ => ?_) (fun h_ => absurd h_ (by decide))
            refine z_iconst (v := 0) dX5_rests_164 (by decide) ?_
            refine z_iadd dX5_rests_165 ?_
            obtain ⟨x_37, ex_37⟩ : ∃ y : Int32, (((s_rests l s g9 w i_11).1) + 0) = y := ⟨_, rfl⟩
            refine z_eq ex_37 ?_
            refine z_istore (lv' := [(6, .int x_37), (7, .int ((s_rests l s g9 w i_11).2)), (11, .int 0), (10, .int (nI ((i_11 % 2)))), (9, .int (nI ((i_11 / 2)))), (0, .ref (L 99)), (1, .int l), (2, .int s), (3, .int g9), (4, .int w), (5, .int 1), (8, .int (nI (i_11)))]) dX5_rests_166 (by decide) rfl ?_
            refine z_iinc (v := nI (i_11 + 1)) (lv' := [(8, .int (nI (i_11 + 1))), (6, .int x_37), (7, .int ((s_rests l s g9 w i_11).2)), (11, .int 0), (10, .int (nI ((i_11 % 2)))), (9, .int (nI ((i_11 / 2)))), (0, .ref (L 99)), (1, .int l), (2, .int s), (3, .int g9), (4, .int w), (5, .int 1)]) 11 dX5_rests_168 rfl (nI_1 _) (by decide) rfl ?_
            refine z_goto 52 dX5_rests_171 (by decide) ?_
            have f_38 : x_37 = (s_rests l s g9 w (i_11 + 1)).1 := by first | rfl | omega | (simp [s_rests, s_isr, hv, c_10, hb_14, c_19, c_26, c_26', c_36, c_36']; done) | ((try subst ex_37); simp [s_rests, s_isr, hv, c_10, hb_14, c_19, c_26, c_26', c_36, c_36'])
            subst f_38
            have f_39 : (s_rests l s g9 w i_11).2 = (s_rests l s g9 w (i_11 + 1)).2 := by first | rfl | omega | (simp [s_rests, s_isr, hv, c_10, hb_14, c_19, c_26, c_26', c_36, c_36']; done) | ((try subst ex_37); simp [s_rests, s_isr, hv, c_10, hb_14, c_19, c_26, c_26', c_36, c_36'])
            refine z_lv (lv' := [(0, .ref (L 99)), (1, .int l), (2, .int s), (3, .int g9), (4, .int w), (5, .int 1), (6, .int ((s_rests l s g9 w (i_11 + 1)).1)), (7, .int ((s_rests l s g9 w (i_11 + 1)).2)), (8, .int (nI (i_11 + 1)))]) [6, 7, 8, 9, 10, 11, 1, 2, 0] (by rw [← f_39]; rfl) ?_
            exact ih_13 (i_11 + 1) (by omega) (by omega)  
          · -- ¬ s_gets (nI ((i_11 % 2))) (nI ((i_11 / 2))) l s g9 < s_gets (1 - (nI ((i_11 % 2)))) (nI ((i_11 / 2))) l s g9
            have c_36' := Int32.not_lt.mp c_36
            refine z_iconst (v := 1) dX5_rests_125 (by decide) ?_
            refine z_goto 130 dX5_rests_126 (by decide) ?_
            refine z_istore (lv' := [(11, .int 1), (10, .int (nI ((i_11 % 2)))), (9, .int (nI ((i_11 / 2)))), (0, .ref (L 99)), (1, .int l), (2, .int s), (3, .int g9), (4, .int w), (5, .int 1), (6, .int ((s_rests l s g9 w i_11).1)), (7, .int ((s_rests l s g9 w i_11).2)), (8, .int (nI (i_11)))]) dX5_rests_130 (by decide) rfl ?_
            refine z_iload 0 dX5_rests_132 rfl ?_
            refine z_if_eq 149 dX5_rests_134 (by decide) (fun h_ => absurd h_ (by decide)) (fun h_ => ?_)
            refine z_iload 9 dX5_rests_137 rfl ?_
            refine z_iload 7 dX5_rests_139 rfl ?_
            refine z_icmp_ne 149 dX5_rests_141 (by decide) (fun c_40 => ?_) (fun c_40 => ?_)
            · -- ¬ (s_rests l s g9 w i_11).1 = w
              refine z_iload 10 dX5_rests_149 rfl ?_
              refine z_istore (lv' := [(7, .int ((s_rests l s g9 w i_11).2)), (11, .int 1), (10, .int (nI ((i_11 % 2)))), (9, .int (nI ((i_11 / 2)))), (0, .ref (L 99)), (1, .int l), (2, .int s), (3, .int g9), (4, .int w), (5, .int 1), (6, .int ((s_rests l s g9 w i_11).1)), (8, .int (nI (i_11)))]) dX5_rests_151 (by decide) rfl ?_
              refine z_iload 10 dX5_rests_153 rfl ?_
              refine z_iload 1 dX5_rests_155 rfl ?_
              refine z_if_eq 164 dX5_rests_157 (by decide) (fun h_ => absurd h_ (by decide)) (fun h_ => ?_)
              refine z_iconst (v := 1) dX5_rests_160 (by decide) ?_
              refine z_goto 165 dX5_rests_161 (by decide) ?_
              refine z_iadd dX5_rests_165 ?_
              obtain ⟨x_41, ex_41⟩ : ∃ y : Int32, (((s_rests l s g9 w i_11).1) + 1) = y := ⟨_, rfl⟩
              refine z_eq ex_41 ?_
              refine z_istore (lv' := [(6, .int x_41), (7, .int ((s_rests l s g9 w i_11).2)), (11, .int 1), (10, .int (nI ((i_11 % 2)))), (9, .int (nI ((i_11 / 2)))), (0, .ref (L 99)), (1, .int l), (2, .int s), (3, .int g9), (4, .int w), (5, .int 1), (8, .int (nI (i_11)))]) dX5_rests_166 (by decide) rfl ?_
              refine z_iinc (v := nI (i_11 + 1)) (lv' := [(8, .int (nI (i_11 + 1))), (6, .int x_41), (7, .int ((s_rests l s g9 w i_11).2)), (11, .int 1), (10, .int (nI ((i_11 % 2)))), (9, .int (nI ((i_11 / 2)))), (0, .ref (L 99)), (1, .int l), (2, .int s), (3, .int g9), (4, .int w), (5, .int 1)]) 11 dX5_rests_168 rfl (nI_1 _) (by decide) rfl ?_
              refine z_goto 52 dX5_rests_171 (by decide) ?_
              have f_42 : x_41 = (s_rests l s g9 w (i_11 + 1)).1 := by first | rfl | omega | (simp [s_rests, s_isr, hv, c_10, hb_14, c_19, c_26, c_26', c_36, c_36', c_40]; done) | ((try subst ex_41); simp [s_rests, s_isr, hv, c_10, hb_14, c_19, c_26, c_26', c_36, c_36', c_40])
              subst f_42
              have f_43 : (s_rests l s g9 w i_11).2 = (s_rests l s g9 w (i_11 + 1)).2 := by first | rfl | omega | (simp [s_rests, s_isr, hv, c_10, hb_14, c_19, c_26, c_26', c_36, c_36', c_40]; done) | ((try subst ex_41); simp [s_rests, s_isr, hv, c_10, hb_14, c_19, c_26, c_26', c_36, c_36', c_40])
              refine z_lv (lv' := [(0, .ref (L 99)), (1, .int l), (2, .int s), (3, .int g9), (4, .int w), (5, .int 1), (6, .int ((s_rests l s g9 w (i_11 + 1)).1)), (7, .int ((s_rests l s g9 w (i_11 + 1)).2)), (8, .int (nI (i_11 + 1)))]) [6, 7, 8, 9, 10, 11, 1, 2, 0] (by rw [← f_43]; rfl) ?_
              exact ih_13 (i_11 + 1) (by omega) (by omega)  
            · -- (s_rests l s g9 w i_11).1 = w
              refine z_iload 11 dX5_rests_144 rfl ?_
              refine z_goto 151 dX5_rests_146 (by decide) ?_
              refine z_istore (lv' := [(7, .int (nI (i_11))), (11, .int 1), (10, .int (nI ((i_11 % 2)))), (9, .int (nI ((i_11 / 2)))), (0, .ref (L 99)), (1, .int l), (2, .int s), (3, .int g9), (4, .int w), (5, .int 1), (6, .int ((s_rests l s g9 w i_11).1)), (8, .int (nI (i_11)))]) dX5_rests_151 (by decide) rfl ?_
              refine z_iload 10 dX5_rests_153 rfl ?_
              refine z_iload 1 dX5_rests_155 rfl ?_
              refine z_if_eq 164 dX5_rests_157 (by decide) (fun h_ => absurd h_ (by decide)) (fun h_ => ?_)
              refine z_iconst (v := 1) dX5_rests_160 (by decide) ?_
              refine z_goto 165 dX5_rests_161 (by decide) ?_
              refine z_iadd dX5_rests_165 ?_
              obtain ⟨x_44, ex_44⟩ : ∃ y : Int32, (((s_rests l s g9 w i_11).1) + 1) = y := ⟨_, rfl⟩
              refine z_eq ex_44 ?_
              refine z_istore (lv' := [(6, .int x_44), (7, .int (nI (i_11))), (11, .int 1), (10, .int (nI ((i_11 % 2)))), (9, .int (nI ((i_11 / 2)))), (0, .ref (L 99)), (1, .int l), (2, .int s), (3, .int g9), (4, .int w), (5, .int 1), (8, .int (nI (i_11)))]) dX5_rests_166 (by decide) rfl ?_
              refine z_iinc (v := nI (i_11 + 1)) (lv' := [(8, .int (nI (i_11 + 1))), (6, .int x_44), (7, .int (nI (i_11))), (11, .int 1), (10, .int (nI ((i_11 % 2)))), (9, .int (nI ((i_11 / 2)))), (0, .ref (L 99)), (1, .int l), (2, .int s), (3, .int g9), (4, .int w), (5, .int 1)]) 11 dX5_rests_168 rfl (nI_1 _) (by decide) rfl ?_
              refine z_goto 52 dX5_rests_171 (by decide) ?_
              have f_45 : x_44 = (s_rests l s g9 w (i_11 + 1)).1 := by first | rfl | omega | (simp [s_rests, s_isr, hv, c_10, hb_14, c_19, c_26, c_26', c_36, c_36', c_40]; done) | ((try subst ex_44); simp [s_rests, s_isr, hv, c_10, hb_14, c_19, c_26, c_26', c_36, c_36', c_40])
              subst f_45
              have f_46 : nI (i_11) = (s_rests l s g9 w (i_11 + 1)).2 := by first | rfl | omega | (simp [s_rests, s_isr, hv, c_10, hb_14, c_19, c_26, c_26', c_36, c_36', c_40]; done) | ((try subst ex_44); simp [s_rests, s_isr, hv, c_10, hb_14, c_19, c_26, c_26', c_36, c_36', c_40])
              refine z_lv (lv' := [(0, .ref (L 99)), (1, .int l), (2, .int s), (3, .int g9), (4, .int w), (5, .int 1), (6, .int ((s_rests l s g9 w (i_11 + 1)).1)), (7, .int ((s_rests l s g9 w (i_11 + 1)).2)), (8, .int (nI (i_11 + 1)))]) [6, 7, 8, 9, 10, 11, 1, 2, 0] (by rw [← f_46]; rfl) ?_
              exact ih_13 (i_11 + 1) (by omega) (by omega)  
    have f_47 : 0 = (s_rests l s g9 w 0).1 := by first | rfl | omega | (simp [s_rests, s_isr, hv, c_10]; done) | (skip; simp [s_rests, s_isr, hv, c_10])
    have f_48 : zm1 = (s_rests l s g9 w 0).2 := by first | rfl | omega | (simp [s_rests, s_isr, hv, c_10]; done) | (skip; simp [s_rests, s_isr, hv, c_10])
    refine z_lv (lv' := [(0, .ref (L 99)), (1, .int l), (2, .int s), (3, .int g9), (4, .int w), (5, .int 1), (6, .int ((s_rests l s g9 w 0).1)), (7, .int ((s_rests l s g9 w 0).2)), (8, .int 0)]) [4, 5, 6, 7, 8, 3, 2, 1, 0] (by rw [← f_47, ← f_48]; rfl) ?_
    exact loop_15 (4 - 0) 0 (by omega) (Nat.le_refl _)  
  · have hv := zb_not hv
    refine z_iload_n 1 dX5_rests_0 rfl ?_
    refine z_iconst (v := 0) dX5_rests_1 (by decide) ?_
    refine z_bipush (v := 9) dX5_rests_2 (by decide) ?_
    refine z_callS (As := [.int l, .int 0, .int 9]) (t_within l 0 9) q1771 q1772 q121 q1773 nm_X5_within rfl (Nat.le_of_ble_eq_true rfl) ⟨Nat.le_of_ble_eq_true rfl, Nat.le_of_ble_eq_true rfl⟩ dX5_rests_4 rfl rfl (Nat.le_of_ble_eq_true rfl) (Nat.le_of_ble_eq_true rfl) (fun v_49 X_50 hp_51 => ?_)
    obtain ⟨rfl, rfl⟩ := hp_51
    refine z_st (st' := [.int (zb (decide (0 ≤ l) && decide (l ≤ 9)))]) rfl ?_
    refine z_if_eqb 40 dX5_rests_7 (by decide) (fun c_52 => ?_) (fun c_52 => ?_)
    · -- decide (0 ≤ l) && decide (l ≤ 9) = false
      refine z_iconst (v := 0) dX5_rests_40 (by decide) ?_
      refine z_istore (lv' := [(5, .int 0), (0, .ref (L 99)), (1, .int l), (2, .int s), (3, .int g9), (4, .int w)]) dX5_rests_41 (by decide) rfl ?_
      refine z_iconst (v := 0) dX5_rests_43 (by decide) ?_
      refine z_istore (lv' := [(6, .int 0), (5, .int 0), (0, .ref (L 99)), (1, .int l), (2, .int s), (3, .int g9), (4, .int w)]) dX5_rests_44 (by decide) rfl ?_
      refine z_iconst (v := zm1) dX5_rests_46 (by decide) ?_
      refine z_istore (lv' := [(7, .int zm1), (6, .int 0), (5, .int 0), (0, .ref (L 99)), (1, .int l), (2, .int s), (3, .int g9), (4, .int w)]) dX5_rests_47 (by decide) rfl ?_
      refine z_iconst (v := 0) dX5_rests_49 (by decide) ?_
      refine z_istore (lv' := [(8, .int 0), (7, .int zm1), (6, .int 0), (5, .int 0), (0, .ref (L 99)), (1, .int l), (2, .int s), (3, .int g9), (4, .int w)]) dX5_rests_50 (by decide) rfl ?_
      refine z_iload 0 dX5_rests_52 rfl ?_
      refine z_iconst (v := 4) dX5_rests_54 (by decide) ?_
      refine z_icmp_geN (a := 0) (b := 4) 174 (by decide) (by decide) dX5_rests_55 (by decide) (fun h_ => absurd h_ (by decide)) (fun h_ => ?_)
      refine z_iload 3 dX5_rests_58 rfl ?_
      refine z_if_eq 174 dX5_rests_60 (by decide) (fun h_ => ?_) (fun h_ => absurd h_ (by decide))
      refine z_aload_n 4 dX5_rests_174 rfl ?_
      refine z_iload 3 dX5_rests_175 rfl ?_
      refine z_if_eq 194 dX5_rests_177 (by decide) (fun h_ => ?_) (fun h_ => absurd h_ (by decide))
      refine z_iconst (v := 1) dX5_rests_194 (by decide) ?_
      refine tz_put (I' := (zs I 99 0 1)) 0 hL (by decide) q1593 rfl dX5_rests_195 ?_
      refine z_aload_n 4 dX5_rests_198 rfl ?_
      refine tz_get (v := .int 1) 0 hL (by decide) q1593 rfl dX5_rests_199 ?_
      refine z_if_le 209 dX5_rests_202 (by decide) (fun h_ => absurd h_ (by decide)) (fun h_ => ?_)
      refine z_iconst (v := 0) dX5_rests_205 (by decide) ?_
      refine z_goto 221 dX5_rests_206 (by decide) ?_
      exact z_iret dX5_rests_221 rfl (Nat.le_of_ble_eq_true rfl) (Nat.le_of_ble_eq_true rfl) (by rw [show s_rest l s g9 w = (false, 0) from (by unfold s_rest; rw [hv]; rfl)]; exact ⟨rfl, rfl⟩)
    · -- decide (0 ≤ l) && decide (l ≤ 9) = true
      refine z_iload_n 2 dX5_rests_10 rfl ?_
      refine z_iconst (v := 0) dX5_rests_11 (by decide) ?_
      refine z_bipush (v := 9) dX5_rests_12 (by decide) ?_
      refine z_callS (As := [.int s, .int 0, .int 9]) (t_within s 0 9) q1771 q1772 q121 q1773 nm_X5_within rfl (Nat.le_of_ble_eq_true rfl) ⟨Nat.le_of_ble_eq_true rfl, Nat.le_of_ble_eq_true rfl⟩ dX5_rests_14 rfl rfl (Nat.le_of_ble_eq_true rfl) (Nat.le_of_ble_eq_true rfl) (fun v_53 X_54 hp_55 => ?_)
      obtain ⟨rfl, rfl⟩ := hp_55
      refine z_st (st' := [.int (zb (decide (0 ≤ s) && decide (s ≤ 9)))]) rfl ?_
      refine z_if_eqb 40 dX5_rests_17 (by decide) (fun c_56 => ?_) (fun c_56 => ?_)
      · -- decide (0 ≤ s) && decide (s ≤ 9) = false
        refine z_iconst (v := 0) dX5_rests_40 (by decide) ?_
        refine z_istore (lv' := [(5, .int 0), (0, .ref (L 99)), (1, .int l), (2, .int s), (3, .int g9), (4, .int w)]) dX5_rests_41 (by decide) rfl ?_
        refine z_iconst (v := 0) dX5_rests_43 (by decide) ?_
        refine z_istore (lv' := [(6, .int 0), (5, .int 0), (0, .ref (L 99)), (1, .int l), (2, .int s), (3, .int g9), (4, .int w)]) dX5_rests_44 (by decide) rfl ?_
        refine z_iconst (v := zm1) dX5_rests_46 (by decide) ?_
        refine z_istore (lv' := [(7, .int zm1), (6, .int 0), (5, .int 0), (0, .ref (L 99)), (1, .int l), (2, .int s), (3, .int g9), (4, .int w)]) dX5_rests_47 (by decide) rfl ?_
        refine z_iconst (v := 0) dX5_rests_49 (by decide) ?_
        refine z_istore (lv' := [(8, .int 0), (7, .int zm1), (6, .int 0), (5, .int 0), (0, .ref (L 99)), (1, .int l), (2, .int s), (3, .int g9), (4, .int w)]) dX5_rests_50 (by decide) rfl ?_
        refine z_iload 0 dX5_rests_52 rfl ?_
        refine z_iconst (v := 4) dX5_rests_54 (by decide) ?_
        refine z_icmp_geN (a := 0) (b := 4) 174 (by decide) (by decide) dX5_rests_55 (by decide) (fun h_ => absurd h_ (by decide)) (fun h_ => ?_)
        refine z_iload 3 dX5_rests_58 rfl ?_
        refine z_if_eq 174 dX5_rests_60 (by decide) (fun h_ => ?_) (fun h_ => absurd h_ (by decide))
        refine z_aload_n 4 dX5_rests_174 rfl ?_
        refine z_iload 3 dX5_rests_175 rfl ?_
        refine z_if_eq 194 dX5_rests_177 (by decide) (fun h_ => ?_) (fun h_ => absurd h_ (by decide))
        refine z_iconst (v := 1) dX5_rests_194 (by decide) ?_
        refine tz_put (I' := (zs I 99 0 1)) 0 hL (by decide) q1593 rfl dX5_rests_195 ?_
        refine z_aload_n 4 dX5_rests_198 rfl ?_
        refine tz_get (v := .int 1) 0 hL (by decide) q1593 rfl dX5_rests_199 ?_
        refine z_if_le 209 dX5_rests_202 (by decide) (fun h_ => absurd h_ (by decide)) (fun h_ => ?_)
        refine z_iconst (v := 0) dX5_rests_205 (by decide) ?_
        refine z_goto 221 dX5_rests_206 (by decide) ?_
        exact z_iret dX5_rests_221 rfl (Nat.le_of_ble_eq_true rfl) (Nat.le_of_ble_eq_true rfl) (by rw [show s_rest l s g9 w = (false, 0) from (by unfold s_rest; rw [hv]; rfl)]; exact ⟨rfl, rfl⟩)
      · -- decide (0 ≤ s) && decide (s ≤ 9) = true
        refine z_iload_n 3 dX5_rests_20 rfl ?_
        refine z_iconst (v := 0) dX5_rests_21 (by decide) ?_
        refine z_bipush (v := 9) dX5_rests_22 (by decide) ?_
        refine z_callS (As := [.int g9, .int 0, .int 9]) (t_within g9 0 9) q1771 q1772 q121 q1773 nm_X5_within rfl (Nat.le_of_ble_eq_true rfl) ⟨Nat.le_of_ble_eq_true rfl, Nat.le_of_ble_eq_true rfl⟩ dX5_rests_24 rfl rfl (Nat.le_of_ble_eq_true rfl) (Nat.le_of_ble_eq_true rfl) (fun v_57 X_58 hp_59 => ?_)
        obtain ⟨rfl, rfl⟩ := hp_59
        refine z_st (st' := [.int (zb (decide (0 ≤ g9) && decide (g9 ≤ 9)))]) rfl ?_
        refine z_if_eqb 40 dX5_rests_27 (by decide) (fun c_60 => ?_) (fun c_60 => ?_)
        · -- decide (0 ≤ g9) && decide (g9 ≤ 9) = false
          refine z_iconst (v := 0) dX5_rests_40 (by decide) ?_
          refine z_istore (lv' := [(5, .int 0), (0, .ref (L 99)), (1, .int l), (2, .int s), (3, .int g9), (4, .int w)]) dX5_rests_41 (by decide) rfl ?_
          refine z_iconst (v := 0) dX5_rests_43 (by decide) ?_
          refine z_istore (lv' := [(6, .int 0), (5, .int 0), (0, .ref (L 99)), (1, .int l), (2, .int s), (3, .int g9), (4, .int w)]) dX5_rests_44 (by decide) rfl ?_
          refine z_iconst (v := zm1) dX5_rests_46 (by decide) ?_
          refine z_istore (lv' := [(7, .int zm1), (6, .int 0), (5, .int 0), (0, .ref (L 99)), (1, .int l), (2, .int s), (3, .int g9), (4, .int w)]) dX5_rests_47 (by decide) rfl ?_
          refine z_iconst (v := 0) dX5_rests_49 (by decide) ?_
          refine z_istore (lv' := [(8, .int 0), (7, .int zm1), (6, .int 0), (5, .int 0), (0, .ref (L 99)), (1, .int l), (2, .int s), (3, .int g9), (4, .int w)]) dX5_rests_50 (by decide) rfl ?_
          refine z_iload 0 dX5_rests_52 rfl ?_
          refine z_iconst (v := 4) dX5_rests_54 (by decide) ?_
          refine z_icmp_geN (a := 0) (b := 4) 174 (by decide) (by decide) dX5_rests_55 (by decide) (fun h_ => absurd h_ (by decide)) (fun h_ => ?_)
          refine z_iload 3 dX5_rests_58 rfl ?_
          refine z_if_eq 174 dX5_rests_60 (by decide) (fun h_ => ?_) (fun h_ => absurd h_ (by decide))
          refine z_aload_n 4 dX5_rests_174 rfl ?_
          refine z_iload 3 dX5_rests_175 rfl ?_
          refine z_if_eq 194 dX5_rests_177 (by decide) (fun h_ => ?_) (fun h_ => absurd h_ (by decide))
          refine z_iconst (v := 1) dX5_rests_194 (by decide) ?_
          refine tz_put (I' := (zs I 99 0 1)) 0 hL (by decide) q1593 rfl dX5_rests_195 ?_
          refine z_aload_n 4 dX5_rests_198 rfl ?_
          refine tz_get (v := .int 1) 0 hL (by decide) q1593 rfl dX5_rests_199 ?_
          refine z_if_le 209 dX5_rests_202 (by decide) (fun h_ => absurd h_ (by decide)) (fun h_ => ?_)
          refine z_iconst (v := 0) dX5_rests_205 (by decide) ?_
          refine z_goto 221 dX5_rests_206 (by decide) ?_
          exact z_iret dX5_rests_221 rfl (Nat.le_of_ble_eq_true rfl) (Nat.le_of_ble_eq_true rfl) (by rw [show s_rest l s g9 w = (false, 0) from (by unfold s_rest; rw [hv]; rfl)]; exact ⟨rfl, rfl⟩)
        · -- decide (0 ≤ g9) && decide (g9 ≤ 9) = true
          refine z_iload 4 dX5_rests_30 rfl ?_
          refine z_iconst (v := zm1) dX5_rests_32 (by decide) ?_
          refine z_icmp_lt 40 dX5_rests_33 (by decide) (fun c_61 => ?_) (fun c_61 => absurd c_61 (fun h9 => by rw [c_52, c_56, c_60, decide_eq_true (Int32.not_lt.mp h9)] at hv; exact absurd hv (by decide)))
          refine z_iconst (v := 0) dX5_rests_40 (by decide) ?_
          refine z_istore (lv' := [(5, .int 0), (0, .ref (L 99)), (1, .int l), (2, .int s), (3, .int g9), (4, .int w)]) dX5_rests_41 (by decide) rfl ?_
          refine z_iconst (v := 0) dX5_rests_43 (by decide) ?_
          refine z_istore (lv' := [(6, .int 0), (5, .int 0), (0, .ref (L 99)), (1, .int l), (2, .int s), (3, .int g9), (4, .int w)]) dX5_rests_44 (by decide) rfl ?_
          refine z_iconst (v := zm1) dX5_rests_46 (by decide) ?_
          refine z_istore (lv' := [(7, .int zm1), (6, .int 0), (5, .int 0), (0, .ref (L 99)), (1, .int l), (2, .int s), (3, .int g9), (4, .int w)]) dX5_rests_47 (by decide) rfl ?_
          refine z_iconst (v := 0) dX5_rests_49 (by decide) ?_
          refine z_istore (lv' := [(8, .int 0), (7, .int zm1), (6, .int 0), (5, .int 0), (0, .ref (L 99)), (1, .int l), (2, .int s), (3, .int g9), (4, .int w)]) dX5_rests_50 (by decide) rfl ?_
          refine z_iload 0 dX5_rests_52 rfl ?_
          refine z_iconst (v := 4) dX5_rests_54 (by decide) ?_
          refine z_icmp_geN (a := 0) (b := 4) 174 (by decide) (by decide) dX5_rests_55 (by decide) (fun h_ => absurd h_ (by decide)) (fun h_ => ?_)
          refine z_iload 3 dX5_rests_58 rfl ?_
          refine z_if_eq 174 dX5_rests_60 (by decide) (fun h_ => ?_) (fun h_ => absurd h_ (by decide))
          refine z_aload_n 4 dX5_rests_174 rfl ?_
          refine z_iload 3 dX5_rests_175 rfl ?_
          refine z_if_eq 194 dX5_rests_177 (by decide) (fun h_ => ?_) (fun h_ => absurd h_ (by decide))
          refine z_iconst (v := 1) dX5_rests_194 (by decide) ?_
          refine tz_put (I' := (zs I 99 0 1)) 0 hL (by decide) q1593 rfl dX5_rests_195 ?_
          refine z_aload_n 4 dX5_rests_198 rfl ?_
          refine tz_get (v := .int 1) 0 hL (by decide) q1593 rfl dX5_rests_199 ?_
          refine z_if_le 209 dX5_rests_202 (by decide) (fun h_ => absurd h_ (by decide)) (fun h_ => ?_)
          refine z_iconst (v := 0) dX5_rests_205 (by decide) ?_
          refine z_goto 221 dX5_rests_206 (by decide) ?_
          exact z_iret dX5_rests_221 rfl (Nat.le_of_ble_eq_true rfl) (Nat.le_of_ble_eq_true rfl) (by rw [show s_rest l s g9 w = (false, 0) from (by unfold s_rest; rw [hv]; rfl)]; exact ⟨rfl, rfl⟩)
set_option maxHeartbeats 4000000 in
theorem t_datesAsTold {g : zG} {L : Nat → Nat} {I : Nat → Nat → Int32} {J : Nat → Nat → Int64} {Gb : Nat → Nat → Int32} {X : zX} (hL : tok g L) {nd : Nat} (h1 : I 10 1 = nI nd) (hnd : nd ≤ 6) : zN g m_X5_datesAsTold ({ frames := 1, cells := 0, slots := 0, locals := 22 } : Room) [.ref (L 99)] (tX g L I J Gb X) (fun rv X' => rv = none ∧ X' = (tX g L (s_dts I nd) J Gb X)) := by
  refine zN.of (by decide +kernel) (Nat.le_of_ble_eq_true rfl) rfl ?_
  refine z_lv (lv' := [(0, .ref (L 99))]) [0] rfl ?_
  refine z_iconst (v := 0) dX5_datesAsTold_0 (by decide) ?_
  refine z_istore_n (lv' := [(1, .int 0), (0, .ref (L 99))]) dX5_datesAsTold_1 rfl (by decide) rfl ?_
  have loop_5 : ∀ (q_2 i_1 : Nat), i_1 + q_2 = nd → 0 ≤ i_1 → zZ g m_X5_datesAsTold (fun rv X' => rv = none ∧ X' = (tX g L (s_dts I nd) J Gb X), zno, ({ frames := 1, cells := 0, slots := 0, locals := 22 } : Room)) 0 0 (tX g L (s_dts I i_1) J Gb X) 2 [(0, .ref (L 99)), (1, .int (nI (i_1)))] [] := by
    intro q_2
    induction q_2 with
    | zero =>
      intro i_1 hb_4 lo_6  
      obtain rfl : nd = i_1 := by omega
      refine z_iload_n 1 dX5_datesAsTold_2 rfl ?_
      refine z_aload_n 0 dX5_datesAsTold_3 rfl ?_
      refine z_callV (As := []) (t_days (I := (s_dts I nd)) hL (by first | exact h1 | exact (congrFun (s_dts_a (by decide)) 1).trans h1)) q1573 q1575 qs53 q121 q1576 nm_X5_days (tX_obj hL) rfl rfl rfl (Nat.le_of_ble_eq_true rfl) ⟨Nat.le_of_ble_eq_true rfl, Nat.le_of_ble_eq_true rfl⟩ dX5_datesAsTold_4 rfl rfl (Nat.le_of_ble_eq_true rfl) (Nat.le_of_ble_eq_true rfl) (fun v_7 X_8 hp_9 => ?_)
      obtain ⟨rfl, rfl⟩ := hp_9
      refine z_st (st' := [.int (nI (nd)), .int (nI (nd))]) rfl ?_
      refine z_icmp_geN (a := nd) (b := nd) 28 (by omega) (by omega) dX5_datesAsTold_7 (by decide) (fun c_10 => ?_) (fun c_10 => absurd c_10 (by omega))
      exact z_vret dX5_datesAsTold_28 rfl (Nat.le_of_ble_eq_true rfl) (Nat.le_of_ble_eq_true rfl) ⟨rfl, (by first | rfl | (simp [hb_4, c_10]; done) | (skip; simp [hb_4, c_10]))⟩
    | succ q_2 ih_3 =>
      intro i_1 hb_4 lo_6  
      refine z_iload_n 1 dX5_datesAsTold_2 rfl ?_
      refine z_aload_n 0 dX5_datesAsTold_3 rfl ?_
      refine z_callV (As := []) (t_days (I := (s_dts I i_1)) hL (by first | exact h1 | exact (congrFun (s_dts_a (by decide)) 1).trans h1)) q1573 q1575 qs53 q121 q1576 nm_X5_days (tX_obj hL) rfl rfl rfl (Nat.le_of_ble_eq_true rfl) ⟨Nat.le_of_ble_eq_true rfl, Nat.le_of_ble_eq_true rfl⟩ dX5_datesAsTold_4 rfl rfl (Nat.le_of_ble_eq_true rfl) (Nat.le_of_ble_eq_true rfl) (fun v_11 X_12 hp_13 => ?_)
      obtain ⟨rfl, rfl⟩ := hp_13
      refine z_st (st' := [.int (nI (nd)), .int (nI (i_1))]) rfl ?_
      refine z_icmp_geN (a := i_1) (b := nd) 28 (by omega) (by omega) dX5_datesAsTold_7 (by decide) (fun c_14 => absurd c_14 (by omega)) (fun c_14 => ?_)
      refine z_aload_n 0 dX5_datesAsTold_10 rfl ?_
      refine tz_get (v := .ref (L 27)) 27 hL (by decide) q1620 rfl dX5_datesAsTold_11 ?_
      refine z_iload_n 1 dX5_datesAsTold_14 rfl ?_
      refine z_aload_n 0 dX5_datesAsTold_15 rfl ?_
      refine z_iload_n 1 dX5_datesAsTold_16 rfl ?_
      refine z_iconst (v := 2) dX5_datesAsTold_17 (by decide) ?_
      refine z_callV (As := [.int (nI (i_1)), .int 2]) (t_dayOf (I := (s_dts I i_1)) hL i_1 2 (by omega)) q1577 q1579 qs54 q121 q1580 nm_X5_dayOf (tX_obj hL) rfl rfl rfl (Nat.le_of_ble_eq_true rfl) ⟨Nat.le_of_ble_eq_true rfl, Nat.le_of_ble_eq_true rfl⟩ dX5_datesAsTold_18 rfl rfl (Nat.le_of_ble_eq_true rfl) (Nat.le_of_ble_eq_true rfl) (fun v_15 X_16 hp_17 => ?_)
      obtain ⟨rfl, rfl⟩ := hp_17
      refine z_st (st' := [.int (I 10 (5 * i_1 + 14)), .int (nI (i_1)), .ref (L 27)]) rfl ?_
      refine tz_iast 27 (i_1) hL (by decide) rfl (by show i_1 < 6; omega) rfl dX5_datesAsTold_21 ?_
      refine z_iinc (v := nI (i_1 + 1)) (lv' := [(1, .int (nI (i_1 + 1))), (0, .ref (L 99))]) 1 dX5_datesAsTold_22 rfl (nI_1 _) (by decide) rfl ?_
      refine z_goto 2 dX5_datesAsTold_25 (by decide) ?_
      refine z_lv (lv' := [(0, .ref (L 99)), (1, .int (nI (i_1 + 1)))]) [1, 0] rfl ?_
      refine z_X (X' := (tX g L (s_dts I (i_1 + 1)) J Gb X)) (by rw [s_dts_1]) ?_
      exact ih_3 (i_1 + 1) (by omega) (by omega)  
  refine z_lv (lv' := [(0, .ref (L 99)), (1, .int 0)]) [1, 0] rfl ?_
  refine z_X (X' := (tX g L (s_dts I 0) J Gb X)) (by rw [s_dts_0]) ?_
  exact loop_5 (nd - 0) 0 (by omega) (Nat.le_refl _)  
set_option maxHeartbeats 4000000 in
theorem t_starts {g : zG} {L : Nat → Nat} {I : Nat → Nat → Int32} {J : Nat → Nat → Int64} {Gb : Nat → Nat → Int32} {X : zX} (hL : tok g L) {σ : Nat → Int32} {nh nd : Nat} (h0 : I 10 0 = nI nh) (hnh : nh ≤ 4) (h1 : I 10 1 = nI nd) (hnd : nd ≤ 6) (b : Nat) (hb : b + 47 ≤ 1081) : zN g m_X5_starts ({ frames := 1, cells := 0, slots := 0, locals := 22 } : Room) [.ref (L 99), .int (nI (b))] (tX g L (tput I b σ) J Gb X) (fun rv X' => rv = none ∧ X' = (tX g L (tput I b (s_start (I 10) nh nd)) J Gb X)) := by
  refine zN.of (by decide +kernel) (Nat.le_of_ble_eq_true rfl) rfl ?_
  refine z_lv (lv' := [(0, .ref (L 99)), (1, .int (nI (b)))]) [0, 1] rfl ?_
  refine z_iconst (v := 0) dX5_starts_0 (by decide) ?_
  refine z_istore_n (lv' := [(2, .int 0), (0, .ref (L 99)), (1, .int (nI (b)))]) dX5_starts_1 rfl (by decide) rfl ?_
  have loop_5 : ∀ (q_2 i_1 : Nat), i_1 + q_2 = 30 → 0 ≤ i_1 → zZ g m_X5_starts (fun rv X' => rv = none ∧ X' = (tX g L (tput I b (s_start (I 10) nh nd)) J Gb X), zno, ({ frames := 1, cells := 0, slots := 0, locals := 22 } : Room)) 0 0 (tX g L (tput I b (s_zer σ i_1)) J Gb X) 2 [(0, .ref (L 99)), (1, .int (nI (b))), (2, .int (nI (i_1)))] [] := by
    intro q_2
    induction q_2 with
    | zero =>
      intro i_1 hb_4 lo_6  
      obtain rfl : 30 = i_1 := by omega
      refine z_iload_n 2 dX5_starts_2 rfl ?_
      refine z_bipush (v := 30) dX5_starts_3 (by decide) ?_
      refine z_icmp_geN (a := 30) (b := 30) 23 (by decide) (by decide) dX5_starts_5 (by decide) (fun h_ => ?_) (fun h_ => absurd h_ (by decide))
      refine z_iconst (v := 0) dX5_starts_23 (by decide) ?_
      refine z_istore_n (lv' := [(2, .int 0), (0, .ref (L 99)), (1, .int (nI (b)))]) dX5_starts_24 rfl (by decide) rfl ?_
      have loop_11 : ∀ (q_8 i_7 : Nat), i_7 + q_8 = nh → 0 ≤ i_7 → zZ g m_X5_starts (fun rv X' => rv = none ∧ X' = (tX g L (tput I b (s_start (I 10) nh nd)) J Gb X), zno, ({ frames := 1, cells := 0, slots := 0, locals := 22 } : Room)) 0 0 (tX g L (tput I b (s_sb (I 10) (s_zer σ 30) i_7)) J Gb X) 25 [(0, .ref (L 99)), (1, .int (nI (b))), (2, .int (nI (i_7)))] [] := by
        intro q_8
        induction q_8 with
        | zero =>
          intro i_7 hb_10 lo_12  
          obtain rfl : nh = i_7 := by omega
          refine z_iload_n 2 dX5_starts_25 rfl ?_
          refine z_aload_n 0 dX5_starts_26 rfl ?_
          refine z_callV (As := []) (t_houses (I := (tput I b (s_sb (I 10) (s_zer σ 30) nh))) hL h0) q1585 q1587 qs56 q121 q1588 nm_X5_houses (tX_obj hL) rfl rfl rfl (Nat.le_of_ble_eq_true rfl) ⟨Nat.le_of_ble_eq_true rfl, Nat.le_of_ble_eq_true rfl⟩ dX5_starts_27 rfl rfl (Nat.le_of_ble_eq_true rfl) (Nat.le_of_ble_eq_true rfl) (fun v_13 X_14 hp_15 => ?_)
          obtain ⟨rfl, rfl⟩ := hp_15
          refine z_st (st' := [.int (nI (nh)), .int (nI (nh))]) rfl ?_
          refine z_icmp_geN (a := nh) (b := nh) 55 (by omega) (by omega) dX5_starts_30 (by decide) (fun c_16 => ?_) (fun c_16 => absurd c_16 (by omega))
          refine z_iconst (v := 0) dX5_starts_55 (by decide) ?_
          refine z_istore_n (lv' := [(2, .int 0), (0, .ref (L 99)), (1, .int (nI (b)))]) dX5_starts_56 rfl (by decide) rfl ?_
          have loop_21 : ∀ (q_18 i_17 : Nat), i_17 + q_18 = 6 → 0 ≤ i_17 → zZ g m_X5_starts (fun rv X' => rv = none ∧ X' = (tX g L (tput I b (s_start (I 10) nh nd)) J Gb X), zno, ({ frames := 1, cells := 0, slots := 0, locals := 22 } : Room)) 0 0 (tX g L (tput I b (s_sg (I 10) (s_sb (I 10) (s_zer σ 30) nh) nd i_17)) J Gb X) 57 [(0, .ref (L 99)), (1, .int (nI (b))), (2, .int (nI (i_17)))] [] := by
            intro q_18
            induction q_18 with
            | zero =>
              intro i_17 hb_20 lo_22  
              obtain rfl : 6 = i_17 := by omega
              refine z_iload_n 2 dX5_starts_57 rfl ?_
              refine z_bipush (v := 6) dX5_starts_58 (by decide) ?_
              refine z_icmp_geN (a := 6) (b := 6) 110 (by decide) (by decide) dX5_starts_60 (by decide) (fun h_ => ?_) (fun h_ => absurd h_ (by decide))
              exact z_vret dX5_starts_110 rfl (Nat.le_of_ble_eq_true rfl) (Nat.le_of_ble_eq_true rfl) ⟨rfl, congrArg (fun z => tX g L z J Gb X) (tput_congr s_start_e)⟩
            | succ q_18 ih_19 =>
              intro i_17 hb_20 lo_22  
              refine z_iload_n 2 dX5_starts_57 rfl ?_
              refine z_bipush (v := 6) dX5_starts_58 (by decide) ?_
              refine z_icmp_geN (a := i_17) (b := 6) 110 (by omega) (by omega) dX5_starts_60 (by decide) (fun c_23 => absurd c_23 (by omega)) (fun c_23 => ?_)
              refine z_aload_n 0 dX5_starts_63 rfl ?_
              refine tz_get (v := .ref (L 24)) 24 hL (by decide) q1617 rfl dX5_starts_64 ?_
              refine z_iload_n 1 dX5_starts_67 rfl ?_
              refine z_bipush (v := 6) dX5_starts_68 (by decide) ?_
              refine z_iaddN (a := b) (b := 6) dX5_starts_70 ?_
              refine z_iload_n 2 dX5_starts_71 rfl ?_
              refine z_iaddN (a := b + 6) (b := i_17) dX5_starts_72 ?_
              refine z_eq (y := nI (b + i_17 + 6)) (congrArg nI (by omega)) ?_
              refine z_iconst (v := zm1) dX5_starts_73 (by decide) ?_
              refine tz_iast 24 (b + (i_17 + 6)) hL (by decide) (congrArg nI (by omega)) (by show b + (i_17 + 6) < 1081; omega) (tput_zs (by omega)) dX5_starts_74 ?_
              refine z_aload_n 0 dX5_starts_75 rfl ?_
              refine tz_get (v := .ref (L 24)) 24 hL (by decide) q1617 rfl dX5_starts_76 ?_
              refine z_iload_n 1 dX5_starts_79 rfl ?_
              refine z_bipush (v := 18) dX5_starts_80 (by decide) ?_
              refine z_iaddN (a := b) (b := 18) dX5_starts_82 ?_
              refine z_iload_n 2 dX5_starts_83 rfl ?_
              refine z_iaddN (a := b + 18) (b := i_17) dX5_starts_84 ?_
              refine z_eq (y := nI (b + i_17 + 18)) (congrArg nI (by omega)) ?_
              refine z_iload_n 2 dX5_starts_85 rfl ?_
              refine z_aload_n 0 dX5_starts_86 rfl ?_
              refine z_callV (As := []) (t_days (I := (tput I b (zs1 (s_sg (I 10) (s_sb (I 10) (s_zer σ 30) nh) nd i_17) (i_17 + 6) zm1))) hL h1) q1573 q1575 qs53 q121 q1576 nm_X5_days (tX_obj hL) rfl rfl rfl (Nat.le_of_ble_eq_true rfl) ⟨Nat.le_of_ble_eq_true rfl, Nat.le_of_ble_eq_true rfl⟩ dX5_starts_87 rfl rfl (Nat.le_of_ble_eq_true rfl) (Nat.le_of_ble_eq_true rfl) (fun v_24 X_25 hp_26 => ?_)
              obtain ⟨rfl, rfl⟩ := hp_26
              refine z_st (st' := [.int (nI (nd)), .int (nI (i_17)), .int (nI (b + i_17 + 18)), .ref (L 24)]) rfl ?_
              refine z_icmp_geN (a := i_17) (b := nd) 102 (by omega) (by omega) dX5_starts_90 (by decide) (fun c_27 => ?_) (fun c_27 => ?_)
              · -- nd ≤ i_17
                refine z_iconst (v := 0) dX5_starts_102 (by decide) ?_
                refine tz_iast 24 (b + (i_17 + 18)) hL (by decide) (congrArg nI (by omega)) (by show b + (i_17 + 18) < 1081; omega) (tput_zs (by omega)) dX5_starts_103 ?_
                refine z_iinc (v := nI (i_17 + 1)) (lv' := [(2, .int (nI (i_17 + 1))), (0, .ref (L 99)), (1, .int (nI (b)))]) 2 dX5_starts_104 rfl (nI_1 _) (by decide) rfl ?_
                refine z_goto 57 dX5_starts_107 (by decide) ?_
                refine z_lv (lv' := [(0, .ref (L 99)), (1, .int (nI (b))), (2, .int (nI (i_17 + 1)))]) [1, 2, 0] rfl ?_
                refine z_X (X' := (tX g L (tput I b (s_sg (I 10) (s_sb (I 10) (s_zer σ 30) nh) nd (i_17 + 1))) J Gb X)) (by simp [s_sg, show ¬ i_17 < nd by omega]) ?_
                exact ih_19 (i_17 + 1) (by omega) (by omega)  
              · -- i_17 < nd
                refine z_aload_n 0 dX5_starts_93 rfl ?_
                refine z_iload_n 2 dX5_starts_94 rfl ?_
                refine z_iconst (v := 3) dX5_starts_95 (by decide) ?_
                refine z_callV (As := [.int (nI (i_17)), .int 3]) (t_dayOf (I := (tput I b (zs1 (s_sg (I 10) (s_sb (I 10) (s_zer σ 30) nh) nd i_17) (i_17 + 6) zm1))) hL i_17 3 (by omega)) q1577 q1579 qs54 q121 q1580 nm_X5_dayOf (tX_obj hL) rfl rfl rfl (Nat.le_of_ble_eq_true rfl) ⟨Nat.le_of_ble_eq_true rfl, Nat.le_of_ble_eq_true rfl⟩ dX5_starts_96 rfl rfl (Nat.le_of_ble_eq_true rfl) (Nat.le_of_ble_eq_true rfl) (fun v_28 X_29 hp_30 => ?_)
                obtain ⟨rfl, rfl⟩ := hp_30
                refine z_st (st' := [.int (I 10 (5 * i_17 + 15)), .int (nI (b + i_17 + 18)), .ref (L 24)]) rfl ?_
                refine z_goto 103 dX5_starts_99 (by decide) ?_
                refine tz_iast 24 (b + (i_17 + 18)) hL (by decide) (congrArg nI (by omega)) (by show b + (i_17 + 18) < 1081; omega) (tput_zs (by omega)) dX5_starts_103 ?_
                refine z_iinc (v := nI (i_17 + 1)) (lv' := [(2, .int (nI (i_17 + 1))), (0, .ref (L 99)), (1, .int (nI (b)))]) 2 dX5_starts_104 rfl (nI_1 _) (by decide) rfl ?_
                refine z_goto 57 dX5_starts_107 (by decide) ?_
                refine z_lv (lv' := [(0, .ref (L 99)), (1, .int (nI (b))), (2, .int (nI (i_17 + 1)))]) [1, 2, 0] rfl ?_
                refine z_X (X' := (tX g L (tput I b (s_sg (I 10) (s_sb (I 10) (s_zer σ 30) nh) nd (i_17 + 1))) J Gb X)) (by simp [s_sg, c_16, c_23, c_27]) ?_
                exact ih_19 (i_17 + 1) (by omega) (by omega)  
          refine z_lv (lv' := [(0, .ref (L 99)), (1, .int (nI (b))), (2, .int 0)]) [1, 2, 0] rfl ?_
          refine z_X (X' := (tX g L (tput I b (s_sg (I 10) (s_sb (I 10) (s_zer σ 30) nh) nd 0)) J Gb X)) (by rfl) ?_
          exact loop_21 (6 - 0) 0 (by omega) (Nat.le_refl _)  
        | succ q_8 ih_9 =>
          intro i_7 hb_10 lo_12  
          refine z_iload_n 2 dX5_starts_25 rfl ?_
          refine z_aload_n 0 dX5_starts_26 rfl ?_
          refine z_callV (As := []) (t_houses (I := (tput I b (s_sb (I 10) (s_zer σ 30) i_7))) hL h0) q1585 q1587 qs56 q121 q1588 nm_X5_houses (tX_obj hL) rfl rfl rfl (Nat.le_of_ble_eq_true rfl) ⟨Nat.le_of_ble_eq_true rfl, Nat.le_of_ble_eq_true rfl⟩ dX5_starts_27 rfl rfl (Nat.le_of_ble_eq_true rfl) (Nat.le_of_ble_eq_true rfl) (fun v_31 X_32 hp_33 => ?_)
          obtain ⟨rfl, rfl⟩ := hp_33
          refine z_st (st' := [.int (nI (nh)), .int (nI (i_7))]) rfl ?_
          refine z_icmp_geN (a := i_7) (b := nh) 55 (by omega) (by omega) dX5_starts_30 (by decide) (fun c_34 => absurd c_34 (by omega)) (fun c_34 => ?_)
          refine z_aload_n 0 dX5_starts_33 rfl ?_
          refine tz_get (v := .ref (L 24)) 24 hL (by decide) q1617 rfl dX5_starts_34 ?_
          refine z_iload_n 1 dX5_starts_37 rfl ?_
          refine z_iconst (v := 2) dX5_starts_38 (by decide) ?_
          refine z_iaddN (a := b) (b := 2) dX5_starts_39 ?_
          refine z_iload_n 2 dX5_starts_40 rfl ?_
          refine z_iaddN (a := b + 2) (b := i_7) dX5_starts_41 ?_
          refine z_eq (y := nI (b + i_7 + 2)) (congrArg nI (by omega)) ?_
          refine z_aload_n 0 dX5_starts_42 rfl ?_
          refine z_iload_n 2 dX5_starts_43 rfl ?_
          refine z_iconst (v := 0) dX5_starts_44 (by decide) ?_
          refine z_callV (As := [.int (nI (i_7)), .int 0]) (t_houseOf (I := (tput I b (s_sb (I 10) (s_zer σ 30) i_7))) hL i_7 0 (by omega)) q1589 q1591 qs57 q121 q1592 nm_X5_houseOf (tX_obj hL) rfl rfl rfl (Nat.le_of_ble_eq_true rfl) ⟨Nat.le_of_ble_eq_true rfl, Nat.le_of_ble_eq_true rfl⟩ dX5_starts_45 rfl rfl (Nat.le_of_ble_eq_true rfl) (Nat.le_of_ble_eq_true rfl) (fun v_35 X_36 hp_37 => ?_)
          obtain ⟨rfl, rfl⟩ := hp_37
          refine z_st (st' := [.int (I 10 (2 * i_7 + 4)), .int (nI (b + i_7 + 2)), .ref (L 24)]) rfl ?_
          refine tz_iast 24 (b + (i_7 + 2)) hL (by decide) (congrArg nI (by omega)) (by show b + (i_7 + 2) < 1081; omega) (tput_zs (by omega)) dX5_starts_48 ?_
          refine z_iinc (v := nI (i_7 + 1)) (lv' := [(2, .int (nI (i_7 + 1))), (0, .ref (L 99)), (1, .int (nI (b)))]) 2 dX5_starts_49 rfl (nI_1 _) (by decide) rfl ?_
          refine z_goto 25 dX5_starts_52 (by decide) ?_
          refine z_lv (lv' := [(0, .ref (L 99)), (1, .int (nI (b))), (2, .int (nI (i_7 + 1)))]) [1, 2, 0] rfl ?_
          refine z_X (X' := (tX g L (tput I b (s_sb (I 10) (s_zer σ 30) (i_7 + 1))) J Gb X)) (by rfl) ?_
          exact ih_9 (i_7 + 1) (by omega) (by omega)  
      refine z_lv (lv' := [(0, .ref (L 99)), (1, .int (nI (b))), (2, .int 0)]) [1, 2, 0] rfl ?_
      refine z_X (X' := (tX g L (tput I b (s_sb (I 10) (s_zer σ 30) 0)) J Gb X)) (by rfl) ?_
      exact loop_11 (nh - 0) 0 (by omega) (Nat.le_refl _)  
    | succ q_2 ih_3 =>
      intro i_1 hb_4 lo_6  
      refine z_iload_n 2 dX5_starts_2 rfl ?_
      refine z_bipush (v := 30) dX5_starts_3 (by decide) ?_
      refine z_icmp_geN (a := i_1) (b := 30) 23 (by omega) (by omega) dX5_starts_5 (by decide) (fun c_38 => absurd c_38 (by omega)) (fun c_38 => ?_)
      refine z_aload_n 0 dX5_starts_8 rfl ?_
      refine tz_get (v := .ref (L 24)) 24 hL (by decide) q1617 rfl dX5_starts_9 ?_
      refine z_iload_n 1 dX5_starts_12 rfl ?_
      refine z_iload_n 2 dX5_starts_13 rfl ?_
      refine z_iaddN (a := b) (b := i_1) dX5_starts_14 ?_
      refine z_iconst (v := 0) dX5_starts_15 (by decide) ?_
      refine tz_iast 24 (b + i_1) hL (by decide) rfl (by show b + i_1 < 1081; omega) (tput_zs (by omega)) dX5_starts_16 ?_
      refine z_iinc (v := nI (i_1 + 1)) (lv' := [(2, .int (nI (i_1 + 1))), (0, .ref (L 99)), (1, .int (nI (b)))]) 2 dX5_starts_17 rfl (nI_1 _) (by decide) rfl ?_
      refine z_goto 2 dX5_starts_20 (by decide) ?_
      refine z_lv (lv' := [(0, .ref (L 99)), (1, .int (nI (b))), (2, .int (nI (i_1 + 1)))]) [1, 2, 0] rfl ?_
      refine z_X (X' := (tX g L (tput I b (s_zer σ (i_1 + 1))) J Gb X)) (by rw [s_zer_1]) ?_
      exact ih_3 (i_1 + 1) (by omega) (by omega)  
  refine z_lv (lv' := [(0, .ref (L 99)), (1, .int (nI (b))), (2, .int 0)]) [1, 2, 0] rfl ?_
  refine z_X (X' := (tX g L (tput I b (s_zer σ 0)) J Gb X)) (by rw [s_zer_0]) ?_
  exact loop_5 (30 - 0) 0 (by omega) (Nat.le_refl _)  
