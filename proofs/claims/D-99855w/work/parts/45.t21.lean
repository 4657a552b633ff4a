/-! THE MODEL: the tape. Printed by t21.py -/
set_option maxRecDepth 100000
set_option maxHeartbeats 4000000 in
theorem tm_lay {g : zG} {L : Nat → Nat} {I : Nat → Nat → Int32} {J : Nat → Nat → Int64} {Gb : Nat → Nat → Int32} {X : zX} (hL : tok g L) (v : Int64) {t : (Nat → Int32) × Nat} (ht : t.2 ≤ 1000) : zN g m_X5_lay ({ frames := 0, cells := 0, slots := 0, locals := 0 } : Room) [.ref (L 99), .long v] (tX g L (s_tp I t) J Gb X) (fun rv X' => rv = none ∧ X' = (tX g L (s_tp I (s_lay v t 8)) J Gb X)) := by
  refine zN.of (by decide +kernel) (Nat.le_of_ble_eq_true rfl) rfl ?_
  refine z_lv (lv' := [(0, .ref (L 99)), (1, .long v)]) [0, 1] rfl ?_
  refine z_bipush (v := 56) dX5_lay_0 (by decide) ?_
  refine z_istore_n (lv' := [(3, .int 56), (0, .ref (L 99)), (1, .long v)]) dX5_lay_2 rfl (by decide) rfl ?_
  have loop_5 : ∀ (q_2 i_1 : Nat), i_1 + q_2 = 8 → 0 ≤ i_1 → zZ g m_X5_lay (fun rv X' => rv = none ∧ X' = (tX g L (s_tp I (s_lay v t 8)) J Gb X), zno, ({ frames := 0, cells := 0, slots := 0, locals := 0 } : Room)) 0 0 (tX g L (s_tp I (s_lay v t i_1)) J Gb X) 3 [(0, .ref (L 99)), (1, .long v), (3, .int (s_k8 i_1))] [] := by
    intro q_2
    induction q_2 with
    | zero =>
      intro i_1 hb_4 lo_6  
      obtain rfl : 8 = i_1 := by omega
      refine z_iload_n 2 dX5_lay_3 rfl ?_
      refine z_if_lt 75 dX5_lay_4 (by decide) (fun c_7 => ?_) (fun c_7 => absurd c_7 ((fun h9 => h9 s_k8_n)))
      exact z_vret dX5_lay_75 rfl (Nat.le_of_ble_eq_true rfl) (Nat.le_of_ble_eq_true rfl) ⟨rfl, rfl⟩
    | succ q_2 ih_3 =>
      intro i_1 hb_4 lo_6  
      refine z_iload_n 2 dX5_lay_3 rfl ?_
      refine z_if_lt 75 dX5_lay_4 (by decide) (fun c_8 => absurd c_8 (s_k8_p _ (by omega))) (fun c_8 => ?_)
      have hle := s_lay_le (v := v) ht i_1
      refine z_lload_n 1 dX5_lay_7 rfl ?_
      refine z_iload_n 2 dX5_lay_8 rfl ?_
      refine z_lshr dX5_lay_9 rfl ?_
      refine z_l2i (v := (v >>> ((s_k8 i_1).toInt64 &&& 63)).toInt32) dX5_lay_10 rfl ?_
      refine z_sipush (v := 255) dX5_lay_11 (by decide) ?_
      refine z_iand dX5_lay_14 ?_
      obtain ⟨x_9, ex_9⟩ : ∃ y : Int32, (((v >>> ((s_k8 i_1).toInt64 &&& 63)).toInt32) &&& 255) = y := ⟨_, rfl⟩
      refine z_eq ex_9 ?_
      refine z_istore (lv' := [(4, .int x_9), (0, .ref (L 99)), (1, .long v), (3, .int (s_k8 i_1))]) dX5_lay_15 (by decide) rfl ?_
      refine z_iload 0 dX5_lay_17 rfl ?_
      refine z_bipush (v := 10) dX5_lay_19 (by decide) ?_
      refine z_icmp_eq 38 dX5_lay_21 (by decide) (fun c_10 => ?_) (fun c_10 => ?_)
      · -- x_9 = 10
        refine z_aload_n 1 dX5_lay_38 rfl ?_
        refine tz_get (v := .int (nI ((s_lay v t i_1).2))) 2 hL (by decide) q1595 (congrArg (fun z => some (Value.int z)) rfl) dX5_lay_39 ?_
        refine z_sipush (v := 1000) dX5_lay_42 (by decide) ?_
        refine z_icmp_geN (a := (s_lay v t i_1).2) (b := 1000) 69 (by omega) (by omega) dX5_lay_45 (by decide) (fun c_11 => ?_) (fun c_11 => ?_)
        · -- 1000 ≤ (s_lay v t i_1).2
          obtain ⟨x_12, ex_12⟩ : ∃ y : Int32, s_k8 i_1 + (-8) = y := ⟨_, rfl⟩
          refine z_iinc (v := x_12) (lv' := [(3, .int x_12), (4, .int x_9), (0, .ref (L 99)), (1, .long v)]) 3 dX5_lay_69 rfl (ex_12) (by decide) rfl ?_
          refine z_goto 3 dX5_lay_72 (by decide) ?_
          have f_13 : x_12 = s_k8 (i_1 + 1) := by (try subst ex_12); (try subst ex_9); exact s_k8_1 _ (by omega)
          subst f_13
          refine z_lv (lv' := [(0, .ref (L 99)), (1, .long v), (3, .int (s_k8 (i_1 + 1)))]) [2, 3, 0] rfl ?_
          refine z_X (X' := (tX g L (s_tp I (s_lay v t (i_1 + 1))) J Gb X)) (by have hxc := ex_9; show _ = tX g L (s_tp I (s_lay1 (s_lay v t i_1) (s_byte v i_1))) J Gb X; unfold s_lay1 s_isT; rw [show s_byte v i_1 = x_9 from ex_9]; first | (simp [c_8, c_10, Nat.not_lt.mpr c_11]; done) | (simp [c_8, c_10, Nat.not_lt.mpr c_11]; rw [s_tp_1]) | (rw [s_tp_1]; simp [c_8, c_10, Nat.not_lt.mpr c_11])) ?_
          exact ih_3 (i_1 + 1) (by omega) (by omega)  
        · -- (s_lay v t i_1).2 < 1000
          refine z_aload_n 1 dX5_lay_48 rfl ?_
          refine tz_get (v := .ref (L 1)) 1 hL (by decide) q1594 rfl dX5_lay_49 ?_
          refine z_aload_n 1 dX5_lay_52 rfl ?_
          refine tz_get (v := .int (nI ((s_lay v t i_1).2))) 2 hL (by decide) q1595 (congrArg (fun z => some (Value.int z)) rfl) dX5_lay_53 ?_
          refine z_iload 0 dX5_lay_56 rfl ?_
          refine tz_iast 1 ((s_lay v t i_1).2) hL (by decide) rfl (by show (s_lay v t i_1).2 < 1000; omega) rfl dX5_lay_58 ?_
          refine z_aload_n 1 dX5_lay_59 rfl ?_
          refine z_dup dX5_lay_60 rfl ?_
          refine tz_get (v := .int (nI ((s_lay v t i_1).2))) 2 hL (by decide) q1595 (congrArg (fun z => some (Value.int z)) rfl) dX5_lay_61 ?_
          refine z_iconst (v := 1) dX5_lay_64 (by decide) ?_
          refine z_iaddN (a := (s_lay v t i_1).2) (b := 1) dX5_lay_65 ?_
          refine z_eq (y := nI ((s_lay v t i_1).2 + 1)) (congrArg nI (by omega)) ?_
          refine tz_put (I' := (zs (zs (s_tp I (s_lay v t i_1)) 1 ((s_lay v t i_1).2) x_9) 99 2 (nI ((s_lay v t i_1).2 + 1)))) 2 hL (by decide) q1595 rfl dX5_lay_66 ?_
          obtain ⟨x_14, ex_14⟩ : ∃ y : Int32, s_k8 i_1 + (-8) = y := ⟨_, rfl⟩
          refine z_iinc (v := x_14) (lv' := [(3, .int x_14), (4, .int x_9), (0, .ref (L 99)), (1, .long v)]) 3 dX5_lay_69 rfl (ex_14) (by decide) rfl ?_
          refine z_goto 3 dX5_lay_72 (by decide) ?_
          have f_15 : x_14 = s_k8 (i_1 + 1) := by (try subst ex_14); (try subst ex_9); exact s_k8_1 _ (by omega)
          subst f_15
          refine z_lv (lv' := [(0, .ref (L 99)), (1, .long v), (3, .int (s_k8 (i_1 + 1)))]) [2, 3, 0] rfl ?_
          refine z_X (X' := (tX g L (s_tp I (s_lay v t (i_1 + 1))) J Gb X)) (by have hxc := ex_9; show _ = tX g L (s_tp I (s_lay1 (s_lay v t i_1) (s_byte v i_1))) J Gb X; unfold s_lay1 s_isT; rw [show s_byte v i_1 = x_9 from ex_9]; first | (simp [c_8, c_10, c_11]; done) | (simp [c_8, c_10, c_11]; rw [s_tp_1]) | (rw [s_tp_1]; simp [c_8, c_10, c_11])) ?_
          exact ih_3 (i_1 + 1) (by omega) (by omega)  
      · -- ¬ x_9 = 10
        refine z_iload 0 dX5_lay_24 rfl ?_
        refine z_bipush (v := 32) dX5_lay_26 (by decide) ?_
        refine z_icmp_lt 69 dX5_lay_28 (by decide) (fun c_16 => ?_) (fun c_16 => ?_)
        · -- x_9 < 32
          have c_16' := Int32.not_le.mpr c_16
          obtain ⟨x_17, ex_17⟩ : ∃ y : Int32, s_k8 i_1 + (-8) = y := ⟨_, rfl⟩
          refine z_iinc (v := x_17) (lv' := [(3, .int x_17), (4, .int x_9), (0, .ref (L 99)), (1, .long v)]) 3 dX5_lay_69 rfl (ex_17) (by decide) rfl ?_
          refine z_goto 3 dX5_lay_72 (by decide) ?_
          have f_18 : x_17 = s_k8 (i_1 + 1) := by (try subst ex_17); (try subst ex_9); exact s_k8_1 _ (by omega)
          subst f_18
          refine z_lv (lv' := [(0, .ref (L 99)), (1, .long v), (3, .int (s_k8 (i_1 + 1)))]) [2, 3, 0] rfl ?_
          refine z_X (X' := (tX g L (s_tp I (s_lay v t (i_1 + 1))) J Gb X)) (by have hxc := ex_9; show _ = tX g L (s_tp I (s_lay1 (s_lay v t i_1) (s_byte v i_1))) J Gb X; unfold s_lay1 s_isT; rw [show s_byte v i_1 = x_9 from ex_9]; first | (simp [c_8, c_10, c_16, c_16']; done) | (simp [c_8, c_10, c_16, c_16']; rw [s_tp_1]) | (rw [s_tp_1]; simp [c_8, c_10, c_16, c_16'])) ?_
          exact ih_3 (i_1 + 1) (by omega) (by omega)  
        · -- ¬ x_9 < 32
          have c_16' := Int32.not_lt.mp c_16
          refine z_iload 0 dX5_lay_31 rfl ?_
          refine z_bipush (v := 126) dX5_lay_33 (by decide) ?_
          refine z_icmp_gt 69 dX5_lay_35 (by decide) (fun c_19 => ?_) (fun c_19 => ?_)
          · -- 126 < x_9
            have c_19' := Int32.not_le.mpr c_19
            obtain ⟨x_20, ex_20⟩ : ∃ y : Int32, s_k8 i_1 + (-8) = y := ⟨_, rfl⟩
            refine z_iinc (v := x_20) (lv' := [(3, .int x_20), (4, .int x_9), (0, .ref (L 99)), (1, .long v)]) 3 dX5_lay_69 rfl (ex_20) (by decide) rfl ?_
            refine z_goto 3 dX5_lay_72 (by decide) ?_
            have f_21 : x_20 = s_k8 (i_1 + 1) := by (try subst ex_20); (try subst ex_9); exact s_k8_1 _ (by omega)
            subst f_21
            refine z_lv (lv' := [(0, .ref (L 99)), (1, .long v), (3, .int (s_k8 (i_1 + 1)))]) [2, 3, 0] rfl ?_
            refine z_X (X' := (tX g L (s_tp I (s_lay v t (i_1 + 1))) J Gb X)) (by have hxc := ex_9; show _ = tX g L (s_tp I (s_lay1 (s_lay v t i_1) (s_byte v i_1))) J Gb X; unfold s_lay1 s_isT; rw [show s_byte v i_1 = x_9 from ex_9]; first | (simp [c_8, c_10, c_16, c_16', c_19, c_19']; done) | (simp [c_8, c_10, c_16, c_16', c_19, c_19']; rw [s_tp_1]) | (rw [s_tp_1]; simp [c_8, c_10, c_16, c_16', c_19, c_19'])) ?_
            exact ih_3 (i_1 + 1) (by omega) (by omega)  
          · -- ¬ 126 < x_9
            have c_19' := Int32.not_lt.mp c_19
            refine z_aload_n 1 dX5_lay_38 rfl ?_
            refine tz_get (v := .int (nI ((s_lay v t i_1).2))) 2 hL (by decide) q1595 (congrArg (fun z => some (Value.int z)) rfl) dX5_lay_39 ?_
            refine z_sipush (v := 1000) dX5_lay_42 (by decide) ?_
            refine z_icmp_geN (a := (s_lay v t i_1).2) (b := 1000) 69 (by omega) (by omega) dX5_lay_45 (by decide) (fun c_22 => ?_) (fun c_22 => ?_)
            · -- 1000 ≤ (s_lay v t i_1).2
              obtain ⟨x_23, ex_23⟩ : ∃ y : Int32, s_k8 i_1 + (-8) = y := ⟨_, rfl⟩
              refine z_iinc (v := x_23) (lv' := [(3, .int x_23), (4, .int x_9), (0, .ref (L 99)), (1, .long v)]) 3 dX5_lay_69 rfl (ex_23) (by decide) rfl ?_
              refine z_goto 3 dX5_lay_72 (by decide) ?_
              have f_24 : x_23 = s_k8 (i_1 + 1) := by (try subst ex_23); (try subst ex_9); exact s_k8_1 _ (by omega)
              subst f_24
              refine z_lv (lv' := [(0, .ref (L 99)), (1, .long v), (3, .int (s_k8 (i_1 + 1)))]) [2, 3, 0] rfl ?_
              refine z_X (X' := (tX g L (s_tp I (s_lay v t (i_1 + 1))) J Gb X)) (by have hxc := ex_9; show _ = tX g L (s_tp I (s_lay1 (s_lay v t i_1) (s_byte v i_1))) J Gb X; unfold s_lay1 s_isT; rw [show s_byte v i_1 = x_9 from ex_9]; first | (simp [c_8, c_10, c_16, c_16', c_19, c_19', Nat.not_lt.mpr c_22]; done) | (simp [c_8, c_10, c_16, c_16', c_19, c_19', Nat.not_lt.mpr c_22]; rw [s_tp_1]) | (rw [s_tp_1]; simp [c_8, c_10, c_16, c_16', c_19, c_19', Nat.not_lt.mpr c_22])) ?_
              exact ih_3 (i_1 + 1) (by omega) (by omega)  
            · -- (s_lay v t i_1).2 < 1000
              refine z_aload_n 1 dX5_lay_48 rfl ?_
              refine tz_get (v := .ref (L 1)) 1 hL (by decide) q1594 rfl dX5_lay_49 ?_
              refine z_aload_n 1 dX5_lay_52 rfl ?_
              refine tz_get (v := .int (nI ((s_lay v t i_1).2))) 2 hL (by decide) q1595 (congrArg (fun z => some (Value.int z)) rfl) dX5_lay_53 ?_
              refine z_iload 0 dX5_lay_56 rfl ?_
              refine tz_iast 1 ((s_lay v t i_1).2) hL (by decide) rfl (by show (s_lay v t i_1).2 < 1000; omega) rfl dX5_lay_58 ?_
              refine z_aload_n 1 dX5_lay_59 rfl ?_
              refine z_dup dX5_lay_60 rfl ?_
              refine tz_get (v := .int (nI ((s_lay v t i_1).2))) 2 hL (by decide) q1595 (congrArg (fun z => some (Value.int z)) rfl) dX5_lay_61 ?_
              refine z_iconst (v := 1) dX5_lay_64 (by decide) ?_
              refine z_iaddN (a := (s_lay v t i_1).2) (b := 1) dX5_lay_65 ?_
              refine z_eq (y := nI ((s_lay v t i_1).2 + 1)) (congrArg nI (by omega)) ?_
              refine tz_put (I' := (zs (zs (s_tp I (s_lay v t i_1)) 1 ((s_lay v t i_1).2) x_9) 99 2 (nI ((s_lay v t i_1).2 + 1)))) 2 hL (by decide) q1595 rfl dX5_lay_66 ?_
              obtain ⟨x_25, ex_25⟩ : ∃ y : Int32, s_k8 i_1 + (-8) = y := ⟨_, rfl⟩
              refine z_iinc (v := x_25) (lv' := [(3, .int x_25), (4, .int x_9), (0, .ref (L 99)), (1, .long v)]) 3 dX5_lay_69 rfl (ex_25) (by decide) rfl ?_
              refine z_goto 3 dX5_lay_72 (by decide) ?_
              have f_26 : x_25 = s_k8 (i_1 + 1) := by (try subst ex_25); (try subst ex_9); exact s_k8_1 _ (by omega)
              subst f_26
              refine z_lv (lv' := [(0, .ref (L 99)), (1, .long v), (3, .int (s_k8 (i_1 + 1)))]) [2, 3, 0] rfl ?_
              refine z_X (X' := (tX g L (s_tp I (s_lay v t (i_1 + 1))) J Gb X)) (by have hxc := ex_9; show _ = tX g L (s_tp I (s_lay1 (s_lay v t i_1) (s_byte v i_1))) J Gb X; unfold s_lay1 s_isT; rw [show s_byte v i_1 = x_9 from ex_9]; first | (simp [c_8, c_10, c_16, c_16', c_19, c_19', c_22]; done) | (simp [c_8, c_10, c_16, c_16', c_19, c_19', c_22]; rw [s_tp_1]) | (rw [s_tp_1]; simp [c_8, c_10, c_16, c_16', c_19, c_19', c_22])) ?_
              exact ih_3 (i_1 + 1) (by omega) (by omega)  
  have f_27 : 56 = s_k8 0 := by rfl
  refine z_lv (lv' := [(0, .ref (L 99)), (1, .long v), (3, .int (s_k8 0))]) [1, 2, 0] (by rw [← f_27]; rfl) ?_
  refine z_X (X' := (tX g L (s_tp I (s_lay v t 0)) J Gb X)) (by rfl) ?_
  exact loop_5 (8 - 0) 0 (by omega) (Nat.le_refl _)  
set_option maxHeartbeats 4000000 in
theorem t_feed {g : zG} {L : Nat → Nat} {I : Nat → Nat → Int32} {J : Nat → Nat → Int64} {Gb : Nat → Nat → Int32} {X : zX} (hL : tok g L) (a b c : Int64) {tp : Nat} (htp : I 99 2 = nI tp) (ht : tp ≤ 1000) : zN g m_X5_feed ({ frames := 1, cells := 0, slots := 0, locals := 24 } : Room) [.ref (L 99), .long a, .long b, .long c] (tX g L I J Gb X) (fun rv X' => rv = some (.int (nI (s_lay c (s_lay b (s_lay a (I 1, tp) 8) 8) 8).2)) ∧ X' = tX g L (s_tp (zs I 99 0 0) (s_lay c (s_lay b (s_lay a (I 1, tp) 8) 8) 8)) J Gb X) := by
  refine zN.of (by decide +kernel) (Nat.le_of_ble_eq_true rfl) rfl ?_
  refine z_lv (lv' := [(0, .ref (L 99)), (1, .long a), (3, .long b), (5, .long c)]) [0, 1, 2, 3] rfl ?_
  refine z_aload_n 0 dX5_feed_0 rfl ?_
  refine z_iconst (v := 0) dX5_feed_1 (by decide) ?_
  refine tz_put (I' := (zs I 99 0 0)) 0 hL (by decide) q1593 rfl dX5_feed_2 ?_
  refine z_X (X' := (tX g L (s_tp (zs I 99 0 0) (I 1, tp)) J Gb X)) (congrArg (fun z => tX g L z J Gb X) (s_tp_self (I := zs I 99 0 0) htp).symm) ?_
  refine z_aload_n 0 dX5_feed_5 rfl ?_
  refine z_lload_n 1 dX5_feed_6 rfl ?_
  refine z_callV (As := [.long a]) (tm_lay (I := zs I 99 0 0) hL a (t := (I 1, tp)) ht) q1526 q1528 qs49 q121 q1530 nm_X5_lay (tX_obj hL) rfl rfl rfl (Nat.le_of_ble_eq_true rfl) ⟨Nat.le_of_ble_eq_true rfl, Nat.le_of_ble_eq_true rfl⟩ dX5_feed_7 rfl rfl (Nat.le_of_ble_eq_true rfl) (Nat.le_of_ble_eq_true rfl) (fun v_1 X_2 hp_3 => ?_)
  obtain ⟨rfl, rfl⟩ := hp_3
  refine z_st (st' := []) rfl ?_
  refine z_aload_n 0 dX5_feed_10 rfl ?_
  refine z_lload_n 2 dX5_feed_11 rfl ?_
  refine z_callV (As := [.long b]) (tm_lay (I := zs I 99 0 0) hL b (t := (s_lay a (I 1, tp) 8)) (s_lay_le ht 8)) q1526 q1528 qs49 q121 q1530 nm_X5_lay (tX_obj hL) rfl rfl rfl (Nat.le_of_ble_eq_true rfl) ⟨Nat.le_of_ble_eq_true rfl, Nat.le_of_ble_eq_true rfl⟩ dX5_feed_12 rfl rfl (Nat.le_of_ble_eq_true rfl) (Nat.le_of_ble_eq_true rfl) (fun v_4 X_5 hp_6 => ?_)
  obtain ⟨rfl, rfl⟩ := hp_6
  refine z_st (st' := []) rfl ?_
  refine z_aload_n 0 dX5_feed_15 rfl ?_
  refine z_lload 3 dX5_feed_16 rfl ?_
  refine z_callV (As := [.long c]) (tm_lay (I := zs I 99 0 0) hL c (t := (s_lay b (s_lay a (I 1, tp) 8) 8)) (s_lay_le (s_lay_le ht 8) 8)) q1526 q1528 qs49 q121 q1530 nm_X5_lay (tX_obj hL) rfl rfl rfl (Nat.le_of_ble_eq_true rfl) ⟨Nat.le_of_ble_eq_true rfl, Nat.le_of_ble_eq_true rfl⟩ dX5_feed_18 rfl rfl (Nat.le_of_ble_eq_true rfl) (Nat.le_of_ble_eq_true rfl) (fun v_7 X_8 hp_9 => ?_)
  obtain ⟨rfl, rfl⟩ := hp_9
  refine z_st (st' := []) rfl ?_
  refine z_aload_n 0 dX5_feed_21 rfl ?_
  refine tz_get (v := .int (nI ((s_lay c (s_lay b (s_lay a (I 1, tp) 8) 8) 8).2))) 2 hL (by decide) q1595 (congrArg (fun z => some (Value.int z)) rfl) dX5_feed_22 ?_
  exact z_iret dX5_feed_25 rfl (Nat.le_of_ble_eq_true rfl) (Nat.le_of_ble_eq_true rfl) ⟨rfl, rfl⟩
