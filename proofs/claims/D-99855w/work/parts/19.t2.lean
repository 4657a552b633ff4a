/-! THE MODEL: beds, talk, copies. Printed by t2.py -/
set_option maxRecDepth 100000
set_option maxHeartbeats 4000000 in
theorem t_within {g : zG} {X : zX} (v l h : Int32) : zN g m_X5_within ({ frames := 0, cells := 0, slots := 0, locals := 0 } : Room) [.int v, .int l, .int h] X (fun rv X' => rv = some (.int (zb (decide (l ≤ v) && decide (v ≤ h)))) ∧ X' = X) := by
  refine zN.of (by decide +kernel) (Nat.le_of_ble_eq_true rfl) rfl ?_
  refine z_lv (lv' := [(0, .int v), (1, .int l), (2, .int h)]) [0, 1, 2] rfl ?_
  refine z_iload_n 0 dX5_within_0 rfl ?_
  refine z_iload_n 1 dX5_within_1 rfl ?_
  refine z_icmp_lt 14 dX5_within_2 (by decide) (fun c_1 => ?_) (fun c_1 => ?_)
  · -- v < l
    have c_1' := Int32.not_le.mpr c_1
    refine z_iconst (v := 0) dX5_within_14 (by decide) ?_
    exact z_zret dX5_within_15 rfl (by first | rfl | decide | exact zb_nar _) (Nat.le_of_ble_eq_true rfl) (Nat.le_of_ble_eq_true rfl) ⟨congrArg some (congrArg Value.int (by first | rfl | (simp [zb, c_1, c_1']; done) | (skip; simp [zb, c_1, c_1']))), (by first | rfl | (simp [zb, c_1, c_1']; done) | (skip; simp [zb, c_1, c_1']))⟩
  · -- ¬ v < l
    have c_1' := Int32.not_lt.mp c_1
    refine z_iload_n 0 dX5_within_5 rfl ?_
    refine z_iload_n 2 dX5_within_6 rfl ?_
    refine z_icmp_gt 14 dX5_within_7 (by decide) (fun c_2 => ?_) (fun c_2 => ?_)
    · -- h < v
      have c_2' := Int32.not_le.mpr c_2
      refine z_iconst (v := 0) dX5_within_14 (by decide) ?_
      exact z_zret dX5_within_15 rfl (by first | rfl | decide | exact zb_nar _) (Nat.le_of_ble_eq_true rfl) (Nat.le_of_ble_eq_true rfl) ⟨congrArg some (congrArg Value.int (by first | rfl | (simp [zb, c_1, c_1', c_2, c_2']; done) | (skip; simp [zb, c_1, c_1', c_2, c_2']))), (by first | rfl | (simp [zb, c_1, c_1', c_2, c_2']; done) | (skip; simp [zb, c_1, c_1', c_2, c_2']))⟩
    · -- ¬ h < v
      have c_2' := Int32.not_lt.mp c_2
      refine z_iconst (v := 1) dX5_within_10 (by decide) ?_
      refine z_goto 15 dX5_within_11 (by decide) ?_
      exact z_zret dX5_within_15 rfl (by first | rfl | decide | exact zb_nar _) (Nat.le_of_ble_eq_true rfl) (Nat.le_of_ble_eq_true rfl) ⟨congrArg some (congrArg Value.int (by first | rfl | (simp [zb, c_1, c_1', c_2, c_2']; done) | (skip; simp [zb, c_1, c_1', c_2, c_2']))), (by first | rfl | (simp [zb, c_1, c_1', c_2, c_2']; done) | (skip; simp [zb, c_1, c_1', c_2, c_2']))⟩
set_option maxHeartbeats 4000000 in
theorem t_isLetter {g : zG} {X : zX} (c : Int32) : zN g m_X5_isLetter ({ frames := 0, cells := 0, slots := 0, locals := 0 } : Room) [.int c] X (fun rv X' => rv = some (.int (zb (decide (97 ≤ c) && decide (c ≤ 122)))) ∧ X' = X) := by
  refine zN.of (by decide +kernel) (Nat.le_of_ble_eq_true rfl) rfl ?_
  refine z_lv (lv' := [(0, .int c)]) [0] rfl ?_
  refine z_iload_n 0 dX5_isLetter_0 rfl ?_
  refine z_bipush (v := 97) dX5_isLetter_1 (by decide) ?_
  refine z_icmp_lt 16 dX5_isLetter_3 (by decide) (fun c_1 => ?_) (fun c_1 => ?_)
  · -- c < 97
    have c_1' := Int32.not_le.mpr c_1
    refine z_iconst (v := 0) dX5_isLetter_16 (by decide) ?_
    exact z_zret dX5_isLetter_17 rfl (by first | rfl | decide | exact zb_nar _) (Nat.le_of_ble_eq_true rfl) (Nat.le_of_ble_eq_true rfl) ⟨congrArg some (congrArg Value.int (by first | rfl | (simp [zb, c_1, c_1']; done) | (skip; simp [zb, c_1, c_1']))), (by first | rfl | (simp [zb, c_1, c_1']; done) | (skip; simp [zb, c_1, c_1']))⟩
  · -- ¬ c < 97
    have c_1' := Int32.not_lt.mp c_1
    refine z_iload_n 0 dX5_isLetter_6 rfl ?_
    refine z_bipush (v := 122) dX5_isLetter_7 (by decide) ?_
    refine z_icmp_gt 16 dX5_isLetter_9 (by decide) (fun c_2 => ?_) (fun c_2 => ?_)
    · -- 122 < c
      have c_2' := Int32.not_le.mpr c_2
      refine z_iconst (v := 0) dX5_isLetter_16 (by decide) ?_
      exact z_zret dX5_isLetter_17 rfl (by first | rfl | decide | exact zb_nar _) (Nat.le_of_ble_eq_true rfl) (Nat.le_of_ble_eq_true rfl) ⟨congrArg some (congrArg Value.int (by first | rfl | (simp [zb, c_1, c_1', c_2, c_2']; done) | (skip; simp [zb, c_1, c_1', c_2, c_2']))), (by first | rfl | (simp [zb, c_1, c_1', c_2, c_2']; done) | (skip; simp [zb, c_1, c_1', c_2, c_2']))⟩
    · -- ¬ 122 < c
      have c_2' := Int32.not_lt.mp c_2
      refine z_iconst (v := 1) dX5_isLetter_12 (by decide) ?_
      refine z_goto 17 dX5_isLetter_13 (by decide) ?_
      exact z_zret dX5_isLetter_17 rfl (by first | rfl | decide | exact zb_nar _) (Nat.le_of_ble_eq_true rfl) (Nat.le_of_ble_eq_true rfl) ⟨congrArg some (congrArg Value.int (by first | rfl | (simp [zb, c_1, c_1', c_2, c_2']; done) | (skip; simp [zb, c_1, c_1', c_2, c_2']))), (by first | rfl | (simp [zb, c_1, c_1', c_2, c_2']; done) | (skip; simp [zb, c_1, c_1', c_2, c_2']))⟩
set_option maxHeartbeats 4000000 in
theorem t_isDigit {g : zG} {X : zX} (c : Int32) : zN g m_X5_isDigit ({ frames := 0, cells := 0, slots := 0, locals := 0 } : Room) [.int c] X (fun rv X' => rv = some (.int (zb (decide (48 ≤ c) && decide (c ≤ 57)))) ∧ X' = X) := by
  refine zN.of (by decide +kernel) (Nat.le_of_ble_eq_true rfl) rfl ?_
  refine z_lv (lv' := [(0, .int c)]) [0] rfl ?_
  refine z_iload_n 0 dX5_isDigit_0 rfl ?_
  refine z_bipush (v := 48) dX5_isDigit_1 (by decide) ?_
  refine z_icmp_lt 16 dX5_isDigit_3 (by decide) (fun c_1 => ?_) (fun c_1 => ?_)
  · -- c < 48
    have c_1' := Int32.not_le.mpr c_1
    refine z_iconst (v := 0) dX5_isDigit_16 (by decide) ?_
    exact z_zret dX5_isDigit_17 rfl (by first | rfl | decide | exact zb_nar _) (Nat.le_of_ble_eq_true rfl) (Nat.le_of_ble_eq_true rfl) ⟨congrArg some (congrArg Value.int (by first | rfl | (simp [zb, c_1, c_1']; done) | (skip; simp [zb, c_1, c_1']))), (by first | rfl | (simp [zb, c_1, c_1']; done) | (skip; simp [zb, c_1, c_1']))⟩
  · -- ¬ c < 48
    have c_1' := Int32.not_lt.mp c_1
    refine z_iload_n 0 dX5_isDigit_6 rfl ?_
    refine z_bipush (v := 57) dX5_isDigit_7 (by decide) ?_
    refine z_icmp_gt 16 dX5_isDigit_9 (by decide) (fun c_2 => ?_) (fun c_2 => ?_)
    · -- 57 < c
      have c_2' := Int32.not_le.mpr c_2
      refine z_iconst (v := 0) dX5_isDigit_16 (by decide) ?_
      exact z_zret dX5_isDigit_17 rfl (by first | rfl | decide | exact zb_nar _) (Nat.le_of_ble_eq_true rfl) (Nat.le_of_ble_eq_true rfl) ⟨congrArg some (congrArg Value.int (by first | rfl | (simp [zb, c_1, c_1', c_2, c_2']; done) | (skip; simp [zb, c_1, c_1', c_2, c_2']))), (by first | rfl | (simp [zb, c_1, c_1', c_2, c_2']; done) | (skip; simp [zb, c_1, c_1', c_2, c_2']))⟩
    · -- ¬ 57 < c
      have c_2' := Int32.not_lt.mp c_2
      refine z_iconst (v := 1) dX5_isDigit_12 (by decide) ?_
      refine z_goto 17 dX5_isDigit_13 (by decide) ?_
      exact z_zret dX5_isDigit_17 rfl (by first | rfl | decide | exact zb_nar _) (Nat.le_of_ble_eq_true rfl) (Nat.le_of_ble_eq_true rfl) ⟨congrArg some (congrArg Value.int (by first | rfl | (simp [zb, c_1, c_1', c_2, c_2']; done) | (skip; simp [zb, c_1, c_1', c_2, c_2']))), (by first | rfl | (simp [zb, c_1, c_1', c_2, c_2']; done) | (skip; simp [zb, c_1, c_1', c_2, c_2']))⟩
set_option maxHeartbeats 4000000 in
theorem t_bits {g : zG} {X : zX} (x : Int32) : zN g m_X5_bits ({ frames := 0, cells := 0, slots := 0, locals := 0 } : Room) [.int x] X (fun rv X' => rv = some (.int (s_bits x 30)) ∧ X' = X) := by
  refine zN.of (by decide +kernel) (Nat.le_of_ble_eq_true rfl) rfl ?_
  refine z_lv (lv' := [(0, .int x)]) [0] rfl ?_
  refine z_iconst (v := 0) dX5_bits_0 (by decide) ?_
  refine z_istore_n (lv' := [(1, .int 0), (0, .int x)]) dX5_bits_1 rfl (by decide) rfl ?_
  refine z_iconst (v := 0) dX5_bits_2 (by decide) ?_
  refine z_istore_n (lv' := [(2, .int 0), (1, .int 0), (0, .int x)]) dX5_bits_3 rfl (by decide) rfl ?_
  have loop_5 : ∀ (q_2 i_1 : Nat), i_1 + q_2 = 30 → 0 ≤ i_1 → zZ g m_X5_bits (fun rv X' => rv = some (.int (s_bits x 30)) ∧ X' = X, zno, ({ frames := 0, cells := 0, slots := 0, locals := 0 } : Room)) 0 0 X 4 [(0, .int x), (1, .int (s_bits x i_1)), (2, .int (nI (i_1)))] [] := by
    intro q_2
    induction q_2 with
    | zero =>
      intro i_1 hb_4 lo_6  
      obtain rfl : 30 = i_1 := by omega
      refine z_iload_n 2 dX5_bits_4 rfl ?_
      refine z_bipush (v := 30) dX5_bits_5 (by decide) ?_
      refine z_icmp_geN (a := 30) (b := 30) 24 (by decide) (by decide) dX5_bits_7 (by decide) (fun h_ => ?_) (fun h_ => absurd h_ (by decide))
      refine z_iload_n 1 dX5_bits_24 rfl ?_
      exact z_iret dX5_bits_25 rfl (Nat.le_of_ble_eq_true rfl) (Nat.le_of_ble_eq_true rfl) ⟨congrArg some (congrArg Value.int (by first | rfl | (simp [s_bits, hb_4]; done) | (skip; simp [s_bits, hb_4]))), (by first | rfl | (simp [s_bits, hb_4]; done) | (skip; simp [s_bits, hb_4]))⟩
    | succ q_2 ih_3 =>
      intro i_1 hb_4 lo_6  
      refine z_iload_n 2 dX5_bits_4 rfl ?_
      refine z_bipush (v := 30) dX5_bits_5 (by decide) ?_
      refine z_icmp_geN (a := i_1) (b := 30) 24 (by omega) (by omega) dX5_bits_7 (by decide) (fun c_7 => absurd c_7 (by omega)) (fun c_7 => ?_)
      refine z_iload_n 1 dX5_bits_10 rfl ?_
      refine z_iload_n 0 dX5_bits_11 rfl ?_
      refine z_iload_n 2 dX5_bits_12 rfl ?_
      refine z_ishr dX5_bits_13 ?_
      refine z_iconst (v := 1) dX5_bits_14 (by decide) ?_
      refine z_iand dX5_bits_15 ?_
      refine z_iadd dX5_bits_16 ?_
      obtain ⟨x_8, ex_8⟩ : ∃ y : Int32, ((s_bits x i_1) + ((x >>> ((nI (i_1)) &&& 31)) &&& 1)) = y := ⟨_, rfl⟩
      refine z_eq ex_8 ?_
      refine z_istore_n (lv' := [(1, .int x_8), (0, .int x), (2, .int (nI (i_1)))]) dX5_bits_17 rfl (by decide) rfl ?_
      refine z_iinc (v := nI (i_1 + 1)) (lv' := [(2, .int (nI (i_1 + 1))), (1, .int x_8), (0, .int x)]) 2 dX5_bits_18 rfl (nI_1 _) (by decide) rfl ?_
      refine z_goto 4 dX5_bits_21 (by decide) ?_
      have f_9 : x_8 = s_bits x (i_1 + 1) := by first | rfl | omega | (simp [s_bits, hb_4, c_7]; done) | ((try subst ex_8); simp [s_bits, hb_4, c_7])
      subst f_9
      refine z_lv (lv' := [(0, .int x), (1, .int (s_bits x (i_1 + 1))), (2, .int (nI (i_1 + 1)))]) [2, 1, 0] rfl ?_
      exact ih_3 (i_1 + 1) (by omega) (by omega)  
  have f_10 : 0 = s_bits x 0 := by first | rfl | omega | (simp [s_bits]; done) | (skip; simp [s_bits])
  refine z_lv (lv' := [(0, .int x), (1, .int (s_bits x 0)), (2, .int 0)]) [2, 1, 0] (by rw [← f_10]; rfl) ?_
  exact loop_5 (30 - 0) 0 (by omega) (Nat.le_refl _)  
set_option maxHeartbeats 4000000 in
theorem t_freeOf {g : zG} {L : Nat → Nat} {I : Nat → Nat → Int32} {J : Nat → Nat → Int64} {Gb : Nat → Nat → Int32} {X : zX} (hL : tok g L) {σ : Nat → Int32} {nd : Nat} (h1 : I 10 1 = nI nd) (hnd : nd ≤ 6) (b : Nat) (hb : b + 47 ≤ 1081) (h : Nat) (hh : h < 4) : zN g m_X5_freeOf ({ frames := 2, cells := 0, slots := 0, locals := 43 } : Room) [.ref (L 99), .int (nI (b)), .int (nI (h))] (tX g L (tput I b σ) J Gb X) (fun rv X' => rv = some (.int (s_free (I 10) σ h nd)) ∧ X' = (tX g L (tput I b σ) J Gb X)) := by
  refine zN.of (by decide +kernel) (Nat.le_of_ble_eq_true rfl) rfl ?_
  refine z_lv (lv' := [(0, .ref (L 99)), (1, .int (nI (b))), (2, .int (nI (h)))]) [0, 1, 2] rfl ?_
  refine z_aload_n 0 dX5_freeOf_0 rfl ?_
  refine tz_get (v := .ref (L 24)) 24 hL (by decide) q1617 rfl dX5_freeOf_1 ?_
  refine z_iload_n 1 dX5_freeOf_4 rfl ?_
  refine z_iconst (v := 2) dX5_freeOf_5 (by decide) ?_
  refine z_iaddN (a := b) (b := 2) dX5_freeOf_6 ?_
  refine z_iload_n 2 dX5_freeOf_7 rfl ?_
  refine z_iaddN (a := b + 2) (b := h) dX5_freeOf_8 ?_
  refine z_eq (y := nI (b + h + 2)) (congrArg nI (by omega)) ?_
  refine tz_iald (v := σ (h + 2)) 24 (b + (h + 2)) hL (by decide) (congrArg nI (by omega)) (by show b + (h + 2) < 1081; omega) (tput_at (by omega)) dX5_freeOf_9 ?_
  refine z_istore_n (lv' := [(3, .int (σ (h + 2))), (0, .ref (L 99)), (1, .int (nI (b))), (2, .int (nI (h)))]) dX5_freeOf_10 rfl (by decide) rfl ?_
  refine z_iconst (v := 0) dX5_freeOf_11 (by decide) ?_
  refine z_istore (lv' := [(4, .int 0), (3, .int (σ (h + 2))), (0, .ref (L 99)), (1, .int (nI (b))), (2, .int (nI (h)))]) dX5_freeOf_12 (by decide) rfl ?_
  have loop_5 : ∀ (q_2 i_1 : Nat), i_1 + q_2 = nd → 0 ≤ i_1 → zZ g m_X5_freeOf (fun rv X' => rv = some (.int (s_free (I 10) σ h nd)) ∧ X' = (tX g L (tput I b σ) J Gb X), zno, ({ frames := 2, cells := 0, slots := 0, locals := 43 } : Room)) 0 0 (tX g L (tput I b σ) J Gb X) 14 [(0, .ref (L 99)), (1, .int (nI (b))), (2, .int (nI (h))), (3, .int (s_free (I 10) σ h i_1)), (4, .int (nI (i_1)))] [] := by
    intro q_2
    induction q_2 with
    | zero =>
      intro i_1 hb_4 lo_6  
      obtain rfl : nd = i_1 := by omega
      refine z_iload 4 dX5_freeOf_14 rfl ?_
      refine z_aload_n 0 dX5_freeOf_16 rfl ?_
      refine z_callV (As := []) (t_days (I := (tput I b σ)) hL h1) q1573 q1575 qs53 q121 q1576 nm_X5_days (tX_obj hL) rfl rfl rfl (Nat.le_of_ble_eq_true rfl) ⟨Nat.le_of_ble_eq_true rfl, Nat.le_of_ble_eq_true rfl⟩ dX5_freeOf_17 rfl rfl (Nat.le_of_ble_eq_true rfl) (Nat.le_of_ble_eq_true rfl) (fun v_7 X_8 hp_9 => ?_)
      obtain ⟨rfl, rfl⟩ := hp_9
      refine z_st (st' := [.int (nI (nd)), .int (nI (nd))]) rfl ?_
      refine z_icmp_geN (a := nd) (b := nd) 58 (by omega) (by omega) dX5_freeOf_20 (by decide) (fun c_10 => ?_) (fun c_10 => absurd c_10 (by omega))
      refine z_iload_n 3 dX5_freeOf_58 rfl ?_
      exact z_iret dX5_freeOf_59 rfl (Nat.le_of_ble_eq_true rfl) (Nat.le_of_ble_eq_true rfl) ⟨congrArg some (congrArg Value.int (by first | rfl | (simp [s_free, hb_4, c_10]; done) | (skip; simp [s_free, hb_4, c_10]))), (by first | rfl | (simp [s_free, hb_4, c_10]; done) | (skip; simp [s_free, hb_4, c_10]))⟩
    | succ q_2 ih_3 =>
      intro i_1 hb_4 lo_6  
      refine z_iload 4 dX5_freeOf_14 rfl ?_
      refine z_aload_n 0 dX5_freeOf_16 rfl ?_
      refine z_callV (As := []) (t_days (I := (tput I b σ)) hL h1) q1573 q1575 qs53 q121 q1576 nm_X5_days (tX_obj hL) rfl rfl rfl (Nat.le_of_ble_eq_true rfl) ⟨Nat.le_of_ble_eq_true rfl, Nat.le_of_ble_eq_true rfl⟩ dX5_freeOf_17 rfl rfl (Nat.le_of_ble_eq_true rfl) (Nat.le_of_ble_eq_true rfl) (fun v_11 X_12 hp_13 => ?_)
      obtain ⟨rfl, rfl⟩ := hp_13
      refine z_st (st' := [.int (nI (nd)), .int (nI (i_1))]) rfl ?_
      refine z_icmp_geN (a := i_1) (b := nd) 58 (by omega) (by omega) dX5_freeOf_20 (by decide) (fun c_14 => absurd c_14 (by omega)) (fun c_14 => ?_)
      refine z_iload_n 3 dX5_freeOf_23 rfl ?_
      refine z_aload_n 0 dX5_freeOf_24 rfl ?_
      refine tz_get (v := .ref (L 24)) 24 hL (by decide) q1617 rfl dX5_freeOf_25 ?_
      refine z_iload_n 1 dX5_freeOf_28 rfl ?_
      refine z_bipush (v := 6) dX5_freeOf_29 (by decide) ?_
      refine z_iaddN (a := b) (b := 6) dX5_freeOf_31 ?_
      refine z_iload 4 dX5_freeOf_32 rfl ?_
      refine z_iaddN (a := b + 6) (b := i_1) dX5_freeOf_34 ?_
      refine z_eq (y := nI (b + i_1 + 6)) (congrArg nI (by omega)) ?_
      refine tz_iald (v := σ (i_1 + 6)) 24 (b + (i_1 + 6)) hL (by decide) (congrArg nI (by omega)) (by show b + (i_1 + 6) < 1081; omega) (tput_at (by omega)) dX5_freeOf_35 ?_
      refine z_iload_n 2 dX5_freeOf_36 rfl ?_
      refine z_icmp_ne 49 dX5_freeOf_37 (by decide) (fun c_15 => ?_) (fun c_15 => ?_)
      · -- ¬ σ (i_1 + 6) = nI (h)
        refine z_iconst (v := 0) dX5_freeOf_49 (by decide) ?_
        refine z_isub dX5_freeOf_50 ?_
        obtain ⟨x_16, ex_16⟩ : ∃ y : Int32, ((s_free (I 10) σ h i_1) - 0) = y := ⟨_, rfl⟩
        refine z_eq ex_16 ?_
        refine z_istore_n (lv' := [(3, .int x_16), (0, .ref (L 99)), (1, .int (nI (b))), (2, .int (nI (h))), (4, .int (nI (i_1)))]) dX5_freeOf_51 rfl (by decide) rfl ?_
        refine z_iinc (v := nI (i_1 + 1)) (lv' := [(4, .int (nI (i_1 + 1))), (3, .int x_16), (0, .ref (L 99)), (1, .int (nI (b))), (2, .int (nI (h)))]) 4 dX5_freeOf_52 rfl (nI_1 _) (by decide) rfl ?_
        refine z_goto 14 dX5_freeOf_55 (by decide) ?_
        have f_17 : x_16 = s_free (I 10) σ h (i_1 + 1) := by first | rfl | omega | (simp [s_free, hb_4, c_14, c_15]; done) | ((try subst ex_16); simp [s_free, hb_4, c_14, c_15])
        subst f_17
        refine z_lv (lv' := [(0, .ref (L 99)), (1, .int (nI (b))), (2, .int (nI (h))), (3, .int (s_free (I 10) σ h (i_1 + 1))), (4, .int (nI (i_1 + 1)))]) [2, 3, 4, 1, 0] rfl ?_
        exact ih_3 (i_1 + 1) (by omega) (by omega)  
      · -- σ (i_1 + 6) = nI (h)
        refine z_aload_n 0 dX5_freeOf_40 rfl ?_
        refine z_iload 4 dX5_freeOf_41 rfl ?_
        refine z_callV (As := [.int (nI (i_1))]) (t_widthOf (I := (tput I b σ)) hL i_1 (by omega)) q1834 q1836 qs86 q121 q1837 nm_X5_widthOf (tX_obj hL) rfl rfl rfl (Nat.le_of_ble_eq_true rfl) ⟨Nat.le_of_ble_eq_true rfl, Nat.le_of_ble_eq_true rfl⟩ dX5_freeOf_43 rfl rfl (Nat.le_of_ble_eq_true rfl) (Nat.le_of_ble_eq_true rfl) (fun v_18 X_19 hp_20 => ?_)
        obtain ⟨rfl, rfl⟩ := hp_20
        refine z_st (st' := [.int (s_wid (I 10) i_1), .int (s_free (I 10) σ h i_1)]) rfl ?_
        refine z_goto 50 dX5_freeOf_46 (by decide) ?_
        refine z_isub dX5_freeOf_50 ?_
        obtain ⟨x_21, ex_21⟩ : ∃ y : Int32, ((s_free (I 10) σ h i_1) - (s_wid (I 10) i_1)) = y := ⟨_, rfl⟩
        refine z_eq ex_21 ?_
        refine z_istore_n (lv' := [(3, .int x_21), (0, .ref (L 99)), (1, .int (nI (b))), (2, .int (nI (h))), (4, .int (nI (i_1)))]) dX5_freeOf_51 rfl (by decide) rfl ?_
        refine z_iinc (v := nI (i_1 + 1)) (lv' := [(4, .int (nI (i_1 + 1))), (3, .int x_21), (0, .ref (L 99)), (1, .int (nI (b))), (2, .int (nI (h)))]) 4 dX5_freeOf_52 rfl (nI_1 _) (by decide) rfl ?_
        refine z_goto 14 dX5_freeOf_55 (by decide) ?_
        have f_22 : x_21 = s_free (I 10) σ h (i_1 + 1) := by first | rfl | omega | (simp [s_free, hb_4, c_14, c_15]; done) | ((try subst ex_21); simp [s_free, hb_4, c_14, c_15])
        subst f_22
        refine z_lv (lv' := [(0, .ref (L 99)), (1, .int (nI (b))), (2, .int (nI (h))), (3, .int (s_free (I 10) σ h (i_1 + 1))), (4, .int (nI (i_1 + 1)))]) [2, 3, 4, 1, 0] rfl ?_
        exact ih_3 (i_1 + 1) (by omega) (by omega)  
  have f_23 : σ (h + 2) = s_free (I 10) σ h 0 := by first | rfl | omega | (simp [s_free]; done) | (skip; simp [s_free])
  refine z_lv (lv' := [(0, .ref (L 99)), (1, .int (nI (b))), (2, .int (nI (h))), (3, .int (s_free (I 10) σ h 0)), (4, .int 0)]) [2, 3, 4, 1, 0] (by rw [← f_23]; rfl) ?_
  exact loop_5 (nd - 0) 0 (by omega) (Nat.le_refl _)  
set_option maxHeartbeats 4000000 in
theorem t_somewhere {g : zG} {L : Nat → Nat} {I : Nat → Nat → Int32} {J : Nat → Nat → Int64} {Gb : Nat → Nat → Int32} {X : zX} (hL : tok g L) {σ : Nat → Int32} {nd : Nat} (h1 : I 10 1 = nI nd) (hnd : nd ≤ 6) (b : Nat) (hb : b + 47 ≤ 1081) : zN g m_X5_somewhere ({ frames := 1, cells := 0, slots := 0, locals := 20 } : Room) [.ref (L 99), .int (nI (b))] (tX g L (tput I b σ) J Gb X) (fun rv X' => rv = some (.int (s_some σ nd)) ∧ X' = (tX g L (tput I b σ) J Gb X)) := by
  refine zN.of (by decide +kernel) (Nat.le_of_ble_eq_true rfl) rfl ?_
  refine z_lv (lv' := [(0, .ref (L 99)), (1, .int (nI (b)))]) [0, 1] rfl ?_
  refine z_iconst (v := 0) dX5_somewhere_0 (by decide) ?_
  refine z_istore_n (lv' := [(2, .int 0), (0, .ref (L 99)), (1, .int (nI (b)))]) dX5_somewhere_1 rfl (by decide) rfl ?_
  refine z_iconst (v := 0) dX5_somewhere_2 (by decide) ?_
  refine z_istore_n (lv' := [(3, .int 0), (2, .int 0), (0, .ref (L 99)), (1, .int (nI (b)))]) dX5_somewhere_3 rfl (by decide) rfl ?_
  have loop_5 : ∀ (q_2 i_1 : Nat), i_1 + q_2 = nd → 0 ≤ i_1 → zZ g m_X5_somewhere (fun rv X' => rv = some (.int (s_some σ nd)) ∧ X' = (tX g L (tput I b σ) J Gb X), zno, ({ frames := 1, cells := 0, slots := 0, locals := 20 } : Room)) 0 0 (tX g L (tput I b σ) J Gb X) 4 [(0, .ref (L 99)), (1, .int (nI (b))), (2, .int (s_some σ i_1)), (3, .int (nI (i_1)))] [] := by
    intro q_2
    induction q_2 with
    | zero =>
      intro i_1 hb_4 lo_6  
      obtain rfl : nd = i_1 := by omega
      refine z_iload_n 3 dX5_somewhere_4 rfl ?_
      refine z_aload_n 0 dX5_somewhere_5 rfl ?_
      refine z_callV (As := []) (t_days (I := (tput I b σ)) hL h1) q1573 q1575 qs53 q121 q1576 nm_X5_days (tX_obj hL) rfl rfl rfl (Nat.le_of_ble_eq_true rfl) ⟨Nat.le_of_ble_eq_true rfl, Nat.le_of_ble_eq_true rfl⟩ dX5_somewhere_6 rfl rfl (Nat.le_of_ble_eq_true rfl) (Nat.le_of_ble_eq_true rfl) (fun v_7 X_8 hp_9 => ?_)
      obtain ⟨rfl, rfl⟩ := hp_9
      refine z_st (st' := [.int (nI (nd)), .int (nI (nd))]) rfl ?_
      refine z_icmp_geN (a := nd) (b := nd) 42 (by omega) (by omega) dX5_somewhere_9 (by decide) (fun c_10 => ?_) (fun c_10 => absurd c_10 (by omega))
      refine z_iload_n 2 dX5_somewhere_42 rfl ?_
      exact z_iret dX5_somewhere_43 rfl (Nat.le_of_ble_eq_true rfl) (Nat.le_of_ble_eq_true rfl) ⟨congrArg some (congrArg Value.int (by first | rfl | (simp [s_some, s_bit, hb_4, c_10]; done) | (skip; simp [s_some, s_bit, hb_4, c_10]))), (by first | rfl | (simp [s_some, s_bit, hb_4, c_10]; done) | (skip; simp [s_some, s_bit, hb_4, c_10]))⟩
    | succ q_2 ih_3 =>
      intro i_1 hb_4 lo_6  
      refine z_iload_n 3 dX5_somewhere_4 rfl ?_
      refine z_aload_n 0 dX5_somewhere_5 rfl ?_
      refine z_callV (As := []) (t_days (I := (tput I b σ)) hL h1) q1573 q1575 qs53 q121 q1576 nm_X5_days (tX_obj hL) rfl rfl rfl (Nat.le_of_ble_eq_true rfl) ⟨Nat.le_of_ble_eq_true rfl, Nat.le_of_ble_eq_true rfl⟩ dX5_somewhere_6 rfl rfl (Nat.le_of_ble_eq_true rfl) (Nat.le_of_ble_eq_true rfl) (fun v_11 X_12 hp_13 => ?_)
      obtain ⟨rfl, rfl⟩ := hp_13
      refine z_st (st' := [.int (nI (nd)), .int (nI (i_1))]) rfl ?_
      refine z_icmp_geN (a := i_1) (b := nd) 42 (by omega) (by omega) dX5_somewhere_9 (by decide) (fun c_14 => absurd c_14 (by omega)) (fun c_14 => ?_)
      refine z_iload_n 2 dX5_somewhere_12 rfl ?_
      refine z_aload_n 0 dX5_somewhere_13 rfl ?_
      refine tz_get (v := .ref (L 24)) 24 hL (by decide) q1617 rfl dX5_somewhere_14 ?_
      refine z_iload_n 1 dX5_somewhere_17 rfl ?_
      refine z_bipush (v := 6) dX5_somewhere_18 (by decide) ?_
      refine z_iaddN (a := b) (b := 6) dX5_somewhere_20 ?_
      refine z_iload_n 3 dX5_somewhere_21 rfl ?_
      refine z_iaddN (a := b + 6) (b := i_1) dX5_somewhere_22 ?_
      refine z_eq (y := nI (b + i_1 + 6)) (congrArg nI (by omega)) ?_
      refine tz_iald (v := σ (i_1 + 6)) 24 (b + (i_1 + 6)) hL (by decide) (congrArg nI (by omega)) (by show b + (i_1 + 6) < 1081; omega) (tput_at (by omega)) dX5_somewhere_23 ?_
      refine z_if_lt 33 dX5_somewhere_24 (by decide) (fun c_15 => ?_) (fun c_15 => ?_)
      · -- σ (i_1 + 6) < 0
        have c_15' := Int32.not_le.mpr c_15
        refine z_iconst (v := 0) dX5_somewhere_33 (by decide) ?_
        refine z_ior dX5_somewhere_34 ?_
        obtain ⟨x_16, ex_16⟩ : ∃ y : Int32, ((s_some σ i_1) ||| 0) = y := ⟨_, rfl⟩
        refine z_eq ex_16 ?_
        refine z_istore_n (lv' := [(2, .int x_16), (0, .ref (L 99)), (1, .int (nI (b))), (3, .int (nI (i_1)))]) dX5_somewhere_35 rfl (by decide) rfl ?_
        refine z_iinc (v := nI (i_1 + 1)) (lv' := [(3, .int (nI (i_1 + 1))), (2, .int x_16), (0, .ref (L 99)), (1, .int (nI (b)))]) 3 dX5_somewhere_36 rfl (nI_1 _) (by decide) rfl ?_
        refine z_goto 4 dX5_somewhere_39 (by decide) ?_
        have f_17 : x_16 = s_some σ (i_1 + 1) := by first | rfl | omega | (simp [s_some, s_bit, hb_4, c_14, c_15, c_15']; done) | ((try subst ex_16); simp [s_some, s_bit, hb_4, c_14, c_15, c_15'])
        subst f_17
        refine z_lv (lv' := [(0, .ref (L 99)), (1, .int (nI (b))), (2, .int (s_some σ (i_1 + 1))), (3, .int (nI (i_1 + 1)))]) [2, 3, 1, 0] rfl ?_
        exact ih_3 (i_1 + 1) (by omega) (by omega)  
      · -- ¬ σ (i_1 + 6) < 0
        have c_15' := Int32.not_lt.mp c_15
        refine z_iconst (v := 1) dX5_somewhere_27 (by decide) ?_
        refine z_iload_n 3 dX5_somewhere_28 rfl ?_
        refine z_ishl dX5_somewhere_29 ?_
        refine z_goto 34 dX5_somewhere_30 (by decide) ?_
        refine z_ior dX5_somewhere_34 ?_
        obtain ⟨x_18, ex_18⟩ : ∃ y : Int32, ((s_some σ i_1) ||| (1 <<< ((nI (i_1)) &&& 31))) = y := ⟨_, rfl⟩
        refine z_eq ex_18 ?_
        refine z_istore_n (lv' := [(2, .int x_18), (0, .ref (L 99)), (1, .int (nI (b))), (3, .int (nI (i_1)))]) dX5_somewhere_35 rfl (by decide) rfl ?_
        refine z_iinc (v := nI (i_1 + 1)) (lv' := [(3, .int (nI (i_1 + 1))), (2, .int x_18), (0, .ref (L 99)), (1, .int (nI (b)))]) 3 dX5_somewhere_36 rfl (nI_1 _) (by decide) rfl ?_
        refine z_goto 4 dX5_somewhere_39 (by decide) ?_
        have f_19 : x_18 = s_some σ (i_1 + 1) := by first | rfl | omega | (simp [s_some, s_bit, hb_4, c_14, c_15, c_15']; done) | ((try subst ex_18); simp [s_some, s_bit, hb_4, c_14, c_15, c_15'])
        subst f_19
        refine z_lv (lv' := [(0, .ref (L 99)), (1, .int (nI (b))), (2, .int (s_some σ (i_1 + 1))), (3, .int (nI (i_1 + 1)))]) [2, 3, 1, 0] rfl ?_
        exact ih_3 (i_1 + 1) (by omega) (by omega)  
  have f_20 : 0 = s_some σ 0 := by first | rfl | omega | (simp [s_some, s_bit]; done) | (skip; simp [s_some, s_bit])
  refine z_lv (lv' := [(0, .ref (L 99)), (1, .int (nI (b))), (2, .int (s_some σ 0)), (3, .int 0)]) [2, 3, 1, 0] (by rw [← f_20]; rfl) ?_
  exact loop_5 (nd - 0) 0 (by omega) (Nat.le_refl _)  
set_option maxHeartbeats 4000000 in
theorem t_talkIn {g : zG} {L : Nat → Nat} {I : Nat → Nat → Int32} {J : Nat → Nat → Int64} {Gb : Nat → Nat → Int32} {X : zX} (hL : tok g L) {σ : Nat → Int32} {nd : Nat} (h1 : I 10 1 = nI nd) (hnd : nd ≤ 6) (b : Nat) (hb : b + 47 ≤ 1081) (h : Int32) : zN g m_X5_talkIn ({ frames := 1, cells := 0, slots := 0, locals := 20 } : Room) [.ref (L 99), .int (nI (b)), .int h] (tX g L (tput I b σ) J Gb X) (fun rv X' => rv = some (.int (s_talk σ h nd)) ∧ X' = (tX g L (tput I b σ) J Gb X)) := by
  refine zN.of (by decide +kernel) (Nat.le_of_ble_eq_true rfl) rfl ?_
  refine z_lv (lv' := [(0, .ref (L 99)), (1, .int (nI (b))), (2, .int h)]) [0, 1, 2] rfl ?_
  refine z_iconst (v := 0) dX5_talkIn_0 (by decide) ?_
  refine z_istore_n (lv' := [(3, .int 0), (0, .ref (L 99)), (1, .int (nI (b))), (2, .int h)]) dX5_talkIn_1 rfl (by decide) rfl ?_
  refine z_iconst (v := 0) dX5_talkIn_2 (by decide) ?_
  refine z_istore (lv' := [(4, .int 0), (3, .int 0), (0, .ref (L 99)), (1, .int (nI (b))), (2, .int h)]) dX5_talkIn_3 (by decide) rfl ?_
  have loop_5 : ∀ (q_2 i_1 : Nat), i_1 + q_2 = nd → 0 ≤ i_1 → zZ g m_X5_talkIn (fun rv X' => rv = some (.int (s_talk σ h nd)) ∧ X' = (tX g L (tput I b σ) J Gb X), zno, ({ frames := 1, cells := 0, slots := 0, locals := 20 } : Room)) 0 0 (tX g L (tput I b σ) J Gb X) 5 [(0, .ref (L 99)), (1, .int (nI (b))), (2, .int h), (3, .int (s_talk σ h i_1)), (4, .int (nI (i_1)))] [] := by
    intro q_2
    induction q_2 with
    | zero =>
      intro i_1 hb_4 lo_6  
      obtain rfl : nd = i_1 := by omega
      refine z_iload 4 dX5_talkIn_5 rfl ?_
      refine z_aload_n 0 dX5_talkIn_7 rfl ?_
      refine z_callV (As := []) (t_days (I := (tput I b σ)) hL h1) q1573 q1575 qs53 q121 q1576 nm_X5_days (tX_obj hL) rfl rfl rfl (Nat.le_of_ble_eq_true rfl) ⟨Nat.le_of_ble_eq_true rfl, Nat.le_of_ble_eq_true rfl⟩ dX5_talkIn_8 rfl rfl (Nat.le_of_ble_eq_true rfl) (Nat.le_of_ble_eq_true rfl) (fun v_7 X_8 hp_9 => ?_)
      obtain ⟨rfl, rfl⟩ := hp_9
      refine z_st (st' := [.int (nI (nd)), .int (nI (nd))]) rfl ?_
      refine z_icmp_geN (a := nd) (b := nd) 55 (by omega) (by omega) dX5_talkIn_11 (by decide) (fun c_10 => ?_) (fun c_10 => absurd c_10 (by omega))
      refine z_iload_n 3 dX5_talkIn_55 rfl ?_
      exact z_iret dX5_talkIn_56 rfl (Nat.le_of_ble_eq_true rfl) (Nat.le_of_ble_eq_true rfl) ⟨congrArg some (congrArg Value.int (by first | rfl | (simp [s_talk, hb_4, c_10]; done) | (skip; simp [s_talk, hb_4, c_10]))), (by first | rfl | (simp [s_talk, hb_4, c_10]; done) | (skip; simp [s_talk, hb_4, c_10]))⟩
    | succ q_2 ih_3 =>
      intro i_1 hb_4 lo_6  
      refine z_iload 4 dX5_talkIn_5 rfl ?_
      refine z_aload_n 0 dX5_talkIn_7 rfl ?_
      refine z_callV (As := []) (t_days (I := (tput I b σ)) hL h1) q1573 q1575 qs53 q121 q1576 nm_X5_days (tX_obj hL) rfl rfl rfl (Nat.le_of_ble_eq_true rfl) ⟨Nat.le_of_ble_eq_true rfl, Nat.le_of_ble_eq_true rfl⟩ dX5_talkIn_8 rfl rfl (Nat.le_of_ble_eq_true rfl) (Nat.le_of_ble_eq_true rfl) (fun v_11 X_12 hp_13 => ?_)
      obtain ⟨rfl, rfl⟩ := hp_13
      refine z_st (st' := [.int (nI (nd)), .int (nI (i_1))]) rfl ?_
      refine z_icmp_geN (a := i_1) (b := nd) 55 (by omega) (by omega) dX5_talkIn_11 (by decide) (fun c_14 => absurd c_14 (by omega)) (fun c_14 => ?_)
      refine z_iload_n 3 dX5_talkIn_14 rfl ?_
      refine z_aload_n 0 dX5_talkIn_15 rfl ?_
      refine tz_get (v := .ref (L 24)) 24 hL (by decide) q1617 rfl dX5_talkIn_16 ?_
      refine z_iload_n 1 dX5_talkIn_19 rfl ?_
      refine z_bipush (v := 6) dX5_talkIn_20 (by decide) ?_
      refine z_iaddN (a := b) (b := 6) dX5_talkIn_22 ?_
      refine z_iload 4 dX5_talkIn_23 rfl ?_
      refine z_iaddN (a := b + 6) (b := i_1) dX5_talkIn_25 ?_
      refine z_eq (y := nI (b + i_1 + 6)) (congrArg nI (by omega)) ?_
      refine tz_iald (v := σ (i_1 + 6)) 24 (b + (i_1 + 6)) hL (by decide) (congrArg nI (by omega)) (by show b + (i_1 + 6) < 1081; omega) (tput_at (by omega)) dX5_talkIn_26 ?_
      refine z_iload_n 2 dX5_talkIn_27 rfl ?_
      refine z_icmp_ne 46 dX5_talkIn_28 (by decide) (fun c_15 => ?_) (fun c_15 => ?_)
      · -- ¬ σ (i_1 + 6) = h
        refine z_iconst (v := 0) dX5_talkIn_46 (by decide) ?_
        refine z_iadd dX5_talkIn_47 ?_
        obtain ⟨x_16, ex_16⟩ : ∃ y : Int32, ((s_talk σ h i_1) + 0) = y := ⟨_, rfl⟩
        refine z_eq ex_16 ?_
        refine z_istore_n (lv' := [(3, .int x_16), (0, .ref (L 99)), (1, .int (nI (b))), (2, .int h), (4, .int (nI (i_1)))]) dX5_talkIn_48 rfl (by decide) rfl ?_
        refine z_iinc (v := nI (i_1 + 1)) (lv' := [(4, .int (nI (i_1 + 1))), (3, .int x_16), (0, .ref (L 99)), (1, .int (nI (b))), (2, .int h)]) 4 dX5_talkIn_49 rfl (nI_1 _) (by decide) rfl ?_
        refine z_goto 5 dX5_talkIn_52 (by decide) ?_
        have f_17 : x_16 = s_talk σ h (i_1 + 1) := by first | rfl | omega | (simp [s_talk, hb_4, c_14, c_15]; done) | ((try subst ex_16); simp [s_talk, hb_4, c_14, c_15])
        subst f_17
        refine z_lv (lv' := [(0, .ref (L 99)), (1, .int (nI (b))), (2, .int h), (3, .int (s_talk σ h (i_1 + 1))), (4, .int (nI (i_1 + 1)))]) [2, 3, 4, 1, 0] rfl ?_
        exact ih_3 (i_1 + 1) (by omega) (by omega)  
      · -- σ (i_1 + 6) = h
        refine z_aload_n 0 dX5_talkIn_31 rfl ?_
        refine tz_get (v := .ref (L 24)) 24 hL (by decide) q1617 rfl dX5_talkIn_32 ?_
        refine z_iload_n 1 dX5_talkIn_35 rfl ?_
        refine z_bipush (v := 18) dX5_talkIn_36 (by decide) ?_
        refine z_iaddN (a := b) (b := 18) dX5_talkIn_38 ?_
        refine z_iload 4 dX5_talkIn_39 rfl ?_
        refine z_iaddN (a := b + 18) (b := i_1) dX5_talkIn_41 ?_
        refine z_eq (y := nI (b + i_1 + 18)) (congrArg nI (by omega)) ?_
        refine tz_iald (v := σ (i_1 + 18)) 24 (b + (i_1 + 18)) hL (by decide) (congrArg nI (by omega)) (by show b + (i_1 + 18) < 1081; omega) (tput_at (by omega)) dX5_talkIn_42 ?_
        refine z_goto 47 dX5_talkIn_43 (by decide) ?_
        refine z_iadd dX5_talkIn_47 ?_
        obtain ⟨x_18, ex_18⟩ : ∃ y : Int32, ((s_talk σ h i_1) + (σ (i_1 + 18))) = y := ⟨_, rfl⟩
        refine z_eq ex_18 ?_
        refine z_istore_n (lv' := [(3, .int x_18), (0, .ref (L 99)), (1, .int (nI (b))), (2, .int h), (4, .int (nI (i_1)))]) dX5_talkIn_48 rfl (by decide) rfl ?_
        refine z_iinc (v := nI (i_1 + 1)) (lv' := [(4, .int (nI (i_1 + 1))), (3, .int x_18), (0, .ref (L 99)), (1, .int (nI (b))), (2, .int h)]) 4 dX5_talkIn_49 rfl (nI_1 _) (by decide) rfl ?_
        refine z_goto 5 dX5_talkIn_52 (by decide) ?_
        have f_19 : x_18 = s_talk σ h (i_1 + 1) := by first | rfl | omega | (simp [s_talk, hb_4, c_14, c_15]; done) | ((try subst ex_18); simp [s_talk, hb_4, c_14, c_15])
        subst f_19
        refine z_lv (lv' := [(0, .ref (L 99)), (1, .int (nI (b))), (2, .int h), (3, .int (s_talk σ h (i_1 + 1))), (4, .int (nI (i_1 + 1)))]) [2, 3, 4, 1, 0] rfl ?_
        exact ih_3 (i_1 + 1) (by omega) (by omega)  
  have f_20 : 0 = s_talk σ h 0 := by first | rfl | omega | (simp [s_talk]; done) | (skip; simp [s_talk])
  refine z_lv (lv' := [(0, .ref (L 99)), (1, .int (nI (b))), (2, .int h), (3, .int (s_talk σ h 0)), (4, .int 0)]) [2, 3, 4, 1, 0] (by rw [← f_20]; rfl) ?_
  exact loop_5 (nd - 0) 0 (by omega) (Nat.le_refl _)  
set_option maxHeartbeats 4000000 in
theorem t_doesHold {g : zG} {L : Nat → Nat} {I : Nat → Nat → Int32} {J : Nat → Nat → Int64} {Gb : Nat → Nat → Int32} {X : zX} (hL : tok g L) {σ : Nat → Int32} {nd : Nat} (h1 : I 10 1 = nI nd) (hnd : nd ≤ 6) (b : Nat) (hb : b + 47 ≤ 1081) (h d : Nat) (hh : h < 4) (hd : d < 6) : zN g m_X5_doesHold ({ frames := 3, cells := 0, slots := 0, locals := 67 } : Room) [.ref (L 99), .int (nI (b)), .int (nI (h)), .int (nI (d))] (tX g L (tput I b σ) J Gb X) (fun rv X' => rv = some (.int (zb (s_holds (I 10) σ nd h d))) ∧ X' = (tX g L (tput I b σ) J Gb X)) := by
  refine zN.of (by decide +kernel) (Nat.le_of_ble_eq_true rfl) rfl ?_
  refine z_lv (lv' := [(0, .ref (L 99)), (1, .int (nI (b))), (2, .int (nI (h))), (3, .int (nI (d)))]) [0, 1, 2, 3] rfl ?_
  refine z_aload_n 0 dX5_doesHold_0 rfl ?_
  refine z_iload_n 1 dX5_doesHold_1 rfl ?_
  refine z_iload_n 2 dX5_doesHold_2 rfl ?_
  refine z_callV (As := [.int (nI (b)), .int (nI (h))]) (t_freeOf (I := I) (σ := σ) hL h1 hnd b (by omega) h (by omega)) q1830 q1832 qs85 q121 q1833 nm_X5_freeOf (tX_obj hL) rfl rfl rfl (Nat.le_of_ble_eq_true rfl) ⟨Nat.le_of_ble_eq_true rfl, Nat.le_of_ble_eq_true rfl⟩ dX5_doesHold_3 rfl rfl (Nat.le_of_ble_eq_true rfl) (Nat.le_of_ble_eq_true rfl) (fun v_1 X_2 hp_3 => ?_)
  obtain ⟨rfl, rfl⟩ := hp_3
  refine z_st (st' := [.int (s_free (I 10) σ h nd)]) rfl ?_
  refine z_aload_n 0 dX5_doesHold_6 rfl ?_
  refine z_iload_n 3 dX5_doesHold_7 rfl ?_
  refine z_callV (As := [.int (nI (d))]) (t_widthOf (I := (tput I b σ)) hL d (by omega)) q1834 q1836 qs86 q121 q1837 nm_X5_widthOf (tX_obj hL) rfl rfl rfl (Nat.le_of_ble_eq_true rfl) ⟨Nat.le_of_ble_eq_true rfl, Nat.le_of_ble_eq_true rfl⟩ dX5_doesHold_8 rfl rfl (Nat.le_of_ble_eq_true rfl) (Nat.le_of_ble_eq_true rfl) (fun v_4 X_5 hp_6 => ?_)
  obtain ⟨rfl, rfl⟩ := hp_6
  refine z_st (st' := [.int (s_wid (I 10) d), .int (s_free (I 10) σ h nd)]) rfl ?_
  refine z_icmp_lt 34 dX5_doesHold_11 (by decide) (fun c_7 => ?_) (fun c_7 => ?_)
  · -- s_free (I 10) σ h nd < s_wid (I 10) d
    have c_7' := Int32.not_le.mpr c_7
    refine z_iconst (v := 0) dX5_doesHold_34 (by decide) ?_
    exact z_zret dX5_doesHold_35 rfl (by first | rfl | decide | exact zb_nar _) (Nat.le_of_ble_eq_true rfl) (Nat.le_of_ble_eq_true rfl) ⟨congrArg some (congrArg Value.int (by first | rfl | (simp [zb, s_holds, c_7, c_7']; done) | (skip; simp [zb, s_holds, c_7, c_7']))), (by first | rfl | (simp [zb, s_holds, c_7, c_7']; done) | (skip; simp [zb, s_holds, c_7, c_7']))⟩
  · -- ¬ s_free (I 10) σ h nd < s_wid (I 10) d
    have c_7' := Int32.not_lt.mp c_7
    refine z_aload_n 0 dX5_doesHold_14 rfl ?_
    refine z_iload_n 1 dX5_doesHold_15 rfl ?_
    refine z_iload_n 2 dX5_doesHold_16 rfl ?_
    refine z_callV (As := [.int (nI (b)), .int (nI (h))]) (t_inHouse (I := I) (σ := σ) hL h1 hnd b (by omega) (nI (h))) q1838 q1840 qs87 q121 q1841 nm_X5_inHouse (tX_obj hL) rfl rfl rfl (Nat.le_of_ble_eq_true rfl) ⟨Nat.le_of_ble_eq_true rfl, Nat.le_of_ble_eq_true rfl⟩ dX5_doesHold_17 rfl rfl (Nat.le_of_ble_eq_true rfl) (Nat.le_of_ble_eq_true rfl) (fun v_8 X_9 hp_10 => ?_)
    obtain ⟨rfl, rfl⟩ := hp_10
    refine z_st (st' := [.int (s_in σ (nI (h)) nd)]) rfl ?_
    refine z_aload_n 0 dX5_doesHold_20 rfl ?_
    refine z_iload_n 3 dX5_doesHold_21 rfl ?_
    refine z_iconst (v := 4) dX5_doesHold_22 (by decide) ?_
    refine z_callV (As := [.int (nI (d)), .int 4]) (t_dayOf (I := (tput I b σ)) hL d 4 (by omega)) q1577 q1579 qs54 q121 q1580 nm_X5_dayOf (tX_obj hL) rfl rfl rfl (Nat.le_of_ble_eq_true rfl) ⟨Nat.le_of_ble_eq_true rfl, Nat.le_of_ble_eq_true rfl⟩ dX5_doesHold_23 rfl rfl (Nat.le_of_ble_eq_true rfl) (Nat.le_of_ble_eq_true rfl) (fun v_11 X_12 hp_13 => ?_)
    obtain ⟨rfl, rfl⟩ := hp_13
    refine z_st (st' := [.int (I 10 (5 * d + 16)), .int (s_in σ (nI (h)) nd)]) rfl ?_
    refine z_iand dX5_doesHold_26 ?_
    refine z_if_ne 34 dX5_doesHold_27 (by decide) (fun c_14 => ?_) (fun c_14 => ?_)
    · -- ¬ ((s_in σ (nI (h)) nd) &&& (I 10 (5 * d + 16))) = 0
      refine z_iconst (v := 0) dX5_doesHold_34 (by decide) ?_
      exact z_zret dX5_doesHold_35 rfl (by first | rfl | decide | exact zb_nar _) (Nat.le_of_ble_eq_true rfl) (Nat.le_of_ble_eq_true rfl) ⟨congrArg some (congrArg Value.int (by first | rfl | (simp [zb, s_holds, c_7, c_7', c_14]; done) | (skip; simp [zb, s_holds, c_7, c_7', c_14]))), (by first | rfl | (simp [zb, s_holds, c_7, c_7', c_14]; done) | (skip; simp [zb, s_holds, c_7, c_7', c_14]))⟩
    · -- ((s_in σ (nI (h)) nd) &&& (I 10 (5 * d + 16))) = 0
      refine z_iconst (v := 1) dX5_doesHold_30 (by decide) ?_
      refine z_goto 35 dX5_doesHold_31 (by decide) ?_
      exact z_zret dX5_doesHold_35 rfl (by first | rfl | decide | exact zb_nar _) (Nat.le_of_ble_eq_true rfl) (Nat.le_of_ble_eq_true rfl) ⟨congrArg some (congrArg Value.int (by first | rfl | (simp [zb, s_holds, c_7, c_7', c_14]; done) | (skip; simp [zb, s_holds, c_7, c_7', c_14]))), (by first | rfl | (simp [zb, s_holds, c_7, c_7', c_14]; done) | (skip; simp [zb, s_holds, c_7, c_7', c_14]))⟩
set_option maxHeartbeats 4000000 in
theorem t_leaves {g : zG} {L : Nat → Nat} {I : Nat → Nat → Int32} {J : Nat → Nat → Int64} {Gb : Nat → Nat → Int32} {X : zX} (hL : tok g L) {σ : Nat → Int32} (b : Nat) (hb : b + 47 ≤ 1081) (d : Nat) (hd : d < 6) : zN g m_X5_leaves ({ frames := 0, cells := 0, slots := 0, locals := 0 } : Room) [.ref (L 99), .int (nI (b)), .int (nI (d))] (tX g L (tput I b σ) J Gb X) (fun rv X' => rv = none ∧ X' = (tX g L (tput I b (s_leave σ d)) J Gb X)) := by
  refine zN.of (by decide +kernel) (Nat.le_of_ble_eq_true rfl) rfl ?_
  refine z_lv (lv' := [(0, .ref (L 99)), (1, .int (nI (b))), (2, .int (nI (d)))]) [0, 1, 2] rfl ?_
  refine z_aload_n 0 dX5_leaves_0 rfl ?_
  refine tz_get (v := .ref (L 24)) 24 hL (by decide) q1617 rfl dX5_leaves_1 ?_
  refine z_iload_n 1 dX5_leaves_4 rfl ?_
  refine z_bipush (v := 6) dX5_leaves_5 (by decide) ?_
  refine z_iaddN (a := b) (b := 6) dX5_leaves_7 ?_
  refine z_iload_n 2 dX5_leaves_8 rfl ?_
  refine z_iaddN (a := b + 6) (b := d) dX5_leaves_9 ?_
  refine z_eq (y := nI (b + d + 6)) (congrArg nI (by omega)) ?_
  refine z_iconst (v := zm1) dX5_leaves_10 (by decide) ?_
  refine tz_iast 24 (b + (d + 6)) hL (by decide) (congrArg nI (by omega)) (by show b + (d + 6) < 1081; omega) (tput_zs (by omega)) dX5_leaves_11 ?_
  refine z_aload_n 0 dX5_leaves_12 rfl ?_
  refine tz_get (v := .ref (L 24)) 24 hL (by decide) q1617 rfl dX5_leaves_13 ?_
  refine z_iload_n 1 dX5_leaves_16 rfl ?_
  refine z_bipush (v := 12) dX5_leaves_17 (by decide) ?_
  refine z_iaddN (a := b) (b := 12) dX5_leaves_19 ?_
  refine z_iload_n 2 dX5_leaves_20 rfl ?_
  refine z_iaddN (a := b + 12) (b := d) dX5_leaves_21 ?_
  refine z_eq (y := nI (b + d + 12)) (congrArg nI (by omega)) ?_
  refine z_iconst (v := 0) dX5_leaves_22 (by decide) ?_
  refine tz_iast 24 (b + (d + 12)) hL (by decide) (congrArg nI (by omega)) (by show b + (d + 12) < 1081; omega) (tput_zs (by omega)) dX5_leaves_23 ?_
  exact z_vret dX5_leaves_24 rfl (Nat.le_of_ble_eq_true rfl) (Nat.le_of_ble_eq_true rfl) ⟨rfl, (by first | rfl | (simp [s_leave]; done) | (skip; simp [s_leave]))⟩
set_option maxHeartbeats 4000000 in
theorem t_copies {g : zG} {L : Nat → Nat} {I : Nat → Nat → Int32} {J : Nat → Nat → Int64} {Gb : Nat → Nat → Int32} {X : zX} (hL : tok g L) (f t n : Nat) (hf : f + n ≤ 1081) (ht : t + n ≤ 1081) (hd : f + n ≤ t ∨ t + n ≤ f) : zN g m_X5_copies ({ frames := 0, cells := 0, slots := 0, locals := 0 } : Room) [.ref (L 99), .int (nI (f)), .int (nI (t)), .int (nI (n))] (tX g L I J Gb X) (fun rv X' => rv = none ∧ X' = (tX g L (s_copy I f t n) J Gb X)) := by
  refine zN.of (by decide +kernel) (Nat.le_of_ble_eq_true rfl) rfl ?_
  refine z_lv (lv' := [(0, .ref (L 99)), (1, .int (nI (f))), (2, .int (nI (t))), (3, .int (nI (n)))]) [0, 1, 2, 3] rfl ?_
  refine z_iconst (v := 0) dX5_copies_0 (by decide) ?_
  refine z_istore (lv' := [(4, .int 0), (0, .ref (L 99)), (1, .int (nI (f))), (2, .int (nI (t))), (3, .int (nI (n)))]) dX5_copies_1 (by decide) rfl ?_
  have loop_5 : ∀ (q_2 i_1 : Nat), i_1 + q_2 = n → 0 ≤ i_1 → zZ g m_X5_copies (fun rv X' => rv = none ∧ X' = (tX g L (s_copy I f t n) J Gb X), zno, ({ frames := 0, cells := 0, slots := 0, locals := 0 } : Room)) 0 0 (tX g L (s_copy I f t i_1) J Gb X) 3 [(0, .ref (L 99)), (1, .int (nI (f))), (2, .int (nI (t))), (3, .int (nI (n))), (4, .int (nI (i_1)))] [] := by
    intro q_2
    induction q_2 with
    | zero =>
      intro i_1 hb_4 lo_6  
      obtain rfl : n = i_1 := by omega
      refine z_iload 4 dX5_copies_3 rfl ?_
      refine z_iload_n 3 dX5_copies_5 rfl ?_
      refine z_icmp_geN (a := n) (b := n) 33 (by omega) (by omega) dX5_copies_6 (by decide) (fun c_7 => ?_) (fun c_7 => absurd c_7 (by omega))
      exact z_vret dX5_copies_33 rfl (Nat.le_of_ble_eq_true rfl) (Nat.le_of_ble_eq_true rfl) ⟨rfl, (by first | rfl | (simp [hb_4, c_7]; done) | (skip; simp [hb_4, c_7]))⟩
    | succ q_2 ih_3 =>
      intro i_1 hb_4 lo_6  
      refine z_iload 4 dX5_copies_3 rfl ?_
      refine z_iload_n 3 dX5_copies_5 rfl ?_
      refine z_icmp_geN (a := i_1) (b := n) 33 (by omega) (by omega) dX5_copies_6 (by decide) (fun c_8 => absurd c_8 (by omega)) (fun c_8 => ?_)
      refine z_aload_n 0 dX5_copies_9 rfl ?_
      refine tz_get (v := .ref (L 24)) 24 hL (by decide) q1617 rfl dX5_copies_10 ?_
      refine z_iload_n 2 dX5_copies_13 rfl ?_
      refine z_iload 4 dX5_copies_14 rfl ?_
      refine z_iaddN (a := t) (b := i_1) dX5_copies_16 ?_
      refine z_aload_n 0 dX5_copies_17 rfl ?_
      refine tz_get (v := .ref (L 24)) 24 hL (by decide) q1617 rfl dX5_copies_18 ?_
      refine z_iload_n 1 dX5_copies_21 rfl ?_
      refine z_iload 4 dX5_copies_22 rfl ?_
      refine z_iaddN (a := f) (b := i_1) dX5_copies_24 ?_
      refine tz_iald (v := I 24 (f + i_1)) 24 (f + i_1) hL (by decide) rfl (by show f + i_1 < 1081; omega) (s_copy_off (by omega)) dX5_copies_25 ?_
      refine tz_iast 24 (t + i_1) hL (by decide) rfl (by show t + i_1 < 1081; omega) rfl dX5_copies_26 ?_
      refine z_iinc (v := nI (i_1 + 1)) (lv' := [(4, .int (nI (i_1 + 1))), (0, .ref (L 99)), (1, .int (nI (f))), (2, .int (nI (t))), (3, .int (nI (n)))]) 4 dX5_copies_27 rfl (nI_1 _) (by decide) rfl ?_
      refine z_goto 3 dX5_copies_30 (by decide) ?_
      refine z_lv (lv' := [(0, .ref (L 99)), (1, .int (nI (f))), (2, .int (nI (t))), (3, .int (nI (n))), (4, .int (nI (i_1 + 1)))]) [1, 2, 3, 4, 0] rfl ?_
      refine z_X (X' := (tX g L (s_copy I f t (i_1 + 1)) J Gb X)) (by rw [s_copy_1]) ?_
      exact ih_3 (i_1 + 1) (by omega) (by omega)  
  refine z_lv (lv' := [(0, .ref (L 99)), (1, .int (nI (f))), (2, .int (nI (t))), (3, .int (nI (n))), (4, .int 0)]) [1, 2, 3, 4, 0] rfl ?_
  refine z_X (X' := (tX g L (s_copy I f t 0) J Gb X)) (by rw [s_copy_0]) ?_
  exact loop_5 (n - 0) 0 (by omega) (Nat.le_refl _)  
