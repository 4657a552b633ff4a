/-! THE READER: signs. Printed by t87.py -/
set_option maxRecDepth 100000
set_option maxHeartbeats 4000000 in
theorem rd_isLetter {g : zG} {X : zX} (x : Int32) : zN g m_X2_isLetter ({ frames := 0, cells := 0, slots := 0, locals := 0 } : Room) [.int x] X (fun rv X' => rv = some (.int (zb (s_le x))) ∧ X' = X) := by
  refine zN.of (by decide +kernel) (Nat.le_of_ble_eq_true rfl) rfl ?_
  refine z_lv (lv' := [(0, .int x)]) [0] rfl ?_
  refine z_iload_n 0 dX2_isLetter_0 rfl ?_
  refine z_bipush (v := 97) dX2_isLetter_1 (by decide) ?_
  refine z_icmp_lt 16 dX2_isLetter_3 (by decide) (fun c_1 => ?_) (fun c_1 => ?_)
  · -- x < 97
    have c_1' := Int32.not_le.mpr c_1
    refine z_iconst (v := 0) dX2_isLetter_16 (by decide) ?_
    exact z_zret dX2_isLetter_17 rfl (by first | rfl | decide | exact zb_nar _) (Nat.le_of_ble_eq_true rfl) (Nat.le_of_ble_eq_true rfl) ⟨congrArg some (congrArg Value.int (by unfold s_le; simp [zb, c_1, c_1'])), rfl⟩
  · -- ¬ x < 97
    have c_1' := Int32.not_lt.mp c_1
    refine z_iload_n 0 dX2_isLetter_6 rfl ?_
    refine z_bipush (v := 122) dX2_isLetter_7 (by decide) ?_
    refine z_icmp_gt 16 dX2_isLetter_9 (by decide) (fun c_2 => ?_) (fun c_2 => ?_)
    · -- 122 < x
      have c_2' := Int32.not_le.mpr c_2
      refine z_iconst (v := 0) dX2_isLetter_16 (by decide) ?_
      exact z_zret dX2_isLetter_17 rfl (by first | rfl | decide | exact zb_nar _) (Nat.le_of_ble_eq_true rfl) (Nat.le_of_ble_eq_true rfl) ⟨congrArg some (congrArg Value.int (by unfold s_le; simp [zb, c_1, c_1', c_2, c_2'])), rfl⟩
    · -- ¬ 122 < x
      have c_2' := Int32.not_lt.mp c_2
      refine z_iconst (v := 1) dX2_isLetter_12 (by decide) ?_
      refine z_goto 17 dX2_isLetter_13 (by decide) ?_
      exact z_zret dX2_isLetter_17 rfl (by first | rfl | decide | exact zb_nar _) (Nat.le_of_ble_eq_true rfl) (Nat.le_of_ble_eq_true rfl) ⟨congrArg some (congrArg Value.int (by unfold s_le; simp [zb, c_1, c_1', c_2, c_2'])), rfl⟩
set_option maxHeartbeats 4000000 in
theorem rd_isDigit {g : zG} {X : zX} (x : Int32) : zN g m_X2_isDigit ({ frames := 0, cells := 0, slots := 0, locals := 0 } : Room) [.int x] X (fun rv X' => rv = some (.int (zb (s_di x))) ∧ X' = X) := by
  refine zN.of (by decide +kernel) (Nat.le_of_ble_eq_true rfl) rfl ?_
  refine z_lv (lv' := [(0, .int x)]) [0] rfl ?_
  refine z_iload_n 0 dX2_isDigit_0 rfl ?_
  refine z_bipush (v := 48) dX2_isDigit_1 (by decide) ?_
  refine z_icmp_lt 16 dX2_isDigit_3 (by decide) (fun c_1 => ?_) (fun c_1 => ?_)
  · -- x < 48
    have c_1' := Int32.not_le.mpr c_1
    refine z_iconst (v := 0) dX2_isDigit_16 (by decide) ?_
    exact z_zret dX2_isDigit_17 rfl (by first | rfl | decide | exact zb_nar _) (Nat.le_of_ble_eq_true rfl) (Nat.le_of_ble_eq_true rfl) ⟨congrArg some (congrArg Value.int (by unfold s_di; simp [zb, c_1, c_1'])), rfl⟩
  · -- ¬ x < 48
    have c_1' := Int32.not_lt.mp c_1
    refine z_iload_n 0 dX2_isDigit_6 rfl ?_
    refine z_bipush (v := 57) dX2_isDigit_7 (by decide) ?_
    refine z_icmp_gt 16 dX2_isDigit_9 (by decide) (fun c_2 => ?_) (fun c_2 => ?_)
    · -- 57 < x
      have c_2' := Int32.not_le.mpr c_2
      refine z_iconst (v := 0) dX2_isDigit_16 (by decide) ?_
      exact z_zret dX2_isDigit_17 rfl (by first | rfl | decide | exact zb_nar _) (Nat.le_of_ble_eq_true rfl) (Nat.le_of_ble_eq_true rfl) ⟨congrArg some (congrArg Value.int (by unfold s_di; simp [zb, c_1, c_1', c_2, c_2'])), rfl⟩
    · -- ¬ 57 < x
      have c_2' := Int32.not_lt.mp c_2
      refine z_iconst (v := 1) dX2_isDigit_12 (by decide) ?_
      refine z_goto 17 dX2_isDigit_13 (by decide) ?_
      exact z_zret dX2_isDigit_17 rfl (by first | rfl | decide | exact zb_nar _) (Nat.le_of_ble_eq_true rfl) (Nat.le_of_ble_eq_true rfl) ⟨congrArg some (congrArg Value.int (by unfold s_di; simp [zb, c_1, c_1', c_2, c_2'])), rfl⟩
set_option maxHeartbeats 4000000 in
theorem rd_at {g : zG} {X : zX} {r x n to ki p w : Nat} {va : Int32} {vl : Option Nat} {t : Nat → Int32} (hr : X r = some (rdr x n p to ki va w vl)) (hx : X x = some (.inl (zar g 1, 1000, .inl t))) (hn : n ≤ 1000) (k : Nat) (hk : k ≤ 1000) : zN g m_X2_at ({ frames := 0, cells := 0, slots := 0, locals := 0 } : Room) [.ref r, .int (nI (k))] X (fun rv X' => rv = some (.int (if k < n then t k else 0)) ∧ X' = X) := by
  refine zN.of (by decide +kernel) (Nat.le_of_ble_eq_true rfl) rfl ?_
  refine z_lv (lv' := [(0, .ref r), (1, .int (nI (k)))]) [0, 1] rfl ?_
  refine z_iload_n 1 dX2_at_0 rfl ?_
  refine z_aload_n 0 dX2_at_1 rfl ?_
  refine z_get (v := .int (nI (n))) 1 hr rfl in_X2 (by decide) q169 rfl dX2_at_2 ?_
  refine z_icmp_geN (a := k) (b := n) 17 (by omega) (by omega) dX2_at_5 (by decide) (fun c_1 => ?_) (fun c_1 => ?_)
  · -- n ≤ k
    refine z_iconst (v := 0) dX2_at_17 (by decide) ?_
    exact z_iret dX2_at_18 rfl (Nat.le_of_ble_eq_true rfl) (Nat.le_of_ble_eq_true rfl) ⟨congrArg (fun z => some (Value.int z)) (if_neg (by omega)).symm, rfl⟩
  · -- k < n
    refine z_aload_n 0 dX2_at_8 rfl ?_
    refine z_get (v := .ref x) 0 hr rfl in_X2 (by decide) q168 rfl dX2_at_9 ?_
    refine z_iload_n 1 dX2_at_12 rfl ?_
    refine z_bald k hx rfl (by omega) (by omega) dX2_at_13 ?_
    refine z_goto 18 dX2_at_14 (by decide) ?_
    exact z_iret dX2_at_18 rfl (Nat.le_of_ble_eq_true rfl) (Nat.le_of_ble_eq_true rfl) ⟨congrArg (fun z => some (Value.int z)) (if_pos (by omega)).symm, rfl⟩
