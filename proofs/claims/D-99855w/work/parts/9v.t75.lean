/-! THE COMPONENT: what one gets. Printed by t75.py -/
set_option maxRecDepth 100000
set_option maxHeartbeats 4000000 in
theorem c_gets {g : zG} {X : zX} (lo si gi mi hi : Int32) : zN g m_X1_gets ({ frames := 0, cells := 0, slots := 0, locals := 0 } : Room) [.int lo, .int si, .int gi, .int mi, .int hi] X (fun rv X' => rv = some (.int (s_gets mi hi lo si gi)) ∧ X' = X) := by
  refine zN.of (by decide +kernel) (Nat.le_of_ble_eq_true rfl) rfl ?_
  refine z_lv (lv' := [(0, .int lo), (1, .int si), (2, .int gi), (3, .int mi), (4, .int hi)]) [0, 1, 2, 3, 4] rfl ?_
  refine z_iload_n 3 dX1_gets_0 rfl ?_
  refine z_iconst (v := 1) dX1_gets_1 (by decide) ?_
  refine z_icmp_ne 20 dX1_gets_2 (by decide) (fun c_1 => ?_) (fun c_1 => ?_)
  · -- ¬ mi = 1
    refine z_iload 4 dX1_gets_20 rfl ?_
    refine z_iconst (v := 1) dX1_gets_22 (by decide) ?_
    refine z_icmp_ne 30 dX1_gets_23 (by decide) (fun c_2 => ?_) (fun c_2 => ?_)
    · -- ¬ hi = 1
      refine z_iconst (v := 0) dX1_gets_30 (by decide) ?_
      exact z_iret dX1_gets_31 rfl (Nat.le_of_ble_eq_true rfl) (Nat.le_of_ble_eq_true rfl) ⟨congrArg some (congrArg Value.int (by unfold s_gets; simp [c_1, c_2])), rfl⟩
    · -- hi = 1
      refine z_iload_n 2 dX1_gets_26 rfl ?_
      refine z_goto 31 dX1_gets_27 (by decide) ?_
      exact z_iret dX1_gets_31 rfl (Nat.le_of_ble_eq_true rfl) (Nat.le_of_ble_eq_true rfl) ⟨congrArg some (congrArg Value.int (by unfold s_gets; simp [c_1, c_2])), rfl⟩
  · -- mi = 1
    refine z_iload 4 dX1_gets_5 rfl ?_
    refine z_iconst (v := 1) dX1_gets_7 (by decide) ?_
    refine z_icmp_ne 16 dX1_gets_8 (by decide) (fun c_3 => ?_) (fun c_3 => ?_)
    · -- ¬ hi = 1
      refine z_iload_n 1 dX1_gets_16 rfl ?_
      refine z_goto 31 dX1_gets_17 (by decide) ?_
      exact z_iret dX1_gets_31 rfl (Nat.le_of_ble_eq_true rfl) (Nat.le_of_ble_eq_true rfl) ⟨congrArg some (congrArg Value.int (by unfold s_gets; simp [c_1, c_3])), rfl⟩
    · -- hi = 1
      refine z_iload_n 0 dX1_gets_11 rfl ?_
      refine z_ineg dX1_gets_12 ?_
      refine z_goto 31 dX1_gets_13 (by decide) ?_
      exact z_iret dX1_gets_31 rfl (Nat.le_of_ble_eq_true rfl) (Nat.le_of_ble_eq_true rfl) ⟨congrArg some (congrArg Value.int (by unfold s_gets; simp [c_1, c_3])), rfl⟩
