/-! THE COMPONENT: kinds of days. Printed by t42.py -/
set_option maxRecDepth 100000
set_option maxHeartbeats 4000000 in
theorem t_kind_0 {g : zG} {X : zX} (a : Nat) : zN g m_X8_kind ({ frames := 0, cells := 0, slots := 0, locals := 0 } : Room) [.ref a] X (fun rv X' => rv = some (.int 0) ∧ X' = X) := by
  refine zN.of (by decide +kernel) (Nat.le_of_ble_eq_true rfl) rfl ?_
  refine z_lv (lv' := [(0, .ref a)]) [0] rfl ?_
  refine z_iconst (v := 0) dX8_kind_0 (by decide) ?_
  exact z_iret dX8_kind_1 rfl (Nat.le_of_ble_eq_true rfl) (Nat.le_of_ble_eq_true rfl) ⟨rfl, rfl⟩
set_option maxHeartbeats 4000000 in
theorem t_kind_1 {g : zG} {X : zX} (a : Nat) : zN g m_X9_kind ({ frames := 0, cells := 0, slots := 0, locals := 0 } : Room) [.ref a] X (fun rv X' => rv = some (.int 1) ∧ X' = X) := by
  refine zN.of (by decide +kernel) (Nat.le_of_ble_eq_true rfl) rfl ?_
  refine z_lv (lv' := [(0, .ref a)]) [0] rfl ?_
  refine z_iconst (v := 1) dX9_kind_0 (by decide) ?_
  exact z_iret dX9_kind_1 rfl (Nat.le_of_ble_eq_true rfl) (Nat.le_of_ble_eq_true rfl) ⟨rfl, rfl⟩
set_option maxHeartbeats 4000000 in
theorem t_kind_2 {g : zG} {X : zX} (a : Nat) : zN g m_X10_kind ({ frames := 0, cells := 0, slots := 0, locals := 0 } : Room) [.ref a] X (fun rv X' => rv = some (.int 2) ∧ X' = X) := by
  refine zN.of (by decide +kernel) (Nat.le_of_ble_eq_true rfl) rfl ?_
  refine z_lv (lv' := [(0, .ref a)]) [0] rfl ?_
  refine z_iconst (v := 2) dX10_kind_0 (by decide) ?_
  exact z_iret dX10_kind_1 rfl (Nat.le_of_ble_eq_true rfl) (Nat.le_of_ble_eq_true rfl) ⟨rfl, rfl⟩
set_option maxHeartbeats 4000000 in
theorem t_kind_3 {g : zG} {X : zX} (a : Nat) : zN g m_X11_kind ({ frames := 0, cells := 0, slots := 0, locals := 0 } : Room) [.ref a] X (fun rv X' => rv = some (.int 3) ∧ X' = X) := by
  refine zN.of (by decide +kernel) (Nat.le_of_ble_eq_true rfl) rfl ?_
  refine z_lv (lv' := [(0, .ref a)]) [0] rfl ?_
  refine z_iconst (v := 3) dX11_kind_0 (by decide) ?_
  exact z_iret dX11_kind_1 rfl (Nat.le_of_ble_eq_true rfl) (Nat.le_of_ble_eq_true rfl) ⟨rfl, rfl⟩
set_option maxHeartbeats 4000000 in
theorem t_bedsG_0 {g : zG} {X : zX} (a : Nat) : zN g m_X8_beds ({ frames := 0, cells := 0, slots := 0, locals := 0 } : Room) [.ref a] X (fun rv X' => rv = some (.int 1) ∧ X' = X) := by
  refine zN.of (by decide +kernel) (Nat.le_of_ble_eq_true rfl) rfl ?_
  refine z_lv (lv' := [(0, .ref a)]) [0] rfl ?_
  refine z_iconst (v := 1) dX8_beds_0 (by decide) ?_
  exact z_iret dX8_beds_1 rfl (Nat.le_of_ble_eq_true rfl) (Nat.le_of_ble_eq_true rfl) ⟨rfl, rfl⟩
set_option maxHeartbeats 4000000 in
theorem t_bedsG_1 {g : zG} {X : zX} (a : Nat) : zN g m_X9_beds ({ frames := 0, cells := 0, slots := 0, locals := 0 } : Room) [.ref a] X (fun rv X' => rv = some (.int 2) ∧ X' = X) := by
  refine zN.of (by decide +kernel) (Nat.le_of_ble_eq_true rfl) rfl ?_
  refine z_lv (lv' := [(0, .ref a)]) [0] rfl ?_
  refine z_iconst (v := 2) dX9_beds_0 (by decide) ?_
  exact z_iret dX9_beds_1 rfl (Nat.le_of_ble_eq_true rfl) (Nat.le_of_ble_eq_true rfl) ⟨rfl, rfl⟩
set_option maxHeartbeats 4000000 in
theorem t_comesG_0 {g : zG} {X : zX} (a : Nat) (own mo yr : Int32) : zN g m_X8_comes ({ frames := 0, cells := 0, slots := 0, locals := 0 } : Room) [.ref a, .int own, .int mo, .int yr] X (fun rv X' => rv = some (.int (zb (decide (own = mo)))) ∧ X' = X) := by
  refine zN.of (by decide +kernel) (Nat.le_of_ble_eq_true rfl) rfl ?_
  refine z_lv (lv' := [(0, .ref a), (1, .int own), (2, .int mo), (3, .int yr)]) [0, 1, 2, 3] rfl ?_
  refine z_iload_n 1 dX8_comes_0 rfl ?_
  refine z_iload_n 2 dX8_comes_1 rfl ?_
  refine z_icmp_ne 9 dX8_comes_2 (by decide) (fun c_1 => ?_) (fun c_1 => ?_)
  · -- ¬ own = mo
    refine z_iconst (v := 0) dX8_comes_9 (by decide) ?_
    exact z_zret dX8_comes_10 rfl (by first | rfl | decide | exact zb_nar _) (Nat.le_of_ble_eq_true rfl) (Nat.le_of_ble_eq_true rfl) ⟨congrArg some (congrArg Value.int (by simp [zb, c_1])), rfl⟩
  · -- own = mo
    refine z_iconst (v := 1) dX8_comes_5 (by decide) ?_
    refine z_goto 10 dX8_comes_6 (by decide) ?_
    exact z_zret dX8_comes_10 rfl (by first | rfl | decide | exact zb_nar _) (Nat.le_of_ble_eq_true rfl) (Nat.le_of_ble_eq_true rfl) ⟨congrArg some (congrArg Value.int (by simp [zb, c_1])), rfl⟩
set_option maxHeartbeats 4000000 in
theorem t_comesG_2 {g : zG} {X : zX} (a mo : Nat) (own yr : Int32) (hmo : mo < 12) : zN g m_X10_comes ({ frames := 0, cells := 0, slots := 0, locals := 0 } : Room) [.ref a, .int own, .int (nI (mo)), .int yr] X (fun rv X' => rv = some (.int (zb (decide (own = nI ((mo + 1) % 12))))) ∧ X' = X) := by
  refine zN.of (by decide +kernel) (Nat.le_of_ble_eq_true rfl) rfl ?_
  refine z_lv (lv' := [(0, .ref a), (1, .int own), (2, .int (nI (mo))), (3, .int yr)]) [0, 1, 2, 3] rfl ?_
  refine z_iload_n 1 dX10_comes_0 rfl ?_
  refine z_iload_n 2 dX10_comes_1 rfl ?_
  refine z_iconst (v := 1) dX10_comes_2 (by decide) ?_
  refine z_iaddN (a := mo) (b := 1) dX10_comes_3 ?_
  refine z_bipush (v := 12) dX10_comes_4 (by decide) ?_
  refine z_iremN (a := mo + 1) (b := 12) (by omega) (by decide) (by decide) dX10_comes_6 ?_
  refine z_icmp_ne 14 dX10_comes_7 (by decide) (fun c_1 => ?_) (fun c_1 => ?_)
  · -- ¬ own = nI (((mo + 1) % 12))
    refine z_iconst (v := 0) dX10_comes_14 (by decide) ?_
    exact z_zret dX10_comes_15 rfl (by first | rfl | decide | exact zb_nar _) (Nat.le_of_ble_eq_true rfl) (Nat.le_of_ble_eq_true rfl) ⟨congrArg some (congrArg Value.int (by simp [zb, c_1])), rfl⟩
  · -- own = nI (((mo + 1) % 12))
    refine z_iconst (v := 1) dX10_comes_10 (by decide) ?_
    refine z_goto 15 dX10_comes_11 (by decide) ?_
    exact z_zret dX10_comes_15 rfl (by first | rfl | decide | exact zb_nar _) (Nat.le_of_ble_eq_true rfl) (Nat.le_of_ble_eq_true rfl) ⟨congrArg some (congrArg Value.int (by simp [zb, c_1])), rfl⟩
set_option maxHeartbeats 4000000 in
theorem t_comesG_3 {g : zG} {X : zX} (a mo yr : Nat) (own : Int32) (hmo : mo < 12) (hyr : yr < 2 ^ 30) : zN g m_X11_comes ({ frames := 0, cells := 0, slots := 0, locals := 0 } : Room) [.ref a, .int own, .int (nI (mo)), .int (nI (yr))] X (fun rv X' => rv = some (.int (zb (decide (own = nI mo) && decide (yr % 4 = 0)))) ∧ X' = X) := by
  refine zN.of (by decide +kernel) (Nat.le_of_ble_eq_true rfl) rfl ?_
  refine z_lv (lv' := [(0, .ref a), (1, .int own), (2, .int (nI (mo))), (3, .int (nI (yr)))]) [0, 1, 2, 3] rfl ?_
  refine z_iload_n 1 dX11_comes_0 rfl ?_
  refine z_iload_n 2 dX11_comes_1 rfl ?_
  refine z_icmp_ne 15 dX11_comes_2 (by decide) (fun c_1 => ?_) (fun c_1 => ?_)
  · -- ¬ own = nI (mo)
    refine z_iconst (v := 0) dX11_comes_15 (by decide) ?_
    exact z_zret dX11_comes_16 rfl (by first | rfl | decide | exact zb_nar _) (Nat.le_of_ble_eq_true rfl) (Nat.le_of_ble_eq_true rfl) ⟨congrArg some (congrArg Value.int (by simp [zb, c_1])), rfl⟩
  · -- own = nI (mo)
    refine z_iload_n 3 dX11_comes_5 rfl ?_
    refine z_iconst (v := 4) dX11_comes_6 (by decide) ?_
    refine z_iremN (a := yr) (b := 4) (by omega) (by decide) (by decide) dX11_comes_7 ?_
    refine z_if_neN 15 (by omega) dX11_comes_8 (by decide) (fun c_2 => ?_) (fun c_2 => ?_)
    · -- (yr % 4) ≠ 0
      refine z_iconst (v := 0) dX11_comes_15 (by decide) ?_
      exact z_zret dX11_comes_16 rfl (by first | rfl | decide | exact zb_nar _) (Nat.le_of_ble_eq_true rfl) (Nat.le_of_ble_eq_true rfl) ⟨congrArg some (congrArg Value.int (by simp [zb, c_1, c_2])), rfl⟩
    · -- (yr % 4) = 0
      refine z_iconst (v := 1) dX11_comes_11 (by decide) ?_
      refine z_goto 16 dX11_comes_12 (by decide) ?_
      exact z_zret dX11_comes_16 rfl (by first | rfl | decide | exact zb_nar _) (Nat.le_of_ble_eq_true rfl) (Nat.le_of_ble_eq_true rfl) ⟨congrArg some (congrArg Value.int (by simp [zb, c_1, c_2])), rfl⟩
