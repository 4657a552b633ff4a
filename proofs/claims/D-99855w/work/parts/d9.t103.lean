/-! EXPRESSIONS' objects made. Printed by t103.py -/
set_option maxRecDepth 100000
set_option maxHeartbeats 4000000 in
theorem rd_exI {g : zG} {X : zX} {o : Nat} : zN g m_X12_init ({ frames := 1, cells := 0, slots := 0, locals := 20 } : Room) [.ref o] X (fun rv X' => rv = none ∧ X' = X) := by
  refine zN.of (by decide +kernel) (Nat.le_of_ble_eq_true rfl) rfl ?_
  refine z_lv (lv' := [(0, .ref o)]) [0] rfl ?_
  refine z_aload_n 0 dX12_init_0 rfl ?_
  refine z_objInit q1015 q160 q161 dX12_init_1 (Nat.le_of_ble_eq_true rfl) (Nat.le_of_ble_eq_true rfl) ?_
  exact z_vret dX12_init_4 rfl (Nat.le_of_ble_eq_true rfl) (Nat.le_of_ble_eq_true rfl) ⟨rfl, rfl⟩
set_option maxHeartbeats 4000000 in
theorem rd_iX13 {g : zG} {X : zX} {o : Nat} (ho : X o = some (.inr (13, [.int 0]))) (ho0 : z0 g ≤ o) (q : Int32) : zN g m_X13_init ({ frames := 2, cells := 0, slots := 0, locals := 40 } : Room) [.ref o, .int q] X (fun rv X' => rv = none ∧ X' = zup X o (.inr (13, [.int q]))) := by
  refine zN.of (by decide +kernel) (Nat.le_of_ble_eq_true rfl) rfl ?_
  refine z_lv (lv' := [(0, .ref o), (1, .int q)]) [0, 1] rfl ?_
  refine z_aload_n 0 dX13_init_0 rfl ?_
  refine z_callIN (As := []) (rd_exI (o := o)) q1012 q1013 q141 q1014 rfl rfl nm_X12_init rfl (Nat.le_of_ble_eq_true rfl) ⟨Nat.le_of_ble_eq_true rfl, Nat.le_of_ble_eq_true rfl⟩ dX13_init_1 rfl rfl (Nat.le_of_ble_eq_true rfl) (Nat.le_of_ble_eq_true rfl) (fun v_1 X_2 hp_3 => ?_)
  obtain ⟨rfl, h7⟩ := hp_3
  replace h7 := h7.symm
  subst h7
  refine z_st (st' := []) rfl ?_
  refine z_aload_n 0 dX13_init_4 rfl ?_
  refine z_iload_n 1 dX13_init_5 rfl ?_
  refine z_putF (X' := (zup X o (.inr (13, [.int q])))) 0 ho rfl in_X13 (by decide) tyX13 tyX13_ok nmX13 q1016 rfl rfl rfl (tyX13_ok 0 (by decide)) rfl rfl (Nat.le_of_ble_eq_true rfl) ho0 dX13_init_6 rfl ?_
  have hx_4 : (zup X o (.inr (13, [.int q]))) o = some (.inr (13, [.int q])) := zup_s
  exact z_vret dX13_init_9 rfl (Nat.le_of_ble_eq_true rfl) (Nat.le_of_ble_eq_true rfl) ⟨rfl, rfl⟩
set_option maxHeartbeats 4000000 in
theorem rd_iX14 {g : zG} {X : zX} {o : Nat} (ho : X o = some (.inr (14, [.int 0]))) (ho0 : z0 g ≤ o) (q : Int32) : zN g m_X14_init ({ frames := 2, cells := 0, slots := 0, locals := 40 } : Room) [.ref o, .int q] X (fun rv X' => rv = none ∧ X' = zup X o (.inr (14, [.int q]))) := by
  refine zN.of (by decide +kernel) (Nat.le_of_ble_eq_true rfl) rfl ?_
  refine z_lv (lv' := [(0, .ref o), (1, .int q)]) [0, 1] rfl ?_
  refine z_aload_n 0 dX14_init_0 rfl ?_
  refine z_callIN (As := []) (rd_exI (o := o)) q1025 q1013 q141 q1014 rfl rfl nm_X12_init rfl (Nat.le_of_ble_eq_true rfl) ⟨Nat.le_of_ble_eq_true rfl, Nat.le_of_ble_eq_true rfl⟩ dX14_init_1 rfl rfl (Nat.le_of_ble_eq_true rfl) (Nat.le_of_ble_eq_true rfl) (fun v_1 X_2 hp_3 => ?_)
  obtain ⟨rfl, h7⟩ := hp_3
  replace h7 := h7.symm
  subst h7
  refine z_st (st' := []) rfl ?_
  refine z_aload_n 0 dX14_init_4 rfl ?_
  refine z_iload_n 1 dX14_init_5 rfl ?_
  refine z_putF (X' := (zup X o (.inr (14, [.int q])))) 0 ho rfl in_X14 (by decide) tyX14 tyX14_ok nmX14 q1026 rfl rfl rfl (tyX14_ok 0 (by decide)) rfl rfl (Nat.le_of_ble_eq_true rfl) ho0 dX14_init_6 rfl ?_
  have hx_4 : (zup X o (.inr (14, [.int q]))) o = some (.inr (14, [.int q])) := zup_s
  exact z_vret dX14_init_9 rfl (Nat.le_of_ble_eq_true rfl) (Nat.le_of_ble_eq_true rfl) ⟨rfl, rfl⟩
set_option maxHeartbeats 4000000 in
theorem rd_iX15 {g : zG} {X : zX} {o : Nat} (ho : X o = some (.inr (15, [.null]))) (ho0 : z0 g ≤ o) (e : Nat) : zN g m_X15_init ({ frames := 2, cells := 0, slots := 0, locals := 40 } : Room) [.ref o, .ref e] X (fun rv X' => rv = none ∧ X' = zup X o (.inr (15, [.ref e]))) := by
  refine zN.of (by decide +kernel) (Nat.le_of_ble_eq_true rfl) rfl ?_
  refine z_lv (lv' := [(0, .ref o), (1, .ref e)]) [0, 1] rfl ?_
  refine z_aload_n 0 dX15_init_0 rfl ?_
  refine z_callIN (As := []) (rd_exI (o := o)) q1035 q1013 q141 q1014 rfl rfl nm_X12_init rfl (Nat.le_of_ble_eq_true rfl) ⟨Nat.le_of_ble_eq_true rfl, Nat.le_of_ble_eq_true rfl⟩ dX15_init_1 rfl rfl (Nat.le_of_ble_eq_true rfl) (Nat.le_of_ble_eq_true rfl) (fun v_1 X_2 hp_3 => ?_)
  obtain ⟨rfl, h7⟩ := hp_3
  replace h7 := h7.symm
  subst h7
  refine z_st (st' := []) rfl ?_
  refine z_aload_n 0 dX15_init_4 rfl ?_
  refine z_aload_n 1 dX15_init_5 rfl ?_
  refine z_putF (X' := (zup X o (.inr (15, [.ref e])))) 0 ho rfl in_X15 (by decide) tyX15 tyX15_ok nmX15 q1036 rfl rfl rfl (tyX15_ok 0 (by decide)) rfl rfl (Nat.le_of_ble_eq_true rfl) ho0 dX15_init_6 rfl ?_
  have hx_4 : (zup X o (.inr (15, [.ref e]))) o = some (.inr (15, [.ref e])) := zup_s
  exact z_vret dX15_init_9 rfl (Nat.le_of_ble_eq_true rfl) (Nat.le_of_ble_eq_true rfl) ⟨rfl, rfl⟩
set_option maxHeartbeats 4000000 in
theorem rd_two_42 {g : zG} {X : zX} {o e1 e2 : Nat} (ho : X o = some (.inr (16, [.int 0, .null, .null]))) (ho0 : z0 g ≤ o) : zN g m_X16_init ({ frames := 2, cells := 0, slots := 0, locals := 40 } : Room) [.ref o, .int 42, .ref e1, .ref e2] X (fun rv X' => rv = none ∧ X' = zup X o (.inr (16, [.int 42, .ref e1, .ref e2]))) := by
  refine zN.of (by decide +kernel) (Nat.le_of_ble_eq_true rfl) rfl ?_
  refine z_lv (lv' := [(0, .ref o), (1, .int 42), (2, .ref e1), (3, .ref e2)]) [0, 1, 2, 3] rfl ?_
  refine z_aload_n 0 dX16_init_0 rfl ?_
  refine z_callIN (As := []) (rd_exI (o := o)) q1049 q1013 q141 q1014 rfl rfl nm_X12_init rfl (Nat.le_of_ble_eq_true rfl) ⟨Nat.le_of_ble_eq_true rfl, Nat.le_of_ble_eq_true rfl⟩ dX16_init_1 rfl rfl (Nat.le_of_ble_eq_true rfl) (Nat.le_of_ble_eq_true rfl) (fun v_1 X_2 hp_3 => ?_)
  obtain ⟨rfl, h7⟩ := hp_3
  replace h7 := h7.symm
  subst h7
  refine z_st (st' := []) rfl ?_
  refine z_aload_n 0 dX16_init_4 rfl ?_
  refine z_iload_n 1 dX16_init_5 rfl ?_
  refine z_putF (X' := (zup X o (.inr (16, [.int 42, .null, .null])))) 0 ho rfl in_X16 (by decide) tyX16 tyX16_ok nmX16 q1050 rfl rfl rfl (tyX16_ok 0 (by decide)) rfl rfl (Nat.le_of_ble_eq_true rfl) ho0 dX16_init_6 rfl ?_
  have hx_4 : (zup X o (.inr (16, [.int 42, .null, .null]))) o = some (.inr (16, [.int 42, .null, .null])) := zup_s
  refine z_aload_n 0 dX16_init_9 rfl ?_
  refine z_aload_n 2 dX16_init_10 rfl ?_
  refine z_putF (X' := (zup X o (.inr (16, [.int 42, .ref e1, .null])))) 1 hx_4 rfl in_X16 (by decide) tyX16 tyX16_ok nmX16 q1051 rfl rfl rfl (tyX16_ok 1 (by decide)) rfl rfl (Nat.le_of_ble_eq_true rfl) ho0 dX16_init_11 zup_zup ?_
  have hx_5 : (zup X o (.inr (16, [.int 42, .ref e1, .null]))) o = some (.inr (16, [.int 42, .ref e1, .null])) := zup_s
  refine z_aload_n 0 dX16_init_14 rfl ?_
  refine z_aload_n 3 dX16_init_15 rfl ?_
  refine z_putF (X' := (zup X o (.inr (16, [.int 42, .ref e1, .ref e2])))) 2 hx_5 rfl in_X16 (by decide) tyX16 tyX16_ok nmX16 q1052 rfl rfl rfl (tyX16_ok 2 (by decide)) rfl rfl (Nat.le_of_ble_eq_true rfl) ho0 dX16_init_16 zup_zup ?_
  have hx_6 : (zup X o (.inr (16, [.int 42, .ref e1, .ref e2]))) o = some (.inr (16, [.int 42, .ref e1, .ref e2])) := zup_s
  exact z_vret dX16_init_19 rfl (Nat.le_of_ble_eq_true rfl) (Nat.le_of_ble_eq_true rfl) ⟨rfl, rfl⟩
set_option maxHeartbeats 4000000 in
theorem rd_two_43 {g : zG} {X : zX} {o e1 e2 : Nat} (ho : X o = some (.inr (16, [.int 0, .null, .null]))) (ho0 : z0 g ≤ o) : zN g m_X16_init ({ frames := 2, cells := 0, slots := 0, locals := 40 } : Room) [.ref o, .int 43, .ref e1, .ref e2] X (fun rv X' => rv = none ∧ X' = zup X o (.inr (16, [.int 43, .ref e1, .ref e2]))) := by
  refine zN.of (by decide +kernel) (Nat.le_of_ble_eq_true rfl) rfl ?_
  refine z_lv (lv' := [(0, .ref o), (1, .int 43), (2, .ref e1), (3, .ref e2)]) [0, 1, 2, 3] rfl ?_
  refine z_aload_n 0 dX16_init_0 rfl ?_
  refine z_callIN (As := []) (rd_exI (o := o)) q1049 q1013 q141 q1014 rfl rfl nm_X12_init rfl (Nat.le_of_ble_eq_true rfl) ⟨Nat.le_of_ble_eq_true rfl, Nat.le_of_ble_eq_true rfl⟩ dX16_init_1 rfl rfl (Nat.le_of_ble_eq_true rfl) (Nat.le_of_ble_eq_true rfl) (fun v_1 X_2 hp_3 => ?_)
  obtain ⟨rfl, h7⟩ := hp_3
  replace h7 := h7.symm
  subst h7
  refine z_st (st' := []) rfl ?_
  refine z_aload_n 0 dX16_init_4 rfl ?_
  refine z_iload_n 1 dX16_init_5 rfl ?_
  refine z_putF (X' := (zup X o (.inr (16, [.int 43, .null, .null])))) 0 ho rfl in_X16 (by decide) tyX16 tyX16_ok nmX16 q1050 rfl rfl rfl (tyX16_ok 0 (by decide)) rfl rfl (Nat.le_of_ble_eq_true rfl) ho0 dX16_init_6 rfl ?_
  have hx_4 : (zup X o (.inr (16, [.int 43, .null, .null]))) o = some (.inr (16, [.int 43, .null, .null])) := zup_s
  refine z_aload_n 0 dX16_init_9 rfl ?_
  refine z_aload_n 2 dX16_init_10 rfl ?_
  refine z_putF (X' := (zup X o (.inr (16, [.int 43, .ref e1, .null])))) 1 hx_4 rfl in_X16 (by decide) tyX16 tyX16_ok nmX16 q1051 rfl rfl rfl (tyX16_ok 1 (by decide)) rfl rfl (Nat.le_of_ble_eq_true rfl) ho0 dX16_init_11 zup_zup ?_
  have hx_5 : (zup X o (.inr (16, [.int 43, .ref e1, .null]))) o = some (.inr (16, [.int 43, .ref e1, .null])) := zup_s
  refine z_aload_n 0 dX16_init_14 rfl ?_
  refine z_aload_n 3 dX16_init_15 rfl ?_
  refine z_putF (X' := (zup X o (.inr (16, [.int 43, .ref e1, .ref e2])))) 2 hx_5 rfl in_X16 (by decide) tyX16 tyX16_ok nmX16 q1052 rfl rfl rfl (tyX16_ok 2 (by decide)) rfl rfl (Nat.le_of_ble_eq_true rfl) ho0 dX16_init_16 zup_zup ?_
  have hx_6 : (zup X o (.inr (16, [.int 43, .ref e1, .ref e2]))) o = some (.inr (16, [.int 43, .ref e1, .ref e2])) := zup_s
  exact z_vret dX16_init_19 rfl (Nat.le_of_ble_eq_true rfl) (Nat.le_of_ble_eq_true rfl) ⟨rfl, rfl⟩
set_option maxHeartbeats 4000000 in
theorem rd_two_45 {g : zG} {X : zX} {o e1 e2 : Nat} (ho : X o = some (.inr (16, [.int 0, .null, .null]))) (ho0 : z0 g ≤ o) : zN g m_X16_init ({ frames := 2, cells := 0, slots := 0, locals := 40 } : Room) [.ref o, .int 45, .ref e1, .ref e2] X (fun rv X' => rv = none ∧ X' = zup X o (.inr (16, [.int 45, .ref e1, .ref e2]))) := by
  refine zN.of (by decide +kernel) (Nat.le_of_ble_eq_true rfl) rfl ?_
  refine z_lv (lv' := [(0, .ref o), (1, .int 45), (2, .ref e1), (3, .ref e2)]) [0, 1, 2, 3] rfl ?_
  refine z_aload_n 0 dX16_init_0 rfl ?_
  refine z_callIN (As := []) (rd_exI (o := o)) q1049 q1013 q141 q1014 rfl rfl nm_X12_init rfl (Nat.le_of_ble_eq_true rfl) ⟨Nat.le_of_ble_eq_true rfl, Nat.le_of_ble_eq_true rfl⟩ dX16_init_1 rfl rfl (Nat.le_of_ble_eq_true rfl) (Nat.le_of_ble_eq_true rfl) (fun v_1 X_2 hp_3 => ?_)
  obtain ⟨rfl, h7⟩ := hp_3
  replace h7 := h7.symm
  subst h7
  refine z_st (st' := []) rfl ?_
  refine z_aload_n 0 dX16_init_4 rfl ?_
  refine z_iload_n 1 dX16_init_5 rfl ?_
  refine z_putF (X' := (zup X o (.inr (16, [.int 45, .null, .null])))) 0 ho rfl in_X16 (by decide) tyX16 tyX16_ok nmX16 q1050 rfl rfl rfl (tyX16_ok 0 (by decide)) rfl rfl (Nat.le_of_ble_eq_true rfl) ho0 dX16_init_6 rfl ?_
  have hx_4 : (zup X o (.inr (16, [.int 45, .null, .null]))) o = some (.inr (16, [.int 45, .null, .null])) := zup_s
  refine z_aload_n 0 dX16_init_9 rfl ?_
  refine z_aload_n 2 dX16_init_10 rfl ?_
  refine z_putF (X' := (zup X o (.inr (16, [.int 45, .ref e1, .null])))) 1 hx_4 rfl in_X16 (by decide) tyX16 tyX16_ok nmX16 q1051 rfl rfl rfl (tyX16_ok 1 (by decide)) rfl rfl (Nat.le_of_ble_eq_true rfl) ho0 dX16_init_11 zup_zup ?_
  have hx_5 : (zup X o (.inr (16, [.int 45, .ref e1, .null]))) o = some (.inr (16, [.int 45, .ref e1, .null])) := zup_s
  refine z_aload_n 0 dX16_init_14 rfl ?_
  refine z_aload_n 3 dX16_init_15 rfl ?_
  refine z_putF (X' := (zup X o (.inr (16, [.int 45, .ref e1, .ref e2])))) 2 hx_5 rfl in_X16 (by decide) tyX16 tyX16_ok nmX16 q1052 rfl rfl rfl (tyX16_ok 2 (by decide)) rfl rfl (Nat.le_of_ble_eq_true rfl) ho0 dX16_init_16 zup_zup ?_
  have hx_6 : (zup X o (.inr (16, [.int 45, .ref e1, .ref e2]))) o = some (.inr (16, [.int 45, .ref e1, .ref e2])) := zup_s
  exact z_vret dX16_init_19 rfl (Nat.le_of_ble_eq_true rfl) (Nat.le_of_ble_eq_true rfl) ⟨rfl, rfl⟩
set_option maxHeartbeats 4000000 in
theorem rd_two_60 {g : zG} {X : zX} {o e1 e2 : Nat} (ho : X o = some (.inr (16, [.int 0, .null, .null]))) (ho0 : z0 g ≤ o) : zN g m_X16_init ({ frames := 2, cells := 0, slots := 0, locals := 40 } : Room) [.ref o, .int 60, .ref e1, .ref e2] X (fun rv X' => rv = none ∧ X' = zup X o (.inr (16, [.int 60, .ref e1, .ref e2]))) := by
  refine zN.of (by decide +kernel) (Nat.le_of_ble_eq_true rfl) rfl ?_
  refine z_lv (lv' := [(0, .ref o), (1, .int 60), (2, .ref e1), (3, .ref e2)]) [0, 1, 2, 3] rfl ?_
  refine z_aload_n 0 dX16_init_0 rfl ?_
  refine z_callIN (As := []) (rd_exI (o := o)) q1049 q1013 q141 q1014 rfl rfl nm_X12_init rfl (Nat.le_of_ble_eq_true rfl) ⟨Nat.le_of_ble_eq_true rfl, Nat.le_of_ble_eq_true rfl⟩ dX16_init_1 rfl rfl (Nat.le_of_ble_eq_true rfl) (Nat.le_of_ble_eq_true rfl) (fun v_1 X_2 hp_3 => ?_)
  obtain ⟨rfl, h7⟩ := hp_3
  replace h7 := h7.symm
  subst h7
  refine z_st (st' := []) rfl ?_
  refine z_aload_n 0 dX16_init_4 rfl ?_
  refine z_iload_n 1 dX16_init_5 rfl ?_
  refine z_putF (X' := (zup X o (.inr (16, [.int 60, .null, .null])))) 0 ho rfl in_X16 (by decide) tyX16 tyX16_ok nmX16 q1050 rfl rfl rfl (tyX16_ok 0 (by decide)) rfl rfl (Nat.le_of_ble_eq_true rfl) ho0 dX16_init_6 rfl ?_
  have hx_4 : (zup X o (.inr (16, [.int 60, .null, .null]))) o = some (.inr (16, [.int 60, .null, .null])) := zup_s
  refine z_aload_n 0 dX16_init_9 rfl ?_
  refine z_aload_n 2 dX16_init_10 rfl ?_
  refine z_putF (X' := (zup X o (.inr (16, [.int 60, .ref e1, .null])))) 1 hx_4 rfl in_X16 (by decide) tyX16 tyX16_ok nmX16 q1051 rfl rfl rfl (tyX16_ok 1 (by decide)) rfl rfl (Nat.le_of_ble_eq_true rfl) ho0 dX16_init_11 zup_zup ?_
  have hx_5 : (zup X o (.inr (16, [.int 60, .ref e1, .null]))) o = some (.inr (16, [.int 60, .ref e1, .null])) := zup_s
  refine z_aload_n 0 dX16_init_14 rfl ?_
  refine z_aload_n 3 dX16_init_15 rfl ?_
  refine z_putF (X' := (zup X o (.inr (16, [.int 60, .ref e1, .ref e2])))) 2 hx_5 rfl in_X16 (by decide) tyX16 tyX16_ok nmX16 q1052 rfl rfl rfl (tyX16_ok 2 (by decide)) rfl rfl (Nat.le_of_ble_eq_true rfl) ho0 dX16_init_16 zup_zup ?_
  have hx_6 : (zup X o (.inr (16, [.int 60, .ref e1, .ref e2]))) o = some (.inr (16, [.int 60, .ref e1, .ref e2])) := zup_s
  exact z_vret dX16_init_19 rfl (Nat.le_of_ble_eq_true rfl) (Nat.le_of_ble_eq_true rfl) ⟨rfl, rfl⟩
set_option maxHeartbeats 4000000 in
theorem rd_two_61 {g : zG} {X : zX} {o e1 e2 : Nat} (ho : X o = some (.inr (16, [.int 0, .null, .null]))) (ho0 : z0 g ≤ o) : zN g m_X16_init ({ frames := 2, cells := 0, slots := 0, locals := 40 } : Room) [.ref o, .int 61, .ref e1, .ref e2] X (fun rv X' => rv = none ∧ X' = zup X o (.inr (16, [.int 61, .ref e1, .ref e2]))) := by
  refine zN.of (by decide +kernel) (Nat.le_of_ble_eq_true rfl) rfl ?_
  refine z_lv (lv' := [(0, .ref o), (1, .int 61), (2, .ref e1), (3, .ref e2)]) [0, 1, 2, 3] rfl ?_
  refine z_aload_n 0 dX16_init_0 rfl ?_
  refine z_callIN (As := []) (rd_exI (o := o)) q1049 q1013 q141 q1014 rfl rfl nm_X12_init rfl (Nat.le_of_ble_eq_true rfl) ⟨Nat.le_of_ble_eq_true rfl, Nat.le_of_ble_eq_true rfl⟩ dX16_init_1 rfl rfl (Nat.le_of_ble_eq_true rfl) (Nat.le_of_ble_eq_true rfl) (fun v_1 X_2 hp_3 => ?_)
  obtain ⟨rfl, h7⟩ := hp_3
  replace h7 := h7.symm
  subst h7
  refine z_st (st' := []) rfl ?_
  refine z_aload_n 0 dX16_init_4 rfl ?_
  refine z_iload_n 1 dX16_init_5 rfl ?_
  refine z_putF (X' := (zup X o (.inr (16, [.int 61, .null, .null])))) 0 ho rfl in_X16 (by decide) tyX16 tyX16_ok nmX16 q1050 rfl rfl rfl (tyX16_ok 0 (by decide)) rfl rfl (Nat.le_of_ble_eq_true rfl) ho0 dX16_init_6 rfl ?_
  have hx_4 : (zup X o (.inr (16, [.int 61, .null, .null]))) o = some (.inr (16, [.int 61, .null, .null])) := zup_s
  refine z_aload_n 0 dX16_init_9 rfl ?_
  refine z_aload_n 2 dX16_init_10 rfl ?_
  refine z_putF (X' := (zup X o (.inr (16, [.int 61, .ref e1, .null])))) 1 hx_4 rfl in_X16 (by decide) tyX16 tyX16_ok nmX16 q1051 rfl rfl rfl (tyX16_ok 1 (by decide)) rfl rfl (Nat.le_of_ble_eq_true rfl) ho0 dX16_init_11 zup_zup ?_
  have hx_5 : (zup X o (.inr (16, [.int 61, .ref e1, .null]))) o = some (.inr (16, [.int 61, .ref e1, .null])) := zup_s
  refine z_aload_n 0 dX16_init_14 rfl ?_
  refine z_aload_n 3 dX16_init_15 rfl ?_
  refine z_putF (X' := (zup X o (.inr (16, [.int 61, .ref e1, .ref e2])))) 2 hx_5 rfl in_X16 (by decide) tyX16 tyX16_ok nmX16 q1052 rfl rfl rfl (tyX16_ok 2 (by decide)) rfl rfl (Nat.le_of_ble_eq_true rfl) ho0 dX16_init_16 zup_zup ?_
  have hx_6 : (zup X o (.inr (16, [.int 61, .ref e1, .ref e2]))) o = some (.inr (16, [.int 61, .ref e1, .ref e2])) := zup_s
  exact z_vret dX16_init_19 rfl (Nat.le_of_ble_eq_true rfl) (Nat.le_of_ble_eq_true rfl) ⟨rfl, rfl⟩
set_option maxHeartbeats 4000000 in
theorem rd_two_38 {g : zG} {X : zX} {o e1 e2 : Nat} (ho : X o = some (.inr (16, [.int 0, .null, .null]))) (ho0 : z0 g ≤ o) : zN g m_X16_init ({ frames := 2, cells := 0, slots := 0, locals := 40 } : Room) [.ref o, .int 38, .ref e1, .ref e2] X (fun rv X' => rv = none ∧ X' = zup X o (.inr (16, [.int 38, .ref e1, .ref e2]))) := by
  refine zN.of (by decide +kernel) (Nat.le_of_ble_eq_true rfl) rfl ?_
  refine z_lv (lv' := [(0, .ref o), (1, .int 38), (2, .ref e1), (3, .ref e2)]) [0, 1, 2, 3] rfl ?_
  refine z_aload_n 0 dX16_init_0 rfl ?_
  refine z_callIN (As := []) (rd_exI (o := o)) q1049 q1013 q141 q1014 rfl rfl nm_X12_init rfl (Nat.le_of_ble_eq_true rfl) ⟨Nat.le_of_ble_eq_true rfl, Nat.le_of_ble_eq_true rfl⟩ dX16_init_1 rfl rfl (Nat.le_of_ble_eq_true rfl) (Nat.le_of_ble_eq_true rfl) (fun v_1 X_2 hp_3 => ?_)
  obtain ⟨rfl, h7⟩ := hp_3
  replace h7 := h7.symm
  subst h7
  refine z_st (st' := []) rfl ?_
  refine z_aload_n 0 dX16_init_4 rfl ?_
  refine z_iload_n 1 dX16_init_5 rfl ?_
  refine z_putF (X' := (zup X o (.inr (16, [.int 38, .null, .null])))) 0 ho rfl in_X16 (by decide) tyX16 tyX16_ok nmX16 q1050 rfl rfl rfl (tyX16_ok 0 (by decide)) rfl rfl (Nat.le_of_ble_eq_true rfl) ho0 dX16_init_6 rfl ?_
  have hx_4 : (zup X o (.inr (16, [.int 38, .null, .null]))) o = some (.inr (16, [.int 38, .null, .null])) := zup_s
  refine z_aload_n 0 dX16_init_9 rfl ?_
  refine z_aload_n 2 dX16_init_10 rfl ?_
  refine z_putF (X' := (zup X o (.inr (16, [.int 38, .ref e1, .null])))) 1 hx_4 rfl in_X16 (by decide) tyX16 tyX16_ok nmX16 q1051 rfl rfl rfl (tyX16_ok 1 (by decide)) rfl rfl (Nat.le_of_ble_eq_true rfl) ho0 dX16_init_11 zup_zup ?_
  have hx_5 : (zup X o (.inr (16, [.int 38, .ref e1, .null]))) o = some (.inr (16, [.int 38, .ref e1, .null])) := zup_s
  refine z_aload_n 0 dX16_init_14 rfl ?_
  refine z_aload_n 3 dX16_init_15 rfl ?_
  refine z_putF (X' := (zup X o (.inr (16, [.int 38, .ref e1, .ref e2])))) 2 hx_5 rfl in_X16 (by decide) tyX16 tyX16_ok nmX16 q1052 rfl rfl rfl (tyX16_ok 2 (by decide)) rfl rfl (Nat.le_of_ble_eq_true rfl) ho0 dX16_init_16 zup_zup ?_
  have hx_6 : (zup X o (.inr (16, [.int 38, .ref e1, .ref e2]))) o = some (.inr (16, [.int 38, .ref e1, .ref e2])) := zup_s
  exact z_vret dX16_init_19 rfl (Nat.le_of_ble_eq_true rfl) (Nat.le_of_ble_eq_true rfl) ⟨rfl, rfl⟩
set_option maxHeartbeats 4000000 in
theorem rd_two_124 {g : zG} {X : zX} {o e1 e2 : Nat} (ho : X o = some (.inr (16, [.int 0, .null, .null]))) (ho0 : z0 g ≤ o) : zN g m_X16_init ({ frames := 2, cells := 0, slots := 0, locals := 40 } : Room) [.ref o, .int 124, .ref e1, .ref e2] X (fun rv X' => rv = none ∧ X' = zup X o (.inr (16, [.int 124, .ref e1, .ref e2]))) := by
  refine zN.of (by decide +kernel) (Nat.le_of_ble_eq_true rfl) rfl ?_
  refine z_lv (lv' := [(0, .ref o), (1, .int 124), (2, .ref e1), (3, .ref e2)]) [0, 1, 2, 3] rfl ?_
  refine z_aload_n 0 dX16_init_0 rfl ?_
  refine z_callIN (As := []) (rd_exI (o := o)) q1049 q1013 q141 q1014 rfl rfl nm_X12_init rfl (Nat.le_of_ble_eq_true rfl) ⟨Nat.le_of_ble_eq_true rfl, Nat.le_of_ble_eq_true rfl⟩ dX16_init_1 rfl rfl (Nat.le_of_ble_eq_true rfl) (Nat.le_of_ble_eq_true rfl) (fun v_1 X_2 hp_3 => ?_)
  obtain ⟨rfl, h7⟩ := hp_3
  replace h7 := h7.symm
  subst h7
  refine z_st (st' := []) rfl ?_
  refine z_aload_n 0 dX16_init_4 rfl ?_
  refine z_iload_n 1 dX16_init_5 rfl ?_
  refine z_putF (X' := (zup X o (.inr (16, [.int 124, .null, .null])))) 0 ho rfl in_X16 (by decide) tyX16 tyX16_ok nmX16 q1050 rfl rfl rfl (tyX16_ok 0 (by decide)) rfl rfl (Nat.le_of_ble_eq_true rfl) ho0 dX16_init_6 rfl ?_
  have hx_4 : (zup X o (.inr (16, [.int 124, .null, .null]))) o = some (.inr (16, [.int 124, .null, .null])) := zup_s
  refine z_aload_n 0 dX16_init_9 rfl ?_
  refine z_aload_n 2 dX16_init_10 rfl ?_
  refine z_putF (X' := (zup X o (.inr (16, [.int 124, .ref e1, .null])))) 1 hx_4 rfl in_X16 (by decide) tyX16 tyX16_ok nmX16 q1051 rfl rfl rfl (tyX16_ok 1 (by decide)) rfl rfl (Nat.le_of_ble_eq_true rfl) ho0 dX16_init_11 zup_zup ?_
  have hx_5 : (zup X o (.inr (16, [.int 124, .ref e1, .null]))) o = some (.inr (16, [.int 124, .ref e1, .null])) := zup_s
  refine z_aload_n 0 dX16_init_14 rfl ?_
  refine z_aload_n 3 dX16_init_15 rfl ?_
  refine z_putF (X' := (zup X o (.inr (16, [.int 124, .ref e1, .ref e2])))) 2 hx_5 rfl in_X16 (by decide) tyX16 tyX16_ok nmX16 q1052 rfl rfl rfl (tyX16_ok 2 (by decide)) rfl rfl (Nat.le_of_ble_eq_true rfl) ho0 dX16_init_16 zup_zup ?_
  have hx_6 : (zup X o (.inr (16, [.int 124, .ref e1, .ref e2]))) o = some (.inr (16, [.int 124, .ref e1, .ref e2])) := zup_s
  exact z_vret dX16_init_19 rfl (Nat.le_of_ble_eq_true rfl) (Nat.le_of_ble_eq_true rfl) ⟨rfl, rfl⟩
