/-! THE READER: what is wrong. Printed by t89.py -/
set_option maxRecDepth 100000
theorem z_nr0 {ty : FieldType} {v : Value} (h : v = .null ∨ ∃ t : Nat, v = .ref t) (hty : (∃ x, ty = .object x) ∨ ∃ x, ty = .array x) : narrow ty v = v ∧ fits ty v = true := by
  rcases hty with ⟨x, rfl⟩ | ⟨x, rfl⟩ <;> rcases h with rfl | ⟨t, rfl⟩ <;> exact ⟨rfl, rfl⟩
set_option maxHeartbeats 4000000 in
theorem t_thI {g : zG} {X : zX} {o : Nat} (ho : X o = some (.inr (6, [.null, .null, .null, .null, .null, .int 0, .int 0]))) (ho0 : z0 g ≤ o)  : zN g m_J10_init_2 ({ frames := 1, cells := 0, slots := 0, locals := 20 } : Room) [.ref o, .null, .null, .int 0, .int 0] X (fun rv X' => rv = none ∧ X' = X) := by
  refine zN.of (by decide +kernel) (Nat.le_of_ble_eq_true rfl) rfl ?_
  refine z_lv (lv' := [(0, .ref o), (1, .null), (2, .null), (3, .int 0), (4, .int 0)]) [0, 1, 2, 3, 4] rfl ?_
  refine z_aload_n 0 dJ10_init_2_0 rfl ?_
  refine z_objInit q569 q160 q161 dJ10_init_2_1 (Nat.le_of_ble_eq_true rfl) (Nat.le_of_ble_eq_true rfl) ?_
  refine z_aload_n 0 dJ10_init_2_4 rfl ?_
  refine z_aload_n 0 dJ10_init_2_5 rfl ?_
  refine z_put (X' := (zup X o (.inr (6, [.ref o, .null, .null, .null, .null, .int 0, .int 0])))) 0 ho rfl in_X6 (by decide) tyX6 tyX6_ok nmX6 q600 rfl (tyX6_ok 0 (by decide)) rfl rfl (Nat.le_of_ble_eq_true rfl) ho0 dJ10_init_2_6 rfl ?_
  have hx_1 : (zup X o (.inr (6, [.ref o, .null, .null, .null, .null, .int 0, .int 0]))) o = some (.inr (6, [.ref o, .null, .null, .null, .null, .int 0, .int 0])) := zup_s
  refine z_aload_n 0 dJ10_init_2_9 rfl ?_
  refine z_gsU q570 dJ10_init_2_10 (fun v_2 hv_3 => ?_)
  refine z_put (X' := (zup X o (.inr (6, [.ref o, v_2, .null, .null, .null, .int 0, .int 0])))) 1 hx_1 rfl in_X6 (by decide) tyX6 tyX6_ok nmX6 q601 rfl (tyX6_ok 1 (by decide)) (z_nr0 hv_3 (Or.inr ⟨_, rfl⟩)).1 (z_nr0 hv_3 (Or.inr ⟨_, rfl⟩)).2 (Nat.le_of_ble_eq_true rfl) ho0 dJ10_init_2_13 zup_zup ?_
  have hx_4 : (zup X o (.inr (6, [.ref o, v_2, .null, .null, .null, .int 0, .int 0]))) o = some (.inr (6, [.ref o, v_2, .null, .null, .null, .int 0, .int 0])) := zup_s
  refine z_aload_n 0 dJ10_init_2_16 rfl ?_
  refine z_gsW q572 dJ10_init_2_17 (fun v_5 hv_6 => ?_)
  refine z_put (X' := (zup X o (.inr (6, [.ref o, v_2, v_5, .null, .null, .int 0, .int 0])))) 2 hx_4 rfl in_X6 (by decide) tyX6 tyX6_ok nmX6 q602 rfl (tyX6_ok 2 (by decide)) (z_nr0 hv_6 (Or.inl ⟨_, rfl⟩)).1 (z_nr0 hv_6 (Or.inl ⟨_, rfl⟩)).2 (Nat.le_of_ble_eq_true rfl) ho0 dJ10_init_2_20 zup_zup ?_
  have hx_7 : (zup X o (.inr (6, [.ref o, v_2, v_5, .null, .null, .int 0, .int 0]))) o = some (.inr (6, [.ref o, v_2, v_5, .null, .null, .int 0, .int 0])) := zup_s
  refine z_iload 4 dJ10_init_2_23 rfl ?_
  refine z_if_eq 36 dJ10_init_2_25 (by decide) (fun h_ => ?_) (fun h_ => absurd h_ (by decide))
  refine z_aload_n 0 dJ10_init_2_36 rfl ?_
  refine z_null dJ10_init_2_37 ?_
  refine z_put (X' := (zup X o (.inr (6, [.ref o, .null, v_5, .null, .null, .int 0, .int 0])))) 1 hx_7 rfl in_X6 (by decide) tyX6 tyX6_ok nmX6 q601 rfl (tyX6_ok 1 (by decide)) rfl rfl (Nat.le_of_ble_eq_true rfl) ho0 dJ10_init_2_38 zup_zup ?_
  have hx_8 : (zup X o (.inr (6, [.ref o, .null, v_5, .null, .null, .int 0, .int 0]))) o = some (.inr (6, [.ref o, .null, v_5, .null, .null, .int 0, .int 0])) := zup_s
  refine z_aload_n 0 dJ10_init_2_41 rfl ?_
  refine z_aload_nN 1 dJ10_init_2_42 rfl ?_
  refine z_put (X' := (zup X o (.inr (6, [.ref o, .null, v_5, .null, .null, .int 0, .int 0])))) 3 hx_8 rfl in_X6 (by decide) tyX6 tyX6_ok nmX6 q599 rfl (tyX6_ok 3 (by decide)) rfl rfl (Nat.le_of_ble_eq_true rfl) ho0 dJ10_init_2_43 zup_zup ?_
  have hx_9 : (zup X o (.inr (6, [.ref o, .null, v_5, .null, .null, .int 0, .int 0]))) o = some (.inr (6, [.ref o, .null, v_5, .null, .null, .int 0, .int 0])) := zup_s
  refine z_aload_n 0 dJ10_init_2_46 rfl ?_
  refine z_aload_nN 2 dJ10_init_2_47 rfl ?_
  refine z_put (X' := (zup X o (.inr (6, [.null, .null, v_5, .null, .null, .int 0, .int 0])))) 0 hx_9 rfl in_X6 (by decide) tyX6 tyX6_ok nmX6 q600 rfl (tyX6_ok 0 (by decide)) rfl rfl (Nat.le_of_ble_eq_true rfl) ho0 dJ10_init_2_48 zup_zup ?_
  have hx_10 : (zup X o (.inr (6, [.null, .null, v_5, .null, .null, .int 0, .int 0]))) o = some (.inr (6, [.null, .null, v_5, .null, .null, .int 0, .int 0])) := zup_s
  refine z_iload_n 3 dJ10_init_2_51 rfl ?_
  refine z_if_ne 60 dJ10_init_2_52 (by decide) (fun h_ => absurd h_ (by decide)) (fun h_ => ?_)
  refine z_aload_n 0 dJ10_init_2_55 rfl ?_
  refine z_null dJ10_init_2_56 ?_
  refine z_put (X' := (zup X o (.inr (6, [.null, .null, .null, .null, .null, .int 0, .int 0])))) 2 hx_10 rfl in_X6 (by decide) tyX6 tyX6_ok nmX6 q602 rfl (tyX6_ok 2 (by decide)) rfl rfl (Nat.le_of_ble_eq_true rfl) ho0 dJ10_init_2_57 zup_zup ?_
  have hx_11 : (zup X o (.inr (6, [.null, .null, .null, .null, .null, .int 0, .int 0]))) o = some (.inr (6, [.null, .null, .null, .null, .null, .int 0, .int 0])) := zup_s
  exact z_vret dJ10_init_2_60 rfl (Nat.le_of_ble_eq_true rfl) (Nat.le_of_ble_eq_true rfl) ⟨rfl, zup_self ho⟩
set_option maxHeartbeats 4000000 in
theorem t_exI {g : zG} {X : zX} {o : Nat} (ho : X o = some (.inr (6, [.null, .null, .null, .null, .null, .int 0, .int 0]))) (ho0 : z0 g ≤ o)  : zN g m_J11_init ({ frames := 2, cells := 0, slots := 0, locals := 44 } : Room) [.ref o, .null, .null, .int 0, .int 0] X (fun rv X' => rv = none ∧ X' = X) := by
  refine zN.of (by decide +kernel) (Nat.le_of_ble_eq_true rfl) rfl ?_
  refine z_lv (lv' := [(0, .ref o), (1, .null), (2, .null), (3, .int 0), (4, .int 0)]) [0, 1, 2, 3, 4] rfl ?_
  refine z_aload_n 0 dJ11_init_0 rfl ?_
  refine z_aload_nN 1 dJ11_init_1 rfl ?_
  refine z_aload_nN 2 dJ11_init_2 rfl ?_
  refine z_iload_n 3 dJ11_init_3 rfl ?_
  refine z_iload 4 dJ11_init_4 rfl ?_
  refine z_callI (As := [.null, .null, .int 0, .int 0]) (t_thI ho ho0) q593 q594 q127 q595 rfl rfl nm_J10_init_2 rfl (Nat.le_of_ble_eq_true rfl) ⟨Nat.le_of_ble_eq_true rfl, Nat.le_of_ble_eq_true rfl⟩ dJ11_init_6 rfl rfl (Nat.le_of_ble_eq_true rfl) (Nat.le_of_ble_eq_true rfl) (fun v_1 X_2 hp_3 => ?_)
  obtain ⟨rfl, h7⟩ := hp_3
  replace h7 := h7.symm
  subst h7
  refine z_st (st' := []) rfl ?_
  exact z_vret dJ11_init_9 rfl (Nat.le_of_ble_eq_true rfl) (Nat.le_of_ble_eq_true rfl) ⟨rfl, rfl⟩
set_option maxHeartbeats 4000000 in
theorem t_rtI {g : zG} {X : zX} {o : Nat} (ho : X o = some (.inr (6, [.null, .null, .null, .null, .null, .int 0, .int 0]))) (ho0 : z0 g ≤ o)  : zN g m_J12_init ({ frames := 3, cells := 0, slots := 0, locals := 68 } : Room) [.ref o, .null, .null, .int 0, .int 0] X (fun rv X' => rv = none ∧ X' = X) := by
  refine zN.of (by decide +kernel) (Nat.le_of_ble_eq_true rfl) rfl ?_
  refine z_lv (lv' := [(0, .ref o), (1, .null), (2, .null), (3, .int 0), (4, .int 0)]) [0, 1, 2, 3, 4] rfl ?_
  refine z_aload_n 0 dJ12_init_0 rfl ?_
  refine z_aload_nN 1 dJ12_init_1 rfl ?_
  refine z_aload_nN 2 dJ12_init_2 rfl ?_
  refine z_iload_n 3 dJ12_init_3 rfl ?_
  refine z_iload 4 dJ12_init_4 rfl ?_
  refine z_callI (As := [.null, .null, .int 0, .int 0]) (t_exI ho ho0) q590 q591 q128 q592 rfl rfl nm_J11_init rfl (Nat.le_of_ble_eq_true rfl) ⟨Nat.le_of_ble_eq_true rfl, Nat.le_of_ble_eq_true rfl⟩ dJ12_init_6 rfl rfl (Nat.le_of_ble_eq_true rfl) (Nat.le_of_ble_eq_true rfl) (fun v_1 X_2 hp_3 => ?_)
  obtain ⟨rfl, h7⟩ := hp_3
  replace h7 := h7.symm
  subst h7
  refine z_st (st' := []) rfl ?_
  exact z_vret dJ12_init_9 rfl (Nat.le_of_ble_eq_true rfl) (Nat.le_of_ble_eq_true rfl) ⟨rfl, rfl⟩
set_option maxHeartbeats 4000000 in
theorem rd_wrI {g : zG} {X : zX} {o : Nat} (ho : X o = some (.inr (6, [.null, .null, .null, .null, .null, .int 0, .int 0]))) (ho0 : z0 g ≤ o) (k p : Nat) : zN g m_X6_init ({ frames := 4, cells := 0, slots := 0, locals := 92 } : Room) [.ref o, .int (nI (k)), .int (nI (p))] X (fun rv X' => rv = none ∧ X' = zup X o (.inr (6, [.null, .null, .null, .null, .null, .int 0, .int (nI (16 * p + k))]))) := by
  refine zN.of (by decide +kernel) (Nat.le_of_ble_eq_true rfl) rfl ?_
  refine z_lv (lv' := [(0, .ref o), (1, .int (nI (k))), (2, .int (nI (p)))]) [0, 1, 2] rfl ?_
  refine z_aload_n 0 dX6_init_0 rfl ?_
  refine z_null dX6_init_1 ?_
  refine z_null dX6_init_2 ?_
  refine z_iconst (v := 0) dX6_init_3 (by decide) ?_
  refine z_iconst (v := 0) dX6_init_4 (by decide) ?_
  refine z_callI (As := [.null, .null, .int 0, .int 0]) (t_rtI ho ho0) q587 q588 q129 q589 rfl rfl nm_J12_init rfl (Nat.le_of_ble_eq_true rfl) ⟨Nat.le_of_ble_eq_true rfl, Nat.le_of_ble_eq_true rfl⟩ dX6_init_5 rfl rfl (Nat.le_of_ble_eq_true rfl) (Nat.le_of_ble_eq_true rfl) (fun v_1 X_2 hp_3 => ?_)
  obtain ⟨rfl, h7⟩ := hp_3
  replace h7 := h7.symm
  subst h7
  refine z_st (st' := []) rfl ?_
  refine z_aload_n 0 dX6_init_8 rfl ?_
  refine z_iload_n 1 dX6_init_9 rfl ?_
  refine z_bipush (v := 16) dX6_init_10 (by decide) ?_
  refine z_iload_n 2 dX6_init_12 rfl ?_
  refine z_imulN (a := 16) (b := p) dX6_init_13 ?_
  refine z_iaddN (a := k) (b := 16 * p) dX6_init_14 ?_
  refine z_eq (y := nI (k + 16 * p)) (congrArg nI (by omega)) ?_
  refine z_putF (X' := (zup X o (.inr (6, [.null, .null, .null, .null, .null, .int 0, .int (nI (k + 16 * p))])))) 6 ho rfl in_X6 (by decide) tyX6 tyX6_ok nmX6 q596 rfl rfl rfl (tyX6_ok 6 (by decide)) rfl rfl (Nat.le_of_ble_eq_true rfl) ho0 dX6_init_15 rfl ?_
  have hx_4 : (zup X o (.inr (6, [.null, .null, .null, .null, .null, .int 0, .int (nI (k + 16 * p))]))) o = some (.inr (6, [.null, .null, .null, .null, .null, .int 0, .int (nI (k + 16 * p))])) := zup_s
  exact z_vret dX6_init_18 rfl (Nat.le_of_ble_eq_true rfl) (Nat.le_of_ble_eq_true rfl) ⟨rfl, by rw [Nat.add_comm k]⟩
set_option maxHeartbeats 4000000 in
theorem rd_wrong {g : zG} {X : zX} {r x n to ki p w : Nat} {va : Int32} {vl : Option Nat} (hr : X r = some (rdr x n p to ki va w vl)) (k : Nat) : zN g m_X2_wrong ({ frames := 5, cells := 1, slots := 7, locals := 114 } : Room) [.ref r, .int (nI (k))] X (fun rv X' => ∃ q, rv = some (.ref q) ∧ X' = zup X q (.inr (6, [.null, .null, .null, .null, .null, .int 0, .int (nI (16 * p + k))])) ∧ X q = none ∧ z0 g ≤ q) := by
  refine zN.of (by decide +kernel) (Nat.le_of_ble_eq_true rfl) rfl ?_
  refine z_lv (lv' := [(0, .ref r), (1, .int (nI (k)))]) [0, 1] rfl ?_
  refine z_new (ci := 6) (fs := [.null, .null, .null, .null, .null, .int 0, .int 0]) rfl in_X6 tyX6 tyX6_ok q544 q545 q130 zd_X6 dX2_wrong_0 rfl rfl (Nat.le_of_ble_eq_true rfl) (Nat.le_of_ble_eq_true rfl) (fun n_1 hn_2 hl_3 => ?_)
  have ne_4 : r ≠ n_1 := fun q9 => by rw [← q9, hr] at hn_2; cases hn_2
  have hx_5 : (zup X n_1 (.inr (6, [.null, .null, .null, .null, .null, .int 0, .int 0]))) r = some (.inr (2, [.ref x, .int (nI (n)), .int (nI (to)), .int (nI (ki)), .int (nI (p)), .int va, .int (nI (w)), va_rf (vl)])) := zup_k ne_4 hr
  have hx_6 : (zup X n_1 (.inr (6, [.null, .null, .null, .null, .null, .int 0, .int 0]))) n_1 = some (.inr (6, [.null, .null, .null, .null, .null, .int 0, .int 0])) := zup_s
  refine z_dup dX2_wrong_3 rfl ?_
  refine z_iload_n 1 dX2_wrong_4 rfl ?_
  refine z_aload_n 0 dX2_wrong_5 rfl ?_
  refine z_get (v := .int (nI (p))) 4 hx_5 rfl in_X2 (by decide) q172 rfl dX2_wrong_6 ?_
  refine z_callI (As := [.int (nI (k)), .int (nI (p))]) (rd_wrI hx_6 hl_3 k p) q584 q585 q130 q586 rfl rfl nm_X6_init rfl (Nat.le_of_ble_eq_true rfl) ⟨Nat.le_of_ble_eq_true rfl, Nat.le_of_ble_eq_true rfl⟩ dX2_wrong_9 rfl rfl (Nat.le_of_ble_eq_true rfl) (Nat.le_of_ble_eq_true rfl) (fun v_7 X_8 hp_9 => ?_)
  obtain ⟨rfl, rfl⟩ := hp_9
  refine z_st (st' := [.ref n_1]) rfl ?_
  exact z_aret dX2_wrong_12 rfl (Or.inl ⟨_, rfl⟩) (Or.inr ⟨_, rfl⟩) (Nat.le_of_ble_eq_true rfl) (Nat.le_of_ble_eq_true rfl) ⟨n_1, rfl, zup_zup, hn_2, hl_3⟩
