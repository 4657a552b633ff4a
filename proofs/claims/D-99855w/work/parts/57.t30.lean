/-! THE MODEL: reading expressions. Printed by t30.py -/
set_option maxRecDepth 100000
set_option maxHeartbeats 4000000 in
theorem t_emit {g : zG} {L : Nat → Nat} {I : Nat → Nat → Int32} {J : Nat → Nat → Int64} {Gb : Nat → Nat → Int32} {X : zX} (hL : tok g L) {cs : List (Nat × Int32)} {a f : Nat} (hcs : cs.length < 1100) (c : Nat) (v : Int32) : zN g m_X5_emit ({ frames := 0, cells := 0, slots := 0, locals := 0 } : Room) [.ref (L 99), .int (nI (c)), .int v] (tX g L (s_rd (s_cd I cs) a f) J Gb X) (fun rv X' => rv = none ∧ X' = (tX g L (s_rd (s_cd I (cs ++ [(c, v)])) a f) J Gb X)) := by
  refine zN.of (by decide +kernel) (Nat.le_of_ble_eq_true rfl) rfl ?_
  refine z_lv (lv' := [(0, .ref (L 99)), (1, .int (nI (c))), (2, .int v)]) [0, 1, 2] rfl ?_
  refine z_aload_n 0 dX5_emit_0 rfl ?_
  refine tz_get (v := .ref (L 11)) 11 hL (by decide) q1604 rfl dX5_emit_1 ?_
  refine z_sipush (v := 1100) dX5_emit_4 (by decide) ?_
  refine z_aload_n 0 dX5_emit_7 rfl ?_
  refine tz_get (v := .int (nI (cs.length))) 13 hL (by decide) q1606 rfl dX5_emit_8 ?_
  refine z_iaddN (a := 1100) (b := cs.length) dX5_emit_11 ?_
  refine z_eq (y := nI (cs.length + 1100)) (congrArg nI (by omega)) ?_
  refine z_iload_n 1 dX5_emit_12 rfl ?_
  refine tz_iast 11 (cs.length + 1100) hL (by decide) rfl (by show cs.length + 1100 < 2200; omega) (s_rd_a (by decide)) dX5_emit_13 ?_
  refine z_aload_n 0 dX5_emit_14 rfl ?_
  refine tz_get (v := .ref (L 12)) 12 hL (by decide) q1605 rfl dX5_emit_15 ?_
  refine z_sipush (v := 1100) dX5_emit_18 (by decide) ?_
  refine z_aload_n 0 dX5_emit_21 rfl ?_
  refine tz_get (v := .int (nI (cs.length))) 13 hL (by decide) q1606 rfl dX5_emit_22 ?_
  refine z_iaddN (a := 1100) (b := cs.length) dX5_emit_25 ?_
  refine z_eq (y := nI (cs.length + 1100)) (congrArg nI (by omega)) ?_
  refine z_iload_n 2 dX5_emit_26 rfl ?_
  refine tz_iast 12 (cs.length + 1100) hL (by decide) rfl (by show cs.length + 1100 < 2200; omega) (s_rd_a (by decide)) dX5_emit_27 ?_
  refine z_aload_n 0 dX5_emit_28 rfl ?_
  refine z_dup dX5_emit_29 rfl ?_
  refine tz_get (v := .int (nI (cs.length))) 13 hL (by decide) q1606 rfl dX5_emit_30 ?_
  refine z_iconst (v := 1) dX5_emit_33 (by decide) ?_
  refine z_iaddN (a := cs.length) (b := 1) dX5_emit_34 ?_
  refine tz_put (I' := (s_rd (zs (zs (zs (s_cd I cs) 11 (cs.length + 1100) (nI (c))) 12 (cs.length + 1100) v) 99 13 (nI (cs.length + 1))) a f)) 13 hL (by decide) q1606 (s_rd_f (by decide) (by decide)) dX5_emit_35 ?_
  exact z_vret dX5_emit_38 rfl (Nat.le_of_ble_eq_true rfl) (Nat.le_of_ble_eq_true rfl) ⟨rfl, by rw [s_cd_1]⟩
