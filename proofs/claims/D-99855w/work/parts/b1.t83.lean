/-! THE LAW'S OWN rests. Printed by t83.py -/
set_option maxRecDepth 100000
set_option maxHeartbeats 4000000 in
theorem c_rests0 {g : zG} {X : zX} (hst : g.1.stackTraces = false) {x out : Nat} {fs : List Value} {f : Nat → Int64} (p0 p1 p2 p3 : Int32) (hx : X x = some (.inr (1, fs))) (hout : X out = some (.inl (zar g 2, 1, .inr (.inl f)))) (hl0 : z0 g ≤ out) : zNH g m_X0_rests ({ frames := 8, cells := 2, slots := 12, locals := 138 } : Room) [.ref x, .int p0, .int p1, .int p2, .int p3, .ref out] X (fun rv X' => ((s_rest p0 p1 p2 p3).1 = true ∧ rv = some (.int 0) ∧ X' = zup X out (.inl (zar g 2, 1, .inr (.inl (vp_updL f 0 (s_rest p0 p1 p2 p3).2.toInt64))))) ∨ ((s_rest p0 p1 p2 p3).1 = false ∧ rv = some (.int 1) ∧ X' = X)) := by
  refine zNH.of (by decide +kernel) (Nat.le_of_ble_eq_true rfl) ?_
  refine z_lv (lv' := [(0, .ref x), (1, .int p0), (2, .int p1), (3, .int p2), (4, .int p3), (5, .ref out)]) [0, 1, 2, 3, 4, 5] rfl ?_
  refine z_aload 5 dX0_rests_0 rfl ?_
  refine z_iconst (v := 0) dX0_rests_2 (by decide) ?_
  refine z_aload_n 0 dX0_rests_3 rfl ?_
  refine z_iload_n 1 dX0_rests_4 rfl ?_
  refine z_iload_n 2 dX0_rests_5 rfl ?_
  refine z_iload_n 3 dX0_rests_6 rfl ?_
  refine z_iload 4 dX0_rests_7 rfl ?_
  refine z_callVc (As := [.int p0, .int p1, .int p2, .int p3]) (c_rests hst x p0 p1 p2 p3) q1487 q1488 q1489 q112 q1490 nm_X1_rests hx rfl rfl rfl (Nat.le_of_ble_eq_true rfl) ⟨Nat.le_of_ble_eq_true rfl, Nat.le_of_ble_eq_true rfl⟩ dX0_rests_9 rfl rfl (Nat.le_of_ble_eq_true rfl) (Nat.le_of_ble_eq_true rfl) (name := "java/util/NoSuchElementException") rfl (by decide) (by decide) q1486 (fun q9 E X9 hp => ?_) (fun v9 X9 hp => ?_)
  · obtain ⟨hno, rfl, h7⟩ := hp
    replace h7 := h7.symm
    subst h7
    refine ⟨q1496, ?_⟩
    refine z_astore (lv' := [(6, .ref q9), (0, .ref x), (1, .int p0), (2, .int p1), (3, .int p2), (4, .int p3), (5, .ref out)]) dX0_rests_17 (by decide) rfl ?_
    refine z_iconst (v := 1) dX0_rests_19 (by decide) ?_
    exact z_iret dX0_rests_20 rfl (Nat.le_of_ble_eq_true rfl) (Nat.le_of_ble_eq_true rfl) (Or.inr ⟨hno, rfl, rfl⟩)
  · obtain ⟨hok, rfl, h7⟩ := hp
    replace h7 := h7.symm
    subst h7
    refine z_st (st' := [.int ((s_rest p0 p1 p2 p3).2), .int 0, .ref out]) rfl ?_
    refine z_i2l (v := ((s_rest p0 p1 p2 p3).2).toInt64) dX0_rests_12 rfl ?_
    refine z_last (X' := (zup X out (.inl (zar g 2, 1, .inr (.inl (vp_updL f 0 (((s_rest p0 p1 p2 p3).2).toInt64))))))) 0 hout rfl (by omega) (by decide) hl0 dX0_rests_13 rfl ?_
    refine z_goto 21 dX0_rests_14 (by decide) ?_
    refine z_iconst (v := 0) dX0_rests_21 (by decide) ?_
    exact z_iret dX0_rests_22 rfl (Nat.le_of_ble_eq_true rfl) (Nat.le_of_ble_eq_true rfl) (Or.inl ⟨hok, rfl, rfl⟩)
