/-! THE LIBRARY: equal strings, bits. Printed by t41.py -/
set_option maxRecDepth 100000
set_option maxHeartbeats 4000000 in
theorem t_eqS1 {g : zG} {X : zX} {o b : Nat} {hs hz : Int32} (ho : X o = some (.inr (24, [.ref b, .int 0, .int hs, .int hz]))) : zN g m_J5_equals ({ frames := 1, cells := 0, slots := 0, locals := 22 } : Room) [.ref o, .ref o] X (fun rv X' => rv = some (.int 1) ∧ X' = X) := by
  refine zN.of (by decide +kernel) (Nat.le_of_ble_eq_true rfl) rfl ?_
  refine z_lv (lv' := [(0, .ref o), (1, .ref o)]) [0, 1] rfl ?_
  refine z_aload_n 0 dJ5_equals_0 rfl ?_
  refine z_aload_n 1 dJ5_equals_1 rfl ?_
  refine z_acmp_ne (rx := (some o)) (ry := (some o)) 7 dJ5_equals_2 (by decide) (fun h_ => absurd rfl h_) (fun h_ => ?_)
  refine z_iconst (v := 1) dJ5_equals_5 (by decide) ?_
  exact z_zret dJ5_equals_6 rfl (by first | rfl | decide | exact zb_nar _) (Nat.le_of_ble_eq_true rfl) (Nat.le_of_ble_eq_true rfl) ⟨rfl, rfl⟩
theorem t_eqS0 {g : zG} {X : zX} {o b n b2 n2 : Nat} {hs hz hs2 hz2 : Int32} {f h : Nat → Int32} (ho : X o = some (.inr (24, [.ref b, .int 0, .int hs, .int hz]))) (hb : X b = some (.inl (zar g 1, n, .inl f))) (hn : n < 2 ^ 31) (ho2 : X o = some (.inr (24, [.ref b2, .int 0, .int hs2, .int hz2]))) (hb2 : X b2 = some (.inl (zar g 1, n2, .inl h))) : zN g m_J5_equals ({ frames := 1, cells := 0, slots := 0, locals := 22 } : Room) [.ref o, .ref o] X (fun rv X' => rv = some (.int (zb (decide (n = n2) && s_eqb f h n))) ∧ X' = X) := by
  have e := ho.symm.trans ho2
  cases e
  have e := hb.symm.trans hb2
  have e1 : n = n2 := by have e9 := Option.some.inj e; injection e9 with e9; exact congrArg (fun z => z.2.1) e9
  have e2 : f = h := by have e9 := Option.some.inj e; injection e9 with e9; have e8 := congrArg (fun z => z.2.2) e9; injection e8
  subst e1
  subst e2
  rw [show zb (decide (n = n) && s_eqb f f n) = 1 from zb_t (by rw [decide_eq_true rfl, (s_eqb_i n).mpr (fun k _ => rfl)]; rfl)]
  exact t_eqS1 ho
set_option maxHeartbeats 4000000 in
theorem t_eqB {g : zG} {X : zX} {b b2 n n2 : Nat} {f h : Nat → Int32} (hb : X b = some (.inl (zar g 1, n, .inl f))) (hb2 : X b2 = some (.inl (zar g 1, n2, .inl h))) (hn : n < 2 ^ 31) (hn2 : n2 < 2 ^ 31)  : zN g m_J6_equals ({ frames := 0, cells := 0, slots := 0, locals := 0 } : Room) [.ref b, .ref b2] X (fun rv X' => rv = some (.int (zb (decide (n = n2) && s_eqb f h n))) ∧ X' = X) := by
  refine zN.of (by decide +kernel) (Nat.le_of_ble_eq_true rfl) rfl ?_
  refine z_lv (lv' := [(0, .ref b), (1, .ref b2)]) [0, 1] rfl ?_
  refine z_aload_n 0 dJ6_equals_0 rfl ?_
  refine z_alen (ti := 1) hb rfl dJ6_equals_1 ?_
  refine z_aload_n 1 dJ6_equals_2 rfl ?_
  refine z_alen (ti := 1) hb2 rfl dJ6_equals_3 ?_
  refine z_icmp_neN (a := n) (b := n2) 34 (by omega) (by omega) dJ6_equals_4 (by decide) (fun c_1 => ?_) (fun c_1 => ?_)
  · -- n ≠ n2
    refine z_iconst (v := 0) dJ6_equals_34 (by decide) ?_
    exact z_zret dJ6_equals_35 rfl (by first | rfl | decide | exact zb_nar _) (Nat.le_of_ble_eq_true rfl) (Nat.le_of_ble_eq_true rfl) ⟨congrArg some (congrArg Value.int (show 0 = zb (decide (n = n2) && s_eqb f h n) by rw [decide_eq_false c_1]; rfl)), rfl⟩
  · -- n = n2
    refine z_iconst (v := 0) dJ6_equals_7 (by decide) ?_
    refine z_istore_n (lv' := [(2, .int 0), (0, .ref b), (1, .ref b2)]) dJ6_equals_8 rfl (by decide) rfl ?_
    have loop_6 : ∀ (q_3 i_2 : Nat), i_2 + q_3 = n → 0 ≤ i_2 → s_eqb f h i_2 = true → zZ g m_J6_equals (fun rv X' => rv = some (.int (zb (decide (n = n2) && s_eqb f h n))) ∧ X' = X, zno, ({ frames := 0, cells := 0, slots := 0, locals := 0 } : Room)) 0 0 X 9 [(0, .ref b), (1, .ref b2), (2, .int (nI (i_2)))] [] := by
      intro q_3
      induction q_3 with
      | zero =>
        intro i_2 hb_5 lo_8  hi_7
        obtain rfl : n = i_2 := by omega
        refine z_iload_n 2 dJ6_equals_9 rfl ?_
        refine z_aload_n 0 dJ6_equals_10 rfl ?_
        refine z_alen (ti := 1) hb rfl dJ6_equals_11 ?_
        refine z_icmp_geN (a := n) (b := n) 32 (by omega) (by omega) dJ6_equals_12 (by decide) (fun c_9 => ?_) (fun c_9 => absurd c_9 (by omega))
        refine z_iconst (v := 1) dJ6_equals_32 (by decide) ?_
        exact z_zret dJ6_equals_33 rfl (by first | rfl | decide | exact zb_nar _) (Nat.le_of_ble_eq_true rfl) (Nat.le_of_ble_eq_true rfl) ⟨congrArg some (congrArg Value.int (show 1 = zb (decide (n = n2) && s_eqb f h n) by rw [decide_eq_true c_1, hi_7]; rfl)), rfl⟩
      | succ q_3 ih_4 =>
        intro i_2 hb_5 lo_8  hi_7
        refine z_iload_n 2 dJ6_equals_9 rfl ?_
        refine z_aload_n 0 dJ6_equals_10 rfl ?_
        refine z_alen (ti := 1) hb rfl dJ6_equals_11 ?_
        refine z_icmp_geN (a := i_2) (b := n) 32 (by omega) (by omega) dJ6_equals_12 (by decide) (fun c_10 => absurd c_10 (by omega)) (fun c_10 => ?_)
        refine z_aload_n 0 dJ6_equals_15 rfl ?_
        refine z_iload_n 2 dJ6_equals_16 rfl ?_
        refine z_bald i_2 hb rfl (by omega) (by omega) dJ6_equals_17 ?_
        refine z_aload_n 1 dJ6_equals_18 rfl ?_
        refine z_iload_n 2 dJ6_equals_19 rfl ?_
        refine z_bald i_2 hb2 rfl (by omega) (by omega) dJ6_equals_20 ?_
        refine z_icmp_eq 26 dJ6_equals_21 (by decide) (fun c_11 => ?_) (fun c_11 => ?_)
        · -- f i_2 = h i_2
          refine z_iinc (v := nI (i_2 + 1)) (lv' := [(2, .int (nI (i_2 + 1))), (0, .ref b), (1, .ref b2)]) 2 dJ6_equals_26 rfl (nI_1 _) (by decide) rfl ?_
          refine z_goto 9 dJ6_equals_29 (by decide) ?_
          refine z_lv (lv' := [(0, .ref b), (1, .ref b2), (2, .int (nI (i_2 + 1)))]) [1, 2, 0] rfl ?_
          exact ih_4 (i_2 + 1) (by omega) (by omega)  (by show (s_eqb f h i_2 && decide (f i_2 = h i_2)) = true; rw [hi_7, decide_eq_true c_11]; rfl)
        · -- ¬ f i_2 = h i_2
          refine z_iconst (v := 0) dJ6_equals_24 (by decide) ?_
          exact z_zret dJ6_equals_25 rfl (by first | rfl | decide | exact zb_nar _) (Nat.le_of_ble_eq_true rfl) (Nat.le_of_ble_eq_true rfl) ⟨congrArg some (congrArg Value.int (show 0 = zb (decide (n = n2) && s_eqb f h n) by rw [zb_not (fun z => c_11 ((s_eqb_i n).mp z i_2 (by omega)))]; cases decide (n = n2) <;> rfl)), rfl⟩
    refine z_lv (lv' := [(0, .ref b), (1, .ref b2), (2, .int 0)]) [1, 2, 0] rfl ?_
    exact loop_6 (n - 0) 0 (by omega) (Nat.le_refl _)  rfl
set_option maxHeartbeats 4000000 in
theorem t_eqS_ {g : zG} {X : zX} {o b n o2 b2 n2 : Nat} {hs hz hs2 hz2 : Int32} {f h : Nat → Int32} (ho : X o = some (.inr (24, [.ref b, .int 0, .int hs, .int hz]))) (hb : X b = some (.inl (zar g 1, n, .inl f))) (hn : n < 2 ^ 31) (ho2 : X o2 = some (.inr (24, [.ref b2, .int 0, .int hs2, .int hz2]))) (hb2 : X b2 = some (.inl (zar g 1, n2, .inl h))) (hn2 : n2 < 2 ^ 31) (hne : ¬ o = o2) : zN g m_J5_equals ({ frames := 1, cells := 0, slots := 0, locals := 22 } : Room) [.ref o, .ref o2] X (fun rv X' => rv = some (.int (zb (decide (n = n2) && s_eqb f h n))) ∧ X' = X) := by
  refine zN.of (by decide +kernel) (Nat.le_of_ble_eq_true rfl) rfl ?_
  refine z_lv (lv' := [(0, .ref o), (1, .ref o2)]) [0, 1] rfl ?_
  refine z_aload_n 0 dJ5_equals_0 rfl ?_
  refine z_aload_n 1 dJ5_equals_1 rfl ?_
  refine z_acmp_ne (rx := (some o)) (ry := (some o2)) 7 dJ5_equals_2 (by decide) (fun h_ => ?_) (fun h_ => absurd h_ (fun z => hne (Option.some.inj z)))
  refine z_aload_n 1 dJ5_equals_7 rfl ?_
  refine z_instS ho2 rfl q798 rfl dJ5_equals_8 ?_
  refine z_if_eq 54 dJ5_equals_11 (by decide) (fun h_ => absurd h_ (by decide)) (fun h_ => ?_)
  refine z_aload_n 1 dJ5_equals_14 rfl ?_
  refine z_castS ho2 rfl q798 rfl dJ5_equals_15 ?_
  refine z_astore_n (lv' := [(2, .ref o2), (0, .ref o), (1, .ref o2)]) dJ5_equals_18 rfl (by decide) rfl ?_
  refine z_gsC q435 dJ5_equals_19 ?_
  refine z_if_eq 36 dJ5_equals_22 (by decide) (fun h_ => absurd h_ (by decide)) (fun h_ => ?_)
  refine z_aload_n 1 dJ5_equals_25 rfl ?_
  refine z_get (v := .int 0) 1 ho rfl in_J5 (by decide) q777 rfl dJ5_equals_26 ?_
  refine z_aload_n 0 dJ5_equals_29 rfl ?_
  refine z_get (v := .int 0) 1 ho2 rfl in_J5 (by decide) q777 rfl dJ5_equals_30 ?_
  refine z_icmp_neN (a := 0) (b := 0) 54 (by decide) (by decide) dJ5_equals_33 (by decide) (fun h_ => absurd h_ (by decide)) (fun h_ => ?_)
  refine z_aload_n 1 dJ5_equals_36 rfl ?_
  refine z_get (v := .ref b) 0 ho rfl in_J5 (by decide) q776 rfl dJ5_equals_37 ?_
  refine z_aload_n 0 dJ5_equals_40 rfl ?_
  refine z_get (v := .ref b2) 0 ho2 rfl in_J5 (by decide) q776 rfl dJ5_equals_41 ?_
  refine z_callS (As := [.ref b, .ref b2]) (t_eqB hb hb2 (by omega) (by omega)) q799 q800 q123 q801 nm_J6_equals rfl (Nat.le_of_ble_eq_true rfl) ⟨Nat.le_of_ble_eq_true rfl, Nat.le_of_ble_eq_true rfl⟩ dJ5_equals_44 rfl rfl (Nat.le_of_ble_eq_true rfl) (Nat.le_of_ble_eq_true rfl) (fun v_1 X_2 hp_3 => ?_)
  obtain ⟨rfl, rfl⟩ := hp_3
  refine z_st (st' := [.int (zb (decide (n = n2) && s_eqb f h n))]) rfl ?_
  refine z_if_eqb 54 dJ5_equals_47 (by decide) (fun c_4 => ?_) (fun c_4 => ?_)
  · -- decide (n = n2) && s_eqb f h n = false
    refine z_iconst (v := 0) dJ5_equals_54 (by decide) ?_
    exact z_zret dJ5_equals_55 rfl (by first | rfl | decide | exact zb_nar _) (Nat.le_of_ble_eq_true rfl) (Nat.le_of_ble_eq_true rfl) ⟨congrArg some (congrArg Value.int (by rw [c_4]; rfl)), rfl⟩
  · -- decide (n = n2) && s_eqb f h n = true
    refine z_iconst (v := 1) dJ5_equals_50 (by decide) ?_
    refine z_goto 55 dJ5_equals_51 (by decide) ?_
    exact z_zret dJ5_equals_55 rfl (by first | rfl | decide | exact zb_nar _) (Nat.le_of_ble_eq_true rfl) (Nat.le_of_ble_eq_true rfl) ⟨congrArg some (congrArg Value.int (by rw [c_4]; rfl)), rfl⟩
theorem t_eqS {g : zG} {X : zX} {o b n o2 b2 n2 : Nat} {hs hz hs2 hz2 : Int32} {f h : Nat → Int32} (ho : X o = some (.inr (24, [.ref b, .int 0, .int hs, .int hz]))) (hb : X b = some (.inl (zar g 1, n, .inl f))) (hn : n < 2 ^ 31) (ho2 : X o2 = some (.inr (24, [.ref b2, .int 0, .int hs2, .int hz2]))) (hb2 : X b2 = some (.inl (zar g 1, n2, .inl h))) (hn2 : n2 < 2 ^ 31) : zN g m_J5_equals ({ frames := 1, cells := 0, slots := 0, locals := 22 } : Room) [.ref o, .ref o2] X (fun rv X' => rv = some (.int (zb (decide (n = n2) && s_eqb f h n))) ∧ X' = X) := by
  by_cases hne : o = o2
  · subst hne
    exact t_eqS0 ho hb hn ho2 hb2
  · exact t_eqS_ ho hb hn ho2 hb2 hn2 hne
set_option maxHeartbeats 4000000 in
theorem t_bitCount {g : zG} {X : zX} (m : Nat) (hm : m < 64) : zN g m_J17_bitCount ({ frames := 0, cells := 0, slots := 0, locals := 0 } : Room) [.int (nI (m))] X (fun rv X' => rv = some (.int (s_bits (nI m) 30)) ∧ X' = X) := by
  refine zN.of (by decide +kernel) (Nat.le_of_ble_eq_true rfl) rfl ?_
  refine z_lv (lv' := [(0, .int (nI (m)))]) [0] rfl ?_
  refine z_iload_n 0 dJ17_bitCount_0 rfl ?_
  refine z_iload_n 0 dJ17_bitCount_1 rfl ?_
  refine z_iconst (v := 1) dJ17_bitCount_2 (by decide) ?_
  refine z_iushr dJ17_bitCount_3 rfl ?_
  refine z_ldcw q1245 dJ17_bitCount_4 ?_
  refine z_iand dJ17_bitCount_7 ?_
  refine z_isub dJ17_bitCount_8 ?_
  obtain ⟨x_1, ex_1⟩ : ∃ y : Int32, ((nI (m)) - ((((nI (m)).toUInt32 >>> ((1 : Int32).toUInt32 &&& Int32.toUInt32 31)).toInt32) &&& 1431655765)) = y := ⟨_, rfl⟩
  refine z_eq ex_1 ?_
  refine z_istore_n (lv' := [(0, .int x_1)]) dJ17_bitCount_9 rfl (by decide) rfl ?_
  refine z_iload_n 0 dJ17_bitCount_10 rfl ?_
  refine z_ldcw q1246 dJ17_bitCount_11 ?_
  refine z_iand dJ17_bitCount_14 ?_
  refine z_iload_n 0 dJ17_bitCount_15 rfl ?_
  refine z_iconst (v := 2) dJ17_bitCount_16 (by decide) ?_
  refine z_iushr dJ17_bitCount_17 rfl ?_
  refine z_ldcw q1246 dJ17_bitCount_18 ?_
  refine z_iand dJ17_bitCount_21 ?_
  refine z_iadd dJ17_bitCount_22 ?_
  obtain ⟨x_2, ex_2⟩ : ∃ y : Int32, ((x_1 &&& 858993459) + (((x_1.toUInt32 >>> ((2 : Int32).toUInt32 &&& Int32.toUInt32 31)).toInt32) &&& 858993459)) = y := ⟨_, rfl⟩
  refine z_eq ex_2 ?_
  refine z_istore_n (lv' := [(0, .int x_2)]) dJ17_bitCount_23 rfl (by decide) rfl ?_
  refine z_iload_n 0 dJ17_bitCount_24 rfl ?_
  refine z_iload_n 0 dJ17_bitCount_25 rfl ?_
  refine z_iconst (v := 4) dJ17_bitCount_26 (by decide) ?_
  refine z_iushr dJ17_bitCount_27 rfl ?_
  refine z_iadd dJ17_bitCount_28 ?_
  refine z_ldcw q1247 dJ17_bitCount_29 ?_
  refine z_iand dJ17_bitCount_32 ?_
  obtain ⟨x_3, ex_3⟩ : ∃ y : Int32, ((x_2 + ((x_2.toUInt32 >>> ((4 : Int32).toUInt32 &&& Int32.toUInt32 31)).toInt32)) &&& 252645135) = y := ⟨_, rfl⟩
  refine z_eq ex_3 ?_
  refine z_istore_n (lv' := [(0, .int x_3)]) dJ17_bitCount_33 rfl (by decide) rfl ?_
  refine z_iload_n 0 dJ17_bitCount_34 rfl ?_
  refine z_iload_n 0 dJ17_bitCount_35 rfl ?_
  refine z_bipush (v := 8) dJ17_bitCount_36 (by decide) ?_
  refine z_iushr dJ17_bitCount_38 rfl ?_
  refine z_iadd dJ17_bitCount_39 ?_
  obtain ⟨x_4, ex_4⟩ : ∃ y : Int32, (x_3 + ((x_3.toUInt32 >>> ((8 : Int32).toUInt32 &&& Int32.toUInt32 31)).toInt32)) = y := ⟨_, rfl⟩
  refine z_eq ex_4 ?_
  refine z_istore_n (lv' := [(0, .int x_4)]) dJ17_bitCount_40 rfl (by decide) rfl ?_
  refine z_iload_n 0 dJ17_bitCount_41 rfl ?_
  refine z_iload_n 0 dJ17_bitCount_42 rfl ?_
  refine z_bipush (v := 16) dJ17_bitCount_43 (by decide) ?_
  refine z_iushr dJ17_bitCount_45 rfl ?_
  refine z_iadd dJ17_bitCount_46 ?_
  obtain ⟨x_5, ex_5⟩ : ∃ y : Int32, (x_4 + ((x_4.toUInt32 >>> ((16 : Int32).toUInt32 &&& Int32.toUInt32 31)).toInt32)) = y := ⟨_, rfl⟩
  refine z_eq ex_5 ?_
  refine z_istore_n (lv' := [(0, .int x_5)]) dJ17_bitCount_47 rfl (by decide) rfl ?_
  refine z_iload_n 0 dJ17_bitCount_48 rfl ?_
  refine z_bipush (v := 63) dJ17_bitCount_49 (by decide) ?_
  refine z_iand dJ17_bitCount_51 ?_
  exact z_iret dJ17_bitCount_52 rfl (Nat.le_of_ble_eq_true rfl) (Nat.le_of_ble_eq_true rfl) ⟨congrArg some (congrArg Value.int (by subst ex_5; subst ex_4; subst ex_3; subst ex_2; subst ex_1; exact s_bc m hm)), rfl⟩
