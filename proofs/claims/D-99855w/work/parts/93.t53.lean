/-! THE LIBRARY: the lowest bit. Printed by t53.py -/
set_option maxRecDepth 100000
theorem s_newly_64 {wv : Int32 → Int32 → Int32 → Int32 → Int32} {vs ds : Nat → Int32} {nh nd : Nat} {own : Nat → Nat} {now : Nat} {σ : Nat → Int32} : ∀ n, n ≤ 6 → (∃ m, m < 2 ^ n ∧ (s_newly wv vs ds nh nd own now σ n).2.1 = nI m) ∧ ∃ m, m < 2 ^ n ∧ (s_newly wv vs ds nh nd own now σ n).2.2 = nI m
  | 0, _ => ⟨⟨0, by decide, rfl⟩, ⟨0, by decide, rfl⟩⟩
  | n + 1, hn => by
    obtain ⟨⟨m, hm, e⟩, ⟨m2, hm2, e2⟩⟩ := s_newly_64 (wv := wv) (vs := vs) (ds := ds) (nh := nh) (nd := nd) (own := own) (now := now) (σ := σ) n (by omega)
    have hp : 2 ^ (n + 1) = 2 ^ n + 2 ^ n := by rw [Nat.pow_succ]; omega
    unfold s_newly
    split
    · unfold s_comes
      split
      · refine ⟨⟨m, by omega, e⟩, ⟨m2 + 2 ^ n, by omega, ?_⟩⟩
        show (s_newly wv vs ds nh nd own now σ n).2.2 ||| s_bit n = _
        rw [e2]
        exact s_or_bit n (by omega) m2 hm2
      · refine ⟨⟨m + 2 ^ n, by omega, ?_⟩, ⟨m2, by omega, e2⟩⟩
        show (s_newly wv vs ds nh nd own now σ n).2.1 ||| s_bit n = _
        rw [e]
        exact s_or_bit n (by omega) m hm
    · exact ⟨⟨m, by omega, e⟩, ⟨m2, by omega, e2⟩⟩
theorem s_p64 {n m : Nat} (hn : n ≤ 6) (h : m < 2 ^ n) : m < 64 := Nat.lt_of_lt_of_le h (Nat.pow_le_pow_right (by decide) hn : 2 ^ n ≤ 2 ^ 6)
theorem s_off_64 {wv : Int32 → Int32 → Int32 → Int32 → Int32} {vs ds : Nat → Int32} {nh nd : Nat} {own : Nat → Nat} {now : Nat} {σ : Nat → Int32} (h : nd ≤ 6) : ∃ m, m < 64 ∧ (s_pass wv vs ds nh nd own now σ).2.2 = nI m :=
  match (s_newly_64 (wv := wv) (vs := vs) (ds := ds) (nh := nh) (nd := nd) (own := own) (now := now + 1) (σ := s_stay vs (zs1 σ 0 (nI (now + 1))) nd) nd h).2 with
  | ⟨m, hm, e⟩ => ⟨m, s_p64 h hm, e⟩
theorem s_came_64 {wv : Int32 → Int32 → Int32 → Int32 → Int32} {vs ds : Nat → Int32} {nh nd : Nat} {own : Nat → Nat} {now : Nat} {σ : Nat → Int32} (h : nd ≤ 6) : ∃ m, m < 64 ∧ (s_pass wv vs ds nh nd own now σ).2.1 = nI m :=
  match (s_newly_64 (wv := wv) (vs := vs) (ds := ds) (nh := nh) (nd := nd) (own := own) (now := now + 1) (σ := s_stay vs (zs1 σ 0 (nI (now + 1))) nd) nd h).1 with
  | ⟨m, hm, e⟩ => ⟨m, s_p64 h hm, e⟩
theorem s_ntz : ∀ m, m < 64 → m ≠ 0 → ∃ k, k < 6 ∧ (nI m ^^^ zm1) &&& (nI m - 1) = nI (2 ^ k - 1) ∧ s_low (nI m) = nI k := by decide +kernel
set_option maxHeartbeats 4000000 in
theorem t_ntz {g : zG} {X : zX} (m : Nat) (hm : m < 64) (hm0 : m ≠ 0) : zN g m_J17_numberOfTrailingZeros ({ frames := 0, cells := 0, slots := 0, locals := 0 } : Room) [.int (nI (m))] X (fun rv X' => rv = some (.int (s_low (nI m))) ∧ X' = X) := by
  refine zN.of (by decide +kernel) (Nat.le_of_ble_eq_true rfl) rfl ?_
  refine z_lv (lv' := [(0, .int (nI (m)))]) [0] rfl ?_
  refine z_iload_n 0 dJ17_numberOfTrailingZeros_0 rfl ?_
  refine z_iconst (v := zm1) dJ17_numberOfTrailingZeros_1 (by decide) ?_
  refine z_ixor dJ17_numberOfTrailingZeros_2 ?_
  refine z_iload_n 0 dJ17_numberOfTrailingZeros_3 rfl ?_
  refine z_iconst (v := 1) dJ17_numberOfTrailingZeros_4 (by decide) ?_
  refine z_isub dJ17_numberOfTrailingZeros_5 ?_
  refine z_iand dJ17_numberOfTrailingZeros_6 ?_
  obtain ⟨x_1, ex_1⟩ : ∃ y : Int32, (((nI (m)) ^^^ zm1) &&& ((nI (m)) - 1)) = y := ⟨_, rfl⟩
  refine z_eq ex_1 ?_
  refine z_istore_n (lv' := [(0, .int x_1)]) dJ17_numberOfTrailingZeros_7 rfl (by decide) rfl ?_
  obtain ⟨k9, hk9, e9, e8⟩ := s_ntz m hm hm0
  rcases (by omega : k9 = 0 ∨ k9 = 1 ∨ k9 = 2 ∨ k9 = 3 ∨ k9 = 4 ∨ k9 = 5) with rfl | rfl | rfl | rfl | rfl | rfl
  · skip
    refine z_lv (lv' := [(0, .int 0)]) [0] (by (try subst ex_1); rw [e9]; rfl) ?_
    refine z_iload_n 0 dJ17_numberOfTrailingZeros_8 rfl ?_
    refine z_if_gt 17 dJ17_numberOfTrailingZeros_9 (by decide) (fun h_ => absurd h_ (by decide)) (fun h_ => ?_)
    refine z_iload_n 0 dJ17_numberOfTrailingZeros_12 rfl ?_
    refine z_bipush (v := 32) dJ17_numberOfTrailingZeros_13 (by decide) ?_
    refine z_iand dJ17_numberOfTrailingZeros_15 ?_
    refine z_eq (y := 0) (by decide) ?_
    exact z_iret dJ17_numberOfTrailingZeros_16 rfl (Nat.le_of_ble_eq_true rfl) (Nat.le_of_ble_eq_true rfl) ⟨congrArg some (congrArg Value.int e8.symm), rfl⟩
  · skip
    refine z_lv (lv' := [(0, .int 1)]) [0] (by (try subst ex_1); rw [e9]; rfl) ?_
    refine z_iload_n 0 dJ17_numberOfTrailingZeros_8 rfl ?_
    refine z_if_gt 17 dJ17_numberOfTrailingZeros_9 (by decide) (fun h_ => ?_) (fun h_ => absurd h_ (by decide))
    refine z_iconst (v := 1) dJ17_numberOfTrailingZeros_17 (by decide) ?_
    refine z_istore_n (lv' := [(1, .int 1), (0, .int 1)]) dJ17_numberOfTrailingZeros_18 rfl (by decide) rfl ?_
    refine z_iload_n 1 dJ17_numberOfTrailingZeros_19 rfl ?_
    refine z_ldcw q1344 dJ17_numberOfTrailingZeros_20 ?_
    refine z_icmp_leN (a := 1) (b := 65536) 34 (by decide) (by decide) dJ17_numberOfTrailingZeros_23 (by decide) (fun h_ => ?_) (fun h_ => absurd h_ (by decide))
    refine z_iload_n 1 dJ17_numberOfTrailingZeros_34 rfl ?_
    refine z_sipush (v := 256) dJ17_numberOfTrailingZeros_35 (by decide) ?_
    refine z_icmp_leN (a := 1) (b := 256) 49 (by decide) (by decide) dJ17_numberOfTrailingZeros_38 (by decide) (fun h_ => ?_) (fun h_ => absurd h_ (by decide))
    refine z_iload_n 1 dJ17_numberOfTrailingZeros_49 rfl ?_
    refine z_bipush (v := 16) dJ17_numberOfTrailingZeros_50 (by decide) ?_
    refine z_icmp_leN (a := 1) (b := 16) 62 (by decide) (by decide) dJ17_numberOfTrailingZeros_52 (by decide) (fun h_ => ?_) (fun h_ => absurd h_ (by decide))
    refine z_iload_n 1 dJ17_numberOfTrailingZeros_62 rfl ?_
    refine z_iconst (v := 4) dJ17_numberOfTrailingZeros_63 (by decide) ?_
    refine z_icmp_leN (a := 1) (b := 4) 74 (by decide) (by decide) dJ17_numberOfTrailingZeros_64 (by decide) (fun h_ => ?_) (fun h_ => absurd h_ (by decide))
    refine z_iload_n 0 dJ17_numberOfTrailingZeros_74 rfl ?_
    refine z_iload_n 1 dJ17_numberOfTrailingZeros_75 rfl ?_
    refine z_iconst (v := 1) dJ17_numberOfTrailingZeros_76 (by decide) ?_
    refine z_iushr dJ17_numberOfTrailingZeros_77 rfl ?_
    refine z_eq (y := 0) (by decide) ?_
    refine z_iaddN (a := 1) (b := 0) dJ17_numberOfTrailingZeros_78 ?_
    refine z_eq (y := 1) (by decide) ?_
    exact z_iret dJ17_numberOfTrailingZeros_79 rfl (Nat.le_of_ble_eq_true rfl) (Nat.le_of_ble_eq_true rfl) ⟨congrArg some (congrArg Value.int e8.symm), rfl⟩
  · skip
    refine z_lv (lv' := [(0, .int 3)]) [0] (by (try subst ex_1); rw [e9]; rfl) ?_
    refine z_iload_n 0 dJ17_numberOfTrailingZeros_8 rfl ?_
    refine z_if_gt 17 dJ17_numberOfTrailingZeros_9 (by decide) (fun h_ => ?_) (fun h_ => absurd h_ (by decide))
    refine z_iconst (v := 1) dJ17_numberOfTrailingZeros_17 (by decide) ?_
    refine z_istore_n (lv' := [(1, .int 1), (0, .int 3)]) dJ17_numberOfTrailingZeros_18 rfl (by decide) rfl ?_
    refine z_iload_n 1 dJ17_numberOfTrailingZeros_19 rfl ?_
    refine z_ldcw q1344 dJ17_numberOfTrailingZeros_20 ?_
    refine z_icmp_leN (a := 3) (b := 65536) 34 (by decide) (by decide) dJ17_numberOfTrailingZeros_23 (by decide) (fun h_ => ?_) (fun h_ => absurd h_ (by decide))
    refine z_iload_n 1 dJ17_numberOfTrailingZeros_34 rfl ?_
    refine z_sipush (v := 256) dJ17_numberOfTrailingZeros_35 (by decide) ?_
    refine z_icmp_leN (a := 3) (b := 256) 49 (by decide) (by decide) dJ17_numberOfTrailingZeros_38 (by decide) (fun h_ => ?_) (fun h_ => absurd h_ (by decide))
    refine z_iload_n 1 dJ17_numberOfTrailingZeros_49 rfl ?_
    refine z_bipush (v := 16) dJ17_numberOfTrailingZeros_50 (by decide) ?_
    refine z_icmp_leN (a := 3) (b := 16) 62 (by decide) (by decide) dJ17_numberOfTrailingZeros_52 (by decide) (fun h_ => ?_) (fun h_ => absurd h_ (by decide))
    refine z_iload_n 1 dJ17_numberOfTrailingZeros_62 rfl ?_
    refine z_iconst (v := 4) dJ17_numberOfTrailingZeros_63 (by decide) ?_
    refine z_icmp_leN (a := 3) (b := 4) 74 (by decide) (by decide) dJ17_numberOfTrailingZeros_64 (by decide) (fun h_ => ?_) (fun h_ => absurd h_ (by decide))
    refine z_iload_n 0 dJ17_numberOfTrailingZeros_74 rfl ?_
    refine z_iload_n 1 dJ17_numberOfTrailingZeros_75 rfl ?_
    refine z_iconst (v := 1) dJ17_numberOfTrailingZeros_76 (by decide) ?_
    refine z_iushr dJ17_numberOfTrailingZeros_77 rfl ?_
    refine z_eq (y := 1) (by decide) ?_
    refine z_iaddN (a := 1) (b := 1) dJ17_numberOfTrailingZeros_78 ?_
    refine z_eq (y := 2) (by decide) ?_
    exact z_iret dJ17_numberOfTrailingZeros_79 rfl (Nat.le_of_ble_eq_true rfl) (Nat.le_of_ble_eq_true rfl) ⟨congrArg some (congrArg Value.int e8.symm), rfl⟩
  · skip
    refine z_lv (lv' := [(0, .int 7)]) [0] (by (try subst ex_1); rw [e9]; rfl) ?_
    refine z_iload_n 0 dJ17_numberOfTrailingZeros_8 rfl ?_
    refine z_if_gt 17 dJ17_numberOfTrailingZeros_9 (by decide) (fun h_ => ?_) (fun h_ => absurd h_ (by decide))
    refine z_iconst (v := 1) dJ17_numberOfTrailingZeros_17 (by decide) ?_
    refine z_istore_n (lv' := [(1, .int 1), (0, .int 7)]) dJ17_numberOfTrailingZeros_18 rfl (by decide) rfl ?_
    refine z_iload_n 1 dJ17_numberOfTrailingZeros_19 rfl ?_
    refine z_ldcw q1344 dJ17_numberOfTrailingZeros_20 ?_
    refine z_icmp_leN (a := 7) (b := 65536) 34 (by decide) (by decide) dJ17_numberOfTrailingZeros_23 (by decide) (fun h_ => ?_) (fun h_ => absurd h_ (by decide))
    refine z_iload_n 1 dJ17_numberOfTrailingZeros_34 rfl ?_
    refine z_sipush (v := 256) dJ17_numberOfTrailingZeros_35 (by decide) ?_
    refine z_icmp_leN (a := 7) (b := 256) 49 (by decide) (by decide) dJ17_numberOfTrailingZeros_38 (by decide) (fun h_ => ?_) (fun h_ => absurd h_ (by decide))
    refine z_iload_n 1 dJ17_numberOfTrailingZeros_49 rfl ?_
    refine z_bipush (v := 16) dJ17_numberOfTrailingZeros_50 (by decide) ?_
    refine z_icmp_leN (a := 7) (b := 16) 62 (by decide) (by decide) dJ17_numberOfTrailingZeros_52 (by decide) (fun h_ => ?_) (fun h_ => absurd h_ (by decide))
    refine z_iload_n 1 dJ17_numberOfTrailingZeros_62 rfl ?_
    refine z_iconst (v := 4) dJ17_numberOfTrailingZeros_63 (by decide) ?_
    refine z_icmp_leN (a := 7) (b := 4) 74 (by decide) (by decide) dJ17_numberOfTrailingZeros_64 (by decide) (fun h_ => absurd h_ (by decide)) (fun h_ => ?_)
    refine z_iinc (v := 3) (lv' := [(1, .int 3), (0, .int 7)]) 0 dJ17_numberOfTrailingZeros_67 rfl (by decide) (by decide) rfl ?_
    refine z_iload_n 1 dJ17_numberOfTrailingZeros_70 rfl ?_
    refine z_iconst (v := 2) dJ17_numberOfTrailingZeros_71 (by decide) ?_
    refine z_iushr dJ17_numberOfTrailingZeros_72 rfl ?_
    refine z_eq (y := 1) (by decide) ?_
    refine z_istore_n (lv' := [(0, .int 1), (1, .int 3)]) dJ17_numberOfTrailingZeros_73 rfl (by decide) rfl ?_
    refine z_iload_n 1 dJ17_numberOfTrailingZeros_74 rfl ?_
    refine z_iload_n 0 dJ17_numberOfTrailingZeros_75 rfl ?_
    refine z_iconst (v := 1) dJ17_numberOfTrailingZeros_76 (by decide) ?_
    refine z_iushr dJ17_numberOfTrailingZeros_77 rfl ?_
    refine z_eq (y := 0) (by decide) ?_
    refine z_iaddN (a := 3) (b := 0) dJ17_numberOfTrailingZeros_78 ?_
    refine z_eq (y := 3) (by decide) ?_
    exact z_iret dJ17_numberOfTrailingZeros_79 rfl (Nat.le_of_ble_eq_true rfl) (Nat.le_of_ble_eq_true rfl) ⟨congrArg some (congrArg Value.int e8.symm), rfl⟩
  · skip
    refine z_lv (lv' := [(0, .int 15)]) [0] (by (try subst ex_1); rw [e9]; rfl) ?_
    refine z_iload_n 0 dJ17_numberOfTrailingZeros_8 rfl ?_
    refine z_if_gt 17 dJ17_numberOfTrailingZeros_9 (by decide) (fun h_ => ?_) (fun h_ => absurd h_ (by decide))
    refine z_iconst (v := 1) dJ17_numberOfTrailingZeros_17 (by decide) ?_
    refine z_istore_n (lv' := [(1, .int 1), (0, .int 15)]) dJ17_numberOfTrailingZeros_18 rfl (by decide) rfl ?_
    refine z_iload_n 1 dJ17_numberOfTrailingZeros_19 rfl ?_
    refine z_ldcw q1344 dJ17_numberOfTrailingZeros_20 ?_
    refine z_icmp_leN (a := 15) (b := 65536) 34 (by decide) (by decide) dJ17_numberOfTrailingZeros_23 (by decide) (fun h_ => ?_) (fun h_ => absurd h_ (by decide))
    refine z_iload_n 1 dJ17_numberOfTrailingZeros_34 rfl ?_
    refine z_sipush (v := 256) dJ17_numberOfTrailingZeros_35 (by decide) ?_
    refine z_icmp_leN (a := 15) (b := 256) 49 (by decide) (by decide) dJ17_numberOfTrailingZeros_38 (by decide) (fun h_ => ?_) (fun h_ => absurd h_ (by decide))
    refine z_iload_n 1 dJ17_numberOfTrailingZeros_49 rfl ?_
    refine z_bipush (v := 16) dJ17_numberOfTrailingZeros_50 (by decide) ?_
    refine z_icmp_leN (a := 15) (b := 16) 62 (by decide) (by decide) dJ17_numberOfTrailingZeros_52 (by decide) (fun h_ => ?_) (fun h_ => absurd h_ (by decide))
    refine z_iload_n 1 dJ17_numberOfTrailingZeros_62 rfl ?_
    refine z_iconst (v := 4) dJ17_numberOfTrailingZeros_63 (by decide) ?_
    refine z_icmp_leN (a := 15) (b := 4) 74 (by decide) (by decide) dJ17_numberOfTrailingZeros_64 (by decide) (fun h_ => absurd h_ (by decide)) (fun h_ => ?_)
    refine z_iinc (v := 3) (lv' := [(1, .int 3), (0, .int 15)]) 0 dJ17_numberOfTrailingZeros_67 rfl (by decide) (by decide) rfl ?_
    refine z_iload_n 1 dJ17_numberOfTrailingZeros_70 rfl ?_
    refine z_iconst (v := 2) dJ17_numberOfTrailingZeros_71 (by decide) ?_
    refine z_iushr dJ17_numberOfTrailingZeros_72 rfl ?_
    refine z_eq (y := 3) (by decide) ?_
    refine z_istore_n (lv' := [(0, .int 3), (1, .int 3)]) dJ17_numberOfTrailingZeros_73 rfl (by decide) rfl ?_
    refine z_iload_n 1 dJ17_numberOfTrailingZeros_74 rfl ?_
    refine z_iload_n 0 dJ17_numberOfTrailingZeros_75 rfl ?_
    refine z_iconst (v := 1) dJ17_numberOfTrailingZeros_76 (by decide) ?_
    refine z_iushr dJ17_numberOfTrailingZeros_77 rfl ?_
    refine z_eq (y := 1) (by decide) ?_
    refine z_iaddN (a := 3) (b := 1) dJ17_numberOfTrailingZeros_78 ?_
    refine z_eq (y := 4) (by decide) ?_
    exact z_iret dJ17_numberOfTrailingZeros_79 rfl (Nat.le_of_ble_eq_true rfl) (Nat.le_of_ble_eq_true rfl) ⟨congrArg some (congrArg Value.int e8.symm), rfl⟩
  · skip
    refine z_lv (lv' := [(0, .int 31)]) [0] (by (try subst ex_1); rw [e9]; rfl) ?_
    refine z_iload_n 0 dJ17_numberOfTrailingZeros_8 rfl ?_
    refine z_if_gt 17 dJ17_numberOfTrailingZeros_9 (by decide) (fun h_ => ?_) (fun h_ => absurd h_ (by decide))
    refine z_iconst (v := 1) dJ17_numberOfTrailingZeros_17 (by decide) ?_
    refine z_istore_n (lv' := [(1, .int 1), (0, .int 31)]) dJ17_numberOfTrailingZeros_18 rfl (by decide) rfl ?_
    refine z_iload_n 1 dJ17_numberOfTrailingZeros_19 rfl ?_
    refine z_ldcw q1344 dJ17_numberOfTrailingZeros_20 ?_
    refine z_icmp_leN (a := 31) (b := 65536) 34 (by decide) (by decide) dJ17_numberOfTrailingZeros_23 (by decide) (fun h_ => ?_) (fun h_ => absurd h_ (by decide))
    refine z_iload_n 1 dJ17_numberOfTrailingZeros_34 rfl ?_
    refine z_sipush (v := 256) dJ17_numberOfTrailingZeros_35 (by decide) ?_
    refine z_icmp_leN (a := 31) (b := 256) 49 (by decide) (by decide) dJ17_numberOfTrailingZeros_38 (by decide) (fun h_ => ?_) (fun h_ => absurd h_ (by decide))
    refine z_iload_n 1 dJ17_numberOfTrailingZeros_49 rfl ?_
    refine z_bipush (v := 16) dJ17_numberOfTrailingZeros_50 (by decide) ?_
    refine z_icmp_leN (a := 31) (b := 16) 62 (by decide) (by decide) dJ17_numberOfTrailingZeros_52 (by decide) (fun h_ => absurd h_ (by decide)) (fun h_ => ?_)
    refine z_iinc (v := 5) (lv' := [(1, .int 5), (0, .int 31)]) 0 dJ17_numberOfTrailingZeros_55 rfl (by decide) (by decide) rfl ?_
    refine z_iload_n 1 dJ17_numberOfTrailingZeros_58 rfl ?_
    refine z_iconst (v := 4) dJ17_numberOfTrailingZeros_59 (by decide) ?_
    refine z_iushr dJ17_numberOfTrailingZeros_60 rfl ?_
    refine z_eq (y := 1) (by decide) ?_
    refine z_istore_n (lv' := [(0, .int 1), (1, .int 5)]) dJ17_numberOfTrailingZeros_61 rfl (by decide) rfl ?_
    refine z_iload_n 0 dJ17_numberOfTrailingZeros_62 rfl ?_
    refine z_iconst (v := 4) dJ17_numberOfTrailingZeros_63 (by decide) ?_
    refine z_icmp_leN (a := 1) (b := 4) 74 (by decide) (by decide) dJ17_numberOfTrailingZeros_64 (by decide) (fun h_ => ?_) (fun h_ => absurd h_ (by decide))
    refine z_iload_n 1 dJ17_numberOfTrailingZeros_74 rfl ?_
    refine z_iload_n 0 dJ17_numberOfTrailingZeros_75 rfl ?_
    refine z_iconst (v := 1) dJ17_numberOfTrailingZeros_76 (by decide) ?_
    refine z_iushr dJ17_numberOfTrailingZeros_77 rfl ?_
    refine z_eq (y := 0) (by decide) ?_
    refine z_iaddN (a := 5) (b := 0) dJ17_numberOfTrailingZeros_78 ?_
    refine z_eq (y := 5) (by decide) ?_
    exact z_iret dJ17_numberOfTrailingZeros_79 rfl (Nat.le_of_ble_eq_true rfl) (Nat.le_of_ble_eq_true rfl) ⟨congrArg some (congrArg Value.int e8.symm), rfl⟩
