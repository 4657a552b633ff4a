/-! LISTS made, added to. Printed by t84.py -/
set_option maxRecDepth 100000
theorem nI_shr1 : ∀ c, c < 101 → (nI c) >>> ((1 : Int32) &&& 31) = nI (c / 2) := by decide +kernel
theorem zup_self {X : zX} {a : Nat} {e : va_E} (h : X a = some e) : zup X a e = X := by
  funext q
  by_cases hq : q = a
  · rw [hq, zup_s, h]
  · rw [zup_n hq]
set_option maxHeartbeats 4000000 in
theorem t_al0 {g : zG} {X : zX} (l : Nat) : zN g m_J0_init ({ frames := 1, cells := 0, slots := 0, locals := 20 } : Room) [.ref l] X (fun rv X' => rv = none ∧ X' = X) := by
  refine zN.of (by decide +kernel) (Nat.le_of_ble_eq_true rfl) rfl ?_
  refine z_lv (lv' := [(0, .ref l)]) [0] rfl ?_
  refine z_aload_n 0 dJ0_init_0 rfl ?_
  refine z_objInit q211 q160 q161 dJ0_init_1 (Nat.le_of_ble_eq_true rfl) (Nat.le_of_ble_eq_true rfl) ?_
  exact z_vret dJ0_init_4 rfl (Nat.le_of_ble_eq_true rfl) (Nat.le_of_ble_eq_true rfl) ⟨rfl, rfl⟩
set_option maxHeartbeats 4000000 in
theorem t_al1 {g : zG} {X : zX} {l : Nat} (hl : X l = some (.inr (23, [.int 0, .null, .int 0]))) (hl0 : z0 g ≤ l)  : zN g m_J1_init ({ frames := 2, cells := 0, slots := 0, locals := 40 } : Room) [.ref l] X (fun rv X' => rv = none ∧ X' = X) := by
  refine zN.of (by decide +kernel) (Nat.le_of_ble_eq_true rfl) rfl ?_
  refine z_lv (lv' := [(0, .ref l)]) [0] rfl ?_
  refine z_aload_n 0 dJ1_init_0 rfl ?_
  refine z_callI (As := []) (t_al0 l) q208 q209 q115 q210 rfl rfl nm_J0_init rfl (Nat.le_of_ble_eq_true rfl) ⟨Nat.le_of_ble_eq_true rfl, Nat.le_of_ble_eq_true rfl⟩ dJ1_init_1 rfl rfl (Nat.le_of_ble_eq_true rfl) (Nat.le_of_ble_eq_true rfl) (fun v_1 X_2 hp_3 => ?_)
  obtain ⟨rfl, h7⟩ := hp_3
  replace h7 := h7.symm
  subst h7
  refine z_st (st' := []) rfl ?_
  refine z_aload_n 0 dJ1_init_4 rfl ?_
  refine z_iconst (v := 0) dJ1_init_5 (by decide) ?_
  refine z_put (X' := (zup X l (.inr (23, [.int 0, .null, .int 0])))) 0 hl rfl in_J2 (by decide) tyJ2 tyJ2_ok nmJ2 q218 rfl (tyJ2_ok 0 (by decide)) rfl rfl (Nat.le_of_ble_eq_true rfl) hl0 dJ1_init_6 rfl ?_
  have hx_4 : (zup X l (.inr (23, [.int 0, .null, .int 0]))) l = some (.inr (23, [.int 0, .null, .int 0])) := zup_s
  exact z_vret dJ1_init_9 rfl (Nat.le_of_ble_eq_true rfl) (Nat.le_of_ble_eq_true rfl) ⟨rfl, zup_self hl⟩
set_option maxHeartbeats 4000000 in
theorem t_alI2 {g : zG} {X : zX} {l : Nat} (hl : X l = some (.inr (23, [.int 0, .null, .int 0]))) (hl0 : z0 g ≤ l)  : zN g m_J2_init ({ frames := 3, cells := 1, slots := 4, locals := 80 } : Room) [.ref l, .int 2] X (fun rv X' => rv = none ∧ ∃ e, X' = zup (zup X e (.inl (zar g 4, 2, .inr (.inr (.inr (.inr (fun _ => none))))))) l (.inr (23, [.int 0, .ref e, .int 0])) ∧ X e = none ∧ z0 g ≤ e) := by
  refine zN.of (by decide +kernel) (Nat.le_of_ble_eq_true rfl) rfl ?_
  refine z_lv (lv' := [(0, .ref l), (1, .int 2)]) [0, 1] rfl ?_
  refine z_aload_n 0 dJ2_init_0 rfl ?_
  refine z_callI (As := []) (t_al1 hl hl0) q205 q206 q116 q207 rfl rfl nm_J1_init rfl (Nat.le_of_ble_eq_true rfl) ⟨Nat.le_of_ble_eq_true rfl, Nat.le_of_ble_eq_true rfl⟩ dJ2_init_1 rfl rfl (Nat.le_of_ble_eq_true rfl) (Nat.le_of_ble_eq_true rfl) (fun v_1 X_2 hp_3 => ?_)
  obtain ⟨rfl, h7⟩ := hp_3
  replace h7 := h7.symm
  subst h7
  refine z_st (st' := []) rfl ?_
  refine z_iload_n 1 dJ2_init_4 rfl ?_
  refine z_if_le 19 dJ2_init_5 (by decide) (fun h_ => absurd h_ (by decide)) (fun h_ => ?_)
  refine z_aload_n 0 dJ2_init_8 rfl ?_
  refine z_iload_n 1 dJ2_init_9 rfl ?_
  refine z_anew4 2 rfl (by omega) q212 dJ2_init_10 rfl rfl (Nat.le_of_ble_eq_true rfl) (Nat.le_of_ble_eq_true rfl) (fun n_4 hn_5 hl_6 => ?_)
  have ne_7 : l ≠ n_4 := fun q9 => by rw [← q9, hl] at hn_5; cases hn_5
  have hx_8 : (zup X n_4 (.inl (zar g 4, 2, .inr (.inr (.inr (.inr (fun _ => none))))))) l = some (.inr (23, [.int 0, .null, .int 0])) := zup_k ne_7 hl
  have hx_9 : (zup X n_4 (.inl (zar g 4, 2, .inr (.inr (.inr (.inr (fun _ => none))))))) n_4 = some (.inl (zar g 4, 2, .inr (.inr (.inr (.inr (fun _ => none)))))) := zup_s
  refine z_put (X' := (zup (zup X n_4 (.inl (zar g 4, 2, .inr (.inr (.inr (.inr (fun _ => none))))))) l (.inr (23, [.int 0, .ref n_4, .int 0])))) 1 hx_8 rfl in_J2 (by decide) tyJ2 tyJ2_ok nmJ2 q216 rfl (tyJ2_ok 1 (by decide)) rfl rfl (Nat.le_of_ble_eq_true rfl) hl0 dJ2_init_13 rfl ?_
  have hx_10 : (zup (zup X n_4 (.inl (zar g 4, 2, .inr (.inr (.inr (.inr (fun _ => none))))))) l (.inr (23, [.int 0, .ref n_4, .int 0]))) n_4 = some (.inl (zar g 4, 2, .inr (.inr (.inr (.inr (fun _ => none)))))) := zup_k (Ne.symm ne_7) hx_9
  have hx_11 : (zup (zup X n_4 (.inl (zar g 4, 2, .inr (.inr (.inr (.inr (fun _ => none))))))) l (.inr (23, [.int 0, .ref n_4, .int 0]))) l = some (.inr (23, [.int 0, .ref n_4, .int 0])) := zup_s
  refine z_goto 60 dJ2_init_16 (by decide) ?_
  exact z_vret dJ2_init_60 rfl (Nat.le_of_ble_eq_true rfl) (Nat.le_of_ble_eq_true rfl) ⟨rfl, n_4, rfl, hn_5, hl_6⟩
set_option maxHeartbeats 4000000 in
theorem t_alI4 {g : zG} {X : zX} {l : Nat} (hl : X l = some (.inr (23, [.int 0, .null, .int 0]))) (hl0 : z0 g ≤ l)  : zN g m_J2_init ({ frames := 3, cells := 1, slots := 4, locals := 80 } : Room) [.ref l, .int 4] X (fun rv X' => rv = none ∧ ∃ e, X' = zup (zup X e (.inl (zar g 4, 4, .inr (.inr (.inr (.inr (fun _ => none))))))) l (.inr (23, [.int 0, .ref e, .int 0])) ∧ X e = none ∧ z0 g ≤ e) := by
  refine zN.of (by decide +kernel) (Nat.le_of_ble_eq_true rfl) rfl ?_
  refine z_lv (lv' := [(0, .ref l), (1, .int 4)]) [0, 1] rfl ?_
  refine z_aload_n 0 dJ2_init_0 rfl ?_
  refine z_callI (As := []) (t_al1 hl hl0) q205 q206 q116 q207 rfl rfl nm_J1_init rfl (Nat.le_of_ble_eq_true rfl) ⟨Nat.le_of_ble_eq_true rfl, Nat.le_of_ble_eq_true rfl⟩ dJ2_init_1 rfl rfl (Nat.le_of_ble_eq_true rfl) (Nat.le_of_ble_eq_true rfl) (fun v_1 X_2 hp_3 => ?_)
  obtain ⟨rfl, h7⟩ := hp_3
  replace h7 := h7.symm
  subst h7
  refine z_st (st' := []) rfl ?_
  refine z_iload_n 1 dJ2_init_4 rfl ?_
  refine z_if_le 19 dJ2_init_5 (by decide) (fun h_ => absurd h_ (by decide)) (fun h_ => ?_)
  refine z_aload_n 0 dJ2_init_8 rfl ?_
  refine z_iload_n 1 dJ2_init_9 rfl ?_
  refine z_anew4 4 rfl (by omega) q212 dJ2_init_10 rfl rfl (Nat.le_of_ble_eq_true rfl) (Nat.le_of_ble_eq_true rfl) (fun n_4 hn_5 hl_6 => ?_)
  have ne_7 : l ≠ n_4 := fun q9 => by rw [← q9, hl] at hn_5; cases hn_5
  have hx_8 : (zup X n_4 (.inl (zar g 4, 4, .inr (.inr (.inr (.inr (fun _ => none))))))) l = some (.inr (23, [.int 0, .null, .int 0])) := zup_k ne_7 hl
  have hx_9 : (zup X n_4 (.inl (zar g 4, 4, .inr (.inr (.inr (.inr (fun _ => none))))))) n_4 = some (.inl (zar g 4, 4, .inr (.inr (.inr (.inr (fun _ => none)))))) := zup_s
  refine z_put (X' := (zup (zup X n_4 (.inl (zar g 4, 4, .inr (.inr (.inr (.inr (fun _ => none))))))) l (.inr (23, [.int 0, .ref n_4, .int 0])))) 1 hx_8 rfl in_J2 (by decide) tyJ2 tyJ2_ok nmJ2 q216 rfl (tyJ2_ok 1 (by decide)) rfl rfl (Nat.le_of_ble_eq_true rfl) hl0 dJ2_init_13 rfl ?_
  have hx_10 : (zup (zup X n_4 (.inl (zar g 4, 4, .inr (.inr (.inr (.inr (fun _ => none))))))) l (.inr (23, [.int 0, .ref n_4, .int 0]))) n_4 = some (.inl (zar g 4, 4, .inr (.inr (.inr (.inr (fun _ => none)))))) := zup_k (Ne.symm ne_7) hx_9
  have hx_11 : (zup (zup X n_4 (.inl (zar g 4, 4, .inr (.inr (.inr (.inr (fun _ => none))))))) l (.inr (23, [.int 0, .ref n_4, .int 0]))) l = some (.inr (23, [.int 0, .ref n_4, .int 0])) := zup_s
  refine z_goto 60 dJ2_init_16 (by decide) ?_
  exact z_vret dJ2_init_60 rfl (Nat.le_of_ble_eq_true rfl) (Nat.le_of_ble_eq_true rfl) ⟨rfl, n_4, rfl, hn_5, hl_6⟩
set_option maxHeartbeats 4000000 in
theorem t_alI0 {g : zG} {X : zX} {l : Nat} (hl : X l = some (.inr (23, [.int 0, .null, .int 0]))) (hl0 : z0 g ≤ l)  : zN g m_J2_init ({ frames := 3, cells := 1, slots := 4, locals := 80 } : Room) [.ref l, .int 0] X (fun rv X' => rv = none ∧ X' = zup X l (.inr (23, [.int 0, .ref (zk g 0), .int 0]))) := by
  refine zN.of (by decide +kernel) (Nat.le_of_ble_eq_true rfl) rfl ?_
  refine z_lv (lv' := [(0, .ref l), (1, .int 0)]) [0, 1] rfl ?_
  refine z_aload_n 0 dJ2_init_0 rfl ?_
  refine z_callI (As := []) (t_al1 hl hl0) q205 q206 q116 q207 rfl rfl nm_J1_init rfl (Nat.le_of_ble_eq_true rfl) ⟨Nat.le_of_ble_eq_true rfl, Nat.le_of_ble_eq_true rfl⟩ dJ2_init_1 rfl rfl (Nat.le_of_ble_eq_true rfl) (Nat.le_of_ble_eq_true rfl) (fun v_1 X_2 hp_3 => ?_)
  obtain ⟨rfl, h7⟩ := hp_3
  replace h7 := h7.symm
  subst h7
  refine z_st (st' := []) rfl ?_
  refine z_iload_n 1 dJ2_init_4 rfl ?_
  refine z_if_le 19 dJ2_init_5 (by decide) (fun h_ => ?_) (fun h_ => absurd h_ (by decide))
  refine z_iload_n 1 dJ2_init_19 rfl ?_
  refine z_if_ne 33 dJ2_init_20 (by decide) (fun h_ => absurd h_ (by decide)) (fun h_ => ?_)
  refine z_aload_n 0 dJ2_init_23 rfl ?_
  refine z_gsE q214 dJ2_init_24 ?_
  refine z_put (X' := (zup X l (.inr (23, [.int 0, .ref (zk g 0), .int 0])))) 1 hl rfl in_J2 (by decide) tyJ2 tyJ2_ok nmJ2 q216 rfl (tyJ2_ok 1 (by decide)) rfl rfl (Nat.le_of_ble_eq_true rfl) hl0 dJ2_init_27 rfl ?_
  have hx_4 : (zup X l (.inr (23, [.int 0, .ref (zk g 0), .int 0]))) l = some (.inr (23, [.int 0, .ref (zk g 0), .int 0])) := zup_s
  refine z_goto 60 dJ2_init_30 (by decide) ?_
  exact z_vret dJ2_init_60 rfl (Nat.le_of_ble_eq_true rfl) (Nat.le_of_ble_eq_true rfl) ⟨rfl, rfl⟩
set_option maxHeartbeats 4000000 in
theorem t_newLen {g : zG} {X : zX} (c q : Nat) (hc : c ≤ 60) (hq : q ≤ 100) : zN g m_J15_newLength ({ frames := 1, cells := 0, slots := 0, locals := 21 } : Room) [.int (nI (c)), .int 1, .int (nI (q))] X (fun rv X' => rv = some (.int (nI (c + (if 1 < q then q else 1)))) ∧ X' = X) := by
  refine zN.of (by decide +kernel) (Nat.le_of_ble_eq_true rfl) rfl ?_
  refine z_lv (lv' := [(0, .int (nI (c))), (1, .int 1), (2, .int (nI (q)))]) [0, 1, 2] rfl ?_
  have hq9 : (if 1 < q then q else 1) ≤ 100 ∧ 1 ≤ (if 1 < q then q else 1) := by split <;> omega
  refine z_iload_n 0 dJ15_newLength_0 rfl ?_
  refine z_iload_n 1 dJ15_newLength_1 rfl ?_
  refine z_iload_n 2 dJ15_newLength_2 rfl ?_
  refine z_mmax (v := nI ((if 1 < q then q else 1))) q677 q452 q124 q453 (Nat.le_of_ble_eq_true rfl) (Nat.le_of_ble_eq_true rfl) (Nat.le_of_ble_eq_true rfl) (Nat.le_of_ble_eq_true rfl) dJ15_newLength_3 (zmaxN (a := 1) (b := q) (by omega) (by omega)) ?_
  refine z_iaddN (a := c) (b := (if 1 < q then q else 1)) dJ15_newLength_6 ?_
  refine z_istore_n (lv' := [(3, .int (nI (c + (if 1 < q then q else 1)))), (0, .int (nI (c))), (1, .int 1), (2, .int (nI (q)))]) dJ15_newLength_7 rfl (by decide) rfl ?_
  refine z_iconst (v := 0) dJ15_newLength_8 (by decide) ?_
  refine z_iload_n 0 dJ15_newLength_9 rfl ?_
  refine z_icmp_geN (a := 0) (b := c + (if 1 < q then q else 1)) 21 (by omega) (by omega) dJ15_newLength_10 (by decide) (fun c_1 => absurd c_1 (by omega)) (fun c_1 => ?_)
  refine z_iload_n 0 dJ15_newLength_13 rfl ?_
  refine z_ldc q678 dJ15_newLength_14 ?_
  refine z_icmp_gtN (a := c + (if 1 < q then q else 1)) (b := 2147483639) 21 (by omega) (by omega) dJ15_newLength_16 (by decide) (fun c_2 => absurd c_2 (by have h9 : (if 1 < q then q else 1) ≤ 100 := (by split <;> omega); omega)) (fun c_2 => ?_)
  refine z_iload_n 0 dJ15_newLength_19 rfl ?_
  exact z_iret dJ15_newLength_20 rfl (Nat.le_of_ble_eq_true rfl) (Nat.le_of_ble_eq_true rfl) ⟨rfl, rfl⟩
set_option maxHeartbeats 4000000 in
theorem t_copy3 {g : zG} {X : zX} {e c m : Nat} {f : Nat → Option Nat} (he : X e = some (.inl (zar g 4, c, .inr (.inr (.inr (.inr f)))))) (hcm : c ≤ m) (hm : m ≤ 100) (hel : ∀ q, q < c → f q = none ∨ ∃ (y ci : Nat) (vs : List Value) (r : vw_C), f q = some y ∧ X y = some (.inr (ci, vs)) ∧ zcl[ci]? = some r ∧ Cond.castable r.1 "java/lang/Object" ∈ lw_tbl)  : zN g m_J16_copyOf_3 ({ frames := 1, cells := 1, slots := 100, locals := 60 } : Room) [.ref e, .int (nI (m)), .ref (zk g 2)] X (fun rv X' => ∃ e', rv = some (.ref e') ∧ X' = zup X e' (.inl (zar g 4, m, .inr (.inr (.inr (.inr (va_cpy f (fun _ => none) 0 0 c)))))) ∧ X e' = none ∧ z0 g ≤ e') := by
  refine zN.of (by decide +kernel) (Nat.le_of_ble_eq_true rfl) rfl ?_
  refine z_lv (lv' := [(0, .ref e), (1, .int (nI (m))), (2, .ref (zk g 2))]) [0, 1, 2] rfl ?_
  refine z_aload_n 2 dJ16_copyOf_3_0 rfl ?_
  refine z_ldcM q890 dJ16_copyOf_3_1 ?_
  refine z_acmp_ne (rx := (some (zk g 2))) (ry := (some (zk g 2))) 13 dJ16_copyOf_3_3 (by decide) (fun h_ => absurd rfl h_) (fun h_ => ?_)
  refine z_iload_n 1 dJ16_copyOf_3_6 rfl ?_
  refine z_anew4 m rfl (by omega) q891 dJ16_copyOf_3_7 rfl rfl (Nat.le_of_ble_eq_true rfl) (Nat.le_trans (show 0 + m ≤ 100 by omega) (Nat.le_of_ble_eq_true rfl)) (fun n_1 hn_2 hl_3 => ?_)
  have ne_4 : e ≠ n_1 := fun q9 => by rw [← q9, he] at hn_2; cases hn_2
  have hx_5 : (zup X n_1 (.inl (zar g 4, m, .inr (.inr (.inr (.inr (fun _ => none))))))) e = some (.inl (zar g 4, c, .inr (.inr (.inr (.inr f))))) := zup_k ne_4 he
  have hx_6 : (zup X n_1 (.inl (zar g 4, m, .inr (.inr (.inr (.inr (fun _ => none))))))) n_1 = some (.inl (zar g 4, m, .inr (.inr (.inr (.inr (fun _ => none)))))) := zup_s
  refine z_widen (k' := 1) (n' := 100) (Nat.le_refl _) (show 0 + m ≤ 100 by omega) ?_
  refine z_goto 24 dJ16_copyOf_3_10 (by decide) ?_
  refine z_astore_n (lv' := [(3, .ref n_1), (0, .ref e), (1, .int (nI (m))), (2, .ref (zk g 2))]) dJ16_copyOf_3_24 rfl (by decide) rfl ?_
  refine z_aload_n 1 dJ16_copyOf_3_25 rfl ?_
  refine z_iconst (v := 0) dJ16_copyOf_3_26 (by decide) ?_
  refine z_aload_n 0 dJ16_copyOf_3_27 rfl ?_
  refine z_iconst (v := 0) dJ16_copyOf_3_28 (by decide) ?_
  refine z_aload_n 1 dJ16_copyOf_3_29 rfl ?_
  refine z_alen (ti := 4) hx_5 rfl dJ16_copyOf_3_30 ?_
  refine z_iload_n 2 dJ16_copyOf_3_31 rfl ?_
  refine z_mmin (v := nI ((if m < c then m else c))) q693 q455 q124 q456 (Nat.le_of_ble_eq_true rfl) (Nat.le_of_ble_eq_true rfl) (Nat.le_of_ble_eq_true rfl) (Nat.le_of_ble_eq_true rfl) dJ16_copyOf_3_32 (zminN (a := c) (b := m) (by omega) (by omega)) ?_
  refine z_eq (y := nI c) (congrArg nI (if_neg (by omega))) ?_
  refine z_copyQ (X' := (zup X n_1 (.inl (zar g 4, m, .inr (.inr (.inr (.inr (va_cpy f (fun _ => none) 0 0 c)))))))) 0 0 c (hx_5) (hx_6) hl_3 (by omega) (by omega) (by omega) (by omega) (fun q hq => ?_) q694 (Nat.le_of_ble_eq_true rfl) (Nat.le_of_ble_eq_true rfl) (Nat.le_of_ble_eq_true rfl) dJ16_copyOf_3_35 zup_zup ?_
  · rw [Nat.zero_add]
    rcases hel q hq with h9 | ⟨y, ci, vs9, r, h8, h7, h6, h5⟩
    · exact Or.inl h9
    · exact Or.inr ⟨y, ci, vs9, r, h8, zup_k (fun z => by rw [z] at h7; rw [hn_2] at h7; cases h7) h7, h6, h5⟩
  refine z_aload_n 0 dJ16_copyOf_3_38 rfl ?_
  exact z_aret dJ16_copyOf_3_39 rfl (Or.inr ⟨_, rfl⟩) (Or.inr ⟨_, rfl⟩) (Nat.le_of_ble_eq_true rfl) (Nat.le_of_ble_eq_true rfl) ⟨n_1, rfl, rfl, hn_2, hl_3⟩
set_option maxHeartbeats 4000000 in
theorem t_copy2 {g : zG} {X : zX} {e c m : Nat} {f : Nat → Option Nat} (he : X e = some (.inl (zar g 4, c, .inr (.inr (.inr (.inr f)))))) (hcm : c ≤ m) (hm : m ≤ 100) (hel : ∀ q, q < c → f q = none ∨ ∃ (y ci : Nat) (vs : List Value) (r : vw_C), f q = some y ∧ X y = some (.inr (ci, vs)) ∧ zcl[ci]? = some r ∧ Cond.castable r.1 "java/lang/Object" ∈ lw_tbl)  : zN g m_J16_copyOf_2 ({ frames := 2, cells := 1, slots := 100, locals := 83 } : Room) [.ref e, .int (nI (m))] X (fun rv X' => ∃ e', rv = some (.ref e') ∧ X' = zup X e' (.inl (zar g 4, m, .inr (.inr (.inr (.inr (va_cpy f (fun _ => none) 0 0 c)))))) ∧ X e' = none ∧ z0 g ≤ e') := by
  refine zN.of (by decide +kernel) (Nat.le_of_ble_eq_true rfl) rfl ?_
  refine z_lv (lv' := [(0, .ref e), (1, .int (nI (m)))]) [0, 1] rfl ?_
  refine z_aload_n 0 dJ16_copyOf_2_0 rfl ?_
  refine z_iload_n 1 dJ16_copyOf_2_1 rfl ?_
  refine z_aload_n 0 dJ16_copyOf_2_2 rfl ?_
  refine z_getCl he q859 (Nat.le_of_ble_eq_true rfl) (Nat.le_of_ble_eq_true rfl) (Nat.le_of_ble_eq_true rfl) dJ16_copyOf_2_3 ?_
  refine z_callS (As := [.ref e, .int (nI (m)), .ref (zk g 2)]) (t_copy3 he hcm hm hel) q887 q888 q135 q889 nm_J16_copyOf_3 rfl (Nat.le_of_ble_eq_true rfl) ⟨Nat.le_of_ble_eq_true rfl, Nat.le_of_ble_eq_true rfl⟩ dJ16_copyOf_2_6 rfl rfl (Nat.le_of_ble_eq_true rfl) (Nat.le_of_ble_eq_true rfl) (fun v_1 X_2 hp_3 => ?_)
  obtain ⟨e9, rfl, hX9, hn9, hz9⟩ := hp_3
  refine z_st (st' := [.ref e9]) rfl ?_
  exact z_aret dJ16_copyOf_2_9 rfl (Or.inr ⟨_, rfl⟩) (Or.inr ⟨_, rfl⟩) (Nat.le_of_ble_eq_true rfl) (Nat.le_of_ble_eq_true rfl) ⟨e9, rfl, hX9, hn9, hz9⟩
set_option maxHeartbeats 4000000 in
theorem t_grow2 {g : zG} {X : zX} {l e c : Nat} {mc : Int32} {f : Nat → Option Nat} (hl : X l = some (.inr (23, [.int mc, .ref e, .int (nI c)]))) (hl0 : z0 g ≤ l) (he : X e = some (.inl (zar g 4, c, .inr (.inr (.inr (.inr f)))))) (hc1 : 1 ≤ c) (hc : c ≤ 60) (hel : ∀ q, q < c → f q = none ∨ ∃ (y ci : Nat) (vs : List Value) (r : vw_C), f q = some y ∧ X y = some (.inr (ci, vs)) ∧ zcl[ci]? = some r ∧ Cond.castable r.1 "java/lang/Object" ∈ lw_tbl)  : zN g m_J2_grow_2 ({ frames := 3, cells := 1, slots := 100, locals := 104 } : Room) [.ref l, .int (nI (c + 1))] X (fun rv X' => ∃ e', rv = some (.ref e') ∧ X' = zup (zup X e' (.inl (zar g 4, (c + (if 1 < c / 2 then c / 2 else 1)), .inr (.inr (.inr (.inr (va_cpy f (fun _ => none) 0 0 c))))))) l (.inr (23, [.int mc, .ref e', .int (nI c)])) ∧ X e' = none ∧ z0 g ≤ e') := by
  refine zN.of (by decide +kernel) (Nat.le_of_ble_eq_true rfl) rfl ?_
  refine z_lv (lv' := [(0, .ref l), (1, .int (nI (c + 1)))]) [0, 1] rfl ?_
  have hq9 : (if 1 < c / 2 then c / 2 else 1) ≤ 40 ∧ 1 ≤ (if 1 < c / 2 then c / 2 else 1) := by split <;> omega
  refine z_aload_n 0 dJ2_grow_2_0 rfl ?_
  refine z_get (v := .ref e) 1 hl rfl in_J2 (by decide) q216 rfl dJ2_grow_2_1 ?_
  refine z_alen (ti := 4) he rfl dJ2_grow_2_4 ?_
  refine z_istore_n (lv' := [(2, .int (nI (c))), (0, .ref l), (1, .int (nI (c + 1)))]) dJ2_grow_2_5 rfl (by decide) rfl ?_
  refine z_iload_n 0 dJ2_grow_2_6 rfl ?_
  refine z_if_gtN 20 (by omega) dJ2_grow_2_7 (by decide) (fun c_1 => ?_) (fun c_1 => absurd c_1 (by omega))
  refine z_iload_n 0 dJ2_grow_2_20 rfl ?_
  refine z_iload_n 2 dJ2_grow_2_21 rfl ?_
  refine z_iload_n 0 dJ2_grow_2_22 rfl ?_
  refine z_isubN (a := c + 1) (b := c) (by omega) dJ2_grow_2_23 ?_
  refine z_eq (y := 1) (show nI (c + 1 - c) = nI 1 from congrArg nI (by omega)) ?_
  refine z_iload_n 0 dJ2_grow_2_24 rfl ?_
  refine z_iconst (v := 1) dJ2_grow_2_25 (by decide) ?_
  refine z_ishr dJ2_grow_2_26 ?_
  refine z_eq (y := nI ((c / 2))) (nI_shr1 c (by omega)) ?_
  refine z_callS (As := [.int (nI (c)), .int 1, .int (nI ((c / 2)))]) (t_newLen c (c / 2) hc (by omega)) q855 q675 q134 q676 nm_J15_newLength rfl (Nat.le_of_ble_eq_true rfl) ⟨Nat.le_of_ble_eq_true rfl, Nat.le_of_ble_eq_true rfl⟩ dJ2_grow_2_27 rfl rfl (Nat.le_of_ble_eq_true rfl) (Nat.le_of_ble_eq_true rfl) (fun v_2 X_3 hp_4 => ?_)
  obtain ⟨rfl, h7⟩ := hp_4
  replace h7 := h7.symm
  subst h7
  refine z_st (st' := [.int (nI ((c + (if 1 < c / 2 then c / 2 else 1))))]) rfl ?_
  refine z_istore_n (lv' := [(3, .int (nI ((c + (if 1 < c / 2 then c / 2 else 1))))), (2, .int (nI (c))), (0, .ref l), (1, .int (nI (c + 1)))]) dJ2_grow_2_30 rfl (by decide) rfl ?_
  refine z_aload_n 2 dJ2_grow_2_31 rfl ?_
  refine z_aload_n 2 dJ2_grow_2_32 rfl ?_
  refine z_get (v := .ref e) 1 hl rfl in_J2 (by decide) q216 rfl dJ2_grow_2_33 ?_
  refine z_iload_n 0 dJ2_grow_2_36 rfl ?_
  refine z_callS (As := [.ref e, .int (nI ((c + (if 1 < c / 2 then c / 2 else 1))))]) (t_copy2 he (show c ≤ (c + (if 1 < c / 2 then c / 2 else 1)) by omega) (by omega) hel) q856 q857 q135 q858 nm_J16_copyOf_2 rfl (Nat.le_of_ble_eq_true rfl) ⟨Nat.le_of_ble_eq_true rfl, Nat.le_of_ble_eq_true rfl⟩ dJ2_grow_2_37 rfl rfl (Nat.le_of_ble_eq_true rfl) (Nat.le_of_ble_eq_true rfl) (fun v_5 X_6 hp_7 => ?_)
  obtain ⟨e9, rfl, rfl, hn9, hz9⟩ := hp_7
  have hne9 : ¬ l = e9 := fun z => by rw [← z, hl] at hn9; cases hn9
  have hl9 := zup_k (e := (.inl (zar g 4, (c + (if 1 < c / 2 then c / 2 else 1)), .inr (.inr (.inr (.inr (va_cpy f (fun _ => none) 0 0 c))))))) hne9 hl
  refine z_st (st' := [.ref e9, .ref l]) rfl ?_
  refine z_dup_x1 dJ2_grow_2_40 rfl rfl ?_
  refine z_put (X' := (zup (zup X e9 (.inl (zar g 4, (c + (if 1 < c / 2 then c / 2 else 1)), .inr (.inr (.inr (.inr (va_cpy f (fun _ => none) 0 0 c))))))) l (.inr (23, [.int mc, .ref e9, .int (nI (c))])))) 1 hl9 rfl in_J2 (by decide) tyJ2 tyJ2_ok nmJ2 q216 rfl (tyJ2_ok 1 (by decide)) rfl rfl (Nat.le_of_ble_eq_true rfl) hl0 dJ2_grow_2_41 rfl ?_
  have hx_8 : (zup (zup X e9 (.inl (zar g 4, (c + (if 1 < c / 2 then c / 2 else 1)), .inr (.inr (.inr (.inr (va_cpy f (fun _ => none) 0 0 c))))))) l (.inr (23, [.int mc, .ref e9, .int (nI (c))]))) l = some (.inr (23, [.int mc, .ref e9, .int (nI (c))])) := zup_s
  exact z_aret dJ2_grow_2_44 rfl (Or.inr ⟨_, rfl⟩) (Or.inr ⟨_, rfl⟩) (Nat.le_of_ble_eq_true rfl) (Nat.le_of_ble_eq_true rfl) ⟨e9, rfl, rfl, hn9, hz9⟩
set_option maxHeartbeats 4000000 in
theorem t_grow {g : zG} {X : zX} {l e c : Nat} {mc : Int32} {f : Nat → Option Nat} (hl : X l = some (.inr (23, [.int mc, .ref e, .int (nI c)]))) (hl0 : z0 g ≤ l) (he : X e = some (.inl (zar g 4, c, .inr (.inr (.inr (.inr f)))))) (hc1 : 1 ≤ c) (hc : c ≤ 60) (hel : ∀ q, q < c → f q = none ∨ ∃ (y ci : Nat) (vs : List Value) (r : vw_C), f q = some y ∧ X y = some (.inr (ci, vs)) ∧ zcl[ci]? = some r ∧ Cond.castable r.1 "java/lang/Object" ∈ lw_tbl)  : zN g m_J2_grow ({ frames := 4, cells := 1, slots := 100, locals := 127 } : Room) [.ref l] X (fun rv X' => ∃ e', rv = some (.ref e') ∧ X' = zup (zup X e' (.inl (zar g 4, (c + (if 1 < c / 2 then c / 2 else 1)), .inr (.inr (.inr (.inr (va_cpy f (fun _ => none) 0 0 c))))))) l (.inr (23, [.int mc, .ref e', .int (nI c)])) ∧ X e' = none ∧ z0 g ≤ e') := by
  refine zN.of (by decide +kernel) (Nat.le_of_ble_eq_true rfl) rfl ?_
  refine z_lv (lv' := [(0, .ref l)]) [0] rfl ?_
  refine z_aload_n 0 dJ2_grow_0 rfl ?_
  refine z_aload_n 0 dJ2_grow_1 rfl ?_
  refine z_get (v := .int (nI (c))) 2 hl rfl in_J2 (by decide) q217 rfl dJ2_grow_2 ?_
  refine z_iconst (v := 1) dJ2_grow_5 (by decide) ?_
  refine z_iaddN (a := c) (b := 1) dJ2_grow_6 ?_
  refine z_callV (As := [.int (nI (c + 1))]) (t_grow2 hl hl0 he hc1 hc hel) q849 q851 qs14 q117 q852 nm_J2_grow_2 hl rfl rfl rfl (Nat.le_of_ble_eq_true rfl) ⟨Nat.le_of_ble_eq_true rfl, Nat.le_of_ble_eq_true rfl⟩ dJ2_grow_7 rfl rfl (Nat.le_of_ble_eq_true rfl) (Nat.le_of_ble_eq_true rfl) (fun v_1 X_2 hp_3 => ?_)
  obtain ⟨e9, rfl, rfl, hn9, hz9⟩ := hp_3
  refine z_st (st' := [.ref e9]) rfl ?_
  exact z_aret dJ2_grow_10 rfl (Or.inr ⟨_, rfl⟩) (Or.inr ⟨_, rfl⟩) (Nat.le_of_ble_eq_true rfl) (Nat.le_of_ble_eq_true rfl) ⟨e9, rfl, rfl, hn9, hz9⟩
set_option maxHeartbeats 4000000 in
theorem t_add2a {g : zG} {X : zX} {l e n c : Nat} {mc : Int32} {f : Nat → Option Nat} (hl : X l = some (.inr (23, [.int mc, .ref e, .int (nI n)]))) (hl0 : z0 g ≤ l) (he : X e = some (.inl (zar g 4, c, .inr (.inr (.inr (.inr f)))))) (he0 : z0 g ≤ e) {a ca : Nat} {fsa : List Value} {ra : vw_C} (ha : X a = some (.inr (ca, fsa))) (hca0 : zcl[ca]? = some ra) (hca : Cond.castable ra.1 "java/lang/Object" ∈ lw_tbl) (hal : ¬ a = l) (hn : n < c) (hc : c ≤ 60) : zN g m_J2_add_2 ({ frames := 7, cells := 1, slots := 100, locals := 260 } : Room) [.ref l, .ref a, .ref e, .int (nI (n))] X (fun rv X' => rv = none ∧ X' = zup (zup X e (.inl (zar g 4, c, .inr (.inr (.inr (.inr (va_up f n (some a)))))))) l (.inr (23, [.int mc, .ref e, .int (nI (n + 1))]))) := by
  refine zN.of (by decide +kernel) (Nat.le_of_ble_eq_true rfl) rfl ?_
  refine z_lv (lv' := [(0, .ref l), (1, .ref a), (2, .ref e), (3, .int (nI (n)))]) [0, 1, 2, 3] rfl ?_
  refine z_iload_n 3 dJ2_add_2_0 rfl ?_
  refine z_aload_n 2 dJ2_add_2_1 rfl ?_
  refine z_alen (ti := 4) he rfl dJ2_add_2_2 ?_
  refine z_icmp_neN (a := n) (b := c) 11 (by omega) (by omega) dJ2_add_2_3 (by decide) (fun c_1 => ?_) (fun c_1 => absurd c_1 (by omega))
  refine z_aload_n 2 dJ2_add_2_11 rfl ?_
  refine z_iload_n 3 dJ2_add_2_12 rfl ?_
  refine z_aload_n 1 dJ2_add_2_13 rfl ?_
  refine z_aast4 (X' := (zup X e (.inl (zar g 4, c, .inr (.inr (.inr (.inr (va_up f n (some a))))))))) n he ha hca0 hca rfl (by omega) (by omega) he0 dJ2_add_2_14 rfl ?_
  have hx_2 : (zup X e (.inl (zar g 4, c, .inr (.inr (.inr (.inr (va_up f n (some a)))))))) l = some (.inr (23, [.int mc, .ref e, .int (nI (n))])) := zup_k (zne hl he (by simp)) hl
  have hx_3 : (zup X e (.inl (zar g 4, c, .inr (.inr (.inr (.inr (va_up f n (some a)))))))) a = some (.inr (ca, fsa)) := zup_k (zne ha he (by simp)) ha
  have hx_4 : (zup X e (.inl (zar g 4, c, .inr (.inr (.inr (.inr (va_up f n (some a)))))))) e = some (.inl (zar g 4, c, .inr (.inr (.inr (.inr (va_up f n (some a))))))) := zup_s
  refine z_aload_n 0 dJ2_add_2_15 rfl ?_
  refine z_iload_n 3 dJ2_add_2_16 rfl ?_
  refine z_iconst (v := 1) dJ2_add_2_17 (by decide) ?_
  refine z_iaddN (a := n) (b := 1) dJ2_add_2_18 ?_
  refine z_put (X' := (zup (zup X e (.inl (zar g 4, c, .inr (.inr (.inr (.inr (va_up f n (some a)))))))) l (.inr (23, [.int mc, .ref e, .int (nI (n + 1))])))) 2 hx_2 rfl in_J2 (by decide) tyJ2 tyJ2_ok nmJ2 q217 rfl (tyJ2_ok 2 (by decide)) rfl rfl (Nat.le_of_ble_eq_true rfl) hl0 dJ2_add_2_19 rfl ?_
  have hx_5 : (zup (zup X e (.inl (zar g 4, c, .inr (.inr (.inr (.inr (va_up f n (some a)))))))) l (.inr (23, [.int mc, .ref e, .int (nI (n + 1))]))) a = some (.inr (ca, fsa)) := zup_k hal hx_3
  have hx_6 : (zup (zup X e (.inl (zar g 4, c, .inr (.inr (.inr (.inr (va_up f n (some a)))))))) l (.inr (23, [.int mc, .ref e, .int (nI (n + 1))]))) e = some (.inl (zar g 4, c, .inr (.inr (.inr (.inr (va_up f n (some a))))))) := zup_k (zne hx_4 hx_2 (by simp)) hx_4
  have hx_7 : (zup (zup X e (.inl (zar g 4, c, .inr (.inr (.inr (.inr (va_up f n (some a)))))))) l (.inr (23, [.int mc, .ref e, .int (nI (n + 1))]))) l = some (.inr (23, [.int mc, .ref e, .int (nI (n + 1))])) := zup_s
  exact z_vret dJ2_add_2_22 rfl (Nat.le_of_ble_eq_true rfl) (Nat.le_of_ble_eq_true rfl) ⟨rfl, rfl⟩
set_option maxHeartbeats 4000000 in
theorem t_add2b {g : zG} {X : zX} {l e c : Nat} {mc : Int32} {f : Nat → Option Nat} (hl : X l = some (.inr (23, [.int mc, .ref e, .int (nI c)]))) (hl0 : z0 g ≤ l) (he : X e = some (.inl (zar g 4, c, .inr (.inr (.inr (.inr f)))))) (hc1 : 1 ≤ c) (hc : c ≤ 60) (hel : ∀ q, q < c → f q = none ∨ ∃ (y ci : Nat) (vs : List Value) (r : vw_C), f q = some y ∧ X y = some (.inr (ci, vs)) ∧ zcl[ci]? = some r ∧ Cond.castable r.1 "java/lang/Object" ∈ lw_tbl) {a ca : Nat} {fsa : List Value} {ra : vw_C} (ha : X a = some (.inr (ca, fsa))) (hca0 : zcl[ca]? = some ra) (hca : Cond.castable ra.1 "java/lang/Object" ∈ lw_tbl) (hal : ¬ a = l)  : zN g m_J2_add_2 ({ frames := 7, cells := 1, slots := 100, locals := 260 } : Room) [.ref l, .ref a, .ref e, .int (nI (c))] X (fun rv X' => rv = none ∧ ∃ e', X' = zup (zup X e' (.inl (zar g 4, (c + (if 1 < c / 2 then c / 2 else 1)), .inr (.inr (.inr (.inr (va_up (va_cpy f (fun _ => none) 0 0 c) c (some a)))))))) l (.inr (23, [.int mc, .ref e', .int (nI (c + 1))])) ∧ X e' = none ∧ z0 g ≤ e') := by
  refine zN.of (by decide +kernel) (Nat.le_of_ble_eq_true rfl) rfl ?_
  refine z_lv (lv' := [(0, .ref l), (1, .ref a), (2, .ref e), (3, .int (nI (c)))]) [0, 1, 2, 3] rfl ?_
  have hq9 : (if 1 < c / 2 then c / 2 else 1) ≤ 40 ∧ 1 ≤ (if 1 < c / 2 then c / 2 else 1) := by split <;> omega
  refine z_iload_n 3 dJ2_add_2_0 rfl ?_
  refine z_aload_n 2 dJ2_add_2_1 rfl ?_
  refine z_alen (ti := 4) he rfl dJ2_add_2_2 ?_
  refine z_icmp_neN (a := c) (b := c) 11 (by omega) (by omega) dJ2_add_2_3 (by decide) (fun c_1 => absurd c_1 (by omega)) (fun c_1 => ?_)
  refine z_aload_n 0 dJ2_add_2_6 rfl ?_
  refine z_callV (As := []) (t_grow hl hl0 he hc1 hc hel) q845 q847 qs13 q117 q848 nm_J2_grow hl rfl rfl rfl (Nat.le_of_ble_eq_true rfl) ⟨Nat.le_of_ble_eq_true rfl, Nat.le_of_ble_eq_true rfl⟩ dJ2_add_2_7 rfl rfl (Nat.le_of_ble_eq_true rfl) (Nat.le_of_ble_eq_true rfl) (fun v_2 X_3 hp_4 => ?_)
  obtain ⟨e9, rfl, rfl, hn9, hz9⟩ := hp_4
  have hae9 : ¬ a = e9 := fun z => by rw [← z, ha] at hn9; cases hn9
  have hle9 : ¬ l = e9 := fun z => by rw [← z, hl] at hn9; cases hn9
  have hl9 : (zup (zup X e9 (.inl (zar g 4, (c + (if 1 < c / 2 then c / 2 else 1)), .inr (.inr (.inr (.inr (va_cpy f (fun _ => none) 0 0 c))))))) l (.inr (23, [.int mc, .ref e9, .int (nI (c))]))) l = some (.inr (23, [.int mc, .ref e9, .int (nI (c))])) := zup_s
  have he9 : (zup (zup X e9 (.inl (zar g 4, (c + (if 1 < c / 2 then c / 2 else 1)), .inr (.inr (.inr (.inr (va_cpy f (fun _ => none) 0 0 c))))))) l (.inr (23, [.int mc, .ref e9, .int (nI (c))]))) e9 = some (.inl (zar g 4, (c + (if 1 < c / 2 then c / 2 else 1)), .inr (.inr (.inr (.inr (va_cpy f (fun _ => none) 0 0 c)))))) := zup_k (fun z => hle9 z.symm) zup_s
  have ha9 : (zup (zup X e9 (.inl (zar g 4, (c + (if 1 < c / 2 then c / 2 else 1)), .inr (.inr (.inr (.inr (va_cpy f (fun _ => none) 0 0 c))))))) l (.inr (23, [.int mc, .ref e9, .int (nI (c))]))) a = some (.inr (ca, fsa)) := zup_k hal (zup_k hae9 ha)
  refine z_st (st' := [.ref e9]) rfl ?_
  refine z_astore_n (lv' := [(2, .ref e9), (0, .ref l), (1, .ref a), (3, .int (nI (c)))]) dJ2_add_2_10 rfl (by decide) rfl ?_
  refine z_aload_n 0 dJ2_add_2_11 rfl ?_
  refine z_iload_n 3 dJ2_add_2_12 rfl ?_
  refine z_aload_n 2 dJ2_add_2_13 rfl ?_
  refine z_aast4 (X' := (zup (zup X l (.inr (23, [.int mc, .ref e9, .int (nI (c))]))) e9 (.inl (zar g 4, (c + (if 1 < c / 2 then c / 2 else 1)), .inr (.inr (.inr (.inr (va_up (va_cpy f (fun _ => none) 0 0 c) c (some a))))))))) c he9 ha9 hca0 hca rfl (by omega) (by omega) hz9 dJ2_add_2_14 (zup_mid (Ne.symm hle9)) ?_
  have hx_5 : (zup (zup X l (.inr (23, [.int mc, .ref e9, .int (nI (c))]))) e9 (.inl (zar g 4, (c + (if 1 < c / 2 then c / 2 else 1)), .inr (.inr (.inr (.inr (va_up (va_cpy f (fun _ => none) 0 0 c) c (some a)))))))) l = some (.inr (23, [.int mc, .ref e9, .int (nI (c))])) := zup_over hle9 hl9 (zup_mid (Ne.symm hle9))
  have hx_6 : (zup (zup X l (.inr (23, [.int mc, .ref e9, .int (nI (c))]))) e9 (.inl (zar g 4, (c + (if 1 < c / 2 then c / 2 else 1)), .inr (.inr (.inr (.inr (va_up (va_cpy f (fun _ => none) 0 0 c) c (some a)))))))) a = some (.inr (ca, fsa)) := zup_over hae9 ha9 (zup_mid (Ne.symm hle9))
  have hx_7 : (zup (zup X l (.inr (23, [.int mc, .ref e9, .int (nI (c))]))) e9 (.inl (zar g 4, (c + (if 1 < c / 2 then c / 2 else 1)), .inr (.inr (.inr (.inr (va_up (va_cpy f (fun _ => none) 0 0 c) c (some a)))))))) e9 = some (.inl (zar g 4, (c + (if 1 < c / 2 then c / 2 else 1)), .inr (.inr (.inr (.inr (va_up (va_cpy f (fun _ => none) 0 0 c) c (some a))))))) := zup_s
  refine z_aload_n 1 dJ2_add_2_15 rfl ?_
  refine z_iload_n 3 dJ2_add_2_16 rfl ?_
  refine z_iconst (v := 1) dJ2_add_2_17 (by decide) ?_
  refine z_iaddN (a := c) (b := 1) dJ2_add_2_18 ?_
  refine z_put (X' := (zup (zup X e9 (.inl (zar g 4, (c + (if 1 < c / 2 then c / 2 else 1)), .inr (.inr (.inr (.inr (va_up (va_cpy f (fun _ => none) 0 0 c) c (some a)))))))) l (.inr (23, [.int mc, .ref e9, .int (nI (c + 1))])))) 2 hx_5 rfl in_J2 (by decide) tyJ2 tyJ2_ok nmJ2 q217 rfl (tyJ2_ok 2 (by decide)) rfl rfl (Nat.le_of_ble_eq_true rfl) hl0 dJ2_add_2_19 (zup_mid hle9) ?_
  have hx_8 : (zup (zup X e9 (.inl (zar g 4, (c + (if 1 < c / 2 then c / 2 else 1)), .inr (.inr (.inr (.inr (va_up (va_cpy f (fun _ => none) 0 0 c) c (some a)))))))) l (.inr (23, [.int mc, .ref e9, .int (nI (c + 1))]))) a = some (.inr (ca, fsa)) := zup_over hal hx_6 (zup_mid hle9)
  have hx_9 : (zup (zup X e9 (.inl (zar g 4, (c + (if 1 < c / 2 then c / 2 else 1)), .inr (.inr (.inr (.inr (va_up (va_cpy f (fun _ => none) 0 0 c) c (some a)))))))) l (.inr (23, [.int mc, .ref e9, .int (nI (c + 1))]))) e9 = some (.inl (zar g 4, (c + (if 1 < c / 2 then c / 2 else 1)), .inr (.inr (.inr (.inr (va_up (va_cpy f (fun _ => none) 0 0 c) c (some a))))))) := zup_over (Ne.symm hle9) hx_7 (zup_mid hle9)
  have hx_10 : (zup (zup X e9 (.inl (zar g 4, (c + (if 1 < c / 2 then c / 2 else 1)), .inr (.inr (.inr (.inr (va_up (va_cpy f (fun _ => none) 0 0 c) c (some a)))))))) l (.inr (23, [.int mc, .ref e9, .int (nI (c + 1))]))) l = some (.inr (23, [.int mc, .ref e9, .int (nI (c + 1))])) := zup_s
  exact z_vret dJ2_add_2_22 rfl (Nat.le_of_ble_eq_true rfl) (Nat.le_of_ble_eq_true rfl) ⟨rfl, e9, rfl, hn9, hz9⟩
theorem t_add2 {g : zG} {X : zX} {l e n c : Nat} {mc : Int32} {f : Nat → Option Nat} (hl : X l = some (.inr (23, [.int mc, .ref e, .int (nI n)]))) (hl0 : z0 g ≤ l) (he : X e = some (.inl (zar g 4, c, .inr (.inr (.inr (.inr f)))))) (he0 : z0 g ≤ e) {a ca : Nat} {fsa : List Value} {ra : vw_C} (ha : X a = some (.inr (ca, fsa))) (hca0 : zcl[ca]? = some ra) (hca : Cond.castable ra.1 "java/lang/Object" ∈ lw_tbl) (hal : ¬ a = l) (hnc : n ≤ c) (hc1 : 1 ≤ c) (hc : c ≤ 60) (hel : ∀ q, q < n → f q = none ∨ ∃ (y ci : Nat) (vs : List Value) (r : vw_C), f q = some y ∧ X y = some (.inr (ci, vs)) ∧ zcl[ci]? = some r ∧ Cond.castable r.1 "java/lang/Object" ∈ lw_tbl) : zN g m_J2_add_2 ({ frames := 7, cells := 1, slots := 100, locals := 260 } : Room) [.ref l, .ref a, .ref e, .int (nI n)] X (fun rv X' => rv = none ∧ ∃ (mc' : Int32) (e' c' : Nat) (f' : Nat → Option Nat), X' = zup (zup X e' (.inl (zar g 4, c', .inr (.inr (.inr (.inr f')))))) l (.inr (23, [.int mc', .ref e', .int (nI (n + 1))])) ∧ (e' = e ∨ X e' = none) ∧ z0 g ≤ e' ∧ n + 1 ≤ c' ∧ (c' ≤ 100 ∧ (c' ≤ c ∨ c' ≤ n + n / 2 + 1)) ∧ f' n = some a ∧ ∀ k, k < n → f' k = f k) := by
  by_cases h : n < c
  · refine (t_add2a hl hl0 he he0 ha hca0 hca hal h hc).post (fun v X' hp => ?_)
    obtain ⟨rfl, rfl⟩ := hp
    refine ⟨rfl, mc, e, c, _, rfl, Or.inl rfl, he0, by omega, ⟨by omega, Or.inl (Nat.le_refl _)⟩, if_pos rfl, fun k hk => if_neg (by omega)⟩
  · obtain rfl : n = c := by omega
    refine (t_add2b hl hl0 he hc1 hc hel ha hca0 hca hal).post (fun v X' hp => ?_)
    obtain ⟨rfl, e', rfl, h1, h2⟩ := hp
    have hq9 : (if 1 < n / 2 then n / 2 else 1) ≤ 40 ∧ 1 ≤ (if 1 < n / 2 then n / 2 else 1) := by split <;> omega
    refine ⟨rfl, mc, e', _, _, rfl, Or.inr h1, h2, by omega, ⟨by omega, Or.inr (by split <;> omega)⟩, if_pos rfl, fun k hk => ?_⟩
    show (if k = n then some a else va_cpy f (fun _ => none) 0 0 n k) = f k
    rw [if_neg (by omega)]
    show (if 0 ≤ k ∧ k < 0 + n then f (0 + (k - 0)) else none) = f k
    rw [if_pos (by omega), Nat.zero_add, Nat.sub_zero]
set_option maxHeartbeats 4000000 in
theorem t_addL {g : zG} {X : zX} {l e n c : Nat} {mc : Int32} {f : Nat → Option Nat} (hl : X l = some (.inr (23, [.int mc, .ref e, .int (nI n)]))) (hl0 : z0 g ≤ l) (he : X e = some (.inl (zar g 4, c, .inr (.inr (.inr (.inr f)))))) (he0 : z0 g ≤ e) {a ca : Nat} {fsa : List Value} {ra : vw_C} (ha : X a = some (.inr (ca, fsa))) (hca0 : zcl[ca]? = some ra) (hca : Cond.castable ra.1 "java/lang/Object" ∈ lw_tbl) (hal : ¬ a = l) (hnc : n ≤ c) (hc1 : 1 ≤ c) (hc : c ≤ 60) (hel : ∀ q, q < n → f q = none ∨ ∃ (y ci : Nat) (vs : List Value) (r : vw_C), f q = some y ∧ X y = some (.inr (ci, vs)) ∧ zcl[ci]? = some r ∧ Cond.castable r.1 "java/lang/Object" ∈ lw_tbl)  : zN g m_J2_add ({ frames := 8, cells := 1, slots := 100, locals := 283 } : Room) [.ref l, .ref a] X (fun rv X' => rv = some (.int 1) ∧ ∃ (mc' : Int32) (e' c' : Nat) (f' : Nat → Option Nat), X' = zup (zup X e' (.inl (zar g 4, c', .inr (.inr (.inr (.inr f')))))) l (.inr (23, [.int mc', .ref e', .int (nI (n + 1))])) ∧ (e' = e ∨ X e' = none) ∧ z0 g ≤ e' ∧ n + 1 ≤ c' ∧ (c' ≤ 100 ∧ (c' ≤ c ∨ c' ≤ n + n / 2 + 1)) ∧ f' n = some a ∧ ∀ k, k < n → f' k = f k) := by
  refine zN.of (by decide +kernel) (Nat.le_of_ble_eq_true rfl) rfl ?_
  refine z_lv (lv' := [(0, .ref l), (1, .ref a)]) [0, 1] rfl ?_
  have hel1 : ∀ (x9 : Int32) (q : Nat), q < n → f q = none ∨ ∃ (y ci : Nat) (vs : List Value) (r : vw_C), f q = some y ∧ (zup X l (.inr (23, [.int x9, .ref e, .int (nI n)]))) y = some (.inr (ci, vs)) ∧ zcl[ci]? = some r ∧ Cond.castable r.1 "java/lang/Object" ∈ lw_tbl := fun x9 q hq => by
    rcases hel q hq with h | ⟨y, ci, vs, r, h1, h2, h3, h4⟩
    · exact Or.inl h
    · by_cases hy : y = l
      · exact Or.inr ⟨y, 23, _, _, h1, by rw [hy]; exact zup_s, rfl, q2091⟩
      · exact Or.inr ⟨y, ci, vs, r, h1, zup_k hy h2, h3, h4⟩
  refine z_aload_n 0 dJ2_add_0 rfl ?_
  refine z_dup dJ2_add_1 rfl ?_
  refine z_getU (v := .int mc) 0 hl rfl in_J2 (by decide) q219 q220 rfl dJ2_add_2 ?_
  refine z_iconst (v := 1) dJ2_add_5 (by decide) ?_
  refine z_iadd dJ2_add_6 ?_
  obtain ⟨x_1, ex_1⟩ : ∃ y : Int32, (mc + 1) = y := ⟨_, rfl⟩
  refine z_eq ex_1 ?_
  refine z_putU (X' := (zup X l (.inr (23, [.int x_1, .ref e, .int (nI (n))])))) 0 hl rfl in_J2 (by decide) tyJ2 tyJ2_ok nmJ2 q219 q220 rfl (tyJ2_ok 0 (by decide)) rfl rfl (Nat.le_of_ble_eq_true rfl) hl0 dJ2_add_7 rfl ?_
  have hx_2 : (zup X l (.inr (23, [.int x_1, .ref e, .int (nI (n))]))) e = some (.inl (zar g 4, c, .inr (.inr (.inr (.inr f))))) := zup_k (zne he hl (by simp)) he
  have hx_3 : (zup X l (.inr (23, [.int x_1, .ref e, .int (nI (n))]))) a = some (.inr (ca, fsa)) := zup_k hal ha
  have hx_4 : (zup X l (.inr (23, [.int x_1, .ref e, .int (nI (n))]))) l = some (.inr (23, [.int x_1, .ref e, .int (nI (n))])) := zup_s
  refine z_aload_n 0 dJ2_add_10 rfl ?_
  refine z_aload_n 1 dJ2_add_11 rfl ?_
  refine z_aload_n 0 dJ2_add_12 rfl ?_
  refine z_get (v := .ref e) 1 hx_4 rfl in_J2 (by decide) q216 rfl dJ2_add_13 ?_
  refine z_aload_n 0 dJ2_add_16 rfl ?_
  refine z_get (v := .int (nI (n))) 2 hx_4 rfl in_J2 (by decide) q217 rfl dJ2_add_17 ?_
  refine z_callV (As := [.ref a, .ref e, .int (nI (n))]) (t_add2 (X := (zup X l (.inr (23, [.int x_1, .ref e, .int (nI (n))])))) hx_4 hl0 hx_2 he0 hx_3 hca0 hca hal hnc hc1 hc (fun q hq => hel1 x_1 q hq)) q841 q843 qs12 q117 q844 nm_J2_add_2 hx_4 rfl rfl rfl (Nat.le_of_ble_eq_true rfl) ⟨Nat.le_of_ble_eq_true rfl, Nat.le_of_ble_eq_true rfl⟩ dJ2_add_20 rfl rfl (Nat.le_of_ble_eq_true rfl) (Nat.le_of_ble_eq_true rfl) (fun v_5 X_6 hp_7 => ?_)
  obtain ⟨rfl, mc', e', c', f', rfl, q1, q2, q3, q4, q5, q6⟩ := hp_7
  refine z_st (st' := []) rfl ?_
  refine z_iconst (v := 1) dJ2_add_23 (by decide) ?_
  exact z_zret dJ2_add_24 rfl (by first | rfl | decide | exact zb_nar _) (Nat.le_of_ble_eq_true rfl) (Nat.le_of_ble_eq_true rfl) ⟨rfl, mc', e', c', f', by rcases q1 with rfl | q1; exact zup_mid (fun z => by rw [z, he] at hl; cases hl); exact zup_mid (fun z => by rw [← z, zup_s] at q1; cases q1), q1.imp id (fun z => (zup_none.mp z).2), q2, q3, q4, q5, q6⟩
