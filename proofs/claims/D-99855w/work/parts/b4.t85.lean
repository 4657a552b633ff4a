/-! STRINGS BUILT. Printed by t85.py -/
set_option maxRecDepth 100000
theorem s_sub8 : ∀ n, n < 8 → nI (n + 1) - 8 ≤ 0 := by decide +kernel
theorem s_by128 : ∀ x, x < 128 → (nI x).toInt8.toInt32 = nI x ∧ vp_nar .byte (nI x) = nI x ∧ fits .byte (.int (nI x)) = true := by decide +kernel
set_option maxHeartbeats 4000000 in
theorem t_sbI {g : zG} {X : zX} {o : Nat} (ho : X o = some (.inr (25, [.null, .int 0, .int 0, .int 0]))) (ho0 : z0 g ≤ o)  : zN g m_J13_init ({ frames := 1, cells := 1, slots := 8, locals := 20 } : Room) [.ref o, .int 8] X (fun rv X' => rv = none ∧ ∃ b, X' = zup (zup X b (.inl (zar g 1, 8, .inl (fun _ => 0)))) o (.inr (25, [.ref b, .int 0, .int 0, .int 0])) ∧ X b = none ∧ z0 g ≤ b) := by
  refine zN.of (by decide +kernel) (Nat.le_of_ble_eq_true rfl) rfl ?_
  refine z_lv (lv' := [(0, .ref o), (1, .int 8)]) [0, 1] rfl ?_
  refine z_aload_n 0 dJ13_init_0 rfl ?_
  refine z_objInit q637 q160 q161 dJ13_init_1 (Nat.le_of_ble_eq_true rfl) (Nat.le_of_ble_eq_true rfl) ?_
  refine z_gsC q638 dJ13_init_4 ?_
  refine z_if_eq 25 dJ13_init_7 (by decide) (fun h_ => absurd h_ (by decide)) (fun h_ => ?_)
  refine z_aload_n 0 dJ13_init_10 rfl ?_
  refine z_iload_n 1 dJ13_init_11 rfl ?_
  refine z_newb 8 rfl (by omega) q193 dJ13_init_12 rfl rfl (Nat.le_of_ble_eq_true rfl) (Nat.le_of_ble_eq_true rfl) (fun n_1 hn_2 hl_3 => ?_)
  have ne_4 : o ≠ n_1 := fun q9 => by rw [← q9, ho] at hn_2; cases hn_2
  have hx_5 : (zup X n_1 (.inl (zar g 1, 8, .inl (fun _ => 0)))) o = some (.inr (25, [.null, .int 0, .int 0, .int 0])) := zup_k ne_4 ho
  have hx_6 : (zup X n_1 (.inl (zar g 1, 8, .inl (fun _ => 0)))) n_1 = some (.inl (zar g 1, 8, .inl (fun _ => 0))) := zup_s
  refine z_put (X' := (zup (zup X n_1 (.inl (zar g 1, 8, .inl (fun _ => 0)))) o (.inr (25, [.ref n_1, .int 0, .int 0, .int 0])))) 0 hx_5 rfl in_J14 (by decide) tyJ14 tyJ14_ok nmJ14 q646 rfl (tyJ14_ok 0 (by decide)) rfl rfl (Nat.le_of_ble_eq_true rfl) ho0 dJ13_init_14 rfl ?_
  have hx_7 : (zup (zup X n_1 (.inl (zar g 1, 8, .inl (fun _ => 0)))) o (.inr (25, [.ref n_1, .int 0, .int 0, .int 0]))) n_1 = some (.inl (zar g 1, 8, .inl (fun _ => 0))) := zup_k (Ne.symm ne_4) hx_6
  have hx_8 : (zup (zup X n_1 (.inl (zar g 1, 8, .inl (fun _ => 0)))) o (.inr (25, [.ref n_1, .int 0, .int 0, .int 0]))) o = some (.inr (25, [.ref n_1, .int 0, .int 0, .int 0])) := zup_s
  refine z_aload_n 0 dJ13_init_17 rfl ?_
  refine z_iconst (v := 0) dJ13_init_18 (by decide) ?_
  refine z_put (X' := (zup (zup X n_1 (.inl (zar g 1, 8, .inl (fun _ => 0)))) o (.inr (25, [.ref n_1, .int 0, .int 0, .int 0])))) 1 hx_8 rfl in_J14 (by decide) tyJ14 tyJ14_ok nmJ14 q647 rfl (tyJ14_ok 1 (by decide)) rfl rfl (Nat.le_of_ble_eq_true rfl) ho0 dJ13_init_19 zup_zup ?_
  have hx_9 : (zup (zup X n_1 (.inl (zar g 1, 8, .inl (fun _ => 0)))) o (.inr (25, [.ref n_1, .int 0, .int 0, .int 0]))) n_1 = some (.inl (zar g 1, 8, .inl (fun _ => 0))) := zup_over (Ne.symm ne_4) hx_7 zup_zup
  have hx_10 : (zup (zup X n_1 (.inl (zar g 1, 8, .inl (fun _ => 0)))) o (.inr (25, [.ref n_1, .int 0, .int 0, .int 0]))) o = some (.inr (25, [.ref n_1, .int 0, .int 0, .int 0])) := zup_s
  refine z_goto 38 dJ13_init_22 (by decide) ?_
  exact z_vret dJ13_init_38 rfl (Nat.le_of_ble_eq_true rfl) (Nat.le_of_ble_eq_true rfl) ⟨rfl, n_1, rfl, hn_2, hl_3⟩
set_option maxHeartbeats 4000000 in
theorem t_sbI14 {g : zG} {X : zX} {o : Nat} (ho : X o = some (.inr (25, [.null, .int 0, .int 0, .int 0]))) (ho0 : z0 g ≤ o)  : zN g m_J14_init ({ frames := 2, cells := 1, slots := 8, locals := 41 } : Room) [.ref o, .int 8] X (fun rv X' => rv = none ∧ ∃ b, X' = zup (zup X b (.inl (zar g 1, 8, .inl (fun _ => 0)))) o (.inr (25, [.ref b, .int 0, .int 0, .int 0])) ∧ X b = none ∧ z0 g ≤ b) := by
  refine zN.of (by decide +kernel) (Nat.le_of_ble_eq_true rfl) rfl ?_
  refine z_lv (lv' := [(0, .ref o), (1, .int 8)]) [0, 1] rfl ?_
  refine z_aload_n 0 dJ14_init_0 rfl ?_
  refine z_iload_n 1 dJ14_init_1 rfl ?_
  refine z_callI (As := [.int 8]) (t_sbI ho ho0) q634 q635 q132 q636 rfl rfl nm_J13_init rfl (Nat.le_of_ble_eq_true rfl) ⟨Nat.le_of_ble_eq_true rfl, Nat.le_of_ble_eq_true rfl⟩ dJ14_init_2 rfl rfl (Nat.le_of_ble_eq_true rfl) (Nat.le_of_ble_eq_true rfl) (fun v_1 X_2 hp_3 => ?_)
  obtain ⟨rfl, b, rfl, hb, hb0⟩ := hp_3
  refine z_st (st' := []) rfl ?_
  exact z_vret dJ14_init_5 rfl (Nat.le_of_ble_eq_true rfl) (Nat.le_of_ble_eq_true rfl) ⟨rfl, b, rfl, hb, hb0⟩
set_option maxHeartbeats 4000000 in
theorem t_sbL {g : zG} {X : zX} {o b n : Nat} {f : Nat → Int32} (ho : X o = some (.inr (25, [.ref b, .int 0, .int 0, .int (nI n)]))) (ho0 : z0 g ≤ o) (hb : X b = some (.inl (zar g 1, 8, .inl f))) (hb0 : z0 g ≤ b)  : zN g m_J13_isLatin1 ({ frames := 0, cells := 0, slots := 0, locals := 0 } : Room) [.ref o] X (fun rv X' => rv = some (.int 1) ∧ X' = X) := by
  refine zN.of (by decide +kernel) (Nat.le_of_ble_eq_true rfl) rfl ?_
  refine z_lv (lv' := [(0, .ref o)]) [0] rfl ?_
  refine z_gsC q638 dJ13_isLatin1_0 ?_
  refine z_if_eq 17 dJ13_isLatin1_3 (by decide) (fun h_ => absurd h_ (by decide)) (fun h_ => ?_)
  refine z_aload_n 0 dJ13_isLatin1_6 rfl ?_
  refine z_get (v := .int 0) 1 ho rfl in_J14 (by decide) q647 rfl dJ13_isLatin1_7 ?_
  refine z_if_ne 17 dJ13_isLatin1_10 (by decide) (fun h_ => absurd h_ (by decide)) (fun h_ => ?_)
  refine z_iconst (v := 1) dJ13_isLatin1_13 (by decide) ?_
  refine z_goto 18 dJ13_isLatin1_14 (by decide) ?_
  exact z_zret dJ13_isLatin1_18 rfl (by first | rfl | decide | exact zb_nar _) (Nat.le_of_ble_eq_true rfl) (Nat.le_of_ble_eq_true rfl) ⟨rfl, rfl⟩
set_option maxHeartbeats 4000000 in
theorem t_sbV {g : zG} {X : zX} {o b n : Nat} {f : Nat → Int32} (ho : X o = some (.inr (25, [.ref b, .int 0, .int 0, .int (nI n)]))) (ho0 : z0 g ≤ o) (hb : X b = some (.inl (zar g 1, 8, .inl f))) (hb0 : z0 g ≤ b)  : zN g m_J13_getValue ({ frames := 0, cells := 0, slots := 0, locals := 0 } : Room) [.ref o] X (fun rv X' => rv = some (.ref b) ∧ X' = X) := by
  refine zN.of (by decide +kernel) (Nat.le_of_ble_eq_true rfl) rfl ?_
  refine z_lv (lv' := [(0, .ref o)]) [0] rfl ?_
  refine z_aload_n 0 dJ13_getValue_0 rfl ?_
  refine z_get (v := .ref b) 0 ho rfl in_J14 (by decide) q646 rfl dJ13_getValue_1 ?_
  exact z_aret dJ13_getValue_4 rfl (Or.inr ⟨_, rfl⟩) (Or.inr ⟨_, rfl⟩) (Nat.le_of_ble_eq_true rfl) (Nat.le_of_ble_eq_true rfl) ⟨rfl, rfl⟩
set_option maxHeartbeats 4000000 in
theorem t_sbN {g : zG} {X : zX} {o b n : Nat} {f : Nat → Int32} (ho : X o = some (.inr (25, [.ref b, .int 0, .int 0, .int (nI n)]))) (ho0 : z0 g ≤ o) (hb : X b = some (.inl (zar g 1, 8, .inl f))) (hb0 : z0 g ≤ b)  : zN g m_J13_length ({ frames := 0, cells := 0, slots := 0, locals := 0 } : Room) [.ref o] X (fun rv X' => rv = some (.int (nI n)) ∧ X' = X) := by
  refine zN.of (by decide +kernel) (Nat.le_of_ble_eq_true rfl) rfl ?_
  refine z_lv (lv' := [(0, .ref o)]) [0] rfl ?_
  refine z_aload_n 0 dJ13_length_0 rfl ?_
  refine z_get (v := .int (nI (n))) 3 ho rfl in_J14 (by decide) q649 rfl dJ13_length_1 ?_
  exact z_iret dJ13_length_4 rfl (Nat.le_of_ble_eq_true rfl) (Nat.le_of_ble_eq_true rfl) ⟨rfl, rfl⟩
set_option maxHeartbeats 4000000 in
theorem t_sbE {g : zG} {X : zX} {o b n : Nat} {f : Nat → Int32} (ho : X o = some (.inr (25, [.ref b, .int 0, .int 0, .int (nI n)]))) (ho0 : z0 g ≤ o) (hb : X b = some (.inl (zar g 1, 8, .inl f))) (hb0 : z0 g ≤ b) (hn : n < 8) : zN g m_J13_ensureCapacityInternal ({ frames := 0, cells := 0, slots := 0, locals := 0 } : Room) [.ref o, .int (nI (n + 1))] X (fun rv X' => rv = none ∧ X' = X) := by
  refine zN.of (by decide +kernel) (Nat.le_of_ble_eq_true rfl) rfl ?_
  refine z_lv (lv' := [(0, .ref o), (1, .int (nI (n + 1)))]) [0, 1] rfl ?_
  refine z_aload_n 0 dJ13_ensureCapacityInternal_0 rfl ?_
  refine z_get (v := .ref b) 0 ho rfl in_J14 (by decide) q646 rfl dJ13_ensureCapacityInternal_1 ?_
  refine z_alen (ti := 1) hb rfl dJ13_ensureCapacityInternal_4 ?_
  refine z_aload_n 0 dJ13_ensureCapacityInternal_5 rfl ?_
  refine z_get (v := .int 0) 1 ho rfl in_J14 (by decide) q647 rfl dJ13_ensureCapacityInternal_6 ?_
  refine z_ishr dJ13_ensureCapacityInternal_9 ?_
  refine z_eq (y := 8) (by decide) ?_
  refine z_istore_n (lv' := [(2, .int 8), (0, .ref o), (1, .int (nI (n + 1)))]) dJ13_ensureCapacityInternal_10 rfl (by decide) rfl ?_
  refine z_iload_n 2 dJ13_ensureCapacityInternal_11 rfl ?_
  refine z_iload_n 0 dJ13_ensureCapacityInternal_12 rfl ?_
  refine z_isub dJ13_ensureCapacityInternal_13 ?_
  refine z_if_le 38 dJ13_ensureCapacityInternal_14 (by decide) (fun c_1 => ?_) (fun c_1 => absurd c_1 ((fun z => z (s_sub8 n hn))))
  exact z_vret dJ13_ensureCapacityInternal_38 rfl (Nat.le_of_ble_eq_true rfl) (Nat.le_of_ble_eq_true rfl) ⟨rfl, rfl⟩
set_option maxHeartbeats 4000000 in
theorem t_sbA {g : zG} {X : zX} {o b n : Nat} {f : Nat → Int32} (ho : X o = some (.inr (25, [.ref b, .int 0, .int 0, .int (nI n)]))) (ho0 : z0 g ≤ o) (hb : X b = some (.inl (zar g 1, 8, .inl f))) (hb0 : z0 g ≤ b) (hn : n < 8) (x : Nat) (hx : x < 128) : zN g m_J13_append ({ frames := 1, cells := 0, slots := 0, locals := 22 } : Room) [.ref o, .int (nI (x))] X (fun rv X' => rv = some (.ref o) ∧ X' = zup (zup X b (.inl (zar g 1, 8, .inl (upd f n (nI x))))) o (.inr (25, [.ref b, .int 0, .int 0, .int (nI (n + 1))]))) := by
  refine zN.of (by decide +kernel) (Nat.le_of_ble_eq_true rfl) rfl ?_
  refine z_lv (lv' := [(0, .ref o), (1, .int (nI (x)))]) [0, 1] rfl ?_
  refine z_aload_n 0 dJ13_append_0 rfl ?_
  refine z_aload_n 0 dJ13_append_1 rfl ?_
  refine z_get (v := .int (nI (n))) 3 ho rfl in_J14 (by decide) q649 rfl dJ13_append_2 ?_
  refine z_iconst (v := 1) dJ13_append_5 (by decide) ?_
  refine z_iaddN (a := n) (b := 1) dJ13_append_6 ?_
  refine z_callP (As := [.int (nI (n + 1))]) (t_sbE ho ho0 hb hb0 hn) q666 q2075 q667 q668 q132 q669 nm_J13_ensureCapacityInternal ho rfl rfl (Nat.le_of_ble_eq_true rfl) ⟨Nat.le_of_ble_eq_true rfl, Nat.le_of_ble_eq_true rfl⟩ dJ13_append_7 rfl rfl (Nat.le_of_ble_eq_true rfl) (Nat.le_of_ble_eq_true rfl) (fun v_1 X_2 hp_3 => ?_)
  obtain ⟨rfl, h7⟩ := hp_3
  replace h7 := h7.symm
  subst h7
  refine z_st (st' := []) rfl ?_
  refine z_aload_n 0 dJ13_append_10 rfl ?_
  refine z_callU (As := []) (x := yJ13_isLatin1) (owner := RJ13) (t_sbL ho ho0 hb hb0) q697 q699 q700 q698 q132 q701 rfl ⟨by decide +kernel, by decide +kernel, nm_J13_isLatin1.2.2⟩ ho rfl rfl (Nat.le_of_ble_eq_true rfl) ⟨Nat.le_of_ble_eq_true rfl, Nat.le_of_ble_eq_true rfl⟩ dJ13_append_11 rfl rfl (Nat.le_of_ble_eq_true rfl) (Nat.le_of_ble_eq_true rfl) (fun v_4 X_5 hp_6 => ?_)
  obtain ⟨rfl, h7⟩ := hp_6
  replace h7 := h7.symm
  subst h7
  refine z_st (st' := [.int 1]) rfl ?_
  refine z_if_eq 45 dJ13_append_14 (by decide) (fun h_ => absurd h_ (by decide)) (fun h_ => ?_)
  refine z_iload_n 1 dJ13_append_17 rfl ?_
  refine z_callS (As := [.int (nI (x))]) (t_canE2 x (by omega)) q702 q703 q123 q704 nm_J6_canEncode_2 rfl (Nat.le_of_ble_eq_true rfl) ⟨Nat.le_of_ble_eq_true rfl, Nat.le_of_ble_eq_true rfl⟩ dJ13_append_18 rfl rfl (Nat.le_of_ble_eq_true rfl) (Nat.le_of_ble_eq_true rfl) (fun v_7 X_8 hp_9 => ?_)
  obtain ⟨rfl, h7⟩ := hp_9
  replace h7 := h7.symm
  subst h7
  refine z_st (st' := [.int 1]) rfl ?_
  refine z_if_eq 45 dJ13_append_21 (by decide) (fun h_ => absurd h_ (by decide)) (fun h_ => ?_)
  refine z_aload_n 0 dJ13_append_24 rfl ?_
  refine z_get (v := .ref b) 0 ho rfl in_J14 (by decide) q646 rfl dJ13_append_25 ?_
  refine z_aload_n 0 dJ13_append_28 rfl ?_
  refine z_dup dJ13_append_29 rfl ?_
  refine z_get (v := .int (nI (n))) 3 ho rfl in_J14 (by decide) q649 rfl dJ13_append_30 ?_
  refine z_dup_x1 dJ13_append_33 rfl rfl ?_
  refine z_iconst (v := 1) dJ13_append_34 (by decide) ?_
  refine z_iaddN (a := n) (b := 1) dJ13_append_35 ?_
  refine z_put (X' := (zup X o (.inr (25, [.ref b, .int 0, .int 0, .int (nI (n + 1))])))) 3 ho rfl in_J14 (by decide) tyJ14 tyJ14_ok nmJ14 q649 rfl (tyJ14_ok 3 (by decide)) rfl rfl (Nat.le_of_ble_eq_true rfl) ho0 dJ13_append_36 rfl ?_
  have hx_10 : (zup X o (.inr (25, [.ref b, .int 0, .int 0, .int (nI (n + 1))]))) b = some (.inl (zar g 1, 8, .inl f)) := zup_k (zne hb ho (by simp)) hb
  have hx_11 : (zup X o (.inr (25, [.ref b, .int 0, .int 0, .int (nI (n + 1))]))) o = some (.inr (25, [.ref b, .int 0, .int 0, .int (nI (n + 1))])) := zup_s
  refine z_iload_n 1 dJ13_append_39 rfl ?_
  refine z_i2b (v := (nI (x)).toInt8.toInt32) dJ13_append_40 rfl ?_
  refine z_eq (y := nI x) (s_by128 x hx).1 ?_
  refine z_bast (X' := (zup (zup X o (.inr (25, [.ref b, .int 0, .int 0, .int (nI (n + 1))]))) b (.inl (zar g 1, 8, .inl (upd f n (nI x)))))) n hx_10 rfl (by omega) (by omega) hb0 dJ13_append_41 (by rw [(s_by128 x hx).2.1]) ?_
  have hx_12 : (zup (zup X o (.inr (25, [.ref b, .int 0, .int 0, .int (nI (n + 1))]))) b (.inl (zar g 1, 8, .inl (upd f n (nI x))))) o = some (.inr (25, [.ref b, .int 0, .int 0, .int (nI (n + 1))])) := zup_k (zne hx_11 hx_10 (by simp)) hx_11
  have hx_13 : (zup (zup X o (.inr (25, [.ref b, .int 0, .int 0, .int (nI (n + 1))]))) b (.inl (zar g 1, 8, .inl (upd f n (nI x))))) b = some (.inl (zar g 1, 8, .inl (upd f n (nI x)))) := zup_s
  refine z_goto 75 dJ13_append_42 (by decide) ?_
  refine z_aload_n 0 dJ13_append_75 rfl ?_
  exact z_aret dJ13_append_76 rfl (Or.inl ⟨_, rfl⟩) (Or.inr ⟨_, rfl⟩) (Nat.le_of_ble_eq_true rfl) (Nat.le_of_ble_eq_true rfl) ⟨rfl, by rw [zup_com (fun z => by rw [z, hb] at ho; cases ho)]⟩
set_option maxHeartbeats 4000000 in
theorem t_sbA14 {g : zG} {X : zX} {o b n : Nat} {f : Nat → Int32} (ho : X o = some (.inr (25, [.ref b, .int 0, .int 0, .int (nI n)]))) (ho0 : z0 g ≤ o) (hb : X b = some (.inl (zar g 1, 8, .inl f))) (hb0 : z0 g ≤ b) (hn : n < 8) (x : Nat) (hx : x < 128) : zN g m_J14_append ({ frames := 2, cells := 0, slots := 0, locals := 43 } : Room) [.ref o, .int (nI (x))] X (fun rv X' => rv = some (.ref o) ∧ X' = zup (zup X b (.inl (zar g 1, 8, .inl (upd f n (nI x))))) o (.inr (25, [.ref b, .int 0, .int 0, .int (nI (n + 1))]))) := by
  refine zN.of (by decide +kernel) (Nat.le_of_ble_eq_true rfl) rfl ?_
  refine z_lv (lv' := [(0, .ref o), (1, .int (nI (x)))]) [0, 1] rfl ?_
  refine z_aload_n 0 dJ14_append_0 rfl ?_
  refine z_iload_n 1 dJ14_append_1 rfl ?_
  refine z_callT (As := [.int (nI (x))]) (t_sbA ho ho0 hb hb0 hn x hx) q663 q2074 q658 (by decide) q664 q132 q665 nm_J13_append ho rfl rfl (Nat.le_of_ble_eq_true rfl) ⟨Nat.le_of_ble_eq_true rfl, Nat.le_of_ble_eq_true rfl⟩ dJ14_append_2 rfl rfl (Nat.le_of_ble_eq_true rfl) (Nat.le_of_ble_eq_true rfl) (fun v_1 X_2 hp_3 => ?_)
  obtain ⟨rfl, h7⟩ := hp_3
  replace h7 := h7.symm
  subst h7
  refine z_st (st' := [.ref o]) rfl ?_
  refine z_pop dJ14_append_5 rfl ?_
  refine z_aload_n 0 dJ14_append_6 rfl ?_
  exact z_aret dJ14_append_7 rfl (Or.inl ⟨_, rfl⟩) (Or.inr ⟨_, rfl⟩) (Nat.le_of_ble_eq_true rfl) (Nat.le_of_ble_eq_true rfl) ⟨rfl, rfl⟩
