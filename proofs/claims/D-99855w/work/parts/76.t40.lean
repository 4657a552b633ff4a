/-! THE LIBRARY: checks, lists, strings. Printed by t40.py -/
set_option maxRecDepth 100000
set_option maxHeartbeats 4000000 in
theorem t_chk_n {g : zG} {X : zX} (i n : Nat) (hi : i < n) (hn : n < 2 ^ 31) : zN g m_J4_checkIndex ({ frames := 0, cells := 0, slots := 0, locals := 0 } : Room) [.int (nI (i)), .int (nI (n)), .null] X (fun rv X' => rv = some (.int (nI i)) ∧ X' = X) := by
  refine zN.of (by decide +kernel) (Nat.le_of_ble_eq_true rfl) rfl ?_
  refine z_lv (lv' := [(0, .int (nI (i))), (1, .int (nI (n))), (2, .null)]) [0, 1, 2] rfl ?_
  refine z_iload_n 0 dJ4_checkIndex_0 rfl ?_
  refine z_if_ltN 9 (by omega) dJ4_checkIndex_1 (by decide) ?_
  refine z_iload_n 0 dJ4_checkIndex_4 rfl ?_
  refine z_iload_n 1 dJ4_checkIndex_5 rfl ?_
  refine z_icmp_ltN (a := i) (b := n) 16 (by omega) (by omega) dJ4_checkIndex_6 (by decide) (fun c_1 => ?_) (fun c_1 => absurd c_1 (by omega))
  refine z_iload_n 0 dJ4_checkIndex_16 rfl ?_
  exact z_iret dJ4_checkIndex_17 rfl (Nat.le_of_ble_eq_true rfl) (Nat.le_of_ble_eq_true rfl) ⟨rfl, rfl⟩
set_option maxHeartbeats 4000000 in
theorem t_chk_r {g : zG} {X : zX} {t : Nat} (i n : Nat) (hi : i < n) (hn : n < 2 ^ 31) : zN g m_J4_checkIndex ({ frames := 0, cells := 0, slots := 0, locals := 0 } : Room) [.int (nI (i)), .int (nI (n)), .ref t] X (fun rv X' => rv = some (.int (nI i)) ∧ X' = X) := by
  refine zN.of (by decide +kernel) (Nat.le_of_ble_eq_true rfl) rfl ?_
  refine z_lv (lv' := [(0, .int (nI (i))), (1, .int (nI (n))), (2, .ref t)]) [0, 1, 2] rfl ?_
  refine z_iload_n 0 dJ4_checkIndex_0 rfl ?_
  refine z_if_ltN 9 (by omega) dJ4_checkIndex_1 (by decide) ?_
  refine z_iload_n 0 dJ4_checkIndex_4 rfl ?_
  refine z_iload_n 1 dJ4_checkIndex_5 rfl ?_
  refine z_icmp_ltN (a := i) (b := n) 16 (by omega) (by omega) dJ4_checkIndex_6 (by decide) (fun c_1 => ?_) (fun c_1 => absurd c_1 (by omega))
  refine z_iload_n 0 dJ4_checkIndex_16 rfl ?_
  exact z_iret dJ4_checkIndex_17 rfl (Nat.le_of_ble_eq_true rfl) (Nat.le_of_ble_eq_true rfl) ⟨rfl, rfl⟩
set_option maxHeartbeats 4000000 in
theorem t_chkO {g : zG} {X : zX} (i n : Nat) (hi : i < n) (hn : n < 2 ^ 31) : zN g m_J3_checkIndex ({ frames := 1, cells := 0, slots := 0, locals := 22 } : Room) [.int (nI (i)), .int (nI (n))] X (fun rv X' => rv = some (.int (nI i)) ∧ X' = X) := by
  refine zN.of (by decide +kernel) (Nat.le_of_ble_eq_true rfl) rfl ?_
  refine z_lv (lv' := [(0, .int (nI (i))), (1, .int (nI (n)))]) [0, 1] rfl ?_
  refine z_iload_n 0 dJ3_checkIndex_0 rfl ?_
  refine z_iload_n 1 dJ3_checkIndex_1 rfl ?_
  refine z_null dJ3_checkIndex_2 ?_
  refine z_callS (As := [.int (nI (i)), .int (nI (n)), .null]) (t_chk_n i n (by omega) (by omega)) q318 q319 q120 q320 nm_J4_checkIndex rfl (Nat.le_of_ble_eq_true rfl) ⟨Nat.le_of_ble_eq_true rfl, Nat.le_of_ble_eq_true rfl⟩ dJ3_checkIndex_3 rfl rfl (Nat.le_of_ble_eq_true rfl) (Nat.le_of_ble_eq_true rfl) (fun v_1 X_2 hp_3 => ?_)
  obtain ⟨rfl, rfl⟩ := hp_3
  refine z_st (st' := [.int (nI (i))]) rfl ?_
  exact z_iret dJ3_checkIndex_6 rfl (Nat.le_of_ble_eq_true rfl) (Nat.le_of_ble_eq_true rfl) ⟨rfl, rfl⟩
set_option maxHeartbeats 4000000 in
theorem t_chkS {g : zG} {X : zX} (i n : Nat) (hi : i < n) (hn : n < 2 ^ 31) : zN g m_J5_checkIndex ({ frames := 1, cells := 0, slots := 0, locals := 22 } : Room) [.int (nI (i)), .int (nI (n))] X (fun rv X' => rv = none ∧ X' = X) := by
  refine zN.of (by decide +kernel) (Nat.le_of_ble_eq_true rfl) rfl ?_
  refine z_lv (lv' := [(0, .int (nI (i))), (1, .int (nI (n)))]) [0, 1] rfl ?_
  refine z_iload_n 0 dJ5_checkIndex_0 rfl ?_
  refine z_iload_n 1 dJ5_checkIndex_1 rfl ?_
  refine z_gsF q478 dJ5_checkIndex_2 (fun v_1 hv_2 => ?_)
  rcases hv_2 with rfl | ⟨t, rfl⟩
  · skip
    refine z_callS (As := [.int (nI (i)), .int (nI (n)), .null]) (t_chk_n i n (by omega) (by omega)) q532 q319 q120 q320 nm_J4_checkIndex rfl (Nat.le_of_ble_eq_true rfl) ⟨Nat.le_of_ble_eq_true rfl, Nat.le_of_ble_eq_true rfl⟩ dJ5_checkIndex_5 rfl rfl (Nat.le_of_ble_eq_true rfl) (Nat.le_of_ble_eq_true rfl) (fun v_3 X_4 hp_5 => ?_)
    obtain ⟨rfl, rfl⟩ := hp_5
    refine z_st (st' := [.int (nI (i))]) rfl ?_
    refine z_pop dJ5_checkIndex_8 rfl ?_
    exact z_vret dJ5_checkIndex_9 rfl (Nat.le_of_ble_eq_true rfl) (Nat.le_of_ble_eq_true rfl) ⟨rfl, rfl⟩
  · skip
    refine z_callS (As := [.int (nI (i)), .int (nI (n)), .ref t]) (t_chk_r i n (by omega) (by omega)) q532 q319 q120 q320 nm_J4_checkIndex rfl (Nat.le_of_ble_eq_true rfl) ⟨Nat.le_of_ble_eq_true rfl, Nat.le_of_ble_eq_true rfl⟩ dJ5_checkIndex_5 rfl rfl (Nat.le_of_ble_eq_true rfl) (Nat.le_of_ble_eq_true rfl) (fun v_6 X_7 hp_8 => ?_)
    obtain ⟨rfl, rfl⟩ := hp_8
    refine z_st (st' := [.int (nI (i))]) rfl ?_
    refine z_pop dJ5_checkIndex_8 rfl ?_
    exact z_vret dJ5_checkIndex_9 rfl (Nat.le_of_ble_eq_true rfl) (Nat.le_of_ble_eq_true rfl) ⟨rfl, rfl⟩
set_option maxHeartbeats 4000000 in
theorem t_size {g : zG} {X : zX} {l e n : Nat} {mc : Int32} (hl : X l = some (.inr (23, [.int mc, .ref e, .int (nI (n))]))) : zN g m_J2_size ({ frames := 0, cells := 0, slots := 0, locals := 0 } : Room) [.ref l] X (fun rv X' => rv = some (.int (nI n)) ∧ X' = X) := by
  refine zN.of (by decide +kernel) (Nat.le_of_ble_eq_true rfl) rfl ?_
  refine z_lv (lv' := [(0, .ref l)]) [0] rfl ?_
  refine z_aload_n 0 dJ2_size_0 rfl ?_
  refine z_get (v := .int (nI (n))) 2 hl rfl in_J2 (by decide) q217 rfl dJ2_size_1 ?_
  exact z_iret dJ2_size_4 rfl (Nat.le_of_ble_eq_true rfl) (Nat.le_of_ble_eq_true rfl) ⟨rfl, rfl⟩
set_option maxHeartbeats 4000000 in
theorem t_elem {g : zG} {X : zX} {l e n c : Nat} {mc : Int32} {f : Nat → Option Nat} (hl : X l = some (.inr (23, [.int mc, .ref e, .int (nI (n))]))) (he : X e = some (.inl (zar g 4, c, .inr (.inr (.inr (.inr f)))))) (hc : c < 2 ^ 31) {a : Nat} (i : Nat) (hi : i < c) (hf : f i = some a) : zN g m_J2_elementData ({ frames := 0, cells := 0, slots := 0, locals := 0 } : Room) [.ref l, .int (nI (i))] X (fun rv X' => rv = some (.ref a) ∧ X' = X) := by
  refine zN.of (by decide +kernel) (Nat.le_of_ble_eq_true rfl) rfl ?_
  refine z_lv (lv' := [(0, .ref l), (1, .int (nI (i)))]) [0, 1] rfl ?_
  refine z_aload_n 0 dJ2_elementData_0 rfl ?_
  refine z_get (v := .ref e) 1 hl rfl in_J2 (by decide) q216 rfl dJ2_elementData_1 ?_
  refine z_iload_n 1 dJ2_elementData_4 rfl ?_
  refine z_aald4 (v := .ref a) i he rfl (by omega) (by omega) (by rw [hf]; rfl) dJ2_elementData_5 ?_
  exact z_aret dJ2_elementData_6 rfl (Or.inl ⟨_, rfl⟩) (Or.inr ⟨_, rfl⟩) (Nat.le_of_ble_eq_true rfl) (Nat.le_of_ble_eq_true rfl) ⟨rfl, rfl⟩
set_option maxHeartbeats 4000000 in
theorem t_getL {g : zG} {X : zX} {l e n c : Nat} {mc : Int32} {f : Nat → Option Nat} (hl : X l = some (.inr (23, [.int mc, .ref e, .int (nI (n))]))) (he : X e = some (.inl (zar g 4, c, .inr (.inr (.inr (.inr f)))))) (hc : c < 2 ^ 31) {a : Nat} (i : Nat) (hi : i < n) (hn : n ≤ c) (hf : f i = some a) : zN g m_J2_get ({ frames := 2, cells := 0, slots := 0, locals := 43 } : Room) [.ref l, .int (nI (i))] X (fun rv X' => rv = some (.ref a) ∧ X' = X) := by
  refine zN.of (by decide +kernel) (Nat.le_of_ble_eq_true rfl) rfl ?_
  refine z_lv (lv' := [(0, .ref l), (1, .int (nI (i)))]) [0, 1] rfl ?_
  refine z_iload_n 1 dJ2_get_0 rfl ?_
  refine z_aload_n 0 dJ2_get_1 rfl ?_
  refine z_get (v := .int (nI (n))) 2 hl rfl in_J2 (by decide) q217 rfl dJ2_get_2 ?_
  refine z_callS (As := [.int (nI (i)), .int (nI (n))]) (t_chkO i n (by omega) (by omega)) q315 q316 q119 q317 nm_J3_checkIndex rfl (Nat.le_of_ble_eq_true rfl) ⟨Nat.le_of_ble_eq_true rfl, Nat.le_of_ble_eq_true rfl⟩ dJ2_get_5 rfl rfl (Nat.le_of_ble_eq_true rfl) (Nat.le_of_ble_eq_true rfl) (fun v_1 X_2 hp_3 => ?_)
  obtain ⟨rfl, rfl⟩ := hp_3
  refine z_st (st' := [.int (nI (i))]) rfl ?_
  refine z_pop dJ2_get_8 rfl ?_
  refine z_aload_n 0 dJ2_get_9 rfl ?_
  refine z_iload_n 1 dJ2_get_10 rfl ?_
  refine z_callV (As := [.int (nI (i))]) (t_elem hl he (by omega) i (by omega) hf) q321 q322 q323 q117 q324 nm_J2_elementData hl rfl rfl rfl (Nat.le_of_ble_eq_true rfl) ⟨Nat.le_of_ble_eq_true rfl, Nat.le_of_ble_eq_true rfl⟩ dJ2_get_11 rfl rfl (Nat.le_of_ble_eq_true rfl) (Nat.le_of_ble_eq_true rfl) (fun v_4 X_5 hp_6 => ?_)
  obtain ⟨rfl, rfl⟩ := hp_6
  refine z_st (st' := [.ref a]) rfl ?_
  exact z_aret dJ2_get_14 rfl (Or.inl ⟨_, rfl⟩) (Or.inr ⟨_, rfl⟩) (Nat.le_of_ble_eq_true rfl) (Nat.le_of_ble_eq_true rfl) ⟨rfl, rfl⟩
set_option maxHeartbeats 4000000 in
theorem t_coder {g : zG} {X : zX} {o b : Nat} {hs hz : Int32} (ho : X o = some (.inr (24, [.ref b, .int 0, .int hs, .int hz]))) : zN g m_J5_coder ({ frames := 0, cells := 0, slots := 0, locals := 0 } : Room) [.ref o] X (fun rv X' => rv = some (.int 0) ∧ X' = X) := by
  refine zN.of (by decide +kernel) (Nat.le_of_ble_eq_true rfl) rfl ?_
  refine z_lv (lv' := [(0, .ref o)]) [0] rfl ?_
  refine z_gsC q435 dJ5_coder_0 ?_
  refine z_if_eq 13 dJ5_coder_3 (by decide) (fun h_ => absurd h_ (by decide)) (fun h_ => ?_)
  refine z_aload_n 0 dJ5_coder_6 rfl ?_
  refine z_get (v := .int 0) 1 ho rfl in_J5 (by decide) q777 rfl dJ5_coder_7 ?_
  refine z_goto 14 dJ5_coder_10 (by decide) ?_
  exact z_zret dJ5_coder_14 rfl (by first | rfl | decide | exact zb_nar _) (Nat.le_of_ble_eq_true rfl) (Nat.le_of_ble_eq_true rfl) ⟨rfl, rfl⟩
set_option maxHeartbeats 4000000 in
theorem t_isL1 {g : zG} {X : zX} {o b : Nat} {hs hz : Int32} (ho : X o = some (.inr (24, [.ref b, .int 0, .int hs, .int hz]))) : zN g m_J5_isLatin1 ({ frames := 0, cells := 0, slots := 0, locals := 0 } : Room) [.ref o] X (fun rv X' => rv = some (.int 1) ∧ X' = X) := by
  refine zN.of (by decide +kernel) (Nat.le_of_ble_eq_true rfl) rfl ?_
  refine z_lv (lv' := [(0, .ref o)]) [0] rfl ?_
  refine z_gsC q435 dJ5_isLatin1_0 ?_
  refine z_if_eq 17 dJ5_isLatin1_3 (by decide) (fun h_ => absurd h_ (by decide)) (fun h_ => ?_)
  refine z_aload_n 0 dJ5_isLatin1_6 rfl ?_
  refine z_get (v := .int 0) 1 ho rfl in_J5 (by decide) q777 rfl dJ5_isLatin1_7 ?_
  refine z_if_ne 17 dJ5_isLatin1_10 (by decide) (fun h_ => absurd h_ (by decide)) (fun h_ => ?_)
  refine z_iconst (v := 1) dJ5_isLatin1_13 (by decide) ?_
  refine z_goto 18 dJ5_isLatin1_14 (by decide) ?_
  exact z_zret dJ5_isLatin1_18 rfl (by first | rfl | decide | exact zb_nar _) (Nat.le_of_ble_eq_true rfl) (Nat.le_of_ble_eq_true rfl) ⟨rfl, rfl⟩
set_option maxHeartbeats 4000000 in
theorem t_len {g : zG} {X : zX} {o b n : Nat} {hs hz : Int32} {f : Nat → Int32} (ho : X o = some (.inr (24, [.ref b, .int 0, .int hs, .int hz]))) (hb : X b = some (.inl (zar g 1, n, .inl f))) (hn : n < 2 ^ 31)  : zN g m_J5_length ({ frames := 1, cells := 0, slots := 0, locals := 20 } : Room) [.ref o] X (fun rv X' => rv = some (.int (nI n)) ∧ X' = X) := by
  refine zN.of (by decide +kernel) (Nat.le_of_ble_eq_true rfl) rfl ?_
  refine z_lv (lv' := [(0, .ref o)]) [0] rfl ?_
  refine z_aload_n 0 dJ5_length_0 rfl ?_
  refine z_get (v := .ref b) 0 ho rfl in_J5 (by decide) q776 rfl dJ5_length_1 ?_
  refine z_alen (ti := 1) hb rfl dJ5_length_4 ?_
  refine z_aload_n 0 dJ5_length_5 rfl ?_
  refine z_callV (As := []) (t_coder ho) q441 q442 q443 q122 q444 nm_J5_coder ho rfl rfl rfl (Nat.le_of_ble_eq_true rfl) ⟨Nat.le_of_ble_eq_true rfl, Nat.le_of_ble_eq_true rfl⟩ dJ5_length_6 rfl rfl (Nat.le_of_ble_eq_true rfl) (Nat.le_of_ble_eq_true rfl) (fun v_1 X_2 hp_3 => ?_)
  obtain ⟨rfl, rfl⟩ := hp_3
  refine z_st (st' := [.int 0, .int (nI (n))]) rfl ?_
  refine z_ishr dJ5_length_9 ?_
  refine z_eq (y := nI (n)) (s_shr_0 _) ?_
  exact z_iret dJ5_length_10 rfl (Nat.le_of_ble_eq_true rfl) (Nat.le_of_ble_eq_true rfl) ⟨rfl, rfl⟩
set_option maxHeartbeats 4000000 in
theorem t_charB {g : zG} {X : zX} {b n : Nat} {f : Nat → Int32} (hb : X b = some (.inl (zar g 1, n, .inl f))) (hn : n < 2 ^ 31) (i : Nat) (hi : i < n) {c : Nat} (hc : c < 128) (hfc : f i = nI c) : zN g m_J6_charAt ({ frames := 2, cells := 0, slots := 0, locals := 43 } : Room) [.ref b, .int (nI (i))] X (fun rv X' => rv = some (.int (nI c)) ∧ X' = X) := by
  refine zN.of (by decide +kernel) (Nat.le_of_ble_eq_true rfl) rfl ?_
  refine z_lv (lv' := [(0, .ref b), (1, .int (nI (i)))]) [0, 1] rfl ?_
  refine z_iload_n 1 dJ6_charAt_0 rfl ?_
  refine z_aload_n 0 dJ6_charAt_1 rfl ?_
  refine z_alen (ti := 1) hb rfl dJ6_charAt_2 ?_
  refine z_callS (As := [.int (nI (i)), .int (nI (n))]) (t_chkS i n (by omega) (by omega)) q529 q530 q122 q531 nm_J5_checkIndex rfl (Nat.le_of_ble_eq_true rfl) ⟨Nat.le_of_ble_eq_true rfl, Nat.le_of_ble_eq_true rfl⟩ dJ6_charAt_3 rfl rfl (Nat.le_of_ble_eq_true rfl) (Nat.le_of_ble_eq_true rfl) (fun v_1 X_2 hp_3 => ?_)
  obtain ⟨rfl, rfl⟩ := hp_3
  refine z_st (st' := []) rfl ?_
  refine z_aload_n 0 dJ6_charAt_6 rfl ?_
  refine z_iload_n 1 dJ6_charAt_7 rfl ?_
  refine z_bald i hb rfl (by omega) (by omega) dJ6_charAt_8 ?_
  refine z_eq (y := nI (c)) hfc ?_
  refine z_sipush (v := 255) dJ6_charAt_9 (by decide) ?_
  refine z_iand dJ6_charAt_12 ?_
  refine z_eq (y := nI (c)) (s_chr c hc).1 ?_
  refine z_i2c (v := ((nI (c)).toUInt32 % 65536).toInt32) dJ6_charAt_13 rfl ?_
  refine z_eq (y := nI (c)) (s_chr c hc).2.1 ?_
  exact z_zret dJ6_charAt_14 rfl (congrArg Value.int (s_chr c hc).2.1) (Nat.le_of_ble_eq_true rfl) (Nat.le_of_ble_eq_true rfl) ⟨rfl, rfl⟩
set_option maxHeartbeats 4000000 in
theorem t_charAt {g : zG} {X : zX} {o b n : Nat} {hs hz : Int32} {f : Nat → Int32} (ho : X o = some (.inr (24, [.ref b, .int 0, .int hs, .int hz]))) (hb : X b = some (.inl (zar g 1, n, .inl f))) (hn : n < 2 ^ 31) (i : Nat) (hi : i < n) {c : Nat} (hc : c < 128) (hfc : f i = nI c) : zN g m_J5_charAt ({ frames := 3, cells := 0, slots := 0, locals := 64 } : Room) [.ref o, .int (nI (i))] X (fun rv X' => rv = some (.int (nI c)) ∧ X' = X) := by
  refine zN.of (by decide +kernel) (Nat.le_of_ble_eq_true rfl) rfl ?_
  refine z_lv (lv' := [(0, .ref o), (1, .int (nI (i)))]) [0, 1] rfl ?_
  refine z_aload_n 0 dJ5_charAt_0 rfl ?_
  refine z_callV (As := []) (t_isL1 ho) q431 q432 q433 q122 q434 nm_J5_isLatin1 ho rfl rfl rfl (Nat.le_of_ble_eq_true rfl) ⟨Nat.le_of_ble_eq_true rfl, Nat.le_of_ble_eq_true rfl⟩ dJ5_charAt_1 rfl rfl (Nat.le_of_ble_eq_true rfl) (Nat.le_of_ble_eq_true rfl) (fun v_1 X_2 hp_3 => ?_)
  obtain ⟨rfl, rfl⟩ := hp_3
  refine z_st (st' := [.int 1]) rfl ?_
  refine z_if_eq 16 dJ5_charAt_4 (by decide) (fun h_ => absurd h_ (by decide)) (fun h_ => ?_)
  refine z_aload_n 0 dJ5_charAt_7 rfl ?_
  refine z_get (v := .ref b) 0 ho rfl in_J5 (by decide) q776 rfl dJ5_charAt_8 ?_
  refine z_iload_n 1 dJ5_charAt_11 rfl ?_
  refine z_callS (As := [.ref b, .int (nI (i))]) (t_charB hb (by omega) i (by omega) hc hfc) q526 q527 q123 q528 nm_J6_charAt rfl (Nat.le_of_ble_eq_true rfl) ⟨Nat.le_of_ble_eq_true rfl, Nat.le_of_ble_eq_true rfl⟩ dJ5_charAt_12 rfl rfl (Nat.le_of_ble_eq_true rfl) (Nat.le_of_ble_eq_true rfl) (fun v_4 X_5 hp_6 => ?_)
  obtain ⟨rfl, rfl⟩ := hp_6
  refine z_st (st' := [.int (nI (c))]) rfl ?_
  exact z_zret dJ5_charAt_15 rfl (congrArg Value.int (s_chr c hc).2.1) (Nat.le_of_ble_eq_true rfl) (Nat.le_of_ble_eq_true rfl) ⟨rfl, rfl⟩
set_option maxHeartbeats 4000000 in
theorem t_canE {g : zG} {X : zX} (c : Nat) (hc : c < 128) : zN g m_J6_canEncode ({ frames := 0, cells := 0, slots := 0, locals := 0 } : Room) [.int (nI (c))] X (fun rv X' => rv = some (.int 1) ∧ X' = X) := by
  refine zN.of (by decide +kernel) (Nat.le_of_ble_eq_true rfl) rfl ?_
  refine z_lv (lv' := [(0, .int (nI (c)))]) [0] rfl ?_
  refine z_iload_n 0 dJ6_canEncode_0 rfl ?_
  refine z_if_ltN 15 (by omega) dJ6_canEncode_1 (by decide) ?_
  refine z_iload_n 0 dJ6_canEncode_4 rfl ?_
  refine z_sipush (v := 255) dJ6_canEncode_5 (by decide) ?_
  refine z_icmp_gtN (a := c) (b := 255) 15 (by omega) (by omega) dJ6_canEncode_8 (by decide) (fun c_1 => absurd c_1 (by omega)) (fun c_1 => ?_)
  refine z_iconst (v := 1) dJ6_canEncode_11 (by decide) ?_
  refine z_goto 16 dJ6_canEncode_12 (by decide) ?_
  exact z_zret dJ6_canEncode_16 rfl (by first | rfl | decide | exact zb_nar _) (Nat.le_of_ble_eq_true rfl) (Nat.le_of_ble_eq_true rfl) ⟨rfl, rfl⟩
set_option maxHeartbeats 4000000 in
theorem t_canE2 {g : zG} {X : zX} (c : Nat) (hc : c < 128) : zN g m_J6_canEncode_2 ({ frames := 0, cells := 0, slots := 0, locals := 0 } : Room) [.int (nI (c))] X (fun rv X' => rv = some (.int 1) ∧ X' = X) := by
  refine zN.of (by decide +kernel) (Nat.le_of_ble_eq_true rfl) rfl ?_
  refine z_lv (lv' := [(0, .int (nI (c)))]) [0] rfl ?_
  refine z_iload_n 0 dJ6_canEncode_2_0 rfl ?_
  refine z_sipush (v := 255) dJ6_canEncode_2_1 (by decide) ?_
  refine z_icmp_gtN (a := c) (b := 255) 11 (by omega) (by omega) dJ6_canEncode_2_4 (by decide) (fun c_1 => absurd c_1 (by omega)) (fun c_1 => ?_)
  refine z_iconst (v := 1) dJ6_canEncode_2_7 (by decide) ?_
  refine z_goto 12 dJ6_canEncode_2_8 (by decide) ?_
  exact z_zret dJ6_canEncode_2_12 rfl (by first | rfl | decide | exact zb_nar _) (Nat.le_of_ble_eq_true rfl) (Nat.le_of_ble_eq_true rfl) ⟨rfl, rfl⟩
set_option maxHeartbeats 4000000 in
theorem t_ixC {g : zG} {X : zX} {b n : Nat} {f : Nat → Int32} (hb : X b = some (.inl (zar g 1, n, .inl f))) (hn : n < 2 ^ 31) (ch fr : Nat) (hch : ch < 128) (hfr : fr ≤ n) : zN g m_J6_indexOfChar ({ frames := 0, cells := 0, slots := 0, locals := 0 } : Room) [.ref b, .int (nI (ch)), .int (nI (fr)), .int (nI (n))] X (fun rv X' => rv = some (.int (s_ix f (nI ch) n fr)) ∧ X' = X) := by
  refine zN.of (by decide +kernel) (Nat.le_of_ble_eq_true rfl) rfl ?_
  refine z_lv (lv' := [(0, .ref b), (1, .int (nI (ch))), (2, .int (nI (fr))), (3, .int (nI (n)))]) [0, 1, 2, 3] rfl ?_
  refine z_iload_n 1 dJ6_indexOfChar_0 rfl ?_
  refine z_i2b (v := (nI (ch)).toInt8.toInt32) dJ6_indexOfChar_1 rfl ?_
  refine z_eq (y := nI (ch)) (s_chr ch hch).2.2 ?_
  refine z_istore (lv' := [(4, .int (nI (ch))), (0, .ref b), (1, .int (nI (ch))), (2, .int (nI (fr))), (3, .int (nI (n)))]) dJ6_indexOfChar_2 (by decide) rfl ?_
  refine z_iload_n 3 dJ6_indexOfChar_4 rfl ?_
  refine z_istore (lv' := [(5, .int (nI (fr))), (4, .int (nI (ch))), (0, .ref b), (1, .int (nI (ch))), (2, .int (nI (fr))), (3, .int (nI (n)))]) dJ6_indexOfChar_5 (by decide) rfl ?_
  have loop_5 : ∀ (q_2 i_1 : Nat), i_1 + q_2 = n → fr ≤ i_1 → s_fst (fun k => decide (f k = nI ch)) nI (n - fr) fr = s_fst (fun k => decide (f k = nI ch)) nI q_2 i_1 → zZ g m_J6_indexOfChar (fun rv X' => rv = some (.int (s_ix f (nI ch) n fr)) ∧ X' = X, zno, ({ frames := 0, cells := 0, slots := 0, locals := 0 } : Room)) 0 0 X 7 [(0, .ref b), (1, .int (nI (ch))), (2, .int (nI (fr))), (3, .int (nI (n))), (4, .int (nI (ch))), (5, .int (nI (i_1)))] [] := by
    intro q_2
    induction q_2 with
    | zero =>
      intro i_1 hb_4 lo_7  hi_6
      obtain rfl : n = i_1 := by omega
      refine z_iload 5 dJ6_indexOfChar_7 rfl ?_
      refine z_iload_n 3 dJ6_indexOfChar_9 rfl ?_
      refine z_icmp_geN (a := n) (b := n) 31 (by omega) (by omega) dJ6_indexOfChar_10 (by decide) (fun c_8 => ?_) (fun c_8 => absurd c_8 (by omega))
      refine z_iconst (v := zm1) dJ6_indexOfChar_31 (by decide) ?_
      exact z_iret dJ6_indexOfChar_32 rfl (Nat.le_of_ble_eq_true rfl) (Nat.le_of_ble_eq_true rfl) ⟨congrArg some (congrArg Value.int (hi_6.symm)), rfl⟩
    | succ q_2 ih_3 =>
      intro i_1 hb_4 lo_7  hi_6
      refine z_iload 5 dJ6_indexOfChar_7 rfl ?_
      refine z_iload_n 3 dJ6_indexOfChar_9 rfl ?_
      refine z_icmp_geN (a := i_1) (b := n) 31 (by omega) (by omega) dJ6_indexOfChar_10 (by decide) (fun c_9 => absurd c_9 (by omega)) (fun c_9 => ?_)
      refine z_aload_n 0 dJ6_indexOfChar_13 rfl ?_
      refine z_iload 5 dJ6_indexOfChar_14 rfl ?_
      refine z_bald i_1 hb rfl (by omega) (by omega) dJ6_indexOfChar_16 ?_
      refine z_iload 4 dJ6_indexOfChar_17 rfl ?_
      refine z_icmp_ne 25 dJ6_indexOfChar_19 (by decide) (fun c_10 => ?_) (fun c_10 => ?_)
      · -- ¬ f i_1 = nI (ch)
        refine z_iinc (v := nI (i_1 + 1)) (lv' := [(5, .int (nI (i_1 + 1))), (0, .ref b), (1, .int (nI (ch))), (2, .int (nI (fr))), (3, .int (nI (n))), (4, .int (nI (ch)))]) 5 dJ6_indexOfChar_25 rfl (nI_1 _) (by decide) rfl ?_
        refine z_goto 7 dJ6_indexOfChar_28 (by decide) ?_
        refine z_lv (lv' := [(0, .ref b), (1, .int (nI (ch))), (2, .int (nI (fr))), (3, .int (nI (n))), (4, .int (nI (ch))), (5, .int (nI (i_1 + 1)))]) [1, 2, 3, 4, 5, 0] rfl ?_
        exact ih_3 (i_1 + 1) (by omega) (by omega)  (hi_6.trans (s_fst_f (decide_eq_false c_10)))
      · -- f i_1 = nI (ch)
        refine z_iload 5 dJ6_indexOfChar_22 rfl ?_
        exact z_iret dJ6_indexOfChar_24 rfl (Nat.le_of_ble_eq_true rfl) (Nat.le_of_ble_eq_true rfl) ⟨congrArg some (congrArg Value.int (hi_6.trans (s_fst_t (decide_eq_true c_10))).symm), rfl⟩
  refine z_lv (lv' := [(0, .ref b), (1, .int (nI (ch))), (2, .int (nI (fr))), (3, .int (nI (n))), (4, .int (nI (ch))), (5, .int (nI (fr)))]) [2, 3, 4, 5, 1, 0] rfl ?_
  exact loop_5 (n - fr) fr (by omega) (Nat.le_refl _)  rfl
set_option maxHeartbeats 4000000 in
theorem t_ixB {g : zG} {X : zX} {b n : Nat} {f : Nat → Int32} (hb : X b = some (.inl (zar g 1, n, .inl f))) (hn : n < 2 ^ 31) (ch fr : Nat) (hch : ch < 128) (hfr : fr ≤ n) : zN g m_J6_indexOf ({ frames := 1, cells := 0, slots := 0, locals := 25 } : Room) [.ref b, .int (nI (ch)), .int (nI (fr)), .int (nI (n))] X (fun rv X' => rv = some (.int (s_ix f (nI ch) n fr)) ∧ X' = X) := by
  refine zN.of (by decide +kernel) (Nat.le_of_ble_eq_true rfl) rfl ?_
  refine z_lv (lv' := [(0, .ref b), (1, .int (nI (ch))), (2, .int (nI (fr))), (3, .int (nI (n)))]) [0, 1, 2, 3] rfl ?_
  refine z_iload_n 1 dJ6_indexOf_0 rfl ?_
  refine z_callS (As := [.int (nI (ch))]) (t_canE ch (by omega)) q448 q449 q123 q450 nm_J6_canEncode rfl (Nat.le_of_ble_eq_true rfl) ⟨Nat.le_of_ble_eq_true rfl, Nat.le_of_ble_eq_true rfl⟩ dJ6_indexOf_1 rfl rfl (Nat.le_of_ble_eq_true rfl) (Nat.le_of_ble_eq_true rfl) (fun v_1 X_2 hp_3 => ?_)
  obtain ⟨rfl, rfl⟩ := hp_3
  refine z_st (st' := [.int 1]) rfl ?_
  refine z_if_ne 9 dJ6_indexOf_4 (by decide) (fun h_ => ?_) (fun h_ => absurd h_ (by decide))
  refine z_iload_n 2 dJ6_indexOf_9 rfl ?_
  refine z_iconst (v := 0) dJ6_indexOf_10 (by decide) ?_
  refine z_mmax (v := nI ((if fr < 0 then 0 else fr))) q451 q452 q124 q453 (Nat.le_of_ble_eq_true rfl) (Nat.le_of_ble_eq_true rfl) (Nat.le_of_ble_eq_true rfl) (Nat.le_of_ble_eq_true rfl) dJ6_indexOf_11 (zmaxN (a := fr) (b := 0) (by omega) (by omega)) ?_
  refine z_istore_n (lv' := [(2, .int (nI ((if fr < 0 then 0 else fr)))), (0, .ref b), (1, .int (nI (ch))), (3, .int (nI (n)))]) dJ6_indexOf_14 rfl (by decide) rfl ?_
  refine z_lv (lv' := [(2, .int (nI (fr))), (0, .ref b), (1, .int (nI (ch))), (3, .int (nI (n)))]) [0, 1, 2, 3] (by rw [show (if fr < 0 then 0 else fr) = fr by split <;> omega]; rfl) ?_
  refine z_iload_n 3 dJ6_indexOf_15 rfl ?_
  refine z_aload_n 1 dJ6_indexOf_16 rfl ?_
  refine z_alen (ti := 1) hb rfl dJ6_indexOf_17 ?_
  refine z_mmin (v := nI ((if n < n then n else n))) q454 q455 q124 q456 (Nat.le_of_ble_eq_true rfl) (Nat.le_of_ble_eq_true rfl) (Nat.le_of_ble_eq_true rfl) (Nat.le_of_ble_eq_true rfl) dJ6_indexOf_18 (zminN (a := n) (b := n) (by omega) (by omega)) ?_
  refine z_istore_n (lv' := [(3, .int (nI ((if n < n then n else n)))), (2, .int (nI (fr))), (0, .ref b), (1, .int (nI (ch)))]) dJ6_indexOf_21 rfl (by decide) rfl ?_
  refine z_lv (lv' := [(3, .int (nI (n))), (2, .int (nI (fr))), (0, .ref b), (1, .int (nI (ch)))]) [0, 1, 2, 3] (by rw [show (if n < n then n else n) = n by split <;> omega]; rfl) ?_
  refine z_iload_n 1 dJ6_indexOf_22 rfl ?_
  refine z_iload_n 0 dJ6_indexOf_23 rfl ?_
  refine z_icmp_ltN (a := fr) (b := n) 29 (by omega) (by omega) dJ6_indexOf_24 (by decide) (fun c_4 => ?_) (fun c_4 => ?_)
  · -- fr < n
    refine z_aload_n 2 dJ6_indexOf_29 rfl ?_
    refine z_iload_n 3 dJ6_indexOf_30 rfl ?_
    refine z_iload_n 1 dJ6_indexOf_31 rfl ?_
    refine z_iload_n 0 dJ6_indexOf_32 rfl ?_
    refine z_callS (As := [.ref b, .int (nI (ch)), .int (nI (fr)), .int (nI (n))]) (t_ixC hb (by omega) ch fr (by omega) (by omega)) q457 q458 q123 q459 nm_J6_indexOfChar rfl (Nat.le_of_ble_eq_true rfl) ⟨Nat.le_of_ble_eq_true rfl, Nat.le_of_ble_eq_true rfl⟩ dJ6_indexOf_33 rfl rfl (Nat.le_of_ble_eq_true rfl) (Nat.le_of_ble_eq_true rfl) (fun v_5 X_6 hp_7 => ?_)
    obtain ⟨rfl, rfl⟩ := hp_7
    refine z_st (st' := [.int (s_ix f (nI (ch)) n fr)]) rfl ?_
    exact z_iret dJ6_indexOf_36 rfl (Nat.le_of_ble_eq_true rfl) (Nat.le_of_ble_eq_true rfl) ⟨rfl, rfl⟩
  · -- n ≤ fr
    refine z_iconst (v := zm1) dJ6_indexOf_27 (by decide) ?_
    exact z_iret dJ6_indexOf_28 rfl (Nat.le_of_ble_eq_true rfl) (Nat.le_of_ble_eq_true rfl) ⟨congrArg some (congrArg Value.int (show zm1 = s_ix f (nI ch) n fr by unfold s_ix; rw [show n - fr = 0 by omega]; rfl)), rfl⟩
set_option maxHeartbeats 4000000 in
theorem t_ix2 {g : zG} {X : zX} {o b n : Nat} {hs hz : Int32} {f : Nat → Int32} (ho : X o = some (.inr (24, [.ref b, .int 0, .int hs, .int hz]))) (hb : X b = some (.inl (zar g 1, n, .inl f))) (hn : n < 2 ^ 31) (ch fr : Nat) (hch : ch < 128) (hfr : fr ≤ n) : zN g m_J5_indexOf_2 ({ frames := 2, cells := 0, slots := 0, locals := 48 } : Room) [.ref o, .int (nI (ch)), .int (nI (fr))] X (fun rv X' => rv = some (.int (s_ix f (nI ch) n fr)) ∧ X' = X) := by
  refine zN.of (by decide +kernel) (Nat.le_of_ble_eq_true rfl) rfl ?_
  refine z_lv (lv' := [(0, .ref o), (1, .int (nI (ch))), (2, .int (nI (fr)))]) [0, 1, 2] rfl ?_
  refine z_aload_n 0 dJ5_indexOf_2_0 rfl ?_
  refine z_callV (As := []) (t_isL1 ho) q431 q432 q433 q122 q434 nm_J5_isLatin1 ho rfl rfl rfl (Nat.le_of_ble_eq_true rfl) ⟨Nat.le_of_ble_eq_true rfl, Nat.le_of_ble_eq_true rfl⟩ dJ5_indexOf_2_1 rfl rfl (Nat.le_of_ble_eq_true rfl) (Nat.le_of_ble_eq_true rfl) (fun v_1 X_2 hp_3 => ?_)
  obtain ⟨rfl, rfl⟩ := hp_3
  refine z_st (st' := [.int 1]) rfl ?_
  refine z_if_eq 23 dJ5_indexOf_2_4 (by decide) (fun h_ => absurd h_ (by decide)) (fun h_ => ?_)
  refine z_aload_n 0 dJ5_indexOf_2_7 rfl ?_
  refine z_get (v := .ref b) 0 ho rfl in_J5 (by decide) q776 rfl dJ5_indexOf_2_8 ?_
  refine z_iload_n 1 dJ5_indexOf_2_11 rfl ?_
  refine z_iload_n 2 dJ5_indexOf_2_12 rfl ?_
  refine z_aload_n 0 dJ5_indexOf_2_13 rfl ?_
  refine z_callV (As := []) (t_len ho hb (by omega)) q437 q438 q439 q122 q440 nm_J5_length ho rfl rfl rfl (Nat.le_of_ble_eq_true rfl) ⟨Nat.le_of_ble_eq_true rfl, Nat.le_of_ble_eq_true rfl⟩ dJ5_indexOf_2_14 rfl rfl (Nat.le_of_ble_eq_true rfl) (Nat.le_of_ble_eq_true rfl) (fun v_4 X_5 hp_6 => ?_)
  obtain ⟨rfl, rfl⟩ := hp_6
  refine z_st (st' := [.int (nI (n)), .int (nI (fr)), .int (nI (ch)), .ref b]) rfl ?_
  refine z_callS (As := [.ref b, .int (nI (ch)), .int (nI (fr)), .int (nI (n))]) (t_ixB hb (by omega) ch fr (by omega) (by omega)) q445 q446 q123 q447 nm_J6_indexOf rfl (Nat.le_of_ble_eq_true rfl) ⟨Nat.le_of_ble_eq_true rfl, Nat.le_of_ble_eq_true rfl⟩ dJ5_indexOf_2_17 rfl rfl (Nat.le_of_ble_eq_true rfl) (Nat.le_of_ble_eq_true rfl) (fun v_7 X_8 hp_9 => ?_)
  obtain ⟨rfl, rfl⟩ := hp_9
  refine z_st (st' := [.int (s_ix f (nI (ch)) n fr)]) rfl ?_
  refine z_goto 36 dJ5_indexOf_2_20 (by decide) ?_
  exact z_iret dJ5_indexOf_2_36 rfl (Nat.le_of_ble_eq_true rfl) (Nat.le_of_ble_eq_true rfl) ⟨rfl, rfl⟩
set_option maxHeartbeats 4000000 in
theorem t_ix1 {g : zG} {X : zX} {o b n : Nat} {hs hz : Int32} {f : Nat → Int32} (ho : X o = some (.inr (24, [.ref b, .int 0, .int hs, .int hz]))) (hb : X b = some (.inl (zar g 1, n, .inl f))) (hn : n < 2 ^ 31) (ch : Nat) (hch : ch < 128) : zN g m_J5_indexOf ({ frames := 3, cells := 0, slots := 0, locals := 70 } : Room) [.ref o, .int (nI (ch))] X (fun rv X' => rv = some (.int (s_ix f (nI ch) n 0)) ∧ X' = X) := by
  refine zN.of (by decide +kernel) (Nat.le_of_ble_eq_true rfl) rfl ?_
  refine z_lv (lv' := [(0, .ref o), (1, .int (nI (ch)))]) [0, 1] rfl ?_
  refine z_aload_n 0 dJ5_indexOf_0 rfl ?_
  refine z_iload_n 1 dJ5_indexOf_1 rfl ?_
  refine z_iconst (v := 0) dJ5_indexOf_2 (by decide) ?_
  refine z_callV (As := [.int (nI (ch)), .int 0]) (t_ix2 ho hb (by omega) ch 0 (by omega) (by omega)) q427 q428 q429 q122 q430 nm_J5_indexOf_2 ho rfl rfl rfl (Nat.le_of_ble_eq_true rfl) ⟨Nat.le_of_ble_eq_true rfl, Nat.le_of_ble_eq_true rfl⟩ dJ5_indexOf_3 rfl rfl (Nat.le_of_ble_eq_true rfl) (Nat.le_of_ble_eq_true rfl) (fun v_1 X_2 hp_3 => ?_)
  obtain ⟨rfl, rfl⟩ := hp_3
  refine z_st (st' := [.int (s_ix f (nI (ch)) n 0)]) rfl ?_
  exact z_iret dJ5_indexOf_6 rfl (Nat.le_of_ble_eq_true rfl) (Nat.le_of_ble_eq_true rfl) ⟨rfl, rfl⟩
