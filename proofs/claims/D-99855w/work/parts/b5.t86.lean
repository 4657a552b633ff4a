/-! STRINGS MADE. Printed by t86.py -/
set_option maxRecDepth 100000
set_option maxHeartbeats 4000000 in
theorem t_sbN14 {g : zG} {X : zX} {o b n : Nat} {f : Nat → Int32} (ho : X o = some (.inr (25, [.ref b, .int 0, .int 0, .int (nI n)]))) (ho0 : z0 g ≤ o) (hb : X b = some (.inl (zar g 1, 8, .inl f))) (hb0 : z0 g ≤ b)  : zN g m_J14_length ({ frames := 1, cells := 0, slots := 0, locals := 20 } : Room) [.ref o] X (fun rv X' => rv = some (.int (nI n)) ∧ X' = X) := by
  refine zN.of (by decide +kernel) (Nat.le_of_ble_eq_true rfl) rfl ?_
  refine z_lv (lv' := [(0, .ref o)]) [0] rfl ?_
  refine z_aload_n 0 dJ14_length_0 rfl ?_
  refine z_callT (As := []) (t_sbN ho ho0 hb hb0) q754 q750 q658 (by decide) q749 q132 q755 nm_J13_length ho rfl rfl (Nat.le_of_ble_eq_true rfl) ⟨Nat.le_of_ble_eq_true rfl, Nat.le_of_ble_eq_true rfl⟩ dJ14_length_1 rfl rfl (Nat.le_of_ble_eq_true rfl) (Nat.le_of_ble_eq_true rfl) (fun v_1 X_2 hp_3 => ?_)
  obtain ⟨rfl, h7⟩ := hp_3
  replace h7 := h7.symm
  subst h7
  refine z_st (st' := [.int (nI (n))]) rfl ?_
  exact z_iret dJ14_length_4 rfl (Nat.le_of_ble_eq_true rfl) (Nat.le_of_ble_eq_true rfl) ⟨rfl, rfl⟩
set_option maxHeartbeats 4000000 in
theorem t_ckLen {g : zG} {X : zX} (n : Nat) (hn : n ≤ 8) : zN g m_J16_checkLength ({ frames := 0, cells := 0, slots := 0, locals := 0 } : Room) [.int 0, .int (nI (n))] X (fun rv X' => rv = none ∧ X' = X) := by
  refine zN.of (by decide +kernel) (Nat.le_of_ble_eq_true rfl) rfl ?_
  refine z_lv (lv' := [(0, .int 0), (1, .int (nI (n)))]) [0, 1] rfl ?_
  refine z_iload_n 1 dJ16_checkLength_0 rfl ?_
  refine z_iload_n 0 dJ16_checkLength_1 rfl ?_
  refine z_icmp_geN (a := n) (b := 0) 37 (by omega) (by omega) dJ16_checkLength_2 (by decide) (fun c_1 => ?_) (fun c_1 => absurd c_1 (by omega))
  exact z_vret dJ16_checkLength_37 rfl (Nat.le_of_ble_eq_true rfl) (Nat.le_of_ble_eq_true rfl) ⟨rfl, rfl⟩
theorem va_cpy0 {f h : Nat → Int32} {n j : Nat} (hj : j < n) : va_cpy f h 0 0 n j = f j := by
  unfold va_cpy
  simp [hj]
set_option maxHeartbeats 4000000 in
theorem t_corB {g : zG} {X : zX} {b n : Nat} {f : Nat → Int32} (hb : X b = some (.inl (zar g 1, 8, .inl f))) (hb0 : z0 g ≤ b) (hn : n ≤ 8) (hft : ∀ q, q < 8 → fits .byte (.int (f q)) = true) : zN g m_J16_copyOfRangeByte ({ frames := 1, cells := 1, slots := 8, locals := 60 } : Room) [.ref b, .int 0, .int (nI (n))] X (fun rv X' => ∃ c f', rv = some (.ref c) ∧ X' = zup X c (.inl (zar g 1, n, .inl f')) ∧ X c = none ∧ z0 g ≤ c ∧ ∀ j, j < n → f' j = f j) := by
  refine zN.of (by decide +kernel) (Nat.le_of_ble_eq_true rfl) rfl ?_
  refine z_lv (lv' := [(0, .ref b), (1, .int 0), (2, .int (nI (n)))]) [0, 1, 2] rfl ?_
  refine z_iload_n 1 dJ16_copyOfRangeByte_0 rfl ?_
  refine z_iload_n 2 dJ16_copyOfRangeByte_1 rfl ?_
  refine z_callS (As := [.int 0, .int (nI (n))]) (t_ckLen n hn) q763 q764 q135 q765 nm_J16_checkLength rfl (Nat.le_of_ble_eq_true rfl) ⟨Nat.le_of_ble_eq_true rfl, Nat.le_of_ble_eq_true rfl⟩ dJ16_copyOfRangeByte_2 rfl rfl (Nat.le_of_ble_eq_true rfl) (Nat.le_of_ble_eq_true rfl) (fun v_1 X_2 hp_3 => ?_)
  obtain ⟨rfl, h7⟩ := hp_3
  replace h7 := h7.symm
  subst h7
  refine z_st (st' := []) rfl ?_
  refine z_iload_n 2 dJ16_copyOfRangeByte_5 rfl ?_
  refine z_iload_n 1 dJ16_copyOfRangeByte_6 rfl ?_
  refine z_isubN (a := n) (b := 0) (by omega) dJ16_copyOfRangeByte_7 ?_
  refine z_eq (y := nI (n)) (congrArg nI (by omega)) ?_
  refine z_istore_n (lv' := [(3, .int (nI (n))), (0, .ref b), (1, .int 0), (2, .int (nI (n)))]) dJ16_copyOfRangeByte_8 rfl (by decide) rfl ?_
  refine z_iload_n 0 dJ16_copyOfRangeByte_9 rfl ?_
  refine z_newb n rfl (by omega) q193 dJ16_copyOfRangeByte_10 rfl rfl (Nat.le_of_ble_eq_true rfl) (Nat.le_trans (show 0 + n ≤ 8 by omega) (Nat.le_of_ble_eq_true rfl)) (fun n_4 hn_5 hl_6 => ?_)
  have ne_7 : b ≠ n_4 := fun q9 => by rw [← q9, hb] at hn_5; cases hn_5
  have hx_8 : (zup X n_4 (.inl (zar g 1, n, .inl (fun _ => 0)))) b = some (.inl (zar g 1, 8, .inl f)) := zup_k ne_7 hb
  have hx_9 : (zup X n_4 (.inl (zar g 1, n, .inl (fun _ => 0)))) n_4 = some (.inl (zar g 1, n, .inl (fun _ => 0))) := zup_s
  refine z_widen (k' := 1) (n' := 8) (Nat.le_refl _) (show 0 + n ≤ 8 by omega) ?_
  refine z_astore (lv' := [(4, .ref n_4), (3, .int (nI (n))), (0, .ref b), (1, .int 0), (2, .int (nI (n)))]) dJ16_copyOfRangeByte_12 (by decide) rfl ?_
  refine z_aload_n 2 dJ16_copyOfRangeByte_14 rfl ?_
  refine z_iload_n 3 dJ16_copyOfRangeByte_15 rfl ?_
  refine z_aload 0 dJ16_copyOfRangeByte_16 rfl ?_
  refine z_iconst (v := 0) dJ16_copyOfRangeByte_18 (by decide) ?_
  refine z_aload_n 2 dJ16_copyOfRangeByte_19 rfl ?_
  refine z_alen (ti := 1) hx_8 rfl dJ16_copyOfRangeByte_20 ?_
  refine z_iload_n 3 dJ16_copyOfRangeByte_21 rfl ?_
  refine z_isubN (a := 8) (b := 0) (by omega) dJ16_copyOfRangeByte_22 ?_
  refine z_eq (y := nI (8)) (congrArg nI (by omega)) ?_
  refine z_iload_n 1 dJ16_copyOfRangeByte_23 rfl ?_
  refine z_mmin (v := nI ((if n < 8 then n else 8))) q693 q455 q124 q456 (Nat.le_of_ble_eq_true rfl) (Nat.le_of_ble_eq_true rfl) (Nat.le_of_ble_eq_true rfl) (Nat.le_of_ble_eq_true rfl) dJ16_copyOfRangeByte_24 (zminN (a := 8) (b := n) (by omega) (by omega)) ?_
  refine z_eq (y := nI n) (congrArg nI (show (if n < 8 then n else 8) = n by split <;> omega)) ?_
  refine z_copyB (X' := (zup X n_4 (.inl (zar g 1, n, .inl (va_cpy f (fun _ => 0) 0 0 n))))) 0 0 n (hx_8) (hx_9) hl_6 (by omega) (by omega) (by omega) (by omega) (fun q hq => by rw [Nat.zero_add]; exact hft q (by omega)) q694 (Nat.le_of_ble_eq_true rfl) (Nat.le_of_ble_eq_true rfl) (Nat.le_of_ble_eq_true rfl) dJ16_copyOfRangeByte_27 zup_zup ?_
  refine z_aload 0 dJ16_copyOfRangeByte_30 rfl ?_
  exact z_aret dJ16_copyOfRangeByte_32 rfl (Or.inr ⟨_, rfl⟩) (Or.inr ⟨_, rfl⟩) (Nat.le_of_ble_eq_true rfl) (Nat.le_of_ble_eq_true rfl) ⟨n_4, _, rfl, rfl, hn_5, hl_6, fun j hj => va_cpy0 hj⟩
set_option maxHeartbeats 4000000 in
theorem t_cor {g : zG} {X : zX} {b n : Nat} {f : Nat → Int32} (hb : X b = some (.inl (zar g 1, 8, .inl f))) (hb0 : z0 g ≤ b) (hn : n ≤ 8) (hft : ∀ q, q < 8 → fits .byte (.int (f q)) = true) : zN g m_J16_copyOfRange ({ frames := 2, cells := 1, slots := 8, locals := 84 } : Room) [.ref b, .int 0, .int (nI (n))] X (fun rv X' => ∃ c f', rv = some (.ref c) ∧ X' = zup X c (.inl (zar g 1, n, .inl f')) ∧ X c = none ∧ z0 g ≤ c ∧ ∀ j, j < n → f' j = f j) := by
  refine zN.of (by decide +kernel) (Nat.le_of_ble_eq_true rfl) rfl ?_
  refine z_lv (lv' := [(0, .ref b), (1, .int 0), (2, .int (nI (n)))]) [0, 1, 2] rfl ?_
  refine z_iload_n 1 dJ16_copyOfRange_0 rfl ?_
  refine z_if_ne 10 dJ16_copyOfRange_1 (by decide) (fun h_ => absurd h_ (by decide)) (fun h_ => ?_)
  refine z_iload_n 2 dJ16_copyOfRange_4 rfl ?_
  refine z_aload_n 0 dJ16_copyOfRange_5 rfl ?_
  refine z_alen (ti := 1) hb rfl dJ16_copyOfRange_6 ?_
  refine z_icmp_eqN (a := n) (b := 8) 17 (by omega) (by omega) dJ16_copyOfRange_7 (by decide) (fun c_1 => ?_) (fun c_1 => ?_)
  · -- n = 8
    refine z_aload_n 0 dJ16_copyOfRange_17 rfl ?_
    refine z_cloneB hb (fun q hq => hft q (by omega)) q686 (Nat.le_of_ble_eq_true rfl) (Nat.le_of_ble_eq_true rfl) (Nat.le_of_ble_eq_true rfl) dJ16_copyOfRange_18 rfl rfl (Nat.le_of_ble_eq_true rfl) (Nat.le_of_ble_eq_true rfl) (fun n_2 hn_3 hl_4 => ?_)
    have ne_5 : b ≠ n_2 := fun q9 => by rw [← q9, hb] at hn_3; cases hn_3
    have hx_6 : (zup X n_2 (.inl (zar g 1, 8, .inl f))) b = some (.inl (zar g 1, 8, .inl f)) := zup_k ne_5 hb
    have hx_7 : (zup X n_2 (.inl (zar g 1, 8, .inl f))) n_2 = some (.inl (zar g 1, 8, .inl f)) := zup_s
    refine z_castA1 hx_7 q692 dJ16_copyOfRange_21 ?_
    exact z_aret dJ16_copyOfRange_24 rfl (Or.inr ⟨_, rfl⟩) (Or.inr ⟨_, rfl⟩) (Nat.le_of_ble_eq_true rfl) (Nat.le_of_ble_eq_true rfl) ⟨n_2, f, rfl, by rw [show n = 8 by omega], hn_3, hl_4, fun j hj => rfl⟩
  · -- n ≠ 8
    refine z_aload_n 0 dJ16_copyOfRange_10 rfl ?_
    refine z_iload_n 1 dJ16_copyOfRange_11 rfl ?_
    refine z_iload_n 2 dJ16_copyOfRange_12 rfl ?_
    refine z_callS (As := [.ref b, .int 0, .int (nI (n))]) (t_corB hb hb0 hn hft) q760 q761 q135 q762 nm_J16_copyOfRangeByte rfl (Nat.le_of_ble_eq_true rfl) ⟨Nat.le_of_ble_eq_true rfl, Nat.le_of_ble_eq_true rfl⟩ dJ16_copyOfRange_13 rfl rfl (Nat.le_of_ble_eq_true rfl) (Nat.le_of_ble_eq_true rfl) (fun v_8 X_9 hp_10 => ?_)
    obtain ⟨c9, f9, rfl, rfl, hc9, hz9, hf9⟩ := hp_10
    refine z_st (st' := [.ref c9]) rfl ?_
    exact z_aret dJ16_copyOfRange_16 rfl (Or.inr ⟨_, rfl⟩) (Or.inr ⟨_, rfl⟩) (Nat.le_of_ble_eq_true rfl) (Nat.le_of_ble_eq_true rfl) ⟨c9, f9, rfl, rfl, hc9, hz9, hf9⟩
set_option maxHeartbeats 4000000 in
theorem t_stI2 {g : zG} {X : zX} {o b n : Nat} {f : Nat → Int32} (ho : X o = some (.inr (25, [.ref b, .int 0, .int 0, .int (nI n)]))) (ho0 : z0 g ≤ o) (hb : X b = some (.inl (zar g 1, 8, .inl f))) (hb0 : z0 g ≤ b) (hn : n ≤ 8) (hft : ∀ q, q < 8 → fits .byte (.int (f q)) = true) {s : Nat} (hs : X s = some (.inr (24, [.null, .int 0, .int 0, .int 0]))) (hs0 : z0 g ≤ s)  : zN g m_J5_init_2 ({ frames := 3, cells := 1, slots := 8, locals := 106 } : Room) [.ref s, .ref o, .null] X (fun rv X' => rv = none ∧ ∃ c f', X' = zup (zup X c (.inl (zar g 1, n, .inl f'))) s (.inr (24, [.ref c, .int 0, .int 0, .int 0])) ∧ X c = none ∧ z0 g ≤ c ∧ ∀ j, j < n → f' j = f j) := by
  refine zN.of (by decide +kernel) (Nat.le_of_ble_eq_true rfl) rfl ?_
  refine z_lv (lv' := [(0, .ref s), (1, .ref o), (2, .null)]) [0, 1, 2] rfl ?_
  refine z_aload_n 0 dJ5_init_2_0 rfl ?_
  refine z_objInit q742 q160 q161 dJ5_init_2_1 (Nat.le_of_ble_eq_true rfl) (Nat.le_of_ble_eq_true rfl) ?_
  refine z_aload_n 1 dJ5_init_2_4 rfl ?_
  refine z_callU (As := []) (x := yJ13_getValue) (owner := RJ13) (t_sbV ho ho0 hb hb0) q743 q745 q746 q744 q132 q747 rfl ⟨by decide +kernel, by decide +kernel, nm_J13_getValue.2.2⟩ ho rfl rfl (Nat.le_of_ble_eq_true rfl) ⟨Nat.le_of_ble_eq_true rfl, Nat.le_of_ble_eq_true rfl⟩ dJ5_init_2_5 rfl rfl (Nat.le_of_ble_eq_true rfl) (Nat.le_of_ble_eq_true rfl) (fun v_1 X_2 hp_3 => ?_)
  obtain ⟨rfl, h7⟩ := hp_3
  replace h7 := h7.symm
  subst h7
  refine z_st (st' := [.ref b]) rfl ?_
  refine z_astore_n (lv' := [(3, .ref b), (0, .ref s), (1, .ref o), (2, .null)]) dJ5_init_2_8 rfl (by decide) rfl ?_
  refine z_aload_n 2 dJ5_init_2_9 rfl ?_
  refine z_callO (As := []) (x := yJ13_length) (owner := RJ13) (t_sbN14 ho ho0 hb hb0) q748 q750 q749 q751 q752 q133 q753 q755 ⟨by decide +kernel, by decide +kernel, nm_J13_length.2.2⟩ ho rfl rfl (Nat.le_of_ble_eq_true rfl) ⟨Nat.le_of_ble_eq_true rfl, Nat.le_of_ble_eq_true rfl⟩ dJ5_init_2_10 rfl rfl (Nat.le_of_ble_eq_true rfl) (Nat.le_of_ble_eq_true rfl) (fun v_4 X_5 hp_6 => ?_)
  obtain ⟨rfl, h7⟩ := hp_6
  replace h7 := h7.symm
  subst h7
  refine z_st (st' := [.int (nI (n))]) rfl ?_
  refine z_istore (lv' := [(4, .int (nI (n))), (3, .ref b), (0, .ref s), (1, .ref o), (2, .null)]) dJ5_init_2_13 (by decide) rfl ?_
  refine z_aload_n 3 dJ5_init_2_15 rfl ?_
  refine z_callU (As := []) (x := yJ13_isLatin1) (owner := RJ13) (t_sbL ho ho0 hb hb0) q756 q699 q700 q698 q132 q701 rfl ⟨by decide +kernel, by decide +kernel, nm_J13_isLatin1.2.2⟩ ho rfl rfl (Nat.le_of_ble_eq_true rfl) ⟨Nat.le_of_ble_eq_true rfl, Nat.le_of_ble_eq_true rfl⟩ dJ5_init_2_16 rfl rfl (Nat.le_of_ble_eq_true rfl) (Nat.le_of_ble_eq_true rfl) (fun v_7 X_8 hp_9 => ?_)
  obtain ⟨rfl, h7⟩ := hp_9
  replace h7 := h7.symm
  subst h7
  refine z_st (st' := [.int 1]) rfl ?_
  refine z_if_eq 41 dJ5_init_2_19 (by decide) (fun h_ => absurd h_ (by decide)) (fun h_ => ?_)
  refine z_aload_n 2 dJ5_init_2_22 rfl ?_
  refine z_iconst (v := 0) dJ5_init_2_23 (by decide) ?_
  refine z_putF (X' := (zup X s (.inr (24, [.null, .int 0, .int 0, .int 0])))) 1 hs rfl in_J5 (by decide) tyJ5 tyJ5_ok nmJ5 q777 rfl rfl rfl (tyJ5_ok 1 (by decide)) rfl rfl (Nat.le_of_ble_eq_true rfl) hs0 dJ5_init_2_24 rfl ?_
  have hx_10 : (zup X s (.inr (24, [.null, .int 0, .int 0, .int 0]))) o = some (.inr (25, [.ref b, .int 0, .int 0, .int (nI (n))])) := zup_k (zne ho hs (by simp)) ho
  have hx_11 : (zup X s (.inr (24, [.null, .int 0, .int 0, .int 0]))) b = some (.inl (zar g 1, 8, .inl f)) := zup_k (zne hb hs (by simp)) hb
  have hx_12 : (zup X s (.inr (24, [.null, .int 0, .int 0, .int 0]))) s = some (.inr (24, [.null, .int 0, .int 0, .int 0])) := zup_s
  refine z_aload_n 2 dJ5_init_2_27 rfl ?_
  refine z_aload_n 1 dJ5_init_2_28 rfl ?_
  refine z_iconst (v := 0) dJ5_init_2_29 (by decide) ?_
  refine z_iload 0 dJ5_init_2_30 rfl ?_
  refine z_callS (As := [.ref b, .int 0, .int (nI (n))]) (t_cor hx_11 hb0 hn hft) q757 q758 q135 q759 nm_J16_copyOfRange rfl (Nat.le_of_ble_eq_true rfl) ⟨Nat.le_of_ble_eq_true rfl, Nat.le_of_ble_eq_true rfl⟩ dJ5_init_2_32 rfl rfl (Nat.le_of_ble_eq_true rfl) (Nat.le_of_ble_eq_true rfl) (fun v_20 X_21 hp_22 => ?_)
  obtain ⟨c9, f9, rfl, h7, hc9, hz9, hf9⟩ := hp_22
  subst h7
  have ne_13 : o ≠ c9 := fun q9 => by rw [← q9, hx_10] at hc9; cases hc9
  have ne_14 : b ≠ c9 := fun q9 => by rw [← q9, hx_11] at hc9; cases hc9
  have ne_15 : s ≠ c9 := fun q9 => by rw [← q9, hx_12] at hc9; cases hc9
  have hx_16 : (zup (zup X s (.inr (24, [.null, .int 0, .int 0, .int 0]))) c9 (.inl (zar g 1, n, .inl f9))) o = some (.inr (25, [.ref b, .int 0, .int 0, .int (nI (n))])) := zup_k ne_13 hx_10
  have hx_17 : (zup (zup X s (.inr (24, [.null, .int 0, .int 0, .int 0]))) c9 (.inl (zar g 1, n, .inl f9))) b = some (.inl (zar g 1, 8, .inl f)) := zup_k ne_14 hx_11
  have hx_18 : (zup (zup X s (.inr (24, [.null, .int 0, .int 0, .int 0]))) c9 (.inl (zar g 1, n, .inl f9))) s = some (.inr (24, [.null, .int 0, .int 0, .int 0])) := zup_k ne_15 hx_12
  have hx_19 : (zup (zup X s (.inr (24, [.null, .int 0, .int 0, .int 0]))) c9 (.inl (zar g 1, n, .inl f9))) c9 = some (.inl (zar g 1, n, .inl f9)) := zup_s
  refine z_st (st' := [.ref c9, .ref s]) rfl ?_
  refine z_putF (X' := (zup (zup X c9 (.inl (zar g 1, n, .inl f9))) s (.inr (24, [.ref c9, .int 0, .int 0, .int 0])))) 0 hx_18 rfl in_J5 (by decide) tyJ5 tyJ5_ok nmJ5 q776 rfl rfl rfl (tyJ5_ok 0 (by decide)) rfl rfl (Nat.le_of_ble_eq_true rfl) hs0 dJ5_init_2_35 (zup_mid ne_15) ?_
  have hx_23 : (zup (zup X c9 (.inl (zar g 1, n, .inl f9))) s (.inr (24, [.ref c9, .int 0, .int 0, .int 0]))) o = some (.inr (25, [.ref b, .int 0, .int 0, .int (nI (n))])) := zup_over (zne hx_16 hx_18 (by simp)) hx_16 (zup_mid ne_15)
  have hx_24 : (zup (zup X c9 (.inl (zar g 1, n, .inl f9))) s (.inr (24, [.ref c9, .int 0, .int 0, .int 0]))) b = some (.inl (zar g 1, 8, .inl f)) := zup_over (zne hx_17 hx_18 (by simp)) hx_17 (zup_mid ne_15)
  have hx_25 : (zup (zup X c9 (.inl (zar g 1, n, .inl f9))) s (.inr (24, [.ref c9, .int 0, .int 0, .int 0]))) c9 = some (.inl (zar g 1, n, .inl f9)) := zup_over (Ne.symm ne_15) hx_19 (zup_mid ne_15)
  have hx_26 : (zup (zup X c9 (.inl (zar g 1, n, .inl f9))) s (.inr (24, [.ref c9, .int 0, .int 0, .int 0]))) s = some (.inr (24, [.ref c9, .int 0, .int 0, .int 0])) := zup_s
  refine z_goto 97 dJ5_init_2_38 (by decide) ?_
  exact z_vret dJ5_init_2_97 rfl (Nat.le_of_ble_eq_true rfl) (Nat.le_of_ble_eq_true rfl) ⟨rfl, c9, f9, rfl, (congrFun (zup_self hs) c9).symm.trans hc9, hz9, hf9⟩
set_option maxHeartbeats 4000000 in
theorem t_stI {g : zG} {X : zX} {o b n : Nat} {f : Nat → Int32} (ho : X o = some (.inr (25, [.ref b, .int 0, .int 0, .int (nI n)]))) (ho0 : z0 g ≤ o) (hb : X b = some (.inl (zar g 1, 8, .inl f))) (hb0 : z0 g ≤ b) (hn : n ≤ 8) (hft : ∀ q, q < 8 → fits .byte (.int (f q)) = true) {s : Nat} (hs : X s = some (.inr (24, [.null, .int 0, .int 0, .int 0]))) (hs0 : z0 g ≤ s)  : zN g m_J5_init ({ frames := 4, cells := 1, slots := 8, locals := 130 } : Room) [.ref s, .ref o] X (fun rv X' => rv = none ∧ ∃ c f', X' = zup (zup X c (.inl (zar g 1, n, .inl f'))) s (.inr (24, [.ref c, .int 0, .int 0, .int 0])) ∧ X c = none ∧ z0 g ≤ c ∧ ∀ j, j < n → f' j = f j) := by
  refine zN.of (by decide +kernel) (Nat.le_of_ble_eq_true rfl) rfl ?_
  refine z_lv (lv' := [(0, .ref s), (1, .ref o)]) [0, 1] rfl ?_
  refine z_aload_n 0 dJ5_init_0 rfl ?_
  refine z_aload_n 1 dJ5_init_1 rfl ?_
  refine z_null dJ5_init_2 ?_
  refine z_callI (As := [.ref o, .null]) (t_stI2 ho ho0 hb hb0 hn hft hs hs0) q739 q740 q122 q741 rfl rfl nm_J5_init_2 rfl (Nat.le_of_ble_eq_true rfl) ⟨Nat.le_of_ble_eq_true rfl, Nat.le_of_ble_eq_true rfl⟩ dJ5_init_3 rfl rfl (Nat.le_of_ble_eq_true rfl) (Nat.le_of_ble_eq_true rfl) (fun v_1 X_2 hp_3 => ?_)
  obtain ⟨rfl, c9, f9, rfl, hc9, hz9, hf9⟩ := hp_3
  refine z_st (st' := []) rfl ?_
  exact z_vret dJ5_init_6 rfl (Nat.le_of_ble_eq_true rfl) (Nat.le_of_ble_eq_true rfl) ⟨rfl, c9, f9, rfl, hc9, hz9, hf9⟩
theorem zup_mid9 {X : zX} {a b : Nat} {e1 e2 e3 : va_E} (h : b ≠ a) : zup (zup (zup X a e1) b e2) a e3 = zup (zup X b e2) a e3 := by
  funext q
  by_cases h1 : q = a
  · rw [h1, zup_s, zup_s]
  · rw [zup_n h1, zup_n h1]
    by_cases h2 : q = b
    · rw [h2, zup_s, zup_s]
    · rw [zup_n h2, zup_n h2, zup_n h1]
set_option maxHeartbeats 4000000 in
theorem t_sbT {g : zG} {X : zX} {o b n : Nat} {f : Nat → Int32} (ho : X o = some (.inr (25, [.ref b, .int 0, .int 0, .int (nI n)]))) (ho0 : z0 g ≤ o) (hb : X b = some (.inl (zar g 1, 8, .inl f))) (hb0 : z0 g ≤ b) (hn : n ≤ 8) (hft : ∀ q, q < 8 → fits .byte (.int (f q)) = true)  : zN g m_J14_toString ({ frames := 5, cells := 2, slots := 12, locals := 151 } : Room) [.ref o] X (fun rv X' => ∃ s c f', rv = some (.ref s) ∧ X' = zup (zup X c (.inl (zar g 1, n, .inl f'))) s (.inr (24, [.ref c, .int 0, .int 0, .int 0])) ∧ X c = none ∧ z0 g ≤ c ∧ X s = none ∧ z0 g ≤ s ∧ s ≠ c ∧ ∀ j, j < n → f' j = f j) := by
  refine zN.of (by decide +kernel) (Nat.le_of_ble_eq_true rfl) rfl ?_
  refine z_lv (lv' := [(0, .ref o)]) [0] rfl ?_
  refine z_new (ci := 24) (fs := [.null, .int 0, .int 0, .int 0]) rfl in_J5 tyJ5 tyJ5_ok q734 q735 q122 zd_J5 dJ14_toString_0 rfl rfl (Nat.le_of_ble_eq_true rfl) (Nat.le_of_ble_eq_true rfl) (fun n_1 hn_2 hl_3 => ?_)
  have ne_4 : o ≠ n_1 := fun q9 => by rw [← q9, ho] at hn_2; cases hn_2
  have ne_5 : b ≠ n_1 := fun q9 => by rw [← q9, hb] at hn_2; cases hn_2
  have hx_6 : (zup X n_1 (.inr (24, [.null, .int 0, .int 0, .int 0]))) o = some (.inr (25, [.ref b, .int 0, .int 0, .int (nI (n))])) := zup_k ne_4 ho
  have hx_7 : (zup X n_1 (.inr (24, [.null, .int 0, .int 0, .int 0]))) b = some (.inl (zar g 1, 8, .inl f)) := zup_k ne_5 hb
  have hx_8 : (zup X n_1 (.inr (24, [.null, .int 0, .int 0, .int 0]))) n_1 = some (.inr (24, [.null, .int 0, .int 0, .int 0])) := zup_s
  refine z_dup dJ14_toString_3 rfl ?_
  refine z_aload_n 0 dJ14_toString_4 rfl ?_
  refine z_callI (As := [.ref o]) (t_stI hx_6 ho0 hx_7 hb0 hn hft hx_8 hl_3) q736 q737 q122 q738 rfl rfl nm_J5_init rfl (Nat.le_of_ble_eq_true rfl) ⟨Nat.le_of_ble_eq_true rfl, Nat.le_of_ble_eq_true rfl⟩ dJ14_toString_5 rfl rfl (Nat.le_of_ble_eq_true rfl) (Nat.le_of_ble_eq_true rfl) (fun v_9 X_10 hp_11 => ?_)
  obtain ⟨rfl, c9, f9, rfl, hc9, hz9, hf9⟩ := hp_11
  refine z_st (st' := [.ref n_1]) rfl ?_
  exact z_aret dJ14_toString_8 rfl (Or.inl ⟨_, rfl⟩) (Or.inr ⟨_, rfl⟩) (Nat.le_of_ble_eq_true rfl) (Nat.le_of_ble_eq_true rfl) ⟨n_1, c9, f9, rfl, zup_mid9 (fun z => by rw [z, zup_s] at hc9; cases hc9), by rw [← hc9]; exact (zup_n (fun z => by rw [z, zup_s] at hc9; cases hc9)).symm, hz9, hn_2, hl_3, (fun z => by rw [← z, zup_s] at hc9; cases hc9), hf9⟩
