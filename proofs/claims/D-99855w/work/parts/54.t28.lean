/-! THE MODEL: reading, words. Printed by t28.py -/
set_option maxRecDepth 100000
set_option maxHeartbeats 4000000 in
theorem t_takeAfter {g : zG} {L : Nat → Nat} {I : Nat → Nat → Int32} {J : Nat → Nat → Int64} {Gb : Nat → Nat → Int32} {X : zX} (hL : tok g L) {kd pl : Nat → Nat} {cnt a f : Nat} (hT : s_tk (I 4) (I 5) kd pl cnt) (ha : a ≤ cnt) (hf : f < 2 ^ 20) (w : Nat) (hw : w < 25) (lo hi : Int32) : zN g m_X5_takeAfter ({ frames := 3, cells := 0, slots := 0, locals := 64 } : Room) [.ref (L 99), .int (nI (w)), .int lo, .int hi] (tX g L (s_rd I a f) J Gb X) (fun rv X' => ∃ (v : Int32) (a' f' : Nat), rv = some (.int v) ∧ X' = (tX g L (s_rd I a' f') J Gb X) ∧ a' ≤ cnt ∧ f' < 2 ^ 20 ∧ s_tA kd pl (J 6) (J 9) a f w lo hi = (v, a', f')) := by
  refine zN.of (by decide +kernel) (Nat.le_of_ble_eq_true rfl) rfl ?_
  refine z_lv (lv' := [(0, .ref (L 99)), (1, .int (nI (w))), (2, .int lo), (3, .int hi)]) [0, 1, 2, 3] rfl ?_
  have hT2 := hT.2
  obtain ⟨hk9, hp9, hk4, hp4, hke⟩ := hT.1 a ha
  refine z_aload_n 0 dX5_takeAfter_0 rfl ?_
  refine z_iload_n 1 dX5_takeAfter_1 rfl ?_
  refine z_callV (As := [.int (nI (w))]) (t_takeWord (I := I) hL hT (a := a) (f := f) (by omega) (by omega) w (by omega) ) q1747 q1749 qs67 q121 q1750 nm_X5_takeWord (tX_obj hL) rfl rfl rfl (Nat.le_of_ble_eq_true rfl) ⟨Nat.le_of_ble_eq_true rfl, Nat.le_of_ble_eq_true rfl⟩ dX5_takeAfter_2 rfl rfl (Nat.le_of_ble_eq_true rfl) (Nat.le_of_ble_eq_true rfl) (fun v_6 X_7 hp_8 => ?_)
  obtain ⟨a_1, f_2, rfl, rfl, ha_4, hf_5, et_3⟩ := hp_8
  refine z_st (st' := []) rfl ?_
  refine z_aload_n 0 dX5_takeAfter_5 rfl ?_
  refine z_iload_n 2 dX5_takeAfter_6 rfl ?_
  refine z_iload_n 3 dX5_takeAfter_7 rfl ?_
  refine z_callV (As := [.int lo, .int hi]) (t_takeNumber (I := I) hL hT (a := a_1) (f := f_2) (by omega) (by omega) lo hi ) q1755 q1757 qs69 q121 q1758 nm_X5_takeNumber (tX_obj hL) rfl rfl rfl (Nat.le_of_ble_eq_true rfl) ⟨Nat.le_of_ble_eq_true rfl, Nat.le_of_ble_eq_true rfl⟩ dX5_takeAfter_8 rfl rfl (Nat.le_of_ble_eq_true rfl) (Nat.le_of_ble_eq_true rfl) (fun v_15 X_16 hp_17 => ?_)
  obtain ⟨v_14, a_9, f_10, rfl, rfl, ha_12, hf_13, et_11⟩ := hp_17
  refine z_st (st' := [.int v_14]) rfl ?_
  exact z_iret dX5_takeAfter_11 rfl (Nat.le_of_ble_eq_true rfl) (Nat.le_of_ble_eq_true rfl) ⟨v_14, a_9, f_10, rfl, rfl, (by omega), (by omega), by simp [s_tA, et_11, et_3]⟩
set_option maxHeartbeats 4000000 in
theorem t_wordHere {g : zG} {L : Nat → Nat} {I : Nat → Nat → Int32} {J : Nat → Nat → Int64} {Gb : Nat → Nat → Int32} {X : zX} (hL : tok g L) {kd pl : Nat → Nat} {cnt a f : Nat} (hT : s_tk (I 4) (I 5) kd pl cnt) (ha : a ≤ cnt) (hf : f < 2 ^ 20) (w m : Nat) (hw : w + m ≤ 25) : zN g m_X5_wordHere ({ frames := 1, cells := 0, slots := 0, locals := 21 } : Room) [.ref (L 99), .int (nI (w)), .int (nI (m))] (tX g L (s_rd I a f) J Gb X) (fun rv X' => rv = some (.int (s_wh kd (J 6) (J 9) a f w m)) ∧ X' = (tX g L (s_rd I a f) J Gb X)) := by
  refine zN.of (by decide +kernel) (Nat.le_of_ble_eq_true rfl) rfl ?_
  refine z_lv (lv' := [(0, .ref (L 99)), (1, .int (nI (w))), (2, .int (nI (m)))]) [0, 1, 2] rfl ?_
  have hT2 := hT.2
  obtain ⟨hk9, hp9, hk4, hp4, hke⟩ := hT.1 a ha
  refine z_iconst (v := zm1) dX5_wordHere_0 (by decide) ?_
  refine z_istore_n (lv' := [(3, .int zm1), (0, .ref (L 99)), (1, .int (nI (w))), (2, .int (nI (m)))]) dX5_wordHere_1 rfl (by decide) rfl ?_
  refine z_iconst (v := 0) dX5_wordHere_2 (by decide) ?_
  refine z_istore (lv' := [(4, .int 0), (3, .int zm1), (0, .ref (L 99)), (1, .int (nI (w))), (2, .int (nI (m)))]) dX5_wordHere_3 (by decide) rfl ?_
  have loop_5 : ∀ (q_2 i_1 : Nat), i_1 + q_2 = m → 0 ≤ i_1 → zZ g m_X5_wordHere (fun rv X' => rv = some (.int (s_wh kd (J 6) (J 9) a f w m)) ∧ X' = (tX g L (s_rd I a f) J Gb X), zno, ({ frames := 1, cells := 0, slots := 0, locals := 21 } : Room)) 0 0 (tX g L (s_rd I a f) J Gb X) 5 [(0, .ref (L 99)), (1, .int (nI (w))), (2, .int (nI (m))), (3, .int (s_wh kd (J 6) (J 9) a f w i_1)), (4, .int (nI (i_1)))] [] := by
    intro q_2
    induction q_2 with
    | zero =>
      intro i_1 hb_4 lo_6  
      obtain rfl : m = i_1 := by omega
      refine z_iload 4 dX5_wordHere_5 rfl ?_
      refine z_iload_n 2 dX5_wordHere_7 rfl ?_
      refine z_icmp_geN (a := m) (b := m) 35 (by omega) (by omega) dX5_wordHere_8 (by decide) (fun c_7 => ?_) (fun c_7 => absurd c_7 (by omega))
      refine z_iload_n 3 dX5_wordHere_35 rfl ?_
      exact z_iret dX5_wordHere_36 rfl (Nat.le_of_ble_eq_true rfl) (Nat.le_of_ble_eq_true rfl) ⟨congrArg some (congrArg Value.int (by first | rfl | (simp [s_wh, hb_4, c_7]; done) | (skip; simp [s_wh, hb_4, c_7]))), (by first | rfl | (simp [s_wh, hb_4, c_7]; done) | (skip; simp [s_wh, hb_4, c_7]))⟩
    | succ q_2 ih_3 =>
      intro i_1 hb_4 lo_6  
      refine z_iload 4 dX5_wordHere_5 rfl ?_
      refine z_iload_n 2 dX5_wordHere_7 rfl ?_
      refine z_icmp_geN (a := i_1) (b := m) 35 (by omega) (by omega) dX5_wordHere_8 (by decide) (fun c_8 => absurd c_8 (by omega)) (fun c_8 => ?_)
      refine z_aload_n 0 dX5_wordHere_11 rfl ?_
      refine z_iload_n 1 dX5_wordHere_12 rfl ?_
      refine z_iload 4 dX5_wordHere_13 rfl ?_
      refine z_iaddN (a := w) (b := i_1) dX5_wordHere_15 ?_
      refine z_callV (As := [.int (nI (w + i_1))]) (t_isWord (I := I) hL hT (a := a) (f := f) (by omega) (by omega) (w + i_1) (by omega)) q1719 q1721 qs60 q121 q1722 nm_X5_isWord (tX_obj hL) rfl rfl rfl (Nat.le_of_ble_eq_true rfl) ⟨Nat.le_of_ble_eq_true rfl, Nat.le_of_ble_eq_true rfl⟩ dX5_wordHere_16 rfl rfl (Nat.le_of_ble_eq_true rfl) (Nat.le_of_ble_eq_true rfl) (fun v_9 X_10 hp_11 => ?_)
      obtain ⟨rfl, rfl⟩ := hp_11
      refine z_st (st' := [.int (zb (s_isW kd (J 6) (J 9) a f (w + i_1)))]) rfl ?_
      refine z_if_eqb 27 dX5_wordHere_19 (by decide) (fun c_12 => ?_) (fun c_12 => ?_)
      · -- s_isW kd (J 6) (J 9) a f (w + i_1) = false
        refine z_iload_n 3 dX5_wordHere_27 rfl ?_
        refine z_istore_n (lv' := [(3, .int (s_wh kd (J 6) (J 9) a f w i_1)), (0, .ref (L 99)), (1, .int (nI (w))), (2, .int (nI (m))), (4, .int (nI (i_1)))]) dX5_wordHere_28 rfl (by decide) rfl ?_
        refine z_iinc (v := nI (i_1 + 1)) (lv' := [(4, .int (nI (i_1 + 1))), (3, .int (s_wh kd (J 6) (J 9) a f w i_1)), (0, .ref (L 99)), (1, .int (nI (w))), (2, .int (nI (m)))]) 4 dX5_wordHere_29 rfl (nI_1 _) (by decide) rfl ?_
        refine z_goto 5 dX5_wordHere_32 (by decide) ?_
        have f_13 : s_wh kd (J 6) (J 9) a f w i_1 = s_wh kd (J 6) (J 9) a f w (i_1 + 1) := by first | rfl | omega | (simp [s_wh, hb_4, c_8, c_12]; done) | (skip; simp [s_wh, hb_4, c_8, c_12])
        refine z_lv (lv' := [(0, .ref (L 99)), (1, .int (nI (w))), (2, .int (nI (m))), (3, .int (s_wh kd (J 6) (J 9) a f w (i_1 + 1))), (4, .int (nI (i_1 + 1)))]) [2, 3, 4, 1, 0] (by rw [← f_13]; rfl) ?_
        exact ih_3 (i_1 + 1) (by omega) (by omega)  
      · -- s_isW kd (J 6) (J 9) a f (w + i_1) = true
        refine z_iload 4 dX5_wordHere_22 rfl ?_
        refine z_goto 28 dX5_wordHere_24 (by decide) ?_
        refine z_istore_n (lv' := [(3, .int (nI (i_1))), (0, .ref (L 99)), (1, .int (nI (w))), (2, .int (nI (m))), (4, .int (nI (i_1)))]) dX5_wordHere_28 rfl (by decide) rfl ?_
        refine z_iinc (v := nI (i_1 + 1)) (lv' := [(4, .int (nI (i_1 + 1))), (3, .int (nI (i_1))), (0, .ref (L 99)), (1, .int (nI (w))), (2, .int (nI (m)))]) 4 dX5_wordHere_29 rfl (nI_1 _) (by decide) rfl ?_
        refine z_goto 5 dX5_wordHere_32 (by decide) ?_
        have f_14 : nI (i_1) = s_wh kd (J 6) (J 9) a f w (i_1 + 1) := by first | rfl | omega | (simp [s_wh, hb_4, c_8, c_12]; done) | (skip; simp [s_wh, hb_4, c_8, c_12])
        refine z_lv (lv' := [(0, .ref (L 99)), (1, .int (nI (w))), (2, .int (nI (m))), (3, .int (s_wh kd (J 6) (J 9) a f w (i_1 + 1))), (4, .int (nI (i_1 + 1)))]) [2, 3, 4, 1, 0] (by rw [← f_14]; rfl) ?_
        exact ih_3 (i_1 + 1) (by omega) (by omega)  
  have f_15 : zm1 = s_wh kd (J 6) (J 9) a f w 0 := by first | rfl | omega | (simp [s_wh]; done) | (skip; simp [s_wh])
  refine z_lv (lv' := [(0, .ref (L 99)), (1, .int (nI (w))), (2, .int (nI (m))), (3, .int (s_wh kd (J 6) (J 9) a f w 0)), (4, .int 0)]) [2, 3, 4, 1, 0] (by rw [← f_15]; rfl) ?_
  exact loop_5 (m - 0) 0 (by omega) (Nat.le_refl _)  
set_option maxHeartbeats 4000000 in
theorem t_isName {g : zG} {L : Nat → Nat} {I : Nat → Nat → Int32} {J : Nat → Nat → Int64} {Gb : Nat → Nat → Int32} {X : zX} (hL : tok g L) {kd pl : Nat → Nat} {cnt a f : Nat} (hT : s_tk (I 4) (I 5) kd pl cnt) (ha : a ≤ cnt) (hf : f < 2 ^ 20) : zN g m_X5_isName ({ frames := 2, cells := 0, slots := 0, locals := 45 } : Room) [.ref (L 99)] (tX g L (s_rd I a f) J Gb X) (fun rv X' => rv = some (.int (zb (s_isN kd (J 6) (J 9) a f))) ∧ X' = (tX g L (s_rd I a f) J Gb X)) := by
  refine zN.of (by decide +kernel) (Nat.le_of_ble_eq_true rfl) rfl ?_
  refine z_lv (lv' := [(0, .ref (L 99))]) [0] rfl ?_
  have hT2 := hT.2
  obtain ⟨hk9, hp9, hk4, hp4, hke⟩ := hT.1 a ha
  refine z_aload_n 0 dX5_isName_0 rfl ?_
  refine tz_get (v := .int (nI (f))) 8 hL (by decide) q1601 rfl dX5_isName_1 ?_
  refine z_if_neN 34 (by omega) dX5_isName_4 (by decide) (fun c_1 => ?_) (fun c_1 => ?_)
  · -- f ≠ 0
    refine z_iconst (v := 0) dX5_isName_34 (by decide) ?_
    exact z_zret dX5_isName_35 rfl (by first | rfl | decide | exact zb_nar _) (Nat.le_of_ble_eq_true rfl) (Nat.le_of_ble_eq_true rfl) ⟨congrArg some (congrArg Value.int (by simp [s_isN, zb, c_1])), rfl⟩
  · -- f = 0
    refine z_aload_n 0 dX5_isName_7 rfl ?_
    refine tz_get (v := .ref (L 4)) 4 hL (by decide) q1597 rfl dX5_isName_8 ?_
    refine z_aload_n 0 dX5_isName_11 rfl ?_
    refine tz_get (v := .int (nI (a))) 7 hL (by decide) q1600 rfl dX5_isName_12 ?_
    refine tz_iald (v := nI ((kd a))) 4 (a) hL (by decide) rfl (by show a < 1002; omega) hk9 dX5_isName_15 ?_
    refine z_iconst (v := 1) dX5_isName_16 (by decide) ?_
    refine z_icmp_neN (a := (kd a)) (b := 1) 34 (by omega) (by omega) dX5_isName_17 (by decide) (fun c_2 => ?_) (fun c_2 => ?_)
    · -- (kd a) ≠ 1
      refine z_iconst (v := 0) dX5_isName_34 (by decide) ?_
      exact z_zret dX5_isName_35 rfl (by first | rfl | decide | exact zb_nar _) (Nat.le_of_ble_eq_true rfl) (Nat.le_of_ble_eq_true rfl) ⟨congrArg some (congrArg Value.int (by subst c_1; simp [s_isN, zb, c_2])), rfl⟩
    · -- (kd a) = 1
      refine z_aload_n 0 dX5_isName_20 rfl ?_
      refine z_iconst (v := 0) dX5_isName_21 (by decide) ?_
      refine z_bipush (v := 21) dX5_isName_22 (by decide) ?_
      refine z_callV (As := [.int 0, .int 21]) (t_wordHere (I := I) hL hT (a := a) (f := f) (by omega) (by omega) 0 21 (by omega)) q1735 q1737 qs64 q121 q1738 nm_X5_wordHere (tX_obj hL) rfl rfl rfl (Nat.le_of_ble_eq_true rfl) ⟨Nat.le_of_ble_eq_true rfl, Nat.le_of_ble_eq_true rfl⟩ dX5_isName_24 rfl rfl (Nat.le_of_ble_eq_true rfl) (Nat.le_of_ble_eq_true rfl) (fun v_3 X_4 hp_5 => ?_)
      obtain ⟨rfl, rfl⟩ := hp_5
      refine z_st (st' := [.int (s_wh kd (J 6) (J 9) a f 0 21)]) rfl ?_
      refine z_if_ge 34 dX5_isName_27 (by decide) (fun c_6 => ?_) (fun c_6 => ?_)
      · -- 0 ≤ s_wh kd (J 6) (J 9) a f 0 21
        have c_6' := Int32.not_lt.mpr c_6
        refine z_iconst (v := 0) dX5_isName_34 (by decide) ?_
        exact z_zret dX5_isName_35 rfl (by first | rfl | decide | exact zb_nar _) (Nat.le_of_ble_eq_true rfl) (Nat.le_of_ble_eq_true rfl) ⟨congrArg some (congrArg Value.int (by subst c_1; simp [s_isN, zb, c_2, c_6, c_6'])), rfl⟩
      · -- ¬ 0 ≤ s_wh kd (J 6) (J 9) a f 0 21
        have c_6' := Int32.not_le.mp c_6
        refine z_iconst (v := 1) dX5_isName_30 (by decide) ?_
        refine z_goto 35 dX5_isName_31 (by decide) ?_
        exact z_zret dX5_isName_35 rfl (by first | rfl | decide | exact zb_nar _) (Nat.le_of_ble_eq_true rfl) (Nat.le_of_ble_eq_true rfl) ⟨congrArg some (congrArg Value.int (by subst c_1; simp [s_isN, zb, c_2, c_6, c_6'])), rfl⟩
set_option maxHeartbeats 4000000 in
theorem t_takeOne {g : zG} {L : Nat → Nat} {I : Nat → Nat → Int32} {J : Nat → Nat → Int64} {Gb : Nat → Nat → Int32} {X : zX} (hL : tok g L) {kd pl : Nat → Nat} {cnt a f : Nat} (hT : s_tk (I 4) (I 5) kd pl cnt) (ha : a ≤ cnt) (hf : f < 2 ^ 20) (w m : Nat) (hw : w + m ≤ 25) : zN g m_X5_takeOne ({ frames := 2, cells := 0, slots := 0, locals := 45 } : Room) [.ref (L 99), .int (nI (w)), .int (nI (m))] (tX g L (s_rd I a f) J Gb X) (fun rv X' => ∃ (v : Int32) (a' f' : Nat), rv = some (.int v) ∧ X' = (tX g L (s_rd I a' f') J Gb X) ∧ a' ≤ cnt ∧ f' < 2 ^ 20 ∧ s_tO kd pl (J 6) (J 9) a f w m = (v, a', f')) := by
  refine zN.of (by decide +kernel) (Nat.le_of_ble_eq_true rfl) rfl ?_
  refine z_lv (lv' := [(0, .ref (L 99)), (1, .int (nI (w))), (2, .int (nI (m)))]) [0, 1, 2] rfl ?_
  have hT2 := hT.2
  obtain ⟨hk9, hp9, hk4, hp4, hke⟩ := hT.1 a ha
  refine z_aload_n 0 dX5_takeOne_0 rfl ?_
  refine tz_get (v := .int (nI (f))) 8 hL (by decide) q1601 rfl dX5_takeOne_1 ?_
  refine z_if_leN 11 (by omega) dX5_takeOne_4 (by decide) (fun c_1 => ?_) (fun c_1 => ?_)
  · -- f = 0
    refine z_aload_n 0 dX5_takeOne_11 rfl ?_
    refine z_iload_n 1 dX5_takeOne_12 rfl ?_
    refine z_iload_n 2 dX5_takeOne_13 rfl ?_
    refine z_callV (As := [.int (nI (w)), .int (nI (m))]) (t_wordHere (I := I) hL hT (a := a) (f := f) (by omega) (by omega) w m (by omega)) q1735 q1737 qs64 q121 q1738 nm_X5_wordHere (tX_obj hL) rfl rfl rfl (Nat.le_of_ble_eq_true rfl) ⟨Nat.le_of_ble_eq_true rfl, Nat.le_of_ble_eq_true rfl⟩ dX5_takeOne_14 rfl rfl (Nat.le_of_ble_eq_true rfl) (Nat.le_of_ble_eq_true rfl) (fun v_2 X_3 hp_4 => ?_)
    obtain ⟨rfl, rfl⟩ := hp_4
    refine z_st (st' := [.int (s_wh kd (J 6) (J 9) a f w m)]) rfl ?_
    refine z_istore_n (lv' := [(3, .int (s_wh kd (J 6) (J 9) a f w m)), (0, .ref (L 99)), (1, .int (nI (w))), (2, .int (nI (m)))]) dX5_takeOne_17 rfl (by decide) rfl ?_
    refine z_aload_n 1 dX5_takeOne_18 rfl ?_
    refine tz_get (v := .int (nI (f))) 8 hL (by decide) q1601 rfl dX5_takeOne_19 ?_
    refine z_if_neN 34 (by omega) dX5_takeOne_22 (by decide) (fun c_ => absurd c_ (by omega)) (fun _ => ?_)
    refine z_iload_n 0 dX5_takeOne_25 rfl ?_
    refine z_if_ge 34 dX5_takeOne_26 (by decide) (fun c_5 => ?_) (fun c_5 => ?_)
    · -- 0 ≤ s_wh kd (J 6) (J 9) a f w m
      have c_5' := Int32.not_lt.mpr c_5
      refine z_aload_n 1 dX5_takeOne_34 rfl ?_
      refine z_dup dX5_takeOne_35 rfl ?_
      refine tz_get (v := .int (nI (a))) 7 hL (by decide) q1600 rfl dX5_takeOne_36 ?_
      refine z_aload_n 1 dX5_takeOne_39 rfl ?_
      refine tz_get (v := .int (nI (f))) 8 hL (by decide) q1601 rfl dX5_takeOne_40 ?_
      refine z_if_leN 50 (by omega) dX5_takeOne_43 (by decide) (fun _ => ?_) (fun c_ => absurd c_ (by omega))
      refine z_iconst (v := 1) dX5_takeOne_50 (by decide) ?_
      refine z_iaddN (a := a) (b := 1) dX5_takeOne_51 ?_
      refine tz_put (I' := (s_rd I (a + 1) f)) 7 hL (by decide) q1600 s_rd_7 dX5_takeOne_52 ?_
      refine z_aload_n 1 dX5_takeOne_55 rfl ?_
      refine tz_get (v := .int (nI (f))) 8 hL (by decide) q1601 rfl dX5_takeOne_56 ?_
      refine z_if_leN 66 (by omega) dX5_takeOne_59 (by decide) (fun _ => ?_) (fun c_ => absurd c_ (by omega))
      refine z_iload_n 0 dX5_takeOne_66 rfl ?_
      exact z_iret dX5_takeOne_67 rfl (Nat.le_of_ble_eq_true rfl) (Nat.le_of_ble_eq_true rfl) ⟨(s_wh kd (J 6) (J 9) a f w m), (a + 1), f, rfl, rfl, (by rcases s_wh_k (kd := kd) (vl := J 6) (wd := J 9) (a := a) (f := f) (w := w) m with h9 | h9; exact absurd h9 (by assumption); omega), (by omega), by subst c_1; simp [s_tO, c_5, c_5']⟩
    · -- ¬ 0 ≤ s_wh kd (J 6) (J 9) a f w m
      have c_5' := Int32.not_le.mp c_5
      refine z_aload_n 1 dX5_takeOne_29 rfl ?_
      refine z_iconst (v := 1) dX5_takeOne_30 (by decide) ?_
      refine z_callV (As := [.int 1]) (t_wrong (I := I) hL hT (a := a) (f := f) (by omega) (by omega) 1 (by omega)) q1727 q1729 qs62 q121 q1730 nm_X5_wrong (tX_obj hL) rfl rfl rfl (Nat.le_of_ble_eq_true rfl) ⟨Nat.le_of_ble_eq_true rfl, Nat.le_of_ble_eq_true rfl⟩ dX5_takeOne_31 rfl rfl (Nat.le_of_ble_eq_true rfl) (Nat.le_of_ble_eq_true rfl) (fun v_9 X_10 hp_11 => ?_)
      obtain ⟨rfl, rfl⟩ := hp_11
      obtain ⟨f_6, ⟨hf_7, hf_7p⟩, ef_8⟩ := s_wr_n (pl := pl) (a := a) (f := f) (w := 1) (hT.1 a (by omega)).2.2.2.1 (by omega) (by decide)
      have hf_7p := hf_7p (by decide)
      refine z_X (X' := (tX g L (s_rd I a f_6) J Gb X)) (by rw [ef_8]) ?_
      refine z_st (st' := []) rfl ?_
      refine z_aload_n 1 dX5_takeOne_34 rfl ?_
      refine z_dup dX5_takeOne_35 rfl ?_
      refine tz_get (v := .int (nI (a))) 7 hL (by decide) q1600 rfl dX5_takeOne_36 ?_
      refine z_aload_n 1 dX5_takeOne_39 rfl ?_
      refine tz_get (v := .int (nI (f_6))) 8 hL (by decide) q1601 rfl dX5_takeOne_40 ?_
      refine z_if_leN 50 (by omega) dX5_takeOne_43 (by decide) (fun h_ => absurd h_ (by omega)) (fun h_ => ?_)
      refine z_iconst (v := 0) dX5_takeOne_46 (by decide) ?_
      refine z_goto 51 dX5_takeOne_47 (by decide) ?_
      refine z_iaddN (a := a) (b := 0) dX5_takeOne_51 ?_
      refine z_eq (y := nI (a)) (congrArg nI (by omega)) ?_
      refine tz_put (I' := (s_rd I a f_6)) 7 hL (by decide) q1600 s_rd_7 dX5_takeOne_52 ?_
      refine z_aload_n 1 dX5_takeOne_55 rfl ?_
      refine tz_get (v := .int (nI (f_6))) 8 hL (by decide) q1601 rfl dX5_takeOne_56 ?_
      refine z_if_leN 66 (by omega) dX5_takeOne_59 (by decide) (fun h_ => absurd h_ (by omega)) (fun h_ => ?_)
      refine z_iconst (v := 0) dX5_takeOne_62 (by decide) ?_
      refine z_goto 67 dX5_takeOne_63 (by decide) ?_
      exact z_iret dX5_takeOne_67 rfl (Nat.le_of_ble_eq_true rfl) (Nat.le_of_ble_eq_true rfl) ⟨0, a, f_6, rfl, rfl, (by omega), (by omega), by subst c_1; simp [s_tO, c_5, c_5', ← ef_8]⟩
  · -- 0 < f
    refine z_iconst (v := zm1) dX5_takeOne_7 (by decide) ?_
    refine z_goto 17 dX5_takeOne_8 (by decide) ?_
    refine z_istore_n (lv' := [(3, .int zm1), (0, .ref (L 99)), (1, .int (nI (w))), (2, .int (nI (m)))]) dX5_takeOne_17 rfl (by decide) rfl ?_
    refine z_aload_n 1 dX5_takeOne_18 rfl ?_
    refine tz_get (v := .int (nI (f))) 8 hL (by decide) q1601 rfl dX5_takeOne_19 ?_
    refine z_if_neN 34 (by omega) dX5_takeOne_22 (by decide) (fun _ => ?_) (fun c_ => absurd c_ (by omega))
    refine z_aload_n 1 dX5_takeOne_34 rfl ?_
    refine z_dup dX5_takeOne_35 rfl ?_
    refine tz_get (v := .int (nI (a))) 7 hL (by decide) q1600 rfl dX5_takeOne_36 ?_
    refine z_aload_n 1 dX5_takeOne_39 rfl ?_
    refine tz_get (v := .int (nI (f))) 8 hL (by decide) q1601 rfl dX5_takeOne_40 ?_
    refine z_if_leN 50 (by omega) dX5_takeOne_43 (by decide) (fun c_ => absurd c_ (by omega)) (fun _ => ?_)
    refine z_iconst (v := 0) dX5_takeOne_46 (by decide) ?_
    refine z_goto 51 dX5_takeOne_47 (by decide) ?_
    refine z_iaddN (a := a) (b := 0) dX5_takeOne_51 ?_
    refine z_eq (y := nI (a)) (congrArg nI (by omega)) ?_
    refine tz_put (I' := (s_rd I a f)) 7 hL (by decide) q1600 s_rd_7 dX5_takeOne_52 ?_
    refine z_aload_n 1 dX5_takeOne_55 rfl ?_
    refine tz_get (v := .int (nI (f))) 8 hL (by decide) q1601 rfl dX5_takeOne_56 ?_
    refine z_if_leN 66 (by omega) dX5_takeOne_59 (by decide) (fun c_ => absurd c_ (by omega)) (fun _ => ?_)
    refine z_iconst (v := 0) dX5_takeOne_62 (by decide) ?_
    refine z_goto 67 dX5_takeOne_63 (by decide) ?_
    exact z_iret dX5_takeOne_67 rfl (Nat.le_of_ble_eq_true rfl) (Nat.le_of_ble_eq_true rfl) ⟨0, a, f, rfl, rfl, (by omega), (by omega), by simp [s_tO, (show ¬ f = 0 by omega)]⟩
