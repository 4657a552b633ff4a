/-! THE MODEL: reading, on. Printed by t26.py -/
set_option maxRecDepth 100000
set_option maxHeartbeats 4000000 in
theorem t_takeSign {g : zG} {L : Nat → Nat} {I : Nat → Nat → Int32} {J : Nat → Nat → Int64} {Gb : Nat → Nat → Int32} {X : zX} (hL : tok g L) {kd pl : Nat → Nat} {cnt a f : Nat} (hT : s_tk (I 4) (I 5) kd pl cnt) (ha : a ≤ cnt) (hf : f < 2 ^ 20) (c : Int32) : zN g m_X5_takeSign ({ frames := 1, cells := 0, slots := 0, locals := 21 } : Room) [.ref (L 99), .int c] (tX g L (s_rd I a f) J Gb X) (fun rv X' => ∃ a' f' : Nat, rv = none ∧ X' = (tX g L (s_rd I a' f') J Gb X) ∧ a' ≤ cnt ∧ f' < 2 ^ 20 ∧ s_tS kd pl (J 6) a f c = (a', f')) := by
  refine zN.of (by decide +kernel) (Nat.le_of_ble_eq_true rfl) rfl ?_
  refine z_lv (lv' := [(0, .ref (L 99)), (1, .int c)]) [0, 1] rfl ?_
  have hT2 := hT.2
  obtain ⟨hk9, hp9, hk4, hp4, hke⟩ := hT.1 a ha
  refine z_aload_n 0 dX5_takeSign_0 rfl ?_
  refine z_iload_n 1 dX5_takeSign_1 rfl ?_
  refine z_callV (As := [.int c]) (t_isSign (I := I) hL hT (a := a) (f := f) (by omega) (by omega) c) q1802 q1804 qs80 q121 q1805 nm_X5_isSign (tX_obj hL) rfl rfl rfl (Nat.le_of_ble_eq_true rfl) ⟨Nat.le_of_ble_eq_true rfl, Nat.le_of_ble_eq_true rfl⟩ dX5_takeSign_2 rfl rfl (Nat.le_of_ble_eq_true rfl) (Nat.le_of_ble_eq_true rfl) (fun v_1 X_2 hp_3 => ?_)
  obtain ⟨rfl, rfl⟩ := hp_3
  refine z_st (st' := [.int (zb (s_isS kd (J 6) a f c))]) rfl ?_
  refine z_if_eqb 21 dX5_takeSign_5 (by decide) (fun c_4 => ?_) (fun c_4 => ?_)
  · -- s_isS kd (J 6) a f c = false
    refine z_aload_n 0 dX5_takeSign_21 rfl ?_
    refine z_iconst (v := 1) dX5_takeSign_22 (by decide) ?_
    refine z_callV (As := [.int 1]) (t_wrong (I := I) hL hT (a := a) (f := f) (by omega) (by omega) 1 (by omega)) q1727 q1729 qs62 q121 q1730 nm_X5_wrong (tX_obj hL) rfl rfl rfl (Nat.le_of_ble_eq_true rfl) ⟨Nat.le_of_ble_eq_true rfl, Nat.le_of_ble_eq_true rfl⟩ dX5_takeSign_23 rfl rfl (Nat.le_of_ble_eq_true rfl) (Nat.le_of_ble_eq_true rfl) (fun v_8 X_9 hp_10 => ?_)
    obtain ⟨rfl, rfl⟩ := hp_10
    obtain ⟨f_5, ⟨hf_6, hf_6p⟩, ef_7⟩ := s_wr_n (pl := pl) (a := a) (f := f) (w := 1) (hT.1 a (by omega)).2.2.2.1 (by omega) (by decide)
    have hf_6p := hf_6p (by decide)
    refine z_X (X' := (tX g L (s_rd I a f_5) J Gb X)) (by rw [ef_7]) ?_
    refine z_st (st' := []) rfl ?_
    exact z_vret dX5_takeSign_26 rfl (Nat.le_of_ble_eq_true rfl) (Nat.le_of_ble_eq_true rfl) ⟨a, f_5, rfl, rfl, (by omega), (by omega), by unfold s_tS; simp [c_4, ef_7]⟩
  · -- s_isS kd (J 6) a f c = true
    refine z_aload_n 0 dX5_takeSign_8 rfl ?_
    refine z_dup dX5_takeSign_9 rfl ?_
    refine tz_get (v := .int (nI (a))) 7 hL (by decide) q1600 rfl dX5_takeSign_10 ?_
    refine z_iconst (v := 1) dX5_takeSign_13 (by decide) ?_
    refine z_iaddN (a := a) (b := 1) dX5_takeSign_14 ?_
    refine tz_put (I' := (s_rd I (a + 1) f)) 7 hL (by decide) q1600 s_rd_7 dX5_takeSign_15 ?_
    refine z_goto 26 dX5_takeSign_18 (by decide) ?_
    exact z_vret dX5_takeSign_26 rfl (Nat.le_of_ble_eq_true rfl) (Nat.le_of_ble_eq_true rfl) ⟨(a + 1), f, rfl, rfl, (by have h9 := (s_isS_k c_4).2; omega), (by omega), by unfold s_tS; simp [c_4]⟩
set_option maxHeartbeats 4000000 in
theorem t_hasSign {g : zG} {L : Nat → Nat} {I : Nat → Nat → Int32} {J : Nat → Nat → Int64} {Gb : Nat → Nat → Int32} {X : zX} (hL : tok g L) {kd pl : Nat → Nat} {cnt a f : Nat} (hT : s_tk (I 4) (I 5) kd pl cnt) (ha : a ≤ cnt) (hf : f < 2 ^ 20) (c : Int32) : zN g m_X5_hasSign ({ frames := 1, cells := 0, slots := 0, locals := 21 } : Room) [.ref (L 99), .int c] (tX g L (s_rd I a f) J Gb X) (fun rv X' => ∃ a' : Nat, rv = some (.int (zb (s_isS kd (J 6) a f c))) ∧ X' = (tX g L (s_rd I a' f) J Gb X) ∧ a' ≤ cnt ∧ s_hS kd (J 6) a f c = a') := by
  refine zN.of (by decide +kernel) (Nat.le_of_ble_eq_true rfl) rfl ?_
  refine z_lv (lv' := [(0, .ref (L 99)), (1, .int c)]) [0, 1] rfl ?_
  have hT2 := hT.2
  obtain ⟨hk9, hp9, hk4, hp4, hke⟩ := hT.1 a ha
  refine z_aload_n 0 dX5_hasSign_0 rfl ?_
  refine z_iload_n 1 dX5_hasSign_1 rfl ?_
  refine z_callV (As := [.int c]) (t_isSign (I := I) hL hT (a := a) (f := f) (by omega) (by omega) c) q1802 q1804 qs80 q121 q1805 nm_X5_isSign (tX_obj hL) rfl rfl rfl (Nat.le_of_ble_eq_true rfl) ⟨Nat.le_of_ble_eq_true rfl, Nat.le_of_ble_eq_true rfl⟩ dX5_hasSign_2 rfl rfl (Nat.le_of_ble_eq_true rfl) (Nat.le_of_ble_eq_true rfl) (fun v_1 X_2 hp_3 => ?_)
  obtain ⟨rfl, rfl⟩ := hp_3
  refine z_st (st' := [.int (zb (s_isS kd (J 6) a f c))]) rfl ?_
  refine z_istore_n (lv' := [(2, .int (zb (s_isS kd (J 6) a f c))), (0, .ref (L 99)), (1, .int c)]) dX5_hasSign_5 rfl (by decide) rfl ?_
  refine z_aload_n 1 dX5_hasSign_6 rfl ?_
  refine z_dup dX5_hasSign_7 rfl ?_
  refine tz_get (v := .int (nI (a))) 7 hL (by decide) q1600 rfl dX5_hasSign_8 ?_
  refine z_iload_n 0 dX5_hasSign_11 rfl ?_
  refine z_if_eqb 19 dX5_hasSign_12 (by decide) (fun c_4 => ?_) (fun c_4 => ?_)
  · -- s_isS kd (J 6) a f c = false
    refine z_iconst (v := 0) dX5_hasSign_19 (by decide) ?_
    refine z_iaddN (a := a) (b := 0) dX5_hasSign_20 ?_
    refine z_eq (y := nI (a)) (congrArg nI (by omega)) ?_
    refine tz_put (I' := (s_rd I a f)) 7 hL (by decide) q1600 s_rd_7 dX5_hasSign_21 ?_
    refine z_iload_n 0 dX5_hasSign_24 rfl ?_
    exact z_zret dX5_hasSign_25 rfl (by first | rfl | decide | exact zb_nar _) (Nat.le_of_ble_eq_true rfl) (Nat.le_of_ble_eq_true rfl) ⟨a, rfl, rfl, (by omega), by unfold s_hS; simp [c_4]⟩
  · -- s_isS kd (J 6) a f c = true
    refine z_iconst (v := 1) dX5_hasSign_15 (by decide) ?_
    refine z_goto 20 dX5_hasSign_16 (by decide) ?_
    refine z_iaddN (a := a) (b := 1) dX5_hasSign_20 ?_
    refine tz_put (I' := (s_rd I (a + 1) f)) 7 hL (by decide) q1600 s_rd_7 dX5_hasSign_21 ?_
    refine z_iload_n 0 dX5_hasSign_24 rfl ?_
    exact z_zret dX5_hasSign_25 rfl (by first | rfl | decide | exact zb_nar _) (Nat.le_of_ble_eq_true rfl) (Nat.le_of_ble_eq_true rfl) ⟨(a + 1), rfl, rfl, (by have h9 := (s_isS_k c_4).2; omega), by unfold s_hS; simp [c_4]⟩
set_option maxHeartbeats 4000000 in
theorem t_hasWord {g : zG} {L : Nat → Nat} {I : Nat → Nat → Int32} {J : Nat → Nat → Int64} {Gb : Nat → Nat → Int32} {X : zX} (hL : tok g L) {kd pl : Nat → Nat} {cnt a f : Nat} (hT : s_tk (I 4) (I 5) kd pl cnt) (ha : a ≤ cnt) (hf : f < 2 ^ 20) (w : Nat) (hw : w < 25) : zN g m_X5_hasWord ({ frames := 1, cells := 0, slots := 0, locals := 21 } : Room) [.ref (L 99), .int (nI (w))] (tX g L (s_rd I a f) J Gb X) (fun rv X' => ∃ a' : Nat, rv = some (.int (zb (s_isW kd (J 6) (J 9) a f w))) ∧ X' = (tX g L (s_rd I a' f) J Gb X) ∧ a' ≤ cnt ∧ s_hW kd (J 6) (J 9) a f w = a') := by
  refine zN.of (by decide +kernel) (Nat.le_of_ble_eq_true rfl) rfl ?_
  refine z_lv (lv' := [(0, .ref (L 99)), (1, .int (nI (w)))]) [0, 1] rfl ?_
  have hT2 := hT.2
  obtain ⟨hk9, hp9, hk4, hp4, hke⟩ := hT.1 a ha
  refine z_aload_n 0 dX5_hasWord_0 rfl ?_
  refine z_iload_n 1 dX5_hasWord_1 rfl ?_
  refine z_callV (As := [.int (nI (w))]) (t_isWord (I := I) hL hT (a := a) (f := f) (by omega) (by omega) w (by omega)) q1719 q1721 qs60 q121 q1722 nm_X5_isWord (tX_obj hL) rfl rfl rfl (Nat.le_of_ble_eq_true rfl) ⟨Nat.le_of_ble_eq_true rfl, Nat.le_of_ble_eq_true rfl⟩ dX5_hasWord_2 rfl rfl (Nat.le_of_ble_eq_true rfl) (Nat.le_of_ble_eq_true rfl) (fun v_1 X_2 hp_3 => ?_)
  obtain ⟨rfl, rfl⟩ := hp_3
  refine z_st (st' := [.int (zb (s_isW kd (J 6) (J 9) a f w))]) rfl ?_
  refine z_istore_n (lv' := [(2, .int (zb (s_isW kd (J 6) (J 9) a f w))), (0, .ref (L 99)), (1, .int (nI (w)))]) dX5_hasWord_5 rfl (by decide) rfl ?_
  refine z_aload_n 1 dX5_hasWord_6 rfl ?_
  refine z_dup dX5_hasWord_7 rfl ?_
  refine tz_get (v := .int (nI (a))) 7 hL (by decide) q1600 rfl dX5_hasWord_8 ?_
  refine z_iload_n 0 dX5_hasWord_11 rfl ?_
  refine z_if_eqb 19 dX5_hasWord_12 (by decide) (fun c_4 => ?_) (fun c_4 => ?_)
  · -- s_isW kd (J 6) (J 9) a f w = false
    refine z_iconst (v := 0) dX5_hasWord_19 (by decide) ?_
    refine z_iaddN (a := a) (b := 0) dX5_hasWord_20 ?_
    refine z_eq (y := nI (a)) (congrArg nI (by omega)) ?_
    refine tz_put (I' := (s_rd I a f)) 7 hL (by decide) q1600 s_rd_7 dX5_hasWord_21 ?_
    refine z_iload_n 0 dX5_hasWord_24 rfl ?_
    exact z_zret dX5_hasWord_25 rfl (by first | rfl | decide | exact zb_nar _) (Nat.le_of_ble_eq_true rfl) (Nat.le_of_ble_eq_true rfl) ⟨a, rfl, rfl, (by omega), by unfold s_hW; simp [c_4]⟩
  · -- s_isW kd (J 6) (J 9) a f w = true
    refine z_iconst (v := 1) dX5_hasWord_15 (by decide) ?_
    refine z_goto 20 dX5_hasWord_16 (by decide) ?_
    refine z_iaddN (a := a) (b := 1) dX5_hasWord_20 ?_
    refine tz_put (I' := (s_rd I (a + 1) f)) 7 hL (by decide) q1600 s_rd_7 dX5_hasWord_21 ?_
    refine z_iload_n 0 dX5_hasWord_24 rfl ?_
    exact z_zret dX5_hasWord_25 rfl (by first | rfl | decide | exact zb_nar _) (Nat.le_of_ble_eq_true rfl) (Nat.le_of_ble_eq_true rfl) ⟨(a + 1), rfl, rfl, (by have h9 := (s_isW_k c_4).2; omega), by unfold s_hW; simp [c_4]⟩
