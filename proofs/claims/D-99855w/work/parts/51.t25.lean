/-! THE MODEL: reading. Printed by t25.py -/
set_option maxRecDepth 100000
set_option maxHeartbeats 4000000 in
theorem t_wrong {g : zG} {L : Nat → Nat} {I : Nat → Nat → Int32} {J : Nat → Nat → Int64} {Gb : Nat → Nat → Int32} {X : zX} (hL : tok g L) {kd pl : Nat → Nat} {cnt a f : Nat} (hT : s_tk (I 4) (I 5) kd pl cnt) (ha : a ≤ cnt) (hf : f < 2 ^ 20) (w : Nat) (hw : w < 16) : zN g m_X5_wrong ({ frames := 0, cells := 0, slots := 0, locals := 0 } : Room) [.ref (L 99), .int (nI (w))] (tX g L (s_rd I a f) J Gb X) (fun rv X' => rv = none ∧ X' = (tX g L (s_rd I a (s_wr pl a f w)) J Gb X)) := by
  refine zN.of (by decide +kernel) (Nat.le_of_ble_eq_true rfl) rfl ?_
  refine z_lv (lv' := [(0, .ref (L 99)), (1, .int (nI (w)))]) [0, 1] rfl ?_
  have hT2 := hT.2
  obtain ⟨hk9, hp9, hk4, hp4, hke⟩ := hT.1 a ha
  refine z_aload_n 0 dX5_wrong_0 rfl ?_
  refine tz_get (v := .int (nI (f))) 8 hL (by decide) q1601 rfl dX5_wrong_1 ?_
  refine z_if_neN 25 (by omega) dX5_wrong_4 (by decide) (fun c_1 => ?_) (fun c_1 => ?_)
  · -- f ≠ 0
    exact z_vret dX5_wrong_25 rfl (Nat.le_of_ble_eq_true rfl) (Nat.le_of_ble_eq_true rfl) ⟨rfl, by simp [s_wr, c_1, Nat.add_comm]⟩
  · -- f = 0
    refine z_aload_n 0 dX5_wrong_7 rfl ?_
    refine z_iload_n 1 dX5_wrong_8 rfl ?_
    refine z_bipush (v := 16) dX5_wrong_9 (by decide) ?_
    refine z_aload_n 0 dX5_wrong_11 rfl ?_
    refine tz_get (v := .ref (L 5)) 5 hL (by decide) q1598 rfl dX5_wrong_12 ?_
    refine z_aload_n 0 dX5_wrong_15 rfl ?_
    refine tz_get (v := .int (nI (a))) 7 hL (by decide) q1600 rfl dX5_wrong_16 ?_
    refine tz_iald (v := nI ((pl a))) 5 (a) hL (by decide) rfl (by show a < 1002; omega) hp9 dX5_wrong_19 ?_
    refine z_imulN (a := 16) (b := (pl a)) dX5_wrong_20 ?_
    refine z_iaddN (a := w) (b := 16 * (pl a)) dX5_wrong_21 ?_
    refine z_eq (y := nI (w + 16 * (pl a))) (congrArg nI (by omega)) ?_
    refine tz_put (I' := (s_rd I a (w + 16 * (pl a)))) 8 hL (by decide) q1601 s_rd_8 dX5_wrong_22 ?_
    exact z_vret dX5_wrong_25 rfl (Nat.le_of_ble_eq_true rfl) (Nat.le_of_ble_eq_true rfl) ⟨rfl, by simp [s_wr, c_1, Nat.add_comm]⟩
set_option maxHeartbeats 4000000 in
theorem t_isSign {g : zG} {L : Nat → Nat} {I : Nat → Nat → Int32} {J : Nat → Nat → Int64} {Gb : Nat → Nat → Int32} {X : zX} (hL : tok g L) {kd pl : Nat → Nat} {cnt a f : Nat} (hT : s_tk (I 4) (I 5) kd pl cnt) (ha : a ≤ cnt) (hf : f < 2 ^ 20) (c : Int32) : zN g m_X5_isSign ({ frames := 0, cells := 0, slots := 0, locals := 0 } : Room) [.ref (L 99), .int c] (tX g L (s_rd I a f) J Gb X) (fun rv X' => rv = some (.int (zb (s_isS kd (J 6) a f c))) ∧ X' = (tX g L (s_rd I a f) J Gb X)) := by
  refine zN.of (by decide +kernel) (Nat.le_of_ble_eq_true rfl) rfl ?_
  refine z_lv (lv' := [(0, .ref (L 99)), (1, .int c)]) [0, 1] rfl ?_
  have hT2 := hT.2
  obtain ⟨hk9, hp9, hk4, hp4, hke⟩ := hT.1 a ha
  refine z_aload_n 0 dX5_isSign_0 rfl ?_
  refine tz_get (v := .int (nI (f))) 8 hL (by decide) q1601 rfl dX5_isSign_1 ?_
  refine z_if_neN 39 (by omega) dX5_isSign_4 (by decide) (fun c_1 => ?_) (fun c_1 => ?_)
  · -- f ≠ 0
    refine z_iconst (v := 0) dX5_isSign_39 (by decide) ?_
    exact z_zret dX5_isSign_40 rfl (by first | rfl | decide | exact zb_nar _) (Nat.le_of_ble_eq_true rfl) (Nat.le_of_ble_eq_true rfl) ⟨congrArg some (congrArg Value.int (by simp [s_isS, zb, c_1])), rfl⟩
  · -- f = 0
    refine z_aload_n 0 dX5_isSign_7 rfl ?_
    refine tz_get (v := .ref (L 4)) 4 hL (by decide) q1597 rfl dX5_isSign_8 ?_
    refine z_aload_n 0 dX5_isSign_11 rfl ?_
    refine tz_get (v := .int (nI (a))) 7 hL (by decide) q1600 rfl dX5_isSign_12 ?_
    refine tz_iald (v := nI ((kd a))) 4 (a) hL (by decide) rfl (by show a < 1002; omega) hk9 dX5_isSign_15 ?_
    refine z_iconst (v := 3) dX5_isSign_16 (by decide) ?_
    refine z_icmp_neN (a := (kd a)) (b := 3) 39 (by omega) (by omega) dX5_isSign_17 (by decide) (fun c_2 => ?_) (fun c_2 => ?_)
    · -- (kd a) ≠ 3
      refine z_iconst (v := 0) dX5_isSign_39 (by decide) ?_
      exact z_zret dX5_isSign_40 rfl (by first | rfl | decide | exact zb_nar _) (Nat.le_of_ble_eq_true rfl) (Nat.le_of_ble_eq_true rfl) ⟨congrArg some (congrArg Value.int (by simp [s_isS, zb, c_1, c_2])), rfl⟩
    · -- (kd a) = 3
      refine z_aload_n 0 dX5_isSign_20 rfl ?_
      refine tz_get (v := .ref (L 6)) 6 hL (by decide) q1599 rfl dX5_isSign_21 ?_
      refine z_aload_n 0 dX5_isSign_24 rfl ?_
      refine tz_get (v := .int (nI (a))) 7 hL (by decide) q1600 rfl dX5_isSign_25 ?_
      refine tz_lald (v := J 6 a) 6 (a) hL (by decide) rfl (by show a < 1002; omega) rfl dX5_isSign_28 ?_
      refine z_iload_n 1 dX5_isSign_29 rfl ?_
      refine z_i2l (v := c.toInt64) dX5_isSign_30 rfl ?_
      refine z_lcmp dX5_isSign_31 ?_
      refine z_if_ne 39 dX5_isSign_32 (by decide) (fun c_3 => ?_) (fun c_3 => ?_)
      · -- ¬ lg_cmp (J 6 a) c.toInt64 = 0
        have c_3' := (not_congr (lz_eq _ _)).mp c_3
        refine z_iconst (v := 0) dX5_isSign_39 (by decide) ?_
        exact z_zret dX5_isSign_40 rfl (by first | rfl | decide | exact zb_nar _) (Nat.le_of_ble_eq_true rfl) (Nat.le_of_ble_eq_true rfl) ⟨congrArg some (congrArg Value.int (by simp [s_isS, zb, c_1, c_2, c_3, c_3'])), rfl⟩
      · -- lg_cmp (J 6 a) c.toInt64 = 0
        have c_3' := (lz_eq _ _).mp c_3
        refine z_iconst (v := 1) dX5_isSign_35 (by decide) ?_
        refine z_goto 40 dX5_isSign_36 (by decide) ?_
        exact z_zret dX5_isSign_40 rfl (by first | rfl | decide | exact zb_nar _) (Nat.le_of_ble_eq_true rfl) (Nat.le_of_ble_eq_true rfl) ⟨congrArg some (congrArg Value.int (by simp [s_isS, zb, c_1, c_2, c_3, c_3'])), rfl⟩
set_option maxHeartbeats 4000000 in
theorem t_isWord {g : zG} {L : Nat → Nat} {I : Nat → Nat → Int32} {J : Nat → Nat → Int64} {Gb : Nat → Nat → Int32} {X : zX} (hL : tok g L) {kd pl : Nat → Nat} {cnt a f : Nat} (hT : s_tk (I 4) (I 5) kd pl cnt) (ha : a ≤ cnt) (hf : f < 2 ^ 20) (w : Nat) (hw : w < 25) : zN g m_X5_isWord ({ frames := 0, cells := 0, slots := 0, locals := 0 } : Room) [.ref (L 99), .int (nI (w))] (tX g L (s_rd I a f) J Gb X) (fun rv X' => rv = some (.int (zb (s_isW kd (J 6) (J 9) a f w))) ∧ X' = (tX g L (s_rd I a f) J Gb X)) := by
  refine zN.of (by decide +kernel) (Nat.le_of_ble_eq_true rfl) rfl ?_
  refine z_lv (lv' := [(0, .ref (L 99)), (1, .int (nI (w)))]) [0, 1] rfl ?_
  have hT2 := hT.2
  obtain ⟨hk9, hp9, hk4, hp4, hke⟩ := hT.1 a ha
  refine z_aload_n 0 dX5_isWord_0 rfl ?_
  refine tz_get (v := .int (nI (f))) 8 hL (by decide) q1601 rfl dX5_isWord_1 ?_
  refine z_if_neN 43 (by omega) dX5_isWord_4 (by decide) (fun c_1 => ?_) (fun c_1 => ?_)
  · -- f ≠ 0
    refine z_iconst (v := 0) dX5_isWord_43 (by decide) ?_
    exact z_zret dX5_isWord_44 rfl (by first | rfl | decide | exact zb_nar _) (Nat.le_of_ble_eq_true rfl) (Nat.le_of_ble_eq_true rfl) ⟨congrArg some (congrArg Value.int (by simp [s_isW, zb, c_1])), rfl⟩
  · -- f = 0
    refine z_aload_n 0 dX5_isWord_7 rfl ?_
    refine tz_get (v := .ref (L 4)) 4 hL (by decide) q1597 rfl dX5_isWord_8 ?_
    refine z_aload_n 0 dX5_isWord_11 rfl ?_
    refine tz_get (v := .int (nI (a))) 7 hL (by decide) q1600 rfl dX5_isWord_12 ?_
    refine tz_iald (v := nI ((kd a))) 4 (a) hL (by decide) rfl (by show a < 1002; omega) hk9 dX5_isWord_15 ?_
    refine z_iconst (v := 1) dX5_isWord_16 (by decide) ?_
    refine z_icmp_neN (a := (kd a)) (b := 1) 43 (by omega) (by omega) dX5_isWord_17 (by decide) (fun c_2 => ?_) (fun c_2 => ?_)
    · -- (kd a) ≠ 1
      refine z_iconst (v := 0) dX5_isWord_43 (by decide) ?_
      exact z_zret dX5_isWord_44 rfl (by first | rfl | decide | exact zb_nar _) (Nat.le_of_ble_eq_true rfl) (Nat.le_of_ble_eq_true rfl) ⟨congrArg some (congrArg Value.int (by simp [s_isW, zb, c_1, c_2])), rfl⟩
    · -- (kd a) = 1
      refine z_aload_n 0 dX5_isWord_20 rfl ?_
      refine tz_get (v := .ref (L 6)) 6 hL (by decide) q1599 rfl dX5_isWord_21 ?_
      refine z_aload_n 0 dX5_isWord_24 rfl ?_
      refine tz_get (v := .int (nI (a))) 7 hL (by decide) q1600 rfl dX5_isWord_25 ?_
      refine tz_lald (v := J 6 a) 6 (a) hL (by decide) rfl (by show a < 1002; omega) rfl dX5_isWord_28 ?_
      refine z_aload_n 0 dX5_isWord_29 rfl ?_
      refine tz_get (v := .ref (L 9)) 9 hL (by decide) q1602 rfl dX5_isWord_30 ?_
      refine z_iload_n 1 dX5_isWord_33 rfl ?_
      refine tz_lald (v := J 9 w) 9 (w) hL (by decide) rfl (by show w < 25; omega) rfl dX5_isWord_34 ?_
      refine z_lcmp dX5_isWord_35 ?_
      refine z_if_ne 43 dX5_isWord_36 (by decide) (fun c_3 => ?_) (fun c_3 => ?_)
      · -- ¬ lg_cmp (J 6 a) (J 9 w) = 0
        have c_3' := (not_congr (lz_eq _ _)).mp c_3
        refine z_iconst (v := 0) dX5_isWord_43 (by decide) ?_
        exact z_zret dX5_isWord_44 rfl (by first | rfl | decide | exact zb_nar _) (Nat.le_of_ble_eq_true rfl) (Nat.le_of_ble_eq_true rfl) ⟨congrArg some (congrArg Value.int (by simp [s_isW, zb, c_1, c_2, c_3, c_3'])), rfl⟩
      · -- lg_cmp (J 6 a) (J 9 w) = 0
        have c_3' := (lz_eq _ _).mp c_3
        refine z_iconst (v := 1) dX5_isWord_39 (by decide) ?_
        refine z_goto 44 dX5_isWord_40 (by decide) ?_
        exact z_zret dX5_isWord_44 rfl (by first | rfl | decide | exact zb_nar _) (Nat.le_of_ble_eq_true rfl) (Nat.le_of_ble_eq_true rfl) ⟨congrArg some (congrArg Value.int (by simp [s_isW, zb, c_1, c_2, c_3, c_3'])), rfl⟩
