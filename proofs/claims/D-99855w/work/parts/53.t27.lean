/-! THE MODEL: reading, numbers. Printed by t27.py -/
set_option maxRecDepth 100000
set_option maxHeartbeats 4000000 in
theorem t_takeWord {g : zG} {L : Nat → Nat} {I : Nat → Nat → Int32} {J : Nat → Nat → Int64} {Gb : Nat → Nat → Int32} {X : zX} (hL : tok g L) {kd pl : Nat → Nat} {cnt a f : Nat} (hT : s_tk (I 4) (I 5) kd pl cnt) (ha : a ≤ cnt) (hf : f < 2 ^ 20) (w : Nat) (hw : w < 25) : zN g m_X5_takeWord ({ frames := 2, cells := 0, slots := 0, locals := 43 } : Room) [.ref (L 99), .int (nI (w))] (tX g L (s_rd I a f) J Gb X) (fun rv X' => ∃ a' f' : Nat, rv = none ∧ X' = (tX g L (s_rd I a' f') J Gb X) ∧ a' ≤ cnt ∧ f' < 2 ^ 20 ∧ s_tW kd pl (J 6) (J 9) a f w = (a', f')) := by
  refine zN.of (by decide +kernel) (Nat.le_of_ble_eq_true rfl) rfl ?_
  refine z_lv (lv' := [(0, .ref (L 99)), (1, .int (nI (w)))]) [0, 1] rfl ?_
  have hT2 := hT.2
  obtain ⟨hk9, hp9, hk4, hp4, hke⟩ := hT.1 a ha
  refine z_aload_n 0 dX5_takeWord_0 rfl ?_
  refine z_iload_n 1 dX5_takeWord_1 rfl ?_
  refine z_callV (As := [.int (nI (w))]) (t_hasWord (I := I) hL hT (a := a) (f := f) (by omega) (by omega) w (by omega)) q1751 q1753 qs68 q121 q1754 nm_X5_hasWord (tX_obj hL) rfl rfl rfl (Nat.le_of_ble_eq_true rfl) ⟨Nat.le_of_ble_eq_true rfl, Nat.le_of_ble_eq_true rfl⟩ dX5_takeWord_2 rfl rfl (Nat.le_of_ble_eq_true rfl) (Nat.le_of_ble_eq_true rfl) (fun v_4 X_5 hp_6 => ?_)
  obtain ⟨a_1, rfl, rfl, ha_3, eh_2⟩ := hp_6
  refine z_st (st' := [.int (zb (s_isW kd (J 6) (J 9) a f w))]) rfl ?_
  refine z_if_neb 13 dX5_takeWord_5 (by decide) (fun c_7 => ?_) (fun c_7 => ?_)
  · -- s_isW kd (J 6) (J 9) a f w = true
    exact z_vret dX5_takeWord_13 rfl (Nat.le_of_ble_eq_true rfl) (Nat.le_of_ble_eq_true rfl) ⟨a_1, f, rfl, rfl, (by omega), (by omega), by simp [s_tW, s_hW, c_7, ← eh_2]⟩
  · -- s_isW kd (J 6) (J 9) a f w = false
    refine z_aload_n 0 dX5_takeWord_8 rfl ?_
    refine z_iconst (v := 1) dX5_takeWord_9 (by decide) ?_
    refine z_callV (As := [.int 1]) (t_wrong (I := I) hL hT (a := a_1) (f := f) (by omega) (by omega) 1 (by omega)) q1727 q1729 qs62 q121 q1730 nm_X5_wrong (tX_obj hL) rfl rfl rfl (Nat.le_of_ble_eq_true rfl) ⟨Nat.le_of_ble_eq_true rfl, Nat.le_of_ble_eq_true rfl⟩ dX5_takeWord_10 rfl rfl (Nat.le_of_ble_eq_true rfl) (Nat.le_of_ble_eq_true rfl) (fun v_11 X_12 hp_13 => ?_)
    obtain ⟨rfl, rfl⟩ := hp_13
    obtain ⟨f_8, ⟨hf_9, hf_9p⟩, ef_10⟩ := s_wr_n (pl := pl) (a := a_1) (f := f) (w := 1) (hT.1 a_1 (by omega)).2.2.2.1 (by omega) (by decide)
    have hf_9p := hf_9p (by decide)
    refine z_X (X' := (tX g L (s_rd I a_1 f_8) J Gb X)) (by rw [ef_10]) ?_
    refine z_st (st' := []) rfl ?_
    exact z_vret dX5_takeWord_13 rfl (Nat.le_of_ble_eq_true rfl) (Nat.le_of_ble_eq_true rfl) ⟨a_1, f_8, rfl, rfl, (by omega), (by omega), by simp [s_tW, s_hW, c_7, ← ef_10, ← eh_2]⟩
set_option maxHeartbeats 4000000 in
theorem t_takeNumber {g : zG} {L : Nat → Nat} {I : Nat → Nat → Int32} {J : Nat → Nat → Int64} {Gb : Nat → Nat → Int32} {X : zX} (hL : tok g L) {kd pl : Nat → Nat} {cnt a f : Nat} (hT : s_tk (I 4) (I 5) kd pl cnt) (ha : a ≤ cnt) (hf : f < 2 ^ 20) (lo hi : Int32) : zN g m_X5_takeNumber ({ frames := 1, cells := 0, slots := 0, locals := 21 } : Room) [.ref (L 99), .int lo, .int hi] (tX g L (s_rd I a f) J Gb X) (fun rv X' => ∃ (v : Int32) (a' f' : Nat), rv = some (.int v) ∧ X' = (tX g L (s_rd I a' f') J Gb X) ∧ a' ≤ cnt ∧ f' < 2 ^ 20 ∧ s_tN kd pl (J 6) a f lo hi = (v, a', f')) := by
  refine zN.of (by decide +kernel) (Nat.le_of_ble_eq_true rfl) rfl ?_
  refine z_lv (lv' := [(0, .ref (L 99)), (1, .int lo), (2, .int hi)]) [0, 1, 2] rfl ?_
  have hT2 := hT.2
  obtain ⟨hk9, hp9, hk4, hp4, hke⟩ := hT.1 a ha
  refine z_aload_n 0 dX5_takeNumber_0 rfl ?_
  refine tz_get (v := .int (nI (f))) 8 hL (by decide) q1601 rfl dX5_takeNumber_1 ?_
  refine z_if_neN 28 (by omega) dX5_takeNumber_4 (by decide) (fun c_1 => ?_) (fun c_1 => ?_)
  · -- f ≠ 0
    refine z_aload_n 0 dX5_takeNumber_28 rfl ?_
    refine tz_get (v := .int (nI (f))) 8 hL (by decide) q1601 rfl dX5_takeNumber_29 ?_
    refine z_if_neN 70 (by omega) dX5_takeNumber_32 (by decide) (fun _ => ?_) (fun c_ => absurd c_ (by omega))
    refine z_aload_n 0 dX5_takeNumber_70 rfl ?_
    refine tz_get (v := .int (nI (f))) 8 hL (by decide) q1601 rfl dX5_takeNumber_71 ?_
    refine z_if_leN 79 (by omega) dX5_takeNumber_74 (by decide) (fun c_ => absurd c_ (by omega)) (fun _ => ?_)
    refine z_iconst (v := 0) dX5_takeNumber_77 (by decide) ?_
    exact z_iret dX5_takeNumber_78 rfl (Nat.le_of_ble_eq_true rfl) (Nat.le_of_ble_eq_true rfl) ⟨0, a, f, rfl, rfl, (by omega), (by omega), by simp [s_tN, c_1]⟩
  · -- f = 0
    refine z_aload_n 0 dX5_takeNumber_7 rfl ?_
    refine tz_get (v := .ref (L 4)) 4 hL (by decide) q1597 rfl dX5_takeNumber_8 ?_
    refine z_aload_n 0 dX5_takeNumber_11 rfl ?_
    refine tz_get (v := .int (nI (a))) 7 hL (by decide) q1600 rfl dX5_takeNumber_12 ?_
    refine tz_iald (v := nI ((kd a))) 4 (a) hL (by decide) rfl (by show a < 1002; omega) hk9 dX5_takeNumber_15 ?_
    refine z_iconst (v := 2) dX5_takeNumber_16 (by decide) ?_
    refine z_icmp_eqN (a := (kd a)) (b := 2) 28 (by omega) (by omega) dX5_takeNumber_17 (by decide) (fun c_2 => ?_) (fun c_2 => ?_)
    · -- (kd a) = 2
      refine z_aload_n 0 dX5_takeNumber_28 rfl ?_
      refine tz_get (v := .int (nI (f))) 8 hL (by decide) q1601 rfl dX5_takeNumber_29 ?_
      refine z_if_neN 70 (by omega) dX5_takeNumber_32 (by decide) (fun c_ => absurd c_ (by omega)) (fun _ => ?_)
      refine z_aload_n 0 dX5_takeNumber_35 rfl ?_
      refine tz_get (v := .ref (L 6)) 6 hL (by decide) q1599 rfl dX5_takeNumber_36 ?_
      refine z_aload_n 0 dX5_takeNumber_39 rfl ?_
      refine tz_get (v := .int (nI (a))) 7 hL (by decide) q1600 rfl dX5_takeNumber_40 ?_
      refine tz_lald (v := J 6 a) 6 (a) hL (by decide) rfl (by show a < 1002; omega) rfl dX5_takeNumber_43 ?_
      refine z_iload_n 1 dX5_takeNumber_44 rfl ?_
      refine z_i2l (v := lo.toInt64) dX5_takeNumber_45 rfl ?_
      refine z_lcmp dX5_takeNumber_46 ?_
      refine z_if_lt 65 dX5_takeNumber_47 (by decide) (fun c_3 => ?_) (fun c_3 => ?_)
      · -- lg_cmp (J 6 a) lo.toInt64 < 0
        have c_3' := (lg_cmp_lt _ _).mp c_3
        refine z_aload_n 0 dX5_takeNumber_65 rfl ?_
        refine z_iconst (v := 4) dX5_takeNumber_66 (by decide) ?_
        refine z_callV (As := [.int 4]) (t_wrong (I := I) hL hT (a := a) (f := f) (by omega) (by omega) 4 (by omega)) q1727 q1729 qs62 q121 q1730 nm_X5_wrong (tX_obj hL) rfl rfl rfl (Nat.le_of_ble_eq_true rfl) ⟨Nat.le_of_ble_eq_true rfl, Nat.le_of_ble_eq_true rfl⟩ dX5_takeNumber_67 rfl rfl (Nat.le_of_ble_eq_true rfl) (Nat.le_of_ble_eq_true rfl) (fun v_7 X_8 hp_9 => ?_)
        obtain ⟨rfl, rfl⟩ := hp_9
        obtain ⟨f_4, ⟨hf_5, hf_5p⟩, ef_6⟩ := s_wr_n (pl := pl) (a := a) (f := f) (w := 4) (hT.1 a (by omega)).2.2.2.1 (by omega) (by decide)
        have hf_5p := hf_5p (by decide)
        refine z_X (X' := (tX g L (s_rd I a f_4) J Gb X)) (by rw [ef_6]) ?_
        refine z_st (st' := []) rfl ?_
        refine z_aload_n 0 dX5_takeNumber_70 rfl ?_
        refine tz_get (v := .int (nI (f_4))) 8 hL (by decide) q1601 rfl dX5_takeNumber_71 ?_
        refine z_if_leN 79 (by omega) dX5_takeNumber_74 (by decide) (fun h_ => absurd h_ (by omega)) (fun h_ => ?_)
        refine z_iconst (v := 0) dX5_takeNumber_77 (by decide) ?_
        exact z_iret dX5_takeNumber_78 rfl (Nat.le_of_ble_eq_true rfl) (Nat.le_of_ble_eq_true rfl) ⟨0, a, f_4, rfl, rfl, (by omega), (by omega), by simp [s_tN, c_1, c_2, c_3, c_3', ← ef_6]⟩
      · -- ¬ lg_cmp (J 6 a) lo.toInt64 < 0
        have c_3' := (not_congr (lg_cmp_lt _ _)).mp c_3
        refine z_aload_n 0 dX5_takeNumber_50 rfl ?_
        refine tz_get (v := .ref (L 6)) 6 hL (by decide) q1599 rfl dX5_takeNumber_51 ?_
        refine z_aload_n 0 dX5_takeNumber_54 rfl ?_
        refine tz_get (v := .int (nI (a))) 7 hL (by decide) q1600 rfl dX5_takeNumber_55 ?_
        refine tz_lald (v := J 6 a) 6 (a) hL (by decide) rfl (by show a < 1002; omega) rfl dX5_takeNumber_58 ?_
        refine z_iload_n 2 dX5_takeNumber_59 rfl ?_
        refine z_i2l (v := hi.toInt64) dX5_takeNumber_60 rfl ?_
        refine z_lcmp dX5_takeNumber_61 ?_
        refine z_if_le 70 dX5_takeNumber_62 (by decide) (fun c_10 => ?_) (fun c_10 => ?_)
        · -- lg_cmp (J 6 a) hi.toInt64 ≤ 0
          have c_10' := (lg_cmp_le _ _).mp c_10
          refine z_aload_n 0 dX5_takeNumber_70 rfl ?_
          refine tz_get (v := .int (nI (f))) 8 hL (by decide) q1601 rfl dX5_takeNumber_71 ?_
          refine z_if_leN 79 (by omega) dX5_takeNumber_74 (by decide) (fun _ => ?_) (fun c_ => absurd c_ (by omega))
          refine z_aload_n 0 dX5_takeNumber_79 rfl ?_
          refine z_dup dX5_takeNumber_80 rfl ?_
          refine tz_get (v := .int (nI (a))) 7 hL (by decide) q1600 rfl dX5_takeNumber_81 ?_
          refine z_iconst (v := 1) dX5_takeNumber_84 (by decide) ?_
          refine z_iaddN (a := a) (b := 1) dX5_takeNumber_85 ?_
          refine tz_put (I' := (s_rd I (a + 1) f)) 7 hL (by decide) q1600 s_rd_7 dX5_takeNumber_86 ?_
          refine z_aload_n 0 dX5_takeNumber_89 rfl ?_
          refine tz_get (v := .ref (L 6)) 6 hL (by decide) q1599 rfl dX5_takeNumber_90 ?_
          refine z_aload_n 0 dX5_takeNumber_93 rfl ?_
          refine tz_get (v := .int (nI (a + 1))) 7 hL (by decide) q1600 rfl dX5_takeNumber_94 ?_
          refine z_iconst (v := 1) dX5_takeNumber_97 (by decide) ?_
          refine z_isubN (a := a + 1) (b := 1) (by omega) dX5_takeNumber_98 ?_
          refine z_eq (y := nI (a)) (congrArg nI (by omega)) ?_
          refine tz_lald (v := J 6 a) 6 (a) hL (by decide) rfl (by show a < 1002; omega) rfl dX5_takeNumber_99 ?_
          refine z_l2i (v := (J 6 a).toInt32) dX5_takeNumber_100 rfl ?_
          exact z_iret dX5_takeNumber_101 rfl (Nat.le_of_ble_eq_true rfl) (Nat.le_of_ble_eq_true rfl) ⟨((J 6 a).toInt32), (a + 1), f, rfl, rfl, (by omega), (by omega), by simp [s_tN, c_1, c_2, c_3, c_3', c_10, c_10']⟩
        · -- ¬ lg_cmp (J 6 a) hi.toInt64 ≤ 0
          have c_10' := (not_congr (lg_cmp_le _ _)).mp c_10
          refine z_aload_n 0 dX5_takeNumber_65 rfl ?_
          refine z_iconst (v := 4) dX5_takeNumber_66 (by decide) ?_
          refine z_callV (As := [.int 4]) (t_wrong (I := I) hL hT (a := a) (f := f) (by omega) (by omega) 4 (by omega)) q1727 q1729 qs62 q121 q1730 nm_X5_wrong (tX_obj hL) rfl rfl rfl (Nat.le_of_ble_eq_true rfl) ⟨Nat.le_of_ble_eq_true rfl, Nat.le_of_ble_eq_true rfl⟩ dX5_takeNumber_67 rfl rfl (Nat.le_of_ble_eq_true rfl) (Nat.le_of_ble_eq_true rfl) (fun v_14 X_15 hp_16 => ?_)
          obtain ⟨rfl, rfl⟩ := hp_16
          obtain ⟨f_11, ⟨hf_12, hf_12p⟩, ef_13⟩ := s_wr_n (pl := pl) (a := a) (f := f) (w := 4) (hT.1 a (by omega)).2.2.2.1 (by omega) (by decide)
          have hf_12p := hf_12p (by decide)
          refine z_X (X' := (tX g L (s_rd I a f_11) J Gb X)) (by rw [ef_13]) ?_
          refine z_st (st' := []) rfl ?_
          refine z_aload_n 0 dX5_takeNumber_70 rfl ?_
          refine tz_get (v := .int (nI (f_11))) 8 hL (by decide) q1601 rfl dX5_takeNumber_71 ?_
          refine z_if_leN 79 (by omega) dX5_takeNumber_74 (by decide) (fun h_ => absurd h_ (by omega)) (fun h_ => ?_)
          refine z_iconst (v := 0) dX5_takeNumber_77 (by decide) ?_
          exact z_iret dX5_takeNumber_78 rfl (Nat.le_of_ble_eq_true rfl) (Nat.le_of_ble_eq_true rfl) ⟨0, a, f_11, rfl, rfl, (by omega), (by omega), by simp [s_tN, c_1, c_2, c_3, c_3', c_10, c_10', ← ef_13]⟩
    · -- (kd a) ≠ 2
      refine z_aload_n 0 dX5_takeNumber_20 rfl ?_
      refine z_iconst (v := 1) dX5_takeNumber_21 (by decide) ?_
      refine z_callV (As := [.int 1]) (t_wrong (I := I) hL hT (a := a) (f := f) (by omega) (by omega) 1 (by omega)) q1727 q1729 qs62 q121 q1730 nm_X5_wrong (tX_obj hL) rfl rfl rfl (Nat.le_of_ble_eq_true rfl) ⟨Nat.le_of_ble_eq_true rfl, Nat.le_of_ble_eq_true rfl⟩ dX5_takeNumber_22 rfl rfl (Nat.le_of_ble_eq_true rfl) (Nat.le_of_ble_eq_true rfl) (fun v_20 X_21 hp_22 => ?_)
      obtain ⟨rfl, rfl⟩ := hp_22
      obtain ⟨f_17, ⟨hf_18, hf_18p⟩, ef_19⟩ := s_wr_n (pl := pl) (a := a) (f := f) (w := 1) (hT.1 a (by omega)).2.2.2.1 (by omega) (by decide)
      have hf_18p := hf_18p (by decide)
      refine z_X (X' := (tX g L (s_rd I a f_17) J Gb X)) (by rw [ef_19]) ?_
      refine z_st (st' := []) rfl ?_
      refine z_goto 70 dX5_takeNumber_25 (by decide) ?_
      refine z_aload_n 0 dX5_takeNumber_70 rfl ?_
      refine tz_get (v := .int (nI (f_17))) 8 hL (by decide) q1601 rfl dX5_takeNumber_71 ?_
      refine z_if_leN 79 (by omega) dX5_takeNumber_74 (by decide) (fun h_ => absurd h_ (by omega)) (fun h_ => ?_)
      refine z_iconst (v := 0) dX5_takeNumber_77 (by decide) ?_
      exact z_iret dX5_takeNumber_78 rfl (Nat.le_of_ble_eq_true rfl) (Nat.le_of_ble_eq_true rfl) ⟨0, a, f_17, rfl, rfl, (by omega), (by omega), by simp [s_tN, c_1, c_2, ← ef_19]⟩
