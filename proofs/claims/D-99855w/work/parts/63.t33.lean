/-! THE MODEL: reading a line. Printed by t33.py -/
set_option maxRecDepth 100000
set_option maxHeartbeats 4000000 in
theorem t_readOnce {g : zG} {L : Nat → Nat} {I : Nat → Nat → Int32} {J : Nat → Nat → Int64} {Gb : Nat → Nat → Int32} {X : zX} (hL : tok g L) {kd pl : Nat → Nat} {cnt a : Nat} (hT : s_tk (I 4) (I 5) kd pl cnt) (ha : a < cnt) (hcd : s_isBit (I 99 20) 1 = false → I 99 13 = 0) : zN g m_X5_readOnce ({ frames := 32, cells := 0, slots := 0, locals := 705 } : Room) [.ref (L 99)] (tX g L (s_rd I a 0) J Gb X) (fun rv X' => ∃ (I' : Nat → Nat → Int32) (a' f' : Nat), rv = none ∧ X' = tX g L (s_rd I' a' f') J Gb X ∧ a' ≤ cnt ∧ f' < 2 ^ 20 ∧ s_rO kd pl (J 6) (J 9) I a = (I', a', f')) := by
  refine zN.of (by decide +kernel) (Nat.le_of_ble_eq_true rfl) rfl ?_
  refine z_lv (lv' := [(0, .ref (L 99))]) [0] rfl ?_
  have hT2 := hT.2
  obtain ⟨hk9, hp9, hk4, hp4, hke⟩ := hT.1 a (by omega)
  refine z_aload_n 0 dX5_readOnce_0 rfl ?_
  refine z_bipush (v := 8) dX5_readOnce_1 (by decide) ?_
  refine z_iconst (v := 2) dX5_readOnce_3 (by decide) ?_
  refine z_callV (As := [.int 8, .int 2]) (t_wordHere (I := I) hL hT (a := a) (f := 0) (by omega) (by omega) 8 2 (by omega)) q1735 q1737 qs64 q121 q1738 nm_X5_wordHere (tX_obj hL) rfl rfl rfl (Nat.le_of_ble_eq_true rfl) ⟨Nat.le_of_ble_eq_true rfl, Nat.le_of_ble_eq_true rfl⟩ dX5_readOnce_4 rfl rfl (Nat.le_of_ble_eq_true rfl) (Nat.le_of_ble_eq_true rfl) (fun v_1 X_2 hp_3 => ?_)
  obtain ⟨rfl, rfl⟩ := hp_3
  refine z_st (st' := [.int (s_wh kd (J 6) (J 9) a 0 8 2)]) rfl ?_
  refine z_istore_n (lv' := [(1, .int (s_wh kd (J 6) (J 9) a 0 8 2)), (0, .ref (L 99))]) dX5_readOnce_7 rfl (by decide) rfl ?_
  refine z_iload_n 0 dX5_readOnce_8 rfl ?_
  refine z_if_ge 20 dX5_readOnce_9 (by decide) (fun c_4 => ?_) (fun c_4 => ?_)
  · -- 0 ≤ s_wh kd (J 6) (J 9) a 0 8 2
    have c_4' := Int32.not_lt.mpr c_4
    obtain ⟨hka, k, hk, hke9⟩ : kd a = 1 ∧ ∃ k, k < 2 ∧ s_wh kd (J 6) (J 9) a 0 8 2 = nI k := by rcases s_wh_k (kd := kd) (vl := J 6) (wd := J 9) (a := a) (f := 0) (w := 8) 2 with h9 | h9; exact absurd h9 c_4'; exact h9
    have hn9 : ¬ s_wh kd (J 6) (J 9) a 0 8 2 < 0 := c_4'
    rcases (by omega : k = 0 ∨ k = 1) with rfl | rfl
    · skip
      refine z_lv (lv' := [(1, .int 0), (0, .ref (L 99))]) [0, 1] (by rw [hke9]; rfl) ?_
      refine z_aload_n 1 dX5_readOnce_20 rfl ?_
      refine tz_get (v := .int (I 99 20)) 20 hL (by decide) q1613 rfl dX5_readOnce_21 ?_
      refine z_iload_n 0 dX5_readOnce_24 rfl ?_
      refine z_ishr dX5_readOnce_25 ?_
      refine z_iconst (v := 1) dX5_readOnce_26 (by decide) ?_
      refine z_iand dX5_readOnce_27 ?_
      refine z_iconst (v := 1) dX5_readOnce_28 (by decide) ?_
      refine z_icmp_ne 37 dX5_readOnce_29 (by decide) (fun c_5 => ?_) (fun c_5 => ?_)
      · -- ¬ (((I 99 20) >>> (0 &&& 31)) &&& 1) = 1
        refine z_aload_n 1 dX5_readOnce_37 rfl ?_
        refine tz_get (v := .int 0) 8 hL (by decide) q1601 rfl dX5_readOnce_38 ?_
        refine z_if_le 45 dX5_readOnce_41 (by decide) (fun h_ => ?_) (fun h_ => absurd h_ (by decide))
        refine z_aload_n 1 dX5_readOnce_45 rfl ?_
        refine z_dup dX5_readOnce_46 rfl ?_
        refine tz_get (v := .int (I 99 20)) 20 hL (by decide) q1613 rfl dX5_readOnce_47 ?_
        refine z_iconst (v := 1) dX5_readOnce_50 (by decide) ?_
        refine z_iload_n 0 dX5_readOnce_51 rfl ?_
        refine z_ishl dX5_readOnce_52 ?_
        refine z_ior dX5_readOnce_53 ?_
        obtain ⟨x_6, ex_6⟩ : ∃ y : Int32, ((I 99 20) ||| ((1 : Int32) <<< (0 &&& 31))) = y := ⟨_, rfl⟩
        refine z_eq ex_6 ?_
        refine tz_put (I' := (s_rd (zs I 99 20 x_6) a 0)) 20 hL (by decide) q1613 (s_rd_f (by decide) (by decide)) dX5_readOnce_54 ?_
        refine z_aload_n 1 dX5_readOnce_57 rfl ?_
        refine z_dup dX5_readOnce_58 rfl ?_
        refine tz_get (v := .int (nI (a))) 7 hL (by decide) q1600 rfl dX5_readOnce_59 ?_
        refine z_iconst (v := 1) dX5_readOnce_62 (by decide) ?_
        refine z_iaddN (a := a) (b := 1) dX5_readOnce_63 ?_
        refine tz_put (I' := (s_rd (zs I 99 20 x_6) (a + 1) 0)) 7 hL (by decide) q1600 s_rd_7 dX5_readOnce_64 ?_
        refine z_iload_n 0 dX5_readOnce_67 rfl ?_
        refine z_if_ne 87 dX5_readOnce_68 (by decide) (fun h_ => absurd h_ (by decide)) (fun h_ => ?_)
        refine z_aload_n 1 dX5_readOnce_71 rfl ?_
        refine tz_get (v := .ref (L 10)) 10 hL (by decide) q1603 rfl dX5_readOnce_72 ?_
        refine z_bipush (v := 52) dX5_readOnce_75 (by decide) ?_
        refine z_aload_n 1 dX5_readOnce_77 rfl ?_
        refine z_iconst (v := 1) dX5_readOnce_78 (by decide) ?_
        refine z_iconst (v := 4) dX5_readOnce_79 (by decide) ?_
        refine z_callV (As := [.int 1, .int 4]) (t_takeNumber (I := (zs I 99 20 x_6)) hL hT (a := a + 1) (f := 0) (by omega) (by omega) 1 4 ) q1755 q1757 qs69 q121 q1758 nm_X5_takeNumber (tX_obj hL) rfl rfl rfl (Nat.le_of_ble_eq_true rfl) ⟨Nat.le_of_ble_eq_true rfl, Nat.le_of_ble_eq_true rfl⟩ dX5_readOnce_80 rfl rfl (Nat.le_of_ble_eq_true rfl) (Nat.le_of_ble_eq_true rfl) (fun v_13 X_14 hp_15 => ?_)
        obtain ⟨v_12, a_7, f_8, rfl, rfl, ha_10, hf_11, et_9⟩ := hp_15
        refine z_st (st' := [.int v_12, .int 52, .ref (L 10)]) rfl ?_
        refine tz_iast 10 (52) hL (by decide) rfl (by show 52 < 100; omega) (s_rd_a (by decide)) dX5_readOnce_83 ?_
        refine z_goto 109 dX5_readOnce_84 (by decide) ?_
        exact z_vret dX5_readOnce_109 rfl (Nat.le_of_ble_eq_true rfl) (Nat.le_of_ble_eq_true rfl) ⟨(zs (zs I 99 20 x_6) 10 52 v_12), a_7, f_8, rfl, rfl, (by omega), (by omega), by (try subst ex_6); unfold s_rO; simp only [hke9]; rw [if_neg (show ¬ nI 0 < 0 by decide), if_neg (show ¬ (I 99 20 >>> (nI 0 &&& 31)) &&& 1 = 1 from c_5), if_pos (show nI 0 = 0 from rfl), et_9]⟩
      · -- (((I 99 20) >>> (0 &&& 31)) &&& 1) = 1
        refine z_aload_n 1 dX5_readOnce_32 rfl ?_
        refine z_iconst (v := 3) dX5_readOnce_33 (by decide) ?_
        refine z_callV (As := [.int 3]) (t_wrong (I := I) hL hT (a := a) (f := 0) (by omega) (by omega) 3 (by omega)) q1727 q1729 qs62 q121 q1730 nm_X5_wrong (tX_obj hL) rfl rfl rfl (Nat.le_of_ble_eq_true rfl) ⟨Nat.le_of_ble_eq_true rfl, Nat.le_of_ble_eq_true rfl⟩ dX5_readOnce_34 rfl rfl (Nat.le_of_ble_eq_true rfl) (Nat.le_of_ble_eq_true rfl) (fun v_19 X_20 hp_21 => ?_)
        obtain ⟨rfl, rfl⟩ := hp_21
        obtain ⟨f_16, ⟨hf_17, hf_17p⟩, ef_18⟩ := s_wr_n (pl := pl) (a := a) (f := 0) (w := 3) (hT.1 a (by omega)).2.2.2.1 (by omega) (by decide)
        have hf_17p := hf_17p (by decide)
        refine z_X (X' := (tX g L (s_rd I a f_16) J Gb X)) (by rw [ef_18]) ?_
        refine z_st (st' := []) rfl ?_
        refine z_aload_n 1 dX5_readOnce_37 rfl ?_
        refine tz_get (v := .int (nI (f_16))) 8 hL (by decide) q1601 rfl dX5_readOnce_38 ?_
        refine z_if_leN 45 (by omega) dX5_readOnce_41 (by decide) (fun h_ => absurd h_ (by omega)) (fun h_ => ?_)
        exact z_vret dX5_readOnce_44 rfl (Nat.le_of_ble_eq_true rfl) (Nat.le_of_ble_eq_true rfl) ⟨I, a, f_16, rfl, rfl, (by omega), (by omega), by skip; unfold s_rO; simp only [hke9]; rw [if_neg (show ¬ nI 0 < 0 by decide), if_pos (show (I 99 20 >>> (nI 0 &&& 31)) &&& 1 = 1 from c_5), ef_18]⟩
    · skip
      refine z_lv (lv' := [(1, .int 1), (0, .ref (L 99))]) [0, 1] (by rw [hke9]; rfl) ?_
      refine z_aload_n 1 dX5_readOnce_20 rfl ?_
      refine tz_get (v := .int (I 99 20)) 20 hL (by decide) q1613 rfl dX5_readOnce_21 ?_
      refine z_iload_n 0 dX5_readOnce_24 rfl ?_
      refine z_ishr dX5_readOnce_25 ?_
      refine z_iconst (v := 1) dX5_readOnce_26 (by decide) ?_
      refine z_iand dX5_readOnce_27 ?_
      refine z_iconst (v := 1) dX5_readOnce_28 (by decide) ?_
      refine z_icmp_ne 37 dX5_readOnce_29 (by decide) (fun c_22 => ?_) (fun c_22 => ?_)
      · -- ¬ (((I 99 20) >>> (1 &&& 31)) &&& 1) = 1
        refine z_aload_n 1 dX5_readOnce_37 rfl ?_
        refine tz_get (v := .int 0) 8 hL (by decide) q1601 rfl dX5_readOnce_38 ?_
        refine z_if_le 45 dX5_readOnce_41 (by decide) (fun h_ => ?_) (fun h_ => absurd h_ (by decide))
        refine z_aload_n 1 dX5_readOnce_45 rfl ?_
        refine z_dup dX5_readOnce_46 rfl ?_
        refine tz_get (v := .int (I 99 20)) 20 hL (by decide) q1613 rfl dX5_readOnce_47 ?_
        refine z_iconst (v := 1) dX5_readOnce_50 (by decide) ?_
        refine z_iload_n 0 dX5_readOnce_51 rfl ?_
        refine z_ishl dX5_readOnce_52 ?_
        refine z_ior dX5_readOnce_53 ?_
        obtain ⟨x_23, ex_23⟩ : ∃ y : Int32, ((I 99 20) ||| ((1 : Int32) <<< (1 &&& 31))) = y := ⟨_, rfl⟩
        refine z_eq ex_23 ?_
        refine tz_put (I' := (s_rd (zs I 99 20 x_23) a 0)) 20 hL (by decide) q1613 (s_rd_f (by decide) (by decide)) dX5_readOnce_54 ?_
        refine z_aload_n 1 dX5_readOnce_57 rfl ?_
        refine z_dup dX5_readOnce_58 rfl ?_
        refine tz_get (v := .int (nI (a))) 7 hL (by decide) q1600 rfl dX5_readOnce_59 ?_
        refine z_iconst (v := 1) dX5_readOnce_62 (by decide) ?_
        refine z_iaddN (a := a) (b := 1) dX5_readOnce_63 ?_
        refine tz_put (I' := (s_rd (zs I 99 20 x_23) (a + 1) 0)) 7 hL (by decide) q1600 s_rd_7 dX5_readOnce_64 ?_
        refine z_iload_n 0 dX5_readOnce_67 rfl ?_
        refine z_if_ne 87 dX5_readOnce_68 (by decide) (fun h_ => ?_) (fun h_ => absurd h_ (by decide))
        have hc0 : I 99 13 = 0 := hcd (decide_eq_false c_22)
        refine z_aload_n 1 dX5_readOnce_87 rfl ?_
        refine tz_get (v := .ref (L 10)) 10 hL (by decide) q1603 rfl dX5_readOnce_88 ?_
        refine z_bipush (v := 53) dX5_readOnce_91 (by decide) ?_
        refine z_aload_n 1 dX5_readOnce_93 rfl ?_
        refine tz_get (v := .int 0) 13 hL (by decide) q1606 (congrArg (fun z => some (Value.int z)) hc0) dX5_readOnce_94 ?_
        refine tz_iast 10 (53) hL (by decide) rfl (by show 53 < 100; omega) (s_rd_a (by decide)) dX5_readOnce_97 ?_
        refine z_X (X' := (tX g L (s_rd (s_cd (zs (zs I 99 20 x_23) 10 53 0) []) (a + 1) 0) J Gb X)) (by rw [s_cd_0 (I := (zs (zs I 99 20 x_23) 10 53 0)) hc0]) ?_
        refine z_aload_n 1 dX5_readOnce_98 rfl ?_
        refine z_iconst (v := 0) dX5_readOnce_99 (by decide) ?_
        refine z_callV (As := [.int 0]) (t_whole_5 (I := (zs (zs I 99 20 x_23) 10 53 0)) hL hT (a := a + 1) (f := 0) (by omega) (by omega) (cs := []) (Nat.zero_le _)) q1782 q1784 qs75 q121 q1785 nm_X5_whole (tX_obj hL) rfl rfl rfl (Nat.le_of_ble_eq_true rfl) ⟨Nat.le_of_ble_eq_true rfl, Nat.le_of_ble_eq_true rfl⟩ dX5_readOnce_100 rfl rfl (Nat.le_of_ble_eq_true rfl) (Nat.le_of_ble_eq_true rfl) (fun v_32 X_33 hp_34 => ?_)
        obtain ⟨a_24, f_25, cs_26, rfl, rfl, h_28, h_29, h_30, h_31, et_27⟩ := hp_34
        have hl0 : ([] : List (Nat × Int32)).length = 0 := rfl
        refine z_st (st' := []) rfl ?_
        refine z_aload_n 1 dX5_readOnce_103 rfl ?_
        refine z_iconst (v := 0) dX5_readOnce_104 (by decide) ?_
        refine z_iconst (v := 0) dX5_readOnce_105 (by decide) ?_
        refine z_callV (As := [.int 0, .int 0]) (t_emit (I := (zs (zs I 99 20 x_23) 10 53 0)) hL (cs := cs_26) (a := a_24) (f := f_25) (by omega) 0 0) q1806 q1808 qs81 q121 q1809 nm_X5_emit (tX_obj hL) rfl rfl rfl (Nat.le_of_ble_eq_true rfl) ⟨Nat.le_of_ble_eq_true rfl, Nat.le_of_ble_eq_true rfl⟩ dX5_readOnce_106 rfl rfl (Nat.le_of_ble_eq_true rfl) (Nat.le_of_ble_eq_true rfl) (fun v_35 X_36 hp_37 => ?_)
        obtain ⟨rfl, rfl⟩ := hp_37
        refine z_st (st' := []) rfl ?_
        exact z_vret dX5_readOnce_109 rfl (Nat.le_of_ble_eq_true rfl) (Nat.le_of_ble_eq_true rfl) ⟨(s_cd (zs (zs I 99 20 x_23) 10 53 0) (cs_26 ++ [(0, 0)])), a_24, f_25, rfl, rfl, (by omega), (by omega), by (try subst ex_23); unfold s_rO; simp only [hke9]; rw [if_neg (show ¬ nI 1 < 0 by decide), if_neg (show ¬ (I 99 20 >>> (nI 1 &&& 31)) &&& 1 = 1 from c_22), if_neg (show ¬ nI 1 = 0 by decide), et_27]⟩
      · -- (((I 99 20) >>> (1 &&& 31)) &&& 1) = 1
        refine z_aload_n 1 dX5_readOnce_32 rfl ?_
        refine z_iconst (v := 3) dX5_readOnce_33 (by decide) ?_
        refine z_callV (As := [.int 3]) (t_wrong (I := I) hL hT (a := a) (f := 0) (by omega) (by omega) 3 (by omega)) q1727 q1729 qs62 q121 q1730 nm_X5_wrong (tX_obj hL) rfl rfl rfl (Nat.le_of_ble_eq_true rfl) ⟨Nat.le_of_ble_eq_true rfl, Nat.le_of_ble_eq_true rfl⟩ dX5_readOnce_34 rfl rfl (Nat.le_of_ble_eq_true rfl) (Nat.le_of_ble_eq_true rfl) (fun v_41 X_42 hp_43 => ?_)
        obtain ⟨rfl, rfl⟩ := hp_43
        obtain ⟨f_38, ⟨hf_39, hf_39p⟩, ef_40⟩ := s_wr_n (pl := pl) (a := a) (f := 0) (w := 3) (hT.1 a (by omega)).2.2.2.1 (by omega) (by decide)
        have hf_39p := hf_39p (by decide)
        refine z_X (X' := (tX g L (s_rd I a f_38) J Gb X)) (by rw [ef_40]) ?_
        refine z_st (st' := []) rfl ?_
        refine z_aload_n 1 dX5_readOnce_37 rfl ?_
        refine tz_get (v := .int (nI (f_38))) 8 hL (by decide) q1601 rfl dX5_readOnce_38 ?_
        refine z_if_leN 45 (by omega) dX5_readOnce_41 (by decide) (fun h_ => absurd h_ (by omega)) (fun h_ => ?_)
        exact z_vret dX5_readOnce_44 rfl (Nat.le_of_ble_eq_true rfl) (Nat.le_of_ble_eq_true rfl) ⟨I, a, f_38, rfl, rfl, (by omega), (by omega), by skip; unfold s_rO; simp only [hke9]; rw [if_neg (show ¬ nI 1 < 0 by decide), if_pos (show (I 99 20 >>> (nI 1 &&& 31)) &&& 1 = 1 from c_22), ef_40]⟩
  · -- ¬ 0 ≤ s_wh kd (J 6) (J 9) a 0 8 2
    have c_4' := Int32.not_le.mp c_4
    refine z_aload_n 1 dX5_readOnce_12 rfl ?_
    refine z_iconst (v := 1) dX5_readOnce_13 (by decide) ?_
    refine z_callV (As := [.int 1]) (t_wrong (I := I) hL hT (a := a) (f := 0) (by omega) (by omega) 1 (by omega)) q1727 q1729 qs62 q121 q1730 nm_X5_wrong (tX_obj hL) rfl rfl rfl (Nat.le_of_ble_eq_true rfl) ⟨Nat.le_of_ble_eq_true rfl, Nat.le_of_ble_eq_true rfl⟩ dX5_readOnce_14 rfl rfl (Nat.le_of_ble_eq_true rfl) (Nat.le_of_ble_eq_true rfl) (fun v_47 X_48 hp_49 => ?_)
    obtain ⟨rfl, rfl⟩ := hp_49
    obtain ⟨f_44, ⟨hf_45, hf_45p⟩, ef_46⟩ := s_wr_n (pl := pl) (a := a) (f := 0) (w := 1) (hT.1 a (by omega)).2.2.2.1 (by omega) (by decide)
    have hf_45p := hf_45p (by decide)
    refine z_X (X' := (tX g L (s_rd I a f_44) J Gb X)) (by rw [ef_46]) ?_
    refine z_st (st' := []) rfl ?_
    refine z_goto 37 dX5_readOnce_17 (by decide) ?_
    refine z_aload_n 1 dX5_readOnce_37 rfl ?_
    refine tz_get (v := .int (nI (f_44))) 8 hL (by decide) q1601 rfl dX5_readOnce_38 ?_
    refine z_if_leN 45 (by omega) dX5_readOnce_41 (by decide) (fun h_ => absurd h_ (by omega)) (fun h_ => ?_)
    exact z_vret dX5_readOnce_44 rfl (Nat.le_of_ble_eq_true rfl) (Nat.le_of_ble_eq_true rfl) ⟨I, a, f_44, rfl, rfl, (by omega), (by omega), by skip; unfold s_rO; rw [if_pos c_4', ef_46]⟩
set_option maxHeartbeats 4000000 in
theorem t_readLine {g : zG} {L : Nat → Nat} {I : Nat → Nat → Int32} {J : Nat → Nat → Int64} {Gb : Nat → Nat → Int32} {X : zX} (hL : tok g L) {kd pl : Nat → Nat} {cnt a : Nat} (hT : s_tk (I 4) (I 5) kd pl cnt) (ha : a < cnt) {nh nd rm : Nat} (h50 : I 10 50 = nI nh) (hnh : nh ≤ 4) (h51 : I 10 51 = nI nd) (hnd : nd ≤ 6) (hm : I 99 19 = nI rm) (hrm : rm = nh + nd) (hcd : s_isBit (I 99 20) 1 = false → I 99 13 = 0) : zN g m_X5_readLine ({ frames := 33, cells := 0, slots := 0, locals := 726 } : Room) [.ref (L 99)] (tX g L (s_rd I a 0) J Gb X) (fun rv X' => ∃ (I' : Nat → Nat → Int32) (J' : Nat → Nat → Int64) (a' f' : Nat), rv = none ∧ X' = tX g L (s_rd I' a' f') J' Gb X ∧ a' ≤ cnt ∧ f' < 2 ^ 20 ∧ s_line kd pl (J 6) (J 9) I J a nh nd = (I', J', a', f')) := by
  refine zN.of (by decide +kernel) (Nat.le_of_ble_eq_true rfl) rfl ?_
  refine z_lv (lv' := [(0, .ref (L 99))]) [0] rfl ?_
  have hT2 := hT.2
  obtain ⟨hk9, hp9, hk4, hp4, hke⟩ := hT.1 a (by omega)
  refine z_aload_n 0 dX5_readLine_0 rfl ?_
  refine z_iconst (v := 0) dX5_readLine_1 (by decide) ?_
  refine z_callV (As := [.int 0]) (t_isWord (I := I) hL hT (a := a) (f := 0) (by omega) (by omega) 0 (by omega)) q1719 q1721 qs60 q121 q1722 nm_X5_isWord (tX_obj hL) rfl rfl rfl (Nat.le_of_ble_eq_true rfl) ⟨Nat.le_of_ble_eq_true rfl, Nat.le_of_ble_eq_true rfl⟩ dX5_readLine_2 rfl rfl (Nat.le_of_ble_eq_true rfl) (Nat.le_of_ble_eq_true rfl) (fun v_1 X_2 hp_3 => ?_)
  obtain ⟨rfl, rfl⟩ := hp_3
  refine z_st (st' := [.int (zb (s_isW kd (J 6) (J 9) a 0 0))]) rfl ?_
  refine z_if_eqb 54 dX5_readLine_5 (by decide) (fun c_4 => ?_) (fun c_4 => ?_)
  · -- s_isW kd (J 6) (J 9) a 0 0 = false
    refine z_aload_n 0 dX5_readLine_54 rfl ?_
    refine z_iconst (v := 3) dX5_readLine_55 (by decide) ?_
    refine z_callV (As := [.int 3]) (t_isWord (I := I) hL hT (a := a) (f := 0) (by omega) (by omega) 3 (by omega)) q1719 q1721 qs60 q121 q1722 nm_X5_isWord (tX_obj hL) rfl rfl rfl (Nat.le_of_ble_eq_true rfl) ⟨Nat.le_of_ble_eq_true rfl, Nat.le_of_ble_eq_true rfl⟩ dX5_readLine_56 rfl rfl (Nat.le_of_ble_eq_true rfl) (Nat.le_of_ble_eq_true rfl) (fun v_5 X_6 hp_7 => ?_)
    obtain ⟨rfl, rfl⟩ := hp_7
    refine z_st (st' := [.int (zb (s_isW kd (J 6) (J 9) a 0 3))]) rfl ?_
    refine z_if_eqb 69 dX5_readLine_59 (by decide) (fun c_8 => ?_) (fun c_8 => ?_)
    · -- s_isW kd (J 6) (J 9) a 0 3 = false
      refine z_aload_n 0 dX5_readLine_69 rfl ?_
      refine z_iconst (v := 2) dX5_readLine_70 (by decide) ?_
      refine z_callV (As := [.int 2]) (t_isWord (I := I) hL hT (a := a) (f := 0) (by omega) (by omega) 2 (by omega)) q1719 q1721 qs60 q121 q1722 nm_X5_isWord (tX_obj hL) rfl rfl rfl (Nat.le_of_ble_eq_true rfl) ⟨Nat.le_of_ble_eq_true rfl, Nat.le_of_ble_eq_true rfl⟩ dX5_readLine_71 rfl rfl (Nat.le_of_ble_eq_true rfl) (Nat.le_of_ble_eq_true rfl) (fun v_9 X_10 hp_11 => ?_)
      obtain ⟨rfl, rfl⟩ := hp_11
      refine z_st (st' := [.int (zb (s_isW kd (J 6) (J 9) a 0 2))]) rfl ?_
      refine z_if_eqb 87 dX5_readLine_74 (by decide) (fun c_12 => ?_) (fun c_12 => ?_)
      · -- s_isW kd (J 6) (J 9) a 0 2 = false
        refine z_aload_n 0 dX5_readLine_87 rfl ?_
        refine z_bipush (v := 7) dX5_readLine_88 (by decide) ?_
        refine z_callV (As := [.int 7]) (t_isWord (I := I) hL hT (a := a) (f := 0) (by omega) (by omega) 7 (by omega)) q1719 q1721 qs60 q121 q1722 nm_X5_isWord (tX_obj hL) rfl rfl rfl (Nat.le_of_ble_eq_true rfl) ⟨Nat.le_of_ble_eq_true rfl, Nat.le_of_ble_eq_true rfl⟩ dX5_readLine_90 rfl rfl (Nat.le_of_ble_eq_true rfl) (Nat.le_of_ble_eq_true rfl) (fun v_13 X_14 hp_15 => ?_)
        obtain ⟨rfl, rfl⟩ := hp_15
        refine z_st (st' := [.int (zb (s_isW kd (J 6) (J 9) a 0 7))]) rfl ?_
        refine z_if_eqb 108 dX5_readLine_93 (by decide) (fun c_16 => ?_) (fun c_16 => ?_)
        · -- s_isW kd (J 6) (J 9) a 0 7 = false
          refine z_aload_n 0 dX5_readLine_108 rfl ?_
          refine z_callV (As := []) (t_readOnce (I := I) hL hT (a := a) (by omega) hcd) q1778 q1780 qs74 q121 q1781 nm_X5_readOnce (tX_obj hL) rfl rfl rfl (Nat.le_of_ble_eq_true rfl) ⟨Nat.le_of_ble_eq_true rfl, Nat.le_of_ble_eq_true rfl⟩ dX5_readLine_109 rfl rfl (Nat.le_of_ble_eq_true rfl) (Nat.le_of_ble_eq_true rfl) (fun v_23 X_24 hp_25 => ?_)
          obtain ⟨I_17, a_18, f_19, rfl, rfl, ha_21, hf_22, et_20⟩ := hp_25
          refine z_st (st' := []) rfl ?_
          exact z_vret dX5_readLine_112 rfl (Nat.le_of_ble_eq_true rfl) (Nat.le_of_ble_eq_true rfl) ⟨I_17, J, a_18, f_19, rfl, rfl, (by omega), (by omega), by unfold s_line; rw [if_neg (by rw [c_4]; decide), if_neg (by rw [c_8]; decide), if_neg (by rw [c_12]; decide), if_neg (by rw [c_16]; decide)]; subst hrm; simp only [et_20]⟩
        · -- s_isW kd (J 6) (J 9) a 0 7 = true
          refine z_aload_n 0 dX5_readLine_96 rfl ?_
          refine z_bipush (v := 20) dX5_readLine_97 (by decide) ?_
          refine z_bipush (v := 16) dX5_readLine_99 (by decide) ?_
          refine z_iconst (v := 5) dX5_readLine_101 (by decide) ?_
          refine z_callV (As := [.int 20, .int 16, .int 5]) (t_readPair_20 (I := I) hL hT (a := a) (by omega) h50 hnh h51 hnd hm hrm) q1774 q1776 qs73 q121 q1777 nm_X5_readPair (tX_obj hL) rfl rfl rfl (Nat.le_of_ble_eq_true rfl) ⟨Nat.le_of_ble_eq_true rfl, Nat.le_of_ble_eq_true rfl⟩ dX5_readLine_102 rfl rfl (Nat.le_of_ble_eq_true rfl) (Nat.le_of_ble_eq_true rfl) (fun v_32 X_33 hp_34 => ?_)
          obtain ⟨I_26, a_27, f_28, rfl, rfl, ha_30, hf_31, et_29⟩ := hp_34
          refine z_st (st' := []) rfl ?_
          refine z_goto 112 dX5_readLine_105 (by decide) ?_
          exact z_vret dX5_readLine_112 rfl (Nat.le_of_ble_eq_true rfl) (Nat.le_of_ble_eq_true rfl) ⟨I_26, J, a_27, f_28, rfl, rfl, (by omega), (by omega), by unfold s_line; rw [if_neg (by rw [c_4]; decide), if_neg (by rw [c_8]; decide), if_neg (by rw [c_12]; decide), if_pos c_16]; subst hrm; simp only [et_29]⟩
      · -- s_isW kd (J 6) (J 9) a 0 2 = true
        refine z_aload_n 0 dX5_readLine_77 rfl ?_
        refine z_iconst (v := 0) dX5_readLine_78 (by decide) ?_
        refine z_iconst (v := 5) dX5_readLine_79 (by decide) ?_
        refine z_iconst (v := 2) dX5_readLine_80 (by decide) ?_
        refine z_callV (As := [.int 0, .int 5, .int 2]) (t_readPair_0 (I := I) hL hT (a := a) (by omega) h50 hnh h51 hnd hm hrm) q1774 q1776 qs73 q121 q1777 nm_X5_readPair (tX_obj hL) rfl rfl rfl (Nat.le_of_ble_eq_true rfl) ⟨Nat.le_of_ble_eq_true rfl, Nat.le_of_ble_eq_true rfl⟩ dX5_readLine_81 rfl rfl (Nat.le_of_ble_eq_true rfl) (Nat.le_of_ble_eq_true rfl) (fun v_41 X_42 hp_43 => ?_)
        obtain ⟨I_35, a_36, f_37, rfl, rfl, ha_39, hf_40, et_38⟩ := hp_43
        refine z_st (st' := []) rfl ?_
        refine z_goto 112 dX5_readLine_84 (by decide) ?_
        exact z_vret dX5_readLine_112 rfl (Nat.le_of_ble_eq_true rfl) (Nat.le_of_ble_eq_true rfl) ⟨I_35, J, a_36, f_37, rfl, rfl, (by omega), (by omega), by unfold s_line; rw [if_neg (by rw [c_4]; decide), if_neg (by rw [c_8]; decide), if_pos c_12]; subst hrm; simp only [et_38]⟩
    · -- s_isW kd (J 6) (J 9) a 0 3 = true
      refine z_aload_n 0 dX5_readLine_62 rfl ?_
      refine z_callV (As := []) (t_readDay (I := I) hL hT (a := a) (by omega) h50 hnh h51 hnd hm hrm) q1759 q1761 qs70 q121 q1762 nm_X5_readDay (tX_obj hL) rfl rfl rfl (Nat.le_of_ble_eq_true rfl) ⟨Nat.le_of_ble_eq_true rfl, Nat.le_of_ble_eq_true rfl⟩ dX5_readLine_63 rfl rfl (Nat.le_of_ble_eq_true rfl) (Nat.le_of_ble_eq_true rfl) (fun v_51 X_52 hp_53 => ?_)
      obtain ⟨I_44, J_45, a_46, f_47, rfl, rfl, ha_49, hf_50, et_48⟩ := hp_53
      refine z_st (st' := []) rfl ?_
      refine z_goto 112 dX5_readLine_66 (by decide) ?_
      exact z_vret dX5_readLine_112 rfl (Nat.le_of_ble_eq_true rfl) (Nat.le_of_ble_eq_true rfl) ⟨I_44, J_45, a_46, f_47, rfl, rfl, (by omega), (by omega), by unfold s_line; rw [if_neg (by rw [c_4]; decide), if_pos c_8]; subst hrm; simp only [et_48]⟩
  · -- s_isW kd (J 6) (J 9) a 0 0 = true
    refine z_bipush (v := 54) dX5_readLine_8 (by decide) ?_
    refine z_iconst (v := 2) dX5_readLine_10 (by decide) ?_
    refine z_aload_n 0 dX5_readLine_11 rfl ?_
    refine tz_get (v := .ref (L 10)) 10 hL (by decide) q1603 rfl dX5_readLine_12 ?_
    refine z_bipush (v := 50) dX5_readLine_15 (by decide) ?_
    refine tz_iald (v := nI (nh)) 10 (50) hL (by decide) rfl (by show 50 < 100; omega) h50 dX5_readLine_17 ?_
    refine z_imulN (a := 2) (b := nh) dX5_readLine_18 ?_
    refine z_iaddN (a := 54) (b := 2 * nh) dX5_readLine_19 ?_
    refine z_eq (y := nI (2 * nh + 54)) (congrArg nI (by omega)) ?_
    refine z_istore_n (lv' := [(1, .int (nI (2 * nh + 54))), (0, .ref (L 99))]) dX5_readLine_20 rfl (by decide) rfl ?_
    refine z_aload_n 1 dX5_readLine_21 rfl ?_
    refine z_iconst (v := 0) dX5_readLine_22 (by decide) ?_
    refine z_iconst (v := 4) dX5_readLine_23 (by decide) ?_
    refine z_iconst (v := 0) dX5_readLine_24 (by decide) ?_
    refine z_callV (As := [.int 0, .int 4, .int 0]) (t_readName_0 (I := I) hL hT (a := a) (by omega) h50 hnh h51 hnd hm hrm) q1723 q1725 qs61 q121 q1726 nm_X5_readName (tX_obj hL) rfl rfl rfl (Nat.le_of_ble_eq_true rfl) ⟨Nat.le_of_ble_eq_true rfl, Nat.le_of_ble_eq_true rfl⟩ dX5_readLine_25 rfl rfl (Nat.le_of_ble_eq_true rfl) (Nat.le_of_ble_eq_true rfl) (fun v_62 X_63 hp_64 => ?_)
    obtain ⟨I_54, J_55, a_56, f_57, rfl, rfl, ha_59, hf_60, et_58⟩ := hp_64
    have hk_61 := s_rN_k et_58 hm
    have hT := s_rk_tk hk_61.2.1 hT
    have hJ6 := hk_61.2.1.2.2.2.2 6 (by decide)
    have hJ9 := hk_61.2.1.2.2.2.2 9 (by decide)
    obtain ⟨rm2, hm, hm2⟩ : ∃ m9, I_54 99 19 = nI m9 ∧ m9 ≤ 10 := by rcases hk_61.2.2.2.2 with ⟨h9, -, -⟩ | ⟨h9, h8, -⟩; exact ⟨_, h9 ▸ hm, by omega⟩; exact ⟨_, h8, by omega⟩
    have hle := hk_61.1
    refine z_st (st' := []) rfl ?_
    refine z_aload_n 1 dX5_readLine_28 rfl ?_
    refine z_iconst (v := 1) dX5_readLine_29 (by decide) ?_
    refine z_iconst (v := 1) dX5_readLine_30 (by decide) ?_
    refine z_bipush (v := 6) dX5_readLine_31 (by decide) ?_
    refine z_callV (As := [.int 1, .int 1, .int 6]) (t_takeAfter (I := I_54) hL hT (a := a_56) (f := f_57) (by omega) (by omega) 1 (by omega) 1 6 ) q1743 q1745 qs66 q121 q1746 nm_X5_takeAfter (tX_obj hL) rfl rfl rfl (Nat.le_of_ble_eq_true rfl) ⟨Nat.le_of_ble_eq_true rfl, Nat.le_of_ble_eq_true rfl⟩ dX5_readLine_33 rfl rfl (Nat.le_of_ble_eq_true rfl) (Nat.le_of_ble_eq_true rfl) (fun v_71 X_72 hp_73 => ?_)
    obtain ⟨v_70, a_65, f_66, rfl, rfl, ha_68, hf_69, et_67⟩ := hp_73
    refine z_st (st' := [.int v_70]) rfl ?_
    refine z_istore_n (lv' := [(2, .int v_70), (1, .int (nI (2 * nh + 54))), (0, .ref (L 99))]) dX5_readLine_36 rfl (by decide) rfl ?_
    refine z_aload_n 2 dX5_readLine_37 rfl ?_
    refine tz_get (v := .int (nI (f_66))) 8 hL (by decide) q1601 rfl dX5_readLine_38 ?_
    refine z_if_neN 51 (by omega) dX5_readLine_41 (by decide) (fun c_74 => ?_) (fun c_74 => ?_)
    · -- f_66 ≠ 0
      refine z_goto 112 dX5_readLine_51 (by decide) ?_
      exact z_vret dX5_readLine_112 rfl (Nat.le_of_ble_eq_true rfl) (Nat.le_of_ble_eq_true rfl) ⟨I_54, J_55, a_65, f_66, rfl, rfl, (by omega), (by omega), by unfold s_line; rw [if_pos c_4]; subst hrm; rw [hJ6, hJ9] at et_67; unfold s_rH; rw [et_58]; unfold s_rH1; simp only [et_67]; rw [if_neg (show ¬ f_66 = 0 by omega)]⟩
    · -- f_66 = 0
      refine z_aload_n 2 dX5_readLine_44 rfl ?_
      refine tz_get (v := .ref (L 10)) 10 hL (by decide) q1603 rfl dX5_readLine_45 ?_
      refine z_iload_n 1 dX5_readLine_48 rfl ?_
      refine z_iload_n 0 dX5_readLine_49 rfl ?_
      refine tz_iast 10 (2 * nh + 54) hL (by decide) rfl (by show 2 * nh + 54 < 100; omega) (s_rd_a (by decide)) dX5_readLine_50 ?_
      refine z_goto 112 dX5_readLine_51 (by decide) ?_
      exact z_vret dX5_readLine_112 rfl (Nat.le_of_ble_eq_true rfl) (Nat.le_of_ble_eq_true rfl) ⟨(zs I_54 10 (2 * nh + 54) v_70), J_55, a_65, f_66, rfl, rfl, (by omega), (by omega), by unfold s_line; rw [if_pos c_4]; subst hrm; rw [hJ6, hJ9] at et_67; unfold s_rH; rw [et_58]; unfold s_rH1; simp only [et_67]; rw [if_pos c_74, c_74]⟩
