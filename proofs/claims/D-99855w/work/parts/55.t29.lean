/-! THE MODEL: reading, names. Printed by t29.py -/
set_option maxRecDepth 100000
set_option maxHeartbeats 4000000 in
theorem t_nameAt_1 {g : zG} {L : Nat → Nat} {I : Nat → Nat → Int32} {J : Nat → Nat → Int64} {Gb : Nat → Nat → Int32} {X : zX} (hL : tok g L) {kd pl : Nat → Nat} {cnt a f : Nat} (hT : s_tk (I 4) (I 5) kd pl cnt) (ha : a ≤ cnt) (hf : f < 2 ^ 20) {rm : Nat} (hm : I 99 19 = nI rm) (hm2 : rm ≤ 10) : zN g m_X5_nameAt ({ frames := 0, cells := 0, slots := 0, locals := 0 } : Room) [.ref (L 99), .int 1] (tX g L (s_rd I a f) J Gb X) (fun rv X' => rv = some (.int (s_nm (J 15) (I 17) rm (J 6 a))) ∧ X' = (tX g L (s_rd I a f) J Gb X)) := by
  refine zN.of (by decide +kernel) (Nat.le_of_ble_eq_true rfl) rfl ?_
  refine z_lv (lv' := [(0, .ref (L 99)), (1, .int 1)]) [0, 1] rfl ?_
  have hT2 := hT.2
  obtain ⟨hk9, hp9, hk4, hp4, hke⟩ := hT.1 a ha
  refine z_iconst (v := 0) dX5_nameAt_0 (by decide) ?_
  refine z_istore_n (lv' := [(2, .int 0), (0, .ref (L 99)), (1, .int 1)]) dX5_nameAt_1 rfl (by decide) rfl ?_
  have loop_5 : ∀ (q_2 i_1 : Nat), i_1 + q_2 = rm → 0 ≤ i_1 → s_fst (fun k => decide ((J 15) k = J 6 a)) (I 17) rm 0 = s_fst (fun k => decide ((J 15) k = J 6 a)) (I 17) q_2 i_1 → zZ g m_X5_nameAt (fun rv X' => rv = some (.int (s_nm (J 15) (I 17) rm (J 6 a))) ∧ X' = (tX g L (s_rd I a f) J Gb X), zno, ({ frames := 0, cells := 0, slots := 0, locals := 0 } : Room)) 0 0 (tX g L (s_rd I a f) J Gb X) 2 [(0, .ref (L 99)), (1, .int 1), (2, .int (nI (i_1)))] [] := by
    intro q_2
    induction q_2 with
    | zero =>
      intro i_1 hb_4 lo_7  hi_6
      obtain rfl : rm = i_1 := by omega
      refine z_iload_n 2 dX5_nameAt_2 rfl ?_
      refine z_iload_n 1 dX5_nameAt_3 rfl ?_
      refine z_if_eq 14 dX5_nameAt_4 (by decide) (fun h_ => absurd h_ (by decide)) (fun h_ => ?_)
      refine z_aload_n 0 dX5_nameAt_7 rfl ?_
      refine tz_get (v := .int (nI (rm))) 19 hL (by decide) q1612 (congrArg (fun z => some (Value.int z)) hm) dX5_nameAt_8 ?_
      refine z_goto 18 dX5_nameAt_11 (by decide) ?_
      refine z_icmp_geN (a := rm) (b := rm) 79 (by omega) (by omega) dX5_nameAt_18 (by decide) (fun c_8 => ?_) (fun c_8 => absurd c_8 (by omega))
      refine z_iconst (v := zm1) dX5_nameAt_79 (by decide) ?_
      exact z_iret dX5_nameAt_80 rfl (Nat.le_of_ble_eq_true rfl) (Nat.le_of_ble_eq_true rfl) ⟨congrArg some (congrArg Value.int (hi_6.symm)), rfl⟩
    | succ q_2 ih_3 =>
      intro i_1 hb_4 lo_7  hi_6
      refine z_iload_n 2 dX5_nameAt_2 rfl ?_
      refine z_iload_n 1 dX5_nameAt_3 rfl ?_
      refine z_if_eq 14 dX5_nameAt_4 (by decide) (fun h_ => absurd h_ (by decide)) (fun h_ => ?_)
      refine z_aload_n 0 dX5_nameAt_7 rfl ?_
      refine tz_get (v := .int (nI (rm))) 19 hL (by decide) q1612 (congrArg (fun z => some (Value.int z)) hm) dX5_nameAt_8 ?_
      refine z_goto 18 dX5_nameAt_11 (by decide) ?_
      refine z_icmp_geN (a := i_1) (b := rm) 79 (by omega) (by omega) dX5_nameAt_18 (by decide) (fun c_9 => absurd c_9 (by omega)) (fun c_9 => ?_)
      refine z_iload_n 1 dX5_nameAt_21 rfl ?_
      refine z_if_eq 34 dX5_nameAt_22 (by decide) (fun h_ => absurd h_ (by decide)) (fun h_ => ?_)
      refine z_aload_n 0 dX5_nameAt_25 rfl ?_
      refine tz_get (v := .ref (L 15)) 15 hL (by decide) q1608 rfl dX5_nameAt_26 ?_
      refine z_iload_n 2 dX5_nameAt_29 rfl ?_
      refine tz_lald (v := J 15 i_1) 15 (i_1) hL (by decide) rfl (by show i_1 < 10; omega) rfl dX5_nameAt_30 ?_
      refine z_goto 40 dX5_nameAt_31 (by decide) ?_
      refine z_aload_n 0 dX5_nameAt_40 rfl ?_
      refine tz_get (v := .ref (L 6)) 6 hL (by decide) q1599 rfl dX5_nameAt_41 ?_
      refine z_aload_n 0 dX5_nameAt_44 rfl ?_
      refine tz_get (v := .int (nI (a))) 7 hL (by decide) q1600 rfl dX5_nameAt_45 ?_
      refine tz_lald (v := J 6 a) 6 (a) hL (by decide) rfl (by show a < 1002; omega) rfl dX5_nameAt_48 ?_
      refine z_lcmp dX5_nameAt_49 ?_
      refine z_if_ne 73 dX5_nameAt_50 (by decide) (fun c_10 => ?_) (fun c_10 => ?_)
      · -- ¬ lg_cmp (J 15 i_1) (J 6 a) = 0
        have c_10' := (not_congr (lz_eq _ _)).mp c_10
        refine z_iinc (v := nI (i_1 + 1)) (lv' := [(2, .int (nI (i_1 + 1))), (0, .ref (L 99)), (1, .int 1)]) 2 dX5_nameAt_73 rfl (nI_1 _) (by decide) rfl ?_
        refine z_goto 2 dX5_nameAt_76 (by decide) ?_
        refine z_lv (lv' := [(0, .ref (L 99)), (1, .int 1), (2, .int (nI (i_1 + 1)))]) [1, 2, 0] rfl ?_
        exact ih_3 (i_1 + 1) (by omega) (by omega)  (hi_6.trans (s_fst_f (decide_eq_false c_10')))
      · -- lg_cmp (J 15 i_1) (J 6 a) = 0
        have c_10' := (lz_eq _ _).mp c_10
        refine z_iload_n 1 dX5_nameAt_53 rfl ?_
        refine z_if_eq 66 dX5_nameAt_54 (by decide) (fun h_ => absurd h_ (by decide)) (fun h_ => ?_)
        refine z_aload_n 0 dX5_nameAt_57 rfl ?_
        refine tz_get (v := .ref (L 17)) 17 hL (by decide) q1610 rfl dX5_nameAt_58 ?_
        refine z_iload_n 2 dX5_nameAt_61 rfl ?_
        refine tz_iald (v := I 17 i_1) 17 (i_1) hL (by decide) rfl (by show i_1 < 10; omega) rfl dX5_nameAt_62 ?_
        refine z_goto 72 dX5_nameAt_63 (by decide) ?_
        exact z_iret dX5_nameAt_72 rfl (Nat.le_of_ble_eq_true rfl) (Nat.le_of_ble_eq_true rfl) ⟨congrArg some (congrArg Value.int (hi_6.trans (s_fst_t (decide_eq_true c_10'))).symm), rfl⟩
  refine z_lv (lv' := [(0, .ref (L 99)), (1, .int 1), (2, .int 0)]) [1, 2, 0] rfl ?_
  exact loop_5 (rm - 0) 0 (by omega) (Nat.le_refl _)  rfl
set_option maxHeartbeats 4000000 in
theorem t_takeTold_1 {g : zG} {L : Nat → Nat} {I : Nat → Nat → Int32} {J : Nat → Nat → Int64} {Gb : Nat → Nat → Int32} {X : zX} (hL : tok g L) {kd pl : Nat → Nat} {cnt a f : Nat} (hT : s_tk (I 4) (I 5) kd pl cnt) (ha : a ≤ cnt) (hf : f < 2 ^ 20) {rm : Nat} (hm : I 99 19 = nI rm) (hm2 : rm ≤ 10) (fr bu : Int32) : zN g m_X5_takeTold ({ frames := 3, cells := 0, slots := 0, locals := 65 } : Room) [.ref (L 99), .int 1, .int fr, .int bu] (tX g L (s_rd I a f) J Gb X) (fun rv X' => ∃ (v : Int32) (a' f' : Nat), rv = some (.int v) ∧ X' = (tX g L (s_rd I a' f') J Gb X) ∧ a' ≤ cnt ∧ f' < 2 ^ 20 ∧ s_tT kd pl (J 6) (J 9) (s_nm (J 15) (I 17) rm) a f fr bu = (v, a', f')) := by
  refine zN.of (by decide +kernel) (Nat.le_of_ble_eq_true rfl) rfl ?_
  refine z_lv (lv' := [(0, .ref (L 99)), (1, .int 1), (2, .int fr), (3, .int bu)]) [0, 1, 2, 3] rfl ?_
  have hT2 := hT.2
  obtain ⟨hk9, hp9, hk4, hp4, hke⟩ := hT.1 a ha
  refine z_aload_n 0 dX5_takeTold_0 rfl ?_
  refine tz_get (v := .int (nI (f))) 8 hL (by decide) q1601 rfl dX5_takeTold_1 ?_
  refine z_if_neN 19 (by omega) dX5_takeTold_4 (by decide) (fun c_1 => ?_) (fun c_1 => ?_)
  · -- f ≠ 0
    refine z_aload_n 0 dX5_takeTold_19 rfl ?_
    refine tz_get (v := .int (nI (f))) 8 hL (by decide) q1601 rfl dX5_takeTold_20 ?_
    refine z_if_leN 30 (by omega) dX5_takeTold_23 (by decide) (fun c_ => absurd c_ (by omega)) (fun _ => ?_)
    refine z_iconst (v := zm1) dX5_takeTold_26 (by decide) ?_
    refine z_goto 37 dX5_takeTold_27 (by decide) ?_
    refine z_istore (lv' := [(4, .int zm1), (0, .ref (L 99)), (1, .int 1), (2, .int fr), (3, .int bu)]) dX5_takeTold_37 (by decide) rfl ?_
    refine z_aload_n 1 dX5_takeTold_39 rfl ?_
    refine tz_get (v := .int (nI (f))) 8 hL (by decide) q1601 rfl dX5_takeTold_40 ?_
    refine z_if_neN 64 (by omega) dX5_takeTold_43 (by decide) (fun _ => ?_) (fun c_ => absurd c_ (by omega))
    refine z_aload_n 1 dX5_takeTold_64 rfl ?_
    refine tz_get (v := .int (nI (f))) 8 hL (by decide) q1601 rfl dX5_takeTold_65 ?_
    refine z_if_neN 86 (by omega) dX5_takeTold_68 (by decide) (fun _ => ?_) (fun c_ => absurd c_ (by omega))
    refine z_aload_n 1 dX5_takeTold_86 rfl ?_
    refine z_dup dX5_takeTold_87 rfl ?_
    refine tz_get (v := .int (nI (a))) 7 hL (by decide) q1600 rfl dX5_takeTold_88 ?_
    refine z_aload_n 1 dX5_takeTold_91 rfl ?_
    refine tz_get (v := .int (nI (f))) 8 hL (by decide) q1601 rfl dX5_takeTold_92 ?_
    refine z_if_leN 102 (by omega) dX5_takeTold_95 (by decide) (fun c_ => absurd c_ (by omega)) (fun _ => ?_)
    refine z_iconst (v := 0) dX5_takeTold_98 (by decide) ?_
    refine z_goto 103 dX5_takeTold_99 (by decide) ?_
    refine z_iaddN (a := a) (b := 0) dX5_takeTold_103 ?_
    refine z_eq (y := nI (a)) (congrArg nI (by omega)) ?_
    refine tz_put (I' := (s_rd I a f)) 7 hL (by decide) q1600 s_rd_7 dX5_takeTold_104 ?_
    refine z_aload_n 1 dX5_takeTold_107 rfl ?_
    refine tz_get (v := .int (nI (f))) 8 hL (by decide) q1601 rfl dX5_takeTold_108 ?_
    refine z_if_leN 118 (by omega) dX5_takeTold_111 (by decide) (fun c_ => absurd c_ (by omega)) (fun _ => ?_)
    refine z_iconst (v := 0) dX5_takeTold_114 (by decide) ?_
    refine z_goto 120 dX5_takeTold_115 (by decide) ?_
    exact z_iret dX5_takeTold_120 rfl (Nat.le_of_ble_eq_true rfl) (Nat.le_of_ble_eq_true rfl) ⟨0, a, f, rfl, rfl, (by omega), (by omega), by simp [s_tT, c_1]⟩
  · -- f = 0
    refine z_aload_n 0 dX5_takeTold_7 rfl ?_
    refine z_callV (As := []) (t_isName (I := I) hL hT (a := a) (f := f) (by omega) (by omega)) q1731 q1733 qs63 q121 q1734 nm_X5_isName (tX_obj hL) rfl rfl rfl (Nat.le_of_ble_eq_true rfl) ⟨Nat.le_of_ble_eq_true rfl, Nat.le_of_ble_eq_true rfl⟩ dX5_takeTold_8 rfl rfl (Nat.le_of_ble_eq_true rfl) (Nat.le_of_ble_eq_true rfl) (fun v_2 X_3 hp_4 => ?_)
    obtain ⟨rfl, rfl⟩ := hp_4
    refine z_st (st' := [.int (zb (s_isN kd (J 6) (J 9) a f))]) rfl ?_
    refine z_if_neb 19 dX5_takeTold_11 (by decide) (fun c_5 => ?_) (fun c_5 => ?_)
    · -- s_isN kd (J 6) (J 9) a f = true
      refine z_aload_n 0 dX5_takeTold_19 rfl ?_
      refine tz_get (v := .int (nI (f))) 8 hL (by decide) q1601 rfl dX5_takeTold_20 ?_
      refine z_if_leN 30 (by omega) dX5_takeTold_23 (by decide) (fun _ => ?_) (fun c_ => absurd c_ (by omega))
      refine z_aload_n 0 dX5_takeTold_30 rfl ?_
      refine z_iload_n 1 dX5_takeTold_31 rfl ?_
      refine z_callV (As := [.int 1]) (t_nameAt_1 (I := I) hL hT (a := a) (f := f) (by omega) (by omega) hm hm2) q1739 q1741 qs65 q121 q1742 nm_X5_nameAt (tX_obj hL) rfl rfl rfl (Nat.le_of_ble_eq_true rfl) ⟨Nat.le_of_ble_eq_true rfl, Nat.le_of_ble_eq_true rfl⟩ dX5_takeTold_32 rfl rfl (Nat.le_of_ble_eq_true rfl) (Nat.le_of_ble_eq_true rfl) (fun v_6 X_7 hp_8 => ?_)
      obtain ⟨rfl, rfl⟩ := hp_8
      refine z_st (st' := [.int (s_nm (J 15) (I 17) rm (J 6 a))]) rfl ?_
      refine z_iload_n 2 dX5_takeTold_35 rfl ?_
      refine z_isub dX5_takeTold_36 ?_
      obtain ⟨x_9, ex_9⟩ : ∃ y : Int32, ((s_nm (J 15) (I 17) rm (J 6 a)) - fr) = y := ⟨_, rfl⟩
      refine z_eq ex_9 ?_
      refine z_istore (lv' := [(4, .int x_9), (0, .ref (L 99)), (1, .int 1), (2, .int fr), (3, .int bu)]) dX5_takeTold_37 (by decide) rfl ?_
      refine z_aload_n 1 dX5_takeTold_39 rfl ?_
      refine tz_get (v := .int (nI (f))) 8 hL (by decide) q1601 rfl dX5_takeTold_40 ?_
      refine z_if_neN 64 (by omega) dX5_takeTold_43 (by decide) (fun c_ => absurd c_ (by omega)) (fun _ => ?_)
      refine z_iload 0 dX5_takeTold_46 rfl ?_
      refine z_iconst (v := 0) dX5_takeTold_48 (by decide) ?_
      refine z_iconst (v := 5) dX5_takeTold_49 (by decide) ?_
      refine z_callS (As := [.int x_9, .int 0, .int 5]) (t_within x_9 0 5) q1771 q1772 q121 q1773 nm_X5_within rfl (Nat.le_of_ble_eq_true rfl) ⟨Nat.le_of_ble_eq_true rfl, Nat.le_of_ble_eq_true rfl⟩ dX5_takeTold_50 rfl rfl (Nat.le_of_ble_eq_true rfl) (Nat.le_of_ble_eq_true rfl) (fun v_10 X_11 hp_12 => ?_)
      obtain ⟨rfl, rfl⟩ := hp_12
      refine z_st (st' := [.int (zb (decide (0 ≤ x_9) && decide (x_9 ≤ 5)))]) rfl ?_
      refine z_if_neb 64 dX5_takeTold_53 (by decide) (fun c_13 => ?_) (fun c_13 => ?_)
      · -- decide (0 ≤ x_9) && decide (x_9 ≤ 5) = true
        refine z_aload_n 1 dX5_takeTold_64 rfl ?_
        refine tz_get (v := .int (nI (f))) 8 hL (by decide) q1601 rfl dX5_takeTold_65 ?_
        refine z_if_neN 86 (by omega) dX5_takeTold_68 (by decide) (fun c_ => absurd c_ (by omega)) (fun _ => ?_)
        refine z_iload_n 4 dX5_takeTold_71 rfl ?_
        refine z_iload 0 dX5_takeTold_72 rfl ?_
        refine z_ishr dX5_takeTold_74 ?_
        refine z_iconst (v := 1) dX5_takeTold_75 (by decide) ?_
        refine z_iand dX5_takeTold_76 ?_
        refine z_iconst (v := 1) dX5_takeTold_77 (by decide) ?_
        refine z_icmp_ne 86 dX5_takeTold_78 (by decide) (fun c_14 => ?_) (fun c_14 => ?_)
        · -- ¬ ((bu >>> (x_9 &&& 31)) &&& 1) = 1
          refine z_aload_n 1 dX5_takeTold_86 rfl ?_
          refine z_dup dX5_takeTold_87 rfl ?_
          refine tz_get (v := .int (nI (a))) 7 hL (by decide) q1600 rfl dX5_takeTold_88 ?_
          refine z_aload_n 1 dX5_takeTold_91 rfl ?_
          refine tz_get (v := .int (nI (f))) 8 hL (by decide) q1601 rfl dX5_takeTold_92 ?_
          refine z_if_leN 102 (by omega) dX5_takeTold_95 (by decide) (fun _ => ?_) (fun c_ => absurd c_ (by omega))
          refine z_iconst (v := 1) dX5_takeTold_102 (by decide) ?_
          refine z_iaddN (a := a) (b := 1) dX5_takeTold_103 ?_
          refine tz_put (I' := (s_rd I (a + 1) f)) 7 hL (by decide) q1600 s_rd_7 dX5_takeTold_104 ?_
          refine z_aload_n 1 dX5_takeTold_107 rfl ?_
          refine tz_get (v := .int (nI (f))) 8 hL (by decide) q1601 rfl dX5_takeTold_108 ?_
          refine z_if_leN 118 (by omega) dX5_takeTold_111 (by decide) (fun _ => ?_) (fun c_ => absurd c_ (by omega))
          refine z_iload 0 dX5_takeTold_118 rfl ?_
          exact z_iret dX5_takeTold_120 rfl (Nat.le_of_ble_eq_true rfl) (Nat.le_of_ble_eq_true rfl) ⟨x_9, (a + 1), f, rfl, rfl, (by have h9 := (s_isN_k c_5).2; omega), (by omega), by subst c_1; simp [s_tT, c_5, c_13, c_14, ex_9]⟩
        · -- ((bu >>> (x_9 &&& 31)) &&& 1) = 1
          refine z_aload_n 1 dX5_takeTold_81 rfl ?_
          refine z_iconst (v := 3) dX5_takeTold_82 (by decide) ?_
          refine z_callV (As := [.int 3]) (t_wrong (I := I) hL hT (a := a) (f := f) (by omega) (by omega) 3 (by omega)) q1727 q1729 qs62 q121 q1730 nm_X5_wrong (tX_obj hL) rfl rfl rfl (Nat.le_of_ble_eq_true rfl) ⟨Nat.le_of_ble_eq_true rfl, Nat.le_of_ble_eq_true rfl⟩ dX5_takeTold_83 rfl rfl (Nat.le_of_ble_eq_true rfl) (Nat.le_of_ble_eq_true rfl) (fun v_18 X_19 hp_20 => ?_)
          obtain ⟨rfl, rfl⟩ := hp_20
          obtain ⟨f_15, ⟨hf_16, hf_16p⟩, ef_17⟩ := s_wr_n (pl := pl) (a := a) (f := f) (w := 3) (hT.1 a (by omega)).2.2.2.1 (by omega) (by decide)
          have hf_16p := hf_16p (by decide)
          refine z_X (X' := (tX g L (s_rd I a f_15) J Gb X)) (by rw [ef_17]) ?_
          refine z_st (st' := []) rfl ?_
          refine z_aload_n 1 dX5_takeTold_86 rfl ?_
          refine z_dup dX5_takeTold_87 rfl ?_
          refine tz_get (v := .int (nI (a))) 7 hL (by decide) q1600 rfl dX5_takeTold_88 ?_
          refine z_aload_n 1 dX5_takeTold_91 rfl ?_
          refine tz_get (v := .int (nI (f_15))) 8 hL (by decide) q1601 rfl dX5_takeTold_92 ?_
          refine z_if_leN 102 (by omega) dX5_takeTold_95 (by decide) (fun h_ => absurd h_ (by omega)) (fun h_ => ?_)
          refine z_iconst (v := 0) dX5_takeTold_98 (by decide) ?_
          refine z_goto 103 dX5_takeTold_99 (by decide) ?_
          refine z_iaddN (a := a) (b := 0) dX5_takeTold_103 ?_
          refine z_eq (y := nI (a)) (congrArg nI (by omega)) ?_
          refine tz_put (I' := (s_rd I a f_15)) 7 hL (by decide) q1600 s_rd_7 dX5_takeTold_104 ?_
          refine z_aload_n 1 dX5_takeTold_107 rfl ?_
          refine tz_get (v := .int (nI (f_15))) 8 hL (by decide) q1601 rfl dX5_takeTold_108 ?_
          refine z_if_leN 118 (by omega) dX5_takeTold_111 (by decide) (fun h_ => absurd h_ (by omega)) (fun h_ => ?_)
          refine z_iconst (v := 0) dX5_takeTold_114 (by decide) ?_
          refine z_goto 120 dX5_takeTold_115 (by decide) ?_
          exact z_iret dX5_takeTold_120 rfl (Nat.le_of_ble_eq_true rfl) (Nat.le_of_ble_eq_true rfl) ⟨0, a, f_15, rfl, rfl, (by omega), (by omega), by subst c_1; simp [s_tT, c_5, c_13, c_14, ex_9, ← ef_17]⟩
      · -- decide (0 ≤ x_9) && decide (x_9 ≤ 5) = false
        refine z_aload_n 1 dX5_takeTold_56 rfl ?_
        refine z_iconst (v := 2) dX5_takeTold_57 (by decide) ?_
        refine z_callV (As := [.int 2]) (t_wrong (I := I) hL hT (a := a) (f := f) (by omega) (by omega) 2 (by omega)) q1727 q1729 qs62 q121 q1730 nm_X5_wrong (tX_obj hL) rfl rfl rfl (Nat.le_of_ble_eq_true rfl) ⟨Nat.le_of_ble_eq_true rfl, Nat.le_of_ble_eq_true rfl⟩ dX5_takeTold_58 rfl rfl (Nat.le_of_ble_eq_true rfl) (Nat.le_of_ble_eq_true rfl) (fun v_24 X_25 hp_26 => ?_)
        obtain ⟨rfl, rfl⟩ := hp_26
        obtain ⟨f_21, ⟨hf_22, hf_22p⟩, ef_23⟩ := s_wr_n (pl := pl) (a := a) (f := f) (w := 2) (hT.1 a (by omega)).2.2.2.1 (by omega) (by decide)
        have hf_22p := hf_22p (by decide)
        refine z_X (X' := (tX g L (s_rd I a f_21) J Gb X)) (by rw [ef_23]) ?_
        refine z_st (st' := []) rfl ?_
        refine z_goto 86 dX5_takeTold_61 (by decide) ?_
        refine z_aload_n 1 dX5_takeTold_86 rfl ?_
        refine z_dup dX5_takeTold_87 rfl ?_
        refine tz_get (v := .int (nI (a))) 7 hL (by decide) q1600 rfl dX5_takeTold_88 ?_
        refine z_aload_n 1 dX5_takeTold_91 rfl ?_
        refine tz_get (v := .int (nI (f_21))) 8 hL (by decide) q1601 rfl dX5_takeTold_92 ?_
        refine z_if_leN 102 (by omega) dX5_takeTold_95 (by decide) (fun h_ => absurd h_ (by omega)) (fun h_ => ?_)
        refine z_iconst (v := 0) dX5_takeTold_98 (by decide) ?_
        refine z_goto 103 dX5_takeTold_99 (by decide) ?_
        refine z_iaddN (a := a) (b := 0) dX5_takeTold_103 ?_
        refine z_eq (y := nI (a)) (congrArg nI (by omega)) ?_
        refine tz_put (I' := (s_rd I a f_21)) 7 hL (by decide) q1600 s_rd_7 dX5_takeTold_104 ?_
        refine z_aload_n 1 dX5_takeTold_107 rfl ?_
        refine tz_get (v := .int (nI (f_21))) 8 hL (by decide) q1601 rfl dX5_takeTold_108 ?_
        refine z_if_leN 118 (by omega) dX5_takeTold_111 (by decide) (fun h_ => absurd h_ (by omega)) (fun h_ => ?_)
        refine z_iconst (v := 0) dX5_takeTold_114 (by decide) ?_
        refine z_goto 120 dX5_takeTold_115 (by decide) ?_
        exact z_iret dX5_takeTold_120 rfl (Nat.le_of_ble_eq_true rfl) (Nat.le_of_ble_eq_true rfl) ⟨0, a, f_21, rfl, rfl, (by omega), (by omega), by subst c_1; simp [s_tT, c_5, c_13, ex_9, ← ef_23]⟩
    · -- s_isN kd (J 6) (J 9) a f = false
      refine z_aload_n 0 dX5_takeTold_14 rfl ?_
      refine z_iconst (v := 1) dX5_takeTold_15 (by decide) ?_
      refine z_callV (As := [.int 1]) (t_wrong (I := I) hL hT (a := a) (f := f) (by omega) (by omega) 1 (by omega)) q1727 q1729 qs62 q121 q1730 nm_X5_wrong (tX_obj hL) rfl rfl rfl (Nat.le_of_ble_eq_true rfl) ⟨Nat.le_of_ble_eq_true rfl, Nat.le_of_ble_eq_true rfl⟩ dX5_takeTold_16 rfl rfl (Nat.le_of_ble_eq_true rfl) (Nat.le_of_ble_eq_true rfl) (fun v_30 X_31 hp_32 => ?_)
      obtain ⟨rfl, rfl⟩ := hp_32
      obtain ⟨f_27, ⟨hf_28, hf_28p⟩, ef_29⟩ := s_wr_n (pl := pl) (a := a) (f := f) (w := 1) (hT.1 a (by omega)).2.2.2.1 (by omega) (by decide)
      have hf_28p := hf_28p (by decide)
      refine z_X (X' := (tX g L (s_rd I a f_27) J Gb X)) (by rw [ef_29]) ?_
      refine z_st (st' := []) rfl ?_
      refine z_aload_n 0 dX5_takeTold_19 rfl ?_
      refine tz_get (v := .int (nI (f_27))) 8 hL (by decide) q1601 rfl dX5_takeTold_20 ?_
      refine z_if_leN 30 (by omega) dX5_takeTold_23 (by decide) (fun h_ => absurd h_ (by omega)) (fun h_ => ?_)
      refine z_iconst (v := zm1) dX5_takeTold_26 (by decide) ?_
      refine z_goto 37 dX5_takeTold_27 (by decide) ?_
      refine z_istore (lv' := [(4, .int zm1), (0, .ref (L 99)), (1, .int 1), (2, .int fr), (3, .int bu)]) dX5_takeTold_37 (by decide) rfl ?_
      refine z_aload_n 1 dX5_takeTold_39 rfl ?_
      refine tz_get (v := .int (nI (f_27))) 8 hL (by decide) q1601 rfl dX5_takeTold_40 ?_
      refine z_if_neN 64 (by omega) dX5_takeTold_43 (by decide) (fun h_ => ?_) (fun h_ => absurd h_ (by omega))
      refine z_aload_n 1 dX5_takeTold_64 rfl ?_
      refine tz_get (v := .int (nI (f_27))) 8 hL (by decide) q1601 rfl dX5_takeTold_65 ?_
      refine z_if_neN 86 (by omega) dX5_takeTold_68 (by decide) (fun h_ => ?_) (fun h_ => absurd h_ (by omega))
      refine z_aload_n 1 dX5_takeTold_86 rfl ?_
      refine z_dup dX5_takeTold_87 rfl ?_
      refine tz_get (v := .int (nI (a))) 7 hL (by decide) q1600 rfl dX5_takeTold_88 ?_
      refine z_aload_n 1 dX5_takeTold_91 rfl ?_
      refine tz_get (v := .int (nI (f_27))) 8 hL (by decide) q1601 rfl dX5_takeTold_92 ?_
      refine z_if_leN 102 (by omega) dX5_takeTold_95 (by decide) (fun h_ => absurd h_ (by omega)) (fun h_ => ?_)
      refine z_iconst (v := 0) dX5_takeTold_98 (by decide) ?_
      refine z_goto 103 dX5_takeTold_99 (by decide) ?_
      refine z_iaddN (a := a) (b := 0) dX5_takeTold_103 ?_
      refine z_eq (y := nI (a)) (congrArg nI (by omega)) ?_
      refine tz_put (I' := (s_rd I a f_27)) 7 hL (by decide) q1600 s_rd_7 dX5_takeTold_104 ?_
      refine z_aload_n 1 dX5_takeTold_107 rfl ?_
      refine tz_get (v := .int (nI (f_27))) 8 hL (by decide) q1601 rfl dX5_takeTold_108 ?_
      refine z_if_leN 118 (by omega) dX5_takeTold_111 (by decide) (fun h_ => absurd h_ (by omega)) (fun h_ => ?_)
      refine z_iconst (v := 0) dX5_takeTold_114 (by decide) ?_
      refine z_goto 120 dX5_takeTold_115 (by decide) ?_
      exact z_iret dX5_takeTold_120 rfl (Nat.le_of_ble_eq_true rfl) (Nat.le_of_ble_eq_true rfl) ⟨0, a, f_27, rfl, rfl, (by omega), (by omega), by subst c_1; simp [s_tT, c_5, ← ef_29]⟩
set_option maxHeartbeats 4000000 in
theorem t_nameAt_0 {g : zG} {L : Nat → Nat} {I : Nat → Nat → Int32} {J : Nat → Nat → Int64} {Gb : Nat → Nat → Int32} {X : zX} (hL : tok g L) {kd pl : Nat → Nat} {cnt a f : Nat} (hT : s_tk (I 4) (I 5) kd pl cnt) (ha : a ≤ cnt) (hf : f < 2 ^ 20) {nm : Nat} (hm : I 99 18 = nI nm) (hm2 : nm ≤ 10) : zN g m_X5_nameAt ({ frames := 0, cells := 0, slots := 0, locals := 0 } : Room) [.ref (L 99), .int 0] (tX g L (s_rd I a f) J Gb X) (fun rv X' => rv = some (.int (s_nm (J 14) (I 16) nm (J 6 a))) ∧ X' = (tX g L (s_rd I a f) J Gb X)) := by
  refine zN.of (by decide +kernel) (Nat.le_of_ble_eq_true rfl) rfl ?_
  refine z_lv (lv' := [(0, .ref (L 99)), (1, .int 0)]) [0, 1] rfl ?_
  have hT2 := hT.2
  obtain ⟨hk9, hp9, hk4, hp4, hke⟩ := hT.1 a ha
  refine z_iconst (v := 0) dX5_nameAt_0 (by decide) ?_
  refine z_istore_n (lv' := [(2, .int 0), (0, .ref (L 99)), (1, .int 0)]) dX5_nameAt_1 rfl (by decide) rfl ?_
  have loop_5 : ∀ (q_2 i_1 : Nat), i_1 + q_2 = nm → 0 ≤ i_1 → s_fst (fun k => decide ((J 14) k = J 6 a)) (I 16) nm 0 = s_fst (fun k => decide ((J 14) k = J 6 a)) (I 16) q_2 i_1 → zZ g m_X5_nameAt (fun rv X' => rv = some (.int (s_nm (J 14) (I 16) nm (J 6 a))) ∧ X' = (tX g L (s_rd I a f) J Gb X), zno, ({ frames := 0, cells := 0, slots := 0, locals := 0 } : Room)) 0 0 (tX g L (s_rd I a f) J Gb X) 2 [(0, .ref (L 99)), (1, .int 0), (2, .int (nI (i_1)))] [] := by
    intro q_2
    induction q_2 with
    | zero =>
      intro i_1 hb_4 lo_7  hi_6
      obtain rfl : nm = i_1 := by omega
      refine z_iload_n 2 dX5_nameAt_2 rfl ?_
      refine z_iload_n 1 dX5_nameAt_3 rfl ?_
      refine z_if_eq 14 dX5_nameAt_4 (by decide) (fun h_ => ?_) (fun h_ => absurd h_ (by decide))
      refine z_aload_n 0 dX5_nameAt_14 rfl ?_
      refine tz_get (v := .int (nI (nm))) 18 hL (by decide) q1611 (congrArg (fun z => some (Value.int z)) hm) dX5_nameAt_15 ?_
      refine z_icmp_geN (a := nm) (b := nm) 79 (by omega) (by omega) dX5_nameAt_18 (by decide) (fun c_8 => ?_) (fun c_8 => absurd c_8 (by omega))
      refine z_iconst (v := zm1) dX5_nameAt_79 (by decide) ?_
      exact z_iret dX5_nameAt_80 rfl (Nat.le_of_ble_eq_true rfl) (Nat.le_of_ble_eq_true rfl) ⟨congrArg some (congrArg Value.int (hi_6.symm)), rfl⟩
    | succ q_2 ih_3 =>
      intro i_1 hb_4 lo_7  hi_6
      refine z_iload_n 2 dX5_nameAt_2 rfl ?_
      refine z_iload_n 1 dX5_nameAt_3 rfl ?_
      refine z_if_eq 14 dX5_nameAt_4 (by decide) (fun h_ => ?_) (fun h_ => absurd h_ (by decide))
      refine z_aload_n 0 dX5_nameAt_14 rfl ?_
      refine tz_get (v := .int (nI (nm))) 18 hL (by decide) q1611 (congrArg (fun z => some (Value.int z)) hm) dX5_nameAt_15 ?_
      refine z_icmp_geN (a := i_1) (b := nm) 79 (by omega) (by omega) dX5_nameAt_18 (by decide) (fun c_9 => absurd c_9 (by omega)) (fun c_9 => ?_)
      refine z_iload_n 1 dX5_nameAt_21 rfl ?_
      refine z_if_eq 34 dX5_nameAt_22 (by decide) (fun h_ => ?_) (fun h_ => absurd h_ (by decide))
      refine z_aload_n 0 dX5_nameAt_34 rfl ?_
      refine tz_get (v := .ref (L 14)) 14 hL (by decide) q1607 rfl dX5_nameAt_35 ?_
      refine z_iload_n 2 dX5_nameAt_38 rfl ?_
      refine tz_lald (v := J 14 i_1) 14 (i_1) hL (by decide) rfl (by show i_1 < 10; omega) rfl dX5_nameAt_39 ?_
      refine z_aload_n 0 dX5_nameAt_40 rfl ?_
      refine tz_get (v := .ref (L 6)) 6 hL (by decide) q1599 rfl dX5_nameAt_41 ?_
      refine z_aload_n 0 dX5_nameAt_44 rfl ?_
      refine tz_get (v := .int (nI (a))) 7 hL (by decide) q1600 rfl dX5_nameAt_45 ?_
      refine tz_lald (v := J 6 a) 6 (a) hL (by decide) rfl (by show a < 1002; omega) rfl dX5_nameAt_48 ?_
      refine z_lcmp dX5_nameAt_49 ?_
      refine z_if_ne 73 dX5_nameAt_50 (by decide) (fun c_10 => ?_) (fun c_10 => ?_)
      · -- ¬ lg_cmp (J 14 i_1) (J 6 a) = 0
        have c_10' := (not_congr (lz_eq _ _)).mp c_10
        refine z_iinc (v := nI (i_1 + 1)) (lv' := [(2, .int (nI (i_1 + 1))), (0, .ref (L 99)), (1, .int 0)]) 2 dX5_nameAt_73 rfl (nI_1 _) (by decide) rfl ?_
        refine z_goto 2 dX5_nameAt_76 (by decide) ?_
        refine z_lv (lv' := [(0, .ref (L 99)), (1, .int 0), (2, .int (nI (i_1 + 1)))]) [1, 2, 0] rfl ?_
        exact ih_3 (i_1 + 1) (by omega) (by omega)  (hi_6.trans (s_fst_f (decide_eq_false c_10')))
      · -- lg_cmp (J 14 i_1) (J 6 a) = 0
        have c_10' := (lz_eq _ _).mp c_10
        refine z_iload_n 1 dX5_nameAt_53 rfl ?_
        refine z_if_eq 66 dX5_nameAt_54 (by decide) (fun h_ => ?_) (fun h_ => absurd h_ (by decide))
        refine z_aload_n 0 dX5_nameAt_66 rfl ?_
        refine tz_get (v := .ref (L 16)) 16 hL (by decide) q1609 rfl dX5_nameAt_67 ?_
        refine z_iload_n 2 dX5_nameAt_70 rfl ?_
        refine tz_iald (v := I 16 i_1) 16 (i_1) hL (by decide) rfl (by show i_1 < 10; omega) rfl dX5_nameAt_71 ?_
        exact z_iret dX5_nameAt_72 rfl (Nat.le_of_ble_eq_true rfl) (Nat.le_of_ble_eq_true rfl) ⟨congrArg some (congrArg Value.int (hi_6.trans (s_fst_t (decide_eq_true c_10'))).symm), rfl⟩
  refine z_lv (lv' := [(0, .ref (L 99)), (1, .int 0), (2, .int 0)]) [1, 2, 0] rfl ?_
  exact loop_5 (nm - 0) 0 (by omega) (Nat.le_refl _)  rfl
set_option maxHeartbeats 4000000 in
theorem t_takeTold_0 {g : zG} {L : Nat → Nat} {I : Nat → Nat → Int32} {J : Nat → Nat → Int64} {Gb : Nat → Nat → Int32} {X : zX} (hL : tok g L) {kd pl : Nat → Nat} {cnt a f : Nat} (hT : s_tk (I 4) (I 5) kd pl cnt) (ha : a ≤ cnt) (hf : f < 2 ^ 20) {nm : Nat} (hm : I 99 18 = nI nm) (hm2 : nm ≤ 10) (fr bu : Int32) : zN g m_X5_takeTold ({ frames := 3, cells := 0, slots := 0, locals := 65 } : Room) [.ref (L 99), .int 0, .int fr, .int bu] (tX g L (s_rd I a f) J Gb X) (fun rv X' => ∃ (v : Int32) (a' f' : Nat), rv = some (.int v) ∧ X' = (tX g L (s_rd I a' f') J Gb X) ∧ a' ≤ cnt ∧ f' < 2 ^ 20 ∧ s_tT kd pl (J 6) (J 9) (s_nm (J 14) (I 16) nm) a f fr bu = (v, a', f')) := by
  refine zN.of (by decide +kernel) (Nat.le_of_ble_eq_true rfl) rfl ?_
  refine z_lv (lv' := [(0, .ref (L 99)), (1, .int 0), (2, .int fr), (3, .int bu)]) [0, 1, 2, 3] rfl ?_
  have hT2 := hT.2
  obtain ⟨hk9, hp9, hk4, hp4, hke⟩ := hT.1 a ha
  refine z_aload_n 0 dX5_takeTold_0 rfl ?_
  refine tz_get (v := .int (nI (f))) 8 hL (by decide) q1601 rfl dX5_takeTold_1 ?_
  refine z_if_neN 19 (by omega) dX5_takeTold_4 (by decide) (fun c_1 => ?_) (fun c_1 => ?_)
  · -- f ≠ 0
    refine z_aload_n 0 dX5_takeTold_19 rfl ?_
    refine tz_get (v := .int (nI (f))) 8 hL (by decide) q1601 rfl dX5_takeTold_20 ?_
    refine z_if_leN 30 (by omega) dX5_takeTold_23 (by decide) (fun c_ => absurd c_ (by omega)) (fun _ => ?_)
    refine z_iconst (v := zm1) dX5_takeTold_26 (by decide) ?_
    refine z_goto 37 dX5_takeTold_27 (by decide) ?_
    refine z_istore (lv' := [(4, .int zm1), (0, .ref (L 99)), (1, .int 0), (2, .int fr), (3, .int bu)]) dX5_takeTold_37 (by decide) rfl ?_
    refine z_aload_n 1 dX5_takeTold_39 rfl ?_
    refine tz_get (v := .int (nI (f))) 8 hL (by decide) q1601 rfl dX5_takeTold_40 ?_
    refine z_if_neN 64 (by omega) dX5_takeTold_43 (by decide) (fun _ => ?_) (fun c_ => absurd c_ (by omega))
    refine z_aload_n 1 dX5_takeTold_64 rfl ?_
    refine tz_get (v := .int (nI (f))) 8 hL (by decide) q1601 rfl dX5_takeTold_65 ?_
    refine z_if_neN 86 (by omega) dX5_takeTold_68 (by decide) (fun _ => ?_) (fun c_ => absurd c_ (by omega))
    refine z_aload_n 1 dX5_takeTold_86 rfl ?_
    refine z_dup dX5_takeTold_87 rfl ?_
    refine tz_get (v := .int (nI (a))) 7 hL (by decide) q1600 rfl dX5_takeTold_88 ?_
    refine z_aload_n 1 dX5_takeTold_91 rfl ?_
    refine tz_get (v := .int (nI (f))) 8 hL (by decide) q1601 rfl dX5_takeTold_92 ?_
    refine z_if_leN 102 (by omega) dX5_takeTold_95 (by decide) (fun c_ => absurd c_ (by omega)) (fun _ => ?_)
    refine z_iconst (v := 0) dX5_takeTold_98 (by decide) ?_
    refine z_goto 103 dX5_takeTold_99 (by decide) ?_
    refine z_iaddN (a := a) (b := 0) dX5_takeTold_103 ?_
    refine z_eq (y := nI (a)) (congrArg nI (by omega)) ?_
    refine tz_put (I' := (s_rd I a f)) 7 hL (by decide) q1600 s_rd_7 dX5_takeTold_104 ?_
    refine z_aload_n 1 dX5_takeTold_107 rfl ?_
    refine tz_get (v := .int (nI (f))) 8 hL (by decide) q1601 rfl dX5_takeTold_108 ?_
    refine z_if_leN 118 (by omega) dX5_takeTold_111 (by decide) (fun c_ => absurd c_ (by omega)) (fun _ => ?_)
    refine z_iconst (v := 0) dX5_takeTold_114 (by decide) ?_
    refine z_goto 120 dX5_takeTold_115 (by decide) ?_
    exact z_iret dX5_takeTold_120 rfl (Nat.le_of_ble_eq_true rfl) (Nat.le_of_ble_eq_true rfl) ⟨0, a, f, rfl, rfl, (by omega), (by omega), by simp [s_tT, c_1]⟩
  · -- f = 0
    refine z_aload_n 0 dX5_takeTold_7 rfl ?_
    refine z_callV (As := []) (t_isName (I := I) hL hT (a := a) (f := f) (by omega) (by omega)) q1731 q1733 qs63 q121 q1734 nm_X5_isName (tX_obj hL) rfl rfl rfl (Nat.le_of_ble_eq_true rfl) ⟨Nat.le_of_ble_eq_true rfl, Nat.le_of_ble_eq_true rfl⟩ dX5_takeTold_8 rfl rfl (Nat.le_of_ble_eq_true rfl) (Nat.le_of_ble_eq_true rfl) (fun v_2 X_3 hp_4 => ?_)
    obtain ⟨rfl, rfl⟩ := hp_4
    refine z_st (st' := [.int (zb (s_isN kd (J 6) (J 9) a f))]) rfl ?_
    refine z_if_neb 19 dX5_takeTold_11 (by decide) (fun c_5 => ?_) (fun c_5 => ?_)
    · -- s_isN kd (J 6) (J 9) a f = true
      refine z_aload_n 0 dX5_takeTold_19 rfl ?_
      refine tz_get (v := .int (nI (f))) 8 hL (by decide) q1601 rfl dX5_takeTold_20 ?_
      refine z_if_leN 30 (by omega) dX5_takeTold_23 (by decide) (fun _ => ?_) (fun c_ => absurd c_ (by omega))
      refine z_aload_n 0 dX5_takeTold_30 rfl ?_
      refine z_iload_n 1 dX5_takeTold_31 rfl ?_
      refine z_callV (As := [.int 0]) (t_nameAt_0 (I := I) hL hT (a := a) (f := f) (by omega) (by omega) hm hm2) q1739 q1741 qs65 q121 q1742 nm_X5_nameAt (tX_obj hL) rfl rfl rfl (Nat.le_of_ble_eq_true rfl) ⟨Nat.le_of_ble_eq_true rfl, Nat.le_of_ble_eq_true rfl⟩ dX5_takeTold_32 rfl rfl (Nat.le_of_ble_eq_true rfl) (Nat.le_of_ble_eq_true rfl) (fun v_6 X_7 hp_8 => ?_)
      obtain ⟨rfl, rfl⟩ := hp_8
      refine z_st (st' := [.int (s_nm (J 14) (I 16) nm (J 6 a))]) rfl ?_
      refine z_iload_n 2 dX5_takeTold_35 rfl ?_
      refine z_isub dX5_takeTold_36 ?_
      obtain ⟨x_9, ex_9⟩ : ∃ y : Int32, ((s_nm (J 14) (I 16) nm (J 6 a)) - fr) = y := ⟨_, rfl⟩
      refine z_eq ex_9 ?_
      refine z_istore (lv' := [(4, .int x_9), (0, .ref (L 99)), (1, .int 0), (2, .int fr), (3, .int bu)]) dX5_takeTold_37 (by decide) rfl ?_
      refine z_aload_n 1 dX5_takeTold_39 rfl ?_
      refine tz_get (v := .int (nI (f))) 8 hL (by decide) q1601 rfl dX5_takeTold_40 ?_
      refine z_if_neN 64 (by omega) dX5_takeTold_43 (by decide) (fun c_ => absurd c_ (by omega)) (fun _ => ?_)
      refine z_iload 0 dX5_takeTold_46 rfl ?_
      refine z_iconst (v := 0) dX5_takeTold_48 (by decide) ?_
      refine z_iconst (v := 5) dX5_takeTold_49 (by decide) ?_
      refine z_callS (As := [.int x_9, .int 0, .int 5]) (t_within x_9 0 5) q1771 q1772 q121 q1773 nm_X5_within rfl (Nat.le_of_ble_eq_true rfl) ⟨Nat.le_of_ble_eq_true rfl, Nat.le_of_ble_eq_true rfl⟩ dX5_takeTold_50 rfl rfl (Nat.le_of_ble_eq_true rfl) (Nat.le_of_ble_eq_true rfl) (fun v_10 X_11 hp_12 => ?_)
      obtain ⟨rfl, rfl⟩ := hp_12
      refine z_st (st' := [.int (zb (decide (0 ≤ x_9) && decide (x_9 ≤ 5)))]) rfl ?_
      refine z_if_neb 64 dX5_takeTold_53 (by decide) (fun c_13 => ?_) (fun c_13 => ?_)
      · -- decide (0 ≤ x_9) && decide (x_9 ≤ 5) = true
        refine z_aload_n 1 dX5_takeTold_64 rfl ?_
        refine tz_get (v := .int (nI (f))) 8 hL (by decide) q1601 rfl dX5_takeTold_65 ?_
        refine z_if_neN 86 (by omega) dX5_takeTold_68 (by decide) (fun c_ => absurd c_ (by omega)) (fun _ => ?_)
        refine z_iload_n 4 dX5_takeTold_71 rfl ?_
        refine z_iload 0 dX5_takeTold_72 rfl ?_
        refine z_ishr dX5_takeTold_74 ?_
        refine z_iconst (v := 1) dX5_takeTold_75 (by decide) ?_
        refine z_iand dX5_takeTold_76 ?_
        refine z_iconst (v := 1) dX5_takeTold_77 (by decide) ?_
        refine z_icmp_ne 86 dX5_takeTold_78 (by decide) (fun c_14 => ?_) (fun c_14 => ?_)
        · -- ¬ ((bu >>> (x_9 &&& 31)) &&& 1) = 1
          refine z_aload_n 1 dX5_takeTold_86 rfl ?_
          refine z_dup dX5_takeTold_87 rfl ?_
          refine tz_get (v := .int (nI (a))) 7 hL (by decide) q1600 rfl dX5_takeTold_88 ?_
          refine z_aload_n 1 dX5_takeTold_91 rfl ?_
          refine tz_get (v := .int (nI (f))) 8 hL (by decide) q1601 rfl dX5_takeTold_92 ?_
          refine z_if_leN 102 (by omega) dX5_takeTold_95 (by decide) (fun _ => ?_) (fun c_ => absurd c_ (by omega))
          refine z_iconst (v := 1) dX5_takeTold_102 (by decide) ?_
          refine z_iaddN (a := a) (b := 1) dX5_takeTold_103 ?_
          refine tz_put (I' := (s_rd I (a + 1) f)) 7 hL (by decide) q1600 s_rd_7 dX5_takeTold_104 ?_
          refine z_aload_n 1 dX5_takeTold_107 rfl ?_
          refine tz_get (v := .int (nI (f))) 8 hL (by decide) q1601 rfl dX5_takeTold_108 ?_
          refine z_if_leN 118 (by omega) dX5_takeTold_111 (by decide) (fun _ => ?_) (fun c_ => absurd c_ (by omega))
          refine z_iload 0 dX5_takeTold_118 rfl ?_
          exact z_iret dX5_takeTold_120 rfl (Nat.le_of_ble_eq_true rfl) (Nat.le_of_ble_eq_true rfl) ⟨x_9, (a + 1), f, rfl, rfl, (by have h9 := (s_isN_k c_5).2; omega), (by omega), by subst c_1; simp [s_tT, c_5, c_13, c_14, ex_9]⟩
        · -- ((bu >>> (x_9 &&& 31)) &&& 1) = 1
          refine z_aload_n 1 dX5_takeTold_81 rfl ?_
          refine z_iconst (v := 3) dX5_takeTold_82 (by decide) ?_
          refine z_callV (As := [.int 3]) (t_wrong (I := I) hL hT (a := a) (f := f) (by omega) (by omega) 3 (by omega)) q1727 q1729 qs62 q121 q1730 nm_X5_wrong (tX_obj hL) rfl rfl rfl (Nat.le_of_ble_eq_true rfl) ⟨Nat.le_of_ble_eq_true rfl, Nat.le_of_ble_eq_true rfl⟩ dX5_takeTold_83 rfl rfl (Nat.le_of_ble_eq_true rfl) (Nat.le_of_ble_eq_true rfl) (fun v_18 X_19 hp_20 => ?_)
          obtain ⟨rfl, rfl⟩ := hp_20
          obtain ⟨f_15, ⟨hf_16, hf_16p⟩, ef_17⟩ := s_wr_n (pl := pl) (a := a) (f := f) (w := 3) (hT.1 a (by omega)).2.2.2.1 (by omega) (by decide)
          have hf_16p := hf_16p (by decide)
          refine z_X (X' := (tX g L (s_rd I a f_15) J Gb X)) (by rw [ef_17]) ?_
          refine z_st (st' := []) rfl ?_
          refine z_aload_n 1 dX5_takeTold_86 rfl ?_
          refine z_dup dX5_takeTold_87 rfl ?_
          refine tz_get (v := .int (nI (a))) 7 hL (by decide) q1600 rfl dX5_takeTold_88 ?_
          refine z_aload_n 1 dX5_takeTold_91 rfl ?_
          refine tz_get (v := .int (nI (f_15))) 8 hL (by decide) q1601 rfl dX5_takeTold_92 ?_
          refine z_if_leN 102 (by omega) dX5_takeTold_95 (by decide) (fun h_ => absurd h_ (by omega)) (fun h_ => ?_)
          refine z_iconst (v := 0) dX5_takeTold_98 (by decide) ?_
          refine z_goto 103 dX5_takeTold_99 (by decide) ?_
          refine z_iaddN (a := a) (b := 0) dX5_takeTold_103 ?_
          refine z_eq (y := nI (a)) (congrArg nI (by omega)) ?_
          refine tz_put (I' := (s_rd I a f_15)) 7 hL (by decide) q1600 s_rd_7 dX5_takeTold_104 ?_
          refine z_aload_n 1 dX5_takeTold_107 rfl ?_
          refine tz_get (v := .int (nI (f_15))) 8 hL (by decide) q1601 rfl dX5_takeTold_108 ?_
          refine z_if_leN 118 (by omega) dX5_takeTold_111 (by decide) (fun h_ => absurd h_ (by omega)) (fun h_ => ?_)
          refine z_iconst (v := 0) dX5_takeTold_114 (by decide) ?_
          refine z_goto 120 dX5_takeTold_115 (by decide) ?_
          exact z_iret dX5_takeTold_120 rfl (Nat.le_of_ble_eq_true rfl) (Nat.le_of_ble_eq_true rfl) ⟨0, a, f_15, rfl, rfl, (by omega), (by omega), by subst c_1; simp [s_tT, c_5, c_13, c_14, ex_9, ← ef_17]⟩
      · -- decide (0 ≤ x_9) && decide (x_9 ≤ 5) = false
        refine z_aload_n 1 dX5_takeTold_56 rfl ?_
        refine z_iconst (v := 2) dX5_takeTold_57 (by decide) ?_
        refine z_callV (As := [.int 2]) (t_wrong (I := I) hL hT (a := a) (f := f) (by omega) (by omega) 2 (by omega)) q1727 q1729 qs62 q121 q1730 nm_X5_wrong (tX_obj hL) rfl rfl rfl (Nat.le_of_ble_eq_true rfl) ⟨Nat.le_of_ble_eq_true rfl, Nat.le_of_ble_eq_true rfl⟩ dX5_takeTold_58 rfl rfl (Nat.le_of_ble_eq_true rfl) (Nat.le_of_ble_eq_true rfl) (fun v_24 X_25 hp_26 => ?_)
        obtain ⟨rfl, rfl⟩ := hp_26
        obtain ⟨f_21, ⟨hf_22, hf_22p⟩, ef_23⟩ := s_wr_n (pl := pl) (a := a) (f := f) (w := 2) (hT.1 a (by omega)).2.2.2.1 (by omega) (by decide)
        have hf_22p := hf_22p (by decide)
        refine z_X (X' := (tX g L (s_rd I a f_21) J Gb X)) (by rw [ef_23]) ?_
        refine z_st (st' := []) rfl ?_
        refine z_goto 86 dX5_takeTold_61 (by decide) ?_
        refine z_aload_n 1 dX5_takeTold_86 rfl ?_
        refine z_dup dX5_takeTold_87 rfl ?_
        refine tz_get (v := .int (nI (a))) 7 hL (by decide) q1600 rfl dX5_takeTold_88 ?_
        refine z_aload_n 1 dX5_takeTold_91 rfl ?_
        refine tz_get (v := .int (nI (f_21))) 8 hL (by decide) q1601 rfl dX5_takeTold_92 ?_
        refine z_if_leN 102 (by omega) dX5_takeTold_95 (by decide) (fun h_ => absurd h_ (by omega)) (fun h_ => ?_)
        refine z_iconst (v := 0) dX5_takeTold_98 (by decide) ?_
        refine z_goto 103 dX5_takeTold_99 (by decide) ?_
        refine z_iaddN (a := a) (b := 0) dX5_takeTold_103 ?_
        refine z_eq (y := nI (a)) (congrArg nI (by omega)) ?_
        refine tz_put (I' := (s_rd I a f_21)) 7 hL (by decide) q1600 s_rd_7 dX5_takeTold_104 ?_
        refine z_aload_n 1 dX5_takeTold_107 rfl ?_
        refine tz_get (v := .int (nI (f_21))) 8 hL (by decide) q1601 rfl dX5_takeTold_108 ?_
        refine z_if_leN 118 (by omega) dX5_takeTold_111 (by decide) (fun h_ => absurd h_ (by omega)) (fun h_ => ?_)
        refine z_iconst (v := 0) dX5_takeTold_114 (by decide) ?_
        refine z_goto 120 dX5_takeTold_115 (by decide) ?_
        exact z_iret dX5_takeTold_120 rfl (Nat.le_of_ble_eq_true rfl) (Nat.le_of_ble_eq_true rfl) ⟨0, a, f_21, rfl, rfl, (by omega), (by omega), by subst c_1; simp [s_tT, c_5, c_13, ex_9, ← ef_23]⟩
    · -- s_isN kd (J 6) (J 9) a f = false
      refine z_aload_n 0 dX5_takeTold_14 rfl ?_
      refine z_iconst (v := 1) dX5_takeTold_15 (by decide) ?_
      refine z_callV (As := [.int 1]) (t_wrong (I := I) hL hT (a := a) (f := f) (by omega) (by omega) 1 (by omega)) q1727 q1729 qs62 q121 q1730 nm_X5_wrong (tX_obj hL) rfl rfl rfl (Nat.le_of_ble_eq_true rfl) ⟨Nat.le_of_ble_eq_true rfl, Nat.le_of_ble_eq_true rfl⟩ dX5_takeTold_16 rfl rfl (Nat.le_of_ble_eq_true rfl) (Nat.le_of_ble_eq_true rfl) (fun v_30 X_31 hp_32 => ?_)
      obtain ⟨rfl, rfl⟩ := hp_32
      obtain ⟨f_27, ⟨hf_28, hf_28p⟩, ef_29⟩ := s_wr_n (pl := pl) (a := a) (f := f) (w := 1) (hT.1 a (by omega)).2.2.2.1 (by omega) (by decide)
      have hf_28p := hf_28p (by decide)
      refine z_X (X' := (tX g L (s_rd I a f_27) J Gb X)) (by rw [ef_29]) ?_
      refine z_st (st' := []) rfl ?_
      refine z_aload_n 0 dX5_takeTold_19 rfl ?_
      refine tz_get (v := .int (nI (f_27))) 8 hL (by decide) q1601 rfl dX5_takeTold_20 ?_
      refine z_if_leN 30 (by omega) dX5_takeTold_23 (by decide) (fun h_ => absurd h_ (by omega)) (fun h_ => ?_)
      refine z_iconst (v := zm1) dX5_takeTold_26 (by decide) ?_
      refine z_goto 37 dX5_takeTold_27 (by decide) ?_
      refine z_istore (lv' := [(4, .int zm1), (0, .ref (L 99)), (1, .int 0), (2, .int fr), (3, .int bu)]) dX5_takeTold_37 (by decide) rfl ?_
      refine z_aload_n 1 dX5_takeTold_39 rfl ?_
      refine tz_get (v := .int (nI (f_27))) 8 hL (by decide) q1601 rfl dX5_takeTold_40 ?_
      refine z_if_neN 64 (by omega) dX5_takeTold_43 (by decide) (fun h_ => ?_) (fun h_ => absurd h_ (by omega))
      refine z_aload_n 1 dX5_takeTold_64 rfl ?_
      refine tz_get (v := .int (nI (f_27))) 8 hL (by decide) q1601 rfl dX5_takeTold_65 ?_
      refine z_if_neN 86 (by omega) dX5_takeTold_68 (by decide) (fun h_ => ?_) (fun h_ => absurd h_ (by omega))
      refine z_aload_n 1 dX5_takeTold_86 rfl ?_
      refine z_dup dX5_takeTold_87 rfl ?_
      refine tz_get (v := .int (nI (a))) 7 hL (by decide) q1600 rfl dX5_takeTold_88 ?_
      refine z_aload_n 1 dX5_takeTold_91 rfl ?_
      refine tz_get (v := .int (nI (f_27))) 8 hL (by decide) q1601 rfl dX5_takeTold_92 ?_
      refine z_if_leN 102 (by omega) dX5_takeTold_95 (by decide) (fun h_ => absurd h_ (by omega)) (fun h_ => ?_)
      refine z_iconst (v := 0) dX5_takeTold_98 (by decide) ?_
      refine z_goto 103 dX5_takeTold_99 (by decide) ?_
      refine z_iaddN (a := a) (b := 0) dX5_takeTold_103 ?_
      refine z_eq (y := nI (a)) (congrArg nI (by omega)) ?_
      refine tz_put (I' := (s_rd I a f_27)) 7 hL (by decide) q1600 s_rd_7 dX5_takeTold_104 ?_
      refine z_aload_n 1 dX5_takeTold_107 rfl ?_
      refine tz_get (v := .int (nI (f_27))) 8 hL (by decide) q1601 rfl dX5_takeTold_108 ?_
      refine z_if_leN 118 (by omega) dX5_takeTold_111 (by decide) (fun h_ => absurd h_ (by omega)) (fun h_ => ?_)
      refine z_iconst (v := 0) dX5_takeTold_114 (by decide) ?_
      refine z_goto 120 dX5_takeTold_115 (by decide) ?_
      exact z_iret dX5_takeTold_120 rfl (Nat.le_of_ble_eq_true rfl) (Nat.le_of_ble_eq_true rfl) ⟨0, a, f_27, rfl, rfl, (by omega), (by omega), by subst c_1; simp [s_tT, c_5, ← ef_29]⟩
