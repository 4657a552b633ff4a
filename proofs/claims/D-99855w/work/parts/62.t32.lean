/-! THE MODEL: reading lines. Printed by t32.py -/
set_option maxRecDepth 100000
set_option maxHeartbeats 4000000 in
theorem t_readName_0 {g : zG} {L : Nat → Nat} {I : Nat → Nat → Int32} {J : Nat → Nat → Int64} {Gb : Nat → Nat → Int32} {X : zX} (hL : tok g L) {kd pl : Nat → Nat} {cnt a : Nat} (hT : s_tk (I 4) (I 5) kd pl cnt) (ha : a < cnt) {nh nd rm : Nat} (h50 : I 10 50 = nI nh) (hnh : nh ≤ 4) (h51 : I 10 51 = nI nd) (hnd : nd ≤ 6) (hm : I 99 19 = nI rm) (hrm : rm = nh + nd) : zN g m_X5_readName ({ frames := 3, cells := 0, slots := 0, locals := 65 } : Room) [.ref (L 99), .int 0, .int 4, .int 0] (tX g L (s_rd I a 0) J Gb X) (fun rv X' => ∃ (I' : Nat → Nat → Int32) (J' : Nat → Nat → Int64) (a' f' : Nat), rv = none ∧ X' = tX g L (s_rd I' a' f') J' Gb X ∧ a' ≤ cnt ∧ f' < 2 ^ 20 ∧ s_rN kd pl (J 6) (J 9) I J a nh rm 0 4 0 = (I', J', a', f')) := by
  refine zN.of (by decide +kernel) (Nat.le_of_ble_eq_true rfl) rfl ?_
  refine z_lv (lv' := [(0, .ref (L 99)), (1, .int 0), (2, .int 4), (3, .int 0)]) [0, 1, 2, 3] rfl ?_
  have hT2 := hT.2
  obtain ⟨hk9, hp9, hk4, hp4, hke⟩ := hT.1 a (by omega)
  refine z_aload_n 0 dX5_readName_0 rfl ?_
  refine tz_get (v := .ref (L 10)) 10 hL (by decide) q1603 rfl dX5_readName_1 ?_
  refine z_bipush (v := 50) dX5_readName_4 (by decide) ?_
  refine z_iload_n 1 dX5_readName_6 rfl ?_
  refine z_iaddN (a := 50) (b := 0) dX5_readName_7 ?_
  refine z_eq (y := 50) (by decide) ?_
  refine tz_iald (v := nI (nh)) 10 (50) hL (by decide) rfl (by show 50 < 100; omega) h50 dX5_readName_8 ?_
  refine z_istore (lv' := [(4, .int (nI (nh))), (0, .ref (L 99)), (1, .int 0), (2, .int 4), (3, .int 0)]) dX5_readName_9 (by decide) rfl ?_
  refine z_iload 0 dX5_readName_11 rfl ?_
  refine z_iload_n 3 dX5_readName_13 rfl ?_
  refine z_icmp_neN (a := nh) (b := 4) 23 (by omega) (by omega) dX5_readName_14 (by decide) (fun c_1 => ?_) (fun c_1 => ?_)
  · -- nh ≠ 4
    refine z_aload_n 1 dX5_readName_23 rfl ?_
    refine z_dup dX5_readName_24 rfl ?_
    refine tz_get (v := .int (nI (a))) 7 hL (by decide) q1600 rfl dX5_readName_25 ?_
    refine z_iconst (v := 1) dX5_readName_28 (by decide) ?_
    refine z_iaddN (a := a) (b := 1) dX5_readName_29 ?_
    refine tz_put (I' := (s_rd I (a + 1) 0)) 7 hL (by decide) q1600 s_rd_7 dX5_readName_30 ?_
    refine z_aload_n 1 dX5_readName_33 rfl ?_
    refine z_callV (As := []) (t_isName (I := I) hL hT (a := a + 1) (f := 0) (by omega) (by omega)) q1731 q1733 qs63 q121 q1734 nm_X5_isName (tX_obj hL) rfl rfl rfl (Nat.le_of_ble_eq_true rfl) ⟨Nat.le_of_ble_eq_true rfl, Nat.le_of_ble_eq_true rfl⟩ dX5_readName_34 rfl rfl (Nat.le_of_ble_eq_true rfl) (Nat.le_of_ble_eq_true rfl) (fun v_2 X_3 hp_4 => ?_)
    obtain ⟨rfl, rfl⟩ := hp_4
    refine z_st (st' := [.int (zb (s_isN kd (J 6) (J 9) (a + 1) 0))]) rfl ?_
    refine z_if_neb 48 dX5_readName_37 (by decide) (fun c_5 => ?_) (fun c_5 => ?_)
    · -- s_isN kd (J 6) (J 9) (a + 1) 0 = true
      have hNk := (s_isN_k c_5).2
      have hNe := (hT.1 (a + 1) (by omega)).2.2.2.2
      refine z_aload_n 1 dX5_readName_48 rfl ?_
      refine z_iconst (v := 1) dX5_readName_49 (by decide) ?_
      refine z_callV (As := [.int 1]) (t_nameAt_1 (I := I) hL hT (a := a + 1) (f := 0) (by omega) (by omega) hm (by omega)) q1739 q1741 qs65 q121 q1742 nm_X5_nameAt (tX_obj hL) rfl rfl rfl (Nat.le_of_ble_eq_true rfl) ⟨Nat.le_of_ble_eq_true rfl, Nat.le_of_ble_eq_true rfl⟩ dX5_readName_50 rfl rfl (Nat.le_of_ble_eq_true rfl) (Nat.le_of_ble_eq_true rfl) (fun v_6 X_7 hp_8 => ?_)
      obtain ⟨rfl, rfl⟩ := hp_8
      refine z_st (st' := [.int (s_nm (J 15) (I 17) rm (J 6 (a + 1)))]) rfl ?_
      refine z_if_lt 61 dX5_readName_53 (by decide) (fun c_9 => ?_) (fun c_9 => ?_)
      · -- s_nm (J 15) (I 17) rm (J 6 (a + 1)) < 0
        have c_9' := Int32.not_le.mpr c_9
        refine z_aload_n 1 dX5_readName_61 rfl ?_
        refine tz_get (v := .int 0) 8 hL (by decide) q1601 rfl dX5_readName_62 ?_
        refine z_if_ne 132 dX5_readName_65 (by decide) (fun h_ => absurd h_ (by decide)) (fun h_ => ?_)
        refine z_aload_n 1 dX5_readName_68 rfl ?_
        refine tz_get (v := .ref (L 15)) 15 hL (by decide) q1608 rfl dX5_readName_69 ?_
        refine z_aload_n 1 dX5_readName_72 rfl ?_
        refine tz_get (v := .int (nI (rm))) 19 hL (by decide) q1612 (congrArg (fun z => some (Value.int z)) hm) dX5_readName_73 ?_
        refine z_aload_n 1 dX5_readName_76 rfl ?_
        refine tz_get (v := .ref (L 6)) 6 hL (by decide) q1599 rfl dX5_readName_77 ?_
        refine z_aload_n 1 dX5_readName_80 rfl ?_
        refine tz_get (v := .int (nI (a + 1))) 7 hL (by decide) q1600 rfl dX5_readName_81 ?_
        refine tz_lald (v := J 6 (a + 1)) 6 (a + 1) hL (by decide) rfl (by show a + 1 < 1002; omega) rfl dX5_readName_84 ?_
        refine tz_last 15 (rm) hL (by decide) rfl (by show rm < 10; omega) rfl dX5_readName_85 ?_
        refine z_aload_n 1 dX5_readName_86 rfl ?_
        refine tz_get (v := .ref (L 17)) 17 hL (by decide) q1610 rfl dX5_readName_87 ?_
        refine z_aload_n 1 dX5_readName_90 rfl ?_
        refine tz_get (v := .int (nI (rm))) 19 hL (by decide) q1612 (congrArg (fun z => some (Value.int z)) hm) dX5_readName_91 ?_
        refine z_iload_n 4 dX5_readName_94 rfl ?_
        refine z_iload 0 dX5_readName_95 rfl ?_
        refine z_iaddN (a := 0) (b := nh) dX5_readName_97 ?_
        refine z_eq (y := nI (nh)) (congrArg nI (by omega)) ?_
        refine tz_iast 17 (rm) hL (by decide) rfl (by show rm < 10; omega) (s_rd_a (by decide)) dX5_readName_98 ?_
        refine z_aload_n 1 dX5_readName_99 rfl ?_
        refine z_dup dX5_readName_100 rfl ?_
        refine tz_get (v := .int (nI (rm))) 19 hL (by decide) q1612 (congrArg (fun z => some (Value.int z)) hm) dX5_readName_101 ?_
        refine z_iconst (v := 1) dX5_readName_104 (by decide) ?_
        refine z_iaddN (a := rm) (b := 1) dX5_readName_105 ?_
        refine tz_put (I' := (s_rd (zs (zs I 17 rm (nI (nh))) 99 19 (nI (rm + 1))) (a + 1) 0)) 19 hL (by decide) q1612 (s_rd_f (by decide) (by decide)) dX5_readName_106 ?_
        refine z_aload_n 1 dX5_readName_109 rfl ?_
        refine z_dup dX5_readName_110 rfl ?_
        refine tz_get (v := .int (nI (a + 1))) 7 hL (by decide) q1600 rfl dX5_readName_111 ?_
        refine z_iconst (v := 1) dX5_readName_114 (by decide) ?_
        refine z_iaddN (a := a + 1) (b := 1) dX5_readName_115 ?_
        refine z_eq (y := nI (a + 2)) (congrArg nI (by omega)) ?_
        refine tz_put (I' := (s_rd (zs (zs I 17 rm (nI (nh))) 99 19 (nI (rm + 1))) (a + 2) 0)) 7 hL (by decide) q1600 s_rd_7 dX5_readName_116 ?_
        refine z_aload_n 1 dX5_readName_119 rfl ?_
        refine tz_get (v := .ref (L 10)) 10 hL (by decide) q1603 rfl dX5_readName_120 ?_
        refine z_bipush (v := 50) dX5_readName_123 (by decide) ?_
        refine z_iload_n 2 dX5_readName_125 rfl ?_
        refine z_iaddN (a := 50) (b := 0) dX5_readName_126 ?_
        refine z_eq (y := 50) (by decide) ?_
        refine z_dup2_11 dX5_readName_127 rfl rfl ?_
        refine tz_iald (v := nI (nh)) 10 (50) hL (by decide) rfl (by show 50 < 100; omega) h50 dX5_readName_128 ?_
        refine z_iconst (v := 1) dX5_readName_129 (by decide) ?_
        refine z_iaddN (a := nh) (b := 1) dX5_readName_130 ?_
        refine tz_iast 10 (50) hL (by decide) rfl (by show 50 < 100; omega) (s_rd_a (by decide)) dX5_readName_131 ?_
        exact z_vret dX5_readName_132 rfl (Nat.le_of_ble_eq_true rfl) (Nat.le_of_ble_eq_true rfl) ⟨(zs (zs (zs I 17 rm (nI (nh))) 99 19 (nI (rm + 1))) 10 50 (nI (nh + 1))), (zs J 15 rm (J 6 (a + 1))), (a + 2), 0, rfl, rfl, (by omega), (by omega), by unfold s_rN; rw [if_neg c_1, if_pos c_5, if_pos c_9]; try rfl⟩
      · -- ¬ s_nm (J 15) (I 17) rm (J 6 (a + 1)) < 0
        have c_9' := Int32.not_lt.mp c_9
        refine z_aload_n 1 dX5_readName_56 rfl ?_
        refine z_iconst (v := 3) dX5_readName_57 (by decide) ?_
        refine z_callV (As := [.int 3]) (t_wrong (I := I) hL hT (a := a + 1) (f := 0) (by omega) (by omega) 3 (by omega)) q1727 q1729 qs62 q121 q1730 nm_X5_wrong (tX_obj hL) rfl rfl rfl (Nat.le_of_ble_eq_true rfl) ⟨Nat.le_of_ble_eq_true rfl, Nat.le_of_ble_eq_true rfl⟩ dX5_readName_58 rfl rfl (Nat.le_of_ble_eq_true rfl) (Nat.le_of_ble_eq_true rfl) (fun v_13 X_14 hp_15 => ?_)
        obtain ⟨rfl, rfl⟩ := hp_15
        obtain ⟨f_10, ⟨hf_11, hf_11p⟩, ef_12⟩ := s_wr_n (pl := pl) (a := a + 1) (f := 0) (w := 3) (hT.1 (a + 1) (by omega)).2.2.2.1 (by omega) (by decide)
        have hf_11p := hf_11p (by decide)
        refine z_X (X' := (tX g L (s_rd I (a + 1) f_10) J Gb X)) (by rw [ef_12]) ?_
        refine z_st (st' := []) rfl ?_
        refine z_aload_n 1 dX5_readName_61 rfl ?_
        refine tz_get (v := .int (nI (f_10))) 8 hL (by decide) q1601 rfl dX5_readName_62 ?_
        refine z_if_neN 132 (by omega) dX5_readName_65 (by decide) (fun h_ => ?_) (fun h_ => absurd h_ (by omega))
        exact z_vret dX5_readName_132 rfl (Nat.le_of_ble_eq_true rfl) (Nat.le_of_ble_eq_true rfl) ⟨I, J, (a + 1), f_10, rfl, rfl, (by omega), (by omega), by unfold s_rN; rw [if_neg c_1, if_pos c_5, if_neg c_9, ef_12]; try rfl⟩
    · -- s_isN kd (J 6) (J 9) (a + 1) 0 = false
      refine z_aload_n 1 dX5_readName_40 rfl ?_
      refine z_iconst (v := 1) dX5_readName_41 (by decide) ?_
      refine z_callV (As := [.int 1]) (t_wrong (I := I) hL hT (a := a + 1) (f := 0) (by omega) (by omega) 1 (by omega)) q1727 q1729 qs62 q121 q1730 nm_X5_wrong (tX_obj hL) rfl rfl rfl (Nat.le_of_ble_eq_true rfl) ⟨Nat.le_of_ble_eq_true rfl, Nat.le_of_ble_eq_true rfl⟩ dX5_readName_42 rfl rfl (Nat.le_of_ble_eq_true rfl) (Nat.le_of_ble_eq_true rfl) (fun v_19 X_20 hp_21 => ?_)
      obtain ⟨rfl, rfl⟩ := hp_21
      obtain ⟨f_16, ⟨hf_17, hf_17p⟩, ef_18⟩ := s_wr_n (pl := pl) (a := a + 1) (f := 0) (w := 1) (hT.1 (a + 1) (by omega)).2.2.2.1 (by omega) (by decide)
      have hf_17p := hf_17p (by decide)
      refine z_X (X' := (tX g L (s_rd I (a + 1) f_16) J Gb X)) (by rw [ef_18]) ?_
      refine z_st (st' := []) rfl ?_
      refine z_goto 61 dX5_readName_45 (by decide) ?_
      refine z_aload_n 1 dX5_readName_61 rfl ?_
      refine tz_get (v := .int (nI (f_16))) 8 hL (by decide) q1601 rfl dX5_readName_62 ?_
      refine z_if_neN 132 (by omega) dX5_readName_65 (by decide) (fun h_ => ?_) (fun h_ => absurd h_ (by omega))
      exact z_vret dX5_readName_132 rfl (Nat.le_of_ble_eq_true rfl) (Nat.le_of_ble_eq_true rfl) ⟨I, J, (a + 1), f_16, rfl, rfl, (by omega), (by omega), by unfold s_rN; rw [if_neg c_1, if_neg (by rw [c_5]; decide), ef_18]; try rfl⟩
  · -- nh = 4
    refine z_aload_n 1 dX5_readName_17 rfl ?_
    refine z_iconst (v := 5) dX5_readName_18 (by decide) ?_
    refine z_callV (As := [.int 5]) (t_wrong (I := I) hL hT (a := a) (f := 0) (by omega) (by omega) 5 (by omega)) q1727 q1729 qs62 q121 q1730 nm_X5_wrong (tX_obj hL) rfl rfl rfl (Nat.le_of_ble_eq_true rfl) ⟨Nat.le_of_ble_eq_true rfl, Nat.le_of_ble_eq_true rfl⟩ dX5_readName_19 rfl rfl (Nat.le_of_ble_eq_true rfl) (Nat.le_of_ble_eq_true rfl) (fun v_25 X_26 hp_27 => ?_)
    obtain ⟨rfl, rfl⟩ := hp_27
    obtain ⟨f_22, ⟨hf_23, hf_23p⟩, ef_24⟩ := s_wr_n (pl := pl) (a := a) (f := 0) (w := 5) (hT.1 a (by omega)).2.2.2.1 (by omega) (by decide)
    have hf_23p := hf_23p (by decide)
    refine z_X (X' := (tX g L (s_rd I a f_22) J Gb X)) (by rw [ef_24]) ?_
    refine z_st (st' := []) rfl ?_
    exact z_vret dX5_readName_22 rfl (Nat.le_of_ble_eq_true rfl) (Nat.le_of_ble_eq_true rfl) ⟨I, J, a, f_22, rfl, rfl, (by omega), (by omega), by unfold s_rN; rw [if_pos c_1, ef_24]; try rfl⟩
set_option maxHeartbeats 4000000 in
theorem t_readName_1 {g : zG} {L : Nat → Nat} {I : Nat → Nat → Int32} {J : Nat → Nat → Int64} {Gb : Nat → Nat → Int32} {X : zX} (hL : tok g L) {kd pl : Nat → Nat} {cnt a : Nat} (hT : s_tk (I 4) (I 5) kd pl cnt) (ha : a < cnt) {nh nd rm : Nat} (h50 : I 10 50 = nI nh) (hnh : nh ≤ 4) (h51 : I 10 51 = nI nd) (hnd : nd ≤ 6) (hm : I 99 19 = nI rm) (hrm : rm = nh + nd) : zN g m_X5_readName ({ frames := 3, cells := 0, slots := 0, locals := 65 } : Room) [.ref (L 99), .int 1, .int 6, .int 20] (tX g L (s_rd I a 0) J Gb X) (fun rv X' => ∃ (I' : Nat → Nat → Int32) (J' : Nat → Nat → Int64) (a' f' : Nat), rv = none ∧ X' = tX g L (s_rd I' a' f') J' Gb X ∧ a' ≤ cnt ∧ f' < 2 ^ 20 ∧ s_rN kd pl (J 6) (J 9) I J a nd rm 1 6 20 = (I', J', a', f')) := by
  refine zN.of (by decide +kernel) (Nat.le_of_ble_eq_true rfl) rfl ?_
  refine z_lv (lv' := [(0, .ref (L 99)), (1, .int 1), (2, .int 6), (3, .int 20)]) [0, 1, 2, 3] rfl ?_
  have hT2 := hT.2
  obtain ⟨hk9, hp9, hk4, hp4, hke⟩ := hT.1 a (by omega)
  refine z_aload_n 0 dX5_readName_0 rfl ?_
  refine tz_get (v := .ref (L 10)) 10 hL (by decide) q1603 rfl dX5_readName_1 ?_
  refine z_bipush (v := 50) dX5_readName_4 (by decide) ?_
  refine z_iload_n 1 dX5_readName_6 rfl ?_
  refine z_iaddN (a := 50) (b := 1) dX5_readName_7 ?_
  refine z_eq (y := 51) (by decide) ?_
  refine tz_iald (v := nI (nd)) 10 (51) hL (by decide) rfl (by show 51 < 100; omega) h51 dX5_readName_8 ?_
  refine z_istore (lv' := [(4, .int (nI (nd))), (0, .ref (L 99)), (1, .int 1), (2, .int 6), (3, .int 20)]) dX5_readName_9 (by decide) rfl ?_
  refine z_iload 0 dX5_readName_11 rfl ?_
  refine z_iload_n 3 dX5_readName_13 rfl ?_
  refine z_icmp_neN (a := nd) (b := 6) 23 (by omega) (by omega) dX5_readName_14 (by decide) (fun c_1 => ?_) (fun c_1 => ?_)
  · -- nd ≠ 6
    refine z_aload_n 1 dX5_readName_23 rfl ?_
    refine z_dup dX5_readName_24 rfl ?_
    refine tz_get (v := .int (nI (a))) 7 hL (by decide) q1600 rfl dX5_readName_25 ?_
    refine z_iconst (v := 1) dX5_readName_28 (by decide) ?_
    refine z_iaddN (a := a) (b := 1) dX5_readName_29 ?_
    refine tz_put (I' := (s_rd I (a + 1) 0)) 7 hL (by decide) q1600 s_rd_7 dX5_readName_30 ?_
    refine z_aload_n 1 dX5_readName_33 rfl ?_
    refine z_callV (As := []) (t_isName (I := I) hL hT (a := a + 1) (f := 0) (by omega) (by omega)) q1731 q1733 qs63 q121 q1734 nm_X5_isName (tX_obj hL) rfl rfl rfl (Nat.le_of_ble_eq_true rfl) ⟨Nat.le_of_ble_eq_true rfl, Nat.le_of_ble_eq_true rfl⟩ dX5_readName_34 rfl rfl (Nat.le_of_ble_eq_true rfl) (Nat.le_of_ble_eq_true rfl) (fun v_2 X_3 hp_4 => ?_)
    obtain ⟨rfl, rfl⟩ := hp_4
    refine z_st (st' := [.int (zb (s_isN kd (J 6) (J 9) (a + 1) 0))]) rfl ?_
    refine z_if_neb 48 dX5_readName_37 (by decide) (fun c_5 => ?_) (fun c_5 => ?_)
    · -- s_isN kd (J 6) (J 9) (a + 1) 0 = true
      have hNk := (s_isN_k c_5).2
      have hNe := (hT.1 (a + 1) (by omega)).2.2.2.2
      refine z_aload_n 1 dX5_readName_48 rfl ?_
      refine z_iconst (v := 1) dX5_readName_49 (by decide) ?_
      refine z_callV (As := [.int 1]) (t_nameAt_1 (I := I) hL hT (a := a + 1) (f := 0) (by omega) (by omega) hm (by omega)) q1739 q1741 qs65 q121 q1742 nm_X5_nameAt (tX_obj hL) rfl rfl rfl (Nat.le_of_ble_eq_true rfl) ⟨Nat.le_of_ble_eq_true rfl, Nat.le_of_ble_eq_true rfl⟩ dX5_readName_50 rfl rfl (Nat.le_of_ble_eq_true rfl) (Nat.le_of_ble_eq_true rfl) (fun v_6 X_7 hp_8 => ?_)
      obtain ⟨rfl, rfl⟩ := hp_8
      refine z_st (st' := [.int (s_nm (J 15) (I 17) rm (J 6 (a + 1)))]) rfl ?_
      refine z_if_lt 61 dX5_readName_53 (by decide) (fun c_9 => ?_) (fun c_9 => ?_)
      · -- s_nm (J 15) (I 17) rm (J 6 (a + 1)) < 0
        have c_9' := Int32.not_le.mpr c_9
        refine z_aload_n 1 dX5_readName_61 rfl ?_
        refine tz_get (v := .int 0) 8 hL (by decide) q1601 rfl dX5_readName_62 ?_
        refine z_if_ne 132 dX5_readName_65 (by decide) (fun h_ => absurd h_ (by decide)) (fun h_ => ?_)
        refine z_aload_n 1 dX5_readName_68 rfl ?_
        refine tz_get (v := .ref (L 15)) 15 hL (by decide) q1608 rfl dX5_readName_69 ?_
        refine z_aload_n 1 dX5_readName_72 rfl ?_
        refine tz_get (v := .int (nI (rm))) 19 hL (by decide) q1612 (congrArg (fun z => some (Value.int z)) hm) dX5_readName_73 ?_
        refine z_aload_n 1 dX5_readName_76 rfl ?_
        refine tz_get (v := .ref (L 6)) 6 hL (by decide) q1599 rfl dX5_readName_77 ?_
        refine z_aload_n 1 dX5_readName_80 rfl ?_
        refine tz_get (v := .int (nI (a + 1))) 7 hL (by decide) q1600 rfl dX5_readName_81 ?_
        refine tz_lald (v := J 6 (a + 1)) 6 (a + 1) hL (by decide) rfl (by show a + 1 < 1002; omega) rfl dX5_readName_84 ?_
        refine tz_last 15 (rm) hL (by decide) rfl (by show rm < 10; omega) rfl dX5_readName_85 ?_
        refine z_aload_n 1 dX5_readName_86 rfl ?_
        refine tz_get (v := .ref (L 17)) 17 hL (by decide) q1610 rfl dX5_readName_87 ?_
        refine z_aload_n 1 dX5_readName_90 rfl ?_
        refine tz_get (v := .int (nI (rm))) 19 hL (by decide) q1612 (congrArg (fun z => some (Value.int z)) hm) dX5_readName_91 ?_
        refine z_iload_n 4 dX5_readName_94 rfl ?_
        refine z_iload 0 dX5_readName_95 rfl ?_
        refine z_iaddN (a := 20) (b := nd) dX5_readName_97 ?_
        refine z_eq (y := nI (nd + 20)) (congrArg nI (by omega)) ?_
        refine tz_iast 17 (rm) hL (by decide) rfl (by show rm < 10; omega) (s_rd_a (by decide)) dX5_readName_98 ?_
        refine z_aload_n 1 dX5_readName_99 rfl ?_
        refine z_dup dX5_readName_100 rfl ?_
        refine tz_get (v := .int (nI (rm))) 19 hL (by decide) q1612 (congrArg (fun z => some (Value.int z)) hm) dX5_readName_101 ?_
        refine z_iconst (v := 1) dX5_readName_104 (by decide) ?_
        refine z_iaddN (a := rm) (b := 1) dX5_readName_105 ?_
        refine tz_put (I' := (s_rd (zs (zs I 17 rm (nI (nd + 20))) 99 19 (nI (rm + 1))) (a + 1) 0)) 19 hL (by decide) q1612 (s_rd_f (by decide) (by decide)) dX5_readName_106 ?_
        refine z_aload_n 1 dX5_readName_109 rfl ?_
        refine z_dup dX5_readName_110 rfl ?_
        refine tz_get (v := .int (nI (a + 1))) 7 hL (by decide) q1600 rfl dX5_readName_111 ?_
        refine z_iconst (v := 1) dX5_readName_114 (by decide) ?_
        refine z_iaddN (a := a + 1) (b := 1) dX5_readName_115 ?_
        refine z_eq (y := nI (a + 2)) (congrArg nI (by omega)) ?_
        refine tz_put (I' := (s_rd (zs (zs I 17 rm (nI (nd + 20))) 99 19 (nI (rm + 1))) (a + 2) 0)) 7 hL (by decide) q1600 s_rd_7 dX5_readName_116 ?_
        refine z_aload_n 1 dX5_readName_119 rfl ?_
        refine tz_get (v := .ref (L 10)) 10 hL (by decide) q1603 rfl dX5_readName_120 ?_
        refine z_bipush (v := 50) dX5_readName_123 (by decide) ?_
        refine z_iload_n 2 dX5_readName_125 rfl ?_
        refine z_iaddN (a := 50) (b := 1) dX5_readName_126 ?_
        refine z_eq (y := 51) (by decide) ?_
        refine z_dup2_11 dX5_readName_127 rfl rfl ?_
        refine tz_iald (v := nI (nd)) 10 (51) hL (by decide) rfl (by show 51 < 100; omega) h51 dX5_readName_128 ?_
        refine z_iconst (v := 1) dX5_readName_129 (by decide) ?_
        refine z_iaddN (a := nd) (b := 1) dX5_readName_130 ?_
        refine tz_iast 10 (51) hL (by decide) rfl (by show 51 < 100; omega) (s_rd_a (by decide)) dX5_readName_131 ?_
        exact z_vret dX5_readName_132 rfl (Nat.le_of_ble_eq_true rfl) (Nat.le_of_ble_eq_true rfl) ⟨(zs (zs (zs I 17 rm (nI (nd + 20))) 99 19 (nI (rm + 1))) 10 51 (nI (nd + 1))), (zs J 15 rm (J 6 (a + 1))), (a + 2), 0, rfl, rfl, (by omega), (by omega), by unfold s_rN; rw [if_neg c_1, if_pos c_5, if_pos c_9]; try rfl⟩
      · -- ¬ s_nm (J 15) (I 17) rm (J 6 (a + 1)) < 0
        have c_9' := Int32.not_lt.mp c_9
        refine z_aload_n 1 dX5_readName_56 rfl ?_
        refine z_iconst (v := 3) dX5_readName_57 (by decide) ?_
        refine z_callV (As := [.int 3]) (t_wrong (I := I) hL hT (a := a + 1) (f := 0) (by omega) (by omega) 3 (by omega)) q1727 q1729 qs62 q121 q1730 nm_X5_wrong (tX_obj hL) rfl rfl rfl (Nat.le_of_ble_eq_true rfl) ⟨Nat.le_of_ble_eq_true rfl, Nat.le_of_ble_eq_true rfl⟩ dX5_readName_58 rfl rfl (Nat.le_of_ble_eq_true rfl) (Nat.le_of_ble_eq_true rfl) (fun v_13 X_14 hp_15 => ?_)
        obtain ⟨rfl, rfl⟩ := hp_15
        obtain ⟨f_10, ⟨hf_11, hf_11p⟩, ef_12⟩ := s_wr_n (pl := pl) (a := a + 1) (f := 0) (w := 3) (hT.1 (a + 1) (by omega)).2.2.2.1 (by omega) (by decide)
        have hf_11p := hf_11p (by decide)
        refine z_X (X' := (tX g L (s_rd I (a + 1) f_10) J Gb X)) (by rw [ef_12]) ?_
        refine z_st (st' := []) rfl ?_
        refine z_aload_n 1 dX5_readName_61 rfl ?_
        refine tz_get (v := .int (nI (f_10))) 8 hL (by decide) q1601 rfl dX5_readName_62 ?_
        refine z_if_neN 132 (by omega) dX5_readName_65 (by decide) (fun h_ => ?_) (fun h_ => absurd h_ (by omega))
        exact z_vret dX5_readName_132 rfl (Nat.le_of_ble_eq_true rfl) (Nat.le_of_ble_eq_true rfl) ⟨I, J, (a + 1), f_10, rfl, rfl, (by omega), (by omega), by unfold s_rN; rw [if_neg c_1, if_pos c_5, if_neg c_9, ef_12]; try rfl⟩
    · -- s_isN kd (J 6) (J 9) (a + 1) 0 = false
      refine z_aload_n 1 dX5_readName_40 rfl ?_
      refine z_iconst (v := 1) dX5_readName_41 (by decide) ?_
      refine z_callV (As := [.int 1]) (t_wrong (I := I) hL hT (a := a + 1) (f := 0) (by omega) (by omega) 1 (by omega)) q1727 q1729 qs62 q121 q1730 nm_X5_wrong (tX_obj hL) rfl rfl rfl (Nat.le_of_ble_eq_true rfl) ⟨Nat.le_of_ble_eq_true rfl, Nat.le_of_ble_eq_true rfl⟩ dX5_readName_42 rfl rfl (Nat.le_of_ble_eq_true rfl) (Nat.le_of_ble_eq_true rfl) (fun v_19 X_20 hp_21 => ?_)
      obtain ⟨rfl, rfl⟩ := hp_21
      obtain ⟨f_16, ⟨hf_17, hf_17p⟩, ef_18⟩ := s_wr_n (pl := pl) (a := a + 1) (f := 0) (w := 1) (hT.1 (a + 1) (by omega)).2.2.2.1 (by omega) (by decide)
      have hf_17p := hf_17p (by decide)
      refine z_X (X' := (tX g L (s_rd I (a + 1) f_16) J Gb X)) (by rw [ef_18]) ?_
      refine z_st (st' := []) rfl ?_
      refine z_goto 61 dX5_readName_45 (by decide) ?_
      refine z_aload_n 1 dX5_readName_61 rfl ?_
      refine tz_get (v := .int (nI (f_16))) 8 hL (by decide) q1601 rfl dX5_readName_62 ?_
      refine z_if_neN 132 (by omega) dX5_readName_65 (by decide) (fun h_ => ?_) (fun h_ => absurd h_ (by omega))
      exact z_vret dX5_readName_132 rfl (Nat.le_of_ble_eq_true rfl) (Nat.le_of_ble_eq_true rfl) ⟨I, J, (a + 1), f_16, rfl, rfl, (by omega), (by omega), by unfold s_rN; rw [if_neg c_1, if_neg (by rw [c_5]; decide), ef_18]; try rfl⟩
  · -- nd = 6
    refine z_aload_n 1 dX5_readName_17 rfl ?_
    refine z_iconst (v := 5) dX5_readName_18 (by decide) ?_
    refine z_callV (As := [.int 5]) (t_wrong (I := I) hL hT (a := a) (f := 0) (by omega) (by omega) 5 (by omega)) q1727 q1729 qs62 q121 q1730 nm_X5_wrong (tX_obj hL) rfl rfl rfl (Nat.le_of_ble_eq_true rfl) ⟨Nat.le_of_ble_eq_true rfl, Nat.le_of_ble_eq_true rfl⟩ dX5_readName_19 rfl rfl (Nat.le_of_ble_eq_true rfl) (Nat.le_of_ble_eq_true rfl) (fun v_25 X_26 hp_27 => ?_)
    obtain ⟨rfl, rfl⟩ := hp_27
    obtain ⟨f_22, ⟨hf_23, hf_23p⟩, ef_24⟩ := s_wr_n (pl := pl) (a := a) (f := 0) (w := 5) (hT.1 a (by omega)).2.2.2.1 (by omega) (by decide)
    have hf_23p := hf_23p (by decide)
    refine z_X (X' := (tX g L (s_rd I a f_22) J Gb X)) (by rw [ef_24]) ?_
    refine z_st (st' := []) rfl ?_
    exact z_vret dX5_readName_22 rfl (Nat.le_of_ble_eq_true rfl) (Nat.le_of_ble_eq_true rfl) ⟨I, J, a, f_22, rfl, rfl, (by omega), (by omega), by unfold s_rN; rw [if_pos c_1, ef_24]; try rfl⟩
set_option maxHeartbeats 4000000 in
theorem t_readPair_0 {g : zG} {L : Nat → Nat} {I : Nat → Nat → Int32} {J : Nat → Nat → Int64} {Gb : Nat → Nat → Int32} {X : zX} (hL : tok g L) {kd pl : Nat → Nat} {cnt a : Nat} (hT : s_tk (I 4) (I 5) kd pl cnt) (ha : a < cnt) {nh nd rm : Nat} (h50 : I 10 50 = nI nh) (hnh : nh ≤ 4) (h51 : I 10 51 = nI nd) (hnd : nd ≤ 6) (hm : I 99 19 = nI rm) (hrm : rm = nh + nd) : zN g m_X5_readPair ({ frames := 4, cells := 0, slots := 0, locals := 89 } : Room) [.ref (L 99), .int 0, .int 5, .int 2] (tX g L (s_rd I a 0) J Gb X) (fun rv X' => ∃ (I' : Nat → Nat → Int32) (a' f' : Nat), rv = none ∧ X' = tX g L (s_rd I' a' f') J Gb X ∧ a' ≤ cnt ∧ f' < 2 ^ 20 ∧ s_rP kd pl (J 6) (J 9) I (s_nm (J 15) (I 17) rm) a 0 5 2 = (I', a', f')) := by
  refine zN.of (by decide +kernel) (Nat.le_of_ble_eq_true rfl) rfl ?_
  refine z_lv (lv' := [(0, .ref (L 99)), (1, .int 0), (2, .int 5), (3, .int 2)]) [0, 1, 2, 3] rfl ?_
  have hT2 := hT.2
  obtain ⟨hk9, hp9, hk4, hp4, hke⟩ := hT.1 a (by omega)
  refine z_aload_n 0 dX5_readPair_0 rfl ?_
  refine z_dup dX5_readPair_1 rfl ?_
  refine tz_get (v := .int (nI (a))) 7 hL (by decide) q1600 rfl dX5_readPair_2 ?_
  refine z_iconst (v := 1) dX5_readPair_5 (by decide) ?_
  refine z_iaddN (a := a) (b := 1) dX5_readPair_6 ?_
  refine tz_put (I' := (s_rd I (a + 1) 0)) 7 hL (by decide) q1600 s_rd_7 dX5_readPair_7 ?_
  refine z_aload_n 0 dX5_readPair_10 rfl ?_
  refine z_iconst (v := 1) dX5_readPair_11 (by decide) ?_
  refine z_iload_n 1 dX5_readPair_12 rfl ?_
  refine z_iconst (v := 0) dX5_readPair_13 (by decide) ?_
  refine z_callV (As := [.int 1, .int 0, .int 0]) (t_takeTold_1 (I := I) hL hT (a := a + 1) (f := 0) (by omega) (by omega) hm (by omega) 0 0 ) q1767 q1769 qs72 q121 q1770 nm_X5_takeTold (tX_obj hL) rfl rfl rfl (Nat.le_of_ble_eq_true rfl) ⟨Nat.le_of_ble_eq_true rfl, Nat.le_of_ble_eq_true rfl⟩ dX5_readPair_14 rfl rfl (Nat.le_of_ble_eq_true rfl) (Nat.le_of_ble_eq_true rfl) (fun v_7 X_8 hp_9 => ?_)
  obtain ⟨v_6, a_1, f_2, rfl, rfl, ha_4, hf_5, et_3⟩ := hp_9
  refine z_st (st' := [.int v_6]) rfl ?_
  refine z_istore (lv' := [(4, .int v_6), (0, .ref (L 99)), (1, .int 0), (2, .int 5), (3, .int 2)]) dX5_readPair_17 (by decide) rfl ?_
  obtain ⟨⟨k1, hk1, ek1⟩, lk1⟩ := s_tT_k et_3
  subst ek1
  refine z_bipush (v := 50) dX5_readPair_19 (by decide) ?_
  refine z_iload_n 3 dX5_readPair_21 rfl ?_
  refine z_iaddN (a := 50) (b := 5) dX5_readPair_22 ?_
  refine z_eq (y := 55) (by decide) ?_
  refine z_iload_n 4 dX5_readPair_23 rfl ?_
  refine z_iload 0 dX5_readPair_24 rfl ?_
  refine z_imulN (a := 2) (b := k1) dX5_readPair_26 ?_
  refine z_iaddN (a := 55) (b := 2 * k1) dX5_readPair_27 ?_
  refine z_eq (y := nI (2 * k1 + 55)) (congrArg nI (by omega)) ?_
  refine z_istore (lv' := [(5, .int (nI (2 * k1 + 55))), (4, .int (nI (k1))), (0, .ref (L 99)), (1, .int 0), (2, .int 5), (3, .int 2)]) dX5_readPair_28 (by decide) rfl ?_
  refine z_aload_n 2 dX5_readPair_30 rfl ?_
  refine z_iconst (v := 1) dX5_readPair_31 (by decide) ?_
  refine z_iload_n 3 dX5_readPair_32 rfl ?_
  refine z_aload_n 2 dX5_readPair_33 rfl ?_
  refine tz_get (v := .ref (L 10)) 10 hL (by decide) q1603 rfl dX5_readPair_34 ?_
  refine z_iload 0 dX5_readPair_37 rfl ?_
  refine tz_iald (v := I 10 (2 * k1 + 55)) 10 (2 * k1 + 55) hL (by decide) rfl (by show 2 * k1 + 55 < 100; omega) rfl dX5_readPair_39 ?_
  refine z_iconst (v := 1) dX5_readPair_40 (by decide) ?_
  refine z_iload 1 dX5_readPair_41 rfl ?_
  refine z_ishl dX5_readPair_43 ?_
  refine z_ior dX5_readPair_44 ?_
  refine z_callV (As := [.int 1, .int 0, .int ((I 10 (2 * k1 + 55)) ||| (1 <<< ((nI (k1)) &&& 31)))]) (t_takeTold_1 (I := I) hL hT (a := a_1) (f := f_2) (by omega) (by omega) hm (by omega) 0 ((I 10 (2 * k1 + 55)) ||| (1 <<< ((nI (k1)) &&& 31))) ) q1767 q1769 qs72 q121 q1770 nm_X5_takeTold (tX_obj hL) rfl rfl rfl (Nat.le_of_ble_eq_true rfl) ⟨Nat.le_of_ble_eq_true rfl, Nat.le_of_ble_eq_true rfl⟩ dX5_readPair_45 rfl rfl (Nat.le_of_ble_eq_true rfl) (Nat.le_of_ble_eq_true rfl) (fun v_16 X_17 hp_18 => ?_)
  obtain ⟨v_15, a_10, f_11, rfl, rfl, ha_13, hf_14, et_12⟩ := hp_18
  refine z_st (st' := [.int v_15]) rfl ?_
  refine z_istore (lv' := [(6, .int v_15), (5, .int (nI (2 * k1 + 55))), (4, .int (nI (k1))), (0, .ref (L 99)), (1, .int 0), (2, .int 5), (3, .int 2)]) dX5_readPair_48 (by decide) rfl ?_
  obtain ⟨⟨k2, hk2, ek2⟩, lk2⟩ := s_tT_k et_12
  subst ek2
  refine z_aload_n 3 dX5_readPair_50 rfl ?_
  refine tz_get (v := .int (nI (f_11))) 8 hL (by decide) q1601 rfl dX5_readPair_51 ?_
  refine z_if_neN 92 (by omega) dX5_readPair_54 (by decide) (fun c_19 => ?_) (fun c_19 => ?_)
  · -- f_11 ≠ 0
    exact z_vret dX5_readPair_92 rfl (Nat.le_of_ble_eq_true rfl) (Nat.le_of_ble_eq_true rfl) ⟨I, a_10, f_11, rfl, rfl, (by omega), (by omega), by skip; unfold s_rP s_rP1; rw [et_3]; simp only [ncl (show k1 < 2 ^ 31 by omega)]; rw [et_12]; unfold s_rP2; rw [if_neg (by show ¬ f_11 = 0; omega)]⟩
  · -- f_11 = 0
    refine z_aload_n 3 dX5_readPair_57 rfl ?_
    refine tz_get (v := .ref (L 10)) 10 hL (by decide) q1603 rfl dX5_readPair_58 ?_
    refine z_iload 1 dX5_readPair_61 rfl ?_
    refine z_dup2_11 dX5_readPair_63 rfl rfl ?_
    refine tz_iald (v := I 10 (2 * k1 + 55)) 10 (2 * k1 + 55) hL (by decide) rfl (by show 2 * k1 + 55 < 100; omega) rfl dX5_readPair_64 ?_
    refine z_iconst (v := 1) dX5_readPair_65 (by decide) ?_
    refine z_iload 0 dX5_readPair_66 rfl ?_
    refine z_ishl dX5_readPair_68 ?_
    refine z_ior dX5_readPair_69 ?_
    obtain ⟨x_20, ex_20⟩ : ∃ y : Int32, ((I 10 (2 * k1 + 55)) ||| (1 <<< ((nI (k2)) &&& 31))) = y := ⟨_, rfl⟩
    refine z_eq ex_20 ?_
    refine tz_iast 10 (2 * k1 + 55) hL (by decide) rfl (by show 2 * k1 + 55 < 100; omega) (s_rd_a (by decide)) dX5_readPair_70 ?_
    refine z_aload_n 3 dX5_readPair_71 rfl ?_
    refine tz_get (v := .ref (L 10)) 10 hL (by decide) q1603 rfl dX5_readPair_72 ?_
    refine z_bipush (v := 50) dX5_readPair_75 (by decide) ?_
    refine z_iload_n 5 dX5_readPair_77 rfl ?_
    refine z_iaddN (a := 50) (b := 5) dX5_readPair_78 ?_
    refine z_eq (y := 55) (by decide) ?_
    refine z_iload_n 6 dX5_readPair_79 rfl ?_
    refine z_iload 0 dX5_readPair_80 rfl ?_
    refine z_imulN (a := 2) (b := k2) dX5_readPair_82 ?_
    refine z_iaddN (a := 55) (b := 2 * k2) dX5_readPair_83 ?_
    refine z_eq (y := nI (2 * k2 + 55)) (congrArg nI (by omega)) ?_
    refine z_dup2_11 dX5_readPair_84 rfl rfl ?_
    refine tz_iald (v := (zs I 10 (2 * k1 + 55) x_20) 10 (2 * k2 + 55)) 10 (2 * k2 + 55) hL (by decide) rfl (by show 2 * k2 + 55 < 100; omega) rfl dX5_readPair_85 ?_
    refine z_iconst (v := 1) dX5_readPair_86 (by decide) ?_
    refine z_iload 2 dX5_readPair_87 rfl ?_
    refine z_ishl dX5_readPair_89 ?_
    refine z_ior dX5_readPair_90 ?_
    obtain ⟨x_21, ex_21⟩ : ∃ y : Int32, (((zs I 10 (2 * k1 + 55) x_20) 10 (2 * k2 + 55)) ||| (1 <<< ((nI (k1)) &&& 31))) = y := ⟨_, rfl⟩
    refine z_eq ex_21 ?_
    refine tz_iast 10 (2 * k2 + 55) hL (by decide) rfl (by show 2 * k2 + 55 < 100; omega) (s_rd_a (by decide)) dX5_readPair_91 ?_
    exact z_vret dX5_readPair_92 rfl (Nat.le_of_ble_eq_true rfl) (Nat.le_of_ble_eq_true rfl) ⟨(zs (zs I 10 (2 * k1 + 55) x_20) 10 (2 * k2 + 55) x_21), a_10, f_11, rfl, rfl, (by omega), (by omega), by (try subst ex_21); (try subst ex_20); unfold s_rP s_rP1; rw [et_3]; simp only [ncl (show k1 < 2 ^ 31 by omega)]; rw [et_12]; unfold s_rP2; rw [if_pos c_19]; simp only [ncl (show k1 < 2 ^ 31 by omega), ncl (show k2 < 2 ^ 31 by omega)]; rw [c_19]; first | done | rfl⟩
set_option maxHeartbeats 4000000 in
theorem t_readPair_20 {g : zG} {L : Nat → Nat} {I : Nat → Nat → Int32} {J : Nat → Nat → Int64} {Gb : Nat → Nat → Int32} {X : zX} (hL : tok g L) {kd pl : Nat → Nat} {cnt a : Nat} (hT : s_tk (I 4) (I 5) kd pl cnt) (ha : a < cnt) {nh nd rm : Nat} (h50 : I 10 50 = nI nh) (hnh : nh ≤ 4) (h51 : I 10 51 = nI nd) (hnd : nd ≤ 6) (hm : I 99 19 = nI rm) (hrm : rm = nh + nd) : zN g m_X5_readPair ({ frames := 4, cells := 0, slots := 0, locals := 89 } : Room) [.ref (L 99), .int 20, .int 16, .int 5] (tX g L (s_rd I a 0) J Gb X) (fun rv X' => ∃ (I' : Nat → Nat → Int32) (a' f' : Nat), rv = none ∧ X' = tX g L (s_rd I' a' f') J Gb X ∧ a' ≤ cnt ∧ f' < 2 ^ 20 ∧ s_rP kd pl (J 6) (J 9) I (s_nm (J 15) (I 17) rm) a 20 16 5 = (I', a', f')) := by
  refine zN.of (by decide +kernel) (Nat.le_of_ble_eq_true rfl) rfl ?_
  refine z_lv (lv' := [(0, .ref (L 99)), (1, .int 20), (2, .int 16), (3, .int 5)]) [0, 1, 2, 3] rfl ?_
  have hT2 := hT.2
  obtain ⟨hk9, hp9, hk4, hp4, hke⟩ := hT.1 a (by omega)
  refine z_aload_n 0 dX5_readPair_0 rfl ?_
  refine z_dup dX5_readPair_1 rfl ?_
  refine tz_get (v := .int (nI (a))) 7 hL (by decide) q1600 rfl dX5_readPair_2 ?_
  refine z_iconst (v := 1) dX5_readPair_5 (by decide) ?_
  refine z_iaddN (a := a) (b := 1) dX5_readPair_6 ?_
  refine tz_put (I' := (s_rd I (a + 1) 0)) 7 hL (by decide) q1600 s_rd_7 dX5_readPair_7 ?_
  refine z_aload_n 0 dX5_readPair_10 rfl ?_
  refine z_iconst (v := 1) dX5_readPair_11 (by decide) ?_
  refine z_iload_n 1 dX5_readPair_12 rfl ?_
  refine z_iconst (v := 0) dX5_readPair_13 (by decide) ?_
  refine z_callV (As := [.int 1, .int 20, .int 0]) (t_takeTold_1 (I := I) hL hT (a := a + 1) (f := 0) (by omega) (by omega) hm (by omega) 20 0 ) q1767 q1769 qs72 q121 q1770 nm_X5_takeTold (tX_obj hL) rfl rfl rfl (Nat.le_of_ble_eq_true rfl) ⟨Nat.le_of_ble_eq_true rfl, Nat.le_of_ble_eq_true rfl⟩ dX5_readPair_14 rfl rfl (Nat.le_of_ble_eq_true rfl) (Nat.le_of_ble_eq_true rfl) (fun v_7 X_8 hp_9 => ?_)
  obtain ⟨v_6, a_1, f_2, rfl, rfl, ha_4, hf_5, et_3⟩ := hp_9
  refine z_st (st' := [.int v_6]) rfl ?_
  refine z_istore (lv' := [(4, .int v_6), (0, .ref (L 99)), (1, .int 20), (2, .int 16), (3, .int 5)]) dX5_readPair_17 (by decide) rfl ?_
  obtain ⟨⟨k1, hk1, ek1⟩, lk1⟩ := s_tT_k et_3
  subst ek1
  refine z_bipush (v := 50) dX5_readPair_19 (by decide) ?_
  refine z_iload_n 3 dX5_readPair_21 rfl ?_
  refine z_iaddN (a := 50) (b := 16) dX5_readPair_22 ?_
  refine z_eq (y := 66) (by decide) ?_
  refine z_iload_n 4 dX5_readPair_23 rfl ?_
  refine z_iload 0 dX5_readPair_24 rfl ?_
  refine z_imulN (a := 5) (b := k1) dX5_readPair_26 ?_
  refine z_iaddN (a := 66) (b := 5 * k1) dX5_readPair_27 ?_
  refine z_eq (y := nI (5 * k1 + 66)) (congrArg nI (by omega)) ?_
  refine z_istore (lv' := [(5, .int (nI (5 * k1 + 66))), (4, .int (nI (k1))), (0, .ref (L 99)), (1, .int 20), (2, .int 16), (3, .int 5)]) dX5_readPair_28 (by decide) rfl ?_
  refine z_aload_n 2 dX5_readPair_30 rfl ?_
  refine z_iconst (v := 1) dX5_readPair_31 (by decide) ?_
  refine z_iload_n 3 dX5_readPair_32 rfl ?_
  refine z_aload_n 2 dX5_readPair_33 rfl ?_
  refine tz_get (v := .ref (L 10)) 10 hL (by decide) q1603 rfl dX5_readPair_34 ?_
  refine z_iload 0 dX5_readPair_37 rfl ?_
  refine tz_iald (v := I 10 (5 * k1 + 66)) 10 (5 * k1 + 66) hL (by decide) rfl (by show 5 * k1 + 66 < 100; omega) rfl dX5_readPair_39 ?_
  refine z_iconst (v := 1) dX5_readPair_40 (by decide) ?_
  refine z_iload 1 dX5_readPair_41 rfl ?_
  refine z_ishl dX5_readPair_43 ?_
  refine z_ior dX5_readPair_44 ?_
  refine z_callV (As := [.int 1, .int 20, .int ((I 10 (5 * k1 + 66)) ||| (1 <<< ((nI (k1)) &&& 31)))]) (t_takeTold_1 (I := I) hL hT (a := a_1) (f := f_2) (by omega) (by omega) hm (by omega) 20 ((I 10 (5 * k1 + 66)) ||| (1 <<< ((nI (k1)) &&& 31))) ) q1767 q1769 qs72 q121 q1770 nm_X5_takeTold (tX_obj hL) rfl rfl rfl (Nat.le_of_ble_eq_true rfl) ⟨Nat.le_of_ble_eq_true rfl, Nat.le_of_ble_eq_true rfl⟩ dX5_readPair_45 rfl rfl (Nat.le_of_ble_eq_true rfl) (Nat.le_of_ble_eq_true rfl) (fun v_16 X_17 hp_18 => ?_)
  obtain ⟨v_15, a_10, f_11, rfl, rfl, ha_13, hf_14, et_12⟩ := hp_18
  refine z_st (st' := [.int v_15]) rfl ?_
  refine z_istore (lv' := [(6, .int v_15), (5, .int (nI (5 * k1 + 66))), (4, .int (nI (k1))), (0, .ref (L 99)), (1, .int 20), (2, .int 16), (3, .int 5)]) dX5_readPair_48 (by decide) rfl ?_
  obtain ⟨⟨k2, hk2, ek2⟩, lk2⟩ := s_tT_k et_12
  subst ek2
  refine z_aload_n 3 dX5_readPair_50 rfl ?_
  refine tz_get (v := .int (nI (f_11))) 8 hL (by decide) q1601 rfl dX5_readPair_51 ?_
  refine z_if_neN 92 (by omega) dX5_readPair_54 (by decide) (fun c_19 => ?_) (fun c_19 => ?_)
  · -- f_11 ≠ 0
    exact z_vret dX5_readPair_92 rfl (Nat.le_of_ble_eq_true rfl) (Nat.le_of_ble_eq_true rfl) ⟨I, a_10, f_11, rfl, rfl, (by omega), (by omega), by skip; unfold s_rP s_rP1; rw [et_3]; simp only [ncl (show k1 < 2 ^ 31 by omega)]; rw [et_12]; unfold s_rP2; rw [if_neg (by show ¬ f_11 = 0; omega)]⟩
  · -- f_11 = 0
    refine z_aload_n 3 dX5_readPair_57 rfl ?_
    refine tz_get (v := .ref (L 10)) 10 hL (by decide) q1603 rfl dX5_readPair_58 ?_
    refine z_iload 1 dX5_readPair_61 rfl ?_
    refine z_dup2_11 dX5_readPair_63 rfl rfl ?_
    refine tz_iald (v := I 10 (5 * k1 + 66)) 10 (5 * k1 + 66) hL (by decide) rfl (by show 5 * k1 + 66 < 100; omega) rfl dX5_readPair_64 ?_
    refine z_iconst (v := 1) dX5_readPair_65 (by decide) ?_
    refine z_iload 0 dX5_readPair_66 rfl ?_
    refine z_ishl dX5_readPair_68 ?_
    refine z_ior dX5_readPair_69 ?_
    obtain ⟨x_20, ex_20⟩ : ∃ y : Int32, ((I 10 (5 * k1 + 66)) ||| (1 <<< ((nI (k2)) &&& 31))) = y := ⟨_, rfl⟩
    refine z_eq ex_20 ?_
    refine tz_iast 10 (5 * k1 + 66) hL (by decide) rfl (by show 5 * k1 + 66 < 100; omega) (s_rd_a (by decide)) dX5_readPair_70 ?_
    refine z_aload_n 3 dX5_readPair_71 rfl ?_
    refine tz_get (v := .ref (L 10)) 10 hL (by decide) q1603 rfl dX5_readPair_72 ?_
    refine z_bipush (v := 50) dX5_readPair_75 (by decide) ?_
    refine z_iload_n 5 dX5_readPair_77 rfl ?_
    refine z_iaddN (a := 50) (b := 16) dX5_readPair_78 ?_
    refine z_eq (y := 66) (by decide) ?_
    refine z_iload_n 6 dX5_readPair_79 rfl ?_
    refine z_iload 0 dX5_readPair_80 rfl ?_
    refine z_imulN (a := 5) (b := k2) dX5_readPair_82 ?_
    refine z_iaddN (a := 66) (b := 5 * k2) dX5_readPair_83 ?_
    refine z_eq (y := nI (5 * k2 + 66)) (congrArg nI (by omega)) ?_
    refine z_dup2_11 dX5_readPair_84 rfl rfl ?_
    refine tz_iald (v := (zs I 10 (5 * k1 + 66) x_20) 10 (5 * k2 + 66)) 10 (5 * k2 + 66) hL (by decide) rfl (by show 5 * k2 + 66 < 100; omega) rfl dX5_readPair_85 ?_
    refine z_iconst (v := 1) dX5_readPair_86 (by decide) ?_
    refine z_iload 2 dX5_readPair_87 rfl ?_
    refine z_ishl dX5_readPair_89 ?_
    refine z_ior dX5_readPair_90 ?_
    obtain ⟨x_21, ex_21⟩ : ∃ y : Int32, (((zs I 10 (5 * k1 + 66) x_20) 10 (5 * k2 + 66)) ||| (1 <<< ((nI (k1)) &&& 31))) = y := ⟨_, rfl⟩
    refine z_eq ex_21 ?_
    refine tz_iast 10 (5 * k2 + 66) hL (by decide) rfl (by show 5 * k2 + 66 < 100; omega) (s_rd_a (by decide)) dX5_readPair_91 ?_
    exact z_vret dX5_readPair_92 rfl (Nat.le_of_ble_eq_true rfl) (Nat.le_of_ble_eq_true rfl) ⟨(zs (zs I 10 (5 * k1 + 66) x_20) 10 (5 * k2 + 66) x_21), a_10, f_11, rfl, rfl, (by omega), (by omega), by (try subst ex_21); (try subst ex_20); unfold s_rP s_rP1; rw [et_3]; simp only [ncl (show k1 < 2 ^ 31 by omega)]; rw [et_12]; unfold s_rP2; rw [if_pos c_19]; simp only [ncl (show k1 < 2 ^ 31 by omega), ncl (show k2 < 2 ^ 31 by omega)]; rw [c_19]; first | done | rfl⟩
set_option maxHeartbeats 4000000 in
theorem t_readDay {g : zG} {L : Nat → Nat} {I : Nat → Nat → Int32} {J : Nat → Nat → Int64} {Gb : Nat → Nat → Int32} {X : zX} (hL : tok g L) {kd pl : Nat → Nat} {cnt a : Nat} (hT : s_tk (I 4) (I 5) kd pl cnt) (ha : a < cnt) {nh nd rm : Nat} (h50 : I 10 50 = nI nh) (hnh : nh ≤ 4) (h51 : I 10 51 = nI nd) (hnd : nd ≤ 6) (hm : I 99 19 = nI rm) (hrm : rm = nh + nd) : zN g m_X5_readDay ({ frames := 4, cells := 0, slots := 0, locals := 89 } : Room) [.ref (L 99)] (tX g L (s_rd I a 0) J Gb X) (fun rv X' => ∃ (I' : Nat → Nat → Int32) (J' : Nat → Nat → Int64) (a' f' : Nat), rv = none ∧ X' = tX g L (s_rd I' a' f') J' Gb X ∧ a' ≤ cnt ∧ f' < 2 ^ 20 ∧ s_rD kd pl (J 6) (J 9) I J a nd rm = (I', J', a', f')) := by
  refine zN.of (by decide +kernel) (Nat.le_of_ble_eq_true rfl) rfl ?_
  refine z_lv (lv' := [(0, .ref (L 99))]) [0] rfl ?_
  have hT2 := hT.2
  obtain ⟨hk9, hp9, hk4, hp4, hke⟩ := hT.1 a (by omega)
  refine z_bipush (v := 62) dX5_readDay_0 (by decide) ?_
  refine z_iconst (v := 5) dX5_readDay_2 (by decide) ?_
  refine z_aload_n 0 dX5_readDay_3 rfl ?_
  refine tz_get (v := .ref (L 10)) 10 hL (by decide) q1603 rfl dX5_readDay_4 ?_
  refine z_bipush (v := 51) dX5_readDay_7 (by decide) ?_
  refine tz_iald (v := nI (nd)) 10 (51) hL (by decide) rfl (by show 51 < 100; omega) h51 dX5_readDay_9 ?_
  refine z_imulN (a := 5) (b := nd) dX5_readDay_10 ?_
  refine z_iaddN (a := 62) (b := 5 * nd) dX5_readDay_11 ?_
  refine z_eq (y := nI (5 * nd + 62)) (congrArg nI (by omega)) ?_
  refine z_istore_n (lv' := [(1, .int (nI (5 * nd + 62))), (0, .ref (L 99))]) dX5_readDay_12 rfl (by decide) rfl ?_
  refine z_aload_n 1 dX5_readDay_13 rfl ?_
  refine z_iconst (v := 1) dX5_readDay_14 (by decide) ?_
  refine z_bipush (v := 6) dX5_readDay_15 (by decide) ?_
  refine z_bipush (v := 20) dX5_readDay_17 (by decide) ?_
  refine z_callV (As := [.int 1, .int 6, .int 20]) (t_readName_1 (I := I) hL hT (a := a) (by omega) h50 hnh h51 hnd hm hrm) q1723 q1725 qs61 q121 q1726 nm_X5_readName (tX_obj hL) rfl rfl rfl (Nat.le_of_ble_eq_true rfl) ⟨Nat.le_of_ble_eq_true rfl, Nat.le_of_ble_eq_true rfl⟩ dX5_readDay_19 rfl rfl (Nat.le_of_ble_eq_true rfl) (Nat.le_of_ble_eq_true rfl) (fun v_9 X_10 hp_11 => ?_)
  obtain ⟨I_1, J_2, a_3, f_4, rfl, rfl, ha_6, hf_7, et_5⟩ := hp_11
  have hk_8 := s_rN_k et_5 hm
  have hT := s_rk_tk hk_8.2.1 hT
  have hJ6 := hk_8.2.1.2.2.2.2 6 (by decide)
  have hJ9 := hk_8.2.1.2.2.2.2 9 (by decide)
  obtain ⟨rm2, hm, hm2⟩ : ∃ m9, I_1 99 19 = nI m9 ∧ m9 ≤ 10 := by rcases hk_8.2.2.2.2 with ⟨h9, -, -⟩ | ⟨h9, h8, -⟩; exact ⟨_, h9 ▸ hm, by omega⟩; exact ⟨_, h8, by omega⟩
  have hle := hk_8.1
  refine z_st (st' := []) rfl ?_
  refine z_aload_n 1 dX5_readDay_22 rfl ?_
  refine z_bipush (v := 14) dX5_readDay_23 (by decide) ?_
  refine z_iconst (v := 4) dX5_readDay_25 (by decide) ?_
  refine z_callV (As := [.int 14, .int 4]) (t_takeOne (I := I_1) hL hT (a := a_3) (f := f_4) (by omega) (by omega) 14 4 (by omega) ) q1763 q1765 qs71 q121 q1766 nm_X5_takeOne (tX_obj hL) rfl rfl rfl (Nat.le_of_ble_eq_true rfl) ⟨Nat.le_of_ble_eq_true rfl, Nat.le_of_ble_eq_true rfl⟩ dX5_readDay_26 rfl rfl (Nat.le_of_ble_eq_true rfl) (Nat.le_of_ble_eq_true rfl) (fun v_18 X_19 hp_20 => ?_)
  obtain ⟨v_17, a_12, f_13, rfl, rfl, ha_15, hf_16, et_14⟩ := hp_20
  refine z_st (st' := [.int v_17]) rfl ?_
  refine z_istore_n (lv' := [(2, .int v_17), (1, .int (nI (5 * nd + 62))), (0, .ref (L 99))]) dX5_readDay_29 rfl (by decide) rfl ?_
  refine z_aload_n 2 dX5_readDay_30 rfl ?_
  refine z_iconst (v := 4) dX5_readDay_31 (by decide) ?_
  refine z_callV (As := [.int 4]) (t_takeWord (I := I_1) hL hT (a := a_12) (f := f_13) (by omega) (by omega) 4 (by omega) ) q1747 q1749 qs67 q121 q1750 nm_X5_takeWord (tX_obj hL) rfl rfl rfl (Nat.le_of_ble_eq_true rfl) ⟨Nat.le_of_ble_eq_true rfl, Nat.le_of_ble_eq_true rfl⟩ dX5_readDay_32 rfl rfl (Nat.le_of_ble_eq_true rfl) (Nat.le_of_ble_eq_true rfl) (fun v_26 X_27 hp_28 => ?_)
  obtain ⟨a_21, f_22, rfl, rfl, ha_24, hf_25, et_23⟩ := hp_28
  refine z_st (st' := []) rfl ?_
  refine z_aload_n 2 dX5_readDay_35 rfl ?_
  refine z_iconst (v := 1) dX5_readDay_36 (by decide) ?_
  refine z_iconst (v := 0) dX5_readDay_37 (by decide) ?_
  refine z_iconst (v := 0) dX5_readDay_38 (by decide) ?_
  refine z_callV (As := [.int 1, .int 0, .int 0]) (t_takeTold_1 (I := I_1) hL hT (a := a_21) (f := f_22) (by omega) (by omega) hm (by omega) 0 0 ) q1767 q1769 qs72 q121 q1770 nm_X5_takeTold (tX_obj hL) rfl rfl rfl (Nat.le_of_ble_eq_true rfl) ⟨Nat.le_of_ble_eq_true rfl, Nat.le_of_ble_eq_true rfl⟩ dX5_readDay_39 rfl rfl (Nat.le_of_ble_eq_true rfl) (Nat.le_of_ble_eq_true rfl) (fun v_35 X_36 hp_37 => ?_)
  obtain ⟨v_34, a_29, f_30, rfl, rfl, ha_32, hf_33, et_31⟩ := hp_37
  refine z_st (st' := [.int v_34]) rfl ?_
  refine z_istore_n (lv' := [(3, .int v_34), (2, .int v_17), (1, .int (nI (5 * nd + 62))), (0, .ref (L 99))]) dX5_readDay_42 rfl (by decide) rfl ?_
  refine z_aload_n 3 dX5_readDay_43 rfl ?_
  refine z_iconst (v := 5) dX5_readDay_44 (by decide) ?_
  refine z_iconst (v := 0) dX5_readDay_45 (by decide) ?_
  refine z_bipush (v := 11) dX5_readDay_46 (by decide) ?_
  refine z_callV (As := [.int 5, .int 0, .int 11]) (t_takeAfter (I := I_1) hL hT (a := a_29) (f := f_30) (by omega) (by omega) 5 (by omega) 0 11 ) q1743 q1745 qs66 q121 q1746 nm_X5_takeAfter (tX_obj hL) rfl rfl rfl (Nat.le_of_ble_eq_true rfl) ⟨Nat.le_of_ble_eq_true rfl, Nat.le_of_ble_eq_true rfl⟩ dX5_readDay_48 rfl rfl (Nat.le_of_ble_eq_true rfl) (Nat.le_of_ble_eq_true rfl) (fun v_44 X_45 hp_46 => ?_)
  obtain ⟨v_43, a_38, f_39, rfl, rfl, ha_41, hf_42, et_40⟩ := hp_46
  refine z_st (st' := [.int v_43]) rfl ?_
  refine z_istore (lv' := [(4, .int v_43), (3, .int v_34), (2, .int v_17), (1, .int (nI (5 * nd + 62))), (0, .ref (L 99))]) dX5_readDay_51 (by decide) rfl ?_
  refine z_aload_n 4 dX5_readDay_53 rfl ?_
  refine z_bipush (v := 6) dX5_readDay_54 (by decide) ?_
  refine z_iconst (v := 0) dX5_readDay_56 (by decide) ?_
  refine z_bipush (v := 40) dX5_readDay_57 (by decide) ?_
  refine z_callV (As := [.int 6, .int 0, .int 40]) (t_takeAfter (I := I_1) hL hT (a := a_38) (f := f_39) (by omega) (by omega) 6 (by omega) 0 40 ) q1743 q1745 qs66 q121 q1746 nm_X5_takeAfter (tX_obj hL) rfl rfl rfl (Nat.le_of_ble_eq_true rfl) ⟨Nat.le_of_ble_eq_true rfl, Nat.le_of_ble_eq_true rfl⟩ dX5_readDay_59 rfl rfl (Nat.le_of_ble_eq_true rfl) (Nat.le_of_ble_eq_true rfl) (fun v_53 X_54 hp_55 => ?_)
  obtain ⟨v_52, a_47, f_48, rfl, rfl, ha_50, hf_51, et_49⟩ := hp_55
  refine z_st (st' := [.int v_52]) rfl ?_
  refine z_istore (lv' := [(5, .int v_52), (4, .int v_43), (3, .int v_34), (2, .int v_17), (1, .int (nI (5 * nd + 62))), (0, .ref (L 99))]) dX5_readDay_62 (by decide) rfl ?_
  refine z_aload_n 5 dX5_readDay_64 rfl ?_
  refine tz_get (v := .int (nI (f_48))) 8 hL (by decide) q1601 rfl dX5_readDay_65 ?_
  refine z_if_neN 107 (by omega) dX5_readDay_68 (by decide) (fun c_56 => ?_) (fun c_56 => ?_)
  · -- f_48 ≠ 0
    exact z_vret dX5_readDay_107 rfl (Nat.le_of_ble_eq_true rfl) (Nat.le_of_ble_eq_true rfl) ⟨I_1, J_2, a_47, f_48, rfl, rfl, (by omega), (by omega), by have hz := ncl (show rm2 < 2 ^ 31 by omega); rw [hJ6, hJ9] at et_14 et_23 et_31 et_40 et_49; unfold s_rD; rw [et_5]; unfold s_rD1; simp only [hm, hz, et_14, et_23, et_31, et_40, et_49]; unfold s_rD5; rw [if_neg (show ¬ f_48 = 0 by omega)]⟩
  · -- f_48 = 0
    refine z_aload_n 5 dX5_readDay_71 rfl ?_
    refine tz_get (v := .ref (L 10)) 10 hL (by decide) q1603 rfl dX5_readDay_72 ?_
    refine z_iload_n 4 dX5_readDay_75 rfl ?_
    refine z_iload_n 3 dX5_readDay_76 rfl ?_
    refine tz_iast 10 (5 * nd + 62) hL (by decide) rfl (by show 5 * nd + 62 < 100; omega) (s_rd_a (by decide)) dX5_readDay_77 ?_
    refine z_aload_n 5 dX5_readDay_78 rfl ?_
    refine tz_get (v := .ref (L 10)) 10 hL (by decide) q1603 rfl dX5_readDay_79 ?_
    refine z_iload_n 4 dX5_readDay_82 rfl ?_
    refine z_iconst (v := 1) dX5_readDay_83 (by decide) ?_
    refine z_iaddN (a := 5 * nd + 62) (b := 1) dX5_readDay_84 ?_
    refine z_eq (y := nI (5 * nd + 63)) (congrArg nI (by omega)) ?_
    refine z_iload_n 2 dX5_readDay_85 rfl ?_
    refine tz_iast 10 (5 * nd + 63) hL (by decide) rfl (by show 5 * nd + 63 < 100; omega) (s_rd_a (by decide)) dX5_readDay_86 ?_
    refine z_aload_n 5 dX5_readDay_87 rfl ?_
    refine tz_get (v := .ref (L 10)) 10 hL (by decide) q1603 rfl dX5_readDay_88 ?_
    refine z_iload_n 4 dX5_readDay_91 rfl ?_
    refine z_iconst (v := 2) dX5_readDay_92 (by decide) ?_
    refine z_iaddN (a := 5 * nd + 62) (b := 2) dX5_readDay_93 ?_
    refine z_eq (y := nI (5 * nd + 64)) (congrArg nI (by omega)) ?_
    refine z_iload 1 dX5_readDay_94 rfl ?_
    refine tz_iast 10 (5 * nd + 64) hL (by decide) rfl (by show 5 * nd + 64 < 100; omega) (s_rd_a (by decide)) dX5_readDay_96 ?_
    refine z_aload_n 5 dX5_readDay_97 rfl ?_
    refine tz_get (v := .ref (L 10)) 10 hL (by decide) q1603 rfl dX5_readDay_98 ?_
    refine z_iload_n 4 dX5_readDay_101 rfl ?_
    refine z_iconst (v := 3) dX5_readDay_102 (by decide) ?_
    refine z_iaddN (a := 5 * nd + 62) (b := 3) dX5_readDay_103 ?_
    refine z_eq (y := nI (5 * nd + 65)) (congrArg nI (by omega)) ?_
    refine z_iload 0 dX5_readDay_104 rfl ?_
    refine tz_iast 10 (5 * nd + 65) hL (by decide) rfl (by show 5 * nd + 65 < 100; omega) (s_rd_a (by decide)) dX5_readDay_106 ?_
    exact z_vret dX5_readDay_107 rfl (Nat.le_of_ble_eq_true rfl) (Nat.le_of_ble_eq_true rfl) ⟨(zs (zs (zs (zs I_1 10 (5 * nd + 62) v_17) 10 (5 * nd + 63) v_34) 10 (5 * nd + 64) v_43) 10 (5 * nd + 65) v_52), J_2, a_47, f_48, rfl, rfl, (by omega), (by omega), by have hz := ncl (show rm2 < 2 ^ 31 by omega); rw [hJ6, hJ9] at et_14 et_23 et_31 et_40 et_49; unfold s_rD; rw [et_5]; unfold s_rD1; simp only [hm, hz, et_14, et_23, et_31, et_40, et_49]; unfold s_rD5; rw [if_pos c_56, c_56]⟩
