/-! THE MODEL: expressions, 2 and 3 deep. Printed by t31.py -/
set_option maxRecDepth 100000
set_option maxHeartbeats 4000000 in
theorem t_takePart_2 {g : zG} {L : Nat → Nat} {I : Nat → Nat → Int32} {J : Nat → Nat → Int64} {Gb : Nat → Nat → Int32} {X : zX} (hL : tok g L) {kd pl : Nat → Nat} {cnt a f : Nat} (hT : s_tk (I 4) (I 5) kd pl cnt) (ha : a ≤ cnt) (hf : f < 2 ^ 20) {cs : List (Nat × Int32)} (hcs : cs.length ≤ a) : zN g m_X5_takePart ({ frames := 12, cells := 0, slots := 0, locals := 265 } : Room) [.ref (L 99), .int 3] (tX g L (s_rd (s_cd I cs) a f) J Gb X) (fun rv X' => ∃ (a' f' : Nat) (cs' : List (Nat × Int32)), rv = none ∧ X' = tX g L (s_rd (s_cd I cs') a' f') J Gb X ∧ a' ≤ cnt ∧ f' < 2 ^ 20 ∧ a ≤ a' ∧ cs'.length + a ≤ cs.length + a' ∧ s_part kd pl (J 6) (J 9) 2 (a, f, cs) = (a', f', cs')) := by
  refine zN.of (by decide +kernel) (Nat.le_of_ble_eq_true rfl) rfl ?_
  refine z_lv (lv' := [(0, .ref (L 99)), (1, .int 3)]) [0, 1] rfl ?_
  have hT2 := hT.2
  obtain ⟨hk9, hp9, hk4, hp4, hke⟩ := hT.1 a ha
  refine z_aload_n 0 dX5_takePart_0 rfl ?_
  refine tz_get (v := .int (nI (f))) 8 hL (by decide) q1601 rfl dX5_takePart_1 ?_
  refine z_if_leN 8 (by omega) dX5_takePart_4 (by decide) (fun c_1 => ?_) (fun c_1 => ?_)
  · -- f = 0
    subst c_1
    refine z_aload_n 0 dX5_takePart_8 rfl ?_
    refine tz_get (v := .ref (L 4)) 4 hL (by decide) q1597 rfl dX5_takePart_9 ?_
    refine z_aload_n 0 dX5_takePart_12 rfl ?_
    refine tz_get (v := .int (nI (a))) 7 hL (by decide) q1600 rfl dX5_takePart_13 ?_
    refine tz_iald (v := nI ((kd a))) 4 (a) hL (by decide) rfl (by show a < 1002; omega) hk9 dX5_takePart_16 ?_
    refine z_iconst (v := 2) dX5_takePart_17 (by decide) ?_
    refine z_icmp_neN (a := (kd a)) (b := 2) 25 (by omega) (by omega) dX5_takePart_18 (by decide) (fun c_2 => ?_) (fun c_2 => ?_)
    · -- (kd a) ≠ 2
      refine z_iconst (v := 0) dX5_takePart_25 (by decide) ?_
      refine z_istore_n (lv' := [(2, .int 0), (0, .ref (L 99)), (1, .int 3)]) dX5_takePart_26 rfl (by decide) rfl ?_
      refine z_aload_n 1 dX5_takePart_27 rfl ?_
      refine z_bipush (v := 21) dX5_takePart_28 (by decide) ?_
      refine z_iconst (v := 4) dX5_takePart_30 (by decide) ?_
      refine z_callV (As := [.int 21, .int 4]) (t_wordHere (I := (s_cd I cs)) hL hT (a := a) (f := 0) (by omega) (by omega) 21 4 (by omega)) q1735 q1737 qs64 q121 q1738 nm_X5_wordHere (tX_obj hL) rfl rfl rfl (Nat.le_of_ble_eq_true rfl) ⟨Nat.le_of_ble_eq_true rfl, Nat.le_of_ble_eq_true rfl⟩ dX5_takePart_31 rfl rfl (Nat.le_of_ble_eq_true rfl) (Nat.le_of_ble_eq_true rfl) (fun v_3 X_4 hp_5 => ?_)
      obtain ⟨rfl, rfl⟩ := hp_5
      refine z_st (st' := [.int (s_wh kd (J 6) (J 9) a 0 21 4)]) rfl ?_
      refine z_istore_n (lv' := [(3, .int (s_wh kd (J 6) (J 9) a 0 21 4)), (2, .int 0), (0, .ref (L 99)), (1, .int 3)]) dX5_takePart_34 rfl (by decide) rfl ?_
      refine z_iload_n 0 dX5_takePart_35 rfl ?_
      refine z_if_ge 69 dX5_takePart_36 (by decide) (fun c_6 => ?_) (fun c_6 => ?_)
      · -- 0 ≤ s_wh kd (J 6) (J 9) a 0 21 4
        have c_6' := Int32.not_lt.mpr c_6
        refine z_iload_n 3 dX5_takePart_69 rfl ?_
        refine z_iconst (v := 5) dX5_takePart_70 (by decide) ?_
        refine z_icmp_neN (a := 3) (b := 5) 79 (by decide) (by decide) dX5_takePart_71 (by decide) (fun h_ => ?_) (fun h_ => absurd h_ (by decide))
        refine z_aload_n 2 dX5_takePart_79 rfl ?_
        refine tz_get (v := .int 0) 8 hL (by decide) q1601 rfl dX5_takePart_80 ?_
        refine z_if_le 87 dX5_takePart_83 (by decide) (fun h_ => ?_) (fun h_ => absurd h_ (by decide))
        refine z_aload_n 2 dX5_takePart_87 rfl ?_
        refine z_bipush (v := 18) dX5_takePart_88 (by decide) ?_
        refine z_callV (As := [.int 18]) (t_hasWord (I := (s_cd I cs)) hL hT (a := a) (f := 0) (by omega) (by omega) 18 (by omega)) q1751 q1753 qs68 q121 q1754 nm_X5_hasWord (tX_obj hL) rfl rfl rfl (Nat.le_of_ble_eq_true rfl) ⟨Nat.le_of_ble_eq_true rfl, Nat.le_of_ble_eq_true rfl⟩ dX5_takePart_90 rfl rfl (Nat.le_of_ble_eq_true rfl) (Nat.le_of_ble_eq_true rfl) (fun v_10 X_11 hp_12 => ?_)
        obtain ⟨a_7, rfl, rfl, ha_9, eh_8⟩ := hp_12
        refine z_st (st' := [.int (zb (s_isW kd (J 6) (J 9) a 0 18))]) rfl ?_
        refine z_if_eqb 112 dX5_takePart_93 (by decide) (fun c_13 => ?_) (fun c_13 => ?_)
        · -- s_isW kd (J 6) (J 9) a 0 18 = false
          have q_14 : a = a_7 := by rw [← eh_8]; unfold s_hW; rw [c_13]; rfl
          subst q_14
          refine z_aload_n 2 dX5_takePart_112 rfl ?_
          refine z_bipush (v := 40) dX5_takePart_113 (by decide) ?_
          refine z_callV (As := [.int 40]) (t_hasSign (I := (s_cd I cs)) hL hT (a := a) (f := 0) (by omega) (by omega) 40) q1810 q1812 qs82 q121 q1813 nm_X5_hasSign (tX_obj hL) rfl rfl rfl (Nat.le_of_ble_eq_true rfl) ⟨Nat.le_of_ble_eq_true rfl, Nat.le_of_ble_eq_true rfl⟩ dX5_takePart_115 rfl rfl (Nat.le_of_ble_eq_true rfl) (Nat.le_of_ble_eq_true rfl) (fun v_18 X_19 hp_20 => ?_)
          obtain ⟨a_15, rfl, rfl, ha_17, eh_16⟩ := hp_20
          refine z_st (st' := [.int (zb (s_isS kd (J 6) a 0 40))]) rfl ?_
          refine z_if_eqb 137 dX5_takePart_118 (by decide) (fun c_21 => ?_) (fun c_21 => ?_)
          · -- s_isS kd (J 6) a 0 40 = false
            have q_22 : a = a_15 := by rw [← eh_16]; unfold s_hS; rw [c_21]; rfl
            subst q_22
            refine z_aload_n 2 dX5_takePart_137 rfl ?_
            refine z_iload_n 1 dX5_takePart_138 rfl ?_
            refine z_if_eq 146 dX5_takePart_139 (by decide) (fun h_ => ?_) (fun h_ => absurd h_ (by decide))
            refine z_iconst (v := 2) dX5_takePart_146 (by decide) ?_
            refine z_iload_n 1 dX5_takePart_147 rfl ?_
            refine z_if_eq 164 dX5_takePart_148 (by decide) (fun h_ => ?_) (fun h_ => absurd h_ (by decide))
            refine z_iload_n 0 dX5_takePart_164 rfl ?_
            refine z_callV (As := [.int 2, .int (s_wh kd (J 6) (J 9) a 0 21 4)]) (t_emit (I := I) hL (cs := cs) (a := a) (f := 0) (by omega) 2 (s_wh kd (J 6) (J 9) a 0 21 4)) q1806 q1808 qs81 q121 q1809 nm_X5_emit (tX_obj hL) rfl rfl rfl (Nat.le_of_ble_eq_true rfl) ⟨Nat.le_of_ble_eq_true rfl, Nat.le_of_ble_eq_true rfl⟩ dX5_takePart_165 rfl rfl (Nat.le_of_ble_eq_true rfl) (Nat.le_of_ble_eq_true rfl) (fun v_23 X_24 hp_25 => ?_)
            obtain ⟨rfl, rfl⟩ := hp_25
            refine z_st (st' := []) rfl ?_
            refine z_aload_n 2 dX5_takePart_168 rfl ?_
            refine z_dup dX5_takePart_169 rfl ?_
            refine tz_get (v := .int (nI (a))) 7 hL (by decide) q1600 rfl dX5_takePart_170 ?_
            refine z_iconst (v := 1) dX5_takePart_173 (by decide) ?_
            refine z_iaddN (a := a) (b := 1) dX5_takePart_174 ?_
            refine tz_put (I' := (s_rd (s_cd I (cs ++ [(2, s_wh kd (J 6) (J 9) a 0 21 4)])) (a + 1) 0)) 7 hL (by decide) q1600 s_rd_7 dX5_takePart_175 ?_
            exact z_vret dX5_takePart_178 rfl (Nat.le_of_ble_eq_true rfl) (Nat.le_of_ble_eq_true rfl) ⟨(a + 1), 0, (cs ++ [(2, s_wh kd (J 6) (J 9) a 0 21 4)]), rfl, rfl, (by rcases s_wh_k (kd := kd) (vl := J 6) (wd := J 9) (a := a) (f := 0) (w := 21) 4 with h9 | h9; exact absurd h9 (by assumption); omega), (by omega), (by omega), (by simp only [List.length_append, List.length_singleton]; omega), by rw [s_part_1 (r := 1)]; simp [s_emit, c_2, c_6, c_6', c_13, c_21]⟩
          · -- s_isS kd (J 6) a 0 40 = true
            have q_26 : a + 1 = a_15 := by rw [← eh_16]; unfold s_hS; rw [c_21]; rfl
            subst q_26
            have q_26k := (s_isS_k c_21).2
            have q_26e := (hT.1 a (by omega)).2.2.2.2
            refine z_aload_n 2 dX5_takePart_121 rfl ?_
            refine z_iload_n 3 dX5_takePart_122 rfl ?_
            refine z_iconst (v := 1) dX5_takePart_123 (by decide) ?_
            refine z_iaddN (a := 3) (b := 1) dX5_takePart_124 ?_
            refine z_eq (y := 4) (by decide) ?_
            refine z_callV (As := [.int 4]) (t_whole_1 (I := I) hL hT (a := a + 1) (f := 0) (by omega) (by omega) (cs := cs) (by first | omega | (simp only [List.length_append, List.length_singleton]; omega))) q1782 q1784 qs75 q121 q1785 nm_X5_whole (tX_obj hL) rfl rfl rfl (Nat.le_of_ble_eq_true rfl) ⟨Nat.le_of_ble_eq_true rfl, Nat.le_of_ble_eq_true rfl⟩ dX5_takePart_125 rfl rfl (Nat.le_of_ble_eq_true rfl) (Nat.le_of_ble_eq_true rfl) (fun v_35 X_36 hp_37 => ?_)
            obtain ⟨a_27, f_28, cs_29, rfl, rfl, h_31, h_32, h_33, h_34, et_30⟩ := hp_37
            refine z_st (st' := []) rfl ?_
            refine z_aload_n 2 dX5_takePart_128 rfl ?_
            refine z_bipush (v := 41) dX5_takePart_129 (by decide) ?_
            refine z_callV (As := [.int 41]) (t_takeSign (I := (s_cd I cs_29)) hL hT (a := a_27) (f := f_28) (by omega) (by omega) 41 ) q1814 q1816 qs83 q121 q1817 nm_X5_takeSign (tX_obj hL) rfl rfl rfl (Nat.le_of_ble_eq_true rfl) ⟨Nat.le_of_ble_eq_true rfl, Nat.le_of_ble_eq_true rfl⟩ dX5_takePart_131 rfl rfl (Nat.le_of_ble_eq_true rfl) (Nat.le_of_ble_eq_true rfl) (fun v_43 X_44 hp_45 => ?_)
            obtain ⟨a_38, f_39, rfl, rfl, ha_41, hf_42, et_40⟩ := hp_45
            have hle9 := (s_tS_k et_40).1
            refine z_st (st' := []) rfl ?_
            refine z_goto 178 dX5_takePart_134 (by decide) ?_
            exact z_vret dX5_takePart_178 rfl (Nat.le_of_ble_eq_true rfl) (Nat.le_of_ble_eq_true rfl) ⟨a_38, f_39, cs_29, rfl, rfl, (by omega), (by omega), (by omega), (by omega), by rw [s_part_1 (r := 1)]; simp [s_emit, c_2, c_6, c_6', c_13, c_21, et_40, et_30]⟩
        · -- s_isW kd (J 6) (J 9) a 0 18 = true
          have q_46 : a + 1 = a_7 := by rw [← eh_8]; unfold s_hW; rw [c_13]; rfl
          subst q_46
          have q_46k := (s_isW_k c_13).2
          have q_46e := (hT.1 a (by omega)).2.2.2.2
          refine z_aload_n 2 dX5_takePart_96 rfl ?_
          refine z_iload_n 3 dX5_takePart_97 rfl ?_
          refine z_iconst (v := 1) dX5_takePart_98 (by decide) ?_
          refine z_iaddN (a := 3) (b := 1) dX5_takePart_99 ?_
          refine z_eq (y := 4) (by decide) ?_
          refine z_callV (As := [.int 4]) (t_takePart_1 (I := I) hL hT (a := a + 1) (f := 0) (by omega) (by omega) (cs := cs) (by first | omega | (simp only [List.length_append, List.length_singleton]; omega))) q1798 q1800 qs79 q121 q1801 nm_X5_takePart (tX_obj hL) rfl rfl rfl (Nat.le_of_ble_eq_true rfl) ⟨Nat.le_of_ble_eq_true rfl, Nat.le_of_ble_eq_true rfl⟩ dX5_takePart_100 rfl rfl (Nat.le_of_ble_eq_true rfl) (Nat.le_of_ble_eq_true rfl) (fun v_55 X_56 hp_57 => ?_)
          obtain ⟨a_47, f_48, cs_49, rfl, rfl, h_51, h_52, h_53, h_54, et_50⟩ := hp_57
          refine z_st (st' := []) rfl ?_
          refine z_aload_n 2 dX5_takePart_103 rfl ?_
          refine z_iconst (v := 3) dX5_takePart_104 (by decide) ?_
          refine z_iconst (v := 0) dX5_takePart_105 (by decide) ?_
          refine z_callV (As := [.int 3, .int 0]) (t_emit (I := I) hL (cs := cs_49) (a := a_47) (f := f_48) (by omega) 3 0) q1806 q1808 qs81 q121 q1809 nm_X5_emit (tX_obj hL) rfl rfl rfl (Nat.le_of_ble_eq_true rfl) ⟨Nat.le_of_ble_eq_true rfl, Nat.le_of_ble_eq_true rfl⟩ dX5_takePart_106 rfl rfl (Nat.le_of_ble_eq_true rfl) (Nat.le_of_ble_eq_true rfl) (fun v_58 X_59 hp_60 => ?_)
          obtain ⟨rfl, rfl⟩ := hp_60
          refine z_st (st' := []) rfl ?_
          refine z_goto 178 dX5_takePart_109 (by decide) ?_
          exact z_vret dX5_takePart_178 rfl (Nat.le_of_ble_eq_true rfl) (Nat.le_of_ble_eq_true rfl) ⟨a_47, f_48, (cs_49 ++ [(3, 0)]), rfl, rfl, (by omega), (by omega), (by omega), (by simp only [List.length_append, List.length_singleton]; omega), by rw [s_part_1 (r := 1)]; simp [s_emit, c_2, c_6, c_6', c_13, et_50]⟩
      · -- ¬ 0 ≤ s_wh kd (J 6) (J 9) a 0 21 4
        have c_6' := Int32.not_le.mp c_6
        refine z_iload_n 1 dX5_takePart_39 rfl ?_
        refine z_if_ne 69 dX5_takePart_40 (by decide) (fun h_ => absurd h_ (by decide)) (fun h_ => ?_)
        refine z_aload_n 2 dX5_takePart_43 rfl ?_
        refine z_bipush (v := 40) dX5_takePart_44 (by decide) ?_
        refine z_callV (As := [.int 40]) (t_isSign (I := (s_cd I cs)) hL hT (a := a) (f := 0) (by omega) (by omega) 40) q1802 q1804 qs80 q121 q1805 nm_X5_isSign (tX_obj hL) rfl rfl rfl (Nat.le_of_ble_eq_true rfl) ⟨Nat.le_of_ble_eq_true rfl, Nat.le_of_ble_eq_true rfl⟩ dX5_takePart_46 rfl rfl (Nat.le_of_ble_eq_true rfl) (Nat.le_of_ble_eq_true rfl) (fun v_61 X_62 hp_63 => ?_)
        obtain ⟨rfl, rfl⟩ := hp_63
        refine z_st (st' := [.int (zb (s_isS kd (J 6) a 0 40))]) rfl ?_
        refine z_if_neb 69 dX5_takePart_49 (by decide) (fun c_64 => ?_) (fun c_64 => ?_)
        · -- s_isS kd (J 6) a 0 40 = true
          refine z_iload_n 3 dX5_takePart_69 rfl ?_
          refine z_iconst (v := 5) dX5_takePart_70 (by decide) ?_
          refine z_icmp_neN (a := 3) (b := 5) 79 (by decide) (by decide) dX5_takePart_71 (by decide) (fun h_ => ?_) (fun h_ => absurd h_ (by decide))
          refine z_aload_n 2 dX5_takePart_79 rfl ?_
          refine tz_get (v := .int 0) 8 hL (by decide) q1601 rfl dX5_takePart_80 ?_
          refine z_if_le 87 dX5_takePart_83 (by decide) (fun h_ => ?_) (fun h_ => absurd h_ (by decide))
          refine z_aload_n 2 dX5_takePart_87 rfl ?_
          refine z_bipush (v := 18) dX5_takePart_88 (by decide) ?_
          refine z_callV (As := [.int 18]) (t_hasWord (I := (s_cd I cs)) hL hT (a := a) (f := 0) (by omega) (by omega) 18 (by omega)) q1751 q1753 qs68 q121 q1754 nm_X5_hasWord (tX_obj hL) rfl rfl rfl (Nat.le_of_ble_eq_true rfl) ⟨Nat.le_of_ble_eq_true rfl, Nat.le_of_ble_eq_true rfl⟩ dX5_takePart_90 rfl rfl (Nat.le_of_ble_eq_true rfl) (Nat.le_of_ble_eq_true rfl) (fun v_68 X_69 hp_70 => ?_)
          obtain ⟨a_65, rfl, rfl, ha_67, eh_66⟩ := hp_70
          refine z_st (st' := [.int (zb (s_isW kd (J 6) (J 9) a 0 18))]) rfl ?_
          refine z_if_eqb 112 dX5_takePart_93 (by decide) (fun c_71 => ?_) (fun c_71 => ?_)
          · -- s_isW kd (J 6) (J 9) a 0 18 = false
            have q_72 : a = a_65 := by rw [← eh_66]; unfold s_hW; rw [c_71]; rfl
            subst q_72
            refine z_aload_n 2 dX5_takePart_112 rfl ?_
            refine z_bipush (v := 40) dX5_takePart_113 (by decide) ?_
            refine z_callV (As := [.int 40]) (t_hasSign (I := (s_cd I cs)) hL hT (a := a) (f := 0) (by omega) (by omega) 40) q1810 q1812 qs82 q121 q1813 nm_X5_hasSign (tX_obj hL) rfl rfl rfl (Nat.le_of_ble_eq_true rfl) ⟨Nat.le_of_ble_eq_true rfl, Nat.le_of_ble_eq_true rfl⟩ dX5_takePart_115 rfl rfl (Nat.le_of_ble_eq_true rfl) (Nat.le_of_ble_eq_true rfl) (fun v_76 X_77 hp_78 => ?_)
            obtain ⟨a_73, rfl, rfl, ha_75, eh_74⟩ := hp_78
            refine z_st (st' := [.int (zb (s_isS kd (J 6) a 0 40))]) rfl ?_
            refine z_if_eqb 137 dX5_takePart_118 (by decide) (fun c_ => absurd (c_64.symm.trans c_) (by decide)) (fun _ => ?_)
            have q_79 : a + 1 = a_73 := by rw [← eh_74]; unfold s_hS; rw [c_64]; rfl
            subst q_79
            have q_79k := (s_isS_k c_64).2
            have q_79e := (hT.1 a (by omega)).2.2.2.2
            refine z_aload_n 2 dX5_takePart_121 rfl ?_
            refine z_iload_n 3 dX5_takePart_122 rfl ?_
            refine z_iconst (v := 1) dX5_takePart_123 (by decide) ?_
            refine z_iaddN (a := 3) (b := 1) dX5_takePart_124 ?_
            refine z_eq (y := 4) (by decide) ?_
            refine z_callV (As := [.int 4]) (t_whole_1 (I := I) hL hT (a := a + 1) (f := 0) (by omega) (by omega) (cs := cs) (by first | omega | (simp only [List.length_append, List.length_singleton]; omega))) q1782 q1784 qs75 q121 q1785 nm_X5_whole (tX_obj hL) rfl rfl rfl (Nat.le_of_ble_eq_true rfl) ⟨Nat.le_of_ble_eq_true rfl, Nat.le_of_ble_eq_true rfl⟩ dX5_takePart_125 rfl rfl (Nat.le_of_ble_eq_true rfl) (Nat.le_of_ble_eq_true rfl) (fun v_88 X_89 hp_90 => ?_)
            obtain ⟨a_80, f_81, cs_82, rfl, rfl, h_84, h_85, h_86, h_87, et_83⟩ := hp_90
            refine z_st (st' := []) rfl ?_
            refine z_aload_n 2 dX5_takePart_128 rfl ?_
            refine z_bipush (v := 41) dX5_takePart_129 (by decide) ?_
            refine z_callV (As := [.int 41]) (t_takeSign (I := (s_cd I cs_82)) hL hT (a := a_80) (f := f_81) (by omega) (by omega) 41 ) q1814 q1816 qs83 q121 q1817 nm_X5_takeSign (tX_obj hL) rfl rfl rfl (Nat.le_of_ble_eq_true rfl) ⟨Nat.le_of_ble_eq_true rfl, Nat.le_of_ble_eq_true rfl⟩ dX5_takePart_131 rfl rfl (Nat.le_of_ble_eq_true rfl) (Nat.le_of_ble_eq_true rfl) (fun v_96 X_97 hp_98 => ?_)
            obtain ⟨a_91, f_92, rfl, rfl, ha_94, hf_95, et_93⟩ := hp_98
            have hle9 := (s_tS_k et_93).1
            refine z_st (st' := []) rfl ?_
            refine z_goto 178 dX5_takePart_134 (by decide) ?_
            exact z_vret dX5_takePart_178 rfl (Nat.le_of_ble_eq_true rfl) (Nat.le_of_ble_eq_true rfl) ⟨a_91, f_92, cs_82, rfl, rfl, (by omega), (by omega), (by omega), (by omega), by rw [s_part_1 (r := 1)]; simp [s_emit, c_2, c_6, c_6', c_64, c_71, et_93, et_83]⟩
          · -- s_isW kd (J 6) (J 9) a 0 18 = true
            have q_99 : a + 1 = a_65 := by rw [← eh_66]; unfold s_hW; rw [c_71]; rfl
            subst q_99
            have q_99k := (s_isW_k c_71).2
            have q_99e := (hT.1 a (by omega)).2.2.2.2
            refine z_aload_n 2 dX5_takePart_96 rfl ?_
            refine z_iload_n 3 dX5_takePart_97 rfl ?_
            refine z_iconst (v := 1) dX5_takePart_98 (by decide) ?_
            refine z_iaddN (a := 3) (b := 1) dX5_takePart_99 ?_
            refine z_eq (y := 4) (by decide) ?_
            refine z_callV (As := [.int 4]) (t_takePart_1 (I := I) hL hT (a := a + 1) (f := 0) (by omega) (by omega) (cs := cs) (by first | omega | (simp only [List.length_append, List.length_singleton]; omega))) q1798 q1800 qs79 q121 q1801 nm_X5_takePart (tX_obj hL) rfl rfl rfl (Nat.le_of_ble_eq_true rfl) ⟨Nat.le_of_ble_eq_true rfl, Nat.le_of_ble_eq_true rfl⟩ dX5_takePart_100 rfl rfl (Nat.le_of_ble_eq_true rfl) (Nat.le_of_ble_eq_true rfl) (fun v_108 X_109 hp_110 => ?_)
            obtain ⟨a_100, f_101, cs_102, rfl, rfl, h_104, h_105, h_106, h_107, et_103⟩ := hp_110
            refine z_st (st' := []) rfl ?_
            refine z_aload_n 2 dX5_takePart_103 rfl ?_
            refine z_iconst (v := 3) dX5_takePart_104 (by decide) ?_
            refine z_iconst (v := 0) dX5_takePart_105 (by decide) ?_
            refine z_callV (As := [.int 3, .int 0]) (t_emit (I := I) hL (cs := cs_102) (a := a_100) (f := f_101) (by omega) 3 0) q1806 q1808 qs81 q121 q1809 nm_X5_emit (tX_obj hL) rfl rfl rfl (Nat.le_of_ble_eq_true rfl) ⟨Nat.le_of_ble_eq_true rfl, Nat.le_of_ble_eq_true rfl⟩ dX5_takePart_106 rfl rfl (Nat.le_of_ble_eq_true rfl) (Nat.le_of_ble_eq_true rfl) (fun v_111 X_112 hp_113 => ?_)
            obtain ⟨rfl, rfl⟩ := hp_113
            refine z_st (st' := []) rfl ?_
            refine z_goto 178 dX5_takePart_109 (by decide) ?_
            exact z_vret dX5_takePart_178 rfl (Nat.le_of_ble_eq_true rfl) (Nat.le_of_ble_eq_true rfl) ⟨a_100, f_101, (cs_102 ++ [(3, 0)]), rfl, rfl, (by omega), (by omega), (by omega), (by simp only [List.length_append, List.length_singleton]; omega), by rw [s_part_1 (r := 1)]; simp [s_emit, c_2, c_6, c_6', c_64, c_71, et_103]⟩
        · -- s_isS kd (J 6) a 0 40 = false
          refine z_aload_n 2 dX5_takePart_52 rfl ?_
          refine z_bipush (v := 18) dX5_takePart_53 (by decide) ?_
          refine z_callV (As := [.int 18]) (t_isWord (I := (s_cd I cs)) hL hT (a := a) (f := 0) (by omega) (by omega) 18 (by omega)) q1719 q1721 qs60 q121 q1722 nm_X5_isWord (tX_obj hL) rfl rfl rfl (Nat.le_of_ble_eq_true rfl) ⟨Nat.le_of_ble_eq_true rfl, Nat.le_of_ble_eq_true rfl⟩ dX5_takePart_55 rfl rfl (Nat.le_of_ble_eq_true rfl) (Nat.le_of_ble_eq_true rfl) (fun v_114 X_115 hp_116 => ?_)
          obtain ⟨rfl, rfl⟩ := hp_116
          refine z_st (st' := [.int (zb (s_isW kd (J 6) (J 9) a 0 18))]) rfl ?_
          refine z_if_neb 69 dX5_takePart_58 (by decide) (fun c_117 => ?_) (fun c_117 => ?_)
          · -- s_isW kd (J 6) (J 9) a 0 18 = true
            refine z_iload_n 3 dX5_takePart_69 rfl ?_
            refine z_iconst (v := 5) dX5_takePart_70 (by decide) ?_
            refine z_icmp_neN (a := 3) (b := 5) 79 (by decide) (by decide) dX5_takePart_71 (by decide) (fun h_ => ?_) (fun h_ => absurd h_ (by decide))
            refine z_aload_n 2 dX5_takePart_79 rfl ?_
            refine tz_get (v := .int 0) 8 hL (by decide) q1601 rfl dX5_takePart_80 ?_
            refine z_if_le 87 dX5_takePart_83 (by decide) (fun h_ => ?_) (fun h_ => absurd h_ (by decide))
            refine z_aload_n 2 dX5_takePart_87 rfl ?_
            refine z_bipush (v := 18) dX5_takePart_88 (by decide) ?_
            refine z_callV (As := [.int 18]) (t_hasWord (I := (s_cd I cs)) hL hT (a := a) (f := 0) (by omega) (by omega) 18 (by omega)) q1751 q1753 qs68 q121 q1754 nm_X5_hasWord (tX_obj hL) rfl rfl rfl (Nat.le_of_ble_eq_true rfl) ⟨Nat.le_of_ble_eq_true rfl, Nat.le_of_ble_eq_true rfl⟩ dX5_takePart_90 rfl rfl (Nat.le_of_ble_eq_true rfl) (Nat.le_of_ble_eq_true rfl) (fun v_121 X_122 hp_123 => ?_)
            obtain ⟨a_118, rfl, rfl, ha_120, eh_119⟩ := hp_123
            refine z_st (st' := [.int (zb (s_isW kd (J 6) (J 9) a 0 18))]) rfl ?_
            refine z_if_eqb 112 dX5_takePart_93 (by decide) (fun c_ => absurd (c_117.symm.trans c_) (by decide)) (fun _ => ?_)
            have q_124 : a + 1 = a_118 := by rw [← eh_119]; unfold s_hW; rw [c_117]; rfl
            subst q_124
            have q_124k := (s_isW_k c_117).2
            have q_124e := (hT.1 a (by omega)).2.2.2.2
            refine z_aload_n 2 dX5_takePart_96 rfl ?_
            refine z_iload_n 3 dX5_takePart_97 rfl ?_
            refine z_iconst (v := 1) dX5_takePart_98 (by decide) ?_
            refine z_iaddN (a := 3) (b := 1) dX5_takePart_99 ?_
            refine z_eq (y := 4) (by decide) ?_
            refine z_callV (As := [.int 4]) (t_takePart_1 (I := I) hL hT (a := a + 1) (f := 0) (by omega) (by omega) (cs := cs) (by first | omega | (simp only [List.length_append, List.length_singleton]; omega))) q1798 q1800 qs79 q121 q1801 nm_X5_takePart (tX_obj hL) rfl rfl rfl (Nat.le_of_ble_eq_true rfl) ⟨Nat.le_of_ble_eq_true rfl, Nat.le_of_ble_eq_true rfl⟩ dX5_takePart_100 rfl rfl (Nat.le_of_ble_eq_true rfl) (Nat.le_of_ble_eq_true rfl) (fun v_133 X_134 hp_135 => ?_)
            obtain ⟨a_125, f_126, cs_127, rfl, rfl, h_129, h_130, h_131, h_132, et_128⟩ := hp_135
            refine z_st (st' := []) rfl ?_
            refine z_aload_n 2 dX5_takePart_103 rfl ?_
            refine z_iconst (v := 3) dX5_takePart_104 (by decide) ?_
            refine z_iconst (v := 0) dX5_takePart_105 (by decide) ?_
            refine z_callV (As := [.int 3, .int 0]) (t_emit (I := I) hL (cs := cs_127) (a := a_125) (f := f_126) (by omega) 3 0) q1806 q1808 qs81 q121 q1809 nm_X5_emit (tX_obj hL) rfl rfl rfl (Nat.le_of_ble_eq_true rfl) ⟨Nat.le_of_ble_eq_true rfl, Nat.le_of_ble_eq_true rfl⟩ dX5_takePart_106 rfl rfl (Nat.le_of_ble_eq_true rfl) (Nat.le_of_ble_eq_true rfl) (fun v_136 X_137 hp_138 => ?_)
            obtain ⟨rfl, rfl⟩ := hp_138
            refine z_st (st' := []) rfl ?_
            refine z_goto 178 dX5_takePart_109 (by decide) ?_
            exact z_vret dX5_takePart_178 rfl (Nat.le_of_ble_eq_true rfl) (Nat.le_of_ble_eq_true rfl) ⟨a_125, f_126, (cs_127 ++ [(3, 0)]), rfl, rfl, (by omega), (by omega), (by omega), (by simp only [List.length_append, List.length_singleton]; omega), by rw [s_part_1 (r := 1)]; simp [s_emit, c_2, c_6, c_6', c_64, c_117, et_128]⟩
          · -- s_isW kd (J 6) (J 9) a 0 18 = false
            refine z_aload_n 2 dX5_takePart_61 rfl ?_
            refine z_iconst (v := 1) dX5_takePart_62 (by decide) ?_
            refine z_callV (As := [.int 1]) (t_wrong (I := (s_cd I cs)) hL hT (a := a) (f := 0) (by omega) (by omega) 1 (by omega)) q1727 q1729 qs62 q121 q1730 nm_X5_wrong (tX_obj hL) rfl rfl rfl (Nat.le_of_ble_eq_true rfl) ⟨Nat.le_of_ble_eq_true rfl, Nat.le_of_ble_eq_true rfl⟩ dX5_takePart_63 rfl rfl (Nat.le_of_ble_eq_true rfl) (Nat.le_of_ble_eq_true rfl) (fun v_142 X_143 hp_144 => ?_)
            obtain ⟨rfl, rfl⟩ := hp_144
            obtain ⟨f_139, ⟨hf_140, hf_140p⟩, ef_141⟩ := s_wr_n (pl := pl) (a := a) (f := 0) (w := 1) (hT.1 a (by omega)).2.2.2.1 (by omega) (by decide)
            have hf_140p := hf_140p (by decide)
            refine z_X (X' := (tX g L (s_rd (s_cd I cs) a f_139) J Gb X)) (by rw [ef_141]) ?_
            refine z_st (st' := []) rfl ?_
            refine z_goto 79 dX5_takePart_66 (by decide) ?_
            refine z_aload_n 2 dX5_takePart_79 rfl ?_
            refine tz_get (v := .int (nI (f_139))) 8 hL (by decide) q1601 rfl dX5_takePart_80 ?_
            refine z_if_leN 87 (by omega) dX5_takePart_83 (by decide) (fun h_ => absurd h_ (by omega)) (fun h_ => ?_)
            exact z_vret dX5_takePart_86 rfl (Nat.le_of_ble_eq_true rfl) (Nat.le_of_ble_eq_true rfl) ⟨a, f_139, cs, rfl, rfl, (by omega), (by omega), (by omega), (by omega), by rw [s_part_1 (r := 1)]; simp [s_emit, c_2, c_6, c_6', c_64, c_117, ← ef_141]⟩
    · -- (kd a) = 2
      refine z_iconst (v := 1) dX5_takePart_21 (by decide) ?_
      refine z_goto 26 dX5_takePart_22 (by decide) ?_
      refine z_istore_n (lv' := [(2, .int 1), (0, .ref (L 99)), (1, .int 3)]) dX5_takePart_26 rfl (by decide) rfl ?_
      refine z_aload_n 1 dX5_takePart_27 rfl ?_
      refine z_bipush (v := 21) dX5_takePart_28 (by decide) ?_
      refine z_iconst (v := 4) dX5_takePart_30 (by decide) ?_
      refine z_callV (As := [.int 21, .int 4]) (t_wordHere (I := (s_cd I cs)) hL hT (a := a) (f := 0) (by omega) (by omega) 21 4 (by omega)) q1735 q1737 qs64 q121 q1738 nm_X5_wordHere (tX_obj hL) rfl rfl rfl (Nat.le_of_ble_eq_true rfl) ⟨Nat.le_of_ble_eq_true rfl, Nat.le_of_ble_eq_true rfl⟩ dX5_takePart_31 rfl rfl (Nat.le_of_ble_eq_true rfl) (Nat.le_of_ble_eq_true rfl) (fun v_145 X_146 hp_147 => ?_)
      obtain ⟨rfl, rfl⟩ := hp_147
      refine z_st (st' := [.int (s_wh kd (J 6) (J 9) a 0 21 4)]) rfl ?_
      refine z_istore_n (lv' := [(3, .int (s_wh kd (J 6) (J 9) a 0 21 4)), (2, .int 1), (0, .ref (L 99)), (1, .int 3)]) dX5_takePart_34 rfl (by decide) rfl ?_
      refine z_iload_n 0 dX5_takePart_35 rfl ?_
      refine z_if_ge 69 dX5_takePart_36 (by decide) (fun c_148 => ?_) (fun c_148 => ?_)
      · -- 0 ≤ s_wh kd (J 6) (J 9) a 0 21 4
        have c_148' := Int32.not_lt.mpr c_148
        refine z_iload_n 3 dX5_takePart_69 rfl ?_
        refine z_iconst (v := 5) dX5_takePart_70 (by decide) ?_
        refine z_icmp_neN (a := 3) (b := 5) 79 (by decide) (by decide) dX5_takePart_71 (by decide) (fun h_ => ?_) (fun h_ => absurd h_ (by decide))
        refine z_aload_n 2 dX5_takePart_79 rfl ?_
        refine tz_get (v := .int 0) 8 hL (by decide) q1601 rfl dX5_takePart_80 ?_
        refine z_if_le 87 dX5_takePart_83 (by decide) (fun h_ => ?_) (fun h_ => absurd h_ (by decide))
        refine z_aload_n 2 dX5_takePart_87 rfl ?_
        refine z_bipush (v := 18) dX5_takePart_88 (by decide) ?_
        refine z_callV (As := [.int 18]) (t_hasWord (I := (s_cd I cs)) hL hT (a := a) (f := 0) (by omega) (by omega) 18 (by omega)) q1751 q1753 qs68 q121 q1754 nm_X5_hasWord (tX_obj hL) rfl rfl rfl (Nat.le_of_ble_eq_true rfl) ⟨Nat.le_of_ble_eq_true rfl, Nat.le_of_ble_eq_true rfl⟩ dX5_takePart_90 rfl rfl (Nat.le_of_ble_eq_true rfl) (Nat.le_of_ble_eq_true rfl) (fun v_152 X_153 hp_154 => ?_)
        obtain ⟨a_149, rfl, rfl, ha_151, eh_150⟩ := hp_154
        refine z_st (st' := [.int (zb (s_isW kd (J 6) (J 9) a 0 18))]) rfl ?_
        refine z_if_eqb 112 dX5_takePart_93 (by decide) (fun c_155 => ?_) (fun c_155 => ?_)
        · -- s_isW kd (J 6) (J 9) a 0 18 = false
          have q_156 : a = a_149 := by rw [← eh_150]; unfold s_hW; rw [c_155]; rfl
          subst q_156
          refine z_aload_n 2 dX5_takePart_112 rfl ?_
          refine z_bipush (v := 40) dX5_takePart_113 (by decide) ?_
          refine z_callV (As := [.int 40]) (t_hasSign (I := (s_cd I cs)) hL hT (a := a) (f := 0) (by omega) (by omega) 40) q1810 q1812 qs82 q121 q1813 nm_X5_hasSign (tX_obj hL) rfl rfl rfl (Nat.le_of_ble_eq_true rfl) ⟨Nat.le_of_ble_eq_true rfl, Nat.le_of_ble_eq_true rfl⟩ dX5_takePart_115 rfl rfl (Nat.le_of_ble_eq_true rfl) (Nat.le_of_ble_eq_true rfl) (fun v_160 X_161 hp_162 => ?_)
          obtain ⟨a_157, rfl, rfl, ha_159, eh_158⟩ := hp_162
          refine z_st (st' := [.int (zb (s_isS kd (J 6) a 0 40))]) rfl ?_
          refine z_if_eqb 137 dX5_takePart_118 (by decide) (fun c_163 => ?_) (fun c_163 => ?_)
          · -- s_isS kd (J 6) a 0 40 = false
            have q_164 : a = a_157 := by rw [← eh_158]; unfold s_hS; rw [c_163]; rfl
            subst q_164
            refine z_aload_n 2 dX5_takePart_137 rfl ?_
            refine z_iload_n 1 dX5_takePart_138 rfl ?_
            refine z_if_eq 146 dX5_takePart_139 (by decide) (fun h_ => absurd h_ (by decide)) (fun h_ => ?_)
            refine z_iconst (v := 1) dX5_takePart_142 (by decide) ?_
            refine z_goto 147 dX5_takePart_143 (by decide) ?_
            refine z_iload_n 1 dX5_takePart_147 rfl ?_
            refine z_if_eq 164 dX5_takePart_148 (by decide) (fun h_ => absurd h_ (by decide)) (fun h_ => ?_)
            refine z_aload_n 2 dX5_takePart_151 rfl ?_
            refine tz_get (v := .ref (L 6)) 6 hL (by decide) q1599 rfl dX5_takePart_152 ?_
            refine z_aload_n 2 dX5_takePart_155 rfl ?_
            refine tz_get (v := .int (nI (a))) 7 hL (by decide) q1600 rfl dX5_takePart_156 ?_
            refine tz_lald (v := J 6 a) 6 (a) hL (by decide) rfl (by show a < 1002; omega) rfl dX5_takePart_159 ?_
            refine z_l2i (v := (J 6 a).toInt32) dX5_takePart_160 rfl ?_
            refine z_goto 165 dX5_takePart_161 (by decide) ?_
            refine z_callV (As := [.int 1, .int ((J 6 a).toInt32)]) (t_emit (I := I) hL (cs := cs) (a := a) (f := 0) (by omega) 1 ((J 6 a).toInt32)) q1806 q1808 qs81 q121 q1809 nm_X5_emit (tX_obj hL) rfl rfl rfl (Nat.le_of_ble_eq_true rfl) ⟨Nat.le_of_ble_eq_true rfl, Nat.le_of_ble_eq_true rfl⟩ dX5_takePart_165 rfl rfl (Nat.le_of_ble_eq_true rfl) (Nat.le_of_ble_eq_true rfl) (fun v_165 X_166 hp_167 => ?_)
            obtain ⟨rfl, rfl⟩ := hp_167
            refine z_st (st' := []) rfl ?_
            refine z_aload_n 2 dX5_takePart_168 rfl ?_
            refine z_dup dX5_takePart_169 rfl ?_
            refine tz_get (v := .int (nI (a))) 7 hL (by decide) q1600 rfl dX5_takePart_170 ?_
            refine z_iconst (v := 1) dX5_takePart_173 (by decide) ?_
            refine z_iaddN (a := a) (b := 1) dX5_takePart_174 ?_
            refine tz_put (I' := (s_rd (s_cd I (cs ++ [(1, (J 6 a).toInt32)])) (a + 1) 0)) 7 hL (by decide) q1600 s_rd_7 dX5_takePart_175 ?_
            exact z_vret dX5_takePart_178 rfl (Nat.le_of_ble_eq_true rfl) (Nat.le_of_ble_eq_true rfl) ⟨(a + 1), 0, (cs ++ [(1, (J 6 a).toInt32)]), rfl, rfl, (by omega), (by omega), (by omega), (by simp only [List.length_append, List.length_singleton]; omega), by rw [s_part_1 (r := 1)]; simp [s_emit, c_2, c_148, c_148', c_155, c_163]⟩
          · -- s_isS kd (J 6) a 0 40 = true
            have q_168 : a + 1 = a_157 := by rw [← eh_158]; unfold s_hS; rw [c_163]; rfl
            subst q_168
            have q_168k := (s_isS_k c_163).2
            have q_168e := (hT.1 a (by omega)).2.2.2.2
            refine z_aload_n 2 dX5_takePart_121 rfl ?_
            refine z_iload_n 3 dX5_takePart_122 rfl ?_
            refine z_iconst (v := 1) dX5_takePart_123 (by decide) ?_
            refine z_iaddN (a := 3) (b := 1) dX5_takePart_124 ?_
            refine z_eq (y := 4) (by decide) ?_
            refine z_callV (As := [.int 4]) (t_whole_1 (I := I) hL hT (a := a + 1) (f := 0) (by omega) (by omega) (cs := cs) (by first | omega | (simp only [List.length_append, List.length_singleton]; omega))) q1782 q1784 qs75 q121 q1785 nm_X5_whole (tX_obj hL) rfl rfl rfl (Nat.le_of_ble_eq_true rfl) ⟨Nat.le_of_ble_eq_true rfl, Nat.le_of_ble_eq_true rfl⟩ dX5_takePart_125 rfl rfl (Nat.le_of_ble_eq_true rfl) (Nat.le_of_ble_eq_true rfl) (fun v_177 X_178 hp_179 => ?_)
            obtain ⟨a_169, f_170, cs_171, rfl, rfl, h_173, h_174, h_175, h_176, et_172⟩ := hp_179
            refine z_st (st' := []) rfl ?_
            refine z_aload_n 2 dX5_takePart_128 rfl ?_
            refine z_bipush (v := 41) dX5_takePart_129 (by decide) ?_
            refine z_callV (As := [.int 41]) (t_takeSign (I := (s_cd I cs_171)) hL hT (a := a_169) (f := f_170) (by omega) (by omega) 41 ) q1814 q1816 qs83 q121 q1817 nm_X5_takeSign (tX_obj hL) rfl rfl rfl (Nat.le_of_ble_eq_true rfl) ⟨Nat.le_of_ble_eq_true rfl, Nat.le_of_ble_eq_true rfl⟩ dX5_takePart_131 rfl rfl (Nat.le_of_ble_eq_true rfl) (Nat.le_of_ble_eq_true rfl) (fun v_185 X_186 hp_187 => ?_)
            obtain ⟨a_180, f_181, rfl, rfl, ha_183, hf_184, et_182⟩ := hp_187
            have hle9 := (s_tS_k et_182).1
            refine z_st (st' := []) rfl ?_
            refine z_goto 178 dX5_takePart_134 (by decide) ?_
            exact z_vret dX5_takePart_178 rfl (Nat.le_of_ble_eq_true rfl) (Nat.le_of_ble_eq_true rfl) ⟨a_180, f_181, cs_171, rfl, rfl, (by omega), (by omega), (by omega), (by omega), by rw [s_part_1 (r := 1)]; simp [s_emit, c_2, c_148, c_148', c_155, c_163, et_182, et_172]⟩
        · -- s_isW kd (J 6) (J 9) a 0 18 = true
          have q_188 : a + 1 = a_149 := by rw [← eh_150]; unfold s_hW; rw [c_155]; rfl
          subst q_188
          have q_188k := (s_isW_k c_155).2
          have q_188e := (hT.1 a (by omega)).2.2.2.2
          refine z_aload_n 2 dX5_takePart_96 rfl ?_
          refine z_iload_n 3 dX5_takePart_97 rfl ?_
          refine z_iconst (v := 1) dX5_takePart_98 (by decide) ?_
          refine z_iaddN (a := 3) (b := 1) dX5_takePart_99 ?_
          refine z_eq (y := 4) (by decide) ?_
          refine z_callV (As := [.int 4]) (t_takePart_1 (I := I) hL hT (a := a + 1) (f := 0) (by omega) (by omega) (cs := cs) (by first | omega | (simp only [List.length_append, List.length_singleton]; omega))) q1798 q1800 qs79 q121 q1801 nm_X5_takePart (tX_obj hL) rfl rfl rfl (Nat.le_of_ble_eq_true rfl) ⟨Nat.le_of_ble_eq_true rfl, Nat.le_of_ble_eq_true rfl⟩ dX5_takePart_100 rfl rfl (Nat.le_of_ble_eq_true rfl) (Nat.le_of_ble_eq_true rfl) (fun v_197 X_198 hp_199 => ?_)
          obtain ⟨a_189, f_190, cs_191, rfl, rfl, h_193, h_194, h_195, h_196, et_192⟩ := hp_199
          refine z_st (st' := []) rfl ?_
          refine z_aload_n 2 dX5_takePart_103 rfl ?_
          refine z_iconst (v := 3) dX5_takePart_104 (by decide) ?_
          refine z_iconst (v := 0) dX5_takePart_105 (by decide) ?_
          refine z_callV (As := [.int 3, .int 0]) (t_emit (I := I) hL (cs := cs_191) (a := a_189) (f := f_190) (by omega) 3 0) q1806 q1808 qs81 q121 q1809 nm_X5_emit (tX_obj hL) rfl rfl rfl (Nat.le_of_ble_eq_true rfl) ⟨Nat.le_of_ble_eq_true rfl, Nat.le_of_ble_eq_true rfl⟩ dX5_takePart_106 rfl rfl (Nat.le_of_ble_eq_true rfl) (Nat.le_of_ble_eq_true rfl) (fun v_200 X_201 hp_202 => ?_)
          obtain ⟨rfl, rfl⟩ := hp_202
          refine z_st (st' := []) rfl ?_
          refine z_goto 178 dX5_takePart_109 (by decide) ?_
          exact z_vret dX5_takePart_178 rfl (Nat.le_of_ble_eq_true rfl) (Nat.le_of_ble_eq_true rfl) ⟨a_189, f_190, (cs_191 ++ [(3, 0)]), rfl, rfl, (by omega), (by omega), (by omega), (by simp only [List.length_append, List.length_singleton]; omega), by rw [s_part_1 (r := 1)]; simp [s_emit, c_2, c_148, c_148', c_155, et_192]⟩
      · -- ¬ 0 ≤ s_wh kd (J 6) (J 9) a 0 21 4
        have c_148' := Int32.not_le.mp c_148
        refine z_iload_n 1 dX5_takePart_39 rfl ?_
        refine z_if_ne 69 dX5_takePart_40 (by decide) (fun h_ => ?_) (fun h_ => absurd h_ (by decide))
        refine z_iload_n 3 dX5_takePart_69 rfl ?_
        refine z_iconst (v := 5) dX5_takePart_70 (by decide) ?_
        refine z_icmp_neN (a := 3) (b := 5) 79 (by decide) (by decide) dX5_takePart_71 (by decide) (fun h_ => ?_) (fun h_ => absurd h_ (by decide))
        refine z_aload_n 2 dX5_takePart_79 rfl ?_
        refine tz_get (v := .int 0) 8 hL (by decide) q1601 rfl dX5_takePart_80 ?_
        refine z_if_le 87 dX5_takePart_83 (by decide) (fun h_ => ?_) (fun h_ => absurd h_ (by decide))
        refine z_aload_n 2 dX5_takePart_87 rfl ?_
        refine z_bipush (v := 18) dX5_takePart_88 (by decide) ?_
        refine z_callV (As := [.int 18]) (t_hasWord (I := (s_cd I cs)) hL hT (a := a) (f := 0) (by omega) (by omega) 18 (by omega)) q1751 q1753 qs68 q121 q1754 nm_X5_hasWord (tX_obj hL) rfl rfl rfl (Nat.le_of_ble_eq_true rfl) ⟨Nat.le_of_ble_eq_true rfl, Nat.le_of_ble_eq_true rfl⟩ dX5_takePart_90 rfl rfl (Nat.le_of_ble_eq_true rfl) (Nat.le_of_ble_eq_true rfl) (fun v_206 X_207 hp_208 => ?_)
        obtain ⟨a_203, rfl, rfl, ha_205, eh_204⟩ := hp_208
        refine z_st (st' := [.int (zb (s_isW kd (J 6) (J 9) a 0 18))]) rfl ?_
        refine z_if_eqb 112 dX5_takePart_93 (by decide) (fun c_209 => ?_) (fun c_209 => ?_)
        · -- s_isW kd (J 6) (J 9) a 0 18 = false
          have q_210 : a = a_203 := by rw [← eh_204]; unfold s_hW; rw [c_209]; rfl
          subst q_210
          refine z_aload_n 2 dX5_takePart_112 rfl ?_
          refine z_bipush (v := 40) dX5_takePart_113 (by decide) ?_
          refine z_callV (As := [.int 40]) (t_hasSign (I := (s_cd I cs)) hL hT (a := a) (f := 0) (by omega) (by omega) 40) q1810 q1812 qs82 q121 q1813 nm_X5_hasSign (tX_obj hL) rfl rfl rfl (Nat.le_of_ble_eq_true rfl) ⟨Nat.le_of_ble_eq_true rfl, Nat.le_of_ble_eq_true rfl⟩ dX5_takePart_115 rfl rfl (Nat.le_of_ble_eq_true rfl) (Nat.le_of_ble_eq_true rfl) (fun v_214 X_215 hp_216 => ?_)
          obtain ⟨a_211, rfl, rfl, ha_213, eh_212⟩ := hp_216
          refine z_st (st' := [.int (zb (s_isS kd (J 6) a 0 40))]) rfl ?_
          refine z_if_eqb 137 dX5_takePart_118 (by decide) (fun c_217 => ?_) (fun c_217 => ?_)
          · -- s_isS kd (J 6) a 0 40 = false
            have q_218 : a = a_211 := by rw [← eh_212]; unfold s_hS; rw [c_217]; rfl
            subst q_218
            refine z_aload_n 2 dX5_takePart_137 rfl ?_
            refine z_iload_n 1 dX5_takePart_138 rfl ?_
            refine z_if_eq 146 dX5_takePart_139 (by decide) (fun h_ => absurd h_ (by decide)) (fun h_ => ?_)
            refine z_iconst (v := 1) dX5_takePart_142 (by decide) ?_
            refine z_goto 147 dX5_takePart_143 (by decide) ?_
            refine z_iload_n 1 dX5_takePart_147 rfl ?_
            refine z_if_eq 164 dX5_takePart_148 (by decide) (fun h_ => absurd h_ (by decide)) (fun h_ => ?_)
            refine z_aload_n 2 dX5_takePart_151 rfl ?_
            refine tz_get (v := .ref (L 6)) 6 hL (by decide) q1599 rfl dX5_takePart_152 ?_
            refine z_aload_n 2 dX5_takePart_155 rfl ?_
            refine tz_get (v := .int (nI (a))) 7 hL (by decide) q1600 rfl dX5_takePart_156 ?_
            refine tz_lald (v := J 6 a) 6 (a) hL (by decide) rfl (by show a < 1002; omega) rfl dX5_takePart_159 ?_
            refine z_l2i (v := (J 6 a).toInt32) dX5_takePart_160 rfl ?_
            refine z_goto 165 dX5_takePart_161 (by decide) ?_
            refine z_callV (As := [.int 1, .int ((J 6 a).toInt32)]) (t_emit (I := I) hL (cs := cs) (a := a) (f := 0) (by omega) 1 ((J 6 a).toInt32)) q1806 q1808 qs81 q121 q1809 nm_X5_emit (tX_obj hL) rfl rfl rfl (Nat.le_of_ble_eq_true rfl) ⟨Nat.le_of_ble_eq_true rfl, Nat.le_of_ble_eq_true rfl⟩ dX5_takePart_165 rfl rfl (Nat.le_of_ble_eq_true rfl) (Nat.le_of_ble_eq_true rfl) (fun v_219 X_220 hp_221 => ?_)
            obtain ⟨rfl, rfl⟩ := hp_221
            refine z_st (st' := []) rfl ?_
            refine z_aload_n 2 dX5_takePart_168 rfl ?_
            refine z_dup dX5_takePart_169 rfl ?_
            refine tz_get (v := .int (nI (a))) 7 hL (by decide) q1600 rfl dX5_takePart_170 ?_
            refine z_iconst (v := 1) dX5_takePart_173 (by decide) ?_
            refine z_iaddN (a := a) (b := 1) dX5_takePart_174 ?_
            refine tz_put (I' := (s_rd (s_cd I (cs ++ [(1, (J 6 a).toInt32)])) (a + 1) 0)) 7 hL (by decide) q1600 s_rd_7 dX5_takePart_175 ?_
            exact z_vret dX5_takePart_178 rfl (Nat.le_of_ble_eq_true rfl) (Nat.le_of_ble_eq_true rfl) ⟨(a + 1), 0, (cs ++ [(1, (J 6 a).toInt32)]), rfl, rfl, (by omega), (by omega), (by omega), (by simp only [List.length_append, List.length_singleton]; omega), by rw [s_part_1 (r := 1)]; simp [s_emit, c_2, c_148, c_148', c_209, c_217]⟩
          · -- s_isS kd (J 6) a 0 40 = true
            have q_222 : a + 1 = a_211 := by rw [← eh_212]; unfold s_hS; rw [c_217]; rfl
            subst q_222
            have q_222k := (s_isS_k c_217).2
            have q_222e := (hT.1 a (by omega)).2.2.2.2
            refine z_aload_n 2 dX5_takePart_121 rfl ?_
            refine z_iload_n 3 dX5_takePart_122 rfl ?_
            refine z_iconst (v := 1) dX5_takePart_123 (by decide) ?_
            refine z_iaddN (a := 3) (b := 1) dX5_takePart_124 ?_
            refine z_eq (y := 4) (by decide) ?_
            refine z_callV (As := [.int 4]) (t_whole_1 (I := I) hL hT (a := a + 1) (f := 0) (by omega) (by omega) (cs := cs) (by first | omega | (simp only [List.length_append, List.length_singleton]; omega))) q1782 q1784 qs75 q121 q1785 nm_X5_whole (tX_obj hL) rfl rfl rfl (Nat.le_of_ble_eq_true rfl) ⟨Nat.le_of_ble_eq_true rfl, Nat.le_of_ble_eq_true rfl⟩ dX5_takePart_125 rfl rfl (Nat.le_of_ble_eq_true rfl) (Nat.le_of_ble_eq_true rfl) (fun v_231 X_232 hp_233 => ?_)
            obtain ⟨a_223, f_224, cs_225, rfl, rfl, h_227, h_228, h_229, h_230, et_226⟩ := hp_233
            refine z_st (st' := []) rfl ?_
            refine z_aload_n 2 dX5_takePart_128 rfl ?_
            refine z_bipush (v := 41) dX5_takePart_129 (by decide) ?_
            refine z_callV (As := [.int 41]) (t_takeSign (I := (s_cd I cs_225)) hL hT (a := a_223) (f := f_224) (by omega) (by omega) 41 ) q1814 q1816 qs83 q121 q1817 nm_X5_takeSign (tX_obj hL) rfl rfl rfl (Nat.le_of_ble_eq_true rfl) ⟨Nat.le_of_ble_eq_true rfl, Nat.le_of_ble_eq_true rfl⟩ dX5_takePart_131 rfl rfl (Nat.le_of_ble_eq_true rfl) (Nat.le_of_ble_eq_true rfl) (fun v_239 X_240 hp_241 => ?_)
            obtain ⟨a_234, f_235, rfl, rfl, ha_237, hf_238, et_236⟩ := hp_241
            have hle9 := (s_tS_k et_236).1
            refine z_st (st' := []) rfl ?_
            refine z_goto 178 dX5_takePart_134 (by decide) ?_
            exact z_vret dX5_takePart_178 rfl (Nat.le_of_ble_eq_true rfl) (Nat.le_of_ble_eq_true rfl) ⟨a_234, f_235, cs_225, rfl, rfl, (by omega), (by omega), (by omega), (by omega), by rw [s_part_1 (r := 1)]; simp [s_emit, c_2, c_148, c_148', c_209, c_217, et_236, et_226]⟩
        · -- s_isW kd (J 6) (J 9) a 0 18 = true
          have q_242 : a + 1 = a_203 := by rw [← eh_204]; unfold s_hW; rw [c_209]; rfl
          subst q_242
          have q_242k := (s_isW_k c_209).2
          have q_242e := (hT.1 a (by omega)).2.2.2.2
          refine z_aload_n 2 dX5_takePart_96 rfl ?_
          refine z_iload_n 3 dX5_takePart_97 rfl ?_
          refine z_iconst (v := 1) dX5_takePart_98 (by decide) ?_
          refine z_iaddN (a := 3) (b := 1) dX5_takePart_99 ?_
          refine z_eq (y := 4) (by decide) ?_
          refine z_callV (As := [.int 4]) (t_takePart_1 (I := I) hL hT (a := a + 1) (f := 0) (by omega) (by omega) (cs := cs) (by first | omega | (simp only [List.length_append, List.length_singleton]; omega))) q1798 q1800 qs79 q121 q1801 nm_X5_takePart (tX_obj hL) rfl rfl rfl (Nat.le_of_ble_eq_true rfl) ⟨Nat.le_of_ble_eq_true rfl, Nat.le_of_ble_eq_true rfl⟩ dX5_takePart_100 rfl rfl (Nat.le_of_ble_eq_true rfl) (Nat.le_of_ble_eq_true rfl) (fun v_251 X_252 hp_253 => ?_)
          obtain ⟨a_243, f_244, cs_245, rfl, rfl, h_247, h_248, h_249, h_250, et_246⟩ := hp_253
          refine z_st (st' := []) rfl ?_
          refine z_aload_n 2 dX5_takePart_103 rfl ?_
          refine z_iconst (v := 3) dX5_takePart_104 (by decide) ?_
          refine z_iconst (v := 0) dX5_takePart_105 (by decide) ?_
          refine z_callV (As := [.int 3, .int 0]) (t_emit (I := I) hL (cs := cs_245) (a := a_243) (f := f_244) (by omega) 3 0) q1806 q1808 qs81 q121 q1809 nm_X5_emit (tX_obj hL) rfl rfl rfl (Nat.le_of_ble_eq_true rfl) ⟨Nat.le_of_ble_eq_true rfl, Nat.le_of_ble_eq_true rfl⟩ dX5_takePart_106 rfl rfl (Nat.le_of_ble_eq_true rfl) (Nat.le_of_ble_eq_true rfl) (fun v_254 X_255 hp_256 => ?_)
          obtain ⟨rfl, rfl⟩ := hp_256
          refine z_st (st' := []) rfl ?_
          refine z_goto 178 dX5_takePart_109 (by decide) ?_
          exact z_vret dX5_takePart_178 rfl (Nat.le_of_ble_eq_true rfl) (Nat.le_of_ble_eq_true rfl) ⟨a_243, f_244, (cs_245 ++ [(3, 0)]), rfl, rfl, (by omega), (by omega), (by omega), (by simp only [List.length_append, List.length_singleton]; omega), by rw [s_part_1 (r := 1)]; simp [s_emit, c_2, c_148, c_148', c_209, et_246]⟩
  · -- 0 < f
    exact z_vret dX5_takePart_7 rfl (Nat.le_of_ble_eq_true rfl) (Nat.le_of_ble_eq_true rfl) ⟨a, f, cs, rfl, rfl, (by omega), (by omega), (by omega), (by omega), by rw [s_part_1 (r := 1)]; simp [s_emit, (show ¬ f = 0 by omega)]⟩
set_option maxHeartbeats 4000000 in
theorem t_products_2 {g : zG} {L : Nat → Nat} {I : Nat → Nat → Int32} {J : Nat → Nat → Int64} {Gb : Nat → Nat → Int32} {X : zX} (hL : tok g L) {kd pl : Nat → Nat} {cnt a f : Nat} (hT : s_tk (I 4) (I 5) kd pl cnt) (ha : a ≤ cnt) (hf : f < 2 ^ 20) {cs : List (Nat × Int32)} (hcs : cs.length ≤ a) : zN g m_X5_products ({ frames := 13, cells := 0, slots := 0, locals := 288 } : Room) [.ref (L 99), .int 3] (tX g L (s_rd (s_cd I cs) a f) J Gb X) (fun rv X' => ∃ (a' f' : Nat) (cs' : List (Nat × Int32)), rv = none ∧ X' = tX g L (s_rd (s_cd I cs') a' f') J Gb X ∧ a' ≤ cnt ∧ f' < 2 ^ 20 ∧ a ≤ a' ∧ cs'.length + a ≤ cs.length + a' ∧ s_prods kd (J 6) (s_part kd pl (J 6) (J 9) 2) (a, f, cs) = (a', f', cs')) := by
  refine zN.of (by decide +kernel) (Nat.le_of_ble_eq_true rfl) rfl ?_
  refine z_lv (lv' := [(0, .ref (L 99)), (1, .int 3)]) [0, 1] rfl ?_
  have hT2 := hT.2
  obtain ⟨hk9, hp9, hk4, hp4, hke⟩ := hT.1 a ha
  refine z_aload_n 0 dX5_products_0 rfl ?_
  refine z_iload_n 1 dX5_products_1 rfl ?_
  refine z_callV (As := [.int 3]) (t_takePart_2 (I := I) hL hT (a := a) (f := f) (by omega) (by omega) (cs := cs) (by first | omega | (simp only [List.length_append, List.length_singleton]; omega))) q1798 q1800 qs79 q121 q1801 nm_X5_takePart (tX_obj hL) rfl rfl rfl (Nat.le_of_ble_eq_true rfl) ⟨Nat.le_of_ble_eq_true rfl, Nat.le_of_ble_eq_true rfl⟩ dX5_products_2 rfl rfl (Nat.le_of_ble_eq_true rfl) (Nat.le_of_ble_eq_true rfl) (fun v_9 X_10 hp_11 => ?_)
  obtain ⟨a_1, f_2, cs_3, rfl, rfl, h_5, h_6, h_7, h_8, et_4⟩ := hp_11
  refine z_st (st' := []) rfl ?_
  have loop_15 : ∀ (q_12 : Nat) (m_16 : Nat) (a9_17 : Nat) (f9_18 : Nat) (c9_19 : List (Nat × Int32)), (a9_17 ≤ cnt) → (f9_18 < 2 ^ 20) → (a ≤ a9_17) → (c9_19.length + a ≤ cs.length + a9_17) → (cnt < m_16 + a9_17) → (s_prl kd (J 6) (s_part kd pl (J 6) (J 9) 2) m_16 (a9_17, f9_18, c9_19) = s_prods kd (J 6) (s_part kd pl (J 6) (J 9) 2) (a, f, cs)) → m_16 < q_12 → zZ g m_X5_products (fun rv X' => ∃ (a' f' : Nat) (cs' : List (Nat × Int32)), rv = none ∧ X' = tX g L (s_rd (s_cd I cs') a' f') J Gb X ∧ a' ≤ cnt ∧ f' < 2 ^ 20 ∧ a ≤ a' ∧ cs'.length + a ≤ cs.length + a' ∧ s_prods kd (J 6) (s_part kd pl (J 6) (J 9) 2) (a, f, cs) = (a', f', cs'), zno, ({ frames := 13, cells := 0, slots := 0, locals := 288 } : Room)) 0 0 (tX g L (s_rd (s_cd I c9_19) a9_17 f9_18) J Gb X) 5 [(0, .ref (L 99)), (1, .int 3)] [] := by
    intro q_12
    induction q_12 with
    | zero => intro m_16 a9_17 f9_18 c9_19 h1_20 h2_21 h3_22 h4_23 h5_24 h6_25 hm_14; exact absurd hm_14 (Nat.not_lt_zero _)
    | succ q_12 ih_13 =>
      intro m_16 a9_17 f9_18 c9_19 h1_20 h2_21 h3_22 h4_23 h5_24 h6_25 hm_14
      obtain ⟨m_26, rfl⟩ : ∃ m9, m_16 = m9 + 1 := ⟨m_16 - 1, by omega⟩
      refine z_aload_n 0 dX5_products_5 rfl ?_
      refine z_bipush (v := 42) dX5_products_6 (by decide) ?_
      refine z_callV (As := [.int 42]) (t_hasSign (I := (s_cd I c9_19)) hL hT (a := a9_17) (f := f9_18) (by omega) (by omega) 42) q1810 q1812 qs82 q121 q1813 nm_X5_hasSign (tX_obj hL) rfl rfl rfl (Nat.le_of_ble_eq_true rfl) ⟨Nat.le_of_ble_eq_true rfl, Nat.le_of_ble_eq_true rfl⟩ dX5_products_8 rfl rfl (Nat.le_of_ble_eq_true rfl) (Nat.le_of_ble_eq_true rfl) (fun v_30 X_31 hp_32 => ?_)
      obtain ⟨a_27, rfl, rfl, ha_29, eh_28⟩ := hp_32
      refine z_st (st' := [.int (zb (s_isS kd (J 6) a9_17 f9_18 42))]) rfl ?_
      refine z_if_eqb 29 dX5_products_11 (by decide) (fun c_33 => ?_) (fun c_33 => ?_)
      · -- s_isS kd (J 6) a9_17 f9_18 42 = false
        have q_34 : a9_17 = a_27 := by rw [← eh_28]; unfold s_hS; rw [c_33]; rfl
        subst q_34
        exact z_vret dX5_products_29 rfl (Nat.le_of_ble_eq_true rfl) (Nat.le_of_ble_eq_true rfl) ⟨a9_17, f9_18, c9_19, rfl, rfl, (by omega), (by omega), (by omega), (by omega), h6_25.symm.trans (by show (if s_isS kd (J 6) a9_17 f9_18 42 = true then _ else _) = _; rw [if_neg (by rw [c_33]; decide)])⟩
      · -- s_isS kd (J 6) a9_17 f9_18 42 = true
        have q_35 : a9_17 + 1 = a_27 := by rw [← eh_28]; unfold s_hS; rw [c_33]; rfl
        subst q_35
        have q_35k := (s_isS_k c_33).2
        have q_35e := (hT.1 a9_17 (by omega)).2.2.2.2
        refine z_aload_n 0 dX5_products_14 rfl ?_
        refine z_iload_n 1 dX5_products_15 rfl ?_
        refine z_callV (As := [.int 3]) (t_takePart_2 (I := I) hL hT (a := a9_17 + 1) (f := f9_18) (by omega) (by omega) (cs := c9_19) (by first | omega | (simp only [List.length_append, List.length_singleton]; omega))) q1798 q1800 qs79 q121 q1801 nm_X5_takePart (tX_obj hL) rfl rfl rfl (Nat.le_of_ble_eq_true rfl) ⟨Nat.le_of_ble_eq_true rfl, Nat.le_of_ble_eq_true rfl⟩ dX5_products_16 rfl rfl (Nat.le_of_ble_eq_true rfl) (Nat.le_of_ble_eq_true rfl) (fun v_44 X_45 hp_46 => ?_)
        obtain ⟨a_36, f_37, cs_38, rfl, rfl, h_40, h_41, h_42, h_43, et_39⟩ := hp_46
        refine z_st (st' := []) rfl ?_
        refine z_aload_n 0 dX5_products_19 rfl ?_
        refine z_bipush (v := 6) dX5_products_20 (by decide) ?_
        refine z_iconst (v := 0) dX5_products_22 (by decide) ?_
        refine z_callV (As := [.int 6, .int 0]) (t_emit (I := I) hL (cs := cs_38) (a := a_36) (f := f_37) (by omega) 6 0) q1806 q1808 qs81 q121 q1809 nm_X5_emit (tX_obj hL) rfl rfl rfl (Nat.le_of_ble_eq_true rfl) ⟨Nat.le_of_ble_eq_true rfl, Nat.le_of_ble_eq_true rfl⟩ dX5_products_23 rfl rfl (Nat.le_of_ble_eq_true rfl) (Nat.le_of_ble_eq_true rfl) (fun v_47 X_48 hp_49 => ?_)
        obtain ⟨rfl, rfl⟩ := hp_49
        refine z_st (st' := []) rfl ?_
        refine z_goto 5 dX5_products_26 (by decide) ?_
        exact ih_13 m_26 a_36 f_37 (cs_38 ++ [(6, 0)]) (by omega) (by omega) (by omega) (by simp only [List.length_append, List.length_singleton]; omega) (by omega) (by rw [← h6_25]; symm; show (if s_isS kd (J 6) a9_17 f9_18 42 = true then s_prl kd (J 6) (s_part kd pl (J 6) (J 9) 2) m_26 (s_emit ((s_part kd pl (J 6) (J 9) 2) (a9_17 + 1, f9_18, c9_19)) 6 0) else _) = _; rw [if_pos c_33, et_39]; rfl) (by omega)
  exact loop_15 (1001 + 1) 1001 a_1 f_2 cs_3 (by omega) (by omega) (by omega) (by omega) (by omega) (by show _ = s_prl kd (J 6) (s_part kd pl (J 6) (J 9) 2) 1001 ((s_part kd pl (J 6) (J 9) 2) (a, f, cs)); rw [et_4]) (Nat.lt_succ_self _)
set_option maxHeartbeats 4000000 in
theorem t_sums_2 {g : zG} {L : Nat → Nat} {I : Nat → Nat → Int32} {J : Nat → Nat → Int64} {Gb : Nat → Nat → Int32} {X : zX} (hL : tok g L) {kd pl : Nat → Nat} {cnt a f : Nat} (hT : s_tk (I 4) (I 5) kd pl cnt) (ha : a ≤ cnt) (hf : f < 2 ^ 20) {cs : List (Nat × Int32)} (hcs : cs.length ≤ a) : zN g m_X5_sums ({ frames := 14, cells := 0, slots := 0, locals := 309 } : Room) [.ref (L 99), .int 3] (tX g L (s_rd (s_cd I cs) a f) J Gb X) (fun rv X' => ∃ (a' f' : Nat) (cs' : List (Nat × Int32)), rv = none ∧ X' = tX g L (s_rd (s_cd I cs') a' f') J Gb X ∧ a' ≤ cnt ∧ f' < 2 ^ 20 ∧ a ≤ a' ∧ cs'.length + a ≤ cs.length + a' ∧ s_sums kd (J 6) (s_part kd pl (J 6) (J 9) 2) (a, f, cs) = (a', f', cs')) := by
  refine zN.of (by decide +kernel) (Nat.le_of_ble_eq_true rfl) rfl ?_
  refine z_lv (lv' := [(0, .ref (L 99)), (1, .int 3)]) [0, 1] rfl ?_
  have hT2 := hT.2
  obtain ⟨hk9, hp9, hk4, hp4, hke⟩ := hT.1 a ha
  refine z_aload_n 0 dX5_sums_0 rfl ?_
  refine z_iload_n 1 dX5_sums_1 rfl ?_
  refine z_callV (As := [.int 3]) (t_products_2 (I := I) hL hT (a := a) (f := f) (by omega) (by omega) (cs := cs) (by first | omega | (simp only [List.length_append, List.length_singleton]; omega))) q1794 q1796 qs78 q121 q1797 nm_X5_products (tX_obj hL) rfl rfl rfl (Nat.le_of_ble_eq_true rfl) ⟨Nat.le_of_ble_eq_true rfl, Nat.le_of_ble_eq_true rfl⟩ dX5_sums_2 rfl rfl (Nat.le_of_ble_eq_true rfl) (Nat.le_of_ble_eq_true rfl) (fun v_9 X_10 hp_11 => ?_)
  obtain ⟨a_1, f_2, cs_3, rfl, rfl, h_5, h_6, h_7, h_8, et_4⟩ := hp_11
  refine z_st (st' := []) rfl ?_
  have loop_15 : ∀ (q_12 : Nat) (m_16 : Nat) (a9_17 : Nat) (f9_18 : Nat) (c9_19 : List (Nat × Int32)), (a9_17 ≤ cnt) → (f9_18 < 2 ^ 20) → (a ≤ a9_17) → (c9_19.length + a ≤ cs.length + a9_17) → (cnt < m_16 + a9_17) → (s_sul kd (J 6) (s_part kd pl (J 6) (J 9) 2) m_16 (a9_17, f9_18, c9_19) = s_sums kd (J 6) (s_part kd pl (J 6) (J 9) 2) (a, f, cs)) → m_16 < q_12 → zZ g m_X5_sums (fun rv X' => ∃ (a' f' : Nat) (cs' : List (Nat × Int32)), rv = none ∧ X' = tX g L (s_rd (s_cd I cs') a' f') J Gb X ∧ a' ≤ cnt ∧ f' < 2 ^ 20 ∧ a ≤ a' ∧ cs'.length + a ≤ cs.length + a' ∧ s_sums kd (J 6) (s_part kd pl (J 6) (J 9) 2) (a, f, cs) = (a', f', cs'), zno, ({ frames := 14, cells := 0, slots := 0, locals := 309 } : Room)) 0 0 (tX g L (s_rd (s_cd I c9_19) a9_17 f9_18) J Gb X) 5 [(0, .ref (L 99)), (1, .int 3)] [] := by
    intro q_12
    induction q_12 with
    | zero => intro m_16 a9_17 f9_18 c9_19 h1_20 h2_21 h3_22 h4_23 h5_24 h6_25 hm_14; exact absurd hm_14 (Nat.not_lt_zero _)
    | succ q_12 ih_13 =>
      intro m_16 a9_17 f9_18 c9_19 h1_20 h2_21 h3_22 h4_23 h5_24 h6_25 hm_14
      obtain ⟨m_26, rfl⟩ : ∃ m9, m_16 = m9 + 1 := ⟨m_16 - 1, by omega⟩
      refine z_aload_n 0 dX5_sums_5 rfl ?_
      refine z_bipush (v := 43) dX5_sums_6 (by decide) ?_
      refine z_callV (As := [.int 43]) (t_isSign (I := (s_cd I c9_19)) hL hT (a := a9_17) (f := f9_18) (by omega) (by omega) 43) q1802 q1804 qs80 q121 q1805 nm_X5_isSign (tX_obj hL) rfl rfl rfl (Nat.le_of_ble_eq_true rfl) ⟨Nat.le_of_ble_eq_true rfl, Nat.le_of_ble_eq_true rfl⟩ dX5_sums_8 rfl rfl (Nat.le_of_ble_eq_true rfl) (Nat.le_of_ble_eq_true rfl) (fun v_27 X_28 hp_29 => ?_)
      obtain ⟨rfl, rfl⟩ := hp_29
      refine z_st (st' := [.int (zb (s_isS kd (J 6) a9_17 f9_18 43))]) rfl ?_
      refine z_if_neb 23 dX5_sums_11 (by decide) (fun c_30 => ?_) (fun c_30 => ?_)
      · -- s_isS kd (J 6) a9_17 f9_18 43 = true
        have q_31k := (s_isS_k c_30).2
        have q_31e := (hT.1 a9_17 (by omega)).2.2.2.2
        refine z_aload_n 0 dX5_sums_23 rfl ?_
        refine z_bipush (v := 43) dX5_sums_24 (by decide) ?_
        refine z_callV (As := [.int 43]) (t_isSign (I := (s_cd I c9_19)) hL hT (a := a9_17) (f := f9_18) (by omega) (by omega) 43) q1802 q1804 qs80 q121 q1805 nm_X5_isSign (tX_obj hL) rfl rfl rfl (Nat.le_of_ble_eq_true rfl) ⟨Nat.le_of_ble_eq_true rfl, Nat.le_of_ble_eq_true rfl⟩ dX5_sums_26 rfl rfl (Nat.le_of_ble_eq_true rfl) (Nat.le_of_ble_eq_true rfl) (fun v_32 X_33 hp_34 => ?_)
        obtain ⟨rfl, rfl⟩ := hp_34
        refine z_st (st' := [.int (zb (s_isS kd (J 6) a9_17 f9_18 43))]) rfl ?_
        refine z_istore_n (lv' := [(2, .int (zb (s_isS kd (J 6) a9_17 f9_18 43))), (0, .ref (L 99)), (1, .int 3)]) dX5_sums_29 rfl (by decide) rfl ?_
        refine z_aload_n 1 dX5_sums_30 rfl ?_
        refine z_dup dX5_sums_31 rfl ?_
        refine tz_get (v := .int (nI (a9_17))) 7 hL (by decide) q1600 rfl dX5_sums_32 ?_
        refine z_iconst (v := 1) dX5_sums_35 (by decide) ?_
        refine z_iaddN (a := a9_17) (b := 1) dX5_sums_36 ?_
        refine tz_put (I' := (s_rd (s_cd I c9_19) (a9_17 + 1) f9_18)) 7 hL (by decide) q1600 s_rd_7 dX5_sums_37 ?_
        refine z_aload_n 1 dX5_sums_40 rfl ?_
        refine z_iload_n 2 dX5_sums_41 rfl ?_
        refine z_callV (As := [.int 3]) (t_products_2 (I := I) hL hT (a := a9_17 + 1) (f := f9_18) (by omega) (by omega) (cs := c9_19) (by first | omega | (simp only [List.length_append, List.length_singleton]; omega))) q1794 q1796 qs78 q121 q1797 nm_X5_products (tX_obj hL) rfl rfl rfl (Nat.le_of_ble_eq_true rfl) ⟨Nat.le_of_ble_eq_true rfl, Nat.le_of_ble_eq_true rfl⟩ dX5_sums_42 rfl rfl (Nat.le_of_ble_eq_true rfl) (Nat.le_of_ble_eq_true rfl) (fun v_43 X_44 hp_45 => ?_)
        obtain ⟨a_35, f_36, cs_37, rfl, rfl, h_39, h_40, h_41, h_42, et_38⟩ := hp_45
        refine z_st (st' := []) rfl ?_
        refine z_aload_n 1 dX5_sums_45 rfl ?_
        refine z_iload_n 0 dX5_sums_46 rfl ?_
        refine z_if_eqb 54 dX5_sums_47 (by decide) (fun c_ => absurd (c_30.symm.trans c_) (by decide)) (fun _ => ?_)
        refine z_iconst (v := 4) dX5_sums_50 (by decide) ?_
        refine z_goto 55 dX5_sums_51 (by decide) ?_
        refine z_iconst (v := 0) dX5_sums_55 (by decide) ?_
        refine z_callV (As := [.int 4, .int 0]) (t_emit (I := I) hL (cs := cs_37) (a := a_35) (f := f_36) (by omega) 4 0) q1806 q1808 qs81 q121 q1809 nm_X5_emit (tX_obj hL) rfl rfl rfl (Nat.le_of_ble_eq_true rfl) ⟨Nat.le_of_ble_eq_true rfl, Nat.le_of_ble_eq_true rfl⟩ dX5_sums_56 rfl rfl (Nat.le_of_ble_eq_true rfl) (Nat.le_of_ble_eq_true rfl) (fun v_46 X_47 hp_48 => ?_)
        obtain ⟨rfl, rfl⟩ := hp_48
        refine z_st (st' := []) rfl ?_
        refine z_goto 5 dX5_sums_59 (by decide) ?_
        refine z_lv (lv' := [(0, .ref (L 99)), (1, .int 3)]) [1, 2] rfl ?_
        exact ih_13 m_26 a_35 f_36 (cs_37 ++ [(4, 0)]) (by omega) (by omega) (by omega) (by simp only [List.length_append, List.length_singleton]; omega) (by omega) (by rw [← h6_25]; symm; show (if (s_isS kd (J 6) a9_17 f9_18 43 || s_isS kd (J 6) a9_17 f9_18 45) = true then s_sul kd (J 6) (s_part kd pl (J 6) (J 9) 2) m_26 (s_emit ((s_prods kd (J 6) (s_part kd pl (J 6) (J 9) 2)) (a9_17 + 1, f9_18, c9_19)) (if s_isS kd (J 6) a9_17 f9_18 43 = true then 4 else 5) 0) else _) = _; rw [if_pos (by rw [c_30]; rfl), if_pos c_30, et_38]; rfl) (by omega)
      · -- s_isS kd (J 6) a9_17 f9_18 43 = false
        refine z_aload_n 0 dX5_sums_14 rfl ?_
        refine z_bipush (v := 45) dX5_sums_15 (by decide) ?_
        refine z_callV (As := [.int 45]) (t_isSign (I := (s_cd I c9_19)) hL hT (a := a9_17) (f := f9_18) (by omega) (by omega) 45) q1802 q1804 qs80 q121 q1805 nm_X5_isSign (tX_obj hL) rfl rfl rfl (Nat.le_of_ble_eq_true rfl) ⟨Nat.le_of_ble_eq_true rfl, Nat.le_of_ble_eq_true rfl⟩ dX5_sums_17 rfl rfl (Nat.le_of_ble_eq_true rfl) (Nat.le_of_ble_eq_true rfl) (fun v_49 X_50 hp_51 => ?_)
        obtain ⟨rfl, rfl⟩ := hp_51
        refine z_st (st' := [.int (zb (s_isS kd (J 6) a9_17 f9_18 45))]) rfl ?_
        refine z_if_eqb 62 dX5_sums_20 (by decide) (fun c_52 => ?_) (fun c_52 => ?_)
        · -- s_isS kd (J 6) a9_17 f9_18 45 = false
          exact z_vret dX5_sums_62 rfl (Nat.le_of_ble_eq_true rfl) (Nat.le_of_ble_eq_true rfl) ⟨a9_17, f9_18, c9_19, rfl, rfl, (by omega), (by omega), (by omega), (by omega), h6_25.symm.trans (by show (if (s_isS kd (J 6) a9_17 f9_18 43 || s_isS kd (J 6) a9_17 f9_18 45) = true then _ else _) = _; rw [if_neg (by rw [c_30, c_52]; decide)])⟩
        · -- s_isS kd (J 6) a9_17 f9_18 45 = true
          have q_53k := (s_isS_k c_52).2
          have q_53e := (hT.1 a9_17 (by omega)).2.2.2.2
          refine z_aload_n 0 dX5_sums_23 rfl ?_
          refine z_bipush (v := 43) dX5_sums_24 (by decide) ?_
          refine z_callV (As := [.int 43]) (t_isSign (I := (s_cd I c9_19)) hL hT (a := a9_17) (f := f9_18) (by omega) (by omega) 43) q1802 q1804 qs80 q121 q1805 nm_X5_isSign (tX_obj hL) rfl rfl rfl (Nat.le_of_ble_eq_true rfl) ⟨Nat.le_of_ble_eq_true rfl, Nat.le_of_ble_eq_true rfl⟩ dX5_sums_26 rfl rfl (Nat.le_of_ble_eq_true rfl) (Nat.le_of_ble_eq_true rfl) (fun v_54 X_55 hp_56 => ?_)
          obtain ⟨rfl, rfl⟩ := hp_56
          refine z_st (st' := [.int (zb (s_isS kd (J 6) a9_17 f9_18 43))]) rfl ?_
          refine z_istore_n (lv' := [(2, .int (zb (s_isS kd (J 6) a9_17 f9_18 43))), (0, .ref (L 99)), (1, .int 3)]) dX5_sums_29 rfl (by decide) rfl ?_
          refine z_aload_n 1 dX5_sums_30 rfl ?_
          refine z_dup dX5_sums_31 rfl ?_
          refine tz_get (v := .int (nI (a9_17))) 7 hL (by decide) q1600 rfl dX5_sums_32 ?_
          refine z_iconst (v := 1) dX5_sums_35 (by decide) ?_
          refine z_iaddN (a := a9_17) (b := 1) dX5_sums_36 ?_
          refine tz_put (I' := (s_rd (s_cd I c9_19) (a9_17 + 1) f9_18)) 7 hL (by decide) q1600 s_rd_7 dX5_sums_37 ?_
          refine z_aload_n 1 dX5_sums_40 rfl ?_
          refine z_iload_n 2 dX5_sums_41 rfl ?_
          refine z_callV (As := [.int 3]) (t_products_2 (I := I) hL hT (a := a9_17 + 1) (f := f9_18) (by omega) (by omega) (cs := c9_19) (by first | omega | (simp only [List.length_append, List.length_singleton]; omega))) q1794 q1796 qs78 q121 q1797 nm_X5_products (tX_obj hL) rfl rfl rfl (Nat.le_of_ble_eq_true rfl) ⟨Nat.le_of_ble_eq_true rfl, Nat.le_of_ble_eq_true rfl⟩ dX5_sums_42 rfl rfl (Nat.le_of_ble_eq_true rfl) (Nat.le_of_ble_eq_true rfl) (fun v_65 X_66 hp_67 => ?_)
          obtain ⟨a_57, f_58, cs_59, rfl, rfl, h_61, h_62, h_63, h_64, et_60⟩ := hp_67
          refine z_st (st' := []) rfl ?_
          refine z_aload_n 1 dX5_sums_45 rfl ?_
          refine z_iload_n 0 dX5_sums_46 rfl ?_
          refine z_if_eqb 54 dX5_sums_47 (by decide) (fun _ => ?_) (fun c_ => absurd (c_30.symm.trans c_) (by decide))
          refine z_iconst (v := 5) dX5_sums_54 (by decide) ?_
          refine z_iconst (v := 0) dX5_sums_55 (by decide) ?_
          refine z_callV (As := [.int 5, .int 0]) (t_emit (I := I) hL (cs := cs_59) (a := a_57) (f := f_58) (by omega) 5 0) q1806 q1808 qs81 q121 q1809 nm_X5_emit (tX_obj hL) rfl rfl rfl (Nat.le_of_ble_eq_true rfl) ⟨Nat.le_of_ble_eq_true rfl, Nat.le_of_ble_eq_true rfl⟩ dX5_sums_56 rfl rfl (Nat.le_of_ble_eq_true rfl) (Nat.le_of_ble_eq_true rfl) (fun v_68 X_69 hp_70 => ?_)
          obtain ⟨rfl, rfl⟩ := hp_70
          refine z_st (st' := []) rfl ?_
          refine z_goto 5 dX5_sums_59 (by decide) ?_
          refine z_lv (lv' := [(0, .ref (L 99)), (1, .int 3)]) [1, 2] rfl ?_
          exact ih_13 m_26 a_57 f_58 (cs_59 ++ [(5, 0)]) (by omega) (by omega) (by omega) (by simp only [List.length_append, List.length_singleton]; omega) (by omega) (by rw [← h6_25]; symm; show (if (s_isS kd (J 6) a9_17 f9_18 43 || s_isS kd (J 6) a9_17 f9_18 45) = true then s_sul kd (J 6) (s_part kd pl (J 6) (J 9) 2) m_26 (s_emit ((s_prods kd (J 6) (s_part kd pl (J 6) (J 9) 2)) (a9_17 + 1, f9_18, c9_19)) (if s_isS kd (J 6) a9_17 f9_18 43 = true then 4 else 5) 0) else _) = _; rw [if_pos (by rw [c_30, c_52]; rfl), if_neg (by rw [c_30]; decide), et_60]; rfl) (by omega)
  exact loop_15 (1001 + 1) 1001 a_1 f_2 cs_3 (by omega) (by omega) (by omega) (by omega) (by omega) (by show _ = s_sul kd (J 6) (s_part kd pl (J 6) (J 9) 2) 1001 (s_prods kd (J 6) (s_part kd pl (J 6) (J 9) 2) (a, f, cs)); rw [et_4]) (Nat.lt_succ_self _)
set_option maxHeartbeats 4000000 in
theorem t_test_2 {g : zG} {L : Nat → Nat} {I : Nat → Nat → Int32} {J : Nat → Nat → Int64} {Gb : Nat → Nat → Int32} {X : zX} (hL : tok g L) {kd pl : Nat → Nat} {cnt a f : Nat} (hT : s_tk (I 4) (I 5) kd pl cnt) (ha : a ≤ cnt) (hf : f < 2 ^ 20) {cs : List (Nat × Int32)} (hcs : cs.length ≤ a) : zN g m_X5_test ({ frames := 15, cells := 0, slots := 0, locals := 331 } : Room) [.ref (L 99), .int 3] (tX g L (s_rd (s_cd I cs) a f) J Gb X) (fun rv X' => ∃ (a' f' : Nat) (cs' : List (Nat × Int32)), rv = none ∧ X' = tX g L (s_rd (s_cd I cs') a' f') J Gb X ∧ a' ≤ cnt ∧ f' < 2 ^ 20 ∧ a ≤ a' ∧ cs'.length + a ≤ cs.length + a' ∧ s_tst kd (J 6) (s_part kd pl (J 6) (J 9) 2) (a, f, cs) = (a', f', cs')) := by
  refine zN.of (by decide +kernel) (Nat.le_of_ble_eq_true rfl) rfl ?_
  refine z_lv (lv' := [(0, .ref (L 99)), (1, .int 3)]) [0, 1] rfl ?_
  have hT2 := hT.2
  obtain ⟨hk9, hp9, hk4, hp4, hke⟩ := hT.1 a ha
  refine z_aload_n 0 dX5_test_0 rfl ?_
  refine z_iload_n 1 dX5_test_1 rfl ?_
  refine z_callV (As := [.int 3]) (t_sums_2 (I := I) hL hT (a := a) (f := f) (by omega) (by omega) (cs := cs) (by first | omega | (simp only [List.length_append, List.length_singleton]; omega))) q1790 q1792 qs77 q121 q1793 nm_X5_sums (tX_obj hL) rfl rfl rfl (Nat.le_of_ble_eq_true rfl) ⟨Nat.le_of_ble_eq_true rfl, Nat.le_of_ble_eq_true rfl⟩ dX5_test_2 rfl rfl (Nat.le_of_ble_eq_true rfl) (Nat.le_of_ble_eq_true rfl) (fun v_9 X_10 hp_11 => ?_)
  obtain ⟨a_1, f_2, cs_3, rfl, rfl, h_5, h_6, h_7, h_8, et_4⟩ := hp_11
  refine z_st (st' := []) rfl ?_
  refine z_aload_n 0 dX5_test_5 rfl ?_
  refine z_bipush (v := 60) dX5_test_6 (by decide) ?_
  refine z_callV (As := [.int 60]) (t_isSign (I := (s_cd I cs_3)) hL hT (a := a_1) (f := f_2) (by omega) (by omega) 60) q1802 q1804 qs80 q121 q1805 nm_X5_isSign (tX_obj hL) rfl rfl rfl (Nat.le_of_ble_eq_true rfl) ⟨Nat.le_of_ble_eq_true rfl, Nat.le_of_ble_eq_true rfl⟩ dX5_test_8 rfl rfl (Nat.le_of_ble_eq_true rfl) (Nat.le_of_ble_eq_true rfl) (fun v_12 X_13 hp_14 => ?_)
  obtain ⟨rfl, rfl⟩ := hp_14
  refine z_st (st' := [.int (zb (s_isS kd (J 6) a_1 f_2 60))]) rfl ?_
  refine z_istore_n (lv' := [(2, .int (zb (s_isS kd (J 6) a_1 f_2 60))), (0, .ref (L 99)), (1, .int 3)]) dX5_test_11 rfl (by decide) rfl ?_
  refine z_aload_n 1 dX5_test_12 rfl ?_
  refine z_bipush (v := 60) dX5_test_13 (by decide) ?_
  refine z_callV (As := [.int 60]) (t_hasSign (I := (s_cd I cs_3)) hL hT (a := a_1) (f := f_2) (by omega) (by omega) 60) q1810 q1812 qs82 q121 q1813 nm_X5_hasSign (tX_obj hL) rfl rfl rfl (Nat.le_of_ble_eq_true rfl) ⟨Nat.le_of_ble_eq_true rfl, Nat.le_of_ble_eq_true rfl⟩ dX5_test_15 rfl rfl (Nat.le_of_ble_eq_true rfl) (Nat.le_of_ble_eq_true rfl) (fun v_18 X_19 hp_20 => ?_)
  obtain ⟨a_15, rfl, rfl, ha_17, eh_16⟩ := hp_20
  refine z_st (st' := [.int (zb (s_isS kd (J 6) a_1 f_2 60))]) rfl ?_
  refine z_if_neb 30 dX5_test_18 (by decide) (fun c_21 => ?_) (fun c_21 => ?_)
  · -- s_isS kd (J 6) a_1 f_2 60 = true
    have q_22 : a_1 + 1 = a_15 := by rw [← eh_16]; unfold s_hS; rw [c_21]; rfl
    subst q_22
    have q_22k := (s_isS_k c_21).2
    have q_22e := (hT.1 a_1 (by omega)).2.2.2.2
    refine z_aload_n 1 dX5_test_30 rfl ?_
    refine z_iload_n 2 dX5_test_31 rfl ?_
    refine z_callV (As := [.int 3]) (t_sums_2 (I := I) hL hT (a := a_1 + 1) (f := f_2) (by omega) (by omega) (cs := cs_3) (by first | omega | (simp only [List.length_append, List.length_singleton]; omega))) q1790 q1792 qs77 q121 q1793 nm_X5_sums (tX_obj hL) rfl rfl rfl (Nat.le_of_ble_eq_true rfl) ⟨Nat.le_of_ble_eq_true rfl, Nat.le_of_ble_eq_true rfl⟩ dX5_test_32 rfl rfl (Nat.le_of_ble_eq_true rfl) (Nat.le_of_ble_eq_true rfl) (fun v_31 X_32 hp_33 => ?_)
    obtain ⟨a_23, f_24, cs_25, rfl, rfl, h_27, h_28, h_29, h_30, et_26⟩ := hp_33
    refine z_st (st' := []) rfl ?_
    refine z_aload_n 1 dX5_test_35 rfl ?_
    refine z_iload_n 0 dX5_test_36 rfl ?_
    refine z_if_eqb 45 dX5_test_37 (by decide) (fun c_ => absurd (c_21.symm.trans c_) (by decide)) (fun _ => ?_)
    refine z_bipush (v := 7) dX5_test_40 (by decide) ?_
    refine z_goto 47 dX5_test_42 (by decide) ?_
    refine z_iconst (v := 0) dX5_test_47 (by decide) ?_
    refine z_callV (As := [.int 7, .int 0]) (t_emit (I := I) hL (cs := cs_25) (a := a_23) (f := f_24) (by omega) 7 0) q1806 q1808 qs81 q121 q1809 nm_X5_emit (tX_obj hL) rfl rfl rfl (Nat.le_of_ble_eq_true rfl) ⟨Nat.le_of_ble_eq_true rfl, Nat.le_of_ble_eq_true rfl⟩ dX5_test_48 rfl rfl (Nat.le_of_ble_eq_true rfl) (Nat.le_of_ble_eq_true rfl) (fun v_34 X_35 hp_36 => ?_)
    obtain ⟨rfl, rfl⟩ := hp_36
    refine z_st (st' := []) rfl ?_
    exact z_vret dX5_test_51 rfl (Nat.le_of_ble_eq_true rfl) (Nat.le_of_ble_eq_true rfl) ⟨a_23, f_24, (cs_25 ++ [(7, 0)]), rfl, rfl, (by omega), (by omega), (by omega), (by simp only [List.length_append, List.length_singleton]; omega), by unfold s_tst; simp [s_emit, c_21, et_26, et_4]⟩
  · -- s_isS kd (J 6) a_1 f_2 60 = false
    have q_37 : a_1 = a_15 := by rw [← eh_16]; unfold s_hS; rw [c_21]; rfl
    subst q_37
    refine z_aload_n 1 dX5_test_21 rfl ?_
    refine z_bipush (v := 61) dX5_test_22 (by decide) ?_
    refine z_callV (As := [.int 61]) (t_hasSign (I := (s_cd I cs_3)) hL hT (a := a_1) (f := f_2) (by omega) (by omega) 61) q1810 q1812 qs82 q121 q1813 nm_X5_hasSign (tX_obj hL) rfl rfl rfl (Nat.le_of_ble_eq_true rfl) ⟨Nat.le_of_ble_eq_true rfl, Nat.le_of_ble_eq_true rfl⟩ dX5_test_24 rfl rfl (Nat.le_of_ble_eq_true rfl) (Nat.le_of_ble_eq_true rfl) (fun v_41 X_42 hp_43 => ?_)
    obtain ⟨a_38, rfl, rfl, ha_40, eh_39⟩ := hp_43
    refine z_st (st' := [.int (zb (s_isS kd (J 6) a_1 f_2 61))]) rfl ?_
    refine z_if_eqb 51 dX5_test_27 (by decide) (fun c_44 => ?_) (fun c_44 => ?_)
    · -- s_isS kd (J 6) a_1 f_2 61 = false
      have q_45 : a_1 = a_38 := by rw [← eh_39]; unfold s_hS; rw [c_44]; rfl
      subst q_45
      exact z_vret dX5_test_51 rfl (Nat.le_of_ble_eq_true rfl) (Nat.le_of_ble_eq_true rfl) ⟨a_1, f_2, cs_3, rfl, rfl, (by omega), (by omega), (by omega), (by omega), by unfold s_tst; simp [s_emit, c_21, c_44, et_4]⟩
    · -- s_isS kd (J 6) a_1 f_2 61 = true
      have q_46 : a_1 + 1 = a_38 := by rw [← eh_39]; unfold s_hS; rw [c_44]; rfl
      subst q_46
      have q_46k := (s_isS_k c_44).2
      have q_46e := (hT.1 a_1 (by omega)).2.2.2.2
      refine z_aload_n 1 dX5_test_30 rfl ?_
      refine z_iload_n 2 dX5_test_31 rfl ?_
      refine z_callV (As := [.int 3]) (t_sums_2 (I := I) hL hT (a := a_1 + 1) (f := f_2) (by omega) (by omega) (cs := cs_3) (by first | omega | (simp only [List.length_append, List.length_singleton]; omega))) q1790 q1792 qs77 q121 q1793 nm_X5_sums (tX_obj hL) rfl rfl rfl (Nat.le_of_ble_eq_true rfl) ⟨Nat.le_of_ble_eq_true rfl, Nat.le_of_ble_eq_true rfl⟩ dX5_test_32 rfl rfl (Nat.le_of_ble_eq_true rfl) (Nat.le_of_ble_eq_true rfl) (fun v_55 X_56 hp_57 => ?_)
      obtain ⟨a_47, f_48, cs_49, rfl, rfl, h_51, h_52, h_53, h_54, et_50⟩ := hp_57
      refine z_st (st' := []) rfl ?_
      refine z_aload_n 1 dX5_test_35 rfl ?_
      refine z_iload_n 0 dX5_test_36 rfl ?_
      refine z_if_eqb 45 dX5_test_37 (by decide) (fun _ => ?_) (fun c_ => absurd (c_21.symm.trans c_) (by decide))
      refine z_bipush (v := 8) dX5_test_45 (by decide) ?_
      refine z_iconst (v := 0) dX5_test_47 (by decide) ?_
      refine z_callV (As := [.int 8, .int 0]) (t_emit (I := I) hL (cs := cs_49) (a := a_47) (f := f_48) (by omega) 8 0) q1806 q1808 qs81 q121 q1809 nm_X5_emit (tX_obj hL) rfl rfl rfl (Nat.le_of_ble_eq_true rfl) ⟨Nat.le_of_ble_eq_true rfl, Nat.le_of_ble_eq_true rfl⟩ dX5_test_48 rfl rfl (Nat.le_of_ble_eq_true rfl) (Nat.le_of_ble_eq_true rfl) (fun v_58 X_59 hp_60 => ?_)
      obtain ⟨rfl, rfl⟩ := hp_60
      refine z_st (st' := []) rfl ?_
      exact z_vret dX5_test_51 rfl (Nat.le_of_ble_eq_true rfl) (Nat.le_of_ble_eq_true rfl) ⟨a_47, f_48, (cs_49 ++ [(8, 0)]), rfl, rfl, (by omega), (by omega), (by omega), (by simp only [List.length_append, List.length_singleton]; omega), by unfold s_tst; simp [s_emit, c_21, c_44, et_50, et_4]⟩
set_option maxHeartbeats 4000000 in
theorem t_whole_2 {g : zG} {L : Nat → Nat} {I : Nat → Nat → Int32} {J : Nat → Nat → Int64} {Gb : Nat → Nat → Int32} {X : zX} (hL : tok g L) {kd pl : Nat → Nat} {cnt a f : Nat} (hT : s_tk (I 4) (I 5) kd pl cnt) (ha : a ≤ cnt) (hf : f < 2 ^ 20) {cs : List (Nat × Int32)} (hcs : cs.length ≤ a) : zN g m_X5_whole ({ frames := 16, cells := 0, slots := 0, locals := 353 } : Room) [.ref (L 99), .int 3] (tX g L (s_rd (s_cd I cs) a f) J Gb X) (fun rv X' => ∃ (a' f' : Nat) (cs' : List (Nat × Int32)), rv = none ∧ X' = tX g L (s_rd (s_cd I cs') a' f') J Gb X ∧ a' ≤ cnt ∧ f' < 2 ^ 20 ∧ a ≤ a' ∧ cs'.length + a ≤ cs.length + a' ∧ s_whole kd (J 6) (J 9) (s_part kd pl (J 6) (J 9) 2) (a, f, cs) = (a', f', cs')) := by
  refine zN.of (by decide +kernel) (Nat.le_of_ble_eq_true rfl) rfl ?_
  refine z_lv (lv' := [(0, .ref (L 99)), (1, .int 3)]) [0, 1] rfl ?_
  have hT2 := hT.2
  obtain ⟨hk9, hp9, hk4, hp4, hke⟩ := hT.1 a ha
  refine z_aload_n 0 dX5_whole_0 rfl ?_
  refine z_iload_n 1 dX5_whole_1 rfl ?_
  refine z_callV (As := [.int 3]) (t_test_2 (I := I) hL hT (a := a) (f := f) (by omega) (by omega) (cs := cs) (by first | omega | (simp only [List.length_append, List.length_singleton]; omega))) q1786 q1788 qs76 q121 q1789 nm_X5_test (tX_obj hL) rfl rfl rfl (Nat.le_of_ble_eq_true rfl) ⟨Nat.le_of_ble_eq_true rfl, Nat.le_of_ble_eq_true rfl⟩ dX5_whole_2 rfl rfl (Nat.le_of_ble_eq_true rfl) (Nat.le_of_ble_eq_true rfl) (fun v_9 X_10 hp_11 => ?_)
  obtain ⟨a_1, f_2, cs_3, rfl, rfl, h_5, h_6, h_7, h_8, et_4⟩ := hp_11
  refine z_st (st' := []) rfl ?_
  have loop_15 : ∀ (q_12 : Nat) (m_16 : Nat) (a9_17 : Nat) (f9_18 : Nat) (c9_19 : List (Nat × Int32)), (a9_17 ≤ cnt) → (f9_18 < 2 ^ 20) → (a ≤ a9_17) → (c9_19.length + a ≤ cs.length + a9_17) → (cnt < m_16 + a9_17) → (s_whl kd (J 6) (J 9) (s_part kd pl (J 6) (J 9) 2) m_16 (a9_17, f9_18, c9_19) = s_whole kd (J 6) (J 9) (s_part kd pl (J 6) (J 9) 2) (a, f, cs)) → m_16 < q_12 → zZ g m_X5_whole (fun rv X' => ∃ (a' f' : Nat) (cs' : List (Nat × Int32)), rv = none ∧ X' = tX g L (s_rd (s_cd I cs') a' f') J Gb X ∧ a' ≤ cnt ∧ f' < 2 ^ 20 ∧ a ≤ a' ∧ cs'.length + a ≤ cs.length + a' ∧ s_whole kd (J 6) (J 9) (s_part kd pl (J 6) (J 9) 2) (a, f, cs) = (a', f', cs'), zno, ({ frames := 16, cells := 0, slots := 0, locals := 353 } : Room)) 0 0 (tX g L (s_rd (s_cd I c9_19) a9_17 f9_18) J Gb X) 5 [(0, .ref (L 99)), (1, .int 3)] [] := by
    intro q_12
    induction q_12 with
    | zero => intro m_16 a9_17 f9_18 c9_19 h1_20 h2_21 h3_22 h4_23 h5_24 h6_25 hm_14; exact absurd hm_14 (Nat.not_lt_zero _)
    | succ q_12 ih_13 =>
      intro m_16 a9_17 f9_18 c9_19 h1_20 h2_21 h3_22 h4_23 h5_24 h6_25 hm_14
      obtain ⟨m_26, rfl⟩ : ∃ m9, m_16 = m9 + 1 := ⟨m_16 - 1, by omega⟩
      refine z_aload_n 0 dX5_whole_5 rfl ?_
      refine z_bipush (v := 19) dX5_whole_6 (by decide) ?_
      refine z_callV (As := [.int 19]) (t_isWord (I := (s_cd I c9_19)) hL hT (a := a9_17) (f := f9_18) (by omega) (by omega) 19 (by omega)) q1719 q1721 qs60 q121 q1722 nm_X5_isWord (tX_obj hL) rfl rfl rfl (Nat.le_of_ble_eq_true rfl) ⟨Nat.le_of_ble_eq_true rfl, Nat.le_of_ble_eq_true rfl⟩ dX5_whole_8 rfl rfl (Nat.le_of_ble_eq_true rfl) (Nat.le_of_ble_eq_true rfl) (fun v_27 X_28 hp_29 => ?_)
      obtain ⟨rfl, rfl⟩ := hp_29
      refine z_st (st' := [.int (zb (s_isW kd (J 6) (J 9) a9_17 f9_18 19))]) rfl ?_
      refine z_if_neb 23 dX5_whole_11 (by decide) (fun c_30 => ?_) (fun c_30 => ?_)
      · -- s_isW kd (J 6) (J 9) a9_17 f9_18 19 = true
        have q_31k := (s_isW_k c_30).2
        have q_31e := (hT.1 a9_17 (by omega)).2.2.2.2
        refine z_aload_n 0 dX5_whole_23 rfl ?_
        refine z_bipush (v := 19) dX5_whole_24 (by decide) ?_
        refine z_callV (As := [.int 19]) (t_isWord (I := (s_cd I c9_19)) hL hT (a := a9_17) (f := f9_18) (by omega) (by omega) 19 (by omega)) q1719 q1721 qs60 q121 q1722 nm_X5_isWord (tX_obj hL) rfl rfl rfl (Nat.le_of_ble_eq_true rfl) ⟨Nat.le_of_ble_eq_true rfl, Nat.le_of_ble_eq_true rfl⟩ dX5_whole_26 rfl rfl (Nat.le_of_ble_eq_true rfl) (Nat.le_of_ble_eq_true rfl) (fun v_32 X_33 hp_34 => ?_)
        obtain ⟨rfl, rfl⟩ := hp_34
        refine z_st (st' := [.int (zb (s_isW kd (J 6) (J 9) a9_17 f9_18 19))]) rfl ?_
        refine z_istore_n (lv' := [(2, .int (zb (s_isW kd (J 6) (J 9) a9_17 f9_18 19))), (0, .ref (L 99)), (1, .int 3)]) dX5_whole_29 rfl (by decide) rfl ?_
        refine z_aload_n 1 dX5_whole_30 rfl ?_
        refine z_dup dX5_whole_31 rfl ?_
        refine tz_get (v := .int (nI (a9_17))) 7 hL (by decide) q1600 rfl dX5_whole_32 ?_
        refine z_iconst (v := 1) dX5_whole_35 (by decide) ?_
        refine z_iaddN (a := a9_17) (b := 1) dX5_whole_36 ?_
        refine tz_put (I' := (s_rd (s_cd I c9_19) (a9_17 + 1) f9_18)) 7 hL (by decide) q1600 s_rd_7 dX5_whole_37 ?_
        refine z_aload_n 1 dX5_whole_40 rfl ?_
        refine z_iload_n 2 dX5_whole_41 rfl ?_
        refine z_callV (As := [.int 3]) (t_test_2 (I := I) hL hT (a := a9_17 + 1) (f := f9_18) (by omega) (by omega) (cs := c9_19) (by first | omega | (simp only [List.length_append, List.length_singleton]; omega))) q1786 q1788 qs76 q121 q1789 nm_X5_test (tX_obj hL) rfl rfl rfl (Nat.le_of_ble_eq_true rfl) ⟨Nat.le_of_ble_eq_true rfl, Nat.le_of_ble_eq_true rfl⟩ dX5_whole_42 rfl rfl (Nat.le_of_ble_eq_true rfl) (Nat.le_of_ble_eq_true rfl) (fun v_43 X_44 hp_45 => ?_)
        obtain ⟨a_35, f_36, cs_37, rfl, rfl, h_39, h_40, h_41, h_42, et_38⟩ := hp_45
        refine z_st (st' := []) rfl ?_
        refine z_aload_n 1 dX5_whole_45 rfl ?_
        refine z_iload_n 0 dX5_whole_46 rfl ?_
        refine z_if_eqb 55 dX5_whole_47 (by decide) (fun c_ => absurd (c_30.symm.trans c_) (by decide)) (fun _ => ?_)
        refine z_bipush (v := 9) dX5_whole_50 (by decide) ?_
        refine z_goto 57 dX5_whole_52 (by decide) ?_
        refine z_iconst (v := 0) dX5_whole_57 (by decide) ?_
        refine z_callV (As := [.int 9, .int 0]) (t_emit (I := I) hL (cs := cs_37) (a := a_35) (f := f_36) (by omega) 9 0) q1806 q1808 qs81 q121 q1809 nm_X5_emit (tX_obj hL) rfl rfl rfl (Nat.le_of_ble_eq_true rfl) ⟨Nat.le_of_ble_eq_true rfl, Nat.le_of_ble_eq_true rfl⟩ dX5_whole_58 rfl rfl (Nat.le_of_ble_eq_true rfl) (Nat.le_of_ble_eq_true rfl) (fun v_46 X_47 hp_48 => ?_)
        obtain ⟨rfl, rfl⟩ := hp_48
        refine z_st (st' := []) rfl ?_
        refine z_goto 5 dX5_whole_61 (by decide) ?_
        refine z_lv (lv' := [(0, .ref (L 99)), (1, .int 3)]) [1, 2] rfl ?_
        exact ih_13 m_26 a_35 f_36 (cs_37 ++ [(9, 0)]) (by omega) (by omega) (by omega) (by simp only [List.length_append, List.length_singleton]; omega) (by omega) (by rw [← h6_25]; symm; show (if (s_isW kd (J 6) (J 9) a9_17 f9_18 19 || s_isW kd (J 6) (J 9) a9_17 f9_18 20) = true then s_whl kd (J 6) (J 9) (s_part kd pl (J 6) (J 9) 2) m_26 (s_emit ((s_tst kd (J 6) (s_part kd pl (J 6) (J 9) 2)) (a9_17 + 1, f9_18, c9_19)) (if s_isW kd (J 6) (J 9) a9_17 f9_18 19 = true then 9 else 10) 0) else _) = _; rw [if_pos (by rw [c_30]; rfl), if_pos c_30, et_38]; rfl) (by omega)
      · -- s_isW kd (J 6) (J 9) a9_17 f9_18 19 = false
        refine z_aload_n 0 dX5_whole_14 rfl ?_
        refine z_bipush (v := 20) dX5_whole_15 (by decide) ?_
        refine z_callV (As := [.int 20]) (t_isWord (I := (s_cd I c9_19)) hL hT (a := a9_17) (f := f9_18) (by omega) (by omega) 20 (by omega)) q1719 q1721 qs60 q121 q1722 nm_X5_isWord (tX_obj hL) rfl rfl rfl (Nat.le_of_ble_eq_true rfl) ⟨Nat.le_of_ble_eq_true rfl, Nat.le_of_ble_eq_true rfl⟩ dX5_whole_17 rfl rfl (Nat.le_of_ble_eq_true rfl) (Nat.le_of_ble_eq_true rfl) (fun v_49 X_50 hp_51 => ?_)
        obtain ⟨rfl, rfl⟩ := hp_51
        refine z_st (st' := [.int (zb (s_isW kd (J 6) (J 9) a9_17 f9_18 20))]) rfl ?_
        refine z_if_eqb 64 dX5_whole_20 (by decide) (fun c_52 => ?_) (fun c_52 => ?_)
        · -- s_isW kd (J 6) (J 9) a9_17 f9_18 20 = false
          exact z_vret dX5_whole_64 rfl (Nat.le_of_ble_eq_true rfl) (Nat.le_of_ble_eq_true rfl) ⟨a9_17, f9_18, c9_19, rfl, rfl, (by omega), (by omega), (by omega), (by omega), h6_25.symm.trans (by show (if (s_isW kd (J 6) (J 9) a9_17 f9_18 19 || s_isW kd (J 6) (J 9) a9_17 f9_18 20) = true then _ else _) = _; rw [if_neg (by rw [c_30, c_52]; decide)])⟩
        · -- s_isW kd (J 6) (J 9) a9_17 f9_18 20 = true
          have q_53k := (s_isW_k c_52).2
          have q_53e := (hT.1 a9_17 (by omega)).2.2.2.2
          refine z_aload_n 0 dX5_whole_23 rfl ?_
          refine z_bipush (v := 19) dX5_whole_24 (by decide) ?_
          refine z_callV (As := [.int 19]) (t_isWord (I := (s_cd I c9_19)) hL hT (a := a9_17) (f := f9_18) (by omega) (by omega) 19 (by omega)) q1719 q1721 qs60 q121 q1722 nm_X5_isWord (tX_obj hL) rfl rfl rfl (Nat.le_of_ble_eq_true rfl) ⟨Nat.le_of_ble_eq_true rfl, Nat.le_of_ble_eq_true rfl⟩ dX5_whole_26 rfl rfl (Nat.le_of_ble_eq_true rfl) (Nat.le_of_ble_eq_true rfl) (fun v_54 X_55 hp_56 => ?_)
          obtain ⟨rfl, rfl⟩ := hp_56
          refine z_st (st' := [.int (zb (s_isW kd (J 6) (J 9) a9_17 f9_18 19))]) rfl ?_
          refine z_istore_n (lv' := [(2, .int (zb (s_isW kd (J 6) (J 9) a9_17 f9_18 19))), (0, .ref (L 99)), (1, .int 3)]) dX5_whole_29 rfl (by decide) rfl ?_
          refine z_aload_n 1 dX5_whole_30 rfl ?_
          refine z_dup dX5_whole_31 rfl ?_
          refine tz_get (v := .int (nI (a9_17))) 7 hL (by decide) q1600 rfl dX5_whole_32 ?_
          refine z_iconst (v := 1) dX5_whole_35 (by decide) ?_
          refine z_iaddN (a := a9_17) (b := 1) dX5_whole_36 ?_
          refine tz_put (I' := (s_rd (s_cd I c9_19) (a9_17 + 1) f9_18)) 7 hL (by decide) q1600 s_rd_7 dX5_whole_37 ?_
          refine z_aload_n 1 dX5_whole_40 rfl ?_
          refine z_iload_n 2 dX5_whole_41 rfl ?_
          refine z_callV (As := [.int 3]) (t_test_2 (I := I) hL hT (a := a9_17 + 1) (f := f9_18) (by omega) (by omega) (cs := c9_19) (by first | omega | (simp only [List.length_append, List.length_singleton]; omega))) q1786 q1788 qs76 q121 q1789 nm_X5_test (tX_obj hL) rfl rfl rfl (Nat.le_of_ble_eq_true rfl) ⟨Nat.le_of_ble_eq_true rfl, Nat.le_of_ble_eq_true rfl⟩ dX5_whole_42 rfl rfl (Nat.le_of_ble_eq_true rfl) (Nat.le_of_ble_eq_true rfl) (fun v_65 X_66 hp_67 => ?_)
          obtain ⟨a_57, f_58, cs_59, rfl, rfl, h_61, h_62, h_63, h_64, et_60⟩ := hp_67
          refine z_st (st' := []) rfl ?_
          refine z_aload_n 1 dX5_whole_45 rfl ?_
          refine z_iload_n 0 dX5_whole_46 rfl ?_
          refine z_if_eqb 55 dX5_whole_47 (by decide) (fun _ => ?_) (fun c_ => absurd (c_30.symm.trans c_) (by decide))
          refine z_bipush (v := 10) dX5_whole_55 (by decide) ?_
          refine z_iconst (v := 0) dX5_whole_57 (by decide) ?_
          refine z_callV (As := [.int 10, .int 0]) (t_emit (I := I) hL (cs := cs_59) (a := a_57) (f := f_58) (by omega) 10 0) q1806 q1808 qs81 q121 q1809 nm_X5_emit (tX_obj hL) rfl rfl rfl (Nat.le_of_ble_eq_true rfl) ⟨Nat.le_of_ble_eq_true rfl, Nat.le_of_ble_eq_true rfl⟩ dX5_whole_58 rfl rfl (Nat.le_of_ble_eq_true rfl) (Nat.le_of_ble_eq_true rfl) (fun v_68 X_69 hp_70 => ?_)
          obtain ⟨rfl, rfl⟩ := hp_70
          refine z_st (st' := []) rfl ?_
          refine z_goto 5 dX5_whole_61 (by decide) ?_
          refine z_lv (lv' := [(0, .ref (L 99)), (1, .int 3)]) [1, 2] rfl ?_
          exact ih_13 m_26 a_57 f_58 (cs_59 ++ [(10, 0)]) (by omega) (by omega) (by omega) (by simp only [List.length_append, List.length_singleton]; omega) (by omega) (by rw [← h6_25]; symm; show (if (s_isW kd (J 6) (J 9) a9_17 f9_18 19 || s_isW kd (J 6) (J 9) a9_17 f9_18 20) = true then s_whl kd (J 6) (J 9) (s_part kd pl (J 6) (J 9) 2) m_26 (s_emit ((s_tst kd (J 6) (s_part kd pl (J 6) (J 9) 2)) (a9_17 + 1, f9_18, c9_19)) (if s_isW kd (J 6) (J 9) a9_17 f9_18 19 = true then 9 else 10) 0) else _) = _; rw [if_pos (by rw [c_30, c_52]; rfl), if_neg (by rw [c_30]; decide), et_60]; rfl) (by omega)
  exact loop_15 (1001 + 1) 1001 a_1 f_2 cs_3 (by omega) (by omega) (by omega) (by omega) (by omega) (by show _ = s_whl kd (J 6) (J 9) (s_part kd pl (J 6) (J 9) 2) 1001 (s_tst kd (J 6) (s_part kd pl (J 6) (J 9) 2) (a, f, cs)); rw [et_4]) (Nat.lt_succ_self _)
set_option maxHeartbeats 4000000 in
theorem t_takePart_3 {g : zG} {L : Nat → Nat} {I : Nat → Nat → Int32} {J : Nat → Nat → Int64} {Gb : Nat → Nat → Int32} {X : zX} (hL : tok g L) {kd pl : Nat → Nat} {cnt a f : Nat} (hT : s_tk (I 4) (I 5) kd pl cnt) (ha : a ≤ cnt) (hf : f < 2 ^ 20) {cs : List (Nat × Int32)} (hcs : cs.length ≤ a) : zN g m_X5_takePart ({ frames := 17, cells := 0, slots := 0, locals := 375 } : Room) [.ref (L 99), .int 2] (tX g L (s_rd (s_cd I cs) a f) J Gb X) (fun rv X' => ∃ (a' f' : Nat) (cs' : List (Nat × Int32)), rv = none ∧ X' = tX g L (s_rd (s_cd I cs') a' f') J Gb X ∧ a' ≤ cnt ∧ f' < 2 ^ 20 ∧ a ≤ a' ∧ cs'.length + a ≤ cs.length + a' ∧ s_part kd pl (J 6) (J 9) 3 (a, f, cs) = (a', f', cs')) := by
  refine zN.of (by decide +kernel) (Nat.le_of_ble_eq_true rfl) rfl ?_
  refine z_lv (lv' := [(0, .ref (L 99)), (1, .int 2)]) [0, 1] rfl ?_
  have hT2 := hT.2
  obtain ⟨hk9, hp9, hk4, hp4, hke⟩ := hT.1 a ha
  refine z_aload_n 0 dX5_takePart_0 rfl ?_
  refine tz_get (v := .int (nI (f))) 8 hL (by decide) q1601 rfl dX5_takePart_1 ?_
  refine z_if_leN 8 (by omega) dX5_takePart_4 (by decide) (fun c_1 => ?_) (fun c_1 => ?_)
  · -- f = 0
    subst c_1
    refine z_aload_n 0 dX5_takePart_8 rfl ?_
    refine tz_get (v := .ref (L 4)) 4 hL (by decide) q1597 rfl dX5_takePart_9 ?_
    refine z_aload_n 0 dX5_takePart_12 rfl ?_
    refine tz_get (v := .int (nI (a))) 7 hL (by decide) q1600 rfl dX5_takePart_13 ?_
    refine tz_iald (v := nI ((kd a))) 4 (a) hL (by decide) rfl (by show a < 1002; omega) hk9 dX5_takePart_16 ?_
    refine z_iconst (v := 2) dX5_takePart_17 (by decide) ?_
    refine z_icmp_neN (a := (kd a)) (b := 2) 25 (by omega) (by omega) dX5_takePart_18 (by decide) (fun c_2 => ?_) (fun c_2 => ?_)
    · -- (kd a) ≠ 2
      refine z_iconst (v := 0) dX5_takePart_25 (by decide) ?_
      refine z_istore_n (lv' := [(2, .int 0), (0, .ref (L 99)), (1, .int 2)]) dX5_takePart_26 rfl (by decide) rfl ?_
      refine z_aload_n 1 dX5_takePart_27 rfl ?_
      refine z_bipush (v := 21) dX5_takePart_28 (by decide) ?_
      refine z_iconst (v := 4) dX5_takePart_30 (by decide) ?_
      refine z_callV (As := [.int 21, .int 4]) (t_wordHere (I := (s_cd I cs)) hL hT (a := a) (f := 0) (by omega) (by omega) 21 4 (by omega)) q1735 q1737 qs64 q121 q1738 nm_X5_wordHere (tX_obj hL) rfl rfl rfl (Nat.le_of_ble_eq_true rfl) ⟨Nat.le_of_ble_eq_true rfl, Nat.le_of_ble_eq_true rfl⟩ dX5_takePart_31 rfl rfl (Nat.le_of_ble_eq_true rfl) (Nat.le_of_ble_eq_true rfl) (fun v_3 X_4 hp_5 => ?_)
      obtain ⟨rfl, rfl⟩ := hp_5
      refine z_st (st' := [.int (s_wh kd (J 6) (J 9) a 0 21 4)]) rfl ?_
      refine z_istore_n (lv' := [(3, .int (s_wh kd (J 6) (J 9) a 0 21 4)), (2, .int 0), (0, .ref (L 99)), (1, .int 2)]) dX5_takePart_34 rfl (by decide) rfl ?_
      refine z_iload_n 0 dX5_takePart_35 rfl ?_
      refine z_if_ge 69 dX5_takePart_36 (by decide) (fun c_6 => ?_) (fun c_6 => ?_)
      · -- 0 ≤ s_wh kd (J 6) (J 9) a 0 21 4
        have c_6' := Int32.not_lt.mpr c_6
        refine z_iload_n 3 dX5_takePart_69 rfl ?_
        refine z_iconst (v := 5) dX5_takePart_70 (by decide) ?_
        refine z_icmp_neN (a := 2) (b := 5) 79 (by decide) (by decide) dX5_takePart_71 (by decide) (fun h_ => ?_) (fun h_ => absurd h_ (by decide))
        refine z_aload_n 2 dX5_takePart_79 rfl ?_
        refine tz_get (v := .int 0) 8 hL (by decide) q1601 rfl dX5_takePart_80 ?_
        refine z_if_le 87 dX5_takePart_83 (by decide) (fun h_ => ?_) (fun h_ => absurd h_ (by decide))
        refine z_aload_n 2 dX5_takePart_87 rfl ?_
        refine z_bipush (v := 18) dX5_takePart_88 (by decide) ?_
        refine z_callV (As := [.int 18]) (t_hasWord (I := (s_cd I cs)) hL hT (a := a) (f := 0) (by omega) (by omega) 18 (by omega)) q1751 q1753 qs68 q121 q1754 nm_X5_hasWord (tX_obj hL) rfl rfl rfl (Nat.le_of_ble_eq_true rfl) ⟨Nat.le_of_ble_eq_true rfl, Nat.le_of_ble_eq_true rfl⟩ dX5_takePart_90 rfl rfl (Nat.le_of_ble_eq_true rfl) (Nat.le_of_ble_eq_true rfl) (fun v_10 X_11 hp_12 => ?_)
        obtain ⟨a_7, rfl, rfl, ha_9, eh_8⟩ := hp_12
        refine z_st (st' := [.int (zb (s_isW kd (J 6) (J 9) a 0 18))]) rfl ?_
        refine z_if_eqb 112 dX5_takePart_93 (by decide) (fun c_13 => ?_) (fun c_13 => ?_)
        · -- s_isW kd (J 6) (J 9) a 0 18 = false
          have q_14 : a = a_7 := by rw [← eh_8]; unfold s_hW; rw [c_13]; rfl
          subst q_14
          refine z_aload_n 2 dX5_takePart_112 rfl ?_
          refine z_bipush (v := 40) dX5_takePart_113 (by decide) ?_
          refine z_callV (As := [.int 40]) (t_hasSign (I := (s_cd I cs)) hL hT (a := a) (f := 0) (by omega) (by omega) 40) q1810 q1812 qs82 q121 q1813 nm_X5_hasSign (tX_obj hL) rfl rfl rfl (Nat.le_of_ble_eq_true rfl) ⟨Nat.le_of_ble_eq_true rfl, Nat.le_of_ble_eq_true rfl⟩ dX5_takePart_115 rfl rfl (Nat.le_of_ble_eq_true rfl) (Nat.le_of_ble_eq_true rfl) (fun v_18 X_19 hp_20 => ?_)
          obtain ⟨a_15, rfl, rfl, ha_17, eh_16⟩ := hp_20
          refine z_st (st' := [.int (zb (s_isS kd (J 6) a 0 40))]) rfl ?_
          refine z_if_eqb 137 dX5_takePart_118 (by decide) (fun c_21 => ?_) (fun c_21 => ?_)
          · -- s_isS kd (J 6) a 0 40 = false
            have q_22 : a = a_15 := by rw [← eh_16]; unfold s_hS; rw [c_21]; rfl
            subst q_22
            refine z_aload_n 2 dX5_takePart_137 rfl ?_
            refine z_iload_n 1 dX5_takePart_138 rfl ?_
            refine z_if_eq 146 dX5_takePart_139 (by decide) (fun h_ => ?_) (fun h_ => absurd h_ (by decide))
            refine z_iconst (v := 2) dX5_takePart_146 (by decide) ?_
            refine z_iload_n 1 dX5_takePart_147 rfl ?_
            refine z_if_eq 164 dX5_takePart_148 (by decide) (fun h_ => ?_) (fun h_ => absurd h_ (by decide))
            refine z_iload_n 0 dX5_takePart_164 rfl ?_
            refine z_callV (As := [.int 2, .int (s_wh kd (J 6) (J 9) a 0 21 4)]) (t_emit (I := I) hL (cs := cs) (a := a) (f := 0) (by omega) 2 (s_wh kd (J 6) (J 9) a 0 21 4)) q1806 q1808 qs81 q121 q1809 nm_X5_emit (tX_obj hL) rfl rfl rfl (Nat.le_of_ble_eq_true rfl) ⟨Nat.le_of_ble_eq_true rfl, Nat.le_of_ble_eq_true rfl⟩ dX5_takePart_165 rfl rfl (Nat.le_of_ble_eq_true rfl) (Nat.le_of_ble_eq_true rfl) (fun v_23 X_24 hp_25 => ?_)
            obtain ⟨rfl, rfl⟩ := hp_25
            refine z_st (st' := []) rfl ?_
            refine z_aload_n 2 dX5_takePart_168 rfl ?_
            refine z_dup dX5_takePart_169 rfl ?_
            refine tz_get (v := .int (nI (a))) 7 hL (by decide) q1600 rfl dX5_takePart_170 ?_
            refine z_iconst (v := 1) dX5_takePart_173 (by decide) ?_
            refine z_iaddN (a := a) (b := 1) dX5_takePart_174 ?_
            refine tz_put (I' := (s_rd (s_cd I (cs ++ [(2, s_wh kd (J 6) (J 9) a 0 21 4)])) (a + 1) 0)) 7 hL (by decide) q1600 s_rd_7 dX5_takePart_175 ?_
            exact z_vret dX5_takePart_178 rfl (Nat.le_of_ble_eq_true rfl) (Nat.le_of_ble_eq_true rfl) ⟨(a + 1), 0, (cs ++ [(2, s_wh kd (J 6) (J 9) a 0 21 4)]), rfl, rfl, (by rcases s_wh_k (kd := kd) (vl := J 6) (wd := J 9) (a := a) (f := 0) (w := 21) 4 with h9 | h9; exact absurd h9 (by assumption); omega), (by omega), (by omega), (by simp only [List.length_append, List.length_singleton]; omega), by rw [s_part_1 (r := 2)]; simp [s_emit, c_2, c_6, c_6', c_13, c_21]⟩
          · -- s_isS kd (J 6) a 0 40 = true
            have q_26 : a + 1 = a_15 := by rw [← eh_16]; unfold s_hS; rw [c_21]; rfl
            subst q_26
            have q_26k := (s_isS_k c_21).2
            have q_26e := (hT.1 a (by omega)).2.2.2.2
            refine z_aload_n 2 dX5_takePart_121 rfl ?_
            refine z_iload_n 3 dX5_takePart_122 rfl ?_
            refine z_iconst (v := 1) dX5_takePart_123 (by decide) ?_
            refine z_iaddN (a := 2) (b := 1) dX5_takePart_124 ?_
            refine z_eq (y := 3) (by decide) ?_
            refine z_callV (As := [.int 3]) (t_whole_2 (I := I) hL hT (a := a + 1) (f := 0) (by omega) (by omega) (cs := cs) (by first | omega | (simp only [List.length_append, List.length_singleton]; omega))) q1782 q1784 qs75 q121 q1785 nm_X5_whole (tX_obj hL) rfl rfl rfl (Nat.le_of_ble_eq_true rfl) ⟨Nat.le_of_ble_eq_true rfl, Nat.le_of_ble_eq_true rfl⟩ dX5_takePart_125 rfl rfl (Nat.le_of_ble_eq_true rfl) (Nat.le_of_ble_eq_true rfl) (fun v_35 X_36 hp_37 => ?_)
            obtain ⟨a_27, f_28, cs_29, rfl, rfl, h_31, h_32, h_33, h_34, et_30⟩ := hp_37
            refine z_st (st' := []) rfl ?_
            refine z_aload_n 2 dX5_takePart_128 rfl ?_
            refine z_bipush (v := 41) dX5_takePart_129 (by decide) ?_
            refine z_callV (As := [.int 41]) (t_takeSign (I := (s_cd I cs_29)) hL hT (a := a_27) (f := f_28) (by omega) (by omega) 41 ) q1814 q1816 qs83 q121 q1817 nm_X5_takeSign (tX_obj hL) rfl rfl rfl (Nat.le_of_ble_eq_true rfl) ⟨Nat.le_of_ble_eq_true rfl, Nat.le_of_ble_eq_true rfl⟩ dX5_takePart_131 rfl rfl (Nat.le_of_ble_eq_true rfl) (Nat.le_of_ble_eq_true rfl) (fun v_43 X_44 hp_45 => ?_)
            obtain ⟨a_38, f_39, rfl, rfl, ha_41, hf_42, et_40⟩ := hp_45
            have hle9 := (s_tS_k et_40).1
            refine z_st (st' := []) rfl ?_
            refine z_goto 178 dX5_takePart_134 (by decide) ?_
            exact z_vret dX5_takePart_178 rfl (Nat.le_of_ble_eq_true rfl) (Nat.le_of_ble_eq_true rfl) ⟨a_38, f_39, cs_29, rfl, rfl, (by omega), (by omega), (by omega), (by omega), by rw [s_part_1 (r := 2)]; simp [s_emit, c_2, c_6, c_6', c_13, c_21, et_40, et_30]⟩
        · -- s_isW kd (J 6) (J 9) a 0 18 = true
          have q_46 : a + 1 = a_7 := by rw [← eh_8]; unfold s_hW; rw [c_13]; rfl
          subst q_46
          have q_46k := (s_isW_k c_13).2
          have q_46e := (hT.1 a (by omega)).2.2.2.2
          refine z_aload_n 2 dX5_takePart_96 rfl ?_
          refine z_iload_n 3 dX5_takePart_97 rfl ?_
          refine z_iconst (v := 1) dX5_takePart_98 (by decide) ?_
          refine z_iaddN (a := 2) (b := 1) dX5_takePart_99 ?_
          refine z_eq (y := 3) (by decide) ?_
          refine z_callV (As := [.int 3]) (t_takePart_2 (I := I) hL hT (a := a + 1) (f := 0) (by omega) (by omega) (cs := cs) (by first | omega | (simp only [List.length_append, List.length_singleton]; omega))) q1798 q1800 qs79 q121 q1801 nm_X5_takePart (tX_obj hL) rfl rfl rfl (Nat.le_of_ble_eq_true rfl) ⟨Nat.le_of_ble_eq_true rfl, Nat.le_of_ble_eq_true rfl⟩ dX5_takePart_100 rfl rfl (Nat.le_of_ble_eq_true rfl) (Nat.le_of_ble_eq_true rfl) (fun v_55 X_56 hp_57 => ?_)
          obtain ⟨a_47, f_48, cs_49, rfl, rfl, h_51, h_52, h_53, h_54, et_50⟩ := hp_57
          refine z_st (st' := []) rfl ?_
          refine z_aload_n 2 dX5_takePart_103 rfl ?_
          refine z_iconst (v := 3) dX5_takePart_104 (by decide) ?_
          refine z_iconst (v := 0) dX5_takePart_105 (by decide) ?_
          refine z_callV (As := [.int 3, .int 0]) (t_emit (I := I) hL (cs := cs_49) (a := a_47) (f := f_48) (by omega) 3 0) q1806 q1808 qs81 q121 q1809 nm_X5_emit (tX_obj hL) rfl rfl rfl (Nat.le_of_ble_eq_true rfl) ⟨Nat.le_of_ble_eq_true rfl, Nat.le_of_ble_eq_true rfl⟩ dX5_takePart_106 rfl rfl (Nat.le_of_ble_eq_true rfl) (Nat.le_of_ble_eq_true rfl) (fun v_58 X_59 hp_60 => ?_)
          obtain ⟨rfl, rfl⟩ := hp_60
          refine z_st (st' := []) rfl ?_
          refine z_goto 178 dX5_takePart_109 (by decide) ?_
          exact z_vret dX5_takePart_178 rfl (Nat.le_of_ble_eq_true rfl) (Nat.le_of_ble_eq_true rfl) ⟨a_47, f_48, (cs_49 ++ [(3, 0)]), rfl, rfl, (by omega), (by omega), (by omega), (by simp only [List.length_append, List.length_singleton]; omega), by rw [s_part_1 (r := 2)]; simp [s_emit, c_2, c_6, c_6', c_13, et_50]⟩
      · -- ¬ 0 ≤ s_wh kd (J 6) (J 9) a 0 21 4
        have c_6' := Int32.not_le.mp c_6
        refine z_iload_n 1 dX5_takePart_39 rfl ?_
        refine z_if_ne 69 dX5_takePart_40 (by decide) (fun h_ => absurd h_ (by decide)) (fun h_ => ?_)
        refine z_aload_n 2 dX5_takePart_43 rfl ?_
        refine z_bipush (v := 40) dX5_takePart_44 (by decide) ?_
        refine z_callV (As := [.int 40]) (t_isSign (I := (s_cd I cs)) hL hT (a := a) (f := 0) (by omega) (by omega) 40) q1802 q1804 qs80 q121 q1805 nm_X5_isSign (tX_obj hL) rfl rfl rfl (Nat.le_of_ble_eq_true rfl) ⟨Nat.le_of_ble_eq_true rfl, Nat.le_of_ble_eq_true rfl⟩ dX5_takePart_46 rfl rfl (Nat.le_of_ble_eq_true rfl) (Nat.le_of_ble_eq_true rfl) (fun v_61 X_62 hp_63 => ?_)
        obtain ⟨rfl, rfl⟩ := hp_63
        refine z_st (st' := [.int (zb (s_isS kd (J 6) a 0 40))]) rfl ?_
        refine z_if_neb 69 dX5_takePart_49 (by decide) (fun c_64 => ?_) (fun c_64 => ?_)
        · -- s_isS kd (J 6) a 0 40 = true
          refine z_iload_n 3 dX5_takePart_69 rfl ?_
          refine z_iconst (v := 5) dX5_takePart_70 (by decide) ?_
          refine z_icmp_neN (a := 2) (b := 5) 79 (by decide) (by decide) dX5_takePart_71 (by decide) (fun h_ => ?_) (fun h_ => absurd h_ (by decide))
          refine z_aload_n 2 dX5_takePart_79 rfl ?_
          refine tz_get (v := .int 0) 8 hL (by decide) q1601 rfl dX5_takePart_80 ?_
          refine z_if_le 87 dX5_takePart_83 (by decide) (fun h_ => ?_) (fun h_ => absurd h_ (by decide))
          refine z_aload_n 2 dX5_takePart_87 rfl ?_
          refine z_bipush (v := 18) dX5_takePart_88 (by decide) ?_
          refine z_callV (As := [.int 18]) (t_hasWord (I := (s_cd I cs)) hL hT (a := a) (f := 0) (by omega) (by omega) 18 (by omega)) q1751 q1753 qs68 q121 q1754 nm_X5_hasWord (tX_obj hL) rfl rfl rfl (Nat.le_of_ble_eq_true rfl) ⟨Nat.le_of_ble_eq_true rfl, Nat.le_of_ble_eq_true rfl⟩ dX5_takePart_90 rfl rfl (Nat.le_of_ble_eq_true rfl) (Nat.le_of_ble_eq_true rfl) (fun v_68 X_69 hp_70 => ?_)
          obtain ⟨a_65, rfl, rfl, ha_67, eh_66⟩ := hp_70
          refine z_st (st' := [.int (zb (s_isW kd (J 6) (J 9) a 0 18))]) rfl ?_
          refine z_if_eqb 112 dX5_takePart_93 (by decide) (fun c_71 => ?_) (fun c_71 => ?_)
          · -- s_isW kd (J 6) (J 9) a 0 18 = false
            have q_72 : a = a_65 := by rw [← eh_66]; unfold s_hW; rw [c_71]; rfl
            subst q_72
            refine z_aload_n 2 dX5_takePart_112 rfl ?_
            refine z_bipush (v := 40) dX5_takePart_113 (by decide) ?_
            refine z_callV (As := [.int 40]) (t_hasSign (I := (s_cd I cs)) hL hT (a := a) (f := 0) (by omega) (by omega) 40) q1810 q1812 qs82 q121 q1813 nm_X5_hasSign (tX_obj hL) rfl rfl rfl (Nat.le_of_ble_eq_true rfl) ⟨Nat.le_of_ble_eq_true rfl, Nat.le_of_ble_eq_true rfl⟩ dX5_takePart_115 rfl rfl (Nat.le_of_ble_eq_true rfl) (Nat.le_of_ble_eq_true rfl) (fun v_76 X_77 hp_78 => ?_)
            obtain ⟨a_73, rfl, rfl, ha_75, eh_74⟩ := hp_78
            refine z_st (st' := [.int (zb (s_isS kd (J 6) a 0 40))]) rfl ?_
            refine z_if_eqb 137 dX5_takePart_118 (by decide) (fun c_ => absurd (c_64.symm.trans c_) (by decide)) (fun _ => ?_)
            have q_79 : a + 1 = a_73 := by rw [← eh_74]; unfold s_hS; rw [c_64]; rfl
            subst q_79
            have q_79k := (s_isS_k c_64).2
            have q_79e := (hT.1 a (by omega)).2.2.2.2
            refine z_aload_n 2 dX5_takePart_121 rfl ?_
            refine z_iload_n 3 dX5_takePart_122 rfl ?_
            refine z_iconst (v := 1) dX5_takePart_123 (by decide) ?_
            refine z_iaddN (a := 2) (b := 1) dX5_takePart_124 ?_
            refine z_eq (y := 3) (by decide) ?_
            refine z_callV (As := [.int 3]) (t_whole_2 (I := I) hL hT (a := a + 1) (f := 0) (by omega) (by omega) (cs := cs) (by first | omega | (simp only [List.length_append, List.length_singleton]; omega))) q1782 q1784 qs75 q121 q1785 nm_X5_whole (tX_obj hL) rfl rfl rfl (Nat.le_of_ble_eq_true rfl) ⟨Nat.le_of_ble_eq_true rfl, Nat.le_of_ble_eq_true rfl⟩ dX5_takePart_125 rfl rfl (Nat.le_of_ble_eq_true rfl) (Nat.le_of_ble_eq_true rfl) (fun v_88 X_89 hp_90 => ?_)
            obtain ⟨a_80, f_81, cs_82, rfl, rfl, h_84, h_85, h_86, h_87, et_83⟩ := hp_90
            refine z_st (st' := []) rfl ?_
            refine z_aload_n 2 dX5_takePart_128 rfl ?_
            refine z_bipush (v := 41) dX5_takePart_129 (by decide) ?_
            refine z_callV (As := [.int 41]) (t_takeSign (I := (s_cd I cs_82)) hL hT (a := a_80) (f := f_81) (by omega) (by omega) 41 ) q1814 q1816 qs83 q121 q1817 nm_X5_takeSign (tX_obj hL) rfl rfl rfl (Nat.le_of_ble_eq_true rfl) ⟨Nat.le_of_ble_eq_true rfl, Nat.le_of_ble_eq_true rfl⟩ dX5_takePart_131 rfl rfl (Nat.le_of_ble_eq_true rfl) (Nat.le_of_ble_eq_true rfl) (fun v_96 X_97 hp_98 => ?_)
            obtain ⟨a_91, f_92, rfl, rfl, ha_94, hf_95, et_93⟩ := hp_98
            have hle9 := (s_tS_k et_93).1
            refine z_st (st' := []) rfl ?_
            refine z_goto 178 dX5_takePart_134 (by decide) ?_
            exact z_vret dX5_takePart_178 rfl (Nat.le_of_ble_eq_true rfl) (Nat.le_of_ble_eq_true rfl) ⟨a_91, f_92, cs_82, rfl, rfl, (by omega), (by omega), (by omega), (by omega), by rw [s_part_1 (r := 2)]; simp [s_emit, c_2, c_6, c_6', c_64, c_71, et_93, et_83]⟩
          · -- s_isW kd (J 6) (J 9) a 0 18 = true
            have q_99 : a + 1 = a_65 := by rw [← eh_66]; unfold s_hW; rw [c_71]; rfl
            subst q_99
            have q_99k := (s_isW_k c_71).2
            have q_99e := (hT.1 a (by omega)).2.2.2.2
            refine z_aload_n 2 dX5_takePart_96 rfl ?_
            refine z_iload_n 3 dX5_takePart_97 rfl ?_
            refine z_iconst (v := 1) dX5_takePart_98 (by decide) ?_
            refine z_iaddN (a := 2) (b := 1) dX5_takePart_99 ?_
            refine z_eq (y := 3) (by decide) ?_
            refine z_callV (As := [.int 3]) (t_takePart_2 (I := I) hL hT (a := a + 1) (f := 0) (by omega) (by omega) (cs := cs) (by first | omega | (simp only [List.length_append, List.length_singleton]; omega))) q1798 q1800 qs79 q121 q1801 nm_X5_takePart (tX_obj hL) rfl rfl rfl (Nat.le_of_ble_eq_true rfl) ⟨Nat.le_of_ble_eq_true rfl, Nat.le_of_ble_eq_true rfl⟩ dX5_takePart_100 rfl rfl (Nat.le_of_ble_eq_true rfl) (Nat.le_of_ble_eq_true rfl) (fun v_108 X_109 hp_110 => ?_)
            obtain ⟨a_100, f_101, cs_102, rfl, rfl, h_104, h_105, h_106, h_107, et_103⟩ := hp_110
            refine z_st (st' := []) rfl ?_
            refine z_aload_n 2 dX5_takePart_103 rfl ?_
            refine z_iconst (v := 3) dX5_takePart_104 (by decide) ?_
            refine z_iconst (v := 0) dX5_takePart_105 (by decide) ?_
            refine z_callV (As := [.int 3, .int 0]) (t_emit (I := I) hL (cs := cs_102) (a := a_100) (f := f_101) (by omega) 3 0) q1806 q1808 qs81 q121 q1809 nm_X5_emit (tX_obj hL) rfl rfl rfl (Nat.le_of_ble_eq_true rfl) ⟨Nat.le_of_ble_eq_true rfl, Nat.le_of_ble_eq_true rfl⟩ dX5_takePart_106 rfl rfl (Nat.le_of_ble_eq_true rfl) (Nat.le_of_ble_eq_true rfl) (fun v_111 X_112 hp_113 => ?_)
            obtain ⟨rfl, rfl⟩ := hp_113
            refine z_st (st' := []) rfl ?_
            refine z_goto 178 dX5_takePart_109 (by decide) ?_
            exact z_vret dX5_takePart_178 rfl (Nat.le_of_ble_eq_true rfl) (Nat.le_of_ble_eq_true rfl) ⟨a_100, f_101, (cs_102 ++ [(3, 0)]), rfl, rfl, (by omega), (by omega), (by omega), (by simp only [List.length_append, List.length_singleton]; omega), by rw [s_part_1 (r := 2)]; simp [s_emit, c_2, c_6, c_6', c_64, c_71, et_103]⟩
        · -- s_isS kd (J 6) a 0 40 = false
          refine z_aload_n 2 dX5_takePart_52 rfl ?_
          refine z_bipush (v := 18) dX5_takePart_53 (by decide) ?_
          refine z_callV (As := [.int 18]) (t_isWord (I := (s_cd I cs)) hL hT (a := a) (f := 0) (by omega) (by omega) 18 (by omega)) q1719 q1721 qs60 q121 q1722 nm_X5_isWord (tX_obj hL) rfl rfl rfl (Nat.le_of_ble_eq_true rfl) ⟨Nat.le_of_ble_eq_true rfl, Nat.le_of_ble_eq_true rfl⟩ dX5_takePart_55 rfl rfl (Nat.le_of_ble_eq_true rfl) (Nat.le_of_ble_eq_true rfl) (fun v_114 X_115 hp_116 => ?_)
          obtain ⟨rfl, rfl⟩ := hp_116
          refine z_st (st' := [.int (zb (s_isW kd (J 6) (J 9) a 0 18))]) rfl ?_
          refine z_if_neb 69 dX5_takePart_58 (by decide) (fun c_117 => ?_) (fun c_117 => ?_)
          · -- s_isW kd (J 6) (J 9) a 0 18 = true
            refine z_iload_n 3 dX5_takePart_69 rfl ?_
            refine z_iconst (v := 5) dX5_takePart_70 (by decide) ?_
            refine z_icmp_neN (a := 2) (b := 5) 79 (by decide) (by decide) dX5_takePart_71 (by decide) (fun h_ => ?_) (fun h_ => absurd h_ (by decide))
            refine z_aload_n 2 dX5_takePart_79 rfl ?_
            refine tz_get (v := .int 0) 8 hL (by decide) q1601 rfl dX5_takePart_80 ?_
            refine z_if_le 87 dX5_takePart_83 (by decide) (fun h_ => ?_) (fun h_ => absurd h_ (by decide))
            refine z_aload_n 2 dX5_takePart_87 rfl ?_
            refine z_bipush (v := 18) dX5_takePart_88 (by decide) ?_
            refine z_callV (As := [.int 18]) (t_hasWord (I := (s_cd I cs)) hL hT (a := a) (f := 0) (by omega) (by omega) 18 (by omega)) q1751 q1753 qs68 q121 q1754 nm_X5_hasWord (tX_obj hL) rfl rfl rfl (Nat.le_of_ble_eq_true rfl) ⟨Nat.le_of_ble_eq_true rfl, Nat.le_of_ble_eq_true rfl⟩ dX5_takePart_90 rfl rfl (Nat.le_of_ble_eq_true rfl) (Nat.le_of_ble_eq_true rfl) (fun v_121 X_122 hp_123 => ?_)
            obtain ⟨a_118, rfl, rfl, ha_120, eh_119⟩ := hp_123
            refine z_st (st' := [.int (zb (s_isW kd (J 6) (J 9) a 0 18))]) rfl ?_
            refine z_if_eqb 112 dX5_takePart_93 (by decide) (fun c_ => absurd (c_117.symm.trans c_) (by decide)) (fun _ => ?_)
            have q_124 : a + 1 = a_118 := by rw [← eh_119]; unfold s_hW; rw [c_117]; rfl
            subst q_124
            have q_124k := (s_isW_k c_117).2
            have q_124e := (hT.1 a (by omega)).2.2.2.2
            refine z_aload_n 2 dX5_takePart_96 rfl ?_
            refine z_iload_n 3 dX5_takePart_97 rfl ?_
            refine z_iconst (v := 1) dX5_takePart_98 (by decide) ?_
            refine z_iaddN (a := 2) (b := 1) dX5_takePart_99 ?_
            refine z_eq (y := 3) (by decide) ?_
            refine z_callV (As := [.int 3]) (t_takePart_2 (I := I) hL hT (a := a + 1) (f := 0) (by omega) (by omega) (cs := cs) (by first | omega | (simp only [List.length_append, List.length_singleton]; omega))) q1798 q1800 qs79 q121 q1801 nm_X5_takePart (tX_obj hL) rfl rfl rfl (Nat.le_of_ble_eq_true rfl) ⟨Nat.le_of_ble_eq_true rfl, Nat.le_of_ble_eq_true rfl⟩ dX5_takePart_100 rfl rfl (Nat.le_of_ble_eq_true rfl) (Nat.le_of_ble_eq_true rfl) (fun v_133 X_134 hp_135 => ?_)
            obtain ⟨a_125, f_126, cs_127, rfl, rfl, h_129, h_130, h_131, h_132, et_128⟩ := hp_135
            refine z_st (st' := []) rfl ?_
            refine z_aload_n 2 dX5_takePart_103 rfl ?_
            refine z_iconst (v := 3) dX5_takePart_104 (by decide) ?_
            refine z_iconst (v := 0) dX5_takePart_105 (by decide) ?_
            refine z_callV (As := [.int 3, .int 0]) (t_emit (I := I) hL (cs := cs_127) (a := a_125) (f := f_126) (by omega) 3 0) q1806 q1808 qs81 q121 q1809 nm_X5_emit (tX_obj hL) rfl rfl rfl (Nat.le_of_ble_eq_true rfl) ⟨Nat.le_of_ble_eq_true rfl, Nat.le_of_ble_eq_true rfl⟩ dX5_takePart_106 rfl rfl (Nat.le_of_ble_eq_true rfl) (Nat.le_of_ble_eq_true rfl) (fun v_136 X_137 hp_138 => ?_)
            obtain ⟨rfl, rfl⟩ := hp_138
            refine z_st (st' := []) rfl ?_
            refine z_goto 178 dX5_takePart_109 (by decide) ?_
            exact z_vret dX5_takePart_178 rfl (Nat.le_of_ble_eq_true rfl) (Nat.le_of_ble_eq_true rfl) ⟨a_125, f_126, (cs_127 ++ [(3, 0)]), rfl, rfl, (by omega), (by omega), (by omega), (by simp only [List.length_append, List.length_singleton]; omega), by rw [s_part_1 (r := 2)]; simp [s_emit, c_2, c_6, c_6', c_64, c_117, et_128]⟩
          · -- s_isW kd (J 6) (J 9) a 0 18 = false
            refine z_aload_n 2 dX5_takePart_61 rfl ?_
            refine z_iconst (v := 1) dX5_takePart_62 (by decide) ?_
            refine z_callV (As := [.int 1]) (t_wrong (I := (s_cd I cs)) hL hT (a := a) (f := 0) (by omega) (by omega) 1 (by omega)) q1727 q1729 qs62 q121 q1730 nm_X5_wrong (tX_obj hL) rfl rfl rfl (Nat.le_of_ble_eq_true rfl) ⟨Nat.le_of_ble_eq_true rfl, Nat.le_of_ble_eq_true rfl⟩ dX5_takePart_63 rfl rfl (Nat.le_of_ble_eq_true rfl) (Nat.le_of_ble_eq_true rfl) (fun v_142 X_143 hp_144 => ?_)
            obtain ⟨rfl, rfl⟩ := hp_144
            obtain ⟨f_139, ⟨hf_140, hf_140p⟩, ef_141⟩ := s_wr_n (pl := pl) (a := a) (f := 0) (w := 1) (hT.1 a (by omega)).2.2.2.1 (by omega) (by decide)
            have hf_140p := hf_140p (by decide)
            refine z_X (X' := (tX g L (s_rd (s_cd I cs) a f_139) J Gb X)) (by rw [ef_141]) ?_
            refine z_st (st' := []) rfl ?_
            refine z_goto 79 dX5_takePart_66 (by decide) ?_
            refine z_aload_n 2 dX5_takePart_79 rfl ?_
            refine tz_get (v := .int (nI (f_139))) 8 hL (by decide) q1601 rfl dX5_takePart_80 ?_
            refine z_if_leN 87 (by omega) dX5_takePart_83 (by decide) (fun h_ => absurd h_ (by omega)) (fun h_ => ?_)
            exact z_vret dX5_takePart_86 rfl (Nat.le_of_ble_eq_true rfl) (Nat.le_of_ble_eq_true rfl) ⟨a, f_139, cs, rfl, rfl, (by omega), (by omega), (by omega), (by omega), by rw [s_part_1 (r := 2)]; simp [s_emit, c_2, c_6, c_6', c_64, c_117, ← ef_141]⟩
    · -- (kd a) = 2
      refine z_iconst (v := 1) dX5_takePart_21 (by decide) ?_
      refine z_goto 26 dX5_takePart_22 (by decide) ?_
      refine z_istore_n (lv' := [(2, .int 1), (0, .ref (L 99)), (1, .int 2)]) dX5_takePart_26 rfl (by decide) rfl ?_
      refine z_aload_n 1 dX5_takePart_27 rfl ?_
      refine z_bipush (v := 21) dX5_takePart_28 (by decide) ?_
      refine z_iconst (v := 4) dX5_takePart_30 (by decide) ?_
      refine z_callV (As := [.int 21, .int 4]) (t_wordHere (I := (s_cd I cs)) hL hT (a := a) (f := 0) (by omega) (by omega) 21 4 (by omega)) q1735 q1737 qs64 q121 q1738 nm_X5_wordHere (tX_obj hL) rfl rfl rfl (Nat.le_of_ble_eq_true rfl) ⟨Nat.le_of_ble_eq_true rfl, Nat.le_of_ble_eq_true rfl⟩ dX5_takePart_31 rfl rfl (Nat.le_of_ble_eq_true rfl) (Nat.le_of_ble_eq_true rfl) (fun v_145 X_146 hp_147 => ?_)
      obtain ⟨rfl, rfl⟩ := hp_147
      refine z_st (st' := [.int (s_wh kd (J 6) (J 9) a 0 21 4)]) rfl ?_
      refine z_istore_n (lv' := [(3, .int (s_wh kd (J 6) (J 9) a 0 21 4)), (2, .int 1), (0, .ref (L 99)), (1, .int 2)]) dX5_takePart_34 rfl (by decide) rfl ?_
      refine z_iload_n 0 dX5_takePart_35 rfl ?_
      refine z_if_ge 69 dX5_takePart_36 (by decide) (fun c_148 => ?_) (fun c_148 => ?_)
      · -- 0 ≤ s_wh kd (J 6) (J 9) a 0 21 4
        have c_148' := Int32.not_lt.mpr c_148
        refine z_iload_n 3 dX5_takePart_69 rfl ?_
        refine z_iconst (v := 5) dX5_takePart_70 (by decide) ?_
        refine z_icmp_neN (a := 2) (b := 5) 79 (by decide) (by decide) dX5_takePart_71 (by decide) (fun h_ => ?_) (fun h_ => absurd h_ (by decide))
        refine z_aload_n 2 dX5_takePart_79 rfl ?_
        refine tz_get (v := .int 0) 8 hL (by decide) q1601 rfl dX5_takePart_80 ?_
        refine z_if_le 87 dX5_takePart_83 (by decide) (fun h_ => ?_) (fun h_ => absurd h_ (by decide))
        refine z_aload_n 2 dX5_takePart_87 rfl ?_
        refine z_bipush (v := 18) dX5_takePart_88 (by decide) ?_
        refine z_callV (As := [.int 18]) (t_hasWord (I := (s_cd I cs)) hL hT (a := a) (f := 0) (by omega) (by omega) 18 (by omega)) q1751 q1753 qs68 q121 q1754 nm_X5_hasWord (tX_obj hL) rfl rfl rfl (Nat.le_of_ble_eq_true rfl) ⟨Nat.le_of_ble_eq_true rfl, Nat.le_of_ble_eq_true rfl⟩ dX5_takePart_90 rfl rfl (Nat.le_of_ble_eq_true rfl) (Nat.le_of_ble_eq_true rfl) (fun v_152 X_153 hp_154 => ?_)
        obtain ⟨a_149, rfl, rfl, ha_151, eh_150⟩ := hp_154
        refine z_st (st' := [.int (zb (s_isW kd (J 6) (J 9) a 0 18))]) rfl ?_
        refine z_if_eqb 112 dX5_takePart_93 (by decide) (fun c_155 => ?_) (fun c_155 => ?_)
        · -- s_isW kd (J 6) (J 9) a 0 18 = false
          have q_156 : a = a_149 := by rw [← eh_150]; unfold s_hW; rw [c_155]; rfl
          subst q_156
          refine z_aload_n 2 dX5_takePart_112 rfl ?_
          refine z_bipush (v := 40) dX5_takePart_113 (by decide) ?_
          refine z_callV (As := [.int 40]) (t_hasSign (I := (s_cd I cs)) hL hT (a := a) (f := 0) (by omega) (by omega) 40) q1810 q1812 qs82 q121 q1813 nm_X5_hasSign (tX_obj hL) rfl rfl rfl (Nat.le_of_ble_eq_true rfl) ⟨Nat.le_of_ble_eq_true rfl, Nat.le_of_ble_eq_true rfl⟩ dX5_takePart_115 rfl rfl (Nat.le_of_ble_eq_true rfl) (Nat.le_of_ble_eq_true rfl) (fun v_160 X_161 hp_162 => ?_)
          obtain ⟨a_157, rfl, rfl, ha_159, eh_158⟩ := hp_162
          refine z_st (st' := [.int (zb (s_isS kd (J 6) a 0 40))]) rfl ?_
          refine z_if_eqb 137 dX5_takePart_118 (by decide) (fun c_163 => ?_) (fun c_163 => ?_)
          · -- s_isS kd (J 6) a 0 40 = false
            have q_164 : a = a_157 := by rw [← eh_158]; unfold s_hS; rw [c_163]; rfl
            subst q_164
            refine z_aload_n 2 dX5_takePart_137 rfl ?_
            refine z_iload_n 1 dX5_takePart_138 rfl ?_
            refine z_if_eq 146 dX5_takePart_139 (by decide) (fun h_ => absurd h_ (by decide)) (fun h_ => ?_)
            refine z_iconst (v := 1) dX5_takePart_142 (by decide) ?_
            refine z_goto 147 dX5_takePart_143 (by decide) ?_
            refine z_iload_n 1 dX5_takePart_147 rfl ?_
            refine z_if_eq 164 dX5_takePart_148 (by decide) (fun h_ => absurd h_ (by decide)) (fun h_ => ?_)
            refine z_aload_n 2 dX5_takePart_151 rfl ?_
            refine tz_get (v := .ref (L 6)) 6 hL (by decide) q1599 rfl dX5_takePart_152 ?_
            refine z_aload_n 2 dX5_takePart_155 rfl ?_
            refine tz_get (v := .int (nI (a))) 7 hL (by decide) q1600 rfl dX5_takePart_156 ?_
            refine tz_lald (v := J 6 a) 6 (a) hL (by decide) rfl (by show a < 1002; omega) rfl dX5_takePart_159 ?_
            refine z_l2i (v := (J 6 a).toInt32) dX5_takePart_160 rfl ?_
            refine z_goto 165 dX5_takePart_161 (by decide) ?_
            refine z_callV (As := [.int 1, .int ((J 6 a).toInt32)]) (t_emit (I := I) hL (cs := cs) (a := a) (f := 0) (by omega) 1 ((J 6 a).toInt32)) q1806 q1808 qs81 q121 q1809 nm_X5_emit (tX_obj hL) rfl rfl rfl (Nat.le_of_ble_eq_true rfl) ⟨Nat.le_of_ble_eq_true rfl, Nat.le_of_ble_eq_true rfl⟩ dX5_takePart_165 rfl rfl (Nat.le_of_ble_eq_true rfl) (Nat.le_of_ble_eq_true rfl) (fun v_165 X_166 hp_167 => ?_)
            obtain ⟨rfl, rfl⟩ := hp_167
            refine z_st (st' := []) rfl ?_
            refine z_aload_n 2 dX5_takePart_168 rfl ?_
            refine z_dup dX5_takePart_169 rfl ?_
            refine tz_get (v := .int (nI (a))) 7 hL (by decide) q1600 rfl dX5_takePart_170 ?_
            refine z_iconst (v := 1) dX5_takePart_173 (by decide) ?_
            refine z_iaddN (a := a) (b := 1) dX5_takePart_174 ?_
            refine tz_put (I' := (s_rd (s_cd I (cs ++ [(1, (J 6 a).toInt32)])) (a + 1) 0)) 7 hL (by decide) q1600 s_rd_7 dX5_takePart_175 ?_
            exact z_vret dX5_takePart_178 rfl (Nat.le_of_ble_eq_true rfl) (Nat.le_of_ble_eq_true rfl) ⟨(a + 1), 0, (cs ++ [(1, (J 6 a).toInt32)]), rfl, rfl, (by omega), (by omega), (by omega), (by simp only [List.length_append, List.length_singleton]; omega), by rw [s_part_1 (r := 2)]; simp [s_emit, c_2, c_148, c_148', c_155, c_163]⟩
          · -- s_isS kd (J 6) a 0 40 = true
            have q_168 : a + 1 = a_157 := by rw [← eh_158]; unfold s_hS; rw [c_163]; rfl
            subst q_168
            have q_168k := (s_isS_k c_163).2
            have q_168e := (hT.1 a (by omega)).2.2.2.2
            refine z_aload_n 2 dX5_takePart_121 rfl ?_
            refine z_iload_n 3 dX5_takePart_122 rfl ?_
            refine z_iconst (v := 1) dX5_takePart_123 (by decide) ?_
            refine z_iaddN (a := 2) (b := 1) dX5_takePart_124 ?_
            refine z_eq (y := 3) (by decide) ?_
            refine z_callV (As := [.int 3]) (t_whole_2 (I := I) hL hT (a := a + 1) (f := 0) (by omega) (by omega) (cs := cs) (by first | omega | (simp only [List.length_append, List.length_singleton]; omega))) q1782 q1784 qs75 q121 q1785 nm_X5_whole (tX_obj hL) rfl rfl rfl (Nat.le_of_ble_eq_true rfl) ⟨Nat.le_of_ble_eq_true rfl, Nat.le_of_ble_eq_true rfl⟩ dX5_takePart_125 rfl rfl (Nat.le_of_ble_eq_true rfl) (Nat.le_of_ble_eq_true rfl) (fun v_177 X_178 hp_179 => ?_)
            obtain ⟨a_169, f_170, cs_171, rfl, rfl, h_173, h_174, h_175, h_176, et_172⟩ := hp_179
            refine z_st (st' := []) rfl ?_
            refine z_aload_n 2 dX5_takePart_128 rfl ?_
            refine z_bipush (v := 41) dX5_takePart_129 (by decide) ?_
            refine z_callV (As := [.int 41]) (t_takeSign (I := (s_cd I cs_171)) hL hT (a := a_169) (f := f_170) (by omega) (by omega) 41 ) q1814 q1816 qs83 q121 q1817 nm_X5_takeSign (tX_obj hL) rfl rfl rfl (Nat.le_of_ble_eq_true rfl) ⟨Nat.le_of_ble_eq_true rfl, Nat.le_of_ble_eq_true rfl⟩ dX5_takePart_131 rfl rfl (Nat.le_of_ble_eq_true rfl) (Nat.le_of_ble_eq_true rfl) (fun v_185 X_186 hp_187 => ?_)
            obtain ⟨a_180, f_181, rfl, rfl, ha_183, hf_184, et_182⟩ := hp_187
            have hle9 := (s_tS_k et_182).1
            refine z_st (st' := []) rfl ?_
            refine z_goto 178 dX5_takePart_134 (by decide) ?_
            exact z_vret dX5_takePart_178 rfl (Nat.le_of_ble_eq_true rfl) (Nat.le_of_ble_eq_true rfl) ⟨a_180, f_181, cs_171, rfl, rfl, (by omega), (by omega), (by omega), (by omega), by rw [s_part_1 (r := 2)]; simp [s_emit, c_2, c_148, c_148', c_155, c_163, et_182, et_172]⟩
        · -- s_isW kd (J 6) (J 9) a 0 18 = true
          have q_188 : a + 1 = a_149 := by rw [← eh_150]; unfold s_hW; rw [c_155]; rfl
          subst q_188
          have q_188k := (s_isW_k c_155).2
          have q_188e := (hT.1 a (by omega)).2.2.2.2
          refine z_aload_n 2 dX5_takePart_96 rfl ?_
          refine z_iload_n 3 dX5_takePart_97 rfl ?_
          refine z_iconst (v := 1) dX5_takePart_98 (by decide) ?_
          refine z_iaddN (a := 2) (b := 1) dX5_takePart_99 ?_
          refine z_eq (y := 3) (by decide) ?_
          refine z_callV (As := [.int 3]) (t_takePart_2 (I := I) hL hT (a := a + 1) (f := 0) (by omega) (by omega) (cs := cs) (by first | omega | (simp only [List.length_append, List.length_singleton]; omega))) q1798 q1800 qs79 q121 q1801 nm_X5_takePart (tX_obj hL) rfl rfl rfl (Nat.le_of_ble_eq_true rfl) ⟨Nat.le_of_ble_eq_true rfl, Nat.le_of_ble_eq_true rfl⟩ dX5_takePart_100 rfl rfl (Nat.le_of_ble_eq_true rfl) (Nat.le_of_ble_eq_true rfl) (fun v_197 X_198 hp_199 => ?_)
          obtain ⟨a_189, f_190, cs_191, rfl, rfl, h_193, h_194, h_195, h_196, et_192⟩ := hp_199
          refine z_st (st' := []) rfl ?_
          refine z_aload_n 2 dX5_takePart_103 rfl ?_
          refine z_iconst (v := 3) dX5_takePart_104 (by decide) ?_
          refine z_iconst (v := 0) dX5_takePart_105 (by decide) ?_
          refine z_callV (As := [.int 3, .int 0]) (t_emit (I := I) hL (cs := cs_191) (a := a_189) (f := f_190) (by omega) 3 0) q1806 q1808 qs81 q121 q1809 nm_X5_emit (tX_obj hL) rfl rfl rfl (Nat.le_of_ble_eq_true rfl) ⟨Nat.le_of_ble_eq_true rfl, Nat.le_of_ble_eq_true rfl⟩ dX5_takePart_106 rfl rfl (Nat.le_of_ble_eq_true rfl) (Nat.le_of_ble_eq_true rfl) (fun v_200 X_201 hp_202 => ?_)
          obtain ⟨rfl, rfl⟩ := hp_202
          refine z_st (st' := []) rfl ?_
          refine z_goto 178 dX5_takePart_109 (by decide) ?_
          exact z_vret dX5_takePart_178 rfl (Nat.le_of_ble_eq_true rfl) (Nat.le_of_ble_eq_true rfl) ⟨a_189, f_190, (cs_191 ++ [(3, 0)]), rfl, rfl, (by omega), (by omega), (by omega), (by simp only [List.length_append, List.length_singleton]; omega), by rw [s_part_1 (r := 2)]; simp [s_emit, c_2, c_148, c_148', c_155, et_192]⟩
      · -- ¬ 0 ≤ s_wh kd (J 6) (J 9) a 0 21 4
        have c_148' := Int32.not_le.mp c_148
        refine z_iload_n 1 dX5_takePart_39 rfl ?_
        refine z_if_ne 69 dX5_takePart_40 (by decide) (fun h_ => ?_) (fun h_ => absurd h_ (by decide))
        refine z_iload_n 3 dX5_takePart_69 rfl ?_
        refine z_iconst (v := 5) dX5_takePart_70 (by decide) ?_
        refine z_icmp_neN (a := 2) (b := 5) 79 (by decide) (by decide) dX5_takePart_71 (by decide) (fun h_ => ?_) (fun h_ => absurd h_ (by decide))
        refine z_aload_n 2 dX5_takePart_79 rfl ?_
        refine tz_get (v := .int 0) 8 hL (by decide) q1601 rfl dX5_takePart_80 ?_
        refine z_if_le 87 dX5_takePart_83 (by decide) (fun h_ => ?_) (fun h_ => absurd h_ (by decide))
        refine z_aload_n 2 dX5_takePart_87 rfl ?_
        refine z_bipush (v := 18) dX5_takePart_88 (by decide) ?_
        refine z_callV (As := [.int 18]) (t_hasWord (I := (s_cd I cs)) hL hT (a := a) (f := 0) (by omega) (by omega) 18 (by omega)) q1751 q1753 qs68 q121 q1754 nm_X5_hasWord (tX_obj hL) rfl rfl rfl (Nat.le_of_ble_eq_true rfl) ⟨Nat.le_of_ble_eq_true rfl, Nat.le_of_ble_eq_true rfl⟩ dX5_takePart_90 rfl rfl (Nat.le_of_ble_eq_true rfl) (Nat.le_of_ble_eq_true rfl) (fun v_206 X_207 hp_208 => ?_)
        obtain ⟨a_203, rfl, rfl, ha_205, eh_204⟩ := hp_208
        refine z_st (st' := [.int (zb (s_isW kd (J 6) (J 9) a 0 18))]) rfl ?_
        refine z_if_eqb 112 dX5_takePart_93 (by decide) (fun c_209 => ?_) (fun c_209 => ?_)
        · -- s_isW kd (J 6) (J 9) a 0 18 = false
          have q_210 : a = a_203 := by rw [← eh_204]; unfold s_hW; rw [c_209]; rfl
          subst q_210
          refine z_aload_n 2 dX5_takePart_112 rfl ?_
          refine z_bipush (v := 40) dX5_takePart_113 (by decide) ?_
          refine z_callV (As := [.int 40]) (t_hasSign (I := (s_cd I cs)) hL hT (a := a) (f := 0) (by omega) (by omega) 40) q1810 q1812 qs82 q121 q1813 nm_X5_hasSign (tX_obj hL) rfl rfl rfl (Nat.le_of_ble_eq_true rfl) ⟨Nat.le_of_ble_eq_true rfl, Nat.le_of_ble_eq_true rfl⟩ dX5_takePart_115 rfl rfl (Nat.le_of_ble_eq_true rfl) (Nat.le_of_ble_eq_true rfl) (fun v_214 X_215 hp_216 => ?_)
          obtain ⟨a_211, rfl, rfl, ha_213, eh_212⟩ := hp_216
          refine z_st (st' := [.int (zb (s_isS kd (J 6) a 0 40))]) rfl ?_
          refine z_if_eqb 137 dX5_takePart_118 (by decide) (fun c_217 => ?_) (fun c_217 => ?_)
          · -- s_isS kd (J 6) a 0 40 = false
            have q_218 : a = a_211 := by rw [← eh_212]; unfold s_hS; rw [c_217]; rfl
            subst q_218
            refine z_aload_n 2 dX5_takePart_137 rfl ?_
            refine z_iload_n 1 dX5_takePart_138 rfl ?_
            refine z_if_eq 146 dX5_takePart_139 (by decide) (fun h_ => absurd h_ (by decide)) (fun h_ => ?_)
            refine z_iconst (v := 1) dX5_takePart_142 (by decide) ?_
            refine z_goto 147 dX5_takePart_143 (by decide) ?_
            refine z_iload_n 1 dX5_takePart_147 rfl ?_
            refine z_if_eq 164 dX5_takePart_148 (by decide) (fun h_ => absurd h_ (by decide)) (fun h_ => ?_)
            refine z_aload_n 2 dX5_takePart_151 rfl ?_
            refine tz_get (v := .ref (L 6)) 6 hL (by decide) q1599 rfl dX5_takePart_152 ?_
            refine z_aload_n 2 dX5_takePart_155 rfl ?_
            refine tz_get (v := .int (nI (a))) 7 hL (by decide) q1600 rfl dX5_takePart_156 ?_
            refine tz_lald (v := J 6 a) 6 (a) hL (by decide) rfl (by show a < 1002; omega) rfl dX5_takePart_159 ?_
            refine z_l2i (v := (J 6 a).toInt32) dX5_takePart_160 rfl ?_
            refine z_goto 165 dX5_takePart_161 (by decide) ?_
            refine z_callV (As := [.int 1, .int ((J 6 a).toInt32)]) (t_emit (I := I) hL (cs := cs) (a := a) (f := 0) (by omega) 1 ((J 6 a).toInt32)) q1806 q1808 qs81 q121 q1809 nm_X5_emit (tX_obj hL) rfl rfl rfl (Nat.le_of_ble_eq_true rfl) ⟨Nat.le_of_ble_eq_true rfl, Nat.le_of_ble_eq_true rfl⟩ dX5_takePart_165 rfl rfl (Nat.le_of_ble_eq_true rfl) (Nat.le_of_ble_eq_true rfl) (fun v_219 X_220 hp_221 => ?_)
            obtain ⟨rfl, rfl⟩ := hp_221
            refine z_st (st' := []) rfl ?_
            refine z_aload_n 2 dX5_takePart_168 rfl ?_
            refine z_dup dX5_takePart_169 rfl ?_
            refine tz_get (v := .int (nI (a))) 7 hL (by decide) q1600 rfl dX5_takePart_170 ?_
            refine z_iconst (v := 1) dX5_takePart_173 (by decide) ?_
            refine z_iaddN (a := a) (b := 1) dX5_takePart_174 ?_
            refine tz_put (I' := (s_rd (s_cd I (cs ++ [(1, (J 6 a).toInt32)])) (a + 1) 0)) 7 hL (by decide) q1600 s_rd_7 dX5_takePart_175 ?_
            exact z_vret dX5_takePart_178 rfl (Nat.le_of_ble_eq_true rfl) (Nat.le_of_ble_eq_true rfl) ⟨(a + 1), 0, (cs ++ [(1, (J 6 a).toInt32)]), rfl, rfl, (by omega), (by omega), (by omega), (by simp only [List.length_append, List.length_singleton]; omega), by rw [s_part_1 (r := 2)]; simp [s_emit, c_2, c_148, c_148', c_209, c_217]⟩
          · -- s_isS kd (J 6) a 0 40 = true
            have q_222 : a + 1 = a_211 := by rw [← eh_212]; unfold s_hS; rw [c_217]; rfl
            subst q_222
            have q_222k := (s_isS_k c_217).2
            have q_222e := (hT.1 a (by omega)).2.2.2.2
            refine z_aload_n 2 dX5_takePart_121 rfl ?_
            refine z_iload_n 3 dX5_takePart_122 rfl ?_
            refine z_iconst (v := 1) dX5_takePart_123 (by decide) ?_
            refine z_iaddN (a := 2) (b := 1) dX5_takePart_124 ?_
            refine z_eq (y := 3) (by decide) ?_
            refine z_callV (As := [.int 3]) (t_whole_2 (I := I) hL hT (a := a + 1) (f := 0) (by omega) (by omega) (cs := cs) (by first | omega | (simp only [List.length_append, List.length_singleton]; omega))) q1782 q1784 qs75 q121 q1785 nm_X5_whole (tX_obj hL) rfl rfl rfl (Nat.le_of_ble_eq_true rfl) ⟨Nat.le_of_ble_eq_true rfl, Nat.le_of_ble_eq_true rfl⟩ dX5_takePart_125 rfl rfl (Nat.le_of_ble_eq_true rfl) (Nat.le_of_ble_eq_true rfl) (fun v_231 X_232 hp_233 => ?_)
            obtain ⟨a_223, f_224, cs_225, rfl, rfl, h_227, h_228, h_229, h_230, et_226⟩ := hp_233
            refine z_st (st' := []) rfl ?_
            refine z_aload_n 2 dX5_takePart_128 rfl ?_
            refine z_bipush (v := 41) dX5_takePart_129 (by decide) ?_
            refine z_callV (As := [.int 41]) (t_takeSign (I := (s_cd I cs_225)) hL hT (a := a_223) (f := f_224) (by omega) (by omega) 41 ) q1814 q1816 qs83 q121 q1817 nm_X5_takeSign (tX_obj hL) rfl rfl rfl (Nat.le_of_ble_eq_true rfl) ⟨Nat.le_of_ble_eq_true rfl, Nat.le_of_ble_eq_true rfl⟩ dX5_takePart_131 rfl rfl (Nat.le_of_ble_eq_true rfl) (Nat.le_of_ble_eq_true rfl) (fun v_239 X_240 hp_241 => ?_)
            obtain ⟨a_234, f_235, rfl, rfl, ha_237, hf_238, et_236⟩ := hp_241
            have hle9 := (s_tS_k et_236).1
            refine z_st (st' := []) rfl ?_
            refine z_goto 178 dX5_takePart_134 (by decide) ?_
            exact z_vret dX5_takePart_178 rfl (Nat.le_of_ble_eq_true rfl) (Nat.le_of_ble_eq_true rfl) ⟨a_234, f_235, cs_225, rfl, rfl, (by omega), (by omega), (by omega), (by omega), by rw [s_part_1 (r := 2)]; simp [s_emit, c_2, c_148, c_148', c_209, c_217, et_236, et_226]⟩
        · -- s_isW kd (J 6) (J 9) a 0 18 = true
          have q_242 : a + 1 = a_203 := by rw [← eh_204]; unfold s_hW; rw [c_209]; rfl
          subst q_242
          have q_242k := (s_isW_k c_209).2
          have q_242e := (hT.1 a (by omega)).2.2.2.2
          refine z_aload_n 2 dX5_takePart_96 rfl ?_
          refine z_iload_n 3 dX5_takePart_97 rfl ?_
          refine z_iconst (v := 1) dX5_takePart_98 (by decide) ?_
          refine z_iaddN (a := 2) (b := 1) dX5_takePart_99 ?_
          refine z_eq (y := 3) (by decide) ?_
          refine z_callV (As := [.int 3]) (t_takePart_2 (I := I) hL hT (a := a + 1) (f := 0) (by omega) (by omega) (cs := cs) (by first | omega | (simp only [List.length_append, List.length_singleton]; omega))) q1798 q1800 qs79 q121 q1801 nm_X5_takePart (tX_obj hL) rfl rfl rfl (Nat.le_of_ble_eq_true rfl) ⟨Nat.le_of_ble_eq_true rfl, Nat.le_of_ble_eq_true rfl⟩ dX5_takePart_100 rfl rfl (Nat.le_of_ble_eq_true rfl) (Nat.le_of_ble_eq_true rfl) (fun v_251 X_252 hp_253 => ?_)
          obtain ⟨a_243, f_244, cs_245, rfl, rfl, h_247, h_248, h_249, h_250, et_246⟩ := hp_253
          refine z_st (st' := []) rfl ?_
          refine z_aload_n 2 dX5_takePart_103 rfl ?_
          refine z_iconst (v := 3) dX5_takePart_104 (by decide) ?_
          refine z_iconst (v := 0) dX5_takePart_105 (by decide) ?_
          refine z_callV (As := [.int 3, .int 0]) (t_emit (I := I) hL (cs := cs_245) (a := a_243) (f := f_244) (by omega) 3 0) q1806 q1808 qs81 q121 q1809 nm_X5_emit (tX_obj hL) rfl rfl rfl (Nat.le_of_ble_eq_true rfl) ⟨Nat.le_of_ble_eq_true rfl, Nat.le_of_ble_eq_true rfl⟩ dX5_takePart_106 rfl rfl (Nat.le_of_ble_eq_true rfl) (Nat.le_of_ble_eq_true rfl) (fun v_254 X_255 hp_256 => ?_)
          obtain ⟨rfl, rfl⟩ := hp_256
          refine z_st (st' := []) rfl ?_
          refine z_goto 178 dX5_takePart_109 (by decide) ?_
          exact z_vret dX5_takePart_178 rfl (Nat.le_of_ble_eq_true rfl) (Nat.le_of_ble_eq_true rfl) ⟨a_243, f_244, (cs_245 ++ [(3, 0)]), rfl, rfl, (by omega), (by omega), (by omega), (by simp only [List.length_append, List.length_singleton]; omega), by rw [s_part_1 (r := 2)]; simp [s_emit, c_2, c_148, c_148', c_209, et_246]⟩
  · -- 0 < f
    exact z_vret dX5_takePart_7 rfl (Nat.le_of_ble_eq_true rfl) (Nat.le_of_ble_eq_true rfl) ⟨a, f, cs, rfl, rfl, (by omega), (by omega), (by omega), (by omega), by rw [s_part_1 (r := 2)]; simp [s_emit, (show ¬ f = 0 by omega)]⟩
set_option maxHeartbeats 4000000 in
theorem t_products_3 {g : zG} {L : Nat → Nat} {I : Nat → Nat → Int32} {J : Nat → Nat → Int64} {Gb : Nat → Nat → Int32} {X : zX} (hL : tok g L) {kd pl : Nat → Nat} {cnt a f : Nat} (hT : s_tk (I 4) (I 5) kd pl cnt) (ha : a ≤ cnt) (hf : f < 2 ^ 20) {cs : List (Nat × Int32)} (hcs : cs.length ≤ a) : zN g m_X5_products ({ frames := 18, cells := 0, slots := 0, locals := 398 } : Room) [.ref (L 99), .int 2] (tX g L (s_rd (s_cd I cs) a f) J Gb X) (fun rv X' => ∃ (a' f' : Nat) (cs' : List (Nat × Int32)), rv = none ∧ X' = tX g L (s_rd (s_cd I cs') a' f') J Gb X ∧ a' ≤ cnt ∧ f' < 2 ^ 20 ∧ a ≤ a' ∧ cs'.length + a ≤ cs.length + a' ∧ s_prods kd (J 6) (s_part kd pl (J 6) (J 9) 3) (a, f, cs) = (a', f', cs')) := by
  refine zN.of (by decide +kernel) (Nat.le_of_ble_eq_true rfl) rfl ?_
  refine z_lv (lv' := [(0, .ref (L 99)), (1, .int 2)]) [0, 1] rfl ?_
  have hT2 := hT.2
  obtain ⟨hk9, hp9, hk4, hp4, hke⟩ := hT.1 a ha
  refine z_aload_n 0 dX5_products_0 rfl ?_
  refine z_iload_n 1 dX5_products_1 rfl ?_
  refine z_callV (As := [.int 2]) (t_takePart_3 (I := I) hL hT (a := a) (f := f) (by omega) (by omega) (cs := cs) (by first | omega | (simp only [List.length_append, List.length_singleton]; omega))) q1798 q1800 qs79 q121 q1801 nm_X5_takePart (tX_obj hL) rfl rfl rfl (Nat.le_of_ble_eq_true rfl) ⟨Nat.le_of_ble_eq_true rfl, Nat.le_of_ble_eq_true rfl⟩ dX5_products_2 rfl rfl (Nat.le_of_ble_eq_true rfl) (Nat.le_of_ble_eq_true rfl) (fun v_9 X_10 hp_11 => ?_)
  obtain ⟨a_1, f_2, cs_3, rfl, rfl, h_5, h_6, h_7, h_8, et_4⟩ := hp_11
  refine z_st (st' := []) rfl ?_
  have loop_15 : ∀ (q_12 : Nat) (m_16 : Nat) (a9_17 : Nat) (f9_18 : Nat) (c9_19 : List (Nat × Int32)), (a9_17 ≤ cnt) → (f9_18 < 2 ^ 20) → (a ≤ a9_17) → (c9_19.length + a ≤ cs.length + a9_17) → (cnt < m_16 + a9_17) → (s_prl kd (J 6) (s_part kd pl (J 6) (J 9) 3) m_16 (a9_17, f9_18, c9_19) = s_prods kd (J 6) (s_part kd pl (J 6) (J 9) 3) (a, f, cs)) → m_16 < q_12 → zZ g m_X5_products (fun rv X' => ∃ (a' f' : Nat) (cs' : List (Nat × Int32)), rv = none ∧ X' = tX g L (s_rd (s_cd I cs') a' f') J Gb X ∧ a' ≤ cnt ∧ f' < 2 ^ 20 ∧ a ≤ a' ∧ cs'.length + a ≤ cs.length + a' ∧ s_prods kd (J 6) (s_part kd pl (J 6) (J 9) 3) (a, f, cs) = (a', f', cs'), zno, ({ frames := 18, cells := 0, slots := 0, locals := 398 } : Room)) 0 0 (tX g L (s_rd (s_cd I c9_19) a9_17 f9_18) J Gb X) 5 [(0, .ref (L 99)), (1, .int 2)] [] := by
    intro q_12
    induction q_12 with
    | zero => intro m_16 a9_17 f9_18 c9_19 h1_20 h2_21 h3_22 h4_23 h5_24 h6_25 hm_14; exact absurd hm_14 (Nat.not_lt_zero _)
    | succ q_12 ih_13 =>
      intro m_16 a9_17 f9_18 c9_19 h1_20 h2_21 h3_22 h4_23 h5_24 h6_25 hm_14
      obtain ⟨m_26, rfl⟩ : ∃ m9, m_16 = m9 + 1 := ⟨m_16 - 1, by omega⟩
      refine z_aload_n 0 dX5_products_5 rfl ?_
      refine z_bipush (v := 42) dX5_products_6 (by decide) ?_
      refine z_callV (As := [.int 42]) (t_hasSign (I := (s_cd I c9_19)) hL hT (a := a9_17) (f := f9_18) (by omega) (by omega) 42) q1810 q1812 qs82 q121 q1813 nm_X5_hasSign (tX_obj hL) rfl rfl rfl (Nat.le_of_ble_eq_true rfl) ⟨Nat.le_of_ble_eq_true rfl, Nat.le_of_ble_eq_true rfl⟩ dX5_products_8 rfl rfl (Nat.le_of_ble_eq_true rfl) (Nat.le_of_ble_eq_true rfl) (fun v_30 X_31 hp_32 => ?_)
      obtain ⟨a_27, rfl, rfl, ha_29, eh_28⟩ := hp_32
      refine z_st (st' := [.int (zb (s_isS kd (J 6) a9_17 f9_18 42))]) rfl ?_
      refine z_if_eqb 29 dX5_products_11 (by decide) (fun c_33 => ?_) (fun c_33 => ?_)
      · -- s_isS kd (J 6) a9_17 f9_18 42 = false
        have q_34 : a9_17 = a_27 := by rw [← eh_28]; unfold s_hS; rw [c_33]; rfl
        subst q_34
        exact z_vret dX5_products_29 rfl (Nat.le_of_ble_eq_true rfl) (Nat.le_of_ble_eq_true rfl) ⟨a9_17, f9_18, c9_19, rfl, rfl, (by omega), (by omega), (by omega), (by omega), h6_25.symm.trans (by show (if s_isS kd (J 6) a9_17 f9_18 42 = true then _ else _) = _; rw [if_neg (by rw [c_33]; decide)])⟩
      · -- s_isS kd (J 6) a9_17 f9_18 42 = true
        have q_35 : a9_17 + 1 = a_27 := by rw [← eh_28]; unfold s_hS; rw [c_33]; rfl
        subst q_35
        have q_35k := (s_isS_k c_33).2
        have q_35e := (hT.1 a9_17 (by omega)).2.2.2.2
        refine z_aload_n 0 dX5_products_14 rfl ?_
        refine z_iload_n 1 dX5_products_15 rfl ?_
        refine z_callV (As := [.int 2]) (t_takePart_3 (I := I) hL hT (a := a9_17 + 1) (f := f9_18) (by omega) (by omega) (cs := c9_19) (by first | omega | (simp only [List.length_append, List.length_singleton]; omega))) q1798 q1800 qs79 q121 q1801 nm_X5_takePart (tX_obj hL) rfl rfl rfl (Nat.le_of_ble_eq_true rfl) ⟨Nat.le_of_ble_eq_true rfl, Nat.le_of_ble_eq_true rfl⟩ dX5_products_16 rfl rfl (Nat.le_of_ble_eq_true rfl) (Nat.le_of_ble_eq_true rfl) (fun v_44 X_45 hp_46 => ?_)
        obtain ⟨a_36, f_37, cs_38, rfl, rfl, h_40, h_41, h_42, h_43, et_39⟩ := hp_46
        refine z_st (st' := []) rfl ?_
        refine z_aload_n 0 dX5_products_19 rfl ?_
        refine z_bipush (v := 6) dX5_products_20 (by decide) ?_
        refine z_iconst (v := 0) dX5_products_22 (by decide) ?_
        refine z_callV (As := [.int 6, .int 0]) (t_emit (I := I) hL (cs := cs_38) (a := a_36) (f := f_37) (by omega) 6 0) q1806 q1808 qs81 q121 q1809 nm_X5_emit (tX_obj hL) rfl rfl rfl (Nat.le_of_ble_eq_true rfl) ⟨Nat.le_of_ble_eq_true rfl, Nat.le_of_ble_eq_true rfl⟩ dX5_products_23 rfl rfl (Nat.le_of_ble_eq_true rfl) (Nat.le_of_ble_eq_true rfl) (fun v_47 X_48 hp_49 => ?_)
        obtain ⟨rfl, rfl⟩ := hp_49
        refine z_st (st' := []) rfl ?_
        refine z_goto 5 dX5_products_26 (by decide) ?_
        exact ih_13 m_26 a_36 f_37 (cs_38 ++ [(6, 0)]) (by omega) (by omega) (by omega) (by simp only [List.length_append, List.length_singleton]; omega) (by omega) (by rw [← h6_25]; symm; show (if s_isS kd (J 6) a9_17 f9_18 42 = true then s_prl kd (J 6) (s_part kd pl (J 6) (J 9) 3) m_26 (s_emit ((s_part kd pl (J 6) (J 9) 3) (a9_17 + 1, f9_18, c9_19)) 6 0) else _) = _; rw [if_pos c_33, et_39]; rfl) (by omega)
  exact loop_15 (1001 + 1) 1001 a_1 f_2 cs_3 (by omega) (by omega) (by omega) (by omega) (by omega) (by show _ = s_prl kd (J 6) (s_part kd pl (J 6) (J 9) 3) 1001 ((s_part kd pl (J 6) (J 9) 3) (a, f, cs)); rw [et_4]) (Nat.lt_succ_self _)
set_option maxHeartbeats 4000000 in
theorem t_sums_3 {g : zG} {L : Nat → Nat} {I : Nat → Nat → Int32} {J : Nat → Nat → Int64} {Gb : Nat → Nat → Int32} {X : zX} (hL : tok g L) {kd pl : Nat → Nat} {cnt a f : Nat} (hT : s_tk (I 4) (I 5) kd pl cnt) (ha : a ≤ cnt) (hf : f < 2 ^ 20) {cs : List (Nat × Int32)} (hcs : cs.length ≤ a) : zN g m_X5_sums ({ frames := 19, cells := 0, slots := 0, locals := 419 } : Room) [.ref (L 99), .int 2] (tX g L (s_rd (s_cd I cs) a f) J Gb X) (fun rv X' => ∃ (a' f' : Nat) (cs' : List (Nat × Int32)), rv = none ∧ X' = tX g L (s_rd (s_cd I cs') a' f') J Gb X ∧ a' ≤ cnt ∧ f' < 2 ^ 20 ∧ a ≤ a' ∧ cs'.length + a ≤ cs.length + a' ∧ s_sums kd (J 6) (s_part kd pl (J 6) (J 9) 3) (a, f, cs) = (a', f', cs')) := by
  refine zN.of (by decide +kernel) (Nat.le_of_ble_eq_true rfl) rfl ?_
  refine z_lv (lv' := [(0, .ref (L 99)), (1, .int 2)]) [0, 1] rfl ?_
  have hT2 := hT.2
  obtain ⟨hk9, hp9, hk4, hp4, hke⟩ := hT.1 a ha
  refine z_aload_n 0 dX5_sums_0 rfl ?_
  refine z_iload_n 1 dX5_sums_1 rfl ?_
  refine z_callV (As := [.int 2]) (t_products_3 (I := I) hL hT (a := a) (f := f) (by omega) (by omega) (cs := cs) (by first | omega | (simp only [List.length_append, List.length_singleton]; omega))) q1794 q1796 qs78 q121 q1797 nm_X5_products (tX_obj hL) rfl rfl rfl (Nat.le_of_ble_eq_true rfl) ⟨Nat.le_of_ble_eq_true rfl, Nat.le_of_ble_eq_true rfl⟩ dX5_sums_2 rfl rfl (Nat.le_of_ble_eq_true rfl) (Nat.le_of_ble_eq_true rfl) (fun v_9 X_10 hp_11 => ?_)
  obtain ⟨a_1, f_2, cs_3, rfl, rfl, h_5, h_6, h_7, h_8, et_4⟩ := hp_11
  refine z_st (st' := []) rfl ?_
  have loop_15 : ∀ (q_12 : Nat) (m_16 : Nat) (a9_17 : Nat) (f9_18 : Nat) (c9_19 : List (Nat × Int32)), (a9_17 ≤ cnt) → (f9_18 < 2 ^ 20) → (a ≤ a9_17) → (c9_19.length + a ≤ cs.length + a9_17) → (cnt < m_16 + a9_17) → (s_sul kd (J 6) (s_part kd pl (J 6) (J 9) 3) m_16 (a9_17, f9_18, c9_19) = s_sums kd (J 6) (s_part kd pl (J 6) (J 9) 3) (a, f, cs)) → m_16 < q_12 → zZ g m_X5_sums (fun rv X' => ∃ (a' f' : Nat) (cs' : List (Nat × Int32)), rv = none ∧ X' = tX g L (s_rd (s_cd I cs') a' f') J Gb X ∧ a' ≤ cnt ∧ f' < 2 ^ 20 ∧ a ≤ a' ∧ cs'.length + a ≤ cs.length + a' ∧ s_sums kd (J 6) (s_part kd pl (J 6) (J 9) 3) (a, f, cs) = (a', f', cs'), zno, ({ frames := 19, cells := 0, slots := 0, locals := 419 } : Room)) 0 0 (tX g L (s_rd (s_cd I c9_19) a9_17 f9_18) J Gb X) 5 [(0, .ref (L 99)), (1, .int 2)] [] := by
    intro q_12
    induction q_12 with
    | zero => intro m_16 a9_17 f9_18 c9_19 h1_20 h2_21 h3_22 h4_23 h5_24 h6_25 hm_14; exact absurd hm_14 (Nat.not_lt_zero _)
    | succ q_12 ih_13 =>
      intro m_16 a9_17 f9_18 c9_19 h1_20 h2_21 h3_22 h4_23 h5_24 h6_25 hm_14
      obtain ⟨m_26, rfl⟩ : ∃ m9, m_16 = m9 + 1 := ⟨m_16 - 1, by omega⟩
      refine z_aload_n 0 dX5_sums_5 rfl ?_
      refine z_bipush (v := 43) dX5_sums_6 (by decide) ?_
      refine z_callV (As := [.int 43]) (t_isSign (I := (s_cd I c9_19)) hL hT (a := a9_17) (f := f9_18) (by omega) (by omega) 43) q1802 q1804 qs80 q121 q1805 nm_X5_isSign (tX_obj hL) rfl rfl rfl (Nat.le_of_ble_eq_true rfl) ⟨Nat.le_of_ble_eq_true rfl, Nat.le_of_ble_eq_true rfl⟩ dX5_sums_8 rfl rfl (Nat.le_of_ble_eq_true rfl) (Nat.le_of_ble_eq_true rfl) (fun v_27 X_28 hp_29 => ?_)
      obtain ⟨rfl, rfl⟩ := hp_29
      refine z_st (st' := [.int (zb (s_isS kd (J 6) a9_17 f9_18 43))]) rfl ?_
      refine z_if_neb 23 dX5_sums_11 (by decide) (fun c_30 => ?_) (fun c_30 => ?_)
      · -- s_isS kd (J 6) a9_17 f9_18 43 = true
        have q_31k := (s_isS_k c_30).2
        have q_31e := (hT.1 a9_17 (by omega)).2.2.2.2
        refine z_aload_n 0 dX5_sums_23 rfl ?_
        refine z_bipush (v := 43) dX5_sums_24 (by decide) ?_
        refine z_callV (As := [.int 43]) (t_isSign (I := (s_cd I c9_19)) hL hT (a := a9_17) (f := f9_18) (by omega) (by omega) 43) q1802 q1804 qs80 q121 q1805 nm_X5_isSign (tX_obj hL) rfl rfl rfl (Nat.le_of_ble_eq_true rfl) ⟨Nat.le_of_ble_eq_true rfl, Nat.le_of_ble_eq_true rfl⟩ dX5_sums_26 rfl rfl (Nat.le_of_ble_eq_true rfl) (Nat.le_of_ble_eq_true rfl) (fun v_32 X_33 hp_34 => ?_)
        obtain ⟨rfl, rfl⟩ := hp_34
        refine z_st (st' := [.int (zb (s_isS kd (J 6) a9_17 f9_18 43))]) rfl ?_
        refine z_istore_n (lv' := [(2, .int (zb (s_isS kd (J 6) a9_17 f9_18 43))), (0, .ref (L 99)), (1, .int 2)]) dX5_sums_29 rfl (by decide) rfl ?_
        refine z_aload_n 1 dX5_sums_30 rfl ?_
        refine z_dup dX5_sums_31 rfl ?_
        refine tz_get (v := .int (nI (a9_17))) 7 hL (by decide) q1600 rfl dX5_sums_32 ?_
        refine z_iconst (v := 1) dX5_sums_35 (by decide) ?_
        refine z_iaddN (a := a9_17) (b := 1) dX5_sums_36 ?_
        refine tz_put (I' := (s_rd (s_cd I c9_19) (a9_17 + 1) f9_18)) 7 hL (by decide) q1600 s_rd_7 dX5_sums_37 ?_
        refine z_aload_n 1 dX5_sums_40 rfl ?_
        refine z_iload_n 2 dX5_sums_41 rfl ?_
        refine z_callV (As := [.int 2]) (t_products_3 (I := I) hL hT (a := a9_17 + 1) (f := f9_18) (by omega) (by omega) (cs := c9_19) (by first | omega | (simp only [List.length_append, List.length_singleton]; omega))) q1794 q1796 qs78 q121 q1797 nm_X5_products (tX_obj hL) rfl rfl rfl (Nat.le_of_ble_eq_true rfl) ⟨Nat.le_of_ble_eq_true rfl, Nat.le_of_ble_eq_true rfl⟩ dX5_sums_42 rfl rfl (Nat.le_of_ble_eq_true rfl) (Nat.le_of_ble_eq_true rfl) (fun v_43 X_44 hp_45 => ?_)
        obtain ⟨a_35, f_36, cs_37, rfl, rfl, h_39, h_40, h_41, h_42, et_38⟩ := hp_45
        refine z_st (st' := []) rfl ?_
        refine z_aload_n 1 dX5_sums_45 rfl ?_
        refine z_iload_n 0 dX5_sums_46 rfl ?_
        refine z_if_eqb 54 dX5_sums_47 (by decide) (fun c_ => absurd (c_30.symm.trans c_) (by decide)) (fun _ => ?_)
        refine z_iconst (v := 4) dX5_sums_50 (by decide) ?_
        refine z_goto 55 dX5_sums_51 (by decide) ?_
        refine z_iconst (v := 0) dX5_sums_55 (by decide) ?_
        refine z_callV (As := [.int 4, .int 0]) (t_emit (I := I) hL (cs := cs_37) (a := a_35) (f := f_36) (by omega) 4 0) q1806 q1808 qs81 q121 q1809 nm_X5_emit (tX_obj hL) rfl rfl rfl (Nat.le_of_ble_eq_true rfl) ⟨Nat.le_of_ble_eq_true rfl, Nat.le_of_ble_eq_true rfl⟩ dX5_sums_56 rfl rfl (Nat.le_of_ble_eq_true rfl) (Nat.le_of_ble_eq_true rfl) (fun v_46 X_47 hp_48 => ?_)
        obtain ⟨rfl, rfl⟩ := hp_48
        refine z_st (st' := []) rfl ?_
        refine z_goto 5 dX5_sums_59 (by decide) ?_
        refine z_lv (lv' := [(0, .ref (L 99)), (1, .int 2)]) [1, 2] rfl ?_
        exact ih_13 m_26 a_35 f_36 (cs_37 ++ [(4, 0)]) (by omega) (by omega) (by omega) (by simp only [List.length_append, List.length_singleton]; omega) (by omega) (by rw [← h6_25]; symm; show (if (s_isS kd (J 6) a9_17 f9_18 43 || s_isS kd (J 6) a9_17 f9_18 45) = true then s_sul kd (J 6) (s_part kd pl (J 6) (J 9) 3) m_26 (s_emit ((s_prods kd (J 6) (s_part kd pl (J 6) (J 9) 3)) (a9_17 + 1, f9_18, c9_19)) (if s_isS kd (J 6) a9_17 f9_18 43 = true then 4 else 5) 0) else _) = _; rw [if_pos (by rw [c_30]; rfl), if_pos c_30, et_38]; rfl) (by omega)
      · -- s_isS kd (J 6) a9_17 f9_18 43 = false
        refine z_aload_n 0 dX5_sums_14 rfl ?_
        refine z_bipush (v := 45) dX5_sums_15 (by decide) ?_
        refine z_callV (As := [.int 45]) (t_isSign (I := (s_cd I c9_19)) hL hT (a := a9_17) (f := f9_18) (by omega) (by omega) 45) q1802 q1804 qs80 q121 q1805 nm_X5_isSign (tX_obj hL) rfl rfl rfl (Nat.le_of_ble_eq_true rfl) ⟨Nat.le_of_ble_eq_true rfl, Nat.le_of_ble_eq_true rfl⟩ dX5_sums_17 rfl rfl (Nat.le_of_ble_eq_true rfl) (Nat.le_of_ble_eq_true rfl) (fun v_49 X_50 hp_51 => ?_)
        obtain ⟨rfl, rfl⟩ := hp_51
        refine z_st (st' := [.int (zb (s_isS kd (J 6) a9_17 f9_18 45))]) rfl ?_
        refine z_if_eqb 62 dX5_sums_20 (by decide) (fun c_52 => ?_) (fun c_52 => ?_)
        · -- s_isS kd (J 6) a9_17 f9_18 45 = false
          exact z_vret dX5_sums_62 rfl (Nat.le_of_ble_eq_true rfl) (Nat.le_of_ble_eq_true rfl) ⟨a9_17, f9_18, c9_19, rfl, rfl, (by omega), (by omega), (by omega), (by omega), h6_25.symm.trans (by show (if (s_isS kd (J 6) a9_17 f9_18 43 || s_isS kd (J 6) a9_17 f9_18 45) = true then _ else _) = _; rw [if_neg (by rw [c_30, c_52]; decide)])⟩
        · -- s_isS kd (J 6) a9_17 f9_18 45 = true
          have q_53k := (s_isS_k c_52).2
          have q_53e := (hT.1 a9_17 (by omega)).2.2.2.2
          refine z_aload_n 0 dX5_sums_23 rfl ?_
          refine z_bipush (v := 43) dX5_sums_24 (by decide) ?_
          refine z_callV (As := [.int 43]) (t_isSign (I := (s_cd I c9_19)) hL hT (a := a9_17) (f := f9_18) (by omega) (by omega) 43) q1802 q1804 qs80 q121 q1805 nm_X5_isSign (tX_obj hL) rfl rfl rfl (Nat.le_of_ble_eq_true rfl) ⟨Nat.le_of_ble_eq_true rfl, Nat.le_of_ble_eq_true rfl⟩ dX5_sums_26 rfl rfl (Nat.le_of_ble_eq_true rfl) (Nat.le_of_ble_eq_true rfl) (fun v_54 X_55 hp_56 => ?_)
          obtain ⟨rfl, rfl⟩ := hp_56
          refine z_st (st' := [.int (zb (s_isS kd (J 6) a9_17 f9_18 43))]) rfl ?_
          refine z_istore_n (lv' := [(2, .int (zb (s_isS kd (J 6) a9_17 f9_18 43))), (0, .ref (L 99)), (1, .int 2)]) dX5_sums_29 rfl (by decide) rfl ?_
          refine z_aload_n 1 dX5_sums_30 rfl ?_
          refine z_dup dX5_sums_31 rfl ?_
          refine tz_get (v := .int (nI (a9_17))) 7 hL (by decide) q1600 rfl dX5_sums_32 ?_
          refine z_iconst (v := 1) dX5_sums_35 (by decide) ?_
          refine z_iaddN (a := a9_17) (b := 1) dX5_sums_36 ?_
          refine tz_put (I' := (s_rd (s_cd I c9_19) (a9_17 + 1) f9_18)) 7 hL (by decide) q1600 s_rd_7 dX5_sums_37 ?_
          refine z_aload_n 1 dX5_sums_40 rfl ?_
          refine z_iload_n 2 dX5_sums_41 rfl ?_
          refine z_callV (As := [.int 2]) (t_products_3 (I := I) hL hT (a := a9_17 + 1) (f := f9_18) (by omega) (by omega) (cs := c9_19) (by first | omega | (simp only [List.length_append, List.length_singleton]; omega))) q1794 q1796 qs78 q121 q1797 nm_X5_products (tX_obj hL) rfl rfl rfl (Nat.le_of_ble_eq_true rfl) ⟨Nat.le_of_ble_eq_true rfl, Nat.le_of_ble_eq_true rfl⟩ dX5_sums_42 rfl rfl (Nat.le_of_ble_eq_true rfl) (Nat.le_of_ble_eq_true rfl) (fun v_65 X_66 hp_67 => ?_)
          obtain ⟨a_57, f_58, cs_59, rfl, rfl, h_61, h_62, h_63, h_64, et_60⟩ := hp_67
          refine z_st (st' := []) rfl ?_
          refine z_aload_n 1 dX5_sums_45 rfl ?_
          refine z_iload_n 0 dX5_sums_46 rfl ?_
          refine z_if_eqb 54 dX5_sums_47 (by decide) (fun _ => ?_) (fun c_ => absurd (c_30.symm.trans c_) (by decide))
          refine z_iconst (v := 5) dX5_sums_54 (by decide) ?_
          refine z_iconst (v := 0) dX5_sums_55 (by decide) ?_
          refine z_callV (As := [.int 5, .int 0]) (t_emit (I := I) hL (cs := cs_59) (a := a_57) (f := f_58) (by omega) 5 0) q1806 q1808 qs81 q121 q1809 nm_X5_emit (tX_obj hL) rfl rfl rfl (Nat.le_of_ble_eq_true rfl) ⟨Nat.le_of_ble_eq_true rfl, Nat.le_of_ble_eq_true rfl⟩ dX5_sums_56 rfl rfl (Nat.le_of_ble_eq_true rfl) (Nat.le_of_ble_eq_true rfl) (fun v_68 X_69 hp_70 => ?_)
          obtain ⟨rfl, rfl⟩ := hp_70
          refine z_st (st' := []) rfl ?_
          refine z_goto 5 dX5_sums_59 (by decide) ?_
          refine z_lv (lv' := [(0, .ref (L 99)), (1, .int 2)]) [1, 2] rfl ?_
          exact ih_13 m_26 a_57 f_58 (cs_59 ++ [(5, 0)]) (by omega) (by omega) (by omega) (by simp only [List.length_append, List.length_singleton]; omega) (by omega) (by rw [← h6_25]; symm; show (if (s_isS kd (J 6) a9_17 f9_18 43 || s_isS kd (J 6) a9_17 f9_18 45) = true then s_sul kd (J 6) (s_part kd pl (J 6) (J 9) 3) m_26 (s_emit ((s_prods kd (J 6) (s_part kd pl (J 6) (J 9) 3)) (a9_17 + 1, f9_18, c9_19)) (if s_isS kd (J 6) a9_17 f9_18 43 = true then 4 else 5) 0) else _) = _; rw [if_pos (by rw [c_30, c_52]; rfl), if_neg (by rw [c_30]; decide), et_60]; rfl) (by omega)
  exact loop_15 (1001 + 1) 1001 a_1 f_2 cs_3 (by omega) (by omega) (by omega) (by omega) (by omega) (by show _ = s_sul kd (J 6) (s_part kd pl (J 6) (J 9) 3) 1001 (s_prods kd (J 6) (s_part kd pl (J 6) (J 9) 3) (a, f, cs)); rw [et_4]) (Nat.lt_succ_self _)
set_option maxHeartbeats 4000000 in
theorem t_test_3 {g : zG} {L : Nat → Nat} {I : Nat → Nat → Int32} {J : Nat → Nat → Int64} {Gb : Nat → Nat → Int32} {X : zX} (hL : tok g L) {kd pl : Nat → Nat} {cnt a f : Nat} (hT : s_tk (I 4) (I 5) kd pl cnt) (ha : a ≤ cnt) (hf : f < 2 ^ 20) {cs : List (Nat × Int32)} (hcs : cs.length ≤ a) : zN g m_X5_test ({ frames := 20, cells := 0, slots := 0, locals := 441 } : Room) [.ref (L 99), .int 2] (tX g L (s_rd (s_cd I cs) a f) J Gb X) (fun rv X' => ∃ (a' f' : Nat) (cs' : List (Nat × Int32)), rv = none ∧ X' = tX g L (s_rd (s_cd I cs') a' f') J Gb X ∧ a' ≤ cnt ∧ f' < 2 ^ 20 ∧ a ≤ a' ∧ cs'.length + a ≤ cs.length + a' ∧ s_tst kd (J 6) (s_part kd pl (J 6) (J 9) 3) (a, f, cs) = (a', f', cs')) := by
  refine zN.of (by decide +kernel) (Nat.le_of_ble_eq_true rfl) rfl ?_
  refine z_lv (lv' := [(0, .ref (L 99)), (1, .int 2)]) [0, 1] rfl ?_
  have hT2 := hT.2
  obtain ⟨hk9, hp9, hk4, hp4, hke⟩ := hT.1 a ha
  refine z_aload_n 0 dX5_test_0 rfl ?_
  refine z_iload_n 1 dX5_test_1 rfl ?_
  refine z_callV (As := [.int 2]) (t_sums_3 (I := I) hL hT (a := a) (f := f) (by omega) (by omega) (cs := cs) (by first | omega | (simp only [List.length_append, List.length_singleton]; omega))) q1790 q1792 qs77 q121 q1793 nm_X5_sums (tX_obj hL) rfl rfl rfl (Nat.le_of_ble_eq_true rfl) ⟨Nat.le_of_ble_eq_true rfl, Nat.le_of_ble_eq_true rfl⟩ dX5_test_2 rfl rfl (Nat.le_of_ble_eq_true rfl) (Nat.le_of_ble_eq_true rfl) (fun v_9 X_10 hp_11 => ?_)
  obtain ⟨a_1, f_2, cs_3, rfl, rfl, h_5, h_6, h_7, h_8, et_4⟩ := hp_11
  refine z_st (st' := []) rfl ?_
  refine z_aload_n 0 dX5_test_5 rfl ?_
  refine z_bipush (v := 60) dX5_test_6 (by decide) ?_
  refine z_callV (As := [.int 60]) (t_isSign (I := (s_cd I cs_3)) hL hT (a := a_1) (f := f_2) (by omega) (by omega) 60) q1802 q1804 qs80 q121 q1805 nm_X5_isSign (tX_obj hL) rfl rfl rfl (Nat.le_of_ble_eq_true rfl) ⟨Nat.le_of_ble_eq_true rfl, Nat.le_of_ble_eq_true rfl⟩ dX5_test_8 rfl rfl (Nat.le_of_ble_eq_true rfl) (Nat.le_of_ble_eq_true rfl) (fun v_12 X_13 hp_14 => ?_)
  obtain ⟨rfl, rfl⟩ := hp_14
  refine z_st (st' := [.int (zb (s_isS kd (J 6) a_1 f_2 60))]) rfl ?_
  refine z_istore_n (lv' := [(2, .int (zb (s_isS kd (J 6) a_1 f_2 60))), (0, .ref (L 99)), (1, .int 2)]) dX5_test_11 rfl (by decide) rfl ?_
  refine z_aload_n 1 dX5_test_12 rfl ?_
  refine z_bipush (v := 60) dX5_test_13 (by decide) ?_
  refine z_callV (As := [.int 60]) (t_hasSign (I := (s_cd I cs_3)) hL hT (a := a_1) (f := f_2) (by omega) (by omega) 60) q1810 q1812 qs82 q121 q1813 nm_X5_hasSign (tX_obj hL) rfl rfl rfl (Nat.le_of_ble_eq_true rfl) ⟨Nat.le_of_ble_eq_true rfl, Nat.le_of_ble_eq_true rfl⟩ dX5_test_15 rfl rfl (Nat.le_of_ble_eq_true rfl) (Nat.le_of_ble_eq_true rfl) (fun v_18 X_19 hp_20 => ?_)
  obtain ⟨a_15, rfl, rfl, ha_17, eh_16⟩ := hp_20
  refine z_st (st' := [.int (zb (s_isS kd (J 6) a_1 f_2 60))]) rfl ?_
  refine z_if_neb 30 dX5_test_18 (by decide) (fun c_21 => ?_) (fun c_21 => ?_)
  · -- s_isS kd (J 6) a_1 f_2 60 = true
    have q_22 : a_1 + 1 = a_15 := by rw [← eh_16]; unfold s_hS; rw [c_21]; rfl
    subst q_22
    have q_22k := (s_isS_k c_21).2
    have q_22e := (hT.1 a_1 (by omega)).2.2.2.2
    refine z_aload_n 1 dX5_test_30 rfl ?_
    refine z_iload_n 2 dX5_test_31 rfl ?_
    refine z_callV (As := [.int 2]) (t_sums_3 (I := I) hL hT (a := a_1 + 1) (f := f_2) (by omega) (by omega) (cs := cs_3) (by first | omega | (simp only [List.length_append, List.length_singleton]; omega))) q1790 q1792 qs77 q121 q1793 nm_X5_sums (tX_obj hL) rfl rfl rfl (Nat.le_of_ble_eq_true rfl) ⟨Nat.le_of_ble_eq_true rfl, Nat.le_of_ble_eq_true rfl⟩ dX5_test_32 rfl rfl (Nat.le_of_ble_eq_true rfl) (Nat.le_of_ble_eq_true rfl) (fun v_31 X_32 hp_33 => ?_)
    obtain ⟨a_23, f_24, cs_25, rfl, rfl, h_27, h_28, h_29, h_30, et_26⟩ := hp_33
    refine z_st (st' := []) rfl ?_
    refine z_aload_n 1 dX5_test_35 rfl ?_
    refine z_iload_n 0 dX5_test_36 rfl ?_
    refine z_if_eqb 45 dX5_test_37 (by decide) (fun c_ => absurd (c_21.symm.trans c_) (by decide)) (fun _ => ?_)
    refine z_bipush (v := 7) dX5_test_40 (by decide) ?_
    refine z_goto 47 dX5_test_42 (by decide) ?_
    refine z_iconst (v := 0) dX5_test_47 (by decide) ?_
    refine z_callV (As := [.int 7, .int 0]) (t_emit (I := I) hL (cs := cs_25) (a := a_23) (f := f_24) (by omega) 7 0) q1806 q1808 qs81 q121 q1809 nm_X5_emit (tX_obj hL) rfl rfl rfl (Nat.le_of_ble_eq_true rfl) ⟨Nat.le_of_ble_eq_true rfl, Nat.le_of_ble_eq_true rfl⟩ dX5_test_48 rfl rfl (Nat.le_of_ble_eq_true rfl) (Nat.le_of_ble_eq_true rfl) (fun v_34 X_35 hp_36 => ?_)
    obtain ⟨rfl, rfl⟩ := hp_36
    refine z_st (st' := []) rfl ?_
    exact z_vret dX5_test_51 rfl (Nat.le_of_ble_eq_true rfl) (Nat.le_of_ble_eq_true rfl) ⟨a_23, f_24, (cs_25 ++ [(7, 0)]), rfl, rfl, (by omega), (by omega), (by omega), (by simp only [List.length_append, List.length_singleton]; omega), by unfold s_tst; simp [s_emit, c_21, et_26, et_4]⟩
  · -- s_isS kd (J 6) a_1 f_2 60 = false
    have q_37 : a_1 = a_15 := by rw [← eh_16]; unfold s_hS; rw [c_21]; rfl
    subst q_37
    refine z_aload_n 1 dX5_test_21 rfl ?_
    refine z_bipush (v := 61) dX5_test_22 (by decide) ?_
    refine z_callV (As := [.int 61]) (t_hasSign (I := (s_cd I cs_3)) hL hT (a := a_1) (f := f_2) (by omega) (by omega) 61) q1810 q1812 qs82 q121 q1813 nm_X5_hasSign (tX_obj hL) rfl rfl rfl (Nat.le_of_ble_eq_true rfl) ⟨Nat.le_of_ble_eq_true rfl, Nat.le_of_ble_eq_true rfl⟩ dX5_test_24 rfl rfl (Nat.le_of_ble_eq_true rfl) (Nat.le_of_ble_eq_true rfl) (fun v_41 X_42 hp_43 => ?_)
    obtain ⟨a_38, rfl, rfl, ha_40, eh_39⟩ := hp_43
    refine z_st (st' := [.int (zb (s_isS kd (J 6) a_1 f_2 61))]) rfl ?_
    refine z_if_eqb 51 dX5_test_27 (by decide) (fun c_44 => ?_) (fun c_44 => ?_)
    · -- s_isS kd (J 6) a_1 f_2 61 = false
      have q_45 : a_1 = a_38 := by rw [← eh_39]; unfold s_hS; rw [c_44]; rfl
      subst q_45
      exact z_vret dX5_test_51 rfl (Nat.le_of_ble_eq_true rfl) (Nat.le_of_ble_eq_true rfl) ⟨a_1, f_2, cs_3, rfl, rfl, (by omega), (by omega), (by omega), (by omega), by unfold s_tst; simp [s_emit, c_21, c_44, et_4]⟩
    · -- s_isS kd (J 6) a_1 f_2 61 = true
      have q_46 : a_1 + 1 = a_38 := by rw [← eh_39]; unfold s_hS; rw [c_44]; rfl
      subst q_46
      have q_46k := (s_isS_k c_44).2
      have q_46e := (hT.1 a_1 (by omega)).2.2.2.2
      refine z_aload_n 1 dX5_test_30 rfl ?_
      refine z_iload_n 2 dX5_test_31 rfl ?_
      refine z_callV (As := [.int 2]) (t_sums_3 (I := I) hL hT (a := a_1 + 1) (f := f_2) (by omega) (by omega) (cs := cs_3) (by first | omega | (simp only [List.length_append, List.length_singleton]; omega))) q1790 q1792 qs77 q121 q1793 nm_X5_sums (tX_obj hL) rfl rfl rfl (Nat.le_of_ble_eq_true rfl) ⟨Nat.le_of_ble_eq_true rfl, Nat.le_of_ble_eq_true rfl⟩ dX5_test_32 rfl rfl (Nat.le_of_ble_eq_true rfl) (Nat.le_of_ble_eq_true rfl) (fun v_55 X_56 hp_57 => ?_)
      obtain ⟨a_47, f_48, cs_49, rfl, rfl, h_51, h_52, h_53, h_54, et_50⟩ := hp_57
      refine z_st (st' := []) rfl ?_
      refine z_aload_n 1 dX5_test_35 rfl ?_
      refine z_iload_n 0 dX5_test_36 rfl ?_
      refine z_if_eqb 45 dX5_test_37 (by decide) (fun _ => ?_) (fun c_ => absurd (c_21.symm.trans c_) (by decide))
      refine z_bipush (v := 8) dX5_test_45 (by decide) ?_
      refine z_iconst (v := 0) dX5_test_47 (by decide) ?_
      refine z_callV (As := [.int 8, .int 0]) (t_emit (I := I) hL (cs := cs_49) (a := a_47) (f := f_48) (by omega) 8 0) q1806 q1808 qs81 q121 q1809 nm_X5_emit (tX_obj hL) rfl rfl rfl (Nat.le_of_ble_eq_true rfl) ⟨Nat.le_of_ble_eq_true rfl, Nat.le_of_ble_eq_true rfl⟩ dX5_test_48 rfl rfl (Nat.le_of_ble_eq_true rfl) (Nat.le_of_ble_eq_true rfl) (fun v_58 X_59 hp_60 => ?_)
      obtain ⟨rfl, rfl⟩ := hp_60
      refine z_st (st' := []) rfl ?_
      exact z_vret dX5_test_51 rfl (Nat.le_of_ble_eq_true rfl) (Nat.le_of_ble_eq_true rfl) ⟨a_47, f_48, (cs_49 ++ [(8, 0)]), rfl, rfl, (by omega), (by omega), (by omega), (by simp only [List.length_append, List.length_singleton]; omega), by unfold s_tst; simp [s_emit, c_21, c_44, et_50, et_4]⟩
set_option maxHeartbeats 4000000 in
theorem t_whole_3 {g : zG} {L : Nat → Nat} {I : Nat → Nat → Int32} {J : Nat → Nat → Int64} {Gb : Nat → Nat → Int32} {X : zX} (hL : tok g L) {kd pl : Nat → Nat} {cnt a f : Nat} (hT : s_tk (I 4) (I 5) kd pl cnt) (ha : a ≤ cnt) (hf : f < 2 ^ 20) {cs : List (Nat × Int32)} (hcs : cs.length ≤ a) : zN g m_X5_whole ({ frames := 21, cells := 0, slots := 0, locals := 463 } : Room) [.ref (L 99), .int 2] (tX g L (s_rd (s_cd I cs) a f) J Gb X) (fun rv X' => ∃ (a' f' : Nat) (cs' : List (Nat × Int32)), rv = none ∧ X' = tX g L (s_rd (s_cd I cs') a' f') J Gb X ∧ a' ≤ cnt ∧ f' < 2 ^ 20 ∧ a ≤ a' ∧ cs'.length + a ≤ cs.length + a' ∧ s_whole kd (J 6) (J 9) (s_part kd pl (J 6) (J 9) 3) (a, f, cs) = (a', f', cs')) := by
  refine zN.of (by decide +kernel) (Nat.le_of_ble_eq_true rfl) rfl ?_
  refine z_lv (lv' := [(0, .ref (L 99)), (1, .int 2)]) [0, 1] rfl ?_
  have hT2 := hT.2
  obtain ⟨hk9, hp9, hk4, hp4, hke⟩ := hT.1 a ha
  refine z_aload_n 0 dX5_whole_0 rfl ?_
  refine z_iload_n 1 dX5_whole_1 rfl ?_
  refine z_callV (As := [.int 2]) (t_test_3 (I := I) hL hT (a := a) (f := f) (by omega) (by omega) (cs := cs) (by first | omega | (simp only [List.length_append, List.length_singleton]; omega))) q1786 q1788 qs76 q121 q1789 nm_X5_test (tX_obj hL) rfl rfl rfl (Nat.le_of_ble_eq_true rfl) ⟨Nat.le_of_ble_eq_true rfl, Nat.le_of_ble_eq_true rfl⟩ dX5_whole_2 rfl rfl (Nat.le_of_ble_eq_true rfl) (Nat.le_of_ble_eq_true rfl) (fun v_9 X_10 hp_11 => ?_)
  obtain ⟨a_1, f_2, cs_3, rfl, rfl, h_5, h_6, h_7, h_8, et_4⟩ := hp_11
  refine z_st (st' := []) rfl ?_
  have loop_15 : ∀ (q_12 : Nat) (m_16 : Nat) (a9_17 : Nat) (f9_18 : Nat) (c9_19 : List (Nat × Int32)), (a9_17 ≤ cnt) → (f9_18 < 2 ^ 20) → (a ≤ a9_17) → (c9_19.length + a ≤ cs.length + a9_17) → (cnt < m_16 + a9_17) → (s_whl kd (J 6) (J 9) (s_part kd pl (J 6) (J 9) 3) m_16 (a9_17, f9_18, c9_19) = s_whole kd (J 6) (J 9) (s_part kd pl (J 6) (J 9) 3) (a, f, cs)) → m_16 < q_12 → zZ g m_X5_whole (fun rv X' => ∃ (a' f' : Nat) (cs' : List (Nat × Int32)), rv = none ∧ X' = tX g L (s_rd (s_cd I cs') a' f') J Gb X ∧ a' ≤ cnt ∧ f' < 2 ^ 20 ∧ a ≤ a' ∧ cs'.length + a ≤ cs.length + a' ∧ s_whole kd (J 6) (J 9) (s_part kd pl (J 6) (J 9) 3) (a, f, cs) = (a', f', cs'), zno, ({ frames := 21, cells := 0, slots := 0, locals := 463 } : Room)) 0 0 (tX g L (s_rd (s_cd I c9_19) a9_17 f9_18) J Gb X) 5 [(0, .ref (L 99)), (1, .int 2)] [] := by
    intro q_12
    induction q_12 with
    | zero => intro m_16 a9_17 f9_18 c9_19 h1_20 h2_21 h3_22 h4_23 h5_24 h6_25 hm_14; exact absurd hm_14 (Nat.not_lt_zero _)
    | succ q_12 ih_13 =>
      intro m_16 a9_17 f9_18 c9_19 h1_20 h2_21 h3_22 h4_23 h5_24 h6_25 hm_14
      obtain ⟨m_26, rfl⟩ : ∃ m9, m_16 = m9 + 1 := ⟨m_16 - 1, by omega⟩
      refine z_aload_n 0 dX5_whole_5 rfl ?_
      refine z_bipush (v := 19) dX5_whole_6 (by decide) ?_
      refine z_callV (As := [.int 19]) (t_isWord (I := (s_cd I c9_19)) hL hT (a := a9_17) (f := f9_18) (by omega) (by omega) 19 (by omega)) q1719 q1721 qs60 q121 q1722 nm_X5_isWord (tX_obj hL) rfl rfl rfl (Nat.le_of_ble_eq_true rfl) ⟨Nat.le_of_ble_eq_true rfl, Nat.le_of_ble_eq_true rfl⟩ dX5_whole_8 rfl rfl (Nat.le_of_ble_eq_true rfl) (Nat.le_of_ble_eq_true rfl) (fun v_27 X_28 hp_29 => ?_)
      obtain ⟨rfl, rfl⟩ := hp_29
      refine z_st (st' := [.int (zb (s_isW kd (J 6) (J 9) a9_17 f9_18 19))]) rfl ?_
      refine z_if_neb 23 dX5_whole_11 (by decide) (fun c_30 => ?_) (fun c_30 => ?_)
      · -- s_isW kd (J 6) (J 9) a9_17 f9_18 19 = true
        have q_31k := (s_isW_k c_30).2
        have q_31e := (hT.1 a9_17 (by omega)).2.2.2.2
        refine z_aload_n 0 dX5_whole_23 rfl ?_
        refine z_bipush (v := 19) dX5_whole_24 (by decide) ?_
        refine z_callV (As := [.int 19]) (t_isWord (I := (s_cd I c9_19)) hL hT (a := a9_17) (f := f9_18) (by omega) (by omega) 19 (by omega)) q1719 q1721 qs60 q121 q1722 nm_X5_isWord (tX_obj hL) rfl rfl rfl (Nat.le_of_ble_eq_true rfl) ⟨Nat.le_of_ble_eq_true rfl, Nat.le_of_ble_eq_true rfl⟩ dX5_whole_26 rfl rfl (Nat.le_of_ble_eq_true rfl) (Nat.le_of_ble_eq_true rfl) (fun v_32 X_33 hp_34 => ?_)
        obtain ⟨rfl, rfl⟩ := hp_34
        refine z_st (st' := [.int (zb (s_isW kd (J 6) (J 9) a9_17 f9_18 19))]) rfl ?_
        refine z_istore_n (lv' := [(2, .int (zb (s_isW kd (J 6) (J 9) a9_17 f9_18 19))), (0, .ref (L 99)), (1, .int 2)]) dX5_whole_29 rfl (by decide) rfl ?_
        refine z_aload_n 1 dX5_whole_30 rfl ?_
        refine z_dup dX5_whole_31 rfl ?_
        refine tz_get (v := .int (nI (a9_17))) 7 hL (by decide) q1600 rfl dX5_whole_32 ?_
        refine z_iconst (v := 1) dX5_whole_35 (by decide) ?_
        refine z_iaddN (a := a9_17) (b := 1) dX5_whole_36 ?_
        refine tz_put (I' := (s_rd (s_cd I c9_19) (a9_17 + 1) f9_18)) 7 hL (by decide) q1600 s_rd_7 dX5_whole_37 ?_
        refine z_aload_n 1 dX5_whole_40 rfl ?_
        refine z_iload_n 2 dX5_whole_41 rfl ?_
        refine z_callV (As := [.int 2]) (t_test_3 (I := I) hL hT (a := a9_17 + 1) (f := f9_18) (by omega) (by omega) (cs := c9_19) (by first | omega | (simp only [List.length_append, List.length_singleton]; omega))) q1786 q1788 qs76 q121 q1789 nm_X5_test (tX_obj hL) rfl rfl rfl (Nat.le_of_ble_eq_true rfl) ⟨Nat.le_of_ble_eq_true rfl, Nat.le_of_ble_eq_true rfl⟩ dX5_whole_42 rfl rfl (Nat.le_of_ble_eq_true rfl) (Nat.le_of_ble_eq_true rfl) (fun v_43 X_44 hp_45 => ?_)
        obtain ⟨a_35, f_36, cs_37, rfl, rfl, h_39, h_40, h_41, h_42, et_38⟩ := hp_45
        refine z_st (st' := []) rfl ?_
        refine z_aload_n 1 dX5_whole_45 rfl ?_
        refine z_iload_n 0 dX5_whole_46 rfl ?_
        refine z_if_eqb 55 dX5_whole_47 (by decide) (fun c_ => absurd (c_30.symm.trans c_) (by decide)) (fun _ => ?_)
        refine z_bipush (v := 9) dX5_whole_50 (by decide) ?_
        refine z_goto 57 dX5_whole_52 (by decide) ?_
        refine z_iconst (v := 0) dX5_whole_57 (by decide) ?_
        refine z_callV (As := [.int 9, .int 0]) (t_emit (I := I) hL (cs := cs_37) (a := a_35) (f := f_36) (by omega) 9 0) q1806 q1808 qs81 q121 q1809 nm_X5_emit (tX_obj hL) rfl rfl rfl (Nat.le_of_ble_eq_true rfl) ⟨Nat.le_of_ble_eq_true rfl, Nat.le_of_ble_eq_true rfl⟩ dX5_whole_58 rfl rfl (Nat.le_of_ble_eq_true rfl) (Nat.le_of_ble_eq_true rfl) (fun v_46 X_47 hp_48 => ?_)
        obtain ⟨rfl, rfl⟩ := hp_48
        refine z_st (st' := []) rfl ?_
        refine z_goto 5 dX5_whole_61 (by decide) ?_
        refine z_lv (lv' := [(0, .ref (L 99)), (1, .int 2)]) [1, 2] rfl ?_
        exact ih_13 m_26 a_35 f_36 (cs_37 ++ [(9, 0)]) (by omega) (by omega) (by omega) (by simp only [List.length_append, List.length_singleton]; omega) (by omega) (by rw [← h6_25]; symm; show (if (s_isW kd (J 6) (J 9) a9_17 f9_18 19 || s_isW kd (J 6) (J 9) a9_17 f9_18 20) = true then s_whl kd (J 6) (J 9) (s_part kd pl (J 6) (J 9) 3) m_26 (s_emit ((s_tst kd (J 6) (s_part kd pl (J 6) (J 9) 3)) (a9_17 + 1, f9_18, c9_19)) (if s_isW kd (J 6) (J 9) a9_17 f9_18 19 = true then 9 else 10) 0) else _) = _; rw [if_pos (by rw [c_30]; rfl), if_pos c_30, et_38]; rfl) (by omega)
      · -- s_isW kd (J 6) (J 9) a9_17 f9_18 19 = false
        refine z_aload_n 0 dX5_whole_14 rfl ?_
        refine z_bipush (v := 20) dX5_whole_15 (by decide) ?_
        refine z_callV (As := [.int 20]) (t_isWord (I := (s_cd I c9_19)) hL hT (a := a9_17) (f := f9_18) (by omega) (by omega) 20 (by omega)) q1719 q1721 qs60 q121 q1722 nm_X5_isWord (tX_obj hL) rfl rfl rfl (Nat.le_of_ble_eq_true rfl) ⟨Nat.le_of_ble_eq_true rfl, Nat.le_of_ble_eq_true rfl⟩ dX5_whole_17 rfl rfl (Nat.le_of_ble_eq_true rfl) (Nat.le_of_ble_eq_true rfl) (fun v_49 X_50 hp_51 => ?_)
        obtain ⟨rfl, rfl⟩ := hp_51
        refine z_st (st' := [.int (zb (s_isW kd (J 6) (J 9) a9_17 f9_18 20))]) rfl ?_
        refine z_if_eqb 64 dX5_whole_20 (by decide) (fun c_52 => ?_) (fun c_52 => ?_)
        · -- s_isW kd (J 6) (J 9) a9_17 f9_18 20 = false
          exact z_vret dX5_whole_64 rfl (Nat.le_of_ble_eq_true rfl) (Nat.le_of_ble_eq_true rfl) ⟨a9_17, f9_18, c9_19, rfl, rfl, (by omega), (by omega), (by omega), (by omega), h6_25.symm.trans (by show (if (s_isW kd (J 6) (J 9) a9_17 f9_18 19 || s_isW kd (J 6) (J 9) a9_17 f9_18 20) = true then _ else _) = _; rw [if_neg (by rw [c_30, c_52]; decide)])⟩
        · -- s_isW kd (J 6) (J 9) a9_17 f9_18 20 = true
          have q_53k := (s_isW_k c_52).2
          have q_53e := (hT.1 a9_17 (by omega)).2.2.2.2
          refine z_aload_n 0 dX5_whole_23 rfl ?_
          refine z_bipush (v := 19) dX5_whole_24 (by decide) ?_
          refine z_callV (As := [.int 19]) (t_isWord (I := (s_cd I c9_19)) hL hT (a := a9_17) (f := f9_18) (by omega) (by omega) 19 (by omega)) q1719 q1721 qs60 q121 q1722 nm_X5_isWord (tX_obj hL) rfl rfl rfl (Nat.le_of_ble_eq_true rfl) ⟨Nat.le_of_ble_eq_true rfl, Nat.le_of_ble_eq_true rfl⟩ dX5_whole_26 rfl rfl (Nat.le_of_ble_eq_true rfl) (Nat.le_of_ble_eq_true rfl) (fun v_54 X_55 hp_56 => ?_)
          obtain ⟨rfl, rfl⟩ := hp_56
          refine z_st (st' := [.int (zb (s_isW kd (J 6) (J 9) a9_17 f9_18 19))]) rfl ?_
          refine z_istore_n (lv' := [(2, .int (zb (s_isW kd (J 6) (J 9) a9_17 f9_18 19))), (0, .ref (L 99)), (1, .int 2)]) dX5_whole_29 rfl (by decide) rfl ?_
          refine z_aload_n 1 dX5_whole_30 rfl ?_
          refine z_dup dX5_whole_31 rfl ?_
          refine tz_get (v := .int (nI (a9_17))) 7 hL (by decide) q1600 rfl dX5_whole_32 ?_
          refine z_iconst (v := 1) dX5_whole_35 (by decide) ?_
          refine z_iaddN (a := a9_17) (b := 1) dX5_whole_36 ?_
          refine tz_put (I' := (s_rd (s_cd I c9_19) (a9_17 + 1) f9_18)) 7 hL (by decide) q1600 s_rd_7 dX5_whole_37 ?_
          refine z_aload_n 1 dX5_whole_40 rfl ?_
          refine z_iload_n 2 dX5_whole_41 rfl ?_
          refine z_callV (As := [.int 2]) (t_test_3 (I := I) hL hT (a := a9_17 + 1) (f := f9_18) (by omega) (by omega) (cs := c9_19) (by first | omega | (simp only [List.length_append, List.length_singleton]; omega))) q1786 q1788 qs76 q121 q1789 nm_X5_test (tX_obj hL) rfl rfl rfl (Nat.le_of_ble_eq_true rfl) ⟨Nat.le_of_ble_eq_true rfl, Nat.le_of_ble_eq_true rfl⟩ dX5_whole_42 rfl rfl (Nat.le_of_ble_eq_true rfl) (Nat.le_of_ble_eq_true rfl) (fun v_65 X_66 hp_67 => ?_)
          obtain ⟨a_57, f_58, cs_59, rfl, rfl, h_61, h_62, h_63, h_64, et_60⟩ := hp_67
          refine z_st (st' := []) rfl ?_
          refine z_aload_n 1 dX5_whole_45 rfl ?_
          refine z_iload_n 0 dX5_whole_46 rfl ?_
          refine z_if_eqb 55 dX5_whole_47 (by decide) (fun _ => ?_) (fun c_ => absurd (c_30.symm.trans c_) (by decide))
          refine z_bipush (v := 10) dX5_whole_55 (by decide) ?_
          refine z_iconst (v := 0) dX5_whole_57 (by decide) ?_
          refine z_callV (As := [.int 10, .int 0]) (t_emit (I := I) hL (cs := cs_59) (a := a_57) (f := f_58) (by omega) 10 0) q1806 q1808 qs81 q121 q1809 nm_X5_emit (tX_obj hL) rfl rfl rfl (Nat.le_of_ble_eq_true rfl) ⟨Nat.le_of_ble_eq_true rfl, Nat.le_of_ble_eq_true rfl⟩ dX5_whole_58 rfl rfl (Nat.le_of_ble_eq_true rfl) (Nat.le_of_ble_eq_true rfl) (fun v_68 X_69 hp_70 => ?_)
          obtain ⟨rfl, rfl⟩ := hp_70
          refine z_st (st' := []) rfl ?_
          refine z_goto 5 dX5_whole_61 (by decide) ?_
          refine z_lv (lv' := [(0, .ref (L 99)), (1, .int 2)]) [1, 2] rfl ?_
          exact ih_13 m_26 a_57 f_58 (cs_59 ++ [(10, 0)]) (by omega) (by omega) (by omega) (by simp only [List.length_append, List.length_singleton]; omega) (by omega) (by rw [← h6_25]; symm; show (if (s_isW kd (J 6) (J 9) a9_17 f9_18 19 || s_isW kd (J 6) (J 9) a9_17 f9_18 20) = true then s_whl kd (J 6) (J 9) (s_part kd pl (J 6) (J 9) 3) m_26 (s_emit ((s_tst kd (J 6) (s_part kd pl (J 6) (J 9) 3)) (a9_17 + 1, f9_18, c9_19)) (if s_isW kd (J 6) (J 9) a9_17 f9_18 19 = true then 9 else 10) 0) else _) = _; rw [if_pos (by rw [c_30, c_52]; rfl), if_neg (by rw [c_30]; decide), et_60]; rfl) (by omega)
  exact loop_15 (1001 + 1) 1001 a_1 f_2 cs_3 (by omega) (by omega) (by omega) (by omega) (by omega) (by show _ = s_whl kd (J 6) (J 9) (s_part kd pl (J 6) (J 9) 3) 1001 (s_tst kd (J 6) (s_part kd pl (J 6) (J 9) 3) (a, f, cs)); rw [et_4]) (Nat.lt_succ_self _)
