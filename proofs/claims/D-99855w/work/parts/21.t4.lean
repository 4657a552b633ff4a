/-! THE MODEL: a date. Printed by t4.py -/
set_option maxRecDepth 100000
set_option maxHeartbeats 4000000 in
theorem t_comes {g : zG} {L : Nat → Nat} {I : Nat → Nat → Int32} {J : Nat → Nat → Int64} {Gb : Nat → Nat → Int32} {X : zX} (hL : tok g L) {σ : Nat → Int32} {c o : Int32} {nh nd : Nat} {own : Nat → Nat} (hV : s_ok (I 10) nh nd own) {wv : Int32 → Int32 → Int32 → Int32 → Int32} (hlaw : s_law (I 10) (I 11) (I 12) wv) (b : Nat) (hb9 : b + 47 ≤ 1081) (d : Nat) (hd : d < nd) {now : Nat} (hw : σ 0 = nI now) (hw2 : now < 2 ^ 30) : zN g m_X5_comes ({ frames := 5, cells := 0, slots := 0, locals := 114 } : Room) [.ref (L 99), .int (nI (b)), .int (nI (d))] (tX g L (tput (tco I c o) b σ) J Gb X) (fun rv X' => rv = none ∧ ∃ Gb' : Nat → Nat → Int32, X' = (tX g L (tput (tco I ((s_comes wv (I 10) nh nd (own d) now d (σ, c, o)).2.1) ((s_comes wv (I 10) nh nd (own d) now d (σ, c, o)).2.2)) b ((s_comes wv (I 10) nh nd (own d) now d (σ, c, o)).1)) J Gb' X)) := by
  refine zN.of (by decide +kernel) (Nat.le_of_ble_eq_true rfl) rfl ?_
  refine z_lv (lv' := [(0, .ref (L 99)), (1, .int (nI (b))), (2, .int (nI (d)))]) [0, 1, 2] rfl ?_
  obtain ⟨h0, hnh, h1, hnd, hown⟩ := hV
  refine z_aload_n 0 dX5_comes_0 rfl ?_
  refine z_iload_n 1 dX5_comes_1 rfl ?_
  refine z_iload_n 2 dX5_comes_2 rfl ?_
  refine z_callV (As := [.int (nI (b)), .int (nI (d))]) (t_bedFor (I := (tco I c o)) (σ := σ) hL h1 hnd b (by omega) h0 hnh d (by omega) (hown d hd).1 (hown d hd).2) q1882 q1884 qs96 q121 q1885 nm_X5_bedFor (tX_obj hL) rfl rfl rfl (Nat.le_of_ble_eq_true rfl) ⟨Nat.le_of_ble_eq_true rfl, Nat.le_of_ble_eq_true rfl⟩ dX5_comes_3 rfl rfl (Nat.le_of_ble_eq_true rfl) (Nat.le_of_ble_eq_true rfl) (fun v_1 X_2 hp_3 => ?_)
  obtain ⟨rfl, rfl⟩ := hp_3
  refine z_st (st' := [.int (s_bed (I 10) σ nh nd (own d) d)]) rfl ?_
  rcases s_bed_cases (vs := I 10) (σ := σ) (nd := nd) (d := d) (hown d hd).2 with hb | ⟨h, hh, hb⟩
  · refine z_eq hb ?_
    refine z_istore_n (lv' := [(3, .int zm1), (0, .ref (L 99)), (1, .int (nI (b))), (2, .int (nI (d)))]) dX5_comes_6 rfl (by decide) rfl ?_
    refine z_iload_n 0 dX5_comes_7 rfl ?_
    refine z_if_ge 36 dX5_comes_8 (by decide) (fun h_ => absurd h_ (by decide)) (fun h_ => ?_)
    refine z_aload_n 1 dX5_comes_11 rfl ?_
    refine z_dup dX5_comes_12 rfl ?_
    refine tz_get (v := .int o) 29 hL (by decide) q1622 rfl dX5_comes_13 ?_
    refine z_iconst (v := 1) dX5_comes_16 (by decide) ?_
    refine z_iload_n 3 dX5_comes_17 rfl ?_
    refine z_ishl dX5_comes_18 ?_
    refine z_ior dX5_comes_19 ?_
    obtain ⟨x_4, ex_4⟩ : ∃ y : Int32, (o ||| (1 <<< ((nI (d)) &&& 31))) = y := ⟨_, rfl⟩
    refine z_eq ex_4 ?_
    refine tz_put (I' := (tput (tco I c x_4) b σ)) 29 hL (by decide) q1622 (by rw [tput_zsa (by decide), tco_29]) dX5_comes_20 ?_
    refine z_aload_n 1 dX5_comes_23 rfl ?_
    refine tz_get (v := .ref (L 24)) 24 hL (by decide) q1617 rfl dX5_comes_24 ?_
    refine z_iload_n 2 dX5_comes_27 rfl ?_
    refine z_iconst (v := 1) dX5_comes_28 (by decide) ?_
    refine z_iaddN (a := b) (b := 1) dX5_comes_29 ?_
    refine z_dup2_11 dX5_comes_30 rfl rfl ?_
    refine tz_iald (v := σ 1) 24 (b + 1) hL (by decide) rfl (by show b + 1 < 1081; omega) (tput_at (by omega)) dX5_comes_31 ?_
    refine z_iconst (v := 1) dX5_comes_32 (by decide) ?_
    refine z_iadd dX5_comes_33 ?_
    obtain ⟨x_5, ex_5⟩ : ∃ y : Int32, ((σ 1) + 1) = y := ⟨_, rfl⟩
    refine z_eq ex_5 ?_
    refine tz_iast 24 (b + 1) hL (by decide) rfl (by show b + 1 < 1081; omega) (tput_zs (by omega)) dX5_comes_34 ?_
    exact z_vret dX5_comes_35 rfl (Nat.le_of_ble_eq_true rfl) (Nat.le_of_ble_eq_true rfl) ⟨rfl, Gb, (by (try subst ex_5); (try subst ex_4); simp only [s_comes, hb, s_spoke, s_come, s_bit, tco_28, tco_29, s_c99, reduceIte, s_c9, m1neg, ])⟩
  · refine z_eq hb ?_
    have hn : ¬ nI h < 0 := nI_pos (by omega)
    refine z_istore_n (lv' := [(3, .int (nI (h))), (0, .ref (L 99)), (1, .int (nI (b))), (2, .int (nI (d)))]) dX5_comes_6 rfl (by decide) rfl ?_
    refine z_iload_n 0 dX5_comes_7 rfl ?_
    refine z_if_geN 36 (by omega) dX5_comes_8 (by decide) ?_
    refine z_aload_n 1 dX5_comes_36 rfl ?_
    refine z_dup dX5_comes_37 rfl ?_
    refine tz_get (v := .int c) 28 hL (by decide) q1621 rfl dX5_comes_38 ?_
    refine z_iconst (v := 1) dX5_comes_41 (by decide) ?_
    refine z_iload_n 3 dX5_comes_42 rfl ?_
    refine z_ishl dX5_comes_43 ?_
    refine z_ior dX5_comes_44 ?_
    obtain ⟨x_6, ex_6⟩ : ∃ y : Int32, (c ||| (1 <<< ((nI (d)) &&& 31))) = y := ⟨_, rfl⟩
    refine z_eq ex_6 ?_
    refine tz_put (I' := (tput (tco I x_6 o) b σ)) 28 hL (by decide) q1621 (by rw [tput_zsa (by decide), tco_28]) dX5_comes_45 ?_
    refine z_aload_n 1 dX5_comes_48 rfl ?_
    refine tz_get (v := .ref (L 24)) 24 hL (by decide) q1617 rfl dX5_comes_49 ?_
    refine z_iload_n 2 dX5_comes_52 rfl ?_
    refine z_bipush (v := 6) dX5_comes_53 (by decide) ?_
    refine z_iaddN (a := b) (b := 6) dX5_comes_55 ?_
    refine z_iload_n 3 dX5_comes_56 rfl ?_
    refine z_iaddN (a := b + 6) (b := d) dX5_comes_57 ?_
    refine z_eq (y := nI (b + d + 6)) (congrArg nI (by omega)) ?_
    refine z_iload_n 0 dX5_comes_58 rfl ?_
    refine tz_iast 24 (b + (d + 6)) hL (by decide) (congrArg nI (by omega)) (by show b + (d + 6) < 1081; omega) (tput_zs (by omega)) dX5_comes_59 ?_
    refine z_aload_n 1 dX5_comes_60 rfl ?_
    refine tz_get (v := .ref (L 24)) 24 hL (by decide) q1617 rfl dX5_comes_61 ?_
    refine z_iload_n 2 dX5_comes_64 rfl ?_
    refine z_bipush (v := 12) dX5_comes_65 (by decide) ?_
    refine z_iaddN (a := b) (b := 12) dX5_comes_67 ?_
    refine z_iload_n 3 dX5_comes_68 rfl ?_
    refine z_iaddN (a := b + 12) (b := d) dX5_comes_69 ?_
    refine z_eq (y := nI (b + d + 12)) (congrArg nI (by omega)) ?_
    refine z_iconst (v := 0) dX5_comes_70 (by decide) ?_
    refine tz_iast 24 (b + (d + 12)) hL (by decide) (congrArg nI (by omega)) (by show b + (d + 12) < 1081; omega) (tput_zs (by omega)) dX5_comes_71 ?_
    refine z_aload_n 1 dX5_comes_72 rfl ?_
    refine tz_get (v := .ref (L 24)) 24 hL (by decide) q1617 rfl dX5_comes_73 ?_
    refine z_iload_n 2 dX5_comes_76 rfl ?_
    refine z_bipush (v := 24) dX5_comes_77 (by decide) ?_
    refine z_iaddN (a := b) (b := 24) dX5_comes_79 ?_
    refine z_iload_n 3 dX5_comes_80 rfl ?_
    refine z_iaddN (a := b + 24) (b := d) dX5_comes_81 ?_
    refine z_eq (y := nI (b + d + 24)) (congrArg nI (by omega)) ?_
    refine z_dup2_11 dX5_comes_82 rfl rfl ?_
    refine tz_iald (v := σ (d + 24)) 24 (b + (d + 24)) hL (by decide) (congrArg nI (by omega)) (by show b + (d + 24) < 1081; omega) ((tput_at (by omega)).trans (by rw [zs1_n (by omega), zs1_n (by omega)])) dX5_comes_83 ?_
    refine z_iconst (v := 1) dX5_comes_84 (by decide) ?_
    refine z_iadd dX5_comes_85 ?_
    obtain ⟨x_7, ex_7⟩ : ∃ y : Int32, ((σ (d + 24)) + 1) = y := ⟨_, rfl⟩
    refine z_eq ex_7 ?_
    refine tz_iast 24 (b + (d + 24)) hL (by decide) (congrArg nI (by omega)) (by show b + (d + 24) < 1081; omega) (tput_zs (by omega)) dX5_comes_86 ?_
    refine z_aload_n 1 dX5_comes_87 rfl ?_
    refine tz_get (v := .ref (L 24)) 24 hL (by decide) q1617 rfl dX5_comes_88 ?_
    refine z_iload_n 2 dX5_comes_91 rfl ?_
    refine z_bipush (v := 18) dX5_comes_92 (by decide) ?_
    refine z_iaddN (a := b) (b := 18) dX5_comes_94 ?_
    refine z_iload_n 3 dX5_comes_95 rfl ?_
    refine z_iaddN (a := b + 18) (b := d) dX5_comes_96 ?_
    refine z_eq (y := nI (b + d + 18)) (congrArg nI (by omega)) ?_
    refine tz_iald (v := σ (d + 18)) 24 (b + (d + 18)) hL (by decide) (congrArg nI (by omega)) (by show b + (d + 18) < 1081; omega) ((tput_at (by omega)).trans (by rw [zs1_n (by omega), zs1_n (by omega), zs1_n (by omega)])) dX5_comes_97 ?_
    refine z_istore (lv' := [(4, .int (σ (d + 18))), (3, .int (nI (h))), (0, .ref (L 99)), (1, .int (nI (b))), (2, .int (nI (d)))]) dX5_comes_98 (by decide) rfl ?_
    refine z_aload_n 2 dX5_comes_100 rfl ?_
    refine tz_get (v := .ref (L 22)) 22 hL (by decide) q1615 rfl dX5_comes_101 ?_
    refine z_iconst (v := 0) dX5_comes_104 (by decide) ?_
    refine z_iload 0 dX5_comes_105 rfl ?_
    refine tz_iastG 22 (0) hL (by decide) rfl (by show 0 < 4; omega) dX5_comes_107 ?_
    refine z_aload_n 2 dX5_comes_108 rfl ?_
    refine tz_get (v := .ref (L 22)) 22 hL (by decide) q1615 rfl dX5_comes_109 ?_
    refine z_iconst (v := 1) dX5_comes_112 (by decide) ?_
    refine z_aload_n 2 dX5_comes_113 rfl ?_
    refine z_iload_n 3 dX5_comes_114 rfl ?_
    refine z_iload_n 1 dX5_comes_115 rfl ?_
    refine z_callV (As := [.int (nI (b)), .int (nI (h))]) (t_inHouse (I := (tco I x_6 o)) (σ := (zs1 (zs1 (zs1 σ (d + 6) (nI (h))) (d + 12) 0) (d + 24) x_7)) hL h1 hnd b (by omega) (nI (h))) q1838 q1840 qs87 q121 q1841 nm_X5_inHouse (tX_obj hL) rfl rfl rfl (Nat.le_of_ble_eq_true rfl) ⟨Nat.le_of_ble_eq_true rfl, Nat.le_of_ble_eq_true rfl⟩ dX5_comes_116 rfl rfl (Nat.le_of_ble_eq_true rfl) (Nat.le_of_ble_eq_true rfl) (fun v_8 X_9 hp_10 => ?_)
    obtain ⟨rfl, rfl⟩ := hp_10
    refine z_st (st' := [.int (s_in (zs1 (zs1 (zs1 σ (d + 6) (nI (h))) (d + 12) 0) (d + 24) x_7) (nI (h)) nd), .int 1, .ref (L 22)]) rfl ?_
    refine z_callS (As := [.int (s_in (zs1 (zs1 (zs1 σ (d + 6) (nI (h))) (d + 12) 0) (d + 24) x_7) (nI (h)) nd)]) (t_bits (s_in (zs1 (zs1 (zs1 σ (d + 6) (nI (h))) (d + 12) 0) (d + 24) x_7) (nI (h)) nd)) q1890 q1891 q121 q1892 nm_X5_bits rfl (Nat.le_of_ble_eq_true rfl) ⟨Nat.le_of_ble_eq_true rfl, Nat.le_of_ble_eq_true rfl⟩ dX5_comes_119 rfl rfl (Nat.le_of_ble_eq_true rfl) (Nat.le_of_ble_eq_true rfl) (fun v_11 X_12 hp_13 => ?_)
    obtain ⟨rfl, rfl⟩ := hp_13
    refine z_st (st' := [.int (s_bits (s_in (zs1 (zs1 (zs1 σ (d + 6) (nI (h))) (d + 12) 0) (d + 24) x_7) (nI (h)) nd) 30), .int 1, .ref (L 22)]) rfl ?_
    refine tz_iastG 22 (1) hL (by decide) rfl (by show 1 < 4; omega) dX5_comes_122 ?_
    refine z_aload_n 2 dX5_comes_123 rfl ?_
    refine tz_get (v := .ref (L 22)) 22 hL (by decide) q1615 rfl dX5_comes_124 ?_
    refine z_iconst (v := 2) dX5_comes_127 (by decide) ?_
    refine z_aload_n 2 dX5_comes_128 rfl ?_
    refine tz_get (v := .ref (L 24)) 24 hL (by decide) q1617 rfl dX5_comes_129 ?_
    refine z_iload_n 3 dX5_comes_132 rfl ?_
    refine z_iconst (v := 0) dX5_comes_133 (by decide) ?_
    refine z_iaddN (a := b) (b := 0) dX5_comes_134 ?_
    refine z_eq (y := nI (b)) (congrArg nI (by omega)) ?_
    refine tz_iald (v := nI (now)) 24 (b + 0) hL (by decide) (congrArg nI (by omega)) (by show b + 0 < 1081; omega) (((tput_at (by omega)).trans (by rw [zs1_n (by omega), zs1_n (by omega), zs1_n (by omega)])).trans hw) dX5_comes_135 ?_
    refine z_bipush (v := 12) dX5_comes_136 (by decide) ?_
    refine z_iremN (a := now) (b := 12) (by omega) (by decide) (by decide) dX5_comes_138 ?_
    refine tz_iastG 22 (2) hL (by decide) rfl (by show 2 < 4; omega) dX5_comes_139 ?_
    refine z_aload_n 2 dX5_comes_140 rfl ?_
    refine tz_get (v := .ref (L 22)) 22 hL (by decide) q1615 rfl dX5_comes_141 ?_
    refine z_iconst (v := 3) dX5_comes_144 (by decide) ?_
    refine z_aload_n 2 dX5_comes_145 rfl ?_
    refine tz_get (v := .ref (L 24)) 24 hL (by decide) q1617 rfl dX5_comes_146 ?_
    refine z_iload_n 3 dX5_comes_149 rfl ?_
    refine z_bipush (v := 24) dX5_comes_150 (by decide) ?_
    refine z_iaddN (a := b) (b := 24) dX5_comes_152 ?_
    refine z_iload_n 4 dX5_comes_153 rfl ?_
    refine z_iaddN (a := b + 24) (b := d) dX5_comes_154 ?_
    refine z_eq (y := nI (b + d + 24)) (congrArg nI (by omega)) ?_
    refine tz_iald (v := x_7) 24 (b + (d + 24)) hL (by decide) (congrArg nI (by omega)) (by show b + (d + 24) < 1081; omega) ((tput_at (by omega)).trans (by rw [zs1_s])) dX5_comes_155 ?_
    refine tz_iastG 22 (3) hL (by decide) rfl (by show 3 < 4; omega) dX5_comes_156 ?_
    rcases hlaw with ⟨hl, hwv⟩ | ⟨f, c0, hl, hco, hwf, hlen, hwv⟩
    · skip
      refine z_aload_n 2 dX5_comes_157 rfl ?_
      refine tz_get (v := .ref (L 10)) 10 hL (by decide) q1603 rfl dX5_comes_158 ?_
      refine z_iconst (v := 3) dX5_comes_161 (by decide) ?_
      refine tz_iald (v := zm1) 10 (3) hL (by decide) rfl (by show 3 < 100; omega) hl dX5_comes_162 ?_
      refine z_if_ge 170 dX5_comes_163 (by decide) (fun h_ => absurd h_ (by decide)) (fun h_ => ?_)
      refine z_iconst (v := zm1) dX5_comes_166 (by decide) ?_
      refine z_goto 180 dX5_comes_167 (by decide) ?_
      refine z_istore (lv' := [(5, .int zm1), (4, .int (σ (d + 18))), (3, .int (nI (h))), (0, .ref (L 99)), (1, .int (nI (b))), (2, .int (nI (d)))]) dX5_comes_180 (by decide) rfl ?_
      refine z_iload 1 dX5_comes_182 rfl ?_
      refine z_iload 0 dX5_comes_184 rfl ?_
      refine z_bipush (v := zm9) dX5_comes_186 (by decide) ?_
      refine z_icmp_ge 196 dX5_comes_188 (by decide) (fun h_ => ?_) (fun h_ => absurd h_ (by decide))
      refine z_iload 0 dX5_comes_196 rfl ?_
      refine z_bipush (v := 9) dX5_comes_198 (by decide) ?_
      refine z_icmp_le 208 dX5_comes_200 (by decide) (fun h_ => ?_) (fun h_ => absurd h_ (by decide))
      refine z_iload 0 dX5_comes_208 rfl ?_
      refine z_iadd dX5_comes_210 ?_
      obtain ⟨x_14, ex_14⟩ : ∃ y : Int32, ((σ (d + 18)) + zm1) = y := ⟨_, rfl⟩
      refine z_eq ex_14 ?_
      refine z_istore (lv' := [(4, .int x_14), (5, .int zm1), (3, .int (nI (h))), (0, .ref (L 99)), (1, .int (nI (b))), (2, .int (nI (d)))]) dX5_comes_211 (by decide) rfl ?_
      refine z_aload_n 3 dX5_comes_213 rfl ?_
      refine tz_get (v := .ref (L 24)) 24 hL (by decide) q1617 rfl dX5_comes_214 ?_
      refine z_iload_n 4 dX5_comes_217 rfl ?_
      refine z_bipush (v := 18) dX5_comes_218 (by decide) ?_
      refine z_iaddN (a := b) (b := 18) dX5_comes_220 ?_
      refine z_iload_n 5 dX5_comes_221 rfl ?_
      refine z_iaddN (a := b + 18) (b := d) dX5_comes_222 ?_
      refine z_eq (y := nI (b + d + 18)) (congrArg nI (by omega)) ?_
      refine z_iload 0 dX5_comes_223 rfl ?_
      refine z_if_ge 232 dX5_comes_225 (by decide) (fun c_15 => ?_) (fun c_15 => ?_)
      · -- 0 ≤ x_14
        have c_15' := Int32.not_lt.mpr c_15
        refine z_iload 0 dX5_comes_232 rfl ?_
        refine z_bipush (v := 99) dX5_comes_234 (by decide) ?_
        refine z_icmp_le 244 dX5_comes_236 (by decide) (fun c_16 => ?_) (fun c_16 => ?_)
        · -- x_14 ≤ 99
          have c_16' := Int32.not_lt.mpr c_16
          refine z_iload 0 dX5_comes_244 rfl ?_
          refine tz_iast 24 (b + (d + 18)) hL (by decide) (congrArg nI (by omega)) (by show b + (d + 18) < 1081; omega) (tput_zs (by omega)) dX5_comes_246 ?_
          exact z_vret dX5_comes_247 rfl (Nat.le_of_ble_eq_true rfl) (Nat.le_of_ble_eq_true rfl) ⟨rfl, (zs (zs (zs (zs Gb 22 0 (σ (d + 18))) 22 1 (s_bits (s_in (zs1 (zs1 (zs1 σ (d + 6) (nI (h))) (d + 12) 0) (d + 24) x_7) (nI (h)) nd) 30)) 22 2 (nI ((now % 12)))) 22 3 x_7), (by (try subst ex_14); (try subst ex_7); (try subst ex_6); simp only [s_comes, hb, s_spoke, s_come, s_bit, tco_28, tco_29, s_c99, reduceIte, hwv, s_c9m1, hn, c_15, c_15', c_16, c_16'])⟩
        · -- ¬ x_14 ≤ 99
          have c_16' := Int32.not_le.mp c_16
          refine z_bipush (v := 99) dX5_comes_239 (by decide) ?_
          refine z_goto 246 dX5_comes_241 (by decide) ?_
          refine tz_iast 24 (b + (d + 18)) hL (by decide) (congrArg nI (by omega)) (by show b + (d + 18) < 1081; omega) (tput_zs (by omega)) dX5_comes_246 ?_
          exact z_vret dX5_comes_247 rfl (Nat.le_of_ble_eq_true rfl) (Nat.le_of_ble_eq_true rfl) ⟨rfl, (zs (zs (zs (zs Gb 22 0 (σ (d + 18))) 22 1 (s_bits (s_in (zs1 (zs1 (zs1 σ (d + 6) (nI (h))) (d + 12) 0) (d + 24) x_7) (nI (h)) nd) 30)) 22 2 (nI ((now % 12)))) 22 3 x_7), (by (try subst ex_14); (try subst ex_7); (try subst ex_6); simp only [s_comes, hb, s_spoke, s_come, s_bit, tco_28, tco_29, s_c99, reduceIte, hwv, s_c9m1, hn, c_15, c_15', c_16, c_16'])⟩
      · -- ¬ 0 ≤ x_14
        have c_15' := Int32.not_le.mp c_15
        refine z_iconst (v := 0) dX5_comes_228 (by decide) ?_
        refine z_goto 246 dX5_comes_229 (by decide) ?_
        refine tz_iast 24 (b + (d + 18)) hL (by decide) (congrArg nI (by omega)) (by show b + (d + 18) < 1081; omega) (tput_zs (by omega)) dX5_comes_246 ?_
        exact z_vret dX5_comes_247 rfl (Nat.le_of_ble_eq_true rfl) (Nat.le_of_ble_eq_true rfl) ⟨rfl, (zs (zs (zs (zs Gb 22 0 (σ (d + 18))) 22 1 (s_bits (s_in (zs1 (zs1 (zs1 σ (d + 6) (nI (h))) (d + 12) 0) (d + 24) x_7) (nI (h)) nd) 30)) 22 2 (nI ((now % 12)))) 22 3 x_7), (by (try subst ex_14); (try subst ex_7); (try subst ex_6); simp only [s_comes, hb, s_spoke, s_come, s_bit, tco_28, tco_29, s_c99, reduceIte, hwv, s_c9m1, hn, c_15, c_15'])⟩
    · skip
      refine z_aload_n 2 dX5_comes_157 rfl ?_
      refine tz_get (v := .ref (L 10)) 10 hL (by decide) q1603 rfl dX5_comes_158 ?_
      refine z_iconst (v := 3) dX5_comes_161 (by decide) ?_
      refine tz_iald (v := nI (f)) 10 (3) hL (by decide) rfl (by show 3 < 100; omega) hl dX5_comes_162 ?_
      refine z_if_geN 170 (by omega) dX5_comes_163 (by decide) ?_
      refine z_aload_n 2 dX5_comes_170 rfl ?_
      refine z_aload_n 2 dX5_comes_171 rfl ?_
      refine tz_get (v := .ref (L 10)) 10 hL (by decide) q1603 rfl dX5_comes_172 ?_
      refine z_iconst (v := 3) dX5_comes_175 (by decide) ?_
      refine tz_iald (v := nI (f)) 10 (3) hL (by decide) rfl (by show 3 < 100; omega) hl dX5_comes_176 ?_
      refine z_callV (As := [.int (nI (f))]) (t_worthAt (I := (tput (tco I x_6 o) b (zs1 (zs1 (zs1 σ (d + 6) (nI (h))) (d + 12) 0) (d + 24) x_7))) (Gb := (zs (zs (zs (zs Gb 22 0 (σ (d + 18))) 22 1 (s_bits (s_in (zs1 (zs1 (zs1 σ (d + 6) (nI (h))) (d + 12) 0) (d + 24) x_7) (nI (h)) nd) 30)) 22 2 (nI ((now % 12)))) 22 3 x_7)) hL f hco hwf (by omega) (by omega) rfl) q1893 q1895 qs98 q121 q1896 nm_X5_worthAt (tX_obj hL) rfl rfl rfl (Nat.le_of_ble_eq_true rfl) ⟨Nat.le_of_ble_eq_true rfl, Nat.le_of_ble_eq_true rfl⟩ dX5_comes_177 rfl rfl (Nat.le_of_ble_eq_true rfl) (Nat.le_of_ble_eq_true rfl) (fun v_17 X_18 hp_19 => ?_)
      obtain ⟨rfl, Gb9, rfl⟩ := hp_19
      refine z_st (st' := [.int (s_ev ((zs (zs (zs (zs Gb 22 0 (σ (d + 18))) 22 1 (s_bits (s_in (zs1 (zs1 (zs1 σ (d + 6) (nI (h))) (d + 12) 0) (d + 24) x_7) (nI (h)) nd) 30)) 22 2 (nI ((now % 12)))) 22 3 x_7) 22) c0 [])]) rfl ?_
      refine z_eq (y := wv (σ (d + 18)) (s_bits (s_in (zs1 (zs1 (zs1 σ (d + 6) (nI (h))) (d + 12) 0) (d + 24) x_7) (nI (h)) nd) 30) (nI ((now % 12))) x_7) ((s_ev_congr (fb := s_facts (σ (d + 18)) (s_bits (s_in (zs1 (zs1 (zs1 σ (d + 6) (nI (h))) (d + 12) 0) (d + 24) x_7) (nI (h)) nd) 30) (nI ((now % 12))) x_7) (fun k9 hk9 => by rcases (by omega : k9 = 0 ∨ k9 = 1 ∨ k9 = 2 ∨ k9 = 3) with rfl | rfl | rfl | rfl <;> rfl) c0 [] hwf).trans (hwv (σ (d + 18)) (s_bits (s_in (zs1 (zs1 (zs1 σ (d + 6) (nI (h))) (d + 12) 0) (d + 24) x_7) (nI (h)) nd) 30) (nI ((now % 12))) x_7).symm) ?_
      refine z_istore (lv' := [(5, .int (wv (σ (d + 18)) (s_bits (s_in (zs1 (zs1 (zs1 σ (d + 6) (nI (h))) (d + 12) 0) (d + 24) x_7) (nI (h)) nd) 30) (nI ((now % 12))) x_7)), (4, .int (σ (d + 18))), (3, .int (nI (h))), (0, .ref (L 99)), (1, .int (nI (b))), (2, .int (nI (d)))]) dX5_comes_180 (by decide) rfl ?_
      refine z_iload 1 dX5_comes_182 rfl ?_
      refine z_iload 0 dX5_comes_184 rfl ?_
      refine z_bipush (v := zm9) dX5_comes_186 (by decide) ?_
      refine z_icmp_ge 196 dX5_comes_188 (by decide) (fun c_20 => ?_) (fun c_20 => ?_)
      · -- zm9 ≤ wv (σ (d + 18)) (s_bits (s_in (zs1 (zs1 (zs1 σ (d + 6) (nI (h))) (d + 12) 0) (d + 24) x_7) (nI (h)) nd) 30) (nI ((now % 12))) x_7
        have c_20' := Int32.not_lt.mpr c_20
        refine z_iload 0 dX5_comes_196 rfl ?_
        refine z_bipush (v := 9) dX5_comes_198 (by decide) ?_
        refine z_icmp_le 208 dX5_comes_200 (by decide) (fun c_21 => ?_) (fun c_21 => ?_)
        · -- wv (σ (d + 18)) (s_bits (s_in (zs1 (zs1 (zs1 σ (d + 6) (nI (h))) (d + 12) 0) (d + 24) x_7) (nI (h)) nd) 30) (nI ((now % 12))) x_7 ≤ 9
          have c_21' := Int32.not_lt.mpr c_21
          refine z_iload 0 dX5_comes_208 rfl ?_
          refine z_iadd dX5_comes_210 ?_
          obtain ⟨x_22, ex_22⟩ : ∃ y : Int32, ((σ (d + 18)) + (wv (σ (d + 18)) (s_bits (s_in (zs1 (zs1 (zs1 σ (d + 6) (nI (h))) (d + 12) 0) (d + 24) x_7) (nI (h)) nd) 30) (nI ((now % 12))) x_7)) = y := ⟨_, rfl⟩
          refine z_eq ex_22 ?_
          refine z_istore (lv' := [(4, .int x_22), (5, .int (wv (σ (d + 18)) (s_bits (s_in (zs1 (zs1 (zs1 σ (d + 6) (nI (h))) (d + 12) 0) (d + 24) x_7) (nI (h)) nd) 30) (nI ((now % 12))) x_7)), (3, .int (nI (h))), (0, .ref (L 99)), (1, .int (nI (b))), (2, .int (nI (d)))]) dX5_comes_211 (by decide) rfl ?_
          refine z_aload_n 3 dX5_comes_213 rfl ?_
          refine tz_get (v := .ref (L 24)) 24 hL (by decide) q1617 rfl dX5_comes_214 ?_
          refine z_iload_n 4 dX5_comes_217 rfl ?_
          refine z_bipush (v := 18) dX5_comes_218 (by decide) ?_
          refine z_iaddN (a := b) (b := 18) dX5_comes_220 ?_
          refine z_iload_n 5 dX5_comes_221 rfl ?_
          refine z_iaddN (a := b + 18) (b := d) dX5_comes_222 ?_
          refine z_eq (y := nI (b + d + 18)) (congrArg nI (by omega)) ?_
          refine z_iload 0 dX5_comes_223 rfl ?_
          refine z_if_ge 232 dX5_comes_225 (by decide) (fun c_23 => ?_) (fun c_23 => ?_)
          · -- 0 ≤ x_22
            have c_23' := Int32.not_lt.mpr c_23
            refine z_iload 0 dX5_comes_232 rfl ?_
            refine z_bipush (v := 99) dX5_comes_234 (by decide) ?_
            refine z_icmp_le 244 dX5_comes_236 (by decide) (fun c_24 => ?_) (fun c_24 => ?_)
            · -- x_22 ≤ 99
              have c_24' := Int32.not_lt.mpr c_24
              refine z_iload 0 dX5_comes_244 rfl ?_
              refine tz_iast 24 (b + (d + 18)) hL (by decide) (congrArg nI (by omega)) (by show b + (d + 18) < 1081; omega) (tput_zs (by omega)) dX5_comes_246 ?_
              exact z_vret dX5_comes_247 rfl (Nat.le_of_ble_eq_true rfl) (Nat.le_of_ble_eq_true rfl) ⟨rfl, Gb9, (by (try subst ex_22); (try subst ex_7); (try subst ex_6); simp only [s_comes, hb, s_spoke, s_come, s_bit, tco_28, tco_29, s_c99, reduceIte, s_c9, hn, c_20, c_20', c_21, c_21', c_23, c_23', c_24, c_24'])⟩
            · -- ¬ x_22 ≤ 99
              have c_24' := Int32.not_le.mp c_24
              refine z_bipush (v := 99) dX5_comes_239 (by decide) ?_
              refine z_goto 246 dX5_comes_241 (by decide) ?_
              refine tz_iast 24 (b + (d + 18)) hL (by decide) (congrArg nI (by omega)) (by show b + (d + 18) < 1081; omega) (tput_zs (by omega)) dX5_comes_246 ?_
              exact z_vret dX5_comes_247 rfl (Nat.le_of_ble_eq_true rfl) (Nat.le_of_ble_eq_true rfl) ⟨rfl, Gb9, (by (try subst ex_22); (try subst ex_7); (try subst ex_6); simp only [s_comes, hb, s_spoke, s_come, s_bit, tco_28, tco_29, s_c99, reduceIte, s_c9, hn, c_20, c_20', c_21, c_21', c_23, c_23', c_24, c_24'])⟩
          · -- ¬ 0 ≤ x_22
            have c_23' := Int32.not_le.mp c_23
            refine z_iconst (v := 0) dX5_comes_228 (by decide) ?_
            refine z_goto 246 dX5_comes_229 (by decide) ?_
            refine tz_iast 24 (b + (d + 18)) hL (by decide) (congrArg nI (by omega)) (by show b + (d + 18) < 1081; omega) (tput_zs (by omega)) dX5_comes_246 ?_
            exact z_vret dX5_comes_247 rfl (Nat.le_of_ble_eq_true rfl) (Nat.le_of_ble_eq_true rfl) ⟨rfl, Gb9, (by (try subst ex_22); (try subst ex_7); (try subst ex_6); simp only [s_comes, hb, s_spoke, s_come, s_bit, tco_28, tco_29, s_c99, reduceIte, s_c9, hn, c_20, c_20', c_21, c_21', c_23, c_23'])⟩
        · -- ¬ wv (σ (d + 18)) (s_bits (s_in (zs1 (zs1 (zs1 σ (d + 6) (nI (h))) (d + 12) 0) (d + 24) x_7) (nI (h)) nd) 30) (nI ((now % 12))) x_7 ≤ 9
          have c_21' := Int32.not_le.mp c_21
          refine z_bipush (v := 9) dX5_comes_203 (by decide) ?_
          refine z_goto 210 dX5_comes_205 (by decide) ?_
          refine z_iadd dX5_comes_210 ?_
          obtain ⟨x_25, ex_25⟩ : ∃ y : Int32, ((σ (d + 18)) + 9) = y := ⟨_, rfl⟩
          refine z_eq ex_25 ?_
          refine z_istore (lv' := [(4, .int x_25), (5, .int (wv (σ (d + 18)) (s_bits (s_in (zs1 (zs1 (zs1 σ (d + 6) (nI (h))) (d + 12) 0) (d + 24) x_7) (nI (h)) nd) 30) (nI ((now % 12))) x_7)), (3, .int (nI (h))), (0, .ref (L 99)), (1, .int (nI (b))), (2, .int (nI (d)))]) dX5_comes_211 (by decide) rfl ?_
          refine z_aload_n 3 dX5_comes_213 rfl ?_
          refine tz_get (v := .ref (L 24)) 24 hL (by decide) q1617 rfl dX5_comes_214 ?_
          refine z_iload_n 4 dX5_comes_217 rfl ?_
          refine z_bipush (v := 18) dX5_comes_218 (by decide) ?_
          refine z_iaddN (a := b) (b := 18) dX5_comes_220 ?_
          refine z_iload_n 5 dX5_comes_221 rfl ?_
          refine z_iaddN (a := b + 18) (b := d) dX5_comes_222 ?_
          refine z_eq (y := nI (b + d + 18)) (congrArg nI (by omega)) ?_
          refine z_iload 0 dX5_comes_223 rfl ?_
          refine z_if_ge 232 dX5_comes_225 (by decide) (fun c_26 => ?_) (fun c_26 => ?_)
          · -- 0 ≤ x_25
            have c_26' := Int32.not_lt.mpr c_26
            refine z_iload 0 dX5_comes_232 rfl ?_
            refine z_bipush (v := 99) dX5_comes_234 (by decide) ?_
            refine z_icmp_le 244 dX5_comes_236 (by decide) (fun c_27 => ?_) (fun c_27 => ?_)
            · -- x_25 ≤ 99
              have c_27' := Int32.not_lt.mpr c_27
              refine z_iload 0 dX5_comes_244 rfl ?_
              refine tz_iast 24 (b + (d + 18)) hL (by decide) (congrArg nI (by omega)) (by show b + (d + 18) < 1081; omega) (tput_zs (by omega)) dX5_comes_246 ?_
              exact z_vret dX5_comes_247 rfl (Nat.le_of_ble_eq_true rfl) (Nat.le_of_ble_eq_true rfl) ⟨rfl, Gb9, (by (try subst ex_25); (try subst ex_7); (try subst ex_6); simp only [s_comes, hb, s_spoke, s_come, s_bit, tco_28, tco_29, s_c99, reduceIte, s_c9, hn, c_20, c_20', c_21, c_21', c_26, c_26', c_27, c_27'])⟩
            · -- ¬ x_25 ≤ 99
              have c_27' := Int32.not_le.mp c_27
              refine z_bipush (v := 99) dX5_comes_239 (by decide) ?_
              refine z_goto 246 dX5_comes_241 (by decide) ?_
              refine tz_iast 24 (b + (d + 18)) hL (by decide) (congrArg nI (by omega)) (by show b + (d + 18) < 1081; omega) (tput_zs (by omega)) dX5_comes_246 ?_
              exact z_vret dX5_comes_247 rfl (Nat.le_of_ble_eq_true rfl) (Nat.le_of_ble_eq_true rfl) ⟨rfl, Gb9, (by (try subst ex_25); (try subst ex_7); (try subst ex_6); simp only [s_comes, hb, s_spoke, s_come, s_bit, tco_28, tco_29, s_c99, reduceIte, s_c9, hn, c_20, c_20', c_21, c_21', c_26, c_26', c_27, c_27'])⟩
          · -- ¬ 0 ≤ x_25
            have c_26' := Int32.not_le.mp c_26
            refine z_iconst (v := 0) dX5_comes_228 (by decide) ?_
            refine z_goto 246 dX5_comes_229 (by decide) ?_
            refine tz_iast 24 (b + (d + 18)) hL (by decide) (congrArg nI (by omega)) (by show b + (d + 18) < 1081; omega) (tput_zs (by omega)) dX5_comes_246 ?_
            exact z_vret dX5_comes_247 rfl (Nat.le_of_ble_eq_true rfl) (Nat.le_of_ble_eq_true rfl) ⟨rfl, Gb9, (by (try subst ex_25); (try subst ex_7); (try subst ex_6); simp only [s_comes, hb, s_spoke, s_come, s_bit, tco_28, tco_29, s_c99, reduceIte, s_c9, hn, c_20, c_20', c_21, c_21', c_26, c_26'])⟩
      · -- ¬ zm9 ≤ wv (σ (d + 18)) (s_bits (s_in (zs1 (zs1 (zs1 σ (d + 6) (nI (h))) (d + 12) 0) (d + 24) x_7) (nI (h)) nd) 30) (nI ((now % 12))) x_7
        have c_20' := Int32.not_le.mp c_20
        refine z_bipush (v := zm9) dX5_comes_191 (by decide) ?_
        refine z_goto 210 dX5_comes_193 (by decide) ?_
        refine z_iadd dX5_comes_210 ?_
        obtain ⟨x_28, ex_28⟩ : ∃ y : Int32, ((σ (d + 18)) + zm9) = y := ⟨_, rfl⟩
        refine z_eq ex_28 ?_
        refine z_istore (lv' := [(4, .int x_28), (5, .int (wv (σ (d + 18)) (s_bits (s_in (zs1 (zs1 (zs1 σ (d + 6) (nI (h))) (d + 12) 0) (d + 24) x_7) (nI (h)) nd) 30) (nI ((now % 12))) x_7)), (3, .int (nI (h))), (0, .ref (L 99)), (1, .int (nI (b))), (2, .int (nI (d)))]) dX5_comes_211 (by decide) rfl ?_
        refine z_aload_n 3 dX5_comes_213 rfl ?_
        refine tz_get (v := .ref (L 24)) 24 hL (by decide) q1617 rfl dX5_comes_214 ?_
        refine z_iload_n 4 dX5_comes_217 rfl ?_
        refine z_bipush (v := 18) dX5_comes_218 (by decide) ?_
        refine z_iaddN (a := b) (b := 18) dX5_comes_220 ?_
        refine z_iload_n 5 dX5_comes_221 rfl ?_
        refine z_iaddN (a := b + 18) (b := d) dX5_comes_222 ?_
        refine z_eq (y := nI (b + d + 18)) (congrArg nI (by omega)) ?_
        refine z_iload 0 dX5_comes_223 rfl ?_
        refine z_if_ge 232 dX5_comes_225 (by decide) (fun c_29 => ?_) (fun c_29 => ?_)
        · -- 0 ≤ x_28
          have c_29' := Int32.not_lt.mpr c_29
          refine z_iload 0 dX5_comes_232 rfl ?_
          refine z_bipush (v := 99) dX5_comes_234 (by decide) ?_
          refine z_icmp_le 244 dX5_comes_236 (by decide) (fun c_30 => ?_) (fun c_30 => ?_)
          · -- x_28 ≤ 99
            have c_30' := Int32.not_lt.mpr c_30
            refine z_iload 0 dX5_comes_244 rfl ?_
            refine tz_iast 24 (b + (d + 18)) hL (by decide) (congrArg nI (by omega)) (by show b + (d + 18) < 1081; omega) (tput_zs (by omega)) dX5_comes_246 ?_
            exact z_vret dX5_comes_247 rfl (Nat.le_of_ble_eq_true rfl) (Nat.le_of_ble_eq_true rfl) ⟨rfl, Gb9, (by (try subst ex_28); (try subst ex_7); (try subst ex_6); simp only [s_comes, hb, s_spoke, s_come, s_bit, tco_28, tco_29, s_c99, reduceIte, s_c9, hn, c_20, c_20', c_29, c_29', c_30, c_30'])⟩
          · -- ¬ x_28 ≤ 99
            have c_30' := Int32.not_le.mp c_30
            refine z_bipush (v := 99) dX5_comes_239 (by decide) ?_
            refine z_goto 246 dX5_comes_241 (by decide) ?_
            refine tz_iast 24 (b + (d + 18)) hL (by decide) (congrArg nI (by omega)) (by show b + (d + 18) < 1081; omega) (tput_zs (by omega)) dX5_comes_246 ?_
            exact z_vret dX5_comes_247 rfl (Nat.le_of_ble_eq_true rfl) (Nat.le_of_ble_eq_true rfl) ⟨rfl, Gb9, (by (try subst ex_28); (try subst ex_7); (try subst ex_6); simp only [s_comes, hb, s_spoke, s_come, s_bit, tco_28, tco_29, s_c99, reduceIte, s_c9, hn, c_20, c_20', c_29, c_29', c_30, c_30'])⟩
        · -- ¬ 0 ≤ x_28
          have c_29' := Int32.not_le.mp c_29
          refine z_iconst (v := 0) dX5_comes_228 (by decide) ?_
          refine z_goto 246 dX5_comes_229 (by decide) ?_
          refine tz_iast 24 (b + (d + 18)) hL (by decide) (congrArg nI (by omega)) (by show b + (d + 18) < 1081; omega) (tput_zs (by omega)) dX5_comes_246 ?_
          exact z_vret dX5_comes_247 rfl (Nat.le_of_ble_eq_true rfl) (Nat.le_of_ble_eq_true rfl) ⟨rfl, Gb9, (by (try subst ex_28); (try subst ex_7); (try subst ex_6); simp only [s_comes, hb, s_spoke, s_come, s_bit, tco_28, tco_29, s_c99, reduceIte, s_c9, hn, c_20, c_20', c_29, c_29'])⟩
