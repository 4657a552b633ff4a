/-! THE MODEL: a year is read. Printed by t35.py -/
set_option maxRecDepth 100000
set_option maxHeartbeats 4000000 in
theorem t_year {g : zG} {L : Nat → Nat} {I : Nat → Nat → Int32} {J : Nat → Nat → Int64} {Gb : Nat → Nat → Int32} {X : zX} (hL : tok g L) {n : Nat} (hn : I 99 2 = nI n) (hn2 : n ≤ 1000) {nm : Nat} (hm : I 99 18 = nI nm) (hm2 : nm ≤ 10) : zN g m_X5_year ({ frames := 4, cells := 0, slots := 0, locals := 89 } : Room) [.ref (L 99)] (tX g L I J Gb X) (fun rv X' => ∃ (S P : Nat → Int32) (V : Nat → Int64) (m : Nat), s_cut (I 1) n S P V m ∧ s_fr (I 1) n m = n ∧ S m = 0 ∧ P m = nI n ∧ m ≤ n ∧ ∃ (T9 : Nat → Int32) (n9 a9 f9 : Nat), s_ys (s_nt S) (s_nt P) V (J 9) (s_nm (J 14) (I 16) nm) 1001 (I 21, 0, 0, 0) = (T9, n9, a9, f9) ∧ rv = some (.int (nI f9)) ∧ ((¬ f9 = 0 ∧ X' = tX g L (s_rd (s_rw (zs (zs (s_cw (zs I 99 0 0) n S P) 99 7 0) 99 8 0) 21 T9) a9 f9) (s_jw J V) Gb X) ∨ (f9 = 0 ∧ n9 ≤ 40 ∧ X' = tX g L (s_rd (s_rw (zs (zs (s_cw (zs I 99 0 0) n S P) 99 7 0) 99 8 0) 21 (s_cp1 (zs1 T9 0 (nI n9)) (3 * n9))) a9 0) (s_jw J V) Gb X))) := by
  refine zN.of (by decide +kernel) (Nat.le_of_ble_eq_true rfl) rfl ?_
  refine z_lv (lv' := [(0, .ref (L 99))]) [0] rfl ?_
  refine z_aload_n 0 dX5_year_0 rfl ?_
  refine z_iconst (v := 0) dX5_year_1 (by decide) ?_
  refine tz_put (I' := (zs I 99 0 0)) 0 hL (by decide) q1593 rfl dX5_year_2 ?_
  refine z_aload_n 0 dX5_year_5 rfl ?_
  refine z_callV (As := []) (t_cutAll (I := (zs I 99 0 0)) hL hn hn2) q1696 q1698 qs58 q121 q1699 nm_X5_cutAll (tX_obj hL) rfl rfl rfl (Nat.le_of_ble_eq_true rfl) ⟨Nat.le_of_ble_eq_true rfl, Nat.le_of_ble_eq_true rfl⟩ dX5_year_6 rfl rfl (Nat.le_of_ble_eq_true rfl) (Nat.le_of_ble_eq_true rfl) (fun v_1 X_2 hp_3 => ?_)
  obtain ⟨rfl, S, P, V, m, rfl, hcut, hfr, hS, hP, hmn⟩ := hp_3
  refine z_st (st' := []) rfl ?_
  refine z_iconst (v := 0) dX5_year_9 (by decide) ?_
  refine z_istore_n (lv' := [(1, .int 0), (0, .ref (L 99))]) dX5_year_10 rfl (by decide) rfl ?_
  refine z_X (X' := (tX g L (s_rd (s_rw (zs (zs (s_cw (zs I 99 0 0) n S P) 99 7 0) 99 8 0) 21 (I 21)) 0 0) (s_jw J V) Gb X)) (congrArg (fun z => tX g L z (s_jw J V) Gb X) ((s_rd_self (I := (zs (zs (s_cw (zs I 99 0 0) n S P) 99 7 0) 99 8 0)) (a := 0) (f := 0) rfl rfl).symm.trans (congrArg (fun z => s_rd z 0 0) (s_rw_self (I := (zs (zs (s_cw (zs I 99 0 0) n S P) 99 7 0) 99 8 0)) (r := 21)).symm))) ?_
  have hT : s_tk S P (s_nt S) (s_nt P) m := s_cut_tk hcut hn2 hmn hS hP
  have loop_7 : ∀ (q_4 : Nat) (mm_8 : Nat) (T9_9 : Nat → Int32) (n9_10 : Nat) (a9_11 : Nat) (f9_12 : Nat), (a9_11 ≤ m) → (f9_12 < 2 ^ 20) → (n9_10 ≤ 40) → (m < mm_8 + a9_11 ∨ (¬ f9_12 = 0 ∧ 0 < mm_8)) → (s_ys (s_nt S) (s_nt P) V (J 9) (s_nm (J 14) (I 16) nm) mm_8 (T9_9, n9_10, a9_11, f9_12) = s_ys (s_nt S) (s_nt P) V (J 9) (s_nm (J 14) (I 16) nm) 1001 (I 21, 0, 0, 0)) → mm_8 < q_4 → zZ g m_X5_year (fun rv X' => ∃ (S P : Nat → Int32) (V : Nat → Int64) (m : Nat), s_cut (I 1) n S P V m ∧ s_fr (I 1) n m = n ∧ S m = 0 ∧ P m = nI n ∧ m ≤ n ∧ ∃ (T9 : Nat → Int32) (n9 a9 f9 : Nat), s_ys (s_nt S) (s_nt P) V (J 9) (s_nm (J 14) (I 16) nm) 1001 (I 21, 0, 0, 0) = (T9, n9, a9, f9) ∧ rv = some (.int (nI f9)) ∧ ((¬ f9 = 0 ∧ X' = tX g L (s_rd (s_rw (zs (zs (s_cw (zs I 99 0 0) n S P) 99 7 0) 99 8 0) 21 T9) a9 f9) (s_jw J V) Gb X) ∨ (f9 = 0 ∧ n9 ≤ 40 ∧ X' = tX g L (s_rd (s_rw (zs (zs (s_cw (zs I 99 0 0) n S P) 99 7 0) 99 8 0) 21 (s_cp1 (zs1 T9 0 (nI n9)) (3 * n9))) a9 0) (s_jw J V) Gb X)), zno, ({ frames := 4, cells := 0, slots := 0, locals := 89 } : Room)) 0 0 (tX g L (s_rd (s_rw (zs (zs (s_cw (zs I 99 0 0) n S P) 99 7 0) 99 8 0) 21 T9_9) a9_11 f9_12) (s_jw J V) Gb X) 11 [(0, .ref (L 99)), (1, .int (nI (n9_10)))] [] := by
    intro q_4
    induction q_4 with
    | zero => intro mm_8 T9_9 n9_10 a9_11 f9_12 h1_13 h2_14 h3_15 h5_16 hE_17 hm_6; exact absurd hm_6 (Nat.not_lt_zero _)
    | succ q_4 ih_5 =>
      intro mm_8 T9_9 n9_10 a9_11 f9_12 h1_13 h2_14 h3_15 h5_16 hE_17 hm_6
      obtain ⟨m_18, rfl⟩ : ∃ m9, mm_8 = m9 + 1 := ⟨mm_8 - 1, by omega⟩
      obtain ⟨hk9, hp9, hk4, hp4, hke⟩ := hT.1 a9_11 h1_13
      have hT2 := hT.2
      refine z_aload_n 0 dX5_year_11 rfl ?_
      refine tz_get (v := .int (nI (f9_12))) 8 hL (by decide) q1601 rfl dX5_year_12 ?_
      refine z_if_neN 157 (by omega) dX5_year_15 (by decide) (fun c_19 => ?_) (fun c_19 => ?_)
      · -- f9_12 ≠ 0
        refine z_aload_n 0 dX5_year_157 rfl ?_
        refine tz_get (v := .int (nI (f9_12))) 8 hL (by decide) q1601 rfl dX5_year_158 ?_
        refine z_if_leN 169 (by omega) dX5_year_161 (by decide) (fun c_ => absurd c_ (by omega)) (fun _ => ?_)
        refine z_aload_n 0 dX5_year_164 rfl ?_
        refine tz_get (v := .int (nI (f9_12))) 8 hL (by decide) q1601 rfl dX5_year_165 ?_
        exact z_iret dX5_year_168 rfl (Nat.le_of_ble_eq_true rfl) (Nat.le_of_ble_eq_true rfl) ⟨S, P, V, m, hcut, hfr, hS, hP, hmn, T9_9, n9_10, a9_11, f9_12, hE_17.symm.trans (if_neg (fun h9 => absurd h9.1 (by omega))), rfl, Or.inl ⟨by omega, rfl⟩⟩
      · -- f9_12 = 0
        subst c_19
        refine z_aload_n 0 dX5_year_18 rfl ?_
        refine tz_get (v := .ref (L 4)) 4 hL (by decide) q1597 rfl dX5_year_19 ?_
        refine z_aload_n 0 dX5_year_22 rfl ?_
        refine tz_get (v := .int (nI (a9_11))) 7 hL (by decide) q1600 rfl dX5_year_23 ?_
        refine tz_iald (v := nI ((s_nt S a9_11))) 4 (a9_11) hL (by decide) rfl (by show a9_11 < 1002; omega) hk9 dX5_year_26 ?_
        refine z_if_eqN 157 (by omega) dX5_year_27 (by decide) (fun c_20 => ?_) (fun c_20 => ?_)
        · -- (s_nt S a9_11) = 0
          refine z_aload_n 0 dX5_year_157 rfl ?_
          refine tz_get (v := .int 0) 8 hL (by decide) q1601 rfl dX5_year_158 ?_
          refine z_if_le 169 dX5_year_161 (by decide) (fun h_ => ?_) (fun h_ => absurd h_ (by decide))
          refine z_aload_n 0 dX5_year_169 rfl ?_
          refine tz_get (v := .ref (L 21)) 21 hL (by decide) q1614 rfl dX5_year_170 ?_
          refine z_iconst (v := 0) dX5_year_173 (by decide) ?_
          refine z_iload_n 1 dX5_year_174 rfl ?_
          refine tz_iast 21 (0) hL (by decide) rfl (by show 0 < 250; omega) (s_rd_a (by decide)) dX5_year_175 ?_
          refine z_iconst (v := 0) dX5_year_176 (by decide) ?_
          refine z_istore_n (lv' := [(2, .int 0), (0, .ref (L 99)), (1, .int (nI (n9_10)))]) dX5_year_177 rfl (by decide) rfl ?_
          have loop_25 : ∀ (q_22 i_21 : Nat), i_21 + q_22 = (3 * n9_10) → 0 ≤ i_21 → zZ g m_X5_year (fun rv X' => ∃ (S P : Nat → Int32) (V : Nat → Int64) (m : Nat), s_cut (I 1) n S P V m ∧ s_fr (I 1) n m = n ∧ S m = 0 ∧ P m = nI n ∧ m ≤ n ∧ ∃ (T9 : Nat → Int32) (n9 a9 f9 : Nat), s_ys (s_nt S) (s_nt P) V (J 9) (s_nm (J 14) (I 16) nm) 1001 (I 21, 0, 0, 0) = (T9, n9, a9, f9) ∧ rv = some (.int (nI f9)) ∧ ((¬ f9 = 0 ∧ X' = tX g L (s_rd (s_rw (zs (zs (s_cw (zs I 99 0 0) n S P) 99 7 0) 99 8 0) 21 T9) a9 f9) (s_jw J V) Gb X) ∨ (f9 = 0 ∧ n9 ≤ 40 ∧ X' = tX g L (s_rd (s_rw (zs (zs (s_cw (zs I 99 0 0) n S P) 99 7 0) 99 8 0) 21 (s_cp1 (zs1 T9 0 (nI n9)) (3 * n9))) a9 0) (s_jw J V) Gb X)), zno, ({ frames := 4, cells := 0, slots := 0, locals := 89 } : Room)) 0 0 (tX g L (s_rd (s_rw (zs (zs (s_cw (zs I 99 0 0) n S P) 99 7 0) 99 8 0) 21 (s_cp1 (zs1 T9_9 0 (nI (n9_10))) i_21)) a9_11 0) (s_jw J V) Gb X) 178 [(0, .ref (L 99)), (1, .int (nI (n9_10))), (2, .int (nI (i_21)))] [] := by
            intro q_22
            induction q_22 with
            | zero =>
              intro i_21 hb_24 lo_26  
              obtain rfl : (3 * n9_10) = i_21 := by omega
              refine z_iload_n 2 dX5_year_178 rfl ?_
              refine z_iconst (v := 3) dX5_year_179 (by decide) ?_
              refine z_iload_n 1 dX5_year_180 rfl ?_
              refine z_imulN (a := 3) (b := n9_10) dX5_year_181 ?_
              refine z_icmp_geN (a := (3 * n9_10)) (b := 3 * n9_10) 208 (by omega) (by omega) dX5_year_182 (by decide) (fun c_27 => ?_) (fun c_27 => absurd c_27 (by omega))
              refine z_iconst (v := 0) dX5_year_208 (by decide) ?_
              exact z_iret dX5_year_209 rfl (Nat.le_of_ble_eq_true rfl) (Nat.le_of_ble_eq_true rfl) ⟨S, P, V, m, hcut, hfr, hS, hP, hmn, T9_9, n9_10, a9_11, 0, hE_17.symm.trans (if_neg (fun h9 => h9.2 c_20)), rfl, Or.inr ⟨rfl, by omega, rfl⟩⟩
            | succ q_22 ih_23 =>
              intro i_21 hb_24 lo_26  
              refine z_iload_n 2 dX5_year_178 rfl ?_
              refine z_iconst (v := 3) dX5_year_179 (by decide) ?_
              refine z_iload_n 1 dX5_year_180 rfl ?_
              refine z_imulN (a := 3) (b := n9_10) dX5_year_181 ?_
              refine z_icmp_geN (a := i_21) (b := 3 * n9_10) 208 (by omega) (by omega) dX5_year_182 (by decide) (fun c_28 => absurd c_28 (by omega)) (fun c_28 => ?_)
              refine z_aload_n 0 dX5_year_185 rfl ?_
              refine tz_get (v := .ref (L 21)) 21 hL (by decide) q1614 rfl dX5_year_186 ?_
              refine z_iconst (v := 1) dX5_year_189 (by decide) ?_
              refine z_iload_n 2 dX5_year_190 rfl ?_
              refine z_iaddN (a := 1) (b := i_21) dX5_year_191 ?_
              refine z_eq (y := nI (i_21 + 1)) (congrArg nI (by omega)) ?_
              refine z_aload_n 0 dX5_year_192 rfl ?_
              refine tz_get (v := .ref (L 21)) 21 hL (by decide) q1614 rfl dX5_year_193 ?_
              refine z_bipush (v := 125) dX5_year_196 (by decide) ?_
              refine z_iload_n 2 dX5_year_198 rfl ?_
              refine z_iaddN (a := 125) (b := i_21) dX5_year_199 ?_
              refine z_eq (y := nI (i_21 + 125)) (congrArg nI (by omega)) ?_
              refine tz_iald (v := (s_rw (zs (zs (s_cw (zs I 99 0 0) n S P) 99 7 0) 99 8 0) 21 (s_cp1 (zs1 T9_9 0 (nI (n9_10))) i_21)) 21 (i_21 + 125)) 21 (i_21 + 125) hL (by decide) rfl (by show i_21 + 125 < 250; omega) rfl dX5_year_200 ?_
              refine tz_iast 21 (i_21 + 1) hL (by decide) rfl (by show i_21 + 1 < 250; omega) (s_rd_a (by decide)) dX5_year_201 ?_
              refine z_iinc (v := nI (i_21 + 1)) (lv' := [(2, .int (nI (i_21 + 1))), (0, .ref (L 99)), (1, .int (nI (n9_10)))]) 2 dX5_year_202 rfl (nI_1 _) (by decide) rfl ?_
              refine z_goto 178 dX5_year_205 (by decide) ?_
              refine z_lv (lv' := [(0, .ref (L 99)), (1, .int (nI (n9_10))), (2, .int (nI (i_21 + 1)))]) [1, 2, 0] rfl ?_
              refine z_X (X' := (tX g L (s_rd (s_rw (zs (zs (s_cw (zs I 99 0 0) n S P) 99 7 0) 99 8 0) 21 (s_cp1 (zs1 T9_9 0 (nI (n9_10))) (i_21 + 1))) a9_11 0) (s_jw J V) Gb X)) (by rw [s_rw_1]; exact congrArg (fun z => tX g L (s_rd (s_rw (zs (zs (s_cw (zs I 99 0 0) n S P) 99 7 0) 99 8 0) 21 z) a9_11 0) (s_jw J V) Gb X) (s_cp1_1 (by omega))) ?_
              exact ih_23 (i_21 + 1) (by omega) (by omega)  
          refine z_lv (lv' := [(0, .ref (L 99)), (1, .int (nI (n9_10))), (2, .int 0)]) [1, 2, 0] rfl ?_
          refine z_X (X' := (tX g L (s_rd (s_rw (zs (zs (s_cw (zs I 99 0 0) n S P) 99 7 0) 99 8 0) 21 (s_cp1 (zs1 T9_9 0 (nI (n9_10))) 0)) a9_11 0) (s_jw J V) Gb X)) (by rw [s_rw_1, s_cp1_0]) ?_
          exact loop_25 ((3 * n9_10) - 0) 0 (by omega) (Nat.le_refl _)  
        · -- (s_nt S a9_11) ≠ 0
          refine z_aload_n 0 dX5_year_30 rfl ?_
          refine z_bipush (v := 10) dX5_year_31 (by decide) ?_
          refine z_iconst (v := 4) dX5_year_33 (by decide) ?_
          refine z_callV (As := [.int 10, .int 4]) (t_wordHere (I := (s_rw (zs (zs (s_cw (zs I 99 0 0) n S P) 99 7 0) 99 8 0) 21 T9_9)) hL hT (a := a9_11) (f := 0) (by omega) (by omega) 10 4 (by omega)) q1735 q1737 qs64 q121 q1738 nm_X5_wordHere (tX_obj hL) rfl rfl rfl (Nat.le_of_ble_eq_true rfl) ⟨Nat.le_of_ble_eq_true rfl, Nat.le_of_ble_eq_true rfl⟩ dX5_year_34 rfl rfl (Nat.le_of_ble_eq_true rfl) (Nat.le_of_ble_eq_true rfl) (fun v_29 X_30 hp_31 => ?_)
          obtain ⟨rfl, rfl⟩ := hp_31
          refine z_st (st' := [.int (s_wh (s_nt S) V (J 9) a9_11 0 10 4)]) rfl ?_
          refine z_istore_n (lv' := [(2, .int (s_wh (s_nt S) V (J 9) a9_11 0 10 4)), (0, .ref (L 99)), (1, .int (nI (n9_10)))]) dX5_year_37 rfl (by decide) rfl ?_
          refine z_iload_n 0 dX5_year_38 rfl ?_
          refine z_if_ge 50 dX5_year_39 (by decide) (fun c_32 => ?_) (fun c_32 => ?_)
          · -- 0 ≤ s_wh (s_nt S) V (J 9) a9_11 0 10 4
            have c_32' := Int32.not_lt.mpr c_32
            refine z_iload_n 2 dX5_year_50 rfl ?_
            refine z_bipush (v := 40) dX5_year_51 (by decide) ?_
            refine z_icmp_neN (a := n9_10) (b := 40) 64 (by omega) (by omega) dX5_year_53 (by decide) (fun c_33 => ?_) (fun c_33 => ?_)
            · -- n9_10 ≠ 40
              obtain ⟨hka, k, hk, hke9⟩ : s_nt S a9_11 = 1 ∧ ∃ k, k < 4 ∧ s_wh (s_nt S) V (J 9) a9_11 0 10 4 = nI k := by rcases s_wh_k (kd := s_nt S) (vl := V) (wd := J 9) (a := a9_11) (f := 0) (w := 10) 4 with h9 | h9; exact absurd h9 c_32'; exact h9
              rcases (by omega : k = 0 ∨ k = 1 ∨ k = 2 ∨ k = 3) with rfl | rfl | rfl | rfl
              · skip
                refine z_lv (lv' := [(2, .int 0), (0, .ref (L 99)), (1, .int (nI (n9_10)))]) [0, 1, 2] (by rw [hke9]; rfl) ?_
                refine z_aload_n 1 dX5_year_64 rfl ?_
                refine z_dup dX5_year_65 rfl ?_
                refine tz_get (v := .int (nI (a9_11))) 7 hL (by decide) q1600 rfl dX5_year_66 ?_
                refine z_iconst (v := 1) dX5_year_69 (by decide) ?_
                refine z_iaddN (a := a9_11) (b := 1) dX5_year_70 ?_
                refine tz_put (I' := (s_rd (s_rw (zs (zs (s_cw (zs I 99 0 0) n S P) 99 7 0) 99 8 0) 21 T9_9) (a9_11 + 1) 0)) 7 hL (by decide) q1600 s_rd_7 dX5_year_71 ?_
                refine z_bipush (v := 125) dX5_year_74 (by decide) ?_
                refine z_iconst (v := 3) dX5_year_76 (by decide) ?_
                refine z_iload_n 2 dX5_year_77 rfl ?_
                refine z_imulN (a := 3) (b := n9_10) dX5_year_78 ?_
                refine z_iaddN (a := 125) (b := 3 * n9_10) dX5_year_79 ?_
                refine z_eq (y := nI (3 * n9_10 + 125)) (congrArg nI (by omega)) ?_
                refine z_istore_n (lv' := [(3, .int (nI (3 * n9_10 + 125))), (2, .int 0), (0, .ref (L 99)), (1, .int (nI (n9_10)))]) dX5_year_80 rfl (by decide) rfl ?_
                refine z_aload_n 2 dX5_year_81 rfl ?_
                refine tz_get (v := .ref (L 21)) 21 hL (by decide) q1614 rfl dX5_year_82 ?_
                refine z_iload_n 0 dX5_year_85 rfl ?_
                refine z_iload_n 1 dX5_year_86 rfl ?_
                refine tz_iast 21 (3 * n9_10 + 125) hL (by decide) rfl (by show 3 * n9_10 + 125 < 250; omega) (s_rd_a (by decide)) dX5_year_87 ?_
                refine z_aload_n 2 dX5_year_88 rfl ?_
                refine tz_get (v := .ref (L 21)) 21 hL (by decide) q1614 rfl dX5_year_89 ?_
                refine z_iload_n 0 dX5_year_92 rfl ?_
                refine z_iconst (v := 1) dX5_year_93 (by decide) ?_
                refine z_iaddN (a := 3 * n9_10 + 125) (b := 1) dX5_year_94 ?_
                refine z_eq (y := nI (3 * n9_10 + 126)) (congrArg nI (by omega)) ?_
                refine z_iload_n 1 dX5_year_95 rfl ?_
                refine z_if_ne 103 dX5_year_96 (by decide) (fun h_ => absurd h_ (by decide)) (fun h_ => ?_)
                refine z_iconst (v := 0) dX5_year_99 (by decide) ?_
                refine z_goto 120 dX5_year_100 (by decide) ?_
                refine tz_iast 21 (3 * n9_10 + 126) hL (by decide) rfl (by show 3 * n9_10 + 126 < 250; omega) (s_rd_a (by decide)) dX5_year_120 ?_
                refine z_aload_n 2 dX5_year_121 rfl ?_
                refine tz_get (v := .ref (L 21)) 21 hL (by decide) q1614 rfl dX5_year_122 ?_
                refine z_iload_n 0 dX5_year_125 rfl ?_
                refine z_iconst (v := 2) dX5_year_126 (by decide) ?_
                refine z_iaddN (a := 3 * n9_10 + 125) (b := 2) dX5_year_127 ?_
                refine z_eq (y := nI (3 * n9_10 + 127)) (congrArg nI (by omega)) ?_
                refine z_iload_n 1 dX5_year_128 rfl ?_
                refine z_iconst (v := 1) dX5_year_129 (by decide) ?_
                refine z_icmp_neN (a := 0) (b := 1) 143 (by decide) (by decide) dX5_year_130 (by decide) (fun h_ => ?_) (fun h_ => absurd h_ (by decide))
                refine z_iconst (v := 0) dX5_year_143 (by decide) ?_
                refine tz_iast 21 (3 * n9_10 + 127) hL (by decide) rfl (by show 3 * n9_10 + 127 < 250; omega) (s_rd_a (by decide)) dX5_year_144 ?_
                refine z_iinc (v := nI (n9_10 + 1)) (lv' := [(1, .int (nI (n9_10 + 1))), (3, .int (nI (3 * n9_10 + 125))), (2, .int 0), (0, .ref (L 99))]) 3 dX5_year_145 rfl (nI_1 _) (by decide) rfl ?_
                refine z_aload_n 3 dX5_year_148 rfl ?_
                refine z_bipush (v := 59) dX5_year_149 (by decide) ?_
                refine z_callV (As := [.int 59]) (t_takeSign (I := (zs (zs (zs (s_rw (zs (zs (s_cw (zs I 99 0 0) n S P) 99 7 0) 99 8 0) 21 T9_9) 21 (3 * n9_10 + 125) 0) 21 (3 * n9_10 + 126) 0) 21 (3 * n9_10 + 127) 0)) hL hT (a := a9_11 + 1) (f := 0) (by omega) (by omega) 59 ) q1814 q1816 qs83 q121 q1817 nm_X5_takeSign (tX_obj hL) rfl rfl rfl (Nat.le_of_ble_eq_true rfl) ⟨Nat.le_of_ble_eq_true rfl, Nat.le_of_ble_eq_true rfl⟩ dX5_year_151 rfl rfl (Nat.le_of_ble_eq_true rfl) (Nat.le_of_ble_eq_true rfl) (fun v_39 X_40 hp_41 => ?_)
                obtain ⟨a_34, f_35, rfl, rfl, ha_37, hf_38, et_36⟩ := hp_41
                refine z_st (st' := []) rfl ?_
                refine z_goto 11 dX5_year_154 (by decide) ?_
                have hle2 := s_tS_k et_36
                have hle3 : ¬ 0 = 0 → f_35 = 0 := fun z => s_tS_f et_36 z
                try simp only [show s_jw J V 6 = V from rfl, show s_jw J V 9 = J 9 from rfl] at et_36
                refine z_lv (lv' := [(0, .ref (L 99)), (1, .int (nI (n9_10 + 1)))]) [3, 0] rfl ?_
                refine z_X (X' := (tX g L (s_rd (s_rw (zs (zs (s_cw (zs I 99 0 0) n S P) 99 7 0) 99 8 0) 21 (zs1 (zs1 (zs1 T9_9 (3 * n9_10 + 125) 0) (3 * n9_10 + 126) 0) (3 * n9_10 + 127) 0)) a_34 f_35) (s_jw J V) Gb X)) (by rw [s_rw_1, s_rw_1, s_rw_1]) ?_
                exact ih_5 m_18 (zs1 (zs1 (zs1 T9_9 (3 * n9_10 + 125) 0) (3 * n9_10 + 126) 0) (3 * n9_10 + 127) 0) (n9_10 + 1) a_34 f_35 (by omega) (by omega) (by omega) (by omega) (by rw [← hE_17]; symm; show (if (0 : Nat) = 0 ∧ ¬ s_nt S a9_11 = 0 then s_ys (s_nt S) (s_nt P) V (J 9) (s_nm (J 14) (I 16) nm) m_18 (s_y2 (s_nt S) (s_nt P) V (J 9) (s_nm (J 14) (I 16) nm) (T9_9, n9_10, a9_11, 0)) else _) = _; rw [if_pos ⟨rfl, c_20⟩]; unfold s_y2; rw [show s_y1 (s_nt S) (s_nt P) V (J 9) (s_nm (J 14) (I 16) nm) T9_9 n9_10 a9_11 = ((zs1 (zs1 (zs1 T9_9 (3 * n9_10 + 125) 0) (3 * n9_10 + 126) 0) (3 * n9_10 + 127) 0), n9_10 + 1, a9_11 + 1, 0) from by unfold s_y1; rw [hke9, if_neg (show ¬ nI 0 < 0 by decide), if_neg c_33, show (nI 0).toNatClampNeg = 0 from rfl]; rfl]; simp only []; rw [et_36]) (by omega)
              · skip
                refine z_lv (lv' := [(2, .int 1), (0, .ref (L 99)), (1, .int (nI (n9_10)))]) [0, 1, 2] (by rw [hke9]; rfl) ?_
                refine z_aload_n 1 dX5_year_64 rfl ?_
                refine z_dup dX5_year_65 rfl ?_
                refine tz_get (v := .int (nI (a9_11))) 7 hL (by decide) q1600 rfl dX5_year_66 ?_
                refine z_iconst (v := 1) dX5_year_69 (by decide) ?_
                refine z_iaddN (a := a9_11) (b := 1) dX5_year_70 ?_
                refine tz_put (I' := (s_rd (s_rw (zs (zs (s_cw (zs I 99 0 0) n S P) 99 7 0) 99 8 0) 21 T9_9) (a9_11 + 1) 0)) 7 hL (by decide) q1600 s_rd_7 dX5_year_71 ?_
                refine z_bipush (v := 125) dX5_year_74 (by decide) ?_
                refine z_iconst (v := 3) dX5_year_76 (by decide) ?_
                refine z_iload_n 2 dX5_year_77 rfl ?_
                refine z_imulN (a := 3) (b := n9_10) dX5_year_78 ?_
                refine z_iaddN (a := 125) (b := 3 * n9_10) dX5_year_79 ?_
                refine z_eq (y := nI (3 * n9_10 + 125)) (congrArg nI (by omega)) ?_
                refine z_istore_n (lv' := [(3, .int (nI (3 * n9_10 + 125))), (2, .int 1), (0, .ref (L 99)), (1, .int (nI (n9_10)))]) dX5_year_80 rfl (by decide) rfl ?_
                refine z_aload_n 2 dX5_year_81 rfl ?_
                refine tz_get (v := .ref (L 21)) 21 hL (by decide) q1614 rfl dX5_year_82 ?_
                refine z_iload_n 0 dX5_year_85 rfl ?_
                refine z_iload_n 1 dX5_year_86 rfl ?_
                refine tz_iast 21 (3 * n9_10 + 125) hL (by decide) rfl (by show 3 * n9_10 + 125 < 250; omega) (s_rd_a (by decide)) dX5_year_87 ?_
                refine z_aload_n 2 dX5_year_88 rfl ?_
                refine tz_get (v := .ref (L 21)) 21 hL (by decide) q1614 rfl dX5_year_89 ?_
                refine z_iload_n 0 dX5_year_92 rfl ?_
                refine z_iconst (v := 1) dX5_year_93 (by decide) ?_
                refine z_iaddN (a := 3 * n9_10 + 125) (b := 1) dX5_year_94 ?_
                refine z_eq (y := nI (3 * n9_10 + 126)) (congrArg nI (by omega)) ?_
                refine z_iload_n 1 dX5_year_95 rfl ?_
                refine z_if_ne 103 dX5_year_96 (by decide) (fun h_ => ?_) (fun h_ => absurd h_ (by decide))
                refine z_aload_n 2 dX5_year_103 rfl ?_
                refine z_iconst (v := 0) dX5_year_104 (by decide) ?_
                refine z_iload_n 1 dX5_year_105 rfl ?_
                refine z_iconst (v := 3) dX5_year_106 (by decide) ?_
                refine z_icmp_neN (a := 1) (b := 3) 114 (by decide) (by decide) dX5_year_107 (by decide) (fun h_ => ?_) (fun h_ => absurd h_ (by decide))
                refine z_bipush (v := 20) dX5_year_114 (by decide) ?_
                refine z_iconst (v := 0) dX5_year_116 (by decide) ?_
                refine z_callV (As := [.int 0, .int 20, .int 0]) (t_takeTold_0 (I := (zs (s_rw (zs (zs (s_cw (zs I 99 0 0) n S P) 99 7 0) 99 8 0) 21 T9_9) 21 (3 * n9_10 + 125) 1)) hL hT (a := a9_11 + 1) (f := 0) (by omega) (by omega) hm hm2 20 0 ) q1767 q1769 qs72 q121 q1770 nm_X5_takeTold (tX_obj hL) rfl rfl rfl (Nat.le_of_ble_eq_true rfl) ⟨Nat.le_of_ble_eq_true rfl, Nat.le_of_ble_eq_true rfl⟩ dX5_year_117 rfl rfl (Nat.le_of_ble_eq_true rfl) (Nat.le_of_ble_eq_true rfl) (fun v_48 X_49 hp_50 => ?_)
                obtain ⟨v_47, a_42, f_43, rfl, rfl, ha_45, hf_46, et_44⟩ := hp_50
                have let_44 := (s_tT_k et_44).2
                have et_44 : s_tT (s_nt S) (s_nt P) V (J 9) (s_nm (J 14) (I 16) nm) (a9_11 + 1) 0 20 0 = (v_47, a_42, f_43) := et_44
                refine z_st (st' := [.int v_47, .int (nI (3 * n9_10 + 126)), .ref (L 21)]) rfl ?_
                refine tz_iast 21 (3 * n9_10 + 126) hL (by decide) rfl (by show 3 * n9_10 + 126 < 250; omega) (s_rd_a (by decide)) dX5_year_120 ?_
                refine z_aload_n 2 dX5_year_121 rfl ?_
                refine tz_get (v := .ref (L 21)) 21 hL (by decide) q1614 rfl dX5_year_122 ?_
                refine z_iload_n 0 dX5_year_125 rfl ?_
                refine z_iconst (v := 2) dX5_year_126 (by decide) ?_
                refine z_iaddN (a := 3 * n9_10 + 125) (b := 2) dX5_year_127 ?_
                refine z_eq (y := nI (3 * n9_10 + 127)) (congrArg nI (by omega)) ?_
                refine z_iload_n 1 dX5_year_128 rfl ?_
                refine z_iconst (v := 1) dX5_year_129 (by decide) ?_
                refine z_icmp_neN (a := 1) (b := 1) 143 (by decide) (by decide) dX5_year_130 (by decide) (fun h_ => absurd h_ (by decide)) (fun h_ => ?_)
                refine z_aload_n 2 dX5_year_133 rfl ?_
                refine z_iconst (v := 0) dX5_year_134 (by decide) ?_
                refine z_iconst (v := 0) dX5_year_135 (by decide) ?_
                refine z_iconst (v := 0) dX5_year_136 (by decide) ?_
                refine z_callV (As := [.int 0, .int 0, .int 0]) (t_takeTold_0 (I := (zs (zs (s_rw (zs (zs (s_cw (zs I 99 0 0) n S P) 99 7 0) 99 8 0) 21 T9_9) 21 (3 * n9_10 + 125) 1) 21 (3 * n9_10 + 126) v_47)) hL hT (a := a_42) (f := f_43) (by omega) (by omega) hm hm2 0 0 ) q1767 q1769 qs72 q121 q1770 nm_X5_takeTold (tX_obj hL) rfl rfl rfl (Nat.le_of_ble_eq_true rfl) ⟨Nat.le_of_ble_eq_true rfl, Nat.le_of_ble_eq_true rfl⟩ dX5_year_137 rfl rfl (Nat.le_of_ble_eq_true rfl) (Nat.le_of_ble_eq_true rfl) (fun v_57 X_58 hp_59 => ?_)
                obtain ⟨v_56, a_51, f_52, rfl, rfl, ha_54, hf_55, et_53⟩ := hp_59
                have let_53 := (s_tT_k et_53).2
                have et_53 : s_tT (s_nt S) (s_nt P) V (J 9) (s_nm (J 14) (I 16) nm) a_42 f_43 0 0 = (v_56, a_51, f_52) := et_53
                refine z_st (st' := [.int v_56, .int (nI (3 * n9_10 + 127)), .ref (L 21)]) rfl ?_
                refine z_goto 144 dX5_year_140 (by decide) ?_
                refine tz_iast 21 (3 * n9_10 + 127) hL (by decide) rfl (by show 3 * n9_10 + 127 < 250; omega) (s_rd_a (by decide)) dX5_year_144 ?_
                refine z_iinc (v := nI (n9_10 + 1)) (lv' := [(1, .int (nI (n9_10 + 1))), (3, .int (nI (3 * n9_10 + 125))), (2, .int 1), (0, .ref (L 99))]) 3 dX5_year_145 rfl (nI_1 _) (by decide) rfl ?_
                refine z_aload_n 3 dX5_year_148 rfl ?_
                refine z_bipush (v := 59) dX5_year_149 (by decide) ?_
                refine z_callV (As := [.int 59]) (t_takeSign (I := (zs (zs (zs (s_rw (zs (zs (s_cw (zs I 99 0 0) n S P) 99 7 0) 99 8 0) 21 T9_9) 21 (3 * n9_10 + 125) 1) 21 (3 * n9_10 + 126) v_47) 21 (3 * n9_10 + 127) v_56)) hL hT (a := a_51) (f := f_52) (by omega) (by omega) 59 ) q1814 q1816 qs83 q121 q1817 nm_X5_takeSign (tX_obj hL) rfl rfl rfl (Nat.le_of_ble_eq_true rfl) ⟨Nat.le_of_ble_eq_true rfl, Nat.le_of_ble_eq_true rfl⟩ dX5_year_151 rfl rfl (Nat.le_of_ble_eq_true rfl) (Nat.le_of_ble_eq_true rfl) (fun v_65 X_66 hp_67 => ?_)
                obtain ⟨a_60, f_61, rfl, rfl, ha_63, hf_64, et_62⟩ := hp_67
                refine z_st (st' := []) rfl ?_
                refine z_goto 11 dX5_year_154 (by decide) ?_
                have hle2 := s_tS_k et_62
                have hle3 : ¬ f_52 = 0 → f_61 = f_52 := fun z => s_tS_f et_62 z
                try simp only [show s_jw J V 6 = V from rfl, show s_jw J V 9 = J 9 from rfl] at et_44
                try simp only [show s_jw J V 6 = V from rfl, show s_jw J V 9 = J 9 from rfl] at et_53
                try simp only [show s_jw J V 6 = V from rfl, show s_jw J V 9 = J 9 from rfl] at et_62
                refine z_lv (lv' := [(0, .ref (L 99)), (1, .int (nI (n9_10 + 1)))]) [3, 0] rfl ?_
                refine z_X (X' := (tX g L (s_rd (s_rw (zs (zs (s_cw (zs I 99 0 0) n S P) 99 7 0) 99 8 0) 21 (zs1 (zs1 (zs1 T9_9 (3 * n9_10 + 125) 1) (3 * n9_10 + 126) v_47) (3 * n9_10 + 127) v_56)) a_60 f_61) (s_jw J V) Gb X)) (by rw [s_rw_1, s_rw_1, s_rw_1]) ?_
                exact ih_5 m_18 (zs1 (zs1 (zs1 T9_9 (3 * n9_10 + 125) 1) (3 * n9_10 + 126) v_47) (3 * n9_10 + 127) v_56) (n9_10 + 1) a_60 f_61 (by omega) (by omega) (by omega) (by omega) (by rw [← hE_17]; symm; show (if (0 : Nat) = 0 ∧ ¬ s_nt S a9_11 = 0 then s_ys (s_nt S) (s_nt P) V (J 9) (s_nm (J 14) (I 16) nm) m_18 (s_y2 (s_nt S) (s_nt P) V (J 9) (s_nm (J 14) (I 16) nm) (T9_9, n9_10, a9_11, 0)) else _) = _; rw [if_pos ⟨rfl, c_20⟩]; unfold s_y2; rw [show s_y1 (s_nt S) (s_nt P) V (J 9) (s_nm (J 14) (I 16) nm) T9_9 n9_10 a9_11 = ((zs1 (zs1 (zs1 T9_9 (3 * n9_10 + 125) 1) (3 * n9_10 + 126) v_47) (3 * n9_10 + 127) v_56), n9_10 + 1, a_51, f_52) from by unfold s_y1; rw [hke9, if_neg (show ¬ nI 1 < 0 by decide), if_neg c_33, show (nI 1).toNatClampNeg = 1 from rfl]; rw [if_neg (by decide), if_neg (by decide), et_44]; unfold s_y1a; rw [if_pos rfl, et_53]; rfl]; simp only []; rw [et_62]) (by omega)
              · skip
                refine z_lv (lv' := [(2, .int 2), (0, .ref (L 99)), (1, .int (nI (n9_10)))]) [0, 1, 2] (by rw [hke9]; rfl) ?_
                refine z_aload_n 1 dX5_year_64 rfl ?_
                refine z_dup dX5_year_65 rfl ?_
                refine tz_get (v := .int (nI (a9_11))) 7 hL (by decide) q1600 rfl dX5_year_66 ?_
                refine z_iconst (v := 1) dX5_year_69 (by decide) ?_
                refine z_iaddN (a := a9_11) (b := 1) dX5_year_70 ?_
                refine tz_put (I' := (s_rd (s_rw (zs (zs (s_cw (zs I 99 0 0) n S P) 99 7 0) 99 8 0) 21 T9_9) (a9_11 + 1) 0)) 7 hL (by decide) q1600 s_rd_7 dX5_year_71 ?_
                refine z_bipush (v := 125) dX5_year_74 (by decide) ?_
                refine z_iconst (v := 3) dX5_year_76 (by decide) ?_
                refine z_iload_n 2 dX5_year_77 rfl ?_
                refine z_imulN (a := 3) (b := n9_10) dX5_year_78 ?_
                refine z_iaddN (a := 125) (b := 3 * n9_10) dX5_year_79 ?_
                refine z_eq (y := nI (3 * n9_10 + 125)) (congrArg nI (by omega)) ?_
                refine z_istore_n (lv' := [(3, .int (nI (3 * n9_10 + 125))), (2, .int 2), (0, .ref (L 99)), (1, .int (nI (n9_10)))]) dX5_year_80 rfl (by decide) rfl ?_
                refine z_aload_n 2 dX5_year_81 rfl ?_
                refine tz_get (v := .ref (L 21)) 21 hL (by decide) q1614 rfl dX5_year_82 ?_
                refine z_iload_n 0 dX5_year_85 rfl ?_
                refine z_iload_n 1 dX5_year_86 rfl ?_
                refine tz_iast 21 (3 * n9_10 + 125) hL (by decide) rfl (by show 3 * n9_10 + 125 < 250; omega) (s_rd_a (by decide)) dX5_year_87 ?_
                refine z_aload_n 2 dX5_year_88 rfl ?_
                refine tz_get (v := .ref (L 21)) 21 hL (by decide) q1614 rfl dX5_year_89 ?_
                refine z_iload_n 0 dX5_year_92 rfl ?_
                refine z_iconst (v := 1) dX5_year_93 (by decide) ?_
                refine z_iaddN (a := 3 * n9_10 + 125) (b := 1) dX5_year_94 ?_
                refine z_eq (y := nI (3 * n9_10 + 126)) (congrArg nI (by omega)) ?_
                refine z_iload_n 1 dX5_year_95 rfl ?_
                refine z_if_ne 103 dX5_year_96 (by decide) (fun h_ => ?_) (fun h_ => absurd h_ (by decide))
                refine z_aload_n 2 dX5_year_103 rfl ?_
                refine z_iconst (v := 0) dX5_year_104 (by decide) ?_
                refine z_iload_n 1 dX5_year_105 rfl ?_
                refine z_iconst (v := 3) dX5_year_106 (by decide) ?_
                refine z_icmp_neN (a := 2) (b := 3) 114 (by decide) (by decide) dX5_year_107 (by decide) (fun h_ => ?_) (fun h_ => absurd h_ (by decide))
                refine z_bipush (v := 20) dX5_year_114 (by decide) ?_
                refine z_iconst (v := 0) dX5_year_116 (by decide) ?_
                refine z_callV (As := [.int 0, .int 20, .int 0]) (t_takeTold_0 (I := (zs (s_rw (zs (zs (s_cw (zs I 99 0 0) n S P) 99 7 0) 99 8 0) 21 T9_9) 21 (3 * n9_10 + 125) 2)) hL hT (a := a9_11 + 1) (f := 0) (by omega) (by omega) hm hm2 20 0 ) q1767 q1769 qs72 q121 q1770 nm_X5_takeTold (tX_obj hL) rfl rfl rfl (Nat.le_of_ble_eq_true rfl) ⟨Nat.le_of_ble_eq_true rfl, Nat.le_of_ble_eq_true rfl⟩ dX5_year_117 rfl rfl (Nat.le_of_ble_eq_true rfl) (Nat.le_of_ble_eq_true rfl) (fun v_74 X_75 hp_76 => ?_)
                obtain ⟨v_73, a_68, f_69, rfl, rfl, ha_71, hf_72, et_70⟩ := hp_76
                have let_70 := (s_tT_k et_70).2
                have et_70 : s_tT (s_nt S) (s_nt P) V (J 9) (s_nm (J 14) (I 16) nm) (a9_11 + 1) 0 20 0 = (v_73, a_68, f_69) := et_70
                refine z_st (st' := [.int v_73, .int (nI (3 * n9_10 + 126)), .ref (L 21)]) rfl ?_
                refine tz_iast 21 (3 * n9_10 + 126) hL (by decide) rfl (by show 3 * n9_10 + 126 < 250; omega) (s_rd_a (by decide)) dX5_year_120 ?_
                refine z_aload_n 2 dX5_year_121 rfl ?_
                refine tz_get (v := .ref (L 21)) 21 hL (by decide) q1614 rfl dX5_year_122 ?_
                refine z_iload_n 0 dX5_year_125 rfl ?_
                refine z_iconst (v := 2) dX5_year_126 (by decide) ?_
                refine z_iaddN (a := 3 * n9_10 + 125) (b := 2) dX5_year_127 ?_
                refine z_eq (y := nI (3 * n9_10 + 127)) (congrArg nI (by omega)) ?_
                refine z_iload_n 1 dX5_year_128 rfl ?_
                refine z_iconst (v := 1) dX5_year_129 (by decide) ?_
                refine z_icmp_neN (a := 2) (b := 1) 143 (by decide) (by decide) dX5_year_130 (by decide) (fun h_ => ?_) (fun h_ => absurd h_ (by decide))
                refine z_iconst (v := 0) dX5_year_143 (by decide) ?_
                refine tz_iast 21 (3 * n9_10 + 127) hL (by decide) rfl (by show 3 * n9_10 + 127 < 250; omega) (s_rd_a (by decide)) dX5_year_144 ?_
                refine z_iinc (v := nI (n9_10 + 1)) (lv' := [(1, .int (nI (n9_10 + 1))), (3, .int (nI (3 * n9_10 + 125))), (2, .int 2), (0, .ref (L 99))]) 3 dX5_year_145 rfl (nI_1 _) (by decide) rfl ?_
                refine z_aload_n 3 dX5_year_148 rfl ?_
                refine z_bipush (v := 59) dX5_year_149 (by decide) ?_
                refine z_callV (As := [.int 59]) (t_takeSign (I := (zs (zs (zs (s_rw (zs (zs (s_cw (zs I 99 0 0) n S P) 99 7 0) 99 8 0) 21 T9_9) 21 (3 * n9_10 + 125) 2) 21 (3 * n9_10 + 126) v_73) 21 (3 * n9_10 + 127) 0)) hL hT (a := a_68) (f := f_69) (by omega) (by omega) 59 ) q1814 q1816 qs83 q121 q1817 nm_X5_takeSign (tX_obj hL) rfl rfl rfl (Nat.le_of_ble_eq_true rfl) ⟨Nat.le_of_ble_eq_true rfl, Nat.le_of_ble_eq_true rfl⟩ dX5_year_151 rfl rfl (Nat.le_of_ble_eq_true rfl) (Nat.le_of_ble_eq_true rfl) (fun v_82 X_83 hp_84 => ?_)
                obtain ⟨a_77, f_78, rfl, rfl, ha_80, hf_81, et_79⟩ := hp_84
                refine z_st (st' := []) rfl ?_
                refine z_goto 11 dX5_year_154 (by decide) ?_
                have hle2 := s_tS_k et_79
                have hle3 : ¬ f_69 = 0 → f_78 = f_69 := fun z => s_tS_f et_79 z
                try simp only [show s_jw J V 6 = V from rfl, show s_jw J V 9 = J 9 from rfl] at et_70
                try simp only [show s_jw J V 6 = V from rfl, show s_jw J V 9 = J 9 from rfl] at et_79
                refine z_lv (lv' := [(0, .ref (L 99)), (1, .int (nI (n9_10 + 1)))]) [3, 0] rfl ?_
                refine z_X (X' := (tX g L (s_rd (s_rw (zs (zs (s_cw (zs I 99 0 0) n S P) 99 7 0) 99 8 0) 21 (zs1 (zs1 (zs1 T9_9 (3 * n9_10 + 125) 2) (3 * n9_10 + 126) v_73) (3 * n9_10 + 127) 0)) a_77 f_78) (s_jw J V) Gb X)) (by rw [s_rw_1, s_rw_1, s_rw_1]) ?_
                exact ih_5 m_18 (zs1 (zs1 (zs1 T9_9 (3 * n9_10 + 125) 2) (3 * n9_10 + 126) v_73) (3 * n9_10 + 127) 0) (n9_10 + 1) a_77 f_78 (by omega) (by omega) (by omega) (by omega) (by rw [← hE_17]; symm; show (if (0 : Nat) = 0 ∧ ¬ s_nt S a9_11 = 0 then s_ys (s_nt S) (s_nt P) V (J 9) (s_nm (J 14) (I 16) nm) m_18 (s_y2 (s_nt S) (s_nt P) V (J 9) (s_nm (J 14) (I 16) nm) (T9_9, n9_10, a9_11, 0)) else _) = _; rw [if_pos ⟨rfl, c_20⟩]; unfold s_y2; rw [show s_y1 (s_nt S) (s_nt P) V (J 9) (s_nm (J 14) (I 16) nm) T9_9 n9_10 a9_11 = ((zs1 (zs1 (zs1 T9_9 (3 * n9_10 + 125) 2) (3 * n9_10 + 126) v_73) (3 * n9_10 + 127) 0), n9_10 + 1, a_68, f_69) from by unfold s_y1; rw [hke9, if_neg (show ¬ nI 2 < 0 by decide), if_neg c_33, show (nI 2).toNatClampNeg = 2 from rfl]; rw [if_neg (by decide), if_neg (by decide), et_70]; unfold s_y1a; rw [if_neg (by decide)]; rfl]; simp only []; rw [et_79]) (by omega)
              · skip
                refine z_lv (lv' := [(2, .int 3), (0, .ref (L 99)), (1, .int (nI (n9_10)))]) [0, 1, 2] (by rw [hke9]; rfl) ?_
                refine z_aload_n 1 dX5_year_64 rfl ?_
                refine z_dup dX5_year_65 rfl ?_
                refine tz_get (v := .int (nI (a9_11))) 7 hL (by decide) q1600 rfl dX5_year_66 ?_
                refine z_iconst (v := 1) dX5_year_69 (by decide) ?_
                refine z_iaddN (a := a9_11) (b := 1) dX5_year_70 ?_
                refine tz_put (I' := (s_rd (s_rw (zs (zs (s_cw (zs I 99 0 0) n S P) 99 7 0) 99 8 0) 21 T9_9) (a9_11 + 1) 0)) 7 hL (by decide) q1600 s_rd_7 dX5_year_71 ?_
                refine z_bipush (v := 125) dX5_year_74 (by decide) ?_
                refine z_iconst (v := 3) dX5_year_76 (by decide) ?_
                refine z_iload_n 2 dX5_year_77 rfl ?_
                refine z_imulN (a := 3) (b := n9_10) dX5_year_78 ?_
                refine z_iaddN (a := 125) (b := 3 * n9_10) dX5_year_79 ?_
                refine z_eq (y := nI (3 * n9_10 + 125)) (congrArg nI (by omega)) ?_
                refine z_istore_n (lv' := [(3, .int (nI (3 * n9_10 + 125))), (2, .int 3), (0, .ref (L 99)), (1, .int (nI (n9_10)))]) dX5_year_80 rfl (by decide) rfl ?_
                refine z_aload_n 2 dX5_year_81 rfl ?_
                refine tz_get (v := .ref (L 21)) 21 hL (by decide) q1614 rfl dX5_year_82 ?_
                refine z_iload_n 0 dX5_year_85 rfl ?_
                refine z_iload_n 1 dX5_year_86 rfl ?_
                refine tz_iast 21 (3 * n9_10 + 125) hL (by decide) rfl (by show 3 * n9_10 + 125 < 250; omega) (s_rd_a (by decide)) dX5_year_87 ?_
                refine z_aload_n 2 dX5_year_88 rfl ?_
                refine tz_get (v := .ref (L 21)) 21 hL (by decide) q1614 rfl dX5_year_89 ?_
                refine z_iload_n 0 dX5_year_92 rfl ?_
                refine z_iconst (v := 1) dX5_year_93 (by decide) ?_
                refine z_iaddN (a := 3 * n9_10 + 125) (b := 1) dX5_year_94 ?_
                refine z_eq (y := nI (3 * n9_10 + 126)) (congrArg nI (by omega)) ?_
                refine z_iload_n 1 dX5_year_95 rfl ?_
                refine z_if_ne 103 dX5_year_96 (by decide) (fun h_ => ?_) (fun h_ => absurd h_ (by decide))
                refine z_aload_n 2 dX5_year_103 rfl ?_
                refine z_iconst (v := 0) dX5_year_104 (by decide) ?_
                refine z_iload_n 1 dX5_year_105 rfl ?_
                refine z_iconst (v := 3) dX5_year_106 (by decide) ?_
                refine z_icmp_neN (a := 3) (b := 3) 114 (by decide) (by decide) dX5_year_107 (by decide) (fun h_ => absurd h_ (by decide)) (fun h_ => ?_)
                refine z_iconst (v := 0) dX5_year_110 (by decide) ?_
                refine z_goto 116 dX5_year_111 (by decide) ?_
                refine z_iconst (v := 0) dX5_year_116 (by decide) ?_
                refine z_callV (As := [.int 0, .int 0, .int 0]) (t_takeTold_0 (I := (zs (s_rw (zs (zs (s_cw (zs I 99 0 0) n S P) 99 7 0) 99 8 0) 21 T9_9) 21 (3 * n9_10 + 125) 3)) hL hT (a := a9_11 + 1) (f := 0) (by omega) (by omega) hm hm2 0 0 ) q1767 q1769 qs72 q121 q1770 nm_X5_takeTold (tX_obj hL) rfl rfl rfl (Nat.le_of_ble_eq_true rfl) ⟨Nat.le_of_ble_eq_true rfl, Nat.le_of_ble_eq_true rfl⟩ dX5_year_117 rfl rfl (Nat.le_of_ble_eq_true rfl) (Nat.le_of_ble_eq_true rfl) (fun v_91 X_92 hp_93 => ?_)
                obtain ⟨v_90, a_85, f_86, rfl, rfl, ha_88, hf_89, et_87⟩ := hp_93
                have let_87 := (s_tT_k et_87).2
                have et_87 : s_tT (s_nt S) (s_nt P) V (J 9) (s_nm (J 14) (I 16) nm) (a9_11 + 1) 0 0 0 = (v_90, a_85, f_86) := et_87
                refine z_st (st' := [.int v_90, .int (nI (3 * n9_10 + 126)), .ref (L 21)]) rfl ?_
                refine tz_iast 21 (3 * n9_10 + 126) hL (by decide) rfl (by show 3 * n9_10 + 126 < 250; omega) (s_rd_a (by decide)) dX5_year_120 ?_
                refine z_aload_n 2 dX5_year_121 rfl ?_
                refine tz_get (v := .ref (L 21)) 21 hL (by decide) q1614 rfl dX5_year_122 ?_
                refine z_iload_n 0 dX5_year_125 rfl ?_
                refine z_iconst (v := 2) dX5_year_126 (by decide) ?_
                refine z_iaddN (a := 3 * n9_10 + 125) (b := 2) dX5_year_127 ?_
                refine z_eq (y := nI (3 * n9_10 + 127)) (congrArg nI (by omega)) ?_
                refine z_iload_n 1 dX5_year_128 rfl ?_
                refine z_iconst (v := 1) dX5_year_129 (by decide) ?_
                refine z_icmp_neN (a := 3) (b := 1) 143 (by decide) (by decide) dX5_year_130 (by decide) (fun h_ => ?_) (fun h_ => absurd h_ (by decide))
                refine z_iconst (v := 0) dX5_year_143 (by decide) ?_
                refine tz_iast 21 (3 * n9_10 + 127) hL (by decide) rfl (by show 3 * n9_10 + 127 < 250; omega) (s_rd_a (by decide)) dX5_year_144 ?_
                refine z_iinc (v := nI (n9_10 + 1)) (lv' := [(1, .int (nI (n9_10 + 1))), (3, .int (nI (3 * n9_10 + 125))), (2, .int 3), (0, .ref (L 99))]) 3 dX5_year_145 rfl (nI_1 _) (by decide) rfl ?_
                refine z_aload_n 3 dX5_year_148 rfl ?_
                refine z_bipush (v := 59) dX5_year_149 (by decide) ?_
                refine z_callV (As := [.int 59]) (t_takeSign (I := (zs (zs (zs (s_rw (zs (zs (s_cw (zs I 99 0 0) n S P) 99 7 0) 99 8 0) 21 T9_9) 21 (3 * n9_10 + 125) 3) 21 (3 * n9_10 + 126) v_90) 21 (3 * n9_10 + 127) 0)) hL hT (a := a_85) (f := f_86) (by omega) (by omega) 59 ) q1814 q1816 qs83 q121 q1817 nm_X5_takeSign (tX_obj hL) rfl rfl rfl (Nat.le_of_ble_eq_true rfl) ⟨Nat.le_of_ble_eq_true rfl, Nat.le_of_ble_eq_true rfl⟩ dX5_year_151 rfl rfl (Nat.le_of_ble_eq_true rfl) (Nat.le_of_ble_eq_true rfl) (fun v_99 X_100 hp_101 => ?_)
                obtain ⟨a_94, f_95, rfl, rfl, ha_97, hf_98, et_96⟩ := hp_101
                refine z_st (st' := []) rfl ?_
                refine z_goto 11 dX5_year_154 (by decide) ?_
                have hle2 := s_tS_k et_96
                have hle3 : ¬ f_86 = 0 → f_95 = f_86 := fun z => s_tS_f et_96 z
                try simp only [show s_jw J V 6 = V from rfl, show s_jw J V 9 = J 9 from rfl] at et_87
                try simp only [show s_jw J V 6 = V from rfl, show s_jw J V 9 = J 9 from rfl] at et_96
                refine z_lv (lv' := [(0, .ref (L 99)), (1, .int (nI (n9_10 + 1)))]) [3, 0] rfl ?_
                refine z_X (X' := (tX g L (s_rd (s_rw (zs (zs (s_cw (zs I 99 0 0) n S P) 99 7 0) 99 8 0) 21 (zs1 (zs1 (zs1 T9_9 (3 * n9_10 + 125) 3) (3 * n9_10 + 126) v_90) (3 * n9_10 + 127) 0)) a_94 f_95) (s_jw J V) Gb X)) (by rw [s_rw_1, s_rw_1, s_rw_1]) ?_
                exact ih_5 m_18 (zs1 (zs1 (zs1 T9_9 (3 * n9_10 + 125) 3) (3 * n9_10 + 126) v_90) (3 * n9_10 + 127) 0) (n9_10 + 1) a_94 f_95 (by omega) (by omega) (by omega) (by omega) (by rw [← hE_17]; symm; show (if (0 : Nat) = 0 ∧ ¬ s_nt S a9_11 = 0 then s_ys (s_nt S) (s_nt P) V (J 9) (s_nm (J 14) (I 16) nm) m_18 (s_y2 (s_nt S) (s_nt P) V (J 9) (s_nm (J 14) (I 16) nm) (T9_9, n9_10, a9_11, 0)) else _) = _; rw [if_pos ⟨rfl, c_20⟩]; unfold s_y2; rw [show s_y1 (s_nt S) (s_nt P) V (J 9) (s_nm (J 14) (I 16) nm) T9_9 n9_10 a9_11 = ((zs1 (zs1 (zs1 T9_9 (3 * n9_10 + 125) 3) (3 * n9_10 + 126) v_90) (3 * n9_10 + 127) 0), n9_10 + 1, a_85, f_86) from by unfold s_y1; rw [hke9, if_neg (show ¬ nI 3 < 0 by decide), if_neg c_33, show (nI 3).toNatClampNeg = 3 from rfl]; rw [if_neg (by decide), if_pos rfl, et_87]; unfold s_y1a; rw [if_neg (by decide)]; rfl]; simp only []; rw [et_96]) (by omega)
            · -- n9_10 = 40
              refine z_aload_n 1 dX5_year_56 rfl ?_
              refine z_iconst (v := 5) dX5_year_57 (by decide) ?_
              refine z_callV (As := [.int 5]) (t_wrong (I := (s_rw (zs (zs (s_cw (zs I 99 0 0) n S P) 99 7 0) 99 8 0) 21 T9_9)) hL hT (a := a9_11) (f := 0) (by omega) (by omega) 5 (by omega)) q1727 q1729 qs62 q121 q1730 nm_X5_wrong (tX_obj hL) rfl rfl rfl (Nat.le_of_ble_eq_true rfl) ⟨Nat.le_of_ble_eq_true rfl, Nat.le_of_ble_eq_true rfl⟩ dX5_year_58 rfl rfl (Nat.le_of_ble_eq_true rfl) (Nat.le_of_ble_eq_true rfl) (fun v_105 X_106 hp_107 => ?_)
              obtain ⟨rfl, rfl⟩ := hp_107
              obtain ⟨f_102, ⟨hf_103, hf_103p⟩, ef_104⟩ := s_wr_n (pl := s_nt P) (a := a9_11) (f := 0) (w := 5) (hT.1 a9_11 (by omega)).2.2.2.1 (by omega) (by decide)
              have hf_103p := hf_103p (by decide)
              refine z_X (X' := (tX g L (s_rd (s_rw (zs (zs (s_cw (zs I 99 0 0) n S P) 99 7 0) 99 8 0) 21 T9_9) a9_11 f_102) (s_jw J V) Gb X)) (by rw [ef_104]) ?_
              refine z_st (st' := []) rfl ?_
              refine z_goto 148 dX5_year_61 (by decide) ?_
              refine z_aload_n 1 dX5_year_148 rfl ?_
              refine z_bipush (v := 59) dX5_year_149 (by decide) ?_
              refine z_callV (As := [.int 59]) (t_takeSign (I := (s_rw (zs (zs (s_cw (zs I 99 0 0) n S P) 99 7 0) 99 8 0) 21 T9_9)) hL hT (a := a9_11) (f := f_102) (by omega) (by omega) 59 ) q1814 q1816 qs83 q121 q1817 nm_X5_takeSign (tX_obj hL) rfl rfl rfl (Nat.le_of_ble_eq_true rfl) ⟨Nat.le_of_ble_eq_true rfl, Nat.le_of_ble_eq_true rfl⟩ dX5_year_151 rfl rfl (Nat.le_of_ble_eq_true rfl) (Nat.le_of_ble_eq_true rfl) (fun v_113 X_114 hp_115 => ?_)
              obtain ⟨a_108, f_109, rfl, rfl, ha_111, hf_112, et_110⟩ := hp_115
              refine z_st (st' := []) rfl ?_
              refine z_goto 11 dX5_year_154 (by decide) ?_
              have hle2 := s_tS_k et_110
              have hle3 : ¬ f_102 = 0 → f_109 = f_102 := fun z => s_tS_f et_110 z
              try simp only [show s_jw J V 6 = V from rfl, show s_jw J V 9 = J 9 from rfl] at et_110
              refine z_lv (lv' := [(0, .ref (L 99)), (1, .int (nI (n9_10)))]) [1, 2] rfl ?_
              exact ih_5 m_18 T9_9 n9_10 a_108 f_109 (by omega) (by omega) (by omega) (by omega) (by rw [← hE_17]; symm; show (if (0 : Nat) = 0 ∧ ¬ s_nt S a9_11 = 0 then s_ys (s_nt S) (s_nt P) V (J 9) (s_nm (J 14) (I 16) nm) m_18 (s_y2 (s_nt S) (s_nt P) V (J 9) (s_nm (J 14) (I 16) nm) (T9_9, n9_10, a9_11, 0)) else _) = _; rw [if_pos ⟨rfl, c_20⟩]; unfold s_y2; rw [show s_y1 (s_nt S) (s_nt P) V (J 9) (s_nm (J 14) (I 16) nm) T9_9 n9_10 a9_11 = (T9_9, n9_10, a9_11, f_102) from by unfold s_y1; rw [if_neg c_32', if_pos c_33, ef_104]]; simp only []; rw [et_110]) (by omega)
          · -- ¬ 0 ≤ s_wh (s_nt S) V (J 9) a9_11 0 10 4
            have c_32' := Int32.not_le.mp c_32
            refine z_aload_n 1 dX5_year_42 rfl ?_
            refine z_iconst (v := 1) dX5_year_43 (by decide) ?_
            refine z_callV (As := [.int 1]) (t_wrong (I := (s_rw (zs (zs (s_cw (zs I 99 0 0) n S P) 99 7 0) 99 8 0) 21 T9_9)) hL hT (a := a9_11) (f := 0) (by omega) (by omega) 1 (by omega)) q1727 q1729 qs62 q121 q1730 nm_X5_wrong (tX_obj hL) rfl rfl rfl (Nat.le_of_ble_eq_true rfl) ⟨Nat.le_of_ble_eq_true rfl, Nat.le_of_ble_eq_true rfl⟩ dX5_year_44 rfl rfl (Nat.le_of_ble_eq_true rfl) (Nat.le_of_ble_eq_true rfl) (fun v_119 X_120 hp_121 => ?_)
            obtain ⟨rfl, rfl⟩ := hp_121
            obtain ⟨f_116, ⟨hf_117, hf_117p⟩, ef_118⟩ := s_wr_n (pl := s_nt P) (a := a9_11) (f := 0) (w := 1) (hT.1 a9_11 (by omega)).2.2.2.1 (by omega) (by decide)
            have hf_117p := hf_117p (by decide)
            refine z_X (X' := (tX g L (s_rd (s_rw (zs (zs (s_cw (zs I 99 0 0) n S P) 99 7 0) 99 8 0) 21 T9_9) a9_11 f_116) (s_jw J V) Gb X)) (by rw [ef_118]) ?_
            refine z_st (st' := []) rfl ?_
            refine z_goto 148 dX5_year_47 (by decide) ?_
            refine z_aload_n 1 dX5_year_148 rfl ?_
            refine z_bipush (v := 59) dX5_year_149 (by decide) ?_
            refine z_callV (As := [.int 59]) (t_takeSign (I := (s_rw (zs (zs (s_cw (zs I 99 0 0) n S P) 99 7 0) 99 8 0) 21 T9_9)) hL hT (a := a9_11) (f := f_116) (by omega) (by omega) 59 ) q1814 q1816 qs83 q121 q1817 nm_X5_takeSign (tX_obj hL) rfl rfl rfl (Nat.le_of_ble_eq_true rfl) ⟨Nat.le_of_ble_eq_true rfl, Nat.le_of_ble_eq_true rfl⟩ dX5_year_151 rfl rfl (Nat.le_of_ble_eq_true rfl) (Nat.le_of_ble_eq_true rfl) (fun v_127 X_128 hp_129 => ?_)
            obtain ⟨a_122, f_123, rfl, rfl, ha_125, hf_126, et_124⟩ := hp_129
            refine z_st (st' := []) rfl ?_
            refine z_goto 11 dX5_year_154 (by decide) ?_
            have hle2 := s_tS_k et_124
            have hle3 : ¬ f_116 = 0 → f_123 = f_116 := fun z => s_tS_f et_124 z
            try simp only [show s_jw J V 6 = V from rfl, show s_jw J V 9 = J 9 from rfl] at et_124
            refine z_lv (lv' := [(0, .ref (L 99)), (1, .int (nI (n9_10)))]) [1, 2] rfl ?_
            exact ih_5 m_18 T9_9 n9_10 a_122 f_123 (by omega) (by omega) (by omega) (by omega) (by rw [← hE_17]; symm; show (if (0 : Nat) = 0 ∧ ¬ s_nt S a9_11 = 0 then s_ys (s_nt S) (s_nt P) V (J 9) (s_nm (J 14) (I 16) nm) m_18 (s_y2 (s_nt S) (s_nt P) V (J 9) (s_nm (J 14) (I 16) nm) (T9_9, n9_10, a9_11, 0)) else _) = _; rw [if_pos ⟨rfl, c_20⟩]; unfold s_y2; rw [show s_y1 (s_nt S) (s_nt P) V (J 9) (s_nm (J 14) (I 16) nm) T9_9 n9_10 a9_11 = (T9_9, n9_10, a9_11, f_116) from by unfold s_y1; rw [if_pos c_32', ef_118]]; simp only []; rw [et_124]) (by omega)
  refine z_lv (lv' := [(0, .ref (L 99)), (1, .int 0)]) [1, 0] rfl ?_
  exact loop_7 (1001 + 1) 1001 (I 21) 0 0 0 (Nat.zero_le _) (by decide) (by decide) (by omega) rfl (Nat.lt_succ_self _)
