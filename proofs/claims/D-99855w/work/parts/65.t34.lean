/-! THE MODEL: a vale is read. Printed by t34.py -/
set_option maxRecDepth 100000
set_option maxHeartbeats 4000000 in
theorem t_vale {g : zG} {L : Nat → Nat} {I : Nat → Nat → Int32} {J : Nat → Nat → Int64} {Gb : Nat → Nat → Int32} {X : zX} (hL : tok g L) {n : Nat} (hn : I 99 2 = nI n) (hn2 : n ≤ 1000) : zN g m_X5_vale ({ frames := 34, cells := 0, slots := 0, locals := 748 } : Room) [.ref (L 99)] (tX g L I J Gb X) (fun rv X' => ∃ (S P : Nat → Int32) (V : Nat → Int64) (m : Nat), s_cut (I 1) n S P V m ∧ s_fr (I 1) n m = n ∧ S m = 0 ∧ P m = nI n ∧ m ≤ n ∧ ∃ (I9 : Nat → Nat → Int32) (J9 : Nat → Nat → Int64) (a9 f9 : Nat), s_lines (s_nt S) (s_nt P) V (J 9) 1001 ((s_v0 (zs I 99 0 0) n S P), (s_jw J V), 0, 0) = (I9, J9, a9, f9) ∧ rv = some (.int (nI f9)) ∧ ((¬ f9 = 0 ∧ X' = tX g L (s_rd I9 a9 f9) J9 Gb X) ∨ (f9 = 0 ∧ ∃ nh nd c9, I9 10 50 = nI nh ∧ nh ≤ 4 ∧ I9 10 51 = nI nd ∧ nd ≤ 6 ∧ I9 99 19 = nI (nh + nd) ∧ I9 99 13 = nI c9 ∧ c9 ≤ a9 ∧ X' = tX g L (s_begin (s_rd (s_v2 I9 c9 (nh + nd)) a9 0) nh nd) (s_cpy J9 14 15 0 (nh + nd)) Gb X))) := by
  refine zN.of (by decide +kernel) (Nat.le_of_ble_eq_true rfl) rfl ?_
  refine z_lv (lv' := [(0, .ref (L 99))]) [0] rfl ?_
  refine z_aload_n 0 dX5_vale_0 rfl ?_
  refine z_iconst (v := 0) dX5_vale_1 (by decide) ?_
  refine tz_put (I' := (zs I 99 0 0)) 0 hL (by decide) q1593 rfl dX5_vale_2 ?_
  refine z_aload_n 0 dX5_vale_5 rfl ?_
  refine z_callV (As := []) (t_cutAll (I := (zs I 99 0 0)) hL hn hn2) q1696 q1698 qs58 q121 q1699 nm_X5_cutAll (tX_obj hL) rfl rfl rfl (Nat.le_of_ble_eq_true rfl) ⟨Nat.le_of_ble_eq_true rfl, Nat.le_of_ble_eq_true rfl⟩ dX5_vale_6 rfl rfl (Nat.le_of_ble_eq_true rfl) (Nat.le_of_ble_eq_true rfl) (fun v_1 X_2 hp_3 => ?_)
  obtain ⟨rfl, S, P, V, m, rfl, hcut, hfr, hS, hP, hmn⟩ := hp_3
  refine z_st (st' := []) rfl ?_
  refine z_aload_n 0 dX5_vale_9 rfl ?_
  refine z_iconst (v := 0) dX5_vale_10 (by decide) ?_
  refine tz_put (I' := (zs (zs (zs (s_cw (zs I 99 0 0) n S P) 99 7 0) 99 8 0) 99 13 0)) 13 hL (by decide) q1606 rfl dX5_vale_11 ?_
  refine z_aload_n 0 dX5_vale_14 rfl ?_
  refine z_iconst (v := 0) dX5_vale_15 (by decide) ?_
  refine tz_put (I' := (zs (zs (zs (zs (s_cw (zs I 99 0 0) n S P) 99 7 0) 99 8 0) 99 13 0) 99 19 0)) 19 hL (by decide) q1612 rfl dX5_vale_16 ?_
  refine z_aload_n 0 dX5_vale_19 rfl ?_
  refine z_iconst (v := 0) dX5_vale_20 (by decide) ?_
  refine tz_put (I' := (zs (zs (zs (zs (zs (s_cw (zs I 99 0 0) n S P) 99 7 0) 99 8 0) 99 13 0) 99 19 0) 99 20 0)) 20 hL (by decide) q1613 rfl dX5_vale_21 ?_
  refine z_aload_n 0 dX5_vale_24 rfl ?_
  refine z_bipush (v := 50) dX5_vale_25 (by decide) ?_
  refine z_callV (As := [.int 50]) (t_standsAsAlways (I := (zs (zs (zs (zs (zs (s_cw (zs I 99 0 0) n S P) 99 7 0) 99 8 0) 99 13 0) 99 19 0) 99 20 0)) hL 50 (by omega)) q1561 q1563 qs50 q121 q1564 nm_X5_standsAsAlways (tX_obj hL) rfl rfl rfl (Nat.le_of_ble_eq_true rfl) ⟨Nat.le_of_ble_eq_true rfl, Nat.le_of_ble_eq_true rfl⟩ dX5_vale_27 rfl rfl (Nat.le_of_ble_eq_true rfl) (Nat.le_of_ble_eq_true rfl) (fun v_4 X_5 hp_6 => ?_)
  obtain ⟨rfl, rfl⟩ := hp_6
  refine z_st (st' := []) rfl ?_
  refine z_X (X' := (tX g L (s_rd (s_v0 (zs I 99 0 0) n S P) 0 0) (s_jw J V) Gb X)) (congrArg (fun z => tX g L z (s_jw J V) Gb X) (s_rd_self (I := (s_v0 (zs I 99 0 0) n S P)) (a := 0) (f := 0) rfl rfl).symm) ?_
  have hT0 : s_tk ((s_v0 (zs I 99 0 0) n S P) 4) ((s_v0 (zs I 99 0 0) n S P) 5) (s_nt S) (s_nt P) m := s_cut_tk hcut hn2 hmn hS hP
  have hR0 : s_ri (s_v0 (zs I 99 0 0) n S P) 0 := ⟨0, 0, 0, rfl, by decide, rfl, by decide, rfl, rfl, Nat.le_refl _, fun _ => rfl⟩
  have loop_10 : ∀ (q_7 : Nat) (mm_11 : Nat) (I9_12 : Nat → Nat → Int32) (J9_13 : Nat → Nat → Int64) (a9_14 : Nat) (f9_15 : Nat), (a9_14 ≤ m) → (f9_15 < 2 ^ 20) → (s_ri I9_12 a9_14) → (s_rk (s_v0 (zs I 99 0 0) n S P) I9_12 (s_jw J V) J9_13) → (m < mm_11 + a9_14 ∨ (¬ f9_15 = 0 ∧ 0 < mm_11)) → (s_lines (s_nt S) (s_nt P) V (J 9) mm_11 (I9_12, J9_13, a9_14, f9_15) = s_lines (s_nt S) (s_nt P) V (J 9) 1001 ((s_v0 (zs I 99 0 0) n S P), (s_jw J V), 0, 0)) → mm_11 < q_7 → zZ g m_X5_vale (fun rv X' => ∃ (S P : Nat → Int32) (V : Nat → Int64) (m : Nat), s_cut (I 1) n S P V m ∧ s_fr (I 1) n m = n ∧ S m = 0 ∧ P m = nI n ∧ m ≤ n ∧ ∃ (I9 : Nat → Nat → Int32) (J9 : Nat → Nat → Int64) (a9 f9 : Nat), s_lines (s_nt S) (s_nt P) V (J 9) 1001 ((s_v0 (zs I 99 0 0) n S P), (s_jw J V), 0, 0) = (I9, J9, a9, f9) ∧ rv = some (.int (nI f9)) ∧ ((¬ f9 = 0 ∧ X' = tX g L (s_rd I9 a9 f9) J9 Gb X) ∨ (f9 = 0 ∧ ∃ nh nd c9, I9 10 50 = nI nh ∧ nh ≤ 4 ∧ I9 10 51 = nI nd ∧ nd ≤ 6 ∧ I9 99 19 = nI (nh + nd) ∧ I9 99 13 = nI c9 ∧ c9 ≤ a9 ∧ X' = tX g L (s_begin (s_rd (s_v2 I9 c9 (nh + nd)) a9 0) nh nd) (s_cpy J9 14 15 0 (nh + nd)) Gb X)), zno, ({ frames := 34, cells := 0, slots := 0, locals := 748 } : Room)) 0 0 (tX g L (s_rd I9_12 a9_14 f9_15) J9_13 Gb X) 30 [(0, .ref (L 99))] [] := by
    intro q_7
    induction q_7 with
    | zero => intro mm_11 I9_12 J9_13 a9_14 f9_15 h1_16 h2_17 hR_18 hK_19 h5_20 hE_21 hm_9; exact absurd hm_9 (Nat.not_lt_zero _)
    | succ q_7 ih_8 =>
      intro mm_11 I9_12 J9_13 a9_14 f9_15 h1_16 h2_17 hR_18 hK_19 h5_20 hE_21 hm_9
      obtain ⟨m_22, rfl⟩ : ∃ m9, mm_11 = m9 + 1 := ⟨mm_11 - 1, by omega⟩
      have hT := s_rk_tk hK_19 hT0
      have hRc := hR_18
      obtain ⟨nh, nd, c9, h50, hnh, h51, hnd, hm, hc13, hcl, hcb⟩ := hRc
      obtain ⟨hk9, hp9, hk4, hp4, hke⟩ := hT.1 a9_14 h1_16
      have hcd : s_isBit (I9_12 99 20) 1 = false → I9_12 99 13 = 0 := fun z => by rw [hc13, hcb z]; rfl
      refine z_aload_n 0 dX5_vale_30 rfl ?_
      refine tz_get (v := .int (nI (f9_15))) 8 hL (by decide) q1601 rfl dX5_vale_31 ?_
      refine z_if_neN 62 (by omega) dX5_vale_34 (by decide) (fun c_23 => ?_) (fun c_23 => ?_)
      · -- f9_15 ≠ 0
        refine z_aload_n 0 dX5_vale_62 rfl ?_
        refine tz_get (v := .int (nI (f9_15))) 8 hL (by decide) q1601 rfl dX5_vale_63 ?_
        refine z_if_leN 74 (by omega) dX5_vale_66 (by decide) (fun c_ => absurd c_ (by omega)) (fun _ => ?_)
        refine z_aload_n 0 dX5_vale_69 rfl ?_
        refine tz_get (v := .int (nI (f9_15))) 8 hL (by decide) q1601 rfl dX5_vale_70 ?_
        exact z_iret dX5_vale_73 rfl (Nat.le_of_ble_eq_true rfl) (Nat.le_of_ble_eq_true rfl) ⟨S, P, V, m, hcut, hfr, hS, hP, hmn, I9_12, J9_13, a9_14, f9_15, hE_21.symm.trans (if_neg (fun h9 => absurd h9.1 (by omega))), rfl, Or.inl ⟨by omega, rfl⟩⟩
      · -- f9_15 = 0
        subst c_23
        refine z_aload_n 0 dX5_vale_37 rfl ?_
        refine tz_get (v := .ref (L 4)) 4 hL (by decide) q1597 rfl dX5_vale_38 ?_
        refine z_aload_n 0 dX5_vale_41 rfl ?_
        refine tz_get (v := .int (nI (a9_14))) 7 hL (by decide) q1600 rfl dX5_vale_42 ?_
        refine tz_iald (v := nI ((s_nt S a9_14))) 4 (a9_14) hL (by decide) rfl (by show a9_14 < 1002; omega) hk9 dX5_vale_45 ?_
        refine z_if_eqN 62 (by omega) dX5_vale_46 (by decide) (fun c_24 => ?_) (fun c_24 => ?_)
        · -- (s_nt S a9_14) = 0
          refine z_aload_n 0 dX5_vale_62 rfl ?_
          refine tz_get (v := .int 0) 8 hL (by decide) q1601 rfl dX5_vale_63 ?_
          refine z_if_le 74 dX5_vale_66 (by decide) (fun h_ => ?_) (fun h_ => absurd h_ (by decide))
          refine z_iconst (v := 0) dX5_vale_74 (by decide) ?_
          refine z_istore_n (lv' := [(1, .int 0), (0, .ref (L 99))]) dX5_vale_75 rfl (by decide) rfl ?_
          have loop_29 : ∀ (q_26 i_25 : Nat), i_25 + q_26 = 50 → 0 ≤ i_25 → zZ g m_X5_vale (fun rv X' => ∃ (S P : Nat → Int32) (V : Nat → Int64) (m : Nat), s_cut (I 1) n S P V m ∧ s_fr (I 1) n m = n ∧ S m = 0 ∧ P m = nI n ∧ m ≤ n ∧ ∃ (I9 : Nat → Nat → Int32) (J9 : Nat → Nat → Int64) (a9 f9 : Nat), s_lines (s_nt S) (s_nt P) V (J 9) 1001 ((s_v0 (zs I 99 0 0) n S P), (s_jw J V), 0, 0) = (I9, J9, a9, f9) ∧ rv = some (.int (nI f9)) ∧ ((¬ f9 = 0 ∧ X' = tX g L (s_rd I9 a9 f9) J9 Gb X) ∨ (f9 = 0 ∧ ∃ nh nd c9, I9 10 50 = nI nh ∧ nh ≤ 4 ∧ I9 10 51 = nI nd ∧ nd ≤ 6 ∧ I9 99 19 = nI (nh + nd) ∧ I9 99 13 = nI c9 ∧ c9 ≤ a9 ∧ X' = tX g L (s_begin (s_rd (s_v2 I9 c9 (nh + nd)) a9 0) nh nd) (s_cpy J9 14 15 0 (nh + nd)) Gb X)), zno, ({ frames := 34, cells := 0, slots := 0, locals := 748 } : Room)) 0 0 (tX g L (s_rd (s_cpy I9_12 10 10 50 i_25) a9_14 0) J9_13 Gb X) 76 [(0, .ref (L 99)), (1, .int (nI (i_25)))] [] := by
            intro q_26
            induction q_26 with
            | zero =>
              intro i_25 hb_28 lo_30  
              obtain rfl : 50 = i_25 := by omega
              refine z_iload_n 1 dX5_vale_76 rfl ?_
              refine z_bipush (v := 50) dX5_vale_77 (by decide) ?_
              refine z_icmp_geN (a := 50) (b := 50) 103 (by decide) (by decide) dX5_vale_79 (by decide) (fun h_ => ?_) (fun h_ => absurd h_ (by decide))
              refine z_iconst (v := 0) dX5_vale_103 (by decide) ?_
              refine z_istore_n (lv' := [(1, .int 0), (0, .ref (L 99))]) dX5_vale_104 rfl (by decide) rfl ?_
              have loop_35 : ∀ (q_32 i_31 : Nat), i_31 + q_32 = c9 → 0 ≤ i_31 → zZ g m_X5_vale (fun rv X' => ∃ (S P : Nat → Int32) (V : Nat → Int64) (m : Nat), s_cut (I 1) n S P V m ∧ s_fr (I 1) n m = n ∧ S m = 0 ∧ P m = nI n ∧ m ≤ n ∧ ∃ (I9 : Nat → Nat → Int32) (J9 : Nat → Nat → Int64) (a9 f9 : Nat), s_lines (s_nt S) (s_nt P) V (J 9) 1001 ((s_v0 (zs I 99 0 0) n S P), (s_jw J V), 0, 0) = (I9, J9, a9, f9) ∧ rv = some (.int (nI f9)) ∧ ((¬ f9 = 0 ∧ X' = tX g L (s_rd I9 a9 f9) J9 Gb X) ∨ (f9 = 0 ∧ ∃ nh nd c9, I9 10 50 = nI nh ∧ nh ≤ 4 ∧ I9 10 51 = nI nd ∧ nd ≤ 6 ∧ I9 99 19 = nI (nh + nd) ∧ I9 99 13 = nI c9 ∧ c9 ≤ a9 ∧ X' = tX g L (s_begin (s_rd (s_v2 I9 c9 (nh + nd)) a9 0) nh nd) (s_cpy J9 14 15 0 (nh + nd)) Gb X)), zno, ({ frames := 34, cells := 0, slots := 0, locals := 748 } : Room)) 0 0 (tX g L (s_rd (s_cpy (s_cpy (s_cpy I9_12 10 10 50 50) 11 11 1100 i_31) 12 12 1100 i_31) a9_14 0) J9_13 Gb X) 105 [(0, .ref (L 99)), (1, .int (nI (i_31)))] [] := by
                intro q_32
                induction q_32 with
                | zero =>
                  intro i_31 hb_34 lo_36  
                  obtain rfl : c9 = i_31 := by omega
                  refine z_iload_n 1 dX5_vale_105 rfl ?_
                  refine z_aload_n 0 dX5_vale_106 rfl ?_
                  refine tz_get (v := .int (nI (c9))) 13 hL (by decide) q1606 (congrArg (fun z => some (Value.int z)) hc13) dX5_vale_107 ?_
                  refine z_icmp_geN (a := c9) (b := c9) 151 (by omega) (by omega) dX5_vale_110 (by decide) (fun c_37 => ?_) (fun c_37 => absurd c_37 (by omega))
                  refine z_iconst (v := 0) dX5_vale_151 (by decide) ?_
                  refine z_istore_n (lv' := [(1, .int 0), (0, .ref (L 99))]) dX5_vale_152 rfl (by decide) rfl ?_
                  have loop_42 : ∀ (q_39 i_38 : Nat), i_38 + q_39 = (nh + nd) → 0 ≤ i_38 → zZ g m_X5_vale (fun rv X' => ∃ (S P : Nat → Int32) (V : Nat → Int64) (m : Nat), s_cut (I 1) n S P V m ∧ s_fr (I 1) n m = n ∧ S m = 0 ∧ P m = nI n ∧ m ≤ n ∧ ∃ (I9 : Nat → Nat → Int32) (J9 : Nat → Nat → Int64) (a9 f9 : Nat), s_lines (s_nt S) (s_nt P) V (J 9) 1001 ((s_v0 (zs I 99 0 0) n S P), (s_jw J V), 0, 0) = (I9, J9, a9, f9) ∧ rv = some (.int (nI f9)) ∧ ((¬ f9 = 0 ∧ X' = tX g L (s_rd I9 a9 f9) J9 Gb X) ∨ (f9 = 0 ∧ ∃ nh nd c9, I9 10 50 = nI nh ∧ nh ≤ 4 ∧ I9 10 51 = nI nd ∧ nd ≤ 6 ∧ I9 99 19 = nI (nh + nd) ∧ I9 99 13 = nI c9 ∧ c9 ≤ a9 ∧ X' = tX g L (s_begin (s_rd (s_v2 I9 c9 (nh + nd)) a9 0) nh nd) (s_cpy J9 14 15 0 (nh + nd)) Gb X)), zno, ({ frames := 34, cells := 0, slots := 0, locals := 748 } : Room)) 0 0 (tX g L (s_rd (s_cpy (s_cpy (s_cpy (s_cpy I9_12 10 10 50 50) 11 11 1100 c9) 12 12 1100 c9) 16 17 0 i_38) a9_14 0) (s_cpy J9_13 14 15 0 i_38) Gb X) 153 [(0, .ref (L 99)), (1, .int (nI (i_38)))] [] := by
                    intro q_39
                    induction q_39 with
                    | zero =>
                      intro i_38 hb_41 lo_43  
                      obtain rfl : (nh + nd) = i_38 := by omega
                      refine z_iload_n 1 dX5_vale_153 rfl ?_
                      refine z_aload_n 0 dX5_vale_154 rfl ?_
                      refine tz_get (v := .int (nI (nh + nd))) 19 hL (by decide) q1612 (congrArg (fun z => some (Value.int z)) hm) dX5_vale_155 ?_
                      refine z_icmp_geN (a := (nh + nd)) (b := nh + nd) 191 (by omega) (by omega) dX5_vale_158 (by decide) (fun c_44 => ?_) (fun c_44 => absurd c_44 (by omega))
                      refine z_aload_n 0 dX5_vale_191 rfl ?_
                      refine z_aload_n 0 dX5_vale_192 rfl ?_
                      refine tz_get (v := .int (nI (nh + nd))) 19 hL (by decide) q1612 (congrArg (fun z => some (Value.int z)) hm) dX5_vale_193 ?_
                      refine tz_put (I' := (s_rd (zs (s_cpy (s_cpy (s_cpy (s_cpy I9_12 10 10 50 50) 11 11 1100 c9) 12 12 1100 c9) 16 17 0 (nh + nd)) 99 18 (nI (nh + nd))) a9_14 0)) 18 hL (by decide) q1611 (s_rd_f (by decide) (by decide)) dX5_vale_196 ?_
                      refine z_aload_n 0 dX5_vale_199 rfl ?_
                      refine z_callV (As := []) (t_begins (I := (s_rd (zs (s_cpy (s_cpy (s_cpy (s_cpy I9_12 10 10 50 50) 11 11 1100 c9) 12 12 1100 c9) 16 17 0 (nh + nd)) 99 18 (nI (nh + nd))) a9_14 0)) hL h50 hnh h51 hnd) q1565 q1567 qs51 q121 q1568 nm_X5_begins (tX_obj hL) rfl rfl rfl (Nat.le_of_ble_eq_true rfl) ⟨Nat.le_of_ble_eq_true rfl, Nat.le_of_ble_eq_true rfl⟩ dX5_vale_200 rfl rfl (Nat.le_of_ble_eq_true rfl) (Nat.le_of_ble_eq_true rfl) (fun v_45 X_46 hp_47 => ?_)
                      obtain ⟨rfl, rfl⟩ := hp_47
                      refine z_st (st' := []) rfl ?_
                      refine z_iconst (v := 0) dX5_vale_203 (by decide) ?_
                      exact z_iret dX5_vale_204 rfl (Nat.le_of_ble_eq_true rfl) (Nat.le_of_ble_eq_true rfl) ⟨S, P, V, m, hcut, hfr, hS, hP, hmn, I9_12, J9_13, a9_14, 0, hE_21.symm.trans (if_neg (fun h9 => h9.2 c_24)), rfl, Or.inr ⟨rfl, nh, nd, c9, h50, hnh, h51, hnd, hm, hc13, hcl, rfl⟩⟩
                    | succ q_39 ih_40 =>
                      intro i_38 hb_41 lo_43  
                      refine z_iload_n 1 dX5_vale_153 rfl ?_
                      refine z_aload_n 0 dX5_vale_154 rfl ?_
                      refine tz_get (v := .int (nI (nh + nd))) 19 hL (by decide) q1612 (congrArg (fun z => some (Value.int z)) hm) dX5_vale_155 ?_
                      refine z_icmp_geN (a := i_38) (b := nh + nd) 191 (by omega) (by omega) dX5_vale_158 (by decide) (fun c_48 => absurd c_48 (by omega)) (fun c_48 => ?_)
                      refine z_aload_n 0 dX5_vale_161 rfl ?_
                      refine tz_get (v := .ref (L 14)) 14 hL (by decide) q1607 rfl dX5_vale_162 ?_
                      refine z_iload_n 1 dX5_vale_165 rfl ?_
                      refine z_aload_n 0 dX5_vale_166 rfl ?_
                      refine tz_get (v := .ref (L 15)) 15 hL (by decide) q1608 rfl dX5_vale_167 ?_
                      refine z_iload_n 1 dX5_vale_170 rfl ?_
                      refine tz_lald (v := (s_cpy J9_13 14 15 0 i_38) 15 i_38) 15 (i_38) hL (by decide) rfl (by show i_38 < 10; omega) rfl dX5_vale_171 ?_
                      refine tz_last 14 (i_38) hL (by decide) rfl (by show i_38 < 10; omega) rfl dX5_vale_172 ?_
                      refine z_aload_n 0 dX5_vale_173 rfl ?_
                      refine tz_get (v := .ref (L 16)) 16 hL (by decide) q1609 rfl dX5_vale_174 ?_
                      refine z_iload_n 1 dX5_vale_177 rfl ?_
                      refine z_aload_n 0 dX5_vale_178 rfl ?_
                      refine tz_get (v := .ref (L 17)) 17 hL (by decide) q1610 rfl dX5_vale_179 ?_
                      refine z_iload_n 1 dX5_vale_182 rfl ?_
                      refine tz_iald (v := I9_12 17 i_38) 17 (i_38) hL (by decide) rfl (by show i_38 < 10; omega) rfl dX5_vale_183 ?_
                      refine tz_iast 16 (i_38) hL (by decide) rfl (by show i_38 < 10; omega) (s_rd_a (by decide)) dX5_vale_184 ?_
                      refine z_iinc (v := nI (i_38 + 1)) (lv' := [(1, .int (nI (i_38 + 1))), (0, .ref (L 99))]) 1 dX5_vale_185 rfl (nI_1 _) (by decide) rfl ?_
                      refine z_goto 153 dX5_vale_188 (by decide) ?_
                      refine z_lv (lv' := [(0, .ref (L 99)), (1, .int (nI (i_38 + 1)))]) [1, 0] rfl ?_
                      refine z_X (X' := (tX g L (s_rd (s_cpy (s_cpy (s_cpy (s_cpy I9_12 10 10 50 50) 11 11 1100 c9) 12 12 1100 c9) 16 17 0 (i_38 + 1)) a9_14 0) (s_cpy J9_13 14 15 0 (i_38 + 1)) Gb X)) (by rw [← s_cpy_3 (r := 14) (q := 15) (by decide), ← s_cpy_3 (r := 16) (q := 17) (by decide)] <;> rfl) ?_
                      exact ih_40 (i_38 + 1) (by omega) (by omega)  
                  refine z_lv (lv' := [(0, .ref (L 99)), (1, .int 0)]) [1, 0] rfl ?_
                  refine z_X (X' := (tX g L (s_rd (s_cpy (s_cpy (s_cpy (s_cpy I9_12 10 10 50 50) 11 11 1100 c9) 12 12 1100 c9) 16 17 0 0) a9_14 0) (s_cpy J9_13 14 15 0 0) Gb X)) (by rw [s_cpy_0, s_cpy_0]) ?_
                  exact loop_42 ((nh + nd) - 0) 0 (by omega) (Nat.le_refl _)  
                | succ q_32 ih_33 =>
                  intro i_31 hb_34 lo_36  
                  refine z_iload_n 1 dX5_vale_105 rfl ?_
                  refine z_aload_n 0 dX5_vale_106 rfl ?_
                  refine tz_get (v := .int (nI (c9))) 13 hL (by decide) q1606 (congrArg (fun z => some (Value.int z)) hc13) dX5_vale_107 ?_
                  refine z_icmp_geN (a := i_31) (b := c9) 151 (by omega) (by omega) dX5_vale_110 (by decide) (fun c_49 => absurd c_49 (by omega)) (fun c_49 => ?_)
                  refine z_aload_n 0 dX5_vale_113 rfl ?_
                  refine tz_get (v := .ref (L 11)) 11 hL (by decide) q1604 rfl dX5_vale_114 ?_
                  refine z_iload_n 1 dX5_vale_117 rfl ?_
                  refine z_aload_n 0 dX5_vale_118 rfl ?_
                  refine tz_get (v := .ref (L 11)) 11 hL (by decide) q1604 rfl dX5_vale_119 ?_
                  refine z_sipush (v := 1100) dX5_vale_122 (by decide) ?_
                  refine z_iload_n 1 dX5_vale_125 rfl ?_
                  refine z_iaddN (a := 1100) (b := i_31) dX5_vale_126 ?_
                  refine z_eq (y := nI (i_31 + 1100)) (congrArg nI (by omega)) ?_
                  refine tz_iald (v := (s_cpy (s_cpy I9_12 10 10 50 50) 11 11 1100 i_31) 11 (i_31 + 1100)) 11 (i_31 + 1100) hL (by decide) rfl (by show i_31 + 1100 < 2200; omega) rfl dX5_vale_127 ?_
                  refine tz_iast 11 (i_31) hL (by decide) rfl (by show i_31 < 2200; omega) (s_rd_a (by decide)) dX5_vale_128 ?_
                  refine z_aload_n 0 dX5_vale_129 rfl ?_
                  refine tz_get (v := .ref (L 12)) 12 hL (by decide) q1605 rfl dX5_vale_130 ?_
                  refine z_iload_n 1 dX5_vale_133 rfl ?_
                  refine z_aload_n 0 dX5_vale_134 rfl ?_
                  refine tz_get (v := .ref (L 12)) 12 hL (by decide) q1605 rfl dX5_vale_135 ?_
                  refine z_sipush (v := 1100) dX5_vale_138 (by decide) ?_
                  refine z_iload_n 1 dX5_vale_141 rfl ?_
                  refine z_iaddN (a := 1100) (b := i_31) dX5_vale_142 ?_
                  refine z_eq (y := nI (i_31 + 1100)) (congrArg nI (by omega)) ?_
                  refine tz_iald (v := (s_cpy (s_cpy (s_cpy I9_12 10 10 50 50) 11 11 1100 i_31) 12 12 1100 i_31) 12 (i_31 + 1100)) 12 (i_31 + 1100) hL (by decide) rfl (by show i_31 + 1100 < 2200; omega) rfl dX5_vale_143 ?_
                  refine tz_iast 12 (i_31) hL (by decide) rfl (by show i_31 < 2200; omega) (s_rd_a (by decide)) dX5_vale_144 ?_
                  refine z_iinc (v := nI (i_31 + 1)) (lv' := [(1, .int (nI (i_31 + 1))), (0, .ref (L 99))]) 1 dX5_vale_145 rfl (nI_1 _) (by decide) rfl ?_
                  refine z_goto 105 dX5_vale_148 (by decide) ?_
                  refine z_lv (lv' := [(0, .ref (L 99)), (1, .int (nI (i_31 + 1)))]) [1, 0] rfl ?_
                  refine z_X (X' := (tX g L (s_rd (s_cpy (s_cpy (s_cpy I9_12 10 10 50 50) 11 11 1100 (i_31 + 1)) 12 12 1100 (i_31 + 1)) a9_14 0) J9_13 Gb X)) (by exact congrArg (fun z => tX g L (s_rd z a9_14 0) J9_13 Gb X) (s_cpy_2 (by omega))) ?_
                  exact ih_33 (i_31 + 1) (by omega) (by omega)  
              refine z_lv (lv' := [(0, .ref (L 99)), (1, .int 0)]) [1, 0] rfl ?_
              refine z_X (X' := (tX g L (s_rd (s_cpy (s_cpy (s_cpy I9_12 10 10 50 50) 11 11 1100 0) 12 12 1100 0) a9_14 0) J9_13 Gb X)) (by rw [s_cpy_0, s_cpy_0]) ?_
              exact loop_35 (c9 - 0) 0 (by omega) (Nat.le_refl _)  
            | succ q_26 ih_27 =>
              intro i_25 hb_28 lo_30  
              refine z_iload_n 1 dX5_vale_76 rfl ?_
              refine z_bipush (v := 50) dX5_vale_77 (by decide) ?_
              refine z_icmp_geN (a := i_25) (b := 50) 103 (by omega) (by omega) dX5_vale_79 (by decide) (fun c_50 => absurd c_50 (by omega)) (fun c_50 => ?_)
              refine z_aload_n 0 dX5_vale_82 rfl ?_
              refine tz_get (v := .ref (L 10)) 10 hL (by decide) q1603 rfl dX5_vale_83 ?_
              refine z_iload_n 1 dX5_vale_86 rfl ?_
              refine z_aload_n 0 dX5_vale_87 rfl ?_
              refine tz_get (v := .ref (L 10)) 10 hL (by decide) q1603 rfl dX5_vale_88 ?_
              refine z_bipush (v := 50) dX5_vale_91 (by decide) ?_
              refine z_iload_n 1 dX5_vale_93 rfl ?_
              refine z_iaddN (a := 50) (b := i_25) dX5_vale_94 ?_
              refine z_eq (y := nI (i_25 + 50)) (congrArg nI (by omega)) ?_
              refine tz_iald (v := (s_cpy I9_12 10 10 50 i_25) 10 (i_25 + 50)) 10 (i_25 + 50) hL (by decide) rfl (by show i_25 + 50 < 100; omega) rfl dX5_vale_95 ?_
              refine tz_iast 10 (i_25) hL (by decide) rfl (by show i_25 < 100; omega) (s_rd_a (by decide)) dX5_vale_96 ?_
              refine z_iinc (v := nI (i_25 + 1)) (lv' := [(1, .int (nI (i_25 + 1))), (0, .ref (L 99))]) 1 dX5_vale_97 rfl (nI_1 _) (by decide) rfl ?_
              refine z_goto 76 dX5_vale_100 (by decide) ?_
              refine z_lv (lv' := [(0, .ref (L 99)), (1, .int (nI (i_25 + 1)))]) [1, 0] rfl ?_
              refine z_X (X' := (tX g L (s_rd (s_cpy I9_12 10 10 50 (i_25 + 1)) a9_14 0) J9_13 Gb X)) (by rw [show (s_cpy I9_12 10 10 50 i_25) 10 (i_25 + 50) = I9_12 10 (50 + i_25) from (s_cpy_n (Or.inr (by omega))).trans (congrArg (I9_12 10) (by omega)), s_cpy_1]) ?_
              exact ih_27 (i_25 + 1) (by omega) (by omega)  
          refine z_lv (lv' := [(0, .ref (L 99)), (1, .int 0)]) [1, 0] rfl ?_
          refine z_X (X' := (tX g L (s_rd (s_cpy I9_12 10 10 50 0) a9_14 0) J9_13 Gb X)) (by rw [s_cpy_0]) ?_
          exact loop_29 (50 - 0) 0 (by omega) (Nat.le_refl _)  
        · -- (s_nt S a9_14) ≠ 0
          refine z_aload_n 0 dX5_vale_49 rfl ?_
          refine z_callV (As := []) (t_readLine (I := I9_12) (J := J9_13) hL hT (a := a9_14) (by omega) h50 hnh h51 hnd hm rfl hcd) q1715 q1717 qs59 q121 q1718 nm_X5_readLine (tX_obj hL) rfl rfl rfl (Nat.le_of_ble_eq_true rfl) ⟨Nat.le_of_ble_eq_true rfl, Nat.le_of_ble_eq_true rfl⟩ dX5_vale_50 rfl rfl (Nat.le_of_ble_eq_true rfl) (Nat.le_of_ble_eq_true rfl) (fun v_58 X_59 hp_60 => ?_)
          obtain ⟨I_51, J_52, a_53, f_54, rfl, rfl, ha_56, hf_57, et_55⟩ := hp_60
          have hrk := (s_ri_L hR_18 h50 hnh h51 hnd et_55).2.2
          have hri := (s_ri_L hR_18 h50 hnh h51 hnd et_55).1
          have hle := (s_ri_L hR_18 h50 hnh h51 hnd et_55).2.1
          have hT := s_rk_tk hrk hT
          refine z_st (st' := []) rfl ?_
          refine z_aload_n 0 dX5_vale_53 rfl ?_
          refine z_bipush (v := 59) dX5_vale_54 (by decide) ?_
          refine z_callV (As := [.int 59]) (t_takeSign (I := I_51) hL hT (a := a_53) (f := f_54) (by omega) (by omega) 59 ) q1814 q1816 qs83 q121 q1817 nm_X5_takeSign (tX_obj hL) rfl rfl rfl (Nat.le_of_ble_eq_true rfl) ⟨Nat.le_of_ble_eq_true rfl, Nat.le_of_ble_eq_true rfl⟩ dX5_vale_56 rfl rfl (Nat.le_of_ble_eq_true rfl) (Nat.le_of_ble_eq_true rfl) (fun v_66 X_67 hp_68 => ?_)
          obtain ⟨a_61, f_62, rfl, rfl, ha_64, hf_65, et_63⟩ := hp_68
          refine z_st (st' := []) rfl ?_
          refine z_goto 30 dX5_vale_59 (by decide) ?_
          have hle2 := s_tS_k et_63
          have hle3 : ¬ f_54 = 0 → f_62 = f_54 := fun z => s_tS_f et_63 z
          have hJ6 : J9_13 6 = V := (hK_19.2.2.2.2 6 (by decide)).trans rfl
          have hJ9 : J9_13 9 = J 9 := (hK_19.2.2.2.2 9 (by decide)).trans rfl
          have hJ6b : J_52 6 = V := (hrk.2.2.2.2 6 (by decide)).trans hJ6
          exact ih_8 m_22 I_51 J_52 a_61 f_62 (by omega) (by omega) (s_ri_le hri hle2.1) (s_rk_tr hK_19 hrk) (by omega) (by rw [← hE_21]; symm; show (if (0 : Nat) = 0 ∧ ¬ s_nt S a9_14 = 0 then s_lines (s_nt S) (s_nt P) V (J 9) m_22 (s_line1 (s_nt S) (s_nt P) V (J 9) (I9_12, J9_13, a9_14, 0)) else _) = _; rw [if_pos ⟨rfl, c_24⟩]; unfold s_line1; simp only [h50, h51, ncl (show nh < 2 ^ 31 by omega), ncl (show nd < 2 ^ 31 by omega)]; rw [hJ6, hJ9] at et_55; rw [et_55]; simp only []; rw [hJ6b] at et_63; rw [et_63]) (by omega)
  exact loop_10 (1001 + 1) 1001 (s_v0 (zs I 99 0 0) n S P) (s_jw J V) 0 0 (Nat.zero_le _) (by decide) hR0 s_rk_rf (by omega) rfl (Nat.lt_succ_self _)
