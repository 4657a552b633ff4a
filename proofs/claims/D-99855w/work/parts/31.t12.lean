/-! THE MODEL: how it lies. Printed by t12.py -/
set_option maxRecDepth 100000
set_option maxHeartbeats 4000000 in
theorem t_mark {g : zG} {L : Nat → Nat} {I : Nat → Nat → Int32} {J : Nat → Nat → Int64} {Gb : Nat → Nat → Int32} {X : zX} (hL : tok g L) {mk : Nat → Bool} (hmk : ∀ k, k < 4 → I 26 k = zb (mk k)) (m : Int32) (bk : Bool) : zN g m_X5_mark ({ frames := 1, cells := 0, slots := 0, locals := 24 } : Room) [.ref (L 99), .int m, .int (zb bk)] (tX g L I J Gb X) (fun rv X' => rv = some (.int (zb (s_mark I mk m bk).2)) ∧ X' = tX g L (s_mark I mk m bk).1 J Gb X) := by
  refine zN.of (by decide +kernel) (Nat.le_of_ble_eq_true rfl) rfl ?_
  refine z_lv (lv' := [(0, .ref (L 99)), (1, .int m), (2, .int (zb bk))]) [0, 1, 2] rfl ?_
  refine z_aload_n 0 dX5_mark_0 rfl ?_
  refine z_iconst (v := 0) dX5_mark_1 (by decide) ?_
  refine tz_put (I' := (zs I 99 0 0)) 0 hL (by decide) q1593 rfl dX5_mark_2 ?_
  by_cases hv : (decide (0 ≤ m) && decide (m ≤ 3)) = true
  · skip
    obtain ⟨mm, -, hmm, e_m⟩ := zwin 0 3 (by decide) hv
    subst e_m
    refine z_iload_n 1 dX5_mark_5 rfl ?_
    refine z_iconst (v := 0) dX5_mark_6 (by decide) ?_
    refine z_iconst (v := 3) dX5_mark_7 (by decide) ?_
    refine z_callS (As := [.int (nI (mm)), .int 0, .int 3]) (t_within (nI (mm)) 0 3) q1771 q1772 q121 q1773 nm_X5_within rfl (Nat.le_of_ble_eq_true rfl) ⟨Nat.le_of_ble_eq_true rfl, Nat.le_of_ble_eq_true rfl⟩ dX5_mark_8 rfl rfl (Nat.le_of_ble_eq_true rfl) (Nat.le_of_ble_eq_true rfl) (fun v_1 X_2 hp_3 => ?_)
    obtain ⟨rfl, rfl⟩ := hp_3
    refine z_st (st' := [.int (zb (decide (0 ≤ nI (mm)) && decide (nI (mm) ≤ 3)))]) rfl ?_
    refine z_eq (y := 1) (zb_t (zwin_t (Nat.zero_le _) hmm (by decide))) ?_
    refine z_if_eq 27 dX5_mark_11 (by decide) (fun h_ => absurd h_ (by decide)) (fun h_ => ?_)
    refine z_iload_n 2 dX5_mark_14 rfl ?_
    refine z_if_eqb 29 dX5_mark_15 (by decide) (fun c_4 => ?_) (fun c_4 => ?_)
    · -- bk = false
      refine z_aload_n 0 dX5_mark_29 rfl ?_
      refine tz_get (v := .ref (L 26)) 26 hL (by decide) q1619 rfl dX5_mark_30 ?_
      refine z_iload_n 1 dX5_mark_33 rfl ?_
      refine z_iconst (v := 1) dX5_mark_34 (by decide) ?_
      refine tz_zast (mm) hL rfl (by omega) (by first | rfl | decide) rfl dX5_mark_35 ?_
      refine z_aload_n 0 dX5_mark_36 rfl ?_
      refine z_iload_n 2 dX5_mark_37 rfl ?_
      refine z_if_eqb 50 dX5_mark_38 (by decide) (fun _ => ?_) (fun c_ => absurd (c_4.symm.trans c_) (by decide))
      refine z_iconst (v := 0) dX5_mark_50 (by decide) ?_
      refine z_iload_n 2 dX5_mark_51 rfl ?_
      refine z_if_eqb 59 dX5_mark_52 (by decide) (fun _ => ?_) (fun c_ => absurd (c_4.symm.trans c_) (by decide))
      refine z_bipush (v := 47) dX5_mark_59 (by decide) ?_
      refine z_iconst (v := 1) dX5_mark_61 (by decide) ?_
      refine z_iload_n 1 dX5_mark_62 rfl ?_
      refine z_iaddN (a := 1) (b := mm) dX5_mark_63 ?_
      refine z_eq (y := nI (mm + 1)) (congrArg nI (by omega)) ?_
      refine z_imulN (a := 47) (b := mm + 1) dX5_mark_64 ?_
      refine z_eq (y := nI (47 * mm + 47)) (congrArg nI (by omega)) ?_
      refine z_bipush (v := 47) dX5_mark_65 (by decide) ?_
      refine z_callV (As := [.int 0, .int (nI (47 * mm + 47)), .int 47]) (t_copies (I := (zs (zs I 99 0 0) 26 mm 1)) hL 0 (47 * mm + 47) 47 (by omega) (by omega) (by omega)) q1862 q1864 qs91 q121 q1865 nm_X5_copies (tX_obj hL) rfl rfl rfl (Nat.le_of_ble_eq_true rfl) ⟨Nat.le_of_ble_eq_true rfl, Nat.le_of_ble_eq_true rfl⟩ dX5_mark_67 rfl rfl (Nat.le_of_ble_eq_true rfl) (Nat.le_of_ble_eq_true rfl) (fun v_5 X_6 hp_7 => ?_)
      obtain ⟨rfl, rfl⟩ := hp_7
      refine z_X (X' := (tX g L (zs (zs (s_copy I 0 (47 * mm + 47) 47) 99 0 0) 26 mm 1) J Gb X)) (by rw [s_copy_z (by decide), s_copy_z (by decide)]) ?_
      refine z_st (st' := []) rfl ?_
      refine z_aload_n 0 dX5_mark_70 rfl ?_
      refine z_iload_n 2 dX5_mark_71 rfl ?_
      refine z_if_eqb 79 dX5_mark_72 (by decide) (fun _ => ?_) (fun c_ => absurd (c_4.symm.trans c_) (by decide))
      refine z_aload_n 0 dX5_mark_79 rfl ?_
      refine tz_get (v := .int (I 99 25)) 25 hL (by decide) q1618 (congrArg (fun z => some (Value.int z)) (congrFun (s_copy_a (I := I) (f := 0) (t := (47 * mm + 47)) (n := 47) (a := 99) (by decide)) 25)) dX5_mark_80 ?_
      refine tz_put (I' := (zs (zs (zs (s_copy I 0 (47 * mm + 47) 47) 99 0 0) 26 mm 1) 99 25 (I 99 25))) 25 hL (by decide) q1618 rfl dX5_mark_83 ?_
      refine z_iconst (v := 1) dX5_mark_86 (by decide) ?_
      exact z_zret dX5_mark_87 rfl (by first | rfl | decide | exact zb_nar _) (Nat.le_of_ble_eq_true rfl) (Nat.le_of_ble_eq_true rfl) (by rw [show s_mark I mk (nI (mm)) bk = ((zs (zs (zs (s_copy I 0 (47 * mm + 47) 47) 99 0 0) 26 mm 1) 99 25 (I 99 25)), true) from (by unfold s_mark; rw [ncl (by omega), hv]; simp [c_4])]; exact ⟨rfl, rfl⟩)
    · -- bk = true
      refine z_aload_n 0 dX5_mark_18 rfl ?_
      refine tz_get (v := .ref (L 26)) 26 hL (by decide) q1619 rfl dX5_mark_19 ?_
      refine z_iload_n 1 dX5_mark_22 rfl ?_
      refine tz_zald (v := zb (mk mm)) (mm) hL rfl (by omega) (hmk mm (by omega)) dX5_mark_23 ?_
      refine z_if_neb 29 dX5_mark_24 (by decide) (fun c_8 => ?_) (fun c_8 => ?_)
      · -- mk mm = true
        refine z_aload_n 0 dX5_mark_29 rfl ?_
        refine tz_get (v := .ref (L 26)) 26 hL (by decide) q1619 rfl dX5_mark_30 ?_
        refine z_iload_n 1 dX5_mark_33 rfl ?_
        refine z_iconst (v := 1) dX5_mark_34 (by decide) ?_
        refine tz_zast (mm) hL rfl (by omega) (by first | rfl | decide) rfl dX5_mark_35 ?_
        refine z_aload_n 0 dX5_mark_36 rfl ?_
        refine z_iload_n 2 dX5_mark_37 rfl ?_
        refine z_if_eqb 50 dX5_mark_38 (by decide) (fun c_ => absurd (c_4.symm.trans c_) (by decide)) (fun _ => ?_)
        refine z_bipush (v := 47) dX5_mark_41 (by decide) ?_
        refine z_iconst (v := 1) dX5_mark_43 (by decide) ?_
        refine z_iload_n 1 dX5_mark_44 rfl ?_
        refine z_iaddN (a := 1) (b := mm) dX5_mark_45 ?_
        refine z_eq (y := nI (mm + 1)) (congrArg nI (by omega)) ?_
        refine z_imulN (a := 47) (b := mm + 1) dX5_mark_46 ?_
        refine z_eq (y := nI (47 * mm + 47)) (congrArg nI (by omega)) ?_
        refine z_goto 51 dX5_mark_47 (by decide) ?_
        refine z_iload_n 2 dX5_mark_51 rfl ?_
        refine z_if_eqb 59 dX5_mark_52 (by decide) (fun c_ => absurd (c_4.symm.trans c_) (by decide)) (fun _ => ?_)
        refine z_iconst (v := 0) dX5_mark_55 (by decide) ?_
        refine z_goto 65 dX5_mark_56 (by decide) ?_
        refine z_bipush (v := 47) dX5_mark_65 (by decide) ?_
        refine z_callV (As := [.int (nI (47 * mm + 47)), .int 0, .int 47]) (t_copies (I := (zs (zs I 99 0 0) 26 mm 1)) hL (47 * mm + 47) 0 47 (by omega) (by omega) (by omega)) q1862 q1864 qs91 q121 q1865 nm_X5_copies (tX_obj hL) rfl rfl rfl (Nat.le_of_ble_eq_true rfl) ⟨Nat.le_of_ble_eq_true rfl, Nat.le_of_ble_eq_true rfl⟩ dX5_mark_67 rfl rfl (Nat.le_of_ble_eq_true rfl) (Nat.le_of_ble_eq_true rfl) (fun v_9 X_10 hp_11 => ?_)
        obtain ⟨rfl, rfl⟩ := hp_11
        refine z_X (X' := (tX g L (zs (zs (s_copy I (47 * mm + 47) 0 47) 99 0 0) 26 mm 1) J Gb X)) (by rw [s_copy_z (by decide), s_copy_z (by decide)]) ?_
        refine z_st (st' := []) rfl ?_
        refine z_aload_n 0 dX5_mark_70 rfl ?_
        refine z_iload_n 2 dX5_mark_71 rfl ?_
        refine z_if_eqb 79 dX5_mark_72 (by decide) (fun c_ => absurd (c_4.symm.trans c_) (by decide)) (fun _ => ?_)
        refine z_iconst (v := 0) dX5_mark_75 (by decide) ?_
        refine z_goto 83 dX5_mark_76 (by decide) ?_
        refine tz_put (I' := (zs (zs (zs (s_copy I (47 * mm + 47) 0 47) 99 0 0) 26 mm 1) 99 25 0)) 25 hL (by decide) q1618 rfl dX5_mark_83 ?_
        refine z_iconst (v := 1) dX5_mark_86 (by decide) ?_
        exact z_zret dX5_mark_87 rfl (by first | rfl | decide | exact zb_nar _) (Nat.le_of_ble_eq_true rfl) (Nat.le_of_ble_eq_true rfl) (by rw [show s_mark I mk (nI (mm)) bk = ((zs (zs (zs (s_copy I (47 * mm + 47) 0 47) 99 0 0) 26 mm 1) 99 25 0), true) from (by unfold s_mark; rw [ncl (by omega), hv]; simp [c_4, c_8])]; exact ⟨rfl, rfl⟩)
      · -- mk mm = false
        refine z_iconst (v := 0) dX5_mark_27 (by decide) ?_
        exact z_zret dX5_mark_28 rfl (by first | rfl | decide | exact zb_nar _) (Nat.le_of_ble_eq_true rfl) (Nat.le_of_ble_eq_true rfl) (by rw [show s_mark I mk (nI (mm)) bk = ((zs I 99 0 0), false) from (by unfold s_mark; rw [ncl (by omega), hv]; simp [c_4, c_8])]; exact ⟨rfl, rfl⟩)
  · have hv := zb_not hv
    refine z_iload_n 1 dX5_mark_5 rfl ?_
    refine z_iconst (v := 0) dX5_mark_6 (by decide) ?_
    refine z_iconst (v := 3) dX5_mark_7 (by decide) ?_
    refine z_callS (As := [.int m, .int 0, .int 3]) (t_within m 0 3) q1771 q1772 q121 q1773 nm_X5_within rfl (Nat.le_of_ble_eq_true rfl) ⟨Nat.le_of_ble_eq_true rfl, Nat.le_of_ble_eq_true rfl⟩ dX5_mark_8 rfl rfl (Nat.le_of_ble_eq_true rfl) (Nat.le_of_ble_eq_true rfl) (fun v_12 X_13 hp_14 => ?_)
    obtain ⟨rfl, rfl⟩ := hp_14
    refine z_st (st' := [.int (zb (decide (0 ≤ m) && decide (m ≤ 3)))]) rfl ?_
    refine z_if_eqb 27 dX5_mark_11 (by decide) (fun c_15 => ?_) (fun c_15 => absurd c_15 (fun h9 => by rw [h9] at hv; exact absurd hv (by decide)))
    refine z_iconst (v := 0) dX5_mark_27 (by decide) ?_
    exact z_zret dX5_mark_28 rfl (by first | rfl | decide | exact zb_nar _) (Nat.le_of_ble_eq_true rfl) (Nat.le_of_ble_eq_true rfl) (by rw [show s_mark I mk m bk = ((zs I 99 0 0), false) from (by unfold s_mark; rw [hv]; rfl)]; exact ⟨rfl, rfl⟩)
set_option maxHeartbeats 4000000 in
theorem t_quiet {g : zG} {L : Nat → Nat} {I : Nat → Nat → Int32} {J : Nat → Nat → Int64} {Gb : Nat → Nat → Int32} {X : zX} (hL : tok g L) {nh nd : Nat} {own : Nat → Nat} (hV : s_ok (I 10) nh nd own) : zN g m_X5_quiet ({ frames := 1, cells := 0, slots := 0, locals := 20 } : Room) [.ref (L 99)] (tX g L I J Gb X) (fun rv X' => rv = some (.int (s_arg (fun _ => true) (s_quietP (I 24)) nd)) ∧ X' = (tX g L (zs I 99 0 0) J Gb X)) := by
  refine zN.of (by decide +kernel) (Nat.le_of_ble_eq_true rfl) rfl ?_
  refine z_lv (lv' := [(0, .ref (L 99))]) [0] rfl ?_
  have hV9 := hV
  obtain ⟨h0, hnh, h1, hnd, hown⟩ := hV9
  refine z_aload_n 0 dX5_quiet_0 rfl ?_
  refine z_iconst (v := 0) dX5_quiet_1 (by decide) ?_
  refine tz_put (I' := (zs I 99 0 0)) 0 hL (by decide) q1593 rfl dX5_quiet_2 ?_
  refine z_iconst (v := zm1) dX5_quiet_5 (by decide) ?_
  refine z_istore_n (lv' := [(1, .int zm1), (0, .ref (L 99))]) dX5_quiet_6 rfl (by decide) rfl ?_
  refine z_iconst (v := 0) dX5_quiet_7 (by decide) ?_
  refine z_istore_n (lv' := [(2, .int 0), (1, .int zm1), (0, .ref (L 99))]) dX5_quiet_8 rfl (by decide) rfl ?_
  have loop_5 : ∀ (q_2 i_1 : Nat), i_1 + q_2 = nd → 0 ≤ i_1 → zZ g m_X5_quiet (fun rv X' => rv = some (.int (s_arg (fun _ => true) (s_quietP (I 24)) nd)) ∧ X' = (tX g L (zs I 99 0 0) J Gb X), zno, ({ frames := 1, cells := 0, slots := 0, locals := 20 } : Room)) 0 0 (tX g L (zs I 99 0 0) J Gb X) 9 [(0, .ref (L 99)), (1, .int (s_arg (fun _ => true) (s_quietP (I 24)) i_1)), (2, .int (nI (i_1)))] [] := by
    intro q_2
    induction q_2 with
    | zero =>
      intro i_1 hb_4 lo_6  
      obtain rfl : nd = i_1 := by omega
      refine z_iload_n 2 dX5_quiet_9 rfl ?_
      refine z_aload_n 0 dX5_quiet_10 rfl ?_
      refine z_callV (As := []) (t_days (I := (zs I 99 0 0)) hL h1) q1573 q1575 qs53 q121 q1576 nm_X5_days (tX_obj hL) rfl rfl rfl (Nat.le_of_ble_eq_true rfl) ⟨Nat.le_of_ble_eq_true rfl, Nat.le_of_ble_eq_true rfl⟩ dX5_quiet_11 rfl rfl (Nat.le_of_ble_eq_true rfl) (Nat.le_of_ble_eq_true rfl) (fun v_7 X_8 hp_9 => ?_)
      obtain ⟨rfl, rfl⟩ := hp_9
      refine z_st (st' := [.int (nI (nd)), .int (nI (nd))]) rfl ?_
      refine z_icmp_geN (a := nd) (b := nd) 54 (by omega) (by omega) dX5_quiet_14 (by decide) (fun c_10 => ?_) (fun c_10 => absurd c_10 (by omega))
      refine z_iload_n 1 dX5_quiet_54 rfl ?_
      exact z_iret dX5_quiet_55 rfl (Nat.le_of_ble_eq_true rfl) (Nat.le_of_ble_eq_true rfl) ⟨congrArg some (congrArg Value.int (by first | rfl | (simp [hb_4, c_10]; done) | (skip; simp [hb_4, c_10]))), (by first | rfl | (simp [hb_4, c_10]; done) | (skip; simp [hb_4, c_10]))⟩
    | succ q_2 ih_3 =>
      intro i_1 hb_4 lo_6  
      refine z_iload_n 2 dX5_quiet_9 rfl ?_
      refine z_aload_n 0 dX5_quiet_10 rfl ?_
      refine z_callV (As := []) (t_days (I := (zs I 99 0 0)) hL h1) q1573 q1575 qs53 q121 q1576 nm_X5_days (tX_obj hL) rfl rfl rfl (Nat.le_of_ble_eq_true rfl) ⟨Nat.le_of_ble_eq_true rfl, Nat.le_of_ble_eq_true rfl⟩ dX5_quiet_11 rfl rfl (Nat.le_of_ble_eq_true rfl) (Nat.le_of_ble_eq_true rfl) (fun v_11 X_12 hp_13 => ?_)
      obtain ⟨rfl, rfl⟩ := hp_13
      refine z_st (st' := [.int (nI (nd)), .int (nI (i_1))]) rfl ?_
      refine z_icmp_geN (a := i_1) (b := nd) 54 (by omega) (by omega) dX5_quiet_14 (by decide) (fun c_14 => absurd c_14 (by omega)) (fun c_14 => ?_)
      refine z_iload_n 1 dX5_quiet_17 rfl ?_
      refine z_if_lt 42 dX5_quiet_18 (by decide) (fun c_15 => ?_) (fun c_15 => ?_)
      · -- s_arg (fun _ => true) (s_quietP (I 24)) i_1 < 0
        have c_15' := Int32.not_le.mpr c_15
        refine z_iload_n 2 dX5_quiet_42 rfl ?_
        refine z_goto 47 dX5_quiet_43 (by decide) ?_
        refine z_istore_n (lv' := [(1, .int (nI (i_1))), (0, .ref (L 99)), (2, .int (nI (i_1)))]) dX5_quiet_47 rfl (by decide) rfl ?_
        refine z_iinc (v := nI (i_1 + 1)) (lv' := [(2, .int (nI (i_1 + 1))), (1, .int (nI (i_1))), (0, .ref (L 99))]) 2 dX5_quiet_48 rfl (nI_1 _) (by decide) rfl ?_
        refine z_goto 9 dX5_quiet_51 (by decide) ?_
        have f_16 : nI (i_1) = s_arg (fun _ => true) (s_quietP (I 24)) (i_1 + 1) := by rw [s_arg_1]; simp [s_quietP, c_14, c_15]
        refine z_lv (lv' := [(0, .ref (L 99)), (1, .int (s_arg (fun _ => true) (s_quietP (I 24)) (i_1 + 1))), (2, .int (nI (i_1 + 1)))]) [2, 1, 0] (by rw [← f_16]; rfl) ?_
        exact ih_3 (i_1 + 1) (by omega) (by omega)  
      · -- ¬ s_arg (fun _ => true) (s_quietP (I 24)) i_1 < 0
        have c_15' := Int32.not_lt.mp c_15
        obtain ⟨k_17, hk_17, ek_17⟩ := s_arg_k c_15
        refine z_lv (lv' := [(0, .ref (L 99)), (1, .int (nI (k_17))), (2, .int (nI (i_1)))]) [0, 1, 2] (by rw [ek_17]; rfl) ?_
        refine z_aload_n 0 dX5_quiet_21 rfl ?_
        refine tz_get (v := .ref (L 24)) 24 hL (by decide) q1617 rfl dX5_quiet_22 ?_
        refine z_bipush (v := 18) dX5_quiet_25 (by decide) ?_
        refine z_iload_n 2 dX5_quiet_27 rfl ?_
        refine z_iaddN (a := 18) (b := i_1) dX5_quiet_28 ?_
        refine z_eq (y := nI (i_1 + 18)) (congrArg nI (by omega)) ?_
        refine tz_iald (v := I 24 (i_1 + 18)) 24 (i_1 + 18) hL (by decide) rfl (by show i_1 + 18 < 1081; omega) rfl dX5_quiet_29 ?_
        refine z_aload_n 0 dX5_quiet_30 rfl ?_
        refine tz_get (v := .ref (L 24)) 24 hL (by decide) q1617 rfl dX5_quiet_31 ?_
        refine z_bipush (v := 18) dX5_quiet_34 (by decide) ?_
        refine z_iload_n 1 dX5_quiet_36 rfl ?_
        refine z_iaddN (a := 18) (b := k_17) dX5_quiet_37 ?_
        refine z_eq (y := nI (k_17 + 18)) (congrArg nI (by omega)) ?_
        refine tz_iald (v := I 24 (k_17 + 18)) 24 (k_17 + 18) hL (by decide) rfl (by show k_17 + 18 < 1081; omega) rfl dX5_quiet_38 ?_
        refine z_icmp_ge 46 dX5_quiet_39 (by decide) (fun c_18 => ?_) (fun c_18 => ?_)
        · -- I 24 (k_17 + 18) ≤ I 24 (i_1 + 18)
          have c_18' := Int32.not_lt.mpr c_18
          refine z_iload_n 1 dX5_quiet_46 rfl ?_
          refine z_istore_n (lv' := [(1, .int (nI (k_17))), (0, .ref (L 99)), (2, .int (nI (i_1)))]) dX5_quiet_47 rfl (by decide) rfl ?_
          refine z_iinc (v := nI (i_1 + 1)) (lv' := [(2, .int (nI (i_1 + 1))), (1, .int (nI (k_17))), (0, .ref (L 99))]) 2 dX5_quiet_48 rfl (nI_1 _) (by decide) rfl ?_
          refine z_goto 9 dX5_quiet_51 (by decide) ?_
          have f_19 : nI (k_17) = s_arg (fun _ => true) (s_quietP (I 24)) (i_1 + 1) := by rw [s_arg_1, ek_17, ncl (by omega)]; simp [s_quietP, nI_lt0 (show k_17 < 2 ^ 31 by omega), c_14, c_15, c_15', c_18, c_18']
          refine z_lv (lv' := [(0, .ref (L 99)), (1, .int (s_arg (fun _ => true) (s_quietP (I 24)) (i_1 + 1))), (2, .int (nI (i_1 + 1)))]) [2, 1, 0] (by rw [← f_19]; rfl) ?_
          exact ih_3 (i_1 + 1) (by omega) (by omega)  
        · -- ¬ I 24 (k_17 + 18) ≤ I 24 (i_1 + 18)
          have c_18' := Int32.not_le.mp c_18
          refine z_iload_n 2 dX5_quiet_42 rfl ?_
          refine z_goto 47 dX5_quiet_43 (by decide) ?_
          refine z_istore_n (lv' := [(1, .int (nI (i_1))), (0, .ref (L 99)), (2, .int (nI (i_1)))]) dX5_quiet_47 rfl (by decide) rfl ?_
          refine z_iinc (v := nI (i_1 + 1)) (lv' := [(2, .int (nI (i_1 + 1))), (1, .int (nI (i_1))), (0, .ref (L 99))]) 2 dX5_quiet_48 rfl (nI_1 _) (by decide) rfl ?_
          refine z_goto 9 dX5_quiet_51 (by decide) ?_
          have f_20 : nI (i_1) = s_arg (fun _ => true) (s_quietP (I 24)) (i_1 + 1) := by rw [s_arg_1, ek_17, ncl (by omega)]; simp [s_quietP, nI_lt0 (show k_17 < 2 ^ 31 by omega), c_14, c_15, c_15', c_18, c_18']
          refine z_lv (lv' := [(0, .ref (L 99)), (1, .int (s_arg (fun _ => true) (s_quietP (I 24)) (i_1 + 1))), (2, .int (nI (i_1 + 1)))]) [2, 1, 0] (by rw [← f_20]; rfl) ?_
          exact ih_3 (i_1 + 1) (by omega) (by omega)  
  have f_21 : zm1 = s_arg (fun _ => true) (s_quietP (I 24)) 0 := by rfl
  refine z_lv (lv' := [(0, .ref (L 99)), (1, .int (s_arg (fun _ => true) (s_quietP (I 24)) 0)), (2, .int 0)]) [2, 1, 0] (by rw [← f_21]; rfl) ?_
  exact loop_5 (nd - 0) 0 (by omega) (Nat.le_refl _)  
set_option maxHeartbeats 4000000 in
theorem t_eldest {g : zG} {L : Nat → Nat} {I : Nat → Nat → Int32} {J : Nat → Nat → Int64} {Gb : Nat → Nat → Int32} {X : zX} (hL : tok g L) {nh nd : Nat} {own : Nat → Nat} (hV : s_ok (I 10) nh nd own) (h : Int32) : zN g m_X5_eldest ({ frames := 2, cells := 0, slots := 0, locals := 41 } : Room) [.ref (L 99), .int h] (tX g L I J Gb X) (fun rv X' => rv = some (.int (if (decide (0 ≤ h) && decide (h < nI nh)) = true then s_arg (s_inP (I 24) h) (s_oldP (I 24)) nd else zm1)) ∧ X' = (tX g L (zs I 99 0 0) J Gb X)) := by
  refine zN.of (by decide +kernel) (Nat.le_of_ble_eq_true rfl) rfl ?_
  refine z_lv (lv' := [(0, .ref (L 99)), (1, .int h)]) [0, 1] rfl ?_
  have hV9 := hV
  obtain ⟨h0, hnh, h1, hnd, hown⟩ := hV9
  refine z_aload_n 0 dX5_eldest_0 rfl ?_
  refine z_iconst (v := 0) dX5_eldest_1 (by decide) ?_
  refine tz_put (I' := (zs I 99 0 0)) 0 hL (by decide) q1593 rfl dX5_eldest_2 ?_
  by_cases hv : (decide (0 ≤ h) && decide (h < nI nh)) = true
  · skip
    obtain ⟨hh, hhh, e_h⟩ := zday (by omega) hv
    subst e_h
    refine z_iconst (v := zm1) dX5_eldest_5 (by decide) ?_
    refine z_istore_n (lv' := [(2, .int zm1), (0, .ref (L 99)), (1, .int (nI (hh)))]) dX5_eldest_6 rfl (by decide) rfl ?_
    refine z_iconst (v := 0) dX5_eldest_7 (by decide) ?_
    refine z_istore_n (lv' := [(3, .int 0), (2, .int zm1), (0, .ref (L 99)), (1, .int (nI (hh)))]) dX5_eldest_8 rfl (by decide) rfl ?_
    have loop_5 : ∀ (q_2 i_1 : Nat), i_1 + q_2 = nd → 0 ≤ i_1 → zZ g m_X5_eldest (fun rv X' => rv = some (.int (if (decide (0 ≤ (nI (hh))) && decide ((nI (hh)) < nI nh)) = true then s_arg (s_inP (I 24) (nI (hh))) (s_oldP (I 24)) nd else zm1)) ∧ X' = (tX g L (zs I 99 0 0) J Gb X), zno, ({ frames := 2, cells := 0, slots := 0, locals := 41 } : Room)) 0 0 (tX g L (zs I 99 0 0) J Gb X) 9 [(0, .ref (L 99)), (1, .int (nI (hh))), (2, .int (s_arg (s_inP (I 24) (nI (hh))) (s_oldP (I 24)) i_1)), (3, .int (nI (i_1)))] [] := by
      intro q_2
      induction q_2 with
      | zero =>
        intro i_1 hb_4 lo_6  
        obtain rfl : nd = i_1 := by omega
        refine z_iload_n 3 dX5_eldest_9 rfl ?_
        refine z_aload_n 0 dX5_eldest_10 rfl ?_
        refine z_callV (As := []) (t_days (I := (zs I 99 0 0)) hL h1) q1573 q1575 qs53 q121 q1576 nm_X5_days (tX_obj hL) rfl rfl rfl (Nat.le_of_ble_eq_true rfl) ⟨Nat.le_of_ble_eq_true rfl, Nat.le_of_ble_eq_true rfl⟩ dX5_eldest_11 rfl rfl (Nat.le_of_ble_eq_true rfl) (Nat.le_of_ble_eq_true rfl) (fun v_7 X_8 hp_9 => ?_)
        obtain ⟨rfl, rfl⟩ := hp_9
        refine z_st (st' := [.int (nI (nd)), .int (nI (nd))]) rfl ?_
        refine z_icmp_geN (a := nd) (b := nd) 75 (by omega) (by omega) dX5_eldest_14 (by decide) (fun c_10 => ?_) (fun c_10 => absurd c_10 (by omega))
        refine z_iload_n 2 dX5_eldest_75 rfl ?_
        exact z_iret dX5_eldest_76 rfl (Nat.le_of_ble_eq_true rfl) (Nat.le_of_ble_eq_true rfl) ⟨congrArg some (congrArg Value.int (by rw [hv]; rfl)), rfl⟩
      | succ q_2 ih_3 =>
        intro i_1 hb_4 lo_6  
        refine z_iload_n 3 dX5_eldest_9 rfl ?_
        refine z_aload_n 0 dX5_eldest_10 rfl ?_
        refine z_callV (As := []) (t_days (I := (zs I 99 0 0)) hL h1) q1573 q1575 qs53 q121 q1576 nm_X5_days (tX_obj hL) rfl rfl rfl (Nat.le_of_ble_eq_true rfl) ⟨Nat.le_of_ble_eq_true rfl, Nat.le_of_ble_eq_true rfl⟩ dX5_eldest_11 rfl rfl (Nat.le_of_ble_eq_true rfl) (Nat.le_of_ble_eq_true rfl) (fun v_11 X_12 hp_13 => ?_)
        obtain ⟨rfl, rfl⟩ := hp_13
        refine z_st (st' := [.int (nI (nd)), .int (nI (i_1))]) rfl ?_
        refine z_icmp_geN (a := i_1) (b := nd) 75 (by omega) (by omega) dX5_eldest_14 (by decide) (fun c_14 => absurd c_14 (by omega)) (fun c_14 => ?_)
        refine z_aload_n 0 dX5_eldest_17 rfl ?_
        refine z_iload_n 1 dX5_eldest_18 rfl ?_
        refine z_callV (As := [.int (nI (hh))]) (t_isHouse (I := (zs I 99 0 0)) hL h0 (nI (hh))) q1826 q1828 qs84 q121 q1829 nm_X5_isHouse (tX_obj hL) rfl rfl rfl (Nat.le_of_ble_eq_true rfl) ⟨Nat.le_of_ble_eq_true rfl, Nat.le_of_ble_eq_true rfl⟩ dX5_eldest_19 rfl rfl (Nat.le_of_ble_eq_true rfl) (Nat.le_of_ble_eq_true rfl) (fun v_15 X_16 hp_17 => ?_)
        obtain ⟨rfl, rfl⟩ := hp_17
        refine z_st (st' := [.int (zb (decide (0 ≤ nI (hh)) && decide (nI (hh) < nI nh)))]) rfl ?_
        refine z_eq (y := 1) (zb_t (zday_t (by omega) (by omega))) ?_
        refine z_if_eq 75 dX5_eldest_22 (by decide) (fun h_ => absurd h_ (by decide)) (fun h_ => ?_)
        refine z_aload_n 0 dX5_eldest_25 rfl ?_
        refine tz_get (v := .ref (L 24)) 24 hL (by decide) q1617 rfl dX5_eldest_26 ?_
        refine z_bipush (v := 6) dX5_eldest_29 (by decide) ?_
        refine z_iload_n 3 dX5_eldest_31 rfl ?_
        refine z_iaddN (a := 6) (b := i_1) dX5_eldest_32 ?_
        refine z_eq (y := nI (i_1 + 6)) (congrArg nI (by omega)) ?_
        refine tz_iald (v := I 24 (i_1 + 6)) 24 (i_1 + 6) hL (by decide) rfl (by show i_1 + 6 < 1081; omega) rfl dX5_eldest_33 ?_
        refine z_iload_n 1 dX5_eldest_34 rfl ?_
        refine z_icmp_ne 67 dX5_eldest_35 (by decide) (fun c_18 => ?_) (fun c_18 => ?_)
        · -- ¬ I 24 (i_1 + 6) = nI (hh)
          refine z_iload_n 2 dX5_eldest_67 rfl ?_
          refine z_istore_n (lv' := [(2, .int (s_arg (s_inP (I 24) (nI (hh))) (s_oldP (I 24)) i_1)), (0, .ref (L 99)), (1, .int (nI (hh))), (3, .int (nI (i_1)))]) dX5_eldest_68 rfl (by decide) rfl ?_
          refine z_iinc (v := nI (i_1 + 1)) (lv' := [(3, .int (nI (i_1 + 1))), (2, .int (s_arg (s_inP (I 24) (nI (hh))) (s_oldP (I 24)) i_1)), (0, .ref (L 99)), (1, .int (nI (hh)))]) 3 dX5_eldest_69 rfl (nI_1 _) (by decide) rfl ?_
          refine z_goto 9 dX5_eldest_72 (by decide) ?_
          have f_19 : s_arg (s_inP (I 24) (nI (hh))) (s_oldP (I 24)) i_1 = s_arg (s_inP (I 24) (nI (hh))) (s_oldP (I 24)) (i_1 + 1) := by rw [s_arg_1]; simp [s_oldP, s_inP, c_14, c_18]
          refine z_lv (lv' := [(0, .ref (L 99)), (1, .int (nI (hh))), (2, .int (s_arg (s_inP (I 24) (nI (hh))) (s_oldP (I 24)) (i_1 + 1))), (3, .int (nI (i_1 + 1)))]) [2, 3, 1, 0] (by rw [← f_19]; rfl) ?_
          exact ih_3 (i_1 + 1) (by omega) (by omega)  
        · -- I 24 (i_1 + 6) = nI (hh)
          refine z_iload_n 2 dX5_eldest_38 rfl ?_
          refine z_if_lt 63 dX5_eldest_39 (by decide) (fun c_20 => ?_) (fun c_20 => ?_)
          · -- s_arg (s_inP (I 24) (nI (hh))) (s_oldP (I 24)) i_1 < 0
            have c_20' := Int32.not_le.mpr c_20
            refine z_iload_n 3 dX5_eldest_63 rfl ?_
            refine z_goto 68 dX5_eldest_64 (by decide) ?_
            refine z_istore_n (lv' := [(2, .int (nI (i_1))), (0, .ref (L 99)), (1, .int (nI (hh))), (3, .int (nI (i_1)))]) dX5_eldest_68 rfl (by decide) rfl ?_
            refine z_iinc (v := nI (i_1 + 1)) (lv' := [(3, .int (nI (i_1 + 1))), (2, .int (nI (i_1))), (0, .ref (L 99)), (1, .int (nI (hh)))]) 3 dX5_eldest_69 rfl (nI_1 _) (by decide) rfl ?_
            refine z_goto 9 dX5_eldest_72 (by decide) ?_
            have f_21 : nI (i_1) = s_arg (s_inP (I 24) (nI (hh))) (s_oldP (I 24)) (i_1 + 1) := by rw [s_arg_1]; simp [s_oldP, s_inP, c_14, c_18, c_20]
            refine z_lv (lv' := [(0, .ref (L 99)), (1, .int (nI (hh))), (2, .int (s_arg (s_inP (I 24) (nI (hh))) (s_oldP (I 24)) (i_1 + 1))), (3, .int (nI (i_1 + 1)))]) [2, 3, 1, 0] (by rw [← f_21]; rfl) ?_
            exact ih_3 (i_1 + 1) (by omega) (by omega)  
          · -- ¬ s_arg (s_inP (I 24) (nI (hh))) (s_oldP (I 24)) i_1 < 0
            have c_20' := Int32.not_lt.mp c_20
            obtain ⟨k_22, hk_22, ek_22⟩ := s_arg_k c_20
            refine z_lv (lv' := [(0, .ref (L 99)), (1, .int (nI (hh))), (2, .int (nI (k_22))), (3, .int (nI (i_1)))]) [0, 1, 2, 3] (by rw [ek_22]; rfl) ?_
            refine z_aload_n 0 dX5_eldest_42 rfl ?_
            refine tz_get (v := .ref (L 24)) 24 hL (by decide) q1617 rfl dX5_eldest_43 ?_
            refine z_bipush (v := 12) dX5_eldest_46 (by decide) ?_
            refine z_iload_n 3 dX5_eldest_48 rfl ?_
            refine z_iaddN (a := 12) (b := i_1) dX5_eldest_49 ?_
            refine z_eq (y := nI (i_1 + 12)) (congrArg nI (by omega)) ?_
            refine tz_iald (v := I 24 (i_1 + 12)) 24 (i_1 + 12) hL (by decide) rfl (by show i_1 + 12 < 1081; omega) rfl dX5_eldest_50 ?_
            refine z_aload_n 0 dX5_eldest_51 rfl ?_
            refine tz_get (v := .ref (L 24)) 24 hL (by decide) q1617 rfl dX5_eldest_52 ?_
            refine z_bipush (v := 12) dX5_eldest_55 (by decide) ?_
            refine z_iload_n 2 dX5_eldest_57 rfl ?_
            refine z_iaddN (a := 12) (b := k_22) dX5_eldest_58 ?_
            refine z_eq (y := nI (k_22 + 12)) (congrArg nI (by omega)) ?_
            refine tz_iald (v := I 24 (k_22 + 12)) 24 (k_22 + 12) hL (by decide) rfl (by show k_22 + 12 < 1081; omega) rfl dX5_eldest_59 ?_
            refine z_icmp_le 67 dX5_eldest_60 (by decide) (fun c_23 => ?_) (fun c_23 => ?_)
            · -- I 24 (i_1 + 12) ≤ I 24 (k_22 + 12)
              have c_23' := Int32.not_lt.mpr c_23
              refine z_iload_n 2 dX5_eldest_67 rfl ?_
              refine z_istore_n (lv' := [(2, .int (nI (k_22))), (0, .ref (L 99)), (1, .int (nI (hh))), (3, .int (nI (i_1)))]) dX5_eldest_68 rfl (by decide) rfl ?_
              refine z_iinc (v := nI (i_1 + 1)) (lv' := [(3, .int (nI (i_1 + 1))), (2, .int (nI (k_22))), (0, .ref (L 99)), (1, .int (nI (hh)))]) 3 dX5_eldest_69 rfl (nI_1 _) (by decide) rfl ?_
              refine z_goto 9 dX5_eldest_72 (by decide) ?_
              have f_24 : nI (k_22) = s_arg (s_inP (I 24) (nI (hh))) (s_oldP (I 24)) (i_1 + 1) := by rw [s_arg_1, ek_22, ncl (by omega)]; simp [s_oldP, s_inP, nI_lt0 (show k_22 < 2 ^ 31 by omega), c_14, c_18, c_20, c_20', c_23, c_23']
              refine z_lv (lv' := [(0, .ref (L 99)), (1, .int (nI (hh))), (2, .int (s_arg (s_inP (I 24) (nI (hh))) (s_oldP (I 24)) (i_1 + 1))), (3, .int (nI (i_1 + 1)))]) [2, 3, 1, 0] (by rw [← f_24]; rfl) ?_
              exact ih_3 (i_1 + 1) (by omega) (by omega)  
            · -- ¬ I 24 (i_1 + 12) ≤ I 24 (k_22 + 12)
              have c_23' := Int32.not_le.mp c_23
              refine z_iload_n 3 dX5_eldest_63 rfl ?_
              refine z_goto 68 dX5_eldest_64 (by decide) ?_
              refine z_istore_n (lv' := [(2, .int (nI (i_1))), (0, .ref (L 99)), (1, .int (nI (hh))), (3, .int (nI (i_1)))]) dX5_eldest_68 rfl (by decide) rfl ?_
              refine z_iinc (v := nI (i_1 + 1)) (lv' := [(3, .int (nI (i_1 + 1))), (2, .int (nI (i_1))), (0, .ref (L 99)), (1, .int (nI (hh)))]) 3 dX5_eldest_69 rfl (nI_1 _) (by decide) rfl ?_
              refine z_goto 9 dX5_eldest_72 (by decide) ?_
              have f_25 : nI (i_1) = s_arg (s_inP (I 24) (nI (hh))) (s_oldP (I 24)) (i_1 + 1) := by rw [s_arg_1, ek_22, ncl (by omega)]; simp [s_oldP, s_inP, nI_lt0 (show k_22 < 2 ^ 31 by omega), c_14, c_18, c_20, c_20', c_23, c_23']
              refine z_lv (lv' := [(0, .ref (L 99)), (1, .int (nI (hh))), (2, .int (s_arg (s_inP (I 24) (nI (hh))) (s_oldP (I 24)) (i_1 + 1))), (3, .int (nI (i_1 + 1)))]) [2, 3, 1, 0] (by rw [← f_25]; rfl) ?_
              exact ih_3 (i_1 + 1) (by omega) (by omega)  
    have f_26 : zm1 = s_arg (s_inP (I 24) (nI (hh))) (s_oldP (I 24)) 0 := by rfl
    refine z_lv (lv' := [(0, .ref (L 99)), (1, .int (nI (hh))), (2, .int (s_arg (s_inP (I 24) (nI (hh))) (s_oldP (I 24)) 0)), (3, .int 0)]) [2, 3, 1, 0] (by rw [← f_26]; rfl) ?_
    exact loop_5 (nd - 0) 0 (by omega) (Nat.le_refl _)  
  · have hv := zb_not hv
    refine z_iconst (v := zm1) dX5_eldest_5 (by decide) ?_
    refine z_istore_n (lv' := [(2, .int zm1), (0, .ref (L 99)), (1, .int h)]) dX5_eldest_6 rfl (by decide) rfl ?_
    refine z_iconst (v := 0) dX5_eldest_7 (by decide) ?_
    refine z_istore_n (lv' := [(3, .int 0), (2, .int zm1), (0, .ref (L 99)), (1, .int h)]) dX5_eldest_8 rfl (by decide) rfl ?_
    refine z_iload_n 0 dX5_eldest_9 rfl ?_
    refine z_aload_n 2 dX5_eldest_10 rfl ?_
    refine z_callV (As := []) (t_days (I := (zs I 99 0 0)) hL h1) q1573 q1575 qs53 q121 q1576 nm_X5_days (tX_obj hL) rfl rfl rfl (Nat.le_of_ble_eq_true rfl) ⟨Nat.le_of_ble_eq_true rfl, Nat.le_of_ble_eq_true rfl⟩ dX5_eldest_11 rfl rfl (Nat.le_of_ble_eq_true rfl) (Nat.le_of_ble_eq_true rfl) (fun v_27 X_28 hp_29 => ?_)
    obtain ⟨rfl, rfl⟩ := hp_29
    refine z_st (st' := [.int (nI (nd)), .int 0]) rfl ?_
    refine z_icmp_geN (a := 0) (b := nd) 75 (by omega) (by omega) dX5_eldest_14 (by decide) (fun c_30 => ?_) (fun c_30 => ?_)
    · -- nd ≤ 0
      refine z_iload_n 1 dX5_eldest_75 rfl ?_
      exact z_iret dX5_eldest_76 rfl (Nat.le_of_ble_eq_true rfl) (Nat.le_of_ble_eq_true rfl) ⟨congrArg some (congrArg Value.int (by rw [hv]; rfl)), rfl⟩
    · -- 0 < nd
      refine z_aload_n 2 dX5_eldest_17 rfl ?_
      refine z_iload_n 3 dX5_eldest_18 rfl ?_
      refine z_callV (As := [.int h]) (t_isHouse (I := (zs I 99 0 0)) hL h0 h) q1826 q1828 qs84 q121 q1829 nm_X5_isHouse (tX_obj hL) rfl rfl rfl (Nat.le_of_ble_eq_true rfl) ⟨Nat.le_of_ble_eq_true rfl, Nat.le_of_ble_eq_true rfl⟩ dX5_eldest_19 rfl rfl (Nat.le_of_ble_eq_true rfl) (Nat.le_of_ble_eq_true rfl) (fun v_31 X_32 hp_33 => ?_)
      obtain ⟨rfl, rfl⟩ := hp_33
      refine z_st (st' := [.int (zb (decide (0 ≤ h) && decide (h < nI nh)))]) rfl ?_
      refine z_if_eqb 75 dX5_eldest_22 (by decide) (fun c_34 => ?_) (fun c_34 => absurd c_34 (fun h9 => by rw [h9] at hv; exact absurd hv (by decide)))
      refine z_iload_n 1 dX5_eldest_75 rfl ?_
      exact z_iret dX5_eldest_76 rfl (Nat.le_of_ble_eq_true rfl) (Nat.le_of_ble_eq_true rfl) ⟨congrArg some (congrArg Value.int (by rw [hv]; rfl)), rfl⟩
set_option maxHeartbeats 4000000 in
theorem t_peace {g : zG} {L : Nat → Nat} {I : Nat → Nat → Int32} {J : Nat → Nat → Int64} {Gb : Nat → Nat → Int32} {X : zX} (hL : tok g L) {nh nd : Nat} {own : Nat → Nat} (hV : s_ok (I 10) nh nd own) : zN g m_X5_peace ({ frames := 2, cells := 0, slots := 0, locals := 44 } : Room) [.ref (L 99)] (tX g L I J Gb X) (fun rv X' => rv = some (.int (s_pairs (I 24) nd nh)) ∧ X' = (tX g L (zs I 99 0 0) J Gb X)) := by
  refine zN.of (by decide +kernel) (Nat.le_of_ble_eq_true rfl) rfl ?_
  refine z_lv (lv' := [(0, .ref (L 99))]) [0] rfl ?_
  have hV9 := hV
  obtain ⟨h0, hnh, h1, hnd, hown⟩ := hV9
  refine z_aload_n 0 dX5_peace_0 rfl ?_
  refine z_iconst (v := 0) dX5_peace_1 (by decide) ?_
  refine tz_put (I' := (zs I 99 0 0)) 0 hL (by decide) q1593 rfl dX5_peace_2 ?_
  refine z_iconst (v := 0) dX5_peace_5 (by decide) ?_
  refine z_istore_n (lv' := [(1, .int 0), (0, .ref (L 99))]) dX5_peace_6 rfl (by decide) rfl ?_
  refine z_iconst (v := 0) dX5_peace_7 (by decide) ?_
  refine z_istore_n (lv' := [(2, .int 0), (1, .int 0), (0, .ref (L 99))]) dX5_peace_8 rfl (by decide) rfl ?_
  have loop_5 : ∀ (q_2 i_1 : Nat), i_1 + q_2 = nh → 0 ≤ i_1 → zZ g m_X5_peace (fun rv X' => rv = some (.int (s_pairs (I 24) nd nh)) ∧ X' = (tX g L (zs I 99 0 0) J Gb X), zno, ({ frames := 2, cells := 0, slots := 0, locals := 44 } : Room)) 0 0 (tX g L (zs I 99 0 0) J Gb X) 9 [(0, .ref (L 99)), (1, .int (s_pairs (I 24) nd i_1)), (2, .int (nI (i_1)))] [] := by
    intro q_2
    induction q_2 with
    | zero =>
      intro i_1 hb_4 lo_6  
      obtain rfl : nh = i_1 := by omega
      refine z_iload_n 2 dX5_peace_9 rfl ?_
      refine z_aload_n 0 dX5_peace_10 rfl ?_
      refine z_callV (As := []) (t_houses (I := (zs I 99 0 0)) hL h0) q1585 q1587 qs56 q121 q1588 nm_X5_houses (tX_obj hL) rfl rfl rfl (Nat.le_of_ble_eq_true rfl) ⟨Nat.le_of_ble_eq_true rfl, Nat.le_of_ble_eq_true rfl⟩ dX5_peace_11 rfl rfl (Nat.le_of_ble_eq_true rfl) (Nat.le_of_ble_eq_true rfl) (fun v_7 X_8 hp_9 => ?_)
      obtain ⟨rfl, rfl⟩ := hp_9
      refine z_st (st' := [.int (nI (nh)), .int (nI (nh))]) rfl ?_
      refine z_icmp_geN (a := nh) (b := nh) 43 (by omega) (by omega) dX5_peace_14 (by decide) (fun c_10 => ?_) (fun c_10 => absurd c_10 (by omega))
      refine z_iload_n 1 dX5_peace_43 rfl ?_
      exact z_iret dX5_peace_44 rfl (Nat.le_of_ble_eq_true rfl) (Nat.le_of_ble_eq_true rfl) ⟨congrArg some (congrArg Value.int (by first | rfl | (simp [s_pairs, hb_4, c_10]; done) | (skip; simp [s_pairs, hb_4, c_10]))), (by first | rfl | (simp [s_pairs, hb_4, c_10]; done) | (skip; simp [s_pairs, hb_4, c_10]))⟩
    | succ q_2 ih_3 =>
      intro i_1 hb_4 lo_6  
      refine z_iload_n 2 dX5_peace_9 rfl ?_
      refine z_aload_n 0 dX5_peace_10 rfl ?_
      refine z_callV (As := []) (t_houses (I := (zs I 99 0 0)) hL h0) q1585 q1587 qs56 q121 q1588 nm_X5_houses (tX_obj hL) rfl rfl rfl (Nat.le_of_ble_eq_true rfl) ⟨Nat.le_of_ble_eq_true rfl, Nat.le_of_ble_eq_true rfl⟩ dX5_peace_11 rfl rfl (Nat.le_of_ble_eq_true rfl) (Nat.le_of_ble_eq_true rfl) (fun v_11 X_12 hp_13 => ?_)
      obtain ⟨rfl, rfl⟩ := hp_13
      refine z_st (st' := [.int (nI (nh)), .int (nI (i_1))]) rfl ?_
      refine z_icmp_geN (a := i_1) (b := nh) 43 (by omega) (by omega) dX5_peace_14 (by decide) (fun c_14 => absurd c_14 (by omega)) (fun c_14 => ?_)
      refine z_aload_n 0 dX5_peace_17 rfl ?_
      refine z_iconst (v := 0) dX5_peace_18 (by decide) ?_
      refine z_iload_n 2 dX5_peace_19 rfl ?_
      refine z_X (X' := (tX g L (tput (zs I 99 0 0) 0 (I 24)) J Gb X)) (congrArg (fun z => tX g L z J Gb X) (tput_self0 (I := (zs I 99 0 0))).symm) ?_
      refine z_callV (As := [.int 0, .int (nI (i_1))]) (t_inHouse (I := (zs I 99 0 0)) (σ := (I 24)) hL h1 hnd 0 (by omega) (nI (i_1))) q1838 q1840 qs87 q121 q1841 nm_X5_inHouse (tX_obj hL) rfl rfl rfl (Nat.le_of_ble_eq_true rfl) ⟨Nat.le_of_ble_eq_true rfl, Nat.le_of_ble_eq_true rfl⟩ dX5_peace_20 rfl rfl (Nat.le_of_ble_eq_true rfl) (Nat.le_of_ble_eq_true rfl) (fun v_15 X_16 hp_17 => ?_)
      obtain ⟨rfl, rfl⟩ := hp_17
      refine z_X (X' := (tX g L (zs I 99 0 0) J Gb X)) (congrArg (fun z => tX g L z J Gb X) (tput_self0 (I := (zs I 99 0 0)))) ?_
      refine z_st (st' := [.int (s_in (I 24) (nI (i_1)) nd)]) rfl ?_
      refine z_callS (As := [.int (s_in (I 24) (nI (i_1)) nd)]) (t_bits (s_in (I 24) (nI (i_1)) nd)) q1890 q1891 q121 q1892 nm_X5_bits rfl (Nat.le_of_ble_eq_true rfl) ⟨Nat.le_of_ble_eq_true rfl, Nat.le_of_ble_eq_true rfl⟩ dX5_peace_23 rfl rfl (Nat.le_of_ble_eq_true rfl) (Nat.le_of_ble_eq_true rfl) (fun v_18 X_19 hp_20 => ?_)
      obtain ⟨rfl, rfl⟩ := hp_20
      refine z_st (st' := [.int (s_bits (s_in (I 24) (nI (i_1)) nd) 30)]) rfl ?_
      refine z_istore_n (lv' := [(3, .int (s_bits (s_in (I 24) (nI (i_1)) nd) 30)), (0, .ref (L 99)), (1, .int (s_pairs (I 24) nd i_1)), (2, .int (nI (i_1)))]) dX5_peace_26 rfl (by decide) rfl ?_
      refine z_iload_n 2 dX5_peace_27 rfl ?_
      refine z_iload_n 0 dX5_peace_28 rfl ?_
      refine z_iload_n 0 dX5_peace_29 rfl ?_
      refine z_iconst (v := 1) dX5_peace_30 (by decide) ?_
      refine z_isub dX5_peace_31 ?_
      refine z_imul dX5_peace_32 ?_
      refine z_iconst (v := 2) dX5_peace_33 (by decide) ?_
      refine z_idiv dX5_peace_34 (by decide) ?_
      refine z_iadd dX5_peace_35 ?_
      obtain ⟨x_21, ex_21⟩ : ∃ y : Int32, ((s_pairs (I 24) nd i_1) + (((s_bits (s_in (I 24) (nI (i_1)) nd) 30) * ((s_bits (s_in (I 24) (nI (i_1)) nd) 30) - 1)) / 2)) = y := ⟨_, rfl⟩
      refine z_eq ex_21 ?_
      refine z_istore_n (lv' := [(1, .int x_21), (3, .int (s_bits (s_in (I 24) (nI (i_1)) nd) 30)), (0, .ref (L 99)), (2, .int (nI (i_1)))]) dX5_peace_36 rfl (by decide) rfl ?_
      refine z_iinc (v := nI (i_1 + 1)) (lv' := [(2, .int (nI (i_1 + 1))), (1, .int x_21), (3, .int (s_bits (s_in (I 24) (nI (i_1)) nd) 30)), (0, .ref (L 99))]) 3 dX5_peace_37 rfl (nI_1 _) (by decide) rfl ?_
      refine z_goto 9 dX5_peace_40 (by decide) ?_
      have f_22 : x_21 = s_pairs (I 24) nd (i_1 + 1) := by first | rfl | omega | (simp [s_pairs, hb_4, c_14]; done) | ((try subst ex_21); simp [s_pairs, hb_4, c_14])
      subst f_22
      refine z_lv (lv' := [(0, .ref (L 99)), (1, .int (s_pairs (I 24) nd (i_1 + 1))), (2, .int (nI (i_1 + 1)))]) [3, 1, 0] rfl ?_
      exact ih_3 (i_1 + 1) (by omega) (by omega)  
  have f_23 : 0 = s_pairs (I 24) nd 0 := by first | rfl | omega | (simp [s_pairs]; done) | (skip; simp [s_pairs])
  refine z_lv (lv' := [(0, .ref (L 99)), (1, .int (s_pairs (I 24) nd 0)), (2, .int 0)]) [2, 1, 0] (by rw [← f_23]; rfl) ?_
  exact loop_5 (nh - 0) 0 (by omega) (Nat.le_refl _)  
set_option maxHeartbeats 4000000 in
theorem t_loudest {g : zG} {L : Nat → Nat} {I : Nat → Nat → Int32} {J : Nat → Nat → Int64} {Gb : Nat → Nat → Int32} {X : zX} (hL : tok g L) {nh nd : Nat} {own : Nat → Nat} (hV : s_ok (I 10) nh nd own) : zN g m_X5_loudest ({ frames := 2, cells := 0, slots := 0, locals := 44 } : Room) [.ref (L 99)] (tX g L I J Gb X) (fun rv X' => rv = some (.int ((s_loud (fun h => s_talk (I 24) (nI h) nd) nh).1)) ∧ X' = (tX g L (zs I 99 0 0) J Gb X)) := by
  refine zN.of (by decide +kernel) (Nat.le_of_ble_eq_true rfl) rfl ?_
  refine z_lv (lv' := [(0, .ref (L 99))]) [0] rfl ?_
  have hV9 := hV
  obtain ⟨h0, hnh, h1, hnd, hown⟩ := hV9
  refine z_aload_n 0 dX5_loudest_0 rfl ?_
  refine z_iconst (v := 0) dX5_loudest_1 (by decide) ?_
  refine tz_put (I' := (zs I 99 0 0)) 0 hL (by decide) q1593 rfl dX5_loudest_2 ?_
  refine z_iconst (v := zm1) dX5_loudest_5 (by decide) ?_
  refine z_istore_n (lv' := [(1, .int zm1), (0, .ref (L 99))]) dX5_loudest_6 rfl (by decide) rfl ?_
  refine z_iconst (v := 0) dX5_loudest_7 (by decide) ?_
  refine z_istore_n (lv' := [(2, .int 0), (1, .int zm1), (0, .ref (L 99))]) dX5_loudest_8 rfl (by decide) rfl ?_
  refine z_iconst (v := 0) dX5_loudest_9 (by decide) ?_
  refine z_istore_n (lv' := [(3, .int 0), (2, .int 0), (1, .int zm1), (0, .ref (L 99))]) dX5_loudest_10 rfl (by decide) rfl ?_
  have loop_5 : ∀ (q_2 i_1 : Nat), i_1 + q_2 = nh → 0 ≤ i_1 → zZ g m_X5_loudest (fun rv X' => rv = some (.int ((s_loud (fun h => s_talk (I 24) (nI h) nd) nh).1)) ∧ X' = (tX g L (zs I 99 0 0) J Gb X), zno, ({ frames := 2, cells := 0, slots := 0, locals := 44 } : Room)) 0 0 (tX g L (zs I 99 0 0) J Gb X) 11 [(0, .ref (L 99)), (1, .int ((s_loud (fun h => s_talk (I 24) (nI h) nd) i_1).1)), (2, .int ((s_loud (fun h => s_talk (I 24) (nI h) nd) i_1).2)), (3, .int (nI (i_1)))] [] := by
    intro q_2
    induction q_2 with
    | zero =>
      intro i_1 hb_4 lo_6  
      obtain rfl : nh = i_1 := by omega
      refine z_iload_n 3 dX5_loudest_11 rfl ?_
      refine z_aload_n 0 dX5_loudest_12 rfl ?_
      refine z_callV (As := []) (t_houses (I := (zs I 99 0 0)) hL h0) q1585 q1587 qs56 q121 q1588 nm_X5_houses (tX_obj hL) rfl rfl rfl (Nat.le_of_ble_eq_true rfl) ⟨Nat.le_of_ble_eq_true rfl, Nat.le_of_ble_eq_true rfl⟩ dX5_loudest_13 rfl rfl (Nat.le_of_ble_eq_true rfl) (Nat.le_of_ble_eq_true rfl) (fun v_7 X_8 hp_9 => ?_)
      obtain ⟨rfl, rfl⟩ := hp_9
      refine z_st (st' := [.int (nI (nh)), .int (nI (nh))]) rfl ?_
      refine z_icmp_geN (a := nh) (b := nh) 62 (by omega) (by omega) dX5_loudest_16 (by decide) (fun c_10 => ?_) (fun c_10 => absurd c_10 (by omega))
      refine z_iload_n 1 dX5_loudest_62 rfl ?_
      exact z_iret dX5_loudest_63 rfl (Nat.le_of_ble_eq_true rfl) (Nat.le_of_ble_eq_true rfl) ⟨congrArg some (congrArg Value.int (by first | rfl | (simp [s_loud, hb_4, c_10]; done) | (skip; simp [s_loud, hb_4, c_10]))), (by first | rfl | (simp [s_loud, hb_4, c_10]; done) | (skip; simp [s_loud, hb_4, c_10]))⟩
    | succ q_2 ih_3 =>
      intro i_1 hb_4 lo_6  
      refine z_iload_n 3 dX5_loudest_11 rfl ?_
      refine z_aload_n 0 dX5_loudest_12 rfl ?_
      refine z_callV (As := []) (t_houses (I := (zs I 99 0 0)) hL h0) q1585 q1587 qs56 q121 q1588 nm_X5_houses (tX_obj hL) rfl rfl rfl (Nat.le_of_ble_eq_true rfl) ⟨Nat.le_of_ble_eq_true rfl, Nat.le_of_ble_eq_true rfl⟩ dX5_loudest_13 rfl rfl (Nat.le_of_ble_eq_true rfl) (Nat.le_of_ble_eq_true rfl) (fun v_11 X_12 hp_13 => ?_)
      obtain ⟨rfl, rfl⟩ := hp_13
      refine z_st (st' := [.int (nI (nh)), .int (nI (i_1))]) rfl ?_
      refine z_icmp_geN (a := i_1) (b := nh) 62 (by omega) (by omega) dX5_loudest_16 (by decide) (fun c_14 => absurd c_14 (by omega)) (fun c_14 => ?_)
      refine z_aload_n 0 dX5_loudest_19 rfl ?_
      refine z_iconst (v := 0) dX5_loudest_20 (by decide) ?_
      refine z_iload_n 3 dX5_loudest_21 rfl ?_
      refine z_X (X' := (tX g L (tput (zs I 99 0 0) 0 (I 24)) J Gb X)) (congrArg (fun z => tX g L z J Gb X) (tput_self0 (I := (zs I 99 0 0))).symm) ?_
      refine z_callV (As := [.int 0, .int (nI (i_1))]) (t_talkIn (I := (zs I 99 0 0)) (σ := (I 24)) hL h1 hnd 0 (by omega) (nI (i_1))) q1842 q1844 qs88 q121 q1845 nm_X5_talkIn (tX_obj hL) rfl rfl rfl (Nat.le_of_ble_eq_true rfl) ⟨Nat.le_of_ble_eq_true rfl, Nat.le_of_ble_eq_true rfl⟩ dX5_loudest_22 rfl rfl (Nat.le_of_ble_eq_true rfl) (Nat.le_of_ble_eq_true rfl) (fun v_15 X_16 hp_17 => ?_)
      obtain ⟨rfl, rfl⟩ := hp_17
      refine z_X (X' := (tX g L (zs I 99 0 0) J Gb X)) (congrArg (fun z => tX g L z J Gb X) (tput_self0 (I := (zs I 99 0 0)))) ?_
      refine z_st (st' := [.int (s_talk (I 24) (nI (i_1)) nd)]) rfl ?_
      refine z_iload_n 2 dX5_loudest_25 rfl ?_
      refine z_icmp_le 33 dX5_loudest_26 (by decide) (fun c_18 => ?_) (fun c_18 => ?_)
      · -- s_talk (I 24) (nI (i_1)) nd ≤ (s_loud (fun h => s_talk (I 24) (nI h) nd) i_1).2
        have c_18' := Int32.not_lt.mpr c_18
        refine z_iload_n 1 dX5_loudest_33 rfl ?_
        refine z_istore_n (lv' := [(1, .int ((s_loud (fun h => s_talk (I 24) (nI h) nd) i_1).1)), (0, .ref (L 99)), (2, .int ((s_loud (fun h => s_talk (I 24) (nI h) nd) i_1).2)), (3, .int (nI (i_1)))]) dX5_loudest_34 rfl (by decide) rfl ?_
        refine z_aload_n 1 dX5_loudest_35 rfl ?_
        refine z_iconst (v := 0) dX5_loudest_36 (by decide) ?_
        refine z_iload_n 3 dX5_loudest_37 rfl ?_
        refine z_X (X' := (tX g L (tput (zs I 99 0 0) 0 (I 24)) J Gb X)) (congrArg (fun z => tX g L z J Gb X) (tput_self0 (I := (zs I 99 0 0))).symm) ?_
        refine z_callV (As := [.int 0, .int (nI (i_1))]) (t_talkIn (I := (zs I 99 0 0)) (σ := (I 24)) hL h1 hnd 0 (by omega) (nI (i_1))) q1842 q1844 qs88 q121 q1845 nm_X5_talkIn (tX_obj hL) rfl rfl rfl (Nat.le_of_ble_eq_true rfl) ⟨Nat.le_of_ble_eq_true rfl, Nat.le_of_ble_eq_true rfl⟩ dX5_loudest_38 rfl rfl (Nat.le_of_ble_eq_true rfl) (Nat.le_of_ble_eq_true rfl) (fun v_19 X_20 hp_21 => ?_)
        obtain ⟨rfl, rfl⟩ := hp_21
        refine z_X (X' := (tX g L (zs I 99 0 0) J Gb X)) (congrArg (fun z => tX g L z J Gb X) (tput_self0 (I := (zs I 99 0 0)))) ?_
        refine z_st (st' := [.int (s_talk (I 24) (nI (i_1)) nd)]) rfl ?_
        refine z_iload_n 2 dX5_loudest_41 rfl ?_
        refine z_icmp_le 54 dX5_loudest_42 (by decide) (fun _ => ?_) (fun c_ => absurd c_18 c_)
        refine z_iload_n 2 dX5_loudest_54 rfl ?_
        refine z_istore_n (lv' := [(2, .int ((s_loud (fun h => s_talk (I 24) (nI h) nd) i_1).2)), (1, .int ((s_loud (fun h => s_talk (I 24) (nI h) nd) i_1).1)), (0, .ref (L 99)), (3, .int (nI (i_1)))]) dX5_loudest_55 rfl (by decide) rfl ?_
        refine z_iinc (v := nI (i_1 + 1)) (lv' := [(3, .int (nI (i_1 + 1))), (2, .int ((s_loud (fun h => s_talk (I 24) (nI h) nd) i_1).2)), (1, .int ((s_loud (fun h => s_talk (I 24) (nI h) nd) i_1).1)), (0, .ref (L 99))]) 3 dX5_loudest_56 rfl (nI_1 _) (by decide) rfl ?_
        refine z_goto 11 dX5_loudest_59 (by decide) ?_
        have f_22 : (s_loud (fun h => s_talk (I 24) (nI h) nd) i_1).1 = (s_loud (fun h => s_talk (I 24) (nI h) nd) (i_1 + 1)).1 := by first | rfl | omega | (simp [s_loud, hb_4, c_14, c_18, c_18']; done) | (skip; simp [s_loud, hb_4, c_14, c_18, c_18'])
        have f_23 : (s_loud (fun h => s_talk (I 24) (nI h) nd) i_1).2 = (s_loud (fun h => s_talk (I 24) (nI h) nd) (i_1 + 1)).2 := by first | rfl | omega | (simp [s_loud, hb_4, c_14, c_18, c_18']; done) | (skip; simp [s_loud, hb_4, c_14, c_18, c_18'])
        refine z_lv (lv' := [(0, .ref (L 99)), (1, .int ((s_loud (fun h => s_talk (I 24) (nI h) nd) (i_1 + 1)).1)), (2, .int ((s_loud (fun h => s_talk (I 24) (nI h) nd) (i_1 + 1)).2)), (3, .int (nI (i_1 + 1)))]) [3, 2, 1, 0] (by rw [← f_22, ← f_23]; rfl) ?_
        exact ih_3 (i_1 + 1) (by omega) (by omega)  
      · -- ¬ s_talk (I 24) (nI (i_1)) nd ≤ (s_loud (fun h => s_talk (I 24) (nI h) nd) i_1).2
        have c_18' := Int32.not_le.mp c_18
        refine z_iload_n 3 dX5_loudest_29 rfl ?_
        refine z_goto 34 dX5_loudest_30 (by decide) ?_
        refine z_istore_n (lv' := [(1, .int (nI (i_1))), (0, .ref (L 99)), (2, .int ((s_loud (fun h => s_talk (I 24) (nI h) nd) i_1).2)), (3, .int (nI (i_1)))]) dX5_loudest_34 rfl (by decide) rfl ?_
        refine z_aload_n 1 dX5_loudest_35 rfl ?_
        refine z_iconst (v := 0) dX5_loudest_36 (by decide) ?_
        refine z_iload_n 3 dX5_loudest_37 rfl ?_
        refine z_X (X' := (tX g L (tput (zs I 99 0 0) 0 (I 24)) J Gb X)) (congrArg (fun z => tX g L z J Gb X) (tput_self0 (I := (zs I 99 0 0))).symm) ?_
        refine z_callV (As := [.int 0, .int (nI (i_1))]) (t_talkIn (I := (zs I 99 0 0)) (σ := (I 24)) hL h1 hnd 0 (by omega) (nI (i_1))) q1842 q1844 qs88 q121 q1845 nm_X5_talkIn (tX_obj hL) rfl rfl rfl (Nat.le_of_ble_eq_true rfl) ⟨Nat.le_of_ble_eq_true rfl, Nat.le_of_ble_eq_true rfl⟩ dX5_loudest_38 rfl rfl (Nat.le_of_ble_eq_true rfl) (Nat.le_of_ble_eq_true rfl) (fun v_24 X_25 hp_26 => ?_)
        obtain ⟨rfl, rfl⟩ := hp_26
        refine z_X (X' := (tX g L (zs I 99 0 0) J Gb X)) (congrArg (fun z => tX g L z J Gb X) (tput_self0 (I := (zs I 99 0 0)))) ?_
        refine z_st (st' := [.int (s_talk (I 24) (nI (i_1)) nd)]) rfl ?_
        refine z_iload_n 2 dX5_loudest_41 rfl ?_
        refine z_icmp_le 54 dX5_loudest_42 (by decide) (fun c_ => absurd c_ c_18) (fun _ => ?_)
        refine z_aload_n 1 dX5_loudest_45 rfl ?_
        refine z_iconst (v := 0) dX5_loudest_46 (by decide) ?_
        refine z_iload_n 3 dX5_loudest_47 rfl ?_
        refine z_X (X' := (tX g L (tput (zs I 99 0 0) 0 (I 24)) J Gb X)) (congrArg (fun z => tX g L z J Gb X) (tput_self0 (I := (zs I 99 0 0))).symm) ?_
        refine z_callV (As := [.int 0, .int (nI (i_1))]) (t_talkIn (I := (zs I 99 0 0)) (σ := (I 24)) hL h1 hnd 0 (by omega) (nI (i_1))) q1842 q1844 qs88 q121 q1845 nm_X5_talkIn (tX_obj hL) rfl rfl rfl (Nat.le_of_ble_eq_true rfl) ⟨Nat.le_of_ble_eq_true rfl, Nat.le_of_ble_eq_true rfl⟩ dX5_loudest_48 rfl rfl (Nat.le_of_ble_eq_true rfl) (Nat.le_of_ble_eq_true rfl) (fun v_27 X_28 hp_29 => ?_)
        obtain ⟨rfl, rfl⟩ := hp_29
        refine z_X (X' := (tX g L (zs I 99 0 0) J Gb X)) (congrArg (fun z => tX g L z J Gb X) (tput_self0 (I := (zs I 99 0 0)))) ?_
        refine z_st (st' := [.int (s_talk (I 24) (nI (i_1)) nd)]) rfl ?_
        refine z_goto 55 dX5_loudest_51 (by decide) ?_
        refine z_istore_n (lv' := [(2, .int (s_talk (I 24) (nI (i_1)) nd)), (1, .int (nI (i_1))), (0, .ref (L 99)), (3, .int (nI (i_1)))]) dX5_loudest_55 rfl (by decide) rfl ?_
        refine z_iinc (v := nI (i_1 + 1)) (lv' := [(3, .int (nI (i_1 + 1))), (2, .int (s_talk (I 24) (nI (i_1)) nd)), (1, .int (nI (i_1))), (0, .ref (L 99))]) 3 dX5_loudest_56 rfl (nI_1 _) (by decide) rfl ?_
        refine z_goto 11 dX5_loudest_59 (by decide) ?_
        have f_30 : nI (i_1) = (s_loud (fun h => s_talk (I 24) (nI h) nd) (i_1 + 1)).1 := by first | rfl | omega | (simp [s_loud, hb_4, c_14, c_18, c_18']; done) | (skip; simp [s_loud, hb_4, c_14, c_18, c_18'])
        have f_31 : s_talk (I 24) (nI (i_1)) nd = (s_loud (fun h => s_talk (I 24) (nI h) nd) (i_1 + 1)).2 := by first | rfl | omega | (simp [s_loud, hb_4, c_14, c_18, c_18']; done) | (skip; simp [s_loud, hb_4, c_14, c_18, c_18'])
        refine z_lv (lv' := [(0, .ref (L 99)), (1, .int ((s_loud (fun h => s_talk (I 24) (nI h) nd) (i_1 + 1)).1)), (2, .int ((s_loud (fun h => s_talk (I 24) (nI h) nd) (i_1 + 1)).2)), (3, .int (nI (i_1 + 1)))]) [3, 2, 1, 0] (by rw [← f_30, ← f_31]; rfl) ?_
        exact ih_3 (i_1 + 1) (by omega) (by omega)  
  have f_32 : zm1 = (s_loud (fun h => s_talk (I 24) (nI h) nd) 0).1 := by first | rfl | omega | (simp [s_loud]; done) | (skip; simp [s_loud])
  have f_33 : 0 = (s_loud (fun h => s_talk (I 24) (nI h) nd) 0).2 := by first | rfl | omega | (simp [s_loud]; done) | (skip; simp [s_loud])
  refine z_lv (lv' := [(0, .ref (L 99)), (1, .int ((s_loud (fun h => s_talk (I 24) (nI h) nd) 0).1)), (2, .int ((s_loud (fun h => s_talk (I 24) (nI h) nd) 0).2)), (3, .int 0)]) [3, 2, 1, 0] (by rw [← f_32, ← f_33]; rfl) ?_
  exact loop_5 (nh - 0) 0 (by omega) (Nat.le_refl _)  
set_option maxHeartbeats 4000000 in
theorem t_through {g : zG} {L : Nat → Nat} {I : Nat → Nat → Int32} {J : Nat → Nat → Int64} {Gb : Nat → Nat → Int32} {X : zX} (hL : tok g L) {nh nd : Nat} {own : Nat → Nat} (hV : s_ok (I 10) nh nd own) (h o : Int32) : zN g m_X5_through ({ frames := 2, cells := 0, slots := 0, locals := 41 } : Room) [.ref (L 99), .int h, .int o] (tX g L I J Gb X) (fun rv X' => rv = some (.int (s_through (I 10) nh h o)) ∧ X' = (tX g L (zs I 99 0 0) J Gb X)) := by
  refine zN.of (by decide +kernel) (Nat.le_of_ble_eq_true rfl) rfl ?_
  refine z_lv (lv' := [(0, .ref (L 99)), (1, .int h), (2, .int o)]) [0, 1, 2] rfl ?_
  have hV9 := hV
  obtain ⟨h0, hnh, h1, hnd, hown⟩ := hV9
  refine z_aload_n 0 dX5_through_0 rfl ?_
  refine z_iconst (v := 0) dX5_through_1 (by decide) ?_
  refine tz_put (I' := (zs I 99 0 0)) 0 hL (by decide) q1593 rfl dX5_through_2 ?_
  by_cases hv : (decide (0 ≤ o) && decide (o < nI nh)) = true
  · skip
    obtain ⟨oo, hoo, e_o⟩ := zday (by omega) hv
    subst e_o
    refine z_aload_n 0 dX5_through_5 rfl ?_
    refine z_iload_n 1 dX5_through_6 rfl ?_
    refine z_callV (As := [.int h]) (t_isHouse (I := (zs I 99 0 0)) hL h0 h) q1826 q1828 qs84 q121 q1829 nm_X5_isHouse (tX_obj hL) rfl rfl rfl (Nat.le_of_ble_eq_true rfl) ⟨Nat.le_of_ble_eq_true rfl, Nat.le_of_ble_eq_true rfl⟩ dX5_through_7 rfl rfl (Nat.le_of_ble_eq_true rfl) (Nat.le_of_ble_eq_true rfl) (fun v_1 X_2 hp_3 => ?_)
    obtain ⟨rfl, rfl⟩ := hp_3
    refine z_st (st' := [.int (zb (decide (0 ≤ h) && decide (h < nI nh)))]) rfl ?_
    refine z_if_eqb 19 dX5_through_10 (by decide) (fun c_4 => ?_) (fun c_4 => ?_)
    · -- decide (0 ≤ h) && decide (h < nI nh) = false
      refine z_iconst (v := 0) dX5_through_19 (by decide) ?_
      refine z_istore_n (lv' := [(3, .int 0), (0, .ref (L 99)), (1, .int h), (2, .int (nI (oo)))]) dX5_through_20 rfl (by decide) rfl ?_
      refine z_iconst (v := 0) dX5_through_21 (by decide) ?_
      refine z_istore (lv' := [(4, .int 0), (3, .int 0), (0, .ref (L 99)), (1, .int h), (2, .int (nI (oo)))]) dX5_through_22 (by decide) rfl ?_
      have loop_9 : ∀ (q_6 i_5 : Nat), i_5 + q_6 = 4 → 0 ≤ i_5 → s_fst (fun n => s_isBit (s_thr (I 10) nh 0 n) oo) nI 4 0 = s_fst (fun n => s_isBit (s_thr (I 10) nh 0 n) oo) nI q_6 i_5 → zZ g m_X5_through (fun rv X' => rv = some (.int (s_through (I 10) nh h (nI (oo)))) ∧ X' = (tX g L (zs I 99 0 0) J Gb X), zno, ({ frames := 2, cells := 0, slots := 0, locals := 41 } : Room)) 0 0 (tX g L (zs I 99 0 0) J Gb X) 24 [(0, .ref (L 99)), (1, .int h), (2, .int (nI (oo))), (3, .int (s_thr (I 10) nh 0 i_5)), (4, .int (nI (i_5)))] [] := by
        intro q_6
        induction q_6 with
        | zero =>
          intro i_5 hb_8 lo_11  hi_10
          obtain rfl : 4 = i_5 := by omega
          refine z_iload 4 dX5_through_24 rfl ?_
          refine z_iconst (v := 4) dX5_through_26 (by decide) ?_
          refine z_icmp_geN (a := 4) (b := 4) 106 (by decide) (by decide) dX5_through_27 (by decide) (fun h_ => ?_) (fun h_ => absurd h_ (by decide))
          refine z_iconst (v := zm1) dX5_through_106 (by decide) ?_
          exact z_iret dX5_through_107 rfl (Nat.le_of_ble_eq_true rfl) (Nat.le_of_ble_eq_true rfl) ⟨congrArg some (congrArg Value.int (by unfold s_through; rw [hv, ncl (by omega), c_4]; exact hi_10.symm)), rfl⟩
        | succ q_6 ih_7 =>
          intro i_5 hb_8 lo_11  hi_10
          refine z_iload 4 dX5_through_24 rfl ?_
          refine z_iconst (v := 4) dX5_through_26 (by decide) ?_
          refine z_icmp_geN (a := i_5) (b := 4) 106 (by omega) (by omega) dX5_through_27 (by decide) (fun c_12 => absurd c_12 (by omega)) (fun c_12 => ?_)
          refine z_aload_n 0 dX5_through_30 rfl ?_
          refine z_iload_n 2 dX5_through_31 rfl ?_
          refine z_callV (As := [.int (nI (oo))]) (t_isHouse (I := (zs I 99 0 0)) hL h0 (nI (oo))) q1826 q1828 qs84 q121 q1829 nm_X5_isHouse (tX_obj hL) rfl rfl rfl (Nat.le_of_ble_eq_true rfl) ⟨Nat.le_of_ble_eq_true rfl, Nat.le_of_ble_eq_true rfl⟩ dX5_through_32 rfl rfl (Nat.le_of_ble_eq_true rfl) (Nat.le_of_ble_eq_true rfl) (fun v_13 X_14 hp_15 => ?_)
          obtain ⟨rfl, rfl⟩ := hp_15
          refine z_st (st' := [.int (zb (decide (0 ≤ nI (oo)) && decide (nI (oo) < nI nh)))]) rfl ?_
          refine z_eq (y := 1) (zb_t (zday_t (by omega) (by omega))) ?_
          refine z_if_eq 106 dX5_through_35 (by decide) (fun h_ => absurd h_ (by decide)) (fun h_ => ?_)
          refine z_iload_n 3 dX5_through_38 rfl ?_
          refine z_iload_n 2 dX5_through_39 rfl ?_
          refine z_ishr dX5_through_40 ?_
          refine z_iconst (v := 1) dX5_through_41 (by decide) ?_
          refine z_iand dX5_through_42 ?_
          refine z_iconst (v := 1) dX5_through_43 (by decide) ?_
          refine z_icmp_ne 50 dX5_through_44 (by decide) (fun c_16 => ?_) (fun c_16 => ?_)
          · -- ¬ (((s_thr (I 10) nh 0 i_5) >>> ((nI (oo)) &&& 31)) &&& 1) = 1
            refine z_iload_n 3 dX5_through_50 rfl ?_
            refine z_istore (lv' := [(5, .int (s_thr (I 10) nh 0 i_5)), (0, .ref (L 99)), (1, .int h), (2, .int (nI (oo))), (3, .int (s_thr (I 10) nh 0 i_5)), (4, .int (nI (i_5)))]) dX5_through_51 (by decide) rfl ?_
            refine z_iconst (v := 0) dX5_through_53 (by decide) ?_
            refine z_istore (lv' := [(6, .int 0), (5, .int (s_thr (I 10) nh 0 i_5)), (0, .ref (L 99)), (1, .int h), (2, .int (nI (oo))), (3, .int (s_thr (I 10) nh 0 i_5)), (4, .int (nI (i_5)))]) dX5_through_54 (by decide) rfl ?_
            have loop_21 : ∀ (q_18 i_17 : Nat), i_17 + q_18 = nh → 0 ≤ i_17 → zZ g m_X5_through (fun rv X' => rv = some (.int (s_through (I 10) nh h (nI (oo)))) ∧ X' = (tX g L (zs I 99 0 0) J Gb X), zno, ({ frames := 2, cells := 0, slots := 0, locals := 41 } : Room)) 0 0 (tX g L (zs I 99 0 0) J Gb X) 56 [(0, .ref (L 99)), (1, .int h), (2, .int (nI (oo))), (3, .int (s_thr (I 10) nh 0 i_5)), (4, .int (nI (i_5))), (5, .int (s_lent (I 10) (s_thr (I 10) nh 0 i_5) i_17)), (6, .int (nI (i_17)))] [] := by
              intro q_18
              induction q_18 with
              | zero =>
                intro i_17 hb_20 lo_22  
                obtain rfl : nh = i_17 := by omega
                refine z_iload 6 dX5_through_56 rfl ?_
                refine z_aload_n 0 dX5_through_58 rfl ?_
                refine z_callV (As := []) (t_houses (I := (zs I 99 0 0)) hL h0) q1585 q1587 qs56 q121 q1588 nm_X5_houses (tX_obj hL) rfl rfl rfl (Nat.le_of_ble_eq_true rfl) ⟨Nat.le_of_ble_eq_true rfl, Nat.le_of_ble_eq_true rfl⟩ dX5_through_59 rfl rfl (Nat.le_of_ble_eq_true rfl) (Nat.le_of_ble_eq_true rfl) (fun v_23 X_24 hp_25 => ?_)
                obtain ⟨rfl, rfl⟩ := hp_25
                refine z_st (st' := [.int (nI (nh)), .int (nI (nh))]) rfl ?_
                refine z_icmp_geN (a := nh) (b := nh) 97 (by omega) (by omega) dX5_through_62 (by decide) (fun c_26 => ?_) (fun c_26 => absurd c_26 (by omega))
                refine z_iload 5 dX5_through_97 rfl ?_
                refine z_istore_n (lv' := [(3, .int (s_lent (I 10) (s_thr (I 10) nh 0 i_5) nh)), (0, .ref (L 99)), (1, .int h), (2, .int (nI (oo))), (4, .int (nI (i_5))), (5, .int (s_lent (I 10) (s_thr (I 10) nh 0 i_5) nh)), (6, .int (nI (nh)))]) dX5_through_99 rfl (by decide) rfl ?_
                refine z_iinc (v := nI (i_5 + 1)) (lv' := [(4, .int (nI (i_5 + 1))), (3, .int (s_lent (I 10) (s_thr (I 10) nh 0 i_5) nh)), (0, .ref (L 99)), (1, .int h), (2, .int (nI (oo))), (5, .int (s_lent (I 10) (s_thr (I 10) nh 0 i_5) nh)), (6, .int (nI (nh)))]) 4 dX5_through_100 rfl (nI_1 _) (by decide) rfl ?_
                refine z_goto 24 dX5_through_103 (by decide) ?_
                have f_27 : s_lent (I 10) (s_thr (I 10) nh 0 i_5) nh = s_thr (I 10) nh 0 (i_5 + 1) := by rfl
                refine z_lv (lv' := [(0, .ref (L 99)), (1, .int h), (2, .int (nI (oo))), (3, .int (s_thr (I 10) nh 0 (i_5 + 1))), (4, .int (nI (i_5 + 1)))]) [2, 3, 4, 1, 0] (by rw [← f_27]; rfl) ?_
                exact ih_7 (i_5 + 1) (by omega) (by omega)  (hi_10.trans (s_fst_f (decide_eq_false c_16)))
              | succ q_18 ih_19 =>
                intro i_17 hb_20 lo_22  
                refine z_iload 6 dX5_through_56 rfl ?_
                refine z_aload_n 0 dX5_through_58 rfl ?_
                refine z_callV (As := []) (t_houses (I := (zs I 99 0 0)) hL h0) q1585 q1587 qs56 q121 q1588 nm_X5_houses (tX_obj hL) rfl rfl rfl (Nat.le_of_ble_eq_true rfl) ⟨Nat.le_of_ble_eq_true rfl, Nat.le_of_ble_eq_true rfl⟩ dX5_through_59 rfl rfl (Nat.le_of_ble_eq_true rfl) (Nat.le_of_ble_eq_true rfl) (fun v_28 X_29 hp_30 => ?_)
                obtain ⟨rfl, rfl⟩ := hp_30
                refine z_st (st' := [.int (nI (nh)), .int (nI (i_17))]) rfl ?_
                refine z_icmp_geN (a := i_17) (b := nh) 97 (by omega) (by omega) dX5_through_62 (by decide) (fun c_31 => absurd c_31 (by omega)) (fun c_31 => ?_)
                refine z_iload 5 dX5_through_65 rfl ?_
                refine z_iload_n 3 dX5_through_67 rfl ?_
                refine z_iload 6 dX5_through_68 rfl ?_
                refine z_ishr dX5_through_70 ?_
                refine z_iconst (v := 1) dX5_through_71 (by decide) ?_
                refine z_iand dX5_through_72 ?_
                refine z_iconst (v := 1) dX5_through_73 (by decide) ?_
                refine z_icmp_ne 87 dX5_through_74 (by decide) (fun c_32 => ?_) (fun c_32 => ?_)
                · -- ¬ (((s_thr (I 10) nh 0 i_5) >>> ((nI (i_17)) &&& 31)) &&& 1) = 1
                  refine z_iconst (v := 0) dX5_through_87 (by decide) ?_
                  refine z_ior dX5_through_88 ?_
                  obtain ⟨x_33, ex_33⟩ : ∃ y : Int32, ((s_lent (I 10) (s_thr (I 10) nh 0 i_5) i_17) ||| 0) = y := ⟨_, rfl⟩
                  refine z_eq ex_33 ?_
                  refine z_istore (lv' := [(5, .int x_33), (0, .ref (L 99)), (1, .int h), (2, .int (nI (oo))), (3, .int (s_thr (I 10) nh 0 i_5)), (4, .int (nI (i_5))), (6, .int (nI (i_17)))]) dX5_through_89 (by decide) rfl ?_
                  refine z_iinc (v := nI (i_17 + 1)) (lv' := [(6, .int (nI (i_17 + 1))), (5, .int x_33), (0, .ref (L 99)), (1, .int h), (2, .int (nI (oo))), (3, .int (s_thr (I 10) nh 0 i_5)), (4, .int (nI (i_5)))]) 6 dX5_through_91 rfl (nI_1 _) (by decide) rfl ?_
                  refine z_goto 56 dX5_through_94 (by decide) ?_
                  have f_34 : x_33 = s_lent (I 10) (s_thr (I 10) nh 0 i_5) (i_17 + 1) := by first | rfl | omega | (simp [s_lent, s_isBit, hv, c_4, hb_8, hi_10, c_12, c_16, hb_20, c_31, c_32]; done) | ((try subst ex_33); simp [s_lent, s_isBit, hv, c_4, hb_8, hi_10, c_12, c_16, hb_20, c_31, c_32])
                  subst f_34
                  refine z_lv (lv' := [(0, .ref (L 99)), (1, .int h), (2, .int (nI (oo))), (3, .int (s_thr (I 10) nh 0 i_5)), (4, .int (nI (i_5))), (5, .int (s_lent (I 10) (s_thr (I 10) nh 0 i_5) (i_17 + 1))), (6, .int (nI (i_17 + 1)))]) [2, 3, 4, 5, 6, 1, 0] rfl ?_
                  exact ih_19 (i_17 + 1) (by omega) (by omega)  
                · -- (((s_thr (I 10) nh 0 i_5) >>> ((nI (i_17)) &&& 31)) &&& 1) = 1
                  refine z_aload_n 0 dX5_through_77 rfl ?_
                  refine z_iload 6 dX5_through_78 rfl ?_
                  refine z_iconst (v := 1) dX5_through_80 (by decide) ?_
                  refine z_callV (As := [.int (nI (i_17)), .int 1]) (t_houseOf (I := (zs I 99 0 0)) hL i_17 1 (by omega)) q1589 q1591 qs57 q121 q1592 nm_X5_houseOf (tX_obj hL) rfl rfl rfl (Nat.le_of_ble_eq_true rfl) ⟨Nat.le_of_ble_eq_true rfl, Nat.le_of_ble_eq_true rfl⟩ dX5_through_81 rfl rfl (Nat.le_of_ble_eq_true rfl) (Nat.le_of_ble_eq_true rfl) (fun v_35 X_36 hp_37 => ?_)
                  obtain ⟨rfl, rfl⟩ := hp_37
                  refine z_st (st' := [.int (I 10 (2 * i_17 + 5)), .int (s_lent (I 10) (s_thr (I 10) nh 0 i_5) i_17)]) rfl ?_
                  refine z_goto 88 dX5_through_84 (by decide) ?_
                  refine z_ior dX5_through_88 ?_
                  obtain ⟨x_38, ex_38⟩ : ∃ y : Int32, ((s_lent (I 10) (s_thr (I 10) nh 0 i_5) i_17) ||| (I 10 (2 * i_17 + 5))) = y := ⟨_, rfl⟩
                  refine z_eq ex_38 ?_
                  refine z_istore (lv' := [(5, .int x_38), (0, .ref (L 99)), (1, .int h), (2, .int (nI (oo))), (3, .int (s_thr (I 10) nh 0 i_5)), (4, .int (nI (i_5))), (6, .int (nI (i_17)))]) dX5_through_89 (by decide) rfl ?_
                  refine z_iinc (v := nI (i_17 + 1)) (lv' := [(6, .int (nI (i_17 + 1))), (5, .int x_38), (0, .ref (L 99)), (1, .int h), (2, .int (nI (oo))), (3, .int (s_thr (I 10) nh 0 i_5)), (4, .int (nI (i_5)))]) 6 dX5_through_91 rfl (nI_1 _) (by decide) rfl ?_
                  refine z_goto 56 dX5_through_94 (by decide) ?_
                  have f_39 : x_38 = s_lent (I 10) (s_thr (I 10) nh 0 i_5) (i_17 + 1) := by first | rfl | omega | (simp [s_lent, s_isBit, hv, c_4, hb_8, hi_10, c_12, c_16, hb_20, c_31, c_32]; done) | ((try subst ex_38); simp [s_lent, s_isBit, hv, c_4, hb_8, hi_10, c_12, c_16, hb_20, c_31, c_32])
                  subst f_39
                  refine z_lv (lv' := [(0, .ref (L 99)), (1, .int h), (2, .int (nI (oo))), (3, .int (s_thr (I 10) nh 0 i_5)), (4, .int (nI (i_5))), (5, .int (s_lent (I 10) (s_thr (I 10) nh 0 i_5) (i_17 + 1))), (6, .int (nI (i_17 + 1)))]) [2, 3, 4, 5, 6, 1, 0] rfl ?_
                  exact ih_19 (i_17 + 1) (by omega) (by omega)  
            have f_40 : s_thr (I 10) nh 0 i_5 = s_lent (I 10) (s_thr (I 10) nh 0 i_5) 0 := by first | rfl | omega | (simp [s_lent, s_isBit, hv, c_4, hb_8, hi_10, c_12, c_16]; done) | (skip; simp [s_lent, s_isBit, hv, c_4, hb_8, hi_10, c_12, c_16])
            refine z_lv (lv' := [(0, .ref (L 99)), (1, .int h), (2, .int (nI (oo))), (3, .int (s_thr (I 10) nh 0 i_5)), (4, .int (nI (i_5))), (5, .int (s_lent (I 10) (s_thr (I 10) nh 0 i_5) 0)), (6, .int 0)]) [2, 3, 4, 5, 6, 1, 0] (by rw [← f_40]; rfl) ?_
            exact loop_21 (nh - 0) 0 (by omega) (Nat.le_refl _)  
          · -- (((s_thr (I 10) nh 0 i_5) >>> ((nI (oo)) &&& 31)) &&& 1) = 1
            refine z_iload 4 dX5_through_47 rfl ?_
            exact z_iret dX5_through_49 rfl (Nat.le_of_ble_eq_true rfl) (Nat.le_of_ble_eq_true rfl) ⟨congrArg some (congrArg Value.int (by unfold s_through; rw [hv, ncl (by omega), c_4]; exact (hi_10.trans (s_fst_t (decide_eq_true c_16))).symm)), rfl⟩
      have f_41 : 0 = s_thr (I 10) nh 0 0 := by rfl
      refine z_lv (lv' := [(0, .ref (L 99)), (1, .int h), (2, .int (nI (oo))), (3, .int (s_thr (I 10) nh 0 0)), (4, .int 0)]) [2, 3, 4, 1, 0] (by rw [← f_41]; rfl) ?_
      exact loop_9 (4 - 0) 0 (by omega) (Nat.le_refl _)  rfl
    · -- decide (0 ≤ h) && decide (h < nI nh) = true
      refine z_iconst (v := 1) dX5_through_13 (by decide) ?_
      refine z_iload_n 1 dX5_through_14 rfl ?_
      refine z_ishl dX5_through_15 ?_
      refine z_goto 20 dX5_through_16 (by decide) ?_
      obtain ⟨x_42, ex_42⟩ : ∃ y : Int32, (1 <<< (h &&& 31)) = y := ⟨_, rfl⟩
      refine z_eq ex_42 ?_
      refine z_istore_n (lv' := [(3, .int x_42), (0, .ref (L 99)), (1, .int h), (2, .int (nI (oo)))]) dX5_through_20 rfl (by decide) rfl ?_
      refine z_iconst (v := 0) dX5_through_21 (by decide) ?_
      refine z_istore (lv' := [(4, .int 0), (3, .int x_42), (0, .ref (L 99)), (1, .int h), (2, .int (nI (oo)))]) dX5_through_22 (by decide) rfl ?_
      have loop_47 : ∀ (q_44 i_43 : Nat), i_43 + q_44 = 4 → 0 ≤ i_43 → s_fst (fun n => s_isBit (s_thr (I 10) nh x_42 n) oo) nI 4 0 = s_fst (fun n => s_isBit (s_thr (I 10) nh x_42 n) oo) nI q_44 i_43 → zZ g m_X5_through (fun rv X' => rv = some (.int (s_through (I 10) nh h (nI (oo)))) ∧ X' = (tX g L (zs I 99 0 0) J Gb X), zno, ({ frames := 2, cells := 0, slots := 0, locals := 41 } : Room)) 0 0 (tX g L (zs I 99 0 0) J Gb X) 24 [(0, .ref (L 99)), (1, .int h), (2, .int (nI (oo))), (3, .int (s_thr (I 10) nh x_42 i_43)), (4, .int (nI (i_43)))] [] := by
        intro q_44
        induction q_44 with
        | zero =>
          intro i_43 hb_46 lo_49  hi_48
          obtain rfl : 4 = i_43 := by omega
          refine z_iload 4 dX5_through_24 rfl ?_
          refine z_iconst (v := 4) dX5_through_26 (by decide) ?_
          refine z_icmp_geN (a := 4) (b := 4) 106 (by decide) (by decide) dX5_through_27 (by decide) (fun h_ => ?_) (fun h_ => absurd h_ (by decide))
          refine z_iconst (v := zm1) dX5_through_106 (by decide) ?_
          exact z_iret dX5_through_107 rfl (Nat.le_of_ble_eq_true rfl) (Nat.le_of_ble_eq_true rfl) ⟨congrArg some (congrArg Value.int (by unfold s_through; rw [hv, ncl (by omega), c_4]; rw [show (if true = true then (1 : Int32) <<< (h &&& 31) else 0) = x_42 from ex_42]; exact hi_48.symm)), rfl⟩
        | succ q_44 ih_45 =>
          intro i_43 hb_46 lo_49  hi_48
          refine z_iload 4 dX5_through_24 rfl ?_
          refine z_iconst (v := 4) dX5_through_26 (by decide) ?_
          refine z_icmp_geN (a := i_43) (b := 4) 106 (by omega) (by omega) dX5_through_27 (by decide) (fun c_50 => absurd c_50 (by omega)) (fun c_50 => ?_)
          refine z_aload_n 0 dX5_through_30 rfl ?_
          refine z_iload_n 2 dX5_through_31 rfl ?_
          refine z_callV (As := [.int (nI (oo))]) (t_isHouse (I := (zs I 99 0 0)) hL h0 (nI (oo))) q1826 q1828 qs84 q121 q1829 nm_X5_isHouse (tX_obj hL) rfl rfl rfl (Nat.le_of_ble_eq_true rfl) ⟨Nat.le_of_ble_eq_true rfl, Nat.le_of_ble_eq_true rfl⟩ dX5_through_32 rfl rfl (Nat.le_of_ble_eq_true rfl) (Nat.le_of_ble_eq_true rfl) (fun v_51 X_52 hp_53 => ?_)
          obtain ⟨rfl, rfl⟩ := hp_53
          refine z_st (st' := [.int (zb (decide (0 ≤ nI (oo)) && decide (nI (oo) < nI nh)))]) rfl ?_
          refine z_eq (y := 1) (zb_t (zday_t (by omega) (by omega))) ?_
          refine z_if_eq 106 dX5_through_35 (by decide) (fun h_ => absurd h_ (by decide)) (fun h_ => ?_)
          refine z_iload_n 3 dX5_through_38 rfl ?_
          refine z_iload_n 2 dX5_through_39 rfl ?_
          refine z_ishr dX5_through_40 ?_
          refine z_iconst (v := 1) dX5_through_41 (by decide) ?_
          refine z_iand dX5_through_42 ?_
          refine z_iconst (v := 1) dX5_through_43 (by decide) ?_
          refine z_icmp_ne 50 dX5_through_44 (by decide) (fun c_54 => ?_) (fun c_54 => ?_)
          · -- ¬ (((s_thr (I 10) nh x_42 i_43) >>> ((nI (oo)) &&& 31)) &&& 1) = 1
            refine z_iload_n 3 dX5_through_50 rfl ?_
            refine z_istore (lv' := [(5, .int (s_thr (I 10) nh x_42 i_43)), (0, .ref (L 99)), (1, .int h), (2, .int (nI (oo))), (3, .int (s_thr (I 10) nh x_42 i_43)), (4, .int (nI (i_43)))]) dX5_through_51 (by decide) rfl ?_
            refine z_iconst (v := 0) dX5_through_53 (by decide) ?_
            refine z_istore (lv' := [(6, .int 0), (5, .int (s_thr (I 10) nh x_42 i_43)), (0, .ref (L 99)), (1, .int h), (2, .int (nI (oo))), (3, .int (s_thr (I 10) nh x_42 i_43)), (4, .int (nI (i_43)))]) dX5_through_54 (by decide) rfl ?_
            have loop_59 : ∀ (q_56 i_55 : Nat), i_55 + q_56 = nh → 0 ≤ i_55 → zZ g m_X5_through (fun rv X' => rv = some (.int (s_through (I 10) nh h (nI (oo)))) ∧ X' = (tX g L (zs I 99 0 0) J Gb X), zno, ({ frames := 2, cells := 0, slots := 0, locals := 41 } : Room)) 0 0 (tX g L (zs I 99 0 0) J Gb X) 56 [(0, .ref (L 99)), (1, .int h), (2, .int (nI (oo))), (3, .int (s_thr (I 10) nh x_42 i_43)), (4, .int (nI (i_43))), (5, .int (s_lent (I 10) (s_thr (I 10) nh x_42 i_43) i_55)), (6, .int (nI (i_55)))] [] := by
              intro q_56
              induction q_56 with
              | zero =>
                intro i_55 hb_58 lo_60  
                obtain rfl : nh = i_55 := by omega
                refine z_iload 6 dX5_through_56 rfl ?_
                refine z_aload_n 0 dX5_through_58 rfl ?_
                refine z_callV (As := []) (t_houses (I := (zs I 99 0 0)) hL h0) q1585 q1587 qs56 q121 q1588 nm_X5_houses (tX_obj hL) rfl rfl rfl (Nat.le_of_ble_eq_true rfl) ⟨Nat.le_of_ble_eq_true rfl, Nat.le_of_ble_eq_true rfl⟩ dX5_through_59 rfl rfl (Nat.le_of_ble_eq_true rfl) (Nat.le_of_ble_eq_true rfl) (fun v_61 X_62 hp_63 => ?_)
                obtain ⟨rfl, rfl⟩ := hp_63
                refine z_st (st' := [.int (nI (nh)), .int (nI (nh))]) rfl ?_
                refine z_icmp_geN (a := nh) (b := nh) 97 (by omega) (by omega) dX5_through_62 (by decide) (fun c_64 => ?_) (fun c_64 => absurd c_64 (by omega))
                refine z_iload 5 dX5_through_97 rfl ?_
                refine z_istore_n (lv' := [(3, .int (s_lent (I 10) (s_thr (I 10) nh x_42 i_43) nh)), (0, .ref (L 99)), (1, .int h), (2, .int (nI (oo))), (4, .int (nI (i_43))), (5, .int (s_lent (I 10) (s_thr (I 10) nh x_42 i_43) nh)), (6, .int (nI (nh)))]) dX5_through_99 rfl (by decide) rfl ?_
                refine z_iinc (v := nI (i_43 + 1)) (lv' := [(4, .int (nI (i_43 + 1))), (3, .int (s_lent (I 10) (s_thr (I 10) nh x_42 i_43) nh)), (0, .ref (L 99)), (1, .int h), (2, .int (nI (oo))), (5, .int (s_lent (I 10) (s_thr (I 10) nh x_42 i_43) nh)), (6, .int (nI (nh)))]) 4 dX5_through_100 rfl (nI_1 _) (by decide) rfl ?_
                refine z_goto 24 dX5_through_103 (by decide) ?_
                have f_65 : s_lent (I 10) (s_thr (I 10) nh x_42 i_43) nh = s_thr (I 10) nh x_42 (i_43 + 1) := by rfl
                refine z_lv (lv' := [(0, .ref (L 99)), (1, .int h), (2, .int (nI (oo))), (3, .int (s_thr (I 10) nh x_42 (i_43 + 1))), (4, .int (nI (i_43 + 1)))]) [2, 3, 4, 1, 0] (by rw [← f_65]; rfl) ?_
                exact ih_45 (i_43 + 1) (by omega) (by omega)  (hi_48.trans (s_fst_f (decide_eq_false c_54)))
              | succ q_56 ih_57 =>
                intro i_55 hb_58 lo_60  
                refine z_iload 6 dX5_through_56 rfl ?_
                refine z_aload_n 0 dX5_through_58 rfl ?_
                refine z_callV (As := []) (t_houses (I := (zs I 99 0 0)) hL h0) q1585 q1587 qs56 q121 q1588 nm_X5_houses (tX_obj hL) rfl rfl rfl (Nat.le_of_ble_eq_true rfl) ⟨Nat.le_of_ble_eq_true rfl, Nat.le_of_ble_eq_true rfl⟩ dX5_through_59 rfl rfl (Nat.le_of_ble_eq_true rfl) (Nat.le_of_ble_eq_true rfl) (fun v_66 X_67 hp_68 => ?_)
                obtain ⟨rfl, rfl⟩ := hp_68
                refine z_st (st' := [.int (nI (nh)), .int (nI (i_55))]) rfl ?_
                refine z_icmp_geN (a := i_55) (b := nh) 97 (by omega) (by omega) dX5_through_62 (by decide) (fun c_69 => absurd c_69 (by omega)) (fun c_69 => ?_)
                refine z_iload 5 dX5_through_65 rfl ?_
                refine z_iload_n 3 dX5_through_67 rfl ?_
                refine z_iload 6 dX5_through_68 rfl ?_
                refine z_ishr dX5_through_70 ?_
                refine z_iconst (v := 1) dX5_through_71 (by decide) ?_
                refine z_iand dX5_through_72 ?_
                refine z_iconst (v := 1) dX5_through_73 (by decide) ?_
                refine z_icmp_ne 87 dX5_through_74 (by decide) (fun c_70 => ?_) (fun c_70 => ?_)
                · -- ¬ (((s_thr (I 10) nh x_42 i_43) >>> ((nI (i_55)) &&& 31)) &&& 1) = 1
                  refine z_iconst (v := 0) dX5_through_87 (by decide) ?_
                  refine z_ior dX5_through_88 ?_
                  obtain ⟨x_71, ex_71⟩ : ∃ y : Int32, ((s_lent (I 10) (s_thr (I 10) nh x_42 i_43) i_55) ||| 0) = y := ⟨_, rfl⟩
                  refine z_eq ex_71 ?_
                  refine z_istore (lv' := [(5, .int x_71), (0, .ref (L 99)), (1, .int h), (2, .int (nI (oo))), (3, .int (s_thr (I 10) nh x_42 i_43)), (4, .int (nI (i_43))), (6, .int (nI (i_55)))]) dX5_through_89 (by decide) rfl ?_
                  refine z_iinc (v := nI (i_55 + 1)) (lv' := [(6, .int (nI (i_55 + 1))), (5, .int x_71), (0, .ref (L 99)), (1, .int h), (2, .int (nI (oo))), (3, .int (s_thr (I 10) nh x_42 i_43)), (4, .int (nI (i_43)))]) 6 dX5_through_91 rfl (nI_1 _) (by decide) rfl ?_
                  refine z_goto 56 dX5_through_94 (by decide) ?_
                  have f_72 : x_71 = s_lent (I 10) (s_thr (I 10) nh x_42 i_43) (i_55 + 1) := by first | rfl | omega | (simp [s_lent, s_isBit, hv, c_4, hb_46, hi_48, c_50, c_54, hb_58, c_69, c_70]; done) | ((try subst ex_71); (try subst ex_42); simp [s_lent, s_isBit, hv, c_4, hb_46, hi_48, c_50, c_54, hb_58, c_69, c_70])
                  subst f_72
                  refine z_lv (lv' := [(0, .ref (L 99)), (1, .int h), (2, .int (nI (oo))), (3, .int (s_thr (I 10) nh x_42 i_43)), (4, .int (nI (i_43))), (5, .int (s_lent (I 10) (s_thr (I 10) nh x_42 i_43) (i_55 + 1))), (6, .int (nI (i_55 + 1)))]) [2, 3, 4, 5, 6, 1, 0] rfl ?_
                  exact ih_57 (i_55 + 1) (by omega) (by omega)  
                · -- (((s_thr (I 10) nh x_42 i_43) >>> ((nI (i_55)) &&& 31)) &&& 1) = 1
                  refine z_aload_n 0 dX5_through_77 rfl ?_
                  refine z_iload 6 dX5_through_78 rfl ?_
                  refine z_iconst (v := 1) dX5_through_80 (by decide) ?_
                  refine z_callV (As := [.int (nI (i_55)), .int 1]) (t_houseOf (I := (zs I 99 0 0)) hL i_55 1 (by omega)) q1589 q1591 qs57 q121 q1592 nm_X5_houseOf (tX_obj hL) rfl rfl rfl (Nat.le_of_ble_eq_true rfl) ⟨Nat.le_of_ble_eq_true rfl, Nat.le_of_ble_eq_true rfl⟩ dX5_through_81 rfl rfl (Nat.le_of_ble_eq_true rfl) (Nat.le_of_ble_eq_true rfl) (fun v_73 X_74 hp_75 => ?_)
                  obtain ⟨rfl, rfl⟩ := hp_75
                  refine z_st (st' := [.int (I 10 (2 * i_55 + 5)), .int (s_lent (I 10) (s_thr (I 10) nh x_42 i_43) i_55)]) rfl ?_
                  refine z_goto 88 dX5_through_84 (by decide) ?_
                  refine z_ior dX5_through_88 ?_
                  obtain ⟨x_76, ex_76⟩ : ∃ y : Int32, ((s_lent (I 10) (s_thr (I 10) nh x_42 i_43) i_55) ||| (I 10 (2 * i_55 + 5))) = y := ⟨_, rfl⟩
                  refine z_eq ex_76 ?_
                  refine z_istore (lv' := [(5, .int x_76), (0, .ref (L 99)), (1, .int h), (2, .int (nI (oo))), (3, .int (s_thr (I 10) nh x_42 i_43)), (4, .int (nI (i_43))), (6, .int (nI (i_55)))]) dX5_through_89 (by decide) rfl ?_
                  refine z_iinc (v := nI (i_55 + 1)) (lv' := [(6, .int (nI (i_55 + 1))), (5, .int x_76), (0, .ref (L 99)), (1, .int h), (2, .int (nI (oo))), (3, .int (s_thr (I 10) nh x_42 i_43)), (4, .int (nI (i_43)))]) 6 dX5_through_91 rfl (nI_1 _) (by decide) rfl ?_
                  refine z_goto 56 dX5_through_94 (by decide) ?_
                  have f_77 : x_76 = s_lent (I 10) (s_thr (I 10) nh x_42 i_43) (i_55 + 1) := by first | rfl | omega | (simp [s_lent, s_isBit, hv, c_4, hb_46, hi_48, c_50, c_54, hb_58, c_69, c_70]; done) | ((try subst ex_76); (try subst ex_42); simp [s_lent, s_isBit, hv, c_4, hb_46, hi_48, c_50, c_54, hb_58, c_69, c_70])
                  subst f_77
                  refine z_lv (lv' := [(0, .ref (L 99)), (1, .int h), (2, .int (nI (oo))), (3, .int (s_thr (I 10) nh x_42 i_43)), (4, .int (nI (i_43))), (5, .int (s_lent (I 10) (s_thr (I 10) nh x_42 i_43) (i_55 + 1))), (6, .int (nI (i_55 + 1)))]) [2, 3, 4, 5, 6, 1, 0] rfl ?_
                  exact ih_57 (i_55 + 1) (by omega) (by omega)  
            have f_78 : s_thr (I 10) nh x_42 i_43 = s_lent (I 10) (s_thr (I 10) nh x_42 i_43) 0 := by first | rfl | omega | (simp [s_lent, s_isBit, hv, c_4, hb_46, hi_48, c_50, c_54]; done) | ((try subst ex_42); simp [s_lent, s_isBit, hv, c_4, hb_46, hi_48, c_50, c_54])
            refine z_lv (lv' := [(0, .ref (L 99)), (1, .int h), (2, .int (nI (oo))), (3, .int (s_thr (I 10) nh x_42 i_43)), (4, .int (nI (i_43))), (5, .int (s_lent (I 10) (s_thr (I 10) nh x_42 i_43) 0)), (6, .int 0)]) [2, 3, 4, 5, 6, 1, 0] (by rw [← f_78]; rfl) ?_
            exact loop_59 (nh - 0) 0 (by omega) (Nat.le_refl _)  
          · -- (((s_thr (I 10) nh x_42 i_43) >>> ((nI (oo)) &&& 31)) &&& 1) = 1
            refine z_iload 4 dX5_through_47 rfl ?_
            exact z_iret dX5_through_49 rfl (Nat.le_of_ble_eq_true rfl) (Nat.le_of_ble_eq_true rfl) ⟨congrArg some (congrArg Value.int (by unfold s_through; rw [hv, ncl (by omega), c_4]; rw [show (if true = true then (1 : Int32) <<< (h &&& 31) else 0) = x_42 from ex_42]; exact (hi_48.trans (s_fst_t (decide_eq_true c_54))).symm)), rfl⟩
      have f_79 : x_42 = s_thr (I 10) nh x_42 0 := by rfl
      refine z_lv (lv' := [(0, .ref (L 99)), (1, .int h), (2, .int (nI (oo))), (3, .int (s_thr (I 10) nh x_42 0)), (4, .int 0)]) [2, 3, 4, 1, 0] (by rw [← f_79]; rfl) ?_
      exact loop_47 (4 - 0) 0 (by omega) (Nat.le_refl _)  rfl
  · have hv := zb_not hv
    refine z_aload_n 0 dX5_through_5 rfl ?_
    refine z_iload_n 1 dX5_through_6 rfl ?_
    refine z_callV (As := [.int h]) (t_isHouse (I := (zs I 99 0 0)) hL h0 h) q1826 q1828 qs84 q121 q1829 nm_X5_isHouse (tX_obj hL) rfl rfl rfl (Nat.le_of_ble_eq_true rfl) ⟨Nat.le_of_ble_eq_true rfl, Nat.le_of_ble_eq_true rfl⟩ dX5_through_7 rfl rfl (Nat.le_of_ble_eq_true rfl) (Nat.le_of_ble_eq_true rfl) (fun v_80 X_81 hp_82 => ?_)
    obtain ⟨rfl, rfl⟩ := hp_82
    refine z_st (st' := [.int (zb (decide (0 ≤ h) && decide (h < nI nh)))]) rfl ?_
    refine z_if_eqb 19 dX5_through_10 (by decide) (fun c_83 => ?_) (fun c_83 => ?_)
    · -- decide (0 ≤ h) && decide (h < nI nh) = false
      refine z_iconst (v := 0) dX5_through_19 (by decide) ?_
      refine z_istore_n (lv' := [(3, .int 0), (0, .ref (L 99)), (1, .int h), (2, .int o)]) dX5_through_20 rfl (by decide) rfl ?_
      refine z_iconst (v := 0) dX5_through_21 (by decide) ?_
      refine z_istore (lv' := [(4, .int 0), (3, .int 0), (0, .ref (L 99)), (1, .int h), (2, .int o)]) dX5_through_22 (by decide) rfl ?_
      refine z_iload 0 dX5_through_24 rfl ?_
      refine z_iconst (v := 4) dX5_through_26 (by decide) ?_
      refine z_icmp_geN (a := 0) (b := 4) 106 (by decide) (by decide) dX5_through_27 (by decide) (fun h_ => absurd h_ (by decide)) (fun h_ => ?_)
      refine z_aload_n 2 dX5_through_30 rfl ?_
      refine z_iload_n 4 dX5_through_31 rfl ?_
      refine z_callV (As := [.int o]) (t_isHouse (I := (zs I 99 0 0)) hL h0 o) q1826 q1828 qs84 q121 q1829 nm_X5_isHouse (tX_obj hL) rfl rfl rfl (Nat.le_of_ble_eq_true rfl) ⟨Nat.le_of_ble_eq_true rfl, Nat.le_of_ble_eq_true rfl⟩ dX5_through_32 rfl rfl (Nat.le_of_ble_eq_true rfl) (Nat.le_of_ble_eq_true rfl) (fun v_84 X_85 hp_86 => ?_)
      obtain ⟨rfl, rfl⟩ := hp_86
      refine z_st (st' := [.int (zb (decide (0 ≤ o) && decide (o < nI nh)))]) rfl ?_
      refine z_if_eqb 106 dX5_through_35 (by decide) (fun c_87 => ?_) (fun c_87 => absurd c_87 (fun h9 => by (try rw [c_83] at hv); rw [h9] at hv; exact absurd hv (by decide)))
      refine z_iconst (v := zm1) dX5_through_106 (by decide) ?_
      exact z_iret dX5_through_107 rfl (Nat.le_of_ble_eq_true rfl) (Nat.le_of_ble_eq_true rfl) ⟨congrArg some (congrArg Value.int (by unfold s_through; rw [hv]; rfl)), rfl⟩
    · -- decide (0 ≤ h) && decide (h < nI nh) = true
      refine z_iconst (v := 1) dX5_through_13 (by decide) ?_
      refine z_iload_n 1 dX5_through_14 rfl ?_
      refine z_ishl dX5_through_15 ?_
      refine z_goto 20 dX5_through_16 (by decide) ?_
      obtain ⟨x_88, ex_88⟩ : ∃ y : Int32, (1 <<< (h &&& 31)) = y := ⟨_, rfl⟩
      refine z_eq ex_88 ?_
      refine z_istore_n (lv' := [(3, .int x_88), (0, .ref (L 99)), (1, .int h), (2, .int o)]) dX5_through_20 rfl (by decide) rfl ?_
      refine z_iconst (v := 0) dX5_through_21 (by decide) ?_
      refine z_istore (lv' := [(4, .int 0), (3, .int x_88), (0, .ref (L 99)), (1, .int h), (2, .int o)]) dX5_through_22 (by decide) rfl ?_
      refine z_iload 0 dX5_through_24 rfl ?_
      refine z_iconst (v := 4) dX5_through_26 (by decide) ?_
      refine z_icmp_geN (a := 0) (b := 4) 106 (by decide) (by decide) dX5_through_27 (by decide) (fun h_ => absurd h_ (by decide)) (fun h_ => ?_)
      refine z_aload_n 2 dX5_through_30 rfl ?_
      refine z_iload_n 4 dX5_through_31 rfl ?_
      refine z_callV (As := [.int o]) (t_isHouse (I := (zs I 99 0 0)) hL h0 o) q1826 q1828 qs84 q121 q1829 nm_X5_isHouse (tX_obj hL) rfl rfl rfl (Nat.le_of_ble_eq_true rfl) ⟨Nat.le_of_ble_eq_true rfl, Nat.le_of_ble_eq_true rfl⟩ dX5_through_32 rfl rfl (Nat.le_of_ble_eq_true rfl) (Nat.le_of_ble_eq_true rfl) (fun v_89 X_90 hp_91 => ?_)
      obtain ⟨rfl, rfl⟩ := hp_91
      refine z_st (st' := [.int (zb (decide (0 ≤ o) && decide (o < nI nh)))]) rfl ?_
      refine z_if_eqb 106 dX5_through_35 (by decide) (fun c_92 => ?_) (fun c_92 => absurd c_92 (fun h9 => by (try rw [c_83] at hv); rw [h9] at hv; exact absurd hv (by decide)))
      refine z_iconst (v := zm1) dX5_through_106 (by decide) ?_
      exact z_iret dX5_through_107 rfl (Nat.le_of_ble_eq_true rfl) (Nat.le_of_ble_eq_true rfl) ⟨congrArg some (congrArg Value.int (by unfold s_through; rw [hv]; rfl)), rfl⟩
