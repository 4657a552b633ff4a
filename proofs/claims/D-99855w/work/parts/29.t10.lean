/-! THE MODEL: moves. Printed by t10.py -/
set_option maxRecDepth 100000
set_option maxHeartbeats 4000000 in
theorem t_mayMove {g : zG} {L : Nat → Nat} {I : Nat → Nat → Int32} {J : Nat → Nat → Int64} {Gb : Nat → Nat → Int32} {X : zX} (hL : tok g L) {σ : Nat → Int32} {nd : Nat} (h1 : I 10 1 = nI nd) (hnd : nd ≤ 6) (b : Nat) (hb : b + 47 ≤ 1081) (d h : Nat) (hd : d < 6) (hh : h < 4) : zN g m_X5_mayMove ({ frames := 4, cells := 0, slots := 0, locals := 90 } : Room) [.ref (L 99), .int (nI (b)), .int (nI (d)), .int (nI (h))] (tX g L (tput I b σ) J Gb X) (fun rv X' => rv = some (.int (zb (s_may (I 10) σ nd d h))) ∧ X' = (tX g L (tput I b σ) J Gb X)) := by
  refine zN.of (by decide +kernel) (Nat.le_of_ble_eq_true rfl) rfl ?_
  refine z_lv (lv' := [(0, .ref (L 99)), (1, .int (nI (b))), (2, .int (nI (d))), (3, .int (nI (h)))]) [0, 1, 2, 3] rfl ?_
  refine z_aload_n 0 dX5_mayMove_0 rfl ?_
  refine tz_get (v := .ref (L 24)) 24 hL (by decide) q1617 rfl dX5_mayMove_1 ?_
  refine z_iload_n 1 dX5_mayMove_4 rfl ?_
  refine z_bipush (v := 6) dX5_mayMove_5 (by decide) ?_
  refine z_iaddN (a := b) (b := 6) dX5_mayMove_7 ?_
  refine z_iload_n 2 dX5_mayMove_8 rfl ?_
  refine z_iaddN (a := b + 6) (b := d) dX5_mayMove_9 ?_
  refine z_eq (y := nI (b + d + 6)) (congrArg nI (by omega)) ?_
  refine tz_iald (v := σ (d + 6)) 24 (b + (d + 6)) hL (by decide) (congrArg nI (by omega)) (by show b + (d + 6) < 1081; omega) (tput_at (by omega)) dX5_mayMove_10 ?_
  refine z_if_lt 43 dX5_mayMove_11 (by decide) (fun c_1 => ?_) (fun c_1 => ?_)
  · -- σ (d + 6) < 0
    have c_1' := Int32.not_le.mpr c_1
    refine z_iconst (v := 0) dX5_mayMove_43 (by decide) ?_
    exact z_zret dX5_mayMove_44 rfl (by first | rfl | decide | exact zb_nar _) (Nat.le_of_ble_eq_true rfl) (Nat.le_of_ble_eq_true rfl) ⟨congrArg some (congrArg Value.int (by simp [s_may, zb, c_1, c_1'])), rfl⟩
  · -- ¬ σ (d + 6) < 0
    have c_1' := Int32.not_lt.mp c_1
    refine z_aload_n 0 dX5_mayMove_14 rfl ?_
    refine tz_get (v := .ref (L 24)) 24 hL (by decide) q1617 rfl dX5_mayMove_15 ?_
    refine z_iload_n 1 dX5_mayMove_18 rfl ?_
    refine z_bipush (v := 6) dX5_mayMove_19 (by decide) ?_
    refine z_iaddN (a := b) (b := 6) dX5_mayMove_21 ?_
    refine z_iload_n 2 dX5_mayMove_22 rfl ?_
    refine z_iaddN (a := b + 6) (b := d) dX5_mayMove_23 ?_
    refine z_eq (y := nI (b + d + 6)) (congrArg nI (by omega)) ?_
    refine tz_iald (v := σ (d + 6)) 24 (b + (d + 6)) hL (by decide) (congrArg nI (by omega)) (by show b + (d + 6) < 1081; omega) (tput_at (by omega)) dX5_mayMove_24 ?_
    refine z_iload_n 3 dX5_mayMove_25 rfl ?_
    refine z_icmp_eq 43 dX5_mayMove_26 (by decide) (fun c_2 => ?_) (fun c_2 => ?_)
    · -- σ (d + 6) = nI (h)
      refine z_iconst (v := 0) dX5_mayMove_43 (by decide) ?_
      exact z_zret dX5_mayMove_44 rfl (by first | rfl | decide | exact zb_nar _) (Nat.le_of_ble_eq_true rfl) (Nat.le_of_ble_eq_true rfl) ⟨congrArg some (congrArg Value.int (by simp [s_may, zb, c_1, c_1', c_2])), rfl⟩
    · -- ¬ σ (d + 6) = nI (h)
      refine z_aload_n 0 dX5_mayMove_29 rfl ?_
      refine z_iload_n 1 dX5_mayMove_30 rfl ?_
      refine z_iload_n 3 dX5_mayMove_31 rfl ?_
      refine z_iload_n 2 dX5_mayMove_32 rfl ?_
      refine z_callV (As := [.int (nI (b)), .int (nI (h)), .int (nI (d))]) (t_doesHold (I := I) (σ := σ) hL h1 hnd b (by omega) h d (by omega) (by omega)) q1886 q1888 qs97 q121 q1889 nm_X5_doesHold (tX_obj hL) rfl rfl rfl (Nat.le_of_ble_eq_true rfl) ⟨Nat.le_of_ble_eq_true rfl, Nat.le_of_ble_eq_true rfl⟩ dX5_mayMove_33 rfl rfl (Nat.le_of_ble_eq_true rfl) (Nat.le_of_ble_eq_true rfl) (fun v_3 X_4 hp_5 => ?_)
      obtain ⟨rfl, rfl⟩ := hp_5
      refine z_st (st' := [.int (zb (s_holds (I 10) σ nd h d))]) rfl ?_
      refine z_if_eqb 43 dX5_mayMove_36 (by decide) (fun c_6 => ?_) (fun c_6 => ?_)
      · -- s_holds (I 10) σ nd h d = false
        refine z_iconst (v := 0) dX5_mayMove_43 (by decide) ?_
        exact z_zret dX5_mayMove_44 rfl (by first | rfl | decide | exact zb_nar _) (Nat.le_of_ble_eq_true rfl) (Nat.le_of_ble_eq_true rfl) ⟨congrArg some (congrArg Value.int (by simp [s_may, zb, c_1, c_1', c_2, c_6])), rfl⟩
      · -- s_holds (I 10) σ nd h d = true
        refine z_iconst (v := 1) dX5_mayMove_39 (by decide) ?_
        refine z_goto 44 dX5_mayMove_40 (by decide) ?_
        exact z_zret dX5_mayMove_44 rfl (by first | rfl | decide | exact zb_nar _) (Nat.le_of_ble_eq_true rfl) (Nat.le_of_ble_eq_true rfl) ⟨congrArg some (congrArg Value.int (by simp [s_may, zb, c_1, c_1', c_2, c_6])), rfl⟩
set_option maxHeartbeats 4000000 in
theorem t_keeps {g : zG} {L : Nat → Nat} {I : Nat → Nat → Int32} {J : Nat → Nat → Int64} {Gb : Nat → Nat → Int32} {X : zX} (hL : tok g L) {u : Nat} (hu : I 99 25 = nI u) (hu2 : u ≤ 16) : zN g m_X5_keeps ({ frames := 1, cells := 0, slots := 0, locals := 24 } : Room) [.ref (L 99)] (tX g L I J Gb X) (fun rv X' => rv = none ∧ X' = (tX g L (s_keep I u) J Gb X)) := by
  refine zN.of (by decide +kernel) (Nat.le_of_ble_eq_true rfl) rfl ?_
  refine z_lv (lv' := [(0, .ref (L 99))]) [0] rfl ?_
  refine z_aload_n 0 dX5_keeps_0 rfl ?_
  refine tz_get (v := .int (nI (u))) 25 hL (by decide) q1618 (congrArg (fun z => some (Value.int z)) hu) dX5_keeps_1 ?_
  refine z_bipush (v := 16) dX5_keeps_4 (by decide) ?_
  refine z_icmp_neN (a := u) (b := 16) 53 (by omega) (by omega) dX5_keeps_6 (by decide) (fun c_1 => ?_) (fun c_1 => ?_)
  · -- u ≠ 16
    refine z_aload_n 0 dX5_keeps_53 rfl ?_
    refine z_iconst (v := 0) dX5_keeps_54 (by decide) ?_
    refine z_bipush (v := 47) dX5_keeps_55 (by decide) ?_
    refine z_iconst (v := 5) dX5_keeps_57 (by decide) ?_
    refine z_aload_n 0 dX5_keeps_58 rfl ?_
    refine tz_get (v := .int (nI (u))) 25 hL (by decide) q1618 (congrArg (fun z => some (Value.int z)) hu) dX5_keeps_59 ?_
    refine z_iaddN (a := 5) (b := u) dX5_keeps_62 ?_
    refine z_eq (y := nI (u + 5)) (congrArg nI (by omega)) ?_
    refine z_imulN (a := 47) (b := u + 5) dX5_keeps_63 ?_
    refine z_eq (y := nI (47 * u + 235)) (congrArg nI (by omega)) ?_
    refine z_bipush (v := 30) dX5_keeps_64 (by decide) ?_
    refine z_callV (As := [.int 0, .int (nI (47 * u + 235)), .int 30]) (t_copies (I := I) hL 0 (47 * u + 235) 30 (by omega) (by omega) (by omega)) q1862 q1864 qs91 q121 q1865 nm_X5_copies (tX_obj hL) rfl rfl rfl (Nat.le_of_ble_eq_true rfl) ⟨Nat.le_of_ble_eq_true rfl, Nat.le_of_ble_eq_true rfl⟩ dX5_keeps_66 rfl rfl (Nat.le_of_ble_eq_true rfl) (Nat.le_of_ble_eq_true rfl) (fun v_2 X_3 hp_4 => ?_)
    obtain ⟨rfl, rfl⟩ := hp_4
    refine z_st (st' := []) rfl ?_
    refine z_aload_n 0 dX5_keeps_69 rfl ?_
    refine z_dup dX5_keeps_70 rfl ?_
    refine tz_get (v := .int (nI (u))) 25 hL (by decide) q1618 (congrArg (fun z => some (Value.int z)) (by rw [s_copy_a (by decide), hu])) dX5_keeps_71 ?_
    refine z_iconst (v := 1) dX5_keeps_74 (by decide) ?_
    refine z_iaddN (a := u) (b := 1) dX5_keeps_75 ?_
    refine tz_put (I' := (zs (s_copy I 0 (47 * u + 235) 30) 99 25 (nI (u + 1)))) 25 hL (by decide) q1618 rfl dX5_keeps_76 ?_
    exact z_vret dX5_keeps_79 rfl (Nat.le_of_ble_eq_true rfl) (Nat.le_of_ble_eq_true rfl) ⟨rfl, by unfold s_keep; first | (rw [if_pos (by omega), zs_zs]) | (rw [if_neg (by omega)])⟩
  · -- u = 16
    refine z_iconst (v := 1) dX5_keeps_9 (by decide) ?_
    refine z_istore_n (lv' := [(1, .int 1), (0, .ref (L 99))]) dX5_keeps_10 rfl (by decide) rfl ?_
    have loop_9 : ∀ (q_6 i_5 : Nat), i_5 + q_6 = 15 → 0 ≤ i_5 → zZ g m_X5_keeps (fun rv X' => rv = none ∧ X' = (tX g L (s_keep I u) J Gb X), zno, ({ frames := 1, cells := 0, slots := 0, locals := 24 } : Room)) 0 0 (tX g L (s_shf I i_5) J Gb X) 11 [(0, .ref (L 99)), (1, .int (nI (i_5 + 1)))] [] := by
      intro q_6
      induction q_6 with
      | zero =>
        intro i_5 hb_8 lo_10  
        obtain rfl : 15 = i_5 := by omega
        refine z_iload_n 1 dX5_keeps_11 rfl ?_
        refine z_bipush (v := 16) dX5_keeps_12 (by decide) ?_
        refine z_icmp_geN (a := 16) (b := 16) 43 (by decide) (by decide) dX5_keeps_14 (by decide) (fun h_ => ?_) (fun h_ => absurd h_ (by decide))
        refine z_aload_n 0 dX5_keeps_43 rfl ?_
        refine z_dup dX5_keeps_44 rfl ?_
        refine tz_get (v := .int 16) 25 hL (by decide) q1618 (congrArg (fun z => some (Value.int z)) (by rw [s_shf_a (by decide), hu, (by omega : u = 16)]; rfl)) dX5_keeps_45 ?_
        refine z_iconst (v := 1) dX5_keeps_48 (by decide) ?_
        refine z_isubN (a := 16) (b := 1) (by omega) dX5_keeps_49 ?_
        refine z_eq (y := 15) (by decide) ?_
        refine tz_put (I' := (zs (s_shf I 15) 99 25 15)) 25 hL (by decide) q1618 rfl dX5_keeps_50 ?_
        refine z_aload_n 0 dX5_keeps_53 rfl ?_
        refine z_iconst (v := 0) dX5_keeps_54 (by decide) ?_
        refine z_bipush (v := 47) dX5_keeps_55 (by decide) ?_
        refine z_iconst (v := 5) dX5_keeps_57 (by decide) ?_
        refine z_aload_n 0 dX5_keeps_58 rfl ?_
        refine tz_get (v := .int 15) 25 hL (by decide) q1618 rfl dX5_keeps_59 ?_
        refine z_iaddN (a := 5) (b := 15) dX5_keeps_62 ?_
        refine z_eq (y := 20) (by decide) ?_
        refine z_imulN (a := 47) (b := 20) dX5_keeps_63 ?_
        refine z_eq (y := 940) (by decide) ?_
        refine z_bipush (v := 30) dX5_keeps_64 (by decide) ?_
        refine z_callV (As := [.int 0, .int 940, .int 30]) (t_copies (I := (zs (s_shf I 15) 99 25 15)) hL 0 940 30 (by omega) (by omega) (by omega)) q1862 q1864 qs91 q121 q1865 nm_X5_copies (tX_obj hL) rfl rfl rfl (Nat.le_of_ble_eq_true rfl) ⟨Nat.le_of_ble_eq_true rfl, Nat.le_of_ble_eq_true rfl⟩ dX5_keeps_66 rfl rfl (Nat.le_of_ble_eq_true rfl) (Nat.le_of_ble_eq_true rfl) (fun v_11 X_12 hp_13 => ?_)
        obtain ⟨rfl, rfl⟩ := hp_13
        refine z_X (X' := (tX g L (zs (s_copy (s_shf I 15) 0 940 30) 99 25 15) J Gb X)) (by rw [s_copy_z (by decide)]) ?_
        refine z_st (st' := []) rfl ?_
        refine z_aload_n 0 dX5_keeps_69 rfl ?_
        refine z_dup dX5_keeps_70 rfl ?_
        refine tz_get (v := .int 15) 25 hL (by decide) q1618 rfl dX5_keeps_71 ?_
        refine z_iconst (v := 1) dX5_keeps_74 (by decide) ?_
        refine z_iaddN (a := 15) (b := 1) dX5_keeps_75 ?_
        refine z_eq (y := 16) (by decide) ?_
        refine tz_put (I' := (zs (zs (s_copy (s_shf I 15) 0 940 30) 99 25 15) 99 25 16)) 25 hL (by decide) q1618 rfl dX5_keeps_76 ?_
        exact z_vret dX5_keeps_79 rfl (Nat.le_of_ble_eq_true rfl) (Nat.le_of_ble_eq_true rfl) ⟨rfl, by unfold s_keep; first | (rw [if_pos (by omega), zs_zs]) | (rw [if_neg (by omega)])⟩
      | succ q_6 ih_7 =>
        intro i_5 hb_8 lo_10  
        refine z_iload_n 1 dX5_keeps_11 rfl ?_
        refine z_bipush (v := 16) dX5_keeps_12 (by decide) ?_
        refine z_icmp_geN (a := i_5 + 1) (b := 16) 43 (by omega) (by omega) dX5_keeps_14 (by decide) (fun c_14 => absurd c_14 (by omega)) (fun c_14 => ?_)
        refine z_aload_n 0 dX5_keeps_17 rfl ?_
        refine z_bipush (v := 47) dX5_keeps_18 (by decide) ?_
        refine z_iconst (v := 5) dX5_keeps_20 (by decide) ?_
        refine z_iload_n 1 dX5_keeps_21 rfl ?_
        refine z_iaddN (a := 5) (b := i_5 + 1) dX5_keeps_22 ?_
        refine z_eq (y := nI (i_5 + 6)) (congrArg nI (by omega)) ?_
        refine z_imulN (a := 47) (b := i_5 + 6) dX5_keeps_23 ?_
        refine z_eq (y := nI (47 * i_5 + 282)) (congrArg nI (by omega)) ?_
        refine z_bipush (v := 47) dX5_keeps_24 (by decide) ?_
        refine z_iconst (v := 5) dX5_keeps_26 (by decide) ?_
        refine z_iload_n 1 dX5_keeps_27 rfl ?_
        refine z_iaddN (a := 5) (b := i_5 + 1) dX5_keeps_28 ?_
        refine z_eq (y := nI (i_5 + 6)) (congrArg nI (by omega)) ?_
        refine z_iconst (v := 1) dX5_keeps_29 (by decide) ?_
        refine z_isubN (a := i_5 + 6) (b := 1) (by omega) dX5_keeps_30 ?_
        refine z_eq (y := nI (i_5 + 5)) (congrArg nI (by omega)) ?_
        refine z_imulN (a := 47) (b := i_5 + 5) dX5_keeps_31 ?_
        refine z_eq (y := nI (47 * i_5 + 235)) (congrArg nI (by omega)) ?_
        refine z_bipush (v := 30) dX5_keeps_32 (by decide) ?_
        refine z_callV (As := [.int (nI (47 * i_5 + 282)), .int (nI (47 * i_5 + 235)), .int 30]) (t_copies (I := (s_shf I i_5)) hL (47 * i_5 + 282) (47 * i_5 + 235) 30 (by omega) (by omega) (by omega)) q1862 q1864 qs91 q121 q1865 nm_X5_copies (tX_obj hL) rfl rfl rfl (Nat.le_of_ble_eq_true rfl) ⟨Nat.le_of_ble_eq_true rfl, Nat.le_of_ble_eq_true rfl⟩ dX5_keeps_34 rfl rfl (Nat.le_of_ble_eq_true rfl) (Nat.le_of_ble_eq_true rfl) (fun v_15 X_16 hp_17 => ?_)
        obtain ⟨rfl, rfl⟩ := hp_17
        refine z_st (st' := []) rfl ?_
        refine z_iinc (v := nI (i_5 + 2)) (lv' := [(1, .int (nI (i_5 + 2))), (0, .ref (L 99))]) 1 dX5_keeps_37 rfl (nI_1 _) (by decide) rfl ?_
        refine z_goto 11 dX5_keeps_40 (by decide) ?_
        refine z_lv (lv' := [(0, .ref (L 99)), (1, .int (nI (i_5 + 2)))]) [1, 0] rfl ?_
        refine z_X (X' := (tX g L (s_shf I (i_5 + 1)) J Gb X)) (by rfl) ?_
        exact ih_7 (i_5 + 1) (by omega) (by omega)  
    refine z_lv (lv' := [(0, .ref (L 99)), (1, .int 1)]) [1, 0] rfl ?_
    refine z_X (X' := (tX g L (s_shf I 0) J Gb X)) (by rfl) ?_
    exact loop_9 (15 - 0) 0 (by omega) (Nat.le_refl _)  
set_option maxHeartbeats 4000000 in
theorem t_move {g : zG} {L : Nat → Nat} {I : Nat → Nat → Int32} {J : Nat → Nat → Int64} {Gb : Nat → Nat → Int32} {X : zX} (hL : tok g L) {nh nd : Nat} {own : Nat → Nat} (hV : s_ok (I 10) nh nd own) {u : Nat} (hu : I 99 25 = nI u) (hu2 : u ≤ 16) (d h : Int32) : zN g m_X5_move ({ frames := 5, cells := 0, slots := 0, locals := 113 } : Room) [.ref (L 99), .int d, .int h] (tX g L I J Gb X) (fun rv X' => rv = some (.int (zb (s_move I nh nd u d h).2)) ∧ X' = tX g L (s_move I nh nd u d h).1 J Gb X) := by
  refine zN.of (by decide +kernel) (Nat.le_of_ble_eq_true rfl) rfl ?_
  refine z_lv (lv' := [(0, .ref (L 99)), (1, .int d), (2, .int h)]) [0, 1, 2] rfl ?_
  have hV9 := hV
  obtain ⟨h0, hnh, h1, hnd, hown⟩ := hV9
  refine z_aload_n 0 dX5_move_0 rfl ?_
  refine z_iconst (v := 0) dX5_move_1 (by decide) ?_
  refine tz_put (I' := (zs I 99 0 0)) 0 hL (by decide) q1593 rfl dX5_move_2 ?_
  by_cases hv : ((decide (0 ≤ d) && decide (d < nI nd)) && (decide (0 ≤ h) && decide (h < nI nh))) = true
  · skip
    obtain ⟨hv1, hv2⟩ := Bool.and_eq_true_iff.mp hv
    obtain ⟨dd, hdd, e_d⟩ := zday (by omega) hv1
    obtain ⟨hh, hhh, e_h⟩ := zday (by omega) hv2
    subst e_d
    subst e_h
    refine z_aload_n 0 dX5_move_5 rfl ?_
    refine z_iload_n 1 dX5_move_6 rfl ?_
    refine z_callV (As := [.int (nI (dd))]) (t_isDay (I := (zs I 99 0 0)) hL h1 (nI (dd))) q1850 q1852 qs89 q121 q1853 nm_X5_isDay (tX_obj hL) rfl rfl rfl (Nat.le_of_ble_eq_true rfl) ⟨Nat.le_of_ble_eq_true rfl, Nat.le_of_ble_eq_true rfl⟩ dX5_move_7 rfl rfl (Nat.le_of_ble_eq_true rfl) (Nat.le_of_ble_eq_true rfl) (fun v_1 X_2 hp_3 => ?_)
    obtain ⟨rfl, rfl⟩ := hp_3
    refine z_st (st' := [.int (zb (decide (0 ≤ nI (dd)) && decide (nI (dd) < nI nd)))]) rfl ?_
    refine z_eq (y := 1) (zb_t (zday_t (by omega) (by omega))) ?_
    refine z_if_eq 31 dX5_move_10 (by decide) (fun h_ => absurd h_ (by decide)) (fun h_ => ?_)
    refine z_aload_n 0 dX5_move_13 rfl ?_
    refine z_iload_n 2 dX5_move_14 rfl ?_
    refine z_callV (As := [.int (nI (hh))]) (t_isHouse (I := (zs I 99 0 0)) hL h0 (nI (hh))) q1826 q1828 qs84 q121 q1829 nm_X5_isHouse (tX_obj hL) rfl rfl rfl (Nat.le_of_ble_eq_true rfl) ⟨Nat.le_of_ble_eq_true rfl, Nat.le_of_ble_eq_true rfl⟩ dX5_move_15 rfl rfl (Nat.le_of_ble_eq_true rfl) (Nat.le_of_ble_eq_true rfl) (fun v_4 X_5 hp_6 => ?_)
    obtain ⟨rfl, rfl⟩ := hp_6
    refine z_st (st' := [.int (zb (decide (0 ≤ nI (hh)) && decide (nI (hh) < nI nh)))]) rfl ?_
    refine z_eq (y := 1) (zb_t (zday_t (by omega) (by omega))) ?_
    refine z_if_eq 31 dX5_move_18 (by decide) (fun h_ => absurd h_ (by decide)) (fun h_ => ?_)
    refine z_aload_n 0 dX5_move_21 rfl ?_
    refine z_iconst (v := 0) dX5_move_22 (by decide) ?_
    refine z_iload_n 1 dX5_move_23 rfl ?_
    refine z_iload_n 2 dX5_move_24 rfl ?_
    refine z_X (X' := (tX g L (tput (zs I 99 0 0) 0 (I 24)) J Gb X)) (congrArg (fun z => tX g L z J Gb X) (tput_self0 (I := (zs I 99 0 0))).symm) ?_
    refine z_callV (As := [.int 0, .int (nI (dd)), .int (nI (hh))]) (t_mayMove (I := (zs I 99 0 0)) (σ := (I 24)) hL h1 hnd 0 (by omega) dd hh (by omega) (by omega)) q1904 q1906 qs99 q121 q1907 nm_X5_mayMove (tX_obj hL) rfl rfl rfl (Nat.le_of_ble_eq_true rfl) ⟨Nat.le_of_ble_eq_true rfl, Nat.le_of_ble_eq_true rfl⟩ dX5_move_25 rfl rfl (Nat.le_of_ble_eq_true rfl) (Nat.le_of_ble_eq_true rfl) (fun v_7 X_8 hp_9 => ?_)
    obtain ⟨rfl, rfl⟩ := hp_9
    refine z_X (X' := (tX g L (zs I 99 0 0) J Gb X)) (congrArg (fun z => tX g L z J Gb X) (tput_self0 (I := (zs I 99 0 0)))) ?_
    refine z_st (st' := [.int (zb (s_may (I 10) (I 24) nd dd hh))]) rfl ?_
    refine z_if_neb 33 dX5_move_28 (by decide) (fun c_10 => ?_) (fun c_10 => ?_)
    · -- s_may (I 10) (I 24) nd dd hh = true
      refine z_aload_n 0 dX5_move_33 rfl ?_
      refine z_callV (As := []) (t_keeps (I := (zs I 99 0 0)) hL (u := u) hu hu2) q1858 q1860 qs90 q121 q1861 nm_X5_keeps (tX_obj hL) rfl rfl rfl (Nat.le_of_ble_eq_true rfl) ⟨Nat.le_of_ble_eq_true rfl, Nat.le_of_ble_eq_true rfl⟩ dX5_move_34 rfl rfl (Nat.le_of_ble_eq_true rfl) (Nat.le_of_ble_eq_true rfl) (fun v_11 X_12 hp_13 => ?_)
      obtain ⟨rfl, rfl⟩ := hp_13
      refine z_X (X' := (tX g L (tput (s_keep (zs I 99 0 0) u) 0 (I 24)) J Gb X)) (congrArg (fun z => tX g L z J Gb X) (tput_eq (fun j hj => (congrArg (s_keep (zs I 99 0 0) u 24) (Nat.zero_add j)).trans (s_keep_0 (by omega)))).symm) ?_
      refine z_st (st' := []) rfl ?_
      refine z_aload_n 0 dX5_move_37 rfl ?_
      refine tz_get (v := .ref (L 24)) 24 hL (by decide) q1617 rfl dX5_move_38 ?_
      refine z_bipush (v := 6) dX5_move_41 (by decide) ?_
      refine z_iload_n 1 dX5_move_43 rfl ?_
      refine z_iaddN (a := 6) (b := dd) dX5_move_44 ?_
      refine z_eq (y := nI (dd + 6)) (congrArg nI (by omega)) ?_
      refine z_iload_n 2 dX5_move_45 rfl ?_
      refine tz_iast 24 (0 + (dd + 6)) hL (by decide) (congrArg nI (by omega)) (by show 0 + (dd + 6) < 1081; omega) (tput_zs (by omega)) dX5_move_46 ?_
      refine z_iconst (v := 1) dX5_move_47 (by decide) ?_
      exact z_zret dX5_move_48 rfl (by first | rfl | decide | exact zb_nar _) (Nat.le_of_ble_eq_true rfl) (Nat.le_of_ble_eq_true rfl) (by rw [show s_move I nh nd u (nI (dd)) (nI (hh)) = ((tput (s_keep (zs I 99 0 0) u) 0 (zs1 (I 24) (dd + 6) (nI (hh)))), true) from (by unfold s_move; rw [ncl (by omega), ncl (by omega), hv]; simp [c_10])]; exact ⟨rfl, rfl⟩)
    · -- s_may (I 10) (I 24) nd dd hh = false
      refine z_iconst (v := 0) dX5_move_31 (by decide) ?_
      exact z_zret dX5_move_32 rfl (by first | rfl | decide | exact zb_nar _) (Nat.le_of_ble_eq_true rfl) (Nat.le_of_ble_eq_true rfl) (by rw [show s_move I nh nd u (nI (dd)) (nI (hh)) = ((zs I 99 0 0), false) from (by unfold s_move; rw [ncl (by omega), ncl (by omega), hv]; simp [c_10])]; exact ⟨rfl, rfl⟩)
  · have hv := zb_not hv
    refine z_aload_n 0 dX5_move_5 rfl ?_
    refine z_iload_n 1 dX5_move_6 rfl ?_
    refine z_callV (As := [.int d]) (t_isDay (I := (zs I 99 0 0)) hL h1 d) q1850 q1852 qs89 q121 q1853 nm_X5_isDay (tX_obj hL) rfl rfl rfl (Nat.le_of_ble_eq_true rfl) ⟨Nat.le_of_ble_eq_true rfl, Nat.le_of_ble_eq_true rfl⟩ dX5_move_7 rfl rfl (Nat.le_of_ble_eq_true rfl) (Nat.le_of_ble_eq_true rfl) (fun v_14 X_15 hp_16 => ?_)
    obtain ⟨rfl, rfl⟩ := hp_16
    refine z_st (st' := [.int (zb (decide (0 ≤ d) && decide (d < nI nd)))]) rfl ?_
    refine z_if_eqb 31 dX5_move_10 (by decide) (fun c_17 => ?_) (fun c_17 => ?_)
    · -- decide (0 ≤ d) && decide (d < nI nd) = false
      refine z_iconst (v := 0) dX5_move_31 (by decide) ?_
      exact z_zret dX5_move_32 rfl (by first | rfl | decide | exact zb_nar _) (Nat.le_of_ble_eq_true rfl) (Nat.le_of_ble_eq_true rfl) (by rw [show s_move I nh nd u d h = ((zs I 99 0 0), false) from (by unfold s_move; rw [hv]; rfl)]; exact ⟨rfl, rfl⟩)
    · -- decide (0 ≤ d) && decide (d < nI nd) = true
      refine z_aload_n 0 dX5_move_13 rfl ?_
      refine z_iload_n 2 dX5_move_14 rfl ?_
      refine z_callV (As := [.int h]) (t_isHouse (I := (zs I 99 0 0)) hL h0 h) q1826 q1828 qs84 q121 q1829 nm_X5_isHouse (tX_obj hL) rfl rfl rfl (Nat.le_of_ble_eq_true rfl) ⟨Nat.le_of_ble_eq_true rfl, Nat.le_of_ble_eq_true rfl⟩ dX5_move_15 rfl rfl (Nat.le_of_ble_eq_true rfl) (Nat.le_of_ble_eq_true rfl) (fun v_18 X_19 hp_20 => ?_)
      obtain ⟨rfl, rfl⟩ := hp_20
      refine z_st (st' := [.int (zb (decide (0 ≤ h) && decide (h < nI nh)))]) rfl ?_
      refine z_if_eqb 31 dX5_move_18 (by decide) (fun c_21 => ?_) (fun c_21 => absurd c_21 (fun h9 => by (try rw [c_17] at hv); rw [h9] at hv; exact absurd hv (by decide)))
      refine z_iconst (v := 0) dX5_move_31 (by decide) ?_
      exact z_zret dX5_move_32 rfl (by first | rfl | decide | exact zb_nar _) (Nat.le_of_ble_eq_true rfl) (Nat.le_of_ble_eq_true rfl) (by rw [show s_move I nh nd u d h = ((zs I 99 0 0), false) from (by unfold s_move; rw [hv]; rfl)]; exact ⟨rfl, rfl⟩)
set_option maxHeartbeats 4000000 in
theorem t_send {g : zG} {L : Nat → Nat} {I : Nat → Nat → Int32} {J : Nat → Nat → Int64} {Gb : Nat → Nat → Int32} {X : zX} (hL : tok g L) {nh nd : Nat} {own : Nat → Nat} (hV : s_ok (I 10) nh nd own) {u : Nat} (hu : I 99 25 = nI u) (hu2 : u ≤ 16) (d : Int32) : zN g m_X5_send ({ frames := 2, cells := 0, slots := 0, locals := 45 } : Room) [.ref (L 99), .int d] (tX g L I J Gb X) (fun rv X' => rv = some (.int (zb (s_send I nd u d).2)) ∧ X' = tX g L (s_send I nd u d).1 J Gb X) := by
  refine zN.of (by decide +kernel) (Nat.le_of_ble_eq_true rfl) rfl ?_
  refine z_lv (lv' := [(0, .ref (L 99)), (1, .int d)]) [0, 1] rfl ?_
  have hV9 := hV
  obtain ⟨h0, hnh, h1, hnd, hown⟩ := hV9
  refine z_aload_n 0 dX5_send_0 rfl ?_
  refine z_iconst (v := 0) dX5_send_1 (by decide) ?_
  refine tz_put (I' := (zs I 99 0 0)) 0 hL (by decide) q1593 rfl dX5_send_2 ?_
  by_cases hv : (decide (0 ≤ d) && decide (d < nI nd)) = true
  · skip
    obtain ⟨dd, hdd, e_d⟩ := zday (by omega) hv
    subst e_d
    refine z_aload_n 0 dX5_send_5 rfl ?_
    refine z_iload_n 1 dX5_send_6 rfl ?_
    refine z_callV (As := [.int (nI (dd))]) (t_isDay (I := (zs I 99 0 0)) hL h1 (nI (dd))) q1850 q1852 qs89 q121 q1853 nm_X5_isDay (tX_obj hL) rfl rfl rfl (Nat.le_of_ble_eq_true rfl) ⟨Nat.le_of_ble_eq_true rfl, Nat.le_of_ble_eq_true rfl⟩ dX5_send_7 rfl rfl (Nat.le_of_ble_eq_true rfl) (Nat.le_of_ble_eq_true rfl) (fun v_1 X_2 hp_3 => ?_)
    obtain ⟨rfl, rfl⟩ := hp_3
    refine z_st (st' := [.int (zb (decide (0 ≤ nI (dd)) && decide (nI (dd) < nI nd)))]) rfl ?_
    refine z_eq (y := 1) (zb_t (zday_t (by omega) (by omega))) ?_
    refine z_if_eq 25 dX5_send_10 (by decide) (fun h_ => absurd h_ (by decide)) (fun h_ => ?_)
    refine z_aload_n 0 dX5_send_13 rfl ?_
    refine tz_get (v := .ref (L 24)) 24 hL (by decide) q1617 rfl dX5_send_14 ?_
    refine z_bipush (v := 6) dX5_send_17 (by decide) ?_
    refine z_iload_n 1 dX5_send_19 rfl ?_
    refine z_iaddN (a := 6) (b := dd) dX5_send_20 ?_
    refine z_eq (y := nI (dd + 6)) (congrArg nI (by omega)) ?_
    refine tz_iald (v := I 24 (dd + 6)) 24 (dd + 6) hL (by decide) rfl (by show dd + 6 < 1081; omega) rfl dX5_send_21 ?_
    refine z_if_ge 27 dX5_send_22 (by decide) (fun c_4 => ?_) (fun c_4 => ?_)
    · -- 0 ≤ I 24 (dd + 6)
      have c_4' := Int32.not_lt.mpr c_4
      refine z_aload_n 0 dX5_send_27 rfl ?_
      refine z_callV (As := []) (t_keeps (I := (zs I 99 0 0)) hL (u := u) hu hu2) q1858 q1860 qs90 q121 q1861 nm_X5_keeps (tX_obj hL) rfl rfl rfl (Nat.le_of_ble_eq_true rfl) ⟨Nat.le_of_ble_eq_true rfl, Nat.le_of_ble_eq_true rfl⟩ dX5_send_28 rfl rfl (Nat.le_of_ble_eq_true rfl) (Nat.le_of_ble_eq_true rfl) (fun v_5 X_6 hp_7 => ?_)
      obtain ⟨rfl, rfl⟩ := hp_7
      refine z_X (X' := (tX g L (tput (s_keep (zs I 99 0 0) u) 0 (I 24)) J Gb X)) (congrArg (fun z => tX g L z J Gb X) (tput_eq (fun j hj => (congrArg (s_keep (zs I 99 0 0) u 24) (Nat.zero_add j)).trans (s_keep_0 (by omega)))).symm) ?_
      refine z_st (st' := []) rfl ?_
      refine z_aload_n 0 dX5_send_31 rfl ?_
      refine z_iconst (v := 0) dX5_send_32 (by decide) ?_
      refine z_iload_n 1 dX5_send_33 rfl ?_
      refine z_callV (As := [.int 0, .int (nI (dd))]) (t_leaves (I := (s_keep (zs I 99 0 0) u)) (σ := (I 24)) hL 0 (by omega) dd (by omega)) q1870 q1872 qs93 q121 q1873 nm_X5_leaves (tX_obj hL) rfl rfl rfl (Nat.le_of_ble_eq_true rfl) ⟨Nat.le_of_ble_eq_true rfl, Nat.le_of_ble_eq_true rfl⟩ dX5_send_34 rfl rfl (Nat.le_of_ble_eq_true rfl) (Nat.le_of_ble_eq_true rfl) (fun v_8 X_9 hp_10 => ?_)
      obtain ⟨rfl, rfl⟩ := hp_10
      refine z_st (st' := []) rfl ?_
      refine z_iconst (v := 1) dX5_send_37 (by decide) ?_
      exact z_zret dX5_send_38 rfl (by first | rfl | decide | exact zb_nar _) (Nat.le_of_ble_eq_true rfl) (Nat.le_of_ble_eq_true rfl) (by rw [show s_send I nd u (nI (dd)) = ((tput (s_keep (zs I 99 0 0) u) 0 (s_leave (I 24) dd)), true) from (by unfold s_send; rw [ncl (by omega), hv]; simp [c_4, c_4'])]; exact ⟨rfl, rfl⟩)
    · -- ¬ 0 ≤ I 24 (dd + 6)
      have c_4' := Int32.not_le.mp c_4
      refine z_iconst (v := 0) dX5_send_25 (by decide) ?_
      exact z_zret dX5_send_26 rfl (by first | rfl | decide | exact zb_nar _) (Nat.le_of_ble_eq_true rfl) (Nat.le_of_ble_eq_true rfl) (by rw [show s_send I nd u (nI (dd)) = ((zs I 99 0 0), false) from (by unfold s_send; rw [ncl (by omega), hv]; simp [c_4, c_4'])]; exact ⟨rfl, rfl⟩)
  · have hv := zb_not hv
    refine z_aload_n 0 dX5_send_5 rfl ?_
    refine z_iload_n 1 dX5_send_6 rfl ?_
    refine z_callV (As := [.int d]) (t_isDay (I := (zs I 99 0 0)) hL h1 d) q1850 q1852 qs89 q121 q1853 nm_X5_isDay (tX_obj hL) rfl rfl rfl (Nat.le_of_ble_eq_true rfl) ⟨Nat.le_of_ble_eq_true rfl, Nat.le_of_ble_eq_true rfl⟩ dX5_send_7 rfl rfl (Nat.le_of_ble_eq_true rfl) (Nat.le_of_ble_eq_true rfl) (fun v_11 X_12 hp_13 => ?_)
    obtain ⟨rfl, rfl⟩ := hp_13
    refine z_st (st' := [.int (zb (decide (0 ≤ d) && decide (d < nI nd)))]) rfl ?_
    refine z_if_eqb 25 dX5_send_10 (by decide) (fun c_14 => ?_) (fun c_14 => absurd c_14 (fun h9 => by rw [h9] at hv; exact absurd hv (by decide)))
    refine z_iconst (v := 0) dX5_send_25 (by decide) ?_
    exact z_zret dX5_send_26 rfl (by first | rfl | decide | exact zb_nar _) (Nat.le_of_ble_eq_true rfl) (Nat.le_of_ble_eq_true rfl) (by rw [show s_send I nd u d = ((zs I 99 0 0), false) from (by unfold s_send; rw [hv]; rfl)]; exact ⟨rfl, rfl⟩)
set_option maxHeartbeats 4000000 in
theorem t_build {g : zG} {L : Nat → Nat} {I : Nat → Nat → Int32} {J : Nat → Nat → Int64} {Gb : Nat → Nat → Int32} {X : zX} (hL : tok g L) {nh nd : Nat} {own : Nat → Nat} (hV : s_ok (I 10) nh nd own) {u : Nat} (hu : I 99 25 = nI u) (hu2 : u ≤ 16) (h : Int32) : zN g m_X5_build ({ frames := 2, cells := 0, slots := 0, locals := 45 } : Room) [.ref (L 99), .int h] (tX g L I J Gb X) (fun rv X' => rv = some (.int ((s_build I nh u h).2)) ∧ X' = tX g L (s_build I nh u h).1 J Gb X) := by
  refine zN.of (by decide +kernel) (Nat.le_of_ble_eq_true rfl) rfl ?_
  refine z_lv (lv' := [(0, .ref (L 99)), (1, .int h)]) [0, 1] rfl ?_
  have hV9 := hV
  obtain ⟨h0, hnh, h1, hnd, hown⟩ := hV9
  refine z_aload_n 0 dX5_build_0 rfl ?_
  refine z_iconst (v := 0) dX5_build_1 (by decide) ?_
  refine tz_put (I' := (zs I 99 0 0)) 0 hL (by decide) q1593 rfl dX5_build_2 ?_
  by_cases hv : (decide (0 ≤ h) && decide (h < nI nh)) = true
  · skip
    obtain ⟨hh, hhh, e_h⟩ := zday (by omega) hv
    subst e_h
    refine z_aload_n 0 dX5_build_5 rfl ?_
    refine z_iload_n 1 dX5_build_6 rfl ?_
    refine z_callV (As := [.int (nI (hh))]) (t_isHouse (I := (zs I 99 0 0)) hL h0 (nI (hh))) q1826 q1828 qs84 q121 q1829 nm_X5_isHouse (tX_obj hL) rfl rfl rfl (Nat.le_of_ble_eq_true rfl) ⟨Nat.le_of_ble_eq_true rfl, Nat.le_of_ble_eq_true rfl⟩ dX5_build_7 rfl rfl (Nat.le_of_ble_eq_true rfl) (Nat.le_of_ble_eq_true rfl) (fun v_1 X_2 hp_3 => ?_)
    obtain ⟨rfl, rfl⟩ := hp_3
    refine z_st (st' := [.int (zb (decide (0 ≤ nI (hh)) && decide (nI (hh) < nI nh)))]) rfl ?_
    refine z_eq (y := 1) (zb_t (zday_t (by omega) (by omega))) ?_
    refine z_if_eq 26 dX5_build_10 (by decide) (fun h_ => absurd h_ (by decide)) (fun h_ => ?_)
    refine z_aload_n 0 dX5_build_13 rfl ?_
    refine tz_get (v := .ref (L 24)) 24 hL (by decide) q1617 rfl dX5_build_14 ?_
    refine z_iconst (v := 2) dX5_build_17 (by decide) ?_
    refine z_iload_n 1 dX5_build_18 rfl ?_
    refine z_iaddN (a := 2) (b := hh) dX5_build_19 ?_
    refine z_eq (y := nI (hh + 2)) (congrArg nI (by omega)) ?_
    refine tz_iald (v := I 24 (hh + 2)) 24 (hh + 2) hL (by decide) rfl (by show hh + 2 < 1081; omega) rfl dX5_build_20 ?_
    refine z_bipush (v := 9) dX5_build_21 (by decide) ?_
    refine z_icmp_ne 28 dX5_build_23 (by decide) (fun c_4 => ?_) (fun c_4 => ?_)
    · -- ¬ I 24 (hh + 2) = 9
      refine z_aload_n 0 dX5_build_28 rfl ?_
      refine z_callV (As := []) (t_keeps (I := (zs I 99 0 0)) hL (u := u) hu hu2) q1858 q1860 qs90 q121 q1861 nm_X5_keeps (tX_obj hL) rfl rfl rfl (Nat.le_of_ble_eq_true rfl) ⟨Nat.le_of_ble_eq_true rfl, Nat.le_of_ble_eq_true rfl⟩ dX5_build_29 rfl rfl (Nat.le_of_ble_eq_true rfl) (Nat.le_of_ble_eq_true rfl) (fun v_5 X_6 hp_7 => ?_)
      obtain ⟨rfl, rfl⟩ := hp_7
      refine z_X (X' := (tX g L (tput (s_keep (zs I 99 0 0) u) 0 (I 24)) J Gb X)) (congrArg (fun z => tX g L z J Gb X) (tput_eq (fun j hj => (congrArg (s_keep (zs I 99 0 0) u 24) (Nat.zero_add j)).trans (s_keep_0 (by omega)))).symm) ?_
      refine z_st (st' := []) rfl ?_
      refine z_aload_n 0 dX5_build_32 rfl ?_
      refine tz_get (v := .ref (L 24)) 24 hL (by decide) q1617 rfl dX5_build_33 ?_
      refine z_iconst (v := 2) dX5_build_36 (by decide) ?_
      refine z_iload_n 1 dX5_build_37 rfl ?_
      refine z_iaddN (a := 2) (b := hh) dX5_build_38 ?_
      refine z_eq (y := nI (hh + 2)) (congrArg nI (by omega)) ?_
      refine z_dup2_11 dX5_build_39 rfl rfl ?_
      refine tz_iald (v := (I 24) (hh + 2)) 24 (0 + (hh + 2)) hL (by decide) (congrArg nI (by omega)) (by show 0 + (hh + 2) < 1081; omega) (tput_at (by omega)) dX5_build_40 ?_
      refine z_iconst (v := 1) dX5_build_41 (by decide) ?_
      refine z_iadd dX5_build_42 ?_
      obtain ⟨x_8, ex_8⟩ : ∃ y : Int32, (((I 24) (hh + 2)) + 1) = y := ⟨_, rfl⟩
      refine z_eq ex_8 ?_
      refine tz_iast 24 (0 + (hh + 2)) hL (by decide) (congrArg nI (by omega)) (by show 0 + (hh + 2) < 1081; omega) (tput_zs (by omega)) dX5_build_43 ?_
      refine z_aload_n 0 dX5_build_44 rfl ?_
      refine tz_get (v := .ref (L 24)) 24 hL (by decide) q1617 rfl dX5_build_45 ?_
      refine z_iconst (v := 2) dX5_build_48 (by decide) ?_
      refine z_iload_n 1 dX5_build_49 rfl ?_
      refine z_iaddN (a := 2) (b := hh) dX5_build_50 ?_
      refine z_eq (y := nI (hh + 2)) (congrArg nI (by omega)) ?_
      refine tz_iald (v := x_8) 24 (0 + (hh + 2)) hL (by decide) (congrArg nI (by omega)) (by show 0 + (hh + 2) < 1081; omega) ((tput_at (by omega)).trans (by rw [zs1_s])) dX5_build_51 ?_
      exact z_iret dX5_build_52 rfl (Nat.le_of_ble_eq_true rfl) (Nat.le_of_ble_eq_true rfl) (by rw [show s_build I nh u (nI (hh)) = ((tput (s_keep (zs I 99 0 0) u) 0 (zs1 (I 24) (hh + 2) x_8)), x_8) from (by unfold s_build; rw [ncl (by omega), hv]; simp [c_4, ex_8])]; exact ⟨rfl, rfl⟩)
    · -- I 24 (hh + 2) = 9
      refine z_iconst (v := zm1) dX5_build_26 (by decide) ?_
      exact z_iret dX5_build_27 rfl (Nat.le_of_ble_eq_true rfl) (Nat.le_of_ble_eq_true rfl) (by rw [show s_build I nh u (nI (hh)) = ((zs I 99 0 0), zm1) from (by unfold s_build; rw [ncl (by omega), hv]; simp [c_4])]; exact ⟨rfl, rfl⟩)
  · have hv := zb_not hv
    refine z_aload_n 0 dX5_build_5 rfl ?_
    refine z_iload_n 1 dX5_build_6 rfl ?_
    refine z_callV (As := [.int h]) (t_isHouse (I := (zs I 99 0 0)) hL h0 h) q1826 q1828 qs84 q121 q1829 nm_X5_isHouse (tX_obj hL) rfl rfl rfl (Nat.le_of_ble_eq_true rfl) ⟨Nat.le_of_ble_eq_true rfl, Nat.le_of_ble_eq_true rfl⟩ dX5_build_7 rfl rfl (Nat.le_of_ble_eq_true rfl) (Nat.le_of_ble_eq_true rfl) (fun v_9 X_10 hp_11 => ?_)
    obtain ⟨rfl, rfl⟩ := hp_11
    refine z_st (st' := [.int (zb (decide (0 ≤ h) && decide (h < nI nh)))]) rfl ?_
    refine z_if_eqb 26 dX5_build_10 (by decide) (fun c_12 => ?_) (fun c_12 => absurd c_12 (fun h9 => by rw [h9] at hv; exact absurd hv (by decide)))
    refine z_iconst (v := zm1) dX5_build_26 (by decide) ?_
    exact z_iret dX5_build_27 rfl (Nat.le_of_ble_eq_true rfl) (Nat.le_of_ble_eq_true rfl) (by rw [show s_build I nh u h = ((zs I 99 0 0), zm1) from (by unfold s_build; rw [hv]; rfl)]; exact ⟨rfl, rfl⟩)
