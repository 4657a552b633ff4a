/-! THE MODEL: now, on. Printed by t11.py -/
set_option maxRecDepth 100000
theorem t_passesE {g : zG} {L : Nat → Nat} {I : Nat → Nat → Int32} {J : Nat → Nat → Int64} {Gb : Nat → Nat → Int32} {X : zX} (hL : tok g L) {vs op ar ds : Nat → Int32} (e10 : I 10 = vs) (e11 : I 11 = op) (e12 : I 12 = ar) (hds : I 27 = ds) {σ : Nat → Int32} {c o : Int32} {nh nd : Nat} {own : Nat → Nat} (hV : s_ok vs nh nd own) {wv : Int32 → Int32 → Int32 → Int32 → Int32} (hlaw : s_law vs op ar wv) (b : Nat) (hb9 : b + 47 ≤ 1081) {now : Nat} (hw : σ 0 = nI now) (hw2 : now + 1 < 2 ^ 30) : zN g m_X5_passes ({ frames := 6, cells := 0, slots := 0, locals := 139 } : Room) [.ref (L 99), .int (nI b)] (tX g L (tput (tco I c o) b σ) J Gb X) (fun rv X' => rv = none ∧ ∃ Gb' : Nat → Nat → Int32, X' = (tX g L (tput (tco I ((s_pass wv vs ds nh nd own now σ).2.1) ((s_pass wv vs ds nh nd own now σ).2.2)) b ((s_pass wv vs ds nh nd own now σ).1)) J Gb' X)) := by
  subst e10 e11 e12 hds
  exact t_passes hL hV hlaw b hb9 hw hw2
set_option maxHeartbeats 4000000 in
theorem t_date {g : zG} {L : Nat → Nat} {I : Nat → Nat → Int32} {J : Nat → Nat → Int64} {Gb : Nat → Nat → Int32} {X : zX} (hL : tok g L) {nh nd : Nat} {own : Nat → Nat} (hV : s_ok (I 10) nh nd own) {wv : Int32 → Int32 → Int32 → Int32 → Int32} (hlaw : s_law (I 10) (I 11) (I 12) wv) {now : Nat} (hw : I 24 0 = nI now) (hw2 : now < 2 ^ 29) {u : Nat} (hu : I 99 25 = nI u) (hu2 : u ≤ 16) : zN g m_X5_date ({ frames := 7, cells := 0, slots := 0, locals := 161 } : Room) [.ref (L 99)] (tX g L I J Gb X) (fun rv X' => rv = some (.int (s_pass wv (I 10) (I 27) nh nd own now (I 24)).2.1) ∧ ∃ (Gb' : Nat → Nat → Int32), X' = tX g L (tput (tco (s_keep (zs I 99 0 0) u) (s_pass wv (I 10) (I 27) nh nd own now (I 24)).2.1 (s_pass wv (I 10) (I 27) nh nd own now (I 24)).2.2) 0 (s_pass wv (I 10) (I 27) nh nd own now (I 24)).1) J Gb' X) := by
  refine zN.of (by decide +kernel) (Nat.le_of_ble_eq_true rfl) rfl ?_
  refine z_lv (lv' := [(0, .ref (L 99))]) [0] rfl ?_
  have hV9 := hV
  obtain ⟨h0, hnh, h1, hnd, hown⟩ := hV9
  refine z_aload_n 0 dX5_date_0 rfl ?_
  refine z_iconst (v := 0) dX5_date_1 (by decide) ?_
  refine tz_put (I' := (zs I 99 0 0)) 0 hL (by decide) q1593 rfl dX5_date_2 ?_
  refine z_aload_n 0 dX5_date_5 rfl ?_
  refine z_callV (As := []) (t_keeps (I := (zs I 99 0 0)) hL (u := u) hu hu2) q1858 q1860 qs90 q121 q1861 nm_X5_keeps (tX_obj hL) rfl rfl rfl (Nat.le_of_ble_eq_true rfl) ⟨Nat.le_of_ble_eq_true rfl, Nat.le_of_ble_eq_true rfl⟩ dX5_date_6 rfl rfl (Nat.le_of_ble_eq_true rfl) (Nat.le_of_ble_eq_true rfl) (fun v_1 X_2 hp_3 => ?_)
  obtain ⟨rfl, rfl⟩ := hp_3
  refine z_X (X' := (tX g L (tput (s_keep (zs I 99 0 0) u) 0 (I 24)) J Gb X)) (congrArg (fun z => tX g L z J Gb X) (tput_eq (fun j hj => (congrArg (s_keep (zs I 99 0 0) u 24) (Nat.zero_add j)).trans (s_keep_0 (by omega)))).symm) ?_
  refine z_st (st' := []) rfl ?_
  refine z_X (X' := (tX g L (tput (tco (s_keep (zs I 99 0 0) u) ((s_keep (zs I 99 0 0) u) 99 28) ((s_keep (zs I 99 0 0) u) 99 29)) 0 (I 24)) J Gb X)) (congrArg (fun z => tX g L (tput z 0 (I 24)) J Gb X) (tco_self (I := (s_keep (zs I 99 0 0) u))).symm) ?_
  refine z_aload_n 0 dX5_date_9 rfl ?_
  refine z_iconst (v := 0) dX5_date_10 (by decide) ?_
  refine z_callV (As := [.int 0]) (t_passesE (I := (s_keep (zs I 99 0 0) u)) (σ := I 24) (c := ((s_keep (zs I 99 0 0) u) 99 28)) (o := ((s_keep (zs I 99 0 0) u) 99 29)) hL (s_keep_a (by decide) (by decide)) (s_keep_a (by decide) (by decide)) (s_keep_a (by decide) (by decide)) (s_keep_a (by decide) (by decide)) hV hlaw 0 (by omega) hw (by omega)) q1866 q1868 qs92 q121 q1869 nm_X5_passes (tX_obj hL) rfl rfl rfl (Nat.le_of_ble_eq_true rfl) ⟨Nat.le_of_ble_eq_true rfl, Nat.le_of_ble_eq_true rfl⟩ dX5_date_11 rfl rfl (Nat.le_of_ble_eq_true rfl) (Nat.le_of_ble_eq_true rfl) (fun v_4 X_5 hp_6 => ?_)
  obtain ⟨rfl, Gb7, rfl⟩ := hp_6
  refine z_st (st' := []) rfl ?_
  refine z_aload_n 0 dX5_date_14 rfl ?_
  refine tz_get (v := .int ((s_pass wv (I 10) (I 27) nh nd own now (I 24)).2.1)) 28 hL (by decide) q1621 rfl dX5_date_15 ?_
  exact z_iret dX5_date_18 rfl (Nat.le_of_ble_eq_true rfl) (Nat.le_of_ble_eq_true rfl) ⟨rfl, Gb7, rfl⟩
set_option maxHeartbeats 4000000 in
theorem t_undo {g : zG} {L : Nat → Nat} {I : Nat → Nat → Int32} {J : Nat → Nat → Int64} {Gb : Nat → Nat → Int32} {X : zX} (hL : tok g L) {u : Nat} (hu : I 99 25 = nI u) (hu2 : u ≤ 16) : zN g m_X5_undo ({ frames := 1, cells := 0, slots := 0, locals := 24 } : Room) [.ref (L 99)] (tX g L I J Gb X) (fun rv X' => rv = some (.int (zb (decide (¬ u = 0)))) ∧ X' = tX g L (s_undo (zs I 99 0 0) u) J Gb X) := by
  refine zN.of (by decide +kernel) (Nat.le_of_ble_eq_true rfl) rfl ?_
  refine z_lv (lv' := [(0, .ref (L 99))]) [0] rfl ?_
  refine z_aload_n 0 dX5_undo_0 rfl ?_
  refine z_iconst (v := 0) dX5_undo_1 (by decide) ?_
  refine tz_put (I' := (zs I 99 0 0)) 0 hL (by decide) q1593 rfl dX5_undo_2 ?_
  refine z_aload_n 0 dX5_undo_5 rfl ?_
  refine tz_get (v := .int (nI (u))) 25 hL (by decide) q1618 (congrArg (fun z => some (Value.int z)) hu) dX5_undo_6 ?_
  refine z_if_neN 14 (by omega) dX5_undo_9 (by decide) (fun c_1 => ?_) (fun c_1 => ?_)
  · -- u ≠ 0
    obtain ⟨v, rfl⟩ : ∃ v, u = v + 1 := ⟨u - 1, by omega⟩
    refine z_aload_n 0 dX5_undo_14 rfl ?_
    refine z_dup dX5_undo_15 rfl ?_
    refine tz_get (v := .int (nI (v + 1))) 25 hL (by decide) q1618 (congrArg (fun z => some (Value.int z)) hu) dX5_undo_16 ?_
    refine z_iconst (v := 1) dX5_undo_19 (by decide) ?_
    refine z_isubN (a := v + 1) (b := 1) (by omega) dX5_undo_20 ?_
    refine z_eq (y := nI (v)) (congrArg nI (by omega)) ?_
    refine tz_put (I' := (zs (zs I 99 0 0) 99 25 (nI (v)))) 25 hL (by decide) q1618 rfl dX5_undo_21 ?_
    refine z_aload_n 0 dX5_undo_24 rfl ?_
    refine z_bipush (v := 47) dX5_undo_25 (by decide) ?_
    refine z_iconst (v := 5) dX5_undo_27 (by decide) ?_
    refine z_aload_n 0 dX5_undo_28 rfl ?_
    refine tz_get (v := .int (nI (v))) 25 hL (by decide) q1618 rfl dX5_undo_29 ?_
    refine z_iaddN (a := 5) (b := v) dX5_undo_32 ?_
    refine z_eq (y := nI (v + 5)) (congrArg nI (by omega)) ?_
    refine z_imulN (a := 47) (b := v + 5) dX5_undo_33 ?_
    refine z_eq (y := nI (47 * v + 235)) (congrArg nI (by omega)) ?_
    refine z_iconst (v := 0) dX5_undo_34 (by decide) ?_
    refine z_bipush (v := 30) dX5_undo_35 (by decide) ?_
    refine z_callV (As := [.int (nI (47 * v + 235)), .int 0, .int 30]) (t_copies (I := (zs (zs I 99 0 0) 99 25 (nI (v)))) hL (47 * v + 235) 0 30 (by omega) (by omega) (by omega)) q1862 q1864 qs91 q121 q1865 nm_X5_copies (tX_obj hL) rfl rfl rfl (Nat.le_of_ble_eq_true rfl) ⟨Nat.le_of_ble_eq_true rfl, Nat.le_of_ble_eq_true rfl⟩ dX5_undo_37 rfl rfl (Nat.le_of_ble_eq_true rfl) (Nat.le_of_ble_eq_true rfl) (fun v_2 X_3 hp_4 => ?_)
    obtain ⟨rfl, rfl⟩ := hp_4
    refine z_X (X' := (tX g L (zs (zs (s_copy I (47 * v + 235) 0 30) 99 0 0) 99 25 (nI (v))) J Gb X)) (by rw [s_copy_z (by decide), s_copy_z (by decide)]) ?_
    refine z_st (st' := []) rfl ?_
    refine z_iconst (v := 1) dX5_undo_40 (by decide) ?_
    exact z_zret dX5_undo_41 rfl (by first | rfl | decide | exact zb_nar _) (Nat.le_of_ble_eq_true rfl) (Nat.le_of_ble_eq_true rfl) ⟨congrArg some (congrArg Value.int (by simp [zb, c_1])), by unfold s_undo; first | (rw [if_pos (by omega)]) | (rw [if_neg (by omega), s_copy_z (by decide)]; rfl)⟩
  · -- u = 0
    refine z_iconst (v := 0) dX5_undo_12 (by decide) ?_
    exact z_zret dX5_undo_13 rfl (by first | rfl | decide | exact zb_nar _) (Nat.le_of_ble_eq_true rfl) (Nat.le_of_ble_eq_true rfl) ⟨congrArg some (congrArg Value.int (by simp [zb, c_1])), by unfold s_undo; first | (rw [if_pos (by omega)]) | (rw [if_neg (by omega), s_copy_z (by decide)]; rfl)⟩
set_option maxHeartbeats 4000000 in
theorem t_see {g : zG} {L : Nat → Nat} {I : Nat → Nat → Int32} {J : Nat → Nat → Int64} {Gb : Nat → Nat → Int32} {X : zX} (hL : tok g L) {nh nd : Nat} {own : Nat → Nat} (hV : s_ok (I 10) nh nd own) {sm : Nat} (hsm : I 24 30 = nI sm) (hsm2 : sm ≤ 8) (h m : Int32) : zN g m_X5_see ({ frames := 2, cells := 0, slots := 0, locals := 41 } : Room) [.ref (L 99), .int h, .int m] (tX g L I J Gb X) (fun rv X' => rv = some (.int (zb (s_see (zs I 99 0 0) nh sm h m).2)) ∧ X' = tX g L (s_see (zs I 99 0 0) nh sm h m).1 J Gb X) := by
  refine zN.of (by decide +kernel) (Nat.le_of_ble_eq_true rfl) rfl ?_
  refine z_lv (lv' := [(0, .ref (L 99)), (1, .int h), (2, .int m)]) [0, 1, 2] rfl ?_
  have hV9 := hV
  obtain ⟨h0, hnh, h1, hnd, hown⟩ := hV9
  refine z_aload_n 0 dX5_see_0 rfl ?_
  refine z_iconst (v := 0) dX5_see_1 (by decide) ?_
  refine tz_put (I' := (zs I 99 0 0)) 0 hL (by decide) q1593 rfl dX5_see_2 ?_
  refine z_iload_n 1 dX5_see_5 rfl ?_
  refine z_iconst (v := zm1) dX5_see_6 (by decide) ?_
  refine z_icmp_eq 18 dX5_see_7 (by decide) (fun c_1 => ?_) (fun c_1 => ?_)
  · -- h = zm1
    refine z_iload_n 2 dX5_see_18 rfl ?_
    refine z_iconst (v := 0) dX5_see_19 (by decide) ?_
    refine z_bipush (v := 24) dX5_see_20 (by decide) ?_
    refine z_callS (As := [.int m, .int 0, .int 24]) (t_within m 0 24) q1771 q1772 q121 q1773 nm_X5_within rfl (Nat.le_of_ble_eq_true rfl) ⟨Nat.le_of_ble_eq_true rfl, Nat.le_of_ble_eq_true rfl⟩ dX5_see_22 rfl rfl (Nat.le_of_ble_eq_true rfl) (Nat.le_of_ble_eq_true rfl) (fun v_2 X_3 hp_4 => ?_)
    obtain ⟨rfl, rfl⟩ := hp_4
    refine z_st (st' := [.int (zb (decide (0 ≤ m) && decide (m ≤ 24)))]) rfl ?_
    refine z_if_eqb 40 dX5_see_25 (by decide) (fun c_5 => ?_) (fun c_5 => ?_)
    · -- decide (0 ≤ m) && decide (m ≤ 24) = false
      refine z_iconst (v := 0) dX5_see_40 (by decide) ?_
      exact z_zret dX5_see_41 rfl (by first | rfl | decide | exact zb_nar _) (Nat.le_of_ble_eq_true rfl) (Nat.le_of_ble_eq_true rfl) (by rw [show s_see (zs I 99 0 0) nh sm h m = ((zs I 99 0 0), false) from (by unfold s_see; (first | rw [decide_eq_true c_1] | rw [show decide (¬ h = zm1) = false from decide_eq_false (fun h9 => h9 c_1)] | skip); (first | rw [c_5] | skip); rfl)]; exact ⟨rfl, rfl⟩)
    · -- decide (0 ≤ m) && decide (m ≤ 24) = true
      refine z_aload_n 0 dX5_see_28 rfl ?_
      refine tz_get (v := .ref (L 24)) 24 hL (by decide) q1617 rfl dX5_see_29 ?_
      refine z_bipush (v := 30) dX5_see_32 (by decide) ?_
      refine tz_iald (v := nI (sm)) 24 (30) hL (by decide) rfl (by show 30 < 1081; omega) hsm dX5_see_34 ?_
      refine z_bipush (v := 8) dX5_see_35 (by decide) ?_
      refine z_icmp_neN (a := sm) (b := 8) 42 (by omega) (by omega) dX5_see_37 (by decide) (fun c_6 => ?_) (fun c_6 => ?_)
      · -- sm ≠ 8
        refine z_bipush (v := 31) dX5_see_42 (by decide) ?_
        refine z_iconst (v := 2) dX5_see_44 (by decide) ?_
        refine z_aload_n 0 dX5_see_45 rfl ?_
        refine tz_get (v := .ref (L 24)) 24 hL (by decide) q1617 rfl dX5_see_46 ?_
        refine z_bipush (v := 30) dX5_see_49 (by decide) ?_
        refine tz_iald (v := nI (sm)) 24 (30) hL (by decide) rfl (by show 30 < 1081; omega) hsm dX5_see_51 ?_
        refine z_imulN (a := 2) (b := sm) dX5_see_52 ?_
        refine z_iaddN (a := 31) (b := 2 * sm) dX5_see_53 ?_
        refine z_eq (y := nI (2 * sm + 31)) (congrArg nI (by omega)) ?_
        refine z_istore_n (lv' := [(3, .int (nI (2 * sm + 31))), (0, .ref (L 99)), (1, .int h), (2, .int m)]) dX5_see_54 rfl (by decide) rfl ?_
        refine z_aload_n 1 dX5_see_55 rfl ?_
        refine tz_get (v := .ref (L 24)) 24 hL (by decide) q1617 rfl dX5_see_56 ?_
        refine z_iload_n 0 dX5_see_59 rfl ?_
        refine z_iload_n 2 dX5_see_60 rfl ?_
        refine tz_iast 24 (2 * sm + 31) hL (by decide) rfl (by show 2 * sm + 31 < 1081; omega) rfl dX5_see_61 ?_
        refine z_aload_n 1 dX5_see_62 rfl ?_
        refine tz_get (v := .ref (L 24)) 24 hL (by decide) q1617 rfl dX5_see_63 ?_
        refine z_iload_n 0 dX5_see_66 rfl ?_
        refine z_iconst (v := 1) dX5_see_67 (by decide) ?_
        refine z_iaddN (a := 2 * sm + 31) (b := 1) dX5_see_68 ?_
        refine z_eq (y := nI (2 * sm + 32)) (congrArg nI (by omega)) ?_
        refine z_iload_n 3 dX5_see_69 rfl ?_
        refine tz_iast 24 (2 * sm + 32) hL (by decide) rfl (by show 2 * sm + 32 < 1081; omega) rfl dX5_see_70 ?_
        refine z_aload_n 1 dX5_see_71 rfl ?_
        refine tz_get (v := .ref (L 24)) 24 hL (by decide) q1617 rfl dX5_see_72 ?_
        refine z_bipush (v := 30) dX5_see_75 (by decide) ?_
        refine z_dup2_11 dX5_see_77 rfl rfl ?_
        refine tz_iald (v := nI (sm)) 24 (30) hL (by decide) rfl (by show 30 < 1081; omega) ((by simp [zs, tput] : (zs (zs (zs I 99 0 0) 24 (2 * sm + 31) h) 24 (2 * sm + 32) m) 24 30 = I 24 30).trans hsm) dX5_see_78 ?_
        refine z_iconst (v := 1) dX5_see_79 (by decide) ?_
        refine z_iaddN (a := sm) (b := 1) dX5_see_80 ?_
        refine tz_iast 24 (30) hL (by decide) rfl (by show 30 < 1081; omega) rfl dX5_see_81 ?_
        refine z_iconst (v := 1) dX5_see_82 (by decide) ?_
        exact z_zret dX5_see_83 rfl (by first | rfl | decide | exact zb_nar _) (Nat.le_of_ble_eq_true rfl) (Nat.le_of_ble_eq_true rfl) (by rw [show s_see (zs I 99 0 0) nh sm h m = ((zs (zs (zs (zs I 99 0 0) 24 (2 * sm + 31) h) 24 (2 * sm + 32) m) 24 30 (nI (sm + 1))), true) from (by unfold s_see; (first | rw [decide_eq_true c_1] | rw [show decide (¬ h = zm1) = false from decide_eq_false (fun h9 => h9 c_1)] | skip); (first | rw [c_5] | skip); (first | rw [decide_eq_false c_6] | rw [decide_eq_true c_6] | skip); rfl)]; exact ⟨rfl, rfl⟩)
      · -- sm = 8
        refine z_iconst (v := 0) dX5_see_40 (by decide) ?_
        exact z_zret dX5_see_41 rfl (by first | rfl | decide | exact zb_nar _) (Nat.le_of_ble_eq_true rfl) (Nat.le_of_ble_eq_true rfl) (by rw [show s_see (zs I 99 0 0) nh sm h m = ((zs I 99 0 0), false) from (by unfold s_see; (first | rw [decide_eq_true c_1] | rw [show decide (¬ h = zm1) = false from decide_eq_false (fun h9 => h9 c_1)] | skip); (first | rw [c_5] | skip); (first | rw [decide_eq_true c_6] | rw [show decide (¬ sm = 8) = false from decide_eq_false (fun h9 => h9 c_6)] | skip); rfl)]; exact ⟨rfl, rfl⟩)
  · -- ¬ h = zm1
    refine z_aload_n 0 dX5_see_10 rfl ?_
    refine z_iload_n 1 dX5_see_11 rfl ?_
    refine z_callV (As := [.int h]) (t_isHouse (I := (zs I 99 0 0)) hL h0 h) q1826 q1828 qs84 q121 q1829 nm_X5_isHouse (tX_obj hL) rfl rfl rfl (Nat.le_of_ble_eq_true rfl) ⟨Nat.le_of_ble_eq_true rfl, Nat.le_of_ble_eq_true rfl⟩ dX5_see_12 rfl rfl (Nat.le_of_ble_eq_true rfl) (Nat.le_of_ble_eq_true rfl) (fun v_7 X_8 hp_9 => ?_)
    obtain ⟨rfl, rfl⟩ := hp_9
    refine z_st (st' := [.int (zb (decide (0 ≤ h) && decide (h < nI nh)))]) rfl ?_
    refine z_if_eqb 40 dX5_see_15 (by decide) (fun c_10 => ?_) (fun c_10 => ?_)
    · -- decide (0 ≤ h) && decide (h < nI nh) = false
      refine z_iconst (v := 0) dX5_see_40 (by decide) ?_
      exact z_zret dX5_see_41 rfl (by first | rfl | decide | exact zb_nar _) (Nat.le_of_ble_eq_true rfl) (Nat.le_of_ble_eq_true rfl) (by rw [show s_see (zs I 99 0 0) nh sm h m = ((zs I 99 0 0), false) from (by unfold s_see; (first | rw [decide_eq_false c_1] | rw [decide_eq_true c_1] | skip); (first | rw [c_10] | skip); rfl)]; exact ⟨rfl, rfl⟩)
    · -- decide (0 ≤ h) && decide (h < nI nh) = true
      refine z_iload_n 2 dX5_see_18 rfl ?_
      refine z_iconst (v := 0) dX5_see_19 (by decide) ?_
      refine z_bipush (v := 24) dX5_see_20 (by decide) ?_
      refine z_callS (As := [.int m, .int 0, .int 24]) (t_within m 0 24) q1771 q1772 q121 q1773 nm_X5_within rfl (Nat.le_of_ble_eq_true rfl) ⟨Nat.le_of_ble_eq_true rfl, Nat.le_of_ble_eq_true rfl⟩ dX5_see_22 rfl rfl (Nat.le_of_ble_eq_true rfl) (Nat.le_of_ble_eq_true rfl) (fun v_11 X_12 hp_13 => ?_)
      obtain ⟨rfl, rfl⟩ := hp_13
      refine z_st (st' := [.int (zb (decide (0 ≤ m) && decide (m ≤ 24)))]) rfl ?_
      refine z_if_eqb 40 dX5_see_25 (by decide) (fun c_14 => ?_) (fun c_14 => ?_)
      · -- decide (0 ≤ m) && decide (m ≤ 24) = false
        refine z_iconst (v := 0) dX5_see_40 (by decide) ?_
        exact z_zret dX5_see_41 rfl (by first | rfl | decide | exact zb_nar _) (Nat.le_of_ble_eq_true rfl) (Nat.le_of_ble_eq_true rfl) (by rw [show s_see (zs I 99 0 0) nh sm h m = ((zs I 99 0 0), false) from (by unfold s_see; (first | rw [decide_eq_false c_1] | rw [decide_eq_true c_1] | skip); (first | rw [c_10] | skip); (first | rw [c_14] | skip); rfl)]; exact ⟨rfl, rfl⟩)
      · -- decide (0 ≤ m) && decide (m ≤ 24) = true
        refine z_aload_n 0 dX5_see_28 rfl ?_
        refine tz_get (v := .ref (L 24)) 24 hL (by decide) q1617 rfl dX5_see_29 ?_
        refine z_bipush (v := 30) dX5_see_32 (by decide) ?_
        refine tz_iald (v := nI (sm)) 24 (30) hL (by decide) rfl (by show 30 < 1081; omega) hsm dX5_see_34 ?_
        refine z_bipush (v := 8) dX5_see_35 (by decide) ?_
        refine z_icmp_neN (a := sm) (b := 8) 42 (by omega) (by omega) dX5_see_37 (by decide) (fun c_15 => ?_) (fun c_15 => ?_)
        · -- sm ≠ 8
          refine z_bipush (v := 31) dX5_see_42 (by decide) ?_
          refine z_iconst (v := 2) dX5_see_44 (by decide) ?_
          refine z_aload_n 0 dX5_see_45 rfl ?_
          refine tz_get (v := .ref (L 24)) 24 hL (by decide) q1617 rfl dX5_see_46 ?_
          refine z_bipush (v := 30) dX5_see_49 (by decide) ?_
          refine tz_iald (v := nI (sm)) 24 (30) hL (by decide) rfl (by show 30 < 1081; omega) hsm dX5_see_51 ?_
          refine z_imulN (a := 2) (b := sm) dX5_see_52 ?_
          refine z_iaddN (a := 31) (b := 2 * sm) dX5_see_53 ?_
          refine z_eq (y := nI (2 * sm + 31)) (congrArg nI (by omega)) ?_
          refine z_istore_n (lv' := [(3, .int (nI (2 * sm + 31))), (0, .ref (L 99)), (1, .int h), (2, .int m)]) dX5_see_54 rfl (by decide) rfl ?_
          refine z_aload_n 1 dX5_see_55 rfl ?_
          refine tz_get (v := .ref (L 24)) 24 hL (by decide) q1617 rfl dX5_see_56 ?_
          refine z_iload_n 0 dX5_see_59 rfl ?_
          refine z_iload_n 2 dX5_see_60 rfl ?_
          refine tz_iast 24 (2 * sm + 31) hL (by decide) rfl (by show 2 * sm + 31 < 1081; omega) rfl dX5_see_61 ?_
          refine z_aload_n 1 dX5_see_62 rfl ?_
          refine tz_get (v := .ref (L 24)) 24 hL (by decide) q1617 rfl dX5_see_63 ?_
          refine z_iload_n 0 dX5_see_66 rfl ?_
          refine z_iconst (v := 1) dX5_see_67 (by decide) ?_
          refine z_iaddN (a := 2 * sm + 31) (b := 1) dX5_see_68 ?_
          refine z_eq (y := nI (2 * sm + 32)) (congrArg nI (by omega)) ?_
          refine z_iload_n 3 dX5_see_69 rfl ?_
          refine tz_iast 24 (2 * sm + 32) hL (by decide) rfl (by show 2 * sm + 32 < 1081; omega) rfl dX5_see_70 ?_
          refine z_aload_n 1 dX5_see_71 rfl ?_
          refine tz_get (v := .ref (L 24)) 24 hL (by decide) q1617 rfl dX5_see_72 ?_
          refine z_bipush (v := 30) dX5_see_75 (by decide) ?_
          refine z_dup2_11 dX5_see_77 rfl rfl ?_
          refine tz_iald (v := nI (sm)) 24 (30) hL (by decide) rfl (by show 30 < 1081; omega) ((by simp [zs, tput] : (zs (zs (zs I 99 0 0) 24 (2 * sm + 31) h) 24 (2 * sm + 32) m) 24 30 = I 24 30).trans hsm) dX5_see_78 ?_
          refine z_iconst (v := 1) dX5_see_79 (by decide) ?_
          refine z_iaddN (a := sm) (b := 1) dX5_see_80 ?_
          refine tz_iast 24 (30) hL (by decide) rfl (by show 30 < 1081; omega) rfl dX5_see_81 ?_
          refine z_iconst (v := 1) dX5_see_82 (by decide) ?_
          exact z_zret dX5_see_83 rfl (by first | rfl | decide | exact zb_nar _) (Nat.le_of_ble_eq_true rfl) (Nat.le_of_ble_eq_true rfl) (by rw [show s_see (zs I 99 0 0) nh sm h m = ((zs (zs (zs (zs I 99 0 0) 24 (2 * sm + 31) h) 24 (2 * sm + 32) m) 24 30 (nI (sm + 1))), true) from (by unfold s_see; (first | rw [decide_eq_false c_1] | rw [decide_eq_true c_1] | skip); (first | rw [c_10] | skip); (first | rw [c_14] | skip); (first | rw [decide_eq_false c_15] | rw [decide_eq_true c_15] | skip); rfl)]; exact ⟨rfl, rfl⟩)
        · -- sm = 8
          refine z_iconst (v := 0) dX5_see_40 (by decide) ?_
          exact z_zret dX5_see_41 rfl (by first | rfl | decide | exact zb_nar _) (Nat.le_of_ble_eq_true rfl) (Nat.le_of_ble_eq_true rfl) (by rw [show s_see (zs I 99 0 0) nh sm h m = ((zs I 99 0 0), false) from (by unfold s_see; (first | rw [decide_eq_false c_1] | rw [decide_eq_true c_1] | skip); (first | rw [c_10] | skip); (first | rw [c_14] | skip); (first | rw [decide_eq_true c_15] | rw [show decide (¬ sm = 8) = false from decide_eq_false (fun h9 => h9 c_15)] | skip); rfl)]; exact ⟨rfl, rfl⟩)
set_option maxHeartbeats 4000000 in
theorem t_bedsOfAll {g : zG} {L : Nat → Nat} {I : Nat → Nat → Int32} {J : Nat → Nat → Int64} {Gb : Nat → Nat → Int32} {X : zX} (hL : tok g L) {nh nd : Nat} {own : Nat → Nat} (hV : s_ok (I 10) nh nd own) : zN g m_X5_bedsOfAll ({ frames := 1, cells := 0, slots := 0, locals := 20 } : Room) [.ref (L 99)] (tX g L I J Gb X) (fun rv X' => rv = some (.int (s_sum (fun h => I 24 (h + 2)) nh)) ∧ X' = (tX g L I J Gb X)) := by
  refine zN.of (by decide +kernel) (Nat.le_of_ble_eq_true rfl) rfl ?_
  refine z_lv (lv' := [(0, .ref (L 99))]) [0] rfl ?_
  have hV9 := hV
  obtain ⟨h0, hnh, h1, hnd, hown⟩ := hV9
  refine z_iconst (v := 0) dX5_bedsOfAll_0 (by decide) ?_
  refine z_istore_n (lv' := [(1, .int 0), (0, .ref (L 99))]) dX5_bedsOfAll_1 rfl (by decide) rfl ?_
  refine z_iconst (v := 0) dX5_bedsOfAll_2 (by decide) ?_
  refine z_istore_n (lv' := [(2, .int 0), (1, .int 0), (0, .ref (L 99))]) dX5_bedsOfAll_3 rfl (by decide) rfl ?_
  have loop_5 : ∀ (q_2 i_1 : Nat), i_1 + q_2 = nh → 0 ≤ i_1 → zZ g m_X5_bedsOfAll (fun rv X' => rv = some (.int (s_sum (fun h => I 24 (h + 2)) nh)) ∧ X' = (tX g L I J Gb X), zno, ({ frames := 1, cells := 0, slots := 0, locals := 20 } : Room)) 0 0 (tX g L I J Gb X) 4 [(0, .ref (L 99)), (1, .int (s_sum (fun h => I 24 (h + 2)) i_1)), (2, .int (nI (i_1)))] [] := by
    intro q_2
    induction q_2 with
    | zero =>
      intro i_1 hb_4 lo_6  
      obtain rfl : nh = i_1 := by omega
      refine z_iload_n 2 dX5_bedsOfAll_4 rfl ?_
      refine z_aload_n 0 dX5_bedsOfAll_5 rfl ?_
      refine z_callV (As := []) (t_houses (I := I) hL h0) q1585 q1587 qs56 q121 q1588 nm_X5_houses (tX_obj hL) rfl rfl rfl (Nat.le_of_ble_eq_true rfl) ⟨Nat.le_of_ble_eq_true rfl, Nat.le_of_ble_eq_true rfl⟩ dX5_bedsOfAll_6 rfl rfl (Nat.le_of_ble_eq_true rfl) (Nat.le_of_ble_eq_true rfl) (fun v_7 X_8 hp_9 => ?_)
      obtain ⟨rfl, rfl⟩ := hp_9
      refine z_st (st' := [.int (nI (nh)), .int (nI (nh))]) rfl ?_
      refine z_icmp_geN (a := nh) (b := nh) 29 (by omega) (by omega) dX5_bedsOfAll_9 (by decide) (fun c_10 => ?_) (fun c_10 => absurd c_10 (by omega))
      refine z_iload_n 1 dX5_bedsOfAll_29 rfl ?_
      exact z_iret dX5_bedsOfAll_30 rfl (Nat.le_of_ble_eq_true rfl) (Nat.le_of_ble_eq_true rfl) ⟨congrArg some (congrArg Value.int (by first | rfl | (simp [s_sum, hb_4, c_10]; done) | (skip; simp [s_sum, hb_4, c_10]))), (by first | rfl | (simp [s_sum, hb_4, c_10]; done) | (skip; simp [s_sum, hb_4, c_10]))⟩
    | succ q_2 ih_3 =>
      intro i_1 hb_4 lo_6  
      refine z_iload_n 2 dX5_bedsOfAll_4 rfl ?_
      refine z_aload_n 0 dX5_bedsOfAll_5 rfl ?_
      refine z_callV (As := []) (t_houses (I := I) hL h0) q1585 q1587 qs56 q121 q1588 nm_X5_houses (tX_obj hL) rfl rfl rfl (Nat.le_of_ble_eq_true rfl) ⟨Nat.le_of_ble_eq_true rfl, Nat.le_of_ble_eq_true rfl⟩ dX5_bedsOfAll_6 rfl rfl (Nat.le_of_ble_eq_true rfl) (Nat.le_of_ble_eq_true rfl) (fun v_11 X_12 hp_13 => ?_)
      obtain ⟨rfl, rfl⟩ := hp_13
      refine z_st (st' := [.int (nI (nh)), .int (nI (i_1))]) rfl ?_
      refine z_icmp_geN (a := i_1) (b := nh) 29 (by omega) (by omega) dX5_bedsOfAll_9 (by decide) (fun c_14 => absurd c_14 (by omega)) (fun c_14 => ?_)
      refine z_iload_n 1 dX5_bedsOfAll_12 rfl ?_
      refine z_aload_n 0 dX5_bedsOfAll_13 rfl ?_
      refine tz_get (v := .ref (L 24)) 24 hL (by decide) q1617 rfl dX5_bedsOfAll_14 ?_
      refine z_iconst (v := 2) dX5_bedsOfAll_17 (by decide) ?_
      refine z_iload_n 2 dX5_bedsOfAll_18 rfl ?_
      refine z_iaddN (a := 2) (b := i_1) dX5_bedsOfAll_19 ?_
      refine z_eq (y := nI (i_1 + 2)) (congrArg nI (by omega)) ?_
      refine tz_iald (v := I 24 (i_1 + 2)) 24 (i_1 + 2) hL (by decide) rfl (by show i_1 + 2 < 1081; omega) rfl dX5_bedsOfAll_20 ?_
      refine z_iadd dX5_bedsOfAll_21 ?_
      obtain ⟨x_15, ex_15⟩ : ∃ y : Int32, ((s_sum (fun h => I 24 (h + 2)) i_1) + (I 24 (i_1 + 2))) = y := ⟨_, rfl⟩
      refine z_eq ex_15 ?_
      refine z_istore_n (lv' := [(1, .int x_15), (0, .ref (L 99)), (2, .int (nI (i_1)))]) dX5_bedsOfAll_22 rfl (by decide) rfl ?_
      refine z_iinc (v := nI (i_1 + 1)) (lv' := [(2, .int (nI (i_1 + 1))), (1, .int x_15), (0, .ref (L 99))]) 2 dX5_bedsOfAll_23 rfl (nI_1 _) (by decide) rfl ?_
      refine z_goto 4 dX5_bedsOfAll_26 (by decide) ?_
      have f_16 : x_15 = s_sum (fun h => I 24 (h + 2)) (i_1 + 1) := by first | rfl | omega | (simp [s_sum, hb_4, c_14]; done) | ((try subst ex_15); simp [s_sum, hb_4, c_14])
      subst f_16
      refine z_lv (lv' := [(0, .ref (L 99)), (1, .int (s_sum (fun h => I 24 (h + 2)) (i_1 + 1))), (2, .int (nI (i_1 + 1)))]) [2, 1, 0] rfl ?_
      exact ih_3 (i_1 + 1) (by omega) (by omega)  
  have f_17 : 0 = s_sum (fun h => I 24 (h + 2)) 0 := by first | rfl | omega | (simp [s_sum]; done) | (skip; simp [s_sum])
  refine z_lv (lv' := [(0, .ref (L 99)), (1, .int (s_sum (fun h => I 24 (h + 2)) 0)), (2, .int 0)]) [2, 1, 0] (by rw [← f_17]; rfl) ?_
  exact loop_5 (nh - 0) 0 (by omega) (Nat.le_refl _)  
set_option maxHeartbeats 4000000 in
theorem t_fadedNow {g : zG} {L : Nat → Nat} {I : Nat → Nat → Int32} {J : Nat → Nat → Int64} {Gb : Nat → Nat → Int32} {X : zX} (hL : tok g L) {nh nd : Nat} {own : Nat → Nat} (hV : s_ok (I 10) nh nd own) : zN g m_X5_fadedNow ({ frames := 1, cells := 0, slots := 0, locals := 20 } : Room) [.ref (L 99)] (tX g L I J Gb X) (fun rv X' => rv = some (.int (s_set (fun d => decide (I 24 (d + 18) = 0)) nd)) ∧ X' = (tX g L I J Gb X)) := by
  refine zN.of (by decide +kernel) (Nat.le_of_ble_eq_true rfl) rfl ?_
  refine z_lv (lv' := [(0, .ref (L 99))]) [0] rfl ?_
  have hV9 := hV
  obtain ⟨h0, hnh, h1, hnd, hown⟩ := hV9
  refine z_iconst (v := 0) dX5_fadedNow_0 (by decide) ?_
  refine z_istore_n (lv' := [(1, .int 0), (0, .ref (L 99))]) dX5_fadedNow_1 rfl (by decide) rfl ?_
  refine z_iconst (v := 0) dX5_fadedNow_2 (by decide) ?_
  refine z_istore_n (lv' := [(2, .int 0), (1, .int 0), (0, .ref (L 99))]) dX5_fadedNow_3 rfl (by decide) rfl ?_
  have loop_5 : ∀ (q_2 i_1 : Nat), i_1 + q_2 = nd → 0 ≤ i_1 → zZ g m_X5_fadedNow (fun rv X' => rv = some (.int (s_set (fun d => decide (I 24 (d + 18) = 0)) nd)) ∧ X' = (tX g L I J Gb X), zno, ({ frames := 1, cells := 0, slots := 0, locals := 20 } : Room)) 0 0 (tX g L I J Gb X) 4 [(0, .ref (L 99)), (1, .int (s_set (fun d => decide (I 24 (d + 18) = 0)) i_1)), (2, .int (nI (i_1)))] [] := by
    intro q_2
    induction q_2 with
    | zero =>
      intro i_1 hb_4 lo_6  
      obtain rfl : nd = i_1 := by omega
      refine z_iload_n 2 dX5_fadedNow_4 rfl ?_
      refine z_aload_n 0 dX5_fadedNow_5 rfl ?_
      refine z_callV (As := []) (t_days (I := I) hL h1) q1573 q1575 qs53 q121 q1576 nm_X5_days (tX_obj hL) rfl rfl rfl (Nat.le_of_ble_eq_true rfl) ⟨Nat.le_of_ble_eq_true rfl, Nat.le_of_ble_eq_true rfl⟩ dX5_fadedNow_6 rfl rfl (Nat.le_of_ble_eq_true rfl) (Nat.le_of_ble_eq_true rfl) (fun v_7 X_8 hp_9 => ?_)
      obtain ⟨rfl, rfl⟩ := hp_9
      refine z_st (st' := [.int (nI (nd)), .int (nI (nd))]) rfl ?_
      refine z_icmp_geN (a := nd) (b := nd) 40 (by omega) (by omega) dX5_fadedNow_9 (by decide) (fun c_10 => ?_) (fun c_10 => absurd c_10 (by omega))
      refine z_iload_n 1 dX5_fadedNow_40 rfl ?_
      exact z_iret dX5_fadedNow_41 rfl (Nat.le_of_ble_eq_true rfl) (Nat.le_of_ble_eq_true rfl) ⟨congrArg some (congrArg Value.int (by first | rfl | (simp [s_set, s_bit, hb_4, c_10]; done) | (skip; simp [s_set, s_bit, hb_4, c_10]))), (by first | rfl | (simp [s_set, s_bit, hb_4, c_10]; done) | (skip; simp [s_set, s_bit, hb_4, c_10]))⟩
    | succ q_2 ih_3 =>
      intro i_1 hb_4 lo_6  
      refine z_iload_n 2 dX5_fadedNow_4 rfl ?_
      refine z_aload_n 0 dX5_fadedNow_5 rfl ?_
      refine z_callV (As := []) (t_days (I := I) hL h1) q1573 q1575 qs53 q121 q1576 nm_X5_days (tX_obj hL) rfl rfl rfl (Nat.le_of_ble_eq_true rfl) ⟨Nat.le_of_ble_eq_true rfl, Nat.le_of_ble_eq_true rfl⟩ dX5_fadedNow_6 rfl rfl (Nat.le_of_ble_eq_true rfl) (Nat.le_of_ble_eq_true rfl) (fun v_11 X_12 hp_13 => ?_)
      obtain ⟨rfl, rfl⟩ := hp_13
      refine z_st (st' := [.int (nI (nd)), .int (nI (i_1))]) rfl ?_
      refine z_icmp_geN (a := i_1) (b := nd) 40 (by omega) (by omega) dX5_fadedNow_9 (by decide) (fun c_14 => absurd c_14 (by omega)) (fun c_14 => ?_)
      refine z_iload_n 1 dX5_fadedNow_12 rfl ?_
      refine z_aload_n 0 dX5_fadedNow_13 rfl ?_
      refine tz_get (v := .ref (L 24)) 24 hL (by decide) q1617 rfl dX5_fadedNow_14 ?_
      refine z_bipush (v := 18) dX5_fadedNow_17 (by decide) ?_
      refine z_iload_n 2 dX5_fadedNow_19 rfl ?_
      refine z_iaddN (a := 18) (b := i_1) dX5_fadedNow_20 ?_
      refine z_eq (y := nI (i_1 + 18)) (congrArg nI (by omega)) ?_
      refine tz_iald (v := I 24 (i_1 + 18)) 24 (i_1 + 18) hL (by decide) rfl (by show i_1 + 18 < 1081; omega) rfl dX5_fadedNow_21 ?_
      refine z_if_ne 31 dX5_fadedNow_22 (by decide) (fun c_15 => ?_) (fun c_15 => ?_)
      · -- ¬ I 24 (i_1 + 18) = 0
        refine z_iconst (v := 0) dX5_fadedNow_31 (by decide) ?_
        refine z_ior dX5_fadedNow_32 ?_
        obtain ⟨x_16, ex_16⟩ : ∃ y : Int32, ((s_set (fun d => decide (I 24 (d + 18) = 0)) i_1) ||| 0) = y := ⟨_, rfl⟩
        refine z_eq ex_16 ?_
        refine z_istore_n (lv' := [(1, .int x_16), (0, .ref (L 99)), (2, .int (nI (i_1)))]) dX5_fadedNow_33 rfl (by decide) rfl ?_
        refine z_iinc (v := nI (i_1 + 1)) (lv' := [(2, .int (nI (i_1 + 1))), (1, .int x_16), (0, .ref (L 99))]) 2 dX5_fadedNow_34 rfl (nI_1 _) (by decide) rfl ?_
        refine z_goto 4 dX5_fadedNow_37 (by decide) ?_
        have f_17 : x_16 = s_set (fun d => decide (I 24 (d + 18) = 0)) (i_1 + 1) := by first | rfl | omega | (simp [s_set, s_bit, hb_4, c_14, c_15]; done) | ((try subst ex_16); simp [s_set, s_bit, hb_4, c_14, c_15])
        subst f_17
        refine z_lv (lv' := [(0, .ref (L 99)), (1, .int (s_set (fun d => decide (I 24 (d + 18) = 0)) (i_1 + 1))), (2, .int (nI (i_1 + 1)))]) [2, 1, 0] rfl ?_
        exact ih_3 (i_1 + 1) (by omega) (by omega)  
      · -- I 24 (i_1 + 18) = 0
        refine z_iconst (v := 1) dX5_fadedNow_25 (by decide) ?_
        refine z_iload_n 2 dX5_fadedNow_26 rfl ?_
        refine z_ishl dX5_fadedNow_27 ?_
        refine z_goto 32 dX5_fadedNow_28 (by decide) ?_
        refine z_ior dX5_fadedNow_32 ?_
        obtain ⟨x_18, ex_18⟩ : ∃ y : Int32, ((s_set (fun d => decide (I 24 (d + 18) = 0)) i_1) ||| (1 <<< ((nI (i_1)) &&& 31))) = y := ⟨_, rfl⟩
        refine z_eq ex_18 ?_
        refine z_istore_n (lv' := [(1, .int x_18), (0, .ref (L 99)), (2, .int (nI (i_1)))]) dX5_fadedNow_33 rfl (by decide) rfl ?_
        refine z_iinc (v := nI (i_1 + 1)) (lv' := [(2, .int (nI (i_1 + 1))), (1, .int x_18), (0, .ref (L 99))]) 2 dX5_fadedNow_34 rfl (nI_1 _) (by decide) rfl ?_
        refine z_goto 4 dX5_fadedNow_37 (by decide) ?_
        have f_19 : x_18 = s_set (fun d => decide (I 24 (d + 18) = 0)) (i_1 + 1) := by first | rfl | omega | (simp [s_set, s_bit, hb_4, c_14, c_15]; done) | ((try subst ex_18); simp [s_set, s_bit, hb_4, c_14, c_15])
        subst f_19
        refine z_lv (lv' := [(0, .ref (L 99)), (1, .int (s_set (fun d => decide (I 24 (d + 18) = 0)) (i_1 + 1))), (2, .int (nI (i_1 + 1)))]) [2, 1, 0] rfl ?_
        exact ih_3 (i_1 + 1) (by omega) (by omega)  
  have f_20 : 0 = s_set (fun d => decide (I 24 (d + 18) = 0)) 0 := by first | rfl | omega | (simp [s_set, s_bit]; done) | (skip; simp [s_set, s_bit])
  refine z_lv (lv' := [(0, .ref (L 99)), (1, .int (s_set (fun d => decide (I 24 (d + 18) = 0)) 0)), (2, .int 0)]) [2, 1, 0] (by rw [← f_20]; rfl) ?_
  exact loop_5 (nd - 0) 0 (by omega) (Nat.le_refl _)  
set_option maxHeartbeats 4000000 in
theorem t_count {g : zG} {L : Nat → Nat} {I : Nat → Nat → Int32} {J : Nat → Nat → Int64} {Gb : Nat → Nat → Int32} {X : zX} (hL : tok g L) {nh nd : Nat} {own : Nat → Nat} (hV : s_ok (I 10) nh nd own) {now : Nat} (hw : I 24 0 = nI now) (hw2 : now < 2 ^ 29) (w : Int32) : zN g m_X5_count ({ frames := 2, cells := 0, slots := 0, locals := 43 } : Room) [.ref (L 99), .int w] (tX g L I J Gb X) (fun rv X' => rv = some (.int (s_count I nh nd now w)) ∧ X' = (tX g L (zs I 99 0 0) J Gb X)) := by
  refine zN.of (by decide +kernel) (Nat.le_of_ble_eq_true rfl) rfl ?_
  refine z_lv (lv' := [(0, .ref (L 99)), (1, .int w)]) [0, 1] rfl ?_
  have hV9 := hV
  obtain ⟨h0, hnh, h1, hnd, hown⟩ := hV9
  refine z_aload_n 0 dX5_count_0 rfl ?_
  refine z_iconst (v := 0) dX5_count_1 (by decide) ?_
  refine tz_put (I' := (zs I 99 0 0)) 0 hL (by decide) q1593 rfl dX5_count_2 ?_
  refine z_iload_n 1 dX5_count_5 rfl ?_
  by_cases c_1 : w = 0
  · refine z_tableIn (off := 66) 72 dX5_count_6 (by rw [c_1]; decide) (by rw [c_1]; decide) (by rw [c_1]; rfl) (by decide) ?_
    refine z_lv (lv' := [(0, .ref (L 99)), (1, .int 0)]) [0, 1] (by rw [c_1]; rfl) ?_
    refine z_aload_n 0 dX5_count_72 rfl ?_
    refine tz_get (v := .ref (L 10)) 10 hL (by decide) q1603 rfl dX5_count_73 ?_
    refine z_iload_n 1 dX5_count_76 rfl ?_
    refine tz_iald (v := I 10 0) 10 (0) hL (by decide) rfl (by show 0 < 100; omega) rfl dX5_count_77 ?_
    exact z_iret dX5_count_78 rfl (Nat.le_of_ble_eq_true rfl) (Nat.le_of_ble_eq_true rfl) ⟨congrArg some (congrArg Value.int (by first | rfl | (simp [s_count, c_1]; done) | (skip; simp [s_count, c_1]))), (by first | rfl | (simp [s_count, c_1]; done) | (skip; simp [s_count, c_1]))⟩
  by_cases c_2 : w = 1
  · refine z_tableIn (off := 66) 72 dX5_count_6 (by rw [c_2]; decide) (by rw [c_2]; decide) (by rw [c_2]; rfl) (by decide) ?_
    refine z_lv (lv' := [(0, .ref (L 99)), (1, .int 1)]) [0, 1] (by rw [c_2]; rfl) ?_
    refine z_aload_n 0 dX5_count_72 rfl ?_
    refine tz_get (v := .ref (L 10)) 10 hL (by decide) q1603 rfl dX5_count_73 ?_
    refine z_iload_n 1 dX5_count_76 rfl ?_
    refine tz_iald (v := I 10 1) 10 (1) hL (by decide) rfl (by show 1 < 100; omega) rfl dX5_count_77 ?_
    exact z_iret dX5_count_78 rfl (Nat.le_of_ble_eq_true rfl) (Nat.le_of_ble_eq_true rfl) ⟨congrArg some (congrArg Value.int (by first | rfl | (simp [s_count, c_1, c_2]; done) | (skip; simp [s_count, c_1, c_2]))), (by first | rfl | (simp [s_count, c_1, c_2]; done) | (skip; simp [s_count, c_1, c_2]))⟩
  by_cases c_3 : w = 2
  · refine z_tableIn (off := 66) 72 dX5_count_6 (by rw [c_3]; decide) (by rw [c_3]; decide) (by rw [c_3]; rfl) (by decide) ?_
    refine z_lv (lv' := [(0, .ref (L 99)), (1, .int 2)]) [0, 1] (by rw [c_3]; rfl) ?_
    refine z_aload_n 0 dX5_count_72 rfl ?_
    refine tz_get (v := .ref (L 10)) 10 hL (by decide) q1603 rfl dX5_count_73 ?_
    refine z_iload_n 1 dX5_count_76 rfl ?_
    refine tz_iald (v := I 10 2) 10 (2) hL (by decide) rfl (by show 2 < 100; omega) rfl dX5_count_77 ?_
    exact z_iret dX5_count_78 rfl (Nat.le_of_ble_eq_true rfl) (Nat.le_of_ble_eq_true rfl) ⟨congrArg some (congrArg Value.int (by first | rfl | (simp [s_count, c_1, c_2, c_3]; done) | (skip; simp [s_count, c_1, c_2, c_3]))), (by first | rfl | (simp [s_count, c_1, c_2, c_3]; done) | (skip; simp [s_count, c_1, c_2, c_3]))⟩
  by_cases c_4 : w = 3
  · refine z_tableIn (off := 73) 79 dX5_count_6 (by rw [c_4]; decide) (by rw [c_4]; decide) (by rw [c_4]; rfl) (by decide) ?_
    refine z_aload_n 0 dX5_count_79 rfl ?_
    refine tz_get (v := .ref (L 24)) 24 hL (by decide) q1617 rfl dX5_count_80 ?_
    refine z_iconst (v := 0) dX5_count_83 (by decide) ?_
    refine tz_iald (v := nI (now)) 24 (0) hL (by decide) rfl (by show 0 < 1081; omega) hw dX5_count_84 ?_
    refine z_bipush (v := 12) dX5_count_85 (by decide) ?_
    refine z_idivN (a := now) (b := 12) (by omega) (by decide) (by decide) dX5_count_87 ?_
    exact z_iret dX5_count_88 rfl (Nat.le_of_ble_eq_true rfl) (Nat.le_of_ble_eq_true rfl) ⟨congrArg some (congrArg Value.int (by first | rfl | (simp [s_count, c_1, c_2, c_3, c_4]; done) | (skip; simp [s_count, c_1, c_2, c_3, c_4]))), (by first | rfl | (simp [s_count, c_1, c_2, c_3, c_4]; done) | (skip; simp [s_count, c_1, c_2, c_3, c_4]))⟩
  by_cases c_5 : w = 4
  · refine z_tableIn (off := 83) 89 dX5_count_6 (by rw [c_5]; decide) (by rw [c_5]; decide) (by rw [c_5]; rfl) (by decide) ?_
    refine z_aload_n 0 dX5_count_89 rfl ?_
    refine tz_get (v := .ref (L 24)) 24 hL (by decide) q1617 rfl dX5_count_90 ?_
    refine z_iconst (v := 0) dX5_count_93 (by decide) ?_
    refine tz_iald (v := nI (now)) 24 (0) hL (by decide) rfl (by show 0 < 1081; omega) hw dX5_count_94 ?_
    refine z_bipush (v := 12) dX5_count_95 (by decide) ?_
    refine z_iremN (a := now) (b := 12) (by omega) (by decide) (by decide) dX5_count_97 ?_
    exact z_iret dX5_count_98 rfl (Nat.le_of_ble_eq_true rfl) (Nat.le_of_ble_eq_true rfl) ⟨congrArg some (congrArg Value.int (by first | rfl | (simp [s_count, c_1, c_2, c_3, c_4, c_5]; done) | (skip; simp [s_count, c_1, c_2, c_3, c_4, c_5]))), (by first | rfl | (simp [s_count, c_1, c_2, c_3, c_4, c_5]; done) | (skip; simp [s_count, c_1, c_2, c_3, c_4, c_5]))⟩
  by_cases c_6 : w = 5
  · refine z_tableIn (off := 93) 99 dX5_count_6 (by rw [c_6]; decide) (by rw [c_6]; decide) (by rw [c_6]; rfl) (by decide) ?_
    refine z_aload_n 0 dX5_count_99 rfl ?_
    refine z_iconst (v := 0) dX5_count_100 (by decide) ?_
    refine z_X (X' := (tX g L (tput (zs I 99 0 0) 0 (I 24)) J Gb X)) (congrArg (fun z => tX g L z J Gb X) (tput_self0 (I := (zs I 99 0 0))).symm) ?_
    refine z_callV (As := [.int 0]) (t_somewhere (I := (zs I 99 0 0)) (σ := (I 24)) hL h1 hnd 0 (by omega)) q1944 q1946 qs101 q121 q1947 nm_X5_somewhere (tX_obj hL) rfl rfl rfl (Nat.le_of_ble_eq_true rfl) ⟨Nat.le_of_ble_eq_true rfl, Nat.le_of_ble_eq_true rfl⟩ dX5_count_101 rfl rfl (Nat.le_of_ble_eq_true rfl) (Nat.le_of_ble_eq_true rfl) (fun v_7 X_8 hp_9 => ?_)
    obtain ⟨rfl, rfl⟩ := hp_9
    refine z_X (X' := (tX g L (zs I 99 0 0) J Gb X)) (congrArg (fun z => tX g L z J Gb X) (tput_self0 (I := (zs I 99 0 0)))) ?_
    refine z_st (st' := [.int (s_some (I 24) nd)]) rfl ?_
    exact z_iret dX5_count_104 rfl (Nat.le_of_ble_eq_true rfl) (Nat.le_of_ble_eq_true rfl) ⟨congrArg some (congrArg Value.int (by first | rfl | (simp [s_count, c_1, c_2, c_3, c_4, c_5, c_6]; done) | (skip; simp [s_count, c_1, c_2, c_3, c_4, c_5, c_6]))), (by first | rfl | (simp [s_count, c_1, c_2, c_3, c_4, c_5, c_6]; done) | (skip; simp [s_count, c_1, c_2, c_3, c_4, c_5, c_6]))⟩
  by_cases c_10 : w = 6
  · refine z_tableIn (off := 99) 105 dX5_count_6 (by rw [c_10]; decide) (by rw [c_10]; decide) (by rw [c_10]; rfl) (by decide) ?_
    refine z_aload_n 0 dX5_count_105 rfl ?_
    refine z_callV (As := []) (t_bedsOfAll (I := (zs I 99 0 0)) hL hV) q2064 q2066 qs109 q121 q2067 nm_X5_bedsOfAll (tX_obj hL) rfl rfl rfl (Nat.le_of_ble_eq_true rfl) ⟨Nat.le_of_ble_eq_true rfl, Nat.le_of_ble_eq_true rfl⟩ dX5_count_106 rfl rfl (Nat.le_of_ble_eq_true rfl) (Nat.le_of_ble_eq_true rfl) (fun v_11 X_12 hp_13 => ?_)
    obtain ⟨rfl, rfl⟩ := hp_13
    refine z_st (st' := [.int (s_sum (fun h => I 24 (h + 2)) nh)]) rfl ?_
    exact z_iret dX5_count_109 rfl (Nat.le_of_ble_eq_true rfl) (Nat.le_of_ble_eq_true rfl) ⟨congrArg some (congrArg Value.int (by first | rfl | (simp [s_count, c_1, c_2, c_3, c_4, c_5, c_6, c_10]; done) | (skip; simp [s_count, c_1, c_2, c_3, c_4, c_5, c_6, c_10]))), (by first | rfl | (simp [s_count, c_1, c_2, c_3, c_4, c_5, c_6, c_10]; done) | (skip; simp [s_count, c_1, c_2, c_3, c_4, c_5, c_6, c_10]))⟩
  by_cases c_14 : w = 7
  · refine z_tableIn (off := 104) 110 dX5_count_6 (by rw [c_14]; decide) (by rw [c_14]; decide) (by rw [c_14]; rfl) (by decide) ?_
    refine z_aload_n 0 dX5_count_110 rfl ?_
    refine tz_get (v := .ref (L 24)) 24 hL (by decide) q1617 rfl dX5_count_111 ?_
    refine z_iconst (v := 1) dX5_count_114 (by decide) ?_
    refine tz_iald (v := I 24 1) 24 (1) hL (by decide) rfl (by show 1 < 1081; omega) rfl dX5_count_115 ?_
    exact z_iret dX5_count_116 rfl (Nat.le_of_ble_eq_true rfl) (Nat.le_of_ble_eq_true rfl) ⟨congrArg some (congrArg Value.int (by first | rfl | (simp [s_count, c_1, c_2, c_3, c_4, c_5, c_6, c_10, c_14]; done) | (skip; simp [s_count, c_1, c_2, c_3, c_4, c_5, c_6, c_10, c_14]))), (by first | rfl | (simp [s_count, c_1, c_2, c_3, c_4, c_5, c_6, c_10, c_14]; done) | (skip; simp [s_count, c_1, c_2, c_3, c_4, c_5, c_6, c_10, c_14]))⟩
  by_cases c_15 : w = 8
  · refine z_tableIn (off := 111) 117 dX5_count_6 (by rw [c_15]; decide) (by rw [c_15]; decide) (by rw [c_15]; rfl) (by decide) ?_
    refine z_aload_n 0 dX5_count_117 rfl ?_
    refine z_callV (As := []) (t_fadedNow (I := (zs I 99 0 0)) hL hV) q2068 q2070 qs110 q121 q2071 nm_X5_fadedNow (tX_obj hL) rfl rfl rfl (Nat.le_of_ble_eq_true rfl) ⟨Nat.le_of_ble_eq_true rfl, Nat.le_of_ble_eq_true rfl⟩ dX5_count_118 rfl rfl (Nat.le_of_ble_eq_true rfl) (Nat.le_of_ble_eq_true rfl) (fun v_16 X_17 hp_18 => ?_)
    obtain ⟨rfl, rfl⟩ := hp_18
    refine z_st (st' := [.int (s_set (fun d => decide (I 24 (d + 18) = 0)) nd)]) rfl ?_
    exact z_iret dX5_count_121 rfl (Nat.le_of_ble_eq_true rfl) (Nat.le_of_ble_eq_true rfl) ⟨congrArg some (congrArg Value.int (by first | rfl | (simp [s_count, c_1, c_2, c_3, c_4, c_5, c_6, c_10, c_14, c_15]; done) | (skip; simp [s_count, c_1, c_2, c_3, c_4, c_5, c_6, c_10, c_14, c_15]))), (by first | rfl | (simp [s_count, c_1, c_2, c_3, c_4, c_5, c_6, c_10, c_14, c_15]; done) | (skip; simp [s_count, c_1, c_2, c_3, c_4, c_5, c_6, c_10, c_14, c_15]))⟩
  by_cases c_19 : w = 9
  · refine z_tableIn (off := 116) 122 dX5_count_6 (by rw [c_19]; decide) (by rw [c_19]; decide) (by rw [c_19]; rfl) (by decide) ?_
    refine z_aload_n 0 dX5_count_122 rfl ?_
    refine tz_get (v := .ref (L 21)) 21 hL (by decide) q1614 rfl dX5_count_123 ?_
    refine z_iconst (v := 0) dX5_count_126 (by decide) ?_
    refine tz_iald (v := I 21 0) 21 (0) hL (by decide) rfl (by show 0 < 250; omega) rfl dX5_count_127 ?_
    exact z_iret dX5_count_128 rfl (Nat.le_of_ble_eq_true rfl) (Nat.le_of_ble_eq_true rfl) ⟨congrArg some (congrArg Value.int (by first | rfl | (simp [s_count, c_1, c_2, c_3, c_4, c_5, c_6, c_10, c_14, c_15, c_19]; done) | (skip; simp [s_count, c_1, c_2, c_3, c_4, c_5, c_6, c_10, c_14, c_15, c_19]))), (by first | rfl | (simp [s_count, c_1, c_2, c_3, c_4, c_5, c_6, c_10, c_14, c_15, c_19]; done) | (skip; simp [s_count, c_1, c_2, c_3, c_4, c_5, c_6, c_10, c_14, c_15, c_19]))⟩
  by_cases c_20 : w = 10
  · refine z_tableIn (off := 123) 129 dX5_count_6 (by rw [c_20]; decide) (by rw [c_20]; decide) (by rw [c_20]; rfl) (by decide) ?_
    refine z_aload_n 0 dX5_count_129 rfl ?_
    refine tz_get (v := .ref (L 24)) 24 hL (by decide) q1617 rfl dX5_count_130 ?_
    refine z_bipush (v := 30) dX5_count_133 (by decide) ?_
    refine tz_iald (v := I 24 30) 24 (30) hL (by decide) rfl (by show 30 < 1081; omega) rfl dX5_count_135 ?_
    exact z_iret dX5_count_136 rfl (Nat.le_of_ble_eq_true rfl) (Nat.le_of_ble_eq_true rfl) ⟨congrArg some (congrArg Value.int (by first | rfl | (simp [s_count, c_1, c_2, c_3, c_4, c_5, c_6, c_10, c_14, c_15, c_19, c_20]; done) | (skip; simp [s_count, c_1, c_2, c_3, c_4, c_5, c_6, c_10, c_14, c_15, c_19, c_20]))), (by first | rfl | (simp [s_count, c_1, c_2, c_3, c_4, c_5, c_6, c_10, c_14, c_15, c_19, c_20]; done) | (skip; simp [s_count, c_1, c_2, c_3, c_4, c_5, c_6, c_10, c_14, c_15, c_19, c_20]))⟩
  by_cases c_21 : w = 11
  · refine z_tableIn (off := 131) 137 dX5_count_6 (by rw [c_21]; decide) (by rw [c_21]; decide) (by rw [c_21]; rfl) (by decide) ?_
    refine z_aload_n 0 dX5_count_137 rfl ?_
    refine tz_get (v := .int (I 99 25)) 25 hL (by decide) q1618 rfl dX5_count_138 ?_
    exact z_iret dX5_count_141 rfl (Nat.le_of_ble_eq_true rfl) (Nat.le_of_ble_eq_true rfl) ⟨congrArg some (congrArg Value.int (by first | rfl | (simp [s_count, c_1, c_2, c_3, c_4, c_5, c_6, c_10, c_14, c_15, c_19, c_20, c_21]; done) | (skip; simp [s_count, c_1, c_2, c_3, c_4, c_5, c_6, c_10, c_14, c_15, c_19, c_20, c_21]))), (by first | rfl | (simp [s_count, c_1, c_2, c_3, c_4, c_5, c_6, c_10, c_14, c_15, c_19, c_20, c_21]; done) | (skip; simp [s_count, c_1, c_2, c_3, c_4, c_5, c_6, c_10, c_14, c_15, c_19, c_20, c_21]))⟩
  by_cases c_22 : w = 12
  · refine z_tableIn (off := 136) 142 dX5_count_6 (by rw [c_22]; decide) (by rw [c_22]; decide) (by rw [c_22]; rfl) (by decide) ?_
    refine z_aload_n 0 dX5_count_142 rfl ?_
    refine tz_get (v := .int (I 99 2)) 2 hL (by decide) q1595 rfl dX5_count_143 ?_
    exact z_iret dX5_count_146 rfl (Nat.le_of_ble_eq_true rfl) (Nat.le_of_ble_eq_true rfl) ⟨congrArg some (congrArg Value.int (by first | rfl | (simp [s_count, c_1, c_2, c_3, c_4, c_5, c_6, c_10, c_14, c_15, c_19, c_20, c_21, c_22]; done) | (skip; simp [s_count, c_1, c_2, c_3, c_4, c_5, c_6, c_10, c_14, c_15, c_19, c_20, c_21, c_22]))), (by first | rfl | (simp [s_count, c_1, c_2, c_3, c_4, c_5, c_6, c_10, c_14, c_15, c_19, c_20, c_21, c_22]; done) | (skip; simp [s_count, c_1, c_2, c_3, c_4, c_5, c_6, c_10, c_14, c_15, c_19, c_20, c_21, c_22]))⟩
  refine z_tableOut 147 dX5_count_6 (by have i0 := lv_neT (a := 0) c_1 rfl; have i1 := lv_neT (a := 1) c_2 rfl; have i2 := lv_neT (a := 2) c_3 rfl; have i3 := lv_neT (a := 3) c_4 rfl; have i4 := lv_neT (a := 4) c_5 rfl; have i5 := lv_neT (a := 5) c_6 rfl; have i6 := lv_neT (a := 6) c_10 rfl; have i7 := lv_neT (a := 7) c_14 rfl; have i8 := lv_neT (a := 8) c_15 rfl; have i9 := lv_neT (a := 9) c_19 rfl; have i10 := lv_neT (a := 10) c_20 rfl; have i11 := lv_neT (a := 11) c_21 rfl; have i12 := lv_neT (a := 12) c_22 rfl; omega) (by decide) ?_
  refine z_iconst (v := zm1) dX5_count_147 (by decide) ?_
  exact z_iret dX5_count_148 rfl (Nat.le_of_ble_eq_true rfl) (Nat.le_of_ble_eq_true rfl) ⟨congrArg some (congrArg Value.int (by first | rfl | (simp [s_count, c_1, c_2, c_3, c_4, c_5, c_6, c_10, c_14, c_15, c_19, c_20, c_21, c_22]; done) | (skip; simp [s_count, c_1, c_2, c_3, c_4, c_5, c_6, c_10, c_14, c_15, c_19, c_20, c_21, c_22]))), (by first | rfl | (simp [s_count, c_1, c_2, c_3, c_4, c_5, c_6, c_10, c_14, c_15, c_19, c_20, c_21, c_22]; done) | (skip; simp [s_count, c_1, c_2, c_3, c_4, c_5, c_6, c_10, c_14, c_15, c_19, c_20, c_21, c_22]))⟩
