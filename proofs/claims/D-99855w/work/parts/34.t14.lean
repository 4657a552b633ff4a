/-! THE MODEL: a year judged. Printed by t14.py -/
set_option maxRecDepth 100000
set_option maxHeartbeats 4000000 in
theorem t_thrown {g : zG} {L : Nat → Nat} {I : Nat → Nat → Int32} {J : Nat → Nat → Int64} {Gb : Nat → Nat → Int32} {X : zX} (hL : tok g L) : zN g m_X5_thrown ({ frames := 0, cells := 0, slots := 0, locals := 0 } : Room) [.ref (L 99)] (tX g L I J Gb X) (fun rv X' => rv = some (.int (I 99 0)) ∧ X' = (tX g L I J Gb X)) := by
  refine zN.of (by decide +kernel) (Nat.le_of_ble_eq_true rfl) rfl ?_
  refine z_lv (lv' := [(0, .ref (L 99))]) [0] rfl ?_
  refine z_aload_n 0 dX5_thrown_0 rfl ?_
  refine tz_get (v := .int (I 99 0)) 0 hL (by decide) q1593 rfl dX5_thrown_1 ?_
  exact z_iret dX5_thrown_4 rfl (Nat.le_of_ble_eq_true rfl) (Nat.le_of_ble_eq_true rfl) ⟨congrArg some (congrArg Value.int (by first | rfl | (simp []; done) | (skip; simp []))), (by first | rfl | (simp []; done) | (skip; simp []))⟩
set_option maxHeartbeats 4000000 in
theorem t_standsAsAlways {g : zG} {L : Nat → Nat} {I : Nat → Nat → Int32} {J : Nat → Nat → Int64} {Gb : Nat → Nat → Int32} {X : zX} (hL : tok g L) (b : Nat) (hb : b + 50 ≤ 100) : zN g m_X5_standsAsAlways ({ frames := 0, cells := 0, slots := 0, locals := 0 } : Room) [.ref (L 99), .int (nI (b))] (tX g L I J Gb X) (fun rv X' => rv = none ∧ X' = (tX g L (s_std I b) J Gb X)) := by
  refine zN.of (by decide +kernel) (Nat.le_of_ble_eq_true rfl) rfl ?_
  refine z_lv (lv' := [(0, .ref (L 99)), (1, .int (nI (b)))]) [0, 1] rfl ?_
  refine z_iconst (v := 0) dX5_standsAsAlways_0 (by decide) ?_
  refine z_istore_n (lv' := [(2, .int 0), (0, .ref (L 99)), (1, .int (nI (b)))]) dX5_standsAsAlways_1 rfl (by decide) rfl ?_
  have loop_5 : ∀ (q_2 i_1 : Nat), i_1 + q_2 = 50 → 0 ≤ i_1 → zZ g m_X5_standsAsAlways (fun rv X' => rv = none ∧ X' = (tX g L (s_std I b) J Gb X), zno, ({ frames := 0, cells := 0, slots := 0, locals := 0 } : Room)) 0 0 (tX g L (s_nil I 10 b i_1) J Gb X) 2 [(0, .ref (L 99)), (1, .int (nI (b))), (2, .int (nI (i_1)))] [] := by
    intro q_2
    induction q_2 with
    | zero =>
      intro i_1 hb_4 lo_6  
      obtain rfl : 50 = i_1 := by omega
      refine z_iload_n 2 dX5_standsAsAlways_2 rfl ?_
      refine z_bipush (v := 50) dX5_standsAsAlways_3 (by decide) ?_
      refine z_icmp_geN (a := 50) (b := 50) 23 (by decide) (by decide) dX5_standsAsAlways_5 (by decide) (fun h_ => ?_) (fun h_ => absurd h_ (by decide))
      refine z_aload_n 0 dX5_standsAsAlways_23 rfl ?_
      refine tz_get (v := .ref (L 10)) 10 hL (by decide) q1603 rfl dX5_standsAsAlways_24 ?_
      refine z_iload_n 1 dX5_standsAsAlways_27 rfl ?_
      refine z_iconst (v := 2) dX5_standsAsAlways_28 (by decide) ?_
      refine z_iaddN (a := b) (b := 2) dX5_standsAsAlways_29 ?_
      refine z_iconst (v := 1) dX5_standsAsAlways_30 (by decide) ?_
      refine tz_iast 10 (b + 2) hL (by decide) rfl (by show b + 2 < 100; omega) rfl dX5_standsAsAlways_31 ?_
      refine z_aload_n 0 dX5_standsAsAlways_32 rfl ?_
      refine tz_get (v := .ref (L 10)) 10 hL (by decide) q1603 rfl dX5_standsAsAlways_33 ?_
      refine z_iload_n 1 dX5_standsAsAlways_36 rfl ?_
      refine z_iconst (v := 3) dX5_standsAsAlways_37 (by decide) ?_
      refine z_iaddN (a := b) (b := 3) dX5_standsAsAlways_38 ?_
      refine z_iconst (v := zm1) dX5_standsAsAlways_39 (by decide) ?_
      refine tz_iast 10 (b + 3) hL (by decide) rfl (by show b + 3 < 100; omega) rfl dX5_standsAsAlways_40 ?_
      exact z_vret dX5_standsAsAlways_41 rfl (Nat.le_of_ble_eq_true rfl) (Nat.le_of_ble_eq_true rfl) ⟨rfl, rfl⟩
    | succ q_2 ih_3 =>
      intro i_1 hb_4 lo_6  
      refine z_iload_n 2 dX5_standsAsAlways_2 rfl ?_
      refine z_bipush (v := 50) dX5_standsAsAlways_3 (by decide) ?_
      refine z_icmp_geN (a := i_1) (b := 50) 23 (by omega) (by omega) dX5_standsAsAlways_5 (by decide) (fun c_7 => absurd c_7 (by omega)) (fun c_7 => ?_)
      refine z_aload_n 0 dX5_standsAsAlways_8 rfl ?_
      refine tz_get (v := .ref (L 10)) 10 hL (by decide) q1603 rfl dX5_standsAsAlways_9 ?_
      refine z_iload_n 1 dX5_standsAsAlways_12 rfl ?_
      refine z_iload_n 2 dX5_standsAsAlways_13 rfl ?_
      refine z_iaddN (a := b) (b := i_1) dX5_standsAsAlways_14 ?_
      refine z_iconst (v := 0) dX5_standsAsAlways_15 (by decide) ?_
      refine tz_iast 10 (b + i_1) hL (by decide) rfl (by show b + i_1 < 100; omega) rfl dX5_standsAsAlways_16 ?_
      refine z_iinc (v := nI (i_1 + 1)) (lv' := [(2, .int (nI (i_1 + 1))), (0, .ref (L 99)), (1, .int (nI (b)))]) 2 dX5_standsAsAlways_17 rfl (nI_1 _) (by decide) rfl ?_
      refine z_goto 2 dX5_standsAsAlways_20 (by decide) ?_
      refine z_lv (lv' := [(0, .ref (L 99)), (1, .int (nI (b))), (2, .int (nI (i_1 + 1)))]) [1, 2, 0] rfl ?_
      refine z_X (X' := (tX g L (s_nil I 10 b (i_1 + 1)) J Gb X)) (by rw [s_nil_1]) ?_
      exact ih_3 (i_1 + 1) (by omega) (by omega)  
  refine z_lv (lv' := [(0, .ref (L 99)), (1, .int (nI (b))), (2, .int 0)]) [1, 2, 0] rfl ?_
  refine z_X (X' := (tX g L (s_nil I 10 b 0) J Gb X)) (by rw [s_nil_0]) ?_
  exact loop_5 (50 - 0) 0 (by omega) (Nat.le_refl _)  
set_option maxHeartbeats 4000000 in
theorem t_begins {g : zG} {L : Nat → Nat} {I : Nat → Nat → Int32} {J : Nat → Nat → Int64} {Gb : Nat → Nat → Int32} {X : zX} (hL : tok g L) {nh nd : Nat} (h0 : I 10 0 = nI nh) (hnh : nh ≤ 4) (h1 : I 10 1 = nI nd) (hnd : nd ≤ 6) : zN g m_X5_begins ({ frames := 2, cells := 0, slots := 0, locals := 44 } : Room) [.ref (L 99)] (tX g L I J Gb X) (fun rv X' => rv = none ∧ X' = (tX g L (s_begin I nh nd) J Gb X)) := by
  refine zN.of (by decide +kernel) (Nat.le_of_ble_eq_true rfl) rfl ?_
  refine z_lv (lv' := [(0, .ref (L 99))]) [0] rfl ?_
  refine z_aload_n 0 dX5_begins_0 rfl ?_
  refine z_callV (As := []) (t_datesAsTold (I := I) hL h1 hnd) q1569 q1571 qs52 q121 q1572 nm_X5_datesAsTold (tX_obj hL) rfl rfl rfl (Nat.le_of_ble_eq_true rfl) ⟨Nat.le_of_ble_eq_true rfl, Nat.le_of_ble_eq_true rfl⟩ dX5_begins_1 rfl rfl (Nat.le_of_ble_eq_true rfl) (Nat.le_of_ble_eq_true rfl) (fun v_1 X_2 hp_3 => ?_)
  obtain ⟨rfl, rfl⟩ := hp_3
  refine z_st (st' := []) rfl ?_
  refine z_aload_n 0 dX5_begins_4 rfl ?_
  refine z_iconst (v := 0) dX5_begins_5 (by decide) ?_
  refine z_X (X' := (tX g L (tput (s_dts I nd) 0 ((s_dts I nd) 24)) J Gb X)) (congrArg (fun z => tX g L z J Gb X) (tput_self0 (I := (s_dts I nd))).symm) ?_
  refine z_callV (As := [.int 0]) (t_starts (I := (s_dts I nd)) (σ := ((s_dts I nd) 24)) hL h0 hnh h1 hnd 0 (by omega)) q1581 q1583 qs55 q121 q1584 nm_X5_starts (tX_obj hL) rfl rfl rfl (Nat.le_of_ble_eq_true rfl) ⟨Nat.le_of_ble_eq_true rfl, Nat.le_of_ble_eq_true rfl⟩ dX5_begins_6 rfl rfl (Nat.le_of_ble_eq_true rfl) (Nat.le_of_ble_eq_true rfl) (fun v_4 X_5 hp_6 => ?_)
  obtain ⟨rfl, rfl⟩ := hp_6
  refine z_st (st' := []) rfl ?_
  refine z_aload_n 0 dX5_begins_9 rfl ?_
  refine tz_get (v := .ref (L 24)) 24 hL (by decide) q1617 rfl dX5_begins_10 ?_
  refine z_bipush (v := 30) dX5_begins_13 (by decide) ?_
  refine z_iconst (v := 0) dX5_begins_15 (by decide) ?_
  refine tz_iast 24 (30) hL (by decide) rfl (by show 30 < 1081; omega) (tput_zso (by omega)) dX5_begins_16 ?_
  refine z_aload_n 0 dX5_begins_17 rfl ?_
  refine tz_get (v := .ref (L 21)) 21 hL (by decide) q1614 rfl dX5_begins_18 ?_
  refine z_iconst (v := 0) dX5_begins_21 (by decide) ?_
  refine z_iconst (v := 0) dX5_begins_22 (by decide) ?_
  refine tz_iast 21 (0) hL (by decide) rfl (by show 0 < 250; omega) (tput_zsa (by decide)) dX5_begins_23 ?_
  refine z_aload_n 0 dX5_begins_24 rfl ?_
  refine z_iconst (v := 0) dX5_begins_25 (by decide) ?_
  refine tz_put (I' := (tput (zs (zs (zs (s_dts I nd) 24 30 0) 21 0 0) 99 25 0) 0 (s_start (I 10) nh nd))) 25 hL (by decide) q1618 (tput_zsa (by decide)) dX5_begins_26 ?_
  refine z_X (X' := (tX g L (tput (zs (zs (zs (s_dts I nd) 24 30 0) 21 0 0) 99 25 0) 0 (s_start (I 10) nh nd)) J Gb X)) (by rfl) ?_
  refine z_iconst (v := 0) dX5_begins_29 (by decide) ?_
  refine z_istore_n (lv' := [(1, .int 0), (0, .ref (L 99))]) dX5_begins_30 rfl (by decide) rfl ?_
  have loop_11 : ∀ (q_8 i_7 : Nat), i_7 + q_8 = 4 → 0 ≤ i_7 → zZ g m_X5_begins (fun rv X' => rv = none ∧ X' = (tX g L (s_begin I nh nd) J Gb X), zno, ({ frames := 2, cells := 0, slots := 0, locals := 44 } : Room)) 0 0 (tX g L (s_nil (tput (zs (zs (zs (s_dts I nd) 24 30 0) 21 0 0) 99 25 0) 0 (s_start (I 10) nh nd)) 26 0 i_7) J Gb X) 31 [(0, .ref (L 99)), (1, .int (nI (i_7)))] [] := by
    intro q_8
    induction q_8 with
    | zero =>
      intro i_7 hb_10 lo_12  
      obtain rfl : 4 = i_7 := by omega
      refine z_iload_n 1 dX5_begins_31 rfl ?_
      refine z_iconst (v := 4) dX5_begins_32 (by decide) ?_
      refine z_icmp_geN (a := 4) (b := 4) 49 (by decide) (by decide) dX5_begins_33 (by decide) (fun h_ => ?_) (fun h_ => absurd h_ (by decide))
      exact z_vret dX5_begins_49 rfl (Nat.le_of_ble_eq_true rfl) (Nat.le_of_ble_eq_true rfl) ⟨rfl, rfl⟩
    | succ q_8 ih_9 =>
      intro i_7 hb_10 lo_12  
      refine z_iload_n 1 dX5_begins_31 rfl ?_
      refine z_iconst (v := 4) dX5_begins_32 (by decide) ?_
      refine z_icmp_geN (a := i_7) (b := 4) 49 (by omega) (by omega) dX5_begins_33 (by decide) (fun c_13 => absurd c_13 (by omega)) (fun c_13 => ?_)
      refine z_aload_n 0 dX5_begins_36 rfl ?_
      refine tz_get (v := .ref (L 26)) 26 hL (by decide) q1619 rfl dX5_begins_37 ?_
      refine z_iload_n 1 dX5_begins_40 rfl ?_
      refine z_iconst (v := 0) dX5_begins_41 (by decide) ?_
      refine tz_zast (i_7) hL rfl (by omega) (by first | rfl | decide) rfl dX5_begins_42 ?_
      refine z_iinc (v := nI (i_7 + 1)) (lv' := [(1, .int (nI (i_7 + 1))), (0, .ref (L 99))]) 1 dX5_begins_43 rfl (nI_1 _) (by decide) rfl ?_
      refine z_goto 31 dX5_begins_46 (by decide) ?_
      refine z_lv (lv' := [(0, .ref (L 99)), (1, .int (nI (i_7 + 1)))]) [1, 0] rfl ?_
      refine z_X (X' := (tX g L (s_nil (tput (zs (zs (zs (s_dts I nd) 24 30 0) 21 0 0) 99 25 0) 0 (s_start (I 10) nh nd)) 26 0 (i_7 + 1)) J Gb X)) (by rw [s_nil_z]) ?_
      exact ih_9 (i_7 + 1) (by omega) (by omega)  
  refine z_lv (lv' := [(0, .ref (L 99)), (1, .int 0)]) [1, 0] rfl ?_
  refine z_X (X' := (tX g L (s_nil (tput (zs (zs (zs (s_dts I nd) 24 30 0) 21 0 0) 99 25 0) 0 (s_start (I 10) nh nd)) 26 0 0) J Gb X)) (by rw [s_nil_0]) ?_
  exact loop_11 (4 - 0) 0 (by omega) (Nat.le_refl _)  
set_option maxHeartbeats 4000000 in
theorem t_judged {g : zG} {L : Nat → Nat} {I : Nat → Nat → Int32} {J : Nat → Nat → Int64} {Gb : Nat → Nat → Int32} {X : zX} (hL : tok g L) {nh nd : Nat} {own : Nat → Nat} (hV : s_ok (I 10) nh nd own) {wv : Int32 → Int32 → Int32 → Int32 → Int32} (hlaw : s_law (I 10) (I 11) (I 12) wv) {ln : Nat} {la lb lh : Nat → Nat} (hln : I 21 0 = nI ln) (hln2 : ln ≤ 40) (hl : ∀ k, k < ln → I 21 (3 * k + 1) = nI (la k) ∧ I 21 (3 * k + 2) = nI (lb k) ∧ I 21 (3 * k + 3) = nI (lh k) ∧ la k ≤ 3 ∧ (la k = 1 → lb k < nd ∧ lh k < nh) ∧ (la k = 2 → lb k < nd) ∧ (la k = 3 → lb k < nh)) (w : Int32) : zN g m_X5_judged ({ frames := 7, cells := 0, slots := 0, locals := 161 } : Room) [.ref (L 99), .int w] (tX g L I J Gb X) (fun rv X' => rv = some (.int (s_judged (s_jud wv (I 10) (I 27) nh nd own la lb lh ln) w)) ∧ ∃ (I' : Nat → Nat → Int32) (Gb' : Nat → Nat → Int32), X' = tX g L I' J Gb' X ∧ tobs I I' ∧ I' 99 0 = 0) := by
  refine zN.of (by decide +kernel) (Nat.le_of_ble_eq_true rfl) rfl ?_
  refine z_lv (lv' := [(0, .ref (L 99)), (1, .int w)]) [0, 1] rfl ?_
  have hV9 := hV
  obtain ⟨h0, hnh, h1, hnd, hown⟩ := hV9
  refine z_aload_n 0 dX5_judged_0 rfl ?_
  refine z_iconst (v := 0) dX5_judged_1 (by decide) ?_
  refine tz_put (I' := (zs I 99 0 0)) 0 hL (by decide) q1593 rfl dX5_judged_2 ?_
  refine z_X (X' := (tX g L (tput (tco (zs I 99 0 0) (I 99 28) (I 99 29)) 987 (s_tau I)) J Gb X)) (by show tX g L (zs I 99 0 0) J Gb X = (tX g L (tput (tco (zs I 99 0 0) (I 99 28) (I 99 29)) 987 (s_tau I)) J Gb X); rw [show tput (tco (zs I 99 0 0) (I 99 28) (I 99 29)) 987 (s_tau I) = tco (zs I 99 0 0) (I 99 28) (I 99 29) from tput_tau (I := tco (zs I 99 0 0) (I 99 28) (I 99 29))]; exact congrArg (fun z => tX g L z J Gb X) (tco_self (I := (zs I 99 0 0))).symm) ?_
  by_cases hv : (decide (0 ≤ w) && decide (w ≤ 2)) = true
  · skip
    obtain ⟨ww, -, hww, e_w⟩ := zwin 0 2 (by decide) hv
    subst e_w
    refine z_iload_n 1 dX5_judged_5 rfl ?_
    refine z_iconst (v := 0) dX5_judged_6 (by decide) ?_
    refine z_iconst (v := 2) dX5_judged_7 (by decide) ?_
    refine z_callS (As := [.int (nI (ww)), .int 0, .int 2]) (t_within (nI (ww)) 0 2) q1771 q1772 q121 q1773 nm_X5_within rfl (Nat.le_of_ble_eq_true rfl) ⟨Nat.le_of_ble_eq_true rfl, Nat.le_of_ble_eq_true rfl⟩ dX5_judged_8 rfl rfl (Nat.le_of_ble_eq_true rfl) (Nat.le_of_ble_eq_true rfl) (fun v_1 X_2 hp_3 => ?_)
    obtain ⟨rfl, rfl⟩ := hp_3
    refine z_st (st' := [.int (zb (decide (0 ≤ nI (ww)) && decide (nI (ww) ≤ 2)))]) rfl ?_
    refine z_eq (y := 1) (zb_t (zwin_t (Nat.zero_le _) hww (by decide))) ?_
    refine z_if_ne 17 dX5_judged_11 (by decide) (fun h_ => ?_) (fun h_ => absurd h_ (by decide))
    refine z_aload_n 0 dX5_judged_17 rfl ?_
    refine z_sipush (v := 987) dX5_judged_18 (by decide) ?_
    refine z_callV (As := [.int 987]) (t_starts (I := (tco (zs I 99 0 0) (I 99 28) (I 99 29))) (σ := (s_tau I)) hL h0 hnh h1 hnd 987 (by omega)) q1581 q1583 qs55 q121 q1584 nm_X5_starts (tX_obj hL) rfl rfl rfl (Nat.le_of_ble_eq_true rfl) ⟨Nat.le_of_ble_eq_true rfl, Nat.le_of_ble_eq_true rfl⟩ dX5_judged_21 rfl rfl (Nat.le_of_ble_eq_true rfl) (Nat.le_of_ble_eq_true rfl) (fun v_4 X_5 hp_6 => ?_)
    obtain ⟨rfl, rfl⟩ := hp_6
    refine z_st (st' := []) rfl ?_
    refine z_iconst (v := zm1) dX5_judged_24 (by decide) ?_
    refine z_istore_n (lv' := [(2, .int zm1), (0, .ref (L 99)), (1, .int (nI (ww)))]) dX5_judged_25 rfl (by decide) rfl ?_
    refine z_iconst (v := zm1) dX5_judged_26 (by decide) ?_
    refine z_istore_n (lv' := [(3, .int zm1), (2, .int zm1), (0, .ref (L 99)), (1, .int (nI (ww)))]) dX5_judged_27 rfl (by decide) rfl ?_
    refine z_iconst (v := 0) dX5_judged_28 (by decide) ?_
    refine z_istore (lv' := [(4, .int 0), (3, .int zm1), (2, .int zm1), (0, .ref (L 99)), (1, .int (nI (ww)))]) dX5_judged_29 (by decide) rfl ?_
    have loop_11 : ∀ (q_8 i_7 : Nat), i_7 + q_8 = ln → 0 ≤ i_7 → ∀ (Gb_12 : Nat → Nat → Int32), ∀ (c_13 : Int32), ∀ (o_14 : Int32), zZ g m_X5_judged (fun rv X' => rv = some (.int (s_judged (s_jud wv (I 10) (I 27) nh nd own la lb lh ln) (nI (ww)))) ∧ ∃ (I' : Nat → Nat → Int32) (Gb' : Nat → Nat → Int32), X' = tX g L I' J Gb' X ∧ tobs I I' ∧ I' 99 0 = 0, zno, ({ frames := 7, cells := 0, slots := 0, locals := 161 } : Room)) 0 0 (tX g L (tput (tco (zs I 99 0 0) c_13 o_14) 987 ((s_jud wv (I 10) (I 27) nh nd own la lb lh i_7).1)) J Gb_12 X) 31 [(0, .ref (L 99)), (1, .int (nI (ww))), (2, .int ((s_jud wv (I 10) (I 27) nh nd own la lb lh i_7).2.2.1)), (3, .int ((s_jud wv (I 10) (I 27) nh nd own la lb lh i_7).2.2.2)), (4, .int (nI (i_7)))] [] := by
      intro q_8
      induction q_8 with
      | zero =>
        intro i_7 hb_10 lo_15 Gb_12 c_13 o_14 
        obtain rfl : ln = i_7 := by omega
        refine z_iload 4 dX5_judged_31 rfl ?_
        refine z_aload_n 0 dX5_judged_33 rfl ?_
        refine tz_get (v := .ref (L 21)) 21 hL (by decide) q1614 rfl dX5_judged_34 ?_
        refine z_iconst (v := 0) dX5_judged_37 (by decide) ?_
        refine tz_iald (v := nI (ln)) 21 (0) hL (by decide) rfl (by show 0 < 250; omega) hln dX5_judged_38 ?_
        refine z_icmp_geN (a := ln) (b := ln) 280 (by omega) (by omega) dX5_judged_39 (by decide) (fun c_16 => ?_) (fun c_16 => absurd c_16 (by omega))
        refine z_iload_n 1 dX5_judged_280 rfl ?_
        refine z_if_neN 288 (by omega) dX5_judged_281 (by decide) (fun c_17 => ?_) (fun c_17 => ?_)
        · -- ww ≠ 0
          refine z_iload_n 1 dX5_judged_288 rfl ?_
          refine z_iconst (v := 1) dX5_judged_289 (by decide) ?_
          refine z_icmp_neN (a := ww) (b := 1) 297 (by omega) (by omega) dX5_judged_290 (by decide) (fun c_18 => ?_) (fun c_18 => ?_)
          · -- ww ≠ 1
            refine z_aload_n 0 dX5_judged_297 rfl ?_
            refine tz_get (v := .ref (L 24)) 24 hL (by decide) q1617 rfl dX5_judged_298 ?_
            refine z_sipush (v := 988) dX5_judged_301 (by decide) ?_
            refine tz_iald (v := ((s_jud wv (I 10) (I 27) nh nd own la lb lh ln).1) 1) 24 (987 + 1) hL (by decide) (by decide) (by show 987 + 1 < 1081; omega) (tput_at (by omega)) dX5_judged_304 ?_
            exact z_iret dX5_judged_305 rfl (Nat.le_of_ble_eq_true rfl) (Nat.le_of_ble_eq_true rfl) ⟨congrArg some (congrArg Value.int (by unfold s_judged; rw [ncl (by omega), hv]; simp [c_17, c_18])), (tput (tco (zs I 99 0 0) c_13 o_14) 987 ((s_jud wv (I 10) (I 27) nh nd own la lb lh ln).1)), Gb_12, rfl, (tobs_put (tobs_co (tobs_zs tobs_rf rfl)) (by decide)), rfl⟩
          · -- ww = 1
            refine z_iload_n 3 dX5_judged_293 rfl ?_
            refine z_goto 305 dX5_judged_294 (by decide) ?_
            exact z_iret dX5_judged_305 rfl (Nat.le_of_ble_eq_true rfl) (Nat.le_of_ble_eq_true rfl) ⟨congrArg some (congrArg Value.int (by unfold s_judged; rw [ncl (by omega), hv]; simp [c_17, c_18])), (tput (tco (zs I 99 0 0) c_13 o_14) 987 ((s_jud wv (I 10) (I 27) nh nd own la lb lh ln).1)), Gb_12, rfl, (tobs_put (tobs_co (tobs_zs tobs_rf rfl)) (by decide)), rfl⟩
        · -- ww = 0
          refine z_iload_n 2 dX5_judged_284 rfl ?_
          refine z_goto 305 dX5_judged_285 (by decide) ?_
          exact z_iret dX5_judged_305 rfl (Nat.le_of_ble_eq_true rfl) (Nat.le_of_ble_eq_true rfl) ⟨congrArg some (congrArg Value.int (by unfold s_judged; rw [ncl (by omega), hv]; simp [c_17])), (tput (tco (zs I 99 0 0) c_13 o_14) 987 ((s_jud wv (I 10) (I 27) nh nd own la lb lh ln).1)), Gb_12, rfl, (tobs_put (tobs_co (tobs_zs tobs_rf rfl)) (by decide)), rfl⟩
      | succ q_8 ih_9 =>
        intro i_7 hb_10 lo_15 Gb_12 c_13 o_14 
        refine z_iload 4 dX5_judged_31 rfl ?_
        refine z_aload_n 0 dX5_judged_33 rfl ?_
        refine tz_get (v := .ref (L 21)) 21 hL (by decide) q1614 rfl dX5_judged_34 ?_
        refine z_iconst (v := 0) dX5_judged_37 (by decide) ?_
        refine tz_iald (v := nI (ln)) 21 (0) hL (by decide) rfl (by show 0 < 250; omega) hln dX5_judged_38 ?_
        refine z_icmp_geN (a := i_7) (b := ln) 280 (by omega) (by omega) dX5_judged_39 (by decide) (fun c_19 => absurd c_19 (by omega)) (fun c_19 => ?_)
        obtain ⟨hl1, hl2, hl3, hl4, hl5, hl6, hl7⟩ := hl i_7 (by omega)
        refine z_aload_n 0 dX5_judged_42 rfl ?_
        refine tz_get (v := .ref (L 21)) 21 hL (by decide) q1614 rfl dX5_judged_43 ?_
        refine z_iconst (v := 1) dX5_judged_46 (by decide) ?_
        refine z_iconst (v := 3) dX5_judged_47 (by decide) ?_
        refine z_iload 4 dX5_judged_48 rfl ?_
        refine z_imulN (a := 3) (b := i_7) dX5_judged_50 ?_
        refine z_iaddN (a := 1) (b := 3 * i_7) dX5_judged_51 ?_
        refine z_eq (y := nI (3 * i_7 + 1)) (congrArg nI (by omega)) ?_
        refine tz_iald (v := nI (la i_7)) 21 (3 * i_7 + 1) hL (by decide) rfl (by show 3 * i_7 + 1 < 250; omega) hl1 dX5_judged_52 ?_
        refine z_istore (lv' := [(5, .int (nI (la i_7))), (0, .ref (L 99)), (1, .int (nI (ww))), (2, .int ((s_jud wv (I 10) (I 27) nh nd own la lb lh i_7).2.2.1)), (3, .int ((s_jud wv (I 10) (I 27) nh nd own la lb lh i_7).2.2.2)), (4, .int (nI (i_7)))]) dX5_judged_53 (by decide) rfl ?_
        refine z_aload_n 1 dX5_judged_55 rfl ?_
        refine tz_get (v := .ref (L 21)) 21 hL (by decide) q1614 rfl dX5_judged_56 ?_
        refine z_iconst (v := 2) dX5_judged_59 (by decide) ?_
        refine z_iconst (v := 3) dX5_judged_60 (by decide) ?_
        refine z_iload 5 dX5_judged_61 rfl ?_
        refine z_imulN (a := 3) (b := i_7) dX5_judged_63 ?_
        refine z_iaddN (a := 2) (b := 3 * i_7) dX5_judged_64 ?_
        refine z_eq (y := nI (3 * i_7 + 2)) (congrArg nI (by omega)) ?_
        refine tz_iald (v := nI (lb i_7)) 21 (3 * i_7 + 2) hL (by decide) rfl (by show 3 * i_7 + 2 < 250; omega) hl2 dX5_judged_65 ?_
        refine z_istore (lv' := [(6, .int (nI (lb i_7))), (5, .int (nI (la i_7))), (0, .ref (L 99)), (1, .int (nI (ww))), (2, .int ((s_jud wv (I 10) (I 27) nh nd own la lb lh i_7).2.2.1)), (3, .int ((s_jud wv (I 10) (I 27) nh nd own la lb lh i_7).2.2.2)), (4, .int (nI (i_7)))]) dX5_judged_66 (by decide) rfl ?_
        refine z_aload_n 2 dX5_judged_68 rfl ?_
        refine tz_get (v := .ref (L 21)) 21 hL (by decide) q1614 rfl dX5_judged_69 ?_
        refine z_iconst (v := 3) dX5_judged_72 (by decide) ?_
        refine z_iconst (v := 3) dX5_judged_73 (by decide) ?_
        refine z_iload 6 dX5_judged_74 rfl ?_
        refine z_imulN (a := 3) (b := i_7) dX5_judged_76 ?_
        refine z_iaddN (a := 3) (b := 3 * i_7) dX5_judged_77 ?_
        refine z_eq (y := nI (3 * i_7 + 3)) (congrArg nI (by omega)) ?_
        refine tz_iald (v := nI (lh i_7)) 21 (3 * i_7 + 3) hL (by decide) rfl (by show 3 * i_7 + 3 < 250; omega) hl3 dX5_judged_78 ?_
        refine z_istore (lv' := [(7, .int (nI (lh i_7))), (6, .int (nI (lb i_7))), (5, .int (nI (la i_7))), (0, .ref (L 99)), (1, .int (nI (ww))), (2, .int ((s_jud wv (I 10) (I 27) nh nd own la lb lh i_7).2.2.1)), (3, .int ((s_jud wv (I 10) (I 27) nh nd own la lb lh i_7).2.2.2)), (4, .int (nI (i_7)))]) dX5_judged_79 (by decide) rfl ?_
        refine z_iload 2 dX5_judged_81 rfl ?_
        refine z_if_eqN 148 (by omega) dX5_judged_83 (by decide) (fun c_20 => ?_) (fun c_20 => ?_)
        · -- la i_7 = 0
          refine z_iconst (v := 1) dX5_judged_148 (by decide) ?_
          refine z_goto 153 dX5_judged_149 (by decide) ?_
          refine z_istore (lv' := [(8, .int 1), (7, .int (nI (lh i_7))), (6, .int (nI (lb i_7))), (5, .int (nI (la i_7))), (0, .ref (L 99)), (1, .int (nI (ww))), (2, .int ((s_jud wv (I 10) (I 27) nh nd own la lb lh i_7).2.2.1)), (3, .int ((s_jud wv (I 10) (I 27) nh nd own la lb lh i_7).2.2.2)), (4, .int (nI (i_7)))]) dX5_judged_153 (by decide) rfl ?_
          refine z_iload 0 dX5_judged_155 rfl ?_
          refine z_if_ne 169 dX5_judged_157 (by decide) (fun h_ => ?_) (fun h_ => absurd h_ (by decide))
          refine z_iload_n 6 dX5_judged_169 rfl ?_
          refine z_istore_n (lv' := [(2, .int ((s_jud wv (I 10) (I 27) nh nd own la lb lh i_7).2.2.1)), (8, .int 1), (7, .int (nI (lh i_7))), (6, .int (nI (lb i_7))), (5, .int (nI (la i_7))), (0, .ref (L 99)), (1, .int (nI (ww))), (3, .int ((s_jud wv (I 10) (I 27) nh nd own la lb lh i_7).2.2.2)), (4, .int (nI (i_7)))]) dX5_judged_170 rfl (by decide) rfl ?_
          refine z_iload 4 dX5_judged_171 rfl ?_
          refine z_if_neN 204 (by omega) dX5_judged_173 (by decide) (fun c_ => absurd c_ (by omega)) (fun _ => ?_)
          refine z_aload_n 5 dX5_judged_176 rfl ?_
          refine z_sipush (v := 987) dX5_judged_177 (by decide) ?_
          refine z_callV (As := [.int 987]) (t_passes_ (I := (zs I 99 0 0)) (hds := rfl) (σ := (s_jud wv (I 10) (I 27) nh nd own la lb lh i_7).1) (c := c_13) (o := o_14) hL hV hlaw 987 (by omega) (s_jud_0 hnh i_7).1 (by have h9 := (s_jud_0 (wv := wv) (vs := I 10) (ds := I 27) (nd := nd) (own := own) (la := la) (lb := lb) (lh := lh) hnh i_7).2; omega)) q1866 q1868 qs92 q121 q1869 nm_X5_passes (tX_obj hL) rfl rfl rfl (Nat.le_of_ble_eq_true rfl) ⟨Nat.le_of_ble_eq_true rfl, Nat.le_of_ble_eq_true rfl⟩ dX5_judged_180 rfl rfl (Nat.le_of_ble_eq_true rfl) (Nat.le_of_ble_eq_true rfl) (fun v_22 X_23 hp_24 => ?_)
          obtain ⟨rfl, Gb_21, rfl⟩ := hp_24
          refine z_st (st' := []) rfl ?_
          refine z_aload_n 5 dX5_judged_183 rfl ?_
          refine tz_get (v := .int ((s_pass wv (I 10) (I 27) nh nd own ((s_jud wv (I 10) (I 27) nh nd own la lb lh i_7).2.1) ((s_jud wv (I 10) (I 27) nh nd own la lb lh i_7).1)).2.2)) 29 hL (by decide) q1622 rfl dX5_judged_184 ?_
          refine z_if_eq 199 dX5_judged_187 (by decide) (fun c_25 => ?_) (fun c_25 => ?_)
          · -- (s_pass wv (I 10) (I 27) nh nd own ((s_jud wv (I 10) (I 27) nh nd own la lb lh i_7).2.1) ((s_jud wv (I 10) (I 27) nh nd own la lb lh i_7).1)).2.2 = 0
            refine z_iload_n 7 dX5_judged_199 rfl ?_
            refine z_istore_n (lv' := [(3, .int ((s_jud wv (I 10) (I 27) nh nd own la lb lh i_7).2.2.2)), (2, .int ((s_jud wv (I 10) (I 27) nh nd own la lb lh i_7).2.2.1)), (8, .int 1), (7, .int (nI (lh i_7))), (6, .int (nI (lb i_7))), (5, .int (nI (la i_7))), (0, .ref (L 99)), (1, .int (nI (ww))), (4, .int (nI (i_7)))]) dX5_judged_200 rfl (by decide) rfl ?_
            refine z_goto 274 dX5_judged_201 (by decide) ?_
            refine z_iinc (v := nI (i_7 + 1)) (lv' := [(4, .int (nI (i_7 + 1))), (3, .int ((s_jud wv (I 10) (I 27) nh nd own la lb lh i_7).2.2.2)), (2, .int ((s_jud wv (I 10) (I 27) nh nd own la lb lh i_7).2.2.1)), (8, .int 1), (7, .int (nI (lh i_7))), (6, .int (nI (lb i_7))), (5, .int (nI (la i_7))), (0, .ref (L 99)), (1, .int (nI (ww)))]) 8 dX5_judged_274 rfl (nI_1 _) (by decide) rfl ?_
            refine z_goto 31 dX5_judged_277 (by decide) ?_
            have f_26 : (s_jud wv (I 10) (I 27) nh nd own la lb lh i_7).2.2.1 = (s_jud wv (I 10) (I 27) nh nd own la lb lh (i_7 + 1)).2.2.1 := by simp [s_jud, s_ln, c_19, c_20, c_25]
            have f_27 : (s_jud wv (I 10) (I 27) nh nd own la lb lh i_7).2.2.2 = (s_jud wv (I 10) (I 27) nh nd own la lb lh (i_7 + 1)).2.2.2 := by simp [s_jud, s_ln, c_19, c_20, c_25]
            refine z_lv (lv' := [(0, .ref (L 99)), (1, .int (nI (ww))), (2, .int ((s_jud wv (I 10) (I 27) nh nd own la lb lh (i_7 + 1)).2.2.1)), (3, .int ((s_jud wv (I 10) (I 27) nh nd own la lb lh (i_7 + 1)).2.2.2)), (4, .int (nI (i_7 + 1)))]) [7, 8, 2, 1, 0] (by rw [← f_26, ← f_27]; rfl) ?_
            refine z_X (X' := (tX g L (tput (tco (zs I 99 0 0) ((s_pass wv (I 10) (I 27) nh nd own ((s_jud wv (I 10) (I 27) nh nd own la lb lh i_7).2.1) ((s_jud wv (I 10) (I 27) nh nd own la lb lh i_7).1)).2.1) ((s_pass wv (I 10) (I 27) nh nd own ((s_jud wv (I 10) (I 27) nh nd own la lb lh i_7).2.1) ((s_jud wv (I 10) (I 27) nh nd own la lb lh i_7).1)).2.2)) 987 ((s_jud wv (I 10) (I 27) nh nd own la lb lh (i_7 + 1)).1)) J Gb_21 X)) (by skip; simp only [s_jud, s_ln, c_19, c_20, if_true, if_false, ↓reduceIte, Bool.false_eq_true, reduceCtorEq] <;> rfl) ?_
            exact ih_9 (i_7 + 1) (by omega) (by omega) _ _ _ 
          · -- ¬ (s_pass wv (I 10) (I 27) nh nd own ((s_jud wv (I 10) (I 27) nh nd own la lb lh i_7).2.1) ((s_jud wv (I 10) (I 27) nh nd own la lb lh i_7).1)).2.2 = 0
            refine z_iload_n 7 dX5_judged_190 rfl ?_
            refine z_if_ge 199 dX5_judged_191 (by decide) (fun c_28 => ?_) (fun c_28 => ?_)
            · -- 0 ≤ (s_jud wv (I 10) (I 27) nh nd own la lb lh i_7).2.2.2
              have c_28' := Int32.not_lt.mpr c_28
              refine z_iload_n 7 dX5_judged_199 rfl ?_
              refine z_istore_n (lv' := [(3, .int ((s_jud wv (I 10) (I 27) nh nd own la lb lh i_7).2.2.2)), (2, .int ((s_jud wv (I 10) (I 27) nh nd own la lb lh i_7).2.2.1)), (8, .int 1), (7, .int (nI (lh i_7))), (6, .int (nI (lb i_7))), (5, .int (nI (la i_7))), (0, .ref (L 99)), (1, .int (nI (ww))), (4, .int (nI (i_7)))]) dX5_judged_200 rfl (by decide) rfl ?_
              refine z_goto 274 dX5_judged_201 (by decide) ?_
              refine z_iinc (v := nI (i_7 + 1)) (lv' := [(4, .int (nI (i_7 + 1))), (3, .int ((s_jud wv (I 10) (I 27) nh nd own la lb lh i_7).2.2.2)), (2, .int ((s_jud wv (I 10) (I 27) nh nd own la lb lh i_7).2.2.1)), (8, .int 1), (7, .int (nI (lh i_7))), (6, .int (nI (lb i_7))), (5, .int (nI (la i_7))), (0, .ref (L 99)), (1, .int (nI (ww)))]) 8 dX5_judged_274 rfl (nI_1 _) (by decide) rfl ?_
              refine z_goto 31 dX5_judged_277 (by decide) ?_
              have f_29 : (s_jud wv (I 10) (I 27) nh nd own la lb lh i_7).2.2.1 = (s_jud wv (I 10) (I 27) nh nd own la lb lh (i_7 + 1)).2.2.1 := by simp [s_jud, s_ln, c_19, c_20, c_25, c_28, c_28']
              have f_30 : (s_jud wv (I 10) (I 27) nh nd own la lb lh i_7).2.2.2 = (s_jud wv (I 10) (I 27) nh nd own la lb lh (i_7 + 1)).2.2.2 := by simp [s_jud, s_ln, c_19, c_20, c_25, c_28, c_28']
              refine z_lv (lv' := [(0, .ref (L 99)), (1, .int (nI (ww))), (2, .int ((s_jud wv (I 10) (I 27) nh nd own la lb lh (i_7 + 1)).2.2.1)), (3, .int ((s_jud wv (I 10) (I 27) nh nd own la lb lh (i_7 + 1)).2.2.2)), (4, .int (nI (i_7 + 1)))]) [7, 8, 2, 1, 0] (by rw [← f_29, ← f_30]; rfl) ?_
              refine z_X (X' := (tX g L (tput (tco (zs I 99 0 0) ((s_pass wv (I 10) (I 27) nh nd own ((s_jud wv (I 10) (I 27) nh nd own la lb lh i_7).2.1) ((s_jud wv (I 10) (I 27) nh nd own la lb lh i_7).1)).2.1) ((s_pass wv (I 10) (I 27) nh nd own ((s_jud wv (I 10) (I 27) nh nd own la lb lh i_7).2.1) ((s_jud wv (I 10) (I 27) nh nd own la lb lh i_7).1)).2.2)) 987 ((s_jud wv (I 10) (I 27) nh nd own la lb lh (i_7 + 1)).1)) J Gb_21 X)) (by skip; simp only [s_jud, s_ln, c_19, c_20, if_true, if_false, ↓reduceIte, Bool.false_eq_true, reduceCtorEq] <;> rfl) ?_
              exact ih_9 (i_7 + 1) (by omega) (by omega) _ _ _ 
            · -- ¬ 0 ≤ (s_jud wv (I 10) (I 27) nh nd own la lb lh i_7).2.2.2
              have c_28' := Int32.not_le.mp c_28
              refine z_iload 8 dX5_judged_194 rfl ?_
              refine z_goto 200 dX5_judged_196 (by decide) ?_
              refine z_istore_n (lv' := [(3, .int (nI (i_7))), (2, .int ((s_jud wv (I 10) (I 27) nh nd own la lb lh i_7).2.2.1)), (8, .int 1), (7, .int (nI (lh i_7))), (6, .int (nI (lb i_7))), (5, .int (nI (la i_7))), (0, .ref (L 99)), (1, .int (nI (ww))), (4, .int (nI (i_7)))]) dX5_judged_200 rfl (by decide) rfl ?_
              refine z_goto 274 dX5_judged_201 (by decide) ?_
              refine z_iinc (v := nI (i_7 + 1)) (lv' := [(4, .int (nI (i_7 + 1))), (3, .int (nI (i_7))), (2, .int ((s_jud wv (I 10) (I 27) nh nd own la lb lh i_7).2.2.1)), (8, .int 1), (7, .int (nI (lh i_7))), (6, .int (nI (lb i_7))), (5, .int (nI (la i_7))), (0, .ref (L 99)), (1, .int (nI (ww)))]) 8 dX5_judged_274 rfl (nI_1 _) (by decide) rfl ?_
              refine z_goto 31 dX5_judged_277 (by decide) ?_
              have f_31 : (s_jud wv (I 10) (I 27) nh nd own la lb lh i_7).2.2.1 = (s_jud wv (I 10) (I 27) nh nd own la lb lh (i_7 + 1)).2.2.1 := by simp [s_jud, s_ln, c_19, c_20, c_25, c_28, c_28']
              have f_32 : nI (i_7) = (s_jud wv (I 10) (I 27) nh nd own la lb lh (i_7 + 1)).2.2.2 := by simp [s_jud, s_ln, c_19, c_20, c_25, c_28, c_28']
              refine z_lv (lv' := [(0, .ref (L 99)), (1, .int (nI (ww))), (2, .int ((s_jud wv (I 10) (I 27) nh nd own la lb lh (i_7 + 1)).2.2.1)), (3, .int ((s_jud wv (I 10) (I 27) nh nd own la lb lh (i_7 + 1)).2.2.2)), (4, .int (nI (i_7 + 1)))]) [7, 8, 2, 1, 0] (by rw [← f_31, ← f_32]; rfl) ?_
              refine z_X (X' := (tX g L (tput (tco (zs I 99 0 0) ((s_pass wv (I 10) (I 27) nh nd own ((s_jud wv (I 10) (I 27) nh nd own la lb lh i_7).2.1) ((s_jud wv (I 10) (I 27) nh nd own la lb lh i_7).1)).2.1) ((s_pass wv (I 10) (I 27) nh nd own ((s_jud wv (I 10) (I 27) nh nd own la lb lh i_7).2.1) ((s_jud wv (I 10) (I 27) nh nd own la lb lh i_7).1)).2.2)) 987 ((s_jud wv (I 10) (I 27) nh nd own la lb lh (i_7 + 1)).1)) J Gb_21 X)) (by skip; simp only [s_jud, s_ln, c_19, c_20, if_true, if_false, ↓reduceIte, Bool.false_eq_true, reduceCtorEq] <;> rfl) ?_
              exact ih_9 (i_7 + 1) (by omega) (by omega) _ _ _ 
        · -- la i_7 ≠ 0
          refine z_iload 2 dX5_judged_86 rfl ?_
          refine z_iconst (v := 1) dX5_judged_88 (by decide) ?_
          refine z_icmp_neN (a := la i_7) (b := 1) 109 (by omega) (by omega) dX5_judged_89 (by decide) (fun c_33 => ?_) (fun c_33 => ?_)
          · -- la i_7 ≠ 1
            refine z_iload 2 dX5_judged_109 rfl ?_
            refine z_iconst (v := 2) dX5_judged_111 (by decide) ?_
            refine z_icmp_neN (a := la i_7) (b := 2) 132 (by omega) (by omega) dX5_judged_112 (by decide) (fun c_34 => ?_) (fun c_34 => ?_)
            · -- la i_7 ≠ 2
              refine z_aload_n 3 dX5_judged_132 rfl ?_
              refine tz_get (v := .ref (L 24)) 24 hL (by decide) q1617 rfl dX5_judged_133 ?_
              refine z_sipush (v := 989) dX5_judged_136 (by decide) ?_
              refine z_iload 1 dX5_judged_139 rfl ?_
              refine z_iaddN (a := 989) (b := lb i_7) dX5_judged_141 ?_
              refine z_eq (y := nI (lb i_7 + 989)) (congrArg nI (by omega)) ?_
              refine tz_iald (v := ((s_jud wv (I 10) (I 27) nh nd own la lb lh i_7).1) (lb i_7 + 2)) 24 (987 + (lb i_7 + 2)) hL (by decide) (congrArg nI (by omega)) (by show 987 + (lb i_7 + 2) < 1081; omega) (tput_at (by omega)) dX5_judged_142 ?_
              refine z_bipush (v := 9) dX5_judged_143 (by decide) ?_
              refine z_icmp_ge 152 dX5_judged_145 (by decide) (fun c_35 => ?_) (fun c_35 => ?_)
              · -- 9 ≤ ((s_jud wv (I 10) (I 27) nh nd own la lb lh i_7).1) (lb i_7 + 2)
                have c_35' := Int32.not_lt.mpr c_35
                refine z_iconst (v := 0) dX5_judged_152 (by decide) ?_
                refine z_istore (lv' := [(8, .int 0), (7, .int (nI (lh i_7))), (6, .int (nI (lb i_7))), (5, .int (nI (la i_7))), (0, .ref (L 99)), (1, .int (nI (ww))), (2, .int ((s_jud wv (I 10) (I 27) nh nd own la lb lh i_7).2.2.1)), (3, .int ((s_jud wv (I 10) (I 27) nh nd own la lb lh i_7).2.2.2)), (4, .int (nI (i_7)))]) dX5_judged_153 (by decide) rfl ?_
                refine z_iload 0 dX5_judged_155 rfl ?_
                refine z_if_ne 169 dX5_judged_157 (by decide) (fun h_ => absurd h_ (by decide)) (fun h_ => ?_)
                refine z_iload_n 6 dX5_judged_160 rfl ?_
                refine z_if_ge 169 dX5_judged_161 (by decide) (fun c_36 => ?_) (fun c_36 => ?_)
                · -- 0 ≤ (s_jud wv (I 10) (I 27) nh nd own la lb lh i_7).2.2.1
                  have c_36' := Int32.not_lt.mpr c_36
                  refine z_iload_n 6 dX5_judged_169 rfl ?_
                  refine z_istore_n (lv' := [(2, .int ((s_jud wv (I 10) (I 27) nh nd own la lb lh i_7).2.2.1)), (8, .int 0), (7, .int (nI (lh i_7))), (6, .int (nI (lb i_7))), (5, .int (nI (la i_7))), (0, .ref (L 99)), (1, .int (nI (ww))), (3, .int ((s_jud wv (I 10) (I 27) nh nd own la lb lh i_7).2.2.2)), (4, .int (nI (i_7)))]) dX5_judged_170 rfl (by decide) rfl ?_
                  refine z_iload 4 dX5_judged_171 rfl ?_
                  refine z_if_neN 204 (by omega) dX5_judged_173 (by decide) (fun _ => ?_) (fun c_ => absurd c_ (by omega))
                  refine z_iload 1 dX5_judged_204 rfl ?_
                  refine z_if_eq 231 dX5_judged_206 (by decide) (fun h_ => ?_) (fun h_ => absurd h_ (by decide))
                  refine z_iload 1 dX5_judged_231 rfl ?_
                  refine z_if_eq 254 dX5_judged_233 (by decide) (fun h_ => ?_) (fun h_ => absurd h_ (by decide))
                  refine z_iload 1 dX5_judged_254 rfl ?_
                  refine z_if_eq 274 dX5_judged_256 (by decide) (fun h_ => ?_) (fun h_ => absurd h_ (by decide))
                  refine z_iinc (v := nI (i_7 + 1)) (lv' := [(4, .int (nI (i_7 + 1))), (2, .int ((s_jud wv (I 10) (I 27) nh nd own la lb lh i_7).2.2.1)), (8, .int 0), (7, .int (nI (lh i_7))), (6, .int (nI (lb i_7))), (5, .int (nI (la i_7))), (0, .ref (L 99)), (1, .int (nI (ww))), (3, .int ((s_jud wv (I 10) (I 27) nh nd own la lb lh i_7).2.2.2))]) 8 dX5_judged_274 rfl (nI_1 _) (by decide) rfl ?_
                  refine z_goto 31 dX5_judged_277 (by decide) ?_
                  have f_37 : (s_jud wv (I 10) (I 27) nh nd own la lb lh i_7).2.2.1 = (s_jud wv (I 10) (I 27) nh nd own la lb lh (i_7 + 1)).2.2.1 := by simp [s_jud, s_ln, c_19, c_20, c_33, c_34, c_35, c_35', c_36, c_36']
                  have f_38 : (s_jud wv (I 10) (I 27) nh nd own la lb lh i_7).2.2.2 = (s_jud wv (I 10) (I 27) nh nd own la lb lh (i_7 + 1)).2.2.2 := by simp [s_jud, s_ln, c_19, c_20, c_33, c_34, c_35, c_35', c_36, c_36']
                  refine z_lv (lv' := [(0, .ref (L 99)), (1, .int (nI (ww))), (2, .int ((s_jud wv (I 10) (I 27) nh nd own la lb lh (i_7 + 1)).2.2.1)), (3, .int ((s_jud wv (I 10) (I 27) nh nd own la lb lh (i_7 + 1)).2.2.2)), (4, .int (nI (i_7 + 1)))]) [6, 7, 1, 8, 0] (by rw [← f_37, ← f_38]; rfl) ?_
                  refine z_X (X' := (tX g L (tput (tco (zs I 99 0 0) c_13 o_14) 987 ((s_jud wv (I 10) (I 27) nh nd own la lb lh (i_7 + 1)).1)) J Gb_12 X)) (by skip; simp only [s_jud, s_ln, c_19, c_20, c_33, c_34, c_35, c_35', if_true, if_false, ↓reduceIte, Bool.false_eq_true, reduceCtorEq] <;> rfl) ?_
                  exact ih_9 (i_7 + 1) (by omega) (by omega) _ _ _ 
                · -- ¬ 0 ≤ (s_jud wv (I 10) (I 27) nh nd own la lb lh i_7).2.2.1
                  have c_36' := Int32.not_le.mp c_36
                  refine z_iload 8 dX5_judged_164 rfl ?_
                  refine z_goto 170 dX5_judged_166 (by decide) ?_
                  refine z_istore_n (lv' := [(2, .int (nI (i_7))), (8, .int 0), (7, .int (nI (lh i_7))), (6, .int (nI (lb i_7))), (5, .int (nI (la i_7))), (0, .ref (L 99)), (1, .int (nI (ww))), (3, .int ((s_jud wv (I 10) (I 27) nh nd own la lb lh i_7).2.2.2)), (4, .int (nI (i_7)))]) dX5_judged_170 rfl (by decide) rfl ?_
                  refine z_iload 4 dX5_judged_171 rfl ?_
                  refine z_if_neN 204 (by omega) dX5_judged_173 (by decide) (fun _ => ?_) (fun c_ => absurd c_ (by omega))
                  refine z_iload 1 dX5_judged_204 rfl ?_
                  refine z_if_eq 231 dX5_judged_206 (by decide) (fun h_ => ?_) (fun h_ => absurd h_ (by decide))
                  refine z_iload 1 dX5_judged_231 rfl ?_
                  refine z_if_eq 254 dX5_judged_233 (by decide) (fun h_ => ?_) (fun h_ => absurd h_ (by decide))
                  refine z_iload 1 dX5_judged_254 rfl ?_
                  refine z_if_eq 274 dX5_judged_256 (by decide) (fun h_ => ?_) (fun h_ => absurd h_ (by decide))
                  refine z_iinc (v := nI (i_7 + 1)) (lv' := [(4, .int (nI (i_7 + 1))), (2, .int (nI (i_7))), (8, .int 0), (7, .int (nI (lh i_7))), (6, .int (nI (lb i_7))), (5, .int (nI (la i_7))), (0, .ref (L 99)), (1, .int (nI (ww))), (3, .int ((s_jud wv (I 10) (I 27) nh nd own la lb lh i_7).2.2.2))]) 8 dX5_judged_274 rfl (nI_1 _) (by decide) rfl ?_
                  refine z_goto 31 dX5_judged_277 (by decide) ?_
                  have f_39 : nI (i_7) = (s_jud wv (I 10) (I 27) nh nd own la lb lh (i_7 + 1)).2.2.1 := by simp [s_jud, s_ln, c_19, c_20, c_33, c_34, c_35, c_35', c_36, c_36']
                  have f_40 : (s_jud wv (I 10) (I 27) nh nd own la lb lh i_7).2.2.2 = (s_jud wv (I 10) (I 27) nh nd own la lb lh (i_7 + 1)).2.2.2 := by simp [s_jud, s_ln, c_19, c_20, c_33, c_34, c_35, c_35', c_36, c_36']
                  refine z_lv (lv' := [(0, .ref (L 99)), (1, .int (nI (ww))), (2, .int ((s_jud wv (I 10) (I 27) nh nd own la lb lh (i_7 + 1)).2.2.1)), (3, .int ((s_jud wv (I 10) (I 27) nh nd own la lb lh (i_7 + 1)).2.2.2)), (4, .int (nI (i_7 + 1)))]) [6, 7, 1, 8, 0] (by rw [← f_39, ← f_40]; rfl) ?_
                  refine z_X (X' := (tX g L (tput (tco (zs I 99 0 0) c_13 o_14) 987 ((s_jud wv (I 10) (I 27) nh nd own la lb lh (i_7 + 1)).1)) J Gb_12 X)) (by skip; simp only [s_jud, s_ln, c_19, c_20, c_33, c_34, c_35, c_35', if_true, if_false, ↓reduceIte, Bool.false_eq_true, reduceCtorEq] <;> rfl) ?_
                  exact ih_9 (i_7 + 1) (by omega) (by omega) _ _ _ 
              · -- ¬ 9 ≤ ((s_jud wv (I 10) (I 27) nh nd own la lb lh i_7).1) (lb i_7 + 2)
                have c_35' := Int32.not_le.mp c_35
                refine z_iconst (v := 1) dX5_judged_148 (by decide) ?_
                refine z_goto 153 dX5_judged_149 (by decide) ?_
                refine z_istore (lv' := [(8, .int 1), (7, .int (nI (lh i_7))), (6, .int (nI (lb i_7))), (5, .int (nI (la i_7))), (0, .ref (L 99)), (1, .int (nI (ww))), (2, .int ((s_jud wv (I 10) (I 27) nh nd own la lb lh i_7).2.2.1)), (3, .int ((s_jud wv (I 10) (I 27) nh nd own la lb lh i_7).2.2.2)), (4, .int (nI (i_7)))]) dX5_judged_153 (by decide) rfl ?_
                refine z_iload 0 dX5_judged_155 rfl ?_
                refine z_if_ne 169 dX5_judged_157 (by decide) (fun h_ => ?_) (fun h_ => absurd h_ (by decide))
                refine z_iload_n 6 dX5_judged_169 rfl ?_
                refine z_istore_n (lv' := [(2, .int ((s_jud wv (I 10) (I 27) nh nd own la lb lh i_7).2.2.1)), (8, .int 1), (7, .int (nI (lh i_7))), (6, .int (nI (lb i_7))), (5, .int (nI (la i_7))), (0, .ref (L 99)), (1, .int (nI (ww))), (3, .int ((s_jud wv (I 10) (I 27) nh nd own la lb lh i_7).2.2.2)), (4, .int (nI (i_7)))]) dX5_judged_170 rfl (by decide) rfl ?_
                refine z_iload 4 dX5_judged_171 rfl ?_
                refine z_if_neN 204 (by omega) dX5_judged_173 (by decide) (fun _ => ?_) (fun c_ => absurd c_ (by omega))
                refine z_iload 1 dX5_judged_204 rfl ?_
                refine z_if_eq 231 dX5_judged_206 (by decide) (fun h_ => absurd h_ (by decide)) (fun h_ => ?_)
                refine z_iload 4 dX5_judged_209 rfl ?_
                refine z_iconst (v := 1) dX5_judged_211 (by decide) ?_
                refine z_icmp_neN (a := la i_7) (b := 1) 231 (by omega) (by omega) dX5_judged_212 (by decide) (fun _ => ?_) (fun c_ => absurd c_ (by omega))
                refine z_iload 1 dX5_judged_231 rfl ?_
                refine z_if_eq 254 dX5_judged_233 (by decide) (fun h_ => absurd h_ (by decide)) (fun h_ => ?_)
                refine z_iload 4 dX5_judged_236 rfl ?_
                refine z_iconst (v := 2) dX5_judged_238 (by decide) ?_
                refine z_icmp_neN (a := la i_7) (b := 2) 254 (by omega) (by omega) dX5_judged_239 (by decide) (fun _ => ?_) (fun c_ => absurd c_ (by omega))
                refine z_iload 1 dX5_judged_254 rfl ?_
                refine z_if_eq 274 dX5_judged_256 (by decide) (fun h_ => absurd h_ (by decide)) (fun h_ => ?_)
                refine z_aload_n 5 dX5_judged_259 rfl ?_
                refine tz_get (v := .ref (L 24)) 24 hL (by decide) q1617 rfl dX5_judged_260 ?_
                refine z_sipush (v := 989) dX5_judged_263 (by decide) ?_
                refine z_iload 3 dX5_judged_266 rfl ?_
                refine z_iaddN (a := 989) (b := lb i_7) dX5_judged_268 ?_
                refine z_eq (y := nI (lb i_7 + 989)) (congrArg nI (by omega)) ?_
                refine z_dup2_11 dX5_judged_269 rfl rfl ?_
                refine tz_iald (v := ((s_jud wv (I 10) (I 27) nh nd own la lb lh i_7).1) (lb i_7 + 2)) 24 (987 + (lb i_7 + 2)) hL (by decide) (congrArg nI (by omega)) (by show 987 + (lb i_7 + 2) < 1081; omega) (tput_at (by omega)) dX5_judged_270 ?_
                refine z_iconst (v := 1) dX5_judged_271 (by decide) ?_
                refine z_iadd dX5_judged_272 ?_
                obtain ⟨x_41, ex_41⟩ : ∃ y : Int32, ((((s_jud wv (I 10) (I 27) nh nd own la lb lh i_7).1) (lb i_7 + 2)) + 1) = y := ⟨_, rfl⟩
                refine z_eq ex_41 ?_
                refine tz_iast 24 (987 + (lb i_7 + 2)) hL (by decide) (congrArg nI (by omega)) (by show 987 + (lb i_7 + 2) < 1081; omega) (tput_zs (by omega)) dX5_judged_273 ?_
                refine z_iinc (v := nI (i_7 + 1)) (lv' := [(4, .int (nI (i_7 + 1))), (2, .int ((s_jud wv (I 10) (I 27) nh nd own la lb lh i_7).2.2.1)), (8, .int 1), (7, .int (nI (lh i_7))), (6, .int (nI (lb i_7))), (5, .int (nI (la i_7))), (0, .ref (L 99)), (1, .int (nI (ww))), (3, .int ((s_jud wv (I 10) (I 27) nh nd own la lb lh i_7).2.2.2))]) 8 dX5_judged_274 rfl (nI_1 _) (by decide) rfl ?_
                refine z_goto 31 dX5_judged_277 (by decide) ?_
                have f_42 : (s_jud wv (I 10) (I 27) nh nd own la lb lh i_7).2.2.1 = (s_jud wv (I 10) (I 27) nh nd own la lb lh (i_7 + 1)).2.2.1 := by simp [s_jud, s_ln, c_19, c_20, c_33, c_34, c_35, c_35']
                have f_43 : (s_jud wv (I 10) (I 27) nh nd own la lb lh i_7).2.2.2 = (s_jud wv (I 10) (I 27) nh nd own la lb lh (i_7 + 1)).2.2.2 := by simp [s_jud, s_ln, c_19, c_20, c_33, c_34, c_35, c_35']
                refine z_lv (lv' := [(0, .ref (L 99)), (1, .int (nI (ww))), (2, .int ((s_jud wv (I 10) (I 27) nh nd own la lb lh (i_7 + 1)).2.2.1)), (3, .int ((s_jud wv (I 10) (I 27) nh nd own la lb lh (i_7 + 1)).2.2.2)), (4, .int (nI (i_7 + 1)))]) [6, 7, 1, 8, 0] (by rw [← f_42, ← f_43]; rfl) ?_
                refine z_X (X' := (tX g L (tput (tco (zs I 99 0 0) c_13 o_14) 987 ((s_jud wv (I 10) (I 27) nh nd own la lb lh (i_7 + 1)).1)) J Gb_12 X)) (by (try subst ex_41); simp only [s_jud, s_ln, c_19, c_20, c_33, c_34, c_35, c_35', if_true, if_false, ↓reduceIte, Bool.false_eq_true, reduceCtorEq] <;> rfl) ?_
                exact ih_9 (i_7 + 1) (by omega) (by omega) _ _ _ 
            · -- la i_7 = 2
              refine z_aload_n 3 dX5_judged_115 rfl ?_
              refine tz_get (v := .ref (L 24)) 24 hL (by decide) q1617 rfl dX5_judged_116 ?_
              refine z_sipush (v := 993) dX5_judged_119 (by decide) ?_
              refine z_iload 1 dX5_judged_122 rfl ?_
              refine z_iaddN (a := 993) (b := lb i_7) dX5_judged_124 ?_
              refine z_eq (y := nI (lb i_7 + 993)) (congrArg nI (by omega)) ?_
              refine tz_iald (v := ((s_jud wv (I 10) (I 27) nh nd own la lb lh i_7).1) (lb i_7 + 6)) 24 (987 + (lb i_7 + 6)) hL (by decide) (congrArg nI (by omega)) (by show 987 + (lb i_7 + 6) < 1081; omega) (tput_at (by omega)) dX5_judged_125 ?_
              refine z_if_lt 152 dX5_judged_126 (by decide) (fun c_44 => ?_) (fun c_44 => ?_)
              · -- ((s_jud wv (I 10) (I 27) nh nd own la lb lh i_7).1) (lb i_7 + 6) < 0
                have c_44' := Int32.not_le.mpr c_44
                refine z_iconst (v := 0) dX5_judged_152 (by decide) ?_
                refine z_istore (lv' := [(8, .int 0), (7, .int (nI (lh i_7))), (6, .int (nI (lb i_7))), (5, .int (nI (la i_7))), (0, .ref (L 99)), (1, .int (nI (ww))), (2, .int ((s_jud wv (I 10) (I 27) nh nd own la lb lh i_7).2.2.1)), (3, .int ((s_jud wv (I 10) (I 27) nh nd own la lb lh i_7).2.2.2)), (4, .int (nI (i_7)))]) dX5_judged_153 (by decide) rfl ?_
                refine z_iload 0 dX5_judged_155 rfl ?_
                refine z_if_ne 169 dX5_judged_157 (by decide) (fun h_ => absurd h_ (by decide)) (fun h_ => ?_)
                refine z_iload_n 6 dX5_judged_160 rfl ?_
                refine z_if_ge 169 dX5_judged_161 (by decide) (fun c_45 => ?_) (fun c_45 => ?_)
                · -- 0 ≤ (s_jud wv (I 10) (I 27) nh nd own la lb lh i_7).2.2.1
                  have c_45' := Int32.not_lt.mpr c_45
                  refine z_iload_n 6 dX5_judged_169 rfl ?_
                  refine z_istore_n (lv' := [(2, .int ((s_jud wv (I 10) (I 27) nh nd own la lb lh i_7).2.2.1)), (8, .int 0), (7, .int (nI (lh i_7))), (6, .int (nI (lb i_7))), (5, .int (nI (la i_7))), (0, .ref (L 99)), (1, .int (nI (ww))), (3, .int ((s_jud wv (I 10) (I 27) nh nd own la lb lh i_7).2.2.2)), (4, .int (nI (i_7)))]) dX5_judged_170 rfl (by decide) rfl ?_
                  refine z_iload 4 dX5_judged_171 rfl ?_
                  refine z_if_neN 204 (by omega) dX5_judged_173 (by decide) (fun _ => ?_) (fun c_ => absurd c_ (by omega))
                  refine z_iload 1 dX5_judged_204 rfl ?_
                  refine z_if_eq 231 dX5_judged_206 (by decide) (fun h_ => ?_) (fun h_ => absurd h_ (by decide))
                  refine z_iload 1 dX5_judged_231 rfl ?_
                  refine z_if_eq 254 dX5_judged_233 (by decide) (fun h_ => ?_) (fun h_ => absurd h_ (by decide))
                  refine z_iload 1 dX5_judged_254 rfl ?_
                  refine z_if_eq 274 dX5_judged_256 (by decide) (fun h_ => ?_) (fun h_ => absurd h_ (by decide))
                  refine z_iinc (v := nI (i_7 + 1)) (lv' := [(4, .int (nI (i_7 + 1))), (2, .int ((s_jud wv (I 10) (I 27) nh nd own la lb lh i_7).2.2.1)), (8, .int 0), (7, .int (nI (lh i_7))), (6, .int (nI (lb i_7))), (5, .int (nI (la i_7))), (0, .ref (L 99)), (1, .int (nI (ww))), (3, .int ((s_jud wv (I 10) (I 27) nh nd own la lb lh i_7).2.2.2))]) 8 dX5_judged_274 rfl (nI_1 _) (by decide) rfl ?_
                  refine z_goto 31 dX5_judged_277 (by decide) ?_
                  have f_46 : (s_jud wv (I 10) (I 27) nh nd own la lb lh i_7).2.2.1 = (s_jud wv (I 10) (I 27) nh nd own la lb lh (i_7 + 1)).2.2.1 := by simp [s_jud, s_ln, c_19, c_20, c_33, c_34, c_44, c_44', c_45, c_45']
                  have f_47 : (s_jud wv (I 10) (I 27) nh nd own la lb lh i_7).2.2.2 = (s_jud wv (I 10) (I 27) nh nd own la lb lh (i_7 + 1)).2.2.2 := by simp [s_jud, s_ln, c_19, c_20, c_33, c_34, c_44, c_44', c_45, c_45']
                  refine z_lv (lv' := [(0, .ref (L 99)), (1, .int (nI (ww))), (2, .int ((s_jud wv (I 10) (I 27) nh nd own la lb lh (i_7 + 1)).2.2.1)), (3, .int ((s_jud wv (I 10) (I 27) nh nd own la lb lh (i_7 + 1)).2.2.2)), (4, .int (nI (i_7 + 1)))]) [6, 7, 1, 8, 0] (by rw [← f_46, ← f_47]; rfl) ?_
                  refine z_X (X' := (tX g L (tput (tco (zs I 99 0 0) c_13 o_14) 987 ((s_jud wv (I 10) (I 27) nh nd own la lb lh (i_7 + 1)).1)) J Gb_12 X)) (by skip; simp only [s_jud, s_ln, c_19, c_20, c_33, c_34, c_44, c_44', if_true, if_false, ↓reduceIte, Bool.false_eq_true, reduceCtorEq] <;> rfl) ?_
                  exact ih_9 (i_7 + 1) (by omega) (by omega) _ _ _ 
                · -- ¬ 0 ≤ (s_jud wv (I 10) (I 27) nh nd own la lb lh i_7).2.2.1
                  have c_45' := Int32.not_le.mp c_45
                  refine z_iload 8 dX5_judged_164 rfl ?_
                  refine z_goto 170 dX5_judged_166 (by decide) ?_
                  refine z_istore_n (lv' := [(2, .int (nI (i_7))), (8, .int 0), (7, .int (nI (lh i_7))), (6, .int (nI (lb i_7))), (5, .int (nI (la i_7))), (0, .ref (L 99)), (1, .int (nI (ww))), (3, .int ((s_jud wv (I 10) (I 27) nh nd own la lb lh i_7).2.2.2)), (4, .int (nI (i_7)))]) dX5_judged_170 rfl (by decide) rfl ?_
                  refine z_iload 4 dX5_judged_171 rfl ?_
                  refine z_if_neN 204 (by omega) dX5_judged_173 (by decide) (fun _ => ?_) (fun c_ => absurd c_ (by omega))
                  refine z_iload 1 dX5_judged_204 rfl ?_
                  refine z_if_eq 231 dX5_judged_206 (by decide) (fun h_ => ?_) (fun h_ => absurd h_ (by decide))
                  refine z_iload 1 dX5_judged_231 rfl ?_
                  refine z_if_eq 254 dX5_judged_233 (by decide) (fun h_ => ?_) (fun h_ => absurd h_ (by decide))
                  refine z_iload 1 dX5_judged_254 rfl ?_
                  refine z_if_eq 274 dX5_judged_256 (by decide) (fun h_ => ?_) (fun h_ => absurd h_ (by decide))
                  refine z_iinc (v := nI (i_7 + 1)) (lv' := [(4, .int (nI (i_7 + 1))), (2, .int (nI (i_7))), (8, .int 0), (7, .int (nI (lh i_7))), (6, .int (nI (lb i_7))), (5, .int (nI (la i_7))), (0, .ref (L 99)), (1, .int (nI (ww))), (3, .int ((s_jud wv (I 10) (I 27) nh nd own la lb lh i_7).2.2.2))]) 8 dX5_judged_274 rfl (nI_1 _) (by decide) rfl ?_
                  refine z_goto 31 dX5_judged_277 (by decide) ?_
                  have f_48 : nI (i_7) = (s_jud wv (I 10) (I 27) nh nd own la lb lh (i_7 + 1)).2.2.1 := by simp [s_jud, s_ln, c_19, c_20, c_33, c_34, c_44, c_44', c_45, c_45']
                  have f_49 : (s_jud wv (I 10) (I 27) nh nd own la lb lh i_7).2.2.2 = (s_jud wv (I 10) (I 27) nh nd own la lb lh (i_7 + 1)).2.2.2 := by simp [s_jud, s_ln, c_19, c_20, c_33, c_34, c_44, c_44', c_45, c_45']
                  refine z_lv (lv' := [(0, .ref (L 99)), (1, .int (nI (ww))), (2, .int ((s_jud wv (I 10) (I 27) nh nd own la lb lh (i_7 + 1)).2.2.1)), (3, .int ((s_jud wv (I 10) (I 27) nh nd own la lb lh (i_7 + 1)).2.2.2)), (4, .int (nI (i_7 + 1)))]) [6, 7, 1, 8, 0] (by rw [← f_48, ← f_49]; rfl) ?_
                  refine z_X (X' := (tX g L (tput (tco (zs I 99 0 0) c_13 o_14) 987 ((s_jud wv (I 10) (I 27) nh nd own la lb lh (i_7 + 1)).1)) J Gb_12 X)) (by skip; simp only [s_jud, s_ln, c_19, c_20, c_33, c_34, c_44, c_44', if_true, if_false, ↓reduceIte, Bool.false_eq_true, reduceCtorEq] <;> rfl) ?_
                  exact ih_9 (i_7 + 1) (by omega) (by omega) _ _ _ 
              · -- ¬ ((s_jud wv (I 10) (I 27) nh nd own la lb lh i_7).1) (lb i_7 + 6) < 0
                have c_44' := Int32.not_lt.mp c_44
                refine z_goto 148 dX5_judged_129 (by decide) ?_
                refine z_iconst (v := 1) dX5_judged_148 (by decide) ?_
                refine z_goto 153 dX5_judged_149 (by decide) ?_
                refine z_istore (lv' := [(8, .int 1), (7, .int (nI (lh i_7))), (6, .int (nI (lb i_7))), (5, .int (nI (la i_7))), (0, .ref (L 99)), (1, .int (nI (ww))), (2, .int ((s_jud wv (I 10) (I 27) nh nd own la lb lh i_7).2.2.1)), (3, .int ((s_jud wv (I 10) (I 27) nh nd own la lb lh i_7).2.2.2)), (4, .int (nI (i_7)))]) dX5_judged_153 (by decide) rfl ?_
                refine z_iload 0 dX5_judged_155 rfl ?_
                refine z_if_ne 169 dX5_judged_157 (by decide) (fun h_ => ?_) (fun h_ => absurd h_ (by decide))
                refine z_iload_n 6 dX5_judged_169 rfl ?_
                refine z_istore_n (lv' := [(2, .int ((s_jud wv (I 10) (I 27) nh nd own la lb lh i_7).2.2.1)), (8, .int 1), (7, .int (nI (lh i_7))), (6, .int (nI (lb i_7))), (5, .int (nI (la i_7))), (0, .ref (L 99)), (1, .int (nI (ww))), (3, .int ((s_jud wv (I 10) (I 27) nh nd own la lb lh i_7).2.2.2)), (4, .int (nI (i_7)))]) dX5_judged_170 rfl (by decide) rfl ?_
                refine z_iload 4 dX5_judged_171 rfl ?_
                refine z_if_neN 204 (by omega) dX5_judged_173 (by decide) (fun _ => ?_) (fun c_ => absurd c_ (by omega))
                refine z_iload 1 dX5_judged_204 rfl ?_
                refine z_if_eq 231 dX5_judged_206 (by decide) (fun h_ => absurd h_ (by decide)) (fun h_ => ?_)
                refine z_iload 4 dX5_judged_209 rfl ?_
                refine z_iconst (v := 1) dX5_judged_211 (by decide) ?_
                refine z_icmp_neN (a := la i_7) (b := 1) 231 (by omega) (by omega) dX5_judged_212 (by decide) (fun _ => ?_) (fun c_ => absurd c_ (by omega))
                refine z_iload 1 dX5_judged_231 rfl ?_
                refine z_if_eq 254 dX5_judged_233 (by decide) (fun h_ => absurd h_ (by decide)) (fun h_ => ?_)
                refine z_iload 4 dX5_judged_236 rfl ?_
                refine z_iconst (v := 2) dX5_judged_238 (by decide) ?_
                refine z_icmp_neN (a := la i_7) (b := 2) 254 (by omega) (by omega) dX5_judged_239 (by decide) (fun c_ => absurd c_ (by omega)) (fun _ => ?_)
                refine z_aload_n 5 dX5_judged_242 rfl ?_
                refine z_sipush (v := 987) dX5_judged_243 (by decide) ?_
                refine z_iload 3 dX5_judged_246 rfl ?_
                refine z_callV (As := [.int 987, .int (nI (lb i_7))]) (t_leaves (I := (tco (zs I 99 0 0) c_13 o_14)) (σ := (s_jud wv (I 10) (I 27) nh nd own la lb lh i_7).1) hL 987 (by omega) (lb i_7) (by omega)) q1870 q1872 qs93 q121 q1873 nm_X5_leaves (tX_obj hL) rfl rfl rfl (Nat.le_of_ble_eq_true rfl) ⟨Nat.le_of_ble_eq_true rfl, Nat.le_of_ble_eq_true rfl⟩ dX5_judged_248 rfl rfl (Nat.le_of_ble_eq_true rfl) (Nat.le_of_ble_eq_true rfl) (fun v_50 X_51 hp_52 => ?_)
                obtain ⟨rfl, rfl⟩ := hp_52
                refine z_st (st' := []) rfl ?_
                refine z_goto 274 dX5_judged_251 (by decide) ?_
                refine z_iinc (v := nI (i_7 + 1)) (lv' := [(4, .int (nI (i_7 + 1))), (2, .int ((s_jud wv (I 10) (I 27) nh nd own la lb lh i_7).2.2.1)), (8, .int 1), (7, .int (nI (lh i_7))), (6, .int (nI (lb i_7))), (5, .int (nI (la i_7))), (0, .ref (L 99)), (1, .int (nI (ww))), (3, .int ((s_jud wv (I 10) (I 27) nh nd own la lb lh i_7).2.2.2))]) 8 dX5_judged_274 rfl (nI_1 _) (by decide) rfl ?_
                refine z_goto 31 dX5_judged_277 (by decide) ?_
                have f_53 : (s_jud wv (I 10) (I 27) nh nd own la lb lh i_7).2.2.1 = (s_jud wv (I 10) (I 27) nh nd own la lb lh (i_7 + 1)).2.2.1 := by simp [s_jud, s_ln, c_19, c_20, c_33, c_34, c_44, c_44']
                have f_54 : (s_jud wv (I 10) (I 27) nh nd own la lb lh i_7).2.2.2 = (s_jud wv (I 10) (I 27) nh nd own la lb lh (i_7 + 1)).2.2.2 := by simp [s_jud, s_ln, c_19, c_20, c_33, c_34, c_44, c_44']
                refine z_lv (lv' := [(0, .ref (L 99)), (1, .int (nI (ww))), (2, .int ((s_jud wv (I 10) (I 27) nh nd own la lb lh (i_7 + 1)).2.2.1)), (3, .int ((s_jud wv (I 10) (I 27) nh nd own la lb lh (i_7 + 1)).2.2.2)), (4, .int (nI (i_7 + 1)))]) [6, 7, 1, 8, 0] (by rw [← f_53, ← f_54]; rfl) ?_
                refine z_X (X' := (tX g L (tput (tco (zs I 99 0 0) c_13 o_14) 987 ((s_jud wv (I 10) (I 27) nh nd own la lb lh (i_7 + 1)).1)) J Gb_12 X)) (by skip; simp only [s_jud, s_ln, c_19, c_20, c_33, c_34, c_44, c_44', if_true, if_false, ↓reduceIte, Bool.false_eq_true, reduceCtorEq] <;> rfl) ?_
                exact ih_9 (i_7 + 1) (by omega) (by omega) _ _ _ 
          · -- la i_7 = 1
            refine z_aload_n 3 dX5_judged_92 rfl ?_
            refine z_sipush (v := 987) dX5_judged_93 (by decide) ?_
            refine z_iload 1 dX5_judged_96 rfl ?_
            refine z_iload 0 dX5_judged_98 rfl ?_
            refine z_callV (As := [.int 987, .int (nI (lb i_7)), .int (nI (lh i_7))]) (t_mayMove (I := (tco (zs I 99 0 0) c_13 o_14)) (σ := (s_jud wv (I 10) (I 27) nh nd own la lb lh i_7).1) hL h1 hnd 987 (by omega) (lb i_7) (lh i_7) (by omega) (by omega)) q1904 q1906 qs99 q121 q1907 nm_X5_mayMove (tX_obj hL) rfl rfl rfl (Nat.le_of_ble_eq_true rfl) ⟨Nat.le_of_ble_eq_true rfl, Nat.le_of_ble_eq_true rfl⟩ dX5_judged_100 rfl rfl (Nat.le_of_ble_eq_true rfl) (Nat.le_of_ble_eq_true rfl) (fun v_55 X_56 hp_57 => ?_)
            obtain ⟨rfl, rfl⟩ := hp_57
            refine z_st (st' := [.int (zb (s_may (I 10) ((s_jud wv (I 10) (I 27) nh nd own la lb lh i_7).1) nd (lb i_7) (lh i_7)))]) rfl ?_
            refine z_if_eqb 152 dX5_judged_103 (by decide) (fun c_58 => ?_) (fun c_58 => ?_)
            · -- s_may (I 10) ((s_jud wv (I 10) (I 27) nh nd own la lb lh i_7).1) nd (lb i_7) (lh i_7) = false
              refine z_iconst (v := 0) dX5_judged_152 (by decide) ?_
              refine z_istore (lv' := [(8, .int 0), (7, .int (nI (lh i_7))), (6, .int (nI (lb i_7))), (5, .int (nI (la i_7))), (0, .ref (L 99)), (1, .int (nI (ww))), (2, .int ((s_jud wv (I 10) (I 27) nh nd own la lb lh i_7).2.2.1)), (3, .int ((s_jud wv (I 10) (I 27) nh nd own la lb lh i_7).2.2.2)), (4, .int (nI (i_7)))]) dX5_judged_153 (by decide) rfl ?_
              refine z_iload 0 dX5_judged_155 rfl ?_
              refine z_if_ne 169 dX5_judged_157 (by decide) (fun h_ => absurd h_ (by decide)) (fun h_ => ?_)
              refine z_iload_n 6 dX5_judged_160 rfl ?_
              refine z_if_ge 169 dX5_judged_161 (by decide) (fun c_59 => ?_) (fun c_59 => ?_)
              · -- 0 ≤ (s_jud wv (I 10) (I 27) nh nd own la lb lh i_7).2.2.1
                have c_59' := Int32.not_lt.mpr c_59
                refine z_iload_n 6 dX5_judged_169 rfl ?_
                refine z_istore_n (lv' := [(2, .int ((s_jud wv (I 10) (I 27) nh nd own la lb lh i_7).2.2.1)), (8, .int 0), (7, .int (nI (lh i_7))), (6, .int (nI (lb i_7))), (5, .int (nI (la i_7))), (0, .ref (L 99)), (1, .int (nI (ww))), (3, .int ((s_jud wv (I 10) (I 27) nh nd own la lb lh i_7).2.2.2)), (4, .int (nI (i_7)))]) dX5_judged_170 rfl (by decide) rfl ?_
                refine z_iload 4 dX5_judged_171 rfl ?_
                refine z_if_neN 204 (by omega) dX5_judged_173 (by decide) (fun _ => ?_) (fun c_ => absurd c_ (by omega))
                refine z_iload 1 dX5_judged_204 rfl ?_
                refine z_if_eq 231 dX5_judged_206 (by decide) (fun h_ => ?_) (fun h_ => absurd h_ (by decide))
                refine z_iload 1 dX5_judged_231 rfl ?_
                refine z_if_eq 254 dX5_judged_233 (by decide) (fun h_ => ?_) (fun h_ => absurd h_ (by decide))
                refine z_iload 1 dX5_judged_254 rfl ?_
                refine z_if_eq 274 dX5_judged_256 (by decide) (fun h_ => ?_) (fun h_ => absurd h_ (by decide))
                refine z_iinc (v := nI (i_7 + 1)) (lv' := [(4, .int (nI (i_7 + 1))), (2, .int ((s_jud wv (I 10) (I 27) nh nd own la lb lh i_7).2.2.1)), (8, .int 0), (7, .int (nI (lh i_7))), (6, .int (nI (lb i_7))), (5, .int (nI (la i_7))), (0, .ref (L 99)), (1, .int (nI (ww))), (3, .int ((s_jud wv (I 10) (I 27) nh nd own la lb lh i_7).2.2.2))]) 8 dX5_judged_274 rfl (nI_1 _) (by decide) rfl ?_
                refine z_goto 31 dX5_judged_277 (by decide) ?_
                have f_60 : (s_jud wv (I 10) (I 27) nh nd own la lb lh i_7).2.2.1 = (s_jud wv (I 10) (I 27) nh nd own la lb lh (i_7 + 1)).2.2.1 := by simp [s_jud, s_ln, c_19, c_20, c_33, c_58, c_59, c_59']
                have f_61 : (s_jud wv (I 10) (I 27) nh nd own la lb lh i_7).2.2.2 = (s_jud wv (I 10) (I 27) nh nd own la lb lh (i_7 + 1)).2.2.2 := by simp [s_jud, s_ln, c_19, c_20, c_33, c_58, c_59, c_59']
                refine z_lv (lv' := [(0, .ref (L 99)), (1, .int (nI (ww))), (2, .int ((s_jud wv (I 10) (I 27) nh nd own la lb lh (i_7 + 1)).2.2.1)), (3, .int ((s_jud wv (I 10) (I 27) nh nd own la lb lh (i_7 + 1)).2.2.2)), (4, .int (nI (i_7 + 1)))]) [6, 7, 1, 8, 0] (by rw [← f_60, ← f_61]; rfl) ?_
                refine z_X (X' := (tX g L (tput (tco (zs I 99 0 0) c_13 o_14) 987 ((s_jud wv (I 10) (I 27) nh nd own la lb lh (i_7 + 1)).1)) J Gb_12 X)) (by skip; simp only [s_jud, s_ln, c_19, c_20, c_33, c_58, if_true, if_false, ↓reduceIte, Bool.false_eq_true, reduceCtorEq] <;> rfl) ?_
                exact ih_9 (i_7 + 1) (by omega) (by omega) _ _ _ 
              · -- ¬ 0 ≤ (s_jud wv (I 10) (I 27) nh nd own la lb lh i_7).2.2.1
                have c_59' := Int32.not_le.mp c_59
                refine z_iload 8 dX5_judged_164 rfl ?_
                refine z_goto 170 dX5_judged_166 (by decide) ?_
                refine z_istore_n (lv' := [(2, .int (nI (i_7))), (8, .int 0), (7, .int (nI (lh i_7))), (6, .int (nI (lb i_7))), (5, .int (nI (la i_7))), (0, .ref (L 99)), (1, .int (nI (ww))), (3, .int ((s_jud wv (I 10) (I 27) nh nd own la lb lh i_7).2.2.2)), (4, .int (nI (i_7)))]) dX5_judged_170 rfl (by decide) rfl ?_
                refine z_iload 4 dX5_judged_171 rfl ?_
                refine z_if_neN 204 (by omega) dX5_judged_173 (by decide) (fun _ => ?_) (fun c_ => absurd c_ (by omega))
                refine z_iload 1 dX5_judged_204 rfl ?_
                refine z_if_eq 231 dX5_judged_206 (by decide) (fun h_ => ?_) (fun h_ => absurd h_ (by decide))
                refine z_iload 1 dX5_judged_231 rfl ?_
                refine z_if_eq 254 dX5_judged_233 (by decide) (fun h_ => ?_) (fun h_ => absurd h_ (by decide))
                refine z_iload 1 dX5_judged_254 rfl ?_
                refine z_if_eq 274 dX5_judged_256 (by decide) (fun h_ => ?_) (fun h_ => absurd h_ (by decide))
                refine z_iinc (v := nI (i_7 + 1)) (lv' := [(4, .int (nI (i_7 + 1))), (2, .int (nI (i_7))), (8, .int 0), (7, .int (nI (lh i_7))), (6, .int (nI (lb i_7))), (5, .int (nI (la i_7))), (0, .ref (L 99)), (1, .int (nI (ww))), (3, .int ((s_jud wv (I 10) (I 27) nh nd own la lb lh i_7).2.2.2))]) 8 dX5_judged_274 rfl (nI_1 _) (by decide) rfl ?_
                refine z_goto 31 dX5_judged_277 (by decide) ?_
                have f_62 : nI (i_7) = (s_jud wv (I 10) (I 27) nh nd own la lb lh (i_7 + 1)).2.2.1 := by simp [s_jud, s_ln, c_19, c_20, c_33, c_58, c_59, c_59']
                have f_63 : (s_jud wv (I 10) (I 27) nh nd own la lb lh i_7).2.2.2 = (s_jud wv (I 10) (I 27) nh nd own la lb lh (i_7 + 1)).2.2.2 := by simp [s_jud, s_ln, c_19, c_20, c_33, c_58, c_59, c_59']
                refine z_lv (lv' := [(0, .ref (L 99)), (1, .int (nI (ww))), (2, .int ((s_jud wv (I 10) (I 27) nh nd own la lb lh (i_7 + 1)).2.2.1)), (3, .int ((s_jud wv (I 10) (I 27) nh nd own la lb lh (i_7 + 1)).2.2.2)), (4, .int (nI (i_7 + 1)))]) [6, 7, 1, 8, 0] (by rw [← f_62, ← f_63]; rfl) ?_
                refine z_X (X' := (tX g L (tput (tco (zs I 99 0 0) c_13 o_14) 987 ((s_jud wv (I 10) (I 27) nh nd own la lb lh (i_7 + 1)).1)) J Gb_12 X)) (by skip; simp only [s_jud, s_ln, c_19, c_20, c_33, c_58, if_true, if_false, ↓reduceIte, Bool.false_eq_true, reduceCtorEq] <;> rfl) ?_
                exact ih_9 (i_7 + 1) (by omega) (by omega) _ _ _ 
            · -- s_may (I 10) ((s_jud wv (I 10) (I 27) nh nd own la lb lh i_7).1) nd (lb i_7) (lh i_7) = true
              refine z_goto 148 dX5_judged_106 (by decide) ?_
              refine z_iconst (v := 1) dX5_judged_148 (by decide) ?_
              refine z_goto 153 dX5_judged_149 (by decide) ?_
              refine z_istore (lv' := [(8, .int 1), (7, .int (nI (lh i_7))), (6, .int (nI (lb i_7))), (5, .int (nI (la i_7))), (0, .ref (L 99)), (1, .int (nI (ww))), (2, .int ((s_jud wv (I 10) (I 27) nh nd own la lb lh i_7).2.2.1)), (3, .int ((s_jud wv (I 10) (I 27) nh nd own la lb lh i_7).2.2.2)), (4, .int (nI (i_7)))]) dX5_judged_153 (by decide) rfl ?_
              refine z_iload 0 dX5_judged_155 rfl ?_
              refine z_if_ne 169 dX5_judged_157 (by decide) (fun h_ => ?_) (fun h_ => absurd h_ (by decide))
              refine z_iload_n 6 dX5_judged_169 rfl ?_
              refine z_istore_n (lv' := [(2, .int ((s_jud wv (I 10) (I 27) nh nd own la lb lh i_7).2.2.1)), (8, .int 1), (7, .int (nI (lh i_7))), (6, .int (nI (lb i_7))), (5, .int (nI (la i_7))), (0, .ref (L 99)), (1, .int (nI (ww))), (3, .int ((s_jud wv (I 10) (I 27) nh nd own la lb lh i_7).2.2.2)), (4, .int (nI (i_7)))]) dX5_judged_170 rfl (by decide) rfl ?_
              refine z_iload 4 dX5_judged_171 rfl ?_
              refine z_if_neN 204 (by omega) dX5_judged_173 (by decide) (fun _ => ?_) (fun c_ => absurd c_ (by omega))
              refine z_iload 1 dX5_judged_204 rfl ?_
              refine z_if_eq 231 dX5_judged_206 (by decide) (fun h_ => absurd h_ (by decide)) (fun h_ => ?_)
              refine z_iload 4 dX5_judged_209 rfl ?_
              refine z_iconst (v := 1) dX5_judged_211 (by decide) ?_
              refine z_icmp_neN (a := la i_7) (b := 1) 231 (by omega) (by omega) dX5_judged_212 (by decide) (fun c_ => absurd c_ (by omega)) (fun _ => ?_)
              refine z_aload_n 5 dX5_judged_215 rfl ?_
              refine tz_get (v := .ref (L 24)) 24 hL (by decide) q1617 rfl dX5_judged_216 ?_
              refine z_sipush (v := 993) dX5_judged_219 (by decide) ?_
              refine z_iload 3 dX5_judged_222 rfl ?_
              refine z_iaddN (a := 993) (b := lb i_7) dX5_judged_224 ?_
              refine z_eq (y := nI (lb i_7 + 993)) (congrArg nI (by omega)) ?_
              refine z_iload 2 dX5_judged_225 rfl ?_
              refine tz_iast 24 (987 + (lb i_7 + 6)) hL (by decide) (congrArg nI (by omega)) (by show 987 + (lb i_7 + 6) < 1081; omega) (tput_zs (by omega)) dX5_judged_227 ?_
              refine z_goto 274 dX5_judged_228 (by decide) ?_
              refine z_iinc (v := nI (i_7 + 1)) (lv' := [(4, .int (nI (i_7 + 1))), (2, .int ((s_jud wv (I 10) (I 27) nh nd own la lb lh i_7).2.2.1)), (8, .int 1), (7, .int (nI (lh i_7))), (6, .int (nI (lb i_7))), (5, .int (nI (la i_7))), (0, .ref (L 99)), (1, .int (nI (ww))), (3, .int ((s_jud wv (I 10) (I 27) nh nd own la lb lh i_7).2.2.2))]) 8 dX5_judged_274 rfl (nI_1 _) (by decide) rfl ?_
              refine z_goto 31 dX5_judged_277 (by decide) ?_
              have f_64 : (s_jud wv (I 10) (I 27) nh nd own la lb lh i_7).2.2.1 = (s_jud wv (I 10) (I 27) nh nd own la lb lh (i_7 + 1)).2.2.1 := by simp [s_jud, s_ln, c_19, c_20, c_33, c_58]
              have f_65 : (s_jud wv (I 10) (I 27) nh nd own la lb lh i_7).2.2.2 = (s_jud wv (I 10) (I 27) nh nd own la lb lh (i_7 + 1)).2.2.2 := by simp [s_jud, s_ln, c_19, c_20, c_33, c_58]
              refine z_lv (lv' := [(0, .ref (L 99)), (1, .int (nI (ww))), (2, .int ((s_jud wv (I 10) (I 27) nh nd own la lb lh (i_7 + 1)).2.2.1)), (3, .int ((s_jud wv (I 10) (I 27) nh nd own la lb lh (i_7 + 1)).2.2.2)), (4, .int (nI (i_7 + 1)))]) [6, 7, 1, 8, 0] (by rw [← f_64, ← f_65]; rfl) ?_
              refine z_X (X' := (tX g L (tput (tco (zs I 99 0 0) c_13 o_14) 987 ((s_jud wv (I 10) (I 27) nh nd own la lb lh (i_7 + 1)).1)) J Gb_12 X)) (by skip; simp only [s_jud, s_ln, c_19, c_20, c_33, c_58, if_true, if_false, ↓reduceIte, Bool.false_eq_true, reduceCtorEq] <;> rfl) ?_
              exact ih_9 (i_7 + 1) (by omega) (by omega) _ _ _ 
    have f_66 : zm1 = (s_jud wv (I 10) (I 27) nh nd own la lb lh 0).2.2.1 := by rfl
    have f_67 : zm1 = (s_jud wv (I 10) (I 27) nh nd own la lb lh 0).2.2.2 := by rfl
    refine z_lv (lv' := [(0, .ref (L 99)), (1, .int (nI (ww))), (2, .int ((s_jud wv (I 10) (I 27) nh nd own la lb lh 0).2.2.1)), (3, .int ((s_jud wv (I 10) (I 27) nh nd own la lb lh 0).2.2.2)), (4, .int 0)]) [3, 4, 2, 1, 0] (by rw [← f_66, ← f_67]; rfl) ?_
    refine z_X (X' := (tX g L (tput (tco (zs I 99 0 0) (I 99 28) (I 99 29)) 987 ((s_jud wv (I 10) (I 27) nh nd own la lb lh 0).1)) J Gb X)) (by rfl) ?_
    exact loop_11 (ln - 0) 0 (by omega) (Nat.le_refl _) _ _ _ 
  · have hv := zb_not hv
    refine z_iload_n 1 dX5_judged_5 rfl ?_
    refine z_iconst (v := 0) dX5_judged_6 (by decide) ?_
    refine z_iconst (v := 2) dX5_judged_7 (by decide) ?_
    refine z_callS (As := [.int w, .int 0, .int 2]) (t_within w 0 2) q1771 q1772 q121 q1773 nm_X5_within rfl (Nat.le_of_ble_eq_true rfl) ⟨Nat.le_of_ble_eq_true rfl, Nat.le_of_ble_eq_true rfl⟩ dX5_judged_8 rfl rfl (Nat.le_of_ble_eq_true rfl) (Nat.le_of_ble_eq_true rfl) (fun v_68 X_69 hp_70 => ?_)
    obtain ⟨rfl, rfl⟩ := hp_70
    refine z_st (st' := [.int (zb (decide (0 ≤ w) && decide (w ≤ 2)))]) rfl ?_
    refine z_if_neb 17 dX5_judged_11 (by decide) (fun c_71 => absurd c_71 (fun h9 => by rw [h9] at hv; exact absurd hv (by decide))) (fun c_71 => ?_)
    refine z_bipush (v := zm2) dX5_judged_14 (by decide) ?_
    exact z_iret dX5_judged_16 rfl (Nat.le_of_ble_eq_true rfl) (Nat.le_of_ble_eq_true rfl) ⟨congrArg some (congrArg Value.int (by unfold s_judged; rw [hv]; rfl)), (tput (tco (zs I 99 0 0) (I 99 28) (I 99 29)) 987 (s_tau I)), Gb, rfl, (tobs_put (tobs_co (tobs_zs tobs_rf rfl)) (by decide)), rfl⟩
