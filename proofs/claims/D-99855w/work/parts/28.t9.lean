/-! THE MODEL: now. Printed by t9.py -/
set_option maxRecDepth 100000
set_option maxHeartbeats 4000000 in
theorem t_house {g : zG} {L : Nat → Nat} {I : Nat → Nat → Int32} {J : Nat → Nat → Int64} {Gb : Nat → Nat → Int32} {X : zX} (hL : tok g L) {nh nd : Nat} {own : Nat → Nat} (hV : s_ok (I 10) nh nd own) (h w : Int32) : zN g m_X5_house ({ frames := 3, cells := 0, slots := 0, locals := 67 } : Room) [.ref (L 99), .int h, .int w] (tX g L I J Gb X) (fun rv X' => rv = some (.int (s_house (I 10) (I 24) nh nd h w)) ∧ X' = (tX g L (zs I 99 0 0) J Gb X)) := by
  refine zN.of (by decide +kernel) (Nat.le_of_ble_eq_true rfl) rfl ?_
  refine z_lv (lv' := [(0, .ref (L 99)), (1, .int h), (2, .int w)]) [0, 1, 2] rfl ?_
  have hV9 := hV
  obtain ⟨h0, hnh, h1, hnd, hown⟩ := hV9
  refine z_aload_n 0 dX5_house_0 rfl ?_
  refine z_iconst (v := 0) dX5_house_1 (by decide) ?_
  refine tz_put (I' := (zs I 99 0 0)) 0 hL (by decide) q1593 rfl dX5_house_2 ?_
  by_cases hv : ((decide (0 ≤ h) && decide (h < nI nh)) && (decide (0 ≤ w) && decide (w ≤ 4))) = true
  · skip
    obtain ⟨hv1, hv2⟩ := Bool.and_eq_true_iff.mp hv
    obtain ⟨hh, hhh, e_h⟩ := zday (by omega) hv1
    obtain ⟨ww, -, hww, e_w⟩ := zwin 0 4 (by decide) hv2
    refine z_lv (lv' := [(0, .ref (L 99)), (1, .int (nI (hh))), (2, .int (nI (ww)))]) [0, 1, 2] (by rw [e_h, e_w]; rfl) ?_
    refine z_aload_n 0 dX5_house_5 rfl ?_
    refine z_iload_n 1 dX5_house_6 rfl ?_
    refine z_callV (As := [.int (nI (hh))]) (t_isHouse (I := (zs I 99 0 0)) hL h0 (nI (hh))) q1826 q1828 qs84 q121 q1829 nm_X5_isHouse (tX_obj hL) rfl rfl rfl (Nat.le_of_ble_eq_true rfl) ⟨Nat.le_of_ble_eq_true rfl, Nat.le_of_ble_eq_true rfl⟩ dX5_house_7 rfl rfl (Nat.le_of_ble_eq_true rfl) (Nat.le_of_ble_eq_true rfl) (fun v_1 X_2 hp_3 => ?_)
    obtain ⟨rfl, rfl⟩ := hp_3
    refine z_st (st' := [.int (zb (decide (0 ≤ nI (hh)) && decide (nI (hh) < nI nh)))]) rfl ?_
    refine z_eq (y := 1) (zb_t (zday_t (by omega) (by omega))) ?_
    refine z_if_eq 22 dX5_house_10 (by decide) (fun h_ => absurd h_ (by decide)) (fun h_ => ?_)
    refine z_iload_n 2 dX5_house_13 rfl ?_
    refine z_iconst (v := 0) dX5_house_14 (by decide) ?_
    refine z_iconst (v := 4) dX5_house_15 (by decide) ?_
    refine z_callS (As := [.int (nI (ww)), .int 0, .int 4]) (t_within (nI (ww)) 0 4) q1771 q1772 q121 q1773 nm_X5_within rfl (Nat.le_of_ble_eq_true rfl) ⟨Nat.le_of_ble_eq_true rfl, Nat.le_of_ble_eq_true rfl⟩ dX5_house_16 rfl rfl (Nat.le_of_ble_eq_true rfl) (Nat.le_of_ble_eq_true rfl) (fun v_4 X_5 hp_6 => ?_)
    obtain ⟨rfl, rfl⟩ := hp_6
    refine z_st (st' := [.int (zb (decide (0 ≤ nI (ww)) && decide (nI (ww) ≤ 4)))]) rfl ?_
    refine z_eq (y := 1) (zb_t (zwin_t (Nat.zero_le _) hww (by decide))) ?_
    refine z_if_ne 25 dX5_house_19 (by decide) (fun h_ => ?_) (fun h_ => absurd h_ (by decide))
    refine z_iload_n 2 dX5_house_25 rfl ?_
    by_cases c_7 : ww = 0
    · refine z_tableIn (off := 30) 56 dX5_house_26 (by rw [c_7]; decide) (by rw [c_7]; decide) (by rw [c_7]; rfl) (by decide) ?_
      refine z_aload_n 0 dX5_house_56 rfl ?_
      refine tz_get (v := .ref (L 24)) 24 hL (by decide) q1617 rfl dX5_house_57 ?_
      refine z_iconst (v := 2) dX5_house_60 (by decide) ?_
      refine z_iload_n 1 dX5_house_61 rfl ?_
      refine z_iaddN (a := 2) (b := hh) dX5_house_62 ?_
      refine z_eq (y := nI (hh + 2)) (congrArg nI (by omega)) ?_
      refine tz_iald (v := I 24 (hh + 2)) 24 (hh + 2) hL (by decide) rfl (by show hh + 2 < 1081; omega) rfl dX5_house_63 ?_
      exact z_iret dX5_house_64 rfl (Nat.le_of_ble_eq_true rfl) (Nat.le_of_ble_eq_true rfl) ⟨congrArg some (congrArg Value.int (by unfold s_house; rw [if_pos hv, e_h, e_w, ncl (by omega), ncl (by omega)]; simp [c_7])), rfl⟩
    by_cases c_8 : ww = 1
    · refine z_tableIn (off := 39) 65 dX5_house_26 (by rw [c_8]; decide) (by rw [c_8]; decide) (by rw [c_8]; rfl) (by decide) ?_
      refine z_aload_n 0 dX5_house_65 rfl ?_
      refine z_iconst (v := 0) dX5_house_66 (by decide) ?_
      refine z_iload_n 1 dX5_house_67 rfl ?_
      refine z_X (X' := (tX g L (tput (zs I 99 0 0) 0 (I 24)) J Gb X)) (congrArg (fun z => tX g L z J Gb X) (tput_self0 (I := (zs I 99 0 0))).symm) ?_
      refine z_callV (As := [.int 0, .int (nI (hh))]) (t_freeOf (I := (zs I 99 0 0)) (σ := (I 24)) hL h1 hnd 0 (by omega) hh (by omega)) q1830 q1832 qs85 q121 q1833 nm_X5_freeOf (tX_obj hL) rfl rfl rfl (Nat.le_of_ble_eq_true rfl) ⟨Nat.le_of_ble_eq_true rfl, Nat.le_of_ble_eq_true rfl⟩ dX5_house_68 rfl rfl (Nat.le_of_ble_eq_true rfl) (Nat.le_of_ble_eq_true rfl) (fun v_9 X_10 hp_11 => ?_)
      obtain ⟨rfl, rfl⟩ := hp_11
      refine z_X (X' := (tX g L (zs I 99 0 0) J Gb X)) (congrArg (fun z => tX g L z J Gb X) (tput_self0 (I := (zs I 99 0 0)))) ?_
      refine z_st (st' := [.int (s_free (I 10) (I 24) hh nd)]) rfl ?_
      exact z_iret dX5_house_71 rfl (Nat.le_of_ble_eq_true rfl) (Nat.le_of_ble_eq_true rfl) ⟨congrArg some (congrArg Value.int (by unfold s_house; rw [if_pos hv, e_h, e_w, ncl (by omega), ncl (by omega)]; simp [c_7, c_8])), rfl⟩
    by_cases c_12 : ww = 2
    · refine z_tableIn (off := 46) 72 dX5_house_26 (by rw [c_12]; decide) (by rw [c_12]; decide) (by rw [c_12]; rfl) (by decide) ?_
      refine z_aload_n 0 dX5_house_72 rfl ?_
      refine z_iconst (v := 0) dX5_house_73 (by decide) ?_
      refine z_iload_n 1 dX5_house_74 rfl ?_
      refine z_X (X' := (tX g L (tput (zs I 99 0 0) 0 (I 24)) J Gb X)) (congrArg (fun z => tX g L z J Gb X) (tput_self0 (I := (zs I 99 0 0))).symm) ?_
      refine z_callV (As := [.int 0, .int (nI (hh))]) (t_inHouse (I := (zs I 99 0 0)) (σ := (I 24)) hL h1 hnd 0 (by omega) (nI (hh))) q1838 q1840 qs87 q121 q1841 nm_X5_inHouse (tX_obj hL) rfl rfl rfl (Nat.le_of_ble_eq_true rfl) ⟨Nat.le_of_ble_eq_true rfl, Nat.le_of_ble_eq_true rfl⟩ dX5_house_75 rfl rfl (Nat.le_of_ble_eq_true rfl) (Nat.le_of_ble_eq_true rfl) (fun v_13 X_14 hp_15 => ?_)
      obtain ⟨rfl, rfl⟩ := hp_15
      refine z_X (X' := (tX g L (zs I 99 0 0) J Gb X)) (congrArg (fun z => tX g L z J Gb X) (tput_self0 (I := (zs I 99 0 0)))) ?_
      refine z_st (st' := [.int (s_in (I 24) (nI (hh)) nd)]) rfl ?_
      exact z_iret dX5_house_78 rfl (Nat.le_of_ble_eq_true rfl) (Nat.le_of_ble_eq_true rfl) ⟨congrArg some (congrArg Value.int (by unfold s_house; rw [if_pos hv, e_h, e_w, ncl (by omega), ncl (by omega)]; simp [c_7, c_8, c_12])), rfl⟩
    by_cases c_16 : ww = 3
    · refine z_tableIn (off := 53) 79 dX5_house_26 (by rw [c_16]; decide) (by rw [c_16]; decide) (by rw [c_16]; rfl) (by decide) ?_
      refine z_aload_n 0 dX5_house_79 rfl ?_
      refine z_iload_n 1 dX5_house_80 rfl ?_
      refine z_iconst (v := 1) dX5_house_81 (by decide) ?_
      refine z_callV (As := [.int (nI (hh)), .int 1]) (t_houseOf (I := (zs I 99 0 0)) hL hh 1 (by omega)) q1589 q1591 qs57 q121 q1592 nm_X5_houseOf (tX_obj hL) rfl rfl rfl (Nat.le_of_ble_eq_true rfl) ⟨Nat.le_of_ble_eq_true rfl, Nat.le_of_ble_eq_true rfl⟩ dX5_house_82 rfl rfl (Nat.le_of_ble_eq_true rfl) (Nat.le_of_ble_eq_true rfl) (fun v_17 X_18 hp_19 => ?_)
      obtain ⟨rfl, rfl⟩ := hp_19
      refine z_st (st' := [.int (I 10 (2 * hh + 5))]) rfl ?_
      exact z_iret dX5_house_85 rfl (Nat.le_of_ble_eq_true rfl) (Nat.le_of_ble_eq_true rfl) ⟨congrArg some (congrArg Value.int (by unfold s_house; rw [if_pos hv, e_h, e_w, ncl (by omega), ncl (by omega)]; simp [c_7, c_8, c_12, c_16])), rfl⟩
    refine z_tableOut 86 dX5_house_26 (by have i0 := lv_neT (x := nI (ww)) (k := 0) (a := 0) (fun h9 => c_7 ((nI_eq (by omega) (by decide)).mp h9)) rfl; have i1 := lv_neT (x := nI (ww)) (k := 1) (a := 1) (fun h9 => c_8 ((nI_eq (by omega) (by decide)).mp h9)) rfl; have i2 := lv_neT (x := nI (ww)) (k := 2) (a := 2) (fun h9 => c_12 ((nI_eq (by omega) (by decide)).mp h9)) rfl; have i3 := lv_neT (x := nI (ww)) (k := 3) (a := 3) (fun h9 => c_16 ((nI_eq (by omega) (by decide)).mp h9)) rfl; omega) (by decide) ?_
    refine z_aload_n 0 dX5_house_86 rfl ?_
    refine z_iconst (v := 0) dX5_house_87 (by decide) ?_
    refine z_iload_n 1 dX5_house_88 rfl ?_
    refine z_X (X' := (tX g L (tput (zs I 99 0 0) 0 (I 24)) J Gb X)) (congrArg (fun z => tX g L z J Gb X) (tput_self0 (I := (zs I 99 0 0))).symm) ?_
    refine z_callV (As := [.int 0, .int (nI (hh))]) (t_talkIn (I := (zs I 99 0 0)) (σ := (I 24)) hL h1 hnd 0 (by omega) (nI (hh))) q1842 q1844 qs88 q121 q1845 nm_X5_talkIn (tX_obj hL) rfl rfl rfl (Nat.le_of_ble_eq_true rfl) ⟨Nat.le_of_ble_eq_true rfl, Nat.le_of_ble_eq_true rfl⟩ dX5_house_89 rfl rfl (Nat.le_of_ble_eq_true rfl) (Nat.le_of_ble_eq_true rfl) (fun v_20 X_21 hp_22 => ?_)
    obtain ⟨rfl, rfl⟩ := hp_22
    refine z_X (X' := (tX g L (zs I 99 0 0) J Gb X)) (congrArg (fun z => tX g L z J Gb X) (tput_self0 (I := (zs I 99 0 0)))) ?_
    refine z_st (st' := [.int (s_talk (I 24) (nI (hh)) nd)]) rfl ?_
    exact z_iret dX5_house_92 rfl (Nat.le_of_ble_eq_true rfl) (Nat.le_of_ble_eq_true rfl) ⟨congrArg some (congrArg Value.int (by unfold s_house; rw [if_pos hv, e_h, e_w, ncl (by omega), ncl (by omega)]; simp [c_7, c_8, c_12, c_16])), rfl⟩
  · have hv := zb_not hv
    refine z_aload_n 0 dX5_house_5 rfl ?_
    refine z_iload_n 1 dX5_house_6 rfl ?_
    refine z_callV (As := [.int h]) (t_isHouse (I := (zs I 99 0 0)) hL h0 h) q1826 q1828 qs84 q121 q1829 nm_X5_isHouse (tX_obj hL) rfl rfl rfl (Nat.le_of_ble_eq_true rfl) ⟨Nat.le_of_ble_eq_true rfl, Nat.le_of_ble_eq_true rfl⟩ dX5_house_7 rfl rfl (Nat.le_of_ble_eq_true rfl) (Nat.le_of_ble_eq_true rfl) (fun v_23 X_24 hp_25 => ?_)
    obtain ⟨rfl, rfl⟩ := hp_25
    refine z_st (st' := [.int (zb (decide (0 ≤ h) && decide (h < nI nh)))]) rfl ?_
    refine z_if_eqb 22 dX5_house_10 (by decide) (fun c_26 => ?_) (fun c_26 => ?_)
    · -- decide (0 ≤ h) && decide (h < nI nh) = false
      refine z_bipush (v := zm2) dX5_house_22 (by decide) ?_
      exact z_iret dX5_house_24 rfl (Nat.le_of_ble_eq_true rfl) (Nat.le_of_ble_eq_true rfl) ⟨congrArg some (congrArg Value.int (by unfold s_house; rw [if_neg (by rw [hv]; decide)])), rfl⟩
    · -- decide (0 ≤ h) && decide (h < nI nh) = true
      refine z_iload_n 2 dX5_house_13 rfl ?_
      refine z_iconst (v := 0) dX5_house_14 (by decide) ?_
      refine z_iconst (v := 4) dX5_house_15 (by decide) ?_
      refine z_callS (As := [.int w, .int 0, .int 4]) (t_within w 0 4) q1771 q1772 q121 q1773 nm_X5_within rfl (Nat.le_of_ble_eq_true rfl) ⟨Nat.le_of_ble_eq_true rfl, Nat.le_of_ble_eq_true rfl⟩ dX5_house_16 rfl rfl (Nat.le_of_ble_eq_true rfl) (Nat.le_of_ble_eq_true rfl) (fun v_27 X_28 hp_29 => ?_)
      obtain ⟨rfl, rfl⟩ := hp_29
      refine z_st (st' := [.int (zb (decide (0 ≤ w) && decide (w ≤ 4)))]) rfl ?_
      refine z_if_neb 25 dX5_house_19 (by decide) (fun c_30 => absurd c_30 (fun h9 => by (try rw [c_26] at hv); rw [h9] at hv; exact absurd hv (by decide))) (fun c_30 => ?_)
      refine z_bipush (v := zm2) dX5_house_22 (by decide) ?_
      exact z_iret dX5_house_24 rfl (Nat.le_of_ble_eq_true rfl) (Nat.le_of_ble_eq_true rfl) ⟨congrArg some (congrArg Value.int (by unfold s_house; rw [if_neg (by rw [hv]; decide)])), rfl⟩
set_option maxHeartbeats 4000000 in
theorem t_day {g : zG} {L : Nat → Nat} {I : Nat → Nat → Int32} {J : Nat → Nat → Int64} {Gb : Nat → Nat → Int32} {X : zX} (hL : tok g L) {nh nd : Nat} {own : Nat → Nat} (hV : s_ok (I 10) nh nd own) (d w : Int32) : zN g m_X5_day ({ frames := 2, cells := 0, slots := 0, locals := 41 } : Room) [.ref (L 99), .int d, .int w] (tX g L I J Gb X) (fun rv X' => rv = some (.int (s_day (I 10) (I 24) nd d w)) ∧ X' = (tX g L (zs I 99 0 0) J Gb X)) := by
  refine zN.of (by decide +kernel) (Nat.le_of_ble_eq_true rfl) rfl ?_
  refine z_lv (lv' := [(0, .ref (L 99)), (1, .int d), (2, .int w)]) [0, 1, 2] rfl ?_
  have hV9 := hV
  obtain ⟨h0, hnh, h1, hnd, hown⟩ := hV9
  refine z_aload_n 0 dX5_day_0 rfl ?_
  refine z_iconst (v := 0) dX5_day_1 (by decide) ?_
  refine tz_put (I' := (zs I 99 0 0)) 0 hL (by decide) q1593 rfl dX5_day_2 ?_
  by_cases hv : ((decide (0 ≤ d) && decide (d < nI nd)) && (decide (0 ≤ w) && decide (w ≤ 7))) = true
  · skip
    obtain ⟨hv1, hv2⟩ := Bool.and_eq_true_iff.mp hv
    obtain ⟨dd, hdd, e_d⟩ := zday (by omega) hv1
    obtain ⟨ww, -, hww, e_w⟩ := zwin 0 7 (by decide) hv2
    refine z_lv (lv' := [(0, .ref (L 99)), (1, .int (nI (dd))), (2, .int (nI (ww)))]) [0, 1, 2] (by rw [e_d, e_w]; rfl) ?_
    refine z_aload_n 0 dX5_day_5 rfl ?_
    refine z_iload_n 1 dX5_day_6 rfl ?_
    refine z_callV (As := [.int (nI (dd))]) (t_isDay (I := (zs I 99 0 0)) hL h1 (nI (dd))) q1850 q1852 qs89 q121 q1853 nm_X5_isDay (tX_obj hL) rfl rfl rfl (Nat.le_of_ble_eq_true rfl) ⟨Nat.le_of_ble_eq_true rfl, Nat.le_of_ble_eq_true rfl⟩ dX5_day_7 rfl rfl (Nat.le_of_ble_eq_true rfl) (Nat.le_of_ble_eq_true rfl) (fun v_1 X_2 hp_3 => ?_)
    obtain ⟨rfl, rfl⟩ := hp_3
    refine z_st (st' := [.int (zb (decide (0 ≤ nI (dd)) && decide (nI (dd) < nI nd)))]) rfl ?_
    refine z_eq (y := 1) (zb_t (zday_t (by omega) (by omega))) ?_
    refine z_if_eq 23 dX5_day_10 (by decide) (fun h_ => absurd h_ (by decide)) (fun h_ => ?_)
    refine z_iload_n 2 dX5_day_13 rfl ?_
    refine z_iconst (v := 0) dX5_day_14 (by decide) ?_
    refine z_bipush (v := 7) dX5_day_15 (by decide) ?_
    refine z_callS (As := [.int (nI (ww)), .int 0, .int 7]) (t_within (nI (ww)) 0 7) q1771 q1772 q121 q1773 nm_X5_within rfl (Nat.le_of_ble_eq_true rfl) ⟨Nat.le_of_ble_eq_true rfl, Nat.le_of_ble_eq_true rfl⟩ dX5_day_17 rfl rfl (Nat.le_of_ble_eq_true rfl) (Nat.le_of_ble_eq_true rfl) (fun v_4 X_5 hp_6 => ?_)
    obtain ⟨rfl, rfl⟩ := hp_6
    refine z_st (st' := [.int (zb (decide (0 ≤ nI (ww)) && decide (nI (ww) ≤ 7)))]) rfl ?_
    refine z_eq (y := 1) (zb_t (zwin_t (Nat.zero_le _) hww (by decide))) ?_
    refine z_if_ne 26 dX5_day_20 (by decide) (fun h_ => ?_) (fun h_ => absurd h_ (by decide))
    refine z_iload_n 2 dX5_day_26 rfl ?_
    by_cases c_7 : ww = 3
    · refine z_tableIn (off := 33) 60 dX5_day_27 (by rw [c_7]; decide) (by rw [c_7]; decide) (by rw [c_7]; rfl) (by decide) ?_
      refine z_aload_n 0 dX5_day_60 rfl ?_
      refine tz_get (v := .ref (L 24)) 24 hL (by decide) q1617 rfl dX5_day_61 ?_
      refine z_bipush (v := 18) dX5_day_64 (by decide) ?_
      refine z_iload_n 1 dX5_day_66 rfl ?_
      refine z_iaddN (a := 18) (b := dd) dX5_day_67 ?_
      refine z_eq (y := nI (dd + 18)) (congrArg nI (by omega)) ?_
      refine tz_iald (v := I 24 (dd + 18)) 24 (dd + 18) hL (by decide) rfl (by show dd + 18 < 1081; omega) rfl dX5_day_68 ?_
      exact z_iret dX5_day_69 rfl (Nat.le_of_ble_eq_true rfl) (Nat.le_of_ble_eq_true rfl) ⟨congrArg some (congrArg Value.int (by unfold s_day; rw [if_pos hv, e_d, e_w, ncl (by omega), ncl (by omega)]; simp [c_7])), rfl⟩
    by_cases c_8 : ww = 4
    · refine z_tableIn (off := 43) 70 dX5_day_27 (by rw [c_8]; decide) (by rw [c_8]; decide) (by rw [c_8]; rfl) (by decide) ?_
      refine z_aload_n 0 dX5_day_70 rfl ?_
      refine tz_get (v := .ref (L 24)) 24 hL (by decide) q1617 rfl dX5_day_71 ?_
      refine z_bipush (v := 6) dX5_day_74 (by decide) ?_
      refine z_iload_n 1 dX5_day_76 rfl ?_
      refine z_iaddN (a := 6) (b := dd) dX5_day_77 ?_
      refine z_eq (y := nI (dd + 6)) (congrArg nI (by omega)) ?_
      refine tz_iald (v := I 24 (dd + 6)) 24 (dd + 6) hL (by decide) rfl (by show dd + 6 < 1081; omega) rfl dX5_day_78 ?_
      exact z_iret dX5_day_79 rfl (Nat.le_of_ble_eq_true rfl) (Nat.le_of_ble_eq_true rfl) ⟨congrArg some (congrArg Value.int (by unfold s_day; rw [if_pos hv, e_d, e_w, ncl (by omega), ncl (by omega)]; simp [c_7, c_8])), rfl⟩
    by_cases c_9 : ww = 5
    · refine z_tableIn (off := 53) 80 dX5_day_27 (by rw [c_9]; decide) (by rw [c_9]; decide) (by rw [c_9]; rfl) (by decide) ?_
      refine z_aload_n 0 dX5_day_80 rfl ?_
      refine tz_get (v := .ref (L 24)) 24 hL (by decide) q1617 rfl dX5_day_81 ?_
      refine z_bipush (v := 12) dX5_day_84 (by decide) ?_
      refine z_iload_n 1 dX5_day_86 rfl ?_
      refine z_iaddN (a := 12) (b := dd) dX5_day_87 ?_
      refine z_eq (y := nI (dd + 12)) (congrArg nI (by omega)) ?_
      refine tz_iald (v := I 24 (dd + 12)) 24 (dd + 12) hL (by decide) rfl (by show dd + 12 < 1081; omega) rfl dX5_day_88 ?_
      exact z_iret dX5_day_89 rfl (Nat.le_of_ble_eq_true rfl) (Nat.le_of_ble_eq_true rfl) ⟨congrArg some (congrArg Value.int (by unfold s_day; rw [if_pos hv, e_d, e_w, ncl (by omega), ncl (by omega)]; simp [c_7, c_8, c_9])), rfl⟩
    by_cases c_10 : ww = 6
    · refine z_tableIn (off := 63) 90 dX5_day_27 (by rw [c_10]; decide) (by rw [c_10]; decide) (by rw [c_10]; rfl) (by decide) ?_
      refine z_aload_n 0 dX5_day_90 rfl ?_
      refine tz_get (v := .ref (L 24)) 24 hL (by decide) q1617 rfl dX5_day_91 ?_
      refine z_bipush (v := 24) dX5_day_94 (by decide) ?_
      refine z_iload_n 1 dX5_day_96 rfl ?_
      refine z_iaddN (a := 24) (b := dd) dX5_day_97 ?_
      refine z_eq (y := nI (dd + 24)) (congrArg nI (by omega)) ?_
      refine tz_iald (v := I 24 (dd + 24)) 24 (dd + 24) hL (by decide) rfl (by show dd + 24 < 1081; omega) rfl dX5_day_98 ?_
      exact z_iret dX5_day_99 rfl (Nat.le_of_ble_eq_true rfl) (Nat.le_of_ble_eq_true rfl) ⟨congrArg some (congrArg Value.int (by unfold s_day; rw [if_pos hv, e_d, e_w, ncl (by omega), ncl (by omega)]; simp [c_7, c_8, c_9, c_10])), rfl⟩
    by_cases c_11 : ww = 7
    · refine z_tableIn (off := 73) 100 dX5_day_27 (by rw [c_11]; decide) (by rw [c_11]; decide) (by rw [c_11]; rfl) (by decide) ?_
      refine z_aload_n 0 dX5_day_100 rfl ?_
      refine z_iload_n 1 dX5_day_101 rfl ?_
      refine z_iconst (v := 4) dX5_day_102 (by decide) ?_
      refine z_callV (As := [.int (nI (dd)), .int 4]) (t_dayOf (I := (zs I 99 0 0)) hL dd 4 (by omega)) q1577 q1579 qs54 q121 q1580 nm_X5_dayOf (tX_obj hL) rfl rfl rfl (Nat.le_of_ble_eq_true rfl) ⟨Nat.le_of_ble_eq_true rfl, Nat.le_of_ble_eq_true rfl⟩ dX5_day_103 rfl rfl (Nat.le_of_ble_eq_true rfl) (Nat.le_of_ble_eq_true rfl) (fun v_12 X_13 hp_14 => ?_)
      obtain ⟨rfl, rfl⟩ := hp_14
      refine z_st (st' := [.int (I 10 (5 * dd + 16))]) rfl ?_
      exact z_iret dX5_day_106 rfl (Nat.le_of_ble_eq_true rfl) (Nat.le_of_ble_eq_true rfl) ⟨congrArg some (congrArg Value.int (by unfold s_day; rw [if_pos hv, e_d, e_w, ncl (by omega), ncl (by omega)]; simp [c_7, c_8, c_9, c_10, c_11])), rfl⟩
    refine z_tableOut 107 dX5_day_27 (by have i0 := lv_neT (x := nI (ww)) (k := 3) (a := 3) (fun h9 => c_7 ((nI_eq (by omega) (by decide)).mp h9)) rfl; have i1 := lv_neT (x := nI (ww)) (k := 4) (a := 4) (fun h9 => c_8 ((nI_eq (by omega) (by decide)).mp h9)) rfl; have i2 := lv_neT (x := nI (ww)) (k := 5) (a := 5) (fun h9 => c_9 ((nI_eq (by omega) (by decide)).mp h9)) rfl; have i3 := lv_neT (x := nI (ww)) (k := 6) (a := 6) (fun h9 => c_10 ((nI_eq (by omega) (by decide)).mp h9)) rfl; have i4 := lv_neT (x := nI (ww)) (k := 7) (a := 7) (fun h9 => c_11 ((nI_eq (by omega) (by decide)).mp h9)) rfl; omega) (by decide) ?_
    refine z_aload_n 0 dX5_day_107 rfl ?_
    refine z_iload_n 1 dX5_day_108 rfl ?_
    refine z_iload_n 2 dX5_day_109 rfl ?_
    refine z_callV (As := [.int (nI (dd)), .int (nI (ww))]) (t_dayOf (I := (zs I 99 0 0)) hL dd ww (by omega)) q1577 q1579 qs54 q121 q1580 nm_X5_dayOf (tX_obj hL) rfl rfl rfl (Nat.le_of_ble_eq_true rfl) ⟨Nat.le_of_ble_eq_true rfl, Nat.le_of_ble_eq_true rfl⟩ dX5_day_110 rfl rfl (Nat.le_of_ble_eq_true rfl) (Nat.le_of_ble_eq_true rfl) (fun v_15 X_16 hp_17 => ?_)
    obtain ⟨rfl, rfl⟩ := hp_17
    refine z_st (st' := [.int (I 10 (5 * dd + ww + 12))]) rfl ?_
    exact z_iret dX5_day_113 rfl (Nat.le_of_ble_eq_true rfl) (Nat.le_of_ble_eq_true rfl) ⟨congrArg some (congrArg Value.int (by unfold s_day; rw [if_pos hv, e_d, e_w, ncl (by omega), ncl (by omega)]; simp [c_7, c_8, c_9, c_10, c_11])), rfl⟩
  · have hv := zb_not hv
    refine z_aload_n 0 dX5_day_5 rfl ?_
    refine z_iload_n 1 dX5_day_6 rfl ?_
    refine z_callV (As := [.int d]) (t_isDay (I := (zs I 99 0 0)) hL h1 d) q1850 q1852 qs89 q121 q1853 nm_X5_isDay (tX_obj hL) rfl rfl rfl (Nat.le_of_ble_eq_true rfl) ⟨Nat.le_of_ble_eq_true rfl, Nat.le_of_ble_eq_true rfl⟩ dX5_day_7 rfl rfl (Nat.le_of_ble_eq_true rfl) (Nat.le_of_ble_eq_true rfl) (fun v_18 X_19 hp_20 => ?_)
    obtain ⟨rfl, rfl⟩ := hp_20
    refine z_st (st' := [.int (zb (decide (0 ≤ d) && decide (d < nI nd)))]) rfl ?_
    refine z_if_eqb 23 dX5_day_10 (by decide) (fun c_21 => ?_) (fun c_21 => ?_)
    · -- decide (0 ≤ d) && decide (d < nI nd) = false
      refine z_bipush (v := zm2) dX5_day_23 (by decide) ?_
      exact z_iret dX5_day_25 rfl (Nat.le_of_ble_eq_true rfl) (Nat.le_of_ble_eq_true rfl) ⟨congrArg some (congrArg Value.int (by unfold s_day; rw [if_neg (by rw [hv]; decide)])), rfl⟩
    · -- decide (0 ≤ d) && decide (d < nI nd) = true
      refine z_iload_n 2 dX5_day_13 rfl ?_
      refine z_iconst (v := 0) dX5_day_14 (by decide) ?_
      refine z_bipush (v := 7) dX5_day_15 (by decide) ?_
      refine z_callS (As := [.int w, .int 0, .int 7]) (t_within w 0 7) q1771 q1772 q121 q1773 nm_X5_within rfl (Nat.le_of_ble_eq_true rfl) ⟨Nat.le_of_ble_eq_true rfl, Nat.le_of_ble_eq_true rfl⟩ dX5_day_17 rfl rfl (Nat.le_of_ble_eq_true rfl) (Nat.le_of_ble_eq_true rfl) (fun v_22 X_23 hp_24 => ?_)
      obtain ⟨rfl, rfl⟩ := hp_24
      refine z_st (st' := [.int (zb (decide (0 ≤ w) && decide (w ≤ 7)))]) rfl ?_
      refine z_if_neb 26 dX5_day_20 (by decide) (fun c_25 => absurd c_25 (fun h9 => by (try rw [c_21] at hv); rw [h9] at hv; exact absurd hv (by decide))) (fun c_25 => ?_)
      refine z_bipush (v := zm2) dX5_day_23 (by decide) ?_
      exact z_iret dX5_day_25 rfl (Nat.le_of_ble_eq_true rfl) (Nat.le_of_ble_eq_true rfl) ⟨congrArg some (congrArg Value.int (by unfold s_day; rw [if_neg (by rw [hv]; decide)])), rfl⟩
