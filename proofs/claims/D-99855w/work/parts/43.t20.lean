/-! THE MODEL: drawing. Printed by t20.py -/
set_option maxRecDepth 100000
set_option maxHeartbeats 4000000 in
theorem t_draw {g : zG} {L : Nat → Nat} {I : Nat → Nat → Int32} {J : Nat → Nat → Int64} {Gb : Nat → Nat → Int32} {X : zX} (hL : tok g L) {a : Nat} (ha : a < 2147483648) (m : Nat) (hm0 : 0 < m) (hm : m < 2 ^ 31) : zN g m_X5_draw ({ frames := 0, cells := 0, slots := 0, locals := 0 } : Room) [.ref (L 99), .int (nI (m))] (tX g L I (zs J 99 31 (lN a)) Gb X) (fun rv X' => rv = some (.int (nI (s_lcg a / 65536 % m))) ∧ X' = (tX g L I (zs J 99 31 (lN (s_lcg a))) Gb X)) := by
  refine zN.of (by decide +kernel) (Nat.le_of_ble_eq_true rfl) rfl ?_
  refine z_lv (lv' := [(0, .ref (L 99)), (1, .int (nI (m)))]) [0, 1] rfl ?_
  have hmz : ¬ (nI m).toInt64 = 0 := fun h9 => by rw [nI_l hm] at h9; have := (lN_eq (b := 0) hm (by decide)).mp h9; omega
  refine z_aload_n 0 dX5_draw_0 rfl ?_
  refine z_aload_n 0 dX5_draw_1 rfl ?_
  refine tz_get (v := .long (lN a)) 31 hL (by decide) q1624 (congrArg (fun z => some (Value.long z)) zs_s) dX5_draw_2 ?_
  refine z_ldc2 q2052 dX5_draw_5 ?_
  refine z_lmul dX5_draw_8 ?_
  refine z_ldc2 q2053 dX5_draw_9 ?_
  refine z_ladd dX5_draw_12 ?_
  refine z_ldc2 q2054 dX5_draw_13 ?_
  refine z_lrem dX5_draw_16 (by decide) ?_
  refine z_st (st' := [.long (lN (s_lcg a)), .ref (L 99)]) (by rw [s_lcg_eq ha]) ?_
  refine tz_putg hL q1624 dX5_draw_17 ?_
  refine z_X (X' := (tX g L I (zs J 99 31 (lN (s_lcg a))) Gb X)) (by rw [zs_zs]) ?_
  refine z_aload_n 0 dX5_draw_20 rfl ?_
  refine tz_get (v := .long (lN (s_lcg a))) 31 hL (by decide) q1624 (congrArg (fun z => some (Value.long z)) zs_s) dX5_draw_21 ?_
  refine z_ldc2 q2055 dX5_draw_24 ?_
  refine z_ldiv dX5_draw_27 (by decide) ?_
  refine z_iload_n 1 dX5_draw_28 rfl ?_
  refine z_i2l (v := (nI (m)).toInt64) dX5_draw_29 rfl ?_
  refine z_lrem dX5_draw_30 (by exact hmz) ?_
  refine z_l2i (v := ((lN (s_lcg a) / 65536) - (lN (s_lcg a) / 65536) / (nI (m)).toInt64 * (nI (m)).toInt64).toInt32) dX5_draw_31 rfl ?_
  refine z_st (st' := [.int (nI ((s_lcg a / 65536 % m)))]) (by rw [s_lcg_d (s_lcg_lt a) hm0 hm]) ?_
  exact z_iret dX5_draw_32 rfl (Nat.le_of_ble_eq_true rfl) (Nat.le_of_ble_eq_true rfl) ⟨rfl, rfl⟩
set_option maxHeartbeats 4000000 in
theorem t_drawsDeed {g : zG} {L : Nat → Nat} {I : Nat → Nat → Int32} {J : Nat → Nat → Int64} {Gb : Nat → Nat → Int32} {X : zX} (hL : tok g L) {σ : Nat → Int32} {a : Nat} (ha : a < 2147483648) {nh nd : Nat} (h0 : I 10 0 = nI nh) (hnh : nh ≤ 4) (h1 : I 10 1 = nI nd) (hnd : nd ≤ 6) (hnd0 : 0 < nd) (hnh0 : 0 < nh) : zN g m_X5_drawsDeed ({ frames := 5, cells := 0, slots := 0, locals := 113 } : Room) [.ref (L 99)] (tX g L (tput I 1034 σ) (zs J 99 31 (lN a)) Gb X) (fun rv X' => rv = none ∧ X' = (tX g L (tput I 1034 ((s_deed s_lcg (I 10) nh nd σ a).1)) (zs J 99 31 (lN (s_deed s_lcg (I 10) nh nd σ a).2)) Gb X)) := by
  refine zN.of (by decide +kernel) (Nat.le_of_ble_eq_true rfl) rfl ?_
  refine z_lv (lv' := [(0, .ref (L 99))]) [0] rfl ?_
  have hm6 : s_lcg a / 65536 % 6 < 6 := Nat.mod_lt _ (by decide)
  have hmd : s_lcg (s_lcg a) / 65536 % nd < nd := Nat.mod_lt _ hnd0
  have hmh : s_lcg (s_lcg (s_lcg a)) / 65536 % nh < nh := Nat.mod_lt _ hnh0
  refine z_aload_n 0 dX5_drawsDeed_0 rfl ?_
  refine z_bipush (v := 6) dX5_drawsDeed_1 (by decide) ?_
  refine z_callV (As := [.int 6]) (t_draw (I := (tput I 1034 σ)) (J := J) hL (a := a) (by first | exact ha | exact s_lcg_lt _) 6 (by omega) (by omega)) q2048 q2050 qs108 q121 q2051 nm_X5_draw (tX_obj hL) rfl rfl rfl (Nat.le_of_ble_eq_true rfl) ⟨Nat.le_of_ble_eq_true rfl, Nat.le_of_ble_eq_true rfl⟩ dX5_drawsDeed_3 rfl rfl (Nat.le_of_ble_eq_true rfl) (Nat.le_of_ble_eq_true rfl) (fun v_1 X_2 hp_3 => ?_)
  obtain ⟨rfl, rfl⟩ := hp_3
  refine z_st (st' := [.int (nI ((s_lcg a / 65536 % 6)))]) rfl ?_
  refine z_istore_n (lv' := [(1, .int (nI ((s_lcg a / 65536 % 6)))), (0, .ref (L 99))]) dX5_drawsDeed_6 rfl (by decide) rfl ?_
  refine z_iload_n 0 dX5_drawsDeed_7 rfl ?_
  refine z_if_neN 44 (by omega) dX5_drawsDeed_8 (by decide) (fun c_4 => ?_) (fun c_4 => ?_)
  · -- (s_lcg a / 65536 % 6) ≠ 0
    refine z_iload_n 0 dX5_drawsDeed_44 rfl ?_
    refine z_iconst (v := 1) dX5_drawsDeed_45 (by decide) ?_
    refine z_icmp_neN (a := (s_lcg a / 65536 % 6)) (b := 1) 90 (by omega) (by omega) dX5_drawsDeed_46 (by decide) (fun c_5 => ?_) (fun c_5 => ?_)
    · -- (s_lcg a / 65536 % 6) ≠ 1
      exact z_vret dX5_drawsDeed_90 rfl (Nat.le_of_ble_eq_true rfl) (Nat.le_of_ble_eq_true rfl) (by rw [show s_deed s_lcg (I 10) nh nd σ a = (σ, (s_lcg a)) from (by unfold s_deed s_deed1; simp [c_4, c_5])]; exact ⟨rfl, rfl⟩)
    · -- (s_lcg a / 65536 % 6) = 1
      refine z_aload_n 1 dX5_drawsDeed_49 rfl ?_
      refine z_aload_n 1 dX5_drawsDeed_50 rfl ?_
      refine z_callV (As := []) (t_days (I := (tput I 1034 σ)) hL h1) q1573 q1575 qs53 q121 q1576 nm_X5_days (tX_obj hL) rfl rfl rfl (Nat.le_of_ble_eq_true rfl) ⟨Nat.le_of_ble_eq_true rfl, Nat.le_of_ble_eq_true rfl⟩ dX5_drawsDeed_51 rfl rfl (Nat.le_of_ble_eq_true rfl) (Nat.le_of_ble_eq_true rfl) (fun v_6 X_7 hp_8 => ?_)
      obtain ⟨rfl, rfl⟩ := hp_8
      refine z_st (st' := [.int (nI (nd)), .ref (L 99)]) rfl ?_
      refine z_callV (As := [.int (nI (nd))]) (t_draw (I := (tput I 1034 σ)) (J := J) hL (a := (s_lcg a)) (by first | exact ha | exact s_lcg_lt _) nd (by omega) (by omega)) q2048 q2050 qs108 q121 q2051 nm_X5_draw (tX_obj hL) rfl rfl rfl (Nat.le_of_ble_eq_true rfl) ⟨Nat.le_of_ble_eq_true rfl, Nat.le_of_ble_eq_true rfl⟩ dX5_drawsDeed_54 rfl rfl (Nat.le_of_ble_eq_true rfl) (Nat.le_of_ble_eq_true rfl) (fun v_9 X_10 hp_11 => ?_)
      obtain ⟨rfl, rfl⟩ := hp_11
      refine z_st (st' := [.int (nI ((s_lcg (s_lcg a) / 65536 % nd)))]) rfl ?_
      refine z_istore_n (lv' := [(2, .int (nI ((s_lcg (s_lcg a) / 65536 % nd)))), (1, .int (nI ((s_lcg a / 65536 % 6)))), (0, .ref (L 99))]) dX5_drawsDeed_57 rfl (by decide) rfl ?_
      refine z_aload_n 2 dX5_drawsDeed_58 rfl ?_
      refine z_aload_n 2 dX5_drawsDeed_59 rfl ?_
      refine z_callV (As := []) (t_houses (I := (tput I 1034 σ)) hL h0) q1585 q1587 qs56 q121 q1588 nm_X5_houses (tX_obj hL) rfl rfl rfl (Nat.le_of_ble_eq_true rfl) ⟨Nat.le_of_ble_eq_true rfl, Nat.le_of_ble_eq_true rfl⟩ dX5_drawsDeed_60 rfl rfl (Nat.le_of_ble_eq_true rfl) (Nat.le_of_ble_eq_true rfl) (fun v_12 X_13 hp_14 => ?_)
      obtain ⟨rfl, rfl⟩ := hp_14
      refine z_st (st' := [.int (nI (nh)), .ref (L 99)]) rfl ?_
      refine z_callV (As := [.int (nI (nh))]) (t_draw (I := (tput I 1034 σ)) (J := J) hL (a := (s_lcg (s_lcg a))) (by first | exact ha | exact s_lcg_lt _) nh (by omega) (by omega)) q2048 q2050 qs108 q121 q2051 nm_X5_draw (tX_obj hL) rfl rfl rfl (Nat.le_of_ble_eq_true rfl) ⟨Nat.le_of_ble_eq_true rfl, Nat.le_of_ble_eq_true rfl⟩ dX5_drawsDeed_63 rfl rfl (Nat.le_of_ble_eq_true rfl) (Nat.le_of_ble_eq_true rfl) (fun v_15 X_16 hp_17 => ?_)
      obtain ⟨rfl, rfl⟩ := hp_17
      refine z_st (st' := [.int (nI ((s_lcg (s_lcg (s_lcg a)) / 65536 % nh)))]) rfl ?_
      refine z_istore_n (lv' := [(3, .int (nI ((s_lcg (s_lcg (s_lcg a)) / 65536 % nh)))), (2, .int (nI ((s_lcg (s_lcg a) / 65536 % nd)))), (1, .int (nI ((s_lcg a / 65536 % 6)))), (0, .ref (L 99))]) dX5_drawsDeed_66 rfl (by decide) rfl ?_
      refine z_aload_n 3 dX5_drawsDeed_67 rfl ?_
      refine z_sipush (v := 1034) dX5_drawsDeed_68 (by decide) ?_
      refine z_iload_n 1 dX5_drawsDeed_71 rfl ?_
      refine z_iload_n 0 dX5_drawsDeed_72 rfl ?_
      refine z_callV (As := [.int 1034, .int (nI ((s_lcg (s_lcg a) / 65536 % nd))), .int (nI ((s_lcg (s_lcg (s_lcg a)) / 65536 % nh)))]) (t_mayMove (I := I) (σ := σ) hL h1 hnd 1034 (by omega) (s_lcg (s_lcg a) / 65536 % nd) (s_lcg (s_lcg (s_lcg a)) / 65536 % nh) (by omega) (by omega)) q1904 q1906 qs99 q121 q1907 nm_X5_mayMove (tX_obj hL) rfl rfl rfl (Nat.le_of_ble_eq_true rfl) ⟨Nat.le_of_ble_eq_true rfl, Nat.le_of_ble_eq_true rfl⟩ dX5_drawsDeed_73 rfl rfl (Nat.le_of_ble_eq_true rfl) (Nat.le_of_ble_eq_true rfl) (fun v_18 X_19 hp_20 => ?_)
      obtain ⟨rfl, rfl⟩ := hp_20
      refine z_st (st' := [.int (zb (s_may (I 10) σ nd (s_lcg (s_lcg a) / 65536 % nd) (s_lcg (s_lcg (s_lcg a)) / 65536 % nh)))]) rfl ?_
      refine z_if_eqb 90 dX5_drawsDeed_76 (by decide) (fun c_21 => ?_) (fun c_21 => ?_)
      · -- s_may (I 10) σ nd (s_lcg (s_lcg a) / 65536 % nd) (s_lcg (s_lcg (s_lcg a)) / 65536 % nh) = false
        exact z_vret dX5_drawsDeed_90 rfl (Nat.le_of_ble_eq_true rfl) (Nat.le_of_ble_eq_true rfl) (by rw [show s_deed s_lcg (I 10) nh nd σ a = (σ, (s_lcg (s_lcg (s_lcg a)))) from (by unfold s_deed s_deed1; simp [c_4, c_5, c_21])]; exact ⟨rfl, rfl⟩)
      · -- s_may (I 10) σ nd (s_lcg (s_lcg a) / 65536 % nd) (s_lcg (s_lcg (s_lcg a)) / 65536 % nh) = true
        refine z_aload_n 3 dX5_drawsDeed_79 rfl ?_
        refine tz_get (v := .ref (L 24)) 24 hL (by decide) q1617 rfl dX5_drawsDeed_80 ?_
        refine z_sipush (v := 1040) dX5_drawsDeed_83 (by decide) ?_
        refine z_iload_n 1 dX5_drawsDeed_86 rfl ?_
        refine z_iaddN (a := 1040) (b := (s_lcg (s_lcg a) / 65536 % nd)) dX5_drawsDeed_87 ?_
        refine z_eq (y := nI ((s_lcg (s_lcg a) / 65536 % nd) + 1040)) (congrArg nI (by omega)) ?_
        refine z_iload_n 0 dX5_drawsDeed_88 rfl ?_
        refine tz_iast 24 (1034 + ((s_lcg (s_lcg a) / 65536 % nd) + 6)) hL (by decide) (congrArg nI (by omega)) (by show 1034 + ((s_lcg (s_lcg a) / 65536 % nd) + 6) < 1081; omega) (tput_zs (by omega)) dX5_drawsDeed_89 ?_
        exact z_vret dX5_drawsDeed_90 rfl (Nat.le_of_ble_eq_true rfl) (Nat.le_of_ble_eq_true rfl) (by rw [show s_deed s_lcg (I 10) nh nd σ a = ((zs1 σ ((s_lcg (s_lcg a) / 65536 % nd) + 6) (nI ((s_lcg (s_lcg (s_lcg a)) / 65536 % nh)))), (s_lcg (s_lcg (s_lcg a)))) from (by unfold s_deed s_deed1; simp [c_4, c_5, c_21])]; exact ⟨rfl, rfl⟩)
  · -- (s_lcg a / 65536 % 6) = 0
    refine z_aload_n 1 dX5_drawsDeed_11 rfl ?_
    refine z_aload_n 1 dX5_drawsDeed_12 rfl ?_
    refine z_callV (As := []) (t_days (I := (tput I 1034 σ)) hL h1) q1573 q1575 qs53 q121 q1576 nm_X5_days (tX_obj hL) rfl rfl rfl (Nat.le_of_ble_eq_true rfl) ⟨Nat.le_of_ble_eq_true rfl, Nat.le_of_ble_eq_true rfl⟩ dX5_drawsDeed_13 rfl rfl (Nat.le_of_ble_eq_true rfl) (Nat.le_of_ble_eq_true rfl) (fun v_22 X_23 hp_24 => ?_)
    obtain ⟨rfl, rfl⟩ := hp_24
    refine z_st (st' := [.int (nI (nd)), .ref (L 99)]) rfl ?_
    refine z_callV (As := [.int (nI (nd))]) (t_draw (I := (tput I 1034 σ)) (J := J) hL (a := (s_lcg a)) (by first | exact ha | exact s_lcg_lt _) nd (by omega) (by omega)) q2048 q2050 qs108 q121 q2051 nm_X5_draw (tX_obj hL) rfl rfl rfl (Nat.le_of_ble_eq_true rfl) ⟨Nat.le_of_ble_eq_true rfl, Nat.le_of_ble_eq_true rfl⟩ dX5_drawsDeed_16 rfl rfl (Nat.le_of_ble_eq_true rfl) (Nat.le_of_ble_eq_true rfl) (fun v_25 X_26 hp_27 => ?_)
    obtain ⟨rfl, rfl⟩ := hp_27
    refine z_st (st' := [.int (nI ((s_lcg (s_lcg a) / 65536 % nd)))]) rfl ?_
    refine z_istore_n (lv' := [(2, .int (nI ((s_lcg (s_lcg a) / 65536 % nd)))), (1, .int (nI ((s_lcg a / 65536 % 6)))), (0, .ref (L 99))]) dX5_drawsDeed_19 rfl (by decide) rfl ?_
    refine z_aload_n 2 dX5_drawsDeed_20 rfl ?_
    refine tz_get (v := .ref (L 24)) 24 hL (by decide) q1617 rfl dX5_drawsDeed_21 ?_
    refine z_sipush (v := 1040) dX5_drawsDeed_24 (by decide) ?_
    refine z_iload_n 0 dX5_drawsDeed_27 rfl ?_
    refine z_iaddN (a := 1040) (b := (s_lcg (s_lcg a) / 65536 % nd)) dX5_drawsDeed_28 ?_
    refine z_eq (y := nI ((s_lcg (s_lcg a) / 65536 % nd) + 1040)) (congrArg nI (by omega)) ?_
    refine tz_iald (v := σ ((s_lcg (s_lcg a) / 65536 % nd) + 6)) 24 (1034 + ((s_lcg (s_lcg a) / 65536 % nd) + 6)) hL (by decide) (congrArg nI (by omega)) (by show 1034 + ((s_lcg (s_lcg a) / 65536 % nd) + 6) < 1081; omega) (tput_at (by omega)) dX5_drawsDeed_29 ?_
    refine z_if_lt 41 dX5_drawsDeed_30 (by decide) (fun c_28 => ?_) (fun c_28 => ?_)
    · -- σ ((s_lcg (s_lcg a) / 65536 % nd) + 6) < 0
      have c_28' := Int32.not_le.mpr c_28
      refine z_goto 90 dX5_drawsDeed_41 (by decide) ?_
      exact z_vret dX5_drawsDeed_90 rfl (Nat.le_of_ble_eq_true rfl) (Nat.le_of_ble_eq_true rfl) (by rw [show s_deed s_lcg (I 10) nh nd σ a = (σ, (s_lcg (s_lcg a))) from (by unfold s_deed s_deed1; simp [c_4, c_28, c_28'])]; exact ⟨rfl, rfl⟩)
    · -- ¬ σ ((s_lcg (s_lcg a) / 65536 % nd) + 6) < 0
      have c_28' := Int32.not_lt.mp c_28
      refine z_aload_n 2 dX5_drawsDeed_33 rfl ?_
      refine z_sipush (v := 1034) dX5_drawsDeed_34 (by decide) ?_
      refine z_iload_n 0 dX5_drawsDeed_37 rfl ?_
      refine z_callV (As := [.int 1034, .int (nI ((s_lcg (s_lcg a) / 65536 % nd)))]) (t_leaves (I := I) (σ := σ) hL 1034 (by omega) (s_lcg (s_lcg a) / 65536 % nd) (by omega)) q1870 q1872 qs93 q121 q1873 nm_X5_leaves (tX_obj hL) rfl rfl rfl (Nat.le_of_ble_eq_true rfl) ⟨Nat.le_of_ble_eq_true rfl, Nat.le_of_ble_eq_true rfl⟩ dX5_drawsDeed_38 rfl rfl (Nat.le_of_ble_eq_true rfl) (Nat.le_of_ble_eq_true rfl) (fun v_29 X_30 hp_31 => ?_)
      obtain ⟨rfl, rfl⟩ := hp_31
      refine z_st (st' := []) rfl ?_
      refine z_goto 90 dX5_drawsDeed_41 (by decide) ?_
      exact z_vret dX5_drawsDeed_90 rfl (Nat.le_of_ble_eq_true rfl) (Nat.le_of_ble_eq_true rfl) (by rw [show s_deed s_lcg (I 10) nh nd σ a = ((s_leave σ (s_lcg (s_lcg a) / 65536 % nd)), (s_lcg (s_lcg a))) from (by unfold s_deed s_deed1; simp [c_4, c_28, c_28'])]; exact ⟨rfl, rfl⟩)
