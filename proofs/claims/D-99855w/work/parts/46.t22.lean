/-! THE MODEL: ages, chances. Printed by t22.py -/
set_option maxRecDepth 100000
theorem t_drawsDeedF {f : Nat → Nat} (hfe : f = s_lcg) {g : zG} {L : Nat → Nat} {I : Nat → Nat → Int32} {J : Nat → Nat → Int64} {Gb : Nat → Nat → Int32} {X : zX} (hL : tok g L) {σ : Nat → Int32} {a : Nat} (ha : a < 2147483648) {nh nd : Nat} (h0 : I 10 0 = nI nh) (hnh : nh ≤ 4) (h1 : I 10 1 = nI nd) (hnd : nd ≤ 6) (hnd0 : 0 < nd) (hnh0 : 0 < nh) : zN g m_X5_drawsDeed ({ frames := 5, cells := 0, slots := 0, locals := 113 } : Room) [.ref (L 99)] (tX g L (tput I 1034 σ) (zs J 99 31 (lN a)) Gb X) (fun rv X' => rv = none ∧ X' = (tX g L (tput I 1034 ((s_deed f (I 10) nh nd σ a).1)) (zs J 99 31 (lN (s_deed f (I 10) nh nd σ a).2)) Gb X)) := by
  subst hfe
  exact t_drawsDeed hL ha h0 hnh h1 hnd hnd0 hnh0
set_option maxHeartbeats 4000000 in
theorem t_agesF {f : Nat → Nat} (hfe : f = s_lcg) {g : zG} {L : Nat → Nat} {I : Nat → Nat → Int32} {J : Nat → Nat → Int64} {Gb : Nat → Nat → Int32} {X : zX} (hL : tok g L) {nh nd : Nat} {own : Nat → Nat} (hV : s_ok (I 10) nh nd own) {wv : Int32 → Int32 → Int32 → Int32 → Int32} (hlaw : s_law (I 10) (I 11) (I 12) wv) {now : Nat} (hw : I 24 0 = nI now) (hw2 : now < 2 ^ 29) (s m w : Int32) : zN g m_X5_ages ({ frames := 7, cells := 0, slots := 0, locals := 161 } : Room) [.ref (L 99), .int s, .int m, .int w] (tX g L I J Gb X) (fun rv X' => rv = some (.int (if (((decide (0 ≤ s) && decide (s ≤ 9999)) && (decide (1 ≤ m) && decide (m ≤ 99))) && (decide (0 ≤ w) && decide (w ≤ 2))) = true then s_agesR (I 24) nd (s_age f wv (I 10) (I 27) nh nd own now (I 24) s.toNatClampNeg m.toNatClampNeg) w.toNatClampNeg else zm1)) ∧ ∃ (I' : Nat → Nat → Int32) (v : Int64) (Gb' : Nat → Nat → Int32), X' = tX g L I' (zs J 99 31 v) Gb' X ∧ tobs I I' ∧ I' 99 0 = 0) := by
  refine zN.of (by decide +kernel) (Nat.le_of_ble_eq_true rfl) rfl ?_
  refine z_lv (lv' := [(0, .ref (L 99)), (1, .int s), (2, .int m), (3, .int w)]) [0, 1, 2, 3] rfl ?_
  have hV9 := hV
  obtain ⟨h0, hnh, h1, hnd, hown⟩ := hV9
  have hfl : ∀ x, f x < 2147483648 := hfe ▸ s_lcg_lt
  have hnh0 : 0 < nd → 0 < nh := fun h => by have := (hown 0 h).2; omega
  refine z_aload_n 0 dX5_ages_0 rfl ?_
  refine z_iconst (v := 0) dX5_ages_1 (by decide) ?_
  refine tz_put (I' := (zs I 99 0 0)) 0 hL (by decide) q1593 rfl dX5_ages_2 ?_
  by_cases hv : (((decide (0 ≤ s) && decide (s ≤ 9999)) && (decide (1 ≤ m) && decide (m ≤ 99))) && (decide (0 ≤ w) && decide (w ≤ 2))) = true
  · skip
    obtain ⟨hv12, hv3⟩ := Bool.and_eq_true_iff.mp hv
    obtain ⟨hv1, hv2⟩ := Bool.and_eq_true_iff.mp hv12
    obtain ⟨ss, -, hss, e_s⟩ := zwin 0 9999 (by decide) hv1
    obtain ⟨mm, hmm1, hmm, e_m⟩ := zwin 1 99 (by decide) hv2
    obtain ⟨ww, -, hww, e_w⟩ := zwin 0 2 (by decide) hv3
    subst e_s
    subst e_m
    subst e_w
    refine z_iload_n 1 dX5_ages_5 rfl ?_
    refine z_iconst (v := 0) dX5_ages_6 (by decide) ?_
    refine z_sipush (v := 9999) dX5_ages_7 (by decide) ?_
    refine z_callS (As := [.int (nI (ss)), .int 0, .int 9999]) (t_within (nI (ss)) 0 9999) q1771 q1772 q121 q1773 nm_X5_within rfl (Nat.le_of_ble_eq_true rfl) ⟨Nat.le_of_ble_eq_true rfl, Nat.le_of_ble_eq_true rfl⟩ dX5_ages_10 rfl rfl (Nat.le_of_ble_eq_true rfl) (Nat.le_of_ble_eq_true rfl) (fun v_1 X_2 hp_3 => ?_)
    obtain ⟨rfl, rfl⟩ := hp_3
    refine z_st (st' := [.int (zb (decide (0 ≤ nI (ss)) && decide (nI (ss) ≤ 9999)))]) rfl ?_
    refine z_eq (y := 1) (zb_t (zwin_t (Nat.zero_le _) hss (by decide))) ?_
    refine z_if_eq 35 dX5_ages_13 (by decide) (fun h_ => absurd h_ (by decide)) (fun h_ => ?_)
    refine z_iload_n 2 dX5_ages_16 rfl ?_
    refine z_iconst (v := 1) dX5_ages_17 (by decide) ?_
    refine z_bipush (v := 99) dX5_ages_18 (by decide) ?_
    refine z_callS (As := [.int (nI (mm)), .int 1, .int 99]) (t_within (nI (mm)) 1 99) q1771 q1772 q121 q1773 nm_X5_within rfl (Nat.le_of_ble_eq_true rfl) ⟨Nat.le_of_ble_eq_true rfl, Nat.le_of_ble_eq_true rfl⟩ dX5_ages_20 rfl rfl (Nat.le_of_ble_eq_true rfl) (Nat.le_of_ble_eq_true rfl) (fun v_4 X_5 hp_6 => ?_)
    obtain ⟨rfl, rfl⟩ := hp_6
    refine z_st (st' := [.int (zb (decide (1 ≤ nI (mm)) && decide (nI (mm) ≤ 99)))]) rfl ?_
    refine z_eq (y := 1) (zb_t (zwin_t hmm1 hmm (by decide))) ?_
    refine z_if_eq 35 dX5_ages_23 (by decide) (fun h_ => absurd h_ (by decide)) (fun h_ => ?_)
    refine z_iload_n 3 dX5_ages_26 rfl ?_
    refine z_iconst (v := 0) dX5_ages_27 (by decide) ?_
    refine z_iconst (v := 2) dX5_ages_28 (by decide) ?_
    refine z_callS (As := [.int (nI (ww)), .int 0, .int 2]) (t_within (nI (ww)) 0 2) q1771 q1772 q121 q1773 nm_X5_within rfl (Nat.le_of_ble_eq_true rfl) ⟨Nat.le_of_ble_eq_true rfl, Nat.le_of_ble_eq_true rfl⟩ dX5_ages_29 rfl rfl (Nat.le_of_ble_eq_true rfl) (Nat.le_of_ble_eq_true rfl) (fun v_7 X_8 hp_9 => ?_)
    obtain ⟨rfl, rfl⟩ := hp_9
    refine z_st (st' := [.int (zb (decide (0 ≤ nI (ww)) && decide (nI (ww) ≤ 2)))]) rfl ?_
    refine z_eq (y := 1) (zb_t (zwin_t (Nat.zero_le _) hww (by decide))) ?_
    refine z_if_ne 37 dX5_ages_32 (by decide) (fun h_ => ?_) (fun h_ => absurd h_ (by decide))
    refine z_X (X' := (tX g L (tput (tco (zs I 99 0 0) (I 99 28) (I 99 29)) 1034 (s_other I)) J Gb X)) (by show tX g L (zs I 99 0 0) J Gb X = (tX g L (tput (tco (zs I 99 0 0) (I 99 28) (I 99 29)) 1034 (s_other I)) J Gb X); rw [show tput (tco (zs I 99 0 0) (I 99 28) (I 99 29)) 1034 (s_other I) = tco (zs I 99 0 0) (I 99 28) (I 99 29) from tput_other (I := tco (zs I 99 0 0) (I 99 28) (I 99 29))]; exact congrArg (fun z => tX g L z J Gb X) (tco_self (I := (zs I 99 0 0))).symm) ?_
    refine z_aload_n 0 dX5_ages_37 rfl ?_
    refine z_iconst (v := 0) dX5_ages_38 (by decide) ?_
    refine z_sipush (v := 1034) dX5_ages_39 (by decide) ?_
    refine z_bipush (v := 30) dX5_ages_42 (by decide) ?_
    refine z_callV (As := [.int 0, .int 1034, .int 30]) (t_copies (I := (tput (tco (zs I 99 0 0) (I 99 28) (I 99 29)) 1034 (s_other I))) hL 0 1034 30 (by omega) (by omega) (by omega)) q1862 q1864 qs91 q121 q1865 nm_X5_copies (tX_obj hL) rfl rfl rfl (Nat.le_of_ble_eq_true rfl) ⟨Nat.le_of_ble_eq_true rfl, Nat.le_of_ble_eq_true rfl⟩ dX5_ages_44 rfl rfl (Nat.le_of_ble_eq_true rfl) (Nat.le_of_ble_eq_true rfl) (fun v_10 X_11 hp_12 => ?_)
    obtain ⟨rfl, rfl⟩ := hp_12
    refine z_X (X' := (tX g L (tput (tco (zs I 99 0 0) (I 99 28) (I 99 29)) 1034 (I 24)) J Gb X)) (by first | (rw [s_copy_try (by decide)]; done) | (rw [s_copy_try (by decide)]; rfl)) ?_
    refine z_st (st' := []) rfl ?_
    refine z_aload_n 0 dX5_ages_47 rfl ?_
    refine z_iload_n 1 dX5_ages_48 rfl ?_
    refine z_i2l (v := (nI (ss)).toInt64) dX5_ages_49 rfl ?_
    refine z_st (st' := [.long (lN ss), .ref (L 99)]) (by rw [nI_l (by omega)]) ?_
    refine tz_putg hL q1624 dX5_ages_50 ?_
    refine z_iconst (v := 0) dX5_ages_53 (by decide) ?_
    refine z_istore (lv' := [(4, .int 0), (0, .ref (L 99)), (1, .int (nI (ss))), (2, .int (nI (mm))), (3, .int (nI (ww)))]) dX5_ages_54 (by decide) rfl ?_
    refine z_iconst (v := 0) dX5_ages_56 (by decide) ?_
    refine z_istore (lv' := [(5, .int 0), (4, .int 0), (0, .ref (L 99)), (1, .int (nI (ss))), (2, .int (nI (mm))), (3, .int (nI (ww)))]) dX5_ages_57 (by decide) rfl ?_
    have loop_17 : ∀ (q_14 i_13 : Nat), i_13 + q_14 = mm → 0 ≤ i_13 → ∀ (Gb_18 : Nat → Nat → Int32), ∀ (c_19 : Int32), ∀ (o_20 : Int32), zZ g m_X5_ages (fun rv X' => rv = some (.int (if (((decide (0 ≤ (nI (ss))) && decide ((nI (ss)) ≤ 9999)) && (decide (1 ≤ (nI (mm))) && decide ((nI (mm)) ≤ 99))) && (decide (0 ≤ (nI (ww))) && decide ((nI (ww)) ≤ 2))) = true then s_agesR (I 24) nd (s_age f wv (I 10) (I 27) nh nd own now (I 24) (nI (ss)).toNatClampNeg (nI (mm)).toNatClampNeg) (nI (ww)).toNatClampNeg else zm1)) ∧ ∃ (I' : Nat → Nat → Int32) (v : Int64) (Gb' : Nat → Nat → Int32), X' = tX g L I' (zs J 99 31 v) Gb' X ∧ tobs I I' ∧ I' 99 0 = 0, zno, ({ frames := 7, cells := 0, slots := 0, locals := 161 } : Room)) 0 0 (tX g L (tput (tco (zs I 99 0 0) c_19 o_20) 1034 ((s_age f wv (I 10) (I 27) nh nd own now (I 24) ss i_13).1)) (zs J 99 31 (lN ((s_age f wv (I 10) (I 27) nh nd own now (I 24) ss i_13).2.1))) Gb_18 X) 59 [(0, .ref (L 99)), (1, .int (nI (ss))), (2, .int (nI (mm))), (3, .int (nI (ww))), (4, .int ((s_age f wv (I 10) (I 27) nh nd own now (I 24) ss i_13).2.2)), (5, .int (nI (i_13)))] [] := by
      intro q_14
      induction q_14 with
      | zero =>
        intro i_13 hb_16 lo_21 Gb_18 c_19 o_20 
        obtain rfl : mm = i_13 := by omega
        refine z_iload 5 dX5_ages_59 rfl ?_
        refine z_iload_n 2 dX5_ages_61 rfl ?_
        refine z_icmp_geN (a := mm) (b := mm) 101 (by omega) (by omega) dX5_ages_62 (by decide) (fun c_22 => ?_) (fun c_22 => absurd c_22 (by omega))
        refine z_iconst (v := 0) dX5_ages_101 (by decide) ?_
        refine z_istore (lv' := [(5, .int 0), (0, .ref (L 99)), (1, .int (nI (ss))), (2, .int (nI (mm))), (3, .int (nI (ww))), (4, .int ((s_age f wv (I 10) (I 27) nh nd own now (I 24) ss mm).2.2))]) dX5_ages_102 (by decide) rfl ?_
        refine z_iconst (v := 0) dX5_ages_104 (by decide) ?_
        refine z_istore (lv' := [(6, .int 0), (5, .int 0), (0, .ref (L 99)), (1, .int (nI (ss))), (2, .int (nI (mm))), (3, .int (nI (ww))), (4, .int ((s_age f wv (I 10) (I 27) nh nd own now (I 24) ss mm).2.2))]) dX5_ages_105 (by decide) rfl ?_
        have loop_27 : ∀ (q_24 i_23 : Nat), i_23 + q_24 = nd → 0 ≤ i_23 → zZ g m_X5_ages (fun rv X' => rv = some (.int (if (((decide (0 ≤ (nI (ss))) && decide ((nI (ss)) ≤ 9999)) && (decide (1 ≤ (nI (mm))) && decide ((nI (mm)) ≤ 99))) && (decide (0 ≤ (nI (ww))) && decide ((nI (ww)) ≤ 2))) = true then s_agesR (I 24) nd (s_age f wv (I 10) (I 27) nh nd own now (I 24) (nI (ss)).toNatClampNeg (nI (mm)).toNatClampNeg) (nI (ww)).toNatClampNeg else zm1)) ∧ ∃ (I' : Nat → Nat → Int32) (v : Int64) (Gb' : Nat → Nat → Int32), X' = tX g L I' (zs J 99 31 v) Gb' X ∧ tobs I I' ∧ I' 99 0 = 0, zno, ({ frames := 7, cells := 0, slots := 0, locals := 161 } : Room)) 0 0 (tX g L (tput (tco (zs I 99 0 0) c_19 o_20) 1034 ((s_age f wv (I 10) (I 27) nh nd own now (I 24) ss mm).1)) (zs J 99 31 (lN ((s_age f wv (I 10) (I 27) nh nd own now (I 24) ss mm).2.1))) Gb_18 X) 107 [(0, .ref (L 99)), (1, .int (nI (ss))), (2, .int (nI (mm))), (3, .int (nI (ww))), (4, .int ((s_age f wv (I 10) (I 27) nh nd own now (I 24) ss mm).2.2)), (5, .int (s_sum (fun d => (s_age f wv (I 10) (I 27) nh nd own now (I 24) ss mm).1 (d + 18)) i_23)), (6, .int (nI (i_23)))] [] := by
          intro q_24
          induction q_24 with
          | zero =>
            intro i_23 hb_26 lo_28  
            obtain rfl : nd = i_23 := by omega
            refine z_iload 6 dX5_ages_107 rfl ?_
            refine z_aload_n 0 dX5_ages_109 rfl ?_
            refine z_callV (As := []) (t_days (I := (tput (tco (zs I 99 0 0) c_19 o_20) 1034 ((s_age f wv (I 10) (I 27) nh nd own now (I 24) ss mm).1))) hL h1) q1573 q1575 qs53 q121 q1576 nm_X5_days (tX_obj hL) rfl rfl rfl (Nat.le_of_ble_eq_true rfl) ⟨Nat.le_of_ble_eq_true rfl, Nat.le_of_ble_eq_true rfl⟩ dX5_ages_110 rfl rfl (Nat.le_of_ble_eq_true rfl) (Nat.le_of_ble_eq_true rfl) (fun v_29 X_30 hp_31 => ?_)
            obtain ⟨rfl, rfl⟩ := hp_31
            refine z_st (st' := [.int (nI (nd)), .int (nI (nd))]) rfl ?_
            refine z_icmp_geN (a := nd) (b := nd) 138 (by omega) (by omega) dX5_ages_113 (by decide) (fun c_32 => ?_) (fun c_32 => absurd c_32 (by omega))
            refine z_iload_n 3 dX5_ages_138 rfl ?_
            refine z_if_neN 147 (by omega) dX5_ages_139 (by decide) (fun c_33 => ?_) (fun c_33 => ?_)
            · -- ww ≠ 0
              refine z_iload_n 3 dX5_ages_147 rfl ?_
              refine z_iconst (v := 1) dX5_ages_148 (by decide) ?_
              refine z_icmp_neN (a := ww) (b := 1) 170 (by omega) (by omega) dX5_ages_149 (by decide) (fun c_34 => ?_) (fun c_34 => ?_)
              · -- ww ≠ 1
                refine z_iload 5 dX5_ages_170 rfl ?_
                exact z_iret dX5_ages_172 rfl (Nat.le_of_ble_eq_true rfl) (Nat.le_of_ble_eq_true rfl) ⟨congrArg some (congrArg Value.int (by rw [if_pos hv, ncl (by omega), ncl (by omega), ncl (by omega)]; unfold s_agesR; simp [c_33, c_34])), (tput (tco (zs I 99 0 0) c_19 o_20) 1034 ((s_age f wv (I 10) (I 27) nh nd own now (I 24) ss mm).1)), (lN ((s_age f wv (I 10) (I 27) nh nd own now (I 24) ss mm).2.1)), Gb_18, rfl, (tobs_put (tobs_co (tobs_zs tobs_rf rfl)) (by decide)), rfl⟩
              · -- ww = 1
                refine z_aload_n 0 dX5_ages_152 rfl ?_
                refine tz_get (v := .ref (L 24)) 24 hL (by decide) q1617 rfl dX5_ages_153 ?_
                refine z_sipush (v := 1035) dX5_ages_156 (by decide) ?_
                refine tz_iald (v := ((s_age f wv (I 10) (I 27) nh nd own now (I 24) ss mm).1) 1) 24 (1034 + 1) hL (by decide) (by decide) (by show 1034 + 1 < 1081; omega) (tput_at (by omega)) dX5_ages_159 ?_
                refine z_aload_n 0 dX5_ages_160 rfl ?_
                refine tz_get (v := .ref (L 24)) 24 hL (by decide) q1617 rfl dX5_ages_161 ?_
                refine z_iconst (v := 1) dX5_ages_164 (by decide) ?_
                refine tz_iald (v := I 24 1) 24 (1) hL (by decide) rfl (by show 1 < 1081; omega) ((tput_off (by omega)).trans rfl) dX5_ages_165 ?_
                refine z_isub dX5_ages_166 ?_
                refine z_goto 172 dX5_ages_167 (by decide) ?_
                exact z_iret dX5_ages_172 rfl (Nat.le_of_ble_eq_true rfl) (Nat.le_of_ble_eq_true rfl) ⟨congrArg some (congrArg Value.int (by rw [if_pos hv, ncl (by omega), ncl (by omega), ncl (by omega)]; unfold s_agesR; simp [c_33, c_34])), (tput (tco (zs I 99 0 0) c_19 o_20) 1034 ((s_age f wv (I 10) (I 27) nh nd own now (I 24) ss mm).1)), (lN ((s_age f wv (I 10) (I 27) nh nd own now (I 24) ss mm).2.1)), Gb_18, rfl, (tobs_put (tobs_co (tobs_zs tobs_rf rfl)) (by decide)), rfl⟩
            · -- ww = 0
              refine z_iload 4 dX5_ages_142 rfl ?_
              refine z_goto 172 dX5_ages_144 (by decide) ?_
              exact z_iret dX5_ages_172 rfl (Nat.le_of_ble_eq_true rfl) (Nat.le_of_ble_eq_true rfl) ⟨congrArg some (congrArg Value.int (by rw [if_pos hv, ncl (by omega), ncl (by omega), ncl (by omega)]; unfold s_agesR; simp [c_33])), (tput (tco (zs I 99 0 0) c_19 o_20) 1034 ((s_age f wv (I 10) (I 27) nh nd own now (I 24) ss mm).1)), (lN ((s_age f wv (I 10) (I 27) nh nd own now (I 24) ss mm).2.1)), Gb_18, rfl, (tobs_put (tobs_co (tobs_zs tobs_rf rfl)) (by decide)), rfl⟩
          | succ q_24 ih_25 =>
            intro i_23 hb_26 lo_28  
            refine z_iload 6 dX5_ages_107 rfl ?_
            refine z_aload_n 0 dX5_ages_109 rfl ?_
            refine z_callV (As := []) (t_days (I := (tput (tco (zs I 99 0 0) c_19 o_20) 1034 ((s_age f wv (I 10) (I 27) nh nd own now (I 24) ss mm).1))) hL h1) q1573 q1575 qs53 q121 q1576 nm_X5_days (tX_obj hL) rfl rfl rfl (Nat.le_of_ble_eq_true rfl) ⟨Nat.le_of_ble_eq_true rfl, Nat.le_of_ble_eq_true rfl⟩ dX5_ages_110 rfl rfl (Nat.le_of_ble_eq_true rfl) (Nat.le_of_ble_eq_true rfl) (fun v_35 X_36 hp_37 => ?_)
            obtain ⟨rfl, rfl⟩ := hp_37
            refine z_st (st' := [.int (nI (nd)), .int (nI (i_23))]) rfl ?_
            refine z_icmp_geN (a := i_23) (b := nd) 138 (by omega) (by omega) dX5_ages_113 (by decide) (fun c_38 => absurd c_38 (by omega)) (fun c_38 => ?_)
            refine z_iload 5 dX5_ages_116 rfl ?_
            refine z_aload_n 0 dX5_ages_118 rfl ?_
            refine tz_get (v := .ref (L 24)) 24 hL (by decide) q1617 rfl dX5_ages_119 ?_
            refine z_sipush (v := 1052) dX5_ages_122 (by decide) ?_
            refine z_iload 6 dX5_ages_125 rfl ?_
            refine z_iaddN (a := 1052) (b := i_23) dX5_ages_127 ?_
            refine z_eq (y := nI (i_23 + 1052)) (congrArg nI (by omega)) ?_
            refine tz_iald (v := ((s_age f wv (I 10) (I 27) nh nd own now (I 24) ss mm).1) (i_23 + 18)) 24 (1034 + (i_23 + 18)) hL (by decide) (congrArg nI (by omega)) (by show 1034 + (i_23 + 18) < 1081; omega) (tput_at (by omega)) dX5_ages_128 ?_
            refine z_iadd dX5_ages_129 ?_
            obtain ⟨x_39, ex_39⟩ : ∃ y : Int32, ((s_sum (fun d => (s_age f wv (I 10) (I 27) nh nd own now (I 24) ss mm).1 (d + 18)) i_23) + (((s_age f wv (I 10) (I 27) nh nd own now (I 24) ss mm).1) (i_23 + 18))) = y := ⟨_, rfl⟩
            refine z_eq ex_39 ?_
            refine z_istore (lv' := [(5, .int x_39), (0, .ref (L 99)), (1, .int (nI (ss))), (2, .int (nI (mm))), (3, .int (nI (ww))), (4, .int ((s_age f wv (I 10) (I 27) nh nd own now (I 24) ss mm).2.2)), (6, .int (nI (i_23)))]) dX5_ages_130 (by decide) rfl ?_
            refine z_iinc (v := nI (i_23 + 1)) (lv' := [(6, .int (nI (i_23 + 1))), (5, .int x_39), (0, .ref (L 99)), (1, .int (nI (ss))), (2, .int (nI (mm))), (3, .int (nI (ww))), (4, .int ((s_age f wv (I 10) (I 27) nh nd own now (I 24) ss mm).2.2))]) 6 dX5_ages_132 rfl (nI_1 _) (by decide) rfl ?_
            refine z_goto 107 dX5_ages_135 (by decide) ?_
            have f_40 : x_39 = s_sum (fun d => (s_age f wv (I 10) (I 27) nh nd own now (I 24) ss mm).1 (d + 18)) (i_23 + 1) := by first | rfl | omega | (simp [s_sum, hv, hb_16, c_22, hb_26, c_38]; done) | ((try subst ex_39); simp [s_sum, hv, hb_16, c_22, hb_26, c_38])
            subst f_40
            refine z_lv (lv' := [(0, .ref (L 99)), (1, .int (nI (ss))), (2, .int (nI (mm))), (3, .int (nI (ww))), (4, .int ((s_age f wv (I 10) (I 27) nh nd own now (I 24) ss mm).2.2)), (5, .int (s_sum (fun d => (s_age f wv (I 10) (I 27) nh nd own now (I 24) ss mm).1 (d + 18)) (i_23 + 1))), (6, .int (nI (i_23 + 1)))]) [2, 3, 4, 5, 6, 1, 0] rfl ?_
            exact ih_25 (i_23 + 1) (by omega) (by omega)  
        have f_41 : 0 = s_sum (fun d => (s_age f wv (I 10) (I 27) nh nd own now (I 24) ss mm).1 (d + 18)) 0 := by first | rfl | omega | (simp [s_sum, hv, hb_16, c_22]; done) | (skip; simp [s_sum, hv, hb_16, c_22])
        refine z_lv (lv' := [(0, .ref (L 99)), (1, .int (nI (ss))), (2, .int (nI (mm))), (3, .int (nI (ww))), (4, .int ((s_age f wv (I 10) (I 27) nh nd own now (I 24) ss mm).2.2)), (5, .int (s_sum (fun d => (s_age f wv (I 10) (I 27) nh nd own now (I 24) ss mm).1 (d + 18)) 0)), (6, .int 0)]) [2, 3, 4, 5, 6, 1, 0] (by rw [← f_41]; rfl) ?_
        exact loop_27 (nd - 0) 0 (by omega) (Nat.le_refl _)  
      | succ q_14 ih_15 =>
        intro i_13 hb_16 lo_21 Gb_18 c_19 o_20 
        refine z_iload 5 dX5_ages_59 rfl ?_
        refine z_iload_n 2 dX5_ages_61 rfl ?_
        refine z_icmp_geN (a := i_13) (b := mm) 101 (by omega) (by omega) dX5_ages_62 (by decide) (fun c_42 => absurd c_42 (by omega)) (fun c_42 => ?_)
        refine z_aload_n 0 dX5_ages_65 rfl ?_
        refine z_callV (As := []) (t_days (I := (tput (tco (zs I 99 0 0) c_19 o_20) 1034 ((s_age f wv (I 10) (I 27) nh nd own now (I 24) ss i_13).1))) hL h1) q1573 q1575 qs53 q121 q1576 nm_X5_days (tX_obj hL) rfl rfl rfl (Nat.le_of_ble_eq_true rfl) ⟨Nat.le_of_ble_eq_true rfl, Nat.le_of_ble_eq_true rfl⟩ dX5_ages_66 rfl rfl (Nat.le_of_ble_eq_true rfl) (Nat.le_of_ble_eq_true rfl) (fun v_43 X_44 hp_45 => ?_)
        obtain ⟨rfl, rfl⟩ := hp_45
        refine z_st (st' := [.int (nI (nd))]) rfl ?_
        refine z_if_leN 76 (by omega) dX5_ages_69 (by decide) (fun c_46 => ?_) (fun c_46 => ?_)
        · -- nd = 0
          refine z_aload_n 0 dX5_ages_76 rfl ?_
          refine z_sipush (v := 1034) dX5_ages_77 (by decide) ?_
          refine z_callV (As := [.int 1034]) (t_passes_ (I := (zs I 99 0 0)) (hds := rfl) (σ := (s_age f wv (I 10) (I 27) nh nd own now (I 24) ss i_13).1) (c := c_19) (o := o_20) hL hV hlaw 1034 (by omega) (s_age_0 hw i_13) (by omega)) q1866 q1868 qs92 q121 q1869 nm_X5_passes (tX_obj hL) rfl rfl rfl (Nat.le_of_ble_eq_true rfl) ⟨Nat.le_of_ble_eq_true rfl, Nat.le_of_ble_eq_true rfl⟩ dX5_ages_80 rfl rfl (Nat.le_of_ble_eq_true rfl) (Nat.le_of_ble_eq_true rfl) (fun v_48 X_49 hp_50 => ?_)
          obtain ⟨rfl, Gb_47, rfl⟩ := hp_50
          refine z_st (st' := []) rfl ?_
          refine z_iload 4 dX5_ages_83 rfl ?_
          refine z_aload_n 0 dX5_ages_85 rfl ?_
          refine tz_get (v := .int ((s_pass wv (I 10) (I 27) nh nd own (now + i_13) ((s_age f wv (I 10) (I 27) nh nd own now (I 24) ss i_13).1)).2.1)) 28 hL (by decide) q1621 rfl dX5_ages_86 ?_
          refine z_callS (As := [.int ((s_pass wv (I 10) (I 27) nh nd own (now + i_13) ((s_age f wv (I 10) (I 27) nh nd own now (I 24) ss i_13).1)).2.1)]) (t_bits ((s_pass wv (I 10) (I 27) nh nd own (now + i_13) ((s_age f wv (I 10) (I 27) nh nd own now (I 24) ss i_13).1)).2.1)) q1890 q1891 q121 q1892 nm_X5_bits rfl (Nat.le_of_ble_eq_true rfl) ⟨Nat.le_of_ble_eq_true rfl, Nat.le_of_ble_eq_true rfl⟩ dX5_ages_89 rfl rfl (Nat.le_of_ble_eq_true rfl) (Nat.le_of_ble_eq_true rfl) (fun v_51 X_52 hp_53 => ?_)
          obtain ⟨rfl, rfl⟩ := hp_53
          refine z_st (st' := [.int (s_bits ((s_pass wv (I 10) (I 27) nh nd own (now + i_13) ((s_age f wv (I 10) (I 27) nh nd own now (I 24) ss i_13).1)).2.1) 30), .int ((s_age f wv (I 10) (I 27) nh nd own now (I 24) ss i_13).2.2)]) rfl ?_
          refine z_iadd dX5_ages_92 ?_
          obtain ⟨x_54, ex_54⟩ : ∃ y : Int32, (((s_age f wv (I 10) (I 27) nh nd own now (I 24) ss i_13).2.2) + (s_bits ((s_pass wv (I 10) (I 27) nh nd own (now + i_13) ((s_age f wv (I 10) (I 27) nh nd own now (I 24) ss i_13).1)).2.1) 30)) = y := ⟨_, rfl⟩
          refine z_eq ex_54 ?_
          refine z_istore (lv' := [(4, .int x_54), (0, .ref (L 99)), (1, .int (nI (ss))), (2, .int (nI (mm))), (3, .int (nI (ww))), (5, .int (nI (i_13)))]) dX5_ages_93 (by decide) rfl ?_
          have hag := s_age_z (f := f) (wv := wv) (vs := I 10) (ds := I 27) (nh := nh) (own := own) (now := now) (σ := I 24) (a := ss) (n := i_13) c_46
          refine z_iinc (v := nI (i_13 + 1)) (lv' := [(5, .int (nI (i_13 + 1))), (4, .int x_54), (0, .ref (L 99)), (1, .int (nI (ss))), (2, .int (nI (mm))), (3, .int (nI (ww)))]) 5 dX5_ages_95 rfl (nI_1 _) (by decide) rfl ?_
          refine z_goto 59 dX5_ages_98 (by decide) ?_
          have f_55 : x_54 = (s_age f wv (I 10) (I 27) nh nd own now (I 24) ss (i_13 + 1)).2.2 := by (try subst ex_54); rw [hag] <;> rfl
          subst f_55
          refine z_lv (lv' := [(0, .ref (L 99)), (1, .int (nI (ss))), (2, .int (nI (mm))), (3, .int (nI (ww))), (4, .int ((s_age f wv (I 10) (I 27) nh nd own now (I 24) ss (i_13 + 1)).2.2)), (5, .int (nI (i_13 + 1)))]) [2, 3, 4, 5, 1, 0] rfl ?_
          refine z_X (X' := (tX g L (tput (tco (zs I 99 0 0) ((s_pass wv (I 10) (I 27) nh nd own (now + i_13) ((s_age f wv (I 10) (I 27) nh nd own now (I 24) ss i_13).1)).2.1) ((s_pass wv (I 10) (I 27) nh nd own (now + i_13) ((s_age f wv (I 10) (I 27) nh nd own now (I 24) ss i_13).1)).2.2)) 1034 ((s_age f wv (I 10) (I 27) nh nd own now (I 24) ss (i_13 + 1)).1)) (zs J 99 31 (lN ((s_age f wv (I 10) (I 27) nh nd own now (I 24) ss (i_13 + 1)).2.1))) Gb_47 X)) (by (try subst ex_54); rw [hag] <;> rfl) ?_
          exact ih_15 (i_13 + 1) (by omega) (by omega) _ _ _ 
        · -- 0 < nd
          refine z_aload_n 0 dX5_ages_72 rfl ?_
          refine z_callV (As := []) (t_drawsDeedF hfe (I := (tco (zs I 99 0 0) c_19 o_20)) (J := J) (σ := (s_age f wv (I 10) (I 27) nh nd own now (I 24) ss i_13).1) hL (a := (s_age f wv (I 10) (I 27) nh nd own now (I 24) ss i_13).2.1) (s_age_lt hfl (by omega) i_13) h0 hnh h1 hnd (by omega) (hnh0 (by omega))) q2044 q2046 qs107 q121 q2047 nm_X5_drawsDeed (tX_obj hL) rfl rfl rfl (Nat.le_of_ble_eq_true rfl) ⟨Nat.le_of_ble_eq_true rfl, Nat.le_of_ble_eq_true rfl⟩ dX5_ages_73 rfl rfl (Nat.le_of_ble_eq_true rfl) (Nat.le_of_ble_eq_true rfl) (fun v_56 X_57 hp_58 => ?_)
          obtain ⟨rfl, rfl⟩ := hp_58
          refine z_st (st' := []) rfl ?_
          refine z_aload_n 0 dX5_ages_76 rfl ?_
          refine z_sipush (v := 1034) dX5_ages_77 (by decide) ?_
          refine z_callV (As := [.int 1034]) (t_passes_ (I := (zs I 99 0 0)) (hds := rfl) (σ := (s_deed f (I 10) nh nd (s_age f wv (I 10) (I 27) nh nd own now (I 24) ss i_13).1 (s_age f wv (I 10) (I 27) nh nd own now (I 24) ss i_13).2.1).1) (c := c_19) (o := o_20) hL hV hlaw 1034 (by omega) ((s_deed_0 (by decide)).trans (s_age_0 hw i_13)) (by omega)) q1866 q1868 qs92 q121 q1869 nm_X5_passes (tX_obj hL) rfl rfl rfl (Nat.le_of_ble_eq_true rfl) ⟨Nat.le_of_ble_eq_true rfl, Nat.le_of_ble_eq_true rfl⟩ dX5_ages_80 rfl rfl (Nat.le_of_ble_eq_true rfl) (Nat.le_of_ble_eq_true rfl) (fun v_60 X_61 hp_62 => ?_)
          obtain ⟨rfl, Gb_59, rfl⟩ := hp_62
          refine z_st (st' := []) rfl ?_
          refine z_iload 4 dX5_ages_83 rfl ?_
          refine z_aload_n 0 dX5_ages_85 rfl ?_
          refine tz_get (v := .int ((s_pass wv (I 10) (I 27) nh nd own (now + i_13) ((s_deed f (I 10) nh nd (s_age f wv (I 10) (I 27) nh nd own now (I 24) ss i_13).1 (s_age f wv (I 10) (I 27) nh nd own now (I 24) ss i_13).2.1).1)).2.1)) 28 hL (by decide) q1621 rfl dX5_ages_86 ?_
          refine z_callS (As := [.int ((s_pass wv (I 10) (I 27) nh nd own (now + i_13) ((s_deed f (I 10) nh nd (s_age f wv (I 10) (I 27) nh nd own now (I 24) ss i_13).1 (s_age f wv (I 10) (I 27) nh nd own now (I 24) ss i_13).2.1).1)).2.1)]) (t_bits ((s_pass wv (I 10) (I 27) nh nd own (now + i_13) ((s_deed f (I 10) nh nd (s_age f wv (I 10) (I 27) nh nd own now (I 24) ss i_13).1 (s_age f wv (I 10) (I 27) nh nd own now (I 24) ss i_13).2.1).1)).2.1)) q1890 q1891 q121 q1892 nm_X5_bits rfl (Nat.le_of_ble_eq_true rfl) ⟨Nat.le_of_ble_eq_true rfl, Nat.le_of_ble_eq_true rfl⟩ dX5_ages_89 rfl rfl (Nat.le_of_ble_eq_true rfl) (Nat.le_of_ble_eq_true rfl) (fun v_63 X_64 hp_65 => ?_)
          obtain ⟨rfl, rfl⟩ := hp_65
          refine z_st (st' := [.int (s_bits ((s_pass wv (I 10) (I 27) nh nd own (now + i_13) ((s_deed f (I 10) nh nd (s_age f wv (I 10) (I 27) nh nd own now (I 24) ss i_13).1 (s_age f wv (I 10) (I 27) nh nd own now (I 24) ss i_13).2.1).1)).2.1) 30), .int ((s_age f wv (I 10) (I 27) nh nd own now (I 24) ss i_13).2.2)]) rfl ?_
          refine z_iadd dX5_ages_92 ?_
          obtain ⟨x_66, ex_66⟩ : ∃ y : Int32, (((s_age f wv (I 10) (I 27) nh nd own now (I 24) ss i_13).2.2) + (s_bits ((s_pass wv (I 10) (I 27) nh nd own (now + i_13) ((s_deed f (I 10) nh nd (s_age f wv (I 10) (I 27) nh nd own now (I 24) ss i_13).1 (s_age f wv (I 10) (I 27) nh nd own now (I 24) ss i_13).2.1).1)).2.1) 30)) = y := ⟨_, rfl⟩
          refine z_eq ex_66 ?_
          refine z_istore (lv' := [(4, .int x_66), (0, .ref (L 99)), (1, .int (nI (ss))), (2, .int (nI (mm))), (3, .int (nI (ww))), (5, .int (nI (i_13)))]) dX5_ages_93 (by decide) rfl ?_
          have hag := s_age_p (f := f) (wv := wv) (vs := I 10) (ds := I 27) (nh := nh) (own := own) (now := now) (σ := I 24) (a := ss) (n := i_13) c_46
          refine z_iinc (v := nI (i_13 + 1)) (lv' := [(5, .int (nI (i_13 + 1))), (4, .int x_66), (0, .ref (L 99)), (1, .int (nI (ss))), (2, .int (nI (mm))), (3, .int (nI (ww)))]) 5 dX5_ages_95 rfl (nI_1 _) (by decide) rfl ?_
          refine z_goto 59 dX5_ages_98 (by decide) ?_
          have f_67 : x_66 = (s_age f wv (I 10) (I 27) nh nd own now (I 24) ss (i_13 + 1)).2.2 := by (try subst ex_66); rw [hag] <;> rfl
          subst f_67
          refine z_lv (lv' := [(0, .ref (L 99)), (1, .int (nI (ss))), (2, .int (nI (mm))), (3, .int (nI (ww))), (4, .int ((s_age f wv (I 10) (I 27) nh nd own now (I 24) ss (i_13 + 1)).2.2)), (5, .int (nI (i_13 + 1)))]) [2, 3, 4, 5, 1, 0] rfl ?_
          refine z_X (X' := (tX g L (tput (tco (zs I 99 0 0) ((s_pass wv (I 10) (I 27) nh nd own (now + i_13) ((s_deed f (I 10) nh nd (s_age f wv (I 10) (I 27) nh nd own now (I 24) ss i_13).1 (s_age f wv (I 10) (I 27) nh nd own now (I 24) ss i_13).2.1).1)).2.1) ((s_pass wv (I 10) (I 27) nh nd own (now + i_13) ((s_deed f (I 10) nh nd (s_age f wv (I 10) (I 27) nh nd own now (I 24) ss i_13).1 (s_age f wv (I 10) (I 27) nh nd own now (I 24) ss i_13).2.1).1)).2.2)) 1034 ((s_age f wv (I 10) (I 27) nh nd own now (I 24) ss (i_13 + 1)).1)) (zs J 99 31 (lN ((s_age f wv (I 10) (I 27) nh nd own now (I 24) ss (i_13 + 1)).2.1))) Gb_59 X)) (by (try subst ex_66); rw [hag] <;> rfl) ?_
          exact ih_15 (i_13 + 1) (by omega) (by omega) _ _ _ 
    have f_68 : 0 = (s_age f wv (I 10) (I 27) nh nd own now (I 24) ss 0).2.2 := by rfl
    refine z_lv (lv' := [(0, .ref (L 99)), (1, .int (nI (ss))), (2, .int (nI (mm))), (3, .int (nI (ww))), (4, .int ((s_age f wv (I 10) (I 27) nh nd own now (I 24) ss 0).2.2)), (5, .int 0)]) [2, 3, 4, 5, 1, 0] (by rw [← f_68]; rfl) ?_
    refine z_X (X' := (tX g L (tput (tco (zs I 99 0 0) (I 99 28) (I 99 29)) 1034 ((s_age f wv (I 10) (I 27) nh nd own now (I 24) ss 0).1)) (zs J 99 31 (lN ((s_age f wv (I 10) (I 27) nh nd own now (I 24) ss 0).2.1))) Gb X)) (by rfl) ?_
    exact loop_17 (mm - 0) 0 (by omega) (Nat.le_refl _) _ _ _ 
  · have hv := zb_not hv
    refine z_iload_n 1 dX5_ages_5 rfl ?_
    refine z_iconst (v := 0) dX5_ages_6 (by decide) ?_
    refine z_sipush (v := 9999) dX5_ages_7 (by decide) ?_
    refine z_callS (As := [.int s, .int 0, .int 9999]) (t_within s 0 9999) q1771 q1772 q121 q1773 nm_X5_within rfl (Nat.le_of_ble_eq_true rfl) ⟨Nat.le_of_ble_eq_true rfl, Nat.le_of_ble_eq_true rfl⟩ dX5_ages_10 rfl rfl (Nat.le_of_ble_eq_true rfl) (Nat.le_of_ble_eq_true rfl) (fun v_69 X_70 hp_71 => ?_)
    obtain ⟨rfl, rfl⟩ := hp_71
    refine z_st (st' := [.int (zb (decide (0 ≤ s) && decide (s ≤ 9999)))]) rfl ?_
    refine z_if_eqb 35 dX5_ages_13 (by decide) (fun c_72 => ?_) (fun c_72 => ?_)
    · -- decide (0 ≤ s) && decide (s ≤ 9999) = false
      refine z_iconst (v := zm1) dX5_ages_35 (by decide) ?_
      exact z_iret dX5_ages_36 rfl (Nat.le_of_ble_eq_true rfl) (Nat.le_of_ble_eq_true rfl) ⟨congrArg some (congrArg Value.int (by rw [if_neg (by rw [hv]; decide)])), (zs I 99 0 0), J 99 31, Gb, by rw [zs_self], (tobs_zs tobs_rf rfl), rfl⟩
    · -- decide (0 ≤ s) && decide (s ≤ 9999) = true
      refine z_iload_n 2 dX5_ages_16 rfl ?_
      refine z_iconst (v := 1) dX5_ages_17 (by decide) ?_
      refine z_bipush (v := 99) dX5_ages_18 (by decide) ?_
      refine z_callS (As := [.int m, .int 1, .int 99]) (t_within m 1 99) q1771 q1772 q121 q1773 nm_X5_within rfl (Nat.le_of_ble_eq_true rfl) ⟨Nat.le_of_ble_eq_true rfl, Nat.le_of_ble_eq_true rfl⟩ dX5_ages_20 rfl rfl (Nat.le_of_ble_eq_true rfl) (Nat.le_of_ble_eq_true rfl) (fun v_73 X_74 hp_75 => ?_)
      obtain ⟨rfl, rfl⟩ := hp_75
      refine z_st (st' := [.int (zb (decide (1 ≤ m) && decide (m ≤ 99)))]) rfl ?_
      refine z_if_eqb 35 dX5_ages_23 (by decide) (fun c_76 => ?_) (fun c_76 => ?_)
      · -- decide (1 ≤ m) && decide (m ≤ 99) = false
        refine z_iconst (v := zm1) dX5_ages_35 (by decide) ?_
        exact z_iret dX5_ages_36 rfl (Nat.le_of_ble_eq_true rfl) (Nat.le_of_ble_eq_true rfl) ⟨congrArg some (congrArg Value.int (by rw [if_neg (by rw [hv]; decide)])), (zs I 99 0 0), J 99 31, Gb, by rw [zs_self], (tobs_zs tobs_rf rfl), rfl⟩
      · -- decide (1 ≤ m) && decide (m ≤ 99) = true
        refine z_iload_n 3 dX5_ages_26 rfl ?_
        refine z_iconst (v := 0) dX5_ages_27 (by decide) ?_
        refine z_iconst (v := 2) dX5_ages_28 (by decide) ?_
        refine z_callS (As := [.int w, .int 0, .int 2]) (t_within w 0 2) q1771 q1772 q121 q1773 nm_X5_within rfl (Nat.le_of_ble_eq_true rfl) ⟨Nat.le_of_ble_eq_true rfl, Nat.le_of_ble_eq_true rfl⟩ dX5_ages_29 rfl rfl (Nat.le_of_ble_eq_true rfl) (Nat.le_of_ble_eq_true rfl) (fun v_77 X_78 hp_79 => ?_)
        obtain ⟨rfl, rfl⟩ := hp_79
        refine z_st (st' := [.int (zb (decide (0 ≤ w) && decide (w ≤ 2)))]) rfl ?_
        refine z_if_neb 37 dX5_ages_32 (by decide) (fun c_80 => absurd c_80 (fun h9 => by (try rw [c_72] at hv); (try rw [c_76] at hv); rw [h9] at hv; exact absurd hv (by decide))) (fun c_80 => ?_)
        refine z_iconst (v := zm1) dX5_ages_35 (by decide) ?_
        exact z_iret dX5_ages_36 rfl (Nat.le_of_ble_eq_true rfl) (Nat.le_of_ble_eq_true rfl) ⟨congrArg some (congrArg Value.int (by rw [if_neg (by rw [hv]; decide)])), (zs I 99 0 0), J 99 31, Gb, by rw [zs_self], (tobs_zs tobs_rf rfl), rfl⟩
set_option maxHeartbeats 4000000 in
theorem t_chance {g : zG} {L : Nat → Nat} {I : Nat → Nat → Int32} {J : Nat → Nat → Int64} {Gb : Nat → Nat → Int32} {X : zX} (hL : tok g L) {nh nd : Nat} {own : Nat → Nat} (hV : s_ok (I 10) nh nd own) {wv : Int32 → Int32 → Int32 → Int32 → Int32} (hlaw : s_law (I 10) (I 11) (I 12) wv) {now : Nat} (hw : I 24 0 = nI now) (hw2 : now < 2 ^ 29) (d m od : Int32) : zN g m_X5_chance ({ frames := 7, cells := 0, slots := 0, locals := 161 } : Room) [.ref (L 99), .int d, .int m, .int od] (tX g L I J Gb X) (fun rv X' => rv = some (.int (if (((decide (0 ≤ d) && decide (d < nI nd)) && (decide (1 ≤ m) && decide (m ≤ 6))) && (decide (0 ≤ od) && decide (od ≤ 10))) = true then (s_chs (fun k => ((s_ch wv (I 10) (I 27) nh nd own now od (nI k) (I 24) m.toNatClampNeg).2.1, (s_ch wv (I 10) (I 27) nh nd own now od (nI k) (I 24) m.toNatClampNeg).2.2)) d.toNatClampNeg (2 ^ m.toNatClampNeg) * 1000000 / s_p10 m.toNatClampNeg).toInt32 else zm1)) ∧ ∃ (I' : Nat → Nat → Int32) (Gb' : Nat → Nat → Int32), X' = tX g L I' J Gb' X ∧ tobs I I' ∧ I' 99 0 = 0) := by
  refine zN.of (by decide +kernel) (Nat.le_of_ble_eq_true rfl) rfl ?_
  refine z_lv (lv' := [(0, .ref (L 99)), (1, .int d), (2, .int m), (3, .int od)]) [0, 1, 2, 3] rfl ?_
  have hV9 := hV
  obtain ⟨h0, hnh, h1, hnd, hown⟩ := hV9
  refine z_aload_n 0 dX5_chance_0 rfl ?_
  refine z_iconst (v := 0) dX5_chance_1 (by decide) ?_
  refine tz_put (I' := (zs I 99 0 0)) 0 hL (by decide) q1593 rfl dX5_chance_2 ?_
  refine z_X (X' := (tX g L (tput (tco (zs I 99 0 0) (I 99 28) (I 99 29)) 987 (s_tau I)) J Gb X)) (by show tX g L (zs I 99 0 0) J Gb X = (tX g L (tput (tco (zs I 99 0 0) (I 99 28) (I 99 29)) 987 (s_tau I)) J Gb X); rw [show tput (tco (zs I 99 0 0) (I 99 28) (I 99 29)) 987 (s_tau I) = tco (zs I 99 0 0) (I 99 28) (I 99 29) from tput_tau (I := tco (zs I 99 0 0) (I 99 28) (I 99 29))]; exact congrArg (fun z => tX g L z J Gb X) (tco_self (I := (zs I 99 0 0))).symm) ?_
  by_cases hv : (((decide (0 ≤ d) && decide (d < nI nd)) && (decide (1 ≤ m) && decide (m ≤ 6))) && (decide (0 ≤ od) && decide (od ≤ 10))) = true
  · skip
    obtain ⟨hv12, hv3⟩ := Bool.and_eq_true_iff.mp hv
    obtain ⟨hv1, hv2⟩ := Bool.and_eq_true_iff.mp hv12
    obtain ⟨dd, hdd, e_d⟩ := zday (by omega) hv1
    obtain ⟨mm, hmm1, hmm, e_m⟩ := zwin 1 6 (by decide) hv2
    subst e_d
    subst e_m
    refine z_aload_n 0 dX5_chance_5 rfl ?_
    refine z_iload_n 1 dX5_chance_6 rfl ?_
    refine z_callV (As := [.int (nI (dd))]) (t_isDay (I := (tput (tco (zs I 99 0 0) (I 99 28) (I 99 29)) 987 (s_tau I))) hL h1 (nI (dd))) q1850 q1852 qs89 q121 q1853 nm_X5_isDay (tX_obj hL) rfl rfl rfl (Nat.le_of_ble_eq_true rfl) ⟨Nat.le_of_ble_eq_true rfl, Nat.le_of_ble_eq_true rfl⟩ dX5_chance_7 rfl rfl (Nat.le_of_ble_eq_true rfl) (Nat.le_of_ble_eq_true rfl) (fun v_1 X_2 hp_3 => ?_)
    obtain ⟨rfl, rfl⟩ := hp_3
    refine z_st (st' := [.int (zb (decide (0 ≤ nI (dd)) && decide (nI (dd) < nI nd)))]) rfl ?_
    refine z_eq (y := 1) (zb_t (zday_t (by omega) (by omega))) ?_
    refine z_if_eq 33 dX5_chance_10 (by decide) (fun h_ => absurd h_ (by decide)) (fun h_ => ?_)
    refine z_iload_n 2 dX5_chance_13 rfl ?_
    refine z_iconst (v := 1) dX5_chance_14 (by decide) ?_
    refine z_bipush (v := 6) dX5_chance_15 (by decide) ?_
    refine z_callS (As := [.int (nI (mm)), .int 1, .int 6]) (t_within (nI (mm)) 1 6) q1771 q1772 q121 q1773 nm_X5_within rfl (Nat.le_of_ble_eq_true rfl) ⟨Nat.le_of_ble_eq_true rfl, Nat.le_of_ble_eq_true rfl⟩ dX5_chance_17 rfl rfl (Nat.le_of_ble_eq_true rfl) (Nat.le_of_ble_eq_true rfl) (fun v_4 X_5 hp_6 => ?_)
    obtain ⟨rfl, rfl⟩ := hp_6
    refine z_st (st' := [.int (zb (decide (1 ≤ nI (mm)) && decide (nI (mm) ≤ 6)))]) rfl ?_
    refine z_eq (y := 1) (zb_t (zwin_t hmm1 hmm (by decide))) ?_
    refine z_if_eq 33 dX5_chance_20 (by decide) (fun h_ => absurd h_ (by decide)) (fun h_ => ?_)
    refine z_iload_n 3 dX5_chance_23 rfl ?_
    refine z_iconst (v := 0) dX5_chance_24 (by decide) ?_
    refine z_bipush (v := 10) dX5_chance_25 (by decide) ?_
    refine z_callS (As := [.int od, .int 0, .int 10]) (t_within od 0 10) q1771 q1772 q121 q1773 nm_X5_within rfl (Nat.le_of_ble_eq_true rfl) ⟨Nat.le_of_ble_eq_true rfl, Nat.le_of_ble_eq_true rfl⟩ dX5_chance_27 rfl rfl (Nat.le_of_ble_eq_true rfl) (Nat.le_of_ble_eq_true rfl) (fun v_7 X_8 hp_9 => ?_)
    obtain ⟨rfl, rfl⟩ := hp_9
    refine z_st (st' := [.int (zb (decide (0 ≤ od) && decide (od ≤ 10)))]) rfl ?_
    refine z_eq (y := 1) (zb_t hv3) ?_
    refine z_if_ne 35 dX5_chance_30 (by decide) (fun h_ => ?_) (fun h_ => absurd h_ (by decide))
    refine z_lconst (v := 1) dX5_chance_35 (by decide) ?_
    refine z_lstore (lv' := [(4, .long 1), (0, .ref (L 99)), (1, .int (nI (dd))), (2, .int (nI (mm))), (3, .int od)]) dX5_chance_36 (by decide) rfl ?_
    refine z_lconst (v := 0) dX5_chance_38 (by decide) ?_
    refine z_lstore (lv' := [(6, .long 0), (4, .long 1), (0, .ref (L 99)), (1, .int (nI (dd))), (2, .int (nI (mm))), (3, .int od)]) dX5_chance_39 (by decide) rfl ?_
    refine z_iconst (v := 0) dX5_chance_41 (by decide) ?_
    refine z_istore (lv' := [(8, .int 0), (6, .long 0), (4, .long 1), (0, .ref (L 99)), (1, .int (nI (dd))), (2, .int (nI (mm))), (3, .int od)]) dX5_chance_42 (by decide) rfl ?_
    have loop_14 : ∀ (q_11 i_10 : Nat), i_10 + q_11 = mm → 0 ≤ i_10 → zZ g m_X5_chance (fun rv X' => rv = some (.int (if (((decide (0 ≤ (nI (dd))) && decide ((nI (dd)) < nI nd)) && (decide (1 ≤ (nI (mm))) && decide ((nI (mm)) ≤ 6))) && (decide (0 ≤ od) && decide (od ≤ 10))) = true then (s_chs (fun k => ((s_ch wv (I 10) (I 27) nh nd own now od (nI k) (I 24) (nI (mm)).toNatClampNeg).2.1, (s_ch wv (I 10) (I 27) nh nd own now od (nI k) (I 24) (nI (mm)).toNatClampNeg).2.2)) (nI (dd)).toNatClampNeg (2 ^ (nI (mm)).toNatClampNeg) * 1000000 / s_p10 (nI (mm)).toNatClampNeg).toInt32 else zm1)) ∧ ∃ (I' : Nat → Nat → Int32) (Gb' : Nat → Nat → Int32), X' = tX g L I' J Gb' X ∧ tobs I I' ∧ I' 99 0 = 0, zno, ({ frames := 7, cells := 0, slots := 0, locals := 161 } : Room)) 0 0 (tX g L (tput (tco (zs I 99 0 0) (I 99 28) (I 99 29)) 987 (s_tau I)) J Gb X) 44 [(0, .ref (L 99)), (1, .int (nI (dd))), (2, .int (nI (mm))), (3, .int od), (4, .long (s_p10 i_10)), (6, .long 0), (8, .int (nI (i_10)))] [] := by
      intro q_11
      induction q_11 with
      | zero =>
        intro i_10 hb_13 lo_15  
        obtain rfl : mm = i_10 := by omega
        refine z_iload 6 dX5_chance_44 rfl ?_
        refine z_iload_n 2 dX5_chance_46 rfl ?_
        refine z_icmp_geN (a := mm) (b := mm) 64 (by omega) (by omega) dX5_chance_47 (by decide) (fun c_16 => ?_) (fun c_16 => absurd c_16 (by omega))
        obtain ⟨pw, hpw⟩ : ∃ p, 2 ^ mm = p := ⟨_, rfl⟩
        have hpw2 : pw ≤ 64 := hpw ▸ pow2_le mm hmm
        have epw : (1 : Int32) <<< (nI mm &&& 31) = nI pw := by rw [← hpw]; exact s_pow2 mm hmm
        refine z_iconst (v := 0) dX5_chance_64 (by decide) ?_
        refine z_istore (lv' := [(8, .int 0), (0, .ref (L 99)), (1, .int (nI (dd))), (2, .int (nI (mm))), (3, .int od), (4, .long (s_p10 mm)), (6, .long 0)]) dX5_chance_65 (by decide) rfl ?_
        have loop_21 : ∀ (q_18 i_17 : Nat), i_17 + q_18 = pw → 0 ≤ i_17 → ∀ (Gb_22 : Nat → Nat → Int32), ∀ (c_23 : Int32), ∀ (o_24 : Int32), ∀ (t_25 : Nat → Int32), zZ g m_X5_chance (fun rv X' => rv = some (.int (if (((decide (0 ≤ (nI (dd))) && decide ((nI (dd)) < nI nd)) && (decide (1 ≤ (nI (mm))) && decide ((nI (mm)) ≤ 6))) && (decide (0 ≤ od) && decide (od ≤ 10))) = true then (s_chs (fun k => ((s_ch wv (I 10) (I 27) nh nd own now od (nI k) (I 24) (nI (mm)).toNatClampNeg).2.1, (s_ch wv (I 10) (I 27) nh nd own now od (nI k) (I 24) (nI (mm)).toNatClampNeg).2.2)) (nI (dd)).toNatClampNeg (2 ^ (nI (mm)).toNatClampNeg) * 1000000 / s_p10 (nI (mm)).toNatClampNeg).toInt32 else zm1)) ∧ ∃ (I' : Nat → Nat → Int32) (Gb' : Nat → Nat → Int32), X' = tX g L I' J Gb' X ∧ tobs I I' ∧ I' 99 0 = 0, zno, ({ frames := 7, cells := 0, slots := 0, locals := 161 } : Room)) 0 0 (tX g L (tput (tco (zs I 99 0 0) c_23 o_24) 987 t_25) J Gb_22 X) 67 [(0, .ref (L 99)), (1, .int (nI (dd))), (2, .int (nI (mm))), (3, .int od), (4, .long (s_p10 mm)), (6, .long (s_chs (fun k => ((s_ch wv (I 10) (I 27) nh nd own now od (nI k) (I 24) mm).2.1, (s_ch wv (I 10) (I 27) nh nd own now od (nI k) (I 24) mm).2.2)) dd i_17)), (8, .int (nI (i_17)))] [] := by
          intro q_18
          induction q_18 with
          | zero =>
            intro i_17 hb_20 lo_26 Gb_22 c_23 o_24 t_25 
            obtain rfl : pw = i_17 := by omega
            refine z_iload 6 dX5_chance_67 rfl ?_
            refine z_iconst (v := 1) dX5_chance_69 (by decide) ?_
            refine z_iload_n 2 dX5_chance_70 rfl ?_
            refine z_ishl dX5_chance_71 ?_
            refine z_eq (y := nI (pw)) epw ?_
            refine z_icmp_geN (a := pw) (b := pw) 213 (by omega) (by omega) dX5_chance_72 (by decide) (fun c_27 => ?_) (fun c_27 => absurd c_27 (by omega))
            refine z_lload 5 dX5_chance_213 rfl ?_
            refine z_ldc2 q2032 dX5_chance_215 ?_
            refine z_lmul dX5_chance_218 ?_
            refine z_lload 4 dX5_chance_219 rfl ?_
            refine z_ldiv dX5_chance_221 (by exact s_p10_n mm hmm) ?_
            refine z_l2i (v := ((s_chs (fun k => ((s_ch wv (I 10) (I 27) nh nd own now od (nI k) (I 24) mm).2.1, (s_ch wv (I 10) (I 27) nh nd own now od (nI k) (I 24) mm).2.2)) dd pw * 1000000) / s_p10 mm).toInt32) dX5_chance_222 rfl ?_
            exact z_iret dX5_chance_223 rfl (Nat.le_of_ble_eq_true rfl) (Nat.le_of_ble_eq_true rfl) ⟨congrArg some (congrArg Value.int (by rw [if_pos hv, ncl (by omega), ncl (by omega), hpw])), (tput (tco (zs I 99 0 0) c_23 o_24) 987 t_25), Gb_22, rfl, (tobs_put (tobs_co (tobs_zs tobs_rf rfl)) (by decide)), rfl⟩
          | succ q_18 ih_19 =>
            intro i_17 hb_20 lo_26 Gb_22 c_23 o_24 t_25 
            refine z_iload 6 dX5_chance_67 rfl ?_
            refine z_iconst (v := 1) dX5_chance_69 (by decide) ?_
            refine z_iload_n 2 dX5_chance_70 rfl ?_
            refine z_ishl dX5_chance_71 ?_
            refine z_eq (y := nI (pw)) epw ?_
            refine z_icmp_geN (a := i_17) (b := pw) 213 (by omega) (by omega) dX5_chance_72 (by decide) (fun c_28 => absurd c_28 (by omega)) (fun c_28 => ?_)
            refine z_aload_n 0 dX5_chance_75 rfl ?_
            refine z_callV (As := []) (t_triesNow (I := (tco (zs I 99 0 0) c_23 o_24)) (τ := t_25) hL) q1928 q1930 qs100 q121 q1931 nm_X5_triesNow (tX_obj hL) rfl rfl rfl (Nat.le_of_ble_eq_true rfl) ⟨Nat.le_of_ble_eq_true rfl, Nat.le_of_ble_eq_true rfl⟩ dX5_chance_76 rfl rfl (Nat.le_of_ble_eq_true rfl) (Nat.le_of_ble_eq_true rfl) (fun v_29 X_30 hp_31 => ?_)
            obtain ⟨rfl, rfl⟩ := hp_31
            refine z_st (st' := []) rfl ?_
            refine z_lconst (v := 1) dX5_chance_79 (by decide) ?_
            refine z_lstore (lv' := [(9, .long 1), (0, .ref (L 99)), (1, .int (nI (dd))), (2, .int (nI (mm))), (3, .int od), (4, .long (s_p10 mm)), (6, .long (s_chs (fun k => ((s_ch wv (I 10) (I 27) nh nd own now od (nI k) (I 24) mm).2.1, (s_ch wv (I 10) (I 27) nh nd own now od (nI k) (I 24) mm).2.2)) dd i_17)), (8, .int (nI (i_17)))]) dX5_chance_80 (by decide) rfl ?_
            refine z_iconst (v := 0) dX5_chance_82 (by decide) ?_
            refine z_istore (lv' := [(11, .int 0), (9, .long 1), (0, .ref (L 99)), (1, .int (nI (dd))), (2, .int (nI (mm))), (3, .int od), (4, .long (s_p10 mm)), (6, .long (s_chs (fun k => ((s_ch wv (I 10) (I 27) nh nd own now od (nI k) (I 24) mm).2.1, (s_ch wv (I 10) (I 27) nh nd own now od (nI k) (I 24) mm).2.2)) dd i_17)), (8, .int (nI (i_17)))]) dX5_chance_83 (by decide) rfl ?_
            refine z_iconst (v := 0) dX5_chance_85 (by decide) ?_
            refine z_istore (lv' := [(12, .int 0), (11, .int 0), (9, .long 1), (0, .ref (L 99)), (1, .int (nI (dd))), (2, .int (nI (mm))), (3, .int od), (4, .long (s_p10 mm)), (6, .long (s_chs (fun k => ((s_ch wv (I 10) (I 27) nh nd own now od (nI k) (I 24) mm).2.1, (s_ch wv (I 10) (I 27) nh nd own now od (nI k) (I 24) mm).2.2)) dd i_17)), (8, .int (nI (i_17)))]) dX5_chance_86 (by decide) rfl ?_
            have loop_36 : ∀ (q_33 i_32 : Nat), i_32 + q_33 = mm → 0 ≤ i_32 → ∀ (Gb_37 : Nat → Nat → Int32), ∀ (c_38 : Int32), ∀ (o_39 : Int32), zZ g m_X5_chance (fun rv X' => rv = some (.int (if (((decide (0 ≤ (nI (dd))) && decide ((nI (dd)) < nI nd)) && (decide (1 ≤ (nI (mm))) && decide ((nI (mm)) ≤ 6))) && (decide (0 ≤ od) && decide (od ≤ 10))) = true then (s_chs (fun k => ((s_ch wv (I 10) (I 27) nh nd own now od (nI k) (I 24) (nI (mm)).toNatClampNeg).2.1, (s_ch wv (I 10) (I 27) nh nd own now od (nI k) (I 24) (nI (mm)).toNatClampNeg).2.2)) (nI (dd)).toNatClampNeg (2 ^ (nI (mm)).toNatClampNeg) * 1000000 / s_p10 (nI (mm)).toNatClampNeg).toInt32 else zm1)) ∧ ∃ (I' : Nat → Nat → Int32) (Gb' : Nat → Nat → Int32), X' = tX g L I' J Gb' X ∧ tobs I I' ∧ I' 99 0 = 0, zno, ({ frames := 7, cells := 0, slots := 0, locals := 161 } : Room)) 0 0 (tX g L (tput (tco (zs I 99 0 0) c_38 o_39) 987 ((s_ch wv (I 10) (I 27) nh nd own now od (nI i_17) (I 24) i_32).1)) J Gb_37 X) 88 [(0, .ref (L 99)), (1, .int (nI (dd))), (2, .int (nI (mm))), (3, .int od), (4, .long (s_p10 mm)), (6, .long (s_chs (fun k => ((s_ch wv (I 10) (I 27) nh nd own now od (nI k) (I 24) mm).2.1, (s_ch wv (I 10) (I 27) nh nd own now od (nI k) (I 24) mm).2.2)) dd i_17)), (8, .int (nI (i_17))), (9, .long ((s_ch wv (I 10) (I 27) nh nd own now od (nI i_17) (I 24) i_32).2.1)), (11, .int ((s_ch wv (I 10) (I 27) nh nd own now od (nI i_17) (I 24) i_32).2.2)), (12, .int (nI (i_32)))] [] := by
              intro q_33
              induction q_33 with
              | zero =>
                intro i_32 hb_35 lo_40 Gb_37 c_38 o_39 
                obtain rfl : mm = i_32 := by omega
                refine z_iload 9 dX5_chance_88 rfl ?_
                refine z_iload_n 2 dX5_chance_90 rfl ?_
                refine z_icmp_geN (a := mm) (b := mm) 186 (by omega) (by omega) dX5_chance_91 (by decide) (fun c_41 => ?_) (fun c_41 => absurd c_41 (by omega))
                refine z_lload 5 dX5_chance_186 rfl ?_
                refine z_iload 8 dX5_chance_188 rfl ?_
                refine z_iload_n 1 dX5_chance_190 rfl ?_
                refine z_ishr dX5_chance_191 ?_
                refine z_iconst (v := 1) dX5_chance_192 (by decide) ?_
                refine z_iand dX5_chance_193 ?_
                refine z_iconst (v := 1) dX5_chance_194 (by decide) ?_
                refine z_icmp_ne 203 dX5_chance_195 (by decide) (fun c_42 => ?_) (fun c_42 => ?_)
                · -- ¬ ((((s_ch wv (I 10) (I 27) nh nd own now od (nI i_17) (I 24) mm).2.2) >>> ((nI (dd)) &&& 31)) &&& 1) = 1
                  refine z_lconst (v := 0) dX5_chance_203 (by decide) ?_
                  refine z_ladd dX5_chance_204 ?_
                  refine z_lstore (lv' := [(6, .long (s_chs (fun k => ((s_ch wv (I 10) (I 27) nh nd own now od (nI k) (I 24) mm).2.1, (s_ch wv (I 10) (I 27) nh nd own now od (nI k) (I 24) mm).2.2)) dd i_17 + 0)), (0, .ref (L 99)), (1, .int (nI (dd))), (2, .int (nI (mm))), (3, .int od), (4, .long (s_p10 mm)), (8, .int (nI (i_17))), (9, .long ((s_ch wv (I 10) (I 27) nh nd own now od (nI i_17) (I 24) mm).2.1)), (11, .int ((s_ch wv (I 10) (I 27) nh nd own now od (nI i_17) (I 24) mm).2.2)), (12, .int (nI (mm)))]) dX5_chance_205 (by decide) rfl ?_
                  refine z_iinc (v := nI (i_17 + 1)) (lv' := [(8, .int (nI (i_17 + 1))), (6, .long (s_chs (fun k => ((s_ch wv (I 10) (I 27) nh nd own now od (nI k) (I 24) mm).2.1, (s_ch wv (I 10) (I 27) nh nd own now od (nI k) (I 24) mm).2.2)) dd i_17 + 0)), (0, .ref (L 99)), (1, .int (nI (dd))), (2, .int (nI (mm))), (3, .int od), (4, .long (s_p10 mm)), (9, .long ((s_ch wv (I 10) (I 27) nh nd own now od (nI i_17) (I 24) mm).2.1)), (11, .int ((s_ch wv (I 10) (I 27) nh nd own now od (nI i_17) (I 24) mm).2.2)), (12, .int (nI (mm)))]) 6 dX5_chance_207 rfl (nI_1 _) (by decide) rfl ?_
                  refine z_goto 67 dX5_chance_210 (by decide) ?_
                  have f_43 : (s_chs (fun k => ((s_ch wv (I 10) (I 27) nh nd own now od (nI k) (I 24) mm).2.1, (s_ch wv (I 10) (I 27) nh nd own now od (nI k) (I 24) mm).2.2)) dd i_17 + 0) = s_chs (fun k => ((s_ch wv (I 10) (I 27) nh nd own now od (nI k) (I 24) mm).2.1, (s_ch wv (I 10) (I 27) nh nd own now od (nI k) (I 24) mm).2.2)) dd (i_17 + 1) := by simp [s_chs, s_isBit, c_42]
                  refine z_lv (lv' := [(0, .ref (L 99)), (1, .int (nI (dd))), (2, .int (nI (mm))), (3, .int od), (4, .long (s_p10 mm)), (6, .long (s_chs (fun k => ((s_ch wv (I 10) (I 27) nh nd own now od (nI k) (I 24) mm).2.1, (s_ch wv (I 10) (I 27) nh nd own now od (nI k) (I 24) mm).2.2)) dd (i_17 + 1))), (8, .int (nI (i_17 + 1)))]) [2, 3, 4, 5, 6, 1, 0] (by rw [← f_43]; rfl) ?_
                  exact ih_19 (i_17 + 1) (by omega) (by omega) _ _ _ _ 
                · -- ((((s_ch wv (I 10) (I 27) nh nd own now od (nI i_17) (I 24) mm).2.2) >>> ((nI (dd)) &&& 31)) &&& 1) = 1
                  refine z_lload 7 dX5_chance_198 rfl ?_
                  refine z_goto 204 dX5_chance_200 (by decide) ?_
                  refine z_ladd dX5_chance_204 ?_
                  refine z_lstore (lv' := [(6, .long (s_chs (fun k => ((s_ch wv (I 10) (I 27) nh nd own now od (nI k) (I 24) mm).2.1, (s_ch wv (I 10) (I 27) nh nd own now od (nI k) (I 24) mm).2.2)) dd i_17 + (s_ch wv (I 10) (I 27) nh nd own now od (nI i_17) (I 24) mm).2.1)), (0, .ref (L 99)), (1, .int (nI (dd))), (2, .int (nI (mm))), (3, .int od), (4, .long (s_p10 mm)), (8, .int (nI (i_17))), (9, .long ((s_ch wv (I 10) (I 27) nh nd own now od (nI i_17) (I 24) mm).2.1)), (11, .int ((s_ch wv (I 10) (I 27) nh nd own now od (nI i_17) (I 24) mm).2.2)), (12, .int (nI (mm)))]) dX5_chance_205 (by decide) rfl ?_
                  refine z_iinc (v := nI (i_17 + 1)) (lv' := [(8, .int (nI (i_17 + 1))), (6, .long (s_chs (fun k => ((s_ch wv (I 10) (I 27) nh nd own now od (nI k) (I 24) mm).2.1, (s_ch wv (I 10) (I 27) nh nd own now od (nI k) (I 24) mm).2.2)) dd i_17 + (s_ch wv (I 10) (I 27) nh nd own now od (nI i_17) (I 24) mm).2.1)), (0, .ref (L 99)), (1, .int (nI (dd))), (2, .int (nI (mm))), (3, .int od), (4, .long (s_p10 mm)), (9, .long ((s_ch wv (I 10) (I 27) nh nd own now od (nI i_17) (I 24) mm).2.1)), (11, .int ((s_ch wv (I 10) (I 27) nh nd own now od (nI i_17) (I 24) mm).2.2)), (12, .int (nI (mm)))]) 6 dX5_chance_207 rfl (nI_1 _) (by decide) rfl ?_
                  refine z_goto 67 dX5_chance_210 (by decide) ?_
                  have f_44 : (s_chs (fun k => ((s_ch wv (I 10) (I 27) nh nd own now od (nI k) (I 24) mm).2.1, (s_ch wv (I 10) (I 27) nh nd own now od (nI k) (I 24) mm).2.2)) dd i_17 + (s_ch wv (I 10) (I 27) nh nd own now od (nI i_17) (I 24) mm).2.1) = s_chs (fun k => ((s_ch wv (I 10) (I 27) nh nd own now od (nI k) (I 24) mm).2.1, (s_ch wv (I 10) (I 27) nh nd own now od (nI k) (I 24) mm).2.2)) dd (i_17 + 1) := by simp [s_chs, s_isBit, c_42]
                  refine z_lv (lv' := [(0, .ref (L 99)), (1, .int (nI (dd))), (2, .int (nI (mm))), (3, .int od), (4, .long (s_p10 mm)), (6, .long (s_chs (fun k => ((s_ch wv (I 10) (I 27) nh nd own now od (nI k) (I 24) mm).2.1, (s_ch wv (I 10) (I 27) nh nd own now od (nI k) (I 24) mm).2.2)) dd (i_17 + 1))), (8, .int (nI (i_17 + 1)))]) [2, 3, 4, 5, 6, 1, 0] (by rw [← f_44]; rfl) ?_
                  exact ih_19 (i_17 + 1) (by omega) (by omega) _ _ _ _ 
              | succ q_33 ih_34 =>
                intro i_32 hb_35 lo_40 Gb_37 c_38 o_39 
                refine z_iload 9 dX5_chance_88 rfl ?_
                refine z_iload_n 2 dX5_chance_90 rfl ?_
                refine z_icmp_geN (a := i_32) (b := mm) 186 (by omega) (by omega) dX5_chance_91 (by decide) (fun c_45 => absurd c_45 (by omega)) (fun c_45 => ?_)
                refine z_iload 6 dX5_chance_94 rfl ?_
                refine z_iload 9 dX5_chance_96 rfl ?_
                refine z_ishr dX5_chance_98 ?_
                refine z_iconst (v := 1) dX5_chance_99 (by decide) ?_
                refine z_iand dX5_chance_100 ?_
                refine z_iconst (v := 1) dX5_chance_101 (by decide) ?_
                refine z_icmp_ne 109 dX5_chance_102 (by decide) (fun c_46 => ?_) (fun c_46 => ?_)
                · -- ¬ (((nI (i_17)) >>> ((nI (i_32)) &&& 31)) &&& 1) = 1
                  refine z_iconst (v := 0) dX5_chance_109 (by decide) ?_
                  refine z_istore (lv' := [(13, .int 0), (0, .ref (L 99)), (1, .int (nI (dd))), (2, .int (nI (mm))), (3, .int od), (4, .long (s_p10 mm)), (6, .long (s_chs (fun k => ((s_ch wv (I 10) (I 27) nh nd own now od (nI k) (I 24) mm).2.1, (s_ch wv (I 10) (I 27) nh nd own now od (nI k) (I 24) mm).2.2)) dd i_17)), (8, .int (nI (i_17))), (9, .long ((s_ch wv (I 10) (I 27) nh nd own now od (nI i_17) (I 24) i_32).2.1)), (11, .int ((s_ch wv (I 10) (I 27) nh nd own now od (nI i_17) (I 24) i_32).2.2)), (12, .int (nI (i_32)))]) dX5_chance_110 (by decide) rfl ?_
                  refine z_lload 8 dX5_chance_112 rfl ?_
                  refine z_iload 0 dX5_chance_114 rfl ?_
                  refine z_if_eq 124 dX5_chance_116 (by decide) (fun h_ => ?_) (fun h_ => absurd h_ (by decide))
                  refine z_bipush (v := 10) dX5_chance_124 (by decide) ?_
                  refine z_iload_n 4 dX5_chance_126 rfl ?_
                  refine z_isub dX5_chance_127 ?_
                  refine z_i2l (v := (10 - od).toInt64) dX5_chance_128 rfl ?_
                  refine z_lmul dX5_chance_129 ?_
                  refine z_lstore (lv' := [(9, .long ((s_ch wv (I 10) (I 27) nh nd own now od (nI i_17) (I 24) i_32).2.1 * (10 - od).toInt64)), (13, .int 0), (0, .ref (L 99)), (1, .int (nI (dd))), (2, .int (nI (mm))), (3, .int od), (4, .long (s_p10 mm)), (6, .long (s_chs (fun k => ((s_ch wv (I 10) (I 27) nh nd own now od (nI k) (I 24) mm).2.1, (s_ch wv (I 10) (I 27) nh nd own now od (nI k) (I 24) mm).2.2)) dd i_17)), (8, .int (nI (i_17))), (11, .int ((s_ch wv (I 10) (I 27) nh nd own now od (nI i_17) (I 24) i_32).2.2)), (12, .int (nI (i_32)))]) dX5_chance_130 (by decide) rfl ?_
                  refine z_iconst (v := 0) dX5_chance_132 (by decide) ?_
                  refine z_istore (lv' := [(14, .int 0), (9, .long ((s_ch wv (I 10) (I 27) nh nd own now od (nI i_17) (I 24) i_32).2.1 * (10 - od).toInt64)), (13, .int 0), (0, .ref (L 99)), (1, .int (nI (dd))), (2, .int (nI (mm))), (3, .int od), (4, .long (s_p10 mm)), (6, .long (s_chs (fun k => ((s_ch wv (I 10) (I 27) nh nd own now od (nI k) (I 24) mm).2.1, (s_ch wv (I 10) (I 27) nh nd own now od (nI k) (I 24) mm).2.2)) dd i_17)), (8, .int (nI (i_17))), (11, .int ((s_ch wv (I 10) (I 27) nh nd own now od (nI i_17) (I 24) i_32).2.2)), (12, .int (nI (i_32)))]) dX5_chance_133 (by decide) rfl ?_
                  refine z_iload 0 dX5_chance_135 rfl ?_
                  refine z_aload_n 3 dX5_chance_137 rfl ?_
                  refine z_callV (As := []) (t_days (I := (tput (tco (zs I 99 0 0) c_38 o_39) 987 ((s_ch wv (I 10) (I 27) nh nd own now od (nI i_17) (I 24) i_32).1))) hL h1) q1573 q1575 qs53 q121 q1576 nm_X5_days (tX_obj hL) rfl rfl rfl (Nat.le_of_ble_eq_true rfl) ⟨Nat.le_of_ble_eq_true rfl, Nat.le_of_ble_eq_true rfl⟩ dX5_chance_138 rfl rfl (Nat.le_of_ble_eq_true rfl) (Nat.le_of_ble_eq_true rfl) (fun v_47 X_48 hp_49 => ?_)
                  obtain ⟨rfl, rfl⟩ := hp_49
                  refine z_st (st' := [.int (nI (nd)), .int 0]) rfl ?_
                  refine z_icmp_geN (a := 0) (b := nd) 164 (by omega) (by omega) dX5_chance_141 (by decide) (fun c_50 => ?_) (fun c_50 => ?_)
                  · -- nd ≤ 0
                    refine z_aload_n 3 dX5_chance_164 rfl ?_
                    refine z_sipush (v := 987) dX5_chance_165 (by decide) ?_
                    refine z_callV (As := [.int 987]) (t_passes_ (I := (zs I 99 0 0)) (hds := rfl) (σ := (s_ch wv (I 10) (I 27) nh nd own now od (nI i_17) (I 24) i_32).1) (c := c_38) (o := o_39) hL hV hlaw 987 (by omega) (s_ch_0 hw i_32) (by omega)) q1866 q1868 qs92 q121 q1869 nm_X5_passes (tX_obj hL) rfl rfl rfl (Nat.le_of_ble_eq_true rfl) ⟨Nat.le_of_ble_eq_true rfl, Nat.le_of_ble_eq_true rfl⟩ dX5_chance_168 rfl rfl (Nat.le_of_ble_eq_true rfl) (Nat.le_of_ble_eq_true rfl) (fun v_52 X_53 hp_54 => ?_)
                    obtain ⟨rfl, Gb_51, rfl⟩ := hp_54
                    refine z_st (st' := []) rfl ?_
                    refine z_iload 10 dX5_chance_171 rfl ?_
                    refine z_aload_n 3 dX5_chance_173 rfl ?_
                    refine tz_get (v := .int ((s_pass wv (I 10) (I 27) nh nd own (now + i_32) ((s_ch wv (I 10) (I 27) nh nd own now od (nI i_17) (I 24) i_32).1)).2.2)) 29 hL (by decide) q1622 rfl dX5_chance_174 ?_
                    refine z_ior dX5_chance_177 ?_
                    obtain ⟨x_55, ex_55⟩ : ∃ y : Int32, (((s_ch wv (I 10) (I 27) nh nd own now od (nI i_17) (I 24) i_32).2.2) ||| ((s_pass wv (I 10) (I 27) nh nd own (now + i_32) ((s_ch wv (I 10) (I 27) nh nd own now od (nI i_17) (I 24) i_32).1)).2.2)) = y := ⟨_, rfl⟩
                    refine z_eq ex_55 ?_
                    refine z_istore (lv' := [(11, .int x_55), (14, .int 0), (9, .long ((s_ch wv (I 10) (I 27) nh nd own now od (nI i_17) (I 24) i_32).2.1 * (10 - od).toInt64)), (13, .int 0), (0, .ref (L 99)), (1, .int (nI (dd))), (2, .int (nI (mm))), (3, .int od), (4, .long (s_p10 mm)), (6, .long (s_chs (fun k => ((s_ch wv (I 10) (I 27) nh nd own now od (nI k) (I 24) mm).2.1, (s_ch wv (I 10) (I 27) nh nd own now od (nI k) (I 24) mm).2.2)) dd i_17)), (8, .int (nI (i_17))), (12, .int (nI (i_32)))]) dX5_chance_178 (by decide) rfl ?_
                    have hbit : s_isBit (nI (i_17)) (i_32) = false := decide_eq_false c_46
                    have hch := s_ch_f (wv := wv) (vs := I 10) (ds := I 27) (nh := nh) (nd := nd) (own := own) (now := now) (odds := od) (σ := I 24) hbit
                    refine z_iinc (v := nI (i_32 + 1)) (lv' := [(12, .int (nI (i_32 + 1))), (11, .int x_55), (14, .int 0), (9, .long ((s_ch wv (I 10) (I 27) nh nd own now od (nI i_17) (I 24) i_32).2.1 * (10 - od).toInt64)), (13, .int 0), (0, .ref (L 99)), (1, .int (nI (dd))), (2, .int (nI (mm))), (3, .int od), (4, .long (s_p10 mm)), (6, .long (s_chs (fun k => ((s_ch wv (I 10) (I 27) nh nd own now od (nI k) (I 24) mm).2.1, (s_ch wv (I 10) (I 27) nh nd own now od (nI k) (I 24) mm).2.2)) dd i_17)), (8, .int (nI (i_17)))]) 11 dX5_chance_180 rfl (nI_1 _) (by decide) rfl ?_
                    refine z_goto 88 dX5_chance_183 (by decide) ?_
                    have f_56 : ((s_ch wv (I 10) (I 27) nh nd own now od (nI i_17) (I 24) i_32).2.1 * (10 - od).toInt64) = (s_ch wv (I 10) (I 27) nh nd own now od (nI i_17) (I 24) (i_32 + 1)).2.1 := by (try subst ex_55); rw [hch] <;> rfl
                    have f_57 : x_55 = (s_ch wv (I 10) (I 27) nh nd own now od (nI i_17) (I 24) (i_32 + 1)).2.2 := by (try subst ex_55); rw [hch] <;> rfl
                    subst f_57
                    refine z_lv (lv' := [(0, .ref (L 99)), (1, .int (nI (dd))), (2, .int (nI (mm))), (3, .int od), (4, .long (s_p10 mm)), (6, .long (s_chs (fun k => ((s_ch wv (I 10) (I 27) nh nd own now od (nI k) (I 24) mm).2.1, (s_ch wv (I 10) (I 27) nh nd own now od (nI k) (I 24) mm).2.2)) dd i_17)), (8, .int (nI (i_17))), (9, .long ((s_ch wv (I 10) (I 27) nh nd own now od (nI i_17) (I 24) (i_32 + 1)).2.1)), (11, .int ((s_ch wv (I 10) (I 27) nh nd own now od (nI i_17) (I 24) (i_32 + 1)).2.2)), (12, .int (nI (i_32 + 1)))]) [5, 6, 7, 8, 9, 10, 11, 3, 1, 0] (by rw [← f_56]; rfl) ?_
                    refine z_X (X' := (tX g L (tput (tco (zs I 99 0 0) ((s_pass wv (I 10) (I 27) nh nd own (now + i_32) ((s_ch wv (I 10) (I 27) nh nd own now od (nI i_17) (I 24) i_32).1)).2.1) ((s_pass wv (I 10) (I 27) nh nd own (now + i_32) ((s_ch wv (I 10) (I 27) nh nd own now od (nI i_17) (I 24) i_32).1)).2.2)) 987 ((s_ch wv (I 10) (I 27) nh nd own now od (nI i_17) (I 24) (i_32 + 1)).1)) J Gb_51 X)) (by (try subst ex_55); rw [hch] <;> rfl) ?_
                    exact ih_34 (i_32 + 1) (by omega) (by omega) _ _ _ 
                  · -- 0 < nd
                    refine z_iload 2 dX5_chance_144 rfl ?_
                    refine z_if_eq 164 dX5_chance_146 (by decide) (fun h_ => ?_) (fun h_ => absurd h_ (by decide))
                    refine z_aload_n 3 dX5_chance_164 rfl ?_
                    refine z_sipush (v := 987) dX5_chance_165 (by decide) ?_
                    refine z_callV (As := [.int 987]) (t_passes_ (I := (zs I 99 0 0)) (hds := rfl) (σ := (s_ch wv (I 10) (I 27) nh nd own now od (nI i_17) (I 24) i_32).1) (c := c_38) (o := o_39) hL hV hlaw 987 (by omega) (s_ch_0 hw i_32) (by omega)) q1866 q1868 qs92 q121 q1869 nm_X5_passes (tX_obj hL) rfl rfl rfl (Nat.le_of_ble_eq_true rfl) ⟨Nat.le_of_ble_eq_true rfl, Nat.le_of_ble_eq_true rfl⟩ dX5_chance_168 rfl rfl (Nat.le_of_ble_eq_true rfl) (Nat.le_of_ble_eq_true rfl) (fun v_59 X_60 hp_61 => ?_)
                    obtain ⟨rfl, Gb_58, rfl⟩ := hp_61
                    refine z_st (st' := []) rfl ?_
                    refine z_iload 10 dX5_chance_171 rfl ?_
                    refine z_aload_n 3 dX5_chance_173 rfl ?_
                    refine tz_get (v := .int ((s_pass wv (I 10) (I 27) nh nd own (now + i_32) ((s_ch wv (I 10) (I 27) nh nd own now od (nI i_17) (I 24) i_32).1)).2.2)) 29 hL (by decide) q1622 rfl dX5_chance_174 ?_
                    refine z_ior dX5_chance_177 ?_
                    obtain ⟨x_62, ex_62⟩ : ∃ y : Int32, (((s_ch wv (I 10) (I 27) nh nd own now od (nI i_17) (I 24) i_32).2.2) ||| ((s_pass wv (I 10) (I 27) nh nd own (now + i_32) ((s_ch wv (I 10) (I 27) nh nd own now od (nI i_17) (I 24) i_32).1)).2.2)) = y := ⟨_, rfl⟩
                    refine z_eq ex_62 ?_
                    refine z_istore (lv' := [(11, .int x_62), (14, .int 0), (9, .long ((s_ch wv (I 10) (I 27) nh nd own now od (nI i_17) (I 24) i_32).2.1 * (10 - od).toInt64)), (13, .int 0), (0, .ref (L 99)), (1, .int (nI (dd))), (2, .int (nI (mm))), (3, .int od), (4, .long (s_p10 mm)), (6, .long (s_chs (fun k => ((s_ch wv (I 10) (I 27) nh nd own now od (nI k) (I 24) mm).2.1, (s_ch wv (I 10) (I 27) nh nd own now od (nI k) (I 24) mm).2.2)) dd i_17)), (8, .int (nI (i_17))), (12, .int (nI (i_32)))]) dX5_chance_178 (by decide) rfl ?_
                    have hbit : s_isBit (nI (i_17)) (i_32) = false := decide_eq_false c_46
                    have hch := s_ch_f (wv := wv) (vs := I 10) (ds := I 27) (nh := nh) (nd := nd) (own := own) (now := now) (odds := od) (σ := I 24) hbit
                    refine z_iinc (v := nI (i_32 + 1)) (lv' := [(12, .int (nI (i_32 + 1))), (11, .int x_62), (14, .int 0), (9, .long ((s_ch wv (I 10) (I 27) nh nd own now od (nI i_17) (I 24) i_32).2.1 * (10 - od).toInt64)), (13, .int 0), (0, .ref (L 99)), (1, .int (nI (dd))), (2, .int (nI (mm))), (3, .int od), (4, .long (s_p10 mm)), (6, .long (s_chs (fun k => ((s_ch wv (I 10) (I 27) nh nd own now od (nI k) (I 24) mm).2.1, (s_ch wv (I 10) (I 27) nh nd own now od (nI k) (I 24) mm).2.2)) dd i_17)), (8, .int (nI (i_17)))]) 11 dX5_chance_180 rfl (nI_1 _) (by decide) rfl ?_
                    refine z_goto 88 dX5_chance_183 (by decide) ?_
                    have f_63 : ((s_ch wv (I 10) (I 27) nh nd own now od (nI i_17) (I 24) i_32).2.1 * (10 - od).toInt64) = (s_ch wv (I 10) (I 27) nh nd own now od (nI i_17) (I 24) (i_32 + 1)).2.1 := by (try subst ex_62); rw [hch] <;> rfl
                    have f_64 : x_62 = (s_ch wv (I 10) (I 27) nh nd own now od (nI i_17) (I 24) (i_32 + 1)).2.2 := by (try subst ex_62); rw [hch] <;> rfl
                    subst f_64
                    refine z_lv (lv' := [(0, .ref (L 99)), (1, .int (nI (dd))), (2, .int (nI (mm))), (3, .int od), (4, .long (s_p10 mm)), (6, .long (s_chs (fun k => ((s_ch wv (I 10) (I 27) nh nd own now od (nI k) (I 24) mm).2.1, (s_ch wv (I 10) (I 27) nh nd own now od (nI k) (I 24) mm).2.2)) dd i_17)), (8, .int (nI (i_17))), (9, .long ((s_ch wv (I 10) (I 27) nh nd own now od (nI i_17) (I 24) (i_32 + 1)).2.1)), (11, .int ((s_ch wv (I 10) (I 27) nh nd own now od (nI i_17) (I 24) (i_32 + 1)).2.2)), (12, .int (nI (i_32 + 1)))]) [5, 6, 7, 8, 9, 10, 11, 3, 1, 0] (by rw [← f_63]; rfl) ?_
                    refine z_X (X' := (tX g L (tput (tco (zs I 99 0 0) ((s_pass wv (I 10) (I 27) nh nd own (now + i_32) ((s_ch wv (I 10) (I 27) nh nd own now od (nI i_17) (I 24) i_32).1)).2.1) ((s_pass wv (I 10) (I 27) nh nd own (now + i_32) ((s_ch wv (I 10) (I 27) nh nd own now od (nI i_17) (I 24) i_32).1)).2.2)) 987 ((s_ch wv (I 10) (I 27) nh nd own now od (nI i_17) (I 24) (i_32 + 1)).1)) J Gb_58 X)) (by (try subst ex_62); rw [hch] <;> rfl) ?_
                    exact ih_34 (i_32 + 1) (by omega) (by omega) _ _ _ 
                · -- (((nI (i_17)) >>> ((nI (i_32)) &&& 31)) &&& 1) = 1
                  refine z_iconst (v := 1) dX5_chance_105 (by decide) ?_
                  refine z_goto 110 dX5_chance_106 (by decide) ?_
                  refine z_istore (lv' := [(13, .int 1), (0, .ref (L 99)), (1, .int (nI (dd))), (2, .int (nI (mm))), (3, .int od), (4, .long (s_p10 mm)), (6, .long (s_chs (fun k => ((s_ch wv (I 10) (I 27) nh nd own now od (nI k) (I 24) mm).2.1, (s_ch wv (I 10) (I 27) nh nd own now od (nI k) (I 24) mm).2.2)) dd i_17)), (8, .int (nI (i_17))), (9, .long ((s_ch wv (I 10) (I 27) nh nd own now od (nI i_17) (I 24) i_32).2.1)), (11, .int ((s_ch wv (I 10) (I 27) nh nd own now od (nI i_17) (I 24) i_32).2.2)), (12, .int (nI (i_32)))]) dX5_chance_110 (by decide) rfl ?_
                  refine z_lload 8 dX5_chance_112 rfl ?_
                  refine z_iload 0 dX5_chance_114 rfl ?_
                  refine z_if_eq 124 dX5_chance_116 (by decide) (fun h_ => absurd h_ (by decide)) (fun h_ => ?_)
                  refine z_iload_n 4 dX5_chance_119 rfl ?_
                  refine z_i2l (v := od.toInt64) dX5_chance_120 rfl ?_
                  refine z_goto 129 dX5_chance_121 (by decide) ?_
                  refine z_lmul dX5_chance_129 ?_
                  refine z_lstore (lv' := [(9, .long ((s_ch wv (I 10) (I 27) nh nd own now od (nI i_17) (I 24) i_32).2.1 * od.toInt64)), (13, .int 1), (0, .ref (L 99)), (1, .int (nI (dd))), (2, .int (nI (mm))), (3, .int od), (4, .long (s_p10 mm)), (6, .long (s_chs (fun k => ((s_ch wv (I 10) (I 27) nh nd own now od (nI k) (I 24) mm).2.1, (s_ch wv (I 10) (I 27) nh nd own now od (nI k) (I 24) mm).2.2)) dd i_17)), (8, .int (nI (i_17))), (11, .int ((s_ch wv (I 10) (I 27) nh nd own now od (nI i_17) (I 24) i_32).2.2)), (12, .int (nI (i_32)))]) dX5_chance_130 (by decide) rfl ?_
                  refine z_iconst (v := 0) dX5_chance_132 (by decide) ?_
                  refine z_istore (lv' := [(14, .int 0), (9, .long ((s_ch wv (I 10) (I 27) nh nd own now od (nI i_17) (I 24) i_32).2.1 * od.toInt64)), (13, .int 1), (0, .ref (L 99)), (1, .int (nI (dd))), (2, .int (nI (mm))), (3, .int od), (4, .long (s_p10 mm)), (6, .long (s_chs (fun k => ((s_ch wv (I 10) (I 27) nh nd own now od (nI k) (I 24) mm).2.1, (s_ch wv (I 10) (I 27) nh nd own now od (nI k) (I 24) mm).2.2)) dd i_17)), (8, .int (nI (i_17))), (11, .int ((s_ch wv (I 10) (I 27) nh nd own now od (nI i_17) (I 24) i_32).2.2)), (12, .int (nI (i_32)))]) dX5_chance_133 (by decide) rfl ?_
                  have loop_69 : ∀ (q_66 i_65 : Nat), i_65 + q_66 = nd → 0 ≤ i_65 → zZ g m_X5_chance (fun rv X' => rv = some (.int (if (((decide (0 ≤ (nI (dd))) && decide ((nI (dd)) < nI nd)) && (decide (1 ≤ (nI (mm))) && decide ((nI (mm)) ≤ 6))) && (decide (0 ≤ od) && decide (od ≤ 10))) = true then (s_chs (fun k => ((s_ch wv (I 10) (I 27) nh nd own now od (nI k) (I 24) (nI (mm)).toNatClampNeg).2.1, (s_ch wv (I 10) (I 27) nh nd own now od (nI k) (I 24) (nI (mm)).toNatClampNeg).2.2)) (nI (dd)).toNatClampNeg (2 ^ (nI (mm)).toNatClampNeg) * 1000000 / s_p10 (nI (mm)).toNatClampNeg).toInt32 else zm1)) ∧ ∃ (I' : Nat → Nat → Int32) (Gb' : Nat → Nat → Int32), X' = tX g L I' J Gb' X ∧ tobs I I' ∧ I' 99 0 = 0, zno, ({ frames := 7, cells := 0, slots := 0, locals := 161 } : Room)) 0 0 (tX g L (tput (tco (zs I 99 0 0) c_38 o_39) 987 (s_flood (s_ch wv (I 10) (I 27) nh nd own now od (nI i_17) (I 24) i_32).1 i_65)) J Gb_37 X) 135 [(0, .ref (L 99)), (1, .int (nI (dd))), (2, .int (nI (mm))), (3, .int od), (4, .long (s_p10 mm)), (6, .long (s_chs (fun k => ((s_ch wv (I 10) (I 27) nh nd own now od (nI k) (I 24) mm).2.1, (s_ch wv (I 10) (I 27) nh nd own now od (nI k) (I 24) mm).2.2)) dd i_17)), (8, .int (nI (i_17))), (9, .long ((s_ch wv (I 10) (I 27) nh nd own now od (nI i_17) (I 24) i_32).2.1 * od.toInt64)), (11, .int ((s_ch wv (I 10) (I 27) nh nd own now od (nI i_17) (I 24) i_32).2.2)), (12, .int (nI (i_32))), (13, .int 1), (14, .int (nI (i_65)))] [] := by
                    intro q_66
                    induction q_66 with
                    | zero =>
                      intro i_65 hb_68 lo_70  
                      obtain rfl : nd = i_65 := by omega
                      refine z_iload 11 dX5_chance_135 rfl ?_
                      refine z_aload_n 0 dX5_chance_137 rfl ?_
                      refine z_callV (As := []) (t_days (I := (tput (tco (zs I 99 0 0) c_38 o_39) 987 (s_flood (s_ch wv (I 10) (I 27) nh nd own now od (nI i_17) (I 24) i_32).1 nd))) hL h1) q1573 q1575 qs53 q121 q1576 nm_X5_days (tX_obj hL) rfl rfl rfl (Nat.le_of_ble_eq_true rfl) ⟨Nat.le_of_ble_eq_true rfl, Nat.le_of_ble_eq_true rfl⟩ dX5_chance_138 rfl rfl (Nat.le_of_ble_eq_true rfl) (Nat.le_of_ble_eq_true rfl) (fun v_71 X_72 hp_73 => ?_)
                      obtain ⟨rfl, rfl⟩ := hp_73
                      refine z_st (st' := [.int (nI (nd)), .int (nI (nd))]) rfl ?_
                      refine z_icmp_geN (a := nd) (b := nd) 164 (by omega) (by omega) dX5_chance_141 (by decide) (fun c_74 => ?_) (fun c_74 => absurd c_74 (by omega))
                      refine z_aload_n 0 dX5_chance_164 rfl ?_
                      refine z_sipush (v := 987) dX5_chance_165 (by decide) ?_
                      refine z_callV (As := [.int 987]) (t_passes_ (I := (zs I 99 0 0)) (hds := rfl) (σ := (s_flood (s_ch wv (I 10) (I 27) nh nd own now od (nI i_17) (I 24) i_32).1 nd)) (c := c_38) (o := o_39) hL hV hlaw 987 (by omega) ((s_flood_0 (by decide) _).trans (s_ch_0 hw i_32)) (by omega)) q1866 q1868 qs92 q121 q1869 nm_X5_passes (tX_obj hL) rfl rfl rfl (Nat.le_of_ble_eq_true rfl) ⟨Nat.le_of_ble_eq_true rfl, Nat.le_of_ble_eq_true rfl⟩ dX5_chance_168 rfl rfl (Nat.le_of_ble_eq_true rfl) (Nat.le_of_ble_eq_true rfl) (fun v_76 X_77 hp_78 => ?_)
                      obtain ⟨rfl, Gb_75, rfl⟩ := hp_78
                      refine z_st (st' := []) rfl ?_
                      refine z_iload 8 dX5_chance_171 rfl ?_
                      refine z_aload_n 0 dX5_chance_173 rfl ?_
                      refine tz_get (v := .int ((s_pass wv (I 10) (I 27) nh nd own (now + i_32) (s_flood (s_ch wv (I 10) (I 27) nh nd own now od (nI i_17) (I 24) i_32).1 nd)).2.2)) 29 hL (by decide) q1622 rfl dX5_chance_174 ?_
                      refine z_ior dX5_chance_177 ?_
                      obtain ⟨x_79, ex_79⟩ : ∃ y : Int32, (((s_ch wv (I 10) (I 27) nh nd own now od (nI i_17) (I 24) i_32).2.2) ||| ((s_pass wv (I 10) (I 27) nh nd own (now + i_32) (s_flood (s_ch wv (I 10) (I 27) nh nd own now od (nI i_17) (I 24) i_32).1 nd)).2.2)) = y := ⟨_, rfl⟩
                      refine z_eq ex_79 ?_
                      refine z_istore (lv' := [(11, .int x_79), (0, .ref (L 99)), (1, .int (nI (dd))), (2, .int (nI (mm))), (3, .int od), (4, .long (s_p10 mm)), (6, .long (s_chs (fun k => ((s_ch wv (I 10) (I 27) nh nd own now od (nI k) (I 24) mm).2.1, (s_ch wv (I 10) (I 27) nh nd own now od (nI k) (I 24) mm).2.2)) dd i_17)), (8, .int (nI (i_17))), (9, .long ((s_ch wv (I 10) (I 27) nh nd own now od (nI i_17) (I 24) i_32).2.1 * od.toInt64)), (12, .int (nI (i_32))), (13, .int 1), (14, .int (nI (nd)))]) dX5_chance_178 (by decide) rfl ?_
                      have hbit : s_isBit (nI (i_17)) (i_32) = true := decide_eq_true c_46
                      have hch := s_ch_t (wv := wv) (vs := I 10) (ds := I 27) (nh := nh) (nd := nd) (own := own) (now := now) (odds := od) (σ := I 24) hbit
                      refine z_iinc (v := nI (i_32 + 1)) (lv' := [(12, .int (nI (i_32 + 1))), (11, .int x_79), (0, .ref (L 99)), (1, .int (nI (dd))), (2, .int (nI (mm))), (3, .int od), (4, .long (s_p10 mm)), (6, .long (s_chs (fun k => ((s_ch wv (I 10) (I 27) nh nd own now od (nI k) (I 24) mm).2.1, (s_ch wv (I 10) (I 27) nh nd own now od (nI k) (I 24) mm).2.2)) dd i_17)), (8, .int (nI (i_17))), (9, .long ((s_ch wv (I 10) (I 27) nh nd own now od (nI i_17) (I 24) i_32).2.1 * od.toInt64)), (13, .int 1), (14, .int (nI (nd)))]) 9 dX5_chance_180 rfl (nI_1 _) (by decide) rfl ?_
                      refine z_goto 88 dX5_chance_183 (by decide) ?_
                      have f_80 : ((s_ch wv (I 10) (I 27) nh nd own now od (nI i_17) (I 24) i_32).2.1 * od.toInt64) = (s_ch wv (I 10) (I 27) nh nd own now od (nI i_17) (I 24) (i_32 + 1)).2.1 := by (try subst ex_79); rw [hch] <;> rfl
                      have f_81 : x_79 = (s_ch wv (I 10) (I 27) nh nd own now od (nI i_17) (I 24) (i_32 + 1)).2.2 := by (try subst ex_79); rw [hch] <;> rfl
                      subst f_81
                      refine z_lv (lv' := [(0, .ref (L 99)), (1, .int (nI (dd))), (2, .int (nI (mm))), (3, .int od), (4, .long (s_p10 mm)), (6, .long (s_chs (fun k => ((s_ch wv (I 10) (I 27) nh nd own now od (nI k) (I 24) mm).2.1, (s_ch wv (I 10) (I 27) nh nd own now od (nI k) (I 24) mm).2.2)) dd i_17)), (8, .int (nI (i_17))), (9, .long ((s_ch wv (I 10) (I 27) nh nd own now od (nI i_17) (I 24) (i_32 + 1)).2.1)), (11, .int ((s_ch wv (I 10) (I 27) nh nd own now od (nI i_17) (I 24) (i_32 + 1)).2.2)), (12, .int (nI (i_32 + 1)))]) [2, 3, 4, 5, 6, 7, 8, 9, 1, 0] (by rw [← f_80]; rfl) ?_
                      refine z_X (X' := (tX g L (tput (tco (zs I 99 0 0) ((s_pass wv (I 10) (I 27) nh nd own (now + i_32) (s_flood (s_ch wv (I 10) (I 27) nh nd own now od (nI i_17) (I 24) i_32).1 nd)).2.1) ((s_pass wv (I 10) (I 27) nh nd own (now + i_32) (s_flood (s_ch wv (I 10) (I 27) nh nd own now od (nI i_17) (I 24) i_32).1 nd)).2.2)) 987 ((s_ch wv (I 10) (I 27) nh nd own now od (nI i_17) (I 24) (i_32 + 1)).1)) J Gb_75 X)) (by (try subst ex_79); rw [hch] <;> rfl) ?_
                      exact ih_34 (i_32 + 1) (by omega) (by omega) _ _ _ 
                    | succ q_66 ih_67 =>
                      intro i_65 hb_68 lo_70  
                      refine z_iload 11 dX5_chance_135 rfl ?_
                      refine z_aload_n 0 dX5_chance_137 rfl ?_
                      refine z_callV (As := []) (t_days (I := (tput (tco (zs I 99 0 0) c_38 o_39) 987 (s_flood (s_ch wv (I 10) (I 27) nh nd own now od (nI i_17) (I 24) i_32).1 i_65))) hL h1) q1573 q1575 qs53 q121 q1576 nm_X5_days (tX_obj hL) rfl rfl rfl (Nat.le_of_ble_eq_true rfl) ⟨Nat.le_of_ble_eq_true rfl, Nat.le_of_ble_eq_true rfl⟩ dX5_chance_138 rfl rfl (Nat.le_of_ble_eq_true rfl) (Nat.le_of_ble_eq_true rfl) (fun v_82 X_83 hp_84 => ?_)
                      obtain ⟨rfl, rfl⟩ := hp_84
                      refine z_st (st' := [.int (nI (nd)), .int (nI (i_65))]) rfl ?_
                      refine z_icmp_geN (a := i_65) (b := nd) 164 (by omega) (by omega) dX5_chance_141 (by decide) (fun c_85 => absurd c_85 (by omega)) (fun c_85 => ?_)
                      refine z_iload 10 dX5_chance_144 rfl ?_
                      refine z_if_eq 164 dX5_chance_146 (by decide) (fun h_ => absurd h_ (by decide)) (fun h_ => ?_)
                      refine z_aload_n 0 dX5_chance_149 rfl ?_
                      refine z_sipush (v := 987) dX5_chance_150 (by decide) ?_
                      refine z_iload 11 dX5_chance_153 rfl ?_
                      refine z_callV (As := [.int 987, .int (nI (i_65))]) (t_leaves (I := (tco (zs I 99 0 0) c_38 o_39)) (σ := (s_flood (s_ch wv (I 10) (I 27) nh nd own now od (nI i_17) (I 24) i_32).1 i_65)) hL 987 (by omega) i_65 (by omega)) q1870 q1872 qs93 q121 q1873 nm_X5_leaves (tX_obj hL) rfl rfl rfl (Nat.le_of_ble_eq_true rfl) ⟨Nat.le_of_ble_eq_true rfl, Nat.le_of_ble_eq_true rfl⟩ dX5_chance_155 rfl rfl (Nat.le_of_ble_eq_true rfl) (Nat.le_of_ble_eq_true rfl) (fun v_86 X_87 hp_88 => ?_)
                      obtain ⟨rfl, rfl⟩ := hp_88
                      refine z_st (st' := []) rfl ?_
                      refine z_iinc (v := nI (i_65 + 1)) (lv' := [(14, .int (nI (i_65 + 1))), (0, .ref (L 99)), (1, .int (nI (dd))), (2, .int (nI (mm))), (3, .int od), (4, .long (s_p10 mm)), (6, .long (s_chs (fun k => ((s_ch wv (I 10) (I 27) nh nd own now od (nI k) (I 24) mm).2.1, (s_ch wv (I 10) (I 27) nh nd own now od (nI k) (I 24) mm).2.2)) dd i_17)), (8, .int (nI (i_17))), (9, .long ((s_ch wv (I 10) (I 27) nh nd own now od (nI i_17) (I 24) i_32).2.1 * od.toInt64)), (11, .int ((s_ch wv (I 10) (I 27) nh nd own now od (nI i_17) (I 24) i_32).2.2)), (12, .int (nI (i_32))), (13, .int 1)]) 11 dX5_chance_158 rfl (nI_1 _) (by decide) rfl ?_
                      refine z_goto 135 dX5_chance_161 (by decide) ?_
                      refine z_lv (lv' := [(0, .ref (L 99)), (1, .int (nI (dd))), (2, .int (nI (mm))), (3, .int od), (4, .long (s_p10 mm)), (6, .long (s_chs (fun k => ((s_ch wv (I 10) (I 27) nh nd own now od (nI k) (I 24) mm).2.1, (s_ch wv (I 10) (I 27) nh nd own now od (nI k) (I 24) mm).2.2)) dd i_17)), (8, .int (nI (i_17))), (9, .long ((s_ch wv (I 10) (I 27) nh nd own now od (nI i_17) (I 24) i_32).2.1 * od.toInt64)), (11, .int ((s_ch wv (I 10) (I 27) nh nd own now od (nI i_17) (I 24) i_32).2.2)), (12, .int (nI (i_32))), (13, .int 1), (14, .int (nI (i_65 + 1)))]) [1, 2, 3, 4, 5, 6, 7, 8, 9, 10, 11, 0] rfl ?_
                      refine z_X (X' := (tX g L (tput (tco (zs I 99 0 0) c_38 o_39) 987 (s_flood (s_ch wv (I 10) (I 27) nh nd own now od (nI i_17) (I 24) i_32).1 (i_65 + 1))) J Gb_37 X)) (by rfl) ?_
                      exact ih_67 (i_65 + 1) (by omega) (by omega)  
                  refine z_lv (lv' := [(0, .ref (L 99)), (1, .int (nI (dd))), (2, .int (nI (mm))), (3, .int od), (4, .long (s_p10 mm)), (6, .long (s_chs (fun k => ((s_ch wv (I 10) (I 27) nh nd own now od (nI k) (I 24) mm).2.1, (s_ch wv (I 10) (I 27) nh nd own now od (nI k) (I 24) mm).2.2)) dd i_17)), (8, .int (nI (i_17))), (9, .long ((s_ch wv (I 10) (I 27) nh nd own now od (nI i_17) (I 24) i_32).2.1 * od.toInt64)), (11, .int ((s_ch wv (I 10) (I 27) nh nd own now od (nI i_17) (I 24) i_32).2.2)), (12, .int (nI (i_32))), (13, .int 1), (14, .int 0)]) [3, 4, 5, 6, 7, 8, 9, 1, 10, 11, 2, 0] rfl ?_
                  refine z_X (X' := (tX g L (tput (tco (zs I 99 0 0) c_38 o_39) 987 (s_flood (s_ch wv (I 10) (I 27) nh nd own now od (nI i_17) (I 24) i_32).1 0)) J Gb_37 X)) (by rfl) ?_
                  exact loop_69 (nd - 0) 0 (by omega) (Nat.le_refl _)  
            have f_89 : 1 = (s_ch wv (I 10) (I 27) nh nd own now od (nI i_17) (I 24) 0).2.1 := by rfl
            have f_90 : 0 = (s_ch wv (I 10) (I 27) nh nd own now od (nI i_17) (I 24) 0).2.2 := by rfl
            refine z_lv (lv' := [(0, .ref (L 99)), (1, .int (nI (dd))), (2, .int (nI (mm))), (3, .int od), (4, .long (s_p10 mm)), (6, .long (s_chs (fun k => ((s_ch wv (I 10) (I 27) nh nd own now od (nI k) (I 24) mm).2.1, (s_ch wv (I 10) (I 27) nh nd own now od (nI k) (I 24) mm).2.2)) dd i_17)), (8, .int (nI (i_17))), (9, .long ((s_ch wv (I 10) (I 27) nh nd own now od (nI i_17) (I 24) 0).2.1)), (11, .int ((s_ch wv (I 10) (I 27) nh nd own now od (nI i_17) (I 24) 0).2.2)), (12, .int 0)]) [3, 4, 5, 6, 7, 8, 9, 2, 1, 0] (by rw [← f_89, ← f_90]; rfl) ?_
            refine z_X (X' := (tX g L (tput (tco (zs I 99 0 0) c_23 o_24) 987 ((s_ch wv (I 10) (I 27) nh nd own now od (nI i_17) (I 24) 0).1)) J Gb_22 X)) (by rfl) ?_
            exact loop_36 (mm - 0) 0 (by omega) (Nat.le_refl _) _ _ _ 
        have f_91 : 0 = s_chs (fun k => ((s_ch wv (I 10) (I 27) nh nd own now od (nI k) (I 24) mm).2.1, (s_ch wv (I 10) (I 27) nh nd own now od (nI k) (I 24) mm).2.2)) dd 0 := by simp [s_chs, s_isBit, c_16]
        refine z_lv (lv' := [(0, .ref (L 99)), (1, .int (nI (dd))), (2, .int (nI (mm))), (3, .int od), (4, .long (s_p10 mm)), (6, .long (s_chs (fun k => ((s_ch wv (I 10) (I 27) nh nd own now od (nI k) (I 24) mm).2.1, (s_ch wv (I 10) (I 27) nh nd own now od (nI k) (I 24) mm).2.2)) dd 0)), (8, .int 0)]) [1, 2, 3, 4, 5, 6, 0] (by rw [← f_91]; rfl) ?_
        exact loop_21 (pw - 0) 0 (by omega) (Nat.le_refl _) _ _ _ _ 
      | succ q_11 ih_12 =>
        intro i_10 hb_13 lo_15  
        refine z_iload 6 dX5_chance_44 rfl ?_
        refine z_iload_n 2 dX5_chance_46 rfl ?_
        refine z_icmp_geN (a := i_10) (b := mm) 64 (by omega) (by omega) dX5_chance_47 (by decide) (fun c_92 => absurd c_92 (by omega)) (fun c_92 => ?_)
        refine z_lload 4 dX5_chance_50 rfl ?_
        refine z_ldc2 q1710 dX5_chance_52 ?_
        refine z_lmul dX5_chance_55 ?_
        refine z_lstore (lv' := [(4, .long (s_p10 i_10 * 10)), (0, .ref (L 99)), (1, .int (nI (dd))), (2, .int (nI (mm))), (3, .int od), (6, .long 0), (8, .int (nI (i_10)))]) dX5_chance_56 (by decide) rfl ?_
        refine z_iinc (v := nI (i_10 + 1)) (lv' := [(8, .int (nI (i_10 + 1))), (4, .long (s_p10 i_10 * 10)), (0, .ref (L 99)), (1, .int (nI (dd))), (2, .int (nI (mm))), (3, .int od), (6, .long 0)]) 6 dX5_chance_58 rfl (nI_1 _) (by decide) rfl ?_
        refine z_goto 44 dX5_chance_61 (by decide) ?_
        have f_93 : (s_p10 i_10 * 10) = s_p10 (i_10 + 1) := by rfl
        refine z_lv (lv' := [(0, .ref (L 99)), (1, .int (nI (dd))), (2, .int (nI (mm))), (3, .int od), (4, .long (s_p10 (i_10 + 1))), (6, .long 0), (8, .int (nI (i_10 + 1)))]) [2, 3, 4, 5, 1, 6, 0] (by rw [← f_93]; rfl) ?_
        exact ih_12 (i_10 + 1) (by omega) (by omega)  
    have f_94 : 1 = s_p10 0 := by rfl
    refine z_lv (lv' := [(0, .ref (L 99)), (1, .int (nI (dd))), (2, .int (nI (mm))), (3, .int od), (4, .long (s_p10 0)), (6, .long 0), (8, .int 0)]) [3, 4, 5, 6, 2, 1, 0] (by rw [← f_94]; rfl) ?_
    exact loop_14 (mm - 0) 0 (by omega) (Nat.le_refl _)  
  · have hv := zb_not hv
    refine z_aload_n 0 dX5_chance_5 rfl ?_
    refine z_iload_n 1 dX5_chance_6 rfl ?_
    refine z_callV (As := [.int d]) (t_isDay (I := (tput (tco (zs I 99 0 0) (I 99 28) (I 99 29)) 987 (s_tau I))) hL h1 d) q1850 q1852 qs89 q121 q1853 nm_X5_isDay (tX_obj hL) rfl rfl rfl (Nat.le_of_ble_eq_true rfl) ⟨Nat.le_of_ble_eq_true rfl, Nat.le_of_ble_eq_true rfl⟩ dX5_chance_7 rfl rfl (Nat.le_of_ble_eq_true rfl) (Nat.le_of_ble_eq_true rfl) (fun v_95 X_96 hp_97 => ?_)
    obtain ⟨rfl, rfl⟩ := hp_97
    refine z_st (st' := [.int (zb (decide (0 ≤ d) && decide (d < nI nd)))]) rfl ?_
    refine z_if_eqb 33 dX5_chance_10 (by decide) (fun c_98 => ?_) (fun c_98 => ?_)
    · -- decide (0 ≤ d) && decide (d < nI nd) = false
      refine z_iconst (v := zm1) dX5_chance_33 (by decide) ?_
      exact z_iret dX5_chance_34 rfl (Nat.le_of_ble_eq_true rfl) (Nat.le_of_ble_eq_true rfl) ⟨congrArg some (congrArg Value.int (by rw [if_neg (by rw [hv]; decide)])), (tput (tco (zs I 99 0 0) (I 99 28) (I 99 29)) 987 (s_tau I)), Gb, rfl, (tobs_put (tobs_co (tobs_zs tobs_rf rfl)) (by decide)), rfl⟩
    · -- decide (0 ≤ d) && decide (d < nI nd) = true
      refine z_iload_n 2 dX5_chance_13 rfl ?_
      refine z_iconst (v := 1) dX5_chance_14 (by decide) ?_
      refine z_bipush (v := 6) dX5_chance_15 (by decide) ?_
      refine z_callS (As := [.int m, .int 1, .int 6]) (t_within m 1 6) q1771 q1772 q121 q1773 nm_X5_within rfl (Nat.le_of_ble_eq_true rfl) ⟨Nat.le_of_ble_eq_true rfl, Nat.le_of_ble_eq_true rfl⟩ dX5_chance_17 rfl rfl (Nat.le_of_ble_eq_true rfl) (Nat.le_of_ble_eq_true rfl) (fun v_99 X_100 hp_101 => ?_)
      obtain ⟨rfl, rfl⟩ := hp_101
      refine z_st (st' := [.int (zb (decide (1 ≤ m) && decide (m ≤ 6)))]) rfl ?_
      refine z_if_eqb 33 dX5_chance_20 (by decide) (fun c_102 => ?_) (fun c_102 => ?_)
      · -- decide (1 ≤ m) && decide (m ≤ 6) = false
        refine z_iconst (v := zm1) dX5_chance_33 (by decide) ?_
        exact z_iret dX5_chance_34 rfl (Nat.le_of_ble_eq_true rfl) (Nat.le_of_ble_eq_true rfl) ⟨congrArg some (congrArg Value.int (by rw [if_neg (by rw [hv]; decide)])), (tput (tco (zs I 99 0 0) (I 99 28) (I 99 29)) 987 (s_tau I)), Gb, rfl, (tobs_put (tobs_co (tobs_zs tobs_rf rfl)) (by decide)), rfl⟩
      · -- decide (1 ≤ m) && decide (m ≤ 6) = true
        refine z_iload_n 3 dX5_chance_23 rfl ?_
        refine z_iconst (v := 0) dX5_chance_24 (by decide) ?_
        refine z_bipush (v := 10) dX5_chance_25 (by decide) ?_
        refine z_callS (As := [.int od, .int 0, .int 10]) (t_within od 0 10) q1771 q1772 q121 q1773 nm_X5_within rfl (Nat.le_of_ble_eq_true rfl) ⟨Nat.le_of_ble_eq_true rfl, Nat.le_of_ble_eq_true rfl⟩ dX5_chance_27 rfl rfl (Nat.le_of_ble_eq_true rfl) (Nat.le_of_ble_eq_true rfl) (fun v_103 X_104 hp_105 => ?_)
        obtain ⟨rfl, rfl⟩ := hp_105
        refine z_st (st' := [.int (zb (decide (0 ≤ od) && decide (od ≤ 10)))]) rfl ?_
        refine z_if_neb 35 dX5_chance_30 (by decide) (fun c_106 => absurd c_106 (fun h9 => by (try rw [c_98] at hv); (try rw [c_102] at hv); rw [h9] at hv; exact absurd hv (by decide))) (fun c_106 => ?_)
        refine z_iconst (v := zm1) dX5_chance_33 (by decide) ?_
        exact z_iret dX5_chance_34 rfl (Nat.le_of_ble_eq_true rfl) (Nat.le_of_ble_eq_true rfl) ⟨congrArg some (congrArg Value.int (by rw [if_neg (by rw [hv]; decide)])), (tput (tco (zs I 99 0 0) (I 99 28) (I 99 29)) 987 (s_tau I)), Gb, rfl, (tobs_put (tobs_co (tobs_zs tobs_rf rfl)) (by decide)), rfl⟩
