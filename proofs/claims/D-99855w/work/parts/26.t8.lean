/-! THE MODEL: turned off, spare beds. Printed by t8.py -/
set_option maxRecDepth 100000
set_option maxHeartbeats 4000000 in
theorem t_refused {g : zG} {L : Nat → Nat} {I : Nat → Nat → Int32} {J : Nat → Nat → Int64} {Gb : Nat → Nat → Int32} {X : zX} (hL : tok g L) {nh nd : Nat} {own : Nat → Nat} (hV : s_ok (I 10) nh nd own) {wv : Int32 → Int32 → Int32 → Int32 → Int32} (hlaw : s_law (I 10) (I 11) (I 12) wv) {now : Nat} (hw : I 24 0 = nI now) (hw2 : now < 2 ^ 29) (w : Int32) : zN g m_X5_refused ({ frames := 7, cells := 0, slots := 0, locals := 161 } : Room) [.ref (L 99), .int w] (tX g L I J Gb X) (fun rv X' => rv = some (.int (if (decide (0 ≤ w) && decide (w ≤ 1)) = true then s_fst (s_offP (s_go wv (I 10) (I 27) nh nd own now (I 24))) (s_refR (s_go wv (I 10) (I 27) nh nd own now (I 24)) w) 60 1 else zm1)) ∧ ∃ (I' : Nat → Nat → Int32) (Gb' : Nat → Nat → Int32), X' = tX g L I' J Gb' X ∧ tobs I I' ∧ I' 99 0 = 0) := by
  refine zN.of (by decide +kernel) (Nat.le_of_ble_eq_true rfl) rfl ?_
  refine z_lv (lv' := [(0, .ref (L 99)), (1, .int w)]) [0, 1] rfl ?_
  have hV9 := hV
  obtain ⟨h0, hnh, h1, hnd, hown⟩ := hV9
  refine z_aload_n 0 dX5_refused_0 rfl ?_
  refine z_iconst (v := 0) dX5_refused_1 (by decide) ?_
  refine tz_put (I' := (zs I 99 0 0)) 0 hL (by decide) q1593 rfl dX5_refused_2 ?_
  refine z_X (X' := (tX g L (tput (tco (zs I 99 0 0) (I 99 28) (I 99 29)) 987 (s_tau I)) J Gb X)) (by show tX g L (zs I 99 0 0) J Gb X = (tX g L (tput (tco (zs I 99 0 0) (I 99 28) (I 99 29)) 987 (s_tau I)) J Gb X); rw [show tput (tco (zs I 99 0 0) (I 99 28) (I 99 29)) 987 (s_tau I) = tco (zs I 99 0 0) (I 99 28) (I 99 29) from tput_tau (I := tco (zs I 99 0 0) (I 99 28) (I 99 29))]; exact congrArg (fun z => tX g L z J Gb X) (tco_self (I := (zs I 99 0 0))).symm) ?_
  refine z_aload_n 0 dX5_refused_5 rfl ?_
  refine z_callV (As := []) (t_triesNow (I := (tco (zs I 99 0 0) (I 99 28) (I 99 29))) (τ := (s_tau I)) hL) q1928 q1930 qs100 q121 q1931 nm_X5_triesNow (tX_obj hL) rfl rfl rfl (Nat.le_of_ble_eq_true rfl) ⟨Nat.le_of_ble_eq_true rfl, Nat.le_of_ble_eq_true rfl⟩ dX5_refused_6 rfl rfl (Nat.le_of_ble_eq_true rfl) (Nat.le_of_ble_eq_true rfl) (fun v_1 X_2 hp_3 => ?_)
  obtain ⟨rfl, rfl⟩ := hp_3
  refine z_st (st' := []) rfl ?_
  refine z_X (X' := (tX g L (tput (tco (zs I 99 0 0) (I 99 28) (I 99 29)) 987 (I 24)) J Gb X)) (by rfl) ?_
  by_cases hv : (decide (0 ≤ w) && decide (w ≤ 1)) = true
  · skip
    obtain ⟨ww, -, hww, e_w⟩ := zwin 0 1 (by decide) hv
    refine z_lv (lv' := [(0, .ref (L 99)), (1, .int (nI (ww)))]) [0, 1] (by rw [e_w]; rfl) ?_
    refine z_iconst (v := 1) dX5_refused_9 (by decide) ?_
    refine z_istore_n (lv' := [(2, .int 1), (0, .ref (L 99)), (1, .int (nI (ww)))]) dX5_refused_10 rfl (by decide) rfl ?_
    have loop_8 : ∀ (q_5 i_4 : Nat), i_4 + q_5 = 60 → 0 ≤ i_4 → ∀ (Gb_9 : Nat → Nat → Int32), ∀ (c_10 : Int32), ∀ (o_11 : Int32), s_fst (s_offP (s_go wv (I 10) (I 27) nh nd own now (I 24))) (s_refR (s_go wv (I 10) (I 27) nh nd own now (I 24)) w) 60 1 = s_fst (s_offP (s_go wv (I 10) (I 27) nh nd own now (I 24))) (s_refR (s_go wv (I 10) (I 27) nh nd own now (I 24)) w) q_5 (i_4 + 1) → zZ g m_X5_refused (fun rv X' => rv = some (.int (if (decide (0 ≤ w) && decide (w ≤ 1)) = true then s_fst (s_offP (s_go wv (I 10) (I 27) nh nd own now (I 24))) (s_refR (s_go wv (I 10) (I 27) nh nd own now (I 24)) w) 60 1 else zm1)) ∧ ∃ (I' : Nat → Nat → Int32) (Gb' : Nat → Nat → Int32), X' = tX g L I' J Gb' X ∧ tobs I I' ∧ I' 99 0 = 0, zno, ({ frames := 7, cells := 0, slots := 0, locals := 161 } : Room)) 0 0 (tX g L (tput (tco (zs I 99 0 0) c_10 o_11) 987 ((s_go wv (I 10) (I 27) nh nd own now (I 24) i_4).1)) J Gb_9 X) 11 [(0, .ref (L 99)), (1, .int (nI (ww))), (2, .int (nI (i_4 + 1)))] [] := by
      intro q_5
      induction q_5 with
      | zero =>
        intro i_4 hb_7 lo_13 Gb_9 c_10 o_11 hi_12
        obtain rfl : 60 = i_4 := by omega
        refine z_iload_n 2 dX5_refused_11 rfl ?_
        refine z_bipush (v := 60) dX5_refused_12 (by decide) ?_
        refine z_icmp_gtN (a := 61) (b := 60) 75 (by decide) (by decide) dX5_refused_14 (by decide) (fun h_ => ?_) (fun h_ => absurd h_ (by decide))
        refine z_iconst (v := zm1) dX5_refused_75 (by decide) ?_
        exact z_iret dX5_refused_76 rfl (Nat.le_of_ble_eq_true rfl) (Nat.le_of_ble_eq_true rfl) ⟨congrArg some (congrArg Value.int (by rw [if_pos hv]; exact hi_12.symm)), (tput (tco (zs I 99 0 0) c_10 o_11) 987 ((s_go wv (I 10) (I 27) nh nd own now (I 24) 60).1)), Gb_9, rfl, (tobs_put (tobs_co (tobs_zs tobs_rf rfl)) (by decide)), rfl⟩
      | succ q_5 ih_6 =>
        intro i_4 hb_7 lo_13 Gb_9 c_10 o_11 hi_12
        refine z_iload_n 2 dX5_refused_11 rfl ?_
        refine z_bipush (v := 60) dX5_refused_12 (by decide) ?_
        refine z_icmp_gtN (a := i_4 + 1) (b := 60) 75 (by omega) (by omega) dX5_refused_14 (by decide) (fun c_14 => absurd c_14 (by omega)) (fun c_14 => ?_)
        refine z_iload_n 1 dX5_refused_17 rfl ?_
        refine z_iconst (v := 0) dX5_refused_18 (by decide) ?_
        refine z_iconst (v := 1) dX5_refused_19 (by decide) ?_
        refine z_callS (As := [.int (nI (ww)), .int 0, .int 1]) (t_within (nI (ww)) 0 1) q1771 q1772 q121 q1773 nm_X5_within rfl (Nat.le_of_ble_eq_true rfl) ⟨Nat.le_of_ble_eq_true rfl, Nat.le_of_ble_eq_true rfl⟩ dX5_refused_20 rfl rfl (Nat.le_of_ble_eq_true rfl) (Nat.le_of_ble_eq_true rfl) (fun v_15 X_16 hp_17 => ?_)
        obtain ⟨rfl, rfl⟩ := hp_17
        refine z_st (st' := [.int (zb (decide (0 ≤ nI (ww)) && decide (nI (ww) ≤ 1)))]) rfl ?_
        refine z_eq (y := 1) (zb_t (zwin_t (Nat.zero_le _) hww (by decide))) ?_
        refine z_if_eq 75 dX5_refused_23 (by decide) (fun h_ => absurd h_ (by decide)) (fun h_ => ?_)
        refine z_aload_n 0 dX5_refused_26 rfl ?_
        refine z_sipush (v := 987) dX5_refused_27 (by decide) ?_
        refine z_callV (As := [.int 987]) (t_passes_ (I := (zs I 99 0 0)) (hds := rfl) (σ := (s_go wv (I 10) (I 27) nh nd own now (I 24) i_4).1) (c := c_10) (o := o_11) hL hV hlaw 987 (by omega) (s_go_0 hw i_4) (by omega)) q1866 q1868 qs92 q121 q1869 nm_X5_passes (tX_obj hL) rfl rfl rfl (Nat.le_of_ble_eq_true rfl) ⟨Nat.le_of_ble_eq_true rfl, Nat.le_of_ble_eq_true rfl⟩ dX5_refused_30 rfl rfl (Nat.le_of_ble_eq_true rfl) (Nat.le_of_ble_eq_true rfl) (fun v_19 X_20 hp_21 => ?_)
        obtain ⟨rfl, Gb_18, rfl⟩ := hp_21
        refine z_st (st' := []) rfl ?_
        refine z_aload_n 0 dX5_refused_33 rfl ?_
        refine tz_get (v := .int ((s_pass wv (I 10) (I 27) nh nd own (now + i_4) ((s_go wv (I 10) (I 27) nh nd own now (I 24) i_4).1)).2.2)) 29 hL (by decide) q1622 rfl dX5_refused_34 ?_
        refine z_if_eq 69 dX5_refused_37 (by decide) (fun c_22 => ?_) (fun c_22 => ?_)
        · -- (s_pass wv (I 10) (I 27) nh nd own (now + i_4) ((s_go wv (I 10) (I 27) nh nd own now (I 24) i_4).1)).2.2 = 0
          refine z_iinc (v := nI (i_4 + 2)) (lv' := [(2, .int (nI (i_4 + 2))), (0, .ref (L 99)), (1, .int (nI (ww)))]) 2 dX5_refused_69 rfl (nI_1 _) (by decide) rfl ?_
          refine z_goto 11 dX5_refused_72 (by decide) ?_
          refine z_lv (lv' := [(0, .ref (L 99)), (1, .int (nI (ww))), (2, .int (nI (i_4 + 2)))]) [1, 2, 0] rfl ?_
          refine z_X (X' := (tX g L (tput (tco (zs I 99 0 0) ((s_pass wv (I 10) (I 27) nh nd own (now + i_4) ((s_go wv (I 10) (I 27) nh nd own now (I 24) i_4).1)).2.1) ((s_pass wv (I 10) (I 27) nh nd own (now + i_4) ((s_go wv (I 10) (I 27) nh nd own now (I 24) i_4).1)).2.2)) 987 ((s_go wv (I 10) (I 27) nh nd own now (I 24) (i_4 + 1)).1)) J Gb_18 X)) (by rfl) ?_
          exact ih_6 (i_4 + 1) (by omega) (by omega) _ _ _ (hi_12.trans (s_fst_f (decide_eq_false (fun h => h c_22))))
        · -- ¬ (s_pass wv (I 10) (I 27) nh nd own (now + i_4) ((s_go wv (I 10) (I 27) nh nd own now (I 24) i_4).1)).2.2 = 0
          refine z_iconst (v := 0) dX5_refused_40 (by decide) ?_
          refine z_istore_n (lv' := [(3, .int 0), (0, .ref (L 99)), (1, .int (nI (ww))), (2, .int (nI (i_4 + 1)))]) dX5_refused_41 rfl (by decide) rfl ?_
          have loop_27 : ∀ (q_24 i_23 : Nat), i_23 + q_24 = 32 → 0 ≤ i_23 → (∀ b, b < i_23 → s_isBit (s_pass wv (I 10) (I 27) nh nd own (now + i_4) ((s_go wv (I 10) (I 27) nh nd own now (I 24) i_4).1)).2.2 b = false) → zZ g m_X5_refused (fun rv X' => rv = some (.int (if (decide (0 ≤ w) && decide (w ≤ 1)) = true then s_fst (s_offP (s_go wv (I 10) (I 27) nh nd own now (I 24))) (s_refR (s_go wv (I 10) (I 27) nh nd own now (I 24)) w) 60 1 else zm1)) ∧ ∃ (I' : Nat → Nat → Int32) (Gb' : Nat → Nat → Int32), X' = tX g L I' J Gb' X ∧ tobs I I' ∧ I' 99 0 = 0, zno, ({ frames := 7, cells := 0, slots := 0, locals := 161 } : Room)) 0 0 (tX g L (tput (tco (zs I 99 0 0) ((s_pass wv (I 10) (I 27) nh nd own (now + i_4) ((s_go wv (I 10) (I 27) nh nd own now (I 24) i_4).1)).2.1) ((s_pass wv (I 10) (I 27) nh nd own (now + i_4) ((s_go wv (I 10) (I 27) nh nd own now (I 24) i_4).1)).2.2)) 987 ((s_pass wv (I 10) (I 27) nh nd own (now + i_4) ((s_go wv (I 10) (I 27) nh nd own now (I 24) i_4).1)).1)) J Gb_18 X) 42 [(0, .ref (L 99)), (1, .int (nI (ww))), (2, .int (nI (i_4 + 1))), (3, .int (nI (i_23)))] [] := by
            intro q_24
            induction q_24 with
            | zero =>
              intro i_23 hb_26 lo_29  hi_28
              obtain rfl : 32 = i_23 := by omega
              exact absurd (s_isBit_all hi_28) c_22
            | succ q_24 ih_25 =>
              intro i_23 hb_26 lo_29  hi_28
              refine z_aload_n 0 dX5_refused_42 rfl ?_
              refine tz_get (v := .int ((s_pass wv (I 10) (I 27) nh nd own (now + i_4) ((s_go wv (I 10) (I 27) nh nd own now (I 24) i_4).1)).2.2)) 29 hL (by decide) q1622 rfl dX5_refused_43 ?_
              refine z_iload_n 3 dX5_refused_46 rfl ?_
              refine z_ishr dX5_refused_47 ?_
              refine z_iconst (v := 1) dX5_refused_48 (by decide) ?_
              refine z_iand dX5_refused_49 ?_
              refine z_if_ne 59 dX5_refused_50 (by decide) (fun c_30 => ?_) (fun c_30 => ?_)
              · -- ¬ ((((s_pass wv (I 10) (I 27) nh nd own (now + i_4) ((s_go wv (I 10) (I 27) nh nd own now (I 24) i_4).1)).2.2) >>> ((nI (i_23)) &&& 31)) &&& 1) = 0
                refine z_iload_n 1 dX5_refused_59 rfl ?_
                refine z_if_neN 67 (by omega) dX5_refused_60 (by decide) (fun c_31 => ?_) (fun c_31 => ?_)
                · -- ww ≠ 0
                  refine z_iload_n 3 dX5_refused_67 rfl ?_
                  exact z_iret dX5_refused_68 rfl (Nat.le_of_ble_eq_true rfl) (Nat.le_of_ble_eq_true rfl) ⟨congrArg some (congrArg Value.int (by rw [if_pos hv]; refine ((hi_12.trans (s_fst_t (decide_eq_true c_22))).trans ?_).symm; show (if w = 0 then _ else _) = _; rw [e_w, if_neg (fun h => c_31 ((nI_zero (by omega)).mp h))]; exact s_fst_hit (s_bit1 (by omega) c_30) 32 0 (fun b _ hb => hi_28 b hb) (Nat.zero_le _) (by omega))), (tput (tco (zs I 99 0 0) ((s_pass wv (I 10) (I 27) nh nd own (now + i_4) ((s_go wv (I 10) (I 27) nh nd own now (I 24) i_4).1)).2.1) ((s_pass wv (I 10) (I 27) nh nd own (now + i_4) ((s_go wv (I 10) (I 27) nh nd own now (I 24) i_4).1)).2.2)) 987 ((s_pass wv (I 10) (I 27) nh nd own (now + i_4) ((s_go wv (I 10) (I 27) nh nd own now (I 24) i_4).1)).1)), Gb_18, rfl, (tobs_put (tobs_co (tobs_zs tobs_rf rfl)) (by decide)), rfl⟩
                · -- ww = 0
                  refine z_iload_n 2 dX5_refused_63 rfl ?_
                  refine z_goto 68 dX5_refused_64 (by decide) ?_
                  exact z_iret dX5_refused_68 rfl (Nat.le_of_ble_eq_true rfl) (Nat.le_of_ble_eq_true rfl) ⟨congrArg some (congrArg Value.int (by rw [if_pos hv]; refine ((hi_12.trans (s_fst_t (decide_eq_true c_22))).trans ?_).symm; show (if w = 0 then _ else _) = _; rw [e_w, if_pos ((nI_zero (by omega)).mpr c_31)])), (tput (tco (zs I 99 0 0) ((s_pass wv (I 10) (I 27) nh nd own (now + i_4) ((s_go wv (I 10) (I 27) nh nd own now (I 24) i_4).1)).2.1) ((s_pass wv (I 10) (I 27) nh nd own (now + i_4) ((s_go wv (I 10) (I 27) nh nd own now (I 24) i_4).1)).2.2)) 987 ((s_pass wv (I 10) (I 27) nh nd own (now + i_4) ((s_go wv (I 10) (I 27) nh nd own now (I 24) i_4).1)).1)), Gb_18, rfl, (tobs_put (tobs_co (tobs_zs tobs_rf rfl)) (by decide)), rfl⟩
              · -- ((((s_pass wv (I 10) (I 27) nh nd own (now + i_4) ((s_go wv (I 10) (I 27) nh nd own now (I 24) i_4).1)).2.2) >>> ((nI (i_23)) &&& 31)) &&& 1) = 0
                refine z_iinc (v := nI (i_23 + 1)) (lv' := [(3, .int (nI (i_23 + 1))), (0, .ref (L 99)), (1, .int (nI (ww))), (2, .int (nI (i_4 + 1)))]) 3 dX5_refused_53 rfl (nI_1 _) (by decide) rfl ?_
                refine z_goto 42 dX5_refused_56 (by decide) ?_
                refine z_lv (lv' := [(0, .ref (L 99)), (1, .int (nI (ww))), (2, .int (nI (i_4 + 1))), (3, .int (nI (i_23 + 1)))]) [1, 2, 3, 0] rfl ?_
                exact ih_25 (i_23 + 1) (by omega) (by omega)  (fun b hb => by rcases Nat.lt_succ_iff_lt_or_eq.mp hb with h | rfl; exact hi_28 b h; exact (s_bit0 _ (by omega)).mp c_30)
          refine z_lv (lv' := [(0, .ref (L 99)), (1, .int (nI (ww))), (2, .int (nI (i_4 + 1))), (3, .int 0)]) [1, 2, 3, 0] rfl ?_
          exact loop_27 (32 - 0) 0 (by omega) (Nat.le_refl _)  (fun b hb => absurd hb (Nat.not_lt_zero b))
    refine z_lv (lv' := [(0, .ref (L 99)), (1, .int (nI (ww))), (2, .int 1)]) [1, 2, 0] rfl ?_
    refine z_X (X' := (tX g L (tput (tco (zs I 99 0 0) (I 99 28) (I 99 29)) 987 ((s_go wv (I 10) (I 27) nh nd own now (I 24) 0).1)) J Gb X)) (by rfl) ?_
    exact loop_8 (60 - 0) 0 (by omega) (Nat.le_refl _) _ _ _ rfl
  · have hv := zb_not hv
    refine z_iconst (v := 1) dX5_refused_9 (by decide) ?_
    refine z_istore_n (lv' := [(2, .int 1), (0, .ref (L 99)), (1, .int w)]) dX5_refused_10 rfl (by decide) rfl ?_
    refine z_iload_n 0 dX5_refused_11 rfl ?_
    refine z_bipush (v := 60) dX5_refused_12 (by decide) ?_
    refine z_icmp_gtN (a := 1) (b := 60) 75 (by decide) (by decide) dX5_refused_14 (by decide) (fun h_ => absurd h_ (by decide)) (fun h_ => ?_)
    refine z_iload_n 2 dX5_refused_17 rfl ?_
    refine z_iconst (v := 0) dX5_refused_18 (by decide) ?_
    refine z_iconst (v := 1) dX5_refused_19 (by decide) ?_
    refine z_callS (As := [.int w, .int 0, .int 1]) (t_within w 0 1) q1771 q1772 q121 q1773 nm_X5_within rfl (Nat.le_of_ble_eq_true rfl) ⟨Nat.le_of_ble_eq_true rfl, Nat.le_of_ble_eq_true rfl⟩ dX5_refused_20 rfl rfl (Nat.le_of_ble_eq_true rfl) (Nat.le_of_ble_eq_true rfl) (fun v_32 X_33 hp_34 => ?_)
    obtain ⟨rfl, rfl⟩ := hp_34
    refine z_st (st' := [.int (zb (decide (0 ≤ w) && decide (w ≤ 1)))]) rfl ?_
    refine z_eq (y := 0) (zb_f hv) ?_
    refine z_if_eq 75 dX5_refused_23 (by decide) (fun h_ => ?_) (fun h_ => absurd h_ (by decide))
    refine z_iconst (v := zm1) dX5_refused_75 (by decide) ?_
    exact z_iret dX5_refused_76 rfl (Nat.le_of_ble_eq_true rfl) (Nat.le_of_ble_eq_true rfl) ⟨congrArg some (congrArg Value.int (by rw [if_neg (by rw [hv]; decide)])), (tput (tco (zs I 99 0 0) (I 99 28) (I 99 29)) 987 (I 24)), Gb, rfl, (tobs_put (tobs_co (tobs_zs tobs_rf rfl)) (by decide)), rfl⟩
set_option maxHeartbeats 4000000 in
theorem t_spare {g : zG} {L : Nat → Nat} {I : Nat → Nat → Int32} {J : Nat → Nat → Int64} {Gb : Nat → Nat → Int32} {X : zX} (hL : tok g L) {nh nd : Nat} {own : Nat → Nat} (hV : s_ok (I 10) nh nd own) {wv : Int32 → Int32 → Int32 → Int32 → Int32} (hlaw : s_law (I 10) (I 11) (I 12) wv) {now : Nat} (hw : I 24 0 = nI now) (hw2 : now < 2 ^ 29) : zN g m_X5_spare ({ frames := 8, cells := 0, slots := 0, locals := 184 } : Room) [.ref (L 99)] (tX g L I J Gb X) (fun rv X' => rv = some (.int (s_spare (I 24) (fun τ => decide ((s_go wv (I 10) (I 27) nh nd own now τ 24).1 1 = τ 1)) nh)) ∧ ∃ (I' : Nat → Nat → Int32) (Gb' : Nat → Nat → Int32), X' = tX g L I' J Gb' X ∧ tobs I I' ∧ I' 99 0 = 0) := by
  refine zN.of (by decide +kernel) (Nat.le_of_ble_eq_true rfl) rfl ?_
  refine z_lv (lv' := [(0, .ref (L 99))]) [0] rfl ?_
  have hV9 := hV
  obtain ⟨h0, hnh, h1, hnd, hown⟩ := hV9
  refine z_aload_n 0 dX5_spare_0 rfl ?_
  refine z_iconst (v := 0) dX5_spare_1 (by decide) ?_
  refine tz_put (I' := (zs I 99 0 0)) 0 hL (by decide) q1593 rfl dX5_spare_2 ?_
  refine z_X (X' := (tX g L (tput (tco (zs I 99 0 0) (I 99 28) (I 99 29)) 987 (s_tau I)) J Gb X)) (by show tX g L (zs I 99 0 0) J Gb X = (tX g L (tput (tco (zs I 99 0 0) (I 99 28) (I 99 29)) 987 (s_tau I)) J Gb X); rw [show tput (tco (zs I 99 0 0) (I 99 28) (I 99 29)) 987 (s_tau I) = tco (zs I 99 0 0) (I 99 28) (I 99 29) from tput_tau (I := tco (zs I 99 0 0) (I 99 28) (I 99 29))]; exact congrArg (fun z => tX g L z J Gb X) (tco_self (I := (zs I 99 0 0))).symm) ?_
  refine z_iconst (v := 0) dX5_spare_5 (by decide) ?_
  refine z_istore_n (lv' := [(1, .int 0), (0, .ref (L 99))]) dX5_spare_6 rfl (by decide) rfl ?_
  refine z_iconst (v := 0) dX5_spare_7 (by decide) ?_
  refine z_istore_n (lv' := [(2, .int 0), (1, .int 0), (0, .ref (L 99))]) dX5_spare_8 rfl (by decide) rfl ?_
  have loop_5 : ∀ (q_2 i_1 : Nat), i_1 + q_2 = nh → 0 ≤ i_1 → ∀ (Gb_6 : Nat → Nat → Int32), ∀ (c_7 : Int32), ∀ (o_8 : Int32), ∀ (t_9 : Nat → Int32), zZ g m_X5_spare (fun rv X' => rv = some (.int (s_spare (I 24) (fun τ => decide ((s_go wv (I 10) (I 27) nh nd own now τ 24).1 1 = τ 1)) nh)) ∧ ∃ (I' : Nat → Nat → Int32) (Gb' : Nat → Nat → Int32), X' = tX g L I' J Gb' X ∧ tobs I I' ∧ I' 99 0 = 0, zno, ({ frames := 8, cells := 0, slots := 0, locals := 184 } : Room)) 0 0 (tX g L (tput (tco (zs I 99 0 0) c_7 o_8) 987 t_9) J Gb_6 X) 9 [(0, .ref (L 99)), (1, .int (s_spare (I 24) (fun τ => decide ((s_go wv (I 10) (I 27) nh nd own now τ 24).1 1 = τ 1)) i_1)), (2, .int (nI (i_1)))] [] := by
    intro q_2
    induction q_2 with
    | zero =>
      intro i_1 hb_4 lo_10 Gb_6 c_7 o_8 t_9 
      obtain rfl : nh = i_1 := by omega
      refine z_iload_n 2 dX5_spare_9 rfl ?_
      refine z_aload_n 0 dX5_spare_10 rfl ?_
      refine z_callV (As := []) (t_houses (I := (tput (tco (zs I 99 0 0) c_7 o_8) 987 t_9)) hL h0) q1585 q1587 qs56 q121 q1588 nm_X5_houses (tX_obj hL) rfl rfl rfl (Nat.le_of_ble_eq_true rfl) ⟨Nat.le_of_ble_eq_true rfl, Nat.le_of_ble_eq_true rfl⟩ dX5_spare_11 rfl rfl (Nat.le_of_ble_eq_true rfl) (Nat.le_of_ble_eq_true rfl) (fun v_11 X_12 hp_13 => ?_)
      obtain ⟨rfl, rfl⟩ := hp_13
      refine z_st (st' := [.int (nI (nh)), .int (nI (nh))]) rfl ?_
      refine z_icmp_geN (a := nh) (b := nh) 72 (by omega) (by omega) dX5_spare_14 (by decide) (fun c_14 => ?_) (fun c_14 => absurd c_14 (by omega))
      refine z_iload_n 1 dX5_spare_72 rfl ?_
      exact z_iret dX5_spare_73 rfl (Nat.le_of_ble_eq_true rfl) (Nat.le_of_ble_eq_true rfl) ⟨congrArg some (congrArg Value.int (by first | rfl | (simp [s_spare, s_bit, hb_4, c_14]; done) | (skip; simp [s_spare, s_bit, hb_4, c_14]))), (tput (tco (zs I 99 0 0) c_7 o_8) 987 t_9), Gb_6, rfl, (tobs_put (tobs_co (tobs_zs tobs_rf rfl)) (by decide)), rfl⟩
    | succ q_2 ih_3 =>
      intro i_1 hb_4 lo_10 Gb_6 c_7 o_8 t_9 
      refine z_iload_n 2 dX5_spare_9 rfl ?_
      refine z_aload_n 0 dX5_spare_10 rfl ?_
      refine z_callV (As := []) (t_houses (I := (tput (tco (zs I 99 0 0) c_7 o_8) 987 t_9)) hL h0) q1585 q1587 qs56 q121 q1588 nm_X5_houses (tX_obj hL) rfl rfl rfl (Nat.le_of_ble_eq_true rfl) ⟨Nat.le_of_ble_eq_true rfl, Nat.le_of_ble_eq_true rfl⟩ dX5_spare_11 rfl rfl (Nat.le_of_ble_eq_true rfl) (Nat.le_of_ble_eq_true rfl) (fun v_15 X_16 hp_17 => ?_)
      obtain ⟨rfl, rfl⟩ := hp_17
      refine z_st (st' := [.int (nI (nh)), .int (nI (i_1))]) rfl ?_
      refine z_icmp_geN (a := i_1) (b := nh) 72 (by omega) (by omega) dX5_spare_14 (by decide) (fun c_18 => absurd c_18 (by omega)) (fun c_18 => ?_)
      refine z_aload_n 0 dX5_spare_17 rfl ?_
      refine z_callV (As := []) (t_triesNow (I := (tco (zs I 99 0 0) c_7 o_8)) (τ := t_9) hL) q1928 q1930 qs100 q121 q1931 nm_X5_triesNow (tX_obj hL) rfl rfl rfl (Nat.le_of_ble_eq_true rfl) ⟨Nat.le_of_ble_eq_true rfl, Nat.le_of_ble_eq_true rfl⟩ dX5_spare_18 rfl rfl (Nat.le_of_ble_eq_true rfl) (Nat.le_of_ble_eq_true rfl) (fun v_19 X_20 hp_21 => ?_)
      obtain ⟨rfl, rfl⟩ := hp_21
      refine z_st (st' := []) rfl ?_
      refine z_aload_n 0 dX5_spare_21 rfl ?_
      refine tz_get (v := .ref (L 24)) 24 hL (by decide) q1617 rfl dX5_spare_22 ?_
      refine z_sipush (v := 989) dX5_spare_25 (by decide) ?_
      refine z_iload_n 2 dX5_spare_28 rfl ?_
      refine z_iaddN (a := 989) (b := i_1) dX5_spare_29 ?_
      refine z_eq (y := nI (i_1 + 989)) (congrArg nI (by omega)) ?_
      refine z_dup2_11 dX5_spare_30 rfl rfl ?_
      refine tz_iald (v := (I 24) (i_1 + 2)) 24 (987 + (i_1 + 2)) hL (by decide) (congrArg nI (by omega)) (by show 987 + (i_1 + 2) < 1081; omega) (tput_at (by omega)) dX5_spare_31 ?_
      refine z_iconst (v := 1) dX5_spare_32 (by decide) ?_
      refine z_isub dX5_spare_33 ?_
      obtain ⟨x_22, ex_22⟩ : ∃ y : Int32, (((I 24) (i_1 + 2)) - 1) = y := ⟨_, rfl⟩
      refine z_eq ex_22 ?_
      refine tz_iast 24 (987 + (i_1 + 2)) hL (by decide) (congrArg nI (by omega)) (by show 987 + (i_1 + 2) < 1081; omega) (tput_zs (by omega)) dX5_spare_34 ?_
      refine z_iload_n 1 dX5_spare_35 rfl ?_
      refine z_aload_n 0 dX5_spare_36 rfl ?_
      refine tz_get (v := .ref (L 24)) 24 hL (by decide) q1617 rfl dX5_spare_37 ?_
      refine z_iconst (v := 2) dX5_spare_40 (by decide) ?_
      refine z_iload_n 2 dX5_spare_41 rfl ?_
      refine z_iaddN (a := 2) (b := i_1) dX5_spare_42 ?_
      refine z_eq (y := nI (i_1 + 2)) (congrArg nI (by omega)) ?_
      refine tz_iald (v := I 24 (i_1 + 2)) 24 (i_1 + 2) hL (by decide) rfl (by show i_1 + 2 < 1081; omega) ((tput_off (by omega)).trans rfl) dX5_spare_43 ?_
      refine z_iconst (v := 1) dX5_spare_44 (by decide) ?_
      refine z_icmp_le 63 dX5_spare_45 (by decide) (fun c_23 => ?_) (fun c_23 => ?_)
      · -- I 24 (i_1 + 2) ≤ 1
        have c_23' := Int32.not_lt.mpr c_23
        refine z_iconst (v := 0) dX5_spare_63 (by decide) ?_
        refine z_ior dX5_spare_64 ?_
        obtain ⟨x_24, ex_24⟩ : ∃ y : Int32, ((s_spare (I 24) (fun τ => decide ((s_go wv (I 10) (I 27) nh nd own now τ 24).1 1 = τ 1)) i_1) ||| 0) = y := ⟨_, rfl⟩
        refine z_eq ex_24 ?_
        refine z_istore_n (lv' := [(1, .int x_24), (0, .ref (L 99)), (2, .int (nI (i_1)))]) dX5_spare_65 rfl (by decide) rfl ?_
        refine z_iinc (v := nI (i_1 + 1)) (lv' := [(2, .int (nI (i_1 + 1))), (1, .int x_24), (0, .ref (L 99))]) 2 dX5_spare_66 rfl (nI_1 _) (by decide) rfl ?_
        refine z_goto 9 dX5_spare_69 (by decide) ?_
        have f_25 : x_24 = s_spare (I 24) (fun τ => decide ((s_go wv (I 10) (I 27) nh nd own now τ 24).1 1 = τ 1)) (i_1 + 1) := by first | rfl | omega | (simp [s_spare, s_bit, hb_4, c_18, c_23, c_23']; done) | ((try subst ex_24); (try subst ex_22); simp [s_spare, s_bit, hb_4, c_18, c_23, c_23'])
        subst f_25
        refine z_lv (lv' := [(0, .ref (L 99)), (1, .int (s_spare (I 24) (fun τ => decide ((s_go wv (I 10) (I 27) nh nd own now τ 24).1 1 = τ 1)) (i_1 + 1))), (2, .int (nI (i_1 + 1)))]) [2, 1, 0] rfl ?_
        exact ih_3 (i_1 + 1) (by omega) (by omega) _ _ _ _ 
      · -- ¬ I 24 (i_1 + 2) ≤ 1
        have c_23' := Int32.not_le.mp c_23
        refine z_aload_n 0 dX5_spare_48 rfl ?_
        refine z_bipush (v := 24) dX5_spare_49 (by decide) ?_
        refine z_callV (As := [.int 24]) (t_isCalm (I := (zs I 99 0 0)) (τ := (zs1 (I 24) (i_1 + 2) x_22)) (c := c_7) (o := o_8) hL hV hlaw 24 (by omega) ((zs1_n (by omega)).trans hw) (by omega)) q1964 q1966 qs103 q121 q1967 nm_X5_isCalm (tX_obj hL) rfl rfl rfl (Nat.le_of_ble_eq_true rfl) ⟨Nat.le_of_ble_eq_true rfl, Nat.le_of_ble_eq_true rfl⟩ dX5_spare_51 rfl rfl (Nat.le_of_ble_eq_true rfl) (Nat.le_of_ble_eq_true rfl) (fun v_29 X_30 hp_31 => ?_)
        obtain ⟨rfl, c_26, o_27, Gb_28, rfl⟩ := hp_31
        refine z_st (st' := [.int (zb (decide ((s_go wv (I 10) (I 27) nh nd own now (zs1 (I 24) (i_1 + 2) x_22) 24).1 1 = (zs1 (I 24) (i_1 + 2) x_22) 1))), .int (s_spare (I 24) (fun τ => decide ((s_go wv (I 10) (I 27) nh nd own now τ 24).1 1 = τ 1)) i_1)]) rfl ?_
        refine z_if_eqb 63 dX5_spare_54 (by decide) (fun c_32 => ?_) (fun c_32 => ?_)
        · -- decide ((s_go wv (I 10) (I 27) nh nd own now (zs1 (I 24) (i_1 + 2) x_22) 24).1 1 = (zs1 (I 24) (i_1 + 2) x_22) 1) = false
          refine z_iconst (v := 0) dX5_spare_63 (by decide) ?_
          refine z_ior dX5_spare_64 ?_
          obtain ⟨x_33, ex_33⟩ : ∃ y : Int32, ((s_spare (I 24) (fun τ => decide ((s_go wv (I 10) (I 27) nh nd own now τ 24).1 1 = τ 1)) i_1) ||| 0) = y := ⟨_, rfl⟩
          refine z_eq ex_33 ?_
          refine z_istore_n (lv' := [(1, .int x_33), (0, .ref (L 99)), (2, .int (nI (i_1)))]) dX5_spare_65 rfl (by decide) rfl ?_
          refine z_iinc (v := nI (i_1 + 1)) (lv' := [(2, .int (nI (i_1 + 1))), (1, .int x_33), (0, .ref (L 99))]) 2 dX5_spare_66 rfl (nI_1 _) (by decide) rfl ?_
          refine z_goto 9 dX5_spare_69 (by decide) ?_
          have f_34 : x_33 = s_spare (I 24) (fun τ => decide ((s_go wv (I 10) (I 27) nh nd own now τ 24).1 1 = τ 1)) (i_1 + 1) := by first | rfl | omega | (simp [s_spare, s_bit, hb_4, c_18, c_23, c_23', c_32]; done) | ((try subst ex_33); (try subst ex_22); simp [s_spare, s_bit, hb_4, c_18, c_23, c_23', c_32])
          subst f_34
          refine z_lv (lv' := [(0, .ref (L 99)), (1, .int (s_spare (I 24) (fun τ => decide ((s_go wv (I 10) (I 27) nh nd own now τ 24).1 1 = τ 1)) (i_1 + 1))), (2, .int (nI (i_1 + 1)))]) [2, 1, 0] rfl ?_
          exact ih_3 (i_1 + 1) (by omega) (by omega) _ _ _ _ 
        · -- decide ((s_go wv (I 10) (I 27) nh nd own now (zs1 (I 24) (i_1 + 2) x_22) 24).1 1 = (zs1 (I 24) (i_1 + 2) x_22) 1) = true
          refine z_iconst (v := 1) dX5_spare_57 (by decide) ?_
          refine z_iload_n 2 dX5_spare_58 rfl ?_
          refine z_ishl dX5_spare_59 ?_
          refine z_goto 64 dX5_spare_60 (by decide) ?_
          refine z_ior dX5_spare_64 ?_
          obtain ⟨x_35, ex_35⟩ : ∃ y : Int32, ((s_spare (I 24) (fun τ => decide ((s_go wv (I 10) (I 27) nh nd own now τ 24).1 1 = τ 1)) i_1) ||| (1 <<< ((nI (i_1)) &&& 31))) = y := ⟨_, rfl⟩
          refine z_eq ex_35 ?_
          refine z_istore_n (lv' := [(1, .int x_35), (0, .ref (L 99)), (2, .int (nI (i_1)))]) dX5_spare_65 rfl (by decide) rfl ?_
          refine z_iinc (v := nI (i_1 + 1)) (lv' := [(2, .int (nI (i_1 + 1))), (1, .int x_35), (0, .ref (L 99))]) 2 dX5_spare_66 rfl (nI_1 _) (by decide) rfl ?_
          refine z_goto 9 dX5_spare_69 (by decide) ?_
          have f_36 : x_35 = s_spare (I 24) (fun τ => decide ((s_go wv (I 10) (I 27) nh nd own now τ 24).1 1 = τ 1)) (i_1 + 1) := by first | rfl | omega | (simp [s_spare, s_bit, hb_4, c_18, c_23, c_23', c_32]; done) | ((try subst ex_35); (try subst ex_22); simp [s_spare, s_bit, hb_4, c_18, c_23, c_23', c_32])
          subst f_36
          refine z_lv (lv' := [(0, .ref (L 99)), (1, .int (s_spare (I 24) (fun τ => decide ((s_go wv (I 10) (I 27) nh nd own now τ 24).1 1 = τ 1)) (i_1 + 1))), (2, .int (nI (i_1 + 1)))]) [2, 1, 0] rfl ?_
          exact ih_3 (i_1 + 1) (by omega) (by omega) _ _ _ _ 
  have f_37 : 0 = s_spare (I 24) (fun τ => decide ((s_go wv (I 10) (I 27) nh nd own now τ 24).1 1 = τ 1)) 0 := by rfl
  refine z_lv (lv' := [(0, .ref (L 99)), (1, .int (s_spare (I 24) (fun τ => decide ((s_go wv (I 10) (I 27) nh nd own now τ 24).1 1 = τ 1)) 0)), (2, .int 0)]) [2, 1, 0] (by rw [← f_37]; rfl) ?_
  exact loop_5 (nh - 0) 0 (by omega) (Nat.le_refl _) _ _ _ _ 
