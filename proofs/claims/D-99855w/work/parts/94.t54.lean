/-! THE COMPONENT: who is turned off. Printed by t54.py -/
set_option maxRecDepth 100000
set_option maxHeartbeats 4000000 in
theorem c_refused {g : zG} {A : Nat → Nat} {K : Nat → Nat → Int32} {F : Nat → Int32} {O : Nat → Nat → Option Nat} {gl : Int64} {X : zX} (hA : cok g A X) {v : Nat} (hO : O 0 0 = some v) {vs : Nat → Int32} {nh nd : Nat} {own : Nat → Nat} {wv : Int32 → Int32 → Int32 → Int32 → Int32} (hV : s_ok vs nh nd own) (hv : cvl g X v vs nh nd wv) {σ ds τ es : Nat → Int32} {dt2 yr2 o : Int32} {now : Nat} (hnow : now < 2 ^ 28) (hiv : s_iv σ nd) (w : Int32) : zN g m_X1_refused ({ frames := 1002, cells := 0, slots := 0, locals := 40047 } : Room) [.ref (A 99), .int w] (cX g A (cput (cput (zs K 99 8 o) 300 σ ds (nI (now % 12)) (nI (now / 12))) 310 τ es dt2 yr2) F O gl X) (fun rv X' => rv = some (.int (if (decide (0 ≤ w) && decide (w ≤ 1)) = true then s_fst (s_offP (s_go wv vs ds nh nd own now σ)) (s_refR (s_go wv vs ds nh nd own now σ) w) 60 1 else zm1)) ∧ ∃ (o' : Int32) (F' τ' es' : Nat → Int32) (dt' yr' : Int32), X' = cX g A (cput (cput (zs K 99 8 o') 300 σ ds (nI (now % 12)) (nI (now / 12))) 310 τ' es' dt' yr') F' O gl X) := by
  refine zN.of (by decide +kernel) (Nat.le_of_ble_eq_true rfl) rfl ?_
  refine z_lv (lv' := [(0, .ref (A 99)), (1, .int w)]) [0, 1] rfl ?_
  have hA2 := hA.2.2.1
  have hV9 := hV
  have hv9 := hv
  obtain ⟨h0, hnh, h1, hnd, hown⟩ := hV9
  obtain ⟨lh, lg, fh, fg, st9, fa, hxv, ⟨mh, eh, ch, hlh, heh, hch1, hch2⟩, ⟨mg, eg, cg, hlg, heg, hcg1, hcg2⟩, hhs, hgs, hst9, hfa⟩ := hv9
  refine z_iload_n 1 dX1_refused_0 rfl ?_
  refine z_iconst (v := 0) dX1_refused_1 (by decide) ?_
  refine z_iconst (v := 1) dX1_refused_2 (by decide) ?_
  refine z_callS (As := [.int w, .int 0, .int 1]) (c_inn w 0 1) q1132 q1133 q112 q1134 nm_X1_in rfl (Nat.le_of_ble_eq_true rfl) ⟨Nat.le_of_ble_eq_true rfl, Nat.le_of_ble_eq_true rfl⟩ dX1_refused_3 rfl rfl (Nat.le_of_ble_eq_true rfl) (Nat.le_of_ble_eq_true rfl) (fun v_1 X_2 hp_3 => ?_)
  obtain ⟨rfl, rfl⟩ := hp_3
  refine z_st (st' := [.int (zb (decide (0 ≤ w) && decide (w ≤ 1)))]) rfl ?_
  refine z_if_neb 11 dX1_refused_6 (by decide) (fun c_4 => ?_) (fun c_4 => ?_)
  · -- decide (0 ≤ w) && decide (w ≤ 1) = true
    refine z_aload_n 0 dX1_refused_11 rfl ?_
    refine cz_get (v := .ref (A 319)) 5 hA (by decide) q332 rfl dX1_refused_12 ?_
    refine z_aload_n 0 dX1_refused_15 rfl ?_
    refine cz_get (v := .ref (A 309)) 4 hA (by decide) q331 rfl dX1_refused_16 ?_
    refine z_callV (As := [.ref (A 309)]) (c_be (K := (zs K 99 8 o)) (F := F) (O := O) (gl := gl) hA (cst_1 hA) (cst_0 hA) (by omega) (σ := τ) (τ := σ) (ds := es) (es := ds)) q1202 q1203 q1204 q118 q1205 nm_X4_be (cX_st hA (cst_1 hA)) rfl rfl rfl (Nat.le_of_ble_eq_true rfl) ⟨Nat.le_of_ble_eq_true rfl, Nat.le_of_ble_eq_true rfl⟩ dX1_refused_19 rfl rfl (Nat.le_of_ble_eq_true rfl) (Nat.le_of_ble_eq_true rfl) (fun v_5 X_6 hp_7 => ?_)
    obtain ⟨rfl, rfl⟩ := hp_7
    refine z_st (st' := []) rfl ?_
    refine z_iconst (v := 1) dX1_refused_22 (by decide) ?_
    refine z_istore_n (lv' := [(2, .int 1), (0, .ref (A 99)), (1, .int w)]) dX1_refused_23 rfl (by decide) rfl ?_
    have loop_12 : ∀ (q_9 i_8 : Nat), i_8 + q_9 = 60 → 0 ≤ i_8 → ∀ (F_13 : Nat → Int32), ∀ (o_14 : Int32), s_fst (s_offP (s_go wv vs ds nh nd own now σ)) (s_refR (s_go wv vs ds nh nd own now σ) w) 60 1 = s_fst (s_offP (s_go wv vs ds nh nd own now σ)) (s_refR (s_go wv vs ds nh nd own now σ) w) q_9 (i_8 + 1) → zZ g m_X1_refused (fun rv X' => rv = some (.int (if (decide (0 ≤ w) && decide (w ≤ 1)) = true then s_fst (s_offP (s_go wv vs ds nh nd own now σ)) (s_refR (s_go wv vs ds nh nd own now σ) w) 60 1 else zm1)) ∧ ∃ (o' : Int32) (F' τ' es' : Nat → Int32) (dt' yr' : Int32), X' = cX g A (cput (cput (zs K 99 8 o') 300 σ ds (nI (now % 12)) (nI (now / 12))) 310 τ' es' dt' yr') F' O gl X, zno, ({ frames := 1002, cells := 0, slots := 0, locals := 40047 } : Room)) 0 0 (cX g A (cput (cput (zs K 99 8 o_14) 300 σ ds (nI (now % 12)) (nI (now / 12))) 310 ((s_go wv vs ds nh nd own now σ i_8).1) ds (nI ((now + i_8) % 12)) (nI ((now + i_8) / 12))) F_13 O gl X) 24 [(0, .ref (A 99)), (1, .int w), (2, .int (nI (i_8 + 1)))] [] := by
      intro q_9
      induction q_9 with
      | zero =>
        intro i_8 hb_11 lo_16 F_13 o_14 hi_15
        obtain rfl : 60 = i_8 := by omega
        refine z_iload_n 2 dX1_refused_24 rfl ?_
        refine z_bipush (v := 60) dX1_refused_25 (by decide) ?_
        refine z_icmp_gtN (a := 61) (b := 60) 68 (by decide) (by decide) dX1_refused_27 (by decide) (fun h_ => ?_) (fun h_ => absurd h_ (by decide))
        refine z_iconst (v := zm1) dX1_refused_68 (by decide) ?_
        exact z_iret dX1_refused_69 rfl (Nat.le_of_ble_eq_true rfl) (Nat.le_of_ble_eq_true rfl) ⟨congrArg some (congrArg Value.int (by rw [if_pos c_4]; exact hi_15.symm)), o_14, F_13, (s_go wv vs ds nh nd own now σ 60).1, ds, (nI ((now + 60) % 12)), (nI ((now + 60) / 12)), rfl⟩
      | succ q_9 ih_10 =>
        intro i_8 hb_11 lo_16 F_13 o_14 hi_15
        refine z_iload_n 2 dX1_refused_24 rfl ?_
        refine z_bipush (v := 60) dX1_refused_25 (by decide) ?_
        refine z_icmp_gtN (a := i_8 + 1) (b := 60) 68 (by omega) (by omega) dX1_refused_27 (by decide) (fun c_17 => absurd c_17 (by omega)) (fun c_17 => ?_)
        refine z_aload_n 0 dX1_refused_30 rfl ?_
        refine z_aload_n 0 dX1_refused_31 rfl ?_
        refine cz_get (v := .ref (A 319)) 5 hA (by decide) q332 rfl dX1_refused_32 ?_
        refine z_callV (As := [.ref (A 319)]) (c_passT (K := K) (F := F_13) (gl := gl) (σ0 := σ) (ds0 := ds) (dt0 := (nI (now % 12))) (yr0 := (nI (now / 12))) (σ := (s_go wv vs ds nh nd own now σ i_8).1) (ds := ds) hA hO hV hv (now := now + i_8) (by omega) (s_iv_go hV hiv i_8)) q1209 q1211 qs36 q112 q1212 nm_X1_passes (cX_obj hA) rfl rfl rfl (Nat.le_of_ble_eq_true rfl) ⟨Nat.le_of_ble_eq_true rfl, Nat.le_of_ble_eq_true rfl⟩ dX1_refused_35 rfl rfl (Nat.le_of_ble_eq_true rfl) (Nat.le_of_ble_eq_true rfl) (fun v_19 X_20 hp_21 => ?_)
        obtain ⟨rfl, F_18, rfl⟩ := hp_21
        refine z_st (st' := [.int ((s_pass wv vs ds nh nd own (now + i_8) ((s_go wv vs ds nh nd own now σ i_8).1)).2.1)]) rfl ?_
        refine z_pop dX1_refused_38 rfl ?_
        refine z_aload_n 0 dX1_refused_39 rfl ?_
        refine cz_get (v := .int ((s_pass wv vs ds nh nd own (now + i_8) ((s_go wv vs ds nh nd own now σ i_8).1)).2.2)) 8 hA (by decide) q335 rfl dX1_refused_40 ?_
        refine z_if_eq 62 dX1_refused_43 (by decide) (fun c_22 => ?_) (fun c_22 => ?_)
        · -- (s_pass wv vs ds nh nd own (now + i_8) ((s_go wv vs ds nh nd own now σ i_8).1)).2.2 = 0
          refine z_iinc (v := nI (i_8 + 2)) (lv' := [(2, .int (nI (i_8 + 2))), (0, .ref (A 99)), (1, .int w)]) 2 dX1_refused_62 rfl (nI_1 _) (by decide) rfl ?_
          refine z_goto 24 dX1_refused_65 (by decide) ?_
          refine z_lv (lv' := [(0, .ref (A 99)), (1, .int w), (2, .int (nI (i_8 + 2)))]) [1, 2, 0] rfl ?_
          refine z_X (X' := (cX g A (cput (cput (zs K 99 8 ((s_pass wv vs ds nh nd own (now + i_8) ((s_go wv vs ds nh nd own now σ i_8).1)).2.2)) 300 σ ds (nI (now % 12)) (nI (now / 12))) 310 ((s_go wv vs ds nh nd own now σ (i_8 + 1)).1) ds (nI ((now + (i_8 + 1)) % 12)) (nI ((now + (i_8 + 1)) / 12))) F_18 O gl X)) (by rfl) ?_
          exact ih_10 (i_8 + 1) (by omega) (by omega) _ _ (hi_15.trans (s_fst_f (decide_eq_false (fun h9 => h9 c_22))))
        · -- ¬ (s_pass wv vs ds nh nd own (now + i_8) ((s_go wv vs ds nh nd own now σ i_8).1)).2.2 = 0
          refine z_iload_n 1 dX1_refused_46 rfl ?_
          refine z_if_ne 54 dX1_refused_47 (by decide) (fun c_23 => ?_) (fun c_23 => ?_)
          · -- ¬ w = 0
            refine z_aload_n 0 dX1_refused_54 rfl ?_
            refine cz_get (v := .int ((s_pass wv vs ds nh nd own (now + i_8) ((s_go wv vs ds nh nd own now σ i_8).1)).2.2)) 8 hA (by decide) q335 rfl dX1_refused_55 ?_
            obtain ⟨m_24, hm_25, em_26⟩ : ∃ m, m < 64 ∧ (s_pass wv vs ds nh nd own (now + i_8) ((s_go wv vs ds nh nd own now σ i_8).1)).2.2 = nI m := (s_off_64 hnd)
            refine z_eq em_26 ?_
            refine z_callS (As := [.int (nI (m_24))]) (t_ntz m_24 (by omega) (fun h9 => c_22 (em_26.trans (by rw [h9]; rfl)))) q1341 q1342 q151 q1343 nm_J17_numberOfTrailingZeros rfl (Nat.le_of_ble_eq_true rfl) ⟨Nat.le_of_ble_eq_true rfl, Nat.le_of_ble_eq_true rfl⟩ dX1_refused_58 rfl rfl (Nat.le_of_ble_eq_true rfl) (Nat.le_of_ble_eq_true rfl) (fun v_27 X_28 hp_29 => ?_)
            obtain ⟨rfl, rfl⟩ := hp_29
            refine z_st (st' := [.int (s_low (nI (m_24)))]) rfl ?_
            refine z_eq (y := s_low ((s_pass wv vs ds nh nd own (now + i_8) ((s_go wv vs ds nh nd own now σ i_8).1)).2.2)) (by rw [em_26]) ?_
            exact z_iret dX1_refused_61 rfl (Nat.le_of_ble_eq_true rfl) (Nat.le_of_ble_eq_true rfl) ⟨congrArg some (congrArg Value.int (by rw [if_pos c_4]; exact ((hi_15.trans (s_fst_t (decide_eq_true c_22))).trans (if_neg c_23)).symm)), (s_pass wv vs ds nh nd own (now + i_8) ((s_go wv vs ds nh nd own now σ i_8).1)).2.2, F_18, (s_pass wv vs ds nh nd own (now + i_8) ((s_go wv vs ds nh nd own now σ i_8).1)).1, ds, (nI ((now + i_8 + 1) % 12)), (nI ((now + i_8 + 1) / 12)), rfl⟩
          · -- w = 0
            refine z_iload_n 2 dX1_refused_50 rfl ?_
            refine z_goto 61 dX1_refused_51 (by decide) ?_
            exact z_iret dX1_refused_61 rfl (Nat.le_of_ble_eq_true rfl) (Nat.le_of_ble_eq_true rfl) ⟨congrArg some (congrArg Value.int (by rw [if_pos c_4]; exact ((hi_15.trans (s_fst_t (decide_eq_true c_22))).trans (if_pos c_23)).symm)), (s_pass wv vs ds nh nd own (now + i_8) ((s_go wv vs ds nh nd own now σ i_8).1)).2.2, F_18, (s_pass wv vs ds nh nd own (now + i_8) ((s_go wv vs ds nh nd own now σ i_8).1)).1, ds, (nI ((now + i_8 + 1) % 12)), (nI ((now + i_8 + 1) / 12)), rfl⟩
    refine z_lv (lv' := [(0, .ref (A 99)), (1, .int w), (2, .int 1)]) [1, 2, 0] rfl ?_
    refine z_X (X' := (cX g A (cput (cput (zs K 99 8 o) 300 σ ds (nI (now % 12)) (nI (now / 12))) 310 ((s_go wv vs ds nh nd own now σ 0).1) ds (nI (now % 12)) (nI (now / 12))) F O gl X)) (by rfl) ?_
    exact loop_12 (60 - 0) 0 (by omega) (Nat.le_refl _) _ _ rfl
  · -- decide (0 ≤ w) && decide (w ≤ 1) = false
    refine z_iconst (v := zm1) dX1_refused_9 (by decide) ?_
    exact z_iret dX1_refused_10 rfl (Nat.le_of_ble_eq_true rfl) (Nat.le_of_ble_eq_true rfl) ⟨congrArg some (congrArg Value.int (by rw [if_neg (by rw [c_4]; decide)])), o, F, τ, es, dt2, yr2, rfl⟩
