/-! THE COMPONENT: who lies with whom. Printed by t57.py -/
set_option maxRecDepth 100000
theorem s_cnt_t {p : Nat → Bool} {n : Nat} (h : p n = true) : s_cnt p (n + 1) = s_cnt p n + 1 := by
  show s_cnt p n + (if p n = true then 1 else 0) = _
  rw [if_pos h]
theorem s_cnt_f1 {p : Nat → Bool} {n : Nat} (h : p n = false) : s_cnt p (n + 1) = s_cnt p n := by
  show s_cnt p n + (if p n = true then 1 else 0) = _
  rw [if_neg (by rw [h]; decide)]
  rfl
set_option maxHeartbeats 4000000 in
theorem c_peace {g : zG} {A : Nat → Nat} {K : Nat → Nat → Int32} {F : Nat → Int32} {O : Nat → Nat → Option Nat} {gl : Int64} {X : zX} (hA : cok g A X) {v : Nat} (hO : O 0 0 = some v) {vs : Nat → Int32} {nh nd : Nat} {own : Nat → Nat} {wv : Int32 → Int32 → Int32 → Int32 → Int32} (hV : s_ok vs nh nd own) (hv : cvl g X v vs nh nd wv) {σ ds τ es : Nat → Int32} {dt2 yr2 o : Int32} {now : Nat} (hnow : now < 2 ^ 28) (hiv : s_iv σ nd) (hwh : ∀ g, g < nd → σ (g + 6) < 0 ∨ ∃ h, h < nh ∧ σ (g + 6) = nI h) : zN g m_X1_peace ({ frames := 2, cells := 0, slots := 0, locals := 40 } : Room) [.ref (A 99)] (cX g A (cput (cput (zs K 99 8 o) 300 σ ds (nI (now % 12)) (nI (now / 12))) 310 τ es dt2 yr2) F O gl X) (fun rv X' => rv = some (.int (s_pairs σ nd nh)) ∧ X' = (cX g A (cput (cput (zs K 99 8 o) 300 σ ds (nI (now % 12)) (nI (now / 12))) 310 τ es dt2 yr2) F O gl X)) := by
  refine zN.of (by decide +kernel) (Nat.le_of_ble_eq_true rfl) rfl ?_
  refine z_lv (lv' := [(0, .ref (A 99))]) [0] rfl ?_
  have hA2 := hA.2.2.1
  have hV9 := hV
  have hv9 := hv
  obtain ⟨h0, hnh, h1, hnd, hown⟩ := hV9
  obtain ⟨lh, lg, fh, fg, st9, fa, hxv, ⟨mh, eh, ch, hlh, heh, hch1, hch2⟩, ⟨mg, eg, cg, hlg, heg, hcg1, hcg2⟩, hhs, hgs, hst9, hfa⟩ := hv9
  refine z_iconst (v := 0) dX1_peace_0 (by decide) ?_
  refine z_istore_n (lv' := [(1, .int 0), (0, .ref (A 99))]) dX1_peace_1 rfl (by decide) rfl ?_
  refine z_iconst (v := 0) dX1_peace_2 (by decide) ?_
  refine z_istore_n (lv' := [(2, .int 0), (1, .int 0), (0, .ref (A 99))]) dX1_peace_3 rfl (by decide) rfl ?_
  have loop_5 : ∀ (q_2 i_1 : Nat), i_1 + q_2 = nd → 0 ≤ i_1 → zZ g m_X1_peace (fun rv X' => rv = some (.int (s_pairs σ nd nh)) ∧ X' = (cX g A (cput (cput (zs K 99 8 o) 300 σ ds (nI (now % 12)) (nI (now / 12))) 310 τ es dt2 yr2) F O gl X), zno, ({ frames := 2, cells := 0, slots := 0, locals := 40 } : Room)) 0 0 (cX g A (cput (cput (zs K 99 8 o) 300 σ ds (nI (now % 12)) (nI (now / 12))) 310 τ es dt2 yr2) F O gl X) 4 [(0, .ref (A 99)), (1, .int (nI ((s_prs σ i_1)))), (2, .int (nI (i_1)))] [] := by
    intro q_2
    induction q_2 with
    | zero =>
      intro i_1 hb_4 lo_6  
      obtain rfl : nd = i_1 := by omega
      refine z_iload_n 2 dX1_peace_4 rfl ?_
      refine z_aload_n 0 dX1_peace_5 rfl ?_
      refine z_callV (As := []) (c_guests (K := (cput (cput (zs K 99 8 o) 300 σ ds (nI (now % 12)) (nI (now / 12))) 310 τ es dt2 yr2)) (F := F) (gl := gl) hA hO hxv hlh heh hch1 hch2 hlg heg hcg1 hcg2) q1139 q1141 qs30 q112 q1142 nm_X1_guests (cX_obj hA) rfl rfl rfl (Nat.le_of_ble_eq_true rfl) ⟨Nat.le_of_ble_eq_true rfl, Nat.le_of_ble_eq_true rfl⟩ dX1_peace_6 rfl rfl (Nat.le_of_ble_eq_true rfl) (Nat.le_of_ble_eq_true rfl) (fun v_7 X_8 hp_9 => ?_)
      obtain ⟨rfl, rfl⟩ := hp_9
      refine z_st (st' := [.int (nI (nd)), .int (nI (nd))]) rfl ?_
      refine z_icmp_geN (a := nd) (b := nd) 67 (by omega) (by omega) dX1_peace_9 (by decide) (fun c_10 => ?_) (fun c_10 => absurd c_10 (by omega))
      refine z_iload_n 1 dX1_peace_67 rfl ?_
      exact z_iret dX1_peace_68 rfl (Nat.le_of_ble_eq_true rfl) (Nat.le_of_ble_eq_true rfl) ⟨congrArg some (congrArg Value.int (by rw [s_pairs_t hnd, s_prs_t hnh nd hwh])), rfl⟩
    | succ q_2 ih_3 =>
      intro i_1 hb_4 lo_6  
      refine z_iload_n 2 dX1_peace_4 rfl ?_
      refine z_aload_n 0 dX1_peace_5 rfl ?_
      refine z_callV (As := []) (c_guests (K := (cput (cput (zs K 99 8 o) 300 σ ds (nI (now % 12)) (nI (now / 12))) 310 τ es dt2 yr2)) (F := F) (gl := gl) hA hO hxv hlh heh hch1 hch2 hlg heg hcg1 hcg2) q1139 q1141 qs30 q112 q1142 nm_X1_guests (cX_obj hA) rfl rfl rfl (Nat.le_of_ble_eq_true rfl) ⟨Nat.le_of_ble_eq_true rfl, Nat.le_of_ble_eq_true rfl⟩ dX1_peace_6 rfl rfl (Nat.le_of_ble_eq_true rfl) (Nat.le_of_ble_eq_true rfl) (fun v_11 X_12 hp_13 => ?_)
      obtain ⟨rfl, rfl⟩ := hp_13
      refine z_st (st' := [.int (nI (nd)), .int (nI (i_1))]) rfl ?_
      refine z_icmp_geN (a := i_1) (b := nd) 67 (by omega) (by omega) dX1_peace_9 (by decide) (fun c_14 => absurd c_14 (by omega)) (fun c_14 => ?_)
      refine z_iconst (v := 0) dX1_peace_12 (by decide) ?_
      refine z_istore_n (lv' := [(3, .int 0), (0, .ref (A 99)), (1, .int (nI ((s_prs σ i_1)))), (2, .int (nI (i_1)))]) dX1_peace_13 rfl (by decide) rfl ?_
      have loop_19 : ∀ (q_16 i_15 : Nat), i_15 + q_16 = i_1 → 0 ≤ i_15 → zZ g m_X1_peace (fun rv X' => rv = some (.int (s_pairs σ nd nh)) ∧ X' = (cX g A (cput (cput (zs K 99 8 o) 300 σ ds (nI (now % 12)) (nI (now / 12))) 310 τ es dt2 yr2) F O gl X), zno, ({ frames := 2, cells := 0, slots := 0, locals := 40 } : Room)) 0 0 (cX g A (cput (cput (zs K 99 8 o) 300 σ ds (nI (now % 12)) (nI (now / 12))) 310 τ es dt2 yr2) F O gl X) 14 [(0, .ref (A 99)), (1, .int (nI ((s_prs σ i_1 + s_cnt (fun o => decide (0 ≤ σ (i_1 + 6)) && decide (σ (i_1 + 6) = σ (o + 6))) i_15)))), (2, .int (nI (i_1))), (3, .int (nI (i_15)))] [] := by
        intro q_16
        induction q_16 with
        | zero =>
          intro i_15 hb_18 lo_20  
          obtain rfl : i_1 = i_15 := by omega
          refine z_iload_n 3 dX1_peace_14 rfl ?_
          refine z_iload_n 2 dX1_peace_15 rfl ?_
          refine z_icmp_geN (a := i_1) (b := i_1) 61 (by omega) (by omega) dX1_peace_16 (by decide) (fun c_21 => ?_) (fun c_21 => absurd c_21 (by omega))
          refine z_iinc (v := nI (i_1 + 1)) (lv' := [(2, .int (nI (i_1 + 1))), (0, .ref (A 99)), (1, .int (nI ((s_prs σ i_1 + s_cnt (fun o => decide (0 ≤ σ (i_1 + 6)) && decide (σ (i_1 + 6) = σ (o + 6))) i_1)))), (3, .int (nI (i_1)))]) 2 dX1_peace_61 rfl (nI_1 _) (by decide) rfl ?_
          refine z_goto 4 dX1_peace_64 (by decide) ?_
          have f_22 : nI ((s_prs σ i_1 + s_cnt (fun o => decide (0 ≤ σ (i_1 + 6)) && decide (σ (i_1 + 6) = σ (o + 6))) i_1)) = nI ((s_prs σ (i_1 + 1))) := by rfl
          refine z_lv (lv' := [(0, .ref (A 99)), (1, .int (nI ((s_prs σ (i_1 + 1))))), (2, .int (nI (i_1 + 1)))]) [1, 2, 0] (by rw [← f_22]; rfl) ?_
          exact ih_3 (i_1 + 1) (by omega) (by omega)  
        | succ q_16 ih_17 =>
          intro i_15 hb_18 lo_20  
          refine z_iload_n 3 dX1_peace_14 rfl ?_
          refine z_iload_n 2 dX1_peace_15 rfl ?_
          refine z_icmp_geN (a := i_15) (b := i_1) 61 (by omega) (by omega) dX1_peace_16 (by decide) (fun c_23 => absurd c_23 (by omega)) (fun c_23 => ?_)
          refine z_aload_n 0 dX1_peace_19 rfl ?_
          refine cz_get (v := .ref (A 309)) 4 hA (by decide) q331 rfl dX1_peace_20 ?_
          refine cz_getSN (s := 300) (v := .ref (A 302)) 2 hA (cst_0 hA) (by decide) q265 rfl dX1_peace_23 ?_
          refine z_iload_n 2 dX1_peace_26 rfl ?_
          refine cz_iald (v := σ (i_1 + 6)) 302 i_1 hA (by unfold cia; omega) rfl (by have h9 : csz 302 = 6 := rfl; omega) (by rw [cput_a (by omega), cput_where (by omega)]) dX1_peace_27 ?_
          refine z_if_lt 55 dX1_peace_28 (by decide) (fun c_24 => ?_) (fun c_24 => ?_)
          · -- σ (i_1 + 6) < 0
            have c_24' := Int32.not_le.mpr c_24
            refine z_iinc (v := nI (i_15 + 1)) (lv' := [(3, .int (nI (i_15 + 1))), (0, .ref (A 99)), (1, .int (nI ((s_prs σ i_1 + s_cnt (fun o => decide (0 ≤ σ (i_1 + 6)) && decide (σ (i_1 + 6) = σ (o + 6))) i_15)))), (2, .int (nI (i_1)))]) 3 dX1_peace_55 rfl (nI_1 _) (by decide) rfl ?_
            refine z_goto 14 dX1_peace_58 (by decide) ?_
            have f_25 : nI ((s_prs σ i_1 + s_cnt (fun o => decide (0 ≤ σ (i_1 + 6)) && decide (σ (i_1 + 6) = σ (o + 6))) i_15)) = nI ((s_prs σ i_1 + s_cnt (fun o => decide (0 ≤ σ (i_1 + 6)) && decide (σ (i_1 + 6) = σ (o + 6))) (i_15 + 1))) := congrArg nI ((congrArg (fun z => s_prs σ _ + z) (s_cnt_f1 (by show (decide (0 ≤ _) && decide (_ = _)) = false; rw [decide_eq_false c_24', Bool.false_and]))).symm)
            refine z_lv (lv' := [(0, .ref (A 99)), (1, .int (nI ((s_prs σ i_1 + s_cnt (fun o => decide (0 ≤ σ (i_1 + 6)) && decide (σ (i_1 + 6) = σ (o + 6))) (i_15 + 1))))), (2, .int (nI (i_1))), (3, .int (nI (i_15 + 1)))]) [1, 2, 3, 0] (by rw [← f_25]; rfl) ?_
            exact ih_17 (i_15 + 1) (by omega) (by omega)  
          · -- ¬ σ (i_1 + 6) < 0
            have c_24' := Int32.not_lt.mp c_24
            refine z_aload_n 0 dX1_peace_31 rfl ?_
            refine cz_get (v := .ref (A 309)) 4 hA (by decide) q331 rfl dX1_peace_32 ?_
            refine cz_getSN (s := 300) (v := .ref (A 302)) 2 hA (cst_0 hA) (by decide) q265 rfl dX1_peace_35 ?_
            refine z_iload_n 2 dX1_peace_38 rfl ?_
            refine cz_iald (v := σ (i_1 + 6)) 302 i_1 hA (by unfold cia; omega) rfl (by have h9 : csz 302 = 6 := rfl; omega) (by rw [cput_a (by omega), cput_where (by omega)]) dX1_peace_39 ?_
            refine z_aload_n 0 dX1_peace_40 rfl ?_
            refine cz_get (v := .ref (A 309)) 4 hA (by decide) q331 rfl dX1_peace_41 ?_
            refine cz_getSN (s := 300) (v := .ref (A 302)) 2 hA (cst_0 hA) (by decide) q265 rfl dX1_peace_44 ?_
            refine z_iload_n 3 dX1_peace_47 rfl ?_
            refine cz_iald (v := σ (i_15 + 6)) 302 i_15 hA (by unfold cia; omega) rfl (by have h9 : csz 302 = 6 := rfl; omega) (by rw [cput_a (by omega), cput_where (by omega)]) dX1_peace_48 ?_
            refine z_icmp_ne 55 dX1_peace_49 (by decide) (fun c_26 => ?_) (fun c_26 => ?_)
            · -- ¬ σ (i_1 + 6) = σ (i_15 + 6)
              refine z_iinc (v := nI (i_15 + 1)) (lv' := [(3, .int (nI (i_15 + 1))), (0, .ref (A 99)), (1, .int (nI ((s_prs σ i_1 + s_cnt (fun o => decide (0 ≤ σ (i_1 + 6)) && decide (σ (i_1 + 6) = σ (o + 6))) i_15)))), (2, .int (nI (i_1)))]) 3 dX1_peace_55 rfl (nI_1 _) (by decide) rfl ?_
              refine z_goto 14 dX1_peace_58 (by decide) ?_
              have f_27 : nI ((s_prs σ i_1 + s_cnt (fun o => decide (0 ≤ σ (i_1 + 6)) && decide (σ (i_1 + 6) = σ (o + 6))) i_15)) = nI ((s_prs σ i_1 + s_cnt (fun o => decide (0 ≤ σ (i_1 + 6)) && decide (σ (i_1 + 6) = σ (o + 6))) (i_15 + 1))) := congrArg nI ((congrArg (fun z => s_prs σ _ + z) (s_cnt_f1 (by show (decide (0 ≤ _) && decide (_ = _)) = false; rw [decide_eq_false c_26, Bool.and_false]))).symm)
              refine z_lv (lv' := [(0, .ref (A 99)), (1, .int (nI ((s_prs σ i_1 + s_cnt (fun o => decide (0 ≤ σ (i_1 + 6)) && decide (σ (i_1 + 6) = σ (o + 6))) (i_15 + 1))))), (2, .int (nI (i_1))), (3, .int (nI (i_15 + 1)))]) [1, 2, 3, 0] (by rw [← f_27]; rfl) ?_
              exact ih_17 (i_15 + 1) (by omega) (by omega)  
            · -- σ (i_1 + 6) = σ (i_15 + 6)
              refine z_iinc (v := nI ((s_prs σ i_1 + s_cnt (fun o => decide (0 ≤ σ (i_1 + 6)) && decide (σ (i_1 + 6) = σ (o + 6))) i_15) + 1)) (lv' := [(1, .int (nI ((s_prs σ i_1 + s_cnt (fun o => decide (0 ≤ σ (i_1 + 6)) && decide (σ (i_1 + 6) = σ (o + 6))) i_15) + 1))), (0, .ref (A 99)), (2, .int (nI (i_1))), (3, .int (nI (i_15)))]) 1 dX1_peace_52 rfl (nI_1 _) (by decide) rfl ?_
              refine z_iinc (v := nI (i_15 + 1)) (lv' := [(3, .int (nI (i_15 + 1))), (1, .int (nI ((s_prs σ i_1 + s_cnt (fun o => decide (0 ≤ σ (i_1 + 6)) && decide (σ (i_1 + 6) = σ (o + 6))) i_15) + 1))), (0, .ref (A 99)), (2, .int (nI (i_1)))]) 3 dX1_peace_55 rfl (nI_1 _) (by decide) rfl ?_
              refine z_goto 14 dX1_peace_58 (by decide) ?_
              have f_28 : nI ((s_prs σ i_1 + s_cnt (fun o => decide (0 ≤ σ (i_1 + 6)) && decide (σ (i_1 + 6) = σ (o + 6))) i_15) + 1) = nI ((s_prs σ i_1 + s_cnt (fun o => decide (0 ≤ σ (i_1 + 6)) && decide (σ (i_1 + 6) = σ (o + 6))) (i_15 + 1))) := congrArg nI ((congrArg (fun z => s_prs σ _ + z) (s_cnt_t (by show (decide (0 ≤ _) && decide (_ = _)) = true; rw [decide_eq_true c_24', decide_eq_true c_26]; rfl))).symm)
              refine z_lv (lv' := [(0, .ref (A 99)), (1, .int (nI ((s_prs σ i_1 + s_cnt (fun o => decide (0 ≤ σ (i_1 + 6)) && decide (σ (i_1 + 6) = σ (o + 6))) (i_15 + 1))))), (2, .int (nI (i_1))), (3, .int (nI (i_15 + 1)))]) [2, 1, 3, 0] (by rw [← f_28]; rfl) ?_
              exact ih_17 (i_15 + 1) (by omega) (by omega)  
      have f_29 : nI ((s_prs σ i_1)) = nI ((s_prs σ i_1 + s_cnt (fun o => decide (0 ≤ σ (i_1 + 6)) && decide (σ (i_1 + 6) = σ (o + 6))) 0)) := by rfl
      refine z_lv (lv' := [(0, .ref (A 99)), (1, .int (nI ((s_prs σ i_1 + s_cnt (fun o => decide (0 ≤ σ (i_1 + 6)) && decide (σ (i_1 + 6) = σ (o + 6))) 0)))), (2, .int (nI (i_1))), (3, .int 0)]) [1, 2, 3, 0] (by rw [← f_29]; rfl) ?_
      exact loop_19 (i_1 - 0) 0 (by omega) (Nat.le_refl _)  
  have f_30 : 0 = nI ((s_prs σ 0)) := by rfl
  refine z_lv (lv' := [(0, .ref (A 99)), (1, .int (nI ((s_prs σ 0)))), (2, .int 0)]) [2, 1, 0] (by rw [← f_30]; rfl) ?_
  exact loop_5 (nd - 0) 0 (by omega) (Nat.le_refl _)  
