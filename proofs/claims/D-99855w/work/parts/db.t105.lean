/-! EXPRESSIONS READ: products. Printed by t105.py -/
set_option maxRecDepth 100000
set_option maxHeartbeats 4000000 in
theorem rd_product_0 {g : zG} {X : zX} {r a : Nat} {vo : Option Nat} {T : rTP} (hT : rTk T) (hW : rW g X r T a 5 vo)  : zV g m_X2_product ({ frames := 7, cells := (2 * ((s_prods T.kd T.vl (s_part T.kd T.pl T.vl T.wd 0) (a, 0, [])).1 - a) + 1), slots := (10 * ((s_prods T.kd T.vl (s_part T.kd T.pl T.vl T.wd 0) (a, 0, [])).1 - a) + 7), locals := 159 } : Room) [.ref r] X (fun rv X' => ∃ e a', rv = some (.ref e) ∧ rE g X X' r T a a' 5 vo (s_prods T.kd T.vl (s_part T.kd T.pl T.vl T.wd 0)) e) (fun q E X' => ∃ f, ¬ f = 0 ∧ (s_prods T.kd T.vl (s_part T.kd T.pl T.vl T.wd 0) (a, 0, [])).2.1 = f ∧ rX X r T vo f q E X') := by
  refine zV.of (by decide +kernel) (Nat.le_of_ble_eq_true rfl) rfl ?_
  refine z_lv (lv' := [(0, .ref r)]) [0] rfl ?_
  have hn := hT.n
  have hW2 := hW
  obtain ⟨hr0, hx, hks, ha, va, hr, hva⟩ := hW
  have hcn := hT.c
  have hpl := hT.le ha
  have hto := hT.to ha
  have hk4 := hT.kd4 ha
  have hm1 : (s_part T.kd T.pl T.vl T.wd 0 (a, 0, [])).1 ≤ (s_prods T.kd T.vl (s_part T.kd T.pl T.vl T.wd 0) (a, 0, [])).1 := (s_gr_prl (s_gr_part 0) 1001 (s_part T.kd T.pl T.vl T.wd 0 (a, 0, []))).1
  have hm0 : a ≤ (s_part T.kd T.pl T.vl T.wd 0 (a, 0, [])).1 := ((s_gr_part 0) (a, 0, [])).1
  refine z_aload_n 0 dX2_product_0 rfl ?_
  refine z_callVx (As := []) (rd_part_0 hT hW2) q997 q999 qs23 q113 q1000 nm_X2_part hr rfl rfl rfl (Nat.le_of_ble_eq_true rfl) ⟨Nat.le_of_ble_eq_true rfl, Nat.le_of_ble_eq_true rfl⟩ dX2_product_1 rfl rfl (show (0 + (2 * ((s_part T.kd T.pl T.vl T.wd 0 (a, 0, [])).1 - a) + 1)) ≤ (2 * ((s_prods T.kd T.vl (s_part T.kd T.pl T.vl T.wd 0) (a, 0, [])).1 - a) + 1) by omega) (show (0 + (10 * ((s_part T.kd T.pl T.vl T.wd 0 (a, 0, [])).1 - a) + 7)) ≤ (10 * ((s_prods T.kd T.vl (s_part T.kd T.pl T.vl T.wd 0) (a, 0, [])).1 - a) + 7) by omega) rfl (fun q9 E9 X8 hp9 => by obtain ⟨f9, hf9, hs9, hx9⟩ := hp9; exact ⟨f9, hf9, (by show (s_prl T.kd T.vl (s_part T.kd T.pl T.vl T.wd 0) 1001 (s_part T.kd T.pl T.vl T.wd 0 (a, 0, []))).2.1 = f9; rw [(s_fx_prl 1001).s (by rw [hs9]; exact hf9), hs9]), hx9.tr rto.rf⟩) (fun v_4 X1 hp_5 => ?_)
  obtain ⟨e1, a1, rfl, c1, w1, he1, hal1, hxe1, hcd1, ht1, hw1⟩ := hp_5
  have hsz1 : (s_part T.kd T.pl T.vl T.wd 0 (a, 0, [])).1 = a1 := by rw [he1]
  have hWk2 := hw1
  obtain ⟨-, hx2, hks2, ha2, va2, hr2, hva2⟩ := hw1
  have hrt2 := rto.rf.tr ht1
  have hpl2 := hT.le ha2
  have hto2 := hT.to ha2
  have hk42 := hT.kd4 ha2
  refine z_st (st' := [.ref e1]) rfl ?_
  refine z_astore_n (lv' := [(1, .ref e1), (0, .ref r)]) dX2_product_4 rfl (by decide) rfl ?_
  have loop_9 : ∀ (q_6 : Nat) (m_10 : Nat) (X9_11 : zX) (a9_12 : Nat) (e9_13 : Nat) (c9_14 : List (Nat × Int32)) (w9_15 : Int32 → Int32 → Int32 → Int32 → Int32), (a < a9_12) → (T.cnt < m_10 + a9_12) → (s_prl T.kd T.vl (s_part T.kd T.pl T.vl T.wd 0) m_10 (a9_12, 0, c9_14) = s_prods T.kd T.vl (s_part T.kd T.pl T.vl T.wd 0) (a, 0, [])) → (cexp X9_11 (a9_12 - a) e9_13 w9_15) → (k_cd c9_14 w9_15) → (rto X X9_11 r) → (rW g X9_11 r T a9_12 5 vo) → m_10 < q_6 → zZ g m_X2_product (fun rv X' => ∃ e a', rv = some (.ref e) ∧ rE g X X' r T a a' 5 vo (s_prods T.kd T.vl (s_part T.kd T.pl T.vl T.wd 0)) e, fun q E X' => ∃ f, ¬ f = 0 ∧ (s_prods T.kd T.vl (s_part T.kd T.pl T.vl T.wd 0) (a, 0, [])).2.1 = f ∧ rX X r T vo f q E X', ({ frames := 7, cells := (2 * ((s_prods T.kd T.vl (s_part T.kd T.pl T.vl T.wd 0) (a, 0, [])).1 - a) + 1), slots := (10 * ((s_prods T.kd T.vl (s_part T.kd T.pl T.vl T.wd 0) (a, 0, [])).1 - a) + 7), locals := 159 } : Room)) (2 * (a9_12 - a) + 1) (10 * (a9_12 - a) + 7) X9_11 5 [(0, .ref r), (1, .ref e9_13)] [] := by
    intro q_6
    induction q_6 with
    | zero => intro m_10 X9_11 a9_12 e9_13 c9_14 w9_15 h1_16 h5_17 h6_18 hx_19 hc_20 ht_21 hw_22 hm_8; exact absurd hm_8 (Nat.not_lt_zero _)
    | succ q_6 ih_7 =>
      intro m_10 X9_11 a9_12 e9_13 c9_14 w9_15 h1_16 h5_17 h6_18 hx_19 hc_20 ht_21 hw_22 hm_8
      obtain ⟨m_23, rfl⟩ : ∃ m9, m_10 = m9 + 1 := ⟨m_10 - 1, by have := hw_22.2.2.2.1; omega⟩
      obtain ⟨-, hxX9_11, hksX9_11, haX9_11, vaX9_11, hrX9_11, hvaX9_11⟩ := id hw_22
      have hplX9_11 := hT.le haX9_11
      have htoX9_11 := hT.to haX9_11
      have hk4X9_11 := hT.kd4 haX9_11
      have hge9 : a9_12 ≤ (s_prods T.kd T.vl (s_part T.kd T.pl T.vl T.wd 0) (a, 0, [])).1 := by rw [← h6_18]; exact (s_gr_prl (s_gr_part 0) (m_23 + 1) (a9_12, 0, c9_14)).1
      refine z_aload_n 0 dX2_product_5 rfl ?_
      refine z_bipush (v := 42) dX2_product_6 (by decide) ?_
      refine z_callV (As := [.int 42]) (rd_isSign hT hw_22 42) q1003 q1005 qs24 q113 q1006 nm_X2_isSign hrX9_11 rfl rfl rfl (Nat.le_of_ble_eq_true rfl) ⟨Nat.le_of_ble_eq_true rfl, Nat.le_of_ble_eq_true rfl⟩ dX2_product_8 rfl rfl (show (2 * (a9_12 - a) + 1) ≤ (2 * ((s_prods T.kd T.vl (s_part T.kd T.pl T.vl T.wd 0) (a, 0, [])).1 - a) + 1) by omega) (show (10 * (a9_12 - a) + 7) ≤ (10 * ((s_prods T.kd T.vl (s_part T.kd T.pl T.vl T.wd 0) (a, 0, [])).1 - a) + 7) by omega) (fun v_24 X_25 hp_26 => ?_)
      obtain ⟨rfl, h7⟩ := hp_26
      replace h7 := h7.symm
      subst h7
      refine z_st (st' := [.int (zb (s_isS T.kd T.vl a9_12 0 42))]) rfl ?_
      refine z_if_eqb 36 dX2_product_11 (by decide) (fun c_27 => ?_) (fun c_27 => ?_)
      · -- s_isS T.kd T.vl a9_12 0 42 = false
        have hfin : s_prods T.kd T.vl (s_part T.kd T.pl T.vl T.wd 0) (a, 0, []) = (a9_12, 0, c9_14) := h6_18.symm.trans (by show (if s_isS T.kd T.vl a9_12 0 42 = true then _ else _) = _; rw [if_neg (by rw [c_27]; decide)])
        have hfin1 : (s_prods T.kd T.vl (s_part T.kd T.pl T.vl T.wd 0) (a, 0, [])).1 = a9_12 := by rw [hfin]
        refine z_aload_n 1 dX2_product_36 rfl ?_
        exact z_aret dX2_product_37 rfl (Or.inl ⟨_, rfl⟩) (Or.inr ⟨_, rfl⟩) (show (2 * (a9_12 - a) + 1) ≤ (2 * ((s_prods T.kd T.vl (s_part T.kd T.pl T.vl T.wd 0) (a, 0, [])).1 - a) + 1) by omega) (show (10 * (a9_12 - a) + 7) ≤ (10 * ((s_prods T.kd T.vl (s_part T.kd T.pl T.vl T.wd 0) (a, 0, [])).1 - a) + 7) by omega) ⟨e9_13, a9_12, rfl, c9_14, w9_15, hfin, h1_16, hx_19, hc_20, ht_21, hw_22⟩
      · -- s_isS T.kd T.vl a9_12 0 42 = true
        have hk39 := s_isS_i c_27
        have hal9 := (hT.lt haX9_11 (by omega)).1
        have hm9 : (s_part T.kd T.pl T.vl T.wd 0 (a9_12 + 1, 0, [])).1 ≤ (s_prods T.kd T.vl (s_part T.kd T.pl T.vl T.wd 0) (a, 0, [])).1 := by rw [← h6_18, ← ((s_ap_part (kd := T.kd) (pl := T.pl) (vl := T.vl) (wd := T.wd) 0).f (a := a9_12 + 1) (f := 0) c9_14).1]; show _ ≤ (if s_isS T.kd T.vl a9_12 0 42 = true then s_prl T.kd T.vl (s_part T.kd T.pl T.vl T.wd 0) m_23 (s_emit (s_part T.kd T.pl T.vl T.wd 0 (a9_12 + 1, 0, c9_14)) 6 0) else _).1; rw [if_pos c_27]; exact (s_gr_prl (s_gr_part 0) m_23 (s_emit (s_part T.kd T.pl T.vl T.wd 0 (a9_12 + 1, 0, c9_14)) 6 0)).1
        have hm8 : a9_12 + 1 ≤ (s_part T.kd T.pl T.vl T.wd 0 (a9_12 + 1, 0, [])).1 := ((s_gr_part 0) (a9_12 + 1, 0, [])).1
        refine z_aload_n 0 dX2_product_14 rfl ?_
        refine z_callV (As := []) (rd_nxt hT hw_22 (by omega)) q408 q410 qs1 q113 q411 nm_X2_next hrX9_11 rfl rfl rfl (Nat.le_of_ble_eq_true rfl) ⟨Nat.le_of_ble_eq_true rfl, Nat.le_of_ble_eq_true rfl⟩ dX2_product_15 rfl rfl (show (2 * (a9_12 - a) + 1) ≤ (2 * ((s_prods T.kd T.vl (s_part T.kd T.pl T.vl T.wd 0) (a, 0, [])).1 - a) + 1) by omega) (show (10 * (a9_12 - a) + 7) ≤ (10 * ((s_prods T.kd T.vl (s_part T.kd T.pl T.vl T.wd 0) (a, 0, [])).1 - a) + 7) by omega) (fun v_32 X_28 hp_33 => ?_)
        obtain ⟨rfl, ht_29, hw_29⟩ := hp_33
        have hWk30 := hw_29
        obtain ⟨-, hx30, hks30, ha30, va30, hr30, hva30⟩ := hw_29
        have hrt30 := ht_21.tr ht_29
        have hpl30 := hT.le ha30
        have hto30 := hT.to ha30
        have hk430 := hT.kd4 ha30
        have htr31_e9_13 := cexp.to hrX9_11 ht_29 _ _ _ hx_19
        refine z_st (st' := []) rfl ?_
        refine z_new (ci := 16) (fs := [.int 0, .null, .null]) rfl in_X16 tyX16 tyX16_ok q1044 q1045 q145 zd_X16 dX2_product_18 rfl rfl (show ((2 * (a9_12 - a) + 1) + 1) ≤ (2 * ((s_prods T.kd T.vl (s_part T.kd T.pl T.vl T.wd 0) (a, 0, [])).1 - a) + 1) by omega) (show ((10 * (a9_12 - a) + 7) + 3) ≤ (10 * ((s_prods T.kd T.vl (s_part T.kd T.pl T.vl T.wd 0) (a, 0, [])).1 - a) + 7) by omega) (fun n_34 hn_35 hl_36 => ?_)
        have ne_37 : r ≠ n_34 := fun q9 => by rw [← q9, hr30] at hn_35; cases hn_35
        have ne_38 : T.x ≠ n_34 := fun q9 => by rw [← q9, hx30] at hn_35; cases hn_35
        have hx_39 : (zup X_28 n_34 (.inr (16, [.int 0, .null, .null]))) r = some (rdT T (a9_12 + 1) va30 5 vo) := zup_k ne_37 hr30
        have hx_40 : (zup X_28 n_34 (.inr (16, [.int 0, .null, .null]))) T.x = some (.inl (zar g 1, 1000, .inl T.t)) := zup_k ne_38 hx30
        have hx_41 : (zup X_28 n_34 (.inr (16, [.int 0, .null, .null]))) n_34 = some (.inr (16, [.int 0, .null, .null])) := zup_s
        have hz0n_34 := (hrt30).back hn_35 hr30
        refine z_dup dX2_product_21 rfl ?_
        refine z_bipush (v := 42) dX2_product_22 (by decide) ?_
        refine z_aload_n 1 dX2_product_24 rfl ?_
        refine z_aload_n 0 dX2_product_25 rfl ?_
        refine z_callVx (As := []) (rd_part_0 hT (hWk30.nw hn_35)) q997 q999 qs23 q113 q1000 nm_X2_part hx_39 rfl rfl rfl (Nat.le_of_ble_eq_true rfl) ⟨Nat.le_of_ble_eq_true rfl, Nat.le_of_ble_eq_true rfl⟩ dX2_product_26 rfl rfl (show (((2 * (a9_12 - a) + 1) + 1) + (2 * ((s_part T.kd T.pl T.vl T.wd 0 ((a9_12 + 1), 0, [])).1 - (a9_12 + 1)) + 1)) ≤ (2 * ((s_prods T.kd T.vl (s_part T.kd T.pl T.vl T.wd 0) (a, 0, [])).1 - a) + 1) by omega) (show (((10 * (a9_12 - a) + 7) + 3) + (10 * ((s_part T.kd T.pl T.vl T.wd 0 ((a9_12 + 1), 0, [])).1 - (a9_12 + 1)) + 7)) ≤ (10 * ((s_prods T.kd T.vl (s_part T.kd T.pl T.vl T.wd 0) (a, 0, [])).1 - a) + 7) by omega) rfl (fun q9 E9 X8 hp9 => by obtain ⟨f9, hf9, hs9, hx9⟩ := hp9; exact ⟨f9, hf9, (by rw [← h6_18]; show (if s_isS T.kd T.vl a9_12 0 42 = true then s_prl T.kd T.vl (s_part T.kd T.pl T.vl T.wd 0) m_23 (s_emit (s_part T.kd T.pl T.vl T.wd 0 (a9_12 + 1, 0, c9_14)) 6 0) else _).2.1 = f9; rw [if_pos c_27]; have hq9 := ((s_ap_part (kd := T.kd) (pl := T.pl) (vl := T.vl) (wd := T.wd) 0).f (a := a9_12 + 1) (f := 0) c9_14).2.trans hs9; rw [(s_fx_prl m_23).s (show ¬ (s_emit (s_part T.kd T.pl T.vl T.wd 0 (a9_12 + 1, 0, c9_14)) 6 0).2.1 = 0 by show ¬ (s_part T.kd T.pl T.vl T.wd 0 (a9_12 + 1, 0, c9_14)).2.1 = 0; rw [hq9]; exact hf9)]; exact hq9), hx9.tr (hrt30.nw hn_35)⟩) (fun v_45 X42 hp_46 => ?_)
        obtain ⟨e42, a42, rfl, c42, w42, he42, hal42, hxe42, hcd42, ht42, hw42⟩ := hp_46
        have hsz42 : (s_part T.kd T.pl T.vl T.wd 0 ((a9_12 + 1), 0, [])).1 = a42 := by rw [he42]
        have hWk43 := hw42
        obtain ⟨-, hx43, hks43, ha43, va43, hr43, hva43⟩ := hw42
        have hrt43 := (hrt30.nw hn_35).tr ht42
        have he43_n_34 := ht42 _ _ (zne hx_41 hx_39 (by unfold rdT; simp)) hx_41
        have hpl43 := hT.le ha43
        have hto43 := hT.to ha43
        have hk443 := hT.kd4 ha43
        have htr44_e9_13 := cexp.to hx_39 ht42 _ _ _ (htr31_e9_13.nw hn_35)
        refine z_st (st' := [.ref e42, .ref e9_13, .int 42, .ref n_34, .ref n_34]) rfl ?_
        refine z_callI (As := [.int 42, .ref e9_13, .ref e42]) (rd_two_42 he43_n_34 hl_36) q1046 q1047 q145 q1048 rfl rfl nm_X16_init rfl (Nat.le_of_ble_eq_true rfl) ⟨Nat.le_of_ble_eq_true rfl, Nat.le_of_ble_eq_true rfl⟩ dX2_product_29 rfl rfl (show (((2 * (a9_12 - a) + 1) + 1) + (2 * ((s_part T.kd T.pl T.vl T.wd 0 ((a9_12 + 1), 0, [])).1 - (a9_12 + 1)) + 1)) ≤ (2 * ((s_prods T.kd T.vl (s_part T.kd T.pl T.vl T.wd 0) (a, 0, [])).1 - a) + 1) by omega) (show (((10 * (a9_12 - a) + 7) + 3) + (10 * ((s_part T.kd T.pl T.vl T.wd 0 ((a9_12 + 1), 0, [])).1 - (a9_12 + 1)) + 7)) ≤ (10 * ((s_prods T.kd T.vl (s_part T.kd T.pl T.vl T.wd 0) (a, 0, [])).1 - a) + 7) by omega) (fun v_50 X_51 hp_52 => ?_)
        obtain ⟨rfl, h7⟩ := hp_52
        replace h7 := h7.symm
        subst h7
        refine z_X (X' := (zup X42 n_34 (.inr (16, [.int 42, .ref e9_13, .ref e42])))) rfl ?_
        have hx_47 : (zup X42 n_34 (.inr (16, [.int 42, .ref e9_13, .ref e42]))) r = some (rdT T a42 va43 5 vo) := zup_k (zne hr43 he43_n_34 (by unfold rdT; simp)) hr43
        have hx_48 : (zup X42 n_34 (.inr (16, [.int 42, .ref e9_13, .ref e42]))) T.x = some (.inl (zar g 1, 1000, .inl T.t)) := zup_k (zne hx43 he43_n_34 (by simp)) hx43
        have hx_49 : (zup X42 n_34 (.inr (16, [.int 42, .ref e9_13, .ref e42]))) n_34 = some (.inr (16, [.int 42, .ref e9_13, .ref e42])) := zup_s
        refine z_st (st' := [.ref n_34]) rfl ?_
        refine z_astore_n (lv' := [(1, .ref n_34), (0, .ref r)]) dX2_product_32 rfl (by decide) rfl ?_
        refine z_goto 5 dX2_product_33 (by decide) ?_
        have hd9 : a42 - a = (a42 - a - 1) + 1 := by omega
        have htw : cexp (zup X42 n_34 (.inr (16, [.int 42, .ref e9_13, .ref e42]))) (a42 - a) n_34 (fun a b x y => s_both 6 (w9_15 a b x y) (w42 a b x y)) := by
          rw [hd9]
          exact Or.inr (Or.inr (Or.inr ⟨42, 6, e9_13, e42, w9_15, w42, zup_s, by simp, cexp.le (cexp.own (e1 := .inr (16, [.int 42, .ref e9_13, .ref e42])) he43_n_34 (by simp) (by simp) (by simp) (by simp) _ _ _ htr44_e9_13) (by omega), cexp.le (cexp.own (e1 := .inr (16, [.int 42, .ref e9_13, .ref e42])) he43_n_34 (by simp) (by simp) (by simp) (by simp) _ _ _ hxe42) (by omega), fun _ _ _ _ => rfl⟩))
        refine z_lv (lv' := [(0, .ref r), (1, .ref n_34)]) [1, 0] rfl ?_
        refine z_widen (k' := (2 * (a42 - a) + 1)) (n' := (10 * (a42 - a) + 7)) (show (((2 * (a9_12 - a) + 1) + 1) + (2 * ((s_part T.kd T.pl T.vl T.wd 0 ((a9_12 + 1), 0, [])).1 - (a9_12 + 1)) + 1)) ≤ (2 * (a42 - a) + 1) by omega) (show (((10 * (a9_12 - a) + 7) + 3) + (10 * ((s_part T.kd T.pl T.vl T.wd 0 ((a9_12 + 1), 0, [])).1 - (a9_12 + 1)) + 7)) ≤ (10 * (a42 - a) + 7) by omega) ?_
        exact ih_7 m_23 (zup X42 n_34 (.inr (16, [.int 42, .ref e9_13, .ref e42]))) a42 n_34 (c9_14 ++ c42 ++ [(6, 0)]) (fun a b x y => s_both 6 (w9_15 a b x y) (w42 a b x y)) (by omega) (by omega) ((by show (if s_isS T.kd T.vl a9_12 0 42 = true then s_prl T.kd T.vl (s_part T.kd T.pl T.vl T.wd 0) m_23 (s_emit (s_part T.kd T.pl T.vl T.wd 0 (a9_12 + 1, 0, c9_14)) 6 0) else _) = _; rw [if_pos c_27, (s_ap_part (kd := T.kd) (pl := T.pl) (vl := T.vl) (wd := T.wd) 0).eq he42 c9_14]; rfl : s_prl T.kd T.vl (s_part T.kd T.pl T.vl T.wd 0) (m_23 + 1) (a9_12, 0, c9_14) = s_prl T.kd T.vl (s_part T.kd T.pl T.vl T.wd 0) m_23 (a42, 0, c9_14 ++ c42 ++ [(6, 0)])).symm.trans h6_18) htw (k_cd_two hc_20 hcd42 (by decide)) ((hrt43.new hz0n_34)) ((hWk43.up he43_n_34 (by decide) (by decide))) (by omega)
  refine z_lv (lv' := [(0, .ref r), (1, .ref e1)]) [1, 0] rfl ?_
  refine z_widen (k' := (2 * (a1 - a) + 1)) (n' := (10 * (a1 - a) + 7)) (show (0 + (2 * ((s_part T.kd T.pl T.vl T.wd 0 (a, 0, [])).1 - a) + 1)) ≤ (2 * (a1 - a) + 1) by omega) (show (0 + (10 * ((s_part T.kd T.pl T.vl T.wd 0 (a, 0, [])).1 - a) + 7)) ≤ (10 * (a1 - a) + 7) by omega) ?_
  exact loop_9 (1001 + 1) 1001 X1 a1 e1 c1 w1 (by omega) (by omega) (by show _ = s_prl T.kd T.vl (s_part T.kd T.pl T.vl T.wd 0) 1001 (s_part T.kd T.pl T.vl T.wd 0 (a, 0, [])); rw [he1]) hxe1 hcd1 (hrt2) (hWk2) (Nat.lt_succ_self _)
set_option maxHeartbeats 4000000 in
theorem rd_sum_0 {g : zG} {X : zX} {r a : Nat} {vo : Option Nat} {T : rTP} (hT : rTk T) (hW : rW g X r T a 5 vo)  : zV g m_X2_sum ({ frames := 8, cells := (2 * ((s_sums T.kd T.vl (s_part T.kd T.pl T.vl T.wd 0) (a, 0, [])).1 - a) + 1), slots := (10 * ((s_sums T.kd T.vl (s_part T.kd T.pl T.vl T.wd 0) (a, 0, [])).1 - a) + 7), locals := 180 } : Room) [.ref r] X (fun rv X' => ∃ e a', rv = some (.ref e) ∧ rE g X X' r T a a' 5 vo (s_sums T.kd T.vl (s_part T.kd T.pl T.vl T.wd 0)) e) (fun q E X' => ∃ f, ¬ f = 0 ∧ (s_sums T.kd T.vl (s_part T.kd T.pl T.vl T.wd 0) (a, 0, [])).2.1 = f ∧ rX X r T vo f q E X') := by
  refine zV.of (by decide +kernel) (Nat.le_of_ble_eq_true rfl) rfl ?_
  refine z_lv (lv' := [(0, .ref r)]) [0] rfl ?_
  have hn := hT.n
  have hW2 := hW
  obtain ⟨hr0, hx, hks, ha, va, hr, hva⟩ := hW
  have hcn := hT.c
  have hpl := hT.le ha
  have hto := hT.to ha
  have hk4 := hT.kd4 ha
  have hm1 : (s_prods T.kd T.vl (s_part T.kd T.pl T.vl T.wd 0) (a, 0, [])).1 ≤ (s_sums T.kd T.vl (s_part T.kd T.pl T.vl T.wd 0) (a, 0, [])).1 := (s_gr_sul (s_gr_part 0) 1001 (s_prods T.kd T.vl (s_part T.kd T.pl T.vl T.wd 0) (a, 0, []))).1
  have hm0 : a ≤ (s_prods T.kd T.vl (s_part T.kd T.pl T.vl T.wd 0) (a, 0, [])).1 := ((s_gr_prods (kd := T.kd) (vl := T.vl) (s_gr_part 0)) (a, 0, [])).1
  refine z_aload_n 0 dX2_sum_0 rfl ?_
  refine z_callVx (As := []) (rd_product_0 hT hW2) q993 q995 qs22 q113 q996 nm_X2_product hr rfl rfl rfl (Nat.le_of_ble_eq_true rfl) ⟨Nat.le_of_ble_eq_true rfl, Nat.le_of_ble_eq_true rfl⟩ dX2_sum_1 rfl rfl (show (0 + (2 * ((s_prods T.kd T.vl (s_part T.kd T.pl T.vl T.wd 0) (a, 0, [])).1 - a) + 1)) ≤ (2 * ((s_sums T.kd T.vl (s_part T.kd T.pl T.vl T.wd 0) (a, 0, [])).1 - a) + 1) by omega) (show (0 + (10 * ((s_prods T.kd T.vl (s_part T.kd T.pl T.vl T.wd 0) (a, 0, [])).1 - a) + 7)) ≤ (10 * ((s_sums T.kd T.vl (s_part T.kd T.pl T.vl T.wd 0) (a, 0, [])).1 - a) + 7) by omega) rfl (fun q9 E9 X8 hp9 => by obtain ⟨f9, hf9, hs9, hx9⟩ := hp9; exact ⟨f9, hf9, (by show (s_sul T.kd T.vl (s_part T.kd T.pl T.vl T.wd 0) 1001 (s_prods T.kd T.vl (s_part T.kd T.pl T.vl T.wd 0) (a, 0, []))).2.1 = f9; rw [(s_fx_sul 1001).s (by rw [hs9]; exact hf9), hs9]), hx9.tr rto.rf⟩) (fun v_4 X1 hp_5 => ?_)
  obtain ⟨e1, a1, rfl, c1, w1, he1, hal1, hxe1, hcd1, ht1, hw1⟩ := hp_5
  have hsz1 : (s_prods T.kd T.vl (s_part T.kd T.pl T.vl T.wd 0) (a, 0, [])).1 = a1 := by rw [he1]
  have hWk2 := hw1
  obtain ⟨-, hx2, hks2, ha2, va2, hr2, hva2⟩ := hw1
  have hrt2 := rto.rf.tr ht1
  have hpl2 := hT.le ha2
  have hto2 := hT.to ha2
  have hk42 := hT.kd4 ha2
  refine z_st (st' := [.ref e1]) rfl ?_
  refine z_astore_n (lv' := [(1, .ref e1), (0, .ref r)]) dX2_sum_4 rfl (by decide) rfl ?_
  have loop_9 : ∀ (q_6 : Nat) (m_10 : Nat) (X9_11 : zX) (a9_12 : Nat) (e9_13 : Nat) (c9_14 : List (Nat × Int32)) (w9_15 : Int32 → Int32 → Int32 → Int32 → Int32), (a < a9_12) → (T.cnt < m_10 + a9_12) → (s_sul T.kd T.vl (s_part T.kd T.pl T.vl T.wd 0) m_10 (a9_12, 0, c9_14) = s_sums T.kd T.vl (s_part T.kd T.pl T.vl T.wd 0) (a, 0, [])) → (cexp X9_11 (a9_12 - a) e9_13 w9_15) → (k_cd c9_14 w9_15) → (rto X X9_11 r) → (rW g X9_11 r T a9_12 5 vo) → m_10 < q_6 → zZ g m_X2_sum (fun rv X' => ∃ e a', rv = some (.ref e) ∧ rE g X X' r T a a' 5 vo (s_sums T.kd T.vl (s_part T.kd T.pl T.vl T.wd 0)) e, fun q E X' => ∃ f, ¬ f = 0 ∧ (s_sums T.kd T.vl (s_part T.kd T.pl T.vl T.wd 0) (a, 0, [])).2.1 = f ∧ rX X r T vo f q E X', ({ frames := 8, cells := (2 * ((s_sums T.kd T.vl (s_part T.kd T.pl T.vl T.wd 0) (a, 0, [])).1 - a) + 1), slots := (10 * ((s_sums T.kd T.vl (s_part T.kd T.pl T.vl T.wd 0) (a, 0, [])).1 - a) + 7), locals := 180 } : Room)) (2 * (a9_12 - a) + 1) (10 * (a9_12 - a) + 7) X9_11 5 [(0, .ref r), (1, .ref e9_13)] [] := by
    intro q_6
    induction q_6 with
    | zero => intro m_10 X9_11 a9_12 e9_13 c9_14 w9_15 h1_16 h5_17 h6_18 hx_19 hc_20 ht_21 hw_22 hm_8; exact absurd hm_8 (Nat.not_lt_zero _)
    | succ q_6 ih_7 =>
      intro m_10 X9_11 a9_12 e9_13 c9_14 w9_15 h1_16 h5_17 h6_18 hx_19 hc_20 ht_21 hw_22 hm_8
      obtain ⟨m_23, rfl⟩ : ∃ m9, m_10 = m9 + 1 := ⟨m_10 - 1, by have := hw_22.2.2.2.1; omega⟩
      obtain ⟨-, hxX9_11, hksX9_11, haX9_11, vaX9_11, hrX9_11, hvaX9_11⟩ := id hw_22
      have hplX9_11 := hT.le haX9_11
      have htoX9_11 := hT.to haX9_11
      have hk4X9_11 := hT.kd4 haX9_11
      have hge9 : a9_12 ≤ (s_sums T.kd T.vl (s_part T.kd T.pl T.vl T.wd 0) (a, 0, [])).1 := by rw [← h6_18]; exact (s_gr_sul (s_gr_part 0) (m_23 + 1) (a9_12, 0, c9_14)).1
      refine z_aload_n 0 dX2_sum_5 rfl ?_
      refine z_bipush (v := 43) dX2_sum_6 (by decide) ?_
      refine z_callV (As := [.int 43]) (rd_isSign hT hw_22 43) q1003 q1005 qs24 q113 q1006 nm_X2_isSign hrX9_11 rfl rfl rfl (Nat.le_of_ble_eq_true rfl) ⟨Nat.le_of_ble_eq_true rfl, Nat.le_of_ble_eq_true rfl⟩ dX2_sum_8 rfl rfl (show (2 * (a9_12 - a) + 1) ≤ (2 * ((s_sums T.kd T.vl (s_part T.kd T.pl T.vl T.wd 0) (a, 0, [])).1 - a) + 1) by omega) (show (10 * (a9_12 - a) + 7) ≤ (10 * ((s_sums T.kd T.vl (s_part T.kd T.pl T.vl T.wd 0) (a, 0, [])).1 - a) + 7) by omega) (fun v_24 X_25 hp_26 => ?_)
      obtain ⟨rfl, h7⟩ := hp_26
      replace h7 := h7.symm
      subst h7
      refine z_st (st' := [.int (zb (s_isS T.kd T.vl a9_12 0 43))]) rfl ?_
      refine z_if_neb 23 dX2_sum_11 (by decide) (fun c_27 => ?_) (fun c_27 => ?_)
      · -- s_isS T.kd T.vl a9_12 0 43 = true
        refine z_aload_n 0 dX2_sum_23 rfl ?_
        refine z_bipush (v := 43) dX2_sum_24 (by decide) ?_
        refine z_callV (As := [.int 43]) (rd_isSign hT hw_22 43) q1003 q1005 qs24 q113 q1006 nm_X2_isSign hrX9_11 rfl rfl rfl (Nat.le_of_ble_eq_true rfl) ⟨Nat.le_of_ble_eq_true rfl, Nat.le_of_ble_eq_true rfl⟩ dX2_sum_26 rfl rfl (show (2 * (a9_12 - a) + 1) ≤ (2 * ((s_sums T.kd T.vl (s_part T.kd T.pl T.vl T.wd 0) (a, 0, [])).1 - a) + 1) by omega) (show (10 * (a9_12 - a) + 7) ≤ (10 * ((s_sums T.kd T.vl (s_part T.kd T.pl T.vl T.wd 0) (a, 0, [])).1 - a) + 7) by omega) (fun v_28 X_29 hp_30 => ?_)
        obtain ⟨rfl, h7⟩ := hp_30
        replace h7 := h7.symm
        subst h7
        refine z_st (st' := [.int (zb (s_isS T.kd T.vl a9_12 0 43))]) rfl ?_
        refine z_if_eqb 37 dX2_sum_29 (by decide) (fun c_ => absurd (c_27.symm.trans c_) (by decide)) (fun _ => ?_)
        refine z_bipush (v := 43) dX2_sum_32 (by decide) ?_
        refine z_goto 39 dX2_sum_34 (by decide) ?_
        refine z_istore_n (lv' := [(2, .int 43), (0, .ref r), (1, .ref e9_13)]) dX2_sum_39 rfl (by decide) rfl ?_
        have hk39 := s_isS_i c_27
        have hal9 := (hT.lt haX9_11 (by omega)).1
        have hm9 : (s_prods T.kd T.vl (s_part T.kd T.pl T.vl T.wd 0) (a9_12 + 1, 0, [])).1 ≤ (s_sums T.kd T.vl (s_part T.kd T.pl T.vl T.wd 0) (a, 0, [])).1 := by rw [← h6_18, ← ((s_ap_prods (kd := T.kd) (vl := T.vl) (s_ap_part (kd := T.kd) (pl := T.pl) (vl := T.vl) (wd := T.wd) 0)).f (a := a9_12 + 1) (f := 0) c9_14).1]; show _ ≤ (if (s_isS T.kd T.vl a9_12 0 43 || s_isS T.kd T.vl a9_12 0 45) = true then s_sul T.kd T.vl (s_part T.kd T.pl T.vl T.wd 0) m_23 (s_emit (s_prods T.kd T.vl (s_part T.kd T.pl T.vl T.wd 0) (a9_12 + 1, 0, c9_14)) (if s_isS T.kd T.vl a9_12 0 43 = true then 4 else 5) 0) else _).1; rw [if_pos (by rw [c_27]; rfl)]; exact (s_gr_sul (s_gr_part 0) m_23 (s_emit (s_prods T.kd T.vl (s_part T.kd T.pl T.vl T.wd 0) (a9_12 + 1, 0, c9_14)) (if s_isS T.kd T.vl a9_12 0 43 = true then 4 else 5) 0)).1
        have hm8 : a9_12 + 1 ≤ (s_prods T.kd T.vl (s_part T.kd T.pl T.vl T.wd 0) (a9_12 + 1, 0, [])).1 := ((s_gr_prods (kd := T.kd) (vl := T.vl) (s_gr_part 0)) (a9_12 + 1, 0, [])).1
        refine z_aload_n 1 dX2_sum_40 rfl ?_
        refine z_callV (As := []) (rd_nxt hT hw_22 (by omega)) q408 q410 qs1 q113 q411 nm_X2_next hrX9_11 rfl rfl rfl (Nat.le_of_ble_eq_true rfl) ⟨Nat.le_of_ble_eq_true rfl, Nat.le_of_ble_eq_true rfl⟩ dX2_sum_41 rfl rfl (show (2 * (a9_12 - a) + 1) ≤ (2 * ((s_sums T.kd T.vl (s_part T.kd T.pl T.vl T.wd 0) (a, 0, [])).1 - a) + 1) by omega) (show (10 * (a9_12 - a) + 7) ≤ (10 * ((s_sums T.kd T.vl (s_part T.kd T.pl T.vl T.wd 0) (a, 0, [])).1 - a) + 7) by omega) (fun v_35 X_31 hp_36 => ?_)
        obtain ⟨rfl, ht_32, hw_32⟩ := hp_36
        have hWk33 := hw_32
        obtain ⟨-, hx33, hks33, ha33, va33, hr33, hva33⟩ := hw_32
        have hrt33 := ht_21.tr ht_32
        have hpl33 := hT.le ha33
        have hto33 := hT.to ha33
        have hk433 := hT.kd4 ha33
        have htr34_e9_13 := cexp.to hrX9_11 ht_32 _ _ _ hx_19
        refine z_st (st' := []) rfl ?_
        refine z_new (ci := 16) (fs := [.int 0, .null, .null]) rfl in_X16 tyX16 tyX16_ok q1044 q1045 q145 zd_X16 dX2_sum_44 rfl rfl (show ((2 * (a9_12 - a) + 1) + 1) ≤ (2 * ((s_sums T.kd T.vl (s_part T.kd T.pl T.vl T.wd 0) (a, 0, [])).1 - a) + 1) by omega) (show ((10 * (a9_12 - a) + 7) + 3) ≤ (10 * ((s_sums T.kd T.vl (s_part T.kd T.pl T.vl T.wd 0) (a, 0, [])).1 - a) + 7) by omega) (fun n_37 hn_38 hl_39 => ?_)
        have ne_40 : r ≠ n_37 := fun q9 => by rw [← q9, hr33] at hn_38; cases hn_38
        have ne_41 : T.x ≠ n_37 := fun q9 => by rw [← q9, hx33] at hn_38; cases hn_38
        have hx_42 : (zup X_31 n_37 (.inr (16, [.int 0, .null, .null]))) r = some (rdT T (a9_12 + 1) va33 5 vo) := zup_k ne_40 hr33
        have hx_43 : (zup X_31 n_37 (.inr (16, [.int 0, .null, .null]))) T.x = some (.inl (zar g 1, 1000, .inl T.t)) := zup_k ne_41 hx33
        have hx_44 : (zup X_31 n_37 (.inr (16, [.int 0, .null, .null]))) n_37 = some (.inr (16, [.int 0, .null, .null])) := zup_s
        have hz0n_37 := (hrt33).back hn_38 hr33
        refine z_dup dX2_sum_47 rfl ?_
        refine z_iload_n 0 dX2_sum_48 rfl ?_
        refine z_aload_n 2 dX2_sum_49 rfl ?_
        refine z_aload_n 1 dX2_sum_50 rfl ?_
        refine z_callVx (As := []) (rd_product_0 hT (hWk33.nw hn_38)) q993 q995 qs22 q113 q996 nm_X2_product hx_42 rfl rfl rfl (Nat.le_of_ble_eq_true rfl) ⟨Nat.le_of_ble_eq_true rfl, Nat.le_of_ble_eq_true rfl⟩ dX2_sum_51 rfl rfl (show (((2 * (a9_12 - a) + 1) + 1) + (2 * ((s_prods T.kd T.vl (s_part T.kd T.pl T.vl T.wd 0) ((a9_12 + 1), 0, [])).1 - (a9_12 + 1)) + 1)) ≤ (2 * ((s_sums T.kd T.vl (s_part T.kd T.pl T.vl T.wd 0) (a, 0, [])).1 - a) + 1) by omega) (show (((10 * (a9_12 - a) + 7) + 3) + (10 * ((s_prods T.kd T.vl (s_part T.kd T.pl T.vl T.wd 0) ((a9_12 + 1), 0, [])).1 - (a9_12 + 1)) + 7)) ≤ (10 * ((s_sums T.kd T.vl (s_part T.kd T.pl T.vl T.wd 0) (a, 0, [])).1 - a) + 7) by omega) rfl (fun q9 E9 X8 hp9 => by obtain ⟨f9, hf9, hs9, hx9⟩ := hp9; exact ⟨f9, hf9, (by rw [← h6_18]; show (if (s_isS T.kd T.vl a9_12 0 43 || s_isS T.kd T.vl a9_12 0 45) = true then s_sul T.kd T.vl (s_part T.kd T.pl T.vl T.wd 0) m_23 (s_emit (s_prods T.kd T.vl (s_part T.kd T.pl T.vl T.wd 0) (a9_12 + 1, 0, c9_14)) (if s_isS T.kd T.vl a9_12 0 43 = true then 4 else 5) 0) else _).2.1 = f9; rw [if_pos (by rw [c_27]; rfl)]; have hq9 := ((s_ap_prods (kd := T.kd) (vl := T.vl) (s_ap_part (kd := T.kd) (pl := T.pl) (vl := T.vl) (wd := T.wd) 0)).f (a := a9_12 + 1) (f := 0) c9_14).2.trans hs9; rw [(s_fx_sul m_23).s (show ¬ (s_emit (s_prods T.kd T.vl (s_part T.kd T.pl T.vl T.wd 0) (a9_12 + 1, 0, c9_14)) (if s_isS T.kd T.vl a9_12 0 43 = true then 4 else 5) 0).2.1 = 0 by show ¬ (s_prods T.kd T.vl (s_part T.kd T.pl T.vl T.wd 0) (a9_12 + 1, 0, c9_14)).2.1 = 0; rw [hq9]; exact hf9)]; exact hq9), hx9.tr (hrt33.nw hn_38)⟩) (fun v_48 X45 hp_49 => ?_)
        obtain ⟨e45, a45, rfl, c45, w45, he45, hal45, hxe45, hcd45, ht45, hw45⟩ := hp_49
        have hsz45 : (s_prods T.kd T.vl (s_part T.kd T.pl T.vl T.wd 0) ((a9_12 + 1), 0, [])).1 = a45 := by rw [he45]
        have hWk46 := hw45
        obtain ⟨-, hx46, hks46, ha46, va46, hr46, hva46⟩ := hw45
        have hrt46 := (hrt33.nw hn_38).tr ht45
        have he46_n_37 := ht45 _ _ (zne hx_44 hx_42 (by unfold rdT; simp)) hx_44
        have hpl46 := hT.le ha46
        have hto46 := hT.to ha46
        have hk446 := hT.kd4 ha46
        have htr47_e9_13 := cexp.to hx_42 ht45 _ _ _ (htr34_e9_13.nw hn_38)
        refine z_st (st' := [.ref e45, .ref e9_13, .int 43, .ref n_37, .ref n_37]) rfl ?_
        refine z_callI (As := [.int 43, .ref e9_13, .ref e45]) (rd_two_43 he46_n_37 hl_39) q1046 q1047 q145 q1048 rfl rfl nm_X16_init rfl (Nat.le_of_ble_eq_true rfl) ⟨Nat.le_of_ble_eq_true rfl, Nat.le_of_ble_eq_true rfl⟩ dX2_sum_54 rfl rfl (show (((2 * (a9_12 - a) + 1) + 1) + (2 * ((s_prods T.kd T.vl (s_part T.kd T.pl T.vl T.wd 0) ((a9_12 + 1), 0, [])).1 - (a9_12 + 1)) + 1)) ≤ (2 * ((s_sums T.kd T.vl (s_part T.kd T.pl T.vl T.wd 0) (a, 0, [])).1 - a) + 1) by omega) (show (((10 * (a9_12 - a) + 7) + 3) + (10 * ((s_prods T.kd T.vl (s_part T.kd T.pl T.vl T.wd 0) ((a9_12 + 1), 0, [])).1 - (a9_12 + 1)) + 7)) ≤ (10 * ((s_sums T.kd T.vl (s_part T.kd T.pl T.vl T.wd 0) (a, 0, [])).1 - a) + 7) by omega) (fun v_53 X_54 hp_55 => ?_)
        obtain ⟨rfl, h7⟩ := hp_55
        replace h7 := h7.symm
        subst h7
        refine z_X (X' := (zup X45 n_37 (.inr (16, [.int 43, .ref e9_13, .ref e45])))) rfl ?_
        have hx_50 : (zup X45 n_37 (.inr (16, [.int 43, .ref e9_13, .ref e45]))) r = some (rdT T a45 va46 5 vo) := zup_k (zne hr46 he46_n_37 (by unfold rdT; simp)) hr46
        have hx_51 : (zup X45 n_37 (.inr (16, [.int 43, .ref e9_13, .ref e45]))) T.x = some (.inl (zar g 1, 1000, .inl T.t)) := zup_k (zne hx46 he46_n_37 (by simp)) hx46
        have hx_52 : (zup X45 n_37 (.inr (16, [.int 43, .ref e9_13, .ref e45]))) n_37 = some (.inr (16, [.int 43, .ref e9_13, .ref e45])) := zup_s
        refine z_st (st' := [.ref n_37]) rfl ?_
        refine z_astore_n (lv' := [(1, .ref n_37), (2, .int 43), (0, .ref r)]) dX2_sum_57 rfl (by decide) rfl ?_
        refine z_goto 5 dX2_sum_58 (by decide) ?_
        have hd9 : a45 - a = (a45 - a - 1) + 1 := by omega
        have htw : cexp (zup X45 n_37 (.inr (16, [.int 43, .ref e9_13, .ref e45]))) (a45 - a) n_37 (fun a b x y => s_both 4 (w9_15 a b x y) (w45 a b x y)) := by
          rw [hd9]
          exact Or.inr (Or.inr (Or.inr ⟨43, 4, e9_13, e45, w9_15, w45, zup_s, by simp, cexp.le (cexp.own (e1 := .inr (16, [.int 43, .ref e9_13, .ref e45])) he46_n_37 (by simp) (by simp) (by simp) (by simp) _ _ _ htr47_e9_13) (by omega), cexp.le (cexp.own (e1 := .inr (16, [.int 43, .ref e9_13, .ref e45])) he46_n_37 (by simp) (by simp) (by simp) (by simp) _ _ _ hxe45) (by omega), fun _ _ _ _ => rfl⟩))
        refine z_lv (lv' := [(0, .ref r), (1, .ref n_37)]) [2, 0] rfl ?_
        refine z_widen (k' := (2 * (a45 - a) + 1)) (n' := (10 * (a45 - a) + 7)) (show (((2 * (a9_12 - a) + 1) + 1) + (2 * ((s_prods T.kd T.vl (s_part T.kd T.pl T.vl T.wd 0) ((a9_12 + 1), 0, [])).1 - (a9_12 + 1)) + 1)) ≤ (2 * (a45 - a) + 1) by omega) (show (((10 * (a9_12 - a) + 7) + 3) + (10 * ((s_prods T.kd T.vl (s_part T.kd T.pl T.vl T.wd 0) ((a9_12 + 1), 0, [])).1 - (a9_12 + 1)) + 7)) ≤ (10 * (a45 - a) + 7) by omega) ?_
        exact ih_7 m_23 (zup X45 n_37 (.inr (16, [.int 43, .ref e9_13, .ref e45]))) a45 n_37 (c9_14 ++ c45 ++ [(4, 0)]) (fun a b x y => s_both 4 (w9_15 a b x y) (w45 a b x y)) (by omega) (by omega) ((by show (if (s_isS T.kd T.vl a9_12 0 43 || s_isS T.kd T.vl a9_12 0 45) = true then s_sul T.kd T.vl (s_part T.kd T.pl T.vl T.wd 0) m_23 (s_emit (s_prods T.kd T.vl (s_part T.kd T.pl T.vl T.wd 0) (a9_12 + 1, 0, c9_14)) (if s_isS T.kd T.vl a9_12 0 43 = true then 4 else 5) 0) else _) = _; rw [if_pos (by rw [c_27]; rfl), if_pos c_27, (s_ap_prods (kd := T.kd) (vl := T.vl) (s_ap_part (kd := T.kd) (pl := T.pl) (vl := T.vl) (wd := T.wd) 0)).eq he45 c9_14]; rfl : s_sul T.kd T.vl (s_part T.kd T.pl T.vl T.wd 0) (m_23 + 1) (a9_12, 0, c9_14) = s_sul T.kd T.vl (s_part T.kd T.pl T.vl T.wd 0) m_23 (a45, 0, c9_14 ++ c45 ++ [(4, 0)])).symm.trans h6_18) htw (k_cd_two hc_20 hcd45 (by decide)) ((hrt46.new hz0n_37)) ((hWk46.up he46_n_37 (by decide) (by decide))) (by omega)
      · -- s_isS T.kd T.vl a9_12 0 43 = false
        refine z_aload_n 0 dX2_sum_14 rfl ?_
        refine z_bipush (v := 45) dX2_sum_15 (by decide) ?_
        refine z_callV (As := [.int 45]) (rd_isSign hT hw_22 45) q1003 q1005 qs24 q113 q1006 nm_X2_isSign hrX9_11 rfl rfl rfl (Nat.le_of_ble_eq_true rfl) ⟨Nat.le_of_ble_eq_true rfl, Nat.le_of_ble_eq_true rfl⟩ dX2_sum_17 rfl rfl (show (2 * (a9_12 - a) + 1) ≤ (2 * ((s_sums T.kd T.vl (s_part T.kd T.pl T.vl T.wd 0) (a, 0, [])).1 - a) + 1) by omega) (show (10 * (a9_12 - a) + 7) ≤ (10 * ((s_sums T.kd T.vl (s_part T.kd T.pl T.vl T.wd 0) (a, 0, [])).1 - a) + 7) by omega) (fun v_56 X_57 hp_58 => ?_)
        obtain ⟨rfl, h7⟩ := hp_58
        replace h7 := h7.symm
        subst h7
        refine z_st (st' := [.int (zb (s_isS T.kd T.vl a9_12 0 45))]) rfl ?_
        refine z_if_eqb 61 dX2_sum_20 (by decide) (fun c_59 => ?_) (fun c_59 => ?_)
        · -- s_isS T.kd T.vl a9_12 0 45 = false
          have hfin : s_sums T.kd T.vl (s_part T.kd T.pl T.vl T.wd 0) (a, 0, []) = (a9_12, 0, c9_14) := h6_18.symm.trans (by show (if (s_isS T.kd T.vl a9_12 0 43 || s_isS T.kd T.vl a9_12 0 45) = true then _ else _) = _; rw [if_neg (by rw [c_27, c_59]; decide)])
          have hfin1 : (s_sums T.kd T.vl (s_part T.kd T.pl T.vl T.wd 0) (a, 0, [])).1 = a9_12 := by rw [hfin]
          refine z_aload_n 1 dX2_sum_61 rfl ?_
          exact z_aret dX2_sum_62 rfl (Or.inl ⟨_, rfl⟩) (Or.inr ⟨_, rfl⟩) (show (2 * (a9_12 - a) + 1) ≤ (2 * ((s_sums T.kd T.vl (s_part T.kd T.pl T.vl T.wd 0) (a, 0, [])).1 - a) + 1) by omega) (show (10 * (a9_12 - a) + 7) ≤ (10 * ((s_sums T.kd T.vl (s_part T.kd T.pl T.vl T.wd 0) (a, 0, [])).1 - a) + 7) by omega) ⟨e9_13, a9_12, rfl, c9_14, w9_15, hfin, h1_16, hx_19, hc_20, ht_21, hw_22⟩
        · -- s_isS T.kd T.vl a9_12 0 45 = true
          refine z_aload_n 0 dX2_sum_23 rfl ?_
          refine z_bipush (v := 43) dX2_sum_24 (by decide) ?_
          refine z_callV (As := [.int 43]) (rd_isSign hT hw_22 43) q1003 q1005 qs24 q113 q1006 nm_X2_isSign hrX9_11 rfl rfl rfl (Nat.le_of_ble_eq_true rfl) ⟨Nat.le_of_ble_eq_true rfl, Nat.le_of_ble_eq_true rfl⟩ dX2_sum_26 rfl rfl (show (2 * (a9_12 - a) + 1) ≤ (2 * ((s_sums T.kd T.vl (s_part T.kd T.pl T.vl T.wd 0) (a, 0, [])).1 - a) + 1) by omega) (show (10 * (a9_12 - a) + 7) ≤ (10 * ((s_sums T.kd T.vl (s_part T.kd T.pl T.vl T.wd 0) (a, 0, [])).1 - a) + 7) by omega) (fun v_60 X_61 hp_62 => ?_)
          obtain ⟨rfl, h7⟩ := hp_62
          replace h7 := h7.symm
          subst h7
          refine z_st (st' := [.int (zb (s_isS T.kd T.vl a9_12 0 43))]) rfl ?_
          refine z_if_eqb 37 dX2_sum_29 (by decide) (fun _ => ?_) (fun c_ => absurd (c_27.symm.trans c_) (by decide))
          refine z_bipush (v := 45) dX2_sum_37 (by decide) ?_
          refine z_istore_n (lv' := [(2, .int 45), (0, .ref r), (1, .ref e9_13)]) dX2_sum_39 rfl (by decide) rfl ?_
          have hk39 := s_isS_i c_59
          have hal9 := (hT.lt haX9_11 (by omega)).1
          have hm9 : (s_prods T.kd T.vl (s_part T.kd T.pl T.vl T.wd 0) (a9_12 + 1, 0, [])).1 ≤ (s_sums T.kd T.vl (s_part T.kd T.pl T.vl T.wd 0) (a, 0, [])).1 := by rw [← h6_18, ← ((s_ap_prods (kd := T.kd) (vl := T.vl) (s_ap_part (kd := T.kd) (pl := T.pl) (vl := T.vl) (wd := T.wd) 0)).f (a := a9_12 + 1) (f := 0) c9_14).1]; show _ ≤ (if (s_isS T.kd T.vl a9_12 0 43 || s_isS T.kd T.vl a9_12 0 45) = true then s_sul T.kd T.vl (s_part T.kd T.pl T.vl T.wd 0) m_23 (s_emit (s_prods T.kd T.vl (s_part T.kd T.pl T.vl T.wd 0) (a9_12 + 1, 0, c9_14)) (if s_isS T.kd T.vl a9_12 0 43 = true then 4 else 5) 0) else _).1; rw [if_pos (by rw [c_27, c_59]; rfl)]; exact (s_gr_sul (s_gr_part 0) m_23 (s_emit (s_prods T.kd T.vl (s_part T.kd T.pl T.vl T.wd 0) (a9_12 + 1, 0, c9_14)) (if s_isS T.kd T.vl a9_12 0 43 = true then 4 else 5) 0)).1
          have hm8 : a9_12 + 1 ≤ (s_prods T.kd T.vl (s_part T.kd T.pl T.vl T.wd 0) (a9_12 + 1, 0, [])).1 := ((s_gr_prods (kd := T.kd) (vl := T.vl) (s_gr_part 0)) (a9_12 + 1, 0, [])).1
          refine z_aload_n 1 dX2_sum_40 rfl ?_
          refine z_callV (As := []) (rd_nxt hT hw_22 (by omega)) q408 q410 qs1 q113 q411 nm_X2_next hrX9_11 rfl rfl rfl (Nat.le_of_ble_eq_true rfl) ⟨Nat.le_of_ble_eq_true rfl, Nat.le_of_ble_eq_true rfl⟩ dX2_sum_41 rfl rfl (show (2 * (a9_12 - a) + 1) ≤ (2 * ((s_sums T.kd T.vl (s_part T.kd T.pl T.vl T.wd 0) (a, 0, [])).1 - a) + 1) by omega) (show (10 * (a9_12 - a) + 7) ≤ (10 * ((s_sums T.kd T.vl (s_part T.kd T.pl T.vl T.wd 0) (a, 0, [])).1 - a) + 7) by omega) (fun v_67 X_63 hp_68 => ?_)
          obtain ⟨rfl, ht_64, hw_64⟩ := hp_68
          have hWk65 := hw_64
          obtain ⟨-, hx65, hks65, ha65, va65, hr65, hva65⟩ := hw_64
          have hrt65 := ht_21.tr ht_64
          have hpl65 := hT.le ha65
          have hto65 := hT.to ha65
          have hk465 := hT.kd4 ha65
          have htr66_e9_13 := cexp.to hrX9_11 ht_64 _ _ _ hx_19
          refine z_st (st' := []) rfl ?_
          refine z_new (ci := 16) (fs := [.int 0, .null, .null]) rfl in_X16 tyX16 tyX16_ok q1044 q1045 q145 zd_X16 dX2_sum_44 rfl rfl (show ((2 * (a9_12 - a) + 1) + 1) ≤ (2 * ((s_sums T.kd T.vl (s_part T.kd T.pl T.vl T.wd 0) (a, 0, [])).1 - a) + 1) by omega) (show ((10 * (a9_12 - a) + 7) + 3) ≤ (10 * ((s_sums T.kd T.vl (s_part T.kd T.pl T.vl T.wd 0) (a, 0, [])).1 - a) + 7) by omega) (fun n_69 hn_70 hl_71 => ?_)
          have ne_72 : r ≠ n_69 := fun q9 => by rw [← q9, hr65] at hn_70; cases hn_70
          have ne_73 : T.x ≠ n_69 := fun q9 => by rw [← q9, hx65] at hn_70; cases hn_70
          have hx_74 : (zup X_63 n_69 (.inr (16, [.int 0, .null, .null]))) r = some (rdT T (a9_12 + 1) va65 5 vo) := zup_k ne_72 hr65
          have hx_75 : (zup X_63 n_69 (.inr (16, [.int 0, .null, .null]))) T.x = some (.inl (zar g 1, 1000, .inl T.t)) := zup_k ne_73 hx65
          have hx_76 : (zup X_63 n_69 (.inr (16, [.int 0, .null, .null]))) n_69 = some (.inr (16, [.int 0, .null, .null])) := zup_s
          have hz0n_69 := (hrt65).back hn_70 hr65
          refine z_dup dX2_sum_47 rfl ?_
          refine z_iload_n 0 dX2_sum_48 rfl ?_
          refine z_aload_n 2 dX2_sum_49 rfl ?_
          refine z_aload_n 1 dX2_sum_50 rfl ?_
          refine z_callVx (As := []) (rd_product_0 hT (hWk65.nw hn_70)) q993 q995 qs22 q113 q996 nm_X2_product hx_74 rfl rfl rfl (Nat.le_of_ble_eq_true rfl) ⟨Nat.le_of_ble_eq_true rfl, Nat.le_of_ble_eq_true rfl⟩ dX2_sum_51 rfl rfl (show (((2 * (a9_12 - a) + 1) + 1) + (2 * ((s_prods T.kd T.vl (s_part T.kd T.pl T.vl T.wd 0) ((a9_12 + 1), 0, [])).1 - (a9_12 + 1)) + 1)) ≤ (2 * ((s_sums T.kd T.vl (s_part T.kd T.pl T.vl T.wd 0) (a, 0, [])).1 - a) + 1) by omega) (show (((10 * (a9_12 - a) + 7) + 3) + (10 * ((s_prods T.kd T.vl (s_part T.kd T.pl T.vl T.wd 0) ((a9_12 + 1), 0, [])).1 - (a9_12 + 1)) + 7)) ≤ (10 * ((s_sums T.kd T.vl (s_part T.kd T.pl T.vl T.wd 0) (a, 0, [])).1 - a) + 7) by omega) rfl (fun q9 E9 X8 hp9 => by obtain ⟨f9, hf9, hs9, hx9⟩ := hp9; exact ⟨f9, hf9, (by rw [← h6_18]; show (if (s_isS T.kd T.vl a9_12 0 43 || s_isS T.kd T.vl a9_12 0 45) = true then s_sul T.kd T.vl (s_part T.kd T.pl T.vl T.wd 0) m_23 (s_emit (s_prods T.kd T.vl (s_part T.kd T.pl T.vl T.wd 0) (a9_12 + 1, 0, c9_14)) (if s_isS T.kd T.vl a9_12 0 43 = true then 4 else 5) 0) else _).2.1 = f9; rw [if_pos (by rw [c_27, c_59]; rfl)]; have hq9 := ((s_ap_prods (kd := T.kd) (vl := T.vl) (s_ap_part (kd := T.kd) (pl := T.pl) (vl := T.vl) (wd := T.wd) 0)).f (a := a9_12 + 1) (f := 0) c9_14).2.trans hs9; rw [(s_fx_sul m_23).s (show ¬ (s_emit (s_prods T.kd T.vl (s_part T.kd T.pl T.vl T.wd 0) (a9_12 + 1, 0, c9_14)) (if s_isS T.kd T.vl a9_12 0 43 = true then 4 else 5) 0).2.1 = 0 by show ¬ (s_prods T.kd T.vl (s_part T.kd T.pl T.vl T.wd 0) (a9_12 + 1, 0, c9_14)).2.1 = 0; rw [hq9]; exact hf9)]; exact hq9), hx9.tr (hrt65.nw hn_70)⟩) (fun v_80 X77 hp_81 => ?_)
          obtain ⟨e77, a77, rfl, c77, w77, he77, hal77, hxe77, hcd77, ht77, hw77⟩ := hp_81
          have hsz77 : (s_prods T.kd T.vl (s_part T.kd T.pl T.vl T.wd 0) ((a9_12 + 1), 0, [])).1 = a77 := by rw [he77]
          have hWk78 := hw77
          obtain ⟨-, hx78, hks78, ha78, va78, hr78, hva78⟩ := hw77
          have hrt78 := (hrt65.nw hn_70).tr ht77
          have he78_n_69 := ht77 _ _ (zne hx_76 hx_74 (by unfold rdT; simp)) hx_76
          have hpl78 := hT.le ha78
          have hto78 := hT.to ha78
          have hk478 := hT.kd4 ha78
          have htr79_e9_13 := cexp.to hx_74 ht77 _ _ _ (htr66_e9_13.nw hn_70)
          refine z_st (st' := [.ref e77, .ref e9_13, .int 45, .ref n_69, .ref n_69]) rfl ?_
          refine z_callI (As := [.int 45, .ref e9_13, .ref e77]) (rd_two_45 he78_n_69 hl_71) q1046 q1047 q145 q1048 rfl rfl nm_X16_init rfl (Nat.le_of_ble_eq_true rfl) ⟨Nat.le_of_ble_eq_true rfl, Nat.le_of_ble_eq_true rfl⟩ dX2_sum_54 rfl rfl (show (((2 * (a9_12 - a) + 1) + 1) + (2 * ((s_prods T.kd T.vl (s_part T.kd T.pl T.vl T.wd 0) ((a9_12 + 1), 0, [])).1 - (a9_12 + 1)) + 1)) ≤ (2 * ((s_sums T.kd T.vl (s_part T.kd T.pl T.vl T.wd 0) (a, 0, [])).1 - a) + 1) by omega) (show (((10 * (a9_12 - a) + 7) + 3) + (10 * ((s_prods T.kd T.vl (s_part T.kd T.pl T.vl T.wd 0) ((a9_12 + 1), 0, [])).1 - (a9_12 + 1)) + 7)) ≤ (10 * ((s_sums T.kd T.vl (s_part T.kd T.pl T.vl T.wd 0) (a, 0, [])).1 - a) + 7) by omega) (fun v_85 X_86 hp_87 => ?_)
          obtain ⟨rfl, h7⟩ := hp_87
          replace h7 := h7.symm
          subst h7
          refine z_X (X' := (zup X77 n_69 (.inr (16, [.int 45, .ref e9_13, .ref e77])))) rfl ?_
          have hx_82 : (zup X77 n_69 (.inr (16, [.int 45, .ref e9_13, .ref e77]))) r = some (rdT T a77 va78 5 vo) := zup_k (zne hr78 he78_n_69 (by unfold rdT; simp)) hr78
          have hx_83 : (zup X77 n_69 (.inr (16, [.int 45, .ref e9_13, .ref e77]))) T.x = some (.inl (zar g 1, 1000, .inl T.t)) := zup_k (zne hx78 he78_n_69 (by simp)) hx78
          have hx_84 : (zup X77 n_69 (.inr (16, [.int 45, .ref e9_13, .ref e77]))) n_69 = some (.inr (16, [.int 45, .ref e9_13, .ref e77])) := zup_s
          refine z_st (st' := [.ref n_69]) rfl ?_
          refine z_astore_n (lv' := [(1, .ref n_69), (2, .int 45), (0, .ref r)]) dX2_sum_57 rfl (by decide) rfl ?_
          refine z_goto 5 dX2_sum_58 (by decide) ?_
          have hd9 : a77 - a = (a77 - a - 1) + 1 := by omega
          have htw : cexp (zup X77 n_69 (.inr (16, [.int 45, .ref e9_13, .ref e77]))) (a77 - a) n_69 (fun a b x y => s_both 5 (w9_15 a b x y) (w77 a b x y)) := by
            rw [hd9]
            exact Or.inr (Or.inr (Or.inr ⟨45, 5, e9_13, e77, w9_15, w77, zup_s, by simp, cexp.le (cexp.own (e1 := .inr (16, [.int 45, .ref e9_13, .ref e77])) he78_n_69 (by simp) (by simp) (by simp) (by simp) _ _ _ htr79_e9_13) (by omega), cexp.le (cexp.own (e1 := .inr (16, [.int 45, .ref e9_13, .ref e77])) he78_n_69 (by simp) (by simp) (by simp) (by simp) _ _ _ hxe77) (by omega), fun _ _ _ _ => rfl⟩))
          refine z_lv (lv' := [(0, .ref r), (1, .ref n_69)]) [2, 0] rfl ?_
          refine z_widen (k' := (2 * (a77 - a) + 1)) (n' := (10 * (a77 - a) + 7)) (show (((2 * (a9_12 - a) + 1) + 1) + (2 * ((s_prods T.kd T.vl (s_part T.kd T.pl T.vl T.wd 0) ((a9_12 + 1), 0, [])).1 - (a9_12 + 1)) + 1)) ≤ (2 * (a77 - a) + 1) by omega) (show (((10 * (a9_12 - a) + 7) + 3) + (10 * ((s_prods T.kd T.vl (s_part T.kd T.pl T.vl T.wd 0) ((a9_12 + 1), 0, [])).1 - (a9_12 + 1)) + 7)) ≤ (10 * (a77 - a) + 7) by omega) ?_
          exact ih_7 m_23 (zup X77 n_69 (.inr (16, [.int 45, .ref e9_13, .ref e77]))) a77 n_69 (c9_14 ++ c77 ++ [(5, 0)]) (fun a b x y => s_both 5 (w9_15 a b x y) (w77 a b x y)) (by omega) (by omega) ((by show (if (s_isS T.kd T.vl a9_12 0 43 || s_isS T.kd T.vl a9_12 0 45) = true then s_sul T.kd T.vl (s_part T.kd T.pl T.vl T.wd 0) m_23 (s_emit (s_prods T.kd T.vl (s_part T.kd T.pl T.vl T.wd 0) (a9_12 + 1, 0, c9_14)) (if s_isS T.kd T.vl a9_12 0 43 = true then 4 else 5) 0) else _) = _; rw [if_pos (by rw [c_27, c_59]; rfl), if_neg (show ¬ s_isS T.kd T.vl a9_12 0 43 = true by rw [c_27]; decide), (s_ap_prods (kd := T.kd) (vl := T.vl) (s_ap_part (kd := T.kd) (pl := T.pl) (vl := T.vl) (wd := T.wd) 0)).eq he77 c9_14]; rfl : s_sul T.kd T.vl (s_part T.kd T.pl T.vl T.wd 0) (m_23 + 1) (a9_12, 0, c9_14) = s_sul T.kd T.vl (s_part T.kd T.pl T.vl T.wd 0) m_23 (a77, 0, c9_14 ++ c77 ++ [(5, 0)])).symm.trans h6_18) htw (k_cd_two hc_20 hcd77 (by decide)) ((hrt78.new hz0n_69)) ((hWk78.up he78_n_69 (by decide) (by decide))) (by omega)
  refine z_lv (lv' := [(0, .ref r), (1, .ref e1)]) [1, 0] rfl ?_
  refine z_widen (k' := (2 * (a1 - a) + 1)) (n' := (10 * (a1 - a) + 7)) (show (0 + (2 * ((s_prods T.kd T.vl (s_part T.kd T.pl T.vl T.wd 0) (a, 0, [])).1 - a) + 1)) ≤ (2 * (a1 - a) + 1) by omega) (show (0 + (10 * ((s_prods T.kd T.vl (s_part T.kd T.pl T.vl T.wd 0) (a, 0, [])).1 - a) + 7)) ≤ (10 * (a1 - a) + 7) by omega) ?_
  exact loop_9 (1001 + 1) 1001 X1 a1 e1 c1 w1 (by omega) (by omega) (by show _ = s_sul T.kd T.vl (s_part T.kd T.pl T.vl T.wd 0) 1001 (s_prods T.kd T.vl (s_part T.kd T.pl T.vl T.wd 0) (a, 0, [])); rw [he1]) hxe1 hcd1 (hrt2) (hWk2) (Nat.lt_succ_self _)
theorem s_tst_ge {kd : Nat → Nat} {vl : Nat → Int64} {p : sRS → sRS} (h : s_gr p) (s : sRS) : (s_sums kd vl p s).1 ≤ (s_tst kd vl p s).1 := by
  have h2 := s_gr_sums (kd := kd) (vl := vl) h ((s_sums kd vl p s).1 + 1, (s_sums kd vl p s).2)
  simp only at h2
  unfold s_tst
  simp only
  split
  · rw [s_emit_l.1]
    omega
  · split
    · rw [s_emit_l.1]
      omega
    · exact Nat.le_refl _
set_option maxHeartbeats 4000000 in
theorem rd_test_0 {g : zG} {X : zX} {r a : Nat} {vo : Option Nat} {T : rTP} (hT : rTk T) (hW : rW g X r T a 5 vo)  : zV g m_X2_test ({ frames := 9, cells := (2 * ((s_tst T.kd T.vl (s_part T.kd T.pl T.vl T.wd 0) (a, 0, [])).1 - a) + 1), slots := (10 * ((s_tst T.kd T.vl (s_part T.kd T.pl T.vl T.wd 0) (a, 0, [])).1 - a) + 7), locals := 202 } : Room) [.ref r] X (fun rv X' => ∃ e a', rv = some (.ref e) ∧ rE g X X' r T a a' 5 vo (s_tst T.kd T.vl (s_part T.kd T.pl T.vl T.wd 0)) e) (fun q E X' => ∃ f, ¬ f = 0 ∧ (s_tst T.kd T.vl (s_part T.kd T.pl T.vl T.wd 0) (a, 0, [])).2.1 = f ∧ rX X r T vo f q E X') := by
  refine zV.of (by decide +kernel) (Nat.le_of_ble_eq_true rfl) rfl ?_
  refine z_lv (lv' := [(0, .ref r)]) [0] rfl ?_
  have hn := hT.n
  have hW2 := hW
  obtain ⟨hr0, hx, hks, ha, va, hr, hva⟩ := hW
  have hcn := hT.c
  have hpl := hT.le ha
  have hto := hT.to ha
  have hk4 := hT.kd4 ha
  have hm1 : (s_sums T.kd T.vl (s_part T.kd T.pl T.vl T.wd 0) (a, 0, [])).1 ≤ (s_tst T.kd T.vl (s_part T.kd T.pl T.vl T.wd 0) (a, 0, [])).1 := s_tst_ge (s_gr_part 0) (a, 0, [])
  have hm0 : a ≤ (s_sums T.kd T.vl (s_part T.kd T.pl T.vl T.wd 0) (a, 0, [])).1 := ((s_gr_sums (kd := T.kd) (vl := T.vl) (s_gr_part 0)) (a, 0, [])).1
  refine z_aload_n 0 dX2_test_0 rfl ?_
  refine z_callVx (As := []) (rd_sum_0 hT hW2) q989 q991 qs21 q113 q992 nm_X2_sum hr rfl rfl rfl (Nat.le_of_ble_eq_true rfl) ⟨Nat.le_of_ble_eq_true rfl, Nat.le_of_ble_eq_true rfl⟩ dX2_test_1 rfl rfl (show (0 + (2 * ((s_sums T.kd T.vl (s_part T.kd T.pl T.vl T.wd 0) (a, 0, [])).1 - a) + 1)) ≤ (2 * ((s_tst T.kd T.vl (s_part T.kd T.pl T.vl T.wd 0) (a, 0, [])).1 - a) + 1) by omega) (show (0 + (10 * ((s_sums T.kd T.vl (s_part T.kd T.pl T.vl T.wd 0) (a, 0, [])).1 - a) + 7)) ≤ (10 * ((s_tst T.kd T.vl (s_part T.kd T.pl T.vl T.wd 0) (a, 0, [])).1 - a) + 7) by omega) rfl (fun q9 E9 X8 hp9 => by obtain ⟨f9, hf9, hs9, hx9⟩ := hp9; exact ⟨f9, hf9, (by have hz9 : ∀ c, s_isS T.kd T.vl (s_sums T.kd T.vl (s_part T.kd T.pl T.vl T.wd 0) (a, 0, [])).1 (s_sums T.kd T.vl (s_part T.kd T.pl T.vl T.wd 0) (a, 0, [])).2.1 c = false := fun c => s_isS_f (by rw [hs9]; exact hf9); unfold s_tst; simp only [hz9, Bool.false_eq_true, if_false]; exact hs9), hx9.tr rto.rf⟩) (fun v_4 X1 hp_5 => ?_)
  obtain ⟨e1, a1, rfl, c1, w1, he1, hal1, hxe1, hcd1, ht1, hw1⟩ := hp_5
  have hsz1 : (s_sums T.kd T.vl (s_part T.kd T.pl T.vl T.wd 0) (a, 0, [])).1 = a1 := by rw [he1]
  have hWk2 := hw1
  obtain ⟨-, hx2, hks2, ha2, va2, hr2, hva2⟩ := hw1
  have hrt2 := rto.rf.tr ht1
  have hpl2 := hT.le ha2
  have hto2 := hT.to ha2
  have hk42 := hT.kd4 ha2
  refine z_st (st' := [.ref e1]) rfl ?_
  refine z_astore_n (lv' := [(1, .ref e1), (0, .ref r)]) dX2_test_4 rfl (by decide) rfl ?_
  refine z_aload_n 1 dX2_test_5 rfl ?_
  refine z_bipush (v := 60) dX2_test_6 (by decide) ?_
  refine z_callV (As := [.int 60]) (rd_isSign hT hWk2 60) q1003 q1005 qs24 q113 q1006 nm_X2_isSign hr2 rfl rfl rfl (Nat.le_of_ble_eq_true rfl) ⟨Nat.le_of_ble_eq_true rfl, Nat.le_of_ble_eq_true rfl⟩ dX2_test_8 rfl rfl (show (0 + (2 * ((s_sums T.kd T.vl (s_part T.kd T.pl T.vl T.wd 0) (a, 0, [])).1 - a) + 1)) ≤ (2 * ((s_tst T.kd T.vl (s_part T.kd T.pl T.vl T.wd 0) (a, 0, [])).1 - a) + 1) by omega) (show (0 + (10 * ((s_sums T.kd T.vl (s_part T.kd T.pl T.vl T.wd 0) (a, 0, [])).1 - a) + 7)) ≤ (10 * ((s_tst T.kd T.vl (s_part T.kd T.pl T.vl T.wd 0) (a, 0, [])).1 - a) + 7) by omega) (fun v_6 X_7 hp_8 => ?_)
  obtain ⟨rfl, h7⟩ := hp_8
  replace h7 := h7.symm
  subst h7
  refine z_st (st' := [.int (zb (s_isS T.kd T.vl a1 0 60))]) rfl ?_
  refine z_if_eqb 19 dX2_test_11 (by decide) (fun c_9 => ?_) (fun c_9 => ?_)
  · -- s_isS T.kd T.vl a1 0 60 = false
    refine z_aload_n 1 dX2_test_19 rfl ?_
    refine z_bipush (v := 61) dX2_test_20 (by decide) ?_
    refine z_callV (As := [.int 61]) (rd_isSign hT hWk2 61) q1003 q1005 qs24 q113 q1006 nm_X2_isSign hr2 rfl rfl rfl (Nat.le_of_ble_eq_true rfl) ⟨Nat.le_of_ble_eq_true rfl, Nat.le_of_ble_eq_true rfl⟩ dX2_test_22 rfl rfl (show (0 + (2 * ((s_sums T.kd T.vl (s_part T.kd T.pl T.vl T.wd 0) (a, 0, [])).1 - a) + 1)) ≤ (2 * ((s_tst T.kd T.vl (s_part T.kd T.pl T.vl T.wd 0) (a, 0, [])).1 - a) + 1) by omega) (show (0 + (10 * ((s_sums T.kd T.vl (s_part T.kd T.pl T.vl T.wd 0) (a, 0, [])).1 - a) + 7)) ≤ (10 * ((s_tst T.kd T.vl (s_part T.kd T.pl T.vl T.wd 0) (a, 0, [])).1 - a) + 7) by omega) (fun v_10 X_11 hp_12 => ?_)
    obtain ⟨rfl, h7⟩ := hp_12
    replace h7 := h7.symm
    subst h7
    refine z_st (st' := [.int (zb (s_isS T.kd T.vl a1 0 61))]) rfl ?_
    refine z_if_eqb 33 dX2_test_25 (by decide) (fun c_13 => ?_) (fun c_13 => ?_)
    · -- s_isS T.kd T.vl a1 0 61 = false
      refine z_bipush (v := 32) dX2_test_33 (by decide) ?_
      refine z_istore_n (lv' := [(2, .int 32), (1, .ref e1), (0, .ref r)]) dX2_test_35 rfl (by decide) rfl ?_
      refine z_iload_n 0 dX2_test_36 rfl ?_
      refine z_bipush (v := 32) dX2_test_37 (by decide) ?_
      refine z_icmp_neN (a := 32) (b := 32) 44 (by decide) (by decide) dX2_test_39 (by decide) (fun h_ => absurd h_ (by decide)) (fun h_ => ?_)
      have hfin : s_tst T.kd T.vl (s_part T.kd T.pl T.vl T.wd 0) (a, 0, []) = (a1, 0, c1) := by unfold s_tst; simp only [he1]; rw [if_neg (show ¬ s_isS T.kd T.vl a1 0 60 = true by rw [c_9]; decide), if_neg (show ¬ s_isS T.kd T.vl a1 0 61 = true by rw [c_13]; decide)]
      refine z_aload_n 1 dX2_test_42 rfl ?_
      exact z_aret dX2_test_43 rfl (Or.inl ⟨_, rfl⟩) (Or.inr ⟨_, rfl⟩) (show (0 + (2 * ((s_sums T.kd T.vl (s_part T.kd T.pl T.vl T.wd 0) (a, 0, [])).1 - a) + 1)) ≤ (2 * ((s_tst T.kd T.vl (s_part T.kd T.pl T.vl T.wd 0) (a, 0, [])).1 - a) + 1) by omega) (show (0 + (10 * ((s_sums T.kd T.vl (s_part T.kd T.pl T.vl T.wd 0) (a, 0, [])).1 - a) + 7)) ≤ (10 * ((s_tst T.kd T.vl (s_part T.kd T.pl T.vl T.wd 0) (a, 0, [])).1 - a) + 7) by omega) ⟨e1, a1, rfl, c1, w1, hfin, hal1, hxe1, hcd1, hrt2, hWk2⟩
    · -- s_isS T.kd T.vl a1 0 61 = true
      refine z_bipush (v := 61) dX2_test_28 (by decide) ?_
      refine z_goto 35 dX2_test_30 (by decide) ?_
      refine z_istore_n (lv' := [(2, .int 61), (1, .ref e1), (0, .ref r)]) dX2_test_35 rfl (by decide) rfl ?_
      refine z_iload_n 0 dX2_test_36 rfl ?_
      refine z_bipush (v := 32) dX2_test_37 (by decide) ?_
      refine z_icmp_neN (a := 61) (b := 32) 44 (by decide) (by decide) dX2_test_39 (by decide) (fun h_ => ?_) (fun h_ => absurd h_ (by decide))
      have hk39 := s_isS_i c_13
      have hal9 := (hT.lt ha2 (by omega)).1
      have hm9 : (s_sums T.kd T.vl (s_part T.kd T.pl T.vl T.wd 0) (a1 + 1, 0, [])).1 ≤ (s_tst T.kd T.vl (s_part T.kd T.pl T.vl T.wd 0) (a, 0, [])).1 := by rw [← ((s_ap_sums (kd := T.kd) (vl := T.vl) (s_ap_part (kd := T.kd) (pl := T.pl) (vl := T.vl) (wd := T.wd) 0)).f (a := a1 + 1) (f := 0) c1).1]; unfold s_tst; simp only [he1]; rw [if_neg (show ¬ s_isS T.kd T.vl a1 0 60 = true by rw [c_9]; decide), if_pos c_13]; exact Nat.le_refl _
      have hm8 : a1 + 1 ≤ (s_sums T.kd T.vl (s_part T.kd T.pl T.vl T.wd 0) (a1 + 1, 0, [])).1 := ((s_gr_sums (kd := T.kd) (vl := T.vl) (s_gr_part 0)) (a1 + 1, 0, [])).1
      refine z_aload_n 2 dX2_test_44 rfl ?_
      refine z_callV (As := []) (rd_nxt hT hWk2 (by omega)) q408 q410 qs1 q113 q411 nm_X2_next hr2 rfl rfl rfl (Nat.le_of_ble_eq_true rfl) ⟨Nat.le_of_ble_eq_true rfl, Nat.le_of_ble_eq_true rfl⟩ dX2_test_45 rfl rfl (show (0 + (2 * ((s_sums T.kd T.vl (s_part T.kd T.pl T.vl T.wd 0) (a, 0, [])).1 - a) + 1)) ≤ (2 * ((s_tst T.kd T.vl (s_part T.kd T.pl T.vl T.wd 0) (a, 0, [])).1 - a) + 1) by omega) (show (0 + (10 * ((s_sums T.kd T.vl (s_part T.kd T.pl T.vl T.wd 0) (a, 0, [])).1 - a) + 7)) ≤ (10 * ((s_tst T.kd T.vl (s_part T.kd T.pl T.vl T.wd 0) (a, 0, [])).1 - a) + 7) by omega) (fun v_18 X_14 hp_19 => ?_)
      obtain ⟨rfl, ht_15, hw_15⟩ := hp_19
      have hWk16 := hw_15
      obtain ⟨-, hx16, hks16, ha16, va16, hr16, hva16⟩ := hw_15
      have hrt16 := hrt2.tr ht_15
      have hpl16 := hT.le ha16
      have hto16 := hT.to ha16
      have hk416 := hT.kd4 ha16
      have htr17_e1 := cexp.to hr2 ht_15 _ _ _ hxe1
      refine z_st (st' := []) rfl ?_
      refine z_new (ci := 16) (fs := [.int 0, .null, .null]) rfl in_X16 tyX16 tyX16_ok q1044 q1045 q145 zd_X16 dX2_test_48 rfl rfl (show ((0 + (2 * ((s_sums T.kd T.vl (s_part T.kd T.pl T.vl T.wd 0) (a, 0, [])).1 - a) + 1)) + 1) ≤ (2 * ((s_tst T.kd T.vl (s_part T.kd T.pl T.vl T.wd 0) (a, 0, [])).1 - a) + 1) by omega) (show ((0 + (10 * ((s_sums T.kd T.vl (s_part T.kd T.pl T.vl T.wd 0) (a, 0, [])).1 - a) + 7)) + 3) ≤ (10 * ((s_tst T.kd T.vl (s_part T.kd T.pl T.vl T.wd 0) (a, 0, [])).1 - a) + 7) by omega) (fun n_20 hn_21 hl_22 => ?_)
      have ne_23 : r ≠ n_20 := fun q9 => by rw [← q9, hr16] at hn_21; cases hn_21
      have ne_24 : T.x ≠ n_20 := fun q9 => by rw [← q9, hx16] at hn_21; cases hn_21
      have hx_25 : (zup X_14 n_20 (.inr (16, [.int 0, .null, .null]))) r = some (rdT T (a1 + 1) va16 5 vo) := zup_k ne_23 hr16
      have hx_26 : (zup X_14 n_20 (.inr (16, [.int 0, .null, .null]))) T.x = some (.inl (zar g 1, 1000, .inl T.t)) := zup_k ne_24 hx16
      have hx_27 : (zup X_14 n_20 (.inr (16, [.int 0, .null, .null]))) n_20 = some (.inr (16, [.int 0, .null, .null])) := zup_s
      have hz0n_20 := (hrt16).back hn_21 hr16
      refine z_dup dX2_test_51 rfl ?_
      refine z_iload_n 0 dX2_test_52 rfl ?_
      refine z_aload_n 1 dX2_test_53 rfl ?_
      refine z_aload_n 2 dX2_test_54 rfl ?_
      refine z_callVx (As := []) (rd_sum_0 hT (hWk16.nw hn_21)) q989 q991 qs21 q113 q992 nm_X2_sum hx_25 rfl rfl rfl (Nat.le_of_ble_eq_true rfl) ⟨Nat.le_of_ble_eq_true rfl, Nat.le_of_ble_eq_true rfl⟩ dX2_test_55 rfl rfl (show (((0 + (2 * ((s_sums T.kd T.vl (s_part T.kd T.pl T.vl T.wd 0) (a, 0, [])).1 - a) + 1)) + 1) + (2 * ((s_sums T.kd T.vl (s_part T.kd T.pl T.vl T.wd 0) ((a1 + 1), 0, [])).1 - (a1 + 1)) + 1)) ≤ (2 * ((s_tst T.kd T.vl (s_part T.kd T.pl T.vl T.wd 0) (a, 0, [])).1 - a) + 1) by omega) (show (((0 + (10 * ((s_sums T.kd T.vl (s_part T.kd T.pl T.vl T.wd 0) (a, 0, [])).1 - a) + 7)) + 3) + (10 * ((s_sums T.kd T.vl (s_part T.kd T.pl T.vl T.wd 0) ((a1 + 1), 0, [])).1 - (a1 + 1)) + 7)) ≤ (10 * ((s_tst T.kd T.vl (s_part T.kd T.pl T.vl T.wd 0) (a, 0, [])).1 - a) + 7) by omega) rfl (fun q9 E9 X8 hp9 => by obtain ⟨f9, hf9, hs9, hx9⟩ := hp9; exact ⟨f9, hf9, (by have hq9 := ((s_ap_sums (kd := T.kd) (vl := T.vl) (s_ap_part (kd := T.kd) (pl := T.pl) (vl := T.vl) (wd := T.wd) 0)).f (a := a1 + 1) (f := 0) c1).2.trans hs9; unfold s_tst; simp only [he1]; rw [if_neg (show ¬ s_isS T.kd T.vl a1 0 60 = true by rw [c_9]; decide), if_pos c_13]; exact hq9), hx9.tr (hrt16.nw hn_21)⟩) (fun v_31 X28 hp_32 => ?_)
      obtain ⟨e28, a28, rfl, c28, w28, he28, hal28, hxe28, hcd28, ht28, hw28⟩ := hp_32
      have hsz28 : (s_sums T.kd T.vl (s_part T.kd T.pl T.vl T.wd 0) ((a1 + 1), 0, [])).1 = a28 := by rw [he28]
      have hWk29 := hw28
      obtain ⟨-, hx29, hks29, ha29, va29, hr29, hva29⟩ := hw28
      have hrt29 := (hrt16.nw hn_21).tr ht28
      have he29_n_20 := ht28 _ _ (zne hx_27 hx_25 (by unfold rdT; simp)) hx_27
      have hpl29 := hT.le ha29
      have hto29 := hT.to ha29
      have hk429 := hT.kd4 ha29
      have htr30_e1 := cexp.to hx_25 ht28 _ _ _ (htr17_e1.nw hn_21)
      refine z_st (st' := [.ref e28, .ref e1, .int 61, .ref n_20, .ref n_20]) rfl ?_
      refine z_callI (As := [.int 61, .ref e1, .ref e28]) (rd_two_61 he29_n_20 hl_22) q1046 q1047 q145 q1048 rfl rfl nm_X16_init rfl (Nat.le_of_ble_eq_true rfl) ⟨Nat.le_of_ble_eq_true rfl, Nat.le_of_ble_eq_true rfl⟩ dX2_test_58 rfl rfl (show (((0 + (2 * ((s_sums T.kd T.vl (s_part T.kd T.pl T.vl T.wd 0) (a, 0, [])).1 - a) + 1)) + 1) + (2 * ((s_sums T.kd T.vl (s_part T.kd T.pl T.vl T.wd 0) ((a1 + 1), 0, [])).1 - (a1 + 1)) + 1)) ≤ (2 * ((s_tst T.kd T.vl (s_part T.kd T.pl T.vl T.wd 0) (a, 0, [])).1 - a) + 1) by omega) (show (((0 + (10 * ((s_sums T.kd T.vl (s_part T.kd T.pl T.vl T.wd 0) (a, 0, [])).1 - a) + 7)) + 3) + (10 * ((s_sums T.kd T.vl (s_part T.kd T.pl T.vl T.wd 0) ((a1 + 1), 0, [])).1 - (a1 + 1)) + 7)) ≤ (10 * ((s_tst T.kd T.vl (s_part T.kd T.pl T.vl T.wd 0) (a, 0, [])).1 - a) + 7) by omega) (fun v_36 X_37 hp_38 => ?_)
      obtain ⟨rfl, h7⟩ := hp_38
      replace h7 := h7.symm
      subst h7
      refine z_X (X' := (zup X28 n_20 (.inr (16, [.int 61, .ref e1, .ref e28])))) rfl ?_
      have hx_33 : (zup X28 n_20 (.inr (16, [.int 61, .ref e1, .ref e28]))) r = some (rdT T a28 va29 5 vo) := zup_k (zne hr29 he29_n_20 (by unfold rdT; simp)) hr29
      have hx_34 : (zup X28 n_20 (.inr (16, [.int 61, .ref e1, .ref e28]))) T.x = some (.inl (zar g 1, 1000, .inl T.t)) := zup_k (zne hx29 he29_n_20 (by simp)) hx29
      have hx_35 : (zup X28 n_20 (.inr (16, [.int 61, .ref e1, .ref e28]))) n_20 = some (.inr (16, [.int 61, .ref e1, .ref e28])) := zup_s
      refine z_st (st' := [.ref n_20]) rfl ?_
      have hd9 : a28 - a = (a28 - a - 1) + 1 := by omega
      have htw : cexp (zup X28 n_20 (.inr (16, [.int 61, .ref e1, .ref e28]))) (a28 - a) n_20 (fun a b x y => s_both 8 (w1 a b x y) (w28 a b x y)) := by
        rw [hd9]
        exact Or.inr (Or.inr (Or.inr ⟨61, 8, e1, e28, w1, w28, zup_s, by simp, cexp.le (cexp.own (e1 := .inr (16, [.int 61, .ref e1, .ref e28])) he29_n_20 (by simp) (by simp) (by simp) (by simp) _ _ _ htr30_e1) (by omega), cexp.le (cexp.own (e1 := .inr (16, [.int 61, .ref e1, .ref e28])) he29_n_20 (by simp) (by simp) (by simp) (by simp) _ _ _ hxe28) (by omega), fun _ _ _ _ => rfl⟩))
      have hfin : s_tst T.kd T.vl (s_part T.kd T.pl T.vl T.wd 0) (a, 0, []) = (a28, 0, c1 ++ c28 ++ [(8, 0)]) := by unfold s_tst; simp only [he1]; rw [if_neg (show ¬ s_isS T.kd T.vl a1 0 60 = true by rw [c_9]; decide), if_pos c_13, (s_ap_sums (kd := T.kd) (vl := T.vl) (s_ap_part (kd := T.kd) (pl := T.pl) (vl := T.vl) (wd := T.wd) 0)).eq he28 c1]; rfl
      exact z_aret dX2_test_61 rfl (Or.inl ⟨_, rfl⟩) (Or.inr ⟨_, rfl⟩) (show (((0 + (2 * ((s_sums T.kd T.vl (s_part T.kd T.pl T.vl T.wd 0) (a, 0, [])).1 - a) + 1)) + 1) + (2 * ((s_sums T.kd T.vl (s_part T.kd T.pl T.vl T.wd 0) ((a1 + 1), 0, [])).1 - (a1 + 1)) + 1)) ≤ (2 * ((s_tst T.kd T.vl (s_part T.kd T.pl T.vl T.wd 0) (a, 0, [])).1 - a) + 1) by omega) (show (((0 + (10 * ((s_sums T.kd T.vl (s_part T.kd T.pl T.vl T.wd 0) (a, 0, [])).1 - a) + 7)) + 3) + (10 * ((s_sums T.kd T.vl (s_part T.kd T.pl T.vl T.wd 0) ((a1 + 1), 0, [])).1 - (a1 + 1)) + 7)) ≤ (10 * ((s_tst T.kd T.vl (s_part T.kd T.pl T.vl T.wd 0) (a, 0, [])).1 - a) + 7) by omega) ⟨n_20, a28, rfl, c1 ++ c28 ++ [(8, 0)], (fun a b x y => s_both 8 (w1 a b x y) (w28 a b x y)), hfin, (by omega), htw, k_cd_two hcd1 hcd28 (by decide), (hrt29.new hz0n_20), (hWk29.up he29_n_20 (by decide) (by decide))⟩
  · -- s_isS T.kd T.vl a1 0 60 = true
    refine z_bipush (v := 60) dX2_test_14 (by decide) ?_
    refine z_goto 35 dX2_test_16 (by decide) ?_
    refine z_istore_n (lv' := [(2, .int 60), (1, .ref e1), (0, .ref r)]) dX2_test_35 rfl (by decide) rfl ?_
    refine z_iload_n 0 dX2_test_36 rfl ?_
    refine z_bipush (v := 32) dX2_test_37 (by decide) ?_
    refine z_icmp_neN (a := 60) (b := 32) 44 (by decide) (by decide) dX2_test_39 (by decide) (fun h_ => ?_) (fun h_ => absurd h_ (by decide))
    have hk39 := s_isS_i c_9
    have hal9 := (hT.lt ha2 (by omega)).1
    have hm9 : (s_sums T.kd T.vl (s_part T.kd T.pl T.vl T.wd 0) (a1 + 1, 0, [])).1 ≤ (s_tst T.kd T.vl (s_part T.kd T.pl T.vl T.wd 0) (a, 0, [])).1 := by rw [← ((s_ap_sums (kd := T.kd) (vl := T.vl) (s_ap_part (kd := T.kd) (pl := T.pl) (vl := T.vl) (wd := T.wd) 0)).f (a := a1 + 1) (f := 0) c1).1]; unfold s_tst; simp only [he1]; rw [if_pos c_9]; exact Nat.le_refl _
    have hm8 : a1 + 1 ≤ (s_sums T.kd T.vl (s_part T.kd T.pl T.vl T.wd 0) (a1 + 1, 0, [])).1 := ((s_gr_sums (kd := T.kd) (vl := T.vl) (s_gr_part 0)) (a1 + 1, 0, [])).1
    refine z_aload_n 2 dX2_test_44 rfl ?_
    refine z_callV (As := []) (rd_nxt hT hWk2 (by omega)) q408 q410 qs1 q113 q411 nm_X2_next hr2 rfl rfl rfl (Nat.le_of_ble_eq_true rfl) ⟨Nat.le_of_ble_eq_true rfl, Nat.le_of_ble_eq_true rfl⟩ dX2_test_45 rfl rfl (show (0 + (2 * ((s_sums T.kd T.vl (s_part T.kd T.pl T.vl T.wd 0) (a, 0, [])).1 - a) + 1)) ≤ (2 * ((s_tst T.kd T.vl (s_part T.kd T.pl T.vl T.wd 0) (a, 0, [])).1 - a) + 1) by omega) (show (0 + (10 * ((s_sums T.kd T.vl (s_part T.kd T.pl T.vl T.wd 0) (a, 0, [])).1 - a) + 7)) ≤ (10 * ((s_tst T.kd T.vl (s_part T.kd T.pl T.vl T.wd 0) (a, 0, [])).1 - a) + 7) by omega) (fun v_43 X_39 hp_44 => ?_)
    obtain ⟨rfl, ht_40, hw_40⟩ := hp_44
    have hWk41 := hw_40
    obtain ⟨-, hx41, hks41, ha41, va41, hr41, hva41⟩ := hw_40
    have hrt41 := hrt2.tr ht_40
    have hpl41 := hT.le ha41
    have hto41 := hT.to ha41
    have hk441 := hT.kd4 ha41
    have htr42_e1 := cexp.to hr2 ht_40 _ _ _ hxe1
    refine z_st (st' := []) rfl ?_
    refine z_new (ci := 16) (fs := [.int 0, .null, .null]) rfl in_X16 tyX16 tyX16_ok q1044 q1045 q145 zd_X16 dX2_test_48 rfl rfl (show ((0 + (2 * ((s_sums T.kd T.vl (s_part T.kd T.pl T.vl T.wd 0) (a, 0, [])).1 - a) + 1)) + 1) ≤ (2 * ((s_tst T.kd T.vl (s_part T.kd T.pl T.vl T.wd 0) (a, 0, [])).1 - a) + 1) by omega) (show ((0 + (10 * ((s_sums T.kd T.vl (s_part T.kd T.pl T.vl T.wd 0) (a, 0, [])).1 - a) + 7)) + 3) ≤ (10 * ((s_tst T.kd T.vl (s_part T.kd T.pl T.vl T.wd 0) (a, 0, [])).1 - a) + 7) by omega) (fun n_45 hn_46 hl_47 => ?_)
    have ne_48 : r ≠ n_45 := fun q9 => by rw [← q9, hr41] at hn_46; cases hn_46
    have ne_49 : T.x ≠ n_45 := fun q9 => by rw [← q9, hx41] at hn_46; cases hn_46
    have hx_50 : (zup X_39 n_45 (.inr (16, [.int 0, .null, .null]))) r = some (rdT T (a1 + 1) va41 5 vo) := zup_k ne_48 hr41
    have hx_51 : (zup X_39 n_45 (.inr (16, [.int 0, .null, .null]))) T.x = some (.inl (zar g 1, 1000, .inl T.t)) := zup_k ne_49 hx41
    have hx_52 : (zup X_39 n_45 (.inr (16, [.int 0, .null, .null]))) n_45 = some (.inr (16, [.int 0, .null, .null])) := zup_s
    have hz0n_45 := (hrt41).back hn_46 hr41
    refine z_dup dX2_test_51 rfl ?_
    refine z_iload_n 0 dX2_test_52 rfl ?_
    refine z_aload_n 1 dX2_test_53 rfl ?_
    refine z_aload_n 2 dX2_test_54 rfl ?_
    refine z_callVx (As := []) (rd_sum_0 hT (hWk41.nw hn_46)) q989 q991 qs21 q113 q992 nm_X2_sum hx_50 rfl rfl rfl (Nat.le_of_ble_eq_true rfl) ⟨Nat.le_of_ble_eq_true rfl, Nat.le_of_ble_eq_true rfl⟩ dX2_test_55 rfl rfl (show (((0 + (2 * ((s_sums T.kd T.vl (s_part T.kd T.pl T.vl T.wd 0) (a, 0, [])).1 - a) + 1)) + 1) + (2 * ((s_sums T.kd T.vl (s_part T.kd T.pl T.vl T.wd 0) ((a1 + 1), 0, [])).1 - (a1 + 1)) + 1)) ≤ (2 * ((s_tst T.kd T.vl (s_part T.kd T.pl T.vl T.wd 0) (a, 0, [])).1 - a) + 1) by omega) (show (((0 + (10 * ((s_sums T.kd T.vl (s_part T.kd T.pl T.vl T.wd 0) (a, 0, [])).1 - a) + 7)) + 3) + (10 * ((s_sums T.kd T.vl (s_part T.kd T.pl T.vl T.wd 0) ((a1 + 1), 0, [])).1 - (a1 + 1)) + 7)) ≤ (10 * ((s_tst T.kd T.vl (s_part T.kd T.pl T.vl T.wd 0) (a, 0, [])).1 - a) + 7) by omega) rfl (fun q9 E9 X8 hp9 => by obtain ⟨f9, hf9, hs9, hx9⟩ := hp9; exact ⟨f9, hf9, (by have hq9 := ((s_ap_sums (kd := T.kd) (vl := T.vl) (s_ap_part (kd := T.kd) (pl := T.pl) (vl := T.vl) (wd := T.wd) 0)).f (a := a1 + 1) (f := 0) c1).2.trans hs9; unfold s_tst; simp only [he1]; rw [if_pos c_9]; exact hq9), hx9.tr (hrt41.nw hn_46)⟩) (fun v_56 X53 hp_57 => ?_)
    obtain ⟨e53, a53, rfl, c53, w53, he53, hal53, hxe53, hcd53, ht53, hw53⟩ := hp_57
    have hsz53 : (s_sums T.kd T.vl (s_part T.kd T.pl T.vl T.wd 0) ((a1 + 1), 0, [])).1 = a53 := by rw [he53]
    have hWk54 := hw53
    obtain ⟨-, hx54, hks54, ha54, va54, hr54, hva54⟩ := hw53
    have hrt54 := (hrt41.nw hn_46).tr ht53
    have he54_n_45 := ht53 _ _ (zne hx_52 hx_50 (by unfold rdT; simp)) hx_52
    have hpl54 := hT.le ha54
    have hto54 := hT.to ha54
    have hk454 := hT.kd4 ha54
    have htr55_e1 := cexp.to hx_50 ht53 _ _ _ (htr42_e1.nw hn_46)
    refine z_st (st' := [.ref e53, .ref e1, .int 60, .ref n_45, .ref n_45]) rfl ?_
    refine z_callI (As := [.int 60, .ref e1, .ref e53]) (rd_two_60 he54_n_45 hl_47) q1046 q1047 q145 q1048 rfl rfl nm_X16_init rfl (Nat.le_of_ble_eq_true rfl) ⟨Nat.le_of_ble_eq_true rfl, Nat.le_of_ble_eq_true rfl⟩ dX2_test_58 rfl rfl (show (((0 + (2 * ((s_sums T.kd T.vl (s_part T.kd T.pl T.vl T.wd 0) (a, 0, [])).1 - a) + 1)) + 1) + (2 * ((s_sums T.kd T.vl (s_part T.kd T.pl T.vl T.wd 0) ((a1 + 1), 0, [])).1 - (a1 + 1)) + 1)) ≤ (2 * ((s_tst T.kd T.vl (s_part T.kd T.pl T.vl T.wd 0) (a, 0, [])).1 - a) + 1) by omega) (show (((0 + (10 * ((s_sums T.kd T.vl (s_part T.kd T.pl T.vl T.wd 0) (a, 0, [])).1 - a) + 7)) + 3) + (10 * ((s_sums T.kd T.vl (s_part T.kd T.pl T.vl T.wd 0) ((a1 + 1), 0, [])).1 - (a1 + 1)) + 7)) ≤ (10 * ((s_tst T.kd T.vl (s_part T.kd T.pl T.vl T.wd 0) (a, 0, [])).1 - a) + 7) by omega) (fun v_61 X_62 hp_63 => ?_)
    obtain ⟨rfl, h7⟩ := hp_63
    replace h7 := h7.symm
    subst h7
    refine z_X (X' := (zup X53 n_45 (.inr (16, [.int 60, .ref e1, .ref e53])))) rfl ?_
    have hx_58 : (zup X53 n_45 (.inr (16, [.int 60, .ref e1, .ref e53]))) r = some (rdT T a53 va54 5 vo) := zup_k (zne hr54 he54_n_45 (by unfold rdT; simp)) hr54
    have hx_59 : (zup X53 n_45 (.inr (16, [.int 60, .ref e1, .ref e53]))) T.x = some (.inl (zar g 1, 1000, .inl T.t)) := zup_k (zne hx54 he54_n_45 (by simp)) hx54
    have hx_60 : (zup X53 n_45 (.inr (16, [.int 60, .ref e1, .ref e53]))) n_45 = some (.inr (16, [.int 60, .ref e1, .ref e53])) := zup_s
    refine z_st (st' := [.ref n_45]) rfl ?_
    have hd9 : a53 - a = (a53 - a - 1) + 1 := by omega
    have htw : cexp (zup X53 n_45 (.inr (16, [.int 60, .ref e1, .ref e53]))) (a53 - a) n_45 (fun a b x y => s_both 7 (w1 a b x y) (w53 a b x y)) := by
      rw [hd9]
      exact Or.inr (Or.inr (Or.inr ⟨60, 7, e1, e53, w1, w53, zup_s, by simp, cexp.le (cexp.own (e1 := .inr (16, [.int 60, .ref e1, .ref e53])) he54_n_45 (by simp) (by simp) (by simp) (by simp) _ _ _ htr55_e1) (by omega), cexp.le (cexp.own (e1 := .inr (16, [.int 60, .ref e1, .ref e53])) he54_n_45 (by simp) (by simp) (by simp) (by simp) _ _ _ hxe53) (by omega), fun _ _ _ _ => rfl⟩))
    have hfin : s_tst T.kd T.vl (s_part T.kd T.pl T.vl T.wd 0) (a, 0, []) = (a53, 0, c1 ++ c53 ++ [(7, 0)]) := by unfold s_tst; simp only [he1]; rw [if_pos c_9, (s_ap_sums (kd := T.kd) (vl := T.vl) (s_ap_part (kd := T.kd) (pl := T.pl) (vl := T.vl) (wd := T.wd) 0)).eq he53 c1]; rfl
    exact z_aret dX2_test_61 rfl (Or.inl ⟨_, rfl⟩) (Or.inr ⟨_, rfl⟩) (show (((0 + (2 * ((s_sums T.kd T.vl (s_part T.kd T.pl T.vl T.wd 0) (a, 0, [])).1 - a) + 1)) + 1) + (2 * ((s_sums T.kd T.vl (s_part T.kd T.pl T.vl T.wd 0) ((a1 + 1), 0, [])).1 - (a1 + 1)) + 1)) ≤ (2 * ((s_tst T.kd T.vl (s_part T.kd T.pl T.vl T.wd 0) (a, 0, [])).1 - a) + 1) by omega) (show (((0 + (10 * ((s_sums T.kd T.vl (s_part T.kd T.pl T.vl T.wd 0) (a, 0, [])).1 - a) + 7)) + 3) + (10 * ((s_sums T.kd T.vl (s_part T.kd T.pl T.vl T.wd 0) ((a1 + 1), 0, [])).1 - (a1 + 1)) + 7)) ≤ (10 * ((s_tst T.kd T.vl (s_part T.kd T.pl T.vl T.wd 0) (a, 0, [])).1 - a) + 7) by omega) ⟨n_45, a53, rfl, c1 ++ c53 ++ [(7, 0)], (fun a b x y => s_both 7 (w1 a b x y) (w53 a b x y)), hfin, (by omega), htw, k_cd_two hcd1 hcd53 (by decide), (hrt54.new hz0n_45), (hWk54.up he54_n_45 (by decide) (by decide))⟩
theorem k_ao {T : rTP} {a : Nat} (hT : rTk T) : (s_wh T.kd T.vl T.wd a 0 19 2 < 0 → (s_isW T.kd T.vl T.wd a 0 19 || s_isW T.kd T.vl T.wd a 0 20) = false) ∧ (¬ s_wh T.kd T.vl T.wd a 0 19 2 < 0 → (s_isW T.kd T.vl T.wd a 0 19 || s_isW T.kd T.vl T.wd a 0 20) = true) ∧ (s_wh T.kd T.vl T.wd a 0 19 2 = 0 → s_isW T.kd T.vl T.wd a 0 19 = true) ∧ (¬ s_wh T.kd T.vl T.wd a 0 19 2 < 0 → ¬ s_wh T.kd T.vl T.wd a 0 19 2 = 0 → s_isW T.kd T.vl T.wd a 0 19 = false) := by
  have e : s_wh T.kd T.vl T.wd a 0 19 2 = if s_isW T.kd T.vl T.wd a 0 20 = true then nI 1 else if s_isW T.kd T.vl T.wd a 0 19 = true then nI 0 else zm1 := rfl
  have hd : s_isW T.kd T.vl T.wd a 0 19 = true → s_isW T.kd T.vl T.wd a 0 20 = true → False := fun h1 h2 => by
    unfold s_isW at h1 h2
    simp only [Bool.and_eq_true, decide_eq_true_eq] at h1 h2
    have h3 := h1.2.2.symm.trans h2.2.2
    rw [hT.2.2 19 (by decide), hT.2.2 20 (by decide)] at h3
    exact absurd (kwd_inj 19 (by decide) 20 (by decide) h3) (by decide)
  rw [e]
  cases h1 : s_isW T.kd T.vl T.wd a 0 19 <;> cases h2 : s_isW T.kd T.vl T.wd a 0 20
  · exact ⟨fun _ => rfl, fun z => absurd (show (if false = true then nI 1 else if false = true then nI 0 else zm1) < 0 by decide) z, fun z => absurd z (by decide), fun _ _ => rfl⟩
  · exact ⟨fun z => absurd z (by decide), fun _ => rfl, fun z => absurd z (by decide), fun _ _ => rfl⟩
  · exact ⟨fun z => absurd z (by decide), fun _ => rfl, fun _ => rfl, fun _ z => absurd (show (if false = true then nI 1 else if true = true then nI 0 else zm1) = 0 by decide) z⟩
  · exact absurd (hd h1 h2) id
set_option maxHeartbeats 4000000 in
theorem rd_whole_0 {g : zG} {X : zX} {r a : Nat} {vo : Option Nat} {T : rTP} (hT : rTk T) (hW : rW g X r T a 5 vo)  : zV g m_X2_expression ({ frames := 10, cells := (2 * ((s_whole T.kd T.vl T.wd (s_part T.kd T.pl T.vl T.wd 0) (a, 0, [])).1 - a) + 1), slots := (10 * ((s_whole T.kd T.vl T.wd (s_part T.kd T.pl T.vl T.wd 0) (a, 0, [])).1 - a) + 7), locals := 224 } : Room) [.ref r] X (fun rv X' => ∃ e a', rv = some (.ref e) ∧ rE g X X' r T a a' 5 vo (s_whole T.kd T.vl T.wd (s_part T.kd T.pl T.vl T.wd 0)) e) (fun q E X' => ∃ f, ¬ f = 0 ∧ (s_whole T.kd T.vl T.wd (s_part T.kd T.pl T.vl T.wd 0) (a, 0, [])).2.1 = f ∧ rX X r T vo f q E X') := by
  refine zV.of (by decide +kernel) (Nat.le_of_ble_eq_true rfl) rfl ?_
  refine z_lv (lv' := [(0, .ref r)]) [0] rfl ?_
  have hn := hT.n
  have hW2 := hW
  obtain ⟨hr0, hx, hks, ha, va, hr, hva⟩ := hW
  have hcn := hT.c
  have hpl := hT.le ha
  have hto := hT.to ha
  have hk4 := hT.kd4 ha
  have hm1 : (s_tst T.kd T.vl (s_part T.kd T.pl T.vl T.wd 0) (a, 0, [])).1 ≤ (s_whole T.kd T.vl T.wd (s_part T.kd T.pl T.vl T.wd 0) (a, 0, [])).1 := (s_gr_whl (s_gr_part 0) 1001 (s_tst T.kd T.vl (s_part T.kd T.pl T.vl T.wd 0) (a, 0, []))).1
  have hm0 : a ≤ (s_tst T.kd T.vl (s_part T.kd T.pl T.vl T.wd 0) (a, 0, [])).1 := ((s_gr_tst (kd := T.kd) (vl := T.vl) (s_gr_part 0)) (a, 0, [])).1
  refine z_aload_n 0 dX2_expression_0 rfl ?_
  refine z_callVx (As := []) (rd_test_0 hT hW2) q985 q987 qs20 q113 q988 nm_X2_test hr rfl rfl rfl (Nat.le_of_ble_eq_true rfl) ⟨Nat.le_of_ble_eq_true rfl, Nat.le_of_ble_eq_true rfl⟩ dX2_expression_1 rfl rfl (show (0 + (2 * ((s_tst T.kd T.vl (s_part T.kd T.pl T.vl T.wd 0) (a, 0, [])).1 - a) + 1)) ≤ (2 * ((s_whole T.kd T.vl T.wd (s_part T.kd T.pl T.vl T.wd 0) (a, 0, [])).1 - a) + 1) by omega) (show (0 + (10 * ((s_tst T.kd T.vl (s_part T.kd T.pl T.vl T.wd 0) (a, 0, [])).1 - a) + 7)) ≤ (10 * ((s_whole T.kd T.vl T.wd (s_part T.kd T.pl T.vl T.wd 0) (a, 0, [])).1 - a) + 7) by omega) rfl (fun q9 E9 X8 hp9 => by obtain ⟨f9, hf9, hs9, hx9⟩ := hp9; exact ⟨f9, hf9, (by show (s_whl T.kd T.vl T.wd (s_part T.kd T.pl T.vl T.wd 0) 1001 (s_tst T.kd T.vl (s_part T.kd T.pl T.vl T.wd 0) (a, 0, []))).2.1 = f9; rw [(s_fx_whl 1001).s (by rw [hs9]; exact hf9), hs9]), hx9.tr rto.rf⟩) (fun v_4 X1 hp_5 => ?_)
  obtain ⟨e1, a1, rfl, c1, w1, he1, hal1, hxe1, hcd1, ht1, hw1⟩ := hp_5
  have hsz1 : (s_tst T.kd T.vl (s_part T.kd T.pl T.vl T.wd 0) (a, 0, [])).1 = a1 := by rw [he1]
  have hWk2 := hw1
  obtain ⟨-, hx2, hks2, ha2, va2, hr2, hva2⟩ := hw1
  have hrt2 := rto.rf.tr ht1
  have hpl2 := hT.le ha2
  have hto2 := hT.to ha2
  have hk42 := hT.kd4 ha2
  refine z_st (st' := [.ref e1]) rfl ?_
  refine z_astore_n (lv' := [(1, .ref e1), (0, .ref r)]) dX2_expression_4 rfl (by decide) rfl ?_
  have loop_9 : ∀ (q_6 : Nat) (m_10 : Nat) (X9_11 : zX) (a9_12 : Nat) (e9_13 : Nat) (c9_14 : List (Nat × Int32)) (w9_15 : Int32 → Int32 → Int32 → Int32 → Int32), (a < a9_12) → (T.cnt < m_10 + a9_12) → (s_whl T.kd T.vl T.wd (s_part T.kd T.pl T.vl T.wd 0) m_10 (a9_12, 0, c9_14) = s_whole T.kd T.vl T.wd (s_part T.kd T.pl T.vl T.wd 0) (a, 0, [])) → (cexp X9_11 (a9_12 - a) e9_13 w9_15) → (k_cd c9_14 w9_15) → (rto X X9_11 r) → (rW g X9_11 r T a9_12 5 vo) → m_10 < q_6 → zZ g m_X2_expression (fun rv X' => ∃ e a', rv = some (.ref e) ∧ rE g X X' r T a a' 5 vo (s_whole T.kd T.vl T.wd (s_part T.kd T.pl T.vl T.wd 0)) e, fun q E X' => ∃ f, ¬ f = 0 ∧ (s_whole T.kd T.vl T.wd (s_part T.kd T.pl T.vl T.wd 0) (a, 0, [])).2.1 = f ∧ rX X r T vo f q E X', ({ frames := 10, cells := (2 * ((s_whole T.kd T.vl T.wd (s_part T.kd T.pl T.vl T.wd 0) (a, 0, [])).1 - a) + 1), slots := (10 * ((s_whole T.kd T.vl T.wd (s_part T.kd T.pl T.vl T.wd 0) (a, 0, [])).1 - a) + 7), locals := 224 } : Room)) (2 * (a9_12 - a) + 1) (10 * (a9_12 - a) + 7) X9_11 5 [(0, .ref r), (1, .ref e9_13)] [] := by
    intro q_6
    induction q_6 with
    | zero => intro m_10 X9_11 a9_12 e9_13 c9_14 w9_15 h1_16 h5_17 h6_18 hx_19 hc_20 ht_21 hw_22 hm_8; exact absurd hm_8 (Nat.not_lt_zero _)
    | succ q_6 ih_7 =>
      intro m_10 X9_11 a9_12 e9_13 c9_14 w9_15 h1_16 h5_17 h6_18 hx_19 hc_20 ht_21 hw_22 hm_8
      obtain ⟨m_23, rfl⟩ : ∃ m9, m_10 = m9 + 1 := ⟨m_10 - 1, by have := hw_22.2.2.2.1; omega⟩
      obtain ⟨-, hxX9_11, hksX9_11, haX9_11, vaX9_11, hrX9_11, hvaX9_11⟩ := id hw_22
      have hplX9_11 := hT.le haX9_11
      have htoX9_11 := hT.to haX9_11
      have hk4X9_11 := hT.kd4 haX9_11
      have hge9 : a9_12 ≤ (s_whole T.kd T.vl T.wd (s_part T.kd T.pl T.vl T.wd 0) (a, 0, [])).1 := by rw [← h6_18]; exact (s_gr_whl (s_gr_part 0) (m_23 + 1) (a9_12, 0, c9_14)).1
      refine z_aload_n 0 dX2_expression_5 rfl ?_
      refine z_ldcS 10 rfl dX2_expression_6 ?_
      refine z_callV (As := [.ref (zk g 20)]) (rd_wh hT hw_22 10 19 2 (by decide) (by decide) rfl (by decide) (by decide)) q516 q518 qs3 q113 q519 nm_X2_which hrX9_11 rfl rfl rfl (Nat.le_of_ble_eq_true rfl) ⟨Nat.le_of_ble_eq_true rfl, Nat.le_of_ble_eq_true rfl⟩ dX2_expression_8 rfl rfl (show (2 * (a9_12 - a) + 1) ≤ (2 * ((s_whole T.kd T.vl T.wd (s_part T.kd T.pl T.vl T.wd 0) (a, 0, [])).1 - a) + 1) by omega) (show (10 * (a9_12 - a) + 7) ≤ (10 * ((s_whole T.kd T.vl T.wd (s_part T.kd T.pl T.vl T.wd 0) (a, 0, [])).1 - a) + 7) by omega) (fun v_24 X_25 hp_26 => ?_)
      obtain ⟨rfl, h7⟩ := hp_26
      replace h7 := h7.symm
      subst h7
      refine z_st (st' := [.int (s_wh T.kd T.vl T.wd a9_12 0 19 2)]) rfl ?_
      refine z_istore_n (lv' := [(2, .int (s_wh T.kd T.vl T.wd a9_12 0 19 2)), (0, .ref r), (1, .ref e9_13)]) dX2_expression_11 rfl (by decide) rfl ?_
      refine z_iload_n 0 dX2_expression_12 rfl ?_
      refine z_if_ge 18 dX2_expression_13 (by decide) (fun c_27 => ?_) (fun c_27 => ?_)
      · -- 0 ≤ s_wh T.kd T.vl T.wd a9_12 0 19 2
        have c_27' := Int32.not_lt.mpr c_27
        have hnl : ¬ s_wh T.kd T.vl T.wd a9_12 0 19 2 < 0 := Int32.not_lt.mpr c_27
        have hww := (k_ao hT).2.1 hnl
        have hk39 : T.kd a9_12 = 1 := (s_wh_k (kd := T.kd) (vl := T.vl) (wd := T.wd) (a := a9_12) (f := 0) (w := 19) 2).elim (fun z => absurd z hnl) (fun z => z.1)
        have hal9 := (hT.lt haX9_11 (by omega)).1
        have hm9 : (s_tst T.kd T.vl (s_part T.kd T.pl T.vl T.wd 0) (a9_12 + 1, 0, [])).1 ≤ (s_whole T.kd T.vl T.wd (s_part T.kd T.pl T.vl T.wd 0) (a, 0, [])).1 := by rw [← h6_18, ← ((s_ap_tst (kd := T.kd) (vl := T.vl) (s_ap_part (kd := T.kd) (pl := T.pl) (vl := T.vl) (wd := T.wd) 0)).f (a := a9_12 + 1) (f := 0) c9_14).1]; show _ ≤ (if (s_isW T.kd T.vl T.wd a9_12 0 19 || s_isW T.kd T.vl T.wd a9_12 0 20) = true then s_whl T.kd T.vl T.wd (s_part T.kd T.pl T.vl T.wd 0) m_23 (s_emit (s_tst T.kd T.vl (s_part T.kd T.pl T.vl T.wd 0) (a9_12 + 1, 0, c9_14)) (if s_isW T.kd T.vl T.wd a9_12 0 19 = true then 9 else 10) 0) else _).1; rw [if_pos hww]; exact (s_gr_whl (s_gr_part 0) m_23 (s_emit (s_tst T.kd T.vl (s_part T.kd T.pl T.vl T.wd 0) (a9_12 + 1, 0, c9_14)) (if s_isW T.kd T.vl T.wd a9_12 0 19 = true then 9 else 10) 0)).1
        have hm8 : a9_12 + 1 ≤ (s_tst T.kd T.vl (s_part T.kd T.pl T.vl T.wd 0) (a9_12 + 1, 0, [])).1 := ((s_gr_tst (kd := T.kd) (vl := T.vl) (s_gr_part 0)) (a9_12 + 1, 0, [])).1
        refine z_aload_n 1 dX2_expression_18 rfl ?_
        refine z_callV (As := []) (rd_nxt hT hw_22 (by omega)) q408 q410 qs1 q113 q411 nm_X2_next hrX9_11 rfl rfl rfl (Nat.le_of_ble_eq_true rfl) ⟨Nat.le_of_ble_eq_true rfl, Nat.le_of_ble_eq_true rfl⟩ dX2_expression_19 rfl rfl (show (2 * (a9_12 - a) + 1) ≤ (2 * ((s_whole T.kd T.vl T.wd (s_part T.kd T.pl T.vl T.wd 0) (a, 0, [])).1 - a) + 1) by omega) (show (10 * (a9_12 - a) + 7) ≤ (10 * ((s_whole T.kd T.vl T.wd (s_part T.kd T.pl T.vl T.wd 0) (a, 0, [])).1 - a) + 7) by omega) (fun v_32 X_28 hp_33 => ?_)
        obtain ⟨rfl, ht_29, hw_29⟩ := hp_33
        have hWk30 := hw_29
        obtain ⟨-, hx30, hks30, ha30, va30, hr30, hva30⟩ := hw_29
        have hrt30 := ht_21.tr ht_29
        have hpl30 := hT.le ha30
        have hto30 := hT.to ha30
        have hk430 := hT.kd4 ha30
        have htr31_e9_13 := cexp.to hrX9_11 ht_29 _ _ _ hx_19
        refine z_st (st' := []) rfl ?_
        refine z_new (ci := 16) (fs := [.int 0, .null, .null]) rfl in_X16 tyX16 tyX16_ok q1044 q1045 q145 zd_X16 dX2_expression_22 rfl rfl (show ((2 * (a9_12 - a) + 1) + 1) ≤ (2 * ((s_whole T.kd T.vl T.wd (s_part T.kd T.pl T.vl T.wd 0) (a, 0, [])).1 - a) + 1) by omega) (show ((10 * (a9_12 - a) + 7) + 3) ≤ (10 * ((s_whole T.kd T.vl T.wd (s_part T.kd T.pl T.vl T.wd 0) (a, 0, [])).1 - a) + 7) by omega) (fun n_34 hn_35 hl_36 => ?_)
        have ne_37 : r ≠ n_34 := fun q9 => by rw [← q9, hr30] at hn_35; cases hn_35
        have ne_38 : T.x ≠ n_34 := fun q9 => by rw [← q9, hx30] at hn_35; cases hn_35
        have hx_39 : (zup X_28 n_34 (.inr (16, [.int 0, .null, .null]))) r = some (rdT T (a9_12 + 1) va30 5 vo) := zup_k ne_37 hr30
        have hx_40 : (zup X_28 n_34 (.inr (16, [.int 0, .null, .null]))) T.x = some (.inl (zar g 1, 1000, .inl T.t)) := zup_k ne_38 hx30
        have hx_41 : (zup X_28 n_34 (.inr (16, [.int 0, .null, .null]))) n_34 = some (.inr (16, [.int 0, .null, .null])) := zup_s
        have hz0n_34 := (hrt30).back hn_35 hr30
        refine z_dup dX2_expression_25 rfl ?_
        refine z_iload_n 0 dX2_expression_26 rfl ?_
        refine z_if_ne 35 dX2_expression_27 (by decide) (fun c_42 => ?_) (fun c_42 => ?_)
        · -- ¬ s_wh T.kd T.vl T.wd a9_12 0 19 2 = 0
          refine z_bipush (v := 124) dX2_expression_35 (by decide) ?_
          refine z_aload_n 2 dX2_expression_37 rfl ?_
          refine z_aload_n 1 dX2_expression_38 rfl ?_
          refine z_callVx (As := []) (rd_test_0 hT (hWk30.nw hn_35)) q985 q987 qs20 q113 q988 nm_X2_test hx_39 rfl rfl rfl (Nat.le_of_ble_eq_true rfl) ⟨Nat.le_of_ble_eq_true rfl, Nat.le_of_ble_eq_true rfl⟩ dX2_expression_39 rfl rfl (show (((2 * (a9_12 - a) + 1) + 1) + (2 * ((s_tst T.kd T.vl (s_part T.kd T.pl T.vl T.wd 0) ((a9_12 + 1), 0, [])).1 - (a9_12 + 1)) + 1)) ≤ (2 * ((s_whole T.kd T.vl T.wd (s_part T.kd T.pl T.vl T.wd 0) (a, 0, [])).1 - a) + 1) by omega) (show (((10 * (a9_12 - a) + 7) + 3) + (10 * ((s_tst T.kd T.vl (s_part T.kd T.pl T.vl T.wd 0) ((a9_12 + 1), 0, [])).1 - (a9_12 + 1)) + 7)) ≤ (10 * ((s_whole T.kd T.vl T.wd (s_part T.kd T.pl T.vl T.wd 0) (a, 0, [])).1 - a) + 7) by omega) rfl (fun q9 E9 X8 hp9 => by obtain ⟨f9, hf9, hs9, hx9⟩ := hp9; exact ⟨f9, hf9, (by rw [← h6_18]; show (if (s_isW T.kd T.vl T.wd a9_12 0 19 || s_isW T.kd T.vl T.wd a9_12 0 20) = true then s_whl T.kd T.vl T.wd (s_part T.kd T.pl T.vl T.wd 0) m_23 (s_emit (s_tst T.kd T.vl (s_part T.kd T.pl T.vl T.wd 0) (a9_12 + 1, 0, c9_14)) (if s_isW T.kd T.vl T.wd a9_12 0 19 = true then 9 else 10) 0) else _).2.1 = f9; rw [if_pos hww]; have hq9 := ((s_ap_tst (kd := T.kd) (vl := T.vl) (s_ap_part (kd := T.kd) (pl := T.pl) (vl := T.vl) (wd := T.wd) 0)).f (a := a9_12 + 1) (f := 0) c9_14).2.trans hs9; rw [(s_fx_whl m_23).s (show ¬ (s_emit (s_tst T.kd T.vl (s_part T.kd T.pl T.vl T.wd 0) (a9_12 + 1, 0, c9_14)) (if s_isW T.kd T.vl T.wd a9_12 0 19 = true then 9 else 10) 0).2.1 = 0 by show ¬ (s_tst T.kd T.vl (s_part T.kd T.pl T.vl T.wd 0) (a9_12 + 1, 0, c9_14)).2.1 = 0; rw [hq9]; exact hf9)]; exact hq9), hx9.tr (hrt30.nw hn_35)⟩) (fun v_46 X43 hp_47 => ?_)
          obtain ⟨e43, a43, rfl, c43, w43, he43, hal43, hxe43, hcd43, ht43, hw43⟩ := hp_47
          have hsz43 : (s_tst T.kd T.vl (s_part T.kd T.pl T.vl T.wd 0) ((a9_12 + 1), 0, [])).1 = a43 := by rw [he43]
          have hWk44 := hw43
          obtain ⟨-, hx44, hks44, ha44, va44, hr44, hva44⟩ := hw43
          have hrt44 := (hrt30.nw hn_35).tr ht43
          have he44_n_34 := ht43 _ _ (zne hx_41 hx_39 (by unfold rdT; simp)) hx_41
          have hpl44 := hT.le ha44
          have hto44 := hT.to ha44
          have hk444 := hT.kd4 ha44
          have htr45_e9_13 := cexp.to hx_39 ht43 _ _ _ (htr31_e9_13.nw hn_35)
          refine z_st (st' := [.ref e43, .ref e9_13, .int 124, .ref n_34, .ref n_34]) rfl ?_
          refine z_callI (As := [.int 124, .ref e9_13, .ref e43]) (rd_two_124 he44_n_34 hl_36) q1046 q1047 q145 q1048 rfl rfl nm_X16_init rfl (Nat.le_of_ble_eq_true rfl) ⟨Nat.le_of_ble_eq_true rfl, Nat.le_of_ble_eq_true rfl⟩ dX2_expression_42 rfl rfl (show (((2 * (a9_12 - a) + 1) + 1) + (2 * ((s_tst T.kd T.vl (s_part T.kd T.pl T.vl T.wd 0) ((a9_12 + 1), 0, [])).1 - (a9_12 + 1)) + 1)) ≤ (2 * ((s_whole T.kd T.vl T.wd (s_part T.kd T.pl T.vl T.wd 0) (a, 0, [])).1 - a) + 1) by omega) (show (((10 * (a9_12 - a) + 7) + 3) + (10 * ((s_tst T.kd T.vl (s_part T.kd T.pl T.vl T.wd 0) ((a9_12 + 1), 0, [])).1 - (a9_12 + 1)) + 7)) ≤ (10 * ((s_whole T.kd T.vl T.wd (s_part T.kd T.pl T.vl T.wd 0) (a, 0, [])).1 - a) + 7) by omega) (fun v_51 X_52 hp_53 => ?_)
          obtain ⟨rfl, h7⟩ := hp_53
          replace h7 := h7.symm
          subst h7
          refine z_X (X' := (zup X43 n_34 (.inr (16, [.int 124, .ref e9_13, .ref e43])))) rfl ?_
          have hx_48 : (zup X43 n_34 (.inr (16, [.int 124, .ref e9_13, .ref e43]))) r = some (rdT T a43 va44 5 vo) := zup_k (zne hr44 he44_n_34 (by unfold rdT; simp)) hr44
          have hx_49 : (zup X43 n_34 (.inr (16, [.int 124, .ref e9_13, .ref e43]))) T.x = some (.inl (zar g 1, 1000, .inl T.t)) := zup_k (zne hx44 he44_n_34 (by simp)) hx44
          have hx_50 : (zup X43 n_34 (.inr (16, [.int 124, .ref e9_13, .ref e43]))) n_34 = some (.inr (16, [.int 124, .ref e9_13, .ref e43])) := zup_s
          refine z_st (st' := [.ref n_34]) rfl ?_
          refine z_astore_n (lv' := [(1, .ref n_34), (2, .int (s_wh T.kd T.vl T.wd a9_12 0 19 2)), (0, .ref r)]) dX2_expression_45 rfl (by decide) rfl ?_
          refine z_goto 5 dX2_expression_46 (by decide) ?_
          have hd9 : a43 - a = (a43 - a - 1) + 1 := by omega
          have htw : cexp (zup X43 n_34 (.inr (16, [.int 124, .ref e9_13, .ref e43]))) (a43 - a) n_34 (fun a b x y => s_both 10 (w9_15 a b x y) (w43 a b x y)) := by
            rw [hd9]
            exact Or.inr (Or.inr (Or.inr ⟨124, 10, e9_13, e43, w9_15, w43, zup_s, by simp, cexp.le (cexp.own (e1 := .inr (16, [.int 124, .ref e9_13, .ref e43])) he44_n_34 (by simp) (by simp) (by simp) (by simp) _ _ _ htr45_e9_13) (by omega), cexp.le (cexp.own (e1 := .inr (16, [.int 124, .ref e9_13, .ref e43])) he44_n_34 (by simp) (by simp) (by simp) (by simp) _ _ _ hxe43) (by omega), fun _ _ _ _ => rfl⟩))
          refine z_lv (lv' := [(0, .ref r), (1, .ref n_34)]) [2, 0] rfl ?_
          refine z_widen (k' := (2 * (a43 - a) + 1)) (n' := (10 * (a43 - a) + 7)) (show (((2 * (a9_12 - a) + 1) + 1) + (2 * ((s_tst T.kd T.vl (s_part T.kd T.pl T.vl T.wd 0) ((a9_12 + 1), 0, [])).1 - (a9_12 + 1)) + 1)) ≤ (2 * (a43 - a) + 1) by omega) (show (((10 * (a9_12 - a) + 7) + 3) + (10 * ((s_tst T.kd T.vl (s_part T.kd T.pl T.vl T.wd 0) ((a9_12 + 1), 0, [])).1 - (a9_12 + 1)) + 7)) ≤ (10 * (a43 - a) + 7) by omega) ?_
          exact ih_7 m_23 (zup X43 n_34 (.inr (16, [.int 124, .ref e9_13, .ref e43]))) a43 n_34 (c9_14 ++ c43 ++ [(10, 0)]) (fun a b x y => s_both 10 (w9_15 a b x y) (w43 a b x y)) (by omega) (by omega) ((by show (if (s_isW T.kd T.vl T.wd a9_12 0 19 || s_isW T.kd T.vl T.wd a9_12 0 20) = true then s_whl T.kd T.vl T.wd (s_part T.kd T.pl T.vl T.wd 0) m_23 (s_emit (s_tst T.kd T.vl (s_part T.kd T.pl T.vl T.wd 0) (a9_12 + 1, 0, c9_14)) (if s_isW T.kd T.vl T.wd a9_12 0 19 = true then 9 else 10) 0) else _) = _; rw [if_pos hww, if_neg (show ¬ s_isW T.kd T.vl T.wd a9_12 0 19 = true by rw [(k_ao hT).2.2.2 hnl c_42]; decide), (s_ap_tst (kd := T.kd) (vl := T.vl) (s_ap_part (kd := T.kd) (pl := T.pl) (vl := T.vl) (wd := T.wd) 0)).eq he43 c9_14]; rfl : s_whl T.kd T.vl T.wd (s_part T.kd T.pl T.vl T.wd 0) (m_23 + 1) (a9_12, 0, c9_14) = s_whl T.kd T.vl T.wd (s_part T.kd T.pl T.vl T.wd 0) m_23 (a43, 0, c9_14 ++ c43 ++ [(10, 0)])).symm.trans h6_18) htw (k_cd_two hc_20 hcd43 (by decide)) ((hrt44.new hz0n_34)) ((hWk44.up he44_n_34 (by decide) (by decide))) (by omega)
        · -- s_wh T.kd T.vl T.wd a9_12 0 19 2 = 0
          refine z_bipush (v := 38) dX2_expression_30 (by decide) ?_
          refine z_goto 37 dX2_expression_32 (by decide) ?_
          refine z_aload_n 2 dX2_expression_37 rfl ?_
          refine z_aload_n 1 dX2_expression_38 rfl ?_
          refine z_callVx (As := []) (rd_test_0 hT (hWk30.nw hn_35)) q985 q987 qs20 q113 q988 nm_X2_test hx_39 rfl rfl rfl (Nat.le_of_ble_eq_true rfl) ⟨Nat.le_of_ble_eq_true rfl, Nat.le_of_ble_eq_true rfl⟩ dX2_expression_39 rfl rfl (show (((2 * (a9_12 - a) + 1) + 1) + (2 * ((s_tst T.kd T.vl (s_part T.kd T.pl T.vl T.wd 0) ((a9_12 + 1), 0, [])).1 - (a9_12 + 1)) + 1)) ≤ (2 * ((s_whole T.kd T.vl T.wd (s_part T.kd T.pl T.vl T.wd 0) (a, 0, [])).1 - a) + 1) by omega) (show (((10 * (a9_12 - a) + 7) + 3) + (10 * ((s_tst T.kd T.vl (s_part T.kd T.pl T.vl T.wd 0) ((a9_12 + 1), 0, [])).1 - (a9_12 + 1)) + 7)) ≤ (10 * ((s_whole T.kd T.vl T.wd (s_part T.kd T.pl T.vl T.wd 0) (a, 0, [])).1 - a) + 7) by omega) rfl (fun q9 E9 X8 hp9 => by obtain ⟨f9, hf9, hs9, hx9⟩ := hp9; exact ⟨f9, hf9, (by rw [← h6_18]; show (if (s_isW T.kd T.vl T.wd a9_12 0 19 || s_isW T.kd T.vl T.wd a9_12 0 20) = true then s_whl T.kd T.vl T.wd (s_part T.kd T.pl T.vl T.wd 0) m_23 (s_emit (s_tst T.kd T.vl (s_part T.kd T.pl T.vl T.wd 0) (a9_12 + 1, 0, c9_14)) (if s_isW T.kd T.vl T.wd a9_12 0 19 = true then 9 else 10) 0) else _).2.1 = f9; rw [if_pos hww]; have hq9 := ((s_ap_tst (kd := T.kd) (vl := T.vl) (s_ap_part (kd := T.kd) (pl := T.pl) (vl := T.vl) (wd := T.wd) 0)).f (a := a9_12 + 1) (f := 0) c9_14).2.trans hs9; rw [(s_fx_whl m_23).s (show ¬ (s_emit (s_tst T.kd T.vl (s_part T.kd T.pl T.vl T.wd 0) (a9_12 + 1, 0, c9_14)) (if s_isW T.kd T.vl T.wd a9_12 0 19 = true then 9 else 10) 0).2.1 = 0 by show ¬ (s_tst T.kd T.vl (s_part T.kd T.pl T.vl T.wd 0) (a9_12 + 1, 0, c9_14)).2.1 = 0; rw [hq9]; exact hf9)]; exact hq9), hx9.tr (hrt30.nw hn_35)⟩) (fun v_57 X54 hp_58 => ?_)
          obtain ⟨e54, a54, rfl, c54, w54, he54, hal54, hxe54, hcd54, ht54, hw54⟩ := hp_58
          have hsz54 : (s_tst T.kd T.vl (s_part T.kd T.pl T.vl T.wd 0) ((a9_12 + 1), 0, [])).1 = a54 := by rw [he54]
          have hWk55 := hw54
          obtain ⟨-, hx55, hks55, ha55, va55, hr55, hva55⟩ := hw54
          have hrt55 := (hrt30.nw hn_35).tr ht54
          have he55_n_34 := ht54 _ _ (zne hx_41 hx_39 (by unfold rdT; simp)) hx_41
          have hpl55 := hT.le ha55
          have hto55 := hT.to ha55
          have hk455 := hT.kd4 ha55
          have htr56_e9_13 := cexp.to hx_39 ht54 _ _ _ (htr31_e9_13.nw hn_35)
          refine z_st (st' := [.ref e54, .ref e9_13, .int 38, .ref n_34, .ref n_34]) rfl ?_
          refine z_callI (As := [.int 38, .ref e9_13, .ref e54]) (rd_two_38 he55_n_34 hl_36) q1046 q1047 q145 q1048 rfl rfl nm_X16_init rfl (Nat.le_of_ble_eq_true rfl) ⟨Nat.le_of_ble_eq_true rfl, Nat.le_of_ble_eq_true rfl⟩ dX2_expression_42 rfl rfl (show (((2 * (a9_12 - a) + 1) + 1) + (2 * ((s_tst T.kd T.vl (s_part T.kd T.pl T.vl T.wd 0) ((a9_12 + 1), 0, [])).1 - (a9_12 + 1)) + 1)) ≤ (2 * ((s_whole T.kd T.vl T.wd (s_part T.kd T.pl T.vl T.wd 0) (a, 0, [])).1 - a) + 1) by omega) (show (((10 * (a9_12 - a) + 7) + 3) + (10 * ((s_tst T.kd T.vl (s_part T.kd T.pl T.vl T.wd 0) ((a9_12 + 1), 0, [])).1 - (a9_12 + 1)) + 7)) ≤ (10 * ((s_whole T.kd T.vl T.wd (s_part T.kd T.pl T.vl T.wd 0) (a, 0, [])).1 - a) + 7) by omega) (fun v_62 X_63 hp_64 => ?_)
          obtain ⟨rfl, h7⟩ := hp_64
          replace h7 := h7.symm
          subst h7
          refine z_X (X' := (zup X54 n_34 (.inr (16, [.int 38, .ref e9_13, .ref e54])))) rfl ?_
          have hx_59 : (zup X54 n_34 (.inr (16, [.int 38, .ref e9_13, .ref e54]))) r = some (rdT T a54 va55 5 vo) := zup_k (zne hr55 he55_n_34 (by unfold rdT; simp)) hr55
          have hx_60 : (zup X54 n_34 (.inr (16, [.int 38, .ref e9_13, .ref e54]))) T.x = some (.inl (zar g 1, 1000, .inl T.t)) := zup_k (zne hx55 he55_n_34 (by simp)) hx55
          have hx_61 : (zup X54 n_34 (.inr (16, [.int 38, .ref e9_13, .ref e54]))) n_34 = some (.inr (16, [.int 38, .ref e9_13, .ref e54])) := zup_s
          refine z_st (st' := [.ref n_34]) rfl ?_
          refine z_astore_n (lv' := [(1, .ref n_34), (2, .int (s_wh T.kd T.vl T.wd a9_12 0 19 2)), (0, .ref r)]) dX2_expression_45 rfl (by decide) rfl ?_
          refine z_goto 5 dX2_expression_46 (by decide) ?_
          have hd9 : a54 - a = (a54 - a - 1) + 1 := by omega
          have htw : cexp (zup X54 n_34 (.inr (16, [.int 38, .ref e9_13, .ref e54]))) (a54 - a) n_34 (fun a b x y => s_both 9 (w9_15 a b x y) (w54 a b x y)) := by
            rw [hd9]
            exact Or.inr (Or.inr (Or.inr ⟨38, 9, e9_13, e54, w9_15, w54, zup_s, by simp, cexp.le (cexp.own (e1 := .inr (16, [.int 38, .ref e9_13, .ref e54])) he55_n_34 (by simp) (by simp) (by simp) (by simp) _ _ _ htr56_e9_13) (by omega), cexp.le (cexp.own (e1 := .inr (16, [.int 38, .ref e9_13, .ref e54])) he55_n_34 (by simp) (by simp) (by simp) (by simp) _ _ _ hxe54) (by omega), fun _ _ _ _ => rfl⟩))
          refine z_lv (lv' := [(0, .ref r), (1, .ref n_34)]) [2, 0] rfl ?_
          refine z_widen (k' := (2 * (a54 - a) + 1)) (n' := (10 * (a54 - a) + 7)) (show (((2 * (a9_12 - a) + 1) + 1) + (2 * ((s_tst T.kd T.vl (s_part T.kd T.pl T.vl T.wd 0) ((a9_12 + 1), 0, [])).1 - (a9_12 + 1)) + 1)) ≤ (2 * (a54 - a) + 1) by omega) (show (((10 * (a9_12 - a) + 7) + 3) + (10 * ((s_tst T.kd T.vl (s_part T.kd T.pl T.vl T.wd 0) ((a9_12 + 1), 0, [])).1 - (a9_12 + 1)) + 7)) ≤ (10 * (a54 - a) + 7) by omega) ?_
          exact ih_7 m_23 (zup X54 n_34 (.inr (16, [.int 38, .ref e9_13, .ref e54]))) a54 n_34 (c9_14 ++ c54 ++ [(9, 0)]) (fun a b x y => s_both 9 (w9_15 a b x y) (w54 a b x y)) (by omega) (by omega) ((by show (if (s_isW T.kd T.vl T.wd a9_12 0 19 || s_isW T.kd T.vl T.wd a9_12 0 20) = true then s_whl T.kd T.vl T.wd (s_part T.kd T.pl T.vl T.wd 0) m_23 (s_emit (s_tst T.kd T.vl (s_part T.kd T.pl T.vl T.wd 0) (a9_12 + 1, 0, c9_14)) (if s_isW T.kd T.vl T.wd a9_12 0 19 = true then 9 else 10) 0) else _) = _; rw [if_pos hww, if_pos ((k_ao hT).2.2.1 c_42), (s_ap_tst (kd := T.kd) (vl := T.vl) (s_ap_part (kd := T.kd) (pl := T.pl) (vl := T.vl) (wd := T.wd) 0)).eq he54 c9_14]; rfl : s_whl T.kd T.vl T.wd (s_part T.kd T.pl T.vl T.wd 0) (m_23 + 1) (a9_12, 0, c9_14) = s_whl T.kd T.vl T.wd (s_part T.kd T.pl T.vl T.wd 0) m_23 (a54, 0, c9_14 ++ c54 ++ [(9, 0)])).symm.trans h6_18) htw (k_cd_two hc_20 hcd54 (by decide)) ((hrt55.new hz0n_34)) ((hWk55.up he55_n_34 (by decide) (by decide))) (by omega)
      · -- ¬ 0 ≤ s_wh T.kd T.vl T.wd a9_12 0 19 2
        have c_27' := Int32.not_le.mp c_27
        have hfin : s_whole T.kd T.vl T.wd (s_part T.kd T.pl T.vl T.wd 0) (a, 0, []) = (a9_12, 0, c9_14) := h6_18.symm.trans (by show (if (s_isW T.kd T.vl T.wd a9_12 0 19 || s_isW T.kd T.vl T.wd a9_12 0 20) = true then _ else _) = _; rw [if_neg (by rw [(k_ao hT).1 (Int32.not_le.mp c_27)]; decide)])
        have hfin1 : (s_whole T.kd T.vl T.wd (s_part T.kd T.pl T.vl T.wd 0) (a, 0, [])).1 = a9_12 := by rw [hfin]
        refine z_aload_n 2 dX2_expression_16 rfl ?_
        exact z_aret dX2_expression_17 rfl (Or.inl ⟨_, rfl⟩) (Or.inr ⟨_, rfl⟩) (show (2 * (a9_12 - a) + 1) ≤ (2 * ((s_whole T.kd T.vl T.wd (s_part T.kd T.pl T.vl T.wd 0) (a, 0, [])).1 - a) + 1) by omega) (show (10 * (a9_12 - a) + 7) ≤ (10 * ((s_whole T.kd T.vl T.wd (s_part T.kd T.pl T.vl T.wd 0) (a, 0, [])).1 - a) + 7) by omega) ⟨e9_13, a9_12, rfl, c9_14, w9_15, hfin, h1_16, hx_19, hc_20, ht_21, hw_22⟩
  refine z_lv (lv' := [(0, .ref r), (1, .ref e1)]) [1, 0] rfl ?_
  refine z_widen (k' := (2 * (a1 - a) + 1)) (n' := (10 * (a1 - a) + 7)) (show (0 + (2 * ((s_tst T.kd T.vl (s_part T.kd T.pl T.vl T.wd 0) (a, 0, [])).1 - a) + 1)) ≤ (2 * (a1 - a) + 1) by omega) (show (0 + (10 * ((s_tst T.kd T.vl (s_part T.kd T.pl T.vl T.wd 0) (a, 0, [])).1 - a) + 7)) ≤ (10 * (a1 - a) + 7) by omega) ?_
  exact loop_9 (1001 + 1) 1001 X1 a1 e1 c1 w1 (by omega) (by omega) (by show _ = s_whl T.kd T.vl T.wd (s_part T.kd T.pl T.vl T.wd 0) 1001 (s_tst T.kd T.vl (s_part T.kd T.pl T.vl T.wd 0) (a, 0, [])); rw [he1]) hxe1 hcd1 (hrt2) (hWk2) (Nat.lt_succ_self _)
