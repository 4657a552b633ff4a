/-! THE READER: which word is at hand. Printed by t92.py -/
set_option maxRecDepth 100000
theorem kwf_s {p : Nat → Bool} {m k : Nat} (h : k < m) : kwf p (m - k) k = if p k = true then nI k else kwf p (m - (k + 1)) (k + 1) := by
  rw [show m - k = (m - (k + 1)) + 1 by omega]
  rfl
theorem kt_n {i j : Nat} (hi : i < 12) (hj : j < (kstr i).length) : kt i j = nI ((kstr i).getD j 0) ∧ (kstr i).getD j 0 < 128 := ⟨rfl, k_str_le i hi j hj⟩
set_option maxHeartbeats 4000000 in
theorem rd_which {g : zG} {X : zX} {r a w : Nat} {vo : Option Nat} {T : rTP} (hT : rTk T) (hW : rW g X r T a w vo) (i : Nat) (h1 : 1 ≤ i) (hi : i < 12) : zN g m_X2_which ({ frames := 4, cells := 0, slots := 0, locals := 85 } : Room) [.ref r, .ref (zk g (10 + i))] X (fun rv X' => rv = some (.int (if T.kd a = 1 then kwf (fun k => decide (T.vl a = T.wd (kix i k))) (kmw i) 0 else zm1)) ∧ X' = X) := by
  refine zN.of (by decide +kernel) (Nat.le_of_ble_eq_true rfl) rfl ?_
  refine z_lv (lv' := [(0, .ref r), (1, .ref (zk g (10 + i)))]) [0, 1] rfl ?_
  have hn := hT.n
  have hW2 := hW
  obtain ⟨hr0, hx, hks, ha, va, hr, hva⟩ := hW
  have hcn := hT.c
  have hpl := hT.le ha
  have hto := hT.to ha
  have hk4 := hT.kd4 ha
  obtain ⟨sb, hs, hz, hs1, hs2⟩ := hks i hi
  have hsl : (kstr i).length < 2 ^ 31 := Nat.lt_of_le_of_lt (k_str_len i hi) (by decide)
  have hsl2 := k_str_len i hi
  have hw := k_wok_a h1 hi
  have hw0 : koff i 0 = 0 := hw.1
  refine z_iconst (v := 0) dX2_which_0 (by decide) ?_
  refine z_istore_n (lv' := [(2, .int 0), (0, .ref r), (1, .ref (zk g (10 + i)))]) dX2_which_1 rfl (by decide) rfl ?_
  refine z_iconst (v := 0) dX2_which_2 (by decide) ?_
  refine z_istore_n (lv' := [(3, .int 0), (2, .int 0), (0, .ref r), (1, .ref (zk g (10 + i)))]) dX2_which_3 rfl (by decide) rfl ?_
  have loop_4 : ∀ (q_1 : Nat) (k_5 : Nat), (k_5 ≤ kmw i) → (kwf (fun k => decide (T.vl a = T.wd (kix i k))) (kmw i - k_5) k_5 = kwf (fun k => decide (T.vl a = T.wd (kix i k))) (kmw i) 0) → kmw i - k_5 < q_1 → zZ g m_X2_which (fun rv X' => rv = some (.int (if T.kd a = 1 then kwf (fun k => decide (T.vl a = T.wd (kix i k))) (kmw i) 0 else zm1)) ∧ X' = X, zno, ({ frames := 4, cells := 0, slots := 0, locals := 85 } : Room)) 0 0 X 4 [(0, .ref r), (1, .ref (zk g (10 + i))), (2, .int (nI (k_5))), (3, .int (nI ((koff i k_5))))] [] := by
    intro q_1
    induction q_1 with
    | zero => intro k_5 h1_6 h2_7 hm_3; exact absurd hm_3 (Nat.not_lt_zero _)
    | succ q_1 ih_2 =>
      intro k_5 h1_6 h2_7 hm_3
      have hg : (k_5 < kmw i ∧ koff i k_5 < koff i (k_5 + 1) ∧ koff i (k_5 + 1) ≤ (kstr i).length ∧ koff i (k_5 + 1) - 1 - koff i k_5 ≤ 8) ∨ (k_5 = kmw i ∧ koff i k_5 = (kstr i).length) := by
        by_cases z : k_5 < kmw i
        · exact Or.inl ⟨z, (hw.2.2 k_5 z).1, (hw.2.2 k_5 z).2.1, (hw.2.2 k_5 z).2.2.2.1⟩
        · exact Or.inr ⟨by omega, by rw [show k_5 = kmw i by omega]; exact hw.2.1⟩
      refine z_iload_n 3 dX2_which_4 rfl ?_
      refine z_aload_n 1 dX2_which_5 rfl ?_
      refine z_callV (As := []) (t_len hs1 hs2 hsl) q520 q438 q439 q122 q440 nm_J5_length hs1 rfl rfl rfl (Nat.le_of_ble_eq_true rfl) ⟨Nat.le_of_ble_eq_true rfl, Nat.le_of_ble_eq_true rfl⟩ dX2_which_6 rfl rfl (Nat.le_of_ble_eq_true rfl) (Nat.le_of_ble_eq_true rfl) (fun v_8 X_9 hp_10 => ?_)
      obtain ⟨rfl, h7⟩ := hp_10
      replace h7 := h7.symm
      subst h7
      refine z_st (st' := [.int (nI ((kstr i).length)), .int (nI ((koff i k_5)))]) rfl ?_
      refine z_icmp_geN (a := (koff i k_5)) (b := (kstr i).length) 123 (by omega) (by omega) dX2_which_9 (by decide) (fun c_11 => ?_) (fun c_11 => ?_)
      · -- (kstr i).length ≤ (koff i k_5)
        refine z_iconst (v := zm1) dX2_which_123 (by decide) ?_
        exact z_iret dX2_which_124 rfl (Nat.le_of_ble_eq_true rfl) (Nat.le_of_ble_eq_true rfl) ⟨congrArg (fun z => some (Value.int z)) (Eq.symm (show (if T.kd a = 1 then kwf (fun k => decide (T.vl a = T.wd (kix i k))) (kmw i) 0 else zm1) = zm1 by split; (· rw [← h2_7, show kmw i - k_5 = 0 by omega]; rfl); rfl)), rfl⟩
      · -- (koff i k_5) < (kstr i).length
        refine z_aload_n 0 dX2_which_12 rfl ?_
        refine z_get (v := .int (nI ((T.kd a)))) 3 hr rfl in_X2 (by decide) q171 rfl dX2_which_13 ?_
        refine z_iconst (v := 1) dX2_which_16 (by decide) ?_
        refine z_icmp_neN (a := (T.kd a)) (b := 1) 123 (by omega) (by omega) dX2_which_17 (by decide) (fun c_12 => ?_) (fun c_12 => ?_)
        · -- (T.kd a) ≠ 1
          refine z_iconst (v := zm1) dX2_which_123 (by decide) ?_
          exact z_iret dX2_which_124 rfl (Nat.le_of_ble_eq_true rfl) (Nat.le_of_ble_eq_true rfl) ⟨congrArg (fun z => some (Value.int z)) (Eq.symm (if_neg c_12)), rfl⟩
        · -- (T.kd a) = 1
          refine z_aload_n 1 dX2_which_20 rfl ?_
          refine z_bipush (v := 32) dX2_which_21 (by decide) ?_
          refine z_iload_n 3 dX2_which_23 rfl ?_
          refine z_callV (As := [.int 32, .int (nI ((koff i k_5)))]) (t_ix2 hs1 hs2 hsl 32 (koff i k_5) (by decide) (by omega)) q521 q428 q429 q122 q430 nm_J5_indexOf_2 hs1 rfl rfl rfl (Nat.le_of_ble_eq_true rfl) ⟨Nat.le_of_ble_eq_true rfl, Nat.le_of_ble_eq_true rfl⟩ dX2_which_24 rfl rfl (Nat.le_of_ble_eq_true rfl) (Nat.le_of_ble_eq_true rfl) (fun v_13 X_14 hp_15 => ?_)
          obtain ⟨rfl, h7⟩ := hp_15
          replace h7 := h7.symm
          subst h7
          refine z_st (st' := [.int (s_ix (kt i) (nI 32) (kstr i).length (koff i k_5))]) rfl ?_
          refine z_eq (y := nI ((koff i (k_5 + 1) - 1))) (hw.2.2 k_5 (by omega)).2.2.1 ?_
          refine z_iload_n 3 dX2_which_27 rfl ?_
          refine z_isubN (a := (koff i (k_5 + 1) - 1)) (b := (koff i k_5)) (by omega) dX2_which_28 ?_
          refine z_istore (lv' := [(4, .int (nI (((koff i (k_5 + 1) - 1) - (koff i k_5))))), (0, .ref r), (1, .ref (zk g (10 + i))), (2, .int (nI (k_5))), (3, .int (nI ((koff i k_5))))]) dX2_which_29 (by decide) rfl ?_
          refine z_aload_n 1 dX2_which_31 rfl ?_
          refine z_get (v := .int (nI ((k_to T.t T.n (T.pl a))))) 2 hr rfl in_X2 (by decide) q170 rfl dX2_which_32 ?_
          refine z_aload_n 1 dX2_which_35 rfl ?_
          refine z_get (v := .int (nI ((T.pl a)))) 4 hr rfl in_X2 (by decide) q172 rfl dX2_which_36 ?_
          refine z_isubN (a := (k_to T.t T.n (T.pl a))) (b := (T.pl a)) (by omega) dX2_which_39 ?_
          refine z_iload 0 dX2_which_40 rfl ?_
          refine z_icmp_neN (a := ((k_to T.t T.n (T.pl a)) - (T.pl a))) (b := ((koff i (k_5 + 1) - 1) - (koff i k_5))) 49 (by omega) (by omega) dX2_which_42 (by decide) (fun c_16 => ?_) (fun c_16 => ?_)
          · -- ((k_to T.t T.n (T.pl a)) - (T.pl a)) ≠ ((koff i (k_5 + 1) - 1) - (koff i k_5))
            refine z_iconst (v := 0) dX2_which_49 (by decide) ?_
            refine z_istore (lv' := [(5, .int 0), (4, .int (nI (((koff i (k_5 + 1) - 1) - (koff i k_5))))), (0, .ref r), (1, .ref (zk g (10 + i))), (2, .int (nI (k_5))), (3, .int (nI ((koff i k_5))))]) dX2_which_50 (by decide) rfl ?_
            refine z_iconst (v := 0) dX2_which_52 (by decide) ?_
            refine z_istore (lv' := [(6, .int 0), (5, .int 0), (4, .int (nI (((koff i (k_5 + 1) - 1) - (koff i k_5))))), (0, .ref r), (1, .ref (zk g (10 + i))), (2, .int (nI (k_5))), (3, .int (nI ((koff i k_5))))]) dX2_which_53 (by decide) rfl ?_
            refine z_iload 1 dX2_which_55 rfl ?_
            refine z_if_eq 103 dX2_which_57 (by decide) (fun h_ => ?_) (fun h_ => absurd h_ (by decide))
            refine z_iload 1 dX2_which_103 rfl ?_
            refine z_if_eq 110 dX2_which_105 (by decide) (fun h_ => ?_) (fun h_ => absurd h_ (by decide))
            refine z_iload_n 6 dX2_which_110 rfl ?_
            refine z_iload 2 dX2_which_111 rfl ?_
            refine z_iconst (v := 1) dX2_which_113 (by decide) ?_
            refine z_iaddN (a := ((koff i (k_5 + 1) - 1) - (koff i k_5))) (b := 1) dX2_which_114 ?_
            refine z_iaddN (a := (koff i k_5)) (b := ((koff i (k_5 + 1) - 1) - (koff i k_5)) + 1) dX2_which_115 ?_
            refine z_eq (y := nI ((koff i k_5) + ((koff i (k_5 + 1) - 1) - (koff i k_5)) + 1)) (congrArg nI (by omega)) ?_
            refine z_istore_n (lv' := [(3, .int (nI ((koff i k_5) + ((koff i (k_5 + 1) - 1) - (koff i k_5)) + 1))), (6, .int 0), (5, .int 0), (4, .int (nI (((koff i (k_5 + 1) - 1) - (koff i k_5))))), (0, .ref r), (1, .ref (zk g (10 + i))), (2, .int (nI (k_5)))]) dX2_which_116 rfl (by decide) rfl ?_
            refine z_iinc (v := nI (k_5 + 1)) (lv' := [(2, .int (nI (k_5 + 1))), (3, .int (nI ((koff i k_5) + ((koff i (k_5 + 1) - 1) - (koff i k_5)) + 1))), (6, .int 0), (5, .int 0), (4, .int (nI (((koff i (k_5 + 1) - 1) - (koff i k_5))))), (0, .ref r), (1, .ref (zk g (10 + i)))]) 6 dX2_which_117 rfl (nI_1 _) (by decide) rfl ?_
            refine z_goto 4 dX2_which_120 (by decide) ?_
            have f_17 : nI (k_5 + 1) = nI ((k_5 + 1)) := congrArg nI (by omega)
            have f_18 : nI ((koff i k_5) + ((koff i (k_5 + 1) - 1) - (koff i k_5)) + 1) = nI ((koff i (k_5 + 1))) := congrArg nI (by omega)
            refine z_lv (lv' := [(0, .ref r), (1, .ref (zk g (10 + i))), (2, .int (nI ((k_5 + 1)))), (3, .int (nI ((koff i (k_5 + 1)))))]) [5, 6, 0, 1] (by rw [← f_17, ← f_18]; rfl) ?_
            exact ih_2 (k_5 + 1) (by omega) ((by rw [kwf_s (show k_5 < kmw i by omega), if_neg (by rw [(show decide (T.vl a = T.wd (kix i k_5)) = false from (k_word_at hT ha c_12 h1 hi (show k_5 < kmw i by omega)).symm.trans (by rw [decide_eq_false (by omega)]; rfl))]; decide)] : kwf (fun k => decide (T.vl a = T.wd (kix i k))) (kmw i - k_5) k_5 = kwf (fun k => decide (T.vl a = T.wd (kix i k))) (kmw i - (k_5 + 1)) (k_5 + 1)).symm.trans h2_7) (by omega)
          · -- ((k_to T.t T.n (T.pl a)) - (T.pl a)) = ((koff i (k_5 + 1) - 1) - (koff i k_5))
            refine z_iconst (v := 1) dX2_which_45 (by decide) ?_
            refine z_goto 50 dX2_which_46 (by decide) ?_
            refine z_istore (lv' := [(5, .int 1), (4, .int (nI (((koff i (k_5 + 1) - 1) - (koff i k_5))))), (0, .ref r), (1, .ref (zk g (10 + i))), (2, .int (nI (k_5))), (3, .int (nI ((koff i k_5))))]) dX2_which_50 (by decide) rfl ?_
            refine z_iconst (v := 0) dX2_which_52 (by decide) ?_
            refine z_istore (lv' := [(6, .int 0), (5, .int 1), (4, .int (nI (((koff i (k_5 + 1) - 1) - (koff i k_5))))), (0, .ref r), (1, .ref (zk g (10 + i))), (2, .int (nI (k_5))), (3, .int (nI ((koff i k_5))))]) dX2_which_53 (by decide) rfl ?_
            have loop_22 : ∀ (q_19 : Nat) (j_23 : Nat), (j_23 ≤ (koff i (k_5 + 1) - 1 - koff i k_5)) → (koff i (k_5 + 1) - 1 - koff i k_5) - j_23 < q_19 → zZ g m_X2_which (fun rv X' => rv = some (.int (if T.kd a = 1 then kwf (fun k => decide (T.vl a = T.wd (kix i k))) (kmw i) 0 else zm1)) ∧ X' = X, zno, ({ frames := 4, cells := 0, slots := 0, locals := 85 } : Room)) 0 0 X 55 [(0, .ref r), (1, .ref (zk g (10 + i))), (2, .int (nI (k_5))), (3, .int (nI ((koff i k_5)))), (4, .int (nI (((koff i (k_5 + 1) - 1) - (koff i k_5))))), (5, .int (zb (k_eqb T.t (T.pl a) (kt i) (koff i k_5) j_23))), (6, .int (nI (j_23)))] [] := by
              intro q_19
              induction q_19 with
              | zero => intro j_23 h1_24 hm_21; exact absurd hm_21 (Nat.not_lt_zero _)
              | succ q_19 ih_20 =>
                intro j_23 h1_24 hm_21
                refine z_iload 5 dX2_which_55 rfl ?_
                refine z_if_eqb 103 dX2_which_57 (by decide) (fun c_25 => ?_) (fun c_25 => ?_)
                · -- k_eqb T.t (T.pl a) (kt i) (koff i k_5) j_23 = false
                  refine z_iload 5 dX2_which_103 rfl ?_
                  refine z_if_eqb 110 dX2_which_105 (by decide) (fun _ => ?_) (fun c_ => absurd (c_25.symm.trans c_) (by decide))
                  refine z_iload_n 3 dX2_which_110 rfl ?_
                  refine z_iload 4 dX2_which_111 rfl ?_
                  refine z_iconst (v := 1) dX2_which_113 (by decide) ?_
                  refine z_iaddN (a := ((koff i (k_5 + 1) - 1) - (koff i k_5))) (b := 1) dX2_which_114 ?_
                  refine z_iaddN (a := (koff i k_5)) (b := ((koff i (k_5 + 1) - 1) - (koff i k_5)) + 1) dX2_which_115 ?_
                  refine z_eq (y := nI ((koff i k_5) + ((koff i (k_5 + 1) - 1) - (koff i k_5)) + 1)) (congrArg nI (by omega)) ?_
                  refine z_istore_n (lv' := [(3, .int (nI ((koff i k_5) + ((koff i (k_5 + 1) - 1) - (koff i k_5)) + 1))), (0, .ref r), (1, .ref (zk g (10 + i))), (2, .int (nI (k_5))), (4, .int (nI (((koff i (k_5 + 1) - 1) - (koff i k_5))))), (5, .int (zb (k_eqb T.t (T.pl a) (kt i) (koff i k_5) j_23))), (6, .int (nI (j_23)))]) dX2_which_116 rfl (by decide) rfl ?_
                  refine z_iinc (v := nI (k_5 + 1)) (lv' := [(2, .int (nI (k_5 + 1))), (3, .int (nI ((koff i k_5) + ((koff i (k_5 + 1) - 1) - (koff i k_5)) + 1))), (0, .ref r), (1, .ref (zk g (10 + i))), (4, .int (nI (((koff i (k_5 + 1) - 1) - (koff i k_5))))), (5, .int (zb (k_eqb T.t (T.pl a) (kt i) (koff i k_5) j_23))), (6, .int (nI (j_23)))]) 3 dX2_which_117 rfl (nI_1 _) (by decide) rfl ?_
                  refine z_goto 4 dX2_which_120 (by decide) ?_
                  have f_26 : nI (k_5 + 1) = nI ((k_5 + 1)) := congrArg nI (by omega)
                  have f_27 : nI ((koff i k_5) + ((koff i (k_5 + 1) - 1) - (koff i k_5)) + 1) = nI ((koff i (k_5 + 1))) := congrArg nI (by omega)
                  refine z_lv (lv' := [(0, .ref r), (1, .ref (zk g (10 + i))), (2, .int (nI ((k_5 + 1)))), (3, .int (nI ((koff i (k_5 + 1)))))]) [2, 3, 0, 1] (by rw [← f_26, ← f_27]; rfl) ?_
                  exact ih_2 (k_5 + 1) (by omega) ((by rw [kwf_s (show k_5 < kmw i by omega), if_neg (by rw [(show decide (T.vl a = T.wd (kix i k_5)) = false from (k_word_at hT ha c_12 h1 hi (show k_5 < kmw i by omega)).symm.trans (by rw [k_eqb_f (show j_23 ≤ (koff i (k_5 + 1) - 1 - koff i k_5) by omega) c_25, Bool.and_false]))]; decide)] : kwf (fun k => decide (T.vl a = T.wd (kix i k))) (kmw i - k_5) k_5 = kwf (fun k => decide (T.vl a = T.wd (kix i k))) (kmw i - (k_5 + 1)) (k_5 + 1)).symm.trans h2_7) (by omega)
                · -- k_eqb T.t (T.pl a) (kt i) (koff i k_5) j_23 = true
                  refine z_iload 6 dX2_which_60 rfl ?_
                  refine z_iload 4 dX2_which_62 rfl ?_
                  refine z_icmp_geN (a := j_23) (b := ((koff i (k_5 + 1) - 1) - (koff i k_5))) 103 (by omega) (by omega) dX2_which_64 (by decide) (fun c_28 => ?_) (fun c_28 => ?_)
                  · -- ((koff i (k_5 + 1) - 1) - (koff i k_5)) ≤ j_23
                    refine z_iload 5 dX2_which_103 rfl ?_
                    refine z_if_eqb 110 dX2_which_105 (by decide) (fun c_ => absurd (c_25.symm.trans c_) (by decide)) (fun _ => ?_)
                    refine z_iload_n 2 dX2_which_108 rfl ?_
                    exact z_iret dX2_which_109 rfl (Nat.le_of_ble_eq_true rfl) (Nat.le_of_ble_eq_true rfl) ⟨congrArg (fun z => some (Value.int z)) (Eq.symm ((if_pos c_12).trans (h2_7.symm.trans ((kwf_s (show k_5 < kmw i by omega)).trans (if_pos (show decide (T.vl a = T.wd (kix i k_5)) = true from (k_word_at hT ha c_12 h1 hi (show k_5 < kmw i by omega)).symm.trans (by rw [show (koff i (k_5 + 1) - 1 - koff i k_5) = j_23 by omega, c_25, decide_eq_true (by omega)]; rfl))))))), rfl⟩
                  · -- j_23 < ((koff i (k_5 + 1) - 1) - (koff i k_5))
                    refine z_aload_n 0 dX2_which_67 rfl ?_
                    refine z_get (v := .ref T.x) 0 hr rfl in_X2 (by decide) q168 rfl dX2_which_68 ?_
                    refine z_aload_n 0 dX2_which_71 rfl ?_
                    refine z_get (v := .int (nI ((T.pl a)))) 4 hr rfl in_X2 (by decide) q172 rfl dX2_which_72 ?_
                    refine z_iload 6 dX2_which_75 rfl ?_
                    refine z_iaddN (a := (T.pl a)) (b := j_23) dX2_which_77 ?_
                    refine z_bald ((T.pl a) + j_23) hx rfl (by omega) (by omega) dX2_which_78 ?_
                    refine z_aload_n 1 dX2_which_79 rfl ?_
                    refine z_iload_n 3 dX2_which_80 rfl ?_
                    refine z_iload 6 dX2_which_81 rfl ?_
                    refine z_iaddN (a := (koff i k_5)) (b := j_23) dX2_which_83 ?_
                    refine z_callV (As := [.int (nI ((koff i k_5) + j_23))]) (t_charAt hs1 hs2 hsl (koff i k_5 + j_23) (by omega) (kt_n hi (by omega)).2 (kt_n hi (by omega)).1) q522 q523 q524 q122 q525 nm_J5_charAt hs1 rfl rfl rfl (Nat.le_of_ble_eq_true rfl) ⟨Nat.le_of_ble_eq_true rfl, Nat.le_of_ble_eq_true rfl⟩ dX2_which_84 rfl rfl (Nat.le_of_ble_eq_true rfl) (Nat.le_of_ble_eq_true rfl) (fun v_29 X_30 hp_31 => ?_)
                    obtain ⟨rfl, h7⟩ := hp_31
                    replace h7 := h7.symm
                    subst h7
                    refine z_st (st' := [.int (nI (((kstr i).getD (koff i k_5 + j_23) 0))), .int (T.t ((T.pl a) + j_23))]) rfl ?_
                    refine z_icmp_ne 94 dX2_which_87 (by decide) (fun c_32 => ?_) (fun c_32 => ?_)
                    · -- ¬ T.t ((T.pl a) + j_23) = nI (((kstr i).getD (koff i k_5 + j_23) 0))
                      refine z_iconst (v := 0) dX2_which_94 (by decide) ?_
                      refine z_istore (lv' := [(5, .int 0), (0, .ref r), (1, .ref (zk g (10 + i))), (2, .int (nI (k_5))), (3, .int (nI ((koff i k_5)))), (4, .int (nI (((koff i (k_5 + 1) - 1) - (koff i k_5))))), (6, .int (nI (j_23)))]) dX2_which_95 (by decide) rfl ?_
                      refine z_iinc (v := nI (j_23 + 1)) (lv' := [(6, .int (nI (j_23 + 1))), (5, .int 0), (0, .ref r), (1, .ref (zk g (10 + i))), (2, .int (nI (k_5))), (3, .int (nI ((koff i k_5)))), (4, .int (nI (((koff i (k_5 + 1) - 1) - (koff i k_5)))))]) 6 dX2_which_97 rfl (nI_1 _) (by decide) rfl ?_
                      refine z_goto 55 dX2_which_100 (by decide) ?_
                      have f_33 : 0 = zb (k_eqb T.t (T.pl a) (kt i) (koff i k_5) (j_23 + 1)) := by rw [show k_eqb T.t (T.pl a) (kt i) (koff i k_5) (j_23 + 1) = (k_eqb T.t (T.pl a) (kt i) (koff i k_5) j_23 && decide (T.t (T.pl a + j_23) = kt i (koff i k_5 + j_23))) from rfl, c_25, show decide (T.t (T.pl a + j_23) = kt i (koff i k_5 + j_23)) = false from decide_eq_false c_32]; rfl
                      have f_34 : nI (j_23 + 1) = nI ((j_23 + 1)) := congrArg nI (by omega)
                      refine z_lv (lv' := [(0, .ref r), (1, .ref (zk g (10 + i))), (2, .int (nI (k_5))), (3, .int (nI ((koff i k_5)))), (4, .int (nI (((koff i (k_5 + 1) - 1) - (koff i k_5))))), (5, .int (zb (k_eqb T.t (T.pl a) (kt i) (koff i k_5) (j_23 + 1)))), (6, .int (nI ((j_23 + 1))))]) [2, 3, 4, 5, 6, 1, 0] (by rw [← f_33, ← f_34]; rfl) ?_
                      exact ih_20 (j_23 + 1) (by omega) (by omega)
                    · -- T.t ((T.pl a) + j_23) = nI (((kstr i).getD (koff i k_5 + j_23) 0))
                      refine z_iconst (v := 1) dX2_which_90 (by decide) ?_
                      refine z_goto 95 dX2_which_91 (by decide) ?_
                      refine z_istore (lv' := [(5, .int 1), (0, .ref r), (1, .ref (zk g (10 + i))), (2, .int (nI (k_5))), (3, .int (nI ((koff i k_5)))), (4, .int (nI (((koff i (k_5 + 1) - 1) - (koff i k_5))))), (6, .int (nI (j_23)))]) dX2_which_95 (by decide) rfl ?_
                      refine z_iinc (v := nI (j_23 + 1)) (lv' := [(6, .int (nI (j_23 + 1))), (5, .int 1), (0, .ref r), (1, .ref (zk g (10 + i))), (2, .int (nI (k_5))), (3, .int (nI ((koff i k_5)))), (4, .int (nI (((koff i (k_5 + 1) - 1) - (koff i k_5)))))]) 6 dX2_which_97 rfl (nI_1 _) (by decide) rfl ?_
                      refine z_goto 55 dX2_which_100 (by decide) ?_
                      have f_35 : 1 = zb (k_eqb T.t (T.pl a) (kt i) (koff i k_5) (j_23 + 1)) := by rw [show k_eqb T.t (T.pl a) (kt i) (koff i k_5) (j_23 + 1) = (k_eqb T.t (T.pl a) (kt i) (koff i k_5) j_23 && decide (T.t (T.pl a + j_23) = kt i (koff i k_5 + j_23))) from rfl, c_25, show decide (T.t (T.pl a + j_23) = kt i (koff i k_5 + j_23)) = true from decide_eq_true c_32]; rfl
                      have f_36 : nI (j_23 + 1) = nI ((j_23 + 1)) := congrArg nI (by omega)
                      refine z_lv (lv' := [(0, .ref r), (1, .ref (zk g (10 + i))), (2, .int (nI (k_5))), (3, .int (nI ((koff i k_5)))), (4, .int (nI (((koff i (k_5 + 1) - 1) - (koff i k_5))))), (5, .int (zb (k_eqb T.t (T.pl a) (kt i) (koff i k_5) (j_23 + 1)))), (6, .int (nI ((j_23 + 1))))]) [2, 3, 4, 5, 6, 1, 0] (by rw [← f_35, ← f_36]; rfl) ?_
                      exact ih_20 (j_23 + 1) (by omega) (by omega)
            have f_37 : 1 = zb (k_eqb T.t (T.pl a) (kt i) (koff i k_5) 0) := by rfl
            refine z_lv (lv' := [(0, .ref r), (1, .ref (zk g (10 + i))), (2, .int (nI (k_5))), (3, .int (nI ((koff i k_5)))), (4, .int (nI (((koff i (k_5 + 1) - 1) - (koff i k_5))))), (5, .int (zb (k_eqb T.t (T.pl a) (kt i) (koff i k_5) 0))), (6, .int 0)]) [3, 4, 5, 6, 2, 1, 0] (by rw [← f_37]; rfl) ?_
            exact loop_22 ((koff i (k_5 + 1) - 1 - koff i k_5) - 0 + 1) 0 (Nat.zero_le _) (Nat.lt_succ_self _)
  have f_38 : 0 = nI ((koff i 0)) := by rw [hw0]; rfl
  refine z_lv (lv' := [(0, .ref r), (1, .ref (zk g (10 + i))), (2, .int 0), (3, .int (nI ((koff i 0))))]) [2, 3, 1, 0] (by rw [← f_38]; rfl) ?_
  exact loop_4 (kmw i - 0 + 1) 0 (Nat.zero_le _) (by rw [Nat.sub_zero]) (Nat.lt_succ_self _)
