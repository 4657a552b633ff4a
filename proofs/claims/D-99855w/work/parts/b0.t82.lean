/-! THE COMPONENT: who rests. Printed by t82.py -/
set_option maxRecDepth 100000
/-- the counts go on once one is found -/
theorem s_rests_f {l s g w : Int32} {k c : Nat} (h1 : (s_rests l s g w k).1 = nI c) (hc : c ≤ k) (hk : k < 4) (hr : s_isr l s g k = true) (hw : nI c = w) : ∀ m, k < m → m ≤ 4 → (s_rests l s g w m).2 = nI k ∧ ∃ c', c < c' ∧ c' ≤ m ∧ (s_rests l s g w m).1 = nI c'
  | 0, h, _ => absurd h (Nat.not_lt_zero k)
  | m + 1, h, hm => by
    by_cases e : m = k
    · subst e
      unfold s_rests
      rw [if_pos hr, h1, if_pos hw]
      exact ⟨rfl, c + 1, by omega, by omega, nI_1 c⟩
    · obtain ⟨e1, c', e2, e3, e4⟩ := s_rests_f h1 hc hk hr hw m (by omega) (by omega)
      unfold s_rests
      split
      · rw [e4, e1, if_neg (fun z => by rw [← hw] at z; have := (nI_eq (by omega) (by omega)).mp z; omega)]
        exact ⟨rfl, c' + 1, by omega, by omega, nI_1 c'⟩
      · exact ⟨e1, c', e2, by omega, e4⟩
theorem s_rests_s {l s g w : Int32} {k : Nat} (h : s_isr l s g k = false) : s_rests l s g w (k + 1) = s_rests l s g w k := by
  show (if s_isr l s g k = true then _ else _) = _
  rw [if_neg (by rw [h]; decide)]
theorem s_rests_n {l s g w : Int32} {k : Nat} (h : s_isr l s g k = true) (h2 : ¬ (s_rests l s g w k).1 = w) : s_rests l s g w (k + 1) = ((s_rests l s g w k).1 + 1, (s_rests l s g w k).2) := by
  show (if s_isr l s g k = true then ((s_rests l s g w k).1 + 1, if (s_rests l s g w k).1 = w then nI k else (s_rests l s g w k).2) else _) = _
  rw [if_pos h, if_neg h2]
theorem s_rest_n {l s g w : Int32} (h1 : ((((decide (0 ≤ l) && decide (l ≤ 9)) && (decide (0 ≤ s) && decide (s ≤ 9))) && (decide (0 ≤ g) && decide (g ≤ 9))) && decide (zm1 ≤ w)) = false) : (s_rest l s g w).1 = false := by
  unfold s_rest
  rw [if_neg (by rw [h1]; decide)]
set_option maxHeartbeats 4000000 in
theorem c_need {g : zG} {X : zX} (hst : g.1.stackTraces = false) (b : Bool) : zV g m_X1_need ({ frames := 6, cells := 1, slots := 6, locals := 90 } : Room) [.int (zb b)] X (fun rv X' => rv = none ∧ b = true ∧ X' = X) (fun q E X' => b = false ∧ E = "java/util/NoSuchElementException" ∧ X' = X) := by
  refine zV.of (by decide +kernel) (Nat.le_of_ble_eq_true rfl) rfl ?_
  refine z_lv (lv' := [(0, .int (zb b))]) [0] rfl ?_
  refine z_iload_n 0 dX1_need_0 rfl ?_
  refine z_if_neb 12 dX1_need_1 (by decide) (fun c_1 => ?_) (fun c_1 => ?_)
  · -- b = true
    exact z_vret dX1_need_12 rfl (Nat.le_of_ble_eq_true rfl) (Nat.le_of_ble_eq_true rfl) ⟨rfl, c_1, rfl⟩
  · -- b = false
    exact z_throwN hst rfl dX1_need_4 dX1_need_7 dX1_need_8 dX1_need_11 rfl (Nat.le_of_ble_eq_true rfl) (Nat.le_of_ble_eq_true rfl) (Nat.le_of_ble_eq_true rfl) (Nat.le_of_ble_eq_true rfl) (Nat.le_of_ble_eq_true rfl) (fun q => ⟨c_1, rfl, rfl⟩)
theorem s_m1 {x : Int32} (h1 : zm1 ≤ x) (h2 : x < 0) : x = zm1 := by
  apply Int32.toInt_inj.mp
  have a := Int32.le_iff_toInt_le.mp h1
  have b := Int32.lt_iff_toInt_lt.mp h2
  have c : zm1.toInt = -1 := rfl
  have d : (0 : Int32).toInt = 0 := rfl
  omega
set_option maxHeartbeats 4000000 in
theorem c_rests {g : zG} {X : zX} (hst : g.1.stackTraces = false) (a : Nat) (lo si gi wh : Int32) : zV g m_X1_rests ({ frames := 7, cells := 2, slots := 12, locals := 110 } : Room) [.ref a, .int lo, .int si, .int gi, .int wh] X (fun rv X' => (s_rest lo si gi wh).1 = true ∧ rv = some (.int (s_rest lo si gi wh).2) ∧ X' = X) (fun q E X' => (s_rest lo si gi wh).1 = false ∧ E = "java/util/NoSuchElementException" ∧ X' = X) := by
  refine zV.of (by decide +kernel) (Nat.le_of_ble_eq_true rfl) rfl ?_
  refine z_lv (lv' := [(0, .ref a), (1, .int lo), (2, .int si), (3, .int gi), (4, .int wh)]) [0, 1, 2, 3, 4] rfl ?_
  refine z_iload_n 1 dX1_rests_0 rfl ?_
  refine z_iconst (v := 0) dX1_rests_1 (by decide) ?_
  refine z_bipush (v := 9) dX1_rests_2 (by decide) ?_
  refine z_callS (As := [.int lo, .int 0, .int 9]) (c_inn lo 0 9) q1132 q1133 q112 q1134 nm_X1_in rfl (Nat.le_of_ble_eq_true rfl) ⟨Nat.le_of_ble_eq_true rfl, Nat.le_of_ble_eq_true rfl⟩ dX1_rests_4 rfl rfl (Nat.le_of_ble_eq_true rfl) (Nat.le_of_ble_eq_true rfl) (fun v_1 X_2 hp_3 => ?_)
  obtain ⟨rfl, h7⟩ := hp_3
  replace h7 := h7.symm
  subst h7
  refine z_st (st' := [.int (zb (decide (0 ≤ lo) && decide (lo ≤ 9)))]) rfl ?_
  refine z_if_eqb 40 dX1_rests_7 (by decide) (fun c_4 => ?_) (fun c_4 => ?_)
  · -- decide (0 ≤ lo) && decide (lo ≤ 9) = false
    have hG : ((((decide (0 ≤ lo) && decide (lo ≤ 9)) && (decide (0 ≤ si) && decide (si ≤ 9))) && (decide (0 ≤ gi) && decide (gi ≤ 9))) && decide (zm1 ≤ wh)) = false := by simp [c_4]
    refine z_iconst (v := 0) dX1_rests_40 (by decide) ?_
    refine z_eq (y := zb false) rfl ?_
    refine z_callSx (As := [.int (zb false)]) (c_need hst false) q1491 q1492 q112 q1493 nm_X1_need rfl (Nat.le_of_ble_eq_true rfl) ⟨Nat.le_of_ble_eq_true rfl, Nat.le_of_ble_eq_true rfl⟩ dX1_rests_41 rfl rfl (Nat.le_of_ble_eq_true rfl) (Nat.le_of_ble_eq_true rfl) rfl (fun q E X9 hp => by obtain ⟨h8, rfl, rfl⟩ := hp; exact ⟨s_rest_n hG, rfl, rfl⟩) (fun v_5 X_6 hp_7 => ?_)
    obtain ⟨rfl, h9, h7⟩ := hp_7
    replace h7 := h7.symm
    subst h7
    refine z_st (st' := []) rfl ?_
    cases h9
  · -- decide (0 ≤ lo) && decide (lo ≤ 9) = true
    refine z_iload_n 2 dX1_rests_10 rfl ?_
    refine z_iconst (v := 0) dX1_rests_11 (by decide) ?_
    refine z_bipush (v := 9) dX1_rests_12 (by decide) ?_
    refine z_callS (As := [.int si, .int 0, .int 9]) (c_inn si 0 9) q1132 q1133 q112 q1134 nm_X1_in rfl (Nat.le_of_ble_eq_true rfl) ⟨Nat.le_of_ble_eq_true rfl, Nat.le_of_ble_eq_true rfl⟩ dX1_rests_14 rfl rfl (Nat.le_of_ble_eq_true rfl) (Nat.le_of_ble_eq_true rfl) (fun v_8 X_9 hp_10 => ?_)
    obtain ⟨rfl, h7⟩ := hp_10
    replace h7 := h7.symm
    subst h7
    refine z_st (st' := [.int (zb (decide (0 ≤ si) && decide (si ≤ 9)))]) rfl ?_
    refine z_if_eqb 40 dX1_rests_17 (by decide) (fun c_11 => ?_) (fun c_11 => ?_)
    · -- decide (0 ≤ si) && decide (si ≤ 9) = false
      have hG : ((((decide (0 ≤ lo) && decide (lo ≤ 9)) && (decide (0 ≤ si) && decide (si ≤ 9))) && (decide (0 ≤ gi) && decide (gi ≤ 9))) && decide (zm1 ≤ wh)) = false := by simp [c_4, c_11]
      refine z_iconst (v := 0) dX1_rests_40 (by decide) ?_
      refine z_eq (y := zb false) rfl ?_
      refine z_callSx (As := [.int (zb false)]) (c_need hst false) q1491 q1492 q112 q1493 nm_X1_need rfl (Nat.le_of_ble_eq_true rfl) ⟨Nat.le_of_ble_eq_true rfl, Nat.le_of_ble_eq_true rfl⟩ dX1_rests_41 rfl rfl (Nat.le_of_ble_eq_true rfl) (Nat.le_of_ble_eq_true rfl) rfl (fun q E X9 hp => by obtain ⟨h8, rfl, rfl⟩ := hp; exact ⟨s_rest_n hG, rfl, rfl⟩) (fun v_12 X_13 hp_14 => ?_)
      obtain ⟨rfl, h9, h7⟩ := hp_14
      replace h7 := h7.symm
      subst h7
      refine z_st (st' := []) rfl ?_
      cases h9
    · -- decide (0 ≤ si) && decide (si ≤ 9) = true
      refine z_iload_n 3 dX1_rests_20 rfl ?_
      refine z_iconst (v := 0) dX1_rests_21 (by decide) ?_
      refine z_bipush (v := 9) dX1_rests_22 (by decide) ?_
      refine z_callS (As := [.int gi, .int 0, .int 9]) (c_inn gi 0 9) q1132 q1133 q112 q1134 nm_X1_in rfl (Nat.le_of_ble_eq_true rfl) ⟨Nat.le_of_ble_eq_true rfl, Nat.le_of_ble_eq_true rfl⟩ dX1_rests_24 rfl rfl (Nat.le_of_ble_eq_true rfl) (Nat.le_of_ble_eq_true rfl) (fun v_15 X_16 hp_17 => ?_)
      obtain ⟨rfl, h7⟩ := hp_17
      replace h7 := h7.symm
      subst h7
      refine z_st (st' := [.int (zb (decide (0 ≤ gi) && decide (gi ≤ 9)))]) rfl ?_
      refine z_if_eqb 40 dX1_rests_27 (by decide) (fun c_18 => ?_) (fun c_18 => ?_)
      · -- decide (0 ≤ gi) && decide (gi ≤ 9) = false
        have hG : ((((decide (0 ≤ lo) && decide (lo ≤ 9)) && (decide (0 ≤ si) && decide (si ≤ 9))) && (decide (0 ≤ gi) && decide (gi ≤ 9))) && decide (zm1 ≤ wh)) = false := by simp [c_4, c_11, c_18]
        refine z_iconst (v := 0) dX1_rests_40 (by decide) ?_
        refine z_eq (y := zb false) rfl ?_
        refine z_callSx (As := [.int (zb false)]) (c_need hst false) q1491 q1492 q112 q1493 nm_X1_need rfl (Nat.le_of_ble_eq_true rfl) ⟨Nat.le_of_ble_eq_true rfl, Nat.le_of_ble_eq_true rfl⟩ dX1_rests_41 rfl rfl (Nat.le_of_ble_eq_true rfl) (Nat.le_of_ble_eq_true rfl) rfl (fun q E X9 hp => by obtain ⟨h8, rfl, rfl⟩ := hp; exact ⟨s_rest_n hG, rfl, rfl⟩) (fun v_19 X_20 hp_21 => ?_)
        obtain ⟨rfl, h9, h7⟩ := hp_21
        replace h7 := h7.symm
        subst h7
        refine z_st (st' := []) rfl ?_
        cases h9
      · -- decide (0 ≤ gi) && decide (gi ≤ 9) = true
        refine z_iload 4 dX1_rests_30 rfl ?_
        refine z_iconst (v := zm1) dX1_rests_32 (by decide) ?_
        refine z_icmp_lt 40 dX1_rests_33 (by decide) (fun c_22 => ?_) (fun c_22 => ?_)
        · -- wh < zm1
          have c_22' := Int32.not_le.mpr c_22
          have hG : ((((decide (0 ≤ lo) && decide (lo ≤ 9)) && (decide (0 ≤ si) && decide (si ≤ 9))) && (decide (0 ≤ gi) && decide (gi ≤ 9))) && decide (zm1 ≤ wh)) = false := by simp [c_4, c_11, c_18, c_22, c_22']
          refine z_iconst (v := 0) dX1_rests_40 (by decide) ?_
          refine z_eq (y := zb false) rfl ?_
          refine z_callSx (As := [.int (zb false)]) (c_need hst false) q1491 q1492 q112 q1493 nm_X1_need rfl (Nat.le_of_ble_eq_true rfl) ⟨Nat.le_of_ble_eq_true rfl, Nat.le_of_ble_eq_true rfl⟩ dX1_rests_41 rfl rfl (Nat.le_of_ble_eq_true rfl) (Nat.le_of_ble_eq_true rfl) rfl (fun q E X9 hp => by obtain ⟨h8, rfl, rfl⟩ := hp; exact ⟨s_rest_n hG, rfl, rfl⟩) (fun v_23 X_24 hp_25 => ?_)
          obtain ⟨rfl, h9, h7⟩ := hp_25
          replace h7 := h7.symm
          subst h7
          refine z_st (st' := []) rfl ?_
          cases h9
        · -- ¬ wh < zm1
          have c_22' := Int32.not_lt.mp c_22
          have hG : ((((decide (0 ≤ lo) && decide (lo ≤ 9)) && (decide (0 ≤ si) && decide (si ≤ 9))) && (decide (0 ≤ gi) && decide (gi ≤ 9))) && decide (zm1 ≤ wh)) = true := by simp [c_4, c_11, c_18, c_22, c_22']
          refine z_iconst (v := 1) dX1_rests_36 (by decide) ?_
          refine z_goto 41 dX1_rests_37 (by decide) ?_
          refine z_eq (y := zb true) rfl ?_
          refine z_callSx (As := [.int (zb true)]) (c_need hst true) q1491 q1492 q112 q1493 nm_X1_need rfl (Nat.le_of_ble_eq_true rfl) ⟨Nat.le_of_ble_eq_true rfl, Nat.le_of_ble_eq_true rfl⟩ dX1_rests_41 rfl rfl (Nat.le_of_ble_eq_true rfl) (Nat.le_of_ble_eq_true rfl) rfl (fun q E X9 hp => by obtain ⟨h8, rfl, rfl⟩ := hp; cases h8) (fun v_26 X_27 hp_28 => ?_)
          obtain ⟨rfl, h9, h7⟩ := hp_28
          replace h7 := h7.symm
          subst h7
          refine z_st (st' := []) rfl ?_
          refine z_iconst (v := 0) dX1_rests_44 (by decide) ?_
          refine z_istore (lv' := [(5, .int 0), (0, .ref a), (1, .int lo), (2, .int si), (3, .int gi), (4, .int wh)]) dX1_rests_45 (by decide) rfl ?_
          refine z_iconst (v := 0) dX1_rests_47 (by decide) ?_
          refine z_istore (lv' := [(6, .int 0), (5, .int 0), (0, .ref a), (1, .int lo), (2, .int si), (3, .int gi), (4, .int wh)]) dX1_rests_48 (by decide) rfl ?_
          have loop_33 : ∀ (q_30 i_29 : Nat), i_29 + q_30 = 4 → 0 ≤ i_29 → (s_rests lo si gi wh (i_29)).2 = zm1 → (∃ c, c ≤ i_29 ∧ (s_rests lo si gi wh (i_29)).1 = nI c) → zZ g m_X1_rests (fun rv X' => (s_rest lo si gi wh).1 = true ∧ rv = some (.int (s_rest lo si gi wh).2) ∧ X' = X, fun q E X' => (s_rest lo si gi wh).1 = false ∧ E = "java/util/NoSuchElementException" ∧ X' = X, ({ frames := 7, cells := 2, slots := 12, locals := 110 } : Room)) 1 6 X 50 [(1, .int lo), (2, .int si), (3, .int gi), (4, .int wh), (5, .int ((s_rests lo si gi wh i_29).1)), (6, .int (nI (i_29)))] [] := by
            intro q_30
            induction q_30 with
            | zero =>
              intro i_29 hb_32 lo_36  hi_34 hi_35
              obtain rfl : 4 = i_29 := by omega
              refine z_iload 5 dX1_rests_50 rfl ?_
              refine z_iconst (v := 4) dX1_rests_52 (by decide) ?_
              refine z_icmp_geN (a := 4) (b := 4) 140 (by decide) (by decide) dX1_rests_53 (by decide) (fun h_ => ?_) (fun h_ => absurd h_ (by decide))
              refine z_iload 3 dX1_rests_140 rfl ?_
              refine z_iconst (v := zm1) dX1_rests_142 (by decide) ?_
              refine z_icmp_ne 150 dX1_rests_143 (by decide) (fun c_37 => ?_) (fun c_37 => ?_)
              · -- ¬ wh = zm1
                have hw0 : ¬ wh < 0 := fun z => c_37 (by simp only [Bool.and_eq_true, decide_eq_true_eq] at hG; exact s_m1 hG.2 z)
                have hnr : (s_rest lo si gi wh).1 = false := by unfold s_rest; rw [if_pos hG, if_neg hw0, if_neg (by rw [hi_34]; decide)]
                refine z_iconst (v := 0) dX1_rests_150 (by decide) ?_
                refine z_eq (y := zb false) rfl ?_
                refine z_callSx (As := [.int (zb false)]) (c_need hst false) q1491 q1492 q112 q1493 nm_X1_need rfl (Nat.le_of_ble_eq_true rfl) ⟨Nat.le_of_ble_eq_true rfl, Nat.le_of_ble_eq_true rfl⟩ dX1_rests_151 rfl rfl (Nat.le_of_ble_eq_true rfl) (Nat.le_of_ble_eq_true rfl) rfl (fun q E X9 hp => by obtain ⟨h8, rfl, rfl⟩ := hp; exact ⟨hnr, rfl, rfl⟩) (fun v_38 X_39 hp_40 => ?_)
                obtain ⟨rfl, h9, h7⟩ := hp_40
                replace h7 := h7.symm
                subst h7
                refine z_st (st' := []) rfl ?_
                cases h9
              · -- wh = zm1
                refine z_iconst (v := 1) dX1_rests_146 (by decide) ?_
                refine z_goto 151 dX1_rests_147 (by decide) ?_
                refine z_eq (y := zb true) rfl ?_
                refine z_callSx (As := [.int (zb true)]) (c_need hst true) q1491 q1492 q112 q1493 nm_X1_need rfl (Nat.le_of_ble_eq_true rfl) ⟨Nat.le_of_ble_eq_true rfl, Nat.le_of_ble_eq_true rfl⟩ dX1_rests_151 rfl rfl (Nat.le_of_ble_eq_true rfl) (Nat.le_of_ble_eq_true rfl) rfl (fun q E X9 hp => by obtain ⟨h8, rfl, rfl⟩ := hp; cases h8) (fun v_41 X_42 hp_43 => ?_)
                obtain ⟨rfl, h9, h7⟩ := hp_43
                replace h7 := h7.symm
                subst h7
                refine z_st (st' := []) rfl ?_
                refine z_iload 4 dX1_rests_154 rfl ?_
                exact z_iret dX1_rests_156 rfl (Nat.le_of_ble_eq_true rfl) (Nat.le_of_ble_eq_true rfl) ⟨by unfold s_rest; rw [if_pos hG, if_pos (by rw [c_37]; decide)], congrArg some (congrArg Value.int (by unfold s_rest; rw [if_pos hG, if_pos (show wh < 0 by rw [c_37]; decide)])), rfl⟩
            | succ q_30 ih_31 =>
              intro i_29 hb_32 lo_36  hi_34 hi_35
              refine z_iload 5 dX1_rests_50 rfl ?_
              refine z_iconst (v := 4) dX1_rests_52 (by decide) ?_
              refine z_icmp_geN (a := i_29) (b := 4) 140 (by omega) (by omega) dX1_rests_53 (by decide) (fun c_44 => absurd c_44 (by omega)) (fun c_44 => ?_)
              refine z_iload 5 dX1_rests_56 rfl ?_
              refine z_iconst (v := 2) dX1_rests_58 (by decide) ?_
              refine z_idivN (a := i_29) (b := 2) (by omega) (by decide) (by decide) dX1_rests_59 ?_
              refine z_istore (lv' := [(7, .int (nI ((i_29 / 2)))), (1, .int lo), (2, .int si), (3, .int gi), (4, .int wh), (5, .int ((s_rests lo si gi wh i_29).1)), (6, .int (nI (i_29)))]) dX1_rests_60 (by decide) rfl ?_
              refine z_iload 6 dX1_rests_62 rfl ?_
              refine z_iconst (v := 2) dX1_rests_64 (by decide) ?_
              refine z_iremN (a := i_29) (b := 2) (by omega) (by decide) (by decide) dX1_rests_65 ?_
              refine z_istore (lv' := [(8, .int (nI ((i_29 % 2)))), (7, .int (nI ((i_29 / 2)))), (1, .int lo), (2, .int si), (3, .int gi), (4, .int wh), (5, .int ((s_rests lo si gi wh i_29).1)), (6, .int (nI (i_29)))]) dX1_rests_66 (by decide) rfl ?_
              refine z_iload_n 2 dX1_rests_68 rfl ?_
              refine z_iload_n 3 dX1_rests_69 rfl ?_
              refine z_iload_n 4 dX1_rests_70 rfl ?_
              refine z_iconst (v := 1) dX1_rests_71 (by decide) ?_
              refine z_iload 1 dX1_rests_72 rfl ?_
              refine z_isub dX1_rests_74 ?_
              refine z_iload 0 dX1_rests_75 rfl ?_
              refine z_callS (As := [.int lo, .int si, .int gi, .int (1 - (nI ((i_29 / 2)))), .int (nI ((i_29 % 2)))]) (c_gets lo si gi (1 - (nI ((i_29 / 2)))) (nI ((i_29 % 2)))) q1515 q1516 q112 q1517 nm_X1_gets rfl (Nat.le_of_ble_eq_true rfl) ⟨Nat.le_of_ble_eq_true rfl, Nat.le_of_ble_eq_true rfl⟩ dX1_rests_77 rfl rfl (Nat.le_of_ble_eq_true rfl) (Nat.le_of_ble_eq_true rfl) (fun v_45 X_46 hp_47 => ?_)
              obtain ⟨rfl, h7⟩ := hp_47
              replace h7 := h7.symm
              subst h7
              refine z_st (st' := [.int (s_gets (1 - (nI ((i_29 / 2)))) (nI ((i_29 % 2))) lo si gi)]) rfl ?_
              refine z_iload_n 2 dX1_rests_80 rfl ?_
              refine z_iload_n 3 dX1_rests_81 rfl ?_
              refine z_iload_n 4 dX1_rests_82 rfl ?_
              refine z_iload 1 dX1_rests_83 rfl ?_
              refine z_iload 0 dX1_rests_85 rfl ?_
              refine z_callS (As := [.int lo, .int si, .int gi, .int (nI ((i_29 / 2))), .int (nI ((i_29 % 2)))]) (c_gets lo si gi (nI ((i_29 / 2))) (nI ((i_29 % 2)))) q1515 q1516 q112 q1517 nm_X1_gets rfl (Nat.le_of_ble_eq_true rfl) ⟨Nat.le_of_ble_eq_true rfl, Nat.le_of_ble_eq_true rfl⟩ dX1_rests_87 rfl rfl (Nat.le_of_ble_eq_true rfl) (Nat.le_of_ble_eq_true rfl) (fun v_48 X_49 hp_50 => ?_)
              obtain ⟨rfl, h7⟩ := hp_50
              replace h7 := h7.symm
              subst h7
              refine z_st (st' := [.int (s_gets (nI ((i_29 / 2))) (nI ((i_29 % 2))) lo si gi), .int (s_gets (1 - (nI ((i_29 / 2)))) (nI ((i_29 % 2))) lo si gi)]) rfl ?_
              refine z_icmp_gt 134 dX1_rests_90 (by decide) (fun c_51 => ?_) (fun c_51 => ?_)
              · -- s_gets (nI ((i_29 / 2))) (nI ((i_29 % 2))) lo si gi < s_gets (1 - (nI ((i_29 / 2)))) (nI ((i_29 % 2))) lo si gi
                have c_51' := Int32.not_le.mpr c_51
                refine z_iinc (v := nI (i_29 + 1)) (lv' := [(6, .int (nI (i_29 + 1))), (8, .int (nI ((i_29 % 2)))), (7, .int (nI ((i_29 / 2)))), (1, .int lo), (2, .int si), (3, .int gi), (4, .int wh), (5, .int ((s_rests lo si gi wh i_29).1))]) 7 dX1_rests_134 rfl (nI_1 _) (by decide) rfl ?_
                refine z_goto 50 dX1_rests_137 (by decide) ?_
                have f_52 : (s_rests lo si gi wh i_29).1 = (s_rests lo si gi wh (i_29 + 1)).1 := by rw [s_rests_s (by unfold s_isr; simp [c_4, c_11, c_18, c_22, c_22', c_44, c_51, c_51'])]
                refine z_lv (lv' := [(1, .int lo), (2, .int si), (3, .int gi), (4, .int wh), (5, .int ((s_rests lo si gi wh (i_29 + 1)).1)), (6, .int (nI (i_29 + 1)))]) [3, 4, 5, 6, 7, 0] (by rw [← f_52]; rfl) ?_
                exact ih_31 (i_29 + 1) (by omega) (by omega)  (by rw [s_rests_s (by unfold s_isr; simp [c_4, c_11, c_18, c_22, c_22', c_44, c_51, c_51'])]; exact hi_34) (by obtain ⟨c9, h8, h7⟩ := hi_35; exact ⟨c9, by omega, by rw [s_rests_s (by unfold s_isr; simp [c_4, c_11, c_18, c_22, c_22', c_44, c_51, c_51'])]; exact h7⟩)
              · -- ¬ s_gets (nI ((i_29 / 2))) (nI ((i_29 % 2))) lo si gi < s_gets (1 - (nI ((i_29 / 2)))) (nI ((i_29 % 2))) lo si gi
                have c_51' := Int32.not_lt.mp c_51
                refine z_iload_n 2 dX1_rests_93 rfl ?_
                refine z_iload_n 3 dX1_rests_94 rfl ?_
                refine z_iload_n 4 dX1_rests_95 rfl ?_
                refine z_iconst (v := 1) dX1_rests_96 (by decide) ?_
                refine z_iload 0 dX1_rests_97 rfl ?_
                refine z_isub dX1_rests_99 ?_
                refine z_iload 1 dX1_rests_100 rfl ?_
                refine z_callS (As := [.int lo, .int si, .int gi, .int (1 - (nI ((i_29 % 2)))), .int (nI ((i_29 / 2)))]) (c_gets lo si gi (1 - (nI ((i_29 % 2)))) (nI ((i_29 / 2)))) q1515 q1516 q112 q1517 nm_X1_gets rfl (Nat.le_of_ble_eq_true rfl) ⟨Nat.le_of_ble_eq_true rfl, Nat.le_of_ble_eq_true rfl⟩ dX1_rests_102 rfl rfl (Nat.le_of_ble_eq_true rfl) (Nat.le_of_ble_eq_true rfl) (fun v_53 X_54 hp_55 => ?_)
                obtain ⟨rfl, h7⟩ := hp_55
                replace h7 := h7.symm
                subst h7
                refine z_st (st' := [.int (s_gets (1 - (nI ((i_29 % 2)))) (nI ((i_29 / 2))) lo si gi)]) rfl ?_
                refine z_iload_n 2 dX1_rests_105 rfl ?_
                refine z_iload_n 3 dX1_rests_106 rfl ?_
                refine z_iload_n 4 dX1_rests_107 rfl ?_
                refine z_iload 0 dX1_rests_108 rfl ?_
                refine z_iload 1 dX1_rests_110 rfl ?_
                refine z_callS (As := [.int lo, .int si, .int gi, .int (nI ((i_29 % 2))), .int (nI ((i_29 / 2)))]) (c_gets lo si gi (nI ((i_29 % 2))) (nI ((i_29 / 2)))) q1515 q1516 q112 q1517 nm_X1_gets rfl (Nat.le_of_ble_eq_true rfl) ⟨Nat.le_of_ble_eq_true rfl, Nat.le_of_ble_eq_true rfl⟩ dX1_rests_112 rfl rfl (Nat.le_of_ble_eq_true rfl) (Nat.le_of_ble_eq_true rfl) (fun v_56 X_57 hp_58 => ?_)
                obtain ⟨rfl, h7⟩ := hp_58
                replace h7 := h7.symm
                subst h7
                refine z_st (st' := [.int (s_gets (nI ((i_29 % 2))) (nI ((i_29 / 2))) lo si gi), .int (s_gets (1 - (nI ((i_29 % 2)))) (nI ((i_29 / 2))) lo si gi)]) rfl ?_
                refine z_icmp_le 121 dX1_rests_115 (by decide) (fun c_59 => ?_) (fun c_59 => ?_)
                · -- s_gets (1 - (nI ((i_29 % 2)))) (nI ((i_29 / 2))) lo si gi ≤ s_gets (nI ((i_29 % 2))) (nI ((i_29 / 2))) lo si gi
                  have c_59' := Int32.not_lt.mpr c_59
                  refine z_iload 6 dX1_rests_121 rfl ?_
                  refine z_iload 5 dX1_rests_123 rfl ?_
                  refine z_icmp_ne 131 dX1_rests_125 (by decide) (fun c_60 => ?_) (fun c_60 => ?_)
                  · -- ¬ (s_rests lo si gi wh i_29).1 = wh
                    obtain ⟨x_61, ex_61⟩ : ∃ y : Int32, (s_rests lo si gi wh i_29).1 + (1) = y := ⟨_, rfl⟩
                    refine z_iinc (v := x_61) (lv' := [(5, .int x_61), (8, .int (nI ((i_29 % 2)))), (7, .int (nI ((i_29 / 2)))), (1, .int lo), (2, .int si), (3, .int gi), (4, .int wh), (6, .int (nI (i_29)))]) 6 dX1_rests_131 rfl (ex_61) (by decide) rfl ?_
                    refine z_iinc (v := nI (i_29 + 1)) (lv' := [(6, .int (nI (i_29 + 1))), (5, .int x_61), (8, .int (nI ((i_29 % 2)))), (7, .int (nI ((i_29 / 2)))), (1, .int lo), (2, .int si), (3, .int gi), (4, .int wh)]) 7 dX1_rests_134 rfl (nI_1 _) (by decide) rfl ?_
                    refine z_goto 50 dX1_rests_137 (by decide) ?_
                    have f_62 : x_61 = (s_rests lo si gi wh (i_29 + 1)).1 := by rw [s_rests_n (by unfold s_isr; simp [c_4, c_11, c_18, c_22, c_22', c_44, c_51, c_51', c_59, c_59', c_60]) c_60]; exact ex_61.symm
                    subst f_62
                    refine z_lv (lv' := [(1, .int lo), (2, .int si), (3, .int gi), (4, .int wh), (5, .int ((s_rests lo si gi wh (i_29 + 1)).1)), (6, .int (nI (i_29 + 1)))]) [4, 5, 6, 7, 1, 0] rfl ?_
                    exact ih_31 (i_29 + 1) (by omega) (by omega)  (by rw [s_rests_n (by unfold s_isr; simp [c_4, c_11, c_18, c_22, c_22', c_44, c_51, c_51', c_59, c_59', c_60]) c_60]; exact hi_34) (by obtain ⟨c9, h8, h7⟩ := hi_35; exact ⟨c9 + 1, by omega, by rw [s_rests_n (by unfold s_isr; simp [c_4, c_11, c_18, c_22, c_22', c_44, c_51, c_51', c_59, c_59', c_60]) c_60]; show _ + 1 = _; rw [h7]; exact nI_1 c9⟩)
                  · -- (s_rests lo si gi wh i_29).1 = wh
                    have hr9 : s_isr lo si gi i_29 = true := by unfold s_isr; simp [c_4, c_11, c_18, c_22, c_22', c_44, c_51, c_51', c_59, c_59', c_60]
                    obtain ⟨c9, hc9, ec9⟩ := hi_35
                    have hf9 := (s_rests_f ec9 hc9 (by omega) hr9 (ec9.symm.trans c_60) 4 (by omega) (Nat.le_refl _)).1
                    have hw9 : ¬ wh < 0 := fun z => by rw [← c_60, ec9] at z; exact absurd z (nI_lt0 (by omega))
                    have hfd : (s_rest lo si gi wh) = (true, nI (i_29)) := by unfold s_rest; rw [if_pos hG, if_neg hw9, hf9, if_pos (Int32.not_lt.mp (nI_lt0 (by omega)))]
                    refine z_iload 7 dX1_rests_128 rfl ?_
                    exact z_iret dX1_rests_130 rfl (Nat.le_of_ble_eq_true rfl) (Nat.le_of_ble_eq_true rfl) ⟨by rw [hfd], congrArg some (congrArg Value.int (by rw [hfd])), rfl⟩
                · -- ¬ s_gets (1 - (nI ((i_29 % 2)))) (nI ((i_29 / 2))) lo si gi ≤ s_gets (nI ((i_29 % 2))) (nI ((i_29 / 2))) lo si gi
                  have c_59' := Int32.not_le.mp c_59
                  refine z_goto 134 dX1_rests_118 (by decide) ?_
                  refine z_iinc (v := nI (i_29 + 1)) (lv' := [(6, .int (nI (i_29 + 1))), (8, .int (nI ((i_29 % 2)))), (7, .int (nI ((i_29 / 2)))), (1, .int lo), (2, .int si), (3, .int gi), (4, .int wh), (5, .int ((s_rests lo si gi wh i_29).1))]) 7 dX1_rests_134 rfl (nI_1 _) (by decide) rfl ?_
                  refine z_goto 50 dX1_rests_137 (by decide) ?_
                  have f_63 : (s_rests lo si gi wh i_29).1 = (s_rests lo si gi wh (i_29 + 1)).1 := by rw [s_rests_s (by unfold s_isr; simp [c_4, c_11, c_18, c_22, c_22', c_44, c_51, c_51', c_59, c_59'])]
                  refine z_lv (lv' := [(1, .int lo), (2, .int si), (3, .int gi), (4, .int wh), (5, .int ((s_rests lo si gi wh (i_29 + 1)).1)), (6, .int (nI (i_29 + 1)))]) [3, 4, 5, 6, 7, 0] (by rw [← f_63]; rfl) ?_
                  exact ih_31 (i_29 + 1) (by omega) (by omega)  (by rw [s_rests_s (by unfold s_isr; simp [c_4, c_11, c_18, c_22, c_22', c_44, c_51, c_51', c_59, c_59'])]; exact hi_34) (by obtain ⟨c9, h8, h7⟩ := hi_35; exact ⟨c9, by omega, by rw [s_rests_s (by unfold s_isr; simp [c_4, c_11, c_18, c_22, c_22', c_44, c_51, c_51', c_59, c_59'])]; exact h7⟩)
          have f_64 : 0 = (s_rests lo si gi wh 0).1 := by first | rfl | omega | (simp [c_4, c_11, c_18, c_22, c_22', hG]; done) | (skip; simp [c_4, c_11, c_18, c_22, c_22', hG])
          refine z_lv (lv' := [(1, .int lo), (2, .int si), (3, .int gi), (4, .int wh), (5, .int ((s_rests lo si gi wh 0).1)), (6, .int 0)]) [3, 4, 5, 6, 1, 0] (by rw [← f_64]; rfl) ?_
          exact loop_33 (4 - 0) 0 (by omega) (Nat.le_refl _)  rfl ⟨0, Nat.le_refl _, rfl⟩
