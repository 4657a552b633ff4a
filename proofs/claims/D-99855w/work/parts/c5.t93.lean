/-! THE READER: words that must be. Printed by t93.py -/
set_option maxRecDepth 100000
theorem kwd_inj : ∀ j, j < 25 → ∀ k, k < 25 → kwd j = kwd k → j = k := by decide +kernel
theorem kwf_n {p : Nat → Bool} : ∀ m k, (∀ j, k ≤ j → j < k + m → p j = false) → kwf p m k = zm1
  | 0, _, _ => rfl
  | m + 1, k, h => by
    show (if p k = true then nI k else kwf p m (k + 1)) = zm1
    rw [if_neg (by rw [h k (Nat.le_refl _) (by omega)]; decide)]
    exact kwf_n m (k + 1) (fun j h1 h2 => h j (by omega) (by omega))
theorem kwf_y {p : Nat → Bool} {j : Nat} (hj : p j = true) : ∀ m k, k ≤ j → j < k + m → (∀ i, k ≤ i → i < j → p i = false) → kwf p m k = nI j
  | 0, k, h1, h2, _ => absurd h2 (by omega)
  | m + 1, k, h1, h2, h => by
    show (if p k = true then nI k else kwf p m (k + 1)) = nI j
    by_cases e : k = j
    · rw [e, if_pos hj]
    · rw [if_neg (by rw [h k (Nat.le_refl _) (by omega)]; decide)]
      exact kwf_y hj m (k + 1) (by omega) (by omega) (fun i h3 h4 => h i (by omega) h4)
theorem s_wh_n {kd : Nat → Nat} {vl wd : Nat → Int64} {a w : Nat} : ∀ m, (∀ k, k < m → s_isW kd vl wd a 0 (w + k) = false) → s_wh kd vl wd a 0 w m = zm1
  | 0, _ => rfl
  | m + 1, h => by
    show (if s_isW kd vl wd a 0 (w + m) = true then nI m else s_wh kd vl wd a 0 w m) = zm1
    rw [if_neg (by rw [h m (by omega)]; decide)]
    exact s_wh_n m (fun k hk => h k (by omega))
theorem s_wh_y {kd : Nat → Nat} {vl wd : Nat → Int64} {a w j : Nat} (hj : s_isW kd vl wd a 0 (w + j) = true) : ∀ m, j < m → (∀ k, k < m → k ≠ j → s_isW kd vl wd a 0 (w + k) = false) → s_wh kd vl wd a 0 w m = nI j
  | 0, h, _ => absurd h (Nat.not_lt_zero j)
  | m + 1, h1, h => by
    show (if s_isW kd vl wd a 0 (w + m) = true then nI m else s_wh kd vl wd a 0 w m) = nI j
    by_cases e : m = j
    · rw [e, if_pos hj]
    · rw [if_neg (by rw [h m (by omega) e]; decide)]
      exact s_wh_y hj m (by omega) (fun k hk => h k (by omega))
/-- words that follow one another -/
theorem k_wh {T : rTP} {a i w0 m : Nat} (hT : rTk T) (hm : kmw i = m) (hw : w0 + m ≤ 25) (hc : ∀ k, k < m → kix i k = w0 + k) : (if T.kd a = 1 then kwf (fun k => decide (T.vl a = T.wd (kix i k))) (kmw i) 0 else zm1) = s_wh T.kd T.vl T.wd a 0 w0 m := by
  rw [hm]
  have hd : ∀ j k, j < m → k < m → T.wd (w0 + j) = T.wd (w0 + k) → j = k := fun j k hj hk e => by
    rw [hT.2.2 _ (by omega), hT.2.2 _ (by omega)] at e
    have := kwd_inj _ (by omega) _ (by omega) e
    omega
  by_cases h1 : T.kd a = 1
  · rw [if_pos h1]
    by_cases h2 : ∃ j, j < m ∧ T.vl a = T.wd (w0 + j)
    · obtain ⟨j, hj, e⟩ := h2
      rw [kwf_y (j := j) (by show decide (T.vl a = T.wd (kix i j)) = true; rw [hc j hj]; exact decide_eq_true e) m 0 (Nat.zero_le _) (by omega) (fun k _ hk => by
        show decide (T.vl a = T.wd (kix i k)) = false
        rw [hc k (by omega)]
        exact decide_eq_false (fun z => by have := hd k j (by omega) hj (z.symm.trans e); omega))]
      rw [s_wh_y (j := j) (by unfold s_isW; rw [decide_eq_true h1, decide_eq_true e]; rfl) m hj (fun k hk hn => by
        unfold s_isW
        rw [decide_eq_false (show ¬ T.vl a = T.wd (w0 + k) from fun z => hn (hd k j hk hj (z.symm.trans e)))]
        simp)]
    · rw [kwf_n m 0 (fun j _ hj => by
        show decide (T.vl a = T.wd (kix i j)) = false
        rw [hc j (by omega)]
        exact decide_eq_false (fun z => h2 ⟨j, by omega, z⟩))]
      rw [s_wh_n m (fun k hk => by
        unfold s_isW
        rw [decide_eq_false (show ¬ T.vl a = T.wd (w0 + k) from fun z => h2 ⟨k, hk, z⟩)]
        simp)]
  · rw [if_neg h1, s_wh_n m (fun k hk => by
      unfold s_isW
      rw [decide_eq_false h1]
      simp)]
theorem s_wh_1 {kd : Nat → Nat} {vl wd : Nat → Int64} {a w : Nat} : (s_wh kd vl wd a 0 w 1 < 0 ↔ s_isW kd vl wd a 0 w = false) ∧ (¬ s_wh kd vl wd a 0 w 1 < 0 ↔ s_isW kd vl wd a 0 w = true) := by
  show ((if s_isW kd vl wd a 0 (w + 0) = true then nI 0 else zm1) < 0 ↔ _) ∧ (¬ (if s_isW kd vl wd a 0 (w + 0) = true then nI 0 else zm1) < 0 ↔ _)
  rw [Nat.add_zero]
  cases s_isW kd vl wd a 0 w
  · exact ⟨⟨fun _ => rfl, fun _ => by decide⟩, ⟨fun z => absurd (show (if false = true then nI 0 else zm1) < 0 by decide) z, fun z => by cases z⟩⟩
  · exact ⟨⟨fun z => absurd z (by decide), fun z => by cases z⟩, ⟨fun _ => rfl, fun _ => by decide⟩⟩
theorem rd_wh {g : zG} {X : zX} {r a w : Nat} {vo : Option Nat} {T : rTP} (hT : rTk T) (hW : rW g X r T a w vo) (i w0 m : Nat) (h1 : 1 ≤ i) (hi : i < 12) (hm : kmw i = m) (hw : w0 + m ≤ 25) (hc : ∀ k, k < m → kix i k = w0 + k) : zN g m_X2_which ({ frames := 4, cells := 0, slots := 0, locals := 85 } : Room) [.ref r, .ref (zk g (10 + i))] X (fun rv X' => rv = some (.int (s_wh T.kd T.vl T.wd a 0 w0 m)) ∧ X' = X) :=
  zN.post (rd_which hT hW i h1 hi) (fun v X' hp => ⟨by rw [hp.1, k_wh hT hm hw hc], hp.2⟩)
set_option maxHeartbeats 4000000 in
theorem rd_need {g : zG} {X : zX} {r a w : Nat} {vo : Option Nat} {T : rTP} (hT : rTk T) (hW : rW g X r T a w vo) (i w0 : Nat) (h1 : 1 ≤ i) (hi : i < 12) (hm : kmw i = 1) (hw : w0 + 1 ≤ 25) (hc : ∀ k, k < 1 → kix i k = w0 + k) : zV g m_X2_need ({ frames := 6, cells := 1, slots := 7, locals := 135 } : Room) [.ref r, .ref (zk g (10 + i))] X (fun rv X' => rv = none ∧ s_tW T.kd T.pl T.vl T.wd a 0 w0 = (a + 1, 0) ∧ rto X X' r ∧ rW g X' r T (a + 1) w vo) (fun q E X' => ∃ f, ¬ f = 0 ∧ s_tW T.kd T.pl T.vl T.wd a 0 w0 = (a, f) ∧ rX X r T vo f q E X') := by
  refine zV.of (by decide +kernel) (Nat.le_of_ble_eq_true rfl) rfl ?_
  refine z_lv (lv' := [(0, .ref r), (1, .ref (zk g (10 + i)))]) [0, 1] rfl ?_
  have hn := hT.n
  have hW2 := hW
  obtain ⟨hr0, hx, hks, ha, va, hr, hva⟩ := hW
  have hcn := hT.c
  have hpl := hT.le ha
  have hto := hT.to ha
  have hk4 := hT.kd4 ha
  refine z_aload_n 0 dX2_need_0 rfl ?_
  refine z_aload_n 1 dX2_need_1 rfl ?_
  refine z_callV (As := [.ref (zk g (10 + i))]) (rd_wh hT hW2 i w0 1 h1 hi hm hw hc) q516 q518 qs3 q113 q519 nm_X2_which hr rfl rfl rfl (Nat.le_of_ble_eq_true rfl) ⟨Nat.le_of_ble_eq_true rfl, Nat.le_of_ble_eq_true rfl⟩ dX2_need_2 rfl rfl (Nat.le_of_ble_eq_true rfl) (Nat.le_of_ble_eq_true rfl) (fun v_1 X_2 hp_3 => ?_)
  obtain ⟨rfl, h7⟩ := hp_3
  replace h7 := h7.symm
  subst h7
  refine z_st (st' := [.int (s_wh T.kd T.vl T.wd a 0 w0 1)]) rfl ?_
  refine z_if_ge 14 dX2_need_5 (by decide) (fun c_4 => ?_) (fun c_4 => ?_)
  · -- 0 ≤ s_wh T.kd T.vl T.wd a 0 w0 1
    have c_4' := Int32.not_lt.mpr c_4
    have hiw := s_wh_1.2.mp (Int32.not_lt.mpr c_4)
    have hal := (hT.lt ha (by rw [(s_isW_k hiw).2]; decide)).1
    refine z_aload_n 0 dX2_need_14 rfl ?_
    refine z_callV (As := []) (rd_nxt hT hW2 (by omega)) q408 q410 qs1 q113 q411 nm_X2_next hr rfl rfl rfl (Nat.le_of_ble_eq_true rfl) ⟨Nat.le_of_ble_eq_true rfl, Nat.le_of_ble_eq_true rfl⟩ dX2_need_15 rfl rfl (Nat.le_of_ble_eq_true rfl) (Nat.le_of_ble_eq_true rfl) (fun v_8 X_5 hp_9 => ?_)
    obtain ⟨rfl, ht_6, hw_6⟩ := hp_9
    have hWk7 := hw_6
    obtain ⟨-, hx7, hks7, ha7, va7, hr7, hva7⟩ := hw_6
    have hrt7 := rto.rf.tr ht_6
    have hpl7 := hT.le ha7
    have hto7 := hT.to ha7
    have hk47 := hT.kd4 ha7
    refine z_st (st' := []) rfl ?_
    exact z_vret dX2_need_18 rfl (Nat.le_of_ble_eq_true rfl) (Nat.le_of_ble_eq_true rfl) ⟨rfl, (by unfold s_tW; rw [if_pos hiw]), hrt7, hWk7⟩
  · -- ¬ 0 ≤ s_wh T.kd T.vl T.wd a 0 w0 1
    have c_4' := Int32.not_le.mp c_4
    refine z_aload_n 0 dX2_need_8 rfl ?_
    refine z_iconst (v := 1) dX2_need_9 (by decide) ?_
    refine z_callV (As := [.int 1]) (rd_wrong hr 1) q540 q542 qs4 q113 q543 nm_X2_wrong hr rfl rfl rfl (Nat.le_of_ble_eq_true rfl) ⟨Nat.le_of_ble_eq_true rfl, Nat.le_of_ble_eq_true rfl⟩ dX2_need_10 rfl rfl (Nat.le_of_ble_eq_true rfl) (Nat.le_of_ble_eq_true rfl) (fun v_16 X_17 hp_18 => ?_)
    obtain ⟨q_10, rfl, h7, hnq_10, hzq_10⟩ := hp_18
    subst h7
    have ne_11 : r ≠ q_10 := fun q9 => by rw [← q9, hr] at hnq_10; cases hnq_10
    have ne_12 : T.x ≠ q_10 := fun q9 => by rw [← q9, hx] at hnq_10; cases hnq_10
    have hx_13 : (zup X q_10 (.inr (6, [.null, .null, .null, .null, .null, .int 0, .int (nI ((16 * T.pl a + 1)))]))) r = some (rdT T a va w vo) := zup_k ne_11 hr
    have hx_14 : (zup X q_10 (.inr (6, [.null, .null, .null, .null, .null, .int 0, .int (nI ((16 * T.pl a + 1)))]))) T.x = some (.inl (zar g 1, 1000, .inl T.t)) := zup_k ne_12 hx
    have hx_15 : (zup X q_10 (.inr (6, [.null, .null, .null, .null, .null, .int 0, .int (nI ((16 * T.pl a + 1)))]))) q_10 = some (.inr (6, [.null, .null, .null, .null, .null, .int 0, .int (nI ((16 * T.pl a + 1)))])) := zup_s
    refine z_st (st' := [.ref q_10]) rfl ?_
    exact z_athrow hx_15 rfl dX2_need_13 rfl (Nat.le_of_ble_eq_true rfl) (Nat.le_of_ble_eq_true rfl) ⟨(16 * T.pl a + 1), (by omega), (by unfold s_tW; rw [if_neg (by rw [s_wh_1.1.mp (Int32.not_le.mp c_4)]; decide), s_wr_e]), rfl, (rto.rf.nw hnq_10), ⟨_, _, _, hx_13⟩, hx_15⟩
set_option maxHeartbeats 4000000 in
theorem rd_one {g : zG} {X : zX} {r a w : Nat} {vo : Option Nat} {T : rTP} (hT : rTk T) (hW : rW g X r T a w vo) (i w0 m : Nat) (h1 : 1 ≤ i) (hi : i < 12) (hm : kmw i = m) (hw : w0 + m ≤ 25) (hc : ∀ k, k < m → kix i k = w0 + k) : zV g m_X2_one ({ frames := 6, cells := 1, slots := 7, locals := 135 } : Room) [.ref r, .ref (zk g (10 + i))] X (fun rv X' => ∃ k, k < m ∧ rv = some (.int (nI k)) ∧ s_tO T.kd T.pl T.vl T.wd a 0 w0 m = (nI k, a + 1, 0) ∧ rto X X' r ∧ rW g X' r T (a + 1) w vo) (fun q E X' => ∃ f, ¬ f = 0 ∧ s_tO T.kd T.pl T.vl T.wd a 0 w0 m = (0, a, f) ∧ rX X r T vo f q E X') := by
  refine zV.of (by decide +kernel) (Nat.le_of_ble_eq_true rfl) rfl ?_
  refine z_lv (lv' := [(0, .ref r), (1, .ref (zk g (10 + i)))]) [0, 1] rfl ?_
  have hn := hT.n
  have hW2 := hW
  obtain ⟨hr0, hx, hks, ha, va, hr, hva⟩ := hW
  have hcn := hT.c
  have hpl := hT.le ha
  have hto := hT.to ha
  have hk4 := hT.kd4 ha
  refine z_aload_n 0 dX2_one_0 rfl ?_
  refine z_aload_n 1 dX2_one_1 rfl ?_
  refine z_callV (As := [.ref (zk g (10 + i))]) (rd_wh hT hW2 i w0 m h1 hi hm hw hc) q516 q518 qs3 q113 q519 nm_X2_which hr rfl rfl rfl (Nat.le_of_ble_eq_true rfl) ⟨Nat.le_of_ble_eq_true rfl, Nat.le_of_ble_eq_true rfl⟩ dX2_one_2 rfl rfl (Nat.le_of_ble_eq_true rfl) (Nat.le_of_ble_eq_true rfl) (fun v_1 X_2 hp_3 => ?_)
  obtain ⟨rfl, h7⟩ := hp_3
  replace h7 := h7.symm
  subst h7
  refine z_st (st' := [.int (s_wh T.kd T.vl T.wd a 0 w0 m)]) rfl ?_
  refine z_istore_n (lv' := [(2, .int (s_wh T.kd T.vl T.wd a 0 w0 m)), (0, .ref r), (1, .ref (zk g (10 + i)))]) dX2_one_5 rfl (by decide) rfl ?_
  refine z_iload_n 0 dX2_one_6 rfl ?_
  refine z_if_ge 16 dX2_one_7 (by decide) (fun c_4 => ?_) (fun c_4 => ?_)
  · -- 0 ≤ s_wh T.kd T.vl T.wd a 0 w0 m
    have c_4' := Int32.not_lt.mpr c_4
    rcases s_wh_k (kd := T.kd) (vl := T.vl) (wd := T.wd) (a := a) (f := 0) (w := w0) m with z9 | ⟨hkd, k9, hk9, ek9⟩
    · exact absurd z9 (Int32.not_lt.mpr c_4)
    have hal := (hT.lt ha (by omega)).1
    refine z_aload_n 1 dX2_one_16 rfl ?_
    refine z_callV (As := []) (rd_nxt hT hW2 (by omega)) q408 q410 qs1 q113 q411 nm_X2_next hr rfl rfl rfl (Nat.le_of_ble_eq_true rfl) ⟨Nat.le_of_ble_eq_true rfl, Nat.le_of_ble_eq_true rfl⟩ dX2_one_17 rfl rfl (Nat.le_of_ble_eq_true rfl) (Nat.le_of_ble_eq_true rfl) (fun v_8 X_5 hp_9 => ?_)
    obtain ⟨rfl, ht_6, hw_6⟩ := hp_9
    have hWk7 := hw_6
    obtain ⟨-, hx7, hks7, ha7, va7, hr7, hva7⟩ := hw_6
    have hrt7 := rto.rf.tr ht_6
    have hpl7 := hT.le ha7
    have hto7 := hT.to ha7
    have hk47 := hT.kd4 ha7
    refine z_st (st' := []) rfl ?_
    refine z_iload_n 0 dX2_one_20 rfl ?_
    exact z_iret dX2_one_21 rfl (Nat.le_of_ble_eq_true rfl) (Nat.le_of_ble_eq_true rfl) ⟨k9, hk9, congrArg (fun z => some (Value.int z)) ek9, (by unfold s_tO; rw [if_pos rfl, if_neg (Int32.not_lt.mpr c_4), ek9]), hrt7, hWk7⟩
  · -- ¬ 0 ≤ s_wh T.kd T.vl T.wd a 0 w0 m
    have c_4' := Int32.not_le.mp c_4
    refine z_aload_n 1 dX2_one_10 rfl ?_
    refine z_iconst (v := 1) dX2_one_11 (by decide) ?_
    refine z_callV (As := [.int 1]) (rd_wrong hr 1) q540 q542 qs4 q113 q543 nm_X2_wrong hr rfl rfl rfl (Nat.le_of_ble_eq_true rfl) ⟨Nat.le_of_ble_eq_true rfl, Nat.le_of_ble_eq_true rfl⟩ dX2_one_12 rfl rfl (Nat.le_of_ble_eq_true rfl) (Nat.le_of_ble_eq_true rfl) (fun v_16 X_17 hp_18 => ?_)
    obtain ⟨q_10, rfl, h7, hnq_10, hzq_10⟩ := hp_18
    subst h7
    have ne_11 : r ≠ q_10 := fun q9 => by rw [← q9, hr] at hnq_10; cases hnq_10
    have ne_12 : T.x ≠ q_10 := fun q9 => by rw [← q9, hx] at hnq_10; cases hnq_10
    have hx_13 : (zup X q_10 (.inr (6, [.null, .null, .null, .null, .null, .int 0, .int (nI ((16 * T.pl a + 1)))]))) r = some (rdT T a va w vo) := zup_k ne_11 hr
    have hx_14 : (zup X q_10 (.inr (6, [.null, .null, .null, .null, .null, .int 0, .int (nI ((16 * T.pl a + 1)))]))) T.x = some (.inl (zar g 1, 1000, .inl T.t)) := zup_k ne_12 hx
    have hx_15 : (zup X q_10 (.inr (6, [.null, .null, .null, .null, .null, .int 0, .int (nI ((16 * T.pl a + 1)))]))) q_10 = some (.inr (6, [.null, .null, .null, .null, .null, .int 0, .int (nI ((16 * T.pl a + 1)))])) := zup_s
    refine z_st (st' := [.ref q_10]) rfl ?_
    exact z_athrow hx_15 rfl dX2_one_15 rfl (Nat.le_of_ble_eq_true rfl) (Nat.le_of_ble_eq_true rfl) ⟨(16 * T.pl a + 1), (by omega), (by unfold s_tO; rw [if_pos rfl, if_pos (Int32.not_le.mp c_4), s_wr_e]), rfl, (rto.rf.nw hnq_10), ⟨_, _, _, hx_13⟩, hx_15⟩
set_option maxHeartbeats 4000000 in
theorem rd_numw {g : zG} {X : zX} {r a w : Nat} {vo : Option Nat} {T : rTP} (hT : rTk T) (hW : rW g X r T a w vo) (i w0 : Nat) (h1 : 1 ≤ i) (hi : i < 12) (hm : kmw i = 1) (hw : w0 + 1 ≤ 25) (hc : ∀ k, k < 1 → kix i k = w0 + k) (lo hi_ : Nat) (hlo : lo < 2 ^ 31) (hhi : hi_ < 2 ^ 31) : zV g m_X2_number ({ frames := 7, cells := 2, slots := 14, locals := 158 } : Room) [.ref r, .ref (zk g (10 + i)), .int (nI (lo)), .int (nI (hi_))] X (fun rv X' => ∃ k, k < 10 ^ 4 ∧ lo ≤ k ∧ k ≤ hi_ ∧ rv = some (.int (nI k)) ∧ s_tA T.kd T.pl T.vl T.wd a 0 w0 (nI lo) (nI hi_) = (nI k, a + 2, 0) ∧ rto X X' r ∧ rW g X' r T (a + 2) w vo) (fun q E X' => ∃ f, ¬ f = 0 ∧ (∃ a', s_tA T.kd T.pl T.vl T.wd a 0 w0 (nI lo) (nI hi_) = (0, a', f)) ∧ rX X r T vo f q E X') := by
  refine zV.of (by decide +kernel) (Nat.le_of_ble_eq_true rfl) rfl ?_
  refine z_lv (lv' := [(0, .ref r), (1, .ref (zk g (10 + i))), (2, .int (nI (lo))), (3, .int (nI (hi_)))]) [0, 1, 2, 3] rfl ?_
  have hn := hT.n
  have hW2 := hW
  obtain ⟨hr0, hx, hks, ha, va, hr, hva⟩ := hW
  have hcn := hT.c
  have hpl := hT.le ha
  have hto := hT.to ha
  have hk4 := hT.kd4 ha
  refine z_aload_n 0 dX2_number_0 rfl ?_
  refine z_aload_n 1 dX2_number_1 rfl ?_
  refine z_callVx (As := [.ref (zk g (10 + i))]) (rd_need hT hW2 i w0 h1 hi hm hw hc) q829 q831 qs10 q113 q832 nm_X2_need hr rfl rfl rfl (Nat.le_of_ble_eq_true rfl) ⟨Nat.le_of_ble_eq_true rfl, Nat.le_of_ble_eq_true rfl⟩ dX2_number_2 rfl rfl (Nat.le_of_ble_eq_true rfl) (Nat.le_of_ble_eq_true rfl) rfl (fun q9 E9 X8 hp9 => by obtain ⟨f9, hf9, hs9, hx9⟩ := hp9; exact ⟨f9, hf9, ⟨a, (by unfold s_tA; rw [hs9]; unfold s_tN; rw [if_neg hf9])⟩, hx9.tr rto.rf⟩) (fun v_4 X_1 hp_5 => ?_)
  obtain ⟨rfl, hs_2, ht_2, hw_2⟩ := hp_5
  have hWk3 := hw_2
  obtain ⟨-, hx3, hks3, ha3, va3, hr3, hva3⟩ := hw_2
  have hrt3 := rto.rf.tr ht_2
  have hpl3 := hT.le ha3
  have hto3 := hT.to ha3
  have hk43 := hT.kd4 ha3
  refine z_st (st' := []) rfl ?_
  refine z_aload_n 0 dX2_number_5 rfl ?_
  refine z_iload_n 2 dX2_number_6 rfl ?_
  refine z_iload_n 3 dX2_number_7 rfl ?_
  refine z_callVx (As := [.int (nI (lo)), .int (nI (hi_))]) (rd_number hT hWk3 lo hi_ hlo hhi) q833 q835 qs11 q113 q836 nm_X2_number_2 hr3 rfl rfl rfl (Nat.le_of_ble_eq_true rfl) ⟨Nat.le_of_ble_eq_true rfl, Nat.le_of_ble_eq_true rfl⟩ dX2_number_8 rfl rfl (Nat.le_of_ble_eq_true rfl) (Nat.le_of_ble_eq_true rfl) rfl (fun q9 E9 X8 hp9 => by obtain ⟨f9, hf9, hs9, hx9⟩ := hp9; exact ⟨f9, hf9, ⟨a + 1, (by unfold s_tA; rw [hs_2]; exact hs9)⟩, hx9.tr hrt3⟩) (fun v_9 X_6 hp_10 => ?_)
  obtain ⟨k_7, hk_7, hl_7, hh_7, rfl, hs_7, ht_7, hw_7⟩ := hp_10
  have hWk8 := hw_7
  obtain ⟨-, hx8, hks8, ha8, va8, hr8, hva8⟩ := hw_7
  have hrt8 := hrt3.tr ht_7
  have hpl8 := hT.le ha8
  have hto8 := hT.to ha8
  have hk48 := hT.kd4 ha8
  refine z_st (st' := [.int (nI (k_7))]) rfl ?_
  exact z_iret dX2_number_11 rfl (Nat.le_of_ble_eq_true rfl) (Nat.le_of_ble_eq_true rfl) ⟨k_7, hk_7, hl_7, hh_7, rfl, (by unfold s_tA; rw [hs_2]; exact hs_7), hrt8, hWk8⟩
set_option maxHeartbeats 4000000 in
theorem rd_passed {g : zG} {X : zX} {r a w : Nat} {vo : Option Nat} {T : rTP} (hT : rTk T) (hW : rW g X r T a w vo) (hal : a < T.cnt) (z : Int32) : zV g m_X2_passed ({ frames := 7, cells := 1, slots := 7, locals := 156 } : Room) [.ref r, .int z] X (fun rv X' => 0 ≤ z ∧ rv = some (.int z) ∧ rto X X' r ∧ rW g X' r T (a + 1) w vo) (fun q E X' => ∃ f, ¬ f = 0 ∧ (¬ 0 ≤ z ∧ s_wr T.pl a 0 2 = f) ∧ rX X r T vo f q E X') := by
  refine zV.of (by decide +kernel) (Nat.le_of_ble_eq_true rfl) rfl ?_
  refine z_lv (lv' := [(0, .ref r), (1, .int z)]) [0, 1] rfl ?_
  have hn := hT.n
  have hW2 := hW
  obtain ⟨hr0, hx, hks, ha, va, hr, hva⟩ := hW
  have hcn := hT.c
  have hpl := hT.le ha
  have hto := hT.to ha
  have hk4 := hT.kd4 ha
  refine z_aload_n 0 dX2_passed_0 rfl ?_
  refine z_iload_n 1 dX2_passed_1 rfl ?_
  refine z_callVx (As := [.int z]) (rd_told hT hW2 z) q897 q899 qs16 q113 q900 nm_X2_told hr rfl rfl rfl (Nat.le_of_ble_eq_true rfl) ⟨Nat.le_of_ble_eq_true rfl, Nat.le_of_ble_eq_true rfl⟩ dX2_passed_2 rfl rfl (Nat.le_of_ble_eq_true rfl) (Nat.le_of_ble_eq_true rfl) rfl (fun q9 E9 X8 hp9 => by obtain ⟨f9, hf9, hs9, hx9⟩ := hp9; exact ⟨f9, hf9, hs9, hx9.tr rto.rf⟩) (fun v_1 X_2 hp_3 => ?_)
  obtain ⟨hz0, rfl, h7⟩ := hp_3
  replace h7 := h7.symm
  subst h7
  refine z_st (st' := [.int z]) rfl ?_
  refine z_pop dX2_passed_5 rfl ?_
  refine z_aload_n 0 dX2_passed_6 rfl ?_
  refine z_callV (As := []) (rd_nxt hT hW2 (by omega)) q408 q410 qs1 q113 q411 nm_X2_next hr rfl rfl rfl (Nat.le_of_ble_eq_true rfl) ⟨Nat.le_of_ble_eq_true rfl, Nat.le_of_ble_eq_true rfl⟩ dX2_passed_7 rfl rfl (Nat.le_of_ble_eq_true rfl) (Nat.le_of_ble_eq_true rfl) (fun v_7 X_4 hp_8 => ?_)
  obtain ⟨rfl, ht_5, hw_5⟩ := hp_8
  have hWk6 := hw_5
  obtain ⟨-, hx6, hks6, ha6, va6, hr6, hva6⟩ := hw_5
  have hrt6 := rto.rf.tr ht_5
  have hpl6 := hT.le ha6
  have hto6 := hT.to ha6
  have hk46 := hT.kd4 ha6
  refine z_st (st' := []) rfl ?_
  refine z_iload_n 1 dX2_passed_10 rfl ?_
  exact z_iret dX2_passed_11 rfl (Nat.le_of_ble_eq_true rfl) (Nat.le_of_ble_eq_true rfl) ⟨hz0, rfl, hrt6, hWk6⟩
