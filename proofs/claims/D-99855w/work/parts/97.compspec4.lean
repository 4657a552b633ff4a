/-! SETS COUNTED; WHO LIES WITH WHOM; WHO IT WAS, in plain Lean -/
set_option maxRecDepth 100000
/-- how many -/
def s_cnt (p : Nat → Bool) : Nat → Nat
  | 0 => 0
  | n + 1 => s_cnt p n + (if p n = true then 1 else 0)
theorem s_cnt_le {p : Nat → Bool} : ∀ n, s_cnt p n ≤ n
  | 0 => Nat.le_refl _
  | n + 1 => by
    have h := s_cnt_le (p := p) n
    unfold s_cnt
    split <;> omega
theorem b_bit {n i : Nat} (hn : n < 32) (hi : i < 32) : bt (s_bit n) i = decide (i = n) := by
  unfold s_bit
  rw [b_shl n hn 1 hi, b_1 _ (by omega)]
  by_cases h : i = n
  · subst h; simp
  · by_cases h2 : n ≤ i
    · rw [decide_eq_false (show ¬ i - n = 0 by omega), decide_eq_false h, Bool.and_false]
    · rw [decide_eq_false h2, decide_eq_false h, Bool.false_and]
theorem b_set {p : Nat → Bool} {i : Nat} (hi : i < 32) : ∀ n, n ≤ 32 → bt (s_set p n) i = (decide (i < n) && p i)
  | 0, _ => by
    show bt 0 i = _
    rw [b_0, decide_eq_false (Nat.not_lt_zero i), Bool.false_and]
  | n + 1, hn => by
    show bt (s_set p n ||| (if p n = true then s_bit n else 0)) i = _
    rw [b_or, b_set hi n (by omega)]
    by_cases e : i = n
    · subst e
      rw [decide_eq_false (Nat.lt_irrefl i), Bool.false_and, Bool.false_or, decide_eq_true (Nat.lt_succ_self i), Bool.true_and]
      by_cases hp : p i = true
      · rw [if_pos hp, b_bit hi hi, hp]; exact decide_eq_true rfl
      · rw [if_neg hp, b_0]
        cases h9 : p i
        · rfl
        · exact absurd h9 hp
    · have e2 : bt (if p n = true then s_bit n else 0) i = false := by
        split
        · rw [b_bit (by omega) hi, decide_eq_false e]
        · exact b_0 i
      rw [e2, Bool.or_false]
      by_cases h2 : i < n
      · rw [decide_eq_true h2, decide_eq_true (show i < n + 1 by omega)]
      · rw [decide_eq_false h2, decide_eq_false (show ¬ i < n + 1 by omega)]
theorem s_set_64 {p : Nat → Bool} : ∀ n, n ≤ 6 → ∃ m, m < 2 ^ n ∧ s_set p n = nI m
  | 0, _ => ⟨0, by decide, rfl⟩
  | n + 1, hn => by
    obtain ⟨m, hm, e⟩ := s_set_64 (p := p) n (by omega)
    have hp : 2 ^ (n + 1) = 2 ^ n + 2 ^ n := by rw [Nat.pow_succ]; omega
    unfold s_set
    rw [e]
    split
    · exact ⟨m + 2 ^ n, by omega, s_or_bit n (by omega) m hm⟩
    · exact ⟨m, by omega, by rw [Int32.or_zero]⟩
theorem s_bits_or : ∀ n, n < 6 → ∀ m, m < 2 ^ n → s_bits (nI m ||| s_bit n) 30 = s_bits (nI m) 30 + 1 := by decide +kernel
theorem s_bits_set {p : Nat → Bool} : ∀ n, n ≤ 6 → s_bits (s_set p n) 30 = nI (s_cnt p n)
  | 0, _ => (show s_bits 0 30 = nI 0 from by decide)
  | n + 1, hn => by
    obtain ⟨m, hm, e⟩ := s_set_64 (p := p) n (by omega)
    have ih := s_bits_set (p := p) n (by omega)
    show s_bits (s_set p n ||| (if p n = true then s_bit n else 0)) 30 = nI (s_cnt p n + (if p n = true then 1 else 0))
    by_cases hp : p n = true
    · rw [if_pos hp, if_pos hp]
      rw [e] at ih ⊢
      rw [s_bits_or n (by omega) m hm, ih]
      exact nI_add _ 1
    · rw [if_neg hp, if_neg hp, Int32.or_zero, ih, Nat.add_zero]
theorem s_in_set {σ : Nat → Int32} {h : Int32} : ∀ n, s_in σ h n = s_set (fun g => decide (σ (g + 6) = h)) n
  | 0 => rfl
  | n + 1 => by
    show s_in σ h n ||| (if σ (n + 6) = h then s_bit n else 0) = s_set (fun g => decide (σ (g + 6) = h)) n ||| (if decide (σ (n + 6) = h) = true then s_bit n else 0)
    rw [s_in_set n]
    by_cases e : σ (n + 6) = h
    · rw [if_pos e, if_pos (decide_eq_true e)]
    · rw [if_neg e, if_neg (fun z => e (of_decide_eq_true z))]
theorem s_set_and {p : Nat → Bool} {x : Int32} {n : Nat} (hn : n ≤ 32) : s_set p n &&& x = s_set (fun g => p g && s_isBit x g) n := by
  apply b_ext
  intro i hi
  rw [b_and, b_set hi n hn, b_set hi n hn, s_isBit_bt x hi, Bool.and_assoc]
theorem s_cnt_in {σ : Nat → Int32} {h : Int32} {n : Nat} (hn : n ≤ 6) : s_bits (s_in σ h n) 30 = nI (s_cnt (fun g => decide (σ (g + 6) = h)) n) := by
  rw [s_in_set, s_bits_set n hn]
theorem s_cnt_look {σ : Nat → Int32} {x h : Int32} {n : Nat} (hn : n ≤ 6) : s_lookf σ n x h = nI (s_cnt (fun g => decide (σ (g + 6) = h) && s_isBit x g) n) := by
  unfold s_lookf
  rw [s_in_set, s_set_and (by omega), s_bits_set n hn]
/-! pairs -/
def s_tri (σ : Nat → Int32) (h : Int32) : Nat → Nat
  | 0 => 0
  | n + 1 => s_tri σ h n + (if σ (n + 6) = h then s_cnt (fun g => decide (σ (g + 6) = h)) n else 0)
theorem s_tri_c {σ : Nat → Int32} {h : Int32} : ∀ n, 2 * s_tri σ h n + s_cnt (fun g => decide (σ (g + 6) = h)) n = s_cnt (fun g => decide (σ (g + 6) = h)) n * s_cnt (fun g => decide (σ (g + 6) = h)) n
  | 0 => rfl
  | n + 1 => by
    have ih := s_tri_c (σ := σ) (h := h) n
    show 2 * (s_tri σ h n + (if σ (n + 6) = h then s_cnt (fun g => decide (σ (g + 6) = h)) n else 0)) + (s_cnt (fun g => decide (σ (g + 6) = h)) n + (if decide (σ (n + 6) = h) = true then 1 else 0)) = (s_cnt (fun g => decide (σ (g + 6) = h)) n + (if decide (σ (n + 6) = h) = true then 1 else 0)) * (s_cnt (fun g => decide (σ (g + 6) = h)) n + (if decide (σ (n + 6) = h) = true then 1 else 0))
    generalize s_cnt (fun g => decide (σ (g + 6) = h)) n = c at ih ⊢
    generalize s_tri σ h n = t at ih ⊢
    by_cases e : σ (n + 6) = h
    · rw [if_pos e, if_pos (decide_eq_true e), Nat.add_mul, Nat.mul_add, Nat.mul_add]
      omega
    · rw [if_neg e, if_neg (fun z => e (of_decide_eq_true z))]
      omega
theorem s_choose : ∀ c, c ≤ 6 → ∀ t, t ≤ 15 → 2 * t + c = c * c → nI c * (nI c - 1) / 2 = nI t := by decide +kernel
def s_trs (σ : Nat → Int32) (n : Nat) : Nat → Nat
  | 0 => 0
  | h + 1 => s_trs σ n h + s_tri σ (nI h) n
theorem s_tri_le {σ : Nat → Int32} {h : Int32} {n : Nat} (hn : n ≤ 6) : s_tri σ h n ≤ 15 := by
  have e := s_tri_c (σ := σ) (h := h) n
  have h1 := s_cnt_le (p := fun g => decide (σ (g + 6) = h)) n
  generalize s_cnt (fun g => decide (σ (g + 6) = h)) n = c at e h1
  rcases (by omega : c = 0 ∨ c = 1 ∨ c = 2 ∨ c = 3 ∨ c = 4 ∨ c = 5 ∨ c = 6) with rfl | rfl | rfl | rfl | rfl | rfl | rfl <;> omega
theorem s_pairs_t {σ : Nat → Int32} {nd : Nat} (hnd : nd ≤ 6) : ∀ h, s_pairs σ nd h = nI (s_trs σ nd h)
  | 0 => rfl
  | h + 1 => by
    show s_pairs σ nd h + s_bits (s_in σ (nI h) nd) 30 * (s_bits (s_in σ (nI h) nd) 30 - 1) / 2 = nI (s_trs σ nd h + s_tri σ (nI h) nd)
    rw [s_pairs_t hnd h, s_cnt_in hnd, s_choose _ (Nat.le_trans (s_cnt_le nd) hnd) _ (s_tri_le hnd) (s_tri_c nd), nI_add]
/-- pairs as the component counts them -/
def s_prs (σ : Nat → Int32) : Nat → Nat
  | 0 => 0
  | n + 1 => s_prs σ n + s_cnt (fun o => decide (0 ≤ σ (n + 6)) && decide (σ (n + 6) = σ (o + 6))) n
theorem s_cnt_congr {p q : Nat → Bool} : ∀ n, (∀ k, k < n → p k = q k) → s_cnt p n = s_cnt q n
  | 0, _ => rfl
  | n + 1, h => by
    unfold s_cnt
    rw [s_cnt_congr n (fun k hk => h k (by omega)), h n (by omega)]
theorem s_cnt_f {p : Nat → Bool} : ∀ n, (∀ k, k < n → p k = false) → s_cnt p n = 0
  | 0, _ => rfl
  | n + 1, h => by
    unfold s_cnt
    rw [s_cnt_f n (fun k hk => h k (by omega)), h n (by omega)]
    rfl
theorem s_trs_1 {σ : Nat → Int32} {n : Nat} : ∀ m, s_trs σ (n + 1) m = s_trs σ n m + (if ∃ h, h < m ∧ σ (n + 6) = nI h then s_cnt (fun g => decide (σ (g + 6) = σ (n + 6))) n else 0) ∨ 2 ^ 31 < m
  | 0 => Or.inl (by rw [if_neg (fun ⟨h, hh, _⟩ => absurd hh (Nat.not_lt_zero h))]; rfl)
  | m + 1 => by
    by_cases hm : 2 ^ 31 < m + 1
    · exact Or.inr hm
    · refine Or.inl ?_
      have ih := (s_trs_1 (σ := σ) (n := n) m).resolve_right (by omega)
      show s_trs σ (n + 1) m + (s_tri σ (nI m) n + (if σ (n + 6) = nI m then s_cnt (fun g => decide (σ (g + 6) = nI m)) n else 0)) = s_trs σ n m + s_tri σ (nI m) n + _
      rw [ih]
      by_cases e : σ (n + 6) = nI m
      · rw [if_pos e, if_neg (fun ⟨h, hh, e9⟩ => absurd ((nI_eq (by omega) (by omega)).mp (e9.symm.trans e)) (by omega)), if_pos ⟨m, Nat.lt_succ_self m, e⟩, e]
        omega
      · rw [if_neg e]
        by_cases e2 : ∃ h, h < m ∧ σ (n + 6) = nI h
        · rw [if_pos e2, if_pos (by obtain ⟨h, hh, e9⟩ := e2; exact ⟨h, by omega, e9⟩)]
          omega
        · rw [if_neg e2, if_neg (fun ⟨h, hh, e9⟩ => by
            by_cases h9 : h = m
            · rw [h9] at e9; exact e e9
            · exact e2 ⟨h, by omega, e9⟩)]
          omega
theorem s_prs_t {σ : Nat → Int32} {nh : Nat} (hnh : nh ≤ 4) : ∀ n, (∀ g, g < n → σ (g + 6) < 0 ∨ ∃ h, h < nh ∧ σ (g + 6) = nI h) → s_trs σ n nh = s_prs σ n
  | 0, _ => by
    have k : ∀ m, s_trs σ 0 m = 0 := by
      intro m
      induction m with
      | zero => rfl
      | succ m ih => show s_trs σ 0 m + 0 = 0; rw [ih]
    exact k nh
  | n + 1, hw => by
    rw [(s_trs_1 nh).resolve_right (by omega), s_prs_t hnh n (fun g hg => hw g (by omega))]
    show s_prs σ n + _ = s_prs σ n + s_cnt (fun o => decide (0 ≤ σ (n + 6)) && decide (σ (n + 6) = σ (o + 6))) n
    by_cases e : ∃ h, h < nh ∧ σ (n + 6) = nI h
    · rw [if_pos e]
      obtain ⟨h, hh, e9⟩ := e
      rw [s_cnt_congr (q := fun o => decide (0 ≤ σ (n + 6)) && decide (σ (n + 6) = σ (o + 6))) n (fun k hk => by
        rw [decide_eq_true (show 0 ≤ σ (n + 6) by rw [e9]; exact nI_pos' (by omega)), Bool.true_and]
        by_cases h8 : σ (k + 6) = σ (n + 6)
        · rw [decide_eq_true h8, decide_eq_true h8.symm]
        · rw [decide_eq_false h8, decide_eq_false (fun z => h8 z.symm)])]
    · rw [if_neg e]
      have h8 : σ (n + 6) < 0 := (hw n (by omega)).resolve_right e
      rw [s_cnt_f n (fun k hk => by rw [decide_eq_false (Int32.not_le.mpr h8), Bool.false_and])]
