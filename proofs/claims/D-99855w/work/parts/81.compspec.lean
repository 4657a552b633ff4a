/-! THE COMPONENT's own laws, in plain Lean -/
set_option maxRecDepth 100000
/-- nobody where no day is -/
def s_cz (σ : Nat → Int32) (nd : Nat) : Prop := ∀ g, nd ≤ g → g < 6 → σ (g + 6) = zm1 ∧ σ (g + 18) = 0
theorem s_in_6 {σ : Nat → Int32} {nd : Nat} {h : Int32} (hz : s_cz σ nd) (hh : ¬ h = zm1) (hnd : nd ≤ 6) : s_in σ h 6 = s_in σ h nd := by
  have key : ∀ n, nd ≤ n → n ≤ 6 → s_in σ h n = s_in σ h nd := by
    intro n
    induction n with
    | zero => intro h1 h2; rw [show nd = 0 by omega]
    | succ n ih =>
      intro h1 h2
      by_cases e : nd = n + 1
      · rw [e]
      · show s_in σ h n ||| (if σ (n + 6) = h then s_bit n else 0) = _
        rw [(hz n (by omega) (by omega)).1, if_neg (fun z => hh z.symm), Int32.or_zero, ih (by omega) (by omega)]
  exact key 6 hnd (Nat.le_refl _)
theorem s_some_6 {σ : Nat → Int32} {nd : Nat} (hz : s_cz σ nd) (hnd : nd ≤ 6) : s_some σ 6 = s_some σ nd := by
  have key : ∀ n, nd ≤ n → n ≤ 6 → s_some σ n = s_some σ nd := by
    intro n
    induction n with
    | zero => intro h1 h2; rw [show nd = 0 by omega]
    | succ n ih =>
      intro h1 h2
      by_cases e : nd = n + 1
      · rw [e]
      · show s_some σ n ||| (if 0 ≤ σ (n + 6) then s_bit n else 0) = _
        rw [(hz n (by omega) (by omega)).1, if_neg (by decide), Int32.or_zero, ih (by omega) (by omega)]
  exact key 6 hnd (Nat.le_refl _)
theorem nI_m1 {k : Nat} (h : k < 2 ^ 31) : ¬ nI k = zm1 := fun e => nI_lt0 h (by rw [e]; exact m1neg)
theorem s_isH1 {n k : Nat} (hn : n < 2 ^ 30) (hk : k < 2 ^ 31) : nI k ≤ nI n - 1 ↔ nI k < nI n := by
  cases n with
  | zero =>
    have e9 : nI 0 - 1 = zm1 := by decide
    rw [e9]
    exact Iff.intro (fun e => absurd e (zm1_lt hk)) (fun e => absurd e (nI_lt0 hk))
  | succ n =>
    have e9 : nI (n + 1) - nI 1 = nI n := pk_sub (by omega)
    have e8 : nI (n + 1) - 1 = nI n := e9
    rw [e8, nI_leI hk (by omega), nI_ltI hk (by omega)]
    omega
theorem s_isH {n : Nat} (hn : n < 2 ^ 30) (x : Int32) : (decide (0 ≤ x) && decide (x ≤ nI n - 1)) = (decide (0 ≤ x) && decide (x < nI n)) := by
  by_cases h : 0 ≤ x
  · obtain ⟨k, hk, e⟩ := nI_of (x := x) (Int32.not_lt.mpr h)
    have h9 : x ≤ nI n - 1 ↔ x < nI n := by
      rw [e]
      exact s_isH1 hn hk
    by_cases h8 : x < nI n
    · rw [decide_eq_true h8, decide_eq_true (h9.mpr h8)]
    · rw [decide_eq_false h8, decide_eq_false (fun z => h8 (h9.mp z))]
  · rw [decide_eq_false h, Bool.false_and, Bool.false_and]
theorem s_c9_b (v : Int32) : (if (-9 : Int32) < (if v < 9 then v else 9) then (if v < 9 then v else 9) else -9) = s_c9 v := by
  unfold s_c9 zm9
  by_cases h1 : v < 9
  · rw [if_pos h1]
    by_cases h2 : (-9 : Int32) < v
    · rw [if_pos h2, if_neg (Int32.not_lt.mpr (Int32.le_of_lt h2)), if_neg (Int32.not_lt.mpr (Int32.le_of_lt h1))]
    · rw [if_neg h2]
      by_cases h3 : v < -9
      · rw [if_pos h3]
      · rw [if_neg h3, if_neg (Int32.not_lt.mpr (Int32.le_of_lt h1))]
        exact Int32.le_antisymm (Int32.not_lt.mp h3) (Int32.not_lt.mp h2)
  · rw [if_neg h1, if_pos (by decide)]
    have h4 : ¬ v < -9 := fun h => h1 (Int32.lt_trans h (by decide))
    rw [if_neg h4]
    by_cases h5 : 9 < v
    · rw [if_pos h5]
    · rw [if_neg h5]
      exact Int32.le_antisymm (Int32.not_lt.mp h1) (Int32.not_lt.mp h5)
theorem s_c99_b (v : Int32) : (if (0 : Int32) < (if v < 99 then v else 99) then (if v < 99 then v else 99) else 0) = s_c99 v := by
  unfold s_c99
  by_cases h1 : v < 99
  · rw [if_pos h1]
    by_cases h2 : (0 : Int32) < v
    · rw [if_pos h2, if_neg (Int32.not_lt.mpr (Int32.le_of_lt h2)), if_neg (Int32.not_lt.mpr (Int32.le_of_lt h1))]
    · rw [if_neg h2]
      by_cases h3 : v < 0
      · rw [if_pos h3]
      · rw [if_neg h3, if_neg (Int32.not_lt.mpr (Int32.le_of_lt h1))]
        exact Int32.le_antisymm (Int32.not_lt.mp h3) (Int32.not_lt.mp h2)
  · rw [if_neg h1, if_pos (by decide)]
    have h4 : ¬ v < 0 := fun h => h1 (Int32.lt_trans h (by decide))
    rw [if_neg h4]
    by_cases h5 : 99 < v
    · rw [if_pos h5]
    · rw [if_neg h5]
      exact Int32.le_antisymm (Int32.not_lt.mp h1) (Int32.not_lt.mp h5)
