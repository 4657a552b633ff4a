/-! STATES COPIED, in plain Lean -/
set_option maxRecDepth 100000
/-- n entries of row i over those of row j -/
def s_cpr (K : Nat → Nat → Int32) (i j n : Nat) : Nat → Nat → Int32 := fun r q => if r = j ∧ q < n then K i q else K r q
theorem s_cpr_0 {K : Nat → Nat → Int32} {i j : Nat} : s_cpr K i j 0 = K := by
  funext r q
  exact if_neg (by omega)
theorem s_cpr_1 {K : Nat → Nat → Int32} {i j n : Nat} (h : ¬ i = j) : zs (s_cpr K i j n) j n (s_cpr K i j n i n) = s_cpr K i j (n + 1) := by
  have e : s_cpr K i j n i n = K i n := if_neg (by omega)
  rw [e]
  funext r q
  show (if r = j ∧ q = n then K i n else if r = j ∧ q < n then K i q else K r q) = (if r = j ∧ q < n + 1 then K i q else K r q)
  by_cases h1 : r = j
  · by_cases h2 : q = n
    · rw [if_pos ⟨h1, h2⟩, if_pos ⟨h1, by omega⟩, h2]
    · rw [if_neg (fun z => h2 z.2)]
      by_cases h3 : q < n
      · rw [if_pos ⟨h1, h3⟩, if_pos ⟨h1, by omega⟩]
      · rw [if_neg (fun z => h3 z.2), if_neg (fun z => by have := z.2; omega)]
  · rw [if_neg (fun z => h1 z.1), if_neg (fun z => h1 z.1), if_neg (fun z => h1 z.1)]
theorem s_cpr_n {K : Nat → Nat → Int32} {i j n r q : Nat} (h : r ≠ j) : s_cpr K i j n r q = K r q := if_neg (fun z => h z.1)
/-- the state at s becomes that at o -/
def s_be (K : Nat → Nat → Int32) (o s : Nat) : Nat → Nat → Int32 :=
  zs (zs (zs (s_cpr (s_cpr (s_cpr (s_cpr (s_cpr (s_cpr K o s 4) (o + 1) (s + 1) 6) (o + 2) (s + 2) 6) (o + 3) (s + 3) 6) (o + 4) (s + 4) 6) (o + 5) (s + 5) 6) (s + 9) 6 (K (o + 9) 6)) (s + 9) 7 (K (o + 9) 7)) (s + 9) 8 (K (o + 9) 8)
theorem s_be_at {K : Nat → Nat → Int32} {o s : Nat} (h : o + 10 ≤ s ∨ s + 10 ≤ o) (r q : Nat) : s_be K o s r q = if r = s + 9 ∧ (q = 6 ∨ q = 7 ∨ q = 8) then K (o + 9) q else if r = s ∧ q < 4 then K o q else if s + 1 ≤ r ∧ r ≤ s + 5 ∧ q < 6 then K (o + (r - s)) q else K r q := by
  unfold s_be zs s_cpr
  by_cases h9 : r = s + 9
  · subst h9
    by_cases q8 : q = 8
    · rw [if_pos ⟨rfl, q8⟩, if_pos ⟨rfl, by omega⟩, q8]
    · rw [if_neg (fun z => q8 z.2)]
      by_cases q7 : q = 7
      · rw [if_pos ⟨rfl, q7⟩, if_pos ⟨rfl, by omega⟩, q7]
      · rw [if_neg (fun z => q7 z.2)]
        by_cases q6 : q = 6
        · rw [if_pos ⟨rfl, q6⟩, if_pos ⟨rfl, by omega⟩, q6]
        · rw [if_neg (fun z => q6 z.2), if_neg (by omega), if_neg (by omega), if_neg (by omega), if_neg (by omega), if_neg (by omega), if_neg (by omega), if_neg (by omega), if_neg (by omega), if_neg (by omega)]
  · rw [if_neg (fun z => h9 z.1), if_neg (fun z => h9 z.1), if_neg (fun z => h9 z.1), if_neg (fun z : r = s + 9 ∧ _ => h9 z.1)]
    by_cases h5 : r = s + 5
    · subst h5
      rw [if_neg (show ¬ (s + 5 = s ∧ q < 4) by omega)]
      by_cases hq : q < 6
      · rw [if_pos ⟨rfl, hq⟩, if_pos (show s + 1 ≤ s + 5 ∧ s + 5 ≤ s + 5 ∧ q < 6 by omega), show o + (s + 5 - s) = o + 5 by omega, if_neg (show ¬ (s + 5 = s ∧ q < 4) by omega)]
        rw [if_neg (by omega), if_neg (by omega), if_neg (by omega), if_neg (by omega), if_neg (by omega)]
      · rw [if_neg (by omega), if_neg (by omega), if_neg (by omega), if_neg (by omega), if_neg (by omega), if_neg (by omega), if_neg (by omega)]
    · rw [if_neg (fun z => h5 z.1)]
      by_cases h4 : r = s + 4
      · subst h4
        rw [if_neg (show ¬ (s + 4 = s ∧ q < 4) by omega)]
        by_cases hq : q < 6
        · rw [if_pos ⟨rfl, hq⟩, if_pos (show s + 1 ≤ s + 4 ∧ s + 4 ≤ s + 5 ∧ q < 6 by omega), show o + (s + 4 - s) = o + 4 by omega, if_neg (show ¬ (s + 4 = s ∧ q < 4) by omega)]
          rw [if_neg (by omega), if_neg (by omega), if_neg (by omega), if_neg (by omega)]
        · rw [if_neg (by omega), if_neg (by omega), if_neg (by omega), if_neg (by omega), if_neg (by omega), if_neg (by omega)]
      · rw [if_neg (fun z => h4 z.1)]
        by_cases h3 : r = s + 3
        · subst h3
          rw [if_neg (show ¬ (s + 3 = s ∧ q < 4) by omega)]
          by_cases hq : q < 6
          · rw [if_pos ⟨rfl, hq⟩, if_pos (show s + 1 ≤ s + 3 ∧ s + 3 ≤ s + 5 ∧ q < 6 by omega), show o + (s + 3 - s) = o + 3 by omega, if_neg (show ¬ (s + 3 = s ∧ q < 4) by omega)]
            rw [if_neg (by omega), if_neg (by omega), if_neg (by omega)]
          · rw [if_neg (by omega), if_neg (by omega), if_neg (by omega), if_neg (by omega), if_neg (by omega)]
        · rw [if_neg (fun z => h3 z.1)]
          by_cases h2 : r = s + 2
          · subst h2
            rw [if_neg (show ¬ (s + 2 = s ∧ q < 4) by omega)]
            by_cases hq : q < 6
            · rw [if_pos ⟨rfl, hq⟩, if_pos (show s + 1 ≤ s + 2 ∧ s + 2 ≤ s + 5 ∧ q < 6 by omega), show o + (s + 2 - s) = o + 2 by omega, if_neg (show ¬ (s + 2 = s ∧ q < 4) by omega)]
              rw [if_neg (by omega), if_neg (by omega)]
            · rw [if_neg (by omega), if_neg (by omega), if_neg (by omega), if_neg (by omega)]
          · rw [if_neg (fun z => h2 z.1)]
            by_cases h1 : r = s + 1
            · subst h1
              rw [if_neg (show ¬ (s + 1 = s ∧ q < 4) by omega)]
              by_cases hq : q < 6
              · rw [if_pos ⟨rfl, hq⟩, if_pos (show s + 1 ≤ s + 1 ∧ s + 1 ≤ s + 5 ∧ q < 6 by omega), show o + (s + 1 - s) = o + 1 by omega, if_neg (show ¬ (s + 1 = s ∧ q < 4) by omega)]
                rw [if_neg (by omega)]
              · rw [if_neg (by omega), if_neg (by omega), if_neg (by omega)]
            · rw [if_neg (fun z => h1 z.1), if_neg (show ¬ (s + 1 ≤ r ∧ r ≤ s + 5 ∧ q < 6) by omega)]
theorem s_be_put {K : Nat → Nat → Int32} {o s : Nat} {σ τ ds es : Nat → Int32} {dt yr dt' yr' : Int32} (h : o + 10 ≤ s ∨ s + 10 ≤ o) : s_be (cput (cput K o τ es dt' yr') s σ ds dt yr) o s = cput (cput K o τ es dt' yr') s τ es dt' yr' := by
  have ko : ∀ r q, o ≤ r → r < o + 10 → cput (cput K o τ es dt' yr') s σ ds dt yr r q = cpv o τ es dt' yr' r q := fun r q h1 h2 => by
    rw [cput_a (by omega)]
    exact if_pos ⟨h1, h2⟩
  refine cput_x (fun r q h1 h2 => ?_) (fun r q h1 => ?_)
  · rw [s_be_at h, ko (o + 9) q (by omega) (by omega), ko o q (by omega) (by omega)]
    have ks : cput (cput K o τ es dt' yr') s σ ds dt yr r q = cpv s σ ds dt yr r q := if_pos ⟨h1, h2⟩
    rw [ks]
    unfold cpv
    by_cases h9 : r = s + 9
    · subst h9
      simp only [show ¬ s + 9 = s by omega, show ¬ s + 9 = s + 1 by omega, show ¬ s + 9 = s + 2 by omega, show ¬ s + 9 = s + 3 by omega, show ¬ s + 9 = s + 4 by omega, show ¬ s + 9 = s + 5 by omega, show ¬ o + 9 = o by omega, show ¬ o + 9 = o + 1 by omega, show ¬ o + 9 = o + 2 by omega, show ¬ o + 9 = o + 3 by omega, show ¬ o + 9 = o + 4 by omega, show ¬ o + 9 = o + 5 by omega, if_false, if_true, true_and, false_and]
      rw [if_neg (show ¬ (s + 1 ≤ s + 9 ∧ s + 9 ≤ s + 5 ∧ q < 6) by omega)]
      by_cases q6 : q = 6
      · simp [q6]
      · by_cases q7 : q = 7
        · simp [q7]
        · by_cases q8 : q = 8
          · simp [q8]
          · simp [q6, q7, q8]
    · simp only [h9, false_and, if_false]
      by_cases h0 : r = s
      · subst h0
        by_cases hq : q < 4
        · simp [hq]
        · simp [hq, show ¬ r + 1 ≤ r by omega]
      · rw [if_neg (fun z => h0 z.1)]
        by_cases hr : s + 1 ≤ r ∧ r ≤ s + 5 ∧ q < 6
        · rw [if_pos hr, ko (o + (r - s)) q (by omega) (by omega)]
          unfold cpv
          obtain ⟨a1, a2, a3⟩ := hr
          rcases (by omega : r = s + 1 ∨ r = s + 2 ∨ r = s + 3 ∨ r = s + 4 ∨ r = s + 5) with e | e | e | e | e <;> subst e
          · rw [show s + 1 - s = 1 by omega]
            simp [a3]
          · rw [show s + 2 - s = 2 by omega]
            simp [a3]
          · rw [show s + 3 - s = 3 by omega]
            simp [a3]
          · rw [show s + 4 - s = 4 by omega]
            simp [a3]
          · rw [show s + 5 - s = 5 by omega]
            simp [a3]
        · rw [if_neg hr]
          have hq : s + 1 ≤ r ∧ r ≤ s + 5 → ¬ q < 6 := fun z hz => hr ⟨z.1, z.2, hz⟩
          rw [if_neg h0, if_neg h0]
          by_cases e : s + 1 ≤ r ∧ r ≤ s + 5
          · have := hq e
            simp only [this, if_false]
          · simp only [show ¬ r = s + 1 by omega, show ¬ r = s + 2 by omega, show ¬ r = s + 3 by omega, show ¬ r = s + 4 by omega, show ¬ r = s + 5 by omega, if_false]
  · rw [s_be_at h, if_neg (by omega), if_neg (by omega), if_neg (by omega), cput_a h1]
