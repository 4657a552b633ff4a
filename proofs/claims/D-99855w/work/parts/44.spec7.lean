/-! CHANCES; THE TAPE, in plain Lean -/
set_option maxRecDepth 100000
def s_other (I : Nat → Nat → Int32) : Nat → Int32 := fun j => I 24 (1034 + j)
theorem tput_other {I : Nat → Nat → Int32} : tput I 1034 (s_other I) = I := tput_self
def s_agesR (σ : Nat → Int32) (nd : Nat) (t : (Nat → Int32) × Nat × Int32) (w : Nat) : Int32 :=
  if w = 0 then t.2.2 else if w = 1 then t.1 1 - σ 1 else s_sum (fun d => t.1 (d + 18)) nd
def s_flood (σ : Nat → Int32) : Nat → Nat → Int32
  | 0 => σ
  | n + 1 => s_leave (s_flood σ n) n
theorem s_flood_0 {σ : Nat → Int32} {k : Nat} (h : k < 6) : ∀ n, s_flood σ n k = σ k
  | 0 => rfl
  | n + 1 => (s_leave_0 h).trans (s_flood_0 h n)
/-- dates with a flood where the set says so: the state, the part, who was turned off -/
def s_ch (wv : Int32 → Int32 → Int32 → Int32 → Int32) (vs ds : Nat → Int32) (nh nd : Nat) (own : Nat → Nat) (now : Nat) (odds set : Int32) (σ : Nat → Int32) : Nat → (Nat → Int32) × Int64 × Int32
  | 0 => (σ, 1, 0)
  | n + 1 =>
    let t := s_ch wv vs ds nh nd own now odds set σ n
    let q := s_pass wv vs ds nh nd own (now + n) (if s_isBit set n = true then s_flood t.1 nd else t.1)
    (q.1, t.2.1 * (if s_isBit set n = true then odds.toInt64 else (10 - odds).toInt64), t.2.2 ||| q.2.2)
theorem s_ch_0 {wv : Int32 → Int32 → Int32 → Int32 → Int32} {vs ds : Nat → Int32} {nh nd : Nat} {own : Nat → Nat} {now : Nat} {odds set : Int32} {σ : Nat → Int32} (h : σ 0 = nI now) (n : Nat) : (s_ch wv vs ds nh nd own now odds set σ n).1 0 = nI (now + n) := by
  cases n with
  | zero => exact h
  | succ n => exact s_pass_now
def s_chs (ch : Nat → Int64 × Int32) (d : Nat) : Nat → Int64
  | 0 => 0
  | k + 1 => s_chs ch d k + (if s_isBit (ch k).2 d = true then (ch k).1 else 0)
def s_p10 : Nat → Int64
  | 0 => 1
  | n + 1 => s_p10 n * 10
theorem s_p10_n : ∀ n, n ≤ 6 → ¬ s_p10 n = 0 := by decide
theorem s_pow2 : ∀ n, n ≤ 6 → (1 : Int32) <<< (nI n &&& 31) = nI (2 ^ n) := by decide
theorem pow2_le : ∀ n, n ≤ 6 → 2 ^ n ≤ 64 := by decide
/-- the tape: a byte laid -/
def s_isT (c : Int32) : Bool := decide (c = 10) || (decide (32 ≤ c) && decide (c ≤ 126))
def s_lay1 (t : (Nat → Int32) × Nat) (c : Int32) : (Nat → Int32) × Nat := if (s_isT c && decide (t.2 < 1000)) = true then (zs1 t.1 t.2 c, t.2 + 1) else t
def s_k8 (j : Nat) : Int32 := 56 - 8 * nI j
def s_byte (v : Int64) (j : Nat) : Int32 := (v >>> ((s_k8 j).toInt64 &&& 63)).toInt32 &&& 255
def s_lay (v : Int64) (t : (Nat → Int32) × Nat) : Nat → (Nat → Int32) × Nat
  | 0 => t
  | j + 1 => s_lay1 (s_lay v t j) (s_byte v j)
theorem s_k8_p : ∀ j, j < 8 → ¬ s_k8 j < 0 := by decide
theorem s_k8_n : s_k8 8 < 0 := by decide
theorem s_k8_1 : ∀ j, j < 8 → s_k8 j + (-8) = s_k8 (j + 1) := by decide
theorem s_lay_le {v : Int64} {t : (Nat → Int32) × Nat} (h : t.2 ≤ 1000) (n : Nat) : (s_lay v t n).2 ≤ 1000 := by
  induction n with
  | zero => exact h
  | succ n ih =>
    show (s_lay1 (s_lay v t n) (s_byte v n)).2 ≤ 1000
    unfold s_lay1
    split
    · rename_i hc
      simp only [Bool.and_eq_true, decide_eq_true_eq] at hc
      exact hc.2
    · exact ih
/-- the tape and how much of it -/
def s_tp (I : Nat → Nat → Int32) (t : (Nat → Int32) × Nat) : Nat → Nat → Int32 := fun a j => if a = 1 then t.1 j else if a = 99 ∧ j = 2 then nI t.2 else I a j
theorem s_tp_1 {I : Nat → Nat → Int32} {t : (Nat → Int32) × Nat} {c : Int32} : zs (zs (s_tp I t) 1 t.2 c) 99 2 (nI (t.2 + 1)) = s_tp I (zs1 t.1 t.2 c, t.2 + 1) := by
  funext a j
  show (if a = 99 ∧ j = 2 then nI (t.2 + 1) else if a = 1 ∧ j = t.2 then c else if a = 1 then t.1 j else if a = 99 ∧ j = 2 then nI t.2 else I a j) = (if a = 1 then (if j = t.2 then c else t.1 j) else if a = 99 ∧ j = 2 then nI (t.2 + 1) else I a j)
  by_cases h1 : a = 1
  · subst h1
    by_cases h2 : j = t.2 <;> simp [h2]
  · by_cases h3 : a = 99 ∧ j = 2 <;> simp [h1, h3]
theorem s_tp_self {I : Nat → Nat → Int32} {n : Nat} (h : I 99 2 = nI n) : s_tp I (I 1, n) = I := by
  funext a j
  show (if a = 1 then I 1 j else if a = 99 ∧ j = 2 then nI n else I a j) = I a j
  by_cases h1 : a = 1
  · rw [if_pos h1, h1]
  · rw [if_neg h1]
    by_cases h3 : a = 99 ∧ j = 2
    · rw [if_pos h3, h3.1, h3.2, h]
    · rw [if_neg h3]
theorem s_tp_tp {I : Nat → Nat → Int32} {t u : (Nat → Int32) × Nat} : s_tp (s_tp I t) u = s_tp I u := by
  funext a j
  show (if a = 1 then u.1 j else if a = 99 ∧ j = 2 then nI u.2 else if a = 1 then t.1 j else if a = 99 ∧ j = 2 then nI t.2 else I a j) = (if a = 1 then u.1 j else if a = 99 ∧ j = 2 then nI u.2 else I a j)
  by_cases h1 : a = 1
  · rw [if_pos h1, if_pos h1]
  · by_cases h3 : a = 99 ∧ j = 2
    · simp [h1, h3]
    · simp [h1, h3]
theorem s_ch_t {wv : Int32 → Int32 → Int32 → Int32 → Int32} {vs ds : Nat → Int32} {nh nd : Nat} {own : Nat → Nat} {now : Nat} {odds set : Int32} {σ : Nat → Int32} {n : Nat} (h : s_isBit set n = true) : s_ch wv vs ds nh nd own now odds set σ (n + 1) = ((s_pass wv vs ds nh nd own (now + n) (s_flood (s_ch wv vs ds nh nd own now odds set σ n).1 nd)).1, (s_ch wv vs ds nh nd own now odds set σ n).2.1 * odds.toInt64, (s_ch wv vs ds nh nd own now odds set σ n).2.2 ||| (s_pass wv vs ds nh nd own (now + n) (s_flood (s_ch wv vs ds nh nd own now odds set σ n).1 nd)).2.2) := by
  simp only [s_ch, h, ↓reduceIte]
theorem s_ch_f {wv : Int32 → Int32 → Int32 → Int32 → Int32} {vs ds : Nat → Int32} {nh nd : Nat} {own : Nat → Nat} {now : Nat} {odds set : Int32} {σ : Nat → Int32} {n : Nat} (h : s_isBit set n = false) : s_ch wv vs ds nh nd own now odds set σ (n + 1) = ((s_pass wv vs ds nh nd own (now + n) (s_ch wv vs ds nh nd own now odds set σ n).1).1, (s_ch wv vs ds nh nd own now odds set σ n).2.1 * (10 - odds).toInt64, (s_ch wv vs ds nh nd own now odds set σ n).2.2 ||| (s_pass wv vs ds nh nd own (now + n) (s_ch wv vs ds nh nd own now odds set σ n).1).2.2) := by
  simp only [s_ch, h, Bool.false_eq_true, ↓reduceIte]
theorem s_age_z {f : Nat → Nat} {wv : Int32 → Int32 → Int32 → Int32 → Int32} {vs ds : Nat → Int32} {nh nd : Nat} {own : Nat → Nat} {now : Nat} {σ : Nat → Int32} {a n : Nat} (h : nd = 0) : s_age f wv vs ds nh nd own now σ a (n + 1) = s_age1 wv vs ds nh nd own (now + n) ((s_age f wv vs ds nh nd own now σ a n).1, (s_age f wv vs ds nh nd own now σ a n).2.1) (s_age f wv vs ds nh nd own now σ a n).2.2 := by
  simp only [s_age, s_deedn, h, ↓reduceIte]
theorem s_age_p {f : Nat → Nat} {wv : Int32 → Int32 → Int32 → Int32 → Int32} {vs ds : Nat → Int32} {nh nd : Nat} {own : Nat → Nat} {now : Nat} {σ : Nat → Int32} {a n : Nat} (h : 0 < nd) : s_age f wv vs ds nh nd own now σ a (n + 1) = s_age1 wv vs ds nh nd own (now + n) (s_deed f vs nh nd (s_age f wv vs ds nh nd own now σ a n).1 (s_age f wv vs ds nh nd own now σ a n).2.1) (s_age f wv vs ds nh nd own now σ a n).2.2 := by
  have h9 : ¬ nd = 0 := by omega
  simp only [s_age, s_deedn, h9, ↓reduceIte]
