/-! TOKENS, in plain Lean: t the tape, n its size -/
set_option maxRecDepth 100000
def s_bl (c : Int32) : Bool := decide (c = 10) || decide (c = 32)
def s_le (c : Int32) : Bool := decide (97 ≤ c) && decide (c ≤ 122)
def s_di (c : Int32) : Bool := decide (48 ≤ c) && decide (c ≤ 57)
def s_sgn (c : Int32) : Bool := decide (c = 40) || (decide (c = 41) || (decide (c = 59) || (decide (c = 61) || (decide (c = 60) || (decide (c = 43) || (decide (c = 45) || decide (c = 42)))))))
/-- where a run ends, with so much left -/
def s_run (p : Int32 → Bool) (t : Nat → Int32) : Nat → Nat → Nat
  | 0, k => k
  | f + 1, k => if p (t k) = true then s_run p t f (k + 1) else k
def s_to (p : Int32 → Bool) (t : Nat → Int32) (n k : Nat) : Nat := s_run p t (n - k) k
theorem s_to_e {p : Int32 → Bool} {t : Nat → Int32} {n k : Nat} (h : n ≤ k) : s_to p t n k = k := by
  unfold s_to
  rw [show n - k = 0 by omega]
  rfl
theorem s_to_f {p : Int32 → Bool} {t : Nat → Int32} {n k : Nat} (h : p (t k) = false) : s_to p t n k = k := by
  unfold s_to
  cases n - k with
  | zero => rfl
  | succ f =>
    show (if p (t k) = true then s_run p t f (k + 1) else k) = k
    rw [if_neg (by rw [h]; decide)]
theorem s_to_t {p : Int32 → Bool} {t : Nat → Int32} {n k : Nat} (hk : k < n) (h : p (t k) = true) : s_to p t n k = s_to p t n (k + 1) := by
  unfold s_to
  rw [show n - k = (n - (k + 1)) + 1 by omega]
  show (if p (t k) = true then s_run p t (n - (k + 1)) (k + 1) else k) = _
  rw [if_pos h]
theorem s_run_b {p : Int32 → Bool} {t : Nat → Int32} : ∀ f k, k ≤ s_run p t f k ∧ s_run p t f k ≤ k + f
  | 0, k => ⟨Nat.le_refl _, Nat.le_refl _⟩
  | f + 1, k => by
    have h := s_run_b (p := p) (t := t) f (k + 1)
    show k ≤ (if p (t k) = true then s_run p t f (k + 1) else k) ∧ (if p (t k) = true then s_run p t f (k + 1) else k) ≤ k + (f + 1)
    split
    · omega
    · omega
theorem s_to_b {p : Int32 → Bool} {t : Nat → Int32} {n k : Nat} (h : k ≤ n) : k ≤ s_to p t n k ∧ s_to p t n k ≤ n := by
  have h9 := s_run_b (p := p) (t := t) (n - k) k
  unfold s_to
  omega
def s_end (t : Nat → Int32) (n k : Nat) : Nat := if s_le (t k) = true then s_to s_le t n k else if s_di (t k) = true then s_to s_di t n k else k + 1
theorem s_end_b {t : Nat → Int32} {n k : Nat} (h : k < n) : k < s_end t n k ∧ s_end t n k ≤ n := by
  unfold s_end
  split
  · rename_i h1
    rw [s_to_t h h1]
    have := s_to_b (p := s_le) (t := t) (n := n) (k := k + 1) h
    omega
  · split
    · rename_i h1
      rw [s_to_t h h1]
      have := s_to_b (p := s_di) (t := t) (n := n) (k := k + 1) h
      omega
    · omega
/-- where the tokens begin -/
def s_fr (t : Nat → Int32) (n : Nat) : Nat → Nat
  | 0 => s_to s_bl t n 0
  | i + 1 => s_to s_bl t n (s_end t n (s_fr t n i))
def s_kd (t : Nat → Int32) (n k : Nat) : Int32 := if k < n then (if s_le (t k) = true then (if 8 < s_end t n k - k then 4 else 1) else if s_di (t k) = true then (if 4 < s_end t n k - k then 4 else 2) else if s_sgn (t k) = true then 3 else 4) else 0
def s_rank (c : Int32) : Int32 := if s_le c = true then c - 96 else c - 21
def s_w37 (t : Nat → Int32) (k : Nat) : Nat → Int64
  | 0 => 0
  | m + 1 => if m < 8 then 37 * s_w37 t k m + (s_rank (t (k + m))).toInt64 else s_w37 t k m
def s_w10 (t : Nat → Int32) (k : Nat) : Nat → Int64
  | 0 => 0
  | m + 1 => if m < 4 then 10 * s_w10 t k m + (t (k + m)).toInt64 - 48 else s_w10 t k m
def s_vl (t : Nat → Int32) (n k : Nat) : Int64 := if s_le (t k) = true then s_w37 t k (s_end t n k - k) else if s_di (t k) = true then s_w10 t k (s_end t n k - k) else (t k).toInt64
/-- the model while it cuts: sorts S, places P -/
def s_cw (I : Nat → Nat → Int32) (n : Nat) (S P : Nat → Int32) : Nat → Nat → Int32 := fun a j => if a = 4 then S j else if a = 5 then P j else if a = 99 ∧ j = 2 then 0 else if a = 99 ∧ j = 3 then nI n else I a j
theorem s_cw_4 {I : Nat → Nat → Int32} {n i : Nat} {S P : Nat → Int32} {v : Int32} : zs (s_cw I n S P) 4 i v = s_cw I n (zs1 S i v) P := by
  funext a j
  show (if a = 4 ∧ j = i then v else if a = 4 then S j else if a = 5 then P j else if a = 99 ∧ j = 2 then 0 else if a = 99 ∧ j = 3 then nI n else I a j) = (if a = 4 then (if j = i then v else S j) else if a = 5 then P j else if a = 99 ∧ j = 2 then 0 else if a = 99 ∧ j = 3 then nI n else I a j)
  by_cases h1 : a = 4
  · by_cases h2 : j = i <;> simp [h1, h2]
  · simp [h1]
theorem s_cw_5 {I : Nat → Nat → Int32} {n i : Nat} {S P : Nat → Int32} {v : Int32} : zs (s_cw I n S P) 5 i v = s_cw I n S (zs1 P i v) := by
  funext a j
  show (if a = 5 ∧ j = i then v else if a = 4 then S j else if a = 5 then P j else if a = 99 ∧ j = 2 then 0 else if a = 99 ∧ j = 3 then nI n else I a j) = (if a = 4 then S j else if a = 5 then (if j = i then v else P j) else if a = 99 ∧ j = 2 then 0 else if a = 99 ∧ j = 3 then nI n else I a j)
  by_cases h1 : a = 5
  · by_cases h2 : j = i <;> simp [h1, h2]
  · simp [h1]
theorem s_cw_self {I : Nat → Nat → Int32} {n : Nat} : zs (zs I 99 3 (nI n)) 99 2 0 = s_cw I n (I 4) (I 5) := by
  funext a j
  show (if a = 99 ∧ j = 2 then 0 else if a = 99 ∧ j = 3 then nI n else I a j) = (if a = 4 then I 4 j else if a = 5 then I 5 j else if a = 99 ∧ j = 2 then 0 else if a = 99 ∧ j = 3 then nI n else I a j)
  by_cases h1 : a = 4
  · simp [h1]
  · by_cases h2 : a = 5
    · simp [h2]
    · simp [h1, h2]
/-- the tokens up to i lie cut -/
def s_cut (t : Nat → Int32) (n : Nat) (S P : Nat → Int32) (V : Nat → Int64) (i : Nat) : Prop := ∀ j, j < i → s_fr t n j < n ∧ S j = s_kd t n (s_fr t n j) ∧ P j = nI (s_fr t n j) ∧ V j = s_vl t n (s_fr t n j)
theorem s_cut_0 {t : Nat → Int32} {n : Nat} {S P : Nat → Int32} {V : Nat → Int64} : s_cut t n S P V 0 := fun j hj => absurd hj (Nat.not_lt_zero j)
theorem s_cut_1 {t : Nat → Int32} {n i k : Nat} {S P : Nat → Int32} {V : Nat → Int64} {x : Int32} {y : Int64} (h : s_cut t n S P V i) (hk : s_fr t n i = k) (hn : k < n) (hx : x = s_kd t n k) (hy : y = s_vl t n k) : s_cut t n (zs1 S i x) (zs1 P i (nI k)) (zs1 V i y) (i + 1) := fun j hj => by
  by_cases e : j = i
  · subst e
    rw [hk]
    exact ⟨hn, zs1_s.trans hx, zs1_s, zs1_s.trans hy⟩
  · rw [zs1_n e, zs1_n e, zs1_n e]
    exact h j (by omega)
theorem s_fr_1 {t : Nat → Int32} {n i k : Nat} (hk : s_fr t n i = k) : s_fr t n (i + 1) = s_to s_bl t n (s_end t n k) := by rw [← hk]; rfl
def s_jw (J : Nat → Nat → Int64) (V : Nat → Int64) : Nat → Nat → Int64 := fun a j => if a = 6 then V j else J a j
theorem s_jw_1 {J : Nat → Nat → Int64} {V : Nat → Int64} {i : Nat} {v : Int64} : zs (s_jw J V) 6 i v = s_jw J (zs1 V i v) := by
  funext a j
  show (if a = 6 ∧ j = i then v else if a = 6 then V j else J a j) = (if a = 6 then (if j = i then v else V j) else J a j)
  by_cases h1 : a = 6
  · by_cases h2 : j = i <;> simp [h1, h2]
  · simp [h1]
theorem s_jw_self {J : Nat → Nat → Int64} : s_jw J (J 6) = J := by
  funext a j
  show (if a = 6 then J 6 j else J a j) = J a j
  by_cases h1 : a = 6
  · rw [if_pos h1, h1]
  · rw [if_neg h1]
theorem s_cut_x {t : Nat → Int32} {n i : Nat} {S P : Nat → Int32} {V : Nat → Int64} {x y : Int32} (h : s_cut t n S P V i) : s_cut t n (zs1 S i x) (zs1 P i y) V i := fun j hj => by
  rw [zs1_n (by omega), zs1_n (by omega)]
  exact h j hj
