/-! BEDS TO BE BUILT; CHANCES; AGES, in plain Lean -/
set_option maxRecDepth 100000
def s_dv (k : Nat) : Nat → Nat
  | 0 => k
  | n + 1 => s_dv k n / 3
theorem s_dv_le (k : Nat) : ∀ n, s_dv k n ≤ k
  | 0 => Nat.le_refl _
  | n + 1 => Nat.le_trans (Nat.div_le_self _ _) (s_dv_le k n)
/-- beds built in house h by the k-th plan -/
def s_bi (nh k h : Nat) : Nat := s_dv k (nh - 1 - h) % 3
def s_bst (nh k : Nat) (σ : Nat → Int32) : Nat → Nat → Int32
  | 0 => σ
  | i + 1 => zs1 (s_bst nh k σ i) (i + 2) (s_bst nh k σ i (i + 2) + nI (s_bi nh k i))
def s_bmay (nh k : Nat) (σ : Nat → Int32) : Nat → Bool
  | 0 => true
  | i + 1 => s_bmay nh k σ i && decide (s_bst nh k σ i (i + 2) + nI (s_bi nh k i) ≤ 9)
def s_bsum (nh k : Nat) : Nat → Int32 := s_sum (fun i => nI (s_bi nh k i))
theorem s_bst_0 {nh k : Nat} {σ : Nat → Int32} : ∀ n, s_bst nh k σ n 0 = σ 0
  | 0 => rfl
  | n + 1 => (zs1_n (by omega)).trans (s_bst_0 n)
def s_bd (nh : Nat) (σ : Nat → Int32) (calm : (Nat → Int32) → Bool) : Nat → Int32 × Int32
  | 0 => (zm1, 0)
  | k + 1 => if ((s_bmay nh k σ nh && (decide ((s_bd nh σ calm k).1 < 0) || decide (s_bsum nh k nh < (s_bd nh σ calm k).2))) && calm (s_bst nh k σ nh)) = true then (nI k, s_bsum nh k nh) else s_bd nh σ calm k
theorem s_bd_k {nh : Nat} {σ : Nat → Int32} {calm : (Nat → Int32) → Bool} : ∀ n, (s_bd nh σ calm n).1 = zm1 ∨ ∃ k, k < n ∧ (s_bd nh σ calm n).1 = nI k
  | 0 => Or.inl rfl
  | n + 1 => by
    unfold s_bd
    split
    · exact Or.inr ⟨n, by omega, rfl⟩
    · rcases s_bd_k (nh := nh) (σ := σ) (calm := calm) n with h | ⟨k, hk, h⟩
      · exact Or.inl h
      · exact Or.inr ⟨k, by omega, h⟩
theorem s_bd_n {nh n : Nat} {σ : Nat → Int32} {calm : (Nat → Int32) → Bool} (h : ¬ (s_bd nh σ calm n).1 < 0) : ∃ k, k < n ∧ (s_bd nh σ calm n).1 = nI k := by
  rcases s_bd_k (nh := nh) (σ := σ) (calm := calm) n with e | e
  · rw [e] at h
    exact absurd m1neg h
  · exact e
theorem pow3_le : ∀ n, n ≤ 4 → 3 ^ n ≤ 81 := by decide
def s_beds (nh : Nat) (σ : Nat → Int32) (calm : Nat → (Nat → Int32) → Bool) (m h : Int32) : Int32 :=
  if ((decide (1 ≤ m) && decide (m ≤ 36)) && (decide (h = zm1) || (decide (0 ≤ h) && decide (h < nI nh)))) = true then (if (s_bd nh σ (calm m.toNatClampNeg) (3 ^ nh)).1 < 0 then zm2 else if h = zm1 then (s_bd nh σ (calm m.toNatClampNeg) (3 ^ nh)).2 else nI (s_bi nh (s_bd nh σ (calm m.toNatClampNeg) (3 ^ nh)).1.toNatClampNeg h.toNatClampNeg)) else zm2
/-- the draw's next number -/
def s_lcg (a : Nat) : Nat := (a * 1103515245 + 12345) % 2147483648
theorem s_lcg_lt (a : Nat) : s_lcg a < 2147483648 := Nat.mod_lt _ (by decide)
theorem s_lcg_eq {a : Nat} (h : a < 2147483648) : lN a * 1103515245 + 12345 - (lN a * 1103515245 + 12345) / 2147483648 * 2147483648 = lN (s_lcg a) := by
  rw [show (1103515245 : Int64) = lN 1103515245 from rfl, show (12345 : Int64) = lN 12345 from rfl, show (2147483648 : Int64) = lN 2147483648 from rfl, lN_mul, lN_add]
  exact pk_lRem (by omega) (by decide) (by decide)
theorem s_lcg_d {a m : Nat} (h : a < 2147483648) (h0 : 0 < m) (hm : m < 2 ^ 31) : (lN a / 65536 - lN a / 65536 / (nI m).toInt64 * (nI m).toInt64).toInt32 = nI (a / 65536 % m) := by
  rw [nI_l hm, show (65536 : Int64) = lN 65536 from rfl, pk_lDiv (by omega) (by decide) (by decide), pk_lRem (by omega) h0 (by omega), lN_i]
/-- what befalls: what, whom, where; the draw after each -/
def s_deed1 (vs : Nat → Int32) (nd : Nat) (σ : Nat → Int32) (x d h a1 a2 a3 : Nat) : (Nat → Int32) × Nat :=
  if x = 0 then (if 0 ≤ σ (d + 6) then s_leave σ d else σ, a2) else if x = 1 then (if s_may vs σ nd d h = true then zs1 σ (d + 6) (nI h) else σ, a3) else (σ, a1)
def s_deed (f : Nat → Nat) (vs : Nat → Int32) (nh nd : Nat) (σ : Nat → Int32) (a : Nat) : (Nat → Int32) × Nat :=
  s_deed1 vs nd σ (f a / 65536 % 6) (f (f a) / 65536 % nd) (f (f (f a)) / 65536 % nh) (f a) (f (f a)) (f (f (f a)))
theorem s_deed1_0 {vs : Nat → Int32} {nd : Nat} {σ : Nat → Int32} {x d h a1 a2 a3 k : Nat} (hk : k < 6) : (s_deed1 vs nd σ x d h a1 a2 a3).1 k = σ k := by
  have e1 : (if 0 ≤ σ (d + 6) then s_leave σ d else σ) k = σ k := by
    split
    · exact s_leave_0 hk
    · rfl
  have e2 : (if s_may vs σ nd d h = true then zs1 σ (d + 6) (nI h) else σ) k = σ k := by
    split
    · exact zs1_n (by omega)
    · rfl
  unfold s_deed1
  split
  · exact e1
  · split
    · exact e2
    · rfl
theorem s_deed1_lt {vs : Nat → Int32} {nd : Nat} {σ : Nat → Int32} {x d h a1 a2 a3 m : Nat} (h1 : a1 < m) (h2 : a2 < m) (h3 : a3 < m) : (s_deed1 vs nd σ x d h a1 a2 a3).2 < m := by
  unfold s_deed1
  split
  · exact h2
  · split
    · exact h3
    · exact h1
theorem s_deed_0 {f : Nat → Nat} {vs : Nat → Int32} {nh nd : Nat} {σ : Nat → Int32} {a k : Nat} (hk : k < 6) : (s_deed f vs nh nd σ a).1 k = σ k := by
  unfold s_deed
  exact s_deed1_0 hk
theorem s_deed_lt {f : Nat → Nat} {vs : Nat → Int32} {nh nd : Nat} {σ : Nat → Int32} {a : Nat} (hf : ∀ x, f x < 2147483648) : (s_deed f vs nh nd σ a).2 < 2147483648 := by
  unfold s_deed
  exact s_deed1_lt (hf _) (hf _) (hf _)
/-- a date of ages: what befalls, then the date -/
def s_age1 (wv : Int32 → Int32 → Int32 → Int32 → Int32) (vs ds : Nat → Int32) (nh nd : Nat) (own : Nat → Nat) (now : Nat) (q : (Nat → Int32) × Nat) (c : Int32) : (Nat → Int32) × Nat × Int32 :=
  ((s_pass wv vs ds nh nd own now q.1).1, q.2, c + s_bits (s_pass wv vs ds nh nd own now q.1).2.1 30)
def s_deedn (f : Nat → Nat) (vs : Nat → Int32) (nh nd : Nat) (σ : Nat → Int32) (a : Nat) : (Nat → Int32) × Nat := if nd = 0 then (σ, a) else s_deed f vs nh nd σ a
def s_age (f : Nat → Nat) (wv : Int32 → Int32 → Int32 → Int32 → Int32) (vs ds : Nat → Int32) (nh nd : Nat) (own : Nat → Nat) (now : Nat) (σ : Nat → Int32) (a : Nat) : Nat → (Nat → Int32) × Nat × Int32
  | 0 => (σ, a, 0)
  | n + 1 => s_age1 wv vs ds nh nd own (now + n) (s_deedn f vs nh nd (s_age f wv vs ds nh nd own now σ a n).1 (s_age f wv vs ds nh nd own now σ a n).2.1) (s_age f wv vs ds nh nd own now σ a n).2.2
theorem s_deedn_0 {f : Nat → Nat} {vs : Nat → Int32} {nh nd : Nat} {σ : Nat → Int32} {a k : Nat} (hk : k < 6) : (s_deedn f vs nh nd σ a).1 k = σ k := by
  unfold s_deedn
  split
  · rfl
  · exact s_deed_0 hk
theorem s_deedn_lt {f : Nat → Nat} {vs : Nat → Int32} {nh nd : Nat} {σ : Nat → Int32} {a : Nat} (hf : ∀ x, f x < 2147483648) (h : a < 2147483648) : (s_deedn f vs nh nd σ a).2 < 2147483648 := by
  unfold s_deedn
  split
  · exact h
  · exact s_deed_lt hf
theorem s_age_lt {f : Nat → Nat} {wv : Int32 → Int32 → Int32 → Int32 → Int32} {vs ds : Nat → Int32} {nh nd : Nat} {own : Nat → Nat} {now : Nat} {σ : Nat → Int32} {a : Nat} (hf : ∀ x, f x < 2147483648) (h : a < 2147483648) (n : Nat) : (s_age f wv vs ds nh nd own now σ a n).2.1 < 2147483648 := by
  induction n with
  | zero => exact h
  | succ n ih => exact s_deedn_lt hf ih
theorem s_age_0 {f : Nat → Nat} {wv : Int32 → Int32 → Int32 → Int32 → Int32} {vs ds : Nat → Int32} {nh nd : Nat} {own : Nat → Nat} {now : Nat} {σ : Nat → Int32} {a : Nat} (h : σ 0 = nI now) (n : Nat) : (s_age f wv vs ds nh nd own now σ a n).1 0 = nI (now + n) := by
  cases n with
  | zero => exact h
  | succ n => exact s_pass_now
