/-! WHAT THE LIBRARY'S METHODS COMPUTE, in plain Lean -/
set_option maxRecDepth 100000
theorem s_shr_0 (x : Int32) : x >>> (0 &&& 31) = x := by
  apply b_ext
  intro i hi
  rw [show (0 : Int32) &&& 31 = nI 0 &&& 31 from rfl, b_sshr 0 (by decide) x hi]
  rw [if_pos (by omega), Nat.zero_add]
theorem s_chr : ∀ c, c < 128 → nI c &&& 255 = nI c ∧ ((nI c).toUInt32 % 65536).toInt32 = nI c ∧ (nI c).toInt8.toInt32 = nI c := by decide +kernel
/-- where a byte first stands from a place on -/
def s_ix (f : Nat → Int32) (c : Int32) (n fr : Nat) : Int32 := s_fst (fun k => decide (f k = c)) nI (n - fr) fr
/-- the same bytes -/
def s_eqb (f h : Nat → Int32) : Nat → Bool
  | 0 => true
  | n + 1 => s_eqb f h n && decide (f n = h n)
theorem s_eqb_i {f h : Nat → Int32} : ∀ n, s_eqb f h n = true ↔ ∀ k, k < n → f k = h k
  | 0 => ⟨fun _ k hk => absurd hk (Nat.not_lt_zero k), fun _ => rfl⟩
  | n + 1 => by
    unfold s_eqb
    rw [Bool.and_eq_true, s_eqb_i n, decide_eq_true_eq]
    refine ⟨fun e k hk => ?_, fun e => ⟨fun k hk => e k (by omega), e n (by omega)⟩⟩
    by_cases e9 : k = n
    · rw [e9]; exact e.2
    · exact e.1 k (by omega)
def s_bc1 (x : Int32) : Int32 := x - ((x.toUInt32 >>> ((1 : Int32).toUInt32 &&& Int32.toUInt32 31)).toInt32 &&& 1431655765)
def s_bc2 (x : Int32) : Int32 := (x &&& 858993459) + ((x.toUInt32 >>> ((2 : Int32).toUInt32 &&& Int32.toUInt32 31)).toInt32 &&& 858993459)
def s_bc3 (x : Int32) : Int32 := (x + (x.toUInt32 >>> ((4 : Int32).toUInt32 &&& Int32.toUInt32 31)).toInt32) &&& 252645135
def s_bc4 (x : Int32) : Int32 := x + (x.toUInt32 >>> ((8 : Int32).toUInt32 &&& Int32.toUInt32 31)).toInt32
def s_bc5 (x : Int32) : Int32 := x + (x.toUInt32 >>> ((16 : Int32).toUInt32 &&& Int32.toUInt32 31)).toInt32
theorem s_bc : ∀ m, m < 64 → s_bc5 (s_bc4 (s_bc3 (s_bc2 (s_bc1 (nI m))))) &&& 63 = s_bits (nI m) 30 := by decide +kernel
theorem s_or_bit : ∀ n, n < 6 → ∀ m, m < 2 ^ n → nI m ||| s_bit n = nI (m + 2 ^ n) := by decide +kernel
theorem s_in_64 {σ : Nat → Int32} {h : Int32} : ∀ n, n ≤ 6 → ∃ m, m < 2 ^ n ∧ s_in σ h n = nI m
  | 0, _ => ⟨0, by decide, rfl⟩
  | n + 1, hn => by
    obtain ⟨m, hm, e⟩ := s_in_64 (σ := σ) (h := h) n (by omega)
    have hp : 2 ^ (n + 1) = 2 ^ n + 2 ^ n := by rw [Nat.pow_succ]; omega
    unfold s_in
    rw [e]
    split
    · exact ⟨m + 2 ^ n, by omega, s_or_bit n (by omega) m hm⟩
    · exact ⟨m, by omega, by rw [Int32.or_zero]⟩
theorem s_some_64 {σ : Nat → Int32} : ∀ n, n ≤ 6 → ∃ m, m < 2 ^ n ∧ s_some σ n = nI m
  | 0, _ => ⟨0, by decide, rfl⟩
  | n + 1, hn => by
    obtain ⟨m, hm, e⟩ := s_some_64 (σ := σ) n (by omega)
    have hp : 2 ^ (n + 1) = 2 ^ n + 2 ^ n := by rw [Nat.pow_succ]; omega
    unfold s_some
    rw [e]
    split
    · exact ⟨m + 2 ^ n, by omega, s_or_bit n (by omega) m hm⟩
    · exact ⟨m, by omega, by rw [Int32.or_zero]⟩
