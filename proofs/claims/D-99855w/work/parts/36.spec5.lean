/-! WHICH ONE IT IS; LAYINGS; BEDS TO BE BUILT, in plain Lean -/
set_option maxRecDepth 100000
/-- who is not against a sight: in the house inn on the n-th date, said for the at-th -/
def s_wd (go : Nat → Int32) (n : Nat) (inn at9 x : Int32) : Nat → Int32
  | 0 => x
  | d + 1 => s_wd go n inn at9 x d &&& (if at9 = nI n ∧ ¬ go (d + 6) = inn then s_bit d ^^^ zm1 else zm1)
def s_wk (sin sat : Nat → Int32) (nd : Nat) (go : Nat → Int32) (n : Nat) (x : Int32) : Nat → Int32
  | 0 => x
  | k + 1 => s_wd go n (sin k) (sat k) (s_wk sin sat nd go n x k) nd
def s_wn (sin sat : Nat → Int32) (nd sm : Nat) (go : Nat → Nat → Int32) (x : Int32) : Nat → Int32
  | 0 => x
  | n + 1 => s_wk sin sat nd (go n) n (s_wn sin sat nd sm go x n) sm
def s_who (sin sat : Nat → Int32) (nd sm : Nat) (go : Nat → Nat → Int32) : Int32 := s_wn sin sat nd sm go (s_bit nd - 1) 25
def s_mx (f : Int32 → Int32) : Nat → Int32
  | 0 => if 0 < f zm1 then f zm1 else 0
  | h + 1 => if s_mx f h < f (nI h) then f (nI h) else s_mx f h
def s_lk (mo : Nat → Int32) (l0 : Int32) : Nat → Int32 × Int32
  | 0 => (zm1, l0)
  | n + 1 => if mo n < (s_lk mo l0 n).2 then (nI n, mo n) else s_lk mo l0 n
def s_lookf (σ : Nat → Int32) (nd : Nat) (x : Int32) : Int32 → Int32 := fun h => s_bits (s_in σ h nd &&& x) 30
theorem zm1_lt {n : Nat} (h : n < 2 ^ 31) : ¬ nI n ≤ zm1 := fun h9 => nI_lt0 h (Int32.lt_of_le_of_lt h9 m1neg)
