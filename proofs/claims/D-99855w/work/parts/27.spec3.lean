/-! QUERIES OF NOW, MOVES, in plain Lean -/
set_option maxRecDepth 100000
def s_house (vs σ : Nat → Int32) (nh nd : Nat) (h w : Int32) : Int32 :=
  if ((decide (0 ≤ h) && decide (h < nI nh)) && (decide (0 ≤ w) && decide (w ≤ 4))) = true then (if w.toNatClampNeg = 0 then σ (h.toNatClampNeg + 2) else if w.toNatClampNeg = 1 then s_free vs σ h.toNatClampNeg nd else if w.toNatClampNeg = 2 then s_in σ h nd else if w.toNatClampNeg = 3 then vs (2 * h.toNatClampNeg + 5) else s_talk σ h nd) else zm2
def s_day (vs σ : Nat → Int32) (nd : Nat) (d w : Int32) : Int32 :=
  if ((decide (0 ≤ d) && decide (d < nI nd)) && (decide (0 ≤ w) && decide (w ≤ 7))) = true then (if w.toNatClampNeg = 3 then σ (d.toNatClampNeg + 18) else if w.toNatClampNeg = 4 then σ (d.toNatClampNeg + 6) else if w.toNatClampNeg = 5 then σ (d.toNatClampNeg + 12) else if w.toNatClampNeg = 6 then σ (d.toNatClampNeg + 24) else if w.toNatClampNeg = 7 then vs (5 * d.toNatClampNeg + 16) else vs (5 * d.toNatClampNeg + w.toNatClampNeg + 12)) else zm2
/-- a day may be moved to a house -/
def s_may (vs σ : Nat → Int32) (nd d h : Nat) : Bool := (decide (0 ≤ σ (d + 6)) && decide (¬ σ (d + 6) = nI h)) && s_holds vs σ nd h d
/-- states kept move down -/
def s_shf (I : Nat → Nat → Int32) : Nat → Nat → Nat → Int32
  | 0 => I
  | n + 1 => s_copy (s_shf I n) (47 * n + 282) (47 * n + 235) 30
/-- the state is kept -/
def s_keep (I : Nat → Nat → Int32) (u : Nat) : Nat → Nat → Int32 :=
  if u = 16 then zs (s_copy (s_shf I 15) 0 940 30) 99 25 16 else zs (s_copy I 0 (47 * u + 235) 30) 99 25 (nI (u + 1))
def s_undo (I : Nat → Nat → Int32) (u : Nat) : Nat → Nat → Int32 := if u = 0 then I else zs (s_copy I (47 * (u - 1) + 235) 0 30) 99 25 (nI (u - 1))
theorem tput_eq {I : Nat → Nat → Int32} {b : Nat} {σ : Nat → Int32} (h : ∀ j, j < 30 → I 24 (b + j) = σ j) : tput I b σ = I := by
  funext a k
  unfold tput
  by_cases e : a = 24 ∧ b ≤ k ∧ k < b + 30
  · rw [if_pos e, e.1, ← h (k - b) (by omega), show b + (k - b) = k by omega]
  · rw [if_neg e]
theorem s_copy_a {I : Nat → Nat → Int32} {f t n a : Nat} (h : a ≠ 24) : s_copy I f t n a = I a := by
  funext j
  unfold s_copy
  rw [if_neg (fun h' => h h'.1)]
theorem s_copy_z {I : Nat → Nat → Int32} {f t n a j : Nat} {v : Int32} (h : a ≠ 24) : s_copy (zs I a j v) f t n = zs (s_copy I f t n) a j v := by
  funext i k
  unfold s_copy zs
  by_cases hi : i = 24
  · subst hi
    have h3 : ¬ (24 = a) := fun h' => h h'.symm
    simp [h3]
  · simp [hi]
theorem s_shf_a {I : Nat → Nat → Int32} {a : Nat} (h : a ≠ 24) : ∀ n, s_shf I n a = I a
  | 0 => rfl
  | n + 1 => (s_copy_a h).trans (s_shf_a h n)
theorem s_shf_0 {I : Nat → Nat → Int32} {j : Nat} (h : j < 235) : ∀ n, s_shf I n 24 j = I 24 j
  | 0 => rfl
  | n + 1 => (s_copy_off (Or.inl (by omega))).trans (s_shf_0 h n)
theorem s_keep_0 {I : Nat → Nat → Int32} {u j : Nat} (h : j < 235) : s_keep I u 24 j = I 24 j := by
  unfold s_keep
  split
  · exact (s_copy_off (Or.inl (by omega))).trans (s_shf_0 h 15)
  · exact s_copy_off (Or.inl (by omega))
theorem s_keep_a {I : Nat → Nat → Int32} {u a : Nat} (h : a ≠ 24) (h2 : a ≠ 99) : s_keep I u a = I a := by
  unfold s_keep
  split
  · exact (zs_a h2).trans ((s_copy_a h).trans (s_shf_a h 15))
  · exact (zs_a h2).trans (s_copy_a h)
theorem s_keep_99 {I : Nat → Nat → Int32} {u j : Nat} (h : j ≠ 25) : s_keep I u 99 j = I 99 j := by
  unfold s_keep
  split
  · exact (zs_n h).trans (congrFun ((s_copy_a (by decide)).trans (s_shf_a (by decide) 15)) j)
  · exact (zs_n h).trans (congrFun (s_copy_a (by decide)) j)
/-- the best of the first n: by q who counts, by p who beats whom -/
def s_arg (q : Nat → Bool) (p : Nat → Nat → Bool) : Nat → Int32
  | 0 => zm1
  | n + 1 => if q n = true ∧ (s_arg q p n < 0 ∨ p n (s_arg q p n).toNatClampNeg = true) then nI n else s_arg q p n
theorem s_arg_cases {q : Nat → Bool} {p : Nat → Nat → Bool} : ∀ n, s_arg q p n = zm1 ∨ ∃ k, k < n ∧ s_arg q p n = nI k
  | 0 => Or.inl rfl
  | n + 1 => by
    unfold s_arg
    split
    · exact Or.inr ⟨n, by omega, rfl⟩
    · rcases s_arg_cases (q := q) (p := p) n with h | ⟨k, hk, h⟩
      · exact Or.inl h
      · exact Or.inr ⟨k, by omega, h⟩
theorem s_arg_k {q : Nat → Bool} {p : Nat → Nat → Bool} {n : Nat} (h : ¬ s_arg q p n < 0) : ∃ k, k < n ∧ s_arg q p n = nI k := by
  rcases s_arg_cases (q := q) (p := p) n with e | e
  · rw [e] at h
    exact absurd m1neg h
  · exact e
def s_quietP (σ : Nat → Int32) : Nat → Nat → Bool := fun n b => decide (σ (n + 18) < σ (b + 18))
def s_oldP (σ : Nat → Int32) : Nat → Nat → Bool := fun n b => decide (σ (b + 12) < σ (n + 12))
def s_inP (σ : Nat → Int32) (h : Int32) : Nat → Bool := fun n => decide (σ (n + 6) = h)
/-- the loudest of the first n houses, and how loud -/
def s_loud (t : Nat → Int32) : Nat → Int32 × Int32
  | 0 => (zm1, 0)
  | n + 1 => if (s_loud t n).2 < t n then (nI n, t n) else s_loud t n
def s_pairs (σ : Nat → Int32) (nd : Nat) : Nat → Int32
  | 0 => 0
  | n + 1 => s_pairs σ nd n + s_bits (s_in σ (nI n) nd) 30 * (s_bits (s_in σ (nI n) nd) 30 - 1) / 2
/-- houses a bed may be lent by, in a step -/
def s_lent (vs : Nat → Int32) (x : Int32) : Nat → Int32
  | 0 => x
  | n + 1 => s_lent vs x n ||| (if s_isBit x n = true then vs (2 * n + 5) else 0)
def s_thr (vs : Nat → Int32) (nh : Nat) (x : Int32) : Nat → Int32
  | 0 => x
  | n + 1 => s_lent vs (s_thr vs nh x n) nh
theorem s_arg_1 {q : Nat → Bool} {p : Nat → Nat → Bool} {n : Nat} : s_arg q p (n + 1) = if q n = true ∧ (s_arg q p n < 0 ∨ p n (s_arg q p n).toNatClampNeg = true) then nI n else s_arg q p n := rfl
def s_mark (I : Nat → Nat → Int32) (mk : Nat → Bool) (m : Int32) (bk : Bool) : (Nat → Nat → Int32) × Bool :=
  if (decide (0 ≤ m) && decide (m ≤ 3)) = true then (if bk = true then (if mk m.toNatClampNeg = true then (zs (zs (zs (s_copy I (47 * m.toNatClampNeg + 47) 0 47) 99 0 0) 26 m.toNatClampNeg 1) 99 25 0, true) else (zs I 99 0 0, false)) else (zs (zs (zs (s_copy I 0 (47 * m.toNatClampNeg + 47) 47) 99 0 0) 26 m.toNatClampNeg 1) 99 25 (I 99 25), true)) else (zs I 99 0 0, false)
def s_through (vs : Nat → Int32) (nh : Nat) (h o : Int32) : Int32 :=
  if (decide (0 ≤ o) && decide (o < nI nh)) = true then s_fst (fun n => s_isBit (s_thr vs nh (if (decide (0 ≤ h) && decide (h < nI nh)) = true then (1 : Int32) <<< (h &&& 31) else 0) n) o.toNatClampNeg) nI 4 0 else zm1
def s_sum (f : Nat → Int32) : Nat → Int32
  | 0 => 0
  | n + 1 => s_sum f n + f n
def s_set (p : Nat → Bool) : Nat → Int32
  | 0 => 0
  | n + 1 => s_set p n ||| (if p n = true then s_bit n else 0)
def s_see (I : Nat → Nat → Int32) (nh sm : Nat) (h m : Int32) : (Nat → Nat → Int32) × Bool :=
  if (((decide (h = zm1) || (decide (0 ≤ h) && decide (h < nI nh))) && (decide (0 ≤ m) && decide (m ≤ 24))) && decide (¬ sm = 8)) = true then (zs (zs (zs I 24 (2 * sm + 31) h) 24 (2 * sm + 32) m) 24 30 (nI (sm + 1)), true) else (I, false)
def s_count (I : Nat → Nat → Int32) (nh nd now : Nat) (w : Int32) : Int32 :=
  if w = 0 then I 10 0 else if w = 1 then I 10 1 else if w = 2 then I 10 2 else if w = 3 then nI (now / 12) else if w = 4 then nI (now % 12) else if w = 5 then s_some (I 24) nd else if w = 6 then s_sum (fun h => I 24 (h + 2)) nh else if w = 7 then I 24 1 else if w = 8 then s_set (fun d => decide (I 24 (d + 18) = 0)) nd else if w = 9 then I 21 0 else if w = 10 then I 24 30 else if w = 11 then I 99 25 else if w = 12 then I 99 2 else zm1
def s_move (I : Nat → Nat → Int32) (nh nd u : Nat) (d h : Int32) : (Nat → Nat → Int32) × Bool :=
  if ((decide (0 ≤ d) && decide (d < nI nd)) && (decide (0 ≤ h) && decide (h < nI nh))) = true then (if s_may (I 10) (I 24) nd d.toNatClampNeg h.toNatClampNeg = true then (tput (s_keep (zs I 99 0 0) u) 0 (zs1 (I 24) (d.toNatClampNeg + 6) h), true) else (zs I 99 0 0, false)) else (zs I 99 0 0, false)
def s_send (I : Nat → Nat → Int32) (nd u : Nat) (d : Int32) : (Nat → Nat → Int32) × Bool :=
  if (decide (0 ≤ d) && decide (d < nI nd)) = true then (if I 24 (d.toNatClampNeg + 6) < 0 then (zs I 99 0 0, false) else (tput (s_keep (zs I 99 0 0) u) 0 (s_leave (I 24) d.toNatClampNeg), true)) else (zs I 99 0 0, false)
def s_build (I : Nat → Nat → Int32) (nh u : Nat) (h : Int32) : (Nat → Nat → Int32) × Int32 :=
  if (decide (0 ≤ h) && decide (h < nI nh)) = true then (if I 24 (h.toNatClampNeg + 2) = 9 then (zs I 99 0 0, zm1) else (tput (s_keep (zs I 99 0 0) u) 0 (zs1 (I 24) (h.toNatClampNeg + 2) (I 24 (h.toNatClampNeg + 2) + 1)), I 24 (h.toNatClampNeg + 2) + 1)) else (zs I 99 0 0, zm1)
