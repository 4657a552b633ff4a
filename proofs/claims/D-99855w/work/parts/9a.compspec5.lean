/-! WHERE DAYS ARE BY DATES; WHO IT WAS, in plain Lean -/
set_option maxRecDepth 100000
/-- places laid: N dates of them -/
def s_lp (W : Nat → Nat → Int32) (N : Nat) (K : Nat → Nat → Int32) : Nat → Nat → Int32 := fun r q => if 200 ≤ r ∧ r < 200 + N ∧ q < 6 then W (r - 200) (q + 6) else K r q
theorem s_lp_0 {W : Nat → Nat → Int32} {K : Nat → Nat → Int32} : s_lp W 0 K = K := by
  funext r q
  exact if_neg (by omega)
theorem s_lp_a {W : Nat → Nat → Int32} {K : Nat → Nat → Int32} {N r : Nat} (hN : N ≤ 25) (h : r < 200 ∨ 225 ≤ r) : s_lp W N K r = K r := by
  funext q
  exact if_neg (by omega)
theorem s_lp_r {W : Nat → Nat → Int32} {K : Nat → Nat → Int32} {N a q : Nat} (h : a < N) (hq : q < 6) : s_lp W N K (a + 200) q = W a (q + 6) := by
  unfold s_lp
  rw [if_pos (by omega), Nat.add_sub_cancel]
theorem s_lp_1 {W : Nat → Nat → Int32} {K : Nat → Nat → Int32} {n : Nat} {σ ds τ es : Nat → Int32} {dt yr dt' yr' o : Int32} (hn : n < 25) (hw : ∀ q, q < 6 → τ (q + 6) = W n (q + 6)) : s_cpr (cput (cput (zs (s_lp W n K) 99 8 o) 300 σ ds dt yr) 310 τ es dt' yr') 312 (n + 200) 6 = cput (cput (zs (s_lp W (n + 1) K) 99 8 o) 300 σ ds dt yr) 310 τ es dt' yr' := by
  funext r q
  unfold s_cpr
  by_cases h : r = n + 200 ∧ q < 6
  · rw [if_pos h]
    have e1 : cput (cput (zs (s_lp W n K) 99 8 o) 300 σ ds dt yr) 310 τ es dt' yr' 312 q = τ (q + 6) := cput_where (s := 310) h.2
    rw [e1, cput_a (by omega), cput_a (by omega), hw q h.2]
    show _ = if r = 99 ∧ q = 8 then o else s_lp W (n + 1) K r q
    rw [if_neg (by omega), h.1, s_lp_r (by omega) h.2]
  · rw [if_neg h]
    by_cases h1 : 310 ≤ r ∧ r < 310 + 10
    · unfold cput
      rw [if_pos h1, if_pos h1]
    · by_cases h2 : 300 ≤ r ∧ r < 300 + 10
      · unfold cput
        rw [if_neg h1, if_neg h1, if_pos h2, if_pos h2]
      · unfold cput
        rw [if_neg h1, if_neg h1, if_neg h2, if_neg h2]
        show (if r = 99 ∧ q = 8 then o else s_lp W n K r q) = if r = 99 ∧ q = 8 then o else s_lp W (n + 1) K r q
        by_cases h3 : r = 99 ∧ q = 8
        · rw [if_pos h3, if_pos h3]
        · rw [if_neg h3, if_neg h3]
          unfold s_lp
          by_cases h4 : 200 ≤ r ∧ r < 200 + n ∧ q < 6
          · rw [if_pos h4, if_pos (by omega)]
          · rw [if_neg h4, if_neg (by omega)]
/-- all of the first n -/
def s_all (q : Nat → Bool) : Nat → Bool
  | 0 => true
  | n + 1 => s_all q n && q n
theorem s_all_1 {q : Nat → Bool} {n : Nat} : s_all q (n + 1) = (s_all q n && q n) := rfl
theorem s_all_i {q : Nat → Bool} : ∀ n, s_all q n = true ↔ ∀ k, k < n → q k = true
  | 0 => ⟨fun _ k hk => absurd hk (Nat.not_lt_zero k), fun _ => rfl⟩
  | n + 1 => by
    rw [s_all_1, Bool.and_eq_true, s_all_i n]
    refine ⟨fun e k hk => ?_, fun e => ⟨fun k hk => e k (by omega), e n (by omega)⟩⟩
    by_cases e9 : k = n
    · rw [e9]; exact e.2
    · exact e.1 k (by omega)
theorem s_bool {a b : Bool} (h : a = true ↔ b = true) : a = b := by
  cases a <;> cases b <;> simp_all
theorem b_not1 {n i : Nat} (hn : n < 32) (hi : i < 32) : bt (s_bit n ^^^ zm1) i = !decide (i = n) := by
  rw [b_xor, b_bit hn hi, show bt zm1 i = true from b_m1 i hi, Bool.xor_true]
theorem b_wd {go : Nat → Int32} {n i : Nat} {inn at9 x : Int32} (hi : i < 32) : ∀ d, d ≤ 6 → bt (s_wd go n inn at9 x d) i = (bt x i && !(decide (i < d) && (decide (at9 = nI n) && decide (¬ go (i + 6) = inn))))
  | 0, _ => by
    rw [decide_eq_false (Nat.not_lt_zero i), Bool.false_and, Bool.not_false, Bool.and_true]
    rfl
  | d + 1, hd => by
    show bt (s_wd go n inn at9 x d &&& (if at9 = nI n ∧ ¬ go (d + 6) = inn then s_bit d ^^^ zm1 else zm1)) i = _
    rw [b_and, b_wd hi d (by omega), Bool.and_assoc]
    congr 1
    by_cases e : i = d
    · subst e
      rw [decide_eq_false (Nat.lt_irrefl i), Bool.false_and, Bool.not_false, Bool.true_and, decide_eq_true (Nat.lt_succ_self i), Bool.true_and]
      by_cases h : at9 = nI n ∧ ¬ go (i + 6) = inn
      · rw [if_pos h, b_not1 hi hi, decide_eq_true h.1, decide_eq_true h.2]
        rw [decide_eq_true rfl]
        rfl
      · rw [if_neg h, show bt zm1 i = true from b_m1 i hi]
        by_cases h1 : at9 = nI n
        · rw [decide_eq_false (fun z => h ⟨h1, z⟩), Bool.and_false]
          rfl
        · rw [decide_eq_false h1, Bool.false_and]
          rfl
    · have e2 : bt (if at9 = nI n ∧ ¬ go (d + 6) = inn then s_bit d ^^^ zm1 else zm1) i = true := by
        split
        · rw [b_not1 (by omega) hi, decide_eq_false e]
          rfl
        · exact b_m1 i hi
      rw [e2, Bool.and_true]
      by_cases h2 : i < d
      · rw [decide_eq_true h2, decide_eq_true (show i < d + 1 by omega)]
      · rw [decide_eq_false h2, decide_eq_false (show ¬ i < d + 1 by omega)]
/-- a sight that speaks against a day -/
def s_ag (sin sat : Nat → Int32) (nd : Nat) (go : Nat → Int32) (n i : Nat) : Nat → Bool := fun j => !(decide (i < nd) && (decide (sat j = nI n) && decide (¬ go (i + 6) = sin j)))
theorem b_wk {sin sat : Nat → Int32} {nd n i : Nat} {go : Nat → Int32} {x : Int32} (hi : i < 32) (hnd : nd ≤ 6) : ∀ k, bt (s_wk sin sat nd go n x k) i = (bt x i && s_all (s_ag sin sat nd go n i) k)
  | 0 => (Bool.and_true _).symm
  | k + 1 => by
    show bt (s_wd go n (sin k) (sat k) (s_wk sin sat nd go n x k) nd) i = _
    rw [b_wd hi nd hnd, b_wk hi hnd k, Bool.and_assoc]
    rfl
theorem b_wn {sin sat : Nat → Int32} {nd sm i : Nat} {go : Nat → Nat → Int32} {x : Int32} (hi : i < 32) (hnd : nd ≤ 6) : ∀ n, bt (s_wn sin sat nd sm go x n) i = (bt x i && s_all (fun m => s_all (s_ag sin sat nd (go m) m i) sm) n)
  | 0 => (Bool.and_true _).symm
  | n + 1 => by
    show bt (s_wk sin sat nd (go n) n (s_wn sin sat nd sm go x n) sm) i = _
    rw [b_wk hi hnd sm, b_wn hi hnd n, Bool.and_assoc]
    rfl
theorem b_low : ∀ n, n ≤ 6 → ∀ i, i < 32 → bt (s_bit n - 1) i = decide (i < n) := by decide +kernel
/-- who it was, as the component finds it -/
theorem s_who_c {sin sat : Nat → Int32} {at9 : Nat → Nat} {nd sm : Nat} {go : Nat → Nat → Int32} (hnd : nd ≤ 6) (ha : ∀ k, k < sm → sat k = nI (at9 k) ∧ at9 k ≤ 24) : s_who sin sat nd sm go = s_set (fun g => s_all (fun k => decide (go (at9 k) (g + 6) = sin k)) sm) nd := by
  apply b_ext
  intro i hi
  unfold s_who
  rw [b_wn hi hnd, b_set hi nd (by omega), b_low nd hnd i hi]
  by_cases h : i < nd
  · congr 1
    refine s_bool ?_
    rw [s_all_i, s_all_i]
    refine ⟨fun e k hk => ?_, fun e n hn => ?_⟩
    · have e1 := (s_all_i sm).mp (e (at9 k) (by have := (ha k hk).2; omega)) k hk
      unfold s_ag at e1
      rw [decide_eq_true h, decide_eq_true (ha k hk).1, Bool.true_and, Bool.true_and] at e1
      refine decide_eq_true ?_
      by_cases h9 : go (at9 k) (i + 6) = sin k
      · exact h9
      · rw [decide_eq_true h9] at e1
        exact absurd e1 (by decide)
    · rw [s_all_i]
      intro k hk
      have e1 := of_decide_eq_true (e k hk)
      unfold s_ag
      by_cases h9 : sat k = nI n
      · have h8 : at9 k = n := (nI_eq (by have := (ha k hk).2; omega) (by omega)).mp ((ha k hk).1.symm.trans h9)
        rw [← h8, e1, decide_eq_false (show ¬ ¬ sin k = sin k from fun z => z rfl), Bool.and_false, Bool.and_false]
        rfl
      · rw [decide_eq_false h9, Bool.false_and, Bool.and_false]
        rfl
  · rw [decide_eq_false h, Bool.false_and, Bool.false_and]
