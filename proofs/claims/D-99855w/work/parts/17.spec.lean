/-! WHAT IS COMPUTED, in plain Lean: by the model's own layout. vs: what is told (houses 0, days 1, stays 2, law 3, houses 4 .., days 12 ..); σ: a state (dates 0, turned off 1, beds 2, in 6, long 12, says 18, times 24) -/
set_option maxRecDepth 100000
def zm1 : Int32 := -1
def zm2 : Int32 := -2
def zm9 : Int32 := -9
def s_bit (n : Nat) : Int32 := (1 : Int32) <<< (nI n &&& 31)
def s_wid (vs : Nat → Int32) (d : Nat) : Int32 := if vs (5 * d + 12) = 1 then 2 else 1
def s_in (σ : Nat → Int32) (h : Int32) : Nat → Int32
  | 0 => 0
  | n + 1 => s_in σ h n ||| (if σ (n + 6) = h then s_bit n else 0)
def s_free (vs σ : Nat → Int32) (h : Nat) : Nat → Int32
  | 0 => σ (h + 2)
  | n + 1 => s_free vs σ h n - (if σ (n + 6) = nI h then s_wid vs n else 0)
def s_holds (vs σ : Nat → Int32) (nd h d : Nat) : Bool := decide (s_wid vs d ≤ s_free vs σ h nd) && decide (s_in σ (nI h) nd &&& vs (5 * d + 16) = 0)
def s_some (σ : Nat → Int32) : Nat → Int32
  | 0 => 0
  | n + 1 => s_some σ n ||| (if 0 ≤ σ (n + 6) then s_bit n else 0)
def s_talk (σ : Nat → Int32) (h : Int32) : Nat → Int32
  | 0 => 0
  | n + 1 => s_talk σ h n + (if σ (n + 6) = h then σ (n + 18) else 0)
def s_bits (x : Int32) : Nat → Int32
  | 0 => 0
  | n + 1 => s_bits x n + ((x >>> (nI n &&& 31)) &&& 1)
def s_isBit (x : Int32) (n : Nat) : Bool := decide ((x >>> (nI n &&& 31)) &&& 1 = 1)
/-- the first house from n on, among m, that takes a day in -/
def s_first (vs σ : Nat → Int32) (nd own d : Nat) : Nat → Nat → Int32
  | 0, _ => zm1
  | m + 1, n => if (s_isBit (vs (2 * own + 5)) n && s_holds vs σ nd n d) = true then nI n else s_first vs σ nd own d m (n + 1)
def s_bed (vs σ : Nat → Int32) (nh nd own d : Nat) : Int32 := if s_holds vs σ nd own d = true then nI own else s_first vs σ nd own d nh 0
theorem s_bedE {vs σ : Nat → Int32} {nd own d m n : Nat} : s_first vs σ nd own d (m + 1) n = if (s_isBit (vs (2 * own + 5)) n && s_holds vs σ nd n d) = true then nI n else s_first vs σ nd own d m (n + 1) := rfl
def s_leave (σ : Nat → Int32) (d : Nat) : Nat → Int32 := zs1 (zs1 σ (d + 6) zm1) (d + 12) 0
/-- a copy of n entries of the state array -/
def s_copy (I : Nat → Nat → Int32) (f t n : Nat) : Nat → Nat → Int32 := fun a j => if a = 24 ∧ t ≤ j ∧ j < t + n then I 24 (f + (j - t)) else I a j
theorem s_copy_0 {I : Nat → Nat → Int32} {f t : Nat} : s_copy I f t 0 = I := by
  funext a j
  unfold s_copy
  rw [if_neg (by omega)]
theorem s_copy_off {I : Nat → Nat → Int32} {f t n j : Nat} (h : j < t ∨ t + n ≤ j) : s_copy I f t n 24 j = I 24 j := by
  unfold s_copy
  rw [if_neg (by omega)]
theorem s_copy_1 {I : Nat → Nat → Int32} {f t n : Nat} : zs (s_copy I f t n) 24 (t + n) (I 24 (f + n)) = s_copy I f t (n + 1) := by
  funext a j
  unfold s_copy zs
  by_cases ha : a = 24
  · subst ha
    by_cases hj : j = t + n
    · subst hj
      simp
    · by_cases h2 : t ≤ j ∧ j < t + n
      · have : t ≤ j ∧ j < t + (n + 1) := by omega
        simp [hj, h2, this]
      · have : ¬ (t ≤ j ∧ j < t + (n + 1)) := by omega
        simp [hj, h2, this]
  · simp [ha]
theorem s_copy_try {I : Nat → Nat → Int32} {b : Nat} {τ : Nat → Int32} (hb : 30 ≤ b) : s_copy (tput I b τ) 0 b 30 = tput I b (I 24) := by
  funext a j
  unfold s_copy tput
  by_cases ha : a = 24
  · subst ha
    by_cases h1 : b ≤ j ∧ j < b + 30
    · have h4 : ¬ b ≤ 0 + (j - b) := by omega
      have h5 : 0 + (j - b) = j - b := by omega
      rw [if_pos ⟨rfl, h1⟩, if_neg (fun h => h4 h.2.1), if_pos ⟨rfl, h1⟩, h5]
    · rw [if_neg (fun h => h1 h.2), if_neg (fun h => h1 h.2), if_neg (fun h => h1 h.2)]
  · rw [if_neg (fun h => ha h.1), if_neg (fun h => ha h.1), if_neg (fun h => ha h.1)]
/-- one of a formula's steps: plus minus times less same and or -/
def s_both (c : Nat) (a b : Int32) : Int32 := if c = 4 then a + b else if c = 5 then a - b else if c = 6 then a * b else if c = 7 then (if a < b then 1 else 0) else if c = 8 then (if a = b then 1 else 0) else if c = 9 then (if a ≠ 0 ∧ b ≠ 0 then 1 else 0) else (if a ≠ 0 ∨ b ≠ 0 then 1 else 0)
def s_step (fa : Nat → Int32) (c : Nat × Int32) (st : List Int32) : List Int32 :=
  if c.1 = 1 then c.2 :: st else if c.1 = 2 then fa c.2.toNatClampNeg :: st else if c.1 = 3 then (match st with | [] => [] | x :: r => (if x = 0 then 1 else 0) :: r) else (match st with | x :: y :: r => s_both c.1 y x :: r | _ => [])
def s_ev (fa : Nat → Int32) : List (Nat × Int32) → List Int32 → Int32
  | [], st => st.headD 0
  | c :: r, st => s_ev fa r (s_step fa c st)
def s_wf : List (Nat × Int32) → Nat → Prop
  | [], d => d = 1
  | c :: r, d => (c.1 = 1 ∧ s_wf r (d + 1)) ∨ (c.1 = 2 ∧ (∃ k, k < 4 ∧ c.2 = nI k) ∧ s_wf r (d + 1)) ∨ (c.1 = 3 ∧ 1 ≤ d ∧ s_wf r d) ∨ (4 ≤ c.1 ∧ c.1 ≤ 10 ∧ 2 ≤ d ∧ s_wf r (d - 1))
def s_code (op ar : Nat → Int32) : Nat → List (Nat × Int32) → Prop
  | i, [] => op i = 0
  | i, c :: r => op i = nI c.1 ∧ ar i = c.2 ∧ s_code op ar (i + 1) r
def s_pile (p : Nat → Int32) : List Int32 → Prop
  | [] => True
  | x :: r => p r.length = x ∧ s_pile p r
theorem s_pile_up {p : Nat → Int32} {k : Nat} {v : Int32} : ∀ {st : List Int32}, s_pile p st → st.length ≤ k → s_pile (zs1 p k v) st
  | [], _, _ => trivial
  | x :: r, h, hk => ⟨(zs1_n (by have : r.length + 1 ≤ k := hk; omega)).trans h.1, s_pile_up h.2 (by have : r.length + 1 ≤ k := hk; omega)⟩
theorem s_pile_push {Gb : Nat → Nat → Int32} {st : List Int32} {v : Int32} (h : s_pile (Gb 23) st) : s_pile (zs Gb 23 st.length v 23) (v :: st) := by
  rw [zs_r]
  exact ⟨zs1_s, s_pile_up h (Nat.le_refl _)⟩
def s_date (vs ds : Nat → Int32) (now d : Nat) : Bool := if vs (5 * d + 12) = 2 then decide (nI ((now % 12 + 1) % 12) = ds d) else decide (nI (now % 12) = ds d) && (decide (¬ vs (5 * d + 12) = 3) || decide (now / 12 % 4 = 0))
/-! a day that comes; a date -/
def s_facts (a b c d : Int32) : Nat → Int32 := fun k => if k = 0 then a else if k = 1 then b else if k = 2 then c else d
theorem s_ev_congr {fa fb : Nat → Int32} (h : ∀ k, k < 4 → fa k = fb k) : ∀ (c0 : List (Nat × Int32)) (st : List Int32), s_wf c0 st.length → s_ev fa c0 st = s_ev fb c0 st
  | [], _, _ => rfl
  | (c, a) :: r, st, hw => by
    have e : s_step fa (c, a) st = s_step fb (c, a) st := by
      unfold s_step
      by_cases h1 : c = 1
      · simp [h1]
      · by_cases h2 : c = 2
        · rcases hw with ⟨e, -⟩ | ⟨-, ⟨k, hk, ek⟩, -⟩ | ⟨e, -⟩ | ⟨e, -⟩
          · exact absurd e h1
          · have ek : a = nI k := ek
            simp only [h1, h2]
            rw [ek, nI_clamp (by omega), h k hk]
          · have e : c = 3 := e
            omega
          · have e : 4 ≤ c := e
            omega
        · simp [h1, h2]
    show s_ev fa r (s_step fa (c, a) st) = s_ev fb r (s_step fb (c, a) st)
    rw [e]
    refine s_ev_congr h r _ ?_
    rcases hw with ⟨e, hw⟩ | ⟨e, -, hw⟩ | ⟨e, hd, hw⟩ | ⟨h4, h10, hd, hw⟩
    · have e : c = 1 := e
      subst e
      exact hw
    · have e : c = 2 := e
      subst e
      exact hw
    · have e : c = 3 := e
      subst e
      cases st with
      | nil => exact absurd hd (by show ¬ 1 ≤ 0; decide)
      | cons x r => exact hw
    · have h4 : 4 ≤ c := h4
      cases st with
      | nil => exact absurd hd (by show ¬ 2 ≤ 0; decide)
      | cons x r =>
        cases r with
        | nil => exact absurd hd (by show ¬ 2 ≤ 1; decide)
        | cons y r =>
          unfold s_step
          rw [if_neg (by show ¬ c = 1; omega), if_neg (by show ¬ c = 2; omega), if_neg (by show ¬ c = 3; omega)]
          exact hw
/-- what is told holds together -/
def s_ok (vs : Nat → Int32) (nh nd : Nat) (own : Nat → Nat) : Prop := vs 0 = nI nh ∧ nh ≤ 4 ∧ vs 1 = nI nd ∧ nd ≤ 6 ∧ ∀ d, d < nd → vs (5 * d + 13) = nI (own d) ∧ own d < nh
/-- the law of fading is the function wv of four facts -/
def s_law (vs op ar : Nat → Int32) (wv : Int32 → Int32 → Int32 → Int32 → Int32) : Prop := (vs 3 = zm1 ∧ ∀ a b c d, wv a b c d = zm1) ∨ ∃ (f : Nat) (c0 : List (Nat × Int32)), vs 3 = nI f ∧ s_code op ar f c0 ∧ s_wf c0 0 ∧ f + c0.length < 1100 ∧ ∀ a b c d, wv a b c d = s_ev (s_facts a b c d) c0 []
def s_c9 (v : Int32) : Int32 := if v < zm9 then zm9 else if 9 < v then 9 else v
def s_c99 (v : Int32) : Int32 := if v < 0 then 0 else if 99 < v then 99 else v
theorem s_first_cases {vs σ : Nat → Int32} {nd own d : Nat} : ∀ m n, s_first vs σ nd own d m n = zm1 ∨ ∃ k, k < n + m ∧ s_first vs σ nd own d m n = nI k
  | 0, _ => Or.inl rfl
  | m + 1, n => by
    unfold s_first
    split
    · exact Or.inr ⟨n, by omega, rfl⟩
    · rcases s_first_cases m (n + 1) with h | ⟨k, hk, h⟩
      · exact Or.inl h
      · exact Or.inr ⟨k, by omega, h⟩
theorem s_bed_cases {vs σ : Nat → Int32} {nh nd own d : Nat} (ho : own < nh) : s_bed vs σ nh nd own d = zm1 ∨ ∃ k, k < nh ∧ s_bed vs σ nh nd own d = nI k := by
  unfold s_bed
  split
  · exact Or.inr ⟨own, ho, rfl⟩
  · rcases s_first_cases (vs := vs) (σ := σ) (nd := nd) (own := own) (d := d) nh 0 with h | ⟨k, hk, h⟩
    · exact Or.inl h
    · exact Or.inr ⟨k, by omega, h⟩
/-- day d lies in house h now, has come once more -/
def s_come (σ : Nat → Int32) (h : Int32) (d : Nat) : Nat → Int32 := zs1 (zs1 (zs1 σ (d + 6) h) (d + 12) 0) (d + 24) (σ (d + 24) + 1)
/-- and has spoken -/
def s_spoke (wv : Int32 → Int32 → Int32 → Int32 → Int32) (σ : Nat → Int32) (h : Int32) (nd now d : Nat) : Nat → Int32 :=
  zs1 (s_come σ h d) (d + 18) (s_c99 (σ (d + 18) + s_c9 (wv (σ (d + 18)) (s_bits (s_in (s_come σ h d) h nd) 30) (nI (now % 12)) (σ (d + 24) + 1))))
def s_comes (wv : Int32 → Int32 → Int32 → Int32 → Int32) (vs : Nat → Int32) (nh nd own now d : Nat) (t : (Nat → Int32) × Int32 × Int32) : (Nat → Int32) × Int32 × Int32 :=
  if s_bed vs t.1 nh nd own d < 0 then (zs1 t.1 1 (t.1 1 + 1), t.2.1, t.2.2 ||| s_bit d) else (s_spoke wv t.1 (s_bed vs t.1 nh nd own d) nd now d, t.2.1 ||| s_bit d, t.2.2)
/-- those that lie somewhere grow older, and leave -/
def s_stay (vs σ : Nat → Int32) : Nat → Nat → Int32
  | 0 => σ
  | n + 1 => if 0 ≤ s_stay vs σ n (n + 6) then (if s_stay vs σ n (n + 12) + 1 = vs 2 then s_leave (zs1 (s_stay vs σ n) (n + 12) (s_stay vs σ n (n + 12) + 1)) n else zs1 (s_stay vs σ n) (n + 12) (s_stay vs σ n (n + 12) + 1)) else s_stay vs σ n
/-- those whose date it is come -/
def s_newly (wv : Int32 → Int32 → Int32 → Int32 → Int32) (vs ds : Nat → Int32) (nh nd : Nat) (own : Nat → Nat) (now : Nat) (σ : Nat → Int32) : Nat → (Nat → Int32) × Int32 × Int32
  | 0 => (σ, 0, 0)
  | n + 1 => if (s_newly wv vs ds nh nd own now σ n).1 (n + 6) < 0 ∧ 0 < (s_newly wv vs ds nh nd own now σ n).1 (n + 18) ∧ s_date vs ds now n = true then s_comes wv vs nh nd (own n) now n (s_newly wv vs ds nh nd own now σ n) else s_newly wv vs ds nh nd own now σ n
/-- a date: the state behind it, who came, who was turned off -/
def s_pass (wv : Int32 → Int32 → Int32 → Int32 → Int32) (vs ds : Nat → Int32) (nh nd : Nat) (own : Nat → Nat) (now : Nat) (σ : Nat → Int32) : (Nat → Int32) × Int32 × Int32 :=
  s_newly wv vs ds nh nd own (now + 1) (s_stay vs (zs1 σ 0 (nI (now + 1))) nd) nd
/-- who came, who was turned off, as the model keeps them -/
def tco (I : Nat → Nat → Int32) (c o : Int32) : Nat → Nat → Int32 := zs (zs I 99 28 c) 99 29 o
theorem tco_28 {I : Nat → Nat → Int32} {a b c : Int32} : zs (tco I a b) 99 28 c = tco I c b := by
  funext i j
  unfold tco zs
  by_cases h1 : i = 99 <;> by_cases h2 : j = 28 <;> by_cases h3 : j = 29 <;> simp [h1, h2, h3]
theorem tco_29 {I : Nat → Nat → Int32} {a b c : Int32} : zs (tco I a b) 99 29 c = tco I a c := by
  funext i j
  unfold tco zs
  by_cases h1 : i = 99 <;> by_cases h3 : j = 29 <;> simp [h1, h3]
theorem s_leave_0 {σ : Nat → Int32} {d k : Nat} (h : k < 6) : s_leave σ d k = σ k := by
  unfold s_leave
  rw [zs1_n (by omega), zs1_n (by omega)]
theorem s_stay_0 {vs σ : Nat → Int32} {k : Nat} (h : k < 6) : ∀ n, s_stay vs σ n k = σ k
  | 0 => rfl
  | n + 1 => by
    unfold s_stay
    split
    · split
      · rw [s_leave_0 h, zs1_n (by omega), s_stay_0 h n]
      · rw [zs1_n (by omega), s_stay_0 h n]
    · exact s_stay_0 h n
theorem s_comes_0 {wv : Int32 → Int32 → Int32 → Int32 → Int32} {vs : Nat → Int32} {nh nd own now d : Nat} {t : (Nat → Int32) × Int32 × Int32} {k : Nat} (h : k = 0 ∨ (2 ≤ k ∧ k < 6)) : (s_comes wv vs nh nd own now d t).1 k = t.1 k := by
  unfold s_comes
  split
  · exact zs1_n (by omega)
  · show s_spoke wv t.1 _ nd now d k = _
    unfold s_spoke s_come
    rw [zs1_n (by omega), zs1_n (by omega), zs1_n (by omega), zs1_n (by omega)]
theorem s_newly_0 {wv : Int32 → Int32 → Int32 → Int32 → Int32} {vs ds : Nat → Int32} {nh nd : Nat} {own : Nat → Nat} {now : Nat} {σ : Nat → Int32} {k : Nat} (h : k = 0 ∨ (2 ≤ k ∧ k < 6)) : ∀ n, (s_newly wv vs ds nh nd own now σ n).1 k = σ k
  | 0 => rfl
  | n + 1 => by
    unfold s_newly
    split
    · rw [s_comes_0 h, s_newly_0 h n]
    · exact s_newly_0 h n
theorem s_pass_now {wv : Int32 → Int32 → Int32 → Int32 → Int32} {vs ds : Nat → Int32} {nh nd : Nat} {own : Nat → Nat} {now : Nat} {σ : Nat → Int32} {n : Nat} : (s_newly wv vs ds nh nd own (now + 1) (s_stay vs (zs1 σ 0 (nI (now + 1))) nd) n).1 0 = nI (now + 1) := by
  rw [s_newly_0 (Or.inl rfl), s_stay_0 (by decide), zs1_s]
theorem s_c9m1 : s_c9 zm1 = zm1 := by decide
theorem m1neg : zm1 < 0 := by decide
