/-! DATES TO COME, in plain Lean -/
set_option maxRecDepth 100000
/-- n dates on -/
def s_go (wv : Int32 → Int32 → Int32 → Int32 → Int32) (vs ds : Nat → Int32) (nh nd : Nat) (own : Nat → Nat) (now : Nat) (σ : Nat → Int32) : Nat → (Nat → Int32) × Int32 × Int32
  | 0 => (σ, 0, 0)
  | n + 1 => s_pass wv vs ds nh nd own (now + n) (s_go wv vs ds nh nd own now σ n).1
theorem s_go_0 {wv : Int32 → Int32 → Int32 → Int32 → Int32} {vs ds : Nat → Int32} {nh nd : Nat} {own : Nat → Nat} {now : Nat} {σ : Nat → Int32} (h : σ 0 = nI now) : ∀ n, (s_go wv vs ds nh nd own now σ n).1 0 = nI (now + n)
  | 0 => h
  | n + 1 => s_pass_now
/-- the first n from a start on, of so many, where p holds: r of it; -1 -/
def s_fst (p : Nat → Bool) (r : Nat → Int32) : Nat → Nat → Int32
  | 0, _ => zm1
  | m + 1, n => if p n = true then r n else s_fst p r m (n + 1)
theorem s_fst_t {p : Nat → Bool} {r : Nat → Int32} {m n : Nat} (h : p n = true) : s_fst p r (m + 1) n = r n := if_pos h
theorem s_fst_f {p : Nat → Bool} {r : Nat → Int32} {m n : Nat} (h : p n = false) : s_fst p r (m + 1) n = s_fst p r m (n + 1) := if_neg (by rw [h]; decide)
theorem tco_self {I : Nat → Nat → Int32} : tco I (I 99 28) (I 99 29) = I := by
  funext i j
  unfold tco zs
  by_cases h1 : i = 99 <;> by_cases h2 : j = 28 <;> by_cases h3 : j = 29 <;> simp [h1, h2, h3]
theorem tput_self0 {I : Nat → Nat → Int32} : tput I 0 (I 24) = I := by
  have h := tput_self (I := I) (b := 0)
  have e : (fun j => I 24 (0 + j)) = I 24 := by
    funext j
    rw [Nat.zero_add]
  rw [e] at h
  exact h
/-- what is to be seen of the model: tape, taped, told, names, lines, states but the trials, marks -/
def tob (a j : Nat) : Bool := a == 1 || a == 10 || a == 11 || a == 12 || a == 16 || a == 21 || a == 26 || a == 27 || (a == 24 && decide (j < 987)) || (a == 99 && (j == 2 || j == 18 || j == 25))
def tobs (I I' : Nat → Nat → Int32) : Prop := ∀ a j, tob a j = true → I' a j = I a j
theorem tobs_rf {I : Nat → Nat → Int32} : tobs I I := fun _ _ _ => rfl
theorem tobs_zs {I I' : Nat → Nat → Int32} {a k : Nat} {v : Int32} (h : tobs I I') (hn : tob a k = false) : tobs I (zs I' a k v) := fun i j hij => by
  have e : ¬ (i = a ∧ j = k) := fun e => by rw [e.1, e.2, hn] at hij; cases hij
  show (if i = a ∧ j = k then v else I' i j) = _
  rw [if_neg e]
  exact h i j hij
theorem tobs_co {I I' : Nat → Nat → Int32} {c o : Int32} (h : tobs I I') : tobs I (tco I' c o) := tobs_zs (tobs_zs h rfl) rfl
theorem tobs_put {I I' : Nat → Nat → Int32} {b : Nat} {τ : Nat → Int32} (h : tobs I I') (hb : 987 ≤ b) : tobs I (tput I' b τ) := fun i j hij => by
  show (if i = 24 ∧ b ≤ j ∧ j < b + 30 then τ (j - b) else I' i j) = _
  by_cases e : i = 24 ∧ b ≤ j ∧ j < b + 30
  · obtain ⟨e1, e2, e3⟩ := e
    subst e1
    have : tob 24 j = decide (j < 987) := by simp [tob]
    rw [this, decide_eq_true_eq] at hij
    omega
  · rw [if_neg e]
    exact h i j hij
/-- what lies at the trial's place -/
def s_tau (I : Nat → Nat → Int32) : Nat → Int32 := fun j => I 24 (987 + j)
theorem tput_tau {I : Nat → Nat → Int32} : tput I 987 (s_tau I) = I := tput_self
/-- the fullest date -/
def s_crowd (nd : Nat) (go : Nat → Nat → Int32) : Nat → Int32 × Int32
  | 0 => (0, zm1)
  | n + 1 => if (s_crowd nd go n).2 < s_bits (s_some (go n) nd) 30 then (nI n, s_bits (s_some (go n) nd) 30) else s_crowd nd go n
theorem zday {d : Int32} {n : Nat} (hn : n < 2 ^ 31) (c : (decide (0 ≤ d) && decide (d < nI n)) = true) : ∃ k, k < n ∧ d = nI k := by
  simp only [Bool.and_eq_true, decide_eq_true_eq] at c
  obtain ⟨k, hk, rfl⟩ := nI_of (x := d) (Int32.not_lt.mpr c.1)
  exact ⟨k, (nI_ltI hk hn).mp c.2, rfl⟩
theorem zday_t {k n : Nat} (h : k < n) (hn : n < 2 ^ 31) : (decide (0 ≤ nI k) && decide (nI k < nI n)) = true := by
  simp only [Bool.and_eq_true, decide_eq_true_eq]
  exact ⟨nI_pos' (by omega), nI_lt h hn⟩
theorem zwin {m : Int32} (l h : Nat) (hh : h < 2 ^ 31) (c : (decide (nI l ≤ m) && decide (m ≤ nI h)) = true) (hl : l ≤ h := by decide) : ∃ k, l ≤ k ∧ k ≤ h ∧ m = nI k := by
  simp only [Bool.and_eq_true, decide_eq_true_eq] at c
  have h0 : ¬ m < 0 := Int32.not_lt.mpr (Int32.le_trans (nI_pos' (by omega)) c.1)
  obtain ⟨k, hk, rfl⟩ := nI_of h0
  exact ⟨k, (nI_leI (by omega) hk).mp c.1, (nI_leI hk hh).mp c.2, rfl⟩
theorem zwin_t {k l h : Nat} (h1 : l ≤ k) (h2 : k ≤ h) (hh : h < 2 ^ 31) : (decide (nI l ≤ nI k) && decide (nI k ≤ nI h)) = true := by
  simp only [Bool.and_eq_true, decide_eq_true_eq]
  exact ⟨nI_le h1 (by omega), nI_le h2 hh⟩
theorem ncl {k : Nat} (h : k < 2 ^ 31) : (nI k).toNatClampNeg = k := nI_clamp h
/-! bits -/
theorem b_1 : ∀ i, i < 32 → bt 1 i = decide (i = 0) := by decide +kernel
theorem s_and1 (y : Int32) : y &&& 1 = if bt y 0 = true then 1 else 0 := by
  apply b_ext
  intro i hi
  rw [b_and, b_1 i hi]
  by_cases h : i = 0
  · subst h
    cases hb : bt y 0
    · simp [b_0]
    · simp [b_1]
  · cases hb : bt y 0
    · simp [h, b_0]
    · simp [h, b_1 i hi]
theorem s_shr0 (x : Int32) {n : Nat} (hn : n < 32) : bt (x >>> (nI n &&& 31)) 0 = bt x n := by
  rw [b_sshr n hn x (by decide), if_pos (by omega)]
  rfl
theorem s_isBit_bt (x : Int32) {n : Nat} (hn : n < 32) : s_isBit x n = bt x n := by
  unfold s_isBit
  rw [s_and1, s_shr0 x hn]
  cases bt x n <;> decide
theorem s_bit0 (x : Int32) {n : Nat} (hn : n < 32) : (x >>> (nI n &&& 31)) &&& 1 = 0 ↔ s_isBit x n = false := by
  rw [s_isBit_bt x hn, s_and1, s_shr0 x hn]
  cases bt x n <;> decide
theorem s_isBit_all {x : Int32} (h : ∀ b, b < 32 → s_isBit x b = false) : x = 0 := by
  apply b_ext
  intro i hi
  rw [b_0, ← s_isBit_bt x hi]
  exact h i hi
theorem s_fst_hit {p : Nat → Bool} {r : Nat → Int32} {i : Nat} (hp : p i = true) : ∀ (m n : Nat), (∀ b, n ≤ b → b < i → p b = false) → n ≤ i → i < n + m → s_fst p r m n = r i
  | 0, n, _, h1, h2 => absurd h2 (by omega)
  | m + 1, n, hn, h1, h2 => by
    by_cases e : n = i
    · subst e
      exact s_fst_t hp
    · rw [s_fst_f (hn n (Nat.le_refl _) (by omega))]
      exact s_fst_hit hp m (n + 1) (fun b hb hb2 => hn b (by omega) hb2) (by omega) (by omega)
/-- the lowest bit's place -/
def s_low (x : Int32) : Int32 := s_fst (s_isBit x) nI 32 0
def s_hitP (go : Nat → (Nat → Int32) × Int32 × Int32) (d : Nat) : Nat → Bool := fun n => s_isBit ((go n).2.1 ||| (go n).2.2) d
def s_goneP (go : Nat → (Nat → Int32) × Int32 × Int32) (d : Nat) : Nat → Bool := fun n => decide ((go n).1 (d + 18) = 0)
def s_meetP (go : Nat → (Nat → Int32) × Int32 × Int32) (d o : Nat) : Nat → Bool := fun n => decide (0 ≤ (go n).1 (d + 6)) && decide ((go n).1 (d + 6) = (go n).1 (o + 6))
def s_offP (go : Nat → (Nat → Int32) × Int32 × Int32) : Nat → Bool := fun n => decide (¬ (go n).2.2 = 0)
/-- houses that could lose a bed -/
def s_spare (σ : Nat → Int32) (calm : (Nat → Int32) → Bool) : Nat → Int32
  | 0 => 0
  | n + 1 => s_spare σ calm n ||| (if 1 < σ (n + 2) ∧ calm (zs1 σ (n + 2) (σ (n + 2) - 1)) = true then s_bit n else 0)
theorem s_bit1 {x : Int32} {n : Nat} (hn : n < 32) (h : ¬ (x >>> (nI n &&& 31)) &&& 1 = 0) : s_isBit x n = true := by
  cases e : s_isBit x n
  · exact absurd ((s_bit0 x hn).mpr e) h
  · rfl
def s_refR (go : Nat → (Nat → Int32) × Int32 × Int32) (w : Int32) : Nat → Int32 := fun n => if w = 0 then nI n else s_low (go n).2.2
theorem tco_zs {I : Nat → Nat → Int32} {a k : Nat} {v c o : Int32} (h : a ≠ 99) : zs (tco I c o) a k v = tco (zs I a k v) c o := by
  funext i j
  unfold tco zs
  by_cases hi : i = 99
  · subst hi
    have h3 : ¬ (99 = a) := fun h' => h h'.symm
    simp [h3]
  · simp [hi]
theorem zs_zs {α : Type} {I : Nat → Nat → α} {a k : Nat} {v w : α} : zs (zs I a k v) a k w = zs I a k w := by
  funext i j
  unfold zs
  by_cases h : i = a ∧ j = k
  · rw [if_pos h, if_pos h]
  · rw [if_neg h, if_neg h, if_neg h]
theorem zs_self {α : Type} {I : Nat → Nat → α} {a k : Nat} : zs I a k (I a k) = I := by
  funext i j
  unfold zs
  by_cases h : i = a ∧ j = k
  · rw [if_pos h, h.1, h.2]
  · rw [if_neg h]
/-- most that are somewhere at once within n dates -/
def s_most (nd : Nat) (go : Nat → Nat → Int32) : Nat → Int32
  | 0 => 0
  | n + 1 => if s_most nd go n < s_bits (s_some (go (n + 1)) nd) 30 then s_bits (s_some (go (n + 1)) nd) 30 else s_most nd go n
/-- the date of the fewest -/
def s_defer (mo : Nat → Int32) : Nat → Int32 × Int32
  | 0 => (zm1, 0)
  | n + 1 => if (s_defer mo n).1 < 0 ∨ mo n < (s_defer mo n).2 then (nI n, mo n) else s_defer mo n
/-- the days' dates as told -/
def s_dts (I : Nat → Nat → Int32) (n : Nat) : Nat → Nat → Int32 := fun a j => if a = 27 ∧ j < n then I 10 (5 * j + 14) else I a j
theorem s_dts_0 {I : Nat → Nat → Int32} : s_dts I 0 = I := by
  funext a j
  unfold s_dts
  rw [if_neg (by omega)]
theorem s_dts_1 {I : Nat → Nat → Int32} {n : Nat} : zs (s_dts I n) 27 n (I 10 (5 * n + 14)) = s_dts I (n + 1) := by
  funext a j
  show (if a = 27 ∧ j = n then I 10 (5 * n + 14) else (if a = 27 ∧ j < n then I 10 (5 * j + 14) else I a j)) = (if a = 27 ∧ j < n + 1 then I 10 (5 * j + 14) else I a j)
  by_cases ha : a = 27
  · by_cases hj : j = n
    · rw [if_pos ⟨ha, hj⟩, if_pos ⟨ha, by omega⟩, hj]
    · by_cases h2 : j < n
      · rw [if_neg (fun h => hj h.2), if_pos ⟨ha, h2⟩, if_pos ⟨ha, by omega⟩]
      · rw [if_neg (fun h => hj h.2), if_neg (fun h => h2 h.2), if_neg (fun h => by have := h.2; omega)]
  · rw [if_neg (fun h => ha h.1), if_neg (fun h => ha h.1), if_neg (fun h => ha h.1)]
theorem s_dts_a {I : Nat → Nat → Int32} {n a : Nat} (h : a ≠ 27) : s_dts I n a = I a := by
  funext j
  unfold s_dts
  rw [if_neg (fun h' => h h'.1)]
