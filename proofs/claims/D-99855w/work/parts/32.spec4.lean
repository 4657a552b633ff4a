/-! RESTS, BEGINNINGS, DEFERRING, in plain Lean -/
set_option maxRecDepth 100000
def s_gets (own other lose sits gives : Int32) : Int32 := if own = 1 then (if other = 1 then -lose else sits) else (if other = 1 then gives else 0)
def s_isr (l s g : Int32) (k : Nat) : Bool := decide (s_gets (1 - nI (k / 2)) (nI (k % 2)) l s g ≤ s_gets (nI (k / 2)) (nI (k % 2)) l s g) && decide (s_gets (1 - nI (k % 2)) (nI (k / 2)) l s g ≤ s_gets (nI (k % 2)) (nI (k / 2)) l s g)
def s_rests (l s g w : Int32) : Nat → Int32 × Int32
  | 0 => (0, zm1)
  | k + 1 => if s_isr l s g k = true then ((s_rests l s g w k).1 + 1, if (s_rests l s g w k).1 = w then nI k else (s_rests l s g w k).2) else s_rests l s g w k
/-- is there an answer, which -/
def s_rest (l s g w : Int32) : Bool × Int32 :=
  if ((((decide (0 ≤ l) && decide (l ≤ 9)) && (decide (0 ≤ s) && decide (s ≤ 9))) && (decide (0 ≤ g) && decide (g ≤ 9))) && decide (zm1 ≤ w)) = true then (if w < 0 then (true, (s_rests l s g w 4).1) else if 0 ≤ (s_rests l s g w 4).2 then (true, (s_rests l s g w 4).2) else (false, 0)) else (false, 0)
def s_zer (σ : Nat → Int32) (n : Nat) : Nat → Int32 := fun j => if j < n then 0 else σ j
theorem s_zer_0 {σ : Nat → Int32} : s_zer σ 0 = σ := by
  funext j
  unfold s_zer
  rw [if_neg (by omega)]
theorem s_zer_1 {σ : Nat → Int32} {n : Nat} : zs1 (s_zer σ n) n 0 = s_zer σ (n + 1) := by
  funext j
  show (if j = n then (0 : Int32) else if j < n then 0 else σ j) = if j < n + 1 then 0 else σ j
  by_cases h1 : j = n
  · rw [if_pos h1, if_pos (by omega)]
  · by_cases h2 : j < n
    · rw [if_neg h1, if_pos h2, if_pos (by omega)]
    · rw [if_neg h1, if_neg h2, if_neg (by omega)]
def s_sb (vs τ : Nat → Int32) : Nat → Nat → Int32
  | 0 => τ
  | n + 1 => zs1 (s_sb vs τ n) (n + 2) (vs (2 * n + 4))
def s_sg (vs τ : Nat → Int32) (nd : Nat) : Nat → Nat → Int32
  | 0 => τ
  | n + 1 => zs1 (zs1 (s_sg vs τ nd n) (n + 6) zm1) (n + 18) (if n < nd then vs (5 * n + 15) else 0)
/-- the state a vale begins with -/
def s_start (vs : Nat → Int32) (nh nd : Nat) : Nat → Int32 := s_sg vs (s_sb vs (fun _ => 0) nh) nd 6
theorem zs1_congr {f h : Nat → Int32} {m k : Nat} {v : Int32} (e : ∀ j, j < m → f j = h j) : ∀ j, j < m → zs1 f k v j = zs1 h k v j := fun j hj => by
  unfold zs1
  rw [e j hj]
theorem s_sb_congr {vs f h : Nat → Int32} {m : Nat} (e : ∀ j, j < m → f j = h j) : ∀ n j, j < m → s_sb vs f n j = s_sb vs h n j
  | 0 => e
  | n + 1 => zs1_congr (s_sb_congr e n)
theorem s_sg_congr {vs f h : Nat → Int32} {m nd : Nat} (e : ∀ j, j < m → f j = h j) : ∀ n j, j < m → s_sg vs f nd n j = s_sg vs h nd n j
  | 0 => e
  | n + 1 => zs1_congr (zs1_congr (s_sg_congr e n))
theorem tput_congr {I : Nat → Nat → Int32} {b : Nat} {σ τ : Nat → Int32} (e : ∀ j, j < 30 → σ j = τ j) : tput I b σ = tput I b τ := by
  funext a k
  unfold tput
  by_cases h : a = 24 ∧ b ≤ k ∧ k < b + 30
  · rw [if_pos h, if_pos h]
    exact e _ (by omega)
  · rw [if_neg h, if_neg h]
theorem s_start_e {vs σ : Nat → Int32} {nh nd : Nat} : ∀ j, j < 30 → s_sg vs (s_sb vs (s_zer σ 30) nh) nd 6 j = s_start vs nh nd j := s_sg_congr (s_sb_congr (fun j hj => if_pos hj) nh) 6
theorem tput_zso {I : Nat → Nat → Int32} {b j : Nat} {σ : Nat → Int32} {v : Int32} (h : j < b ∨ b + 30 ≤ j) : zs (tput I b σ) 24 j v = tput (zs I 24 j v) b σ := by
  funext a k
  show (if a = 24 ∧ k = j then v else if a = 24 ∧ b ≤ k ∧ k < b + 30 then σ (k - b) else I a k) = (if a = 24 ∧ b ≤ k ∧ k < b + 30 then σ (k - b) else if a = 24 ∧ k = j then v else I a k)
  by_cases h1 : a = 24 ∧ k = j
  · rw [if_pos h1, if_neg (by omega), if_pos h1]
  · rw [if_neg h1]
    by_cases h2 : a = 24 ∧ b ≤ k ∧ k < b + 30
    · rw [if_pos h2, if_pos h2]
    · rw [if_neg h2, if_neg h2, if_neg h1]
/-- the first n entries of row a are nought -/
def s_nil (I : Nat → Nat → Int32) (a b n : Nat) : Nat → Nat → Int32 := fun i j => if i = a ∧ b ≤ j ∧ j < b + n then 0 else I i j
theorem s_nil_0 {I : Nat → Nat → Int32} {a b : Nat} : s_nil I a b 0 = I := by
  funext i j
  unfold s_nil
  rw [if_neg (by omega)]
theorem s_nil_1 {I : Nat → Nat → Int32} {a b n : Nat} : zs (s_nil I a b n) a (b + n) 0 = s_nil I a b (n + 1) := by
  funext i j
  show (if i = a ∧ j = b + n then (0 : Int32) else if i = a ∧ b ≤ j ∧ j < b + n then 0 else I i j) = if i = a ∧ b ≤ j ∧ j < b + (n + 1) then 0 else I i j
  by_cases h1 : i = a ∧ j = b + n
  · rw [if_pos h1, if_pos (by omega)]
  · by_cases h2 : i = a ∧ b ≤ j ∧ j < b + n
    · rw [if_neg h1, if_pos h2, if_pos (by omega)]
    · rw [if_neg h1, if_neg h2, if_neg (by omega)]
/-- no houses, no days, stays one date, no law -/
def s_std (I : Nat → Nat → Int32) (b : Nat) : Nat → Nat → Int32 := zs (zs (s_nil I 10 b 50) 10 (b + 2) 1) 10 (b + 3) zm1
def s_begin (I : Nat → Nat → Int32) (nh nd : Nat) : Nat → Nat → Int32 := s_nil (tput (zs (zs (zs (s_dts I nd) 24 30 0) 21 0 0) 99 25 0) 0 (s_start (I 10) nh nd)) 26 0 4
theorem tobs_dts {I I' : Nat → Nat → Int32} {n : Nat} (hd : ∀ j, j < n → I 27 j = I 10 (5 * j + 14)) (h10 : ∀ j, I' 10 j = I 10 j) (h : ∀ a j, tob a j = true → ¬ (a = 27 ∧ j < n) → I' a j = I a j) : tobs I (s_dts I' n) := fun a j hj => by
  show (if a = 27 ∧ j < n then I' 10 (5 * j + 14) else I' a j) = _
  by_cases e : a = 27 ∧ j < n
  · rw [if_pos e, e.1, h10, hd j e.2]
  · rw [if_neg e]
    exact h a j hj e
theorem tobs_off {I : Nat → Nat → Int32} {d n : Nat} {v : Int32} (hd : d < n) : ∀ a j, tob a j = true → ¬ (a = 27 ∧ j < n) → zs (zs I 99 0 0) 27 d v a j = I a j := fun a j hj he => by
  have e1 : ¬ (a = 27 ∧ j = d) := fun h => he ⟨h.1, by omega⟩
  have e2 : ¬ (a = 99 ∧ j = 0) := fun h => by rw [h.1, h.2] at hj; cases hj
  show (if a = 27 ∧ j = d then v else if a = 99 ∧ j = 0 then 0 else I a j) = _
  rw [if_neg e1, if_neg e2]
theorem s_nil_z {I : Nat → Nat → Int32} {a n : Nat} : zs (s_nil I a 0 n) a n 0 = s_nil I a 0 (n + 1) := by
  have h := s_nil_1 (I := I) (a := a) (b := 0) (n := n)
  rw [Nat.zero_add] at h
  exact h
/-- a line of a year: the state, its date, the first line that cannot be, the first date that turns off -/
def s_ln (wv : Int32 → Int32 → Int32 → Int32 → Int32) (vs ds : Nat → Int32) (nh nd : Nat) (own : Nat → Nat) (a b h k : Nat) (t : (Nat → Int32) × Nat × Int32 × Int32) : (Nat → Int32) × Nat × Int32 × Int32 :=
  if a = 0 then
    ((s_pass wv vs ds nh nd own t.2.1 t.1).1, t.2.1 + 1, t.2.2.1, if (s_pass wv vs ds nh nd own t.2.1 t.1).2.2 ≠ 0 ∧ t.2.2.2 < 0 then nI k else t.2.2.2)
  else if a = 1 then
    (if s_may vs t.1 nd b h = true then (zs1 t.1 (b + 6) (nI h), t.2.1, t.2.2.1, t.2.2.2) else (t.1, t.2.1, if t.2.2.1 < 0 then nI k else t.2.2.1, t.2.2.2))
  else if a = 2 then
    (if 0 ≤ t.1 (b + 6) then (s_leave t.1 b, t.2.1, t.2.2.1, t.2.2.2) else (t.1, t.2.1, if t.2.2.1 < 0 then nI k else t.2.2.1, t.2.2.2))
  else
    (if t.1 (b + 2) < 9 then (zs1 t.1 (b + 2) (t.1 (b + 2) + 1), t.2.1, t.2.2.1, t.2.2.2) else (t.1, t.2.1, if t.2.2.1 < 0 then nI k else t.2.2.1, t.2.2.2))
def s_jud (wv : Int32 → Int32 → Int32 → Int32 → Int32) (vs ds : Nat → Int32) (nh nd : Nat) (own la lb lh : Nat → Nat) : Nat → (Nat → Int32) × Nat × Int32 × Int32
  | 0 => (s_start vs nh nd, 0, zm1, zm1)
  | k + 1 => s_ln wv vs ds nh nd own (la k) (lb k) (lh k) k (s_jud wv vs ds nh nd own la lb lh k)
theorem s_ln_0 {wv : Int32 → Int32 → Int32 → Int32 → Int32} {vs ds : Nat → Int32} {nh nd : Nat} {own : Nat → Nat} {a b h k m : Nat} {t : (Nat → Int32) × Nat × Int32 × Int32} (h1 : t.1 0 = nI t.2.1) (h2 : t.2.1 ≤ m) : (s_ln wv vs ds nh nd own a b h k t).1 0 = nI (s_ln wv vs ds nh nd own a b h k t).2.1 ∧ (s_ln wv vs ds nh nd own a b h k t).2.1 ≤ m + 1 := by
  unfold s_ln
  split
  · exact ⟨s_pass_now, Nat.succ_le_succ h2⟩
  · split
    · split
      · exact ⟨show zs1 t.1 (b + 6) (nI h) 0 = nI t.2.1 from (zs1_n (by omega)).trans h1, Nat.le_succ_of_le h2⟩
      · exact ⟨h1, Nat.le_succ_of_le h2⟩
    · split
      · split
        · exact ⟨show s_leave t.1 b 0 = nI t.2.1 from (s_leave_0 (by omega)).trans h1, Nat.le_succ_of_le h2⟩
        · exact ⟨h1, Nat.le_succ_of_le h2⟩
      · split
        · exact ⟨show zs1 t.1 (b + 2) (t.1 (b + 2) + 1) 0 = nI t.2.1 from (zs1_n (by omega)).trans h1, Nat.le_succ_of_le h2⟩
        · exact ⟨h1, Nat.le_succ_of_le h2⟩
theorem s_start_0 {vs : Nat → Int32} {nh nd : Nat} (hnh : nh ≤ 4) : s_start vs nh nd 0 = 0 := by
  have hb : ∀ n, s_sb vs (fun _ => 0) n 0 = 0 := fun n => by
    induction n with
    | zero => rfl
    | succ n ih => exact (zs1_n (by omega)).trans ih
  have hg : ∀ n, s_sg vs (s_sb vs (fun _ => 0) nh) nd n 0 = 0 := fun n => by
    induction n with
    | zero => exact hb nh
    | succ n ih => exact (zs1_n (by omega)).trans ((zs1_n (by omega)).trans ih)
  exact hg 6
theorem s_jud_0 {wv : Int32 → Int32 → Int32 → Int32 → Int32} {vs ds : Nat → Int32} {nh nd : Nat} {own la lb lh : Nat → Nat} (hnh : nh ≤ 4) : ∀ k, (s_jud wv vs ds nh nd own la lb lh k).1 0 = nI (s_jud wv vs ds nh nd own la lb lh k).2.1 ∧ (s_jud wv vs ds nh nd own la lb lh k).2.1 ≤ k
  | 0 => ⟨s_start_0 (nd := nd) hnh, Nat.le_refl _⟩
  | k + 1 => by
    obtain ⟨h1, h2⟩ := s_jud_0 (wv := wv) (vs := vs) (ds := ds) (nd := nd) (own := own) (la := la) (lb := lb) (lh := lh) hnh k
    exact s_ln_0 h1 h2
def s_judged (t : (Nat → Int32) × Nat × Int32 × Int32) (w : Int32) : Int32 := if (decide (0 ≤ w) && decide (w ≤ 2)) = true then (if w.toNatClampNeg = 0 then t.2.2.1 else if w.toNatClampNeg = 1 then t.2.2.2 else t.1 1) else zm2
