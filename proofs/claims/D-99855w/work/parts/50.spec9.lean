/-! READING, in plain Lean: tokens by kind kd, place pl, value vl; at a, fault f -/
set_option maxRecDepth 100000
theorem lz_eq (x y : Int64) : (lg_cmp x y = 0) ↔ x = y := by
  unfold lg_cmp
  by_cases h1 : x > y
  · rw [if_pos h1]
    exact ⟨fun h => absurd h (by decide), fun h => by rw [h] at h1; exact absurd h1 (Int64.lt_irrefl)⟩
  · rw [if_neg h1]
    by_cases h2 : x = y
    · simp [h2]
    · rw [if_neg h2]
      exact ⟨fun h => absurd h (by decide), fun h => absurd h h2⟩
def s_rd (I : Nat → Nat → Int32) (a f : Nat) : Nat → Nat → Int32 := fun i j => if i = 99 ∧ j = 7 then nI a else if i = 99 ∧ j = 8 then nI f else I i j
theorem s_rd_7 {I : Nat → Nat → Int32} {a b f : Nat} : zs (s_rd I a f) 99 7 (nI b) = s_rd I b f := by
  funext i j
  show (if i = 99 ∧ j = 7 then nI b else if i = 99 ∧ j = 7 then nI a else if i = 99 ∧ j = 8 then nI f else I i j) = (if i = 99 ∧ j = 7 then nI b else if i = 99 ∧ j = 8 then nI f else I i j)
  by_cases h : i = 99 ∧ j = 7
  · rw [if_pos h, if_pos h]
  · rw [if_neg h, if_neg h, if_neg h]
theorem s_rd_8 {I : Nat → Nat → Int32} {a b f : Nat} : zs (s_rd I a f) 99 8 (nI b) = s_rd I a b := by
  funext i j
  show (if i = 99 ∧ j = 8 then nI b else if i = 99 ∧ j = 7 then nI a else if i = 99 ∧ j = 8 then nI f else I i j) = (if i = 99 ∧ j = 7 then nI a else if i = 99 ∧ j = 8 then nI b else I i j)
  by_cases h : i = 99 ∧ j = 8
  · rw [if_pos h, if_neg (by omega), if_pos h]
  · rw [if_neg h, if_neg h, if_neg h]
theorem s_rd_z {I : Nat → Nat → Int32} {a f r k : Nat} {v : Int32} (h : ¬ (r = 99 ∧ k = 7)) (h2 : ¬ (r = 99 ∧ k = 8)) : zs (s_rd I a f) r k v = s_rd (zs I r k v) a f := by
  funext i j
  show (if i = r ∧ j = k then v else if i = 99 ∧ j = 7 then nI a else if i = 99 ∧ j = 8 then nI f else I i j) = (if i = 99 ∧ j = 7 then nI a else if i = 99 ∧ j = 8 then nI f else if i = r ∧ j = k then v else I i j)
  by_cases h1 : i = r ∧ j = k
  · rw [if_pos h1, if_neg (by omega), if_neg (by omega), if_pos h1]
  · rw [if_neg h1, if_neg h1]
theorem s_rd_f {I : Nat → Nat → Int32} {a f k : Nat} {v : Int32} (h : k ≠ 7) (h2 : k ≠ 8) : zs (s_rd I a f) 99 k v = s_rd (zs I 99 k v) a f := s_rd_z (fun e => h e.2) (fun e => h2 e.2)
theorem s_rd_a {I : Nat → Nat → Int32} {a f r k : Nat} {v : Int32} (h : r ≠ 99) : zs (s_rd I a f) r k v = s_rd (zs I r k v) a f := s_rd_z (fun e => h e.1) (fun e => h e.1)
/-- the tokens as they lie: kinds, places; so many, then the end -/
def s_tk (K P : Nat → Int32) (kd pl : Nat → Nat) (cnt : Nat) : Prop := (∀ j, j ≤ cnt → K j = nI (kd j) ∧ P j = nI (pl j) ∧ kd j ≤ 4 ∧ pl j ≤ 1000 ∧ (kd j = 0 ↔ j = cnt)) ∧ cnt ≤ 1000
def s_wr (pl : Nat → Nat) (a f w : Nat) : Nat := if f = 0 then 16 * pl a + w else f
def s_isS (kd : Nat → Nat) (vl : Nat → Int64) (a f : Nat) (c : Int32) : Bool := decide (f = 0) && (decide (kd a = 3) && decide (vl a = c.toInt64))
def s_isW (kd : Nat → Nat) (vl wd : Nat → Int64) (a f w : Nat) : Bool := decide (f = 0) && (decide (kd a = 1) && decide (vl a = wd w))
theorem s_wr_n {pl : Nat → Nat} {a f w : Nat} (h : pl a ≤ 1000) (hf : f < 2 ^ 20) (hw : w < 16) : ∃ f', (f' < 2 ^ 20 ∧ (0 < w → 0 < f')) ∧ s_wr pl a f w = f' := by
  refine ⟨_, ?_, rfl⟩
  unfold s_wr
  split
  · omega
  · omega
def s_tS (kd pl : Nat → Nat) (vl : Nat → Int64) (a f : Nat) (c : Int32) : Nat × Nat := if s_isS kd vl a f c = true then (a + 1, f) else (a, s_wr pl a f 1)
def s_hS (kd : Nat → Nat) (vl : Nat → Int64) (a f : Nat) (c : Int32) : Nat := if s_isS kd vl a f c = true then a + 1 else a
def s_hW (kd : Nat → Nat) (vl wd : Nat → Int64) (a f w : Nat) : Nat := if s_isW kd vl wd a f w = true then a + 1 else a
def s_tW (kd pl : Nat → Nat) (vl wd : Nat → Int64) (a f w : Nat) : Nat × Nat := if s_isW kd vl wd a f w = true then (a + 1, f) else (a, s_wr pl a f 1)
theorem s_isS_k {kd : Nat → Nat} {vl : Nat → Int64} {a f : Nat} {c : Int32} (h : s_isS kd vl a f c = true) : f = 0 ∧ kd a = 3 := by
  unfold s_isS at h
  simp only [Bool.and_eq_true, decide_eq_true_eq] at h
  exact ⟨h.1, h.2.1⟩
theorem s_isW_k {kd : Nat → Nat} {vl wd : Nat → Int64} {a f w : Nat} (h : s_isW kd vl wd a f w = true) : f = 0 ∧ kd a = 1 := by
  unfold s_isW at h
  simp only [Bool.and_eq_true, decide_eq_true_eq] at h
  exact ⟨h.1, h.2.1⟩
/-- a number: its value, where, the fault -/
def s_tN (kd pl : Nat → Nat) (vl : Nat → Int64) (a f : Nat) (lo hi : Int32) : Int32 × Nat × Nat :=
  if f = 0 then (if kd a = 2 then (if vl a < lo.toInt64 then (0, a, s_wr pl a f 4) else if vl a ≤ hi.toInt64 then ((vl a).toInt32, a + 1, f) else (0, a, s_wr pl a f 4)) else (0, a, s_wr pl a f 1)) else (0, a, f)
def s_tA (kd pl : Nat → Nat) (vl wd : Nat → Int64) (a f w : Nat) (lo hi : Int32) : Int32 × Nat × Nat := s_tN kd pl vl (s_tW kd pl vl wd a f w).1 (s_tW kd pl vl wd a f w).2 lo hi
/-- which of some words is here -/
def s_wh (kd : Nat → Nat) (vl wd : Nat → Int64) (a f w : Nat) : Nat → Int32
  | 0 => zm1
  | k + 1 => if s_isW kd vl wd a f (w + k) = true then nI k else s_wh kd vl wd a f w k
def s_tO (kd pl : Nat → Nat) (vl wd : Nat → Int64) (a f w m : Nat) : Int32 × Nat × Nat :=
  if f = 0 then (if s_wh kd vl wd a f w m < 0 then (0, a, s_wr pl a f 1) else (s_wh kd vl wd a f w m, a + 1, f)) else (0, a, f)
def s_isN (kd : Nat → Nat) (vl wd : Nat → Int64) (a f : Nat) : Bool := decide (f = 0) && (decide (kd a = 1) && decide (s_wh kd vl wd a f 0 21 < 0))
theorem s_wh_k {kd : Nat → Nat} {vl wd : Nat → Int64} {a f w : Nat} : ∀ m, s_wh kd vl wd a f w m < 0 ∨ (kd a = 1 ∧ ∃ k, k < m ∧ s_wh kd vl wd a f w m = nI k)
  | 0 => Or.inl m1neg
  | m + 1 => by
    unfold s_wh
    split
    · rename_i h
      exact Or.inr ⟨(s_isW_k h).2, m, by omega, rfl⟩
    · rcases s_wh_k (kd := kd) (vl := vl) (wd := wd) (a := a) (f := f) (w := w) m with h | ⟨h, k, hk, e⟩
      · exact Or.inl h
      · exact Or.inr ⟨h, k, by omega, e⟩
/-- whose name a value is -/
def s_nm (nm : Nat → Int64) (of : Nat → Int32) (many : Nat) (v : Int64) : Int32 := s_fst (fun k => decide (nm k = v)) of many 0
theorem s_isN_k {kd : Nat → Nat} {vl wd : Nat → Int64} {a f : Nat} (h : s_isN kd vl wd a f = true) : f = 0 ∧ kd a = 1 := by
  unfold s_isN at h
  simp only [Bool.and_eq_true, decide_eq_true_eq] at h
  exact ⟨h.1, h.2.1⟩
def s_tT (kd pl : Nat → Nat) (vl wd : Nat → Int64) (na : Int64 → Int32) (a f : Nat) (fr bu : Int32) : Int32 × Nat × Nat :=
  if f = 0 then (if s_isN kd vl wd a f = true then (if (decide (0 ≤ na (vl a) - fr) && decide (na (vl a) - fr ≤ 5)) = true then (if (bu >>> ((na (vl a) - fr) &&& 31)) &&& 1 = 1 then (0, a, s_wr pl a f 3) else (na (vl a) - fr, a + 1, f)) else (0, a, s_wr pl a f 2)) else (0, a, s_wr pl a f 1)) else (0, a, f)
