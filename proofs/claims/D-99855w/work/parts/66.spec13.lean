/-! A YEAR READ, in plain Lean -/
set_option maxRecDepth 100000
/-- a row laid over -/
def s_rw (I : Nat → Nat → Int32) (r : Nat) (T : Nat → Int32) : Nat → Nat → Int32 := fun i j => if i = r then T j else I i j
theorem s_rw_1 {I : Nat → Nat → Int32} {r k : Nat} {T : Nat → Int32} {v : Int32} : zs (s_rw I r T) r k v = s_rw I r (zs1 T k v) := by
  funext i j
  show (if i = r ∧ j = k then v else if i = r then T j else I i j) = (if i = r then (if j = k then v else T j) else I i j)
  by_cases h : i = r
  · by_cases h2 : j = k
    · rw [if_pos ⟨h, h2⟩, if_pos h, if_pos h2]
    · rw [if_neg (fun e => h2 e.2), if_pos h, if_pos h, if_neg h2]
  · rw [if_neg (fun e => h e.1), if_neg h, if_neg h]
theorem s_rw_self {I : Nat → Nat → Int32} {r : Nat} : s_rw I r (I r) = I := by
  funext i j
  show (if i = r then I r j else I i j) = I i j
  by_cases h : i = r
  · rw [if_pos h, h]
  · rw [if_neg h]
/-- so many entries of the lines' second half taken down -/
def s_cp1 (T : Nat → Int32) (n : Nat) : Nat → Int32 := fun j => if 1 ≤ j ∧ j < n + 1 then T (j + 124) else T j
theorem s_cp1_0 {T : Nat → Int32} : s_cp1 T 0 = T := by
  funext j
  exact if_neg (by omega)
theorem s_cp1_n {T : Nat → Int32} {n j : Nat} (h : n + 1 ≤ j) : s_cp1 T n j = T j := if_neg (by omega)
theorem s_cp1_1 {T : Nat → Int32} {n : Nat} (h : n ≤ 120) : zs1 (s_cp1 T n) (n + 1) (s_cp1 T n (n + 125)) = s_cp1 T (n + 1) := by
  rw [s_cp1_n (show n + 1 ≤ n + 125 by omega)]
  funext j
  show (if j = n + 1 then T (n + 125) else if 1 ≤ j ∧ j < n + 1 then T (j + 124) else T j) = (if 1 ≤ j ∧ j < n + 1 + 1 then T (j + 124) else T j)
  by_cases h1 : j = n + 1
  · rw [if_pos h1, if_pos (by omega), h1]
  · rw [if_neg h1]
    by_cases h2 : 1 ≤ j ∧ j < n + 1
    · rw [if_pos h2, if_pos (by omega)]
    · rw [if_neg h2, if_neg (by omega)]
/-- a year's reading: lines, how many, at, fault -/
abbrev sYS : Type := (Nat → Int32) × Nat × Nat × Nat
section YEAR
variable (kd pl : Nat → Nat) (vl wd : Nat → Int64) (na : Int64 → Int32)
def s_y1b (T : Nat → Int32) (n k : Nat) (t : Int32 × Nat × Nat) (u : Int32 × Nat × Nat) : sYS := (zs1 (zs1 (zs1 T (3 * n + 125) (nI k)) (3 * n + 126) t.1) (3 * n + 127) u.1, n + 1, u.2)
def s_y1a (T : Nat → Int32) (n k : Nat) (t : Int32 × Nat × Nat) : sYS := s_y1b T n k t (if k = 1 then s_tT kd pl vl wd na t.2.1 t.2.2 0 0 else (0, t.2))
def s_y1 (T : Nat → Int32) (n a : Nat) : sYS :=
  if s_wh kd vl wd a 0 10 4 < 0 then (T, n, a, s_wr pl a 0 1) else if n = 40 then (T, n, a, s_wr pl a 0 5)
  else s_y1a kd pl vl wd na T n (s_wh kd vl wd a 0 10 4).toNatClampNeg (if (s_wh kd vl wd a 0 10 4).toNatClampNeg = 0 then (0, a + 1, 0) else s_tT kd pl vl wd na (a + 1) 0 (if (s_wh kd vl wd a 0 10 4).toNatClampNeg = 3 then 0 else 20) 0)
def s_y2 (s : sYS) : sYS :=
  let t := s_y1 kd pl vl wd na s.1 s.2.1 s.2.2.1
  (t.1, t.2.1, s_tS kd pl vl t.2.2.1 t.2.2.2 59)
def s_ys : Nat → sYS → sYS
  | 0, s => s
  | m + 1, s => if s.2.2.2 = 0 ∧ ¬ kd s.2.2.1 = 0 then s_ys m (s_y2 kd pl vl wd na s) else s
end YEAR
