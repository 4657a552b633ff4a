/-! EXPRESSIONS READ, in plain Lean -/
set_option maxRecDepth 100000
/-- codes read, laid over the model's ints -/
def s_cd (I : Nat → Nat → Int32) (cs : List (Nat × Int32)) : Nat → Nat → Int32 := fun a j =>
  if a = 11 ∧ 1100 ≤ j ∧ j < 1100 + cs.length then nI (cs.getD (j - 1100) (0, 0)).1 else if a = 12 ∧ 1100 ≤ j ∧ j < 1100 + cs.length then (cs.getD (j - 1100) (0, 0)).2 else if a = 99 ∧ j = 13 then nI cs.length else I a j
theorem s_getD_1 {cs : List (Nat × Int32)} {c : Nat × Int32} : (cs ++ [c]).getD cs.length (0, 0) = c := by
  simp [List.getD]
theorem s_getD_0 {cs : List (Nat × Int32)} {c : Nat × Int32} {k : Nat} (h : k < cs.length) : (cs ++ [c]).getD k (0, 0) = cs.getD k (0, 0) := by
  simp [List.getD, List.getElem?_append_left h]
theorem s_cd_1 {I : Nat → Nat → Int32} {cs : List (Nat × Int32)} {c : Nat} {v : Int32} : zs (zs (zs (s_cd I cs) 11 (cs.length + 1100) (nI c)) 12 (cs.length + 1100) v) 99 13 (nI (cs.length + 1)) = s_cd I (cs ++ [(c, v)]) := by
  funext a j
  have hl : (cs ++ [(c, v)]).length = cs.length + 1 := by simp
  by_cases h9 : a = 99 ∧ j = 13
  · obtain ⟨rfl, rfl⟩ := h9
    show nI (cs.length + 1) = nI (cs ++ [(c, v)]).length
    rw [hl]
  · by_cases h11 : a = 11
    · subst h11
      show (if 11 = 12 ∧ j = cs.length + 1100 then v else if 11 = 11 ∧ j = cs.length + 1100 then nI c else if 11 = 11 ∧ 1100 ≤ j ∧ j < 1100 + cs.length then nI (cs.getD (j - 1100) (0, 0)).1 else I 11 j) = (if 11 = 11 ∧ 1100 ≤ j ∧ j < 1100 + (cs ++ [(c, v)]).length then nI ((cs ++ [(c, v)]).getD (j - 1100) (0, 0)).1 else I 11 j)
      rw [if_neg (by omega), hl]
      by_cases hj : j = cs.length + 1100
      · subst hj
        rw [if_pos ⟨rfl, rfl⟩, if_pos (by omega), show cs.length + 1100 - 1100 = cs.length by omega, s_getD_1]
      · rw [if_neg (by omega)]
        by_cases hk : 1100 ≤ j ∧ j < 1100 + cs.length
        · rw [if_pos ⟨rfl, hk⟩, if_pos (by omega), s_getD_0 (by omega)]
        · rw [if_neg (by omega), if_neg (by omega)]
    · by_cases h12 : a = 12
      · subst h12
        show (if 12 = 12 ∧ j = cs.length + 1100 then v else if 12 = 12 ∧ 1100 ≤ j ∧ j < 1100 + cs.length then (cs.getD (j - 1100) (0, 0)).2 else I 12 j) = (if 12 = 12 ∧ 1100 ≤ j ∧ j < 1100 + (cs ++ [(c, v)]).length then ((cs ++ [(c, v)]).getD (j - 1100) (0, 0)).2 else I 12 j)
        rw [hl]
        by_cases hj : j = cs.length + 1100
        · subst hj
          rw [if_pos ⟨rfl, rfl⟩, if_pos (by omega), show cs.length + 1100 - 1100 = cs.length by omega, s_getD_1]
        · rw [if_neg (by omega)]
          by_cases hk : 1100 ≤ j ∧ j < 1100 + cs.length
          · rw [if_pos ⟨rfl, hk⟩, if_pos (by omega), s_getD_0 (by omega)]
          · rw [if_neg (by omega), if_neg (by omega)]
      · simp [zs, s_cd, h9, h11, h12]
/-- the state of a reading: at, fault, codes -/
abbrev sRS : Type := Nat × Nat × List (Nat × Int32)
def s_emit (s : sRS) (c : Nat) (v : Int32) : sRS := (s.1, s.2.1, s.2.2 ++ [(c, v)])
section EXPR
variable (kd pl : Nat → Nat) (vl wd : Nat → Int64)
/-- p, then * p again and again -/
def s_prl (p : sRS → sRS) : Nat → sRS → sRS
  | 0, s => s
  | m + 1, s => if s_isS kd vl s.1 s.2.1 42 = true then s_prl p m (s_emit (p (s.1 + 1, s.2)) 6 0) else s
def s_prods (p : sRS → sRS) (s : sRS) : sRS := s_prl kd vl p 1001 (p s)
def s_sul (p : sRS → sRS) : Nat → sRS → sRS
  | 0, s => s
  | m + 1, s => if (s_isS kd vl s.1 s.2.1 43 || s_isS kd vl s.1 s.2.1 45) = true then s_sul p m (s_emit (s_prods kd vl p (s.1 + 1, s.2)) (if s_isS kd vl s.1 s.2.1 43 = true then 4 else 5) 0) else s
def s_sums (p : sRS → sRS) (s : sRS) : sRS := s_sul kd vl p 1001 (s_prods kd vl p s)
def s_tst (p : sRS → sRS) (s : sRS) : sRS :=
  let t := s_sums kd vl p s
  if s_isS kd vl t.1 t.2.1 60 = true then s_emit (s_sums kd vl p (t.1 + 1, t.2)) 7 0 else if s_isS kd vl t.1 t.2.1 61 = true then s_emit (s_sums kd vl p (t.1 + 1, t.2)) 8 0 else t
def s_whl (p : sRS → sRS) : Nat → sRS → sRS
  | 0, s => s
  | m + 1, s => if (s_isW kd vl wd s.1 s.2.1 19 || s_isW kd vl wd s.1 s.2.1 20) = true then s_whl p m (s_emit (s_tst kd vl p (s.1 + 1, s.2)) (if s_isW kd vl wd s.1 s.2.1 19 = true then 9 else 10) 0) else s
def s_whole (p : sRS → sRS) (s : sRS) : sRS := s_whl kd vl wd p 1001 (s_tst kd vl p s)
/-- a part, r deep at most -/
def s_part : Nat → sRS → sRS
  | 0, s => if s.2.1 = 0 then (if s_wh kd vl wd s.1 0 21 4 < 0 ∧ ¬ kd s.1 = 2 ∧ s_isS kd vl s.1 0 40 = false ∧ s_isW kd vl wd s.1 0 18 = false then (s.1, s_wr pl s.1 0 1, s.2.2) else (s.1, s_wr pl s.1 0 5, s.2.2)) else s
  | r + 1, s => if s.2.1 = 0 then (if s_wh kd vl wd s.1 0 21 4 < 0 ∧ ¬ kd s.1 = 2 ∧ s_isS kd vl s.1 0 40 = false ∧ s_isW kd vl wd s.1 0 18 = false then (s.1, s_wr pl s.1 0 1, s.2.2) else if s_isW kd vl wd s.1 0 18 = true then s_emit (s_part r (s.1 + 1, s.2)) 3 0 else if s_isS kd vl s.1 0 40 = true then ((s_tS kd pl vl (s_whole kd vl wd (s_part r) (s.1 + 1, s.2)).1 (s_whole kd vl wd (s_part r) (s.1 + 1, s.2)).2.1 41).1, (s_tS kd pl vl (s_whole kd vl wd (s_part r) (s.1 + 1, s.2)).1 (s_whole kd vl wd (s_part r) (s.1 + 1, s.2)).2.1 41).2, (s_whole kd vl wd (s_part r) (s.1 + 1, s.2)).2.2) else if kd s.1 = 2 then (s.1 + 1, s.2.1, s.2.2 ++ [(1, (vl s.1).toInt32)]) else (s.1 + 1, s.2.1, s.2.2 ++ [(2, s_wh kd vl wd s.1 0 21 4)])) else s
end EXPR
section EXPR1
variable {kd pl : Nat → Nat} {vl wd : Nat → Int64}
theorem s_part_0 {s : sRS} : s_part kd pl vl wd 0 s = if s.2.1 = 0 then (if s_wh kd vl wd s.1 0 21 4 < 0 ∧ ¬ kd s.1 = 2 ∧ s_isS kd vl s.1 0 40 = false ∧ s_isW kd vl wd s.1 0 18 = false then (s.1, s_wr pl s.1 0 1, s.2.2) else (s.1, s_wr pl s.1 0 5, s.2.2)) else s := rfl
theorem s_part_1 {r : Nat} {s : sRS} : s_part kd pl vl wd (r + 1) s = if s.2.1 = 0 then (if s_wh kd vl wd s.1 0 21 4 < 0 ∧ ¬ kd s.1 = 2 ∧ s_isS kd vl s.1 0 40 = false ∧ s_isW kd vl wd s.1 0 18 = false then (s.1, s_wr pl s.1 0 1, s.2.2) else if s_isW kd vl wd s.1 0 18 = true then s_emit (s_part kd pl vl wd r (s.1 + 1, s.2)) 3 0 else if s_isS kd vl s.1 0 40 = true then ((s_tS kd pl vl (s_whole kd vl wd (s_part kd pl vl wd r) (s.1 + 1, s.2)).1 (s_whole kd vl wd (s_part kd pl vl wd r) (s.1 + 1, s.2)).2.1 41).1, (s_tS kd pl vl (s_whole kd vl wd (s_part kd pl vl wd r) (s.1 + 1, s.2)).1 (s_whole kd vl wd (s_part kd pl vl wd r) (s.1 + 1, s.2)).2.1 41).2, (s_whole kd vl wd (s_part kd pl vl wd r) (s.1 + 1, s.2)).2.2) else if kd s.1 = 2 then (s.1 + 1, s.2.1, s.2.2 ++ [(1, (vl s.1).toInt32)]) else (s.1 + 1, s.2.1, s.2.2 ++ [(2, s_wh kd vl wd s.1 0 21 4)])) else s := rfl
theorem s_tT_k {na : Int64 → Int32} {a f : Nat} {fr bu v : Int32} {a' f' : Nat} (h : s_tT kd pl vl wd na a f fr bu = (v, a', f')) : (∃ k, k ≤ 5 ∧ v = nI k) ∧ a ≤ a' := by
  unfold s_tT at h
  have z : ∃ k, k ≤ 5 ∧ (0 : Int32) = nI k := ⟨0, by decide, rfl⟩
  split at h
  · split at h
    · split at h
      · rename_i hw
        split at h
        · cases h; exact ⟨z, Nat.le_refl _⟩
        · obtain ⟨k, -, hk, e⟩ := zwin 0 5 (by decide) hw
          cases h; exact ⟨⟨k, hk, e⟩, Nat.le_succ _⟩
      · cases h; exact ⟨z, Nat.le_refl _⟩
    · cases h; exact ⟨z, Nat.le_refl _⟩
  · cases h; exact ⟨z, Nat.le_refl _⟩
theorem s_tN_k {a f : Nat} {lo hi v : Int32} {a' f' : Nat} (h : s_tN kd pl vl a f lo hi = (v, a', f')) : a ≤ a' := by
  unfold s_tN at h
  repeat' split at h
  all_goals (cases h; omega)
theorem s_tW_k {a f w : Nat} {a' f' : Nat} (h : s_tW kd pl vl wd a f w = (a', f')) : a ≤ a' := by
  unfold s_tW at h
  split at h
  all_goals (cases h; omega)
theorem s_tA_k {a f w : Nat} {lo hi v : Int32} {a' f' : Nat} (h : s_tA kd pl vl wd a f w lo hi = (v, a', f')) : a ≤ a' := by
  unfold s_tA at h
  exact Nat.le_trans (s_tW_k rfl) (s_tN_k h)
theorem s_tO_k {a f w m : Nat} {v : Int32} {a' f' : Nat} (h : s_tO kd pl vl wd a f w m = (v, a', f')) : a ≤ a' := by
  unfold s_tO at h
  repeat' split at h
  all_goals (cases h; omega)
theorem s_tS_k {a f : Nat} {c : Int32} {a' f' : Nat} (h : s_tS kd pl vl a f c = (a', f')) : a ≤ a' ∧ (f = 0 → f' = 0 → a < a') := by
  unfold s_tS at h
  split at h
  · cases h; exact ⟨by omega, fun _ _ => by omega⟩
  · cases h
    refine ⟨by omega, fun h1 h2 => ?_⟩
    unfold s_wr at h2
    rw [if_pos h1] at h2
    omega
theorem s_wr_0 {a w : Nat} (h : 0 < w) : ¬ s_wr pl a 0 w = 0 := by unfold s_wr; rw [if_pos rfl]; omega
end EXPR1
