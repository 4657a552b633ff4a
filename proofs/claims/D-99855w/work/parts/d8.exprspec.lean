/-! EXPRESSIONS READ: what a reading adds, in plain Lean -/
set_option maxRecDepth 100000
section AP
variable {kd pl : Nat → Nat} {vl wd : Nat → Int64}
/-- a reading adds its code behind, whatever lies there -/
def s_ap (p : sRS → sRS) : Prop := ∀ a f, ∃ a' f' c1, ∀ cs, p (a, f, cs) = (a', f', cs ++ c1)
/-- a fault stays, and nothing is read behind it -/
def s_fx (p : sRS → sRS) : Prop := ∀ a f cs, ¬ f = 0 → p (a, f, cs) = (a, f, cs)
theorem s_ap.eq {p : sRS → sRS} (h : s_ap p) {a f a' f' : Nat} {c1 : List (Nat × Int32)} (e : p (a, f, []) = (a', f', c1)) : ∀ cs, p (a, f, cs) = (a', f', cs ++ c1) := fun cs => by
  obtain ⟨a2, f2, c2, h2⟩ := h a f
  have e2 := (h2 []).symm.trans e
  rw [List.nil_append] at e2
  obtain ⟨rfl, e3⟩ := Prod.mk.inj e2
  obtain ⟨rfl, rfl⟩ := Prod.mk.inj e3
  exact h2 cs
theorem s_ap.f {p : sRS → sRS} (h : s_ap p) {a f : Nat} (cs : List (Nat × Int32)) : (p (a, f, cs)).1 = (p (a, f, [])).1 ∧ (p (a, f, cs)).2.1 = (p (a, f, [])).2.1 := by
  obtain ⟨a2, f2, c2, h2⟩ := h a f
  rw [h2, h2]
  exact ⟨rfl, rfl⟩
theorem s_ap.loop {p q : sRS → sRS} (hp : s_ap p) (hq : s_ap q) {a f k : Nat} {v : Int32} : ∃ a' f' c1, ∀ cs, q (s_emit (p (a, f, cs)) k v) = (a', f', cs ++ c1) := by
  obtain ⟨a1, f1, c1, h1⟩ := hp a f
  obtain ⟨a2, f2, c2, h2⟩ := hq a1 f1
  refine ⟨a2, f2, c1 ++ (k, v) :: c2, fun cs => ?_⟩
  rw [h1]
  show q (a1, f1, (cs ++ c1) ++ [(k, v)]) = _
  rw [h2]
  simp
theorem s_ap_id : s_ap (fun s => s) := fun a f => ⟨a, f, [], fun cs => by simp⟩
theorem s_ap.comp {p q : sRS → sRS} (hp : s_ap p) (hq : s_ap q) : s_ap (fun s => q (p s)) := fun a f => by
  obtain ⟨a1, f1, c1, h1⟩ := hp a f
  obtain ⟨a2, f2, c2, h2⟩ := hq a1 f1
  refine ⟨a2, f2, c1 ++ c2, fun cs => ?_⟩
  show q (p (a, f, cs)) = _
  rw [h1, h2, List.append_assoc]
theorem s_ap_prl {p : sRS → sRS} (h : s_ap p) : ∀ m, s_ap (s_prl kd vl p m)
  | 0 => fun a f => ⟨a, f, [], fun cs => by simp [s_prl]⟩
  | m + 1 => fun a f => by
    by_cases c : s_isS kd vl a f 42 = true
    · obtain ⟨a', f', c1, e⟩ := s_ap.loop (a := a + 1) (f := f) (k := 6) (v := 0) h (s_ap_prl h m)
      refine ⟨a', f', c1, fun cs => ?_⟩
      show (if s_isS kd vl a f 42 = true then _ else _) = _
      rw [if_pos c]
      exact e cs
    · refine ⟨a, f, [], fun cs => ?_⟩
      show (if s_isS kd vl a f 42 = true then _ else _) = _
      rw [if_neg c]
      simp
theorem s_ap_prods {p : sRS → sRS} (h : s_ap p) : s_ap (s_prods kd vl p) := h.comp (s_ap_prl h 1001)
theorem s_ap_sul {p : sRS → sRS} (h : s_ap p) : ∀ m, s_ap (s_sul kd vl p m)
  | 0 => fun a f => ⟨a, f, [], fun cs => by simp [s_sul]⟩
  | m + 1 => fun a f => by
    by_cases c : (s_isS kd vl a f 43 || s_isS kd vl a f 45) = true
    · obtain ⟨a', f', c1, e⟩ := s_ap.loop (a := a + 1) (f := f) (k := if s_isS kd vl a f 43 = true then 4 else 5) (v := 0) (s_ap_prods (kd := kd) (vl := vl) h) (s_ap_sul h m)
      refine ⟨a', f', c1, fun cs => ?_⟩
      show (if (s_isS kd vl a f 43 || s_isS kd vl a f 45) = true then _ else _) = _
      rw [if_pos c]
      exact e cs
    · refine ⟨a, f, [], fun cs => ?_⟩
      show (if (s_isS kd vl a f 43 || s_isS kd vl a f 45) = true then _ else _) = _
      rw [if_neg c]
      simp
theorem s_ap_sums {p : sRS → sRS} (h : s_ap p) : s_ap (s_sums kd vl p) := (s_ap_prods h).comp (s_ap_sul h 1001)
theorem s_ap_tst {p : sRS → sRS} (h : s_ap p) : s_ap (s_tst kd vl p) := fun a f => by
  obtain ⟨a1, f1, c1, h1⟩ := s_ap_sums (kd := kd) (vl := vl) h a f
  unfold s_tst
  by_cases g1 : s_isS kd vl a1 f1 60 = true
  · obtain ⟨a2, f2, c2, h2⟩ := s_ap.loop (a := a1 + 1) (f := f1) (k := 7) (v := 0) (s_ap_sums (kd := kd) (vl := vl) h) s_ap_id
    refine ⟨a2, f2, c1 ++ c2, fun cs => ?_⟩
    simp only [h1, if_pos g1]
    rw [h2, List.append_assoc]
  · by_cases g2 : s_isS kd vl a1 f1 61 = true
    · obtain ⟨a2, f2, c2, h2⟩ := s_ap.loop (a := a1 + 1) (f := f1) (k := 8) (v := 0) (s_ap_sums (kd := kd) (vl := vl) h) s_ap_id
      refine ⟨a2, f2, c1 ++ c2, fun cs => ?_⟩
      simp only [h1, if_neg g1, if_pos g2]
      rw [h2, List.append_assoc]
    · exact ⟨a1, f1, c1, fun cs => by simp only [h1, if_neg g1, if_neg g2]⟩
theorem s_ap_whl {p : sRS → sRS} (h : s_ap p) : ∀ m, s_ap (s_whl kd vl wd p m)
  | 0 => fun a f => ⟨a, f, [], fun cs => by simp [s_whl]⟩
  | m + 1 => fun a f => by
    by_cases c : (s_isW kd vl wd a f 19 || s_isW kd vl wd a f 20) = true
    · obtain ⟨a', f', c1, e⟩ := s_ap.loop (a := a + 1) (f := f) (k := if s_isW kd vl wd a f 19 = true then 9 else 10) (v := 0) (s_ap_tst (kd := kd) (vl := vl) h) (s_ap_whl h m)
      refine ⟨a', f', c1, fun cs => ?_⟩
      show (if (s_isW kd vl wd a f 19 || s_isW kd vl wd a f 20) = true then _ else _) = _
      rw [if_pos c]
      exact e cs
    · refine ⟨a, f, [], fun cs => ?_⟩
      show (if (s_isW kd vl wd a f 19 || s_isW kd vl wd a f 20) = true then _ else _) = _
      rw [if_neg c]
      simp
theorem s_ap_whole {p : sRS → sRS} (h : s_ap p) : s_ap (s_whole kd vl wd p) := (s_ap_tst h).comp (s_ap_whl h 1001)
theorem s_ap_part : ∀ r, s_ap (s_part kd pl vl wd r)
  | 0 => fun a f => by
    by_cases hf : f = 0
    · by_cases c : s_wh kd vl wd a 0 21 4 < 0 ∧ ¬ kd a = 2 ∧ s_isS kd vl a 0 40 = false ∧ s_isW kd vl wd a 0 18 = false
      · exact ⟨a, s_wr pl a 0 1, [], fun cs => by rw [s_part_0]; simp only [if_pos hf, if_pos c, List.append_nil]⟩
      · exact ⟨a, s_wr pl a 0 5, [], fun cs => by rw [s_part_0]; simp only [if_pos hf, if_neg c, List.append_nil]⟩
    · exact ⟨a, f, [], fun cs => by rw [s_part_0]; simp only [if_neg hf, List.append_nil]⟩
  | r + 1 => fun a f => by
    have h0 := s_ap_part r
    by_cases hf : f = 0
    · subst hf
      by_cases c : s_wh kd vl wd a 0 21 4 < 0 ∧ ¬ kd a = 2 ∧ s_isS kd vl a 0 40 = false ∧ s_isW kd vl wd a 0 18 = false
      · exact ⟨a, s_wr pl a 0 1, [], fun cs => by rw [s_part_1]; simp only [if_true, if_pos c, List.append_nil]⟩
      · by_cases c1 : s_isW kd vl wd a 0 18 = true
        · obtain ⟨a', f', c2, e⟩ := s_ap.loop (a := a + 1) (f := 0) (k := 3) (v := 0) h0 s_ap_id
          exact ⟨a', f', c2, fun cs => by rw [s_part_1]; simp only [if_true, if_neg c, if_pos c1]; exact e cs⟩
        · by_cases c2 : s_isS kd vl a 0 40 = true
          · obtain ⟨a', f', c3, e⟩ := s_ap_whole (kd := kd) (vl := vl) (wd := wd) h0 (a + 1) 0
            exact ⟨(s_tS kd pl vl a' f' 41).1, (s_tS kd pl vl a' f' 41).2, c3, fun cs => by rw [s_part_1]; simp only [if_true, if_neg c, if_neg c1, if_pos c2, e]⟩
          · by_cases c3 : kd a = 2
            · exact ⟨a + 1, 0, [(1, (vl a).toInt32)], fun cs => by rw [s_part_1]; simp only [if_true, if_neg c, if_neg c1, if_neg c2, if_pos c3]⟩
            · exact ⟨a + 1, 0, [(2, s_wh kd vl wd a 0 21 4)], fun cs => by rw [s_part_1]; simp only [if_true, if_neg c, if_neg c1, if_neg c2, if_neg c3]⟩
    · exact ⟨a, f, [], fun cs => by rw [s_part_1]; simp only [if_neg hf, List.append_nil]⟩
theorem s_isS_f {a f : Nat} {c : Int32} (hf : ¬ f = 0) : s_isS kd vl a f c = false := by
  unfold s_isS
  rw [decide_eq_false hf, Bool.false_and]
theorem s_isW_f {a f w : Nat} (hf : ¬ f = 0) : s_isW kd vl wd a f w = false := by
  unfold s_isW
  rw [decide_eq_false hf, Bool.false_and]
theorem s_fx_prl {p : sRS → sRS} : ∀ m, s_fx (s_prl kd vl p m)
  | 0 => fun _ _ _ _ => rfl
  | m + 1 => fun a f cs hf => by
    show (if s_isS kd vl a f 42 = true then _ else _) = _
    rw [if_neg (by rw [s_isS_f hf]; decide)]
theorem s_fx_prods {p : sRS → sRS} (h : s_fx p) : s_fx (s_prods kd vl p) := fun a f cs hf => by
  unfold s_prods
  rw [h a f cs hf, s_fx_prl 1001 a f cs hf]
theorem s_fx_sul {p : sRS → sRS} : ∀ m, s_fx (s_sul kd vl p m)
  | 0 => fun _ _ _ _ => rfl
  | m + 1 => fun a f cs hf => by
    show (if (s_isS kd vl a f 43 || s_isS kd vl a f 45) = true then _ else _) = _
    rw [if_neg (by rw [s_isS_f hf, s_isS_f hf]; decide)]
theorem s_fx_sums {p : sRS → sRS} (h : s_fx p) : s_fx (s_sums kd vl p) := fun a f cs hf => by
  unfold s_sums
  rw [s_fx_prods h a f cs hf, s_fx_sul 1001 a f cs hf]
theorem s_fx_tst {p : sRS → sRS} (h : s_fx p) : s_fx (s_tst kd vl p) := fun a f cs hf => by
  unfold s_tst
  simp only [s_fx_sums h a f cs hf, s_isS_f hf]
  rfl
theorem s_fx_whl {p : sRS → sRS} : ∀ m, s_fx (s_whl kd vl wd p m)
  | 0 => fun _ _ _ _ => rfl
  | m + 1 => fun a f cs hf => by
    show (if (s_isW kd vl wd a f 19 || s_isW kd vl wd a f 20) = true then _ else _) = _
    rw [if_neg (by rw [s_isW_f hf, s_isW_f hf]; decide)]
theorem s_fx_whole {p : sRS → sRS} (h : s_fx p) : s_fx (s_whole kd vl wd p) := fun a f cs hf => by
  unfold s_whole
  rw [s_fx_tst h a f cs hf, s_fx_whl 1001 a f cs hf]
theorem s_fx_part : ∀ r, s_fx (s_part kd pl vl wd r)
  | 0 => fun a f cs hf => by rw [s_part_0]; exact if_neg hf
  | r + 1 => fun a f cs hf => by rw [s_part_1]; exact if_neg hf
end AP
