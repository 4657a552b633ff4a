/-! TOKENS AT HAND, in plain Lean -/
set_option maxRecDepth 100000
theorem s_run_p {p : Int32 → Bool} {t : Nat → Int32} : ∀ f k j, k ≤ j → j < s_run p t f k → p (t j) = true
  | 0, k, j, h1, h2 => by
    have h9 : j < k := h2
    omega
  | f + 1, k, j, h1, h2 => by
    have h9 : j < (if p (t k) = true then s_run p t f (k + 1) else k) := h2
    split at h9
    · rename_i h
      by_cases e : j = k
      · rw [e]; exact h
      · exact s_run_p f (k + 1) j (by omega) h9
    · omega
theorem s_to_p {p : Int32 → Bool} {t : Nat → Int32} {n k j : Nat} (h1 : k ≤ j) (h2 : j < s_to p t n k) : p (t j) = true := s_run_p _ _ _ h1 h2
section RTK
variable {T : rTP} {a : Nat}
theorem rTk.n (h : rTk T) : T.n ≤ 1000 := h.1.1
theorem rTk.at (h : rTk T) (ha : a ≤ T.cnt) : T.kd a = k_kd T.t T.n (T.pl a) := (h.2.1.2.2 a ha).2.1
theorem rTk.c (h : rTk T) : T.cnt ≤ 1000 := h.2.1.2.1
theorem rTk.end (h : rTk T) : T.pl T.cnt = T.n := ((h.2.1.2.2 T.cnt (Nat.le_refl _)).1).trans h.2.1.1
theorem rTk.lt (h : rTk T) (ha : a ≤ T.cnt) (hk : ¬ T.kd a = 0) : a < T.cnt ∧ T.pl a < T.n := by
  by_cases e : a = T.cnt
  · exfalso
    apply hk
    rw [h.at ha, e, h.end]
    unfold k_kd
    rw [if_neg (Nat.lt_irrefl _)]
  · exact ⟨by omega, ((h.2.1.2.2 a ha).2.2 (by omega)).1⟩
theorem rTk.k0 (h : rTk T) (ha : a < T.cnt) : ¬ T.kd a = 0 := by
  have h9 := ((h.2.1.2.2 a (by omega)).2.2 ha).1
  rw [h.at (by omega)]
  unfold k_kd
  rw [if_pos h9]
  repeat' split
  all_goals decide
theorem rTk.le (h : rTk T) (ha : a ≤ T.cnt) : T.pl a ≤ T.n := by
  by_cases e : a = T.cnt
  · rw [e, h.end]; exact Nat.le_refl _
  · exact Nat.le_of_lt ((h.2.1.2.2 a ha).2.2 (by omega)).1
theorem rTk.nx (h : rTk T) (ha : a < T.cnt) : k_to T.t T.n (T.pl a) ≤ T.n ∧ s_to s_bl T.t T.n (k_to T.t T.n (T.pl a)) = T.pl (a + 1) := by
  have h9 := ((h.2.1.2.2 a (by omega)).2.2 ha).1
  have e1 : k_to T.t T.n (T.pl a) = s_end T.t T.n (T.pl a) := if_pos h9
  rw [e1]
  refine ⟨(s_end_b h9).2, ?_⟩
  rw [(h.2.1.2.2 (a + 1) (by omega)).1, (h.2.1.2.2 a (by omega)).1]
  rfl
theorem rTk.to (h : rTk T) (ha : a ≤ T.cnt) : T.pl a ≤ k_to T.t T.n (T.pl a) ∧ k_to T.t T.n (T.pl a) ≤ T.n := by
  unfold k_to
  split
  · rename_i h9
    have := s_end_b (t := T.t) h9
    omega
  · have := h.le ha
    omega
theorem rTk.kd4 (h : rTk T) (ha : a ≤ T.cnt) : T.kd a ≤ 4 := by
  rw [h.at ha]
  unfold k_kd
  repeat' split
  all_goals decide
theorem rTk.sg (h : rTk T) (ha : a ≤ T.cnt) (hk : T.kd a = 3) : T.vl a = (T.t (T.pl a)).toInt64 := by
  obtain ⟨h1, h2⟩ := h.lt ha (by omega)
  rw [((h.2.1.2.2 a ha).2.2 h1).2]
  rw [h.at ha] at hk
  unfold k_kd at hk
  rw [if_pos h2] at hk
  unfold s_vl
  split at hk
  · split at hk <;> exact absurd hk (by decide)
  · rename_i h3
    rw [if_neg h3]
    split at hk
    · split at hk <;> exact absurd hk (by decide)
    · rename_i h4
      rw [if_neg h4]
theorem rTk.wr (h : rTk T) (ha : a ≤ T.cnt) (hk : T.kd a = 1) : T.vl a = s_w37 T.t (T.pl a) (k_to T.t T.n (T.pl a) - T.pl a) ∧ k_to T.t T.n (T.pl a) - T.pl a ≤ 8 ∧ T.pl a < k_to T.t T.n (T.pl a) ∧ ∀ j, j < k_to T.t T.n (T.pl a) - T.pl a → s_le (T.t (T.pl a + j)) = true := by
  obtain ⟨h1, h2⟩ := h.lt ha (by omega)
  rw [((h.2.1.2.2 a ha).2.2 h1).2]
  rw [h.at ha] at hk
  unfold k_kd at hk
  rw [if_pos h2] at hk
  have e1 : k_to T.t T.n (T.pl a) = s_end T.t T.n (T.pl a) := if_pos h2
  rw [e1]
  unfold s_vl
  split at hk
  · rename_i h3
    rw [if_pos h3]
    split at hk
    · exact absurd hk (by decide)
    · rename_i h4
      refine ⟨rfl, by omega, (s_end_b h2).1, fun j hj => ?_⟩
      have e2 : s_end T.t T.n (T.pl a) = s_to s_le T.t T.n (T.pl a) := by unfold s_end; rw [if_pos h3]
      rw [e2] at hj
      exact s_to_p (n := T.n) (k := T.pl a) (Nat.le_add_right _ _) (by omega)
  · split at hk
    · split at hk <;> exact absurd hk (by decide)
    · split at hk <;> exact absurd hk (by decide)
theorem k_w10 {t : Nat → Int32} {c : Nat → Nat} {p : Nat} : ∀ m, (∀ j, j < m → t (p + j) = nI (c (p + j)) ∧ 48 ≤ c (p + j) ∧ c (p + j) ≤ 57) → s_w10 t p m = Int64.ofNat (k_n10 c p m)
  | 0, _ => rfl
  | m + 1, h => by
    have ih := k_w10 m (fun j hj => h j (by omega))
    obtain ⟨h1, h2, h3⟩ := h m (by omega)
    unfold s_w10 k_n10
    by_cases hm : m < 4
    · rw [if_pos hm, if_pos hm, ih, h1]
      generalize c (p + m) = x at h2 h3
      have e1 : (nI x).toInt64 = Int64.ofNat (x - 48) + 48 := by
        have : ∀ x, x < 58 → 48 ≤ x → (nI x).toInt64 = Int64.ofNat (x - 48) + 48 := by decide +kernel
        exact this x (by omega) h2
      rw [e1, Int64.ofNat_add, Int64.ofNat_mul, ← Int64.add_assoc, Int64.add_sub_cancel]
      rfl
    · rw [if_neg hm, if_neg hm, ih]
theorem rTk.nu (h : rTk T) (ha : a ≤ T.cnt) (hk : T.kd a = 2) : T.vl a = Int64.ofNat (k_nv T.t T.c T.n (T.pl a)) ∧ k_nv T.t T.c T.n (T.pl a) < 10 ^ 4 := by
  obtain ⟨h1, h2⟩ := h.lt ha (by omega)
  rw [((h.2.1.2.2 a ha).2.2 h1).2]
  rw [h.at ha] at hk
  unfold k_kd at hk
  rw [if_pos h2] at hk
  unfold s_vl k_nv
  split at hk
  · split at hk <;> exact absurd hk (by decide)
  · rename_i h3
    rw [if_neg h3]
    split at hk
    · rename_i h4
      rw [if_pos h4]
      have e2 : s_end T.t T.n (T.pl a) = s_to s_di T.t T.n (T.pl a) := by unfold s_end; rw [if_neg h3, if_pos h4]
      have hb := s_end_b (t := T.t) h2
      have hc : ∀ j, j < s_end T.t T.n (T.pl a) - T.pl a → T.t (T.pl a + j) = nI (T.c (T.pl a + j)) ∧ 48 ≤ T.c (T.pl a + j) ∧ T.c (T.pl a + j) ≤ 57 := fun j hj => by
        have h9 := h.1.2 (T.pl a + j) (by omega)
        have hd := s_to_p (p := s_di) (t := T.t) (n := T.n) (k := T.pl a) (j := T.pl a + j) (Nat.le_add_right _ _) (by omega)
        rw [h9.1] at hd
        exact ⟨h9.1, (k_di_n _ h9.2).mp hd⟩
      exact ⟨k_w10 _ hc, (k_n10_le _ (fun j hj => (hc j hj).2.2)).1⟩
    · split at hk <;> exact absurd hk (by decide)
end RTK
/-- a text's word is at hand just if the values are the same -/
theorem k_word_at {T : rTP} {a i k : Nat} (hT : rTk T) (ha : a ≤ T.cnt) (hk : T.kd a = 1) (h1 : 1 ≤ i) (hi : i < 12) (hm : k < kmw i) : (decide (k_to T.t T.n (T.pl a) - T.pl a = koff i (k + 1) - 1 - koff i k) && k_eqb T.t (T.pl a) (kt i) (koff i k) (koff i (k + 1) - 1 - koff i k)) = decide (T.vl a = T.wd (kix i k)) := by
  obtain ⟨e1, e2, e3, e4⟩ := hT.wr ha hk
  obtain ⟨-, -, g⟩ := k_wok_a h1 hi
  obtain ⟨g1, g2, g3, g4, g5, g6, g7⟩ := g k hm
  rw [e1, hT.2.2 _ g7, g6]
  have h9 := k37_eq (f := T.t) (h := kt i) (q := T.pl a) (r := koff i k) e2 g4 e4 (k_lets_i _ g5)
  rw [Bool.eq_iff_iff, Bool.and_eq_true, decide_eq_true_eq, decide_eq_true_eq, h9, k_eqb_i]
  constructor
  · rintro ⟨z1, z2⟩
    exact ⟨z1, fun j hj => z2 j (by omega)⟩
  · rintro ⟨z1, z2⟩
    exact ⟨z1, fun j hj => z2 j (by omega)⟩
theorem i64_inj {x y : Int32} : x.toInt64 = y.toInt64 ↔ x = y := by
  constructor
  · intro h
    have h9 := congrArg Int64.toInt h
    rw [Int32.toInt_toInt64, Int32.toInt_toInt64] at h9
    exact Int32.toInt_inj.mp h9
  · intro h; rw [h]
