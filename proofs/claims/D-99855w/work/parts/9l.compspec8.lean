/-! AGES, what stays true, in plain Lean -/
set_option maxRecDepth 100000
section AG
variable {σ : Nat → Int32} {nh nd : Nat} {vs ds : Nat → Int32} {wv : Int32 → Int32 → Int32 → Int32 → Int32} {own : Nat → Nat} {now : Nat} {f : Nat → Nat}
theorem s_iv_set {d k : Nat} (h : s_iv σ nd) (hd : d < nd) (hnd : nd ≤ 6) (hk : k < 2 ^ 31) : s_iv (zs1 σ (d + 6) (nI k)) nd :=
  ⟨fun g h1 h2 => by rw [zs1_n (by omega), zs1_n (by omega)]; exact h.1 g h1 h2, fun g hg => by rw [zs1_n (by omega)]; exact h.2.1 g hg, fun g hg => by
    by_cases e : g = d
    · subst e
      rw [zs1_s]
      exact fun z => absurd z (nI_lt0 hk)
    · rw [zs1_n (by omega), zs1_n (by omega)]
      exact h.2.2 g hg⟩
theorem s_leave_if {d : Nat} (hi : s_iv σ nd) (h : s_iw σ nh nd) (hd : d < nd) (hnd : nd ≤ 6) (hnh : nh ≤ 4) : (if 0 ≤ σ (d + 6) then s_leave σ d else σ) = s_leave σ d := by
  split
  · rfl
  · rename_i hw
    exact (s_leave_no hi h hd hnd hnh (Int32.not_le.mp hw)).symm
theorem s_i_deed1 {x d h a1 a2 a3 : Nat} (hi : s_iv σ nd ∧ s_iw σ nh nd) (hd : d < nd) (hh : h < nh) (hnd : nd ≤ 6) (hnh : nh ≤ 4) : s_iv (s_deed1 vs nd σ x d h a1 a2 a3).1 nd ∧ s_iw (s_deed1 vs nd σ x d h a1 a2 a3).1 nh nd := by
  unfold s_deed1
  split
  · show s_iv (if 0 ≤ σ (d + 6) then s_leave σ d else σ) nd ∧ s_iw (if 0 ≤ σ (d + 6) then s_leave σ d else σ) nh nd
    rw [s_leave_if hi.1 hi.2 hd hnd hnh]
    exact ⟨s_iv_leave hi.1 (by omega), s_iw_leave hi.2 hnd⟩
  · split
    · show s_iv (if s_may vs σ nd d h = true then zs1 σ (d + 6) (nI h) else σ) nd ∧ s_iw (if s_may vs σ nd d h = true then zs1 σ (d + 6) (nI h) else σ) nh nd
      split
      · exact ⟨s_iv_set hi.1 hd hnd (by omega), s_iw_set hi.2 hh⟩
      · exact hi
    · exact hi
theorem s_i_deed {a : Nat} (hV : s_ok vs nh nd own) (h0 : 0 < nd) (hi : s_iv σ nd ∧ s_iw σ nh nd) : s_iv (s_deed f vs nh nd σ a).1 nd ∧ s_iw (s_deed f vs nh nd σ a).1 nh nd := by
  unfold s_deed
  exact s_i_deed1 hi (Nat.mod_lt _ h0) (Nat.mod_lt _ (by have := (hV.2.2.2.2 0 h0).2; omega)) hV.2.2.2.1 hV.2.1
theorem s_i_deedn {a : Nat} (hV : s_ok vs nh nd own) (hi : s_iv σ nd ∧ s_iw σ nh nd) : s_iv (s_deedn f vs nh nd σ a).1 nd ∧ s_iw (s_deedn f vs nh nd σ a).1 nh nd := by
  unfold s_deedn
  split
  · exact hi
  · exact s_i_deed hV (by omega) hi
theorem s_i_age {a : Nat} (hV : s_ok vs nh nd own) (hi : s_iv σ nd ∧ s_iw σ nh nd) : ∀ n, s_iv (s_age f wv vs ds nh nd own now σ a n).1 nd ∧ s_iw (s_age f wv vs ds nh nd own now σ a n).1 nh nd
  | 0 => hi
  | n + 1 => by
    have q := s_i_deedn (f := f) (a := (s_age f wv vs ds nh nd own now σ a n).2.1) hV (s_i_age (a := a) hV hi n)
    show s_iv (s_pass wv vs ds nh nd own (now + n) (s_deedn f vs nh nd (s_age f wv vs ds nh nd own now σ a n).1 (s_age f wv vs ds nh nd own now σ a n).2.1).1).1 nd ∧ s_iw (s_pass wv vs ds nh nd own (now + n) (s_deedn f vs nh nd (s_age f wv vs ds nh nd own now σ a n).1 (s_age f wv vs ds nh nd own now σ a n).2.1).1).1 nh nd
    exact ⟨s_iv_pass hV q.1, s_iw_pass hV q.2⟩
end AG
/-- what is said, summed -/
theorem s_says_6 {σ : Nat → Int32} {nd : Nat} (hz : s_cz σ nd) (hnd : nd ≤ 6) : s_sum (fun d => σ (d + 18)) 6 = s_sum (fun d => σ (d + 18)) nd := by
  have key : ∀ n, nd ≤ n → n ≤ 6 → s_sum (fun d => σ (d + 18)) n = s_sum (fun d => σ (d + 18)) nd := by
    intro n
    induction n with
    | zero => intro h1 h2; rw [show nd = 0 by omega]
    | succ n ih =>
      intro h1 h2
      by_cases e : nd = n + 1
      · rw [e]
      · show s_sum (fun d => σ (d + 18)) n + σ (n + 18) = _
        rw [(hz n (by omega) (by omega)).2, Int32.add_zero, ih (by omega) (by omega)]
  exact key 6 hnd (Nat.le_refl _)
/-- beds where no house is -/
theorem s_beds_4 {σ : Nat → Int32} {nh : Nat} (hz : ∀ h, nh ≤ h → h < 4 → σ (h + 2) = 0) (hnh : nh ≤ 4) : s_sum (fun h => σ (h + 2)) 4 = s_sum (fun h => σ (h + 2)) nh := by
  have key : ∀ n, nh ≤ n → n ≤ 4 → s_sum (fun h => σ (h + 2)) n = s_sum (fun h => σ (h + 2)) nh := by
    intro n
    induction n with
    | zero => intro h1 h2; rw [show nh = 0 by omega]
    | succ n ih =>
      intro h1 h2
      by_cases e : nh = n + 1
      · rw [e]
      · show s_sum (fun h => σ (h + 2)) n + σ (n + 2) = _
        rw [hz n (by omega) (by omega), Int32.add_zero, ih (by omega) (by omega)]
  exact key 4 hnh (Nat.le_refl _)
