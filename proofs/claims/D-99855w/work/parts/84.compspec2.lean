/-! A DATE PASSES, the component's way: what stays true of a state -/
set_option maxRecDepth 100000
/-- nobody where no day is; what is said is no less than 0; who is nowhere has not been -/
def s_iv (σ : Nat → Int32) (nd : Nat) : Prop := s_cz σ nd ∧ (∀ g, g < 6 → ¬ σ (g + 18) < 0) ∧ (∀ g, g < 6 → σ (g + 6) < 0 → σ (g + 12) = 0)
section IV
variable {σ : Nat → Int32} {nd : Nat} {vs ds : Nat → Int32} {wv : Int32 → Int32 → Int32 → Int32 → Int32} {nh : Nat} {own : Nat → Nat} {now : Nat}
theorem s_iv_low {k : Nat} {v : Int32} (h : s_iv σ nd) (hk : k < 6) : s_iv (zs1 σ k v) nd :=
  ⟨fun g h1 h2 => by rw [zs1_n (by omega), zs1_n (by omega)]; exact h.1 g h1 h2, fun g hg => by rw [zs1_n (by omega)]; exact h.2.1 g hg, fun g hg => by rw [zs1_n (by omega), zs1_n (by omega)]; exact h.2.2 g hg⟩
theorem s_iv_times {d : Nat} {v : Int32} (h : s_iv σ nd) : s_iv (zs1 σ (d + 24) v) nd :=
  ⟨fun g h1 h2 => by rw [zs1_n (by omega), zs1_n (by omega)]; exact h.1 g h1 h2, fun g hg => by rw [zs1_n (by omega)]; exact h.2.1 g hg, fun g hg => by rw [zs1_n (by omega), zs1_n (by omega)]; exact h.2.2 g hg⟩
theorem s_iv_leave {d : Nat} (h : s_iv σ nd) (hd : d < 6) : s_iv (s_leave σ d) nd := by
  unfold s_leave
  refine ⟨fun g h1 h2 => ?_, fun g hg => ?_, fun g hg => ?_⟩
  · rw [zs1_n (show g + 18 ≠ d + 12 by omega), zs1_n (show g + 18 ≠ d + 6 by omega), zs1_n (show g + 6 ≠ d + 12 by omega)]
    refine ⟨?_, (h.1 g h1 h2).2⟩
    by_cases e : g = d
    · rw [e, zs1_s]
    · rw [zs1_n (by omega)]; exact (h.1 g h1 h2).1
  · rw [zs1_n (by omega), zs1_n (by omega)]; exact h.2.1 g hg
  · rw [zs1_n (show g + 6 ≠ d + 12 by omega)]
    by_cases e : g = d
    · subst e
      exact fun _ => zs1_s
    · rw [zs1_n (show g + 6 ≠ d + 6 by omega), zs1_n (show g + 12 ≠ d + 12 by omega), zs1_n (show g + 12 ≠ d + 6 by omega)]
      exact h.2.2 g hg
/-- a day that is somewhere has been longer -/
theorem s_iv_been {d : Nat} {v : Int32} (h : s_iv σ nd) (hd : d < 6) (hw : 0 ≤ σ (d + 6)) : s_iv (zs1 σ (d + 12) v) nd :=
  ⟨fun g h1 h2 => by rw [zs1_n (by omega), zs1_n (by omega)]; exact h.1 g h1 h2, fun g hg => by rw [zs1_n (by omega)]; exact h.2.1 g hg, fun g hg => by
    rw [zs1_n (show g + 6 ≠ d + 12 by omega)]
    by_cases e : g = d
    · subst e
      exact fun z => absurd hw (Int32.not_le.mpr z)
    · rw [zs1_n (by omega)]
      exact h.2.2 g hg⟩
theorem s_iv_stay (h : s_iv σ nd) : ∀ n, n ≤ 6 → s_iv (s_stay vs σ n) nd
  | 0, _ => h
  | n + 1, hn => by
    have ih := s_iv_stay h n (by omega)
    unfold s_stay
    split
    · rename_i hw
      split
      · exact s_iv_leave (s_iv_been ih (by omega) hw) (by omega)
      · exact s_iv_been ih (by omega) hw
    · exact ih
theorem s_c99_pos (v : Int32) : ¬ s_c99 v < 0 := by
  unfold s_c99
  split
  · decide
  · split
    · decide
    · assumption
theorem s_iv_come {d k : Nat} (h : s_iv σ nd) (hd : d < nd) (hnd : nd ≤ 6) (hk : k < 2 ^ 31) : s_iv (s_come σ (nI k) d) nd := by
  unfold s_come
  refine s_iv_times ⟨fun g h1 h2 => ?_, fun g hg => ?_, fun g hg => ?_⟩
  · rw [zs1_n (by omega), zs1_n (by omega), zs1_n (by omega), zs1_n (by omega)]; exact h.1 g h1 h2
  · rw [zs1_n (by omega), zs1_n (by omega)]; exact h.2.1 g hg
  · rw [zs1_n (show g + 6 ≠ d + 12 by omega)]
    by_cases e : g = d
    · subst e
      rw [zs1_s, zs1_s]
      exact fun _ => rfl
    · rw [zs1_n (show g + 6 ≠ d + 6 by omega), zs1_n (show g + 12 ≠ d + 12 by omega), zs1_n (show g + 12 ≠ d + 6 by omega)]
      exact h.2.2 g hg
theorem s_iv_says {d : Nat} {v : Int32} (h : s_iv σ nd) (hd : d < nd) (hnd : nd ≤ 6) (hv : ¬ v < 0) : s_iv (zs1 σ (d + 18) v) nd :=
  ⟨fun g h1 h2 => by rw [zs1_n (by omega), zs1_n (by omega)]; exact h.1 g h1 h2, fun g hg => by
    by_cases e : g = d
    · rw [e, zs1_s]; exact hv
    · rw [zs1_n (by omega)]; exact h.2.1 g hg, fun g hg => by rw [zs1_n (by omega), zs1_n (by omega)]; exact h.2.2 g hg⟩
theorem s_iv_spoke {d k : Nat} (h : s_iv σ nd) (hd : d < nd) (hnd : nd ≤ 6) (hk : k < 2 ^ 31) : s_iv (s_spoke wv σ (nI k) nd now d) nd := s_iv_says (s_iv_come h hd hnd hk) hd hnd (s_c99_pos _)
theorem s_iv_newly (hV : s_ok vs nh nd own) (h : s_iv σ nd) : ∀ n, n ≤ nd → s_iv (s_newly wv vs ds nh nd own now σ n).1 nd
  | 0, _ => h
  | n + 1, hn => by
    have ih := s_iv_newly hV h n (by omega)
    have hnd := hV.2.2.2.1
    unfold s_newly
    split
    · unfold s_comes
      rcases s_bed_cases (vs := vs) (σ := (s_newly wv vs ds nh nd own now σ n).1) (nh := nh) (nd := nd) (d := n) (hV.2.2.2.2 n (by omega)).2 with e | ⟨k, hk, e⟩
      · rw [e, if_pos m1neg]
        exact s_iv_low ih (by decide)
      · have hnh := hV.2.1
        rw [e, if_neg (nI_lt0 (by omega))]
        exact s_iv_spoke ih (by omega) hnd (by omega)
    · exact ih
theorem s_iv_pass (hV : s_ok vs nh nd own) (h : s_iv σ nd) : s_iv (s_pass wv vs ds nh nd own now σ).1 nd := s_iv_newly hV (s_iv_stay (s_iv_low h (by decide)) nd hV.2.2.2.1) nd (Nat.le_refl _)
theorem s_come_eq {h : Int32} {d : Nat} (h0 : σ (d + 12) = 0) : zs1 (zs1 σ (d + 6) h) (d + 24) (σ (d + 24) + 1) = s_come σ h d := by
  funext j
  unfold s_come
  by_cases e : j = d + 24
  · rw [e, zs1_s, zs1_s]
  · rw [zs1_n e, zs1_n e]
    by_cases e2 : j = d + 12
    · rw [e2, zs1_s, zs1_n (by omega)]; exact h0
    · rw [zs1_n e2]
theorem s_come_18 {h : Int32} {d : Nat} : s_come σ h d (d + 18) = σ (d + 18) := by
  unfold s_come
  rw [zs1_n (by omega), zs1_n (by omega), zs1_n (by omega)]
theorem s_come_24 {h : Int32} {d : Nat} : s_come σ h d (d + 24) = σ (d + 24) + 1 := by
  unfold s_come
  rw [zs1_s]
theorem s_newly_no {n : Nat} (h : ¬ ((s_newly wv vs ds nh nd own now σ n).1 (n + 6) < 0 ∧ 0 < (s_newly wv vs ds nh nd own now σ n).1 (n + 18) ∧ s_date vs ds now n = true)) : s_newly wv vs ds nh nd own now σ (n + 1) = s_newly wv vs ds nh nd own now σ n := by
  show (if _ then _ else _) = _
  rw [if_neg h]
theorem s_newly_off {n : Nat} (h : (s_newly wv vs ds nh nd own now σ n).1 (n + 6) < 0 ∧ 0 < (s_newly wv vs ds nh nd own now σ n).1 (n + 18) ∧ s_date vs ds now n = true) (hb : s_bed vs (s_newly wv vs ds nh nd own now σ n).1 nh nd (own n) n < 0) : s_newly wv vs ds nh nd own now σ (n + 1) = (zs1 (s_newly wv vs ds nh nd own now σ n).1 1 ((s_newly wv vs ds nh nd own now σ n).1 1 + 1), (s_newly wv vs ds nh nd own now σ n).2.1, (s_newly wv vs ds nh nd own now σ n).2.2 ||| s_bit n) := by
  show (if _ then _ else _) = _
  rw [if_pos h]
  unfold s_comes
  rw [if_pos hb]
theorem s_newly_on {n k : Nat} (h : (s_newly wv vs ds nh nd own now σ n).1 (n + 6) < 0 ∧ 0 < (s_newly wv vs ds nh nd own now σ n).1 (n + 18) ∧ s_date vs ds now n = true) (hb : s_bed vs (s_newly wv vs ds nh nd own now σ n).1 nh nd (own n) n = nI k) (hk : k < 2 ^ 31) : s_newly wv vs ds nh nd own now σ (n + 1) = (s_spoke wv (s_newly wv vs ds nh nd own now σ n).1 (nI k) nd now n, (s_newly wv vs ds nh nd own now σ n).2.1 ||| s_bit n, (s_newly wv vs ds nh nd own now σ n).2.2) := by
  show (if _ then _ else _) = _
  rw [if_pos h]
  unfold s_comes
  rw [hb, if_neg (nI_lt0 hk)]
theorem s_pos0 {x : Int32} (h : ¬ x < 0) (h2 : ¬ x = 0) : 0 < x := by
  rcases Int32.lt_or_eq_of_le (Int32.not_lt.mp h) with e | e
  · exact e
  · exact absurd e.symm h2
theorem s_kdate {d k : Nat} (hk : k ≤ 3) (hv : vs (5 * d + 12) = nI k) : (if k = 2 then decide (nI ((now % 12 + 1) % 12) = ds d) else decide (nI (now % 12) = ds d) && (decide (¬ k = 3) || decide (now / 12 % 4 = 0))) = s_date vs ds now d := by
  unfold s_date
  rw [hv]
  rcases (by omega : k = 0 ∨ k = 1 ∨ k = 2 ∨ k = 3) with rfl | rfl | rfl | rfl
  · rw [if_neg (by decide), if_neg (by decide), decide_eq_true (show ¬ 0 = 3 by decide), decide_eq_true (show ¬ nI 0 = 3 by decide)]
  · rw [if_neg (by decide), if_neg (by decide), decide_eq_true (show ¬ 1 = 3 by decide), decide_eq_true (show ¬ nI 1 = 3 by decide)]
  · rw [if_pos rfl, if_pos (show nI 2 = 2 from rfl)]
  · rw [if_neg (by decide), if_neg (by decide), decide_eq_false (show ¬ ¬ 3 = 3 by decide), decide_eq_false (show ¬ ¬ nI 3 = 3 by decide)]
end IV
