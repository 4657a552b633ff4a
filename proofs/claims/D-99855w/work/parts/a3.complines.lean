/-! LINES DONE ON A STATE; what stays true of a state, in plain Lean -/
set_option maxRecDepth 100000
theorem s_or_bit0 (x : Int32) {d : Nat} (hd : d < 6) : ¬ (x ||| s_bit d) = 0 := fun h => by
  have h1 : bt (x ||| s_bit d) d = bt (0 : Int32) d := by rw [h]
  have h2 : bt (s_bit d) d = true := by
    rcases (by omega : d = 0 ∨ d = 1 ∨ d = 2 ∨ d = 3 ∨ d = 4 ∨ d = 5) with rfl | rfl | rfl | rfl | rfl | rfl <;> decide +kernel
  have h3 : bt (0 : Int32) d = false := by
    rcases (by omega : d = 0 ∨ d = 1 ∨ d = 2 ∨ d = 3 ∨ d = 4 ∨ d = 5) with rfl | rfl | rfl | rfl | rfl | rfl <;> decide +kernel
  rw [b_or, h2, h3, Bool.or_true] at h1
  cases h1
/-- what stays true of a state -/
def s_gd (σ : Nat → Int32) (nh nd : Nat) : Prop := s_iv σ nd ∧ s_iw σ nh nd ∧ (∀ j, j < nh → ∃ b, b ≤ 9 ∧ σ (j + 2) = nI b) ∧ (∀ j, nh ≤ j → j < 4 → σ (j + 2) = 0)
/-- what holds of a vale that is told -/
def s_vok (vs : Nat → Int32) (nh nd : Nat) : Prop := (∀ h, h < nh → ∃ b, b ≤ 6 ∧ vs (2 * h + 4) = nI b) ∧ (∀ d, d < nd → ∃ y, y ≤ 40 ∧ vs (5 * d + 15) = nI y)
section GD
variable {σ : Nat → Int32} {nh nd : Nat} {vs ds : Nat → Int32} {wv : Int32 → Int32 → Int32 → Int32 → Int32} {own : Nat → Nat} {now : Nat}
theorem s_gd_pass (hV : s_ok vs nh nd own) (h : s_gd σ nh nd) : s_gd (s_pass wv vs ds nh nd own now σ).1 nh nd := by
  have hnh := hV.2.1
  have e : ∀ j, j < 4 → (s_pass wv vs ds nh nd own now σ).1 (j + 2) = σ (j + 2) := fun j hj => by
    unfold s_pass
    rw [s_newly_0 (Or.inr ⟨by omega, by omega⟩), s_stay_0 (by omega), zs1_n (by omega)]
  exact ⟨s_iv_pass hV h.1, s_iw_pass hV h.2.1, fun j hj => by rw [e j (by omega)]; exact h.2.2.1 j hj, fun j h1 h2 => by rw [e j h2]; exact h.2.2.2 j h1 h2⟩
theorem s_gd_go (hV : s_ok vs nh nd own) (h : s_gd σ nh nd) : ∀ n, s_gd (s_go wv vs ds nh nd own now σ n).1 nh nd
  | 0 => h
  | n + 1 => s_gd_pass hV (s_gd_go hV h n)
theorem s_gd_leave {d : Nat} (hnh : nh ≤ 4) (hnd : nd ≤ 6) (hd : d < 6) (h : s_gd σ nh nd) : s_gd (s_leave σ d) nh nd :=
  ⟨s_iv_leave h.1 hd, s_iw_leave h.2.1 hnd, fun j hj => by rw [s_leave_0 (by omega)]; exact h.2.2.1 j hj, fun j h1 h2 => by rw [s_leave_0 (by omega)]; exact h.2.2.2 j h1 h2⟩
theorem s_iv_move {d k : Nat} (hnd : nd ≤ 6) (h : s_iv σ nd) (hd : d < nd) (hk : k < 2 ^ 31) : s_iv (zs1 σ (d + 6) (nI k)) nd :=
  ⟨fun g h1 h2 => by rw [zs1_n (by omega), zs1_n (by omega)]; exact h.1 g h1 h2, fun g hg => by rw [zs1_n (by omega)]; exact h.2.1 g hg, fun g hg => by
    by_cases e : g = d
    · rw [e, zs1_s]
      exact fun z => absurd z (nI_lt0 hk)
    · rw [zs1_n (by omega), zs1_n (by omega)]
      exact h.2.2 g hg⟩
theorem s_gd_move {d k : Nat} (hnh : nh ≤ 4) (hnd : nd ≤ 6) (hd : d < nd) (hk : k < nh) (h : s_gd σ nh nd) : s_gd (zs1 σ (d + 6) (nI k)) nh nd :=
  ⟨s_iv_move hnd h.1 hd (by omega), s_iw_set h.2.1 hk, fun j hj => by rw [zs1_n (by omega)]; exact h.2.2.1 j hj, fun j h1 h2 => by rw [zs1_n (by omega)]; exact h.2.2.2 j h1 h2⟩
theorem s_nine {b : Nat} (hb : b ≤ 9) : (nI b < 9 ↔ ¬ nI b = 9) ∧ (¬ nI b = 9 → b + 1 ≤ 9) := by
  rcases (by omega : b = 0 ∨ b = 1 ∨ b = 2 ∨ b = 3 ∨ b = 4 ∨ b = 5 ∨ b = 6 ∨ b = 7 ∨ b = 8 ∨ b = 9) with rfl | rfl | rfl | rfl | rfl | rfl | rfl | rfl | rfl | rfl <;> decide
theorem s_gd_build {k : Nat} (hnh : nh ≤ 4) (hk : k < nh) (h9 : ¬ σ (k + 2) = 9) (h : s_gd σ nh nd) : s_gd (zs1 σ (k + 2) (σ (k + 2) + 1)) nh nd :=
  ⟨s_iv_low h.1 (by omega), s_iw_o h.2.1 (by omega), fun j hj => by
    obtain ⟨b, hb, e⟩ := h.2.2.1 j hj
    by_cases e9 : j = k
    · subst e9
      rw [zs1_s, e]
      rw [e] at h9
      exact ⟨b + 1, (s_nine hb).2 h9, nI_1 b⟩
    · rw [zs1_n (by omega)]; exact ⟨b, hb, e⟩, fun j h1 h2 => by rw [zs1_n (by omega)]; exact h.2.2.2 j h1 h2⟩
theorem s_gd_start (hnh : nh ≤ 4) (hnd : nd ≤ 6) (hw : s_vok vs nh nd) : s_gd (s_start vs nh nd) nh nd := by
  have e6 : ∀ g, g < 6 → s_start vs nh nd (g + 6) = zm1 := fun g hg => by rw [s_start_at hnh _ (by omega), if_pos (by omega)]
  have e12 : ∀ g, g < 6 → s_start vs nh nd (g + 12) = 0 := fun g hg => by rw [s_start_at hnh _ (by omega), if_neg (by omega), if_neg (by omega), if_neg (by omega)]
  have e18 : ∀ g, g < 6 → s_start vs nh nd (g + 18) = if g < nd then vs (5 * g + 15) else 0 := fun g hg => by rw [s_start_at hnh _ (by omega), if_neg (by omega), if_pos (by omega), show g + 18 - 18 = g by omega]
  have e2 : ∀ j, j < 4 → s_start vs nh nd (j + 2) = if j < nh then vs (2 * j + 4) else 0 := fun j hj => by
    rw [s_start_at hnh _ (by omega), if_neg (by omega), if_neg (by omega)]
    by_cases h : j < nh
    · rw [if_pos (by omega), if_pos h, show j + 2 - 2 = j by omega]
    · rw [if_neg (by omega), if_neg h]
  refine ⟨⟨fun g h1 h2 => ?_, fun g hg => ?_, fun g hg _ => e12 g hg⟩, fun g hg => Or.inl (e6 g (by omega)), fun j hj => ?_, fun j h1 h2 => ?_⟩
  · rw [e6 g h2, e18 g h2, if_neg (by omega)]
    exact ⟨rfl, rfl⟩
  · rw [e18 g hg]
    by_cases h : g < nd
    · obtain ⟨y, hy, e⟩ := hw.2 g h
      rw [if_pos h, e]
      exact nI_lt0 (by omega)
    · rw [if_neg h]; decide
  · obtain ⟨b, hb, e⟩ := hw.1 j hj
    rw [e2 j (by omega), if_pos hj, e]
    exact ⟨b, by omega, rfl⟩
  · rw [e2 j h2, if_neg (by omega)]
/-- how many are turned off while they come -/
theorem s_newly_r {r : Nat} (hV : s_ok vs nh nd own) (h1 : σ 1 = nI r) : ∀ n, n ≤ nd → ∃ c, c ≤ n ∧ (s_newly wv vs ds nh nd own now σ n).1 1 = nI (r + c) ∧ ((s_newly wv vs ds nh nd own now σ n).2.2 = 0 ↔ c = 0)
  | 0, _ => ⟨0, Nat.le_refl _, h1, ⟨fun _ => rfl, fun _ => rfl⟩⟩
  | n + 1, hn => by
    obtain ⟨c, hc, e1, e2⟩ := s_newly_r hV h1 n (by omega)
    have hnd := hV.2.2.2.1
    unfold s_newly
    split
    · unfold s_comes
      split
      · refine ⟨c + 1, by omega, ?_, ⟨fun z => absurd z (s_or_bit0 _ (show n < 6 by omega)), fun z => by omega⟩⟩
        show zs1 (s_newly wv vs ds nh nd own now σ n).1 1 ((s_newly wv vs ds nh nd own now σ n).1 1 + 1) 1 = _
        rw [zs1_s, e1, nI_1]
        rfl
      · refine ⟨c, by omega, ?_, e2⟩
        show s_spoke wv (s_newly wv vs ds nh nd own now σ n).1 (s_bed vs (s_newly wv vs ds nh nd own now σ n).1 nh nd (own n) n) nd now n 1 = _
        unfold s_spoke s_come
        rw [zs1_n (by omega), zs1_n (by omega), zs1_n (by omega), zs1_n (by omega)]
        exact e1
    · exact ⟨c, by omega, e1, e2⟩
theorem s_pass_r {r : Nat} (hV : s_ok vs nh nd own) (h1 : σ 1 = nI r) : ∃ c, c ≤ 6 ∧ (s_pass wv vs ds nh nd own now σ).1 1 = nI (r + c) ∧ ((s_pass wv vs ds nh nd own now σ).2.2 = 0 ↔ c = 0) := by
  have hnd := hV.2.2.2.1
  obtain ⟨c, h2, h3, h4⟩ := s_newly_r (wv := wv) (ds := ds) (now := now + 1) (σ := s_stay vs (zs1 σ 0 (nI (now + 1))) nd) hV (r := r) (by rw [s_stay_0 (by omega), zs1_n (by omega)]; exact h1) nd (Nat.le_refl _)
  exact ⟨c, by omega, h3, h4⟩
end GD
/-- a line done by the component: the state, its date, whether it could be -/
def s_lnd (wv : Int32 → Int32 → Int32 → Int32 → Int32) (vs ds : Nat → Int32) (nh nd : Nat) (own : Nat → Nat) (a b h : Nat) (σ : Nat → Int32) (now : Nat) : (Nat → Int32) × Nat × Bool :=
  if a = 0 then ((s_pass wv vs ds nh nd own now σ).1, now + 1, true)
  else if a = 1 then (if s_may vs σ nd b h = true then (zs1 σ (b + 6) (nI h), now, true) else (σ, now, false))
  else if a = 2 then (if 0 ≤ σ (b + 6) then (s_leave σ b, now, true) else (σ, now, false))
  else (if σ (b + 2) = 9 then (σ, now, false) else (zs1 σ (b + 2) (σ (b + 2) + 1), now, true))
/-- a line's object -/
def clo (X : zX) (l a b h : Nat) : Prop := (a = 0 ∧ X l = some (.inr (18, []))) ∨ (a = 1 ∧ X l = some (.inr (20, [.int (nI b), .int (nI h)]))) ∨ (a = 2 ∧ X l = some (.inr (21, [.int (nI b)]))) ∨ (a = 3 ∧ X l = some (.inr (19, [.int (nI b)])))
theorem clo.mono {X Y : zX} {l a b h : Nat} (hm : ∀ q e, X q = some e → Y q = some e) (hc : clo X l a b h) : clo Y l a b h := by
  rcases hc with ⟨h1, h2⟩ | ⟨h1, h2⟩ | ⟨h1, h2⟩ | ⟨h1, h2⟩
  · exact Or.inl ⟨h1, hm _ _ h2⟩
  · exact Or.inr (Or.inl ⟨h1, hm _ _ h2⟩)
  · exact Or.inr (Or.inr (Or.inl ⟨h1, hm _ _ h2⟩))
  · exact Or.inr (Or.inr (Or.inr ⟨h1, hm _ _ h2⟩))
/-- what a line of a year is about -/
def s_lok (nh nd a b h : Nat) : Prop := a ≤ 3 ∧ (a = 1 → b < nd ∧ h < nh) ∧ (a = 2 → b < nd) ∧ (a = 3 → b < nh)
/-- the lines as a list in the heap -/
def cln (g : zG) (X : zX) (l ln : Nat) (la lb lh : Nat → Nat) : Prop := ∃ (mc : Int32) (e : Nat) (f : Nat → Option Nat), X l = some (.inr (23, [.int mc, .ref e, .int (nI ln)])) ∧ ln ≤ 40 ∧ (0 < ln → ∃ c, X e = some (.inl (zar g 4, c, .inr (.inr (.inr (.inr f))))) ∧ ln ≤ c ∧ c < 2 ^ 31) ∧ ∀ k, k < ln → ∃ q, f k = some q ∧ clo X q (la k) (lb k) (lh k)
theorem cln.mono {g : zG} {X Y : zX} {l ln : Nat} {la lb lh : Nat → Nat} (hm : ∀ q e, X q = some e → Y q = some e) (h : cln g X l ln la lb lh) : cln g Y l ln la lb lh := by
  obtain ⟨mc, e, f, h1, h2, h3, h4⟩ := h
  refine ⟨mc, e, f, hm _ _ h1, h2, fun h => ?_, fun k hk => ?_⟩
  · obtain ⟨c, q1, q2⟩ := h3 h
    exact ⟨c, hm _ _ q1, q2⟩
  · obtain ⟨q, q1, q2⟩ := h4 k hk
    exact ⟨q, q1, q2.mono hm⟩
section LND
variable {wv : Int32 → Int32 → Int32 → Int32 → Int32} {vs ds : Nat → Int32} {nh nd : Nat} {own : Nat → Nat} {σ : Nat → Int32} {now a b h : Nat}
theorem s_lnd_gd (hV : s_ok vs nh nd own) (hl : s_lok nh nd a b h) (hg : s_gd σ nh nd) : s_gd (s_lnd wv vs ds nh nd own a b h σ now).1 nh nd := by
  have hnh := hV.2.1
  have hnd := hV.2.2.2.1
  obtain ⟨h1, h2, h3, h4⟩ := hl
  unfold s_lnd
  split
  · exact s_gd_pass hV hg
  · split
    · have := h2 (by assumption)
      split
      · exact s_gd_move hnh hnd this.1 this.2 hg
      · exact hg
    · split
      · have := h3 (by assumption)
        split
        · exact s_gd_leave hnh hnd (by omega) hg
        · exact hg
      · have := h4 (by omega)
        split
        · exact hg
        · exact s_gd_build hnh this (by assumption) hg
/-- the reference's line, by the component's -/
theorem s_ln_lnd {k r : Nat} {bad first : Int32} (hV : s_ok vs nh nd own) (hl : s_lok nh nd a b h) (hg : s_gd σ nh nd) (h1 : σ 1 = nI r) (hr : r < 2 ^ 20) (hf : first < 0 ↔ r = 0) :
    s_ln wv vs ds nh nd own a b h k (σ, now, bad, first) = ((s_lnd wv vs ds nh nd own a b h σ now).1, (s_lnd wv vs ds nh nd own a b h σ now).2.1, (if (s_lnd wv vs ds nh nd own a b h σ now).2.2 = false ∧ bad < 0 then nI k else bad), (if first < 0 ∧ 0 < (s_lnd wv vs ds nh nd own a b h σ now).1 1 then nI k else first)) ∧
    ∃ r', r' ≤ r + 6 ∧ (s_lnd wv vs ds nh nd own a b h σ now).1 1 = nI r' ∧ (first < 0 → (0 < (s_lnd wv vs ds nh nd own a b h σ now).1 1 ↔ ¬ r' = 0)) ∧ (¬ first < 0 → ¬ r' = 0) := by
  have hz : ∀ q, q < 2 ^ 30 → (0 < nI q ↔ ¬ q = 0) := fun q hq => by
    rw [Int32.lt_iff_toInt_lt, nI_toInt (show q < 2 ^ 31 by omega)]
    show (0 : Int) < (q : Int) ↔ _
    omega
  have h0 : ∀ τ : Nat → Int32, τ 1 = nI r → ¬ (first < 0 ∧ 0 < τ 1) := fun τ e z => by
    rw [e] at z
    exact (hz r (by omega)).mp z.2 (hf.mp z.1)
  have hk : ∀ τ : Nat → Int32, τ 1 = nI r → ∃ r', r' ≤ r + 6 ∧ τ 1 = nI r' ∧ (first < 0 → (0 < τ 1 ↔ ¬ r' = 0)) ∧ (¬ first < 0 → ¬ r' = 0) := fun τ e => ⟨r, by omega, e, fun _ => by rw [e]; exact hz r (by omega), fun z => fun e2 => z (hf.mpr e2)⟩
  obtain ⟨l1, l2, l3, l4⟩ := hl
  unfold s_ln s_lnd
  by_cases ha : a = 0
  · simp only [if_pos ha]
    obtain ⟨c, c1, c2, c3⟩ := s_pass_r (wv := wv) (ds := ds) (now := now) hV h1
    refine ⟨?_, r + c, by omega, c2, fun _ => by rw [c2]; exact hz _ (by omega), fun z e2 => z (hf.mpr (by omega))⟩
    refine Prod.ext rfl (Prod.ext rfl (Prod.ext ?_ ?_))
    · show bad = if true = false ∧ bad < 0 then nI k else bad
      rw [if_neg (fun z => by cases z.1)]
    · show (if (s_pass wv vs ds nh nd own now σ).2.2 ≠ 0 ∧ first < 0 then nI k else first) = if first < 0 ∧ 0 < (s_pass wv vs ds nh nd own now σ).1 1 then nI k else first
      by_cases hfi : first < 0
      · have hr0 := hf.mp hfi
        have e9 : (s_pass wv vs ds nh nd own now σ).2.2 ≠ 0 ↔ 0 < (s_pass wv vs ds nh nd own now σ).1 1 := by
          rw [c2, hz _ (by omega), show (s_pass wv vs ds nh nd own now σ).2.2 ≠ 0 ↔ ¬ c = 0 from not_congr c3]
          omega
        by_cases e8 : (s_pass wv vs ds nh nd own now σ).2.2 ≠ 0
        · rw [if_pos ⟨e8, hfi⟩, if_pos ⟨hfi, e9.mp e8⟩]
        · rw [if_neg (fun z => e8 z.1), if_neg (fun z => e8 (e9.mpr z.2))]
      · rw [if_neg (fun z => hfi z.2), if_neg (fun z => hfi z.1)]
  · simp only [if_neg ha]
    by_cases ha1 : a = 1
    · simp only [if_pos ha1]
      by_cases hm : s_may vs σ nd b h = true
      · simp only [if_pos hm]
        have e1 : zs1 σ (b + 6) (nI h) 1 = nI r := (zs1_n (by omega)).trans h1
        refine ⟨?_, hk _ e1⟩
        rw [if_neg (h0 _ e1), if_neg (fun z => by cases z.1)]
      · simp only [if_neg hm]
        refine ⟨?_, hk _ h1⟩
        rw [if_neg (h0 _ h1)]
        simp
    · simp only [if_neg ha1]
      by_cases ha2 : a = 2
      · simp only [if_pos ha2]
        by_cases hm : 0 ≤ σ (b + 6)
        · simp only [if_pos hm]
          have e1 : s_leave σ b 1 = nI r := (s_leave_0 (by omega)).trans h1
          refine ⟨?_, hk _ e1⟩
          rw [if_neg (h0 _ e1), if_neg (fun z => by cases z.1)]
        · simp only [if_neg hm]
          refine ⟨?_, hk _ h1⟩
          rw [if_neg (h0 _ h1)]
          simp
      · simp only [if_neg ha2]
        obtain ⟨q, q1, q2⟩ := hg.2.2.1 b (l4 (by omega))
        have q3 := (s_nine q1).1
        rw [← q2] at q3
        by_cases hm : σ (b + 2) = 9
        · simp only [if_pos hm]
          rw [if_neg (fun z => q3.mp z hm)]
          refine ⟨?_, hk _ h1⟩
          rw [if_neg (h0 _ h1)]
          simp
        · simp only [if_neg hm]
          rw [if_pos (q3.mpr hm)]
          have e1 : zs1 σ (b + 2) (σ (b + 2) + 1) 1 = nI r := (zs1_n (by omega)).trans h1
          refine ⟨?_, hk _ e1⟩
          rw [if_neg (h0 _ e1), if_neg (fun z => by cases z.1)]
end LND
