/-! A VALE UNDER WAY, in the heap -/
set_option maxRecDepth 100000
/-- a list: n of them by f, no more -/
def lU (g : zG) (X0 X : zX) (l n e c : Nat) (mc : Int32) (f : Nat → Option Nat) : Prop := z0 g ≤ l ∧ z0 g ≤ e ∧ X0 l = none ∧ X0 e = none ∧ X l = some (.inr (23, [.int mc, .ref e, .int (nI n)])) ∧ X e = some (.inl (zar g 4, c, .inr (.inr (.inr (.inr f))))) ∧ n ≤ c ∧ 1 ≤ c ∧ c ≤ 60
/-- houses, days told -/
def hU (g : zG) (X0 X : zX) (nh : Nat) (f : Nat → Option Nat) (vs : Nat → Int32) (hv : Nat → Int64) : Prop := (∀ k, k < nh → ∃ a nm, f k = some a ∧ z0 g ≤ a ∧ X0 a = none ∧ X a = some (.inr (7, [.ref nm, .int (vs (2 * k + 4)), .int (vs (2 * k + 5))])) ∧ kS X nm g (hv k)) ∧ ∀ j, j < nh → ∀ k, k < nh → f j = f k → j = k
def gU (g : zG) (X0 X : zX) (nd : Nat) (f : Nat → Option Nat) (vs : Nat → Int32) (gv : Nat → Int64) : Prop := (∀ k, k < nd → ∃ a nm k0, f k = some a ∧ z0 g ≤ a ∧ X0 a = none ∧ k0 ≤ 3 ∧ vs (5 * k + 12) = nI k0 ∧ X a = some (.inr (8 + k0, [.ref nm, .int (vs (5 * k + 13)), .int (vs (5 * k + 14)), .int (vs (5 * k + 15)), .int (vs (5 * k + 16))])) ∧ kS X nm g (gv k)) ∧ ∀ j, j < nd → ∀ k, k < nd → f j = f k → j = k
theorem kS.mono {X Y : zX} {s : Nat} {g : zG} {v : Int64} (h : kS X s g v) (ht : ∀ q e, (∃ fs, e = .inr (24, fs)) ∨ (∃ m f, e = .inl (zar g 1, m, .inl f)) → X q = some e → Y q = some e) : kS Y s g v := by
  obtain ⟨b, m, f, hs, hz, h1, h2, h3⟩ := h
  exact ⟨b, m, f, hs, hz, ht _ _ (Or.inl ⟨_, rfl⟩) h1, ht _ _ (Or.inr ⟨_, _, rfl⟩) h2, h3⟩
/-- two texts are alike just if their values are -/
theorem kS.eq {f h : Nat → Int32} {m l : Nat} (h1 : m ≤ 8) (h2 : l ≤ 8) (h3 : ∀ j, j < m → s_le (f j) = true) (h4 : ∀ j, j < l → s_le (h j) = true) : s_w37 f 0 m = s_w37 h 0 l ↔ (m = l ∧ ∀ j, j < m → f j = h j) := by
  have h9 := k37_eq (f := f) (h := h) (q := 0) (r := 0) h1 h2 (fun j hj => by rw [Nat.zero_add]; exact h3 j hj) (fun j hj => by rw [Nat.zero_add]; exact h4 j hj)
  simpa [Nat.zero_add] using h9
theorem kS_b {f h : Nat → Int32} {m l : Nat} {v w : Int64} (h1 : m ≤ 8) (h2 : l ≤ 8) (h3 : ∀ j, j < m → s_le (f j) = true) (h4 : ∀ j, j < l → s_le (h j) = true) (hv : v = s_w37 f 0 m) (hw : w = s_w37 h 0 l) : (decide (m = l) && s_eqb f h m) = decide (v = w) := by
  rw [Bool.eq_iff_iff, Bool.and_eq_true, decide_eq_true_eq, decide_eq_true_eq, s_eqb_i, hv, hw, kS.eq h1 h2 h3 h4]
/-- what stays but for the reader -/
theorem rto.ne {X Y : zX} {r : Nat} {ci : Nat} {fs : List Value} (hr : X r = some (.inr (ci, fs))) (ht : rto X Y r) {q : Nat} {e : va_E} (h : X q = some e) (hne : ∀ fs', e ≠ .inr (ci, fs')) : Y q = some e := ht q e (fun z => by rw [z, hr] at h; exact hne _ (Option.some.inj h).symm) h
theorem lU.to {g : zG} {X0 X Y : zX} {r l n e c : Nat} {mc : Int32} {f : Nat → Option Nat} {fs : List Value} (h : lU g X0 X l n e c mc f) (hr : X r = some (.inr (2, fs))) (ht : rto X Y r) : lU g X0 Y l n e c mc f := by
  obtain ⟨h1, h2, h3, h4, h5, h6, h7⟩ := h
  exact ⟨h1, h2, h3, h4, rto.ne hr ht h5 (fun _ z => by cases z), rto.ne hr ht h6 (fun _ z => by cases z), h7⟩
theorem hU.to {g : zG} {X0 X Y : zX} {r nh : Nat} {f : Nat → Option Nat} {vs : Nat → Int32} {hv : Nat → Int64} {fs : List Value} (h : hU g X0 X nh f vs hv) (hr : X r = some (.inr (2, fs))) (ht : rto X Y r) : hU g X0 Y nh f vs hv := by
  refine ⟨fun k hk => ?_, h.2⟩
  obtain ⟨a, nm, h1, h2, h3, h4, h5⟩ := h.1 k hk
  exact ⟨a, nm, h1, h2, h3, rto.ne hr ht h4 (fun _ z => by cases z), h5.to hr (by decide) ht⟩
theorem gU.to {g : zG} {X0 X Y : zX} {r nd : Nat} {f : Nat → Option Nat} {vs : Nat → Int32} {gv : Nat → Int64} {fs : List Value} (h : gU g X0 X nd f vs gv) (hr : X r = some (.inr (2, fs))) (ht : rto X Y r) : gU g X0 Y nd f vs gv := by
  refine ⟨fun k hk => ?_, h.2⟩
  obtain ⟨a, nm, k0, h1, h2, h3, h4, h5, h6, h7⟩ := h.1 k hk
  exact ⟨a, nm, k0, h1, h2, h3, h4, h5, rto.ne hr ht h6 (fun _ z => by injection z with z; injection z with z1 z2; omega), h7.to hr (by decide) ht⟩
/-- where a vale under way lies: its lists, their arrays -/
def vB : Type := Nat × Nat × Nat × Nat × Nat × Nat × Int32 × Int32 × (Nat → Option Nat) × (Nat → Option Nat)
def vB.lh (T : vB) : Nat := T.1
def vB.lg (T : vB) : Nat := T.2.1
def vB.eh (T : vB) : Nat := T.2.2.1
def vB.eg (T : vB) : Nat := T.2.2.2.1
def vB.ch (T : vB) : Nat := T.2.2.2.2.1
def vB.cg (T : vB) : Nat := T.2.2.2.2.2.1
def vB.mh (T : vB) : Int32 := T.2.2.2.2.2.2.1
def vB.mg (T : vB) : Int32 := T.2.2.2.2.2.2.2.1
def vB.fh (T : vB) : Nat → Option Nat := T.2.2.2.2.2.2.2.2.1
def vB.fg (T : vB) : Nat → Option Nat := T.2.2.2.2.2.2.2.2.2
def vB.of (lh : Nat) (lg : Nat) (eh : Nat) (eg : Nat) (ch : Nat) (cg : Nat) (mh : Int32) (mg : Int32) (fh : Nat → Option Nat) (fg : Nat → Option Nat) : vB := (lh, lg, eh, eg, ch, cg, mh, mg, fh, fg)
/-- a vale under way: all of it made since X0 -/
def vU (g : zG) (X0 X : zX) (v : Nat) (B : vB) (vs : Nat → Int32) (nh nd : Nat) (hv gv : Nat → Int64) (st : Int32) (fa : Option Nat) : Prop := z0 g ≤ v ∧ X0 v = none ∧ X v = some (.inr (3, [.ref B.lh, .ref B.lg, .int st, va_rf fa])) ∧ lU g X0 X B.lh nh B.eh B.ch B.mh B.fh ∧ lU g X0 X B.lg nd B.eg B.cg B.mg B.fg ∧ B.lh ≠ B.lg ∧ B.eh ≠ B.eg ∧ hU g X0 X nh B.fh vs hv ∧ gU g X0 X nd B.fg vs gv
theorem vU.to {g : zG} {X0 X Y : zX} {r v nh nd : Nat} {B : vB} {vs : Nat → Int32} {hv gv : Nat → Int64} {st : Int32} {fa : Option Nat} {fs : List Value} (h : vU g X0 X v B vs nh nd hv gv st fa) (hr : X r = some (.inr (2, fs))) (ht : rto X Y r) : vU g X0 Y v B vs nh nd hv gv st fa := by
  obtain ⟨h1, h2, h3, h4, h5, h6, h7, h8, h9⟩ := h
  exact ⟨h1, h2, rto.ne hr ht h3 (fun _ z => by cases z), h4.to hr ht, h5.to hr ht, h6, h7, h8.to hr ht, h9.to hr ht⟩
section VUM
variable {g : zG} {X0 X Y : zX} {v nh nd : Nat} {B : vB} {vs vs' : Nat → Int32} {hv gv : Nat → Int64} {st : Int32} {fa : Option Nat}
theorem vU.nw (h : vU g X0 X v B vs nh nd hv gv st fa) {q : Nat} {e : va_E} (hq : X q = none) : vU g X0 (zup X q e) v B vs nh nd hv gv st fa := by
  have n9 : ∀ {b : Nat} {f : va_E}, X b = some f → zup X q e b = some f := fun {b f} hb => zup_k (fun z => by rw [z, hq] at hb; cases hb) hb
  obtain ⟨h1, h2, h3, ⟨a1, a2, a3, a4, a5, a6, a7⟩, ⟨b1, b2, b3, b4, b5, b6, b7⟩, h6, h7, h8, h9⟩ := h
  refine ⟨h1, h2, n9 h3, ⟨a1, a2, a3, a4, n9 a5, n9 a6, a7⟩, ⟨b1, b2, b3, b4, n9 b5, n9 b6, b7⟩, h6, h7, ⟨fun k hk => ?_, h8.2⟩, ⟨fun k hk => ?_, h9.2⟩⟩
  · obtain ⟨a, nm, q1, q2, q3, q4, q5⟩ := h8.1 k hk
    exact ⟨a, nm, q1, q2, q3, n9 q4, q5.mono (fun _ _ _ hb => n9 hb)⟩
  · obtain ⟨a, nm, k0, q1, q2, q3, q4, q5, q6, q7⟩ := h9.1 k hk
    exact ⟨a, nm, k0, q1, q2, q3, q4, q5, n9 q6, q7.mono (fun _ _ _ hb => n9 hb)⟩
theorem va_b4 {m c : Nat} {f : Nat → Int32} {f9 : Nat → Option Nat} : (Sum.inl (zar g 1, m, .inl f) : va_E) ≠ .inl (zar g 4, c, .inr (.inr (.inr (.inr f9)))) := fun z => by
  injection z with z
  injection z with _ z
  injection z with _ z
  cases z
theorem kS.keep {s : Nat} {val : Int64} (h : kS X s g val) (n1 : ∀ {b : Nat} {f : va_E}, X b = some f → (∀ fs, f ≠ .inr (23, fs)) → (∀ m f9, f ≠ .inl (zar g 4, m, .inr (.inr (.inr (.inr f9))))) → Y b = some f) : kS Y s g val := by
  obtain ⟨b, m, f, hs, hz, h1, h2, h3⟩ := h
  exact ⟨b, m, f, hs, hz, n1 h1 (fun _ z => by cases z) (fun _ _ z => by cases z), n1 h2 (fun _ z => by cases z) (fun _ _ z => va_b4 z), h3⟩
/-- a house more -/
theorem vU.addH (h : vU g X0 X v B vs nh nd hv gv st fa) {a nm e' c' : Nat} {mc' : Int32} {f' : Nat → Option Nat} {val : Int64} (ha0 : z0 g ≤ a) (hX0 : X0 a = none) (hna : ∀ k, k < nh → B.fh k ≠ some a) (ha : X a = some (.inr (7, [.ref nm, .int (vs' (2 * nh + 4)), .int (vs' (2 * nh + 5))]))) (hs : kS X nm g val) (he : e' = B.eh ∨ (X e' = none ∧ X0 e' = none)) (he0 : z0 g ≤ e') (hc1 : nh + 1 ≤ c') (hc2 : c' ≤ 60) (hf1 : f' nh = some a) (hf2 : ∀ k, k < nh → f' k = B.fh k)
    (hv1 : ∀ k, k < nh → vs' (2 * k + 4) = vs (2 * k + 4) ∧ vs' (2 * k + 5) = vs (2 * k + 5)) (hv2 : ∀ k j, k < nd → j < 5 → vs' (5 * k + 12 + j) = vs (5 * k + 12 + j)) :
    vU g X0 (zup (zup X e' (.inl (zar g 4, c', .inr (.inr (.inr (.inr f')))))) B.lh (.inr (23, [.int mc', .ref e', .int (nI (nh + 1))]))) v (vB.of B.lh B.lg e' B.eg c' B.cg mc' B.mg f' B.fg) vs' (nh + 1) nd (fun k => if k = nh then val else hv k) gv st fa := by
  obtain ⟨h1, h2, h3, ⟨a1, a2, a3, a4, a5, a6, a7⟩, ⟨b1, b2, b3, b4, b5, b6, b7⟩, h6, h7, h8, h9⟩ := h
  have n1 : ∀ {b : Nat} {f : va_E}, X b = some f → (∀ fs, f ≠ .inr (23, fs)) → (∀ m f9, f ≠ .inl (zar g 4, m, .inr (.inr (.inr (.inr f9))))) → zup (zup X e' (.inl (zar g 4, c', .inr (.inr (.inr (.inr f')))))) B.lh (.inr (23, [.int mc', .ref e', .int (nI (nh + 1))])) b = some f := fun {b f} hb g1 g2 => by
    refine zup_k (fun z => ?_) (zup_k (fun z => ?_) hb)
    · rw [z, a5] at hb; exact g1 _ (Option.some.inj hb).symm
    · rcases he with he | he
      · rw [z, he, a6] at hb; exact g2 _ _ (Option.some.inj hb).symm
      · rw [z, he.1] at hb; cases hb
  have e1 : B.lg ≠ e' := fun z => by
    rcases he with he | he
    · rw [z, he, a6] at b5; cases b5
    · rw [z, he.1] at b5; cases b5
  have e2 : B.eg ≠ B.lh := fun z => by rw [z, a5] at b6; cases b6
  have e3 : B.eg ≠ e' := fun z => by
    rcases he with he | he
    · exact h7 (he ▸ z.symm)
    · rw [z, he.1] at b6; cases b6
  have e4 : e' ≠ B.lh := fun z => by
    rcases he with he | he
    · rw [← he, z, a5] at a6; cases a6
    · rw [z, a5] at he; cases he.1
  have e5 : X0 e' = none := by
    rcases he with he | he
    · rw [he]; exact a4
    · exact he.2
  refine ⟨h1, h2, n1 h3 (fun _ z => by cases z) (fun _ _ z => by cases z), ⟨a1, he0, a3, e5, zup_s, zup_k e4 zup_s, hc1, (show 1 ≤ c' by omega), hc2⟩, ⟨b1, b2, b3, b4, zup_k (Ne.symm h6) (zup_k e1 b5), zup_k e2 (zup_k e3 b6), b7⟩, h6, (Ne.symm e3), ⟨fun k hk => ?_, fun j hj k hk => ?_⟩, ⟨fun k hk => ?_, h9.2⟩⟩
  · show ∃ a nm, f' k = some a ∧ _
    by_cases ek : k = nh
    · subst ek
      exact ⟨a, nm, hf1, ha0, hX0, n1 ha (fun _ z => by cases z) (fun _ _ z => by cases z), by show kS _ nm g (if k = k then val else hv k); rw [if_pos rfl]; exact hs.keep (fun hb g1 g2 => n1 hb g1 g2)⟩
    · obtain ⟨a0, nm0, q1, q2, q3, q4, q5⟩ := h8.1 k (by omega)
      obtain ⟨w1, w2⟩ := hv1 k (by omega)
      exact ⟨a0, nm0, (hf2 k (by omega)).trans q1, q2, q3, by rw [w1, w2]; exact n1 q4 (fun _ z => by cases z) (fun _ _ z => by cases z), by show kS _ nm0 g (if k = nh then val else hv k); rw [if_neg ek]; exact q5.keep (fun hb g1 g2 => n1 hb g1 g2)⟩
  · show f' j = f' k → j = k
    intro e9
    by_cases ej : j = nh
    · by_cases ek : k = nh
      · omega
      · rw [ej, hf1, hf2 k (by omega)] at e9
        exact absurd e9.symm (hna k (by omega))
    · by_cases ek : k = nh
      · rw [ek, hf1, hf2 j (by omega)] at e9
        exact absurd e9 (hna j (by omega))
      · rw [hf2 j (by omega), hf2 k (by omega)] at e9
        exact h8.2 j (by omega) k (by omega) e9
  · obtain ⟨a0, nm0, k0, q1, q2, q3, q4, q5, q6, q7⟩ := h9.1 k hk
    have w0 := hv2 k 0 hk (by decide)
    have w1 := hv2 k 1 hk (by decide)
    have w2 := hv2 k 2 hk (by decide)
    have w3 := hv2 k 3 hk (by decide)
    have w4 := hv2 k 4 hk (by decide)
    refine ⟨a0, nm0, k0, q1, q2, q3, q4, w0.trans q5, ?_, q7.keep (fun hb g1 g2 => n1 hb g1 g2)⟩
    rw [show vs' (5 * k + 13) = vs (5 * k + 13) from w1, show vs' (5 * k + 14) = vs (5 * k + 14) from w2, show vs' (5 * k + 15) = vs (5 * k + 15) from w3, show vs' (5 * k + 16) = vs (5 * k + 16) from w4]
    exact n1 q6 (fun _ z => by injection z with z; injection z with z1 z2; omega) (fun _ _ z => by cases z)
/-- a day more -/
theorem vU.addG (h : vU g X0 X v B vs nh nd hv gv st fa) {a nm kk e' c' : Nat} {mc' : Int32} {f' : Nat → Option Nat} {val : Int64} (ha0 : z0 g ≤ a) (hX0 : X0 a = none) (hna : ∀ k, k < nd → B.fg k ≠ some a) (hkk : kk ≤ 3) (hvk : vs' (5 * nd + 12) = nI kk) (ha : X a = some (.inr (8 + kk, [.ref nm, .int (vs' (5 * nd + 13)), .int (vs' (5 * nd + 14)), .int (vs' (5 * nd + 15)), .int (vs' (5 * nd + 16))]))) (hs : kS X nm g val) (he : e' = B.eg ∨ (X e' = none ∧ X0 e' = none)) (he0 : z0 g ≤ e') (hc1 : nd + 1 ≤ c') (hc2 : c' ≤ 60) (hf1 : f' nd = some a) (hf2 : ∀ k, k < nd → f' k = B.fg k)
    (hv1 : ∀ k, k < nh → vs' (2 * k + 4) = vs (2 * k + 4) ∧ vs' (2 * k + 5) = vs (2 * k + 5)) (hv2 : ∀ k j, k < nd → j < 5 → vs' (5 * k + 12 + j) = vs (5 * k + 12 + j)) :
    vU g X0 (zup (zup X e' (.inl (zar g 4, c', .inr (.inr (.inr (.inr f')))))) B.lg (.inr (23, [.int mc', .ref e', .int (nI (nd + 1))]))) v (vB.of B.lh B.lg B.eh e' B.ch c' B.mh mc' B.fh f') vs' nh (nd + 1) hv (fun k => if k = nd then val else gv k) st fa := by
  obtain ⟨h1, h2, h3, ⟨a1, a2, a3, a4, a5, a6, a7⟩, ⟨b1, b2, b3, b4, b5, b6, b7⟩, h6, h7, h8, h9⟩ := h
  have n1 : ∀ {b : Nat} {f : va_E}, X b = some f → (∀ fs, f ≠ .inr (23, fs)) → (∀ m f9, f ≠ .inl (zar g 4, m, .inr (.inr (.inr (.inr f9))))) → zup (zup X e' (.inl (zar g 4, c', .inr (.inr (.inr (.inr f')))))) B.lg (.inr (23, [.int mc', .ref e', .int (nI (nd + 1))])) b = some f := fun {b f} hb g1 g2 => by
    refine zup_k (fun z => ?_) (zup_k (fun z => ?_) hb)
    · rw [z, b5] at hb; exact g1 _ (Option.some.inj hb).symm
    · rcases he with he | he
      · rw [z, he, b6] at hb; exact g2 _ _ (Option.some.inj hb).symm
      · rw [z, he.1] at hb; cases hb
  have e1 : B.lh ≠ e' := fun z => by
    rcases he with he | he
    · rw [z, he, b6] at a5; cases a5
    · rw [z, he.1] at a5; cases a5
  have e2 : B.eh ≠ B.lg := fun z => by rw [z, b5] at a6; cases a6
  have e3 : B.eh ≠ e' := fun z => by
    rcases he with he | he
    · exact h7 (he ▸ z)
    · rw [z, he.1] at a6; cases a6
  have e4 : e' ≠ B.lg := fun z => by
    rcases he with he | he
    · rw [← he, z, b5] at b6; cases b6
    · rw [z, b5] at he; cases he.1
  have e5 : X0 e' = none := by
    rcases he with he | he
    · rw [he]; exact b4
    · exact he.2
  refine ⟨h1, h2, n1 h3 (fun _ z => by cases z) (fun _ _ z => by cases z), ⟨a1, a2, a3, a4, zup_k h6 (zup_k e1 a5), zup_k e2 (zup_k e3 a6), a7⟩, ⟨b1, he0, b3, e5, zup_s, zup_k e4 zup_s, hc1, (show 1 ≤ c' by omega), hc2⟩, h6, e3, ⟨fun k hk => ?_, h8.2⟩, ⟨fun k hk => ?_, fun j hj k hk => ?_⟩⟩
  · obtain ⟨a0, nm0, q1, q2, q3, q4, q5⟩ := h8.1 k hk
    obtain ⟨w1, w2⟩ := hv1 k hk
    exact ⟨a0, nm0, q1, q2, q3, by rw [w1, w2]; exact n1 q4 (fun _ z => by cases z) (fun _ _ z => by cases z), q5.keep (fun hb g1 g2 => n1 hb g1 g2)⟩
  · show ∃ a nm k0, f' k = some a ∧ _
    by_cases ek : k = nd
    · subst ek
      exact ⟨a, nm, kk, hf1, ha0, hX0, hkk, hvk, n1 ha (fun _ z => by injection z with z; injection z with z1 z2; omega) (fun _ _ z => by cases z), by show kS _ nm g (if k = k then val else gv k); rw [if_pos rfl]; exact hs.keep (fun hb g1 g2 => n1 hb g1 g2)⟩
    · obtain ⟨a0, nm0, k0, q1, q2, q3, q4, q5, q6, q7⟩ := h9.1 k (by omega)
      have w0 := hv2 k 0 (by omega) (by decide)
      have w1 := hv2 k 1 (by omega) (by decide)
      have w2 := hv2 k 2 (by omega) (by decide)
      have w3 := hv2 k 3 (by omega) (by decide)
      have w4 := hv2 k 4 (by omega) (by decide)
      refine ⟨a0, nm0, k0, (hf2 k (by omega)).trans q1, q2, q3, q4, w0.trans q5, ?_, by show kS _ nm0 g (if k = nd then val else gv k); rw [if_neg ek]; exact q7.keep (fun hb g1 g2 => n1 hb g1 g2)⟩
      rw [show vs' (5 * k + 13) = vs (5 * k + 13) from w1, show vs' (5 * k + 14) = vs (5 * k + 14) from w2, show vs' (5 * k + 15) = vs (5 * k + 15) from w3, show vs' (5 * k + 16) = vs (5 * k + 16) from w4]
      exact n1 q6 (fun _ z => by injection z with z; injection z with z1 z2; omega) (fun _ _ z => by cases z)
  · show f' j = f' k → j = k
    intro e9
    by_cases ej : j = nd
    · by_cases ek : k = nd
      · omega
      · rw [ej, hf1, hf2 k (by omega)] at e9
        exact absurd e9.symm (hna k (by omega))
    · by_cases ek : k = nd
      · rw [ek, hf1, hf2 j (by omega)] at e9
        exact absurd e9 (hna j (by omega))
      · rw [hf2 j (by omega), hf2 k (by omega)] at e9
        exact h9.2 j (by omega) k (by omega) e9
/-- a thing changed that is none of the lists, none of the texts: the houses, days but one stay -/
theorem vU.setH (h : vU g X0 X v B vs nh nd hv gv st fa) {a q nm : Nat} {b l : Int32} (hq : q < nh) (hfa : B.fh q = some a) (ha : X a = some (.inr (7, [.ref nm, .int b, .int l]))) {l' : Int32} (hb : vs' (2 * q + 4) = b) (hl : vs' (2 * q + 5) = l')
    (hv1 : ∀ k, k < nh → k ≠ q → vs' (2 * k + 4) = vs (2 * k + 4) ∧ vs' (2 * k + 5) = vs (2 * k + 5)) (hv2 : ∀ k j, k < nd → j < 5 → vs' (5 * k + 12 + j) = vs (5 * k + 12 + j)) :
    vU g X0 (zup X a (.inr (7, [.ref nm, .int b, .int l']))) v B vs' nh nd hv gv st fa := by
  obtain ⟨h1, h2, h3, ⟨a1, a2, a3, a4, a5, a6, a7⟩, ⟨b1, b2, b3, b4, b5, b6, b7⟩, h6, h7, h8, h9⟩ := h
  have n1 : ∀ {c : Nat} {f : va_E}, X c = some f → (∀ fs, f ≠ .inr (7, fs)) → zup X a (.inr (7, [.ref nm, .int b, .int l'])) c = some f := fun {c f} hb g1 => zup_k (fun z => by rw [z, ha] at hb; exact g1 _ (Option.some.inj hb).symm) hb
  have n2 : ∀ {s : Nat} {val : Int64}, kS X s g val → kS (zup X a (.inr (7, [.ref nm, .int b, .int l']))) s g val := fun {s val} hs => by
    obtain ⟨b, m, f, hs, hz, h1, h2, h3⟩ := hs
    exact ⟨b, m, f, hs, hz, n1 h1 (fun _ z => by cases z), n1 h2 (fun _ z => by cases z), h3⟩
  refine ⟨h1, h2, n1 h3 (fun _ z => by cases z), ⟨a1, a2, a3, a4, n1 a5 (fun _ z => by cases z), n1 a6 (fun _ z => by cases z), a7⟩, ⟨b1, b2, b3, b4, n1 b5 (fun _ z => by cases z), n1 b6 (fun _ z => by cases z), b7⟩, h6, h7, ⟨fun k hk => ?_, h8.2⟩, ⟨fun k hk => ?_, h9.2⟩⟩
  · obtain ⟨a0, nm0, q1, q2, q3, q4, q5⟩ := h8.1 k hk
    by_cases ek : k = q
    · subst ek
      rw [hfa] at q1
      cases q1
      rw [ha] at q4
      cases q4
      exact ⟨a, nm, hfa, q2, q3, by rw [hb, hl]; exact zup_s, n2 q5⟩
    · obtain ⟨w1, w2⟩ := hv1 k hk ek
      refine ⟨a0, nm0, q1, q2, q3, ?_, n2 q5⟩
      rw [w1, w2]
      exact zup_k (fun z => ek (h8.2 k hk q hq (by rw [q1, hfa, z]))) q4
  · obtain ⟨a0, nm0, k0, q1, q2, q3, q4, q5, q6, q7⟩ := h9.1 k hk
    have w0 := hv2 k 0 (by omega) (by decide)
    have w1 := hv2 k 1 (by omega) (by decide)
    have w2 := hv2 k 2 (by omega) (by decide)
    have w3 := hv2 k 3 (by omega) (by decide)
    have w4 := hv2 k 4 (by omega) (by decide)
    refine ⟨a0, nm0, k0, q1, q2, q3, q4, w0.trans q5, ?_, n2 q7⟩
    rw [show vs' (5 * k + 13) = vs (5 * k + 13) from w1, show vs' (5 * k + 14) = vs (5 * k + 14) from w2, show vs' (5 * k + 15) = vs (5 * k + 15) from w3, show vs' (5 * k + 16) = vs (5 * k + 16) from w4]
    exact n1 q6 (fun _ z => by injection z with z; injection z with z1 z2; omega)
theorem vU.setG (h : vU g X0 X v B vs nh nd hv gv st fa) {a q nm kk : Nat} {y1 y2 y3 y4 : Int32} (hq : q < nd) (hfa : B.fg q = some a) (hkk : kk ≤ 3) (ha : X a = some (.inr (8 + kk, [.ref nm, .int y1, .int y2, .int y3, .int y4]))) {l' : Int32} (hl : vs' (5 * q + 16) = l')
    (hv1 : ∀ k, k < nh → vs' (2 * k + 4) = vs (2 * k + 4) ∧ vs' (2 * k + 5) = vs (2 * k + 5)) (hv2 : ∀ k j, k < nd → j < 5 → ¬ (k = q ∧ j = 4) → vs' (5 * k + 12 + j) = vs (5 * k + 12 + j)) :
    vU g X0 (zup X a (.inr (8 + kk, [.ref nm, .int y1, .int y2, .int y3, .int l']))) v B vs' nh nd hv gv st fa := by
  obtain ⟨h1, h2, h3, ⟨a1, a2, a3, a4, a5, a6, a7⟩, ⟨b1, b2, b3, b4, b5, b6, b7⟩, h6, h7, h8, h9⟩ := h
  have n1 : ∀ {c : Nat} {f : va_E}, X c = some f → (∀ fs, f ≠ .inr (8 + kk, fs)) → zup X a (.inr (8 + kk, [.ref nm, .int y1, .int y2, .int y3, .int l'])) c = some f := fun {c f} hb g1 => zup_k (fun z => by rw [z, ha] at hb; exact g1 _ (Option.some.inj hb).symm) hb
  have n2 : ∀ {s : Nat} {val : Int64}, kS X s g val → kS (zup X a (.inr (8 + kk, [.ref nm, .int y1, .int y2, .int y3, .int l']))) s g val := fun {s val} hs => by
    obtain ⟨b, m, f, hs, hz, h1, h2, h3⟩ := hs
    exact ⟨b, m, f, hs, hz, n1 h1 (fun _ z => by injection z with z; injection z with z1 z2; omega), n1 h2 (fun _ z => by cases z), h3⟩
  refine ⟨h1, h2, n1 h3 (fun _ z => by injection z with z; injection z with z1 z2; omega), ⟨a1, a2, a3, a4, n1 a5 (fun _ z => by injection z with z; injection z with z1 z2; omega), n1 a6 (fun _ z => by cases z), a7⟩, ⟨b1, b2, b3, b4, n1 b5 (fun _ z => by injection z with z; injection z with z1 z2; omega), n1 b6 (fun _ z => by cases z), b7⟩, h6, h7, ⟨fun k hk => ?_, h8.2⟩, ⟨fun k hk => ?_, h9.2⟩⟩
  · obtain ⟨a0, nm0, q1, q2, q3, q4, q5⟩ := h8.1 k hk
    obtain ⟨w1, w2⟩ := hv1 k hk
    exact ⟨a0, nm0, q1, q2, q3, by rw [w1, w2]; exact n1 q4 (fun _ z => by injection z with z; injection z with z1 z2; omega), n2 q5⟩
  · obtain ⟨a0, nm0, k0, q1, q2, q3, q4, q5, q6, q7⟩ := h9.1 k hk
    have w0 := hv2 k 0 (by omega) (by decide) (by omega)
    have w1 := hv2 k 1 (by omega) (by decide) (by omega)
    have w2 := hv2 k 2 (by omega) (by decide) (by omega)
    have w3 := hv2 k 3 (by omega) (by decide) (by omega)
    by_cases ek : k = q
    · subst ek
      rw [hfa] at q1
      cases q1
      rw [ha] at q6
      injection q6 with q6
      injection q6 with q6
      injection q6 with q61 q62
      have ek0 : k0 = kk := by omega
      subst ek0
      cases q62
      refine ⟨a, nm, k0, hfa, q2, q3, q4, w0.trans q5, ?_, n2 q7⟩
      rw [show vs' (5 * k + 13) = vs (5 * k + 13) from w1, show vs' (5 * k + 14) = vs (5 * k + 14) from w2, show vs' (5 * k + 15) = vs (5 * k + 15) from w3, hl]
      exact zup_s
    · have w4 := hv2 k 4 (by omega) (by decide) (by omega)
      refine ⟨a0, nm0, k0, q1, q2, q3, q4, w0.trans q5, ?_, n2 q7⟩
      rw [show vs' (5 * k + 13) = vs (5 * k + 13) from w1, show vs' (5 * k + 14) = vs (5 * k + 14) from w2, show vs' (5 * k + 15) = vs (5 * k + 15) from w3, show vs' (5 * k + 16) = vs (5 * k + 16) from w4]
      exact zup_k (fun z => ek (h9.2 k hk q hq (by rw [q1, hfa, z]))) q6
theorem vU.setV (h : vU g X0 X v B vs nh nd hv gv st fa) {st' : Int32} {fa' : Option Nat} (hv1 : ∀ j, 4 ≤ j → vs' j = vs j) : vU g X0 (zup X v (.inr (3, [.ref B.lh, .ref B.lg, .int st', va_rf fa']))) v B vs' nh nd hv gv st' fa' := by
  obtain ⟨h1, h2, h3, ⟨a1, a2, a3, a4, a5, a6, a7⟩, ⟨b1, b2, b3, b4, b5, b6, b7⟩, h6, h7, h8, h9⟩ := h
  have n1 : ∀ {c : Nat} {f : va_E}, X c = some f → (∀ fs, f ≠ .inr (3, fs)) → zup X v (.inr (3, [.ref B.lh, .ref B.lg, .int st', va_rf fa'])) c = some f := fun {c f} hb g1 => zup_k (fun z => by rw [z, h3] at hb; exact g1 _ (Option.some.inj hb).symm) hb
  have n2 : ∀ {s : Nat} {val : Int64}, kS X s g val → kS (zup X v (.inr (3, [.ref B.lh, .ref B.lg, .int st', va_rf fa']))) s g val := fun {s val} hs => by
    obtain ⟨b, m, f, hs, hz, h1, h2, h3⟩ := hs
    exact ⟨b, m, f, hs, hz, n1 h1 (fun _ z => by cases z), n1 h2 (fun _ z => by cases z), h3⟩
  refine ⟨h1, h2, zup_s, ⟨a1, a2, a3, a4, n1 a5 (fun _ z => by cases z), n1 a6 (fun _ z => by cases z), a7⟩, ⟨b1, b2, b3, b4, n1 b5 (fun _ z => by cases z), n1 b6 (fun _ z => by cases z), b7⟩, h6, h7, ⟨fun k hk => ?_, h8.2⟩, ⟨fun k hk => ?_, h9.2⟩⟩
  · obtain ⟨a0, nm0, q1, q2, q3, q4, q5⟩ := h8.1 k hk
    exact ⟨a0, nm0, q1, q2, q3, by rw [hv1 _ (by omega), hv1 _ (by omega)]; exact n1 q4 (fun _ z => by cases z), n2 q5⟩
  · obtain ⟨a0, nm0, k0, q1, q2, q3, q4, q5, q6, q7⟩ := h9.1 k hk
    exact ⟨a0, nm0, k0, q1, q2, q3, q4, (hv1 _ (by omega)).trans q5, by rw [hv1 _ (by omega), hv1 _ (by omega), hv1 _ (by omega), hv1 _ (by omega)]; exact n1 q6 (fun _ z => by injection z with z; injection z with z1 z2; omega), n2 q7⟩
end VUM
