/-! ONE'S OWN OBJECT, made while a vale is read -/
set_option maxRecDepth 100000
section OWN
variable {g : zG} {X0 X Y : zX} {r a : Nat}
theorem rto.back {e : va_E} (h : rto X Y r) (hn : Y a = none) (hr : Y r = some e) : X a = none := by
  cases hx : X a with
  | none => rfl
  | some e9 =>
    by_cases e : a = r
    · rw [e, hr] at hn; cases hn
    · rw [h a e9 e hx] at hn; cases hn
theorem kS.nw {s q : Nat} {v : Int64} {e : va_E} (h : kS X s g v) (hq : X q = none) : kS (zup X q e) s g v := by
  have n9 : ∀ {b : Nat} {f : va_E}, X b = some f → zup X q e b = some f := fun {b f} hb => zup_k (fun z => by rw [z, hq] at hb; cases hb) hb
  exact h.mono (fun _ _ _ hb => n9 hb)
theorem kS.up {s q ci : Nat} {v : Int64} {e : va_E} {fs : List Value} (h : kS X s g v) (hq : X q = some (.inr (ci, fs))) (hc : ci ≠ 24) : kS (zup X q e) s g v := by
  obtain ⟨b, m, f, hs, hz, h1, h2, h3⟩ := h
  refine ⟨b, m, f, hs, hz, zup_k (fun z => ?_) h1, zup_k (fun z => ?_) h2, h3⟩
  · rw [z, hq] at h1; cases h1; exact hc rfl
  · rw [z, hq] at h2; cases h2
theorem rW.up {a w q ci : Nat} {vo : Option Nat} {T : rTP} {e : va_E} {fs : List Value} (h : rW g X r T a w vo) (hq : X q = some (.inr (ci, fs))) (hc : ci ≠ 24) (hc2 : ci ≠ 2) : rW g (zup X q e) r T a w vo := by
  obtain ⟨h1, hx, hk, h2, va, hr, h3⟩ := h
  refine ⟨h1, zup_k (fun z => ?_) hx, hk.up hq hc, h2, va, zup_k (fun z => ?_) hr, h3⟩
  · rw [z, hq] at hx; cases hx
  · rw [z, hq] at hr
    exact hc2 (congrArg Prod.fst (Sum.inr.inj (Option.some.inj hr)))
variable {v nh nd : Nat} {B : vB} {vs : Nat → Int32} {hv gv : Nat → Int64} {st : Int32} {fa : Option Nat}
theorem vU.fgn (h : vU g X0 X v B vs nh nd hv gv st fa) (hn : X a = none) : (∀ k, k < nh → B.fh k ≠ some a) ∧ ∀ k, k < nd → B.fg k ≠ some a := by
  refine ⟨fun k hk z => ?_, fun k hk z => ?_⟩
  · obtain ⟨a0, nm0, q1, q2, q3, q4, q5⟩ := h.2.2.2.2.2.2.2.1.1 k hk
    rw [q1] at z
    rw [Option.some.inj z, hn] at q4
    cases q4
  · obtain ⟨a0, nm0, k0, q1, q2, q3, q4, q5, q6, q7⟩ := h.2.2.2.2.2.2.2.2.1 k hk
    rw [q1] at z
    rw [Option.some.inj z, hn] at q6
    cases q6
/-- one's own thing changed: none of the vale's -/
theorem vU.own (h : vU g X0 X v B vs nh nd hv gv st fa) {ci : Nat} {fs : List Value} {e : va_E} (hna : (∀ k, k < nh → B.fh k ≠ some a) ∧ ∀ k, k < nd → B.fg k ≠ some a) (ha : X a = some (.inr (ci, fs))) (hc3 : ci ≠ 3) (hc23 : ci ≠ 23) (hc24 : ci ≠ 24) : vU g X0 (zup X a e) v B vs nh nd hv gv st fa := by
  obtain ⟨h1, h2, h3, ⟨a1, a2, a3, a4, a5, a6, a7⟩, ⟨b1, b2, b3, b4, b5, b6, b7⟩, h6, h7, h8, h9⟩ := h
  have n1 : ∀ {c : Nat} {f : va_E}, X c = some f → (∀ fs, f ≠ .inr (ci, fs)) → zup X a e c = some f := fun {c f} hb g1 => zup_k (fun z => by rw [z, ha] at hb; exact g1 _ (Option.some.inj hb).symm) hb
  have n2 : ∀ {k : Nat} {fs9 fs' : List Value}, ci ≠ k → (Sum.inr (k, fs9) : va_E) ≠ .inr (ci, fs') := fun {k fs9 fs'} hk z => hk (congrArg Prod.fst (Sum.inr.inj z)).symm
  have ks := fun {s : Nat} {val : Int64} (hs : kS X s g val) => hs.up (e := e) ha hc24
  refine ⟨h1, h2, n1 h3 (fun _ => n2 hc3), ⟨a1, a2, a3, a4, n1 a5 (fun _ => n2 hc23), n1 a6 (fun _ z => by cases z), a7⟩, ⟨b1, b2, b3, b4, n1 b5 (fun _ => n2 hc23), n1 b6 (fun _ z => by cases z), b7⟩, h6, h7, ⟨fun k hk => ?_, h8.2⟩, ⟨fun k hk => ?_, h9.2⟩⟩
  · obtain ⟨a0, nm0, q1, q2, q3, q4, q5⟩ := h8.1 k hk
    exact ⟨a0, nm0, q1, q2, q3, zup_k (fun z => hna.1 k hk (by rw [q1, z])) q4, ks q5⟩
  · obtain ⟨a0, nm0, k0, q1, q2, q3, q4, q5, q6, q7⟩ := h9.1 k hk
    exact ⟨a0, nm0, k0, q1, q2, q3, q4, q5, zup_k (fun z => hna.2 k hk (by rw [q1, z])) q6, ks q7⟩
end OWN
