/-! THE READER: a day told, the walk. Printed by t98.py -/
set_option maxRecDepth 100000
theorem zV.post {g : zG} {M : zMth} {R : Room} {As : List Value} {X : zX} {pv pw : Option Value → zX → Prop} {px py : Nat → String → zX → Prop} (h : zV g M R As X pv px) (hp : ∀ v X', pv v X' → pw v X') (hq : ∀ q E X', px q E X' → py q E X') : zV g M R As X pw py := by
  intro p e ha hc hk s m args below hf happ hP hK
  obtain ⟨n, o, h1, h2, h3, h4⟩ := h p e ha hc hk s m args below hf happ hP hK
  refine ⟨n, o, h1, h2, h3, ?_⟩
  rcases h4 with ⟨⟨⟨v, X', c1, c2, c3⟩, c4⟩, b4⟩ | ⟨q, d1, E, ce, L, ⟨X9, hx, hy⟩, d2⟩
  · exact Or.inl ⟨⟨⟨v, X', c1, hp v X' c2, c3⟩, c4⟩, b4⟩
  · exact Or.inr ⟨q, d1, E, ce, L, ⟨X9, hq _ _ _ hx, hy⟩, d2⟩
theorem rd_fresh2 {g : zG} {X : zX} {r a w : Nat} {T : rTP} {X0 : zX} {v nh nd : Nat} {B : vB} {vs : Nat → Int32} {hv gv : Nat → Int64} {st : Int32} {fa : Option Nat} (hT : rTk T) (hW : rW g X r T a w (some v)) (hX0 : rto X0 X r) (hU0 : vU g X0 X v B vs nh nd hv gv st fa) : zV g m_X2_fresh ({ frames := 7, cells := 5, slots := 31, locals := 193 } : Room) [.ref r] X (fun rv X' => ∃ s, rv = some (.ref s) ∧ k_fresh T.kd T.pl T.vl T.wd (fun val => kwf (fun k => decide (hv k = val)) nh 0) (fun val => kwf (fun k => decide (gv k = val)) nd 0) a = (a + 1, 0) ∧ T.kd a = 1 ∧ kwf (fun k => decide (hv k = (T.vl a))) nh 0 < 0 ∧ kwf (fun k => decide (gv k = (T.vl a))) nd 0 < 0 ∧ X s = none ∧ z0 g ≤ s ∧ kS X' s g (T.vl a) ∧ rto X X' r ∧ rW g X' r T (a + 1) w (some v)) (fun q E X' => ∃ f, ¬ f = 0 ∧ k_fresh T.kd T.pl T.vl T.wd (fun val => kwf (fun k => decide (hv k = val)) nh 0) (fun val => kwf (fun k => decide (gv k = val)) nd 0) a = (a, f) ∧ rX X r T (some v) f q E X') := by
  refine (rd_fresh hT hW hX0 hU0).post (fun rv X' hp => ?_) (fun q E X' hp => ?_)
  · obtain ⟨s, h1, h2, h3, h4, h5⟩ := hp
    exact ⟨s, h1, by unfold k_fresh; rw [if_pos h2, if_pos ⟨h3, h4⟩], (s_isN_k h2).2, h3, h4, h5⟩
  · obtain ⟨f, h1, h2, h3⟩ := hp
    refine ⟨f, h1, ?_, h3⟩
    unfold k_fresh
    rcases h2 with ⟨h2, h4⟩ | ⟨h2, h5, h4⟩
    · rw [if_neg (by rw [h2]; decide), h4]
    · rw [if_pos h2, if_neg (fun z => by rcases h5 with h5 | h5; exact absurd z.1 (Int32.not_lt.mpr h5); exact absurd z.2 (Int32.not_lt.mpr h5)), h4]
