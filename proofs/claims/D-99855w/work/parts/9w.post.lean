/-! A METHOD's answer, told more weakly -/
theorem zN.post {g : zG} {M : zMth} {R : Room} {As : List Value} {X : zX} {pv pw : Option Value → zX → Prop} (h : zN g M R As X pv) (hp : ∀ v X', pv v X' → pw v X') : zN g M R As X pw := by
  intro p e ha hc hk s m args below hf happ hP hK
  obtain ⟨a1, a2, a3, b1, b2, ⟨⟨v, X', c1, c2, c3⟩, c4⟩, b4⟩ := h p e ha hc hk s m args below hf happ hP hK
  exact ⟨a1, a2, a3, b1, b2, ⟨⟨v, X', c1, hp v X' c2, c3⟩, c4⟩, b4⟩
