/-! WHERE DAYS ARE, AND NOTHING ELSE, in plain Lean -/
set_option maxRecDepth 100000
/-- a day is nowhere or in a house there is -/
def s_iw (σ : Nat → Int32) (nh nd : Nat) : Prop := ∀ g, g < nd → σ (g + 6) = zm1 ∨ ∃ h, h < nh ∧ σ (g + 6) = nI h
section IW
variable {σ : Nat → Int32} {nh nd : Nat} {vs ds : Nat → Int32} {wv : Int32 → Int32 → Int32 → Int32 → Int32} {own : Nat → Nat} {now : Nat}
theorem s_iw_w (h : s_iw σ nh nd) : ∀ g, g < nd → σ (g + 6) < 0 ∨ ∃ h, h < nh ∧ σ (g + 6) = nI h := fun g hg => by
  rcases h g hg with e | e
  · exact Or.inl (by rw [e]; exact m1neg)
  · exact Or.inr e
theorem s_iw_o {k : Nat} {v : Int32} (h : s_iw σ nh nd) (hk : k < 6 ∨ nd + 6 ≤ k) : s_iw (zs1 σ k v) nh nd := fun g hg => by rw [zs1_n (by omega)]; exact h g hg
theorem s_iw_none {d : Nat} (h : s_iw σ nh nd) : s_iw (zs1 σ (d + 6) zm1) nh nd := fun g hg => by
  by_cases e : g = d
  · rw [e, zs1_s]; exact Or.inl rfl
  · rw [zs1_n (by omega)]; exact h g hg
theorem s_iw_set {d k : Nat} (h : s_iw σ nh nd) (hk : k < nh) : s_iw (zs1 σ (d + 6) (nI k)) nh nd := fun g hg => by
  by_cases e : g = d
  · rw [e, zs1_s]; exact Or.inr ⟨k, hk, rfl⟩
  · rw [zs1_n (by omega)]; exact h g hg
theorem s_iw_leave {d : Nat} (h : s_iw σ nh nd) (hnd : nd ≤ 6) : s_iw (s_leave σ d) nh nd := by
  unfold s_leave
  exact s_iw_o (s_iw_none h) (by omega)
theorem s_iw_stay (h : s_iw σ nh nd) (hnd : nd ≤ 6) : ∀ n, s_iw (s_stay vs σ n) nh nd
  | 0 => h
  | n + 1 => by
    have ih := s_iw_stay h hnd n
    unfold s_stay
    split
    · split
      · exact s_iw_leave (s_iw_o ih (by omega)) hnd
      · exact s_iw_o ih (by omega)
    · exact ih
theorem s_iw_newly (hV : s_ok vs nh nd own) (h : s_iw σ nh nd) : ∀ n, n ≤ nd → s_iw (s_newly wv vs ds nh nd own now σ n).1 nh nd
  | 0, _ => h
  | n + 1, hn => by
    have ih := s_iw_newly hV h n (by omega)
    have hnd := hV.2.2.2.1
    unfold s_newly
    split
    · unfold s_comes
      rcases s_bed_cases (vs := vs) (σ := (s_newly wv vs ds nh nd own now σ n).1) (nh := nh) (nd := nd) (d := n) (hV.2.2.2.2 n (by omega)).2 with e | ⟨k, hk, e⟩
      · rw [e, if_pos m1neg]
        exact s_iw_o ih (by omega)
      · have hnh := hV.2.1
        rw [e, if_neg (nI_lt0 (by omega))]
        unfold s_spoke s_come
        exact s_iw_o (s_iw_o (s_iw_o (s_iw_set ih hk) (by omega)) (by omega)) (by omega)
    · exact ih
theorem s_iw_pass (hV : s_ok vs nh nd own) (h : s_iw σ nh nd) : s_iw (s_pass wv vs ds nh nd own now σ).1 nh nd := s_iw_newly hV (s_iw_stay (s_iw_o h (by omega)) hV.2.2.2.1 nd) nd (Nat.le_refl _)
theorem zs1_self9 {f : Nat → Int32} {k : Nat} {v : Int32} (h : f k = v) : zs1 f k v = f := by
  funext j
  unfold zs1
  by_cases e : j = k
  · rw [if_pos e, e, h]
  · rw [if_neg e]
/-- one who is nowhere leaves nothing -/
theorem s_leave_no {d : Nat} (hi : s_iv σ nd) (h : s_iw σ nh nd) (hd : d < nd) (hnd : nd ≤ 6) (hnh : nh ≤ 4) (hw : σ (d + 6) < 0) : s_leave σ d = σ := by
  have e1 : σ (d + 6) = zm1 := by
    rcases h d hd with e | ⟨k, hk, e⟩
    · exact e
    · rw [e] at hw
      exact absurd hw (nI_lt0 (by omega))
  unfold s_leave
  rw [zs1_self9 e1, zs1_self9 (hi.2.2 d (by omega) hw)]
theorem s_iw_go (hV : s_ok vs nh nd own) (h : s_iw σ nh nd) : ∀ n, s_iw (s_go wv vs ds nh nd own now σ n).1 nh nd
  | 0 => h
  | n + 1 => s_iw_pass hV (s_iw_go hV h n)
end IW
