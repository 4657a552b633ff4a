/-! EXPRESSIONS READ: codes and trees, in plain Lean -/
set_option maxRecDepth 100000
/-- a code that is worth wv -/
def k_cd (c : List (Nat × Int32)) (wv : Int32 → Int32 → Int32 → Int32 → Int32) : Prop := (∀ a b x y r st, s_ev (s_facts a b x y) (c ++ r) st = s_ev (s_facts a b x y) r (wv a b x y :: st)) ∧ ∀ r d, s_wf r (d + 1) → s_wf (c ++ r) d
theorem k_cd_n {v : Int32} : k_cd [(1, v)] (fun _ _ _ _ => v) := ⟨fun _ _ _ _ _ _ => rfl, fun _ _ h => Or.inl ⟨rfl, h⟩⟩
theorem k_cd_f {k : Nat} (hk : k < 4) : k_cd [(2, nI k)] (fun a b x y => s_facts a b x y k) := by
  refine ⟨fun a b x y r st => ?_, fun r d h => Or.inr (Or.inl ⟨rfl, ⟨k, hk, rfl⟩, h⟩)⟩
  show s_ev _ r (s_step _ (2, nI k) st) = _
  have e : s_step (s_facts a b x y) (2, nI k) st = s_facts a b x y (nI k).toNatClampNeg :: st := rfl
  rw [e, k_cl (by omega)]
theorem k_cd_not {c : List (Nat × Int32)} {wv : Int32 → Int32 → Int32 → Int32 → Int32} {v : Int32} (h : k_cd c wv) : k_cd (c ++ [(3, v)]) (fun a b x y => if wv a b x y = 0 then 1 else 0) := by
  refine ⟨fun a b x y r st => ?_, fun r d hr => ?_⟩
  · rw [List.append_assoc, h.1]
    rfl
  · rw [List.append_assoc]
    exact h.2 _ _ (Or.inr (Or.inr (Or.inl ⟨rfl, by omega, hr⟩)))
theorem k_cd_two {c1 c2 : List (Nat × Int32)} {w1 w2 : Int32 → Int32 → Int32 → Int32 → Int32} {op : Nat} {v : Int32} (h1 : k_cd c1 w1) (h2 : k_cd c2 w2) (ho : 4 ≤ op ∧ op ≤ 10) : k_cd (c1 ++ c2 ++ [(op, v)]) (fun a b x y => s_both op (w1 a b x y) (w2 a b x y)) := by
  refine ⟨fun a b x y r st => ?_, fun r d hr => ?_⟩
  · rw [List.append_assoc, List.append_assoc, h1.1, h2.1]
    show s_ev _ r (s_step _ (op, v) _) = _
    unfold s_step
    rw [if_neg (show ¬ op = 1 by omega), if_neg (show ¬ op = 2 by omega), if_neg (show ¬ op = 3 by omega)]
  · rw [List.append_assoc, List.append_assoc]
    refine h1.2 _ _ (h2.2 _ _ (Or.inr (Or.inr (Or.inr ⟨ho.1, ho.2, by omega, ?_⟩))))
    exact hr
/-- a tree stays while reading goes on -/
theorem cexp.to {X Y : zX} {r : Nat} {fs : List Value} (hr : X r = some (.inr (2, fs))) (ht : rto X Y r) : ∀ (d e : Nat) (w : Int32 → Int32 → Int32 → Int32 → Int32), cexp X d e w → cexp Y d e w
  | 0, _, _, hx => hx
  | d + 1, e, w, hx => by
    rcases hx with ⟨n, h1, h2⟩ | ⟨k, h0, h1, h2⟩ | ⟨p, w1, h1, h2, h3⟩ | ⟨ch, op, p, q, w1, w2, h1, h2, h3, h4, h5⟩
    · exact Or.inl ⟨n, rto.ne hr ht h1 (fun _ z => by cases z), h2⟩
    · exact Or.inr (Or.inl ⟨k, h0, rto.ne hr ht h1 (fun _ z => by cases z), h2⟩)
    · exact Or.inr (Or.inr (Or.inl ⟨p, w1, rto.ne hr ht h1 (fun _ z => by cases z), cexp.to hr ht d p w1 h2, h3⟩))
    · exact Or.inr (Or.inr (Or.inr ⟨ch, op, p, q, w1, w2, rto.ne hr ht h1 (fun _ z => by cases z), h2, cexp.to hr ht d p w1 h3, cexp.to hr ht d q w2 h4, h5⟩))
/-- one's own thing, no tree yet, is changed -/
theorem cexp.own {X : zX} {o : Nat} {e0 e1 : va_E} (ho : X o = some e0) (h1 : ∀ n, e0 ≠ .inr (13, [.int n])) (h2 : ∀ n, e0 ≠ .inr (14, [.int n])) (h3 : ∀ p, e0 ≠ .inr (15, [.ref p])) (h4 : ∀ c p q, e0 ≠ .inr (16, [.int c, .ref p, .ref q])) : ∀ (d e : Nat) (w : Int32 → Int32 → Int32 → Int32 → Int32), cexp X d e w → cexp (zup X o e1) d e w
  | 0, _, _, hx => hx
  | d + 1, e, w, hx => by
    have n9 : ∀ {b : Nat} {f : va_E}, X b = some f → f ≠ e0 → zup X o e1 b = some f := fun hb hn => zup_k (fun z => by rw [z, ho] at hb; exact hn (Option.some.inj hb).symm) hb
    rcases hx with ⟨n, g1, g2⟩ | ⟨k, g0, g1, g2⟩ | ⟨p, w1, g1, g2, g3⟩ | ⟨ch, op, p, q, w1, w2, g1, g2, g3, g4, g5⟩
    · exact Or.inl ⟨n, n9 g1 (fun z => h1 n z.symm), g2⟩
    · exact Or.inr (Or.inl ⟨k, g0, n9 g1 (fun z => h2 _ z.symm), g2⟩)
    · exact Or.inr (Or.inr (Or.inl ⟨p, w1, n9 g1 (fun z => h3 p z.symm), cexp.own ho h1 h2 h3 h4 d p w1 g2, g3⟩))
    · exact Or.inr (Or.inr (Or.inr ⟨ch, op, p, q, w1, w2, n9 g1 (fun z => h4 ch p q z.symm), g2, cexp.own ho h1 h2 h3 h4 d p w1 g3, cexp.own ho h1 h2 h3 h4 d q w2 g4, g5⟩))
theorem cexp.le {X : zX} {d d' e : Nat} {w : Int32 → Int32 → Int32 → Int32 → Int32} (h : cexp X d e w) (hd : d ≤ d') : cexp X d' e w := by
  obtain ⟨k, rfl⟩ : ∃ k, d' = d + k := ⟨d' - d, by omega⟩
  clear hd
  induction k with
  | zero => exact h
  | succ k ih => exact cexp.deep _ _ _ ih
theorem rW.setw {g : zG} {X : zX} {r a w w' : Nat} {vo : Option Nat} {T : rTP} {va : Int32} (h : rW g X r T a w vo) (hr : X r = some (rdT T a va w vo)) (hv : T.kd a = 2 → va = nI (k_nv T.t T.c T.n (T.pl a))) : rW g (zup X r (rdT T a va w' vo)) r T a w' vo := h.to h.2.2.2.1 hv
/-- an expression read: from a to a', at e -/
def rE (g : zG) (X X' : zX) (r : Nat) (T : rTP) (a a' w : Nat) (vo : Option Nat) (sp : sRS → sRS) (e : Nat) : Prop := ∃ (c1 : List (Nat × Int32)) (wv : Int32 → Int32 → Int32 → Int32 → Int32), sp (a, 0, []) = (a', 0, c1) ∧ a < a' ∧ cexp X' (a' - a) e wv ∧ k_cd c1 wv ∧ rto X X' r ∧ rW g X' r T a' w vo
