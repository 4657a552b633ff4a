/-! ROOM; LAYINGS, BEDS TO BE BUILT, in plain Lean -/
set_option maxRecDepth 100000
theorem z_hasRoom {s : State} {pl : Platform} {r r' : Room} (h1 : r.frames ≤ r'.frames) (h2 : r.cells ≤ r'.cells) (h3 : r.slots ≤ r'.slots) (h4 : r.locals ≤ r'.locals) (h : s.hasRoom pl r' = true) : s.hasRoom pl r = true := by
  unfold State.hasRoom at h ⊢
  simp only [Bool.and_eq_true, decide_eq_true_eq] at h ⊢
  obtain ⟨⟨⟨⟨a1, a2, a3, a4, a5, a6⟩, a7⟩, a8⟩, a9⟩ := h
  exact ⟨⟨⟨⟨by omega, by omega, by omega, by omega, by omega, a6⟩, by omega⟩, by omega⟩, a9⟩
/-- more room does no harm -/
theorem zN.room {g : zG} {M : zMth} {R R' : Room} {As : List Value} {X : zX} {pv : Option Value → zX → Prop} (h1 : R.frames ≤ R'.frames) (h2 : R.cells = R'.cells) (h3 : R.slots = R'.slots) (h4 : R.locals ≤ R'.locals) (h : zN g M R As X pv) : zN g M R' As X pv := by
  intro p e ha hc hk s m args below hf happ hP hK
  obtain ⟨b1, b2, b3, b4, b5, b6, b7, b8⟩ := (Spec.appliesLoose_iff hf).mp happ
  have hA := (Spec.appliesLoose_iff (S := headSpec (ws_ M.1 M.2.1 M.2.2.1 M.2.2.2.1) R) hf).mpr ⟨b1, b2, b3, b4, b5, b6, z_hasRoom h1 (Nat.le_of_eq h2) (Nat.le_of_eq h3) h4 b7, b8⟩
  have h9 := h p e ha hc hk s m args below hf hA hP hK
  rw [h2, h3] at h9
  exact h9
/-- ways to lay those that are somewhere, r of them left -/
def s_lays (vs σ : Nat → Int32) (nh nd : Nat) : Nat → (Nat → Int32) → Int32
  | 0, _ => 1
  | r + 1, τ => if σ (nd - (r + 1) + 6) < 0 then s_lays vs σ nh nd r τ else s_sum (fun h => if s_holds vs τ nd h (nd - (r + 1)) = true then s_lays vs σ nh nd r (zs1 τ (nd - (r + 1) + 6) (nI h)) else 0) nh
def s_none (σ : Nat → Int32) (n : Nat) : Nat → Int32 := fun j => if 6 ≤ j ∧ j < n + 6 then zm1 else σ j
theorem s_none_0 {σ : Nat → Int32} : s_none σ 0 = σ := by
  funext j
  unfold s_none
  rw [if_neg (by omega)]
theorem s_none_1 {σ : Nat → Int32} {n : Nat} : zs1 (s_none σ n) (n + 6) zm1 = s_none σ (n + 1) := by
  funext j
  show (if j = n + 6 then zm1 else if 6 ≤ j ∧ j < n + 6 then zm1 else σ j) = if 6 ≤ j ∧ j < n + 1 + 6 then zm1 else σ j
  by_cases h1 : j = n + 6
  · rw [if_pos h1, if_pos (by omega)]
  · by_cases h2 : 6 ≤ j ∧ j < n + 6
    · rw [if_neg h1, if_pos h2, if_pos (by omega)]
    · rw [if_neg h1, if_neg h2, if_neg (by omega)]
theorem zs1_back {f : Nat → Int32} {k : Nat} {v w : Int32} (h : f k = w) : zs1 (zs1 f k v) k w = f := by
  funext j
  unfold zs1
  by_cases e : j = k
  · rw [if_pos e, e, h]
  · rw [if_neg e, if_neg e]
theorem s_lays_1 {vs σ : Nat → Int32} {nh nd r : Nat} {τ : Nat → Int32} : s_lays vs σ nh nd (r + 1) τ = if σ (nd - (r + 1) + 6) < 0 then s_lays vs σ nh nd r τ else s_sum (fun h => if s_holds vs τ nd h (nd - (r + 1)) = true then s_lays vs σ nh nd r (zs1 τ (nd - (r + 1) + 6) (nI h)) else 0) nh := rfl
/-- somewhere among the first n -/
def s_ex (p : Nat → Bool) : Nat → Bool
  | 0 => false
  | n + 1 => s_ex p n || p n
theorem s_ex_up {p : Nat → Bool} {n : Nat} (h : s_ex p n = true) : ∀ m, n ≤ m → s_ex p m = true
  | 0, hm => by rw [show n = 0 by omega] at h; exact h
  | m + 1, hm => by
    by_cases e : n = m + 1
    · rw [← e]; exact h
    · show (s_ex p m || p m) = true
      rw [s_ex_up h m (by omega)]
      rfl
theorem s_ex_of {p : Nat → Bool} {k : Nat} (h : p k = true) {m : Nat} (hk : k < m) : s_ex p m = true :=
  s_ex_up (n := k + 1) (by show (s_ex p k || p k) = true; rw [h, Bool.or_true]) m hk
/-- d may lie apart in h, of o days before -/
def s_mayA (f : Int32) (ap : Nat → Int32) (h : Nat) : Nat → Bool
  | 0 => true
  | o + 1 => s_mayA f ap h o && (decide (¬ ap o = nI h) || !(s_isBit f o))
def s_apt (vs : Nat → Int32) (m nd : Nat) : Nat → (Nat → Int32) → Bool
  | 0, _ => true
  | r + 1, ap => s_ex (fun h => s_mayA (vs (5 * (nd - (r + 1)) + 16)) ap h (nd - (r + 1)) && s_apt vs m nd r (zs1 ap (nd - (r + 1)) (nI h))) m
theorem s_apt_1 {vs : Nat → Int32} {m nd r : Nat} {ap : Nat → Int32} : s_apt vs m nd (r + 1) ap = s_ex (fun h => s_mayA (vs (5 * (nd - (r + 1)) + 16)) ap h (nd - (r + 1)) && s_apt vs m nd r (zs1 ap (nd - (r + 1)) (nI h))) m := rfl
theorem s_ap_1 {Gb : Nat → Nat → Int32} {ap : Nat → Int32} {d : Nat} {v : Int32} (h : ∀ o, o < d → Gb 30 o = ap o) : ∀ o, o < d + 1 → zs Gb 30 d v 30 o = zs1 ap d v o := fun o ho => by
  by_cases e : o = d
  · subst e
    exact zs_s.trans zs1_s.symm
  · exact (zs_n e).trans ((h o (by omega)).trans (zs1_n e).symm)
theorem s_ap_0 {Gb : Nat → Nat → Int32} {ap : Nat → Int32} {d : Nat} {v : Int32} (h : ∀ o, o < d → Gb 30 o = ap o) : ∀ o, o < d → zs Gb 30 d v 30 o = ap o := fun o ho => (zs_n (by omega)).trans (h o ho)
theorem s_ap_2 {Gb : Nat → Nat → Int32} {ap : Nat → Int32} {d : Nat} {v : Int32} (h : ∀ o, o < d + 1 → Gb 30 o = zs1 ap d v o) : ∀ o, o < d → Gb 30 o = ap o := fun o ho => (h o (by omega)).trans (zs1_n (by omega))
theorem s_mayA_all {f : Int32} {ap : Nat → Int32} {d : Nat} (hd : d < 2 ^ 31) (h : ∀ o, o < d → ap o = nI o) : ∀ o, o ≤ d → s_mayA f ap d o = true
  | 0, _ => rfl
  | o + 1, ho => by
    show (s_mayA f ap d o && (decide (¬ ap o = nI d) || !(s_isBit f o))) = true
    have hne : ¬ ap o = nI d := fun e => by
      rw [h o (by omega)] at e
      have := (nI_eq (by omega) hd).mp e
      omega
    rw [s_mayA_all hd h o (by omega), decide_eq_true hne]
    rfl
theorem s_apt_all {vs : Nat → Int32} {nd : Nat} (hnd : nd < 2 ^ 31) : ∀ (r : Nat) (ap : Nat → Int32), r ≤ nd → (∀ o, o < nd - r → ap o = nI o) → s_apt vs nd nd r ap = true
  | 0, _, _, _ => rfl
  | r + 1, ap, hr, h => by
    rw [s_apt_1]
    refine s_ex_of (k := nd - (r + 1)) ?_ (by omega)
    rw [Bool.and_eq_true]
    refine ⟨s_mayA_all (by omega) h _ (Nat.le_refl _), s_apt_all hnd r _ (by omega) (fun o ho => ?_)⟩
    by_cases e : o = nd - (r + 1)
    · rw [e]; exact zs1_s
    · exact (zs1_n e).trans (h o (by omega))
def s_apart (vs : Nat → Int32) (nd : Nat) : Int32 := s_fst (fun n => s_apt vs n nd nd (fun _ => 0)) nI (nd + 1) 0
theorem zb_nar (b : Bool) : narrow .boolean (.int (zb b)) = .int (zb b) := by cases b <;> rfl
