/-! STATES OF THE POOL, what is undone, in plain Lean -/
set_option maxRecDepth 100000
/-- the pool's state k lies so -/
def c_at (K : Nat → Nat → Int32) (k : Nat) (σ ds : Nat → Int32) (dt yr : Int32) : Prop := ∀ r i, 10 * k + 300 ≤ r → r < 10 * k + 310 → K r i = cpv (10 * k + 300) σ ds dt yr r i
/-- all of the pool's states are laid -/
def c_pool (A : Nat → Nat) (K : Nat → Nat → Int32) : Prop := ∀ k, k < A 2 → ∃ (σ ds : Nat → Int32) (dt yr : Int32), c_at K k σ ds dt yr
section CAT
variable {K K' : Nat → Nat → Int32} {k j : Nat} {σ ds τ es : Nat → Int32} {dt yr dt' yr' : Int32}
theorem c_at_put : c_at (cput K (10 * k + 300) σ ds dt yr) k σ ds dt yr := fun r i h1 h2 => if_pos ⟨h1, by omega⟩
theorem c_at_o (h : ∀ r, 10 * k + 300 ≤ r → r < 10 * k + 310 → K' r = K r) (hc : c_at K k σ ds dt yr) : c_at K' k σ ds dt yr := fun r i h1 h2 => by rw [h r h1 h2]; exact hc r i h1 h2
theorem c_at_e (hc : c_at K k σ ds dt yr) : K = cput K (10 * k + 300) σ ds dt yr := by
  funext r i
  unfold cput
  by_cases h : 10 * k + 300 ≤ r ∧ r < 10 * k + 300 + 10
  · rw [if_pos h]
    exact hc r i h.1 (by omega)
  · rw [if_neg h]
theorem c_at_zs {r i : Nat} {v : Int32} (h : r < 10 * k + 300 ∨ 10 * k + 310 ≤ r) (hc : c_at K k σ ds dt yr) : c_at (zs K r i v) k σ ds dt yr := c_at_o (fun q h1 h2 => zs_a (by omega)) hc
theorem c_at_cput (h : ¬ j = k) (hc : c_at K k σ ds dt yr) : c_at (cput K (10 * j + 300) τ es dt' yr') k σ ds dt yr := c_at_o (fun q h1 h2 => cput_a (by omega)) hc
/-- one state becomes another -/
theorem c_at_be (hj : c_at K j σ ds dt yr) (hk : c_at K k τ es dt' yr') (h : ¬ j = k) : s_be K (10 * j + 300) (10 * k + 300) = cput K (10 * k + 300) σ ds dt yr := by
  have e1 := c_at_e hj
  have e2 := c_at_e hk
  have e3 := s_be_put (K := K) (o := 10 * j + 300) (s := 10 * k + 300) (σ := τ) (τ := σ) (ds := es) (es := ds) (dt := dt') (yr := yr') (dt' := dt) (yr' := yr) (by omega)
  rw [← e1, ← e2] at e3
  exact e3
/-- the state and the trial -/
theorem c_at_two (h0 : c_at K 0 σ ds dt yr) (h1 : c_at K 1 τ es dt' yr') {o : Int32} (ho : K 99 8 = o) : K = cput (cput (zs K 99 8 o) 300 σ ds dt yr) 310 τ es dt' yr' := by
  have e0 : zs K 99 8 o = K := by
    funext r i
    show (if r = 99 ∧ i = 8 then o else K r i) = K r i
    by_cases h : r = 99 ∧ i = 8
    · rw [if_pos h, h.1, h.2, ho]
    · rw [if_neg h]
  rw [e0]
  have e1 : cput K 300 σ ds dt yr = K := (c_at_e h0).symm
  rw [e1]
  exact c_at_e h1
end CAT
/-- the slots of the undone: 0 holds none -/
def c_sl (A : Nat → Nat) (O : Nat → Nat → Option Nat) (sl : Nat → Nat) : Prop := ∀ p, p < 16 → (sl p = 0 ∧ O 9 p = none) ∨ (2 ≤ sl p ∧ sl p < A 2 ∧ O 9 p = some (A (10 * sl p + 309)))
def c_inj (sl : Nat → Nat) : Prop := ∀ p q, p < 16 → q < 16 → sl p = sl q → ¬ sl p = 0 → p = q
/-- what is undone: u states, each with its date -/
def c_un (A : Nat → Nat) (K : Nat → Nat → Int32) (O : Nat → Nat → Option Nat) (sl : Nat → Nat) (u : Nat) (ds : Nat → Int32) (ur : Nat → (Nat → Int32) × Nat) : Prop :=
  u ≤ 16 ∧ K 99 10 = nI u ∧ c_sl A O sl ∧ c_inj sl ∧ ∀ p, p < u → ¬ sl p = 0 ∧ c_at K (sl p) (ur p).1 ds (nI ((ur p).2 % 12)) (nI ((ur p).2 / 12))
/-- one more is kept -/
def s_kept (u : Nat) (ur : Nat → (Nat → Int32) × Nat) (t : (Nat → Int32) × Nat) : Nat → (Nat → Int32) × Nat := fun p => if u = 16 then (if p = 15 then t else ur (p + 1)) else (if p = u then t else ur p)
def s_upn (u : Nat) : Nat := if u = 16 then 16 else u + 1
/-- addresses that stay while the pool grows -/
def c_ext (A A' : Nat → Nat) : Prop := A' 3 = A 3 ∧ A 2 ≤ A' 2 ∧ A' 2 ≤ A 2 + 1 ∧ ∀ i, i ≠ 2 → (i < 300 + 10 * A 2 ∨ 100000 ≤ i) → A' i = A i
/-- all else stays while one is kept -/
def c_kp (A : Nat → Nat) (K : Nat → Nat → Int32) (O : Nat → Nat → Option Nat) (sl : Nat → Nat) (A' : Nat → Nat) (K' : Nat → Nat → Int32) (O' : Nat → Nat → Option Nat) (sl' : Nat → Nat) : Prop :=
  c_ext A A' ∧ (∀ r i, (r < 300 ∨ 100000 ≤ r) → ¬ (r = 99 ∧ (i = 8 ∨ i = 10)) → K' r i = K r i) ∧ (∀ r, r ≠ 9 → O' r = O r) ∧
  ∀ k, 2 ≤ k → k < A 2 → (∀ p, p < 16 → ¬ sl p = k) → (∀ p, p < 16 → ¬ sl' p = k) ∧ ∀ r, 10 * k + 300 ≤ r → r < 10 * k + 310 → K' r = K r
section KEPT
variable {A A' : Nat → Nat} {K K' K1 : Nat → Nat → Int32} {O O' : Nat → Nat → Option Nat} {sl sl' : Nat → Nat} {u u' k now : Nat} {σ ds : Nat → Int32} {ur ur' : Nat → (Nat → Int32) × Nat}
theorem c_ext_rf : c_ext A A := ⟨rfl, Nat.le_refl _, Nat.le_succ _, fun _ _ _ => rfl⟩
theorem c_un_new (hsl : c_sl A O sl) (hin : c_inj sl) (hu : 0 < u ∧ u ≤ 16) (hk : ¬ k = 0) (hl : sl (u - 1) = k) (ho : ∀ p, p + 1 < u → ¬ sl p = 0 ∧ c_at K1 (sl p) (ur p).1 ds (nI ((ur p).2 % 12)) (nI ((ur p).2 / 12))) (hn : ur (u - 1) = (σ, now)) (h10 : K1 99 10 = nI u) :
    c_un A (cput K1 (10 * k + 300) σ ds (nI (now % 12)) (nI (now / 12))) O sl u ds ur := by
  refine ⟨hu.2, (congrFun (cput_a (by omega)) 10).trans h10, hsl, hin, fun p hp => ?_⟩
  by_cases h : p = u - 1
  · subst h
    rw [hl, hn]
    exact ⟨hk, c_at_put⟩
  · obtain ⟨h1, h2⟩ := ho p (by omega)
    refine ⟨h1, c_at_cput (fun e => ?_) h2⟩
    exact h (hin p (u - 1) (by omega) (by omega) (by rw [hl, e]) h1)
theorem c_pool_put (h : c_pool A K) {j : Nat} {σ ds : Nat → Int32} {dt yr : Int32} : c_pool A (cput K (10 * j + 300) σ ds dt yr) := fun q hq => by
  by_cases e : j = q
  · subst e
    exact ⟨_, _, _, _, c_at_put⟩
  · obtain ⟨a, b, c, d, h9⟩ := h q hq
    exact ⟨a, b, c, d, c_at_cput e h9⟩
theorem c_pool_zs (h : c_pool A K) {r i : Nat} {v : Int32} (hr : r < 300) : c_pool A (zs K r i v) := fun q hq => by
  obtain ⟨a, b, c, d, h9⟩ := h q hq
  exact ⟨a, b, c, d, c_at_zs (by omega) h9⟩
/-- kept in a slot that holds a state -/
theorem c_kept_a (hun : c_un A K O sl u ds ur) (hP : c_pool A K) (h0 : c_at K 0 σ ds (nI (now % 12)) (nI (now / 12))) (hA2 : 2 ≤ A 2 ∧ A 2 ≤ 9000) (hu : u < 16) (hs : ¬ sl u = 0) :
    ∃ K', s_be (zs K 99 10 (nI (u + 1))) 300 (10 * sl u + 300) = K' ∧ c_un A K' O sl (s_upn u) ds (s_kept u ur (σ, now)) ∧ c_pool A K' ∧ c_at K' 0 σ ds (nI (now % 12)) (nI (now / 12)) ∧ c_kp A K O sl A K' O sl := by
  obtain ⟨a1, a2, a3, a4, a5⟩ := hun
  have hk : 2 ≤ sl u ∧ sl u < A 2 := by
    rcases a3 u hu with h | h
    · exact absurd h.1 hs
    · exact ⟨h.1, h.2.1⟩
  obtain ⟨τ, es, dt', yr', hk1⟩ := hP _ hk.2
  have e := c_at_be (c_at_zs (r := 99) (i := 10) (v := nI (u + 1)) (by omega) h0) (c_at_zs (r := 99) (i := 10) (v := nI (u + 1)) (by omega) hk1) (by omega)
  refine ⟨_, e, ?_, c_pool_put (c_pool_zs hP (by omega)), c_at_cput (by omega) (c_at_zs (by omega) h0), c_ext_rf, fun r i hr hi => ?_, fun _ _ => rfl, fun q hq1 hq2 hq => ⟨hq, fun r hr1 hr2 => ?_⟩⟩
  · have eu : s_upn u = u + 1 := if_neg (by omega)
    rw [eu]
    refine c_un_new a3 a4 ⟨by omega, by omega⟩ hs rfl (fun p hp => ?_) ?_ (zs_s)
    · obtain ⟨h1, h2⟩ := a5 p (by omega)
      have e9 : s_kept u ur (σ, now) p = ur p := by
        unfold s_kept
        rw [if_neg (by omega), if_neg (by omega)]
      rw [e9]
      exact ⟨h1, c_at_zs (by omega) h2⟩
    · unfold s_kept
      rw [if_neg (by omega), if_pos (by omega)]
  · rw [cput_a (by omega)]
    exact if_neg (fun h => hi ⟨h.1, Or.inr h.2⟩)
  · have := hq u hu
    rw [cput_a (by omega), zs_a (by omega)]
/-- kept while all slots are full -/
theorem c_kept_c (hun : c_un A K O sl 16 ds ur) (hP : c_pool A K) (h0 : c_at K 0 σ ds (nI (now % 12)) (nI (now / 12))) (hA2 : A 2 ≤ 9000) :
    (∀ p, p < 16 → O 9 p = some (A (10 * sl p + 309)) ∧ 2 ≤ sl p ∧ sl p < A 2) ∧ ∃ K' sl', s_be (zs (zs K 99 10 15) 99 10 16) 300 (10 * sl 0 + 300) = K' ∧ c_un A K' (s_rot O) sl' 16 ds (s_kept 16 ur (σ, now)) ∧ c_pool A K' ∧ c_at K' 0 σ ds (nI (now % 12)) (nI (now / 12)) ∧ c_kp A K O sl A K' (s_rot O) sl' := by
  obtain ⟨a1, a2, a3, a4, a5⟩ := hun
  have hsl : ∀ p, p < 16 → O 9 p = some (A (10 * sl p + 309)) ∧ 2 ≤ sl p ∧ sl p < A 2 := fun p hp => by
    rcases a3 p hp with h | h
    · exact absurd h.1 (a5 p hp).1
    · exact ⟨h.2.2, h.1, h.2.1⟩
  refine ⟨hsl, ?_⟩
  have hk := hsl 0 (by omega)
  obtain ⟨τ, es, dt', yr', hk1⟩ := hP _ hk.2.2
  have e := c_at_be (c_at_zs (r := 99) (i := 10) (v := 16) (by omega) (c_at_zs (r := 99) (i := 10) (v := 15) (by omega) h0)) (c_at_zs (r := 99) (i := 10) (v := 16) (by omega) (c_at_zs (r := 99) (i := 10) (v := 15) (by omega) hk1)) (by omega)
  refine ⟨_, fun p => if p = 15 then sl 0 else sl (p + 1), e, ?_, c_pool_put (c_pool_zs (c_pool_zs hP (by omega)) (by omega)), c_at_cput (by omega) (c_at_zs (by omega) (c_at_zs (by omega) h0)), c_ext_rf, fun r i hr hi => ?_, fun r hr => ?_, fun q hq1 hq2 hq => ⟨fun p hp => ?_, fun r hr1 hr2 => ?_⟩⟩
  · refine c_un_new (fun p hp => Or.inr ?_) (fun p q hp hq e1 e2 => ?_) ⟨by omega, by omega⟩ (by omega) (if_pos rfl) (fun p hp => ?_) ?_ (zs_s)
    · by_cases h : p = 15
      · subst h
        rw [if_pos rfl]
        exact ⟨hk.2.1, hk.2.2, hk.1⟩
      · have h9 := hsl (p + 1) (by omega)
        rw [if_neg h]
        refine ⟨h9.2.1, h9.2.2, ?_⟩
        show (if 9 = 9 ∧ p = 15 then O 9 0 else if 9 = 9 ∧ p < 15 then O 9 (p + 1) else O 9 p) = _
        rw [if_neg (by omega), if_pos (by omega)]
        exact h9.1
    · have h9 : ∀ p, p < 16 → ∃ q, q < 16 ∧ (if p = 15 then sl 0 else sl (p + 1)) = sl q ∧ ¬ sl q = 0 ∧ q = (p + 1) % 16 := fun p hp => by
        by_cases h : p = 15
        · exact ⟨0, by omega, by rw [if_pos h], by have := hk.2.1; omega, by omega⟩
        · exact ⟨p + 1, by omega, by rw [if_neg h], by have := (hsl (p + 1) (by omega)).2.1; omega, by omega⟩
      obtain ⟨p', b1, b2, b3, b4⟩ := h9 p hp
      obtain ⟨q', d1, d2, d3, d4⟩ := h9 q hq
      have h8 := a4 p' q' b1 d1 (b2.symm.trans (e1.trans d2)) b3
      omega
    · obtain ⟨h1, h2⟩ := a5 (p + 1) (by omega)
      have e9 : s_kept 16 ur (σ, now) p = ur (p + 1) := by
        unfold s_kept
        rw [if_pos rfl, if_neg (by omega)]
      rw [if_neg (show ¬ p = 15 by omega), e9]
      exact ⟨h1, c_at_zs (by omega) (c_at_zs (by omega) h2)⟩
    · unfold s_kept
      rw [if_pos rfl, if_pos rfl]
  · rw [cput_a (by omega)]
    exact (if_neg (fun h => hi ⟨h.1, Or.inr h.2⟩)).trans (if_neg (fun h => hi ⟨h.1, Or.inr h.2⟩))
  · funext p
    show (if r = 9 ∧ p = 15 then O 9 0 else if r = 9 ∧ p < 15 then O 9 (p + 1) else O r p) = O r p
    rw [if_neg (fun h => hr h.1), if_neg (fun h => hr h.1)]
  · by_cases h : p = 15
    · simp only [if_pos h]
      exact hq 0 (by omega)
    · simp only [if_neg h]
      exact hq (p + 1) (by omega)
  · have := hq 0 (by omega)
    rw [cput_a (by omega), zs_a (by omega), zs_a (by omega)]
/-- kept in a new state -/
theorem c_kept_b {n : Nat → Nat} {s : Nat} (hun : c_un A K O sl u ds ur) (hP : c_pool A K) (h0 : c_at K 0 σ ds (nI (now % 12)) (nI (now / 12))) (hA2 : 2 ≤ A 2 ∧ A 2 < 9000) (hu : u < 16) (hs : sl u = 0) :
    ∃ K' sl', s_be (zs (cput K (300 + 10 * A 2) (fun _ => 0) (fun _ => 0) 0 0) 99 10 (nI (u + 1))) 300 (10 * A 2 + 300) = K' ∧ c_un (A_gr A n s) K' (zs O 9 u (some (A_gr A n s (10 * A 2 + 309)))) sl' (s_upn u) ds (s_kept u ur (σ, now)) ∧ c_pool (A_gr A n s) K' ∧ c_at K' 0 σ ds (nI (now % 12)) (nI (now / 12)) ∧ c_kp A K O sl (A_gr A n s) K' (zs O 9 u (some (A_gr A n s (10 * A 2 + 309)))) sl' := by
  obtain ⟨a1, a2, a3, a4, a5⟩ := hun
  have e0 : 300 + 10 * A 2 = 10 * A 2 + 300 := by omega
  have hP1 : c_pool (A_gr A n s) (cput K (10 * A 2 + 300) (fun _ => 0) (fun _ => 0) 0 0) := fun q hq => by
    rw [A_gr_2] at hq
    by_cases e : q = A 2
    · subst e
      exact ⟨_, _, _, _, c_at_put⟩
    · obtain ⟨a, b, c, d, h9⟩ := hP q (by omega)
      exact ⟨a, b, c, d, c_at_cput (by omega) h9⟩
  have e := c_at_be (c_at_zs (r := 99) (i := 10) (v := nI (u + 1)) (by omega) (c_at_cput (j := A 2) (τ := fun _ => 0) (es := fun _ => 0) (dt' := 0) (yr' := 0) (by omega) h0)) (c_at_zs (r := 99) (i := 10) (v := nI (u + 1)) (by omega) (c_at_put (K := K) (k := A 2) (σ := fun _ => 0) (ds := fun _ => 0) (dt := 0) (yr := 0))) (by omega)
  rw [e0]
  have hsz : ∀ k, k < A 2 → A_gr A n s (10 * k + 309) = A (10 * k + 309) := fun k hk => A_gr_o (by omega) (Or.inl (by omega))
  refine ⟨_, fun p => if p = u then A 2 else sl p, e, ?_, c_pool_put (c_pool_zs hP1 (by omega)), c_at_cput (by omega) (c_at_zs (by omega) (c_at_cput (by omega) h0)), ⟨A_gr_o (by omega) (Or.inl (by omega)), by rw [A_gr_2]; omega, by rw [A_gr_2]; omega, fun i h1 h2 => A_gr_o h1 (by omega)⟩, fun r i hr hi => ?_, fun r hr => zs_a hr, fun q hq1 hq2 hq => ⟨fun p hp => ?_, fun r hr1 hr2 => ?_⟩⟩
  · have eu : s_upn u = u + 1 := if_neg (by omega)
    rw [eu]
    refine c_un_new (fun p hp => ?_) (fun p q hp hq e1 e2 => ?_) ⟨by omega, by omega⟩ (by omega) (if_pos rfl) (fun p hp => ?_) ?_ (zs_s)
    · by_cases h : p = u
      · subst h
        rw [if_pos rfl]
        refine Or.inr ⟨hA2.1, by rw [A_gr_2]; omega, zs_s⟩
      · rw [if_neg h]
        have e8 : zs O 9 u (some (A_gr A n s (10 * A 2 + 309))) 9 p = O 9 p := if_neg (fun z => h z.2)
        rw [e8]
        rcases a3 p hp with h9 | ⟨h9, h8, h7⟩
        · exact Or.inl h9
        · exact Or.inr ⟨h9, by rw [A_gr_2]; omega, by rw [hsz _ h8]; exact h7⟩
    · have hb : ∀ p, p < 16 → ¬ sl p = A 2 := fun p hp => by
        rcases a3 p hp with h9 | h9 <;> omega
      by_cases h : p = u
      · by_cases h' : q = u
        · rw [h, h']
        · rw [if_pos h, if_neg h'] at e1
          exact absurd e1.symm (hb q hq)
      · by_cases h' : q = u
        · rw [if_neg h, if_pos h'] at e1
          exact absurd e1 (hb p hp)
        · rw [if_neg h, if_neg h'] at e1
          rw [if_neg h] at e2
          exact a4 p q hp hq e1 e2
    · obtain ⟨h1, h2⟩ := a5 p (by omega)
      have e9 : s_kept u ur (σ, now) p = ur p := by
        unfold s_kept
        rw [if_neg (by omega), if_neg (by omega)]
      have hb : sl p < A 2 := by
        rcases a3 p (by omega) with h9 | h9
        · omega
        · exact h9.2.1
      rw [if_neg (show ¬ p = u by omega), e9]
      exact ⟨h1, c_at_zs (by omega) (c_at_cput (by omega) h2)⟩
    · unfold s_kept
      rw [if_neg (by omega), if_pos (by omega)]
  · rw [cput_a (by omega)]
    refine (if_neg (fun h => hi ⟨h.1, Or.inr h.2⟩)).trans ?_
    rw [cput_a (by omega)]
  · by_cases h : p = u
    · simp only [if_pos h]
      omega
    · simp only [if_neg h]
      exact hq p hp
  · rw [cput_a (by omega), zs_a (by omega), cput_a (by omega)]
theorem c_at_one {dt yr o : Int32} (h0 : c_at K 0 σ ds dt yr) (ho : K 99 8 = o) : K = cput (zs K 99 8 o) 300 σ ds dt yr := by
  have e0 : zs K 99 8 o = K := by
    funext r i
    show (if r = 99 ∧ i = 8 then o else K r i) = K r i
    by_cases h : r = 99 ∧ i = 8
    · rw [if_pos h, h.1, h.2, ho]
    · rw [if_neg h]
  rw [e0]
  exact c_at_e h0
/-- the state alone changes -/
theorem c_top {σ' ds' : Nat → Int32} {dt' yr' o : Int32} (h1 : c_un A' K' O' sl' u' ds ur') (h2 : c_pool A' K') (h4 : c_kp A K O sl A' K' O' sl') :
    c_un A' (cput (zs K' 99 8 o) 300 σ' ds' dt' yr') O' sl' u' ds ur' ∧ c_pool A' (cput (zs K' 99 8 o) 300 σ' ds' dt' yr') ∧ c_at (cput (zs K' 99 8 o) 300 σ' ds' dt' yr') 0 σ' ds' dt' yr' ∧ c_kp A K O sl A' (cput (zs K' 99 8 o) 300 σ' ds' dt' yr') O' sl' := by
  obtain ⟨a1, a2, a3, a4, a5⟩ := h1
  obtain ⟨b1, b2, b3, b4⟩ := h4
  have ez : zs K' 99 8 o 99 10 = K' 99 10 := if_neg (by omega)
  refine ⟨⟨a1, (congrFun (cput_a (by omega)) 10).trans (ez.trans a2), a3, a4, fun p hp => ?_⟩, c_pool_put (j := 0) (c_pool_zs h2 (by omega)), c_at_put (k := 0), b1, fun r i hr hi => ?_, b3, fun k hk1 hk2 hk => ?_⟩
  · obtain ⟨h5, h6⟩ := a5 p hp
    have h7 : 2 ≤ sl' p := by
      rcases a3 p (by omega) with h | h
      · exact absurd h.1 h5
      · exact h.1
    exact ⟨h5, c_at_cput (j := 0) (by omega) (c_at_zs (by omega) h6)⟩
  · have e1 : cput (zs K' 99 8 o) 300 σ' ds' dt' yr' r = zs K' 99 8 o r := cput_a (by omega)
    rw [e1]
    exact (if_neg (fun h => hi ⟨h.1, Or.inl h.2⟩)).trans (b2 r i hr hi)
  · obtain ⟨h5, h6⟩ := b4 k hk1 hk2 hk
    refine ⟨h5, fun r hr1 hr2 => ?_⟩
    rw [cput_a (by omega), zs_a (by omega)]
    exact h6 r hr1 hr2
end KEPT
/-- kept, and the state is σ' then -/
abbrev c_moved (g : zG) (A : Nat → Nat) (K : Nat → Nat → Int32) (O : Nat → Nat → Option Nat) (gl : Int64) (X : zX) (sl : Nat → Nat) (u : Nat) (ds : Nat → Int32) (ur : Nat → (Nat → Int32) × Nat) (σ : Nat → Int32) (now : Nat) (σ' : Nat → Int32) (now' : Nat) (X' : zX) : Prop :=
  ∃ (A' : Nat → Nat) (K' : Nat → Nat → Int32) (O' : Nat → Nat → Option Nat) (sl' : Nat → Nat) (F' : Nat → Int32), X' = cX g A' K' F' O' gl X ∧ cok g A' X ∧ c_un A' K' O' sl' (s_upn u) ds (s_kept u ur (σ, now)) ∧ c_pool A' K' ∧ c_at K' 0 σ' ds (nI (now' % 12)) (nI (now' / 12)) ∧ c_kp A K O sl A' K' O' sl'
