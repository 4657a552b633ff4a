/-! THE READER'S WORDS, in plain Lean; the tape, its tokens. Printed by mkrd2.py -/
set_option maxRecDepth 100000
/-- where the words of a text begin; the last: its length -/
def kof : Nat → List Nat
  | 1 => [0, 6, 12, 16, 22, 28, 34]
  | 2 => [0, 6, 11, 17, 21, 24, 27, 32, 38, 44, 50, 55, 60, 65, 71, 77, 81, 87, 92, 96, 100, 103]
  | 3 => [0, 5]
  | 4 => [0, 6, 10, 16, 21]
  | 5 => [0, 3]
  | 6 => [0, 3]
  | 7 => [0, 5]
  | 8 => [0, 5, 10, 16, 22]
  | 9 => [0, 4]
  | 10 => [0, 4, 7]
  | 11 => [0, 5, 10, 15, 21]
  | _ => []
/-- which of the words there are each is -/
def kwi : Nat → List Nat
  | 1 => [0, 2, 3, 7, 8, 9]
  | 2 => [0, 1, 2, 3, 4, 5, 6, 7, 8, 9, 10, 11, 12, 13, 14, 15, 16, 17, 18, 19, 20]
  | 3 => [1]
  | 4 => [14, 15, 16, 17]
  | 5 => [4]
  | 6 => [5]
  | 7 => [6]
  | 8 => [21, 22, 23, 24]
  | 9 => [18]
  | 10 => [19, 20]
  | 11 => [10, 11, 12, 13]
  | _ => []
def kwl : Nat → Nat × Nat × Nat
  | 0 => (2, 0, 5)
  | 1 => (2, 6, 4)
  | 2 => (2, 11, 5)
  | 3 => (2, 17, 3)
  | 4 => (2, 21, 2)
  | 5 => (2, 24, 2)
  | 6 => (2, 27, 4)
  | 7 => (2, 32, 5)
  | 8 => (2, 38, 5)
  | 9 => (2, 44, 5)
  | 10 => (2, 50, 4)
  | 11 => (2, 55, 4)
  | 12 => (2, 60, 4)
  | 13 => (2, 65, 5)
  | 14 => (2, 71, 5)
  | 15 => (2, 77, 3)
  | 16 => (2, 81, 5)
  | 17 => (2, 87, 4)
  | 18 => (2, 92, 3)
  | 19 => (2, 96, 3)
  | 20 => (2, 100, 2)
  | 21 => (8, 0, 4)
  | 22 => (8, 5, 4)
  | 23 => (8, 10, 5)
  | 24 => (8, 16, 5)
  | _ => (0, 0, 0)
def kwd (j : Nat) : Int64 := s_w37 (kt (kwl j).1) (kwl j).2.1 (kwl j).2.2
def koff (i k : Nat) : Nat := (kof i).getD k 0
def kix (i k : Nat) : Nat := (kwi i).getD k 0
def kmw (i : Nat) : Nat := (kwi i).length
/-- letters of a text's word -/
def k_lets (f : Nat → Int32) (q : Nat) : Nat → Bool
  | 0 => true
  | m + 1 => k_lets f q m && s_le (f (q + m))
theorem k_lets_i {f : Nat → Int32} {q : Nat} : ∀ m, k_lets f q m = true → ∀ j, j < m → s_le (f (q + j)) = true
  | 0, _, j, hj => absurd hj (Nat.not_lt_zero j)
  | m + 1, h, j, hj => by
    unfold k_lets at h
    rw [Bool.and_eq_true] at h
    by_cases e : j = m
    · rw [e]; exact h.2
    · exact k_lets_i m h.1 j (by omega)
/-- what holds of the words in a text -/
def k_wok (i : Nat) : Prop := koff i 0 = 0 ∧ koff i (kmw i) = (kstr i).length ∧ ∀ k, k < kmw i → koff i k < koff i (k + 1) ∧ koff i (k + 1) ≤ (kstr i).length ∧ s_ix (kt i) 32 (kstr i).length (koff i k) = nI (koff i (k + 1) - 1) ∧ koff i (k + 1) - 1 - koff i k ≤ 8 ∧ k_lets (kt i) (koff i k) (koff i (k + 1) - 1 - koff i k) = true ∧ kwd (kix i k) = s_w37 (kt i) (koff i k) (koff i (k + 1) - 1 - koff i k) ∧ kix i k < 25
theorem k_wok_1 : k_wok 1 := by unfold k_wok; decide +kernel
theorem k_wok_2 : k_wok 2 := by unfold k_wok; decide +kernel
theorem k_wok_3 : k_wok 3 := by unfold k_wok; decide +kernel
theorem k_wok_4 : k_wok 4 := by unfold k_wok; decide +kernel
theorem k_wok_5 : k_wok 5 := by unfold k_wok; decide +kernel
theorem k_wok_6 : k_wok 6 := by unfold k_wok; decide +kernel
theorem k_wok_7 : k_wok 7 := by unfold k_wok; decide +kernel
theorem k_wok_8 : k_wok 8 := by unfold k_wok; decide +kernel
theorem k_wok_9 : k_wok 9 := by unfold k_wok; decide +kernel
theorem k_wok_10 : k_wok 10 := by unfold k_wok; decide +kernel
theorem k_wok_11 : k_wok 11 := by unfold k_wok; decide +kernel
theorem k_wok_a {i : Nat} (h0 : 1 ≤ i) (h : i < 12) : k_wok i := by
  rcases (by omega : i = 1 ∨ i = 2 ∨ i = 3 ∨ i = 4 ∨ i = 5 ∨ i = 6 ∨ i = 7 ∨ i = 8 ∨ i = 9 ∨ i = 10 ∨ i = 11) with rfl | rfl | rfl | rfl | rfl | rfl | rfl | rfl | rfl | rfl | rfl
  · exact k_wok_1
  · exact k_wok_2
  · exact k_wok_3
  · exact k_wok_4
  · exact k_wok_5
  · exact k_wok_6
  · exact k_wok_7
  · exact k_wok_8
  · exact k_wok_9
  · exact k_wok_10
  · exact k_wok_11
theorem k_str_le : ∀ i, i < 12 → ∀ j, j < (kstr i).length → (kstr i).getD j 0 < 128 := by decide +kernel
theorem k_str_len : ∀ i, i < 12 → (kstr i).length ≤ 110 := by decide +kernel
/-- base 37, by naturals -/
def k37 (f : Nat → Int32) (q : Nat) : Nat → Nat
  | 0 => 0
  | m + 1 => 37 * k37 f q m + ((f (q + m)).toNatClampNeg - 96)
theorem k37_lt {f : Nat → Int32} {q : Nat} : ∀ m, (∀ j, j < m → (f (q + j)).toNatClampNeg ≤ 122) → k37 f q m < 37 ^ m
  | 0, _ => by show 0 < 37 ^ 0; decide
  | m + 1, h => by
    have ih := k37_lt m (fun j hj => h j (by omega))
    have h9 := h m (by omega)
    show 37 * k37 f q m + _ < _
    rw [Nat.pow_succ]
    omega
theorem k_rank_n : ∀ x, x < 128 → 97 ≤ x ∧ x ≤ 122 → (s_rank (nI x)).toInt64 = Int64.ofNat (x - 96) ∧ (nI x).toNatClampNeg = x := by decide +kernel
theorem k_le_x (v : Int32) (h : s_le v = true) : ∃ x, 97 ≤ x ∧ x ≤ 122 ∧ v = nI x := by
  unfold s_le at h
  rw [Bool.and_eq_true, decide_eq_true_eq, decide_eq_true_eq] at h
  have h1 : (97 : Int) ≤ v.toInt := Int32.le_iff_toInt_le.mp h.1
  have h2 : v.toInt ≤ (122 : Int) := Int32.le_iff_toInt_le.mp h.2
  refine ⟨v.toInt.toNat, by omega, by omega, ?_⟩
  apply Int32.toInt_inj.mp
  unfold nI
  rw [Int32.toInt_ofNat_of_lt (by omega)]
  omega
theorem k37_s {f : Nat → Int32} {q : Nat} : ∀ m, m ≤ 8 → (∀ j, j < m → s_le (f (q + j)) = true) → s_w37 f q m = Int64.ofNat (k37 f q m)
  | 0, _, _ => rfl
  | m + 1, hm, h => by
    have ih := k37_s m (by omega) (fun j hj => h j (by omega))
    obtain ⟨x, x1, x2, x3⟩ := k_le_x _ (h m (by omega))
    have hr := k_rank_n x (by omega) ⟨x1, x2⟩
    unfold s_w37 k37
    rw [if_pos (by omega), ih, x3, hr.1, hr.2]
    rw [Int64.ofNat_add, Int64.ofNat_mul]
    rfl
theorem k37_inj {f h : Nat → Int32} {q r : Nat} : ∀ m l, (∀ j, j < m → 97 ≤ (f (q + j)).toNatClampNeg ∧ (f (q + j)).toNatClampNeg ≤ 122) → (∀ j, j < l → 97 ≤ (h (r + j)).toNatClampNeg ∧ (h (r + j)).toNatClampNeg ≤ 122) → k37 f q m = k37 h r l → m = l ∧ ∀ j, j < m → (f (q + j)).toNatClampNeg = (h (r + j)).toNatClampNeg
  | 0, 0, _, _, _ => ⟨rfl, fun j hj => absurd hj (Nat.not_lt_zero j)⟩
  | 0, l + 1, _, h2, e => by
    have h9 := h2 l (by omega)
    have e9 : 0 = 37 * k37 h r l + ((h (r + l)).toNatClampNeg - 96) := e
    omega
  | m + 1, 0, h1, _, e => by
    have h9 := h1 m (by omega)
    have e9 : 37 * k37 f q m + ((f (q + m)).toNatClampNeg - 96) = 0 := e
    omega
  | m + 1, l + 1, h1, h2, e => by
    have h8 := h1 m (by omega)
    have h9 := h2 l (by omega)
    have e9 : 37 * k37 f q m + ((f (q + m)).toNatClampNeg - 96) = 37 * k37 h r l + ((h (r + l)).toNatClampNeg - 96) := e
    have e1 : k37 f q m = k37 h r l := by omega
    obtain ⟨e2, e3⟩ := k37_inj m l (fun j hj => h1 j (by omega)) (fun j hj => h2 j (by omega)) e1
    refine ⟨by omega, fun j hj => ?_⟩
    by_cases ej : j = m
    · subst e2
      rw [ej]
      omega
    · exact e3 j (by omega)
theorem k37_64 {a b : Nat} (ha : a < 2 ^ 63) (hb : b < 2 ^ 63) (h : Int64.ofNat a = Int64.ofNat b) : a = b := by
  have h9 := congrArg Int64.toInt h
  rw [Int64.toInt_ofNat_of_lt ha, Int64.toInt_ofNat_of_lt hb] at h9
  omega
/-- words are the same that have the same number -/
theorem k37_eq {f h : Nat → Int32} {q r m l : Nat} (hm : m ≤ 8) (hl : l ≤ 8) (h1 : ∀ j, j < m → s_le (f (q + j)) = true) (h2 : ∀ j, j < l → s_le (h (r + j)) = true) : s_w37 f q m = s_w37 h r l ↔ (m = l ∧ ∀ j, j < m → f (q + j) = h (r + j)) := by
  have g1 : ∀ j, j < m → 97 ≤ (f (q + j)).toNatClampNeg ∧ (f (q + j)).toNatClampNeg ≤ 122 ∧ f (q + j) = nI (f (q + j)).toNatClampNeg := fun j hj => by
    obtain ⟨x, x1, x2, x3⟩ := k_le_x _ (h1 j hj)
    rw [x3, (k_rank_n x (by omega) ⟨x1, x2⟩).2]
    exact ⟨x1, x2, rfl⟩
  have g2 : ∀ j, j < l → 97 ≤ (h (r + j)).toNatClampNeg ∧ (h (r + j)).toNatClampNeg ≤ 122 ∧ h (r + j) = nI (h (r + j)).toNatClampNeg := fun j hj => by
    obtain ⟨x, x1, x2, x3⟩ := k_le_x _ (h2 j hj)
    rw [x3, (k_rank_n x (by omega) ⟨x1, x2⟩).2]
    exact ⟨x1, x2, rfl⟩
  have p8 : ∀ z, z ≤ 8 → 37 ^ z < 2 ^ 63 := fun z hz => Nat.lt_of_le_of_lt (Nat.pow_le_pow_right (by decide) hz) (by decide)
  constructor
  · intro e
    rw [k37_s m hm h1, k37_s l hl h2] at e
    have e1 := k37_64 (Nat.lt_trans (k37_lt m (fun j hj => (g1 j hj).2.1)) (p8 m hm)) (Nat.lt_trans (k37_lt l (fun j hj => (g2 j hj).2.1)) (p8 l hl)) e
    obtain ⟨e2, e3⟩ := k37_inj m l (fun j hj => ⟨(g1 j hj).1, (g1 j hj).2.1⟩) (fun j hj => ⟨(g2 j hj).1, (g2 j hj).2.1⟩) e1
    refine ⟨e2, fun j hj => ?_⟩
    rw [(g1 j hj).2.2, (g2 j (by omega)).2.2, e3 j hj]
  · rintro ⟨rfl, e⟩
    have e9 : ∀ z, z ≤ m → s_w37 f q z = s_w37 h r z := by
      intro z
      induction z with
      | zero => intro _; rfl
      | succ z ih =>
        intro hz
        unfold s_w37
        rw [ih (by omega), e z (by omega)]
    exact e9 m (Nat.le_refl _)
/-- bytes alike, one by one -/
def k_eqb (t : Nat → Int32) (p : Nat) (f : Nat → Int32) (q : Nat) : Nat → Bool
  | 0 => true
  | m + 1 => k_eqb t p f q m && decide (t (p + m) = f (q + m))
theorem k_eqb_i {t f : Nat → Int32} {p q : Nat} : ∀ m, k_eqb t p f q m = true ↔ ∀ j, j < m → t (p + j) = f (q + j)
  | 0 => ⟨fun _ j hj => absurd hj (Nat.not_lt_zero j), fun _ => rfl⟩
  | m + 1 => by
    unfold k_eqb
    rw [Bool.and_eq_true, decide_eq_true_eq, k_eqb_i m]
    constructor
    · rintro ⟨h1, h2⟩ j hj
      by_cases e : j = m
      · rw [e]; exact h2
      · exact h1 j (by omega)
    · intro h
      exact ⟨fun j hj => h j (by omega), h m (by omega)⟩
theorem k_eqb_f {t f : Nat → Int32} {p q m l : Nat} (hl : m ≤ l) (h : k_eqb t p f q m = false) : k_eqb t p f q l = false := by
  rw [Bool.eq_false_iff] at h ⊢
  exact fun z => h ((k_eqb_i m).mpr (fun j hj => (k_eqb_i l).mp z j (by omega)))
/-- the first that is so -/
def kwf (p : Nat → Bool) : Nat → Nat → Int32
  | 0, _ => zm1
  | m + 1, k => if p k = true then nI k else kwf p m (k + 1)
/-- the tape: where it lies, its size, its text, bytes; tokens; words -/
def rTP : Type := Nat × Nat × (Nat → Int32) × (Nat → Nat) × (Nat → Nat) × (Nat → Nat) × (Nat → Int64) × (Nat → Int64) × Nat
def rTP.x (T : rTP) : Nat := T.1
def rTP.n (T : rTP) : Nat := T.2.1
def rTP.t (T : rTP) : Nat → Int32 := T.2.2.1
def rTP.c (T : rTP) : Nat → Nat := T.2.2.2.1
def rTP.kd (T : rTP) : Nat → Nat := T.2.2.2.2.1
def rTP.pl (T : rTP) : Nat → Nat := T.2.2.2.2.2.1
def rTP.vl (T : rTP) : Nat → Int64 := T.2.2.2.2.2.2.1
def rTP.wd (T : rTP) : Nat → Int64 := T.2.2.2.2.2.2.2.1
def rTP.cnt (T : rTP) : Nat := T.2.2.2.2.2.2.2.2
def rTP.of (x : Nat) (n : Nat) (t : Nat → Int32) (c : Nat → Nat) (kd : Nat → Nat) (pl : Nat → Nat) (vl : Nat → Int64) (wd : Nat → Int64) (cnt : Nat) : rTP := (x, n, t, c, kd, pl, vl, wd, cnt)
def rTk (T : rTP) : Prop := k_tp T.t T.n T.c ∧ k_tok T.t T.n T.kd T.pl T.vl T.cnt ∧ ∀ j, j < 25 → T.wd j = kwd j
/-- the reader's object at token a -/
def rdT (T : rTP) (a : Nat) (va : Int32) (w : Nat) (vo : Option Nat) : va_E := .inr (2, [.ref T.x, .int (nI T.n), .int (nI (k_to T.t T.n (T.pl a))), .int (nI (T.kd a)), .int (nI (T.pl a)), .int va, .int (nI w), va_rf vo])
def rW (g : zG) (X : zX) (r : Nat) (T : rTP) (a w : Nat) (vo : Option Nat) : Prop := z0 g ≤ r ∧ X T.x = some (.inl (zar g 1, 1000, .inl T.t)) ∧ kst g X ∧ a ≤ T.cnt ∧ ∃ va, X r = some (rdT T a va w vo) ∧ (T.kd a = 2 → va = nI (k_nv T.t T.c T.n (T.pl a)))
/-- but for the reader, what was there is there yet -/
def rto (X X' : zX) (r : Nat) : Prop := ∀ q e, q ≠ r → X q = some e → X' q = some e
theorem rto.rf {X : zX} {r : Nat} : rto X X r := fun _ _ _ h => h
theorem rto.tr {X Y Z : zX} {r : Nat} (h : rto X Y r) (k : rto Y Z r) : rto X Z r := fun q e hq hx => k q e hq (h q e hq hx)
theorem rto.up {X : zX} {r : Nat} {e : va_E} : rto X (zup X r e) r := fun q f hq hx => zup_k hq hx
theorem rto.new {X Y : zX} {r a : Nat} {e : va_E} (h : rto X Y r) (ha : X a = none) : rto X (zup Y a e) r := fun q f hq hx => zup_k (fun z => by rw [z, ha] at hx; cases hx) (h q f hq hx)
/-- so it is wrong -/
def rX (X : zX) (r : Nat) (T : rTP) (vo : Option Nat) (f : Nat) : Nat → String → zX → Prop := fun q E X' => E = "DateVale$Wrong" ∧ rto X X' r ∧ (∃ a va w, X' r = some (rdT T a va w vo)) ∧ X' q = some (.inr (6, [.null, .null, .null, .null, .null, .int 0, .int (nI f)]))
theorem rX.tr {X Y : zX} {r : Nat} {T : rTP} {vo : Option Nat} {f q : Nat} {E : String} {Z : zX} (h : rto X Y r) (k : rX Y r T vo f q E Z) : rX X r T vo f q E Z := ⟨k.1, h.tr k.2.1, k.2.2⟩
