/-! BEDS TO BE BUILT, as the component tries them, in plain Lean -/
set_option maxRecDepth 100000
theorem s_dv_p (k : Nat) : ∀ n, s_dv k n = k / 3 ^ n
  | 0 => (Nat.div_one k).symm
  | n + 1 => by
    show s_dv k n / 3 = _
    rw [s_dv_p k n, Nat.div_div_eq_div_mul, ← Nat.pow_succ]
theorem s_bi_p {nh k j : Nat} : s_bi nh k j = k / 3 ^ (nh - 1 - j) % 3 := by
  unfold s_bi
  rw [s_dv_p]
theorem s_bi_lt {nh k j : Nat} : s_bi nh k j < 3 := Nat.mod_lt _ (by decide)
theorem s_bi_ext {h p d j : Nat} (hd : d < 3) (hj : j < h) : s_bi (h + 1) (3 * p + d) j = s_bi h p j := by
  rw [s_bi_p, s_bi_p, show h + 1 - 1 - j = (h - 1 - j) + 1 by omega, Nat.pow_succ, Nat.mul_comm (3 ^ (h - 1 - j)) 3, ← Nat.div_div_eq_div_mul, show (3 * p + d) / 3 = p by omega]
theorem s_bi_end {h p d : Nat} (hd : d < 3) : s_bi (h + 1) (3 * p + d) h = d := by
  rw [s_bi_p, show h + 1 - 1 - h = 0 by omega, Nat.pow_zero, Nat.div_one]
  omega
theorem s_div_r {p k q : Nat} (h1 : p * q ≤ k) (h2 : k < (p + 1) * q) : k / q = p := Nat.div_eq_of_lt_le h1 h2
theorem s_bi_pre {nh h r p k j : Nat} (hr : h + r = nh) (h1 : p * 3 ^ r ≤ k) (h2 : k < (p + 1) * 3 ^ r) (hj : j < h) : s_bi nh k j = s_bi h p j := by
  rw [s_bi_p, s_bi_p, show nh - 1 - j = r + (h - 1 - j) by omega, Nat.pow_add, ← Nat.div_div_eq_div_mul, s_div_r h1 h2]
def s_bn (nh k : Nat) : Nat → Nat
  | 0 => 0
  | n + 1 => s_bn nh k n + s_bi nh k n
theorem s_bn_1 {nh k n : Nat} : s_bn nh k (n + 1) = s_bn nh k n + s_bi nh k n := rfl
theorem s_bn_congr {a b k m : Nat} : ∀ n, (∀ j, j < n → s_bi a k j = s_bi b m j) → s_bn a k n = s_bn b m n
  | 0, _ => rfl
  | n + 1, h => by rw [s_bn_1, s_bn_1, s_bn_congr n (fun j hj => h j (by omega)), h n (by omega)]
theorem s_bn_ext {h p d : Nat} (hd : d < 3) : s_bn (h + 1) (3 * p + d) (h + 1) = s_bn h p h + d := by
  rw [s_bn_1, s_bi_end hd, s_bn_congr h (fun j hj => s_bi_ext hd hj)]
theorem s_bn_up {nh k : Nat} {n : Nat} : ∀ m, n ≤ m → s_bn nh k n ≤ s_bn nh k m
  | 0, h => by rw [show n = 0 by omega]; exact Nat.le_refl _
  | m + 1, h => by
    by_cases e : n = m + 1
    · rw [e]; exact Nat.le_refl _
    · exact Nat.le_trans (s_bn_up m (by omega)) (Nat.le_add_right _ _)
theorem s_bn_le {nh k : Nat} : ∀ n, s_bn nh k n ≤ 2 * n
  | 0 => Nat.le_refl _
  | n + 1 => by
    have := s_bn_le (nh := nh) (k := k) n
    have := s_bi_lt (nh := nh) (k := k) (j := n)
    rw [s_bn_1]
    omega
theorem s_bsum_n {nh k : Nat} : ∀ n, s_bsum nh k n = nI (s_bn nh k n)
  | 0 => rfl
  | n + 1 => by
    show s_bsum nh k n + nI (s_bi nh k n) = nI (s_bn nh k n + s_bi nh k n)
    rw [s_bsum_n n, nI_add]
/-- so many beds stand -/
def s_ib (σ : Nat → Int32) (nh : Nat) (bd : Nat → Nat) : Prop := ∀ j, j < nh → σ (j + 2) = nI (bd j) ∧ bd j ≤ 9
theorem s_bst_n {nh k : Nat} {σ : Nat → Int32} {q : Nat} : ∀ n, n + 2 ≤ q → s_bst nh k σ n q = σ q
  | 0, _ => rfl
  | n + 1, h => (zs1_n (by omega)).trans (s_bst_n n (by omega))
theorem s_bmay_i {nh m k : Nat} {σ : Nat → Int32} {bd : Nat → Nat} (hb : s_ib σ m bd) : ∀ n, n ≤ m → (s_bmay nh k σ n = true ↔ ∀ j, j < n → bd j + s_bi nh k j ≤ 9)
  | 0, _ => ⟨fun _ j hj => absurd hj (Nat.not_lt_zero j), fun _ => rfl⟩
  | n + 1, hn => by
    show (s_bmay nh k σ n && decide (s_bst nh k σ n (n + 2) + nI (s_bi nh k n) ≤ 9)) = true ↔ _
    have hl := s_bi_lt (nh := nh) (k := k) (j := n)
    have h9 := (hb n (by omega)).2
    rw [Bool.and_eq_true, s_bmay_i hb n (by omega), decide_eq_true_eq, s_bst_n n (Nat.le_refl _), (hb n (by omega)).1, nI_add, show (9 : Int32) = nI 9 from rfl, nI_leI (by omega) (by decide)]
    refine ⟨fun e j hj => ?_, fun e => ⟨fun j hj => e j (by omega), e n (by omega)⟩⟩
    by_cases e9 : j = n
    · rw [e9]; exact e.2
    · exact e.1 j (by omega)
section BD
variable {nh : Nat} {σ : Nat → Int32} {calm : (Nat → Int32) → Bool}
theorem s_bd_1 {k : Nat} : s_bd nh σ calm (k + 1) = if ((s_bmay nh k σ nh && (decide ((s_bd nh σ calm k).1 < 0) || decide (s_bsum nh k nh < (s_bd nh σ calm k).2))) && calm (s_bst nh k σ nh)) = true then (nI k, s_bsum nh k nh) else s_bd nh σ calm k := rfl
theorem s_bd_skip {a : Nat} : ∀ b, a ≤ b → (∀ k, a ≤ k → k < b → ¬ (s_bmay nh k σ nh && (decide ((s_bd nh σ calm a).1 < 0) || decide (s_bsum nh k nh < (s_bd nh σ calm a).2))) = true) → s_bd nh σ calm b = s_bd nh σ calm a
  | 0, h, _ => by rw [show a = 0 by omega]
  | b + 1, h, hc => by
    by_cases e : a = b + 1
    · rw [e]
    · have ih := s_bd_skip b (by omega) (fun k h1 h2 => hc k h1 (by omega))
      rw [s_bd_1, ih, if_neg (fun z => hc b (by omega) (by omega) (Bool.and_eq_true_iff.mp z).1)]
/-- too many already -/
theorem s_bd_prune {h r p mn : Nat} (hr : h + r = nh) (hnh : nh ≤ 4) (hmn : mn = s_bn h p h) (h0 : ¬ (s_bd nh σ calm (p * 3 ^ r)).1 < 0) (h1 : (s_bd nh σ calm (p * 3 ^ r)).2 ≤ nI mn) : s_bd nh σ calm ((p + 1) * 3 ^ r) = s_bd nh σ calm (p * 3 ^ r) := by
  refine s_bd_skip _ (Nat.mul_le_mul_right _ (Nat.le_succ p)) (fun k hk1 hk2 z => ?_)
  have z2 := (Bool.and_eq_true_iff.mp z).2
  rw [decide_eq_false h0, Bool.false_or, decide_eq_true_eq, s_bsum_n] at z2
  have hb := s_bn_up (nh := nh) (k := k) (n := h) nh (by omega)
  rw [s_bn_congr h (fun j hj => s_bi_pre hr hk1 hk2 hj), ← hmn] at hb
  have hl := s_bn_le (nh := nh) (k := k) nh
  exact absurd (Int32.lt_of_lt_of_le z2 h1) (Int32.not_lt.mpr (nI_le hb (by omega)))
/-- no more beds in a house -/
theorem s_bd_full {h r p d : Nat} {bd : Nat → Nat} (hr : h + (r + 1) = nh) (hb : s_ib σ nh bd) (hd : ¬ bd h + d ≤ 9) (hd3 : d ≤ 3) : s_bd nh σ calm ((p + 1) * 3 ^ (r + 1)) = s_bd nh σ calm ((3 * p + d) * 3 ^ r) := by
  have e1 : (p + 1) * 3 ^ (r + 1) = (3 * p + 3) * 3 ^ r := by rw [Nat.pow_succ, Nat.mul_comm (3 ^ r) 3, ← Nat.mul_assoc]; congr 1; omega
  rw [e1]
  refine s_bd_skip _ (Nat.mul_le_mul_right _ (by omega)) (fun k hk1 hk2 z => ?_)
  have z1 := (s_bmay_i hb nh (Nat.le_refl _)).mp (Bool.and_eq_true_iff.mp z).1 h (by omega)
  have hp : 0 < 3 ^ r := Nat.pow_pos (by decide)
  have hq : d ≤ k / 3 ^ r - 3 * p ∧ k / 3 ^ r < 3 * p + 3 := by
    have q1 : 3 * p + d ≤ k / 3 ^ r := (Nat.le_div_iff_mul_le hp).mpr hk1
    have q2 : k / 3 ^ r < 3 * p + 3 := (Nat.div_lt_iff_lt_mul hp).mpr hk2
    omega
  have q3 : s_bi nh k h = k / 3 ^ r % 3 := by rw [s_bi_p, show nh - 1 - h = r by omega]
  rw [q3] at z1
  have q4 : 3 * p ≤ k / 3 ^ r := by
    have q1 : 3 * p + d ≤ k / 3 ^ r := (Nat.le_div_iff_mul_le hp).mpr hk1
    omega
  omega
theorem s_bd_no {p : Nat} (hc : calm (s_bst nh p σ nh) = false) : s_bd nh σ calm ((p + 1) * 3 ^ 0) = s_bd nh σ calm (p * 3 ^ 0) := by
  rw [Nat.pow_zero, Nat.mul_one, Nat.mul_one, s_bd_1, hc, Bool.and_false, if_neg (by decide)]
theorem s_bd_yes {p mn : Nat} {bd : Nat → Nat} (hb : s_ib σ nh bd) (hmay : ∀ j, j < nh → bd j + s_bi nh p j ≤ 9) (hmn : mn = s_bn nh p nh) (h0 : (s_bd nh σ calm (p * 3 ^ 0)).1 < 0 ∨ nI mn < (s_bd nh σ calm (p * 3 ^ 0)).2) (hc : calm (s_bst nh p σ nh) = true) : s_bd nh σ calm ((p + 1) * 3 ^ 0) = (nI p, nI mn) := by
  rw [Nat.pow_zero, Nat.mul_one] at h0 ⊢
  rw [s_bd_1, hc, (s_bmay_i hb nh (Nat.le_refl _)).mpr hmay, s_bsum_n, ← hmn, Bool.true_and, Bool.and_true]
  rcases h0 with h | h
  · rw [decide_eq_true h, Bool.true_or, if_pos rfl]
  · rw [decide_eq_true h, Bool.or_true, if_pos rfl]
end BD
/-- the best found: its number, its beds -/
def s_br (nh : Nat) (acc : Int32 × Int32) (f : Nat → Int32) (v : Int32) : Prop := (acc.1 < 0 → v = zm1) ∧ (¬ acc.1 < 0 → v = acc.2 ∧ ∀ q, q < nh → f q = nI (s_bi nh acc.1.toNatClampNeg q))
/-- the component's rows for it -/
def s_rb (K : Nat → Nat → Int32) (f h : Nat → Int32) (v : Int32) : Nat → Nat → Int32 := fun r q => if r = 11 then f q else if r = 12 then h q else if r = 99 ∧ q = 13 then v else K r q
theorem s_rb_self {K : Nat → Nat → Int32} : s_rb K (K 11) (K 12) (K 99 13) = K := by
  funext r q
  unfold s_rb
  by_cases h : r = 11
  · rw [if_pos h, h]
  · by_cases h2 : r = 12
    · rw [if_neg h, if_pos h2, h2]
    · by_cases h3 : r = 99 ∧ q = 13
      · rw [if_neg h, if_neg h2, if_pos h3, h3.1, h3.2]
      · rw [if_neg h, if_neg h2, if_neg h3]
theorem s_rb_11 {K : Nat → Nat → Int32} {f h : Nat → Int32} {v w : Int32} {q : Nat} : zs (s_rb K f h v) 11 q w = s_rb K (zs1 f q w) h v := by
  funext i j
  unfold zs s_rb zs1
  by_cases h1 : i = 11
  · by_cases h2 : j = q
    · rw [if_pos ⟨h1, h2⟩, if_pos h1, if_pos h2]
    · rw [if_neg (fun z => h2 z.2), if_pos h1, if_pos h1, if_neg h2]
  · rw [if_neg (fun z => h1 z.1), if_neg h1, if_neg h1]
theorem s_rb_13 {K : Nat → Nat → Int32} {f h : Nat → Int32} {v w : Int32} : zs (s_rb K f h v) 99 13 w = s_rb K f h w := by
  funext i j
  unfold zs s_rb
  by_cases h1 : i = 99 ∧ j = 13
  · rw [if_pos h1, if_neg (by omega), if_neg (by omega), if_pos h1]
  · rw [if_neg h1]
    by_cases h2 : i = 11
    · rw [if_pos h2, if_pos h2]
    · by_cases h3 : i = 12
      · rw [if_neg h2, if_neg h2, if_pos h3, if_pos h3]
      · rw [if_neg h2, if_neg h2, if_neg h3, if_neg h3, if_neg h1, if_neg h1]
theorem s_rb_cp {K : Nat → Nat → Int32} {f h : Nat → Int32} {v o : Int32} {σ ds τ es : Nat → Int32} {dt yr dt' yr' : Int32} : s_cpr (cput (cput (zs (s_rb K f h v) 99 8 o) 300 σ ds dt yr) 310 τ es dt' yr') 11 12 4 = cput (cput (zs (s_rb K f (fun q => if q < 4 then f q else h q) v) 99 8 o) 300 σ ds dt yr) 310 τ es dt' yr' := by
  funext r q
  unfold s_cpr
  by_cases h1 : r = 12 ∧ q < 4
  · rw [if_pos h1, cput_a (by omega), cput_a (by omega), cput_a (by omega), cput_a (by omega), h1.1]
    show s_rb K f h v 11 q = s_rb K f (fun q => if q < 4 then f q else h q) v 12 q
    show f q = if q < 4 then f q else h q
    rw [if_pos h1.2]
  · rw [if_neg h1]
    unfold cput
    by_cases h2 : 310 ≤ r ∧ r < 310 + 10
    · rw [if_pos h2, if_pos h2]
    · by_cases h3 : 300 ≤ r ∧ r < 300 + 10
      · rw [if_neg h2, if_neg h2, if_pos h3, if_pos h3]
      · rw [if_neg h2, if_neg h2, if_neg h3, if_neg h3]
        show (if r = 99 ∧ q = 8 then o else s_rb K f h v r q) = if r = 99 ∧ q = 8 then o else s_rb K f (fun q => if q < 4 then f q else h q) v r q
        unfold s_rb
        by_cases h4 : r = 11
        · rw [if_pos h4, if_pos h4]
        · by_cases h5 : r = 12
          · rw [if_neg h4, if_neg h4, if_pos h5, if_pos h5]; show _ = if r = 99 ∧ q = 8 then o else (if q < 4 then f q else h q); rw [if_neg (fun z => h1 ⟨h5, z⟩)]
          · rw [if_neg h4, if_neg h4, if_neg h5, if_neg h5]
theorem s_iv_bst {nh k nd : Nat} {σ : Nat → Int32} (h : s_iv σ nd) : ∀ n, n ≤ 4 → s_iv (s_bst nh k σ n) nd
  | 0, _ => h
  | n + 1, hn => s_iv_low (s_iv_bst h n (by omega)) (by omega)
theorem s_bd_2 {nh : Nat} {σ : Nat → Int32} {calm : (Nat → Int32) → Bool} : ∀ n, (s_bd nh σ calm n).1 < 0 ∨ ∃ m, m ≤ 2 * nh ∧ (s_bd nh σ calm n).2 = nI m
  | 0 => Or.inl m1neg
  | n + 1 => by
    rw [s_bd_1]
    split
    · exact Or.inr ⟨s_bn nh n nh, s_bn_le nh, s_bsum_n nh⟩
    · exact s_bd_2 n
