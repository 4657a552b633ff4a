/-! THE COMPONENT'S READER, in plain Lean: t the tape, n its size; c its bytes -/
set_option maxRecDepth 100000
/-- the tape's bytes -/
def k_tp (t : Nat → Int32) (n : Nat) (c : Nat → Nat) : Prop := n ≤ 1000 ∧ ∀ j, j < n → t j = nI (c j) ∧ c j < 128
def k_kd (t : Nat → Int32) (n p : Nat) : Nat := if p < n then (if s_le (t p) = true then (if 8 < s_end t n p - p then 4 else 1) else if s_di (t p) = true then (if 4 < s_end t n p - p then 4 else 2) else if s_sgn (t p) = true then 3 else 4) else 0
theorem k_kd_s {t : Nat → Int32} {n p : Nat} : s_kd t n p = nI (k_kd t n p) := by
  unfold s_kd k_kd
  repeat' split
  all_goals rfl
def k_to (t : Nat → Int32) (n p : Nat) : Nat := if p < n then s_end t n p else n
def k_n10 (c : Nat → Nat) (p : Nat) : Nat → Nat
  | 0 => 0
  | m + 1 => if m < 4 then 10 * k_n10 c p m + (c (p + m) - 48) else k_n10 c p m
theorem k_le_n : ∀ x, x < 128 → (s_le (nI x) = true ↔ 97 ≤ x ∧ x ≤ 122) := by decide +kernel
theorem k_di_n : ∀ x, x < 128 → (s_di (nI x) = true ↔ 48 ≤ x ∧ x ≤ 57) := by decide +kernel
theorem k_bl_n : ∀ x, x < 128 → (s_bl (nI x) = true ↔ x = 10 ∨ x = 32) := by decide +kernel
theorem k_le_0 : s_le 0 = false := by decide
theorem k_di_0 : s_di 0 = false := by decide
/-- a token's number -/
def k_nv (t : Nat → Int32) (c : Nat → Nat) (n p : Nat) : Nat := k_n10 c p (s_end t n p - p)
/-- what is at hand: kinds kd, places pl, values vl of cnt tokens -/
def k_tok (t : Nat → Int32) (n : Nat) (kd pl : Nat → Nat) (vl : Nat → Int64) (cnt : Nat) : Prop := s_fr t n cnt = n ∧ cnt ≤ 1000 ∧ ∀ j, j ≤ cnt → pl j = s_fr t n j ∧ kd j = k_kd t n (pl j) ∧ (j < cnt → pl j < n ∧ vl j = s_vl t n (pl j))
/-- the reader at a place p: text x, of n; the value last read, how deep, the vale -/
abbrev rdr (x n p to ki : Nat) (va : Int32) (w : Nat) (vl : Option Nat) : va_E := .inr (2, [.ref x, .int (nI n), .int (nI to), .int (nI ki), .int (nI p), .int va, .int (nI w), va_rf vl])
def rdk (x n : Nat) (t : Nat → Int32) (p : Nat) (va : Int32) (w : Nat) (vl : Option Nat) : va_E := .inr (2, [.ref x, .int (nI n), .int (nI (k_to t n p)), .int (nI (k_kd t n p)), .int (nI p), .int va, .int (nI w), va_rf vl])
/-- the texts of the program -/
def kstr : Nat → List Nat
  | 0 => [40, 41, 60, 61, 43, 45, 42, 59]
  | 1 => [104, 111, 117, 115, 101, 32, 108, 101, 110, 100, 115, 32, 100, 97, 121, 32, 99, 108, 97, 115, 104, 32, 115, 116, 97, 121, 115, 32, 102, 97, 100, 101, 115, 32]
  | 2 => [104, 111, 117, 115, 101, 32, 98, 101, 100, 115, 32, 108, 101, 110, 100, 115, 32, 100, 97, 121, 32, 111, 102, 32, 111, 110, 32, 115, 97, 121, 115, 32, 99, 108, 97, 115, 104, 32, 115, 116, 97, 121, 115, 32, 102, 97, 100, 101, 115, 32, 100, 97, 116, 101, 32, 109, 111, 118, 101, 32, 115, 101, 110, 100, 32, 98, 117, 105, 108, 100, 32, 112, 108, 97, 105, 110, 32, 98, 105, 103, 32, 101, 97, 114, 108, 121, 32, 108, 101, 97, 112, 32, 110, 111, 116, 32, 97, 110, 100, 32, 111, 114, 32]
  | 3 => [98, 101, 100, 115, 32]
  | 4 => [112, 108, 97, 105, 110, 32, 98, 105, 103, 32, 101, 97, 114, 108, 121, 32, 108, 101, 97, 112, 32]
  | 5 => [111, 102, 32]
  | 6 => [111, 110, 32]
  | 7 => [115, 97, 121, 115, 32]
  | 8 => [108, 111, 117, 100, 32, 102, 117, 108, 108, 32, 109, 111, 110, 116, 104, 32, 116, 105, 109, 101, 115, 32]
  | 9 => [110, 111, 116, 32]
  | 10 => [97, 110, 100, 32, 111, 114, 32]
  | 11 => [100, 97, 116, 101, 32, 109, 111, 118, 101, 32, 115, 101, 110, 100, 32, 98, 117, 105, 108, 100, 32]
  | _ => []
def kt (i : Nat) : Nat → Int32 := fun j => nI ((kstr i).getD j 0)
def kst (g : zG) (X : zX) : Prop := ∀ i, i < 12 → ∃ (b : Nat) (hs hz : Int32), X (zk g (10 + i)) = some (.inr (24, [.ref b, .int 0, .int hs, .int hz])) ∧ X b = some (.inl (zar g 1, (kstr i).length, .inl (kt i)))
theorem kst.mono {g : zG} {X Y : zX} (h : ∀ a e, X a = some e → Y a = some e) (hk : kst g X) : kst g Y := fun i hi => by
  obtain ⟨b, hs, hz, h1, h2⟩ := hk i hi
  exact ⟨b, hs, hz, h _ _ h1, h _ _ h2⟩
theorem k_sgn : ∀ x, x < 128 → ((s_ix (kt 0) (nI x) 8 0 < 0) ↔ s_sgn (nI x) = false) := by decide +kernel
theorem k_i2c : ∀ x, x < 128 → ((nI x).toUInt32 % 65536).toInt32 = nI x := by decide +kernel
theorem k_sgn_l : (kstr 0).length = 8 := rfl
theorem k_at {t : Nat → Int32} {n k : Nat} {c : Nat → Nat} (h : k_tp t n c) (hk : k < n) : t k = nI (c k) ∧ c k < 128 := h.2 k hk
/-- a run of letters goes on -/
theorem k_run {p : Int32 → Bool} {t : Nat → Int32} {n k : Nat} (h0 : p 0 = false) (hk : k ≤ n) : (p (if k < n then t k else 0) = true → k < n ∧ p (t k) = true ∧ s_to p t n k = s_to p t n (k + 1)) ∧ (p (if k < n then t k else 0) = false → s_to p t n k = k) := by
  by_cases h : k < n
  · rw [if_pos h]
    exact ⟨fun z => ⟨h, z, s_to_t h z⟩, fun z => s_to_f z⟩
  · rw [if_neg h]
    exact ⟨fun z => (Bool.noConfusion (h0.symm.trans z)), fun _ => s_to_e (by omega)⟩
theorem k_n10_le {c : Nat → Nat} {p : Nat} : ∀ m, (∀ j, j < m → c (p + j) ≤ 57) → k_n10 c p m < 10 ^ 4 ∧ (m ≤ 4 → k_n10 c p m < 10 ^ m)
  | 0, _ => ⟨show 0 < 10 ^ 4 by decide, fun _ => show 0 < 10 ^ 0 by decide⟩
  | m + 1, h => by
    have ih := k_n10_le m (fun j hj => h j (by omega))
    have hc := h m (by omega)
    unfold k_n10
    by_cases hm : m < 4
    · rw [if_pos hm]
      have h1 := ih.2 (by omega)
      rcases (by omega : m = 0 ∨ m = 1 ∨ m = 2 ∨ m = 3) with rfl | rfl | rfl | rfl
      all_goals (simp only [Nat.reducePow] at h1 ⊢; omega)
    · rw [if_neg hm]
      exact ⟨ih.1, fun z => absurd z (by omega)⟩
section RDK
variable {t : Nat → Int32} {n k k2 x w : Nat} {va : Int32} {vl : Option Nat}
theorem rdk_w (hk : k < n) (hl : s_le (t k) = true) (h2 : s_to s_le t n k = k2) : rdk x n t k va w vl = rdr x n k k2 (if 8 < k2 - k then 4 else 1) va w vl ∧ ¬ k_kd t n k = 2 := by
  have e1 : s_end t n k = k2 := by unfold s_end; rw [if_pos hl]; exact h2
  have e2 : k_kd t n k = if 8 < k2 - k then 4 else 1 := by unfold k_kd; rw [if_pos hk, if_pos hl, e1]
  refine ⟨by unfold rdk k_to; rw [if_pos hk, e1, e2], ?_⟩
  rw [e2]
  split <;> decide
theorem rdk_n {c : Nat → Nat} (hk : k < n) (hl : ¬ s_le (t k) = true) (hd : s_di (t k) = true) (h2 : s_to s_di t n k = k2) : rdk x n t k va w vl = rdr x n k k2 (if 4 < k2 - k then 4 else 2) va w vl ∧ k_nv t c n k = k_n10 c k (k2 - k) := by
  have e1 : s_end t n k = k2 := by unfold s_end; rw [if_neg hl, if_pos hd]; exact h2
  have e2 : k_kd t n k = if 4 < k2 - k then 4 else 2 := by unfold k_kd; rw [if_pos hk, if_neg hl, if_pos hd, e1]
  refine ⟨by unfold rdk k_to; rw [if_pos hk, e1, e2], ?_⟩
  unfold k_nv
  rw [e1]
theorem rdk_s (hk : k < n) (hl : ¬ s_le (t k) = true) (hd : ¬ s_di (t k) = true) : rdk x n t k va w vl = rdr x n k (k + 1) (if s_sgn (t k) = true then 3 else 4) va w vl ∧ ¬ k_kd t n k = 2 := by
  have e1 : s_end t n k = k + 1 := by unfold s_end; rw [if_neg hl, if_neg hd]
  have e2 : k_kd t n k = if s_sgn (t k) = true then 3 else 4 := by unfold k_kd; rw [if_pos hk, if_neg hl, if_neg hd]
  refine ⟨by unfold rdk k_to; rw [if_pos hk, e1, e2], ?_⟩
  rw [e2]
  split <;> decide
theorem rdk_e (hk : ¬ k < n) (hk2 : k = n) : rdk x n t k va w vl = rdr x n k k 0 va w vl ∧ ¬ k_kd t n k = 2 := by
  have e2 : k_kd t n k = 0 := by unfold k_kd; rw [if_neg hk]
  refine ⟨by unfold rdk k_to; rw [if_neg hk, e2, ← hk2], ?_⟩
  rw [e2]
  decide
end RDK
