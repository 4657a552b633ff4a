/-! THE MODEL'S WORLD: its object and arrays laid over any other world -/
set_option maxRecDepth 100000
/-- cells named by roles, laid over a world -/
def zov (rs : List Nat) (L : Nat → Nat) (x : Nat → va_E) (X : zX) : zX := fun q => match rs.find? (fun i => L i == q) with
  | some i => some (x i)
  | none => X q
/-- the roles' addresses are apart, and new since the start -/
def zok (g : zG) (rs : List Nat) (L : Nat → Nat) : Prop := (∀ i ∈ rs, ∀ j ∈ rs, L i = L j → i = j) ∧ ∀ i ∈ rs, z0 g ≤ L i
theorem zov_at {g : zG} {rs : List Nat} {L : Nat → Nat} {x : Nat → va_E} {X : zX} {i : Nat} (h : zok g rs L) (hi : i ∈ rs) : zov rs L x X (L i) = some (x i) := by
  unfold zov
  cases hf : rs.find? (fun j => L j == L i) with
  | none => exact absurd (List.find?_eq_none.mp hf i hi) (by simp)
  | some j =>
    have h1 := List.find?_some hf
    have h2 := List.mem_of_find?_eq_some hf
    rw [h.1 j h2 i hi (by simpa using h1)]
theorem zov_off {rs : List Nat} {L : Nat → Nat} {x : Nat → va_E} {X : zX} {q : Nat} (h : ∀ i ∈ rs, L i ≠ q) : zov rs L x X q = X q := by
  unfold zov
  cases hf : rs.find? (fun j => L j == q) with
  | none => rfl
  | some j => exact absurd (by simpa using List.find?_some hf) (h j (List.mem_of_find?_eq_some hf))
theorem zov_up {g : zG} {rs : List Nat} {L : Nat → Nat} {x y : Nat → va_E} {X : zX} {i : Nat} {e : va_E} (h : zok g rs L) (hi : i ∈ rs) (he : y i = e) (hy : ∀ j, j ≠ i → y j = x j) : zup (zov rs L x X) (L i) e = zov rs L y X := by
  funext q
  by_cases hq : q = L i
  · subst hq
    rw [zup_s, zov_at h hi, he]
  · rw [zup_n hq]
    unfold zov
    cases hf : rs.find? (fun j => L j == q) with
    | none => rfl
    | some j =>
      have h1 : L j = q := by simpa using List.find?_some hf
      show some (x j) = some (y j)
      rw [hy j (fun hz => hq (by rw [← hz]; exact h1.symm))]
/-- a row of rows, one entry set -/
def zs {α : Type} (I : Nat → Nat → α) (a k : Nat) (v : α) : Nat → Nat → α := fun i j => if i = a ∧ j = k then v else I i j
def zs1 {α : Type} (f : Nat → α) (k : Nat) (v : α) : Nat → α := fun j => if j = k then v else f j
theorem zs_a {α : Type} {I : Nat → Nat → α} {a k i : Nat} {v : α} (h : i ≠ a) : zs I a k v i = I i := by funext j; unfold zs; rw [if_neg (fun h' => h h'.1)]
theorem zs_r {α : Type} {I : Nat → Nat → α} {a k : Nat} {v : α} : zs I a k v a = zs1 (I a) k v := by funext j; unfold zs zs1; by_cases h : j = k <;> simp [h]
theorem zs_s {α : Type} {I : Nat → Nat → α} {a k : Nat} {v : α} : zs I a k v a k = v := if_pos ⟨rfl, rfl⟩
theorem zs_n {α : Type} {I : Nat → Nat → α} {a k j : Nat} {v : α} (h : j ≠ k) : zs I a k v a j = I a j := if_neg (fun h' => h h'.2)
theorem zs1_s {α : Type} {f : Nat → α} {k : Nat} {v : α} : zs1 f k v k = v := if_pos rfl
theorem zs1_n {α : Type} {f : Nat → α} {k j : Nat} {v : α} (h : j ≠ k) : zs1 f k v j = f j := if_neg h
/-- the model's roles: 99 its object, else its arrays by their fields' places -/
def trs : List Nat := [99, 1, 4, 5, 6, 9, 10, 11, 12, 14, 15, 16, 17, 21, 22, 23, 24, 26, 27, 30]
def tsz : Nat → Nat := fun i => match i with
  | 1 => 1000 | 4 => 1002 | 5 => 1002 | 6 => 1002 | 9 => 25 | 10 => 100 | 11 => 2200 | 12 => 2200 | 14 => 10 | 15 => 10 | 16 => 10 | 17 => 10 | 21 => 250 | 22 => 4 | 23 => 1100 | 24 => 1081 | 26 => 4 | 27 => 6 | 30 => 6 | _ => 0
def tfs (L : Nat → Nat) (I : Nat → Nat → Int32) (J : Nat → Nat → Int64) : List Value :=
  [.int (I 99 0), .ref (L 1), .int (I 99 2), .int (I 99 3), .ref (L 4), .ref (L 5), .ref (L 6), .int (I 99 7), .int (I 99 8), .ref (L 9), .ref (L 10), .ref (L 11), .ref (L 12), .int (I 99 13), .ref (L 14), .ref (L 15), .ref (L 16), .ref (L 17), .int (I 99 18), .int (I 99 19), .int (I 99 20), .ref (L 21), .ref (L 22), .ref (L 23), .ref (L 24), .int (I 99 25), .ref (L 26), .ref (L 27), .int (I 99 28), .int (I 99 29), .ref (L 30), .long (J 99 31)]
/-- the scratch arrays: facts, pile, apart -/
def tgb (i : Nat) : Bool := i == 22 || i == 23 || i == 30
def tw (g : zG) (L : Nat → Nat) (I : Nat → Nat → Int32) (J : Nat → Nat → Int64) (Gb : Nat → Nat → Int32) : Nat → va_E := fun i =>
  if i = 99 then .inr (5, tfs L I J) else if i = 6 ∨ i = 9 ∨ i = 14 ∨ i = 15 then .inl (zar g 2, tsz i, .inr (.inl (J i))) else if i = 26 then .inl (zar g 3, tsz i, .inl (I i)) else if tgb i = true then .inl (zar g 0, tsz i, .inl (Gb i)) else .inl (zar g 0, tsz i, .inl (I i))
/-- the world with the model in it: its ints I, its longs J, its scratch Gb, all else X -/
def tX (g : zG) (L : Nat → Nat) (I : Nat → Nat → Int32) (J : Nat → Nat → Int64) (Gb : Nat → Nat → Int32) (X : zX) : zX := zov trs L (tw g L I J Gb) X
def tok (g : zG) (L : Nat → Nat) : Prop := zok g trs L
section TX
variable {g : zG} {L : Nat → Nat} {I : Nat → Nat → Int32} {J : Nat → Nat → Int64} {Gb : Nat → Nat → Int32} {X : zX}
theorem tX_obj (h : tok g L) : tX g L I J Gb X (L 99) = some (.inr (5, tfs L I J)) := zov_at h (by decide)
/-- the int arrays' roles -/
def tia : List Nat := [1, 4, 5, 10, 11, 12, 16, 17, 21, 24, 27]
theorem tX_i (h : tok g L) {i : Nat} (hi : i ∈ tia) : tX g L I J Gb X (L i) = some (.inl (zar g 0, tsz i, .inl (I i))) := by
  have h1 : i ∈ trs := by revert hi; exact (by decide : ∀ i ∈ tia, i ∈ trs) i
  have h2 : tw g L I J Gb i = .inl (zar g 0, tsz i, .inl (I i)) := by
    simp only [tia, List.mem_cons, List.not_mem_nil, or_false] at hi
    rcases hi with rfl | rfl | rfl | rfl | rfl | rfl | rfl | rfl | rfl | rfl | rfl <;> rfl
  rw [← h2]
  exact zov_at h h1
theorem tX_g (h : tok g L) {i : Nat} (hi : tgb i = true) : tX g L I J Gb X (L i) = some (.inl (zar g 0, tsz i, .inl (Gb i))) := by
  simp only [tgb, Bool.or_eq_true, beq_iff_eq] at hi
  rcases hi with (rfl | rfl) | rfl
  · exact zov_at (i := 22) h (by decide)
  · exact zov_at (i := 23) h (by decide)
  · exact zov_at (i := 30) h (by decide)
theorem tX_l (h : tok g L) {i : Nat} (hi : i ∈ [6, 9, 14, 15]) : tX g L I J Gb X (L i) = some (.inl (zar g 2, tsz i, .inr (.inl (J i)))) := by
  simp only [List.mem_cons, List.not_mem_nil, or_false] at hi
  rcases hi with rfl | rfl | rfl | rfl
  · exact zov_at (i := 6) h (by decide)
  · exact zov_at (i := 9) h (by decide)
  · exact zov_at (i := 14) h (by decide)
  · exact zov_at (i := 15) h (by decide)
theorem tX_z (h : tok g L) : tX g L I J Gb X (L 26) = some (.inl (zar g 3, 4, .inl (I 26))) := zov_at (i := 26) h (by decide)
theorem tX_upi (h : tok g L) {i : Nat} (hi : i ∈ tia) (k : Nat) (v : Int32) : zup (tX g L I J Gb X) (L i) (.inl (zar g 0, tsz i, .inl (upd (I i) k v))) = tX g L (zs I i k v) J Gb X := by
  have h1 : i ∈ trs := by revert hi; exact (by decide : ∀ i ∈ tia, i ∈ trs) i
  have hn : i ≠ 99 := by revert hi; exact (by decide : ∀ i ∈ tia, i ≠ 99) i
  refine zov_up h h1 ?_ (fun j hj => ?_)
  · have h2 : tw g L (zs I i k v) J Gb i = .inl (zar g 0, tsz i, .inl (zs I i k v i)) := by
      simp only [tia, List.mem_cons, List.not_mem_nil, or_false] at hi
      rcases hi with rfl | rfl | rfl | rfl | rfl | rfl | rfl | rfl | rfl | rfl | rfl <;> rfl
    rw [h2, zs_r]
    rfl
  · unfold tw
    have h9 : zs I i k v j = I j := zs_a hj
    have h8 : tfs L (zs I i k v) J = tfs L I J := by unfold tfs; rw [zs_a (Ne.symm hn)]
    rw [h9, h8]
theorem tX_upg (h : tok g L) {i : Nat} (hi : tgb i = true) (k : Nat) (v : Int32) : zup (tX g L I J Gb X) (L i) (.inl (zar g 0, tsz i, .inl (upd (Gb i) k v))) = tX g L I J (zs Gb i k v) X := by
  simp only [tgb, Bool.or_eq_true, beq_iff_eq] at hi
  have key : ∀ j, j ≠ i → tw g L I J (zs Gb i k v) j = tw g L I J Gb j := fun j hj => by unfold tw; rw [zs_a hj]
  have k2 : upd (Gb i) k v = zs Gb i k v i := by rw [zs_r]; rfl
  rw [k2]
  rcases hi with (rfl | rfl) | rfl
  · exact zov_up (i := 22) h (by decide) rfl key
  · exact zov_up (i := 23) h (by decide) rfl key
  · exact zov_up (i := 30) h (by decide) rfl key
theorem tX_upl (h : tok g L) {i : Nat} (hi : i ∈ [6, 9, 14, 15]) (k : Nat) (v : Int64) : zup (tX g L I J Gb X) (L i) (.inl (zar g 2, tsz i, .inr (.inl (vp_updL (J i) k v)))) = tX g L I (zs J i k v) Gb X := by
  have hn : i ≠ 99 := by revert hi; exact (by decide : ∀ i ∈ [6, 9, 14, 15], i ≠ 99) i
  have key : ∀ j, j ≠ i → tw g L I (zs J i k v) Gb j = tw g L I J Gb j := fun j hj => by
    unfold tw
    have h8 : tfs L I (zs J i k v) = tfs L I J := by unfold tfs; rw [zs_a (Ne.symm hn)]
    rw [zs_a hj, h8]
  have k2 : vp_updL (J i) k v = zs J i k v i := by rw [zs_r]; rfl
  rw [k2]
  simp only [List.mem_cons, List.not_mem_nil, or_false] at hi
  rcases hi with rfl | rfl | rfl | rfl
  · exact zov_up (i := 6) h (by decide) rfl key
  · exact zov_up (i := 9) h (by decide) rfl key
  · exact zov_up (i := 14) h (by decide) rfl key
  · exact zov_up (i := 15) h (by decide) rfl key
theorem tX_upz (h : tok g L) (k : Nat) (v : Int32) : zup (tX g L I J Gb X) (L 26) (.inl (zar g 3, 4, .inl (upd (I 26) k v))) = tX g L (zs I 26 k v) J Gb X := by
  refine zov_up (i := 26) h (by decide) ?_ (fun j hj => ?_)
  · show Sum.inl (zar g 3, tsz 26, Sum.inl (zs I 26 k v 26)) = _
    rw [zs_r]
    rfl
  · unfold tw
    have h8 : tfs L (zs I 26 k v) J = tfs L I J := by unfold tfs; rw [zs_a (by decide)]
    rw [zs_a hj, h8]
/-- the int fields' places -/
def tsc : List Nat := [0, 2, 3, 7, 8, 13, 18, 19, 20, 25, 28, 29]
theorem tfs_set {q : Nat} (hq : q ∈ tsc) (v : Int32) : (tfs L I J).set q (.int v) = tfs L (zs I 99 q v) J := by
  simp only [tsc, List.mem_cons, List.not_mem_nil, or_false] at hq
  rcases hq with rfl | rfl | rfl | rfl | rfl | rfl | rfl | rfl | rfl | rfl | rfl | rfl <;> rfl
theorem tX_upf (h : tok g L) {q : Nat} (hq : q ∈ tsc) (v : Int32) : zup (tX g L I J Gb X) (L 99) (.inr (5, (tfs L I J).set q (.int v))) = tX g L (zs I 99 q v) J Gb X := by
  refine zov_up (i := 99) h (by decide) ?_ (fun j hj => ?_)
  · rw [tfs_set hq]; rfl
  · unfold tw
    rw [zs_a hj, if_neg hj, if_neg hj]
theorem tX_upg31 (h : tok g L) (v : Int64) : zup (tX g L I J Gb X) (L 99) (.inr (5, (tfs L I J).set 31 (.long v))) = tX g L I (zs J 99 31 v) Gb X := by
  refine zov_up (i := 99) h (by decide) rfl (fun j hj => ?_)
  unfold tw
  rw [zs_a hj, if_neg hj, if_neg hj]
end TX
/-! a block of the model's state laid over its ints -/
def tput (I : Nat → Nat → Int32) (b : Nat) (σ : Nat → Int32) : Nat → Nat → Int32 := fun a j => if a = 24 ∧ b ≤ j ∧ j < b + 30 then σ (j - b) else I a j
theorem tput_at {I : Nat → Nat → Int32} {b j : Nat} {σ : Nat → Int32} (h : j < 30) : tput I b σ 24 (b + j) = σ j := by
  unfold tput
  rw [if_pos ⟨rfl, by omega, by omega⟩]
  congr 1
  omega
theorem tput_off {I : Nat → Nat → Int32} {b j : Nat} {σ : Nat → Int32} (h : j < b ∨ b + 30 ≤ j) : tput I b σ 24 j = I 24 j := by
  unfold tput
  rw [if_neg (by omega)]
theorem tput_a {I : Nat → Nat → Int32} {b a : Nat} {σ : Nat → Int32} (h : a ≠ 24) : tput I b σ a = I a := by
  funext j
  unfold tput
  rw [if_neg (fun h' => h h'.1)]
theorem tput_zs {I : Nat → Nat → Int32} {b j : Nat} {σ : Nat → Int32} {v : Int32} (h : j < 30) : zs (tput I b σ) 24 (b + j) v = tput I b (zs1 σ j v) := by
  funext a k
  unfold zs tput zs1
  by_cases ha : a = 24
  · subst ha
    by_cases hk : k = b + j
    · subst hk
      simp; omega
    · by_cases h2 : b ≤ k ∧ k < b + 30
      · have h3 : ¬ k - b = j := by omega
        simp [hk, h2, h3]
      · simp [hk, h2]
  · simp [ha]
theorem tput_zsa {I : Nat → Nat → Int32} {b a j : Nat} {σ : Nat → Int32} {v : Int32} (h : a ≠ 24) : zs (tput I b σ) a j v = tput (zs I a j v) b σ := by
  funext i k
  unfold zs tput
  by_cases hi : i = 24
  · subst hi
    have h3 : ¬ (24 = a) := fun h' => h h'.symm
    simp [h3]
  · simp [hi]
theorem tput_self {I : Nat → Nat → Int32} {b : Nat} : tput I b (fun j => I 24 (b + j)) = I := by
  funext a k
  unfold tput
  by_cases h : a = 24 ∧ b ≤ k ∧ k < b + 30
  · rw [if_pos h, h.1]
    show I 24 (b + (k - b)) = I 24 k
    rw [show b + (k - b) = k by omega]
  · rw [if_neg h]
theorem tput_tput {I : Nat → Nat → Int32} {b : Nat} {σ τ : Nat → Int32} : tput (tput I b σ) b τ = tput I b τ := by
  funext a k
  unfold tput
  by_cases h : a = 24 ∧ b ≤ k ∧ k < b + 30
  · rw [if_pos h, if_pos h]
  · rw [if_neg h, if_neg h, if_neg h]
