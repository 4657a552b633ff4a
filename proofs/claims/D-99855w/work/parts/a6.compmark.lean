/-! THE POOL OF MARKS GROWS, in plain Lean -/
set_option maxRecDepth 100000
/-- addresses of a pool grown by one mark: its arrays i0, i1, itself m -/
def A_gm (A : Nat → Nat) (i0 i1 m : Nat) : Nat → Nat := fun i => if i = 3 then A 3 + 1 else if i = 100000 + 10 * A 3 + 6 then i0 else if i = 100000 + 10 * A 3 + 7 then i1 else if i = 100000 + 10 * A 3 + 8 then m else A i
/-- a new mark's ints -/
def cm0 (K : Nat → Nat → Int32) (k : Nat) : Nat → Nat → Int32 := fun r i => if 100000 + 10 * k ≤ r ∧ r < 100000 + 10 * k + 10 then 0 else K r i
section GRM
variable {A : Nat → Nat} {i0 i1 m : Nat}
theorem A_gm_3 : A_gm A i0 i1 m 3 = A 3 + 1 := if_pos rfl
theorem A_gm_6 : A_gm A i0 i1 m (100000 + 10 * A 3 + 6) = i0 := by
  unfold A_gm
  rw [if_neg (by omega), if_pos rfl]
theorem A_gm_7 : A_gm A i0 i1 m (100000 + 10 * A 3 + 7) = i1 := by
  unfold A_gm
  rw [if_neg (by omega), if_neg (by omega), if_pos rfl]
theorem A_gm_8 : A_gm A i0 i1 m (100000 + 10 * A 3 + 8) = m := by
  unfold A_gm
  rw [if_neg (by omega), if_neg (by omega), if_neg (by omega), if_pos rfl]
theorem A_gm_o {i : Nat} (h3 : i ≠ 3) (h : i < 100000 + 10 * A 3 ∨ 100000 + 10 * A 3 + 10 ≤ i) : A_gm A i0 i1 m i = A i := by
  unfold A_gm
  rw [if_neg h3, if_neg (by omega), if_neg (by omega), if_neg (by omega)]
theorem crP_gm {i : Nat} : crP (A_gm A i0 i1 m) i ↔ i = 100000 + 10 * A 3 + 8 ∨ i = 100000 + 10 * A 3 + 7 ∨ i = 100000 + 10 * A 3 + 6 ∨ crP A i := by
  unfold crP
  rw [A_gm_3, A_gm_o (show 2 ≠ 3 by decide) (Or.inl (by omega))]
  generalize A 2 = k
  generalize A 3 = q
  constructor
  · intro h
    omega
  · intro h
    omega
theorem crs_gm (i : Nat) : i ∈ crs (A_gm A i0 i1 m) ↔ i ∈ (100000 + 10 * A 3 + 8) :: (100000 + 10 * A 3 + 7) :: (100000 + 10 * A 3 + 6) :: crs A := by
  simp only [List.mem_cons]
  constructor
  · intro h
    rcases crP_gm.mp (crs_to h) with h | h | h | h
    · exact Or.inl h
    · exact Or.inr (Or.inl h)
    · exact Or.inr (Or.inr (Or.inl h))
    · exact Or.inr (Or.inr (Or.inr (crs_of h)))
  · intro h
    refine crs_of (crP_gm.mpr ?_)
    rcases h with h | h | h | h
    · exact Or.inl h
    · exact Or.inr (Or.inl h)
    · exact Or.inr (Or.inr (Or.inl h))
    · exact Or.inr (Or.inr (Or.inr (crs_to h)))
theorem crs_lom {i : Nat} (h9 : A 2 ≤ 9000) (h : i ∈ crs A) : i ≠ 3 ∧ (i < 100000 + 10 * A 3 ∨ 100000 + 10 * A 3 + 10 ≤ i) := by
  have := crs_to h
  unfold crP at this
  omega
end GRM
section GRM2
variable {g : zG} {A : Nat → Nat} {i0 i1 m : Nat} {K : Nat → Nat → Int32} {F : Nat → Int32} {O : Nat → Nat → Option Nat} {gl : Int64} {X : zX}
theorem cw_gm {K' : Nat → Nat → Int32} {O' : Nat → Nat → Option Nat} (h9 : A 2 ≤ 9000) (hK : ∀ r, (r < 100000 + 10 * A 3 ∨ 100000 + 10 * A 3 + 10 ≤ r) → K' r = K r) (hO : ∀ r, ¬ r = 100000 + 10 * A 3 → O' r = O r) {i : Nat} (hi : i ∈ crs A) : cw g A K F O gl i = cw g (A_gm A i0 i1 m) K' F O' gl i := by
  have hp := crs_to hi
  have hl := crs_lom h9 hi
  have hA : ∀ j, j ≠ 3 → (j < 100000 + 10 * A 3 ∨ 100000 + 10 * A 3 + 10 ≤ j) → A_gm A i0 i1 m j = A j := fun j h1 h2 => A_gm_o h1 h2
  unfold cw
  by_cases h1 : i = 99
  · rw [if_pos h1, if_pos h1]
    unfold cfs
    rw [hK 99 (by omega), hO 0 (by omega), hA 0 (by omega) (by omega), hA 1 (by omega) (by omega), hA 309 (by omega) (by omega), hA 319 (by omega) (by omega), hA 6 (by omega) (by omega), hA 9 (by omega) (by omega), hA 11 (by omega) (by omega), hA 12 (by omega) (by omega), hA 14 (by omega) (by omega), hA 15 (by omega) (by omega), hA 16 (by omega) (by omega), hA 18 (by omega) (by omega), hA 20 (by omega) (by omega)]
  · rw [if_neg h1, if_neg h1]
    by_cases h2 : i = 1
    · rw [if_pos h2, if_pos h2]
      unfold cfr
      rw [hK 1 (by omega), hO 0 (by omega)]
    · rw [if_neg h2, if_neg h2]
      by_cases h3 : i = 0
      · rw [if_pos h3, if_pos h3, hK 0 (by omega)]
      · rw [if_neg h3, if_neg h3]
        by_cases h4 : i = 6
        · rw [if_pos h4, if_pos h4]
        · rw [if_neg h4, if_neg h4]
          by_cases h5 : i = 9
          · rw [if_pos h5, if_pos h5, hO 9 (by omega)]
          · rw [if_neg h5, if_neg h5]
            by_cases h6 : i = 20
            · rw [if_pos h6, if_pos h6, hO 20 (by omega)]
            · rw [if_neg h6, if_neg h6]
              by_cases h7 : i = 18
              · rw [if_pos h7, if_pos h7]
                have e : (fun n9 => if n9 < 25 then some (A (n9 + 200)) else none) = (fun n9 => if n9 < 25 then some (A_gm A i0 i1 m (n9 + 200)) else none) := by
                  funext q
                  by_cases hq : q < 25
                  · rw [if_pos hq, if_pos hq, hA (q + 200) (by omega) (by omega)]
                  · rw [if_neg hq, if_neg hq]
                rw [e]
              · rw [if_neg h7, if_neg h7]
                by_cases h8 : 300 ≤ i ∧ i < 100000 ∧ i % 10 = 9
                · rw [if_pos h8, if_pos h8]
                  unfold cfst
                  rw [hK (i - 9 + 9) (by omega), hA (i - 9) (by omega) (by omega), hA (i - 9 + 1) (by omega) (by omega), hA (i - 9 + 2) (by omega) (by omega), hA (i - 9 + 3) (by omega) (by omega), hA (i - 9 + 4) (by omega) (by omega), hA (i - 9 + 5) (by omega) (by omega)]
                · rw [if_neg h8, if_neg h8]
                  by_cases h10 : 100000 ≤ i ∧ i % 10 = 8
                  · rw [if_pos h10, if_pos h10]
                    have hb : i < 100000 + 10 * A 3 := by unfold crP at hp; omega
                    unfold cfmk
                    rw [hK (i - 8 + 8) (by omega), hO (i - 8) (by omega), hA (i - 8 + 6) (by omega) (by omega), hA (i - 8 + 7) (by omega) (by omega)]
                  · rw [if_neg h10, if_neg h10, hK i hl.2]
theorem cm0_o {k r : Nat} (h : r < 100000 + 10 * k ∨ 100000 + 10 * k + 10 ≤ r) : cm0 K k r = K r := by
  funext i
  exact if_neg (by omega)
theorem cm0_z {k r i : Nat} (h : 100000 + 10 * k ≤ r ∧ r < 100000 + 10 * k + 10) : cm0 K k r i = 0 := if_pos h
/-- the world with one more mark, whose state is at sa -/
theorem cX_growm {sa : Nat} (hA : cok g A X) (hf : zfr g (cX g A K F O gl X) [m, i0, i1]) : cok g (A_gm A i0 i1 m) X ∧ zup (zup (zup (cX g A K F O gl X) i0 (.inl (zar g 0, 8, .inl (fun _ => 0)))) i1 (.inl (zar g 0, 8, .inl (fun _ => 0)))) m (.inr (22, [.ref sa, .ref i0, .ref i1, .int 0])) = cX g (A_gm A i0 i1 m) (cm0 K (A 3)) F (zs O (100000 + 10 * A 3) 0 (some sa)) gl X := by
  obtain ⟨hm, hm0, hmd, f0, f00, f0d, f1, f10, -, -⟩ := hf
  obtain ⟨hz, hn, h2, h9'⟩ := id hA
  have eA : ∀ i ∈ crs A, A i = A_gm A i0 i1 m i := fun i hi => (A_gm_o (crs_lom h9' hi).1 (crs_lom h9' hi).2).symm
  have hz0 : zok g (crs A) (A_gm A i0 i1 m) := zok_congr eA hz
  have nw : ∀ q, cX g A K F O gl X q = none → ∀ i ∈ crs A, ¬ q = A_gm A i0 i1 m i := fun q hq i hi e => (zov_none hq).2 i hi ((eA i hi).trans e.symm)
  have e6 := A_gm_6 (A := A) (i0 := i0) (i1 := i1) (m := m)
  have e7 := A_gm_7 (A := A) (i0 := i0) (i1 := i1) (m := m)
  have e8 := A_gm_8 (A := A) (i0 := i0) (i1 := i1) (m := m)
  simp only [List.mem_cons, List.not_mem_nil, or_false] at hmd f0d
  have z0' : zok g ((100000 + 10 * A 3 + 6) :: crs A) (A_gm A i0 i1 m) := zok_cons hz0 (fun i hi => by rw [e6]; exact nw _ f0 i hi) (by rw [e6]; exact f00)
  have z1 : zok g ((100000 + 10 * A 3 + 7) :: (100000 + 10 * A 3 + 6) :: crs A) (A_gm A i0 i1 m) := zok_cons z0' (fun i hi => by
    rw [e7]
    rcases List.mem_cons.mp hi with rfl | hi
    · rw [e6]; exact fun z => f0d _ rfl z.symm
    · exact nw _ f1 i hi) (by rw [e7]; exact f10)
  have z2 := zok_cons (r := 100000 + 10 * A 3 + 8) z1 (fun i hi => by
    rw [e8]
    rcases List.mem_cons.mp hi with rfl | hi
    · rw [e7]; exact hmd _ (Or.inr rfl)
    rcases List.mem_cons.mp hi with rfl | hi
    · rw [e6]; exact hmd _ (Or.inl rfl)
    · exact nw _ hm i hi) (by rw [e8]; exact hm0)
  have hmm := crs_gm (A := A) (i0 := i0) (i1 := i1) (m := m)
  have hzz : zok g (crs (A_gm A i0 i1 m)) (A_gm A i0 i1 m) := zok_perm z2 (fun i hi => (hmm i).mp hi)
  have e2 : A_gm A i0 i1 m 2 = A 2 := A_gm_o (by decide) (Or.inl (by omega))
  refine ⟨⟨hzz, fun i hi => ?_, by rw [e2]; omega, by rw [e2]; omega⟩, ?_⟩
  · have hx : ∀ q, cX g A K F O gl X q = none → X q = none := fun q hq => (zov_none hq).1
    have hi2 := (hmm i).mp hi
    simp only [List.mem_cons] at hi2
    rcases hi2 with rfl | rfl | rfl | hi2
    · rw [e8]; exact hx _ hm
    · rw [e7]; exact hx _ f1
    · rw [e6]; exact hx _ f0
    · rw [← eA i hi2]; exact hn i hi2
  · have hc : ∀ i ∈ crs A, A i = A_gm A i0 i1 m i ∧ cw g A K F O gl i = cw g (A_gm A i0 i1 m) (cm0 K (A 3)) F (zs O (100000 + 10 * A 3) 0 (some sa)) gl i := fun i hi => ⟨eA i hi, cw_gm h9' (fun r hr => cm0_o hr) (fun r hr => zs_a hr) hi⟩
    have hq : ∀ q, q = 6 ∨ q = 7 → cw g (A_gm A i0 i1 m) (cm0 K (A 3)) F (zs O (100000 + 10 * A 3) 0 (some sa)) gl (100000 + 10 * A 3 + q) = .inl (zar g 0, 8, .inl (fun _ => 0)) := fun q hq => by
      unfold cw
      rw [if_neg (by omega), if_neg (by omega), if_neg (by omega), if_neg (by omega), if_neg (by omega), if_neg (by omega), if_neg (by omega), if_neg (by omega), if_neg (by omega)]
      have ec : csz (100000 + 10 * A 3 + q) = 8 := by
        unfold csz
        rw [if_neg (by omega), if_pos (by omega)]
      have ek : cm0 K (A 3) (100000 + 10 * A 3 + q) = fun _ => 0 := by
        funext j
        exact cm0_z ⟨by omega, by omega⟩
      rw [ec, ek]
    have hb : cw g (A_gm A i0 i1 m) (cm0 K (A 3)) F (zs O (100000 + 10 * A 3) 0 (some sa)) gl (100000 + 10 * A 3 + 8) = .inr (22, [.ref sa, .ref i0, .ref i1, .int 0]) := by
      unfold cw
      rw [if_neg (by omega), if_neg (by omega), if_neg (by omega), if_neg (by omega), if_neg (by omega), if_neg (by omega), if_neg (by omega), if_neg (by omega), if_pos (by omega)]
      unfold cfmk
      rw [show 100000 + 10 * A 3 + 8 - 8 = 100000 + 10 * A 3 by omega, e6, e7, cm0_z ⟨by omega, by omega⟩, zs_s]
      rfl
    show _ = zov (crs (A_gm A i0 i1 m)) (A_gm A i0 i1 m) (cw g (A_gm A i0 i1 m) (cm0 K (A 3)) F (zs O (100000 + 10 * A 3) 0 (some sa)) gl) X
    rw [zov_perm hzz hmm, zov_cons, zov_cons, zov_cons, e8, e7, e6, hb, hq 7 (Or.inr rfl), hq 6 (Or.inl rfl), ← zov_congr hc]
    rfl
end GRM2
