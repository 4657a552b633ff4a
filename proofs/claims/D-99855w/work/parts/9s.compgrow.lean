/-! THE POOL OF STATES GROWS, in plain Lean -/
set_option maxRecDepth 100000
theorem zov_congr {rs : List Nat} {L L' : Nat → Nat} {x x' : Nat → va_E} {X : zX} (h : ∀ i ∈ rs, L i = L' i ∧ x i = x' i) : zov rs L x X = zov rs L' x' X := by
  induction rs with
  | nil => rfl
  | cons r rs ih =>
    rw [zov_cons, zov_cons, ih (fun i hi => h i (List.mem_cons_of_mem r hi)), (h r List.mem_cons_self).1, (h r List.mem_cons_self).2]
theorem zok_congr {g : zG} {rs : List Nat} {L L' : Nat → Nat} (h : ∀ i ∈ rs, L i = L' i) (hz : zok g rs L) : zok g rs L' :=
  ⟨fun i hi j hj e => hz.1 i hi j hj ((h i hi).trans (e.trans (h j hj).symm)), fun i hi => by rw [← h i hi]; exact hz.2 i hi⟩
/-- addresses of a pool grown by one state: its arrays n, itself s -/
def A_gr (A n : Nat → Nat) (s : Nat) : Nat → Nat := fun i => if i = 2 then A 2 + 1 else if 300 + 10 * A 2 ≤ i ∧ i < 300 + 10 * A 2 + 9 then n (i - (300 + 10 * A 2)) else if i = 300 + 10 * A 2 + 9 then s else A i
section GROW
variable {A n : Nat → Nat} {s : Nat}
theorem A_gr_2 : A_gr A n s 2 = A 2 + 1 := if_pos rfl
theorem A_gr_s : A_gr A n s (300 + 10 * A 2 + 9) = s := by
  unfold A_gr
  rw [if_neg (by omega), if_neg (by omega), if_pos rfl]
theorem A_gr_n {q : Nat} (h : q < 9) : A_gr A n s (300 + 10 * A 2 + q) = n q := by
  unfold A_gr
  rw [if_neg (by omega), if_pos (by omega), show 300 + 10 * A 2 + q - (300 + 10 * A 2) = q by omega]
theorem A_gr_o {i : Nat} (h2 : i ≠ 2) (h : i < 300 + 10 * A 2 ∨ 300 + 10 * A 2 + 10 ≤ i) : A_gr A n s i = A i := by
  unfold A_gr
  rw [if_neg h2, if_neg (by omega), if_neg (by omega)]
theorem crP_gr (h9 : A 2 ≤ 9000) {i : Nat} : crP (A_gr A n s) i ↔ i = 300 + 10 * A 2 + 9 ∨ i = 300 + 10 * A 2 + 5 ∨ i = 300 + 10 * A 2 + 4 ∨ i = 300 + 10 * A 2 + 3 ∨ i = 300 + 10 * A 2 + 2 ∨ i = 300 + 10 * A 2 + 1 ∨ i = 300 + 10 * A 2 + 0 ∨ crP A i := by
  unfold crP
  rw [A_gr_2, A_gr_o (show 3 ≠ 2 by decide) (Or.inl (by omega))]
  generalize A 2 = k at h9
  generalize A 3 = m
  constructor
  · intro h
    omega
  · intro h
    omega
/-- the new state's cell roles ahead of the old -/
theorem crs_gr (h9 : A 2 ≤ 9000) (i : Nat) : i ∈ crs (A_gr A n s) ↔ i ∈ (300 + 10 * A 2 + 9) :: (300 + 10 * A 2 + 5) :: (300 + 10 * A 2 + 4) :: (300 + 10 * A 2 + 3) :: (300 + 10 * A 2 + 2) :: (300 + 10 * A 2 + 1) :: (300 + 10 * A 2 + 0) :: crs A := by
  simp only [List.mem_cons]
  constructor
  · intro h
    rcases (crP_gr h9).mp (crs_to h) with h | h | h | h | h | h | h | h
    · exact Or.inl h
    · exact Or.inr (Or.inl h)
    · exact Or.inr (Or.inr (Or.inl h))
    · exact Or.inr (Or.inr (Or.inr (Or.inl h)))
    · exact Or.inr (Or.inr (Or.inr (Or.inr (Or.inl h))))
    · exact Or.inr (Or.inr (Or.inr (Or.inr (Or.inr (Or.inl h)))))
    · exact Or.inr (Or.inr (Or.inr (Or.inr (Or.inr (Or.inr (Or.inl h))))))
    · exact Or.inr (Or.inr (Or.inr (Or.inr (Or.inr (Or.inr (Or.inr (crs_of h)))))))
  · intro h
    refine crs_of ((crP_gr h9).mpr ?_)
    rcases h with h | h | h | h | h | h | h | h
    · exact Or.inl h
    · exact Or.inr (Or.inl h)
    · exact Or.inr (Or.inr (Or.inl h))
    · exact Or.inr (Or.inr (Or.inr (Or.inl h)))
    · exact Or.inr (Or.inr (Or.inr (Or.inr (Or.inl h))))
    · exact Or.inr (Or.inr (Or.inr (Or.inr (Or.inr (Or.inl h)))))
    · exact Or.inr (Or.inr (Or.inr (Or.inr (Or.inr (Or.inr (Or.inl h))))))
    · exact Or.inr (Or.inr (Or.inr (Or.inr (Or.inr (Or.inr (Or.inr (crs_to h)))))))
theorem crs_lo {i : Nat} (h9 : A 2 ≤ 9000) (h : i ∈ crs A) : i ≠ 2 ∧ (i < 300 + 10 * A 2 ∨ 300 + 10 * A 2 + 10 ≤ i) := by
  have := crs_to h
  unfold crP at this
  omega
end GROW
section GROW2
variable {g : zG} {A n : Nat → Nat} {s : Nat} {K : Nat → Nat → Int32} {F : Nat → Int32} {O : Nat → Nat → Option Nat} {gl : Int64} {X : zX}
/-- cells of the old roles -/
theorem cw_gr {K' : Nat → Nat → Int32} (h9 : A 2 ≤ 9000) (hK : ∀ r, (r < 300 + 10 * A 2 ∨ 300 + 10 * A 2 + 10 ≤ r) → K' r = K r) (h2 : 2 ≤ A 2) {i : Nat} (hi : i ∈ crs A) : cw g A K F O gl i = cw g (A_gr A n s) K' F O gl i := by
  have hp := crs_to hi
  have hl := crs_lo h9 hi
  have hA : ∀ j, j ≠ 2 → (j < 300 + 10 * A 2 ∨ 300 + 10 * A 2 + 10 ≤ j) → A_gr A n s j = A j := fun j h1 h2 => A_gr_o h1 h2
  unfold cw
  by_cases h1 : i = 99
  · rw [if_pos h1, if_pos h1]
    unfold cfs
    rw [hK 99 (by omega), hA 0 (by omega) (by omega), hA 1 (by omega) (by omega), hA 309 (by omega) (by omega), hA 319 (by omega) (by omega), hA 6 (by omega) (by omega), hA 9 (by omega) (by omega), hA 11 (by omega) (by omega), hA 12 (by omega) (by omega), hA 14 (by omega) (by omega), hA 15 (by omega) (by omega), hA 16 (by omega) (by omega), hA 18 (by omega) (by omega), hA 20 (by omega) (by omega)]
  · rw [if_neg h1, if_neg h1]
    by_cases h2 : i = 1
    · rw [if_pos h2, if_pos h2]
      unfold cfr
      rw [hK 1 (by omega)]
    · rw [if_neg h2, if_neg h2]
      by_cases h3 : i = 0
      · rw [if_pos h3, if_pos h3, hK 0 (by omega)]
      · rw [if_neg h3, if_neg h3]
        by_cases h4 : i = 6
        · rw [if_pos h4, if_pos h4]
        · rw [if_neg h4, if_neg h4]
          by_cases h5 : i = 9
          · rw [if_pos h5, if_pos h5]
          · rw [if_neg h5, if_neg h5]
            by_cases h6 : i = 20
            · rw [if_pos h6, if_pos h6]
            · rw [if_neg h6, if_neg h6]
              by_cases h7 : i = 18
              · rw [if_pos h7, if_pos h7]
                have e : (fun n9 => if n9 < 25 then some (A (n9 + 200)) else none) = (fun n9 => if n9 < 25 then some (A_gr A n s (n9 + 200)) else none) := by
                  funext q
                  by_cases hq : q < 25
                  · rw [if_pos hq, if_pos hq, hA (q + 200) (by omega) (by omega)]
                  · rw [if_neg hq, if_neg hq]
                rw [e]
              · rw [if_neg h7, if_neg h7]
                by_cases h8 : 300 ≤ i ∧ i < 100000 ∧ i % 10 = 9
                · rw [if_pos h8, if_pos h8]
                  have hb : i < 300 + 10 * A 2 := by unfold crP at hp; omega
                  unfold cfst
                  rw [hK (i - 9 + 9) (by omega), hA (i - 9) (by omega) (by omega), hA (i - 9 + 1) (by omega) (by omega), hA (i - 9 + 2) (by omega) (by omega), hA (i - 9 + 3) (by omega) (by omega), hA (i - 9 + 4) (by omega) (by omega), hA (i - 9 + 5) (by omega) (by omega)]
                · rw [if_neg h8, if_neg h8]
                  by_cases h10 : 100000 ≤ i ∧ i % 10 = 8
                  · rw [if_pos h10, if_pos h10]
                    unfold cfmk
                    rw [hK (i - 8 + 8) (by omega), hA (i - 8 + 6) (by omega) (by omega), hA (i - 8 + 7) (by omega) (by omega)]
                  · rw [if_neg h10, if_neg h10, hK i hl.2]
/-- the world with one more state -/
theorem cX_grow (hA : cok g A X) (h9 : A 2 < 9000) (hf : zfr g (cX g A K F O gl X) [s, n 0, n 1, n 2, n 3, n 4, n 5]) : cok g (A_gr A n s) X ∧ zup (zup (zup (zup (zup (zup (zup (cX g A K F O gl X) (n 0) (.inl (zar g 0, 4, .inl (fun _ => 0)))) (n 1) (.inl (zar g 0, 6, .inl (fun _ => 0)))) (n 2) (.inl (zar g 0, 6, .inl (fun _ => 0)))) (n 3) (.inl (zar g 0, 6, .inl (fun _ => 0)))) (n 4) (.inl (zar g 0, 6, .inl (fun _ => 0)))) (n 5) (.inl (zar g 0, 6, .inl (fun _ => 0)))) s (.inr (4, [.ref (n 0), .ref (n 1), .ref (n 2), .ref (n 3), .ref (n 4), .ref (n 5), .int 0, .int 0, .int 0])) = cX g (A_gr A n s) (cput K (300 + 10 * A 2) (fun _ => 0) (fun _ => 0) 0 0) F O gl X := by
  obtain ⟨hs, hs0, hsd, f0, f00, f0d, f1, f10, f1d, f2, f20, f2d, f3, f30, f3d, f4, f40, f4d, f5, f50, -, -⟩ := hf
  obtain ⟨hz, hn, h2, h9'⟩ := id hA
  have eA : ∀ i ∈ crs A, A i = A_gr A n s i := fun i hi => (A_gr_o (crs_lo h9' hi).1 (crs_lo h9' hi).2).symm
  have hz0 : zok g (crs A) (A_gr A n s) := zok_congr eA hz
  have nw : ∀ q, cX g A K F O gl X q = none → ∀ i ∈ crs A, ¬ q = A_gr A n s i := fun q hq i hi e => (zov_none hq).2 i hi ((eA i hi).trans e.symm)
  have e0 := A_gr_n (A := A) (n := n) (s := s) (show 0 < 9 by decide)
  have e1 := A_gr_n (A := A) (n := n) (s := s) (show 1 < 9 by decide)
  have e2 := A_gr_n (A := A) (n := n) (s := s) (show 2 < 9 by decide)
  have e3 := A_gr_n (A := A) (n := n) (s := s) (show 3 < 9 by decide)
  have e4 := A_gr_n (A := A) (n := n) (s := s) (show 4 < 9 by decide)
  have e5 := A_gr_n (A := A) (n := n) (s := s) (show 5 < 9 by decide)
  have es := A_gr_s (A := A) (n := n) (s := s)
  simp only [List.mem_cons, List.not_mem_nil, or_false] at hsd f0d f1d f2d f3d f4d
  have z0' : zok g ((300 + 10 * A 2 + 0) :: crs A) (A_gr A n s) := zok_cons hz0 (fun i hi => by rw [e0]; exact nw _ f0 i hi) (by rw [e0]; exact f00)
  have z1 : zok g ((300 + 10 * A 2 + 1) :: (300 + 10 * A 2 + 0) :: crs A) (A_gr A n s) := zok_cons z0' (fun i hi => by
    rw [e1]
    rcases List.mem_cons.mp hi with rfl | hi
    · rw [e0]; exact fun z => f0d _ (Or.inl rfl) z.symm
    · exact nw _ f1 i hi) (by rw [e1]; exact f10)
  have z2 : zok g ((300 + 10 * A 2 + 2) :: (300 + 10 * A 2 + 1) :: (300 + 10 * A 2 + 0) :: crs A) (A_gr A n s) := zok_cons z1 (fun i hi => by
    rw [e2]
    rcases List.mem_cons.mp hi with rfl | hi
    · rw [e1]; exact fun z => f1d _ (Or.inl rfl) z.symm
    rcases List.mem_cons.mp hi with rfl | hi
    · rw [e0]; exact fun z => f0d _ (Or.inr (Or.inl rfl)) z.symm
    · exact nw _ f2 i hi) (by rw [e2]; exact f20)
  have z3 : zok g ((300 + 10 * A 2 + 3) :: (300 + 10 * A 2 + 2) :: (300 + 10 * A 2 + 1) :: (300 + 10 * A 2 + 0) :: crs A) (A_gr A n s) := zok_cons z2 (fun i hi => by
    rw [e3]
    rcases List.mem_cons.mp hi with rfl | hi
    · rw [e2]; exact fun z => f2d _ (Or.inl rfl) z.symm
    rcases List.mem_cons.mp hi with rfl | hi
    · rw [e1]; exact fun z => f1d _ (Or.inr (Or.inl rfl)) z.symm
    rcases List.mem_cons.mp hi with rfl | hi
    · rw [e0]; exact fun z => f0d _ (Or.inr (Or.inr (Or.inl rfl))) z.symm
    · exact nw _ f3 i hi) (by rw [e3]; exact f30)
  have z4 : zok g ((300 + 10 * A 2 + 4) :: (300 + 10 * A 2 + 3) :: (300 + 10 * A 2 + 2) :: (300 + 10 * A 2 + 1) :: (300 + 10 * A 2 + 0) :: crs A) (A_gr A n s) := zok_cons z3 (fun i hi => by
    rw [e4]
    rcases List.mem_cons.mp hi with rfl | hi
    · rw [e3]; exact fun z => f3d _ (Or.inl rfl) z.symm
    rcases List.mem_cons.mp hi with rfl | hi
    · rw [e2]; exact fun z => f2d _ (Or.inr (Or.inl rfl)) z.symm
    rcases List.mem_cons.mp hi with rfl | hi
    · rw [e1]; exact fun z => f1d _ (Or.inr (Or.inr (Or.inl rfl))) z.symm
    rcases List.mem_cons.mp hi with rfl | hi
    · rw [e0]; exact fun z => f0d _ (Or.inr (Or.inr (Or.inr (Or.inl rfl)))) z.symm
    · exact nw _ f4 i hi) (by rw [e4]; exact f40)
  have z5 : zok g ((300 + 10 * A 2 + 5) :: (300 + 10 * A 2 + 4) :: (300 + 10 * A 2 + 3) :: (300 + 10 * A 2 + 2) :: (300 + 10 * A 2 + 1) :: (300 + 10 * A 2 + 0) :: crs A) (A_gr A n s) := zok_cons z4 (fun i hi => by
    rw [e5]
    rcases List.mem_cons.mp hi with rfl | hi
    · rw [e4]; exact fun z => f4d _ rfl z.symm
    rcases List.mem_cons.mp hi with rfl | hi
    · rw [e3]; exact fun z => f3d _ (Or.inr rfl) z.symm
    rcases List.mem_cons.mp hi with rfl | hi
    · rw [e2]; exact fun z => f2d _ (Or.inr (Or.inr rfl)) z.symm
    rcases List.mem_cons.mp hi with rfl | hi
    · rw [e1]; exact fun z => f1d _ (Or.inr (Or.inr (Or.inr rfl))) z.symm
    rcases List.mem_cons.mp hi with rfl | hi
    · rw [e0]; exact fun z => f0d _ (Or.inr (Or.inr (Or.inr (Or.inr rfl)))) z.symm
    · exact nw _ f5 i hi) (by rw [e5]; exact f50)
  have z6 := zok_cons (r := 300 + 10 * A 2 + 9) z5 (fun i hi => by
    rw [es]
    rcases List.mem_cons.mp hi with rfl | hi
    · rw [e5]; exact hsd _ (Or.inr (Or.inr (Or.inr (Or.inr (Or.inr rfl)))))
    rcases List.mem_cons.mp hi with rfl | hi
    · rw [e4]; exact hsd _ (Or.inr (Or.inr (Or.inr (Or.inr (Or.inl rfl)))))
    rcases List.mem_cons.mp hi with rfl | hi
    · rw [e3]; exact hsd _ (Or.inr (Or.inr (Or.inr (Or.inl rfl))))
    rcases List.mem_cons.mp hi with rfl | hi
    · rw [e2]; exact hsd _ (Or.inr (Or.inr (Or.inl rfl)))
    rcases List.mem_cons.mp hi with rfl | hi
    · rw [e1]; exact hsd _ (Or.inr (Or.inl rfl))
    rcases List.mem_cons.mp hi with rfl | hi
    · rw [e0]; exact hsd _ (Or.inl rfl)
    · exact nw _ hs i hi) (by rw [es]; exact hs0)
  have hm := crs_gr (A := A) (n := n) (s := s) h9'
  have hzz : zok g (crs (A_gr A n s)) (A_gr A n s) := zok_perm z6 (fun i hi => (hm i).mp hi)
  refine ⟨⟨hzz, fun i hi => ?_, by rw [A_gr_2]; omega, by rw [A_gr_2]; omega⟩, ?_⟩
  · have hx : ∀ q, cX g A K F O gl X q = none → X q = none := fun q hq => (zov_none hq).1
    have hi2 := (hm i).mp hi
    simp only [List.mem_cons] at hi2
    rcases hi2 with rfl | rfl | rfl | rfl | rfl | rfl | rfl | hi2
    · rw [es]; exact hx _ hs
    · rw [e5]; exact hx _ f5
    · rw [e4]; exact hx _ f4
    · rw [e3]; exact hx _ f3
    · rw [e2]; exact hx _ f2
    · rw [e1]; exact hx _ f1
    · rw [e0]; exact hx _ f0
    · rw [← eA i hi2]; exact hn i hi2
  · have hc : ∀ i ∈ crs A, A i = A_gr A n s i ∧ cw g A K F O gl i = cw g (A_gr A n s) (cput K (300 + 10 * A 2) (fun _ => 0) (fun _ => 0) 0 0) F O gl i := fun i hi => ⟨eA i hi, cw_gr h9' (fun r hr => cput_a hr) h2 hi⟩
    have hq : ∀ q, q < 6 → cw g (A_gr A n s) (cput K (300 + 10 * A 2) (fun _ => 0) (fun _ => 0) 0 0) F O gl (300 + 10 * A 2 + q) = .inl (zar g 0, (if q = 0 then 4 else 6), .inl (fun _ => 0)) := fun q hq => by
      unfold cw
      rw [if_neg (by omega), if_neg (by omega), if_neg (by omega), if_neg (by omega), if_neg (by omega), if_neg (by omega), if_neg (by omega), if_neg (by omega), if_neg (by omega)]
      have ec : csz (300 + 10 * A 2 + q) = if q = 0 then 4 else 6 := by
        unfold csz
        by_cases h0 : q = 0
        · rw [if_pos (by omega), if_pos h0]
        · rw [if_neg (by omega), if_neg (by omega), if_neg h0]
      have ek : cput K (300 + 10 * A 2) (fun _ => 0) (fun _ => 0) 0 0 (300 + 10 * A 2 + q) = fun _ => 0 := by
        funext j
        unfold cput cpv
        rw [if_pos (by omega)]
        simp only [ite_self]
      rw [ec, ek]
    have hb : cw g (A_gr A n s) (cput K (300 + 10 * A 2) (fun _ => 0) (fun _ => 0) 0 0) F O gl (300 + 10 * A 2 + 9) = .inr (4, [.ref (n 0), .ref (n 1), .ref (n 2), .ref (n 3), .ref (n 4), .ref (n 5), .int 0, .int 0, .int 0]) := by
      unfold cw
      rw [if_neg (by omega), if_neg (by omega), if_neg (by omega), if_neg (by omega), if_neg (by omega), if_neg (by omega), if_neg (by omega), if_pos (by omega)]
      unfold cfst
      rw [show 300 + 10 * A 2 + 9 - 9 = 300 + 10 * A 2 by omega]
      have e0' : A_gr A n s (300 + 10 * A 2) = n 0 := e0
      rw [e0', e1, e2, e3, e4, e5, cput_f, cput_f, cput_f]
      rfl
    show _ = zov (crs (A_gr A n s)) (A_gr A n s) (cw g (A_gr A n s) (cput K (300 + 10 * A 2) (fun _ => 0) (fun _ => 0) 0 0) F O gl) X
    rw [zov_perm hzz hm, zov_cons, zov_cons, zov_cons, zov_cons, zov_cons, zov_cons, zov_cons, es, e5, e4, e3, e2, e1, e0, hb, hq 5 (by decide), hq 4 (by decide), hq 3 (by decide), hq 2 (by decide), hq 1 (by decide), hq 0 (by decide), ← zov_congr hc]
    rfl
end GROW2
