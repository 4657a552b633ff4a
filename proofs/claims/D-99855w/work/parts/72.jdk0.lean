/-! WORLDS: small laws; new objects' fields. Printed by mkdef.py -/
set_option maxRecDepth 100000
theorem zup_zup {X : zX} {a : Nat} {e f : va_E} : zup (zup X a e) a f = zup X a f := by
  funext q
  unfold zup
  by_cases h : q = a
  · rw [if_pos h, if_pos h]
  · rw [if_neg h, if_neg h, if_neg h]
theorem zup_com {X : zX} {a b : Nat} {e f : va_E} (h : a ≠ b) : zup (zup X a e) b f = zup (zup X b f) a e := by
  funext q
  unfold zup
  by_cases h1 : q = a
  · by_cases h2 : q = b
    · exact absurd (h1.symm.trans h2) h
    · rw [if_neg h2, if_pos h1, if_pos h1]
  · rw [if_neg h1]
    by_cases h2 : q = b
    · simp [h2, Ne.symm h]
    · simp [h2, h1]
/-- an earlier entry set again -/
theorem zup_mid {X : zX} {a b : Nat} {e f e2 : va_E} (h : a ≠ b) : zup (zup (zup X a e) b f) a e2 = zup (zup X b f) a e2 := by
  rw [zup_com h, zup_zup]
theorem zne {X : zX} {a b : Nat} {e f : va_E} (ha : X a = some e) (hb : X b = some f) (h : ¬ e = f) : a ≠ b := fun q => by
  subst q
  rw [ha] at hb
  exact h (Option.some.inj hb)
/-- what is new is nobody's -/
theorem zov_none {rs : List Nat} {L : Nat → Nat} {x : Nat → va_E} {X : zX} {q : Nat} (h : zov rs L x X q = none) : X q = none ∧ ∀ i ∈ rs, L i ≠ q := by
  unfold zov at h
  cases hf : rs.find? (fun j => L j == q) with
  | some j => rw [hf] at h; cases h
  | none =>
    rw [hf] at h
    exact ⟨h, fun i hi e => List.find?_eq_none.mp hf i hi (by simpa using e)⟩
theorem zov_zup {rs : List Nat} {L : Nat → Nat} {x : Nat → va_E} {X : zX} {q : Nat} {e : va_E} (h : ∀ i ∈ rs, L i ≠ q) : zup (zov rs L x X) q e = zov rs L x (zup X q e) := by
  funext p
  by_cases hp : p = q
  · subst hp
    rw [zup_s, zov_off h, zup_s]
  · rw [zup_n hp]
    unfold zov
    cases hf : rs.find? (fun j => L j == p) with
    | some j => rfl
    | none => exact (zup_n hp).symm
/-- what is known of a world stays known in that with one entry set again, however it is written -/
theorem zup_over {X Y : zX} {a b : Nat} {e f : va_E} (h : b ≠ a) (hb : X b = some f) (hY : zup X a e = Y) : Y b = some f := by
  subst hY
  exact zup_k h hb
theorem zup_none {X : zX} {a q : Nat} {e : va_E} : zup X a e q = none ↔ ¬ q = a ∧ X q = none := by
  unfold zup
  by_cases h : q = a
  · simp [h]
  · rw [if_neg h]
    exact Iff.intro (fun h9 => ⟨h, h9⟩) (fun h9 => h9.2)
theorem zov_nil {L : Nat → Nat} {x : Nat → va_E} {X : zX} : zov [] L x X = X := rfl
theorem zov_cons {r : Nat} {rs : List Nat} {L : Nat → Nat} {x : Nat → va_E} {X : zX} : zov (r :: rs) L x X = zup (zov rs L x X) (L r) (x r) := by
  funext q
  unfold zov zup
  rw [List.find?_cons]
  by_cases h : q = L r
  · have h9 : (L r == q) = true := by simp [h]
    rw [h9, if_pos h]
  · have h9 : (L r == q) = false := by simp [Ne.symm h]
    rw [h9, if_neg h]
theorem zok_nil {g : zG} {L : Nat → Nat} : zok g [] L := ⟨fun i hi => absurd hi List.not_mem_nil, fun i hi => absurd hi List.not_mem_nil⟩
theorem zok_cons {g : zG} {r : Nat} {rs : List Nat} {L : Nat → Nat} (h : zok g rs L) (h1 : ∀ i ∈ rs, ¬ L r = L i) (h2 : z0 g ≤ L r) : zok g (r :: rs) L := by
  refine ⟨fun i hi j hj e => ?_, fun i hi => ?_⟩
  · rcases List.mem_cons.mp hi with rfl | hi
    · rcases List.mem_cons.mp hj with e9 | hj
      · exact e9.symm
      · exact absurd e (h1 j hj)
    · rcases List.mem_cons.mp hj with e9 | hj
      · rw [e9] at e
        exact absurd e.symm (h1 i hi)
      · exact h.1 i hi j hj e
  · rcases List.mem_cons.mp hi with rfl | hi
    · exact h2
    · exact h.2 i hi
theorem zov_perm {g : zG} {rs rt : List Nat} {L : Nat → Nat} {x : Nat → va_E} {X : zX} (h : zok g rs L) (h1 : ∀ i, i ∈ rs ↔ i ∈ rt) : zov rs L x X = zov rt L x X := by
  have h2 : zok g rt L := ⟨fun i hi j hj => h.1 i ((h1 i).mpr hi) j ((h1 j).mpr hj), fun i hi => h.2 i ((h1 i).mpr hi)⟩
  funext q
  by_cases e : ∃ i, i ∈ rs ∧ L i = q
  · obtain ⟨i, hi, rfl⟩ := e
    rw [zov_at h hi, zov_at h2 ((h1 i).mp hi)]
  · rw [zov_off (fun i hi z => e ⟨i, hi, z⟩), zov_off (fun i hi z => e ⟨i, (h1 i).mpr hi, z⟩)]
theorem zok_perm {g : zG} {rs rt : List Nat} {L : Nat → Nat} (h : zok g rs L) (h1 : ∀ i, i ∈ rt → i ∈ rs) : zok g rt L := ⟨fun i hi j hj => h.1 i (h1 i hi) j (h1 j hj), fun i hi => h.2 i (h1 i hi)⟩
theorem zd_J2 : ∀ j, j < 3 → defaultValue (tyJ2 j) = vp_V [.int 0, .null, .int 0] j := fun j hj => match j, hj with
  | 0, _ => rfl
  | 1, _ => rfl
  | 2, _ => rfl
  | j + 3, h => absurd h (by omega)
theorem zd_J5 : ∀ j, j < 4 → defaultValue (tyJ5 j) = vp_V [.null, .int 0, .int 0, .int 0] j := fun j hj => match j, hj with
  | 0, _ => rfl
  | 1, _ => rfl
  | 2, _ => rfl
  | 3, _ => rfl
  | j + 4, h => absurd h (by omega)
theorem zd_J14 : ∀ j, j < 4 → defaultValue (tyJ14 j) = vp_V [.null, .int 0, .int 0, .int 0] j := fun j hj => match j, hj with
  | 0, _ => rfl
  | 1, _ => rfl
  | 2, _ => rfl
  | 3, _ => rfl
  | j + 4, h => absurd h (by omega)
theorem zd_X1 : ∀ j, j < 21 → defaultValue (tyX1 j) = vp_V [.null, .null, .null, .null, .null, .null, .null, .int 0, .int 0, .null, .int 0, .null, .null, .int 0, .null, .null, .null, .int 0, .null, .long 0, .null] j := fun j hj => match j, hj with
  | 0, _ => rfl
  | 1, _ => rfl
  | 2, _ => rfl
  | 3, _ => rfl
  | 4, _ => rfl
  | 5, _ => rfl
  | 6, _ => rfl
  | 7, _ => rfl
  | 8, _ => rfl
  | 9, _ => rfl
  | 10, _ => rfl
  | 11, _ => rfl
  | 12, _ => rfl
  | 13, _ => rfl
  | 14, _ => rfl
  | 15, _ => rfl
  | 16, _ => rfl
  | 17, _ => rfl
  | 18, _ => rfl
  | 19, _ => rfl
  | 20, _ => rfl
  | j + 21, h => absurd h (by omega)
theorem zd_X2 : ∀ j, j < 8 → defaultValue (tyX2 j) = vp_V [.null, .int 0, .int 0, .int 0, .int 0, .int 0, .int 0, .null] j := fun j hj => match j, hj with
  | 0, _ => rfl
  | 1, _ => rfl
  | 2, _ => rfl
  | 3, _ => rfl
  | 4, _ => rfl
  | 5, _ => rfl
  | 6, _ => rfl
  | 7, _ => rfl
  | j + 8, h => absurd h (by omega)
theorem zd_X3 : ∀ j, j < 4 → defaultValue (tyX3 j) = vp_V [.null, .null, .int 0, .null] j := fun j hj => match j, hj with
  | 0, _ => rfl
  | 1, _ => rfl
  | 2, _ => rfl
  | 3, _ => rfl
  | j + 4, h => absurd h (by omega)
theorem zd_X4 : ∀ j, j < 9 → defaultValue (tyX4 j) = vp_V [.null, .null, .null, .null, .null, .null, .int 0, .int 0, .int 0] j := fun j hj => match j, hj with
  | 0, _ => rfl
  | 1, _ => rfl
  | 2, _ => rfl
  | 3, _ => rfl
  | 4, _ => rfl
  | 5, _ => rfl
  | 6, _ => rfl
  | 7, _ => rfl
  | 8, _ => rfl
  | j + 9, h => absurd h (by omega)
theorem zd_X5 : ∀ j, j < 32 → defaultValue (tyX5 j) = vp_V [.int 0, .null, .int 0, .int 0, .null, .null, .null, .int 0, .int 0, .null, .null, .null, .null, .int 0, .null, .null, .null, .null, .int 0, .int 0, .int 0, .null, .null, .null, .null, .int 0, .null, .null, .int 0, .int 0, .null, .long 0] j := fun j hj => match j, hj with
  | 0, _ => rfl
  | 1, _ => rfl
  | 2, _ => rfl
  | 3, _ => rfl
  | 4, _ => rfl
  | 5, _ => rfl
  | 6, _ => rfl
  | 7, _ => rfl
  | 8, _ => rfl
  | 9, _ => rfl
  | 10, _ => rfl
  | 11, _ => rfl
  | 12, _ => rfl
  | 13, _ => rfl
  | 14, _ => rfl
  | 15, _ => rfl
  | 16, _ => rfl
  | 17, _ => rfl
  | 18, _ => rfl
  | 19, _ => rfl
  | 20, _ => rfl
  | 21, _ => rfl
  | 22, _ => rfl
  | 23, _ => rfl
  | 24, _ => rfl
  | 25, _ => rfl
  | 26, _ => rfl
  | 27, _ => rfl
  | 28, _ => rfl
  | 29, _ => rfl
  | 30, _ => rfl
  | 31, _ => rfl
  | j + 32, h => absurd h (by omega)
theorem zd_X6 : ∀ j, j < 7 → defaultValue (tyX6 j) = vp_V [.null, .null, .null, .null, .null, .int 0, .int 0] j := fun j hj => match j, hj with
  | 0, _ => rfl
  | 1, _ => rfl
  | 2, _ => rfl
  | 3, _ => rfl
  | 4, _ => rfl
  | 5, _ => rfl
  | 6, _ => rfl
  | j + 7, h => absurd h (by omega)
theorem zd_X7 : ∀ j, j < 3 → defaultValue (tyX7 j) = vp_V [.null, .int 0, .int 0] j := fun j hj => match j, hj with
  | 0, _ => rfl
  | 1, _ => rfl
  | 2, _ => rfl
  | j + 3, h => absurd h (by omega)
theorem zd_X8 : ∀ j, j < 5 → defaultValue (tyX8 j) = vp_V [.null, .int 0, .int 0, .int 0, .int 0] j := fun j hj => match j, hj with
  | 0, _ => rfl
  | 1, _ => rfl
  | 2, _ => rfl
  | 3, _ => rfl
  | 4, _ => rfl
  | j + 5, h => absurd h (by omega)
theorem zd_X9 : ∀ j, j < 5 → defaultValue (tyX9 j) = vp_V [.null, .int 0, .int 0, .int 0, .int 0] j := fun j hj => match j, hj with
  | 0, _ => rfl
  | 1, _ => rfl
  | 2, _ => rfl
  | 3, _ => rfl
  | 4, _ => rfl
  | j + 5, h => absurd h (by omega)
theorem zd_X10 : ∀ j, j < 5 → defaultValue (tyX10 j) = vp_V [.null, .int 0, .int 0, .int 0, .int 0] j := fun j hj => match j, hj with
  | 0, _ => rfl
  | 1, _ => rfl
  | 2, _ => rfl
  | 3, _ => rfl
  | 4, _ => rfl
  | j + 5, h => absurd h (by omega)
theorem zd_X11 : ∀ j, j < 5 → defaultValue (tyX11 j) = vp_V [.null, .int 0, .int 0, .int 0, .int 0] j := fun j hj => match j, hj with
  | 0, _ => rfl
  | 1, _ => rfl
  | 2, _ => rfl
  | 3, _ => rfl
  | 4, _ => rfl
  | j + 5, h => absurd h (by omega)
theorem zd_X13 : ∀ j, j < 1 → defaultValue (tyX13 j) = vp_V [.int 0] j := fun j hj => match j, hj with
  | 0, _ => rfl
  | j + 1, h => absurd h (by omega)
theorem zd_X14 : ∀ j, j < 1 → defaultValue (tyX14 j) = vp_V [.int 0] j := fun j hj => match j, hj with
  | 0, _ => rfl
  | j + 1, h => absurd h (by omega)
theorem zd_X15 : ∀ j, j < 1 → defaultValue (tyX15 j) = vp_V [.null] j := fun j hj => match j, hj with
  | 0, _ => rfl
  | j + 1, h => absurd h (by omega)
theorem zd_X16 : ∀ j, j < 3 → defaultValue (tyX16 j) = vp_V [.int 0, .null, .null] j := fun j hj => match j, hj with
  | 0, _ => rfl
  | 1, _ => rfl
  | 2, _ => rfl
  | j + 3, h => absurd h (by omega)
theorem zd_X19 : ∀ j, j < 1 → defaultValue (tyX19 j) = vp_V [.int 0] j := fun j hj => match j, hj with
  | 0, _ => rfl
  | j + 1, h => absurd h (by omega)
theorem zd_X20 : ∀ j, j < 2 → defaultValue (tyX20 j) = vp_V [.int 0, .int 0] j := fun j hj => match j, hj with
  | 0, _ => rfl
  | 1, _ => rfl
  | j + 2, h => absurd h (by omega)
theorem zd_X21 : ∀ j, j < 1 → defaultValue (tyX21 j) = vp_V [.int 0] j := fun j hj => match j, hj with
  | 0, _ => rfl
  | j + 1, h => absurd h (by omega)
theorem zd_X22 : ∀ j, j < 4 → defaultValue (tyX22 j) = vp_V [.null, .null, .null, .int 0] j := fun j hj => match j, hj with
  | 0, _ => rfl
  | 1, _ => rfl
  | 2, _ => rfl
  | 3, _ => rfl
  | j + 4, h => absurd h (by omega)
