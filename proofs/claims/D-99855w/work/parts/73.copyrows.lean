/-! ROWS that copy arrays, in the judgement zZ -/
set_option maxRecDepth 100000
section ZCP
variable {g : zG} {M : zMth} {P : zPo} {k n : Nat} {X : zX} {pc index : Nat} {lv : List (Nat × Value)} {st : List Value}
theorem zpos {z : Int32} (hz : ¬ z < 0) : z.toInt = (z.toNatClampNeg : Int) := by
  have hz0 : (0 : Int) ≤ z.toInt := by
    have := Int32.not_lt.mp hz
    simpa using Int32.le_iff_toInt_le.mp this
  show z.toInt = ((z.toInt.toNat : Nat) : Int)
  omega
/-- bytes copied from one array to another -/
theorem z_copyb {a0 a n0 n1 : Nat} {f h : Nat → Int32} {sp dp len : Int32} (i j w : Nat) (hx0 : X a0 = some (.inl (zar g 1, n0, .inl f))) (hx1 : X a = some (.inl (zar g 1, n1, .inl h))) (e1 : sp = nI i) (e2 : dp = nI j) (e3 : len = nI w) (h4 : i + w ≤ n0) (h5 : j + w ≤ n1) (hn0 : n0 < 2 ^ 31) (hn1 : n1 < 2 ^ 31) (hfit : ∀ q : Nat, q < w → fits .byte (.int (f (i + q))) = true) (ha : z0 g ≤ a)
    (q1 : Cond.methodLink M.1.cls index arraycopyName ∈ lw_all) (q2 : Cond.native arraycopyName ∈ lw_all) (q3 : Cond.static arraycopyName ∈ lw_all) (q4 : Cond.initialized "java/lang/System" ∈ lw_all) (hf : 1 ≤ P.2.2.frames) (hl : (st.map fun v => v.category).sum + (nativeFrameWords "java/lang/System" "arraycopy" 5 + 11) ≤ P.2.2.locals) (hd : decode M.2.1 pc = .ok (.invokestatic index, 3))
    (kk : zZ g M P k n (zup X a (.inl (zar g 1, n1, .inl (va_cpy f h i j w)))) (pc + 3) lv st) : zZ g M P k n X pc lv (.int len :: .int dp :: .ref a :: .int sp :: .ref a0 :: st) := by
  subst e1
  subst e2
  subst e3
  intro p e s m args below meth c H locs ls C I S L
  intro T hT TX
  have hc0 : H[a0]? = some (vp_cell (zar g 1) (n0, .inl f)) := I a0 _ hx0
  have hc1 : H[a]? = some (vp_cell (zar g 1) (n1, .inl h)) := I a _ hx1
  have hK := C.2.2.2.2.2.2.2.1.1
  obtain ⟨-, k0, hk0, cm0, hkk0⟩ := (hK.2 1 _ rfl).1 n0 (fun j => .int (f j))
  obtain ⟨-, k1, hk1, cm1, hkk1⟩ := (hK.2 1 _ rfl).1 n1 (fun j => .int (h j))
  have z1 : (nI i).toNatClampNeg = i := ncl (by omega)
  have z2 : (nI j).toNatClampNeg = j := ncl (by omega)
  have z3 : (nI w).toNatClampNeg = w := ncl (by omega)
  obtain ⟨vm', X', step⟩ := TX.arraycopy C.1 C.2.2.2.2.2.1 (C.2.2.2.2.2.2.1 _ q1) (C.2.2.2.2.2.2.1 _ q2) (C.2.2.2.2.2.2.1 _ q3) (C.2.2.2.2.2.2.1 _ q4) (src := a0) (dst := a) (cs := vp_cell (zar g 1) (n0, .inl f)) (cd := vp_cell (zar g 1) (n1, .inl h)) (srcPos := nI i) (destPos := nI j) (n := nI w) (by rw [hT]; exact hc0) (by rw [hT]; exact hc1)
    (fun _ h => by cases h) (fun _ h => by cases h) (fun h => by cases h) (fun h => by cases h) hk0 hk1 hkk0 hkk1 (by simp [refKind]) (nI_pos (by omega)) (nI_pos (by omega)) (nI_pos (by omega))
    (by rw [zpos (nI_pos (by omega)), zpos (nI_pos (by omega)), z1, z3]; show ¬ _ > ((arrV (zar g 1) n0 (fun j => .int (f j))).slots.size : Int); rw [arrV_size]; omega)
    (by rw [zpos (nI_pos (by omega)), zpos (nI_pos (by omega)), z2, z3]; show ¬ _ > ((arrV (zar g 1) n1 (fun j => .int (h j))).slots.size : Int); rw [arrV_size]; omega)
    (fun vm₁ _ q hq => by
      rw [z3] at hq
      have e : (vp_cell (zar g 1) (n0, .inl f)).slots.getD ((nI i).toNatClampNeg + q) .null = .int (f (i + q)) := by
        show (arrV (zar g 1) n0 (fun j => .int (f j))).slots.getD _ _ = _
        rw [z1, Array.getD_eq_getD_getElem?, arrV_read _ _ (by omega)]
        rfl
      refine ⟨?_, ?_⟩
      · rw [e]
        exact hfit q hq
      · rw [e]
        exact trivial)
    (g := F0 m pc ls (.int (nI w) :: .int (nI j) :: .ref a :: .int (nI i) :: .ref a0 :: st)) rfl (by rw [C.2.2.2.2.1]; exact L.1) (rest := st) rfl (by rw [C.2.1]; exact hd) hf (by show 2 * 0 + _ + _ ≤ _; omega)
  have e1 : copied (vp_cell (zar g 1) (n0, .inl f)) (vp_cell (zar g 1) (n1, .inl h)) (nI i) (nI j) (nI w) = vp_cell (zar g 1) (n1, .inl (va_cpy f h (nI i).toNatClampNeg (nI j).toNatClampNeg (nI w).toNatClampNeg)) := by
    exact va_copied (fun z => .int z) (zar g 1) (zar g 1) f h (by rw [z1, z3]; exact h4)
  rw [z1, z2, z3] at e1
  rw [e1] at X' step
  have hl9 : a < H.size := (Array.getElem?_eq_some_iff.mp hc1).1
  have hheap : ((T.setVm vm').setCell a (vp_cell (zar g 1) (n1, .inl (va_cpy f h i j w)))).heap = H.setIfInBounds a (vp_cell (zar g 1) (n1, .inl (va_cpy f h i j w))) := by rw [← hT]; rfl
  have oq : ∀ q : Nat, q ≠ a → (H.setIfInBounds a (vp_cell (zar g 1) (n1, .inl (va_cpy f h i j w))))[q]? = H[q]? := fun q hq => by simp [Array.getElem?_setIfInBounds, Ne.symm hq]
  obtain ⟨t, a1, b1⟩ := kk p e s m args below meth c _ _ ls C (I.set (show (H.setIfInBounds a _)[a]? = some _ by simp [Array.getElem?_setIfInBounds, hl9]) oq) ⟨by simp; exact S.1, fun q g1 g2 => by
      rw [oq q (fun e => g2 (by rw [e]; exact ha))]
      exact S.2.1 q g1 g2, fun q hq => by
      rcases List.mem_append.mp hq with h | h
      · exact S.2.2 q h
      · obtain ⟨z, -, hz⟩ := List.mem_map.mp h
        rw [← hz]
        exact ha⟩ L _ hheap X'
  exact ⟨t, step t a1, b1⟩
/-- references copied -/
theorem z_copyq {a0 a n0 n1 : Nat} {f h : Nat → Option Nat} {sp dp len : Int32} (i j w : Nat) (hx0 : X a0 = some (.inl (zar g 4, n0, .inr (.inr (.inr (.inr f)))))) (hx1 : X a = some (.inl (zar g 4, n1, .inr (.inr (.inr (.inr h)))))) (e1 : sp = nI i) (e2 : dp = nI j) (e3 : len = nI w) (h4 : i + w ≤ n0) (h5 : j + w ≤ n1) (hn0 : n0 < 2 ^ 31) (hn1 : n1 < 2 ^ 31)
    (hel : ∀ q : Nat, q < w → ∀ y : Nat, f (i + q) = some y → ∃ ci fs r, X y = some (.inr (ci, fs)) ∧ zcl[ci]? = some r ∧ Cond.castable r.1 "java/lang/Object" ∈ lw_tbl) (ha : z0 g ≤ a)
    (q1 : Cond.methodLink M.1.cls index arraycopyName ∈ lw_all) (q2 : Cond.native arraycopyName ∈ lw_all) (q3 : Cond.static arraycopyName ∈ lw_all) (q4 : Cond.initialized "java/lang/System" ∈ lw_all) (hf : 1 ≤ P.2.2.frames) (hl : (st.map fun v => v.category).sum + (nativeFrameWords "java/lang/System" "arraycopy" 5 + 11) ≤ P.2.2.locals) (hd : decode M.2.1 pc = .ok (.invokestatic index, 3))
    (kk : zZ g M P k n (zup X a (.inl (zar g 4, n1, .inr (.inr (.inr (.inr (va_cpy f h i j w))))))) (pc + 3) lv st) : zZ g M P k n X pc lv (.int len :: .int dp :: .ref a :: .int sp :: .ref a0 :: st) := by
  subst e1
  subst e2
  subst e3
  intro p e s m args below meth c H locs ls C I S L
  intro T hT TX
  have hc0 : H[a0]? = some (vp_cell (zar g 4) (n0, .inr (.inr (.inr (.inr f))))) := I a0 _ hx0
  have hc1 : H[a]? = some (vp_cell (zar g 4) (n1, .inr (.inr (.inr (.inr h))))) := I a _ hx1
  have hK := C.2.2.2.2.2.2.2.1.1
  obtain ⟨-, k0, hk0, cm0, hkk0⟩ := (hK.2 4 _ rfl).1 n0 (fun j => va_rf (f j))
  obtain ⟨-, k1, hk1, cm1, hkk1⟩ := (hK.2 4 _ rfl).1 n1 (fun j => va_rf (h j))
  have z1 : (nI i).toNatClampNeg = i := ncl (by omega)
  have z2 : (nI j).toNatClampNeg = j := ncl (by omega)
  have z3 : (nI w).toNatClampNeg = w := ncl (by omega)
  obtain ⟨vm', X', step⟩ := TX.arraycopy C.1 C.2.2.2.2.2.1 (C.2.2.2.2.2.2.1 _ q1) (C.2.2.2.2.2.2.1 _ q2) (C.2.2.2.2.2.2.1 _ q3) (C.2.2.2.2.2.2.1 _ q4) (src := a0) (dst := a) (cs := vp_cell (zar g 4) (n0, .inr (.inr (.inr (.inr f))))) (cd := vp_cell (zar g 4) (n1, .inr (.inr (.inr (.inr h))))) (srcPos := nI i) (destPos := nI j) (n := nI w) (by rw [hT]; exact hc0) (by rw [hT]; exact hc1)
    (fun _ h => by cases h) (fun _ h => by cases h) (fun h => by cases h) (fun h => by cases h) hk0 hk1 hkk0 hkk1 rfl (nI_pos (by omega)) (nI_pos (by omega)) (nI_pos (by omega))
    (by rw [zpos (nI_pos (by omega)), zpos (nI_pos (by omega)), z1, z3]; show ¬ _ > ((arrV (zar g 4) n0 (fun j => va_rf (f j))).slots.size : Int); rw [arrV_size]; omega)
    (by rw [zpos (nI_pos (by omega)), zpos (nI_pos (by omega)), z2, z3]; show ¬ _ > ((arrV (zar g 4) n1 (fun j => va_rf (h j))).slots.size : Int); rw [arrV_size]; omega)
    (fun vm₁ hal q hq => by
      rw [z3] at hq
      have e : (vp_cell (zar g 4) (n0, .inr (.inr (.inr (.inr f))))).slots.getD ((nI i).toNatClampNeg + q) .null = va_rf (f (i + q)) := by
        show (arrV (zar g 4) n0 (fun j => va_rf (f j))).slots.getD _ _ = _
        rw [z1, Array.getD_eq_getD_getElem?, arrV_read _ _ (by omega)]
        rfl
      rw [e]
      cases hy : f (i + q) with
      | none => exact ⟨rfl, trivial⟩
      | some y =>
        obtain ⟨ci, fs, r9, hxy, hcy, hca⟩ := hel q hq y hy
        obtain ⟨cellV, g1, g2, g3⟩ := zrecv C.2.2.2.2.2.2.2.1 I hxy hcy
        obtain ⟨kA, comp, r1, r2, r3, -⟩ := (hK.2 4 _ rfl).2
        cases hk1.symm.trans r1
        cases hkk1.symm.trans r2
        obtain ⟨c8, t8, f1, f2, f3⟩ := Cond.castable_spec (va_Nw.use (A := args) rfl (C.2.2.2.2.2.2.2.1.2.1 _ hca rfl))
        cases g3.symm.trans f1
        cases r3.symm.trans f2
        obtain ⟨kC, hkC, -⟩ := Vm.findClass_spec g3
        obtain ⟨kE, hkE, -⟩ := Vm.findClass_spec r3
        obtain ⟨kC', hkC', -⟩ := hal.2.2 _ _ hkC
        obtain ⟨kE', hkE', -⟩ := hal.2.2 _ _ hkE
        refine ⟨rfl, cellV, (show T.heap[y]? = some cellV by rw [hT]; exact g1), (fun q h => by rw [h] at g2; cases g2), ⟨kC', hkC'⟩, ?_, ?_⟩
        · exact ⟨kE', hkE'⟩
        · show vm₁.assignable _ _ = true
          rw [hal.assignable]
          exact f3)
    (g := F0 m pc ls (.int (nI w) :: .int (nI j) :: .ref a :: .int (nI i) :: .ref a0 :: st)) rfl (by rw [C.2.2.2.2.1]; exact L.1) (rest := st) rfl (by rw [C.2.1]; exact hd) hf (by show 2 * 0 + _ + _ ≤ _; omega)
  have e1 : copied (vp_cell (zar g 4) (n0, .inr (.inr (.inr (.inr f))))) (vp_cell (zar g 4) (n1, .inr (.inr (.inr (.inr h))))) (nI i) (nI j) (nI w) = vp_cell (zar g 4) (n1, .inr (.inr (.inr (.inr (va_cpy f h (nI i).toNatClampNeg (nI j).toNatClampNeg (nI w).toNatClampNeg))))) := by
    rw [vp_cell_q, vp_cell_q, vp_cell_q]
    exact va_copied (fun z => va_rf z) (zar g 4) (zar g 4) f h (by rw [z1, z3]; exact h4)
  rw [z1, z2, z3] at e1
  rw [e1] at X' step
  have hl9 : a < H.size := (Array.getElem?_eq_some_iff.mp hc1).1
  have hheap : ((T.setVm vm').setCell a (vp_cell (zar g 4) (n1, .inr (.inr (.inr (.inr (va_cpy f h i j w))))))).heap = H.setIfInBounds a (vp_cell (zar g 4) (n1, .inr (.inr (.inr (.inr (va_cpy f h i j w)))))) := by rw [← hT]; rfl
  have oq : ∀ q : Nat, q ≠ a → (H.setIfInBounds a (vp_cell (zar g 4) (n1, .inr (.inr (.inr (.inr (va_cpy f h i j w)))))))[q]? = H[q]? := fun q hq => by simp [Array.getElem?_setIfInBounds, Ne.symm hq]
  obtain ⟨t, a1, b1⟩ := kk p e s m args below meth c _ _ ls C (I.set (show (H.setIfInBounds a _)[a]? = some _ by simp [Array.getElem?_setIfInBounds, hl9]) oq) ⟨by simp; exact S.1, fun q g1 g2 => by
      rw [oq q (fun e => g2 (by rw [e]; exact ha))]
      exact S.2.1 q g1 g2, fun q hq => by
      rcases List.mem_append.mp hq with h | h
      · exact S.2.2 q h
      · obtain ⟨z, -, hz⟩ := List.mem_map.mp h
        rw [← hz]
        exact ha⟩ L _ hheap X'
  exact ⟨t, step t a1, b1⟩
/-- a byte array's copy by clone() -/
theorem z_cloneb {a sz : Nat} {f : Nat → Int32} {k' n' : Nat} (hx : X a = some (.inl (zar g 1, sz, .inl f))) (hfit : ∀ q : Nat, q < sz → fits .byte (.int (f q)) = true)
    (q1 : Cond.methodLink M.1.cls index ⟨"[B", "clone", "()Ljava/lang/Object;"⟩ ∈ lw_all) (q2 : Cond.sameMethod "[B" "java/lang/Object" "clone" "()Ljava/lang/Object;" ∈ lw_all) (q3 : Cond.native ⟨"java/lang/Object", "clone", "()Ljava/lang/Object;"⟩ ∈ lw_all) (q4 : Cond.instanceMethod ⟨"java/lang/Object", "clone", "()Ljava/lang/Object;"⟩ ∈ lw_all) (q5 : Cond.selects "[B" ⟨"[B", "clone", "()Ljava/lang/Object;"⟩ ⟨"java/lang/Object", "clone", "()Ljava/lang/Object;"⟩ ∈ lw_all) (q6 : Cond.castable "[B" "java/lang/Cloneable" ∈ lw_tbl)
    (hf : 1 ≤ P.2.2.frames) (hl : (st.map fun v => v.category).sum + 14 ≤ P.2.2.locals) (hd : decode M.2.1 pc = .ok (.invokevirtual index, 3)) (ek : k + 1 = k') (en : n + sz = n') (hk : k' ≤ P.2.2.cells) (hn : n' ≤ P.2.2.slots)
    (kk : ∀ b : Nat, X b = none → z0 g ≤ b → zZ g M P k' n' (zup X b (.inl (zar g 1, sz, .inl f))) (pc + 3) lv (.ref b :: st)) : zZ g M P k n X pc lv (.ref a :: st) := by
  subst ek
  subst en
  intro p e s m args below meth c H locs ls C I S L
  have hK := C.2.2.2.2.2.2.2.1.1
  have hnm : s.vm.findClass "[B" = some (zar g 1) := (hK.2 1 _ rfl).2
  obtain ⟨c0, t0', f1, f2, f3⟩ := Cond.castable_spec (va_Nw.use (A := args) rfl (C.2.2.2.2.2.2.2.1.2.1 _ q6 rfl))
  cases hnm.symm.trans f1
  intro T hT TX
  have hcellT : T.heap[a]? = some (vp_cell (zar g 1) (sz, .inl f)) := by rw [hT]; exact I a _ hx
  obtain ⟨-, kA, hkA, comp, hkind⟩ := State.isArrayOf_alike TX.warmed.alike ((hK.2 1 _ rfl).1 0 (fun _ => .null))
  obtain ⟨-, kS, hkS, compS, hkindS⟩ := (hK.2 1 _ rfl).1 0 (fun _ => .null)
  have hsz : (vp_cell (zar g 1) (sz, .inl f)).slots.size = sz := arrV_size _ _ _
  obtain ⟨vm', X', st9⟩ := TX.cloneArray C.1 C.2.2.2.2.2.1 (C.2.2.2.2.2.2.1 _ q1) (C.2.2.2.2.2.2.1 _ q2) (C.2.2.2.2.2.2.1 _ q3) (C.2.2.2.2.2.2.1 _ q4) (C.2.2.2.2.2.2.1 _ q5) (a := a) (cell := vp_cell (zar g 1) (sz, .inl f)) hcellT (fun k h => by cases h) (fun h => by cases h) hnm f2 f3
    (fun i v hv => by
      have hk' : T.vm.classes[zar g 1]? = some kA := hkA
      have hi : i < sz := by
        have := (Array.getElem?_eq_some_iff.mp hv).1
        rw [hsz] at this
        exact this
      have hv2 : v = .int (f i) := by
        have h9 : (arrV (zar g 1) sz (fun j => .int (f j))).slots[i]? = some v := hv
        rw [arrV_read _ _ hi] at h9
        exact (Option.some.inj h9).symm
      rw [hv2, show (vp_cell (zar g 1) (sz, Sum.inl f)).cls = zar g 1 from rfl]
      simpa [State.fitsSlot, State.slotType?, hk', hkind] using hfit i hi)
    (g := F0 m pc ls (.ref a :: st)) rfl (by rw [C.2.2.2.2.1]; exact L.1) rfl (by rw [C.2.1]; exact hd) hf (by show 2 * 0 + _ + 14 ≤ _; omega) hk (by rw [hsz]; exact hn) (hloader := Vm.clonesLoader_of_array hkS hkindS)
  rw [hsz] at X'
  generalize hH1 : H.push (vp_cell (zar g 1) (sz, .inl f)) = H1
  have z1 : H1.size = H.size + 1 := by rw [← hH1, Array.size_push]
  have e1 : H1[H.size]? = some (vp_cell (zar g 1) (sz, .inl f)) := by rw [← hH1, Array.getElem?_push_size]
  have o1 : ∀ q : Nat, q < H.size → H1[q]? = H[q]? := fun q hq => by rw [← hH1, Array.getElem?_push, if_neg (Nat.ne_of_lt hq)]
  obtain ⟨t, b1, b2⟩ := kk H.size I.none (zS0 C.2.2.2.2.2.2.2.2.1.2.2.2.2.2.2 S) p e s m args below meth c H1 locs ls C (I.push e1 o1) (zSpush S z1 o1) L
    ((T.setVm vm').pushCell (vp_cell (zar g 1) (sz, .inl f))) (by rw [← hH1, ← hT]; rfl) X'
  refine ⟨t, st9 t ?_, b2⟩
  rw [hT]
  exact b1
/-- getClass() of an array of objects -/
theorem z_getC {a sz : Nat} {f : Nat → Option Nat} (hx : X a = some (.inl (zar g 4, sz, .inr (.inr (.inr (.inr f)))))) (q1 : Cond.methodLink M.1.cls index ⟨"java/lang/Object", "getClass", "()Ljava/lang/Class;"⟩ ∈ lw_all) (q2 : Cond.declares ⟨"java/lang/Object", "getClass", "()Ljava/lang/Class;"⟩ ∈ lw_tbl) (q3 : Cond.selects "[Ljava/lang/Object;" ⟨"java/lang/Object", "getClass", "()Ljava/lang/Class;"⟩ ⟨"java/lang/Object", "getClass", "()Ljava/lang/Class;"⟩ ∈ lw_all) (q4 : Cond.instanceMethod ⟨"java/lang/Object", "getClass", "()Ljava/lang/Class;"⟩ ∈ lw_all) (q5 : Cond.native ⟨"java/lang/Object", "getClass", "()Ljava/lang/Class;"⟩ ∈ lw_all)
    (hf : 1 ≤ P.2.2.frames) (hl : (st.map fun v => v.category).sum + 14 ≤ P.2.2.locals) (hd : decode M.2.1 pc = .ok (.invokevirtual index, 3))
    (kk : zZ g M P k n X (pc + 3) lv (.ref (zk g 2) :: st)) : zZ g M P k n X pc lv (.ref a :: st) := by
  intro p e s m args below meth c H locs ls C I S L
  have hK := C.2.2.2.2.2.2.2.1.1
  refine va_getC C.1 C.2.1 (by rw [C.2.2.2.2.1]; exact L.1.symm) C.2.2.2.2.2.1 (C.2.2.2.2.2.2.1 _ q1) (va_Nw.use rfl (C.2.2.2.2.2.2.2.1.2.1 _ q2 rfl)) (C.2.2.2.2.2.2.1 _ q3) (C.2.2.2.2.2.2.1 _ q4) (C.2.2.2.2.2.2.1 _ q5) C.2.2.2.2.2.2.2.1.2.2.2.2.2.2.1 ⟨vp_cell (zar g 4) (sz, .inr (.inr (.inr (.inr f)))), I a _ hx, rfl, va_nmO (hK.2 4 _ rfl).2 rfl⟩ hf hl hd (kk p e s m args below meth c H locs ls C I S L)
theorem z_mmax {x y v : Int32} (q1 : Cond.methodLink M.1.cls index Lib.Math.max.name ∈ lw_all) (q2 : Cond.static Lib.Math.max.name ∈ lw_all) (q3 : Cond.initialized "java/lang/Math" ∈ lw_all) (q4 : Cond.code Lib.Math.max.name Lib.Math.max.code 2 (some .int) ∈ lw_all) (hf : 1 ≤ P.2.2.frames) (hl : (st.map fun v => v.category).sum + 13 ≤ P.2.2.locals) (hk : k ≤ P.2.2.cells) (hn : n ≤ P.2.2.slots) (hd : decode M.2.1 pc = .ok (.invokestatic index, 3)) (hv : (if x < y then y else x) = v) (kk : zZ g M P k n X (pc + 3) lv (.int v :: st)) : zZ g M P k n X pc lv (.int y :: .int x :: st) := by
  subst hv
  intro p e s m args below meth c H locs ls C I S L
  exact va_mmax C.1 C.2.1 (by rw [C.2.2.2.2.1]; exact L.1.symm) C.2.2.2.2.2.1 (C.2.2.2.2.2.2.1 _ q1) (C.2.2.2.2.2.2.1 _ q2) (C.2.2.2.2.2.2.1 _ q3) (C.2.2.2.2.2.2.1 _ q4) hf hl hk hn hd (kk p e s m args below meth c H locs ls C I S L)
theorem z_mmin {x y v : Int32} (q1 : Cond.methodLink M.1.cls index Lib.Math.min.name ∈ lw_all) (q2 : Cond.static Lib.Math.min.name ∈ lw_all) (q3 : Cond.initialized "java/lang/Math" ∈ lw_all) (q4 : Cond.code Lib.Math.min.name Lib.Math.min.code 2 (some .int) ∈ lw_all) (hf : 1 ≤ P.2.2.frames) (hl : (st.map fun v => v.category).sum + 13 ≤ P.2.2.locals) (hk : k ≤ P.2.2.cells) (hn : n ≤ P.2.2.slots) (hd : decode M.2.1 pc = .ok (.invokestatic index, 3)) (hv : (if y < x then y else x) = v) (kk : zZ g M P k n X (pc + 3) lv (.int v :: st)) : zZ g M P k n X pc lv (.int y :: .int x :: st) := by
  subst hv
  intro p e s m args below meth c H locs ls C I S L
  exact va_mmin C.1 C.2.1 (by rw [C.2.2.2.2.1]; exact L.1.symm) C.2.2.2.2.2.1 (C.2.2.2.2.2.2.1 _ q1) (C.2.2.2.2.2.2.1 _ q2) (C.2.2.2.2.2.2.1 _ q3) (C.2.2.2.2.2.2.1 _ q4) hf hl hk hn hd (kk p e s m args below meth c H locs ls C I S L)
theorem zmaxN {a b : Nat} (ha : a < 2 ^ 31) (hb : b < 2 ^ 31) : (if nI a < nI b then nI b else nI a) = nI (if a < b then b else a) := by
  by_cases e : a < b
  · rw [if_pos e, if_pos ((nI_ltI ha hb).mpr e)]
  · rw [if_neg e, if_neg (fun z => e ((nI_ltI ha hb).mp z))]
theorem zminN {a b : Nat} (ha : a < 2 ^ 31) (hb : b < 2 ^ 31) : (if nI b < nI a then nI b else nI a) = nI (if b < a then b else a) := by
  by_cases e : b < a
  · rw [if_pos e, if_pos ((nI_ltI hb ha).mpr e)]
  · rw [if_neg e, if_neg (fun z => e ((nI_ltI hb ha).mp z))]
/-- to its own class -/
theorem z_castS {a ci : Nat} {fs : List Value} {r : vw_C} {nm : String} (hx : X a = some (.inr (ci, fs))) (hc : zcl[ci]? = some r) (hlk : Cond.classLink M.1.cls index nm ∈ lw_all) (hr : r.1 = nm) (hd : decode M.2.1 pc = .ok (.checkcast index, 3)) (kk : zZ g M P k n X (pc + 3) lv (.ref a :: st)) : zZ g M P k n X pc lv (.ref a :: st) := by
  subst hr
  intro p e s m args below meth c H locs ls C I S L
  exact va_castE C.1 C.2.1 C.2.2.2.2.2.1 (C.2.2.2.2.2.2.1 _ hlk) (zrecv C.2.2.2.2.2.2.2.1 I hx hc) hd (kk p e s m args below meth c H locs ls C I S L)
theorem z_instS {a ci : Nat} {fs : List Value} {r : vw_C} {nm : String} (hx : X a = some (.inr (ci, fs))) (hc : zcl[ci]? = some r) (hlk : Cond.classLink M.1.cls index nm ∈ lw_all) (hr : r.1 = nm) (hd : decode M.2.1 pc = .ok (.instanceof index, 3)) (kk : zZ g M P k n X (pc + 3) lv (.int 1 :: st)) : zZ g M P k n X pc lv (.ref a :: st) := by
  subst hr
  intro p e s m args below meth c H locs ls C I S L
  exact va_instE C.1 C.2.1 C.2.2.2.2.2.1 (C.2.2.2.2.2.2.1 _ hlk) (zrecv C.2.2.2.2.2.2.2.1 I hx hc) hd (kk p e s m args below meth c H locs ls C I S L)
end ZCP
