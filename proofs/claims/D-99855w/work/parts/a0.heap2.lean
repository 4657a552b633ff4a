/-! NATIVE ROWS: bytes and references copied, an array cloned, its class -/
set_option maxRecDepth 100000
theorem zge {k : Nat} (h : k < 2 ^ 31) : ¬ nI k < 0 ∧ (nI k).toNatClampNeg = k ∧ (nI k).toInt = (k : Int) := by
  have h1 := nI_clamp h
  have h2 : ¬ nI k < 0 := fun q => by
    have h3 := Int32.lt_iff_toInt_lt.mp q
    have h4 : (nI k).toInt = (k : Int) := nI_toInt h
    rw [h4] at h3
    have h5 : (0 : Int32).toInt = 0 := rfl
    omega
  exact ⟨h2, h1, nI_toInt h⟩
section ZH2
variable {g : zG} {M : zMth} {P : zPo} {k n : Nat} {X : zX} {pc index : Nat} {lv : List (Nat × Value)} {rest : List Value}
theorem z_copyB {a0 a n0 n1 : Nat} {f h : Nat → Int32} {X' : zX} (i j c : Nat) (hx0 : X a0 = some (.inl (zar g 1, n0, .inl f))) (hx1 : X a = some (.inl (zar g 1, n1, .inl h))) (ha : z0 g ≤ a) (h4 : i + c ≤ n0) (h5 : j + c ≤ n1) (hn0 : n0 < 2 ^ 31) (hn1 : n1 < 2 ^ 31) (hfit : ∀ q, q < c → fits .byte (.int (f (i + q))) = true)
    (q1 : Cond.methodLink M.1.cls index arraycopyName ∈ lw_all) (hf : 1 ≤ P.2.2.frames) (hl : 60 ≤ P.2.2.locals) (hW : (rest.map fun v => v.category).sum ≤ 8) (hd : decode M.2.1 pc = .ok (.invokestatic index, 3)) (hX : zup X a (.inl (zar g 1, n1, .inl (va_cpy f h i j c))) = X') (kk : zZ g M P k n X' (pc + 3) lv rest) :
    zZ g M P k n X pc lv (.int (nI c) :: .int (nI j) :: .ref a :: .int (nI i) :: .ref a0 :: rest) := by
  subst hX
  intro p e s m args below meth cd H locs ls C I S L
  obtain ⟨i1, i2, i3⟩ := zge (k := i) (by omega)
  obtain ⟨j1, j2, j3⟩ := zge (k := j) (by omega)
  obtain ⟨c1, c2, c3⟩ := zge (k := c) (by omega)
  intro T hT Xs
  have hc0 : H[a0]? = some (vp_cell (zar g 1) (n0, .inl f)) := I a0 _ hx0
  have hc1 : H[a]? = some (vp_cell (zar g 1) (n1, .inl h)) := I a _ hx1
  have hK := C.2.2.2.2.2.2.2.1.1
  have hw := C.2.2.2.2.2.2.1
  obtain ⟨-, k0, hk0, cm0, hkk0⟩ := (hK.2 1 _ rfl).1 n0 (fun j => .int (f j))
  obtain ⟨-, k1, hk1, cm1, hkk1⟩ := (hK.2 1 _ rfl).1 n1 (fun j => .int (h j))
  obtain ⟨vm', Xs', step⟩ := Xs.arraycopy C.1 C.2.2.2.2.2.1 (hw _ q1) (hw _ q696) (hw _ q695) (hw _ q136) (src := a0) (dst := a) (cs := vp_cell (zar g 1) (n0, .inl f)) (cd := vp_cell (zar g 1) (n1, .inl h)) (srcPos := nI i) (destPos := nI j) (n := nI c) (by rw [hT]; exact hc0) (by rw [hT]; exact hc1)
    (fun _ h => by cases h) (fun _ h => by cases h) (fun h => by cases h) (fun h => by cases h) hk0 hk1 hkk0 hkk1 rfl i1 j1 c1
    (by rw [i3, c3]; show ¬ _ > ((arrV (zar g 1) n0 (fun j => .int (f j))).slots.size : Int); rw [arrV_size]; omega)
    (by rw [j3, c3]; show ¬ _ > ((arrV (zar g 1) n1 (fun j => .int (h j))).slots.size : Int); rw [arrV_size]; omega)
    (fun vm₁ _ q hq => by
      rw [c2] at hq
      rw [i2]
      have e9 : (vp_cell (zar g 1) (n0, .inl f)).slots.getD (i + q) .null = .int (f (i + q)) := by
        show (arrV (zar g 1) n0 (fun j => .int (f j))).slots.getD _ _ = _
        rw [Array.getD_eq_getD_getElem?, arrV_read _ _ (by omega)]
        rfl
      rw [e9]
      exact ⟨hfit q hq, trivial⟩)
    (g := F0 m pc ls (.int (nI c) :: .int (nI j) :: .ref a :: .int (nI i) :: .ref a0 :: rest)) rfl (L.1.trans C.2.2.2.2.1.symm) (rest := rest) rfl (by rw [C.2.1]; exact hd) hf (by show 2 * 0 + _ + _ ≤ _; have hw9 : nativeFrameWords "java/lang/System" "arraycopy" 5 = 7 := (by decide); omega)
  have e1 : copied (vp_cell (zar g 1) (n0, .inl f)) (vp_cell (zar g 1) (n1, .inl h)) (nI i) (nI j) (nI c) = vp_cell (zar g 1) (n1, .inl (va_cpy f h i j c)) := by
    have e2 := va_copied (n1 := n1) (sp := i) (dp := j) (n := c) (fun z : Int32 => .int z) (zar g 1) (zar g 1) f h h4
    show Cell.storeRun _ (nI j).toNatClampNeg (Cell.stretch _ (nI i).toNatClampNeg (nI c).toNatClampNeg) = _
    rw [i2, j2, c2]
    exact e2
  rw [e1] at Xs' step
  have hlt : a < H.size := (Array.getElem?_eq_some_iff.mp hc1).1
  have hheap : ((T.setVm vm').setCell a (vp_cell (zar g 1) (n1, .inl (va_cpy f h i j c)))).heap = H.setIfInBounds a (vp_cell (zar g 1) (n1, .inl (va_cpy f h i j c))) := by rw [← hT]; rfl
  have oq : ∀ q : Nat, q ≠ a → (H.setIfInBounds a (vp_cell (zar g 1) (n1, .inl (va_cpy f h i j c))))[q]? = H[q]? := fun q hq => by simp [Array.getElem?_setIfInBounds, Ne.symm hq]
  obtain ⟨t, a1, b1⟩ := kk p e s m args below meth cd _ _ ls C (I.set (show (H.setIfInBounds a _)[a]? = some (vp_cell _ _) by simp [Array.getElem?_setIfInBounds, hlt]) oq) ⟨by simp; exact S.1, fun q g1 g2 => by
      rw [oq q (fun e => g2 (by rw [e]; exact ha))]
      exact S.2.1 q g1 g2, fun q hq => by
      rcases List.mem_append.mp hq with h | h
      · exact S.2.2 q h
      · obtain ⟨z, -, hz⟩ := List.mem_map.mp h
        rw [← hz]
        exact ha⟩ L _ hheap Xs'
  exact ⟨t, step t a1, b1⟩
/-- references copied, each to an object that is known -/
theorem z_copyQ {a0 a n0 n1 : Nat} {f h : Nat → Option Nat} {X' : zX} (i j c : Nat) (hx0 : X a0 = some (.inl (zar g 4, n0, .inr (.inr (.inr (.inr f)))))) (hx1 : X a = some (.inl (zar g 4, n1, .inr (.inr (.inr (.inr h)))))) (ha : z0 g ≤ a) (h4 : i + c ≤ n0) (h5 : j + c ≤ n1) (hn0 : n0 < 2 ^ 31) (hn1 : n1 < 2 ^ 31)
    (hel : ∀ q, q < c → f (i + q) = none ∨ ∃ (y ci : Nat) (vs : List Value) (r : vw_C), f (i + q) = some y ∧ X y = some (.inr (ci, vs)) ∧ zcl[ci]? = some r ∧ Cond.castable r.1 "java/lang/Object" ∈ lw_tbl)
    (q1 : Cond.methodLink M.1.cls index arraycopyName ∈ lw_all) (hf : 1 ≤ P.2.2.frames) (hl : 60 ≤ P.2.2.locals) (hW : (rest.map fun v => v.category).sum ≤ 8) (hd : decode M.2.1 pc = .ok (.invokestatic index, 3)) (hX : zup X a (.inl (zar g 4, n1, .inr (.inr (.inr (.inr (va_cpy f h i j c)))))) = X') (kk : zZ g M P k n X' (pc + 3) lv rest) :
    zZ g M P k n X pc lv (.int (nI c) :: .int (nI j) :: .ref a :: .int (nI i) :: .ref a0 :: rest) := by
  subst hX
  intro p e s m args below meth cd H locs ls C I S L
  obtain ⟨i1, i2, i3⟩ := zge (k := i) (by omega)
  obtain ⟨j1, j2, j3⟩ := zge (k := j) (by omega)
  obtain ⟨c1, c2, c3⟩ := zge (k := c) (by omega)
  intro T hT Xs
  have hc0 : H[a0]? = some (vp_cell (zar g 4) (n0, .inr (.inr (.inr (.inr f))))) := I a0 _ hx0
  have hc1 : H[a]? = some (vp_cell (zar g 4) (n1, .inr (.inr (.inr (.inr h))))) := I a _ hx1
  have hK := C.2.2.2.2.2.2.2.1.1
  have hw := C.2.2.2.2.2.2.1
  obtain ⟨-, k0, hk0, cm0, hkk0⟩ := (hK.2 4 _ rfl).1 n0 (fun j => va_rf (f j))
  obtain ⟨-, k1, hk1, cm1, hkk1⟩ := (hK.2 4 _ rfl).1 n1 (fun j => va_rf (h j))
  obtain ⟨vm', Xs', step⟩ := Xs.arraycopy C.1 C.2.2.2.2.2.1 (hw _ q1) (hw _ q696) (hw _ q695) (hw _ q136) (src := a0) (dst := a) (cs := vp_cell (zar g 4) (n0, .inr (.inr (.inr (.inr f))))) (cd := vp_cell (zar g 4) (n1, .inr (.inr (.inr (.inr h))))) (srcPos := nI i) (destPos := nI j) (n := nI c) (by rw [hT]; exact hc0) (by rw [hT]; exact hc1)
    (fun _ h => by cases h) (fun _ h => by cases h) (fun h => by cases h) (fun h => by cases h) hk0 hk1 hkk0 hkk1 rfl i1 j1 c1
    (by rw [i3, c3]; show ¬ _ > ((arrV (zar g 4) n0 (fun j => va_rf (f j))).slots.size : Int); rw [arrV_size]; omega)
    (by rw [j3, c3]; show ¬ _ > ((arrV (zar g 4) n1 (fun j => va_rf (h j))).slots.size : Int); rw [arrV_size]; omega)
    (fun vm₁ hal q hq => by
      rw [c2] at hq
      rw [i2]
      have e9 : (vp_cell (zar g 4) (n0, .inr (.inr (.inr (.inr f))))).slots.getD (i + q) .null = va_rf (f (i + q)) := by
        show (arrV (zar g 4) n0 (fun j => va_rf (f j))).slots.getD _ _ = _
        rw [Array.getD_eq_getD_getElem?, arrV_read _ _ (by omega)]
        rfl
      rw [e9]
      rcases hel q hq with hy | ⟨y, ci, vs, r, hy, hvx, hc, hca⟩
      · rw [hy]
        exact ⟨rfl, trivial⟩
      · rw [hy]
        obtain ⟨r', hr', cellV, g1, g2, g3, -⟩ := I y _ hvx
        have hcls := (hK.1 ci r hc).2
        obtain ⟨kA, comp, r1, r2, r3, -⟩ := (hK.2 4 _ rfl).2
        cases hk1.symm.trans r1
        cases hkk1.symm.trans r2
        obtain ⟨kE, hkE, -⟩ := Vm.findClass_spec r3
        obtain ⟨c0, t1, f1, f2, f3⟩ := Cond.castable_spec (va_Nw.use (A := args) rfl (C.2.2.2.2.2.2.2.1.2.1 _ hca rfl))
        cases hcls.1.symm.trans f1
        cases r3.symm.trans f2
        obtain ⟨kC, hkC, -⟩ := hcls.2
        obtain ⟨kC', hkC', -⟩ := hal.2.2 _ _ hkC
        obtain ⟨kE', hkE', -⟩ := hal.2.2 _ _ hkE
        refine ⟨rfl, cellV, (show T.heap[y]? = some cellV by rw [hT]; exact g1), (fun q h => by rw [g3] at h; cases h), ⟨kC', by rw [g2]; exact hkC'⟩, ⟨kE', hkE'⟩, ?_⟩
        show vm₁.assignable _ _ = true
        rw [hal.assignable, g2]
        exact f3)
    (g := F0 m pc ls (.int (nI c) :: .int (nI j) :: .ref a :: .int (nI i) :: .ref a0 :: rest)) rfl (L.1.trans C.2.2.2.2.1.symm) (rest := rest) rfl (by rw [C.2.1]; exact hd) hf (by show 2 * 0 + _ + _ ≤ _; have hw9 : nativeFrameWords "java/lang/System" "arraycopy" 5 = 7 := (by decide); omega)
  have e1 : copied (vp_cell (zar g 4) (n0, .inr (.inr (.inr (.inr f))))) (vp_cell (zar g 4) (n1, .inr (.inr (.inr (.inr h))))) (nI i) (nI j) (nI c) = vp_cell (zar g 4) (n1, .inr (.inr (.inr (.inr (va_cpy f h i j c))))) := by
    have e2 := va_copied (n1 := n1) (sp := i) (dp := j) (n := c) (fun z => va_rf z) (zar g 4) (zar g 4) f h h4
    rw [vp_cell_q, vp_cell_q, vp_cell_q]
    show Cell.storeRun _ (nI j).toNatClampNeg (Cell.stretch _ (nI i).toNatClampNeg (nI c).toNatClampNeg) = _
    rw [i2, j2, c2]
    exact e2
  rw [e1] at Xs' step
  have hlt : a < H.size := (Array.getElem?_eq_some_iff.mp hc1).1
  have hheap : ((T.setVm vm').setCell a (vp_cell (zar g 4) (n1, .inr (.inr (.inr (.inr (va_cpy f h i j c))))))).heap = H.setIfInBounds a (vp_cell (zar g 4) (n1, .inr (.inr (.inr (.inr (va_cpy f h i j c)))))) := by rw [← hT]; rfl
  have oq : ∀ q : Nat, q ≠ a → (H.setIfInBounds a (vp_cell (zar g 4) (n1, .inr (.inr (.inr (.inr (va_cpy f h i j c)))))))[q]? = H[q]? := fun q hq => by simp [Array.getElem?_setIfInBounds, Ne.symm hq]
  obtain ⟨t, a1, b1⟩ := kk p e s m args below meth cd _ _ ls C (I.set (show (H.setIfInBounds a _)[a]? = some (vp_cell _ _) by simp [Array.getElem?_setIfInBounds, hlt]) oq) ⟨by simp; exact S.1, fun q g1 g2 => by
      rw [oq q (fun e => g2 (by rw [e]; exact ha))]
      exact S.2.1 q g1 g2, fun q hq => by
      rcases List.mem_append.mp hq with h | h
      · exact S.2.2 q h
      · obtain ⟨z, -, hz⟩ := List.mem_map.mp h
        rw [← hz]
        exact ha⟩ L _ hheap Xs'
  exact ⟨t, step t a1, b1⟩
/-- the class of an array of objects -/
theorem z_getCl {a n0 : Nat} {f : Nat → Option Nat} (hx0 : X a = some (.inl (zar g 4, n0, .inr (.inr (.inr (.inr f)))))) (q1 : Cond.methodLink M.1.cls index ⟨"java/lang/Object", "getClass", "()Ljava/lang/Class;"⟩ ∈ lw_all) (hf : 1 ≤ P.2.2.frames) (hl : 60 ≤ P.2.2.locals) (hW : (rest.map fun v => v.category).sum ≤ 8) (hd : decode M.2.1 pc = .ok (.invokevirtual index, 3))
    (kk : zZ g M P k n X (pc + 3) lv (.ref (zk g 2) :: rest)) : zZ g M P k n X pc lv (.ref a :: rest) := by
  intro p e s m args below meth cd H locs ls C I S L
  have hK := C.2.2.2.2.2.2.2.1.1
  have hw := C.2.2.2.2.2.2.1
  have hc0 : H[a]? = some (vp_cell (zar g 4) (n0, .inr (.inr (.inr (.inr f))))) := I a _ hx0
  refine va_getC C.1 C.2.1 (C.2.2.2.2.1.trans L.1.symm) C.2.2.2.2.2.1 (hw _ q1) (va_Nw.use (A := args) rfl (C.2.2.2.2.2.2.2.1.2.1 _ q2113 rfl)) (hw _ q2112) (hw _ q860) (hw _ q886) C.2.2.2.2.2.2.2.1.2.2.2.2.2.2.1 ⟨_, hc0, rfl, va_nmO (hK.2 4 _ rfl).2 rfl⟩ hf (by omega) hd (kk p e s m args below meth cd H locs ls C I S L)
/-- a byte array cloned -/
theorem z_cloneB {a n0 : Nat} {f : Nat → Int32} {k' n' : Nat} (hx0 : X a = some (.inl (zar g 1, n0, .inl f))) (hfit : ∀ q, q < n0 → fits .byte (.int (f q)) = true) (q1 : Cond.methodLink M.1.cls index ⟨"[B", "clone", "()Ljava/lang/Object;"⟩ ∈ lw_all) (hf : 1 ≤ P.2.2.frames) (hl : 60 ≤ P.2.2.locals) (hW : (rest.map fun v => v.category).sum ≤ 8) (hd : decode M.2.1 pc = .ok (.invokevirtual index, 3)) (ek : k + 1 = k') (en : n + n0 = n') (hk : k' ≤ P.2.2.cells) (hn : n' ≤ P.2.2.slots)
    (kk : ∀ q : Nat, X q = none → z0 g ≤ q → zZ g M P k' n' (zup X q (.inl (zar g 1, n0, .inl f))) (pc + 3) lv (.ref q :: rest)) : zZ g M P k n X pc lv (.ref a :: rest) := by
  subst ek
  subst en
  intro p e s m args below meth cd H locs ls C I S L
  have hK := C.2.2.2.2.2.2.2.1.1
  have hw := C.2.2.2.2.2.2.1
  have hc0 : H[a]? = some (vp_cell (zar g 1) (n0, .inl f)) := I a _ hx0
  have hnm : s.vm.findClass "[B" = some (zar g 1) := (hK.2 1 _ rfl).2
  obtain ⟨c0, t0', f1, f2, f3⟩ := Cond.castable_spec (va_Nw.use (A := args) rfl (C.2.2.2.2.2.2.2.1.2.1 _ q691 rfl))
  cases hnm.symm.trans f1
  intro T hT Xs
  have hcellT : T.heap[a]? = some (vp_cell (zar g 1) (n0, .inl f)) := by rw [hT]; exact hc0
  obtain ⟨-, kA, hkA, comp, hkind⟩ := State.isArrayOf_alike Xs.warmed.alike ((hK.2 1 _ rfl).1 0 (fun _ => .null))
  obtain ⟨-, kS, hkS, compS, hkindS⟩ := (hK.2 1 _ rfl).1 0 (fun _ => .null)
  have hsz : (vp_cell (zar g 1) (n0, .inl f)).slots.size = n0 := arrV_size _ _ _
  obtain ⟨vm', Xs', st⟩ := Xs.cloneArray C.1 C.2.2.2.2.2.1 (hw _ q1) (hw _ q687) (hw _ q688) (hw _ q689) (hw _ q690) (a := a) (cell := vp_cell (zar g 1) (n0, .inl f)) hcellT (fun k h => by cases h) (fun h => by cases h) hnm f2 f3
    (fun i v hv => by
      have hk' : T.vm.classes[zar g 1]? = some kA := hkA
      have h9 := va_fit (ty := .byte) (cA := zar g 1) (n := n0) (F := fun j => .int (f j)) hfit i v hv
      show T.fitsSlot (zar g 1) .none i v = true
      simpa [State.fitsSlot, State.slotType?, hk', hkind] using h9)
    (g := F0 m pc ls (.ref a :: rest)) rfl (L.1.trans C.2.2.2.2.1.symm) rfl (by rw [C.2.1]; exact hd) hf (by show 2 * 0 + _ + 14 ≤ _; omega) (by omega) (by rw [hsz]; omega) (hloader := Vm.clonesLoader_of_array hkS hkindS)
  rw [hsz] at Xs'
  generalize hH1 : H.push (vp_cell (zar g 1) (n0, .inl f)) = H1
  have z1 : H1.size = H.size + 1 := by rw [← hH1, Array.size_push]
  have e1 : H1[H.size]? = some (vp_cell (zar g 1) (n0, .inl f)) := by rw [← hH1, Array.getElem?_push_size]
  have o1 : ∀ q : Nat, q < H.size → H1[q]? = H[q]? := fun q hq => by rw [← hH1, Array.getElem?_push, if_neg (Nat.ne_of_lt hq)]
  obtain ⟨t, b1, b2⟩ := kk H.size I.none (zS0 C.2.2.2.2.2.2.2.2.1.2.2.2.2.2.2 S) p e s m args below meth cd H1 _ ls C (I.push e1 o1) (zSpush S z1 o1) L ((T.setVm vm').pushCell (vp_cell (zar g 1) (n0, .inl f))) (by rw [← hH1, ← hT]; rfl) Xs'
  refine ⟨t, st t ?_, b2⟩
  rw [hT]
  exact b1
theorem z_castA1 {a n0 : Nat} {f : Nat → Int32} (hx0 : X a = some (.inl (zar g 1, n0, .inl f))) (hlk : Cond.classLink M.1.cls index "[B" ∈ lw_all) (hd : decode M.2.1 pc = .ok (.checkcast index, 3)) (kk : zZ g M P k n X (pc + 3) lv (.ref a :: rest)) : zZ g M P k n X pc lv (.ref a :: rest) := by
  intro p e s m args below meth cd H locs ls C I S L
  have hK := C.2.2.2.2.2.2.2.1.1
  have hw := C.2.2.2.2.2.2.1
  exact va_castA C.1 C.2.1 C.2.2.2.2.2.1 (hw _ hlk) (I.one hx0) 0 rfl (hK.2 1 _ rfl).2 hd (kk p e s m args below meth cd H locs ls C I S L)
/-- a field named by a class under the one that declares it -/
theorem z_getU {Cl : String} {T : u_T} {N ci index a : Nat} {fs : List Value} {v : Value} {ref : String} (q : Nat) (hx : X a = some (.inr (ci, fs))) (hc : zcl[ci]? = some (Cl, T, N)) (hin : ∀ w ∈ u_ws Cl T N, w ∈ lw_all) (hq : q < N) (hlk : Cond.fieldLink M.1.cls index ref (T q).2.1 (T q).2.2.1 ∈ lw_all) (hsm : Cond.sameField ref (T q).1 (T q).2.1 (T q).2.2.1 ∈ lw_all) (hv : fs[q]? = some v) (hd : decode M.2.1 pc = .ok (.getfield index, 3)) (kk : zZ g M P k n X (pc + 3) lv (v :: rest)) : zZ g M P k n X pc lv (.ref a :: rest) := by
  intro p e s m args below meth c H locs ls C I S L
  exact va_get C.1 C.2.1 C.2.2.2.2.2.2.1 hin C.2.2.2.2.2.1 C.2.2.2.2.2.2.2.1.1 (I.one hx) 0 rfl hc q hq (C.2.2.2.2.2.2.1 _ hlk) (fun x h => u_same (C.2.2.2.2.2.2.1 _ hsm) x h) hv hd (kk p e s m args below meth c H locs ls C I S L)
theorem z_putU {Cl : String} {T : u_T} {N ci index a : Nat} {fs : List Value} {X' : zX} {ref : String} (q : Nat) (hx : X a = some (.inr (ci, fs))) (hc : zcl[ci]? = some (Cl, T, N)) (hin : ∀ w ∈ u_ws Cl T N, w ∈ lw_all) (hq : q < N) (ty0 : Nat → FieldType) (hty : ∀ k, k < N → parseFieldDescriptor (T k).2.2.1 = some (ty0 k)) (hnm : ∀ a, a < N → ∀ b, b < N → a ≠ b → (T a).2.1 ≠ (T b).2.1) (hlk : Cond.fieldLink M.1.cls index ref (T q).2.1 (T q).2.2.1 ∈ lw_all) (hsm : Cond.sameField ref (T q).1 (T q).2.1 (T q).2.2.1 ∈ lw_all) (hfin : (T q).2.2.2 = false) {ty : FieldType} {v : Value} (hdt : parseFieldDescriptor (T q).2.2.1 = some ty) (hn : narrow ty v = v) (hfit : fits ty v = true) (hl : q < fs.length) (ha : z0 g ≤ a) (hd : decode M.2.1 pc = .ok (.putfield index, 3)) (hX : zup X a (.inr (ci, fs.set q v)) = X') (kk : zZ g M P k n X' (pc + 3) lv rest) : zZ g M P k n X pc lv (v :: .ref a :: rest) := by
  subst hX
  intro p e s m args below meth c H locs ls C I S L
  have hap := va_apart (own := M.1.cls) C.2.2.2.2.2.2.1 hin ty0 hty hnm C.2.2.2.2.2.2.2.1.1 hc
  obtain ⟨r, h1, cell, q1, q2, q3, q4⟩ := I a _ hx
  have hr : r = (Cl, T, N) := Option.some.inj (h1.symm.trans hc)
  subst hr
  obtain ⟨hS, hfc, kC, hkC, hkind⟩ := C.2.2.2.2.2.2.2.1.1.1 ci _ hc
  obtain ⟨cf, kf, fi, f, hi, hsl⟩ := hS q hq
  have hlay := C.2.2.2.2.2.2.1 _ (hin _ (u_in_lay hq))
  unfold u_lay at hlay
  rw [if_neg (by rw [hfin]; decide)] at hlay
  have hst := (u_facts hfc hkC (u_lays C.2.2.2.2.2.2.1 hin hq) hi).1
  have h6 := u_store hfc hkC hkind hlay hi hdt hn hfit
  refine W.putK C.1 C.2.1 (f := f) ⟨C.2.2.2.2.2.1, C.2.2.2.2.2.2.1 _ hlk, ⟨_, _, _, u_same (C.2.2.2.2.2.2.1 _ hsm) _ hi⟩, hst⟩ (by rw [q2]; exact h6) q1 q3 (by rw [hsl]; exact k2_hasslot (q4 q hq)) rfl rfl hd fun H' e1 e2 e3 => ?_
  rw [hsl] at e1 ⊢
  exact kk p e s m args below meth c H' _ ls C (I.set ⟨_, hc, t_OB.to (V := updV (vp_V fs) q v) ⟨_, e1, q2, q3, t_set q4 hap hq v⟩ (fun j _ => vp_updV_set hl v j)⟩ e3) (S.put e2 e3 ha) L
end ZH2
