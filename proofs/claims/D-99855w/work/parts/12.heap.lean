/-! HEAP ROWS of the judgement zZ: printed by mkheap.py -/
set_option maxRecDepth 100000
theorem zI.one {g : zG} {X : zX} {H : Heap} {a : Nat} {e : va_E} (I : zI g X H) (hx : X a = some e) : va_P g.2.1 zcl [(a, e)] H := by
  intro k q hq
  match k, hq with
  | 0, hq => cases hq; exact I a e hx
  | k + 1, hq => simp at hq
theorem zI.set {g : zG} {X : zX} {H H1 : Heap} {a : Nat} {e : va_E} (I : zI g X H) (he : va_at g.2.1 zcl (a, e) H1) (oq : ∀ q : Nat, q ≠ a → H1[q]? = H[q]?) : zI g (zup X a e) H1 := by
  intro b f hb
  by_cases h : b = a
  · subst h
    rw [zup_s] at hb
    cases hb
    exact he
  · rw [zup_n h] at hb
    exact (I b f hb).kept (oq b h)
theorem zI.none {g : zG} {X : zX} {H : Heap} (I : zI g X H) : X H.size = none := by
  cases h : X H.size with
  | none => rfl
  | some e => exact absurd (I _ _ h).lt (Nat.lt_irrefl _)
theorem zI.push {g : zG} {X : zX} {H H1 : Heap} {e : va_E} (I : zI g X H) (he : va_at g.2.1 zcl (H.size, e) H1) (oq : ∀ q : Nat, q < H.size → H1[q]? = H[q]?) : zI g (zup X H.size e) H1 := by
  intro b f hb
  by_cases h : b = H.size
  · subst h
    rw [zup_s] at hb
    cases hb
    exact he
  · rw [zup_n h] at hb
    exact (I b f hb).kept (oq b (I b f hb).lt)
theorem zin {i : Int32} {j n : Nat} (hi : i = nI j) (hj : j < n) (hn : n < 2 ^ 31) : vp_in i n ∧ i.toNatClampNeg = j := by
  subst hi
  exact ⟨vp_in_nI hj hn, nI_clamp (by omega)⟩
section ZH
variable {g : zG} {M : zMth} {P : zPo} {k n : Nat} {X : zX} {pc : Nat} {lv : List (Nat × Value)} {st : List Value}
theorem z_get {Cl : String} {T : u_T} {N ci index a : Nat} {fs : List Value} {v : Value} (q : Nat) (hx : X a = some (.inr (ci, fs))) (hc : zcl[ci]? = some (Cl, T, N)) (hin : ∀ w ∈ u_ws Cl T N, w ∈ lw_all) (hq : q < N) (hlk : Cond.fieldLink M.1.cls index (T q).1 (T q).2.1 (T q).2.2.1 ∈ lw_all) (hv : fs[q]? = some v) (hd : decode M.2.1 pc = .ok (.getfield index, 3)) (kk : zZ g M P k n X (pc + 3) lv (v :: st)) : zZ g M P k n X pc lv (.ref a :: st) := by
  intro p e s m args below meth c H locs ls C I S L
  exact va_get C.1 C.2.1 C.2.2.2.2.2.2.1 hin C.2.2.2.2.2.1 C.2.2.2.2.2.2.2.1.1 (I.one hx) 0 rfl hc q hq (C.2.2.2.2.2.2.1 _ hlk) (fun x h => h) hv hd (kk p e s m args below meth c H locs ls C I S L)
theorem z_getN {Cl : String} {T : u_T} {N ci index a : Nat} {fs : List Value} {v : Value} (q : Nat) (hx : X a = some (.inr (ci, fs))) (hc : zcl[ci]? = some (Cl, T, N)) (hin : ∀ w ∈ u_ws Cl T N, w ∈ lw_all) (hq : q < N) {host : String} (hlk : Cond.fieldLinkNest M.1.cls index (T q).1 (T q).2.1 (T q).2.2.1 host ∈ lw_tbl) (hv : fs[q]? = some v) (hd : decode M.2.1 pc = .ok (.getfield index, 3)) (kk : zZ g M P k n X (pc + 3) lv (v :: st)) : zZ g M P k n X pc lv (.ref a :: st) := by
  intro p e s m args below meth c H locs ls C I S L
  exact va_getN C.1 C.2.1 C.2.2.2.2.2.2.1 hin C.2.2.2.2.2.1 C.2.2.2.2.2.2.2.1.1 (I.one hx) 0 rfl hc q hq (va_Nw.use rfl (C.2.2.2.2.2.2.2.1.2.1 _ hlk rfl)) (fun x h => h) hv hd (kk p e s m args below meth c H locs ls C I S L)
theorem z_put {Cl : String} {T : u_T} {N ci index a : Nat} {fs : List Value} {X' : zX} (q : Nat) (hx : X a = some (.inr (ci, fs))) (hc : zcl[ci]? = some (Cl, T, N)) (hin : ∀ w ∈ u_ws Cl T N, w ∈ lw_all) (hq : q < N) (ty0 : Nat → FieldType) (hty : ∀ k, k < N → parseFieldDescriptor (T k).2.2.1 = some (ty0 k)) (hnm : ∀ a, a < N → ∀ b, b < N → a ≠ b → (T a).2.1 ≠ (T b).2.1) (hlk : Cond.fieldLink M.1.cls index (T q).1 (T q).2.1 (T q).2.2.1 ∈ lw_all) (hfin : (T q).2.2.2 = false) {ty : FieldType} {v : Value} (hdt : parseFieldDescriptor (T q).2.2.1 = some ty) (hn : narrow ty v = v) (hfit : fits ty v = true) (hl : q < fs.length) (ha : z0 g ≤ a) (hd : decode M.2.1 pc = .ok (.putfield index, 3)) (hX : zup X a (.inr (ci, fs.set q v)) = X') (kk : zZ g M P k n X' (pc + 3) lv st) : zZ g M P k n X pc lv (v :: .ref a :: st) := by
  subst hX
  intro p e s m args below meth c H locs ls C I S L
  have hap := va_apart (own := M.1.cls) C.2.2.2.2.2.2.1 hin ty0 hty hnm C.2.2.2.2.2.2.2.1.1 hc
  obtain ⟨r, h1, cell, q1, q2, q3, q4⟩ := I a _ hx
  have hr : r = (Cl, T, N) := Option.some.inj (h1.symm.trans hc)
  subst hr
  obtain ⟨hS, hfc, kC, hkC, hkind⟩ := C.2.2.2.2.2.2.2.1.1.1 ci _ hc
  obtain ⟨cf, kf, fi, f, hi, hsl⟩ := hS q hq
  have hlay := C.2.2.2.2.2.2.1 _ (hin _ (u_in_lay hq))
  unfold u_lay at hlay
  rw [if_neg (by rw [hfin]; decide)] at hlay
  have hst := (u_facts hfc hkC (u_lays C.2.2.2.2.2.2.1 hin hq) hi).1
  have h6 := u_store hfc hkC hkind hlay hi hdt hn hfit
  refine W.putK C.1 C.2.1 (f := f) ⟨C.2.2.2.2.2.1, C.2.2.2.2.2.2.1 _ hlk, ⟨_, _, _, hi⟩, hst⟩ (by rw [q2]; exact h6) q1 q3 (by rw [hsl]; exact k2_hasslot (q4 q hq)) rfl rfl hd fun H' e1 e2 e3 => ?_
  rw [hsl] at e1 ⊢
  exact kk p e s m args below meth c H' _ ls C (I.set ⟨_, hc, t_OB.to (V := updV (vp_V fs) q v) ⟨_, e1, q2, q3, t_set q4 hap hq v⟩ (fun j _ => vp_updV_set hl v j)⟩ e3) (S.put e2 e3 ha) L
theorem z_putN {Cl : String} {T : u_T} {N ci index a : Nat} {fs : List Value} {X' : zX} {host : String} (q : Nat) (hx : X a = some (.inr (ci, fs))) (hc : zcl[ci]? = some (Cl, T, N)) (hin : ∀ w ∈ u_ws Cl T N, w ∈ lw_all) (hq : q < N) (ty0 : Nat → FieldType) (hty : ∀ k, k < N → parseFieldDescriptor (T k).2.2.1 = some (ty0 k)) (hnm : ∀ a, a < N → ∀ b, b < N → a ≠ b → (T a).2.1 ≠ (T b).2.1) (hlk : Cond.fieldLinkNest M.1.cls index (T q).1 (T q).2.1 (T q).2.2.1 host ∈ lw_tbl) (hfin : (T q).2.2.2 = false) {ty : FieldType} {v : Value} (hdt : parseFieldDescriptor (T q).2.2.1 = some ty) (hn : narrow ty v = v) (hfit : fits ty v = true) (hl : q < fs.length) (ha : z0 g ≤ a) (hd : decode M.2.1 pc = .ok (.putfield index, 3)) (hX : zup X a (.inr (ci, fs.set q v)) = X') (kk : zZ g M P k n X' (pc + 3) lv st) : zZ g M P k n X pc lv (v :: .ref a :: st) := by
  subst hX
  intro p e s m args below meth c H locs ls C I S L
  have hap := va_apart (own := M.1.cls) C.2.2.2.2.2.2.1 hin ty0 hty hnm C.2.2.2.2.2.2.2.1.1 hc
  obtain ⟨r, h1, cell, q1, q2, q3, q4⟩ := I a _ hx
  have hr : r = (Cl, T, N) := Option.some.inj (h1.symm.trans hc)
  subst hr
  obtain ⟨hS, hfc, kC, hkC, hkind⟩ := C.2.2.2.2.2.2.2.1.1.1 ci _ hc
  obtain ⟨cf, kf, fi, f, hi, hsl⟩ := hS q hq
  have hlay := C.2.2.2.2.2.2.1 _ (hin _ (u_in_lay hq))
  unfold u_lay at hlay
  rw [if_neg (by rw [hfin]; decide)] at hlay
  have hst := (u_facts hfc hkC (u_lays C.2.2.2.2.2.2.1 hin hq) hi).1
  have h6 := u_store hfc hkC hkind hlay hi hdt hn hfit
  refine va_WputK C.1 C.2.1 (f := f) C.2.2.2.2.2.1 (va_Nw.use rfl (C.2.2.2.2.2.2.2.1.2.1 _ hlk rfl)) hi hst (by rw [q2]; exact h6) q1 q3 (by rw [hsl]; exact k2_hasslot (q4 q hq)) rfl rfl hd fun H' e1 e2 e3 => ?_
  rw [hsl] at e1 ⊢
  exact kk p e s m args below meth c H' _ ls C (I.set ⟨_, hc, t_OB.to (V := updV (vp_V fs) q v) ⟨_, e1, q2, q3, t_set q4 hap hq v⟩ (fun j _ => vp_updV_set hl v j)⟩ e3) (S.put e2 e3 ha) L
theorem z_putF {Cl : String} {T : u_T} {N ci index a : Nat} {fs : List Value} {X' : zX} (q : Nat) (hx : X a = some (.inr (ci, fs))) (hc : zcl[ci]? = some (Cl, T, N)) (hin : ∀ w ∈ u_ws Cl T N, w ∈ lw_all) (hq : q < N) (ty0 : Nat → FieldType) (hty : ∀ k, k < N → parseFieldDescriptor (T k).2.2.1 = some (ty0 k)) (hnm : ∀ a, a < N → ∀ b, b < N → a ≠ b → (T a).2.1 ≠ (T b).2.1) (hlk : Cond.fieldLink M.1.cls index (T q).1 (T q).2.1 (T q).2.2.1 ∈ lw_all) (hfin : (T q).2.2.2 = true) (hin2 : M.1.name = "<init>") (hdecl : (T q).1 = M.1.cls) {ty : FieldType} {v : Value} (hdt : parseFieldDescriptor (T q).2.2.1 = some ty) (hn : narrow ty v = v) (hfit : fits ty v = true) (hl : q < fs.length) (ha : z0 g ≤ a) (hd : decode M.2.1 pc = .ok (.putfield index, 3)) (hX : zup X a (.inr (ci, fs.set q v)) = X') (kk : zZ g M P k n X' (pc + 3) lv st) : zZ g M P k n X pc lv (v :: .ref a :: st) := by
  subst hX
  intro p e s m args below meth c H locs ls C I S L
  have hap := va_apart (own := M.1.cls) C.2.2.2.2.2.2.1 hin ty0 hty hnm C.2.2.2.2.2.2.2.1.1 hc
  obtain ⟨r, h1, cell, q1, q2, q3, q4⟩ := I a _ hx
  have hr : r = (Cl, T, N) := Option.some.inj (h1.symm.trans hc)
  subst hr
  obtain ⟨hS, hfc, kC, hkC, hkind⟩ := C.2.2.2.2.2.2.2.1.1.1 ci _ hc
  obtain ⟨cf, kf, fi, f, hi, hsl⟩ := hS q hq
  have hlay := C.2.2.2.2.2.2.1 _ (hin _ (u_in_lay hq))
  unfold u_lay at hlay
  rw [if_pos hfin] at hlay
  have hst := (u_facts hfc hkC (u_lays C.2.2.2.2.2.2.1 hin hq) hi).1
  have hcf : m.cls = cf := by
    obtain ⟨_, _, c', _, _, _, -, -, hf', -, -, -, hown2, -⟩ := Cond.laysFinal_spec hlay
    have e1 : c' = cf := by have := hi.symm.trans hf'; simp at this; exact this.1.symm
    rw [hdecl] at hown2
    rw [← e1]; exact Option.some.inj (C.2.2.2.2.2.1.symm.trans hown2)
  have h6 := u_fits hfc hkC hkind (Or.inr hlay) hi hdt hn hfit
  refine W.putFinK C.1 C.2.1 C.2.2.2.2.2.1 (C.2.2.2.2.2.2.1 _ hlk) hi hst hcf (C.2.2.2.2.2.2.2.2.2.1.trans hin2) (by rw [q2]; exact h6) q1 q3 (by rw [hsl]; exact k2_hasslot (q4 q hq)) rfl rfl hd fun H' e1 e2 e3 => ?_
  rw [hsl] at e1 ⊢
  exact kk p e s m args below meth c H' _ ls C (I.set ⟨_, hc, t_OB.to (V := updV (vp_V fs) q v) ⟨_, e1, q2, q3, t_set q4 hap hq v⟩ (fun j _ => vp_updV_set hl v j)⟩ e3) (S.put e2 e3 ha) L
theorem z_iald {a sz : Nat} {f : Nat → Int32} {i : Int32} (j : Nat) (hx : X a = some (.inl (zar g 0, sz, .inl f))) (hi : i = nI j) (hj : j < sz) (hs : sz < 2 ^ 31) (hd : decode M.2.1 pc = .ok (.iaload, 1)) (kk : zZ g M P k n X (pc + 1) lv (.int (f j) :: st)) : zZ g M P k n X pc lv (.int i :: .ref a :: st) := by
  intro p e s m args below meth c H locs ls C I S L
  obtain ⟨h1, h2⟩ := zin hi hj hs
  refine va_iald C.1 C.2.1 C.2.2.2.2.2.2.2.1.1 (I.one hx) 0 0 rfl rfl h1 hd ?_
  rw [h2]
  exact kk p e s m args below meth c H locs ls C I S L
theorem z_bald {a sz : Nat} {f : Nat → Int32} {i : Int32} (j : Nat) (hx : X a = some (.inl (zar g 1, sz, .inl f))) (hi : i = nI j) (hj : j < sz) (hs : sz < 2 ^ 31) (hd : decode M.2.1 pc = .ok (.baload, 1)) (kk : zZ g M P k n X (pc + 1) lv (.int (f j) :: st)) : zZ g M P k n X pc lv (.int i :: .ref a :: st) := by
  intro p e s m args below meth c H locs ls C I S L
  obtain ⟨h1, h2⟩ := zin hi hj hs
  refine va_bald C.1 C.2.1 C.2.2.2.2.2.2.2.1.1 (I.one hx) 0 1 rfl rfl h1 hd ?_
  rw [h2]
  exact kk p e s m args below meth c H locs ls C I S L
theorem z_lald {a sz : Nat} {f : Nat → Int64} {i : Int32} (j : Nat) (hx : X a = some (.inl (zar g 2, sz, .inr (.inl f)))) (hi : i = nI j) (hj : j < sz) (hs : sz < 2 ^ 31) (hd : decode M.2.1 pc = .ok (.laload, 1)) (kk : zZ g M P k n X (pc + 1) lv (.long (f j) :: st)) : zZ g M P k n X pc lv (.int i :: .ref a :: st) := by
  intro p e s m args below meth c H locs ls C I S L
  obtain ⟨h1, h2⟩ := zin hi hj hs
  refine va_lald C.1 C.2.1 C.2.2.2.2.2.2.2.1.1 (I.one hx) 0 2 rfl rfl h1 hd ?_
  rw [h2]
  exact kk p e s m args below meth c H locs ls C I S L
theorem z_zald {a sz : Nat} {f : Nat → Int32} {i : Int32} (j : Nat) (hx : X a = some (.inl (zar g 3, sz, .inl f))) (hi : i = nI j) (hj : j < sz) (hs : sz < 2 ^ 31) (hd : decode M.2.1 pc = .ok (.baload, 1)) (kk : zZ g M P k n X (pc + 1) lv (.int (f j) :: st)) : zZ g M P k n X pc lv (.int i :: .ref a :: st) := by
  intro p e s m args below meth c H locs ls C I S L
  obtain ⟨h1, h2⟩ := zin hi hj hs
  refine va_zald C.1 C.2.1 C.2.2.2.2.2.2.2.1.1 (I.one hx) 0 3 rfl rfl h1 hd ?_
  rw [h2]
  exact kk p e s m args below meth c H locs ls C I S L
theorem z_aald4 {a sz : Nat} {f : Nat → Option Nat} {i : Int32} {v : Value} (j : Nat) (hx : X a = some (.inl (zar g 4, sz, .inr (.inr (.inr (.inr f)))))) (hi : i = nI j) (hj : j < sz) (hs : sz < 2 ^ 31) (hv : va_rf (f j) = v) (hd : decode M.2.1 pc = .ok (.aaload, 1)) (kk : zZ g M P k n X (pc + 1) lv (v :: st)) : zZ g M P k n X pc lv (.int i :: .ref a :: st) := by
  intro p e s m args below meth c H locs ls C I S L
  obtain ⟨h1, h2⟩ := zin hi hj hs
  refine va_aldq (C := "java/lang/Object") C.1 C.2.1 C.2.2.2.2.2.2.2.1.1 (I.one hx) 0 4 rfl rfl h1 hd ?_
  rw [h2, hv]
  exact kk p e s m args below meth c H locs ls C I S L
theorem z_aald5 {a sz : Nat} {f : Nat → Option Nat} {i : Int32} {v : Value} (j : Nat) (hx : X a = some (.inl (zar g 5, sz, .inr (.inr (.inr (.inr f)))))) (hi : i = nI j) (hj : j < sz) (hs : sz < 2 ^ 31) (hv : va_rf (f j) = v) (hd : decode M.2.1 pc = .ok (.aaload, 1)) (kk : zZ g M P k n X (pc + 1) lv (v :: st)) : zZ g M P k n X pc lv (.int i :: .ref a :: st) := by
  intro p e s m args below meth c H locs ls C I S L
  obtain ⟨h1, h2⟩ := zin hi hj hs
  refine va_aldq (C := "DateVale$State") C.1 C.2.1 C.2.2.2.2.2.2.2.1.1 (I.one hx) 0 5 rfl rfl h1 hd ?_
  rw [h2, hv]
  exact kk p e s m args below meth c H locs ls C I S L
theorem z_aald7 {a sz : Nat} {f : Nat → Option Nat} {i : Int32} {v : Value} (j : Nat) (hx : X a = some (.inl (zar g 7, sz, .inr (.inr (.inr (.inr f)))))) (hi : i = nI j) (hj : j < sz) (hs : sz < 2 ^ 31) (hv : va_rf (f j) = v) (hd : decode M.2.1 pc = .ok (.aaload, 1)) (kk : zZ g M P k n X (pc + 1) lv (v :: st)) : zZ g M P k n X pc lv (.int i :: .ref a :: st) := by
  intro p e s m args below meth c H locs ls C I S L
  obtain ⟨h1, h2⟩ := zin hi hj hs
  refine va_aldq (C := "DateVale$Mark") C.1 C.2.1 C.2.2.2.2.2.2.2.1.1 (I.one hx) 0 7 rfl rfl h1 hd ?_
  rw [h2, hv]
  exact kk p e s m args below meth c H locs ls C I S L
theorem z_aald6 {a sz : Nat} {f : Nat → Option Nat} {i : Int32} {v : Value} (j : Nat) (hx : X a = some (.inl (zar g 6, sz, .inr (.inr (.inr (.inr f)))))) (hi : i = nI j) (hj : j < sz) (hs : sz < 2 ^ 31) (hv : va_rf (f j) = v) (hd : decode M.2.1 pc = .ok (.aaload, 1)) (kk : zZ g M P k n X (pc + 1) lv (v :: st)) : zZ g M P k n X pc lv (.int i :: .ref a :: st) := by
  intro p e s m args below meth c H locs ls C I S L
  obtain ⟨h1, h2⟩ := zin hi hj hs
  have hlt : i.toNatClampNeg < sz := by rw [h2]; exact hj
  refine W.aald (v := va_rf (f i.toNatClampNeg)) (ty := .array .int) C.1 C.2.1 (I a _ hx) ((C.2.2.2.2.2.2.2.1.1.2 6 _ rfl).1 sz (fun j => va_rf (f j))) rfl (fun q => by cases q) (by show ¬ (i < 0 ∨ (arrV _ _ _).slots.size ≤ _); rw [arrV_size]; exact h1) (by show (arrV _ _ _).slots[_]? = _; rw [arrV_read _ _ hlt]) rfl rfl hd ?_
  rw [h2, hv]
  exact kk p e s m args below meth c H locs ls C I S L
theorem z_alen {a sz ti : Nat} {cA : ClassId} {x : (Nat → Int32) ⊕ (Nat → Int64) ⊕ (Nat → UInt32) ⊕ (Nat → UInt64) ⊕ (Nat → Option Nat)} {ty : FieldType} (hx : X a = some (.inl (cA, sz, x))) (ht : (ztys g)[ti]? = some (cA, ty)) (hd : decode M.2.1 pc = .ok (.arraylength, 1)) (kk : zZ g M P k n X (pc + 1) lv (.int (nI sz) :: st)) : zZ g M P k n X pc lv (.ref a :: st) := by
  intro p e s m args below meth c H locs ls C I S L
  exact va_alen C.1 C.2.1 C.2.2.2.2.2.2.2.1.1 (I.one hx) 0 ti rfl ht rfl hd (kk p e s m args below meth c H locs ls C I S L)
theorem z_iast {a sz : Nat} {f : Nat → Int32} {i : Int32} {x : Int32} {X' : zX} (j : Nat) (hx : X a = some (.inl (zar g 0, sz, .inl f))) (hi : i = nI j) (hj : j < sz) (hs : sz < 2 ^ 31) (ha : z0 g ≤ a) (hd : decode M.2.1 pc = .ok (.iastore, 1)) (hX : zup X a (.inl (zar g 0, sz, .inl (upd f j x))) = X') (kk : zZ g M P k n X' (pc + 1) lv st) : zZ g M P k n X pc lv (.int x :: .int i :: .ref a :: st) := by
  subst hX
  intro p e s m args below meth c H locs ls C I S L
  obtain ⟨h1, h2⟩ := zin hi hj hs
  subst h2
  refine W.iast C.1 C.2.1 (I a _ hx) ((C.2.2.2.2.2.2.2.1.1.2 0 _ rfl).1 sz (fun j => .int (f j))) (fun q => by cases q) (by show ¬ (i < 0 ∨ (arrV _ _ _).slots.size ≤ _); rw [arrV_size]; exact h1) rfl rfl hd fun H1 e1 z oq => ?_
  refine kk p e s m args below meth c H1 _ ls C (I.set ?_ oq) (S.put z oq ha) L
  show H1[a]? = some (vp_cell _ _)
  rw [e1]
  rw [vp_cell_i, vp_cell_i, arrV_store]
  congr 2
  funext q
  by_cases hq : q = i.toNatClampNeg
  · subst hq
    simp [updV, upd]
  · simp [updV, upd, hq]
theorem z_bast {a sz : Nat} {f : Nat → Int32} {i : Int32} {x : Int32} {X' : zX} (j : Nat) (hx : X a = some (.inl (zar g 1, sz, .inl f))) (hi : i = nI j) (hj : j < sz) (hs : sz < 2 ^ 31) (ha : z0 g ≤ a) (hd : decode M.2.1 pc = .ok (.bastore, 1)) (hX : zup X a (.inl (zar g 1, sz, .inl (upd f j (vp_nar .byte x)))) = X') (kk : zZ g M P k n X' (pc + 1) lv st) : zZ g M P k n X pc lv (.int x :: .int i :: .ref a :: st) := by
  subst hX
  intro p e s m args below meth c H locs ls C I S L
  obtain ⟨h1, h2⟩ := zin hi hj hs
  subst h2
  refine W.bast C.1 C.2.1 (I a _ hx) ((C.2.2.2.2.2.2.2.1.1.2 1 _ rfl).1 sz (fun j => .int (f j))) (fun q => by cases q) (by show ¬ (i < 0 ∨ (arrV _ _ _).slots.size ≤ _); rw [arrV_size]; exact h1) rfl rfl hd fun H1 e1 z oq => ?_
  refine kk p e s m args below meth c H1 _ ls C (I.set ?_ oq) (S.put z oq ha) L
  show H1[a]? = some (vp_cell _ _)
  rw [e1]
  rw [vp_cell_i, vp_cell_i, arrV_store]
  congr 2
  funext q
  by_cases hq : q = i.toNatClampNeg
  · subst hq
    simp [updV, upd, vp_nar]; try rfl
  · simp [updV, upd, hq]
theorem z_zast {a sz : Nat} {f : Nat → Int32} {i : Int32} {x : Int32} {X' : zX} (j : Nat) (hx : X a = some (.inl (zar g 3, sz, .inl f))) (hi : i = nI j) (hj : j < sz) (hs : sz < 2 ^ 31) (ha : z0 g ≤ a) (hd : decode M.2.1 pc = .ok (.bastore, 1)) (hX : zup X a (.inl (zar g 3, sz, .inl (upd f j (vp_nar .boolean x)))) = X') (kk : zZ g M P k n X' (pc + 1) lv st) : zZ g M P k n X pc lv (.int x :: .int i :: .ref a :: st) := by
  subst hX
  intro p e s m args below meth c H locs ls C I S L
  obtain ⟨h1, h2⟩ := zin hi hj hs
  subst h2
  refine W.zast C.1 C.2.1 (I a _ hx) ((C.2.2.2.2.2.2.2.1.1.2 3 _ rfl).1 sz (fun j => .int (f j))) (fun q => by cases q) (by show ¬ (i < 0 ∨ (arrV _ _ _).slots.size ≤ _); rw [arrV_size]; exact h1) rfl rfl hd fun H1 e1 z oq => ?_
  refine kk p e s m args below meth c H1 _ ls C (I.set ?_ oq) (S.put z oq ha) L
  show H1[a]? = some (vp_cell _ _)
  rw [e1]
  rw [vp_cell_i, vp_cell_i, arrV_store]
  congr 2
  funext q
  by_cases hq : q = i.toNatClampNeg
  · subst hq
    simp [updV, upd, vp_nar]; try rfl
  · simp [updV, upd, hq]
theorem z_last {a sz : Nat} {f : Nat → Int64} {i : Int32} {x : Int64} {X' : zX} (j : Nat) (hx : X a = some (.inl (zar g 2, sz, .inr (.inl f)))) (hi : i = nI j) (hj : j < sz) (hs : sz < 2 ^ 31) (ha : z0 g ≤ a) (hd : decode M.2.1 pc = .ok (.lastore, 1)) (hX : zup X a (.inl (zar g 2, sz, .inr (.inl (vp_updL f j x)))) = X') (kk : zZ g M P k n X' (pc + 1) lv st) : zZ g M P k n X pc lv (.long x :: .int i :: .ref a :: st) := by
  subst hX
  intro p e s m args below meth c H locs ls C I S L
  obtain ⟨h1, h2⟩ := zin hi hj hs
  subst h2
  refine W.last C.1 C.2.1 (I a _ hx) ((C.2.2.2.2.2.2.2.1.1.2 2 _ rfl).1 sz (fun j => .long (f j))) (fun q => by cases q) (by show ¬ (i < 0 ∨ (arrV _ _ _).slots.size ≤ _); rw [arrV_size]; exact h1) rfl rfl hd fun H1 e1 z oq => ?_
  refine kk p e s m args below meth c H1 _ ls C (I.set ?_ oq) (S.put z oq ha) L
  show H1[a]? = some (vp_cell _ _)
  rw [e1]
  rw [vp_cell_l, vp_cell_l, arrV_store]
  congr 2
  funext q
  by_cases hq : q = i.toNatClampNeg
  · subst hq
    simp [updV, vp_updL]
  · simp [updV, vp_updL, hq]
theorem z_aast5 {a sz v : Nat} {ci : Nat} {vs : List Value} {r : vw_C} {f : Nat → Option Nat} {i : Int32} {X' : zX} (j : Nat) (hx : X a = some (.inl (zar g 5, sz, .inr (.inr (.inr (.inr f)))))) (hvx : X v = some (.inr (ci, vs))) (hc : zcl[ci]? = some r) (hr : r.1 = "DateVale$State") (hi : i = nI j) (hj : j < sz) (hs : sz < 2 ^ 31) (ha : z0 g ≤ a) (hd : decode M.2.1 pc = .ok (.aastore, 1)) (hX : zup X a (.inl (zar g 5, sz, .inr (.inr (.inr (.inr (va_up f j (some v))))))) = X') (kk : zZ g M P k n X' (pc + 1) lv st) : zZ g M P k n X pc lv (.ref v :: .int i :: .ref a :: st) := by
  subst hX
  intro p e s m args below meth c H locs ls C I S L
  obtain ⟨h1, h2⟩ := zin hi hj hs
  subst h2
  have hlt : i.toNatClampNeg < sz := hj
  have h0 : ¬ i < 0 := fun q => h1 (Or.inl q)
  obtain ⟨r', hr', cellV, g1, g2, g3, -⟩ := I v _ hvx
  have hcls := (C.2.2.2.2.2.2.2.1.1.1 ci r hc).2
  obtain ⟨kA, comp, k1, k2, k3, -⟩ := (C.2.2.2.2.2.2.2.1.1.2 5 _ rfl).2
  have k3 : s.vm.findClass r.1 = some comp := by rw [hr]; exact k3
  have hcomp : comp = g.2.1.1 ci := Option.some.inj (k3.symm.trans hcls.1)
  subst hcomp
  obtain ⟨kC, hkC, -⟩ := hcls.2
  refine W.aast C.1 C.2.1 (I a _ hx) (fun q h => by cases h) (fun h => by cases h) k1 k2 rfl hkC ⟨h0, by show _ < (arrV _ _ _).slots.size; rw [arrV_size]; exact hlt⟩ g1 (fun q h => by rw [g3] at h; cases h) (by rw [g2]; exact hkC) (by rw [g2]; exact va_assign hcls) rfl rfl hd fun H1 e1 z oq => ?_
  refine kk p e s m args below meth c H1 _ ls C (I.set ?_ oq) (S.put z oq ha) L
  show H1[a]? = some (vp_cell _ _)
  rw [e1]
  rw [vp_cell_q, vp_cell_q, arrV_store]
  congr 2
  funext q
  by_cases hq : q = i.toNatClampNeg
  · subst hq
    simp [updV, va_up, va_rf]
  · simp [updV, va_up, hq]
theorem z_aast7 {a sz v : Nat} {ci : Nat} {vs : List Value} {r : vw_C} {f : Nat → Option Nat} {i : Int32} {X' : zX} (j : Nat) (hx : X a = some (.inl (zar g 7, sz, .inr (.inr (.inr (.inr f)))))) (hvx : X v = some (.inr (ci, vs))) (hc : zcl[ci]? = some r) (hr : r.1 = "DateVale$Mark") (hi : i = nI j) (hj : j < sz) (hs : sz < 2 ^ 31) (ha : z0 g ≤ a) (hd : decode M.2.1 pc = .ok (.aastore, 1)) (hX : zup X a (.inl (zar g 7, sz, .inr (.inr (.inr (.inr (va_up f j (some v))))))) = X') (kk : zZ g M P k n X' (pc + 1) lv st) : zZ g M P k n X pc lv (.ref v :: .int i :: .ref a :: st) := by
  subst hX
  intro p e s m args below meth c H locs ls C I S L
  obtain ⟨h1, h2⟩ := zin hi hj hs
  subst h2
  have hlt : i.toNatClampNeg < sz := hj
  have h0 : ¬ i < 0 := fun q => h1 (Or.inl q)
  obtain ⟨r', hr', cellV, g1, g2, g3, -⟩ := I v _ hvx
  have hcls := (C.2.2.2.2.2.2.2.1.1.1 ci r hc).2
  obtain ⟨kA, comp, k1, k2, k3, -⟩ := (C.2.2.2.2.2.2.2.1.1.2 7 _ rfl).2
  have k3 : s.vm.findClass r.1 = some comp := by rw [hr]; exact k3
  have hcomp : comp = g.2.1.1 ci := Option.some.inj (k3.symm.trans hcls.1)
  subst hcomp
  obtain ⟨kC, hkC, -⟩ := hcls.2
  refine W.aast C.1 C.2.1 (I a _ hx) (fun q h => by cases h) (fun h => by cases h) k1 k2 rfl hkC ⟨h0, by show _ < (arrV _ _ _).slots.size; rw [arrV_size]; exact hlt⟩ g1 (fun q h => by rw [g3] at h; cases h) (by rw [g2]; exact hkC) (by rw [g2]; exact va_assign hcls) rfl rfl hd fun H1 e1 z oq => ?_
  refine kk p e s m args below meth c H1 _ ls C (I.set ?_ oq) (S.put z oq ha) L
  show H1[a]? = some (vp_cell _ _)
  rw [e1]
  rw [vp_cell_q, vp_cell_q, arrV_store]
  congr 2
  funext q
  by_cases hq : q = i.toNatClampNeg
  · subst hq
    simp [updV, va_up, va_rf]
  · simp [updV, va_up, hq]
theorem z_aast4 {a sz v : Nat} {ci : Nat} {vs : List Value} {r : vw_C} {f : Nat → Option Nat} {i : Int32} {X' : zX} (j : Nat) (hx : X a = some (.inl (zar g 4, sz, .inr (.inr (.inr (.inr f)))))) (hvx : X v = some (.inr (ci, vs))) (hc : zcl[ci]? = some r) (hca : Cond.castable r.1 "java/lang/Object" ∈ lw_tbl) (hi : i = nI j) (hj : j < sz) (hs : sz < 2 ^ 31) (ha : z0 g ≤ a) (hd : decode M.2.1 pc = .ok (.aastore, 1)) (hX : zup X a (.inl (zar g 4, sz, .inr (.inr (.inr (.inr (va_up f j (some v))))))) = X') (kk : zZ g M P k n X' (pc + 1) lv st) : zZ g M P k n X pc lv (.ref v :: .int i :: .ref a :: st) := by
  subst hX
  intro p e s m args below meth c H locs ls C I S L
  obtain ⟨h1, h2⟩ := zin hi hj hs
  subst h2
  have hlt : i.toNatClampNeg < sz := hj
  have h0 : ¬ i < 0 := fun q => h1 (Or.inl q)
  obtain ⟨r', hr', cellV, g1, g2, g3, -⟩ := I v _ hvx
  have hcls := (C.2.2.2.2.2.2.2.1.1.1 ci r hc).2
  obtain ⟨kA, comp, k1, k2, k3, -⟩ := (C.2.2.2.2.2.2.2.1.1.2 4 _ rfl).2
  obtain ⟨kE, hkE, -⟩ := Vm.findClass_spec k3
  obtain ⟨c0, t1, f1, f2, f3⟩ := Cond.castable_spec (va_Nw.use (A := args) rfl (C.2.2.2.2.2.2.2.1.2.1 _ hca rfl))
  cases hcls.1.symm.trans f1
  cases k3.symm.trans f2
  obtain ⟨kC, hkC, -⟩ := hcls.2
  refine W.aast C.1 C.2.1 (I a _ hx) (fun q h => by cases h) (fun h => by cases h) k1 k2 rfl hkE ⟨h0, by show _ < (arrV _ _ _).slots.size; rw [arrV_size]; exact hlt⟩ g1 (fun q h => by rw [g3] at h; cases h) (by rw [g2]; exact hkC) (by rw [g2]; exact f3) rfl rfl hd fun H1 e1 z oq => ?_
  refine kk p e s m args below meth c H1 _ ls C (I.set ?_ oq) (S.put z oq ha) L
  show H1[a]? = some (vp_cell _ _)
  rw [e1]
  rw [vp_cell_q, vp_cell_q, arrV_store]
  congr 2
  funext q
  by_cases hq : q = i.toNatClampNeg
  · subst hq
    simp [updV, va_up, va_rf]
  · simp [updV, va_up, hq]
theorem z_aastN4 {a sz : Nat} {f : Nat → Option Nat} {i : Int32} {X' : zX} (j : Nat) (hx : X a = some (.inl (zar g 4, sz, .inr (.inr (.inr (.inr f)))))) (hi : i = nI j) (hj : j < sz) (hs : sz < 2 ^ 31) (ha : z0 g ≤ a) (hd : decode M.2.1 pc = .ok (.aastore, 1)) (hX : zup X a (.inl (zar g 4, sz, .inr (.inr (.inr (.inr (va_up f j none)))))) = X') (kk : zZ g M P k n X' (pc + 1) lv st) : zZ g M P k n X pc lv (.null :: .int i :: .ref a :: st) := by
  subst hX
  intro p e s m args below meth c H locs ls C I S L
  obtain ⟨h1, h2⟩ := zin hi hj hs
  subst h2
  refine va_WaastN (C := "java/lang/Object") C.1 C.2.1 (I a _ hx) ((C.2.2.2.2.2.2.2.1.1.2 4 _ rfl).1 sz (fun j => va_rf (f j))) (fun h => by cases h) (by show ¬ (i < 0 ∨ (arrV _ _ _).slots.size ≤ _); rw [arrV_size]; exact h1) rfl rfl hd fun H1 e1 z oq => ?_
  refine kk p e s m args below meth c H1 _ ls C (I.set ?_ oq) (S.put z oq ha) L
  show H1[a]? = some (vp_cell _ _)
  rw [e1]
  rw [vp_cell_q, vp_cell_q, arrV_store]
  congr 2
  funext q
  by_cases hq : q = i.toNatClampNeg
  · subst hq
    simp [updV, va_up, va_rf]
  · simp [updV, va_up, hq]
theorem z_aastN5 {a sz : Nat} {f : Nat → Option Nat} {i : Int32} {X' : zX} (j : Nat) (hx : X a = some (.inl (zar g 5, sz, .inr (.inr (.inr (.inr f)))))) (hi : i = nI j) (hj : j < sz) (hs : sz < 2 ^ 31) (ha : z0 g ≤ a) (hd : decode M.2.1 pc = .ok (.aastore, 1)) (hX : zup X a (.inl (zar g 5, sz, .inr (.inr (.inr (.inr (va_up f j none)))))) = X') (kk : zZ g M P k n X' (pc + 1) lv st) : zZ g M P k n X pc lv (.null :: .int i :: .ref a :: st) := by
  subst hX
  intro p e s m args below meth c H locs ls C I S L
  obtain ⟨h1, h2⟩ := zin hi hj hs
  subst h2
  refine va_WaastN (C := "DateVale$State") C.1 C.2.1 (I a _ hx) ((C.2.2.2.2.2.2.2.1.1.2 5 _ rfl).1 sz (fun j => va_rf (f j))) (fun h => by cases h) (by show ¬ (i < 0 ∨ (arrV _ _ _).slots.size ≤ _); rw [arrV_size]; exact h1) rfl rfl hd fun H1 e1 z oq => ?_
  refine kk p e s m args below meth c H1 _ ls C (I.set ?_ oq) (S.put z oq ha) L
  show H1[a]? = some (vp_cell _ _)
  rw [e1]
  rw [vp_cell_q, vp_cell_q, arrV_store]
  congr 2
  funext q
  by_cases hq : q = i.toNatClampNeg
  · subst hq
    simp [updV, va_up, va_rf]
  · simp [updV, va_up, hq]
theorem z_aastN7 {a sz : Nat} {f : Nat → Option Nat} {i : Int32} {X' : zX} (j : Nat) (hx : X a = some (.inl (zar g 7, sz, .inr (.inr (.inr (.inr f)))))) (hi : i = nI j) (hj : j < sz) (hs : sz < 2 ^ 31) (ha : z0 g ≤ a) (hd : decode M.2.1 pc = .ok (.aastore, 1)) (hX : zup X a (.inl (zar g 7, sz, .inr (.inr (.inr (.inr (va_up f j none)))))) = X') (kk : zZ g M P k n X' (pc + 1) lv st) : zZ g M P k n X pc lv (.null :: .int i :: .ref a :: st) := by
  subst hX
  intro p e s m args below meth c H locs ls C I S L
  obtain ⟨h1, h2⟩ := zin hi hj hs
  subst h2
  refine va_WaastN (C := "DateVale$Mark") C.1 C.2.1 (I a _ hx) ((C.2.2.2.2.2.2.2.1.1.2 7 _ rfl).1 sz (fun j => va_rf (f j))) (fun h => by cases h) (by show ¬ (i < 0 ∨ (arrV _ _ _).slots.size ≤ _); rw [arrV_size]; exact h1) rfl rfl hd fun H1 e1 z oq => ?_
  refine kk p e s m args below meth c H1 _ ls C (I.set ?_ oq) (S.put z oq ha) L
  show H1[a]? = some (vp_cell _ _)
  rw [e1]
  rw [vp_cell_q, vp_cell_q, arrV_store]
  congr 2
  funext q
  by_cases hq : q = i.toNatClampNeg
  · subst hq
    simp [updV, va_up, va_rf]
  · simp [updV, va_up, hq]
theorem zS0 {g : zG} {H0 H : Heap} {locs : List Loc} (hz : z0 g ≤ H0.size) (S : va_S (zAf g) H0 H locs) : z0 g ≤ H.size := Nat.le_trans hz S.1
theorem zSpush {g : zG} {H0 H H1 : Heap} {locs : List Loc} (S : va_S (zAf g) H0 H locs) (hz : H1.size = H.size + 1) (o1 : ∀ q : Nat, q < H.size → H1[q]? = H[q]?) : va_S (zAf g) H0 H1 locs := ⟨Nat.le_trans S.1 (by omega), fun x h1 h2 => (o1 x (Nat.lt_of_lt_of_le h1 S.1)).trans (S.2.1 x h1 h2), S.2.2⟩
theorem z_new {Cl : String} {T : u_T} {N ci index : Nat} {fs : List Value} {k' n' : Nat} (hc : zcl[ci]? = some (Cl, T, N)) (hin : ∀ w ∈ u_ws Cl T N, w ∈ lw_all) (ty : Nat → FieldType) (hty : ∀ k, k < N → parseFieldDescriptor (T k).2.2.1 = some (ty k)) (hcl : Cond.classLink M.1.cls index Cl ∈ lw_all) (hinst : Cond.instantiable Cl N ∈ lw_all) (hini : Cond.initialized Cl ∈ lw_all) (hfs : ∀ j, j < N → defaultValue (ty j) = vp_V fs j) (hd : decode M.2.1 pc = .ok (.new index, 3)) (ek : k + 1 = k') (en : n + N = n') (hk : k' ≤ P.2.2.cells) (hn : n' ≤ P.2.2.slots)
    (kk : ∀ a : Nat, X a = none → z0 g ≤ a → zZ g M P k' n' (zup X a (.inr (ci, fs))) (pc + 3) lv (.ref a :: st)) : zZ g M P k n X pc lv st := by
  subst ek
  subst en
  intro p e s m args below meth c H locs ls C I S L
  have hKn := C.2.2.2.2.2.2.2.1.1.1 ci _ hc
  refine W.newcK C.1 C.2.1 C.2.2.2.2.2.1 (C.2.2.2.2.2.2.1 _ hcl) (C.2.2.2.2.2.2.1 _ hinst) (C.2.2.2.2.2.2.1 _ hini) rfl hd hk hn hKn.2.1 rfl fun H1 kC hkC e1 z1 o1 => ?_
  exact kk H.size I.none (zS0 C.2.2.2.2.2.2.2.2.1.2.2.2.2.2.2 S) p e s m args below meth c H1 _ ls C (I.push ⟨_, hc, (u_born ty C.2.2.2.2.2.2.1 hin hKn hkC e1 hty).to hfs⟩ o1) (zSpush S z1 o1) L
theorem z_newi {i : Int32} {k' n' : Nat} (j : Nat) (hi : i = nI j) (hj : j < 65536) (hw : Cond.arrayClass .int ∈ lw_all) (hd : decode M.2.1 pc = .ok (.newarray .int, 2)) (ek : k + 1 = k') (en : n + j = n') (hk : k' ≤ P.2.2.cells) (hn : n' ≤ P.2.2.slots)
    (kk : ∀ a : Nat, X a = none → z0 g ≤ a → zZ g M P k' n' (zup X a (.inl (zar g 0, j, .inl (fun _ => 0)))) (pc + 2) lv (.ref a :: st)) : zZ g M P k n X pc lv (.int i :: st) := by
  subst ek
  subst en
  subst hi
  intro p e s m args below meth c H locs ls C I S L
  have hj2 : j < 2 ^ 31 := by omega
  refine va_newaK C.1 C.2.1 (atype := .int) (C.2.2.2.2.2.2.1 _ hw) rfl hd rfl (nI_pos hj2) (nI_clamp hj2) (by show j * _ ≤ _; unfold componentBytes newarray.typeOf; dsimp only; omega) hk hn rfl fun H1 cA e1 z1 o1 hAr hNm => ?_
  have hcA : cA = zar g 0 := Option.some.inj (hNm.symm.trans (C.2.2.2.2.2.2.2.1.1.2 0 _ rfl).2)
  subst hcA
  exact kk H.size I.none (zS0 C.2.2.2.2.2.2.2.2.1.2.2.2.2.2.2 S) p e s m args below meth c H1 _ ls C (I.push (by show H1[H.size]? = some (vp_cell _ _); rw [vp_cell_i]; exact e1) o1) (zSpush S z1 o1) L
theorem z_newb {i : Int32} {k' n' : Nat} (j : Nat) (hi : i = nI j) (hj : j < 65536) (hw : Cond.arrayClass .byte ∈ lw_all) (hd : decode M.2.1 pc = .ok (.newarray .byte, 2)) (ek : k + 1 = k') (en : n + j = n') (hk : k' ≤ P.2.2.cells) (hn : n' ≤ P.2.2.slots)
    (kk : ∀ a : Nat, X a = none → z0 g ≤ a → zZ g M P k' n' (zup X a (.inl (zar g 1, j, .inl (fun _ => 0)))) (pc + 2) lv (.ref a :: st)) : zZ g M P k n X pc lv (.int i :: st) := by
  subst ek
  subst en
  subst hi
  intro p e s m args below meth c H locs ls C I S L
  have hj2 : j < 2 ^ 31 := by omega
  refine va_newaK C.1 C.2.1 (atype := .byte) (C.2.2.2.2.2.2.1 _ hw) rfl hd rfl (nI_pos hj2) (nI_clamp hj2) (by show j * _ ≤ _; unfold componentBytes newarray.typeOf; dsimp only; omega) hk hn rfl fun H1 cA e1 z1 o1 hAr hNm => ?_
  have hcA : cA = zar g 1 := Option.some.inj (hNm.symm.trans (C.2.2.2.2.2.2.2.1.1.2 1 _ rfl).2)
  subst hcA
  exact kk H.size I.none (zS0 C.2.2.2.2.2.2.2.2.1.2.2.2.2.2.2 S) p e s m args below meth c H1 _ ls C (I.push (by show H1[H.size]? = some (vp_cell _ _); rw [vp_cell_i]; exact e1) o1) (zSpush S z1 o1) L
theorem z_newl {i : Int32} {k' n' : Nat} (j : Nat) (hi : i = nI j) (hj : j < 65536) (hw : Cond.arrayClass .long ∈ lw_all) (hd : decode M.2.1 pc = .ok (.newarray .long, 2)) (ek : k + 1 = k') (en : n + j = n') (hk : k' ≤ P.2.2.cells) (hn : n' ≤ P.2.2.slots)
    (kk : ∀ a : Nat, X a = none → z0 g ≤ a → zZ g M P k' n' (zup X a (.inl (zar g 2, j, .inr (.inl (fun _ => 0))))) (pc + 2) lv (.ref a :: st)) : zZ g M P k n X pc lv (.int i :: st) := by
  subst ek
  subst en
  subst hi
  intro p e s m args below meth c H locs ls C I S L
  have hj2 : j < 2 ^ 31 := by omega
  refine va_newaK C.1 C.2.1 (atype := .long) (C.2.2.2.2.2.2.1 _ hw) rfl hd rfl (nI_pos hj2) (nI_clamp hj2) (by show j * _ ≤ _; unfold componentBytes newarray.typeOf; dsimp only; omega) hk hn rfl fun H1 cA e1 z1 o1 hAr hNm => ?_
  have hcA : cA = zar g 2 := Option.some.inj (hNm.symm.trans (C.2.2.2.2.2.2.2.1.1.2 2 _ rfl).2)
  subst hcA
  exact kk H.size I.none (zS0 C.2.2.2.2.2.2.2.2.1.2.2.2.2.2.2 S) p e s m args below meth c H1 _ ls C (I.push (by show H1[H.size]? = some (vp_cell _ _); rw [vp_cell_l]; exact e1) o1) (zSpush S z1 o1) L
theorem z_newz {i : Int32} {k' n' : Nat} (j : Nat) (hi : i = nI j) (hj : j < 65536) (hw : Cond.arrayClass .boolean ∈ lw_all) (hd : decode M.2.1 pc = .ok (.newarray .boolean, 2)) (ek : k + 1 = k') (en : n + j = n') (hk : k' ≤ P.2.2.cells) (hn : n' ≤ P.2.2.slots)
    (kk : ∀ a : Nat, X a = none → z0 g ≤ a → zZ g M P k' n' (zup X a (.inl (zar g 3, j, .inl (fun _ => 0)))) (pc + 2) lv (.ref a :: st)) : zZ g M P k n X pc lv (.int i :: st) := by
  subst ek
  subst en
  subst hi
  intro p e s m args below meth c H locs ls C I S L
  have hj2 : j < 2 ^ 31 := by omega
  refine va_newaK C.1 C.2.1 (atype := .boolean) (C.2.2.2.2.2.2.1 _ hw) rfl hd rfl (nI_pos hj2) (nI_clamp hj2) (by show j * _ ≤ _; unfold componentBytes newarray.typeOf; dsimp only; omega) hk hn rfl fun H1 cA e1 z1 o1 hAr hNm => ?_
  have hcA : cA = zar g 3 := Option.some.inj (hNm.symm.trans (C.2.2.2.2.2.2.2.1.1.2 3 _ rfl).2)
  subst hcA
  exact kk H.size I.none (zS0 C.2.2.2.2.2.2.2.2.1.2.2.2.2.2.2 S) p e s m args below meth c H1 _ ls C (I.push (by show H1[H.size]? = some (vp_cell _ _); rw [vp_cell_i]; exact e1) o1) (zSpush S z1 o1) L
theorem z_anew4 {i : Int32} {index k' n' : Nat} (j : Nat) (hi : i = nI j) (hj : j < 65536) (hcl : Cond.classLink M.1.cls index "java/lang/Object" ∈ lw_all) (hd : decode M.2.1 pc = .ok (.anewarray index, 3)) (ek : k + 1 = k') (en : n + j = n') (hk : k' ≤ P.2.2.cells) (hn : n' ≤ P.2.2.slots)
    (kk : ∀ a : Nat, X a = none → z0 g ≤ a → zZ g M P k' n' (zup X a (.inl (zar g 4, j, .inr (.inr (.inr (.inr (fun _ => none))))))) (pc + 3) lv (.ref a :: st)) : zZ g M P k n X pc lv (.int i :: st) := by
  subst ek
  subst en
  subst hi
  intro p e s m args below meth c H locs ls C I S L
  have hj2 : j < 2 ^ 31 := by omega
  have hN : (nI j).toNatClampNeg = j := nI_clamp hj2
  refine W.anew C.1 C.2.1 C.2.2.2.2.2.1 (C.2.2.2.2.2.2.1 _ hcl) (va_AO.use C.2.2.2.2.2.2.2.1.2.2.1) rfl hd rfl (nI_pos hj2) (by rw [hN]; omega) hk (by rw [hN]; exact hn) fun cA kA comp f1 f2 f3 f4 => ?_
  rw [hN]
  generalize hH1 : H.push ({ cls := cA, slots := Array.replicate j .null, vm := .none } : Cell) = H1
  have z1 : H1.size = H.size + 1 := by rw [← hH1, Array.size_push]
  have e1 : H1[H.size]? = some (arrV cA j (fun _ => .null)) := by rw [← hH1, Array.getElem?_push_size, ← arrV_new]
  have o1 : ∀ q : Nat, q < H.size → H1[q]? = H[q]? := fun q hq => by rw [← hH1, Array.getElem?_push, if_neg (Nat.ne_of_lt hq)]
  obtain ⟨kA9, comp9, k1, k2, k3, k4⟩ := (C.2.2.2.2.2.2.2.1.1.2 4 _ rfl).2
  have hcA : cA = zar g 4 := Option.some.inj (f1.symm.trans k4)
  subst hcA
  exact kk H.size I.none (zS0 C.2.2.2.2.2.2.2.2.1.2.2.2.2.2.2 S) p e s m args below meth c H1 _ ls C (I.push (by show H1[H.size]? = some (vp_cell _ _); rw [vp_cell_q]; exact e1) o1) (zSpush S z1 o1) L
theorem z_anew5 {i : Int32} {index k' n' : Nat} (j : Nat) (hi : i = nI j) (hj : j < 65536) (hcl : Cond.classLink M.1.cls index "DateVale$State" ∈ lw_all) (hd : decode M.2.1 pc = .ok (.anewarray index, 3)) (ek : k + 1 = k') (en : n + j = n') (hk : k' ≤ P.2.2.cells) (hn : n' ≤ P.2.2.slots)
    (kk : ∀ a : Nat, X a = none → z0 g ≤ a → zZ g M P k' n' (zup X a (.inl (zar g 5, j, .inr (.inr (.inr (.inr (fun _ => none))))))) (pc + 3) lv (.ref a :: st)) : zZ g M P k n X pc lv (.int i :: st) := by
  subst ek
  subst en
  subst hi
  intro p e s m args below meth c H locs ls C I S L
  have hj2 : j < 2 ^ 31 := by omega
  have hN : (nI j).toNatClampNeg = j := nI_clamp hj2
  refine W.anew C.1 C.2.1 C.2.2.2.2.2.1 (C.2.2.2.2.2.2.1 _ hcl) (va_AO.use C.2.2.2.2.2.2.2.1.2.2.2.1) rfl hd rfl (nI_pos hj2) (by rw [hN]; omega) hk (by rw [hN]; exact hn) fun cA kA comp f1 f2 f3 f4 => ?_
  rw [hN]
  generalize hH1 : H.push ({ cls := cA, slots := Array.replicate j .null, vm := .none } : Cell) = H1
  have z1 : H1.size = H.size + 1 := by rw [← hH1, Array.size_push]
  have e1 : H1[H.size]? = some (arrV cA j (fun _ => .null)) := by rw [← hH1, Array.getElem?_push_size, ← arrV_new]
  have o1 : ∀ q : Nat, q < H.size → H1[q]? = H[q]? := fun q hq => by rw [← hH1, Array.getElem?_push, if_neg (Nat.ne_of_lt hq)]
  obtain ⟨kA9, comp9, k1, k2, k3, k4⟩ := (C.2.2.2.2.2.2.2.1.1.2 5 _ rfl).2
  have hcA : cA = zar g 5 := Option.some.inj (f1.symm.trans k4)
  subst hcA
  exact kk H.size I.none (zS0 C.2.2.2.2.2.2.2.2.1.2.2.2.2.2.2 S) p e s m args below meth c H1 _ ls C (I.push (by show H1[H.size]? = some (vp_cell _ _); rw [vp_cell_q]; exact e1) o1) (zSpush S z1 o1) L
theorem z_anew7 {i : Int32} {index k' n' : Nat} (j : Nat) (hi : i = nI j) (hj : j < 65536) (hcl : Cond.classLink M.1.cls index "DateVale$Mark" ∈ lw_all) (hd : decode M.2.1 pc = .ok (.anewarray index, 3)) (ek : k + 1 = k') (en : n + j = n') (hk : k' ≤ P.2.2.cells) (hn : n' ≤ P.2.2.slots)
    (kk : ∀ a : Nat, X a = none → z0 g ≤ a → zZ g M P k' n' (zup X a (.inl (zar g 7, j, .inr (.inr (.inr (.inr (fun _ => none))))))) (pc + 3) lv (.ref a :: st)) : zZ g M P k n X pc lv (.int i :: st) := by
  subst ek
  subst en
  subst hi
  intro p e s m args below meth c H locs ls C I S L
  have hj2 : j < 2 ^ 31 := by omega
  have hN : (nI j).toNatClampNeg = j := nI_clamp hj2
  refine W.anew C.1 C.2.1 C.2.2.2.2.2.1 (C.2.2.2.2.2.2.1 _ hcl) (va_AO.use C.2.2.2.2.2.2.2.1.2.2.2.2.1) rfl hd rfl (nI_pos hj2) (by rw [hN]; omega) hk (by rw [hN]; exact hn) fun cA kA comp f1 f2 f3 f4 => ?_
  rw [hN]
  generalize hH1 : H.push ({ cls := cA, slots := Array.replicate j .null, vm := .none } : Cell) = H1
  have z1 : H1.size = H.size + 1 := by rw [← hH1, Array.size_push]
  have e1 : H1[H.size]? = some (arrV cA j (fun _ => .null)) := by rw [← hH1, Array.getElem?_push_size, ← arrV_new]
  have o1 : ∀ q : Nat, q < H.size → H1[q]? = H[q]? := fun q hq => by rw [← hH1, Array.getElem?_push, if_neg (Nat.ne_of_lt hq)]
  obtain ⟨kA9, comp9, k1, k2, k3, k4⟩ := (C.2.2.2.2.2.2.2.1.1.2 7 _ rfl).2
  have hcA : cA = zar g 7 := Option.some.inj (f1.symm.trans k4)
  subst hcA
  exact kk H.size I.none (zS0 C.2.2.2.2.2.2.2.2.1.2.2.2.2.2.2 S) p e s m args below meth c H1 _ ls C (I.push (by show H1[H.size]? = some (vp_cell _ _); rw [vp_cell_q]; exact e1) o1) (zSpush S z1 o1) L
theorem z_gsE {index : Nat} (hlk : Cond.fieldLink M.1.cls index "java/util/ArrayList" "EMPTY_ELEMENTDATA" "[Ljava/lang/Object;" ∈ lw_all) (hd : decode M.2.1 pc = .ok (.getstatic index, 3)) (kk : zZ g M P k n X (pc + 3) lv (.ref (zk g 0) :: st)) : zZ g M P k n X pc lv st := by
  intro p e s m args below meth c H locs ls C I S L
  exact va_gets C.1 C.2.1 C.2.2.2.2.2.2.2.2.1.1 S C.2.2.2.2.2.1 (C.2.2.2.2.2.2.1 _ hlk) (fun x h => h) hd (kk p e s m args below meth c H locs ls C I S L)
theorem z_gsD {index : Nat} (hlk : Cond.fieldLink M.1.cls index "java/util/ArrayList" "DEFAULTCAPACITY_EMPTY_ELEMENTDATA" "[Ljava/lang/Object;" ∈ lw_all) (hd : decode M.2.1 pc = .ok (.getstatic index, 3)) (kk : zZ g M P k n X (pc + 3) lv (.ref (zk g 1) :: st)) : zZ g M P k n X pc lv st := by
  intro p e s m args below meth c H locs ls C I S L
  exact va_gets C.1 C.2.1 C.2.2.2.2.2.2.2.2.1.2.1 S C.2.2.2.2.2.1 (C.2.2.2.2.2.2.1 _ hlk) (fun x h => h) hd (kk p e s m args below meth c H locs ls C I S L)
theorem z_gsC {index : Nat} (hlk : Cond.fieldLink M.1.cls index "java/lang/String" "COMPACT_STRINGS" "Z" ∈ lw_all) (hd : decode M.2.1 pc = .ok (.getstatic index, 3)) (kk : zZ g M P k n X (pc + 3) lv (.int 1 :: st)) : zZ g M P k n X pc lv st := by
  intro p e s m args below meth c H locs ls C I S L
  exact va_gets C.1 C.2.1 C.2.2.2.2.2.2.2.2.1.2.2.1 S C.2.2.2.2.2.1 (C.2.2.2.2.2.2.1 _ hlk) (fun x h => h) hd (kk p e s m args below meth c H locs ls C I S L)
theorem z_gsF {index : Nat} (hlk : Cond.fieldLink M.1.cls index "jdk/internal/util/Preconditions" "SIOOBE_FORMATTER" "Ljava/util/function/BiFunction;" ∈ lw_all) (hd : decode M.2.1 pc = .ok (.getstatic index, 3)) (kk : ∀ v : Value, (v = .null ∨ ∃ t : Nat, v = .ref t) → zZ g M P k n X (pc + 3) lv (v :: st)) : zZ g M P k n X pc lv st := by
  intro p e s m args below meth c H locs ls C I S L
  rcases C.2.2.2.2.2.2.2.2.1.2.2.2.1 with hz | ⟨t, hz⟩
  · exact va_gets C.1 C.2.1 hz S C.2.2.2.2.2.1 (C.2.2.2.2.2.2.1 _ hlk) (fun x h => h) hd (kk _ (Or.inl rfl) p e s m args below meth c H locs ls C I S L)
  · exact va_gets C.1 C.2.1 hz S C.2.2.2.2.2.1 (C.2.2.2.2.2.2.1 _ hlk) (fun x h => h) hd (kk _ (Or.inr ⟨t, rfl⟩) p e s m args below meth c H locs ls C I S L)
theorem z_ldcS {index : Nat} {tx : String} (i : Nat) (hi : zstr[i]? = some (M.1.cls, index, tx)) (hd : decode M.2.1 pc = .ok (.ldc index, 2)) (kk : zZ g M P k n X (pc + 2) lv (.ref (zk g (10 + i)) :: st)) : zZ g M P k n X pc lv st := by
  intro p e s m args below meth c H locs ls C I S L
  exact va_ldcS C.1 C.2.1 C.2.2.2.2.2.1 (C.2.2.2.2.2.2.2.1.2.2.2.2.2.2.2 i _ hi) hd (kk p e s m args below meth c H locs ls C I S L)
theorem z_ldcM {index : Nat} (hlk : Cond.classLink M.1.cls index "[Ljava/lang/Object;" ∈ lw_all) (hd : decode M.2.1 pc = .ok (.ldc index, 2)) (kk : zZ g M P k n X (pc + 2) lv (.ref (zk g 2) :: st)) : zZ g M P k n X pc lv st := by
  intro p e s m args below meth c H locs ls C I S L
  exact va_ldcM C.1 C.2.1 C.2.2.2.2.2.1 (C.2.2.2.2.2.2.1 _ hlk) C.2.2.2.2.2.2.2.1.2.2.2.2.2.2.1 hd (kk p e s m args below meth c H locs ls C I S L)
theorem zrecv {g : zG} {X : zX} {s : State} {H : Heap} {a ci : Nat} {fs : List Value} {r : vw_C} (K : zK g s) (I : zI g X H) (hx : X a = some (.inr (ci, fs))) (hc : zcl[ci]? = some r) : ∃ cell : Cell, H[a]? = some cell ∧ cell.vm.isStatics = false ∧ s.vm.findClass r.1 = some cell.cls := va_recv (q0 := 0) K.1 (I.one hx) hc rfl
theorem z_castY {index a ci : Nat} {fs : List Value} {r : vw_C} {nm : String} (hx : X a = some (.inr (ci, fs))) (hc : zcl[ci]? = some r) (hlk : Cond.classLink M.1.cls index nm ∈ lw_all) (hca : Cond.castable r.1 nm ∈ lw_tbl) (hd : decode M.2.1 pc = .ok (.checkcast index, 3)) (kk : zZ g M P k n X (pc + 3) lv (.ref a :: st)) : zZ g M P k n X pc lv (.ref a :: st) := by
  intro p e s m args below meth c H locs ls C I S L
  exact va_castY C.1 C.2.1 C.2.2.2.2.2.1 (C.2.2.2.2.2.2.1 _ hlk) (C.2.2.2.2.2.2.2.1.2.1 _ hca rfl) (zrecv C.2.2.2.2.2.2.2.1 I hx hc) hd (kk p e s m args below meth c H locs ls C I S L)
theorem z_instY {index a ci : Nat} {fs : List Value} {r : vw_C} {nm : String} (hx : X a = some (.inr (ci, fs))) (hc : zcl[ci]? = some r) (hlk : Cond.classLink M.1.cls index nm ∈ lw_all) (hca : Cond.castable r.1 nm ∈ lw_tbl) (hd : decode M.2.1 pc = .ok (.instanceof index, 3)) (kk : zZ g M P k n X (pc + 3) lv (.int 1 :: st)) : zZ g M P k n X pc lv (.ref a :: st) := by
  intro p e s m args below meth c H locs ls C I S L
  exact va_instY C.1 C.2.1 C.2.2.2.2.2.1 (C.2.2.2.2.2.2.1 _ hlk) (C.2.2.2.2.2.2.2.1.2.1 _ hca rfl) (zrecv C.2.2.2.2.2.2.2.1 I hx hc) hd (kk p e s m args below meth c H locs ls C I S L)
theorem z_objInit {index a : Nat} (hlk : Cond.methodLink M.1.cls index Lib.objectInit ∈ lw_all) (hin : Cond.instanceMethod Lib.objectInit ∈ lw_all) (hco : Cond.code Lib.objectInit ⟨#[0xb1]⟩ 1 none ∈ lw_all) (hd : decode M.2.1 pc = .ok (.invokespecial index, 3)) (hf : 1 ≤ P.2.2.frames) (hW : (st.map fun v => v.category).sum + 12 ≤ P.2.2.locals) (kk : zZ g M P k n X (pc + 3) lv st) : zZ g M P k n X pc lv (.ref a :: st) := by
  intro p e s m args below meth c H locs ls C I S L
  refine W.objInit C.1 C.2.1 C.2.2.2.2.2.1 (C.2.2.2.2.2.2.1 _ hlk) (C.2.2.2.2.2.2.1 _ hin) (C.2.2.2.2.2.2.1 _ hco) rfl (by rw [C.2.2.2.2.1]; exact L.1) rfl hd hf (by show 2 * 0 + _ + 12 ≤ _; omega) ?_
  exact W.eq rfl (kk p e s m args below meth c H locs ls C I S L)
end ZH
