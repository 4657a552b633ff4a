/-! THE BASE: a judgement zZ over a world given as a map from addresses to things; rows lifted from the kit's -/
set_option maxRecDepth 100000
abbrev zX : Type := Nat → Option va_E
abbrev zG : Type := Launch × va_G × (Nat → ClassId) × Nat × (Nat → Nat)
abbrev zMth : Type := MethodName × ByteArray × Nat × Option FieldType × List (Nat × Nat × Nat × Nat)
abbrev zPo : Type := (Option Value → zX → Prop) × (Nat → String → zX → Prop) × Room
def zno : Nat → String → zX → Prop := fun _ _ _ => False
/-- a class without fields -/
def zT0 : u_T := fun _ => ("-", "-", "I", false)
def zcl : List vw_C := [(RX1, TX1, 21), (RX1, TX1, 21), (RX2, TX2, 8), (RX3, TX3, 4), (RX4, TX4, 9), (RX5, TX5, 32), (RX6, TX6, 7), (RX7, TX7, 3), (RX8, TX8, 5), (RX9, TX9, 5), (RX10, TX10, 5), (RX11, TX11, 5), (RX1, TX1, 21), (RX13, TX13, 1), (RX14, TX14, 1), (RX15, TX15, 1), (RX16, TX16, 3), (RX1, TX1, 21), (RX18, zT0, 0), (RX19, TX19, 1), (RX20, TX20, 2), (RX21, TX21, 1), (RX22, TX22, 4), (RJ2, TJ2, 3), (RJ5, TJ5, 4), (RJ14, TJ14, 4)]
def zar (g : zG) (i : Nat) : ClassId := g.2.2.1 i
def ztys (g : zG) : List (ClassId × FieldType) := [(zar g 0, .int), (zar g 1, .byte), (zar g 2, .long), (zar g 3, .boolean), (zar g 4, .object "java/lang/Object"), (zar g 5, .object "DateVale$State"), (zar g 6, .array .int), (zar g 7, .object "DateVale$Mark")]
def z0 (g : zG) : Nat := g.2.2.2.1
def zAf (g : zG) : Nat → Prop := fun q => z0 g ≤ q
/-- the constants' addresses: 0, 1 the two empty arrays of ArrayList, 2 the mirror of Object[], 10 + i the texts -/
def zk (g : zG) (i : Nat) : Nat := g.2.2.2.2 i
/-- words that don't ride in the lists -/
def zsp : Cond → Bool
  | .castable _ _ => true
  | .declares _ => true
  | .fieldLinkNest _ _ _ _ _ _ => true
  | .methodLinkNest _ _ _ _ => true
  | .privateMethod _ => true
  | _ => false
/-- the texts: class, place in its pool, text -/
def zstr : List (String × Nat × String) := [("DateVale$Reader", 48, "()<=+-*;"), ("DateVale$Reader", 124, "house lends day clash stays fades "), ("DateVale$Reader", 83, "house beds lends day of on says clash stays fades date move send build plain big early leap not and or "), ("DateVale$Reader", 157, "beds "), ("DateVale$Reader", 195, "plain big early leap "), ("DateVale$Reader", 210, "of "), ("DateVale$Reader", 215, "on "), ("DateVale$Reader", 220, "says "), ("DateVale$Reader", 263, "loud full month times "), ("DateVale$Reader", 265, "not "), ("DateVale$Reader", 247, "and or "), ("DateVale$Reader", 226, "date move send build ")]
/-- what holds of the tables at a method's start, and at its callees' -/
def zK (g : zG) (s : State) : Prop := va_K g.2.1 zcl (ztys g) s ∧ (∀ w ∈ lw_tbl, zsp w = true → va_Nw w s) ∧ va_AO "java/lang/Object" s ∧ va_AO "DateVale$State" s ∧ va_AO "DateVale$Mark" s ∧ (Cond.arrayOver (.array .int)).before #[] s = true ∧ va_Mi "[Ljava/lang/Object;" (zk g 2) s ∧ (∀ (i : Nat) (q : String × Nat × String), zstr[i]? = some q → vk_R q.1 q.2.1 q.2.2 (zk g (10 + i)) s)
/-- what the statics hold -/
def zS (g : zG) (s : State) (H : Heap) : Prop := va_Z "java/util/ArrayList" "EMPTY_ELEMENTDATA" "[Ljava/lang/Object;" (.ref (zk g 0)) (zAf g) s H ∧ va_Z "java/util/ArrayList" "DEFAULTCAPACITY_EMPTY_ELEMENTDATA" "[Ljava/lang/Object;" (.ref (zk g 1)) (zAf g) s H ∧ va_Z "java/lang/String" "COMPACT_STRINGS" "Z" (.int 1) (zAf g) s H ∧ va_Zq "jdk/internal/util/Preconditions" "SIOOBE_FORMATTER" "Ljava/util/function/BiFunction;" (zAf g) s H ∧ vx_Zq Bundle.tN "UNASSIGNED_STACK" Bundle.steD (zAf g) s H ∧ vx_Zq Bundle.tN "SUPPRESSED_SENTINEL" Bundle.listD (zAf g) s H ∧ z0 g ≤ H.size
/-- the heap holds the world -/
def zI (g : zG) (X : zX) (H : Heap) : Prop := ∀ (a : Nat) (e : va_E), X a = some e → va_at g.2.1 zcl (a, e) H
def zup (X : zX) (a : Nat) (e : va_E) : zX := fun q => if q = a then some e else X q
theorem zup_s {X : zX} {a : Nat} {e : va_E} : zup X a e a = some e := if_pos rfl
theorem zup_n {X : zX} {a b : Nat} {e : va_E} (h : b ≠ a) : zup X a e b = X b := if_neg h
theorem zup_k {X : zX} {a b : Nat} {e f : va_E} (h : b ≠ a) (hx : X b = some f) : zup X a e b = some f := (zup_n h).trans hx
/-- a method's own: machine, code, tables -/
def zC (g : zG) (M : zMth) (p : Program) (s : State) (m : MethodId) (args : Array Value) (meth : Method) (c : Code) : Prop :=
  p.tables.exec = Jvm.exec ∧ c.code = M.2.1 ∧ meth.sig.returnType = M.2.2.2.1 ∧ meth.locks = false ∧ c.maxLocals = M.2.2.1 ∧ s.vm.findClass M.1.cls = some m.cls ∧ (∀ w ∈ lw_all, w.before args s = true) ∧ zK g s ∧ zS g s s.heap ∧ meth.name = M.1.name ∧ c.exceptionTable.toList.map (fun h => (h.startPc, h.endPc, h.handlerPc, h.catchType)) = M.2.2.2.2
/-- what is known when q is thrown -/
def zXC (g : zG) (px : Nat → String → zX → Prop) : Addr → String → State → State → Prop := fun q E st t => ∃ X : zX, px q E X ∧ zI g X t.heap ∧ va_F (zAf g) st t
def zPos (g : zG) (pv : Option Value → zX → Prop) : Array Value → State → Outcome → State → Prop := fun _ st oc t => (∃ (v : Option Value) (X : zX), oc = .returned v ∧ pv v X ∧ zI g X t.heap) ∧ va_F (zAf g) st t
/-- how a method ends -/
def zMQ (g : zG) (P : zPo) (below : List Frame) (args : Array Value) (s : State) : State → Prop := yx_MQ below (zPos g P.1) (zXC g P.2.1) args s P.2.2.cells P.2.2.slots (zAf g)
/-- THE JUDGEMENT: from the frame at pc, with these locals, this stack, in this world, with k cells of n slots made, the method comes to its end -/
def zZ (g : zG) (M : zMth) (P : zPo) (k n : Nat) (X : zX) (pc : Nat) (lv : List (Nat × Value)) (st : List Value) : Prop :=
  ∀ (p : Program) (e : Env) (s : State) (m : MethodId) (args : Array Value) (below : List Frame) (meth : Method) (c : Code) (H : Heap) (locs : List Loc) (ls : Array Slot), zC g M p s m args meth c → zI g X H → va_S (zAf g) s.heap H locs → lv_has ls M.2.2.1 lv →
    W p g.1 e P.2.2 s m args below meth c H locs k n (zMQ g P below args s) (F0 m pc ls st)
/-! contracts -/
def zPre (g : zG) (As : List Value) (X : zX) : Array Value → State → Prop := fun v U => v = As.toArray ∧ zK g U ∧ zS g U U.heap ∧ zI g X U.heap
/-- a method that returns -/
def zN (g : zG) (M : zMth) (R : Room) (As : List Value) (X : zX) (pv : Option Value → zX → Prop) : Prop :=
  Met g.1 M.1 (ws_ M.1 M.2.1 M.2.2.1 M.2.2.2.1) R (zPre g As X) (zPos g pv) R.cells R.slots (zAf g)
/-- a method that returns or throws -/
def zV (g : zG) (M : zMth) (R : Room) (As : List Value) (X : zX) (pv : Option Value → zX → Prop) (px : Nat → String → zX → Prop) : Prop :=
  yx_Met g.1 M.1 (ws_ M.1 M.2.1 M.2.2.1 M.2.2.2.1) R (zPre g As X) (zPos g pv) (zXC g px) R.cells R.slots (zAf g)
/-- a method with handlers, that returns -/
def zNH (g : zG) (M : zMth) (R : Room) (As : List Value) (X : zX) (pv : Option Value → zX → Prop) : Prop :=
  Met g.1 M.1 (wsW_ M.1 M.2.1 M.2.2.1 M.2.2.2.1 M.2.2.2.2) R (zPre g As X) (zPos g pv) R.cells R.slots (zAf g)
/-! moving -/
theorem zAO_moved {ty : FieldType} {u U : State} (hvm : u.vm.Alike U.vm) (h : (Cond.arrayOver (.array ty)).before #[] u = true) : (Cond.arrayOver (.array ty)).before #[] U = true := by
  have h' : (Cond.arrayOver (.array ty)).holds #[] u none u [] = true := h
  show (Cond.arrayOver (.array ty)).holds #[] U none U [] = true
  simp only [Cond.holds, Cond.value, beq_iff_eq] at h' ⊢
  rw [hvm.findClass]
  cases hc : u.vm.findClass (FieldType.array ty).toString with
  | none => simp [hc] at h'
  | some comp =>
    simp only [hc, Option.bind_some, Option.bind_eq_some_iff, Option.map_eq_some_iff] at h' ⊢
    obtain ⟨c, hi, k, hk, hb⟩ := h'
    refine ⟨c, (hvm.findIdx?_eqK _ (fun _ => rfl)).trans hi, ?_⟩
    obtain ⟨k', hk', he⟩ := hvm.2.2 _ _ hk
    refine ⟨k', hk', ?_⟩
    rw [he, hvm.findClass]
    exact hb
theorem zK.warm {g : zG} {s U : State} (hW : s.WarmedH U.vm) (h : zK g s) : zK g U := by
  obtain ⟨h1, h2, h3, h4, h5, h6, h7, h8⟩ := h
  refine ⟨va_K.moved hW.alike h1, fun w hw hz => ?_, va_AO.moved hW.alike h3, va_AO.moved hW.alike h4, va_AO.moved hW.alike h5, zAO_moved hW.alike h6, va_Mi.moved hW.alike h7, fun i q hq => vk_R.warm hW (h8 i q hq)⟩
  cases w with
  | castable C T => exact va_Nw.warmC hW (h2 _ hw hz)
  | declares x => exact va_Nw.warmD hW (h2 _ hw hz)
  | fieldLinkNest a i b n d h => exact va_Nw.warmF hW (h2 _ hw hz)
  | methodLinkNest a i x h => exact va_Nw.warmM hW (h2 _ hw hz)
  | privateMethod y => exact Cond.privateMethod_warm hW (h2 _ hw hz)
  | _ => cases hz
theorem zAlike_refl {u U : State} (hv : U.vm = u.vm) : u.vm.Alike U.vm := by rw [hv]; exact Vm.Alike.refl _
theorem zK.same {g : zG} {u U : State} (hv : U.vm = u.vm) (h : zK g u) : zK g U := by
  obtain ⟨h1, h2, h3, h4, h5, h6, h7, h8⟩ := h
  have ha := zAlike_refl hv
  refine ⟨va_K.moved ha h1, fun w hw hz => ?_, va_AO.moved ha h3, va_AO.moved ha h4, va_AO.moved ha h5, zAO_moved ha h6, va_Mi.moved ha h7, fun i q hq => vk_R.same hv (h8 i q hq)⟩
  refine va_Nw.same ?_ hv.symm (h2 _ hw hz)
  cases w <;> first | rfl | cases hz
theorem zS.moved {g : zG} {u U : State} {H H1 : Heap} (ha : u.vm.Alike U.vm) (hz : H.size ≤ H1.size) (hq : ∀ a : Nat, a < H.size → ¬ zAf g a → H1[a]? = H[a]?) (h : zS g u H) : zS g U H1 := by
  obtain ⟨h1, h2, h3, h4, h5, h6, h7⟩ := h
  exact ⟨(h1.kept hq).moved ha, (h2.kept hq).moved ha, (h3.kept hq).moved ha, (h4.kept hq).moved ha, (h5.kept hq).moved ha, (h6.kept hq).moved ha, Nat.le_trans h7 hz⟩
theorem zPre.blind {g : zG} {As : List Value} {X : zX} : FrameBlind (zPre g As X) := fun a U g' mk h => ⟨h.1, zK.same (u := U) rfl h.2.1, zS.moved (u := U) (zAlike_refl rfl) (Nat.le_refl _) (fun _ _ _ => rfl) h.2.2.1, h.2.2.2⟩
theorem zW.mono {p : Program} {l : Launch} {e : Env} {R : Room} {s : State} {m : MethodId} {args : Array Value} {below : List Frame} {meth : Method} {c : Code} {H : Heap} {locs : List Loc} {cells slots : Nat} {Q Q' : State → Prop} {g : JFrame} (h : ∀ t, Q t → Q' t) (k : W p l e R s m args below meth c H locs cells slots Q g) : W p l e R s m args below meth c H locs cells slots Q' g := by
  intro T hT X
  obtain ⟨t, a, b⟩ := k T hT X
  exact ⟨t, a, h t b⟩
section ZOF
variable {g : zG} {M : zMth} {P : zPo} {R : Room} {As : List Value} {X : zX} {pv : Option Value → zX → Prop} {px : Nat → String → zX → Prop}
theorem zBody {p : Program} {e : Env} {s : State} {m : MethodId} {args : Array Value} {below : List Frame} {meth : Method} {c : Code} {s₁ : State} {ws : List Cond} {rm : Room} (h : zZ g M P 0 0 X 0 (lv_args 0 As) []) (hn : (lg_sl As).length ≤ M.2.2.1) (B : BodyLoose p g.1 M.1 (headSpec ws rm) M.2.1 M.2.2.1 M.2.2.2.1 e s m args below meth c s₁) (hws : ∀ w ∈ lw_all, w ∈ ws) (hml : c.maxLocals = M.2.2.1) (htb : c.exceptionTable.toList.map (fun h => (h.startPc, h.endPc, h.handlerPc, h.catchType)) = M.2.2.2.2) (hv : zPre g As X args s) :
    W p g.1 e P.2.2 s m args below meth c s.heap [] 0 0 (zMQ g P below args s) (entryFrame m args M.2.2.1) := by
  obtain ⟨rfl, hK, hSt, hI⟩ := hv
  have hts := atoms_spec (ws := ws) B.pre
  have hts : ∀ w ∈ lw_all, w.before _ s = true := fun w h => hts w (hws w h)
  have hl := lv_entry As (n := M.2.2.1) hn
  rw [lg_entry_eq]
  exact h p e s m _ below meth c s.heap [] _ ⟨B.exec, B.bytes, B.returns, B.notSynchronized, hml, findClass_of_methodNamed B.named, hts, hK, hSt, (name_of_methodNamed B.named B.method).1, htb⟩ hI va_S.rf hl
theorem zV.of (hy : plainName M.1.cls = true) (hn : (lg_sl As).length ≤ M.2.2.1) (htb : M.2.2.2.2 = []) (h : zZ g M (pv, px, R) 0 0 X 0 (lv_args 0 As) []) : zV g M R As X pv px := by
  refine yx_ofW (cc := M.2.1) (maxL := M.2.2.1) (ret := M.2.2.2.1) hy rfl ?_
  intro p e s m args below meth c s₁ B hml ht hv
  refine zBody h hn B (fun w h => List.mem_cons_of_mem _ h) hml ?_ hv
  rw [htb]
  cases hc : c.exceptionTable.toList with
  | nil => rfl
  | cons a l => exact absurd (ht a (by rw [hc]; exact List.mem_cons_self)) id
theorem zN.of (hy : plainName M.1.cls = true) (hn : (lg_sl As).length ≤ M.2.2.1) (htb : M.2.2.2.2 = []) (h : zZ g M (pv, zno, R) 0 0 X 0 (lv_args 0 As) []) : zN g M R As X pv := by
  intro p e ha hc hk s m args below hf happ hP hK
  obtain ⟨n, o, h1, h2, h3, h4⟩ := zV.of (px := zno) hy hn htb h p e ha hc hk s m args below hf happ hP hK
  refine ⟨n, o, h1, h2, h3, ?_⟩
  rcases h4 with h4 | ⟨q, -, E, ce, L, ⟨X9, hx, -⟩, -⟩
  · exact h4
  · exact absurd hx id
theorem zNH.of (hy : plainName M.1.cls = true) (hn : (lg_sl As).length ≤ M.2.2.1) (h : zZ g M (pv, zno, R) 0 0 X 0 (lv_args 0 As) []) : zNH g M R As X pv := by
  have hV : yx_Met g.1 M.1 (wsW_ M.1 M.2.1 M.2.2.1 M.2.2.2.1 M.2.2.2.2) R (zPre g As X) (zPos g pv) (zXC g zno) R.cells R.slots (zAf g) := by
    refine yx_ofWH (cc := M.2.1) (maxL := M.2.2.1) (ret := M.2.2.2.1) (hh := M.2.2.2.2) hy rfl ?_
    intro p e s m args below meth c s₁ B hml hv
    refine zBody h hn B (fun w h => List.mem_cons_of_mem _ h) hml ?_ hv
    obtain ⟨m9, meth9, c9, hn9, h1, h2, -, -, h6, -⟩ := Cond.codeWith_spec (atoms_spec (ws := wsW_ M.1 M.2.1 M.2.2.1 M.2.2.2.1 M.2.2.2.2) B.pre _ List.mem_cons_self)
    cases Option.some.inj (hn9.symm.trans B.named)
    cases Option.some.inj (h1.symm.trans B.method)
    cases Option.some.inj (h2.symm.trans (Stand.of_body B).code)
    exact h6
  intro p e ha hc hk s m args below hf happ hP hK
  obtain ⟨n, o, h1, h2, h3, h4⟩ := hV p e ha hc hk s m args below hf happ hP hK
  refine ⟨n, o, h1, h2, h3, ?_⟩
  rcases h4 with h4 | ⟨q, -, E, ce, L, ⟨X9, hx, -⟩, -⟩
  · exact h4
  · exact absurd hx id
end ZOF
