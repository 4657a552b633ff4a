/-! CALLS: a private method of the class above, on an object of the class below; super's method -/
set_option maxRecDepth 100000
section ZP
variable {p : Program} {l : Launch} {e : Env} {R : Room} {s : State} {m : MethodId} {args : Array Value} {below : List Frame} {meth : Method} {c : Code}
theorem vp_callP {T : State} {locs : List Loc} {cells slots : Nat} (X : Stand p l e R s m args below meth c T locs cells slots) (hexec : p.tables.exec = Jvm.exec) {own : String} {index : Nat} {y : MethodName} {bytes : ByteArray} {maxL : Nat} {ret : Option FieldType}
    (hown : s.vm.findClass own = some m.cls) (hlink : (Cond.methodLink own index y).before args s = true) (hsame : (Cond.sameMethod y.cls y.cls y.name y.desc).before args s = true) (hpriv : (Cond.privateMethod y).before args s = true)
    (howner : y.cls ≠ "java/lang/invoke/MethodHandle" ∧ y.cls ≠ "java/lang/invoke/VarHandle") (hinst : (Cond.instanceMethod y).before args s = true) (hcode : (Cond.code y bytes maxL ret).before args s = true)
    {W : Nat} {Pre : Pt → Array Value → Prop} {Post : Pt → Array Value → Option Value → Pt → Prop} (hK : Back l R p e below s args y 3 W Pre Post)
    {b : Addr} {cellB : Cell} (hcell : T.heap[b]? = some cellB) (hobj : cellB.vm.isStatics = false)
    {g : JFrame} (hg : g.method = m) (hsize : g.locals.size = c.maxLocals) {argsL rest : List Value} (hlen : ∀ sig, parseMethodDescriptor y.desc = some sig → argsL.length = sig.parameters.length)
    (hstack : g.stack = argsL.reverse ++ .ref b :: rest) (hW : 2 * g.monitorRoom + (rest.map fun v => v.category).sum ≤ W) (hdg : decode c.code g.pc = .ok (.invokevirtual index, 3))
    (hpre : ∀ vm₁, s.WarmedH vm₁ → Pre ⟨T.setVm vm₁, locs, cells, slots⟩ (Value.ref b :: argsL).toArray) :
    ∃ (v : Option Value) (vm₁ : Vm) (B : Pt), s.WarmedH vm₁ ∧ Stand p l e R s m args below meth c B.U B.locs B.cells B.slots ∧ Post ⟨T.setVm vm₁, locs, cells, slots⟩ (Value.ref b :: argsL).toArray v B ∧
      ∀ target, Steps p.tables e below (B.U.setTop { g with pc := g.pc + 3, stack := v.toList ++ rest }) target → Steps p.tables e below (T.setTop g) target := by
  obtain ⟨mk, methM, hnamed, hmethM, hstM, habM⟩ := Cond.instanceMethod_spec hinst
  obtain ⟨methM', cM, hmethM', -, -, -, -, -, -, hsigM⟩ := Cond.code_spec hnamed hcode
  cases hmethM.symm.trans hmethM'
  obtain ⟨cn, ck, r1, hcn, hck, hni, hf, hn1⟩ := Cond.sameMethod_found hsame
  cases hnamed.symm.trans hn1
  have hcls : mk.cls = cn := Option.some.inj ((findClass_of_methodNamed hnamed).symm.trans hcn)
  subst hcls
  have hselP : selectMethod e.platform s.vm cellB.cls mk = .method mk := selectMethod_private hmethM ((Cond.privateMethod_at hpriv) mk methM hnamed hmethM)
  obtain ⟨vm₁, X₁, hstep₁⟩ := X.invokevirtual hexec hown hlink hnamed hmethM hstM hck hni howner (a := b) (cell := cellB) hcell (fun z h => by rw [h] at hobj; cases hobj) hselP hmethM habM hck hni (g := g) hg (argsL := argsL) (rest := rest) (hlen _ hsigM) hstack hdg
  obtain ⟨v, B, X', hpost, hsteps⟩ := hK m meth c ⟨T.setVm vm₁, locs, cells, slots⟩ { g with stack := rest } (.invokevirtual index) mk (Value.ref b :: argsL).toArray X₁ hg hsize hdg hW (X₁.named hnamed) (hpre vm₁ X₁.warmed)
  exact ⟨v, vm₁, B, X₁.warmed, X', hpost, fun target h => hstep₁ _ fun acts => by rw [doInvoke_state]; exact hsteps.trans h⟩
theorem vp_callT {T : State} {locs : List Loc} {cells slots : Nat} (X : Stand p l e R s m args below meth c T locs cells slots) (hexec : p.tables.exec = Jvm.exec) {own : String} {index : Nat} {y : MethodName} {bytes : ByteArray} {maxL : Nat} {ret : Option FieldType}
    (hown : s.vm.findClass own = some m.cls) (hlink : (Cond.methodLink own index y).before args s = true) (hsame : (Cond.sameMethod y.cls y.cls y.name y.desc).before args s = true) (w4 : (Cond.superclass own y.cls).before args s = true) (hn : y.name ≠ "<init>")
    (hinst : (Cond.instanceMethod y).before args s = true) (hcode : (Cond.code y bytes maxL ret).before args s = true)
    {W : Nat} {Pre : Pt → Array Value → Prop} {Post : Pt → Array Value → Option Value → Pt → Prop} (hK : Back l R p e below s args y 3 W Pre Post)
    {C : String} {b : Addr} {cellB : Cell} (hcell : T.heap[b]? = some cellB) (hobj : cellB.vm.isStatics = false) (hclB : s.vm.findClass C = some cellB.cls)
    {g : JFrame} (hg : g.method = m) (hsize : g.locals.size = c.maxLocals) {argsL rest : List Value} (hlen : ∀ sig, parseMethodDescriptor y.desc = some sig → argsL.length = sig.parameters.length)
    (hstack : g.stack = argsL.reverse ++ .ref b :: rest) (hW : 2 * g.monitorRoom + (rest.map fun v => v.category).sum ≤ W) (hdg : decode c.code g.pc = .ok (.invokespecial index, 3))
    (hpre : ∀ vm₁, s.WarmedH vm₁ → Pre ⟨T.setVm vm₁, locs, cells, slots⟩ (Value.ref b :: argsL).toArray) :
    ∃ (v : Option Value) (vm₁ : Vm) (B : Pt), s.WarmedH vm₁ ∧ Stand p l e R s m args below meth c B.U B.locs B.cells B.slots ∧ Post ⟨T.setVm vm₁, locs, cells, slots⟩ (Value.ref b :: argsL).toArray v B ∧
      ∀ target, Steps p.tables e below (B.U.setTop { g with pc := g.pc + 3, stack := v.toList ++ rest }) target → Steps p.tables e below (T.setTop g) target := by
  obtain ⟨mk, methM, hnamed, hmethM, hstM, habM⟩ := Cond.instanceMethod_spec hinst
  obtain ⟨m2, cM, q1, -, -, -, -, -, -, hsig⟩ := Cond.code_spec hnamed hcode
  cases hmethM.symm.trans q1
  have hcn := findClass_of_methodNamed hnamed
  obtain ⟨dk, hd, -⟩ := Vm.findClass_spec hown
  obtain ⟨kp, hp, -⟩ := Vm.findClass_spec hcn
  have ws := w4
  simp only [Cond.before, Cond.holds, Cond.value, hown, hcn, hd, hp, Option.bind_some, Option.map_some] at ws
  have ws' : ((dk.super = some mk.cls ∧ dk.kind = .ordinary) ∧ kp.kind = .ordinary) ∧ dk.isInterface = false := by simpa using ws
  obtain ⟨kc, hkc, -⟩ := Vm.findClass_spec hclB
  obtain ⟨vm₁, X₁, hstep₁⟩ := X.invokespecialUp hexec (owner := y.cls) hown hlink hsame hnamed hmethM hstM habM hn hd ws'.2 hcn ws'.1.1.1 (by simp [Vm.isSubclass, Vm.isSubclassAux]) (a := b) hcell (fun q h => by rw [h] at hobj; cases hobj) hkc hg (hlen _ hsig) hstack hdg
  obtain ⟨v, B, X', hpost, hsteps⟩ := hK m meth c ⟨T.setVm vm₁, locs, cells, slots⟩ { g with stack := rest } (.invokespecial index) mk (Value.ref b :: argsL).toArray X₁ hg hsize hdg hW (X₁.named hnamed) (hpre vm₁ X₁.warmed)
  exact ⟨v, vm₁, B, X₁.warmed, X', hpost, fun target h => hstep₁ _ (hsteps.trans h)⟩
variable {H : Heap} {locs : List Loc} {cells slots : Nat}
theorem vp_runP {y : MethodName} {bytes cc : ByteArray} {maxL nL mc ms n index : Nat} {ret : Option FieldType} {ws : List Cond} {rm : Room} {Pc : Array Value → State → Prop} {Qc : Array Value → State → Outcome → State → Prop} {free : Addr → Prop} {Ts : List Cond} {own C : String} {b : Addr} {As rest : List Value} {g : JFrame}
    (S : CallFix p m c cc nL s args Ts own) (hM : Met l y ws rm Pc Qc mc ms free) (cw : CallB R s args own index y bytes maxL ret ws rm mc ms n) (hin : (Cond.instanceMethod y).before args s = true) (hsm : (Cond.sameMethod y.cls y.cls y.name y.desc).before args s = true) (hpr : (Cond.privateMethod y).before args s = true) (hp : PreV s H C b Pc As)
    (hg : g.method = m) (hn : As.length = n) (hsize : g.locals.size = nL) (hstack : g.stack = As.reverse ++ .ref b :: rest) (hW : 2 * g.monitorRoom + (rest.map fun v => v.category).sum ≤ 8) (hdg : decode cc g.pc = .ok (.invokevirtual index, 3)) (hf : cells + mc ≤ R.cells ∧ slots + ms ≤ R.slots) :
    va_Run p l e R s m args below meth c H locs cells slots mc ms g rest (Qc (Value.ref b :: As).toArray) (free) := by
  have hK : Back l R p e below s args y 3 8 (PreOf R mc ms Pc) (PostOf Qc mc ms free) := callBack cw hM hp.1
  obtain ⟨-, -, -, -, -, -, hcode, -, hy, hlen, hl⟩ := cw
  obtain ⟨hx, hb, hml, ho, -⟩ := S
  obtain ⟨-, ⟨cellB, hcB, hoB, hclB⟩, hPc⟩ := hp
  intro T hT X
  obtain ⟨v, vm₁, ⟨U', l2, c2, s2⟩, hW₁, X', ⟨g', mk, t, L, e1, e2, hq, h1, hL, h2, h3⟩, st⟩ := vp_callP X hx (bytes := bytes) (maxL := maxL) (ret := ret) ho hl hsm hpr hy hin hcode hK (by rw [hT]; exact hcB) hoB hg (hsize.trans hml.symm) (argsL := As) (rest := rest) (fun sig h => hn.trans (hlen sig h)) hstack hW (by rw [hb]; exact hdg)
    (fun vm₁ hW₁ => ⟨hf.1, hf.2, hPc (T.setVm vm₁) hT hW₁⟩)
  dsimp only [Pt.U, Pt.locs, Pt.cells, Pt.slots] at X' e1 e2 h1 h2 h3 st
  subst h1; subst h2; subst h3
  exact ⟨v, (T.setVm vm₁).calling g' mk (Value.ref b :: As).toArray, t, U', L, hT, X', hL, e1, e2, hq, st⟩
variable {H : Heap} {locs : List Loc} {cells slots : Nat}
theorem vp_runT {y : MethodName} {bytes cc : ByteArray} {maxL nL mc ms n index : Nat} {ret : Option FieldType} {ws : List Cond} {rm : Room} {Pc : Array Value → State → Prop} {Qc : Array Value → State → Outcome → State → Prop} {free : Addr → Prop} {Ts : List Cond} {own C : String} {b : Addr} {As rest : List Value} {g : JFrame}
    (S : CallFix p m c cc nL s args Ts own) (hM : Met l y ws rm Pc Qc mc ms free) (cw : CallB R s args own index y bytes maxL ret ws rm mc ms n) (hin : (Cond.instanceMethod y).before args s = true) (hsm : (Cond.sameMethod y.cls y.cls y.name y.desc).before args s = true) (hsu : (Cond.superclass own y.cls).before args s = true) (hni : y.name ≠ "<init>") (hp : PreV s H C b Pc As)
    (hg : g.method = m) (hn : As.length = n) (hsize : g.locals.size = nL) (hstack : g.stack = As.reverse ++ .ref b :: rest) (hW : 2 * g.monitorRoom + (rest.map fun v => v.category).sum ≤ 8) (hdg : decode cc g.pc = .ok (.invokespecial index, 3)) (hf : cells + mc ≤ R.cells ∧ slots + ms ≤ R.slots) :
    va_Run p l e R s m args below meth c H locs cells slots mc ms g rest (Qc (Value.ref b :: As).toArray) (free) := by
  have hK : Back l R p e below s args y 3 8 (PreOf R mc ms Pc) (PostOf Qc mc ms free) := callBack cw hM hp.1
  obtain ⟨-, -, -, -, -, -, hcode, -, hy, hlen, hl⟩ := cw
  obtain ⟨hx, hb, hml, ho, -⟩ := S
  obtain ⟨-, ⟨cellB, hcB, hoB, hclB⟩, hPc⟩ := hp
  intro T hT X
  obtain ⟨v, vm₁, ⟨U', l2, c2, s2⟩, hW₁, X', ⟨g', mk, t, L, e1, e2, hq, h1, hL, h2, h3⟩, st⟩ := vp_callT X hx (C := C) (bytes := bytes) (maxL := maxL) (ret := ret) ho hl hsm hsu hni hin hcode hK (by rw [hT]; exact hcB) hoB hclB hg (hsize.trans hml.symm) (argsL := As) (rest := rest) (fun sig h => hn.trans (hlen sig h)) hstack hW (by rw [hb]; exact hdg)
    (fun vm₁ hW₁ => ⟨hf.1, hf.2, hPc (T.setVm vm₁) hT hW₁⟩)
  dsimp only [Pt.U, Pt.locs, Pt.cells, Pt.slots] at X' e1 e2 h1 h2 h3 st
  subst h1; subst h2; subst h3
  exact ⟨v, (T.setVm vm₁).calling g' mk (Value.ref b :: As).toArray, t, U', L, hT, X', hL, e1, e2, hq, st⟩
end ZP
section ZP2
variable {g : zG} {M : zMth} {P : zPo} {k n k' n' : Nat} {X : zX} {pc index : Nat} {lv : List (Nat × Value)} {rest As : List Value} {My : zMth} {Ry : Room} {pv : Option Value → zX → Prop}
theorem z_callP {b ci : Nat} {fs : List Value} {r : vw_C} (hM : zN g My Ry (.ref b :: As) X pv) (q1 : Cond.methodLink M.1.cls index My.1 ∈ lw_all) (qs : Cond.sameMethod My.1.cls My.1.cls My.1.name My.1.desc ∈ lw_all) (qp : Cond.privateMethod My.1 ∈ lw_tbl) (q2 : Cond.instanceMethod My.1 ∈ lw_all) (q4 : Cond.initialized My.1.cls ∈ lw_all) (q5 : Cond.code My.1 My.2.1 My.2.2.1 My.2.2.2.1 ∈ lw_all) (hnm : znam My.1 As.length) (hb : X b = some (.inr (ci, fs))) (hc : zcl[ci]? = some r) {st0 : List Value} (hst : st0 = As.reverse ++ .ref b :: rest) (hW : (rest.map fun v => v.category).sum ≤ 8) (hR : zfit Ry My P.2.2) (hd : decode M.2.1 pc = .ok (.invokevirtual index, 3)) (ek : k + Ry.cells = k') (en : n + Ry.slots = n') (hk : k' ≤ P.2.2.cells) (hn : n' ≤ P.2.2.slots)
    (kk : ∀ (v : Option Value) (X' : zX), pv v X' → zZ g M P k' n' X' (pc + 3) lv (v.toList ++ rest)) : zZ g M P k n X pc lv st0 := by
  subst ek
  subst en
  intro p e s m args below meth c H locs ls C I S L
  have hw := C.2.2.2.2.2.2.1
  exact z_after (vp_runP ⟨C.1, C.2.1, C.2.2.2.2.1, C.2.2.2.2.2.1, C.2.2.2.2.2.2.1⟩ hM (callB_of As.length hw (lw_meth q5) rfl rfl rfl (hw _ q4) (hw _ q1) hnm hR) (hw _ q2) (hw _ qs) (va_Nw.use (A := args) rfl (C.2.2.2.2.2.2.2.1.2.1 _ qp rfl)) (zpreV C.2.2.2.2.2.2.2.1 C.2.2.2.2.2.2.2.2.1 I S hb hc rfl) rfl rfl L.1 hst (lv_room hW) hd ⟨hk, hn⟩) S (fun v X' H' locs' hp I' S' => kk v X' hp p e s m args below meth c H' locs' ls C I' S' L)
theorem z_callT {b ci : Nat} {fs : List Value} {r : vw_C} (hM : zN g My Ry (.ref b :: As) X pv) (q1 : Cond.methodLink M.1.cls index My.1 ∈ lw_all) (qs : Cond.sameMethod My.1.cls My.1.cls My.1.name My.1.desc ∈ lw_all) (qu : Cond.superclass M.1.cls My.1.cls ∈ lw_all) (hni : My.1.name ≠ "<init>") (q2 : Cond.instanceMethod My.1 ∈ lw_all) (q4 : Cond.initialized My.1.cls ∈ lw_all) (q5 : Cond.code My.1 My.2.1 My.2.2.1 My.2.2.2.1 ∈ lw_all) (hnm : znam My.1 As.length) (hb : X b = some (.inr (ci, fs))) (hc : zcl[ci]? = some r) {st0 : List Value} (hst : st0 = As.reverse ++ .ref b :: rest) (hW : (rest.map fun v => v.category).sum ≤ 8) (hR : zfit Ry My P.2.2) (hd : decode M.2.1 pc = .ok (.invokespecial index, 3)) (ek : k + Ry.cells = k') (en : n + Ry.slots = n') (hk : k' ≤ P.2.2.cells) (hn : n' ≤ P.2.2.slots)
    (kk : ∀ (v : Option Value) (X' : zX), pv v X' → zZ g M P k' n' X' (pc + 3) lv (v.toList ++ rest)) : zZ g M P k n X pc lv st0 := by
  subst ek
  subst en
  intro p e s m args below meth c H locs ls C I S L
  have hw := C.2.2.2.2.2.2.1
  exact z_after (vp_runT ⟨C.1, C.2.1, C.2.2.2.2.1, C.2.2.2.2.2.1, C.2.2.2.2.2.2.1⟩ hM (callB_of As.length hw (lw_meth q5) rfl rfl rfl (hw _ q4) (hw _ q1) hnm hR) (hw _ q2) (hw _ qs) (hw _ qu) hni (zpreV C.2.2.2.2.2.2.2.1 C.2.2.2.2.2.2.2.2.1 I S hb hc rfl) rfl rfl L.1 hst (lv_room hW) hd ⟨hk, hn⟩) S (fun v X' H' locs' hp I' S' => kk v X' hp p e s m args below meth c H' locs' ls C I' S' L)
end ZP2
