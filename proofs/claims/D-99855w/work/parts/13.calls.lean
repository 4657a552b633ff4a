/-! CALLS in the judgement zZ -/
set_option maxRecDepth 100000
section ZCALL
variable {g : zG} {M : zMth} {P : zPo} {k n k' n' : Nat} {X : zX} {pc index : Nat} {lv : List (Nat × Value)} {rest As : List Value} {My : zMth} {Ry : Room} {pv : Option Value → zX → Prop} {px : Nat → String → zX → Prop}
theorem z_after {p : Program} {l : Launch} {e : Env} {R : Room} {s : State} {m : MethodId} {args : Array Value} {below : List Frame} {meth : Method} {c : Code} {H : Heap} {locs : List Loc} {Q : State → Prop} {mc ms : Nat} {ls : Array Slot} {st0 : List Value} {a : Array Value}
    (hr : va_Run p l e R s m args below meth c H locs k n mc ms (F0 m pc ls st0) rest (zPos g pv a) (zAf g)) (S : va_S (zAf g) s.heap H locs) (kk : ∀ (v : Option Value) (X' : zX) (H' : Heap) (locs' : List Loc), pv v X' → zI g X' H' → va_S (zAf g) s.heap H' locs' → W p l e R s m args below meth c H' locs' (k + mc) (n + ms) Q (F0 m (pc + 3) ls (v.toList ++ rest))) : W p l e R s m args below meth c H locs k n Q (F0 m pc ls st0) := by
  intro T hT X
  obtain ⟨v, st₀, t, T', L, h0, X', hL, e1, e2, ⟨⟨v9, X9, hv, hp, hb⟩, hF⟩, st⟩ := hr T hT X
  cases hv
  obtain ⟨k1, k2, k3⟩ := vx_keep h0 e1 S (fun q _ h => h) (fun q h => h) hL hF
  obtain ⟨t2, a1, b1⟩ := kk _ X9 T'.heap (locs ++ L) hp (by rw [e1]; exact hb) k3 T' rfl X'
  exact ⟨t2, st t2 a1, b1⟩
theorem z_afterX {p : Program} {l : Launch} {e : Env} {R : Room} {s : State} {m : MethodId} {args : Array Value} {below : List Frame} {meth : Method} {c : Code} {H : Heap} {locs : List Loc} {Q : State → Prop} {mc ms : Nat} {ls : Array Slot} {st0 : List Value} {a : Array Value}
    (hr : yx_Run p l e R s m args below meth c H locs k n mc ms (F0 m pc ls st0) rest (zPos g pv a) (zXC g px) (zAf g)) (S : va_S (zAf g) s.heap H locs)
    (kx : ∀ (q : Nat) (E : String) (ce : Cell) (X' : zX) (H' : Heap) (locs' : List Loc), px q E X' → zI g X' H' → va_S (zAf g) s.heap H' locs' → H'[q]? = some ce → ce.vm = .none → s.vm.findClass E = some ce.cls → vx_W p l e R s m args below meth c H' locs' (k + mc) (n + ms) Q (F0 m pc ls rest) q)
    (kk : ∀ (v : Option Value) (X' : zX) (H' : Heap) (locs' : List Loc), pv v X' → zI g X' H' → va_S (zAf g) s.heap H' locs' → W p l e R s m args below meth c H' locs' (k + mc) (n + ms) Q (F0 m (pc + 3) ls (v.toList ++ rest))) : W p l e R s m args below meth c H locs k n Q (F0 m pc ls st0) := by
  intro T hT X
  rcases hr T hT X with ⟨v, st₀, t, T', L, h0, X', hL, e1, e2, ⟨⟨v9, X9, hv, hp, hb⟩, hF⟩, st⟩ | ⟨q, st₀, t, T', L, E, ce, h0, X', hL, e1, e2, ⟨X9, hp, hb, hF⟩, hce, hcv, hcl, st⟩
  · cases hv
    obtain ⟨k1, k2, k3⟩ := vx_keep h0 e1 S (fun q _ h => h) (fun q h => h) hL hF
    obtain ⟨t2, a1, b1⟩ := kk _ X9 T'.heap (locs ++ L) hp (by rw [e1]; exact hb) k3 T' rfl X'
    exact ⟨t2, st t2 a1, b1⟩
  · obtain ⟨k1, k2, k3⟩ := vx_keep h0 e1 S (fun q _ h => h) (fun q h => h) hL hF
    obtain ⟨t2, a1, b1⟩ := kx q E ce X9 T'.heap (locs ++ L) hp (by rw [e1]; exact hb) k3 (by rw [e1]; exact hce) hcv hcl T' rfl X'
    exact ⟨t2, st.trans a1, b1⟩
theorem zpre {s : State} {H : Heap} {locs : List Loc} (K : zK g s) (Z : zS g s s.heap) (I : zI g X H) (S : va_S (zAf g) s.heap H locs) : PreS s H (zPre g As X) As :=
  ⟨zPre.blind, fun U hU hW => ⟨rfl, K.warm hW, by rw [hU]; exact zS.moved hW.alike S.1 S.2.1 Z, by rw [hU]; exact I⟩⟩
theorem zpreV {s : State} {H : Heap} {locs : List Loc} {b ci : Nat} {fs : List Value} {r : vw_C} {C : String} (K : zK g s) (Z : zS g s s.heap) (I : zI g X H) (S : va_S (zAf g) s.heap H locs) (hb : X b = some (.inr (ci, fs))) (hc : zcl[ci]? = some r) (hr : r.1 = C) : PreV s H C b (zPre g (.ref b :: As) X) As := by
  subst hr
  exact ⟨zPre.blind, zrecv K I hb hc, (zpre K Z I S).2⟩
/-- the callee's room in the caller's -/
abbrev zfit (Ry : Room) (My : zMth) (R : Room) : Prop := Ry.frames + 1 ≤ R.frames ∧ 8 + (My.2.2.1 + 11) + Ry.locals ≤ R.locals
/-- the callee's name: no handle, so many parameters -/
abbrev znam (y : MethodName) (n : Nat) : Prop := y.cls ≠ "java/lang/invoke/MethodHandle" ∧ y.cls ≠ "java/lang/invoke/VarHandle" ∧ (parseMethodDescriptor y.desc).map (fun d => d.parameters.length) = some n
/-- a call through an object: the method that is named is run -/
theorem z_callV {b ci : Nat} {fs : List Value} {r : vw_C} (hM : zN g My Ry (.ref b :: As) X pv) (q1 : Cond.methodLink M.1.cls index My.1 ∈ lw_all) (q2 : Cond.instanceMethod My.1 ∈ lw_all) (q3 : Cond.selects My.1.cls My.1 My.1 ∈ lw_all) (q4 : Cond.initialized My.1.cls ∈ lw_all) (q5 : Cond.code My.1 My.2.1 My.2.2.1 My.2.2.2.1 ∈ lw_all) (hnm : znam My.1 As.length) (hb : X b = some (.inr (ci, fs))) (hc : zcl[ci]? = some r) (hr : r.1 = My.1.cls) {st0 : List Value} (hst : st0 = As.reverse ++ .ref b :: rest) (hW : (rest.map fun v => v.category).sum ≤ 8) (hR : zfit Ry My P.2.2) (hd : decode M.2.1 pc = .ok (.invokevirtual index, 3)) (ek : k + Ry.cells = k') (en : n + Ry.slots = n') (hk : k' ≤ P.2.2.cells) (hn : n' ≤ P.2.2.slots)
    (kk : ∀ (v : Option Value) (X' : zX), pv v X' → zZ g M P k' n' X' (pc + 3) lv (v.toList ++ rest)) : zZ g M P k n X pc lv st0 := by
  subst ek
  subst en
  intro p e s m args below meth c H locs ls C I S L
  exact z_after (va_runV ⟨C.1, C.2.1, C.2.2.2.2.1, C.2.2.2.2.2.1, C.2.2.2.2.2.2.1⟩ hM (cwV As.length C.2.2.2.2.2.2.1 (lw_V q1 q2 q3 q4 q5) rfl rfl rfl ⟨rfl, hnm⟩ hR) (zpreV C.2.2.2.2.2.2.2.1 C.2.2.2.2.2.2.2.2.1 I S hb hc hr) rfl rfl L.1 hst (lv_room hW) hd ⟨hk, hn⟩) S (fun v X' H' locs' hp I' S' => kk v X' hp p e s m args below meth c H' locs' ls C I' S' L)
theorem z_callS (hM : zN g My Ry As X pv) (q1 : Cond.methodLink M.1.cls index My.1 ∈ lw_all) (q2 : Cond.static My.1 ∈ lw_all) (q4 : Cond.initialized My.1.cls ∈ lw_all) (q5 : Cond.code My.1 My.2.1 My.2.2.1 My.2.2.2.1 ∈ lw_all) (hnm : znam My.1 As.length) {st0 : List Value} (hst : st0 = As.reverse ++ rest) (hW : (rest.map fun v => v.category).sum ≤ 8) (hR : zfit Ry My P.2.2) (hd : decode M.2.1 pc = .ok (.invokestatic index, 3)) (ek : k + Ry.cells = k') (en : n + Ry.slots = n') (hk : k' ≤ P.2.2.cells) (hn : n' ≤ P.2.2.slots)
    (kk : ∀ (v : Option Value) (X' : zX), pv v X' → zZ g M P k' n' X' (pc + 3) lv (v.toList ++ rest)) : zZ g M P k n X pc lv st0 := by
  subst ek
  subst en
  intro p e s m args below meth c H locs ls C I S L
  exact z_after (va_runS ⟨C.1, C.2.1, C.2.2.2.2.1, C.2.2.2.2.2.1, C.2.2.2.2.2.2.1⟩ hM (va_cwS As.length C.2.2.2.2.2.2.1 (lw_S q1 q2 q4 q5) rfl rfl rfl hnm hR) (zpre C.2.2.2.2.2.2.2.1 C.2.2.2.2.2.2.2.2.1 I S) rfl rfl L.1 hst (lv_room hW) hd ⟨hk, hn⟩) S (fun v X' H' locs' hp I' S' => kk v X' hp p e s m args below meth c H' locs' ls C I' S' L)
theorem z_callI {b : Nat} (hM : zN g My Ry (.ref b :: As) X pv) (q1 : Cond.methodLink M.1.cls index My.1 ∈ lw_all) (q2 : Cond.instanceMethod My.1 ∈ lw_all) (q4 : Cond.initialized My.1.cls ∈ lw_all) (q5 : Cond.code My.1 My.2.1 My.2.2.1 My.2.2.2.1 ∈ lw_all) (hret : My.2.2.2.1 = none) (hy : My.1.name = "<init>") (hnm : znam My.1 As.length) {st0 : List Value} (hst : st0 = As.reverse ++ .ref b :: rest) (hW : (rest.map fun v => v.category).sum ≤ 8) (hR : zfit Ry My P.2.2) (hd : decode M.2.1 pc = .ok (.invokespecial index, 3)) (ek : k + Ry.cells = k') (en : n + Ry.slots = n') (hk : k' ≤ P.2.2.cells) (hn : n' ≤ P.2.2.slots)
    (kk : ∀ (v : Option Value) (X' : zX), pv v X' → zZ g M P k' n' X' (pc + 3) lv (v.toList ++ rest)) : zZ g M P k n X pc lv st0 := by
  subst ek
  subst en
  intro p e s m args below meth c H locs ls C I S L
  have hM' := hM
  unfold zN at hM'
  rw [hret] at hM' q5
  exact z_after (va_runI ⟨C.1, C.2.1, C.2.2.2.2.1, C.2.2.2.2.2.1, C.2.2.2.2.2.2.1⟩ hM' (cwI As.length C.2.2.2.2.2.2.1 (lw_meth q5) rfl rfl rfl (C.2.2.2.2.2.2.1 _ q4) (C.2.2.2.2.2.2.1 _ q1) (C.2.2.2.2.2.2.1 _ q2) hy hnm hR) (zpre C.2.2.2.2.2.2.2.1 C.2.2.2.2.2.2.2.2.1 I S) rfl rfl L.1 hst (lv_room hW) hd ⟨hk, hn⟩) S (fun v X' H' locs' hp I' S' => kk v X' hp p e s m args below meth c H' locs' ls C I' S' L)
/-- a nest mate's private method -/
theorem z_callVN {b ci : Nat} {fs : List Value} {r : vw_C} {host : String} (hM : zN g My Ry (.ref b :: As) X pv) (q1 : Cond.methodLinkNest M.1.cls index My.1 host ∈ lw_tbl) (q2 : Cond.instanceMethod My.1 ∈ lw_all) (q3 : Cond.selects My.1.cls My.1 My.1 ∈ lw_all) (q4 : Cond.initialized My.1.cls ∈ lw_all) (q5 : Cond.code My.1 My.2.1 My.2.2.1 My.2.2.2.1 ∈ lw_all) (hnm : znam My.1 As.length) (hb : X b = some (.inr (ci, fs))) (hc : zcl[ci]? = some r) (hr : r.1 = My.1.cls) {st0 : List Value} (hst : st0 = As.reverse ++ .ref b :: rest) (hW : (rest.map fun v => v.category).sum ≤ 8) (hR : zfit Ry My P.2.2) (hd : decode M.2.1 pc = .ok (.invokevirtual index, 3)) (ek : k + Ry.cells = k') (en : n + Ry.slots = n') (hk : k' ≤ P.2.2.cells) (hn : n' ≤ P.2.2.slots)
    (kk : ∀ (v : Option Value) (X' : zX), pv v X' → zZ g M P k' n' X' (pc + 3) lv (v.toList ++ rest)) : zZ g M P k n X pc lv st0 := by
  subst ek
  subst en
  intro p e s m args below meth c H locs ls C I S L
  exact z_after (va_runVN ⟨C.1, C.2.1, C.2.2.2.2.1, C.2.2.2.2.2.1, C.2.2.2.2.2.2.1⟩ hM ⟨va_cnB (host := host) As.length C.2.2.2.2.2.2.1 (lw_meth q5) rfl rfl rfl (C.2.2.2.2.2.2.2.1.2.1 _ q1 rfl) (C.2.2.2.2.2.2.1 _ q4) hnm hR, C.2.2.2.2.2.2.1 _ q2, C.2.2.2.2.2.2.1 _ q3⟩ (zpreV C.2.2.2.2.2.2.2.1 C.2.2.2.2.2.2.2.2.1 I S hb hc hr) rfl rfl L.1 hst (lv_room hW) hd ⟨hk, hn⟩) S (fun v X' H' locs' hp I' S' => kk v X' hp p e s m args below meth c H' locs' ls C I' S' L)
theorem z_callSN {host : String} (hM : zN g My Ry As X pv) (q1 : Cond.methodLinkNest M.1.cls index My.1 host ∈ lw_tbl) (q2 : Cond.static My.1 ∈ lw_all) (q4 : Cond.initialized My.1.cls ∈ lw_all) (q5 : Cond.code My.1 My.2.1 My.2.2.1 My.2.2.2.1 ∈ lw_all) (hnm : znam My.1 As.length) {st0 : List Value} (hst : st0 = As.reverse ++ rest) (hW : (rest.map fun v => v.category).sum ≤ 8) (hR : zfit Ry My P.2.2) (hd : decode M.2.1 pc = .ok (.invokestatic index, 3)) (ek : k + Ry.cells = k') (en : n + Ry.slots = n') (hk : k' ≤ P.2.2.cells) (hn : n' ≤ P.2.2.slots)
    (kk : ∀ (v : Option Value) (X' : zX), pv v X' → zZ g M P k' n' X' (pc + 3) lv (v.toList ++ rest)) : zZ g M P k n X pc lv st0 := by
  subst ek
  subst en
  intro p e s m args below meth c H locs ls C I S L
  exact z_after (va_runSN ⟨C.1, C.2.1, C.2.2.2.2.1, C.2.2.2.2.2.1, C.2.2.2.2.2.2.1⟩ hM ⟨va_cnB (host := host) As.length C.2.2.2.2.2.2.1 (lw_meth q5) rfl rfl rfl (C.2.2.2.2.2.2.2.1.2.1 _ q1 rfl) (C.2.2.2.2.2.2.1 _ q4) hnm hR, C.2.2.2.2.2.2.1 _ q2, trivial⟩ (zpre C.2.2.2.2.2.2.2.1 C.2.2.2.2.2.2.2.2.1 I S) rfl rfl L.1 hst (lv_room hW) hd ⟨hk, hn⟩) S (fun v X' H' locs' hp I' S' => kk v X' hp p e s m args below meth c H' locs' ls C I' S' L)
theorem z_callIN {b : Nat} {host : String} (hM : zN g My Ry (.ref b :: As) X pv) (q1 : Cond.methodLinkNest M.1.cls index My.1 host ∈ lw_tbl) (q2 : Cond.instanceMethod My.1 ∈ lw_all) (q4 : Cond.initialized My.1.cls ∈ lw_all) (q5 : Cond.code My.1 My.2.1 My.2.2.1 My.2.2.2.1 ∈ lw_all) (hret : My.2.2.2.1 = none) (hy : My.1.name = "<init>") (hnm : znam My.1 As.length) {st0 : List Value} (hst : st0 = As.reverse ++ .ref b :: rest) (hW : (rest.map fun v => v.category).sum ≤ 8) (hR : zfit Ry My P.2.2) (hd : decode M.2.1 pc = .ok (.invokespecial index, 3)) (ek : k + Ry.cells = k') (en : n + Ry.slots = n') (hk : k' ≤ P.2.2.cells) (hn : n' ≤ P.2.2.slots)
    (kk : ∀ (v : Option Value) (X' : zX), pv v X' → zZ g M P k' n' X' (pc + 3) lv (v.toList ++ rest)) : zZ g M P k n X pc lv st0 := by
  subst ek
  subst en
  intro p e s m args below meth c H locs ls C I S L
  have hM' := hM
  unfold zN at hM'
  rw [hret] at hM' q5
  exact z_after (va_runIN ⟨C.1, C.2.1, C.2.2.2.2.1, C.2.2.2.2.2.1, C.2.2.2.2.2.2.1⟩ hM' ⟨va_cnB (host := host) As.length C.2.2.2.2.2.2.1 (lw_meth q5) rfl rfl rfl (C.2.2.2.2.2.2.2.1.2.1 _ q1 rfl) (C.2.2.2.2.2.2.1 _ q4) hnm hR, hy, C.2.2.2.2.2.2.1 _ q2⟩ (zpre C.2.2.2.2.2.2.2.1 C.2.2.2.2.2.2.2.2.1 I S) rfl rfl L.1 hst (lv_room hW) hd ⟨hk, hn⟩) S (fun v X' H' locs' hp I' S' => kk v X' hp p e s m args below meth c H' locs' ls C I' S' L)
/-- inherited: x is named, y = owner's is run -/
theorem z_callU {b ci : Nat} {fs : List Value} {r : vw_C} {x : MethodName} {owner : String} (hM : zN g My Ry (.ref b :: As) X pv) (q1 : Cond.methodLink M.1.cls index x ∈ lw_all) (qs : Cond.sameMethod x.cls owner x.name x.desc ∈ lw_all) (q3 : Cond.selects r.1 x My.1 ∈ lw_all) (q2 : Cond.instanceMethod My.1 ∈ lw_all) (q4 : Cond.initialized My.1.cls ∈ lw_all) (q5 : Cond.code My.1 My.2.1 My.2.2.1 My.2.2.2.1 ∈ lw_all) (hyx : My.1 = ⟨owner, x.name, x.desc⟩) (hnm : owner ≠ "java/lang/invoke/MethodHandle" ∧ owner ≠ "java/lang/invoke/VarHandle" ∧ (parseMethodDescriptor x.desc).map (fun d => d.parameters.length) = some As.length) (hb : X b = some (.inr (ci, fs))) (hc : zcl[ci]? = some r) {st0 : List Value} (hst : st0 = As.reverse ++ .ref b :: rest) (hW : (rest.map fun v => v.category).sum ≤ 8) (hR : zfit Ry My P.2.2) (hd : decode M.2.1 pc = .ok (.invokevirtual index, 3)) (ek : k + Ry.cells = k') (en : n + Ry.slots = n') (hk : k' ≤ P.2.2.cells) (hn : n' ≤ P.2.2.slots)
    (kk : ∀ (v : Option Value) (X' : zX), pv v X' → zZ g M P k' n' X' (pc + 3) lv (v.toList ++ rest)) : zZ g M P k n X pc lv st0 := by
  subst ek
  subst en
  intro p e s m args below meth c H locs ls C I S L
  refine z_after (va_runU ⟨C.1, C.2.1, C.2.2.2.2.1, C.2.2.2.2.2.1, C.2.2.2.2.2.2.1⟩ hM (va_cwU (C := r.1) (owner := owner) (x := x) As.length C.2.2.2.2.2.2.1 (lw_app (fun w hw => ?_) (lw_meth q5)) rfl rfl rfl hyx hnm hR) (zpreV C.2.2.2.2.2.2.2.1 C.2.2.2.2.2.2.2.2.1 I S hb hc rfl) rfl rfl L.1 hst (lv_room hW) hd ⟨hk, hn⟩) S (fun v X' H' locs' hp I' S' => kk v X' hp p e s m args below meth c H' locs' ls C I' S' L)
  simp only [List.mem_cons, List.not_mem_nil, or_false] at hw
  rcases hw with e | e | e | e | e
  · rw [e]; exact q1
  · rw [e]; exact qs
  · rw [e]; exact q3
  · rw [e]; exact q2
  · rw [e]; exact q4
/-- overriding: x = owner's is named, y is run -/
theorem z_callO {b ci : Nat} {fs : List Value} {r : vw_C} {x : MethodName} {owner : String} (hM : zN g My Ry (.ref b :: As) X pv) (q1 : Cond.methodLink M.1.cls index x ∈ lw_all) (qs : Cond.sameMethod x.cls owner x.name x.desc ∈ lw_all) (qo : Cond.instanceMethod ⟨owner, x.name, x.desc⟩ ∈ lw_all) (q3 : Cond.selects r.1 x My.1 ∈ lw_all) (q2 : Cond.instanceMethod My.1 ∈ lw_all) (q4 : Cond.initialized My.1.cls ∈ lw_all) (q5 : Cond.code My.1 My.2.1 My.2.2.1 My.2.2.2.1 ∈ lw_all) {b0 : ByteArray} {m0 : Nat} {r0 : Option FieldType} (h0 : Cond.code ⟨owner, x.name, x.desc⟩ b0 m0 r0 ∈ lw_all) (hnm : owner ≠ "java/lang/invoke/MethodHandle" ∧ owner ≠ "java/lang/invoke/VarHandle" ∧ (parseMethodDescriptor x.desc).map (fun d => d.parameters.length) = some As.length) (hb : X b = some (.inr (ci, fs))) (hc : zcl[ci]? = some r) {st0 : List Value} (hst : st0 = As.reverse ++ .ref b :: rest) (hW : (rest.map fun v => v.category).sum ≤ 8) (hR : zfit Ry My P.2.2) (hd : decode M.2.1 pc = .ok (.invokevirtual index, 3)) (ek : k + Ry.cells = k') (en : n + Ry.slots = n') (hk : k' ≤ P.2.2.cells) (hn : n' ≤ P.2.2.slots)
    (kk : ∀ (v : Option Value) (X' : zX), pv v X' → zZ g M P k' n' X' (pc + 3) lv (v.toList ++ rest)) : zZ g M P k n X pc lv st0 := by
  subst ek
  subst en
  intro p e s m args below meth c H locs ls C I S L
  refine z_after (va_runU ⟨C.1, C.2.1, C.2.2.2.2.1, C.2.2.2.2.2.1, C.2.2.2.2.2.2.1⟩ hM (va_cwO (C := r.1) (owner := owner) (x := x) As.length C.2.2.2.2.2.2.1 (lw_app (fun w hw => ?_) (lw_meth q5)) rfl rfl rfl h0 hnm hR) (zpreV C.2.2.2.2.2.2.2.1 C.2.2.2.2.2.2.2.2.1 I S hb hc rfl) rfl rfl L.1 hst (lv_room hW) hd ⟨hk, hn⟩) S (fun v X' H' locs' hp I' S' => kk v X' hp p e s m args below meth c H' locs' ls C I' S' L)
  simp only [List.mem_cons, List.not_mem_nil, or_false] at hw
  rcases hw with e | e | e | e | e | e
  · rw [e]; exact q1
  · rw [e]; exact qs
  · rw [e]; exact qo
  · rw [e]; exact q3
  · rw [e]; exact q2
  · rw [e]; exact q4
/-- it throws, or returns -/
theorem z_callVx {b ci : Nat} {fs : List Value} {r : vw_C} (hM : zV g My Ry (.ref b :: As) X pv px) (q1 : Cond.methodLink M.1.cls index My.1 ∈ lw_all) (q2 : Cond.instanceMethod My.1 ∈ lw_all) (q3 : Cond.selects My.1.cls My.1 My.1 ∈ lw_all) (q4 : Cond.initialized My.1.cls ∈ lw_all) (q5 : Cond.code My.1 My.2.1 My.2.2.1 My.2.2.2.1 ∈ lw_all) (hnm : znam My.1 As.length) (hb : X b = some (.inr (ci, fs))) (hc : zcl[ci]? = some r) (hr : r.1 = My.1.cls) {st0 : List Value} (hst : st0 = As.reverse ++ .ref b :: rest) (hW : (rest.map fun v => v.category).sum ≤ 8) (hR : zfit Ry My P.2.2) (hd : decode M.2.1 pc = .ok (.invokevirtual index, 3)) (ek : k + Ry.cells = k') (en : n + Ry.slots = n') (hk : k' ≤ P.2.2.cells) (hn : n' ≤ P.2.2.slots)
    (htb : M.2.2.2.2 = []) (kx : ∀ (q : Nat) (E : String) (X' : zX), px q E X' → P.2.1 q E X')
    (kk : ∀ (v : Option Value) (X' : zX), pv v X' → zZ g M P k' n' X' (pc + 3) lv (v.toList ++ rest)) : zZ g M P k n X pc lv st0 := by
  subst ek
  subst en
  intro p e s m args below meth c H locs ls C I S L
  refine z_afterX (yx_runV ⟨C.1, C.2.1, C.2.2.2.2.1, C.2.2.2.2.2.1, C.2.2.2.2.2.2.1⟩ hM (cwV As.length C.2.2.2.2.2.2.1 (lw_V q1 q2 q3 q4 q5) rfl rfl rfl ⟨rfl, hnm⟩ hR) (zpreV C.2.2.2.2.2.2.2.1 C.2.2.2.2.2.2.2.2.1 I S hb hc hr) rfl rfl L.1 hst (lv_room hW) hd ⟨hk, hn⟩) S (fun q E ce X' H' locs' hp I' S' h1 h2 h3 => ?_) (fun v X' H' locs' hp I' S' => kk v X' hp p e s m args below meth c H' locs' ls C I' S' L)
  refine yx_out (fun x hx => ?_) C.2.2.2.1 h1 h2 h3 (fun t ht _ => ⟨X', kx q E X' hp, by rw [ht]; exact I', S'.F ht⟩) S'.2.2 hk hn
  have h9 := C.2.2.2.2.2.2.2.2.2.2
  rw [htb] at h9
  rw [List.map_eq_nil_iff.mp h9] at hx
  cases hx
/-- the same, of a static method -/
theorem z_callSx (hM : zV g My Ry As X pv px) (q1 : Cond.methodLink M.1.cls index My.1 ∈ lw_all) (q2 : Cond.static My.1 ∈ lw_all) (q4 : Cond.initialized My.1.cls ∈ lw_all) (q5 : Cond.code My.1 My.2.1 My.2.2.1 My.2.2.2.1 ∈ lw_all) (hnm : znam My.1 As.length) {st0 : List Value} (hst : st0 = As.reverse ++ rest) (hW : (rest.map fun v => v.category).sum ≤ 8) (hR : zfit Ry My P.2.2) (hd : decode M.2.1 pc = .ok (.invokestatic index, 3)) (ek : k + Ry.cells = k') (en : n + Ry.slots = n') (hk : k' ≤ P.2.2.cells) (hn : n' ≤ P.2.2.slots)
    (htb : M.2.2.2.2 = []) (kx : ∀ (q : Nat) (E : String) (X' : zX), px q E X' → P.2.1 q E X')
    (kk : ∀ (v : Option Value) (X' : zX), pv v X' → zZ g M P k' n' X' (pc + 3) lv (v.toList ++ rest)) : zZ g M P k n X pc lv st0 := by
  subst ek
  subst en
  intro p e s m args below meth c H locs ls C I S L
  refine z_afterX (yx_runS ⟨C.1, C.2.1, C.2.2.2.2.1, C.2.2.2.2.2.1, C.2.2.2.2.2.2.1⟩ hM (va_cwS As.length C.2.2.2.2.2.2.1 (lw_S q1 q2 q4 q5) rfl rfl rfl hnm hR) (zpre C.2.2.2.2.2.2.2.1 C.2.2.2.2.2.2.2.2.1 I S) rfl rfl L.1 hst (lv_room hW) hd ⟨hk, hn⟩) S (fun q E ce X' H' locs' hp I' S' h1 h2 h3 => ?_) (fun v X' H' locs' hp I' S' => kk v X' hp p e s m args below meth c H' locs' ls C I' S' L)
  refine yx_out (fun x hx => ?_) C.2.2.2.1 h1 h2 h3 (fun t ht _ => ⟨X', kx q E X' hp, by rw [ht]; exact I', S'.F ht⟩) S'.2.2 hk hn
  have h9 := C.2.2.2.2.2.2.2.2.2.2
  rw [htb] at h9
  rw [List.map_eq_nil_iff.mp h9] at hx
  cases hx
/-- a known object is thrown -/
theorem z_athrow {q ci : Nat} {fs : List Value} {r : vw_C} (hq : X q = some (.inr (ci, fs))) (hc : zcl[ci]? = some r) (hd : decode M.2.1 pc = .ok (.athrow, 1)) (htb : M.2.2.2.2 = []) (hk : k ≤ P.2.2.cells) (hn : n ≤ P.2.2.slots) (h : P.2.1 q r.1 X) : zZ g M P k n X pc lv (.ref q :: rest) := by
  intro p e s m args below meth c H locs ls C I S L
  refine vx_athrow C.1 C.2.1 hd ?_
  obtain ⟨r', h1, cell, g1, g2, g3, -⟩ := I q _ hq
  have hr : r' = r := Option.some.inj (h1.symm.trans hc)
  subst hr
  refine yx_out (E := r'.1) (ce := cell) (fun x hx => ?_) C.2.2.2.1 g1 g3 (by rw [g2]; exact (C.2.2.2.2.2.2.2.1.1.1 ci _ hc).2.1) (fun t ht _ => ⟨X, h, by rw [ht]; exact I, S.F ht⟩) S.2.2 hk hn
  have h9 := C.2.2.2.2.2.2.2.2.2.2
  rw [htb] at h9
  rw [List.map_eq_nil_iff.mp h9] at hx
  cases hx
end ZCALL
