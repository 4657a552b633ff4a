/-! THROWS AND HANDLERS in the judgement zZ: printed by mkexc.py -/
set_option maxRecDepth 100000
theorem zx_c {w : Cond} {B : List Cond} (h : w ∈ lw_all ∨ (w ∈ lw_tbl ∧ zsp w = true)) (t : ∀ w ∈ B, w ∈ lw_all ∨ (w ∈ lw_tbl ∧ zsp w = true)) : ∀ w' ∈ w :: B, w' ∈ lw_all ∨ (w' ∈ lw_tbl ∧ zsp w' = true) := fun w' h' => (List.mem_cons.mp h').elim (fun e => by rw [e]; exact h) (t w')
theorem zx_n : ∀ w ∈ ([] : List Cond), w ∈ lw_all ∨ (w ∈ lw_tbl ∧ zsp w = true) := fun _ h => nomatch h
theorem z_nse : ∀ w ∈ vx_at0 "DateVale" 12 "java/util/NoSuchElementException" ["java/lang/RuntimeException", "java/lang/Exception"], w ∈ lw_all ∨ (w ∈ lw_tbl ∧ zsp w = true) := zx_c (Or.inl q127) (zx_c (Or.inl q566) (zx_c (Or.inl q575) (zx_c (Or.inl q578) (zx_c (Or.inl q581) (zx_c (Or.inl q583) (zx_c (Or.inl q567) (zx_c (Or.inl q568) (zx_c (Or.inl q160) (zx_c (Or.inl q161) (zx_c (Or.inl q569) (zx_c (Or.inl q574) (zx_c (Or.inl q579) (zx_c (Or.inl q600) (zx_c (Or.inl q556) (zx_c (Or.inl q601) (zx_c (Or.inl q558) (zx_c (Or.inl q602) (zx_c (Or.inl q560) (zx_c (Or.inl q570) (zx_c (Or.inl q572) (zx_c (Or.inl q562) (zx_c (Or.inl q1504) (zx_c (Or.inl q1505) (zx_c (Or.inl q1506) (zx_c (Or.inl q1507) (zx_c (Or.inr ⟨q547, rfl⟩) (zx_c (Or.inl q1507) (zx_c (Or.inl q1508) (zx_c (Or.inl q1509) (zx_c (Or.inl q1510) (zx_c (Or.inr ⟨q549, rfl⟩) (zx_c (Or.inl q1510) (zx_c (Or.inl q1511) (zx_c (Or.inl q1512) (zx_c (Or.inl q567) (zx_c (Or.inr ⟨q551, rfl⟩) (zx_c (Or.inl q1503) (zx_c (Or.inl q1495) (zx_c (Or.inr ⟨q1496, rfl⟩) (zx_c (Or.inl q1497) (zx_c (Or.inl q577) (zx_c (Or.inl q1498) (zx_c (Or.inl q1499) (zx_c (Or.inl q1500) (zx_c (Or.inl q1501) (zx_c (Or.inl q565) (zx_c (Or.inl q564) (zx_c (Or.inl q1502) (zx_n)))))))))))))))))))))))))))))))))))))))))))))))))
section ZEX
variable {g : zG} {M : zMth} {P : zPo} {k n k' n' : Nat} {X : zX} {pc index : Nat} {lv : List (Nat × Value)} {st rest As : List Value} {My : zMth} {Ry : Room} {pv : Option Value → zX → Prop} {px : Nat → String → zX → Prop}
theorem z_words {s : State} {args : Array Value} {L : List Cond} (h : ∀ w ∈ lw_all, w.before args s = true) (hK : zK g s) (hL : ∀ w ∈ L, w ∈ lw_all ∨ (w ∈ lw_tbl ∧ zsp w = true)) : ∀ w ∈ L, w.before args s = true := fun w hw => by
  rcases hL w hw with h1 | ⟨h1, h2⟩
  · exact h w h1
  · have h9 := hK.2.1 w h1 h2
    cases w with
    | castable C T => exact va_Nw.use (A := args) rfl h9
    | declares x => exact va_Nw.use (A := args) rfl h9
    | fieldLinkNest a i b n d h => exact va_Nw.use (A := args) rfl h9
    | methodLinkNest a i x h => exact va_Nw.use (A := args) rfl h9
    | privateMethod y => exact va_Nw.use (A := args) rfl h9
    | _ => cases h2
/-- 'throw new NoSuchElementException()' -/
theorem z_throwN (hst : g.1.stackTraces = false) (hM : M.1.cls = "DateVale") (d0 : decode M.2.1 pc = .ok (.new 10, 3)) (d3 : decode M.2.1 (pc + 3) = .ok (.dup, 1)) (d4 : decode M.2.1 (pc + 4) = .ok (.invokespecial 12, 3)) (d7 : decode M.2.1 (pc + 7) = .ok (.athrow, 1)) (htb : M.2.2.2.2 = []) (hf : 6 ≤ P.2.2.frames) (hl : 90 ≤ P.2.2.locals) (hW : (st.map fun v => v.category).sum ≤ 8) (hk : k + 1 ≤ P.2.2.cells) (hn : n + 6 ≤ P.2.2.slots)
    (hx : ∀ q : Nat, P.2.1 q "java/util/NoSuchElementException" X) : zZ g M P k n X pc lv st := by
  intro p e s m args below meth c H locs ls C I S L
  have hw := C.2.2.2.2.2.2.1
  have hz := z_words (args := args) hw C.2.2.2.2.2.2.2.1 z_nse
  have hout : ∀ x ∈ c.exceptionTable.toList, covers x (pc + 7) = false := fun x hx9 => by
    have h9 := C.2.2.2.2.2.2.2.2.2.2
    rw [htb] at h9
    rw [List.map_eq_nil_iff.mp h9] at hx9
    cases hx9
  have h1 := vx_throw0 (p := p) (l := g.1) (e := e) (R := P.2.2) (s := s) (m := m) (args := args) (below := below) (meth := meth) (c := c) (H := H) (locs := locs) (cells := k) (slots := n) (free := zAf g) (ls := ls) (rest := st) (Qc := zPos g P.1) (XC := fun E u t => ∀ q, zXC g P.2.1 q E u t) (cc := M.2.1) (pc := pc) (mc := P.2.2.cells) (ms := P.2.2.slots) (A := zAf g) (names := ["java/lang/RuntimeException", "java/lang/Exception"]) C.1 C.2.1 hst (own := "DateVale") (cls := "java/util/NoSuchElementException") (ik := 10) (ic := 12) (by rw [← hM]; exact C.2.2.2.2.2.1) (by decide +kernel) (by decide +kernel) (hw _ q1494) (hw _ q152) hz (by decide +kernel) C.2.2.2.2.2.2.2.2.1.2.2.2.2.1 C.2.2.2.2.2.2.2.2.1.2.2.2.2.2.1 S (L.1.trans C.2.2.2.2.1.symm) d0 d3 d4 d7 hout (by show 2 + 3 < _; omega) (by show _ + (13 * 3 + 42) ≤ _; omega) hk hn C.2.2.2.1
    (fun t ha hs ho q => ⟨X, hx q, fun b f hb => (I b f hb).kept (ho b (I b f hb).lt), ⟨Nat.le_trans S.1 hs, fun y y1 y2 => (ho y (Nat.lt_of_lt_of_le y1 S.1)).trans (S.2.1 y y1 y2)⟩⟩) S.2.2 hk hn
  refine zW.mono (fun t ht => ?_) h1
  obtain ⟨o, b1, b2, b3⟩ := ht
  refine ⟨o, b1, b2, ?_⟩
  rcases b3 with b3 | ⟨q, b3, E, ce, LL, b4, b5⟩
  · exact Or.inl b3
  · exact Or.inr ⟨q, b3, E, ce, LL, b4 q, b5⟩
/-- a call whose throw is caught by the first row of this method's table -/
theorem z_callVc {b ci s0 e0 h0 ct : Nat} {tl : List (Nat × Nat × Nat × Nat)} {name : String} {fs : List Value} {r : vw_C} (hM : zV g My Ry (.ref b :: As) X pv px) (q1 : Cond.methodLink M.1.cls index My.1 ∈ lw_all) (q2 : Cond.instanceMethod My.1 ∈ lw_all) (q3 : Cond.selects My.1.cls My.1 My.1 ∈ lw_all) (q4 : Cond.initialized My.1.cls ∈ lw_all) (q5 : Cond.code My.1 My.2.1 My.2.2.1 My.2.2.2.1 ∈ lw_all) (hnm : znam My.1 As.length) (hb : X b = some (.inr (ci, fs))) (hc : zcl[ci]? = some r) (hr : r.1 = My.1.cls) {st0 : List Value} (hst : st0 = As.reverse ++ .ref b :: rest) (hW : (rest.map fun v => v.category).sum ≤ 8) (hR : zfit Ry My P.2.2) (hd : decode M.2.1 pc = .ok (.invokevirtual index, 3)) (ek : k + Ry.cells = k') (en : n + Ry.slots = n') (hk : k' ≤ P.2.2.cells) (hn : n' ≤ P.2.2.slots)
    (htb : M.2.2.2.2 = (s0, e0, h0, ct) :: tl) (hcov : s0 ≤ pc ∧ pc < e0) (hct : ct ≠ 0) (hlk : Cond.classLink M.1.cls ct name ∈ lw_all)
    (kx : ∀ (q : Nat) (E : String) (X' : zX), px q E X' → Cond.castable E name ∈ lw_tbl ∧ zZ g M P k' n' X' h0 lv [.ref q])
    (kk : ∀ (v : Option Value) (X' : zX), pv v X' → zZ g M P k' n' X' (pc + 3) lv (v.toList ++ rest)) : zZ g M P k n X pc lv st0 := by
  subst ek
  subst en
  intro p e s m args below meth c H locs ls C I S L
  refine z_afterX (yx_runV ⟨C.1, C.2.1, C.2.2.2.2.1, C.2.2.2.2.2.1, C.2.2.2.2.2.2.1⟩ hM (cwV As.length C.2.2.2.2.2.2.1 (lw_V q1 q2 q3 q4 q5) rfl rfl rfl ⟨rfl, hnm⟩ hR) (zpreV C.2.2.2.2.2.2.2.1 C.2.2.2.2.2.2.2.2.1 I S hb hc hr) rfl rfl L.1 hst (lv_room hW) hd ⟨hk, hn⟩) S (fun q E ce X' H' locs' hp I' S' h1 h2 h3 => ?_) (fun v X' H' locs' hp I' S' => kk v X' hp p e s m args below meth c H' locs' ls C I' S' L)
  obtain ⟨hca, kz⟩ := kx q E X' hp
  have h9 := C.2.2.2.2.2.2.2.2.2.2
  rw [htb] at h9
  cases hl : c.exceptionTable.toList with
  | nil => rw [hl] at h9; cases h9
  | cons x suf =>
    rw [hl] at h9
    have h8 := (List.cons.inj h9).1
    have a1 : x.startPc = s0 := congrArg (fun z => z.1) h8
    have a2 : x.endPc = e0 := congrArg (fun z => z.2.1) h8
    have a3 : x.handlerPc = h0 := congrArg (fun z => z.2.2.1) h8
    have a4 : x.catchType = ct := congrArg (fun z => z.2.2.2) h8
    refine vx_catch C.2.2.2.2.2.1 [] x suf hl (fun z hz => absurd hz List.not_mem_nil) ?_ (by rw [a4]; exact hct) (by rw [a4]; exact C.2.2.2.2.2.2.1 _ hlk) (va_Nw.use (A := args) rfl (C.2.2.2.2.2.2.2.1.2.1 _ hca rfl)) h1 h2 h3 ?_
    · show (decide (x.startPc ≤ pc) && decide (pc < x.endPc)) = true
      rw [a1, a2, decide_eq_true hcov.1, decide_eq_true hcov.2]
      rfl
    · rw [a3]
      exact kz p e s m args below meth c H' locs' ls C I' S' L
/-- a static method with handlers, that returns -/
theorem z_callSH (hM : zNH g My Ry As X pv) (q1 : Cond.methodLink M.1.cls index My.1 ∈ lw_all) (q2 : Cond.static My.1 ∈ lw_all) (q4 : Cond.initialized My.1.cls ∈ lw_all) (q5 : Cond.codeWith My.1 My.2.1 My.2.2.1 My.2.2.2.1 My.2.2.2.2 ∈ lw_all) (hnm : znam My.1 As.length) {st0 : List Value} (hst : st0 = As.reverse ++ rest) (hW : (rest.map fun v => v.category).sum ≤ 8) (hR : zfit Ry My P.2.2) (hd : decode M.2.1 pc = .ok (.invokestatic index, 3)) (ek : k + Ry.cells = k') (en : n + Ry.slots = n') (hk : k' ≤ P.2.2.cells) (hn : n' ≤ P.2.2.slots)
    (kk : ∀ (v : Option Value) (X' : zX), pv v X' → zZ g M P k' n' X' (pc + 3) lv (v.toList ++ rest)) : zZ g M P k n X pc lv st0 := by
  subst ek
  subst en
  intro p e s m args below meth c H locs ls C I S L
  have hw := C.2.2.2.2.2.2.1
  exact z_after (vx_runSW ⟨C.1, C.2.1, C.2.2.2.2.1, C.2.2.2.2.2.1, C.2.2.2.2.2.2.1⟩ hM ⟨⟨rfl, rfl, hR.1, hR.2, pay_in hw (lw_methW q5), List.mem_cons_self⟩, hw _ q5, hw _ q4, ⟨hnm.1, hnm.2.1⟩, fun sig h => by
      have h2 := hnm.2.2
      rw [h] at h2
      exact (Option.some.inj h2).symm, hw _ q1, hw _ q2⟩ (zpre C.2.2.2.2.2.2.2.1 C.2.2.2.2.2.2.2.2.1 I S) rfl rfl L.1 hst (lv_room hW) hd ⟨hk, hn⟩) S (fun v X' H' locs' hp I' S' => kk v X' hp p e s m args below meth c H' locs' ls C I' S' L)
/-- a method with handlers, called through an object -/
theorem z_callVH {b ci : Nat} {fs : List Value} {r : vw_C} (hM : zNH g My Ry (.ref b :: As) X pv) (q1 : Cond.methodLink M.1.cls index My.1 ∈ lw_all) (q2 : Cond.instanceMethod My.1 ∈ lw_all) (q3 : Cond.selects My.1.cls My.1 My.1 ∈ lw_all) (q4 : Cond.initialized My.1.cls ∈ lw_all) (q5 : Cond.codeWith My.1 My.2.1 My.2.2.1 My.2.2.2.1 My.2.2.2.2 ∈ lw_all) (hnm : znam My.1 As.length) (hb : X b = some (.inr (ci, fs))) (hc : zcl[ci]? = some r) (hr : r.1 = My.1.cls) {st0 : List Value} (hst : st0 = As.reverse ++ .ref b :: rest) (hW : (rest.map fun v => v.category).sum ≤ 8) (hR : zfit Ry My P.2.2) (hd : decode M.2.1 pc = .ok (.invokevirtual index, 3)) (ek : k + Ry.cells = k') (en : n + Ry.slots = n') (hk : k' ≤ P.2.2.cells) (hn : n' ≤ P.2.2.slots)
    (kk : ∀ (v : Option Value) (X' : zX), pv v X' → zZ g M P k' n' X' (pc + 3) lv (v.toList ++ rest)) : zZ g M P k n X pc lv st0 := by
  subst ek
  subst en
  intro p e s m args below meth c H locs ls C I S L
  exact z_after (vx_runVW ⟨C.1, C.2.1, C.2.2.2.2.1, C.2.2.2.2.2.1, C.2.2.2.2.2.2.1⟩ hM (vx_cwVW As.length C.2.2.2.2.2.2.1 (lw_VW q1 q2 q3 q4 q5) rfl rfl rfl ⟨rfl, hnm⟩ hR) (zpreV C.2.2.2.2.2.2.2.1 C.2.2.2.2.2.2.2.2.1 I S hb hc hr) rfl rfl L.1 hst (lv_room hW) hd ⟨hk, hn⟩) S (fun v X' H' locs' hp I' S' => kk v X' hp p e s m args below meth c H' locs' ls C I' S' L)
/-- some reference, or null -/
theorem z_gsU (hlk : Cond.fieldLink M.1.cls index Bundle.tN "UNASSIGNED_STACK" Bundle.steD ∈ lw_all) (hd : decode M.2.1 pc = .ok (.getstatic index, 3)) (kk : ∀ v : Value, (v = .null ∨ ∃ t : Nat, v = .ref t) → zZ g M P k n X (pc + 3) lv (v :: st)) : zZ g M P k n X pc lv st := by
  intro p e s m args below meth c H locs ls C I S L
  rcases C.2.2.2.2.2.2.2.2.1.2.2.2.2.1.1 with hz | ⟨t, hz⟩
  · exact va_gets C.1 C.2.1 hz S C.2.2.2.2.2.1 (C.2.2.2.2.2.2.1 _ hlk) (fun x h => h) hd (kk _ (Or.inl rfl) p e s m args below meth c H locs ls C I S L)
  · exact va_gets C.1 C.2.1 hz S C.2.2.2.2.2.1 (C.2.2.2.2.2.2.1 _ hlk) (fun x h => h) hd (kk _ (Or.inr ⟨t, rfl⟩) p e s m args below meth c H locs ls C I S L)
theorem z_gsW (hlk : Cond.fieldLink M.1.cls index Bundle.tN "SUPPRESSED_SENTINEL" Bundle.listD ∈ lw_all) (hd : decode M.2.1 pc = .ok (.getstatic index, 3)) (kk : ∀ v : Value, (v = .null ∨ ∃ t : Nat, v = .ref t) → zZ g M P k n X (pc + 3) lv (v :: st)) : zZ g M P k n X pc lv st := by
  intro p e s m args below meth c H locs ls C I S L
  rcases C.2.2.2.2.2.2.2.2.1.2.2.2.2.2.1.1 with hz | ⟨t, hz⟩
  · exact va_gets C.1 C.2.1 hz S C.2.2.2.2.2.1 (C.2.2.2.2.2.2.1 _ hlk) (fun x h => h) hd (kk _ (Or.inl rfl) p e s m args below meth c H locs ls C I S L)
  · exact va_gets C.1 C.2.1 hz S C.2.2.2.2.2.1 (C.2.2.2.2.2.2.1 _ hlk) (fun x h => h) hd (kk _ (Or.inr ⟨t, rfl⟩) p e s m args below meth c H locs ls C I S L)
end ZEX
