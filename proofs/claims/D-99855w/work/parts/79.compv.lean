/-! THE COMPONENT: what is told, in the heap; calls by kinds. Printed by mkcompv.py -/
set_option maxRecDepth 100000
theorem csz_s {g : zG} {A : Nat → Nat} {X : zX} {s : Nat} (hA : cok g A X) (h : cst A s) : csz s = 4 := by
  obtain ⟨h1, h2, h3⟩ := h
  have h9 := hA.2.2.2
  unfold csz
  rw [if_pos (by omega)]
theorem csz_q {g : zG} {A : Nat → Nat} {X : zX} {s q : Nat} (hA : cok g A X) (h : cst A s) (hq : 1 ≤ q ∧ q ≤ 5) : csz (s + q) = 6 := by
  obtain ⟨h1, h2, h3⟩ := h
  have h9 := hA.2.2.2
  unfold csz
  rw [if_neg (by omega), if_neg (by omega)]
/-- a list in the heap: n objects by f -/
def cli (g : zG) (X : zX) (l n : Nat) (f : Nat → Option Nat) : Prop := ∃ (mc : Int32) (e c : Nat), X l = some (.inr (23, [.int mc, .ref e, .int (nI n)])) ∧ X e = some (.inl (zar g 4, c, .inr (.inr (.inr (.inr f))))) ∧ n ≤ c ∧ c < 2 ^ 31
/-- an expression's object, so deep at most, and what it is worth -/
def cexp (X : zX) : Nat → Nat → (Int32 → Int32 → Int32 → Int32 → Int32) → Prop
  | 0, _, _ => False
  | d + 1, e, w => (∃ n : Int32, X e = some (.inr (13, [.int n])) ∧ ∀ a b c x, w a b c x = n) ∨ (∃ k, k < 4 ∧ X e = some (.inr (14, [.int (nI k)])) ∧ ∀ a b c x, w a b c x = s_facts a b c x k)
    ∨ (∃ p w1, X e = some (.inr (15, [.ref p])) ∧ cexp X d p w1 ∧ ∀ a b c x, w a b c x = if w1 a b c x = 0 then 1 else 0)
    ∨ (∃ (ch : Int32) (op p q : Nat) (w1 w2 : Int32 → Int32 → Int32 → Int32 → Int32), X e = some (.inr (16, [.int ch, .ref p, .ref q])) ∧ ((ch = 43 ∧ op = 4) ∨ (ch = 45 ∧ op = 5) ∨ (ch = 42 ∧ op = 6) ∨ (ch = 60 ∧ op = 7) ∨ (ch = 61 ∧ op = 8) ∨ (ch = 38 ∧ op = 9) ∨ (ch = 124 ∧ op = 10)) ∧ cexp X d p w1 ∧ cexp X d q w2 ∧ ∀ a b c x, w a b c x = s_both op (w1 a b c x) (w2 a b c x))
theorem cexp.mono {X Y : zX} (h : ∀ a e, X a = some e → Y a = some e) : ∀ (d e : Nat) (w : Int32 → Int32 → Int32 → Int32 → Int32), cexp X d e w → cexp Y d e w
  | 0, _, _, hx => hx
  | d + 1, e, w, hx => by
    rcases hx with ⟨n, h1, h2⟩ | ⟨k, h0, h1, h2⟩ | ⟨p, w1, h1, h2, h3⟩ | ⟨ch, op, p, q, w1, w2, h1, h2, h3, h4, h5⟩
    · exact Or.inl ⟨n, h _ _ h1, h2⟩
    · exact Or.inr (Or.inl ⟨k, h0, h _ _ h1, h2⟩)
    · exact Or.inr (Or.inr (Or.inl ⟨p, w1, h _ _ h1, cexp.mono h d p w1 h2, h3⟩))
    · exact Or.inr (Or.inr (Or.inr ⟨ch, op, p, q, w1, w2, h _ _ h1, h2, cexp.mono h d p w1 h3, cexp.mono h d q w2 h4, h5⟩))
theorem cexp.deep {X : zX} : ∀ (d e : Nat) (w : Int32 → Int32 → Int32 → Int32 → Int32), cexp X d e w → cexp X (d + 1) e w
  | 0, _, _, hx => absurd hx id
  | d + 1, e, w, hx => by
    rcases hx with ⟨n, h1, h2⟩ | ⟨k, h0, h1, h2⟩ | ⟨p, w1, h1, h2, h3⟩ | ⟨ch, op, p, q, w1, w2, h1, h2, h3, h4, h5⟩
    · exact Or.inl ⟨n, h1, h2⟩
    · exact Or.inr (Or.inl ⟨k, h0, h1, h2⟩)
    · exact Or.inr (Or.inr (Or.inl ⟨p, w1, h1, cexp.deep d p w1 h2, h3⟩))
    · exact Or.inr (Or.inr (Or.inr ⟨ch, op, p, q, w1, w2, h1, h2, cexp.deep d p w1 h3, cexp.deep d q w2 h4, h5⟩))
/-- a house's, a day's object, as told -/
def chs (X : zX) (vs : Nat → Int32) (nh : Nat) (f : Nat → Option Nat) : Prop := ∀ h, h < nh → ∃ a n, f h = some a ∧ X a = some (.inr (7, [.ref n, .int (vs (2 * h + 4)), .int (vs (2 * h + 5))]))
def cgs (X : zX) (vs : Nat → Int32) (nd : Nat) (f : Nat → Option Nat) : Prop := ∀ d, d < nd → ∃ a n k, f d = some a ∧ k ≤ 3 ∧ vs (5 * d + 12) = nI k ∧ X a = some (.inr (8 + k, [.ref n, .int (vs (5 * d + 13)), .int (vs (5 * d + 14)), .int (vs (5 * d + 15)), .int (vs (5 * d + 16))]))
def cfd (X : zX) (fa : Option Nat) (wv : Int32 → Int32 → Int32 → Int32 → Int32) : Prop := (fa = none ∧ ∀ a b c d, wv a b c d = zm1) ∨ ∃ e, fa = some e ∧ cexp X 1000 e wv
/-- what is told, in the heap at v -/
def cvl (g : zG) (X : zX) (v : Nat) (vs : Nat → Int32) (nh nd : Nat) (wv : Int32 → Int32 → Int32 → Int32 → Int32) : Prop := ∃ (lh lg : Nat) (fh fg : Nat → Option Nat) (st : Int32) (fa : Option Nat), X v = some (.inr (3, [.ref lh, .ref lg, .int st, va_rf fa])) ∧ cli g X lh nh fh ∧ cli g X lg nd fg ∧ chs X vs nh fh ∧ cgs X vs nd fg ∧ (if st < 0 then 1 else st) = vs 2 ∧ cfd X fa wv
theorem cvl.mono {g : zG} {X Y : zX} {v : Nat} {vs : Nat → Int32} {nh nd : Nat} {wv : Int32 → Int32 → Int32 → Int32 → Int32} (h : ∀ a e, X a = some e → Y a = some e) (hv : cvl g X v vs nh nd wv) : cvl g Y v vs nh nd wv := by
  obtain ⟨lh, lg, fh, fg, st, fa, h1, ⟨m1, e1, c1, a1, a2, a3, a4⟩, ⟨m2, e2, c2, b1, b2, b3, b4⟩, h4, h5, h6, h7⟩ := hv
  refine ⟨lh, lg, fh, fg, st, fa, h _ _ h1, ⟨m1, e1, c1, h _ _ a1, h _ _ a2, a3, a4⟩, ⟨m2, e2, c2, h _ _ b1, h _ _ b2, b3, b4⟩, fun k hk => ?_, fun k hk => ?_, h6, ?_⟩
  · obtain ⟨a, n, q1, q2⟩ := h4 k hk
    exact ⟨a, n, q1, h _ _ q2⟩
  · obtain ⟨a, n, j, q1, q2, q3, q4⟩ := h5 k hk
    exact ⟨a, n, j, q1, q2, q3, h _ _ q4⟩
  · rcases h7 with h7 | ⟨e, q1, q2⟩
    · exact Or.inl h7
    · exact Or.inr ⟨e, q1, cexp.mono h _ _ _ q2⟩
section ZG
variable {g : zG} {M : zMth} {P : zPo} {k n : Nat} {X : zX} {pc index : Nat} {lv : List (Nat × Value)} {st rest As : List Value} {My : zMth} {Ry : Room} {pv : Option Value → zX → Prop} {k' n' : Nat}
theorem TX9_8 : ∀ q, q < 5 → TX9 q = TX8 q := by decide
theorem TX10_8 : ∀ q, q < 5 → TX10 q = TX8 q := by decide
theorem TX11_8 : ∀ q, q < 5 → TX11 q = TX8 q := by decide
theorem z_getG {a k0 : Nat} {fs : List Value} {v : Value} (q : Nat) (hx : X a = some (.inr (8 + k0, fs))) (hk0 : k0 ≤ 3) (hq : q < 5) (hlk : Cond.fieldLink M.1.cls index (TX8 q).1 (TX8 q).2.1 (TX8 q).2.2.1 ∈ lw_all) (hv : fs[q]? = some v) (hd : decode M.2.1 pc = .ok (.getfield index, 3)) (kk : zZ g M P k n X (pc + 3) lv (v :: st)) : zZ g M P k n X pc lv (.ref a :: st) := by
  rcases (by omega : k0 = 0 ∨ k0 = 1 ∨ k0 = 2 ∨ k0 = 3) with rfl | rfl | rfl | rfl
  · exact z_get q hx rfl in_X8 hq hlk hv hd kk
  · exact z_get q hx rfl in_X9 hq (by rw [TX9_8 q hq]; exact hlk) hv hd kk
  · exact z_get q hx rfl in_X10 hq (by rw [TX10_8 q hq]; exact hlk) hv hd kk
  · exact z_get q hx rfl in_X11 hq (by rw [TX11_8 q hq]; exact hlk) hv hd kk
theorem z_castG {a k0 : Nat} {fs : List Value} (hx : X a = some (.inr (8 + k0, fs))) (hk0 : k0 ≤ 3) (hlk : Cond.classLink M.1.cls index "DateVale$Guest" ∈ lw_all) (hd : decode M.2.1 pc = .ok (.checkcast index, 3)) (kk : zZ g M P k n X (pc + 3) lv (.ref a :: st)) : zZ g M P k n X pc lv (.ref a :: st) := by
  rcases (by omega : k0 = 0 ∨ k0 = 1 ∨ k0 = 2 ∨ k0 = 3) with rfl | rfl | rfl | rfl
  · exact z_castS hx rfl hlk rfl hd kk
  · exact z_castY hx rfl hlk q2079 hd kk
  · exact z_castY hx rfl hlk q2080 hd kk
  · exact z_castY hx rfl hlk q2081 hd kk
/-- the named method is abstract: x = owner's is named, y is run -/
theorem z_callA {b ci : Nat} {fs : List Value} {r : vw_C} {x : MethodName} {owner : String} (hM : zN g My Ry (.ref b :: As) X pv) (q1 : Cond.methodLink M.1.cls index x ∈ lw_all) (qs : Cond.sameMethod x.cls owner x.name x.desc ∈ lw_all) (q3 : Cond.selects r.1 x My.1 ∈ lw_all) (q2 : Cond.instanceMethod My.1 ∈ lw_all) (q4 : Cond.initialized My.1.cls ∈ lw_all) (q5 : Cond.code My.1 My.2.1 My.2.2.1 My.2.2.2.1 ∈ lw_all) (h0 : Cond.declares ⟨owner, x.name, x.desc⟩ ∈ lw_tbl) (hnm : owner ≠ "java/lang/invoke/MethodHandle" ∧ owner ≠ "java/lang/invoke/VarHandle" ∧ (parseMethodDescriptor x.desc).map (fun d => d.parameters.length) = some As.length) (hb : X b = some (.inr (ci, fs))) (hc : zcl[ci]? = some r) {st0 : List Value} (hst : st0 = As.reverse ++ .ref b :: rest) (hW : (rest.map fun v => v.category).sum ≤ 8) (hR : zfit Ry My P.2.2) (hd : decode M.2.1 pc = .ok (.invokevirtual index, 3)) (ek : k + Ry.cells = k') (en : n + Ry.slots = n') (hk : k' ≤ P.2.2.cells) (hn : n' ≤ P.2.2.slots)
    (kk : ∀ (v : Option Value) (X' : zX), pv v X' → zZ g M P k' n' X' (pc + 3) lv (v.toList ++ rest)) : zZ g M P k n X pc lv st0 := by
  subst ek
  subst en
  intro p e s m args below meth c H locs ls C I S L
  refine z_after (va_runU ⟨C.1, C.2.1, C.2.2.2.2.1, C.2.2.2.2.2.1, C.2.2.2.2.2.2.1⟩ hM (va_cwA (C := r.1) (owner := owner) (x := x) As.length C.2.2.2.2.2.2.1 (lw_app (fun w hw => ?_) (lw_meth q5)) rfl rfl rfl (C.2.2.2.2.2.2.2.1.2.1 _ h0 rfl) hnm hR) (zpreV C.2.2.2.2.2.2.2.1 C.2.2.2.2.2.2.2.2.1 I S hb hc rfl) rfl rfl L.1 hst (lv_room hW) hd ⟨hk, hn⟩) S (fun v X' H' locs' hp I' S' => kk v X' hp p e s m args below meth c H' locs' ls C I' S' L)
  simp only [List.mem_cons, List.not_mem_nil, or_false] at hw
  rcases hw with e | e | e | e | e
  · rw [e]; exact q1
  · rw [e]; exact qs
  · rw [e]; exact q3
  · rw [e]; exact q2
  · rw [e]; exact q4
theorem z_gBeds {a k0 : Nat} {fs : List Value}  (hx : X a = some (.inr (8 + k0, fs))) (hk0 : k0 ≤ 3)  (q1 : Cond.methodLink M.1.cls index yX8_beds ∈ lw_all) (hW : (rest.map fun v => v.category).sum ≤ 8) (hf : 1 ≤ P.2.2.frames) (hl : 60 ≤ P.2.2.locals) (hd : decode M.2.1 pc = .ok (.invokevirtual index, 3)) (hk : k ≤ P.2.2.cells) (hn : n ≤ P.2.2.slots) (kk : zZ g M P k n X (pc + 3) lv (.int (if k0 = 1 then 2 else 1) :: rest)) : zZ g M P k n X pc lv (.ref a :: rest) := by
  rcases (by omega : k0 = 0 ∨ k0 = 1 ∨ k0 = 2 ∨ k0 = 3) with rfl | rfl | rfl | rfl
  · refine z_callV (As := []) (t_bedsG_0 a) q1 q1150 q1151 q137 q1158 nm_X8_beds hx rfl rfl rfl hW ⟨by show 0 + 1 ≤ _; omega, by show 8 + (_ + 11) + 0 ≤ _; have h9 : m_X8_beds.2.2.1 ≤ 10 := (by decide); omega⟩ hd rfl rfl (by show k + 0 ≤ _; omega) (by show n + 0 ≤ _; omega) (fun v X9 hp => ?_)
    obtain ⟨rfl, rfl⟩ := hp
    exact z_eq rfl kk
  · refine z_callO (As := []) (x := yX8_beds) (owner := "DateVale$Guest") (t_bedsG_1 a) q1 q1152 q1150 q1153 q1154 q138 q1155 q1158 ⟨by decide +kernel, by decide +kernel, nm_X8_beds.2.2⟩ hx rfl rfl hW ⟨by show 0 + 1 ≤ _; omega, by show 8 + (_ + 11) + 0 ≤ _; have h9 : m_X9_beds.2.2.1 ≤ 10 := (by decide); omega⟩ hd rfl rfl (by show k + 0 ≤ _; omega) (by show n + 0 ≤ _; omega) (fun v X9 hp => ?_)
    obtain ⟨rfl, rfl⟩ := hp
    exact z_eq rfl kk
  · refine z_callU (As := []) (x := yX8_beds) (owner := "DateVale$Guest") (t_bedsG_0 a) q1 q1152 q1156 q1150 q137 q1158 rfl ⟨by decide +kernel, by decide +kernel, nm_X8_beds.2.2⟩ hx rfl rfl hW ⟨by show 0 + 1 ≤ _; omega, by show 8 + (_ + 11) + 0 ≤ _; have h9 : m_X8_beds.2.2.1 ≤ 10 := (by decide); omega⟩ hd rfl rfl (by show k + 0 ≤ _; omega) (by show n + 0 ≤ _; omega) (fun v X9 hp => ?_)
    obtain ⟨rfl, rfl⟩ := hp
    exact z_eq rfl kk
  · refine z_callU (As := []) (x := yX8_beds) (owner := "DateVale$Guest") (t_bedsG_0 a) q1 q1152 q1157 q1150 q137 q1158 rfl ⟨by decide +kernel, by decide +kernel, nm_X8_beds.2.2⟩ hx rfl rfl hW ⟨by show 0 + 1 ≤ _; omega, by show 8 + (_ + 11) + 0 ≤ _; have h9 : m_X8_beds.2.2.1 ≤ 10 := (by decide); omega⟩ hd rfl rfl (by show k + 0 ≤ _; omega) (by show n + 0 ≤ _; omega) (fun v X9 hp => ?_)
    obtain ⟨rfl, rfl⟩ := hp
    exact z_eq rfl kk
theorem z_gKind {a k0 : Nat} {fs : List Value}  (hx : X a = some (.inr (8 + k0, fs))) (hk0 : k0 ≤ 3)  (q1 : Cond.methodLink M.1.cls index yX8_kind ∈ lw_all) (hW : (rest.map fun v => v.category).sum ≤ 8) (hf : 1 ≤ P.2.2.frames) (hl : 60 ≤ P.2.2.locals) (hd : decode M.2.1 pc = .ok (.invokevirtual index, 3)) (hk : k ≤ P.2.2.cells) (hn : n ≤ P.2.2.slots) (kk : zZ g M P k n X (pc + 3) lv (.int (nI k0) :: rest)) : zZ g M P k n X pc lv (.ref a :: rest) := by
  rcases (by omega : k0 = 0 ∨ k0 = 1 ∨ k0 = 2 ∨ k0 = 3) with rfl | rfl | rfl | rfl
  · refine z_callV (As := []) (t_kind_0 a) q1 q1181 q1182 q137 q1193 nm_X8_kind hx rfl rfl rfl hW ⟨by show 0 + 1 ≤ _; omega, by show 8 + (_ + 11) + 0 ≤ _; have h9 : m_X8_kind.2.2.1 ≤ 10 := (by decide); omega⟩ hd rfl rfl (by show k + 0 ≤ _; omega) (by show n + 0 ≤ _; omega) (fun v X9 hp => ?_)
    obtain ⟨rfl, rfl⟩ := hp
    exact z_eq rfl kk
  · refine z_callO (As := []) (x := yX8_kind) (owner := "DateVale$Guest") (t_kind_1 a) q1 q1183 q1181 q1184 q1185 q138 q1186 q1193 ⟨by decide +kernel, by decide +kernel, nm_X8_kind.2.2⟩ hx rfl rfl hW ⟨by show 0 + 1 ≤ _; omega, by show 8 + (_ + 11) + 0 ≤ _; have h9 : m_X9_kind.2.2.1 ≤ 10 := (by decide); omega⟩ hd rfl rfl (by show k + 0 ≤ _; omega) (by show n + 0 ≤ _; omega) (fun v X9 hp => ?_)
    obtain ⟨rfl, rfl⟩ := hp
    exact z_eq rfl kk
  · refine z_callO (As := []) (x := yX8_kind) (owner := "DateVale$Guest") (t_kind_2 a) q1 q1183 q1181 q1187 q1188 q139 q1189 q1193 ⟨by decide +kernel, by decide +kernel, nm_X8_kind.2.2⟩ hx rfl rfl hW ⟨by show 0 + 1 ≤ _; omega, by show 8 + (_ + 11) + 0 ≤ _; have h9 : m_X10_kind.2.2.1 ≤ 10 := (by decide); omega⟩ hd rfl rfl (by show k + 0 ≤ _; omega) (by show n + 0 ≤ _; omega) (fun v X9 hp => ?_)
    obtain ⟨rfl, rfl⟩ := hp
    exact z_eq rfl kk
  · refine z_callO (As := []) (x := yX8_kind) (owner := "DateVale$Guest") (t_kind_3 a) q1 q1183 q1181 q1190 q1191 q140 q1192 q1193 ⟨by decide +kernel, by decide +kernel, nm_X8_kind.2.2⟩ hx rfl rfl hW ⟨by show 0 + 1 ≤ _; omega, by show 8 + (_ + 11) + 0 ≤ _; have h9 : m_X11_kind.2.2.1 ≤ 10 := (by decide); omega⟩ hd rfl rfl (by show k + 0 ≤ _; omega) (by show n + 0 ≤ _; omega) (fun v X9 hp => ?_)
    obtain ⟨rfl, rfl⟩ := hp
    exact z_eq rfl kk
theorem z_gComes {a k0 : Nat} {fs : List Value} {own : Int32} {mo yr : Nat} (hx : X a = some (.inr (8 + k0, fs))) (hk0 : k0 ≤ 3) (hmo : mo < 12) (hyr : yr < 2 ^ 30) (q1 : Cond.methodLink M.1.cls index yX8_comes ∈ lw_all) (hW : (rest.map fun v => v.category).sum ≤ 8) (hf : 1 ≤ P.2.2.frames) (hl : 60 ≤ P.2.2.locals) (hd : decode M.2.1 pc = .ok (.invokevirtual index, 3)) (hk : k ≤ P.2.2.cells) (hn : n ≤ P.2.2.slots) (kk : zZ g M P k n X (pc + 3) lv (.int (zb (if k0 = 2 then decide (nI ((mo + 1) % 12) = own) else decide (nI mo = own) && (decide (¬ k0 = 3) || decide (yr % 4 = 0)))) :: rest)) : zZ g M P k n X pc lv (.int (nI yr) :: .int (nI mo) :: .int own :: .ref a :: rest) := by
  rcases (by omega : k0 = 0 ∨ k0 = 1 ∨ k0 = 2 ∨ k0 = 3) with rfl | rfl | rfl | rfl
  · refine z_callV (As := [.int own, .int (nI mo), .int (nI yr)]) (t_comesG_0 a own (nI mo) (nI yr)) q1 q1222 q1223 q137 q1232 nm_X8_comes hx rfl rfl rfl hW ⟨by show 0 + 1 ≤ _; omega, by show 8 + (_ + 11) + 0 ≤ _; have h9 : m_X8_comes.2.2.1 ≤ 10 := (by decide); omega⟩ hd rfl rfl (by show k + 0 ≤ _; omega) (by show n + 0 ≤ _; omega) (fun v X9 hp => ?_)
    obtain ⟨rfl, rfl⟩ := hp
    exact z_eq (congrArg zb (by simp [eq_comm])) kk
  · refine z_callU (As := [.int own, .int (nI mo), .int (nI yr)]) (x := yX8_comes) (owner := "DateVale$Guest") (t_comesG_0 a own (nI mo) (nI yr)) q1 q1224 q1225 q1222 q137 q1232 rfl ⟨by decide +kernel, by decide +kernel, nm_X8_comes.2.2⟩ hx rfl rfl hW ⟨by show 0 + 1 ≤ _; omega, by show 8 + (_ + 11) + 0 ≤ _; have h9 : m_X8_comes.2.2.1 ≤ 10 := (by decide); omega⟩ hd rfl rfl (by show k + 0 ≤ _; omega) (by show n + 0 ≤ _; omega) (fun v X9 hp => ?_)
    obtain ⟨rfl, rfl⟩ := hp
    exact z_eq (congrArg zb (by simp [eq_comm])) kk
  · refine z_callO (As := [.int own, .int (nI mo), .int (nI yr)]) (x := yX8_comes) (owner := "DateVale$Guest") (t_comesG_2 a mo own (nI yr) hmo) q1 q1224 q1222 q1226 q1227 q139 q1228 q1232 ⟨by decide +kernel, by decide +kernel, nm_X8_comes.2.2⟩ hx rfl rfl hW ⟨by show 0 + 1 ≤ _; omega, by show 8 + (_ + 11) + 0 ≤ _; have h9 : m_X10_comes.2.2.1 ≤ 10 := (by decide); omega⟩ hd rfl rfl (by show k + 0 ≤ _; omega) (by show n + 0 ≤ _; omega) (fun v X9 hp => ?_)
    obtain ⟨rfl, rfl⟩ := hp
    exact z_eq (congrArg zb (by simp [eq_comm])) kk
  · refine z_callO (As := [.int own, .int (nI mo), .int (nI yr)]) (x := yX8_comes) (owner := "DateVale$Guest") (t_comesG_3 a mo yr own hmo hyr) q1 q1224 q1222 q1229 q1230 q140 q1231 q1232 ⟨by decide +kernel, by decide +kernel, nm_X8_comes.2.2⟩ hx rfl rfl hW ⟨by show 0 + 1 ≤ _; omega, by show 8 + (_ + 11) + 0 ≤ _; have h9 : m_X11_comes.2.2.1 ≤ 10 := (by decide); omega⟩ hd rfl rfl (by show k + 0 ≤ _; omega) (by show n + 0 ≤ _; omega) (fun v X9 hp => ?_)
    obtain ⟨rfl, rfl⟩ := hp
    exact z_eq (congrArg zb (by simp [eq_comm])) kk
end ZG
