/-! ROWS of the model's world -/
set_option maxRecDepth 100000
/-- a truth value as an int -/
def zb (b : Bool) : Int32 := if b = true then 1 else 0
theorem zb_t {b : Bool} (h : b = true) : zb b = 1 := by rw [h]; rfl
theorem zb_f {b : Bool} (h : b = false) : zb b = 0 := by rw [h]; rfl
theorem zb_0 {b : Bool} : zb b = 0 ↔ b = false := by cases b <;> decide
theorem zb_not {b : Bool} (h : ¬ b = true) : b = false := by cases b <;> simp_all
section ZB
variable {g : zG} {M : zMth} {P : zPo} {k n : Nat} {X : zX} {pc : Nat} {lv : List (Nat × Value)} {st : List Value}
theorem z_if_eqb {b : Bool} {off : Int} (tgt : Nat) (hd : decode M.2.1 pc = .ok (.ifCond .eq off, 3)) (ht : (pc : Int) + off = (tgt : Int)) (kt : b = false → zZ g M P k n X tgt lv st) (kf : b = true → zZ g M P k n X (pc + 3) lv st) : zZ g M P k n X pc lv (.int (zb b) :: st) :=
  z_if_eq tgt hd ht (fun h => kt (zb_0.mp h)) (fun h => kf (by cases b; exact absurd rfl h; rfl))
theorem z_if_neb {b : Bool} {off : Int} (tgt : Nat) (hd : decode M.2.1 pc = .ok (.ifCond .ne off, 3)) (ht : (pc : Int) + off = (tgt : Int)) (kt : b = true → zZ g M P k n X tgt lv st) (kf : b = false → zZ g M P k n X (pc + 3) lv st) : zZ g M P k n X pc lv (.int (zb b) :: st) :=
  z_if_ne tgt hd ht (fun h => kt (by cases b; exact absurd rfl h; rfl)) (fun h => kf (zb_0.mp h))
theorem z_st {st' : List Value} (h : st = st') (kk : zZ g M P k n X pc lv st') : zZ g M P k n X pc lv st := by subst h; exact kk
theorem z_iaddN {a b : Nat} (hd : decode M.2.1 pc = .ok (.iadd, 1)) (kk : zZ g M P k n X (pc + 1) lv (.int (nI (a + b)) :: st)) : zZ g M P k n X pc lv (.int (nI b) :: .int (nI a) :: st) :=
  z_iadd hd (by rw [nI_add]; exact kk)
theorem z_imulN {a b : Nat} (hd : decode M.2.1 pc = .ok (.imul, 1)) (kk : zZ g M P k n X (pc + 1) lv (.int (nI (a * b)) :: st)) : zZ g M P k n X pc lv (.int (nI b) :: .int (nI a) :: st) :=
  z_imul hd (by rw [pk_mul]; exact kk)
theorem z_isubN {a b : Nat} (h : b ≤ a) (hd : decode M.2.1 pc = .ok (.isub, 1)) (kk : zZ g M P k n X (pc + 1) lv (.int (nI (a - b)) :: st)) : zZ g M P k n X pc lv (.int (nI b) :: .int (nI a) :: st) :=
  z_isub hd (by rw [pk_sub h]; exact kk)
theorem z_iremN {a b : Nat} (ha : a < 2 ^ 31) (h0 : 0 < b) (hb : b < 2 ^ 31) (hd : decode M.2.1 pc = .ok (.irem, 1)) (kk : zZ g M P k n X (pc + 1) lv (.int (nI (a % b)) :: st)) : zZ g M P k n X pc lv (.int (nI b) :: .int (nI a) :: st) :=
  z_irem hd (fun h => by have := (nI_eq (b := 0) hb (by decide)).mp h; omega) (by rw [pk_rem ha h0 hb]; exact kk)
theorem z_idivN {a b : Nat} (ha : a < 2 ^ 31) (h0 : 0 < b) (hb : b < 2 ^ 31) (hd : decode M.2.1 pc = .ok (.idiv, 1)) (kk : zZ g M P k n X (pc + 1) lv (.int (nI (a / b)) :: st)) : zZ g M P k n X pc lv (.int (nI b) :: .int (nI a) :: st) :=
  z_idiv hd (fun h => by have := (nI_eq (b := 0) hb (by decide)).mp h; omega) (by rw [pk_div ha h0 hb]; exact kk)
theorem z_icmp_eqN {a b : Nat} {off : Int} (tgt : Nat) (ha : a < 2 ^ 31) (hb : b < 2 ^ 31) (hd : decode M.2.1 pc = .ok (.if_icmp .eq off, 3)) (ht : (pc : Int) + off = (tgt : Int)) (kt : a = b → zZ g M P k n X tgt lv st) (kf : a ≠ b → zZ g M P k n X (pc + 3) lv st) : zZ g M P k n X pc lv (.int (nI b) :: .int (nI a) :: st) :=
  z_icmp_eq tgt hd ht (fun h => kt ((nI_eq ha hb).mp h)) (fun h => kf (fun h' => h ((nI_eq ha hb).mpr h')))
theorem z_icmp_neN {a b : Nat} {off : Int} (tgt : Nat) (ha : a < 2 ^ 31) (hb : b < 2 ^ 31) (hd : decode M.2.1 pc = .ok (.if_icmp .ne off, 3)) (ht : (pc : Int) + off = (tgt : Int)) (kt : a ≠ b → zZ g M P k n X tgt lv st) (kf : a = b → zZ g M P k n X (pc + 3) lv st) : zZ g M P k n X pc lv (.int (nI b) :: .int (nI a) :: st) :=
  z_icmp_ne tgt hd ht (fun h => kt (fun h' => h ((nI_eq ha hb).mpr h'))) (fun h => kf ((nI_eq ha hb).mp h))
theorem z_icmp_ltN {a b : Nat} {off : Int} (tgt : Nat) (ha : a < 2 ^ 31) (hb : b < 2 ^ 31) (hd : decode M.2.1 pc = .ok (.if_icmp .lt off, 3)) (ht : (pc : Int) + off = (tgt : Int)) (kt : a < b → zZ g M P k n X tgt lv st) (kf : b ≤ a → zZ g M P k n X (pc + 3) lv st) : zZ g M P k n X pc lv (.int (nI b) :: .int (nI a) :: st) :=
  z_icmp_lt tgt hd ht (fun h => kt ((nI_ltI ha hb).mp h)) (fun h => kf (Nat.le_of_not_lt fun h' => h ((nI_ltI ha hb).mpr h')))
theorem z_icmp_geN {a b : Nat} {off : Int} (tgt : Nat) (ha : a < 2 ^ 31) (hb : b < 2 ^ 31) (hd : decode M.2.1 pc = .ok (.if_icmp .ge off, 3)) (ht : (pc : Int) + off = (tgt : Int)) (kt : b ≤ a → zZ g M P k n X tgt lv st) (kf : a < b → zZ g M P k n X (pc + 3) lv st) : zZ g M P k n X pc lv (.int (nI b) :: .int (nI a) :: st) :=
  z_icmp_ge tgt hd ht (fun h => kt ((nI_leI hb ha).mp h)) (fun h => kf (Nat.lt_of_not_le fun h' => h ((nI_leI hb ha).mpr h')))
theorem z_icmp_gtN {a b : Nat} {off : Int} (tgt : Nat) (ha : a < 2 ^ 31) (hb : b < 2 ^ 31) (hd : decode M.2.1 pc = .ok (.if_icmp .gt off, 3)) (ht : (pc : Int) + off = (tgt : Int)) (kt : b < a → zZ g M P k n X tgt lv st) (kf : a ≤ b → zZ g M P k n X (pc + 3) lv st) : zZ g M P k n X pc lv (.int (nI b) :: .int (nI a) :: st) :=
  z_icmp_gt tgt hd ht (fun h => kt ((nI_ltI hb ha).mp h)) (fun h => kf (Nat.le_of_not_lt fun h' => h ((nI_ltI hb ha).mpr h')))
theorem z_icmp_leN {a b : Nat} {off : Int} (tgt : Nat) (ha : a < 2 ^ 31) (hb : b < 2 ^ 31) (hd : decode M.2.1 pc = .ok (.if_icmp .le off, 3)) (ht : (pc : Int) + off = (tgt : Int)) (kt : a ≤ b → zZ g M P k n X tgt lv st) (kf : b < a → zZ g M P k n X (pc + 3) lv st) : zZ g M P k n X pc lv (.int (nI b) :: .int (nI a) :: st) :=
  z_icmp_le tgt hd ht (fun h => kt ((nI_leI ha hb).mp h)) (fun h => kf (Nat.lt_of_not_le fun h' => h ((nI_leI ha hb).mpr h')))
theorem nI_zero {a : Nat} (ha : a < 2 ^ 31) : nI a = 0 ↔ a = 0 := nI_eq ha (by decide)
theorem z_if_eqN {a : Nat} {off : Int} (tgt : Nat) (ha : a < 2 ^ 31) (hd : decode M.2.1 pc = .ok (.ifCond .eq off, 3)) (ht : (pc : Int) + off = (tgt : Int)) (kt : a = 0 → zZ g M P k n X tgt lv st) (kf : a ≠ 0 → zZ g M P k n X (pc + 3) lv st) : zZ g M P k n X pc lv (.int (nI a) :: st) :=
  z_if_eq tgt hd ht (fun h => kt ((nI_zero ha).mp h)) (fun h => kf (fun h' => h ((nI_zero ha).mpr h')))
theorem z_if_neN {a : Nat} {off : Int} (tgt : Nat) (ha : a < 2 ^ 31) (hd : decode M.2.1 pc = .ok (.ifCond .ne off, 3)) (ht : (pc : Int) + off = (tgt : Int)) (kt : a ≠ 0 → zZ g M P k n X tgt lv st) (kf : a = 0 → zZ g M P k n X (pc + 3) lv st) : zZ g M P k n X pc lv (.int (nI a) :: st) :=
  z_if_ne tgt hd ht (fun h => kt (fun h' => h ((nI_zero ha).mpr h'))) (fun h => kf ((nI_zero ha).mp h))
theorem nI_lt0 {a : Nat} (ha : a < 2 ^ 31) : ¬ nI a < 0 := nI_pos ha
theorem z_if_ltN {a : Nat} {off : Int} (tgt : Nat) (ha : a < 2 ^ 31) (hd : decode M.2.1 pc = .ok (.ifCond .lt off, 3)) (ht : (pc : Int) + off = (tgt : Int)) (kf : zZ g M P k n X (pc + 3) lv st) : zZ g M P k n X pc lv (.int (nI a) :: st) :=
  z_if_lt tgt hd ht (fun h => absurd h (nI_pos ha)) (fun _ => kf)
theorem z_if_geN {a : Nat} {off : Int} (tgt : Nat) (ha : a < 2 ^ 31) (hd : decode M.2.1 pc = .ok (.ifCond .ge off, 3)) (ht : (pc : Int) + off = (tgt : Int)) (kt : zZ g M P k n X tgt lv st) : zZ g M P k n X pc lv (.int (nI a) :: st) :=
  z_if_ge tgt hd ht (fun _ => kt) (fun h => absurd (nI_pos' ha) h)
theorem z_if_gtN {a : Nat} {off : Int} (tgt : Nat) (ha : a < 2 ^ 31) (hd : decode M.2.1 pc = .ok (.ifCond .gt off, 3)) (ht : (pc : Int) + off = (tgt : Int)) (kt : 0 < a → zZ g M P k n X tgt lv st) (kf : a = 0 → zZ g M P k n X (pc + 3) lv st) : zZ g M P k n X pc lv (.int (nI a) :: st) :=
  z_if_gt tgt hd ht (fun h => kt ((nI_ltI (by decide) ha).mp h)) (fun h => kf (Nat.eq_zero_of_not_pos fun h' => h ((nI_ltI (a := 0) (by decide) ha).mpr h')))
theorem z_if_leN {a : Nat} {off : Int} (tgt : Nat) (ha : a < 2 ^ 31) (hd : decode M.2.1 pc = .ok (.ifCond .le off, 3)) (ht : (pc : Int) + off = (tgt : Int)) (kt : a = 0 → zZ g M P k n X tgt lv st) (kf : 0 < a → zZ g M P k n X (pc + 3) lv st) : zZ g M P k n X pc lv (.int (nI a) :: st) :=
  z_if_le tgt hd ht (fun h => kt (Nat.le_zero.mp ((nI_leI (b := 0) ha (by decide)).mp h))) (fun h => kf (Nat.pos_of_ne_zero fun h' => h ((nI_leI (b := 0) ha (by decide)).mpr (Nat.le_of_eq h'))))
/-- a value by another name -/
theorem z_eq {x y : Int32} (h : x = y) (kk : zZ g M P k n X pc lv (.int y :: st)) : zZ g M P k n X pc lv (.int x :: st) := by subst h; exact kk
end ZB
section TR
variable {g : zG} {M : zMth} {P : zPo} {k n : Nat} {X : zX} {pc : Nat} {lv : List (Nat × Value)} {st : List Value} {L : Nat → Nat} {I I' : Nat → Nat → Int32} {J J' : Nat → Nat → Int64} {Gb Gb' : Nat → Nat → Int32} {index : Nat}
theorem tsz_lt (i : Nat) : tsz i < 2 ^ 31 := by unfold tsz; split <;> decide
theorem tz_get {v : Value} (q : Nat) (hL : tok g L) (hq : q < 32) (hlk : Cond.fieldLink M.1.cls index (TX5 q).1 (TX5 q).2.1 (TX5 q).2.2.1 ∈ lw_all) (hv : (tfs L I J)[q]? = some v) (hd : decode M.2.1 pc = .ok (.getfield index, 3)) (kk : zZ g M P k n (tX g L I J Gb X) (pc + 3) lv (v :: st)) : zZ g M P k n (tX g L I J Gb X) pc lv (.ref (L 99) :: st) :=
  z_get q (tX_obj hL) rfl in_X5 hq hlk hv hd kk
theorem tsc_f : ∀ q ∈ tsc, q < 32 ∧ (TX5 q).2.2.2 = false ∧ tyX5 q = .int := by
  intro q hq
  simp only [tsc, List.mem_cons, List.not_mem_nil, or_false] at hq
  rcases hq with rfl | rfl | rfl | rfl | rfl | rfl | rfl | rfl | rfl | rfl | rfl | rfl <;> exact ⟨by decide, rfl, rfl⟩
theorem tz_put {v : Int32} (q : Nat) (hL : tok g L) (hq : q ∈ tsc) (hlk : Cond.fieldLink M.1.cls index (TX5 q).1 (TX5 q).2.1 (TX5 q).2.2.1 ∈ lw_all) (hI : zs I 99 q v = I') (hd : decode M.2.1 pc = .ok (.putfield index, 3)) (kk : zZ g M P k n (tX g L I' J Gb X) (pc + 3) lv st) : zZ g M P k n (tX g L I J Gb X) pc lv (.int v :: .ref (L 99) :: st) := by
  obtain ⟨h1, h2, h3⟩ := tsc_f q hq
  subst hI
  have hdt := tyX5_ok q h1
  rw [h3] at hdt
  exact z_put q (tX_obj hL) rfl in_X5 h1 tyX5 tyX5_ok nmX5 hlk h2 hdt rfl rfl h1 (hL.2 99 (by decide)) hd (tX_upf hL hq v) kk
theorem tz_putg {v : Int64} (hL : tok g L) (hlk : Cond.fieldLink M.1.cls index (TX5 31).1 (TX5 31).2.1 (TX5 31).2.2.1 ∈ lw_all) (hd : decode M.2.1 pc = .ok (.putfield index, 3)) (kk : zZ g M P k n (tX g L I (zs J 99 31 v) Gb X) (pc + 3) lv st) : zZ g M P k n (tX g L I J Gb X) pc lv (.long v :: .ref (L 99) :: st) :=
  z_put 31 (tX_obj hL) rfl in_X5 (by decide) tyX5 tyX5_ok nmX5 hlk rfl (tyX5_ok 31 (by decide)) rfl rfl (by show 31 < 32; decide) (hL.2 99 (by decide)) hd (tX_upg31 hL v) kk
theorem tz_iald {ix v : Int32} (i j : Nat) (hL : tok g L) (hi : i ∈ tia) (hj : ix = nI j) (hlt : j < tsz i) (hv : I i j = v) (hd : decode M.2.1 pc = .ok (.iaload, 1)) (kk : zZ g M P k n (tX g L I J Gb X) (pc + 1) lv (.int v :: st)) : zZ g M P k n (tX g L I J Gb X) pc lv (.int ix :: .ref (L i) :: st) := by
  subst hv
  exact z_iald j (tX_i hL hi) hj hlt (tsz_lt i) hd kk
theorem tz_ialdG {ix v : Int32} (i j : Nat) (hL : tok g L) (hi : tgb i = true) (hj : ix = nI j) (hlt : j < tsz i) (hv : Gb i j = v) (hd : decode M.2.1 pc = .ok (.iaload, 1)) (kk : zZ g M P k n (tX g L I J Gb X) (pc + 1) lv (.int v :: st)) : zZ g M P k n (tX g L I J Gb X) pc lv (.int ix :: .ref (L i) :: st) := by
  subst hv
  exact z_iald j (tX_g hL hi) hj hlt (tsz_lt i) hd kk
theorem tz_lald {ix : Int32} {v : Int64} (i j : Nat) (hL : tok g L) (hi : i ∈ [6, 9, 14, 15]) (hj : ix = nI j) (hlt : j < tsz i) (hv : J i j = v) (hd : decode M.2.1 pc = .ok (.laload, 1)) (kk : zZ g M P k n (tX g L I J Gb X) (pc + 1) lv (.long v :: st)) : zZ g M P k n (tX g L I J Gb X) pc lv (.int ix :: .ref (L i) :: st) := by
  subst hv
  exact z_lald j (tX_l hL hi) hj hlt (tsz_lt i) hd kk
theorem tz_zald {ix v : Int32} (j : Nat) (hL : tok g L) (hj : ix = nI j) (hlt : j < 4) (hv : I 26 j = v) (hd : decode M.2.1 pc = .ok (.baload, 1)) (kk : zZ g M P k n (tX g L I J Gb X) (pc + 1) lv (.int v :: st)) : zZ g M P k n (tX g L I J Gb X) pc lv (.int ix :: .ref (L 26) :: st) := by
  subst hv
  exact z_zald j (tX_z hL) hj hlt (by decide) hd kk
theorem tok_lt (hL : tok g L) {i : Nat} (hi : i ∈ trs) : z0 g ≤ L i := hL.2 i hi
theorem tia_trs : ∀ i ∈ tia, i ∈ trs := by decide
theorem tz_iast {ix v : Int32} (i j : Nat) (hL : tok g L) (hi : i ∈ tia) (hj : ix = nI j) (hlt : j < tsz i) (hI : zs I i j v = I') (hd : decode M.2.1 pc = .ok (.iastore, 1)) (kk : zZ g M P k n (tX g L I' J Gb X) (pc + 1) lv st) : zZ g M P k n (tX g L I J Gb X) pc lv (.int v :: .int ix :: .ref (L i) :: st) := by
  subst hI
  exact z_iast j (tX_i hL hi) hj hlt (tsz_lt i) (tok_lt hL (tia_trs i hi)) hd (tX_upi hL hi j v) kk
theorem tz_iastG {ix v : Int32} (i j : Nat) (hL : tok g L) (hi : tgb i = true) (hj : ix = nI j) (hlt : j < tsz i) (hd : decode M.2.1 pc = .ok (.iastore, 1)) (kk : zZ g M P k n (tX g L I J (zs Gb i j v) X) (pc + 1) lv st) : zZ g M P k n (tX g L I J Gb X) pc lv (.int v :: .int ix :: .ref (L i) :: st) :=
  z_iast j (tX_g hL hi) hj hlt (tsz_lt i) (tok_lt hL (by simp only [tgb, Bool.or_eq_true, beq_iff_eq] at hi; rcases hi with (rfl | rfl) | rfl <;> decide)) hd (tX_upg hL hi j v) kk
theorem tz_last {ix : Int32} {v : Int64} (i j : Nat) (hL : tok g L) (hi : i ∈ [6, 9, 14, 15]) (hj : ix = nI j) (hlt : j < tsz i) (hJ : zs J i j v = J') (hd : decode M.2.1 pc = .ok (.lastore, 1)) (kk : zZ g M P k n (tX g L I J' Gb X) (pc + 1) lv st) : zZ g M P k n (tX g L I J Gb X) pc lv (.long v :: .int ix :: .ref (L i) :: st) := by
  subst hJ
  exact z_last j (tX_l hL hi) hj hlt (tsz_lt i) (tok_lt hL ((by decide : ∀ i ∈ [6, 9, 14, 15], i ∈ trs) i hi)) hd (tX_upl hL hi j v) kk
theorem tz_zast {ix v : Int32} (j : Nat) (hL : tok g L) (hj : ix = nI j) (hlt : j < 4) (hw : vp_nar .boolean v = v) (hI : zs I 26 j v = I') (hd : decode M.2.1 pc = .ok (.bastore, 1)) (kk : zZ g M P k n (tX g L I' J Gb X) (pc + 1) lv st) : zZ g M P k n (tX g L I J Gb X) pc lv (.int v :: .int ix :: .ref (L 26) :: st) := by
  subst hI
  exact z_zast j (tX_z hL) hj hlt (by decide) (tok_lt hL (by decide)) hd (by rw [hw]; exact tX_upz hL j v) kk
end TR
