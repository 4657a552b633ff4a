/-! ROWS of the component's world; its states by the model's own layout -/
set_option maxRecDepth 100000
section CR
variable {g : zG} {M : zMth} {P : zPo} {k n : Nat} {X : zX} {pc : Nat} {lv : List (Nat × Value)} {st : List Value} {A : Nat → Nat} {K K' : Nat → Nat → Int32} {F : Nat → Int32} {O : Nat → Nat → Option Nat} {gl : Int64} {index : Nat}
theorem cz_get {v : Value} (q : Nat) (hA : cok g A X) (hq : q < 21) (hlk : Cond.fieldLink M.1.cls index (TX1 q).1 (TX1 q).2.1 (TX1 q).2.2.1 ∈ lw_all) (hv : (cfs A K O gl)[q]? = some v) (hd : decode M.2.1 pc = .ok (.getfield index, 3)) (kk : zZ g M P k n (cX g A K F O gl X) (pc + 3) lv (v :: st)) : zZ g M P k n (cX g A K F O gl X) pc lv (.ref (A 99) :: st) :=
  z_get q (cX_obj hA) rfl in_X1 hq hlk hv hd kk
theorem csc_f : ∀ q ∈ csc, q < 21 ∧ (TX1 q).2.2.2 = false ∧ tyX1 q = .int := by
  intro q hq
  simp only [csc, List.mem_cons, List.not_mem_nil, or_false] at hq
  rcases hq with rfl | rfl | rfl | rfl | rfl <;> exact ⟨by decide, rfl, rfl⟩
theorem cz_put {v : Int32} (q : Nat) (hA : cok g A X) (hq : q ∈ csc) (hlk : Cond.fieldLink M.1.cls index (TX1 q).1 (TX1 q).2.1 (TX1 q).2.2.1 ∈ lw_all) (hK : zs K 99 q v = K') (hd : decode M.2.1 pc = .ok (.putfield index, 3)) (kk : zZ g M P k n (cX g A K' F O gl X) (pc + 3) lv st) : zZ g M P k n (cX g A K F O gl X) pc lv (.int v :: .ref (A 99) :: st) := by
  obtain ⟨h1, h2, h3⟩ := csc_f q hq
  subst hK
  have hdt := tyX1_ok q h1
  rw [h3] at hdt
  exact z_put q (cX_obj hA) rfl in_X1 h1 tyX1 tyX1_ok nmX1 hlk h2 hdt rfl rfl h1 (cok_lt hA (crs_of (by unfold crP; omega))) hd (cX_upf hA hq v) kk
theorem cz_putg {v : Int64} (hA : cok g A X) (hlk : Cond.fieldLink M.1.cls index (TX1 19).1 (TX1 19).2.1 (TX1 19).2.2.1 ∈ lw_all) (hd : decode M.2.1 pc = .ok (.putfield index, 3)) (kk : zZ g M P k n (cX g A K F O v X) (pc + 3) lv st) : zZ g M P k n (cX g A K F O gl X) pc lv (.long v :: .ref (A 99) :: st) :=
  z_put 19 (cX_obj hA) rfl in_X1 (by decide) tyX1 tyX1_ok nmX1 hlk rfl (tyX1_ok 19 (by decide)) rfl rfl (by show 19 < 21; decide) (cok_lt hA (crs_of (by unfold crP; omega))) hd (cX_upl hA v) kk
/-- the states' fields, by the state's own methods and by a nest mate's -/
theorem cz_getS {v : Value} {s : Nat} (q : Nat) (hA : cok g A X) (hs : cst A s) (hq : q < 9) (hlk : Cond.fieldLink M.1.cls index (TX4 q).1 (TX4 q).2.1 (TX4 q).2.2.1 ∈ lw_all) (hv : (cfst A K s)[q]? = some v) (hd : decode M.2.1 pc = .ok (.getfield index, 3)) (kk : zZ g M P k n (cX g A K F O gl X) (pc + 3) lv (v :: st)) : zZ g M P k n (cX g A K F O gl X) pc lv (.ref (A (s + 9)) :: st) :=
  z_get q (cX_st hA hs) rfl in_X4 hq hlk hv hd kk
theorem cz_getSN {v : Value} {s : Nat} {host : String} (q : Nat) (hA : cok g A X) (hs : cst A s) (hq : q < 9) (hlk : Cond.fieldLinkNest M.1.cls index (TX4 q).1 (TX4 q).2.1 (TX4 q).2.2.1 host ∈ lw_tbl) (hv : (cfst A K s)[q]? = some v) (hd : decode M.2.1 pc = .ok (.getfield index, 3)) (kk : zZ g M P k n (cX g A K F O gl X) (pc + 3) lv (v :: st)) : zZ g M P k n (cX g A K F O gl X) pc lv (.ref (A (s + 9)) :: st) :=
  z_getN q (cX_st hA hs) rfl in_X4 hq hlk hv hd kk
theorem cz_putS {v : Int32} {s : Nat} (q : Nat) (hA : cok g A X) (hs : cst A s) (hq : q ∈ [6, 7, 8]) (hlk : Cond.fieldLink M.1.cls index (TX4 q).1 (TX4 q).2.1 (TX4 q).2.2.1 ∈ lw_all) (hK : zs K (s + 9) q v = K') (hd : decode M.2.1 pc = .ok (.putfield index, 3)) (kk : zZ g M P k n (cX g A K' F O gl X) (pc + 3) lv st) : zZ g M P k n (cX g A K F O gl X) pc lv (.int v :: .ref (A (s + 9)) :: st) := by
  subst hK
  have h9 : q < 9 ∧ (TX4 q).2.2.2 = false ∧ tyX4 q = .int := by
    simp only [List.mem_cons, List.not_mem_nil, or_false] at hq
    rcases hq with rfl | rfl | rfl <;> exact ⟨by decide, rfl, rfl⟩
  have hdt := tyX4_ok q h9.1
  rw [h9.2.2] at hdt
  exact z_put q (cX_st hA hs) rfl in_X4 h9.1 tyX4 tyX4_ok nmX4 hlk h9.2.1 hdt rfl rfl h9.1 (cok_lt hA (crs_of (by obtain ⟨h1, h2, h3⟩ := hs; unfold crP; omega))) hd (cX_ups hA hs hq v) kk
theorem cz_putSN {v : Int32} {s : Nat} {host : String} (q : Nat) (hA : cok g A X) (hs : cst A s) (hq : q ∈ [6, 7, 8]) (hlk : Cond.fieldLinkNest M.1.cls index (TX4 q).1 (TX4 q).2.1 (TX4 q).2.2.1 host ∈ lw_tbl) (hK : zs K (s + 9) q v = K') (hd : decode M.2.1 pc = .ok (.putfield index, 3)) (kk : zZ g M P k n (cX g A K' F O gl X) (pc + 3) lv st) : zZ g M P k n (cX g A K F O gl X) pc lv (.int v :: .ref (A (s + 9)) :: st) := by
  subst hK
  have h9 : q < 9 ∧ (TX4 q).2.2.2 = false ∧ tyX4 q = .int := by
    simp only [List.mem_cons, List.not_mem_nil, or_false] at hq
    rcases hq with rfl | rfl | rfl <;> exact ⟨by decide, rfl, rfl⟩
  have hdt := tyX4_ok q h9.1
  rw [h9.2.2] at hdt
  exact z_putN q (cX_st hA hs) rfl in_X4 h9.1 tyX4 tyX4_ok nmX4 hlk h9.2.1 hdt rfl rfl h9.1 (cok_lt hA (crs_of (by obtain ⟨h1, h2, h3⟩ := hs; unfold crP; omega))) hd (cX_ups hA hs hq v) kk
theorem cz_iald {ix v : Int32} (i j : Nat) (hA : cok g A X) (hi : cia A i) (hj : ix = nI j) (hlt : j < csz i) (hv : K i j = v) (hd : decode M.2.1 pc = .ok (.iaload, 1)) (kk : zZ g M P k n (cX g A K F O gl X) (pc + 1) lv (.int v :: st)) : zZ g M P k n (cX g A K F O gl X) pc lv (.int ix :: .ref (A i) :: st) := by
  subst hv
  exact z_iald j (cX_i hA hi) hj hlt (csz_lt i) hd kk
theorem cz_iast {ix v : Int32} (i j : Nat) (hA : cok g A X) (hi : cia A i) (hj : ix = nI j) (hlt : j < csz i) (hK : zs K i j v = K') (hd : decode M.2.1 pc = .ok (.iastore, 1)) (kk : zZ g M P k n (cX g A K' F O gl X) (pc + 1) lv st) : zZ g M P k n (cX g A K F O gl X) pc lv (.int v :: .int ix :: .ref (A i) :: st) := by
  subst hK
  exact z_iast j (cX_i hA hi) hj hlt (csz_lt i) (cok_lt hA (cia_r hi)) hd (cX_upi hA hi j v) kk
theorem cz_ialdF {ix v : Int32} (j : Nat) (hA : cok g A X) (hj : ix = nI j) (hlt : j < 4) (hv : F j = v) (hd : decode M.2.1 pc = .ok (.iaload, 1)) (kk : zZ g M P k n (cX g A K F O gl X) (pc + 1) lv (.int v :: st)) : zZ g M P k n (cX g A K F O gl X) pc lv (.int ix :: .ref (A 6) :: st) := by
  subst hv
  exact z_iald j (cX_fa hA) hj hlt (by decide) hd kk
theorem cz_iastF {ix v : Int32} (j : Nat) (hA : cok g A X) (hj : ix = nI j) (hlt : j < 4) (hd : decode M.2.1 pc = .ok (.iastore, 1)) (kk : zZ g M P k n (cX g A K (zs1 F j v) O gl X) (pc + 1) lv st) : zZ g M P k n (cX g A K F O gl X) pc lv (.int v :: .int ix :: .ref (A 6) :: st) :=
  z_iast j (cX_fa hA) hj hlt (by decide) (cok_lt hA (crs_of (by unfold crP; omega))) hd (cX_upF hA j v) kk
theorem cz_plc {ix : Int32} (j : Nat) (hA : cok g A X) (hj : ix = nI j) (hlt : j < 25) (hd : decode M.2.1 pc = .ok (.aaload, 1)) (kk : zZ g M P k n (cX g A K F O gl X) (pc + 1) lv (.ref (A (j + 200)) :: st)) : zZ g M P k n (cX g A K F O gl X) pc lv (.int ix :: .ref (A 18) :: st) :=
  z_aald6 (v := .ref (A (j + 200))) j (cX_pl hA) hj hlt (by decide) (by rw [if_pos hlt]; rfl) hd kk
end CR
/-! a state laid over the ints, by the model's layout; its days' dates, its date and year -/
def cpv (s : Nat) (σ ds : Nat → Int32) (dt yr : Int32) (r i : Nat) : Int32 :=
  if r = s then (if i < 4 then σ (i + 2) else 0) else if r = s + 1 then (if i < 6 then σ (i + 18) else 0) else if r = s + 2 then (if i < 6 then σ (i + 6) else 0) else if r = s + 3 then (if i < 6 then σ (i + 12) else 0) else if r = s + 4 then (if i < 6 then σ (i + 24) else 0) else if r = s + 5 then (if i < 6 then ds i else 0) else if r = s + 9 then (if i = 6 then dt else if i = 7 then yr else if i = 8 then σ 1 else 0) else 0
def cput (K : Nat → Nat → Int32) (s : Nat) (σ ds : Nat → Int32) (dt yr : Int32) : Nat → Nat → Int32 := fun r i => if s ≤ r ∧ r < s + 10 then cpv s σ ds dt yr r i else K r i
section CPUT
variable {K : Nat → Nat → Int32} {s : Nat} {σ ds : Nat → Int32} {dt yr : Int32}
theorem cput_a {r : Nat} (h : r < s ∨ s + 10 ≤ r) : cput K s σ ds dt yr r = K r := by
  funext i
  exact if_neg (by omega)
theorem cput_beds {j : Nat} (h : j < 4) : cput K s σ ds dt yr s j = σ (j + 2) := by
  unfold cput cpv
  rw [if_pos (by omega), if_pos rfl, if_pos h]
theorem cput_says {j : Nat} (h : j < 6) : cput K s σ ds dt yr (s + 1) j = σ (j + 18) := by
  unfold cput cpv
  rw [if_pos (by omega), if_neg (by omega), if_pos rfl, if_pos h]
theorem cput_where {j : Nat} (h : j < 6) : cput K s σ ds dt yr (s + 2) j = σ (j + 6) := by
  unfold cput cpv
  rw [if_pos (by omega), if_neg (by omega), if_neg (by omega), if_pos rfl, if_pos h]
theorem cput_been {j : Nat} (h : j < 6) : cput K s σ ds dt yr (s + 3) j = σ (j + 12) := by
  unfold cput cpv
  rw [if_pos (by omega), if_neg (by omega), if_neg (by omega), if_neg (by omega), if_pos rfl, if_pos h]
theorem cput_times {j : Nat} (h : j < 6) : cput K s σ ds dt yr (s + 4) j = σ (j + 24) := by
  unfold cput cpv
  rw [if_pos (by omega), if_neg (by omega), if_neg (by omega), if_neg (by omega), if_neg (by omega), if_pos rfl, if_pos h]
theorem cput_month {j : Nat} (h : j < 6) : cput K s σ ds dt yr (s + 5) j = ds j := by
  unfold cput cpv
  rw [if_pos (by omega), if_neg (by omega), if_neg (by omega), if_neg (by omega), if_neg (by omega), if_neg (by omega), if_pos rfl, if_pos h]
theorem cput_f {q : Nat} : cput K s σ ds dt yr (s + 9) q = if q = 6 then dt else if q = 7 then yr else if q = 8 then σ 1 else 0 := by
  unfold cput cpv
  rw [if_pos (by omega), if_neg (by omega), if_neg (by omega), if_neg (by omega), if_neg (by omega), if_neg (by omega), if_neg (by omega), if_pos rfl]
/-- two layings agree where all rows do -/
theorem cput_x {K' : Nat → Nat → Int32} {σ' ds' : Nat → Int32} {dt' yr' : Int32} (h : ∀ r i, s ≤ r → r < s + 10 → K' r i = cpv s σ' ds' dt' yr' r i) (h2 : ∀ r i, r < s ∨ s + 10 ≤ r → K' r i = K r i) : K' = cput K s σ' ds' dt' yr' := by
  funext r i
  unfold cput
  by_cases hr : s ≤ r ∧ r < s + 10
  · rw [if_pos hr]
    exact h r i hr.1 hr.2
  · rw [if_neg hr]
    exact h2 r i (by omega)
theorem cput_z {q j : Nat} {v : Int32} {σ' ds' : Nat → Int32} {dt' yr' : Int32} (hq : s ≤ q ∧ q < s + 10) (h : ∀ r i, s ≤ r → r < s + 10 → (if r = q ∧ i = j then v else cpv s σ ds dt yr r i) = cpv s σ' ds' dt' yr' r i) : zs (cput K s σ ds dt yr) q j v = cput K s σ' ds' dt' yr' := by
  refine cput_x (fun r i h1 h2 => ?_) (fun r i h1 => ?_)
  · show (if r = q ∧ i = j then v else cput K s σ ds dt yr r i) = _
    have e : cput K s σ ds dt yr r i = cpv s σ ds dt yr r i := if_pos ⟨h1, h2⟩
    rw [e]
    exact h r i h1 h2
  · show (if r = q ∧ i = j then v else cput K s σ ds dt yr r i) = _
    rw [if_neg (by omega), cput_a h1]
theorem cput_zo {q j : Nat} {v : Int32} (h : q < s ∨ s + 10 ≤ q) : zs (cput K s σ ds dt yr) q j v = cput (zs K q j v) s σ ds dt yr := by
  refine cput_x (fun r i h1 h2 => ?_) (fun r i h1 => ?_)
  · show (if r = q ∧ i = j then v else cput K s σ ds dt yr r i) = _
    rw [if_neg (by omega)]
    exact if_pos ⟨h1, h2⟩
  · show (if r = q ∧ i = j then v else cput K s σ ds dt yr r i) = (if r = q ∧ i = j then v else K r i)
    rw [cput_a h1]
theorem zs1_if {f : Nat → Int32} {k j : Nat} {v : Int32} : zs1 f k v j = if j = k then v else f j := rfl
theorem cput_zbeds {j : Nat} {v : Int32} (hj : j < 4) : zs (cput K s σ ds dt yr) s j v = cput K s (zs1 σ (j + 2) v) ds dt yr := by
  refine cput_z ⟨by omega, by omega⟩ (fun r i h1 h2 => ?_)
  unfold cpv
  simp only [zs1_if]
  by_cases hr : r = s
  · subst hr
    by_cases hi : i = j
    · subst hi; simp [hj]
    · simp [hi, show ¬ i + 2 = j + 2 by omega]
  · simp only [hr, false_and, if_false]
    rw [if_neg (show ¬ 1 = j + 2 by omega)]
    by_cases hi : i < 6
    · simp only [hi, if_true]
      rw [if_neg (show ¬ i + 18 = j + 2 by omega), if_neg (show ¬ i + 6 = j + 2 by omega), if_neg (show ¬ i + 12 = j + 2 by omega), if_neg (show ¬ i + 24 = j + 2 by omega)]
    · simp only [hi, if_false]
theorem cput_zarr {q o j : Nat} {v : Int32} (hj : j < 6) (hq : (q = 1 ∧ o = 18) ∨ (q = 2 ∧ o = 6) ∨ (q = 3 ∧ o = 12) ∨ (q = 4 ∧ o = 24)) : zs (cput K s σ ds dt yr) (s + q) j v = cput K s (zs1 σ (j + o) v) ds dt yr := by
  refine cput_z ⟨by omega, by omega⟩ (fun r i h1 h2 => ?_)
  unfold cpv
  simp only [zs1_if]
  have e0 : ∀ x : Int32, (if i < 4 then (if i + 2 = j + o then v else σ (i + 2)) else x) = (if i < 4 then σ (i + 2) else x) := fun x => by
    by_cases hi : i < 4
    · rw [if_pos hi, if_pos hi, if_neg (by omega)]
    · rw [if_neg hi, if_neg hi]
  rw [e0, if_neg (show ¬ 1 = j + o by omega)]
  by_cases hi : i < 6
  · simp only [hi, if_true]
    rcases hq with ⟨rfl, rfl⟩ | ⟨rfl, rfl⟩ | ⟨rfl, rfl⟩ | ⟨rfl, rfl⟩
    · rw [if_neg (show ¬ i + 6 = j + 18 by omega), if_neg (show ¬ i + 12 = j + 18 by omega)]
      by_cases hr : r = s + 1
      · rw [if_neg (show ¬ r = s by omega), if_neg (show ¬ r = s by omega), if_pos hr, if_pos hr]
        by_cases e : i = j
        · rw [if_pos ⟨hr, e⟩, if_pos (by omega)]
        · rw [if_neg (fun h => e h.2), if_neg (by omega)]
      · rw [if_neg (fun h => hr h.1), if_neg hr, if_neg hr]
        by_cases e : i + 24 = j + 18
        · omega
        · rw [if_neg e]
    · rw [if_neg (show ¬ i + 18 = j + 6 by omega), if_neg (show ¬ i + 12 = j + 6 by omega), if_neg (show ¬ i + 24 = j + 6 by omega)]
      by_cases hr : r = s + 2
      · rw [if_neg (show ¬ r = s by omega), if_neg (show ¬ r = s by omega), if_neg (show ¬ r = s + 1 by omega), if_neg (show ¬ r = s + 1 by omega), if_pos hr, if_pos hr]
        by_cases e : i = j
        · rw [if_pos ⟨hr, e⟩, if_pos (by omega)]
        · rw [if_neg (fun h => e h.2), if_neg (by omega)]
      · rw [if_neg (fun h => hr h.1), if_neg hr, if_neg hr]
    · rw [if_neg (show ¬ i + 18 = j + 12 by omega), if_neg (show ¬ i + 6 = j + 12 by omega), if_neg (show ¬ i + 24 = j + 12 by omega)]
      by_cases hr : r = s + 3
      · rw [if_neg (show ¬ r = s by omega), if_neg (show ¬ r = s by omega), if_neg (show ¬ r = s + 1 by omega), if_neg (show ¬ r = s + 1 by omega), if_neg (show ¬ r = s + 2 by omega), if_neg (show ¬ r = s + 2 by omega), if_pos hr, if_pos hr]
        by_cases e : i = j
        · rw [if_pos ⟨hr, e⟩, if_pos (by omega)]
        · rw [if_neg (fun h => e h.2), if_neg (by omega)]
      · rw [if_neg (fun h => hr h.1), if_neg hr, if_neg hr]
    · rw [if_neg (show ¬ i + 18 = j + 24 by omega), if_neg (show ¬ i + 6 = j + 24 by omega), if_neg (show ¬ i + 12 = j + 24 by omega)]
      by_cases hr : r = s + 4
      · rw [if_neg (show ¬ r = s by omega), if_neg (show ¬ r = s by omega), if_neg (show ¬ r = s + 1 by omega), if_neg (show ¬ r = s + 1 by omega), if_neg (show ¬ r = s + 2 by omega), if_neg (show ¬ r = s + 2 by omega), if_neg (show ¬ r = s + 3 by omega), if_neg (show ¬ r = s + 3 by omega), if_pos hr, if_pos hr]
        by_cases e : i = j
        · rw [if_pos ⟨hr, e⟩, if_pos (by omega)]
        · rw [if_neg (fun h => e h.2), if_neg (by omega)]
      · rw [if_neg (fun h => hr h.1), if_neg hr, if_neg hr]
  · simp only [hi, if_false]
    rw [if_neg (show ¬ (r = s + q ∧ i = j) by omega)]
theorem cput_zsays {j : Nat} {v : Int32} (hj : j < 6) : zs (cput K s σ ds dt yr) (s + 1) j v = cput K s (zs1 σ (j + 18) v) ds dt yr := cput_zarr hj (by omega)
theorem cput_zwhere {j : Nat} {v : Int32} (hj : j < 6) : zs (cput K s σ ds dt yr) (s + 2) j v = cput K s (zs1 σ (j + 6) v) ds dt yr := cput_zarr hj (by omega)
theorem cput_zbeen {j : Nat} {v : Int32} (hj : j < 6) : zs (cput K s σ ds dt yr) (s + 3) j v = cput K s (zs1 σ (j + 12) v) ds dt yr := cput_zarr hj (by omega)
theorem cput_ztimes {j : Nat} {v : Int32} (hj : j < 6) : zs (cput K s σ ds dt yr) (s + 4) j v = cput K s (zs1 σ (j + 24) v) ds dt yr := cput_zarr hj (by omega)
theorem cput_zmonth {j : Nat} {v : Int32} (hj : j < 6) : zs (cput K s σ ds dt yr) (s + 5) j v = cput K s σ (zs1 ds j v) dt yr := by
  refine cput_z ⟨by omega, by omega⟩ (fun r i h1 h2 => ?_)
  unfold cpv
  simp only [zs1_if]
  by_cases hr : r = s + 5
  · rw [if_neg (show ¬ r = s by omega), if_neg (show ¬ r = s by omega), if_neg (show ¬ r = s + 1 by omega), if_neg (show ¬ r = s + 1 by omega), if_neg (show ¬ r = s + 2 by omega), if_neg (show ¬ r = s + 2 by omega), if_neg (show ¬ r = s + 3 by omega), if_neg (show ¬ r = s + 3 by omega), if_neg (show ¬ r = s + 4 by omega), if_neg (show ¬ r = s + 4 by omega), if_pos hr, if_pos hr]
    by_cases e : i = j
    · rw [if_pos ⟨hr, e⟩, if_pos (by omega), if_pos e]
    · rw [if_neg (fun h => e h.2), if_neg e]
  · rw [if_neg (fun h => hr h.1), if_neg hr, if_neg hr]
theorem cput_zdate {v : Int32} : zs (cput K s σ ds dt yr) (s + 9) 6 v = cput K s σ ds v yr := by
  refine cput_z ⟨by omega, by omega⟩ (fun r i h1 h2 => ?_)
  unfold cpv
  by_cases hr : r = s + 9
  · have n0 : ¬ r = s := by omega
    have n1 : ¬ r = s + 1 := by omega
    have n2 : ¬ r = s + 2 := by omega
    have n3 : ¬ r = s + 3 := by omega
    have n4 : ¬ r = s + 4 := by omega
    have n5 : ¬ r = s + 5 := by omega
    simp only [eq_false n0, eq_false n1, eq_false n2, eq_false n3, eq_false n4, eq_false n5, eq_true hr, if_false, if_true, true_and]
    by_cases e : i = 6
    · rw [if_pos e, if_pos e]
    · rw [if_neg e, if_neg e, if_neg e]
  · simp only [eq_false hr, if_false, false_and]
theorem cput_zyear {v : Int32} : zs (cput K s σ ds dt yr) (s + 9) 7 v = cput K s σ ds dt v := by
  refine cput_z ⟨by omega, by omega⟩ (fun r i h1 h2 => ?_)
  unfold cpv
  by_cases hr : r = s + 9
  · have n0 : ¬ r = s := by omega
    have n1 : ¬ r = s + 1 := by omega
    have n2 : ¬ r = s + 2 := by omega
    have n3 : ¬ r = s + 3 := by omega
    have n4 : ¬ r = s + 4 := by omega
    have n5 : ¬ r = s + 5 := by omega
    simp only [eq_false n0, eq_false n1, eq_false n2, eq_false n3, eq_false n4, eq_false n5, eq_true hr, if_false, if_true, true_and]
    by_cases e : i = 7
    · rw [if_pos e, if_neg (by omega), if_pos e]
    · rw [if_neg e, if_neg e, if_neg e]
  · simp only [eq_false hr, if_false, false_and]
theorem cput_zref {v : Int32} : zs (cput K s σ ds dt yr) (s + 9) 8 v = cput K s (zs1 σ 1 v) ds dt yr := by
  refine cput_z ⟨by omega, by omega⟩ (fun r i h1 h2 => ?_)
  unfold cpv
  have e2 : ∀ o, 2 ≤ o → zs1 σ 1 v (i + o) = σ (i + o) := fun o ho => zs1_n (by omega)
  rw [e2 2 (by decide), e2 18 (by decide), e2 6 (by decide), e2 12 (by decide), e2 24 (by decide), zs1_s]
  by_cases hr : r = s + 9
  · have n0 : ¬ r = s := by omega
    have n1 : ¬ r = s + 1 := by omega
    have n2 : ¬ r = s + 2 := by omega
    have n3 : ¬ r = s + 3 := by omega
    have n4 : ¬ r = s + 4 := by omega
    have n5 : ¬ r = s + 5 := by omega
    simp only [eq_false n0, eq_false n1, eq_false n2, eq_false n3, eq_false n4, eq_false n5, eq_true hr, if_false, if_true, true_and]
    by_cases e : i = 8
    · rw [if_pos e, if_neg (by omega), if_neg (by omega), if_pos e]
    · rw [if_neg e, if_neg e, if_neg e]
  · simp only [eq_false hr, if_false, false_and]
theorem cput_congr {σ' : Nat → Int32} (h : ∀ j, 1 ≤ j → j < 30 → σ' j = σ j) : cput K s σ' ds dt yr = cput K s σ ds dt yr := by
  funext r i
  unfold cput cpv
  have e0 : (if i < 4 then σ' (i + 2) else 0) = (if i < 4 then σ (i + 2) else 0) := by
    by_cases hi : i < 4
    · rw [if_pos hi, if_pos hi, h _ (by omega) (by omega)]
    · rw [if_neg hi, if_neg hi]
  have e1 : ∀ o, 1 ≤ o → o ≤ 24 → (if i < 6 then σ' (i + o) else 0) = (if i < 6 then σ (i + o) else 0) := fun o h1 h2 => by
    by_cases hi : i < 6
    · rw [if_pos hi, if_pos hi, h _ (by omega) (by omega)]
    · rw [if_neg hi, if_neg hi]
  rw [e0, e1 18 (by decide) (by decide), e1 6 (by decide) (by decide), e1 12 (by decide) (by decide), e1 24 (by decide) (by decide), h 1 (by decide) (by decide)]
theorem cput_comm {t : Nat} {τ es : Nat → Int32} {dt' yr' : Int32} (h : s + 10 ≤ t ∨ t + 10 ≤ s) : cput (cput K s σ ds dt yr) t τ es dt' yr' = cput (cput K t τ es dt' yr') s σ ds dt yr := by
  funext r i
  unfold cput
  by_cases h1 : s ≤ r ∧ r < s + 10
  · rw [if_neg (by omega), if_pos h1, if_pos h1]
  · by_cases h2 : t ≤ r ∧ r < t + 10
    · rw [if_pos h2, if_neg h1, if_pos h2]
    · rw [if_neg h2, if_neg h1, if_neg h1, if_neg h2]
theorem cput_cput {σ' ds' : Nat → Int32} {dt' yr' : Int32} : cput (cput K s σ ds dt yr) s σ' ds' dt' yr' = cput K s σ' ds' dt' yr' := by
  funext r i
  unfold cput
  by_cases h1 : s ≤ r ∧ r < s + 10
  · rw [if_pos h1, if_pos h1]
  · rw [if_neg h1, if_neg h1, if_neg h1]
end CPUT
