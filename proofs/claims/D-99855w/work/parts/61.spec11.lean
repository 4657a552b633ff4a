/-! LINES READ, in plain Lean -/
set_option maxRecDepth 100000
/-- ints, longs, at, fault -/
abbrev sLS : Type := (Nat → Nat → Int32) × (Nat → Nat → Int64) × Nat × Nat
section LINES
variable (kd pl : Nat → Nat) (vl wd : Nat → Int64)
/-- a name of one more: mo (0 houses, 1 days), n of them yet, most, numbers from fr on -/
def s_rN (I : Nat → Nat → Int32) (J : Nat → Nat → Int64) (a n rm mo most fr : Nat) : sLS :=
  if n = most then (I, J, a, s_wr pl a 0 5) else if s_isN kd vl wd (a + 1) 0 = true then (if s_nm (J 15) (I 17) rm (vl (a + 1)) < 0 then (zs (zs (zs I 17 rm (nI (n + fr))) 99 19 (nI (rm + 1))) 10 (mo + 50) (nI (n + 1)), zs J 15 rm (vl (a + 1)), a + 2, 0) else (I, J, a + 1, s_wr pl (a + 1) 0 3)) else (I, J, a + 1, s_wr pl (a + 1) 0 1)
/-- two of a kind, told apart: fr their names' first number, wh where the bits lie, wi how wide -/
def s_rP2 (I : Nat → Nat → Int32) (wh wi : Nat) (x : Int32) (u : Int32 × Nat × Nat) : (Nat → Nat → Int32) × Nat × Nat :=
  if u.2.2 = 0 then (zs (zs I 10 (wi * x.toNatClampNeg + wh + 50) (I 10 (wi * x.toNatClampNeg + wh + 50) ||| (1 : Int32) <<< (u.1 &&& 31))) 10 (wi * u.1.toNatClampNeg + wh + 50) (zs I 10 (wi * x.toNatClampNeg + wh + 50) (I 10 (wi * x.toNatClampNeg + wh + 50) ||| (1 : Int32) <<< (u.1 &&& 31)) 10 (wi * u.1.toNatClampNeg + wh + 50) ||| (1 : Int32) <<< (x &&& 31)), u.2.1, 0) else (I, u.2)
def s_rP1 (I : Nat → Nat → Int32) (na : Int64 → Int32) (fr : Int32) (wh wi : Nat) (t : Int32 × Nat × Nat) : (Nat → Nat → Int32) × Nat × Nat :=
  s_rP2 I wh wi t.1 (s_tT kd pl vl wd na t.2.1 t.2.2 fr (I 10 (wi * t.1.toNatClampNeg + wh + 50) ||| (1 : Int32) <<< (t.1 &&& 31)))
def s_rP (I : Nat → Nat → Int32) (na : Int64 → Int32) (a : Nat) (fr : Int32) (wh wi : Nat) : (Nat → Nat → Int32) × Nat × Nat :=
  s_rP1 kd pl vl wd I na fr wh wi (s_tT kd pl vl wd na (a + 1) 0 fr 0)
def s_rD5 (r : sLS) (nd : Nat) (k h d y : Int32) (a f : Nat) : sLS :=
  if f = 0 then (zs (zs (zs (zs r.1 10 (5 * nd + 62) k) 10 (5 * nd + 63) h) 10 (5 * nd + 64) d) 10 (5 * nd + 65) y, r.2.1, a, 0) else (r.1, r.2.1, a, f)
def s_rD1 (r : sLS) (nd : Nat) : sLS :=
  let k := s_tO kd pl vl wd r.2.2.1 r.2.2.2 14 4
  let o := s_tW kd pl vl wd k.2.1 k.2.2 4
  let h := s_tT kd pl vl wd (s_nm (r.2.1 15) (r.1 17) (r.1 99 19).toNatClampNeg) o.1 o.2 0 0
  let d := s_tA kd pl vl wd h.2.1 h.2.2 5 0 11
  let y := s_tA kd pl vl wd d.2.1 d.2.2 6 0 40
  s_rD5 r nd k.1 h.1 d.1 y.1 y.2.1 y.2.2
def s_rD (I : Nat → Nat → Int32) (J : Nat → Nat → Int64) (a nd rm : Nat) : sLS := s_rD1 kd pl vl wd (s_rN kd pl vl wd I J a nd rm 1 6 20) nd
/-- a house -/
def s_rH1 (r : sLS) (nh : Nat) : sLS :=
  let v := s_tA kd pl vl wd r.2.2.1 r.2.2.2 1 1 6
  if v.2.2 = 0 then (zs r.1 10 (2 * nh + 54) v.1, r.2.1, v.2.1, 0) else (r.1, r.2.1, v.2)
def s_rH (I : Nat → Nat → Int32) (J : Nat → Nat → Int64) (a nh rm : Nat) : sLS := s_rH1 kd pl vl wd (s_rN kd pl vl wd I J a nh rm 0 4 0) nh
/-- stays, fades: once each -/
def s_rO (I : Nat → Nat → Int32) (a : Nat) : (Nat → Nat → Int32) × Nat × Nat :=
  if s_wh kd vl wd a 0 8 2 < 0 then (I, a, s_wr pl a 0 1)
  else if (I 99 20 >>> (s_wh kd vl wd a 0 8 2 &&& 31)) &&& 1 = 1 then (I, a, s_wr pl a 0 3)
  else if s_wh kd vl wd a 0 8 2 = 0 then (zs (zs I 99 20 (I 99 20 ||| (1 : Int32) <<< (0 &&& 31))) 10 52 (s_tN kd pl vl (a + 1) 0 1 4).1, (s_tN kd pl vl (a + 1) 0 1 4).2)
  else (s_cd (zs (zs I 99 20 (I 99 20 ||| (1 : Int32) <<< (1 &&& 31))) 10 53 0) ((s_whole kd vl wd (s_part kd pl vl wd 5) (a + 1, 0, [])).2.2 ++ [(0, 0)]), (s_whole kd vl wd (s_part kd pl vl wd 5) (a + 1, 0, [])).1, (s_whole kd vl wd (s_part kd pl vl wd 5) (a + 1, 0, [])).2.1)
def s_line (I : Nat → Nat → Int32) (J : Nat → Nat → Int64) (a nh nd : Nat) : sLS :=
  if s_isW kd vl wd a 0 0 = true then s_rH kd pl vl wd I J a nh (nh + nd)
  else if s_isW kd vl wd a 0 3 = true then s_rD kd pl vl wd I J a nd (nh + nd)
  else if s_isW kd vl wd a 0 2 = true then (let t := s_rP kd pl vl wd I (s_nm (J 15) (I 17) (nh + nd)) a 0 5 2; (t.1, J, t.2))
  else if s_isW kd vl wd a 0 7 = true then (let t := s_rP kd pl vl wd I (s_nm (J 15) (I 17) (nh + nd)) a 20 16 5; (t.1, J, t.2))
  else (let t := s_rO kd pl vl wd I a; (t.1, J, t.2))
/-- a line and its end -/
def s_line1 (s : sLS) : sLS :=
  let t := s_line kd pl vl wd s.1 s.2.1 s.2.2.1 (s.1 10 50).toNatClampNeg (s.1 10 51).toNatClampNeg
  (t.1, t.2.1, s_tS kd pl vl t.2.2.1 t.2.2.2 59)
def s_lines : Nat → sLS → sLS
  | 0, s => s
  | m + 1, s => if s.2.2.2 = 0 ∧ ¬ kd s.2.2.1 = 0 then s_lines m (s_line1 kd pl vl wd s) else s
end LINES
/-- what holds of a reading between its lines -/
def s_ri (I : Nat → Nat → Int32) (a : Nat) : Prop := ∃ nh nd c, I 10 50 = nI nh ∧ nh ≤ 4 ∧ I 10 51 = nI nd ∧ nd ≤ 6 ∧ I 99 19 = nI (nh + nd) ∧ I 99 13 = nI c ∧ c ≤ a ∧ (s_isBit (I 99 20) 1 = false → c = 0)
/-- rows that a reading keeps -/
def s_rk (I I' : Nat → Nat → Int32) (J J' : Nat → Nat → Int64) : Prop := (∀ r, r ≠ 10 → r ≠ 11 → r ≠ 12 → r ≠ 17 → r ≠ 99 → I' r = I r) ∧ (∀ j, j < 50 → I' 10 j = I 10 j) ∧ (∀ j, j < 1100 → I' 11 j = I 11 j ∧ I' 12 j = I 12 j) ∧ (∀ j, j ≠ 13 → j ≠ 19 → j ≠ 20 → I' 99 j = I 99 j) ∧ (∀ r, r ≠ 15 → J' r = J r)
theorem s_rk_rf {I : Nat → Nat → Int32} {J : Nat → Nat → Int64} : s_rk I I J J := ⟨fun _ _ _ _ _ _ => rfl, fun _ _ => rfl, fun _ _ => ⟨rfl, rfl⟩, fun _ _ _ _ => rfl, fun _ _ => rfl⟩
theorem s_rk_tr {I I' I2 : Nat → Nat → Int32} {J J' J2 : Nat → Nat → Int64} (h : s_rk I I' J J') (h2 : s_rk I' I2 J' J2) : s_rk I I2 J J2 :=
  ⟨fun r a b c d e => (h2.1 r a b c d e).trans (h.1 r a b c d e), fun j hj => (h2.2.1 j hj).trans (h.2.1 j hj), fun j hj => ⟨((h2.2.2.1 j hj).1).trans (h.2.2.1 j hj).1, ((h2.2.2.1 j hj).2).trans (h.2.2.1 j hj).2⟩, fun j a b c => (h2.2.2.2.1 j a b c).trans (h.2.2.2.1 j a b c), fun r a => (h2.2.2.2.2 r a).trans (h.2.2.2.2 r a)⟩
theorem s_rk_z {I I' : Nat → Nat → Int32} {J J' : Nat → Nat → Int64} {r k : Nat} {v : Int32} (h : s_rk I I' J J') (hr : (r = 10 ∧ 50 ≤ k) ∨ r = 17 ∨ (r = 99 ∧ (k = 19 ∨ k = 20))) : s_rk I (zs I' r k v) J J' := by
  refine ⟨fun q a b c d e => ?_, fun j hj => ?_, fun j hj => ?_, fun j a b c => ?_, h.2.2.2.2⟩
  · rw [zs_a (by omega)]; exact h.1 q a b c d e
  · refine Eq.trans (if_neg (by omega)) (h.2.1 j hj)
  · exact ⟨Eq.trans (if_neg (by omega)) (h.2.2.1 j hj).1, Eq.trans (if_neg (by omega)) (h.2.2.1 j hj).2⟩
  · refine Eq.trans (if_neg (by omega)) (h.2.2.2.1 j a b c)
theorem s_rk_J {I I' : Nat → Nat → Int32} {J J' : Nat → Nat → Int64} {k : Nat} {v : Int64} (h : s_rk I I' J J') : s_rk I I' J (zs J' 15 k v) := ⟨h.1, h.2.1, h.2.2.1, h.2.2.2.1, fun r a => by rw [zs_a a]; exact h.2.2.2.2 r a⟩
theorem s_rk_cd {I I' : Nat → Nat → Int32} {J J' : Nat → Nat → Int64} {cs : List (Nat × Int32)} (h : s_rk I I' J J') : s_rk I (s_cd I' cs) J J' := by
  refine ⟨fun q a b c d e => ?_, fun j hj => ?_, fun j hj => ?_, fun j a b c => ?_, h.2.2.2.2⟩
  · refine Eq.trans ?_ (h.1 q a b c d e)
    funext j
    show (if _ then _ else if _ then _ else if _ then _ else _) = _
    rw [if_neg (by omega), if_neg (by omega), if_neg (by omega)]
  · exact h.2.1 j hj
  · refine ⟨Eq.trans ?_ (h.2.2.1 j hj).1, Eq.trans ?_ (h.2.2.1 j hj).2⟩
    · show (if _ then _ else if _ then _ else if _ then _ else _) = _
      rw [if_neg (by omega), if_neg (by omega), if_neg (by omega)]
    · show (if _ then _ else if _ then _ else if _ then _ else _) = _
      rw [if_neg (by omega), if_neg (by omega), if_neg (by omega)]
  · refine Eq.trans ?_ (h.2.2.2.1 j a b c)
    show (if _ then _ else if _ then _ else if _ then _ else _) = _
    rw [if_neg (by omega), if_neg (by omega), if_neg (by omega)]
theorem s_rk_tk {I I' : Nat → Nat → Int32} {J J' : Nat → Nat → Int64} {kd pl : Nat → Nat} {cnt : Nat} (h : s_rk I I' J J') (hT : s_tk (I 4) (I 5) kd pl cnt) : s_tk (I' 4) (I' 5) kd pl cnt := by
  rw [h.1 4 (by decide) (by decide) (by decide) (by decide) (by decide), h.1 5 (by decide) (by decide) (by decide) (by decide) (by decide)]
  exact hT
theorem s_cd_0 {I : Nat → Nat → Int32} (h : I 99 13 = 0) : s_cd I [] = I := by
  funext a j
  show (if a = 11 ∧ 1100 ≤ j ∧ j < 1100 + 0 then _ else if a = 12 ∧ 1100 ≤ j ∧ j < 1100 + 0 then _ else if a = 99 ∧ j = 13 then nI 0 else I a j) = I a j
  rw [if_neg (by omega), if_neg (by omega)]
  by_cases h9 : a = 99 ∧ j = 13
  · rw [if_pos h9, h9.1, h9.2, h]; rfl
  · rw [if_neg h9]
section LINES1
variable {kd pl : Nat → Nat} {vl wd : Nat → Int64}
/-- a name read: what stays -/
theorem s_rN_k {I I' : Nat → Nat → Int32} {J J' : Nat → Nat → Int64} {a n rm mo most fr a' f' : Nat} (h : s_rN kd pl vl wd I J a n rm mo most fr = (I', J', a', f')) (hrm : I 99 19 = nI rm) :
    a ≤ a' ∧ s_rk I I' J J' ∧ I' 99 13 = I 99 13 ∧ I' 99 20 = I 99 20 ∧ ((I' = I ∧ J' = J ∧ ¬ f' = 0) ∨ (n ≠ most ∧ I' 99 19 = nI (rm + 1) ∧ I' 10 = zs1 (I 10) (mo + 50) (nI (n + 1)) ∧ f' = 0)) := by
  unfold s_rN at h
  split at h
  · cases h
    exact ⟨Nat.le_refl _, s_rk_rf, rfl, rfl, Or.inl ⟨rfl, rfl, s_wr_0 (by decide)⟩⟩
  · split at h
    · split at h
      · cases h
        refine ⟨by omega, s_rk_J (s_rk_z (s_rk_z (s_rk_z s_rk_rf (Or.inr (Or.inl rfl))) (Or.inr (Or.inr ⟨rfl, Or.inl rfl⟩))) (Or.inl ⟨rfl, by omega⟩)), ?_, ?_, Or.inr ⟨by assumption, ?_, ?_, rfl⟩⟩
        · rfl
        · rfl
        · rfl
        · rw [zs_r]; rfl
      · cases h
        exact ⟨by omega, s_rk_rf, rfl, rfl, Or.inl ⟨rfl, rfl, s_wr_0 (by decide)⟩⟩
    · cases h
      exact ⟨by omega, s_rk_rf, rfl, rfl, Or.inl ⟨rfl, rfl, s_wr_0 (by decide)⟩⟩
end LINES1
