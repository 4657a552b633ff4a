/-! A VALE READ, in plain Lean -/
set_option maxRecDepth 100000
theorem s_rd_self {I : Nat → Nat → Int32} {a f : Nat} (h7 : I 99 7 = nI a) (h8 : I 99 8 = nI f) : s_rd I a f = I := by
  funext i j
  show (if i = 99 ∧ j = 7 then nI a else if i = 99 ∧ j = 8 then nI f else I i j) = I i j
  by_cases h : i = 99 ∧ j = 7
  · rw [if_pos h, h.1, h.2, h7]
  · rw [if_neg h]
    by_cases h2 : i = 99 ∧ j = 8
    · rw [if_pos h2, h2.1, h2.2, h8]
    · rw [if_neg h2]
/-- n entries of a row taken down to the front -/
def s_cpy {α : Type} (I : Nat → Nat → α) (r q fr n : Nat) : Nat → Nat → α := fun i j => if i = r ∧ j < n then I q (fr + j) else I i j
theorem s_cpy_0 {α : Type} {I : Nat → Nat → α} {r q fr : Nat} : s_cpy I r q fr 0 = I := by
  funext i j
  unfold s_cpy
  rw [if_neg (by omega)]
theorem s_cpy_1 {α : Type} {I : Nat → Nat → α} {r q fr n : Nat} : zs (s_cpy I r q fr n) r n (I q (fr + n)) = s_cpy I r q fr (n + 1) := by
  funext i j
  show (if i = r ∧ j = n then I q (fr + n) else if i = r ∧ j < n then I q (fr + j) else I i j) = (if i = r ∧ j < n + 1 then I q (fr + j) else I i j)
  by_cases h : i = r
  · by_cases h2 : j = n
    · rw [if_pos ⟨h, h2⟩, if_pos ⟨h, by omega⟩, h2]
    · rw [if_neg (by omega)]
      by_cases h3 : j < n
      · rw [if_pos ⟨h, h3⟩, if_pos ⟨h, by omega⟩]
      · rw [if_neg (by omega), if_neg (by omega)]
  · rw [if_neg (by omega), if_neg (by omega), if_neg (by omega)]
theorem s_cpy_n {α : Type} {I : Nat → Nat → α} {r q fr n i j : Nat} (h : i ≠ r ∨ n ≤ j) : s_cpy I r q fr n i j = I i j := if_neg (by omega)
theorem s_cpy_a {α : Type} {I : Nat → Nat → α} {r q fr n i : Nat} (h : i ≠ r) : s_cpy I r q fr n i = I i := by
  funext j
  exact s_cpy_n (Or.inl h)
/-- the tokens' kinds and places, as naturals -/
def s_nt (S : Nat → Int32) : Nat → Nat := fun j => (S j).toNatClampNeg
/-- the model as it begins to read a vale -/
def s_v0 (I : Nat → Nat → Int32) (n : Nat) (S P : Nat → Int32) : Nat → Nat → Int32 := s_std (zs (zs (zs (zs (zs (s_cw I n S P) 99 7 0) 99 8 0) 99 13 0) 99 19 0) 99 20 0) 50
/-- what is read becomes what is told -/
def s_v2 (I : Nat → Nat → Int32) (c rm : Nat) : Nat → Nat → Int32 := zs (s_cpy (s_cpy (s_cpy (s_cpy I 10 10 50 50) 11 11 1100 c) 12 12 1100 c) 16 17 0 rm) 99 18 (nI rm)
theorem s_kd_le {t : Nat → Int32} {n k : Nat} : ∃ d, d ≤ 4 ∧ s_kd t n k = nI d ∧ (d = 0 ↔ ¬ k < n) := by
  unfold s_kd
  by_cases h : k < n
  · rw [if_pos h]
    have z : ∀ d, 1 ≤ d → d ≤ 4 → ∃ e, e ≤ 4 ∧ nI d = nI e ∧ (e = 0 ↔ ¬ k < n) := fun d h1 h2 => ⟨d, h2, rfl, by omega⟩
    split
    · split
      · exact z 4 (by decide) (by decide)
      · exact z 1 (by decide) (by decide)
    · split
      · split
        · exact z 4 (by decide) (by decide)
        · exact z 2 (by decide) (by decide)
      · split
        · exact z 3 (by decide) (by decide)
        · exact z 4 (by decide) (by decide)
  · rw [if_neg h]
    exact ⟨0, by decide, rfl, by omega⟩
theorem s_nt_k {d : Nat} (h : d ≤ 1000) {x : Int32} (hx : x = nI d) : x.toNatClampNeg = d := by rw [hx]; exact ncl (by omega)
theorem s_fr_le {t : Nat → Int32} {n : Nat} : ∀ i, s_fr t n i ≤ n ∨ n < s_fr t n i := fun i => by omega
/-- what is cut are tokens -/
theorem s_cut_tk {t : Nat → Int32} {n m : Nat} {S P : Nat → Int32} {V : Nat → Int64} (h : s_cut t n S P V m) (hn : n ≤ 1000) (hm : m ≤ n) (hS : S m = 0) (hP : P m = nI n) : s_tk S P (s_nt S) (s_nt P) m := by
  refine ⟨fun j hj => ?_, by omega⟩
  by_cases e : j = m
  · subst e
    have h1 : s_nt S j = 0 := s_nt_k (by decide) hS
    have h2 : s_nt P j = n := s_nt_k hn hP
    rw [h1, h2]
    exact ⟨hS, hP, by decide, hn, ⟨fun _ => rfl, fun _ => rfl⟩⟩
  · obtain ⟨h1, h2, h3, -⟩ := h j (by omega)
    obtain ⟨d, hd, he, h0⟩ := s_kd_le (t := t) (n := n) (k := s_fr t n j)
    have e1 : s_nt S j = d := s_nt_k (by omega) (h2.trans he)
    have e2 : s_nt P j = s_fr t n j := s_nt_k (by omega) h3
    rw [e1, e2]
    exact ⟨h2.trans he, h3, hd, by omega, ⟨fun z => absurd h1 (h0.mp z), fun z => absurd z e⟩⟩
section MONO
variable {kd pl : Nat → Nat} {vl wd : Nat → Int64}
theorem s_tT_m {na : Int64 → Int32} {a f : Nat} {fr bu : Int32} : a ≤ (s_tT kd pl vl wd na a f fr bu).2.1 := by
  have h : s_tT kd pl vl wd na a f fr bu = ((s_tT kd pl vl wd na a f fr bu).1, (s_tT kd pl vl wd na a f fr bu).2.1, (s_tT kd pl vl wd na a f fr bu).2.2) := rfl
  exact (s_tT_k h).2
theorem s_tN_m {a f : Nat} {lo hi : Int32} : a ≤ (s_tN kd pl vl a f lo hi).2.1 := by
  have h : s_tN kd pl vl a f lo hi = ((s_tN kd pl vl a f lo hi).1, (s_tN kd pl vl a f lo hi).2.1, (s_tN kd pl vl a f lo hi).2.2) := rfl
  exact s_tN_k h
theorem s_tW_m {a f w : Nat} : a ≤ (s_tW kd pl vl wd a f w).1 := by
  have h : s_tW kd pl vl wd a f w = ((s_tW kd pl vl wd a f w).1, (s_tW kd pl vl wd a f w).2) := rfl
  exact s_tW_k h
theorem s_tA_m {a f w : Nat} {lo hi : Int32} : a ≤ (s_tA kd pl vl wd a f w lo hi).2.1 := Nat.le_trans s_tW_m s_tN_m
theorem s_tO_m {a f w m : Nat} : a ≤ (s_tO kd pl vl wd a f w m).2.1 := by
  have h : s_tO kd pl vl wd a f w m = ((s_tO kd pl vl wd a f w m).1, (s_tO kd pl vl wd a f w m).2.1, (s_tO kd pl vl wd a f w m).2.2) := rfl
  exact s_tO_k h
theorem s_tS_m {a f : Nat} {c : Int32} : a ≤ (s_tS kd pl vl a f c).1 := by
  have h : s_tS kd pl vl a f c = ((s_tS kd pl vl a f c).1, (s_tS kd pl vl a f c).2) := rfl
  exact (s_tS_k h).1
theorem s_tS_f {a f : Nat} {c : Int32} {a' f' : Nat} (h : s_tS kd pl vl a f c = (a', f')) (hf : ¬ f = 0) : f' = f := by
  unfold s_tS at h
  split at h
  · cases h; rfl
  · cases h
    unfold s_wr
    rw [if_neg hf]
end MONO
section CODES
variable {kd pl : Nat → Nat} {vl wd : Nat → Int64}
/-- a reading that goes on, and reads a code a token at most -/
def s_gr (p : sRS → sRS) : Prop := ∀ s : sRS, s.1 ≤ (p s).1 ∧ (p s).2.2.length + s.1 ≤ s.2.2.length + (p s).1
theorem s_emit_l {s : sRS} {c : Nat} {v : Int32} : (s_emit s c v).1 = s.1 ∧ (s_emit s c v).2.2.length = s.2.2.length + 1 := ⟨rfl, by simp [s_emit]⟩
theorem s_gr_prl {p : sRS → sRS} (h : s_gr p) : ∀ m, s_gr (s_prl kd vl p m)
  | 0 => fun s => ⟨Nat.le_refl _, Nat.le_refl _⟩
  | m + 1 => fun s => by
    unfold s_prl
    split
    · have h1 := h (s.1 + 1, s.2)
      have h2 := s_gr_prl h m (s_emit (p (s.1 + 1, s.2)) 6 0)
      rw [s_emit_l.1, s_emit_l.2] at h2
      simp only at h1
      omega
    · exact ⟨Nat.le_refl _, Nat.le_refl _⟩
theorem s_gr_prods {p : sRS → sRS} (h : s_gr p) : s_gr (s_prods kd vl p) := fun s => by
  have h1 := h s
  have h2 := s_gr_prl (kd := kd) (vl := vl) h 1001 (p s)
  unfold s_prods
  omega
theorem s_gr_sul {p : sRS → sRS} (h : s_gr p) : ∀ m, s_gr (s_sul kd vl p m)
  | 0 => fun s => ⟨Nat.le_refl _, Nat.le_refl _⟩
  | m + 1 => fun s => by
    unfold s_sul
    split
    · have h1 := s_gr_prods (kd := kd) (vl := vl) h (s.1 + 1, s.2)
      have h2 := s_gr_sul h m (s_emit (s_prods kd vl p (s.1 + 1, s.2)) (if s_isS kd vl s.1 s.2.1 43 = true then 4 else 5) 0)
      rw [s_emit_l.1, s_emit_l.2] at h2
      simp only at h1
      omega
    · exact ⟨Nat.le_refl _, Nat.le_refl _⟩
theorem s_gr_sums {p : sRS → sRS} (h : s_gr p) : s_gr (s_sums kd vl p) := fun s => by
  have h1 := s_gr_prods (kd := kd) (vl := vl) h s
  have h2 := s_gr_sul (kd := kd) (vl := vl) h 1001 (s_prods kd vl p s)
  unfold s_sums
  omega
theorem s_gr_tst {p : sRS → sRS} (h : s_gr p) : s_gr (s_tst kd vl p) := fun s => by
  have h1 := s_gr_sums (kd := kd) (vl := vl) h s
  have h2 := s_gr_sums (kd := kd) (vl := vl) h ((s_sums kd vl p s).1 + 1, (s_sums kd vl p s).2)
  simp only at h2
  unfold s_tst
  simp only
  split
  · rw [s_emit_l.1, s_emit_l.2]
    omega
  · split
    · rw [s_emit_l.1, s_emit_l.2]
      omega
    · exact h1
theorem s_gr_whl {p : sRS → sRS} (h : s_gr p) : ∀ m, s_gr (s_whl kd vl wd p m)
  | 0 => fun s => ⟨Nat.le_refl _, Nat.le_refl _⟩
  | m + 1 => fun s => by
    unfold s_whl
    split
    · have h1 := s_gr_tst (kd := kd) (vl := vl) h (s.1 + 1, s.2)
      have h2 := s_gr_whl h m (s_emit (s_tst kd vl p (s.1 + 1, s.2)) (if s_isW kd vl wd s.1 s.2.1 19 = true then 9 else 10) 0)
      rw [s_emit_l.1, s_emit_l.2] at h2
      simp only at h1
      omega
    · exact ⟨Nat.le_refl _, Nat.le_refl _⟩
theorem s_gr_whole {p : sRS → sRS} (h : s_gr p) : s_gr (s_whole kd vl wd p) := fun s => by
  have h1 := s_gr_tst (kd := kd) (vl := vl) h s
  have h2 := s_gr_whl (kd := kd) (vl := vl) (wd := wd) h 1001 (s_tst kd vl p s)
  unfold s_whole
  omega
theorem s_gr_part : ∀ r, s_gr (s_part kd pl vl wd r)
  | 0 => fun s => by
    unfold s_part
    split
    · split
      · exact ⟨Nat.le_refl _, Nat.le_refl _⟩
      · exact ⟨Nat.le_refl _, Nat.le_refl _⟩
    · exact ⟨Nat.le_refl _, Nat.le_refl _⟩
  | r + 1 => fun s => by
    have h0 := s_gr_part r
    unfold s_part
    split
    · split
      · exact ⟨Nat.le_refl _, Nat.le_refl _⟩
      · split
        · have h1 := h0 (s.1 + 1, s.2)
          rw [s_emit_l.1, s_emit_l.2]
          simp only at h1
          omega
        · split
          · have h1 := s_gr_whole (kd := kd) (vl := vl) (wd := wd) h0 (s.1 + 1, s.2)
            have h2 := s_tS_m (kd := kd) (pl := pl) (vl := vl) (a := (s_whole kd vl wd (s_part kd pl vl wd r) (s.1 + 1, s.2)).1) (f := (s_whole kd vl wd (s_part kd pl vl wd r) (s.1 + 1, s.2)).2.1) (c := 41)
            simp only at h1 h2 ⊢
            omega
          · split
            · simp only [List.length_append, List.length_singleton]
              omega
            · simp only [List.length_append, List.length_singleton]
              omega
    · exact ⟨Nat.le_refl _, Nat.le_refl _⟩
end CODES
section LINES2
variable {kd pl : Nat → Nat} {vl wd : Nat → Int64}
theorem s_ri_k {I I' : Nat → Nat → Int32} {a a' : Nat} (h : s_ri I a) (ha : a ≤ a') (e1 : I' 10 50 = I 10 50) (e2 : I' 10 51 = I 10 51) (e3 : I' 99 19 = I 99 19) (e4 : I' 99 13 = I 99 13) (e5 : s_isBit (I' 99 20) 1 = false → s_isBit (I 99 20) 1 = false) : s_ri I' a' := by
  obtain ⟨nh, nd, c, h1, h2, h3, h4, h5, h6, h7, h8⟩ := h
  exact ⟨nh, nd, c, e1.trans h1, h2, e2.trans h3, h4, e3.trans h5, e4.trans h6, by omega, fun z => h8 (e5 z)⟩
theorem s_ri_N {I I' : Nat → Nat → Int32} {J J' : Nat → Nat → Int64} {a nh nd mo a' f' : Nat} (hR : s_ri I a) (h0 : I 10 50 = nI nh) (hnh : nh ≤ 4) (h1 : I 10 51 = nI nd) (hnd : nd ≤ 6) (hm : mo ≤ 1) (h : s_rN kd pl vl wd I J a (if mo = 0 then nh else nd) (nh + nd) mo (if mo = 0 then 4 else 6) (20 * mo) = (I', J', a', f')) : s_ri I' a' ∧ a ≤ a' ∧ s_rk I I' J J' := by
  obtain ⟨mh, md, c, e0, e1, e2, e3, e4, e5, e6, e7⟩ := hR
  have q0 : mh = nh := by have h9 := e0.symm.trans h0; exact (nI_eq (by omega) (by omega)).mp h9
  have q1 : md = nd := by have h9 := e2.symm.trans h1; exact (nI_eq (by omega) (by omega)).mp h9
  subst q0
  subst q1
  obtain ⟨k1, k2, k3, k4, k5⟩ := s_rN_k h e4
  refine ⟨?_, k1, k2⟩
  rcases k5 with ⟨rfl, rfl, -⟩ | ⟨k5, k6, k7, k8⟩
  · exact ⟨mh, md, c, e0, e1, e2, e3, e4, e5, by omega, e7⟩
  · rcases (by omega : mo = 0 ∨ mo = 1) with rfl | rfl
    · refine ⟨mh + 1, md, c, by rw [k7]; rfl, by simp only [if_true] at k5; omega, by rw [k7]; exact e2, e3, by rw [k6]; exact congrArg nI (by omega), k3.trans e5, by omega, by rw [k4]; exact e7⟩
    · refine ⟨mh, md + 1, c, by rw [k7]; exact e0, e1, by rw [k7]; rfl, by simp at k5; omega, by rw [k6]; exact congrArg nI (by omega), k3.trans e5, by omega, by rw [k4]; exact e7⟩
theorem s_ri_zs {I : Nat → Nat → Int32} {a k : Nat} {v : Int32} (h : s_ri I a) (h0 : k ≠ 50) (h1 : k ≠ 51) : s_ri (zs I 10 k v) a := by
  refine s_ri_k h (Nat.le_refl _) (if_neg (by omega)) (if_neg (by omega)) rfl rfl (fun z => z)
theorem s_ri_le {I : Nat → Nat → Int32} {a a' : Nat} (h : s_ri I a) (ha : a ≤ a') : s_ri I a' := s_ri_k h ha rfl rfl rfl rfl (fun z => z)
theorem s_ri_P {I I' : Nat → Nat → Int32} {J : Nat → Nat → Int64} {na : Int64 → Int32} {fr : Int32} {a wh wi a' f' : Nat} (hR : s_ri I a) (hw : 2 ≤ wh) (h : s_rP kd pl vl wd I na a fr wh wi = (I', a', f')) : s_ri I' a' ∧ a ≤ a' ∧ s_rk I I' J J := by
  unfold s_rP s_rP1 s_rP2 at h
  have h1 := s_tT_m (kd := kd) (pl := pl) (vl := vl) (wd := wd) (na := na) (a := a + 1) (f := 0) (fr := fr) (bu := 0)
  have h2 := s_tT_m (kd := kd) (pl := pl) (vl := vl) (wd := wd) (na := na) (a := (s_tT kd pl vl wd na (a + 1) 0 fr 0).2.1) (f := (s_tT kd pl vl wd na (a + 1) 0 fr 0).2.2) (fr := fr) (bu := I 10 (wi * (s_tT kd pl vl wd na (a + 1) 0 fr 0).1.toNatClampNeg + wh + 50) ||| (1 : Int32) <<< ((s_tT kd pl vl wd na (a + 1) 0 fr 0).1 &&& 31))
  split at h
  · cases h
    refine ⟨s_ri_zs (s_ri_zs (s_ri_le hR (by omega)) (by omega) (by omega)) (by omega) (by omega), by omega, s_rk_z (s_rk_z s_rk_rf (Or.inl ⟨rfl, by omega⟩)) (Or.inl ⟨rfl, by omega⟩)⟩
  · obtain ⟨e1, e2⟩ := Prod.mk.inj h
    subst e1
    have e3 := congrArg Prod.fst e2
    simp only at e3
    subst e3
    exact ⟨s_ri_le hR (by omega), by omega, s_rk_rf⟩
theorem s_ri_D {I I' : Nat → Nat → Int32} {J J' : Nat → Nat → Int64} {a nh nd a' f' : Nat} (hR : s_ri I a) (h0 : I 10 50 = nI nh) (hnh : nh ≤ 4) (h1 : I 10 51 = nI nd) (hnd : nd ≤ 6) (h : s_rD kd pl vl wd I J a nd (nh + nd) = (I', J', a', f')) : s_ri I' a' ∧ a ≤ a' ∧ s_rk I I' J J' := by
  unfold s_rD at h
  have h9 : s_rN kd pl vl wd I J a (if 1 = 0 then nh else nd) (nh + nd) 1 (if 1 = 0 then 4 else 6) (20 * 1) = ((s_rN kd pl vl wd I J a nd (nh + nd) 1 6 20).1, (s_rN kd pl vl wd I J a nd (nh + nd) 1 6 20).2.1, (s_rN kd pl vl wd I J a nd (nh + nd) 1 6 20).2.2.1, (s_rN kd pl vl wd I J a nd (nh + nd) 1 6 20).2.2.2) := rfl
  obtain ⟨k1, k2, k3⟩ := s_ri_N hR h0 hnh h1 hnd (by decide) h9
  clear h9
  generalize s_rN kd pl vl wd I J a nd (nh + nd) 1 6 20 = r at h k1 k2 k3
  unfold s_rD1 at h
  simp only at h
  have g1 := s_tO_m (kd := kd) (pl := pl) (vl := vl) (wd := wd) (a := r.2.2.1) (f := r.2.2.2) (w := 14) (m := 4)
  generalize s_tO kd pl vl wd r.2.2.1 r.2.2.2 14 4 = k at h g1
  have g2 := s_tW_m (kd := kd) (pl := pl) (vl := vl) (wd := wd) (a := k.2.1) (f := k.2.2) (w := 4)
  generalize s_tW kd pl vl wd k.2.1 k.2.2 4 = o at h g2
  have g3 := s_tT_m (kd := kd) (pl := pl) (vl := vl) (wd := wd) (na := s_nm (r.2.1 15) (r.1 17) (r.1 99 19).toNatClampNeg) (a := o.1) (f := o.2) (fr := 0) (bu := 0)
  generalize s_tT kd pl vl wd (s_nm (r.2.1 15) (r.1 17) (r.1 99 19).toNatClampNeg) o.1 o.2 0 0 = hh at h g3
  have g4 := s_tA_m (kd := kd) (pl := pl) (vl := vl) (wd := wd) (a := hh.2.1) (f := hh.2.2) (w := 5) (lo := 0) (hi := 11)
  generalize s_tA kd pl vl wd hh.2.1 hh.2.2 5 0 11 = d at h g4
  have g5 := s_tA_m (kd := kd) (pl := pl) (vl := vl) (wd := wd) (a := d.2.1) (f := d.2.2) (w := 6) (lo := 0) (hi := 40)
  generalize s_tA kd pl vl wd d.2.1 d.2.2 6 0 40 = y at h g5
  unfold s_rD5 at h
  split at h
  · cases h
    refine ⟨s_ri_zs (s_ri_zs (s_ri_zs (s_ri_zs (s_ri_le k1 (by omega)) (by omega) (by omega)) (by omega) (by omega)) (by omega) (by omega)) (by omega) (by omega), by omega, s_rk_z (s_rk_z (s_rk_z (s_rk_z k3 (Or.inl ⟨rfl, by omega⟩)) (Or.inl ⟨rfl, by omega⟩)) (Or.inl ⟨rfl, by omega⟩)) (Or.inl ⟨rfl, by omega⟩)⟩
  · cases h
    exact ⟨s_ri_le k1 (by omega), by omega, k3⟩
theorem s_ri_H {I I' : Nat → Nat → Int32} {J J' : Nat → Nat → Int64} {a nh nd a' f' : Nat} (hR : s_ri I a) (h0 : I 10 50 = nI nh) (hnh : nh ≤ 4) (h1 : I 10 51 = nI nd) (hnd : nd ≤ 6) (h : s_rH kd pl vl wd I J a nh (nh + nd) = (I', J', a', f')) : s_ri I' a' ∧ a ≤ a' ∧ s_rk I I' J J' := by
  unfold s_rH at h
  have h9 : s_rN kd pl vl wd I J a (if 0 = 0 then nh else nd) (nh + nd) 0 (if 0 = 0 then 4 else 6) (20 * 0) = ((s_rN kd pl vl wd I J a nh (nh + nd) 0 4 0).1, (s_rN kd pl vl wd I J a nh (nh + nd) 0 4 0).2.1, (s_rN kd pl vl wd I J a nh (nh + nd) 0 4 0).2.2.1, (s_rN kd pl vl wd I J a nh (nh + nd) 0 4 0).2.2.2) := rfl
  obtain ⟨k1, k2, k3⟩ := s_ri_N hR h0 hnh h1 hnd (by decide) h9
  clear h9
  generalize s_rN kd pl vl wd I J a nh (nh + nd) 0 4 0 = r at h k1 k2 k3
  unfold s_rH1 at h
  simp only at h
  have g1 := s_tA_m (kd := kd) (pl := pl) (vl := vl) (wd := wd) (a := r.2.2.1) (f := r.2.2.2) (w := 1) (lo := 1) (hi := 6)
  generalize s_tA kd pl vl wd r.2.2.1 r.2.2.2 1 1 6 = v at h g1
  split at h
  · cases h
    exact ⟨s_ri_zs (s_ri_le k1 (by omega)) (by omega) (by omega), by omega, s_rk_z k3 (Or.inl ⟨rfl, by omega⟩)⟩
  · obtain ⟨e0, h7⟩ := Prod.mk.inj h
    obtain ⟨e1, e2⟩ := Prod.mk.inj h7
    subst e0
    subst e1
    have e3 := congrArg Prod.fst e2
    simp only at e3
    subst e3
    exact ⟨s_ri_le k1 (by omega), by omega, k3⟩
theorem s_bit_or0 (x : Int32) : s_isBit (x ||| (1 : Int32) <<< (0 &&& 31)) 1 = s_isBit x 1 := by
  rw [s_isBit_bt _ (by decide), s_isBit_bt _ (by decide), b_or, show (1 : Int32) <<< (0 &&& 31) = 1 from by decide, b_1 1 (by decide)]
  cases bt x 1 <;> rfl
theorem s_bit_or1 (x : Int32) : s_isBit (x ||| (1 : Int32) <<< (1 &&& 31)) 1 = true := by
  rw [s_isBit_bt _ (by decide), b_or, show bt ((1 : Int32) <<< (1 &&& 31)) 1 = true from by decide +kernel]
  cases bt x 1 <;> rfl
theorem s_ri_O {I I' : Nat → Nat → Int32} {J : Nat → Nat → Int64} {a a' f' : Nat} (hR : s_ri I a) (h : s_rO kd pl vl wd I a = (I', a', f')) : s_ri I' a' ∧ a ≤ a' ∧ s_rk I I' J J := by
  unfold s_rO at h
  split at h
  · cases h
    exact ⟨hR, Nat.le_refl _, s_rk_rf⟩
  · split at h
    · cases h
      exact ⟨hR, Nat.le_refl _, s_rk_rf⟩
    · split at h
      · have g1 := s_tN_m (kd := kd) (pl := pl) (vl := vl) (a := a + 1) (f := 0) (lo := 1) (hi := 4)
        obtain ⟨e1, e2⟩ := Prod.mk.inj h
        subst e1
        have e3 := congrArg Prod.fst e2
        simp only at e3
        subst e3
        refine ⟨s_ri_zs (s_ri_k hR (by omega) rfl rfl rfl rfl (fun z => ?_)) (by omega) (by omega), by omega, s_rk_z (s_rk_z s_rk_rf (Or.inr (Or.inr ⟨rfl, Or.inr rfl⟩))) (Or.inl ⟨rfl, by omega⟩)⟩
        exact (s_bit_or0 _).symm.trans z
      · have g1 := s_gr_whole (kd := kd) (vl := vl) (wd := wd) (s_gr_part (kd := kd) (pl := pl) (vl := vl) (wd := wd) 5) (a + 1, 0, [])
        generalize s_whole kd vl wd (s_part kd pl vl wd 5) (a + 1, 0, []) = t at h g1
        cases h
        refine ⟨?_, by simp only at g1; omega, s_rk_cd (s_rk_z (s_rk_z s_rk_rf (Or.inr (Or.inr ⟨rfl, Or.inr rfl⟩))) (Or.inl ⟨rfl, by omega⟩))⟩
        obtain ⟨nh, nd, c, h1, h2, h3, h4, h5, h6, h7, h8⟩ := hR
        refine ⟨nh, nd, (t.2.2 ++ [(0, 0)]).length, h1, h2, h3, h4, h5, rfl, ?_, fun z => ?_⟩
        · simp only [List.length_append, List.length_singleton]
          simp only [List.length_nil] at g1
          omega
        · exact absurd ((s_bit_or1 _).symm.trans z) (by decide)
theorem s_ri_L {I I' : Nat → Nat → Int32} {J J' : Nat → Nat → Int64} {a nh nd a' f' : Nat} (hR : s_ri I a) (h0 : I 10 50 = nI nh) (hnh : nh ≤ 4) (h1 : I 10 51 = nI nd) (hnd : nd ≤ 6) (h : s_line kd pl vl wd I J a nh nd = (I', J', a', f')) : s_ri I' a' ∧ a ≤ a' ∧ s_rk I I' J J' := by
  unfold s_line at h
  split at h
  · exact s_ri_H hR h0 hnh h1 hnd h
  · split at h
    · exact s_ri_D hR h0 hnh h1 hnd h
    · split at h
      · simp only at h
        obtain ⟨e0, e1⟩ := Prod.mk.inj h
        obtain ⟨e2, e3⟩ := Prod.mk.inj e1
        subst e2
        exact s_ri_P hR (by decide) (show s_rP kd pl vl wd I (s_nm (J 15) (I 17) (nh + nd)) a 0 5 2 = (I', a', f') from Prod.ext e0 e3)
      · split at h
        · simp only at h
          obtain ⟨e0, e1⟩ := Prod.mk.inj h
          obtain ⟨e2, e3⟩ := Prod.mk.inj e1
          subst e2
          exact s_ri_P hR (by decide) (show s_rP kd pl vl wd I (s_nm (J 15) (I 17) (nh + nd)) a 20 16 5 = (I', a', f') from Prod.ext e0 e3)
        · simp only at h
          obtain ⟨e0, e1⟩ := Prod.mk.inj h
          obtain ⟨e2, e3⟩ := Prod.mk.inj e1
          subst e2
          exact s_ri_O hR (show s_rO kd pl vl wd I a = (I', a', f') from Prod.ext e0 e3)
end LINES2
theorem s_cpy_2 {B : Nat → Nat → Int32} {k : Nat} (h : k < 1100) : zs (zs (s_cpy (s_cpy B 11 11 1100 k) 12 12 1100 k) 11 k ((s_cpy (s_cpy B 11 11 1100 k) 12 12 1100 k) 11 (k + 1100))) 12 k ((s_cpy (s_cpy B 11 11 1100 k) 12 12 1100 k) 12 (k + 1100)) = s_cpy (s_cpy B 11 11 1100 (k + 1)) 12 12 1100 (k + 1) := by
  have e1 : (s_cpy (s_cpy B 11 11 1100 k) 12 12 1100 k) 11 (k + 1100) = B 11 (1100 + k) := by
    rw [s_cpy_n (Or.inl (by decide)), s_cpy_n (Or.inr (by omega)), Nat.add_comm]
  have e2 : (s_cpy (s_cpy B 11 11 1100 k) 12 12 1100 k) 12 (k + 1100) = B 12 (1100 + k) := by
    rw [s_cpy_n (Or.inr (by omega)), s_cpy_n (Or.inl (by decide)), Nat.add_comm]
  rw [e1, e2]
  funext i j
  show (if i = 12 ∧ j = k then B 12 (1100 + k) else if i = 11 ∧ j = k then B 11 (1100 + k) else if i = 12 ∧ j < k then (if 12 = 11 ∧ 1100 + j < k then _ else B 12 (1100 + j)) else if i = 11 ∧ j < k then B 11 (1100 + j) else B i j) = (if i = 12 ∧ j < k + 1 then (if 12 = 11 ∧ 1100 + j < k + 1 then _ else B 12 (1100 + j)) else if i = 11 ∧ j < k + 1 then B 11 (1100 + j) else B i j)
  rw [if_neg (show ¬ (12 = 11 ∧ 1100 + j < k) by omega), if_neg (show ¬ (12 = 11 ∧ 1100 + j < k + 1) by omega)]
  by_cases h1 : i = 12
  · subst h1
    by_cases h2 : j = k
    · subst h2
      rw [if_pos ⟨rfl, rfl⟩, if_pos ⟨rfl, by omega⟩]
    · rw [if_neg (by omega), if_neg (by omega)]
      by_cases h3 : j < k
      · rw [if_pos ⟨rfl, h3⟩, if_pos ⟨rfl, by omega⟩]
      · rw [if_neg (by omega), if_neg (by omega), if_neg (by omega), if_neg (by omega)]
  · rw [if_neg (by omega)]
    by_cases h4 : i = 11
    · subst h4
      by_cases h2 : j = k
      · subst h2
        rw [if_pos ⟨rfl, rfl⟩, if_neg (by omega), if_pos ⟨rfl, by omega⟩]
      · rw [if_neg (by omega), if_neg (by omega)]
        by_cases h3 : j < k
        · rw [if_pos ⟨rfl, h3⟩, if_neg (by omega), if_pos ⟨rfl, by omega⟩]
        · rw [if_neg (by omega), if_neg (by omega), if_neg (by omega)]
    · rw [if_neg (by omega), if_neg (by omega), if_neg (by omega), if_neg (by omega), if_neg (by omega)]
theorem s_cpy_3 {α : Type} {I : Nat → Nat → α} {r q k : Nat} (h : q ≠ r) : zs (s_cpy I r q 0 k) r k ((s_cpy I r q 0 k) q k) = s_cpy I r q 0 (k + 1) := by
  rw [s_cpy_n (Or.inl h)]
  have h1 := s_cpy_1 (I := I) (r := r) (q := q) (fr := 0) (n := k)
  rw [Nat.zero_add] at h1
  exact h1
