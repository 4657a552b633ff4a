/-! LINES READ: a day, stays. Printed by t101.py -/
set_option maxRecDepth 100000
theorem zcl_g {k : Nat} (hk : k ≤ 3) : ∃ r, zcl[8 + k]? = some r ∧ Cond.castable r.1 "java/lang/Object" ∈ lw_tbl := by
  rcases (by omega : k = 0 ∨ k = 1 ∨ k = 2 ∨ k = 3) with rfl | rfl | rfl | rfl
  · exact ⟨_, rfl, q2097⟩
  · exact ⟨_, rfl, q2098⟩
  · exact ⟨_, rfl, q2099⟩
  · exact ⟨_, rfl, q2100⟩
set_option maxHeartbeats 4000000 in
theorem rd_line_2 {g : zG} {X : zX} {r a w : Nat} {T : rTP} {X0 : zX} {v nh nd : Nat} {B : vB} {vs : Nat → Int32} {hv gv : Nat → Int64} {st : Int32} {fa : Option Nat} (hT : rTk T) (hW : rW g X r T a w (some v)) (hX0 : rto X0 X r) (hU0 : vU g X0 X v B vs nh nd hv gv st fa) (hnd : nd < 6) : zV g m_X2_line ({ frames := 9, cells := 18, slots := 209, locals := 304 } : Room) [.ref r, .int 2] X (fun rv X' => rv = none ∧ ∃ (k d y : Nat) (h : Int32), k ≤ 3 ∧ k_guest T.kd T.pl T.vl T.wd (fun val => kwf (fun k => decide (hv k = val)) nh 0) (fun val => kwf (fun k => decide (gv k = val)) nd 0) a = (nI k, h, nI d, nI y, a + 8, 0) ∧ T.kd a = 1 ∧ kwf (fun k => decide (hv k = (T.vl a))) nh 0 < 0 ∧ kwf (fun k => decide (gv k = (T.vl a))) nd 0 < 0 ∧ rto X0 X' r ∧ rW g X' r T (a + 8) w (some v) ∧ ∃ B', ∀ vs' : Nat → Int32, vs' (5 * nd + 12) = nI k → vs' (5 * nd + 13) = h → vs' (5 * nd + 14) = nI d → vs' (5 * nd + 15) = nI y → vs' (5 * nd + 16) = 0 → (∀ k, k < nh → vs' (2 * k + 4) = vs (2 * k + 4) ∧ vs' (2 * k + 5) = vs (2 * k + 5)) → (∀ k j, k < nd → j < 5 → vs' (5 * k + 12 + j) = vs (5 * k + 12 + j)) → vU g X0 X' v B' vs' nh (nd + 1) hv (fun k => if k = nd then T.vl a else gv k) st fa) (fun q E X' => ∃ f, ¬ f = 0 ∧ (k_guest T.kd T.pl T.vl T.wd (fun val => kwf (fun k => decide (hv k = val)) nh 0) (fun val => kwf (fun k => decide (gv k = val)) nd 0) a).2.2.2.2.2 = f ∧ rX X r T (some v) f q E X') := by
  refine zV.of (by decide +kernel) (Nat.le_of_ble_eq_true rfl) rfl ?_
  refine z_lv (lv' := [(0, .ref r), (1, .int 2)]) [0, 1] rfl ?_
  have hn := hT.n
  have hW2 := hW
  obtain ⟨hr0, hx, hks, ha, va, hr, hva⟩ := hW
  have hcn := hT.c
  have hpl := hT.le ha
  have hto := hT.to ha
  have hk4 := hT.kd4 ha
  have hU := hU0
  obtain ⟨hv0, hv00, hxv, hlh, hlg, hlhg, hehg, hhU, hgU⟩ := hU0
  refine z_iload_n 1 dX2_line_0 rfl ?_
  refine z_tableIn (off := 199) 200 dX2_line_1 (by decide) (by decide) (by rfl) (by decide) ?_
  refine z_aload_n 0 dX2_line_200 rfl ?_
  refine z_get (v := .ref v) 7 hr rfl in_X2 (by decide) q175 rfl dX2_line_201 ?_
  refine z_getN (v := .ref B.lg) 1 hxv rfl in_X3 (by decide) q235 rfl dX2_line_204 ?_
  refine z_aload_n 0 dX2_line_207 rfl ?_
  refine z_callVx (As := []) (rd_guestl hT hW2 hX0 hU) q905 q907 qs17 q113 q908 nm_X2_guest hr rfl rfl rfl (Nat.le_of_ble_eq_true rfl) ⟨Nat.le_of_ble_eq_true rfl, Nat.le_of_ble_eq_true rfl⟩ dX2_line_208 rfl rfl (Nat.le_of_ble_eq_true rfl) (Nat.le_of_ble_eq_true rfl) rfl (fun q9 E9 X8 hp9 => by obtain ⟨f9, hf9, hs9, hx9⟩ := hp9; exact ⟨f9, hf9, hs9, hx9.tr rto.rf⟩) (fun v_3 X1 hp_4 => ?_)
  obtain ⟨o1, s1, k1, d1, y1, h1, rfl, hk1, he1, hkd1, hf11, hf21, hon1, hoz1, hna1, ho1, hkS1, ht1, hw1, hvq1⟩ := hp_4
  have hWk2 := hw1
  obtain ⟨-, hx2, hks2, ha2, va2, hr2, hva2⟩ := hw1
  have hrt2 := rto.rf.tr ht1
  have he2_v := ht1 _ _ (zne hxv hr (by unfold rdT; simp)) hxv
  have hpl2 := hT.le ha2
  have hto2 := hT.to ha2
  have hk42 := hT.kd4 ha2
  refine z_st (st' := [.ref o1, .ref B.lg]) rfl ?_
  have hVW : vU g X0 X1 v B vs nh nd hv gv st fa := hvq1
  have hrtW : rto X X1 r := hrt2
  have hrwW : rW g X1 r T (a + 8) w (some v) := hWk2
  obtain ⟨hv0W, hv00W, hxvW, hlhW, hlgW, hneW, hneeW, hhW, hgW⟩ := id hVW
  obtain ⟨l1, l2, l3, l4, l5, l6, l7, l8, l9⟩ := hlgW
  obtain ⟨rg, hrg1, hrg2⟩ := zcl_g hk1
  refine z_callV (As := [.ref o1]) (t_addL l5 l1 l6 l2 ho1 hrg1 hrg2 (zne ho1 l5 (fun z => by injection z with z; injection z with z1 z2; omega)) l7 l8 l9 (fun q hq => by obtain ⟨a0, nm0, k0, q1, q2, q3, q4, q5, q6, q7⟩ := hgW.1 q hq; obtain ⟨r0, g1, g2⟩ := zcl_g q4; exact Or.inr ⟨a0, 8 + k0, _, r0, q1, q6, g1, g2⟩)) q837 q838 q839 q117 q840 nm_J2_add l5 rfl rfl rfl (Nat.le_of_ble_eq_true rfl) ⟨Nat.le_of_ble_eq_true rfl, Nat.le_of_ble_eq_true rfl⟩ dX2_line_211 rfl rfl (Nat.le_of_ble_eq_true rfl) (Nat.le_of_ble_eq_true rfl) (fun v_5 X_6 hp_7 => ?_)
  obtain ⟨rfl, mc', e', c', f', rfl, q1, q2, q3, q4, q5, q6⟩ := hp_7
  refine z_st (st' := [.int 1]) rfl ?_
  refine z_pop dX2_line_214 rfl ?_
  refine z_goto 369 dX2_line_215 (by decide) ?_
  obtain ⟨hz8, hrt8⟩ := (hX0.tr hrtW).add hr2 l3 l4 q1 (e1 := .inl (zar g 4, c', .inr (.inr (.inr (.inr f'))))) (e2 := .inr (23, [.int mc', .ref e', .int (nI (nd + 1))]))
  exact z_vret dX2_line_369 rfl (Nat.le_of_ble_eq_true rfl) (Nat.le_of_ble_eq_true rfl) ⟨rfl, k1, d1, y1, h1, hk1, he1, hkd1, hf11, hf21, hrt8, hrwW.add l5 l6 q1, _, fun vs' g0 g1 g2 g3 g4 g5 g6 => hVW.addG hoz1 (hX0.back hon1 hr) hna1.2 hk1 g0 (by rw [g1, g2, g3, g4]; exact ho1) hkS1 (q1.imp id (fun z => ⟨z, hz8⟩)) q2 q3 (by omega) q5 q6 g5 g6⟩
set_option maxHeartbeats 4000000 in
theorem rd_line_4 {g : zG} {X : zX} {r a w : Nat} {T : rTP} {X0 : zX} {v nh nd : Nat} {B : vB} {vs : Nat → Int32} {hv gv : Nat → Int64} {st : Int32} {fa : Option Nat} (hT : rTk T) (hW : rW g X r T a w (some v)) (hX0 : rto X0 X r) (hU0 : vU g X0 X v B vs nh nd hv gv st fa) : zV g m_X2_line ({ frames := 7, cells := 1, slots := 7, locals := 158 } : Room) [.ref r, .int 4] X (fun rv X' => rv = none ∧ ∃ k : Nat, 1 ≤ k ∧ k ≤ 4 ∧ s_tN T.kd T.pl T.vl a 0 (nI 1) (nI 4) = (nI k, a + 1, 0) ∧ rto X0 X' r ∧ rW g X' r T (a + 1) w (some v) ∧ ∀ vs' : Nat → Int32, (∀ j, 4 ≤ j → vs' j = vs j) → vU g X0 X' v B vs' nh nd hv gv (nI k) fa) (fun q E X' => ∃ f, ¬ f = 0 ∧ (s_tN T.kd T.pl T.vl a 0 (nI 1) (nI 4)).2.2 = f ∧ rX X r T (some v) f q E X') := by
  refine zV.of (by decide +kernel) (Nat.le_of_ble_eq_true rfl) rfl ?_
  refine z_lv (lv' := [(0, .ref r), (1, .int 4)]) [0, 1] rfl ?_
  have hn := hT.n
  have hW2 := hW
  obtain ⟨hr0, hx, hks, ha, va, hr, hva⟩ := hW
  have hcn := hT.c
  have hpl := hT.le ha
  have hto := hT.to ha
  have hk4 := hT.kd4 ha
  have hU := hU0
  obtain ⟨hv0, hv00, hxv, hlh, hlg, hlhg, hehg, hhU, hgU⟩ := hU0
  refine z_iload_n 1 dX2_line_0 rfl ?_
  refine z_tableIn (off := 341) 342 dX2_line_1 (by decide) (by decide) (by rfl) (by decide) ?_
  refine z_aload_n 0 dX2_line_342 rfl ?_
  refine z_get (v := .ref v) 7 hr rfl in_X2 (by decide) q175 rfl dX2_line_343 ?_
  refine z_aload_n 0 dX2_line_346 rfl ?_
  refine z_iconst (v := 1) dX2_line_347 (by decide) ?_
  refine z_iconst (v := 4) dX2_line_348 (by decide) ?_
  refine z_callVx (As := [.int 1, .int 4]) (rd_number hT hW2 1 4 (by decide) (by decide)) q833 q835 qs11 q113 q836 nm_X2_number_2 hr rfl rfl rfl (Nat.le_of_ble_eq_true rfl) ⟨Nat.le_of_ble_eq_true rfl, Nat.le_of_ble_eq_true rfl⟩ dX2_line_349 rfl rfl (Nat.le_of_ble_eq_true rfl) (Nat.le_of_ble_eq_true rfl) rfl (fun q9 E9 X8 hp9 => by obtain ⟨f9, hf9, hs9, hx9⟩ := hp9; exact ⟨f9, hf9, (congrArg (fun z => z.2.2) hs9), hx9.tr rto.rf⟩) (fun v_3 X1 hp_4 => ?_)
  obtain ⟨k1, hk1, hlo1, hhi1, rfl, he1, ht1, hw1⟩ := hp_4
  have hWk2 := hw1
  obtain ⟨-, hx2, hks2, ha2, va2, hr2, hva2⟩ := hw1
  have hrt2 := rto.rf.tr ht1
  have he2_v := ht1 _ _ (zne hxv hr (by unfold rdT; simp)) hxv
  have hvU2 := hU.to hr ht1
  have hpl2 := hT.le ha2
  have hto2 := hT.to ha2
  have hk42 := hT.kd4 ha2
  refine z_st (st' := [.int (nI (k1)), .ref v]) rfl ?_
  refine z_putN (X' := (zup X1 v (.inr (3, [.ref B.lh, .ref B.lg, .int (nI (k1)), va_rf (fa)])))) 2 he2_v rfl in_X3 (by decide) tyX3 tyX3_ok nmX3 q237 rfl (tyX3_ok 2 (by decide)) rfl rfl (Nat.le_of_ble_eq_true rfl) hv0 dX2_line_352 rfl ?_
  have hx_5 : (zup X1 v (.inr (3, [.ref B.lh, .ref B.lg, .int (nI (k1)), va_rf (fa)]))) r = some (rdT T (a + 1) va2 w (some v)) := zup_k (zne hr2 he2_v (by unfold rdT; simp)) hr2
  have hx_6 : (zup X1 v (.inr (3, [.ref B.lh, .ref B.lg, .int (nI (k1)), va_rf (fa)]))) T.x = some (.inl (zar g 1, 1000, .inl T.t)) := zup_k (zne hx2 he2_v (by simp)) hx2
  have hx_7 : (zup X1 v (.inr (3, [.ref B.lh, .ref B.lg, .int (nI (k1)), va_rf (fa)]))) v = some (.inr (3, [.ref B.lh, .ref B.lg, .int (nI (k1)), va_rf (fa)])) := zup_s
  refine z_goto 369 dX2_line_355 (by decide) ?_
  exact z_vret dX2_line_369 rfl (Nat.le_of_ble_eq_true rfl) (Nat.le_of_ble_eq_true rfl) ⟨rfl, k1, hlo1, hhi1, he1, (hX0.tr hrt2).new hv00, hWk2.up he2_v (by decide) (by decide), fun vs' g1 => hvU2.setV g1⟩
