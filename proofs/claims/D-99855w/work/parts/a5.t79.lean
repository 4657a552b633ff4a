/-! THE COMPONENT: lines judged. Printed by t78.py -/
set_option maxRecDepth 100000
theorem s_jud_inv {wv : Int32 → Int32 → Int32 → Int32 → Int32} {vs : Nat → Int32} {nh nd : Nat} {own la lb lh : Nat → Nat} (hV : s_ok vs nh nd own) (hw : s_vok vs nh nd) : ∀ k, k ≤ 40 → (∀ i, i < k → s_lok nh nd (la i) (lb i) (lh i)) → s_gd (s_jud wv vs (s_dt0 vs nd) nh nd own la lb lh k).1 nh nd ∧ ∃ r, r ≤ 6 * k ∧ (s_jud wv vs (s_dt0 vs nd) nh nd own la lb lh k).1 1 = nI r ∧ ((s_jud wv vs (s_dt0 vs nd) nh nd own la lb lh k).2.2.2 < 0 ↔ r = 0)
  | 0, _, _ => ⟨s_gd_start hV.2.1 hV.2.2.2.1 hw, 0, Nat.le_refl _, by
      have hnh := hV.2.1
      show s_start vs nh nd 1 = _
      rw [s_start_at hnh _ (by omega), if_neg (by omega), if_neg (by omega), if_neg (by omega)]
      rfl, ⟨fun _ => rfl, fun _ => m1neg⟩⟩
  | k + 1, hk, hl => by
    obtain ⟨h1, r, h2, h3, h4⟩ := s_jud_inv (wv := wv) hV hw k (by omega) (fun i hi => hl i (by omega))
    obtain ⟨e1, r', e2, e3, e4, e5⟩ := s_ln_lnd (wv := wv) (ds := s_dt0 vs nd) (now := (s_jud wv vs (s_dt0 vs nd) nh nd own la lb lh k).2.1) (k := k) (bad := (s_jud wv vs (s_dt0 vs nd) nh nd own la lb lh k).2.2.1) hV (hl k (by omega)) h1 h3 (by omega) h4
    have e0 : s_jud wv vs (s_dt0 vs nd) nh nd own la lb lh (k + 1) = _ := e1
    have h9 := s_lnd_gd (wv := wv) (ds := s_dt0 vs nd) (now := (s_jud wv vs (s_dt0 vs nd) nh nd own la lb lh k).2.1) hV (hl k (by omega)) h1
    rw [e0]
    refine ⟨h9, r', by omega, e3, ?_⟩
    show (if (s_jud wv vs (s_dt0 vs nd) nh nd own la lb lh k).2.2.2 < 0 ∧ 0 < (s_lnd wv vs (s_dt0 vs nd) nh nd own (la k) (lb k) (lh k) (s_jud wv vs (s_dt0 vs nd) nh nd own la lb lh k).1 (s_jud wv vs (s_dt0 vs nd) nh nd own la lb lh k).2.1).1 1 then nI k else (s_jud wv vs (s_dt0 vs nd) nh nd own la lb lh k).2.2.2) < 0 ↔ _
    by_cases hf : (s_jud wv vs (s_dt0 vs nd) nh nd own la lb lh k).2.2.2 < 0
    · by_cases hp : 0 < (s_lnd wv vs (s_dt0 vs nd) nh nd own (la k) (lb k) (lh k) (s_jud wv vs (s_dt0 vs nd) nh nd own la lb lh k).1 (s_jud wv vs (s_dt0 vs nd) nh nd own la lb lh k).2.1).1 1
      · rw [if_pos ⟨hf, hp⟩]
        have h7 := (e4 hf).mp hp
        exact ⟨fun z => absurd z (nI_lt0 (by omega)), fun z => absurd z h7⟩
      · rw [if_neg (fun z => hp z.2)]
        exact ⟨fun _ => Classical.byContradiction (fun z => hp ((e4 hf).mpr z)), fun _ => hf⟩
    · rw [if_neg (fun z => hf z.1)]
      exact ⟨fun z => absurd z hf, fun z => absurd z (e5 hf)⟩
theorem cX_jud0 {g : zG} {A : Nat → Nat} {K : Nat → Nat → Int32} {F : Nat → Int32} {O : Nat → Nat → Option Nat} {gl : Int64} {X : zX} {s : Nat} {ds es vs : Nat → Int32} {nh nd : Nat} {wv : Int32 → Int32 → Int32 → Int32 → Int32} {own la lb lh : Nat → Nat} : cX g A (cput K s (s_start vs nh nd) ds 0 0) F O gl X = cX g A (cput K s (s_jud wv vs es nh nd own la lb lh 0).1 ds (nI ((s_jud wv vs es nh nd own la lb lh 0).2.1 % 12)) (nI ((s_jud wv vs es nh nd own la lb lh 0).2.1 / 12))) F O gl X := by
  have e : s_jud wv vs es nh nd own la lb lh 0 = (s_start vs nh nd, 0, zm1, zm1) := rfl
  have e1 : nI (0 % 12) = 0 := by decide
  have e2 : nI (0 / 12) = 0 := by decide
  rw [e]
  show _ = cX g A (cput K s (s_start vs nh nd) ds (nI (0 % 12)) (nI (0 / 12))) F O gl X
  rw [e1]
set_option maxHeartbeats 4000000 in
theorem c_judged {g : zG} {A : Nat → Nat} {K : Nat → Nat → Int32} {F : Nat → Int32} {O : Nat → Nat → Option Nat} {gl : Int64} {X : zX} (hA : cok g A X) {v : Nat} (hO : O 0 0 = some v) {vs : Nat → Int32} {nh nd : Nat} {own : Nat → Nat} {wv : Int32 → Int32 → Int32 → Int32 → Int32} (hV : s_ok vs nh nd own) (hv : cvl g X v vs nh nd wv) {σ ds τ es : Nat → Int32} {dt2 yr2 o : Int32} {now : Nat} (hnow : now < 2 ^ 28) (hiv : s_iv σ nd) {ll ln : Nat} {ya yb yh : Nat → Nat} (hO1 : O 0 1 = some ll) (hln : cln g X ll ln ya yb yh) (hlo : ∀ k, k < ln → s_lok nh nd (ya k) (yb k) (yh k)) (hw : s_vok vs nh nd) (w : Int32) : zN g m_X1_judged ({ frames := 1003, cells := 0, slots := 0, locals := 40087 } : Room) [.ref (A 99), .int w] (cX g A (cput (cput (zs K 99 8 o) 300 σ ds (nI (now % 12)) (nI (now / 12))) 310 τ es dt2 yr2) F O gl X) (fun rv X' => rv = some (.int (s_judged (s_jud wv vs (s_dt0 vs nd) nh nd own ya yb yh ln) w)) ∧ ∃ (o' : Int32) (F' τ' es' : Nat → Int32) (dt' yr' : Int32), X' = cX g A (cput (cput (zs K 99 8 o') 300 σ ds (nI (now % 12)) (nI (now / 12))) 310 τ' es' dt' yr') F' O gl X) := by
  refine zN.of (by decide +kernel) (Nat.le_of_ble_eq_true rfl) rfl ?_
  refine z_lv (lv' := [(0, .ref (A 99)), (1, .int w)]) [0, 1] rfl ?_
  have hA2 := hA.2.2.1
  have hV9 := hV
  have hv9 := hv
  obtain ⟨h0, hnh, h1, hnd, hown⟩ := hV9
  obtain ⟨lh, lg, fh, fg, st9, fa, hxv, ⟨mh, eh, ch, hlh, heh, hch1, hch2⟩, ⟨mg, eg, cg, hlg, heg, hcg1, hcg2⟩, hhs, hgs, hst9, hfa⟩ := hv9
  obtain ⟨ml, el, fl, hll, hln40, hle, hlf⟩ := hln
  refine z_iload_n 1 dX1_judged_0 rfl ?_
  refine z_iconst (v := 0) dX1_judged_1 (by decide) ?_
  refine z_iconst (v := 2) dX1_judged_2 (by decide) ?_
  refine z_callS (As := [.int w, .int 0, .int 2]) (c_inn w 0 2) q1132 q1133 q112 q1134 nm_X1_in rfl (Nat.le_of_ble_eq_true rfl) ⟨Nat.le_of_ble_eq_true rfl, Nat.le_of_ble_eq_true rfl⟩ dX1_judged_3 rfl rfl (Nat.le_of_ble_eq_true rfl) (Nat.le_of_ble_eq_true rfl) (fun v_1 X_2 hp_3 => ?_)
  obtain ⟨rfl, rfl⟩ := hp_3
  refine z_st (st' := [.int (zb (decide (0 ≤ w) && decide (w ≤ 2)))]) rfl ?_
  refine z_if_neb 12 dX1_judged_6 (by decide) (fun c_4 => ?_) (fun c_4 => ?_)
  · -- decide (0 ≤ w) && decide (w ≤ 2) = true
    obtain ⟨m, -, hm, e_w⟩ := zwin 0 2 (by decide) c_4
    refine z_lv (lv' := [(0, .ref (A 99)), (1, .int (nI (m)))]) [0, 1] (by rw [e_w]; rfl) ?_
    refine z_aload_n 0 dX1_judged_12 rfl ?_
    refine cz_get (v := .ref (A 319)) 5 hA (by decide) q332 rfl dX1_judged_13 ?_
    refine z_aload_n 0 dX1_judged_16 rfl ?_
    refine cz_get (v := .ref v) 2 hA (by decide) q329 (by show some (va_rf (O 0 0)) = _; rw [hO]; rfl) dX1_judged_17 ?_
    refine z_callV (As := [.ref v]) (c_begin (F := F) (gl := gl) (K := (cput (zs K 99 8 o) 300 σ ds (nI (now % 12)) (nI (now / 12)))) (σ := τ) (ds := es) (dt := dt2) (yr := yr2) (O := O) hA hO hV hv (cst_1 hA)) q303 q304 q305 q118 q306 nm_X4_begin (cX_st hA (cst_1 hA)) rfl rfl rfl (Nat.le_of_ble_eq_true rfl) ⟨Nat.le_of_ble_eq_true rfl, Nat.le_of_ble_eq_true rfl⟩ dX1_judged_20 rfl rfl (Nat.le_of_ble_eq_true rfl) (Nat.le_of_ble_eq_true rfl) (fun v_5 X_6 hp_7 => ?_)
    obtain ⟨rfl, rfl⟩ := hp_7
    refine z_st (st' := []) rfl ?_
    refine z_iconst (v := zm1) dX1_judged_23 (by decide) ?_
    refine z_istore_n (lv' := [(2, .int zm1), (0, .ref (A 99)), (1, .int (nI (m)))]) dX1_judged_24 rfl (by decide) rfl ?_
    refine z_iconst (v := zm1) dX1_judged_25 (by decide) ?_
    refine z_istore_n (lv' := [(3, .int zm1), (2, .int zm1), (0, .ref (A 99)), (1, .int (nI (m)))]) dX1_judged_26 rfl (by decide) rfl ?_
    refine z_iconst (v := 0) dX1_judged_27 (by decide) ?_
    refine z_istore (lv' := [(4, .int 0), (3, .int zm1), (2, .int zm1), (0, .ref (A 99)), (1, .int (nI (m)))]) dX1_judged_28 (by decide) rfl ?_
    have loop_12 : ∀ (q_9 i_8 : Nat), i_8 + q_9 = ln → 0 ≤ i_8 → ∀ (F_13 : Nat → Int32), ∀ (o_14 : Int32), zZ g m_X1_judged (fun rv X' => rv = some (.int (s_judged (s_jud wv vs (s_dt0 vs nd) nh nd own ya yb yh ln) w)) ∧ ∃ (o' : Int32) (F' τ' es' : Nat → Int32) (dt' yr' : Int32), X' = cX g A (cput (cput (zs K 99 8 o') 300 σ ds (nI (now % 12)) (nI (now / 12))) 310 τ' es' dt' yr') F' O gl X, zno, ({ frames := 1003, cells := 0, slots := 0, locals := 40087 } : Room)) 0 0 (cX g A (cput (cput (zs K 99 8 o_14) 300 σ ds (nI (now % 12)) (nI (now / 12))) 310 ((s_jud wv vs (s_dt0 vs nd) nh nd own ya yb yh i_8).1) (s_dt0 vs nd) (nI ((s_jud wv vs (s_dt0 vs nd) nh nd own ya yb yh i_8).2.1 % 12)) (nI ((s_jud wv vs (s_dt0 vs nd) nh nd own ya yb yh i_8).2.1 / 12))) F_13 O gl X) 30 [(0, .ref (A 99)), (1, .int (nI (m))), (2, .int ((s_jud wv vs (s_dt0 vs nd) nh nd own ya yb yh i_8).2.2.1)), (3, .int ((s_jud wv vs (s_dt0 vs nd) nh nd own ya yb yh i_8).2.2.2)), (4, .int (nI (i_8)))] [] := by
      intro q_9
      induction q_9 with
      | zero =>
        intro i_8 hb_11 lo_15 F_13 o_14 
        obtain rfl : ln = i_8 := by omega
        refine z_iload 4 dX1_judged_30 rfl ?_
        refine z_aload_n 0 dX1_judged_32 rfl ?_
        refine cz_get (v := .ref ll) 3 hA (by decide) q330 (by show some (va_rf (O 0 1)) = _; rw [hO1]; rfl) dX1_judged_33 ?_
        refine z_callV (As := []) (t_size (cX_lo hA hll)) q1131 q308 q309 q117 q310 nm_J2_size (cX_lo hA hll) rfl rfl rfl (Nat.le_of_ble_eq_true rfl) ⟨Nat.le_of_ble_eq_true rfl, Nat.le_of_ble_eq_true rfl⟩ dX1_judged_36 rfl rfl (Nat.le_of_ble_eq_true rfl) (Nat.le_of_ble_eq_true rfl) (fun v_16 X_17 hp_18 => ?_)
        obtain ⟨rfl, rfl⟩ := hp_18
        refine z_st (st' := [.int (nI (ln)), .int (nI (ln))]) rfl ?_
        refine z_icmp_geN (a := ln) (b := ln) 95 (by omega) (by omega) dX1_judged_39 (by decide) (fun c_19 => ?_) (fun c_19 => absurd c_19 (by omega))
        refine z_iload_n 1 dX1_judged_95 rfl ?_
        refine z_if_neN 103 (by omega) dX1_judged_96 (by decide) (fun c_20 => ?_) (fun c_20 => ?_)
        · -- m ≠ 0
          refine z_iload_n 1 dX1_judged_103 rfl ?_
          refine z_iconst (v := 1) dX1_judged_104 (by decide) ?_
          refine z_icmp_neN (a := m) (b := 1) 112 (by omega) (by omega) dX1_judged_105 (by decide) (fun c_21 => ?_) (fun c_21 => ?_)
          · -- m ≠ 1
            refine z_aload_n 0 dX1_judged_112 rfl ?_
            refine cz_get (v := .ref (A 319)) 5 hA (by decide) q332 rfl dX1_judged_113 ?_
            refine cz_getSN (s := 310) (v := .int (((s_jud wv vs (s_dt0 vs nd) nh nd own ya yb yh ln).1) 1)) 8 hA (cst_1 hA) (by decide) q277 (congrArg (fun z => some (Value.int z)) ((cput_f (q := 8)).trans (by show ((s_jud wv vs (s_dt0 vs nd) nh nd own ya yb yh ln).1) 1 = _; rfl))) dX1_judged_116 ?_
            exact z_iret dX1_judged_119 rfl (Nat.le_of_ble_eq_true rfl) (Nat.le_of_ble_eq_true rfl) ⟨congrArg some (congrArg Value.int (by rw [e_w]; unfold s_judged; rw [if_pos (show (decide ((0 : Int32) ≤ nI m) && decide (nI m ≤ 2)) = true from zwin_t (l := 0) (h := 2) (Nat.zero_le _) hm (by decide)), ncl (show m < 2 ^ 31 by omega)]; simp [c_20, c_21])), o_14, F_13, (s_jud wv vs (s_dt0 vs nd) nh nd own ya yb yh ln).1, (s_dt0 vs nd), (nI ((s_jud wv vs (s_dt0 vs nd) nh nd own ya yb yh ln).2.1 % 12)), (nI ((s_jud wv vs (s_dt0 vs nd) nh nd own ya yb yh ln).2.1 / 12)), rfl⟩
          · -- m = 1
            refine z_iload_n 3 dX1_judged_108 rfl ?_
            refine z_goto 119 dX1_judged_109 (by decide) ?_
            exact z_iret dX1_judged_119 rfl (Nat.le_of_ble_eq_true rfl) (Nat.le_of_ble_eq_true rfl) ⟨congrArg some (congrArg Value.int (by rw [e_w]; unfold s_judged; rw [if_pos (show (decide ((0 : Int32) ≤ nI m) && decide (nI m ≤ 2)) = true from zwin_t (l := 0) (h := 2) (Nat.zero_le _) hm (by decide)), ncl (show m < 2 ^ 31 by omega)]; simp [c_20, c_21])), o_14, F_13, (s_jud wv vs (s_dt0 vs nd) nh nd own ya yb yh ln).1, (s_dt0 vs nd), (nI ((s_jud wv vs (s_dt0 vs nd) nh nd own ya yb yh ln).2.1 % 12)), (nI ((s_jud wv vs (s_dt0 vs nd) nh nd own ya yb yh ln).2.1 / 12)), rfl⟩
        · -- m = 0
          refine z_iload_n 2 dX1_judged_99 rfl ?_
          refine z_goto 119 dX1_judged_100 (by decide) ?_
          exact z_iret dX1_judged_119 rfl (Nat.le_of_ble_eq_true rfl) (Nat.le_of_ble_eq_true rfl) ⟨congrArg some (congrArg Value.int (by rw [e_w]; unfold s_judged; rw [if_pos (show (decide ((0 : Int32) ≤ nI m) && decide (nI m ≤ 2)) = true from zwin_t (l := 0) (h := 2) (Nat.zero_le _) hm (by decide)), ncl (show m < 2 ^ 31 by omega)]; simp [c_20])), o_14, F_13, (s_jud wv vs (s_dt0 vs nd) nh nd own ya yb yh ln).1, (s_dt0 vs nd), (nI ((s_jud wv vs (s_dt0 vs nd) nh nd own ya yb yh ln).2.1 % 12)), (nI ((s_jud wv vs (s_dt0 vs nd) nh nd own ya yb yh ln).2.1 / 12)), rfl⟩
      | succ q_9 ih_10 =>
        intro i_8 hb_11 lo_15 F_13 o_14 
        refine z_iload 4 dX1_judged_30 rfl ?_
        refine z_aload_n 0 dX1_judged_32 rfl ?_
        refine cz_get (v := .ref ll) 3 hA (by decide) q330 (by show some (va_rf (O 0 1)) = _; rw [hO1]; rfl) dX1_judged_33 ?_
        refine z_callV (As := []) (t_size (cX_lo hA hll)) q1131 q308 q309 q117 q310 nm_J2_size (cX_lo hA hll) rfl rfl rfl (Nat.le_of_ble_eq_true rfl) ⟨Nat.le_of_ble_eq_true rfl, Nat.le_of_ble_eq_true rfl⟩ dX1_judged_36 rfl rfl (Nat.le_of_ble_eq_true rfl) (Nat.le_of_ble_eq_true rfl) (fun v_22 X_23 hp_24 => ?_)
        obtain ⟨rfl, rfl⟩ := hp_24
        refine z_st (st' := [.int (nI (ln)), .int (nI (i_8))]) rfl ?_
        refine z_icmp_geN (a := i_8) (b := ln) 95 (by omega) (by omega) dX1_judged_39 (by decide) (fun c_25 => absurd c_25 (by omega)) (fun c_25 => ?_)
        have hin := s_jud_inv (wv := wv) (la := ya) (lb := yb) (lh := yh) hV hw i_8 (by omega) (fun j hj => hlo j (by omega))
        have hnw := (s_jud_0 (wv := wv) (vs := vs) (ds := s_dt0 vs nd) (nd := nd) (own := own) (la := ya) (lb := yb) (lh := yh) hnh i_8).2
        obtain ⟨r9, hr9, hr91, hr92⟩ := hin.2
        have hj9 := (s_ln_lnd (wv := wv) (ds := s_dt0 vs nd) (now := (s_jud wv vs (s_dt0 vs nd) nh nd own ya yb yh i_8).2.1) (k := i_8) (bad := (s_jud wv vs (s_dt0 vs nd) nh nd own ya yb yh i_8).2.2.1) hV (hlo i_8 (by omega)) hin.1 hr91 (by omega) hr92).1
        replace hj9 : (s_jud wv vs (s_dt0 vs nd) nh nd own ya yb yh (i_8 + 1)) = _ := hj9
        refine z_aload_n 0 dX1_judged_42 rfl ?_
        refine cz_get (v := .ref ll) 3 hA (by decide) q330 (by show some (va_rf (O 0 1)) = _; rw [hO1]; rfl) dX1_judged_43 ?_
        refine z_iload 4 dX1_judged_46 rfl ?_
        obtain ⟨c9, he9, hc91, hc92⟩ := hle (by omega)
        obtain ⟨q9, hq9, hcl9⟩ := hlf i_8 (by omega)
        refine z_callV (As := [.int (nI (i_8))]) (t_getL (cX_lo hA hll) (cX_lo hA he9) (by omega) i_8 (by omega) (by omega) hq9) q1147 q312 q313 q117 q314 nm_J2_get (cX_lo hA hll) rfl rfl rfl (Nat.le_of_ble_eq_true rfl) ⟨Nat.le_of_ble_eq_true rfl, Nat.le_of_ble_eq_true rfl⟩ dX1_judged_48 rfl rfl (Nat.le_of_ble_eq_true rfl) (Nat.le_of_ble_eq_true rfl) (fun v_26 X_27 hp_28 => ?_)
        obtain ⟨rfl, rfl⟩ := hp_28
        refine z_st (st' := [.ref q9]) rfl ?_
        refine z_castL (hcl9.lo hA) q1294 dX1_judged_51 ?_
        refine z_aload_n 0 dX1_judged_54 rfl ?_
        refine z_aload_n 0 dX1_judged_55 rfl ?_
        refine cz_get (v := .ref (A 319)) 5 hA (by decide) q332 rfl dX1_judged_56 ?_
        have hl9 := (hlo i_8 (by omega))
        refine z_isDone (K := K) (F := F_13) (gl := gl) (σ := σ) (ds := ds) (dt := (nI (now % 12))) (yr := (nI (now / 12))) (o := o_14) (τ := (s_jud wv vs (s_dt0 vs nd) nh nd own ya yb yh i_8).1) (es := s_dt0 vs nd) (tw := (s_jud wv vs (s_dt0 vs nd) nh nd own ya yb yh i_8).2.1) hA hO hV hv (by omega) hin.1.1 hcl9 hl9 q1295 (Nat.le_of_ble_eq_true rfl) (Nat.le_of_ble_eq_true rfl) (Nat.le_of_ble_eq_true rfl) dX1_judged_59 (Nat.le_of_ble_eq_true rfl) (Nat.le_of_ble_eq_true rfl) (fun o_31 F_30 => ?_)
        refine z_if_neb 72 dX1_judged_62 (by decide) (fun c_32 => ?_) (fun c_32 => ?_)
        · -- (s_lnd wv vs (s_dt0 vs nd) nh nd own (ya i_8) (yb i_8) (yh i_8) (s_jud wv vs (s_dt0 vs nd) nh nd own ya yb yh i_8).1 (s_jud wv vs (s_dt0 vs nd) nh nd own ya yb yh i_8).2.1).2.2 = true
          refine z_iload_n 3 dX1_judged_72 rfl ?_
          refine z_if_ge 89 dX1_judged_73 (by decide) (fun c_33 => ?_) (fun c_33 => ?_)
          · -- 0 ≤ (s_jud wv vs (s_dt0 vs nd) nh nd own ya yb yh i_8).2.2.2
            have c_33' := Int32.not_lt.mpr c_33
            refine z_iinc (v := nI (i_8 + 1)) (lv' := [(4, .int (nI (i_8 + 1))), (0, .ref (A 99)), (1, .int (nI (m))), (2, .int ((s_jud wv vs (s_dt0 vs nd) nh nd own ya yb yh i_8).2.2.1)), (3, .int ((s_jud wv vs (s_dt0 vs nd) nh nd own ya yb yh i_8).2.2.2))]) 4 dX1_judged_89 rfl (nI_1 _) (by decide) rfl ?_
            refine z_goto 30 dX1_judged_92 (by decide) ?_
            have f_34 : (s_jud wv vs (s_dt0 vs nd) nh nd own ya yb yh i_8).2.2.1 = (s_jud wv vs (s_dt0 vs nd) nh nd own ya yb yh (i_8 + 1)).2.2.1 := by rw [hj9]; simp [c_4, c_25, c_32, c_33, c_33']
            have f_35 : (s_jud wv vs (s_dt0 vs nd) nh nd own ya yb yh i_8).2.2.2 = (s_jud wv vs (s_dt0 vs nd) nh nd own ya yb yh (i_8 + 1)).2.2.2 := by rw [hj9]; simp [c_4, c_25, c_32, c_33, c_33']
            refine z_lv (lv' := [(0, .ref (A 99)), (1, .int (nI (m))), (2, .int ((s_jud wv vs (s_dt0 vs nd) nh nd own ya yb yh (i_8 + 1)).2.2.1)), (3, .int ((s_jud wv vs (s_dt0 vs nd) nh nd own ya yb yh (i_8 + 1)).2.2.2)), (4, .int (nI (i_8 + 1)))]) [1, 2, 3, 4, 0] (by rw [← f_34, ← f_35]; rfl) ?_
            refine z_X (X' := (cX g A (cput (cput (zs K 99 8 o_31) 300 σ ds (nI (now % 12)) (nI (now / 12))) 310 ((s_jud wv vs (s_dt0 vs nd) nh nd own ya yb yh (i_8 + 1)).1) (s_dt0 vs nd) (nI ((s_jud wv vs (s_dt0 vs nd) nh nd own ya yb yh (i_8 + 1)).2.1 % 12)) (nI ((s_jud wv vs (s_dt0 vs nd) nh nd own ya yb yh (i_8 + 1)).2.1 / 12))) F_30 O gl X)) (by rw [hj9]) ?_
            exact ih_10 (i_8 + 1) (by omega) (by omega) _ _ 
          · -- ¬ 0 ≤ (s_jud wv vs (s_dt0 vs nd) nh nd own ya yb yh i_8).2.2.2
            have c_33' := Int32.not_le.mp c_33
            refine z_aload_n 0 dX1_judged_76 rfl ?_
            refine cz_get (v := .ref (A 319)) 5 hA (by decide) q332 rfl dX1_judged_77 ?_
            refine cz_getSN (s := 310) (v := .int (((s_lnd wv vs (s_dt0 vs nd) nh nd own (ya i_8) (yb i_8) (yh i_8) (s_jud wv vs (s_dt0 vs nd) nh nd own ya yb yh i_8).1 (s_jud wv vs (s_dt0 vs nd) nh nd own ya yb yh i_8).2.1).1) 1)) 8 hA (cst_1 hA) (by decide) q277 (congrArg (fun z => some (Value.int z)) ((cput_f (q := 8)).trans (by show ((s_lnd wv vs (s_dt0 vs nd) nh nd own (ya i_8) (yb i_8) (yh i_8) (s_jud wv vs (s_dt0 vs nd) nh nd own ya yb yh i_8).1 (s_jud wv vs (s_dt0 vs nd) nh nd own ya yb yh i_8).2.1).1) 1 = _; rfl))) dX1_judged_80 ?_
            refine z_if_le 89 dX1_judged_83 (by decide) (fun c_36 => ?_) (fun c_36 => ?_)
            · -- ((s_lnd wv vs (s_dt0 vs nd) nh nd own (ya i_8) (yb i_8) (yh i_8) (s_jud wv vs (s_dt0 vs nd) nh nd own ya yb yh i_8).1 (s_jud wv vs (s_dt0 vs nd) nh nd own ya yb yh i_8).2.1).1) 1 ≤ 0
              have c_36' := Int32.not_lt.mpr c_36
              refine z_iinc (v := nI (i_8 + 1)) (lv' := [(4, .int (nI (i_8 + 1))), (0, .ref (A 99)), (1, .int (nI (m))), (2, .int ((s_jud wv vs (s_dt0 vs nd) nh nd own ya yb yh i_8).2.2.1)), (3, .int ((s_jud wv vs (s_dt0 vs nd) nh nd own ya yb yh i_8).2.2.2))]) 4 dX1_judged_89 rfl (nI_1 _) (by decide) rfl ?_
              refine z_goto 30 dX1_judged_92 (by decide) ?_
              have f_37 : (s_jud wv vs (s_dt0 vs nd) nh nd own ya yb yh i_8).2.2.1 = (s_jud wv vs (s_dt0 vs nd) nh nd own ya yb yh (i_8 + 1)).2.2.1 := by rw [hj9]; simp [c_4, c_25, c_32, c_33, c_33', c_36, c_36']
              have f_38 : (s_jud wv vs (s_dt0 vs nd) nh nd own ya yb yh i_8).2.2.2 = (s_jud wv vs (s_dt0 vs nd) nh nd own ya yb yh (i_8 + 1)).2.2.2 := by rw [hj9]; simp [c_4, c_25, c_32, c_33, c_33', c_36, c_36']
              refine z_lv (lv' := [(0, .ref (A 99)), (1, .int (nI (m))), (2, .int ((s_jud wv vs (s_dt0 vs nd) nh nd own ya yb yh (i_8 + 1)).2.2.1)), (3, .int ((s_jud wv vs (s_dt0 vs nd) nh nd own ya yb yh (i_8 + 1)).2.2.2)), (4, .int (nI (i_8 + 1)))]) [1, 2, 3, 4, 0] (by rw [← f_37, ← f_38]; rfl) ?_
              refine z_X (X' := (cX g A (cput (cput (zs K 99 8 o_31) 300 σ ds (nI (now % 12)) (nI (now / 12))) 310 ((s_jud wv vs (s_dt0 vs nd) nh nd own ya yb yh (i_8 + 1)).1) (s_dt0 vs nd) (nI ((s_jud wv vs (s_dt0 vs nd) nh nd own ya yb yh (i_8 + 1)).2.1 % 12)) (nI ((s_jud wv vs (s_dt0 vs nd) nh nd own ya yb yh (i_8 + 1)).2.1 / 12))) F_30 O gl X)) (by rw [hj9]) ?_
              exact ih_10 (i_8 + 1) (by omega) (by omega) _ _ 
            · -- ¬ ((s_lnd wv vs (s_dt0 vs nd) nh nd own (ya i_8) (yb i_8) (yh i_8) (s_jud wv vs (s_dt0 vs nd) nh nd own ya yb yh i_8).1 (s_jud wv vs (s_dt0 vs nd) nh nd own ya yb yh i_8).2.1).1) 1 ≤ 0
              have c_36' := Int32.not_le.mp c_36
              refine z_iload 4 dX1_judged_86 rfl ?_
              refine z_istore_n (lv' := [(3, .int (nI (i_8))), (0, .ref (A 99)), (1, .int (nI (m))), (2, .int ((s_jud wv vs (s_dt0 vs nd) nh nd own ya yb yh i_8).2.2.1)), (4, .int (nI (i_8)))]) dX1_judged_88 rfl (by decide) rfl ?_
              refine z_iinc (v := nI (i_8 + 1)) (lv' := [(4, .int (nI (i_8 + 1))), (3, .int (nI (i_8))), (0, .ref (A 99)), (1, .int (nI (m))), (2, .int ((s_jud wv vs (s_dt0 vs nd) nh nd own ya yb yh i_8).2.2.1))]) 4 dX1_judged_89 rfl (nI_1 _) (by decide) rfl ?_
              refine z_goto 30 dX1_judged_92 (by decide) ?_
              have f_39 : (s_jud wv vs (s_dt0 vs nd) nh nd own ya yb yh i_8).2.2.1 = (s_jud wv vs (s_dt0 vs nd) nh nd own ya yb yh (i_8 + 1)).2.2.1 := by rw [hj9]; simp [c_4, c_25, c_32, c_33, c_33', c_36, c_36']
              have f_40 : nI (i_8) = (s_jud wv vs (s_dt0 vs nd) nh nd own ya yb yh (i_8 + 1)).2.2.2 := by rw [hj9]; simp [c_4, c_25, c_32, c_33, c_33', c_36, c_36']
              refine z_lv (lv' := [(0, .ref (A 99)), (1, .int (nI (m))), (2, .int ((s_jud wv vs (s_dt0 vs nd) nh nd own ya yb yh (i_8 + 1)).2.2.1)), (3, .int ((s_jud wv vs (s_dt0 vs nd) nh nd own ya yb yh (i_8 + 1)).2.2.2)), (4, .int (nI (i_8 + 1)))]) [2, 3, 4, 1, 0] (by rw [← f_39, ← f_40]; rfl) ?_
              refine z_X (X' := (cX g A (cput (cput (zs K 99 8 o_31) 300 σ ds (nI (now % 12)) (nI (now / 12))) 310 ((s_jud wv vs (s_dt0 vs nd) nh nd own ya yb yh (i_8 + 1)).1) (s_dt0 vs nd) (nI ((s_jud wv vs (s_dt0 vs nd) nh nd own ya yb yh (i_8 + 1)).2.1 % 12)) (nI ((s_jud wv vs (s_dt0 vs nd) nh nd own ya yb yh (i_8 + 1)).2.1 / 12))) F_30 O gl X)) (by rw [hj9]) ?_
              exact ih_10 (i_8 + 1) (by omega) (by omega) _ _ 
        · -- (s_lnd wv vs (s_dt0 vs nd) nh nd own (ya i_8) (yb i_8) (yh i_8) (s_jud wv vs (s_dt0 vs nd) nh nd own ya yb yh i_8).1 (s_jud wv vs (s_dt0 vs nd) nh nd own ya yb yh i_8).2.1).2.2 = false
          refine z_iload_n 2 dX1_judged_65 rfl ?_
          refine z_if_ge 72 dX1_judged_66 (by decide) (fun c_41 => ?_) (fun c_41 => ?_)
          · -- 0 ≤ (s_jud wv vs (s_dt0 vs nd) nh nd own ya yb yh i_8).2.2.1
            have c_41' := Int32.not_lt.mpr c_41
            refine z_iload_n 3 dX1_judged_72 rfl ?_
            refine z_if_ge 89 dX1_judged_73 (by decide) (fun c_42 => ?_) (fun c_42 => ?_)
            · -- 0 ≤ (s_jud wv vs (s_dt0 vs nd) nh nd own ya yb yh i_8).2.2.2
              have c_42' := Int32.not_lt.mpr c_42
              refine z_iinc (v := nI (i_8 + 1)) (lv' := [(4, .int (nI (i_8 + 1))), (0, .ref (A 99)), (1, .int (nI (m))), (2, .int ((s_jud wv vs (s_dt0 vs nd) nh nd own ya yb yh i_8).2.2.1)), (3, .int ((s_jud wv vs (s_dt0 vs nd) nh nd own ya yb yh i_8).2.2.2))]) 4 dX1_judged_89 rfl (nI_1 _) (by decide) rfl ?_
              refine z_goto 30 dX1_judged_92 (by decide) ?_
              have f_43 : (s_jud wv vs (s_dt0 vs nd) nh nd own ya yb yh i_8).2.2.1 = (s_jud wv vs (s_dt0 vs nd) nh nd own ya yb yh (i_8 + 1)).2.2.1 := by rw [hj9]; simp [c_4, c_25, c_32, c_41, c_41', c_42, c_42']
              have f_44 : (s_jud wv vs (s_dt0 vs nd) nh nd own ya yb yh i_8).2.2.2 = (s_jud wv vs (s_dt0 vs nd) nh nd own ya yb yh (i_8 + 1)).2.2.2 := by rw [hj9]; simp [c_4, c_25, c_32, c_41, c_41', c_42, c_42']
              refine z_lv (lv' := [(0, .ref (A 99)), (1, .int (nI (m))), (2, .int ((s_jud wv vs (s_dt0 vs nd) nh nd own ya yb yh (i_8 + 1)).2.2.1)), (3, .int ((s_jud wv vs (s_dt0 vs nd) nh nd own ya yb yh (i_8 + 1)).2.2.2)), (4, .int (nI (i_8 + 1)))]) [1, 2, 3, 4, 0] (by rw [← f_43, ← f_44]; rfl) ?_
              refine z_X (X' := (cX g A (cput (cput (zs K 99 8 o_31) 300 σ ds (nI (now % 12)) (nI (now / 12))) 310 ((s_jud wv vs (s_dt0 vs nd) nh nd own ya yb yh (i_8 + 1)).1) (s_dt0 vs nd) (nI ((s_jud wv vs (s_dt0 vs nd) nh nd own ya yb yh (i_8 + 1)).2.1 % 12)) (nI ((s_jud wv vs (s_dt0 vs nd) nh nd own ya yb yh (i_8 + 1)).2.1 / 12))) F_30 O gl X)) (by rw [hj9]) ?_
              exact ih_10 (i_8 + 1) (by omega) (by omega) _ _ 
            · -- ¬ 0 ≤ (s_jud wv vs (s_dt0 vs nd) nh nd own ya yb yh i_8).2.2.2
              have c_42' := Int32.not_le.mp c_42
              refine z_aload_n 0 dX1_judged_76 rfl ?_
              refine cz_get (v := .ref (A 319)) 5 hA (by decide) q332 rfl dX1_judged_77 ?_
              refine cz_getSN (s := 310) (v := .int (((s_lnd wv vs (s_dt0 vs nd) nh nd own (ya i_8) (yb i_8) (yh i_8) (s_jud wv vs (s_dt0 vs nd) nh nd own ya yb yh i_8).1 (s_jud wv vs (s_dt0 vs nd) nh nd own ya yb yh i_8).2.1).1) 1)) 8 hA (cst_1 hA) (by decide) q277 (congrArg (fun z => some (Value.int z)) ((cput_f (q := 8)).trans (by show ((s_lnd wv vs (s_dt0 vs nd) nh nd own (ya i_8) (yb i_8) (yh i_8) (s_jud wv vs (s_dt0 vs nd) nh nd own ya yb yh i_8).1 (s_jud wv vs (s_dt0 vs nd) nh nd own ya yb yh i_8).2.1).1) 1 = _; rfl))) dX1_judged_80 ?_
              refine z_if_le 89 dX1_judged_83 (by decide) (fun c_45 => ?_) (fun c_45 => ?_)
              · -- ((s_lnd wv vs (s_dt0 vs nd) nh nd own (ya i_8) (yb i_8) (yh i_8) (s_jud wv vs (s_dt0 vs nd) nh nd own ya yb yh i_8).1 (s_jud wv vs (s_dt0 vs nd) nh nd own ya yb yh i_8).2.1).1) 1 ≤ 0
                have c_45' := Int32.not_lt.mpr c_45
                refine z_iinc (v := nI (i_8 + 1)) (lv' := [(4, .int (nI (i_8 + 1))), (0, .ref (A 99)), (1, .int (nI (m))), (2, .int ((s_jud wv vs (s_dt0 vs nd) nh nd own ya yb yh i_8).2.2.1)), (3, .int ((s_jud wv vs (s_dt0 vs nd) nh nd own ya yb yh i_8).2.2.2))]) 4 dX1_judged_89 rfl (nI_1 _) (by decide) rfl ?_
                refine z_goto 30 dX1_judged_92 (by decide) ?_
                have f_46 : (s_jud wv vs (s_dt0 vs nd) nh nd own ya yb yh i_8).2.2.1 = (s_jud wv vs (s_dt0 vs nd) nh nd own ya yb yh (i_8 + 1)).2.2.1 := by rw [hj9]; simp [c_4, c_25, c_32, c_41, c_41', c_42, c_42', c_45, c_45']
                have f_47 : (s_jud wv vs (s_dt0 vs nd) nh nd own ya yb yh i_8).2.2.2 = (s_jud wv vs (s_dt0 vs nd) nh nd own ya yb yh (i_8 + 1)).2.2.2 := by rw [hj9]; simp [c_4, c_25, c_32, c_41, c_41', c_42, c_42', c_45, c_45']
                refine z_lv (lv' := [(0, .ref (A 99)), (1, .int (nI (m))), (2, .int ((s_jud wv vs (s_dt0 vs nd) nh nd own ya yb yh (i_8 + 1)).2.2.1)), (3, .int ((s_jud wv vs (s_dt0 vs nd) nh nd own ya yb yh (i_8 + 1)).2.2.2)), (4, .int (nI (i_8 + 1)))]) [1, 2, 3, 4, 0] (by rw [← f_46, ← f_47]; rfl) ?_
                refine z_X (X' := (cX g A (cput (cput (zs K 99 8 o_31) 300 σ ds (nI (now % 12)) (nI (now / 12))) 310 ((s_jud wv vs (s_dt0 vs nd) nh nd own ya yb yh (i_8 + 1)).1) (s_dt0 vs nd) (nI ((s_jud wv vs (s_dt0 vs nd) nh nd own ya yb yh (i_8 + 1)).2.1 % 12)) (nI ((s_jud wv vs (s_dt0 vs nd) nh nd own ya yb yh (i_8 + 1)).2.1 / 12))) F_30 O gl X)) (by rw [hj9]) ?_
                exact ih_10 (i_8 + 1) (by omega) (by omega) _ _ 
              · -- ¬ ((s_lnd wv vs (s_dt0 vs nd) nh nd own (ya i_8) (yb i_8) (yh i_8) (s_jud wv vs (s_dt0 vs nd) nh nd own ya yb yh i_8).1 (s_jud wv vs (s_dt0 vs nd) nh nd own ya yb yh i_8).2.1).1) 1 ≤ 0
                have c_45' := Int32.not_le.mp c_45
                refine z_iload 4 dX1_judged_86 rfl ?_
                refine z_istore_n (lv' := [(3, .int (nI (i_8))), (0, .ref (A 99)), (1, .int (nI (m))), (2, .int ((s_jud wv vs (s_dt0 vs nd) nh nd own ya yb yh i_8).2.2.1)), (4, .int (nI (i_8)))]) dX1_judged_88 rfl (by decide) rfl ?_
                refine z_iinc (v := nI (i_8 + 1)) (lv' := [(4, .int (nI (i_8 + 1))), (3, .int (nI (i_8))), (0, .ref (A 99)), (1, .int (nI (m))), (2, .int ((s_jud wv vs (s_dt0 vs nd) nh nd own ya yb yh i_8).2.2.1))]) 4 dX1_judged_89 rfl (nI_1 _) (by decide) rfl ?_
                refine z_goto 30 dX1_judged_92 (by decide) ?_
                have f_48 : (s_jud wv vs (s_dt0 vs nd) nh nd own ya yb yh i_8).2.2.1 = (s_jud wv vs (s_dt0 vs nd) nh nd own ya yb yh (i_8 + 1)).2.2.1 := by rw [hj9]; simp [c_4, c_25, c_32, c_41, c_41', c_42, c_42', c_45, c_45']
                have f_49 : nI (i_8) = (s_jud wv vs (s_dt0 vs nd) nh nd own ya yb yh (i_8 + 1)).2.2.2 := by rw [hj9]; simp [c_4, c_25, c_32, c_41, c_41', c_42, c_42', c_45, c_45']
                refine z_lv (lv' := [(0, .ref (A 99)), (1, .int (nI (m))), (2, .int ((s_jud wv vs (s_dt0 vs nd) nh nd own ya yb yh (i_8 + 1)).2.2.1)), (3, .int ((s_jud wv vs (s_dt0 vs nd) nh nd own ya yb yh (i_8 + 1)).2.2.2)), (4, .int (nI (i_8 + 1)))]) [2, 3, 4, 1, 0] (by rw [← f_48, ← f_49]; rfl) ?_
                refine z_X (X' := (cX g A (cput (cput (zs K 99 8 o_31) 300 σ ds (nI (now % 12)) (nI (now / 12))) 310 ((s_jud wv vs (s_dt0 vs nd) nh nd own ya yb yh (i_8 + 1)).1) (s_dt0 vs nd) (nI ((s_jud wv vs (s_dt0 vs nd) nh nd own ya yb yh (i_8 + 1)).2.1 % 12)) (nI ((s_jud wv vs (s_dt0 vs nd) nh nd own ya yb yh (i_8 + 1)).2.1 / 12))) F_30 O gl X)) (by rw [hj9]) ?_
                exact ih_10 (i_8 + 1) (by omega) (by omega) _ _ 
          · -- ¬ 0 ≤ (s_jud wv vs (s_dt0 vs nd) nh nd own ya yb yh i_8).2.2.1
            have c_41' := Int32.not_le.mp c_41
            refine z_iload 4 dX1_judged_69 rfl ?_
            refine z_istore_n (lv' := [(2, .int (nI (i_8))), (0, .ref (A 99)), (1, .int (nI (m))), (3, .int ((s_jud wv vs (s_dt0 vs nd) nh nd own ya yb yh i_8).2.2.2)), (4, .int (nI (i_8)))]) dX1_judged_71 rfl (by decide) rfl ?_
            refine z_iload_n 3 dX1_judged_72 rfl ?_
            refine z_if_ge 89 dX1_judged_73 (by decide) (fun c_50 => ?_) (fun c_50 => ?_)
            · -- 0 ≤ (s_jud wv vs (s_dt0 vs nd) nh nd own ya yb yh i_8).2.2.2
              have c_50' := Int32.not_lt.mpr c_50
              refine z_iinc (v := nI (i_8 + 1)) (lv' := [(4, .int (nI (i_8 + 1))), (2, .int (nI (i_8))), (0, .ref (A 99)), (1, .int (nI (m))), (3, .int ((s_jud wv vs (s_dt0 vs nd) nh nd own ya yb yh i_8).2.2.2))]) 4 dX1_judged_89 rfl (nI_1 _) (by decide) rfl ?_
              refine z_goto 30 dX1_judged_92 (by decide) ?_
              have f_51 : nI (i_8) = (s_jud wv vs (s_dt0 vs nd) nh nd own ya yb yh (i_8 + 1)).2.2.1 := by rw [hj9]; simp [c_4, c_25, c_32, c_41, c_41', c_50, c_50']
              have f_52 : (s_jud wv vs (s_dt0 vs nd) nh nd own ya yb yh i_8).2.2.2 = (s_jud wv vs (s_dt0 vs nd) nh nd own ya yb yh (i_8 + 1)).2.2.2 := by rw [hj9]; simp [c_4, c_25, c_32, c_41, c_41', c_50, c_50']
              refine z_lv (lv' := [(0, .ref (A 99)), (1, .int (nI (m))), (2, .int ((s_jud wv vs (s_dt0 vs nd) nh nd own ya yb yh (i_8 + 1)).2.2.1)), (3, .int ((s_jud wv vs (s_dt0 vs nd) nh nd own ya yb yh (i_8 + 1)).2.2.2)), (4, .int (nI (i_8 + 1)))]) [2, 3, 1, 4, 0] (by rw [← f_51, ← f_52]; rfl) ?_
              refine z_X (X' := (cX g A (cput (cput (zs K 99 8 o_31) 300 σ ds (nI (now % 12)) (nI (now / 12))) 310 ((s_jud wv vs (s_dt0 vs nd) nh nd own ya yb yh (i_8 + 1)).1) (s_dt0 vs nd) (nI ((s_jud wv vs (s_dt0 vs nd) nh nd own ya yb yh (i_8 + 1)).2.1 % 12)) (nI ((s_jud wv vs (s_dt0 vs nd) nh nd own ya yb yh (i_8 + 1)).2.1 / 12))) F_30 O gl X)) (by rw [hj9]) ?_
              exact ih_10 (i_8 + 1) (by omega) (by omega) _ _ 
            · -- ¬ 0 ≤ (s_jud wv vs (s_dt0 vs nd) nh nd own ya yb yh i_8).2.2.2
              have c_50' := Int32.not_le.mp c_50
              refine z_aload_n 1 dX1_judged_76 rfl ?_
              refine cz_get (v := .ref (A 319)) 5 hA (by decide) q332 rfl dX1_judged_77 ?_
              refine cz_getSN (s := 310) (v := .int (((s_lnd wv vs (s_dt0 vs nd) nh nd own (ya i_8) (yb i_8) (yh i_8) (s_jud wv vs (s_dt0 vs nd) nh nd own ya yb yh i_8).1 (s_jud wv vs (s_dt0 vs nd) nh nd own ya yb yh i_8).2.1).1) 1)) 8 hA (cst_1 hA) (by decide) q277 (congrArg (fun z => some (Value.int z)) ((cput_f (q := 8)).trans (by show ((s_lnd wv vs (s_dt0 vs nd) nh nd own (ya i_8) (yb i_8) (yh i_8) (s_jud wv vs (s_dt0 vs nd) nh nd own ya yb yh i_8).1 (s_jud wv vs (s_dt0 vs nd) nh nd own ya yb yh i_8).2.1).1) 1 = _; rfl))) dX1_judged_80 ?_
              refine z_if_le 89 dX1_judged_83 (by decide) (fun c_53 => ?_) (fun c_53 => ?_)
              · -- ((s_lnd wv vs (s_dt0 vs nd) nh nd own (ya i_8) (yb i_8) (yh i_8) (s_jud wv vs (s_dt0 vs nd) nh nd own ya yb yh i_8).1 (s_jud wv vs (s_dt0 vs nd) nh nd own ya yb yh i_8).2.1).1) 1 ≤ 0
                have c_53' := Int32.not_lt.mpr c_53
                refine z_iinc (v := nI (i_8 + 1)) (lv' := [(4, .int (nI (i_8 + 1))), (2, .int (nI (i_8))), (0, .ref (A 99)), (1, .int (nI (m))), (3, .int ((s_jud wv vs (s_dt0 vs nd) nh nd own ya yb yh i_8).2.2.2))]) 4 dX1_judged_89 rfl (nI_1 _) (by decide) rfl ?_
                refine z_goto 30 dX1_judged_92 (by decide) ?_
                have f_54 : nI (i_8) = (s_jud wv vs (s_dt0 vs nd) nh nd own ya yb yh (i_8 + 1)).2.2.1 := by rw [hj9]; simp [c_4, c_25, c_32, c_41, c_41', c_50, c_50', c_53, c_53']
                have f_55 : (s_jud wv vs (s_dt0 vs nd) nh nd own ya yb yh i_8).2.2.2 = (s_jud wv vs (s_dt0 vs nd) nh nd own ya yb yh (i_8 + 1)).2.2.2 := by rw [hj9]; simp [c_4, c_25, c_32, c_41, c_41', c_50, c_50', c_53, c_53']
                refine z_lv (lv' := [(0, .ref (A 99)), (1, .int (nI (m))), (2, .int ((s_jud wv vs (s_dt0 vs nd) nh nd own ya yb yh (i_8 + 1)).2.2.1)), (3, .int ((s_jud wv vs (s_dt0 vs nd) nh nd own ya yb yh (i_8 + 1)).2.2.2)), (4, .int (nI (i_8 + 1)))]) [2, 3, 1, 4, 0] (by rw [← f_54, ← f_55]; rfl) ?_
                refine z_X (X' := (cX g A (cput (cput (zs K 99 8 o_31) 300 σ ds (nI (now % 12)) (nI (now / 12))) 310 ((s_jud wv vs (s_dt0 vs nd) nh nd own ya yb yh (i_8 + 1)).1) (s_dt0 vs nd) (nI ((s_jud wv vs (s_dt0 vs nd) nh nd own ya yb yh (i_8 + 1)).2.1 % 12)) (nI ((s_jud wv vs (s_dt0 vs nd) nh nd own ya yb yh (i_8 + 1)).2.1 / 12))) F_30 O gl X)) (by rw [hj9]) ?_
                exact ih_10 (i_8 + 1) (by omega) (by omega) _ _ 
              · -- ¬ ((s_lnd wv vs (s_dt0 vs nd) nh nd own (ya i_8) (yb i_8) (yh i_8) (s_jud wv vs (s_dt0 vs nd) nh nd own ya yb yh i_8).1 (s_jud wv vs (s_dt0 vs nd) nh nd own ya yb yh i_8).2.1).1) 1 ≤ 0
                have c_53' := Int32.not_le.mp c_53
                refine z_iload 4 dX1_judged_86 rfl ?_
                refine z_istore_n (lv' := [(3, .int (nI (i_8))), (2, .int (nI (i_8))), (0, .ref (A 99)), (1, .int (nI (m))), (4, .int (nI (i_8)))]) dX1_judged_88 rfl (by decide) rfl ?_
                refine z_iinc (v := nI (i_8 + 1)) (lv' := [(4, .int (nI (i_8 + 1))), (3, .int (nI (i_8))), (2, .int (nI (i_8))), (0, .ref (A 99)), (1, .int (nI (m)))]) 4 dX1_judged_89 rfl (nI_1 _) (by decide) rfl ?_
                refine z_goto 30 dX1_judged_92 (by decide) ?_
                have f_56 : nI (i_8) = (s_jud wv vs (s_dt0 vs nd) nh nd own ya yb yh (i_8 + 1)).2.2.1 := by rw [hj9]; simp [c_4, c_25, c_32, c_41, c_41', c_50, c_50', c_53, c_53']
                have f_57 : nI (i_8) = (s_jud wv vs (s_dt0 vs nd) nh nd own ya yb yh (i_8 + 1)).2.2.2 := by rw [hj9]; simp [c_4, c_25, c_32, c_41, c_41', c_50, c_50', c_53, c_53']
                refine z_lv (lv' := [(0, .ref (A 99)), (1, .int (nI (m))), (2, .int ((s_jud wv vs (s_dt0 vs nd) nh nd own ya yb yh (i_8 + 1)).2.2.1)), (3, .int ((s_jud wv vs (s_dt0 vs nd) nh nd own ya yb yh (i_8 + 1)).2.2.2)), (4, .int (nI (i_8 + 1)))]) [3, 4, 2, 1, 0] (by rw [← f_56, ← f_57]; rfl) ?_
                refine z_X (X' := (cX g A (cput (cput (zs K 99 8 o_31) 300 σ ds (nI (now % 12)) (nI (now / 12))) 310 ((s_jud wv vs (s_dt0 vs nd) nh nd own ya yb yh (i_8 + 1)).1) (s_dt0 vs nd) (nI ((s_jud wv vs (s_dt0 vs nd) nh nd own ya yb yh (i_8 + 1)).2.1 % 12)) (nI ((s_jud wv vs (s_dt0 vs nd) nh nd own ya yb yh (i_8 + 1)).2.1 / 12))) F_30 O gl X)) (by rw [hj9]) ?_
                exact ih_10 (i_8 + 1) (by omega) (by omega) _ _ 
    have f_58 : zm1 = (s_jud wv vs (s_dt0 vs nd) nh nd own ya yb yh 0).2.2.1 := by first | rfl | omega | (simp [c_4, e_w]; done) | (skip; simp [c_4, e_w])
    have f_59 : zm1 = (s_jud wv vs (s_dt0 vs nd) nh nd own ya yb yh 0).2.2.2 := by first | rfl | omega | (simp [c_4, e_w]; done) | (skip; simp [c_4, e_w])
    refine z_lv (lv' := [(0, .ref (A 99)), (1, .int (nI (m))), (2, .int ((s_jud wv vs (s_dt0 vs nd) nh nd own ya yb yh 0).2.2.1)), (3, .int ((s_jud wv vs (s_dt0 vs nd) nh nd own ya yb yh 0).2.2.2)), (4, .int 0)]) [3, 4, 2, 1, 0] (by rw [← f_58, ← f_59]; rfl) ?_
    refine z_X (X' := (cX g A (cput (cput (zs K 99 8 o) 300 σ ds (nI (now % 12)) (nI (now / 12))) 310 ((s_jud wv vs (s_dt0 vs nd) nh nd own ya yb yh 0).1) (s_dt0 vs nd) (nI ((s_jud wv vs (s_dt0 vs nd) nh nd own ya yb yh 0).2.1 % 12)) (nI ((s_jud wv vs (s_dt0 vs nd) nh nd own ya yb yh 0).2.1 / 12))) F O gl X)) (cX_jud0) ?_
    exact loop_12 (ln - 0) 0 (by omega) (Nat.le_refl _) _ _ 
  · -- decide (0 ≤ w) && decide (w ≤ 2) = false
    refine z_bipush (v := zm2) dX1_judged_9 (by decide) ?_
    exact z_iret dX1_judged_11 rfl (Nat.le_of_ble_eq_true rfl) (Nat.le_of_ble_eq_true rfl) ⟨congrArg some (congrArg Value.int (by unfold s_judged; simp [c_4, zm2])), o, F, τ, es, dt2, yr2, rfl⟩
