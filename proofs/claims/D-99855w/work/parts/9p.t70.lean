/-! THE COMPONENT: chances. Printed by t70.py -/
set_option maxRecDepth 100000
theorem s_isBit_or {a b : Int32} {k : Nat} (hk : k < 32) : s_isBit (a ||| b) k = (s_isBit a k || s_isBit b k) := by
  rw [s_isBit_bt _ hk, s_isBit_bt _ hk, s_isBit_bt _ hk, b_or]
theorem s_iv_flood {σ : Nat → Int32} {nd : Nat} (h : s_iv σ nd) : ∀ n, n ≤ 6 → s_iv (s_flood σ n) nd
  | 0, _ => h
  | n + 1, hn => s_iv_leave (s_iv_flood h n (by omega)) (by omega)
theorem s_iv_ch {wv : Int32 → Int32 → Int32 → Int32 → Int32} {vs ds : Nat → Int32} {nh nd : Nat} {own : Nat → Nat} {now : Nat} {odds set : Int32} {σ : Nat → Int32} (hV : s_ok vs nh nd own) (h : s_iv σ nd) : ∀ n, s_iv (s_ch wv vs ds nh nd own now odds set σ n).1 nd
  | 0 => h
  | n + 1 => by
    have ih := s_iv_ch (wv := wv) (ds := ds) (now := now) (odds := odds) (set := set) hV h n
    cases e : s_isBit set n
    · rw [s_ch_f e]
      exact s_iv_pass hV ih
    · rw [s_ch_t e]
      exact s_iv_pass hV (s_iv_flood ih nd hV.2.2.2.1)
theorem s_chs_1 {ch : Nat → Int64 × Int32} {d k : Nat} : s_chs ch d (k + 1) = s_chs ch d k + (if s_isBit (ch k).2 d = true then (ch k).1 else 0) := rfl
set_option maxHeartbeats 4000000 in
theorem c_chance {g : zG} {A : Nat → Nat} {K : Nat → Nat → Int32} {F : Nat → Int32} {O : Nat → Nat → Option Nat} {gl : Int64} {X : zX} (hA : cok g A X) {v : Nat} (hO : O 0 0 = some v) {vs : Nat → Int32} {nh nd : Nat} {own : Nat → Nat} {wv : Int32 → Int32 → Int32 → Int32 → Int32} (hV : s_ok vs nh nd own) (hv : cvl g X v vs nh nd wv) {σ ds τ es : Nat → Int32} {dt2 yr2 o : Int32} {now : Nat} (hnow : now < 2 ^ 28) (hiv : s_iv σ nd) (d m od : Int32) : zN g m_X1_chance ({ frames := 1002, cells := 0, slots := 0, locals := 40047 } : Room) [.ref (A 99), .int d, .int m, .int od] (cX g A (cput (cput (zs K 99 8 o) 300 σ ds (nI (now % 12)) (nI (now / 12))) 310 τ es dt2 yr2) F O gl X) (fun rv X' => rv = some (.int (if (((decide (0 ≤ d) && decide (d < nI nd)) && (decide (1 ≤ m) && decide (m ≤ 6))) && (decide (0 ≤ od) && decide (od ≤ 10))) = true then (s_chs (fun k => ((s_ch wv vs ds nh nd own now od (nI k) σ m.toNatClampNeg).2.1, (s_ch wv vs ds nh nd own now od (nI k) σ m.toNatClampNeg).2.2)) d.toNatClampNeg (2 ^ m.toNatClampNeg) * 1000000 / s_p10 m.toNatClampNeg).toInt32 else zm1)) ∧ ∃ (o' : Int32) (F' τ' es' : Nat → Int32) (dt' yr' : Int32), X' = cX g A (cput (cput (zs K 99 8 o') 300 σ ds (nI (now % 12)) (nI (now / 12))) 310 τ' es' dt' yr') F' O gl X) := by
  refine zN.of (by decide +kernel) (Nat.le_of_ble_eq_true rfl) rfl ?_
  refine z_lv (lv' := [(0, .ref (A 99)), (1, .int d), (2, .int m), (3, .int od)]) [0, 1, 2, 3] rfl ?_
  have hA2 := hA.2.2.1
  have hV9 := hV
  have hv9 := hv
  obtain ⟨h0, hnh, h1, hnd, hown⟩ := hV9
  obtain ⟨lh, lg, fh, fg, st9, fa, hxv, ⟨mh, eh, ch, hlh, heh, hch1, hch2⟩, ⟨mg, eg, cg, hlg, heg, hcg1, hcg2⟩, hhs, hgs, hst9, hfa⟩ := hv9
  refine z_aload_n 0 dX1_chance_0 rfl ?_
  refine z_iload_n 1 dX1_chance_1 rfl ?_
  refine z_callV (As := [.int d]) (c_isGuest (K := (cput (cput (zs K 99 8 o) 300 σ ds (nI (now % 12)) (nI (now / 12))) 310 τ es dt2 yr2)) (F := F) (gl := gl) hA hO hxv hlh heh hch1 hch2 hlg heg hcg1 hcg2 (by omega) d) q1176 q1178 qs34 q112 q1179 nm_X1_isGuest (cX_obj hA) rfl rfl rfl (Nat.le_of_ble_eq_true rfl) ⟨Nat.le_of_ble_eq_true rfl, Nat.le_of_ble_eq_true rfl⟩ dX1_chance_2 rfl rfl (Nat.le_of_ble_eq_true rfl) (Nat.le_of_ble_eq_true rfl) (fun v_1 X_2 hp_3 => ?_)
  obtain ⟨rfl, rfl⟩ := hp_3
  refine z_st (st' := [.int (zb (decide (0 ≤ d) && decide (d < nI nd)))]) rfl ?_
  refine z_if_eqb 28 dX1_chance_5 (by decide) (fun c_4 => ?_) (fun c_4 => ?_)
  · -- decide (0 ≤ d) && decide (d < nI nd) = false
    refine z_iconst (v := zm1) dX1_chance_28 (by decide) ?_
    exact z_iret dX1_chance_29 rfl (Nat.le_of_ble_eq_true rfl) (Nat.le_of_ble_eq_true rfl) ⟨congrArg some (congrArg Value.int (by rw [if_neg (by simp [c_4])])), o, F, τ, es, dt2, yr2, rfl⟩
  · -- decide (0 ≤ d) && decide (d < nI nd) = true
    refine z_iload_n 2 dX1_chance_8 rfl ?_
    refine z_iconst (v := 1) dX1_chance_9 (by decide) ?_
    refine z_bipush (v := 6) dX1_chance_10 (by decide) ?_
    refine z_callS (As := [.int m, .int 1, .int 6]) (c_inn m 1 6) q1132 q1133 q112 q1134 nm_X1_in rfl (Nat.le_of_ble_eq_true rfl) ⟨Nat.le_of_ble_eq_true rfl, Nat.le_of_ble_eq_true rfl⟩ dX1_chance_12 rfl rfl (Nat.le_of_ble_eq_true rfl) (Nat.le_of_ble_eq_true rfl) (fun v_5 X_6 hp_7 => ?_)
    obtain ⟨rfl, rfl⟩ := hp_7
    refine z_st (st' := [.int (zb (decide (1 ≤ m) && decide (m ≤ 6)))]) rfl ?_
    refine z_if_eqb 28 dX1_chance_15 (by decide) (fun c_8 => ?_) (fun c_8 => ?_)
    · -- decide (1 ≤ m) && decide (m ≤ 6) = false
      refine z_iconst (v := zm1) dX1_chance_28 (by decide) ?_
      exact z_iret dX1_chance_29 rfl (Nat.le_of_ble_eq_true rfl) (Nat.le_of_ble_eq_true rfl) ⟨congrArg some (congrArg Value.int (by rw [if_neg (by simp [c_4, c_8])])), o, F, τ, es, dt2, yr2, rfl⟩
    · -- decide (1 ≤ m) && decide (m ≤ 6) = true
      refine z_iload_n 3 dX1_chance_18 rfl ?_
      refine z_iconst (v := 0) dX1_chance_19 (by decide) ?_
      refine z_bipush (v := 10) dX1_chance_20 (by decide) ?_
      refine z_callS (As := [.int od, .int 0, .int 10]) (c_inn od 0 10) q1132 q1133 q112 q1134 nm_X1_in rfl (Nat.le_of_ble_eq_true rfl) ⟨Nat.le_of_ble_eq_true rfl, Nat.le_of_ble_eq_true rfl⟩ dX1_chance_22 rfl rfl (Nat.le_of_ble_eq_true rfl) (Nat.le_of_ble_eq_true rfl) (fun v_9 X_10 hp_11 => ?_)
      obtain ⟨rfl, rfl⟩ := hp_11
      refine z_st (st' := [.int (zb (decide (0 ≤ od) && decide (od ≤ 10)))]) rfl ?_
      refine z_if_neb 30 dX1_chance_25 (by decide) (fun c_12 => ?_) (fun c_12 => ?_)
      · -- decide (0 ≤ od) && decide (od ≤ 10) = true
        obtain ⟨dd, hdd, e_d⟩ := zday (by omega) c_4
        obtain ⟨mm, hmm1, hmm, e_m⟩ := zwin 1 6 (by decide) c_8
        refine z_lv (lv' := [(0, .ref (A 99)), (1, .int (nI (dd))), (2, .int (nI (mm))), (3, .int od)]) [0, 1, 2, 3] (by rw [e_d, e_m]; rfl) ?_
        refine z_lconst (v := 0) dX1_chance_30 (by decide) ?_
        refine z_lstore (lv' := [(4, .long 0), (0, .ref (A 99)), (1, .int (nI (dd))), (2, .int (nI (mm))), (3, .int od)]) dX1_chance_31 (by decide) rfl ?_
        refine z_lconst (v := 1) dX1_chance_33 (by decide) ?_
        refine z_lstore (lv' := [(6, .long 1), (4, .long 0), (0, .ref (A 99)), (1, .int (nI (dd))), (2, .int (nI (mm))), (3, .int od)]) dX1_chance_34 (by decide) rfl ?_
        refine z_iconst (v := 0) dX1_chance_36 (by decide) ?_
        refine z_istore (lv' := [(8, .int 0), (6, .long 1), (4, .long 0), (0, .ref (A 99)), (1, .int (nI (dd))), (2, .int (nI (mm))), (3, .int od)]) dX1_chance_37 (by decide) rfl ?_
        have loop_17 : ∀ (q_14 i_13 : Nat), i_13 + q_14 = mm → 0 ≤ i_13 → zZ g m_X1_chance (fun rv X' => rv = some (.int (if (((decide (0 ≤ d) && decide (d < nI nd)) && (decide (1 ≤ m) && decide (m ≤ 6))) && (decide (0 ≤ od) && decide (od ≤ 10))) = true then (s_chs (fun k => ((s_ch wv vs ds nh nd own now od (nI k) σ m.toNatClampNeg).2.1, (s_ch wv vs ds nh nd own now od (nI k) σ m.toNatClampNeg).2.2)) d.toNatClampNeg (2 ^ m.toNatClampNeg) * 1000000 / s_p10 m.toNatClampNeg).toInt32 else zm1)) ∧ ∃ (o' : Int32) (F' τ' es' : Nat → Int32) (dt' yr' : Int32), X' = cX g A (cput (cput (zs K 99 8 o') 300 σ ds (nI (now % 12)) (nI (now / 12))) 310 τ' es' dt' yr') F' O gl X, zno, ({ frames := 1002, cells := 0, slots := 0, locals := 40047 } : Room)) 0 0 (cX g A (cput (cput (zs K 99 8 o) 300 σ ds (nI (now % 12)) (nI (now / 12))) 310 τ es dt2 yr2) F O gl X) 39 [(0, .ref (A 99)), (1, .int (nI (dd))), (2, .int (nI (mm))), (3, .int od), (4, .long 0), (6, .long (s_p10 i_13)), (8, .int (nI (i_13)))] [] := by
          intro q_14
          induction q_14 with
          | zero =>
            intro i_13 hb_16 lo_18  
            obtain rfl : mm = i_13 := by omega
            refine z_iload 6 dX1_chance_39 rfl ?_
            refine z_iload_n 2 dX1_chance_41 rfl ?_
            refine z_icmp_geN (a := mm) (b := mm) 59 (by omega) (by omega) dX1_chance_42 (by decide) (fun c_19 => ?_) (fun c_19 => absurd c_19 (by omega))
            obtain ⟨pw, hpw⟩ : ∃ p, 2 ^ mm = p := ⟨_, rfl⟩
            have hpw2 : pw ≤ 64 := hpw ▸ pow2_le mm hmm
            have epw : (1 : Int32) <<< (nI mm &&& 31) = nI pw := by rw [← hpw]; exact s_pow2 mm hmm
            refine z_iconst (v := 0) dX1_chance_59 (by decide) ?_
            refine z_istore (lv' := [(8, .int 0), (0, .ref (A 99)), (1, .int (nI (dd))), (2, .int (nI (mm))), (3, .int od), (4, .long 0), (6, .long (s_p10 mm))]) dX1_chance_60 (by decide) rfl ?_
            have loop_24 : ∀ (q_21 i_20 : Nat), i_20 + q_21 = pw → 0 ≤ i_20 → ∀ (F_25 : Nat → Int32), ∀ (o_26 : Int32), ∀ (t_27 : Nat → Int32), ∀ (e_28 : Nat → Int32), ∀ (d_29 : Int32), ∀ (y_30 : Int32), zZ g m_X1_chance (fun rv X' => rv = some (.int (if (((decide (0 ≤ d) && decide (d < nI nd)) && (decide (1 ≤ m) && decide (m ≤ 6))) && (decide (0 ≤ od) && decide (od ≤ 10))) = true then (s_chs (fun k => ((s_ch wv vs ds nh nd own now od (nI k) σ m.toNatClampNeg).2.1, (s_ch wv vs ds nh nd own now od (nI k) σ m.toNatClampNeg).2.2)) d.toNatClampNeg (2 ^ m.toNatClampNeg) * 1000000 / s_p10 m.toNatClampNeg).toInt32 else zm1)) ∧ ∃ (o' : Int32) (F' τ' es' : Nat → Int32) (dt' yr' : Int32), X' = cX g A (cput (cput (zs K 99 8 o') 300 σ ds (nI (now % 12)) (nI (now / 12))) 310 τ' es' dt' yr') F' O gl X, zno, ({ frames := 1002, cells := 0, slots := 0, locals := 40047 } : Room)) 0 0 (cX g A (cput (cput (zs K 99 8 o_26) 300 σ ds (nI (now % 12)) (nI (now / 12))) 310 t_27 e_28 d_29 y_30) F_25 O gl X) 62 [(0, .ref (A 99)), (1, .int (nI (dd))), (2, .int (nI (mm))), (3, .int od), (4, .long (s_chs (fun k => ((s_ch wv vs ds nh nd own now od (nI k) σ mm).2.1, (s_ch wv vs ds nh nd own now od (nI k) σ mm).2.2)) dd i_20)), (6, .long (s_p10 mm)), (8, .int (nI (i_20)))] [] := by
              intro q_21
              induction q_21 with
              | zero =>
                intro i_20 hb_23 lo_31 F_25 o_26 t_27 e_28 d_29 y_30 
                obtain rfl : pw = i_20 := by omega
                refine z_iload 6 dX1_chance_62 rfl ?_
                refine z_iconst (v := 1) dX1_chance_64 (by decide) ?_
                refine z_iload_n 2 dX1_chance_65 rfl ?_
                refine z_ishl dX1_chance_66 ?_
                refine z_eq (y := nI (pw)) epw ?_
                refine z_icmp_geN (a := pw) (b := pw) 214 (by omega) (by omega) dX1_chance_67 (by decide) (fun c_32 => ?_) (fun c_32 => absurd c_32 (by omega))
                refine z_lload 4 dX1_chance_214 rfl ?_
                refine z_ldc2 q1428 dX1_chance_216 ?_
                refine z_lmul dX1_chance_219 ?_
                refine z_lload 5 dX1_chance_220 rfl ?_
                refine z_ldiv dX1_chance_222 (by exact s_p10_n mm hmm) ?_
                refine z_l2i (v := ((s_chs (fun k => ((s_ch wv vs ds nh nd own now od (nI k) σ mm).2.1, (s_ch wv vs ds nh nd own now od (nI k) σ mm).2.2)) dd pw * 1000000) / s_p10 mm).toInt32) dX1_chance_223 rfl ?_
                exact z_iret dX1_chance_224 rfl (Nat.le_of_ble_eq_true rfl) (Nat.le_of_ble_eq_true rfl) ⟨congrArg some (congrArg Value.int (by rw [if_pos (show (((decide (0 ≤ d) && decide (d < nI nd)) && (decide (1 ≤ m) && decide (m ≤ 6))) && (decide (0 ≤ od) && decide (od ≤ 10))) = true by rw [c_4, c_8, c_12]; rfl), e_d, e_m, ncl (by omega), ncl (by omega), hpw])), o_26, F_25, t_27, e_28, d_29, y_30, rfl⟩
              | succ q_21 ih_22 =>
                intro i_20 hb_23 lo_31 F_25 o_26 t_27 e_28 d_29 y_30 
                refine z_iload 6 dX1_chance_62 rfl ?_
                refine z_iconst (v := 1) dX1_chance_64 (by decide) ?_
                refine z_iload_n 2 dX1_chance_65 rfl ?_
                refine z_ishl dX1_chance_66 ?_
                refine z_eq (y := nI (pw)) epw ?_
                refine z_icmp_geN (a := i_20) (b := pw) 214 (by omega) (by omega) dX1_chance_67 (by decide) (fun c_33 => absurd c_33 (by omega)) (fun c_33 => ?_)
                refine z_lconst (v := 1) dX1_chance_70 (by decide) ?_
                refine z_lstore (lv' := [(9, .long 1), (0, .ref (A 99)), (1, .int (nI (dd))), (2, .int (nI (mm))), (3, .int od), (4, .long (s_chs (fun k => ((s_ch wv vs ds nh nd own now od (nI k) σ mm).2.1, (s_ch wv vs ds nh nd own now od (nI k) σ mm).2.2)) dd i_20)), (6, .long (s_p10 mm)), (8, .int (nI (i_20)))]) dX1_chance_71 (by decide) rfl ?_
                refine z_iconst (v := 0) dX1_chance_73 (by decide) ?_
                refine z_istore (lv' := [(11, .int 0), (9, .long 1), (0, .ref (A 99)), (1, .int (nI (dd))), (2, .int (nI (mm))), (3, .int od), (4, .long (s_chs (fun k => ((s_ch wv vs ds nh nd own now od (nI k) σ mm).2.1, (s_ch wv vs ds nh nd own now od (nI k) σ mm).2.2)) dd i_20)), (6, .long (s_p10 mm)), (8, .int (nI (i_20)))]) dX1_chance_74 (by decide) rfl ?_
                refine z_aload_n 2 dX1_chance_76 rfl ?_
                refine cz_get (v := .ref (A 319)) 5 hA (by decide) q332 rfl dX1_chance_77 ?_
                refine z_aload_n 2 dX1_chance_80 rfl ?_
                refine cz_get (v := .ref (A 309)) 4 hA (by decide) q331 rfl dX1_chance_81 ?_
                refine z_callV (As := [.ref (A 309)]) (c_be (K := (zs K 99 8 o_26)) (F := F_25) (O := O) (gl := gl) hA (cst_1 hA) (cst_0 hA) (by omega) (σ := t_27) (τ := σ) (ds := e_28) (es := ds)) q1202 q1203 q1204 q118 q1205 nm_X4_be (cX_st hA (cst_1 hA)) rfl rfl rfl (Nat.le_of_ble_eq_true rfl) ⟨Nat.le_of_ble_eq_true rfl, Nat.le_of_ble_eq_true rfl⟩ dX1_chance_84 rfl rfl (Nat.le_of_ble_eq_true rfl) (Nat.le_of_ble_eq_true rfl) (fun v_34 X_35 hp_36 => ?_)
                obtain ⟨rfl, rfl⟩ := hp_36
                refine z_st (st' := []) rfl ?_
                refine z_iconst (v := 0) dX1_chance_87 (by decide) ?_
                refine z_istore (lv' := [(12, .int 0), (11, .int 0), (9, .long 1), (0, .ref (A 99)), (1, .int (nI (dd))), (2, .int (nI (mm))), (3, .int od), (4, .long (s_chs (fun k => ((s_ch wv vs ds nh nd own now od (nI k) σ mm).2.1, (s_ch wv vs ds nh nd own now od (nI k) σ mm).2.2)) dd i_20)), (6, .long (s_p10 mm)), (8, .int (nI (i_20)))]) dX1_chance_88 (by decide) rfl ?_
                have loop_41 : ∀ (q_38 i_37 : Nat), i_37 + q_38 = mm → 0 ≤ i_37 → ∀ (F_42 : Nat → Int32), ∀ (o_43 : Int32), zZ g m_X1_chance (fun rv X' => rv = some (.int (if (((decide (0 ≤ d) && decide (d < nI nd)) && (decide (1 ≤ m) && decide (m ≤ 6))) && (decide (0 ≤ od) && decide (od ≤ 10))) = true then (s_chs (fun k => ((s_ch wv vs ds nh nd own now od (nI k) σ m.toNatClampNeg).2.1, (s_ch wv vs ds nh nd own now od (nI k) σ m.toNatClampNeg).2.2)) d.toNatClampNeg (2 ^ m.toNatClampNeg) * 1000000 / s_p10 m.toNatClampNeg).toInt32 else zm1)) ∧ ∃ (o' : Int32) (F' τ' es' : Nat → Int32) (dt' yr' : Int32), X' = cX g A (cput (cput (zs K 99 8 o') 300 σ ds (nI (now % 12)) (nI (now / 12))) 310 τ' es' dt' yr') F' O gl X, zno, ({ frames := 1002, cells := 0, slots := 0, locals := 40047 } : Room)) 0 0 (cX g A (cput (cput (zs K 99 8 o_43) 300 σ ds (nI (now % 12)) (nI (now / 12))) 310 ((s_ch wv vs ds nh nd own now od (nI i_20) σ i_37).1) ds (nI ((now + i_37) % 12)) (nI ((now + i_37) / 12))) F_42 O gl X) 90 [(0, .ref (A 99)), (1, .int (nI (dd))), (2, .int (nI (mm))), (3, .int od), (4, .long (s_chs (fun k => ((s_ch wv vs ds nh nd own now od (nI k) σ mm).2.1, (s_ch wv vs ds nh nd own now od (nI k) σ mm).2.2)) dd i_20)), (6, .long (s_p10 mm)), (8, .int (nI (i_20))), (9, .long ((s_ch wv vs ds nh nd own now od (nI i_20) σ i_37).2.1)), (11, .int (zb (s_isBit (s_ch wv vs ds nh nd own now od (nI i_20) σ i_37).2.2 dd))), (12, .int (nI (i_37)))] [] := by
                  intro q_38
                  induction q_38 with
                  | zero =>
                    intro i_37 hb_40 lo_44 F_42 o_43 
                    obtain rfl : mm = i_37 := by omega
                    refine z_iload 9 dX1_chance_90 rfl ?_
                    refine z_iload_n 2 dX1_chance_92 rfl ?_
                    refine z_icmp_geN (a := mm) (b := mm) 196 (by omega) (by omega) dX1_chance_93 (by decide) (fun c_45 => ?_) (fun c_45 => absurd c_45 (by omega))
                    refine z_iload 8 dX1_chance_196 rfl ?_
                    refine z_if_eqb 208 dX1_chance_198 (by decide) (fun c_46 => ?_) (fun c_46 => ?_)
                    · -- s_isBit (s_ch wv vs ds nh nd own now od (nI i_20) σ mm).2.2 dd = false
                      refine z_iinc (v := nI (i_20 + 1)) (lv' := [(8, .int (nI (i_20 + 1))), (0, .ref (A 99)), (1, .int (nI (dd))), (2, .int (nI (mm))), (3, .int od), (4, .long (s_chs (fun k => ((s_ch wv vs ds nh nd own now od (nI k) σ mm).2.1, (s_ch wv vs ds nh nd own now od (nI k) σ mm).2.2)) dd i_20)), (6, .long (s_p10 mm)), (9, .long ((s_ch wv vs ds nh nd own now od (nI i_20) σ mm).2.1)), (11, .int (zb (s_isBit (s_ch wv vs ds nh nd own now od (nI i_20) σ mm).2.2 dd))), (12, .int (nI (mm)))]) 6 dX1_chance_208 rfl (nI_1 _) (by decide) rfl ?_
                      refine z_goto 62 dX1_chance_211 (by decide) ?_
                      have f_47 : s_chs (fun k => ((s_ch wv vs ds nh nd own now od (nI k) σ mm).2.1, (s_ch wv vs ds nh nd own now od (nI k) σ mm).2.2)) dd i_20 = s_chs (fun k => ((s_ch wv vs ds nh nd own now od (nI k) σ mm).2.1, (s_ch wv vs ds nh nd own now od (nI k) σ mm).2.2)) dd (i_20 + 1) := by skip; rw [s_chs_1, if_neg (by show ¬ s_isBit _ _ = true; rw [c_46]; decide), Int64.add_zero]
                      refine z_lv (lv' := [(0, .ref (A 99)), (1, .int (nI (dd))), (2, .int (nI (mm))), (3, .int od), (4, .long (s_chs (fun k => ((s_ch wv vs ds nh nd own now od (nI k) σ mm).2.1, (s_ch wv vs ds nh nd own now od (nI k) σ mm).2.2)) dd (i_20 + 1))), (6, .long (s_p10 mm)), (8, .int (nI (i_20 + 1)))]) [1, 2, 3, 4, 5, 6, 0] (by rw [← f_47]; rfl) ?_
                      exact ih_22 (i_20 + 1) (by omega) (by omega) _ _ _ _ _ _ 
                    · -- s_isBit (s_ch wv vs ds nh nd own now od (nI i_20) σ mm).2.2 dd = true
                      refine z_lload 4 dX1_chance_201 rfl ?_
                      refine z_lload 7 dX1_chance_203 rfl ?_
                      refine z_ladd dX1_chance_205 ?_
                      refine z_lstore (lv' := [(4, .long (s_chs (fun k => ((s_ch wv vs ds nh nd own now od (nI k) σ mm).2.1, (s_ch wv vs ds nh nd own now od (nI k) σ mm).2.2)) dd i_20 + (s_ch wv vs ds nh nd own now od (nI i_20) σ mm).2.1)), (0, .ref (A 99)), (1, .int (nI (dd))), (2, .int (nI (mm))), (3, .int od), (6, .long (s_p10 mm)), (8, .int (nI (i_20))), (9, .long ((s_ch wv vs ds nh nd own now od (nI i_20) σ mm).2.1)), (11, .int (zb (s_isBit (s_ch wv vs ds nh nd own now od (nI i_20) σ mm).2.2 dd))), (12, .int (nI (mm)))]) dX1_chance_206 (by decide) rfl ?_
                      refine z_iinc (v := nI (i_20 + 1)) (lv' := [(8, .int (nI (i_20 + 1))), (4, .long (s_chs (fun k => ((s_ch wv vs ds nh nd own now od (nI k) σ mm).2.1, (s_ch wv vs ds nh nd own now od (nI k) σ mm).2.2)) dd i_20 + (s_ch wv vs ds nh nd own now od (nI i_20) σ mm).2.1)), (0, .ref (A 99)), (1, .int (nI (dd))), (2, .int (nI (mm))), (3, .int od), (6, .long (s_p10 mm)), (9, .long ((s_ch wv vs ds nh nd own now od (nI i_20) σ mm).2.1)), (11, .int (zb (s_isBit (s_ch wv vs ds nh nd own now od (nI i_20) σ mm).2.2 dd))), (12, .int (nI (mm)))]) 6 dX1_chance_208 rfl (nI_1 _) (by decide) rfl ?_
                      refine z_goto 62 dX1_chance_211 (by decide) ?_
                      have f_48 : (s_chs (fun k => ((s_ch wv vs ds nh nd own now od (nI k) σ mm).2.1, (s_ch wv vs ds nh nd own now od (nI k) σ mm).2.2)) dd i_20 + (s_ch wv vs ds nh nd own now od (nI i_20) σ mm).2.1) = s_chs (fun k => ((s_ch wv vs ds nh nd own now od (nI k) σ mm).2.1, (s_ch wv vs ds nh nd own now od (nI k) σ mm).2.2)) dd (i_20 + 1) := by skip; rw [s_chs_1, if_pos c_46]
                      refine z_lv (lv' := [(0, .ref (A 99)), (1, .int (nI (dd))), (2, .int (nI (mm))), (3, .int od), (4, .long (s_chs (fun k => ((s_ch wv vs ds nh nd own now od (nI k) σ mm).2.1, (s_ch wv vs ds nh nd own now od (nI k) σ mm).2.2)) dd (i_20 + 1))), (6, .long (s_p10 mm)), (8, .int (nI (i_20 + 1)))]) [2, 3, 4, 5, 1, 6, 0] (by rw [← f_48]; rfl) ?_
                      exact ih_22 (i_20 + 1) (by omega) (by omega) _ _ _ _ _ _ 
                  | succ q_38 ih_39 =>
                    intro i_37 hb_40 lo_44 F_42 o_43 
                    refine z_iload 9 dX1_chance_90 rfl ?_
                    refine z_iload_n 2 dX1_chance_92 rfl ?_
                    refine z_icmp_geN (a := i_37) (b := mm) 196 (by omega) (by omega) dX1_chance_93 (by decide) (fun c_49 => absurd c_49 (by omega)) (fun c_49 => ?_)
                    refine z_lload 7 dX1_chance_96 rfl ?_
                    refine z_iload 6 dX1_chance_98 rfl ?_
                    refine z_iload 9 dX1_chance_100 rfl ?_
                    refine z_callS (As := [.int (nI (i_20)), .int (nI (i_37))]) (c_isIn (nI (i_20)) i_37) q1241 q903 q112 q904 nm_X1_isIn rfl (Nat.le_of_ble_eq_true rfl) ⟨Nat.le_of_ble_eq_true rfl, Nat.le_of_ble_eq_true rfl⟩ dX1_chance_102 rfl rfl (Nat.le_of_ble_eq_true rfl) (Nat.le_of_ble_eq_true rfl) (fun v_50 X_51 hp_52 => ?_)
                    obtain ⟨rfl, rfl⟩ := hp_52
                    refine z_st (st' := [.int (zb (s_isBit (nI (i_20)) i_37)), .long ((s_ch wv vs ds nh nd own now od (nI i_20) σ i_37).2.1)]) rfl ?_
                    refine z_if_eqb 113 dX1_chance_105 (by decide) (fun c_53 => ?_) (fun c_53 => ?_)
                    · -- s_isBit (nI (i_20)) i_37 = false
                      refine z_bipush (v := 10) dX1_chance_113 (by decide) ?_
                      refine z_iload_n 3 dX1_chance_115 rfl ?_
                      refine z_isub dX1_chance_116 ?_
                      refine z_i2l (v := (10 - od).toInt64) dX1_chance_117 rfl ?_
                      refine z_lmul dX1_chance_118 ?_
                      refine z_lstore (lv' := [(9, .long ((s_ch wv vs ds nh nd own now od (nI i_20) σ i_37).2.1 * (10 - od).toInt64)), (0, .ref (A 99)), (1, .int (nI (dd))), (2, .int (nI (mm))), (3, .int od), (4, .long (s_chs (fun k => ((s_ch wv vs ds nh nd own now od (nI k) σ mm).2.1, (s_ch wv vs ds nh nd own now od (nI k) σ mm).2.2)) dd i_20)), (6, .long (s_p10 mm)), (8, .int (nI (i_20))), (11, .int (zb (s_isBit (s_ch wv vs ds nh nd own now od (nI i_20) σ i_37).2.2 dd))), (12, .int (nI (i_37)))]) dX1_chance_119 (by decide) rfl ?_
                      refine z_iconst (v := 0) dX1_chance_121 (by decide) ?_
                      refine z_istore (lv' := [(13, .int 0), (9, .long ((s_ch wv vs ds nh nd own now od (nI i_20) σ i_37).2.1 * (10 - od).toInt64)), (0, .ref (A 99)), (1, .int (nI (dd))), (2, .int (nI (mm))), (3, .int od), (4, .long (s_chs (fun k => ((s_ch wv vs ds nh nd own now od (nI k) σ mm).2.1, (s_ch wv vs ds nh nd own now od (nI k) σ mm).2.2)) dd i_20)), (6, .long (s_p10 mm)), (8, .int (nI (i_20))), (11, .int (zb (s_isBit (s_ch wv vs ds nh nd own now od (nI i_20) σ i_37).2.2 dd))), (12, .int (nI (i_37)))]) dX1_chance_122 (by decide) rfl ?_
                      refine z_iload 0 dX1_chance_124 rfl ?_
                      refine z_aload_n 2 dX1_chance_126 rfl ?_
                      refine z_callV (As := []) (c_guests (K := (cput (cput (zs K 99 8 o_43) 300 σ ds (nI (now % 12)) (nI (now / 12))) 310 ((s_ch wv vs ds nh nd own now od (nI i_20) σ i_37).1) ds (nI ((now + i_37) % 12)) (nI ((now + i_37) / 12)))) (F := F_42) (gl := gl) hA hO hxv hlh heh hch1 hch2 hlg heg hcg1 hcg2) q1139 q1141 qs30 q112 q1142 nm_X1_guests (cX_obj hA) rfl rfl rfl (Nat.le_of_ble_eq_true rfl) ⟨Nat.le_of_ble_eq_true rfl, Nat.le_of_ble_eq_true rfl⟩ dX1_chance_127 rfl rfl (Nat.le_of_ble_eq_true rfl) (Nat.le_of_ble_eq_true rfl) (fun v_54 X_55 hp_56 => ?_)
                      obtain ⟨rfl, rfl⟩ := hp_56
                      refine z_st (st' := [.int (nI (nd)), .int 0]) rfl ?_
                      refine z_icmp_geN (a := 0) (b := nd) 158 (by omega) (by omega) dX1_chance_130 (by decide) (fun c_57 => ?_) (fun c_57 => ?_)
                      · -- nd ≤ 0
                        refine z_aload_n 2 dX1_chance_158 rfl ?_
                        refine z_aload_n 2 dX1_chance_159 rfl ?_
                        refine cz_get (v := .ref (A 319)) 5 hA (by decide) q332 rfl dX1_chance_160 ?_
                        refine z_callV (As := [.ref (A 319)]) (c_passT (K := K) (F := F_42) (gl := gl) (σ0 := σ) (ds0 := ds) (dt0 := (nI (now % 12))) (yr0 := (nI (now / 12))) (σ := (s_ch wv vs ds nh nd own now od (nI i_20) σ i_37).1) (ds := ds) hA hO hV hv (now := now + i_37) (by omega) (s_iv_ch hV hiv i_37)) q1209 q1211 qs36 q112 q1212 nm_X1_passes (cX_obj hA) rfl rfl rfl (Nat.le_of_ble_eq_true rfl) ⟨Nat.le_of_ble_eq_true rfl, Nat.le_of_ble_eq_true rfl⟩ dX1_chance_163 rfl rfl (Nat.le_of_ble_eq_true rfl) (Nat.le_of_ble_eq_true rfl) (fun v_59 X_60 hp_61 => ?_)
                        obtain ⟨rfl, F_58, rfl⟩ := hp_61
                        refine z_st (st' := [.int ((s_pass wv vs ds nh nd own (now + i_37) ((s_ch wv vs ds nh nd own now od (nI i_20) σ i_37).1)).2.1)]) rfl ?_
                        refine z_pop dX1_chance_166 rfl ?_
                        refine z_iload 9 dX1_chance_167 rfl ?_
                        refine z_if_neb 183 dX1_chance_169 (by decide) (fun c_62 => ?_) (fun c_62 => ?_)
                        · -- s_isBit (s_ch wv vs ds nh nd own now od (nI i_20) σ i_37).2.2 dd = true
                          refine z_iconst (v := 1) dX1_chance_183 (by decide) ?_
                          refine z_goto 188 dX1_chance_184 (by decide) ?_
                          refine z_istore (lv' := [(11, .int 1), (13, .int 0), (9, .long ((s_ch wv vs ds nh nd own now od (nI i_20) σ i_37).2.1 * (10 - od).toInt64)), (0, .ref (A 99)), (1, .int (nI (dd))), (2, .int (nI (mm))), (3, .int od), (4, .long (s_chs (fun k => ((s_ch wv vs ds nh nd own now od (nI k) σ mm).2.1, (s_ch wv vs ds nh nd own now od (nI k) σ mm).2.2)) dd i_20)), (6, .long (s_p10 mm)), (8, .int (nI (i_20))), (12, .int (nI (i_37)))]) dX1_chance_188 (by decide) rfl ?_
                          have hch := s_ch_f (wv := wv) (vs := vs) (ds := ds) (nh := nh) (nd := nd) (own := own) (now := now) (odds := od) (σ := σ) c_53
                          refine z_iinc (v := nI (i_37 + 1)) (lv' := [(12, .int (nI (i_37 + 1))), (11, .int 1), (13, .int 0), (9, .long ((s_ch wv vs ds nh nd own now od (nI i_20) σ i_37).2.1 * (10 - od).toInt64)), (0, .ref (A 99)), (1, .int (nI (dd))), (2, .int (nI (mm))), (3, .int od), (4, .long (s_chs (fun k => ((s_ch wv vs ds nh nd own now od (nI k) σ mm).2.1, (s_ch wv vs ds nh nd own now od (nI k) σ mm).2.2)) dd i_20)), (6, .long (s_p10 mm)), (8, .int (nI (i_20)))]) 10 dX1_chance_190 rfl (nI_1 _) (by decide) rfl ?_
                          refine z_goto 90 dX1_chance_193 (by decide) ?_
                          have f_63 : ((s_ch wv vs ds nh nd own now od (nI i_20) σ i_37).2.1 * (10 - od).toInt64) = (s_ch wv vs ds nh nd own now od (nI i_20) σ (i_37 + 1)).2.1 := by skip; rw [hch] <;> rfl
                          have f_64 : 1 = zb (s_isBit (s_ch wv vs ds nh nd own now od (nI i_20) σ (i_37 + 1)).2.2 dd) := by skip; rw [hch]; show _ = zb (s_isBit (_ ||| _) dd); rw [s_isBit_or (by omega), c_62]; rfl
                          refine z_lv (lv' := [(0, .ref (A 99)), (1, .int (nI (dd))), (2, .int (nI (mm))), (3, .int od), (4, .long (s_chs (fun k => ((s_ch wv vs ds nh nd own now od (nI k) σ mm).2.1, (s_ch wv vs ds nh nd own now od (nI k) σ mm).2.2)) dd i_20)), (6, .long (s_p10 mm)), (8, .int (nI (i_20))), (9, .long ((s_ch wv vs ds nh nd own now od (nI i_20) σ (i_37 + 1)).2.1)), (11, .int (zb (s_isBit (s_ch wv vs ds nh nd own now od (nI i_20) σ (i_37 + 1)).2.2 dd))), (12, .int (nI (i_37 + 1)))]) [4, 5, 6, 7, 8, 9, 10, 3, 1, 0] (by rw [← f_63, ← f_64]; rfl) ?_
                          refine z_X (X' := (cX g A (cput (cput (zs K 99 8 ((s_pass wv vs ds nh nd own (now + i_37) ((s_ch wv vs ds nh nd own now od (nI i_20) σ i_37).1)).2.2)) 300 σ ds (nI (now % 12)) (nI (now / 12))) 310 ((s_ch wv vs ds nh nd own now od (nI i_20) σ (i_37 + 1)).1) ds (nI ((now + (i_37 + 1)) % 12)) (nI ((now + (i_37 + 1)) / 12))) F_58 O gl X)) (by skip; rw [hch] <;> rfl) ?_
                          exact ih_39 (i_37 + 1) (by omega) (by omega) _ _ 
                        · -- s_isBit (s_ch wv vs ds nh nd own now od (nI i_20) σ i_37).2.2 dd = false
                          refine z_aload_n 2 dX1_chance_172 rfl ?_
                          refine cz_get (v := .int ((s_pass wv vs ds nh nd own (now + i_37) ((s_ch wv vs ds nh nd own now od (nI i_20) σ i_37).1)).2.2)) 8 hA (by decide) q335 rfl dX1_chance_173 ?_
                          refine z_iload_n 3 dX1_chance_176 rfl ?_
                          refine z_callS (As := [.int ((s_pass wv vs ds nh nd own (now + i_37) ((s_ch wv vs ds nh nd own now od (nI i_20) σ i_37).1)).2.2), .int (nI (dd))]) (c_isIn ((s_pass wv vs ds nh nd own (now + i_37) ((s_ch wv vs ds nh nd own now od (nI i_20) σ i_37).1)).2.2) dd) q1241 q903 q112 q904 nm_X1_isIn rfl (Nat.le_of_ble_eq_true rfl) ⟨Nat.le_of_ble_eq_true rfl, Nat.le_of_ble_eq_true rfl⟩ dX1_chance_177 rfl rfl (Nat.le_of_ble_eq_true rfl) (Nat.le_of_ble_eq_true rfl) (fun v_65 X_66 hp_67 => ?_)
                          obtain ⟨rfl, rfl⟩ := hp_67
                          refine z_st (st' := [.int (zb (s_isBit ((s_pass wv vs ds nh nd own (now + i_37) ((s_ch wv vs ds nh nd own now od (nI i_20) σ i_37).1)).2.2) dd))]) rfl ?_
                          refine z_if_eqb 187 dX1_chance_180 (by decide) (fun c_68 => ?_) (fun c_68 => ?_)
                          · -- s_isBit ((s_pass wv vs ds nh nd own (now + i_37) ((s_ch wv vs ds nh nd own now od (nI i_20) σ i_37).1)).2.2) dd = false
                            refine z_iconst (v := 0) dX1_chance_187 (by decide) ?_
                            refine z_istore (lv' := [(11, .int 0), (13, .int 0), (9, .long ((s_ch wv vs ds nh nd own now od (nI i_20) σ i_37).2.1 * (10 - od).toInt64)), (0, .ref (A 99)), (1, .int (nI (dd))), (2, .int (nI (mm))), (3, .int od), (4, .long (s_chs (fun k => ((s_ch wv vs ds nh nd own now od (nI k) σ mm).2.1, (s_ch wv vs ds nh nd own now od (nI k) σ mm).2.2)) dd i_20)), (6, .long (s_p10 mm)), (8, .int (nI (i_20))), (12, .int (nI (i_37)))]) dX1_chance_188 (by decide) rfl ?_
                            have hch := s_ch_f (wv := wv) (vs := vs) (ds := ds) (nh := nh) (nd := nd) (own := own) (now := now) (odds := od) (σ := σ) c_53
                            refine z_iinc (v := nI (i_37 + 1)) (lv' := [(12, .int (nI (i_37 + 1))), (11, .int 0), (13, .int 0), (9, .long ((s_ch wv vs ds nh nd own now od (nI i_20) σ i_37).2.1 * (10 - od).toInt64)), (0, .ref (A 99)), (1, .int (nI (dd))), (2, .int (nI (mm))), (3, .int od), (4, .long (s_chs (fun k => ((s_ch wv vs ds nh nd own now od (nI k) σ mm).2.1, (s_ch wv vs ds nh nd own now od (nI k) σ mm).2.2)) dd i_20)), (6, .long (s_p10 mm)), (8, .int (nI (i_20)))]) 10 dX1_chance_190 rfl (nI_1 _) (by decide) rfl ?_
                            refine z_goto 90 dX1_chance_193 (by decide) ?_
                            have f_69 : ((s_ch wv vs ds nh nd own now od (nI i_20) σ i_37).2.1 * (10 - od).toInt64) = (s_ch wv vs ds nh nd own now od (nI i_20) σ (i_37 + 1)).2.1 := by skip; rw [hch] <;> rfl
                            have f_70 : 0 = zb (s_isBit (s_ch wv vs ds nh nd own now od (nI i_20) σ (i_37 + 1)).2.2 dd) := by skip; rw [hch]; show _ = zb (s_isBit (_ ||| _) dd); rw [s_isBit_or (by omega), c_62, c_68]; rfl
                            refine z_lv (lv' := [(0, .ref (A 99)), (1, .int (nI (dd))), (2, .int (nI (mm))), (3, .int od), (4, .long (s_chs (fun k => ((s_ch wv vs ds nh nd own now od (nI k) σ mm).2.1, (s_ch wv vs ds nh nd own now od (nI k) σ mm).2.2)) dd i_20)), (6, .long (s_p10 mm)), (8, .int (nI (i_20))), (9, .long ((s_ch wv vs ds nh nd own now od (nI i_20) σ (i_37 + 1)).2.1)), (11, .int (zb (s_isBit (s_ch wv vs ds nh nd own now od (nI i_20) σ (i_37 + 1)).2.2 dd))), (12, .int (nI (i_37 + 1)))]) [4, 5, 6, 7, 8, 9, 10, 3, 1, 0] (by rw [← f_69, ← f_70]; rfl) ?_
                            refine z_X (X' := (cX g A (cput (cput (zs K 99 8 ((s_pass wv vs ds nh nd own (now + i_37) ((s_ch wv vs ds nh nd own now od (nI i_20) σ i_37).1)).2.2)) 300 σ ds (nI (now % 12)) (nI (now / 12))) 310 ((s_ch wv vs ds nh nd own now od (nI i_20) σ (i_37 + 1)).1) ds (nI ((now + (i_37 + 1)) % 12)) (nI ((now + (i_37 + 1)) / 12))) F_58 O gl X)) (by skip; rw [hch] <;> rfl) ?_
                            exact ih_39 (i_37 + 1) (by omega) (by omega) _ _ 
                          · -- s_isBit ((s_pass wv vs ds nh nd own (now + i_37) ((s_ch wv vs ds nh nd own now od (nI i_20) σ i_37).1)).2.2) dd = true
                            refine z_iconst (v := 1) dX1_chance_183 (by decide) ?_
                            refine z_goto 188 dX1_chance_184 (by decide) ?_
                            refine z_istore (lv' := [(11, .int 1), (13, .int 0), (9, .long ((s_ch wv vs ds nh nd own now od (nI i_20) σ i_37).2.1 * (10 - od).toInt64)), (0, .ref (A 99)), (1, .int (nI (dd))), (2, .int (nI (mm))), (3, .int od), (4, .long (s_chs (fun k => ((s_ch wv vs ds nh nd own now od (nI k) σ mm).2.1, (s_ch wv vs ds nh nd own now od (nI k) σ mm).2.2)) dd i_20)), (6, .long (s_p10 mm)), (8, .int (nI (i_20))), (12, .int (nI (i_37)))]) dX1_chance_188 (by decide) rfl ?_
                            have hch := s_ch_f (wv := wv) (vs := vs) (ds := ds) (nh := nh) (nd := nd) (own := own) (now := now) (odds := od) (σ := σ) c_53
                            refine z_iinc (v := nI (i_37 + 1)) (lv' := [(12, .int (nI (i_37 + 1))), (11, .int 1), (13, .int 0), (9, .long ((s_ch wv vs ds nh nd own now od (nI i_20) σ i_37).2.1 * (10 - od).toInt64)), (0, .ref (A 99)), (1, .int (nI (dd))), (2, .int (nI (mm))), (3, .int od), (4, .long (s_chs (fun k => ((s_ch wv vs ds nh nd own now od (nI k) σ mm).2.1, (s_ch wv vs ds nh nd own now od (nI k) σ mm).2.2)) dd i_20)), (6, .long (s_p10 mm)), (8, .int (nI (i_20)))]) 10 dX1_chance_190 rfl (nI_1 _) (by decide) rfl ?_
                            refine z_goto 90 dX1_chance_193 (by decide) ?_
                            have f_71 : ((s_ch wv vs ds nh nd own now od (nI i_20) σ i_37).2.1 * (10 - od).toInt64) = (s_ch wv vs ds nh nd own now od (nI i_20) σ (i_37 + 1)).2.1 := by skip; rw [hch] <;> rfl
                            have f_72 : 1 = zb (s_isBit (s_ch wv vs ds nh nd own now od (nI i_20) σ (i_37 + 1)).2.2 dd) := by skip; rw [hch]; show _ = zb (s_isBit (_ ||| _) dd); rw [s_isBit_or (by omega), c_62, c_68]; rfl
                            refine z_lv (lv' := [(0, .ref (A 99)), (1, .int (nI (dd))), (2, .int (nI (mm))), (3, .int od), (4, .long (s_chs (fun k => ((s_ch wv vs ds nh nd own now od (nI k) σ mm).2.1, (s_ch wv vs ds nh nd own now od (nI k) σ mm).2.2)) dd i_20)), (6, .long (s_p10 mm)), (8, .int (nI (i_20))), (9, .long ((s_ch wv vs ds nh nd own now od (nI i_20) σ (i_37 + 1)).2.1)), (11, .int (zb (s_isBit (s_ch wv vs ds nh nd own now od (nI i_20) σ (i_37 + 1)).2.2 dd))), (12, .int (nI (i_37 + 1)))]) [4, 5, 6, 7, 8, 9, 10, 3, 1, 0] (by rw [← f_71, ← f_72]; rfl) ?_
                            refine z_X (X' := (cX g A (cput (cput (zs K 99 8 ((s_pass wv vs ds nh nd own (now + i_37) ((s_ch wv vs ds nh nd own now od (nI i_20) σ i_37).1)).2.2)) 300 σ ds (nI (now % 12)) (nI (now / 12))) 310 ((s_ch wv vs ds nh nd own now od (nI i_20) σ (i_37 + 1)).1) ds (nI ((now + (i_37 + 1)) % 12)) (nI ((now + (i_37 + 1)) / 12))) F_58 O gl X)) (by skip; rw [hch] <;> rfl) ?_
                            exact ih_39 (i_37 + 1) (by omega) (by omega) _ _ 
                      · -- 0 < nd
                        refine z_iload 8 dX1_chance_133 rfl ?_
                        refine z_iload 10 dX1_chance_135 rfl ?_
                        refine z_callS (As := [.int (nI (i_20)), .int (nI (i_37))]) (c_isIn (nI (i_20)) i_37) q1241 q903 q112 q904 nm_X1_isIn rfl (Nat.le_of_ble_eq_true rfl) ⟨Nat.le_of_ble_eq_true rfl, Nat.le_of_ble_eq_true rfl⟩ dX1_chance_137 rfl rfl (Nat.le_of_ble_eq_true rfl) (Nat.le_of_ble_eq_true rfl) (fun v_73 X_74 hp_75 => ?_)
                        obtain ⟨rfl, rfl⟩ := hp_75
                        refine z_st (st' := [.int (zb (s_isBit (nI (i_20)) i_37))]) rfl ?_
                        refine z_if_eqb 158 dX1_chance_140 (by decide) (fun _ => ?_) (fun c_ => absurd (c_53.symm.trans c_) (by decide))
                        refine z_aload_n 2 dX1_chance_158 rfl ?_
                        refine z_aload_n 2 dX1_chance_159 rfl ?_
                        refine cz_get (v := .ref (A 319)) 5 hA (by decide) q332 rfl dX1_chance_160 ?_
                        refine z_callV (As := [.ref (A 319)]) (c_passT (K := K) (F := F_42) (gl := gl) (σ0 := σ) (ds0 := ds) (dt0 := (nI (now % 12))) (yr0 := (nI (now / 12))) (σ := (s_ch wv vs ds nh nd own now od (nI i_20) σ i_37).1) (ds := ds) hA hO hV hv (now := now + i_37) (by omega) (s_iv_ch hV hiv i_37)) q1209 q1211 qs36 q112 q1212 nm_X1_passes (cX_obj hA) rfl rfl rfl (Nat.le_of_ble_eq_true rfl) ⟨Nat.le_of_ble_eq_true rfl, Nat.le_of_ble_eq_true rfl⟩ dX1_chance_163 rfl rfl (Nat.le_of_ble_eq_true rfl) (Nat.le_of_ble_eq_true rfl) (fun v_77 X_78 hp_79 => ?_)
                        obtain ⟨rfl, F_76, rfl⟩ := hp_79
                        refine z_st (st' := [.int ((s_pass wv vs ds nh nd own (now + i_37) ((s_ch wv vs ds nh nd own now od (nI i_20) σ i_37).1)).2.1)]) rfl ?_
                        refine z_pop dX1_chance_166 rfl ?_
                        refine z_iload 9 dX1_chance_167 rfl ?_
                        refine z_if_neb 183 dX1_chance_169 (by decide) (fun c_80 => ?_) (fun c_80 => ?_)
                        · -- s_isBit (s_ch wv vs ds nh nd own now od (nI i_20) σ i_37).2.2 dd = true
                          refine z_iconst (v := 1) dX1_chance_183 (by decide) ?_
                          refine z_goto 188 dX1_chance_184 (by decide) ?_
                          refine z_istore (lv' := [(11, .int 1), (13, .int 0), (9, .long ((s_ch wv vs ds nh nd own now od (nI i_20) σ i_37).2.1 * (10 - od).toInt64)), (0, .ref (A 99)), (1, .int (nI (dd))), (2, .int (nI (mm))), (3, .int od), (4, .long (s_chs (fun k => ((s_ch wv vs ds nh nd own now od (nI k) σ mm).2.1, (s_ch wv vs ds nh nd own now od (nI k) σ mm).2.2)) dd i_20)), (6, .long (s_p10 mm)), (8, .int (nI (i_20))), (12, .int (nI (i_37)))]) dX1_chance_188 (by decide) rfl ?_
                          have hch := s_ch_f (wv := wv) (vs := vs) (ds := ds) (nh := nh) (nd := nd) (own := own) (now := now) (odds := od) (σ := σ) c_53
                          refine z_iinc (v := nI (i_37 + 1)) (lv' := [(12, .int (nI (i_37 + 1))), (11, .int 1), (13, .int 0), (9, .long ((s_ch wv vs ds nh nd own now od (nI i_20) σ i_37).2.1 * (10 - od).toInt64)), (0, .ref (A 99)), (1, .int (nI (dd))), (2, .int (nI (mm))), (3, .int od), (4, .long (s_chs (fun k => ((s_ch wv vs ds nh nd own now od (nI k) σ mm).2.1, (s_ch wv vs ds nh nd own now od (nI k) σ mm).2.2)) dd i_20)), (6, .long (s_p10 mm)), (8, .int (nI (i_20)))]) 10 dX1_chance_190 rfl (nI_1 _) (by decide) rfl ?_
                          refine z_goto 90 dX1_chance_193 (by decide) ?_
                          have f_81 : ((s_ch wv vs ds nh nd own now od (nI i_20) σ i_37).2.1 * (10 - od).toInt64) = (s_ch wv vs ds nh nd own now od (nI i_20) σ (i_37 + 1)).2.1 := by skip; rw [hch] <;> rfl
                          have f_82 : 1 = zb (s_isBit (s_ch wv vs ds nh nd own now od (nI i_20) σ (i_37 + 1)).2.2 dd) := by skip; rw [hch]; show _ = zb (s_isBit (_ ||| _) dd); rw [s_isBit_or (by omega), c_80]; rfl
                          refine z_lv (lv' := [(0, .ref (A 99)), (1, .int (nI (dd))), (2, .int (nI (mm))), (3, .int od), (4, .long (s_chs (fun k => ((s_ch wv vs ds nh nd own now od (nI k) σ mm).2.1, (s_ch wv vs ds nh nd own now od (nI k) σ mm).2.2)) dd i_20)), (6, .long (s_p10 mm)), (8, .int (nI (i_20))), (9, .long ((s_ch wv vs ds nh nd own now od (nI i_20) σ (i_37 + 1)).2.1)), (11, .int (zb (s_isBit (s_ch wv vs ds nh nd own now od (nI i_20) σ (i_37 + 1)).2.2 dd))), (12, .int (nI (i_37 + 1)))]) [4, 5, 6, 7, 8, 9, 10, 3, 1, 0] (by rw [← f_81, ← f_82]; rfl) ?_
                          refine z_X (X' := (cX g A (cput (cput (zs K 99 8 ((s_pass wv vs ds nh nd own (now + i_37) ((s_ch wv vs ds nh nd own now od (nI i_20) σ i_37).1)).2.2)) 300 σ ds (nI (now % 12)) (nI (now / 12))) 310 ((s_ch wv vs ds nh nd own now od (nI i_20) σ (i_37 + 1)).1) ds (nI ((now + (i_37 + 1)) % 12)) (nI ((now + (i_37 + 1)) / 12))) F_76 O gl X)) (by skip; rw [hch] <;> rfl) ?_
                          exact ih_39 (i_37 + 1) (by omega) (by omega) _ _ 
                        · -- s_isBit (s_ch wv vs ds nh nd own now od (nI i_20) σ i_37).2.2 dd = false
                          refine z_aload_n 2 dX1_chance_172 rfl ?_
                          refine cz_get (v := .int ((s_pass wv vs ds nh nd own (now + i_37) ((s_ch wv vs ds nh nd own now od (nI i_20) σ i_37).1)).2.2)) 8 hA (by decide) q335 rfl dX1_chance_173 ?_
                          refine z_iload_n 3 dX1_chance_176 rfl ?_
                          refine z_callS (As := [.int ((s_pass wv vs ds nh nd own (now + i_37) ((s_ch wv vs ds nh nd own now od (nI i_20) σ i_37).1)).2.2), .int (nI (dd))]) (c_isIn ((s_pass wv vs ds nh nd own (now + i_37) ((s_ch wv vs ds nh nd own now od (nI i_20) σ i_37).1)).2.2) dd) q1241 q903 q112 q904 nm_X1_isIn rfl (Nat.le_of_ble_eq_true rfl) ⟨Nat.le_of_ble_eq_true rfl, Nat.le_of_ble_eq_true rfl⟩ dX1_chance_177 rfl rfl (Nat.le_of_ble_eq_true rfl) (Nat.le_of_ble_eq_true rfl) (fun v_83 X_84 hp_85 => ?_)
                          obtain ⟨rfl, rfl⟩ := hp_85
                          refine z_st (st' := [.int (zb (s_isBit ((s_pass wv vs ds nh nd own (now + i_37) ((s_ch wv vs ds nh nd own now od (nI i_20) σ i_37).1)).2.2) dd))]) rfl ?_
                          refine z_if_eqb 187 dX1_chance_180 (by decide) (fun c_86 => ?_) (fun c_86 => ?_)
                          · -- s_isBit ((s_pass wv vs ds nh nd own (now + i_37) ((s_ch wv vs ds nh nd own now od (nI i_20) σ i_37).1)).2.2) dd = false
                            refine z_iconst (v := 0) dX1_chance_187 (by decide) ?_
                            refine z_istore (lv' := [(11, .int 0), (13, .int 0), (9, .long ((s_ch wv vs ds nh nd own now od (nI i_20) σ i_37).2.1 * (10 - od).toInt64)), (0, .ref (A 99)), (1, .int (nI (dd))), (2, .int (nI (mm))), (3, .int od), (4, .long (s_chs (fun k => ((s_ch wv vs ds nh nd own now od (nI k) σ mm).2.1, (s_ch wv vs ds nh nd own now od (nI k) σ mm).2.2)) dd i_20)), (6, .long (s_p10 mm)), (8, .int (nI (i_20))), (12, .int (nI (i_37)))]) dX1_chance_188 (by decide) rfl ?_
                            have hch := s_ch_f (wv := wv) (vs := vs) (ds := ds) (nh := nh) (nd := nd) (own := own) (now := now) (odds := od) (σ := σ) c_53
                            refine z_iinc (v := nI (i_37 + 1)) (lv' := [(12, .int (nI (i_37 + 1))), (11, .int 0), (13, .int 0), (9, .long ((s_ch wv vs ds nh nd own now od (nI i_20) σ i_37).2.1 * (10 - od).toInt64)), (0, .ref (A 99)), (1, .int (nI (dd))), (2, .int (nI (mm))), (3, .int od), (4, .long (s_chs (fun k => ((s_ch wv vs ds nh nd own now od (nI k) σ mm).2.1, (s_ch wv vs ds nh nd own now od (nI k) σ mm).2.2)) dd i_20)), (6, .long (s_p10 mm)), (8, .int (nI (i_20)))]) 10 dX1_chance_190 rfl (nI_1 _) (by decide) rfl ?_
                            refine z_goto 90 dX1_chance_193 (by decide) ?_
                            have f_87 : ((s_ch wv vs ds nh nd own now od (nI i_20) σ i_37).2.1 * (10 - od).toInt64) = (s_ch wv vs ds nh nd own now od (nI i_20) σ (i_37 + 1)).2.1 := by skip; rw [hch] <;> rfl
                            have f_88 : 0 = zb (s_isBit (s_ch wv vs ds nh nd own now od (nI i_20) σ (i_37 + 1)).2.2 dd) := by skip; rw [hch]; show _ = zb (s_isBit (_ ||| _) dd); rw [s_isBit_or (by omega), c_80, c_86]; rfl
                            refine z_lv (lv' := [(0, .ref (A 99)), (1, .int (nI (dd))), (2, .int (nI (mm))), (3, .int od), (4, .long (s_chs (fun k => ((s_ch wv vs ds nh nd own now od (nI k) σ mm).2.1, (s_ch wv vs ds nh nd own now od (nI k) σ mm).2.2)) dd i_20)), (6, .long (s_p10 mm)), (8, .int (nI (i_20))), (9, .long ((s_ch wv vs ds nh nd own now od (nI i_20) σ (i_37 + 1)).2.1)), (11, .int (zb (s_isBit (s_ch wv vs ds nh nd own now od (nI i_20) σ (i_37 + 1)).2.2 dd))), (12, .int (nI (i_37 + 1)))]) [4, 5, 6, 7, 8, 9, 10, 3, 1, 0] (by rw [← f_87, ← f_88]; rfl) ?_
                            refine z_X (X' := (cX g A (cput (cput (zs K 99 8 ((s_pass wv vs ds nh nd own (now + i_37) ((s_ch wv vs ds nh nd own now od (nI i_20) σ i_37).1)).2.2)) 300 σ ds (nI (now % 12)) (nI (now / 12))) 310 ((s_ch wv vs ds nh nd own now od (nI i_20) σ (i_37 + 1)).1) ds (nI ((now + (i_37 + 1)) % 12)) (nI ((now + (i_37 + 1)) / 12))) F_76 O gl X)) (by skip; rw [hch] <;> rfl) ?_
                            exact ih_39 (i_37 + 1) (by omega) (by omega) _ _ 
                          · -- s_isBit ((s_pass wv vs ds nh nd own (now + i_37) ((s_ch wv vs ds nh nd own now od (nI i_20) σ i_37).1)).2.2) dd = true
                            refine z_iconst (v := 1) dX1_chance_183 (by decide) ?_
                            refine z_goto 188 dX1_chance_184 (by decide) ?_
                            refine z_istore (lv' := [(11, .int 1), (13, .int 0), (9, .long ((s_ch wv vs ds nh nd own now od (nI i_20) σ i_37).2.1 * (10 - od).toInt64)), (0, .ref (A 99)), (1, .int (nI (dd))), (2, .int (nI (mm))), (3, .int od), (4, .long (s_chs (fun k => ((s_ch wv vs ds nh nd own now od (nI k) σ mm).2.1, (s_ch wv vs ds nh nd own now od (nI k) σ mm).2.2)) dd i_20)), (6, .long (s_p10 mm)), (8, .int (nI (i_20))), (12, .int (nI (i_37)))]) dX1_chance_188 (by decide) rfl ?_
                            have hch := s_ch_f (wv := wv) (vs := vs) (ds := ds) (nh := nh) (nd := nd) (own := own) (now := now) (odds := od) (σ := σ) c_53
                            refine z_iinc (v := nI (i_37 + 1)) (lv' := [(12, .int (nI (i_37 + 1))), (11, .int 1), (13, .int 0), (9, .long ((s_ch wv vs ds nh nd own now od (nI i_20) σ i_37).2.1 * (10 - od).toInt64)), (0, .ref (A 99)), (1, .int (nI (dd))), (2, .int (nI (mm))), (3, .int od), (4, .long (s_chs (fun k => ((s_ch wv vs ds nh nd own now od (nI k) σ mm).2.1, (s_ch wv vs ds nh nd own now od (nI k) σ mm).2.2)) dd i_20)), (6, .long (s_p10 mm)), (8, .int (nI (i_20)))]) 10 dX1_chance_190 rfl (nI_1 _) (by decide) rfl ?_
                            refine z_goto 90 dX1_chance_193 (by decide) ?_
                            have f_89 : ((s_ch wv vs ds nh nd own now od (nI i_20) σ i_37).2.1 * (10 - od).toInt64) = (s_ch wv vs ds nh nd own now od (nI i_20) σ (i_37 + 1)).2.1 := by skip; rw [hch] <;> rfl
                            have f_90 : 1 = zb (s_isBit (s_ch wv vs ds nh nd own now od (nI i_20) σ (i_37 + 1)).2.2 dd) := by skip; rw [hch]; show _ = zb (s_isBit (_ ||| _) dd); rw [s_isBit_or (by omega), c_80, c_86]; rfl
                            refine z_lv (lv' := [(0, .ref (A 99)), (1, .int (nI (dd))), (2, .int (nI (mm))), (3, .int od), (4, .long (s_chs (fun k => ((s_ch wv vs ds nh nd own now od (nI k) σ mm).2.1, (s_ch wv vs ds nh nd own now od (nI k) σ mm).2.2)) dd i_20)), (6, .long (s_p10 mm)), (8, .int (nI (i_20))), (9, .long ((s_ch wv vs ds nh nd own now od (nI i_20) σ (i_37 + 1)).2.1)), (11, .int (zb (s_isBit (s_ch wv vs ds nh nd own now od (nI i_20) σ (i_37 + 1)).2.2 dd))), (12, .int (nI (i_37 + 1)))]) [4, 5, 6, 7, 8, 9, 10, 3, 1, 0] (by rw [← f_89, ← f_90]; rfl) ?_
                            refine z_X (X' := (cX g A (cput (cput (zs K 99 8 ((s_pass wv vs ds nh nd own (now + i_37) ((s_ch wv vs ds nh nd own now od (nI i_20) σ i_37).1)).2.2)) 300 σ ds (nI (now % 12)) (nI (now / 12))) 310 ((s_ch wv vs ds nh nd own now od (nI i_20) σ (i_37 + 1)).1) ds (nI ((now + (i_37 + 1)) % 12)) (nI ((now + (i_37 + 1)) / 12))) F_76 O gl X)) (by skip; rw [hch] <;> rfl) ?_
                            exact ih_39 (i_37 + 1) (by omega) (by omega) _ _ 
                    · -- s_isBit (nI (i_20)) i_37 = true
                      refine z_iload_n 3 dX1_chance_108 rfl ?_
                      refine z_i2l (v := od.toInt64) dX1_chance_109 rfl ?_
                      refine z_goto 118 dX1_chance_110 (by decide) ?_
                      refine z_lmul dX1_chance_118 ?_
                      refine z_lstore (lv' := [(9, .long ((s_ch wv vs ds nh nd own now od (nI i_20) σ i_37).2.1 * od.toInt64)), (0, .ref (A 99)), (1, .int (nI (dd))), (2, .int (nI (mm))), (3, .int od), (4, .long (s_chs (fun k => ((s_ch wv vs ds nh nd own now od (nI k) σ mm).2.1, (s_ch wv vs ds nh nd own now od (nI k) σ mm).2.2)) dd i_20)), (6, .long (s_p10 mm)), (8, .int (nI (i_20))), (11, .int (zb (s_isBit (s_ch wv vs ds nh nd own now od (nI i_20) σ i_37).2.2 dd))), (12, .int (nI (i_37)))]) dX1_chance_119 (by decide) rfl ?_
                      refine z_iconst (v := 0) dX1_chance_121 (by decide) ?_
                      refine z_istore (lv' := [(13, .int 0), (9, .long ((s_ch wv vs ds nh nd own now od (nI i_20) σ i_37).2.1 * od.toInt64)), (0, .ref (A 99)), (1, .int (nI (dd))), (2, .int (nI (mm))), (3, .int od), (4, .long (s_chs (fun k => ((s_ch wv vs ds nh nd own now od (nI k) σ mm).2.1, (s_ch wv vs ds nh nd own now od (nI k) σ mm).2.2)) dd i_20)), (6, .long (s_p10 mm)), (8, .int (nI (i_20))), (11, .int (zb (s_isBit (s_ch wv vs ds nh nd own now od (nI i_20) σ i_37).2.2 dd))), (12, .int (nI (i_37)))]) dX1_chance_122 (by decide) rfl ?_
                      have loop_95 : ∀ (q_92 i_91 : Nat), i_91 + q_92 = nd → 0 ≤ i_91 → zZ g m_X1_chance (fun rv X' => rv = some (.int (if (((decide (0 ≤ d) && decide (d < nI nd)) && (decide (1 ≤ m) && decide (m ≤ 6))) && (decide (0 ≤ od) && decide (od ≤ 10))) = true then (s_chs (fun k => ((s_ch wv vs ds nh nd own now od (nI k) σ m.toNatClampNeg).2.1, (s_ch wv vs ds nh nd own now od (nI k) σ m.toNatClampNeg).2.2)) d.toNatClampNeg (2 ^ m.toNatClampNeg) * 1000000 / s_p10 m.toNatClampNeg).toInt32 else zm1)) ∧ ∃ (o' : Int32) (F' τ' es' : Nat → Int32) (dt' yr' : Int32), X' = cX g A (cput (cput (zs K 99 8 o') 300 σ ds (nI (now % 12)) (nI (now / 12))) 310 τ' es' dt' yr') F' O gl X, zno, ({ frames := 1002, cells := 0, slots := 0, locals := 40047 } : Room)) 0 0 (cX g A (cput (cput (zs K 99 8 o_43) 300 σ ds (nI (now % 12)) (nI (now / 12))) 310 (s_flood (s_ch wv vs ds nh nd own now od (nI i_20) σ i_37).1 i_91) ds (nI ((now + i_37) % 12)) (nI ((now + i_37) / 12))) F_42 O gl X) 124 [(0, .ref (A 99)), (1, .int (nI (dd))), (2, .int (nI (mm))), (3, .int od), (4, .long (s_chs (fun k => ((s_ch wv vs ds nh nd own now od (nI k) σ mm).2.1, (s_ch wv vs ds nh nd own now od (nI k) σ mm).2.2)) dd i_20)), (6, .long (s_p10 mm)), (8, .int (nI (i_20))), (9, .long ((s_ch wv vs ds nh nd own now od (nI i_20) σ i_37).2.1 * od.toInt64)), (11, .int (zb (s_isBit (s_ch wv vs ds nh nd own now od (nI i_20) σ i_37).2.2 dd))), (12, .int (nI (i_37))), (13, .int (nI (i_91)))] [] := by
                        intro q_92
                        induction q_92 with
                        | zero =>
                          intro i_91 hb_94 lo_96  
                          obtain rfl : nd = i_91 := by omega
                          refine z_iload 10 dX1_chance_124 rfl ?_
                          refine z_aload_n 0 dX1_chance_126 rfl ?_
                          refine z_callV (As := []) (c_guests (K := (cput (cput (zs K 99 8 o_43) 300 σ ds (nI (now % 12)) (nI (now / 12))) 310 (s_flood (s_ch wv vs ds nh nd own now od (nI i_20) σ i_37).1 nd) ds (nI ((now + i_37) % 12)) (nI ((now + i_37) / 12)))) (F := F_42) (gl := gl) hA hO hxv hlh heh hch1 hch2 hlg heg hcg1 hcg2) q1139 q1141 qs30 q112 q1142 nm_X1_guests (cX_obj hA) rfl rfl rfl (Nat.le_of_ble_eq_true rfl) ⟨Nat.le_of_ble_eq_true rfl, Nat.le_of_ble_eq_true rfl⟩ dX1_chance_127 rfl rfl (Nat.le_of_ble_eq_true rfl) (Nat.le_of_ble_eq_true rfl) (fun v_97 X_98 hp_99 => ?_)
                          obtain ⟨rfl, rfl⟩ := hp_99
                          refine z_st (st' := [.int (nI (nd)), .int (nI (nd))]) rfl ?_
                          refine z_icmp_geN (a := nd) (b := nd) 158 (by omega) (by omega) dX1_chance_130 (by decide) (fun c_100 => ?_) (fun c_100 => absurd c_100 (by omega))
                          refine z_aload_n 0 dX1_chance_158 rfl ?_
                          refine z_aload_n 0 dX1_chance_159 rfl ?_
                          refine cz_get (v := .ref (A 319)) 5 hA (by decide) q332 rfl dX1_chance_160 ?_
                          refine z_callV (As := [.ref (A 319)]) (c_passT (K := K) (F := F_42) (gl := gl) (σ0 := σ) (ds0 := ds) (dt0 := (nI (now % 12))) (yr0 := (nI (now / 12))) (σ := (s_flood (s_ch wv vs ds nh nd own now od (nI i_20) σ i_37).1 nd)) (ds := ds) hA hO hV hv (now := now + i_37) (by omega) (s_iv_flood (s_iv_ch hV hiv i_37) nd hnd)) q1209 q1211 qs36 q112 q1212 nm_X1_passes (cX_obj hA) rfl rfl rfl (Nat.le_of_ble_eq_true rfl) ⟨Nat.le_of_ble_eq_true rfl, Nat.le_of_ble_eq_true rfl⟩ dX1_chance_163 rfl rfl (Nat.le_of_ble_eq_true rfl) (Nat.le_of_ble_eq_true rfl) (fun v_102 X_103 hp_104 => ?_)
                          obtain ⟨rfl, F_101, rfl⟩ := hp_104
                          refine z_st (st' := [.int ((s_pass wv vs ds nh nd own (now + i_37) (s_flood (s_ch wv vs ds nh nd own now od (nI i_20) σ i_37).1 nd)).2.1)]) rfl ?_
                          refine z_pop dX1_chance_166 rfl ?_
                          refine z_iload 8 dX1_chance_167 rfl ?_
                          refine z_if_neb 183 dX1_chance_169 (by decide) (fun c_105 => ?_) (fun c_105 => ?_)
                          · -- s_isBit (s_ch wv vs ds nh nd own now od (nI i_20) σ i_37).2.2 dd = true
                            refine z_iconst (v := 1) dX1_chance_183 (by decide) ?_
                            refine z_goto 188 dX1_chance_184 (by decide) ?_
                            refine z_istore (lv' := [(11, .int 1), (0, .ref (A 99)), (1, .int (nI (dd))), (2, .int (nI (mm))), (3, .int od), (4, .long (s_chs (fun k => ((s_ch wv vs ds nh nd own now od (nI k) σ mm).2.1, (s_ch wv vs ds nh nd own now od (nI k) σ mm).2.2)) dd i_20)), (6, .long (s_p10 mm)), (8, .int (nI (i_20))), (9, .long ((s_ch wv vs ds nh nd own now od (nI i_20) σ i_37).2.1 * od.toInt64)), (12, .int (nI (i_37))), (13, .int (nI (nd)))]) dX1_chance_188 (by decide) rfl ?_
                            have hch := s_ch_t (wv := wv) (vs := vs) (ds := ds) (nh := nh) (nd := nd) (own := own) (now := now) (odds := od) (σ := σ) c_53
                            refine z_iinc (v := nI (i_37 + 1)) (lv' := [(12, .int (nI (i_37 + 1))), (11, .int 1), (0, .ref (A 99)), (1, .int (nI (dd))), (2, .int (nI (mm))), (3, .int od), (4, .long (s_chs (fun k => ((s_ch wv vs ds nh nd own now od (nI k) σ mm).2.1, (s_ch wv vs ds nh nd own now od (nI k) σ mm).2.2)) dd i_20)), (6, .long (s_p10 mm)), (8, .int (nI (i_20))), (9, .long ((s_ch wv vs ds nh nd own now od (nI i_20) σ i_37).2.1 * od.toInt64)), (13, .int (nI (nd)))]) 9 dX1_chance_190 rfl (nI_1 _) (by decide) rfl ?_
                            refine z_goto 90 dX1_chance_193 (by decide) ?_
                            have f_106 : ((s_ch wv vs ds nh nd own now od (nI i_20) σ i_37).2.1 * od.toInt64) = (s_ch wv vs ds nh nd own now od (nI i_20) σ (i_37 + 1)).2.1 := by skip; rw [hch] <;> rfl
                            have f_107 : 1 = zb (s_isBit (s_ch wv vs ds nh nd own now od (nI i_20) σ (i_37 + 1)).2.2 dd) := by skip; rw [hch]; show _ = zb (s_isBit (_ ||| _) dd); rw [s_isBit_or (by omega), c_105]; rfl
                            refine z_lv (lv' := [(0, .ref (A 99)), (1, .int (nI (dd))), (2, .int (nI (mm))), (3, .int od), (4, .long (s_chs (fun k => ((s_ch wv vs ds nh nd own now od (nI k) σ mm).2.1, (s_ch wv vs ds nh nd own now od (nI k) σ mm).2.2)) dd i_20)), (6, .long (s_p10 mm)), (8, .int (nI (i_20))), (9, .long ((s_ch wv vs ds nh nd own now od (nI i_20) σ (i_37 + 1)).2.1)), (11, .int (zb (s_isBit (s_ch wv vs ds nh nd own now od (nI i_20) σ (i_37 + 1)).2.2 dd))), (12, .int (nI (i_37 + 1)))]) [2, 3, 4, 5, 6, 7, 8, 9, 1, 0] (by rw [← f_106, ← f_107]; rfl) ?_
                            refine z_X (X' := (cX g A (cput (cput (zs K 99 8 ((s_pass wv vs ds nh nd own (now + i_37) (s_flood (s_ch wv vs ds nh nd own now od (nI i_20) σ i_37).1 nd)).2.2)) 300 σ ds (nI (now % 12)) (nI (now / 12))) 310 ((s_ch wv vs ds nh nd own now od (nI i_20) σ (i_37 + 1)).1) ds (nI ((now + (i_37 + 1)) % 12)) (nI ((now + (i_37 + 1)) / 12))) F_101 O gl X)) (by skip; rw [hch] <;> rfl) ?_
                            exact ih_39 (i_37 + 1) (by omega) (by omega) _ _ 
                          · -- s_isBit (s_ch wv vs ds nh nd own now od (nI i_20) σ i_37).2.2 dd = false
                            refine z_aload_n 0 dX1_chance_172 rfl ?_
                            refine cz_get (v := .int ((s_pass wv vs ds nh nd own (now + i_37) (s_flood (s_ch wv vs ds nh nd own now od (nI i_20) σ i_37).1 nd)).2.2)) 8 hA (by decide) q335 rfl dX1_chance_173 ?_
                            refine z_iload_n 1 dX1_chance_176 rfl ?_
                            refine z_callS (As := [.int ((s_pass wv vs ds nh nd own (now + i_37) (s_flood (s_ch wv vs ds nh nd own now od (nI i_20) σ i_37).1 nd)).2.2), .int (nI (dd))]) (c_isIn ((s_pass wv vs ds nh nd own (now + i_37) (s_flood (s_ch wv vs ds nh nd own now od (nI i_20) σ i_37).1 nd)).2.2) dd) q1241 q903 q112 q904 nm_X1_isIn rfl (Nat.le_of_ble_eq_true rfl) ⟨Nat.le_of_ble_eq_true rfl, Nat.le_of_ble_eq_true rfl⟩ dX1_chance_177 rfl rfl (Nat.le_of_ble_eq_true rfl) (Nat.le_of_ble_eq_true rfl) (fun v_108 X_109 hp_110 => ?_)
                            obtain ⟨rfl, rfl⟩ := hp_110
                            refine z_st (st' := [.int (zb (s_isBit ((s_pass wv vs ds nh nd own (now + i_37) (s_flood (s_ch wv vs ds nh nd own now od (nI i_20) σ i_37).1 nd)).2.2) dd))]) rfl ?_
                            refine z_if_eqb 187 dX1_chance_180 (by decide) (fun c_111 => ?_) (fun c_111 => ?_)
                            · -- s_isBit ((s_pass wv vs ds nh nd own (now + i_37) (s_flood (s_ch wv vs ds nh nd own now od (nI i_20) σ i_37).1 nd)).2.2) dd = false
                              refine z_iconst (v := 0) dX1_chance_187 (by decide) ?_
                              refine z_istore (lv' := [(11, .int 0), (0, .ref (A 99)), (1, .int (nI (dd))), (2, .int (nI (mm))), (3, .int od), (4, .long (s_chs (fun k => ((s_ch wv vs ds nh nd own now od (nI k) σ mm).2.1, (s_ch wv vs ds nh nd own now od (nI k) σ mm).2.2)) dd i_20)), (6, .long (s_p10 mm)), (8, .int (nI (i_20))), (9, .long ((s_ch wv vs ds nh nd own now od (nI i_20) σ i_37).2.1 * od.toInt64)), (12, .int (nI (i_37))), (13, .int (nI (nd)))]) dX1_chance_188 (by decide) rfl ?_
                              have hch := s_ch_t (wv := wv) (vs := vs) (ds := ds) (nh := nh) (nd := nd) (own := own) (now := now) (odds := od) (σ := σ) c_53
                              refine z_iinc (v := nI (i_37 + 1)) (lv' := [(12, .int (nI (i_37 + 1))), (11, .int 0), (0, .ref (A 99)), (1, .int (nI (dd))), (2, .int (nI (mm))), (3, .int od), (4, .long (s_chs (fun k => ((s_ch wv vs ds nh nd own now od (nI k) σ mm).2.1, (s_ch wv vs ds nh nd own now od (nI k) σ mm).2.2)) dd i_20)), (6, .long (s_p10 mm)), (8, .int (nI (i_20))), (9, .long ((s_ch wv vs ds nh nd own now od (nI i_20) σ i_37).2.1 * od.toInt64)), (13, .int (nI (nd)))]) 9 dX1_chance_190 rfl (nI_1 _) (by decide) rfl ?_
                              refine z_goto 90 dX1_chance_193 (by decide) ?_
                              have f_112 : ((s_ch wv vs ds nh nd own now od (nI i_20) σ i_37).2.1 * od.toInt64) = (s_ch wv vs ds nh nd own now od (nI i_20) σ (i_37 + 1)).2.1 := by skip; rw [hch] <;> rfl
                              have f_113 : 0 = zb (s_isBit (s_ch wv vs ds nh nd own now od (nI i_20) σ (i_37 + 1)).2.2 dd) := by skip; rw [hch]; show _ = zb (s_isBit (_ ||| _) dd); rw [s_isBit_or (by omega), c_105, c_111]; rfl
                              refine z_lv (lv' := [(0, .ref (A 99)), (1, .int (nI (dd))), (2, .int (nI (mm))), (3, .int od), (4, .long (s_chs (fun k => ((s_ch wv vs ds nh nd own now od (nI k) σ mm).2.1, (s_ch wv vs ds nh nd own now od (nI k) σ mm).2.2)) dd i_20)), (6, .long (s_p10 mm)), (8, .int (nI (i_20))), (9, .long ((s_ch wv vs ds nh nd own now od (nI i_20) σ (i_37 + 1)).2.1)), (11, .int (zb (s_isBit (s_ch wv vs ds nh nd own now od (nI i_20) σ (i_37 + 1)).2.2 dd))), (12, .int (nI (i_37 + 1)))]) [2, 3, 4, 5, 6, 7, 8, 9, 1, 0] (by rw [← f_112, ← f_113]; rfl) ?_
                              refine z_X (X' := (cX g A (cput (cput (zs K 99 8 ((s_pass wv vs ds nh nd own (now + i_37) (s_flood (s_ch wv vs ds nh nd own now od (nI i_20) σ i_37).1 nd)).2.2)) 300 σ ds (nI (now % 12)) (nI (now / 12))) 310 ((s_ch wv vs ds nh nd own now od (nI i_20) σ (i_37 + 1)).1) ds (nI ((now + (i_37 + 1)) % 12)) (nI ((now + (i_37 + 1)) / 12))) F_101 O gl X)) (by skip; rw [hch] <;> rfl) ?_
                              exact ih_39 (i_37 + 1) (by omega) (by omega) _ _ 
                            · -- s_isBit ((s_pass wv vs ds nh nd own (now + i_37) (s_flood (s_ch wv vs ds nh nd own now od (nI i_20) σ i_37).1 nd)).2.2) dd = true
                              refine z_iconst (v := 1) dX1_chance_183 (by decide) ?_
                              refine z_goto 188 dX1_chance_184 (by decide) ?_
                              refine z_istore (lv' := [(11, .int 1), (0, .ref (A 99)), (1, .int (nI (dd))), (2, .int (nI (mm))), (3, .int od), (4, .long (s_chs (fun k => ((s_ch wv vs ds nh nd own now od (nI k) σ mm).2.1, (s_ch wv vs ds nh nd own now od (nI k) σ mm).2.2)) dd i_20)), (6, .long (s_p10 mm)), (8, .int (nI (i_20))), (9, .long ((s_ch wv vs ds nh nd own now od (nI i_20) σ i_37).2.1 * od.toInt64)), (12, .int (nI (i_37))), (13, .int (nI (nd)))]) dX1_chance_188 (by decide) rfl ?_
                              have hch := s_ch_t (wv := wv) (vs := vs) (ds := ds) (nh := nh) (nd := nd) (own := own) (now := now) (odds := od) (σ := σ) c_53
                              refine z_iinc (v := nI (i_37 + 1)) (lv' := [(12, .int (nI (i_37 + 1))), (11, .int 1), (0, .ref (A 99)), (1, .int (nI (dd))), (2, .int (nI (mm))), (3, .int od), (4, .long (s_chs (fun k => ((s_ch wv vs ds nh nd own now od (nI k) σ mm).2.1, (s_ch wv vs ds nh nd own now od (nI k) σ mm).2.2)) dd i_20)), (6, .long (s_p10 mm)), (8, .int (nI (i_20))), (9, .long ((s_ch wv vs ds nh nd own now od (nI i_20) σ i_37).2.1 * od.toInt64)), (13, .int (nI (nd)))]) 9 dX1_chance_190 rfl (nI_1 _) (by decide) rfl ?_
                              refine z_goto 90 dX1_chance_193 (by decide) ?_
                              have f_114 : ((s_ch wv vs ds nh nd own now od (nI i_20) σ i_37).2.1 * od.toInt64) = (s_ch wv vs ds nh nd own now od (nI i_20) σ (i_37 + 1)).2.1 := by skip; rw [hch] <;> rfl
                              have f_115 : 1 = zb (s_isBit (s_ch wv vs ds nh nd own now od (nI i_20) σ (i_37 + 1)).2.2 dd) := by skip; rw [hch]; show _ = zb (s_isBit (_ ||| _) dd); rw [s_isBit_or (by omega), c_105, c_111]; rfl
                              refine z_lv (lv' := [(0, .ref (A 99)), (1, .int (nI (dd))), (2, .int (nI (mm))), (3, .int od), (4, .long (s_chs (fun k => ((s_ch wv vs ds nh nd own now od (nI k) σ mm).2.1, (s_ch wv vs ds nh nd own now od (nI k) σ mm).2.2)) dd i_20)), (6, .long (s_p10 mm)), (8, .int (nI (i_20))), (9, .long ((s_ch wv vs ds nh nd own now od (nI i_20) σ (i_37 + 1)).2.1)), (11, .int (zb (s_isBit (s_ch wv vs ds nh nd own now od (nI i_20) σ (i_37 + 1)).2.2 dd))), (12, .int (nI (i_37 + 1)))]) [2, 3, 4, 5, 6, 7, 8, 9, 1, 0] (by rw [← f_114, ← f_115]; rfl) ?_
                              refine z_X (X' := (cX g A (cput (cput (zs K 99 8 ((s_pass wv vs ds nh nd own (now + i_37) (s_flood (s_ch wv vs ds nh nd own now od (nI i_20) σ i_37).1 nd)).2.2)) 300 σ ds (nI (now % 12)) (nI (now / 12))) 310 ((s_ch wv vs ds nh nd own now od (nI i_20) σ (i_37 + 1)).1) ds (nI ((now + (i_37 + 1)) % 12)) (nI ((now + (i_37 + 1)) / 12))) F_101 O gl X)) (by skip; rw [hch] <;> rfl) ?_
                              exact ih_39 (i_37 + 1) (by omega) (by omega) _ _ 
                        | succ q_92 ih_93 =>
                          intro i_91 hb_94 lo_96  
                          refine z_iload 10 dX1_chance_124 rfl ?_
                          refine z_aload_n 0 dX1_chance_126 rfl ?_
                          refine z_callV (As := []) (c_guests (K := (cput (cput (zs K 99 8 o_43) 300 σ ds (nI (now % 12)) (nI (now / 12))) 310 (s_flood (s_ch wv vs ds nh nd own now od (nI i_20) σ i_37).1 i_91) ds (nI ((now + i_37) % 12)) (nI ((now + i_37) / 12)))) (F := F_42) (gl := gl) hA hO hxv hlh heh hch1 hch2 hlg heg hcg1 hcg2) q1139 q1141 qs30 q112 q1142 nm_X1_guests (cX_obj hA) rfl rfl rfl (Nat.le_of_ble_eq_true rfl) ⟨Nat.le_of_ble_eq_true rfl, Nat.le_of_ble_eq_true rfl⟩ dX1_chance_127 rfl rfl (Nat.le_of_ble_eq_true rfl) (Nat.le_of_ble_eq_true rfl) (fun v_116 X_117 hp_118 => ?_)
                          obtain ⟨rfl, rfl⟩ := hp_118
                          refine z_st (st' := [.int (nI (nd)), .int (nI (i_91))]) rfl ?_
                          refine z_icmp_geN (a := i_91) (b := nd) 158 (by omega) (by omega) dX1_chance_130 (by decide) (fun c_119 => absurd c_119 (by omega)) (fun c_119 => ?_)
                          refine z_iload 6 dX1_chance_133 rfl ?_
                          refine z_iload 9 dX1_chance_135 rfl ?_
                          refine z_callS (As := [.int (nI (i_20)), .int (nI (i_37))]) (c_isIn (nI (i_20)) i_37) q1241 q903 q112 q904 nm_X1_isIn rfl (Nat.le_of_ble_eq_true rfl) ⟨Nat.le_of_ble_eq_true rfl, Nat.le_of_ble_eq_true rfl⟩ dX1_chance_137 rfl rfl (Nat.le_of_ble_eq_true rfl) (Nat.le_of_ble_eq_true rfl) (fun v_120 X_121 hp_122 => ?_)
                          obtain ⟨rfl, rfl⟩ := hp_122
                          refine z_st (st' := [.int (zb (s_isBit (nI (i_20)) i_37))]) rfl ?_
                          refine z_if_eqb 158 dX1_chance_140 (by decide) (fun c_ => absurd (c_53.symm.trans c_) (by decide)) (fun _ => ?_)
                          refine z_aload_n 0 dX1_chance_143 rfl ?_
                          refine cz_get (v := .ref (A 319)) 5 hA (by decide) q332 rfl dX1_chance_144 ?_
                          refine z_iload 10 dX1_chance_147 rfl ?_
                          refine z_callV (As := [.int (nI (i_91))]) (c_goes (F := F_42) (gl := gl) (K := (cput (zs K 99 8 o_43) 300 σ ds (nI (now % 12)) (nI (now / 12)))) (σ := (s_flood (s_ch wv vs ds nh nd own now od (nI i_20) σ i_37).1 i_91)) (ds := ds) (dt := (nI ((now + i_37) % 12))) (yr := (nI ((now + i_37) / 12))) (O := O) hA (cst_1 hA) i_91 (by omega)) q1217 q1218 q1219 q118 q1220 nm_X4_goes (cX_st hA (cst_1 hA)) rfl rfl rfl (Nat.le_of_ble_eq_true rfl) ⟨Nat.le_of_ble_eq_true rfl, Nat.le_of_ble_eq_true rfl⟩ dX1_chance_149 rfl rfl (Nat.le_of_ble_eq_true rfl) (Nat.le_of_ble_eq_true rfl) (fun v_123 X_124 hp_125 => ?_)
                          obtain ⟨rfl, rfl⟩ := hp_125
                          refine z_st (st' := []) rfl ?_
                          refine z_iinc (v := nI (i_91 + 1)) (lv' := [(13, .int (nI (i_91 + 1))), (0, .ref (A 99)), (1, .int (nI (dd))), (2, .int (nI (mm))), (3, .int od), (4, .long (s_chs (fun k => ((s_ch wv vs ds nh nd own now od (nI k) σ mm).2.1, (s_ch wv vs ds nh nd own now od (nI k) σ mm).2.2)) dd i_20)), (6, .long (s_p10 mm)), (8, .int (nI (i_20))), (9, .long ((s_ch wv vs ds nh nd own now od (nI i_20) σ i_37).2.1 * od.toInt64)), (11, .int (zb (s_isBit (s_ch wv vs ds nh nd own now od (nI i_20) σ i_37).2.2 dd))), (12, .int (nI (i_37)))]) 10 dX1_chance_152 rfl (nI_1 _) (by decide) rfl ?_
                          refine z_goto 124 dX1_chance_155 (by decide) ?_
                          refine z_lv (lv' := [(0, .ref (A 99)), (1, .int (nI (dd))), (2, .int (nI (mm))), (3, .int od), (4, .long (s_chs (fun k => ((s_ch wv vs ds nh nd own now od (nI k) σ mm).2.1, (s_ch wv vs ds nh nd own now od (nI k) σ mm).2.2)) dd i_20)), (6, .long (s_p10 mm)), (8, .int (nI (i_20))), (9, .long ((s_ch wv vs ds nh nd own now od (nI i_20) σ i_37).2.1 * od.toInt64)), (11, .int (zb (s_isBit (s_ch wv vs ds nh nd own now od (nI i_20) σ i_37).2.2 dd))), (12, .int (nI (i_37))), (13, .int (nI (i_91 + 1)))]) [1, 2, 3, 4, 5, 6, 7, 8, 9, 10, 0] rfl ?_
                          refine z_X (X' := (cX g A (cput (cput (zs K 99 8 o_43) 300 σ ds (nI (now % 12)) (nI (now / 12))) 310 (s_flood (s_ch wv vs ds nh nd own now od (nI i_20) σ i_37).1 (i_91 + 1)) ds (nI ((now + i_37) % 12)) (nI ((now + i_37) / 12))) F_42 O gl X)) (by rfl) ?_
                          exact ih_93 (i_91 + 1) (by omega) (by omega)  
                      refine z_lv (lv' := [(0, .ref (A 99)), (1, .int (nI (dd))), (2, .int (nI (mm))), (3, .int od), (4, .long (s_chs (fun k => ((s_ch wv vs ds nh nd own now od (nI k) σ mm).2.1, (s_ch wv vs ds nh nd own now od (nI k) σ mm).2.2)) dd i_20)), (6, .long (s_p10 mm)), (8, .int (nI (i_20))), (9, .long ((s_ch wv vs ds nh nd own now od (nI i_20) σ i_37).2.1 * od.toInt64)), (11, .int (zb (s_isBit (s_ch wv vs ds nh nd own now od (nI i_20) σ i_37).2.2 dd))), (12, .int (nI (i_37))), (13, .int 0)]) [2, 3, 4, 5, 6, 7, 8, 1, 9, 10, 0] rfl ?_
                      refine z_X (X' := (cX g A (cput (cput (zs K 99 8 o_43) 300 σ ds (nI (now % 12)) (nI (now / 12))) 310 (s_flood (s_ch wv vs ds nh nd own now od (nI i_20) σ i_37).1 0) ds (nI ((now + i_37) % 12)) (nI ((now + i_37) / 12))) F_42 O gl X)) (by rfl) ?_
                      exact loop_95 (nd - 0) 0 (by omega) (Nat.le_refl _)  
                have f_126 : 1 = (s_ch wv vs ds nh nd own now od (nI i_20) σ 0).2.1 := by rfl
                have f_127 : 0 = zb (s_isBit (s_ch wv vs ds nh nd own now od (nI i_20) σ 0).2.2 dd) := by show 0 = zb (s_isBit 0 dd); rw [s_isBit_z]; rfl
                refine z_lv (lv' := [(0, .ref (A 99)), (1, .int (nI (dd))), (2, .int (nI (mm))), (3, .int od), (4, .long (s_chs (fun k => ((s_ch wv vs ds nh nd own now od (nI k) σ mm).2.1, (s_ch wv vs ds nh nd own now od (nI k) σ mm).2.2)) dd i_20)), (6, .long (s_p10 mm)), (8, .int (nI (i_20))), (9, .long ((s_ch wv vs ds nh nd own now od (nI i_20) σ 0).2.1)), (11, .int (zb (s_isBit (s_ch wv vs ds nh nd own now od (nI i_20) σ 0).2.2 dd))), (12, .int 0)]) [3, 4, 5, 6, 7, 8, 9, 2, 1, 0] (by rw [← f_126, ← f_127]; rfl) ?_
                refine z_X (X' := (cX g A (cput (cput (zs K 99 8 o_26) 300 σ ds (nI (now % 12)) (nI (now / 12))) 310 ((s_ch wv vs ds nh nd own now od (nI i_20) σ 0).1) ds (nI (now % 12)) (nI (now / 12))) F_25 O gl X)) (by rfl) ?_
                exact loop_41 (mm - 0) 0 (by omega) (Nat.le_refl _) _ _ 
            have f_128 : 0 = s_chs (fun k => ((s_ch wv vs ds nh nd own now od (nI k) σ mm).2.1, (s_ch wv vs ds nh nd own now od (nI k) σ mm).2.2)) dd 0 := by rfl
            refine z_lv (lv' := [(0, .ref (A 99)), (1, .int (nI (dd))), (2, .int (nI (mm))), (3, .int od), (4, .long (s_chs (fun k => ((s_ch wv vs ds nh nd own now od (nI k) σ mm).2.1, (s_ch wv vs ds nh nd own now od (nI k) σ mm).2.2)) dd 0)), (6, .long (s_p10 mm)), (8, .int 0)]) [1, 2, 3, 4, 5, 6, 0] (by rw [← f_128]; rfl) ?_
            exact loop_24 (pw - 0) 0 (by omega) (Nat.le_refl _) _ _ _ _ _ _ 
          | succ q_14 ih_15 =>
            intro i_13 hb_16 lo_18  
            refine z_iload 6 dX1_chance_39 rfl ?_
            refine z_iload_n 2 dX1_chance_41 rfl ?_
            refine z_icmp_geN (a := i_13) (b := mm) 59 (by omega) (by omega) dX1_chance_42 (by decide) (fun c_129 => absurd c_129 (by omega)) (fun c_129 => ?_)
            refine z_lload 5 dX1_chance_45 rfl ?_
            refine z_ldc2 q1427 dX1_chance_47 ?_
            refine z_lmul dX1_chance_50 ?_
            refine z_lstore (lv' := [(6, .long (s_p10 i_13 * 10)), (0, .ref (A 99)), (1, .int (nI (dd))), (2, .int (nI (mm))), (3, .int od), (4, .long 0), (8, .int (nI (i_13)))]) dX1_chance_51 (by decide) rfl ?_
            refine z_iinc (v := nI (i_13 + 1)) (lv' := [(8, .int (nI (i_13 + 1))), (6, .long (s_p10 i_13 * 10)), (0, .ref (A 99)), (1, .int (nI (dd))), (2, .int (nI (mm))), (3, .int od), (4, .long 0)]) 6 dX1_chance_53 rfl (nI_1 _) (by decide) rfl ?_
            refine z_goto 39 dX1_chance_56 (by decide) ?_
            have f_130 : (s_p10 i_13 * 10) = s_p10 (i_13 + 1) := by rfl
            refine z_lv (lv' := [(0, .ref (A 99)), (1, .int (nI (dd))), (2, .int (nI (mm))), (3, .int od), (4, .long 0), (6, .long (s_p10 (i_13 + 1))), (8, .int (nI (i_13 + 1)))]) [2, 3, 4, 5, 6, 1, 0] (by rw [← f_130]; rfl) ?_
            exact ih_15 (i_13 + 1) (by omega) (by omega)  
        have f_131 : 1 = s_p10 0 := by rfl
        refine z_lv (lv' := [(0, .ref (A 99)), (1, .int (nI (dd))), (2, .int (nI (mm))), (3, .int od), (4, .long 0), (6, .long (s_p10 0)), (8, .int 0)]) [3, 4, 5, 6, 2, 1, 0] (by rw [← f_131]; rfl) ?_
        exact loop_17 (mm - 0) 0 (by omega) (Nat.le_refl _)  
      · -- decide (0 ≤ od) && decide (od ≤ 10) = false
        refine z_iconst (v := zm1) dX1_chance_28 (by decide) ?_
        exact z_iret dX1_chance_29 rfl (Nat.le_of_ble_eq_true rfl) (Nat.le_of_ble_eq_true rfl) ⟨congrArg some (congrArg Value.int (by rw [if_neg (by simp [c_4, c_8, c_12])])), o, F, τ, es, dt2, yr2, rfl⟩
