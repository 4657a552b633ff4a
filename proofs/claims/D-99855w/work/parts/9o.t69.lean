/-! THE COMPONENT: ages. Printed by t69.py -/
set_option maxRecDepth 100000
set_option maxHeartbeats 4000000 in
theorem c_ages {f : Nat → Nat} (hfe : f = s_lcg) {g : zG} {A : Nat → Nat} {K : Nat → Nat → Int32} {F : Nat → Int32} {O : Nat → Nat → Option Nat} {gl : Int64} {X : zX} (hA : cok g A X) {v : Nat} (hO : O 0 0 = some v) {vs : Nat → Int32} {nh nd : Nat} {own : Nat → Nat} {wv : Int32 → Int32 → Int32 → Int32 → Int32} (hV : s_ok vs nh nd own) (hv : cvl g X v vs nh nd wv) {σ ds τ es : Nat → Int32} {dt2 yr2 o : Int32} {now : Nat} (hnow : now < 2 ^ 28) (hiv : s_iv σ nd) (hwv : s_iw σ nh nd) (s m w : Int32) : zN g m_X1_ages ({ frames := 1002, cells := 0, slots := 0, locals := 40047 } : Room) [.ref (A 99), .int s, .int m, .int w] (cX g A (cput (cput (zs K 99 8 o) 300 σ ds (nI (now % 12)) (nI (now / 12))) 310 τ es dt2 yr2) F O gl X) (fun rv X' => rv = some (.int (if (((decide (0 ≤ s) && decide (s ≤ 9999)) && (decide (1 ≤ m) && decide (m ≤ 99))) && (decide (0 ≤ w) && decide (w ≤ 2))) = true then s_agesR σ nd (s_age f wv vs ds nh nd own now σ s.toNatClampNeg m.toNatClampNeg) w.toNatClampNeg else zm1)) ∧ ∃ (gl' : Int64) (o' : Int32) (F' τ' es' : Nat → Int32) (dt' yr' : Int32), X' = cX g A (cput (cput (zs K 99 8 o') 300 σ ds (nI (now % 12)) (nI (now / 12))) 310 τ' es' dt' yr') F' O gl' X) := by
  refine zN.of (by decide +kernel) (Nat.le_of_ble_eq_true rfl) rfl ?_
  refine z_lv (lv' := [(0, .ref (A 99)), (1, .int s), (2, .int m), (3, .int w)]) [0, 1, 2, 3] rfl ?_
  have hA2 := hA.2.2.1
  have hV9 := hV
  have hv9 := hv
  obtain ⟨h0, hnh, h1, hnd, hown⟩ := hV9
  obtain ⟨lh, lg, fh, fg, st9, fa, hxv, ⟨mh, eh, ch, hlh, heh, hch1, hch2⟩, ⟨mg, eg, cg, hlg, heg, hcg1, hcg2⟩, hhs, hgs, hst9, hfa⟩ := hv9
  have hfl : ∀ x, f x < 2147483648 := hfe ▸ s_lcg_lt
  refine z_iload_n 1 dX1_ages_0 rfl ?_
  refine z_iconst (v := 0) dX1_ages_1 (by decide) ?_
  refine z_sipush (v := 9999) dX1_ages_2 (by decide) ?_
  refine z_callS (As := [.int s, .int 0, .int 9999]) (c_inn s 0 9999) q1132 q1133 q112 q1134 nm_X1_in rfl (Nat.le_of_ble_eq_true rfl) ⟨Nat.le_of_ble_eq_true rfl, Nat.le_of_ble_eq_true rfl⟩ dX1_ages_5 rfl rfl (Nat.le_of_ble_eq_true rfl) (Nat.le_of_ble_eq_true rfl) (fun v_1 X_2 hp_3 => ?_)
  obtain ⟨rfl, rfl⟩ := hp_3
  refine z_st (st' := [.int (zb (decide (0 ≤ s) && decide (s ≤ 9999)))]) rfl ?_
  refine z_if_eqb 30 dX1_ages_8 (by decide) (fun c_4 => ?_) (fun c_4 => ?_)
  · -- decide (0 ≤ s) && decide (s ≤ 9999) = false
    refine z_iconst (v := zm1) dX1_ages_30 (by decide) ?_
    exact z_iret dX1_ages_31 rfl (Nat.le_of_ble_eq_true rfl) (Nat.le_of_ble_eq_true rfl) ⟨congrArg some (congrArg Value.int (by rw [if_neg (by simp [c_4])])), gl, o, F, τ, es, dt2, yr2, rfl⟩
  · -- decide (0 ≤ s) && decide (s ≤ 9999) = true
    refine z_iload_n 2 dX1_ages_11 rfl ?_
    refine z_iconst (v := 1) dX1_ages_12 (by decide) ?_
    refine z_bipush (v := 99) dX1_ages_13 (by decide) ?_
    refine z_callS (As := [.int m, .int 1, .int 99]) (c_inn m 1 99) q1132 q1133 q112 q1134 nm_X1_in rfl (Nat.le_of_ble_eq_true rfl) ⟨Nat.le_of_ble_eq_true rfl, Nat.le_of_ble_eq_true rfl⟩ dX1_ages_15 rfl rfl (Nat.le_of_ble_eq_true rfl) (Nat.le_of_ble_eq_true rfl) (fun v_5 X_6 hp_7 => ?_)
    obtain ⟨rfl, rfl⟩ := hp_7
    refine z_st (st' := [.int (zb (decide (1 ≤ m) && decide (m ≤ 99)))]) rfl ?_
    refine z_if_eqb 30 dX1_ages_18 (by decide) (fun c_8 => ?_) (fun c_8 => ?_)
    · -- decide (1 ≤ m) && decide (m ≤ 99) = false
      refine z_iconst (v := zm1) dX1_ages_30 (by decide) ?_
      exact z_iret dX1_ages_31 rfl (Nat.le_of_ble_eq_true rfl) (Nat.le_of_ble_eq_true rfl) ⟨congrArg some (congrArg Value.int (by rw [if_neg (by simp [c_4, c_8])])), gl, o, F, τ, es, dt2, yr2, rfl⟩
    · -- decide (1 ≤ m) && decide (m ≤ 99) = true
      refine z_iload_n 3 dX1_ages_21 rfl ?_
      refine z_iconst (v := 0) dX1_ages_22 (by decide) ?_
      refine z_iconst (v := 2) dX1_ages_23 (by decide) ?_
      refine z_callS (As := [.int w, .int 0, .int 2]) (c_inn w 0 2) q1132 q1133 q112 q1134 nm_X1_in rfl (Nat.le_of_ble_eq_true rfl) ⟨Nat.le_of_ble_eq_true rfl, Nat.le_of_ble_eq_true rfl⟩ dX1_ages_24 rfl rfl (Nat.le_of_ble_eq_true rfl) (Nat.le_of_ble_eq_true rfl) (fun v_9 X_10 hp_11 => ?_)
      obtain ⟨rfl, rfl⟩ := hp_11
      refine z_st (st' := [.int (zb (decide (0 ≤ w) && decide (w ≤ 2)))]) rfl ?_
      refine z_if_neb 32 dX1_ages_27 (by decide) (fun c_12 => ?_) (fun c_12 => ?_)
      · -- decide (0 ≤ w) && decide (w ≤ 2) = true
        obtain ⟨ss, -, hss, e_s⟩ := zwin 0 9999 (by decide) c_4
        obtain ⟨mm, hmm1, hmm, e_m⟩ := zwin 1 99 (by decide) c_8
        obtain ⟨ww, -, hww, e_w⟩ := zwin 0 2 (by decide) c_12
        refine z_lv (lv' := [(0, .ref (A 99)), (1, .int (nI (ss))), (2, .int (nI (mm))), (3, .int (nI (ww)))]) [0, 1, 2, 3] (by rw [e_s, e_m, e_w]; rfl) ?_
        refine z_aload_n 0 dX1_ages_32 rfl ?_
        refine z_iload_n 1 dX1_ages_33 rfl ?_
        refine z_i2l (v := (nI (ss)).toInt64) dX1_ages_34 rfl ?_
        refine z_st (st' := [.long (lN ss), .ref (A 99)]) (by rw [nI_l (by omega)]) ?_
        refine cz_putg hA q346 dX1_ages_35 ?_
        refine z_iconst (v := 0) dX1_ages_38 (by decide) ?_
        refine z_istore (lv' := [(4, .int 0), (0, .ref (A 99)), (1, .int (nI (ss))), (2, .int (nI (mm))), (3, .int (nI (ww)))]) dX1_ages_39 (by decide) rfl ?_
        refine z_aload_n 1 dX1_ages_41 rfl ?_
        refine cz_get (v := .ref (A 319)) 5 hA (by decide) q332 rfl dX1_ages_42 ?_
        refine z_aload_n 1 dX1_ages_45 rfl ?_
        refine cz_get (v := .ref (A 309)) 4 hA (by decide) q331 rfl dX1_ages_46 ?_
        refine z_callV (As := [.ref (A 309)]) (c_be (K := (zs K 99 8 o)) (F := F) (O := O) (gl := lN ss) hA (cst_1 hA) (cst_0 hA) (by omega) (σ := τ) (τ := σ) (ds := es) (es := ds)) q1202 q1203 q1204 q118 q1205 nm_X4_be (cX_st hA (cst_1 hA)) rfl rfl rfl (Nat.le_of_ble_eq_true rfl) ⟨Nat.le_of_ble_eq_true rfl, Nat.le_of_ble_eq_true rfl⟩ dX1_ages_49 rfl rfl (Nat.le_of_ble_eq_true rfl) (Nat.le_of_ble_eq_true rfl) (fun v_13 X_14 hp_15 => ?_)
        obtain ⟨rfl, rfl⟩ := hp_15
        refine z_st (st' := []) rfl ?_
        refine z_iconst (v := 0) dX1_ages_52 (by decide) ?_
        refine z_istore (lv' := [(5, .int 0), (4, .int 0), (0, .ref (A 99)), (1, .int (nI (ss))), (2, .int (nI (mm))), (3, .int (nI (ww)))]) dX1_ages_53 (by decide) rfl ?_
        have loop_20 : ∀ (q_17 i_16 : Nat), i_16 + q_17 = mm → 0 ≤ i_16 → ∀ (F_21 : Nat → Int32), ∀ (o_22 : Int32), zZ g m_X1_ages (fun rv X' => rv = some (.int (if (((decide (0 ≤ s) && decide (s ≤ 9999)) && (decide (1 ≤ m) && decide (m ≤ 99))) && (decide (0 ≤ w) && decide (w ≤ 2))) = true then s_agesR σ nd (s_age f wv vs ds nh nd own now σ s.toNatClampNeg m.toNatClampNeg) w.toNatClampNeg else zm1)) ∧ ∃ (gl' : Int64) (o' : Int32) (F' τ' es' : Nat → Int32) (dt' yr' : Int32), X' = cX g A (cput (cput (zs K 99 8 o') 300 σ ds (nI (now % 12)) (nI (now / 12))) 310 τ' es' dt' yr') F' O gl' X, zno, ({ frames := 1002, cells := 0, slots := 0, locals := 40047 } : Room)) 0 0 (cX g A (cput (cput (zs K 99 8 o_22) 300 σ ds (nI (now % 12)) (nI (now / 12))) 310 ((s_age f wv vs ds nh nd own now σ ss i_16).1) ds (nI ((now + i_16) % 12)) (nI ((now + i_16) / 12))) F_21 O (lN (s_age f wv vs ds nh nd own now σ ss i_16).2.1) X) 55 [(0, .ref (A 99)), (1, .int (nI (ss))), (2, .int (nI (mm))), (3, .int (nI (ww))), (4, .int ((s_age f wv vs ds nh nd own now σ ss i_16).2.2)), (5, .int (nI (i_16)))] [] := by
          intro q_17
          induction q_17 with
          | zero =>
            intro i_16 hb_19 lo_23 F_21 o_22 
            obtain rfl : mm = i_16 := by omega
            refine z_iload 5 dX1_ages_55 rfl ?_
            refine z_iload_n 2 dX1_ages_57 rfl ?_
            refine z_icmp_geN (a := mm) (b := mm) 98 (by omega) (by omega) dX1_ages_58 (by decide) (fun c_24 => ?_) (fun c_24 => absurd c_24 (by omega))
            refine z_iload_n 3 dX1_ages_98 rfl ?_
            refine z_if_neN 107 (by omega) dX1_ages_99 (by decide) (fun c_25 => ?_) (fun c_25 => ?_)
            · -- ww ≠ 0
              refine z_iload_n 3 dX1_ages_107 rfl ?_
              refine z_iconst (v := 1) dX1_ages_108 (by decide) ?_
              refine z_icmp_neN (a := ww) (b := 1) 130 (by omega) (by omega) dX1_ages_109 (by decide) (fun c_26 => ?_) (fun c_26 => ?_)
              · -- ww ≠ 1
                refine z_aload_n 0 dX1_ages_130 rfl ?_
                refine cz_get (v := .ref (A 319)) 5 hA (by decide) q332 rfl dX1_ages_131 ?_
                refine cz_getSN (s := 310) (v := .ref (A 311)) 1 hA (cst_1 hA) (by decide) q261 rfl dX1_ages_134 ?_
                refine z_callS (As := [.ref (A 311)]) (c_sum (K := (cput (cput (zs K 99 8 o_22) 300 σ ds (nI (now % 12)) (nI (now / 12))) 310 ((s_age f wv vs ds nh nd own now σ ss mm).1) ds (nI ((now + mm) % 12)) (nI ((now + mm) / 12)))) (F := F_21) (O := O) (gl := (lN (s_age f wv vs ds nh nd own now σ ss mm).2.1)) hA (i := 311) (n := 6) (by unfold cia; omega) rfl) q1445 q1446 q112 q1447 nm_X1_sum rfl (Nat.le_of_ble_eq_true rfl) ⟨Nat.le_of_ble_eq_true rfl, Nat.le_of_ble_eq_true rfl⟩ dX1_ages_137 rfl rfl (Nat.le_of_ble_eq_true rfl) (Nat.le_of_ble_eq_true rfl) (fun v_27 X_28 hp_29 => ?_)
                rw [s_sum_congr (h := fun k => ((s_age f wv vs ds nh nd own now σ ss mm).1) (k + 18)) 6 (fun k hk => (cput_says (by omega)))] at hp_29
                obtain ⟨rfl, rfl⟩ := hp_29
                refine z_st (st' := [.int (s_sum (fun k => ((s_age f wv vs ds nh nd own now σ ss mm).1) (k + 18)) 6)]) rfl ?_
                exact z_iret dX1_ages_140 rfl (Nat.le_of_ble_eq_true rfl) (Nat.le_of_ble_eq_true rfl) ⟨congrArg some (congrArg Value.int (by skip; rw [s_says_6 (s_i_age (f := f) (wv := wv) (ds := ds) (now := now) (a := ss) hV ⟨hiv, hwv⟩ mm).1.1 hnd]; rw [if_pos (show (((decide (0 ≤ s) && decide (s ≤ 9999)) && (decide (1 ≤ m) && decide (m ≤ 99))) && (decide (0 ≤ w) && decide (w ≤ 2))) = true by rw [c_4, c_8, c_12]; rfl), e_s, e_m, e_w, ncl (by omega), ncl (by omega), ncl (by omega)]; unfold s_agesR; simp [c_25, c_26])), (lN (s_age f wv vs ds nh nd own now σ ss mm).2.1), o_22, F_21, (s_age f wv vs ds nh nd own now σ ss mm).1, ds, (nI ((now + mm) % 12)), (nI ((now + mm) / 12)), rfl⟩
              · -- ww = 1
                refine z_aload_n 0 dX1_ages_112 rfl ?_
                refine cz_get (v := .ref (A 319)) 5 hA (by decide) q332 rfl dX1_ages_113 ?_
                refine cz_getSN (s := 310) (v := .int (((s_age f wv vs ds nh nd own now σ ss mm).1) 1)) 8 hA (cst_1 hA) (by decide) q277 (congrArg (fun z => some (Value.int z)) ((cput_f (q := 8)).trans (by show ((s_age f wv vs ds nh nd own now σ ss mm).1) 1 = _; rfl))) dX1_ages_116 ?_
                refine z_aload_n 0 dX1_ages_119 rfl ?_
                refine cz_get (v := .ref (A 309)) 4 hA (by decide) q331 rfl dX1_ages_120 ?_
                refine cz_getSN (s := 300) (v := .int (σ 1)) 8 hA (cst_0 hA) (by decide) q277 (congrArg (fun z => some (Value.int z)) ((((congrFun (cput_a (by omega)) _).trans (cput_f (q := 8)))).trans (by show σ 1 = _; rfl))) dX1_ages_123 ?_
                refine z_isub dX1_ages_126 ?_
                refine z_goto 140 dX1_ages_127 (by decide) ?_
                exact z_iret dX1_ages_140 rfl (Nat.le_of_ble_eq_true rfl) (Nat.le_of_ble_eq_true rfl) ⟨congrArg some (congrArg Value.int (by skip; rw [if_pos (show (((decide (0 ≤ s) && decide (s ≤ 9999)) && (decide (1 ≤ m) && decide (m ≤ 99))) && (decide (0 ≤ w) && decide (w ≤ 2))) = true by rw [c_4, c_8, c_12]; rfl), e_s, e_m, e_w, ncl (by omega), ncl (by omega), ncl (by omega)]; unfold s_agesR; simp [c_25, c_26])), (lN (s_age f wv vs ds nh nd own now σ ss mm).2.1), o_22, F_21, (s_age f wv vs ds nh nd own now σ ss mm).1, ds, (nI ((now + mm) % 12)), (nI ((now + mm) / 12)), rfl⟩
            · -- ww = 0
              refine z_iload 4 dX1_ages_102 rfl ?_
              refine z_goto 140 dX1_ages_104 (by decide) ?_
              exact z_iret dX1_ages_140 rfl (Nat.le_of_ble_eq_true rfl) (Nat.le_of_ble_eq_true rfl) ⟨congrArg some (congrArg Value.int (by skip; rw [if_pos (show (((decide (0 ≤ s) && decide (s ≤ 9999)) && (decide (1 ≤ m) && decide (m ≤ 99))) && (decide (0 ≤ w) && decide (w ≤ 2))) = true by rw [c_4, c_8, c_12]; rfl), e_s, e_m, e_w, ncl (by omega), ncl (by omega), ncl (by omega)]; unfold s_agesR; simp [c_25])), (lN (s_age f wv vs ds nh nd own now σ ss mm).2.1), o_22, F_21, (s_age f wv vs ds nh nd own now σ ss mm).1, ds, (nI ((now + mm) % 12)), (nI ((now + mm) / 12)), rfl⟩
          | succ q_17 ih_18 =>
            intro i_16 hb_19 lo_23 F_21 o_22 
            refine z_iload 5 dX1_ages_55 rfl ?_
            refine z_iload_n 2 dX1_ages_57 rfl ?_
            refine z_icmp_geN (a := i_16) (b := mm) 98 (by omega) (by omega) dX1_ages_58 (by decide) (fun c_30 => absurd c_30 (by omega)) (fun c_30 => ?_)
            refine z_aload_n 0 dX1_ages_61 rfl ?_
            refine z_callV (As := []) (c_guests (K := (cput (cput (zs K 99 8 o_22) 300 σ ds (nI (now % 12)) (nI (now / 12))) 310 ((s_age f wv vs ds nh nd own now σ ss i_16).1) ds (nI ((now + i_16) % 12)) (nI ((now + i_16) / 12)))) (F := F_21) (gl := (lN (s_age f wv vs ds nh nd own now σ ss i_16).2.1)) hA hO hxv hlh heh hch1 hch2 hlg heg hcg1 hcg2) q1139 q1141 qs30 q112 q1142 nm_X1_guests (cX_obj hA) rfl rfl rfl (Nat.le_of_ble_eq_true rfl) ⟨Nat.le_of_ble_eq_true rfl, Nat.le_of_ble_eq_true rfl⟩ dX1_ages_62 rfl rfl (Nat.le_of_ble_eq_true rfl) (Nat.le_of_ble_eq_true rfl) (fun v_31 X_32 hp_33 => ?_)
            obtain ⟨rfl, rfl⟩ := hp_33
            refine z_st (st' := [.int (nI (nd))]) rfl ?_
            refine z_if_leN 76 (by omega) dX1_ages_65 (by decide) (fun c_34 => ?_) (fun c_34 => ?_)
            · -- nd = 0
              refine z_iload 4 dX1_ages_76 rfl ?_
              refine z_aload_n 0 dX1_ages_78 rfl ?_
              refine z_aload_n 0 dX1_ages_79 rfl ?_
              refine cz_get (v := .ref (A 319)) 5 hA (by decide) q332 rfl dX1_ages_80 ?_
              refine z_callV (As := [.ref (A 319)]) (c_passT (K := K) (F := F_21) (gl := (lN (s_age f wv vs ds nh nd own now σ ss i_16).2.1)) (σ0 := σ) (ds0 := ds) (dt0 := (nI (now % 12))) (yr0 := (nI (now / 12))) (σ := (s_age f wv vs ds nh nd own now σ ss i_16).1) (ds := ds) hA hO hV hv (now := now + i_16) (by omega) (s_i_age (f := f) (wv := wv) (ds := ds) (now := now) (a := ss) hV ⟨hiv, hwv⟩ i_16).1) q1209 q1211 qs36 q112 q1212 nm_X1_passes (cX_obj hA) rfl rfl rfl (Nat.le_of_ble_eq_true rfl) ⟨Nat.le_of_ble_eq_true rfl, Nat.le_of_ble_eq_true rfl⟩ dX1_ages_83 rfl rfl (Nat.le_of_ble_eq_true rfl) (Nat.le_of_ble_eq_true rfl) (fun v_36 X_37 hp_38 => ?_)
              obtain ⟨rfl, F_35, rfl⟩ := hp_38
              refine z_st (st' := [.int ((s_pass wv vs ds nh nd own (now + i_16) ((s_age f wv vs ds nh nd own now σ ss i_16).1)).2.1), .int ((s_age f wv vs ds nh nd own now σ ss i_16).2.2)]) rfl ?_
              obtain ⟨m_39, hm_40, em_41⟩ : ∃ m, m < 64 ∧ (s_pass wv vs ds nh nd own (now + i_16) ((s_age f wv vs ds nh nd own now σ ss i_16).1)).2.1 = nI m := (s_came_64 hnd)
              refine z_eq em_41 ?_
              refine z_callS (As := [.int (nI (m_39))]) (t_bitCount m_39 (by omega)) q1242 q1243 q151 q1244 nm_J17_bitCount rfl (Nat.le_of_ble_eq_true rfl) ⟨Nat.le_of_ble_eq_true rfl, Nat.le_of_ble_eq_true rfl⟩ dX1_ages_86 rfl rfl (Nat.le_of_ble_eq_true rfl) (Nat.le_of_ble_eq_true rfl) (fun v_42 X_43 hp_44 => ?_)
              obtain ⟨rfl, rfl⟩ := hp_44
              refine z_st (st' := [.int (s_bits (nI (m_39)) 30), .int ((s_age f wv vs ds nh nd own now σ ss i_16).2.2)]) rfl ?_
              refine z_eq (y := s_bits ((s_pass wv vs ds nh nd own (now + i_16) ((s_age f wv vs ds nh nd own now σ ss i_16).1)).2.1) 30) (by rw [em_41]) ?_
              refine z_iadd dX1_ages_89 ?_
              obtain ⟨x_45, ex_45⟩ : ∃ y : Int32, (((s_age f wv vs ds nh nd own now σ ss i_16).2.2) + (s_bits ((s_pass wv vs ds nh nd own (now + i_16) ((s_age f wv vs ds nh nd own now σ ss i_16).1)).2.1) 30)) = y := ⟨_, rfl⟩
              refine z_eq ex_45 ?_
              refine z_istore (lv' := [(4, .int x_45), (0, .ref (A 99)), (1, .int (nI (ss))), (2, .int (nI (mm))), (3, .int (nI (ww))), (5, .int (nI (i_16)))]) dX1_ages_90 (by decide) rfl ?_
              have hag := s_age_z (f := f) (wv := wv) (vs := vs) (ds := ds) (nh := nh) (own := own) (now := now) (σ := σ) (a := ss) (n := i_16) (show nd = 0 by omega)
              refine z_iinc (v := nI (i_16 + 1)) (lv' := [(5, .int (nI (i_16 + 1))), (4, .int x_45), (0, .ref (A 99)), (1, .int (nI (ss))), (2, .int (nI (mm))), (3, .int (nI (ww)))]) 5 dX1_ages_92 rfl (nI_1 _) (by decide) rfl ?_
              refine z_goto 55 dX1_ages_95 (by decide) ?_
              have f_46 : x_45 = (s_age f wv vs ds nh nd own now σ ss (i_16 + 1)).2.2 := by (try subst ex_45); rw [hag] <;> rfl
              subst f_46
              refine z_lv (lv' := [(0, .ref (A 99)), (1, .int (nI (ss))), (2, .int (nI (mm))), (3, .int (nI (ww))), (4, .int ((s_age f wv vs ds nh nd own now σ ss (i_16 + 1)).2.2)), (5, .int (nI (i_16 + 1)))]) [2, 3, 4, 5, 1, 0] rfl ?_
              refine z_X (X' := (cX g A (cput (cput (zs K 99 8 ((s_pass wv vs ds nh nd own (now + i_16) ((s_age f wv vs ds nh nd own now σ ss i_16).1)).2.2)) 300 σ ds (nI (now % 12)) (nI (now / 12))) 310 ((s_age f wv vs ds nh nd own now σ ss (i_16 + 1)).1) ds (nI ((now + (i_16 + 1)) % 12)) (nI ((now + (i_16 + 1)) / 12))) F_35 O (lN (s_age f wv vs ds nh nd own now σ ss (i_16 + 1)).2.1) X)) (by (try subst ex_45); rw [hag] <;> rfl) ?_
              exact ih_18 (i_16 + 1) (by omega) (by omega) _ _ 
            · -- 0 < nd
              refine z_aload_n 0 dX1_ages_68 rfl ?_
              refine z_aload_n 0 dX1_ages_69 rfl ?_
              refine cz_get (v := .ref (A 319)) 5 hA (by decide) q332 rfl dX1_ages_70 ?_
              refine z_callV (As := [.ref (A 319)]) (c_befalls (K := K) (F := F_21) (σ := σ) (ds := ds) (τ := (s_age f wv vs ds nh nd own now σ ss i_16).1) (es := ds) (dt2 := (nI ((now + i_16) % 12))) (yr2 := (nI ((now + i_16) / 12))) (o := o_22) hfe hA hO hV hv hnow hiv (a := (s_age f wv vs ds nh nd own now σ ss i_16).2.1) (s_age_lt hfl (by omega) i_16) (by omega) (s_i_age (f := f) (wv := wv) (ds := ds) (now := now) (a := ss) hV ⟨hiv, hwv⟩ i_16).1 (s_i_age (f := f) (wv := wv) (ds := ds) (now := now) (a := ss) hV ⟨hiv, hwv⟩ i_16).2) q1433 q1435 qs46 q112 q1436 nm_X1_befalls (cX_obj hA) rfl rfl rfl (Nat.le_of_ble_eq_true rfl) ⟨Nat.le_of_ble_eq_true rfl, Nat.le_of_ble_eq_true rfl⟩ dX1_ages_73 rfl rfl (Nat.le_of_ble_eq_true rfl) (Nat.le_of_ble_eq_true rfl) (fun v_47 X_48 hp_49 => ?_)
              obtain ⟨rfl, rfl⟩ := hp_49
              refine z_st (st' := []) rfl ?_
              refine z_iload 4 dX1_ages_76 rfl ?_
              refine z_aload_n 0 dX1_ages_78 rfl ?_
              refine z_aload_n 0 dX1_ages_79 rfl ?_
              refine cz_get (v := .ref (A 319)) 5 hA (by decide) q332 rfl dX1_ages_80 ?_
              refine z_callV (As := [.ref (A 319)]) (c_passT (K := K) (F := F_21) (gl := (lN (s_deed f vs nh nd (s_age f wv vs ds nh nd own now σ ss i_16).1 (s_age f wv vs ds nh nd own now σ ss i_16).2.1).2)) (σ0 := σ) (ds0 := ds) (dt0 := (nI (now % 12))) (yr0 := (nI (now / 12))) (σ := (s_deed f vs nh nd (s_age f wv vs ds nh nd own now σ ss i_16).1 (s_age f wv vs ds nh nd own now σ ss i_16).2.1).1) (ds := ds) hA hO hV hv (now := now + i_16) (by omega) (s_i_deed (f := f) (a := (s_age f wv vs ds nh nd own now σ ss i_16).2.1) hV (by omega) (s_i_age (f := f) (wv := wv) (ds := ds) (now := now) (a := ss) hV ⟨hiv, hwv⟩ i_16)).1) q1209 q1211 qs36 q112 q1212 nm_X1_passes (cX_obj hA) rfl rfl rfl (Nat.le_of_ble_eq_true rfl) ⟨Nat.le_of_ble_eq_true rfl, Nat.le_of_ble_eq_true rfl⟩ dX1_ages_83 rfl rfl (Nat.le_of_ble_eq_true rfl) (Nat.le_of_ble_eq_true rfl) (fun v_51 X_52 hp_53 => ?_)
              obtain ⟨rfl, F_50, rfl⟩ := hp_53
              refine z_st (st' := [.int ((s_pass wv vs ds nh nd own (now + i_16) ((s_deed f vs nh nd (s_age f wv vs ds nh nd own now σ ss i_16).1 (s_age f wv vs ds nh nd own now σ ss i_16).2.1).1)).2.1), .int ((s_age f wv vs ds nh nd own now σ ss i_16).2.2)]) rfl ?_
              obtain ⟨m_54, hm_55, em_56⟩ : ∃ m, m < 64 ∧ (s_pass wv vs ds nh nd own (now + i_16) ((s_deed f vs nh nd (s_age f wv vs ds nh nd own now σ ss i_16).1 (s_age f wv vs ds nh nd own now σ ss i_16).2.1).1)).2.1 = nI m := (s_came_64 hnd)
              refine z_eq em_56 ?_
              refine z_callS (As := [.int (nI (m_54))]) (t_bitCount m_54 (by omega)) q1242 q1243 q151 q1244 nm_J17_bitCount rfl (Nat.le_of_ble_eq_true rfl) ⟨Nat.le_of_ble_eq_true rfl, Nat.le_of_ble_eq_true rfl⟩ dX1_ages_86 rfl rfl (Nat.le_of_ble_eq_true rfl) (Nat.le_of_ble_eq_true rfl) (fun v_57 X_58 hp_59 => ?_)
              obtain ⟨rfl, rfl⟩ := hp_59
              refine z_st (st' := [.int (s_bits (nI (m_54)) 30), .int ((s_age f wv vs ds nh nd own now σ ss i_16).2.2)]) rfl ?_
              refine z_eq (y := s_bits ((s_pass wv vs ds nh nd own (now + i_16) ((s_deed f vs nh nd (s_age f wv vs ds nh nd own now σ ss i_16).1 (s_age f wv vs ds nh nd own now σ ss i_16).2.1).1)).2.1) 30) (by rw [em_56]) ?_
              refine z_iadd dX1_ages_89 ?_
              obtain ⟨x_60, ex_60⟩ : ∃ y : Int32, (((s_age f wv vs ds nh nd own now σ ss i_16).2.2) + (s_bits ((s_pass wv vs ds nh nd own (now + i_16) ((s_deed f vs nh nd (s_age f wv vs ds nh nd own now σ ss i_16).1 (s_age f wv vs ds nh nd own now σ ss i_16).2.1).1)).2.1) 30)) = y := ⟨_, rfl⟩
              refine z_eq ex_60 ?_
              refine z_istore (lv' := [(4, .int x_60), (0, .ref (A 99)), (1, .int (nI (ss))), (2, .int (nI (mm))), (3, .int (nI (ww))), (5, .int (nI (i_16)))]) dX1_ages_90 (by decide) rfl ?_
              have hag := s_age_p (f := f) (wv := wv) (vs := vs) (ds := ds) (nh := nh) (own := own) (now := now) (σ := σ) (a := ss) (n := i_16) (show 0 < nd by omega)
              refine z_iinc (v := nI (i_16 + 1)) (lv' := [(5, .int (nI (i_16 + 1))), (4, .int x_60), (0, .ref (A 99)), (1, .int (nI (ss))), (2, .int (nI (mm))), (3, .int (nI (ww)))]) 5 dX1_ages_92 rfl (nI_1 _) (by decide) rfl ?_
              refine z_goto 55 dX1_ages_95 (by decide) ?_
              have f_61 : x_60 = (s_age f wv vs ds nh nd own now σ ss (i_16 + 1)).2.2 := by (try subst ex_60); rw [hag] <;> rfl
              subst f_61
              refine z_lv (lv' := [(0, .ref (A 99)), (1, .int (nI (ss))), (2, .int (nI (mm))), (3, .int (nI (ww))), (4, .int ((s_age f wv vs ds nh nd own now σ ss (i_16 + 1)).2.2)), (5, .int (nI (i_16 + 1)))]) [2, 3, 4, 5, 1, 0] rfl ?_
              refine z_X (X' := (cX g A (cput (cput (zs K 99 8 ((s_pass wv vs ds nh nd own (now + i_16) ((s_deed f vs nh nd (s_age f wv vs ds nh nd own now σ ss i_16).1 (s_age f wv vs ds nh nd own now σ ss i_16).2.1).1)).2.2)) 300 σ ds (nI (now % 12)) (nI (now / 12))) 310 ((s_age f wv vs ds nh nd own now σ ss (i_16 + 1)).1) ds (nI ((now + (i_16 + 1)) % 12)) (nI ((now + (i_16 + 1)) / 12))) F_50 O (lN (s_age f wv vs ds nh nd own now σ ss (i_16 + 1)).2.1) X)) (by (try subst ex_60); rw [hag] <;> rfl) ?_
              exact ih_18 (i_16 + 1) (by omega) (by omega) _ _ 
        have f_62 : 0 = (s_age f wv vs ds nh nd own now σ ss 0).2.2 := by rfl
        refine z_lv (lv' := [(0, .ref (A 99)), (1, .int (nI (ss))), (2, .int (nI (mm))), (3, .int (nI (ww))), (4, .int ((s_age f wv vs ds nh nd own now σ ss 0).2.2)), (5, .int 0)]) [2, 3, 4, 5, 1, 0] (by rw [← f_62]; rfl) ?_
        refine z_X (X' := (cX g A (cput (cput (zs K 99 8 o) 300 σ ds (nI (now % 12)) (nI (now / 12))) 310 ((s_age f wv vs ds nh nd own now σ ss 0).1) ds (nI (now % 12)) (nI (now / 12))) F O (lN (s_age f wv vs ds nh nd own now σ ss 0).2.1) X)) (by rfl) ?_
        exact loop_20 (mm - 0) 0 (by omega) (Nat.le_refl _) _ _ 
      · -- decide (0 ≤ w) && decide (w ≤ 2) = false
        refine z_iconst (v := zm1) dX1_ages_30 (by decide) ?_
        exact z_iret dX1_ages_31 rfl (Nat.le_of_ble_eq_true rfl) (Nat.le_of_ble_eq_true rfl) ⟨congrArg some (congrArg Value.int (by rw [if_neg (by simp [c_4, c_8, c_12])])), gl, o, F, τ, es, dt2, yr2, rfl⟩
