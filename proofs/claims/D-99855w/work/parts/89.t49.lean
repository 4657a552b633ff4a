/-! THE COMPONENT: dates to come. Printed by t49.py -/
set_option maxRecDepth 100000
set_option maxHeartbeats 4000000 in
theorem c_calm {g : zG} {A : Nat → Nat} {K : Nat → Nat → Int32} {F : Nat → Int32} {O : Nat → Nat → Option Nat} {gl : Int64} {X : zX} (hA : cok g A X) {v : Nat} (hO : O 0 0 = some v) {vs : Nat → Int32} {nh nd : Nat} {own : Nat → Nat} {wv : Int32 → Int32 → Int32 → Int32 → Int32} (hV : s_ok vs nh nd own) (hv : cvl g X v vs nh nd wv) {σ0 ds0 σ ds : Nat → Int32} {dt0 yr0 o : Int32} {now : Nat} (hnow : now < 2 ^ 28) (hiv : s_iv σ nd) (m : Nat) (hm : m < 1000) : zN g m_X1_isNoneRefused ({ frames := 1003, cells := 0, slots := 0, locals := 40069 } : Room) [.ref (A 99), .int (nI (m))] (cX g A (cput (cput (zs K 99 8 o) 300 σ0 ds0 dt0 yr0) 310 σ ds (nI (now % 12)) (nI (now / 12))) F O gl X) (fun rv X' => rv = some (.int (zb (decide ((s_go wv vs ds nh nd own now σ m).1 1 = σ 1)))) ∧ ∃ (o' : Int32) (F' : Nat → Int32), X' = cX g A (cput (cput (zs K 99 8 o') 300 σ0 ds0 dt0 yr0) 310 (s_go wv vs ds nh nd own now σ m).1 ds (nI ((now + m) % 12)) (nI ((now + m) / 12))) F' O gl X) := by
  refine zN.of (by decide +kernel) (Nat.le_of_ble_eq_true rfl) rfl ?_
  refine z_lv (lv' := [(0, .ref (A 99)), (1, .int (nI (m)))]) [0, 1] rfl ?_
  have hA2 := hA.2.2.1
  have hV9 := hV
  have hv9 := hv
  obtain ⟨h0, hnh, h1, hnd, hown⟩ := hV9
  obtain ⟨lh, lg, fh, fg, st9, fa, hxv, ⟨mh, eh, ch, hlh, heh, hch1, hch2⟩, ⟨mg, eg, cg, hlg, heg, hcg1, hcg2⟩, hhs, hgs, hst9, hfa⟩ := hv9
  refine z_aload_n 0 dX1_isNoneRefused_0 rfl ?_
  refine cz_get (v := .ref (A 319)) 5 hA (by decide) q332 rfl dX1_isNoneRefused_1 ?_
  refine cz_getSN (s := 310) (v := .int (σ 1)) 8 hA (cst_1 hA) (by decide) q277 (congrArg (fun z => some (Value.int z)) ((cput_f (q := 8)).trans (by show σ 1 = _; rfl))) dX1_isNoneRefused_4 ?_
  refine z_istore_n (lv' := [(2, .int (σ 1)), (0, .ref (A 99)), (1, .int (nI (m)))]) dX1_isNoneRefused_7 rfl (by decide) rfl ?_
  refine z_aload_n 1 dX1_isNoneRefused_8 rfl ?_
  refine z_iload_n 2 dX1_isNoneRefused_9 rfl ?_
  refine z_callV (As := [.int (nI (m))]) (c_goesOn (K := K) (F := F) (gl := gl) (σ0 := σ0) (ds0 := ds0) (dt0 := dt0) (yr0 := yr0) (σ := σ) (ds := ds) hA hO hV hv (now := now) (by omega) hiv m (by omega)) q1317 q1319 qs40 q112 q1320 nm_X1_goesOn (cX_obj hA) rfl rfl rfl (Nat.le_of_ble_eq_true rfl) ⟨Nat.le_of_ble_eq_true rfl, Nat.le_of_ble_eq_true rfl⟩ dX1_isNoneRefused_10 rfl rfl (Nat.le_of_ble_eq_true rfl) (Nat.le_of_ble_eq_true rfl) (fun v_3 X_4 hp_5 => ?_)
  obtain ⟨rfl, o_1, F_2, rfl⟩ := hp_5
  refine z_st (st' := []) rfl ?_
  refine z_aload_n 1 dX1_isNoneRefused_13 rfl ?_
  refine cz_get (v := .ref (A 319)) 5 hA (by decide) q332 rfl dX1_isNoneRefused_14 ?_
  refine cz_getSN (s := 310) (v := .int (((s_go wv vs ds nh nd own now σ m).1) 1)) 8 hA (cst_1 hA) (by decide) q277 (congrArg (fun z => some (Value.int z)) ((cput_f (q := 8)).trans (by show ((s_go wv vs ds nh nd own now σ m).1) 1 = _; rfl))) dX1_isNoneRefused_17 ?_
  refine z_iload_n 0 dX1_isNoneRefused_20 rfl ?_
  refine z_icmp_ne 28 dX1_isNoneRefused_21 (by decide) (fun c_6 => ?_) (fun c_6 => ?_)
  · -- ¬ ((s_go wv vs ds nh nd own now σ m).1) 1 = σ 1
    refine z_iconst (v := 0) dX1_isNoneRefused_28 (by decide) ?_
    exact z_zret dX1_isNoneRefused_29 rfl (by first | rfl | decide | exact zb_nar _) (Nat.le_of_ble_eq_true rfl) (Nat.le_of_ble_eq_true rfl) ⟨congrArg some (congrArg Value.int (by simp [zb, c_6])), o_1, F_2, rfl⟩
  · -- ((s_go wv vs ds nh nd own now σ m).1) 1 = σ 1
    refine z_iconst (v := 1) dX1_isNoneRefused_24 (by decide) ?_
    refine z_goto 29 dX1_isNoneRefused_25 (by decide) ?_
    exact z_zret dX1_isNoneRefused_29 rfl (by first | rfl | decide | exact zb_nar _) (Nat.le_of_ble_eq_true rfl) (Nat.le_of_ble_eq_true rfl) ⟨congrArg some (congrArg Value.int (by simp [zb, c_6])), o_1, F_2, rfl⟩
set_option maxHeartbeats 4000000 in
theorem c_where {g : zG} {A : Nat → Nat} {K : Nat → Nat → Int32} {F : Nat → Int32} {O : Nat → Nat → Option Nat} {gl : Int64} {X : zX} (hA : cok g A X) {v : Nat} (hO : O 0 0 = some v) {vs : Nat → Int32} {nh nd : Nat} {own : Nat → Nat} {wv : Int32 → Int32 → Int32 → Int32 → Int32} (hV : s_ok vs nh nd own) (hv : cvl g X v vs nh nd wv) {σ ds τ es : Nat → Int32} {dt2 yr2 o : Int32} {now : Nat} (hnow : now < 2 ^ 28) (hiv : s_iv σ nd) (d m : Int32) : zN g m_X1_where ({ frames := 1003, cells := 0, slots := 0, locals := 40069 } : Room) [.ref (A 99), .int d, .int m] (cX g A (cput (cput (zs K 99 8 o) 300 σ ds (nI (now % 12)) (nI (now / 12))) 310 τ es dt2 yr2) F O gl X) (fun rv X' => rv = some (.int (if ((decide (0 ≤ d) && decide (d < nI nd)) && (decide (0 ≤ m) && decide (m ≤ 60))) = true then (s_go wv vs ds nh nd own now σ m.toNatClampNeg).1 (d.toNatClampNeg + 6) else zm2)) ∧ ∃ (o' : Int32) (F' τ' es' : Nat → Int32) (dt' yr' : Int32), X' = cX g A (cput (cput (zs K 99 8 o') 300 σ ds (nI (now % 12)) (nI (now / 12))) 310 τ' es' dt' yr') F' O gl X) := by
  refine zN.of (by decide +kernel) (Nat.le_of_ble_eq_true rfl) rfl ?_
  refine z_lv (lv' := [(0, .ref (A 99)), (1, .int d), (2, .int m)]) [0, 1, 2] rfl ?_
  have hA2 := hA.2.2.1
  have hV9 := hV
  have hv9 := hv
  obtain ⟨h0, hnh, h1, hnd, hown⟩ := hV9
  obtain ⟨lh, lg, fh, fg, st9, fa, hxv, ⟨mh, eh, ch, hlh, heh, hch1, hch2⟩, ⟨mg, eg, cg, hlg, heg, hcg1, hcg2⟩, hhs, hgs, hst9, hfa⟩ := hv9
  refine z_aload_n 0 dX1_where_0 rfl ?_
  refine z_iload_n 1 dX1_where_1 rfl ?_
  refine z_callV (As := [.int d]) (c_isGuest (K := (cput (cput (zs K 99 8 o) 300 σ ds (nI (now % 12)) (nI (now / 12))) 310 τ es dt2 yr2)) (F := F) (gl := gl) hA hO hxv hlh heh hch1 hch2 hlg heg hcg1 hcg2 (by omega) d) q1176 q1178 qs34 q112 q1179 nm_X1_isGuest (cX_obj hA) rfl rfl rfl (Nat.le_of_ble_eq_true rfl) ⟨Nat.le_of_ble_eq_true rfl, Nat.le_of_ble_eq_true rfl⟩ dX1_where_2 rfl rfl (Nat.le_of_ble_eq_true rfl) (Nat.le_of_ble_eq_true rfl) (fun v_1 X_2 hp_3 => ?_)
  obtain ⟨rfl, rfl⟩ := hp_3
  refine z_st (st' := [.int (zb (decide (0 ≤ d) && decide (d < nI nd)))]) rfl ?_
  refine z_if_eqb 18 dX1_where_5 (by decide) (fun c_4 => ?_) (fun c_4 => ?_)
  · -- decide (0 ≤ d) && decide (d < nI nd) = false
    refine z_bipush (v := zm2) dX1_where_18 (by decide) ?_
    exact z_iret dX1_where_20 rfl (Nat.le_of_ble_eq_true rfl) (Nat.le_of_ble_eq_true rfl) ⟨congrArg some (congrArg Value.int (by simp [c_4]; try rfl)), o, F, τ, es, dt2, yr2, rfl⟩
  · -- decide (0 ≤ d) && decide (d < nI nd) = true
    refine z_iload_n 2 dX1_where_8 rfl ?_
    refine z_iconst (v := 0) dX1_where_9 (by decide) ?_
    refine z_bipush (v := 60) dX1_where_10 (by decide) ?_
    refine z_callS (As := [.int m, .int 0, .int 60]) (c_inn m 0 60) q1132 q1133 q112 q1134 nm_X1_in rfl (Nat.le_of_ble_eq_true rfl) ⟨Nat.le_of_ble_eq_true rfl, Nat.le_of_ble_eq_true rfl⟩ dX1_where_12 rfl rfl (Nat.le_of_ble_eq_true rfl) (Nat.le_of_ble_eq_true rfl) (fun v_5 X_6 hp_7 => ?_)
    obtain ⟨rfl, rfl⟩ := hp_7
    refine z_st (st' := [.int (zb (decide (0 ≤ m) && decide (m ≤ 60)))]) rfl ?_
    refine z_if_neb 21 dX1_where_15 (by decide) (fun c_8 => ?_) (fun c_8 => ?_)
    · -- decide (0 ≤ m) && decide (m ≤ 60) = true
      obtain ⟨dd, hdd, e_d⟩ := zday (by omega) c_4
      obtain ⟨mm, -, hmm, e_m⟩ := zwin 0 60 (by decide) c_8
      refine z_lv (lv' := [(0, .ref (A 99)), (1, .int (nI (dd))), (2, .int (nI (mm)))]) [0, 1, 2] (by rw [e_d, e_m]; rfl) ?_
      refine z_aload_n 0 dX1_where_21 rfl ?_
      refine cz_get (v := .ref (A 319)) 5 hA (by decide) q332 rfl dX1_where_22 ?_
      refine z_aload_n 0 dX1_where_25 rfl ?_
      refine cz_get (v := .ref (A 309)) 4 hA (by decide) q331 rfl dX1_where_26 ?_
      refine z_callV (As := [.ref (A 309)]) (c_be (K := (zs K 99 8 o)) (F := F) (O := O) (gl := gl) hA (cst_1 hA) (cst_0 hA) (by omega) (σ := τ) (τ := σ) (ds := es) (es := ds)) q1202 q1203 q1204 q118 q1205 nm_X4_be (cX_st hA (cst_1 hA)) rfl rfl rfl (Nat.le_of_ble_eq_true rfl) ⟨Nat.le_of_ble_eq_true rfl, Nat.le_of_ble_eq_true rfl⟩ dX1_where_29 rfl rfl (Nat.le_of_ble_eq_true rfl) (Nat.le_of_ble_eq_true rfl) (fun v_9 X_10 hp_11 => ?_)
      obtain ⟨rfl, rfl⟩ := hp_11
      refine z_st (st' := []) rfl ?_
      refine z_aload_n 0 dX1_where_32 rfl ?_
      refine z_iload_n 2 dX1_where_33 rfl ?_
      refine z_callV (As := [.int (nI (mm))]) (c_goesOn (K := K) (F := F) (gl := gl) (σ0 := σ) (ds0 := ds) (dt0 := (nI (now % 12))) (yr0 := (nI (now / 12))) (σ := σ) (ds := ds) hA hO hV hv (now := now) (by omega) hiv mm (by omega)) q1317 q1319 qs40 q112 q1320 nm_X1_goesOn (cX_obj hA) rfl rfl rfl (Nat.le_of_ble_eq_true rfl) ⟨Nat.le_of_ble_eq_true rfl, Nat.le_of_ble_eq_true rfl⟩ dX1_where_34 rfl rfl (Nat.le_of_ble_eq_true rfl) (Nat.le_of_ble_eq_true rfl) (fun v_14 X_15 hp_16 => ?_)
      obtain ⟨rfl, o_12, F_13, rfl⟩ := hp_16
      refine z_st (st' := []) rfl ?_
      refine z_aload_n 0 dX1_where_37 rfl ?_
      refine cz_get (v := .ref (A 319)) 5 hA (by decide) q332 rfl dX1_where_38 ?_
      refine cz_getSN (s := 310) (v := .ref (A 312)) 2 hA (cst_1 hA) (by decide) q265 rfl dX1_where_41 ?_
      refine z_iload_n 1 dX1_where_44 rfl ?_
      refine cz_iald (v := ((s_go wv vs ds nh nd own now σ mm).1) (dd + 6)) 312 dd hA (by unfold cia; omega) rfl (by have h9 : csz 312 = 6 := rfl; omega) (cput_where (by omega)) dX1_where_45 ?_
      exact z_iret dX1_where_46 rfl (Nat.le_of_ble_eq_true rfl) (Nat.le_of_ble_eq_true rfl) ⟨congrArg some (congrArg Value.int (by have ca := c_4; have cb := c_8; rw [ca, cb, e_d, e_m, ncl (by omega), ncl (by omega)]; rfl)), o_12, F_13, (s_go wv vs ds nh nd own now σ mm).1, ds, (nI ((now + mm) % 12)), (nI ((now + mm) / 12)), rfl⟩
    · -- decide (0 ≤ m) && decide (m ≤ 60) = false
      refine z_bipush (v := zm2) dX1_where_18 (by decide) ?_
      exact z_iret dX1_where_20 rfl (Nat.le_of_ble_eq_true rfl) (Nat.le_of_ble_eq_true rfl) ⟨congrArg some (congrArg Value.int (by simp [c_4, c_8]; try rfl)), o, F, τ, es, dt2, yr2, rfl⟩
set_option maxHeartbeats 4000000 in
theorem c_next {g : zG} {A : Nat → Nat} {K : Nat → Nat → Int32} {F : Nat → Int32} {O : Nat → Nat → Option Nat} {gl : Int64} {X : zX} (hA : cok g A X) {v : Nat} (hO : O 0 0 = some v) {vs : Nat → Int32} {nh nd : Nat} {own : Nat → Nat} {wv : Int32 → Int32 → Int32 → Int32 → Int32} (hV : s_ok vs nh nd own) (hv : cvl g X v vs nh nd wv) {σ ds τ es : Nat → Int32} {dt2 yr2 o : Int32} {now : Nat} (hnow : now < 2 ^ 28) (hiv : s_iv σ nd) (d : Int32) : zN g m_X1_next ({ frames := 1002, cells := 0, slots := 0, locals := 40047 } : Room) [.ref (A 99), .int d] (cX g A (cput (cput (zs K 99 8 o) 300 σ ds (nI (now % 12)) (nI (now / 12))) 310 τ es dt2 yr2) F O gl X) (fun rv X' => rv = some (.int (if (decide (0 ≤ d) && decide (d < nI nd)) = true then s_fst (s_hitP (s_go wv vs ds nh nd own now σ) d.toNatClampNeg) nI 60 1 else zm1)) ∧ ∃ (o' : Int32) (F' τ' es' : Nat → Int32) (dt' yr' : Int32), X' = cX g A (cput (cput (zs K 99 8 o') 300 σ ds (nI (now % 12)) (nI (now / 12))) 310 τ' es' dt' yr') F' O gl X) := by
  refine zN.of (by decide +kernel) (Nat.le_of_ble_eq_true rfl) rfl ?_
  refine z_lv (lv' := [(0, .ref (A 99)), (1, .int d)]) [0, 1] rfl ?_
  have hA2 := hA.2.2.1
  have hV9 := hV
  have hv9 := hv
  obtain ⟨h0, hnh, h1, hnd, hown⟩ := hV9
  obtain ⟨lh, lg, fh, fg, st9, fa, hxv, ⟨mh, eh, ch, hlh, heh, hch1, hch2⟩, ⟨mg, eg, cg, hlg, heg, hcg1, hcg2⟩, hhs, hgs, hst9, hfa⟩ := hv9
  refine z_aload_n 0 dX1_next_0 rfl ?_
  refine z_iload_n 1 dX1_next_1 rfl ?_
  refine z_callV (As := [.int d]) (c_isGuest (K := (cput (cput (zs K 99 8 o) 300 σ ds (nI (now % 12)) (nI (now / 12))) 310 τ es dt2 yr2)) (F := F) (gl := gl) hA hO hxv hlh heh hch1 hch2 hlg heg hcg1 hcg2 (by omega) d) q1176 q1178 qs34 q112 q1179 nm_X1_isGuest (cX_obj hA) rfl rfl rfl (Nat.le_of_ble_eq_true rfl) ⟨Nat.le_of_ble_eq_true rfl, Nat.le_of_ble_eq_true rfl⟩ dX1_next_2 rfl rfl (Nat.le_of_ble_eq_true rfl) (Nat.le_of_ble_eq_true rfl) (fun v_1 X_2 hp_3 => ?_)
  obtain ⟨rfl, rfl⟩ := hp_3
  refine z_st (st' := [.int (zb (decide (0 ≤ d) && decide (d < nI nd)))]) rfl ?_
  refine z_if_neb 10 dX1_next_5 (by decide) (fun c_4 => ?_) (fun c_4 => ?_)
  · -- decide (0 ≤ d) && decide (d < nI nd) = true
    obtain ⟨dd, hdd, e_d⟩ := zday (by omega) c_4
    refine z_lv (lv' := [(0, .ref (A 99)), (1, .int (nI (dd)))]) [0, 1] (by rw [e_d]; rfl) ?_
    refine z_aload_n 0 dX1_next_10 rfl ?_
    refine cz_get (v := .ref (A 319)) 5 hA (by decide) q332 rfl dX1_next_11 ?_
    refine z_aload_n 0 dX1_next_14 rfl ?_
    refine cz_get (v := .ref (A 309)) 4 hA (by decide) q331 rfl dX1_next_15 ?_
    refine z_callV (As := [.ref (A 309)]) (c_be (K := (zs K 99 8 o)) (F := F) (O := O) (gl := gl) hA (cst_1 hA) (cst_0 hA) (by omega) (σ := τ) (τ := σ) (ds := es) (es := ds)) q1202 q1203 q1204 q118 q1205 nm_X4_be (cX_st hA (cst_1 hA)) rfl rfl rfl (Nat.le_of_ble_eq_true rfl) ⟨Nat.le_of_ble_eq_true rfl, Nat.le_of_ble_eq_true rfl⟩ dX1_next_18 rfl rfl (Nat.le_of_ble_eq_true rfl) (Nat.le_of_ble_eq_true rfl) (fun v_5 X_6 hp_7 => ?_)
    obtain ⟨rfl, rfl⟩ := hp_7
    refine z_st (st' := []) rfl ?_
    refine z_iconst (v := 1) dX1_next_21 (by decide) ?_
    refine z_istore_n (lv' := [(2, .int 1), (0, .ref (A 99)), (1, .int (nI (dd)))]) dX1_next_22 rfl (by decide) rfl ?_
    have loop_12 : ∀ (q_9 i_8 : Nat), i_8 + q_9 = 60 → 0 ≤ i_8 → ∀ (F_13 : Nat → Int32), ∀ (o_14 : Int32), s_fst (s_hitP (s_go wv vs ds nh nd own now σ) dd) (nI) 60 1 = s_fst (s_hitP (s_go wv vs ds nh nd own now σ) dd) (nI) q_9 (i_8 + 1) → zZ g m_X1_next (fun rv X' => rv = some (.int (if (decide (0 ≤ d) && decide (d < nI nd)) = true then s_fst (s_hitP (s_go wv vs ds nh nd own now σ) d.toNatClampNeg) nI 60 1 else zm1)) ∧ ∃ (o' : Int32) (F' τ' es' : Nat → Int32) (dt' yr' : Int32), X' = cX g A (cput (cput (zs K 99 8 o') 300 σ ds (nI (now % 12)) (nI (now / 12))) 310 τ' es' dt' yr') F' O gl X, zno, ({ frames := 1002, cells := 0, slots := 0, locals := 40047 } : Room)) 0 0 (cX g A (cput (cput (zs K 99 8 o_14) 300 σ ds (nI (now % 12)) (nI (now / 12))) 310 ((s_go wv vs ds nh nd own now σ i_8).1) ds (nI ((now + i_8) % 12)) (nI ((now + i_8) / 12))) F_13 O gl X) 23 [(0, .ref (A 99)), (1, .int (nI (dd))), (2, .int (nI (i_8 + 1)))] [] := by
      intro q_9
      induction q_9 with
      | zero =>
        intro i_8 hb_11 lo_16 F_13 o_14 hi_15
        obtain rfl : 60 = i_8 := by omega
        refine z_iload_n 2 dX1_next_23 rfl ?_
        refine z_bipush (v := 60) dX1_next_24 (by decide) ?_
        refine z_icmp_gtN (a := 61) (b := 60) 57 (by decide) (by decide) dX1_next_26 (by decide) (fun h_ => ?_) (fun h_ => absurd h_ (by decide))
        refine z_iconst (v := zm1) dX1_next_57 (by decide) ?_
        exact z_iret dX1_next_58 rfl (Nat.le_of_ble_eq_true rfl) (Nat.le_of_ble_eq_true rfl) ⟨congrArg some (congrArg Value.int (by rw [if_pos c_4, e_d, ncl (by omega)]; exact hi_15.symm)), o_14, F_13, (s_go wv vs ds nh nd own now σ 60).1, ds, (nI ((now + 60) % 12)), (nI ((now + 60) / 12)), rfl⟩
      | succ q_9 ih_10 =>
        intro i_8 hb_11 lo_16 F_13 o_14 hi_15
        refine z_iload_n 2 dX1_next_23 rfl ?_
        refine z_bipush (v := 60) dX1_next_24 (by decide) ?_
        refine z_icmp_gtN (a := i_8 + 1) (b := 60) 57 (by omega) (by omega) dX1_next_26 (by decide) (fun c_17 => absurd c_17 (by omega)) (fun c_17 => ?_)
        refine z_aload_n 0 dX1_next_29 rfl ?_
        refine z_aload_n 0 dX1_next_30 rfl ?_
        refine cz_get (v := .ref (A 319)) 5 hA (by decide) q332 rfl dX1_next_31 ?_
        refine z_callV (As := [.ref (A 319)]) (c_passT (K := K) (F := F_13) (gl := gl) (σ0 := σ) (ds0 := ds) (dt0 := (nI (now % 12))) (yr0 := (nI (now / 12))) (σ := (s_go wv vs ds nh nd own now σ i_8).1) (ds := ds) hA hO hV hv (now := now + i_8) (by omega) (s_iv_go hV hiv i_8)) q1209 q1211 qs36 q112 q1212 nm_X1_passes (cX_obj hA) rfl rfl rfl (Nat.le_of_ble_eq_true rfl) ⟨Nat.le_of_ble_eq_true rfl, Nat.le_of_ble_eq_true rfl⟩ dX1_next_34 rfl rfl (Nat.le_of_ble_eq_true rfl) (Nat.le_of_ble_eq_true rfl) (fun v_19 X_20 hp_21 => ?_)
        obtain ⟨rfl, F_18, rfl⟩ := hp_21
        refine z_st (st' := [.int ((s_pass wv vs ds nh nd own (now + i_8) ((s_go wv vs ds nh nd own now σ i_8).1)).2.1)]) rfl ?_
        refine z_aload_n 0 dX1_next_37 rfl ?_
        refine cz_get (v := .int ((s_pass wv vs ds nh nd own (now + i_8) ((s_go wv vs ds nh nd own now σ i_8).1)).2.2)) 8 hA (by decide) q335 rfl dX1_next_38 ?_
        refine z_ior dX1_next_41 ?_
        refine z_iload_n 1 dX1_next_42 rfl ?_
        refine z_callS (As := [.int (((s_pass wv vs ds nh nd own (now + i_8) ((s_go wv vs ds nh nd own now σ i_8).1)).2.1) ||| ((s_pass wv vs ds nh nd own (now + i_8) ((s_go wv vs ds nh nd own now σ i_8).1)).2.2)), .int (nI (dd))]) (c_isIn (((s_pass wv vs ds nh nd own (now + i_8) ((s_go wv vs ds nh nd own now σ i_8).1)).2.1) ||| ((s_pass wv vs ds nh nd own (now + i_8) ((s_go wv vs ds nh nd own now σ i_8).1)).2.2)) dd) q1241 q903 q112 q904 nm_X1_isIn rfl (Nat.le_of_ble_eq_true rfl) ⟨Nat.le_of_ble_eq_true rfl, Nat.le_of_ble_eq_true rfl⟩ dX1_next_43 rfl rfl (Nat.le_of_ble_eq_true rfl) (Nat.le_of_ble_eq_true rfl) (fun v_22 X_23 hp_24 => ?_)
        obtain ⟨rfl, rfl⟩ := hp_24
        refine z_st (st' := [.int (zb (s_isBit (((s_pass wv vs ds nh nd own (now + i_8) ((s_go wv vs ds nh nd own now σ i_8).1)).2.1) ||| ((s_pass wv vs ds nh nd own (now + i_8) ((s_go wv vs ds nh nd own now σ i_8).1)).2.2)) dd))]) rfl ?_
        refine z_if_eqb 51 dX1_next_46 (by decide) (fun c_25 => ?_) (fun c_25 => ?_)
        · -- s_isBit (((s_pass wv vs ds nh nd own (now + i_8) ((s_go wv vs ds nh nd own now σ i_8).1)).2.1) ||| ((s_pass wv vs ds nh nd own (now + i_8) ((s_go wv vs ds nh nd own now σ i_8).1)).2.2)) dd = false
          refine z_iinc (v := nI (i_8 + 2)) (lv' := [(2, .int (nI (i_8 + 2))), (0, .ref (A 99)), (1, .int (nI (dd)))]) 2 dX1_next_51 rfl (nI_1 _) (by decide) rfl ?_
          refine z_goto 23 dX1_next_54 (by decide) ?_
          refine z_lv (lv' := [(0, .ref (A 99)), (1, .int (nI (dd))), (2, .int (nI (i_8 + 2)))]) [1, 2, 0] rfl ?_
          refine z_X (X' := (cX g A (cput (cput (zs K 99 8 ((s_pass wv vs ds nh nd own (now + i_8) ((s_go wv vs ds nh nd own now σ i_8).1)).2.2)) 300 σ ds (nI (now % 12)) (nI (now / 12))) 310 ((s_go wv vs ds nh nd own now σ (i_8 + 1)).1) ds (nI ((now + (i_8 + 1)) % 12)) (nI ((now + (i_8 + 1)) / 12))) F_18 O gl X)) (by rfl) ?_
          exact ih_10 (i_8 + 1) (by omega) (by omega) _ _ (hi_15.trans (s_fst_f c_25))
        · -- s_isBit (((s_pass wv vs ds nh nd own (now + i_8) ((s_go wv vs ds nh nd own now σ i_8).1)).2.1) ||| ((s_pass wv vs ds nh nd own (now + i_8) ((s_go wv vs ds nh nd own now σ i_8).1)).2.2)) dd = true
          refine z_iload_n 2 dX1_next_49 rfl ?_
          exact z_iret dX1_next_50 rfl (Nat.le_of_ble_eq_true rfl) (Nat.le_of_ble_eq_true rfl) ⟨congrArg some (congrArg Value.int (by rw [if_pos c_4, e_d, ncl (by omega)]; exact (hi_15.trans (s_fst_t c_25)).symm)), (s_pass wv vs ds nh nd own (now + i_8) ((s_go wv vs ds nh nd own now σ i_8).1)).2.2, F_18, (s_pass wv vs ds nh nd own (now + i_8) ((s_go wv vs ds nh nd own now σ i_8).1)).1, ds, (nI ((now + i_8 + 1) % 12)), (nI ((now + i_8 + 1) / 12)), rfl⟩
    refine z_lv (lv' := [(0, .ref (A 99)), (1, .int (nI (dd))), (2, .int 1)]) [1, 2, 0] rfl ?_
    refine z_X (X' := (cX g A (cput (cput (zs K 99 8 o) 300 σ ds (nI (now % 12)) (nI (now / 12))) 310 ((s_go wv vs ds nh nd own now σ 0).1) ds (nI (now % 12)) (nI (now / 12))) F O gl X)) (by rfl) ?_
    exact loop_12 (60 - 0) 0 (by omega) (Nat.le_refl _) _ _ rfl
  · -- decide (0 ≤ d) && decide (d < nI nd) = false
    refine z_iconst (v := zm1) dX1_next_8 (by decide) ?_
    exact z_iret dX1_next_9 rfl (Nat.le_of_ble_eq_true rfl) (Nat.le_of_ble_eq_true rfl) ⟨congrArg some (congrArg Value.int (by rw [if_neg (by rw [c_4]; decide)])), o, F, τ, es, dt2, yr2, rfl⟩
set_option maxHeartbeats 4000000 in
theorem c_gone {g : zG} {A : Nat → Nat} {K : Nat → Nat → Int32} {F : Nat → Int32} {O : Nat → Nat → Option Nat} {gl : Int64} {X : zX} (hA : cok g A X) {v : Nat} (hO : O 0 0 = some v) {vs : Nat → Int32} {nh nd : Nat} {own : Nat → Nat} {wv : Int32 → Int32 → Int32 → Int32 → Int32} (hV : s_ok vs nh nd own) (hv : cvl g X v vs nh nd wv) {σ ds τ es : Nat → Int32} {dt2 yr2 o : Int32} {now : Nat} (hnow : now < 2 ^ 28) (hiv : s_iv σ nd) (d : Int32) : zN g m_X1_gone ({ frames := 1002, cells := 0, slots := 0, locals := 40047 } : Room) [.ref (A 99), .int d] (cX g A (cput (cput (zs K 99 8 o) 300 σ ds (nI (now % 12)) (nI (now / 12))) 310 τ es dt2 yr2) F O gl X) (fun rv X' => rv = some (.int (if (decide (0 ≤ d) && decide (d < nI nd)) = true then s_fst (s_goneP (s_go wv vs ds nh nd own now σ) d.toNatClampNeg) nI 100 0 else zm1)) ∧ ∃ (o' : Int32) (F' τ' es' : Nat → Int32) (dt' yr' : Int32), X' = cX g A (cput (cput (zs K 99 8 o') 300 σ ds (nI (now % 12)) (nI (now / 12))) 310 τ' es' dt' yr') F' O gl X) := by
  refine zN.of (by decide +kernel) (Nat.le_of_ble_eq_true rfl) rfl ?_
  refine z_lv (lv' := [(0, .ref (A 99)), (1, .int d)]) [0, 1] rfl ?_
  have hA2 := hA.2.2.1
  have hV9 := hV
  have hv9 := hv
  obtain ⟨h0, hnh, h1, hnd, hown⟩ := hV9
  obtain ⟨lh, lg, fh, fg, st9, fa, hxv, ⟨mh, eh, ch, hlh, heh, hch1, hch2⟩, ⟨mg, eg, cg, hlg, heg, hcg1, hcg2⟩, hhs, hgs, hst9, hfa⟩ := hv9
  refine z_aload_n 0 dX1_gone_0 rfl ?_
  refine z_iload_n 1 dX1_gone_1 rfl ?_
  refine z_callV (As := [.int d]) (c_isGuest (K := (cput (cput (zs K 99 8 o) 300 σ ds (nI (now % 12)) (nI (now / 12))) 310 τ es dt2 yr2)) (F := F) (gl := gl) hA hO hxv hlh heh hch1 hch2 hlg heg hcg1 hcg2 (by omega) d) q1176 q1178 qs34 q112 q1179 nm_X1_isGuest (cX_obj hA) rfl rfl rfl (Nat.le_of_ble_eq_true rfl) ⟨Nat.le_of_ble_eq_true rfl, Nat.le_of_ble_eq_true rfl⟩ dX1_gone_2 rfl rfl (Nat.le_of_ble_eq_true rfl) (Nat.le_of_ble_eq_true rfl) (fun v_1 X_2 hp_3 => ?_)
  obtain ⟨rfl, rfl⟩ := hp_3
  refine z_st (st' := [.int (zb (decide (0 ≤ d) && decide (d < nI nd)))]) rfl ?_
  refine z_if_neb 10 dX1_gone_5 (by decide) (fun c_4 => ?_) (fun c_4 => ?_)
  · -- decide (0 ≤ d) && decide (d < nI nd) = true
    obtain ⟨dd, hdd, e_d⟩ := zday (by omega) c_4
    refine z_lv (lv' := [(0, .ref (A 99)), (1, .int (nI (dd)))]) [0, 1] (by rw [e_d]; rfl) ?_
    refine z_aload_n 0 dX1_gone_10 rfl ?_
    refine cz_get (v := .ref (A 319)) 5 hA (by decide) q332 rfl dX1_gone_11 ?_
    refine z_aload_n 0 dX1_gone_14 rfl ?_
    refine cz_get (v := .ref (A 309)) 4 hA (by decide) q331 rfl dX1_gone_15 ?_
    refine z_callV (As := [.ref (A 309)]) (c_be (K := (zs K 99 8 o)) (F := F) (O := O) (gl := gl) hA (cst_1 hA) (cst_0 hA) (by omega) (σ := τ) (τ := σ) (ds := es) (es := ds)) q1202 q1203 q1204 q118 q1205 nm_X4_be (cX_st hA (cst_1 hA)) rfl rfl rfl (Nat.le_of_ble_eq_true rfl) ⟨Nat.le_of_ble_eq_true rfl, Nat.le_of_ble_eq_true rfl⟩ dX1_gone_18 rfl rfl (Nat.le_of_ble_eq_true rfl) (Nat.le_of_ble_eq_true rfl) (fun v_5 X_6 hp_7 => ?_)
    obtain ⟨rfl, rfl⟩ := hp_7
    refine z_st (st' := []) rfl ?_
    refine z_iconst (v := 0) dX1_gone_21 (by decide) ?_
    refine z_istore_n (lv' := [(2, .int 0), (0, .ref (A 99)), (1, .int (nI (dd)))]) dX1_gone_22 rfl (by decide) rfl ?_
    have loop_12 : ∀ (q_9 i_8 : Nat), i_8 + q_9 = 100 → 0 ≤ i_8 → ∀ (F_13 : Nat → Int32), ∀ (o_14 : Int32), s_fst (s_goneP (s_go wv vs ds nh nd own now σ) dd) (nI) 100 0 = s_fst (s_goneP (s_go wv vs ds nh nd own now σ) dd) (nI) q_9 i_8 → zZ g m_X1_gone (fun rv X' => rv = some (.int (if (decide (0 ≤ d) && decide (d < nI nd)) = true then s_fst (s_goneP (s_go wv vs ds nh nd own now σ) d.toNatClampNeg) nI 100 0 else zm1)) ∧ ∃ (o' : Int32) (F' τ' es' : Nat → Int32) (dt' yr' : Int32), X' = cX g A (cput (cput (zs K 99 8 o') 300 σ ds (nI (now % 12)) (nI (now / 12))) 310 τ' es' dt' yr') F' O gl X, zno, ({ frames := 1002, cells := 0, slots := 0, locals := 40047 } : Room)) 0 0 (cX g A (cput (cput (zs K 99 8 o_14) 300 σ ds (nI (now % 12)) (nI (now / 12))) 310 ((s_go wv vs ds nh nd own now σ i_8).1) ds (nI ((now + i_8) % 12)) (nI ((now + i_8) / 12))) F_13 O gl X) 23 [(0, .ref (A 99)), (1, .int (nI (dd))), (2, .int (nI (i_8)))] [] := by
      intro q_9
      induction q_9 with
      | zero =>
        intro i_8 hb_11 lo_16 F_13 o_14 hi_15
        obtain rfl : 100 = i_8 := by omega
        refine z_iload_n 2 dX1_gone_23 rfl ?_
        refine z_bipush (v := 99) dX1_gone_24 (by decide) ?_
        refine z_icmp_gtN (a := 100) (b := 99) 58 (by decide) (by decide) dX1_gone_26 (by decide) (fun h_ => ?_) (fun h_ => absurd h_ (by decide))
        refine z_iconst (v := zm1) dX1_gone_58 (by decide) ?_
        exact z_iret dX1_gone_59 rfl (Nat.le_of_ble_eq_true rfl) (Nat.le_of_ble_eq_true rfl) ⟨congrArg some (congrArg Value.int (by rw [if_pos c_4, e_d, ncl (by omega)]; exact hi_15.symm)), o_14, F_13, (s_go wv vs ds nh nd own now σ 100).1, ds, (nI ((now + 100) % 12)), (nI ((now + 100) / 12)), rfl⟩
      | succ q_9 ih_10 =>
        intro i_8 hb_11 lo_16 F_13 o_14 hi_15
        refine z_iload_n 2 dX1_gone_23 rfl ?_
        refine z_bipush (v := 99) dX1_gone_24 (by decide) ?_
        refine z_icmp_gtN (a := i_8) (b := 99) 58 (by omega) (by omega) dX1_gone_26 (by decide) (fun c_17 => absurd c_17 (by omega)) (fun c_17 => ?_)
        refine z_aload_n 0 dX1_gone_29 rfl ?_
        refine cz_get (v := .ref (A 319)) 5 hA (by decide) q332 rfl dX1_gone_30 ?_
        refine cz_getSN (s := 310) (v := .ref (A 311)) 1 hA (cst_1 hA) (by decide) q261 rfl dX1_gone_33 ?_
        refine z_iload_n 1 dX1_gone_36 rfl ?_
        refine cz_iald (v := ((s_go wv vs ds nh nd own now σ i_8).1) (dd + 18)) 311 dd hA (by unfold cia; omega) rfl (by have h9 : csz 311 = 6 := rfl; omega) (cput_says (by omega)) dX1_gone_37 ?_
        refine z_if_ne 43 dX1_gone_38 (by decide) (fun c_18 => ?_) (fun c_18 => ?_)
        · -- ¬ ((s_go wv vs ds nh nd own now σ i_8).1) (dd + 18) = 0
          refine z_aload_n 0 dX1_gone_43 rfl ?_
          refine z_aload_n 0 dX1_gone_44 rfl ?_
          refine cz_get (v := .ref (A 319)) 5 hA (by decide) q332 rfl dX1_gone_45 ?_
          refine z_callV (As := [.ref (A 319)]) (c_passT (K := K) (F := F_13) (gl := gl) (σ0 := σ) (ds0 := ds) (dt0 := (nI (now % 12))) (yr0 := (nI (now / 12))) (σ := (s_go wv vs ds nh nd own now σ i_8).1) (ds := ds) hA hO hV hv (now := now + i_8) (by omega) (s_iv_go hV hiv i_8)) q1209 q1211 qs36 q112 q1212 nm_X1_passes (cX_obj hA) rfl rfl rfl (Nat.le_of_ble_eq_true rfl) ⟨Nat.le_of_ble_eq_true rfl, Nat.le_of_ble_eq_true rfl⟩ dX1_gone_48 rfl rfl (Nat.le_of_ble_eq_true rfl) (Nat.le_of_ble_eq_true rfl) (fun v_20 X_21 hp_22 => ?_)
          obtain ⟨rfl, F_19, rfl⟩ := hp_22
          refine z_st (st' := [.int ((s_pass wv vs ds nh nd own (now + i_8) ((s_go wv vs ds nh nd own now σ i_8).1)).2.1)]) rfl ?_
          refine z_pop dX1_gone_51 rfl ?_
          refine z_iinc (v := nI (i_8 + 1)) (lv' := [(2, .int (nI (i_8 + 1))), (0, .ref (A 99)), (1, .int (nI (dd)))]) 2 dX1_gone_52 rfl (nI_1 _) (by decide) rfl ?_
          refine z_goto 23 dX1_gone_55 (by decide) ?_
          refine z_lv (lv' := [(0, .ref (A 99)), (1, .int (nI (dd))), (2, .int (nI (i_8 + 1)))]) [1, 2, 0] rfl ?_
          refine z_X (X' := (cX g A (cput (cput (zs K 99 8 ((s_pass wv vs ds nh nd own (now + i_8) ((s_go wv vs ds nh nd own now σ i_8).1)).2.2)) 300 σ ds (nI (now % 12)) (nI (now / 12))) 310 ((s_go wv vs ds nh nd own now σ (i_8 + 1)).1) ds (nI ((now + (i_8 + 1)) % 12)) (nI ((now + (i_8 + 1)) / 12))) F_19 O gl X)) (by rfl) ?_
          exact ih_10 (i_8 + 1) (by omega) (by omega) _ _ (hi_15.trans (s_fst_f (decide_eq_false c_18)))
        · -- ((s_go wv vs ds nh nd own now σ i_8).1) (dd + 18) = 0
          refine z_iload_n 2 dX1_gone_41 rfl ?_
          exact z_iret dX1_gone_42 rfl (Nat.le_of_ble_eq_true rfl) (Nat.le_of_ble_eq_true rfl) ⟨congrArg some (congrArg Value.int (by rw [if_pos c_4, e_d, ncl (by omega)]; exact (hi_15.trans (s_fst_t (decide_eq_true c_18))).symm)), o_14, F_13, (s_go wv vs ds nh nd own now σ i_8).1, ds, (nI ((now + i_8) % 12)), (nI ((now + i_8) / 12)), rfl⟩
    refine z_lv (lv' := [(0, .ref (A 99)), (1, .int (nI (dd))), (2, .int 0)]) [1, 2, 0] rfl ?_
    refine z_X (X' := (cX g A (cput (cput (zs K 99 8 o) 300 σ ds (nI (now % 12)) (nI (now / 12))) 310 ((s_go wv vs ds nh nd own now σ 0).1) ds (nI (now % 12)) (nI (now / 12))) F O gl X)) (by rfl) ?_
    exact loop_12 (100 - 0) 0 (by omega) (Nat.le_refl _) _ _ rfl
  · -- decide (0 ≤ d) && decide (d < nI nd) = false
    refine z_iconst (v := zm1) dX1_gone_8 (by decide) ?_
    exact z_iret dX1_gone_9 rfl (Nat.le_of_ble_eq_true rfl) (Nat.le_of_ble_eq_true rfl) ⟨congrArg some (congrArg Value.int (by rw [if_neg (by rw [c_4]; decide)])), o, F, τ, es, dt2, yr2, rfl⟩
set_option maxHeartbeats 4000000 in
theorem c_meets {g : zG} {A : Nat → Nat} {K : Nat → Nat → Int32} {F : Nat → Int32} {O : Nat → Nat → Option Nat} {gl : Int64} {X : zX} (hA : cok g A X) {v : Nat} (hO : O 0 0 = some v) {vs : Nat → Int32} {nh nd : Nat} {own : Nat → Nat} {wv : Int32 → Int32 → Int32 → Int32 → Int32} (hV : s_ok vs nh nd own) (hv : cvl g X v vs nh nd wv) {σ ds τ es : Nat → Int32} {dt2 yr2 o : Int32} {now : Nat} (hnow : now < 2 ^ 28) (hiv : s_iv σ nd) (d o2 : Int32) : zN g m_X1_meets ({ frames := 1002, cells := 0, slots := 0, locals := 40047 } : Room) [.ref (A 99), .int d, .int o2] (cX g A (cput (cput (zs K 99 8 o) 300 σ ds (nI (now % 12)) (nI (now / 12))) 310 τ es dt2 yr2) F O gl X) (fun rv X' => rv = some (.int (if (((decide (0 ≤ d) && decide (d < nI nd)) && (decide (0 ≤ o2) && decide (o2 < nI nd))) && decide (¬ d = o2)) = true then s_fst (s_meetP (s_go wv vs ds nh nd own now σ) d.toNatClampNeg o2.toNatClampNeg) nI 61 0 else zm1)) ∧ ∃ (o' : Int32) (F' τ' es' : Nat → Int32) (dt' yr' : Int32), X' = cX g A (cput (cput (zs K 99 8 o') 300 σ ds (nI (now % 12)) (nI (now / 12))) 310 τ' es' dt' yr') F' O gl X) := by
  refine zN.of (by decide +kernel) (Nat.le_of_ble_eq_true rfl) rfl ?_
  refine z_lv (lv' := [(0, .ref (A 99)), (1, .int d), (2, .int o2)]) [0, 1, 2] rfl ?_
  have hA2 := hA.2.2.1
  have hV9 := hV
  have hv9 := hv
  obtain ⟨h0, hnh, h1, hnd, hown⟩ := hV9
  obtain ⟨lh, lg, fh, fg, st9, fa, hxv, ⟨mh, eh, ch, hlh, heh, hch1, hch2⟩, ⟨mg, eg, cg, hlg, heg, hcg1, hcg2⟩, hhs, hgs, hst9, hfa⟩ := hv9
  refine z_aload_n 0 dX1_meets_0 rfl ?_
  refine z_iload_n 1 dX1_meets_1 rfl ?_
  refine z_callV (As := [.int d]) (c_isGuest (K := (cput (cput (zs K 99 8 o) 300 σ ds (nI (now % 12)) (nI (now / 12))) 310 τ es dt2 yr2)) (F := F) (gl := gl) hA hO hxv hlh heh hch1 hch2 hlg heg hcg1 hcg2 (by omega) d) q1176 q1178 qs34 q112 q1179 nm_X1_isGuest (cX_obj hA) rfl rfl rfl (Nat.le_of_ble_eq_true rfl) ⟨Nat.le_of_ble_eq_true rfl, Nat.le_of_ble_eq_true rfl⟩ dX1_meets_2 rfl rfl (Nat.le_of_ble_eq_true rfl) (Nat.le_of_ble_eq_true rfl) (fun v_1 X_2 hp_3 => ?_)
  obtain ⟨rfl, rfl⟩ := hp_3
  refine z_st (st' := [.int (zb (decide (0 ≤ d) && decide (d < nI nd)))]) rfl ?_
  refine z_if_eqb 21 dX1_meets_5 (by decide) (fun c_4 => ?_) (fun c_4 => ?_)
  · -- decide (0 ≤ d) && decide (d < nI nd) = false
    refine z_iconst (v := zm1) dX1_meets_21 (by decide) ?_
    exact z_iret dX1_meets_22 rfl (Nat.le_of_ble_eq_true rfl) (Nat.le_of_ble_eq_true rfl) ⟨congrArg some (congrArg Value.int (by simp [c_4]; try rfl)), o, F, τ, es, dt2, yr2, rfl⟩
  · -- decide (0 ≤ d) && decide (d < nI nd) = true
    refine z_aload_n 0 dX1_meets_8 rfl ?_
    refine z_iload_n 2 dX1_meets_9 rfl ?_
    refine z_callV (As := [.int o2]) (c_isGuest (K := (cput (cput (zs K 99 8 o) 300 σ ds (nI (now % 12)) (nI (now / 12))) 310 τ es dt2 yr2)) (F := F) (gl := gl) hA hO hxv hlh heh hch1 hch2 hlg heg hcg1 hcg2 (by omega) o2) q1176 q1178 qs34 q112 q1179 nm_X1_isGuest (cX_obj hA) rfl rfl rfl (Nat.le_of_ble_eq_true rfl) ⟨Nat.le_of_ble_eq_true rfl, Nat.le_of_ble_eq_true rfl⟩ dX1_meets_10 rfl rfl (Nat.le_of_ble_eq_true rfl) (Nat.le_of_ble_eq_true rfl) (fun v_5 X_6 hp_7 => ?_)
    obtain ⟨rfl, rfl⟩ := hp_7
    refine z_st (st' := [.int (zb (decide (0 ≤ o2) && decide (o2 < nI nd)))]) rfl ?_
    refine z_if_eqb 21 dX1_meets_13 (by decide) (fun c_8 => ?_) (fun c_8 => ?_)
    · -- decide (0 ≤ o2) && decide (o2 < nI nd) = false
      refine z_iconst (v := zm1) dX1_meets_21 (by decide) ?_
      exact z_iret dX1_meets_22 rfl (Nat.le_of_ble_eq_true rfl) (Nat.le_of_ble_eq_true rfl) ⟨congrArg some (congrArg Value.int (by simp [c_4, c_8]; try rfl)), o, F, τ, es, dt2, yr2, rfl⟩
    · -- decide (0 ≤ o2) && decide (o2 < nI nd) = true
      refine z_iload_n 1 dX1_meets_16 rfl ?_
      refine z_iload_n 2 dX1_meets_17 rfl ?_
      refine z_icmp_ne 23 dX1_meets_18 (by decide) (fun c_9 => ?_) (fun c_9 => ?_)
      · -- ¬ d = o2
        have hB : (((decide (0 ≤ d) && decide (d < nI nd)) && (decide (0 ≤ o2) && decide (o2 < nI nd))) && decide (¬ d = o2)) = true := by simp only [c_4, c_8, Bool.true_and]; exact decide_eq_true c_9
        obtain ⟨dd, hdd, e_d⟩ := zday (by omega) c_4
        obtain ⟨oo, hoo, e_o2⟩ := zday (by omega) c_8
        refine z_lv (lv' := [(0, .ref (A 99)), (1, .int (nI (dd))), (2, .int (nI (oo)))]) [0, 1, 2] (by rw [e_d, e_o2]; rfl) ?_
        refine z_aload_n 0 dX1_meets_23 rfl ?_
        refine cz_get (v := .ref (A 319)) 5 hA (by decide) q332 rfl dX1_meets_24 ?_
        refine z_aload_n 0 dX1_meets_27 rfl ?_
        refine cz_get (v := .ref (A 309)) 4 hA (by decide) q331 rfl dX1_meets_28 ?_
        refine z_callV (As := [.ref (A 309)]) (c_be (K := (zs K 99 8 o)) (F := F) (O := O) (gl := gl) hA (cst_1 hA) (cst_0 hA) (by omega) (σ := τ) (τ := σ) (ds := es) (es := ds)) q1202 q1203 q1204 q118 q1205 nm_X4_be (cX_st hA (cst_1 hA)) rfl rfl rfl (Nat.le_of_ble_eq_true rfl) ⟨Nat.le_of_ble_eq_true rfl, Nat.le_of_ble_eq_true rfl⟩ dX1_meets_31 rfl rfl (Nat.le_of_ble_eq_true rfl) (Nat.le_of_ble_eq_true rfl) (fun v_10 X_11 hp_12 => ?_)
        obtain ⟨rfl, rfl⟩ := hp_12
        refine z_st (st' := []) rfl ?_
        refine z_iconst (v := 0) dX1_meets_34 (by decide) ?_
        refine z_istore_n (lv' := [(3, .int 0), (0, .ref (A 99)), (1, .int (nI (dd))), (2, .int (nI (oo)))]) dX1_meets_35 rfl (by decide) rfl ?_
        have loop_17 : ∀ (q_14 i_13 : Nat), i_13 + q_14 = 61 → 0 ≤ i_13 → ∀ (F_18 : Nat → Int32), ∀ (o_19 : Int32), s_fst (s_meetP (s_go wv vs ds nh nd own now σ) dd oo) (nI) 61 0 = s_fst (s_meetP (s_go wv vs ds nh nd own now σ) dd oo) (nI) q_14 i_13 → zZ g m_X1_meets (fun rv X' => rv = some (.int (if (((decide (0 ≤ d) && decide (d < nI nd)) && (decide (0 ≤ o2) && decide (o2 < nI nd))) && decide (¬ d = o2)) = true then s_fst (s_meetP (s_go wv vs ds nh nd own now σ) d.toNatClampNeg o2.toNatClampNeg) nI 61 0 else zm1)) ∧ ∃ (o' : Int32) (F' τ' es' : Nat → Int32) (dt' yr' : Int32), X' = cX g A (cput (cput (zs K 99 8 o') 300 σ ds (nI (now % 12)) (nI (now / 12))) 310 τ' es' dt' yr') F' O gl X, zno, ({ frames := 1002, cells := 0, slots := 0, locals := 40047 } : Room)) 0 0 (cX g A (cput (cput (zs K 99 8 o_19) 300 σ ds (nI (now % 12)) (nI (now / 12))) 310 ((s_go wv vs ds nh nd own now σ i_13).1) ds (nI ((now + i_13) % 12)) (nI ((now + i_13) / 12))) F_18 O gl X) 36 [(0, .ref (A 99)), (1, .int (nI (dd))), (2, .int (nI (oo))), (3, .int (nI (i_13)))] [] := by
          intro q_14
          induction q_14 with
          | zero =>
            intro i_13 hb_16 lo_21 F_18 o_19 hi_20
            obtain rfl : 61 = i_13 := by omega
            refine z_iload_n 3 dX1_meets_36 rfl ?_
            refine z_bipush (v := 60) dX1_meets_37 (by decide) ?_
            refine z_icmp_gtN (a := 61) (b := 60) 92 (by decide) (by decide) dX1_meets_39 (by decide) (fun h_ => ?_) (fun h_ => absurd h_ (by decide))
            refine z_iconst (v := zm1) dX1_meets_92 (by decide) ?_
            exact z_iret dX1_meets_93 rfl (Nat.le_of_ble_eq_true rfl) (Nat.le_of_ble_eq_true rfl) ⟨congrArg some (congrArg Value.int (by rw [if_pos hB, e_d, e_o2, ncl (by omega), ncl (by omega)]; exact hi_20.symm)), o_19, F_18, (s_go wv vs ds nh nd own now σ 61).1, ds, (nI ((now + 61) % 12)), (nI ((now + 61) / 12)), rfl⟩
          | succ q_14 ih_15 =>
            intro i_13 hb_16 lo_21 F_18 o_19 hi_20
            refine z_iload_n 3 dX1_meets_36 rfl ?_
            refine z_bipush (v := 60) dX1_meets_37 (by decide) ?_
            refine z_icmp_gtN (a := i_13) (b := 60) 92 (by omega) (by omega) dX1_meets_39 (by decide) (fun c_22 => absurd c_22 (by omega)) (fun c_22 => ?_)
            refine z_aload_n 0 dX1_meets_42 rfl ?_
            refine cz_get (v := .ref (A 319)) 5 hA (by decide) q332 rfl dX1_meets_43 ?_
            refine cz_getSN (s := 310) (v := .ref (A 312)) 2 hA (cst_1 hA) (by decide) q265 rfl dX1_meets_46 ?_
            refine z_iload_n 1 dX1_meets_49 rfl ?_
            refine cz_iald (v := ((s_go wv vs ds nh nd own now σ i_13).1) (dd + 6)) 312 dd hA (by unfold cia; omega) rfl (by have h9 : csz 312 = 6 := rfl; omega) (cput_where (by omega)) dX1_meets_50 ?_
            refine z_if_lt 77 dX1_meets_51 (by decide) (fun c_23 => ?_) (fun c_23 => ?_)
            · -- ((s_go wv vs ds nh nd own now σ i_13).1) (dd + 6) < 0
              have c_23' := Int32.not_le.mpr c_23
              refine z_aload_n 0 dX1_meets_77 rfl ?_
              refine z_aload_n 0 dX1_meets_78 rfl ?_
              refine cz_get (v := .ref (A 319)) 5 hA (by decide) q332 rfl dX1_meets_79 ?_
              refine z_callV (As := [.ref (A 319)]) (c_passT (K := K) (F := F_18) (gl := gl) (σ0 := σ) (ds0 := ds) (dt0 := (nI (now % 12))) (yr0 := (nI (now / 12))) (σ := (s_go wv vs ds nh nd own now σ i_13).1) (ds := ds) hA hO hV hv (now := now + i_13) (by omega) (s_iv_go hV hiv i_13)) q1209 q1211 qs36 q112 q1212 nm_X1_passes (cX_obj hA) rfl rfl rfl (Nat.le_of_ble_eq_true rfl) ⟨Nat.le_of_ble_eq_true rfl, Nat.le_of_ble_eq_true rfl⟩ dX1_meets_82 rfl rfl (Nat.le_of_ble_eq_true rfl) (Nat.le_of_ble_eq_true rfl) (fun v_25 X_26 hp_27 => ?_)
              obtain ⟨rfl, F_24, rfl⟩ := hp_27
              refine z_st (st' := [.int ((s_pass wv vs ds nh nd own (now + i_13) ((s_go wv vs ds nh nd own now σ i_13).1)).2.1)]) rfl ?_
              refine z_pop dX1_meets_85 rfl ?_
              refine z_iinc (v := nI (i_13 + 1)) (lv' := [(3, .int (nI (i_13 + 1))), (0, .ref (A 99)), (1, .int (nI (dd))), (2, .int (nI (oo)))]) 3 dX1_meets_86 rfl (nI_1 _) (by decide) rfl ?_
              refine z_goto 36 dX1_meets_89 (by decide) ?_
              refine z_lv (lv' := [(0, .ref (A 99)), (1, .int (nI (dd))), (2, .int (nI (oo))), (3, .int (nI (i_13 + 1)))]) [1, 2, 3, 0] rfl ?_
              refine z_X (X' := (cX g A (cput (cput (zs K 99 8 ((s_pass wv vs ds nh nd own (now + i_13) ((s_go wv vs ds nh nd own now σ i_13).1)).2.2)) 300 σ ds (nI (now % 12)) (nI (now / 12))) 310 ((s_go wv vs ds nh nd own now σ (i_13 + 1)).1) ds (nI ((now + (i_13 + 1)) % 12)) (nI ((now + (i_13 + 1)) / 12))) F_24 O gl X)) (by rfl) ?_
              exact ih_15 (i_13 + 1) (by omega) (by omega) _ _ (hi_20.trans (s_fst_f (by show (decide _ && _) = false; rw [decide_eq_false (Int32.not_le.mpr c_23)]; rfl)))
            · -- ¬ ((s_go wv vs ds nh nd own now σ i_13).1) (dd + 6) < 0
              have c_23' := Int32.not_lt.mp c_23
              refine z_aload_n 0 dX1_meets_54 rfl ?_
              refine cz_get (v := .ref (A 319)) 5 hA (by decide) q332 rfl dX1_meets_55 ?_
              refine cz_getSN (s := 310) (v := .ref (A 312)) 2 hA (cst_1 hA) (by decide) q265 rfl dX1_meets_58 ?_
              refine z_iload_n 1 dX1_meets_61 rfl ?_
              refine cz_iald (v := ((s_go wv vs ds nh nd own now σ i_13).1) (dd + 6)) 312 dd hA (by unfold cia; omega) rfl (by have h9 : csz 312 = 6 := rfl; omega) (cput_where (by omega)) dX1_meets_62 ?_
              refine z_aload_n 0 dX1_meets_63 rfl ?_
              refine cz_get (v := .ref (A 319)) 5 hA (by decide) q332 rfl dX1_meets_64 ?_
              refine cz_getSN (s := 310) (v := .ref (A 312)) 2 hA (cst_1 hA) (by decide) q265 rfl dX1_meets_67 ?_
              refine z_iload_n 2 dX1_meets_70 rfl ?_
              refine cz_iald (v := ((s_go wv vs ds nh nd own now σ i_13).1) (oo + 6)) 312 oo hA (by unfold cia; omega) rfl (by have h9 : csz 312 = 6 := rfl; omega) (cput_where (by omega)) dX1_meets_71 ?_
              refine z_icmp_ne 77 dX1_meets_72 (by decide) (fun c_28 => ?_) (fun c_28 => ?_)
              · -- ¬ ((s_go wv vs ds nh nd own now σ i_13).1) (dd + 6) = ((s_go wv vs ds nh nd own now σ i_13).1) (oo + 6)
                refine z_aload_n 0 dX1_meets_77 rfl ?_
                refine z_aload_n 0 dX1_meets_78 rfl ?_
                refine cz_get (v := .ref (A 319)) 5 hA (by decide) q332 rfl dX1_meets_79 ?_
                refine z_callV (As := [.ref (A 319)]) (c_passT (K := K) (F := F_18) (gl := gl) (σ0 := σ) (ds0 := ds) (dt0 := (nI (now % 12))) (yr0 := (nI (now / 12))) (σ := (s_go wv vs ds nh nd own now σ i_13).1) (ds := ds) hA hO hV hv (now := now + i_13) (by omega) (s_iv_go hV hiv i_13)) q1209 q1211 qs36 q112 q1212 nm_X1_passes (cX_obj hA) rfl rfl rfl (Nat.le_of_ble_eq_true rfl) ⟨Nat.le_of_ble_eq_true rfl, Nat.le_of_ble_eq_true rfl⟩ dX1_meets_82 rfl rfl (Nat.le_of_ble_eq_true rfl) (Nat.le_of_ble_eq_true rfl) (fun v_30 X_31 hp_32 => ?_)
                obtain ⟨rfl, F_29, rfl⟩ := hp_32
                refine z_st (st' := [.int ((s_pass wv vs ds nh nd own (now + i_13) ((s_go wv vs ds nh nd own now σ i_13).1)).2.1)]) rfl ?_
                refine z_pop dX1_meets_85 rfl ?_
                refine z_iinc (v := nI (i_13 + 1)) (lv' := [(3, .int (nI (i_13 + 1))), (0, .ref (A 99)), (1, .int (nI (dd))), (2, .int (nI (oo)))]) 3 dX1_meets_86 rfl (nI_1 _) (by decide) rfl ?_
                refine z_goto 36 dX1_meets_89 (by decide) ?_
                refine z_lv (lv' := [(0, .ref (A 99)), (1, .int (nI (dd))), (2, .int (nI (oo))), (3, .int (nI (i_13 + 1)))]) [1, 2, 3, 0] rfl ?_
                refine z_X (X' := (cX g A (cput (cput (zs K 99 8 ((s_pass wv vs ds nh nd own (now + i_13) ((s_go wv vs ds nh nd own now σ i_13).1)).2.2)) 300 σ ds (nI (now % 12)) (nI (now / 12))) 310 ((s_go wv vs ds nh nd own now σ (i_13 + 1)).1) ds (nI ((now + (i_13 + 1)) % 12)) (nI ((now + (i_13 + 1)) / 12))) F_29 O gl X)) (by rfl) ?_
                exact ih_15 (i_13 + 1) (by omega) (by omega) _ _ (hi_20.trans (s_fst_f (by show (_ && decide _) = false; rw [decide_eq_false c_28, Bool.and_false])))
              · -- ((s_go wv vs ds nh nd own now σ i_13).1) (dd + 6) = ((s_go wv vs ds nh nd own now σ i_13).1) (oo + 6)
                refine z_iload_n 3 dX1_meets_75 rfl ?_
                exact z_iret dX1_meets_76 rfl (Nat.le_of_ble_eq_true rfl) (Nat.le_of_ble_eq_true rfl) ⟨congrArg some (congrArg Value.int (by rw [if_pos hB, e_d, e_o2, ncl (by omega), ncl (by omega)]; exact (hi_20.trans (s_fst_t (by show (decide _ && decide _) = true; rw [decide_eq_true c_23', decide_eq_true c_28]; rfl))).symm)), o_19, F_18, (s_go wv vs ds nh nd own now σ i_13).1, ds, (nI ((now + i_13) % 12)), (nI ((now + i_13) / 12)), rfl⟩
        refine z_lv (lv' := [(0, .ref (A 99)), (1, .int (nI (dd))), (2, .int (nI (oo))), (3, .int 0)]) [1, 2, 3, 0] rfl ?_
        refine z_X (X' := (cX g A (cput (cput (zs K 99 8 o) 300 σ ds (nI (now % 12)) (nI (now / 12))) 310 ((s_go wv vs ds nh nd own now σ 0).1) ds (nI (now % 12)) (nI (now / 12))) F O gl X)) (by rfl) ?_
        exact loop_17 (61 - 0) 0 (by omega) (Nat.le_refl _) _ _ rfl
      · -- d = o2
        refine z_iconst (v := zm1) dX1_meets_21 (by decide) ?_
        exact z_iret dX1_meets_22 rfl (Nat.le_of_ble_eq_true rfl) (Nat.le_of_ble_eq_true rfl) ⟨congrArg some (congrArg Value.int (by simp [c_4, c_8, c_9]; try rfl)), o, F, τ, es, dt2, yr2, rfl⟩
set_option maxHeartbeats 4000000 in
theorem c_crowd {g : zG} {A : Nat → Nat} {K : Nat → Nat → Int32} {F : Nat → Int32} {O : Nat → Nat → Option Nat} {gl : Int64} {X : zX} (hA : cok g A X) {v : Nat} (hO : O 0 0 = some v) {vs : Nat → Int32} {nh nd : Nat} {own : Nat → Nat} {wv : Int32 → Int32 → Int32 → Int32 → Int32} (hV : s_ok vs nh nd own) (hv : cvl g X v vs nh nd wv) {σ ds τ es : Nat → Int32} {dt2 yr2 o : Int32} {now : Nat} (hnow : now < 2 ^ 28) (hiv : s_iv σ nd)  : zN g m_X1_crowd ({ frames := 1002, cells := 0, slots := 0, locals := 40047 } : Room) [.ref (A 99)] (cX g A (cput (cput (zs K 99 8 o) 300 σ ds (nI (now % 12)) (nI (now / 12))) 310 τ es dt2 yr2) F O gl X) (fun rv X' => rv = some (.int ((s_crowd nd (fun n => (s_go wv vs ds nh nd own now σ n).1) 61).1)) ∧ ∃ (o' : Int32) (F' τ' es' : Nat → Int32) (dt' yr' : Int32), X' = cX g A (cput (cput (zs K 99 8 o') 300 σ ds (nI (now % 12)) (nI (now / 12))) 310 τ' es' dt' yr') F' O gl X) := by
  refine zN.of (by decide +kernel) (Nat.le_of_ble_eq_true rfl) rfl ?_
  refine z_lv (lv' := [(0, .ref (A 99))]) [0] rfl ?_
  have hA2 := hA.2.2.1
  have hV9 := hV
  have hv9 := hv
  obtain ⟨h0, hnh, h1, hnd, hown⟩ := hV9
  obtain ⟨lh, lg, fh, fg, st9, fa, hxv, ⟨mh, eh, ch, hlh, heh, hch1, hch2⟩, ⟨mg, eg, cg, hlg, heg, hcg1, hcg2⟩, hhs, hgs, hst9, hfa⟩ := hv9
  refine z_iconst (v := 0) dX1_crowd_0 (by decide) ?_
  refine z_istore_n (lv' := [(1, .int 0), (0, .ref (A 99))]) dX1_crowd_1 rfl (by decide) rfl ?_
  refine z_iconst (v := zm1) dX1_crowd_2 (by decide) ?_
  refine z_istore_n (lv' := [(2, .int zm1), (1, .int 0), (0, .ref (A 99))]) dX1_crowd_3 rfl (by decide) rfl ?_
  refine z_aload_n 2 dX1_crowd_4 rfl ?_
  refine cz_get (v := .ref (A 319)) 5 hA (by decide) q332 rfl dX1_crowd_5 ?_
  refine z_aload_n 2 dX1_crowd_8 rfl ?_
  refine cz_get (v := .ref (A 309)) 4 hA (by decide) q331 rfl dX1_crowd_9 ?_
  refine z_callV (As := [.ref (A 309)]) (c_be (K := (zs K 99 8 o)) (F := F) (O := O) (gl := gl) hA (cst_1 hA) (cst_0 hA) (by omega) (σ := τ) (τ := σ) (ds := es) (es := ds)) q1202 q1203 q1204 q118 q1205 nm_X4_be (cX_st hA (cst_1 hA)) rfl rfl rfl (Nat.le_of_ble_eq_true rfl) ⟨Nat.le_of_ble_eq_true rfl, Nat.le_of_ble_eq_true rfl⟩ dX1_crowd_12 rfl rfl (Nat.le_of_ble_eq_true rfl) (Nat.le_of_ble_eq_true rfl) (fun v_1 X_2 hp_3 => ?_)
  obtain ⟨rfl, rfl⟩ := hp_3
  refine z_st (st' := []) rfl ?_
  refine z_iconst (v := 0) dX1_crowd_15 (by decide) ?_
  refine z_istore_n (lv' := [(3, .int 0), (2, .int zm1), (1, .int 0), (0, .ref (A 99))]) dX1_crowd_16 rfl (by decide) rfl ?_
  have loop_8 : ∀ (q_5 i_4 : Nat), i_4 + q_5 = 61 → 0 ≤ i_4 → ∀ (F_9 : Nat → Int32), ∀ (o_10 : Int32), zZ g m_X1_crowd (fun rv X' => rv = some (.int ((s_crowd nd (fun n => (s_go wv vs ds nh nd own now σ n).1) 61).1)) ∧ ∃ (o' : Int32) (F' τ' es' : Nat → Int32) (dt' yr' : Int32), X' = cX g A (cput (cput (zs K 99 8 o') 300 σ ds (nI (now % 12)) (nI (now / 12))) 310 τ' es' dt' yr') F' O gl X, zno, ({ frames := 1002, cells := 0, slots := 0, locals := 40047 } : Room)) 0 0 (cX g A (cput (cput (zs K 99 8 o_10) 300 σ ds (nI (now % 12)) (nI (now / 12))) 310 ((s_go wv vs ds nh nd own now σ i_4).1) ds (nI ((now + i_4) % 12)) (nI ((now + i_4) / 12))) F_9 O gl X) 17 [(0, .ref (A 99)), (1, .int ((s_crowd nd (fun n => (s_go wv vs ds nh nd own now σ n).1) i_4).1)), (2, .int ((s_crowd nd (fun n => (s_go wv vs ds nh nd own now σ n).1) i_4).2)), (3, .int (nI (i_4)))] [] := by
    intro q_5
    induction q_5 with
    | zero =>
      intro i_4 hb_7 lo_11 F_9 o_10 
      obtain rfl : 61 = i_4 := by omega
      refine z_iload_n 3 dX1_crowd_17 rfl ?_
      refine z_bipush (v := 60) dX1_crowd_18 (by decide) ?_
      refine z_icmp_gtN (a := 61) (b := 60) 61 (by decide) (by decide) dX1_crowd_20 (by decide) (fun h_ => ?_) (fun h_ => absurd h_ (by decide))
      refine z_iload_n 1 dX1_crowd_61 rfl ?_
      exact z_iret dX1_crowd_62 rfl (Nat.le_of_ble_eq_true rfl) (Nat.le_of_ble_eq_true rfl) ⟨congrArg some (congrArg Value.int (by first | rfl | (simp [hb_7]; done) | (skip; simp [hb_7]))), o_10, F_9, (s_go wv vs ds nh nd own now σ 61).1, ds, (nI ((now + 61) % 12)), (nI ((now + 61) / 12)), rfl⟩
    | succ q_5 ih_6 =>
      intro i_4 hb_7 lo_11 F_9 o_10 
      refine z_iload_n 3 dX1_crowd_17 rfl ?_
      refine z_bipush (v := 60) dX1_crowd_18 (by decide) ?_
      refine z_icmp_gtN (a := i_4) (b := 60) 61 (by omega) (by omega) dX1_crowd_20 (by decide) (fun c_12 => absurd c_12 (by omega)) (fun c_12 => ?_)
      refine z_aload_n 0 dX1_crowd_23 rfl ?_
      refine cz_get (v := .ref (A 319)) 5 hA (by decide) q332 rfl dX1_crowd_24 ?_
      refine z_callV (As := []) (c_somewhere (F := F_9) (gl := gl) (K := (cput (zs K 99 8 o_10) 300 σ ds (nI (now % 12)) (nI (now / 12)))) (σ := (s_go wv vs ds nh nd own now σ i_4).1) (ds := ds) (dt := (nI ((now + i_4) % 12))) (yr := (nI ((now + i_4) / 12))) (O := O) hA (cst_1 hA)) q1333 q1334 q1335 q118 q1336 nm_X4_somewhere (cX_st hA (cst_1 hA)) rfl rfl rfl (Nat.le_of_ble_eq_true rfl) ⟨Nat.le_of_ble_eq_true rfl, Nat.le_of_ble_eq_true rfl⟩ dX1_crowd_27 rfl rfl (Nat.le_of_ble_eq_true rfl) (Nat.le_of_ble_eq_true rfl) (fun v_13 X_14 hp_15 => ?_)
      obtain ⟨rfl, rfl⟩ := hp_15
      refine z_st (st' := [.int (s_some ((s_go wv vs ds nh nd own now σ i_4).1) 6)]) rfl ?_
      obtain ⟨m_16, hm_17, em_18⟩ : ∃ m, m < 64 ∧ s_some ((s_go wv vs ds nh nd own now σ i_4).1) 6 = nI m := (s_some_64 6 (by decide))
      refine z_eq em_18 ?_
      refine z_callS (As := [.int (nI (m_16))]) (t_bitCount m_16 (by omega)) q1242 q1243 q151 q1244 nm_J17_bitCount rfl (Nat.le_of_ble_eq_true rfl) ⟨Nat.le_of_ble_eq_true rfl, Nat.le_of_ble_eq_true rfl⟩ dX1_crowd_30 rfl rfl (Nat.le_of_ble_eq_true rfl) (Nat.le_of_ble_eq_true rfl) (fun v_19 X_20 hp_21 => ?_)
      obtain ⟨rfl, rfl⟩ := hp_21
      refine z_st (st' := [.int (s_bits (nI (m_16)) 30)]) rfl ?_
      refine z_eq (y := s_bits (s_some ((s_go wv vs ds nh nd own now σ i_4).1) 6) 30) (by rw [em_18]) ?_
      refine z_eq (y := s_bits (s_some ((s_go wv vs ds nh nd own now σ i_4).1) nd) 30) (by rw [s_some_6 (s_iv_go hV hiv i_4).1 hnd]) ?_
      refine z_istore (lv' := [(4, .int (s_bits (s_some ((s_go wv vs ds nh nd own now σ i_4).1) nd) 30)), (0, .ref (A 99)), (1, .int ((s_crowd nd (fun n => (s_go wv vs ds nh nd own now σ n).1) i_4).1)), (2, .int ((s_crowd nd (fun n => (s_go wv vs ds nh nd own now σ n).1) i_4).2)), (3, .int (nI (i_4)))]) dX1_crowd_33 (by decide) rfl ?_
      refine z_iload 0 dX1_crowd_35 rfl ?_
      refine z_iload_n 3 dX1_crowd_37 rfl ?_
      refine z_icmp_le 46 dX1_crowd_38 (by decide) (fun c_22 => ?_) (fun c_22 => ?_)
      · -- s_bits (s_some ((s_go wv vs ds nh nd own now σ i_4).1) nd) 30 ≤ (s_crowd nd (fun n => (s_go wv vs ds nh nd own now σ n).1) i_4).2
        have c_22' := Int32.not_lt.mpr c_22
        refine z_aload_n 1 dX1_crowd_46 rfl ?_
        refine z_aload_n 1 dX1_crowd_47 rfl ?_
        refine cz_get (v := .ref (A 319)) 5 hA (by decide) q332 rfl dX1_crowd_48 ?_
        refine z_callV (As := [.ref (A 319)]) (c_passT (K := K) (F := F_9) (gl := gl) (σ0 := σ) (ds0 := ds) (dt0 := (nI (now % 12))) (yr0 := (nI (now / 12))) (σ := (s_go wv vs ds nh nd own now σ i_4).1) (ds := ds) hA hO hV hv (now := now + i_4) (by omega) (s_iv_go hV hiv i_4)) q1209 q1211 qs36 q112 q1212 nm_X1_passes (cX_obj hA) rfl rfl rfl (Nat.le_of_ble_eq_true rfl) ⟨Nat.le_of_ble_eq_true rfl, Nat.le_of_ble_eq_true rfl⟩ dX1_crowd_51 rfl rfl (Nat.le_of_ble_eq_true rfl) (Nat.le_of_ble_eq_true rfl) (fun v_24 X_25 hp_26 => ?_)
        obtain ⟨rfl, F_23, rfl⟩ := hp_26
        refine z_st (st' := [.int ((s_pass wv vs ds nh nd own (now + i_4) ((s_go wv vs ds nh nd own now σ i_4).1)).2.1)]) rfl ?_
        refine z_pop dX1_crowd_54 rfl ?_
        refine z_iinc (v := nI (i_4 + 1)) (lv' := [(3, .int (nI (i_4 + 1))), (4, .int (s_bits (s_some ((s_go wv vs ds nh nd own now σ i_4).1) nd) 30)), (0, .ref (A 99)), (1, .int ((s_crowd nd (fun n => (s_go wv vs ds nh nd own now σ n).1) i_4).1)), (2, .int ((s_crowd nd (fun n => (s_go wv vs ds nh nd own now σ n).1) i_4).2))]) 4 dX1_crowd_55 rfl (nI_1 _) (by decide) rfl ?_
        refine z_goto 17 dX1_crowd_58 (by decide) ?_
        have f_27 : (s_crowd nd (fun n => (s_go wv vs ds nh nd own now σ n).1) i_4).1 = (s_crowd nd (fun n => (s_go wv vs ds nh nd own now σ n).1) (i_4 + 1)).1 := by simp [s_crowd, hb_7, c_12, c_22, c_22']
        have f_28 : (s_crowd nd (fun n => (s_go wv vs ds nh nd own now σ n).1) i_4).2 = (s_crowd nd (fun n => (s_go wv vs ds nh nd own now σ n).1) (i_4 + 1)).2 := by simp [s_crowd, hb_7, c_12, c_22, c_22']
        refine z_lv (lv' := [(0, .ref (A 99)), (1, .int ((s_crowd nd (fun n => (s_go wv vs ds nh nd own now σ n).1) (i_4 + 1)).1)), (2, .int ((s_crowd nd (fun n => (s_go wv vs ds nh nd own now σ n).1) (i_4 + 1)).2)), (3, .int (nI (i_4 + 1)))]) [2, 3, 4, 0] (by rw [← f_27, ← f_28]; rfl) ?_
        refine z_X (X' := (cX g A (cput (cput (zs K 99 8 ((s_pass wv vs ds nh nd own (now + i_4) ((s_go wv vs ds nh nd own now σ i_4).1)).2.2)) 300 σ ds (nI (now % 12)) (nI (now / 12))) 310 ((s_go wv vs ds nh nd own now σ (i_4 + 1)).1) ds (nI ((now + (i_4 + 1)) % 12)) (nI ((now + (i_4 + 1)) / 12))) F_23 O gl X)) (by rfl) ?_
        exact ih_6 (i_4 + 1) (by omega) (by omega) _ _ 
      · -- ¬ s_bits (s_some ((s_go wv vs ds nh nd own now σ i_4).1) nd) 30 ≤ (s_crowd nd (fun n => (s_go wv vs ds nh nd own now σ n).1) i_4).2
        have c_22' := Int32.not_le.mp c_22
        refine z_iload 0 dX1_crowd_41 rfl ?_
        refine z_istore_n (lv' := [(2, .int (s_bits (s_some ((s_go wv vs ds nh nd own now σ i_4).1) nd) 30)), (4, .int (s_bits (s_some ((s_go wv vs ds nh nd own now σ i_4).1) nd) 30)), (0, .ref (A 99)), (1, .int ((s_crowd nd (fun n => (s_go wv vs ds nh nd own now σ n).1) i_4).1)), (3, .int (nI (i_4)))]) dX1_crowd_43 rfl (by decide) rfl ?_
        refine z_iload_n 4 dX1_crowd_44 rfl ?_
        refine z_istore_n (lv' := [(1, .int (nI (i_4))), (2, .int (s_bits (s_some ((s_go wv vs ds nh nd own now σ i_4).1) nd) 30)), (4, .int (s_bits (s_some ((s_go wv vs ds nh nd own now σ i_4).1) nd) 30)), (0, .ref (A 99)), (3, .int (nI (i_4)))]) dX1_crowd_45 rfl (by decide) rfl ?_
        refine z_aload_n 3 dX1_crowd_46 rfl ?_
        refine z_aload_n 3 dX1_crowd_47 rfl ?_
        refine cz_get (v := .ref (A 319)) 5 hA (by decide) q332 rfl dX1_crowd_48 ?_
        refine z_callV (As := [.ref (A 319)]) (c_passT (K := K) (F := F_9) (gl := gl) (σ0 := σ) (ds0 := ds) (dt0 := (nI (now % 12))) (yr0 := (nI (now / 12))) (σ := (s_go wv vs ds nh nd own now σ i_4).1) (ds := ds) hA hO hV hv (now := now + i_4) (by omega) (s_iv_go hV hiv i_4)) q1209 q1211 qs36 q112 q1212 nm_X1_passes (cX_obj hA) rfl rfl rfl (Nat.le_of_ble_eq_true rfl) ⟨Nat.le_of_ble_eq_true rfl, Nat.le_of_ble_eq_true rfl⟩ dX1_crowd_51 rfl rfl (Nat.le_of_ble_eq_true rfl) (Nat.le_of_ble_eq_true rfl) (fun v_30 X_31 hp_32 => ?_)
        obtain ⟨rfl, F_29, rfl⟩ := hp_32
        refine z_st (st' := [.int ((s_pass wv vs ds nh nd own (now + i_4) ((s_go wv vs ds nh nd own now σ i_4).1)).2.1)]) rfl ?_
        refine z_pop dX1_crowd_54 rfl ?_
        refine z_iinc (v := nI (i_4 + 1)) (lv' := [(3, .int (nI (i_4 + 1))), (1, .int (nI (i_4))), (2, .int (s_bits (s_some ((s_go wv vs ds nh nd own now σ i_4).1) nd) 30)), (4, .int (s_bits (s_some ((s_go wv vs ds nh nd own now σ i_4).1) nd) 30)), (0, .ref (A 99))]) 4 dX1_crowd_55 rfl (nI_1 _) (by decide) rfl ?_
        refine z_goto 17 dX1_crowd_58 (by decide) ?_
        have f_33 : nI (i_4) = (s_crowd nd (fun n => (s_go wv vs ds nh nd own now σ n).1) (i_4 + 1)).1 := by simp [s_crowd, hb_7, c_12, c_22, c_22']
        have f_34 : s_bits (s_some ((s_go wv vs ds nh nd own now σ i_4).1) nd) 30 = (s_crowd nd (fun n => (s_go wv vs ds nh nd own now σ n).1) (i_4 + 1)).2 := by simp [s_crowd, hb_7, c_12, c_22, c_22']
        refine z_lv (lv' := [(0, .ref (A 99)), (1, .int ((s_crowd nd (fun n => (s_go wv vs ds nh nd own now σ n).1) (i_4 + 1)).1)), (2, .int ((s_crowd nd (fun n => (s_go wv vs ds nh nd own now σ n).1) (i_4 + 1)).2)), (3, .int (nI (i_4 + 1)))]) [4, 1, 2, 0] (by rw [← f_33, ← f_34]; rfl) ?_
        refine z_X (X' := (cX g A (cput (cput (zs K 99 8 ((s_pass wv vs ds nh nd own (now + i_4) ((s_go wv vs ds nh nd own now σ i_4).1)).2.2)) 300 σ ds (nI (now % 12)) (nI (now / 12))) 310 ((s_go wv vs ds nh nd own now σ (i_4 + 1)).1) ds (nI ((now + (i_4 + 1)) % 12)) (nI ((now + (i_4 + 1)) / 12))) F_29 O gl X)) (by rfl) ?_
        exact ih_6 (i_4 + 1) (by omega) (by omega) _ _ 
  have f_35 : 0 = (s_crowd nd (fun n => (s_go wv vs ds nh nd own now σ n).1) 0).1 := by rfl
  have f_36 : zm1 = (s_crowd nd (fun n => (s_go wv vs ds nh nd own now σ n).1) 0).2 := by rfl
  refine z_lv (lv' := [(0, .ref (A 99)), (1, .int ((s_crowd nd (fun n => (s_go wv vs ds nh nd own now σ n).1) 0).1)), (2, .int ((s_crowd nd (fun n => (s_go wv vs ds nh nd own now σ n).1) 0).2)), (3, .int 0)]) [3, 2, 1, 0] (by rw [← f_35, ← f_36]; rfl) ?_
  refine z_X (X' := (cX g A (cput (cput (zs K 99 8 o) 300 σ ds (nI (now % 12)) (nI (now / 12))) 310 ((s_go wv vs ds nh nd own now σ 0).1) ds (nI (now % 12)) (nI (now / 12))) F O gl X)) (by rfl) ?_
  exact loop_8 (61 - 0) 0 (by omega) (Nat.le_refl _) _ _ 
