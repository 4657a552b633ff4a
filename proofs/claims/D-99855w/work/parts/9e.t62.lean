/-! THE COMPONENT: laid anew. Printed by t62.py -/
set_option maxRecDepth 100000
theorem s_cz_w {τ : Nat → Int32} {nd d : Nat} {v : Int32} (h : s_cz τ nd) (hd : d < nd) (hnd : nd ≤ 6) : s_cz (zs1 τ (d + 6) v) nd := fun g h1 h2 => ⟨(zs1_n (by omega)).trans (h g h1 h2).1, (zs1_n (by omega)).trans (h g h1 h2).2⟩
theorem s_cz_none {σ : Nat → Int32} {nd : Nat} (h : s_cz σ nd) : s_cz (s_none σ 6) nd := fun g h1 h2 => ⟨if_pos (by omega), (if_neg (by omega)).trans (h g h1 h2).2⟩
set_option maxHeartbeats 4000000 in
theorem c_lays_0 {g : zG} {A : Nat → Nat} {K : Nat → Nat → Int32} {F : Nat → Int32} {O : Nat → Nat → Option Nat} {gl : Int64} {X : zX} (hA : cok g A X) {v : Nat} (hO : O 0 0 = some v) {vs : Nat → Int32} {nh nd : Nat} {own : Nat → Nat} {wv : Int32 → Int32 → Int32 → Int32 → Int32} (hV : s_ok vs nh nd own) (hv : cvl g X v vs nh nd wv) {σ ds τ es : Nat → Int32} {dt2 yr2 o : Int32} {now : Nat} (hnow : now < 2 ^ 28) (hiv : s_iv σ nd) (d : Nat) (hd : d + 0 = nd) (hzτ : s_cz τ nd) (hτ : ∀ j, d ≤ j → j < nd → τ (j + 6) = zm1) : zN g m_X1_lays ({ frames := 2, cells := 0, slots := 0, locals := 40 } : Room) [.ref (A 99), .int (nI (d))] (cX g A (cput (cput (zs K 99 8 o) 300 σ ds (nI (now % 12)) (nI (now / 12))) 310 τ es dt2 yr2) F O gl X) (fun rv X' => rv = some (.int (s_lays vs σ nh nd 0 τ)) ∧ X' = (cX g A (cput (cput (zs K 99 8 o) 300 σ ds (nI (now % 12)) (nI (now / 12))) 310 τ es dt2 yr2) F O gl X)) := by
  refine zN.of (by decide +kernel) (Nat.le_of_ble_eq_true rfl) rfl ?_
  refine z_lv (lv' := [(0, .ref (A 99)), (1, .int (nI (d)))]) [0, 1] rfl ?_
  have hA2 := hA.2.2.1
  have hV9 := hV
  have hv9 := hv
  obtain ⟨h0, hnh, h1, hnd, hown⟩ := hV9
  obtain ⟨lh, lg, fh, fg, st9, fa, hxv, ⟨mh, eh, ch, hlh, heh, hch1, hch2⟩, ⟨mg, eg, cg, hlg, heg, hcg1, hcg2⟩, hhs, hgs, hst9, hfa⟩ := hv9
  refine z_iload_n 1 dX1_lays_0 rfl ?_
  refine z_aload_n 0 dX1_lays_1 rfl ?_
  refine z_callV (As := []) (c_guests (K := (cput (cput (zs K 99 8 o) 300 σ ds (nI (now % 12)) (nI (now / 12))) 310 τ es dt2 yr2)) (F := F) (gl := gl) hA hO hxv hlh heh hch1 hch2 hlg heg hcg1 hcg2) q1139 q1141 qs30 q112 q1142 nm_X1_guests (cX_obj hA) rfl rfl rfl (Nat.le_of_ble_eq_true rfl) ⟨Nat.le_of_ble_eq_true rfl, Nat.le_of_ble_eq_true rfl⟩ dX1_lays_2 rfl rfl (Nat.le_of_ble_eq_true rfl) (Nat.le_of_ble_eq_true rfl) (fun v_1 X_2 hp_3 => ?_)
  obtain ⟨rfl, rfl⟩ := hp_3
  refine z_st (st' := [.int (nI (nd)), .int (nI (d))]) rfl ?_
  refine z_icmp_neN (a := d) (b := nd) 10 (by omega) (by omega) dX1_lays_5 (by decide) (fun c_4 => absurd c_4 ((fun h => h (by omega)))) (fun c_4 => ?_)
  refine z_iconst (v := 1) dX1_lays_8 (by decide) ?_
  exact z_iret dX1_lays_9 rfl (Nat.le_of_ble_eq_true rfl) (Nat.le_of_ble_eq_true rfl) ⟨rfl, rfl⟩
set_option maxHeartbeats 4000000 in
theorem c_lays_1 {g : zG} {A : Nat → Nat} {K : Nat → Nat → Int32} {F : Nat → Int32} {O : Nat → Nat → Option Nat} {gl : Int64} {X : zX} (hA : cok g A X) {v : Nat} (hO : O 0 0 = some v) {vs : Nat → Int32} {nh nd : Nat} {own : Nat → Nat} {wv : Int32 → Int32 → Int32 → Int32 → Int32} (hV : s_ok vs nh nd own) (hv : cvl g X v vs nh nd wv) {σ ds τ es : Nat → Int32} {dt2 yr2 o : Int32} {now : Nat} (hnow : now < 2 ^ 28) (hiv : s_iv σ nd) (d : Nat) (hd : d + 1 = nd) (hzτ : s_cz τ nd) (hτ : ∀ j, d ≤ j → j < nd → τ (j + 6) = zm1) : zN g m_X1_lays ({ frames := 6, cells := 0, slots := 0, locals := 132 } : Room) [.ref (A 99), .int (nI (d))] (cX g A (cput (cput (zs K 99 8 o) 300 σ ds (nI (now % 12)) (nI (now / 12))) 310 τ es dt2 yr2) F O gl X) (fun rv X' => rv = some (.int (s_lays vs σ nh nd 1 τ)) ∧ X' = (cX g A (cput (cput (zs K 99 8 o) 300 σ ds (nI (now % 12)) (nI (now / 12))) 310 τ es dt2 yr2) F O gl X)) := by
  refine zN.of (by decide +kernel) (Nat.le_of_ble_eq_true rfl) rfl ?_
  refine z_lv (lv' := [(0, .ref (A 99)), (1, .int (nI (d)))]) [0, 1] rfl ?_
  have hA2 := hA.2.2.1
  have hV9 := hV
  have hv9 := hv
  obtain ⟨h0, hnh, h1, hnd, hown⟩ := hV9
  obtain ⟨lh, lg, fh, fg, st9, fa, hxv, ⟨mh, eh, ch, hlh, heh, hch1, hch2⟩, ⟨mg, eg, cg, hlg, heg, hcg1, hcg2⟩, hhs, hgs, hst9, hfa⟩ := hv9
  refine z_iload_n 1 dX1_lays_0 rfl ?_
  refine z_aload_n 0 dX1_lays_1 rfl ?_
  refine z_callV (As := []) (c_guests (K := (cput (cput (zs K 99 8 o) 300 σ ds (nI (now % 12)) (nI (now / 12))) 310 τ es dt2 yr2)) (F := F) (gl := gl) hA hO hxv hlh heh hch1 hch2 hlg heg hcg1 hcg2) q1139 q1141 qs30 q112 q1142 nm_X1_guests (cX_obj hA) rfl rfl rfl (Nat.le_of_ble_eq_true rfl) ⟨Nat.le_of_ble_eq_true rfl, Nat.le_of_ble_eq_true rfl⟩ dX1_lays_2 rfl rfl (Nat.le_of_ble_eq_true rfl) (Nat.le_of_ble_eq_true rfl) (fun v_1 X_2 hp_3 => ?_)
  obtain ⟨rfl, rfl⟩ := hp_3
  refine z_st (st' := [.int (nI (nd)), .int (nI (d))]) rfl ?_
  refine z_icmp_neN (a := d) (b := nd) 10 (by omega) (by omega) dX1_lays_5 (by decide) (fun c_4 => ?_) (fun c_4 => absurd c_4 ((by omega)))
  refine z_aload_n 0 dX1_lays_10 rfl ?_
  refine cz_get (v := .ref (A 309)) 4 hA (by decide) q331 rfl dX1_lays_11 ?_
  refine cz_getSN (s := 300) (v := .ref (A 302)) 2 hA (cst_0 hA) (by decide) q265 rfl dX1_lays_14 ?_
  refine z_iload_n 1 dX1_lays_17 rfl ?_
  refine cz_iald (v := σ (d + 6)) 302 d hA (by unfold cia; omega) rfl (by have h9 : csz 302 = 6 := rfl; omega) (by rw [cput_a (by omega), cput_where (by omega)]) dX1_lays_18 ?_
  refine z_if_ge 30 dX1_lays_19 (by decide) (fun c_5 => ?_) (fun c_5 => ?_)
  · -- 0 ≤ σ (d + 6)
    have c_5' := Int32.not_lt.mpr c_5
    refine z_iconst (v := 0) dX1_lays_30 (by decide) ?_
    refine z_istore_n (lv' := [(2, .int 0), (0, .ref (A 99)), (1, .int (nI (d)))]) dX1_lays_31 rfl (by decide) rfl ?_
    refine z_iconst (v := 0) dX1_lays_32 (by decide) ?_
    refine z_istore_n (lv' := [(3, .int 0), (2, .int 0), (0, .ref (A 99)), (1, .int (nI (d)))]) dX1_lays_33 rfl (by decide) rfl ?_
    have loop_10 : ∀ (q_7 i_6 : Nat), i_6 + q_7 = nh → 0 ≤ i_6 → zZ g m_X1_lays (fun rv X' => rv = some (.int (s_lays vs σ nh nd 1 τ)) ∧ X' = (cX g A (cput (cput (zs K 99 8 o) 300 σ ds (nI (now % 12)) (nI (now / 12))) 310 τ es dt2 yr2) F O gl X), zno, ({ frames := 6, cells := 0, slots := 0, locals := 132 } : Room)) 0 0 (cX g A (cput (cput (zs K 99 8 o) 300 σ ds (nI (now % 12)) (nI (now / 12))) 310 τ es dt2 yr2) F O gl X) 34 [(0, .ref (A 99)), (1, .int (nI (d))), (2, .int (s_sum (fun h => if s_holds vs τ nd h d = true then s_lays vs σ nh nd 0 (zs1 τ (d + 6) (nI h)) else 0) i_6)), (3, .int (nI (i_6)))] [] := by
      intro q_7
      induction q_7 with
      | zero =>
        intro i_6 hb_9 lo_11  
        obtain rfl : nh = i_6 := by omega
        refine z_iload_n 3 dX1_lays_34 rfl ?_
        refine z_aload_n 0 dX1_lays_35 rfl ?_
        refine z_callV (As := []) (c_houses (K := (cput (cput (zs K 99 8 o) 300 σ ds (nI (now % 12)) (nI (now / 12))) 310 τ es dt2 yr2)) (F := F) (gl := gl) hA hO hxv hlh heh hch1 hch2 hlg heg hcg1 hcg2) q1127 q1129 qs28 q112 q1130 nm_X1_houses (cX_obj hA) rfl rfl rfl (Nat.le_of_ble_eq_true rfl) ⟨Nat.le_of_ble_eq_true rfl, Nat.le_of_ble_eq_true rfl⟩ dX1_lays_36 rfl rfl (Nat.le_of_ble_eq_true rfl) (Nat.le_of_ble_eq_true rfl) (fun v_12 X_13 hp_14 => ?_)
        obtain ⟨rfl, rfl⟩ := hp_14
        refine z_st (st' := [.int (nI (nh)), .int (nI (nh))]) rfl ?_
        refine z_icmp_geN (a := nh) (b := nh) 94 (by omega) (by omega) dX1_lays_39 (by decide) (fun c_15 => ?_) (fun c_15 => absurd c_15 (by omega))
        refine z_iload_n 2 dX1_lays_94 rfl ?_
        exact z_iret dX1_lays_95 rfl (Nat.le_of_ble_eq_true rfl) (Nat.le_of_ble_eq_true rfl) ⟨congrArg some (congrArg Value.int (by show _ = s_lays vs σ nh nd (0 + 1) τ; rw [s_lays_1 (r := 0), show nd - (0 + 1) = d by omega]; simp [c_5, c_5'])), rfl⟩
      | succ q_7 ih_8 =>
        intro i_6 hb_9 lo_11  
        refine z_iload_n 3 dX1_lays_34 rfl ?_
        refine z_aload_n 0 dX1_lays_35 rfl ?_
        refine z_callV (As := []) (c_houses (K := (cput (cput (zs K 99 8 o) 300 σ ds (nI (now % 12)) (nI (now / 12))) 310 τ es dt2 yr2)) (F := F) (gl := gl) hA hO hxv hlh heh hch1 hch2 hlg heg hcg1 hcg2) q1127 q1129 qs28 q112 q1130 nm_X1_houses (cX_obj hA) rfl rfl rfl (Nat.le_of_ble_eq_true rfl) ⟨Nat.le_of_ble_eq_true rfl, Nat.le_of_ble_eq_true rfl⟩ dX1_lays_36 rfl rfl (Nat.le_of_ble_eq_true rfl) (Nat.le_of_ble_eq_true rfl) (fun v_16 X_17 hp_18 => ?_)
        obtain ⟨rfl, rfl⟩ := hp_18
        refine z_st (st' := [.int (nI (nh)), .int (nI (i_6))]) rfl ?_
        refine z_icmp_geN (a := i_6) (b := nh) 94 (by omega) (by omega) dX1_lays_39 (by decide) (fun c_19 => absurd c_19 (by omega)) (fun c_19 => ?_)
        refine z_aload_n 0 dX1_lays_42 rfl ?_
        refine z_aload_n 0 dX1_lays_43 rfl ?_
        refine cz_get (v := .ref (A 319)) 5 hA (by decide) q332 rfl dX1_lays_44 ?_
        refine z_iload_n 3 dX1_lays_47 rfl ?_
        refine z_iload_n 1 dX1_lays_48 rfl ?_
        refine z_callV (As := [.ref (A 319), .int (nI (i_6)), .int (nI (d))]) (c_holds (F := F) (gl := gl) (K := (cput (zs K 99 8 o) 300 σ ds (nI (now % 12)) (nI (now / 12)))) (σ := τ) (ds := es) (dt := dt2) (yr := yr2) hA hO hV hv (cst_1 hA) hzτ i_6 d (by omega) (by omega)) q1237 q1239 qs38 q112 q1240 nm_X1_holds (cX_obj hA) rfl rfl rfl (Nat.le_of_ble_eq_true rfl) ⟨Nat.le_of_ble_eq_true rfl, Nat.le_of_ble_eq_true rfl⟩ dX1_lays_49 rfl rfl (Nat.le_of_ble_eq_true rfl) (Nat.le_of_ble_eq_true rfl) (fun v_20 X_21 hp_22 => ?_)
        obtain ⟨rfl, rfl⟩ := hp_22
        refine z_st (st' := [.int (zb (s_holds vs τ nd i_6 d))]) rfl ?_
        refine z_if_neb 58 dX1_lays_52 (by decide) (fun c_23 => ?_) (fun c_23 => ?_)
        · -- s_holds vs τ nd i_6 d = true
          refine z_aload_n 0 dX1_lays_58 rfl ?_
          refine cz_get (v := .ref (A 319)) 5 hA (by decide) q332 rfl dX1_lays_59 ?_
          refine cz_getSN (s := 310) (v := .ref (A 312)) 2 hA (cst_1 hA) (by decide) q265 rfl dX1_lays_62 ?_
          refine z_iload_n 1 dX1_lays_65 rfl ?_
          refine z_iload_n 3 dX1_lays_66 rfl ?_
          refine cz_iast (K' := (cput (cput (zs K 99 8 o) 300 σ ds (nI (now % 12)) (nI (now / 12))) 310 (zs1 τ (d + 6) (nI (i_6))) es dt2 yr2)) 312 d hA (by unfold cia; omega) rfl (by have h9 : csz 312 = 6 := rfl; omega) (by rw [cput_zwhere (by omega)]) dX1_lays_67 ?_
          refine z_iload_n 2 dX1_lays_68 rfl ?_
          refine z_aload_n 0 dX1_lays_69 rfl ?_
          refine z_iload_n 1 dX1_lays_70 rfl ?_
          refine z_iconst (v := 1) dX1_lays_71 (by decide) ?_
          refine z_iaddN (a := d) (b := 1) dX1_lays_72 ?_
          refine z_callV (As := [.int (nI (d + 1))]) (c_lays_0 (K := K) (F := F) (gl := gl) (σ := σ) (ds := ds) (τ := (zs1 τ (d + 6) (nI (i_6)))) (es := es) (dt2 := dt2) (yr2 := yr2) (o := o) hA hO hV hv hnow hiv (d + 1) (by omega) (s_cz_w hzτ (by omega) hnd) (fun j h8 h9 => (zs1_n (by omega)).trans (hτ j (by omega) (by omega)))) q1370 q1372 qs43 q112 q1373 nm_X1_lays (cX_obj hA) rfl rfl rfl (Nat.le_of_ble_eq_true rfl) ⟨Nat.le_of_ble_eq_true rfl, Nat.le_of_ble_eq_true rfl⟩ dX1_lays_73 rfl rfl (Nat.le_of_ble_eq_true rfl) (Nat.le_of_ble_eq_true rfl) (fun v_24 X_25 hp_26 => ?_)
          obtain ⟨rfl, rfl⟩ := hp_26
          refine z_st (st' := [.int (s_lays vs σ nh nd 0 (zs1 τ (d + 6) (nI (i_6)))), .int (s_sum (fun h => if s_holds vs τ nd h d = true then s_lays vs σ nh nd 0 (zs1 τ (d + 6) (nI h)) else 0) i_6)]) rfl ?_
          refine z_iadd dX1_lays_76 ?_
          obtain ⟨x_27, ex_27⟩ : ∃ y : Int32, ((s_sum (fun h => if s_holds vs τ nd h d = true then s_lays vs σ nh nd 0 (zs1 τ (d + 6) (nI h)) else 0) i_6) + (s_lays vs σ nh nd 0 (zs1 τ (d + 6) (nI (i_6))))) = y := ⟨_, rfl⟩
          refine z_eq ex_27 ?_
          refine z_istore_n (lv' := [(2, .int x_27), (0, .ref (A 99)), (1, .int (nI (d))), (3, .int (nI (i_6)))]) dX1_lays_77 rfl (by decide) rfl ?_
          refine z_aload_n 1 dX1_lays_78 rfl ?_
          refine cz_get (v := .ref (A 319)) 5 hA (by decide) q332 rfl dX1_lays_79 ?_
          refine cz_getSN (s := 310) (v := .ref (A 312)) 2 hA (cst_1 hA) (by decide) q265 rfl dX1_lays_82 ?_
          refine z_iload_n 2 dX1_lays_85 rfl ?_
          refine z_iconst (v := zm1) dX1_lays_86 (by decide) ?_
          refine cz_iast (K' := (cput (cput (zs K 99 8 o) 300 σ ds (nI (now % 12)) (nI (now / 12))) 310 (zs1 (zs1 τ (d + 6) (nI (i_6))) (d + 6) zm1) es dt2 yr2)) 312 d hA (by unfold cia; omega) rfl (by have h9 : csz 312 = 6 := rfl; omega) (by rw [cput_zwhere (by omega)]) dX1_lays_87 ?_
          refine z_iinc (v := nI (i_6 + 1)) (lv' := [(3, .int (nI (i_6 + 1))), (2, .int x_27), (0, .ref (A 99)), (1, .int (nI (d)))]) 3 dX1_lays_88 rfl (nI_1 _) (by decide) rfl ?_
          refine z_goto 34 dX1_lays_91 (by decide) ?_
          have f_28 : x_27 = s_sum (fun h => if s_holds vs τ nd h d = true then s_lays vs σ nh nd 0 (zs1 τ (d + 6) (nI h)) else 0) (i_6 + 1) := by (try subst ex_27); simp [s_sum, c_4, c_5, c_5', c_19, c_23]
          subst f_28
          refine z_lv (lv' := [(0, .ref (A 99)), (1, .int (nI (d))), (2, .int (s_sum (fun h => if s_holds vs τ nd h d = true then s_lays vs σ nh nd 0 (zs1 τ (d + 6) (nI h)) else 0) (i_6 + 1))), (3, .int (nI (i_6 + 1)))]) [2, 3, 1, 0] rfl ?_
          refine z_X (X' := (cX g A (cput (cput (zs K 99 8 o) 300 σ ds (nI (now % 12)) (nI (now / 12))) 310 τ es dt2 yr2) F O gl X)) (congrArg (fun z => cX g A (cput (cput (zs K 99 8 o) 300 σ ds (nI (now % 12)) (nI (now / 12))) 310 z es dt2 yr2) F O gl X) (zs1_back (hτ d (Nat.le_refl _) (by omega)))) ?_
          exact ih_8 (i_6 + 1) (by omega) (by omega)  
        · -- s_holds vs τ nd i_6 d = false
          refine z_goto 88 dX1_lays_55 (by decide) ?_
          refine z_iinc (v := nI (i_6 + 1)) (lv' := [(3, .int (nI (i_6 + 1))), (0, .ref (A 99)), (1, .int (nI (d))), (2, .int (s_sum (fun h => if s_holds vs τ nd h d = true then s_lays vs σ nh nd 0 (zs1 τ (d + 6) (nI h)) else 0) i_6))]) 3 dX1_lays_88 rfl (nI_1 _) (by decide) rfl ?_
          refine z_goto 34 dX1_lays_91 (by decide) ?_
          have f_29 : s_sum (fun h => if s_holds vs τ nd h d = true then s_lays vs σ nh nd 0 (zs1 τ (d + 6) (nI h)) else 0) i_6 = s_sum (fun h => if s_holds vs τ nd h d = true then s_lays vs σ nh nd 0 (zs1 τ (d + 6) (nI h)) else 0) (i_6 + 1) := by skip; simp [s_sum, c_4, c_5, c_5', c_19, c_23]
          refine z_lv (lv' := [(0, .ref (A 99)), (1, .int (nI (d))), (2, .int (s_sum (fun h => if s_holds vs τ nd h d = true then s_lays vs σ nh nd 0 (zs1 τ (d + 6) (nI h)) else 0) (i_6 + 1))), (3, .int (nI (i_6 + 1)))]) [1, 2, 3, 0] (by rw [← f_29]; rfl) ?_
          exact ih_8 (i_6 + 1) (by omega) (by omega)  
    have f_30 : 0 = s_sum (fun h => if s_holds vs τ nd h d = true then s_lays vs σ nh nd 0 (zs1 τ (d + 6) (nI h)) else 0) 0 := by rfl
    refine z_lv (lv' := [(0, .ref (A 99)), (1, .int (nI (d))), (2, .int (s_sum (fun h => if s_holds vs τ nd h d = true then s_lays vs σ nh nd 0 (zs1 τ (d + 6) (nI h)) else 0) 0)), (3, .int 0)]) [2, 3, 1, 0] (by rw [← f_30]; rfl) ?_
    exact loop_10 (nh - 0) 0 (by omega) (Nat.le_refl _)  
  · -- ¬ 0 ≤ σ (d + 6)
    have c_5' := Int32.not_le.mp c_5
    refine z_aload_n 0 dX1_lays_22 rfl ?_
    refine z_iload_n 1 dX1_lays_23 rfl ?_
    refine z_iconst (v := 1) dX1_lays_24 (by decide) ?_
    refine z_iaddN (a := d) (b := 1) dX1_lays_25 ?_
    refine z_callV (As := [.int (nI (d + 1))]) (c_lays_0 (K := K) (F := F) (gl := gl) (σ := σ) (ds := ds) (τ := τ) (es := es) (dt2 := dt2) (yr2 := yr2) (o := o) hA hO hV hv hnow hiv (d + 1) (by omega) hzτ (fun j h8 h9 => (hτ j (by omega) (by omega)))) q1370 q1372 qs43 q112 q1373 nm_X1_lays (cX_obj hA) rfl rfl rfl (Nat.le_of_ble_eq_true rfl) ⟨Nat.le_of_ble_eq_true rfl, Nat.le_of_ble_eq_true rfl⟩ dX1_lays_26 rfl rfl (Nat.le_of_ble_eq_true rfl) (Nat.le_of_ble_eq_true rfl) (fun v_31 X_32 hp_33 => ?_)
    obtain ⟨rfl, rfl⟩ := hp_33
    refine z_st (st' := [.int (s_lays vs σ nh nd 0 τ)]) rfl ?_
    exact z_iret dX1_lays_29 rfl (Nat.le_of_ble_eq_true rfl) (Nat.le_of_ble_eq_true rfl) ⟨congrArg some (congrArg Value.int (by show _ = s_lays vs σ nh nd (0 + 1) τ; rw [s_lays_1 (r := 0), show nd - (0 + 1) = d by omega]; simp [c_5, c_5'])), rfl⟩
set_option maxHeartbeats 4000000 in
theorem c_lays_2 {g : zG} {A : Nat → Nat} {K : Nat → Nat → Int32} {F : Nat → Int32} {O : Nat → Nat → Option Nat} {gl : Int64} {X : zX} (hA : cok g A X) {v : Nat} (hO : O 0 0 = some v) {vs : Nat → Int32} {nh nd : Nat} {own : Nat → Nat} {wv : Int32 → Int32 → Int32 → Int32 → Int32} (hV : s_ok vs nh nd own) (hv : cvl g X v vs nh nd wv) {σ ds τ es : Nat → Int32} {dt2 yr2 o : Int32} {now : Nat} (hnow : now < 2 ^ 28) (hiv : s_iv σ nd) (d : Nat) (hd : d + 2 = nd) (hzτ : s_cz τ nd) (hτ : ∀ j, d ≤ j → j < nd → τ (j + 6) = zm1) : zN g m_X1_lays ({ frames := 7, cells := 0, slots := 0, locals := 155 } : Room) [.ref (A 99), .int (nI (d))] (cX g A (cput (cput (zs K 99 8 o) 300 σ ds (nI (now % 12)) (nI (now / 12))) 310 τ es dt2 yr2) F O gl X) (fun rv X' => rv = some (.int (s_lays vs σ nh nd 2 τ)) ∧ X' = (cX g A (cput (cput (zs K 99 8 o) 300 σ ds (nI (now % 12)) (nI (now / 12))) 310 τ es dt2 yr2) F O gl X)) := by
  refine zN.of (by decide +kernel) (Nat.le_of_ble_eq_true rfl) rfl ?_
  refine z_lv (lv' := [(0, .ref (A 99)), (1, .int (nI (d)))]) [0, 1] rfl ?_
  have hA2 := hA.2.2.1
  have hV9 := hV
  have hv9 := hv
  obtain ⟨h0, hnh, h1, hnd, hown⟩ := hV9
  obtain ⟨lh, lg, fh, fg, st9, fa, hxv, ⟨mh, eh, ch, hlh, heh, hch1, hch2⟩, ⟨mg, eg, cg, hlg, heg, hcg1, hcg2⟩, hhs, hgs, hst9, hfa⟩ := hv9
  refine z_iload_n 1 dX1_lays_0 rfl ?_
  refine z_aload_n 0 dX1_lays_1 rfl ?_
  refine z_callV (As := []) (c_guests (K := (cput (cput (zs K 99 8 o) 300 σ ds (nI (now % 12)) (nI (now / 12))) 310 τ es dt2 yr2)) (F := F) (gl := gl) hA hO hxv hlh heh hch1 hch2 hlg heg hcg1 hcg2) q1139 q1141 qs30 q112 q1142 nm_X1_guests (cX_obj hA) rfl rfl rfl (Nat.le_of_ble_eq_true rfl) ⟨Nat.le_of_ble_eq_true rfl, Nat.le_of_ble_eq_true rfl⟩ dX1_lays_2 rfl rfl (Nat.le_of_ble_eq_true rfl) (Nat.le_of_ble_eq_true rfl) (fun v_1 X_2 hp_3 => ?_)
  obtain ⟨rfl, rfl⟩ := hp_3
  refine z_st (st' := [.int (nI (nd)), .int (nI (d))]) rfl ?_
  refine z_icmp_neN (a := d) (b := nd) 10 (by omega) (by omega) dX1_lays_5 (by decide) (fun c_4 => ?_) (fun c_4 => absurd c_4 ((by omega)))
  refine z_aload_n 0 dX1_lays_10 rfl ?_
  refine cz_get (v := .ref (A 309)) 4 hA (by decide) q331 rfl dX1_lays_11 ?_
  refine cz_getSN (s := 300) (v := .ref (A 302)) 2 hA (cst_0 hA) (by decide) q265 rfl dX1_lays_14 ?_
  refine z_iload_n 1 dX1_lays_17 rfl ?_
  refine cz_iald (v := σ (d + 6)) 302 d hA (by unfold cia; omega) rfl (by have h9 : csz 302 = 6 := rfl; omega) (by rw [cput_a (by omega), cput_where (by omega)]) dX1_lays_18 ?_
  refine z_if_ge 30 dX1_lays_19 (by decide) (fun c_5 => ?_) (fun c_5 => ?_)
  · -- 0 ≤ σ (d + 6)
    have c_5' := Int32.not_lt.mpr c_5
    refine z_iconst (v := 0) dX1_lays_30 (by decide) ?_
    refine z_istore_n (lv' := [(2, .int 0), (0, .ref (A 99)), (1, .int (nI (d)))]) dX1_lays_31 rfl (by decide) rfl ?_
    refine z_iconst (v := 0) dX1_lays_32 (by decide) ?_
    refine z_istore_n (lv' := [(3, .int 0), (2, .int 0), (0, .ref (A 99)), (1, .int (nI (d)))]) dX1_lays_33 rfl (by decide) rfl ?_
    have loop_10 : ∀ (q_7 i_6 : Nat), i_6 + q_7 = nh → 0 ≤ i_6 → zZ g m_X1_lays (fun rv X' => rv = some (.int (s_lays vs σ nh nd 2 τ)) ∧ X' = (cX g A (cput (cput (zs K 99 8 o) 300 σ ds (nI (now % 12)) (nI (now / 12))) 310 τ es dt2 yr2) F O gl X), zno, ({ frames := 7, cells := 0, slots := 0, locals := 155 } : Room)) 0 0 (cX g A (cput (cput (zs K 99 8 o) 300 σ ds (nI (now % 12)) (nI (now / 12))) 310 τ es dt2 yr2) F O gl X) 34 [(0, .ref (A 99)), (1, .int (nI (d))), (2, .int (s_sum (fun h => if s_holds vs τ nd h d = true then s_lays vs σ nh nd 1 (zs1 τ (d + 6) (nI h)) else 0) i_6)), (3, .int (nI (i_6)))] [] := by
      intro q_7
      induction q_7 with
      | zero =>
        intro i_6 hb_9 lo_11  
        obtain rfl : nh = i_6 := by omega
        refine z_iload_n 3 dX1_lays_34 rfl ?_
        refine z_aload_n 0 dX1_lays_35 rfl ?_
        refine z_callV (As := []) (c_houses (K := (cput (cput (zs K 99 8 o) 300 σ ds (nI (now % 12)) (nI (now / 12))) 310 τ es dt2 yr2)) (F := F) (gl := gl) hA hO hxv hlh heh hch1 hch2 hlg heg hcg1 hcg2) q1127 q1129 qs28 q112 q1130 nm_X1_houses (cX_obj hA) rfl rfl rfl (Nat.le_of_ble_eq_true rfl) ⟨Nat.le_of_ble_eq_true rfl, Nat.le_of_ble_eq_true rfl⟩ dX1_lays_36 rfl rfl (Nat.le_of_ble_eq_true rfl) (Nat.le_of_ble_eq_true rfl) (fun v_12 X_13 hp_14 => ?_)
        obtain ⟨rfl, rfl⟩ := hp_14
        refine z_st (st' := [.int (nI (nh)), .int (nI (nh))]) rfl ?_
        refine z_icmp_geN (a := nh) (b := nh) 94 (by omega) (by omega) dX1_lays_39 (by decide) (fun c_15 => ?_) (fun c_15 => absurd c_15 (by omega))
        refine z_iload_n 2 dX1_lays_94 rfl ?_
        exact z_iret dX1_lays_95 rfl (Nat.le_of_ble_eq_true rfl) (Nat.le_of_ble_eq_true rfl) ⟨congrArg some (congrArg Value.int (by show _ = s_lays vs σ nh nd (1 + 1) τ; rw [s_lays_1 (r := 1), show nd - (1 + 1) = d by omega]; simp [c_5, c_5'])), rfl⟩
      | succ q_7 ih_8 =>
        intro i_6 hb_9 lo_11  
        refine z_iload_n 3 dX1_lays_34 rfl ?_
        refine z_aload_n 0 dX1_lays_35 rfl ?_
        refine z_callV (As := []) (c_houses (K := (cput (cput (zs K 99 8 o) 300 σ ds (nI (now % 12)) (nI (now / 12))) 310 τ es dt2 yr2)) (F := F) (gl := gl) hA hO hxv hlh heh hch1 hch2 hlg heg hcg1 hcg2) q1127 q1129 qs28 q112 q1130 nm_X1_houses (cX_obj hA) rfl rfl rfl (Nat.le_of_ble_eq_true rfl) ⟨Nat.le_of_ble_eq_true rfl, Nat.le_of_ble_eq_true rfl⟩ dX1_lays_36 rfl rfl (Nat.le_of_ble_eq_true rfl) (Nat.le_of_ble_eq_true rfl) (fun v_16 X_17 hp_18 => ?_)
        obtain ⟨rfl, rfl⟩ := hp_18
        refine z_st (st' := [.int (nI (nh)), .int (nI (i_6))]) rfl ?_
        refine z_icmp_geN (a := i_6) (b := nh) 94 (by omega) (by omega) dX1_lays_39 (by decide) (fun c_19 => absurd c_19 (by omega)) (fun c_19 => ?_)
        refine z_aload_n 0 dX1_lays_42 rfl ?_
        refine z_aload_n 0 dX1_lays_43 rfl ?_
        refine cz_get (v := .ref (A 319)) 5 hA (by decide) q332 rfl dX1_lays_44 ?_
        refine z_iload_n 3 dX1_lays_47 rfl ?_
        refine z_iload_n 1 dX1_lays_48 rfl ?_
        refine z_callV (As := [.ref (A 319), .int (nI (i_6)), .int (nI (d))]) (c_holds (F := F) (gl := gl) (K := (cput (zs K 99 8 o) 300 σ ds (nI (now % 12)) (nI (now / 12)))) (σ := τ) (ds := es) (dt := dt2) (yr := yr2) hA hO hV hv (cst_1 hA) hzτ i_6 d (by omega) (by omega)) q1237 q1239 qs38 q112 q1240 nm_X1_holds (cX_obj hA) rfl rfl rfl (Nat.le_of_ble_eq_true rfl) ⟨Nat.le_of_ble_eq_true rfl, Nat.le_of_ble_eq_true rfl⟩ dX1_lays_49 rfl rfl (Nat.le_of_ble_eq_true rfl) (Nat.le_of_ble_eq_true rfl) (fun v_20 X_21 hp_22 => ?_)
        obtain ⟨rfl, rfl⟩ := hp_22
        refine z_st (st' := [.int (zb (s_holds vs τ nd i_6 d))]) rfl ?_
        refine z_if_neb 58 dX1_lays_52 (by decide) (fun c_23 => ?_) (fun c_23 => ?_)
        · -- s_holds vs τ nd i_6 d = true
          refine z_aload_n 0 dX1_lays_58 rfl ?_
          refine cz_get (v := .ref (A 319)) 5 hA (by decide) q332 rfl dX1_lays_59 ?_
          refine cz_getSN (s := 310) (v := .ref (A 312)) 2 hA (cst_1 hA) (by decide) q265 rfl dX1_lays_62 ?_
          refine z_iload_n 1 dX1_lays_65 rfl ?_
          refine z_iload_n 3 dX1_lays_66 rfl ?_
          refine cz_iast (K' := (cput (cput (zs K 99 8 o) 300 σ ds (nI (now % 12)) (nI (now / 12))) 310 (zs1 τ (d + 6) (nI (i_6))) es dt2 yr2)) 312 d hA (by unfold cia; omega) rfl (by have h9 : csz 312 = 6 := rfl; omega) (by rw [cput_zwhere (by omega)]) dX1_lays_67 ?_
          refine z_iload_n 2 dX1_lays_68 rfl ?_
          refine z_aload_n 0 dX1_lays_69 rfl ?_
          refine z_iload_n 1 dX1_lays_70 rfl ?_
          refine z_iconst (v := 1) dX1_lays_71 (by decide) ?_
          refine z_iaddN (a := d) (b := 1) dX1_lays_72 ?_
          refine z_callV (As := [.int (nI (d + 1))]) (c_lays_1 (K := K) (F := F) (gl := gl) (σ := σ) (ds := ds) (τ := (zs1 τ (d + 6) (nI (i_6)))) (es := es) (dt2 := dt2) (yr2 := yr2) (o := o) hA hO hV hv hnow hiv (d + 1) (by omega) (s_cz_w hzτ (by omega) hnd) (fun j h8 h9 => (zs1_n (by omega)).trans (hτ j (by omega) (by omega)))) q1370 q1372 qs43 q112 q1373 nm_X1_lays (cX_obj hA) rfl rfl rfl (Nat.le_of_ble_eq_true rfl) ⟨Nat.le_of_ble_eq_true rfl, Nat.le_of_ble_eq_true rfl⟩ dX1_lays_73 rfl rfl (Nat.le_of_ble_eq_true rfl) (Nat.le_of_ble_eq_true rfl) (fun v_24 X_25 hp_26 => ?_)
          obtain ⟨rfl, rfl⟩ := hp_26
          refine z_st (st' := [.int (s_lays vs σ nh nd 1 (zs1 τ (d + 6) (nI (i_6)))), .int (s_sum (fun h => if s_holds vs τ nd h d = true then s_lays vs σ nh nd 1 (zs1 τ (d + 6) (nI h)) else 0) i_6)]) rfl ?_
          refine z_iadd dX1_lays_76 ?_
          obtain ⟨x_27, ex_27⟩ : ∃ y : Int32, ((s_sum (fun h => if s_holds vs τ nd h d = true then s_lays vs σ nh nd 1 (zs1 τ (d + 6) (nI h)) else 0) i_6) + (s_lays vs σ nh nd 1 (zs1 τ (d + 6) (nI (i_6))))) = y := ⟨_, rfl⟩
          refine z_eq ex_27 ?_
          refine z_istore_n (lv' := [(2, .int x_27), (0, .ref (A 99)), (1, .int (nI (d))), (3, .int (nI (i_6)))]) dX1_lays_77 rfl (by decide) rfl ?_
          refine z_aload_n 1 dX1_lays_78 rfl ?_
          refine cz_get (v := .ref (A 319)) 5 hA (by decide) q332 rfl dX1_lays_79 ?_
          refine cz_getSN (s := 310) (v := .ref (A 312)) 2 hA (cst_1 hA) (by decide) q265 rfl dX1_lays_82 ?_
          refine z_iload_n 2 dX1_lays_85 rfl ?_
          refine z_iconst (v := zm1) dX1_lays_86 (by decide) ?_
          refine cz_iast (K' := (cput (cput (zs K 99 8 o) 300 σ ds (nI (now % 12)) (nI (now / 12))) 310 (zs1 (zs1 τ (d + 6) (nI (i_6))) (d + 6) zm1) es dt2 yr2)) 312 d hA (by unfold cia; omega) rfl (by have h9 : csz 312 = 6 := rfl; omega) (by rw [cput_zwhere (by omega)]) dX1_lays_87 ?_
          refine z_iinc (v := nI (i_6 + 1)) (lv' := [(3, .int (nI (i_6 + 1))), (2, .int x_27), (0, .ref (A 99)), (1, .int (nI (d)))]) 3 dX1_lays_88 rfl (nI_1 _) (by decide) rfl ?_
          refine z_goto 34 dX1_lays_91 (by decide) ?_
          have f_28 : x_27 = s_sum (fun h => if s_holds vs τ nd h d = true then s_lays vs σ nh nd 1 (zs1 τ (d + 6) (nI h)) else 0) (i_6 + 1) := by (try subst ex_27); simp [s_sum, c_4, c_5, c_5', c_19, c_23]
          subst f_28
          refine z_lv (lv' := [(0, .ref (A 99)), (1, .int (nI (d))), (2, .int (s_sum (fun h => if s_holds vs τ nd h d = true then s_lays vs σ nh nd 1 (zs1 τ (d + 6) (nI h)) else 0) (i_6 + 1))), (3, .int (nI (i_6 + 1)))]) [2, 3, 1, 0] rfl ?_
          refine z_X (X' := (cX g A (cput (cput (zs K 99 8 o) 300 σ ds (nI (now % 12)) (nI (now / 12))) 310 τ es dt2 yr2) F O gl X)) (congrArg (fun z => cX g A (cput (cput (zs K 99 8 o) 300 σ ds (nI (now % 12)) (nI (now / 12))) 310 z es dt2 yr2) F O gl X) (zs1_back (hτ d (Nat.le_refl _) (by omega)))) ?_
          exact ih_8 (i_6 + 1) (by omega) (by omega)  
        · -- s_holds vs τ nd i_6 d = false
          refine z_goto 88 dX1_lays_55 (by decide) ?_
          refine z_iinc (v := nI (i_6 + 1)) (lv' := [(3, .int (nI (i_6 + 1))), (0, .ref (A 99)), (1, .int (nI (d))), (2, .int (s_sum (fun h => if s_holds vs τ nd h d = true then s_lays vs σ nh nd 1 (zs1 τ (d + 6) (nI h)) else 0) i_6))]) 3 dX1_lays_88 rfl (nI_1 _) (by decide) rfl ?_
          refine z_goto 34 dX1_lays_91 (by decide) ?_
          have f_29 : s_sum (fun h => if s_holds vs τ nd h d = true then s_lays vs σ nh nd 1 (zs1 τ (d + 6) (nI h)) else 0) i_6 = s_sum (fun h => if s_holds vs τ nd h d = true then s_lays vs σ nh nd 1 (zs1 τ (d + 6) (nI h)) else 0) (i_6 + 1) := by skip; simp [s_sum, c_4, c_5, c_5', c_19, c_23]
          refine z_lv (lv' := [(0, .ref (A 99)), (1, .int (nI (d))), (2, .int (s_sum (fun h => if s_holds vs τ nd h d = true then s_lays vs σ nh nd 1 (zs1 τ (d + 6) (nI h)) else 0) (i_6 + 1))), (3, .int (nI (i_6 + 1)))]) [1, 2, 3, 0] (by rw [← f_29]; rfl) ?_
          exact ih_8 (i_6 + 1) (by omega) (by omega)  
    have f_30 : 0 = s_sum (fun h => if s_holds vs τ nd h d = true then s_lays vs σ nh nd 1 (zs1 τ (d + 6) (nI h)) else 0) 0 := by rfl
    refine z_lv (lv' := [(0, .ref (A 99)), (1, .int (nI (d))), (2, .int (s_sum (fun h => if s_holds vs τ nd h d = true then s_lays vs σ nh nd 1 (zs1 τ (d + 6) (nI h)) else 0) 0)), (3, .int 0)]) [2, 3, 1, 0] (by rw [← f_30]; rfl) ?_
    exact loop_10 (nh - 0) 0 (by omega) (Nat.le_refl _)  
  · -- ¬ 0 ≤ σ (d + 6)
    have c_5' := Int32.not_le.mp c_5
    refine z_aload_n 0 dX1_lays_22 rfl ?_
    refine z_iload_n 1 dX1_lays_23 rfl ?_
    refine z_iconst (v := 1) dX1_lays_24 (by decide) ?_
    refine z_iaddN (a := d) (b := 1) dX1_lays_25 ?_
    refine z_callV (As := [.int (nI (d + 1))]) (c_lays_1 (K := K) (F := F) (gl := gl) (σ := σ) (ds := ds) (τ := τ) (es := es) (dt2 := dt2) (yr2 := yr2) (o := o) hA hO hV hv hnow hiv (d + 1) (by omega) hzτ (fun j h8 h9 => (hτ j (by omega) (by omega)))) q1370 q1372 qs43 q112 q1373 nm_X1_lays (cX_obj hA) rfl rfl rfl (Nat.le_of_ble_eq_true rfl) ⟨Nat.le_of_ble_eq_true rfl, Nat.le_of_ble_eq_true rfl⟩ dX1_lays_26 rfl rfl (Nat.le_of_ble_eq_true rfl) (Nat.le_of_ble_eq_true rfl) (fun v_31 X_32 hp_33 => ?_)
    obtain ⟨rfl, rfl⟩ := hp_33
    refine z_st (st' := [.int (s_lays vs σ nh nd 1 τ)]) rfl ?_
    exact z_iret dX1_lays_29 rfl (Nat.le_of_ble_eq_true rfl) (Nat.le_of_ble_eq_true rfl) ⟨congrArg some (congrArg Value.int (by show _ = s_lays vs σ nh nd (1 + 1) τ; rw [s_lays_1 (r := 1), show nd - (1 + 1) = d by omega]; simp [c_5, c_5'])), rfl⟩
set_option maxHeartbeats 4000000 in
theorem c_lays_3 {g : zG} {A : Nat → Nat} {K : Nat → Nat → Int32} {F : Nat → Int32} {O : Nat → Nat → Option Nat} {gl : Int64} {X : zX} (hA : cok g A X) {v : Nat} (hO : O 0 0 = some v) {vs : Nat → Int32} {nh nd : Nat} {own : Nat → Nat} {wv : Int32 → Int32 → Int32 → Int32 → Int32} (hV : s_ok vs nh nd own) (hv : cvl g X v vs nh nd wv) {σ ds τ es : Nat → Int32} {dt2 yr2 o : Int32} {now : Nat} (hnow : now < 2 ^ 28) (hiv : s_iv σ nd) (d : Nat) (hd : d + 3 = nd) (hzτ : s_cz τ nd) (hτ : ∀ j, d ≤ j → j < nd → τ (j + 6) = zm1) : zN g m_X1_lays ({ frames := 8, cells := 0, slots := 0, locals := 178 } : Room) [.ref (A 99), .int (nI (d))] (cX g A (cput (cput (zs K 99 8 o) 300 σ ds (nI (now % 12)) (nI (now / 12))) 310 τ es dt2 yr2) F O gl X) (fun rv X' => rv = some (.int (s_lays vs σ nh nd 3 τ)) ∧ X' = (cX g A (cput (cput (zs K 99 8 o) 300 σ ds (nI (now % 12)) (nI (now / 12))) 310 τ es dt2 yr2) F O gl X)) := by
  refine zN.of (by decide +kernel) (Nat.le_of_ble_eq_true rfl) rfl ?_
  refine z_lv (lv' := [(0, .ref (A 99)), (1, .int (nI (d)))]) [0, 1] rfl ?_
  have hA2 := hA.2.2.1
  have hV9 := hV
  have hv9 := hv
  obtain ⟨h0, hnh, h1, hnd, hown⟩ := hV9
  obtain ⟨lh, lg, fh, fg, st9, fa, hxv, ⟨mh, eh, ch, hlh, heh, hch1, hch2⟩, ⟨mg, eg, cg, hlg, heg, hcg1, hcg2⟩, hhs, hgs, hst9, hfa⟩ := hv9
  refine z_iload_n 1 dX1_lays_0 rfl ?_
  refine z_aload_n 0 dX1_lays_1 rfl ?_
  refine z_callV (As := []) (c_guests (K := (cput (cput (zs K 99 8 o) 300 σ ds (nI (now % 12)) (nI (now / 12))) 310 τ es dt2 yr2)) (F := F) (gl := gl) hA hO hxv hlh heh hch1 hch2 hlg heg hcg1 hcg2) q1139 q1141 qs30 q112 q1142 nm_X1_guests (cX_obj hA) rfl rfl rfl (Nat.le_of_ble_eq_true rfl) ⟨Nat.le_of_ble_eq_true rfl, Nat.le_of_ble_eq_true rfl⟩ dX1_lays_2 rfl rfl (Nat.le_of_ble_eq_true rfl) (Nat.le_of_ble_eq_true rfl) (fun v_1 X_2 hp_3 => ?_)
  obtain ⟨rfl, rfl⟩ := hp_3
  refine z_st (st' := [.int (nI (nd)), .int (nI (d))]) rfl ?_
  refine z_icmp_neN (a := d) (b := nd) 10 (by omega) (by omega) dX1_lays_5 (by decide) (fun c_4 => ?_) (fun c_4 => absurd c_4 ((by omega)))
  refine z_aload_n 0 dX1_lays_10 rfl ?_
  refine cz_get (v := .ref (A 309)) 4 hA (by decide) q331 rfl dX1_lays_11 ?_
  refine cz_getSN (s := 300) (v := .ref (A 302)) 2 hA (cst_0 hA) (by decide) q265 rfl dX1_lays_14 ?_
  refine z_iload_n 1 dX1_lays_17 rfl ?_
  refine cz_iald (v := σ (d + 6)) 302 d hA (by unfold cia; omega) rfl (by have h9 : csz 302 = 6 := rfl; omega) (by rw [cput_a (by omega), cput_where (by omega)]) dX1_lays_18 ?_
  refine z_if_ge 30 dX1_lays_19 (by decide) (fun c_5 => ?_) (fun c_5 => ?_)
  · -- 0 ≤ σ (d + 6)
    have c_5' := Int32.not_lt.mpr c_5
    refine z_iconst (v := 0) dX1_lays_30 (by decide) ?_
    refine z_istore_n (lv' := [(2, .int 0), (0, .ref (A 99)), (1, .int (nI (d)))]) dX1_lays_31 rfl (by decide) rfl ?_
    refine z_iconst (v := 0) dX1_lays_32 (by decide) ?_
    refine z_istore_n (lv' := [(3, .int 0), (2, .int 0), (0, .ref (A 99)), (1, .int (nI (d)))]) dX1_lays_33 rfl (by decide) rfl ?_
    have loop_10 : ∀ (q_7 i_6 : Nat), i_6 + q_7 = nh → 0 ≤ i_6 → zZ g m_X1_lays (fun rv X' => rv = some (.int (s_lays vs σ nh nd 3 τ)) ∧ X' = (cX g A (cput (cput (zs K 99 8 o) 300 σ ds (nI (now % 12)) (nI (now / 12))) 310 τ es dt2 yr2) F O gl X), zno, ({ frames := 8, cells := 0, slots := 0, locals := 178 } : Room)) 0 0 (cX g A (cput (cput (zs K 99 8 o) 300 σ ds (nI (now % 12)) (nI (now / 12))) 310 τ es dt2 yr2) F O gl X) 34 [(0, .ref (A 99)), (1, .int (nI (d))), (2, .int (s_sum (fun h => if s_holds vs τ nd h d = true then s_lays vs σ nh nd 2 (zs1 τ (d + 6) (nI h)) else 0) i_6)), (3, .int (nI (i_6)))] [] := by
      intro q_7
      induction q_7 with
      | zero =>
        intro i_6 hb_9 lo_11  
        obtain rfl : nh = i_6 := by omega
        refine z_iload_n 3 dX1_lays_34 rfl ?_
        refine z_aload_n 0 dX1_lays_35 rfl ?_
        refine z_callV (As := []) (c_houses (K := (cput (cput (zs K 99 8 o) 300 σ ds (nI (now % 12)) (nI (now / 12))) 310 τ es dt2 yr2)) (F := F) (gl := gl) hA hO hxv hlh heh hch1 hch2 hlg heg hcg1 hcg2) q1127 q1129 qs28 q112 q1130 nm_X1_houses (cX_obj hA) rfl rfl rfl (Nat.le_of_ble_eq_true rfl) ⟨Nat.le_of_ble_eq_true rfl, Nat.le_of_ble_eq_true rfl⟩ dX1_lays_36 rfl rfl (Nat.le_of_ble_eq_true rfl) (Nat.le_of_ble_eq_true rfl) (fun v_12 X_13 hp_14 => ?_)
        obtain ⟨rfl, rfl⟩ := hp_14
        refine z_st (st' := [.int (nI (nh)), .int (nI (nh))]) rfl ?_
        refine z_icmp_geN (a := nh) (b := nh) 94 (by omega) (by omega) dX1_lays_39 (by decide) (fun c_15 => ?_) (fun c_15 => absurd c_15 (by omega))
        refine z_iload_n 2 dX1_lays_94 rfl ?_
        exact z_iret dX1_lays_95 rfl (Nat.le_of_ble_eq_true rfl) (Nat.le_of_ble_eq_true rfl) ⟨congrArg some (congrArg Value.int (by show _ = s_lays vs σ nh nd (2 + 1) τ; rw [s_lays_1 (r := 2), show nd - (2 + 1) = d by omega]; simp [c_5, c_5'])), rfl⟩
      | succ q_7 ih_8 =>
        intro i_6 hb_9 lo_11  
        refine z_iload_n 3 dX1_lays_34 rfl ?_
        refine z_aload_n 0 dX1_lays_35 rfl ?_
        refine z_callV (As := []) (c_houses (K := (cput (cput (zs K 99 8 o) 300 σ ds (nI (now % 12)) (nI (now / 12))) 310 τ es dt2 yr2)) (F := F) (gl := gl) hA hO hxv hlh heh hch1 hch2 hlg heg hcg1 hcg2) q1127 q1129 qs28 q112 q1130 nm_X1_houses (cX_obj hA) rfl rfl rfl (Nat.le_of_ble_eq_true rfl) ⟨Nat.le_of_ble_eq_true rfl, Nat.le_of_ble_eq_true rfl⟩ dX1_lays_36 rfl rfl (Nat.le_of_ble_eq_true rfl) (Nat.le_of_ble_eq_true rfl) (fun v_16 X_17 hp_18 => ?_)
        obtain ⟨rfl, rfl⟩ := hp_18
        refine z_st (st' := [.int (nI (nh)), .int (nI (i_6))]) rfl ?_
        refine z_icmp_geN (a := i_6) (b := nh) 94 (by omega) (by omega) dX1_lays_39 (by decide) (fun c_19 => absurd c_19 (by omega)) (fun c_19 => ?_)
        refine z_aload_n 0 dX1_lays_42 rfl ?_
        refine z_aload_n 0 dX1_lays_43 rfl ?_
        refine cz_get (v := .ref (A 319)) 5 hA (by decide) q332 rfl dX1_lays_44 ?_
        refine z_iload_n 3 dX1_lays_47 rfl ?_
        refine z_iload_n 1 dX1_lays_48 rfl ?_
        refine z_callV (As := [.ref (A 319), .int (nI (i_6)), .int (nI (d))]) (c_holds (F := F) (gl := gl) (K := (cput (zs K 99 8 o) 300 σ ds (nI (now % 12)) (nI (now / 12)))) (σ := τ) (ds := es) (dt := dt2) (yr := yr2) hA hO hV hv (cst_1 hA) hzτ i_6 d (by omega) (by omega)) q1237 q1239 qs38 q112 q1240 nm_X1_holds (cX_obj hA) rfl rfl rfl (Nat.le_of_ble_eq_true rfl) ⟨Nat.le_of_ble_eq_true rfl, Nat.le_of_ble_eq_true rfl⟩ dX1_lays_49 rfl rfl (Nat.le_of_ble_eq_true rfl) (Nat.le_of_ble_eq_true rfl) (fun v_20 X_21 hp_22 => ?_)
        obtain ⟨rfl, rfl⟩ := hp_22
        refine z_st (st' := [.int (zb (s_holds vs τ nd i_6 d))]) rfl ?_
        refine z_if_neb 58 dX1_lays_52 (by decide) (fun c_23 => ?_) (fun c_23 => ?_)
        · -- s_holds vs τ nd i_6 d = true
          refine z_aload_n 0 dX1_lays_58 rfl ?_
          refine cz_get (v := .ref (A 319)) 5 hA (by decide) q332 rfl dX1_lays_59 ?_
          refine cz_getSN (s := 310) (v := .ref (A 312)) 2 hA (cst_1 hA) (by decide) q265 rfl dX1_lays_62 ?_
          refine z_iload_n 1 dX1_lays_65 rfl ?_
          refine z_iload_n 3 dX1_lays_66 rfl ?_
          refine cz_iast (K' := (cput (cput (zs K 99 8 o) 300 σ ds (nI (now % 12)) (nI (now / 12))) 310 (zs1 τ (d + 6) (nI (i_6))) es dt2 yr2)) 312 d hA (by unfold cia; omega) rfl (by have h9 : csz 312 = 6 := rfl; omega) (by rw [cput_zwhere (by omega)]) dX1_lays_67 ?_
          refine z_iload_n 2 dX1_lays_68 rfl ?_
          refine z_aload_n 0 dX1_lays_69 rfl ?_
          refine z_iload_n 1 dX1_lays_70 rfl ?_
          refine z_iconst (v := 1) dX1_lays_71 (by decide) ?_
          refine z_iaddN (a := d) (b := 1) dX1_lays_72 ?_
          refine z_callV (As := [.int (nI (d + 1))]) (c_lays_2 (K := K) (F := F) (gl := gl) (σ := σ) (ds := ds) (τ := (zs1 τ (d + 6) (nI (i_6)))) (es := es) (dt2 := dt2) (yr2 := yr2) (o := o) hA hO hV hv hnow hiv (d + 1) (by omega) (s_cz_w hzτ (by omega) hnd) (fun j h8 h9 => (zs1_n (by omega)).trans (hτ j (by omega) (by omega)))) q1370 q1372 qs43 q112 q1373 nm_X1_lays (cX_obj hA) rfl rfl rfl (Nat.le_of_ble_eq_true rfl) ⟨Nat.le_of_ble_eq_true rfl, Nat.le_of_ble_eq_true rfl⟩ dX1_lays_73 rfl rfl (Nat.le_of_ble_eq_true rfl) (Nat.le_of_ble_eq_true rfl) (fun v_24 X_25 hp_26 => ?_)
          obtain ⟨rfl, rfl⟩ := hp_26
          refine z_st (st' := [.int (s_lays vs σ nh nd 2 (zs1 τ (d + 6) (nI (i_6)))), .int (s_sum (fun h => if s_holds vs τ nd h d = true then s_lays vs σ nh nd 2 (zs1 τ (d + 6) (nI h)) else 0) i_6)]) rfl ?_
          refine z_iadd dX1_lays_76 ?_
          obtain ⟨x_27, ex_27⟩ : ∃ y : Int32, ((s_sum (fun h => if s_holds vs τ nd h d = true then s_lays vs σ nh nd 2 (zs1 τ (d + 6) (nI h)) else 0) i_6) + (s_lays vs σ nh nd 2 (zs1 τ (d + 6) (nI (i_6))))) = y := ⟨_, rfl⟩
          refine z_eq ex_27 ?_
          refine z_istore_n (lv' := [(2, .int x_27), (0, .ref (A 99)), (1, .int (nI (d))), (3, .int (nI (i_6)))]) dX1_lays_77 rfl (by decide) rfl ?_
          refine z_aload_n 1 dX1_lays_78 rfl ?_
          refine cz_get (v := .ref (A 319)) 5 hA (by decide) q332 rfl dX1_lays_79 ?_
          refine cz_getSN (s := 310) (v := .ref (A 312)) 2 hA (cst_1 hA) (by decide) q265 rfl dX1_lays_82 ?_
          refine z_iload_n 2 dX1_lays_85 rfl ?_
          refine z_iconst (v := zm1) dX1_lays_86 (by decide) ?_
          refine cz_iast (K' := (cput (cput (zs K 99 8 o) 300 σ ds (nI (now % 12)) (nI (now / 12))) 310 (zs1 (zs1 τ (d + 6) (nI (i_6))) (d + 6) zm1) es dt2 yr2)) 312 d hA (by unfold cia; omega) rfl (by have h9 : csz 312 = 6 := rfl; omega) (by rw [cput_zwhere (by omega)]) dX1_lays_87 ?_
          refine z_iinc (v := nI (i_6 + 1)) (lv' := [(3, .int (nI (i_6 + 1))), (2, .int x_27), (0, .ref (A 99)), (1, .int (nI (d)))]) 3 dX1_lays_88 rfl (nI_1 _) (by decide) rfl ?_
          refine z_goto 34 dX1_lays_91 (by decide) ?_
          have f_28 : x_27 = s_sum (fun h => if s_holds vs τ nd h d = true then s_lays vs σ nh nd 2 (zs1 τ (d + 6) (nI h)) else 0) (i_6 + 1) := by (try subst ex_27); simp [s_sum, c_4, c_5, c_5', c_19, c_23]
          subst f_28
          refine z_lv (lv' := [(0, .ref (A 99)), (1, .int (nI (d))), (2, .int (s_sum (fun h => if s_holds vs τ nd h d = true then s_lays vs σ nh nd 2 (zs1 τ (d + 6) (nI h)) else 0) (i_6 + 1))), (3, .int (nI (i_6 + 1)))]) [2, 3, 1, 0] rfl ?_
          refine z_X (X' := (cX g A (cput (cput (zs K 99 8 o) 300 σ ds (nI (now % 12)) (nI (now / 12))) 310 τ es dt2 yr2) F O gl X)) (congrArg (fun z => cX g A (cput (cput (zs K 99 8 o) 300 σ ds (nI (now % 12)) (nI (now / 12))) 310 z es dt2 yr2) F O gl X) (zs1_back (hτ d (Nat.le_refl _) (by omega)))) ?_
          exact ih_8 (i_6 + 1) (by omega) (by omega)  
        · -- s_holds vs τ nd i_6 d = false
          refine z_goto 88 dX1_lays_55 (by decide) ?_
          refine z_iinc (v := nI (i_6 + 1)) (lv' := [(3, .int (nI (i_6 + 1))), (0, .ref (A 99)), (1, .int (nI (d))), (2, .int (s_sum (fun h => if s_holds vs τ nd h d = true then s_lays vs σ nh nd 2 (zs1 τ (d + 6) (nI h)) else 0) i_6))]) 3 dX1_lays_88 rfl (nI_1 _) (by decide) rfl ?_
          refine z_goto 34 dX1_lays_91 (by decide) ?_
          have f_29 : s_sum (fun h => if s_holds vs τ nd h d = true then s_lays vs σ nh nd 2 (zs1 τ (d + 6) (nI h)) else 0) i_6 = s_sum (fun h => if s_holds vs τ nd h d = true then s_lays vs σ nh nd 2 (zs1 τ (d + 6) (nI h)) else 0) (i_6 + 1) := by skip; simp [s_sum, c_4, c_5, c_5', c_19, c_23]
          refine z_lv (lv' := [(0, .ref (A 99)), (1, .int (nI (d))), (2, .int (s_sum (fun h => if s_holds vs τ nd h d = true then s_lays vs σ nh nd 2 (zs1 τ (d + 6) (nI h)) else 0) (i_6 + 1))), (3, .int (nI (i_6 + 1)))]) [1, 2, 3, 0] (by rw [← f_29]; rfl) ?_
          exact ih_8 (i_6 + 1) (by omega) (by omega)  
    have f_30 : 0 = s_sum (fun h => if s_holds vs τ nd h d = true then s_lays vs σ nh nd 2 (zs1 τ (d + 6) (nI h)) else 0) 0 := by rfl
    refine z_lv (lv' := [(0, .ref (A 99)), (1, .int (nI (d))), (2, .int (s_sum (fun h => if s_holds vs τ nd h d = true then s_lays vs σ nh nd 2 (zs1 τ (d + 6) (nI h)) else 0) 0)), (3, .int 0)]) [2, 3, 1, 0] (by rw [← f_30]; rfl) ?_
    exact loop_10 (nh - 0) 0 (by omega) (Nat.le_refl _)  
  · -- ¬ 0 ≤ σ (d + 6)
    have c_5' := Int32.not_le.mp c_5
    refine z_aload_n 0 dX1_lays_22 rfl ?_
    refine z_iload_n 1 dX1_lays_23 rfl ?_
    refine z_iconst (v := 1) dX1_lays_24 (by decide) ?_
    refine z_iaddN (a := d) (b := 1) dX1_lays_25 ?_
    refine z_callV (As := [.int (nI (d + 1))]) (c_lays_2 (K := K) (F := F) (gl := gl) (σ := σ) (ds := ds) (τ := τ) (es := es) (dt2 := dt2) (yr2 := yr2) (o := o) hA hO hV hv hnow hiv (d + 1) (by omega) hzτ (fun j h8 h9 => (hτ j (by omega) (by omega)))) q1370 q1372 qs43 q112 q1373 nm_X1_lays (cX_obj hA) rfl rfl rfl (Nat.le_of_ble_eq_true rfl) ⟨Nat.le_of_ble_eq_true rfl, Nat.le_of_ble_eq_true rfl⟩ dX1_lays_26 rfl rfl (Nat.le_of_ble_eq_true rfl) (Nat.le_of_ble_eq_true rfl) (fun v_31 X_32 hp_33 => ?_)
    obtain ⟨rfl, rfl⟩ := hp_33
    refine z_st (st' := [.int (s_lays vs σ nh nd 2 τ)]) rfl ?_
    exact z_iret dX1_lays_29 rfl (Nat.le_of_ble_eq_true rfl) (Nat.le_of_ble_eq_true rfl) ⟨congrArg some (congrArg Value.int (by show _ = s_lays vs σ nh nd (2 + 1) τ; rw [s_lays_1 (r := 2), show nd - (2 + 1) = d by omega]; simp [c_5, c_5'])), rfl⟩
set_option maxHeartbeats 4000000 in
theorem c_lays_4 {g : zG} {A : Nat → Nat} {K : Nat → Nat → Int32} {F : Nat → Int32} {O : Nat → Nat → Option Nat} {gl : Int64} {X : zX} (hA : cok g A X) {v : Nat} (hO : O 0 0 = some v) {vs : Nat → Int32} {nh nd : Nat} {own : Nat → Nat} {wv : Int32 → Int32 → Int32 → Int32 → Int32} (hV : s_ok vs nh nd own) (hv : cvl g X v vs nh nd wv) {σ ds τ es : Nat → Int32} {dt2 yr2 o : Int32} {now : Nat} (hnow : now < 2 ^ 28) (hiv : s_iv σ nd) (d : Nat) (hd : d + 4 = nd) (hzτ : s_cz τ nd) (hτ : ∀ j, d ≤ j → j < nd → τ (j + 6) = zm1) : zN g m_X1_lays ({ frames := 9, cells := 0, slots := 0, locals := 201 } : Room) [.ref (A 99), .int (nI (d))] (cX g A (cput (cput (zs K 99 8 o) 300 σ ds (nI (now % 12)) (nI (now / 12))) 310 τ es dt2 yr2) F O gl X) (fun rv X' => rv = some (.int (s_lays vs σ nh nd 4 τ)) ∧ X' = (cX g A (cput (cput (zs K 99 8 o) 300 σ ds (nI (now % 12)) (nI (now / 12))) 310 τ es dt2 yr2) F O gl X)) := by
  refine zN.of (by decide +kernel) (Nat.le_of_ble_eq_true rfl) rfl ?_
  refine z_lv (lv' := [(0, .ref (A 99)), (1, .int (nI (d)))]) [0, 1] rfl ?_
  have hA2 := hA.2.2.1
  have hV9 := hV
  have hv9 := hv
  obtain ⟨h0, hnh, h1, hnd, hown⟩ := hV9
  obtain ⟨lh, lg, fh, fg, st9, fa, hxv, ⟨mh, eh, ch, hlh, heh, hch1, hch2⟩, ⟨mg, eg, cg, hlg, heg, hcg1, hcg2⟩, hhs, hgs, hst9, hfa⟩ := hv9
  refine z_iload_n 1 dX1_lays_0 rfl ?_
  refine z_aload_n 0 dX1_lays_1 rfl ?_
  refine z_callV (As := []) (c_guests (K := (cput (cput (zs K 99 8 o) 300 σ ds (nI (now % 12)) (nI (now / 12))) 310 τ es dt2 yr2)) (F := F) (gl := gl) hA hO hxv hlh heh hch1 hch2 hlg heg hcg1 hcg2) q1139 q1141 qs30 q112 q1142 nm_X1_guests (cX_obj hA) rfl rfl rfl (Nat.le_of_ble_eq_true rfl) ⟨Nat.le_of_ble_eq_true rfl, Nat.le_of_ble_eq_true rfl⟩ dX1_lays_2 rfl rfl (Nat.le_of_ble_eq_true rfl) (Nat.le_of_ble_eq_true rfl) (fun v_1 X_2 hp_3 => ?_)
  obtain ⟨rfl, rfl⟩ := hp_3
  refine z_st (st' := [.int (nI (nd)), .int (nI (d))]) rfl ?_
  refine z_icmp_neN (a := d) (b := nd) 10 (by omega) (by omega) dX1_lays_5 (by decide) (fun c_4 => ?_) (fun c_4 => absurd c_4 ((by omega)))
  refine z_aload_n 0 dX1_lays_10 rfl ?_
  refine cz_get (v := .ref (A 309)) 4 hA (by decide) q331 rfl dX1_lays_11 ?_
  refine cz_getSN (s := 300) (v := .ref (A 302)) 2 hA (cst_0 hA) (by decide) q265 rfl dX1_lays_14 ?_
  refine z_iload_n 1 dX1_lays_17 rfl ?_
  refine cz_iald (v := σ (d + 6)) 302 d hA (by unfold cia; omega) rfl (by have h9 : csz 302 = 6 := rfl; omega) (by rw [cput_a (by omega), cput_where (by omega)]) dX1_lays_18 ?_
  refine z_if_ge 30 dX1_lays_19 (by decide) (fun c_5 => ?_) (fun c_5 => ?_)
  · -- 0 ≤ σ (d + 6)
    have c_5' := Int32.not_lt.mpr c_5
    refine z_iconst (v := 0) dX1_lays_30 (by decide) ?_
    refine z_istore_n (lv' := [(2, .int 0), (0, .ref (A 99)), (1, .int (nI (d)))]) dX1_lays_31 rfl (by decide) rfl ?_
    refine z_iconst (v := 0) dX1_lays_32 (by decide) ?_
    refine z_istore_n (lv' := [(3, .int 0), (2, .int 0), (0, .ref (A 99)), (1, .int (nI (d)))]) dX1_lays_33 rfl (by decide) rfl ?_
    have loop_10 : ∀ (q_7 i_6 : Nat), i_6 + q_7 = nh → 0 ≤ i_6 → zZ g m_X1_lays (fun rv X' => rv = some (.int (s_lays vs σ nh nd 4 τ)) ∧ X' = (cX g A (cput (cput (zs K 99 8 o) 300 σ ds (nI (now % 12)) (nI (now / 12))) 310 τ es dt2 yr2) F O gl X), zno, ({ frames := 9, cells := 0, slots := 0, locals := 201 } : Room)) 0 0 (cX g A (cput (cput (zs K 99 8 o) 300 σ ds (nI (now % 12)) (nI (now / 12))) 310 τ es dt2 yr2) F O gl X) 34 [(0, .ref (A 99)), (1, .int (nI (d))), (2, .int (s_sum (fun h => if s_holds vs τ nd h d = true then s_lays vs σ nh nd 3 (zs1 τ (d + 6) (nI h)) else 0) i_6)), (3, .int (nI (i_6)))] [] := by
      intro q_7
      induction q_7 with
      | zero =>
        intro i_6 hb_9 lo_11  
        obtain rfl : nh = i_6 := by omega
        refine z_iload_n 3 dX1_lays_34 rfl ?_
        refine z_aload_n 0 dX1_lays_35 rfl ?_
        refine z_callV (As := []) (c_houses (K := (cput (cput (zs K 99 8 o) 300 σ ds (nI (now % 12)) (nI (now / 12))) 310 τ es dt2 yr2)) (F := F) (gl := gl) hA hO hxv hlh heh hch1 hch2 hlg heg hcg1 hcg2) q1127 q1129 qs28 q112 q1130 nm_X1_houses (cX_obj hA) rfl rfl rfl (Nat.le_of_ble_eq_true rfl) ⟨Nat.le_of_ble_eq_true rfl, Nat.le_of_ble_eq_true rfl⟩ dX1_lays_36 rfl rfl (Nat.le_of_ble_eq_true rfl) (Nat.le_of_ble_eq_true rfl) (fun v_12 X_13 hp_14 => ?_)
        obtain ⟨rfl, rfl⟩ := hp_14
        refine z_st (st' := [.int (nI (nh)), .int (nI (nh))]) rfl ?_
        refine z_icmp_geN (a := nh) (b := nh) 94 (by omega) (by omega) dX1_lays_39 (by decide) (fun c_15 => ?_) (fun c_15 => absurd c_15 (by omega))
        refine z_iload_n 2 dX1_lays_94 rfl ?_
        exact z_iret dX1_lays_95 rfl (Nat.le_of_ble_eq_true rfl) (Nat.le_of_ble_eq_true rfl) ⟨congrArg some (congrArg Value.int (by show _ = s_lays vs σ nh nd (3 + 1) τ; rw [s_lays_1 (r := 3), show nd - (3 + 1) = d by omega]; simp [c_5, c_5'])), rfl⟩
      | succ q_7 ih_8 =>
        intro i_6 hb_9 lo_11  
        refine z_iload_n 3 dX1_lays_34 rfl ?_
        refine z_aload_n 0 dX1_lays_35 rfl ?_
        refine z_callV (As := []) (c_houses (K := (cput (cput (zs K 99 8 o) 300 σ ds (nI (now % 12)) (nI (now / 12))) 310 τ es dt2 yr2)) (F := F) (gl := gl) hA hO hxv hlh heh hch1 hch2 hlg heg hcg1 hcg2) q1127 q1129 qs28 q112 q1130 nm_X1_houses (cX_obj hA) rfl rfl rfl (Nat.le_of_ble_eq_true rfl) ⟨Nat.le_of_ble_eq_true rfl, Nat.le_of_ble_eq_true rfl⟩ dX1_lays_36 rfl rfl (Nat.le_of_ble_eq_true rfl) (Nat.le_of_ble_eq_true rfl) (fun v_16 X_17 hp_18 => ?_)
        obtain ⟨rfl, rfl⟩ := hp_18
        refine z_st (st' := [.int (nI (nh)), .int (nI (i_6))]) rfl ?_
        refine z_icmp_geN (a := i_6) (b := nh) 94 (by omega) (by omega) dX1_lays_39 (by decide) (fun c_19 => absurd c_19 (by omega)) (fun c_19 => ?_)
        refine z_aload_n 0 dX1_lays_42 rfl ?_
        refine z_aload_n 0 dX1_lays_43 rfl ?_
        refine cz_get (v := .ref (A 319)) 5 hA (by decide) q332 rfl dX1_lays_44 ?_
        refine z_iload_n 3 dX1_lays_47 rfl ?_
        refine z_iload_n 1 dX1_lays_48 rfl ?_
        refine z_callV (As := [.ref (A 319), .int (nI (i_6)), .int (nI (d))]) (c_holds (F := F) (gl := gl) (K := (cput (zs K 99 8 o) 300 σ ds (nI (now % 12)) (nI (now / 12)))) (σ := τ) (ds := es) (dt := dt2) (yr := yr2) hA hO hV hv (cst_1 hA) hzτ i_6 d (by omega) (by omega)) q1237 q1239 qs38 q112 q1240 nm_X1_holds (cX_obj hA) rfl rfl rfl (Nat.le_of_ble_eq_true rfl) ⟨Nat.le_of_ble_eq_true rfl, Nat.le_of_ble_eq_true rfl⟩ dX1_lays_49 rfl rfl (Nat.le_of_ble_eq_true rfl) (Nat.le_of_ble_eq_true rfl) (fun v_20 X_21 hp_22 => ?_)
        obtain ⟨rfl, rfl⟩ := hp_22
        refine z_st (st' := [.int (zb (s_holds vs τ nd i_6 d))]) rfl ?_
        refine z_if_neb 58 dX1_lays_52 (by decide) (fun c_23 => ?_) (fun c_23 => ?_)
        · -- s_holds vs τ nd i_6 d = true
          refine z_aload_n 0 dX1_lays_58 rfl ?_
          refine cz_get (v := .ref (A 319)) 5 hA (by decide) q332 rfl dX1_lays_59 ?_
          refine cz_getSN (s := 310) (v := .ref (A 312)) 2 hA (cst_1 hA) (by decide) q265 rfl dX1_lays_62 ?_
          refine z_iload_n 1 dX1_lays_65 rfl ?_
          refine z_iload_n 3 dX1_lays_66 rfl ?_
          refine cz_iast (K' := (cput (cput (zs K 99 8 o) 300 σ ds (nI (now % 12)) (nI (now / 12))) 310 (zs1 τ (d + 6) (nI (i_6))) es dt2 yr2)) 312 d hA (by unfold cia; omega) rfl (by have h9 : csz 312 = 6 := rfl; omega) (by rw [cput_zwhere (by omega)]) dX1_lays_67 ?_
          refine z_iload_n 2 dX1_lays_68 rfl ?_
          refine z_aload_n 0 dX1_lays_69 rfl ?_
          refine z_iload_n 1 dX1_lays_70 rfl ?_
          refine z_iconst (v := 1) dX1_lays_71 (by decide) ?_
          refine z_iaddN (a := d) (b := 1) dX1_lays_72 ?_
          refine z_callV (As := [.int (nI (d + 1))]) (c_lays_3 (K := K) (F := F) (gl := gl) (σ := σ) (ds := ds) (τ := (zs1 τ (d + 6) (nI (i_6)))) (es := es) (dt2 := dt2) (yr2 := yr2) (o := o) hA hO hV hv hnow hiv (d + 1) (by omega) (s_cz_w hzτ (by omega) hnd) (fun j h8 h9 => (zs1_n (by omega)).trans (hτ j (by omega) (by omega)))) q1370 q1372 qs43 q112 q1373 nm_X1_lays (cX_obj hA) rfl rfl rfl (Nat.le_of_ble_eq_true rfl) ⟨Nat.le_of_ble_eq_true rfl, Nat.le_of_ble_eq_true rfl⟩ dX1_lays_73 rfl rfl (Nat.le_of_ble_eq_true rfl) (Nat.le_of_ble_eq_true rfl) (fun v_24 X_25 hp_26 => ?_)
          obtain ⟨rfl, rfl⟩ := hp_26
          refine z_st (st' := [.int (s_lays vs σ nh nd 3 (zs1 τ (d + 6) (nI (i_6)))), .int (s_sum (fun h => if s_holds vs τ nd h d = true then s_lays vs σ nh nd 3 (zs1 τ (d + 6) (nI h)) else 0) i_6)]) rfl ?_
          refine z_iadd dX1_lays_76 ?_
          obtain ⟨x_27, ex_27⟩ : ∃ y : Int32, ((s_sum (fun h => if s_holds vs τ nd h d = true then s_lays vs σ nh nd 3 (zs1 τ (d + 6) (nI h)) else 0) i_6) + (s_lays vs σ nh nd 3 (zs1 τ (d + 6) (nI (i_6))))) = y := ⟨_, rfl⟩
          refine z_eq ex_27 ?_
          refine z_istore_n (lv' := [(2, .int x_27), (0, .ref (A 99)), (1, .int (nI (d))), (3, .int (nI (i_6)))]) dX1_lays_77 rfl (by decide) rfl ?_
          refine z_aload_n 1 dX1_lays_78 rfl ?_
          refine cz_get (v := .ref (A 319)) 5 hA (by decide) q332 rfl dX1_lays_79 ?_
          refine cz_getSN (s := 310) (v := .ref (A 312)) 2 hA (cst_1 hA) (by decide) q265 rfl dX1_lays_82 ?_
          refine z_iload_n 2 dX1_lays_85 rfl ?_
          refine z_iconst (v := zm1) dX1_lays_86 (by decide) ?_
          refine cz_iast (K' := (cput (cput (zs K 99 8 o) 300 σ ds (nI (now % 12)) (nI (now / 12))) 310 (zs1 (zs1 τ (d + 6) (nI (i_6))) (d + 6) zm1) es dt2 yr2)) 312 d hA (by unfold cia; omega) rfl (by have h9 : csz 312 = 6 := rfl; omega) (by rw [cput_zwhere (by omega)]) dX1_lays_87 ?_
          refine z_iinc (v := nI (i_6 + 1)) (lv' := [(3, .int (nI (i_6 + 1))), (2, .int x_27), (0, .ref (A 99)), (1, .int (nI (d)))]) 3 dX1_lays_88 rfl (nI_1 _) (by decide) rfl ?_
          refine z_goto 34 dX1_lays_91 (by decide) ?_
          have f_28 : x_27 = s_sum (fun h => if s_holds vs τ nd h d = true then s_lays vs σ nh nd 3 (zs1 τ (d + 6) (nI h)) else 0) (i_6 + 1) := by (try subst ex_27); simp [s_sum, c_4, c_5, c_5', c_19, c_23]
          subst f_28
          refine z_lv (lv' := [(0, .ref (A 99)), (1, .int (nI (d))), (2, .int (s_sum (fun h => if s_holds vs τ nd h d = true then s_lays vs σ nh nd 3 (zs1 τ (d + 6) (nI h)) else 0) (i_6 + 1))), (3, .int (nI (i_6 + 1)))]) [2, 3, 1, 0] rfl ?_
          refine z_X (X' := (cX g A (cput (cput (zs K 99 8 o) 300 σ ds (nI (now % 12)) (nI (now / 12))) 310 τ es dt2 yr2) F O gl X)) (congrArg (fun z => cX g A (cput (cput (zs K 99 8 o) 300 σ ds (nI (now % 12)) (nI (now / 12))) 310 z es dt2 yr2) F O gl X) (zs1_back (hτ d (Nat.le_refl _) (by omega)))) ?_
          exact ih_8 (i_6 + 1) (by omega) (by omega)  
        · -- s_holds vs τ nd i_6 d = false
          refine z_goto 88 dX1_lays_55 (by decide) ?_
          refine z_iinc (v := nI (i_6 + 1)) (lv' := [(3, .int (nI (i_6 + 1))), (0, .ref (A 99)), (1, .int (nI (d))), (2, .int (s_sum (fun h => if s_holds vs τ nd h d = true then s_lays vs σ nh nd 3 (zs1 τ (d + 6) (nI h)) else 0) i_6))]) 3 dX1_lays_88 rfl (nI_1 _) (by decide) rfl ?_
          refine z_goto 34 dX1_lays_91 (by decide) ?_
          have f_29 : s_sum (fun h => if s_holds vs τ nd h d = true then s_lays vs σ nh nd 3 (zs1 τ (d + 6) (nI h)) else 0) i_6 = s_sum (fun h => if s_holds vs τ nd h d = true then s_lays vs σ nh nd 3 (zs1 τ (d + 6) (nI h)) else 0) (i_6 + 1) := by skip; simp [s_sum, c_4, c_5, c_5', c_19, c_23]
          refine z_lv (lv' := [(0, .ref (A 99)), (1, .int (nI (d))), (2, .int (s_sum (fun h => if s_holds vs τ nd h d = true then s_lays vs σ nh nd 3 (zs1 τ (d + 6) (nI h)) else 0) (i_6 + 1))), (3, .int (nI (i_6 + 1)))]) [1, 2, 3, 0] (by rw [← f_29]; rfl) ?_
          exact ih_8 (i_6 + 1) (by omega) (by omega)  
    have f_30 : 0 = s_sum (fun h => if s_holds vs τ nd h d = true then s_lays vs σ nh nd 3 (zs1 τ (d + 6) (nI h)) else 0) 0 := by rfl
    refine z_lv (lv' := [(0, .ref (A 99)), (1, .int (nI (d))), (2, .int (s_sum (fun h => if s_holds vs τ nd h d = true then s_lays vs σ nh nd 3 (zs1 τ (d + 6) (nI h)) else 0) 0)), (3, .int 0)]) [2, 3, 1, 0] (by rw [← f_30]; rfl) ?_
    exact loop_10 (nh - 0) 0 (by omega) (Nat.le_refl _)  
  · -- ¬ 0 ≤ σ (d + 6)
    have c_5' := Int32.not_le.mp c_5
    refine z_aload_n 0 dX1_lays_22 rfl ?_
    refine z_iload_n 1 dX1_lays_23 rfl ?_
    refine z_iconst (v := 1) dX1_lays_24 (by decide) ?_
    refine z_iaddN (a := d) (b := 1) dX1_lays_25 ?_
    refine z_callV (As := [.int (nI (d + 1))]) (c_lays_3 (K := K) (F := F) (gl := gl) (σ := σ) (ds := ds) (τ := τ) (es := es) (dt2 := dt2) (yr2 := yr2) (o := o) hA hO hV hv hnow hiv (d + 1) (by omega) hzτ (fun j h8 h9 => (hτ j (by omega) (by omega)))) q1370 q1372 qs43 q112 q1373 nm_X1_lays (cX_obj hA) rfl rfl rfl (Nat.le_of_ble_eq_true rfl) ⟨Nat.le_of_ble_eq_true rfl, Nat.le_of_ble_eq_true rfl⟩ dX1_lays_26 rfl rfl (Nat.le_of_ble_eq_true rfl) (Nat.le_of_ble_eq_true rfl) (fun v_31 X_32 hp_33 => ?_)
    obtain ⟨rfl, rfl⟩ := hp_33
    refine z_st (st' := [.int (s_lays vs σ nh nd 3 τ)]) rfl ?_
    exact z_iret dX1_lays_29 rfl (Nat.le_of_ble_eq_true rfl) (Nat.le_of_ble_eq_true rfl) ⟨congrArg some (congrArg Value.int (by show _ = s_lays vs σ nh nd (3 + 1) τ; rw [s_lays_1 (r := 3), show nd - (3 + 1) = d by omega]; simp [c_5, c_5'])), rfl⟩
set_option maxHeartbeats 4000000 in
theorem c_lays_5 {g : zG} {A : Nat → Nat} {K : Nat → Nat → Int32} {F : Nat → Int32} {O : Nat → Nat → Option Nat} {gl : Int64} {X : zX} (hA : cok g A X) {v : Nat} (hO : O 0 0 = some v) {vs : Nat → Int32} {nh nd : Nat} {own : Nat → Nat} {wv : Int32 → Int32 → Int32 → Int32 → Int32} (hV : s_ok vs nh nd own) (hv : cvl g X v vs nh nd wv) {σ ds τ es : Nat → Int32} {dt2 yr2 o : Int32} {now : Nat} (hnow : now < 2 ^ 28) (hiv : s_iv σ nd) (d : Nat) (hd : d + 5 = nd) (hzτ : s_cz τ nd) (hτ : ∀ j, d ≤ j → j < nd → τ (j + 6) = zm1) : zN g m_X1_lays ({ frames := 10, cells := 0, slots := 0, locals := 224 } : Room) [.ref (A 99), .int (nI (d))] (cX g A (cput (cput (zs K 99 8 o) 300 σ ds (nI (now % 12)) (nI (now / 12))) 310 τ es dt2 yr2) F O gl X) (fun rv X' => rv = some (.int (s_lays vs σ nh nd 5 τ)) ∧ X' = (cX g A (cput (cput (zs K 99 8 o) 300 σ ds (nI (now % 12)) (nI (now / 12))) 310 τ es dt2 yr2) F O gl X)) := by
  refine zN.of (by decide +kernel) (Nat.le_of_ble_eq_true rfl) rfl ?_
  refine z_lv (lv' := [(0, .ref (A 99)), (1, .int (nI (d)))]) [0, 1] rfl ?_
  have hA2 := hA.2.2.1
  have hV9 := hV
  have hv9 := hv
  obtain ⟨h0, hnh, h1, hnd, hown⟩ := hV9
  obtain ⟨lh, lg, fh, fg, st9, fa, hxv, ⟨mh, eh, ch, hlh, heh, hch1, hch2⟩, ⟨mg, eg, cg, hlg, heg, hcg1, hcg2⟩, hhs, hgs, hst9, hfa⟩ := hv9
  refine z_iload_n 1 dX1_lays_0 rfl ?_
  refine z_aload_n 0 dX1_lays_1 rfl ?_
  refine z_callV (As := []) (c_guests (K := (cput (cput (zs K 99 8 o) 300 σ ds (nI (now % 12)) (nI (now / 12))) 310 τ es dt2 yr2)) (F := F) (gl := gl) hA hO hxv hlh heh hch1 hch2 hlg heg hcg1 hcg2) q1139 q1141 qs30 q112 q1142 nm_X1_guests (cX_obj hA) rfl rfl rfl (Nat.le_of_ble_eq_true rfl) ⟨Nat.le_of_ble_eq_true rfl, Nat.le_of_ble_eq_true rfl⟩ dX1_lays_2 rfl rfl (Nat.le_of_ble_eq_true rfl) (Nat.le_of_ble_eq_true rfl) (fun v_1 X_2 hp_3 => ?_)
  obtain ⟨rfl, rfl⟩ := hp_3
  refine z_st (st' := [.int (nI (nd)), .int (nI (d))]) rfl ?_
  refine z_icmp_neN (a := d) (b := nd) 10 (by omega) (by omega) dX1_lays_5 (by decide) (fun c_4 => ?_) (fun c_4 => absurd c_4 ((by omega)))
  refine z_aload_n 0 dX1_lays_10 rfl ?_
  refine cz_get (v := .ref (A 309)) 4 hA (by decide) q331 rfl dX1_lays_11 ?_
  refine cz_getSN (s := 300) (v := .ref (A 302)) 2 hA (cst_0 hA) (by decide) q265 rfl dX1_lays_14 ?_
  refine z_iload_n 1 dX1_lays_17 rfl ?_
  refine cz_iald (v := σ (d + 6)) 302 d hA (by unfold cia; omega) rfl (by have h9 : csz 302 = 6 := rfl; omega) (by rw [cput_a (by omega), cput_where (by omega)]) dX1_lays_18 ?_
  refine z_if_ge 30 dX1_lays_19 (by decide) (fun c_5 => ?_) (fun c_5 => ?_)
  · -- 0 ≤ σ (d + 6)
    have c_5' := Int32.not_lt.mpr c_5
    refine z_iconst (v := 0) dX1_lays_30 (by decide) ?_
    refine z_istore_n (lv' := [(2, .int 0), (0, .ref (A 99)), (1, .int (nI (d)))]) dX1_lays_31 rfl (by decide) rfl ?_
    refine z_iconst (v := 0) dX1_lays_32 (by decide) ?_
    refine z_istore_n (lv' := [(3, .int 0), (2, .int 0), (0, .ref (A 99)), (1, .int (nI (d)))]) dX1_lays_33 rfl (by decide) rfl ?_
    have loop_10 : ∀ (q_7 i_6 : Nat), i_6 + q_7 = nh → 0 ≤ i_6 → zZ g m_X1_lays (fun rv X' => rv = some (.int (s_lays vs σ nh nd 5 τ)) ∧ X' = (cX g A (cput (cput (zs K 99 8 o) 300 σ ds (nI (now % 12)) (nI (now / 12))) 310 τ es dt2 yr2) F O gl X), zno, ({ frames := 10, cells := 0, slots := 0, locals := 224 } : Room)) 0 0 (cX g A (cput (cput (zs K 99 8 o) 300 σ ds (nI (now % 12)) (nI (now / 12))) 310 τ es dt2 yr2) F O gl X) 34 [(0, .ref (A 99)), (1, .int (nI (d))), (2, .int (s_sum (fun h => if s_holds vs τ nd h d = true then s_lays vs σ nh nd 4 (zs1 τ (d + 6) (nI h)) else 0) i_6)), (3, .int (nI (i_6)))] [] := by
      intro q_7
      induction q_7 with
      | zero =>
        intro i_6 hb_9 lo_11  
        obtain rfl : nh = i_6 := by omega
        refine z_iload_n 3 dX1_lays_34 rfl ?_
        refine z_aload_n 0 dX1_lays_35 rfl ?_
        refine z_callV (As := []) (c_houses (K := (cput (cput (zs K 99 8 o) 300 σ ds (nI (now % 12)) (nI (now / 12))) 310 τ es dt2 yr2)) (F := F) (gl := gl) hA hO hxv hlh heh hch1 hch2 hlg heg hcg1 hcg2) q1127 q1129 qs28 q112 q1130 nm_X1_houses (cX_obj hA) rfl rfl rfl (Nat.le_of_ble_eq_true rfl) ⟨Nat.le_of_ble_eq_true rfl, Nat.le_of_ble_eq_true rfl⟩ dX1_lays_36 rfl rfl (Nat.le_of_ble_eq_true rfl) (Nat.le_of_ble_eq_true rfl) (fun v_12 X_13 hp_14 => ?_)
        obtain ⟨rfl, rfl⟩ := hp_14
        refine z_st (st' := [.int (nI (nh)), .int (nI (nh))]) rfl ?_
        refine z_icmp_geN (a := nh) (b := nh) 94 (by omega) (by omega) dX1_lays_39 (by decide) (fun c_15 => ?_) (fun c_15 => absurd c_15 (by omega))
        refine z_iload_n 2 dX1_lays_94 rfl ?_
        exact z_iret dX1_lays_95 rfl (Nat.le_of_ble_eq_true rfl) (Nat.le_of_ble_eq_true rfl) ⟨congrArg some (congrArg Value.int (by show _ = s_lays vs σ nh nd (4 + 1) τ; rw [s_lays_1 (r := 4), show nd - (4 + 1) = d by omega]; simp [c_5, c_5'])), rfl⟩
      | succ q_7 ih_8 =>
        intro i_6 hb_9 lo_11  
        refine z_iload_n 3 dX1_lays_34 rfl ?_
        refine z_aload_n 0 dX1_lays_35 rfl ?_
        refine z_callV (As := []) (c_houses (K := (cput (cput (zs K 99 8 o) 300 σ ds (nI (now % 12)) (nI (now / 12))) 310 τ es dt2 yr2)) (F := F) (gl := gl) hA hO hxv hlh heh hch1 hch2 hlg heg hcg1 hcg2) q1127 q1129 qs28 q112 q1130 nm_X1_houses (cX_obj hA) rfl rfl rfl (Nat.le_of_ble_eq_true rfl) ⟨Nat.le_of_ble_eq_true rfl, Nat.le_of_ble_eq_true rfl⟩ dX1_lays_36 rfl rfl (Nat.le_of_ble_eq_true rfl) (Nat.le_of_ble_eq_true rfl) (fun v_16 X_17 hp_18 => ?_)
        obtain ⟨rfl, rfl⟩ := hp_18
        refine z_st (st' := [.int (nI (nh)), .int (nI (i_6))]) rfl ?_
        refine z_icmp_geN (a := i_6) (b := nh) 94 (by omega) (by omega) dX1_lays_39 (by decide) (fun c_19 => absurd c_19 (by omega)) (fun c_19 => ?_)
        refine z_aload_n 0 dX1_lays_42 rfl ?_
        refine z_aload_n 0 dX1_lays_43 rfl ?_
        refine cz_get (v := .ref (A 319)) 5 hA (by decide) q332 rfl dX1_lays_44 ?_
        refine z_iload_n 3 dX1_lays_47 rfl ?_
        refine z_iload_n 1 dX1_lays_48 rfl ?_
        refine z_callV (As := [.ref (A 319), .int (nI (i_6)), .int (nI (d))]) (c_holds (F := F) (gl := gl) (K := (cput (zs K 99 8 o) 300 σ ds (nI (now % 12)) (nI (now / 12)))) (σ := τ) (ds := es) (dt := dt2) (yr := yr2) hA hO hV hv (cst_1 hA) hzτ i_6 d (by omega) (by omega)) q1237 q1239 qs38 q112 q1240 nm_X1_holds (cX_obj hA) rfl rfl rfl (Nat.le_of_ble_eq_true rfl) ⟨Nat.le_of_ble_eq_true rfl, Nat.le_of_ble_eq_true rfl⟩ dX1_lays_49 rfl rfl (Nat.le_of_ble_eq_true rfl) (Nat.le_of_ble_eq_true rfl) (fun v_20 X_21 hp_22 => ?_)
        obtain ⟨rfl, rfl⟩ := hp_22
        refine z_st (st' := [.int (zb (s_holds vs τ nd i_6 d))]) rfl ?_
        refine z_if_neb 58 dX1_lays_52 (by decide) (fun c_23 => ?_) (fun c_23 => ?_)
        · -- s_holds vs τ nd i_6 d = true
          refine z_aload_n 0 dX1_lays_58 rfl ?_
          refine cz_get (v := .ref (A 319)) 5 hA (by decide) q332 rfl dX1_lays_59 ?_
          refine cz_getSN (s := 310) (v := .ref (A 312)) 2 hA (cst_1 hA) (by decide) q265 rfl dX1_lays_62 ?_
          refine z_iload_n 1 dX1_lays_65 rfl ?_
          refine z_iload_n 3 dX1_lays_66 rfl ?_
          refine cz_iast (K' := (cput (cput (zs K 99 8 o) 300 σ ds (nI (now % 12)) (nI (now / 12))) 310 (zs1 τ (d + 6) (nI (i_6))) es dt2 yr2)) 312 d hA (by unfold cia; omega) rfl (by have h9 : csz 312 = 6 := rfl; omega) (by rw [cput_zwhere (by omega)]) dX1_lays_67 ?_
          refine z_iload_n 2 dX1_lays_68 rfl ?_
          refine z_aload_n 0 dX1_lays_69 rfl ?_
          refine z_iload_n 1 dX1_lays_70 rfl ?_
          refine z_iconst (v := 1) dX1_lays_71 (by decide) ?_
          refine z_iaddN (a := d) (b := 1) dX1_lays_72 ?_
          refine z_callV (As := [.int (nI (d + 1))]) (c_lays_4 (K := K) (F := F) (gl := gl) (σ := σ) (ds := ds) (τ := (zs1 τ (d + 6) (nI (i_6)))) (es := es) (dt2 := dt2) (yr2 := yr2) (o := o) hA hO hV hv hnow hiv (d + 1) (by omega) (s_cz_w hzτ (by omega) hnd) (fun j h8 h9 => (zs1_n (by omega)).trans (hτ j (by omega) (by omega)))) q1370 q1372 qs43 q112 q1373 nm_X1_lays (cX_obj hA) rfl rfl rfl (Nat.le_of_ble_eq_true rfl) ⟨Nat.le_of_ble_eq_true rfl, Nat.le_of_ble_eq_true rfl⟩ dX1_lays_73 rfl rfl (Nat.le_of_ble_eq_true rfl) (Nat.le_of_ble_eq_true rfl) (fun v_24 X_25 hp_26 => ?_)
          obtain ⟨rfl, rfl⟩ := hp_26
          refine z_st (st' := [.int (s_lays vs σ nh nd 4 (zs1 τ (d + 6) (nI (i_6)))), .int (s_sum (fun h => if s_holds vs τ nd h d = true then s_lays vs σ nh nd 4 (zs1 τ (d + 6) (nI h)) else 0) i_6)]) rfl ?_
          refine z_iadd dX1_lays_76 ?_
          obtain ⟨x_27, ex_27⟩ : ∃ y : Int32, ((s_sum (fun h => if s_holds vs τ nd h d = true then s_lays vs σ nh nd 4 (zs1 τ (d + 6) (nI h)) else 0) i_6) + (s_lays vs σ nh nd 4 (zs1 τ (d + 6) (nI (i_6))))) = y := ⟨_, rfl⟩
          refine z_eq ex_27 ?_
          refine z_istore_n (lv' := [(2, .int x_27), (0, .ref (A 99)), (1, .int (nI (d))), (3, .int (nI (i_6)))]) dX1_lays_77 rfl (by decide) rfl ?_
          refine z_aload_n 1 dX1_lays_78 rfl ?_
          refine cz_get (v := .ref (A 319)) 5 hA (by decide) q332 rfl dX1_lays_79 ?_
          refine cz_getSN (s := 310) (v := .ref (A 312)) 2 hA (cst_1 hA) (by decide) q265 rfl dX1_lays_82 ?_
          refine z_iload_n 2 dX1_lays_85 rfl ?_
          refine z_iconst (v := zm1) dX1_lays_86 (by decide) ?_
          refine cz_iast (K' := (cput (cput (zs K 99 8 o) 300 σ ds (nI (now % 12)) (nI (now / 12))) 310 (zs1 (zs1 τ (d + 6) (nI (i_6))) (d + 6) zm1) es dt2 yr2)) 312 d hA (by unfold cia; omega) rfl (by have h9 : csz 312 = 6 := rfl; omega) (by rw [cput_zwhere (by omega)]) dX1_lays_87 ?_
          refine z_iinc (v := nI (i_6 + 1)) (lv' := [(3, .int (nI (i_6 + 1))), (2, .int x_27), (0, .ref (A 99)), (1, .int (nI (d)))]) 3 dX1_lays_88 rfl (nI_1 _) (by decide) rfl ?_
          refine z_goto 34 dX1_lays_91 (by decide) ?_
          have f_28 : x_27 = s_sum (fun h => if s_holds vs τ nd h d = true then s_lays vs σ nh nd 4 (zs1 τ (d + 6) (nI h)) else 0) (i_6 + 1) := by (try subst ex_27); simp [s_sum, c_4, c_5, c_5', c_19, c_23]
          subst f_28
          refine z_lv (lv' := [(0, .ref (A 99)), (1, .int (nI (d))), (2, .int (s_sum (fun h => if s_holds vs τ nd h d = true then s_lays vs σ nh nd 4 (zs1 τ (d + 6) (nI h)) else 0) (i_6 + 1))), (3, .int (nI (i_6 + 1)))]) [2, 3, 1, 0] rfl ?_
          refine z_X (X' := (cX g A (cput (cput (zs K 99 8 o) 300 σ ds (nI (now % 12)) (nI (now / 12))) 310 τ es dt2 yr2) F O gl X)) (congrArg (fun z => cX g A (cput (cput (zs K 99 8 o) 300 σ ds (nI (now % 12)) (nI (now / 12))) 310 z es dt2 yr2) F O gl X) (zs1_back (hτ d (Nat.le_refl _) (by omega)))) ?_
          exact ih_8 (i_6 + 1) (by omega) (by omega)  
        · -- s_holds vs τ nd i_6 d = false
          refine z_goto 88 dX1_lays_55 (by decide) ?_
          refine z_iinc (v := nI (i_6 + 1)) (lv' := [(3, .int (nI (i_6 + 1))), (0, .ref (A 99)), (1, .int (nI (d))), (2, .int (s_sum (fun h => if s_holds vs τ nd h d = true then s_lays vs σ nh nd 4 (zs1 τ (d + 6) (nI h)) else 0) i_6))]) 3 dX1_lays_88 rfl (nI_1 _) (by decide) rfl ?_
          refine z_goto 34 dX1_lays_91 (by decide) ?_
          have f_29 : s_sum (fun h => if s_holds vs τ nd h d = true then s_lays vs σ nh nd 4 (zs1 τ (d + 6) (nI h)) else 0) i_6 = s_sum (fun h => if s_holds vs τ nd h d = true then s_lays vs σ nh nd 4 (zs1 τ (d + 6) (nI h)) else 0) (i_6 + 1) := by skip; simp [s_sum, c_4, c_5, c_5', c_19, c_23]
          refine z_lv (lv' := [(0, .ref (A 99)), (1, .int (nI (d))), (2, .int (s_sum (fun h => if s_holds vs τ nd h d = true then s_lays vs σ nh nd 4 (zs1 τ (d + 6) (nI h)) else 0) (i_6 + 1))), (3, .int (nI (i_6 + 1)))]) [1, 2, 3, 0] (by rw [← f_29]; rfl) ?_
          exact ih_8 (i_6 + 1) (by omega) (by omega)  
    have f_30 : 0 = s_sum (fun h => if s_holds vs τ nd h d = true then s_lays vs σ nh nd 4 (zs1 τ (d + 6) (nI h)) else 0) 0 := by rfl
    refine z_lv (lv' := [(0, .ref (A 99)), (1, .int (nI (d))), (2, .int (s_sum (fun h => if s_holds vs τ nd h d = true then s_lays vs σ nh nd 4 (zs1 τ (d + 6) (nI h)) else 0) 0)), (3, .int 0)]) [2, 3, 1, 0] (by rw [← f_30]; rfl) ?_
    exact loop_10 (nh - 0) 0 (by omega) (Nat.le_refl _)  
  · -- ¬ 0 ≤ σ (d + 6)
    have c_5' := Int32.not_le.mp c_5
    refine z_aload_n 0 dX1_lays_22 rfl ?_
    refine z_iload_n 1 dX1_lays_23 rfl ?_
    refine z_iconst (v := 1) dX1_lays_24 (by decide) ?_
    refine z_iaddN (a := d) (b := 1) dX1_lays_25 ?_
    refine z_callV (As := [.int (nI (d + 1))]) (c_lays_4 (K := K) (F := F) (gl := gl) (σ := σ) (ds := ds) (τ := τ) (es := es) (dt2 := dt2) (yr2 := yr2) (o := o) hA hO hV hv hnow hiv (d + 1) (by omega) hzτ (fun j h8 h9 => (hτ j (by omega) (by omega)))) q1370 q1372 qs43 q112 q1373 nm_X1_lays (cX_obj hA) rfl rfl rfl (Nat.le_of_ble_eq_true rfl) ⟨Nat.le_of_ble_eq_true rfl, Nat.le_of_ble_eq_true rfl⟩ dX1_lays_26 rfl rfl (Nat.le_of_ble_eq_true rfl) (Nat.le_of_ble_eq_true rfl) (fun v_31 X_32 hp_33 => ?_)
    obtain ⟨rfl, rfl⟩ := hp_33
    refine z_st (st' := [.int (s_lays vs σ nh nd 4 τ)]) rfl ?_
    exact z_iret dX1_lays_29 rfl (Nat.le_of_ble_eq_true rfl) (Nat.le_of_ble_eq_true rfl) ⟨congrArg some (congrArg Value.int (by show _ = s_lays vs σ nh nd (4 + 1) τ; rw [s_lays_1 (r := 4), show nd - (4 + 1) = d by omega]; simp [c_5, c_5'])), rfl⟩
set_option maxHeartbeats 4000000 in
theorem c_lays_6 {g : zG} {A : Nat → Nat} {K : Nat → Nat → Int32} {F : Nat → Int32} {O : Nat → Nat → Option Nat} {gl : Int64} {X : zX} (hA : cok g A X) {v : Nat} (hO : O 0 0 = some v) {vs : Nat → Int32} {nh nd : Nat} {own : Nat → Nat} {wv : Int32 → Int32 → Int32 → Int32 → Int32} (hV : s_ok vs nh nd own) (hv : cvl g X v vs nh nd wv) {σ ds τ es : Nat → Int32} {dt2 yr2 o : Int32} {now : Nat} (hnow : now < 2 ^ 28) (hiv : s_iv σ nd) (d : Nat) (hd : d + 6 = nd) (hzτ : s_cz τ nd) (hτ : ∀ j, d ≤ j → j < nd → τ (j + 6) = zm1) : zN g m_X1_lays ({ frames := 11, cells := 0, slots := 0, locals := 247 } : Room) [.ref (A 99), .int (nI (d))] (cX g A (cput (cput (zs K 99 8 o) 300 σ ds (nI (now % 12)) (nI (now / 12))) 310 τ es dt2 yr2) F O gl X) (fun rv X' => rv = some (.int (s_lays vs σ nh nd 6 τ)) ∧ X' = (cX g A (cput (cput (zs K 99 8 o) 300 σ ds (nI (now % 12)) (nI (now / 12))) 310 τ es dt2 yr2) F O gl X)) := by
  refine zN.of (by decide +kernel) (Nat.le_of_ble_eq_true rfl) rfl ?_
  refine z_lv (lv' := [(0, .ref (A 99)), (1, .int (nI (d)))]) [0, 1] rfl ?_
  have hA2 := hA.2.2.1
  have hV9 := hV
  have hv9 := hv
  obtain ⟨h0, hnh, h1, hnd, hown⟩ := hV9
  obtain ⟨lh, lg, fh, fg, st9, fa, hxv, ⟨mh, eh, ch, hlh, heh, hch1, hch2⟩, ⟨mg, eg, cg, hlg, heg, hcg1, hcg2⟩, hhs, hgs, hst9, hfa⟩ := hv9
  refine z_iload_n 1 dX1_lays_0 rfl ?_
  refine z_aload_n 0 dX1_lays_1 rfl ?_
  refine z_callV (As := []) (c_guests (K := (cput (cput (zs K 99 8 o) 300 σ ds (nI (now % 12)) (nI (now / 12))) 310 τ es dt2 yr2)) (F := F) (gl := gl) hA hO hxv hlh heh hch1 hch2 hlg heg hcg1 hcg2) q1139 q1141 qs30 q112 q1142 nm_X1_guests (cX_obj hA) rfl rfl rfl (Nat.le_of_ble_eq_true rfl) ⟨Nat.le_of_ble_eq_true rfl, Nat.le_of_ble_eq_true rfl⟩ dX1_lays_2 rfl rfl (Nat.le_of_ble_eq_true rfl) (Nat.le_of_ble_eq_true rfl) (fun v_1 X_2 hp_3 => ?_)
  obtain ⟨rfl, rfl⟩ := hp_3
  refine z_st (st' := [.int (nI (nd)), .int (nI (d))]) rfl ?_
  refine z_icmp_neN (a := d) (b := nd) 10 (by omega) (by omega) dX1_lays_5 (by decide) (fun c_4 => ?_) (fun c_4 => absurd c_4 ((by omega)))
  refine z_aload_n 0 dX1_lays_10 rfl ?_
  refine cz_get (v := .ref (A 309)) 4 hA (by decide) q331 rfl dX1_lays_11 ?_
  refine cz_getSN (s := 300) (v := .ref (A 302)) 2 hA (cst_0 hA) (by decide) q265 rfl dX1_lays_14 ?_
  refine z_iload_n 1 dX1_lays_17 rfl ?_
  refine cz_iald (v := σ (d + 6)) 302 d hA (by unfold cia; omega) rfl (by have h9 : csz 302 = 6 := rfl; omega) (by rw [cput_a (by omega), cput_where (by omega)]) dX1_lays_18 ?_
  refine z_if_ge 30 dX1_lays_19 (by decide) (fun c_5 => ?_) (fun c_5 => ?_)
  · -- 0 ≤ σ (d + 6)
    have c_5' := Int32.not_lt.mpr c_5
    refine z_iconst (v := 0) dX1_lays_30 (by decide) ?_
    refine z_istore_n (lv' := [(2, .int 0), (0, .ref (A 99)), (1, .int (nI (d)))]) dX1_lays_31 rfl (by decide) rfl ?_
    refine z_iconst (v := 0) dX1_lays_32 (by decide) ?_
    refine z_istore_n (lv' := [(3, .int 0), (2, .int 0), (0, .ref (A 99)), (1, .int (nI (d)))]) dX1_lays_33 rfl (by decide) rfl ?_
    have loop_10 : ∀ (q_7 i_6 : Nat), i_6 + q_7 = nh → 0 ≤ i_6 → zZ g m_X1_lays (fun rv X' => rv = some (.int (s_lays vs σ nh nd 6 τ)) ∧ X' = (cX g A (cput (cput (zs K 99 8 o) 300 σ ds (nI (now % 12)) (nI (now / 12))) 310 τ es dt2 yr2) F O gl X), zno, ({ frames := 11, cells := 0, slots := 0, locals := 247 } : Room)) 0 0 (cX g A (cput (cput (zs K 99 8 o) 300 σ ds (nI (now % 12)) (nI (now / 12))) 310 τ es dt2 yr2) F O gl X) 34 [(0, .ref (A 99)), (1, .int (nI (d))), (2, .int (s_sum (fun h => if s_holds vs τ nd h d = true then s_lays vs σ nh nd 5 (zs1 τ (d + 6) (nI h)) else 0) i_6)), (3, .int (nI (i_6)))] [] := by
      intro q_7
      induction q_7 with
      | zero =>
        intro i_6 hb_9 lo_11  
        obtain rfl : nh = i_6 := by omega
        refine z_iload_n 3 dX1_lays_34 rfl ?_
        refine z_aload_n 0 dX1_lays_35 rfl ?_
        refine z_callV (As := []) (c_houses (K := (cput (cput (zs K 99 8 o) 300 σ ds (nI (now % 12)) (nI (now / 12))) 310 τ es dt2 yr2)) (F := F) (gl := gl) hA hO hxv hlh heh hch1 hch2 hlg heg hcg1 hcg2) q1127 q1129 qs28 q112 q1130 nm_X1_houses (cX_obj hA) rfl rfl rfl (Nat.le_of_ble_eq_true rfl) ⟨Nat.le_of_ble_eq_true rfl, Nat.le_of_ble_eq_true rfl⟩ dX1_lays_36 rfl rfl (Nat.le_of_ble_eq_true rfl) (Nat.le_of_ble_eq_true rfl) (fun v_12 X_13 hp_14 => ?_)
        obtain ⟨rfl, rfl⟩ := hp_14
        refine z_st (st' := [.int (nI (nh)), .int (nI (nh))]) rfl ?_
        refine z_icmp_geN (a := nh) (b := nh) 94 (by omega) (by omega) dX1_lays_39 (by decide) (fun c_15 => ?_) (fun c_15 => absurd c_15 (by omega))
        refine z_iload_n 2 dX1_lays_94 rfl ?_
        exact z_iret dX1_lays_95 rfl (Nat.le_of_ble_eq_true rfl) (Nat.le_of_ble_eq_true rfl) ⟨congrArg some (congrArg Value.int (by show _ = s_lays vs σ nh nd (5 + 1) τ; rw [s_lays_1 (r := 5), show nd - (5 + 1) = d by omega]; simp [c_5, c_5'])), rfl⟩
      | succ q_7 ih_8 =>
        intro i_6 hb_9 lo_11  
        refine z_iload_n 3 dX1_lays_34 rfl ?_
        refine z_aload_n 0 dX1_lays_35 rfl ?_
        refine z_callV (As := []) (c_houses (K := (cput (cput (zs K 99 8 o) 300 σ ds (nI (now % 12)) (nI (now / 12))) 310 τ es dt2 yr2)) (F := F) (gl := gl) hA hO hxv hlh heh hch1 hch2 hlg heg hcg1 hcg2) q1127 q1129 qs28 q112 q1130 nm_X1_houses (cX_obj hA) rfl rfl rfl (Nat.le_of_ble_eq_true rfl) ⟨Nat.le_of_ble_eq_true rfl, Nat.le_of_ble_eq_true rfl⟩ dX1_lays_36 rfl rfl (Nat.le_of_ble_eq_true rfl) (Nat.le_of_ble_eq_true rfl) (fun v_16 X_17 hp_18 => ?_)
        obtain ⟨rfl, rfl⟩ := hp_18
        refine z_st (st' := [.int (nI (nh)), .int (nI (i_6))]) rfl ?_
        refine z_icmp_geN (a := i_6) (b := nh) 94 (by omega) (by omega) dX1_lays_39 (by decide) (fun c_19 => absurd c_19 (by omega)) (fun c_19 => ?_)
        refine z_aload_n 0 dX1_lays_42 rfl ?_
        refine z_aload_n 0 dX1_lays_43 rfl ?_
        refine cz_get (v := .ref (A 319)) 5 hA (by decide) q332 rfl dX1_lays_44 ?_
        refine z_iload_n 3 dX1_lays_47 rfl ?_
        refine z_iload_n 1 dX1_lays_48 rfl ?_
        refine z_callV (As := [.ref (A 319), .int (nI (i_6)), .int (nI (d))]) (c_holds (F := F) (gl := gl) (K := (cput (zs K 99 8 o) 300 σ ds (nI (now % 12)) (nI (now / 12)))) (σ := τ) (ds := es) (dt := dt2) (yr := yr2) hA hO hV hv (cst_1 hA) hzτ i_6 d (by omega) (by omega)) q1237 q1239 qs38 q112 q1240 nm_X1_holds (cX_obj hA) rfl rfl rfl (Nat.le_of_ble_eq_true rfl) ⟨Nat.le_of_ble_eq_true rfl, Nat.le_of_ble_eq_true rfl⟩ dX1_lays_49 rfl rfl (Nat.le_of_ble_eq_true rfl) (Nat.le_of_ble_eq_true rfl) (fun v_20 X_21 hp_22 => ?_)
        obtain ⟨rfl, rfl⟩ := hp_22
        refine z_st (st' := [.int (zb (s_holds vs τ nd i_6 d))]) rfl ?_
        refine z_if_neb 58 dX1_lays_52 (by decide) (fun c_23 => ?_) (fun c_23 => ?_)
        · -- s_holds vs τ nd i_6 d = true
          refine z_aload_n 0 dX1_lays_58 rfl ?_
          refine cz_get (v := .ref (A 319)) 5 hA (by decide) q332 rfl dX1_lays_59 ?_
          refine cz_getSN (s := 310) (v := .ref (A 312)) 2 hA (cst_1 hA) (by decide) q265 rfl dX1_lays_62 ?_
          refine z_iload_n 1 dX1_lays_65 rfl ?_
          refine z_iload_n 3 dX1_lays_66 rfl ?_
          refine cz_iast (K' := (cput (cput (zs K 99 8 o) 300 σ ds (nI (now % 12)) (nI (now / 12))) 310 (zs1 τ (d + 6) (nI (i_6))) es dt2 yr2)) 312 d hA (by unfold cia; omega) rfl (by have h9 : csz 312 = 6 := rfl; omega) (by rw [cput_zwhere (by omega)]) dX1_lays_67 ?_
          refine z_iload_n 2 dX1_lays_68 rfl ?_
          refine z_aload_n 0 dX1_lays_69 rfl ?_
          refine z_iload_n 1 dX1_lays_70 rfl ?_
          refine z_iconst (v := 1) dX1_lays_71 (by decide) ?_
          refine z_iaddN (a := d) (b := 1) dX1_lays_72 ?_
          refine z_callV (As := [.int (nI (d + 1))]) (c_lays_5 (K := K) (F := F) (gl := gl) (σ := σ) (ds := ds) (τ := (zs1 τ (d + 6) (nI (i_6)))) (es := es) (dt2 := dt2) (yr2 := yr2) (o := o) hA hO hV hv hnow hiv (d + 1) (by omega) (s_cz_w hzτ (by omega) hnd) (fun j h8 h9 => (zs1_n (by omega)).trans (hτ j (by omega) (by omega)))) q1370 q1372 qs43 q112 q1373 nm_X1_lays (cX_obj hA) rfl rfl rfl (Nat.le_of_ble_eq_true rfl) ⟨Nat.le_of_ble_eq_true rfl, Nat.le_of_ble_eq_true rfl⟩ dX1_lays_73 rfl rfl (Nat.le_of_ble_eq_true rfl) (Nat.le_of_ble_eq_true rfl) (fun v_24 X_25 hp_26 => ?_)
          obtain ⟨rfl, rfl⟩ := hp_26
          refine z_st (st' := [.int (s_lays vs σ nh nd 5 (zs1 τ (d + 6) (nI (i_6)))), .int (s_sum (fun h => if s_holds vs τ nd h d = true then s_lays vs σ nh nd 5 (zs1 τ (d + 6) (nI h)) else 0) i_6)]) rfl ?_
          refine z_iadd dX1_lays_76 ?_
          obtain ⟨x_27, ex_27⟩ : ∃ y : Int32, ((s_sum (fun h => if s_holds vs τ nd h d = true then s_lays vs σ nh nd 5 (zs1 τ (d + 6) (nI h)) else 0) i_6) + (s_lays vs σ nh nd 5 (zs1 τ (d + 6) (nI (i_6))))) = y := ⟨_, rfl⟩
          refine z_eq ex_27 ?_
          refine z_istore_n (lv' := [(2, .int x_27), (0, .ref (A 99)), (1, .int (nI (d))), (3, .int (nI (i_6)))]) dX1_lays_77 rfl (by decide) rfl ?_
          refine z_aload_n 1 dX1_lays_78 rfl ?_
          refine cz_get (v := .ref (A 319)) 5 hA (by decide) q332 rfl dX1_lays_79 ?_
          refine cz_getSN (s := 310) (v := .ref (A 312)) 2 hA (cst_1 hA) (by decide) q265 rfl dX1_lays_82 ?_
          refine z_iload_n 2 dX1_lays_85 rfl ?_
          refine z_iconst (v := zm1) dX1_lays_86 (by decide) ?_
          refine cz_iast (K' := (cput (cput (zs K 99 8 o) 300 σ ds (nI (now % 12)) (nI (now / 12))) 310 (zs1 (zs1 τ (d + 6) (nI (i_6))) (d + 6) zm1) es dt2 yr2)) 312 d hA (by unfold cia; omega) rfl (by have h9 : csz 312 = 6 := rfl; omega) (by rw [cput_zwhere (by omega)]) dX1_lays_87 ?_
          refine z_iinc (v := nI (i_6 + 1)) (lv' := [(3, .int (nI (i_6 + 1))), (2, .int x_27), (0, .ref (A 99)), (1, .int (nI (d)))]) 3 dX1_lays_88 rfl (nI_1 _) (by decide) rfl ?_
          refine z_goto 34 dX1_lays_91 (by decide) ?_
          have f_28 : x_27 = s_sum (fun h => if s_holds vs τ nd h d = true then s_lays vs σ nh nd 5 (zs1 τ (d + 6) (nI h)) else 0) (i_6 + 1) := by (try subst ex_27); simp [s_sum, c_4, c_5, c_5', c_19, c_23]
          subst f_28
          refine z_lv (lv' := [(0, .ref (A 99)), (1, .int (nI (d))), (2, .int (s_sum (fun h => if s_holds vs τ nd h d = true then s_lays vs σ nh nd 5 (zs1 τ (d + 6) (nI h)) else 0) (i_6 + 1))), (3, .int (nI (i_6 + 1)))]) [2, 3, 1, 0] rfl ?_
          refine z_X (X' := (cX g A (cput (cput (zs K 99 8 o) 300 σ ds (nI (now % 12)) (nI (now / 12))) 310 τ es dt2 yr2) F O gl X)) (congrArg (fun z => cX g A (cput (cput (zs K 99 8 o) 300 σ ds (nI (now % 12)) (nI (now / 12))) 310 z es dt2 yr2) F O gl X) (zs1_back (hτ d (Nat.le_refl _) (by omega)))) ?_
          exact ih_8 (i_6 + 1) (by omega) (by omega)  
        · -- s_holds vs τ nd i_6 d = false
          refine z_goto 88 dX1_lays_55 (by decide) ?_
          refine z_iinc (v := nI (i_6 + 1)) (lv' := [(3, .int (nI (i_6 + 1))), (0, .ref (A 99)), (1, .int (nI (d))), (2, .int (s_sum (fun h => if s_holds vs τ nd h d = true then s_lays vs σ nh nd 5 (zs1 τ (d + 6) (nI h)) else 0) i_6))]) 3 dX1_lays_88 rfl (nI_1 _) (by decide) rfl ?_
          refine z_goto 34 dX1_lays_91 (by decide) ?_
          have f_29 : s_sum (fun h => if s_holds vs τ nd h d = true then s_lays vs σ nh nd 5 (zs1 τ (d + 6) (nI h)) else 0) i_6 = s_sum (fun h => if s_holds vs τ nd h d = true then s_lays vs σ nh nd 5 (zs1 τ (d + 6) (nI h)) else 0) (i_6 + 1) := by skip; simp [s_sum, c_4, c_5, c_5', c_19, c_23]
          refine z_lv (lv' := [(0, .ref (A 99)), (1, .int (nI (d))), (2, .int (s_sum (fun h => if s_holds vs τ nd h d = true then s_lays vs σ nh nd 5 (zs1 τ (d + 6) (nI h)) else 0) (i_6 + 1))), (3, .int (nI (i_6 + 1)))]) [1, 2, 3, 0] (by rw [← f_29]; rfl) ?_
          exact ih_8 (i_6 + 1) (by omega) (by omega)  
    have f_30 : 0 = s_sum (fun h => if s_holds vs τ nd h d = true then s_lays vs σ nh nd 5 (zs1 τ (d + 6) (nI h)) else 0) 0 := by rfl
    refine z_lv (lv' := [(0, .ref (A 99)), (1, .int (nI (d))), (2, .int (s_sum (fun h => if s_holds vs τ nd h d = true then s_lays vs σ nh nd 5 (zs1 τ (d + 6) (nI h)) else 0) 0)), (3, .int 0)]) [2, 3, 1, 0] (by rw [← f_30]; rfl) ?_
    exact loop_10 (nh - 0) 0 (by omega) (Nat.le_refl _)  
  · -- ¬ 0 ≤ σ (d + 6)
    have c_5' := Int32.not_le.mp c_5
    refine z_aload_n 0 dX1_lays_22 rfl ?_
    refine z_iload_n 1 dX1_lays_23 rfl ?_
    refine z_iconst (v := 1) dX1_lays_24 (by decide) ?_
    refine z_iaddN (a := d) (b := 1) dX1_lays_25 ?_
    refine z_callV (As := [.int (nI (d + 1))]) (c_lays_5 (K := K) (F := F) (gl := gl) (σ := σ) (ds := ds) (τ := τ) (es := es) (dt2 := dt2) (yr2 := yr2) (o := o) hA hO hV hv hnow hiv (d + 1) (by omega) hzτ (fun j h8 h9 => (hτ j (by omega) (by omega)))) q1370 q1372 qs43 q112 q1373 nm_X1_lays (cX_obj hA) rfl rfl rfl (Nat.le_of_ble_eq_true rfl) ⟨Nat.le_of_ble_eq_true rfl, Nat.le_of_ble_eq_true rfl⟩ dX1_lays_26 rfl rfl (Nat.le_of_ble_eq_true rfl) (Nat.le_of_ble_eq_true rfl) (fun v_31 X_32 hp_33 => ?_)
    obtain ⟨rfl, rfl⟩ := hp_33
    refine z_st (st' := [.int (s_lays vs σ nh nd 5 τ)]) rfl ?_
    exact z_iret dX1_lays_29 rfl (Nat.le_of_ble_eq_true rfl) (Nat.le_of_ble_eq_true rfl) ⟨congrArg some (congrArg Value.int (by show _ = s_lays vs σ nh nd (5 + 1) τ; rw [s_lays_1 (r := 5), show nd - (5 + 1) = d by omega]; simp [c_5, c_5'])), rfl⟩
theorem c_lays {g : zG} {A : Nat → Nat} {K : Nat → Nat → Int32} {F : Nat → Int32} {O : Nat → Nat → Option Nat} {gl : Int64} {X : zX} (hA : cok g A X) {v : Nat} (hO : O 0 0 = some v) {vs : Nat → Int32} {nh nd : Nat} {own : Nat → Nat} {wv : Int32 → Int32 → Int32 → Int32 → Int32} (hV : s_ok vs nh nd own) (hv : cvl g X v vs nh nd wv) {σ ds τ es : Nat → Int32} {dt2 yr2 o : Int32} {now : Nat} (hnow : now < 2 ^ 28) (hiv : s_iv σ nd) (hzτ : s_cz τ nd) (hτ : ∀ j, j < nd → τ (j + 6) = zm1) : zN g m_X1_lays ({ frames := 11, cells := 0, slots := 0, locals := 247 } : Room) [.ref (A 99), .int 0] (cX g A (cput (cput (zs K 99 8 o) 300 σ ds (nI (now % 12)) (nI (now / 12))) 310 τ es dt2 yr2) F O gl X) (fun rv X' => rv = some (.int (s_lays vs σ nh nd nd τ)) ∧ X' = (cX g A (cput (cput (zs K 99 8 o) 300 σ ds (nI (now % 12)) (nI (now / 12))) 310 τ es dt2 yr2) F O gl X)) := by
  have hnd := hV.2.2.2.1
  rcases (by omega : nd = 0 ∨ nd = 1 ∨ nd = 2 ∨ nd = 3 ∨ nd = 4 ∨ nd = 5 ∨ nd = 6) with rfl | rfl | rfl | rfl | rfl | rfl | rfl
  · exact zN.room (R := ({ frames := 2, cells := 0, slots := 0, locals := 40 } : Room)) (by decide) rfl rfl (by decide) (c_lays_0 hA hO hV hv hnow hiv 0 (by decide) hzτ (fun j _ hj => hτ j hj))
  · exact zN.room (R := ({ frames := 6, cells := 0, slots := 0, locals := 132 } : Room)) (by decide) rfl rfl (by decide) (c_lays_1 hA hO hV hv hnow hiv 0 (by decide) hzτ (fun j _ hj => hτ j hj))
  · exact zN.room (R := ({ frames := 7, cells := 0, slots := 0, locals := 155 } : Room)) (by decide) rfl rfl (by decide) (c_lays_2 hA hO hV hv hnow hiv 0 (by decide) hzτ (fun j _ hj => hτ j hj))
  · exact zN.room (R := ({ frames := 8, cells := 0, slots := 0, locals := 178 } : Room)) (by decide) rfl rfl (by decide) (c_lays_3 hA hO hV hv hnow hiv 0 (by decide) hzτ (fun j _ hj => hτ j hj))
  · exact zN.room (R := ({ frames := 9, cells := 0, slots := 0, locals := 201 } : Room)) (by decide) rfl rfl (by decide) (c_lays_4 hA hO hV hv hnow hiv 0 (by decide) hzτ (fun j _ hj => hτ j hj))
  · exact zN.room (R := ({ frames := 10, cells := 0, slots := 0, locals := 224 } : Room)) (by decide) rfl rfl (by decide) (c_lays_5 hA hO hV hv hnow hiv 0 (by decide) hzτ (fun j _ hj => hτ j hj))
  · exact zN.room (R := ({ frames := 11, cells := 0, slots := 0, locals := 247 } : Room)) (by decide) rfl rfl (by decide) (c_lays_6 hA hO hV hv hnow hiv 0 (by decide) hzτ (fun j _ hj => hτ j hj))
set_option maxHeartbeats 4000000 in
theorem c_laying {g : zG} {A : Nat → Nat} {K : Nat → Nat → Int32} {F : Nat → Int32} {O : Nat → Nat → Option Nat} {gl : Int64} {X : zX} (hA : cok g A X) {v : Nat} (hO : O 0 0 = some v) {vs : Nat → Int32} {nh nd : Nat} {own : Nat → Nat} {wv : Int32 → Int32 → Int32 → Int32 → Int32} (hV : s_ok vs nh nd own) (hv : cvl g X v vs nh nd wv) {σ ds τ es : Nat → Int32} {dt2 yr2 o : Int32} {now : Nat} (hnow : now < 2 ^ 28) (hiv : s_iv σ nd)  : zN g m_X1_laying ({ frames := 12, cells := 0, slots := 0, locals := 270 } : Room) [.ref (A 99)] (cX g A (cput (cput (zs K 99 8 o) 300 σ ds (nI (now % 12)) (nI (now / 12))) 310 τ es dt2 yr2) F O gl X) (fun rv X' => rv = some (.int (s_lays vs σ nh nd nd (s_none σ 6))) ∧ ∃ (o' : Int32) (F' τ' es' : Nat → Int32) (dt' yr' : Int32), X' = cX g A (cput (cput (zs K 99 8 o') 300 σ ds (nI (now % 12)) (nI (now / 12))) 310 τ' es' dt' yr') F' O gl X) := by
  refine zN.of (by decide +kernel) (Nat.le_of_ble_eq_true rfl) rfl ?_
  refine z_lv (lv' := [(0, .ref (A 99))]) [0] rfl ?_
  have hA2 := hA.2.2.1
  have hV9 := hV
  have hv9 := hv
  obtain ⟨h0, hnh, h1, hnd, hown⟩ := hV9
  obtain ⟨lh, lg, fh, fg, st9, fa, hxv, ⟨mh, eh, ch, hlh, heh, hch1, hch2⟩, ⟨mg, eg, cg, hlg, heg, hcg1, hcg2⟩, hhs, hgs, hst9, hfa⟩ := hv9
  refine z_aload_n 0 dX1_laying_0 rfl ?_
  refine cz_get (v := .ref (A 319)) 5 hA (by decide) q332 rfl dX1_laying_1 ?_
  refine z_aload_n 0 dX1_laying_4 rfl ?_
  refine cz_get (v := .ref (A 309)) 4 hA (by decide) q331 rfl dX1_laying_5 ?_
  refine z_callV (As := [.ref (A 309)]) (c_be (K := (zs K 99 8 o)) (F := F) (O := O) (gl := gl) hA (cst_1 hA) (cst_0 hA) (by omega) (σ := τ) (τ := σ) (ds := es) (es := ds)) q1202 q1203 q1204 q118 q1205 nm_X4_be (cX_st hA (cst_1 hA)) rfl rfl rfl (Nat.le_of_ble_eq_true rfl) ⟨Nat.le_of_ble_eq_true rfl, Nat.le_of_ble_eq_true rfl⟩ dX1_laying_8 rfl rfl (Nat.le_of_ble_eq_true rfl) (Nat.le_of_ble_eq_true rfl) (fun v_1 X_2 hp_3 => ?_)
  obtain ⟨rfl, rfl⟩ := hp_3
  refine z_st (st' := []) rfl ?_
  refine z_iconst (v := 0) dX1_laying_11 (by decide) ?_
  refine z_istore_n (lv' := [(1, .int 0), (0, .ref (A 99))]) dX1_laying_12 rfl (by decide) rfl ?_
  have loop_8 : ∀ (q_5 i_4 : Nat), i_4 + q_5 = 6 → 0 ≤ i_4 → zZ g m_X1_laying (fun rv X' => rv = some (.int (s_lays vs σ nh nd nd (s_none σ 6))) ∧ ∃ (o' : Int32) (F' τ' es' : Nat → Int32) (dt' yr' : Int32), X' = cX g A (cput (cput (zs K 99 8 o') 300 σ ds (nI (now % 12)) (nI (now / 12))) 310 τ' es' dt' yr') F' O gl X, zno, ({ frames := 12, cells := 0, slots := 0, locals := 270 } : Room)) 0 0 (cX g A (cput (cput (zs K 99 8 o) 300 σ ds (nI (now % 12)) (nI (now / 12))) 310 (s_none σ i_4) ds (nI (now % 12)) (nI (now / 12))) F O gl X) 13 [(0, .ref (A 99)), (1, .int (nI (i_4)))] [] := by
    intro q_5
    induction q_5 with
    | zero =>
      intro i_4 hb_7 lo_9  
      obtain rfl : 6 = i_4 := by omega
      refine z_iload_n 1 dX1_laying_13 rfl ?_
      refine z_bipush (v := 6) dX1_laying_14 (by decide) ?_
      refine z_icmp_geN (a := 6) (b := 6) 35 (by decide) (by decide) dX1_laying_16 (by decide) (fun h_ => ?_) (fun h_ => absurd h_ (by decide))
      refine z_aload_n 0 dX1_laying_35 rfl ?_
      refine z_iconst (v := 0) dX1_laying_36 (by decide) ?_
      refine z_callV (As := [.int 0]) (c_lays (K := K) (F := F) (gl := gl) (σ := σ) (ds := ds) (τ := (s_none σ 6)) (es := ds) (dt2 := (nI (now % 12))) (yr2 := (nI (now / 12))) (o := o) hA hO hV hv hnow hiv (s_cz_none hiv.1) (fun j hj => if_pos (by omega))) q1370 q1372 qs43 q112 q1373 nm_X1_lays (cX_obj hA) rfl rfl rfl (Nat.le_of_ble_eq_true rfl) ⟨Nat.le_of_ble_eq_true rfl, Nat.le_of_ble_eq_true rfl⟩ dX1_laying_37 rfl rfl (Nat.le_of_ble_eq_true rfl) (Nat.le_of_ble_eq_true rfl) (fun v_10 X_11 hp_12 => ?_)
      obtain ⟨rfl, rfl⟩ := hp_12
      refine z_st (st' := [.int (s_lays vs σ nh nd nd (s_none σ 6))]) rfl ?_
      exact z_iret dX1_laying_40 rfl (Nat.le_of_ble_eq_true rfl) (Nat.le_of_ble_eq_true rfl) ⟨congrArg some (congrArg Value.int rfl), o, F, (s_none σ 6), ds, (nI (now % 12)), (nI (now / 12)), rfl⟩
    | succ q_5 ih_6 =>
      intro i_4 hb_7 lo_9  
      refine z_iload_n 1 dX1_laying_13 rfl ?_
      refine z_bipush (v := 6) dX1_laying_14 (by decide) ?_
      refine z_icmp_geN (a := i_4) (b := 6) 35 (by omega) (by omega) dX1_laying_16 (by decide) (fun c_13 => absurd c_13 (by omega)) (fun c_13 => ?_)
      refine z_aload_n 0 dX1_laying_19 rfl ?_
      refine cz_get (v := .ref (A 319)) 5 hA (by decide) q332 rfl dX1_laying_20 ?_
      refine cz_getSN (s := 310) (v := .ref (A 312)) 2 hA (cst_1 hA) (by decide) q265 rfl dX1_laying_23 ?_
      refine z_iload_n 1 dX1_laying_26 rfl ?_
      refine z_iconst (v := zm1) dX1_laying_27 (by decide) ?_
      refine cz_iast (K' := (cput (cput (zs K 99 8 o) 300 σ ds (nI (now % 12)) (nI (now / 12))) 310 (zs1 (s_none σ i_4) (i_4 + 6) zm1) ds (nI (now % 12)) (nI (now / 12)))) 312 i_4 hA (by unfold cia; omega) rfl (by have h9 : csz 312 = 6 := rfl; omega) (by rw [cput_zwhere (by omega)]) dX1_laying_28 ?_
      refine z_iinc (v := nI (i_4 + 1)) (lv' := [(1, .int (nI (i_4 + 1))), (0, .ref (A 99))]) 1 dX1_laying_29 rfl (nI_1 _) (by decide) rfl ?_
      refine z_goto 13 dX1_laying_32 (by decide) ?_
      refine z_lv (lv' := [(0, .ref (A 99)), (1, .int (nI (i_4 + 1)))]) [1, 0] rfl ?_
      refine z_X (X' := (cX g A (cput (cput (zs K 99 8 o) 300 σ ds (nI (now % 12)) (nI (now / 12))) 310 (s_none σ (i_4 + 1)) ds (nI (now % 12)) (nI (now / 12))) F O gl X)) (by rw [s_none_1]) ?_
      exact ih_6 (i_4 + 1) (by omega) (by omega)  
  refine z_lv (lv' := [(0, .ref (A 99)), (1, .int 0)]) [1, 0] rfl ?_
  refine z_X (X' := (cX g A (cput (cput (zs K 99 8 o) 300 σ ds (nI (now % 12)) (nI (now / 12))) 310 (s_none σ 0) ds (nI (now % 12)) (nI (now / 12))) F O gl X)) (by rw [s_none_0]) ?_
  exact loop_8 (6 - 0) 0 (by omega) (Nat.le_refl _)  
