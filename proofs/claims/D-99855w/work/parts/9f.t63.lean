/-! THE COMPONENT: kept apart, by depth. Printed by t63.py -/
set_option maxRecDepth 100000
def s_ra (K : Nat → Nat → Int32) (f : Nat → Int32) : Nat → Nat → Int32 := fun r q => if r = 14 then f q else K r q
theorem s_ra_self {K : Nat → Nat → Int32} : s_ra K (K 14) = K := by
  funext r q
  show (if r = 14 then K 14 q else K r q) = K r q
  by_cases h : r = 14
  · rw [if_pos h, h]
  · rw [if_neg h]
theorem s_ra_r {K : Nat → Nat → Int32} {f : Nat → Int32} {q : Nat} : s_ra K f 14 q = f q := if_pos rfl
theorem s_ra_z {K : Nat → Nat → Int32} {f : Nat → Int32} {q : Nat} {v : Int32} : zs (s_ra K f) 14 q v = s_ra K (zs1 f q v) := by
  funext i j
  show (if i = 14 ∧ j = q then v else if i = 14 then f j else K i j) = (if i = 14 then (if j = q then v else f j) else K i j)
  by_cases h : i = 14
  · by_cases h2 : j = q
    · rw [if_pos ⟨h, h2⟩, if_pos h, if_pos h2]
    · rw [if_neg (fun z => h2 z.2), if_pos h, if_pos h, if_neg h2]
  · rw [if_neg (fun z => h z.1), if_neg h, if_neg h]
theorem s_rp_1 {f ap : Nat → Int32} {d : Nat} {v : Int32} (h : ∀ o, o < d → f o = ap o) : ∀ o, o < d + 1 → zs1 f d v o = zs1 ap d v o := fun o ho => by
  by_cases e : o = d
  · subst e
    exact zs1_s.trans zs1_s.symm
  · exact (zs1_n e).trans ((h o (by omega)).trans (zs1_n e).symm)
theorem s_rp_2 {f ap : Nat → Int32} {d : Nat} {v : Int32} (h : ∀ o, o < d + 1 → f o = zs1 ap d v o) : ∀ o, o < d → f o = ap o := fun o ho => (h o (by omega)).trans (zs1_n (by omega))
set_option maxHeartbeats 4000000 in
theorem c_isApart_0 {g : zG} {A : Nat → Nat} {K : Nat → Nat → Int32} {F : Nat → Int32} {O : Nat → Nat → Option Nat} {gl : Int64} {X : zX} (hA : cok g A X) {v : Nat} (hO : O 0 0 = some v) {vs : Nat → Int32} {nh nd : Nat} {own : Nat → Nat} {wv : Int32 → Int32 → Int32 → Int32 → Int32} (hV : s_ok vs nh nd own) (hv : cvl g X v vs nh nd wv) {σ ds τ es : Nat → Int32} {dt2 yr2 o : Int32} {now : Nat} (hnow : now < 2 ^ 28) (hiv : s_iv σ nd) {f : Nat → Int32} (d : Nat) (hd : d + 0 = nd) (m : Nat) (hm : m < 2 ^ 30) {ap : Nat → Int32} (hap : ∀ o, o < d → f o = ap o) : zN g m_X1_isApart ({ frames := 2, cells := 0, slots := 0, locals := 40 } : Room) [.ref (A 99), .int (nI (d)), .int (nI (m))] (cX g A (cput (cput (zs (s_ra K f) 99 8 o) 300 σ ds (nI (now % 12)) (nI (now / 12))) 310 τ es dt2 yr2) F O gl X) (fun rv X' => rv = some (.int (zb (s_apt vs m nd 0 ap))) ∧ ∃ f' : Nat → Int32, X' = (cX g A (cput (cput (zs (s_ra K f') 99 8 o) 300 σ ds (nI (now % 12)) (nI (now / 12))) 310 τ es dt2 yr2) F O gl X) ∧ ∀ o, o < d → f' o = ap o) := by
  refine zN.of (by decide +kernel) (Nat.le_of_ble_eq_true rfl) rfl ?_
  refine z_lv (lv' := [(0, .ref (A 99)), (1, .int (nI (d))), (2, .int (nI (m)))]) [0, 1, 2] rfl ?_
  have hA2 := hA.2.2.1
  have hV9 := hV
  have hv9 := hv
  obtain ⟨h0, hnh, h1, hnd, hown⟩ := hV9
  obtain ⟨lh, lg, fh, fg, st9, fa, hxv, ⟨mh, eh, ch, hlh, heh, hch1, hch2⟩, ⟨mg, eg, cg, hlg, heg, hcg1, hcg2⟩, hhs, hgs, hst9, hfa⟩ := hv9
  refine z_iload_n 1 dX1_isApart_0 rfl ?_
  refine z_aload_n 0 dX1_isApart_1 rfl ?_
  refine z_callV (As := []) (c_guests (K := (cput (cput (zs (s_ra K f) 99 8 o) 300 σ ds (nI (now % 12)) (nI (now / 12))) 310 τ es dt2 yr2)) (F := F) (gl := gl) hA hO hxv hlh heh hch1 hch2 hlg heg hcg1 hcg2) q1139 q1141 qs30 q112 q1142 nm_X1_guests (cX_obj hA) rfl rfl rfl (Nat.le_of_ble_eq_true rfl) ⟨Nat.le_of_ble_eq_true rfl, Nat.le_of_ble_eq_true rfl⟩ dX1_isApart_2 rfl rfl (Nat.le_of_ble_eq_true rfl) (Nat.le_of_ble_eq_true rfl) (fun v_1 X_2 hp_3 => ?_)
  obtain ⟨rfl, rfl⟩ := hp_3
  refine z_st (st' := [.int (nI (nd)), .int (nI (d))]) rfl ?_
  refine z_icmp_neN (a := d) (b := nd) 10 (by omega) (by omega) dX1_isApart_5 (by decide) (fun c_4 => absurd c_4 ((fun h => h (by omega)))) (fun c_4 => ?_)
  refine z_iconst (v := 1) dX1_isApart_8 (by decide) ?_
  exact z_zret dX1_isApart_9 rfl (by first | rfl | decide | exact zb_nar _) (Nat.le_of_ble_eq_true rfl) (Nat.le_of_ble_eq_true rfl) ⟨rfl, f, rfl, hap⟩
set_option maxHeartbeats 4000000 in
theorem c_isApart_1 {g : zG} {A : Nat → Nat} {K : Nat → Nat → Int32} {F : Nat → Int32} {O : Nat → Nat → Option Nat} {gl : Int64} {X : zX} (hA : cok g A X) {v : Nat} (hO : O 0 0 = some v) {vs : Nat → Int32} {nh nd : Nat} {own : Nat → Nat} {wv : Int32 → Int32 → Int32 → Int32 → Int32} (hV : s_ok vs nh nd own) (hv : cvl g X v vs nh nd wv) {σ ds τ es : Nat → Int32} {dt2 yr2 o : Int32} {now : Nat} (hnow : now < 2 ^ 28) (hiv : s_iv σ nd) {f : Nat → Int32} (d : Nat) (hd : d + 1 = nd) (m : Nat) (hm : m < 2 ^ 30) {ap : Nat → Int32} (hap : ∀ o, o < d → f o = ap o) : zN g m_X1_isApart ({ frames := 4, cells := 0, slots := 0, locals := 85 } : Room) [.ref (A 99), .int (nI (d)), .int (nI (m))] (cX g A (cput (cput (zs (s_ra K f) 99 8 o) 300 σ ds (nI (now % 12)) (nI (now / 12))) 310 τ es dt2 yr2) F O gl X) (fun rv X' => rv = some (.int (zb (s_apt vs m nd 1 ap))) ∧ ∃ f' : Nat → Int32, X' = (cX g A (cput (cput (zs (s_ra K f') 99 8 o) 300 σ ds (nI (now % 12)) (nI (now / 12))) 310 τ es dt2 yr2) F O gl X) ∧ ∀ o, o < d → f' o = ap o) := by
  refine zN.of (by decide +kernel) (Nat.le_of_ble_eq_true rfl) rfl ?_
  refine z_lv (lv' := [(0, .ref (A 99)), (1, .int (nI (d))), (2, .int (nI (m)))]) [0, 1, 2] rfl ?_
  have hA2 := hA.2.2.1
  have hV9 := hV
  have hv9 := hv
  obtain ⟨h0, hnh, h1, hnd, hown⟩ := hV9
  obtain ⟨lh, lg, fh, fg, st9, fa, hxv, ⟨mh, eh, ch, hlh, heh, hch1, hch2⟩, ⟨mg, eg, cg, hlg, heg, hcg1, hcg2⟩, hhs, hgs, hst9, hfa⟩ := hv9
  refine z_iload_n 1 dX1_isApart_0 rfl ?_
  refine z_aload_n 0 dX1_isApart_1 rfl ?_
  refine z_callV (As := []) (c_guests (K := (cput (cput (zs (s_ra K f) 99 8 o) 300 σ ds (nI (now % 12)) (nI (now / 12))) 310 τ es dt2 yr2)) (F := F) (gl := gl) hA hO hxv hlh heh hch1 hch2 hlg heg hcg1 hcg2) q1139 q1141 qs30 q112 q1142 nm_X1_guests (cX_obj hA) rfl rfl rfl (Nat.le_of_ble_eq_true rfl) ⟨Nat.le_of_ble_eq_true rfl, Nat.le_of_ble_eq_true rfl⟩ dX1_isApart_2 rfl rfl (Nat.le_of_ble_eq_true rfl) (Nat.le_of_ble_eq_true rfl) (fun v_1 X_2 hp_3 => ?_)
  obtain ⟨rfl, rfl⟩ := hp_3
  refine z_st (st' := [.int (nI (nd)), .int (nI (d))]) rfl ?_
  refine z_icmp_neN (a := d) (b := nd) 10 (by omega) (by omega) dX1_isApart_5 (by decide) (fun c_4 => ?_) (fun c_4 => absurd c_4 ((by omega)))
  refine z_iconst (v := 0) dX1_isApart_10 (by decide) ?_
  refine z_istore_n (lv' := [(3, .int 0), (0, .ref (A 99)), (1, .int (nI (d))), (2, .int (nI (m)))]) dX1_isApart_11 rfl (by decide) rfl ?_
  have loop_9 : ∀ (q_6 i_5 : Nat), i_5 + q_6 = m → 0 ≤ i_5 → ∀ (r_10 : Nat → Int32), (∀ o, o < d → r_10 o = ap o) → s_ex (fun h => s_mayA (vs (5 * d + 16)) ap h d && s_apt vs m nd 0 (zs1 ap d (nI h))) i_5 = false → zZ g m_X1_isApart (fun rv X' => rv = some (.int (zb (s_apt vs m nd 1 ap))) ∧ ∃ f' : Nat → Int32, X' = (cX g A (cput (cput (zs (s_ra K f') 99 8 o) 300 σ ds (nI (now % 12)) (nI (now / 12))) 310 τ es dt2 yr2) F O gl X) ∧ ∀ o, o < d → f' o = ap o, zno, ({ frames := 4, cells := 0, slots := 0, locals := 85 } : Room)) 0 0 (cX g A (cput (cput (zs (s_ra K r_10) 99 8 o) 300 σ ds (nI (now % 12)) (nI (now / 12))) 310 τ es dt2 yr2) F O gl X) 12 [(0, .ref (A 99)), (1, .int (nI (d))), (2, .int (nI (m))), (3, .int (nI (i_5)))] [] := by
    intro q_6
    induction q_6 with
    | zero =>
      intro i_5 hb_8 lo_13 r_10 hi_11 hi_12
      obtain rfl : m = i_5 := by omega
      refine z_iload_n 3 dX1_isApart_12 rfl ?_
      refine z_iload_n 2 dX1_isApart_13 rfl ?_
      refine z_icmp_geN (a := m) (b := m) 99 (by omega) (by omega) dX1_isApart_14 (by decide) (fun c_14 => ?_) (fun c_14 => absurd c_14 (by omega))
      refine z_iconst (v := 0) dX1_isApart_99 (by decide) ?_
      exact z_zret dX1_isApart_100 rfl (by first | rfl | decide | exact zb_nar _) (Nat.le_of_ble_eq_true rfl) (Nat.le_of_ble_eq_true rfl) ⟨congrArg some (congrArg Value.int (by show _ = zb (s_apt vs m nd (0 + 1) ap); rw [s_apt_1 (r := 0), show nd - (0 + 1) = d by omega]; exact (zb_f hi_12).symm)), r_10, rfl, hi_11⟩
    | succ q_6 ih_7 =>
      intro i_5 hb_8 lo_13 r_10 hi_11 hi_12
      refine z_iload_n 3 dX1_isApart_12 rfl ?_
      refine z_iload_n 2 dX1_isApart_13 rfl ?_
      refine z_icmp_geN (a := i_5) (b := m) 99 (by omega) (by omega) dX1_isApart_14 (by decide) (fun c_15 => absurd c_15 (by omega)) (fun c_15 => ?_)
      refine z_iconst (v := 1) dX1_isApart_17 (by decide) ?_
      refine z_istore (lv' := [(4, .int 1), (0, .ref (A 99)), (1, .int (nI (d))), (2, .int (nI (m))), (3, .int (nI (i_5)))]) dX1_isApart_18 (by decide) rfl ?_
      refine z_iconst (v := 0) dX1_isApart_20 (by decide) ?_
      refine z_istore (lv' := [(5, .int 0), (4, .int 1), (0, .ref (A 99)), (1, .int (nI (d))), (2, .int (nI (m))), (3, .int (nI (i_5)))]) dX1_isApart_21 (by decide) rfl ?_
      have loop_20 : ∀ (q_17 i_16 : Nat), i_16 + q_17 = d → 0 ≤ i_16 → zZ g m_X1_isApart (fun rv X' => rv = some (.int (zb (s_apt vs m nd 1 ap))) ∧ ∃ f' : Nat → Int32, X' = (cX g A (cput (cput (zs (s_ra K f') 99 8 o) 300 σ ds (nI (now % 12)) (nI (now / 12))) 310 τ es dt2 yr2) F O gl X) ∧ ∀ o, o < d → f' o = ap o, zno, ({ frames := 4, cells := 0, slots := 0, locals := 85 } : Room)) 0 0 (cX g A (cput (cput (zs (s_ra K r_10) 99 8 o) 300 σ ds (nI (now % 12)) (nI (now / 12))) 310 τ es dt2 yr2) F O gl X) 23 [(0, .ref (A 99)), (1, .int (nI (d))), (2, .int (nI (m))), (3, .int (nI (i_5))), (4, .int (zb (s_mayA (vs (5 * d + 16)) ap (i_5) i_16))), (5, .int (nI (i_16)))] [] := by
        intro q_17
        induction q_17 with
        | zero =>
          intro i_16 hb_19 lo_21  
          obtain rfl : d = i_16 := by omega
          refine z_iload 5 dX1_isApart_23 rfl ?_
          refine z_iload_n 1 dX1_isApart_25 rfl ?_
          refine z_icmp_geN (a := d) (b := d) 65 (by omega) (by omega) dX1_isApart_26 (by decide) (fun c_22 => ?_) (fun c_22 => absurd c_22 (by omega))
          refine z_iload 4 dX1_isApart_65 rfl ?_
          refine z_if_neb 73 dX1_isApart_67 (by decide) (fun c_23 => ?_) (fun c_23 => ?_)
          · -- s_mayA (vs (5 * d + 16)) ap (i_5) d = true
            refine z_aload_n 0 dX1_isApart_73 rfl ?_
            refine cz_get (v := .ref (A 14)) 14 hA (by decide) q341 rfl dX1_isApart_74 ?_
            refine z_iload_n 1 dX1_isApart_77 rfl ?_
            refine z_iload_n 3 dX1_isApart_78 rfl ?_
            refine cz_iast (K' := (cput (cput (zs (s_ra K (zs1 r_10 d (nI (i_5)))) 99 8 o) 300 σ ds (nI (now % 12)) (nI (now / 12))) 310 τ es dt2 yr2)) 14 d hA (by unfold cia; omega) rfl (by have h9 : csz 14 = 6 := rfl; omega) (by rw [cput_zo (by omega), cput_zo (by omega), zs_cm (by omega), s_ra_z]) dX1_isApart_79 ?_
            refine z_aload_n 0 dX1_isApart_80 rfl ?_
            refine z_iload_n 1 dX1_isApart_81 rfl ?_
            refine z_iconst (v := 1) dX1_isApart_82 (by decide) ?_
            refine z_iaddN (a := d) (b := 1) dX1_isApart_83 ?_
            refine z_iload_n 2 dX1_isApart_84 rfl ?_
            refine z_callV (As := [.int (nI (d + 1)), .int (nI (m))]) (c_isApart_0 (K := K) (f := (zs1 r_10 d (nI (i_5)))) (F := F) (gl := gl) (σ := σ) (ds := ds) (τ := τ) (es := es) (dt2 := dt2) (yr2 := yr2) (o := o) hA hO hV hv hnow hiv (d + 1) (by omega) m hm (ap := zs1 ap d (nI (i_5))) (s_rp_1 hi_11)) q1378 q1380 qs44 q112 q1381 nm_X1_isApart (cX_obj hA) rfl rfl rfl (Nat.le_of_ble_eq_true rfl) ⟨Nat.le_of_ble_eq_true rfl, Nat.le_of_ble_eq_true rfl⟩ dX1_isApart_85 rfl rfl (Nat.le_of_ble_eq_true rfl) (Nat.le_of_ble_eq_true rfl) (fun v_26 X_27 hp_28 => ?_)
            obtain ⟨rfl, r_24, rfl, hap_25⟩ := hp_28
            refine z_st (st' := [.int (zb (s_apt vs m nd 0 (zs1 ap d (nI (i_5)))))]) rfl ?_
            refine z_if_eqb 93 dX1_isApart_88 (by decide) (fun c_29 => ?_) (fun c_29 => ?_)
            · -- s_apt vs m nd 0 (zs1 ap d (nI (i_5))) = false
              refine z_iinc (v := nI (i_5 + 1)) (lv' := [(3, .int (nI (i_5 + 1))), (0, .ref (A 99)), (1, .int (nI (d))), (2, .int (nI (m))), (4, .int (zb (s_mayA (vs (5 * d + 16)) ap (i_5) d))), (5, .int (nI (d)))]) 3 dX1_isApart_93 rfl (nI_1 _) (by decide) rfl ?_
              refine z_goto 12 dX1_isApart_96 (by decide) ?_
              refine z_lv (lv' := [(0, .ref (A 99)), (1, .int (nI (d))), (2, .int (nI (m))), (3, .int (nI (i_5 + 1)))]) [1, 2, 3, 0] rfl ?_
              exact ih_7 (i_5 + 1) (by omega) (by omega) _ (s_rp_2 hap_25) (by show (s_ex _ _ || (s_mayA _ _ _ _ && s_apt _ _ _ _ _)) = false; rw [hi_12, c_29, Bool.and_false]; rfl)
            · -- s_apt vs m nd 0 (zs1 ap d (nI (i_5))) = true
              refine z_iconst (v := 1) dX1_isApart_91 (by decide) ?_
              exact z_zret dX1_isApart_92 rfl (by first | rfl | decide | exact zb_nar _) (Nat.le_of_ble_eq_true rfl) (Nat.le_of_ble_eq_true rfl) ⟨congrArg some (congrArg Value.int (by show _ = zb (s_apt vs m nd (0 + 1) ap); rw [s_apt_1 (r := 0), show nd - (0 + 1) = d by omega]; exact (zb_t (s_ex_of (k := i_5) (by show (s_mayA _ _ _ _ && s_apt _ _ _ _ _) = true; rw [c_23, c_29]; rfl) (by omega))).symm)), r_24, rfl, (s_rp_2 hap_25)⟩
          · -- s_mayA (vs (5 * d + 16)) ap (i_5) d = false
            refine z_goto 93 dX1_isApart_70 (by decide) ?_
            refine z_iinc (v := nI (i_5 + 1)) (lv' := [(3, .int (nI (i_5 + 1))), (0, .ref (A 99)), (1, .int (nI (d))), (2, .int (nI (m))), (4, .int (zb (s_mayA (vs (5 * d + 16)) ap (i_5) d))), (5, .int (nI (d)))]) 3 dX1_isApart_93 rfl (nI_1 _) (by decide) rfl ?_
            refine z_goto 12 dX1_isApart_96 (by decide) ?_
            refine z_lv (lv' := [(0, .ref (A 99)), (1, .int (nI (d))), (2, .int (nI (m))), (3, .int (nI (i_5 + 1)))]) [1, 2, 3, 0] rfl ?_
            exact ih_7 (i_5 + 1) (by omega) (by omega) _ hi_11 (by show (s_ex _ _ || (s_mayA _ _ _ _ && s_apt _ _ _ _ _)) = false; rw [hi_12, c_23, Bool.false_and]; rfl)
        | succ q_17 ih_18 =>
          intro i_16 hb_19 lo_21  
          refine z_iload 5 dX1_isApart_23 rfl ?_
          refine z_iload_n 1 dX1_isApart_25 rfl ?_
          refine z_icmp_geN (a := i_16) (b := d) 65 (by omega) (by omega) dX1_isApart_26 (by decide) (fun c_30 => absurd c_30 (by omega)) (fun c_30 => ?_)
          refine z_aload_n 0 dX1_isApart_29 rfl ?_
          refine cz_get (v := .ref (A 14)) 14 hA (by decide) q341 rfl dX1_isApart_30 ?_
          refine z_iload 5 dX1_isApart_33 rfl ?_
          refine cz_iald (v := (s_ra K r_10) 14 i_16) 14 i_16 hA (by unfold cia; omega) rfl (by have h9 : csz 14 = 6 := rfl; omega) rfl dX1_isApart_35 ?_
          refine z_eq (y := ap i_16) (s_ra_r.trans (hi_11 i_16 (by omega))) ?_
          refine z_iload_n 3 dX1_isApart_36 rfl ?_
          refine z_icmp_ne 59 dX1_isApart_37 (by decide) (fun c_31 => ?_) (fun c_31 => ?_)
          · -- ¬ ap i_16 = nI (i_5)
            refine z_iinc (v := nI (i_16 + 1)) (lv' := [(5, .int (nI (i_16 + 1))), (0, .ref (A 99)), (1, .int (nI (d))), (2, .int (nI (m))), (3, .int (nI (i_5))), (4, .int (zb (s_mayA (vs (5 * d + 16)) ap (i_5) i_16)))]) 5 dX1_isApart_59 rfl (nI_1 _) (by decide) rfl ?_
            refine z_goto 23 dX1_isApart_62 (by decide) ?_
            have f_32 : zb (s_mayA (vs (5 * d + 16)) ap (i_5) i_16) = zb (s_mayA (vs (5 * d + 16)) ap (i_5) (i_16 + 1)) := by simp [s_mayA, zb, c_4, c_15, c_30, c_31]
            refine z_lv (lv' := [(0, .ref (A 99)), (1, .int (nI (d))), (2, .int (nI (m))), (3, .int (nI (i_5))), (4, .int (zb (s_mayA (vs (5 * d + 16)) ap (i_5) (i_16 + 1)))), (5, .int (nI (i_16 + 1)))]) [1, 2, 3, 4, 5, 0] (by rw [← f_32]; rfl) ?_
            exact ih_18 (i_16 + 1) (by omega) (by omega)  
          · -- ap i_16 = nI (i_5)
            refine z_aload_n 0 dX1_isApart_40 rfl ?_
            refine z_iload_n 1 dX1_isApart_41 rfl ?_
            obtain ⟨a_33, m_34, k_37, he_35, hk_38, hkv_39, ha_36⟩ := hgs d (by omega)
            refine z_callV (As := [.int (nI (d))]) (c_guest (K := (cput (cput (zs (s_ra K r_10) 99 8 o) 300 σ ds (nI (now % 12)) (nI (now / 12))) 310 τ es dt2 yr2)) (F := F) (gl := gl) hA hO hxv hlh heh hch1 hch2 hlg heg hcg1 hcg2 d (by omega) hk_38 he_35 ha_36) q1143 q1145 qs31 q112 q1146 nm_X1_guest (cX_obj hA) rfl rfl rfl (Nat.le_of_ble_eq_true rfl) ⟨Nat.le_of_ble_eq_true rfl, Nat.le_of_ble_eq_true rfl⟩ dX1_isApart_42 rfl rfl (Nat.le_of_ble_eq_true rfl) (Nat.le_of_ble_eq_true rfl) (fun v_40 X_41 hp_42 => ?_)
            obtain ⟨rfl, rfl⟩ := hp_42
            refine z_st (st' := [.ref a_33]) rfl ?_
            refine z_getG (v := .int (vs (5 * d + 16))) 4 (cX_lo hA ha_36) hk_38 (by decide) q929 rfl dX1_isApart_45 ?_
            refine z_iload 5 dX1_isApart_48 rfl ?_
            refine z_callS (As := [.int (vs (5 * d + 16)), .int (nI (i_16))]) (c_isIn (vs (5 * d + 16)) i_16) q1241 q903 q112 q904 nm_X1_isIn rfl (Nat.le_of_ble_eq_true rfl) ⟨Nat.le_of_ble_eq_true rfl, Nat.le_of_ble_eq_true rfl⟩ dX1_isApart_50 rfl rfl (Nat.le_of_ble_eq_true rfl) (Nat.le_of_ble_eq_true rfl) (fun v_43 X_44 hp_45 => ?_)
            obtain ⟨rfl, rfl⟩ := hp_45
            refine z_st (st' := [.int (zb (s_isBit (vs (5 * d + 16)) i_16))]) rfl ?_
            refine z_if_eqb 59 dX1_isApart_53 (by decide) (fun c_46 => ?_) (fun c_46 => ?_)
            · -- s_isBit (vs (5 * d + 16)) i_16 = false
              refine z_iinc (v := nI (i_16 + 1)) (lv' := [(5, .int (nI (i_16 + 1))), (0, .ref (A 99)), (1, .int (nI (d))), (2, .int (nI (m))), (3, .int (nI (i_5))), (4, .int (zb (s_mayA (vs (5 * d + 16)) ap (i_5) i_16)))]) 5 dX1_isApart_59 rfl (nI_1 _) (by decide) rfl ?_
              refine z_goto 23 dX1_isApart_62 (by decide) ?_
              have f_47 : zb (s_mayA (vs (5 * d + 16)) ap (i_5) i_16) = zb (s_mayA (vs (5 * d + 16)) ap (i_5) (i_16 + 1)) := by simp [s_mayA, zb, c_4, c_15, c_30, c_31, c_46]
              refine z_lv (lv' := [(0, .ref (A 99)), (1, .int (nI (d))), (2, .int (nI (m))), (3, .int (nI (i_5))), (4, .int (zb (s_mayA (vs (5 * d + 16)) ap (i_5) (i_16 + 1)))), (5, .int (nI (i_16 + 1)))]) [1, 2, 3, 4, 5, 0] (by rw [← f_47]; rfl) ?_
              exact ih_18 (i_16 + 1) (by omega) (by omega)  
            · -- s_isBit (vs (5 * d + 16)) i_16 = true
              refine z_iconst (v := 0) dX1_isApart_56 (by decide) ?_
              refine z_istore (lv' := [(4, .int 0), (0, .ref (A 99)), (1, .int (nI (d))), (2, .int (nI (m))), (3, .int (nI (i_5))), (5, .int (nI (i_16)))]) dX1_isApart_57 (by decide) rfl ?_
              refine z_iinc (v := nI (i_16 + 1)) (lv' := [(5, .int (nI (i_16 + 1))), (4, .int 0), (0, .ref (A 99)), (1, .int (nI (d))), (2, .int (nI (m))), (3, .int (nI (i_5)))]) 5 dX1_isApart_59 rfl (nI_1 _) (by decide) rfl ?_
              refine z_goto 23 dX1_isApart_62 (by decide) ?_
              have f_48 : 0 = zb (s_mayA (vs (5 * d + 16)) ap (i_5) (i_16 + 1)) := by simp [s_mayA, zb, c_4, c_15, c_30, c_31, c_46]
              refine z_lv (lv' := [(0, .ref (A 99)), (1, .int (nI (d))), (2, .int (nI (m))), (3, .int (nI (i_5))), (4, .int (zb (s_mayA (vs (5 * d + 16)) ap (i_5) (i_16 + 1)))), (5, .int (nI (i_16 + 1)))]) [2, 3, 4, 5, 1, 0] (by rw [← f_48]; rfl) ?_
              exact ih_18 (i_16 + 1) (by omega) (by omega)  
      have f_49 : 1 = zb (s_mayA (vs (5 * d + 16)) ap (i_5) 0) := by rfl
      refine z_lv (lv' := [(0, .ref (A 99)), (1, .int (nI (d))), (2, .int (nI (m))), (3, .int (nI (i_5))), (4, .int (zb (s_mayA (vs (5 * d + 16)) ap (i_5) 0))), (5, .int 0)]) [2, 3, 4, 5, 1, 0] (by rw [← f_49]; rfl) ?_
      exact loop_20 (d - 0) 0 (by omega) (Nat.le_refl _)  
  refine z_lv (lv' := [(0, .ref (A 99)), (1, .int (nI (d))), (2, .int (nI (m))), (3, .int 0)]) [1, 2, 3, 0] rfl ?_
  exact loop_9 (m - 0) 0 (by omega) (Nat.le_refl _) _ hap rfl
set_option maxHeartbeats 4000000 in
theorem c_isApart_2 {g : zG} {A : Nat → Nat} {K : Nat → Nat → Int32} {F : Nat → Int32} {O : Nat → Nat → Option Nat} {gl : Int64} {X : zX} (hA : cok g A X) {v : Nat} (hO : O 0 0 = some v) {vs : Nat → Int32} {nh nd : Nat} {own : Nat → Nat} {wv : Int32 → Int32 → Int32 → Int32 → Int32} (hV : s_ok vs nh nd own) (hv : cvl g X v vs nh nd wv) {σ ds τ es : Nat → Int32} {dt2 yr2 o : Int32} {now : Nat} (hnow : now < 2 ^ 28) (hiv : s_iv σ nd) {f : Nat → Int32} (d : Nat) (hd : d + 2 = nd) (m : Nat) (hm : m < 2 ^ 30) {ap : Nat → Int32} (hap : ∀ o, o < d → f o = ap o) : zN g m_X1_isApart ({ frames := 5, cells := 0, slots := 0, locals := 110 } : Room) [.ref (A 99), .int (nI (d)), .int (nI (m))] (cX g A (cput (cput (zs (s_ra K f) 99 8 o) 300 σ ds (nI (now % 12)) (nI (now / 12))) 310 τ es dt2 yr2) F O gl X) (fun rv X' => rv = some (.int (zb (s_apt vs m nd 2 ap))) ∧ ∃ f' : Nat → Int32, X' = (cX g A (cput (cput (zs (s_ra K f') 99 8 o) 300 σ ds (nI (now % 12)) (nI (now / 12))) 310 τ es dt2 yr2) F O gl X) ∧ ∀ o, o < d → f' o = ap o) := by
  refine zN.of (by decide +kernel) (Nat.le_of_ble_eq_true rfl) rfl ?_
  refine z_lv (lv' := [(0, .ref (A 99)), (1, .int (nI (d))), (2, .int (nI (m)))]) [0, 1, 2] rfl ?_
  have hA2 := hA.2.2.1
  have hV9 := hV
  have hv9 := hv
  obtain ⟨h0, hnh, h1, hnd, hown⟩ := hV9
  obtain ⟨lh, lg, fh, fg, st9, fa, hxv, ⟨mh, eh, ch, hlh, heh, hch1, hch2⟩, ⟨mg, eg, cg, hlg, heg, hcg1, hcg2⟩, hhs, hgs, hst9, hfa⟩ := hv9
  refine z_iload_n 1 dX1_isApart_0 rfl ?_
  refine z_aload_n 0 dX1_isApart_1 rfl ?_
  refine z_callV (As := []) (c_guests (K := (cput (cput (zs (s_ra K f) 99 8 o) 300 σ ds (nI (now % 12)) (nI (now / 12))) 310 τ es dt2 yr2)) (F := F) (gl := gl) hA hO hxv hlh heh hch1 hch2 hlg heg hcg1 hcg2) q1139 q1141 qs30 q112 q1142 nm_X1_guests (cX_obj hA) rfl rfl rfl (Nat.le_of_ble_eq_true rfl) ⟨Nat.le_of_ble_eq_true rfl, Nat.le_of_ble_eq_true rfl⟩ dX1_isApart_2 rfl rfl (Nat.le_of_ble_eq_true rfl) (Nat.le_of_ble_eq_true rfl) (fun v_1 X_2 hp_3 => ?_)
  obtain ⟨rfl, rfl⟩ := hp_3
  refine z_st (st' := [.int (nI (nd)), .int (nI (d))]) rfl ?_
  refine z_icmp_neN (a := d) (b := nd) 10 (by omega) (by omega) dX1_isApart_5 (by decide) (fun c_4 => ?_) (fun c_4 => absurd c_4 ((by omega)))
  refine z_iconst (v := 0) dX1_isApart_10 (by decide) ?_
  refine z_istore_n (lv' := [(3, .int 0), (0, .ref (A 99)), (1, .int (nI (d))), (2, .int (nI (m)))]) dX1_isApart_11 rfl (by decide) rfl ?_
  have loop_9 : ∀ (q_6 i_5 : Nat), i_5 + q_6 = m → 0 ≤ i_5 → ∀ (r_10 : Nat → Int32), (∀ o, o < d → r_10 o = ap o) → s_ex (fun h => s_mayA (vs (5 * d + 16)) ap h d && s_apt vs m nd 1 (zs1 ap d (nI h))) i_5 = false → zZ g m_X1_isApart (fun rv X' => rv = some (.int (zb (s_apt vs m nd 2 ap))) ∧ ∃ f' : Nat → Int32, X' = (cX g A (cput (cput (zs (s_ra K f') 99 8 o) 300 σ ds (nI (now % 12)) (nI (now / 12))) 310 τ es dt2 yr2) F O gl X) ∧ ∀ o, o < d → f' o = ap o, zno, ({ frames := 5, cells := 0, slots := 0, locals := 110 } : Room)) 0 0 (cX g A (cput (cput (zs (s_ra K r_10) 99 8 o) 300 σ ds (nI (now % 12)) (nI (now / 12))) 310 τ es dt2 yr2) F O gl X) 12 [(0, .ref (A 99)), (1, .int (nI (d))), (2, .int (nI (m))), (3, .int (nI (i_5)))] [] := by
    intro q_6
    induction q_6 with
    | zero =>
      intro i_5 hb_8 lo_13 r_10 hi_11 hi_12
      obtain rfl : m = i_5 := by omega
      refine z_iload_n 3 dX1_isApart_12 rfl ?_
      refine z_iload_n 2 dX1_isApart_13 rfl ?_
      refine z_icmp_geN (a := m) (b := m) 99 (by omega) (by omega) dX1_isApart_14 (by decide) (fun c_14 => ?_) (fun c_14 => absurd c_14 (by omega))
      refine z_iconst (v := 0) dX1_isApart_99 (by decide) ?_
      exact z_zret dX1_isApart_100 rfl (by first | rfl | decide | exact zb_nar _) (Nat.le_of_ble_eq_true rfl) (Nat.le_of_ble_eq_true rfl) ⟨congrArg some (congrArg Value.int (by show _ = zb (s_apt vs m nd (1 + 1) ap); rw [s_apt_1 (r := 1), show nd - (1 + 1) = d by omega]; exact (zb_f hi_12).symm)), r_10, rfl, hi_11⟩
    | succ q_6 ih_7 =>
      intro i_5 hb_8 lo_13 r_10 hi_11 hi_12
      refine z_iload_n 3 dX1_isApart_12 rfl ?_
      refine z_iload_n 2 dX1_isApart_13 rfl ?_
      refine z_icmp_geN (a := i_5) (b := m) 99 (by omega) (by omega) dX1_isApart_14 (by decide) (fun c_15 => absurd c_15 (by omega)) (fun c_15 => ?_)
      refine z_iconst (v := 1) dX1_isApart_17 (by decide) ?_
      refine z_istore (lv' := [(4, .int 1), (0, .ref (A 99)), (1, .int (nI (d))), (2, .int (nI (m))), (3, .int (nI (i_5)))]) dX1_isApart_18 (by decide) rfl ?_
      refine z_iconst (v := 0) dX1_isApart_20 (by decide) ?_
      refine z_istore (lv' := [(5, .int 0), (4, .int 1), (0, .ref (A 99)), (1, .int (nI (d))), (2, .int (nI (m))), (3, .int (nI (i_5)))]) dX1_isApart_21 (by decide) rfl ?_
      have loop_20 : ∀ (q_17 i_16 : Nat), i_16 + q_17 = d → 0 ≤ i_16 → zZ g m_X1_isApart (fun rv X' => rv = some (.int (zb (s_apt vs m nd 2 ap))) ∧ ∃ f' : Nat → Int32, X' = (cX g A (cput (cput (zs (s_ra K f') 99 8 o) 300 σ ds (nI (now % 12)) (nI (now / 12))) 310 τ es dt2 yr2) F O gl X) ∧ ∀ o, o < d → f' o = ap o, zno, ({ frames := 5, cells := 0, slots := 0, locals := 110 } : Room)) 0 0 (cX g A (cput (cput (zs (s_ra K r_10) 99 8 o) 300 σ ds (nI (now % 12)) (nI (now / 12))) 310 τ es dt2 yr2) F O gl X) 23 [(0, .ref (A 99)), (1, .int (nI (d))), (2, .int (nI (m))), (3, .int (nI (i_5))), (4, .int (zb (s_mayA (vs (5 * d + 16)) ap (i_5) i_16))), (5, .int (nI (i_16)))] [] := by
        intro q_17
        induction q_17 with
        | zero =>
          intro i_16 hb_19 lo_21  
          obtain rfl : d = i_16 := by omega
          refine z_iload 5 dX1_isApart_23 rfl ?_
          refine z_iload_n 1 dX1_isApart_25 rfl ?_
          refine z_icmp_geN (a := d) (b := d) 65 (by omega) (by omega) dX1_isApart_26 (by decide) (fun c_22 => ?_) (fun c_22 => absurd c_22 (by omega))
          refine z_iload 4 dX1_isApart_65 rfl ?_
          refine z_if_neb 73 dX1_isApart_67 (by decide) (fun c_23 => ?_) (fun c_23 => ?_)
          · -- s_mayA (vs (5 * d + 16)) ap (i_5) d = true
            refine z_aload_n 0 dX1_isApart_73 rfl ?_
            refine cz_get (v := .ref (A 14)) 14 hA (by decide) q341 rfl dX1_isApart_74 ?_
            refine z_iload_n 1 dX1_isApart_77 rfl ?_
            refine z_iload_n 3 dX1_isApart_78 rfl ?_
            refine cz_iast (K' := (cput (cput (zs (s_ra K (zs1 r_10 d (nI (i_5)))) 99 8 o) 300 σ ds (nI (now % 12)) (nI (now / 12))) 310 τ es dt2 yr2)) 14 d hA (by unfold cia; omega) rfl (by have h9 : csz 14 = 6 := rfl; omega) (by rw [cput_zo (by omega), cput_zo (by omega), zs_cm (by omega), s_ra_z]) dX1_isApart_79 ?_
            refine z_aload_n 0 dX1_isApart_80 rfl ?_
            refine z_iload_n 1 dX1_isApart_81 rfl ?_
            refine z_iconst (v := 1) dX1_isApart_82 (by decide) ?_
            refine z_iaddN (a := d) (b := 1) dX1_isApart_83 ?_
            refine z_iload_n 2 dX1_isApart_84 rfl ?_
            refine z_callV (As := [.int (nI (d + 1)), .int (nI (m))]) (c_isApart_1 (K := K) (f := (zs1 r_10 d (nI (i_5)))) (F := F) (gl := gl) (σ := σ) (ds := ds) (τ := τ) (es := es) (dt2 := dt2) (yr2 := yr2) (o := o) hA hO hV hv hnow hiv (d + 1) (by omega) m hm (ap := zs1 ap d (nI (i_5))) (s_rp_1 hi_11)) q1378 q1380 qs44 q112 q1381 nm_X1_isApart (cX_obj hA) rfl rfl rfl (Nat.le_of_ble_eq_true rfl) ⟨Nat.le_of_ble_eq_true rfl, Nat.le_of_ble_eq_true rfl⟩ dX1_isApart_85 rfl rfl (Nat.le_of_ble_eq_true rfl) (Nat.le_of_ble_eq_true rfl) (fun v_26 X_27 hp_28 => ?_)
            obtain ⟨rfl, r_24, rfl, hap_25⟩ := hp_28
            refine z_st (st' := [.int (zb (s_apt vs m nd 1 (zs1 ap d (nI (i_5)))))]) rfl ?_
            refine z_if_eqb 93 dX1_isApart_88 (by decide) (fun c_29 => ?_) (fun c_29 => ?_)
            · -- s_apt vs m nd 1 (zs1 ap d (nI (i_5))) = false
              refine z_iinc (v := nI (i_5 + 1)) (lv' := [(3, .int (nI (i_5 + 1))), (0, .ref (A 99)), (1, .int (nI (d))), (2, .int (nI (m))), (4, .int (zb (s_mayA (vs (5 * d + 16)) ap (i_5) d))), (5, .int (nI (d)))]) 3 dX1_isApart_93 rfl (nI_1 _) (by decide) rfl ?_
              refine z_goto 12 dX1_isApart_96 (by decide) ?_
              refine z_lv (lv' := [(0, .ref (A 99)), (1, .int (nI (d))), (2, .int (nI (m))), (3, .int (nI (i_5 + 1)))]) [1, 2, 3, 0] rfl ?_
              exact ih_7 (i_5 + 1) (by omega) (by omega) _ (s_rp_2 hap_25) (by show (s_ex _ _ || (s_mayA _ _ _ _ && s_apt _ _ _ _ _)) = false; rw [hi_12, c_29, Bool.and_false]; rfl)
            · -- s_apt vs m nd 1 (zs1 ap d (nI (i_5))) = true
              refine z_iconst (v := 1) dX1_isApart_91 (by decide) ?_
              exact z_zret dX1_isApart_92 rfl (by first | rfl | decide | exact zb_nar _) (Nat.le_of_ble_eq_true rfl) (Nat.le_of_ble_eq_true rfl) ⟨congrArg some (congrArg Value.int (by show _ = zb (s_apt vs m nd (1 + 1) ap); rw [s_apt_1 (r := 1), show nd - (1 + 1) = d by omega]; exact (zb_t (s_ex_of (k := i_5) (by show (s_mayA _ _ _ _ && s_apt _ _ _ _ _) = true; rw [c_23, c_29]; rfl) (by omega))).symm)), r_24, rfl, (s_rp_2 hap_25)⟩
          · -- s_mayA (vs (5 * d + 16)) ap (i_5) d = false
            refine z_goto 93 dX1_isApart_70 (by decide) ?_
            refine z_iinc (v := nI (i_5 + 1)) (lv' := [(3, .int (nI (i_5 + 1))), (0, .ref (A 99)), (1, .int (nI (d))), (2, .int (nI (m))), (4, .int (zb (s_mayA (vs (5 * d + 16)) ap (i_5) d))), (5, .int (nI (d)))]) 3 dX1_isApart_93 rfl (nI_1 _) (by decide) rfl ?_
            refine z_goto 12 dX1_isApart_96 (by decide) ?_
            refine z_lv (lv' := [(0, .ref (A 99)), (1, .int (nI (d))), (2, .int (nI (m))), (3, .int (nI (i_5 + 1)))]) [1, 2, 3, 0] rfl ?_
            exact ih_7 (i_5 + 1) (by omega) (by omega) _ hi_11 (by show (s_ex _ _ || (s_mayA _ _ _ _ && s_apt _ _ _ _ _)) = false; rw [hi_12, c_23, Bool.false_and]; rfl)
        | succ q_17 ih_18 =>
          intro i_16 hb_19 lo_21  
          refine z_iload 5 dX1_isApart_23 rfl ?_
          refine z_iload_n 1 dX1_isApart_25 rfl ?_
          refine z_icmp_geN (a := i_16) (b := d) 65 (by omega) (by omega) dX1_isApart_26 (by decide) (fun c_30 => absurd c_30 (by omega)) (fun c_30 => ?_)
          refine z_aload_n 0 dX1_isApart_29 rfl ?_
          refine cz_get (v := .ref (A 14)) 14 hA (by decide) q341 rfl dX1_isApart_30 ?_
          refine z_iload 5 dX1_isApart_33 rfl ?_
          refine cz_iald (v := (s_ra K r_10) 14 i_16) 14 i_16 hA (by unfold cia; omega) rfl (by have h9 : csz 14 = 6 := rfl; omega) rfl dX1_isApart_35 ?_
          refine z_eq (y := ap i_16) (s_ra_r.trans (hi_11 i_16 (by omega))) ?_
          refine z_iload_n 3 dX1_isApart_36 rfl ?_
          refine z_icmp_ne 59 dX1_isApart_37 (by decide) (fun c_31 => ?_) (fun c_31 => ?_)
          · -- ¬ ap i_16 = nI (i_5)
            refine z_iinc (v := nI (i_16 + 1)) (lv' := [(5, .int (nI (i_16 + 1))), (0, .ref (A 99)), (1, .int (nI (d))), (2, .int (nI (m))), (3, .int (nI (i_5))), (4, .int (zb (s_mayA (vs (5 * d + 16)) ap (i_5) i_16)))]) 5 dX1_isApart_59 rfl (nI_1 _) (by decide) rfl ?_
            refine z_goto 23 dX1_isApart_62 (by decide) ?_
            have f_32 : zb (s_mayA (vs (5 * d + 16)) ap (i_5) i_16) = zb (s_mayA (vs (5 * d + 16)) ap (i_5) (i_16 + 1)) := by simp [s_mayA, zb, c_4, c_15, c_30, c_31]
            refine z_lv (lv' := [(0, .ref (A 99)), (1, .int (nI (d))), (2, .int (nI (m))), (3, .int (nI (i_5))), (4, .int (zb (s_mayA (vs (5 * d + 16)) ap (i_5) (i_16 + 1)))), (5, .int (nI (i_16 + 1)))]) [1, 2, 3, 4, 5, 0] (by rw [← f_32]; rfl) ?_
            exact ih_18 (i_16 + 1) (by omega) (by omega)  
          · -- ap i_16 = nI (i_5)
            refine z_aload_n 0 dX1_isApart_40 rfl ?_
            refine z_iload_n 1 dX1_isApart_41 rfl ?_
            obtain ⟨a_33, m_34, k_37, he_35, hk_38, hkv_39, ha_36⟩ := hgs d (by omega)
            refine z_callV (As := [.int (nI (d))]) (c_guest (K := (cput (cput (zs (s_ra K r_10) 99 8 o) 300 σ ds (nI (now % 12)) (nI (now / 12))) 310 τ es dt2 yr2)) (F := F) (gl := gl) hA hO hxv hlh heh hch1 hch2 hlg heg hcg1 hcg2 d (by omega) hk_38 he_35 ha_36) q1143 q1145 qs31 q112 q1146 nm_X1_guest (cX_obj hA) rfl rfl rfl (Nat.le_of_ble_eq_true rfl) ⟨Nat.le_of_ble_eq_true rfl, Nat.le_of_ble_eq_true rfl⟩ dX1_isApart_42 rfl rfl (Nat.le_of_ble_eq_true rfl) (Nat.le_of_ble_eq_true rfl) (fun v_40 X_41 hp_42 => ?_)
            obtain ⟨rfl, rfl⟩ := hp_42
            refine z_st (st' := [.ref a_33]) rfl ?_
            refine z_getG (v := .int (vs (5 * d + 16))) 4 (cX_lo hA ha_36) hk_38 (by decide) q929 rfl dX1_isApart_45 ?_
            refine z_iload 5 dX1_isApart_48 rfl ?_
            refine z_callS (As := [.int (vs (5 * d + 16)), .int (nI (i_16))]) (c_isIn (vs (5 * d + 16)) i_16) q1241 q903 q112 q904 nm_X1_isIn rfl (Nat.le_of_ble_eq_true rfl) ⟨Nat.le_of_ble_eq_true rfl, Nat.le_of_ble_eq_true rfl⟩ dX1_isApart_50 rfl rfl (Nat.le_of_ble_eq_true rfl) (Nat.le_of_ble_eq_true rfl) (fun v_43 X_44 hp_45 => ?_)
            obtain ⟨rfl, rfl⟩ := hp_45
            refine z_st (st' := [.int (zb (s_isBit (vs (5 * d + 16)) i_16))]) rfl ?_
            refine z_if_eqb 59 dX1_isApart_53 (by decide) (fun c_46 => ?_) (fun c_46 => ?_)
            · -- s_isBit (vs (5 * d + 16)) i_16 = false
              refine z_iinc (v := nI (i_16 + 1)) (lv' := [(5, .int (nI (i_16 + 1))), (0, .ref (A 99)), (1, .int (nI (d))), (2, .int (nI (m))), (3, .int (nI (i_5))), (4, .int (zb (s_mayA (vs (5 * d + 16)) ap (i_5) i_16)))]) 5 dX1_isApart_59 rfl (nI_1 _) (by decide) rfl ?_
              refine z_goto 23 dX1_isApart_62 (by decide) ?_
              have f_47 : zb (s_mayA (vs (5 * d + 16)) ap (i_5) i_16) = zb (s_mayA (vs (5 * d + 16)) ap (i_5) (i_16 + 1)) := by simp [s_mayA, zb, c_4, c_15, c_30, c_31, c_46]
              refine z_lv (lv' := [(0, .ref (A 99)), (1, .int (nI (d))), (2, .int (nI (m))), (3, .int (nI (i_5))), (4, .int (zb (s_mayA (vs (5 * d + 16)) ap (i_5) (i_16 + 1)))), (5, .int (nI (i_16 + 1)))]) [1, 2, 3, 4, 5, 0] (by rw [← f_47]; rfl) ?_
              exact ih_18 (i_16 + 1) (by omega) (by omega)  
            · -- s_isBit (vs (5 * d + 16)) i_16 = true
              refine z_iconst (v := 0) dX1_isApart_56 (by decide) ?_
              refine z_istore (lv' := [(4, .int 0), (0, .ref (A 99)), (1, .int (nI (d))), (2, .int (nI (m))), (3, .int (nI (i_5))), (5, .int (nI (i_16)))]) dX1_isApart_57 (by decide) rfl ?_
              refine z_iinc (v := nI (i_16 + 1)) (lv' := [(5, .int (nI (i_16 + 1))), (4, .int 0), (0, .ref (A 99)), (1, .int (nI (d))), (2, .int (nI (m))), (3, .int (nI (i_5)))]) 5 dX1_isApart_59 rfl (nI_1 _) (by decide) rfl ?_
              refine z_goto 23 dX1_isApart_62 (by decide) ?_
              have f_48 : 0 = zb (s_mayA (vs (5 * d + 16)) ap (i_5) (i_16 + 1)) := by simp [s_mayA, zb, c_4, c_15, c_30, c_31, c_46]
              refine z_lv (lv' := [(0, .ref (A 99)), (1, .int (nI (d))), (2, .int (nI (m))), (3, .int (nI (i_5))), (4, .int (zb (s_mayA (vs (5 * d + 16)) ap (i_5) (i_16 + 1)))), (5, .int (nI (i_16 + 1)))]) [2, 3, 4, 5, 1, 0] (by rw [← f_48]; rfl) ?_
              exact ih_18 (i_16 + 1) (by omega) (by omega)  
      have f_49 : 1 = zb (s_mayA (vs (5 * d + 16)) ap (i_5) 0) := by rfl
      refine z_lv (lv' := [(0, .ref (A 99)), (1, .int (nI (d))), (2, .int (nI (m))), (3, .int (nI (i_5))), (4, .int (zb (s_mayA (vs (5 * d + 16)) ap (i_5) 0))), (5, .int 0)]) [2, 3, 4, 5, 1, 0] (by rw [← f_49]; rfl) ?_
      exact loop_20 (d - 0) 0 (by omega) (Nat.le_refl _)  
  refine z_lv (lv' := [(0, .ref (A 99)), (1, .int (nI (d))), (2, .int (nI (m))), (3, .int 0)]) [1, 2, 3, 0] rfl ?_
  exact loop_9 (m - 0) 0 (by omega) (Nat.le_refl _) _ hap rfl
set_option maxHeartbeats 4000000 in
theorem c_isApart_3 {g : zG} {A : Nat → Nat} {K : Nat → Nat → Int32} {F : Nat → Int32} {O : Nat → Nat → Option Nat} {gl : Int64} {X : zX} (hA : cok g A X) {v : Nat} (hO : O 0 0 = some v) {vs : Nat → Int32} {nh nd : Nat} {own : Nat → Nat} {wv : Int32 → Int32 → Int32 → Int32 → Int32} (hV : s_ok vs nh nd own) (hv : cvl g X v vs nh nd wv) {σ ds τ es : Nat → Int32} {dt2 yr2 o : Int32} {now : Nat} (hnow : now < 2 ^ 28) (hiv : s_iv σ nd) {f : Nat → Int32} (d : Nat) (hd : d + 3 = nd) (m : Nat) (hm : m < 2 ^ 30) {ap : Nat → Int32} (hap : ∀ o, o < d → f o = ap o) : zN g m_X1_isApart ({ frames := 6, cells := 0, slots := 0, locals := 135 } : Room) [.ref (A 99), .int (nI (d)), .int (nI (m))] (cX g A (cput (cput (zs (s_ra K f) 99 8 o) 300 σ ds (nI (now % 12)) (nI (now / 12))) 310 τ es dt2 yr2) F O gl X) (fun rv X' => rv = some (.int (zb (s_apt vs m nd 3 ap))) ∧ ∃ f' : Nat → Int32, X' = (cX g A (cput (cput (zs (s_ra K f') 99 8 o) 300 σ ds (nI (now % 12)) (nI (now / 12))) 310 τ es dt2 yr2) F O gl X) ∧ ∀ o, o < d → f' o = ap o) := by
  refine zN.of (by decide +kernel) (Nat.le_of_ble_eq_true rfl) rfl ?_
  refine z_lv (lv' := [(0, .ref (A 99)), (1, .int (nI (d))), (2, .int (nI (m)))]) [0, 1, 2] rfl ?_
  have hA2 := hA.2.2.1
  have hV9 := hV
  have hv9 := hv
  obtain ⟨h0, hnh, h1, hnd, hown⟩ := hV9
  obtain ⟨lh, lg, fh, fg, st9, fa, hxv, ⟨mh, eh, ch, hlh, heh, hch1, hch2⟩, ⟨mg, eg, cg, hlg, heg, hcg1, hcg2⟩, hhs, hgs, hst9, hfa⟩ := hv9
  refine z_iload_n 1 dX1_isApart_0 rfl ?_
  refine z_aload_n 0 dX1_isApart_1 rfl ?_
  refine z_callV (As := []) (c_guests (K := (cput (cput (zs (s_ra K f) 99 8 o) 300 σ ds (nI (now % 12)) (nI (now / 12))) 310 τ es dt2 yr2)) (F := F) (gl := gl) hA hO hxv hlh heh hch1 hch2 hlg heg hcg1 hcg2) q1139 q1141 qs30 q112 q1142 nm_X1_guests (cX_obj hA) rfl rfl rfl (Nat.le_of_ble_eq_true rfl) ⟨Nat.le_of_ble_eq_true rfl, Nat.le_of_ble_eq_true rfl⟩ dX1_isApart_2 rfl rfl (Nat.le_of_ble_eq_true rfl) (Nat.le_of_ble_eq_true rfl) (fun v_1 X_2 hp_3 => ?_)
  obtain ⟨rfl, rfl⟩ := hp_3
  refine z_st (st' := [.int (nI (nd)), .int (nI (d))]) rfl ?_
  refine z_icmp_neN (a := d) (b := nd) 10 (by omega) (by omega) dX1_isApart_5 (by decide) (fun c_4 => ?_) (fun c_4 => absurd c_4 ((by omega)))
  refine z_iconst (v := 0) dX1_isApart_10 (by decide) ?_
  refine z_istore_n (lv' := [(3, .int 0), (0, .ref (A 99)), (1, .int (nI (d))), (2, .int (nI (m)))]) dX1_isApart_11 rfl (by decide) rfl ?_
  have loop_9 : ∀ (q_6 i_5 : Nat), i_5 + q_6 = m → 0 ≤ i_5 → ∀ (r_10 : Nat → Int32), (∀ o, o < d → r_10 o = ap o) → s_ex (fun h => s_mayA (vs (5 * d + 16)) ap h d && s_apt vs m nd 2 (zs1 ap d (nI h))) i_5 = false → zZ g m_X1_isApart (fun rv X' => rv = some (.int (zb (s_apt vs m nd 3 ap))) ∧ ∃ f' : Nat → Int32, X' = (cX g A (cput (cput (zs (s_ra K f') 99 8 o) 300 σ ds (nI (now % 12)) (nI (now / 12))) 310 τ es dt2 yr2) F O gl X) ∧ ∀ o, o < d → f' o = ap o, zno, ({ frames := 6, cells := 0, slots := 0, locals := 135 } : Room)) 0 0 (cX g A (cput (cput (zs (s_ra K r_10) 99 8 o) 300 σ ds (nI (now % 12)) (nI (now / 12))) 310 τ es dt2 yr2) F O gl X) 12 [(0, .ref (A 99)), (1, .int (nI (d))), (2, .int (nI (m))), (3, .int (nI (i_5)))] [] := by
    intro q_6
    induction q_6 with
    | zero =>
      intro i_5 hb_8 lo_13 r_10 hi_11 hi_12
      obtain rfl : m = i_5 := by omega
      refine z_iload_n 3 dX1_isApart_12 rfl ?_
      refine z_iload_n 2 dX1_isApart_13 rfl ?_
      refine z_icmp_geN (a := m) (b := m) 99 (by omega) (by omega) dX1_isApart_14 (by decide) (fun c_14 => ?_) (fun c_14 => absurd c_14 (by omega))
      refine z_iconst (v := 0) dX1_isApart_99 (by decide) ?_
      exact z_zret dX1_isApart_100 rfl (by first | rfl | decide | exact zb_nar _) (Nat.le_of_ble_eq_true rfl) (Nat.le_of_ble_eq_true rfl) ⟨congrArg some (congrArg Value.int (by show _ = zb (s_apt vs m nd (2 + 1) ap); rw [s_apt_1 (r := 2), show nd - (2 + 1) = d by omega]; exact (zb_f hi_12).symm)), r_10, rfl, hi_11⟩
    | succ q_6 ih_7 =>
      intro i_5 hb_8 lo_13 r_10 hi_11 hi_12
      refine z_iload_n 3 dX1_isApart_12 rfl ?_
      refine z_iload_n 2 dX1_isApart_13 rfl ?_
      refine z_icmp_geN (a := i_5) (b := m) 99 (by omega) (by omega) dX1_isApart_14 (by decide) (fun c_15 => absurd c_15 (by omega)) (fun c_15 => ?_)
      refine z_iconst (v := 1) dX1_isApart_17 (by decide) ?_
      refine z_istore (lv' := [(4, .int 1), (0, .ref (A 99)), (1, .int (nI (d))), (2, .int (nI (m))), (3, .int (nI (i_5)))]) dX1_isApart_18 (by decide) rfl ?_
      refine z_iconst (v := 0) dX1_isApart_20 (by decide) ?_
      refine z_istore (lv' := [(5, .int 0), (4, .int 1), (0, .ref (A 99)), (1, .int (nI (d))), (2, .int (nI (m))), (3, .int (nI (i_5)))]) dX1_isApart_21 (by decide) rfl ?_
      have loop_20 : ∀ (q_17 i_16 : Nat), i_16 + q_17 = d → 0 ≤ i_16 → zZ g m_X1_isApart (fun rv X' => rv = some (.int (zb (s_apt vs m nd 3 ap))) ∧ ∃ f' : Nat → Int32, X' = (cX g A (cput (cput (zs (s_ra K f') 99 8 o) 300 σ ds (nI (now % 12)) (nI (now / 12))) 310 τ es dt2 yr2) F O gl X) ∧ ∀ o, o < d → f' o = ap o, zno, ({ frames := 6, cells := 0, slots := 0, locals := 135 } : Room)) 0 0 (cX g A (cput (cput (zs (s_ra K r_10) 99 8 o) 300 σ ds (nI (now % 12)) (nI (now / 12))) 310 τ es dt2 yr2) F O gl X) 23 [(0, .ref (A 99)), (1, .int (nI (d))), (2, .int (nI (m))), (3, .int (nI (i_5))), (4, .int (zb (s_mayA (vs (5 * d + 16)) ap (i_5) i_16))), (5, .int (nI (i_16)))] [] := by
        intro q_17
        induction q_17 with
        | zero =>
          intro i_16 hb_19 lo_21  
          obtain rfl : d = i_16 := by omega
          refine z_iload 5 dX1_isApart_23 rfl ?_
          refine z_iload_n 1 dX1_isApart_25 rfl ?_
          refine z_icmp_geN (a := d) (b := d) 65 (by omega) (by omega) dX1_isApart_26 (by decide) (fun c_22 => ?_) (fun c_22 => absurd c_22 (by omega))
          refine z_iload 4 dX1_isApart_65 rfl ?_
          refine z_if_neb 73 dX1_isApart_67 (by decide) (fun c_23 => ?_) (fun c_23 => ?_)
          · -- s_mayA (vs (5 * d + 16)) ap (i_5) d = true
            refine z_aload_n 0 dX1_isApart_73 rfl ?_
            refine cz_get (v := .ref (A 14)) 14 hA (by decide) q341 rfl dX1_isApart_74 ?_
            refine z_iload_n 1 dX1_isApart_77 rfl ?_
            refine z_iload_n 3 dX1_isApart_78 rfl ?_
            refine cz_iast (K' := (cput (cput (zs (s_ra K (zs1 r_10 d (nI (i_5)))) 99 8 o) 300 σ ds (nI (now % 12)) (nI (now / 12))) 310 τ es dt2 yr2)) 14 d hA (by unfold cia; omega) rfl (by have h9 : csz 14 = 6 := rfl; omega) (by rw [cput_zo (by omega), cput_zo (by omega), zs_cm (by omega), s_ra_z]) dX1_isApart_79 ?_
            refine z_aload_n 0 dX1_isApart_80 rfl ?_
            refine z_iload_n 1 dX1_isApart_81 rfl ?_
            refine z_iconst (v := 1) dX1_isApart_82 (by decide) ?_
            refine z_iaddN (a := d) (b := 1) dX1_isApart_83 ?_
            refine z_iload_n 2 dX1_isApart_84 rfl ?_
            refine z_callV (As := [.int (nI (d + 1)), .int (nI (m))]) (c_isApart_2 (K := K) (f := (zs1 r_10 d (nI (i_5)))) (F := F) (gl := gl) (σ := σ) (ds := ds) (τ := τ) (es := es) (dt2 := dt2) (yr2 := yr2) (o := o) hA hO hV hv hnow hiv (d + 1) (by omega) m hm (ap := zs1 ap d (nI (i_5))) (s_rp_1 hi_11)) q1378 q1380 qs44 q112 q1381 nm_X1_isApart (cX_obj hA) rfl rfl rfl (Nat.le_of_ble_eq_true rfl) ⟨Nat.le_of_ble_eq_true rfl, Nat.le_of_ble_eq_true rfl⟩ dX1_isApart_85 rfl rfl (Nat.le_of_ble_eq_true rfl) (Nat.le_of_ble_eq_true rfl) (fun v_26 X_27 hp_28 => ?_)
            obtain ⟨rfl, r_24, rfl, hap_25⟩ := hp_28
            refine z_st (st' := [.int (zb (s_apt vs m nd 2 (zs1 ap d (nI (i_5)))))]) rfl ?_
            refine z_if_eqb 93 dX1_isApart_88 (by decide) (fun c_29 => ?_) (fun c_29 => ?_)
            · -- s_apt vs m nd 2 (zs1 ap d (nI (i_5))) = false
              refine z_iinc (v := nI (i_5 + 1)) (lv' := [(3, .int (nI (i_5 + 1))), (0, .ref (A 99)), (1, .int (nI (d))), (2, .int (nI (m))), (4, .int (zb (s_mayA (vs (5 * d + 16)) ap (i_5) d))), (5, .int (nI (d)))]) 3 dX1_isApart_93 rfl (nI_1 _) (by decide) rfl ?_
              refine z_goto 12 dX1_isApart_96 (by decide) ?_
              refine z_lv (lv' := [(0, .ref (A 99)), (1, .int (nI (d))), (2, .int (nI (m))), (3, .int (nI (i_5 + 1)))]) [1, 2, 3, 0] rfl ?_
              exact ih_7 (i_5 + 1) (by omega) (by omega) _ (s_rp_2 hap_25) (by show (s_ex _ _ || (s_mayA _ _ _ _ && s_apt _ _ _ _ _)) = false; rw [hi_12, c_29, Bool.and_false]; rfl)
            · -- s_apt vs m nd 2 (zs1 ap d (nI (i_5))) = true
              refine z_iconst (v := 1) dX1_isApart_91 (by decide) ?_
              exact z_zret dX1_isApart_92 rfl (by first | rfl | decide | exact zb_nar _) (Nat.le_of_ble_eq_true rfl) (Nat.le_of_ble_eq_true rfl) ⟨congrArg some (congrArg Value.int (by show _ = zb (s_apt vs m nd (2 + 1) ap); rw [s_apt_1 (r := 2), show nd - (2 + 1) = d by omega]; exact (zb_t (s_ex_of (k := i_5) (by show (s_mayA _ _ _ _ && s_apt _ _ _ _ _) = true; rw [c_23, c_29]; rfl) (by omega))).symm)), r_24, rfl, (s_rp_2 hap_25)⟩
          · -- s_mayA (vs (5 * d + 16)) ap (i_5) d = false
            refine z_goto 93 dX1_isApart_70 (by decide) ?_
            refine z_iinc (v := nI (i_5 + 1)) (lv' := [(3, .int (nI (i_5 + 1))), (0, .ref (A 99)), (1, .int (nI (d))), (2, .int (nI (m))), (4, .int (zb (s_mayA (vs (5 * d + 16)) ap (i_5) d))), (5, .int (nI (d)))]) 3 dX1_isApart_93 rfl (nI_1 _) (by decide) rfl ?_
            refine z_goto 12 dX1_isApart_96 (by decide) ?_
            refine z_lv (lv' := [(0, .ref (A 99)), (1, .int (nI (d))), (2, .int (nI (m))), (3, .int (nI (i_5 + 1)))]) [1, 2, 3, 0] rfl ?_
            exact ih_7 (i_5 + 1) (by omega) (by omega) _ hi_11 (by show (s_ex _ _ || (s_mayA _ _ _ _ && s_apt _ _ _ _ _)) = false; rw [hi_12, c_23, Bool.false_and]; rfl)
        | succ q_17 ih_18 =>
          intro i_16 hb_19 lo_21  
          refine z_iload 5 dX1_isApart_23 rfl ?_
          refine z_iload_n 1 dX1_isApart_25 rfl ?_
          refine z_icmp_geN (a := i_16) (b := d) 65 (by omega) (by omega) dX1_isApart_26 (by decide) (fun c_30 => absurd c_30 (by omega)) (fun c_30 => ?_)
          refine z_aload_n 0 dX1_isApart_29 rfl ?_
          refine cz_get (v := .ref (A 14)) 14 hA (by decide) q341 rfl dX1_isApart_30 ?_
          refine z_iload 5 dX1_isApart_33 rfl ?_
          refine cz_iald (v := (s_ra K r_10) 14 i_16) 14 i_16 hA (by unfold cia; omega) rfl (by have h9 : csz 14 = 6 := rfl; omega) rfl dX1_isApart_35 ?_
          refine z_eq (y := ap i_16) (s_ra_r.trans (hi_11 i_16 (by omega))) ?_
          refine z_iload_n 3 dX1_isApart_36 rfl ?_
          refine z_icmp_ne 59 dX1_isApart_37 (by decide) (fun c_31 => ?_) (fun c_31 => ?_)
          · -- ¬ ap i_16 = nI (i_5)
            refine z_iinc (v := nI (i_16 + 1)) (lv' := [(5, .int (nI (i_16 + 1))), (0, .ref (A 99)), (1, .int (nI (d))), (2, .int (nI (m))), (3, .int (nI (i_5))), (4, .int (zb (s_mayA (vs (5 * d + 16)) ap (i_5) i_16)))]) 5 dX1_isApart_59 rfl (nI_1 _) (by decide) rfl ?_
            refine z_goto 23 dX1_isApart_62 (by decide) ?_
            have f_32 : zb (s_mayA (vs (5 * d + 16)) ap (i_5) i_16) = zb (s_mayA (vs (5 * d + 16)) ap (i_5) (i_16 + 1)) := by simp [s_mayA, zb, c_4, c_15, c_30, c_31]
            refine z_lv (lv' := [(0, .ref (A 99)), (1, .int (nI (d))), (2, .int (nI (m))), (3, .int (nI (i_5))), (4, .int (zb (s_mayA (vs (5 * d + 16)) ap (i_5) (i_16 + 1)))), (5, .int (nI (i_16 + 1)))]) [1, 2, 3, 4, 5, 0] (by rw [← f_32]; rfl) ?_
            exact ih_18 (i_16 + 1) (by omega) (by omega)  
          · -- ap i_16 = nI (i_5)
            refine z_aload_n 0 dX1_isApart_40 rfl ?_
            refine z_iload_n 1 dX1_isApart_41 rfl ?_
            obtain ⟨a_33, m_34, k_37, he_35, hk_38, hkv_39, ha_36⟩ := hgs d (by omega)
            refine z_callV (As := [.int (nI (d))]) (c_guest (K := (cput (cput (zs (s_ra K r_10) 99 8 o) 300 σ ds (nI (now % 12)) (nI (now / 12))) 310 τ es dt2 yr2)) (F := F) (gl := gl) hA hO hxv hlh heh hch1 hch2 hlg heg hcg1 hcg2 d (by omega) hk_38 he_35 ha_36) q1143 q1145 qs31 q112 q1146 nm_X1_guest (cX_obj hA) rfl rfl rfl (Nat.le_of_ble_eq_true rfl) ⟨Nat.le_of_ble_eq_true rfl, Nat.le_of_ble_eq_true rfl⟩ dX1_isApart_42 rfl rfl (Nat.le_of_ble_eq_true rfl) (Nat.le_of_ble_eq_true rfl) (fun v_40 X_41 hp_42 => ?_)
            obtain ⟨rfl, rfl⟩ := hp_42
            refine z_st (st' := [.ref a_33]) rfl ?_
            refine z_getG (v := .int (vs (5 * d + 16))) 4 (cX_lo hA ha_36) hk_38 (by decide) q929 rfl dX1_isApart_45 ?_
            refine z_iload 5 dX1_isApart_48 rfl ?_
            refine z_callS (As := [.int (vs (5 * d + 16)), .int (nI (i_16))]) (c_isIn (vs (5 * d + 16)) i_16) q1241 q903 q112 q904 nm_X1_isIn rfl (Nat.le_of_ble_eq_true rfl) ⟨Nat.le_of_ble_eq_true rfl, Nat.le_of_ble_eq_true rfl⟩ dX1_isApart_50 rfl rfl (Nat.le_of_ble_eq_true rfl) (Nat.le_of_ble_eq_true rfl) (fun v_43 X_44 hp_45 => ?_)
            obtain ⟨rfl, rfl⟩ := hp_45
            refine z_st (st' := [.int (zb (s_isBit (vs (5 * d + 16)) i_16))]) rfl ?_
            refine z_if_eqb 59 dX1_isApart_53 (by decide) (fun c_46 => ?_) (fun c_46 => ?_)
            · -- s_isBit (vs (5 * d + 16)) i_16 = false
              refine z_iinc (v := nI (i_16 + 1)) (lv' := [(5, .int (nI (i_16 + 1))), (0, .ref (A 99)), (1, .int (nI (d))), (2, .int (nI (m))), (3, .int (nI (i_5))), (4, .int (zb (s_mayA (vs (5 * d + 16)) ap (i_5) i_16)))]) 5 dX1_isApart_59 rfl (nI_1 _) (by decide) rfl ?_
              refine z_goto 23 dX1_isApart_62 (by decide) ?_
              have f_47 : zb (s_mayA (vs (5 * d + 16)) ap (i_5) i_16) = zb (s_mayA (vs (5 * d + 16)) ap (i_5) (i_16 + 1)) := by simp [s_mayA, zb, c_4, c_15, c_30, c_31, c_46]
              refine z_lv (lv' := [(0, .ref (A 99)), (1, .int (nI (d))), (2, .int (nI (m))), (3, .int (nI (i_5))), (4, .int (zb (s_mayA (vs (5 * d + 16)) ap (i_5) (i_16 + 1)))), (5, .int (nI (i_16 + 1)))]) [1, 2, 3, 4, 5, 0] (by rw [← f_47]; rfl) ?_
              exact ih_18 (i_16 + 1) (by omega) (by omega)  
            · -- s_isBit (vs (5 * d + 16)) i_16 = true
              refine z_iconst (v := 0) dX1_isApart_56 (by decide) ?_
              refine z_istore (lv' := [(4, .int 0), (0, .ref (A 99)), (1, .int (nI (d))), (2, .int (nI (m))), (3, .int (nI (i_5))), (5, .int (nI (i_16)))]) dX1_isApart_57 (by decide) rfl ?_
              refine z_iinc (v := nI (i_16 + 1)) (lv' := [(5, .int (nI (i_16 + 1))), (4, .int 0), (0, .ref (A 99)), (1, .int (nI (d))), (2, .int (nI (m))), (3, .int (nI (i_5)))]) 5 dX1_isApart_59 rfl (nI_1 _) (by decide) rfl ?_
              refine z_goto 23 dX1_isApart_62 (by decide) ?_
              have f_48 : 0 = zb (s_mayA (vs (5 * d + 16)) ap (i_5) (i_16 + 1)) := by simp [s_mayA, zb, c_4, c_15, c_30, c_31, c_46]
              refine z_lv (lv' := [(0, .ref (A 99)), (1, .int (nI (d))), (2, .int (nI (m))), (3, .int (nI (i_5))), (4, .int (zb (s_mayA (vs (5 * d + 16)) ap (i_5) (i_16 + 1)))), (5, .int (nI (i_16 + 1)))]) [2, 3, 4, 5, 1, 0] (by rw [← f_48]; rfl) ?_
              exact ih_18 (i_16 + 1) (by omega) (by omega)  
      have f_49 : 1 = zb (s_mayA (vs (5 * d + 16)) ap (i_5) 0) := by rfl
      refine z_lv (lv' := [(0, .ref (A 99)), (1, .int (nI (d))), (2, .int (nI (m))), (3, .int (nI (i_5))), (4, .int (zb (s_mayA (vs (5 * d + 16)) ap (i_5) 0))), (5, .int 0)]) [2, 3, 4, 5, 1, 0] (by rw [← f_49]; rfl) ?_
      exact loop_20 (d - 0) 0 (by omega) (Nat.le_refl _)  
  refine z_lv (lv' := [(0, .ref (A 99)), (1, .int (nI (d))), (2, .int (nI (m))), (3, .int 0)]) [1, 2, 3, 0] rfl ?_
  exact loop_9 (m - 0) 0 (by omega) (Nat.le_refl _) _ hap rfl
set_option maxHeartbeats 4000000 in
theorem c_isApart_4 {g : zG} {A : Nat → Nat} {K : Nat → Nat → Int32} {F : Nat → Int32} {O : Nat → Nat → Option Nat} {gl : Int64} {X : zX} (hA : cok g A X) {v : Nat} (hO : O 0 0 = some v) {vs : Nat → Int32} {nh nd : Nat} {own : Nat → Nat} {wv : Int32 → Int32 → Int32 → Int32 → Int32} (hV : s_ok vs nh nd own) (hv : cvl g X v vs nh nd wv) {σ ds τ es : Nat → Int32} {dt2 yr2 o : Int32} {now : Nat} (hnow : now < 2 ^ 28) (hiv : s_iv σ nd) {f : Nat → Int32} (d : Nat) (hd : d + 4 = nd) (m : Nat) (hm : m < 2 ^ 30) {ap : Nat → Int32} (hap : ∀ o, o < d → f o = ap o) : zN g m_X1_isApart ({ frames := 7, cells := 0, slots := 0, locals := 160 } : Room) [.ref (A 99), .int (nI (d)), .int (nI (m))] (cX g A (cput (cput (zs (s_ra K f) 99 8 o) 300 σ ds (nI (now % 12)) (nI (now / 12))) 310 τ es dt2 yr2) F O gl X) (fun rv X' => rv = some (.int (zb (s_apt vs m nd 4 ap))) ∧ ∃ f' : Nat → Int32, X' = (cX g A (cput (cput (zs (s_ra K f') 99 8 o) 300 σ ds (nI (now % 12)) (nI (now / 12))) 310 τ es dt2 yr2) F O gl X) ∧ ∀ o, o < d → f' o = ap o) := by
  refine zN.of (by decide +kernel) (Nat.le_of_ble_eq_true rfl) rfl ?_
  refine z_lv (lv' := [(0, .ref (A 99)), (1, .int (nI (d))), (2, .int (nI (m)))]) [0, 1, 2] rfl ?_
  have hA2 := hA.2.2.1
  have hV9 := hV
  have hv9 := hv
  obtain ⟨h0, hnh, h1, hnd, hown⟩ := hV9
  obtain ⟨lh, lg, fh, fg, st9, fa, hxv, ⟨mh, eh, ch, hlh, heh, hch1, hch2⟩, ⟨mg, eg, cg, hlg, heg, hcg1, hcg2⟩, hhs, hgs, hst9, hfa⟩ := hv9
  refine z_iload_n 1 dX1_isApart_0 rfl ?_
  refine z_aload_n 0 dX1_isApart_1 rfl ?_
  refine z_callV (As := []) (c_guests (K := (cput (cput (zs (s_ra K f) 99 8 o) 300 σ ds (nI (now % 12)) (nI (now / 12))) 310 τ es dt2 yr2)) (F := F) (gl := gl) hA hO hxv hlh heh hch1 hch2 hlg heg hcg1 hcg2) q1139 q1141 qs30 q112 q1142 nm_X1_guests (cX_obj hA) rfl rfl rfl (Nat.le_of_ble_eq_true rfl) ⟨Nat.le_of_ble_eq_true rfl, Nat.le_of_ble_eq_true rfl⟩ dX1_isApart_2 rfl rfl (Nat.le_of_ble_eq_true rfl) (Nat.le_of_ble_eq_true rfl) (fun v_1 X_2 hp_3 => ?_)
  obtain ⟨rfl, rfl⟩ := hp_3
  refine z_st (st' := [.int (nI (nd)), .int (nI (d))]) rfl ?_
  refine z_icmp_neN (a := d) (b := nd) 10 (by omega) (by omega) dX1_isApart_5 (by decide) (fun c_4 => ?_) (fun c_4 => absurd c_4 ((by omega)))
  refine z_iconst (v := 0) dX1_isApart_10 (by decide) ?_
  refine z_istore_n (lv' := [(3, .int 0), (0, .ref (A 99)), (1, .int (nI (d))), (2, .int (nI (m)))]) dX1_isApart_11 rfl (by decide) rfl ?_
  have loop_9 : ∀ (q_6 i_5 : Nat), i_5 + q_6 = m → 0 ≤ i_5 → ∀ (r_10 : Nat → Int32), (∀ o, o < d → r_10 o = ap o) → s_ex (fun h => s_mayA (vs (5 * d + 16)) ap h d && s_apt vs m nd 3 (zs1 ap d (nI h))) i_5 = false → zZ g m_X1_isApart (fun rv X' => rv = some (.int (zb (s_apt vs m nd 4 ap))) ∧ ∃ f' : Nat → Int32, X' = (cX g A (cput (cput (zs (s_ra K f') 99 8 o) 300 σ ds (nI (now % 12)) (nI (now / 12))) 310 τ es dt2 yr2) F O gl X) ∧ ∀ o, o < d → f' o = ap o, zno, ({ frames := 7, cells := 0, slots := 0, locals := 160 } : Room)) 0 0 (cX g A (cput (cput (zs (s_ra K r_10) 99 8 o) 300 σ ds (nI (now % 12)) (nI (now / 12))) 310 τ es dt2 yr2) F O gl X) 12 [(0, .ref (A 99)), (1, .int (nI (d))), (2, .int (nI (m))), (3, .int (nI (i_5)))] [] := by
    intro q_6
    induction q_6 with
    | zero =>
      intro i_5 hb_8 lo_13 r_10 hi_11 hi_12
      obtain rfl : m = i_5 := by omega
      refine z_iload_n 3 dX1_isApart_12 rfl ?_
      refine z_iload_n 2 dX1_isApart_13 rfl ?_
      refine z_icmp_geN (a := m) (b := m) 99 (by omega) (by omega) dX1_isApart_14 (by decide) (fun c_14 => ?_) (fun c_14 => absurd c_14 (by omega))
      refine z_iconst (v := 0) dX1_isApart_99 (by decide) ?_
      exact z_zret dX1_isApart_100 rfl (by first | rfl | decide | exact zb_nar _) (Nat.le_of_ble_eq_true rfl) (Nat.le_of_ble_eq_true rfl) ⟨congrArg some (congrArg Value.int (by show _ = zb (s_apt vs m nd (3 + 1) ap); rw [s_apt_1 (r := 3), show nd - (3 + 1) = d by omega]; exact (zb_f hi_12).symm)), r_10, rfl, hi_11⟩
    | succ q_6 ih_7 =>
      intro i_5 hb_8 lo_13 r_10 hi_11 hi_12
      refine z_iload_n 3 dX1_isApart_12 rfl ?_
      refine z_iload_n 2 dX1_isApart_13 rfl ?_
      refine z_icmp_geN (a := i_5) (b := m) 99 (by omega) (by omega) dX1_isApart_14 (by decide) (fun c_15 => absurd c_15 (by omega)) (fun c_15 => ?_)
      refine z_iconst (v := 1) dX1_isApart_17 (by decide) ?_
      refine z_istore (lv' := [(4, .int 1), (0, .ref (A 99)), (1, .int (nI (d))), (2, .int (nI (m))), (3, .int (nI (i_5)))]) dX1_isApart_18 (by decide) rfl ?_
      refine z_iconst (v := 0) dX1_isApart_20 (by decide) ?_
      refine z_istore (lv' := [(5, .int 0), (4, .int 1), (0, .ref (A 99)), (1, .int (nI (d))), (2, .int (nI (m))), (3, .int (nI (i_5)))]) dX1_isApart_21 (by decide) rfl ?_
      have loop_20 : ∀ (q_17 i_16 : Nat), i_16 + q_17 = d → 0 ≤ i_16 → zZ g m_X1_isApart (fun rv X' => rv = some (.int (zb (s_apt vs m nd 4 ap))) ∧ ∃ f' : Nat → Int32, X' = (cX g A (cput (cput (zs (s_ra K f') 99 8 o) 300 σ ds (nI (now % 12)) (nI (now / 12))) 310 τ es dt2 yr2) F O gl X) ∧ ∀ o, o < d → f' o = ap o, zno, ({ frames := 7, cells := 0, slots := 0, locals := 160 } : Room)) 0 0 (cX g A (cput (cput (zs (s_ra K r_10) 99 8 o) 300 σ ds (nI (now % 12)) (nI (now / 12))) 310 τ es dt2 yr2) F O gl X) 23 [(0, .ref (A 99)), (1, .int (nI (d))), (2, .int (nI (m))), (3, .int (nI (i_5))), (4, .int (zb (s_mayA (vs (5 * d + 16)) ap (i_5) i_16))), (5, .int (nI (i_16)))] [] := by
        intro q_17
        induction q_17 with
        | zero =>
          intro i_16 hb_19 lo_21  
          obtain rfl : d = i_16 := by omega
          refine z_iload 5 dX1_isApart_23 rfl ?_
          refine z_iload_n 1 dX1_isApart_25 rfl ?_
          refine z_icmp_geN (a := d) (b := d) 65 (by omega) (by omega) dX1_isApart_26 (by decide) (fun c_22 => ?_) (fun c_22 => absurd c_22 (by omega))
          refine z_iload 4 dX1_isApart_65 rfl ?_
          refine z_if_neb 73 dX1_isApart_67 (by decide) (fun c_23 => ?_) (fun c_23 => ?_)
          · -- s_mayA (vs (5 * d + 16)) ap (i_5) d = true
            refine z_aload_n 0 dX1_isApart_73 rfl ?_
            refine cz_get (v := .ref (A 14)) 14 hA (by decide) q341 rfl dX1_isApart_74 ?_
            refine z_iload_n 1 dX1_isApart_77 rfl ?_
            refine z_iload_n 3 dX1_isApart_78 rfl ?_
            refine cz_iast (K' := (cput (cput (zs (s_ra K (zs1 r_10 d (nI (i_5)))) 99 8 o) 300 σ ds (nI (now % 12)) (nI (now / 12))) 310 τ es dt2 yr2)) 14 d hA (by unfold cia; omega) rfl (by have h9 : csz 14 = 6 := rfl; omega) (by rw [cput_zo (by omega), cput_zo (by omega), zs_cm (by omega), s_ra_z]) dX1_isApart_79 ?_
            refine z_aload_n 0 dX1_isApart_80 rfl ?_
            refine z_iload_n 1 dX1_isApart_81 rfl ?_
            refine z_iconst (v := 1) dX1_isApart_82 (by decide) ?_
            refine z_iaddN (a := d) (b := 1) dX1_isApart_83 ?_
            refine z_iload_n 2 dX1_isApart_84 rfl ?_
            refine z_callV (As := [.int (nI (d + 1)), .int (nI (m))]) (c_isApart_3 (K := K) (f := (zs1 r_10 d (nI (i_5)))) (F := F) (gl := gl) (σ := σ) (ds := ds) (τ := τ) (es := es) (dt2 := dt2) (yr2 := yr2) (o := o) hA hO hV hv hnow hiv (d + 1) (by omega) m hm (ap := zs1 ap d (nI (i_5))) (s_rp_1 hi_11)) q1378 q1380 qs44 q112 q1381 nm_X1_isApart (cX_obj hA) rfl rfl rfl (Nat.le_of_ble_eq_true rfl) ⟨Nat.le_of_ble_eq_true rfl, Nat.le_of_ble_eq_true rfl⟩ dX1_isApart_85 rfl rfl (Nat.le_of_ble_eq_true rfl) (Nat.le_of_ble_eq_true rfl) (fun v_26 X_27 hp_28 => ?_)
            obtain ⟨rfl, r_24, rfl, hap_25⟩ := hp_28
            refine z_st (st' := [.int (zb (s_apt vs m nd 3 (zs1 ap d (nI (i_5)))))]) rfl ?_
            refine z_if_eqb 93 dX1_isApart_88 (by decide) (fun c_29 => ?_) (fun c_29 => ?_)
            · -- s_apt vs m nd 3 (zs1 ap d (nI (i_5))) = false
              refine z_iinc (v := nI (i_5 + 1)) (lv' := [(3, .int (nI (i_5 + 1))), (0, .ref (A 99)), (1, .int (nI (d))), (2, .int (nI (m))), (4, .int (zb (s_mayA (vs (5 * d + 16)) ap (i_5) d))), (5, .int (nI (d)))]) 3 dX1_isApart_93 rfl (nI_1 _) (by decide) rfl ?_
              refine z_goto 12 dX1_isApart_96 (by decide) ?_
              refine z_lv (lv' := [(0, .ref (A 99)), (1, .int (nI (d))), (2, .int (nI (m))), (3, .int (nI (i_5 + 1)))]) [1, 2, 3, 0] rfl ?_
              exact ih_7 (i_5 + 1) (by omega) (by omega) _ (s_rp_2 hap_25) (by show (s_ex _ _ || (s_mayA _ _ _ _ && s_apt _ _ _ _ _)) = false; rw [hi_12, c_29, Bool.and_false]; rfl)
            · -- s_apt vs m nd 3 (zs1 ap d (nI (i_5))) = true
              refine z_iconst (v := 1) dX1_isApart_91 (by decide) ?_
              exact z_zret dX1_isApart_92 rfl (by first | rfl | decide | exact zb_nar _) (Nat.le_of_ble_eq_true rfl) (Nat.le_of_ble_eq_true rfl) ⟨congrArg some (congrArg Value.int (by show _ = zb (s_apt vs m nd (3 + 1) ap); rw [s_apt_1 (r := 3), show nd - (3 + 1) = d by omega]; exact (zb_t (s_ex_of (k := i_5) (by show (s_mayA _ _ _ _ && s_apt _ _ _ _ _) = true; rw [c_23, c_29]; rfl) (by omega))).symm)), r_24, rfl, (s_rp_2 hap_25)⟩
          · -- s_mayA (vs (5 * d + 16)) ap (i_5) d = false
            refine z_goto 93 dX1_isApart_70 (by decide) ?_
            refine z_iinc (v := nI (i_5 + 1)) (lv' := [(3, .int (nI (i_5 + 1))), (0, .ref (A 99)), (1, .int (nI (d))), (2, .int (nI (m))), (4, .int (zb (s_mayA (vs (5 * d + 16)) ap (i_5) d))), (5, .int (nI (d)))]) 3 dX1_isApart_93 rfl (nI_1 _) (by decide) rfl ?_
            refine z_goto 12 dX1_isApart_96 (by decide) ?_
            refine z_lv (lv' := [(0, .ref (A 99)), (1, .int (nI (d))), (2, .int (nI (m))), (3, .int (nI (i_5 + 1)))]) [1, 2, 3, 0] rfl ?_
            exact ih_7 (i_5 + 1) (by omega) (by omega) _ hi_11 (by show (s_ex _ _ || (s_mayA _ _ _ _ && s_apt _ _ _ _ _)) = false; rw [hi_12, c_23, Bool.false_and]; rfl)
        | succ q_17 ih_18 =>
          intro i_16 hb_19 lo_21  
          refine z_iload 5 dX1_isApart_23 rfl ?_
          refine z_iload_n 1 dX1_isApart_25 rfl ?_
          refine z_icmp_geN (a := i_16) (b := d) 65 (by omega) (by omega) dX1_isApart_26 (by decide) (fun c_30 => absurd c_30 (by omega)) (fun c_30 => ?_)
          refine z_aload_n 0 dX1_isApart_29 rfl ?_
          refine cz_get (v := .ref (A 14)) 14 hA (by decide) q341 rfl dX1_isApart_30 ?_
          refine z_iload 5 dX1_isApart_33 rfl ?_
          refine cz_iald (v := (s_ra K r_10) 14 i_16) 14 i_16 hA (by unfold cia; omega) rfl (by have h9 : csz 14 = 6 := rfl; omega) rfl dX1_isApart_35 ?_
          refine z_eq (y := ap i_16) (s_ra_r.trans (hi_11 i_16 (by omega))) ?_
          refine z_iload_n 3 dX1_isApart_36 rfl ?_
          refine z_icmp_ne 59 dX1_isApart_37 (by decide) (fun c_31 => ?_) (fun c_31 => ?_)
          · -- ¬ ap i_16 = nI (i_5)
            refine z_iinc (v := nI (i_16 + 1)) (lv' := [(5, .int (nI (i_16 + 1))), (0, .ref (A 99)), (1, .int (nI (d))), (2, .int (nI (m))), (3, .int (nI (i_5))), (4, .int (zb (s_mayA (vs (5 * d + 16)) ap (i_5) i_16)))]) 5 dX1_isApart_59 rfl (nI_1 _) (by decide) rfl ?_
            refine z_goto 23 dX1_isApart_62 (by decide) ?_
            have f_32 : zb (s_mayA (vs (5 * d + 16)) ap (i_5) i_16) = zb (s_mayA (vs (5 * d + 16)) ap (i_5) (i_16 + 1)) := by simp [s_mayA, zb, c_4, c_15, c_30, c_31]
            refine z_lv (lv' := [(0, .ref (A 99)), (1, .int (nI (d))), (2, .int (nI (m))), (3, .int (nI (i_5))), (4, .int (zb (s_mayA (vs (5 * d + 16)) ap (i_5) (i_16 + 1)))), (5, .int (nI (i_16 + 1)))]) [1, 2, 3, 4, 5, 0] (by rw [← f_32]; rfl) ?_
            exact ih_18 (i_16 + 1) (by omega) (by omega)  
          · -- ap i_16 = nI (i_5)
            refine z_aload_n 0 dX1_isApart_40 rfl ?_
            refine z_iload_n 1 dX1_isApart_41 rfl ?_
            obtain ⟨a_33, m_34, k_37, he_35, hk_38, hkv_39, ha_36⟩ := hgs d (by omega)
            refine z_callV (As := [.int (nI (d))]) (c_guest (K := (cput (cput (zs (s_ra K r_10) 99 8 o) 300 σ ds (nI (now % 12)) (nI (now / 12))) 310 τ es dt2 yr2)) (F := F) (gl := gl) hA hO hxv hlh heh hch1 hch2 hlg heg hcg1 hcg2 d (by omega) hk_38 he_35 ha_36) q1143 q1145 qs31 q112 q1146 nm_X1_guest (cX_obj hA) rfl rfl rfl (Nat.le_of_ble_eq_true rfl) ⟨Nat.le_of_ble_eq_true rfl, Nat.le_of_ble_eq_true rfl⟩ dX1_isApart_42 rfl rfl (Nat.le_of_ble_eq_true rfl) (Nat.le_of_ble_eq_true rfl) (fun v_40 X_41 hp_42 => ?_)
            obtain ⟨rfl, rfl⟩ := hp_42
            refine z_st (st' := [.ref a_33]) rfl ?_
            refine z_getG (v := .int (vs (5 * d + 16))) 4 (cX_lo hA ha_36) hk_38 (by decide) q929 rfl dX1_isApart_45 ?_
            refine z_iload 5 dX1_isApart_48 rfl ?_
            refine z_callS (As := [.int (vs (5 * d + 16)), .int (nI (i_16))]) (c_isIn (vs (5 * d + 16)) i_16) q1241 q903 q112 q904 nm_X1_isIn rfl (Nat.le_of_ble_eq_true rfl) ⟨Nat.le_of_ble_eq_true rfl, Nat.le_of_ble_eq_true rfl⟩ dX1_isApart_50 rfl rfl (Nat.le_of_ble_eq_true rfl) (Nat.le_of_ble_eq_true rfl) (fun v_43 X_44 hp_45 => ?_)
            obtain ⟨rfl, rfl⟩ := hp_45
            refine z_st (st' := [.int (zb (s_isBit (vs (5 * d + 16)) i_16))]) rfl ?_
            refine z_if_eqb 59 dX1_isApart_53 (by decide) (fun c_46 => ?_) (fun c_46 => ?_)
            · -- s_isBit (vs (5 * d + 16)) i_16 = false
              refine z_iinc (v := nI (i_16 + 1)) (lv' := [(5, .int (nI (i_16 + 1))), (0, .ref (A 99)), (1, .int (nI (d))), (2, .int (nI (m))), (3, .int (nI (i_5))), (4, .int (zb (s_mayA (vs (5 * d + 16)) ap (i_5) i_16)))]) 5 dX1_isApart_59 rfl (nI_1 _) (by decide) rfl ?_
              refine z_goto 23 dX1_isApart_62 (by decide) ?_
              have f_47 : zb (s_mayA (vs (5 * d + 16)) ap (i_5) i_16) = zb (s_mayA (vs (5 * d + 16)) ap (i_5) (i_16 + 1)) := by simp [s_mayA, zb, c_4, c_15, c_30, c_31, c_46]
              refine z_lv (lv' := [(0, .ref (A 99)), (1, .int (nI (d))), (2, .int (nI (m))), (3, .int (nI (i_5))), (4, .int (zb (s_mayA (vs (5 * d + 16)) ap (i_5) (i_16 + 1)))), (5, .int (nI (i_16 + 1)))]) [1, 2, 3, 4, 5, 0] (by rw [← f_47]; rfl) ?_
              exact ih_18 (i_16 + 1) (by omega) (by omega)  
            · -- s_isBit (vs (5 * d + 16)) i_16 = true
              refine z_iconst (v := 0) dX1_isApart_56 (by decide) ?_
              refine z_istore (lv' := [(4, .int 0), (0, .ref (A 99)), (1, .int (nI (d))), (2, .int (nI (m))), (3, .int (nI (i_5))), (5, .int (nI (i_16)))]) dX1_isApart_57 (by decide) rfl ?_
              refine z_iinc (v := nI (i_16 + 1)) (lv' := [(5, .int (nI (i_16 + 1))), (4, .int 0), (0, .ref (A 99)), (1, .int (nI (d))), (2, .int (nI (m))), (3, .int (nI (i_5)))]) 5 dX1_isApart_59 rfl (nI_1 _) (by decide) rfl ?_
              refine z_goto 23 dX1_isApart_62 (by decide) ?_
              have f_48 : 0 = zb (s_mayA (vs (5 * d + 16)) ap (i_5) (i_16 + 1)) := by simp [s_mayA, zb, c_4, c_15, c_30, c_31, c_46]
              refine z_lv (lv' := [(0, .ref (A 99)), (1, .int (nI (d))), (2, .int (nI (m))), (3, .int (nI (i_5))), (4, .int (zb (s_mayA (vs (5 * d + 16)) ap (i_5) (i_16 + 1)))), (5, .int (nI (i_16 + 1)))]) [2, 3, 4, 5, 1, 0] (by rw [← f_48]; rfl) ?_
              exact ih_18 (i_16 + 1) (by omega) (by omega)  
      have f_49 : 1 = zb (s_mayA (vs (5 * d + 16)) ap (i_5) 0) := by rfl
      refine z_lv (lv' := [(0, .ref (A 99)), (1, .int (nI (d))), (2, .int (nI (m))), (3, .int (nI (i_5))), (4, .int (zb (s_mayA (vs (5 * d + 16)) ap (i_5) 0))), (5, .int 0)]) [2, 3, 4, 5, 1, 0] (by rw [← f_49]; rfl) ?_
      exact loop_20 (d - 0) 0 (by omega) (Nat.le_refl _)  
  refine z_lv (lv' := [(0, .ref (A 99)), (1, .int (nI (d))), (2, .int (nI (m))), (3, .int 0)]) [1, 2, 3, 0] rfl ?_
  exact loop_9 (m - 0) 0 (by omega) (Nat.le_refl _) _ hap rfl
set_option maxHeartbeats 4000000 in
theorem c_isApart_5 {g : zG} {A : Nat → Nat} {K : Nat → Nat → Int32} {F : Nat → Int32} {O : Nat → Nat → Option Nat} {gl : Int64} {X : zX} (hA : cok g A X) {v : Nat} (hO : O 0 0 = some v) {vs : Nat → Int32} {nh nd : Nat} {own : Nat → Nat} {wv : Int32 → Int32 → Int32 → Int32 → Int32} (hV : s_ok vs nh nd own) (hv : cvl g X v vs nh nd wv) {σ ds τ es : Nat → Int32} {dt2 yr2 o : Int32} {now : Nat} (hnow : now < 2 ^ 28) (hiv : s_iv σ nd) {f : Nat → Int32} (d : Nat) (hd : d + 5 = nd) (m : Nat) (hm : m < 2 ^ 30) {ap : Nat → Int32} (hap : ∀ o, o < d → f o = ap o) : zN g m_X1_isApart ({ frames := 8, cells := 0, slots := 0, locals := 185 } : Room) [.ref (A 99), .int (nI (d)), .int (nI (m))] (cX g A (cput (cput (zs (s_ra K f) 99 8 o) 300 σ ds (nI (now % 12)) (nI (now / 12))) 310 τ es dt2 yr2) F O gl X) (fun rv X' => rv = some (.int (zb (s_apt vs m nd 5 ap))) ∧ ∃ f' : Nat → Int32, X' = (cX g A (cput (cput (zs (s_ra K f') 99 8 o) 300 σ ds (nI (now % 12)) (nI (now / 12))) 310 τ es dt2 yr2) F O gl X) ∧ ∀ o, o < d → f' o = ap o) := by
  refine zN.of (by decide +kernel) (Nat.le_of_ble_eq_true rfl) rfl ?_
  refine z_lv (lv' := [(0, .ref (A 99)), (1, .int (nI (d))), (2, .int (nI (m)))]) [0, 1, 2] rfl ?_
  have hA2 := hA.2.2.1
  have hV9 := hV
  have hv9 := hv
  obtain ⟨h0, hnh, h1, hnd, hown⟩ := hV9
  obtain ⟨lh, lg, fh, fg, st9, fa, hxv, ⟨mh, eh, ch, hlh, heh, hch1, hch2⟩, ⟨mg, eg, cg, hlg, heg, hcg1, hcg2⟩, hhs, hgs, hst9, hfa⟩ := hv9
  refine z_iload_n 1 dX1_isApart_0 rfl ?_
  refine z_aload_n 0 dX1_isApart_1 rfl ?_
  refine z_callV (As := []) (c_guests (K := (cput (cput (zs (s_ra K f) 99 8 o) 300 σ ds (nI (now % 12)) (nI (now / 12))) 310 τ es dt2 yr2)) (F := F) (gl := gl) hA hO hxv hlh heh hch1 hch2 hlg heg hcg1 hcg2) q1139 q1141 qs30 q112 q1142 nm_X1_guests (cX_obj hA) rfl rfl rfl (Nat.le_of_ble_eq_true rfl) ⟨Nat.le_of_ble_eq_true rfl, Nat.le_of_ble_eq_true rfl⟩ dX1_isApart_2 rfl rfl (Nat.le_of_ble_eq_true rfl) (Nat.le_of_ble_eq_true rfl) (fun v_1 X_2 hp_3 => ?_)
  obtain ⟨rfl, rfl⟩ := hp_3
  refine z_st (st' := [.int (nI (nd)), .int (nI (d))]) rfl ?_
  refine z_icmp_neN (a := d) (b := nd) 10 (by omega) (by omega) dX1_isApart_5 (by decide) (fun c_4 => ?_) (fun c_4 => absurd c_4 ((by omega)))
  refine z_iconst (v := 0) dX1_isApart_10 (by decide) ?_
  refine z_istore_n (lv' := [(3, .int 0), (0, .ref (A 99)), (1, .int (nI (d))), (2, .int (nI (m)))]) dX1_isApart_11 rfl (by decide) rfl ?_
  have loop_9 : ∀ (q_6 i_5 : Nat), i_5 + q_6 = m → 0 ≤ i_5 → ∀ (r_10 : Nat → Int32), (∀ o, o < d → r_10 o = ap o) → s_ex (fun h => s_mayA (vs (5 * d + 16)) ap h d && s_apt vs m nd 4 (zs1 ap d (nI h))) i_5 = false → zZ g m_X1_isApart (fun rv X' => rv = some (.int (zb (s_apt vs m nd 5 ap))) ∧ ∃ f' : Nat → Int32, X' = (cX g A (cput (cput (zs (s_ra K f') 99 8 o) 300 σ ds (nI (now % 12)) (nI (now / 12))) 310 τ es dt2 yr2) F O gl X) ∧ ∀ o, o < d → f' o = ap o, zno, ({ frames := 8, cells := 0, slots := 0, locals := 185 } : Room)) 0 0 (cX g A (cput (cput (zs (s_ra K r_10) 99 8 o) 300 σ ds (nI (now % 12)) (nI (now / 12))) 310 τ es dt2 yr2) F O gl X) 12 [(0, .ref (A 99)), (1, .int (nI (d))), (2, .int (nI (m))), (3, .int (nI (i_5)))] [] := by
    intro q_6
    induction q_6 with
    | zero =>
      intro i_5 hb_8 lo_13 r_10 hi_11 hi_12
      obtain rfl : m = i_5 := by omega
      refine z_iload_n 3 dX1_isApart_12 rfl ?_
      refine z_iload_n 2 dX1_isApart_13 rfl ?_
      refine z_icmp_geN (a := m) (b := m) 99 (by omega) (by omega) dX1_isApart_14 (by decide) (fun c_14 => ?_) (fun c_14 => absurd c_14 (by omega))
      refine z_iconst (v := 0) dX1_isApart_99 (by decide) ?_
      exact z_zret dX1_isApart_100 rfl (by first | rfl | decide | exact zb_nar _) (Nat.le_of_ble_eq_true rfl) (Nat.le_of_ble_eq_true rfl) ⟨congrArg some (congrArg Value.int (by show _ = zb (s_apt vs m nd (4 + 1) ap); rw [s_apt_1 (r := 4), show nd - (4 + 1) = d by omega]; exact (zb_f hi_12).symm)), r_10, rfl, hi_11⟩
    | succ q_6 ih_7 =>
      intro i_5 hb_8 lo_13 r_10 hi_11 hi_12
      refine z_iload_n 3 dX1_isApart_12 rfl ?_
      refine z_iload_n 2 dX1_isApart_13 rfl ?_
      refine z_icmp_geN (a := i_5) (b := m) 99 (by omega) (by omega) dX1_isApart_14 (by decide) (fun c_15 => absurd c_15 (by omega)) (fun c_15 => ?_)
      refine z_iconst (v := 1) dX1_isApart_17 (by decide) ?_
      refine z_istore (lv' := [(4, .int 1), (0, .ref (A 99)), (1, .int (nI (d))), (2, .int (nI (m))), (3, .int (nI (i_5)))]) dX1_isApart_18 (by decide) rfl ?_
      refine z_iconst (v := 0) dX1_isApart_20 (by decide) ?_
      refine z_istore (lv' := [(5, .int 0), (4, .int 1), (0, .ref (A 99)), (1, .int (nI (d))), (2, .int (nI (m))), (3, .int (nI (i_5)))]) dX1_isApart_21 (by decide) rfl ?_
      have loop_20 : ∀ (q_17 i_16 : Nat), i_16 + q_17 = d → 0 ≤ i_16 → zZ g m_X1_isApart (fun rv X' => rv = some (.int (zb (s_apt vs m nd 5 ap))) ∧ ∃ f' : Nat → Int32, X' = (cX g A (cput (cput (zs (s_ra K f') 99 8 o) 300 σ ds (nI (now % 12)) (nI (now / 12))) 310 τ es dt2 yr2) F O gl X) ∧ ∀ o, o < d → f' o = ap o, zno, ({ frames := 8, cells := 0, slots := 0, locals := 185 } : Room)) 0 0 (cX g A (cput (cput (zs (s_ra K r_10) 99 8 o) 300 σ ds (nI (now % 12)) (nI (now / 12))) 310 τ es dt2 yr2) F O gl X) 23 [(0, .ref (A 99)), (1, .int (nI (d))), (2, .int (nI (m))), (3, .int (nI (i_5))), (4, .int (zb (s_mayA (vs (5 * d + 16)) ap (i_5) i_16))), (5, .int (nI (i_16)))] [] := by
        intro q_17
        induction q_17 with
        | zero =>
          intro i_16 hb_19 lo_21  
          obtain rfl : d = i_16 := by omega
          refine z_iload 5 dX1_isApart_23 rfl ?_
          refine z_iload_n 1 dX1_isApart_25 rfl ?_
          refine z_icmp_geN (a := d) (b := d) 65 (by omega) (by omega) dX1_isApart_26 (by decide) (fun c_22 => ?_) (fun c_22 => absurd c_22 (by omega))
          refine z_iload 4 dX1_isApart_65 rfl ?_
          refine z_if_neb 73 dX1_isApart_67 (by decide) (fun c_23 => ?_) (fun c_23 => ?_)
          · -- s_mayA (vs (5 * d + 16)) ap (i_5) d = true
            refine z_aload_n 0 dX1_isApart_73 rfl ?_
            refine cz_get (v := .ref (A 14)) 14 hA (by decide) q341 rfl dX1_isApart_74 ?_
            refine z_iload_n 1 dX1_isApart_77 rfl ?_
            refine z_iload_n 3 dX1_isApart_78 rfl ?_
            refine cz_iast (K' := (cput (cput (zs (s_ra K (zs1 r_10 d (nI (i_5)))) 99 8 o) 300 σ ds (nI (now % 12)) (nI (now / 12))) 310 τ es dt2 yr2)) 14 d hA (by unfold cia; omega) rfl (by have h9 : csz 14 = 6 := rfl; omega) (by rw [cput_zo (by omega), cput_zo (by omega), zs_cm (by omega), s_ra_z]) dX1_isApart_79 ?_
            refine z_aload_n 0 dX1_isApart_80 rfl ?_
            refine z_iload_n 1 dX1_isApart_81 rfl ?_
            refine z_iconst (v := 1) dX1_isApart_82 (by decide) ?_
            refine z_iaddN (a := d) (b := 1) dX1_isApart_83 ?_
            refine z_iload_n 2 dX1_isApart_84 rfl ?_
            refine z_callV (As := [.int (nI (d + 1)), .int (nI (m))]) (c_isApart_4 (K := K) (f := (zs1 r_10 d (nI (i_5)))) (F := F) (gl := gl) (σ := σ) (ds := ds) (τ := τ) (es := es) (dt2 := dt2) (yr2 := yr2) (o := o) hA hO hV hv hnow hiv (d + 1) (by omega) m hm (ap := zs1 ap d (nI (i_5))) (s_rp_1 hi_11)) q1378 q1380 qs44 q112 q1381 nm_X1_isApart (cX_obj hA) rfl rfl rfl (Nat.le_of_ble_eq_true rfl) ⟨Nat.le_of_ble_eq_true rfl, Nat.le_of_ble_eq_true rfl⟩ dX1_isApart_85 rfl rfl (Nat.le_of_ble_eq_true rfl) (Nat.le_of_ble_eq_true rfl) (fun v_26 X_27 hp_28 => ?_)
            obtain ⟨rfl, r_24, rfl, hap_25⟩ := hp_28
            refine z_st (st' := [.int (zb (s_apt vs m nd 4 (zs1 ap d (nI (i_5)))))]) rfl ?_
            refine z_if_eqb 93 dX1_isApart_88 (by decide) (fun c_29 => ?_) (fun c_29 => ?_)
            · -- s_apt vs m nd 4 (zs1 ap d (nI (i_5))) = false
              refine z_iinc (v := nI (i_5 + 1)) (lv' := [(3, .int (nI (i_5 + 1))), (0, .ref (A 99)), (1, .int (nI (d))), (2, .int (nI (m))), (4, .int (zb (s_mayA (vs (5 * d + 16)) ap (i_5) d))), (5, .int (nI (d)))]) 3 dX1_isApart_93 rfl (nI_1 _) (by decide) rfl ?_
              refine z_goto 12 dX1_isApart_96 (by decide) ?_
              refine z_lv (lv' := [(0, .ref (A 99)), (1, .int (nI (d))), (2, .int (nI (m))), (3, .int (nI (i_5 + 1)))]) [1, 2, 3, 0] rfl ?_
              exact ih_7 (i_5 + 1) (by omega) (by omega) _ (s_rp_2 hap_25) (by show (s_ex _ _ || (s_mayA _ _ _ _ && s_apt _ _ _ _ _)) = false; rw [hi_12, c_29, Bool.and_false]; rfl)
            · -- s_apt vs m nd 4 (zs1 ap d (nI (i_5))) = true
              refine z_iconst (v := 1) dX1_isApart_91 (by decide) ?_
              exact z_zret dX1_isApart_92 rfl (by first | rfl | decide | exact zb_nar _) (Nat.le_of_ble_eq_true rfl) (Nat.le_of_ble_eq_true rfl) ⟨congrArg some (congrArg Value.int (by show _ = zb (s_apt vs m nd (4 + 1) ap); rw [s_apt_1 (r := 4), show nd - (4 + 1) = d by omega]; exact (zb_t (s_ex_of (k := i_5) (by show (s_mayA _ _ _ _ && s_apt _ _ _ _ _) = true; rw [c_23, c_29]; rfl) (by omega))).symm)), r_24, rfl, (s_rp_2 hap_25)⟩
          · -- s_mayA (vs (5 * d + 16)) ap (i_5) d = false
            refine z_goto 93 dX1_isApart_70 (by decide) ?_
            refine z_iinc (v := nI (i_5 + 1)) (lv' := [(3, .int (nI (i_5 + 1))), (0, .ref (A 99)), (1, .int (nI (d))), (2, .int (nI (m))), (4, .int (zb (s_mayA (vs (5 * d + 16)) ap (i_5) d))), (5, .int (nI (d)))]) 3 dX1_isApart_93 rfl (nI_1 _) (by decide) rfl ?_
            refine z_goto 12 dX1_isApart_96 (by decide) ?_
            refine z_lv (lv' := [(0, .ref (A 99)), (1, .int (nI (d))), (2, .int (nI (m))), (3, .int (nI (i_5 + 1)))]) [1, 2, 3, 0] rfl ?_
            exact ih_7 (i_5 + 1) (by omega) (by omega) _ hi_11 (by show (s_ex _ _ || (s_mayA _ _ _ _ && s_apt _ _ _ _ _)) = false; rw [hi_12, c_23, Bool.false_and]; rfl)
        | succ q_17 ih_18 =>
          intro i_16 hb_19 lo_21  
          refine z_iload 5 dX1_isApart_23 rfl ?_
          refine z_iload_n 1 dX1_isApart_25 rfl ?_
          refine z_icmp_geN (a := i_16) (b := d) 65 (by omega) (by omega) dX1_isApart_26 (by decide) (fun c_30 => absurd c_30 (by omega)) (fun c_30 => ?_)
          refine z_aload_n 0 dX1_isApart_29 rfl ?_
          refine cz_get (v := .ref (A 14)) 14 hA (by decide) q341 rfl dX1_isApart_30 ?_
          refine z_iload 5 dX1_isApart_33 rfl ?_
          refine cz_iald (v := (s_ra K r_10) 14 i_16) 14 i_16 hA (by unfold cia; omega) rfl (by have h9 : csz 14 = 6 := rfl; omega) rfl dX1_isApart_35 ?_
          refine z_eq (y := ap i_16) (s_ra_r.trans (hi_11 i_16 (by omega))) ?_
          refine z_iload_n 3 dX1_isApart_36 rfl ?_
          refine z_icmp_ne 59 dX1_isApart_37 (by decide) (fun c_31 => ?_) (fun c_31 => ?_)
          · -- ¬ ap i_16 = nI (i_5)
            refine z_iinc (v := nI (i_16 + 1)) (lv' := [(5, .int (nI (i_16 + 1))), (0, .ref (A 99)), (1, .int (nI (d))), (2, .int (nI (m))), (3, .int (nI (i_5))), (4, .int (zb (s_mayA (vs (5 * d + 16)) ap (i_5) i_16)))]) 5 dX1_isApart_59 rfl (nI_1 _) (by decide) rfl ?_
            refine z_goto 23 dX1_isApart_62 (by decide) ?_
            have f_32 : zb (s_mayA (vs (5 * d + 16)) ap (i_5) i_16) = zb (s_mayA (vs (5 * d + 16)) ap (i_5) (i_16 + 1)) := by simp [s_mayA, zb, c_4, c_15, c_30, c_31]
            refine z_lv (lv' := [(0, .ref (A 99)), (1, .int (nI (d))), (2, .int (nI (m))), (3, .int (nI (i_5))), (4, .int (zb (s_mayA (vs (5 * d + 16)) ap (i_5) (i_16 + 1)))), (5, .int (nI (i_16 + 1)))]) [1, 2, 3, 4, 5, 0] (by rw [← f_32]; rfl) ?_
            exact ih_18 (i_16 + 1) (by omega) (by omega)  
          · -- ap i_16 = nI (i_5)
            refine z_aload_n 0 dX1_isApart_40 rfl ?_
            refine z_iload_n 1 dX1_isApart_41 rfl ?_
            obtain ⟨a_33, m_34, k_37, he_35, hk_38, hkv_39, ha_36⟩ := hgs d (by omega)
            refine z_callV (As := [.int (nI (d))]) (c_guest (K := (cput (cput (zs (s_ra K r_10) 99 8 o) 300 σ ds (nI (now % 12)) (nI (now / 12))) 310 τ es dt2 yr2)) (F := F) (gl := gl) hA hO hxv hlh heh hch1 hch2 hlg heg hcg1 hcg2 d (by omega) hk_38 he_35 ha_36) q1143 q1145 qs31 q112 q1146 nm_X1_guest (cX_obj hA) rfl rfl rfl (Nat.le_of_ble_eq_true rfl) ⟨Nat.le_of_ble_eq_true rfl, Nat.le_of_ble_eq_true rfl⟩ dX1_isApart_42 rfl rfl (Nat.le_of_ble_eq_true rfl) (Nat.le_of_ble_eq_true rfl) (fun v_40 X_41 hp_42 => ?_)
            obtain ⟨rfl, rfl⟩ := hp_42
            refine z_st (st' := [.ref a_33]) rfl ?_
            refine z_getG (v := .int (vs (5 * d + 16))) 4 (cX_lo hA ha_36) hk_38 (by decide) q929 rfl dX1_isApart_45 ?_
            refine z_iload 5 dX1_isApart_48 rfl ?_
            refine z_callS (As := [.int (vs (5 * d + 16)), .int (nI (i_16))]) (c_isIn (vs (5 * d + 16)) i_16) q1241 q903 q112 q904 nm_X1_isIn rfl (Nat.le_of_ble_eq_true rfl) ⟨Nat.le_of_ble_eq_true rfl, Nat.le_of_ble_eq_true rfl⟩ dX1_isApart_50 rfl rfl (Nat.le_of_ble_eq_true rfl) (Nat.le_of_ble_eq_true rfl) (fun v_43 X_44 hp_45 => ?_)
            obtain ⟨rfl, rfl⟩ := hp_45
            refine z_st (st' := [.int (zb (s_isBit (vs (5 * d + 16)) i_16))]) rfl ?_
            refine z_if_eqb 59 dX1_isApart_53 (by decide) (fun c_46 => ?_) (fun c_46 => ?_)
            · -- s_isBit (vs (5 * d + 16)) i_16 = false
              refine z_iinc (v := nI (i_16 + 1)) (lv' := [(5, .int (nI (i_16 + 1))), (0, .ref (A 99)), (1, .int (nI (d))), (2, .int (nI (m))), (3, .int (nI (i_5))), (4, .int (zb (s_mayA (vs (5 * d + 16)) ap (i_5) i_16)))]) 5 dX1_isApart_59 rfl (nI_1 _) (by decide) rfl ?_
              refine z_goto 23 dX1_isApart_62 (by decide) ?_
              have f_47 : zb (s_mayA (vs (5 * d + 16)) ap (i_5) i_16) = zb (s_mayA (vs (5 * d + 16)) ap (i_5) (i_16 + 1)) := by simp [s_mayA, zb, c_4, c_15, c_30, c_31, c_46]
              refine z_lv (lv' := [(0, .ref (A 99)), (1, .int (nI (d))), (2, .int (nI (m))), (3, .int (nI (i_5))), (4, .int (zb (s_mayA (vs (5 * d + 16)) ap (i_5) (i_16 + 1)))), (5, .int (nI (i_16 + 1)))]) [1, 2, 3, 4, 5, 0] (by rw [← f_47]; rfl) ?_
              exact ih_18 (i_16 + 1) (by omega) (by omega)  
            · -- s_isBit (vs (5 * d + 16)) i_16 = true
              refine z_iconst (v := 0) dX1_isApart_56 (by decide) ?_
              refine z_istore (lv' := [(4, .int 0), (0, .ref (A 99)), (1, .int (nI (d))), (2, .int (nI (m))), (3, .int (nI (i_5))), (5, .int (nI (i_16)))]) dX1_isApart_57 (by decide) rfl ?_
              refine z_iinc (v := nI (i_16 + 1)) (lv' := [(5, .int (nI (i_16 + 1))), (4, .int 0), (0, .ref (A 99)), (1, .int (nI (d))), (2, .int (nI (m))), (3, .int (nI (i_5)))]) 5 dX1_isApart_59 rfl (nI_1 _) (by decide) rfl ?_
              refine z_goto 23 dX1_isApart_62 (by decide) ?_
              have f_48 : 0 = zb (s_mayA (vs (5 * d + 16)) ap (i_5) (i_16 + 1)) := by simp [s_mayA, zb, c_4, c_15, c_30, c_31, c_46]
              refine z_lv (lv' := [(0, .ref (A 99)), (1, .int (nI (d))), (2, .int (nI (m))), (3, .int (nI (i_5))), (4, .int (zb (s_mayA (vs (5 * d + 16)) ap (i_5) (i_16 + 1)))), (5, .int (nI (i_16 + 1)))]) [2, 3, 4, 5, 1, 0] (by rw [← f_48]; rfl) ?_
              exact ih_18 (i_16 + 1) (by omega) (by omega)  
      have f_49 : 1 = zb (s_mayA (vs (5 * d + 16)) ap (i_5) 0) := by rfl
      refine z_lv (lv' := [(0, .ref (A 99)), (1, .int (nI (d))), (2, .int (nI (m))), (3, .int (nI (i_5))), (4, .int (zb (s_mayA (vs (5 * d + 16)) ap (i_5) 0))), (5, .int 0)]) [2, 3, 4, 5, 1, 0] (by rw [← f_49]; rfl) ?_
      exact loop_20 (d - 0) 0 (by omega) (Nat.le_refl _)  
  refine z_lv (lv' := [(0, .ref (A 99)), (1, .int (nI (d))), (2, .int (nI (m))), (3, .int 0)]) [1, 2, 3, 0] rfl ?_
  exact loop_9 (m - 0) 0 (by omega) (Nat.le_refl _) _ hap rfl
set_option maxHeartbeats 4000000 in
theorem c_isApart_6 {g : zG} {A : Nat → Nat} {K : Nat → Nat → Int32} {F : Nat → Int32} {O : Nat → Nat → Option Nat} {gl : Int64} {X : zX} (hA : cok g A X) {v : Nat} (hO : O 0 0 = some v) {vs : Nat → Int32} {nh nd : Nat} {own : Nat → Nat} {wv : Int32 → Int32 → Int32 → Int32 → Int32} (hV : s_ok vs nh nd own) (hv : cvl g X v vs nh nd wv) {σ ds τ es : Nat → Int32} {dt2 yr2 o : Int32} {now : Nat} (hnow : now < 2 ^ 28) (hiv : s_iv σ nd) {f : Nat → Int32} (d : Nat) (hd : d + 6 = nd) (m : Nat) (hm : m < 2 ^ 30) {ap : Nat → Int32} (hap : ∀ o, o < d → f o = ap o) : zN g m_X1_isApart ({ frames := 9, cells := 0, slots := 0, locals := 210 } : Room) [.ref (A 99), .int (nI (d)), .int (nI (m))] (cX g A (cput (cput (zs (s_ra K f) 99 8 o) 300 σ ds (nI (now % 12)) (nI (now / 12))) 310 τ es dt2 yr2) F O gl X) (fun rv X' => rv = some (.int (zb (s_apt vs m nd 6 ap))) ∧ ∃ f' : Nat → Int32, X' = (cX g A (cput (cput (zs (s_ra K f') 99 8 o) 300 σ ds (nI (now % 12)) (nI (now / 12))) 310 τ es dt2 yr2) F O gl X) ∧ ∀ o, o < d → f' o = ap o) := by
  refine zN.of (by decide +kernel) (Nat.le_of_ble_eq_true rfl) rfl ?_
  refine z_lv (lv' := [(0, .ref (A 99)), (1, .int (nI (d))), (2, .int (nI (m)))]) [0, 1, 2] rfl ?_
  have hA2 := hA.2.2.1
  have hV9 := hV
  have hv9 := hv
  obtain ⟨h0, hnh, h1, hnd, hown⟩ := hV9
  obtain ⟨lh, lg, fh, fg, st9, fa, hxv, ⟨mh, eh, ch, hlh, heh, hch1, hch2⟩, ⟨mg, eg, cg, hlg, heg, hcg1, hcg2⟩, hhs, hgs, hst9, hfa⟩ := hv9
  refine z_iload_n 1 dX1_isApart_0 rfl ?_
  refine z_aload_n 0 dX1_isApart_1 rfl ?_
  refine z_callV (As := []) (c_guests (K := (cput (cput (zs (s_ra K f) 99 8 o) 300 σ ds (nI (now % 12)) (nI (now / 12))) 310 τ es dt2 yr2)) (F := F) (gl := gl) hA hO hxv hlh heh hch1 hch2 hlg heg hcg1 hcg2) q1139 q1141 qs30 q112 q1142 nm_X1_guests (cX_obj hA) rfl rfl rfl (Nat.le_of_ble_eq_true rfl) ⟨Nat.le_of_ble_eq_true rfl, Nat.le_of_ble_eq_true rfl⟩ dX1_isApart_2 rfl rfl (Nat.le_of_ble_eq_true rfl) (Nat.le_of_ble_eq_true rfl) (fun v_1 X_2 hp_3 => ?_)
  obtain ⟨rfl, rfl⟩ := hp_3
  refine z_st (st' := [.int (nI (nd)), .int (nI (d))]) rfl ?_
  refine z_icmp_neN (a := d) (b := nd) 10 (by omega) (by omega) dX1_isApart_5 (by decide) (fun c_4 => ?_) (fun c_4 => absurd c_4 ((by omega)))
  refine z_iconst (v := 0) dX1_isApart_10 (by decide) ?_
  refine z_istore_n (lv' := [(3, .int 0), (0, .ref (A 99)), (1, .int (nI (d))), (2, .int (nI (m)))]) dX1_isApart_11 rfl (by decide) rfl ?_
  have loop_9 : ∀ (q_6 i_5 : Nat), i_5 + q_6 = m → 0 ≤ i_5 → ∀ (r_10 : Nat → Int32), (∀ o, o < d → r_10 o = ap o) → s_ex (fun h => s_mayA (vs (5 * d + 16)) ap h d && s_apt vs m nd 5 (zs1 ap d (nI h))) i_5 = false → zZ g m_X1_isApart (fun rv X' => rv = some (.int (zb (s_apt vs m nd 6 ap))) ∧ ∃ f' : Nat → Int32, X' = (cX g A (cput (cput (zs (s_ra K f') 99 8 o) 300 σ ds (nI (now % 12)) (nI (now / 12))) 310 τ es dt2 yr2) F O gl X) ∧ ∀ o, o < d → f' o = ap o, zno, ({ frames := 9, cells := 0, slots := 0, locals := 210 } : Room)) 0 0 (cX g A (cput (cput (zs (s_ra K r_10) 99 8 o) 300 σ ds (nI (now % 12)) (nI (now / 12))) 310 τ es dt2 yr2) F O gl X) 12 [(0, .ref (A 99)), (1, .int (nI (d))), (2, .int (nI (m))), (3, .int (nI (i_5)))] [] := by
    intro q_6
    induction q_6 with
    | zero =>
      intro i_5 hb_8 lo_13 r_10 hi_11 hi_12
      obtain rfl : m = i_5 := by omega
      refine z_iload_n 3 dX1_isApart_12 rfl ?_
      refine z_iload_n 2 dX1_isApart_13 rfl ?_
      refine z_icmp_geN (a := m) (b := m) 99 (by omega) (by omega) dX1_isApart_14 (by decide) (fun c_14 => ?_) (fun c_14 => absurd c_14 (by omega))
      refine z_iconst (v := 0) dX1_isApart_99 (by decide) ?_
      exact z_zret dX1_isApart_100 rfl (by first | rfl | decide | exact zb_nar _) (Nat.le_of_ble_eq_true rfl) (Nat.le_of_ble_eq_true rfl) ⟨congrArg some (congrArg Value.int (by show _ = zb (s_apt vs m nd (5 + 1) ap); rw [s_apt_1 (r := 5), show nd - (5 + 1) = d by omega]; exact (zb_f hi_12).symm)), r_10, rfl, hi_11⟩
    | succ q_6 ih_7 =>
      intro i_5 hb_8 lo_13 r_10 hi_11 hi_12
      refine z_iload_n 3 dX1_isApart_12 rfl ?_
      refine z_iload_n 2 dX1_isApart_13 rfl ?_
      refine z_icmp_geN (a := i_5) (b := m) 99 (by omega) (by omega) dX1_isApart_14 (by decide) (fun c_15 => absurd c_15 (by omega)) (fun c_15 => ?_)
      refine z_iconst (v := 1) dX1_isApart_17 (by decide) ?_
      refine z_istore (lv' := [(4, .int 1), (0, .ref (A 99)), (1, .int (nI (d))), (2, .int (nI (m))), (3, .int (nI (i_5)))]) dX1_isApart_18 (by decide) rfl ?_
      refine z_iconst (v := 0) dX1_isApart_20 (by decide) ?_
      refine z_istore (lv' := [(5, .int 0), (4, .int 1), (0, .ref (A 99)), (1, .int (nI (d))), (2, .int (nI (m))), (3, .int (nI (i_5)))]) dX1_isApart_21 (by decide) rfl ?_
      have loop_20 : ∀ (q_17 i_16 : Nat), i_16 + q_17 = d → 0 ≤ i_16 → zZ g m_X1_isApart (fun rv X' => rv = some (.int (zb (s_apt vs m nd 6 ap))) ∧ ∃ f' : Nat → Int32, X' = (cX g A (cput (cput (zs (s_ra K f') 99 8 o) 300 σ ds (nI (now % 12)) (nI (now / 12))) 310 τ es dt2 yr2) F O gl X) ∧ ∀ o, o < d → f' o = ap o, zno, ({ frames := 9, cells := 0, slots := 0, locals := 210 } : Room)) 0 0 (cX g A (cput (cput (zs (s_ra K r_10) 99 8 o) 300 σ ds (nI (now % 12)) (nI (now / 12))) 310 τ es dt2 yr2) F O gl X) 23 [(0, .ref (A 99)), (1, .int (nI (d))), (2, .int (nI (m))), (3, .int (nI (i_5))), (4, .int (zb (s_mayA (vs (5 * d + 16)) ap (i_5) i_16))), (5, .int (nI (i_16)))] [] := by
        intro q_17
        induction q_17 with
        | zero =>
          intro i_16 hb_19 lo_21  
          obtain rfl : d = i_16 := by omega
          refine z_iload 5 dX1_isApart_23 rfl ?_
          refine z_iload_n 1 dX1_isApart_25 rfl ?_
          refine z_icmp_geN (a := d) (b := d) 65 (by omega) (by omega) dX1_isApart_26 (by decide) (fun c_22 => ?_) (fun c_22 => absurd c_22 (by omega))
          refine z_iload 4 dX1_isApart_65 rfl ?_
          refine z_if_neb 73 dX1_isApart_67 (by decide) (fun c_23 => ?_) (fun c_23 => ?_)
          · -- s_mayA (vs (5 * d + 16)) ap (i_5) d = true
            refine z_aload_n 0 dX1_isApart_73 rfl ?_
            refine cz_get (v := .ref (A 14)) 14 hA (by decide) q341 rfl dX1_isApart_74 ?_
            refine z_iload_n 1 dX1_isApart_77 rfl ?_
            refine z_iload_n 3 dX1_isApart_78 rfl ?_
            refine cz_iast (K' := (cput (cput (zs (s_ra K (zs1 r_10 d (nI (i_5)))) 99 8 o) 300 σ ds (nI (now % 12)) (nI (now / 12))) 310 τ es dt2 yr2)) 14 d hA (by unfold cia; omega) rfl (by have h9 : csz 14 = 6 := rfl; omega) (by rw [cput_zo (by omega), cput_zo (by omega), zs_cm (by omega), s_ra_z]) dX1_isApart_79 ?_
            refine z_aload_n 0 dX1_isApart_80 rfl ?_
            refine z_iload_n 1 dX1_isApart_81 rfl ?_
            refine z_iconst (v := 1) dX1_isApart_82 (by decide) ?_
            refine z_iaddN (a := d) (b := 1) dX1_isApart_83 ?_
            refine z_iload_n 2 dX1_isApart_84 rfl ?_
            refine z_callV (As := [.int (nI (d + 1)), .int (nI (m))]) (c_isApart_5 (K := K) (f := (zs1 r_10 d (nI (i_5)))) (F := F) (gl := gl) (σ := σ) (ds := ds) (τ := τ) (es := es) (dt2 := dt2) (yr2 := yr2) (o := o) hA hO hV hv hnow hiv (d + 1) (by omega) m hm (ap := zs1 ap d (nI (i_5))) (s_rp_1 hi_11)) q1378 q1380 qs44 q112 q1381 nm_X1_isApart (cX_obj hA) rfl rfl rfl (Nat.le_of_ble_eq_true rfl) ⟨Nat.le_of_ble_eq_true rfl, Nat.le_of_ble_eq_true rfl⟩ dX1_isApart_85 rfl rfl (Nat.le_of_ble_eq_true rfl) (Nat.le_of_ble_eq_true rfl) (fun v_26 X_27 hp_28 => ?_)
            obtain ⟨rfl, r_24, rfl, hap_25⟩ := hp_28
            refine z_st (st' := [.int (zb (s_apt vs m nd 5 (zs1 ap d (nI (i_5)))))]) rfl ?_
            refine z_if_eqb 93 dX1_isApart_88 (by decide) (fun c_29 => ?_) (fun c_29 => ?_)
            · -- s_apt vs m nd 5 (zs1 ap d (nI (i_5))) = false
              refine z_iinc (v := nI (i_5 + 1)) (lv' := [(3, .int (nI (i_5 + 1))), (0, .ref (A 99)), (1, .int (nI (d))), (2, .int (nI (m))), (4, .int (zb (s_mayA (vs (5 * d + 16)) ap (i_5) d))), (5, .int (nI (d)))]) 3 dX1_isApart_93 rfl (nI_1 _) (by decide) rfl ?_
              refine z_goto 12 dX1_isApart_96 (by decide) ?_
              refine z_lv (lv' := [(0, .ref (A 99)), (1, .int (nI (d))), (2, .int (nI (m))), (3, .int (nI (i_5 + 1)))]) [1, 2, 3, 0] rfl ?_
              exact ih_7 (i_5 + 1) (by omega) (by omega) _ (s_rp_2 hap_25) (by show (s_ex _ _ || (s_mayA _ _ _ _ && s_apt _ _ _ _ _)) = false; rw [hi_12, c_29, Bool.and_false]; rfl)
            · -- s_apt vs m nd 5 (zs1 ap d (nI (i_5))) = true
              refine z_iconst (v := 1) dX1_isApart_91 (by decide) ?_
              exact z_zret dX1_isApart_92 rfl (by first | rfl | decide | exact zb_nar _) (Nat.le_of_ble_eq_true rfl) (Nat.le_of_ble_eq_true rfl) ⟨congrArg some (congrArg Value.int (by show _ = zb (s_apt vs m nd (5 + 1) ap); rw [s_apt_1 (r := 5), show nd - (5 + 1) = d by omega]; exact (zb_t (s_ex_of (k := i_5) (by show (s_mayA _ _ _ _ && s_apt _ _ _ _ _) = true; rw [c_23, c_29]; rfl) (by omega))).symm)), r_24, rfl, (s_rp_2 hap_25)⟩
          · -- s_mayA (vs (5 * d + 16)) ap (i_5) d = false
            refine z_goto 93 dX1_isApart_70 (by decide) ?_
            refine z_iinc (v := nI (i_5 + 1)) (lv' := [(3, .int (nI (i_5 + 1))), (0, .ref (A 99)), (1, .int (nI (d))), (2, .int (nI (m))), (4, .int (zb (s_mayA (vs (5 * d + 16)) ap (i_5) d))), (5, .int (nI (d)))]) 3 dX1_isApart_93 rfl (nI_1 _) (by decide) rfl ?_
            refine z_goto 12 dX1_isApart_96 (by decide) ?_
            refine z_lv (lv' := [(0, .ref (A 99)), (1, .int (nI (d))), (2, .int (nI (m))), (3, .int (nI (i_5 + 1)))]) [1, 2, 3, 0] rfl ?_
            exact ih_7 (i_5 + 1) (by omega) (by omega) _ hi_11 (by show (s_ex _ _ || (s_mayA _ _ _ _ && s_apt _ _ _ _ _)) = false; rw [hi_12, c_23, Bool.false_and]; rfl)
        | succ q_17 ih_18 =>
          intro i_16 hb_19 lo_21  
          refine z_iload 5 dX1_isApart_23 rfl ?_
          refine z_iload_n 1 dX1_isApart_25 rfl ?_
          refine z_icmp_geN (a := i_16) (b := d) 65 (by omega) (by omega) dX1_isApart_26 (by decide) (fun c_30 => absurd c_30 (by omega)) (fun c_30 => ?_)
          refine z_aload_n 0 dX1_isApart_29 rfl ?_
          refine cz_get (v := .ref (A 14)) 14 hA (by decide) q341 rfl dX1_isApart_30 ?_
          refine z_iload 5 dX1_isApart_33 rfl ?_
          refine cz_iald (v := (s_ra K r_10) 14 i_16) 14 i_16 hA (by unfold cia; omega) rfl (by have h9 : csz 14 = 6 := rfl; omega) rfl dX1_isApart_35 ?_
          refine z_eq (y := ap i_16) (s_ra_r.trans (hi_11 i_16 (by omega))) ?_
          refine z_iload_n 3 dX1_isApart_36 rfl ?_
          refine z_icmp_ne 59 dX1_isApart_37 (by decide) (fun c_31 => ?_) (fun c_31 => ?_)
          · -- ¬ ap i_16 = nI (i_5)
            refine z_iinc (v := nI (i_16 + 1)) (lv' := [(5, .int (nI (i_16 + 1))), (0, .ref (A 99)), (1, .int (nI (d))), (2, .int (nI (m))), (3, .int (nI (i_5))), (4, .int (zb (s_mayA (vs (5 * d + 16)) ap (i_5) i_16)))]) 5 dX1_isApart_59 rfl (nI_1 _) (by decide) rfl ?_
            refine z_goto 23 dX1_isApart_62 (by decide) ?_
            have f_32 : zb (s_mayA (vs (5 * d + 16)) ap (i_5) i_16) = zb (s_mayA (vs (5 * d + 16)) ap (i_5) (i_16 + 1)) := by simp [s_mayA, zb, c_4, c_15, c_30, c_31]
            refine z_lv (lv' := [(0, .ref (A 99)), (1, .int (nI (d))), (2, .int (nI (m))), (3, .int (nI (i_5))), (4, .int (zb (s_mayA (vs (5 * d + 16)) ap (i_5) (i_16 + 1)))), (5, .int (nI (i_16 + 1)))]) [1, 2, 3, 4, 5, 0] (by rw [← f_32]; rfl) ?_
            exact ih_18 (i_16 + 1) (by omega) (by omega)  
          · -- ap i_16 = nI (i_5)
            refine z_aload_n 0 dX1_isApart_40 rfl ?_
            refine z_iload_n 1 dX1_isApart_41 rfl ?_
            obtain ⟨a_33, m_34, k_37, he_35, hk_38, hkv_39, ha_36⟩ := hgs d (by omega)
            refine z_callV (As := [.int (nI (d))]) (c_guest (K := (cput (cput (zs (s_ra K r_10) 99 8 o) 300 σ ds (nI (now % 12)) (nI (now / 12))) 310 τ es dt2 yr2)) (F := F) (gl := gl) hA hO hxv hlh heh hch1 hch2 hlg heg hcg1 hcg2 d (by omega) hk_38 he_35 ha_36) q1143 q1145 qs31 q112 q1146 nm_X1_guest (cX_obj hA) rfl rfl rfl (Nat.le_of_ble_eq_true rfl) ⟨Nat.le_of_ble_eq_true rfl, Nat.le_of_ble_eq_true rfl⟩ dX1_isApart_42 rfl rfl (Nat.le_of_ble_eq_true rfl) (Nat.le_of_ble_eq_true rfl) (fun v_40 X_41 hp_42 => ?_)
            obtain ⟨rfl, rfl⟩ := hp_42
            refine z_st (st' := [.ref a_33]) rfl ?_
            refine z_getG (v := .int (vs (5 * d + 16))) 4 (cX_lo hA ha_36) hk_38 (by decide) q929 rfl dX1_isApart_45 ?_
            refine z_iload 5 dX1_isApart_48 rfl ?_
            refine z_callS (As := [.int (vs (5 * d + 16)), .int (nI (i_16))]) (c_isIn (vs (5 * d + 16)) i_16) q1241 q903 q112 q904 nm_X1_isIn rfl (Nat.le_of_ble_eq_true rfl) ⟨Nat.le_of_ble_eq_true rfl, Nat.le_of_ble_eq_true rfl⟩ dX1_isApart_50 rfl rfl (Nat.le_of_ble_eq_true rfl) (Nat.le_of_ble_eq_true rfl) (fun v_43 X_44 hp_45 => ?_)
            obtain ⟨rfl, rfl⟩ := hp_45
            refine z_st (st' := [.int (zb (s_isBit (vs (5 * d + 16)) i_16))]) rfl ?_
            refine z_if_eqb 59 dX1_isApart_53 (by decide) (fun c_46 => ?_) (fun c_46 => ?_)
            · -- s_isBit (vs (5 * d + 16)) i_16 = false
              refine z_iinc (v := nI (i_16 + 1)) (lv' := [(5, .int (nI (i_16 + 1))), (0, .ref (A 99)), (1, .int (nI (d))), (2, .int (nI (m))), (3, .int (nI (i_5))), (4, .int (zb (s_mayA (vs (5 * d + 16)) ap (i_5) i_16)))]) 5 dX1_isApart_59 rfl (nI_1 _) (by decide) rfl ?_
              refine z_goto 23 dX1_isApart_62 (by decide) ?_
              have f_47 : zb (s_mayA (vs (5 * d + 16)) ap (i_5) i_16) = zb (s_mayA (vs (5 * d + 16)) ap (i_5) (i_16 + 1)) := by simp [s_mayA, zb, c_4, c_15, c_30, c_31, c_46]
              refine z_lv (lv' := [(0, .ref (A 99)), (1, .int (nI (d))), (2, .int (nI (m))), (3, .int (nI (i_5))), (4, .int (zb (s_mayA (vs (5 * d + 16)) ap (i_5) (i_16 + 1)))), (5, .int (nI (i_16 + 1)))]) [1, 2, 3, 4, 5, 0] (by rw [← f_47]; rfl) ?_
              exact ih_18 (i_16 + 1) (by omega) (by omega)  
            · -- s_isBit (vs (5 * d + 16)) i_16 = true
              refine z_iconst (v := 0) dX1_isApart_56 (by decide) ?_
              refine z_istore (lv' := [(4, .int 0), (0, .ref (A 99)), (1, .int (nI (d))), (2, .int (nI (m))), (3, .int (nI (i_5))), (5, .int (nI (i_16)))]) dX1_isApart_57 (by decide) rfl ?_
              refine z_iinc (v := nI (i_16 + 1)) (lv' := [(5, .int (nI (i_16 + 1))), (4, .int 0), (0, .ref (A 99)), (1, .int (nI (d))), (2, .int (nI (m))), (3, .int (nI (i_5)))]) 5 dX1_isApart_59 rfl (nI_1 _) (by decide) rfl ?_
              refine z_goto 23 dX1_isApart_62 (by decide) ?_
              have f_48 : 0 = zb (s_mayA (vs (5 * d + 16)) ap (i_5) (i_16 + 1)) := by simp [s_mayA, zb, c_4, c_15, c_30, c_31, c_46]
              refine z_lv (lv' := [(0, .ref (A 99)), (1, .int (nI (d))), (2, .int (nI (m))), (3, .int (nI (i_5))), (4, .int (zb (s_mayA (vs (5 * d + 16)) ap (i_5) (i_16 + 1)))), (5, .int (nI (i_16 + 1)))]) [2, 3, 4, 5, 1, 0] (by rw [← f_48]; rfl) ?_
              exact ih_18 (i_16 + 1) (by omega) (by omega)  
      have f_49 : 1 = zb (s_mayA (vs (5 * d + 16)) ap (i_5) 0) := by rfl
      refine z_lv (lv' := [(0, .ref (A 99)), (1, .int (nI (d))), (2, .int (nI (m))), (3, .int (nI (i_5))), (4, .int (zb (s_mayA (vs (5 * d + 16)) ap (i_5) 0))), (5, .int 0)]) [2, 3, 4, 5, 1, 0] (by rw [← f_49]; rfl) ?_
      exact loop_20 (d - 0) 0 (by omega) (Nat.le_refl _)  
  refine z_lv (lv' := [(0, .ref (A 99)), (1, .int (nI (d))), (2, .int (nI (m))), (3, .int 0)]) [1, 2, 3, 0] rfl ?_
  exact loop_9 (m - 0) 0 (by omega) (Nat.le_refl _) _ hap rfl
