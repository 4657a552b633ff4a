/-! THE COMPONENT: beds to be built. Printed by t66.py -/
set_option maxRecDepth 100000
theorem c_builds {g : zG} {A : Nat → Nat} {K : Nat → Nat → Int32} {F : Nat → Int32} {O : Nat → Nat → Option Nat} {gl : Int64} {X : zX} (hA : cok g A X) {v : Nat} (hO : O 0 0 = some v) {vs : Nat → Int32} {nh nd : Nat} {own : Nat → Nat} {wv : Int32 → Int32 → Int32 → Int32 → Int32} (hV : s_ok vs nh nd own) (hv : cvl g X v vs nh nd wv) {σ ds τ es : Nat → Int32} {dt2 yr2 o : Int32} {now : Nat} (hnow : now < 2 ^ 28) (hiv : s_iv σ nd) {f h2 : Nat → Int32} {bd : Nat → Nat} (hb : s_ib σ nh bd) (m : Nat) (hm : m < 1000) : zN g m_X1_builds ({ frames := 1008, cells := 0, slots := 0, locals := 40187 } : Room) [.ref (A 99), .int 0, .int 0, .int (nI m)] (cX g A (cput (cput (zs (s_rb K f h2 zm1) 99 8 o) 300 σ ds (nI (now % 12)) (nI (now / 12))) 310 τ es dt2 yr2) F O gl X) (fun rv X' => rv = none ∧ ∃ (f' h2' : Nat → Int32) (v9' o' : Int32) (F' τ' es' : Nat → Int32) (dt' yr' : Int32), X' = cX g A (cput (cput (zs (s_rb K f' h2' v9') 99 8 o') 300 σ ds (nI (now % 12)) (nI (now / 12))) 310 τ' es' dt' yr') F' O gl X ∧ s_br nh (s_bd nh σ (fun τ => decide ((s_go wv vs ds nh nd own now τ m).1 1 = τ 1)) ((0 + 1) * 3 ^ nh)) h2' v9' ∧ ∀ j, j < 0 → f' j = f j) := by
  have hnh := hV.2.1
  have hbr : ∀ q, s_br nh (s_bd nh σ (fun τ => decide ((s_go wv vs ds nh nd own now τ m).1 1 = τ 1)) (0 * 3 ^ q)) h2 zm1 := fun q => by rw [Nat.zero_mul]; exact ⟨fun _ => rfl, fun z => absurd m1neg z⟩
  rcases (by omega : nh = 0 ∨ nh = 1 ∨ nh = 2 ∨ nh = 3 ∨ nh = 4) with rfl | rfl | rfl | rfl | rfl
  · exact zN.room (R := ({ frames := 1004, cells := 0, slots := 0, locals := 40091 } : Room)) (by decide) rfl rfl (by decide) (c_builds_0 hA hO hV hv hnow hiv hb 0 0 0 m (by decide) hm rfl (by decide) (fun j hj => absurd hj (Nat.not_lt_zero j)) (fun j hj => absurd hj (Nat.not_lt_zero j)) (hbr 0))
  · exact zN.room (R := ({ frames := 1005, cells := 0, slots := 0, locals := 40115 } : Room)) (by decide) rfl rfl (by decide) (c_builds_1 hA hO hV hv hnow hiv hb 0 0 0 m (by decide) hm rfl (by decide) (fun j hj => absurd hj (Nat.not_lt_zero j)) (fun j hj => absurd hj (Nat.not_lt_zero j)) (hbr 1))
  · exact zN.room (R := ({ frames := 1006, cells := 0, slots := 0, locals := 40139 } : Room)) (by decide) rfl rfl (by decide) (c_builds_2 hA hO hV hv hnow hiv hb 0 0 0 m (by decide) hm rfl (by decide) (fun j hj => absurd hj (Nat.not_lt_zero j)) (fun j hj => absurd hj (Nat.not_lt_zero j)) (hbr 2))
  · exact zN.room (R := ({ frames := 1007, cells := 0, slots := 0, locals := 40163 } : Room)) (by decide) rfl rfl (by decide) (c_builds_3 hA hO hV hv hnow hiv hb 0 0 0 m (by decide) hm rfl (by decide) (fun j hj => absurd hj (Nat.not_lt_zero j)) (fun j hj => absurd hj (Nat.not_lt_zero j)) (hbr 3))
  · exact zN.room (R := ({ frames := 1008, cells := 0, slots := 0, locals := 40187 } : Room)) (by decide) rfl rfl (by decide) (c_builds_4 hA hO hV hv hnow hiv hb 0 0 0 m (by decide) hm rfl (by decide) (fun j hj => absurd hj (Nat.not_lt_zero j)) (fun j hj => absurd hj (Nat.not_lt_zero j)) (hbr 4))
set_option maxHeartbeats 4000000 in
theorem c_beds {g : zG} {A : Nat → Nat} {K : Nat → Nat → Int32} {F : Nat → Int32} {O : Nat → Nat → Option Nat} {gl : Int64} {X : zX} (hA : cok g A X) {v : Nat} (hO : O 0 0 = some v) {vs : Nat → Int32} {nh nd : Nat} {own : Nat → Nat} {wv : Int32 → Int32 → Int32 → Int32 → Int32} (hV : s_ok vs nh nd own) (hv : cvl g X v vs nh nd wv) {σ ds τ es : Nat → Int32} {dt2 yr2 o : Int32} {now : Nat} (hnow : now < 2 ^ 28) (hiv : s_iv σ nd) {bd : Nat → Nat} (hb : s_ib σ nh bd) (m h : Int32) : zN g m_X1_beds ({ frames := 1009, cells := 0, slots := 0, locals := 40211 } : Room) [.ref (A 99), .int m, .int h] (cX g A (cput (cput (zs K 99 8 o) 300 σ ds (nI (now % 12)) (nI (now / 12))) 310 τ es dt2 yr2) F O gl X) (fun rv X' => rv = some (.int (s_beds nh σ (fun q9 τ => decide ((s_go wv vs ds nh nd own now τ q9).1 1 = τ 1)) m h)) ∧ ∃ (f' h2' : Nat → Int32) (v9' o' : Int32) (F' τ' es' : Nat → Int32) (dt' yr' : Int32), X' = cX g A (cput (cput (zs (s_rb K f' h2' v9') 99 8 o') 300 σ ds (nI (now % 12)) (nI (now / 12))) 310 τ' es' dt' yr') F' O gl X) := by
  refine zN.of (by decide +kernel) (Nat.le_of_ble_eq_true rfl) rfl ?_
  refine z_lv (lv' := [(0, .ref (A 99)), (1, .int m), (2, .int h)]) [0, 1, 2] rfl ?_
  have hA2 := hA.2.2.1
  have hV9 := hV
  have hv9 := hv
  obtain ⟨h0, hnh, h1, hnd, hown⟩ := hV9
  obtain ⟨lh, lg, fh, fg, st9, fa, hxv, ⟨mh, eh, ch, hlh, heh, hch1, hch2⟩, ⟨mg, eg, cg, hlg, heg, hcg1, hcg2⟩, hhs, hgs, hst9, hfa⟩ := hv9
  refine z_iload_n 1 dX1_beds_0 rfl ?_
  refine z_iconst (v := 1) dX1_beds_1 (by decide) ?_
  refine z_bipush (v := 36) dX1_beds_2 (by decide) ?_
  refine z_callS (As := [.int m, .int 1, .int 36]) (c_inn m 1 36) q1132 q1133 q112 q1134 nm_X1_in rfl (Nat.le_of_ble_eq_true rfl) ⟨Nat.le_of_ble_eq_true rfl, Nat.le_of_ble_eq_true rfl⟩ dX1_beds_4 rfl rfl (Nat.le_of_ble_eq_true rfl) (Nat.le_of_ble_eq_true rfl) (fun v_1 X_2 hp_3 => ?_)
  obtain ⟨rfl, rfl⟩ := hp_3
  refine z_st (st' := [.int (zb (decide (1 ≤ m) && decide (m ≤ 36)))]) rfl ?_
  refine z_if_eqb 23 dX1_beds_7 (by decide) (fun c_4 => ?_) (fun c_4 => ?_)
  · -- decide (1 ≤ m) && decide (m ≤ 36) = false
    refine z_bipush (v := zm2) dX1_beds_23 (by decide) ?_
    exact z_iret dX1_beds_25 rfl (Nat.le_of_ble_eq_true rfl) (Nat.le_of_ble_eq_true rfl) ⟨congrArg some (congrArg Value.int (by unfold s_beds; rw [if_neg (by simp [c_4])])), (K 11), (K 12), (K 99 13), o, F, τ, es, dt2, yr2, (by rw [s_rb_self])⟩
  · -- decide (1 ≤ m) && decide (m ≤ 36) = true
    refine z_iload_n 2 dX1_beds_10 rfl ?_
    refine z_iconst (v := zm1) dX1_beds_11 (by decide) ?_
    refine z_icmp_eq 26 dX1_beds_12 (by decide) (fun c_5 => ?_) (fun c_5 => ?_)
    · -- h = zm1
      refine z_X (X' := (cX g A (cput (cput (zs (s_rb K (K 11) (K 12) (K 99 13)) 99 8 o) 300 σ ds (nI (now % 12)) (nI (now / 12))) 310 τ es dt2 yr2) F O gl X)) (by rw [s_rb_self]) ?_
      obtain ⟨mm, hm1, hmm, e_m⟩ := zwin 1 36 (by decide) c_4
      refine z_lv (lv' := [(0, .ref (A 99)), (1, .int (nI (mm))), (2, .int h)]) [0, 1, 2] (by rw [e_m]; rfl) ?_
      refine z_aload_n 0 dX1_beds_26 rfl ?_
      refine z_iconst (v := zm1) dX1_beds_27 (by decide) ?_
      refine cz_put (K' := (cput (cput (zs (s_rb K (K 11) (K 12) zm1) 99 8 o) 300 σ ds (nI (now % 12)) (nI (now / 12))) 310 τ es dt2 yr2)) 13 hA (by decide) q340 (by rw [cput_zo (by omega), cput_zo (by omega), zs_cm (by omega), s_rb_13]) dX1_beds_28 ?_
      refine z_aload_n 0 dX1_beds_31 rfl ?_
      refine z_iconst (v := 0) dX1_beds_32 (by decide) ?_
      refine z_iconst (v := 0) dX1_beds_33 (by decide) ?_
      refine z_iload_n 1 dX1_beds_34 rfl ?_
      refine z_callV (As := [.int 0, .int 0, .int (nI (mm))]) (c_builds (K := K) (f := (K 11)) (h2 := (K 12)) (F := F) (gl := gl) (σ := σ) (ds := ds) (τ := τ) (es := es) (dt2 := dt2) (yr2 := yr2) (o := o) hA hO hV hv hnow hiv hb mm (by omega)) q1353 q1355 qs41 q112 q1356 nm_X1_builds (cX_obj hA) rfl rfl rfl (Nat.le_of_ble_eq_true rfl) ⟨Nat.le_of_ble_eq_true rfl, Nat.le_of_ble_eq_true rfl⟩ dX1_beds_35 rfl rfl (Nat.le_of_ble_eq_true rfl) (Nat.le_of_ble_eq_true rfl) (fun v_15 X_16 hp_17 => ?_)
      obtain ⟨rfl, a_6, b_7, c_8, o_9, F_10, t_11, e_12, d_13, y_14, rfl, hbr, -⟩ := hp_17
      rw [show (0 + 1) * 3 ^ nh = 3 ^ nh by omega] at hbr
      refine z_st (st' := []) rfl ?_
      refine z_aload_n 0 dX1_beds_38 rfl ?_
      refine cz_get (v := .int ((s_rb K a_6 b_7 c_8) 99 13)) 13 hA (by decide) q340 rfl dX1_beds_39 ?_
      refine z_eq (y := c_8) (by rfl) ?_
      refine z_if_ge 50 dX1_beds_42 (by decide) (fun c_18 => ?_) (fun c_18 => ?_)
      · -- 0 ≤ c_8
        have c_18' := Int32.not_lt.mpr c_18
        refine z_iload_n 2 dX1_beds_50 rfl ?_
        refine z_iconst (v := zm1) dX1_beds_51 (by decide) ?_
        refine z_icmp_ne 62 dX1_beds_52 (by decide) (fun c_ => absurd c_5 c_) (fun _ => ?_)
        refine z_aload_n 0 dX1_beds_55 rfl ?_
        refine cz_get (v := .int ((s_rb K a_6 b_7 c_8) 99 13)) 13 hA (by decide) q340 rfl dX1_beds_56 ?_
        refine z_eq (y := c_8) (by rfl) ?_
        refine z_goto 68 dX1_beds_59 (by decide) ?_
        exact z_iret dX1_beds_68 rfl (Nat.le_of_ble_eq_true rfl) (Nat.le_of_ble_eq_true rfl) ⟨congrArg some (congrArg Value.int (by unfold s_beds; rw [if_pos (show ((decide (1 ≤ m) && decide (m ≤ 36)) && (decide (h = zm1) || (decide (0 ≤ h) && decide (h < nI nh)))) = true by simp [c_4, c_5]), e_m, ncl (by omega)]; rw [if_neg (fun z => (Int32.not_lt.mpr c_18) ((s_br_i hnh hbr).mpr z)), if_pos c_5]; exact (hbr.2 (fun z => (Int32.not_lt.mpr c_18) ((s_br_i hnh hbr).mpr z))).1)), a_6, b_7, c_8, o_9, F_10, t_11, e_12, d_13, y_14, rfl⟩
      · -- ¬ 0 ≤ c_8
        have c_18' := Int32.not_le.mp c_18
        refine z_bipush (v := zm2) dX1_beds_45 (by decide) ?_
        refine z_goto 68 dX1_beds_47 (by decide) ?_
        exact z_iret dX1_beds_68 rfl (Nat.le_of_ble_eq_true rfl) (Nat.le_of_ble_eq_true rfl) ⟨congrArg some (congrArg Value.int (by unfold s_beds; rw [if_pos (show ((decide (1 ≤ m) && decide (m ≤ 36)) && (decide (h = zm1) || (decide (0 ≤ h) && decide (h < nI nh)))) = true by simp [c_4, c_5]), e_m, ncl (by omega)]; rw [if_pos ((s_br_i hnh hbr).mp (Int32.not_le.mp c_18))])), a_6, b_7, c_8, o_9, F_10, t_11, e_12, d_13, y_14, rfl⟩
    · -- ¬ h = zm1
      refine z_aload_n 0 dX1_beds_15 rfl ?_
      refine z_iload_n 2 dX1_beds_16 rfl ?_
      refine z_callV (As := [.int h]) (c_isHouse (K := (cput (cput (zs K 99 8 o) 300 σ ds (nI (now % 12)) (nI (now / 12))) 310 τ es dt2 yr2)) (F := F) (gl := gl) hA hO hxv hlh heh hch1 hch2 hlg heg hcg1 hcg2 (by omega) h) q1123 q1125 qs27 q112 q1126 nm_X1_isHouse (cX_obj hA) rfl rfl rfl (Nat.le_of_ble_eq_true rfl) ⟨Nat.le_of_ble_eq_true rfl, Nat.le_of_ble_eq_true rfl⟩ dX1_beds_17 rfl rfl (Nat.le_of_ble_eq_true rfl) (Nat.le_of_ble_eq_true rfl) (fun v_19 X_20 hp_21 => ?_)
      obtain ⟨rfl, rfl⟩ := hp_21
      refine z_st (st' := [.int (zb (decide (0 ≤ h) && decide (h < nI nh)))]) rfl ?_
      refine z_if_neb 26 dX1_beds_20 (by decide) (fun c_22 => ?_) (fun c_22 => ?_)
      · -- decide (0 ≤ h) && decide (h < nI nh) = true
        refine z_X (X' := (cX g A (cput (cput (zs (s_rb K (K 11) (K 12) (K 99 13)) 99 8 o) 300 σ ds (nI (now % 12)) (nI (now / 12))) 310 τ es dt2 yr2) F O gl X)) (by rw [s_rb_self]) ?_
        obtain ⟨mm, hm1, hmm, e_m⟩ := zwin 1 36 (by decide) c_4
        refine z_lv (lv' := [(0, .ref (A 99)), (1, .int (nI (mm))), (2, .int h)]) [0, 1, 2] (by rw [e_m]; rfl) ?_
        refine z_aload_n 0 dX1_beds_26 rfl ?_
        refine z_iconst (v := zm1) dX1_beds_27 (by decide) ?_
        refine cz_put (K' := (cput (cput (zs (s_rb K (K 11) (K 12) zm1) 99 8 o) 300 σ ds (nI (now % 12)) (nI (now / 12))) 310 τ es dt2 yr2)) 13 hA (by decide) q340 (by rw [cput_zo (by omega), cput_zo (by omega), zs_cm (by omega), s_rb_13]) dX1_beds_28 ?_
        refine z_aload_n 0 dX1_beds_31 rfl ?_
        refine z_iconst (v := 0) dX1_beds_32 (by decide) ?_
        refine z_iconst (v := 0) dX1_beds_33 (by decide) ?_
        refine z_iload_n 1 dX1_beds_34 rfl ?_
        refine z_callV (As := [.int 0, .int 0, .int (nI (mm))]) (c_builds (K := K) (f := (K 11)) (h2 := (K 12)) (F := F) (gl := gl) (σ := σ) (ds := ds) (τ := τ) (es := es) (dt2 := dt2) (yr2 := yr2) (o := o) hA hO hV hv hnow hiv hb mm (by omega)) q1353 q1355 qs41 q112 q1356 nm_X1_builds (cX_obj hA) rfl rfl rfl (Nat.le_of_ble_eq_true rfl) ⟨Nat.le_of_ble_eq_true rfl, Nat.le_of_ble_eq_true rfl⟩ dX1_beds_35 rfl rfl (Nat.le_of_ble_eq_true rfl) (Nat.le_of_ble_eq_true rfl) (fun v_32 X_33 hp_34 => ?_)
        obtain ⟨rfl, a_23, b_24, c_25, o_26, F_27, t_28, e_29, d_30, y_31, rfl, hbr, -⟩ := hp_34
        rw [show (0 + 1) * 3 ^ nh = 3 ^ nh by omega] at hbr
        refine z_st (st' := []) rfl ?_
        refine z_aload_n 0 dX1_beds_38 rfl ?_
        refine cz_get (v := .int ((s_rb K a_23 b_24 c_25) 99 13)) 13 hA (by decide) q340 rfl dX1_beds_39 ?_
        refine z_eq (y := c_25) (by rfl) ?_
        refine z_if_ge 50 dX1_beds_42 (by decide) (fun c_35 => ?_) (fun c_35 => ?_)
        · -- 0 ≤ c_25
          have c_35' := Int32.not_lt.mpr c_35
          refine z_iload_n 2 dX1_beds_50 rfl ?_
          refine z_iconst (v := zm1) dX1_beds_51 (by decide) ?_
          refine z_icmp_ne 62 dX1_beds_52 (by decide) (fun _ => ?_) (fun c_ => absurd c_ c_5)
          obtain ⟨hh, hhh, e_h⟩ := zday (by omega) c_22
          refine z_lv (lv' := [(0, .ref (A 99)), (1, .int (nI (mm))), (2, .int (nI (hh)))]) [0, 1, 2] (by rw [e_h]; rfl) ?_
          refine z_aload_n 0 dX1_beds_62 rfl ?_
          refine cz_get (v := .ref (A 12)) 12 hA (by decide) q339 rfl dX1_beds_63 ?_
          refine z_iload_n 2 dX1_beds_66 rfl ?_
          refine cz_iald (v := (s_rb K a_23 b_24 c_25) 12 hh) 12 hh hA (by unfold cia; omega) rfl (by have h9 : csz 12 = 4 := rfl; omega) rfl dX1_beds_67 ?_
          refine z_eq (y := b_24 hh) (by rfl) ?_
          exact z_iret dX1_beds_68 rfl (Nat.le_of_ble_eq_true rfl) (Nat.le_of_ble_eq_true rfl) ⟨congrArg some (congrArg Value.int (by unfold s_beds; rw [if_pos (show ((decide (1 ≤ m) && decide (m ≤ 36)) && (decide (h = zm1) || (decide (0 ≤ h) && decide (h < nI nh)))) = true by simp [c_4, c_5, c_22]), e_m, ncl (by omega)]; rw [if_neg (fun z => (Int32.not_lt.mpr c_35) ((s_br_i hnh hbr).mpr z)), if_neg c_5, e_h, ncl (by omega)]; exact (hbr.2 (fun z => (Int32.not_lt.mpr c_35) ((s_br_i hnh hbr).mpr z))).2 _ (by omega))), a_23, b_24, c_25, o_26, F_27, t_28, e_29, d_30, y_31, rfl⟩
        · -- ¬ 0 ≤ c_25
          have c_35' := Int32.not_le.mp c_35
          refine z_bipush (v := zm2) dX1_beds_45 (by decide) ?_
          refine z_goto 68 dX1_beds_47 (by decide) ?_
          exact z_iret dX1_beds_68 rfl (Nat.le_of_ble_eq_true rfl) (Nat.le_of_ble_eq_true rfl) ⟨congrArg some (congrArg Value.int (by unfold s_beds; rw [if_pos (show ((decide (1 ≤ m) && decide (m ≤ 36)) && (decide (h = zm1) || (decide (0 ≤ h) && decide (h < nI nh)))) = true by simp [c_4, c_5, c_22]), e_m, ncl (by omega)]; rw [if_pos ((s_br_i hnh hbr).mp (Int32.not_le.mp c_35))])), a_23, b_24, c_25, o_26, F_27, t_28, e_29, d_30, y_31, rfl⟩
      · -- decide (0 ≤ h) && decide (h < nI nh) = false
        refine z_bipush (v := zm2) dX1_beds_23 (by decide) ?_
        exact z_iret dX1_beds_25 rfl (Nat.le_of_ble_eq_true rfl) (Nat.le_of_ble_eq_true rfl) ⟨congrArg some (congrArg Value.int (by unfold s_beds; rw [if_neg (by simp [c_4, c_5, c_22])])), (K 11), (K 12), (K 99 13), o, F, τ, es, dt2, yr2, (by rw [s_rb_self])⟩
