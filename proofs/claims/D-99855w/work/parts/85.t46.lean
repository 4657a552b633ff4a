/-! THE COMPONENT: a date passes. Printed by t46.py -/
set_option maxRecDepth 100000
set_option maxHeartbeats 4000000 in
theorem c_stays {g : zG} {A : Nat → Nat} {K : Nat → Nat → Int32} {F : Nat → Int32} {O : Nat → Nat → Option Nat} {gl : Int64} {X : zX} (hA : cok g A X) {v lh lg : Nat} {st9 : Int32} {fa : Option Nat} {vs : Nat → Int32} (hxv : X v = some (.inr (3, [.ref lh, .ref lg, .int st9, va_rf fa]))) (hst9 : (if st9 < 0 then 1 else st9) = vs 2) : zN g m_X3_stays ({ frames := 0, cells := 0, slots := 0, locals := 0 } : Room) [.ref v] (cX g A K F O gl X) (fun rv X' => rv = some (.int (vs 2)) ∧ X' = (cX g A K F O gl X)) := by
  refine zN.of (by decide +kernel) (Nat.le_of_ble_eq_true rfl) rfl ?_
  refine z_lv (lv' := [(0, .ref v)]) [0] rfl ?_
  have hA2 := hA.2.2.1
  refine z_aload_n 0 dX3_stays_0 rfl ?_
  refine z_get (v := .int st9) 2 (cX_lo hA hxv) rfl in_X3 (by decide) q236 rfl dX3_stays_1 ?_
  refine z_if_ge 11 dX3_stays_4 (by decide) (fun c_1 => ?_) (fun c_1 => ?_)
  · -- 0 ≤ st9
    have c_1' := Int32.not_lt.mpr c_1
    refine z_aload_n 0 dX3_stays_11 rfl ?_
    refine z_get (v := .int st9) 2 (cX_lo hA hxv) rfl in_X3 (by decide) q236 rfl dX3_stays_12 ?_
    exact z_iret dX3_stays_15 rfl (Nat.le_of_ble_eq_true rfl) (Nat.le_of_ble_eq_true rfl) ⟨congrArg some (congrArg Value.int (by rw [← hst9]; simp [c_1, c_1'])), rfl⟩
  · -- ¬ 0 ≤ st9
    have c_1' := Int32.not_le.mp c_1
    refine z_iconst (v := 1) dX3_stays_7 (by decide) ?_
    refine z_goto 15 dX3_stays_8 (by decide) ?_
    exact z_iret dX3_stays_15 rfl (Nat.le_of_ble_eq_true rfl) (Nat.le_of_ble_eq_true rfl) ⟨congrArg some (congrArg Value.int (by rw [← hst9]; simp [c_1, c_1'])), rfl⟩
set_option maxHeartbeats 4000000 in
theorem c_passes {g : zG} {A : Nat → Nat} {K : Nat → Nat → Int32} {F : Nat → Int32} {O : Nat → Nat → Option Nat} {gl : Int64} {X : zX} (hA : cok g A X) {v : Nat} (hO : O 0 0 = some v) {vs : Nat → Int32} {nh nd : Nat} {own : Nat → Nat} {wv : Int32 → Int32 → Int32 → Int32 → Int32} (hV : s_ok vs nh nd own) (hv : cvl g X v vs nh nd wv) {s : Nat} (hs : cst A s) {σ ds : Nat → Int32} {o : Int32} {now : Nat} (hnow : now < 2 ^ 29) (hiv : s_iv σ nd) : zN g m_X1_passes ({ frames := 1001, cells := 0, slots := 0, locals := 40023 } : Room) [.ref (A 99), .ref (A (s + 9))] (cX g A (cput (zs K 99 8 o) s σ ds (nI (now % 12)) (nI (now / 12))) F O gl X) (fun rv X' => rv = some (.int ((s_pass wv vs ds nh nd own now σ).2.1)) ∧ ∃ F' : Nat → Int32, X' = (cX g A (cput (zs K 99 8 ((s_pass wv vs ds nh nd own now σ).2.2)) s ((s_pass wv vs ds nh nd own now σ).1) ds (nI ((now + 1) % 12)) (nI ((now + 1) / 12))) F' O gl X)) := by
  refine zN.of (by decide +kernel) (Nat.le_of_ble_eq_true rfl) rfl ?_
  refine z_lv (lv' := [(0, .ref (A 99)), (1, .ref (A (s + 9)))]) [0, 1] rfl ?_
  have hA2 := hA.2.2.1
  obtain ⟨hs1, hs2, hs3⟩ := id hs
  have hV9 := hV
  have hv9 := hv
  obtain ⟨h0, hnh, h1, hnd, hown⟩ := hV9
  obtain ⟨lh, lg, fh, fg, st9, fa, hxv, ⟨mh, eh, ch, hlh, heh, hch1, hch2⟩, ⟨mg, eg, cg, hlg, heg, hcg1, hcg2⟩, hhs, hgs, hst9, hfa⟩ := hv9
  refine z_iconst (v := 0) dX1_passes_0 (by decide) ?_
  refine z_istore_n (lv' := [(2, .int 0), (0, .ref (A 99)), (1, .ref (A (s + 9)))]) dX1_passes_1 rfl (by decide) rfl ?_
  refine z_aload_n 1 dX1_passes_2 rfl ?_
  refine z_iconst (v := 0) dX1_passes_3 (by decide) ?_
  refine cz_put (K' := (cput (zs K 99 8 0) s σ ds (nI (now % 12)) (nI (now / 12)))) 8 hA (by decide) q335 (by rw [cput_zo (by omega), zs_zs]) dX1_passes_4 ?_
  refine z_aload_n 2 dX1_passes_7 rfl ?_
  refine z_aload_n 2 dX1_passes_8 rfl ?_
  refine cz_getSN (s := s) (v := .int (nI ((now % 12)))) 6 hA hs (by decide) q273 (congrArg (fun z => some (Value.int z)) (cput_f (q := 6))) dX1_passes_9 ?_
  refine z_iconst (v := 1) dX1_passes_12 (by decide) ?_
  refine z_iaddN (a := (now % 12)) (b := 1) dX1_passes_13 ?_
  refine z_bipush (v := 12) dX1_passes_14 (by decide) ?_
  refine z_iremN (a := (now % 12) + 1) (b := 12) (by omega) (by decide) (by decide) dX1_passes_16 ?_
  refine cz_putSN (s := s) (K' := (cput (zs K 99 8 0) s σ ds (nI ((((now % 12) + 1) % 12))) (nI (now / 12)))) 6 hA hs (by decide) q273 (by rw [cput_zdate]) dX1_passes_17 ?_
  refine z_aload_n 2 dX1_passes_20 rfl ?_
  refine cz_getSN (s := s) (v := .int (nI (((now % 12) + 1) % 12))) 6 hA hs (by decide) q273 (congrArg (fun z => some (Value.int z)) (cput_f (q := 6))) dX1_passes_21 ?_
  refine z_if_neN 37 (by omega) dX1_passes_24 (by decide) (fun c_1 => ?_) (fun c_1 => ?_)
  · -- ((now % 12) + 1) % 12 ≠ 0
    refine z_X (X' := (cX g A (cput (zs K 99 8 0) s σ ds (nI ((now + 1) % 12)) (nI ((now + 1) / 12))) F O gl X)) (by rw [show (now % 12 + 1) % 12 = (now + 1) % 12 by omega, show now / 12 = (now + 1) / 12 by omega]) ?_
    refine z_iconst (v := 0) dX1_passes_37 (by decide) ?_
    refine z_istore_n (lv' := [(3, .int 0), (2, .int 0), (0, .ref (A 99)), (1, .ref (A (s + 9)))]) dX1_passes_38 rfl (by decide) rfl ?_
    have loop_6 : ∀ (q_3 i_2 : Nat), i_2 + q_3 = nd → 0 ≤ i_2 → zZ g m_X1_passes (fun rv X' => rv = some (.int ((s_pass wv vs ds nh nd own now σ).2.1)) ∧ ∃ F' : Nat → Int32, X' = (cX g A (cput (zs K 99 8 ((s_pass wv vs ds nh nd own now σ).2.2)) s ((s_pass wv vs ds nh nd own now σ).1) ds (nI ((now + 1) % 12)) (nI ((now + 1) / 12))) F' O gl X), zno, ({ frames := 1001, cells := 0, slots := 0, locals := 40023 } : Room)) 0 0 (cX g A (cput (zs K 99 8 0) s (s_stay vs (zs1 σ 0 (nI (now + 1))) i_2) ds (nI ((now + 1) % 12)) (nI ((now + 1) / 12))) F O gl X) 39 [(0, .ref (A 99)), (1, .ref (A (s + 9))), (2, .int 0), (3, .int (nI (i_2)))] [] := by
      intro q_3
      induction q_3 with
      | zero =>
        intro i_2 hb_5 lo_7  
        obtain rfl : nd = i_2 := by omega
        refine z_iload_n 3 dX1_passes_39 rfl ?_
        refine z_aload_n 0 dX1_passes_40 rfl ?_
        refine z_callV (As := []) (c_guests (K := (cput (zs K 99 8 0) s (s_stay vs (zs1 σ 0 (nI (now + 1))) nd) ds (nI ((now + 1) % 12)) (nI ((now + 1) / 12)))) (F := F) (gl := gl) hA hO hxv hlh heh hch1 hch2 hlg heg hcg1 hcg2) q1139 q1141 qs30 q112 q1142 nm_X1_guests (cX_obj hA) rfl rfl rfl (Nat.le_of_ble_eq_true rfl) ⟨Nat.le_of_ble_eq_true rfl, Nat.le_of_ble_eq_true rfl⟩ dX1_passes_41 rfl rfl (Nat.le_of_ble_eq_true rfl) (Nat.le_of_ble_eq_true rfl) (fun v_8 X_9 hp_10 => ?_)
        obtain ⟨rfl, rfl⟩ := hp_10
        refine z_st (st' := [.int (nI (nd)), .int (nI (nd))]) rfl ?_
        refine z_icmp_geN (a := nd) (b := nd) 88 (by omega) (by omega) dX1_passes_44 (by decide) (fun c_11 => ?_) (fun c_11 => absurd c_11 (by omega))
        refine z_iconst (v := 0) dX1_passes_88 (by decide) ?_
        refine z_istore_n (lv' := [(3, .int 0), (0, .ref (A 99)), (1, .ref (A (s + 9))), (2, .int 0)]) dX1_passes_89 rfl (by decide) rfl ?_
        have loop_16 : ∀ (q_13 i_12 : Nat), i_12 + q_13 = nd → 0 ≤ i_12 → ∀ (F_17 : Nat → Int32), zZ g m_X1_passes (fun rv X' => rv = some (.int ((s_pass wv vs ds nh nd own now σ).2.1)) ∧ ∃ F' : Nat → Int32, X' = (cX g A (cput (zs K 99 8 ((s_pass wv vs ds nh nd own now σ).2.2)) s ((s_pass wv vs ds nh nd own now σ).1) ds (nI ((now + 1) % 12)) (nI ((now + 1) / 12))) F' O gl X), zno, ({ frames := 1001, cells := 0, slots := 0, locals := 40023 } : Room)) 0 0 (cX g A (cput (zs K 99 8 ((s_newly wv vs ds nh nd own (now + 1) (s_stay vs (zs1 σ 0 (nI (now + 1))) nd) i_12).2.2)) s ((s_newly wv vs ds nh nd own (now + 1) (s_stay vs (zs1 σ 0 (nI (now + 1))) nd) i_12).1) ds (nI ((now + 1) % 12)) (nI ((now + 1) / 12))) F_17 O gl X) 90 [(0, .ref (A 99)), (1, .ref (A (s + 9))), (2, .int ((s_newly wv vs ds nh nd own (now + 1) (s_stay vs (zs1 σ 0 (nI (now + 1))) nd) i_12).2.1)), (3, .int (nI (i_12)))] [] := by
          intro q_13
          induction q_13 with
          | zero =>
            intro i_12 hb_15 lo_18 F_17 
            obtain rfl : nd = i_12 := by omega
            refine z_iload_n 3 dX1_passes_90 rfl ?_
            refine z_aload_n 0 dX1_passes_91 rfl ?_
            refine z_callV (As := []) (c_guests (K := (cput (zs K 99 8 ((s_newly wv vs ds nh nd own (now + 1) (s_stay vs (zs1 σ 0 (nI (now + 1))) nd) nd).2.2)) s ((s_newly wv vs ds nh nd own (now + 1) (s_stay vs (zs1 σ 0 (nI (now + 1))) nd) nd).1) ds (nI ((now + 1) % 12)) (nI ((now + 1) / 12)))) (F := F_17) (gl := gl) hA hO hxv hlh heh hch1 hch2 hlg heg hcg1 hcg2) q1139 q1141 qs30 q112 q1142 nm_X1_guests (cX_obj hA) rfl rfl rfl (Nat.le_of_ble_eq_true rfl) ⟨Nat.le_of_ble_eq_true rfl, Nat.le_of_ble_eq_true rfl⟩ dX1_passes_92 rfl rfl (Nat.le_of_ble_eq_true rfl) (Nat.le_of_ble_eq_true rfl) (fun v_19 X_20 hp_21 => ?_)
            obtain ⟨rfl, rfl⟩ := hp_21
            refine z_st (st' := [.int (nI (nd)), .int (nI (nd))]) rfl ?_
            refine z_icmp_geN (a := nd) (b := nd) 315 (by omega) (by omega) dX1_passes_95 (by decide) (fun c_22 => ?_) (fun c_22 => absurd c_22 (by omega))
            refine z_iload_n 2 dX1_passes_315 rfl ?_
            exact z_iret dX1_passes_316 rfl (Nat.le_of_ble_eq_true rfl) (Nat.le_of_ble_eq_true rfl) ⟨rfl, F_17, rfl⟩
          | succ q_13 ih_14 =>
            intro i_12 hb_15 lo_18 F_17 
            refine z_iload_n 3 dX1_passes_90 rfl ?_
            refine z_aload_n 0 dX1_passes_91 rfl ?_
            refine z_callV (As := []) (c_guests (K := (cput (zs K 99 8 ((s_newly wv vs ds nh nd own (now + 1) (s_stay vs (zs1 σ 0 (nI (now + 1))) nd) i_12).2.2)) s ((s_newly wv vs ds nh nd own (now + 1) (s_stay vs (zs1 σ 0 (nI (now + 1))) nd) i_12).1) ds (nI ((now + 1) % 12)) (nI ((now + 1) / 12)))) (F := F_17) (gl := gl) hA hO hxv hlh heh hch1 hch2 hlg heg hcg1 hcg2) q1139 q1141 qs30 q112 q1142 nm_X1_guests (cX_obj hA) rfl rfl rfl (Nat.le_of_ble_eq_true rfl) ⟨Nat.le_of_ble_eq_true rfl, Nat.le_of_ble_eq_true rfl⟩ dX1_passes_92 rfl rfl (Nat.le_of_ble_eq_true rfl) (Nat.le_of_ble_eq_true rfl) (fun v_23 X_24 hp_25 => ?_)
            obtain ⟨rfl, rfl⟩ := hp_25
            refine z_st (st' := [.int (nI (nd)), .int (nI (i_12))]) rfl ?_
            refine z_icmp_geN (a := i_12) (b := nd) 315 (by omega) (by omega) dX1_passes_95 (by decide) (fun c_26 => absurd c_26 (by omega)) (fun c_26 => ?_)
            have hiw : s_iv (s_newly wv vs ds nh nd own (now + 1) (s_stay vs (zs1 σ 0 (nI (now + 1))) nd) i_12).1 nd := s_iv_newly hV (s_iv_stay (s_iv_low hiv (by decide)) nd hnd) i_12 (by omega)
            have hz := hiw.1
            refine z_aload_n 1 dX1_passes_98 rfl ?_
            refine cz_getSN (s := s) (v := .ref (A (s + 2))) 2 hA hs (by decide) q265 rfl dX1_passes_99 ?_
            refine z_iload_n 3 dX1_passes_102 rfl ?_
            refine cz_iald (v := ((s_newly wv vs ds nh nd own (now + 1) (s_stay vs (zs1 σ 0 (nI (now + 1))) nd) i_12).1) (i_12 + 6)) (s + 2) i_12 hA (by unfold cia; omega) rfl (by rw [csz_q hA hs (by omega)]; omega) (cput_where (by omega)) dX1_passes_103 ?_
            refine z_if_ge 309 dX1_passes_104 (by decide) (fun c_27 => ?_) (fun c_27 => ?_)
            · -- 0 ≤ ((s_newly wv vs ds nh nd own (now + 1) (s_stay vs (zs1 σ 0 (nI (now + 1))) nd) i_12).1) (i_12 + 6)
              have c_27' := Int32.not_lt.mpr c_27
              have hst : s_newly wv vs ds nh nd own (now + 1) (s_stay vs (zs1 σ 0 (nI (now + 1))) nd) (i_12 + 1) = (s_newly wv vs ds nh nd own (now + 1) (s_stay vs (zs1 σ 0 (nI (now + 1))) nd) i_12) := (s_newly_no (fun z => absurd z.1 c_27'))
              refine z_iinc (v := nI (i_12 + 1)) (lv' := [(3, .int (nI (i_12 + 1))), (0, .ref (A 99)), (1, .ref (A (s + 9))), (2, .int ((s_newly wv vs ds nh nd own (now + 1) (s_stay vs (zs1 σ 0 (nI (now + 1))) nd) i_12).2.1))]) 3 dX1_passes_309 rfl (nI_1 _) (by decide) rfl ?_
              refine z_goto 90 dX1_passes_312 (by decide) ?_
              have f_28 : (s_newly wv vs ds nh nd own (now + 1) (s_stay vs (zs1 σ 0 (nI (now + 1))) nd) i_12).2.1 = (s_newly wv vs ds nh nd own (now + 1) (s_stay vs (zs1 σ 0 (nI (now + 1))) nd) (i_12 + 1)).2.1 := by skip; rw [hst]; try simp only [s_bit]
              refine z_lv (lv' := [(0, .ref (A 99)), (1, .ref (A (s + 9))), (2, .int ((s_newly wv vs ds nh nd own (now + 1) (s_stay vs (zs1 σ 0 (nI (now + 1))) nd) (i_12 + 1)).2.1)), (3, .int (nI (i_12 + 1)))]) [1, 2, 3, 0] (by rw [← f_28]; rfl) ?_
              refine z_X (X' := (cX g A (cput (zs K 99 8 ((s_newly wv vs ds nh nd own (now + 1) (s_stay vs (zs1 σ 0 (nI (now + 1))) nd) (i_12 + 1)).2.2)) s ((s_newly wv vs ds nh nd own (now + 1) (s_stay vs (zs1 σ 0 (nI (now + 1))) nd) (i_12 + 1)).1) ds (nI ((now + 1) % 12)) (nI ((now + 1) / 12))) F_17 O gl X)) (by skip; rw [hst]; try simp only [s_bit]) ?_
              exact ih_14 (i_12 + 1) (by omega) (by omega) _ 
            · -- ¬ 0 ≤ ((s_newly wv vs ds nh nd own (now + 1) (s_stay vs (zs1 σ 0 (nI (now + 1))) nd) i_12).1) (i_12 + 6)
              have c_27' := Int32.not_le.mp c_27
              refine z_aload_n 1 dX1_passes_107 rfl ?_
              refine cz_getSN (s := s) (v := .ref (A (s + 1))) 1 hA hs (by decide) q261 rfl dX1_passes_108 ?_
              refine z_iload_n 3 dX1_passes_111 rfl ?_
              refine cz_iald (v := ((s_newly wv vs ds nh nd own (now + 1) (s_stay vs (zs1 σ 0 (nI (now + 1))) nd) i_12).1) (i_12 + 18)) (s + 1) i_12 hA (by unfold cia; omega) rfl (by rw [csz_q hA hs (by omega)]; omega) (cput_says (by omega)) dX1_passes_112 ?_
              refine z_if_eq 309 dX1_passes_113 (by decide) (fun c_29 => ?_) (fun c_29 => ?_)
              · -- ((s_newly wv vs ds nh nd own (now + 1) (s_stay vs (zs1 σ 0 (nI (now + 1))) nd) i_12).1) (i_12 + 18) = 0
                have hst : s_newly wv vs ds nh nd own (now + 1) (s_stay vs (zs1 σ 0 (nI (now + 1))) nd) (i_12 + 1) = (s_newly wv vs ds nh nd own (now + 1) (s_stay vs (zs1 σ 0 (nI (now + 1))) nd) i_12) := (s_newly_no (fun z => by have z2 := z.2.1; rw [c_29] at z2; exact absurd z2 (by decide)))
                refine z_iinc (v := nI (i_12 + 1)) (lv' := [(3, .int (nI (i_12 + 1))), (0, .ref (A 99)), (1, .ref (A (s + 9))), (2, .int ((s_newly wv vs ds nh nd own (now + 1) (s_stay vs (zs1 σ 0 (nI (now + 1))) nd) i_12).2.1))]) 3 dX1_passes_309 rfl (nI_1 _) (by decide) rfl ?_
                refine z_goto 90 dX1_passes_312 (by decide) ?_
                have f_30 : (s_newly wv vs ds nh nd own (now + 1) (s_stay vs (zs1 σ 0 (nI (now + 1))) nd) i_12).2.1 = (s_newly wv vs ds nh nd own (now + 1) (s_stay vs (zs1 σ 0 (nI (now + 1))) nd) (i_12 + 1)).2.1 := by skip; rw [hst]; try simp only [s_bit]
                refine z_lv (lv' := [(0, .ref (A 99)), (1, .ref (A (s + 9))), (2, .int ((s_newly wv vs ds nh nd own (now + 1) (s_stay vs (zs1 σ 0 (nI (now + 1))) nd) (i_12 + 1)).2.1)), (3, .int (nI (i_12 + 1)))]) [1, 2, 3, 0] (by rw [← f_30]; rfl) ?_
                refine z_X (X' := (cX g A (cput (zs K 99 8 ((s_newly wv vs ds nh nd own (now + 1) (s_stay vs (zs1 σ 0 (nI (now + 1))) nd) (i_12 + 1)).2.2)) s ((s_newly wv vs ds nh nd own (now + 1) (s_stay vs (zs1 σ 0 (nI (now + 1))) nd) (i_12 + 1)).1) ds (nI ((now + 1) % 12)) (nI ((now + 1) / 12))) F_17 O gl X)) (by skip; rw [hst]; try simp only [s_bit]) ?_
                exact ih_14 (i_12 + 1) (by omega) (by omega) _ 
              · -- ¬ ((s_newly wv vs ds nh nd own (now + 1) (s_stay vs (zs1 σ 0 (nI (now + 1))) nd) i_12).1) (i_12 + 18) = 0
                refine z_aload_n 0 dX1_passes_116 rfl ?_
                refine z_iload_n 3 dX1_passes_117 rfl ?_
                obtain ⟨a_31, m_32, k_35, he_33, hk_36, hkv_37, ha_34⟩ := hgs i_12 (by omega)
                refine z_callV (As := [.int (nI (i_12))]) (c_guest (K := (cput (zs K 99 8 ((s_newly wv vs ds nh nd own (now + 1) (s_stay vs (zs1 σ 0 (nI (now + 1))) nd) i_12).2.2)) s ((s_newly wv vs ds nh nd own (now + 1) (s_stay vs (zs1 σ 0 (nI (now + 1))) nd) i_12).1) ds (nI ((now + 1) % 12)) (nI ((now + 1) / 12)))) (F := F_17) (gl := gl) hA hO hxv hlh heh hch1 hch2 hlg heg hcg1 hcg2 i_12 (by omega) hk_36 he_33 ha_34) q1143 q1145 qs31 q112 q1146 nm_X1_guest (cX_obj hA) rfl rfl rfl (Nat.le_of_ble_eq_true rfl) ⟨Nat.le_of_ble_eq_true rfl, Nat.le_of_ble_eq_true rfl⟩ dX1_passes_118 rfl rfl (Nat.le_of_ble_eq_true rfl) (Nat.le_of_ble_eq_true rfl) (fun v_38 X_39 hp_40 => ?_)
                obtain ⟨rfl, rfl⟩ := hp_40
                refine z_st (st' := [.ref a_31]) rfl ?_
                refine z_aload_n 1 dX1_passes_121 rfl ?_
                refine cz_getSN (s := s) (v := .ref (A (s + 5))) 5 hA hs (by decide) q271 rfl dX1_passes_122 ?_
                refine z_iload_n 3 dX1_passes_125 rfl ?_
                refine cz_iald (v := ds i_12) (s + 5) i_12 hA (by unfold cia; omega) rfl (by rw [csz_q hA hs (by omega)]; omega) (cput_month (by omega)) dX1_passes_126 ?_
                refine z_aload_n 1 dX1_passes_127 rfl ?_
                refine cz_getSN (s := s) (v := .int (nI ((now + 1) % 12))) 6 hA hs (by decide) q273 (congrArg (fun z => some (Value.int z)) (cput_f (q := 6))) dX1_passes_128 ?_
                refine z_aload_n 1 dX1_passes_131 rfl ?_
                refine cz_getSN (s := s) (v := .int (nI ((now + 1) / 12))) 7 hA hs (by decide) q275 (congrArg (fun z => some (Value.int z)) (cput_f (q := 7))) dX1_passes_132 ?_
                refine z_gComes (cX_lo hA ha_34) (hk0 := hk_36) (by omega) (by omega) q1221 (Nat.le_of_ble_eq_true rfl) (Nat.le_of_ble_eq_true rfl) (Nat.le_of_ble_eq_true rfl) dX1_passes_135 (Nat.le_of_ble_eq_true rfl) (Nat.le_of_ble_eq_true rfl) ?_
                refine z_eq (y := zb (s_date vs ds (now + 1) i_12)) (congrArg zb (s_kdate hk_36 hkv_37)) ?_
                refine z_if_neb 144 dX1_passes_138 (by decide) (fun c_41 => ?_) (fun c_41 => ?_)
                · -- s_date vs ds (now + 1) i_12 = true
                  refine z_aload_n 0 dX1_passes_144 rfl ?_
                  refine z_aload_n 1 dX1_passes_145 rfl ?_
                  refine z_iload_n 3 dX1_passes_146 rfl ?_
                  refine z_callV (As := [.ref (A (s + 9)), .int (nI (i_12))]) (c_taking (F := F_17) (gl := gl) (K := (zs K 99 8 ((s_newly wv vs ds nh nd own (now + 1) (s_stay vs (zs1 σ 0 (nI (now + 1))) nd) i_12).2.2))) (σ := (s_newly wv vs ds nh nd own (now + 1) (s_stay vs (zs1 σ 0 (nI (now + 1))) nd) i_12).1) (ds := ds) (dt := (nI ((now + 1) % 12))) (yr := (nI ((now + 1) / 12))) hA hO hV hv hs hz i_12 (by omega)) q1233 q1235 qs37 q112 q1236 nm_X1_taking (cX_obj hA) rfl rfl rfl (Nat.le_of_ble_eq_true rfl) ⟨Nat.le_of_ble_eq_true rfl, Nat.le_of_ble_eq_true rfl⟩ dX1_passes_147 rfl rfl (Nat.le_of_ble_eq_true rfl) (Nat.le_of_ble_eq_true rfl) (fun v_42 X_43 hp_44 => ?_)
                  obtain ⟨rfl, rfl⟩ := hp_44
                  refine z_st (st' := [.int (s_bed vs ((s_newly wv vs ds nh nd own (now + 1) (s_stay vs (zs1 σ 0 (nI (now + 1))) nd) i_12).1) nh nd (own i_12) i_12)]) rfl ?_
                  refine z_istore (lv' := [(4, .int (s_bed vs ((s_newly wv vs ds nh nd own (now + 1) (s_stay vs (zs1 σ 0 (nI (now + 1))) nd) i_12).1) nh nd (own i_12) i_12)), (0, .ref (A 99)), (1, .ref (A (s + 9))), (2, .int ((s_newly wv vs ds nh nd own (now + 1) (s_stay vs (zs1 σ 0 (nI (now + 1))) nd) i_12).2.1)), (3, .int (nI (i_12)))]) dX1_passes_150 (by decide) rfl ?_
                  refine z_iload 0 dX1_passes_152 rfl ?_
                  refine z_if_ge 182 dX1_passes_154 (by decide) (fun c_45 => ?_) (fun c_45 => ?_)
                  · -- 0 ≤ s_bed vs ((s_newly wv vs ds nh nd own (now + 1) (s_stay vs (zs1 σ 0 (nI (now + 1))) nd) i_12).1) nh nd (own i_12) i_12
                    have c_45' := Int32.not_lt.mpr c_45
                    obtain ⟨kb, hkb, hkbe⟩ : ∃ kb, kb < nh ∧ s_bed vs ((s_newly wv vs ds nh nd own (now + 1) (s_stay vs (zs1 σ 0 (nI (now + 1))) nd) i_12).1) nh nd (own i_12) i_12 = nI kb := by rcases s_bed_cases (vs := vs) (σ := (s_newly wv vs ds nh nd own (now + 1) (s_stay vs (zs1 σ 0 (nI (now + 1))) nd) i_12).1) (nh := nh) (nd := nd) (d := i_12) (hown i_12 (by omega)).2 with e | e; rw [e] at c_45; exact absurd c_45 (by decide); exact e
                    refine z_lv (lv' := [(4, .int (nI (kb))), (0, .ref (A 99)), (1, .ref (A (s + 9))), (2, .int ((s_newly wv vs ds nh nd own (now + 1) (s_stay vs (zs1 σ 0 (nI (now + 1))) nd) i_12).2.1)), (3, .int (nI (i_12)))]) [0, 1, 2, 3, 4] (by rw [hkbe]; rfl) ?_
                    refine z_aload_n 2 dX1_passes_182 rfl ?_
                    refine cz_getSN (s := s) (v := .ref (A (s + 2))) 2 hA hs (by decide) q265 rfl dX1_passes_183 ?_
                    refine z_iload_n 4 dX1_passes_186 rfl ?_
                    refine z_iload 0 dX1_passes_187 rfl ?_
                    refine cz_iast (K' := (cput (zs K 99 8 ((s_newly wv vs ds nh nd own (now + 1) (s_stay vs (zs1 σ 0 (nI (now + 1))) nd) i_12).2.2)) s (zs1 ((s_newly wv vs ds nh nd own (now + 1) (s_stay vs (zs1 σ 0 (nI (now + 1))) nd) i_12).1) (i_12 + 6) (nI (kb))) ds (nI ((now + 1) % 12)) (nI ((now + 1) / 12)))) (s + 2) i_12 hA (by unfold cia; omega) rfl (by rw [csz_q hA hs (by omega)]; omega) (by rw [cput_zwhere (by omega)]) dX1_passes_189 ?_
                    refine z_aload_n 2 dX1_passes_190 rfl ?_
                    refine cz_getSN (s := s) (v := .ref (A (s + 4))) 4 hA hs (by decide) q269 rfl dX1_passes_191 ?_
                    refine z_iload_n 4 dX1_passes_194 rfl ?_
                    refine z_dup2_11 dX1_passes_195 rfl rfl ?_
                    refine cz_iald (v := ((s_newly wv vs ds nh nd own (now + 1) (s_stay vs (zs1 σ 0 (nI (now + 1))) nd) i_12).1) (i_12 + 24)) (s + 4) i_12 hA (by unfold cia; omega) rfl (by rw [csz_q hA hs (by omega)]; omega) ((cput_times (by omega)).trans (by rw [zs1_n (by omega)])) dX1_passes_196 ?_
                    refine z_iconst (v := 1) dX1_passes_197 (by decide) ?_
                    refine z_iadd dX1_passes_198 ?_
                    obtain ⟨x_46, ex_46⟩ : ∃ y : Int32, ((((s_newly wv vs ds nh nd own (now + 1) (s_stay vs (zs1 σ 0 (nI (now + 1))) nd) i_12).1) (i_12 + 24)) + 1) = y := ⟨_, rfl⟩
                    refine z_eq ex_46 ?_
                    refine cz_iast (K' := (cput (zs K 99 8 ((s_newly wv vs ds nh nd own (now + 1) (s_stay vs (zs1 σ 0 (nI (now + 1))) nd) i_12).2.2)) s (zs1 (zs1 ((s_newly wv vs ds nh nd own (now + 1) (s_stay vs (zs1 σ 0 (nI (now + 1))) nd) i_12).1) (i_12 + 6) (nI (kb))) (i_12 + 24) x_46) ds (nI ((now + 1) % 12)) (nI ((now + 1) / 12)))) (s + 4) i_12 hA (by unfold cia; omega) rfl (by rw [csz_q hA hs (by omega)]; omega) (by rw [cput_ztimes (by omega)]) dX1_passes_199 ?_
                    refine z_iload_n 3 dX1_passes_200 rfl ?_
                    refine z_iconst (v := 1) dX1_passes_201 (by decide) ?_
                    refine z_iload_n 4 dX1_passes_202 rfl ?_
                    refine z_ishl dX1_passes_203 ?_
                    refine z_ior dX1_passes_204 ?_
                    obtain ⟨x_47, ex_47⟩ : ∃ y : Int32, (((s_newly wv vs ds nh nd own (now + 1) (s_stay vs (zs1 σ 0 (nI (now + 1))) nd) i_12).2.1) ||| (1 <<< ((nI (i_12)) &&& 31))) = y := ⟨_, rfl⟩
                    refine z_eq ex_47 ?_
                    refine z_istore_n (lv' := [(2, .int x_47), (4, .int (nI (kb))), (0, .ref (A 99)), (1, .ref (A (s + 9))), (3, .int (nI (i_12)))]) dX1_passes_205 rfl (by decide) rfl ?_
                    refine z_X (X' := (cX g A (cput (zs K 99 8 ((s_newly wv vs ds nh nd own (now + 1) (s_stay vs (zs1 σ 0 (nI (now + 1))) nd) i_12).2.2)) s (s_come (s_newly wv vs ds nh nd own (now + 1) (s_stay vs (zs1 σ 0 (nI (now + 1))) nd) i_12).1 (nI (kb)) i_12) ds (nI ((now + 1) % 12)) (nI ((now + 1) / 12))) F_17 O gl X)) (by rw [← ex_46, s_come_eq (hiw.2.2 i_12 (by omega) c_27')]) ?_
                    have hiC := s_iv_come (k := kb) hiw (show i_12 < nd by omega) hnd (by omega)
                    obtain ⟨m9, hm9, em9⟩ := s_in_64 (σ := (s_come (s_newly wv vs ds nh nd own (now + 1) (s_stay vs (zs1 σ 0 (nI (now + 1))) nd) i_12).1 (nI (kb)) i_12)) (h := nI kb) 6 (by decide)
                    refine z_aload_n 2 dX1_passes_206 rfl ?_
                    refine cz_get (v := .ref (A 6)) 6 hA (by decide) q333 rfl dX1_passes_207 ?_
                    refine z_iconst (v := 0) dX1_passes_210 (by decide) ?_
                    refine z_aload_n 3 dX1_passes_211 rfl ?_
                    refine cz_getSN (s := s) (v := .ref (A (s + 1))) 1 hA hs (by decide) q261 rfl dX1_passes_212 ?_
                    refine z_iload_n 4 dX1_passes_215 rfl ?_
                    refine cz_iald (v := (s_newly wv vs ds nh nd own (now + 1) (s_stay vs (zs1 σ 0 (nI (now + 1))) nd) i_12).1 (i_12 + 18)) (s + 1) i_12 hA (by unfold cia; omega) rfl (by rw [csz_q hA hs (by omega)]; omega) ((cput_says (by omega)).trans s_come_18) dX1_passes_216 ?_
                    refine cz_iastF 0 hA rfl (by omega) dX1_passes_217 ?_
                    refine z_aload_n 2 dX1_passes_218 rfl ?_
                    refine cz_get (v := .ref (A 6)) 6 hA (by decide) q333 rfl dX1_passes_219 ?_
                    refine z_iconst (v := 1) dX1_passes_222 (by decide) ?_
                    refine z_aload_n 3 dX1_passes_223 rfl ?_
                    refine z_iload 1 dX1_passes_224 rfl ?_
                    refine z_callV (As := [.int (nI (kb))]) (c_in (F := (zs1 F_17 0 ((s_newly wv vs ds nh nd own (now + 1) (s_stay vs (zs1 σ 0 (nI (now + 1))) nd) i_12).1 (i_12 + 18)))) (O := O) (gl := gl) hA hs (nI (kb))) q1159 q1160 q1161 q118 q1162 nm_X4_in (cX_st hA hs) rfl rfl rfl (Nat.le_of_ble_eq_true rfl) ⟨Nat.le_of_ble_eq_true rfl, Nat.le_of_ble_eq_true rfl⟩ dX1_passes_226 rfl rfl (Nat.le_of_ble_eq_true rfl) (Nat.le_of_ble_eq_true rfl) (fun v_48 X_49 hp_50 => ?_)
                    obtain ⟨rfl, rfl⟩ := hp_50
                    refine z_st (st' := [.int (s_in (s_come (s_newly wv vs ds nh nd own (now + 1) (s_stay vs (zs1 σ 0 (nI (now + 1))) nd) i_12).1 (nI (kb)) i_12) (nI (kb)) 6), .int 1, .ref (A 6)]) rfl ?_
                    refine z_eq (y := nI (m9)) em9 ?_
                    refine z_callS (As := [.int (nI (m9))]) (t_bitCount m9 (by omega)) q1242 q1243 q151 q1244 nm_J17_bitCount rfl (Nat.le_of_ble_eq_true rfl) ⟨Nat.le_of_ble_eq_true rfl, Nat.le_of_ble_eq_true rfl⟩ dX1_passes_229 rfl rfl (Nat.le_of_ble_eq_true rfl) (Nat.le_of_ble_eq_true rfl) (fun v_51 X_52 hp_53 => ?_)
                    obtain ⟨rfl, rfl⟩ := hp_53
                    refine z_st (st' := [.int (s_bits (nI (m9)) 30), .int 1, .ref (A 6)]) rfl ?_
                    refine z_eq (y := s_bits (s_in (s_come (s_newly wv vs ds nh nd own (now + 1) (s_stay vs (zs1 σ 0 (nI (now + 1))) nd) i_12).1 (nI (kb)) i_12) (nI kb) nd) 30) (by rw [← em9, s_in_6 hiC.1 (nI_m1 (by omega)) hnd]) ?_
                    refine cz_iastF 1 hA rfl (by omega) dX1_passes_232 ?_
                    refine z_aload_n 2 dX1_passes_233 rfl ?_
                    refine cz_get (v := .ref (A 6)) 6 hA (by decide) q333 rfl dX1_passes_234 ?_
                    refine z_iconst (v := 2) dX1_passes_237 (by decide) ?_
                    refine z_aload_n 3 dX1_passes_238 rfl ?_
                    refine cz_getSN (s := s) (v := .int (nI ((now + 1) % 12))) 6 hA hs (by decide) q273 (congrArg (fun z => some (Value.int z)) (cput_f (q := 6))) dX1_passes_239 ?_
                    refine cz_iastF 2 hA rfl (by omega) dX1_passes_242 ?_
                    refine z_aload_n 2 dX1_passes_243 rfl ?_
                    refine cz_get (v := .ref (A 6)) 6 hA (by decide) q333 rfl dX1_passes_244 ?_
                    refine z_iconst (v := 3) dX1_passes_247 (by decide) ?_
                    refine z_aload_n 3 dX1_passes_248 rfl ?_
                    refine cz_getSN (s := s) (v := .ref (A (s + 4))) 4 hA hs (by decide) q269 rfl dX1_passes_249 ?_
                    refine z_iload_n 4 dX1_passes_252 rfl ?_
                    refine cz_iald (v := ((s_newly wv vs ds nh nd own (now + 1) (s_stay vs (zs1 σ 0 (nI (now + 1))) nd) i_12).1 (i_12 + 24) + 1)) (s + 4) i_12 hA (by unfold cia; omega) rfl (by rw [csz_q hA hs (by omega)]; omega) ((cput_times (by omega)).trans s_come_24) dX1_passes_253 ?_
                    obtain ⟨x_54, ex_54⟩ : ∃ y : Int32, ((s_newly wv vs ds nh nd own (now + 1) (s_stay vs (zs1 σ 0 (nI (now + 1))) nd) i_12).1 (i_12 + 24) + 1) = y := ⟨_, rfl⟩
                    refine z_eq ex_54 ?_
                    refine cz_iastF 3 hA rfl (by omega) dX1_passes_254 ?_
                    refine z_aload_n 3 dX1_passes_255 rfl ?_
                    refine cz_getSN (s := s) (v := .ref (A (s + 1))) 1 hA hs (by decide) q261 rfl dX1_passes_256 ?_
                    refine z_iload_n 4 dX1_passes_259 rfl ?_
                    refine z_aload_n 3 dX1_passes_260 rfl ?_
                    refine cz_getSN (s := s) (v := .ref (A (s + 1))) 1 hA hs (by decide) q261 rfl dX1_passes_261 ?_
                    refine z_iload_n 4 dX1_passes_264 rfl ?_
                    refine cz_iald (v := (s_newly wv vs ds nh nd own (now + 1) (s_stay vs (zs1 σ 0 (nI (now + 1))) nd) i_12).1 (i_12 + 18)) (s + 1) i_12 hA (by unfold cia; omega) rfl (by rw [csz_q hA hs (by omega)]; omega) ((cput_says (by omega)).trans s_come_18) dX1_passes_265 ?_
                    refine z_aload_n 2 dX1_passes_266 rfl ?_
                    refine cz_get (v := .ref v) 2 hA (by decide) q329 (by show some (va_rf (O 0 0)) = _; rw [hO]; rfl) dX1_passes_267 ?_
                    refine z_getN (v := va_rf (fa)) 3 (cX_lo hA hxv) rfl in_X3 (by decide) q239 rfl dX1_passes_270 ?_
                    rcases hfa with ⟨rfl, hwn⟩ | ⟨e9, rfl, hex⟩
                    · skip
                      refine z_ifnonnullN dX1_passes_273 ?_
                      refine z_iconst (v := zm1) dX1_passes_276 (by decide) ?_
                      refine z_goto 301 dX1_passes_277 (by decide) ?_
                      refine z_iadd dX1_passes_301 ?_
                      refine z_iconst (v := 0) dX1_passes_302 (by decide) ?_
                      refine z_bipush (v := 99) dX1_passes_303 (by decide) ?_
                      refine z_callS (As := [.int (((s_newly wv vs ds nh nd own (now + 1) (s_stay vs (zs1 σ 0 (nI (now + 1))) nd) i_12).1 (i_12 + 18)) + zm1), .int 0, .int 99]) (c_between (((s_newly wv vs ds nh nd own (now + 1) (s_stay vs (zs1 σ 0 (nI (now + 1))) nd) i_12).1 (i_12 + 18)) + zm1) 0 99) q1265 q1266 q112 q1267 nm_X1_between rfl (Nat.le_of_ble_eq_true rfl) ⟨Nat.le_of_ble_eq_true rfl, Nat.le_of_ble_eq_true rfl⟩ dX1_passes_305 rfl rfl (Nat.le_of_ble_eq_true rfl) (Nat.le_of_ble_eq_true rfl) (fun v_55 X_56 hp_57 => ?_)
                      obtain ⟨rfl, rfl⟩ := hp_57
                      refine z_st (st' := [.int (if 0 < (if (((s_newly wv vs ds nh nd own (now + 1) (s_stay vs (zs1 σ 0 (nI (now + 1))) nd) i_12).1 (i_12 + 18)) + zm1) < 99 then (((s_newly wv vs ds nh nd own (now + 1) (s_stay vs (zs1 σ 0 (nI (now + 1))) nd) i_12).1 (i_12 + 18)) + zm1) else 99) then (if (((s_newly wv vs ds nh nd own (now + 1) (s_stay vs (zs1 σ 0 (nI (now + 1))) nd) i_12).1 (i_12 + 18)) + zm1) < 99 then (((s_newly wv vs ds nh nd own (now + 1) (s_stay vs (zs1 σ 0 (nI (now + 1))) nd) i_12).1 (i_12 + 18)) + zm1) else 99) else 0), .int (nI (i_12)), .ref (A (s + 1))]) rfl ?_
                      refine z_eq (y := (s_c99 (((s_newly wv vs ds nh nd own (now + 1) (s_stay vs (zs1 σ 0 (nI (now + 1))) nd) i_12).1 (i_12 + 18)) + zm1))) (s_c99_b _) ?_
                      refine cz_iast (K' := (cput (zs K 99 8 ((s_newly wv vs ds nh nd own (now + 1) (s_stay vs (zs1 σ 0 (nI (now + 1))) nd) i_12).2.2)) s (zs1 (s_come (s_newly wv vs ds nh nd own (now + 1) (s_stay vs (zs1 σ 0 (nI (now + 1))) nd) i_12).1 (nI (kb)) i_12) (i_12 + 18) (s_c99 (((s_newly wv vs ds nh nd own (now + 1) (s_stay vs (zs1 σ 0 (nI (now + 1))) nd) i_12).1 (i_12 + 18)) + zm1))) ds (nI ((now + 1) % 12)) (nI ((now + 1) / 12)))) (s + 1) i_12 hA (by unfold cia; omega) rfl (by rw [csz_q hA hs (by omega)]; omega) (by rw [cput_zsays (by omega)]) dX1_passes_308 ?_
                      have hst : s_newly wv vs ds nh nd own (now + 1) (s_stay vs (zs1 σ 0 (nI (now + 1))) nd) (i_12 + 1) = (s_spoke wv (s_newly wv vs ds nh nd own (now + 1) (s_stay vs (zs1 σ 0 (nI (now + 1))) nd) i_12).1 (nI kb) nd (now + 1) i_12, (s_newly wv vs ds nh nd own (now + 1) (s_stay vs (zs1 σ 0 (nI (now + 1))) nd) i_12).2.1 ||| s_bit i_12, (s_newly wv vs ds nh nd own (now + 1) (s_stay vs (zs1 σ 0 (nI (now + 1))) nd) i_12).2.2) := (s_newly_on ⟨c_27', s_pos0 (hiw.2.1 i_12 (by omega)) c_29, c_41⟩ hkbe (by omega))
                      refine z_iinc (v := nI (i_12 + 1)) (lv' := [(3, .int (nI (i_12 + 1))), (2, .int x_47), (4, .int (nI (kb))), (0, .ref (A 99)), (1, .ref (A (s + 9)))]) 4 dX1_passes_309 rfl (nI_1 _) (by decide) rfl ?_
                      refine z_goto 90 dX1_passes_312 (by decide) ?_
                      have f_58 : x_47 = (s_newly wv vs ds nh nd own (now + 1) (s_stay vs (zs1 σ 0 (nI (now + 1))) nd) (i_12 + 1)).2.1 := by (try subst ex_54); (try subst ex_47); (try subst ex_46); rw [hst]; simp only [s_spoke, hwn, s_c9m1, s_bit]
                      subst f_58
                      refine z_lv (lv' := [(0, .ref (A 99)), (1, .ref (A (s + 9))), (2, .int ((s_newly wv vs ds nh nd own (now + 1) (s_stay vs (zs1 σ 0 (nI (now + 1))) nd) (i_12 + 1)).2.1)), (3, .int (nI (i_12 + 1)))]) [3, 4, 1, 0] rfl ?_
                      refine z_X (X' := (cX g A (cput (zs K 99 8 ((s_newly wv vs ds nh nd own (now + 1) (s_stay vs (zs1 σ 0 (nI (now + 1))) nd) (i_12 + 1)).2.2)) s ((s_newly wv vs ds nh nd own (now + 1) (s_stay vs (zs1 σ 0 (nI (now + 1))) nd) (i_12 + 1)).1) ds (nI ((now + 1) % 12)) (nI ((now + 1) / 12))) (zs1 (zs1 (zs1 (zs1 F_17 0 ((s_newly wv vs ds nh nd own (now + 1) (s_stay vs (zs1 σ 0 (nI (now + 1))) nd) i_12).1 (i_12 + 18))) 1 (s_bits (s_in (s_come (s_newly wv vs ds nh nd own (now + 1) (s_stay vs (zs1 σ 0 (nI (now + 1))) nd) i_12).1 (nI (kb)) i_12) (nI kb) nd) 30)) 2 (nI ((now + 1) % 12))) 3 x_54) O gl X)) (by (try subst ex_54); (try subst ex_47); (try subst ex_46); rw [hst]; simp only [s_spoke, hwn, s_c9m1, s_bit]) ?_
                      exact ih_14 (i_12 + 1) (by omega) (by omega) _ 
                    · skip
                      refine z_ifnonnull 280 dX1_passes_273 (by decide) ?_
                      refine z_aload_n 2 dX1_passes_280 rfl ?_
                      refine cz_get (v := .ref v) 2 hA (by decide) q329 (by show some (va_rf (O 0 0)) = _; rw [hO]; rfl) dX1_passes_281 ?_
                      refine z_getN (v := .ref e9) 3 (cX_lo hA hxv) rfl in_X3 (by decide) q239 rfl dX1_passes_284 ?_
                      refine z_aload_n 2 dX1_passes_287 rfl ?_
                      refine cz_get (v := .ref (A 6)) 6 hA (by decide) q333 rfl dX1_passes_288 ?_
                      obtain ⟨ciw, fsw, rw, Myw, hxw, hcw, h3w, h4w, h5w, h6w, h7w, hMw⟩ := c_worked (K := (cput (zs K 99 8 ((s_newly wv vs ds nh nd own (now + 1) (s_stay vs (zs1 σ 0 (nI (now + 1))) nd) i_12).2.2)) s (s_come (s_newly wv vs ds nh nd own (now + 1) (s_stay vs (zs1 σ 0 (nI (now + 1))) nd) i_12).1 (nI (kb)) i_12) ds (nI ((now + 1) % 12)) (nI ((now + 1) / 12)))) (F := (zs1 (zs1 (zs1 (zs1 F_17 0 ((s_newly wv vs ds nh nd own (now + 1) (s_stay vs (zs1 σ 0 (nI (now + 1))) nd) i_12).1 (i_12 + 18))) 1 (s_bits (s_in (s_come (s_newly wv vs ds nh nd own (now + 1) (s_stay vs (zs1 σ 0 (nI (now + 1))) nd) i_12).1 (nI (kb)) i_12) (nI kb) nd) 30)) 2 (nI ((now + 1) % 12))) 3 x_54)) (O := O) (gl := gl) hA 1000 e9 wv hex
                      refine z_callA (As := [.ref (A 6)]) (x := ⟨"DateVale$Expression", "worked", "([I)I"⟩) (owner := "DateVale$Expression") hMw q1248 q1250 h3w h4w h5w h6w q1249 ⟨by decide +kernel, by decide +kernel, nm_X13_worked.2.2⟩ (cX_lo hA hxw) hcw rfl (Nat.le_of_ble_eq_true rfl) ⟨Nat.le_of_ble_eq_true rfl, by show 8 + (Myw.2.2.1 + 11) + 40 * 1000 ≤ 40023; omega⟩ dX1_passes_291 rfl rfl (Nat.le_of_ble_eq_true rfl) (Nat.le_of_ble_eq_true rfl) (fun v_59 X_60 hp_61 => ?_)
                      obtain ⟨rfl, rfl⟩ := hp_61
                      refine z_st (st' := [.int (wv ((s_newly wv vs ds nh nd own (now + 1) (s_stay vs (zs1 σ 0 (nI (now + 1))) nd) i_12).1 (i_12 + 18)) (s_bits (s_in (s_come (s_newly wv vs ds nh nd own (now + 1) (s_stay vs (zs1 σ 0 (nI (now + 1))) nd) i_12).1 (nI (kb)) i_12) (nI kb) nd) 30) (nI ((now + 1) % 12)) x_54), .int ((s_newly wv vs ds nh nd own (now + 1) (s_stay vs (zs1 σ 0 (nI (now + 1))) nd) i_12).1 (i_12 + 18)), .int (nI (i_12)), .ref (A (s + 1))]) rfl ?_
                      refine z_bipush (v := zm9) dX1_passes_294 (by decide) ?_
                      refine z_bipush (v := 9) dX1_passes_296 (by decide) ?_
                      refine z_callS (As := [.int (wv ((s_newly wv vs ds nh nd own (now + 1) (s_stay vs (zs1 σ 0 (nI (now + 1))) nd) i_12).1 (i_12 + 18)) (s_bits (s_in (s_come (s_newly wv vs ds nh nd own (now + 1) (s_stay vs (zs1 σ 0 (nI (now + 1))) nd) i_12).1 (nI (kb)) i_12) (nI kb) nd) 30) (nI ((now + 1) % 12)) x_54), .int zm9, .int 9]) (c_between (wv ((s_newly wv vs ds nh nd own (now + 1) (s_stay vs (zs1 σ 0 (nI (now + 1))) nd) i_12).1 (i_12 + 18)) (s_bits (s_in (s_come (s_newly wv vs ds nh nd own (now + 1) (s_stay vs (zs1 σ 0 (nI (now + 1))) nd) i_12).1 (nI (kb)) i_12) (nI kb) nd) 30) (nI ((now + 1) % 12)) x_54) zm9 9) q1265 q1266 q112 q1267 nm_X1_between rfl (Nat.le_of_ble_eq_true rfl) ⟨Nat.le_of_ble_eq_true rfl, Nat.le_of_ble_eq_true rfl⟩ dX1_passes_298 rfl rfl (Nat.le_of_ble_eq_true rfl) (Nat.le_of_ble_eq_true rfl) (fun v_62 X_63 hp_64 => ?_)
                      obtain ⟨rfl, rfl⟩ := hp_64
                      refine z_st (st' := [.int (if zm9 < (if (wv ((s_newly wv vs ds nh nd own (now + 1) (s_stay vs (zs1 σ 0 (nI (now + 1))) nd) i_12).1 (i_12 + 18)) (s_bits (s_in (s_come (s_newly wv vs ds nh nd own (now + 1) (s_stay vs (zs1 σ 0 (nI (now + 1))) nd) i_12).1 (nI (kb)) i_12) (nI kb) nd) 30) (nI ((now + 1) % 12)) x_54) < 9 then (wv ((s_newly wv vs ds nh nd own (now + 1) (s_stay vs (zs1 σ 0 (nI (now + 1))) nd) i_12).1 (i_12 + 18)) (s_bits (s_in (s_come (s_newly wv vs ds nh nd own (now + 1) (s_stay vs (zs1 σ 0 (nI (now + 1))) nd) i_12).1 (nI (kb)) i_12) (nI kb) nd) 30) (nI ((now + 1) % 12)) x_54) else 9) then (if (wv ((s_newly wv vs ds nh nd own (now + 1) (s_stay vs (zs1 σ 0 (nI (now + 1))) nd) i_12).1 (i_12 + 18)) (s_bits (s_in (s_come (s_newly wv vs ds nh nd own (now + 1) (s_stay vs (zs1 σ 0 (nI (now + 1))) nd) i_12).1 (nI (kb)) i_12) (nI kb) nd) 30) (nI ((now + 1) % 12)) x_54) < 9 then (wv ((s_newly wv vs ds nh nd own (now + 1) (s_stay vs (zs1 σ 0 (nI (now + 1))) nd) i_12).1 (i_12 + 18)) (s_bits (s_in (s_come (s_newly wv vs ds nh nd own (now + 1) (s_stay vs (zs1 σ 0 (nI (now + 1))) nd) i_12).1 (nI (kb)) i_12) (nI kb) nd) 30) (nI ((now + 1) % 12)) x_54) else 9) else zm9), .int ((s_newly wv vs ds nh nd own (now + 1) (s_stay vs (zs1 σ 0 (nI (now + 1))) nd) i_12).1 (i_12 + 18)), .int (nI (i_12)), .ref (A (s + 1))]) rfl ?_
                      refine z_eq (y := (s_c9 (wv ((s_newly wv vs ds nh nd own (now + 1) (s_stay vs (zs1 σ 0 (nI (now + 1))) nd) i_12).1 (i_12 + 18)) (s_bits (s_in (s_come (s_newly wv vs ds nh nd own (now + 1) (s_stay vs (zs1 σ 0 (nI (now + 1))) nd) i_12).1 (nI (kb)) i_12) (nI kb) nd) 30) (nI ((now + 1) % 12)) x_54))) (s_c9_b _) ?_
                      refine z_iadd dX1_passes_301 ?_
                      refine z_iconst (v := 0) dX1_passes_302 (by decide) ?_
                      refine z_bipush (v := 99) dX1_passes_303 (by decide) ?_
                      refine z_callS (As := [.int (((s_newly wv vs ds nh nd own (now + 1) (s_stay vs (zs1 σ 0 (nI (now + 1))) nd) i_12).1 (i_12 + 18)) + (s_c9 (wv ((s_newly wv vs ds nh nd own (now + 1) (s_stay vs (zs1 σ 0 (nI (now + 1))) nd) i_12).1 (i_12 + 18)) (s_bits (s_in (s_come (s_newly wv vs ds nh nd own (now + 1) (s_stay vs (zs1 σ 0 (nI (now + 1))) nd) i_12).1 (nI (kb)) i_12) (nI kb) nd) 30) (nI ((now + 1) % 12)) x_54))), .int 0, .int 99]) (c_between (((s_newly wv vs ds nh nd own (now + 1) (s_stay vs (zs1 σ 0 (nI (now + 1))) nd) i_12).1 (i_12 + 18)) + (s_c9 (wv ((s_newly wv vs ds nh nd own (now + 1) (s_stay vs (zs1 σ 0 (nI (now + 1))) nd) i_12).1 (i_12 + 18)) (s_bits (s_in (s_come (s_newly wv vs ds nh nd own (now + 1) (s_stay vs (zs1 σ 0 (nI (now + 1))) nd) i_12).1 (nI (kb)) i_12) (nI kb) nd) 30) (nI ((now + 1) % 12)) x_54))) 0 99) q1265 q1266 q112 q1267 nm_X1_between rfl (Nat.le_of_ble_eq_true rfl) ⟨Nat.le_of_ble_eq_true rfl, Nat.le_of_ble_eq_true rfl⟩ dX1_passes_305 rfl rfl (Nat.le_of_ble_eq_true rfl) (Nat.le_of_ble_eq_true rfl) (fun v_65 X_66 hp_67 => ?_)
                      obtain ⟨rfl, rfl⟩ := hp_67
                      refine z_st (st' := [.int (if 0 < (if (((s_newly wv vs ds nh nd own (now + 1) (s_stay vs (zs1 σ 0 (nI (now + 1))) nd) i_12).1 (i_12 + 18)) + (s_c9 (wv ((s_newly wv vs ds nh nd own (now + 1) (s_stay vs (zs1 σ 0 (nI (now + 1))) nd) i_12).1 (i_12 + 18)) (s_bits (s_in (s_come (s_newly wv vs ds nh nd own (now + 1) (s_stay vs (zs1 σ 0 (nI (now + 1))) nd) i_12).1 (nI (kb)) i_12) (nI kb) nd) 30) (nI ((now + 1) % 12)) x_54))) < 99 then (((s_newly wv vs ds nh nd own (now + 1) (s_stay vs (zs1 σ 0 (nI (now + 1))) nd) i_12).1 (i_12 + 18)) + (s_c9 (wv ((s_newly wv vs ds nh nd own (now + 1) (s_stay vs (zs1 σ 0 (nI (now + 1))) nd) i_12).1 (i_12 + 18)) (s_bits (s_in (s_come (s_newly wv vs ds nh nd own (now + 1) (s_stay vs (zs1 σ 0 (nI (now + 1))) nd) i_12).1 (nI (kb)) i_12) (nI kb) nd) 30) (nI ((now + 1) % 12)) x_54))) else 99) then (if (((s_newly wv vs ds nh nd own (now + 1) (s_stay vs (zs1 σ 0 (nI (now + 1))) nd) i_12).1 (i_12 + 18)) + (s_c9 (wv ((s_newly wv vs ds nh nd own (now + 1) (s_stay vs (zs1 σ 0 (nI (now + 1))) nd) i_12).1 (i_12 + 18)) (s_bits (s_in (s_come (s_newly wv vs ds nh nd own (now + 1) (s_stay vs (zs1 σ 0 (nI (now + 1))) nd) i_12).1 (nI (kb)) i_12) (nI kb) nd) 30) (nI ((now + 1) % 12)) x_54))) < 99 then (((s_newly wv vs ds nh nd own (now + 1) (s_stay vs (zs1 σ 0 (nI (now + 1))) nd) i_12).1 (i_12 + 18)) + (s_c9 (wv ((s_newly wv vs ds nh nd own (now + 1) (s_stay vs (zs1 σ 0 (nI (now + 1))) nd) i_12).1 (i_12 + 18)) (s_bits (s_in (s_come (s_newly wv vs ds nh nd own (now + 1) (s_stay vs (zs1 σ 0 (nI (now + 1))) nd) i_12).1 (nI (kb)) i_12) (nI kb) nd) 30) (nI ((now + 1) % 12)) x_54))) else 99) else 0), .int (nI (i_12)), .ref (A (s + 1))]) rfl ?_
                      refine z_eq (y := (s_c99 (((s_newly wv vs ds nh nd own (now + 1) (s_stay vs (zs1 σ 0 (nI (now + 1))) nd) i_12).1 (i_12 + 18)) + (s_c9 (wv ((s_newly wv vs ds nh nd own (now + 1) (s_stay vs (zs1 σ 0 (nI (now + 1))) nd) i_12).1 (i_12 + 18)) (s_bits (s_in (s_come (s_newly wv vs ds nh nd own (now + 1) (s_stay vs (zs1 σ 0 (nI (now + 1))) nd) i_12).1 (nI (kb)) i_12) (nI kb) nd) 30) (nI ((now + 1) % 12)) x_54))))) (s_c99_b _) ?_
                      refine cz_iast (K' := (cput (zs K 99 8 ((s_newly wv vs ds nh nd own (now + 1) (s_stay vs (zs1 σ 0 (nI (now + 1))) nd) i_12).2.2)) s (zs1 (s_come (s_newly wv vs ds nh nd own (now + 1) (s_stay vs (zs1 σ 0 (nI (now + 1))) nd) i_12).1 (nI (kb)) i_12) (i_12 + 18) (s_c99 (((s_newly wv vs ds nh nd own (now + 1) (s_stay vs (zs1 σ 0 (nI (now + 1))) nd) i_12).1 (i_12 + 18)) + (s_c9 (wv ((s_newly wv vs ds nh nd own (now + 1) (s_stay vs (zs1 σ 0 (nI (now + 1))) nd) i_12).1 (i_12 + 18)) (s_bits (s_in (s_come (s_newly wv vs ds nh nd own (now + 1) (s_stay vs (zs1 σ 0 (nI (now + 1))) nd) i_12).1 (nI (kb)) i_12) (nI kb) nd) 30) (nI ((now + 1) % 12)) x_54))))) ds (nI ((now + 1) % 12)) (nI ((now + 1) / 12)))) (s + 1) i_12 hA (by unfold cia; omega) rfl (by rw [csz_q hA hs (by omega)]; omega) (by rw [cput_zsays (by omega)]) dX1_passes_308 ?_
                      have hst : s_newly wv vs ds nh nd own (now + 1) (s_stay vs (zs1 σ 0 (nI (now + 1))) nd) (i_12 + 1) = (s_spoke wv (s_newly wv vs ds nh nd own (now + 1) (s_stay vs (zs1 σ 0 (nI (now + 1))) nd) i_12).1 (nI kb) nd (now + 1) i_12, (s_newly wv vs ds nh nd own (now + 1) (s_stay vs (zs1 σ 0 (nI (now + 1))) nd) i_12).2.1 ||| s_bit i_12, (s_newly wv vs ds nh nd own (now + 1) (s_stay vs (zs1 σ 0 (nI (now + 1))) nd) i_12).2.2) := (s_newly_on ⟨c_27', s_pos0 (hiw.2.1 i_12 (by omega)) c_29, c_41⟩ hkbe (by omega))
                      refine z_iinc (v := nI (i_12 + 1)) (lv' := [(3, .int (nI (i_12 + 1))), (2, .int x_47), (4, .int (nI (kb))), (0, .ref (A 99)), (1, .ref (A (s + 9)))]) 4 dX1_passes_309 rfl (nI_1 _) (by decide) rfl ?_
                      refine z_goto 90 dX1_passes_312 (by decide) ?_
                      have f_68 : x_47 = (s_newly wv vs ds nh nd own (now + 1) (s_stay vs (zs1 σ 0 (nI (now + 1))) nd) (i_12 + 1)).2.1 := by (try subst ex_54); (try subst ex_47); (try subst ex_46); rw [hst]; simp only [s_spoke, s_bit]
                      subst f_68
                      refine z_lv (lv' := [(0, .ref (A 99)), (1, .ref (A (s + 9))), (2, .int ((s_newly wv vs ds nh nd own (now + 1) (s_stay vs (zs1 σ 0 (nI (now + 1))) nd) (i_12 + 1)).2.1)), (3, .int (nI (i_12 + 1)))]) [3, 4, 1, 0] rfl ?_
                      refine z_X (X' := (cX g A (cput (zs K 99 8 ((s_newly wv vs ds nh nd own (now + 1) (s_stay vs (zs1 σ 0 (nI (now + 1))) nd) (i_12 + 1)).2.2)) s ((s_newly wv vs ds nh nd own (now + 1) (s_stay vs (zs1 σ 0 (nI (now + 1))) nd) (i_12 + 1)).1) ds (nI ((now + 1) % 12)) (nI ((now + 1) / 12))) (zs1 (zs1 (zs1 (zs1 F_17 0 ((s_newly wv vs ds nh nd own (now + 1) (s_stay vs (zs1 σ 0 (nI (now + 1))) nd) i_12).1 (i_12 + 18))) 1 (s_bits (s_in (s_come (s_newly wv vs ds nh nd own (now + 1) (s_stay vs (zs1 σ 0 (nI (now + 1))) nd) i_12).1 (nI (kb)) i_12) (nI kb) nd) 30)) 2 (nI ((now + 1) % 12))) 3 x_54) O gl X)) (by (try subst ex_54); (try subst ex_47); (try subst ex_46); rw [hst]; simp only [s_spoke, s_bit]) ?_
                      exact ih_14 (i_12 + 1) (by omega) (by omega) _ 
                  · -- ¬ 0 ≤ s_bed vs ((s_newly wv vs ds nh nd own (now + 1) (s_stay vs (zs1 σ 0 (nI (now + 1))) nd) i_12).1) nh nd (own i_12) i_12
                    have c_45' := Int32.not_le.mp c_45
                    refine z_aload_n 1 dX1_passes_157 rfl ?_
                    refine z_dup dX1_passes_158 rfl ?_
                    refine cz_get (v := .int ((s_newly wv vs ds nh nd own (now + 1) (s_stay vs (zs1 σ 0 (nI (now + 1))) nd) i_12).2.2)) 8 hA (by decide) q335 (congrArg (fun z => some (Value.int z)) (by rw [cput_a (by omega)]; rfl)) dX1_passes_159 ?_
                    refine z_iconst (v := 1) dX1_passes_162 (by decide) ?_
                    refine z_iload_n 4 dX1_passes_163 rfl ?_
                    refine z_ishl dX1_passes_164 ?_
                    refine z_ior dX1_passes_165 ?_
                    obtain ⟨x_69, ex_69⟩ : ∃ y : Int32, (((s_newly wv vs ds nh nd own (now + 1) (s_stay vs (zs1 σ 0 (nI (now + 1))) nd) i_12).2.2) ||| (1 <<< ((nI (i_12)) &&& 31))) = y := ⟨_, rfl⟩
                    refine z_eq ex_69 ?_
                    refine cz_put (K' := (cput (zs K 99 8 x_69) s ((s_newly wv vs ds nh nd own (now + 1) (s_stay vs (zs1 σ 0 (nI (now + 1))) nd) i_12).1) ds (nI ((now + 1) % 12)) (nI ((now + 1) / 12)))) 8 hA (by decide) q335 (by rw [cput_zo (by omega), zs_zs]) dX1_passes_166 ?_
                    refine z_aload_n 2 dX1_passes_169 rfl ?_
                    refine z_dup dX1_passes_170 rfl ?_
                    refine cz_getSN (s := s) (v := .int (((s_newly wv vs ds nh nd own (now + 1) (s_stay vs (zs1 σ 0 (nI (now + 1))) nd) i_12).1) 1)) 8 hA hs (by decide) q277 (congrArg (fun z => some (Value.int z)) ((cput_f (q := 8)).trans (by show ((s_newly wv vs ds nh nd own (now + 1) (s_stay vs (zs1 σ 0 (nI (now + 1))) nd) i_12).1) 1 = _; rfl))) dX1_passes_171 ?_
                    refine z_iconst (v := 1) dX1_passes_174 (by decide) ?_
                    refine z_iadd dX1_passes_175 ?_
                    obtain ⟨x_70, ex_70⟩ : ∃ y : Int32, ((((s_newly wv vs ds nh nd own (now + 1) (s_stay vs (zs1 σ 0 (nI (now + 1))) nd) i_12).1) 1) + 1) = y := ⟨_, rfl⟩
                    refine z_eq ex_70 ?_
                    refine cz_putSN (s := s) (K' := (cput (zs K 99 8 x_69) s (zs1 ((s_newly wv vs ds nh nd own (now + 1) (s_stay vs (zs1 σ 0 (nI (now + 1))) nd) i_12).1) 1 x_70) ds (nI ((now + 1) % 12)) (nI ((now + 1) / 12)))) 8 hA hs (by decide) q277 (by rw [cput_zref]) dX1_passes_176 ?_
                    refine z_goto 309 dX1_passes_179 (by decide) ?_
                    have hst : s_newly wv vs ds nh nd own (now + 1) (s_stay vs (zs1 σ 0 (nI (now + 1))) nd) (i_12 + 1) = (zs1 (s_newly wv vs ds nh nd own (now + 1) (s_stay vs (zs1 σ 0 (nI (now + 1))) nd) i_12).1 1 ((s_newly wv vs ds nh nd own (now + 1) (s_stay vs (zs1 σ 0 (nI (now + 1))) nd) i_12).1 1 + 1), (s_newly wv vs ds nh nd own (now + 1) (s_stay vs (zs1 σ 0 (nI (now + 1))) nd) i_12).2.1, (s_newly wv vs ds nh nd own (now + 1) (s_stay vs (zs1 σ 0 (nI (now + 1))) nd) i_12).2.2 ||| s_bit i_12) := (s_newly_off ⟨c_27', s_pos0 (hiw.2.1 i_12 (by omega)) c_29, c_41⟩ c_45')
                    refine z_iinc (v := nI (i_12 + 1)) (lv' := [(3, .int (nI (i_12 + 1))), (4, .int (s_bed vs ((s_newly wv vs ds nh nd own (now + 1) (s_stay vs (zs1 σ 0 (nI (now + 1))) nd) i_12).1) nh nd (own i_12) i_12)), (0, .ref (A 99)), (1, .ref (A (s + 9))), (2, .int ((s_newly wv vs ds nh nd own (now + 1) (s_stay vs (zs1 σ 0 (nI (now + 1))) nd) i_12).2.1))]) 4 dX1_passes_309 rfl (nI_1 _) (by decide) rfl ?_
                    refine z_goto 90 dX1_passes_312 (by decide) ?_
                    have f_71 : (s_newly wv vs ds nh nd own (now + 1) (s_stay vs (zs1 σ 0 (nI (now + 1))) nd) i_12).2.1 = (s_newly wv vs ds nh nd own (now + 1) (s_stay vs (zs1 σ 0 (nI (now + 1))) nd) (i_12 + 1)).2.1 := by (try subst ex_70); (try subst ex_69); rw [hst]; try simp only [s_bit]
                    refine z_lv (lv' := [(0, .ref (A 99)), (1, .ref (A (s + 9))), (2, .int ((s_newly wv vs ds nh nd own (now + 1) (s_stay vs (zs1 σ 0 (nI (now + 1))) nd) (i_12 + 1)).2.1)), (3, .int (nI (i_12 + 1)))]) [2, 3, 4, 0] (by rw [← f_71]; rfl) ?_
                    refine z_X (X' := (cX g A (cput (zs K 99 8 ((s_newly wv vs ds nh nd own (now + 1) (s_stay vs (zs1 σ 0 (nI (now + 1))) nd) (i_12 + 1)).2.2)) s ((s_newly wv vs ds nh nd own (now + 1) (s_stay vs (zs1 σ 0 (nI (now + 1))) nd) (i_12 + 1)).1) ds (nI ((now + 1) % 12)) (nI ((now + 1) / 12))) F_17 O gl X)) (by (try subst ex_70); (try subst ex_69); rw [hst]; try simp only [s_bit]) ?_
                    exact ih_14 (i_12 + 1) (by omega) (by omega) _ 
                · -- s_date vs ds (now + 1) i_12 = false
                  refine z_goto 309 dX1_passes_141 (by decide) ?_
                  have hst : s_newly wv vs ds nh nd own (now + 1) (s_stay vs (zs1 σ 0 (nI (now + 1))) nd) (i_12 + 1) = (s_newly wv vs ds nh nd own (now + 1) (s_stay vs (zs1 σ 0 (nI (now + 1))) nd) i_12) := (s_newly_no (fun z => by have z2 := z.2.2; rw [c_41] at z2; exact absurd z2 (by decide)))
                  refine z_iinc (v := nI (i_12 + 1)) (lv' := [(3, .int (nI (i_12 + 1))), (0, .ref (A 99)), (1, .ref (A (s + 9))), (2, .int ((s_newly wv vs ds nh nd own (now + 1) (s_stay vs (zs1 σ 0 (nI (now + 1))) nd) i_12).2.1))]) 3 dX1_passes_309 rfl (nI_1 _) (by decide) rfl ?_
                  refine z_goto 90 dX1_passes_312 (by decide) ?_
                  have f_72 : (s_newly wv vs ds nh nd own (now + 1) (s_stay vs (zs1 σ 0 (nI (now + 1))) nd) i_12).2.1 = (s_newly wv vs ds nh nd own (now + 1) (s_stay vs (zs1 σ 0 (nI (now + 1))) nd) (i_12 + 1)).2.1 := by skip; rw [hst]; try simp only [s_bit]
                  refine z_lv (lv' := [(0, .ref (A 99)), (1, .ref (A (s + 9))), (2, .int ((s_newly wv vs ds nh nd own (now + 1) (s_stay vs (zs1 σ 0 (nI (now + 1))) nd) (i_12 + 1)).2.1)), (3, .int (nI (i_12 + 1)))]) [1, 2, 3, 0] (by rw [← f_72]; rfl) ?_
                  refine z_X (X' := (cX g A (cput (zs K 99 8 ((s_newly wv vs ds nh nd own (now + 1) (s_stay vs (zs1 σ 0 (nI (now + 1))) nd) (i_12 + 1)).2.2)) s ((s_newly wv vs ds nh nd own (now + 1) (s_stay vs (zs1 σ 0 (nI (now + 1))) nd) (i_12 + 1)).1) ds (nI ((now + 1) % 12)) (nI ((now + 1) / 12))) F_17 O gl X)) (by skip; rw [hst]; try simp only [s_bit]) ?_
                  exact ih_14 (i_12 + 1) (by omega) (by omega) _ 
        have f_73 : 0 = (s_newly wv vs ds nh nd own (now + 1) (s_stay vs (zs1 σ 0 (nI (now + 1))) nd) 0).2.1 := by rfl
        refine z_lv (lv' := [(0, .ref (A 99)), (1, .ref (A (s + 9))), (2, .int ((s_newly wv vs ds nh nd own (now + 1) (s_stay vs (zs1 σ 0 (nI (now + 1))) nd) 0).2.1)), (3, .int 0)]) [1, 2, 3, 0] (by rw [← f_73]; rfl) ?_
        refine z_X (X' := (cX g A (cput (zs K 99 8 ((s_newly wv vs ds nh nd own (now + 1) (s_stay vs (zs1 σ 0 (nI (now + 1))) nd) 0).2.2)) s ((s_newly wv vs ds nh nd own (now + 1) (s_stay vs (zs1 σ 0 (nI (now + 1))) nd) 0).1) ds (nI ((now + 1) % 12)) (nI ((now + 1) / 12))) F O gl X)) (by rfl) ?_
        exact loop_16 (nd - 0) 0 (by omega) (Nat.le_refl _) _ 
      | succ q_3 ih_4 =>
        intro i_2 hb_5 lo_7  
        refine z_iload_n 3 dX1_passes_39 rfl ?_
        refine z_aload_n 0 dX1_passes_40 rfl ?_
        refine z_callV (As := []) (c_guests (K := (cput (zs K 99 8 0) s (s_stay vs (zs1 σ 0 (nI (now + 1))) i_2) ds (nI ((now + 1) % 12)) (nI ((now + 1) / 12)))) (F := F) (gl := gl) hA hO hxv hlh heh hch1 hch2 hlg heg hcg1 hcg2) q1139 q1141 qs30 q112 q1142 nm_X1_guests (cX_obj hA) rfl rfl rfl (Nat.le_of_ble_eq_true rfl) ⟨Nat.le_of_ble_eq_true rfl, Nat.le_of_ble_eq_true rfl⟩ dX1_passes_41 rfl rfl (Nat.le_of_ble_eq_true rfl) (Nat.le_of_ble_eq_true rfl) (fun v_74 X_75 hp_76 => ?_)
        obtain ⟨rfl, rfl⟩ := hp_76
        refine z_st (st' := [.int (nI (nd)), .int (nI (i_2))]) rfl ?_
        refine z_icmp_geN (a := i_2) (b := nd) 88 (by omega) (by omega) dX1_passes_44 (by decide) (fun c_77 => absurd c_77 (by omega)) (fun c_77 => ?_)
        refine z_aload_n 1 dX1_passes_47 rfl ?_
        refine cz_getSN (s := s) (v := .ref (A (s + 2))) 2 hA hs (by decide) q265 rfl dX1_passes_48 ?_
        refine z_iload_n 3 dX1_passes_51 rfl ?_
        refine cz_iald (v := (s_stay vs (zs1 σ 0 (nI (now + 1))) i_2) (i_2 + 6)) (s + 2) i_2 hA (by unfold cia; omega) rfl (by rw [csz_q hA hs (by omega)]; omega) (cput_where (by omega)) dX1_passes_52 ?_
        refine z_if_lt 82 dX1_passes_53 (by decide) (fun c_78 => ?_) (fun c_78 => ?_)
        · -- (s_stay vs (zs1 σ 0 (nI (now + 1))) i_2) (i_2 + 6) < 0
          have c_78' := Int32.not_le.mpr c_78
          refine z_iinc (v := nI (i_2 + 1)) (lv' := [(3, .int (nI (i_2 + 1))), (0, .ref (A 99)), (1, .ref (A (s + 9))), (2, .int 0)]) 3 dX1_passes_82 rfl (nI_1 _) (by decide) rfl ?_
          refine z_goto 39 dX1_passes_85 (by decide) ?_
          refine z_lv (lv' := [(0, .ref (A 99)), (1, .ref (A (s + 9))), (2, .int 0), (3, .int (nI (i_2 + 1)))]) [1, 2, 3, 0] rfl ?_
          refine z_X (X' := (cX g A (cput (zs K 99 8 0) s (s_stay vs (zs1 σ 0 (nI (now + 1))) (i_2 + 1)) ds (nI ((now + 1) % 12)) (nI ((now + 1) / 12))) F O gl X)) (by skip; simp only [s_stay, reduceIte, c_1, hb_5, c_77, c_78, c_78']) ?_
          exact ih_4 (i_2 + 1) (by omega) (by omega)  
        · -- ¬ (s_stay vs (zs1 σ 0 (nI (now + 1))) i_2) (i_2 + 6) < 0
          have c_78' := Int32.not_lt.mp c_78
          refine z_aload_n 1 dX1_passes_56 rfl ?_
          refine cz_getSN (s := s) (v := .ref (A (s + 3))) 3 hA hs (by decide) q267 rfl dX1_passes_57 ?_
          refine z_iload_n 3 dX1_passes_60 rfl ?_
          refine z_dup2_11 dX1_passes_61 rfl rfl ?_
          refine cz_iald (v := (s_stay vs (zs1 σ 0 (nI (now + 1))) i_2) (i_2 + 12)) (s + 3) i_2 hA (by unfold cia; omega) rfl (by rw [csz_q hA hs (by omega)]; omega) (cput_been (by omega)) dX1_passes_62 ?_
          refine z_iconst (v := 1) dX1_passes_63 (by decide) ?_
          refine z_iadd dX1_passes_64 ?_
          refine z_dup_x2 dX1_passes_65 rfl rfl rfl ?_
          obtain ⟨x_79, ex_79⟩ : ∃ y : Int32, (((s_stay vs (zs1 σ 0 (nI (now + 1))) i_2) (i_2 + 12)) + 1) = y := ⟨_, rfl⟩
          refine z_eq ex_79 ?_
          refine cz_iast (K' := (cput (zs K 99 8 0) s (zs1 (s_stay vs (zs1 σ 0 (nI (now + 1))) i_2) (i_2 + 12) x_79) ds (nI ((now + 1) % 12)) (nI ((now + 1) / 12)))) (s + 3) i_2 hA (by unfold cia; omega) rfl (by rw [csz_q hA hs (by omega)]; omega) (by rw [cput_zbeen (by omega)]) dX1_passes_66 ?_
          refine z_aload_n 0 dX1_passes_67 rfl ?_
          refine cz_get (v := .ref v) 2 hA (by decide) q329 (by show some (va_rf (O 0 0)) = _; rw [hO]; rfl) dX1_passes_68 ?_
          refine z_callV (As := []) (c_stays (K := (cput (zs K 99 8 0) s (zs1 (s_stay vs (zs1 σ 0 (nI (now + 1))) i_2) (i_2 + 12) x_79) ds (nI ((now + 1) % 12)) (nI ((now + 1) / 12)))) (F := F) (gl := gl) (O := O) hA hxv hst9) q1213 q1214 q1215 q114 q1216 nm_X3_stays (cX_lo hA hxv) rfl rfl rfl (Nat.le_of_ble_eq_true rfl) ⟨Nat.le_of_ble_eq_true rfl, Nat.le_of_ble_eq_true rfl⟩ dX1_passes_71 rfl rfl (Nat.le_of_ble_eq_true rfl) (Nat.le_of_ble_eq_true rfl) (fun v_80 X_81 hp_82 => ?_)
          obtain ⟨rfl, rfl⟩ := hp_82
          refine z_st (st' := [.int (vs 2), .int (((s_stay vs (zs1 σ 0 (nI (now + 1))) i_2) (i_2 + 12)) + 1)]) rfl ?_
          refine z_icmp_ne 82 dX1_passes_74 (by decide) (fun c_83 => ?_) (fun c_83 => ?_)
          · -- ¬ (((s_stay vs (zs1 σ 0 (nI (now + 1))) i_2) (i_2 + 12)) + 1) = vs 2
            refine z_iinc (v := nI (i_2 + 1)) (lv' := [(3, .int (nI (i_2 + 1))), (0, .ref (A 99)), (1, .ref (A (s + 9))), (2, .int 0)]) 3 dX1_passes_82 rfl (nI_1 _) (by decide) rfl ?_
            refine z_goto 39 dX1_passes_85 (by decide) ?_
            refine z_lv (lv' := [(0, .ref (A 99)), (1, .ref (A (s + 9))), (2, .int 0), (3, .int (nI (i_2 + 1)))]) [1, 2, 3, 0] rfl ?_
            refine z_X (X' := (cX g A (cput (zs K 99 8 0) s (s_stay vs (zs1 σ 0 (nI (now + 1))) (i_2 + 1)) ds (nI ((now + 1) % 12)) (nI ((now + 1) / 12))) F O gl X)) (by (try subst ex_79); simp only [s_stay, reduceIte, c_1, hb_5, c_77, c_78, c_78', c_83]) ?_
            exact ih_4 (i_2 + 1) (by omega) (by omega)  
          · -- (((s_stay vs (zs1 σ 0 (nI (now + 1))) i_2) (i_2 + 12)) + 1) = vs 2
            refine z_aload_n 1 dX1_passes_77 rfl ?_
            refine z_iload_n 3 dX1_passes_78 rfl ?_
            refine z_callV (As := [.int (nI (i_2))]) (c_goes (F := F) (gl := gl) (K := (zs K 99 8 0)) (σ := (zs1 (s_stay vs (zs1 σ 0 (nI (now + 1))) i_2) (i_2 + 12) x_79)) (ds := ds) (dt := (nI ((now + 1) % 12))) (yr := (nI ((now + 1) / 12))) (O := O) hA hs i_2 (by omega)) q1217 q1218 q1219 q118 q1220 nm_X4_goes (cX_st hA hs) rfl rfl rfl (Nat.le_of_ble_eq_true rfl) ⟨Nat.le_of_ble_eq_true rfl, Nat.le_of_ble_eq_true rfl⟩ dX1_passes_79 rfl rfl (Nat.le_of_ble_eq_true rfl) (Nat.le_of_ble_eq_true rfl) (fun v_84 X_85 hp_86 => ?_)
            obtain ⟨rfl, rfl⟩ := hp_86
            refine z_st (st' := []) rfl ?_
            refine z_iinc (v := nI (i_2 + 1)) (lv' := [(3, .int (nI (i_2 + 1))), (0, .ref (A 99)), (1, .ref (A (s + 9))), (2, .int 0)]) 3 dX1_passes_82 rfl (nI_1 _) (by decide) rfl ?_
            refine z_goto 39 dX1_passes_85 (by decide) ?_
            refine z_lv (lv' := [(0, .ref (A 99)), (1, .ref (A (s + 9))), (2, .int 0), (3, .int (nI (i_2 + 1)))]) [1, 2, 3, 0] rfl ?_
            refine z_X (X' := (cX g A (cput (zs K 99 8 0) s (s_stay vs (zs1 σ 0 (nI (now + 1))) (i_2 + 1)) ds (nI ((now + 1) % 12)) (nI ((now + 1) / 12))) F O gl X)) (by (try subst ex_79); simp only [s_stay, reduceIte, c_1, hb_5, c_77, c_78, c_78', c_83]) ?_
            exact ih_4 (i_2 + 1) (by omega) (by omega)  
    refine z_lv (lv' := [(0, .ref (A 99)), (1, .ref (A (s + 9))), (2, .int 0), (3, .int 0)]) [2, 3, 1, 0] rfl ?_
    refine z_X (X' := (cX g A (cput (zs K 99 8 0) s (s_stay vs (zs1 σ 0 (nI (now + 1))) 0) ds (nI ((now + 1) % 12)) (nI ((now + 1) / 12))) F O gl X)) (by rw [show s_stay vs (zs1 σ 0 (nI (now + 1))) 0 = (zs1 σ 0 (nI (now + 1))) from rfl, cput_congr (σ := σ) (σ' := (zs1 σ 0 (nI (now + 1)))) (fun j h1 h2 => zs1_n (by omega))]) ?_
    exact loop_6 (nd - 0) 0 (by omega) (Nat.le_refl _)  
  · -- ((now % 12) + 1) % 12 = 0
    refine z_aload_n 2 dX1_passes_27 rfl ?_
    refine z_dup dX1_passes_28 rfl ?_
    refine cz_getSN (s := s) (v := .int (nI ((now / 12)))) 7 hA hs (by decide) q275 (congrArg (fun z => some (Value.int z)) (cput_f (q := 7))) dX1_passes_29 ?_
    refine z_iconst (v := 1) dX1_passes_32 (by decide) ?_
    refine z_iaddN (a := (now / 12)) (b := 1) dX1_passes_33 ?_
    refine cz_putSN (s := s) (K' := (cput (zs K 99 8 0) s σ ds (nI ((((now % 12) + 1) % 12))) (nI ((now / 12) + 1)))) 7 hA hs (by decide) q275 (by rw [cput_zyear]) dX1_passes_34 ?_
    refine z_X (X' := (cX g A (cput (zs K 99 8 0) s σ ds (nI ((now + 1) % 12)) (nI ((now + 1) / 12))) F O gl X)) (by rw [show (now % 12 + 1) % 12 = (now + 1) % 12 by omega, show now / 12 + 1 = (now + 1) / 12 by omega]) ?_
    refine z_iconst (v := 0) dX1_passes_37 (by decide) ?_
    refine z_istore_n (lv' := [(3, .int 0), (2, .int 0), (0, .ref (A 99)), (1, .ref (A (s + 9)))]) dX1_passes_38 rfl (by decide) rfl ?_
    have loop_91 : ∀ (q_88 i_87 : Nat), i_87 + q_88 = nd → 0 ≤ i_87 → zZ g m_X1_passes (fun rv X' => rv = some (.int ((s_pass wv vs ds nh nd own now σ).2.1)) ∧ ∃ F' : Nat → Int32, X' = (cX g A (cput (zs K 99 8 ((s_pass wv vs ds nh nd own now σ).2.2)) s ((s_pass wv vs ds nh nd own now σ).1) ds (nI ((now + 1) % 12)) (nI ((now + 1) / 12))) F' O gl X), zno, ({ frames := 1001, cells := 0, slots := 0, locals := 40023 } : Room)) 0 0 (cX g A (cput (zs K 99 8 0) s (s_stay vs (zs1 σ 0 (nI (now + 1))) i_87) ds (nI ((now + 1) % 12)) (nI ((now + 1) / 12))) F O gl X) 39 [(0, .ref (A 99)), (1, .ref (A (s + 9))), (2, .int 0), (3, .int (nI (i_87)))] [] := by
      intro q_88
      induction q_88 with
      | zero =>
        intro i_87 hb_90 lo_92  
        obtain rfl : nd = i_87 := by omega
        refine z_iload_n 3 dX1_passes_39 rfl ?_
        refine z_aload_n 0 dX1_passes_40 rfl ?_
        refine z_callV (As := []) (c_guests (K := (cput (zs K 99 8 0) s (s_stay vs (zs1 σ 0 (nI (now + 1))) nd) ds (nI ((now + 1) % 12)) (nI ((now + 1) / 12)))) (F := F) (gl := gl) hA hO hxv hlh heh hch1 hch2 hlg heg hcg1 hcg2) q1139 q1141 qs30 q112 q1142 nm_X1_guests (cX_obj hA) rfl rfl rfl (Nat.le_of_ble_eq_true rfl) ⟨Nat.le_of_ble_eq_true rfl, Nat.le_of_ble_eq_true rfl⟩ dX1_passes_41 rfl rfl (Nat.le_of_ble_eq_true rfl) (Nat.le_of_ble_eq_true rfl) (fun v_93 X_94 hp_95 => ?_)
        obtain ⟨rfl, rfl⟩ := hp_95
        refine z_st (st' := [.int (nI (nd)), .int (nI (nd))]) rfl ?_
        refine z_icmp_geN (a := nd) (b := nd) 88 (by omega) (by omega) dX1_passes_44 (by decide) (fun c_96 => ?_) (fun c_96 => absurd c_96 (by omega))
        refine z_iconst (v := 0) dX1_passes_88 (by decide) ?_
        refine z_istore_n (lv' := [(3, .int 0), (0, .ref (A 99)), (1, .ref (A (s + 9))), (2, .int 0)]) dX1_passes_89 rfl (by decide) rfl ?_
        have loop_101 : ∀ (q_98 i_97 : Nat), i_97 + q_98 = nd → 0 ≤ i_97 → ∀ (F_102 : Nat → Int32), zZ g m_X1_passes (fun rv X' => rv = some (.int ((s_pass wv vs ds nh nd own now σ).2.1)) ∧ ∃ F' : Nat → Int32, X' = (cX g A (cput (zs K 99 8 ((s_pass wv vs ds nh nd own now σ).2.2)) s ((s_pass wv vs ds nh nd own now σ).1) ds (nI ((now + 1) % 12)) (nI ((now + 1) / 12))) F' O gl X), zno, ({ frames := 1001, cells := 0, slots := 0, locals := 40023 } : Room)) 0 0 (cX g A (cput (zs K 99 8 ((s_newly wv vs ds nh nd own (now + 1) (s_stay vs (zs1 σ 0 (nI (now + 1))) nd) i_97).2.2)) s ((s_newly wv vs ds nh nd own (now + 1) (s_stay vs (zs1 σ 0 (nI (now + 1))) nd) i_97).1) ds (nI ((now + 1) % 12)) (nI ((now + 1) / 12))) F_102 O gl X) 90 [(0, .ref (A 99)), (1, .ref (A (s + 9))), (2, .int ((s_newly wv vs ds nh nd own (now + 1) (s_stay vs (zs1 σ 0 (nI (now + 1))) nd) i_97).2.1)), (3, .int (nI (i_97)))] [] := by
          intro q_98
          induction q_98 with
          | zero =>
            intro i_97 hb_100 lo_103 F_102 
            obtain rfl : nd = i_97 := by omega
            refine z_iload_n 3 dX1_passes_90 rfl ?_
            refine z_aload_n 0 dX1_passes_91 rfl ?_
            refine z_callV (As := []) (c_guests (K := (cput (zs K 99 8 ((s_newly wv vs ds nh nd own (now + 1) (s_stay vs (zs1 σ 0 (nI (now + 1))) nd) nd).2.2)) s ((s_newly wv vs ds nh nd own (now + 1) (s_stay vs (zs1 σ 0 (nI (now + 1))) nd) nd).1) ds (nI ((now + 1) % 12)) (nI ((now + 1) / 12)))) (F := F_102) (gl := gl) hA hO hxv hlh heh hch1 hch2 hlg heg hcg1 hcg2) q1139 q1141 qs30 q112 q1142 nm_X1_guests (cX_obj hA) rfl rfl rfl (Nat.le_of_ble_eq_true rfl) ⟨Nat.le_of_ble_eq_true rfl, Nat.le_of_ble_eq_true rfl⟩ dX1_passes_92 rfl rfl (Nat.le_of_ble_eq_true rfl) (Nat.le_of_ble_eq_true rfl) (fun v_104 X_105 hp_106 => ?_)
            obtain ⟨rfl, rfl⟩ := hp_106
            refine z_st (st' := [.int (nI (nd)), .int (nI (nd))]) rfl ?_
            refine z_icmp_geN (a := nd) (b := nd) 315 (by omega) (by omega) dX1_passes_95 (by decide) (fun c_107 => ?_) (fun c_107 => absurd c_107 (by omega))
            refine z_iload_n 2 dX1_passes_315 rfl ?_
            exact z_iret dX1_passes_316 rfl (Nat.le_of_ble_eq_true rfl) (Nat.le_of_ble_eq_true rfl) ⟨rfl, F_102, rfl⟩
          | succ q_98 ih_99 =>
            intro i_97 hb_100 lo_103 F_102 
            refine z_iload_n 3 dX1_passes_90 rfl ?_
            refine z_aload_n 0 dX1_passes_91 rfl ?_
            refine z_callV (As := []) (c_guests (K := (cput (zs K 99 8 ((s_newly wv vs ds nh nd own (now + 1) (s_stay vs (zs1 σ 0 (nI (now + 1))) nd) i_97).2.2)) s ((s_newly wv vs ds nh nd own (now + 1) (s_stay vs (zs1 σ 0 (nI (now + 1))) nd) i_97).1) ds (nI ((now + 1) % 12)) (nI ((now + 1) / 12)))) (F := F_102) (gl := gl) hA hO hxv hlh heh hch1 hch2 hlg heg hcg1 hcg2) q1139 q1141 qs30 q112 q1142 nm_X1_guests (cX_obj hA) rfl rfl rfl (Nat.le_of_ble_eq_true rfl) ⟨Nat.le_of_ble_eq_true rfl, Nat.le_of_ble_eq_true rfl⟩ dX1_passes_92 rfl rfl (Nat.le_of_ble_eq_true rfl) (Nat.le_of_ble_eq_true rfl) (fun v_108 X_109 hp_110 => ?_)
            obtain ⟨rfl, rfl⟩ := hp_110
            refine z_st (st' := [.int (nI (nd)), .int (nI (i_97))]) rfl ?_
            refine z_icmp_geN (a := i_97) (b := nd) 315 (by omega) (by omega) dX1_passes_95 (by decide) (fun c_111 => absurd c_111 (by omega)) (fun c_111 => ?_)
            have hiw : s_iv (s_newly wv vs ds nh nd own (now + 1) (s_stay vs (zs1 σ 0 (nI (now + 1))) nd) i_97).1 nd := s_iv_newly hV (s_iv_stay (s_iv_low hiv (by decide)) nd hnd) i_97 (by omega)
            have hz := hiw.1
            refine z_aload_n 1 dX1_passes_98 rfl ?_
            refine cz_getSN (s := s) (v := .ref (A (s + 2))) 2 hA hs (by decide) q265 rfl dX1_passes_99 ?_
            refine z_iload_n 3 dX1_passes_102 rfl ?_
            refine cz_iald (v := ((s_newly wv vs ds nh nd own (now + 1) (s_stay vs (zs1 σ 0 (nI (now + 1))) nd) i_97).1) (i_97 + 6)) (s + 2) i_97 hA (by unfold cia; omega) rfl (by rw [csz_q hA hs (by omega)]; omega) (cput_where (by omega)) dX1_passes_103 ?_
            refine z_if_ge 309 dX1_passes_104 (by decide) (fun c_112 => ?_) (fun c_112 => ?_)
            · -- 0 ≤ ((s_newly wv vs ds nh nd own (now + 1) (s_stay vs (zs1 σ 0 (nI (now + 1))) nd) i_97).1) (i_97 + 6)
              have c_112' := Int32.not_lt.mpr c_112
              have hst : s_newly wv vs ds nh nd own (now + 1) (s_stay vs (zs1 σ 0 (nI (now + 1))) nd) (i_97 + 1) = (s_newly wv vs ds nh nd own (now + 1) (s_stay vs (zs1 σ 0 (nI (now + 1))) nd) i_97) := (s_newly_no (fun z => absurd z.1 c_112'))
              refine z_iinc (v := nI (i_97 + 1)) (lv' := [(3, .int (nI (i_97 + 1))), (0, .ref (A 99)), (1, .ref (A (s + 9))), (2, .int ((s_newly wv vs ds nh nd own (now + 1) (s_stay vs (zs1 σ 0 (nI (now + 1))) nd) i_97).2.1))]) 3 dX1_passes_309 rfl (nI_1 _) (by decide) rfl ?_
              refine z_goto 90 dX1_passes_312 (by decide) ?_
              have f_113 : (s_newly wv vs ds nh nd own (now + 1) (s_stay vs (zs1 σ 0 (nI (now + 1))) nd) i_97).2.1 = (s_newly wv vs ds nh nd own (now + 1) (s_stay vs (zs1 σ 0 (nI (now + 1))) nd) (i_97 + 1)).2.1 := by skip; rw [hst]; try simp only [s_bit]
              refine z_lv (lv' := [(0, .ref (A 99)), (1, .ref (A (s + 9))), (2, .int ((s_newly wv vs ds nh nd own (now + 1) (s_stay vs (zs1 σ 0 (nI (now + 1))) nd) (i_97 + 1)).2.1)), (3, .int (nI (i_97 + 1)))]) [1, 2, 3, 0] (by rw [← f_113]; rfl) ?_
              refine z_X (X' := (cX g A (cput (zs K 99 8 ((s_newly wv vs ds nh nd own (now + 1) (s_stay vs (zs1 σ 0 (nI (now + 1))) nd) (i_97 + 1)).2.2)) s ((s_newly wv vs ds nh nd own (now + 1) (s_stay vs (zs1 σ 0 (nI (now + 1))) nd) (i_97 + 1)).1) ds (nI ((now + 1) % 12)) (nI ((now + 1) / 12))) F_102 O gl X)) (by skip; rw [hst]; try simp only [s_bit]) ?_
              exact ih_99 (i_97 + 1) (by omega) (by omega) _ 
            · -- ¬ 0 ≤ ((s_newly wv vs ds nh nd own (now + 1) (s_stay vs (zs1 σ 0 (nI (now + 1))) nd) i_97).1) (i_97 + 6)
              have c_112' := Int32.not_le.mp c_112
              refine z_aload_n 1 dX1_passes_107 rfl ?_
              refine cz_getSN (s := s) (v := .ref (A (s + 1))) 1 hA hs (by decide) q261 rfl dX1_passes_108 ?_
              refine z_iload_n 3 dX1_passes_111 rfl ?_
              refine cz_iald (v := ((s_newly wv vs ds nh nd own (now + 1) (s_stay vs (zs1 σ 0 (nI (now + 1))) nd) i_97).1) (i_97 + 18)) (s + 1) i_97 hA (by unfold cia; omega) rfl (by rw [csz_q hA hs (by omega)]; omega) (cput_says (by omega)) dX1_passes_112 ?_
              refine z_if_eq 309 dX1_passes_113 (by decide) (fun c_114 => ?_) (fun c_114 => ?_)
              · -- ((s_newly wv vs ds nh nd own (now + 1) (s_stay vs (zs1 σ 0 (nI (now + 1))) nd) i_97).1) (i_97 + 18) = 0
                have hst : s_newly wv vs ds nh nd own (now + 1) (s_stay vs (zs1 σ 0 (nI (now + 1))) nd) (i_97 + 1) = (s_newly wv vs ds nh nd own (now + 1) (s_stay vs (zs1 σ 0 (nI (now + 1))) nd) i_97) := (s_newly_no (fun z => by have z2 := z.2.1; rw [c_114] at z2; exact absurd z2 (by decide)))
                refine z_iinc (v := nI (i_97 + 1)) (lv' := [(3, .int (nI (i_97 + 1))), (0, .ref (A 99)), (1, .ref (A (s + 9))), (2, .int ((s_newly wv vs ds nh nd own (now + 1) (s_stay vs (zs1 σ 0 (nI (now + 1))) nd) i_97).2.1))]) 3 dX1_passes_309 rfl (nI_1 _) (by decide) rfl ?_
                refine z_goto 90 dX1_passes_312 (by decide) ?_
                have f_115 : (s_newly wv vs ds nh nd own (now + 1) (s_stay vs (zs1 σ 0 (nI (now + 1))) nd) i_97).2.1 = (s_newly wv vs ds nh nd own (now + 1) (s_stay vs (zs1 σ 0 (nI (now + 1))) nd) (i_97 + 1)).2.1 := by skip; rw [hst]; try simp only [s_bit]
                refine z_lv (lv' := [(0, .ref (A 99)), (1, .ref (A (s + 9))), (2, .int ((s_newly wv vs ds nh nd own (now + 1) (s_stay vs (zs1 σ 0 (nI (now + 1))) nd) (i_97 + 1)).2.1)), (3, .int (nI (i_97 + 1)))]) [1, 2, 3, 0] (by rw [← f_115]; rfl) ?_
                refine z_X (X' := (cX g A (cput (zs K 99 8 ((s_newly wv vs ds nh nd own (now + 1) (s_stay vs (zs1 σ 0 (nI (now + 1))) nd) (i_97 + 1)).2.2)) s ((s_newly wv vs ds nh nd own (now + 1) (s_stay vs (zs1 σ 0 (nI (now + 1))) nd) (i_97 + 1)).1) ds (nI ((now + 1) % 12)) (nI ((now + 1) / 12))) F_102 O gl X)) (by skip; rw [hst]; try simp only [s_bit]) ?_
                exact ih_99 (i_97 + 1) (by omega) (by omega) _ 
              · -- ¬ ((s_newly wv vs ds nh nd own (now + 1) (s_stay vs (zs1 σ 0 (nI (now + 1))) nd) i_97).1) (i_97 + 18) = 0
                refine z_aload_n 0 dX1_passes_116 rfl ?_
                refine z_iload_n 3 dX1_passes_117 rfl ?_
                obtain ⟨a_116, m_117, k_120, he_118, hk_121, hkv_122, ha_119⟩ := hgs i_97 (by omega)
                refine z_callV (As := [.int (nI (i_97))]) (c_guest (K := (cput (zs K 99 8 ((s_newly wv vs ds nh nd own (now + 1) (s_stay vs (zs1 σ 0 (nI (now + 1))) nd) i_97).2.2)) s ((s_newly wv vs ds nh nd own (now + 1) (s_stay vs (zs1 σ 0 (nI (now + 1))) nd) i_97).1) ds (nI ((now + 1) % 12)) (nI ((now + 1) / 12)))) (F := F_102) (gl := gl) hA hO hxv hlh heh hch1 hch2 hlg heg hcg1 hcg2 i_97 (by omega) hk_121 he_118 ha_119) q1143 q1145 qs31 q112 q1146 nm_X1_guest (cX_obj hA) rfl rfl rfl (Nat.le_of_ble_eq_true rfl) ⟨Nat.le_of_ble_eq_true rfl, Nat.le_of_ble_eq_true rfl⟩ dX1_passes_118 rfl rfl (Nat.le_of_ble_eq_true rfl) (Nat.le_of_ble_eq_true rfl) (fun v_123 X_124 hp_125 => ?_)
                obtain ⟨rfl, rfl⟩ := hp_125
                refine z_st (st' := [.ref a_116]) rfl ?_
                refine z_aload_n 1 dX1_passes_121 rfl ?_
                refine cz_getSN (s := s) (v := .ref (A (s + 5))) 5 hA hs (by decide) q271 rfl dX1_passes_122 ?_
                refine z_iload_n 3 dX1_passes_125 rfl ?_
                refine cz_iald (v := ds i_97) (s + 5) i_97 hA (by unfold cia; omega) rfl (by rw [csz_q hA hs (by omega)]; omega) (cput_month (by omega)) dX1_passes_126 ?_
                refine z_aload_n 1 dX1_passes_127 rfl ?_
                refine cz_getSN (s := s) (v := .int (nI ((now + 1) % 12))) 6 hA hs (by decide) q273 (congrArg (fun z => some (Value.int z)) (cput_f (q := 6))) dX1_passes_128 ?_
                refine z_aload_n 1 dX1_passes_131 rfl ?_
                refine cz_getSN (s := s) (v := .int (nI ((now + 1) / 12))) 7 hA hs (by decide) q275 (congrArg (fun z => some (Value.int z)) (cput_f (q := 7))) dX1_passes_132 ?_
                refine z_gComes (cX_lo hA ha_119) (hk0 := hk_121) (by omega) (by omega) q1221 (Nat.le_of_ble_eq_true rfl) (Nat.le_of_ble_eq_true rfl) (Nat.le_of_ble_eq_true rfl) dX1_passes_135 (Nat.le_of_ble_eq_true rfl) (Nat.le_of_ble_eq_true rfl) ?_
                refine z_eq (y := zb (s_date vs ds (now + 1) i_97)) (congrArg zb (s_kdate hk_121 hkv_122)) ?_
                refine z_if_neb 144 dX1_passes_138 (by decide) (fun c_126 => ?_) (fun c_126 => ?_)
                · -- s_date vs ds (now + 1) i_97 = true
                  refine z_aload_n 0 dX1_passes_144 rfl ?_
                  refine z_aload_n 1 dX1_passes_145 rfl ?_
                  refine z_iload_n 3 dX1_passes_146 rfl ?_
                  refine z_callV (As := [.ref (A (s + 9)), .int (nI (i_97))]) (c_taking (F := F_102) (gl := gl) (K := (zs K 99 8 ((s_newly wv vs ds nh nd own (now + 1) (s_stay vs (zs1 σ 0 (nI (now + 1))) nd) i_97).2.2))) (σ := (s_newly wv vs ds nh nd own (now + 1) (s_stay vs (zs1 σ 0 (nI (now + 1))) nd) i_97).1) (ds := ds) (dt := (nI ((now + 1) % 12))) (yr := (nI ((now + 1) / 12))) hA hO hV hv hs hz i_97 (by omega)) q1233 q1235 qs37 q112 q1236 nm_X1_taking (cX_obj hA) rfl rfl rfl (Nat.le_of_ble_eq_true rfl) ⟨Nat.le_of_ble_eq_true rfl, Nat.le_of_ble_eq_true rfl⟩ dX1_passes_147 rfl rfl (Nat.le_of_ble_eq_true rfl) (Nat.le_of_ble_eq_true rfl) (fun v_127 X_128 hp_129 => ?_)
                  obtain ⟨rfl, rfl⟩ := hp_129
                  refine z_st (st' := [.int (s_bed vs ((s_newly wv vs ds nh nd own (now + 1) (s_stay vs (zs1 σ 0 (nI (now + 1))) nd) i_97).1) nh nd (own i_97) i_97)]) rfl ?_
                  refine z_istore (lv' := [(4, .int (s_bed vs ((s_newly wv vs ds nh nd own (now + 1) (s_stay vs (zs1 σ 0 (nI (now + 1))) nd) i_97).1) nh nd (own i_97) i_97)), (0, .ref (A 99)), (1, .ref (A (s + 9))), (2, .int ((s_newly wv vs ds nh nd own (now + 1) (s_stay vs (zs1 σ 0 (nI (now + 1))) nd) i_97).2.1)), (3, .int (nI (i_97)))]) dX1_passes_150 (by decide) rfl ?_
                  refine z_iload 0 dX1_passes_152 rfl ?_
                  refine z_if_ge 182 dX1_passes_154 (by decide) (fun c_130 => ?_) (fun c_130 => ?_)
                  · -- 0 ≤ s_bed vs ((s_newly wv vs ds nh nd own (now + 1) (s_stay vs (zs1 σ 0 (nI (now + 1))) nd) i_97).1) nh nd (own i_97) i_97
                    have c_130' := Int32.not_lt.mpr c_130
                    obtain ⟨kb, hkb, hkbe⟩ : ∃ kb, kb < nh ∧ s_bed vs ((s_newly wv vs ds nh nd own (now + 1) (s_stay vs (zs1 σ 0 (nI (now + 1))) nd) i_97).1) nh nd (own i_97) i_97 = nI kb := by rcases s_bed_cases (vs := vs) (σ := (s_newly wv vs ds nh nd own (now + 1) (s_stay vs (zs1 σ 0 (nI (now + 1))) nd) i_97).1) (nh := nh) (nd := nd) (d := i_97) (hown i_97 (by omega)).2 with e | e; rw [e] at c_130; exact absurd c_130 (by decide); exact e
                    refine z_lv (lv' := [(4, .int (nI (kb))), (0, .ref (A 99)), (1, .ref (A (s + 9))), (2, .int ((s_newly wv vs ds nh nd own (now + 1) (s_stay vs (zs1 σ 0 (nI (now + 1))) nd) i_97).2.1)), (3, .int (nI (i_97)))]) [0, 1, 2, 3, 4] (by rw [hkbe]; rfl) ?_
                    refine z_aload_n 2 dX1_passes_182 rfl ?_
                    refine cz_getSN (s := s) (v := .ref (A (s + 2))) 2 hA hs (by decide) q265 rfl dX1_passes_183 ?_
                    refine z_iload_n 4 dX1_passes_186 rfl ?_
                    refine z_iload 0 dX1_passes_187 rfl ?_
                    refine cz_iast (K' := (cput (zs K 99 8 ((s_newly wv vs ds nh nd own (now + 1) (s_stay vs (zs1 σ 0 (nI (now + 1))) nd) i_97).2.2)) s (zs1 ((s_newly wv vs ds nh nd own (now + 1) (s_stay vs (zs1 σ 0 (nI (now + 1))) nd) i_97).1) (i_97 + 6) (nI (kb))) ds (nI ((now + 1) % 12)) (nI ((now + 1) / 12)))) (s + 2) i_97 hA (by unfold cia; omega) rfl (by rw [csz_q hA hs (by omega)]; omega) (by rw [cput_zwhere (by omega)]) dX1_passes_189 ?_
                    refine z_aload_n 2 dX1_passes_190 rfl ?_
                    refine cz_getSN (s := s) (v := .ref (A (s + 4))) 4 hA hs (by decide) q269 rfl dX1_passes_191 ?_
                    refine z_iload_n 4 dX1_passes_194 rfl ?_
                    refine z_dup2_11 dX1_passes_195 rfl rfl ?_
                    refine cz_iald (v := ((s_newly wv vs ds nh nd own (now + 1) (s_stay vs (zs1 σ 0 (nI (now + 1))) nd) i_97).1) (i_97 + 24)) (s + 4) i_97 hA (by unfold cia; omega) rfl (by rw [csz_q hA hs (by omega)]; omega) ((cput_times (by omega)).trans (by rw [zs1_n (by omega)])) dX1_passes_196 ?_
                    refine z_iconst (v := 1) dX1_passes_197 (by decide) ?_
                    refine z_iadd dX1_passes_198 ?_
                    obtain ⟨x_131, ex_131⟩ : ∃ y : Int32, ((((s_newly wv vs ds nh nd own (now + 1) (s_stay vs (zs1 σ 0 (nI (now + 1))) nd) i_97).1) (i_97 + 24)) + 1) = y := ⟨_, rfl⟩
                    refine z_eq ex_131 ?_
                    refine cz_iast (K' := (cput (zs K 99 8 ((s_newly wv vs ds nh nd own (now + 1) (s_stay vs (zs1 σ 0 (nI (now + 1))) nd) i_97).2.2)) s (zs1 (zs1 ((s_newly wv vs ds nh nd own (now + 1) (s_stay vs (zs1 σ 0 (nI (now + 1))) nd) i_97).1) (i_97 + 6) (nI (kb))) (i_97 + 24) x_131) ds (nI ((now + 1) % 12)) (nI ((now + 1) / 12)))) (s + 4) i_97 hA (by unfold cia; omega) rfl (by rw [csz_q hA hs (by omega)]; omega) (by rw [cput_ztimes (by omega)]) dX1_passes_199 ?_
                    refine z_iload_n 3 dX1_passes_200 rfl ?_
                    refine z_iconst (v := 1) dX1_passes_201 (by decide) ?_
                    refine z_iload_n 4 dX1_passes_202 rfl ?_
                    refine z_ishl dX1_passes_203 ?_
                    refine z_ior dX1_passes_204 ?_
                    obtain ⟨x_132, ex_132⟩ : ∃ y : Int32, (((s_newly wv vs ds nh nd own (now + 1) (s_stay vs (zs1 σ 0 (nI (now + 1))) nd) i_97).2.1) ||| (1 <<< ((nI (i_97)) &&& 31))) = y := ⟨_, rfl⟩
                    refine z_eq ex_132 ?_
                    refine z_istore_n (lv' := [(2, .int x_132), (4, .int (nI (kb))), (0, .ref (A 99)), (1, .ref (A (s + 9))), (3, .int (nI (i_97)))]) dX1_passes_205 rfl (by decide) rfl ?_
                    refine z_X (X' := (cX g A (cput (zs K 99 8 ((s_newly wv vs ds nh nd own (now + 1) (s_stay vs (zs1 σ 0 (nI (now + 1))) nd) i_97).2.2)) s (s_come (s_newly wv vs ds nh nd own (now + 1) (s_stay vs (zs1 σ 0 (nI (now + 1))) nd) i_97).1 (nI (kb)) i_97) ds (nI ((now + 1) % 12)) (nI ((now + 1) / 12))) F_102 O gl X)) (by rw [← ex_131, s_come_eq (hiw.2.2 i_97 (by omega) c_112')]) ?_
                    have hiC := s_iv_come (k := kb) hiw (show i_97 < nd by omega) hnd (by omega)
                    obtain ⟨m9, hm9, em9⟩ := s_in_64 (σ := (s_come (s_newly wv vs ds nh nd own (now + 1) (s_stay vs (zs1 σ 0 (nI (now + 1))) nd) i_97).1 (nI (kb)) i_97)) (h := nI kb) 6 (by decide)
                    refine z_aload_n 2 dX1_passes_206 rfl ?_
                    refine cz_get (v := .ref (A 6)) 6 hA (by decide) q333 rfl dX1_passes_207 ?_
                    refine z_iconst (v := 0) dX1_passes_210 (by decide) ?_
                    refine z_aload_n 3 dX1_passes_211 rfl ?_
                    refine cz_getSN (s := s) (v := .ref (A (s + 1))) 1 hA hs (by decide) q261 rfl dX1_passes_212 ?_
                    refine z_iload_n 4 dX1_passes_215 rfl ?_
                    refine cz_iald (v := (s_newly wv vs ds nh nd own (now + 1) (s_stay vs (zs1 σ 0 (nI (now + 1))) nd) i_97).1 (i_97 + 18)) (s + 1) i_97 hA (by unfold cia; omega) rfl (by rw [csz_q hA hs (by omega)]; omega) ((cput_says (by omega)).trans s_come_18) dX1_passes_216 ?_
                    refine cz_iastF 0 hA rfl (by omega) dX1_passes_217 ?_
                    refine z_aload_n 2 dX1_passes_218 rfl ?_
                    refine cz_get (v := .ref (A 6)) 6 hA (by decide) q333 rfl dX1_passes_219 ?_
                    refine z_iconst (v := 1) dX1_passes_222 (by decide) ?_
                    refine z_aload_n 3 dX1_passes_223 rfl ?_
                    refine z_iload 1 dX1_passes_224 rfl ?_
                    refine z_callV (As := [.int (nI (kb))]) (c_in (F := (zs1 F_102 0 ((s_newly wv vs ds nh nd own (now + 1) (s_stay vs (zs1 σ 0 (nI (now + 1))) nd) i_97).1 (i_97 + 18)))) (O := O) (gl := gl) hA hs (nI (kb))) q1159 q1160 q1161 q118 q1162 nm_X4_in (cX_st hA hs) rfl rfl rfl (Nat.le_of_ble_eq_true rfl) ⟨Nat.le_of_ble_eq_true rfl, Nat.le_of_ble_eq_true rfl⟩ dX1_passes_226 rfl rfl (Nat.le_of_ble_eq_true rfl) (Nat.le_of_ble_eq_true rfl) (fun v_133 X_134 hp_135 => ?_)
                    obtain ⟨rfl, rfl⟩ := hp_135
                    refine z_st (st' := [.int (s_in (s_come (s_newly wv vs ds nh nd own (now + 1) (s_stay vs (zs1 σ 0 (nI (now + 1))) nd) i_97).1 (nI (kb)) i_97) (nI (kb)) 6), .int 1, .ref (A 6)]) rfl ?_
                    refine z_eq (y := nI (m9)) em9 ?_
                    refine z_callS (As := [.int (nI (m9))]) (t_bitCount m9 (by omega)) q1242 q1243 q151 q1244 nm_J17_bitCount rfl (Nat.le_of_ble_eq_true rfl) ⟨Nat.le_of_ble_eq_true rfl, Nat.le_of_ble_eq_true rfl⟩ dX1_passes_229 rfl rfl (Nat.le_of_ble_eq_true rfl) (Nat.le_of_ble_eq_true rfl) (fun v_136 X_137 hp_138 => ?_)
                    obtain ⟨rfl, rfl⟩ := hp_138
                    refine z_st (st' := [.int (s_bits (nI (m9)) 30), .int 1, .ref (A 6)]) rfl ?_
                    refine z_eq (y := s_bits (s_in (s_come (s_newly wv vs ds nh nd own (now + 1) (s_stay vs (zs1 σ 0 (nI (now + 1))) nd) i_97).1 (nI (kb)) i_97) (nI kb) nd) 30) (by rw [← em9, s_in_6 hiC.1 (nI_m1 (by omega)) hnd]) ?_
                    refine cz_iastF 1 hA rfl (by omega) dX1_passes_232 ?_
                    refine z_aload_n 2 dX1_passes_233 rfl ?_
                    refine cz_get (v := .ref (A 6)) 6 hA (by decide) q333 rfl dX1_passes_234 ?_
                    refine z_iconst (v := 2) dX1_passes_237 (by decide) ?_
                    refine z_aload_n 3 dX1_passes_238 rfl ?_
                    refine cz_getSN (s := s) (v := .int (nI ((now + 1) % 12))) 6 hA hs (by decide) q273 (congrArg (fun z => some (Value.int z)) (cput_f (q := 6))) dX1_passes_239 ?_
                    refine cz_iastF 2 hA rfl (by omega) dX1_passes_242 ?_
                    refine z_aload_n 2 dX1_passes_243 rfl ?_
                    refine cz_get (v := .ref (A 6)) 6 hA (by decide) q333 rfl dX1_passes_244 ?_
                    refine z_iconst (v := 3) dX1_passes_247 (by decide) ?_
                    refine z_aload_n 3 dX1_passes_248 rfl ?_
                    refine cz_getSN (s := s) (v := .ref (A (s + 4))) 4 hA hs (by decide) q269 rfl dX1_passes_249 ?_
                    refine z_iload_n 4 dX1_passes_252 rfl ?_
                    refine cz_iald (v := ((s_newly wv vs ds nh nd own (now + 1) (s_stay vs (zs1 σ 0 (nI (now + 1))) nd) i_97).1 (i_97 + 24) + 1)) (s + 4) i_97 hA (by unfold cia; omega) rfl (by rw [csz_q hA hs (by omega)]; omega) ((cput_times (by omega)).trans s_come_24) dX1_passes_253 ?_
                    obtain ⟨x_139, ex_139⟩ : ∃ y : Int32, ((s_newly wv vs ds nh nd own (now + 1) (s_stay vs (zs1 σ 0 (nI (now + 1))) nd) i_97).1 (i_97 + 24) + 1) = y := ⟨_, rfl⟩
                    refine z_eq ex_139 ?_
                    refine cz_iastF 3 hA rfl (by omega) dX1_passes_254 ?_
                    refine z_aload_n 3 dX1_passes_255 rfl ?_
                    refine cz_getSN (s := s) (v := .ref (A (s + 1))) 1 hA hs (by decide) q261 rfl dX1_passes_256 ?_
                    refine z_iload_n 4 dX1_passes_259 rfl ?_
                    refine z_aload_n 3 dX1_passes_260 rfl ?_
                    refine cz_getSN (s := s) (v := .ref (A (s + 1))) 1 hA hs (by decide) q261 rfl dX1_passes_261 ?_
                    refine z_iload_n 4 dX1_passes_264 rfl ?_
                    refine cz_iald (v := (s_newly wv vs ds nh nd own (now + 1) (s_stay vs (zs1 σ 0 (nI (now + 1))) nd) i_97).1 (i_97 + 18)) (s + 1) i_97 hA (by unfold cia; omega) rfl (by rw [csz_q hA hs (by omega)]; omega) ((cput_says (by omega)).trans s_come_18) dX1_passes_265 ?_
                    refine z_aload_n 2 dX1_passes_266 rfl ?_
                    refine cz_get (v := .ref v) 2 hA (by decide) q329 (by show some (va_rf (O 0 0)) = _; rw [hO]; rfl) dX1_passes_267 ?_
                    refine z_getN (v := va_rf (fa)) 3 (cX_lo hA hxv) rfl in_X3 (by decide) q239 rfl dX1_passes_270 ?_
                    rcases hfa with ⟨rfl, hwn⟩ | ⟨e9, rfl, hex⟩
                    · skip
                      refine z_ifnonnullN dX1_passes_273 ?_
                      refine z_iconst (v := zm1) dX1_passes_276 (by decide) ?_
                      refine z_goto 301 dX1_passes_277 (by decide) ?_
                      refine z_iadd dX1_passes_301 ?_
                      refine z_iconst (v := 0) dX1_passes_302 (by decide) ?_
                      refine z_bipush (v := 99) dX1_passes_303 (by decide) ?_
                      refine z_callS (As := [.int (((s_newly wv vs ds nh nd own (now + 1) (s_stay vs (zs1 σ 0 (nI (now + 1))) nd) i_97).1 (i_97 + 18)) + zm1), .int 0, .int 99]) (c_between (((s_newly wv vs ds nh nd own (now + 1) (s_stay vs (zs1 σ 0 (nI (now + 1))) nd) i_97).1 (i_97 + 18)) + zm1) 0 99) q1265 q1266 q112 q1267 nm_X1_between rfl (Nat.le_of_ble_eq_true rfl) ⟨Nat.le_of_ble_eq_true rfl, Nat.le_of_ble_eq_true rfl⟩ dX1_passes_305 rfl rfl (Nat.le_of_ble_eq_true rfl) (Nat.le_of_ble_eq_true rfl) (fun v_140 X_141 hp_142 => ?_)
                      obtain ⟨rfl, rfl⟩ := hp_142
                      refine z_st (st' := [.int (if 0 < (if (((s_newly wv vs ds nh nd own (now + 1) (s_stay vs (zs1 σ 0 (nI (now + 1))) nd) i_97).1 (i_97 + 18)) + zm1) < 99 then (((s_newly wv vs ds nh nd own (now + 1) (s_stay vs (zs1 σ 0 (nI (now + 1))) nd) i_97).1 (i_97 + 18)) + zm1) else 99) then (if (((s_newly wv vs ds nh nd own (now + 1) (s_stay vs (zs1 σ 0 (nI (now + 1))) nd) i_97).1 (i_97 + 18)) + zm1) < 99 then (((s_newly wv vs ds nh nd own (now + 1) (s_stay vs (zs1 σ 0 (nI (now + 1))) nd) i_97).1 (i_97 + 18)) + zm1) else 99) else 0), .int (nI (i_97)), .ref (A (s + 1))]) rfl ?_
                      refine z_eq (y := (s_c99 (((s_newly wv vs ds nh nd own (now + 1) (s_stay vs (zs1 σ 0 (nI (now + 1))) nd) i_97).1 (i_97 + 18)) + zm1))) (s_c99_b _) ?_
                      refine cz_iast (K' := (cput (zs K 99 8 ((s_newly wv vs ds nh nd own (now + 1) (s_stay vs (zs1 σ 0 (nI (now + 1))) nd) i_97).2.2)) s (zs1 (s_come (s_newly wv vs ds nh nd own (now + 1) (s_stay vs (zs1 σ 0 (nI (now + 1))) nd) i_97).1 (nI (kb)) i_97) (i_97 + 18) (s_c99 (((s_newly wv vs ds nh nd own (now + 1) (s_stay vs (zs1 σ 0 (nI (now + 1))) nd) i_97).1 (i_97 + 18)) + zm1))) ds (nI ((now + 1) % 12)) (nI ((now + 1) / 12)))) (s + 1) i_97 hA (by unfold cia; omega) rfl (by rw [csz_q hA hs (by omega)]; omega) (by rw [cput_zsays (by omega)]) dX1_passes_308 ?_
                      have hst : s_newly wv vs ds nh nd own (now + 1) (s_stay vs (zs1 σ 0 (nI (now + 1))) nd) (i_97 + 1) = (s_spoke wv (s_newly wv vs ds nh nd own (now + 1) (s_stay vs (zs1 σ 0 (nI (now + 1))) nd) i_97).1 (nI kb) nd (now + 1) i_97, (s_newly wv vs ds nh nd own (now + 1) (s_stay vs (zs1 σ 0 (nI (now + 1))) nd) i_97).2.1 ||| s_bit i_97, (s_newly wv vs ds nh nd own (now + 1) (s_stay vs (zs1 σ 0 (nI (now + 1))) nd) i_97).2.2) := (s_newly_on ⟨c_112', s_pos0 (hiw.2.1 i_97 (by omega)) c_114, c_126⟩ hkbe (by omega))
                      refine z_iinc (v := nI (i_97 + 1)) (lv' := [(3, .int (nI (i_97 + 1))), (2, .int x_132), (4, .int (nI (kb))), (0, .ref (A 99)), (1, .ref (A (s + 9)))]) 4 dX1_passes_309 rfl (nI_1 _) (by decide) rfl ?_
                      refine z_goto 90 dX1_passes_312 (by decide) ?_
                      have f_143 : x_132 = (s_newly wv vs ds nh nd own (now + 1) (s_stay vs (zs1 σ 0 (nI (now + 1))) nd) (i_97 + 1)).2.1 := by (try subst ex_139); (try subst ex_132); (try subst ex_131); rw [hst]; simp only [s_spoke, hwn, s_c9m1, s_bit]
                      subst f_143
                      refine z_lv (lv' := [(0, .ref (A 99)), (1, .ref (A (s + 9))), (2, .int ((s_newly wv vs ds nh nd own (now + 1) (s_stay vs (zs1 σ 0 (nI (now + 1))) nd) (i_97 + 1)).2.1)), (3, .int (nI (i_97 + 1)))]) [3, 4, 1, 0] rfl ?_
                      refine z_X (X' := (cX g A (cput (zs K 99 8 ((s_newly wv vs ds nh nd own (now + 1) (s_stay vs (zs1 σ 0 (nI (now + 1))) nd) (i_97 + 1)).2.2)) s ((s_newly wv vs ds nh nd own (now + 1) (s_stay vs (zs1 σ 0 (nI (now + 1))) nd) (i_97 + 1)).1) ds (nI ((now + 1) % 12)) (nI ((now + 1) / 12))) (zs1 (zs1 (zs1 (zs1 F_102 0 ((s_newly wv vs ds nh nd own (now + 1) (s_stay vs (zs1 σ 0 (nI (now + 1))) nd) i_97).1 (i_97 + 18))) 1 (s_bits (s_in (s_come (s_newly wv vs ds nh nd own (now + 1) (s_stay vs (zs1 σ 0 (nI (now + 1))) nd) i_97).1 (nI (kb)) i_97) (nI kb) nd) 30)) 2 (nI ((now + 1) % 12))) 3 x_139) O gl X)) (by (try subst ex_139); (try subst ex_132); (try subst ex_131); rw [hst]; simp only [s_spoke, hwn, s_c9m1, s_bit]) ?_
                      exact ih_99 (i_97 + 1) (by omega) (by omega) _ 
                    · skip
                      refine z_ifnonnull 280 dX1_passes_273 (by decide) ?_
                      refine z_aload_n 2 dX1_passes_280 rfl ?_
                      refine cz_get (v := .ref v) 2 hA (by decide) q329 (by show some (va_rf (O 0 0)) = _; rw [hO]; rfl) dX1_passes_281 ?_
                      refine z_getN (v := .ref e9) 3 (cX_lo hA hxv) rfl in_X3 (by decide) q239 rfl dX1_passes_284 ?_
                      refine z_aload_n 2 dX1_passes_287 rfl ?_
                      refine cz_get (v := .ref (A 6)) 6 hA (by decide) q333 rfl dX1_passes_288 ?_
                      obtain ⟨ciw, fsw, rw, Myw, hxw, hcw, h3w, h4w, h5w, h6w, h7w, hMw⟩ := c_worked (K := (cput (zs K 99 8 ((s_newly wv vs ds nh nd own (now + 1) (s_stay vs (zs1 σ 0 (nI (now + 1))) nd) i_97).2.2)) s (s_come (s_newly wv vs ds nh nd own (now + 1) (s_stay vs (zs1 σ 0 (nI (now + 1))) nd) i_97).1 (nI (kb)) i_97) ds (nI ((now + 1) % 12)) (nI ((now + 1) / 12)))) (F := (zs1 (zs1 (zs1 (zs1 F_102 0 ((s_newly wv vs ds nh nd own (now + 1) (s_stay vs (zs1 σ 0 (nI (now + 1))) nd) i_97).1 (i_97 + 18))) 1 (s_bits (s_in (s_come (s_newly wv vs ds nh nd own (now + 1) (s_stay vs (zs1 σ 0 (nI (now + 1))) nd) i_97).1 (nI (kb)) i_97) (nI kb) nd) 30)) 2 (nI ((now + 1) % 12))) 3 x_139)) (O := O) (gl := gl) hA 1000 e9 wv hex
                      refine z_callA (As := [.ref (A 6)]) (x := ⟨"DateVale$Expression", "worked", "([I)I"⟩) (owner := "DateVale$Expression") hMw q1248 q1250 h3w h4w h5w h6w q1249 ⟨by decide +kernel, by decide +kernel, nm_X13_worked.2.2⟩ (cX_lo hA hxw) hcw rfl (Nat.le_of_ble_eq_true rfl) ⟨Nat.le_of_ble_eq_true rfl, by show 8 + (Myw.2.2.1 + 11) + 40 * 1000 ≤ 40023; omega⟩ dX1_passes_291 rfl rfl (Nat.le_of_ble_eq_true rfl) (Nat.le_of_ble_eq_true rfl) (fun v_144 X_145 hp_146 => ?_)
                      obtain ⟨rfl, rfl⟩ := hp_146
                      refine z_st (st' := [.int (wv ((s_newly wv vs ds nh nd own (now + 1) (s_stay vs (zs1 σ 0 (nI (now + 1))) nd) i_97).1 (i_97 + 18)) (s_bits (s_in (s_come (s_newly wv vs ds nh nd own (now + 1) (s_stay vs (zs1 σ 0 (nI (now + 1))) nd) i_97).1 (nI (kb)) i_97) (nI kb) nd) 30) (nI ((now + 1) % 12)) x_139), .int ((s_newly wv vs ds nh nd own (now + 1) (s_stay vs (zs1 σ 0 (nI (now + 1))) nd) i_97).1 (i_97 + 18)), .int (nI (i_97)), .ref (A (s + 1))]) rfl ?_
                      refine z_bipush (v := zm9) dX1_passes_294 (by decide) ?_
                      refine z_bipush (v := 9) dX1_passes_296 (by decide) ?_
                      refine z_callS (As := [.int (wv ((s_newly wv vs ds nh nd own (now + 1) (s_stay vs (zs1 σ 0 (nI (now + 1))) nd) i_97).1 (i_97 + 18)) (s_bits (s_in (s_come (s_newly wv vs ds nh nd own (now + 1) (s_stay vs (zs1 σ 0 (nI (now + 1))) nd) i_97).1 (nI (kb)) i_97) (nI kb) nd) 30) (nI ((now + 1) % 12)) x_139), .int zm9, .int 9]) (c_between (wv ((s_newly wv vs ds nh nd own (now + 1) (s_stay vs (zs1 σ 0 (nI (now + 1))) nd) i_97).1 (i_97 + 18)) (s_bits (s_in (s_come (s_newly wv vs ds nh nd own (now + 1) (s_stay vs (zs1 σ 0 (nI (now + 1))) nd) i_97).1 (nI (kb)) i_97) (nI kb) nd) 30) (nI ((now + 1) % 12)) x_139) zm9 9) q1265 q1266 q112 q1267 nm_X1_between rfl (Nat.le_of_ble_eq_true rfl) ⟨Nat.le_of_ble_eq_true rfl, Nat.le_of_ble_eq_true rfl⟩ dX1_passes_298 rfl rfl (Nat.le_of_ble_eq_true rfl) (Nat.le_of_ble_eq_true rfl) (fun v_147 X_148 hp_149 => ?_)
                      obtain ⟨rfl, rfl⟩ := hp_149
                      refine z_st (st' := [.int (if zm9 < (if (wv ((s_newly wv vs ds nh nd own (now + 1) (s_stay vs (zs1 σ 0 (nI (now + 1))) nd) i_97).1 (i_97 + 18)) (s_bits (s_in (s_come (s_newly wv vs ds nh nd own (now + 1) (s_stay vs (zs1 σ 0 (nI (now + 1))) nd) i_97).1 (nI (kb)) i_97) (nI kb) nd) 30) (nI ((now + 1) % 12)) x_139) < 9 then (wv ((s_newly wv vs ds nh nd own (now + 1) (s_stay vs (zs1 σ 0 (nI (now + 1))) nd) i_97).1 (i_97 + 18)) (s_bits (s_in (s_come (s_newly wv vs ds nh nd own (now + 1) (s_stay vs (zs1 σ 0 (nI (now + 1))) nd) i_97).1 (nI (kb)) i_97) (nI kb) nd) 30) (nI ((now + 1) % 12)) x_139) else 9) then (if (wv ((s_newly wv vs ds nh nd own (now + 1) (s_stay vs (zs1 σ 0 (nI (now + 1))) nd) i_97).1 (i_97 + 18)) (s_bits (s_in (s_come (s_newly wv vs ds nh nd own (now + 1) (s_stay vs (zs1 σ 0 (nI (now + 1))) nd) i_97).1 (nI (kb)) i_97) (nI kb) nd) 30) (nI ((now + 1) % 12)) x_139) < 9 then (wv ((s_newly wv vs ds nh nd own (now + 1) (s_stay vs (zs1 σ 0 (nI (now + 1))) nd) i_97).1 (i_97 + 18)) (s_bits (s_in (s_come (s_newly wv vs ds nh nd own (now + 1) (s_stay vs (zs1 σ 0 (nI (now + 1))) nd) i_97).1 (nI (kb)) i_97) (nI kb) nd) 30) (nI ((now + 1) % 12)) x_139) else 9) else zm9), .int ((s_newly wv vs ds nh nd own (now + 1) (s_stay vs (zs1 σ 0 (nI (now + 1))) nd) i_97).1 (i_97 + 18)), .int (nI (i_97)), .ref (A (s + 1))]) rfl ?_
                      refine z_eq (y := (s_c9 (wv ((s_newly wv vs ds nh nd own (now + 1) (s_stay vs (zs1 σ 0 (nI (now + 1))) nd) i_97).1 (i_97 + 18)) (s_bits (s_in (s_come (s_newly wv vs ds nh nd own (now + 1) (s_stay vs (zs1 σ 0 (nI (now + 1))) nd) i_97).1 (nI (kb)) i_97) (nI kb) nd) 30) (nI ((now + 1) % 12)) x_139))) (s_c9_b _) ?_
                      refine z_iadd dX1_passes_301 ?_
                      refine z_iconst (v := 0) dX1_passes_302 (by decide) ?_
                      refine z_bipush (v := 99) dX1_passes_303 (by decide) ?_
                      refine z_callS (As := [.int (((s_newly wv vs ds nh nd own (now + 1) (s_stay vs (zs1 σ 0 (nI (now + 1))) nd) i_97).1 (i_97 + 18)) + (s_c9 (wv ((s_newly wv vs ds nh nd own (now + 1) (s_stay vs (zs1 σ 0 (nI (now + 1))) nd) i_97).1 (i_97 + 18)) (s_bits (s_in (s_come (s_newly wv vs ds nh nd own (now + 1) (s_stay vs (zs1 σ 0 (nI (now + 1))) nd) i_97).1 (nI (kb)) i_97) (nI kb) nd) 30) (nI ((now + 1) % 12)) x_139))), .int 0, .int 99]) (c_between (((s_newly wv vs ds nh nd own (now + 1) (s_stay vs (zs1 σ 0 (nI (now + 1))) nd) i_97).1 (i_97 + 18)) + (s_c9 (wv ((s_newly wv vs ds nh nd own (now + 1) (s_stay vs (zs1 σ 0 (nI (now + 1))) nd) i_97).1 (i_97 + 18)) (s_bits (s_in (s_come (s_newly wv vs ds nh nd own (now + 1) (s_stay vs (zs1 σ 0 (nI (now + 1))) nd) i_97).1 (nI (kb)) i_97) (nI kb) nd) 30) (nI ((now + 1) % 12)) x_139))) 0 99) q1265 q1266 q112 q1267 nm_X1_between rfl (Nat.le_of_ble_eq_true rfl) ⟨Nat.le_of_ble_eq_true rfl, Nat.le_of_ble_eq_true rfl⟩ dX1_passes_305 rfl rfl (Nat.le_of_ble_eq_true rfl) (Nat.le_of_ble_eq_true rfl) (fun v_150 X_151 hp_152 => ?_)
                      obtain ⟨rfl, rfl⟩ := hp_152
                      refine z_st (st' := [.int (if 0 < (if (((s_newly wv vs ds nh nd own (now + 1) (s_stay vs (zs1 σ 0 (nI (now + 1))) nd) i_97).1 (i_97 + 18)) + (s_c9 (wv ((s_newly wv vs ds nh nd own (now + 1) (s_stay vs (zs1 σ 0 (nI (now + 1))) nd) i_97).1 (i_97 + 18)) (s_bits (s_in (s_come (s_newly wv vs ds nh nd own (now + 1) (s_stay vs (zs1 σ 0 (nI (now + 1))) nd) i_97).1 (nI (kb)) i_97) (nI kb) nd) 30) (nI ((now + 1) % 12)) x_139))) < 99 then (((s_newly wv vs ds nh nd own (now + 1) (s_stay vs (zs1 σ 0 (nI (now + 1))) nd) i_97).1 (i_97 + 18)) + (s_c9 (wv ((s_newly wv vs ds nh nd own (now + 1) (s_stay vs (zs1 σ 0 (nI (now + 1))) nd) i_97).1 (i_97 + 18)) (s_bits (s_in (s_come (s_newly wv vs ds nh nd own (now + 1) (s_stay vs (zs1 σ 0 (nI (now + 1))) nd) i_97).1 (nI (kb)) i_97) (nI kb) nd) 30) (nI ((now + 1) % 12)) x_139))) else 99) then (if (((s_newly wv vs ds nh nd own (now + 1) (s_stay vs (zs1 σ 0 (nI (now + 1))) nd) i_97).1 (i_97 + 18)) + (s_c9 (wv ((s_newly wv vs ds nh nd own (now + 1) (s_stay vs (zs1 σ 0 (nI (now + 1))) nd) i_97).1 (i_97 + 18)) (s_bits (s_in (s_come (s_newly wv vs ds nh nd own (now + 1) (s_stay vs (zs1 σ 0 (nI (now + 1))) nd) i_97).1 (nI (kb)) i_97) (nI kb) nd) 30) (nI ((now + 1) % 12)) x_139))) < 99 then (((s_newly wv vs ds nh nd own (now + 1) (s_stay vs (zs1 σ 0 (nI (now + 1))) nd) i_97).1 (i_97 + 18)) + (s_c9 (wv ((s_newly wv vs ds nh nd own (now + 1) (s_stay vs (zs1 σ 0 (nI (now + 1))) nd) i_97).1 (i_97 + 18)) (s_bits (s_in (s_come (s_newly wv vs ds nh nd own (now + 1) (s_stay vs (zs1 σ 0 (nI (now + 1))) nd) i_97).1 (nI (kb)) i_97) (nI kb) nd) 30) (nI ((now + 1) % 12)) x_139))) else 99) else 0), .int (nI (i_97)), .ref (A (s + 1))]) rfl ?_
                      refine z_eq (y := (s_c99 (((s_newly wv vs ds nh nd own (now + 1) (s_stay vs (zs1 σ 0 (nI (now + 1))) nd) i_97).1 (i_97 + 18)) + (s_c9 (wv ((s_newly wv vs ds nh nd own (now + 1) (s_stay vs (zs1 σ 0 (nI (now + 1))) nd) i_97).1 (i_97 + 18)) (s_bits (s_in (s_come (s_newly wv vs ds nh nd own (now + 1) (s_stay vs (zs1 σ 0 (nI (now + 1))) nd) i_97).1 (nI (kb)) i_97) (nI kb) nd) 30) (nI ((now + 1) % 12)) x_139))))) (s_c99_b _) ?_
                      refine cz_iast (K' := (cput (zs K 99 8 ((s_newly wv vs ds nh nd own (now + 1) (s_stay vs (zs1 σ 0 (nI (now + 1))) nd) i_97).2.2)) s (zs1 (s_come (s_newly wv vs ds nh nd own (now + 1) (s_stay vs (zs1 σ 0 (nI (now + 1))) nd) i_97).1 (nI (kb)) i_97) (i_97 + 18) (s_c99 (((s_newly wv vs ds nh nd own (now + 1) (s_stay vs (zs1 σ 0 (nI (now + 1))) nd) i_97).1 (i_97 + 18)) + (s_c9 (wv ((s_newly wv vs ds nh nd own (now + 1) (s_stay vs (zs1 σ 0 (nI (now + 1))) nd) i_97).1 (i_97 + 18)) (s_bits (s_in (s_come (s_newly wv vs ds nh nd own (now + 1) (s_stay vs (zs1 σ 0 (nI (now + 1))) nd) i_97).1 (nI (kb)) i_97) (nI kb) nd) 30) (nI ((now + 1) % 12)) x_139))))) ds (nI ((now + 1) % 12)) (nI ((now + 1) / 12)))) (s + 1) i_97 hA (by unfold cia; omega) rfl (by rw [csz_q hA hs (by omega)]; omega) (by rw [cput_zsays (by omega)]) dX1_passes_308 ?_
                      have hst : s_newly wv vs ds nh nd own (now + 1) (s_stay vs (zs1 σ 0 (nI (now + 1))) nd) (i_97 + 1) = (s_spoke wv (s_newly wv vs ds nh nd own (now + 1) (s_stay vs (zs1 σ 0 (nI (now + 1))) nd) i_97).1 (nI kb) nd (now + 1) i_97, (s_newly wv vs ds nh nd own (now + 1) (s_stay vs (zs1 σ 0 (nI (now + 1))) nd) i_97).2.1 ||| s_bit i_97, (s_newly wv vs ds nh nd own (now + 1) (s_stay vs (zs1 σ 0 (nI (now + 1))) nd) i_97).2.2) := (s_newly_on ⟨c_112', s_pos0 (hiw.2.1 i_97 (by omega)) c_114, c_126⟩ hkbe (by omega))
                      refine z_iinc (v := nI (i_97 + 1)) (lv' := [(3, .int (nI (i_97 + 1))), (2, .int x_132), (4, .int (nI (kb))), (0, .ref (A 99)), (1, .ref (A (s + 9)))]) 4 dX1_passes_309 rfl (nI_1 _) (by decide) rfl ?_
                      refine z_goto 90 dX1_passes_312 (by decide) ?_
                      have f_153 : x_132 = (s_newly wv vs ds nh nd own (now + 1) (s_stay vs (zs1 σ 0 (nI (now + 1))) nd) (i_97 + 1)).2.1 := by (try subst ex_139); (try subst ex_132); (try subst ex_131); rw [hst]; simp only [s_spoke, s_bit]
                      subst f_153
                      refine z_lv (lv' := [(0, .ref (A 99)), (1, .ref (A (s + 9))), (2, .int ((s_newly wv vs ds nh nd own (now + 1) (s_stay vs (zs1 σ 0 (nI (now + 1))) nd) (i_97 + 1)).2.1)), (3, .int (nI (i_97 + 1)))]) [3, 4, 1, 0] rfl ?_
                      refine z_X (X' := (cX g A (cput (zs K 99 8 ((s_newly wv vs ds nh nd own (now + 1) (s_stay vs (zs1 σ 0 (nI (now + 1))) nd) (i_97 + 1)).2.2)) s ((s_newly wv vs ds nh nd own (now + 1) (s_stay vs (zs1 σ 0 (nI (now + 1))) nd) (i_97 + 1)).1) ds (nI ((now + 1) % 12)) (nI ((now + 1) / 12))) (zs1 (zs1 (zs1 (zs1 F_102 0 ((s_newly wv vs ds nh nd own (now + 1) (s_stay vs (zs1 σ 0 (nI (now + 1))) nd) i_97).1 (i_97 + 18))) 1 (s_bits (s_in (s_come (s_newly wv vs ds nh nd own (now + 1) (s_stay vs (zs1 σ 0 (nI (now + 1))) nd) i_97).1 (nI (kb)) i_97) (nI kb) nd) 30)) 2 (nI ((now + 1) % 12))) 3 x_139) O gl X)) (by (try subst ex_139); (try subst ex_132); (try subst ex_131); rw [hst]; simp only [s_spoke, s_bit]) ?_
                      exact ih_99 (i_97 + 1) (by omega) (by omega) _ 
                  · -- ¬ 0 ≤ s_bed vs ((s_newly wv vs ds nh nd own (now + 1) (s_stay vs (zs1 σ 0 (nI (now + 1))) nd) i_97).1) nh nd (own i_97) i_97
                    have c_130' := Int32.not_le.mp c_130
                    refine z_aload_n 1 dX1_passes_157 rfl ?_
                    refine z_dup dX1_passes_158 rfl ?_
                    refine cz_get (v := .int ((s_newly wv vs ds nh nd own (now + 1) (s_stay vs (zs1 σ 0 (nI (now + 1))) nd) i_97).2.2)) 8 hA (by decide) q335 (congrArg (fun z => some (Value.int z)) (by rw [cput_a (by omega)]; rfl)) dX1_passes_159 ?_
                    refine z_iconst (v := 1) dX1_passes_162 (by decide) ?_
                    refine z_iload_n 4 dX1_passes_163 rfl ?_
                    refine z_ishl dX1_passes_164 ?_
                    refine z_ior dX1_passes_165 ?_
                    obtain ⟨x_154, ex_154⟩ : ∃ y : Int32, (((s_newly wv vs ds nh nd own (now + 1) (s_stay vs (zs1 σ 0 (nI (now + 1))) nd) i_97).2.2) ||| (1 <<< ((nI (i_97)) &&& 31))) = y := ⟨_, rfl⟩
                    refine z_eq ex_154 ?_
                    refine cz_put (K' := (cput (zs K 99 8 x_154) s ((s_newly wv vs ds nh nd own (now + 1) (s_stay vs (zs1 σ 0 (nI (now + 1))) nd) i_97).1) ds (nI ((now + 1) % 12)) (nI ((now + 1) / 12)))) 8 hA (by decide) q335 (by rw [cput_zo (by omega), zs_zs]) dX1_passes_166 ?_
                    refine z_aload_n 2 dX1_passes_169 rfl ?_
                    refine z_dup dX1_passes_170 rfl ?_
                    refine cz_getSN (s := s) (v := .int (((s_newly wv vs ds nh nd own (now + 1) (s_stay vs (zs1 σ 0 (nI (now + 1))) nd) i_97).1) 1)) 8 hA hs (by decide) q277 (congrArg (fun z => some (Value.int z)) ((cput_f (q := 8)).trans (by show ((s_newly wv vs ds nh nd own (now + 1) (s_stay vs (zs1 σ 0 (nI (now + 1))) nd) i_97).1) 1 = _; rfl))) dX1_passes_171 ?_
                    refine z_iconst (v := 1) dX1_passes_174 (by decide) ?_
                    refine z_iadd dX1_passes_175 ?_
                    obtain ⟨x_155, ex_155⟩ : ∃ y : Int32, ((((s_newly wv vs ds nh nd own (now + 1) (s_stay vs (zs1 σ 0 (nI (now + 1))) nd) i_97).1) 1) + 1) = y := ⟨_, rfl⟩
                    refine z_eq ex_155 ?_
                    refine cz_putSN (s := s) (K' := (cput (zs K 99 8 x_154) s (zs1 ((s_newly wv vs ds nh nd own (now + 1) (s_stay vs (zs1 σ 0 (nI (now + 1))) nd) i_97).1) 1 x_155) ds (nI ((now + 1) % 12)) (nI ((now + 1) / 12)))) 8 hA hs (by decide) q277 (by rw [cput_zref]) dX1_passes_176 ?_
                    refine z_goto 309 dX1_passes_179 (by decide) ?_
                    have hst : s_newly wv vs ds nh nd own (now + 1) (s_stay vs (zs1 σ 0 (nI (now + 1))) nd) (i_97 + 1) = (zs1 (s_newly wv vs ds nh nd own (now + 1) (s_stay vs (zs1 σ 0 (nI (now + 1))) nd) i_97).1 1 ((s_newly wv vs ds nh nd own (now + 1) (s_stay vs (zs1 σ 0 (nI (now + 1))) nd) i_97).1 1 + 1), (s_newly wv vs ds nh nd own (now + 1) (s_stay vs (zs1 σ 0 (nI (now + 1))) nd) i_97).2.1, (s_newly wv vs ds nh nd own (now + 1) (s_stay vs (zs1 σ 0 (nI (now + 1))) nd) i_97).2.2 ||| s_bit i_97) := (s_newly_off ⟨c_112', s_pos0 (hiw.2.1 i_97 (by omega)) c_114, c_126⟩ c_130')
                    refine z_iinc (v := nI (i_97 + 1)) (lv' := [(3, .int (nI (i_97 + 1))), (4, .int (s_bed vs ((s_newly wv vs ds nh nd own (now + 1) (s_stay vs (zs1 σ 0 (nI (now + 1))) nd) i_97).1) nh nd (own i_97) i_97)), (0, .ref (A 99)), (1, .ref (A (s + 9))), (2, .int ((s_newly wv vs ds nh nd own (now + 1) (s_stay vs (zs1 σ 0 (nI (now + 1))) nd) i_97).2.1))]) 4 dX1_passes_309 rfl (nI_1 _) (by decide) rfl ?_
                    refine z_goto 90 dX1_passes_312 (by decide) ?_
                    have f_156 : (s_newly wv vs ds nh nd own (now + 1) (s_stay vs (zs1 σ 0 (nI (now + 1))) nd) i_97).2.1 = (s_newly wv vs ds nh nd own (now + 1) (s_stay vs (zs1 σ 0 (nI (now + 1))) nd) (i_97 + 1)).2.1 := by (try subst ex_155); (try subst ex_154); rw [hst]; try simp only [s_bit]
                    refine z_lv (lv' := [(0, .ref (A 99)), (1, .ref (A (s + 9))), (2, .int ((s_newly wv vs ds nh nd own (now + 1) (s_stay vs (zs1 σ 0 (nI (now + 1))) nd) (i_97 + 1)).2.1)), (3, .int (nI (i_97 + 1)))]) [2, 3, 4, 0] (by rw [← f_156]; rfl) ?_
                    refine z_X (X' := (cX g A (cput (zs K 99 8 ((s_newly wv vs ds nh nd own (now + 1) (s_stay vs (zs1 σ 0 (nI (now + 1))) nd) (i_97 + 1)).2.2)) s ((s_newly wv vs ds nh nd own (now + 1) (s_stay vs (zs1 σ 0 (nI (now + 1))) nd) (i_97 + 1)).1) ds (nI ((now + 1) % 12)) (nI ((now + 1) / 12))) F_102 O gl X)) (by (try subst ex_155); (try subst ex_154); rw [hst]; try simp only [s_bit]) ?_
                    exact ih_99 (i_97 + 1) (by omega) (by omega) _ 
                · -- s_date vs ds (now + 1) i_97 = false
                  refine z_goto 309 dX1_passes_141 (by decide) ?_
                  have hst : s_newly wv vs ds nh nd own (now + 1) (s_stay vs (zs1 σ 0 (nI (now + 1))) nd) (i_97 + 1) = (s_newly wv vs ds nh nd own (now + 1) (s_stay vs (zs1 σ 0 (nI (now + 1))) nd) i_97) := (s_newly_no (fun z => by have z2 := z.2.2; rw [c_126] at z2; exact absurd z2 (by decide)))
                  refine z_iinc (v := nI (i_97 + 1)) (lv' := [(3, .int (nI (i_97 + 1))), (0, .ref (A 99)), (1, .ref (A (s + 9))), (2, .int ((s_newly wv vs ds nh nd own (now + 1) (s_stay vs (zs1 σ 0 (nI (now + 1))) nd) i_97).2.1))]) 3 dX1_passes_309 rfl (nI_1 _) (by decide) rfl ?_
                  refine z_goto 90 dX1_passes_312 (by decide) ?_
                  have f_157 : (s_newly wv vs ds nh nd own (now + 1) (s_stay vs (zs1 σ 0 (nI (now + 1))) nd) i_97).2.1 = (s_newly wv vs ds nh nd own (now + 1) (s_stay vs (zs1 σ 0 (nI (now + 1))) nd) (i_97 + 1)).2.1 := by skip; rw [hst]; try simp only [s_bit]
                  refine z_lv (lv' := [(0, .ref (A 99)), (1, .ref (A (s + 9))), (2, .int ((s_newly wv vs ds nh nd own (now + 1) (s_stay vs (zs1 σ 0 (nI (now + 1))) nd) (i_97 + 1)).2.1)), (3, .int (nI (i_97 + 1)))]) [1, 2, 3, 0] (by rw [← f_157]; rfl) ?_
                  refine z_X (X' := (cX g A (cput (zs K 99 8 ((s_newly wv vs ds nh nd own (now + 1) (s_stay vs (zs1 σ 0 (nI (now + 1))) nd) (i_97 + 1)).2.2)) s ((s_newly wv vs ds nh nd own (now + 1) (s_stay vs (zs1 σ 0 (nI (now + 1))) nd) (i_97 + 1)).1) ds (nI ((now + 1) % 12)) (nI ((now + 1) / 12))) F_102 O gl X)) (by skip; rw [hst]; try simp only [s_bit]) ?_
                  exact ih_99 (i_97 + 1) (by omega) (by omega) _ 
        have f_158 : 0 = (s_newly wv vs ds nh nd own (now + 1) (s_stay vs (zs1 σ 0 (nI (now + 1))) nd) 0).2.1 := by rfl
        refine z_lv (lv' := [(0, .ref (A 99)), (1, .ref (A (s + 9))), (2, .int ((s_newly wv vs ds nh nd own (now + 1) (s_stay vs (zs1 σ 0 (nI (now + 1))) nd) 0).2.1)), (3, .int 0)]) [1, 2, 3, 0] (by rw [← f_158]; rfl) ?_
        refine z_X (X' := (cX g A (cput (zs K 99 8 ((s_newly wv vs ds nh nd own (now + 1) (s_stay vs (zs1 σ 0 (nI (now + 1))) nd) 0).2.2)) s ((s_newly wv vs ds nh nd own (now + 1) (s_stay vs (zs1 σ 0 (nI (now + 1))) nd) 0).1) ds (nI ((now + 1) % 12)) (nI ((now + 1) / 12))) F O gl X)) (by rfl) ?_
        exact loop_101 (nd - 0) 0 (by omega) (Nat.le_refl _) _ 
      | succ q_88 ih_89 =>
        intro i_87 hb_90 lo_92  
        refine z_iload_n 3 dX1_passes_39 rfl ?_
        refine z_aload_n 0 dX1_passes_40 rfl ?_
        refine z_callV (As := []) (c_guests (K := (cput (zs K 99 8 0) s (s_stay vs (zs1 σ 0 (nI (now + 1))) i_87) ds (nI ((now + 1) % 12)) (nI ((now + 1) / 12)))) (F := F) (gl := gl) hA hO hxv hlh heh hch1 hch2 hlg heg hcg1 hcg2) q1139 q1141 qs30 q112 q1142 nm_X1_guests (cX_obj hA) rfl rfl rfl (Nat.le_of_ble_eq_true rfl) ⟨Nat.le_of_ble_eq_true rfl, Nat.le_of_ble_eq_true rfl⟩ dX1_passes_41 rfl rfl (Nat.le_of_ble_eq_true rfl) (Nat.le_of_ble_eq_true rfl) (fun v_159 X_160 hp_161 => ?_)
        obtain ⟨rfl, rfl⟩ := hp_161
        refine z_st (st' := [.int (nI (nd)), .int (nI (i_87))]) rfl ?_
        refine z_icmp_geN (a := i_87) (b := nd) 88 (by omega) (by omega) dX1_passes_44 (by decide) (fun c_162 => absurd c_162 (by omega)) (fun c_162 => ?_)
        refine z_aload_n 1 dX1_passes_47 rfl ?_
        refine cz_getSN (s := s) (v := .ref (A (s + 2))) 2 hA hs (by decide) q265 rfl dX1_passes_48 ?_
        refine z_iload_n 3 dX1_passes_51 rfl ?_
        refine cz_iald (v := (s_stay vs (zs1 σ 0 (nI (now + 1))) i_87) (i_87 + 6)) (s + 2) i_87 hA (by unfold cia; omega) rfl (by rw [csz_q hA hs (by omega)]; omega) (cput_where (by omega)) dX1_passes_52 ?_
        refine z_if_lt 82 dX1_passes_53 (by decide) (fun c_163 => ?_) (fun c_163 => ?_)
        · -- (s_stay vs (zs1 σ 0 (nI (now + 1))) i_87) (i_87 + 6) < 0
          have c_163' := Int32.not_le.mpr c_163
          refine z_iinc (v := nI (i_87 + 1)) (lv' := [(3, .int (nI (i_87 + 1))), (0, .ref (A 99)), (1, .ref (A (s + 9))), (2, .int 0)]) 3 dX1_passes_82 rfl (nI_1 _) (by decide) rfl ?_
          refine z_goto 39 dX1_passes_85 (by decide) ?_
          refine z_lv (lv' := [(0, .ref (A 99)), (1, .ref (A (s + 9))), (2, .int 0), (3, .int (nI (i_87 + 1)))]) [1, 2, 3, 0] rfl ?_
          refine z_X (X' := (cX g A (cput (zs K 99 8 0) s (s_stay vs (zs1 σ 0 (nI (now + 1))) (i_87 + 1)) ds (nI ((now + 1) % 12)) (nI ((now + 1) / 12))) F O gl X)) (by skip; simp only [s_stay, reduceIte, c_1, hb_90, c_162, c_163, c_163']) ?_
          exact ih_89 (i_87 + 1) (by omega) (by omega)  
        · -- ¬ (s_stay vs (zs1 σ 0 (nI (now + 1))) i_87) (i_87 + 6) < 0
          have c_163' := Int32.not_lt.mp c_163
          refine z_aload_n 1 dX1_passes_56 rfl ?_
          refine cz_getSN (s := s) (v := .ref (A (s + 3))) 3 hA hs (by decide) q267 rfl dX1_passes_57 ?_
          refine z_iload_n 3 dX1_passes_60 rfl ?_
          refine z_dup2_11 dX1_passes_61 rfl rfl ?_
          refine cz_iald (v := (s_stay vs (zs1 σ 0 (nI (now + 1))) i_87) (i_87 + 12)) (s + 3) i_87 hA (by unfold cia; omega) rfl (by rw [csz_q hA hs (by omega)]; omega) (cput_been (by omega)) dX1_passes_62 ?_
          refine z_iconst (v := 1) dX1_passes_63 (by decide) ?_
          refine z_iadd dX1_passes_64 ?_
          refine z_dup_x2 dX1_passes_65 rfl rfl rfl ?_
          obtain ⟨x_164, ex_164⟩ : ∃ y : Int32, (((s_stay vs (zs1 σ 0 (nI (now + 1))) i_87) (i_87 + 12)) + 1) = y := ⟨_, rfl⟩
          refine z_eq ex_164 ?_
          refine cz_iast (K' := (cput (zs K 99 8 0) s (zs1 (s_stay vs (zs1 σ 0 (nI (now + 1))) i_87) (i_87 + 12) x_164) ds (nI ((now + 1) % 12)) (nI ((now + 1) / 12)))) (s + 3) i_87 hA (by unfold cia; omega) rfl (by rw [csz_q hA hs (by omega)]; omega) (by rw [cput_zbeen (by omega)]) dX1_passes_66 ?_
          refine z_aload_n 0 dX1_passes_67 rfl ?_
          refine cz_get (v := .ref v) 2 hA (by decide) q329 (by show some (va_rf (O 0 0)) = _; rw [hO]; rfl) dX1_passes_68 ?_
          refine z_callV (As := []) (c_stays (K := (cput (zs K 99 8 0) s (zs1 (s_stay vs (zs1 σ 0 (nI (now + 1))) i_87) (i_87 + 12) x_164) ds (nI ((now + 1) % 12)) (nI ((now + 1) / 12)))) (F := F) (gl := gl) (O := O) hA hxv hst9) q1213 q1214 q1215 q114 q1216 nm_X3_stays (cX_lo hA hxv) rfl rfl rfl (Nat.le_of_ble_eq_true rfl) ⟨Nat.le_of_ble_eq_true rfl, Nat.le_of_ble_eq_true rfl⟩ dX1_passes_71 rfl rfl (Nat.le_of_ble_eq_true rfl) (Nat.le_of_ble_eq_true rfl) (fun v_165 X_166 hp_167 => ?_)
          obtain ⟨rfl, rfl⟩ := hp_167
          refine z_st (st' := [.int (vs 2), .int (((s_stay vs (zs1 σ 0 (nI (now + 1))) i_87) (i_87 + 12)) + 1)]) rfl ?_
          refine z_icmp_ne 82 dX1_passes_74 (by decide) (fun c_168 => ?_) (fun c_168 => ?_)
          · -- ¬ (((s_stay vs (zs1 σ 0 (nI (now + 1))) i_87) (i_87 + 12)) + 1) = vs 2
            refine z_iinc (v := nI (i_87 + 1)) (lv' := [(3, .int (nI (i_87 + 1))), (0, .ref (A 99)), (1, .ref (A (s + 9))), (2, .int 0)]) 3 dX1_passes_82 rfl (nI_1 _) (by decide) rfl ?_
            refine z_goto 39 dX1_passes_85 (by decide) ?_
            refine z_lv (lv' := [(0, .ref (A 99)), (1, .ref (A (s + 9))), (2, .int 0), (3, .int (nI (i_87 + 1)))]) [1, 2, 3, 0] rfl ?_
            refine z_X (X' := (cX g A (cput (zs K 99 8 0) s (s_stay vs (zs1 σ 0 (nI (now + 1))) (i_87 + 1)) ds (nI ((now + 1) % 12)) (nI ((now + 1) / 12))) F O gl X)) (by (try subst ex_164); simp only [s_stay, reduceIte, c_1, hb_90, c_162, c_163, c_163', c_168]) ?_
            exact ih_89 (i_87 + 1) (by omega) (by omega)  
          · -- (((s_stay vs (zs1 σ 0 (nI (now + 1))) i_87) (i_87 + 12)) + 1) = vs 2
            refine z_aload_n 1 dX1_passes_77 rfl ?_
            refine z_iload_n 3 dX1_passes_78 rfl ?_
            refine z_callV (As := [.int (nI (i_87))]) (c_goes (F := F) (gl := gl) (K := (zs K 99 8 0)) (σ := (zs1 (s_stay vs (zs1 σ 0 (nI (now + 1))) i_87) (i_87 + 12) x_164)) (ds := ds) (dt := (nI ((now + 1) % 12))) (yr := (nI ((now + 1) / 12))) (O := O) hA hs i_87 (by omega)) q1217 q1218 q1219 q118 q1220 nm_X4_goes (cX_st hA hs) rfl rfl rfl (Nat.le_of_ble_eq_true rfl) ⟨Nat.le_of_ble_eq_true rfl, Nat.le_of_ble_eq_true rfl⟩ dX1_passes_79 rfl rfl (Nat.le_of_ble_eq_true rfl) (Nat.le_of_ble_eq_true rfl) (fun v_169 X_170 hp_171 => ?_)
            obtain ⟨rfl, rfl⟩ := hp_171
            refine z_st (st' := []) rfl ?_
            refine z_iinc (v := nI (i_87 + 1)) (lv' := [(3, .int (nI (i_87 + 1))), (0, .ref (A 99)), (1, .ref (A (s + 9))), (2, .int 0)]) 3 dX1_passes_82 rfl (nI_1 _) (by decide) rfl ?_
            refine z_goto 39 dX1_passes_85 (by decide) ?_
            refine z_lv (lv' := [(0, .ref (A 99)), (1, .ref (A (s + 9))), (2, .int 0), (3, .int (nI (i_87 + 1)))]) [1, 2, 3, 0] rfl ?_
            refine z_X (X' := (cX g A (cput (zs K 99 8 0) s (s_stay vs (zs1 σ 0 (nI (now + 1))) (i_87 + 1)) ds (nI ((now + 1) % 12)) (nI ((now + 1) / 12))) F O gl X)) (by (try subst ex_164); simp only [s_stay, reduceIte, c_1, hb_90, c_162, c_163, c_163', c_168]) ?_
            exact ih_89 (i_87 + 1) (by omega) (by omega)  
    refine z_lv (lv' := [(0, .ref (A 99)), (1, .ref (A (s + 9))), (2, .int 0), (3, .int 0)]) [2, 3, 1, 0] rfl ?_
    refine z_X (X' := (cX g A (cput (zs K 99 8 0) s (s_stay vs (zs1 σ 0 (nI (now + 1))) 0) ds (nI ((now + 1) % 12)) (nI ((now + 1) / 12))) F O gl X)) (by rw [show s_stay vs (zs1 σ 0 (nI (now + 1))) 0 = (zs1 σ 0 (nI (now + 1))) from rfl, cput_congr (σ := σ) (σ' := (zs1 σ 0 (nI (now + 1)))) (fun j h1 h2 => zs1_n (by omega))]) ?_
    exact loop_91 (nd - 0) 0 (by omega) (Nat.le_refl _)  
