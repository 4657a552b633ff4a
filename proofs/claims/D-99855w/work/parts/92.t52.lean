/-! THE COMPONENT: through houses. Printed by t52.py -/
set_option maxRecDepth 100000
theorem s_lent_z {vs : Nat → Int32} : ∀ n, s_lent vs 0 n = 0
  | 0 => rfl
  | n + 1 => by
    show s_lent vs 0 n ||| (if s_isBit 0 n = true then vs (2 * n + 5) else 0) = 0
    rw [s_lent_z n, if_neg (by unfold s_isBit; rw [decide_eq_false (by rw [Int32.zero_shiftRight, Int32.zero_and]; decide)]; decide)]
    rfl
theorem s_thr_z {vs : Nat → Int32} {nh : Nat} : ∀ n, s_thr vs nh 0 n = 0
  | 0 => rfl
  | n + 1 => by
    show s_lent vs (s_thr vs nh 0 n) nh = 0
    rw [s_thr_z n, s_lent_z]
theorem s_isBit_z {k : Nat} : s_isBit 0 k = false := by
  unfold s_isBit
  rw [decide_eq_false (by rw [Int32.zero_shiftRight, Int32.zero_and]; decide)]
theorem s_fst_no {p : Nat → Bool} {f : Nat → Int32} (h : ∀ n, p n = false) : ∀ m a, s_fst p f m a = zm1
  | 0, _ => rfl
  | m + 1, a => (s_fst_f (h a)).trans (s_fst_no h m (a + 1))
theorem s_through_no {vs : Nat → Int32} {nh : Nat} {h o : Int32} (hh : (decide (0 ≤ h) && decide (h < nI nh)) = false) : s_through vs nh h o = zm1 := by
  unfold s_through
  rw [hh]
  by_cases ho : (decide (0 ≤ o) && decide (o < nI nh)) = true
  · rw [if_pos ho]
    have k : ∀ n, (fun n => s_isBit (s_thr vs nh (if (false = true) then (1 : Int32) <<< (h &&& 31) else 0) n) o.toNatClampNeg) n = false := by
      intro n
      show s_isBit (s_thr vs nh (if (false = true) then (1 : Int32) <<< (h &&& 31) else 0) n) o.toNatClampNeg = false
      rw [if_neg (by decide), s_thr_z, s_isBit_z]
    exact s_fst_no k 4 0
  · rw [if_neg ho]
set_option maxHeartbeats 4000000 in
theorem c_through {g : zG} {A : Nat → Nat} {K : Nat → Nat → Int32} {F : Nat → Int32} {O : Nat → Nat → Option Nat} {gl : Int64} {X : zX} (hA : cok g A X) {v : Nat} (hO : O 0 0 = some v) {vs : Nat → Int32} {nh nd : Nat} {own : Nat → Nat} {wv : Int32 → Int32 → Int32 → Int32 → Int32} (hV : s_ok vs nh nd own) (hv : cvl g X v vs nh nd wv) {σ ds τ es : Nat → Int32} {dt2 yr2 o : Int32} {now : Nat} (hnow : now < 2 ^ 28) (hiv : s_iv σ nd) (h o : Int32) : zN g m_X1_through ({ frames := 4, cells := 0, slots := 0, locals := 85 } : Room) [.ref (A 99), .int h, .int o] (cX g A (cput (cput (zs K 99 8 o) 300 σ ds (nI (now % 12)) (nI (now / 12))) 310 τ es dt2 yr2) F O gl X) (fun rv X' => rv = some (.int (s_through vs nh h o)) ∧ X' = (cX g A (cput (cput (zs K 99 8 o) 300 σ ds (nI (now % 12)) (nI (now / 12))) 310 τ es dt2 yr2) F O gl X)) := by
  refine zN.of (by decide +kernel) (Nat.le_of_ble_eq_true rfl) rfl ?_
  refine z_lv (lv' := [(0, .ref (A 99)), (1, .int h), (2, .int o)]) [0, 1, 2] rfl ?_
  have hA2 := hA.2.2.1
  have hV9 := hV
  have hv9 := hv
  obtain ⟨h0, hnh, h1, hnd, hown⟩ := hV9
  obtain ⟨lh, lg, fh, fg, st9, fa, hxv, ⟨mh, eh, ch, hlh, heh, hch1, hch2⟩, ⟨mg, eg, cg, hlg, heg, hcg1, hcg2⟩, hhs, hgs, hst9, hfa⟩ := hv9
  refine z_aload_n 0 dX1_through_0 rfl ?_
  refine z_iload_n 1 dX1_through_1 rfl ?_
  refine z_callV (As := [.int h]) (c_isHouse (K := (cput (cput (zs K 99 8 o) 300 σ ds (nI (now % 12)) (nI (now / 12))) 310 τ es dt2 yr2)) (F := F) (gl := gl) hA hO hxv hlh heh hch1 hch2 hlg heg hcg1 hcg2 (by omega) h) q1123 q1125 qs27 q112 q1126 nm_X1_isHouse (cX_obj hA) rfl rfl rfl (Nat.le_of_ble_eq_true rfl) ⟨Nat.le_of_ble_eq_true rfl, Nat.le_of_ble_eq_true rfl⟩ dX1_through_2 rfl rfl (Nat.le_of_ble_eq_true rfl) (Nat.le_of_ble_eq_true rfl) (fun v_1 X_2 hp_3 => ?_)
  obtain ⟨rfl, rfl⟩ := hp_3
  refine z_st (st' := [.int (zb (decide (0 ≤ h) && decide (h < nI nh)))]) rfl ?_
  refine z_if_eqb 16 dX1_through_5 (by decide) (fun c_4 => ?_) (fun c_4 => ?_)
  · -- decide (0 ≤ h) && decide (h < nI nh) = false
    refine z_iconst (v := zm1) dX1_through_16 (by decide) ?_
    exact z_iret dX1_through_17 rfl (Nat.le_of_ble_eq_true rfl) (Nat.le_of_ble_eq_true rfl) ⟨congrArg some (congrArg Value.int (s_through_no c_4).symm), rfl⟩
  · -- decide (0 ≤ h) && decide (h < nI nh) = true
    refine z_aload_n 0 dX1_through_8 rfl ?_
    refine z_iload_n 2 dX1_through_9 rfl ?_
    refine z_callV (As := [.int o]) (c_isHouse (K := (cput (cput (zs K 99 8 o) 300 σ ds (nI (now % 12)) (nI (now / 12))) 310 τ es dt2 yr2)) (F := F) (gl := gl) hA hO hxv hlh heh hch1 hch2 hlg heg hcg1 hcg2 (by omega) o) q1123 q1125 qs27 q112 q1126 nm_X1_isHouse (cX_obj hA) rfl rfl rfl (Nat.le_of_ble_eq_true rfl) ⟨Nat.le_of_ble_eq_true rfl, Nat.le_of_ble_eq_true rfl⟩ dX1_through_10 rfl rfl (Nat.le_of_ble_eq_true rfl) (Nat.le_of_ble_eq_true rfl) (fun v_5 X_6 hp_7 => ?_)
    obtain ⟨rfl, rfl⟩ := hp_7
    refine z_st (st' := [.int (zb (decide (0 ≤ o) && decide (o < nI nh)))]) rfl ?_
    refine z_if_neb 18 dX1_through_13 (by decide) (fun c_8 => ?_) (fun c_8 => ?_)
    · -- decide (0 ≤ o) && decide (o < nI nh) = true
      obtain ⟨oo, hoo, e_o⟩ := zday (by omega) c_8
      refine z_lv (lv' := [(0, .ref (A 99)), (1, .int h), (2, .int (nI (oo)))]) [0, 1, 2] (by rw [e_o]; rfl) ?_
      refine z_iconst (v := 1) dX1_through_18 (by decide) ?_
      refine z_iload_n 1 dX1_through_19 rfl ?_
      refine z_ishl dX1_through_20 ?_
      obtain ⟨x_9, ex_9⟩ : ∃ y : Int32, (1 <<< (h &&& 31)) = y := ⟨_, rfl⟩
      refine z_eq ex_9 ?_
      refine z_istore_n (lv' := [(3, .int x_9), (0, .ref (A 99)), (1, .int h), (2, .int (nI (oo)))]) dX1_through_21 rfl (by decide) rfl ?_
      refine z_iconst (v := 0) dX1_through_22 (by decide) ?_
      refine z_istore (lv' := [(4, .int 0), (3, .int x_9), (0, .ref (A 99)), (1, .int h), (2, .int (nI (oo)))]) dX1_through_23 (by decide) rfl ?_
      have loop_14 : ∀ (q_11 i_10 : Nat), i_10 + q_11 = 4 → 0 ≤ i_10 → s_fst (fun n => s_isBit (s_thr vs nh x_9 n) oo) nI 4 0 = s_fst (fun n => s_isBit (s_thr vs nh x_9 n) oo) nI q_11 i_10 → zZ g m_X1_through (fun rv X' => rv = some (.int (s_through vs nh h o)) ∧ X' = (cX g A (cput (cput (zs K 99 8 o) 300 σ ds (nI (now % 12)) (nI (now / 12))) 310 τ es dt2 yr2) F O gl X), zno, ({ frames := 4, cells := 0, slots := 0, locals := 85 } : Room)) 0 0 (cX g A (cput (cput (zs K 99 8 o) 300 σ ds (nI (now % 12)) (nI (now / 12))) 310 τ es dt2 yr2) F O gl X) 25 [(0, .ref (A 99)), (1, .int h), (2, .int (nI (oo))), (3, .int (s_thr vs nh x_9 i_10)), (4, .int (nI (i_10)))] [] := by
        intro q_11
        induction q_11 with
        | zero =>
          intro i_10 hb_13 lo_16  hi_15
          obtain rfl : 4 = i_10 := by omega
          refine z_iload 4 dX1_through_25 rfl ?_
          refine z_iconst (v := 4) dX1_through_27 (by decide) ?_
          refine z_icmp_geN (a := 4) (b := 4) 95 (by decide) (by decide) dX1_through_28 (by decide) (fun h_ => ?_) (fun h_ => absurd h_ (by decide))
          refine z_iconst (v := zm1) dX1_through_95 (by decide) ?_
          exact z_iret dX1_through_96 rfl (Nat.le_of_ble_eq_true rfl) (Nat.le_of_ble_eq_true rfl) ⟨congrArg some (congrArg Value.int (by (try subst ex_9); unfold s_through; rw [if_pos c_8, if_pos c_4, e_o, ncl (by omega)]; exact (hi_15).symm)), rfl⟩
        | succ q_11 ih_12 =>
          intro i_10 hb_13 lo_16  hi_15
          refine z_iload 4 dX1_through_25 rfl ?_
          refine z_iconst (v := 4) dX1_through_27 (by decide) ?_
          refine z_icmp_geN (a := i_10) (b := 4) 95 (by omega) (by omega) dX1_through_28 (by decide) (fun c_17 => absurd c_17 (by omega)) (fun c_17 => ?_)
          refine z_iload_n 3 dX1_through_31 rfl ?_
          refine z_iload_n 2 dX1_through_32 rfl ?_
          refine z_callS (As := [.int (s_thr vs nh x_9 i_10), .int (nI (oo))]) (c_isIn (s_thr vs nh x_9 i_10) oo) q1241 q903 q112 q904 nm_X1_isIn rfl (Nat.le_of_ble_eq_true rfl) ⟨Nat.le_of_ble_eq_true rfl, Nat.le_of_ble_eq_true rfl⟩ dX1_through_33 rfl rfl (Nat.le_of_ble_eq_true rfl) (Nat.le_of_ble_eq_true rfl) (fun v_18 X_19 hp_20 => ?_)
          obtain ⟨rfl, rfl⟩ := hp_20
          refine z_st (st' := [.int (zb (s_isBit (s_thr vs nh x_9 i_10) oo))]) rfl ?_
          refine z_if_eqb 42 dX1_through_36 (by decide) (fun c_21 => ?_) (fun c_21 => ?_)
          · -- s_isBit (s_thr vs nh x_9 i_10) oo = false
            refine z_iload_n 3 dX1_through_42 rfl ?_
            refine z_istore (lv' := [(5, .int (s_thr vs nh x_9 i_10)), (0, .ref (A 99)), (1, .int h), (2, .int (nI (oo))), (3, .int (s_thr vs nh x_9 i_10)), (4, .int (nI (i_10)))]) dX1_through_43 (by decide) rfl ?_
            refine z_iconst (v := 0) dX1_through_45 (by decide) ?_
            refine z_istore (lv' := [(6, .int 0), (5, .int (s_thr vs nh x_9 i_10)), (0, .ref (A 99)), (1, .int h), (2, .int (nI (oo))), (3, .int (s_thr vs nh x_9 i_10)), (4, .int (nI (i_10)))]) dX1_through_46 (by decide) rfl ?_
            have loop_26 : ∀ (q_23 i_22 : Nat), i_22 + q_23 = nh → 0 ≤ i_22 → zZ g m_X1_through (fun rv X' => rv = some (.int (s_through vs nh h o)) ∧ X' = (cX g A (cput (cput (zs K 99 8 o) 300 σ ds (nI (now % 12)) (nI (now / 12))) 310 τ es dt2 yr2) F O gl X), zno, ({ frames := 4, cells := 0, slots := 0, locals := 85 } : Room)) 0 0 (cX g A (cput (cput (zs K 99 8 o) 300 σ ds (nI (now % 12)) (nI (now / 12))) 310 τ es dt2 yr2) F O gl X) 48 [(0, .ref (A 99)), (1, .int h), (2, .int (nI (oo))), (3, .int (s_thr vs nh x_9 i_10)), (4, .int (nI (i_10))), (5, .int (s_lent vs (s_thr vs nh x_9 i_10) i_22)), (6, .int (nI (i_22)))] [] := by
              intro q_23
              induction q_23 with
              | zero =>
                intro i_22 hb_25 lo_27  
                obtain rfl : nh = i_22 := by omega
                refine z_iload 6 dX1_through_48 rfl ?_
                refine z_aload_n 0 dX1_through_50 rfl ?_
                refine z_callV (As := []) (c_houses (K := (cput (cput (zs K 99 8 o) 300 σ ds (nI (now % 12)) (nI (now / 12))) 310 τ es dt2 yr2)) (F := F) (gl := gl) hA hO hxv hlh heh hch1 hch2 hlg heg hcg1 hcg2) q1127 q1129 qs28 q112 q1130 nm_X1_houses (cX_obj hA) rfl rfl rfl (Nat.le_of_ble_eq_true rfl) ⟨Nat.le_of_ble_eq_true rfl, Nat.le_of_ble_eq_true rfl⟩ dX1_through_51 rfl rfl (Nat.le_of_ble_eq_true rfl) (Nat.le_of_ble_eq_true rfl) (fun v_28 X_29 hp_30 => ?_)
                obtain ⟨rfl, rfl⟩ := hp_30
                refine z_st (st' := [.int (nI (nh)), .int (nI (nh))]) rfl ?_
                refine z_icmp_geN (a := nh) (b := nh) 86 (by omega) (by omega) dX1_through_54 (by decide) (fun c_31 => ?_) (fun c_31 => absurd c_31 (by omega))
                refine z_iload 5 dX1_through_86 rfl ?_
                refine z_istore_n (lv' := [(3, .int (s_lent vs (s_thr vs nh x_9 i_10) nh)), (0, .ref (A 99)), (1, .int h), (2, .int (nI (oo))), (4, .int (nI (i_10))), (5, .int (s_lent vs (s_thr vs nh x_9 i_10) nh)), (6, .int (nI (nh)))]) dX1_through_88 rfl (by decide) rfl ?_
                refine z_iinc (v := nI (i_10 + 1)) (lv' := [(4, .int (nI (i_10 + 1))), (3, .int (s_lent vs (s_thr vs nh x_9 i_10) nh)), (0, .ref (A 99)), (1, .int h), (2, .int (nI (oo))), (5, .int (s_lent vs (s_thr vs nh x_9 i_10) nh)), (6, .int (nI (nh)))]) 4 dX1_through_89 rfl (nI_1 _) (by decide) rfl ?_
                refine z_goto 25 dX1_through_92 (by decide) ?_
                have f_32 : s_lent vs (s_thr vs nh x_9 i_10) nh = s_thr vs nh x_9 (i_10 + 1) := by rfl
                refine z_lv (lv' := [(0, .ref (A 99)), (1, .int h), (2, .int (nI (oo))), (3, .int (s_thr vs nh x_9 (i_10 + 1))), (4, .int (nI (i_10 + 1)))]) [2, 3, 4, 1, 0] (by rw [← f_32]; rfl) ?_
                exact ih_12 (i_10 + 1) (by omega) (by omega)  (hi_15.trans (s_fst_f c_21))
              | succ q_23 ih_24 =>
                intro i_22 hb_25 lo_27  
                refine z_iload 6 dX1_through_48 rfl ?_
                refine z_aload_n 0 dX1_through_50 rfl ?_
                refine z_callV (As := []) (c_houses (K := (cput (cput (zs K 99 8 o) 300 σ ds (nI (now % 12)) (nI (now / 12))) 310 τ es dt2 yr2)) (F := F) (gl := gl) hA hO hxv hlh heh hch1 hch2 hlg heg hcg1 hcg2) q1127 q1129 qs28 q112 q1130 nm_X1_houses (cX_obj hA) rfl rfl rfl (Nat.le_of_ble_eq_true rfl) ⟨Nat.le_of_ble_eq_true rfl, Nat.le_of_ble_eq_true rfl⟩ dX1_through_51 rfl rfl (Nat.le_of_ble_eq_true rfl) (Nat.le_of_ble_eq_true rfl) (fun v_33 X_34 hp_35 => ?_)
                obtain ⟨rfl, rfl⟩ := hp_35
                refine z_st (st' := [.int (nI (nh)), .int (nI (i_22))]) rfl ?_
                refine z_icmp_geN (a := i_22) (b := nh) 86 (by omega) (by omega) dX1_through_54 (by decide) (fun c_36 => absurd c_36 (by omega)) (fun c_36 => ?_)
                refine z_iload_n 3 dX1_through_57 rfl ?_
                refine z_iload 6 dX1_through_58 rfl ?_
                refine z_callS (As := [.int (s_thr vs nh x_9 i_10), .int (nI (i_22))]) (c_isIn (s_thr vs nh x_9 i_10) i_22) q1241 q903 q112 q904 nm_X1_isIn rfl (Nat.le_of_ble_eq_true rfl) ⟨Nat.le_of_ble_eq_true rfl, Nat.le_of_ble_eq_true rfl⟩ dX1_through_60 rfl rfl (Nat.le_of_ble_eq_true rfl) (Nat.le_of_ble_eq_true rfl) (fun v_37 X_38 hp_39 => ?_)
                obtain ⟨rfl, rfl⟩ := hp_39
                refine z_st (st' := [.int (zb (s_isBit (s_thr vs nh x_9 i_10) i_22))]) rfl ?_
                refine z_if_eqb 80 dX1_through_63 (by decide) (fun c_40 => ?_) (fun c_40 => ?_)
                · -- s_isBit (s_thr vs nh x_9 i_10) i_22 = false
                  refine z_iinc (v := nI (i_22 + 1)) (lv' := [(6, .int (nI (i_22 + 1))), (0, .ref (A 99)), (1, .int h), (2, .int (nI (oo))), (3, .int (s_thr vs nh x_9 i_10)), (4, .int (nI (i_10))), (5, .int (s_lent vs (s_thr vs nh x_9 i_10) i_22))]) 6 dX1_through_80 rfl (nI_1 _) (by decide) rfl ?_
                  refine z_goto 48 dX1_through_83 (by decide) ?_
                  have f_41 : s_lent vs (s_thr vs nh x_9 i_10) i_22 = s_lent vs (s_thr vs nh x_9 i_10) (i_22 + 1) := by first | rfl | omega | (simp [s_lent, c_4, c_8, e_o, hb_13, hi_15, c_17, c_21, hb_25, c_36, c_40]; done) | ((try subst ex_9); simp [s_lent, c_4, c_8, e_o, hb_13, hi_15, c_17, c_21, hb_25, c_36, c_40])
                  refine z_lv (lv' := [(0, .ref (A 99)), (1, .int h), (2, .int (nI (oo))), (3, .int (s_thr vs nh x_9 i_10)), (4, .int (nI (i_10))), (5, .int (s_lent vs (s_thr vs nh x_9 i_10) (i_22 + 1))), (6, .int (nI (i_22 + 1)))]) [1, 2, 3, 4, 5, 6, 0] (by rw [← f_41]; rfl) ?_
                  exact ih_24 (i_22 + 1) (by omega) (by omega)  
                · -- s_isBit (s_thr vs nh x_9 i_10) i_22 = true
                  refine z_iload 5 dX1_through_66 rfl ?_
                  refine z_aload_n 0 dX1_through_68 rfl ?_
                  refine z_iload 6 dX1_through_69 rfl ?_
                  obtain ⟨a_42, m_43, he_44, ha_45⟩ := hhs i_22 (by omega)
                  refine z_callV (As := [.int (nI (i_22))]) (c_home (K := (cput (cput (zs K 99 8 o) 300 σ ds (nI (now % 12)) (nI (now / 12))) 310 τ es dt2 yr2)) (F := F) (gl := gl) hA hO hxv hlh heh hch1 hch2 hlg heg hcg1 hcg2 i_22 (by omega) he_44 ha_45) q1163 q1165 qs32 q112 q1166 nm_X1_home (cX_obj hA) rfl rfl rfl (Nat.le_of_ble_eq_true rfl) ⟨Nat.le_of_ble_eq_true rfl, Nat.le_of_ble_eq_true rfl⟩ dX1_through_71 rfl rfl (Nat.le_of_ble_eq_true rfl) (Nat.le_of_ble_eq_true rfl) (fun v_46 X_47 hp_48 => ?_)
                  obtain ⟨rfl, rfl⟩ := hp_48
                  refine z_st (st' := [.ref a_42, .int (s_lent vs (s_thr vs nh x_9 i_10) i_22)]) rfl ?_
                  refine z_getN (v := .int (vs (2 * i_22 + 5))) 2 (cX_lo hA ha_45) rfl in_X7 (by decide) q816 rfl dX1_through_74 ?_
                  refine z_ior dX1_through_77 ?_
                  obtain ⟨x_49, ex_49⟩ : ∃ y : Int32, ((s_lent vs (s_thr vs nh x_9 i_10) i_22) ||| (vs (2 * i_22 + 5))) = y := ⟨_, rfl⟩
                  refine z_eq ex_49 ?_
                  refine z_istore (lv' := [(5, .int x_49), (0, .ref (A 99)), (1, .int h), (2, .int (nI (oo))), (3, .int (s_thr vs nh x_9 i_10)), (4, .int (nI (i_10))), (6, .int (nI (i_22)))]) dX1_through_78 (by decide) rfl ?_
                  refine z_iinc (v := nI (i_22 + 1)) (lv' := [(6, .int (nI (i_22 + 1))), (5, .int x_49), (0, .ref (A 99)), (1, .int h), (2, .int (nI (oo))), (3, .int (s_thr vs nh x_9 i_10)), (4, .int (nI (i_10)))]) 6 dX1_through_80 rfl (nI_1 _) (by decide) rfl ?_
                  refine z_goto 48 dX1_through_83 (by decide) ?_
                  have f_50 : x_49 = s_lent vs (s_thr vs nh x_9 i_10) (i_22 + 1) := by first | rfl | omega | (simp [s_lent, c_4, c_8, e_o, hb_13, hi_15, c_17, c_21, hb_25, c_36, c_40]; done) | ((try subst ex_49); (try subst ex_9); simp [s_lent, c_4, c_8, e_o, hb_13, hi_15, c_17, c_21, hb_25, c_36, c_40])
                  subst f_50
                  refine z_lv (lv' := [(0, .ref (A 99)), (1, .int h), (2, .int (nI (oo))), (3, .int (s_thr vs nh x_9 i_10)), (4, .int (nI (i_10))), (5, .int (s_lent vs (s_thr vs nh x_9 i_10) (i_22 + 1))), (6, .int (nI (i_22 + 1)))]) [2, 3, 4, 5, 6, 1, 0] rfl ?_
                  exact ih_24 (i_22 + 1) (by omega) (by omega)  
            have f_51 : s_thr vs nh x_9 i_10 = s_lent vs (s_thr vs nh x_9 i_10) 0 := by first | rfl | omega | (simp [s_lent, c_4, c_8, e_o, hb_13, hi_15, c_17, c_21]; done) | ((try subst ex_9); simp [s_lent, c_4, c_8, e_o, hb_13, hi_15, c_17, c_21])
            refine z_lv (lv' := [(0, .ref (A 99)), (1, .int h), (2, .int (nI (oo))), (3, .int (s_thr vs nh x_9 i_10)), (4, .int (nI (i_10))), (5, .int (s_lent vs (s_thr vs nh x_9 i_10) 0)), (6, .int 0)]) [2, 3, 4, 5, 6, 1, 0] (by rw [← f_51]; rfl) ?_
            exact loop_26 (nh - 0) 0 (by omega) (Nat.le_refl _)  
          · -- s_isBit (s_thr vs nh x_9 i_10) oo = true
            refine z_iload 4 dX1_through_39 rfl ?_
            exact z_iret dX1_through_41 rfl (Nat.le_of_ble_eq_true rfl) (Nat.le_of_ble_eq_true rfl) ⟨congrArg some (congrArg Value.int (by (try subst ex_9); unfold s_through; rw [if_pos c_8, if_pos c_4, e_o, ncl (by omega)]; exact (hi_15.trans (s_fst_t c_21)).symm)), rfl⟩
      have f_52 : x_9 = s_thr vs nh x_9 0 := by rfl
      refine z_lv (lv' := [(0, .ref (A 99)), (1, .int h), (2, .int (nI (oo))), (3, .int (s_thr vs nh x_9 0)), (4, .int 0)]) [2, 3, 4, 1, 0] (by rw [← f_52]; rfl) ?_
      exact loop_14 (4 - 0) 0 (by omega) (Nat.le_refl _)  rfl
    · -- decide (0 ≤ o) && decide (o < nI nh) = false
      refine z_iconst (v := zm1) dX1_through_16 (by decide) ?_
      exact z_iret dX1_through_17 rfl (Nat.le_of_ble_eq_true rfl) (Nat.le_of_ble_eq_true rfl) ⟨congrArg some (congrArg Value.int (by unfold s_through; rw [if_neg (by rw [c_8]; decide)])), rfl⟩
