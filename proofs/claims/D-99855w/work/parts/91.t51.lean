/-! THE COMPONENT: how it lies. Printed by t51.py -/
set_option maxRecDepth 100000
set_option maxHeartbeats 4000000 in
theorem c_quiet {g : zG} {A : Nat → Nat} {K : Nat → Nat → Int32} {F : Nat → Int32} {O : Nat → Nat → Option Nat} {gl : Int64} {X : zX} (hA : cok g A X) {v : Nat} (hO : O 0 0 = some v) {vs : Nat → Int32} {nh nd : Nat} {own : Nat → Nat} {wv : Int32 → Int32 → Int32 → Int32 → Int32} (hV : s_ok vs nh nd own) (hv : cvl g X v vs nh nd wv) {σ ds τ es : Nat → Int32} {dt2 yr2 o : Int32} {now : Nat} (hnow : now < 2 ^ 28) (hiv : s_iv σ nd)  : zN g m_X1_quiet ({ frames := 2, cells := 0, slots := 0, locals := 40 } : Room) [.ref (A 99)] (cX g A (cput (cput (zs K 99 8 o) 300 σ ds (nI (now % 12)) (nI (now / 12))) 310 τ es dt2 yr2) F O gl X) (fun rv X' => rv = some (.int (s_arg (fun _ => true) (s_quietP σ) nd)) ∧ X' = (cX g A (cput (cput (zs K 99 8 o) 300 σ ds (nI (now % 12)) (nI (now / 12))) 310 τ es dt2 yr2) F O gl X)) := by
  refine zN.of (by decide +kernel) (Nat.le_of_ble_eq_true rfl) rfl ?_
  refine z_lv (lv' := [(0, .ref (A 99))]) [0] rfl ?_
  have hA2 := hA.2.2.1
  have hV9 := hV
  have hv9 := hv
  obtain ⟨h0, hnh, h1, hnd, hown⟩ := hV9
  obtain ⟨lh, lg, fh, fg, st9, fa, hxv, ⟨mh, eh, ch, hlh, heh, hch1, hch2⟩, ⟨mg, eg, cg, hlg, heg, hcg1, hcg2⟩, hhs, hgs, hst9, hfa⟩ := hv9
  refine z_iconst (v := zm1) dX1_quiet_0 (by decide) ?_
  refine z_istore_n (lv' := [(1, .int zm1), (0, .ref (A 99))]) dX1_quiet_1 rfl (by decide) rfl ?_
  refine z_iconst (v := 0) dX1_quiet_2 (by decide) ?_
  refine z_istore_n (lv' := [(2, .int 0), (1, .int zm1), (0, .ref (A 99))]) dX1_quiet_3 rfl (by decide) rfl ?_
  have loop_5 : ∀ (q_2 i_1 : Nat), i_1 + q_2 = nd → 0 ≤ i_1 → zZ g m_X1_quiet (fun rv X' => rv = some (.int (s_arg (fun _ => true) (s_quietP σ) nd)) ∧ X' = (cX g A (cput (cput (zs K 99 8 o) 300 σ ds (nI (now % 12)) (nI (now / 12))) 310 τ es dt2 yr2) F O gl X), zno, ({ frames := 2, cells := 0, slots := 0, locals := 40 } : Room)) 0 0 (cX g A (cput (cput (zs K 99 8 o) 300 σ ds (nI (now % 12)) (nI (now / 12))) 310 τ es dt2 yr2) F O gl X) 4 [(0, .ref (A 99)), (1, .int (s_arg (fun _ => true) (s_quietP σ) i_1)), (2, .int (nI (i_1)))] [] := by
    intro q_2
    induction q_2 with
    | zero =>
      intro i_1 hb_4 lo_6  
      obtain rfl : nd = i_1 := by omega
      refine z_iload_n 2 dX1_quiet_4 rfl ?_
      refine z_aload_n 0 dX1_quiet_5 rfl ?_
      refine z_callV (As := []) (c_guests (K := (cput (cput (zs K 99 8 o) 300 σ ds (nI (now % 12)) (nI (now / 12))) 310 τ es dt2 yr2)) (F := F) (gl := gl) hA hO hxv hlh heh hch1 hch2 hlg heg hcg1 hcg2) q1139 q1141 qs30 q112 q1142 nm_X1_guests (cX_obj hA) rfl rfl rfl (Nat.le_of_ble_eq_true rfl) ⟨Nat.le_of_ble_eq_true rfl, Nat.le_of_ble_eq_true rfl⟩ dX1_quiet_6 rfl rfl (Nat.le_of_ble_eq_true rfl) (Nat.le_of_ble_eq_true rfl) (fun v_7 X_8 hp_9 => ?_)
      obtain ⟨rfl, rfl⟩ := hp_9
      refine z_st (st' := [.int (nI (nd)), .int (nI (nd))]) rfl ?_
      refine z_icmp_geN (a := nd) (b := nd) 45 (by omega) (by omega) dX1_quiet_9 (by decide) (fun c_10 => ?_) (fun c_10 => absurd c_10 (by omega))
      refine z_iload_n 1 dX1_quiet_45 rfl ?_
      exact z_iret dX1_quiet_46 rfl (Nat.le_of_ble_eq_true rfl) (Nat.le_of_ble_eq_true rfl) ⟨congrArg some (congrArg Value.int (by first | rfl | (simp [hb_4, c_10]; done) | (skip; simp [hb_4, c_10]))), rfl⟩
    | succ q_2 ih_3 =>
      intro i_1 hb_4 lo_6  
      refine z_iload_n 2 dX1_quiet_4 rfl ?_
      refine z_aload_n 0 dX1_quiet_5 rfl ?_
      refine z_callV (As := []) (c_guests (K := (cput (cput (zs K 99 8 o) 300 σ ds (nI (now % 12)) (nI (now / 12))) 310 τ es dt2 yr2)) (F := F) (gl := gl) hA hO hxv hlh heh hch1 hch2 hlg heg hcg1 hcg2) q1139 q1141 qs30 q112 q1142 nm_X1_guests (cX_obj hA) rfl rfl rfl (Nat.le_of_ble_eq_true rfl) ⟨Nat.le_of_ble_eq_true rfl, Nat.le_of_ble_eq_true rfl⟩ dX1_quiet_6 rfl rfl (Nat.le_of_ble_eq_true rfl) (Nat.le_of_ble_eq_true rfl) (fun v_11 X_12 hp_13 => ?_)
      obtain ⟨rfl, rfl⟩ := hp_13
      refine z_st (st' := [.int (nI (nd)), .int (nI (i_1))]) rfl ?_
      refine z_icmp_geN (a := i_1) (b := nd) 45 (by omega) (by omega) dX1_quiet_9 (by decide) (fun c_14 => absurd c_14 (by omega)) (fun c_14 => ?_)
      refine z_iload_n 1 dX1_quiet_12 rfl ?_
      refine z_if_lt 37 dX1_quiet_13 (by decide) (fun c_15 => ?_) (fun c_15 => ?_)
      · -- s_arg (fun _ => true) (s_quietP σ) i_1 < 0
        have c_15' := Int32.not_le.mpr c_15
        refine z_iload_n 2 dX1_quiet_37 rfl ?_
        refine z_istore_n (lv' := [(1, .int (nI (i_1))), (0, .ref (A 99)), (2, .int (nI (i_1)))]) dX1_quiet_38 rfl (by decide) rfl ?_
        refine z_iinc (v := nI (i_1 + 1)) (lv' := [(2, .int (nI (i_1 + 1))), (1, .int (nI (i_1))), (0, .ref (A 99))]) 2 dX1_quiet_39 rfl (nI_1 _) (by decide) rfl ?_
        refine z_goto 4 dX1_quiet_42 (by decide) ?_
        have f_16 : nI (i_1) = s_arg (fun _ => true) (s_quietP σ) (i_1 + 1) := by rw [s_arg_1]; simp [s_quietP, c_14, c_15]
        refine z_lv (lv' := [(0, .ref (A 99)), (1, .int (s_arg (fun _ => true) (s_quietP σ) (i_1 + 1))), (2, .int (nI (i_1 + 1)))]) [2, 1, 0] (by rw [← f_16]; rfl) ?_
        exact ih_3 (i_1 + 1) (by omega) (by omega)  
      · -- ¬ s_arg (fun _ => true) (s_quietP σ) i_1 < 0
        have c_15' := Int32.not_lt.mp c_15
        obtain ⟨k_17, hk_17, ek_17⟩ := s_arg_k c_15
        refine z_lv (lv' := [(0, .ref (A 99)), (1, .int (nI (k_17))), (2, .int (nI (i_1)))]) [0, 1, 2] (by rw [ek_17]; rfl) ?_
        refine z_aload_n 0 dX1_quiet_16 rfl ?_
        refine cz_get (v := .ref (A 309)) 4 hA (by decide) q331 rfl dX1_quiet_17 ?_
        refine cz_getSN (s := 300) (v := .ref (A 301)) 1 hA (cst_0 hA) (by decide) q261 rfl dX1_quiet_20 ?_
        refine z_iload_n 2 dX1_quiet_23 rfl ?_
        refine cz_iald (v := σ (i_1 + 18)) 301 i_1 hA (by unfold cia; omega) rfl (by have h9 : csz 301 = 6 := rfl; omega) (by rw [cput_a (by omega), cput_says (by omega)]) dX1_quiet_24 ?_
        refine z_aload_n 0 dX1_quiet_25 rfl ?_
        refine cz_get (v := .ref (A 309)) 4 hA (by decide) q331 rfl dX1_quiet_26 ?_
        refine cz_getSN (s := 300) (v := .ref (A 301)) 1 hA (cst_0 hA) (by decide) q261 rfl dX1_quiet_29 ?_
        refine z_iload_n 1 dX1_quiet_32 rfl ?_
        refine cz_iald (v := σ (k_17 + 18)) 301 k_17 hA (by unfold cia; omega) rfl (by have h9 : csz 301 = 6 := rfl; omega) (by rw [cput_a (by omega), cput_says (by omega)]) dX1_quiet_33 ?_
        refine z_icmp_ge 39 dX1_quiet_34 (by decide) (fun c_18 => ?_) (fun c_18 => ?_)
        · -- σ (k_17 + 18) ≤ σ (i_1 + 18)
          have c_18' := Int32.not_lt.mpr c_18
          refine z_iinc (v := nI (i_1 + 1)) (lv' := [(2, .int (nI (i_1 + 1))), (0, .ref (A 99)), (1, .int (nI (k_17)))]) 2 dX1_quiet_39 rfl (nI_1 _) (by decide) rfl ?_
          refine z_goto 4 dX1_quiet_42 (by decide) ?_
          have f_19 : nI (k_17) = s_arg (fun _ => true) (s_quietP σ) (i_1 + 1) := by rw [s_arg_1, ek_17, ncl (by omega)]; simp [s_quietP, nI_lt0 (show k_17 < 2 ^ 31 by omega), c_14, c_15, c_15', c_18, c_18']
          refine z_lv (lv' := [(0, .ref (A 99)), (1, .int (s_arg (fun _ => true) (s_quietP σ) (i_1 + 1))), (2, .int (nI (i_1 + 1)))]) [1, 2, 0] (by rw [← f_19]; rfl) ?_
          exact ih_3 (i_1 + 1) (by omega) (by omega)  
        · -- ¬ σ (k_17 + 18) ≤ σ (i_1 + 18)
          have c_18' := Int32.not_le.mp c_18
          refine z_iload_n 2 dX1_quiet_37 rfl ?_
          refine z_istore_n (lv' := [(1, .int (nI (i_1))), (0, .ref (A 99)), (2, .int (nI (i_1)))]) dX1_quiet_38 rfl (by decide) rfl ?_
          refine z_iinc (v := nI (i_1 + 1)) (lv' := [(2, .int (nI (i_1 + 1))), (1, .int (nI (i_1))), (0, .ref (A 99))]) 2 dX1_quiet_39 rfl (nI_1 _) (by decide) rfl ?_
          refine z_goto 4 dX1_quiet_42 (by decide) ?_
          have f_20 : nI (i_1) = s_arg (fun _ => true) (s_quietP σ) (i_1 + 1) := by rw [s_arg_1, ek_17, ncl (by omega)]; simp [s_quietP, nI_lt0 (show k_17 < 2 ^ 31 by omega), c_14, c_15, c_15', c_18, c_18']
          refine z_lv (lv' := [(0, .ref (A 99)), (1, .int (s_arg (fun _ => true) (s_quietP σ) (i_1 + 1))), (2, .int (nI (i_1 + 1)))]) [2, 1, 0] (by rw [← f_20]; rfl) ?_
          exact ih_3 (i_1 + 1) (by omega) (by omega)  
  have f_21 : zm1 = s_arg (fun _ => true) (s_quietP σ) 0 := by rfl
  refine z_lv (lv' := [(0, .ref (A 99)), (1, .int (s_arg (fun _ => true) (s_quietP σ) 0)), (2, .int 0)]) [2, 1, 0] (by rw [← f_21]; rfl) ?_
  exact loop_5 (nd - 0) 0 (by omega) (Nat.le_refl _)  
set_option maxHeartbeats 4000000 in
theorem c_eldest {g : zG} {A : Nat → Nat} {K : Nat → Nat → Int32} {F : Nat → Int32} {O : Nat → Nat → Option Nat} {gl : Int64} {X : zX} (hA : cok g A X) {v : Nat} (hO : O 0 0 = some v) {vs : Nat → Int32} {nh nd : Nat} {own : Nat → Nat} {wv : Int32 → Int32 → Int32 → Int32 → Int32} (hV : s_ok vs nh nd own) (hv : cvl g X v vs nh nd wv) {σ ds τ es : Nat → Int32} {dt2 yr2 o : Int32} {now : Nat} (hnow : now < 2 ^ 28) (hiv : s_iv σ nd) (h : Int32) : zN g m_X1_eldest ({ frames := 3, cells := 0, slots := 0, locals := 61 } : Room) [.ref (A 99), .int h] (cX g A (cput (cput (zs K 99 8 o) 300 σ ds (nI (now % 12)) (nI (now / 12))) 310 τ es dt2 yr2) F O gl X) (fun rv X' => rv = some (.int (if (decide (0 ≤ h) && decide (h < nI nh)) = true then s_arg (s_inP σ h) (s_oldP σ) nd else zm1)) ∧ X' = (cX g A (cput (cput (zs K 99 8 o) 300 σ ds (nI (now % 12)) (nI (now / 12))) 310 τ es dt2 yr2) F O gl X)) := by
  refine zN.of (by decide +kernel) (Nat.le_of_ble_eq_true rfl) rfl ?_
  refine z_lv (lv' := [(0, .ref (A 99)), (1, .int h)]) [0, 1] rfl ?_
  have hA2 := hA.2.2.1
  have hV9 := hV
  have hv9 := hv
  obtain ⟨h0, hnh, h1, hnd, hown⟩ := hV9
  obtain ⟨lh, lg, fh, fg, st9, fa, hxv, ⟨mh, eh, ch, hlh, heh, hch1, hch2⟩, ⟨mg, eg, cg, hlg, heg, hcg1, hcg2⟩, hhs, hgs, hst9, hfa⟩ := hv9
  refine z_aload_n 0 dX1_eldest_0 rfl ?_
  refine z_iload_n 1 dX1_eldest_1 rfl ?_
  refine z_callV (As := [.int h]) (c_isHouse (K := (cput (cput (zs K 99 8 o) 300 σ ds (nI (now % 12)) (nI (now / 12))) 310 τ es dt2 yr2)) (F := F) (gl := gl) hA hO hxv hlh heh hch1 hch2 hlg heg hcg1 hcg2 (by omega) h) q1123 q1125 qs27 q112 q1126 nm_X1_isHouse (cX_obj hA) rfl rfl rfl (Nat.le_of_ble_eq_true rfl) ⟨Nat.le_of_ble_eq_true rfl, Nat.le_of_ble_eq_true rfl⟩ dX1_eldest_2 rfl rfl (Nat.le_of_ble_eq_true rfl) (Nat.le_of_ble_eq_true rfl) (fun v_1 X_2 hp_3 => ?_)
  obtain ⟨rfl, rfl⟩ := hp_3
  refine z_st (st' := [.int (zb (decide (0 ≤ h) && decide (h < nI nh)))]) rfl ?_
  refine z_if_neb 10 dX1_eldest_5 (by decide) (fun c_4 => ?_) (fun c_4 => ?_)
  · -- decide (0 ≤ h) && decide (h < nI nh) = true
    refine z_iconst (v := zm1) dX1_eldest_10 (by decide) ?_
    refine z_istore_n (lv' := [(2, .int zm1), (0, .ref (A 99)), (1, .int h)]) dX1_eldest_11 rfl (by decide) rfl ?_
    refine z_iconst (v := 0) dX1_eldest_12 (by decide) ?_
    refine z_istore_n (lv' := [(3, .int 0), (2, .int zm1), (0, .ref (A 99)), (1, .int h)]) dX1_eldest_13 rfl (by decide) rfl ?_
    have loop_9 : ∀ (q_6 i_5 : Nat), i_5 + q_6 = nd → 0 ≤ i_5 → zZ g m_X1_eldest (fun rv X' => rv = some (.int (if (decide (0 ≤ h) && decide (h < nI nh)) = true then s_arg (s_inP σ h) (s_oldP σ) nd else zm1)) ∧ X' = (cX g A (cput (cput (zs K 99 8 o) 300 σ ds (nI (now % 12)) (nI (now / 12))) 310 τ es dt2 yr2) F O gl X), zno, ({ frames := 3, cells := 0, slots := 0, locals := 61 } : Room)) 0 0 (cX g A (cput (cput (zs K 99 8 o) 300 σ ds (nI (now % 12)) (nI (now / 12))) 310 τ es dt2 yr2) F O gl X) 14 [(0, .ref (A 99)), (1, .int h), (2, .int (s_arg (s_inP σ h) (s_oldP σ) i_5)), (3, .int (nI (i_5)))] [] := by
      intro q_6
      induction q_6 with
      | zero =>
        intro i_5 hb_8 lo_10  
        obtain rfl : nd = i_5 := by omega
        refine z_iload_n 3 dX1_eldest_14 rfl ?_
        refine z_aload_n 0 dX1_eldest_15 rfl ?_
        refine z_callV (As := []) (c_guests (K := (cput (cput (zs K 99 8 o) 300 σ ds (nI (now % 12)) (nI (now / 12))) 310 τ es dt2 yr2)) (F := F) (gl := gl) hA hO hxv hlh heh hch1 hch2 hlg heg hcg1 hcg2) q1139 q1141 qs30 q112 q1142 nm_X1_guests (cX_obj hA) rfl rfl rfl (Nat.le_of_ble_eq_true rfl) ⟨Nat.le_of_ble_eq_true rfl, Nat.le_of_ble_eq_true rfl⟩ dX1_eldest_16 rfl rfl (Nat.le_of_ble_eq_true rfl) (Nat.le_of_ble_eq_true rfl) (fun v_11 X_12 hp_13 => ?_)
        obtain ⟨rfl, rfl⟩ := hp_13
        refine z_st (st' := [.int (nI (nd)), .int (nI (nd))]) rfl ?_
        refine z_icmp_geN (a := nd) (b := nd) 71 (by omega) (by omega) dX1_eldest_19 (by decide) (fun c_14 => ?_) (fun c_14 => absurd c_14 (by omega))
        refine z_iload_n 2 dX1_eldest_71 rfl ?_
        exact z_iret dX1_eldest_72 rfl (Nat.le_of_ble_eq_true rfl) (Nat.le_of_ble_eq_true rfl) ⟨congrArg some (congrArg Value.int (by rw [c_4]; rfl)), rfl⟩
      | succ q_6 ih_7 =>
        intro i_5 hb_8 lo_10  
        refine z_iload_n 3 dX1_eldest_14 rfl ?_
        refine z_aload_n 0 dX1_eldest_15 rfl ?_
        refine z_callV (As := []) (c_guests (K := (cput (cput (zs K 99 8 o) 300 σ ds (nI (now % 12)) (nI (now / 12))) 310 τ es dt2 yr2)) (F := F) (gl := gl) hA hO hxv hlh heh hch1 hch2 hlg heg hcg1 hcg2) q1139 q1141 qs30 q112 q1142 nm_X1_guests (cX_obj hA) rfl rfl rfl (Nat.le_of_ble_eq_true rfl) ⟨Nat.le_of_ble_eq_true rfl, Nat.le_of_ble_eq_true rfl⟩ dX1_eldest_16 rfl rfl (Nat.le_of_ble_eq_true rfl) (Nat.le_of_ble_eq_true rfl) (fun v_15 X_16 hp_17 => ?_)
        obtain ⟨rfl, rfl⟩ := hp_17
        refine z_st (st' := [.int (nI (nd)), .int (nI (i_5))]) rfl ?_
        refine z_icmp_geN (a := i_5) (b := nd) 71 (by omega) (by omega) dX1_eldest_19 (by decide) (fun c_18 => absurd c_18 (by omega)) (fun c_18 => ?_)
        refine z_aload_n 0 dX1_eldest_22 rfl ?_
        refine cz_get (v := .ref (A 309)) 4 hA (by decide) q331 rfl dX1_eldest_23 ?_
        refine cz_getSN (s := 300) (v := .ref (A 302)) 2 hA (cst_0 hA) (by decide) q265 rfl dX1_eldest_26 ?_
        refine z_iload_n 3 dX1_eldest_29 rfl ?_
        refine cz_iald (v := σ (i_5 + 6)) 302 i_5 hA (by unfold cia; omega) rfl (by have h9 : csz 302 = 6 := rfl; omega) (by rw [cput_a (by omega), cput_where (by omega)]) dX1_eldest_30 ?_
        refine z_iload_n 1 dX1_eldest_31 rfl ?_
        refine z_icmp_ne 65 dX1_eldest_32 (by decide) (fun c_19 => ?_) (fun c_19 => ?_)
        · -- ¬ σ (i_5 + 6) = h
          refine z_iinc (v := nI (i_5 + 1)) (lv' := [(3, .int (nI (i_5 + 1))), (0, .ref (A 99)), (1, .int h), (2, .int (s_arg (s_inP σ h) (s_oldP σ) i_5))]) 3 dX1_eldest_65 rfl (nI_1 _) (by decide) rfl ?_
          refine z_goto 14 dX1_eldest_68 (by decide) ?_
          have f_20 : s_arg (s_inP σ h) (s_oldP σ) i_5 = s_arg (s_inP σ h) (s_oldP σ) (i_5 + 1) := by rw [s_arg_1]; simp [s_oldP, s_inP, c_4, c_18, c_19]
          refine z_lv (lv' := [(0, .ref (A 99)), (1, .int h), (2, .int (s_arg (s_inP σ h) (s_oldP σ) (i_5 + 1))), (3, .int (nI (i_5 + 1)))]) [1, 2, 3, 0] (by rw [← f_20]; rfl) ?_
          exact ih_7 (i_5 + 1) (by omega) (by omega)  
        · -- σ (i_5 + 6) = h
          refine z_iload_n 2 dX1_eldest_35 rfl ?_
          refine z_if_lt 63 dX1_eldest_36 (by decide) (fun c_21 => ?_) (fun c_21 => ?_)
          · -- s_arg (s_inP σ h) (s_oldP σ) i_5 < 0
            have c_21' := Int32.not_le.mpr c_21
            refine z_iload_n 3 dX1_eldest_63 rfl ?_
            refine z_istore_n (lv' := [(2, .int (nI (i_5))), (0, .ref (A 99)), (1, .int h), (3, .int (nI (i_5)))]) dX1_eldest_64 rfl (by decide) rfl ?_
            refine z_iinc (v := nI (i_5 + 1)) (lv' := [(3, .int (nI (i_5 + 1))), (2, .int (nI (i_5))), (0, .ref (A 99)), (1, .int h)]) 3 dX1_eldest_65 rfl (nI_1 _) (by decide) rfl ?_
            refine z_goto 14 dX1_eldest_68 (by decide) ?_
            have f_22 : nI (i_5) = s_arg (s_inP σ h) (s_oldP σ) (i_5 + 1) := by rw [s_arg_1]; simp [s_oldP, s_inP, c_4, c_18, c_19, c_21]
            refine z_lv (lv' := [(0, .ref (A 99)), (1, .int h), (2, .int (s_arg (s_inP σ h) (s_oldP σ) (i_5 + 1))), (3, .int (nI (i_5 + 1)))]) [2, 3, 1, 0] (by rw [← f_22]; rfl) ?_
            exact ih_7 (i_5 + 1) (by omega) (by omega)  
          · -- ¬ s_arg (s_inP σ h) (s_oldP σ) i_5 < 0
            have c_21' := Int32.not_lt.mp c_21
            obtain ⟨k_23, hk_23, ek_23⟩ := s_arg_k c_21
            refine z_lv (lv' := [(0, .ref (A 99)), (1, .int h), (2, .int (nI (k_23))), (3, .int (nI (i_5)))]) [0, 1, 2, 3] (by rw [ek_23]; rfl) ?_
            refine z_aload_n 0 dX1_eldest_39 rfl ?_
            refine cz_get (v := .ref (A 309)) 4 hA (by decide) q331 rfl dX1_eldest_40 ?_
            refine cz_getSN (s := 300) (v := .ref (A 303)) 3 hA (cst_0 hA) (by decide) q267 rfl dX1_eldest_43 ?_
            refine z_iload_n 3 dX1_eldest_46 rfl ?_
            refine cz_iald (v := σ (i_5 + 12)) 303 i_5 hA (by unfold cia; omega) rfl (by have h9 : csz 303 = 6 := rfl; omega) (by rw [cput_a (by omega), cput_been (by omega)]) dX1_eldest_47 ?_
            refine z_aload_n 0 dX1_eldest_48 rfl ?_
            refine cz_get (v := .ref (A 309)) 4 hA (by decide) q331 rfl dX1_eldest_49 ?_
            refine cz_getSN (s := 300) (v := .ref (A 303)) 3 hA (cst_0 hA) (by decide) q267 rfl dX1_eldest_52 ?_
            refine z_iload_n 2 dX1_eldest_55 rfl ?_
            refine cz_iald (v := σ (k_23 + 12)) 303 k_23 hA (by unfold cia; omega) rfl (by have h9 : csz 303 = 6 := rfl; omega) (by rw [cput_a (by omega), cput_been (by omega)]) dX1_eldest_56 ?_
            refine z_icmp_gt 63 dX1_eldest_57 (by decide) (fun c_24 => ?_) (fun c_24 => ?_)
            · -- σ (k_23 + 12) < σ (i_5 + 12)
              have c_24' := Int32.not_le.mpr c_24
              refine z_iload_n 3 dX1_eldest_63 rfl ?_
              refine z_istore_n (lv' := [(2, .int (nI (i_5))), (0, .ref (A 99)), (1, .int h), (3, .int (nI (i_5)))]) dX1_eldest_64 rfl (by decide) rfl ?_
              refine z_iinc (v := nI (i_5 + 1)) (lv' := [(3, .int (nI (i_5 + 1))), (2, .int (nI (i_5))), (0, .ref (A 99)), (1, .int h)]) 3 dX1_eldest_65 rfl (nI_1 _) (by decide) rfl ?_
              refine z_goto 14 dX1_eldest_68 (by decide) ?_
              have f_25 : nI (i_5) = s_arg (s_inP σ h) (s_oldP σ) (i_5 + 1) := by rw [s_arg_1, ek_23, ncl (by omega)]; simp [s_oldP, s_inP, nI_lt0 (show k_23 < 2 ^ 31 by omega), c_4, c_18, c_19, c_21, c_21', c_24, c_24']
              refine z_lv (lv' := [(0, .ref (A 99)), (1, .int h), (2, .int (s_arg (s_inP σ h) (s_oldP σ) (i_5 + 1))), (3, .int (nI (i_5 + 1)))]) [2, 3, 1, 0] (by rw [← f_25]; rfl) ?_
              exact ih_7 (i_5 + 1) (by omega) (by omega)  
            · -- ¬ σ (k_23 + 12) < σ (i_5 + 12)
              have c_24' := Int32.not_lt.mp c_24
              refine z_goto 65 dX1_eldest_60 (by decide) ?_
              refine z_iinc (v := nI (i_5 + 1)) (lv' := [(3, .int (nI (i_5 + 1))), (0, .ref (A 99)), (1, .int h), (2, .int (nI (k_23)))]) 3 dX1_eldest_65 rfl (nI_1 _) (by decide) rfl ?_
              refine z_goto 14 dX1_eldest_68 (by decide) ?_
              have f_26 : nI (k_23) = s_arg (s_inP σ h) (s_oldP σ) (i_5 + 1) := by rw [s_arg_1, ek_23, ncl (by omega)]; simp [s_oldP, s_inP, nI_lt0 (show k_23 < 2 ^ 31 by omega), c_4, c_18, c_19, c_21, c_21', c_24, c_24']
              refine z_lv (lv' := [(0, .ref (A 99)), (1, .int h), (2, .int (s_arg (s_inP σ h) (s_oldP σ) (i_5 + 1))), (3, .int (nI (i_5 + 1)))]) [1, 2, 3, 0] (by rw [← f_26]; rfl) ?_
              exact ih_7 (i_5 + 1) (by omega) (by omega)  
    have f_27 : zm1 = s_arg (s_inP σ h) (s_oldP σ) 0 := by rfl
    refine z_lv (lv' := [(0, .ref (A 99)), (1, .int h), (2, .int (s_arg (s_inP σ h) (s_oldP σ) 0)), (3, .int 0)]) [2, 3, 1, 0] (by rw [← f_27]; rfl) ?_
    exact loop_9 (nd - 0) 0 (by omega) (Nat.le_refl _)  
  · -- decide (0 ≤ h) && decide (h < nI nh) = false
    refine z_iconst (v := zm1) dX1_eldest_8 (by decide) ?_
    exact z_iret dX1_eldest_9 rfl (Nat.le_of_ble_eq_true rfl) (Nat.le_of_ble_eq_true rfl) ⟨congrArg some (congrArg Value.int (by rw [c_4]; rfl)), rfl⟩
set_option maxHeartbeats 4000000 in
theorem c_loudest {g : zG} {A : Nat → Nat} {K : Nat → Nat → Int32} {F : Nat → Int32} {O : Nat → Nat → Option Nat} {gl : Int64} {X : zX} (hA : cok g A X) {v : Nat} (hO : O 0 0 = some v) {vs : Nat → Int32} {nh nd : Nat} {own : Nat → Nat} {wv : Int32 → Int32 → Int32 → Int32 → Int32} (hV : s_ok vs nh nd own) (hv : cvl g X v vs nh nd wv) {σ ds τ es : Nat → Int32} {dt2 yr2 o : Int32} {now : Nat} (hnow : now < 2 ^ 28) (hiv : s_iv σ nd)  : zN g m_X1_loudest ({ frames := 3, cells := 0, slots := 0, locals := 63 } : Room) [.ref (A 99)] (cX g A (cput (cput (zs K 99 8 o) 300 σ ds (nI (now % 12)) (nI (now / 12))) 310 τ es dt2 yr2) F O gl X) (fun rv X' => rv = some (.int ((s_loud (fun h => s_talk σ (nI h) nd) nh).1)) ∧ X' = (cX g A (cput (cput (zs K 99 8 o) 300 σ ds (nI (now % 12)) (nI (now / 12))) 310 τ es dt2 yr2) F O gl X)) := by
  refine zN.of (by decide +kernel) (Nat.le_of_ble_eq_true rfl) rfl ?_
  refine z_lv (lv' := [(0, .ref (A 99))]) [0] rfl ?_
  have hA2 := hA.2.2.1
  have hV9 := hV
  have hv9 := hv
  obtain ⟨h0, hnh, h1, hnd, hown⟩ := hV9
  obtain ⟨lh, lg, fh, fg, st9, fa, hxv, ⟨mh, eh, ch, hlh, heh, hch1, hch2⟩, ⟨mg, eg, cg, hlg, heg, hcg1, hcg2⟩, hhs, hgs, hst9, hfa⟩ := hv9
  refine z_iconst (v := zm1) dX1_loudest_0 (by decide) ?_
  refine z_istore_n (lv' := [(1, .int zm1), (0, .ref (A 99))]) dX1_loudest_1 rfl (by decide) rfl ?_
  refine z_iconst (v := 0) dX1_loudest_2 (by decide) ?_
  refine z_istore_n (lv' := [(2, .int 0), (1, .int zm1), (0, .ref (A 99))]) dX1_loudest_3 rfl (by decide) rfl ?_
  refine z_iconst (v := 0) dX1_loudest_4 (by decide) ?_
  refine z_istore_n (lv' := [(3, .int 0), (2, .int 0), (1, .int zm1), (0, .ref (A 99))]) dX1_loudest_5 rfl (by decide) rfl ?_
  have loop_5 : ∀ (q_2 i_1 : Nat), i_1 + q_2 = nh → 0 ≤ i_1 → zZ g m_X1_loudest (fun rv X' => rv = some (.int ((s_loud (fun h => s_talk σ (nI h) nd) nh).1)) ∧ X' = (cX g A (cput (cput (zs K 99 8 o) 300 σ ds (nI (now % 12)) (nI (now / 12))) 310 τ es dt2 yr2) F O gl X), zno, ({ frames := 3, cells := 0, slots := 0, locals := 63 } : Room)) 0 0 (cX g A (cput (cput (zs K 99 8 o) 300 σ ds (nI (now % 12)) (nI (now / 12))) 310 τ es dt2 yr2) F O gl X) 6 [(0, .ref (A 99)), (1, .int ((s_loud (fun h => s_talk σ (nI h) nd) i_1).1)), (2, .int ((s_loud (fun h => s_talk σ (nI h) nd) i_1).2)), (3, .int (nI (i_1)))] [] := by
    intro q_2
    induction q_2 with
    | zero =>
      intro i_1 hb_4 lo_6  
      obtain rfl : nh = i_1 := by omega
      refine z_iload_n 3 dX1_loudest_6 rfl ?_
      refine z_aload_n 0 dX1_loudest_7 rfl ?_
      refine z_callV (As := []) (c_houses (K := (cput (cput (zs K 99 8 o) 300 σ ds (nI (now % 12)) (nI (now / 12))) 310 τ es dt2 yr2)) (F := F) (gl := gl) hA hO hxv hlh heh hch1 hch2 hlg heg hcg1 hcg2) q1127 q1129 qs28 q112 q1130 nm_X1_houses (cX_obj hA) rfl rfl rfl (Nat.le_of_ble_eq_true rfl) ⟨Nat.le_of_ble_eq_true rfl, Nat.le_of_ble_eq_true rfl⟩ dX1_loudest_8 rfl rfl (Nat.le_of_ble_eq_true rfl) (Nat.le_of_ble_eq_true rfl) (fun v_7 X_8 hp_9 => ?_)
      obtain ⟨rfl, rfl⟩ := hp_9
      refine z_st (st' := [.int (nI (nh)), .int (nI (nh))]) rfl ?_
      refine z_icmp_geN (a := nh) (b := nh) 40 (by omega) (by omega) dX1_loudest_11 (by decide) (fun c_10 => ?_) (fun c_10 => absurd c_10 (by omega))
      refine z_iload_n 1 dX1_loudest_40 rfl ?_
      exact z_iret dX1_loudest_41 rfl (Nat.le_of_ble_eq_true rfl) (Nat.le_of_ble_eq_true rfl) ⟨congrArg some (congrArg Value.int (by first | rfl | (simp [s_loud, hb_4, c_10]; done) | (skip; simp [s_loud, hb_4, c_10]))), rfl⟩
    | succ q_2 ih_3 =>
      intro i_1 hb_4 lo_6  
      refine z_iload_n 3 dX1_loudest_6 rfl ?_
      refine z_aload_n 0 dX1_loudest_7 rfl ?_
      refine z_callV (As := []) (c_houses (K := (cput (cput (zs K 99 8 o) 300 σ ds (nI (now % 12)) (nI (now / 12))) 310 τ es dt2 yr2)) (F := F) (gl := gl) hA hO hxv hlh heh hch1 hch2 hlg heg hcg1 hcg2) q1127 q1129 qs28 q112 q1130 nm_X1_houses (cX_obj hA) rfl rfl rfl (Nat.le_of_ble_eq_true rfl) ⟨Nat.le_of_ble_eq_true rfl, Nat.le_of_ble_eq_true rfl⟩ dX1_loudest_8 rfl rfl (Nat.le_of_ble_eq_true rfl) (Nat.le_of_ble_eq_true rfl) (fun v_11 X_12 hp_13 => ?_)
      obtain ⟨rfl, rfl⟩ := hp_13
      refine z_st (st' := [.int (nI (nh)), .int (nI (i_1))]) rfl ?_
      refine z_icmp_geN (a := i_1) (b := nh) 40 (by omega) (by omega) dX1_loudest_11 (by decide) (fun c_14 => absurd c_14 (by omega)) (fun c_14 => ?_)
      refine z_aload_n 0 dX1_loudest_14 rfl ?_
      refine z_iload_n 3 dX1_loudest_15 rfl ?_
      refine z_callV (As := [.int (nI (i_1))]) (c_talk (K := K) (F := F) (gl := gl) (σ := σ) (ds := ds) (τ := τ) (es := es) (dt2 := dt2) (yr2 := yr2) (o := o) hA hO hV hv hnow hiv (nI (i_1))) q1168 q1170 qs33 q112 q1171 nm_X1_talk (cX_obj hA) rfl rfl rfl (Nat.le_of_ble_eq_true rfl) ⟨Nat.le_of_ble_eq_true rfl, Nat.le_of_ble_eq_true rfl⟩ dX1_loudest_16 rfl rfl (Nat.le_of_ble_eq_true rfl) (Nat.le_of_ble_eq_true rfl) (fun v_15 X_16 hp_17 => ?_)
      obtain ⟨rfl, rfl⟩ := hp_17
      refine z_st (st' := [.int (s_talk σ (nI (i_1)) nd)]) rfl ?_
      refine z_iload_n 2 dX1_loudest_19 rfl ?_
      refine z_icmp_gt 26 dX1_loudest_20 (by decide) (fun c_18 => ?_) (fun c_18 => ?_)
      · -- (s_loud (fun h => s_talk σ (nI h) nd) i_1).2 < s_talk σ (nI (i_1)) nd
        have c_18' := Int32.not_le.mpr c_18
        refine z_iload_n 3 dX1_loudest_26 rfl ?_
        refine z_istore_n (lv' := [(1, .int (nI (i_1))), (0, .ref (A 99)), (2, .int ((s_loud (fun h => s_talk σ (nI h) nd) i_1).2)), (3, .int (nI (i_1)))]) dX1_loudest_27 rfl (by decide) rfl ?_
        refine z_aload_n 1 dX1_loudest_28 rfl ?_
        refine z_iload_n 3 dX1_loudest_29 rfl ?_
        refine z_callV (As := [.int (nI (i_1))]) (c_talk (K := K) (F := F) (gl := gl) (σ := σ) (ds := ds) (τ := τ) (es := es) (dt2 := dt2) (yr2 := yr2) (o := o) hA hO hV hv hnow hiv (nI (i_1))) q1168 q1170 qs33 q112 q1171 nm_X1_talk (cX_obj hA) rfl rfl rfl (Nat.le_of_ble_eq_true rfl) ⟨Nat.le_of_ble_eq_true rfl, Nat.le_of_ble_eq_true rfl⟩ dX1_loudest_30 rfl rfl (Nat.le_of_ble_eq_true rfl) (Nat.le_of_ble_eq_true rfl) (fun v_19 X_20 hp_21 => ?_)
        obtain ⟨rfl, rfl⟩ := hp_21
        refine z_st (st' := [.int (s_talk σ (nI (i_1)) nd)]) rfl ?_
        refine z_istore_n (lv' := [(2, .int (s_talk σ (nI (i_1)) nd)), (1, .int (nI (i_1))), (0, .ref (A 99)), (3, .int (nI (i_1)))]) dX1_loudest_33 rfl (by decide) rfl ?_
        refine z_iinc (v := nI (i_1 + 1)) (lv' := [(3, .int (nI (i_1 + 1))), (2, .int (s_talk σ (nI (i_1)) nd)), (1, .int (nI (i_1))), (0, .ref (A 99))]) 3 dX1_loudest_34 rfl (nI_1 _) (by decide) rfl ?_
        refine z_goto 6 dX1_loudest_37 (by decide) ?_
        have f_22 : nI (i_1) = (s_loud (fun h => s_talk σ (nI h) nd) (i_1 + 1)).1 := by first | rfl | omega | (simp [s_loud, hb_4, c_14, c_18, c_18']; done) | (skip; simp [s_loud, hb_4, c_14, c_18, c_18'])
        have f_23 : s_talk σ (nI (i_1)) nd = (s_loud (fun h => s_talk σ (nI h) nd) (i_1 + 1)).2 := by first | rfl | omega | (simp [s_loud, hb_4, c_14, c_18, c_18']; done) | (skip; simp [s_loud, hb_4, c_14, c_18, c_18'])
        refine z_lv (lv' := [(0, .ref (A 99)), (1, .int ((s_loud (fun h => s_talk σ (nI h) nd) (i_1 + 1)).1)), (2, .int ((s_loud (fun h => s_talk σ (nI h) nd) (i_1 + 1)).2)), (3, .int (nI (i_1 + 1)))]) [3, 2, 1, 0] (by rw [← f_22, ← f_23]; rfl) ?_
        exact ih_3 (i_1 + 1) (by omega) (by omega)  
      · -- ¬ (s_loud (fun h => s_talk σ (nI h) nd) i_1).2 < s_talk σ (nI (i_1)) nd
        have c_18' := Int32.not_lt.mp c_18
        refine z_goto 34 dX1_loudest_23 (by decide) ?_
        refine z_iinc (v := nI (i_1 + 1)) (lv' := [(3, .int (nI (i_1 + 1))), (0, .ref (A 99)), (1, .int ((s_loud (fun h => s_talk σ (nI h) nd) i_1).1)), (2, .int ((s_loud (fun h => s_talk σ (nI h) nd) i_1).2))]) 3 dX1_loudest_34 rfl (nI_1 _) (by decide) rfl ?_
        refine z_goto 6 dX1_loudest_37 (by decide) ?_
        have f_24 : (s_loud (fun h => s_talk σ (nI h) nd) i_1).1 = (s_loud (fun h => s_talk σ (nI h) nd) (i_1 + 1)).1 := by first | rfl | omega | (simp [s_loud, hb_4, c_14, c_18, c_18']; done) | (skip; simp [s_loud, hb_4, c_14, c_18, c_18'])
        have f_25 : (s_loud (fun h => s_talk σ (nI h) nd) i_1).2 = (s_loud (fun h => s_talk σ (nI h) nd) (i_1 + 1)).2 := by first | rfl | omega | (simp [s_loud, hb_4, c_14, c_18, c_18']; done) | (skip; simp [s_loud, hb_4, c_14, c_18, c_18'])
        refine z_lv (lv' := [(0, .ref (A 99)), (1, .int ((s_loud (fun h => s_talk σ (nI h) nd) (i_1 + 1)).1)), (2, .int ((s_loud (fun h => s_talk σ (nI h) nd) (i_1 + 1)).2)), (3, .int (nI (i_1 + 1)))]) [1, 2, 3, 0] (by rw [← f_24, ← f_25]; rfl) ?_
        exact ih_3 (i_1 + 1) (by omega) (by omega)  
  have f_26 : zm1 = (s_loud (fun h => s_talk σ (nI h) nd) 0).1 := by first | rfl | omega | (simp [s_loud]; done) | (skip; simp [s_loud])
  have f_27 : 0 = (s_loud (fun h => s_talk σ (nI h) nd) 0).2 := by first | rfl | omega | (simp [s_loud]; done) | (skip; simp [s_loud])
  refine z_lv (lv' := [(0, .ref (A 99)), (1, .int ((s_loud (fun h => s_talk σ (nI h) nd) 0).1)), (2, .int ((s_loud (fun h => s_talk σ (nI h) nd) 0).2)), (3, .int 0)]) [3, 2, 1, 0] (by rw [← f_26, ← f_27]; rfl) ?_
  exact loop_5 (nh - 0) 0 (by omega) (Nat.le_refl _)  
