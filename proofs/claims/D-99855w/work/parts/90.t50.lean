/-! THE COMPONENT: how it is. Printed by t50.py -/
set_option maxRecDepth 100000
/-- two states laid, the other way round -/
theorem c_sw {g : zG} {A : Nat → Nat} {K : Nat → Nat → Int32} {F : Nat → Int32} {O : Nat → Nat → Option Nat} {gl : Int64} {X : zX} {s t : Nat} {σ τ ds es : Nat → Int32} {dt yr dt' yr' : Int32} {m : zMth} {R : Room} {As : List Value} {Q : Option Value → zX → Prop} (hst : s + 10 ≤ t ∨ t + 10 ≤ s) (h : zN g m R As (cX g A (cput (cput K t τ es dt' yr') s σ ds dt yr) F O gl X) Q) : zN g m R As (cX g A (cput (cput K s σ ds dt yr) t τ es dt' yr') F O gl X) Q := by
  rw [cput_comm hst]
  exact h
set_option maxHeartbeats 4000000 in
theorem c_talk {g : zG} {A : Nat → Nat} {K : Nat → Nat → Int32} {F : Nat → Int32} {O : Nat → Nat → Option Nat} {gl : Int64} {X : zX} (hA : cok g A X) {v : Nat} (hO : O 0 0 = some v) {vs : Nat → Int32} {nh nd : Nat} {own : Nat → Nat} {wv : Int32 → Int32 → Int32 → Int32 → Int32} (hV : s_ok vs nh nd own) (hv : cvl g X v vs nh nd wv) {σ ds τ es : Nat → Int32} {dt2 yr2 o : Int32} {now : Nat} (hnow : now < 2 ^ 28) (hiv : s_iv σ nd) (h : Int32) : zN g m_X1_talk ({ frames := 2, cells := 0, slots := 0, locals := 40 } : Room) [.ref (A 99), .int h] (cX g A (cput (cput (zs K 99 8 o) 300 σ ds (nI (now % 12)) (nI (now / 12))) 310 τ es dt2 yr2) F O gl X) (fun rv X' => rv = some (.int (s_talk σ h nd)) ∧ X' = (cX g A (cput (cput (zs K 99 8 o) 300 σ ds (nI (now % 12)) (nI (now / 12))) 310 τ es dt2 yr2) F O gl X)) := by
  refine zN.of (by decide +kernel) (Nat.le_of_ble_eq_true rfl) rfl ?_
  refine z_lv (lv' := [(0, .ref (A 99)), (1, .int h)]) [0, 1] rfl ?_
  have hA2 := hA.2.2.1
  have hV9 := hV
  have hv9 := hv
  obtain ⟨h0, hnh, h1, hnd, hown⟩ := hV9
  obtain ⟨lh, lg, fh, fg, st9, fa, hxv, ⟨mh, eh, ch, hlh, heh, hch1, hch2⟩, ⟨mg, eg, cg, hlg, heg, hcg1, hcg2⟩, hhs, hgs, hst9, hfa⟩ := hv9
  refine z_iconst (v := 0) dX1_talk_0 (by decide) ?_
  refine z_istore_n (lv' := [(2, .int 0), (0, .ref (A 99)), (1, .int h)]) dX1_talk_1 rfl (by decide) rfl ?_
  refine z_iconst (v := 0) dX1_talk_2 (by decide) ?_
  refine z_istore_n (lv' := [(3, .int 0), (2, .int 0), (0, .ref (A 99)), (1, .int h)]) dX1_talk_3 rfl (by decide) rfl ?_
  have loop_5 : ∀ (q_2 i_1 : Nat), i_1 + q_2 = nd → 0 ≤ i_1 → zZ g m_X1_talk (fun rv X' => rv = some (.int (s_talk σ h nd)) ∧ X' = (cX g A (cput (cput (zs K 99 8 o) 300 σ ds (nI (now % 12)) (nI (now / 12))) 310 τ es dt2 yr2) F O gl X), zno, ({ frames := 2, cells := 0, slots := 0, locals := 40 } : Room)) 0 0 (cX g A (cput (cput (zs K 99 8 o) 300 σ ds (nI (now % 12)) (nI (now / 12))) 310 τ es dt2 yr2) F O gl X) 4 [(0, .ref (A 99)), (1, .int h), (2, .int (s_talk σ h i_1)), (3, .int (nI (i_1)))] [] := by
    intro q_2
    induction q_2 with
    | zero =>
      intro i_1 hb_4 lo_6  
      obtain rfl : nd = i_1 := by omega
      refine z_iload_n 3 dX1_talk_4 rfl ?_
      refine z_aload_n 0 dX1_talk_5 rfl ?_
      refine z_callV (As := []) (c_guests (K := (cput (cput (zs K 99 8 o) 300 σ ds (nI (now % 12)) (nI (now / 12))) 310 τ es dt2 yr2)) (F := F) (gl := gl) hA hO hxv hlh heh hch1 hch2 hlg heg hcg1 hcg2) q1139 q1141 qs30 q112 q1142 nm_X1_guests (cX_obj hA) rfl rfl rfl (Nat.le_of_ble_eq_true rfl) ⟨Nat.le_of_ble_eq_true rfl, Nat.le_of_ble_eq_true rfl⟩ dX1_talk_6 rfl rfl (Nat.le_of_ble_eq_true rfl) (Nat.le_of_ble_eq_true rfl) (fun v_7 X_8 hp_9 => ?_)
      obtain ⟨rfl, rfl⟩ := hp_9
      refine z_st (st' := [.int (nI (nd)), .int (nI (nd))]) rfl ?_
      refine z_icmp_geN (a := nd) (b := nd) 43 (by omega) (by omega) dX1_talk_9 (by decide) (fun c_10 => ?_) (fun c_10 => absurd c_10 (by omega))
      refine z_iload_n 2 dX1_talk_43 rfl ?_
      exact z_iret dX1_talk_44 rfl (Nat.le_of_ble_eq_true rfl) (Nat.le_of_ble_eq_true rfl) ⟨congrArg some (congrArg Value.int (by first | rfl | (simp [s_talk, hb_4, c_10]; done) | (skip; simp [s_talk, hb_4, c_10]))), rfl⟩
    | succ q_2 ih_3 =>
      intro i_1 hb_4 lo_6  
      refine z_iload_n 3 dX1_talk_4 rfl ?_
      refine z_aload_n 0 dX1_talk_5 rfl ?_
      refine z_callV (As := []) (c_guests (K := (cput (cput (zs K 99 8 o) 300 σ ds (nI (now % 12)) (nI (now / 12))) 310 τ es dt2 yr2)) (F := F) (gl := gl) hA hO hxv hlh heh hch1 hch2 hlg heg hcg1 hcg2) q1139 q1141 qs30 q112 q1142 nm_X1_guests (cX_obj hA) rfl rfl rfl (Nat.le_of_ble_eq_true rfl) ⟨Nat.le_of_ble_eq_true rfl, Nat.le_of_ble_eq_true rfl⟩ dX1_talk_6 rfl rfl (Nat.le_of_ble_eq_true rfl) (Nat.le_of_ble_eq_true rfl) (fun v_11 X_12 hp_13 => ?_)
      obtain ⟨rfl, rfl⟩ := hp_13
      refine z_st (st' := [.int (nI (nd)), .int (nI (i_1))]) rfl ?_
      refine z_icmp_geN (a := i_1) (b := nd) 43 (by omega) (by omega) dX1_talk_9 (by decide) (fun c_14 => absurd c_14 (by omega)) (fun c_14 => ?_)
      refine z_aload_n 0 dX1_talk_12 rfl ?_
      refine cz_get (v := .ref (A 309)) 4 hA (by decide) q331 rfl dX1_talk_13 ?_
      refine cz_getSN (s := 300) (v := .ref (A 302)) 2 hA (cst_0 hA) (by decide) q265 rfl dX1_talk_16 ?_
      refine z_iload_n 3 dX1_talk_19 rfl ?_
      refine cz_iald (v := σ (i_1 + 6)) 302 i_1 hA (by unfold cia; omega) rfl (by have h9 : csz 302 = 6 := rfl; omega) (by rw [cput_a (by omega), cput_where (by omega)]) dX1_talk_20 ?_
      refine z_iload_n 1 dX1_talk_21 rfl ?_
      refine z_icmp_ne 37 dX1_talk_22 (by decide) (fun c_15 => ?_) (fun c_15 => ?_)
      · -- ¬ σ (i_1 + 6) = h
        refine z_iinc (v := nI (i_1 + 1)) (lv' := [(3, .int (nI (i_1 + 1))), (0, .ref (A 99)), (1, .int h), (2, .int (s_talk σ h i_1))]) 3 dX1_talk_37 rfl (nI_1 _) (by decide) rfl ?_
        refine z_goto 4 dX1_talk_40 (by decide) ?_
        have f_16 : s_talk σ h i_1 = s_talk σ h (i_1 + 1) := by first | rfl | omega | (simp [s_talk, hb_4, c_14, c_15]; done) | (skip; simp [s_talk, hb_4, c_14, c_15])
        refine z_lv (lv' := [(0, .ref (A 99)), (1, .int h), (2, .int (s_talk σ h (i_1 + 1))), (3, .int (nI (i_1 + 1)))]) [1, 2, 3, 0] (by rw [← f_16]; rfl) ?_
        exact ih_3 (i_1 + 1) (by omega) (by omega)  
      · -- σ (i_1 + 6) = h
        refine z_iload_n 2 dX1_talk_25 rfl ?_
        refine z_aload_n 0 dX1_talk_26 rfl ?_
        refine cz_get (v := .ref (A 309)) 4 hA (by decide) q331 rfl dX1_talk_27 ?_
        refine cz_getSN (s := 300) (v := .ref (A 301)) 1 hA (cst_0 hA) (by decide) q261 rfl dX1_talk_30 ?_
        refine z_iload_n 3 dX1_talk_33 rfl ?_
        refine cz_iald (v := σ (i_1 + 18)) 301 i_1 hA (by unfold cia; omega) rfl (by have h9 : csz 301 = 6 := rfl; omega) (by rw [cput_a (by omega), cput_says (by omega)]) dX1_talk_34 ?_
        refine z_iadd dX1_talk_35 ?_
        obtain ⟨x_17, ex_17⟩ : ∃ y : Int32, ((s_talk σ h i_1) + (σ (i_1 + 18))) = y := ⟨_, rfl⟩
        refine z_eq ex_17 ?_
        refine z_istore_n (lv' := [(2, .int x_17), (0, .ref (A 99)), (1, .int h), (3, .int (nI (i_1)))]) dX1_talk_36 rfl (by decide) rfl ?_
        refine z_iinc (v := nI (i_1 + 1)) (lv' := [(3, .int (nI (i_1 + 1))), (2, .int x_17), (0, .ref (A 99)), (1, .int h)]) 3 dX1_talk_37 rfl (nI_1 _) (by decide) rfl ?_
        refine z_goto 4 dX1_talk_40 (by decide) ?_
        have f_18 : x_17 = s_talk σ h (i_1 + 1) := by first | rfl | omega | (simp [s_talk, hb_4, c_14, c_15]; done) | ((try subst ex_17); simp [s_talk, hb_4, c_14, c_15])
        subst f_18
        refine z_lv (lv' := [(0, .ref (A 99)), (1, .int h), (2, .int (s_talk σ h (i_1 + 1))), (3, .int (nI (i_1 + 1)))]) [2, 3, 1, 0] rfl ?_
        exact ih_3 (i_1 + 1) (by omega) (by omega)  
  have f_19 : 0 = s_talk σ h 0 := by first | rfl | omega | (simp [s_talk]; done) | (skip; simp [s_talk])
  refine z_lv (lv' := [(0, .ref (A 99)), (1, .int h), (2, .int (s_talk σ h 0)), (3, .int 0)]) [2, 3, 1, 0] (by rw [← f_19]; rfl) ?_
  exact loop_5 (nd - 0) 0 (by omega) (Nat.le_refl _)  
theorem s_win_out {w : Int32} {m : Nat} (h : ∀ k, k ≤ m → ¬ w = nI k) (hm : m < 2 ^ 31) : (decide (0 ≤ w) && decide (w ≤ nI m)) = false := by
  by_cases h1 : 0 ≤ w
  · obtain ⟨k, hk, e⟩ := nI_of (x := w) (Int32.not_lt.mpr h1)
    rw [decide_eq_true h1, Bool.true_and]
    refine decide_eq_false (fun h2 => ?_)
    rw [e, nI_leI hk hm] at h2
    exact h k h2 e
  · rw [decide_eq_false h1, Bool.false_and]
set_option maxHeartbeats 4000000 in
theorem c_house {g : zG} {A : Nat → Nat} {K : Nat → Nat → Int32} {F : Nat → Int32} {O : Nat → Nat → Option Nat} {gl : Int64} {X : zX} (hA : cok g A X) {v : Nat} (hO : O 0 0 = some v) {vs : Nat → Int32} {nh nd : Nat} {own : Nat → Nat} {wv : Int32 → Int32 → Int32 → Int32 → Int32} (hV : s_ok vs nh nd own) (hv : cvl g X v vs nh nd wv) {σ ds τ es : Nat → Int32} {dt2 yr2 o : Int32} {now : Nat} (hnow : now < 2 ^ 28) (hiv : s_iv σ nd) (h w : Int32) : zN g m_X1_house ({ frames := 5, cells := 0, slots := 0, locals := 109 } : Room) [.ref (A 99), .int h, .int w] (cX g A (cput (cput (zs K 99 8 o) 300 σ ds (nI (now % 12)) (nI (now / 12))) 310 τ es dt2 yr2) F O gl X) (fun rv X' => rv = some (.int (s_house vs σ nh nd h w)) ∧ X' = (cX g A (cput (cput (zs K 99 8 o) 300 σ ds (nI (now % 12)) (nI (now / 12))) 310 τ es dt2 yr2) F O gl X)) := by
  refine zN.of (by decide +kernel) (Nat.le_of_ble_eq_true rfl) rfl ?_
  refine z_lv (lv' := [(0, .ref (A 99)), (1, .int h), (2, .int w)]) [0, 1, 2] rfl ?_
  have hA2 := hA.2.2.1
  have hV9 := hV
  have hv9 := hv
  obtain ⟨h0, hnh, h1, hnd, hown⟩ := hV9
  obtain ⟨lh, lg, fh, fg, st9, fa, hxv, ⟨mh, eh, ch, hlh, heh, hch1, hch2⟩, ⟨mg, eg, cg, hlg, heg, hcg1, hcg2⟩, hhs, hgs, hst9, hfa⟩ := hv9
  refine z_aload_n 0 dX1_house_0 rfl ?_
  refine z_iload_n 1 dX1_house_1 rfl ?_
  refine z_callV (As := [.int h]) (c_isHouse (K := (cput (cput (zs K 99 8 o) 300 σ ds (nI (now % 12)) (nI (now / 12))) 310 τ es dt2 yr2)) (F := F) (gl := gl) hA hO hxv hlh heh hch1 hch2 hlg heg hcg1 hcg2 (by omega) h) q1123 q1125 qs27 q112 q1126 nm_X1_isHouse (cX_obj hA) rfl rfl rfl (Nat.le_of_ble_eq_true rfl) ⟨Nat.le_of_ble_eq_true rfl, Nat.le_of_ble_eq_true rfl⟩ dX1_house_2 rfl rfl (Nat.le_of_ble_eq_true rfl) (Nat.le_of_ble_eq_true rfl) (fun v_1 X_2 hp_3 => ?_)
  obtain ⟨rfl, rfl⟩ := hp_3
  refine z_st (st' := [.int (zb (decide (0 ≤ h) && decide (h < nI nh)))]) rfl ?_
  refine z_if_neb 11 dX1_house_5 (by decide) (fun c_4 => ?_) (fun c_4 => ?_)
  · -- decide (0 ≤ h) && decide (h < nI nh) = true
    obtain ⟨hh, hhh, e_h⟩ := zday (by omega) c_4
    refine z_lv (lv' := [(0, .ref (A 99)), (1, .int (nI (hh))), (2, .int w)]) [0, 1, 2] (by rw [e_h]; rfl) ?_
    refine z_iload_n 2 dX1_house_11 rfl ?_
    by_cases c_5 : w = 0
    · refine z_tableIn (off := 36) 48 dX1_house_12 (by rw [c_5]; decide) (by rw [c_5]; decide) (by rw [c_5]; rfl) (by decide) ?_
      refine z_aload_n 0 dX1_house_48 rfl ?_
      refine cz_get (v := .ref (A 309)) 4 hA (by decide) q331 rfl dX1_house_49 ?_
      refine cz_getSN (s := 300) (v := .ref (A 300)) 0 hA (cst_0 hA) (by decide) q259 rfl dX1_house_52 ?_
      refine z_iload_n 1 dX1_house_55 rfl ?_
      refine cz_iald (v := σ (hh + 2)) 300 hh hA (by unfold cia; omega) rfl (by have h9 : csz 300 = 4 := rfl; omega) (by rw [cput_a (by omega), cput_beds (by omega)]) dX1_house_56 ?_
      exact z_iret dX1_house_57 rfl (Nat.le_of_ble_eq_true rfl) (Nat.le_of_ble_eq_true rfl) ⟨congrArg some (congrArg Value.int (by unfold s_house; rw [c_4, c_5, e_h, ncl (by omega)]; rfl)), rfl⟩
    by_cases c_6 : w = 1
    · refine z_tableIn (off := 46) 58 dX1_house_12 (by rw [c_6]; decide) (by rw [c_6]; decide) (by rw [c_6]; rfl) (by decide) ?_
      refine z_aload_n 0 dX1_house_58 rfl ?_
      refine z_aload_n 0 dX1_house_59 rfl ?_
      refine cz_get (v := .ref (A 309)) 4 hA (by decide) q331 rfl dX1_house_60 ?_
      refine z_iload_n 1 dX1_house_63 rfl ?_
      refine z_callV (As := [.ref (A 309), .int (nI (hh))]) (c_sw (by omega) (c_freeIn (F := F) (gl := gl) (K := (cput (zs K 99 8 o) 310 τ es dt2 yr2)) (σ := σ) (ds := ds) (dt := (nI (now % 12))) (yr := (nI (now / 12))) hA hO hV hv (cst_0 hA) hh (by omega))) q1135 q1137 qs29 q112 q1138 nm_X1_freeIn (cX_obj hA) rfl rfl rfl (Nat.le_of_ble_eq_true rfl) ⟨Nat.le_of_ble_eq_true rfl, Nat.le_of_ble_eq_true rfl⟩ dX1_house_64 rfl rfl (Nat.le_of_ble_eq_true rfl) (Nat.le_of_ble_eq_true rfl) (fun v_7 X_8 hp_9 => ?_)
      obtain ⟨rfl, rfl⟩ := hp_9
      refine z_X (X' := (cX g A (cput (cput (zs K 99 8 o) 300 σ ds (nI (now % 12)) (nI (now / 12))) 310 τ es dt2 yr2) F O gl X)) (congrArg (fun z => cX g A z F O gl X) (cput_comm (by omega))) ?_
      refine z_st (st' := [.int (s_free vs σ hh nd)]) rfl ?_
      exact z_iret dX1_house_67 rfl (Nat.le_of_ble_eq_true rfl) (Nat.le_of_ble_eq_true rfl) ⟨congrArg some (congrArg Value.int (by unfold s_house; rw [c_4, c_6, e_h, ncl (by omega)]; rfl)), rfl⟩
    by_cases c_10 : w = 2
    · refine z_tableIn (off := 56) 68 dX1_house_12 (by rw [c_10]; decide) (by rw [c_10]; decide) (by rw [c_10]; rfl) (by decide) ?_
      refine z_aload_n 0 dX1_house_68 rfl ?_
      refine cz_get (v := .ref (A 309)) 4 hA (by decide) q331 rfl dX1_house_69 ?_
      refine z_iload_n 1 dX1_house_72 rfl ?_
      refine z_callV (As := [.int (nI (hh))]) (c_sw (by omega) (c_in (F := F) (O := O) (gl := gl) hA (cst_0 hA) (nI (hh)))) q1159 q1160 q1161 q118 q1162 nm_X4_in (cX_st hA (cst_0 hA)) rfl rfl rfl (Nat.le_of_ble_eq_true rfl) ⟨Nat.le_of_ble_eq_true rfl, Nat.le_of_ble_eq_true rfl⟩ dX1_house_73 rfl rfl (Nat.le_of_ble_eq_true rfl) (Nat.le_of_ble_eq_true rfl) (fun v_11 X_12 hp_13 => ?_)
      obtain ⟨rfl, rfl⟩ := hp_13
      refine z_X (X' := (cX g A (cput (cput (zs K 99 8 o) 300 σ ds (nI (now % 12)) (nI (now / 12))) 310 τ es dt2 yr2) F O gl X)) (congrArg (fun z => cX g A z F O gl X) (cput_comm (by omega))) ?_
      refine z_st (st' := [.int (s_in σ (nI (hh)) 6)]) rfl ?_
      refine z_eq (y := s_in σ (nI (hh)) nd) (s_in_6 hiv.1 (nI_m1 (by omega)) hnd) ?_
      exact z_iret dX1_house_76 rfl (Nat.le_of_ble_eq_true rfl) (Nat.le_of_ble_eq_true rfl) ⟨congrArg some (congrArg Value.int (by unfold s_house; rw [c_4, c_10, e_h, ncl (by omega)]; rfl)), rfl⟩
    by_cases c_14 : w = 3
    · refine z_tableIn (off := 65) 77 dX1_house_12 (by rw [c_14]; decide) (by rw [c_14]; decide) (by rw [c_14]; rfl) (by decide) ?_
      refine z_aload_n 0 dX1_house_77 rfl ?_
      refine z_iload_n 1 dX1_house_78 rfl ?_
      obtain ⟨a_15, m_16, he_17, ha_18⟩ := hhs hh (by omega)
      refine z_callV (As := [.int (nI (hh))]) (c_home (K := (cput (cput (zs K 99 8 o) 300 σ ds (nI (now % 12)) (nI (now / 12))) 310 τ es dt2 yr2)) (F := F) (gl := gl) hA hO hxv hlh heh hch1 hch2 hlg heg hcg1 hcg2 hh (by omega) he_17 ha_18) q1163 q1165 qs32 q112 q1166 nm_X1_home (cX_obj hA) rfl rfl rfl (Nat.le_of_ble_eq_true rfl) ⟨Nat.le_of_ble_eq_true rfl, Nat.le_of_ble_eq_true rfl⟩ dX1_house_79 rfl rfl (Nat.le_of_ble_eq_true rfl) (Nat.le_of_ble_eq_true rfl) (fun v_19 X_20 hp_21 => ?_)
      obtain ⟨rfl, rfl⟩ := hp_21
      refine z_st (st' := [.ref a_15]) rfl ?_
      refine z_getN (v := .int (vs (2 * hh + 5))) 2 (cX_lo hA ha_18) rfl in_X7 (by decide) q816 rfl dX1_house_82 ?_
      exact z_iret dX1_house_85 rfl (Nat.le_of_ble_eq_true rfl) (Nat.le_of_ble_eq_true rfl) ⟨congrArg some (congrArg Value.int (by unfold s_house; rw [c_4, c_14, e_h, ncl (by omega)]; rfl)), rfl⟩
    by_cases c_22 : w = 4
    · refine z_tableIn (off := 74) 86 dX1_house_12 (by rw [c_22]; decide) (by rw [c_22]; decide) (by rw [c_22]; rfl) (by decide) ?_
      refine z_aload_n 0 dX1_house_86 rfl ?_
      refine z_iload_n 1 dX1_house_87 rfl ?_
      refine z_callV (As := [.int (nI (hh))]) (c_talk (K := K) (F := F) (gl := gl) (σ := σ) (ds := ds) (τ := τ) (es := es) (dt2 := dt2) (yr2 := yr2) (o := o) hA hO hV hv hnow hiv (nI (hh))) q1168 q1170 qs33 q112 q1171 nm_X1_talk (cX_obj hA) rfl rfl rfl (Nat.le_of_ble_eq_true rfl) ⟨Nat.le_of_ble_eq_true rfl, Nat.le_of_ble_eq_true rfl⟩ dX1_house_88 rfl rfl (Nat.le_of_ble_eq_true rfl) (Nat.le_of_ble_eq_true rfl) (fun v_23 X_24 hp_25 => ?_)
      obtain ⟨rfl, rfl⟩ := hp_25
      refine z_st (st' := [.int (s_talk σ (nI (hh)) nd)]) rfl ?_
      exact z_iret dX1_house_91 rfl (Nat.le_of_ble_eq_true rfl) (Nat.le_of_ble_eq_true rfl) ⟨congrArg some (congrArg Value.int (by unfold s_house; rw [c_4, c_22, e_h, ncl (by omega)]; rfl)), rfl⟩
    refine z_tableOut 92 dX1_house_12 (by have i0 := lv_neT (a := 0) c_5 rfl; have i1 := lv_neT (a := 1) c_6 rfl; have i2 := lv_neT (a := 2) c_10 rfl; have i3 := lv_neT (a := 3) c_14 rfl; have i4 := lv_neT (a := 4) c_22 rfl; omega) (by decide) ?_
    refine z_bipush (v := zm2) dX1_house_92 (by decide) ?_
    exact z_iret dX1_house_94 rfl (Nat.le_of_ble_eq_true rfl) (Nat.le_of_ble_eq_true rfl) ⟨congrArg some (congrArg Value.int (by unfold s_house; rw [show (decide (0 ≤ w) && decide (w ≤ 4)) = false from s_win_out (m := 4) (fun k hk => by rcases (by omega : k = 0 ∨ k = 1 ∨ k = 2 ∨ k = 3 ∨ k = 4) with rfl | rfl | rfl | rfl | rfl; all_goals (first | exact c_5 | exact c_6 | exact c_10 | exact c_14 | exact c_22)) (by decide), Bool.and_false]; try rfl)), rfl⟩
  · -- decide (0 ≤ h) && decide (h < nI nh) = false
    refine z_bipush (v := zm2) dX1_house_8 (by decide) ?_
    exact z_iret dX1_house_10 rfl (Nat.le_of_ble_eq_true rfl) (Nat.le_of_ble_eq_true rfl) ⟨congrArg some (congrArg Value.int (by unfold s_house; rw [c_4]; rfl)), rfl⟩
set_option maxHeartbeats 4000000 in
theorem c_day {g : zG} {A : Nat → Nat} {K : Nat → Nat → Int32} {F : Nat → Int32} {O : Nat → Nat → Option Nat} {gl : Int64} {X : zX} (hA : cok g A X) {v : Nat} (hO : O 0 0 = some v) {vs : Nat → Int32} {nh nd : Nat} {own : Nat → Nat} {wv : Int32 → Int32 → Int32 → Int32 → Int32} (hV : s_ok vs nh nd own) (hv : cvl g X v vs nh nd wv) {σ ds τ es : Nat → Int32} {dt2 yr2 o : Int32} {now : Nat} (hnow : now < 2 ^ 28) (hiv : s_iv σ nd) (d w : Int32) : zN g m_X1_day ({ frames := 4, cells := 0, slots := 0, locals := 85 } : Room) [.ref (A 99), .int d, .int w] (cX g A (cput (cput (zs K 99 8 o) 300 σ ds (nI (now % 12)) (nI (now / 12))) 310 τ es dt2 yr2) F O gl X) (fun rv X' => rv = some (.int (s_day vs σ nd d w)) ∧ X' = (cX g A (cput (cput (zs K 99 8 o) 300 σ ds (nI (now % 12)) (nI (now / 12))) 310 τ es dt2 yr2) F O gl X)) := by
  refine zN.of (by decide +kernel) (Nat.le_of_ble_eq_true rfl) rfl ?_
  refine z_lv (lv' := [(0, .ref (A 99)), (1, .int d), (2, .int w)]) [0, 1, 2] rfl ?_
  have hA2 := hA.2.2.1
  have hV9 := hV
  have hv9 := hv
  obtain ⟨h0, hnh, h1, hnd, hown⟩ := hV9
  obtain ⟨lh, lg, fh, fg, st9, fa, hxv, ⟨mh, eh, ch, hlh, heh, hch1, hch2⟩, ⟨mg, eg, cg, hlg, heg, hcg1, hcg2⟩, hhs, hgs, hst9, hfa⟩ := hv9
  refine z_aload_n 0 dX1_day_0 rfl ?_
  refine z_iload_n 1 dX1_day_1 rfl ?_
  refine z_callV (As := [.int d]) (c_isGuest (K := (cput (cput (zs K 99 8 o) 300 σ ds (nI (now % 12)) (nI (now / 12))) 310 τ es dt2 yr2)) (F := F) (gl := gl) hA hO hxv hlh heh hch1 hch2 hlg heg hcg1 hcg2 (by omega) d) q1176 q1178 qs34 q112 q1179 nm_X1_isGuest (cX_obj hA) rfl rfl rfl (Nat.le_of_ble_eq_true rfl) ⟨Nat.le_of_ble_eq_true rfl, Nat.le_of_ble_eq_true rfl⟩ dX1_day_2 rfl rfl (Nat.le_of_ble_eq_true rfl) (Nat.le_of_ble_eq_true rfl) (fun v_1 X_2 hp_3 => ?_)
  obtain ⟨rfl, rfl⟩ := hp_3
  refine z_st (st' := [.int (zb (decide (0 ≤ d) && decide (d < nI nd)))]) rfl ?_
  refine z_if_neb 11 dX1_day_5 (by decide) (fun c_4 => ?_) (fun c_4 => ?_)
  · -- decide (0 ≤ d) && decide (d < nI nd) = true
    obtain ⟨dd, hdd, e_d⟩ := zday (by omega) c_4
    refine z_lv (lv' := [(0, .ref (A 99)), (1, .int (nI (dd))), (2, .int w)]) [0, 1, 2] (by rw [e_d]; rfl) ?_
    refine z_iload_n 2 dX1_day_11 rfl ?_
    by_cases c_5 : w = 0
    · refine z_tableIn (off := 48) 60 dX1_day_12 (by rw [c_5]; decide) (by rw [c_5]; decide) (by rw [c_5]; rfl) (by decide) ?_
      refine z_aload_n 0 dX1_day_60 rfl ?_
      refine z_iload_n 1 dX1_day_61 rfl ?_
      obtain ⟨a_6, m_7, k_10, he_8, hk_11, hkv_12, ha_9⟩ := hgs dd (by omega)
      refine z_callV (As := [.int (nI (dd))]) (c_guest (K := (cput (cput (zs K 99 8 o) 300 σ ds (nI (now % 12)) (nI (now / 12))) 310 τ es dt2 yr2)) (F := F) (gl := gl) hA hO hxv hlh heh hch1 hch2 hlg heg hcg1 hcg2 dd (by omega) hk_11 he_8 ha_9) q1143 q1145 qs31 q112 q1146 nm_X1_guest (cX_obj hA) rfl rfl rfl (Nat.le_of_ble_eq_true rfl) ⟨Nat.le_of_ble_eq_true rfl, Nat.le_of_ble_eq_true rfl⟩ dX1_day_62 rfl rfl (Nat.le_of_ble_eq_true rfl) (Nat.le_of_ble_eq_true rfl) (fun v_13 X_14 hp_15 => ?_)
      obtain ⟨rfl, rfl⟩ := hp_15
      refine z_st (st' := [.ref a_6]) rfl ?_
      refine z_gKind (cX_lo hA ha_9) (hk0 := hk_11) q1180 (Nat.le_of_ble_eq_true rfl) (Nat.le_of_ble_eq_true rfl) (Nat.le_of_ble_eq_true rfl) dX1_day_65 (Nat.le_of_ble_eq_true rfl) (Nat.le_of_ble_eq_true rfl) ?_
      refine z_eq (y := vs (5 * dd + 12)) hkv_12.symm ?_
      exact z_iret dX1_day_68 rfl (Nat.le_of_ble_eq_true rfl) (Nat.le_of_ble_eq_true rfl) ⟨congrArg some (congrArg Value.int (by unfold s_day; rw [c_4, c_5, e_d, ncl (by omega)]; rfl)), rfl⟩
    by_cases c_16 : w = 1
    · refine z_tableIn (off := 57) 69 dX1_day_12 (by rw [c_16]; decide) (by rw [c_16]; decide) (by rw [c_16]; rfl) (by decide) ?_
      refine z_aload_n 0 dX1_day_69 rfl ?_
      refine z_iload_n 1 dX1_day_70 rfl ?_
      obtain ⟨a_17, m_18, k_21, he_19, hk_22, hkv_23, ha_20⟩ := hgs dd (by omega)
      refine z_callV (As := [.int (nI (dd))]) (c_guest (K := (cput (cput (zs K 99 8 o) 300 σ ds (nI (now % 12)) (nI (now / 12))) 310 τ es dt2 yr2)) (F := F) (gl := gl) hA hO hxv hlh heh hch1 hch2 hlg heg hcg1 hcg2 dd (by omega) hk_22 he_19 ha_20) q1143 q1145 qs31 q112 q1146 nm_X1_guest (cX_obj hA) rfl rfl rfl (Nat.le_of_ble_eq_true rfl) ⟨Nat.le_of_ble_eq_true rfl, Nat.le_of_ble_eq_true rfl⟩ dX1_day_71 rfl rfl (Nat.le_of_ble_eq_true rfl) (Nat.le_of_ble_eq_true rfl) (fun v_24 X_25 hp_26 => ?_)
      obtain ⟨rfl, rfl⟩ := hp_26
      refine z_st (st' := [.ref a_17]) rfl ?_
      refine z_getG (v := .int (vs (5 * dd + 13))) 1 (cX_lo hA ha_20) hk_22 (by decide) q922 rfl dX1_day_74 ?_
      exact z_iret dX1_day_77 rfl (Nat.le_of_ble_eq_true rfl) (Nat.le_of_ble_eq_true rfl) ⟨congrArg some (congrArg Value.int (by unfold s_day; rw [c_4, c_16, e_d, ncl (by omega)]; rfl)), rfl⟩
    by_cases c_27 : w = 2
    · refine z_tableIn (off := 66) 78 dX1_day_12 (by rw [c_27]; decide) (by rw [c_27]; decide) (by rw [c_27]; rfl) (by decide) ?_
      refine z_aload_n 0 dX1_day_78 rfl ?_
      refine z_iload_n 1 dX1_day_79 rfl ?_
      obtain ⟨a_28, m_29, k_32, he_30, hk_33, hkv_34, ha_31⟩ := hgs dd (by omega)
      refine z_callV (As := [.int (nI (dd))]) (c_guest (K := (cput (cput (zs K 99 8 o) 300 σ ds (nI (now % 12)) (nI (now / 12))) 310 τ es dt2 yr2)) (F := F) (gl := gl) hA hO hxv hlh heh hch1 hch2 hlg heg hcg1 hcg2 dd (by omega) hk_33 he_30 ha_31) q1143 q1145 qs31 q112 q1146 nm_X1_guest (cX_obj hA) rfl rfl rfl (Nat.le_of_ble_eq_true rfl) ⟨Nat.le_of_ble_eq_true rfl, Nat.le_of_ble_eq_true rfl⟩ dX1_day_80 rfl rfl (Nat.le_of_ble_eq_true rfl) (Nat.le_of_ble_eq_true rfl) (fun v_35 X_36 hp_37 => ?_)
      obtain ⟨rfl, rfl⟩ := hp_37
      refine z_st (st' := [.ref a_28]) rfl ?_
      refine z_getG (v := .int (vs (5 * dd + 14))) 2 (cX_lo hA ha_31) hk_33 (by decide) q926 rfl dX1_day_83 ?_
      exact z_iret dX1_day_86 rfl (Nat.le_of_ble_eq_true rfl) (Nat.le_of_ble_eq_true rfl) ⟨congrArg some (congrArg Value.int (by unfold s_day; rw [c_4, c_27, e_d, ncl (by omega)]; rfl)), rfl⟩
    by_cases c_38 : w = 3
    · refine z_tableIn (off := 75) 87 dX1_day_12 (by rw [c_38]; decide) (by rw [c_38]; decide) (by rw [c_38]; rfl) (by decide) ?_
      refine z_aload_n 0 dX1_day_87 rfl ?_
      refine cz_get (v := .ref (A 309)) 4 hA (by decide) q331 rfl dX1_day_88 ?_
      refine cz_getSN (s := 300) (v := .ref (A 301)) 1 hA (cst_0 hA) (by decide) q261 rfl dX1_day_91 ?_
      refine z_iload_n 1 dX1_day_94 rfl ?_
      refine cz_iald (v := σ (dd + 18)) 301 dd hA (by unfold cia; omega) rfl (by have h9 : csz 301 = 6 := rfl; omega) (by rw [cput_a (by omega), cput_says (by omega)]) dX1_day_95 ?_
      exact z_iret dX1_day_96 rfl (Nat.le_of_ble_eq_true rfl) (Nat.le_of_ble_eq_true rfl) ⟨congrArg some (congrArg Value.int (by unfold s_day; rw [c_4, c_38, e_d, ncl (by omega)]; rfl)), rfl⟩
    by_cases c_39 : w = 4
    · refine z_tableIn (off := 85) 97 dX1_day_12 (by rw [c_39]; decide) (by rw [c_39]; decide) (by rw [c_39]; rfl) (by decide) ?_
      refine z_aload_n 0 dX1_day_97 rfl ?_
      refine cz_get (v := .ref (A 309)) 4 hA (by decide) q331 rfl dX1_day_98 ?_
      refine cz_getSN (s := 300) (v := .ref (A 302)) 2 hA (cst_0 hA) (by decide) q265 rfl dX1_day_101 ?_
      refine z_iload_n 1 dX1_day_104 rfl ?_
      refine cz_iald (v := σ (dd + 6)) 302 dd hA (by unfold cia; omega) rfl (by have h9 : csz 302 = 6 := rfl; omega) (by rw [cput_a (by omega), cput_where (by omega)]) dX1_day_105 ?_
      exact z_iret dX1_day_106 rfl (Nat.le_of_ble_eq_true rfl) (Nat.le_of_ble_eq_true rfl) ⟨congrArg some (congrArg Value.int (by unfold s_day; rw [c_4, c_39, e_d, ncl (by omega)]; rfl)), rfl⟩
    by_cases c_40 : w = 5
    · refine z_tableIn (off := 95) 107 dX1_day_12 (by rw [c_40]; decide) (by rw [c_40]; decide) (by rw [c_40]; rfl) (by decide) ?_
      refine z_aload_n 0 dX1_day_107 rfl ?_
      refine cz_get (v := .ref (A 309)) 4 hA (by decide) q331 rfl dX1_day_108 ?_
      refine cz_getSN (s := 300) (v := .ref (A 303)) 3 hA (cst_0 hA) (by decide) q267 rfl dX1_day_111 ?_
      refine z_iload_n 1 dX1_day_114 rfl ?_
      refine cz_iald (v := σ (dd + 12)) 303 dd hA (by unfold cia; omega) rfl (by have h9 : csz 303 = 6 := rfl; omega) (by rw [cput_a (by omega), cput_been (by omega)]) dX1_day_115 ?_
      exact z_iret dX1_day_116 rfl (Nat.le_of_ble_eq_true rfl) (Nat.le_of_ble_eq_true rfl) ⟨congrArg some (congrArg Value.int (by unfold s_day; rw [c_4, c_40, e_d, ncl (by omega)]; rfl)), rfl⟩
    by_cases c_41 : w = 6
    · refine z_tableIn (off := 105) 117 dX1_day_12 (by rw [c_41]; decide) (by rw [c_41]; decide) (by rw [c_41]; rfl) (by decide) ?_
      refine z_aload_n 0 dX1_day_117 rfl ?_
      refine cz_get (v := .ref (A 309)) 4 hA (by decide) q331 rfl dX1_day_118 ?_
      refine cz_getSN (s := 300) (v := .ref (A 304)) 4 hA (cst_0 hA) (by decide) q269 rfl dX1_day_121 ?_
      refine z_iload_n 1 dX1_day_124 rfl ?_
      refine cz_iald (v := σ (dd + 24)) 304 dd hA (by unfold cia; omega) rfl (by have h9 : csz 304 = 6 := rfl; omega) (by rw [cput_a (by omega), cput_times (by omega)]) dX1_day_125 ?_
      exact z_iret dX1_day_126 rfl (Nat.le_of_ble_eq_true rfl) (Nat.le_of_ble_eq_true rfl) ⟨congrArg some (congrArg Value.int (by unfold s_day; rw [c_4, c_41, e_d, ncl (by omega)]; rfl)), rfl⟩
    by_cases c_42 : w = 7
    · refine z_tableIn (off := 115) 127 dX1_day_12 (by rw [c_42]; decide) (by rw [c_42]; decide) (by rw [c_42]; rfl) (by decide) ?_
      refine z_aload_n 0 dX1_day_127 rfl ?_
      refine z_iload_n 1 dX1_day_128 rfl ?_
      obtain ⟨a_43, m_44, k_47, he_45, hk_48, hkv_49, ha_46⟩ := hgs dd (by omega)
      refine z_callV (As := [.int (nI (dd))]) (c_guest (K := (cput (cput (zs K 99 8 o) 300 σ ds (nI (now % 12)) (nI (now / 12))) 310 τ es dt2 yr2)) (F := F) (gl := gl) hA hO hxv hlh heh hch1 hch2 hlg heg hcg1 hcg2 dd (by omega) hk_48 he_45 ha_46) q1143 q1145 qs31 q112 q1146 nm_X1_guest (cX_obj hA) rfl rfl rfl (Nat.le_of_ble_eq_true rfl) ⟨Nat.le_of_ble_eq_true rfl, Nat.le_of_ble_eq_true rfl⟩ dX1_day_129 rfl rfl (Nat.le_of_ble_eq_true rfl) (Nat.le_of_ble_eq_true rfl) (fun v_50 X_51 hp_52 => ?_)
      obtain ⟨rfl, rfl⟩ := hp_52
      refine z_st (st' := [.ref a_43]) rfl ?_
      refine z_getG (v := .int (vs (5 * dd + 16))) 4 (cX_lo hA ha_46) hk_48 (by decide) q929 rfl dX1_day_132 ?_
      exact z_iret dX1_day_135 rfl (Nat.le_of_ble_eq_true rfl) (Nat.le_of_ble_eq_true rfl) ⟨congrArg some (congrArg Value.int (by unfold s_day; rw [c_4, c_42, e_d, ncl (by omega)]; rfl)), rfl⟩
    refine z_tableOut 136 dX1_day_12 (by have i0 := lv_neT (a := 0) c_5 rfl; have i1 := lv_neT (a := 1) c_16 rfl; have i2 := lv_neT (a := 2) c_27 rfl; have i3 := lv_neT (a := 3) c_38 rfl; have i4 := lv_neT (a := 4) c_39 rfl; have i5 := lv_neT (a := 5) c_40 rfl; have i6 := lv_neT (a := 6) c_41 rfl; have i7 := lv_neT (a := 7) c_42 rfl; omega) (by decide) ?_
    refine z_bipush (v := zm2) dX1_day_136 (by decide) ?_
    exact z_iret dX1_day_138 rfl (Nat.le_of_ble_eq_true rfl) (Nat.le_of_ble_eq_true rfl) ⟨congrArg some (congrArg Value.int (by unfold s_day; rw [show (decide (0 ≤ w) && decide (w ≤ 7)) = false from s_win_out (m := 7) (fun k hk => by rcases (by omega : k = 0 ∨ k = 1 ∨ k = 2 ∨ k = 3 ∨ k = 4 ∨ k = 5 ∨ k = 6 ∨ k = 7) with rfl | rfl | rfl | rfl | rfl | rfl | rfl | rfl; all_goals (first | exact c_5 | exact c_16 | exact c_27 | exact c_38 | exact c_39 | exact c_40 | exact c_41 | exact c_42)) (by decide), Bool.and_false]; try rfl)), rfl⟩
  · -- decide (0 ≤ d) && decide (d < nI nd) = false
    refine z_bipush (v := zm2) dX1_day_8 (by decide) ?_
    exact z_iret dX1_day_10 rfl (Nat.le_of_ble_eq_true rfl) (Nat.le_of_ble_eq_true rfl) ⟨congrArg some (congrArg Value.int (by unfold s_day; rw [c_4]; rfl)), rfl⟩
