/-! THE COMPONENT: beds to spare. Printed by t55.py -/
set_option maxRecDepth 100000
theorem s_lt2 {x : Int32} (h : x < 2) : ¬ 1 < x := by
  rw [Int32.lt_iff_toInt_lt] at h ⊢
  have e1 : (1 : Int32).toInt = 1 := by decide
  have e2 : (2 : Int32).toInt = 2 := by decide
  omega
theorem s_spare_1 {σ : Nat → Int32} {calm : (Nat → Int32) → Bool} {n : Nat} : s_spare σ calm (n + 1) = s_spare σ calm n ||| (if 1 < σ (n + 2) ∧ calm (zs1 σ (n + 2) (σ (n + 2) - 1)) = true then s_bit n else 0) := rfl
theorem s_ge2 {x : Int32} (h : ¬ x < 2) : 1 < x := by
  rw [Int32.lt_iff_toInt_lt] at h ⊢
  have e1 : (1 : Int32).toInt = 1 := by decide
  have e2 : (2 : Int32).toInt = 2 := by decide
  omega
set_option maxHeartbeats 4000000 in
theorem c_spare {g : zG} {A : Nat → Nat} {K : Nat → Nat → Int32} {F : Nat → Int32} {O : Nat → Nat → Option Nat} {gl : Int64} {X : zX} (hA : cok g A X) {v : Nat} (hO : O 0 0 = some v) {vs : Nat → Int32} {nh nd : Nat} {own : Nat → Nat} {wv : Int32 → Int32 → Int32 → Int32 → Int32} (hV : s_ok vs nh nd own) (hv : cvl g X v vs nh nd wv) {σ ds τ es : Nat → Int32} {dt2 yr2 o : Int32} {now : Nat} (hnow : now < 2 ^ 28) (hiv : s_iv σ nd)  : zN g m_X1_spare ({ frames := 1004, cells := 0, slots := 0, locals := 40091 } : Room) [.ref (A 99)] (cX g A (cput (cput (zs K 99 8 o) 300 σ ds (nI (now % 12)) (nI (now / 12))) 310 τ es dt2 yr2) F O gl X) (fun rv X' => rv = some (.int (s_spare σ (fun τ => decide ((s_go wv vs ds nh nd own now τ 24).1 1 = τ 1)) nh)) ∧ ∃ (o' : Int32) (F' τ' es' : Nat → Int32) (dt' yr' : Int32), X' = cX g A (cput (cput (zs K 99 8 o') 300 σ ds (nI (now % 12)) (nI (now / 12))) 310 τ' es' dt' yr') F' O gl X) := by
  refine zN.of (by decide +kernel) (Nat.le_of_ble_eq_true rfl) rfl ?_
  refine z_lv (lv' := [(0, .ref (A 99))]) [0] rfl ?_
  have hA2 := hA.2.2.1
  have hV9 := hV
  have hv9 := hv
  obtain ⟨h0, hnh, h1, hnd, hown⟩ := hV9
  obtain ⟨lh, lg, fh, fg, st9, fa, hxv, ⟨mh, eh, ch, hlh, heh, hch1, hch2⟩, ⟨mg, eg, cg, hlg, heg, hcg1, hcg2⟩, hhs, hgs, hst9, hfa⟩ := hv9
  refine z_iconst (v := 0) dX1_spare_0 (by decide) ?_
  refine z_istore_n (lv' := [(1, .int 0), (0, .ref (A 99))]) dX1_spare_1 rfl (by decide) rfl ?_
  refine z_iconst (v := 0) dX1_spare_2 (by decide) ?_
  refine z_istore_n (lv' := [(2, .int 0), (1, .int 0), (0, .ref (A 99))]) dX1_spare_3 rfl (by decide) rfl ?_
  have loop_5 : ∀ (q_2 i_1 : Nat), i_1 + q_2 = nh → 0 ≤ i_1 → ∀ (F_6 : Nat → Int32), ∀ (o_7 : Int32), ∀ (t_8 : Nat → Int32), ∀ (e_9 : Nat → Int32), ∀ (d_10 : Int32), ∀ (y_11 : Int32), zZ g m_X1_spare (fun rv X' => rv = some (.int (s_spare σ (fun τ => decide ((s_go wv vs ds nh nd own now τ 24).1 1 = τ 1)) nh)) ∧ ∃ (o' : Int32) (F' τ' es' : Nat → Int32) (dt' yr' : Int32), X' = cX g A (cput (cput (zs K 99 8 o') 300 σ ds (nI (now % 12)) (nI (now / 12))) 310 τ' es' dt' yr') F' O gl X, zno, ({ frames := 1004, cells := 0, slots := 0, locals := 40091 } : Room)) 0 0 (cX g A (cput (cput (zs K 99 8 o_7) 300 σ ds (nI (now % 12)) (nI (now / 12))) 310 t_8 e_9 d_10 y_11) F_6 O gl X) 4 [(0, .ref (A 99)), (1, .int (s_spare σ (fun τ => decide ((s_go wv vs ds nh nd own now τ 24).1 1 = τ 1)) i_1)), (2, .int (nI (i_1)))] [] := by
    intro q_2
    induction q_2 with
    | zero =>
      intro i_1 hb_4 lo_12 F_6 o_7 t_8 e_9 d_10 y_11 
      obtain rfl : nh = i_1 := by omega
      refine z_iload_n 2 dX1_spare_4 rfl ?_
      refine z_aload_n 0 dX1_spare_5 rfl ?_
      refine z_callV (As := []) (c_houses (K := (cput (cput (zs K 99 8 o_7) 300 σ ds (nI (now % 12)) (nI (now / 12))) 310 t_8 e_9 d_10 y_11)) (F := F_6) (gl := gl) hA hO hxv hlh heh hch1 hch2 hlg heg hcg1 hcg2) q1127 q1129 qs28 q112 q1130 nm_X1_houses (cX_obj hA) rfl rfl rfl (Nat.le_of_ble_eq_true rfl) ⟨Nat.le_of_ble_eq_true rfl, Nat.le_of_ble_eq_true rfl⟩ dX1_spare_6 rfl rfl (Nat.le_of_ble_eq_true rfl) (Nat.le_of_ble_eq_true rfl) (fun v_13 X_14 hp_15 => ?_)
      obtain ⟨rfl, rfl⟩ := hp_15
      refine z_st (st' := [.int (nI (nh)), .int (nI (nh))]) rfl ?_
      refine z_icmp_geN (a := nh) (b := nh) 73 (by omega) (by omega) dX1_spare_9 (by decide) (fun c_16 => ?_) (fun c_16 => absurd c_16 (by omega))
      refine z_iload_n 1 dX1_spare_73 rfl ?_
      exact z_iret dX1_spare_74 rfl (Nat.le_of_ble_eq_true rfl) (Nat.le_of_ble_eq_true rfl) ⟨congrArg some (congrArg Value.int (by first | rfl | (simp [s_spare, s_bit, hb_4, c_16]; done) | (skip; simp [s_spare, s_bit, hb_4, c_16]))), o_7, F_6, t_8, e_9, d_10, y_11, rfl⟩
    | succ q_2 ih_3 =>
      intro i_1 hb_4 lo_12 F_6 o_7 t_8 e_9 d_10 y_11 
      refine z_iload_n 2 dX1_spare_4 rfl ?_
      refine z_aload_n 0 dX1_spare_5 rfl ?_
      refine z_callV (As := []) (c_houses (K := (cput (cput (zs K 99 8 o_7) 300 σ ds (nI (now % 12)) (nI (now / 12))) 310 t_8 e_9 d_10 y_11)) (F := F_6) (gl := gl) hA hO hxv hlh heh hch1 hch2 hlg heg hcg1 hcg2) q1127 q1129 qs28 q112 q1130 nm_X1_houses (cX_obj hA) rfl rfl rfl (Nat.le_of_ble_eq_true rfl) ⟨Nat.le_of_ble_eq_true rfl, Nat.le_of_ble_eq_true rfl⟩ dX1_spare_6 rfl rfl (Nat.le_of_ble_eq_true rfl) (Nat.le_of_ble_eq_true rfl) (fun v_17 X_18 hp_19 => ?_)
      obtain ⟨rfl, rfl⟩ := hp_19
      refine z_st (st' := [.int (nI (nh)), .int (nI (i_1))]) rfl ?_
      refine z_icmp_geN (a := i_1) (b := nh) 73 (by omega) (by omega) dX1_spare_9 (by decide) (fun c_20 => absurd c_20 (by omega)) (fun c_20 => ?_)
      refine z_aload_n 0 dX1_spare_12 rfl ?_
      refine cz_get (v := .ref (A 309)) 4 hA (by decide) q331 rfl dX1_spare_13 ?_
      refine cz_getSN (s := 300) (v := .ref (A 300)) 0 hA (cst_0 hA) (by decide) q259 rfl dX1_spare_16 ?_
      refine z_iload_n 2 dX1_spare_19 rfl ?_
      refine cz_iald (v := σ (i_1 + 2)) 300 i_1 hA (by unfold cia; omega) rfl (by have h9 : csz 300 = 4 := rfl; omega) (by rw [cput_a (by omega), cput_beds (by omega)]) dX1_spare_20 ?_
      refine z_iconst (v := 2) dX1_spare_21 (by decide) ?_
      refine z_icmp_ge 28 dX1_spare_22 (by decide) (fun c_21 => ?_) (fun c_21 => ?_)
      · -- 2 ≤ σ (i_1 + 2)
        have c_21' := Int32.not_lt.mpr c_21
        refine z_aload_n 0 dX1_spare_28 rfl ?_
        refine cz_get (v := .ref (A 319)) 5 hA (by decide) q332 rfl dX1_spare_29 ?_
        refine z_aload_n 0 dX1_spare_32 rfl ?_
        refine cz_get (v := .ref (A 309)) 4 hA (by decide) q331 rfl dX1_spare_33 ?_
        refine z_callV (As := [.ref (A 309)]) (c_be (K := (zs K 99 8 o_7)) (F := F_6) (O := O) (gl := gl) hA (cst_1 hA) (cst_0 hA) (by omega) (σ := t_8) (τ := σ) (ds := e_9) (es := ds)) q1202 q1203 q1204 q118 q1205 nm_X4_be (cX_st hA (cst_1 hA)) rfl rfl rfl (Nat.le_of_ble_eq_true rfl) ⟨Nat.le_of_ble_eq_true rfl, Nat.le_of_ble_eq_true rfl⟩ dX1_spare_36 rfl rfl (Nat.le_of_ble_eq_true rfl) (Nat.le_of_ble_eq_true rfl) (fun v_22 X_23 hp_24 => ?_)
        obtain ⟨rfl, rfl⟩ := hp_24
        refine z_st (st' := []) rfl ?_
        refine z_aload_n 0 dX1_spare_39 rfl ?_
        refine cz_get (v := .ref (A 319)) 5 hA (by decide) q332 rfl dX1_spare_40 ?_
        refine cz_getSN (s := 310) (v := .ref (A 310)) 0 hA (cst_1 hA) (by decide) q259 rfl dX1_spare_43 ?_
        refine z_iload_n 2 dX1_spare_46 rfl ?_
        refine z_dup2_11 dX1_spare_47 rfl rfl ?_
        refine cz_iald (v := σ (i_1 + 2)) 310 i_1 hA (by unfold cia; omega) rfl (by have h9 : csz 310 = 4 := rfl; omega) (cput_beds (by omega)) dX1_spare_48 ?_
        refine z_iconst (v := 1) dX1_spare_49 (by decide) ?_
        refine z_isub dX1_spare_50 ?_
        obtain ⟨x_25, ex_25⟩ : ∃ y : Int32, ((σ (i_1 + 2)) - 1) = y := ⟨_, rfl⟩
        refine z_eq ex_25 ?_
        refine cz_iast (K' := (cput (cput (zs K 99 8 o_7) 300 σ ds (nI (now % 12)) (nI (now / 12))) 310 (zs1 σ (i_1 + 2) x_25) ds (nI (now % 12)) (nI (now / 12)))) 310 i_1 hA (by unfold cia; omega) rfl (by have h9 : csz 310 = 4 := rfl; omega) (by rw [cput_zbeds (by omega)]) dX1_spare_51 ?_
        refine z_aload_n 0 dX1_spare_52 rfl ?_
        refine z_bipush (v := 24) dX1_spare_53 (by decide) ?_
        refine z_callV (As := [.int 24]) (c_calm (K := K) (F := F_6) (gl := gl) (σ0 := σ) (ds0 := ds) (dt0 := (nI (now % 12))) (yr0 := (nI (now / 12))) (σ := (zs1 σ (i_1 + 2) x_25)) (ds := ds) hA hO hV hv (now := now) (by omega) (s_iv_low (k := (i_1 + 2)) hiv (by omega)) 24 (by omega)) q1357 q1359 qs42 q112 q1360 nm_X1_isNoneRefused (cX_obj hA) rfl rfl rfl (Nat.le_of_ble_eq_true rfl) ⟨Nat.le_of_ble_eq_true rfl, Nat.le_of_ble_eq_true rfl⟩ dX1_spare_55 rfl rfl (Nat.le_of_ble_eq_true rfl) (Nat.le_of_ble_eq_true rfl) (fun v_28 X_29 hp_30 => ?_)
        obtain ⟨rfl, o_26, F_27, rfl⟩ := hp_30
        refine z_st (st' := [.int (zb (decide ((s_go wv vs ds nh nd own now (zs1 σ (i_1 + 2) x_25) 24).1 1 = (zs1 σ (i_1 + 2) x_25) 1)))]) rfl ?_
        refine z_if_eqb 67 dX1_spare_58 (by decide) (fun c_31 => ?_) (fun c_31 => ?_)
        · -- decide ((s_go wv vs ds nh nd own now (zs1 σ (i_1 + 2) x_25) 24).1 1 = (zs1 σ (i_1 + 2) x_25) 1) = false
          refine z_iinc (v := nI (i_1 + 1)) (lv' := [(2, .int (nI (i_1 + 1))), (0, .ref (A 99)), (1, .int (s_spare σ (fun τ => decide ((s_go wv vs ds nh nd own now τ 24).1 1 = τ 1)) i_1))]) 2 dX1_spare_67 rfl (nI_1 _) (by decide) rfl ?_
          refine z_goto 4 dX1_spare_70 (by decide) ?_
          have f_32 : s_spare σ (fun τ => decide ((s_go wv vs ds nh nd own now τ 24).1 1 = τ 1)) i_1 = s_spare σ (fun τ => decide ((s_go wv vs ds nh nd own now τ 24).1 1 = τ 1)) (i_1 + 1) := by (try subst ex_25); rw [s_spare_1, if_neg (fun z => Bool.noConfusion (c_31.symm.trans z.2)), Int32.or_zero]
          refine z_lv (lv' := [(0, .ref (A 99)), (1, .int (s_spare σ (fun τ => decide ((s_go wv vs ds nh nd own now τ 24).1 1 = τ 1)) (i_1 + 1))), (2, .int (nI (i_1 + 1)))]) [1, 2, 0] (by rw [← f_32]; rfl) ?_
          exact ih_3 (i_1 + 1) (by omega) (by omega) _ _ _ _ _ _ 
        · -- decide ((s_go wv vs ds nh nd own now (zs1 σ (i_1 + 2) x_25) 24).1 1 = (zs1 σ (i_1 + 2) x_25) 1) = true
          refine z_iload_n 1 dX1_spare_61 rfl ?_
          refine z_iconst (v := 1) dX1_spare_62 (by decide) ?_
          refine z_iload_n 2 dX1_spare_63 rfl ?_
          refine z_ishl dX1_spare_64 ?_
          refine z_ior dX1_spare_65 ?_
          obtain ⟨x_33, ex_33⟩ : ∃ y : Int32, ((s_spare σ (fun τ => decide ((s_go wv vs ds nh nd own now τ 24).1 1 = τ 1)) i_1) ||| (1 <<< ((nI (i_1)) &&& 31))) = y := ⟨_, rfl⟩
          refine z_eq ex_33 ?_
          refine z_istore_n (lv' := [(1, .int x_33), (0, .ref (A 99)), (2, .int (nI (i_1)))]) dX1_spare_66 rfl (by decide) rfl ?_
          refine z_iinc (v := nI (i_1 + 1)) (lv' := [(2, .int (nI (i_1 + 1))), (1, .int x_33), (0, .ref (A 99))]) 2 dX1_spare_67 rfl (nI_1 _) (by decide) rfl ?_
          refine z_goto 4 dX1_spare_70 (by decide) ?_
          have f_34 : x_33 = s_spare σ (fun τ => decide ((s_go wv vs ds nh nd own now τ 24).1 1 = τ 1)) (i_1 + 1) := by (try subst ex_33); (try subst ex_25); rw [s_spare_1, if_pos ⟨s_ge2 c_21', c_31⟩]; rfl
          subst f_34
          refine z_lv (lv' := [(0, .ref (A 99)), (1, .int (s_spare σ (fun τ => decide ((s_go wv vs ds nh nd own now τ 24).1 1 = τ 1)) (i_1 + 1))), (2, .int (nI (i_1 + 1)))]) [2, 1, 0] rfl ?_
          exact ih_3 (i_1 + 1) (by omega) (by omega) _ _ _ _ _ _ 
      · -- ¬ 2 ≤ σ (i_1 + 2)
        have c_21' := Int32.not_le.mp c_21
        refine z_goto 67 dX1_spare_25 (by decide) ?_
        refine z_iinc (v := nI (i_1 + 1)) (lv' := [(2, .int (nI (i_1 + 1))), (0, .ref (A 99)), (1, .int (s_spare σ (fun τ => decide ((s_go wv vs ds nh nd own now τ 24).1 1 = τ 1)) i_1))]) 2 dX1_spare_67 rfl (nI_1 _) (by decide) rfl ?_
        refine z_goto 4 dX1_spare_70 (by decide) ?_
        have f_35 : s_spare σ (fun τ => decide ((s_go wv vs ds nh nd own now τ 24).1 1 = τ 1)) i_1 = s_spare σ (fun τ => decide ((s_go wv vs ds nh nd own now τ 24).1 1 = τ 1)) (i_1 + 1) := by rw [s_spare_1, if_neg (fun z => s_lt2 c_21' z.1), Int32.or_zero]
        refine z_lv (lv' := [(0, .ref (A 99)), (1, .int (s_spare σ (fun τ => decide ((s_go wv vs ds nh nd own now τ 24).1 1 = τ 1)) (i_1 + 1))), (2, .int (nI (i_1 + 1)))]) [1, 2, 0] (by rw [← f_35]; rfl) ?_
        exact ih_3 (i_1 + 1) (by omega) (by omega) _ _ _ _ _ _ 
  have f_36 : 0 = s_spare σ (fun τ => decide ((s_go wv vs ds nh nd own now τ 24).1 1 = τ 1)) 0 := by rfl
  refine z_lv (lv' := [(0, .ref (A 99)), (1, .int (s_spare σ (fun τ => decide ((s_go wv vs ds nh nd own now τ 24).1 1 = τ 1)) 0)), (2, .int 0)]) [2, 1, 0] (by rw [← f_36]; rfl) ?_
  exact loop_5 (nh - 0) 0 (by omega) (Nat.le_refl _) _ _ _ _ _ _ 
