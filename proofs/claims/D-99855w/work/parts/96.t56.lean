/-! THE COMPONENT: a day told later. Printed by t56.py -/
set_option maxRecDepth 100000
set_option maxHeartbeats 4000000 in
theorem c_defer {g : zG} {A : Nat → Nat} {K : Nat → Nat → Int32} {F : Nat → Int32} {O : Nat → Nat → Option Nat} {gl : Int64} {X : zX} (hA : cok g A X) {v : Nat} (hO : O 0 0 = some v) {vs : Nat → Int32} {nh nd : Nat} {own : Nat → Nat} {wv : Int32 → Int32 → Int32 → Int32 → Int32} (hV : s_ok vs nh nd own) (hv : cvl g X v vs nh nd wv) {σ ds τ es : Nat → Int32} {dt2 yr2 o : Int32} {now : Nat} (hnow : now < 2 ^ 28) (hiv : s_iv σ nd) (d : Int32) : zN g m_X1_defer ({ frames := 1002, cells := 0, slots := 0, locals := 40047 } : Room) [.ref (A 99), .int d] (cX g A (cput (cput (zs K 99 8 o) 300 σ ds (nI (now % 12)) (nI (now / 12))) 310 τ es dt2 yr2) F O gl X) (fun rv X' => rv = some (.int (if (decide (0 ≤ d) && decide (d < nI nd)) = true then (s_defer (fun n => s_most nd (fun k => (s_go wv vs (zs1 ds d.toNatClampNeg (nI n)) nh nd own now σ k).1) 24) 12).1 else zm1)) ∧ ∃ (o' : Int32) (F' τ' es' : Nat → Int32) (dt' yr' : Int32), X' = cX g A (cput (cput (zs K 99 8 o') 300 σ ds (nI (now % 12)) (nI (now / 12))) 310 τ' es' dt' yr') F' O gl X) := by
  refine zN.of (by decide +kernel) (Nat.le_of_ble_eq_true rfl) rfl ?_
  refine z_lv (lv' := [(0, .ref (A 99)), (1, .int d)]) [0, 1] rfl ?_
  have hA2 := hA.2.2.1
  have hV9 := hV
  have hv9 := hv
  obtain ⟨h0, hnh, h1, hnd, hown⟩ := hV9
  obtain ⟨lh, lg, fh, fg, st9, fa, hxv, ⟨mh, eh, ch, hlh, heh, hch1, hch2⟩, ⟨mg, eg, cg, hlg, heg, hcg1, hcg2⟩, hhs, hgs, hst9, hfa⟩ := hv9
  refine z_aload_n 0 dX1_defer_0 rfl ?_
  refine z_iload_n 1 dX1_defer_1 rfl ?_
  refine z_callV (As := [.int d]) (c_isGuest (K := (cput (cput (zs K 99 8 o) 300 σ ds (nI (now % 12)) (nI (now / 12))) 310 τ es dt2 yr2)) (F := F) (gl := gl) hA hO hxv hlh heh hch1 hch2 hlg heg hcg1 hcg2 (by omega) d) q1176 q1178 qs34 q112 q1179 nm_X1_isGuest (cX_obj hA) rfl rfl rfl (Nat.le_of_ble_eq_true rfl) ⟨Nat.le_of_ble_eq_true rfl, Nat.le_of_ble_eq_true rfl⟩ dX1_defer_2 rfl rfl (Nat.le_of_ble_eq_true rfl) (Nat.le_of_ble_eq_true rfl) (fun v_1 X_2 hp_3 => ?_)
  obtain ⟨rfl, rfl⟩ := hp_3
  refine z_st (st' := [.int (zb (decide (0 ≤ d) && decide (d < nI nd)))]) rfl ?_
  refine z_if_neb 10 dX1_defer_5 (by decide) (fun c_4 => ?_) (fun c_4 => ?_)
  · -- decide (0 ≤ d) && decide (d < nI nd) = true
    obtain ⟨dd, hdd, e_d⟩ := zday (by omega) c_4
    refine z_lv (lv' := [(0, .ref (A 99)), (1, .int (nI (dd)))]) [0, 1] (by rw [e_d]; rfl) ?_
    refine z_iconst (v := zm1) dX1_defer_10 (by decide) ?_
    refine z_istore_n (lv' := [(2, .int zm1), (0, .ref (A 99)), (1, .int (nI (dd)))]) dX1_defer_11 rfl (by decide) rfl ?_
    refine z_iconst (v := 0) dX1_defer_12 (by decide) ?_
    refine z_istore_n (lv' := [(3, .int 0), (2, .int zm1), (0, .ref (A 99)), (1, .int (nI (dd)))]) dX1_defer_13 rfl (by decide) rfl ?_
    refine z_iconst (v := 0) dX1_defer_14 (by decide) ?_
    refine z_istore (lv' := [(4, .int 0), (3, .int 0), (2, .int zm1), (0, .ref (A 99)), (1, .int (nI (dd)))]) dX1_defer_15 (by decide) rfl ?_
    have loop_9 : ∀ (q_6 i_5 : Nat), i_5 + q_6 = 12 → 0 ≤ i_5 → ∀ (F_10 : Nat → Int32), ∀ (o_11 : Int32), ∀ (t_12 : Nat → Int32), ∀ (e_13 : Nat → Int32), ∀ (d_14 : Int32), ∀ (y_15 : Int32), zZ g m_X1_defer (fun rv X' => rv = some (.int (if (decide (0 ≤ d) && decide (d < nI nd)) = true then (s_defer (fun n => s_most nd (fun k => (s_go wv vs (zs1 ds d.toNatClampNeg (nI n)) nh nd own now σ k).1) 24) 12).1 else zm1)) ∧ ∃ (o' : Int32) (F' τ' es' : Nat → Int32) (dt' yr' : Int32), X' = cX g A (cput (cput (zs K 99 8 o') 300 σ ds (nI (now % 12)) (nI (now / 12))) 310 τ' es' dt' yr') F' O gl X, zno, ({ frames := 1002, cells := 0, slots := 0, locals := 40047 } : Room)) 0 0 (cX g A (cput (cput (zs K 99 8 o_11) 300 σ ds (nI (now % 12)) (nI (now / 12))) 310 t_12 e_13 d_14 y_15) F_10 O gl X) 17 [(0, .ref (A 99)), (1, .int (nI (dd))), (2, .int ((s_defer (fun n => s_most nd (fun k => (s_go wv vs (zs1 ds dd (nI n)) nh nd own now σ k).1) 24) i_5).1)), (3, .int ((s_defer (fun n => s_most nd (fun k => (s_go wv vs (zs1 ds dd (nI n)) nh nd own now σ k).1) 24) i_5).2)), (4, .int (nI (i_5)))] [] := by
      intro q_6
      induction q_6 with
      | zero =>
        intro i_5 hb_8 lo_16 F_10 o_11 t_12 e_13 d_14 y_15 
        obtain rfl : 12 = i_5 := by omega
        refine z_iload 4 dX1_defer_17 rfl ?_
        refine z_bipush (v := 12) dX1_defer_19 (by decide) ?_
        refine z_icmp_geN (a := 12) (b := 12) 116 (by decide) (by decide) dX1_defer_21 (by decide) (fun h_ => ?_) (fun h_ => absurd h_ (by decide))
        refine z_iload_n 2 dX1_defer_116 rfl ?_
        exact z_iret dX1_defer_117 rfl (Nat.le_of_ble_eq_true rfl) (Nat.le_of_ble_eq_true rfl) ⟨congrArg some (congrArg Value.int (by rw [if_pos c_4, e_d, ncl (by omega)])), o_11, F_10, t_12, e_13, d_14, y_15, rfl⟩
      | succ q_6 ih_7 =>
        intro i_5 hb_8 lo_16 F_10 o_11 t_12 e_13 d_14 y_15 
        refine z_iload 4 dX1_defer_17 rfl ?_
        refine z_bipush (v := 12) dX1_defer_19 (by decide) ?_
        refine z_icmp_geN (a := i_5) (b := 12) 116 (by omega) (by omega) dX1_defer_21 (by decide) (fun c_17 => absurd c_17 (by omega)) (fun c_17 => ?_)
        refine z_aload_n 0 dX1_defer_24 rfl ?_
        refine cz_get (v := .ref (A 319)) 5 hA (by decide) q332 rfl dX1_defer_25 ?_
        refine z_aload_n 0 dX1_defer_28 rfl ?_
        refine cz_get (v := .ref (A 309)) 4 hA (by decide) q331 rfl dX1_defer_29 ?_
        refine z_callV (As := [.ref (A 309)]) (c_be (K := (zs K 99 8 o_11)) (F := F_10) (O := O) (gl := gl) hA (cst_1 hA) (cst_0 hA) (by omega) (σ := t_12) (τ := σ) (ds := e_13) (es := ds)) q1202 q1203 q1204 q118 q1205 nm_X4_be (cX_st hA (cst_1 hA)) rfl rfl rfl (Nat.le_of_ble_eq_true rfl) ⟨Nat.le_of_ble_eq_true rfl, Nat.le_of_ble_eq_true rfl⟩ dX1_defer_32 rfl rfl (Nat.le_of_ble_eq_true rfl) (Nat.le_of_ble_eq_true rfl) (fun v_18 X_19 hp_20 => ?_)
        obtain ⟨rfl, rfl⟩ := hp_20
        refine z_st (st' := []) rfl ?_
        refine z_aload_n 0 dX1_defer_35 rfl ?_
        refine cz_get (v := .ref (A 319)) 5 hA (by decide) q332 rfl dX1_defer_36 ?_
        refine cz_getSN (s := 310) (v := .ref (A 315)) 5 hA (cst_1 hA) (by decide) q271 rfl dX1_defer_39 ?_
        refine z_iload_n 1 dX1_defer_42 rfl ?_
        refine z_iload 4 dX1_defer_43 rfl ?_
        refine cz_iast (K' := (cput (cput (zs K 99 8 o_11) 300 σ ds (nI (now % 12)) (nI (now / 12))) 310 σ (zs1 ds dd (nI (i_5))) (nI (now % 12)) (nI (now / 12)))) 315 dd hA (by unfold cia; omega) rfl (by have h9 : csz 315 = 6 := rfl; omega) (by rw [cput_zmonth (by omega)]) dX1_defer_45 ?_
        refine z_iconst (v := 0) dX1_defer_46 (by decide) ?_
        refine z_istore (lv' := [(5, .int 0), (0, .ref (A 99)), (1, .int (nI (dd))), (2, .int ((s_defer (fun n => s_most nd (fun k => (s_go wv vs (zs1 ds dd (nI n)) nh nd own now σ k).1) 24) i_5).1)), (3, .int ((s_defer (fun n => s_most nd (fun k => (s_go wv vs (zs1 ds dd (nI n)) nh nd own now σ k).1) 24) i_5).2)), (4, .int (nI (i_5)))]) dX1_defer_47 (by decide) rfl ?_
        refine z_iconst (v := 0) dX1_defer_49 (by decide) ?_
        refine z_istore (lv' := [(6, .int 0), (5, .int 0), (0, .ref (A 99)), (1, .int (nI (dd))), (2, .int ((s_defer (fun n => s_most nd (fun k => (s_go wv vs (zs1 ds dd (nI n)) nh nd own now σ k).1) 24) i_5).1)), (3, .int ((s_defer (fun n => s_most nd (fun k => (s_go wv vs (zs1 ds dd (nI n)) nh nd own now σ k).1) 24) i_5).2)), (4, .int (nI (i_5)))]) dX1_defer_50 (by decide) rfl ?_
        have loop_25 : ∀ (q_22 i_21 : Nat), i_21 + q_22 = 24 → 0 ≤ i_21 → ∀ (F_26 : Nat → Int32), ∀ (o_27 : Int32), zZ g m_X1_defer (fun rv X' => rv = some (.int (if (decide (0 ≤ d) && decide (d < nI nd)) = true then (s_defer (fun n => s_most nd (fun k => (s_go wv vs (zs1 ds d.toNatClampNeg (nI n)) nh nd own now σ k).1) 24) 12).1 else zm1)) ∧ ∃ (o' : Int32) (F' τ' es' : Nat → Int32) (dt' yr' : Int32), X' = cX g A (cput (cput (zs K 99 8 o') 300 σ ds (nI (now % 12)) (nI (now / 12))) 310 τ' es' dt' yr') F' O gl X, zno, ({ frames := 1002, cells := 0, slots := 0, locals := 40047 } : Room)) 0 0 (cX g A (cput (cput (zs K 99 8 o_27) 300 σ ds (nI (now % 12)) (nI (now / 12))) 310 ((s_go wv vs (zs1 ds dd (nI (i_5))) nh nd own now σ i_21).1) (zs1 ds dd (nI (i_5))) (nI ((now + i_21) % 12)) (nI ((now + i_21) / 12))) F_26 O gl X) 52 [(0, .ref (A 99)), (1, .int (nI (dd))), (2, .int ((s_defer (fun n => s_most nd (fun k => (s_go wv vs (zs1 ds dd (nI n)) nh nd own now σ k).1) 24) i_5).1)), (3, .int ((s_defer (fun n => s_most nd (fun k => (s_go wv vs (zs1 ds dd (nI n)) nh nd own now σ k).1) 24) i_5).2)), (4, .int (nI (i_5))), (5, .int (s_most nd (fun k => (s_go wv vs (zs1 ds dd (nI (i_5))) nh nd own now σ k).1) i_21)), (6, .int (nI (i_21)))] [] := by
          intro q_22
          induction q_22 with
          | zero =>
            intro i_21 hb_24 lo_28 F_26 o_27 
            obtain rfl : 24 = i_21 := by omega
            refine z_iload 6 dX1_defer_52 rfl ?_
            refine z_bipush (v := 24) dX1_defer_54 (by decide) ?_
            refine z_icmp_geN (a := 24) (b := 24) 91 (by decide) (by decide) dX1_defer_56 (by decide) (fun h_ => ?_) (fun h_ => absurd h_ (by decide))
            refine z_iload_n 2 dX1_defer_91 rfl ?_
            refine z_if_lt 104 dX1_defer_92 (by decide) (fun c_29 => ?_) (fun c_29 => ?_)
            · -- (s_defer (fun n => s_most nd (fun k => (s_go wv vs (zs1 ds dd (nI n)) nh nd own now σ k).1) 24) i_5).1 < 0
              have c_29' := Int32.not_le.mpr c_29
              refine z_iload 4 dX1_defer_104 rfl ?_
              refine z_istore_n (lv' := [(2, .int (nI (i_5))), (0, .ref (A 99)), (1, .int (nI (dd))), (3, .int ((s_defer (fun n => s_most nd (fun k => (s_go wv vs (zs1 ds dd (nI n)) nh nd own now σ k).1) 24) i_5).2)), (4, .int (nI (i_5))), (5, .int (s_most nd (fun k => (s_go wv vs (zs1 ds dd (nI (i_5))) nh nd own now σ k).1) 24)), (6, .int 24)]) dX1_defer_106 rfl (by decide) rfl ?_
              refine z_iload 5 dX1_defer_107 rfl ?_
              refine z_istore_n (lv' := [(3, .int (s_most nd (fun k => (s_go wv vs (zs1 ds dd (nI (i_5))) nh nd own now σ k).1) 24)), (2, .int (nI (i_5))), (0, .ref (A 99)), (1, .int (nI (dd))), (4, .int (nI (i_5))), (5, .int (s_most nd (fun k => (s_go wv vs (zs1 ds dd (nI (i_5))) nh nd own now σ k).1) 24)), (6, .int 24)]) dX1_defer_109 rfl (by decide) rfl ?_
              refine z_iinc (v := nI (i_5 + 1)) (lv' := [(4, .int (nI (i_5 + 1))), (3, .int (s_most nd (fun k => (s_go wv vs (zs1 ds dd (nI (i_5))) nh nd own now σ k).1) 24)), (2, .int (nI (i_5))), (0, .ref (A 99)), (1, .int (nI (dd))), (5, .int (s_most nd (fun k => (s_go wv vs (zs1 ds dd (nI (i_5))) nh nd own now σ k).1) 24)), (6, .int 24)]) 4 dX1_defer_110 rfl (nI_1 _) (by decide) rfl ?_
              refine z_goto 17 dX1_defer_113 (by decide) ?_
              have f_30 : nI (i_5) = (s_defer (fun n => s_most nd (fun k => (s_go wv vs (zs1 ds dd (nI n)) nh nd own now σ k).1) 24) (i_5 + 1)).1 := by simp [s_defer, c_4, c_17, c_29]
              have f_31 : s_most nd (fun k => (s_go wv vs (zs1 ds dd (nI (i_5))) nh nd own now σ k).1) 24 = (s_defer (fun n => s_most nd (fun k => (s_go wv vs (zs1 ds dd (nI n)) nh nd own now σ k).1) 24) (i_5 + 1)).2 := by simp [s_defer, c_4, c_17, c_29]
              refine z_lv (lv' := [(0, .ref (A 99)), (1, .int (nI (dd))), (2, .int ((s_defer (fun n => s_most nd (fun k => (s_go wv vs (zs1 ds dd (nI n)) nh nd own now σ k).1) 24) (i_5 + 1)).1)), (3, .int ((s_defer (fun n => s_most nd (fun k => (s_go wv vs (zs1 ds dd (nI n)) nh nd own now σ k).1) 24) (i_5 + 1)).2)), (4, .int (nI (i_5 + 1)))]) [3, 4, 2, 1, 0] (by rw [← f_30, ← f_31]; rfl) ?_
              exact ih_7 (i_5 + 1) (by omega) (by omega) _ _ _ _ _ _ 
            · -- ¬ (s_defer (fun n => s_most nd (fun k => (s_go wv vs (zs1 ds dd (nI n)) nh nd own now σ k).1) 24) i_5).1 < 0
              have c_29' := Int32.not_lt.mp c_29
              refine z_iload 5 dX1_defer_95 rfl ?_
              refine z_iload_n 3 dX1_defer_97 rfl ?_
              refine z_icmp_lt 104 dX1_defer_98 (by decide) (fun c_32 => ?_) (fun c_32 => ?_)
              · -- s_most nd (fun k => (s_go wv vs (zs1 ds dd (nI (i_5))) nh nd own now σ k).1) 24 < (s_defer (fun n => s_most nd (fun k => (s_go wv vs (zs1 ds dd (nI n)) nh nd own now σ k).1) 24) i_5).2
                have c_32' := Int32.not_le.mpr c_32
                refine z_iload 4 dX1_defer_104 rfl ?_
                refine z_istore_n (lv' := [(2, .int (nI (i_5))), (0, .ref (A 99)), (1, .int (nI (dd))), (3, .int ((s_defer (fun n => s_most nd (fun k => (s_go wv vs (zs1 ds dd (nI n)) nh nd own now σ k).1) 24) i_5).2)), (4, .int (nI (i_5))), (5, .int (s_most nd (fun k => (s_go wv vs (zs1 ds dd (nI (i_5))) nh nd own now σ k).1) 24)), (6, .int 24)]) dX1_defer_106 rfl (by decide) rfl ?_
                refine z_iload 5 dX1_defer_107 rfl ?_
                refine z_istore_n (lv' := [(3, .int (s_most nd (fun k => (s_go wv vs (zs1 ds dd (nI (i_5))) nh nd own now σ k).1) 24)), (2, .int (nI (i_5))), (0, .ref (A 99)), (1, .int (nI (dd))), (4, .int (nI (i_5))), (5, .int (s_most nd (fun k => (s_go wv vs (zs1 ds dd (nI (i_5))) nh nd own now σ k).1) 24)), (6, .int 24)]) dX1_defer_109 rfl (by decide) rfl ?_
                refine z_iinc (v := nI (i_5 + 1)) (lv' := [(4, .int (nI (i_5 + 1))), (3, .int (s_most nd (fun k => (s_go wv vs (zs1 ds dd (nI (i_5))) nh nd own now σ k).1) 24)), (2, .int (nI (i_5))), (0, .ref (A 99)), (1, .int (nI (dd))), (5, .int (s_most nd (fun k => (s_go wv vs (zs1 ds dd (nI (i_5))) nh nd own now σ k).1) 24)), (6, .int 24)]) 4 dX1_defer_110 rfl (nI_1 _) (by decide) rfl ?_
                refine z_goto 17 dX1_defer_113 (by decide) ?_
                have f_33 : nI (i_5) = (s_defer (fun n => s_most nd (fun k => (s_go wv vs (zs1 ds dd (nI n)) nh nd own now σ k).1) 24) (i_5 + 1)).1 := by simp [s_defer, c_4, c_17, c_29, c_32]
                have f_34 : s_most nd (fun k => (s_go wv vs (zs1 ds dd (nI (i_5))) nh nd own now σ k).1) 24 = (s_defer (fun n => s_most nd (fun k => (s_go wv vs (zs1 ds dd (nI n)) nh nd own now σ k).1) 24) (i_5 + 1)).2 := by simp [s_defer, c_4, c_17, c_29, c_32]
                refine z_lv (lv' := [(0, .ref (A 99)), (1, .int (nI (dd))), (2, .int ((s_defer (fun n => s_most nd (fun k => (s_go wv vs (zs1 ds dd (nI n)) nh nd own now σ k).1) 24) (i_5 + 1)).1)), (3, .int ((s_defer (fun n => s_most nd (fun k => (s_go wv vs (zs1 ds dd (nI n)) nh nd own now σ k).1) 24) (i_5 + 1)).2)), (4, .int (nI (i_5 + 1)))]) [3, 4, 2, 1, 0] (by rw [← f_33, ← f_34]; rfl) ?_
                exact ih_7 (i_5 + 1) (by omega) (by omega) _ _ _ _ _ _ 
              · -- ¬ s_most nd (fun k => (s_go wv vs (zs1 ds dd (nI (i_5))) nh nd own now σ k).1) 24 < (s_defer (fun n => s_most nd (fun k => (s_go wv vs (zs1 ds dd (nI n)) nh nd own now σ k).1) 24) i_5).2
                have c_32' := Int32.not_lt.mp c_32
                refine z_goto 110 dX1_defer_101 (by decide) ?_
                refine z_iinc (v := nI (i_5 + 1)) (lv' := [(4, .int (nI (i_5 + 1))), (0, .ref (A 99)), (1, .int (nI (dd))), (2, .int ((s_defer (fun n => s_most nd (fun k => (s_go wv vs (zs1 ds dd (nI n)) nh nd own now σ k).1) 24) i_5).1)), (3, .int ((s_defer (fun n => s_most nd (fun k => (s_go wv vs (zs1 ds dd (nI n)) nh nd own now σ k).1) 24) i_5).2)), (5, .int (s_most nd (fun k => (s_go wv vs (zs1 ds dd (nI (i_5))) nh nd own now σ k).1) 24)), (6, .int 24)]) 4 dX1_defer_110 rfl (nI_1 _) (by decide) rfl ?_
                refine z_goto 17 dX1_defer_113 (by decide) ?_
                have f_35 : (s_defer (fun n => s_most nd (fun k => (s_go wv vs (zs1 ds dd (nI n)) nh nd own now σ k).1) 24) i_5).1 = (s_defer (fun n => s_most nd (fun k => (s_go wv vs (zs1 ds dd (nI n)) nh nd own now σ k).1) 24) (i_5 + 1)).1 := by simp [s_defer, c_4, c_17, c_29, c_32]
                have f_36 : (s_defer (fun n => s_most nd (fun k => (s_go wv vs (zs1 ds dd (nI n)) nh nd own now σ k).1) 24) i_5).2 = (s_defer (fun n => s_most nd (fun k => (s_go wv vs (zs1 ds dd (nI n)) nh nd own now σ k).1) 24) (i_5 + 1)).2 := by simp [s_defer, c_4, c_17, c_29, c_32]
                refine z_lv (lv' := [(0, .ref (A 99)), (1, .int (nI (dd))), (2, .int ((s_defer (fun n => s_most nd (fun k => (s_go wv vs (zs1 ds dd (nI n)) nh nd own now σ k).1) 24) (i_5 + 1)).1)), (3, .int ((s_defer (fun n => s_most nd (fun k => (s_go wv vs (zs1 ds dd (nI n)) nh nd own now σ k).1) 24) (i_5 + 1)).2)), (4, .int (nI (i_5 + 1)))]) [1, 2, 3, 4, 0] (by rw [← f_35, ← f_36]; rfl) ?_
                exact ih_7 (i_5 + 1) (by omega) (by omega) _ _ _ _ _ _ 
          | succ q_22 ih_23 =>
            intro i_21 hb_24 lo_28 F_26 o_27 
            refine z_iload 6 dX1_defer_52 rfl ?_
            refine z_bipush (v := 24) dX1_defer_54 (by decide) ?_
            refine z_icmp_geN (a := i_21) (b := 24) 91 (by omega) (by omega) dX1_defer_56 (by decide) (fun c_37 => absurd c_37 (by omega)) (fun c_37 => ?_)
            refine z_aload_n 0 dX1_defer_59 rfl ?_
            refine z_aload_n 0 dX1_defer_60 rfl ?_
            refine cz_get (v := .ref (A 319)) 5 hA (by decide) q332 rfl dX1_defer_61 ?_
            refine z_callV (As := [.ref (A 319)]) (c_passT (K := K) (F := F_26) (gl := gl) (σ0 := σ) (ds0 := ds) (dt0 := (nI (now % 12))) (yr0 := (nI (now / 12))) (σ := (s_go wv vs (zs1 ds dd (nI (i_5))) nh nd own now σ i_21).1) (ds := (zs1 ds dd (nI (i_5)))) hA hO hV hv (now := now + i_21) (by omega) (s_iv_go hV hiv i_21)) q1209 q1211 qs36 q112 q1212 nm_X1_passes (cX_obj hA) rfl rfl rfl (Nat.le_of_ble_eq_true rfl) ⟨Nat.le_of_ble_eq_true rfl, Nat.le_of_ble_eq_true rfl⟩ dX1_defer_64 rfl rfl (Nat.le_of_ble_eq_true rfl) (Nat.le_of_ble_eq_true rfl) (fun v_39 X_40 hp_41 => ?_)
            obtain ⟨rfl, F_38, rfl⟩ := hp_41
            refine z_st (st' := [.int ((s_pass wv vs (zs1 ds dd (nI (i_5))) nh nd own (now + i_21) ((s_go wv vs (zs1 ds dd (nI (i_5))) nh nd own now σ i_21).1)).2.1)]) rfl ?_
            refine z_pop dX1_defer_67 rfl ?_
            refine z_iload 5 dX1_defer_68 rfl ?_
            refine z_aload_n 0 dX1_defer_70 rfl ?_
            refine cz_get (v := .ref (A 319)) 5 hA (by decide) q332 rfl dX1_defer_71 ?_
            refine z_callV (As := []) (c_somewhere (F := F_38) (gl := gl) (K := (cput (zs K 99 8 ((s_pass wv vs (zs1 ds dd (nI (i_5))) nh nd own (now + i_21) ((s_go wv vs (zs1 ds dd (nI (i_5))) nh nd own now σ i_21).1)).2.2)) 300 σ ds (nI (now % 12)) (nI (now / 12)))) (σ := (s_pass wv vs (zs1 ds dd (nI (i_5))) nh nd own (now + i_21) ((s_go wv vs (zs1 ds dd (nI (i_5))) nh nd own now σ i_21).1)).1) (ds := (zs1 ds dd (nI (i_5)))) (dt := (nI ((now + i_21 + 1) % 12))) (yr := (nI ((now + i_21 + 1) / 12))) (O := O) hA (cst_1 hA)) q1333 q1334 q1335 q118 q1336 nm_X4_somewhere (cX_st hA (cst_1 hA)) rfl rfl rfl (Nat.le_of_ble_eq_true rfl) ⟨Nat.le_of_ble_eq_true rfl, Nat.le_of_ble_eq_true rfl⟩ dX1_defer_74 rfl rfl (Nat.le_of_ble_eq_true rfl) (Nat.le_of_ble_eq_true rfl) (fun v_42 X_43 hp_44 => ?_)
            obtain ⟨rfl, rfl⟩ := hp_44
            refine z_st (st' := [.int (s_some ((s_pass wv vs (zs1 ds dd (nI (i_5))) nh nd own (now + i_21) ((s_go wv vs (zs1 ds dd (nI (i_5))) nh nd own now σ i_21).1)).1) 6), .int (s_most nd (fun k => (s_go wv vs (zs1 ds dd (nI (i_5))) nh nd own now σ k).1) i_21)]) rfl ?_
            obtain ⟨m_45, hm_46, em_47⟩ : ∃ m, m < 64 ∧ s_some ((s_pass wv vs (zs1 ds dd (nI (i_5))) nh nd own (now + i_21) ((s_go wv vs (zs1 ds dd (nI (i_5))) nh nd own now σ i_21).1)).1) 6 = nI m := (s_some_64 6 (by decide))
            refine z_eq em_47 ?_
            refine z_callS (As := [.int (nI (m_45))]) (t_bitCount m_45 (by omega)) q1242 q1243 q151 q1244 nm_J17_bitCount rfl (Nat.le_of_ble_eq_true rfl) ⟨Nat.le_of_ble_eq_true rfl, Nat.le_of_ble_eq_true rfl⟩ dX1_defer_77 rfl rfl (Nat.le_of_ble_eq_true rfl) (Nat.le_of_ble_eq_true rfl) (fun v_48 X_49 hp_50 => ?_)
            obtain ⟨rfl, rfl⟩ := hp_50
            refine z_st (st' := [.int (s_bits (nI (m_45)) 30), .int (s_most nd (fun k => (s_go wv vs (zs1 ds dd (nI (i_5))) nh nd own now σ k).1) i_21)]) rfl ?_
            refine z_eq (y := s_bits (s_some ((s_pass wv vs (zs1 ds dd (nI (i_5))) nh nd own (now + i_21) ((s_go wv vs (zs1 ds dd (nI (i_5))) nh nd own now σ i_21).1)).1) 6) 30) (by rw [em_47]) ?_
            refine z_eq (y := s_bits (s_some ((s_pass wv vs (zs1 ds dd (nI (i_5))) nh nd own (now + i_21) ((s_go wv vs (zs1 ds dd (nI (i_5))) nh nd own now σ i_21).1)).1) nd) 30) (by rw [s_some_6 (s_iv_pass hV (s_iv_go hV hiv i_21)).1 hnd]) ?_
            refine z_mmax (v := (if s_most nd (fun k => (s_go wv vs (zs1 ds dd (nI (i_5))) nh nd own now σ k).1) i_21 < s_bits (s_some ((s_pass wv vs (zs1 ds dd (nI (i_5))) nh nd own (now + i_21) ((s_go wv vs (zs1 ds dd (nI (i_5))) nh nd own now σ i_21).1)).1) nd) 30 then s_bits (s_some ((s_pass wv vs (zs1 ds dd (nI (i_5))) nh nd own (now + i_21) ((s_go wv vs (zs1 ds dd (nI (i_5))) nh nd own now σ i_21).1)).1) nd) 30 else s_most nd (fun k => (s_go wv vs (zs1 ds dd (nI (i_5))) nh nd own now σ k).1) i_21)) q1269 q452 q124 q453 (Nat.le_of_ble_eq_true rfl) (Nat.le_of_ble_eq_true rfl) (Nat.le_of_ble_eq_true rfl) (Nat.le_of_ble_eq_true rfl) dX1_defer_80 rfl ?_
            obtain ⟨x_51, ex_51⟩ : ∃ y : Int32, (if s_most nd (fun k => (s_go wv vs (zs1 ds dd (nI (i_5))) nh nd own now σ k).1) i_21 < s_bits (s_some ((s_pass wv vs (zs1 ds dd (nI (i_5))) nh nd own (now + i_21) ((s_go wv vs (zs1 ds dd (nI (i_5))) nh nd own now σ i_21).1)).1) nd) 30 then s_bits (s_some ((s_pass wv vs (zs1 ds dd (nI (i_5))) nh nd own (now + i_21) ((s_go wv vs (zs1 ds dd (nI (i_5))) nh nd own now σ i_21).1)).1) nd) 30 else s_most nd (fun k => (s_go wv vs (zs1 ds dd (nI (i_5))) nh nd own now σ k).1) i_21) = y := ⟨_, rfl⟩
            refine z_eq ex_51 ?_
            refine z_istore (lv' := [(5, .int x_51), (0, .ref (A 99)), (1, .int (nI (dd))), (2, .int ((s_defer (fun n => s_most nd (fun k => (s_go wv vs (zs1 ds dd (nI n)) nh nd own now σ k).1) 24) i_5).1)), (3, .int ((s_defer (fun n => s_most nd (fun k => (s_go wv vs (zs1 ds dd (nI n)) nh nd own now σ k).1) 24) i_5).2)), (4, .int (nI (i_5))), (6, .int (nI (i_21)))]) dX1_defer_83 (by decide) rfl ?_
            refine z_iinc (v := nI (i_21 + 1)) (lv' := [(6, .int (nI (i_21 + 1))), (5, .int x_51), (0, .ref (A 99)), (1, .int (nI (dd))), (2, .int ((s_defer (fun n => s_most nd (fun k => (s_go wv vs (zs1 ds dd (nI n)) nh nd own now σ k).1) 24) i_5).1)), (3, .int ((s_defer (fun n => s_most nd (fun k => (s_go wv vs (zs1 ds dd (nI n)) nh nd own now σ k).1) 24) i_5).2)), (4, .int (nI (i_5)))]) 6 dX1_defer_85 rfl (nI_1 _) (by decide) rfl ?_
            refine z_goto 52 dX1_defer_88 (by decide) ?_
            have f_52 : x_51 = s_most nd (fun k => (s_go wv vs (zs1 ds dd (nI (i_5))) nh nd own now σ k).1) (i_21 + 1) := by (try subst ex_51); rfl
            subst f_52
            refine z_lv (lv' := [(0, .ref (A 99)), (1, .int (nI (dd))), (2, .int ((s_defer (fun n => s_most nd (fun k => (s_go wv vs (zs1 ds dd (nI n)) nh nd own now σ k).1) 24) i_5).1)), (3, .int ((s_defer (fun n => s_most nd (fun k => (s_go wv vs (zs1 ds dd (nI n)) nh nd own now σ k).1) 24) i_5).2)), (4, .int (nI (i_5))), (5, .int (s_most nd (fun k => (s_go wv vs (zs1 ds dd (nI (i_5))) nh nd own now σ k).1) (i_21 + 1))), (6, .int (nI (i_21 + 1)))]) [2, 3, 4, 5, 6, 1, 0] rfl ?_
            refine z_X (X' := (cX g A (cput (cput (zs K 99 8 ((s_pass wv vs (zs1 ds dd (nI (i_5))) nh nd own (now + i_21) ((s_go wv vs (zs1 ds dd (nI (i_5))) nh nd own now σ i_21).1)).2.2)) 300 σ ds (nI (now % 12)) (nI (now / 12))) 310 ((s_go wv vs (zs1 ds dd (nI (i_5))) nh nd own now σ (i_21 + 1)).1) (zs1 ds dd (nI (i_5))) (nI ((now + (i_21 + 1)) % 12)) (nI ((now + (i_21 + 1)) / 12))) F_38 O gl X)) (by rfl) ?_
            exact ih_23 (i_21 + 1) (by omega) (by omega) _ _ 
        have f_53 : 0 = s_most nd (fun k => (s_go wv vs (zs1 ds dd (nI (i_5))) nh nd own now σ k).1) 0 := by skip; rfl
        refine z_lv (lv' := [(0, .ref (A 99)), (1, .int (nI (dd))), (2, .int ((s_defer (fun n => s_most nd (fun k => (s_go wv vs (zs1 ds dd (nI n)) nh nd own now σ k).1) 24) i_5).1)), (3, .int ((s_defer (fun n => s_most nd (fun k => (s_go wv vs (zs1 ds dd (nI n)) nh nd own now σ k).1) 24) i_5).2)), (4, .int (nI (i_5))), (5, .int (s_most nd (fun k => (s_go wv vs (zs1 ds dd (nI (i_5))) nh nd own now σ k).1) 0)), (6, .int 0)]) [2, 3, 4, 5, 6, 1, 0] (by rw [← f_53]; rfl) ?_
        refine z_X (X' := (cX g A (cput (cput (zs K 99 8 o_11) 300 σ ds (nI (now % 12)) (nI (now / 12))) 310 ((s_go wv vs (zs1 ds dd (nI (i_5))) nh nd own now σ 0).1) (zs1 ds dd (nI (i_5))) (nI (now % 12)) (nI (now / 12))) F_10 O gl X)) (by rfl) ?_
        exact loop_25 (24 - 0) 0 (by omega) (Nat.le_refl _) _ _ 
    have f_54 : zm1 = (s_defer (fun n => s_most nd (fun k => (s_go wv vs (zs1 ds dd (nI n)) nh nd own now σ k).1) 24) 0).1 := by rfl
    have f_55 : 0 = (s_defer (fun n => s_most nd (fun k => (s_go wv vs (zs1 ds dd (nI n)) nh nd own now σ k).1) 24) 0).2 := by rfl
    refine z_lv (lv' := [(0, .ref (A 99)), (1, .int (nI (dd))), (2, .int ((s_defer (fun n => s_most nd (fun k => (s_go wv vs (zs1 ds dd (nI n)) nh nd own now σ k).1) 24) 0).1)), (3, .int ((s_defer (fun n => s_most nd (fun k => (s_go wv vs (zs1 ds dd (nI n)) nh nd own now σ k).1) 24) 0).2)), (4, .int 0)]) [3, 4, 2, 1, 0] (by rw [← f_54, ← f_55]; rfl) ?_
    exact loop_9 (12 - 0) 0 (by omega) (Nat.le_refl _) _ _ _ _ _ _ 
  · -- decide (0 ≤ d) && decide (d < nI nd) = false
    refine z_iconst (v := zm1) dX1_defer_8 (by decide) ?_
    exact z_iret dX1_defer_9 rfl (Nat.le_of_ble_eq_true rfl) (Nat.le_of_ble_eq_true rfl) ⟨congrArg some (congrArg Value.int (by rw [if_neg (by rw [c_4]; decide)])), o, F, τ, es, dt2, yr2, rfl⟩
