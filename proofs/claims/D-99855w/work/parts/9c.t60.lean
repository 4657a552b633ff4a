/-! THE COMPONENT: who it was. Printed by t60.py -/
set_option maxRecDepth 100000
set_option maxHeartbeats 4000000 in
theorem c_who {g : zG} {A : Nat → Nat} {K : Nat → Nat → Int32} {F : Nat → Int32} {O : Nat → Nat → Option Nat} {gl : Int64} {X : zX} (hA : cok g A X) {v : Nat} (hO : O 0 0 = some v) {vs : Nat → Int32} {nh nd : Nat} {own : Nat → Nat} {wv : Int32 → Int32 → Int32 → Int32 → Int32} (hV : s_ok vs nh nd own) (hv : cvl g X v vs nh nd wv) {σ ds τ es : Nat → Int32} {dt2 yr2 o : Int32} {now : Nat} (hnow : now < 2 ^ 28) (hiv : s_iv σ nd) {sm : Nat} (hsm : K 99 17 = nI sm) (hsm2 : sm ≤ 8) {at9 : Nat → Nat} (hse : ∀ k, k < sm → K 16 k = nI (at9 k) ∧ at9 k ≤ 24)  : zN g m_X1_who ({ frames := 1003, cells := 0, slots := 0, locals := 40068 } : Room) [.ref (A 99)] (cX g A (cput (cput (zs K 99 8 o) 300 σ ds (nI (now % 12)) (nI (now / 12))) 310 τ es dt2 yr2) F O gl X) (fun rv X' => rv = some (.int (s_who (K 15) (K 16) nd sm (fun n => (s_go wv vs ds nh nd own now σ n).1))) ∧ ∃ (o' : Int32) (F' τ' es' : Nat → Int32) (dt' yr' : Int32), X' = cX g A (cput (cput (zs (s_lp (fun n => (s_go wv vs ds nh nd own now σ n).1) 25 K) 99 8 o') 300 σ ds (nI (now % 12)) (nI (now / 12))) 310 τ' es' dt' yr') F' O gl X) := by
  refine zN.of (by decide +kernel) (Nat.le_of_ble_eq_true rfl) rfl ?_
  refine z_lv (lv' := [(0, .ref (A 99))]) [0] rfl ?_
  have hA2 := hA.2.2.1
  have hV9 := hV
  have hv9 := hv
  obtain ⟨h0, hnh, h1, hnd, hown⟩ := hV9
  obtain ⟨lh, lg, fh, fg, st9, fa, hxv, ⟨mh, eh, ch, hlh, heh, hch1, hch2⟩, ⟨mg, eg, cg, hlg, heg, hcg1, hcg2⟩, hhs, hgs, hst9, hfa⟩ := hv9
  refine z_aload_n 0 dX1_who_0 rfl ?_
  refine z_callV (As := []) (c_laysPlaces (K := K) (F := F) (gl := gl) (σ := σ) (ds := ds) (τ := τ) (es := es) (dt2 := dt2) (yr2 := yr2) (o := o) hA hO hV hv hnow hiv) q1394 q1396 qs45 q112 q1397 nm_X1_laysPlaces (cX_obj hA) rfl rfl rfl (Nat.le_of_ble_eq_true rfl) ⟨Nat.le_of_ble_eq_true rfl, Nat.le_of_ble_eq_true rfl⟩ dX1_who_1 rfl rfl (Nat.le_of_ble_eq_true rfl) (Nat.le_of_ble_eq_true rfl) (fun v_7 X_8 hp_9 => ?_)
  obtain ⟨rfl, o_1, F_2, t_3, e_4, y_5, z_6, rfl⟩ := hp_9
  refine z_st (st' := []) rfl ?_
  refine z_iconst (v := 0) dX1_who_4 (by decide) ?_
  refine z_istore_n (lv' := [(1, .int 0), (0, .ref (A 99))]) dX1_who_5 rfl (by decide) rfl ?_
  refine z_iconst (v := 0) dX1_who_6 (by decide) ?_
  refine z_istore_n (lv' := [(2, .int 0), (1, .int 0), (0, .ref (A 99))]) dX1_who_7 rfl (by decide) rfl ?_
  have loop_14 : ∀ (q_11 i_10 : Nat), i_10 + q_11 = nd → 0 ≤ i_10 → zZ g m_X1_who (fun rv X' => rv = some (.int (s_who (K 15) (K 16) nd sm (fun n => (s_go wv vs ds nh nd own now σ n).1))) ∧ ∃ (o' : Int32) (F' τ' es' : Nat → Int32) (dt' yr' : Int32), X' = cX g A (cput (cput (zs (s_lp (fun n => (s_go wv vs ds nh nd own now σ n).1) 25 K) 99 8 o') 300 σ ds (nI (now % 12)) (nI (now / 12))) 310 τ' es' dt' yr') F' O gl X, zno, ({ frames := 1003, cells := 0, slots := 0, locals := 40068 } : Room)) 0 0 (cX g A (cput (cput (zs (s_lp (fun n => (s_go wv vs ds nh nd own now σ n).1) 25 K) 99 8 o_1) 300 σ ds (nI (now % 12)) (nI (now / 12))) 310 t_3 e_4 y_5 z_6) F_2 O gl X) 8 [(0, .ref (A 99)), (1, .int (s_set (fun g9 => s_all (fun k => decide ((s_go wv vs ds nh nd own now σ (at9 k)).1 (g9 + 6) = K 15 k)) sm) i_10)), (2, .int (nI (i_10)))] [] := by
    intro q_11
    induction q_11 with
    | zero =>
      intro i_10 hb_13 lo_15  
      obtain rfl : nd = i_10 := by omega
      refine z_iload_n 2 dX1_who_8 rfl ?_
      refine z_aload_n 0 dX1_who_9 rfl ?_
      refine z_callV (As := []) (c_guests (K := (cput (cput (zs (s_lp (fun n => (s_go wv vs ds nh nd own now σ n).1) 25 K) 99 8 o_1) 300 σ ds (nI (now % 12)) (nI (now / 12))) 310 t_3 e_4 y_5 z_6)) (F := F_2) (gl := gl) hA hO hxv hlh heh hch1 hch2 hlg heg hcg1 hcg2) q1139 q1141 qs30 q112 q1142 nm_X1_guests (cX_obj hA) rfl rfl rfl (Nat.le_of_ble_eq_true rfl) ⟨Nat.le_of_ble_eq_true rfl, Nat.le_of_ble_eq_true rfl⟩ dX1_who_10 rfl rfl (Nat.le_of_ble_eq_true rfl) (Nat.le_of_ble_eq_true rfl) (fun v_16 X_17 hp_18 => ?_)
      obtain ⟨rfl, rfl⟩ := hp_18
      refine z_st (st' := [.int (nI (nd)), .int (nI (nd))]) rfl ?_
      refine z_icmp_geN (a := nd) (b := nd) 86 (by omega) (by omega) dX1_who_13 (by decide) (fun c_19 => ?_) (fun c_19 => absurd c_19 (by omega))
      refine z_iload_n 1 dX1_who_86 rfl ?_
      exact z_iret dX1_who_87 rfl (Nat.le_of_ble_eq_true rfl) (Nat.le_of_ble_eq_true rfl) ⟨congrArg some (congrArg Value.int (s_who_c (go := (fun n => (s_go wv vs ds nh nd own now σ n).1)) (sin := K 15) hnd hse).symm), o_1, F_2, t_3, e_4, y_5, z_6, rfl⟩
    | succ q_11 ih_12 =>
      intro i_10 hb_13 lo_15  
      refine z_iload_n 2 dX1_who_8 rfl ?_
      refine z_aload_n 0 dX1_who_9 rfl ?_
      refine z_callV (As := []) (c_guests (K := (cput (cput (zs (s_lp (fun n => (s_go wv vs ds nh nd own now σ n).1) 25 K) 99 8 o_1) 300 σ ds (nI (now % 12)) (nI (now / 12))) 310 t_3 e_4 y_5 z_6)) (F := F_2) (gl := gl) hA hO hxv hlh heh hch1 hch2 hlg heg hcg1 hcg2) q1139 q1141 qs30 q112 q1142 nm_X1_guests (cX_obj hA) rfl rfl rfl (Nat.le_of_ble_eq_true rfl) ⟨Nat.le_of_ble_eq_true rfl, Nat.le_of_ble_eq_true rfl⟩ dX1_who_10 rfl rfl (Nat.le_of_ble_eq_true rfl) (Nat.le_of_ble_eq_true rfl) (fun v_20 X_21 hp_22 => ?_)
      obtain ⟨rfl, rfl⟩ := hp_22
      refine z_st (st' := [.int (nI (nd)), .int (nI (i_10))]) rfl ?_
      refine z_icmp_geN (a := i_10) (b := nd) 86 (by omega) (by omega) dX1_who_13 (by decide) (fun c_23 => absurd c_23 (by omega)) (fun c_23 => ?_)
      refine z_iconst (v := 1) dX1_who_16 (by decide) ?_
      refine z_istore_n (lv' := [(3, .int 1), (0, .ref (A 99)), (1, .int (s_set (fun g9 => s_all (fun k => decide ((s_go wv vs ds nh nd own now σ (at9 k)).1 (g9 + 6) = K 15 k)) sm) i_10)), (2, .int (nI (i_10)))]) dX1_who_17 rfl (by decide) rfl ?_
      refine z_iconst (v := 0) dX1_who_18 (by decide) ?_
      refine z_istore (lv' := [(4, .int 0), (3, .int 1), (0, .ref (A 99)), (1, .int (s_set (fun g9 => s_all (fun k => decide ((s_go wv vs ds nh nd own now σ (at9 k)).1 (g9 + 6) = K 15 k)) sm) i_10)), (2, .int (nI (i_10)))]) dX1_who_19 (by decide) rfl ?_
      have loop_28 : ∀ (q_25 i_24 : Nat), i_24 + q_25 = sm → 0 ≤ i_24 → zZ g m_X1_who (fun rv X' => rv = some (.int (s_who (K 15) (K 16) nd sm (fun n => (s_go wv vs ds nh nd own now σ n).1))) ∧ ∃ (o' : Int32) (F' τ' es' : Nat → Int32) (dt' yr' : Int32), X' = cX g A (cput (cput (zs (s_lp (fun n => (s_go wv vs ds nh nd own now σ n).1) 25 K) 99 8 o') 300 σ ds (nI (now % 12)) (nI (now / 12))) 310 τ' es' dt' yr') F' O gl X, zno, ({ frames := 1003, cells := 0, slots := 0, locals := 40068 } : Room)) 0 0 (cX g A (cput (cput (zs (s_lp (fun n => (s_go wv vs ds nh nd own now σ n).1) 25 K) 99 8 o_1) 300 σ ds (nI (now % 12)) (nI (now / 12))) 310 t_3 e_4 y_5 z_6) F_2 O gl X) 21 [(0, .ref (A 99)), (1, .int (s_set (fun g9 => s_all (fun k => decide ((s_go wv vs ds nh nd own now σ (at9 k)).1 (g9 + 6) = K 15 k)) sm) i_10)), (2, .int (nI (i_10))), (3, .int (zb (s_all (fun k => decide ((s_go wv vs ds nh nd own now σ (at9 k)).1 (i_10 + 6) = K 15 k)) i_24))), (4, .int (nI (i_24)))] [] := by
        intro q_25
        induction q_25 with
        | zero =>
          intro i_24 hb_27 lo_29  
          obtain rfl : sm = i_24 := by omega
          refine z_iload 4 dX1_who_21 rfl ?_
          refine z_aload_n 0 dX1_who_23 rfl ?_
          refine cz_get (v := .int (nI (sm))) 17 hA (by decide) q344 (congrArg (fun z => some (Value.int z)) ((congrFun (s_lp_a (W := (fun n => (s_go wv vs ds nh nd own now σ n).1)) (N := 25) (r := 99) (by decide) (by decide)) 17).trans hsm)) dX1_who_24 ?_
          refine z_icmp_geN (a := sm) (b := sm) 70 (by omega) (by omega) dX1_who_27 (by decide) (fun c_30 => ?_) (fun c_30 => absurd c_30 (by omega))
          refine z_iload_n 3 dX1_who_70 rfl ?_
          refine z_if_eqb 80 dX1_who_71 (by decide) (fun c_31 => ?_) (fun c_31 => ?_)
          · -- s_all (fun k => decide ((s_go wv vs ds nh nd own now σ (at9 k)).1 (i_10 + 6) = K 15 k)) sm = false
            refine z_iinc (v := nI (i_10 + 1)) (lv' := [(2, .int (nI (i_10 + 1))), (0, .ref (A 99)), (1, .int (s_set (fun g9 => s_all (fun k => decide ((s_go wv vs ds nh nd own now σ (at9 k)).1 (g9 + 6) = K 15 k)) sm) i_10)), (3, .int (zb (s_all (fun k => decide ((s_go wv vs ds nh nd own now σ (at9 k)).1 (i_10 + 6) = K 15 k)) sm))), (4, .int (nI (sm)))]) 2 dX1_who_80 rfl (nI_1 _) (by decide) rfl ?_
            refine z_goto 8 dX1_who_83 (by decide) ?_
            have f_32 : s_set (fun g9 => s_all (fun k => decide ((s_go wv vs ds nh nd own now σ (at9 k)).1 (g9 + 6) = K 15 k)) sm) i_10 = s_set (fun g9 => s_all (fun k => decide ((s_go wv vs ds nh nd own now σ (at9 k)).1 (g9 + 6) = K 15 k)) sm) (i_10 + 1) := by skip; show _ = s_set (fun g9 => s_all (fun k => decide ((s_go wv vs ds nh nd own now σ (at9 k)).1 (g9 + 6) = K 15 k)) sm) i_10 ||| (if s_all (fun k => decide ((s_go wv vs ds nh nd own now σ (at9 k)).1 (i_10 + 6) = K 15 k)) sm = true then s_bit i_10 else 0); rw [if_neg (by rw [c_31]; decide), Int32.or_zero]
            refine z_lv (lv' := [(0, .ref (A 99)), (1, .int (s_set (fun g9 => s_all (fun k => decide ((s_go wv vs ds nh nd own now σ (at9 k)).1 (g9 + 6) = K 15 k)) sm) (i_10 + 1))), (2, .int (nI (i_10 + 1)))]) [1, 2, 0] (by rw [← f_32]; rfl) ?_
            exact ih_12 (i_10 + 1) (by omega) (by omega)  
          · -- s_all (fun k => decide ((s_go wv vs ds nh nd own now σ (at9 k)).1 (i_10 + 6) = K 15 k)) sm = true
            refine z_iload_n 1 dX1_who_74 rfl ?_
            refine z_iconst (v := 1) dX1_who_75 (by decide) ?_
            refine z_iload_n 2 dX1_who_76 rfl ?_
            refine z_ishl dX1_who_77 ?_
            refine z_ior dX1_who_78 ?_
            obtain ⟨x_33, ex_33⟩ : ∃ y : Int32, ((s_set (fun g9 => s_all (fun k => decide ((s_go wv vs ds nh nd own now σ (at9 k)).1 (g9 + 6) = K 15 k)) sm) i_10) ||| (1 <<< ((nI (i_10)) &&& 31))) = y := ⟨_, rfl⟩
            refine z_eq ex_33 ?_
            refine z_istore_n (lv' := [(1, .int x_33), (0, .ref (A 99)), (2, .int (nI (i_10))), (3, .int (zb (s_all (fun k => decide ((s_go wv vs ds nh nd own now σ (at9 k)).1 (i_10 + 6) = K 15 k)) sm))), (4, .int (nI (sm)))]) dX1_who_79 rfl (by decide) rfl ?_
            refine z_iinc (v := nI (i_10 + 1)) (lv' := [(2, .int (nI (i_10 + 1))), (1, .int x_33), (0, .ref (A 99)), (3, .int (zb (s_all (fun k => decide ((s_go wv vs ds nh nd own now σ (at9 k)).1 (i_10 + 6) = K 15 k)) sm))), (4, .int (nI (sm)))]) 2 dX1_who_80 rfl (nI_1 _) (by decide) rfl ?_
            refine z_goto 8 dX1_who_83 (by decide) ?_
            have f_34 : x_33 = s_set (fun g9 => s_all (fun k => decide ((s_go wv vs ds nh nd own now σ (at9 k)).1 (g9 + 6) = K 15 k)) sm) (i_10 + 1) := by (try subst ex_33); show _ = s_set (fun g9 => s_all (fun k => decide ((s_go wv vs ds nh nd own now σ (at9 k)).1 (g9 + 6) = K 15 k)) sm) i_10 ||| (if s_all (fun k => decide ((s_go wv vs ds nh nd own now σ (at9 k)).1 (i_10 + 6) = K 15 k)) sm = true then s_bit i_10 else 0); rw [if_pos c_31]; rfl
            subst f_34
            refine z_lv (lv' := [(0, .ref (A 99)), (1, .int (s_set (fun g9 => s_all (fun k => decide ((s_go wv vs ds nh nd own now σ (at9 k)).1 (g9 + 6) = K 15 k)) sm) (i_10 + 1))), (2, .int (nI (i_10 + 1)))]) [2, 1, 0] rfl ?_
            exact ih_12 (i_10 + 1) (by omega) (by omega)  
        | succ q_25 ih_26 =>
          intro i_24 hb_27 lo_29  
          refine z_iload 4 dX1_who_21 rfl ?_
          refine z_aload_n 0 dX1_who_23 rfl ?_
          refine cz_get (v := .int (nI (sm))) 17 hA (by decide) q344 (congrArg (fun z => some (Value.int z)) ((congrFun (s_lp_a (W := (fun n => (s_go wv vs ds nh nd own now σ n).1)) (N := 25) (r := 99) (by decide) (by decide)) 17).trans hsm)) dX1_who_24 ?_
          refine z_icmp_geN (a := i_24) (b := sm) 70 (by omega) (by omega) dX1_who_27 (by decide) (fun c_35 => absurd c_35 (by omega)) (fun c_35 => ?_)
          refine z_iload_n 3 dX1_who_30 rfl ?_
          refine z_if_eqb 62 dX1_who_31 (by decide) (fun c_36 => ?_) (fun c_36 => ?_)
          · -- s_all (fun k => decide ((s_go wv vs ds nh nd own now σ (at9 k)).1 (i_10 + 6) = K 15 k)) i_24 = false
            refine z_iconst (v := 0) dX1_who_62 (by decide) ?_
            refine z_istore_n (lv' := [(3, .int 0), (0, .ref (A 99)), (1, .int (s_set (fun g9 => s_all (fun k => decide ((s_go wv vs ds nh nd own now σ (at9 k)).1 (g9 + 6) = K 15 k)) sm) i_10)), (2, .int (nI (i_10))), (4, .int (nI (i_24)))]) dX1_who_63 rfl (by decide) rfl ?_
            refine z_iinc (v := nI (i_24 + 1)) (lv' := [(4, .int (nI (i_24 + 1))), (3, .int 0), (0, .ref (A 99)), (1, .int (s_set (fun g9 => s_all (fun k => decide ((s_go wv vs ds nh nd own now σ (at9 k)).1 (g9 + 6) = K 15 k)) sm) i_10)), (2, .int (nI (i_10)))]) 4 dX1_who_64 rfl (nI_1 _) (by decide) rfl ?_
            refine z_goto 21 dX1_who_67 (by decide) ?_
            have f_37 : 0 = zb (s_all (fun k => decide ((s_go wv vs ds nh nd own now σ (at9 k)).1 (i_10 + 6) = K 15 k)) (i_24 + 1)) := by rw [s_all_1, c_36]; rfl
            refine z_lv (lv' := [(0, .ref (A 99)), (1, .int (s_set (fun g9 => s_all (fun k => decide ((s_go wv vs ds nh nd own now σ (at9 k)).1 (g9 + 6) = K 15 k)) sm) i_10)), (2, .int (nI (i_10))), (3, .int (zb (s_all (fun k => decide ((s_go wv vs ds nh nd own now σ (at9 k)).1 (i_10 + 6) = K 15 k)) (i_24 + 1)))), (4, .int (nI (i_24 + 1)))]) [2, 3, 4, 1, 0] (by rw [← f_37]; rfl) ?_
            exact ih_26 (i_24 + 1) (by omega) (by omega)  
          · -- s_all (fun k => decide ((s_go wv vs ds nh nd own now σ (at9 k)).1 (i_10 + 6) = K 15 k)) i_24 = true
            refine z_aload_n 0 dX1_who_34 rfl ?_
            refine cz_get (v := .ref (A 18)) 18 hA (by decide) q345 rfl dX1_who_35 ?_
            refine z_aload_n 0 dX1_who_38 rfl ?_
            refine cz_get (v := .ref (A 16)) 16 hA (by decide) q343 rfl dX1_who_39 ?_
            refine z_iload 4 dX1_who_42 rfl ?_
            refine cz_iald (v := (s_lp (fun n => (s_go wv vs ds nh nd own now σ n).1) 25 K) 16 i_24) 16 i_24 hA (by unfold cia; omega) rfl (by have h9 : csz 16 = 8 := rfl; omega) rfl dX1_who_44 ?_
            refine z_eq (y := K 16 i_24) (congrFun (s_lp_a (W := (fun n => (s_go wv vs ds nh nd own now σ n).1)) (N := 25) (r := 16) (by decide) (by decide)) _) ?_
            have hat := (hse i_24 (by omega)).2
            refine z_eq (y := nI ((at9 i_24))) ((hse i_24 (by omega)).1) ?_
            refine cz_plc (at9 i_24) hA rfl (by omega) dX1_who_45 ?_
            refine z_iload_n 2 dX1_who_46 rfl ?_
            refine cz_iald (v := (s_lp (fun n => (s_go wv vs ds nh nd own now σ n).1) 25 K) ((at9 i_24) + 200) i_10) ((at9 i_24) + 200) i_10 hA (by unfold cia; omega) rfl (by rw [csz_200 (by omega)]; omega) (by rw [cput_a (by omega), cput_a (by omega)]; rfl) dX1_who_47 ?_
            refine z_eq (y := (s_go wv vs ds nh nd own now σ (at9 i_24)).1 (i_10 + 6)) (s_lp_r (by omega) (by omega)) ?_
            refine z_aload_n 0 dX1_who_48 rfl ?_
            refine cz_get (v := .ref (A 15)) 15 hA (by decide) q342 rfl dX1_who_49 ?_
            refine z_iload 4 dX1_who_52 rfl ?_
            refine cz_iald (v := (s_lp (fun n => (s_go wv vs ds nh nd own now σ n).1) 25 K) 15 i_24) 15 i_24 hA (by unfold cia; omega) rfl (by have h9 : csz 15 = 8 := rfl; omega) rfl dX1_who_54 ?_
            refine z_eq (y := K 15 i_24) (congrFun (s_lp_a (W := (fun n => (s_go wv vs ds nh nd own now σ n).1)) (N := 25) (r := 15) (by decide) (by decide)) _) ?_
            refine z_icmp_ne 62 dX1_who_55 (by decide) (fun c_38 => ?_) (fun c_38 => ?_)
            · -- ¬ (s_go wv vs ds nh nd own now σ (at9 i_24)).1 (i_10 + 6) = K 15 i_24
              refine z_iconst (v := 0) dX1_who_62 (by decide) ?_
              refine z_istore_n (lv' := [(3, .int 0), (0, .ref (A 99)), (1, .int (s_set (fun g9 => s_all (fun k => decide ((s_go wv vs ds nh nd own now σ (at9 k)).1 (g9 + 6) = K 15 k)) sm) i_10)), (2, .int (nI (i_10))), (4, .int (nI (i_24)))]) dX1_who_63 rfl (by decide) rfl ?_
              refine z_iinc (v := nI (i_24 + 1)) (lv' := [(4, .int (nI (i_24 + 1))), (3, .int 0), (0, .ref (A 99)), (1, .int (s_set (fun g9 => s_all (fun k => decide ((s_go wv vs ds nh nd own now σ (at9 k)).1 (g9 + 6) = K 15 k)) sm) i_10)), (2, .int (nI (i_10)))]) 4 dX1_who_64 rfl (nI_1 _) (by decide) rfl ?_
              refine z_goto 21 dX1_who_67 (by decide) ?_
              have f_39 : 0 = zb (s_all (fun k => decide ((s_go wv vs ds nh nd own now σ (at9 k)).1 (i_10 + 6) = K 15 k)) (i_24 + 1)) := by rw [s_all_1, c_36, decide_eq_false c_38]; rfl
              refine z_lv (lv' := [(0, .ref (A 99)), (1, .int (s_set (fun g9 => s_all (fun k => decide ((s_go wv vs ds nh nd own now σ (at9 k)).1 (g9 + 6) = K 15 k)) sm) i_10)), (2, .int (nI (i_10))), (3, .int (zb (s_all (fun k => decide ((s_go wv vs ds nh nd own now σ (at9 k)).1 (i_10 + 6) = K 15 k)) (i_24 + 1)))), (4, .int (nI (i_24 + 1)))]) [2, 3, 4, 1, 0] (by rw [← f_39]; rfl) ?_
              exact ih_26 (i_24 + 1) (by omega) (by omega)  
            · -- (s_go wv vs ds nh nd own now σ (at9 i_24)).1 (i_10 + 6) = K 15 i_24
              refine z_iconst (v := 1) dX1_who_58 (by decide) ?_
              refine z_goto 63 dX1_who_59 (by decide) ?_
              refine z_istore_n (lv' := [(3, .int 1), (0, .ref (A 99)), (1, .int (s_set (fun g9 => s_all (fun k => decide ((s_go wv vs ds nh nd own now σ (at9 k)).1 (g9 + 6) = K 15 k)) sm) i_10)), (2, .int (nI (i_10))), (4, .int (nI (i_24)))]) dX1_who_63 rfl (by decide) rfl ?_
              refine z_iinc (v := nI (i_24 + 1)) (lv' := [(4, .int (nI (i_24 + 1))), (3, .int 1), (0, .ref (A 99)), (1, .int (s_set (fun g9 => s_all (fun k => decide ((s_go wv vs ds nh nd own now σ (at9 k)).1 (g9 + 6) = K 15 k)) sm) i_10)), (2, .int (nI (i_10)))]) 4 dX1_who_64 rfl (nI_1 _) (by decide) rfl ?_
              refine z_goto 21 dX1_who_67 (by decide) ?_
              have f_40 : 1 = zb (s_all (fun k => decide ((s_go wv vs ds nh nd own now σ (at9 k)).1 (i_10 + 6) = K 15 k)) (i_24 + 1)) := by rw [s_all_1, c_36, decide_eq_true c_38]; rfl
              refine z_lv (lv' := [(0, .ref (A 99)), (1, .int (s_set (fun g9 => s_all (fun k => decide ((s_go wv vs ds nh nd own now σ (at9 k)).1 (g9 + 6) = K 15 k)) sm) i_10)), (2, .int (nI (i_10))), (3, .int (zb (s_all (fun k => decide ((s_go wv vs ds nh nd own now σ (at9 k)).1 (i_10 + 6) = K 15 k)) (i_24 + 1)))), (4, .int (nI (i_24 + 1)))]) [2, 3, 4, 1, 0] (by rw [← f_40]; rfl) ?_
              exact ih_26 (i_24 + 1) (by omega) (by omega)  
      have f_41 : 1 = zb (s_all (fun k => decide ((s_go wv vs ds nh nd own now σ (at9 k)).1 (i_10 + 6) = K 15 k)) 0) := by rfl
      refine z_lv (lv' := [(0, .ref (A 99)), (1, .int (s_set (fun g9 => s_all (fun k => decide ((s_go wv vs ds nh nd own now σ (at9 k)).1 (g9 + 6) = K 15 k)) sm) i_10)), (2, .int (nI (i_10))), (3, .int (zb (s_all (fun k => decide ((s_go wv vs ds nh nd own now σ (at9 k)).1 (i_10 + 6) = K 15 k)) 0))), (4, .int 0)]) [2, 3, 4, 1, 0] (by rw [← f_41]; rfl) ?_
      exact loop_28 (sm - 0) 0 (by omega) (Nat.le_refl _)  
  have f_42 : 0 = s_set (fun g9 => s_all (fun k => decide ((s_go wv vs ds nh nd own now σ (at9 k)).1 (g9 + 6) = K 15 k)) sm) 0 := by rfl
  refine z_lv (lv' := [(0, .ref (A 99)), (1, .int (s_set (fun g9 => s_all (fun k => decide ((s_go wv vs ds nh nd own now σ (at9 k)).1 (g9 + 6) = K 15 k)) sm) 0)), (2, .int 0)]) [2, 1, 0] (by rw [← f_42]; rfl) ?_
  exact loop_14 (nd - 0) 0 (by omega) (Nat.le_refl _)  
