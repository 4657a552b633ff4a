/-! THE COMPONENT: places by dates. Printed by t59.py -/
set_option maxRecDepth 100000
theorem csz_200 {i : Nat} (h : i < 25) : csz (i + 200) = 6 := by
  unfold csz
  rw [if_neg (by omega), if_neg (by omega)]
set_option maxHeartbeats 4000000 in
theorem c_laysPlaces {g : zG} {A : Nat → Nat} {K : Nat → Nat → Int32} {F : Nat → Int32} {O : Nat → Nat → Option Nat} {gl : Int64} {X : zX} (hA : cok g A X) {v : Nat} (hO : O 0 0 = some v) {vs : Nat → Int32} {nh nd : Nat} {own : Nat → Nat} {wv : Int32 → Int32 → Int32 → Int32 → Int32} (hV : s_ok vs nh nd own) (hv : cvl g X v vs nh nd wv) {σ ds τ es : Nat → Int32} {dt2 yr2 o : Int32} {now : Nat} (hnow : now < 2 ^ 28) (hiv : s_iv σ nd)  : zN g m_X1_laysPlaces ({ frames := 1002, cells := 0, slots := 0, locals := 40047 } : Room) [.ref (A 99)] (cX g A (cput (cput (zs K 99 8 o) 300 σ ds (nI (now % 12)) (nI (now / 12))) 310 τ es dt2 yr2) F O gl X) (fun rv X' => rv = none ∧ ∃ (o' : Int32) (F' τ' es' : Nat → Int32) (dt' yr' : Int32), X' = cX g A (cput (cput (zs (s_lp (fun n => (s_go wv vs ds nh nd own now σ n).1) 25 K) 99 8 o') 300 σ ds (nI (now % 12)) (nI (now / 12))) 310 τ' es' dt' yr') F' O gl X) := by
  refine zN.of (by decide +kernel) (Nat.le_of_ble_eq_true rfl) rfl ?_
  refine z_lv (lv' := [(0, .ref (A 99))]) [0] rfl ?_
  have hA2 := hA.2.2.1
  have hV9 := hV
  have hv9 := hv
  obtain ⟨h0, hnh, h1, hnd, hown⟩ := hV9
  obtain ⟨lh, lg, fh, fg, st9, fa, hxv, ⟨mh, eh, ch, hlh, heh, hch1, hch2⟩, ⟨mg, eg, cg, hlg, heg, hcg1, hcg2⟩, hhs, hgs, hst9, hfa⟩ := hv9
  refine z_aload_n 0 dX1_laysPlaces_0 rfl ?_
  refine cz_get (v := .ref (A 319)) 5 hA (by decide) q332 rfl dX1_laysPlaces_1 ?_
  refine z_aload_n 0 dX1_laysPlaces_4 rfl ?_
  refine cz_get (v := .ref (A 309)) 4 hA (by decide) q331 rfl dX1_laysPlaces_5 ?_
  refine z_callV (As := [.ref (A 309)]) (c_be (K := (zs K 99 8 o)) (F := F) (O := O) (gl := gl) hA (cst_1 hA) (cst_0 hA) (by omega) (σ := τ) (τ := σ) (ds := es) (es := ds)) q1202 q1203 q1204 q118 q1205 nm_X4_be (cX_st hA (cst_1 hA)) rfl rfl rfl (Nat.le_of_ble_eq_true rfl) ⟨Nat.le_of_ble_eq_true rfl, Nat.le_of_ble_eq_true rfl⟩ dX1_laysPlaces_8 rfl rfl (Nat.le_of_ble_eq_true rfl) (Nat.le_of_ble_eq_true rfl) (fun v_1 X_2 hp_3 => ?_)
  obtain ⟨rfl, rfl⟩ := hp_3
  refine z_st (st' := []) rfl ?_
  refine z_X (X' := (cX g A (cput (cput (zs (s_lp (fun n => (s_go wv vs ds nh nd own now σ n).1) 0 K) 99 8 o) 300 σ ds (nI (now % 12)) (nI (now / 12))) 310 σ ds (nI (now % 12)) (nI (now / 12))) F O gl X)) (by rw [s_lp_0]) ?_
  refine z_iconst (v := 0) dX1_laysPlaces_11 (by decide) ?_
  refine z_istore_n (lv' := [(1, .int 0), (0, .ref (A 99))]) dX1_laysPlaces_12 rfl (by decide) rfl ?_
  have loop_8 : ∀ (q_5 i_4 : Nat), i_4 + q_5 = 25 → 0 ≤ i_4 → ∀ (F_9 : Nat → Int32), ∀ (o_10 : Int32), zZ g m_X1_laysPlaces (fun rv X' => rv = none ∧ ∃ (o' : Int32) (F' τ' es' : Nat → Int32) (dt' yr' : Int32), X' = cX g A (cput (cput (zs (s_lp (fun n => (s_go wv vs ds nh nd own now σ n).1) 25 K) 99 8 o') 300 σ ds (nI (now % 12)) (nI (now / 12))) 310 τ' es' dt' yr') F' O gl X, zno, ({ frames := 1002, cells := 0, slots := 0, locals := 40047 } : Room)) 0 0 (cX g A (cput (cput (zs (s_lp (fun n => (s_go wv vs ds nh nd own now σ n).1) i_4 K) 99 8 o_10) 300 σ ds (nI (now % 12)) (nI (now / 12))) 310 ((s_go wv vs ds nh nd own now σ i_4).1) ds (nI ((now + i_4) % 12)) (nI ((now + i_4) / 12))) F_9 O gl X) 13 [(0, .ref (A 99)), (1, .int (nI (i_4)))] [] := by
    intro q_5
    induction q_5 with
    | zero =>
      intro i_4 hb_7 lo_11 F_9 o_10 
      obtain rfl : 25 = i_4 := by omega
      refine z_iload_n 1 dX1_laysPlaces_13 rfl ?_
      refine z_bipush (v := 24) dX1_laysPlaces_14 (by decide) ?_
      refine z_icmp_gtN (a := 25) (b := 24) 50 (by decide) (by decide) dX1_laysPlaces_16 (by decide) (fun h_ => ?_) (fun h_ => absurd h_ (by decide))
      exact z_vret dX1_laysPlaces_50 rfl (Nat.le_of_ble_eq_true rfl) (Nat.le_of_ble_eq_true rfl) ⟨rfl, o_10, F_9, (s_go wv vs ds nh nd own now σ 25).1, ds, (nI ((now + 25) % 12)), (nI ((now + 25) / 12)), rfl⟩
    | succ q_5 ih_6 =>
      intro i_4 hb_7 lo_11 F_9 o_10 
      refine z_iload_n 1 dX1_laysPlaces_13 rfl ?_
      refine z_bipush (v := 24) dX1_laysPlaces_14 (by decide) ?_
      refine z_icmp_gtN (a := i_4) (b := 24) 50 (by omega) (by omega) dX1_laysPlaces_16 (by decide) (fun c_12 => absurd c_12 (by omega)) (fun c_12 => ?_)
      refine z_aload_n 0 dX1_laysPlaces_19 rfl ?_
      refine cz_get (v := .ref (A 319)) 5 hA (by decide) q332 rfl dX1_laysPlaces_20 ?_
      refine cz_getSN (s := 310) (v := .ref (A 312)) 2 hA (cst_1 hA) (by decide) q265 rfl dX1_laysPlaces_23 ?_
      refine z_aload_n 0 dX1_laysPlaces_26 rfl ?_
      refine cz_get (v := .ref (A 18)) 18 hA (by decide) q345 rfl dX1_laysPlaces_27 ?_
      refine z_iload_n 1 dX1_laysPlaces_30 rfl ?_
      refine cz_plc i_4 hA rfl (by omega) dX1_laysPlaces_31 ?_
      refine z_callS (As := [.ref (A 312), .ref (A (i_4 + 200))]) (c_copies (K := (cput (cput (zs (s_lp (fun n => (s_go wv vs ds nh nd own now σ n).1) i_4 K) 99 8 o_10) 300 σ ds (nI (now % 12)) (nI (now / 12))) 310 ((s_go wv vs ds nh nd own now σ i_4).1) ds (nI ((now + i_4) % 12)) (nI ((now + i_4) / 12)))) (F := F_9) (O := O) (gl := gl) hA (i := 312) (j := i_4 + 200) (n := 6) (by unfold cia; omega) (by unfold cia; omega) (by omega) (csz_200 (by omega)) (by decide)) q1361 q1207 q112 q1208 nm_X1_copies rfl (Nat.le_of_ble_eq_true rfl) ⟨Nat.le_of_ble_eq_true rfl, Nat.le_of_ble_eq_true rfl⟩ dX1_laysPlaces_32 rfl rfl (Nat.le_of_ble_eq_true rfl) (Nat.le_of_ble_eq_true rfl) (fun v_13 X_14 hp_15 => ?_)
      obtain ⟨rfl, rfl⟩ := hp_15
      refine z_X (X' := (cX g A (cput (cput (zs (s_lp (fun n => (s_go wv vs ds nh nd own now σ n).1) (i_4 + 1) K) 99 8 o_10) 300 σ ds (nI (now % 12)) (nI (now / 12))) 310 ((s_go wv vs ds nh nd own now σ i_4).1) ds (nI ((now + i_4) % 12)) (nI ((now + i_4) / 12))) F_9 O gl X)) (congrArg (fun z => cX g A z F_9 O gl X) (s_lp_1 (W := (fun n => (s_go wv vs ds nh nd own now σ n).1)) (by omega) (fun q hq => by rfl))) ?_
      refine z_st (st' := []) rfl ?_
      refine z_aload_n 0 dX1_laysPlaces_35 rfl ?_
      refine z_aload_n 0 dX1_laysPlaces_36 rfl ?_
      refine cz_get (v := .ref (A 319)) 5 hA (by decide) q332 rfl dX1_laysPlaces_37 ?_
      refine z_callV (As := [.ref (A 319)]) (c_passT (K := (s_lp (fun n => (s_go wv vs ds nh nd own now σ n).1) (i_4 + 1) K)) (F := F_9) (gl := gl) (σ0 := σ) (ds0 := ds) (dt0 := (nI (now % 12))) (yr0 := (nI (now / 12))) (σ := (s_go wv vs ds nh nd own now σ i_4).1) (ds := ds) hA hO hV hv (now := now + i_4) (by omega) (s_iv_go hV hiv i_4)) q1209 q1211 qs36 q112 q1212 nm_X1_passes (cX_obj hA) rfl rfl rfl (Nat.le_of_ble_eq_true rfl) ⟨Nat.le_of_ble_eq_true rfl, Nat.le_of_ble_eq_true rfl⟩ dX1_laysPlaces_40 rfl rfl (Nat.le_of_ble_eq_true rfl) (Nat.le_of_ble_eq_true rfl) (fun v_17 X_18 hp_19 => ?_)
      obtain ⟨rfl, F_16, rfl⟩ := hp_19
      refine z_st (st' := [.int ((s_pass wv vs ds nh nd own (now + i_4) ((s_go wv vs ds nh nd own now σ i_4).1)).2.1)]) rfl ?_
      refine z_pop dX1_laysPlaces_43 rfl ?_
      refine z_iinc (v := nI (i_4 + 1)) (lv' := [(1, .int (nI (i_4 + 1))), (0, .ref (A 99))]) 1 dX1_laysPlaces_44 rfl (nI_1 _) (by decide) rfl ?_
      refine z_goto 13 dX1_laysPlaces_47 (by decide) ?_
      refine z_lv (lv' := [(0, .ref (A 99)), (1, .int (nI (i_4 + 1)))]) [1, 0] rfl ?_
      refine z_X (X' := (cX g A (cput (cput (zs (s_lp (fun n => (s_go wv vs ds nh nd own now σ n).1) (i_4 + 1) K) 99 8 ((s_pass wv vs ds nh nd own (now + i_4) ((s_go wv vs ds nh nd own now σ i_4).1)).2.2)) 300 σ ds (nI (now % 12)) (nI (now / 12))) 310 ((s_go wv vs ds nh nd own now σ (i_4 + 1)).1) ds (nI ((now + (i_4 + 1)) % 12)) (nI ((now + (i_4 + 1)) / 12))) F_16 O gl X)) (by rfl) ?_
      exact ih_6 (i_4 + 1) (by omega) (by omega) _ _ 
  refine z_lv (lv' := [(0, .ref (A 99)), (1, .int 0)]) [1, 0] rfl ?_
  refine z_X (X' := (cX g A (cput (cput (zs (s_lp (fun n => (s_go wv vs ds nh nd own now σ n).1) 0 K) 99 8 o) 300 σ ds (nI (now % 12)) (nI (now / 12))) 310 ((s_go wv vs ds nh nd own now σ 0).1) ds (nI (now % 12)) (nI (now / 12))) F O gl X)) (by rfl) ?_
  exact loop_8 (25 - 0) 0 (by omega) (Nat.le_refl _) _ _ 
