/-! THE COMPONENT: dates go on. Printed by t48.py -/
set_option maxRecDepth 100000
theorem s_iv_go {wv : Int32 → Int32 → Int32 → Int32 → Int32} {vs ds σ : Nat → Int32} {nh nd now : Nat} {own : Nat → Nat} (hV : s_ok vs nh nd own) (h : s_iv σ nd) : ∀ n, s_iv (s_go wv vs ds nh nd own now σ n).1 nd
  | 0 => h
  | n + 1 => s_iv_pass hV (s_iv_go hV h n)
theorem c_passT {g : zG} {A : Nat → Nat} {K : Nat → Nat → Int32} {F : Nat → Int32} {O : Nat → Nat → Option Nat} {gl : Int64} {X : zX} (hA : cok g A X) {v : Nat} (hO : O 0 0 = some v) {vs : Nat → Int32} {nh nd : Nat} {own : Nat → Nat} {wv : Int32 → Int32 → Int32 → Int32 → Int32} (hV : s_ok vs nh nd own) (hv : cvl g X v vs nh nd wv) {σ0 ds0 σ ds : Nat → Int32} {dt0 yr0 o : Int32} {now : Nat} (hnow : now < 2 ^ 29) (hiv : s_iv σ nd) : zN g m_X1_passes ({ frames := 1001, cells := 0, slots := 0, locals := 40023 } : Room) [.ref (A 99), .ref (A 319)] (cX g A (cput (cput (zs K 99 8 o) 300 σ0 ds0 dt0 yr0) 310 σ ds (nI (now % 12)) (nI (now / 12))) F O gl X) (fun rv X' => rv = some (.int ((s_pass wv vs ds nh nd own now σ).2.1)) ∧ ∃ F' : Nat → Int32, X' = cX g A (cput (cput (zs K 99 8 (s_pass wv vs ds nh nd own now σ).2.2) 300 σ0 ds0 dt0 yr0) 310 (s_pass wv vs ds nh nd own now σ).1 ds (nI ((now + 1) % 12)) (nI ((now + 1) / 12))) F' O gl X) := by
  have h := c_passes (K := cput K 300 σ0 ds0 dt0 yr0) (F := F) (gl := gl) (σ := σ) (ds := ds) (o := o) hA hO hV hv (cst_1 hA) hnow hiv
  simp only [cput_zo (show 99 < 300 ∨ 300 + 10 ≤ 99 by omega)] at h
  exact h
theorem c_passS {g : zG} {A : Nat → Nat} {K : Nat → Nat → Int32} {F : Nat → Int32} {O : Nat → Nat → Option Nat} {gl : Int64} {X : zX} (hA : cok g A X) {v : Nat} (hO : O 0 0 = some v) {vs : Nat → Int32} {nh nd : Nat} {own : Nat → Nat} {wv : Int32 → Int32 → Int32 → Int32 → Int32} (hV : s_ok vs nh nd own) (hv : cvl g X v vs nh nd wv) {σ0 ds0 σ ds : Nat → Int32} {dt0 yr0 o : Int32} {now : Nat} (hnow : now < 2 ^ 29) (hiv : s_iv σ nd) : zN g m_X1_passes ({ frames := 1001, cells := 0, slots := 0, locals := 40023 } : Room) [.ref (A 99), .ref (A 309)] (cX g A (cput (cput (zs K 99 8 o) 300 σ ds (nI (now % 12)) (nI (now / 12))) 310 σ0 ds0 dt0 yr0) F O gl X) (fun rv X' => rv = some (.int ((s_pass wv vs ds nh nd own now σ).2.1)) ∧ ∃ F' : Nat → Int32, X' = cX g A (cput (cput (zs K 99 8 (s_pass wv vs ds nh nd own now σ).2.2) 300 (s_pass wv vs ds nh nd own now σ).1 ds (nI ((now + 1) % 12)) (nI ((now + 1) / 12))) 310 σ0 ds0 dt0 yr0) F' O gl X) := by
  have h := c_passes (K := cput K 310 σ0 ds0 dt0 yr0) (F := F) (gl := gl) (σ := σ) (ds := ds) (o := o) hA hO hV hv (cst_0 hA) hnow hiv
  simp only [cput_zo (show 99 < 310 ∨ 310 + 10 ≤ 99 by omega), cput_comm (s := 310) (t := 300) (by omega)] at h
  exact h
set_option maxHeartbeats 4000000 in
theorem c_goesOn {g : zG} {A : Nat → Nat} {K : Nat → Nat → Int32} {F : Nat → Int32} {O : Nat → Nat → Option Nat} {gl : Int64} {X : zX} (hA : cok g A X) {v : Nat} (hO : O 0 0 = some v) {vs : Nat → Int32} {nh nd : Nat} {own : Nat → Nat} {wv : Int32 → Int32 → Int32 → Int32 → Int32} (hV : s_ok vs nh nd own) (hv : cvl g X v vs nh nd wv) {σ0 ds0 σ ds : Nat → Int32} {dt0 yr0 o : Int32} {now : Nat} (hnow : now < 2 ^ 28) (hiv : s_iv σ nd) (m : Nat) (hm : m < 1000) : zN g m_X1_goesOn ({ frames := 1002, cells := 0, slots := 0, locals := 40047 } : Room) [.ref (A 99), .int (nI (m))] (cX g A (cput (cput (zs K 99 8 o) 300 σ0 ds0 dt0 yr0) 310 σ ds (nI (now % 12)) (nI (now / 12))) F O gl X) (fun rv X' => rv = none ∧ ∃ (o' : Int32) (F' : Nat → Int32), X' = cX g A (cput (cput (zs K 99 8 o') 300 σ0 ds0 dt0 yr0) 310 (s_go wv vs ds nh nd own now σ m).1 ds (nI ((now + m) % 12)) (nI ((now + m) / 12))) F' O gl X) := by
  refine zN.of (by decide +kernel) (Nat.le_of_ble_eq_true rfl) rfl ?_
  refine z_lv (lv' := [(0, .ref (A 99)), (1, .int (nI (m)))]) [0, 1] rfl ?_
  have hA2 := hA.2.2.1
  have hV9 := hV
  have hv9 := hv
  obtain ⟨h0, hnh, h1, hnd, hown⟩ := hV9
  obtain ⟨lh, lg, fh, fg, st9, fa, hxv, ⟨mh, eh, ch, hlh, heh, hch1, hch2⟩, ⟨mg, eg, cg, hlg, heg, hcg1, hcg2⟩, hhs, hgs, hst9, hfa⟩ := hv9
  refine z_iconst (v := 0) dX1_goesOn_0 (by decide) ?_
  refine z_istore_n (lv' := [(2, .int 0), (0, .ref (A 99)), (1, .int (nI (m)))]) dX1_goesOn_1 rfl (by decide) rfl ?_
  have loop_5 : ∀ (q_2 i_1 : Nat), i_1 + q_2 = m → 0 ≤ i_1 → ∀ (F_6 : Nat → Int32), ∀ (o_7 : Int32), zZ g m_X1_goesOn (fun rv X' => rv = none ∧ ∃ (o' : Int32) (F' : Nat → Int32), X' = cX g A (cput (cput (zs K 99 8 o') 300 σ0 ds0 dt0 yr0) 310 (s_go wv vs ds nh nd own now σ m).1 ds (nI ((now + m) % 12)) (nI ((now + m) / 12))) F' O gl X, zno, ({ frames := 1002, cells := 0, slots := 0, locals := 40047 } : Room)) 0 0 (cX g A (cput (cput (zs K 99 8 o_7) 300 σ0 ds0 dt0 yr0) 310 ((s_go wv vs ds nh nd own now σ i_1).1) ds (nI ((now + i_1) % 12)) (nI ((now + i_1) / 12))) F_6 O gl X) 2 [(0, .ref (A 99)), (1, .int (nI (m))), (2, .int (nI (i_1)))] [] := by
    intro q_2
    induction q_2 with
    | zero =>
      intro i_1 hb_4 lo_8 F_6 o_7 
      obtain rfl : m = i_1 := by omega
      refine z_iload_n 2 dX1_goesOn_2 rfl ?_
      refine z_iload_n 1 dX1_goesOn_3 rfl ?_
      refine z_icmp_geN (a := m) (b := m) 22 (by omega) (by omega) dX1_goesOn_4 (by decide) (fun c_9 => ?_) (fun c_9 => absurd c_9 (by omega))
      exact z_vret dX1_goesOn_22 rfl (Nat.le_of_ble_eq_true rfl) (Nat.le_of_ble_eq_true rfl) ⟨rfl, o_7, F_6, rfl⟩
    | succ q_2 ih_3 =>
      intro i_1 hb_4 lo_8 F_6 o_7 
      refine z_iload_n 2 dX1_goesOn_2 rfl ?_
      refine z_iload_n 1 dX1_goesOn_3 rfl ?_
      refine z_icmp_geN (a := i_1) (b := m) 22 (by omega) (by omega) dX1_goesOn_4 (by decide) (fun c_10 => absurd c_10 (by omega)) (fun c_10 => ?_)
      refine z_aload_n 0 dX1_goesOn_7 rfl ?_
      refine z_aload_n 0 dX1_goesOn_8 rfl ?_
      refine cz_get (v := .ref (A 319)) 5 hA (by decide) q332 rfl dX1_goesOn_9 ?_
      refine z_callV (As := [.ref (A 319)]) (c_passT (K := K) (F := F_6) (gl := gl) (σ0 := σ0) (ds0 := ds0) (dt0 := dt0) (yr0 := yr0) (σ := (s_go wv vs ds nh nd own now σ i_1).1) (ds := ds) hA hO hV hv (now := now + i_1) (by omega) (s_iv_go hV hiv i_1)) q1209 q1211 qs36 q112 q1212 nm_X1_passes (cX_obj hA) rfl rfl rfl (Nat.le_of_ble_eq_true rfl) ⟨Nat.le_of_ble_eq_true rfl, Nat.le_of_ble_eq_true rfl⟩ dX1_goesOn_12 rfl rfl (Nat.le_of_ble_eq_true rfl) (Nat.le_of_ble_eq_true rfl) (fun v_12 X_13 hp_14 => ?_)
      obtain ⟨rfl, F_11, rfl⟩ := hp_14
      refine z_st (st' := [.int ((s_pass wv vs ds nh nd own (now + i_1) ((s_go wv vs ds nh nd own now σ i_1).1)).2.1)]) rfl ?_
      refine z_pop dX1_goesOn_15 rfl ?_
      refine z_iinc (v := nI (i_1 + 1)) (lv' := [(2, .int (nI (i_1 + 1))), (0, .ref (A 99)), (1, .int (nI (m)))]) 2 dX1_goesOn_16 rfl (nI_1 _) (by decide) rfl ?_
      refine z_goto 2 dX1_goesOn_19 (by decide) ?_
      refine z_lv (lv' := [(0, .ref (A 99)), (1, .int (nI (m))), (2, .int (nI (i_1 + 1)))]) [1, 2, 0] rfl ?_
      refine z_X (X' := (cX g A (cput (cput (zs K 99 8 ((s_pass wv vs ds nh nd own (now + i_1) ((s_go wv vs ds nh nd own now σ i_1).1)).2.2)) 300 σ0 ds0 dt0 yr0) 310 ((s_go wv vs ds nh nd own now σ (i_1 + 1)).1) ds (nI ((now + (i_1 + 1)) % 12)) (nI ((now + (i_1 + 1)) / 12))) F_11 O gl X)) (by rfl) ?_
      exact ih_3 (i_1 + 1) (by omega) (by omega) _ _ 
  refine z_lv (lv' := [(0, .ref (A 99)), (1, .int (nI (m))), (2, .int 0)]) [1, 2, 0] rfl ?_
  refine z_X (X' := (cX g A (cput (cput (zs K 99 8 o) 300 σ0 ds0 dt0 yr0) 310 ((s_go wv vs ds nh nd own now σ 0).1) ds (nI (now % 12)) (nI (now / 12))) F O gl X)) (by rfl) ?_
  exact loop_5 (m - 0) 0 (by omega) (Nat.le_refl _) _ _ 
