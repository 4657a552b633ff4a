/-! THE COMPONENT: kept; moves by hand. Printed by t76.py -/
set_option maxRecDepth 100000
theorem c_keeps {g : zG} {A : Nat → Nat} {K : Nat → Nat → Int32} {F : Nat → Int32} {O : Nat → Nat → Option Nat} {gl : Int64} {X : zX} (hA : cok g A X) {sl : Nat → Nat} {u : Nat} {ds : Nat → Int32} {ur : Nat → (Nat → Int32) × Nat} (hun : c_un A K O sl u ds ur) (hP : c_pool A K) (h9 : A 2 < 9000) {σ : Nat → Int32} {now : Nat} (hst0 : c_at K 0 σ ds (nI (now % 12)) (nI (now / 12))) : zN g m_X1_keeps ({ frames := 2, cells := 7, slots := 43, locals := 43 } : Room) [.ref (A 99)] (cX g A K F O gl X) (fun rv X' => rv = none ∧ ∃ (A' : Nat → Nat) (K' : Nat → Nat → Int32) (O' : Nat → Nat → Option Nat) (sl' : Nat → Nat), X' = cX g A' K' F O' gl X ∧ cok g A' X ∧ c_un A' K' O' sl' (s_upn u) ds (s_kept u ur (σ, now)) ∧ c_pool A' K' ∧ c_at K' 0 σ ds (nI (now % 12)) (nI (now / 12)) ∧ c_kp A K O sl A' K' O' sl') := by
  by_cases hu : u = 16
  · subst hu
    obtain ⟨hsl, K', sl', e, h1, h2, h3, h4⟩ := c_kept_c hun hP hst0 hA.2.2.2
    refine (c_keeps_c hA hun.2.1 hsl).post (fun v X' h => ?_)
    obtain ⟨rfl, rfl⟩ := h
    exact ⟨rfl, A, K', _, sl', by rw [e], hA, h1, h2, h3, h4⟩
  · have hu' : u < 16 := by have := hun.1; omega
    by_cases hs : sl u = 0
    · have hO9 : O 9 u = none := by
        rcases hun.2.2.1 u hu' with h | h
        · exact h.2
        · omega
      refine (c_keeps_b hA hun.2.1 hu' h9 hO9).post (fun v X' h => ?_)
      obtain ⟨rfl, n, s, hA', rfl⟩ := h
      obtain ⟨K', sl', e, h1, h2, h3, h4⟩ := c_kept_b (n := n) (s := s) hun hP hst0 ⟨hA.2.2.1, h9⟩ hu' hs
      exact ⟨rfl, _, K', _, sl', by rw [e], hA', h1, h2, h3, h4⟩
    · obtain ⟨K', e, h1, h2, h3, h4⟩ := c_kept_a hun hP hst0 ⟨hA.2.2.1, hA.2.2.2⟩ hu' hs
      have hk : 2 ≤ sl u ∧ sl u < A 2 ∧ O 9 u = some (A (10 * sl u + 309)) := by
        rcases hun.2.2.1 u hu' with h | h
        · exact absurd h.1 hs
        · exact h
      refine (c_keeps_a hA hun.2.1 hu' ⟨hk.1, hk.2.1⟩ hk.2.2).post (fun v X' h => ?_)
      obtain ⟨rfl, rfl⟩ := h
      exact ⟨rfl, A, K', O, sl, by rw [e], hA, h1, h2, h3, h4⟩
set_option maxHeartbeats 4000000 in
theorem c_date_t {g : zG} {A : Nat → Nat} {K : Nat → Nat → Int32} {F : Nat → Int32} {O : Nat → Nat → Option Nat} {gl : Int64} {X : zX} (hA : cok g A X) {v : Nat} (hO : O 0 0 = some v) {vs : Nat → Int32} {nh nd : Nat} {own : Nat → Nat} {wv : Int32 → Int32 → Int32 → Int32 → Int32} (hV : s_ok vs nh nd own) (hv : cvl g X v vs nh nd wv) {σ ds : Nat → Int32} {o : Int32} {now : Nat} (hnow : now < 2 ^ 28) (hiv : s_iv σ nd) {pv : Option Value → zX → Prop} (hpv : ∀ F' : Nat → Int32, pv (some (.int (s_pass wv vs ds nh nd own now σ).2.1)) (cX g A (cput (zs K 99 8 ((s_pass wv vs ds nh nd own now σ).2.2)) 300 ((s_pass wv vs ds nh nd own now σ).1) ds (nI ((now + 1) % 12)) (nI ((now + 1) / 12))) F' O gl X)) : zZ g m_X1_date (pv, zno, ({ frames := 1002, cells := 7, slots := 43, locals := 40047 } : Room)) 7 43 (cX g A (cput (zs K 99 8 o) 300 σ ds (nI (now % 12)) (nI (now / 12))) F O gl X) 4 [(0, .ref (A 99))] [] := by
  have hA2 := hA.2.2.1
  have hV9 := hV
  have hv9 := hv
  obtain ⟨h0, hnh, h1, hnd, hown⟩ := hV9
  obtain ⟨lh, lg, fh, fg, st9, fa, hxv, ⟨mh, eh, ch, hlh, heh, hch1, hch2⟩, ⟨mg, eg, cg, hlg, heg, hcg1, hcg2⟩, hhs, hgs, hst9, hfa⟩ := hv9
  refine z_aload_n 0 dX1_date_4 rfl ?_
  refine z_aload_n 0 dX1_date_5 rfl ?_
  refine cz_get (v := .ref (A 309)) 4 hA (by decide) q331 rfl dX1_date_6 ?_
  refine z_callV (As := [.ref (A 309)]) (c_passes (K := K) (F := F) (gl := gl) hA hO hV hv (cst_0 hA) (σ := σ) (ds := ds) (o := o) (now := now) (by omega) hiv) q1209 q1211 qs36 q112 q1212 nm_X1_passes (cX_obj hA) rfl rfl rfl (Nat.le_of_ble_eq_true rfl) ⟨Nat.le_of_ble_eq_true rfl, Nat.le_of_ble_eq_true rfl⟩ dX1_date_9 rfl rfl (Nat.le_of_ble_eq_true rfl) (Nat.le_of_ble_eq_true rfl) (fun v_2 X_3 hp_4 => ?_)
  obtain ⟨rfl, F_1, rfl⟩ := hp_4
  refine z_st (st' := [.int ((s_pass wv vs ds nh nd own now σ).2.1)]) rfl ?_
  exact z_iret dX1_date_12 rfl (Nat.le_of_ble_eq_true rfl) (Nat.le_of_ble_eq_true rfl) (hpv F_1)
set_option maxHeartbeats 4000000 in
theorem c_date {g : zG} {A : Nat → Nat} {K : Nat → Nat → Int32} {F : Nat → Int32} {O : Nat → Nat → Option Nat} {gl : Int64} {X : zX} (hA : cok g A X) {v : Nat} (hO : O 0 0 = some v) {vs : Nat → Int32} {nh nd : Nat} {own : Nat → Nat} {wv : Int32 → Int32 → Int32 → Int32 → Int32} (hV : s_ok vs nh nd own) (hv : cvl g X v vs nh nd wv) {sl : Nat → Nat} {u : Nat} {ds : Nat → Int32} {ur : Nat → (Nat → Int32) × Nat} (hun : c_un A K O sl u ds ur) (hP : c_pool A K) (h9 : A 2 < 9000) {σ : Nat → Int32} {now : Nat} (hst0 : c_at K 0 σ ds (nI (now % 12)) (nI (now / 12))) (hnow : now < 2 ^ 28) (hiv : s_iv σ nd) : zN g m_X1_date ({ frames := 1002, cells := 7, slots := 43, locals := 40047 } : Room) [.ref (A 99)] (cX g A K F O gl X) (fun rv X' => rv = some (.int (s_pass wv vs ds nh nd own now σ).2.1) ∧ c_moved g A K O gl X sl u ds ur σ now ((s_pass wv vs ds nh nd own now σ).1) (now + 1) X') := by
  refine zN.of (by decide +kernel) (Nat.le_of_ble_eq_true rfl) rfl ?_
  refine z_lv (lv' := [(0, .ref (A 99))]) [0] rfl ?_
  have hA2 := hA.2.2.1
  have hV9 := hV
  have hv9 := hv
  obtain ⟨h0, hnh, h1, hnd, hown⟩ := hV9
  obtain ⟨lh, lg, fh, fg, st9, fa, hxv, ⟨mh, eh, ch, hlh, heh, hch1, hch2⟩, ⟨mg, eg, cg, hlg, heg, hcg1, hcg2⟩, hhs, hgs, hst9, hfa⟩ := hv9
  refine z_aload_n 0 dX1_date_0 rfl ?_
  refine z_callV (As := []) (c_keeps hA hun hP h9 hst0) q1198 q1200 qs35 q112 q1201 nm_X1_keeps (cX_obj hA) rfl rfl rfl (Nat.le_of_ble_eq_true rfl) ⟨Nat.le_of_ble_eq_true rfl, Nat.le_of_ble_eq_true rfl⟩ dX1_date_1 rfl rfl (Nat.le_of_ble_eq_true rfl) (Nat.le_of_ble_eq_true rfl) (fun v_1 X_2 hp_3 => ?_)
  obtain ⟨rfl, A', K', O', sl', rfl, hA', hun', hP', hst0', hkp⟩ := hp_3
  refine z_st (st' := []) rfl ?_
  have e99 : A' 99 = A 99 := hkp.1.2.2.2 99 (by omega) (Or.inl (by omega))
  rw [← e99]
  refine z_X (X' := cX g A' (cput (zs K' 99 8 (K' 99 8)) 300 σ ds (nI (now % 12)) (nI (now / 12))) F O' gl X) (congrArg (fun z => cX g A' z F O' gl X) (c_at_one hst0' rfl)) ?_
  have hO' : O' 0 0 = some v := (congrFun (hkp.2.2.1 0 (by omega)) 0).trans hO
  exact c_date_t hA' hO' hV hv hnow hiv (fun F => ⟨rfl, ⟨A', _, O', sl', F, rfl, hA', (c_top hun' hP' hkp).1, (c_top hun' hP' hkp).2.1, (c_top hun' hP' hkp).2.2.1, (c_top hun' hP' hkp).2.2.2⟩⟩)
set_option maxHeartbeats 4000000 in
theorem c_move_t {g : zG} {A : Nat → Nat} {K : Nat → Nat → Int32} {F : Nat → Int32} {O : Nat → Nat → Option Nat} {gl : Int64} {X : zX} (hA : cok g A X) {v : Nat} (hO : O 0 0 = some v) {vs : Nat → Int32} {nh nd : Nat} {own : Nat → Nat} {wv : Int32 → Int32 → Int32 → Int32 → Int32} (hV : s_ok vs nh nd own) (hv : cvl g X v vs nh nd wv) {σ ds : Nat → Int32} {o : Int32} {now : Nat} {d h : Nat} (hd : d < 6) {pv : Option Value → zX → Prop} (hpv : pv (some (.int 1)) (cX g A (cput (zs K 99 8 o) 300 (zs1 σ (d + 6) (nI h)) ds (nI (now % 12)) (nI (now / 12))) F O gl X)) : zZ g m_X1_move (pv, zno, ({ frames := 7, cells := 7, slots := 43, locals := 155 } : Room)) 7 43 (cX g A (cput (zs K 99 8 o) 300 σ ds (nI (now % 12)) (nI (now / 12))) F O gl X) 35 [(0, .ref (A 99)), (1, .int (nI (d))), (2, .int (nI (h)))] [] := by
  have hA2 := hA.2.2.1
  have hV9 := hV
  have hv9 := hv
  obtain ⟨h0, hnh, h1, hnd, hown⟩ := hV9
  obtain ⟨lh, lg, fh, fg, st9, fa, hxv, ⟨mh, eh, ch, hlh, heh, hch1, hch2⟩, ⟨mg, eg, cg, hlg, heg, hcg1, hcg2⟩, hhs, hgs, hst9, hfa⟩ := hv9
  refine z_aload_n 0 dX1_move_35 rfl ?_
  refine cz_get (v := .ref (A 309)) 4 hA (by decide) q331 rfl dX1_move_36 ?_
  refine cz_getSN (s := 300) (v := .ref (A 302)) 2 hA (cst_0 hA) (by decide) q265 rfl dX1_move_39 ?_
  refine z_iload_n 1 dX1_move_42 rfl ?_
  refine z_iload_n 2 dX1_move_43 rfl ?_
  refine cz_iast (K' := (cput (zs K 99 8 o) 300 (zs1 σ (d + 6) (nI (h))) ds (nI (now % 12)) (nI (now / 12)))) 302 d hA (by unfold cia; omega) rfl (by have h9 : csz 302 = 6 := rfl; omega) (by rw [cput_zwhere (by omega)]) dX1_move_44 ?_
  refine z_iconst (v := 1) dX1_move_45 (by decide) ?_
  exact z_zret dX1_move_46 rfl (by first | rfl | decide | exact zb_nar _) (Nat.le_of_ble_eq_true rfl) (Nat.le_of_ble_eq_true rfl) hpv
set_option maxHeartbeats 4000000 in
theorem c_move {g : zG} {A : Nat → Nat} {K : Nat → Nat → Int32} {F : Nat → Int32} {O : Nat → Nat → Option Nat} {gl : Int64} {X : zX} (hA : cok g A X) {v : Nat} (hO : O 0 0 = some v) {vs : Nat → Int32} {nh nd : Nat} {own : Nat → Nat} {wv : Int32 → Int32 → Int32 → Int32 → Int32} (hV : s_ok vs nh nd own) (hv : cvl g X v vs nh nd wv) {sl : Nat → Nat} {u : Nat} {ds : Nat → Int32} {ur : Nat → (Nat → Int32) × Nat} (hun : c_un A K O sl u ds ur) (hP : c_pool A K) (h9 : A 2 < 9000) {σ : Nat → Int32} {now : Nat} (hst0 : c_at K 0 σ ds (nI (now % 12)) (nI (now / 12))) (d h : Int32) (hiv : s_iv σ nd) : zN g m_X1_move ({ frames := 7, cells := 7, slots := 43, locals := 155 } : Room) [.ref (A 99), .int d, .int h] (cX g A K F O gl X) (fun rv X' => (rv = some (.int 1) ∧ (((decide (0 ≤ d) && decide (d < nI nd)) && (decide (0 ≤ h) && decide (h < nI nh))) && s_may vs σ nd d.toNatClampNeg h.toNatClampNeg) = true ∧ c_moved g A K O gl X sl u ds ur σ now (zs1 σ (d.toNatClampNeg + 6) h) now X') ∨ (rv = some (.int 0) ∧ (((decide (0 ≤ d) && decide (d < nI nd)) && (decide (0 ≤ h) && decide (h < nI nh))) && s_may vs σ nd d.toNatClampNeg h.toNatClampNeg) = false ∧ X' = (cX g A K F O gl X))) := by
  refine zN.of (by decide +kernel) (Nat.le_of_ble_eq_true rfl) rfl ?_
  refine z_lv (lv' := [(0, .ref (A 99)), (1, .int d), (2, .int h)]) [0, 1, 2] rfl ?_
  have hA2 := hA.2.2.1
  have hV9 := hV
  have hv9 := hv
  obtain ⟨h0, hnh, h1, hnd, hown⟩ := hV9
  obtain ⟨lh, lg, fh, fg, st9, fa, hxv, ⟨mh, eh, ch, hlh, heh, hch1, hch2⟩, ⟨mg, eg, cg, hlg, heg, hcg1, hcg2⟩, hhs, hgs, hst9, hfa⟩ := hv9
  refine z_X (X' := (cX g A (cput (zs K 99 8 (K 99 8)) 300 σ ds (nI (now % 12)) (nI (now / 12))) F O gl X)) (congrArg (fun z => cX g A z F O gl X) (c_at_one hst0 rfl)) ?_
  refine z_aload_n 0 dX1_move_0 rfl ?_
  refine z_iload_n 1 dX1_move_1 rfl ?_
  refine z_callV (As := [.int d]) (c_isGuest (K := (cput (zs K 99 8 (K 99 8)) 300 σ ds (nI (now % 12)) (nI (now / 12)))) (F := F) (gl := gl) hA hO hxv hlh heh hch1 hch2 hlg heg hcg1 hcg2 (by omega) d) q1176 q1178 qs34 q112 q1179 nm_X1_isGuest (cX_obj hA) rfl rfl rfl (Nat.le_of_ble_eq_true rfl) ⟨Nat.le_of_ble_eq_true rfl, Nat.le_of_ble_eq_true rfl⟩ dX1_move_2 rfl rfl (Nat.le_of_ble_eq_true rfl) (Nat.le_of_ble_eq_true rfl) (fun v_1 X_2 hp_3 => ?_)
  obtain ⟨rfl, rfl⟩ := hp_3
  refine z_st (st' := [.int (zb (decide (0 ≤ d) && decide (d < nI nd)))]) rfl ?_
  refine z_if_eqb 29 dX1_move_5 (by decide) (fun c_4 => ?_) (fun c_4 => ?_)
  · -- decide (0 ≤ d) && decide (d < nI nd) = false
    refine z_iconst (v := 0) dX1_move_29 (by decide) ?_
    exact z_zret dX1_move_30 rfl (by first | rfl | decide | exact zb_nar _) (Nat.le_of_ble_eq_true rfl) (Nat.le_of_ble_eq_true rfl) (Or.inr ⟨rfl, by simp [c_4], (congrArg (fun z => cX g A z F O gl X) (c_at_one hst0 rfl).symm)⟩)
  · -- decide (0 ≤ d) && decide (d < nI nd) = true
    obtain ⟨m, hm, e_d⟩ := zday (by omega) c_4
    refine z_lv (lv' := [(0, .ref (A 99)), (1, .int (nI (m))), (2, .int h)]) [0, 1, 2] (by rw [e_d]; rfl) ?_
    refine z_aload_n 0 dX1_move_8 rfl ?_
    refine z_iload_n 2 dX1_move_9 rfl ?_
    refine z_callV (As := [.int h]) (c_isHouse (K := (cput (zs K 99 8 (K 99 8)) 300 σ ds (nI (now % 12)) (nI (now / 12)))) (F := F) (gl := gl) hA hO hxv hlh heh hch1 hch2 hlg heg hcg1 hcg2 (by omega) h) q1123 q1125 qs27 q112 q1126 nm_X1_isHouse (cX_obj hA) rfl rfl rfl (Nat.le_of_ble_eq_true rfl) ⟨Nat.le_of_ble_eq_true rfl, Nat.le_of_ble_eq_true rfl⟩ dX1_move_10 rfl rfl (Nat.le_of_ble_eq_true rfl) (Nat.le_of_ble_eq_true rfl) (fun v_5 X_6 hp_7 => ?_)
    obtain ⟨rfl, rfl⟩ := hp_7
    refine z_st (st' := [.int (zb (decide (0 ≤ h) && decide (h < nI nh)))]) rfl ?_
    refine z_if_eqb 29 dX1_move_13 (by decide) (fun c_8 => ?_) (fun c_8 => ?_)
    · -- decide (0 ≤ h) && decide (h < nI nh) = false
      refine z_iconst (v := 0) dX1_move_29 (by decide) ?_
      exact z_zret dX1_move_30 rfl (by first | rfl | decide | exact zb_nar _) (Nat.le_of_ble_eq_true rfl) (Nat.le_of_ble_eq_true rfl) (Or.inr ⟨rfl, by subst e_d; simp [c_4, c_8, ncl (show m < 2 ^ 31 by omega)], (congrArg (fun z => cX g A z F O gl X) (c_at_one hst0 rfl).symm)⟩)
    · -- decide (0 ≤ h) && decide (h < nI nh) = true
      obtain ⟨k, hk, e_h⟩ := zday (by omega) c_8
      refine z_lv (lv' := [(0, .ref (A 99)), (1, .int (nI (m))), (2, .int (nI (k)))]) [0, 1, 2] (by rw [e_h]; rfl) ?_
      refine z_aload_n 0 dX1_move_16 rfl ?_
      refine z_aload_n 0 dX1_move_17 rfl ?_
      refine cz_get (v := .ref (A 309)) 4 hA (by decide) q331 rfl dX1_move_18 ?_
      refine z_iload_n 1 dX1_move_21 rfl ?_
      refine z_iload_n 2 dX1_move_22 rfl ?_
      refine z_callV (As := [.ref (A 309), .int (nI (m)), .int (nI (k))]) (c_canMove (F := F) (gl := gl) (K := (zs K 99 8 (K 99 8))) (σ := σ) (ds := ds) (dt := (nI (now % 12))) (yr := (nI (now / 12))) hA hO hV hv (cst_0 hA) hiv.1 m k (by omega) (by omega)) q1274 q1276 qs39 q112 q1277 nm_X1_canMove (cX_obj hA) rfl rfl rfl (Nat.le_of_ble_eq_true rfl) ⟨Nat.le_of_ble_eq_true rfl, Nat.le_of_ble_eq_true rfl⟩ dX1_move_23 rfl rfl (Nat.le_of_ble_eq_true rfl) (Nat.le_of_ble_eq_true rfl) (fun v_9 X_10 hp_11 => ?_)
      obtain ⟨rfl, rfl⟩ := hp_11
      refine z_st (st' := [.int (zb (s_may vs σ nd m k))]) rfl ?_
      refine z_if_neb 31 dX1_move_26 (by decide) (fun c_12 => ?_) (fun c_12 => ?_)
      · -- s_may vs σ nd m k = true
        refine z_aload_n 0 dX1_move_31 rfl ?_
        refine z_X (X' := (cX g A K F O gl X)) (congrArg (fun z => cX g A z F O gl X) (c_at_one hst0 rfl).symm) ?_
        refine z_callV (As := []) (c_keeps hA hun hP h9 hst0) q1198 q1200 qs35 q112 q1201 nm_X1_keeps (cX_obj hA) rfl rfl rfl (Nat.le_of_ble_eq_true rfl) ⟨Nat.le_of_ble_eq_true rfl, Nat.le_of_ble_eq_true rfl⟩ dX1_move_32 rfl rfl (Nat.le_of_ble_eq_true rfl) (Nat.le_of_ble_eq_true rfl) (fun v_13 X_14 hp_15 => ?_)
        obtain ⟨rfl, A', K', O', sl', rfl, hA', hun', hP', hst0', hkp⟩ := hp_15
        refine z_st (st' := []) rfl ?_
        have e99 : A' 99 = A 99 := hkp.1.2.2.2 99 (by omega) (Or.inl (by omega))
        rw [← e99]
        refine z_X (X' := cX g A' (cput (zs K' 99 8 (K' 99 8)) 300 σ ds (nI (now % 12)) (nI (now / 12))) F O' gl X) (congrArg (fun z => cX g A' z F O' gl X) (c_at_one hst0' rfl)) ?_
        have hO' : O' 0 0 = some v := (congrFun (hkp.2.2.1 0 (by omega)) 0).trans hO
        exact c_move_t hA' hO' hV hv (d := m) (h := k) (by omega) (Or.inl ⟨rfl, by subst e_d; subst e_h; simp [c_4, c_8, c_12, ncl (show m < 2 ^ 31 by omega), ncl (show k < 2 ^ 31 by omega)], by subst e_d; subst e_h; rw [ncl (show m < 2 ^ 31 by omega)]; exact ⟨A', _, O', sl', F, rfl, hA', (c_top hun' hP' hkp).1, (c_top hun' hP' hkp).2.1, (c_top hun' hP' hkp).2.2.1, (c_top hun' hP' hkp).2.2.2⟩⟩)
      · -- s_may vs σ nd m k = false
        refine z_iconst (v := 0) dX1_move_29 (by decide) ?_
        exact z_zret dX1_move_30 rfl (by first | rfl | decide | exact zb_nar _) (Nat.le_of_ble_eq_true rfl) (Nat.le_of_ble_eq_true rfl) (Or.inr ⟨rfl, by subst e_d; subst e_h; simp [c_4, c_8, c_12, ncl (show m < 2 ^ 31 by omega), ncl (show k < 2 ^ 31 by omega)], (congrArg (fun z => cX g A z F O gl X) (c_at_one hst0 rfl).symm)⟩)
set_option maxHeartbeats 4000000 in
theorem c_send_t {g : zG} {A : Nat → Nat} {K : Nat → Nat → Int32} {F : Nat → Int32} {O : Nat → Nat → Option Nat} {gl : Int64} {X : zX} (hA : cok g A X) {v : Nat} (hO : O 0 0 = some v) {vs : Nat → Int32} {nh nd : Nat} {own : Nat → Nat} {wv : Int32 → Int32 → Int32 → Int32 → Int32} (hV : s_ok vs nh nd own) (hv : cvl g X v vs nh nd wv) {σ ds : Nat → Int32} {o : Int32} {now : Nat} {d : Nat} (hd : d < 6) {pv : Option Value → zX → Prop} (hpv : pv (some (.int 1)) (cX g A (cput (zs K 99 8 o) 300 (s_leave σ d) ds (nI (now % 12)) (nI (now / 12))) F O gl X)) : zZ g m_X1_send (pv, zno, ({ frames := 3, cells := 7, slots := 43, locals := 65 } : Room)) 7 43 (cX g A (cput (zs K 99 8 o) 300 σ ds (nI (now % 12)) (nI (now / 12))) F O gl X) 26 [(0, .ref (A 99)), (1, .int (nI (d)))] [] := by
  have hA2 := hA.2.2.1
  have hV9 := hV
  have hv9 := hv
  obtain ⟨h0, hnh, h1, hnd, hown⟩ := hV9
  obtain ⟨lh, lg, fh, fg, st9, fa, hxv, ⟨mh, eh, ch, hlh, heh, hch1, hch2⟩, ⟨mg, eg, cg, hlg, heg, hcg1, hcg2⟩, hhs, hgs, hst9, hfa⟩ := hv9
  refine z_aload_n 0 dX1_send_26 rfl ?_
  refine cz_get (v := .ref (A 309)) 4 hA (by decide) q331 rfl dX1_send_27 ?_
  refine z_iload_n 1 dX1_send_30 rfl ?_
  refine z_callV (As := [.int (nI (d))]) (c_goes (F := F) (gl := gl) (K := (zs K 99 8 o)) (σ := σ) (ds := ds) (dt := (nI (now % 12))) (yr := (nI (now / 12))) (O := O) hA (cst_0 hA) d (by omega)) q1217 q1218 q1219 q118 q1220 nm_X4_goes (cX_st hA (cst_0 hA)) rfl rfl rfl (Nat.le_of_ble_eq_true rfl) ⟨Nat.le_of_ble_eq_true rfl, Nat.le_of_ble_eq_true rfl⟩ dX1_send_31 rfl rfl (Nat.le_of_ble_eq_true rfl) (Nat.le_of_ble_eq_true rfl) (fun v_1 X_2 hp_3 => ?_)
  obtain ⟨rfl, rfl⟩ := hp_3
  refine z_st (st' := []) rfl ?_
  refine z_iconst (v := 1) dX1_send_34 (by decide) ?_
  exact z_zret dX1_send_35 rfl (by first | rfl | decide | exact zb_nar _) (Nat.le_of_ble_eq_true rfl) (Nat.le_of_ble_eq_true rfl) hpv
set_option maxHeartbeats 4000000 in
theorem c_send {g : zG} {A : Nat → Nat} {K : Nat → Nat → Int32} {F : Nat → Int32} {O : Nat → Nat → Option Nat} {gl : Int64} {X : zX} (hA : cok g A X) {v : Nat} (hO : O 0 0 = some v) {vs : Nat → Int32} {nh nd : Nat} {own : Nat → Nat} {wv : Int32 → Int32 → Int32 → Int32 → Int32} (hV : s_ok vs nh nd own) (hv : cvl g X v vs nh nd wv) {sl : Nat → Nat} {u : Nat} {ds : Nat → Int32} {ur : Nat → (Nat → Int32) × Nat} (hun : c_un A K O sl u ds ur) (hP : c_pool A K) (h9 : A 2 < 9000) {σ : Nat → Int32} {now : Nat} (hst0 : c_at K 0 σ ds (nI (now % 12)) (nI (now / 12))) (d : Int32) : zN g m_X1_send ({ frames := 3, cells := 7, slots := 43, locals := 65 } : Room) [.ref (A 99), .int d] (cX g A K F O gl X) (fun rv X' => (rv = some (.int 1) ∧ ((decide (0 ≤ d) && decide (d < nI nd)) && decide (0 ≤ σ (d.toNatClampNeg + 6))) = true ∧ c_moved g A K O gl X sl u ds ur σ now (s_leave σ d.toNatClampNeg) now X') ∨ (rv = some (.int 0) ∧ ((decide (0 ≤ d) && decide (d < nI nd)) && decide (0 ≤ σ (d.toNatClampNeg + 6))) = false ∧ X' = (cX g A K F O gl X))) := by
  refine zN.of (by decide +kernel) (Nat.le_of_ble_eq_true rfl) rfl ?_
  refine z_lv (lv' := [(0, .ref (A 99)), (1, .int d)]) [0, 1] rfl ?_
  have hA2 := hA.2.2.1
  have hV9 := hV
  have hv9 := hv
  obtain ⟨h0, hnh, h1, hnd, hown⟩ := hV9
  obtain ⟨lh, lg, fh, fg, st9, fa, hxv, ⟨mh, eh, ch, hlh, heh, hch1, hch2⟩, ⟨mg, eg, cg, hlg, heg, hcg1, hcg2⟩, hhs, hgs, hst9, hfa⟩ := hv9
  refine z_X (X' := (cX g A (cput (zs K 99 8 (K 99 8)) 300 σ ds (nI (now % 12)) (nI (now / 12))) F O gl X)) (congrArg (fun z => cX g A z F O gl X) (c_at_one hst0 rfl)) ?_
  refine z_aload_n 0 dX1_send_0 rfl ?_
  refine z_iload_n 1 dX1_send_1 rfl ?_
  refine z_callV (As := [.int d]) (c_isGuest (K := (cput (zs K 99 8 (K 99 8)) 300 σ ds (nI (now % 12)) (nI (now / 12)))) (F := F) (gl := gl) hA hO hxv hlh heh hch1 hch2 hlg heg hcg1 hcg2 (by omega) d) q1176 q1178 qs34 q112 q1179 nm_X1_isGuest (cX_obj hA) rfl rfl rfl (Nat.le_of_ble_eq_true rfl) ⟨Nat.le_of_ble_eq_true rfl, Nat.le_of_ble_eq_true rfl⟩ dX1_send_2 rfl rfl (Nat.le_of_ble_eq_true rfl) (Nat.le_of_ble_eq_true rfl) (fun v_1 X_2 hp_3 => ?_)
  obtain ⟨rfl, rfl⟩ := hp_3
  refine z_st (st' := [.int (zb (decide (0 ≤ d) && decide (d < nI nd)))]) rfl ?_
  refine z_if_eqb 20 dX1_send_5 (by decide) (fun c_4 => ?_) (fun c_4 => ?_)
  · -- decide (0 ≤ d) && decide (d < nI nd) = false
    refine z_iconst (v := 0) dX1_send_20 (by decide) ?_
    exact z_zret dX1_send_21 rfl (by first | rfl | decide | exact zb_nar _) (Nat.le_of_ble_eq_true rfl) (Nat.le_of_ble_eq_true rfl) (Or.inr ⟨rfl, by simp [c_4], (congrArg (fun z => cX g A z F O gl X) (c_at_one hst0 rfl).symm)⟩)
  · -- decide (0 ≤ d) && decide (d < nI nd) = true
    obtain ⟨m, hm, e_d⟩ := zday (by omega) c_4
    refine z_lv (lv' := [(0, .ref (A 99)), (1, .int (nI (m)))]) [0, 1] (by rw [e_d]; rfl) ?_
    refine z_aload_n 0 dX1_send_8 rfl ?_
    refine cz_get (v := .ref (A 309)) 4 hA (by decide) q331 rfl dX1_send_9 ?_
    refine cz_getSN (s := 300) (v := .ref (A 302)) 2 hA (cst_0 hA) (by decide) q265 rfl dX1_send_12 ?_
    refine z_iload_n 1 dX1_send_15 rfl ?_
    refine cz_iald (v := σ (m + 6)) 302 m hA (by unfold cia; omega) rfl (by have h9 : csz 302 = 6 := rfl; omega) (cput_where (by omega)) dX1_send_16 ?_
    refine z_if_ge 22 dX1_send_17 (by decide) (fun c_5 => ?_) (fun c_5 => ?_)
    · -- 0 ≤ σ (m + 6)
      have c_5' := Int32.not_lt.mpr c_5
      refine z_aload_n 0 dX1_send_22 rfl ?_
      refine z_X (X' := (cX g A K F O gl X)) (congrArg (fun z => cX g A z F O gl X) (c_at_one hst0 rfl).symm) ?_
      refine z_callV (As := []) (c_keeps hA hun hP h9 hst0) q1198 q1200 qs35 q112 q1201 nm_X1_keeps (cX_obj hA) rfl rfl rfl (Nat.le_of_ble_eq_true rfl) ⟨Nat.le_of_ble_eq_true rfl, Nat.le_of_ble_eq_true rfl⟩ dX1_send_23 rfl rfl (Nat.le_of_ble_eq_true rfl) (Nat.le_of_ble_eq_true rfl) (fun v_6 X_7 hp_8 => ?_)
      obtain ⟨rfl, A', K', O', sl', rfl, hA', hun', hP', hst0', hkp⟩ := hp_8
      refine z_st (st' := []) rfl ?_
      have e99 : A' 99 = A 99 := hkp.1.2.2.2 99 (by omega) (Or.inl (by omega))
      rw [← e99]
      refine z_X (X' := cX g A' (cput (zs K' 99 8 (K' 99 8)) 300 σ ds (nI (now % 12)) (nI (now / 12))) F O' gl X) (congrArg (fun z => cX g A' z F O' gl X) (c_at_one hst0' rfl)) ?_
      have hO' : O' 0 0 = some v := (congrFun (hkp.2.2.1 0 (by omega)) 0).trans hO
      exact c_send_t hA' hO' hV hv (d := m) (by omega) (Or.inl ⟨rfl, by subst e_d; simp [c_4, c_5, ncl (show m < 2 ^ 31 by omega)], by subst e_d; rw [ncl (show m < 2 ^ 31 by omega)]; exact ⟨A', _, O', sl', F, rfl, hA', (c_top hun' hP' hkp).1, (c_top hun' hP' hkp).2.1, (c_top hun' hP' hkp).2.2.1, (c_top hun' hP' hkp).2.2.2⟩⟩)
    · -- ¬ 0 ≤ σ (m + 6)
      have c_5' := Int32.not_le.mp c_5
      refine z_iconst (v := 0) dX1_send_20 (by decide) ?_
      exact z_zret dX1_send_21 rfl (by first | rfl | decide | exact zb_nar _) (Nat.le_of_ble_eq_true rfl) (Nat.le_of_ble_eq_true rfl) (Or.inr ⟨rfl, by subst e_d; simp [c_4, c_5, ncl (show m < 2 ^ 31 by omega)], (congrArg (fun z => cX g A z F O gl X) (c_at_one hst0 rfl).symm)⟩)
set_option maxHeartbeats 4000000 in
theorem c_build_t {g : zG} {A : Nat → Nat} {K : Nat → Nat → Int32} {F : Nat → Int32} {O : Nat → Nat → Option Nat} {gl : Int64} {X : zX} (hA : cok g A X) {v : Nat} (hO : O 0 0 = some v) {vs : Nat → Int32} {nh nd : Nat} {own : Nat → Nat} {wv : Int32 → Int32 → Int32 → Int32 → Int32} (hV : s_ok vs nh nd own) (hv : cvl g X v vs nh nd wv) {σ ds : Nat → Int32} {o : Int32} {now : Nat} {d : Nat} (hd : d < 4) {pv : Option Value → zX → Prop} (hpv : pv (some (.int (σ (d + 2) + 1))) (cX g A (cput (zs K 99 8 o) 300 (zs1 σ (d + 2) (σ (d + 2) + 1)) ds (nI (now % 12)) (nI (now / 12))) F O gl X)) : zZ g m_X1_build (pv, zno, ({ frames := 3, cells := 7, slots := 43, locals := 65 } : Room)) 7 43 (cX g A (cput (zs K 99 8 o) 300 σ ds (nI (now % 12)) (nI (now / 12))) F O gl X) 28 [(0, .ref (A 99)), (1, .int (nI (d)))] [] := by
  have hA2 := hA.2.2.1
  have hV9 := hV
  have hv9 := hv
  obtain ⟨h0, hnh, h1, hnd, hown⟩ := hV9
  obtain ⟨lh, lg, fh, fg, st9, fa, hxv, ⟨mh, eh, ch, hlh, heh, hch1, hch2⟩, ⟨mg, eg, cg, hlg, heg, hcg1, hcg2⟩, hhs, hgs, hst9, hfa⟩ := hv9
  refine z_aload_n 0 dX1_build_28 rfl ?_
  refine cz_get (v := .ref (A 309)) 4 hA (by decide) q331 rfl dX1_build_29 ?_
  refine cz_getSN (s := 300) (v := .ref (A 300)) 0 hA (cst_0 hA) (by decide) q259 rfl dX1_build_32 ?_
  refine z_iload_n 1 dX1_build_35 rfl ?_
  refine z_dup2_11 dX1_build_36 rfl rfl ?_
  refine cz_iald (v := σ (d + 2)) 300 d hA (by unfold cia; omega) rfl (by have h9 : csz 300 = 4 := rfl; omega) (cput_beds (by omega)) dX1_build_37 ?_
  refine z_iconst (v := 1) dX1_build_38 (by decide) ?_
  refine z_iadd dX1_build_39 ?_
  refine z_dup_x2 dX1_build_40 rfl rfl rfl ?_
  obtain ⟨x_1, ex_1⟩ : ∃ y : Int32, ((σ (d + 2)) + 1) = y := ⟨_, rfl⟩
  refine z_eq ex_1 ?_
  refine cz_iast (K' := (cput (zs K 99 8 o) 300 (zs1 σ (d + 2) x_1) ds (nI (now % 12)) (nI (now / 12)))) 300 d hA (by unfold cia; omega) rfl (by have h9 : csz 300 = 4 := rfl; omega) (by rw [cput_zbeds (by omega)]) dX1_build_41 ?_
  exact z_iret dX1_build_42 rfl (Nat.le_of_ble_eq_true rfl) (Nat.le_of_ble_eq_true rfl) (by subst ex_1; exact hpv)
set_option maxHeartbeats 4000000 in
theorem c_build {g : zG} {A : Nat → Nat} {K : Nat → Nat → Int32} {F : Nat → Int32} {O : Nat → Nat → Option Nat} {gl : Int64} {X : zX} (hA : cok g A X) {v : Nat} (hO : O 0 0 = some v) {vs : Nat → Int32} {nh nd : Nat} {own : Nat → Nat} {wv : Int32 → Int32 → Int32 → Int32 → Int32} (hV : s_ok vs nh nd own) (hv : cvl g X v vs nh nd wv) {sl : Nat → Nat} {u : Nat} {ds : Nat → Int32} {ur : Nat → (Nat → Int32) × Nat} (hun : c_un A K O sl u ds ur) (hP : c_pool A K) (h9 : A 2 < 9000) {σ : Nat → Int32} {now : Nat} (hst0 : c_at K 0 σ ds (nI (now % 12)) (nI (now / 12))) (d : Int32) : zN g m_X1_build ({ frames := 3, cells := 7, slots := 43, locals := 65 } : Room) [.ref (A 99), .int d] (cX g A K F O gl X) (fun rv X' => (rv = some (.int (σ (d.toNatClampNeg + 2) + 1)) ∧ ((decide (0 ≤ d) && decide (d < nI nh)) && decide (¬ σ (d.toNatClampNeg + 2) = 9)) = true ∧ c_moved g A K O gl X sl u ds ur σ now (zs1 σ (d.toNatClampNeg + 2) (σ (d.toNatClampNeg + 2) + 1)) now X') ∨ (rv = some (.int zm1) ∧ ((decide (0 ≤ d) && decide (d < nI nh)) && decide (¬ σ (d.toNatClampNeg + 2) = 9)) = false ∧ X' = (cX g A K F O gl X))) := by
  refine zN.of (by decide +kernel) (Nat.le_of_ble_eq_true rfl) rfl ?_
  refine z_lv (lv' := [(0, .ref (A 99)), (1, .int d)]) [0, 1] rfl ?_
  have hA2 := hA.2.2.1
  have hV9 := hV
  have hv9 := hv
  obtain ⟨h0, hnh, h1, hnd, hown⟩ := hV9
  obtain ⟨lh, lg, fh, fg, st9, fa, hxv, ⟨mh, eh, ch, hlh, heh, hch1, hch2⟩, ⟨mg, eg, cg, hlg, heg, hcg1, hcg2⟩, hhs, hgs, hst9, hfa⟩ := hv9
  refine z_X (X' := (cX g A (cput (zs K 99 8 (K 99 8)) 300 σ ds (nI (now % 12)) (nI (now / 12))) F O gl X)) (congrArg (fun z => cX g A z F O gl X) (c_at_one hst0 rfl)) ?_
  refine z_aload_n 0 dX1_build_0 rfl ?_
  refine z_iload_n 1 dX1_build_1 rfl ?_
  refine z_callV (As := [.int d]) (c_isHouse (K := (cput (zs K 99 8 (K 99 8)) 300 σ ds (nI (now % 12)) (nI (now / 12)))) (F := F) (gl := gl) hA hO hxv hlh heh hch1 hch2 hlg heg hcg1 hcg2 (by omega) d) q1123 q1125 qs27 q112 q1126 nm_X1_isHouse (cX_obj hA) rfl rfl rfl (Nat.le_of_ble_eq_true rfl) ⟨Nat.le_of_ble_eq_true rfl, Nat.le_of_ble_eq_true rfl⟩ dX1_build_2 rfl rfl (Nat.le_of_ble_eq_true rfl) (Nat.le_of_ble_eq_true rfl) (fun v_1 X_2 hp_3 => ?_)
  obtain ⟨rfl, rfl⟩ := hp_3
  refine z_st (st' := [.int (zb (decide (0 ≤ d) && decide (d < nI nh)))]) rfl ?_
  refine z_if_eqb 22 dX1_build_5 (by decide) (fun c_4 => ?_) (fun c_4 => ?_)
  · -- decide (0 ≤ d) && decide (d < nI nh) = false
    refine z_iconst (v := zm1) dX1_build_22 (by decide) ?_
    exact z_iret dX1_build_23 rfl (Nat.le_of_ble_eq_true rfl) (Nat.le_of_ble_eq_true rfl) (Or.inr ⟨rfl, by simp [c_4], (congrArg (fun z => cX g A z F O gl X) (c_at_one hst0 rfl).symm)⟩)
  · -- decide (0 ≤ d) && decide (d < nI nh) = true
    obtain ⟨m, hm, e_d⟩ := zday (by omega) c_4
    refine z_lv (lv' := [(0, .ref (A 99)), (1, .int (nI (m)))]) [0, 1] (by rw [e_d]; rfl) ?_
    refine z_aload_n 0 dX1_build_8 rfl ?_
    refine cz_get (v := .ref (A 309)) 4 hA (by decide) q331 rfl dX1_build_9 ?_
    refine cz_getSN (s := 300) (v := .ref (A 300)) 0 hA (cst_0 hA) (by decide) q259 rfl dX1_build_12 ?_
    refine z_iload_n 1 dX1_build_15 rfl ?_
    refine cz_iald (v := σ (m + 2)) 300 m hA (by unfold cia; omega) rfl (by have h9 : csz 300 = 4 := rfl; omega) (cput_beds (by omega)) dX1_build_16 ?_
    refine z_bipush (v := 9) dX1_build_17 (by decide) ?_
    refine z_icmp_ne 24 dX1_build_19 (by decide) (fun c_5 => ?_) (fun c_5 => ?_)
    · -- ¬ σ (m + 2) = 9
      refine z_aload_n 0 dX1_build_24 rfl ?_
      refine z_X (X' := (cX g A K F O gl X)) (congrArg (fun z => cX g A z F O gl X) (c_at_one hst0 rfl).symm) ?_
      refine z_callV (As := []) (c_keeps hA hun hP h9 hst0) q1198 q1200 qs35 q112 q1201 nm_X1_keeps (cX_obj hA) rfl rfl rfl (Nat.le_of_ble_eq_true rfl) ⟨Nat.le_of_ble_eq_true rfl, Nat.le_of_ble_eq_true rfl⟩ dX1_build_25 rfl rfl (Nat.le_of_ble_eq_true rfl) (Nat.le_of_ble_eq_true rfl) (fun v_6 X_7 hp_8 => ?_)
      obtain ⟨rfl, A', K', O', sl', rfl, hA', hun', hP', hst0', hkp⟩ := hp_8
      refine z_st (st' := []) rfl ?_
      have e99 : A' 99 = A 99 := hkp.1.2.2.2 99 (by omega) (Or.inl (by omega))
      rw [← e99]
      refine z_X (X' := cX g A' (cput (zs K' 99 8 (K' 99 8)) 300 σ ds (nI (now % 12)) (nI (now / 12))) F O' gl X) (congrArg (fun z => cX g A' z F O' gl X) (c_at_one hst0' rfl)) ?_
      have hO' : O' 0 0 = some v := (congrFun (hkp.2.2.1 0 (by omega)) 0).trans hO
      exact c_build_t hA' hO' hV hv (d := m) (by omega) (Or.inl ⟨by subst e_d; rw [ncl (show m < 2 ^ 31 by omega)], by subst e_d; simp [c_4, c_5, ncl (show m < 2 ^ 31 by omega)], by subst e_d; rw [ncl (show m < 2 ^ 31 by omega)]; exact ⟨A', _, O', sl', F, rfl, hA', (c_top hun' hP' hkp).1, (c_top hun' hP' hkp).2.1, (c_top hun' hP' hkp).2.2.1, (c_top hun' hP' hkp).2.2.2⟩⟩)
    · -- σ (m + 2) = 9
      refine z_iconst (v := zm1) dX1_build_22 (by decide) ?_
      exact z_iret dX1_build_23 rfl (Nat.le_of_ble_eq_true rfl) (Nat.le_of_ble_eq_true rfl) (Or.inr ⟨rfl, by subst e_d; simp [c_4, c_5, ncl (show m < 2 ^ 31 by omega)], (congrArg (fun z => cX g A z F O gl X) (c_at_one hst0 rfl).symm)⟩)
set_option maxHeartbeats 4000000 in
theorem c_undo_1 {g : zG} {A : Nat → Nat} {K : Nat → Nat → Int32} {F : Nat → Int32} {O : Nat → Nat → Option Nat} {gl : Int64} {X : zX} (hA : cok g A X) {w : Nat} (hw : w < 16) (hu9 : K 99 10 = nI (w + 1)) {k : Nat} (hk : 2 ≤ k ∧ k < A 2) (hO9 : O 9 w = some (A (10 * k + 309))) : zN g m_X1_undo ({ frames := 2, cells := 0, slots := 0, locals := 43 } : Room) [.ref (A 99)] (cX g A K F O gl X) (fun rv X' => rv = some (.int 1) ∧ X' = (cX g A (s_be (zs K 99 10 (nI w)) (10 * k + 300) 300) F O gl X)) := by
  refine zN.of (by decide +kernel) (Nat.le_of_ble_eq_true rfl) rfl ?_
  refine z_lv (lv' := [(0, .ref (A 99))]) [0] rfl ?_
  have hA2 := hA.2.2.1
  refine z_aload_n 0 dX1_undo_0 rfl ?_
  refine cz_get (v := .int (nI (w + 1))) 10 hA (by decide) q337 (congrArg (fun z => some (Value.int z)) hu9) dX1_undo_1 ?_
  refine z_if_neN 9 (by omega) dX1_undo_4 (by decide) (fun c_1 => ?_) (fun c_1 => absurd c_1 ((by omega)))
  refine z_aload_n 0 dX1_undo_9 rfl ?_
  refine cz_get (v := .ref (A 309)) 4 hA (by decide) q331 rfl dX1_undo_10 ?_
  refine z_aload_n 0 dX1_undo_13 rfl ?_
  refine cz_get (v := .ref (A 9)) 9 hA (by decide) q336 rfl dX1_undo_14 ?_
  refine z_aload_n 0 dX1_undo_17 rfl ?_
  refine z_dup dX1_undo_18 rfl ?_
  refine cz_get (v := .int (nI (w + 1))) 10 hA (by decide) q337 (congrArg (fun z => some (Value.int z)) hu9) dX1_undo_19 ?_
  refine z_iconst (v := 1) dX1_undo_22 (by decide) ?_
  refine z_isubN (a := w + 1) (b := 1) (by omega) dX1_undo_23 ?_
  refine z_eq (y := nI (w)) (congrArg nI (by omega)) ?_
  refine z_dup_x1 dX1_undo_24 rfl rfl ?_
  refine cz_put (K' := (zs K 99 10 (nI (w)))) 10 hA (by decide) q337 rfl dX1_undo_25 ?_
  refine cz_aldU (v := .ref (A (10 * k + 309))) w hA rfl (by omega) (by rw [hO9]; rfl) dX1_undo_28 ?_
  refine z_callV (As := [.ref (A (10 * k + 309))]) (c_be_ (K := (zs K 99 10 (nI (w)))) (F := F) (O := O) (gl := gl) hA (s := 300) (o := 10 * k + 300) (cst_0 hA) ⟨by omega, by omega, by omega⟩ (by omega)) q1202 q1203 q1204 q118 q1205 nm_X4_be (cX_st hA (cst_0 hA)) rfl rfl rfl (Nat.le_of_ble_eq_true rfl) ⟨Nat.le_of_ble_eq_true rfl, Nat.le_of_ble_eq_true rfl⟩ dX1_undo_29 rfl rfl (Nat.le_of_ble_eq_true rfl) (Nat.le_of_ble_eq_true rfl) (fun v_2 X_3 hp_4 => ?_)
  obtain ⟨rfl, rfl⟩ := hp_4
  refine z_st (st' := []) rfl ?_
  refine z_iconst (v := 1) dX1_undo_32 (by decide) ?_
  exact z_zret dX1_undo_33 rfl (by first | rfl | decide | exact zb_nar _) (Nat.le_of_ble_eq_true rfl) (Nat.le_of_ble_eq_true rfl) ⟨rfl, rfl⟩
set_option maxHeartbeats 4000000 in
theorem c_undo_0 {g : zG} {A : Nat → Nat} {K : Nat → Nat → Int32} {F : Nat → Int32} {O : Nat → Nat → Option Nat} {gl : Int64} {X : zX} (hA : cok g A X) (hu9 : K 99 10 = nI 0) : zN g m_X1_undo ({ frames := 2, cells := 0, slots := 0, locals := 43 } : Room) [.ref (A 99)] (cX g A K F O gl X) (fun rv X' => rv = some (.int 0) ∧ X' = (cX g A K F O gl X)) := by
  refine zN.of (by decide +kernel) (Nat.le_of_ble_eq_true rfl) rfl ?_
  refine z_lv (lv' := [(0, .ref (A 99))]) [0] rfl ?_
  have hA2 := hA.2.2.1
  refine z_aload_n 0 dX1_undo_0 rfl ?_
  refine cz_get (v := .int 0) 10 hA (by decide) q337 (congrArg (fun z => some (Value.int z)) hu9) dX1_undo_1 ?_
  refine z_if_ne 9 dX1_undo_4 (by decide) (fun h_ => absurd h_ (by decide)) (fun h_ => ?_)
  refine z_iconst (v := 0) dX1_undo_7 (by decide) ?_
  exact z_zret dX1_undo_8 rfl (by first | rfl | decide | exact zb_nar _) (Nat.le_of_ble_eq_true rfl) (Nat.le_of_ble_eq_true rfl) ⟨rfl, rfl⟩
theorem c_undo {g : zG} {A : Nat → Nat} {K : Nat → Nat → Int32} {F : Nat → Int32} {O : Nat → Nat → Option Nat} {gl : Int64} {X : zX} (hA : cok g A X) {sl : Nat → Nat} {u : Nat} {ds : Nat → Int32} {ur : Nat → (Nat → Int32) × Nat} (hun : c_un A K O sl u ds ur) (hP : c_pool A K) (h9 : A 2 < 9000) {σ : Nat → Int32} {now : Nat} (hst0 : c_at K 0 σ ds (nI (now % 12)) (nI (now / 12))) : zN g m_X1_undo ({ frames := 2, cells := 0, slots := 0, locals := 43 } : Room) [.ref (A 99)] (cX g A K F O gl X) (fun rv X' => (u = 0 ∧ rv = some (.int 0) ∧ X' = cX g A K F O gl X) ∨ ∃ (w : Nat) (K' : Nat → Nat → Int32), u = w + 1 ∧ rv = some (.int 1) ∧ X' = cX g A K' F O gl X ∧ c_un A K' O sl w ds ur ∧ c_pool A K' ∧ c_at K' 0 (ur w).1 ds (nI ((ur w).2 % 12)) (nI ((ur w).2 / 12)) ∧ c_kp A K O sl A K' O sl) := by
  obtain ⟨a1, a2, a3, a4, a5⟩ := hun
  by_cases hu : u = 0
  · subst hu
    refine (c_undo_0 hA a2).post (fun v X' h => Or.inl ⟨rfl, h.1, h.2⟩)
  · obtain ⟨w, rfl⟩ : ∃ w, u = w + 1 := ⟨u - 1, by omega⟩
    obtain ⟨b1, b2⟩ := a5 w (by omega)
    have hk : 2 ≤ sl w ∧ sl w < A 2 ∧ O 9 w = some (A (10 * sl w + 309)) := by
      rcases a3 w (by omega) with h | h
      · exact absurd h.1 b1
      · exact h
    refine (c_undo_1 hA (by omega) a2 ⟨hk.1, hk.2.1⟩ hk.2.2).post (fun v X' h => Or.inr ?_)
    obtain ⟨rfl, rfl⟩ := h
    have e := c_at_be (c_at_zs (r := 99) (i := 10) (v := nI w) (by omega) b2) (c_at_zs (r := 99) (i := 10) (v := nI w) (by omega) hst0) (by omega)
    have e2 : s_be (zs K 99 10 (nI w)) (10 * sl w + 300) 300 = cput (zs K 99 10 (nI w)) 300 (ur w).1 ds (nI ((ur w).2 % 12)) (nI ((ur w).2 / 12)) := e
    refine ⟨w, _, rfl, rfl, by rw [e2], ⟨by omega, (congrFun (cput_a (by omega)) 10).trans zs_s, a3, a4, fun p hp => ?_⟩, c_pool_put (j := 0) (c_pool_zs hP (by omega)), c_at_put (k := 0), c_ext_rf, fun r i hr hi => ?_, fun _ _ => rfl, fun q hq1 hq2 hq => ⟨hq, fun r hr1 hr2 => ?_⟩⟩
    · obtain ⟨h5, h6⟩ := a5 p (by omega)
      have h7 : 2 ≤ sl p := by
        rcases a3 p (by omega) with h | h
        · exact absurd h.1 h5
        · exact h.1
      exact ⟨h5, c_at_cput (j := 0) (by omega) (c_at_zs (by omega) h6)⟩
    · have e1 : cput (zs K 99 10 (nI w)) 300 (ur w).1 ds (nI ((ur w).2 % 12)) (nI ((ur w).2 / 12)) r = zs K 99 10 (nI w) r := cput_a (by omega)
      rw [e1]
      exact if_neg (fun h => hi ⟨h.1, Or.inr h.2⟩)
    · rw [cput_a (by omega), zs_a (by omega)]
