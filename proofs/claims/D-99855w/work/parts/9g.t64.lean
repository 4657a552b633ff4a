/-! THE COMPONENT: kept apart. Printed by t64.py -/
set_option maxRecDepth 100000
theorem c_isApart {g : zG} {A : Nat → Nat} {K : Nat → Nat → Int32} {F : Nat → Int32} {O : Nat → Nat → Option Nat} {gl : Int64} {X : zX} (hA : cok g A X) {v : Nat} (hO : O 0 0 = some v) {vs : Nat → Int32} {nh nd : Nat} {own : Nat → Nat} {wv : Int32 → Int32 → Int32 → Int32 → Int32} (hV : s_ok vs nh nd own) (hv : cvl g X v vs nh nd wv) {σ ds τ es : Nat → Int32} {dt2 yr2 o : Int32} {now : Nat} (hnow : now < 2 ^ 28) (hiv : s_iv σ nd) {f : Nat → Int32} (m : Nat) (hm : m < 2 ^ 30) : zN g m_X1_isApart ({ frames := 9, cells := 0, slots := 0, locals := 210 } : Room) [.ref (A 99), .int 0, .int (nI m)] (cX g A (cput (cput (zs (s_ra K f) 99 8 o) 300 σ ds (nI (now % 12)) (nI (now / 12))) 310 τ es dt2 yr2) F O gl X) (fun rv X' => rv = some (.int (zb (s_apt vs m nd nd (fun _ => 0)))) ∧ ∃ f' : Nat → Int32, X' = (cX g A (cput (cput (zs (s_ra K f') 99 8 o) 300 σ ds (nI (now % 12)) (nI (now / 12))) 310 τ es dt2 yr2) F O gl X) ∧ ∀ o, o < 0 → f' o = (fun _ => (0 : Int32)) o) := by
  have hnd := hV.2.2.2.1
  rcases (by omega : nd = 0 ∨ nd = 1 ∨ nd = 2 ∨ nd = 3 ∨ nd = 4 ∨ nd = 5 ∨ nd = 6) with rfl | rfl | rfl | rfl | rfl | rfl | rfl
  · exact zN.room (R := ({ frames := 2, cells := 0, slots := 0, locals := 40 } : Room)) (by decide) rfl rfl (by decide) (c_isApart_0 hA hO hV hv hnow hiv 0 (by decide) m hm (ap := fun _ => 0) (fun o ho => absurd ho (Nat.not_lt_zero o)))
  · exact zN.room (R := ({ frames := 4, cells := 0, slots := 0, locals := 85 } : Room)) (by decide) rfl rfl (by decide) (c_isApart_1 hA hO hV hv hnow hiv 0 (by decide) m hm (ap := fun _ => 0) (fun o ho => absurd ho (Nat.not_lt_zero o)))
  · exact zN.room (R := ({ frames := 5, cells := 0, slots := 0, locals := 110 } : Room)) (by decide) rfl rfl (by decide) (c_isApart_2 hA hO hV hv hnow hiv 0 (by decide) m hm (ap := fun _ => 0) (fun o ho => absurd ho (Nat.not_lt_zero o)))
  · exact zN.room (R := ({ frames := 6, cells := 0, slots := 0, locals := 135 } : Room)) (by decide) rfl rfl (by decide) (c_isApart_3 hA hO hV hv hnow hiv 0 (by decide) m hm (ap := fun _ => 0) (fun o ho => absurd ho (Nat.not_lt_zero o)))
  · exact zN.room (R := ({ frames := 7, cells := 0, slots := 0, locals := 160 } : Room)) (by decide) rfl rfl (by decide) (c_isApart_4 hA hO hV hv hnow hiv 0 (by decide) m hm (ap := fun _ => 0) (fun o ho => absurd ho (Nat.not_lt_zero o)))
  · exact zN.room (R := ({ frames := 8, cells := 0, slots := 0, locals := 185 } : Room)) (by decide) rfl rfl (by decide) (c_isApart_5 hA hO hV hv hnow hiv 0 (by decide) m hm (ap := fun _ => 0) (fun o ho => absurd ho (Nat.not_lt_zero o)))
  · exact zN.room (R := ({ frames := 9, cells := 0, slots := 0, locals := 210 } : Room)) (by decide) rfl rfl (by decide) (c_isApart_6 hA hO hV hv hnow hiv 0 (by decide) m hm (ap := fun _ => 0) (fun o ho => absurd ho (Nat.not_lt_zero o)))
set_option maxHeartbeats 4000000 in
theorem c_apart {g : zG} {A : Nat → Nat} {K : Nat → Nat → Int32} {F : Nat → Int32} {O : Nat → Nat → Option Nat} {gl : Int64} {X : zX} (hA : cok g A X) {v : Nat} (hO : O 0 0 = some v) {vs : Nat → Int32} {nh nd : Nat} {own : Nat → Nat} {wv : Int32 → Int32 → Int32 → Int32 → Int32} (hV : s_ok vs nh nd own) (hv : cvl g X v vs nh nd wv) {σ ds τ es : Nat → Int32} {dt2 yr2 o : Int32} {now : Nat} (hnow : now < 2 ^ 28) (hiv : s_iv σ nd)  : zN g m_X1_apart ({ frames := 10, cells := 0, slots := 0, locals := 235 } : Room) [.ref (A 99)] (cX g A (cput (cput (zs K 99 8 o) 300 σ ds (nI (now % 12)) (nI (now / 12))) 310 τ es dt2 yr2) F O gl X) (fun rv X' => rv = some (.int (s_apart vs nd)) ∧ ∃ f' : Nat → Int32, X' = (cX g A (cput (cput (zs (s_ra K f') 99 8 o) 300 σ ds (nI (now % 12)) (nI (now / 12))) 310 τ es dt2 yr2) F O gl X)) := by
  refine zN.of (by decide +kernel) (Nat.le_of_ble_eq_true rfl) rfl ?_
  refine z_lv (lv' := [(0, .ref (A 99))]) [0] rfl ?_
  have hA2 := hA.2.2.1
  have hV9 := hV
  have hv9 := hv
  obtain ⟨h0, hnh, h1, hnd, hown⟩ := hV9
  obtain ⟨lh, lg, fh, fg, st9, fa, hxv, ⟨mh, eh, ch, hlh, heh, hch1, hch2⟩, ⟨mg, eg, cg, hlg, heg, hcg1, hcg2⟩, hhs, hgs, hst9, hfa⟩ := hv9
  refine z_X (X' := (cX g A (cput (cput (zs (s_ra K (K 14)) 99 8 o) 300 σ ds (nI (now % 12)) (nI (now / 12))) 310 τ es dt2 yr2) F O gl X)) (by rw [s_ra_self]) ?_
  refine z_iconst (v := 0) dX1_apart_0 (by decide) ?_
  refine z_istore_n (lv' := [(1, .int 0), (0, .ref (A 99))]) dX1_apart_1 rfl (by decide) rfl ?_
  have loop_5 : ∀ (q_2 i_1 : Nat), i_1 + q_2 = nd → 0 ≤ i_1 → ∀ (r_6 : Nat → Int32), s_fst (fun n => s_apt vs n nd nd (fun _ => 0)) nI (nd + 1) 0 = s_fst (fun n => s_apt vs n nd nd (fun _ => 0)) nI (q_2 + 1) i_1 → zZ g m_X1_apart (fun rv X' => rv = some (.int (s_apart vs nd)) ∧ ∃ f' : Nat → Int32, X' = (cX g A (cput (cput (zs (s_ra K f') 99 8 o) 300 σ ds (nI (now % 12)) (nI (now / 12))) 310 τ es dt2 yr2) F O gl X), zno, ({ frames := 10, cells := 0, slots := 0, locals := 235 } : Room)) 0 0 (cX g A (cput (cput (zs (s_ra K r_6) 99 8 o) 300 σ ds (nI (now % 12)) (nI (now / 12))) 310 τ es dt2 yr2) F O gl X) 2 [(0, .ref (A 99)), (1, .int (nI (i_1)))] [] := by
    intro q_2
    induction q_2 with
    | zero =>
      intro i_1 hb_4 lo_8 r_6 hi_7
      obtain rfl : nd = i_1 := by omega
      refine z_aload_n 0 dX1_apart_2 rfl ?_
      refine z_iconst (v := 0) dX1_apart_3 (by decide) ?_
      refine z_iload_n 1 dX1_apart_4 rfl ?_
      refine z_callV (As := [.int 0, .int (nI (nd))]) (c_isApart (K := K) (f := r_6) (F := F) (gl := gl) (σ := σ) (ds := ds) (τ := τ) (es := es) (dt2 := dt2) (yr2 := yr2) (o := o) hA hO hV hv hnow hiv nd (by omega)) q1378 q1380 qs44 q112 q1381 nm_X1_isApart (cX_obj hA) rfl rfl rfl (Nat.le_of_ble_eq_true rfl) ⟨Nat.le_of_ble_eq_true rfl, Nat.le_of_ble_eq_true rfl⟩ dX1_apart_5 rfl rfl (Nat.le_of_ble_eq_true rfl) (Nat.le_of_ble_eq_true rfl) (fun v_10 X_11 hp_12 => ?_)
      obtain ⟨rfl, r_9, rfl, -⟩ := hp_12
      refine z_st (st' := [.int (zb (s_apt vs nd nd nd (fun _ => 0)))]) rfl ?_
      refine z_if_neb 17 dX1_apart_8 (by decide) (fun c_13 => ?_) (fun c_13 => absurd c_13 ((fun h9 => absurd (h9.symm.trans (s_apt_all (by omega) nd _ (Nat.le_refl _) (fun o ho => absurd ho (by omega)))) (by decide))))
      refine z_iload_n 1 dX1_apart_17 rfl ?_
      exact z_iret dX1_apart_18 rfl (Nat.le_of_ble_eq_true rfl) (Nat.le_of_ble_eq_true rfl) ⟨congrArg some (congrArg Value.int (hi_7.trans (s_fst_t c_13)).symm), r_9, rfl⟩
    | succ q_2 ih_3 =>
      intro i_1 hb_4 lo_8 r_6 hi_7
      refine z_aload_n 0 dX1_apart_2 rfl ?_
      refine z_iconst (v := 0) dX1_apart_3 (by decide) ?_
      refine z_iload_n 1 dX1_apart_4 rfl ?_
      refine z_callV (As := [.int 0, .int (nI (i_1))]) (c_isApart (K := K) (f := r_6) (F := F) (gl := gl) (σ := σ) (ds := ds) (τ := τ) (es := es) (dt2 := dt2) (yr2 := yr2) (o := o) hA hO hV hv hnow hiv i_1 (by omega)) q1378 q1380 qs44 q112 q1381 nm_X1_isApart (cX_obj hA) rfl rfl rfl (Nat.le_of_ble_eq_true rfl) ⟨Nat.le_of_ble_eq_true rfl, Nat.le_of_ble_eq_true rfl⟩ dX1_apart_5 rfl rfl (Nat.le_of_ble_eq_true rfl) (Nat.le_of_ble_eq_true rfl) (fun v_15 X_16 hp_17 => ?_)
      obtain ⟨rfl, r_14, rfl, -⟩ := hp_17
      refine z_st (st' := [.int (zb (s_apt vs i_1 nd nd (fun _ => 0)))]) rfl ?_
      refine z_if_neb 17 dX1_apart_8 (by decide) (fun c_18 => ?_) (fun c_18 => ?_)
      · -- s_apt vs i_1 nd nd (fun _ => 0) = true
        refine z_iload_n 1 dX1_apart_17 rfl ?_
        exact z_iret dX1_apart_18 rfl (Nat.le_of_ble_eq_true rfl) (Nat.le_of_ble_eq_true rfl) ⟨congrArg some (congrArg Value.int (hi_7.trans (s_fst_t c_18)).symm), r_14, rfl⟩
      · -- s_apt vs i_1 nd nd (fun _ => 0) = false
        refine z_iinc (v := nI (i_1 + 1)) (lv' := [(1, .int (nI (i_1 + 1))), (0, .ref (A 99))]) 1 dX1_apart_11 rfl (nI_1 _) (by decide) rfl ?_
        refine z_goto 2 dX1_apart_14 (by decide) ?_
        refine z_lv (lv' := [(0, .ref (A 99)), (1, .int (nI (i_1 + 1)))]) [1, 0] rfl ?_
        exact ih_3 (i_1 + 1) (by omega) (by omega) _ (hi_7.trans (s_fst_f c_18))
  refine z_lv (lv' := [(0, .ref (A 99)), (1, .int 0)]) [1, 0] rfl ?_
  exact loop_5 (nd - 0) 0 (by omega) (Nat.le_refl _) _ rfl
