/-! THE COMPONENT: sums, counts. Printed by t67.py -/
set_option maxRecDepth 100000
theorem s_sum_congr {f h : Nat → Int32} : ∀ n, (∀ k, k < n → f k = h k) → s_sum f n = s_sum h n
  | 0, _ => rfl
  | n + 1, e => by
    show s_sum f n + f n = s_sum h n + h n
    rw [s_sum_congr n (fun k hk => e k (by omega)), e n (by omega)]
set_option maxHeartbeats 4000000 in
theorem c_sum {g : zG} {A : Nat → Nat} {K : Nat → Nat → Int32} {F : Nat → Int32} {O : Nat → Nat → Option Nat} {gl : Int64} {X : zX} (hA : cok g A X) {i n : Nat} (hci : cia A i) (hn : csz i = n) : zN g m_X1_sum ({ frames := 0, cells := 0, slots := 0, locals := 0 } : Room) [.ref (A i)] (cX g A K F O gl X) (fun rv X' => rv = some (.int (s_sum (K i) n)) ∧ X' = (cX g A K F O gl X)) := by
  refine zN.of (by decide +kernel) (Nat.le_of_ble_eq_true rfl) rfl ?_
  refine z_lv (lv' := [(0, .ref (A i))]) [0] rfl ?_
  have hA2 := hA.2.2.1
  have hn9 := csz_lt i
  refine z_iconst (v := 0) dX1_sum_0 (by decide) ?_
  refine z_istore_n (lv' := [(1, .int 0), (0, .ref (A i))]) dX1_sum_1 rfl (by decide) rfl ?_
  refine z_iconst (v := 0) dX1_sum_2 (by decide) ?_
  refine z_istore_n (lv' := [(2, .int 0), (1, .int 0), (0, .ref (A i))]) dX1_sum_3 rfl (by decide) rfl ?_
  have loop_5 : ∀ (q_2 i_1 : Nat), i_1 + q_2 = n → 0 ≤ i_1 → zZ g m_X1_sum (fun rv X' => rv = some (.int (s_sum (K i) n)) ∧ X' = (cX g A K F O gl X), zno, ({ frames := 0, cells := 0, slots := 0, locals := 0 } : Room)) 0 0 (cX g A K F O gl X) 4 [(0, .ref (A i)), (1, .int (s_sum (K i) i_1)), (2, .int (nI (i_1)))] [] := by
    intro q_2
    induction q_2 with
    | zero =>
      intro i_1 hb_4 lo_6  
      obtain rfl : n = i_1 := by omega
      refine z_iload_n 2 dX1_sum_4 rfl ?_
      refine z_aload_n 0 dX1_sum_5 rfl ?_
      refine z_alen (sz := csz i) (ti := 0) (cX_i hA hci) rfl dX1_sum_6 ?_
      refine z_eq (y := nI n) (congrArg nI hn) ?_
      refine z_icmp_geN (a := n) (b := n) 22 (by omega) (by omega) dX1_sum_7 (by decide) (fun c_7 => ?_) (fun c_7 => absurd c_7 (by omega))
      refine z_iload_n 1 dX1_sum_22 rfl ?_
      exact z_iret dX1_sum_23 rfl (Nat.le_of_ble_eq_true rfl) (Nat.le_of_ble_eq_true rfl) ⟨rfl, rfl⟩
    | succ q_2 ih_3 =>
      intro i_1 hb_4 lo_6  
      refine z_iload_n 2 dX1_sum_4 rfl ?_
      refine z_aload_n 0 dX1_sum_5 rfl ?_
      refine z_alen (sz := csz i) (ti := 0) (cX_i hA hci) rfl dX1_sum_6 ?_
      refine z_eq (y := nI n) (congrArg nI hn) ?_
      refine z_icmp_geN (a := i_1) (b := n) 22 (by omega) (by omega) dX1_sum_7 (by decide) (fun c_8 => absurd c_8 (by omega)) (fun c_8 => ?_)
      refine z_iload_n 1 dX1_sum_10 rfl ?_
      refine z_aload_n 0 dX1_sum_11 rfl ?_
      refine z_iload_n 2 dX1_sum_12 rfl ?_
      refine cz_iald (v := K i i_1) i i_1 hA hci rfl (by omega) rfl dX1_sum_13 ?_
      refine z_iadd dX1_sum_14 ?_
      obtain ⟨x_9, ex_9⟩ : ∃ y : Int32, ((s_sum (K i) i_1) + (K i i_1)) = y := ⟨_, rfl⟩
      refine z_eq ex_9 ?_
      refine z_istore_n (lv' := [(1, .int x_9), (0, .ref (A i)), (2, .int (nI (i_1)))]) dX1_sum_15 rfl (by decide) rfl ?_
      refine z_iinc (v := nI (i_1 + 1)) (lv' := [(2, .int (nI (i_1 + 1))), (1, .int x_9), (0, .ref (A i))]) 2 dX1_sum_16 rfl (nI_1 _) (by decide) rfl ?_
      refine z_goto 4 dX1_sum_19 (by decide) ?_
      have f_10 : x_9 = s_sum (K i) (i_1 + 1) := by (try subst ex_9); rfl
      subst f_10
      refine z_lv (lv' := [(0, .ref (A i)), (1, .int (s_sum (K i) (i_1 + 1))), (2, .int (nI (i_1 + 1)))]) [2, 1, 0] rfl ?_
      exact ih_3 (i_1 + 1) (by omega) (by omega)  
  have f_11 : 0 = s_sum (K i) 0 := by rfl
  refine z_lv (lv' := [(0, .ref (A i)), (1, .int (s_sum (K i) 0)), (2, .int 0)]) [2, 1, 0] (by rw [← f_11]; rfl) ?_
  exact loop_5 (n - 0) 0 (by omega) (Nat.le_refl _)  
set_option maxHeartbeats 4000000 in
theorem c_faded {g : zG} {A : Nat → Nat} {K : Nat → Nat → Int32} {F : Nat → Int32} {O : Nat → Nat → Option Nat} {gl : Int64} {X : zX} (hA : cok g A X) {v : Nat} (hO : O 0 0 = some v) {vs : Nat → Int32} {nh nd : Nat} {own : Nat → Nat} {wv : Int32 → Int32 → Int32 → Int32 → Int32} (hV : s_ok vs nh nd own) (hv : cvl g X v vs nh nd wv) {σ ds τ es : Nat → Int32} {dt2 yr2 o : Int32} {now : Nat} (hnow : now < 2 ^ 28) (hiv : s_iv σ nd)  : zN g m_X1_faded ({ frames := 2, cells := 0, slots := 0, locals := 40 } : Room) [.ref (A 99)] (cX g A (cput (cput (zs K 99 8 o) 300 σ ds (nI (now % 12)) (nI (now / 12))) 310 τ es dt2 yr2) F O gl X) (fun rv X' => rv = some (.int (s_set (fun d => decide (σ (d + 18) = 0)) nd)) ∧ X' = (cX g A (cput (cput (zs K 99 8 o) 300 σ ds (nI (now % 12)) (nI (now / 12))) 310 τ es dt2 yr2) F O gl X)) := by
  refine zN.of (by decide +kernel) (Nat.le_of_ble_eq_true rfl) rfl ?_
  refine z_lv (lv' := [(0, .ref (A 99))]) [0] rfl ?_
  have hA2 := hA.2.2.1
  have hV9 := hV
  have hv9 := hv
  obtain ⟨h0, hnh, h1, hnd, hown⟩ := hV9
  obtain ⟨lh, lg, fh, fg, st9, fa, hxv, ⟨mh, eh, ch, hlh, heh, hch1, hch2⟩, ⟨mg, eg, cg, hlg, heg, hcg1, hcg2⟩, hhs, hgs, hst9, hfa⟩ := hv9
  refine z_iconst (v := 0) dX1_faded_0 (by decide) ?_
  refine z_istore_n (lv' := [(1, .int 0), (0, .ref (A 99))]) dX1_faded_1 rfl (by decide) rfl ?_
  refine z_iconst (v := 0) dX1_faded_2 (by decide) ?_
  refine z_istore_n (lv' := [(2, .int 0), (1, .int 0), (0, .ref (A 99))]) dX1_faded_3 rfl (by decide) rfl ?_
  have loop_5 : ∀ (q_2 i_1 : Nat), i_1 + q_2 = nd → 0 ≤ i_1 → zZ g m_X1_faded (fun rv X' => rv = some (.int (s_set (fun d => decide (σ (d + 18) = 0)) nd)) ∧ X' = (cX g A (cput (cput (zs K 99 8 o) 300 σ ds (nI (now % 12)) (nI (now / 12))) 310 τ es dt2 yr2) F O gl X), zno, ({ frames := 2, cells := 0, slots := 0, locals := 40 } : Room)) 0 0 (cX g A (cput (cput (zs K 99 8 o) 300 σ ds (nI (now % 12)) (nI (now / 12))) 310 τ es dt2 yr2) F O gl X) 4 [(0, .ref (A 99)), (1, .int (s_set (fun d => decide (σ (d + 18) = 0)) i_1)), (2, .int (nI (i_1)))] [] := by
    intro q_2
    induction q_2 with
    | zero =>
      intro i_1 hb_4 lo_6  
      obtain rfl : nd = i_1 := by omega
      refine z_iload_n 2 dX1_faded_4 rfl ?_
      refine z_aload_n 0 dX1_faded_5 rfl ?_
      refine z_callV (As := []) (c_guests (K := (cput (cput (zs K 99 8 o) 300 σ ds (nI (now % 12)) (nI (now / 12))) 310 τ es dt2 yr2)) (F := F) (gl := gl) hA hO hxv hlh heh hch1 hch2 hlg heg hcg1 hcg2) q1139 q1141 qs30 q112 q1142 nm_X1_guests (cX_obj hA) rfl rfl rfl (Nat.le_of_ble_eq_true rfl) ⟨Nat.le_of_ble_eq_true rfl, Nat.le_of_ble_eq_true rfl⟩ dX1_faded_6 rfl rfl (Nat.le_of_ble_eq_true rfl) (Nat.le_of_ble_eq_true rfl) (fun v_7 X_8 hp_9 => ?_)
      obtain ⟨rfl, rfl⟩ := hp_9
      refine z_st (st' := [.int (nI (nd)), .int (nI (nd))]) rfl ?_
      refine z_icmp_geN (a := nd) (b := nd) 36 (by omega) (by omega) dX1_faded_9 (by decide) (fun c_10 => ?_) (fun c_10 => absurd c_10 (by omega))
      refine z_iload_n 1 dX1_faded_36 rfl ?_
      exact z_iret dX1_faded_37 rfl (Nat.le_of_ble_eq_true rfl) (Nat.le_of_ble_eq_true rfl) ⟨congrArg some (congrArg Value.int (by first | rfl | (simp [s_set, s_bit, hb_4, c_10]; done) | (skip; simp [s_set, s_bit, hb_4, c_10]))), rfl⟩
    | succ q_2 ih_3 =>
      intro i_1 hb_4 lo_6  
      refine z_iload_n 2 dX1_faded_4 rfl ?_
      refine z_aload_n 0 dX1_faded_5 rfl ?_
      refine z_callV (As := []) (c_guests (K := (cput (cput (zs K 99 8 o) 300 σ ds (nI (now % 12)) (nI (now / 12))) 310 τ es dt2 yr2)) (F := F) (gl := gl) hA hO hxv hlh heh hch1 hch2 hlg heg hcg1 hcg2) q1139 q1141 qs30 q112 q1142 nm_X1_guests (cX_obj hA) rfl rfl rfl (Nat.le_of_ble_eq_true rfl) ⟨Nat.le_of_ble_eq_true rfl, Nat.le_of_ble_eq_true rfl⟩ dX1_faded_6 rfl rfl (Nat.le_of_ble_eq_true rfl) (Nat.le_of_ble_eq_true rfl) (fun v_11 X_12 hp_13 => ?_)
      obtain ⟨rfl, rfl⟩ := hp_13
      refine z_st (st' := [.int (nI (nd)), .int (nI (i_1))]) rfl ?_
      refine z_icmp_geN (a := i_1) (b := nd) 36 (by omega) (by omega) dX1_faded_9 (by decide) (fun c_14 => absurd c_14 (by omega)) (fun c_14 => ?_)
      refine z_aload_n 0 dX1_faded_12 rfl ?_
      refine cz_get (v := .ref (A 309)) 4 hA (by decide) q331 rfl dX1_faded_13 ?_
      refine cz_getSN (s := 300) (v := .ref (A 301)) 1 hA (cst_0 hA) (by decide) q261 rfl dX1_faded_16 ?_
      refine z_iload_n 2 dX1_faded_19 rfl ?_
      refine cz_iald (v := σ (i_1 + 18)) 301 i_1 hA (by unfold cia; omega) rfl (by have h9 : csz 301 = 6 := rfl; omega) (by rw [cput_a (by omega), cput_says (by omega)]) dX1_faded_20 ?_
      refine z_if_ne 30 dX1_faded_21 (by decide) (fun c_15 => ?_) (fun c_15 => ?_)
      · -- ¬ σ (i_1 + 18) = 0
        refine z_iinc (v := nI (i_1 + 1)) (lv' := [(2, .int (nI (i_1 + 1))), (0, .ref (A 99)), (1, .int (s_set (fun d => decide (σ (d + 18) = 0)) i_1))]) 2 dX1_faded_30 rfl (nI_1 _) (by decide) rfl ?_
        refine z_goto 4 dX1_faded_33 (by decide) ?_
        have f_16 : s_set (fun d => decide (σ (d + 18) = 0)) i_1 = s_set (fun d => decide (σ (d + 18) = 0)) (i_1 + 1) := by first | rfl | omega | (simp [s_set, s_bit, hb_4, c_14, c_15]; done) | (skip; simp [s_set, s_bit, hb_4, c_14, c_15])
        refine z_lv (lv' := [(0, .ref (A 99)), (1, .int (s_set (fun d => decide (σ (d + 18) = 0)) (i_1 + 1))), (2, .int (nI (i_1 + 1)))]) [1, 2, 0] (by rw [← f_16]; rfl) ?_
        exact ih_3 (i_1 + 1) (by omega) (by omega)  
      · -- σ (i_1 + 18) = 0
        refine z_iload_n 1 dX1_faded_24 rfl ?_
        refine z_iconst (v := 1) dX1_faded_25 (by decide) ?_
        refine z_iload_n 2 dX1_faded_26 rfl ?_
        refine z_ishl dX1_faded_27 ?_
        refine z_ior dX1_faded_28 ?_
        obtain ⟨x_17, ex_17⟩ : ∃ y : Int32, ((s_set (fun d => decide (σ (d + 18) = 0)) i_1) ||| (1 <<< ((nI (i_1)) &&& 31))) = y := ⟨_, rfl⟩
        refine z_eq ex_17 ?_
        refine z_istore_n (lv' := [(1, .int x_17), (0, .ref (A 99)), (2, .int (nI (i_1)))]) dX1_faded_29 rfl (by decide) rfl ?_
        refine z_iinc (v := nI (i_1 + 1)) (lv' := [(2, .int (nI (i_1 + 1))), (1, .int x_17), (0, .ref (A 99))]) 2 dX1_faded_30 rfl (nI_1 _) (by decide) rfl ?_
        refine z_goto 4 dX1_faded_33 (by decide) ?_
        have f_18 : x_17 = s_set (fun d => decide (σ (d + 18) = 0)) (i_1 + 1) := by first | rfl | omega | (simp [s_set, s_bit, hb_4, c_14, c_15]; done) | ((try subst ex_17); simp [s_set, s_bit, hb_4, c_14, c_15])
        subst f_18
        refine z_lv (lv' := [(0, .ref (A 99)), (1, .int (s_set (fun d => decide (σ (d + 18) = 0)) (i_1 + 1))), (2, .int (nI (i_1 + 1)))]) [2, 1, 0] rfl ?_
        exact ih_3 (i_1 + 1) (by omega) (by omega)  
  have f_19 : 0 = s_set (fun d => decide (σ (d + 18) = 0)) 0 := by first | rfl | omega | (simp [s_set, s_bit]; done) | (skip; simp [s_set, s_bit])
  refine z_lv (lv' := [(0, .ref (A 99)), (1, .int (s_set (fun d => decide (σ (d + 18) = 0)) 0)), (2, .int 0)]) [2, 1, 0] (by rw [← f_19]; rfl) ?_
  exact loop_5 (nd - 0) 0 (by omega) (Nat.le_refl _)  
set_option maxHeartbeats 4000000 in
theorem c_count {g : zG} {A : Nat → Nat} {K : Nat → Nat → Int32} {F : Nat → Int32} {O : Nat → Nat → Option Nat} {gl : Int64} {X : zX} (hA : cok g A X) {v : Nat} (hO : O 0 0 = some v) {vs : Nat → Int32} {nh nd : Nat} {own : Nat → Nat} {wv : Int32 → Int32 → Int32 → Int32 → Int32} (hV : s_ok vs nh nd own) (hv : cvl g X v vs nh nd wv) {σ ds τ es : Nat → Int32} {dt2 yr2 o : Int32} {now : Nat} (hnow : now < 2 ^ 28) (hiv : s_iv σ nd) {ln el nl : Nat} {ml : Int32} (hln : O 0 1 = some ln) (hlno : X ln = some (.inr (23, [.int ml, .ref el, .int (nI nl)]))) (hz4 : ∀ h, nh ≤ h → h < 4 → σ (h + 2) = 0) (w : Int32) : zN g m_X1_count ({ frames := 3, cells := 0, slots := 0, locals := 62 } : Room) [.ref (A 99), .int w] (cX g A (cput (cput (zs K 99 8 o) 300 σ ds (nI (now % 12)) (nI (now / 12))) 310 τ es dt2 yr2) F O gl X) (fun rv X' => rv = some (.int (if w = 0 then nI nh else if w = 1 then nI nd else if w = 2 then vs 2 else if w = 3 then nI (now / 12) else if w = 4 then nI (now % 12) else if w = 5 then s_some σ nd else if w = 6 then s_sum (fun h => σ (h + 2)) nh else if w = 7 then σ 1 else if w = 8 then s_set (fun d => decide (σ (d + 18) = 0)) nd else if w = 9 then nI nl else if w = 10 then K 99 17 else if w = 11 then K 99 10 else if w = 12 then K 99 7 else zm1)) ∧ X' = (cX g A (cput (cput (zs K 99 8 o) 300 σ ds (nI (now % 12)) (nI (now / 12))) 310 τ es dt2 yr2) F O gl X)) := by
  refine zN.of (by decide +kernel) (Nat.le_of_ble_eq_true rfl) rfl ?_
  refine z_lv (lv' := [(0, .ref (A 99)), (1, .int w)]) [0, 1] rfl ?_
  have hA2 := hA.2.2.1
  have hV9 := hV
  have hv9 := hv
  obtain ⟨h0, hnh, h1, hnd, hown⟩ := hV9
  obtain ⟨lh, lg, fh, fg, st9, fa, hxv, ⟨mh, eh, ch, hlh, heh, hch1, hch2⟩, ⟨mg, eg, cg, hlg, heg, hcg1, hcg2⟩, hhs, hgs, hst9, hfa⟩ := hv9
  refine z_iload_n 1 dX1_count_0 rfl ?_
  by_cases c_1 : w = 0
  · refine z_tableIn (off := 67) 68 dX1_count_1 (by rw [c_1]; decide) (by rw [c_1]; decide) (by rw [c_1]; rfl) (by decide) ?_
    refine z_aload_n 0 dX1_count_68 rfl ?_
    refine z_callV (As := []) (c_houses (K := (cput (cput (zs K 99 8 o) 300 σ ds (nI (now % 12)) (nI (now / 12))) 310 τ es dt2 yr2)) (F := F) (gl := gl) hA hO hxv hlh heh hch1 hch2 hlg heg hcg1 hcg2) q1127 q1129 qs28 q112 q1130 nm_X1_houses (cX_obj hA) rfl rfl rfl (Nat.le_of_ble_eq_true rfl) ⟨Nat.le_of_ble_eq_true rfl, Nat.le_of_ble_eq_true rfl⟩ dX1_count_69 rfl rfl (Nat.le_of_ble_eq_true rfl) (Nat.le_of_ble_eq_true rfl) (fun v_2 X_3 hp_4 => ?_)
    obtain ⟨rfl, rfl⟩ := hp_4
    refine z_st (st' := [.int (nI (nh))]) rfl ?_
    exact z_iret dX1_count_72 rfl (Nat.le_of_ble_eq_true rfl) (Nat.le_of_ble_eq_true rfl) ⟨congrArg some (congrArg Value.int (by rw [if_pos c_1])), rfl⟩
  by_cases c_5 : w = 1
  · refine z_tableIn (off := 72) 73 dX1_count_1 (by rw [c_5]; decide) (by rw [c_5]; decide) (by rw [c_5]; rfl) (by decide) ?_
    refine z_aload_n 0 dX1_count_73 rfl ?_
    refine z_callV (As := []) (c_guests (K := (cput (cput (zs K 99 8 o) 300 σ ds (nI (now % 12)) (nI (now / 12))) 310 τ es dt2 yr2)) (F := F) (gl := gl) hA hO hxv hlh heh hch1 hch2 hlg heg hcg1 hcg2) q1139 q1141 qs30 q112 q1142 nm_X1_guests (cX_obj hA) rfl rfl rfl (Nat.le_of_ble_eq_true rfl) ⟨Nat.le_of_ble_eq_true rfl, Nat.le_of_ble_eq_true rfl⟩ dX1_count_74 rfl rfl (Nat.le_of_ble_eq_true rfl) (Nat.le_of_ble_eq_true rfl) (fun v_6 X_7 hp_8 => ?_)
    obtain ⟨rfl, rfl⟩ := hp_8
    refine z_st (st' := [.int (nI (nd))]) rfl ?_
    exact z_iret dX1_count_77 rfl (Nat.le_of_ble_eq_true rfl) (Nat.le_of_ble_eq_true rfl) ⟨congrArg some (congrArg Value.int (by rw [if_neg c_1]; rw [if_pos c_5])), rfl⟩
  by_cases c_9 : w = 2
  · refine z_tableIn (off := 77) 78 dX1_count_1 (by rw [c_9]; decide) (by rw [c_9]; decide) (by rw [c_9]; rfl) (by decide) ?_
    refine z_aload_n 0 dX1_count_78 rfl ?_
    refine cz_get (v := .ref v) 2 hA (by decide) q329 (by show some (va_rf (O 0 0)) = _; rw [hO]; rfl) dX1_count_79 ?_
    refine z_callV (As := []) (c_stays (K := (cput (cput (zs K 99 8 o) 300 σ ds (nI (now % 12)) (nI (now / 12))) 310 τ es dt2 yr2)) (F := F) (gl := gl) (O := O) hA hxv hst9) q1213 q1214 q1215 q114 q1216 nm_X3_stays (cX_lo hA hxv) rfl rfl rfl (Nat.le_of_ble_eq_true rfl) ⟨Nat.le_of_ble_eq_true rfl, Nat.le_of_ble_eq_true rfl⟩ dX1_count_82 rfl rfl (Nat.le_of_ble_eq_true rfl) (Nat.le_of_ble_eq_true rfl) (fun v_10 X_11 hp_12 => ?_)
    obtain ⟨rfl, rfl⟩ := hp_12
    refine z_st (st' := [.int (vs 2)]) rfl ?_
    exact z_iret dX1_count_85 rfl (Nat.le_of_ble_eq_true rfl) (Nat.le_of_ble_eq_true rfl) ⟨congrArg some (congrArg Value.int (by rw [if_neg c_1]; rw [if_neg c_5]; rw [if_pos c_9])), rfl⟩
  by_cases c_13 : w = 3
  · refine z_tableIn (off := 85) 86 dX1_count_1 (by rw [c_13]; decide) (by rw [c_13]; decide) (by rw [c_13]; rfl) (by decide) ?_
    refine z_aload_n 0 dX1_count_86 rfl ?_
    refine cz_get (v := .ref (A 309)) 4 hA (by decide) q331 rfl dX1_count_87 ?_
    refine cz_getSN (s := 300) (v := .int (nI ((now / 12)))) 7 hA (cst_0 hA) (by decide) q275 (congrArg (fun z => some (Value.int z)) (((congrFun (cput_a (by omega)) _).trans (cput_f (q := 7))))) dX1_count_90 ?_
    exact z_iret dX1_count_93 rfl (Nat.le_of_ble_eq_true rfl) (Nat.le_of_ble_eq_true rfl) ⟨congrArg some (congrArg Value.int (by rw [if_neg c_1]; rw [if_neg c_5]; rw [if_neg c_9]; rw [if_pos c_13])), rfl⟩
  by_cases c_14 : w = 4
  · refine z_tableIn (off := 93) 94 dX1_count_1 (by rw [c_14]; decide) (by rw [c_14]; decide) (by rw [c_14]; rfl) (by decide) ?_
    refine z_aload_n 0 dX1_count_94 rfl ?_
    refine cz_get (v := .ref (A 309)) 4 hA (by decide) q331 rfl dX1_count_95 ?_
    refine cz_getSN (s := 300) (v := .int (nI ((now % 12)))) 6 hA (cst_0 hA) (by decide) q273 (congrArg (fun z => some (Value.int z)) (((congrFun (cput_a (by omega)) _).trans (cput_f (q := 6))))) dX1_count_98 ?_
    exact z_iret dX1_count_101 rfl (Nat.le_of_ble_eq_true rfl) (Nat.le_of_ble_eq_true rfl) ⟨congrArg some (congrArg Value.int (by rw [if_neg c_1]; rw [if_neg c_5]; rw [if_neg c_9]; rw [if_neg c_13]; rw [if_pos c_14])), rfl⟩
  by_cases c_15 : w = 5
  · refine z_tableIn (off := 101) 102 dX1_count_1 (by rw [c_15]; decide) (by rw [c_15]; decide) (by rw [c_15]; rfl) (by decide) ?_
    refine z_aload_n 0 dX1_count_102 rfl ?_
    refine cz_get (v := .ref (A 309)) 4 hA (by decide) q331 rfl dX1_count_103 ?_
    refine z_callV (As := []) (c_sw (by omega) (c_somewhere (F := F) (gl := gl) (K := (cput (zs K 99 8 o) 310 τ es dt2 yr2)) (σ := σ) (ds := ds) (dt := (nI (now % 12))) (yr := (nI (now / 12))) (O := O) hA (cst_0 hA))) q1333 q1334 q1335 q118 q1336 nm_X4_somewhere (cX_st hA (cst_0 hA)) rfl rfl rfl (Nat.le_of_ble_eq_true rfl) ⟨Nat.le_of_ble_eq_true rfl, Nat.le_of_ble_eq_true rfl⟩ dX1_count_106 rfl rfl (Nat.le_of_ble_eq_true rfl) (Nat.le_of_ble_eq_true rfl) (fun v_16 X_17 hp_18 => ?_)
    obtain ⟨rfl, rfl⟩ := hp_18
    refine z_X (X' := (cX g A (cput (cput (zs K 99 8 o) 300 σ ds (nI (now % 12)) (nI (now / 12))) 310 τ es dt2 yr2) F O gl X)) (congrArg (fun z => cX g A z F O gl X) (cput_comm (by omega))) ?_
    refine z_st (st' := [.int (s_some σ 6)]) rfl ?_
    exact z_iret dX1_count_109 rfl (Nat.le_of_ble_eq_true rfl) (Nat.le_of_ble_eq_true rfl) ⟨congrArg some (congrArg Value.int (by rw [s_some_6 hiv.1 hnd]; rw [if_neg c_1]; rw [if_neg c_5]; rw [if_neg c_9]; rw [if_neg c_13]; rw [if_neg c_14]; rw [if_pos c_15])), rfl⟩
  by_cases c_19 : w = 6
  · refine z_tableIn (off := 109) 110 dX1_count_1 (by rw [c_19]; decide) (by rw [c_19]; decide) (by rw [c_19]; rfl) (by decide) ?_
    refine z_aload_n 0 dX1_count_110 rfl ?_
    refine cz_get (v := .ref (A 309)) 4 hA (by decide) q331 rfl dX1_count_111 ?_
    refine cz_getSN (s := 300) (v := .ref (A 300)) 0 hA (cst_0 hA) (by decide) q259 rfl dX1_count_114 ?_
    refine z_callS (As := [.ref (A 300)]) (c_sum (K := (cput (cput (zs K 99 8 o) 300 σ ds (nI (now % 12)) (nI (now / 12))) 310 τ es dt2 yr2)) (F := F) (O := O) (gl := gl) hA (i := 300) (n := 4) (by unfold cia; omega) rfl) q1445 q1446 q112 q1447 nm_X1_sum rfl (Nat.le_of_ble_eq_true rfl) ⟨Nat.le_of_ble_eq_true rfl, Nat.le_of_ble_eq_true rfl⟩ dX1_count_117 rfl rfl (Nat.le_of_ble_eq_true rfl) (Nat.le_of_ble_eq_true rfl) (fun v_20 X_21 hp_22 => ?_)
    rw [s_sum_congr (h := fun k => σ (k + 2)) 4 (fun k hk => (by rw [cput_a (by omega), cput_beds (by omega)]))] at hp_22
    obtain ⟨rfl, rfl⟩ := hp_22
    refine z_st (st' := [.int (s_sum (fun k => σ (k + 2)) 4)]) rfl ?_
    exact z_iret dX1_count_120 rfl (Nat.le_of_ble_eq_true rfl) (Nat.le_of_ble_eq_true rfl) ⟨congrArg some (congrArg Value.int (by rw [s_beds_4 hz4 hnh]; rw [if_neg c_1]; rw [if_neg c_5]; rw [if_neg c_9]; rw [if_neg c_13]; rw [if_neg c_14]; rw [if_neg c_15]; rw [if_pos c_19])), rfl⟩
  by_cases c_23 : w = 7
  · refine z_tableIn (off := 120) 121 dX1_count_1 (by rw [c_23]; decide) (by rw [c_23]; decide) (by rw [c_23]; rfl) (by decide) ?_
    refine z_aload_n 0 dX1_count_121 rfl ?_
    refine cz_get (v := .ref (A 309)) 4 hA (by decide) q331 rfl dX1_count_122 ?_
    refine cz_getSN (s := 300) (v := .int (σ 1)) 8 hA (cst_0 hA) (by decide) q277 (congrArg (fun z => some (Value.int z)) ((((congrFun (cput_a (by omega)) _).trans (cput_f (q := 8)))).trans (by show σ 1 = _; rfl))) dX1_count_125 ?_
    exact z_iret dX1_count_128 rfl (Nat.le_of_ble_eq_true rfl) (Nat.le_of_ble_eq_true rfl) ⟨congrArg some (congrArg Value.int (by rw [if_neg c_1]; rw [if_neg c_5]; rw [if_neg c_9]; rw [if_neg c_13]; rw [if_neg c_14]; rw [if_neg c_15]; rw [if_neg c_19]; rw [if_pos c_23])), rfl⟩
  by_cases c_24 : w = 8
  · refine z_tableIn (off := 128) 129 dX1_count_1 (by rw [c_24]; decide) (by rw [c_24]; decide) (by rw [c_24]; rfl) (by decide) ?_
    refine z_aload_n 0 dX1_count_129 rfl ?_
    refine z_callV (As := []) (c_faded (K := K) (F := F) (gl := gl) (σ := σ) (ds := ds) (τ := τ) (es := es) (dt2 := dt2) (yr2 := yr2) (o := o) hA hO hV hv hnow hiv) q1479 q1481 qs48 q112 q1482 nm_X1_faded (cX_obj hA) rfl rfl rfl (Nat.le_of_ble_eq_true rfl) ⟨Nat.le_of_ble_eq_true rfl, Nat.le_of_ble_eq_true rfl⟩ dX1_count_130 rfl rfl (Nat.le_of_ble_eq_true rfl) (Nat.le_of_ble_eq_true rfl) (fun v_25 X_26 hp_27 => ?_)
    obtain ⟨rfl, rfl⟩ := hp_27
    refine z_st (st' := [.int (s_set (fun d => decide (σ (d + 18) = 0)) nd)]) rfl ?_
    exact z_iret dX1_count_133 rfl (Nat.le_of_ble_eq_true rfl) (Nat.le_of_ble_eq_true rfl) ⟨congrArg some (congrArg Value.int (by rw [if_neg c_1]; rw [if_neg c_5]; rw [if_neg c_9]; rw [if_neg c_13]; rw [if_neg c_14]; rw [if_neg c_15]; rw [if_neg c_19]; rw [if_neg c_23]; rw [if_pos c_24])), rfl⟩
  by_cases c_28 : w = 9
  · refine z_tableIn (off := 133) 134 dX1_count_1 (by rw [c_28]; decide) (by rw [c_28]; decide) (by rw [c_28]; rfl) (by decide) ?_
    refine z_aload_n 0 dX1_count_134 rfl ?_
    refine cz_get (v := .ref ln) 3 hA (by decide) q330 (by show some (va_rf (O 0 1)) = _; rw [hln]; rfl) dX1_count_135 ?_
    refine z_callV (As := []) (t_size (cX_lo hA hlno)) q1131 q308 q309 q117 q310 nm_J2_size (cX_lo hA hlno) rfl rfl rfl (Nat.le_of_ble_eq_true rfl) ⟨Nat.le_of_ble_eq_true rfl, Nat.le_of_ble_eq_true rfl⟩ dX1_count_138 rfl rfl (Nat.le_of_ble_eq_true rfl) (Nat.le_of_ble_eq_true rfl) (fun v_29 X_30 hp_31 => ?_)
    obtain ⟨rfl, rfl⟩ := hp_31
    refine z_st (st' := [.int (nI (nl))]) rfl ?_
    exact z_iret dX1_count_141 rfl (Nat.le_of_ble_eq_true rfl) (Nat.le_of_ble_eq_true rfl) ⟨congrArg some (congrArg Value.int (by rw [if_neg c_1]; rw [if_neg c_5]; rw [if_neg c_9]; rw [if_neg c_13]; rw [if_neg c_14]; rw [if_neg c_15]; rw [if_neg c_19]; rw [if_neg c_23]; rw [if_neg c_24]; rw [if_pos c_28])), rfl⟩
  by_cases c_32 : w = 10
  · refine z_tableIn (off := 141) 142 dX1_count_1 (by rw [c_32]; decide) (by rw [c_32]; decide) (by rw [c_32]; rfl) (by decide) ?_
    refine z_aload_n 0 dX1_count_142 rfl ?_
    refine cz_get (v := .int (K 99 17)) 17 hA (by decide) q344 rfl dX1_count_143 ?_
    exact z_iret dX1_count_146 rfl (Nat.le_of_ble_eq_true rfl) (Nat.le_of_ble_eq_true rfl) ⟨congrArg some (congrArg Value.int (by rw [if_neg c_1]; rw [if_neg c_5]; rw [if_neg c_9]; rw [if_neg c_13]; rw [if_neg c_14]; rw [if_neg c_15]; rw [if_neg c_19]; rw [if_neg c_23]; rw [if_neg c_24]; rw [if_neg c_28]; rw [if_pos c_32])), rfl⟩
  by_cases c_33 : w = 11
  · refine z_tableIn (off := 146) 147 dX1_count_1 (by rw [c_33]; decide) (by rw [c_33]; decide) (by rw [c_33]; rfl) (by decide) ?_
    refine z_aload_n 0 dX1_count_147 rfl ?_
    refine cz_get (v := .int (K 99 10)) 10 hA (by decide) q337 rfl dX1_count_148 ?_
    exact z_iret dX1_count_151 rfl (Nat.le_of_ble_eq_true rfl) (Nat.le_of_ble_eq_true rfl) ⟨congrArg some (congrArg Value.int (by rw [if_neg c_1]; rw [if_neg c_5]; rw [if_neg c_9]; rw [if_neg c_13]; rw [if_neg c_14]; rw [if_neg c_15]; rw [if_neg c_19]; rw [if_neg c_23]; rw [if_neg c_24]; rw [if_neg c_28]; rw [if_neg c_32]; rw [if_pos c_33])), rfl⟩
  by_cases c_34 : w = 12
  · refine z_tableIn (off := 151) 152 dX1_count_1 (by rw [c_34]; decide) (by rw [c_34]; decide) (by rw [c_34]; rfl) (by decide) ?_
    refine z_aload_n 0 dX1_count_152 rfl ?_
    refine cz_get (v := .int (K 99 7)) 7 hA (by decide) q334 rfl dX1_count_153 ?_
    exact z_iret dX1_count_156 rfl (Nat.le_of_ble_eq_true rfl) (Nat.le_of_ble_eq_true rfl) ⟨congrArg some (congrArg Value.int (by rw [if_neg c_1]; rw [if_neg c_5]; rw [if_neg c_9]; rw [if_neg c_13]; rw [if_neg c_14]; rw [if_neg c_15]; rw [if_neg c_19]; rw [if_neg c_23]; rw [if_neg c_24]; rw [if_neg c_28]; rw [if_neg c_32]; rw [if_neg c_33]; rw [if_pos c_34])), rfl⟩
  refine z_tableOut 157 dX1_count_1 (by have i0 := lv_neT (a := 0) c_1 rfl; have i1 := lv_neT (a := 1) c_5 rfl; have i2 := lv_neT (a := 2) c_9 rfl; have i3 := lv_neT (a := 3) c_13 rfl; have i4 := lv_neT (a := 4) c_14 rfl; have i5 := lv_neT (a := 5) c_15 rfl; have i6 := lv_neT (a := 6) c_19 rfl; have i7 := lv_neT (a := 7) c_23 rfl; have i8 := lv_neT (a := 8) c_24 rfl; have i9 := lv_neT (a := 9) c_28 rfl; have i10 := lv_neT (a := 10) c_32 rfl; have i11 := lv_neT (a := 11) c_33 rfl; have i12 := lv_neT (a := 12) c_34 rfl; omega) (by decide) ?_
  refine z_iconst (v := zm1) dX1_count_157 (by decide) ?_
  exact z_iret dX1_count_158 rfl (Nat.le_of_ble_eq_true rfl) (Nat.le_of_ble_eq_true rfl) ⟨congrArg some (congrArg Value.int (by simp [c_1, c_5, c_9, c_13, c_14, c_15, c_19, c_23, c_24, c_28, c_32, c_33, c_34])), rfl⟩
