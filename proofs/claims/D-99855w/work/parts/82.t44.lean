/-! THE COMPONENT: houses, days, who holds whom. Printed by t44.py -/
set_option maxRecDepth 100000
set_option maxHeartbeats 4000000 in
theorem c_houses {g : zG} {A : Nat → Nat} {K : Nat → Nat → Int32} {F : Nat → Int32} {O : Nat → Nat → Option Nat} {gl : Int64} {X : zX} (hA : cok g A X) {v lh lg eh eg ch cg : Nat} {nh nd : Nat} {mh mg st9 : Int32} {fh fg : Nat → Option Nat} {fa : Option Nat} (hO : O 0 0 = some v) (hxv : X v = some (.inr (3, [.ref lh, .ref lg, .int st9, va_rf fa]))) (hlh : X lh = some (.inr (23, [.int mh, .ref eh, .int (nI nh)]))) (heh : X eh = some (.inl (zar g 4, ch, .inr (.inr (.inr (.inr fh)))))) (hch1 : nh ≤ ch) (hch2 : ch < 2 ^ 31) (hlg : X lg = some (.inr (23, [.int mg, .ref eg, .int (nI nd)]))) (heg : X eg = some (.inl (zar g 4, cg, .inr (.inr (.inr (.inr fg)))))) (hcg1 : nd ≤ cg) (hcg2 : cg < 2 ^ 31)  : zN g m_X1_houses ({ frames := 1, cells := 0, slots := 0, locals := 20 } : Room) [.ref (A 99)] (cX g A K F O gl X) (fun rv X' => rv = some (.int (nI nh)) ∧ X' = (cX g A K F O gl X)) := by
  refine zN.of (by decide +kernel) (Nat.le_of_ble_eq_true rfl) rfl ?_
  refine z_lv (lv' := [(0, .ref (A 99))]) [0] rfl ?_
  have hA2 := hA.2.2.1
  refine z_aload_n 0 dX1_houses_0 rfl ?_
  refine cz_get (v := .ref v) 2 hA (by decide) q329 (by show some (va_rf (O 0 0)) = _; rw [hO]; rfl) dX1_houses_1 ?_
  refine z_getN (v := .ref lh) 0 (cX_lo hA hxv) rfl in_X3 (by decide) q230 rfl dX1_houses_4 ?_
  refine z_callV (As := []) (t_size (cX_lo hA hlh)) q1131 q308 q309 q117 q310 nm_J2_size (cX_lo hA hlh) rfl rfl rfl (Nat.le_of_ble_eq_true rfl) ⟨Nat.le_of_ble_eq_true rfl, Nat.le_of_ble_eq_true rfl⟩ dX1_houses_7 rfl rfl (Nat.le_of_ble_eq_true rfl) (Nat.le_of_ble_eq_true rfl) (fun v_1 X_2 hp_3 => ?_)
  obtain ⟨rfl, rfl⟩ := hp_3
  refine z_st (st' := [.int (nI (nh))]) rfl ?_
  exact z_iret dX1_houses_10 rfl (Nat.le_of_ble_eq_true rfl) (Nat.le_of_ble_eq_true rfl) ⟨rfl, rfl⟩
set_option maxHeartbeats 4000000 in
theorem c_guests {g : zG} {A : Nat → Nat} {K : Nat → Nat → Int32} {F : Nat → Int32} {O : Nat → Nat → Option Nat} {gl : Int64} {X : zX} (hA : cok g A X) {v lh lg eh eg ch cg : Nat} {nh nd : Nat} {mh mg st9 : Int32} {fh fg : Nat → Option Nat} {fa : Option Nat} (hO : O 0 0 = some v) (hxv : X v = some (.inr (3, [.ref lh, .ref lg, .int st9, va_rf fa]))) (hlh : X lh = some (.inr (23, [.int mh, .ref eh, .int (nI nh)]))) (heh : X eh = some (.inl (zar g 4, ch, .inr (.inr (.inr (.inr fh)))))) (hch1 : nh ≤ ch) (hch2 : ch < 2 ^ 31) (hlg : X lg = some (.inr (23, [.int mg, .ref eg, .int (nI nd)]))) (heg : X eg = some (.inl (zar g 4, cg, .inr (.inr (.inr (.inr fg)))))) (hcg1 : nd ≤ cg) (hcg2 : cg < 2 ^ 31)  : zN g m_X1_guests ({ frames := 1, cells := 0, slots := 0, locals := 20 } : Room) [.ref (A 99)] (cX g A K F O gl X) (fun rv X' => rv = some (.int (nI nd)) ∧ X' = (cX g A K F O gl X)) := by
  refine zN.of (by decide +kernel) (Nat.le_of_ble_eq_true rfl) rfl ?_
  refine z_lv (lv' := [(0, .ref (A 99))]) [0] rfl ?_
  have hA2 := hA.2.2.1
  refine z_aload_n 0 dX1_guests_0 rfl ?_
  refine cz_get (v := .ref v) 2 hA (by decide) q329 (by show some (va_rf (O 0 0)) = _; rw [hO]; rfl) dX1_guests_1 ?_
  refine z_getN (v := .ref lg) 1 (cX_lo hA hxv) rfl in_X3 (by decide) q234 rfl dX1_guests_4 ?_
  refine z_callV (As := []) (t_size (cX_lo hA hlg)) q1131 q308 q309 q117 q310 nm_J2_size (cX_lo hA hlg) rfl rfl rfl (Nat.le_of_ble_eq_true rfl) ⟨Nat.le_of_ble_eq_true rfl, Nat.le_of_ble_eq_true rfl⟩ dX1_guests_7 rfl rfl (Nat.le_of_ble_eq_true rfl) (Nat.le_of_ble_eq_true rfl) (fun v_1 X_2 hp_3 => ?_)
  obtain ⟨rfl, rfl⟩ := hp_3
  refine z_st (st' := [.int (nI (nd))]) rfl ?_
  exact z_iret dX1_guests_10 rfl (Nat.le_of_ble_eq_true rfl) (Nat.le_of_ble_eq_true rfl) ⟨rfl, rfl⟩
set_option maxHeartbeats 4000000 in
theorem c_home {g : zG} {A : Nat → Nat} {K : Nat → Nat → Int32} {F : Nat → Int32} {O : Nat → Nat → Option Nat} {gl : Int64} {X : zX} (hA : cok g A X) {v lh lg eh eg ch cg : Nat} {nh nd : Nat} {mh mg st9 : Int32} {fh fg : Nat → Option Nat} {fa : Option Nat} (hO : O 0 0 = some v) (hxv : X v = some (.inr (3, [.ref lh, .ref lg, .int st9, va_rf fa]))) (hlh : X lh = some (.inr (23, [.int mh, .ref eh, .int (nI nh)]))) (heh : X eh = some (.inl (zar g 4, ch, .inr (.inr (.inr (.inr fh)))))) (hch1 : nh ≤ ch) (hch2 : ch < 2 ^ 31) (hlg : X lg = some (.inr (23, [.int mg, .ref eg, .int (nI nd)]))) (heg : X eg = some (.inl (zar g 4, cg, .inr (.inr (.inr (.inr fg)))))) (hcg1 : nd ≤ cg) (hcg2 : cg < 2 ^ 31) (i : Nat) (hi : i < nh) {a m : Nat} {b1 b2 : Int32} (hf : fh i = some a) (ha : X a = some (.inr (7, [.ref m, .int b1, .int b2]))) : zN g m_X1_home ({ frames := 3, cells := 0, slots := 0, locals := 64 } : Room) [.ref (A 99), .int (nI (i))] (cX g A K F O gl X) (fun rv X' => rv = some (.ref a) ∧ X' = (cX g A K F O gl X)) := by
  refine zN.of (by decide +kernel) (Nat.le_of_ble_eq_true rfl) rfl ?_
  refine z_lv (lv' := [(0, .ref (A 99)), (1, .int (nI (i)))]) [0, 1] rfl ?_
  have hA2 := hA.2.2.1
  refine z_aload_n 0 dX1_home_0 rfl ?_
  refine cz_get (v := .ref v) 2 hA (by decide) q329 (by show some (va_rf (O 0 0)) = _; rw [hO]; rfl) dX1_home_1 ?_
  refine z_getN (v := .ref lh) 0 (cX_lo hA hxv) rfl in_X3 (by decide) q230 rfl dX1_home_4 ?_
  refine z_iload_n 1 dX1_home_7 rfl ?_
  refine z_callV (As := [.int (nI (i))]) (t_getL (cX_lo hA hlh) (cX_lo hA heh) (by omega) i (by omega) (by omega) hf) q1147 q312 q313 q117 q314 nm_J2_get (cX_lo hA hlh) rfl rfl rfl (Nat.le_of_ble_eq_true rfl) ⟨Nat.le_of_ble_eq_true rfl, Nat.le_of_ble_eq_true rfl⟩ dX1_home_8 rfl rfl (Nat.le_of_ble_eq_true rfl) (Nat.le_of_ble_eq_true rfl) (fun v_1 X_2 hp_3 => ?_)
  obtain ⟨rfl, rfl⟩ := hp_3
  refine z_st (st' := [.ref a]) rfl ?_
  refine z_castS (cX_lo hA ha) rfl q1167 rfl dX1_home_11 ?_
  exact z_aret dX1_home_14 rfl (Or.inl ⟨_, rfl⟩) (Or.inr ⟨_, rfl⟩) (Nat.le_of_ble_eq_true rfl) (Nat.le_of_ble_eq_true rfl) ⟨rfl, rfl⟩
set_option maxHeartbeats 4000000 in
theorem c_guest {g : zG} {A : Nat → Nat} {K : Nat → Nat → Int32} {F : Nat → Int32} {O : Nat → Nat → Option Nat} {gl : Int64} {X : zX} (hA : cok g A X) {v lh lg eh eg ch cg : Nat} {nh nd : Nat} {mh mg st9 : Int32} {fh fg : Nat → Option Nat} {fa : Option Nat} (hO : O 0 0 = some v) (hxv : X v = some (.inr (3, [.ref lh, .ref lg, .int st9, va_rf fa]))) (hlh : X lh = some (.inr (23, [.int mh, .ref eh, .int (nI nh)]))) (heh : X eh = some (.inl (zar g 4, ch, .inr (.inr (.inr (.inr fh)))))) (hch1 : nh ≤ ch) (hch2 : ch < 2 ^ 31) (hlg : X lg = some (.inr (23, [.int mg, .ref eg, .int (nI nd)]))) (heg : X eg = some (.inl (zar g 4, cg, .inr (.inr (.inr (.inr fg)))))) (hcg1 : nd ≤ cg) (hcg2 : cg < 2 ^ 31) (i : Nat) (hi : i < nd) {a m : Nat} {k9 : Nat} {b1 b2 b3 b4 : Int32} (hk9 : k9 ≤ 3) (hf : fg i = some a) (ha : X a = some (.inr (8 + k9, [.ref m, .int b1, .int b2, .int b3, .int b4]))) : zN g m_X1_guest ({ frames := 3, cells := 0, slots := 0, locals := 64 } : Room) [.ref (A 99), .int (nI (i))] (cX g A K F O gl X) (fun rv X' => rv = some (.ref a) ∧ X' = (cX g A K F O gl X)) := by
  refine zN.of (by decide +kernel) (Nat.le_of_ble_eq_true rfl) rfl ?_
  refine z_lv (lv' := [(0, .ref (A 99)), (1, .int (nI (i)))]) [0, 1] rfl ?_
  have hA2 := hA.2.2.1
  refine z_aload_n 0 dX1_guest_0 rfl ?_
  refine cz_get (v := .ref v) 2 hA (by decide) q329 (by show some (va_rf (O 0 0)) = _; rw [hO]; rfl) dX1_guest_1 ?_
  refine z_getN (v := .ref lg) 1 (cX_lo hA hxv) rfl in_X3 (by decide) q234 rfl dX1_guest_4 ?_
  refine z_iload_n 1 dX1_guest_7 rfl ?_
  refine z_callV (As := [.int (nI (i))]) (t_getL (cX_lo hA hlg) (cX_lo hA heg) (by omega) i (by omega) (by omega) hf) q1147 q312 q313 q117 q314 nm_J2_get (cX_lo hA hlg) rfl rfl rfl (Nat.le_of_ble_eq_true rfl) ⟨Nat.le_of_ble_eq_true rfl, Nat.le_of_ble_eq_true rfl⟩ dX1_guest_8 rfl rfl (Nat.le_of_ble_eq_true rfl) (Nat.le_of_ble_eq_true rfl) (fun v_1 X_2 hp_3 => ?_)
  obtain ⟨rfl, rfl⟩ := hp_3
  refine z_st (st' := [.ref a]) rfl ?_
  refine z_castG (cX_lo hA ha) hk9 q1148 dX1_guest_11 ?_
  exact z_aret dX1_guest_14 rfl (Or.inl ⟨_, rfl⟩) (Or.inr ⟨_, rfl⟩) (Nat.le_of_ble_eq_true rfl) (Nat.le_of_ble_eq_true rfl) ⟨rfl, rfl⟩
set_option maxHeartbeats 4000000 in
theorem c_inn {g : zG} {X : zX} (x l m : Int32) : zN g m_X1_in ({ frames := 0, cells := 0, slots := 0, locals := 0 } : Room) [.int x, .int l, .int m] X (fun rv X' => rv = some (.int (zb (decide (l ≤ x) && decide (x ≤ m)))) ∧ X' = X) := by
  refine zN.of (by decide +kernel) (Nat.le_of_ble_eq_true rfl) rfl ?_
  refine z_lv (lv' := [(0, .int x), (1, .int l), (2, .int m)]) [0, 1, 2] rfl ?_
  refine z_iload_n 0 dX1_in_0 rfl ?_
  refine z_iload_n 1 dX1_in_1 rfl ?_
  refine z_icmp_lt 14 dX1_in_2 (by decide) (fun c_1 => ?_) (fun c_1 => ?_)
  · -- x < l
    have c_1' := Int32.not_le.mpr c_1
    refine z_iconst (v := 0) dX1_in_14 (by decide) ?_
    exact z_zret dX1_in_15 rfl (by first | rfl | decide | exact zb_nar _) (Nat.le_of_ble_eq_true rfl) (Nat.le_of_ble_eq_true rfl) ⟨congrArg some (congrArg Value.int (by simp [zb, c_1, c_1'])), rfl⟩
  · -- ¬ x < l
    have c_1' := Int32.not_lt.mp c_1
    refine z_iload_n 0 dX1_in_5 rfl ?_
    refine z_iload_n 2 dX1_in_6 rfl ?_
    refine z_icmp_gt 14 dX1_in_7 (by decide) (fun c_2 => ?_) (fun c_2 => ?_)
    · -- m < x
      have c_2' := Int32.not_le.mpr c_2
      refine z_iconst (v := 0) dX1_in_14 (by decide) ?_
      exact z_zret dX1_in_15 rfl (by first | rfl | decide | exact zb_nar _) (Nat.le_of_ble_eq_true rfl) (Nat.le_of_ble_eq_true rfl) ⟨congrArg some (congrArg Value.int (by simp [zb, c_1, c_1', c_2, c_2'])), rfl⟩
    · -- ¬ m < x
      have c_2' := Int32.not_lt.mp c_2
      refine z_iconst (v := 1) dX1_in_10 (by decide) ?_
      refine z_goto 15 dX1_in_11 (by decide) ?_
      exact z_zret dX1_in_15 rfl (by first | rfl | decide | exact zb_nar _) (Nat.le_of_ble_eq_true rfl) (Nat.le_of_ble_eq_true rfl) ⟨congrArg some (congrArg Value.int (by simp [zb, c_1, c_1', c_2, c_2'])), rfl⟩
set_option maxHeartbeats 4000000 in
theorem c_isIn {g : zG} {X : zX} (x : Int32) (k : Nat) : zN g m_X1_isIn ({ frames := 0, cells := 0, slots := 0, locals := 0 } : Room) [.int x, .int (nI (k))] X (fun rv X' => rv = some (.int (zb (s_isBit x k))) ∧ X' = X) := by
  refine zN.of (by decide +kernel) (Nat.le_of_ble_eq_true rfl) rfl ?_
  refine z_lv (lv' := [(0, .int x), (1, .int (nI (k)))]) [0, 1] rfl ?_
  refine z_iload_n 0 dX1_isIn_0 rfl ?_
  refine z_iload_n 1 dX1_isIn_1 rfl ?_
  refine z_ishr dX1_isIn_2 ?_
  refine z_iconst (v := 1) dX1_isIn_3 (by decide) ?_
  refine z_iand dX1_isIn_4 ?_
  refine z_iconst (v := 1) dX1_isIn_5 (by decide) ?_
  refine z_icmp_ne 13 dX1_isIn_6 (by decide) (fun c_1 => ?_) (fun c_1 => ?_)
  · -- ¬ ((x >>> ((nI (k)) &&& 31)) &&& 1) = 1
    refine z_iconst (v := 0) dX1_isIn_13 (by decide) ?_
    exact z_zret dX1_isIn_14 rfl (by first | rfl | decide | exact zb_nar _) (Nat.le_of_ble_eq_true rfl) (Nat.le_of_ble_eq_true rfl) ⟨congrArg some (congrArg Value.int (by unfold s_isBit; simp [zb, c_1])), rfl⟩
  · -- ((x >>> ((nI (k)) &&& 31)) &&& 1) = 1
    refine z_iconst (v := 1) dX1_isIn_9 (by decide) ?_
    refine z_goto 14 dX1_isIn_10 (by decide) ?_
    exact z_zret dX1_isIn_14 rfl (by first | rfl | decide | exact zb_nar _) (Nat.le_of_ble_eq_true rfl) (Nat.le_of_ble_eq_true rfl) ⟨congrArg some (congrArg Value.int (by unfold s_isBit; simp [zb, c_1])), rfl⟩
set_option maxHeartbeats 4000000 in
theorem c_between {g : zG} {X : zX} (x l m : Int32) : zN g m_X1_between ({ frames := 1, cells := 0, slots := 0, locals := 21 } : Room) [.int x, .int l, .int m] X (fun rv X' => rv = some (.int (if l < (if x < m then x else m) then (if x < m then x else m) else l)) ∧ X' = X) := by
  refine zN.of (by decide +kernel) (Nat.le_of_ble_eq_true rfl) rfl ?_
  refine z_lv (lv' := [(0, .int x), (1, .int l), (2, .int m)]) [0, 1, 2] rfl ?_
  refine z_iload_n 1 dX1_between_0 rfl ?_
  refine z_iload_n 2 dX1_between_1 rfl ?_
  refine z_iload_n 0 dX1_between_2 rfl ?_
  refine z_mmin (v := (if x < m then x else m)) q1268 q455 q124 q456 (Nat.le_of_ble_eq_true rfl) (Nat.le_of_ble_eq_true rfl) (Nat.le_of_ble_eq_true rfl) (Nat.le_of_ble_eq_true rfl) dX1_between_3 rfl ?_
  refine z_mmax (v := (if l < (if x < m then x else m) then (if x < m then x else m) else l)) q1269 q452 q124 q453 (Nat.le_of_ble_eq_true rfl) (Nat.le_of_ble_eq_true rfl) (Nat.le_of_ble_eq_true rfl) (Nat.le_of_ble_eq_true rfl) dX1_between_6 rfl ?_
  exact z_iret dX1_between_9 rfl (Nat.le_of_ble_eq_true rfl) (Nat.le_of_ble_eq_true rfl) ⟨rfl, rfl⟩
set_option maxHeartbeats 4000000 in
theorem c_isHouse {g : zG} {A : Nat → Nat} {K : Nat → Nat → Int32} {F : Nat → Int32} {O : Nat → Nat → Option Nat} {gl : Int64} {X : zX} (hA : cok g A X) {v lh lg eh eg ch cg : Nat} {nh nd : Nat} {mh mg st9 : Int32} {fh fg : Nat → Option Nat} {fa : Option Nat} (hO : O 0 0 = some v) (hxv : X v = some (.inr (3, [.ref lh, .ref lg, .int st9, va_rf fa]))) (hlh : X lh = some (.inr (23, [.int mh, .ref eh, .int (nI nh)]))) (heh : X eh = some (.inl (zar g 4, ch, .inr (.inr (.inr (.inr fh)))))) (hch1 : nh ≤ ch) (hch2 : ch < 2 ^ 31) (hlg : X lg = some (.inr (23, [.int mg, .ref eg, .int (nI nd)]))) (heg : X eg = some (.inl (zar g 4, cg, .inr (.inr (.inr (.inr fg)))))) (hcg1 : nd ≤ cg) (hcg2 : cg < 2 ^ 31) (hsm : nh ≤ 6) (x : Int32) : zN g m_X1_isHouse ({ frames := 2, cells := 0, slots := 0, locals := 40 } : Room) [.ref (A 99), .int x] (cX g A K F O gl X) (fun rv X' => rv = some (.int (zb (decide (0 ≤ x) && decide (x < nI nh)))) ∧ X' = (cX g A K F O gl X)) := by
  refine zN.of (by decide +kernel) (Nat.le_of_ble_eq_true rfl) rfl ?_
  refine z_lv (lv' := [(0, .ref (A 99)), (1, .int x)]) [0, 1] rfl ?_
  have hA2 := hA.2.2.1
  refine z_iload_n 1 dX1_isHouse_0 rfl ?_
  refine z_iconst (v := 0) dX1_isHouse_1 (by decide) ?_
  refine z_aload_n 0 dX1_isHouse_2 rfl ?_
  refine z_callV (As := []) (c_houses (K := K) (F := F) (gl := gl) hA hO hxv hlh heh hch1 hch2 hlg heg hcg1 hcg2) q1127 q1129 qs28 q112 q1130 nm_X1_houses (cX_obj hA) rfl rfl rfl (Nat.le_of_ble_eq_true rfl) ⟨Nat.le_of_ble_eq_true rfl, Nat.le_of_ble_eq_true rfl⟩ dX1_isHouse_3 rfl rfl (Nat.le_of_ble_eq_true rfl) (Nat.le_of_ble_eq_true rfl) (fun v_1 X_2 hp_3 => ?_)
  obtain ⟨rfl, rfl⟩ := hp_3
  refine z_st (st' := [.int (nI (nh)), .int 0, .int x]) rfl ?_
  refine z_iconst (v := 1) dX1_isHouse_6 (by decide) ?_
  refine z_isub dX1_isHouse_7 ?_
  refine z_callS (As := [.int x, .int 0, .int ((nI (nh)) - 1)]) (c_inn x 0 ((nI (nh)) - 1)) q1132 q1133 q112 q1134 nm_X1_in rfl (Nat.le_of_ble_eq_true rfl) ⟨Nat.le_of_ble_eq_true rfl, Nat.le_of_ble_eq_true rfl⟩ dX1_isHouse_8 rfl rfl (Nat.le_of_ble_eq_true rfl) (Nat.le_of_ble_eq_true rfl) (fun v_4 X_5 hp_6 => ?_)
  obtain ⟨rfl, rfl⟩ := hp_6
  refine z_st (st' := [.int (zb (decide (0 ≤ x) && decide (x ≤ ((nI (nh)) - 1))))]) rfl ?_
  exact z_zret dX1_isHouse_11 rfl (by first | rfl | decide | exact zb_nar _) (Nat.le_of_ble_eq_true rfl) (Nat.le_of_ble_eq_true rfl) ⟨congrArg some (congrArg Value.int (congrArg zb (s_isH (by omega) x))), rfl⟩
set_option maxHeartbeats 4000000 in
theorem c_isGuest {g : zG} {A : Nat → Nat} {K : Nat → Nat → Int32} {F : Nat → Int32} {O : Nat → Nat → Option Nat} {gl : Int64} {X : zX} (hA : cok g A X) {v lh lg eh eg ch cg : Nat} {nh nd : Nat} {mh mg st9 : Int32} {fh fg : Nat → Option Nat} {fa : Option Nat} (hO : O 0 0 = some v) (hxv : X v = some (.inr (3, [.ref lh, .ref lg, .int st9, va_rf fa]))) (hlh : X lh = some (.inr (23, [.int mh, .ref eh, .int (nI nh)]))) (heh : X eh = some (.inl (zar g 4, ch, .inr (.inr (.inr (.inr fh)))))) (hch1 : nh ≤ ch) (hch2 : ch < 2 ^ 31) (hlg : X lg = some (.inr (23, [.int mg, .ref eg, .int (nI nd)]))) (heg : X eg = some (.inl (zar g 4, cg, .inr (.inr (.inr (.inr fg)))))) (hcg1 : nd ≤ cg) (hcg2 : cg < 2 ^ 31) (hsm : nd ≤ 6) (x : Int32) : zN g m_X1_isGuest ({ frames := 2, cells := 0, slots := 0, locals := 40 } : Room) [.ref (A 99), .int x] (cX g A K F O gl X) (fun rv X' => rv = some (.int (zb (decide (0 ≤ x) && decide (x < nI nd)))) ∧ X' = (cX g A K F O gl X)) := by
  refine zN.of (by decide +kernel) (Nat.le_of_ble_eq_true rfl) rfl ?_
  refine z_lv (lv' := [(0, .ref (A 99)), (1, .int x)]) [0, 1] rfl ?_
  have hA2 := hA.2.2.1
  refine z_iload_n 1 dX1_isGuest_0 rfl ?_
  refine z_iconst (v := 0) dX1_isGuest_1 (by decide) ?_
  refine z_aload_n 0 dX1_isGuest_2 rfl ?_
  refine z_callV (As := []) (c_guests (K := K) (F := F) (gl := gl) hA hO hxv hlh heh hch1 hch2 hlg heg hcg1 hcg2) q1139 q1141 qs30 q112 q1142 nm_X1_guests (cX_obj hA) rfl rfl rfl (Nat.le_of_ble_eq_true rfl) ⟨Nat.le_of_ble_eq_true rfl, Nat.le_of_ble_eq_true rfl⟩ dX1_isGuest_3 rfl rfl (Nat.le_of_ble_eq_true rfl) (Nat.le_of_ble_eq_true rfl) (fun v_1 X_2 hp_3 => ?_)
  obtain ⟨rfl, rfl⟩ := hp_3
  refine z_st (st' := [.int (nI (nd)), .int 0, .int x]) rfl ?_
  refine z_iconst (v := 1) dX1_isGuest_6 (by decide) ?_
  refine z_isub dX1_isGuest_7 ?_
  refine z_callS (As := [.int x, .int 0, .int ((nI (nd)) - 1)]) (c_inn x 0 ((nI (nd)) - 1)) q1132 q1133 q112 q1134 nm_X1_in rfl (Nat.le_of_ble_eq_true rfl) ⟨Nat.le_of_ble_eq_true rfl, Nat.le_of_ble_eq_true rfl⟩ dX1_isGuest_8 rfl rfl (Nat.le_of_ble_eq_true rfl) (Nat.le_of_ble_eq_true rfl) (fun v_4 X_5 hp_6 => ?_)
  obtain ⟨rfl, rfl⟩ := hp_6
  refine z_st (st' := [.int (zb (decide (0 ≤ x) && decide (x ≤ ((nI (nd)) - 1))))]) rfl ?_
  exact z_zret dX1_isGuest_11 rfl (by first | rfl | decide | exact zb_nar _) (Nat.le_of_ble_eq_true rfl) (Nat.le_of_ble_eq_true rfl) ⟨congrArg some (congrArg Value.int (congrArg zb (s_isH (by omega) x))), rfl⟩
set_option maxHeartbeats 4000000 in
theorem c_freeIn {g : zG} {A : Nat → Nat} {K : Nat → Nat → Int32} {F : Nat → Int32} {O : Nat → Nat → Option Nat} {gl : Int64} {X : zX} (hA : cok g A X) {v : Nat} (hO : O 0 0 = some v) {vs : Nat → Int32} {nh nd : Nat} {own : Nat → Nat} {wv : Int32 → Int32 → Int32 → Int32 → Int32} (hV : s_ok vs nh nd own) (hv : cvl g X v vs nh nd wv) {s : Nat} (hs : cst A s) {σ ds : Nat → Int32} {dt yr : Int32} (h : Nat) (hh : h < 4) : zN g m_X1_freeIn ({ frames := 4, cells := 0, slots := 0, locals := 85 } : Room) [.ref (A 99), .ref (A (s + 9)), .int (nI (h))] (cX g A (cput K s σ ds dt yr) F O gl X) (fun rv X' => rv = some (.int (s_free vs σ h nd)) ∧ X' = (cX g A (cput K s σ ds dt yr) F O gl X)) := by
  refine zN.of (by decide +kernel) (Nat.le_of_ble_eq_true rfl) rfl ?_
  refine z_lv (lv' := [(0, .ref (A 99)), (1, .ref (A (s + 9))), (2, .int (nI (h)))]) [0, 1, 2] rfl ?_
  have hA2 := hA.2.2.1
  obtain ⟨hs1, hs2, hs3⟩ := id hs
  have hV9 := hV
  have hv9 := hv
  obtain ⟨h0, hnh, h1, hnd, hown⟩ := hV9
  obtain ⟨lh, lg, fh, fg, st9, fa, hxv, ⟨mh, eh, ch, hlh, heh, hch1, hch2⟩, ⟨mg, eg, cg, hlg, heg, hcg1, hcg2⟩, hhs, hgs, hst9, hfa⟩ := hv9
  refine z_aload_n 1 dX1_freeIn_0 rfl ?_
  refine cz_getSN (s := s) (v := .ref (A s)) 0 hA hs (by decide) q259 rfl dX1_freeIn_1 ?_
  refine z_iload_n 2 dX1_freeIn_4 rfl ?_
  refine cz_iald (v := σ (h + 2)) s h hA (by unfold cia; omega) rfl (by rw [csz_s hA hs]; omega) (cput_beds (by omega)) dX1_freeIn_5 ?_
  refine z_istore_n (lv' := [(3, .int (σ (h + 2))), (0, .ref (A 99)), (1, .ref (A (s + 9))), (2, .int (nI (h)))]) dX1_freeIn_6 rfl (by decide) rfl ?_
  refine z_iconst (v := 0) dX1_freeIn_7 (by decide) ?_
  refine z_istore (lv' := [(4, .int 0), (3, .int (σ (h + 2))), (0, .ref (A 99)), (1, .ref (A (s + 9))), (2, .int (nI (h)))]) dX1_freeIn_8 (by decide) rfl ?_
  have loop_5 : ∀ (q_2 i_1 : Nat), i_1 + q_2 = nd → 0 ≤ i_1 → zZ g m_X1_freeIn (fun rv X' => rv = some (.int (s_free vs σ h nd)) ∧ X' = (cX g A (cput K s σ ds dt yr) F O gl X), zno, ({ frames := 4, cells := 0, slots := 0, locals := 85 } : Room)) 0 0 (cX g A (cput K s σ ds dt yr) F O gl X) 10 [(0, .ref (A 99)), (1, .ref (A (s + 9))), (2, .int (nI (h))), (3, .int (s_free vs σ h i_1)), (4, .int (nI (i_1)))] [] := by
    intro q_2
    induction q_2 with
    | zero =>
      intro i_1 hb_4 lo_6  
      obtain rfl : nd = i_1 := by omega
      refine z_iload 4 dX1_freeIn_10 rfl ?_
      refine z_aload_n 0 dX1_freeIn_12 rfl ?_
      refine z_callV (As := []) (c_guests (K := (cput K s σ ds dt yr)) (F := F) (gl := gl) hA hO hxv hlh heh hch1 hch2 hlg heg hcg1 hcg2) q1139 q1141 qs30 q112 q1142 nm_X1_guests (cX_obj hA) rfl rfl rfl (Nat.le_of_ble_eq_true rfl) ⟨Nat.le_of_ble_eq_true rfl, Nat.le_of_ble_eq_true rfl⟩ dX1_freeIn_13 rfl rfl (Nat.le_of_ble_eq_true rfl) (Nat.le_of_ble_eq_true rfl) (fun v_7 X_8 hp_9 => ?_)
      obtain ⟨rfl, rfl⟩ := hp_9
      refine z_st (st' := [.int (nI (nd)), .int (nI (nd))]) rfl ?_
      refine z_icmp_geN (a := nd) (b := nd) 48 (by omega) (by omega) dX1_freeIn_16 (by decide) (fun c_10 => ?_) (fun c_10 => absurd c_10 (by omega))
      refine z_iload_n 3 dX1_freeIn_48 rfl ?_
      exact z_iret dX1_freeIn_49 rfl (Nat.le_of_ble_eq_true rfl) (Nat.le_of_ble_eq_true rfl) ⟨rfl, rfl⟩
    | succ q_2 ih_3 =>
      intro i_1 hb_4 lo_6  
      refine z_iload 4 dX1_freeIn_10 rfl ?_
      refine z_aload_n 0 dX1_freeIn_12 rfl ?_
      refine z_callV (As := []) (c_guests (K := (cput K s σ ds dt yr)) (F := F) (gl := gl) hA hO hxv hlh heh hch1 hch2 hlg heg hcg1 hcg2) q1139 q1141 qs30 q112 q1142 nm_X1_guests (cX_obj hA) rfl rfl rfl (Nat.le_of_ble_eq_true rfl) ⟨Nat.le_of_ble_eq_true rfl, Nat.le_of_ble_eq_true rfl⟩ dX1_freeIn_13 rfl rfl (Nat.le_of_ble_eq_true rfl) (Nat.le_of_ble_eq_true rfl) (fun v_11 X_12 hp_13 => ?_)
      obtain ⟨rfl, rfl⟩ := hp_13
      refine z_st (st' := [.int (nI (nd)), .int (nI (i_1))]) rfl ?_
      refine z_icmp_geN (a := i_1) (b := nd) 48 (by omega) (by omega) dX1_freeIn_16 (by decide) (fun c_14 => absurd c_14 (by omega)) (fun c_14 => ?_)
      refine z_aload_n 1 dX1_freeIn_19 rfl ?_
      refine cz_getSN (s := s) (v := .ref (A (s + 2))) 2 hA hs (by decide) q265 rfl dX1_freeIn_20 ?_
      refine z_iload 4 dX1_freeIn_23 rfl ?_
      refine cz_iald (v := σ (i_1 + 6)) (s + 2) i_1 hA (by unfold cia; omega) rfl (by rw [csz_q hA hs (by omega)]; omega) (cput_where (by omega)) dX1_freeIn_25 ?_
      refine z_iload_n 2 dX1_freeIn_26 rfl ?_
      refine z_icmp_ne 42 dX1_freeIn_27 (by decide) (fun c_15 => ?_) (fun c_15 => ?_)
      · -- ¬ σ (i_1 + 6) = nI (h)
        refine z_iinc (v := nI (i_1 + 1)) (lv' := [(4, .int (nI (i_1 + 1))), (0, .ref (A 99)), (1, .ref (A (s + 9))), (2, .int (nI (h))), (3, .int (s_free vs σ h i_1))]) 4 dX1_freeIn_42 rfl (nI_1 _) (by decide) rfl ?_
        refine z_goto 10 dX1_freeIn_45 (by decide) ?_
        have f_16 : s_free vs σ h i_1 = s_free vs σ h (i_1 + 1) := by first | rfl | omega | (simp [s_free, hb_4, c_14, c_15]; done) | (skip; simp [s_free, hb_4, c_14, c_15])
        refine z_lv (lv' := [(0, .ref (A 99)), (1, .ref (A (s + 9))), (2, .int (nI (h))), (3, .int (s_free vs σ h (i_1 + 1))), (4, .int (nI (i_1 + 1)))]) [1, 2, 3, 4, 0] (by rw [← f_16]; rfl) ?_
        exact ih_3 (i_1 + 1) (by omega) (by omega)  
      · -- σ (i_1 + 6) = nI (h)
        refine z_iload_n 3 dX1_freeIn_30 rfl ?_
        refine z_aload_n 0 dX1_freeIn_31 rfl ?_
        refine z_iload 4 dX1_freeIn_32 rfl ?_
        obtain ⟨a_17, m_18, k_21, he_19, hk_22, hkv_23, ha_20⟩ := hgs i_1 (by omega)
        refine z_callV (As := [.int (nI (i_1))]) (c_guest (K := (cput K s σ ds dt yr)) (F := F) (gl := gl) hA hO hxv hlh heh hch1 hch2 hlg heg hcg1 hcg2 i_1 (by omega) hk_22 he_19 ha_20) q1143 q1145 qs31 q112 q1146 nm_X1_guest (cX_obj hA) rfl rfl rfl (Nat.le_of_ble_eq_true rfl) ⟨Nat.le_of_ble_eq_true rfl, Nat.le_of_ble_eq_true rfl⟩ dX1_freeIn_34 rfl rfl (Nat.le_of_ble_eq_true rfl) (Nat.le_of_ble_eq_true rfl) (fun v_24 X_25 hp_26 => ?_)
        obtain ⟨rfl, rfl⟩ := hp_26
        refine z_st (st' := [.ref a_17, .int (s_free vs σ h i_1)]) rfl ?_
        refine z_gBeds (cX_lo hA ha_20) (hk0 := hk_22) q1149 (Nat.le_of_ble_eq_true rfl) (Nat.le_of_ble_eq_true rfl) (Nat.le_of_ble_eq_true rfl) dX1_freeIn_37 (Nat.le_of_ble_eq_true rfl) (Nat.le_of_ble_eq_true rfl) ?_
        refine z_eq (y := s_wid vs i_1) (show (if k_21 = 1 then (2 : Int32) else 1) = s_wid vs i_1 by unfold s_wid; rw [hkv_23]; exact s_kw hk_22) ?_
        refine z_isub dX1_freeIn_40 ?_
        obtain ⟨x_27, ex_27⟩ : ∃ y : Int32, ((s_free vs σ h i_1) - (s_wid vs i_1)) = y := ⟨_, rfl⟩
        refine z_eq ex_27 ?_
        refine z_istore_n (lv' := [(3, .int x_27), (0, .ref (A 99)), (1, .ref (A (s + 9))), (2, .int (nI (h))), (4, .int (nI (i_1)))]) dX1_freeIn_41 rfl (by decide) rfl ?_
        refine z_iinc (v := nI (i_1 + 1)) (lv' := [(4, .int (nI (i_1 + 1))), (3, .int x_27), (0, .ref (A 99)), (1, .ref (A (s + 9))), (2, .int (nI (h)))]) 4 dX1_freeIn_42 rfl (nI_1 _) (by decide) rfl ?_
        refine z_goto 10 dX1_freeIn_45 (by decide) ?_
        have f_28 : x_27 = s_free vs σ h (i_1 + 1) := by first | rfl | omega | (simp [s_free, hb_4, c_14, c_15]; done) | ((try subst ex_27); simp [s_free, hb_4, c_14, c_15])
        subst f_28
        refine z_lv (lv' := [(0, .ref (A 99)), (1, .ref (A (s + 9))), (2, .int (nI (h))), (3, .int (s_free vs σ h (i_1 + 1))), (4, .int (nI (i_1 + 1)))]) [2, 3, 4, 1, 0] rfl ?_
        exact ih_3 (i_1 + 1) (by omega) (by omega)  
  have f_29 : σ (h + 2) = s_free vs σ h 0 := by rfl
  refine z_lv (lv' := [(0, .ref (A 99)), (1, .ref (A (s + 9))), (2, .int (nI (h))), (3, .int (s_free vs σ h 0)), (4, .int 0)]) [2, 3, 4, 1, 0] (by rw [← f_29]; rfl) ?_
  exact loop_5 (nd - 0) 0 (by omega) (Nat.le_refl _)  
set_option maxHeartbeats 4000000 in
theorem c_holds {g : zG} {A : Nat → Nat} {K : Nat → Nat → Int32} {F : Nat → Int32} {O : Nat → Nat → Option Nat} {gl : Int64} {X : zX} (hA : cok g A X) {v : Nat} (hO : O 0 0 = some v) {vs : Nat → Int32} {nh nd : Nat} {own : Nat → Nat} {wv : Int32 → Int32 → Int32 → Int32 → Int32} (hV : s_ok vs nh nd own) (hv : cvl g X v vs nh nd wv) {s : Nat} (hs : cst A s) {σ ds : Nat → Int32} {dt yr : Int32} (hz : s_cz σ nd) (h d : Nat) (hh : h < 4) (hd : d < nd) : zN g m_X1_holds ({ frames := 5, cells := 0, slots := 0, locals := 109 } : Room) [.ref (A 99), .ref (A (s + 9)), .int (nI (h)), .int (nI (d))] (cX g A (cput K s σ ds dt yr) F O gl X) (fun rv X' => rv = some (.int (zb (s_holds vs σ nd h d))) ∧ X' = (cX g A (cput K s σ ds dt yr) F O gl X)) := by
  refine zN.of (by decide +kernel) (Nat.le_of_ble_eq_true rfl) rfl ?_
  refine z_lv (lv' := [(0, .ref (A 99)), (1, .ref (A (s + 9))), (2, .int (nI (h))), (3, .int (nI (d)))]) [0, 1, 2, 3] rfl ?_
  have hA2 := hA.2.2.1
  obtain ⟨hs1, hs2, hs3⟩ := id hs
  have hV9 := hV
  have hv9 := hv
  obtain ⟨h0, hnh, h1, hnd, hown⟩ := hV9
  obtain ⟨lh, lg, fh, fg, st9, fa, hxv, ⟨mh, eh, ch, hlh, heh, hch1, hch2⟩, ⟨mg, eg, cg, hlg, heg, hcg1, hcg2⟩, hhs, hgs, hst9, hfa⟩ := hv9
  refine z_aload_n 0 dX1_holds_0 rfl ?_
  refine z_aload_n 1 dX1_holds_1 rfl ?_
  refine z_iload_n 2 dX1_holds_2 rfl ?_
  refine z_callV (As := [.ref (A (s + 9)), .int (nI (h))]) (c_freeIn (F := F) (gl := gl) (K := K) (σ := σ) (ds := ds) (dt := dt) (yr := yr) hA hO hV hv hs h (by omega)) q1135 q1137 qs29 q112 q1138 nm_X1_freeIn (cX_obj hA) rfl rfl rfl (Nat.le_of_ble_eq_true rfl) ⟨Nat.le_of_ble_eq_true rfl, Nat.le_of_ble_eq_true rfl⟩ dX1_holds_3 rfl rfl (Nat.le_of_ble_eq_true rfl) (Nat.le_of_ble_eq_true rfl) (fun v_1 X_2 hp_3 => ?_)
  obtain ⟨rfl, rfl⟩ := hp_3
  refine z_st (st' := [.int (s_free vs σ h nd)]) rfl ?_
  refine z_aload_n 0 dX1_holds_6 rfl ?_
  refine z_iload_n 3 dX1_holds_7 rfl ?_
  obtain ⟨a_4, m_5, k_8, he_6, hk_9, hkv_10, ha_7⟩ := hgs d (by omega)
  refine z_callV (As := [.int (nI (d))]) (c_guest (K := (cput K s σ ds dt yr)) (F := F) (gl := gl) hA hO hxv hlh heh hch1 hch2 hlg heg hcg1 hcg2 d (by omega) hk_9 he_6 ha_7) q1143 q1145 qs31 q112 q1146 nm_X1_guest (cX_obj hA) rfl rfl rfl (Nat.le_of_ble_eq_true rfl) ⟨Nat.le_of_ble_eq_true rfl, Nat.le_of_ble_eq_true rfl⟩ dX1_holds_8 rfl rfl (Nat.le_of_ble_eq_true rfl) (Nat.le_of_ble_eq_true rfl) (fun v_11 X_12 hp_13 => ?_)
  obtain ⟨rfl, rfl⟩ := hp_13
  refine z_st (st' := [.ref a_4, .int (s_free vs σ h nd)]) rfl ?_
  refine z_gBeds (cX_lo hA ha_7) (hk0 := hk_9) q1149 (Nat.le_of_ble_eq_true rfl) (Nat.le_of_ble_eq_true rfl) (Nat.le_of_ble_eq_true rfl) dX1_holds_11 (Nat.le_of_ble_eq_true rfl) (Nat.le_of_ble_eq_true rfl) ?_
  refine z_eq (y := s_wid vs d) (show (if k_8 = 1 then (2 : Int32) else 1) = s_wid vs d by unfold s_wid; rw [hkv_10]; exact s_kw hk_9) ?_
  refine z_icmp_lt 38 dX1_holds_14 (by decide) (fun c_14 => ?_) (fun c_14 => ?_)
  · -- s_free vs σ h nd < s_wid vs d
    have c_14' := Int32.not_le.mpr c_14
    refine z_iconst (v := 0) dX1_holds_38 (by decide) ?_
    exact z_zret dX1_holds_39 rfl (by first | rfl | decide | exact zb_nar _) (Nat.le_of_ble_eq_true rfl) (Nat.le_of_ble_eq_true rfl) ⟨congrArg some (congrArg Value.int (by unfold s_holds; simp [zb, c_14, c_14'])), rfl⟩
  · -- ¬ s_free vs σ h nd < s_wid vs d
    have c_14' := Int32.not_lt.mp c_14
    refine z_aload_n 1 dX1_holds_17 rfl ?_
    refine z_iload_n 2 dX1_holds_18 rfl ?_
    refine z_callV (As := [.int (nI (h))]) (c_in (F := F) (O := O) (gl := gl) hA hs (nI (h))) q1159 q1160 q1161 q118 q1162 nm_X4_in (cX_st hA hs) rfl rfl rfl (Nat.le_of_ble_eq_true rfl) ⟨Nat.le_of_ble_eq_true rfl, Nat.le_of_ble_eq_true rfl⟩ dX1_holds_19 rfl rfl (Nat.le_of_ble_eq_true rfl) (Nat.le_of_ble_eq_true rfl) (fun v_15 X_16 hp_17 => ?_)
    obtain ⟨rfl, rfl⟩ := hp_17
    refine z_st (st' := [.int (s_in σ (nI (h)) 6)]) rfl ?_
    refine z_eq (y := s_in σ (nI (h)) nd) (s_in_6 hz (nI_m1 (by omega)) hnd) ?_
    refine z_aload_n 0 dX1_holds_22 rfl ?_
    refine z_iload_n 3 dX1_holds_23 rfl ?_
    obtain ⟨a_18, m_19, k_22, he_20, hk_23, hkv_24, ha_21⟩ := hgs d (by omega)
    refine z_callV (As := [.int (nI (d))]) (c_guest (K := (cput K s σ ds dt yr)) (F := F) (gl := gl) hA hO hxv hlh heh hch1 hch2 hlg heg hcg1 hcg2 d (by omega) hk_23 he_20 ha_21) q1143 q1145 qs31 q112 q1146 nm_X1_guest (cX_obj hA) rfl rfl rfl (Nat.le_of_ble_eq_true rfl) ⟨Nat.le_of_ble_eq_true rfl, Nat.le_of_ble_eq_true rfl⟩ dX1_holds_24 rfl rfl (Nat.le_of_ble_eq_true rfl) (Nat.le_of_ble_eq_true rfl) (fun v_25 X_26 hp_27 => ?_)
    obtain ⟨rfl, rfl⟩ := hp_27
    refine z_st (st' := [.ref a_18, .int (s_in σ (nI (h)) nd)]) rfl ?_
    refine z_getG (v := .int (vs (5 * d + 16))) 4 (cX_lo hA ha_21) hk_23 (by decide) q929 rfl dX1_holds_27 ?_
    refine z_iand dX1_holds_30 ?_
    refine z_if_ne 38 dX1_holds_31 (by decide) (fun c_28 => ?_) (fun c_28 => ?_)
    · -- ¬ ((s_in σ (nI (h)) nd) &&& (vs (5 * d + 16))) = 0
      refine z_iconst (v := 0) dX1_holds_38 (by decide) ?_
      exact z_zret dX1_holds_39 rfl (by first | rfl | decide | exact zb_nar _) (Nat.le_of_ble_eq_true rfl) (Nat.le_of_ble_eq_true rfl) ⟨congrArg some (congrArg Value.int (by unfold s_holds; simp [zb, c_14, c_14', c_28])), rfl⟩
    · -- ((s_in σ (nI (h)) nd) &&& (vs (5 * d + 16))) = 0
      refine z_iconst (v := 1) dX1_holds_34 (by decide) ?_
      refine z_goto 39 dX1_holds_35 (by decide) ?_
      exact z_zret dX1_holds_39 rfl (by first | rfl | decide | exact zb_nar _) (Nat.le_of_ble_eq_true rfl) (Nat.le_of_ble_eq_true rfl) ⟨congrArg some (congrArg Value.int (by unfold s_holds; simp [zb, c_14, c_14', c_28])), rfl⟩
set_option maxHeartbeats 4000000 in
theorem c_canMove {g : zG} {A : Nat → Nat} {K : Nat → Nat → Int32} {F : Nat → Int32} {O : Nat → Nat → Option Nat} {gl : Int64} {X : zX} (hA : cok g A X) {v : Nat} (hO : O 0 0 = some v) {vs : Nat → Int32} {nh nd : Nat} {own : Nat → Nat} {wv : Int32 → Int32 → Int32 → Int32 → Int32} (hV : s_ok vs nh nd own) (hv : cvl g X v vs nh nd wv) {s : Nat} (hs : cst A s) {σ ds : Nat → Int32} {dt yr : Int32} (hz : s_cz σ nd) (d h : Nat) (hd : d < nd) (hh : h < 4) : zN g m_X1_canMove ({ frames := 6, cells := 0, slots := 0, locals := 132 } : Room) [.ref (A 99), .ref (A (s + 9)), .int (nI (d)), .int (nI (h))] (cX g A (cput K s σ ds dt yr) F O gl X) (fun rv X' => rv = some (.int (zb (s_may vs σ nd d h))) ∧ X' = (cX g A (cput K s σ ds dt yr) F O gl X)) := by
  refine zN.of (by decide +kernel) (Nat.le_of_ble_eq_true rfl) rfl ?_
  refine z_lv (lv' := [(0, .ref (A 99)), (1, .ref (A (s + 9))), (2, .int (nI (d))), (3, .int (nI (h)))]) [0, 1, 2, 3] rfl ?_
  have hA2 := hA.2.2.1
  obtain ⟨hs1, hs2, hs3⟩ := id hs
  have hV9 := hV
  have hv9 := hv
  obtain ⟨h0, hnh, h1, hnd, hown⟩ := hV9
  obtain ⟨lh, lg, fh, fg, st9, fa, hxv, ⟨mh, eh, ch, hlh, heh, hch1, hch2⟩, ⟨mg, eg, cg, hlg, heg, hcg1, hcg2⟩, hhs, hgs, hst9, hfa⟩ := hv9
  refine z_aload_n 1 dX1_canMove_0 rfl ?_
  refine cz_getSN (s := s) (v := .ref (A (s + 2))) 2 hA hs (by decide) q265 rfl dX1_canMove_1 ?_
  refine z_iload_n 2 dX1_canMove_4 rfl ?_
  refine cz_iald (v := σ (d + 6)) (s + 2) d hA (by unfold cia; omega) rfl (by rw [csz_q hA hs (by omega)]; omega) (cput_where (by omega)) dX1_canMove_5 ?_
  refine z_if_lt 33 dX1_canMove_6 (by decide) (fun c_1 => ?_) (fun c_1 => ?_)
  · -- σ (d + 6) < 0
    have c_1' := Int32.not_le.mpr c_1
    refine z_iconst (v := 0) dX1_canMove_33 (by decide) ?_
    exact z_zret dX1_canMove_34 rfl (by first | rfl | decide | exact zb_nar _) (Nat.le_of_ble_eq_true rfl) (Nat.le_of_ble_eq_true rfl) ⟨congrArg some (congrArg Value.int (by unfold s_may; simp [zb, c_1, c_1'])), rfl⟩
  · -- ¬ σ (d + 6) < 0
    have c_1' := Int32.not_lt.mp c_1
    refine z_aload_n 1 dX1_canMove_9 rfl ?_
    refine cz_getSN (s := s) (v := .ref (A (s + 2))) 2 hA hs (by decide) q265 rfl dX1_canMove_10 ?_
    refine z_iload_n 2 dX1_canMove_13 rfl ?_
    refine cz_iald (v := σ (d + 6)) (s + 2) d hA (by unfold cia; omega) rfl (by rw [csz_q hA hs (by omega)]; omega) (cput_where (by omega)) dX1_canMove_14 ?_
    refine z_iload_n 3 dX1_canMove_15 rfl ?_
    refine z_icmp_eq 33 dX1_canMove_16 (by decide) (fun c_2 => ?_) (fun c_2 => ?_)
    · -- σ (d + 6) = nI (h)
      refine z_iconst (v := 0) dX1_canMove_33 (by decide) ?_
      exact z_zret dX1_canMove_34 rfl (by first | rfl | decide | exact zb_nar _) (Nat.le_of_ble_eq_true rfl) (Nat.le_of_ble_eq_true rfl) ⟨congrArg some (congrArg Value.int (by unfold s_may; simp [zb, c_1, c_1', c_2])), rfl⟩
    · -- ¬ σ (d + 6) = nI (h)
      refine z_aload_n 0 dX1_canMove_19 rfl ?_
      refine z_aload_n 1 dX1_canMove_20 rfl ?_
      refine z_iload_n 3 dX1_canMove_21 rfl ?_
      refine z_iload_n 2 dX1_canMove_22 rfl ?_
      refine z_callV (As := [.ref (A (s + 9)), .int (nI (h)), .int (nI (d))]) (c_holds (F := F) (gl := gl) (K := K) (σ := σ) (ds := ds) (dt := dt) (yr := yr) hA hO hV hv hs hz h d (by omega) (by omega)) q1237 q1239 qs38 q112 q1240 nm_X1_holds (cX_obj hA) rfl rfl rfl (Nat.le_of_ble_eq_true rfl) ⟨Nat.le_of_ble_eq_true rfl, Nat.le_of_ble_eq_true rfl⟩ dX1_canMove_23 rfl rfl (Nat.le_of_ble_eq_true rfl) (Nat.le_of_ble_eq_true rfl) (fun v_3 X_4 hp_5 => ?_)
      obtain ⟨rfl, rfl⟩ := hp_5
      refine z_st (st' := [.int (zb (s_holds vs σ nd h d))]) rfl ?_
      refine z_if_eqb 33 dX1_canMove_26 (by decide) (fun c_6 => ?_) (fun c_6 => ?_)
      · -- s_holds vs σ nd h d = false
        refine z_iconst (v := 0) dX1_canMove_33 (by decide) ?_
        exact z_zret dX1_canMove_34 rfl (by first | rfl | decide | exact zb_nar _) (Nat.le_of_ble_eq_true rfl) (Nat.le_of_ble_eq_true rfl) ⟨congrArg some (congrArg Value.int (by unfold s_may; simp [zb, c_1, c_1', c_2, c_6])), rfl⟩
      · -- s_holds vs σ nd h d = true
        refine z_iconst (v := 1) dX1_canMove_29 (by decide) ?_
        refine z_goto 34 dX1_canMove_30 (by decide) ?_
        exact z_zret dX1_canMove_34 rfl (by first | rfl | decide | exact zb_nar _) (Nat.le_of_ble_eq_true rfl) (Nat.le_of_ble_eq_true rfl) ⟨congrArg some (congrArg Value.int (by unfold s_may; simp [zb, c_1, c_1', c_2, c_6])), rfl⟩
set_option maxHeartbeats 4000000 in
theorem c_taking {g : zG} {A : Nat → Nat} {K : Nat → Nat → Int32} {F : Nat → Int32} {O : Nat → Nat → Option Nat} {gl : Int64} {X : zX} (hA : cok g A X) {v : Nat} (hO : O 0 0 = some v) {vs : Nat → Int32} {nh nd : Nat} {own : Nat → Nat} {wv : Int32 → Int32 → Int32 → Int32 → Int32} (hV : s_ok vs nh nd own) (hv : cvl g X v vs nh nd wv) {s : Nat} (hs : cst A s) {σ ds : Nat → Int32} {dt yr : Int32} (hz : s_cz σ nd) (d : Nat) (hd : d < nd) : zN g m_X1_taking ({ frames := 6, cells := 0, slots := 0, locals := 132 } : Room) [.ref (A 99), .ref (A (s + 9)), .int (nI (d))] (cX g A (cput K s σ ds dt yr) F O gl X) (fun rv X' => rv = some (.int (s_bed vs σ nh nd (own d) d)) ∧ X' = (cX g A (cput K s σ ds dt yr) F O gl X)) := by
  refine zN.of (by decide +kernel) (Nat.le_of_ble_eq_true rfl) rfl ?_
  refine z_lv (lv' := [(0, .ref (A 99)), (1, .ref (A (s + 9))), (2, .int (nI (d)))]) [0, 1, 2] rfl ?_
  have hA2 := hA.2.2.1
  obtain ⟨hs1, hs2, hs3⟩ := id hs
  have hV9 := hV
  have hv9 := hv
  obtain ⟨h0, hnh, h1, hnd, hown⟩ := hV9
  obtain ⟨lh, lg, fh, fg, st9, fa, hxv, ⟨mh, eh, ch, hlh, heh, hch1, hch2⟩, ⟨mg, eg, cg, hlg, heg, hcg1, hcg2⟩, hhs, hgs, hst9, hfa⟩ := hv9
  have hod := (hown d hd).2
  refine z_aload_n 0 dX1_taking_0 rfl ?_
  refine z_iload_n 2 dX1_taking_1 rfl ?_
  obtain ⟨a_1, m_2, k_5, he_3, hk_6, hkv_7, ha_4⟩ := hgs d (by omega)
  refine z_callV (As := [.int (nI (d))]) (c_guest (K := (cput K s σ ds dt yr)) (F := F) (gl := gl) hA hO hxv hlh heh hch1 hch2 hlg heg hcg1 hcg2 d (by omega) hk_6 he_3 ha_4) q1143 q1145 qs31 q112 q1146 nm_X1_guest (cX_obj hA) rfl rfl rfl (Nat.le_of_ble_eq_true rfl) ⟨Nat.le_of_ble_eq_true rfl, Nat.le_of_ble_eq_true rfl⟩ dX1_taking_2 rfl rfl (Nat.le_of_ble_eq_true rfl) (Nat.le_of_ble_eq_true rfl) (fun v_8 X_9 hp_10 => ?_)
  obtain ⟨rfl, rfl⟩ := hp_10
  refine z_st (st' := [.ref a_1]) rfl ?_
  refine z_getG (v := .int (nI ((own d)))) 1 (cX_lo hA ha_4) hk_6 (by decide) q922 (congrArg (fun z => some (Value.int z)) (hown d hd).1) dX1_taking_5 ?_
  refine z_istore_n (lv' := [(3, .int (nI ((own d)))), (0, .ref (A 99)), (1, .ref (A (s + 9))), (2, .int (nI (d)))]) dX1_taking_8 rfl (by decide) rfl ?_
  refine z_aload_n 1 dX1_taking_9 rfl ?_
  refine z_aload_n 2 dX1_taking_10 rfl ?_
  refine z_iload_n 0 dX1_taking_11 rfl ?_
  refine z_iload_n 3 dX1_taking_12 rfl ?_
  refine z_callV (As := [.ref (A (s + 9)), .int (nI ((own d))), .int (nI (d))]) (c_holds (F := F) (gl := gl) (K := K) (σ := σ) (ds := ds) (dt := dt) (yr := yr) hA hO hV hv hs hz (own d) d (by omega) (by omega)) q1237 q1239 qs38 q112 q1240 nm_X1_holds (cX_obj hA) rfl rfl rfl (Nat.le_of_ble_eq_true rfl) ⟨Nat.le_of_ble_eq_true rfl, Nat.le_of_ble_eq_true rfl⟩ dX1_taking_13 rfl rfl (Nat.le_of_ble_eq_true rfl) (Nat.le_of_ble_eq_true rfl) (fun v_11 X_12 hp_13 => ?_)
  obtain ⟨rfl, rfl⟩ := hp_13
  refine z_st (st' := [.int (zb (s_holds vs σ nd (own d) d))]) rfl ?_
  refine z_if_eqb 21 dX1_taking_16 (by decide) (fun c_14 => ?_) (fun c_14 => ?_)
  · -- s_holds vs σ nd (own d) d = false
    refine z_iconst (v := 0) dX1_taking_21 (by decide) ?_
    refine z_istore (lv' := [(4, .int 0), (3, .int (nI ((own d)))), (0, .ref (A 99)), (1, .ref (A (s + 9))), (2, .int (nI (d)))]) dX1_taking_22 (by decide) rfl ?_
    have loop_19 : ∀ (q_16 i_15 : Nat), i_15 + q_16 = nh → 0 ≤ i_15 → s_bed vs σ nh nd (own d) d = s_first vs σ nd (own d) d q_16 i_15 → zZ g m_X1_taking (fun rv X' => rv = some (.int (s_bed vs σ nh nd (own d) d)) ∧ X' = (cX g A (cput K s σ ds dt yr) F O gl X), zno, ({ frames := 6, cells := 0, slots := 0, locals := 132 } : Room)) 0 0 (cX g A (cput K s σ ds dt yr) F O gl X) 24 [(0, .ref (A 99)), (1, .ref (A (s + 9))), (2, .int (nI (d))), (3, .int (nI ((own d)))), (4, .int (nI (i_15)))] [] := by
      intro q_16
      induction q_16 with
      | zero =>
        intro i_15 hb_18 lo_21  hi_20
        obtain rfl : nh = i_15 := by omega
        refine z_iload 4 dX1_taking_24 rfl ?_
        refine z_aload_n 0 dX1_taking_26 rfl ?_
        refine z_callV (As := []) (c_houses (K := (cput K s σ ds dt yr)) (F := F) (gl := gl) hA hO hxv hlh heh hch1 hch2 hlg heg hcg1 hcg2) q1127 q1129 qs28 q112 q1130 nm_X1_houses (cX_obj hA) rfl rfl rfl (Nat.le_of_ble_eq_true rfl) ⟨Nat.le_of_ble_eq_true rfl, Nat.le_of_ble_eq_true rfl⟩ dX1_taking_27 rfl rfl (Nat.le_of_ble_eq_true rfl) (Nat.le_of_ble_eq_true rfl) (fun v_22 X_23 hp_24 => ?_)
        obtain ⟨rfl, rfl⟩ := hp_24
        refine z_st (st' := [.int (nI (nh)), .int (nI (nh))]) rfl ?_
        refine z_icmp_geN (a := nh) (b := nh) 69 (by omega) (by omega) dX1_taking_30 (by decide) (fun c_25 => ?_) (fun c_25 => absurd c_25 (by omega))
        refine z_iconst (v := zm1) dX1_taking_69 (by decide) ?_
        exact z_iret dX1_taking_70 rfl (Nat.le_of_ble_eq_true rfl) (Nat.le_of_ble_eq_true rfl) ⟨congrArg some (congrArg Value.int (by rw [hi_20]; rfl)), rfl⟩
      | succ q_16 ih_17 =>
        intro i_15 hb_18 lo_21  hi_20
        refine z_iload 4 dX1_taking_24 rfl ?_
        refine z_aload_n 0 dX1_taking_26 rfl ?_
        refine z_callV (As := []) (c_houses (K := (cput K s σ ds dt yr)) (F := F) (gl := gl) hA hO hxv hlh heh hch1 hch2 hlg heg hcg1 hcg2) q1127 q1129 qs28 q112 q1130 nm_X1_houses (cX_obj hA) rfl rfl rfl (Nat.le_of_ble_eq_true rfl) ⟨Nat.le_of_ble_eq_true rfl, Nat.le_of_ble_eq_true rfl⟩ dX1_taking_27 rfl rfl (Nat.le_of_ble_eq_true rfl) (Nat.le_of_ble_eq_true rfl) (fun v_26 X_27 hp_28 => ?_)
        obtain ⟨rfl, rfl⟩ := hp_28
        refine z_st (st' := [.int (nI (nh)), .int (nI (i_15))]) rfl ?_
        refine z_icmp_geN (a := i_15) (b := nh) 69 (by omega) (by omega) dX1_taking_30 (by decide) (fun c_29 => absurd c_29 (by omega)) (fun c_29 => ?_)
        refine z_aload_n 0 dX1_taking_33 rfl ?_
        refine z_iload_n 3 dX1_taking_34 rfl ?_
        obtain ⟨a_30, m_31, he_32, ha_33⟩ := hhs (own d) (by omega)
        refine z_callV (As := [.int (nI ((own d)))]) (c_home (K := (cput K s σ ds dt yr)) (F := F) (gl := gl) hA hO hxv hlh heh hch1 hch2 hlg heg hcg1 hcg2 (own d) (by omega) he_32 ha_33) q1163 q1165 qs32 q112 q1166 nm_X1_home (cX_obj hA) rfl rfl rfl (Nat.le_of_ble_eq_true rfl) ⟨Nat.le_of_ble_eq_true rfl, Nat.le_of_ble_eq_true rfl⟩ dX1_taking_35 rfl rfl (Nat.le_of_ble_eq_true rfl) (Nat.le_of_ble_eq_true rfl) (fun v_34 X_35 hp_36 => ?_)
        obtain ⟨rfl, rfl⟩ := hp_36
        refine z_st (st' := [.ref a_30]) rfl ?_
        refine z_getN (v := .int (vs (2 * (own d) + 5))) 2 (cX_lo hA ha_33) rfl in_X7 (by decide) q816 rfl dX1_taking_38 ?_
        refine z_iload 4 dX1_taking_41 rfl ?_
        refine z_callS (As := [.int (vs (2 * (own d) + 5)), .int (nI (i_15))]) (c_isIn (vs (2 * (own d) + 5)) i_15) q1241 q903 q112 q904 nm_X1_isIn rfl (Nat.le_of_ble_eq_true rfl) ⟨Nat.le_of_ble_eq_true rfl, Nat.le_of_ble_eq_true rfl⟩ dX1_taking_43 rfl rfl (Nat.le_of_ble_eq_true rfl) (Nat.le_of_ble_eq_true rfl) (fun v_37 X_38 hp_39 => ?_)
        obtain ⟨rfl, rfl⟩ := hp_39
        refine z_st (st' := [.int (zb (s_isBit (vs (2 * (own d) + 5)) i_15))]) rfl ?_
        refine z_if_eqb 63 dX1_taking_46 (by decide) (fun c_40 => ?_) (fun c_40 => ?_)
        · -- s_isBit (vs (2 * (own d) + 5)) i_15 = false
          refine z_iinc (v := nI (i_15 + 1)) (lv' := [(4, .int (nI (i_15 + 1))), (0, .ref (A 99)), (1, .ref (A (s + 9))), (2, .int (nI (d))), (3, .int (nI ((own d))))]) 4 dX1_taking_63 rfl (nI_1 _) (by decide) rfl ?_
          refine z_goto 24 dX1_taking_66 (by decide) ?_
          refine z_lv (lv' := [(0, .ref (A 99)), (1, .ref (A (s + 9))), (2, .int (nI (d))), (3, .int (nI ((own d)))), (4, .int (nI (i_15 + 1)))]) [1, 2, 3, 4, 0] rfl ?_
          exact ih_17 (i_15 + 1) (by omega) (by omega)  (by rw [hi_20, s_bedE, if_neg (by simp [c_29, c_40])])
        · -- s_isBit (vs (2 * (own d) + 5)) i_15 = true
          refine z_aload_n 0 dX1_taking_49 rfl ?_
          refine z_aload_n 1 dX1_taking_50 rfl ?_
          refine z_iload 4 dX1_taking_51 rfl ?_
          refine z_iload_n 2 dX1_taking_53 rfl ?_
          refine z_callV (As := [.ref (A (s + 9)), .int (nI (i_15)), .int (nI (d))]) (c_holds (F := F) (gl := gl) (K := K) (σ := σ) (ds := ds) (dt := dt) (yr := yr) hA hO hV hv hs hz i_15 d (by omega) (by omega)) q1237 q1239 qs38 q112 q1240 nm_X1_holds (cX_obj hA) rfl rfl rfl (Nat.le_of_ble_eq_true rfl) ⟨Nat.le_of_ble_eq_true rfl, Nat.le_of_ble_eq_true rfl⟩ dX1_taking_54 rfl rfl (Nat.le_of_ble_eq_true rfl) (Nat.le_of_ble_eq_true rfl) (fun v_41 X_42 hp_43 => ?_)
          obtain ⟨rfl, rfl⟩ := hp_43
          refine z_st (st' := [.int (zb (s_holds vs σ nd i_15 d))]) rfl ?_
          refine z_if_eqb 63 dX1_taking_57 (by decide) (fun c_44 => ?_) (fun c_44 => ?_)
          · -- s_holds vs σ nd i_15 d = false
            refine z_iinc (v := nI (i_15 + 1)) (lv' := [(4, .int (nI (i_15 + 1))), (0, .ref (A 99)), (1, .ref (A (s + 9))), (2, .int (nI (d))), (3, .int (nI ((own d))))]) 4 dX1_taking_63 rfl (nI_1 _) (by decide) rfl ?_
            refine z_goto 24 dX1_taking_66 (by decide) ?_
            refine z_lv (lv' := [(0, .ref (A 99)), (1, .ref (A (s + 9))), (2, .int (nI (d))), (3, .int (nI ((own d)))), (4, .int (nI (i_15 + 1)))]) [1, 2, 3, 4, 0] rfl ?_
            exact ih_17 (i_15 + 1) (by omega) (by omega)  (by rw [hi_20, s_bedE, if_neg (by simp [c_29, c_40, c_44])])
          · -- s_holds vs σ nd i_15 d = true
            refine z_iload 4 dX1_taking_60 rfl ?_
            exact z_iret dX1_taking_62 rfl (Nat.le_of_ble_eq_true rfl) (Nat.le_of_ble_eq_true rfl) ⟨congrArg some (congrArg Value.int (by rw [hi_20, s_bedE, if_pos (by simp [c_29, c_40, c_44])])), rfl⟩
    refine z_lv (lv' := [(0, .ref (A 99)), (1, .ref (A (s + 9))), (2, .int (nI (d))), (3, .int (nI ((own d)))), (4, .int 0)]) [2, 3, 4, 1, 0] rfl ?_
    exact loop_19 (nh - 0) 0 (by omega) (Nat.le_refl _)  (by unfold s_bed; rw [if_neg (by rw [c_14]; decide), Nat.sub_zero])
  · -- s_holds vs σ nd (own d) d = true
    refine z_iload_n 0 dX1_taking_19 rfl ?_
    exact z_iret dX1_taking_20 rfl (Nat.le_of_ble_eq_true rfl) (Nat.le_of_ble_eq_true rfl) ⟨congrArg some (congrArg Value.int (by unfold s_bed; rw [if_pos c_14])), rfl⟩
