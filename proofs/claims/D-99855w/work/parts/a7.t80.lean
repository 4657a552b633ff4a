/-! THE COMPONENT: marks. Printed by t80.py -/
set_option maxRecDepth 100000
/-- a mark's role -/
def cmr (A : Nat → Nat) (m : Nat) : Prop := 100000 ≤ m ∧ m + 10 ≤ 100000 + 10 * A 3 ∧ m % 10 = 0
theorem s_be_o {K : Nat → Nat → Int32} {o s r : Nat} (h : o + 10 ≤ s ∨ s + 10 ≤ o) (hr : r < s ∨ s + 10 ≤ r) : s_be K o s r = K r := by
  funext q
  rw [s_be_at h, if_neg (by omega), if_neg (by omega), if_neg (by omega)]
section CRM
variable {g : zG} {M : zMth} {P : zPo} {k n : Nat} {X : zX} {pc : Nat} {lv : List (Nat × Value)} {st : List Value} {A : Nat → Nat} {K K' : Nat → Nat → Int32} {F : Nat → Int32} {O O' : Nat → Nat → Option Nat} {gl : Int64} {index m : Nat}
theorem cX_upmk (h : cok g A X) (hm : cmr A m) (v : Int32) : zup (cX g A K F O gl X) (A (m + 8)) (.inr (22, (cfmk A K O m).set 3 (.int v))) = cX g A (zs K (m + 8) 3 v) F O gl X := by
  obtain ⟨h1, h2, h3⟩ := hm
  refine zov_up h.1 (crs_of (by unfold crP; omega)) ?_ (fun j hj => cw_K (zs_a hj))
  unfold cw
  rw [if_neg (by omega), if_neg (by omega), if_neg (by omega), if_neg (by omega), if_neg (by omega), if_neg (by omega), if_neg (by omega), if_neg (by omega), if_pos (by omega), show m + 8 - 8 = m by omega]
  unfold cfmk
  rw [zs_s]
  rfl
theorem cz_getM {v : Value} {host : String} (q : Nat) (hA : cok g A X) (hm : cmr A m) (hq : q < 4) (hlk : Cond.fieldLinkNest M.1.cls index (TX22 q).1 (TX22 q).2.1 (TX22 q).2.2.1 host ∈ lw_tbl) (hv : (cfmk A K O m)[q]? = some v) (hd : decode M.2.1 pc = .ok (.getfield index, 3)) (kk : zZ g M P k n (cX g A K F O gl X) (pc + 3) lv (v :: st)) : zZ g M P k n (cX g A K F O gl X) pc lv (.ref (A (m + 8)) :: st) :=
  z_getN q (cX_mo hA hm.1 hm.2.1 hm.2.2) rfl in_X22 hq hlk hv hd kk
theorem cz_putM {v : Int32} {host : String} (hA : cok g A X) (hm : cmr A m) (hlk : Cond.fieldLinkNest M.1.cls index (TX22 3).1 (TX22 3).2.1 (TX22 3).2.2.1 host ∈ lw_tbl) (hK : zs K (m + 8) 3 v = K') (hd : decode M.2.1 pc = .ok (.putfield index, 3)) (kk : zZ g M P k n (cX g A K' F O gl X) (pc + 3) lv st) : zZ g M P k n (cX g A K F O gl X) pc lv (.int v :: .ref (A (m + 8)) :: st) := by
  subst hK
  have h9 := hm
  obtain ⟨h1, h2, h3⟩ := h9
  exact z_putN 3 (cX_mo hA h1 h2 h3) rfl in_X22 (by decide) tyX22 tyX22_ok nmX22 hlk rfl (tyX22_ok 3 (by decide)) rfl rfl (by show 3 < 4; decide) (cok_lt hA (crs_of (by unfold crP; omega))) hd (cX_upmk hA hm v) kk
theorem cz_aldM {ix : Int32} {v : Value} (j : Nat) (hA : cok g A X) (hj : ix = nI j) (hlt : j < 4) (hv : va_rf (O 20 j) = v) (hd : decode M.2.1 pc = .ok (.aaload, 1)) (kk : zZ g M P k n (cX g A K F O gl X) (pc + 1) lv (v :: st)) : zZ g M P k n (cX g A K F O gl X) pc lv (.int ix :: .ref (A 20) :: st) :=
  z_aald7 j (cX_mk hA) hj hlt (by decide) hv hd kk
theorem cz_astM {ix : Int32} (j : Nat) (hA : cok g A X) (hm : cmr A m) (hj : ix = nI j) (hlt : j < 4) (hO : zs O 20 j (some (A (m + 8))) = O') (hd : decode M.2.1 pc = .ok (.aastore, 1)) (kk : zZ g M P k n (cX g A K F O' gl X) (pc + 1) lv st) : zZ g M P k n (cX g A K F O gl X) pc lv (.ref (A (m + 8)) :: .int ix :: .ref (A 20) :: st) := by
  subst hO
  exact z_aast7 j (cX_mk hA) (cX_mo hA hm.1 hm.2.1 hm.2.2) rfl rfl hj hlt (by decide) (cok_lt hA (crs_of (by unfold crP; omega))) hd (cX_upm hA j _) kk
end CRM
set_option maxHeartbeats 4000000 in
theorem c_mark_out1 {g : zG} {A : Nat → Nat} {K : Nat → Nat → Int32} {F : Nat → Int32} {O : Nat → Nat → Option Nat} {gl : Int64} {X : zX} (hA : cok g A X) {x : Int32} (hx : (decide (0 ≤ x) && decide (x ≤ 3)) = false) : zN g m_X1_mark ({ frames := 3, cells := 10, slots := 63, locals := 80 } : Room) [.ref (A 99), .int x, .int 1] (cX g A K F O gl X) (fun rv X' => rv = some (.int 0) ∧ X' = (cX g A K F O gl X)) := by
  refine zN.of (by decide +kernel) (Nat.le_of_ble_eq_true rfl) rfl ?_
  refine z_lv (lv' := [(0, .ref (A 99)), (1, .int x), (2, .int 1)]) [0, 1, 2] rfl ?_
  have hA2 := hA.2.2.1
  refine z_iload_n 1 dX1_mark_0 rfl ?_
  refine z_iconst (v := 0) dX1_mark_1 (by decide) ?_
  refine z_iconst (v := 3) dX1_mark_2 (by decide) ?_
  refine z_callS (As := [.int x, .int 0, .int 3]) (c_inn x 0 3) q1132 q1133 q112 q1134 nm_X1_in rfl (Nat.le_of_ble_eq_true rfl) ⟨Nat.le_of_ble_eq_true rfl, Nat.le_of_ble_eq_true rfl⟩ dX1_mark_3 rfl rfl (Nat.le_of_ble_eq_true rfl) (Nat.le_of_ble_eq_true rfl) (fun v_1 X_2 hp_3 => ?_)
  obtain ⟨rfl, rfl⟩ := hp_3
  refine z_st (st' := [.int (zb (decide (0 ≤ x) && decide (x ≤ 3)))]) rfl ?_
  refine z_if_eqb 22 dX1_mark_6 (by decide) (fun c_4 => ?_) (fun c_4 => absurd c_4 (by rw [hx]; decide))
  refine z_iconst (v := 0) dX1_mark_22 (by decide) ?_
  exact z_zret dX1_mark_23 rfl (by first | rfl | decide | exact zb_nar _) (Nat.le_of_ble_eq_true rfl) (Nat.le_of_ble_eq_true rfl) ⟨rfl, rfl⟩
set_option maxHeartbeats 4000000 in
theorem c_mark_out0 {g : zG} {A : Nat → Nat} {K : Nat → Nat → Int32} {F : Nat → Int32} {O : Nat → Nat → Option Nat} {gl : Int64} {X : zX} (hA : cok g A X) {x : Int32} (hx : (decide (0 ≤ x) && decide (x ≤ 3)) = false) : zN g m_X1_mark ({ frames := 3, cells := 10, slots := 63, locals := 80 } : Room) [.ref (A 99), .int x, .int 0] (cX g A K F O gl X) (fun rv X' => rv = some (.int 0) ∧ X' = (cX g A K F O gl X)) := by
  refine zN.of (by decide +kernel) (Nat.le_of_ble_eq_true rfl) rfl ?_
  refine z_lv (lv' := [(0, .ref (A 99)), (1, .int x), (2, .int 0)]) [0, 1, 2] rfl ?_
  have hA2 := hA.2.2.1
  refine z_iload_n 1 dX1_mark_0 rfl ?_
  refine z_iconst (v := 0) dX1_mark_1 (by decide) ?_
  refine z_iconst (v := 3) dX1_mark_2 (by decide) ?_
  refine z_callS (As := [.int x, .int 0, .int 3]) (c_inn x 0 3) q1132 q1133 q112 q1134 nm_X1_in rfl (Nat.le_of_ble_eq_true rfl) ⟨Nat.le_of_ble_eq_true rfl, Nat.le_of_ble_eq_true rfl⟩ dX1_mark_3 rfl rfl (Nat.le_of_ble_eq_true rfl) (Nat.le_of_ble_eq_true rfl) (fun v_1 X_2 hp_3 => ?_)
  obtain ⟨rfl, rfl⟩ := hp_3
  refine z_st (st' := [.int (zb (decide (0 ≤ x) && decide (x ≤ 3)))]) rfl ?_
  refine z_if_eqb 22 dX1_mark_6 (by decide) (fun c_4 => ?_) (fun c_4 => absurd c_4 (by rw [hx]; decide))
  refine z_iconst (v := 0) dX1_mark_22 (by decide) ?_
  exact z_zret dX1_mark_23 rfl (by first | rfl | decide | exact zb_nar _) (Nat.le_of_ble_eq_true rfl) (Nat.le_of_ble_eq_true rfl) ⟨rfl, rfl⟩
set_option maxHeartbeats 4000000 in
theorem c_mark_none {g : zG} {A : Nat → Nat} {K : Nat → Nat → Int32} {F : Nat → Int32} {O : Nat → Nat → Option Nat} {gl : Int64} {X : zX} (hA : cok g A X) {j : Nat} (hj : j < 4) (hx : (decide (0 ≤ nI j) && decide (nI j ≤ 3)) = true) (hOj : O 20 j = none) : zN g m_X1_mark ({ frames := 3, cells := 10, slots := 63, locals := 80 } : Room) [.ref (A 99), .int (nI (j)), .int 1] (cX g A K F O gl X) (fun rv X' => rv = some (.int 0) ∧ X' = (cX g A K F O gl X)) := by
  refine zN.of (by decide +kernel) (Nat.le_of_ble_eq_true rfl) rfl ?_
  refine z_lv (lv' := [(0, .ref (A 99)), (1, .int (nI (j))), (2, .int 1)]) [0, 1, 2] rfl ?_
  have hA2 := hA.2.2.1
  refine z_iload_n 1 dX1_mark_0 rfl ?_
  refine z_iconst (v := 0) dX1_mark_1 (by decide) ?_
  refine z_iconst (v := 3) dX1_mark_2 (by decide) ?_
  refine z_callS (As := [.int (nI (j)), .int 0, .int 3]) (c_inn (nI (j)) 0 3) q1132 q1133 q112 q1134 nm_X1_in rfl (Nat.le_of_ble_eq_true rfl) ⟨Nat.le_of_ble_eq_true rfl, Nat.le_of_ble_eq_true rfl⟩ dX1_mark_3 rfl rfl (Nat.le_of_ble_eq_true rfl) (Nat.le_of_ble_eq_true rfl) (fun v_1 X_2 hp_3 => ?_)
  obtain ⟨rfl, rfl⟩ := hp_3
  refine z_st (st' := [.int (zb (decide (0 ≤ nI (j)) && decide (nI (j) ≤ 3)))]) rfl ?_
  refine z_if_eqb 22 dX1_mark_6 (by decide) (fun c_4 => absurd c_4 (by rw [hx]; decide)) (fun c_4 => ?_)
  refine z_iload_n 2 dX1_mark_9 rfl ?_
  refine z_if_eq 24 dX1_mark_10 (by decide) (fun h_ => absurd h_ (by decide)) (fun h_ => ?_)
  refine z_aload_n 0 dX1_mark_13 rfl ?_
  refine cz_get (v := .ref (A 20)) 20 hA (by decide) q347 rfl dX1_mark_14 ?_
  refine z_iload_n 1 dX1_mark_17 rfl ?_
  refine cz_aldM (v := .null) j hA rfl (by omega) (by rw [hOj]; rfl) dX1_mark_18 ?_
  refine z_ifnonnullN dX1_mark_19 ?_
  refine z_iconst (v := 0) dX1_mark_22 (by decide) ?_
  exact z_zret dX1_mark_23 rfl (by first | rfl | decide | exact zb_nar _) (Nat.le_of_ble_eq_true rfl) (Nat.le_of_ble_eq_true rfl) ⟨rfl, rfl⟩
set_option maxHeartbeats 4000000 in
theorem c_mark_save {g : zG} {A : Nat → Nat} {K : Nat → Nat → Int32} {F : Nat → Int32} {O : Nat → Nat → Option Nat} {gl : Int64} {X : zX} (hA : cok g A X) {mr k j : Nat} (hmr : cmr A mr) (hk : 2 ≤ k ∧ k < A 2) (hj : j < 4) (hOj : O 20 j = some (A (mr + 8))) (hOm : O mr 0 = some (A (10 * k + 309))) (hx : (decide (0 ≤ nI j) && decide (nI j ≤ 3)) = true)  : zN g m_X1_mark ({ frames := 3, cells := 10, slots := 63, locals := 80 } : Room) [.ref (A 99), .int (nI (j)), .int 0] (cX g A K F O gl X) (fun rv X' => rv = some (.int 1) ∧ X' = (cX g A (zs (s_cpr (s_cpr (s_be K 300 (10 * k + 300)) 15 (mr + 6) 8) 16 (mr + 7) 8) (mr + 8) 3 (K 99 17)) F O gl X)) := by
  refine zN.of (by decide +kernel) (Nat.le_of_ble_eq_true rfl) rfl ?_
  refine z_lv (lv' := [(0, .ref (A 99)), (1, .int (nI (j))), (2, .int 0)]) [0, 1, 2] rfl ?_
  have hA2 := hA.2.2.1
  have hmr9 := hmr
  obtain ⟨hmr1, hmr2, hmr3⟩ := hmr9
  refine z_iload_n 1 dX1_mark_0 rfl ?_
  refine z_iconst (v := 0) dX1_mark_1 (by decide) ?_
  refine z_iconst (v := 3) dX1_mark_2 (by decide) ?_
  refine z_callS (As := [.int (nI (j)), .int 0, .int 3]) (c_inn (nI (j)) 0 3) q1132 q1133 q112 q1134 nm_X1_in rfl (Nat.le_of_ble_eq_true rfl) ⟨Nat.le_of_ble_eq_true rfl, Nat.le_of_ble_eq_true rfl⟩ dX1_mark_3 rfl rfl (Nat.le_of_ble_eq_true rfl) (Nat.le_of_ble_eq_true rfl) (fun v_1 X_2 hp_3 => ?_)
  obtain ⟨rfl, rfl⟩ := hp_3
  refine z_st (st' := [.int (zb (decide (0 ≤ nI (j)) && decide (nI (j) ≤ 3)))]) rfl ?_
  refine z_if_eqb 22 dX1_mark_6 (by decide) (fun c_4 => absurd c_4 (by rw [hx]; decide)) (fun c_4 => ?_)
  refine z_iload_n 2 dX1_mark_9 rfl ?_
  refine z_if_eq 24 dX1_mark_10 (by decide) (fun h_ => ?_) (fun h_ => absurd h_ (by decide))
  refine z_aload_n 0 dX1_mark_24 rfl ?_
  refine cz_get (v := .ref (A 20)) 20 hA (by decide) q347 rfl dX1_mark_25 ?_
  refine z_iload_n 1 dX1_mark_28 rfl ?_
  refine cz_aldM (v := .ref (A (mr + 8))) j hA rfl (by omega) (by rw [hOj]; rfl) dX1_mark_29 ?_
  refine z_ifnonnull 46 dX1_mark_30 (by decide) ?_
  refine z_aload_n 0 dX1_mark_46 rfl ?_
  refine cz_get (v := .ref (A 20)) 20 hA (by decide) q347 rfl dX1_mark_47 ?_
  refine z_iload_n 1 dX1_mark_50 rfl ?_
  refine cz_aldM (v := .ref (A (mr + 8))) j hA rfl (by omega) (by rw [hOj]; rfl) dX1_mark_51 ?_
  refine z_astore_n (lv' := [(3, .ref (A (mr + 8))), (0, .ref (A 99)), (1, .int (nI (j))), (2, .int 0)]) dX1_mark_52 rfl (by decide) rfl ?_
  refine z_iload_n 3 dX1_mark_53 rfl ?_
  refine z_if_eq 106 dX1_mark_54 (by decide) (fun h_ => ?_) (fun h_ => absurd h_ (by decide))
  refine z_aload_n 0 dX1_mark_106 rfl ?_
  refine cz_getM (m := mr) (v := .ref (A (10 * k + 309))) 0 hA hmr (by decide) q1460 (by show some (va_rf (O mr 0)) = _; rw [hOm]; rfl) dX1_mark_107 ?_
  refine z_aload_n 1 dX1_mark_110 rfl ?_
  refine cz_get (v := .ref (A 309)) 4 hA (by decide) q331 rfl dX1_mark_111 ?_
  refine z_callV (As := [.ref (A 309)]) (c_be_ (K := K) (F := F) (O := O) (gl := gl) hA (s := 10 * k + 300) (o := 300) ⟨by omega, by omega, by omega⟩ (cst_0 hA) (by omega)) q1202 q1203 q1204 q118 q1205 nm_X4_be (cX_st hA (s := 10 * k + 300) ⟨by omega, by omega, by omega⟩) rfl rfl rfl (Nat.le_of_ble_eq_true rfl) ⟨Nat.le_of_ble_eq_true rfl, Nat.le_of_ble_eq_true rfl⟩ dX1_mark_114 rfl rfl (Nat.le_of_ble_eq_true rfl) (Nat.le_of_ble_eq_true rfl) (fun v_5 X_6 hp_7 => ?_)
  obtain ⟨rfl, rfl⟩ := hp_7
  refine z_st (st' := []) rfl ?_
  refine z_aload_n 1 dX1_mark_117 rfl ?_
  refine cz_get (v := .ref (A 15)) 15 hA (by decide) q342 rfl dX1_mark_118 ?_
  refine z_aload_n 0 dX1_mark_121 rfl ?_
  refine cz_getM (m := mr) (v := .ref (A (mr + 6))) 1 hA hmr (by decide) q1462 rfl dX1_mark_122 ?_
  refine z_callS (As := [.ref (A 15), .ref (A (mr + 6))]) (c_copies (K := (s_be K 300 (10 * k + 300))) (F := F) (O := O) (gl := gl) hA (i := 15) (j := mr + 6) (n := 8) (by unfold cia; omega) (by unfold cia; omega) (by omega) (by unfold csz; rw [if_neg (by omega), if_pos (by omega)]) (Nat.le_refl 8)) q1361 q1207 q112 q1208 nm_X1_copies rfl (Nat.le_of_ble_eq_true rfl) ⟨Nat.le_of_ble_eq_true rfl, Nat.le_of_ble_eq_true rfl⟩ dX1_mark_125 rfl rfl (Nat.le_of_ble_eq_true rfl) (Nat.le_of_ble_eq_true rfl) (fun v_8 X_9 hp_10 => ?_)
  obtain ⟨rfl, rfl⟩ := hp_10
  refine z_st (st' := []) rfl ?_
  refine z_aload_n 1 dX1_mark_128 rfl ?_
  refine cz_get (v := .ref (A 16)) 16 hA (by decide) q343 rfl dX1_mark_129 ?_
  refine z_aload_n 0 dX1_mark_132 rfl ?_
  refine cz_getM (m := mr) (v := .ref (A (mr + 7))) 2 hA hmr (by decide) q1464 rfl dX1_mark_133 ?_
  refine z_callS (As := [.ref (A 16), .ref (A (mr + 7))]) (c_copies (K := (s_cpr (s_be K 300 (10 * k + 300)) 15 (mr + 6) 8)) (F := F) (O := O) (gl := gl) hA (i := 16) (j := mr + 7) (n := 8) (by unfold cia; omega) (by unfold cia; omega) (by omega) (by unfold csz; rw [if_neg (by omega), if_pos (by omega)]) (Nat.le_refl 8)) q1361 q1207 q112 q1208 nm_X1_copies rfl (Nat.le_of_ble_eq_true rfl) ⟨Nat.le_of_ble_eq_true rfl, Nat.le_of_ble_eq_true rfl⟩ dX1_mark_136 rfl rfl (Nat.le_of_ble_eq_true rfl) (Nat.le_of_ble_eq_true rfl) (fun v_11 X_12 hp_13 => ?_)
  obtain ⟨rfl, rfl⟩ := hp_13
  refine z_st (st' := []) rfl ?_
  refine z_aload_n 0 dX1_mark_139 rfl ?_
  refine z_aload_n 1 dX1_mark_140 rfl ?_
  refine cz_get (v := .int (K 99 17)) 17 hA (by decide) q344 (congrArg (fun z => some (Value.int z)) (by rw [s_cpr_n (by omega), s_cpr_n (by omega), s_be_o (by omega) (by omega)])) dX1_mark_141 ?_
  refine cz_putM (m := mr) (K' := (zs (s_cpr (s_cpr (s_be K 300 (10 * k + 300)) 15 (mr + 6) 8) 16 (mr + 7) 8) (mr + 8) 3 (K 99 17))) hA hmr q1465 rfl dX1_mark_144 ?_
  refine z_iconst (v := 1) dX1_mark_147 (by decide) ?_
  exact z_zret dX1_mark_148 rfl (by first | rfl | decide | exact zb_nar _) (Nat.le_of_ble_eq_true rfl) (Nat.le_of_ble_eq_true rfl) ⟨rfl, rfl⟩
set_option maxHeartbeats 4000000 in
theorem c_mark_back {g : zG} {A : Nat → Nat} {K : Nat → Nat → Int32} {F : Nat → Int32} {O : Nat → Nat → Option Nat} {gl : Int64} {X : zX} (hA : cok g A X) {mr k j : Nat} (hmr : cmr A mr) (hk : 2 ≤ k ∧ k < A 2) (hj : j < 4) (hOj : O 20 j = some (A (mr + 8))) (hOm : O mr 0 = some (A (10 * k + 309))) (hx : (decide (0 ≤ nI j) && decide (nI j ≤ 3)) = true)  : zN g m_X1_mark ({ frames := 3, cells := 10, slots := 63, locals := 80 } : Room) [.ref (A 99), .int (nI (j)), .int 1] (cX g A K F O gl X) (fun rv X' => rv = some (.int 1) ∧ X' = (cX g A (zs (zs (s_cpr (s_cpr (s_be K (10 * k + 300) 300) (mr + 6) 15 8) (mr + 7) 16 8) 99 17 (K (mr + 8) 3)) 99 10 0) F O gl X)) := by
  refine zN.of (by decide +kernel) (Nat.le_of_ble_eq_true rfl) rfl ?_
  refine z_lv (lv' := [(0, .ref (A 99)), (1, .int (nI (j))), (2, .int 1)]) [0, 1, 2] rfl ?_
  have hA2 := hA.2.2.1
  have hmr9 := hmr
  obtain ⟨hmr1, hmr2, hmr3⟩ := hmr9
  refine z_iload_n 1 dX1_mark_0 rfl ?_
  refine z_iconst (v := 0) dX1_mark_1 (by decide) ?_
  refine z_iconst (v := 3) dX1_mark_2 (by decide) ?_
  refine z_callS (As := [.int (nI (j)), .int 0, .int 3]) (c_inn (nI (j)) 0 3) q1132 q1133 q112 q1134 nm_X1_in rfl (Nat.le_of_ble_eq_true rfl) ⟨Nat.le_of_ble_eq_true rfl, Nat.le_of_ble_eq_true rfl⟩ dX1_mark_3 rfl rfl (Nat.le_of_ble_eq_true rfl) (Nat.le_of_ble_eq_true rfl) (fun v_1 X_2 hp_3 => ?_)
  obtain ⟨rfl, rfl⟩ := hp_3
  refine z_st (st' := [.int (zb (decide (0 ≤ nI (j)) && decide (nI (j) ≤ 3)))]) rfl ?_
  refine z_if_eqb 22 dX1_mark_6 (by decide) (fun c_4 => absurd c_4 (by rw [hx]; decide)) (fun c_4 => ?_)
  refine z_iload_n 2 dX1_mark_9 rfl ?_
  refine z_if_eq 24 dX1_mark_10 (by decide) (fun h_ => absurd h_ (by decide)) (fun h_ => ?_)
  refine z_aload_n 0 dX1_mark_13 rfl ?_
  refine cz_get (v := .ref (A 20)) 20 hA (by decide) q347 rfl dX1_mark_14 ?_
  refine z_iload_n 1 dX1_mark_17 rfl ?_
  refine cz_aldM (v := .ref (A (mr + 8))) j hA rfl (by omega) (by rw [hOj]; rfl) dX1_mark_18 ?_
  refine z_ifnonnull 24 dX1_mark_19 (by decide) ?_
  refine z_aload_n 0 dX1_mark_24 rfl ?_
  refine cz_get (v := .ref (A 20)) 20 hA (by decide) q347 rfl dX1_mark_25 ?_
  refine z_iload_n 1 dX1_mark_28 rfl ?_
  refine cz_aldM (v := .ref (A (mr + 8))) j hA rfl (by omega) (by rw [hOj]; rfl) dX1_mark_29 ?_
  refine z_ifnonnull 46 dX1_mark_30 (by decide) ?_
  refine z_aload_n 0 dX1_mark_46 rfl ?_
  refine cz_get (v := .ref (A 20)) 20 hA (by decide) q347 rfl dX1_mark_47 ?_
  refine z_iload_n 1 dX1_mark_50 rfl ?_
  refine cz_aldM (v := .ref (A (mr + 8))) j hA rfl (by omega) (by rw [hOj]; rfl) dX1_mark_51 ?_
  refine z_astore_n (lv' := [(3, .ref (A (mr + 8))), (0, .ref (A 99)), (1, .int (nI (j))), (2, .int 1)]) dX1_mark_52 rfl (by decide) rfl ?_
  refine z_iload_n 3 dX1_mark_53 rfl ?_
  refine z_if_eq 106 dX1_mark_54 (by decide) (fun h_ => absurd h_ (by decide)) (fun h_ => ?_)
  refine z_aload_n 1 dX1_mark_57 rfl ?_
  refine cz_get (v := .ref (A 309)) 4 hA (by decide) q331 rfl dX1_mark_58 ?_
  refine z_aload_n 0 dX1_mark_61 rfl ?_
  refine cz_getM (m := mr) (v := .ref (A (10 * k + 309))) 0 hA hmr (by decide) q1460 (by show some (va_rf (O mr 0)) = _; rw [hOm]; rfl) dX1_mark_62 ?_
  refine z_callV (As := [.ref (A (10 * k + 309))]) (c_be_ (K := K) (F := F) (O := O) (gl := gl) hA (s := 300) (o := 10 * k + 300) (cst_0 hA) ⟨by omega, by omega, by omega⟩ (by omega)) q1202 q1203 q1204 q118 q1205 nm_X4_be (cX_st hA (s := 300) (cst_0 hA)) rfl rfl rfl (Nat.le_of_ble_eq_true rfl) ⟨Nat.le_of_ble_eq_true rfl, Nat.le_of_ble_eq_true rfl⟩ dX1_mark_65 rfl rfl (Nat.le_of_ble_eq_true rfl) (Nat.le_of_ble_eq_true rfl) (fun v_5 X_6 hp_7 => ?_)
  obtain ⟨rfl, rfl⟩ := hp_7
  refine z_st (st' := []) rfl ?_
  refine z_aload_n 0 dX1_mark_68 rfl ?_
  refine cz_getM (m := mr) (v := .ref (A (mr + 6))) 1 hA hmr (by decide) q1462 rfl dX1_mark_69 ?_
  refine z_aload_n 1 dX1_mark_72 rfl ?_
  refine cz_get (v := .ref (A 15)) 15 hA (by decide) q342 rfl dX1_mark_73 ?_
  refine z_callS (As := [.ref (A (mr + 6)), .ref (A 15)]) (c_copies (K := (s_be K (10 * k + 300) 300)) (F := F) (O := O) (gl := gl) hA (i := mr + 6) (j := 15) (n := 8) (by unfold cia; omega) (by unfold cia; omega) (by omega) rfl (by have h9 : csz (mr + 6) = 8 := (by unfold csz; rw [if_neg (by omega), if_pos (by omega)]); omega)) q1361 q1207 q112 q1208 nm_X1_copies rfl (Nat.le_of_ble_eq_true rfl) ⟨Nat.le_of_ble_eq_true rfl, Nat.le_of_ble_eq_true rfl⟩ dX1_mark_76 rfl rfl (Nat.le_of_ble_eq_true rfl) (Nat.le_of_ble_eq_true rfl) (fun v_8 X_9 hp_10 => ?_)
  obtain ⟨rfl, rfl⟩ := hp_10
  refine z_st (st' := []) rfl ?_
  refine z_aload_n 0 dX1_mark_79 rfl ?_
  refine cz_getM (m := mr) (v := .ref (A (mr + 7))) 2 hA hmr (by decide) q1464 rfl dX1_mark_80 ?_
  refine z_aload_n 1 dX1_mark_83 rfl ?_
  refine cz_get (v := .ref (A 16)) 16 hA (by decide) q343 rfl dX1_mark_84 ?_
  refine z_callS (As := [.ref (A (mr + 7)), .ref (A 16)]) (c_copies (K := (s_cpr (s_be K (10 * k + 300) 300) (mr + 6) 15 8)) (F := F) (O := O) (gl := gl) hA (i := mr + 7) (j := 16) (n := 8) (by unfold cia; omega) (by unfold cia; omega) (by omega) rfl (by have h9 : csz (mr + 7) = 8 := (by unfold csz; rw [if_neg (by omega), if_pos (by omega)]); omega)) q1361 q1207 q112 q1208 nm_X1_copies rfl (Nat.le_of_ble_eq_true rfl) ⟨Nat.le_of_ble_eq_true rfl, Nat.le_of_ble_eq_true rfl⟩ dX1_mark_87 rfl rfl (Nat.le_of_ble_eq_true rfl) (Nat.le_of_ble_eq_true rfl) (fun v_11 X_12 hp_13 => ?_)
  obtain ⟨rfl, rfl⟩ := hp_13
  refine z_st (st' := []) rfl ?_
  refine z_aload_n 1 dX1_mark_90 rfl ?_
  refine z_aload_n 0 dX1_mark_91 rfl ?_
  refine cz_getM (m := mr) (v := .int (K (mr + 8) 3)) 3 hA hmr (by decide) q1465 (congrArg (fun z => some (Value.int z)) (by show (s_cpr (s_cpr (s_be K (10 * k + 300) 300) (mr + 6) 15 8) (mr + 7) 16 8) (mr + 8) 3 = _; rw [s_cpr_n (by omega), s_cpr_n (by omega), s_be_o (by omega) (by omega)])) dX1_mark_92 ?_
  refine cz_put (K' := (zs (s_cpr (s_cpr (s_be K (10 * k + 300) 300) (mr + 6) 15 8) (mr + 7) 16 8) 99 17 (K (mr + 8) 3))) 17 hA (by decide) q344 rfl dX1_mark_95 ?_
  refine z_aload_n 1 dX1_mark_98 rfl ?_
  refine z_iconst (v := 0) dX1_mark_99 (by decide) ?_
  refine cz_put (K' := (zs (zs (s_cpr (s_cpr (s_be K (10 * k + 300) 300) (mr + 6) 15 8) (mr + 7) 16 8) 99 17 (K (mr + 8) 3)) 99 10 0)) 10 hA (by decide) q337 rfl dX1_mark_100 ?_
  refine z_goto 147 dX1_mark_103 (by decide) ?_
  refine z_iconst (v := 1) dX1_mark_147 (by decide) ?_
  exact z_zret dX1_mark_148 rfl (by first | rfl | decide | exact zb_nar _) (Nat.le_of_ble_eq_true rfl) (Nat.le_of_ble_eq_true rfl) ⟨rfl, rfl⟩
set_option maxHeartbeats 4000000 in
theorem c_mark_t {g : zG} {A : Nat → Nat} {K : Nat → Nat → Int32} {F : Nat → Int32} {O : Nat → Nat → Option Nat} {gl : Int64} {X : zX} (hA : cok g A X) {mr k j : Nat} (hmr : cmr A mr) (hk : 2 ≤ k ∧ k < A 2) (hj : j < 4) (hOj : O 20 j = some (A (mr + 8))) (hOm : O mr 0 = some (A (10 * k + 309))) {pv : Option Value → zX → Prop} (hpv : pv (some (.int 1)) (cX g A (zs (s_cpr (s_cpr (s_be K 300 (10 * k + 300)) 15 (mr + 6) 8) 16 (mr + 7) 8) (mr + 8) 3 (K 99 17)) F O gl X)) : zZ g m_X1_mark (pv, zno, ({ frames := 3, cells := 10, slots := 63, locals := 80 } : Room)) 10 63 (cX g A K F O gl X) 46 [(0, .ref (A 99)), (1, .int (nI (j))), (2, .int 0)] [] := by
  have hA2 := hA.2.2.1
  have hmr9 := hmr
  obtain ⟨hmr1, hmr2, hmr3⟩ := hmr9
  refine z_aload_n 0 dX1_mark_46 rfl ?_
  refine cz_get (v := .ref (A 20)) 20 hA (by decide) q347 rfl dX1_mark_47 ?_
  refine z_iload_n 1 dX1_mark_50 rfl ?_
  refine cz_aldM (v := .ref (A (mr + 8))) j hA rfl (by omega) (by rw [hOj]; rfl) dX1_mark_51 ?_
  refine z_astore_n (lv' := [(3, .ref (A (mr + 8))), (0, .ref (A 99)), (1, .int (nI (j))), (2, .int 0)]) dX1_mark_52 rfl (by decide) rfl ?_
  refine z_iload_n 3 dX1_mark_53 rfl ?_
  refine z_if_eq 106 dX1_mark_54 (by decide) (fun h_ => ?_) (fun h_ => absurd h_ (by decide))
  refine z_aload_n 0 dX1_mark_106 rfl ?_
  refine cz_getM (m := mr) (v := .ref (A (10 * k + 309))) 0 hA hmr (by decide) q1460 (by show some (va_rf (O mr 0)) = _; rw [hOm]; rfl) dX1_mark_107 ?_
  refine z_aload_n 1 dX1_mark_110 rfl ?_
  refine cz_get (v := .ref (A 309)) 4 hA (by decide) q331 rfl dX1_mark_111 ?_
  refine z_callV (As := [.ref (A 309)]) (c_be_ (K := K) (F := F) (O := O) (gl := gl) hA (s := 10 * k + 300) (o := 300) ⟨by omega, by omega, by omega⟩ (cst_0 hA) (by omega)) q1202 q1203 q1204 q118 q1205 nm_X4_be (cX_st hA (s := 10 * k + 300) ⟨by omega, by omega, by omega⟩) rfl rfl rfl (Nat.le_of_ble_eq_true rfl) ⟨Nat.le_of_ble_eq_true rfl, Nat.le_of_ble_eq_true rfl⟩ dX1_mark_114 rfl rfl (Nat.le_of_ble_eq_true rfl) (Nat.le_of_ble_eq_true rfl) (fun v_1 X_2 hp_3 => ?_)
  obtain ⟨rfl, rfl⟩ := hp_3
  refine z_st (st' := []) rfl ?_
  refine z_aload_n 1 dX1_mark_117 rfl ?_
  refine cz_get (v := .ref (A 15)) 15 hA (by decide) q342 rfl dX1_mark_118 ?_
  refine z_aload_n 0 dX1_mark_121 rfl ?_
  refine cz_getM (m := mr) (v := .ref (A (mr + 6))) 1 hA hmr (by decide) q1462 rfl dX1_mark_122 ?_
  refine z_callS (As := [.ref (A 15), .ref (A (mr + 6))]) (c_copies (K := (s_be K 300 (10 * k + 300))) (F := F) (O := O) (gl := gl) hA (i := 15) (j := mr + 6) (n := 8) (by unfold cia; omega) (by unfold cia; omega) (by omega) (by unfold csz; rw [if_neg (by omega), if_pos (by omega)]) (Nat.le_refl 8)) q1361 q1207 q112 q1208 nm_X1_copies rfl (Nat.le_of_ble_eq_true rfl) ⟨Nat.le_of_ble_eq_true rfl, Nat.le_of_ble_eq_true rfl⟩ dX1_mark_125 rfl rfl (Nat.le_of_ble_eq_true rfl) (Nat.le_of_ble_eq_true rfl) (fun v_4 X_5 hp_6 => ?_)
  obtain ⟨rfl, rfl⟩ := hp_6
  refine z_st (st' := []) rfl ?_
  refine z_aload_n 1 dX1_mark_128 rfl ?_
  refine cz_get (v := .ref (A 16)) 16 hA (by decide) q343 rfl dX1_mark_129 ?_
  refine z_aload_n 0 dX1_mark_132 rfl ?_
  refine cz_getM (m := mr) (v := .ref (A (mr + 7))) 2 hA hmr (by decide) q1464 rfl dX1_mark_133 ?_
  refine z_callS (As := [.ref (A 16), .ref (A (mr + 7))]) (c_copies (K := (s_cpr (s_be K 300 (10 * k + 300)) 15 (mr + 6) 8)) (F := F) (O := O) (gl := gl) hA (i := 16) (j := mr + 7) (n := 8) (by unfold cia; omega) (by unfold cia; omega) (by omega) (by unfold csz; rw [if_neg (by omega), if_pos (by omega)]) (Nat.le_refl 8)) q1361 q1207 q112 q1208 nm_X1_copies rfl (Nat.le_of_ble_eq_true rfl) ⟨Nat.le_of_ble_eq_true rfl, Nat.le_of_ble_eq_true rfl⟩ dX1_mark_136 rfl rfl (Nat.le_of_ble_eq_true rfl) (Nat.le_of_ble_eq_true rfl) (fun v_7 X_8 hp_9 => ?_)
  obtain ⟨rfl, rfl⟩ := hp_9
  refine z_st (st' := []) rfl ?_
  refine z_aload_n 0 dX1_mark_139 rfl ?_
  refine z_aload_n 1 dX1_mark_140 rfl ?_
  refine cz_get (v := .int (K 99 17)) 17 hA (by decide) q344 (congrArg (fun z => some (Value.int z)) (by rw [s_cpr_n (by omega), s_cpr_n (by omega), s_be_o (by omega) (by omega)])) dX1_mark_141 ?_
  refine cz_putM (m := mr) (K' := (zs (s_cpr (s_cpr (s_be K 300 (10 * k + 300)) 15 (mr + 6) 8) 16 (mr + 7) 8) (mr + 8) 3 (K 99 17))) hA hmr q1465 rfl dX1_mark_144 ?_
  refine z_iconst (v := 1) dX1_mark_147 (by decide) ?_
  exact z_zret dX1_mark_148 rfl (by first | rfl | decide | exact zb_nar _) (Nat.le_of_ble_eq_true rfl) (Nat.le_of_ble_eq_true rfl) hpv
theorem zfr_ne {g : zG} {X : zX} {m : Nat} {e : va_E} : ∀ {l : List Nat}, X m = some e → zfr g X l → ∀ b ∈ l, ¬ m = b
  | [], _, _ => fun b hb => absurd hb List.not_mem_nil
  | a :: l, hm, h => fun b hb => by
    rcases List.mem_cons.mp hb with rfl | hb
    · exact fun z => by rw [z, h.1] at hm; cases hm
    · exact zfr_ne hm h.2.2.2 b hb
theorem zfr_nn {g : zG} {X : zX} : ∀ {l : List Nat}, zfr g X l → ∀ b ∈ l, X b = none
  | [], _ => fun b hb => absurd hb List.not_mem_nil
  | a :: l, h => fun b hb => by
    rcases List.mem_cons.mp hb with rfl | hb
    · exact h.1
    · exact zfr_nn h.2.2.2 b hb
set_option maxHeartbeats 4000000 in
theorem j_mark {g : zG} {X : zX} {m : Nat} (hm : X m = some (.inr (22, [.null, .null, .null, .int 0]))) (hml : z0 g ≤ m) : zN g m_X22_init ({ frames := 2, cells := 9, slots := 59, locals := 40 } : Room) [.ref m] X (fun rv X' => rv = none ∧ ∃ s a0 a1 a2 a3 a4 a5 i0 i1, X' = zup (zup (zup (zup (zup (zup (zup (zup (zup (zup X a0 (.inl (zar g 0, 4, .inl (fun _ => 0)))) a1 (.inl (zar g 0, 6, .inl (fun _ => 0)))) a2 (.inl (zar g 0, 6, .inl (fun _ => 0)))) a3 (.inl (zar g 0, 6, .inl (fun _ => 0)))) a4 (.inl (zar g 0, 6, .inl (fun _ => 0)))) a5 (.inl (zar g 0, 6, .inl (fun _ => 0)))) s (.inr (4, [.ref a0, .ref a1, .ref a2, .ref a3, .ref a4, .ref a5, .int 0, .int 0, .int 0]))) i0 (.inl (zar g 0, 8, .inl (fun _ => 0)))) i1 (.inl (zar g 0, 8, .inl (fun _ => 0)))) m (.inr (22, [.ref s, .ref i0, .ref i1, .int 0])) ∧ zfr g X [i1, i0, s, a0, a1, a2, a3, a4, a5]) := by
  refine zN.of (by decide +kernel) (Nat.le_of_ble_eq_true rfl) rfl ?_
  refine z_lv (lv' := [(0, .ref m)]) [0] rfl ?_
  refine z_aload_n 0 dX22_init_0 rfl ?_
  refine z_objInit q1456 q160 q161 dX22_init_1 (Nat.le_of_ble_eq_true rfl) (Nat.le_of_ble_eq_true rfl) ?_
  refine z_aload_n 0 dX22_init_4 rfl ?_
  refine z_new (ci := 4) (fs := [.null, .null, .null, .null, .null, .null, .int 0, .int 0, .int 0]) rfl in_X4 tyX4 tyX4_ok q1457 q252 q118 zd_X4 dX22_init_5 rfl rfl (Nat.le_of_ble_eq_true rfl) (Nat.le_of_ble_eq_true rfl) (fun s hsn hsl => ?_)
  refine z_dup dX22_init_8 rfl ?_
  refine z_callIN (As := []) (j_state (X := zup X s (.inr (4, [.null, .null, .null, .null, .null, .null, .int 0, .int 0, .int 0]))) zup_s hsl) q1458 q254 q118 q255 rfl rfl nm_X4_init rfl (Nat.le_of_ble_eq_true rfl) ⟨Nat.le_of_ble_eq_true rfl, Nat.le_of_ble_eq_true rfl⟩ dX22_init_9 rfl rfl (Nat.le_of_ble_eq_true rfl) (Nat.le_of_ble_eq_true rfl) (fun v_1 X_2 hp_3 => ?_)
  obtain ⟨rfl, a0, a1, a2, a3, a4, a5, rfl, hfr⟩ := hp_3
  refine z_st (st' := [.ref s, .ref m]) rfl ?_
  obtain ⟨hfr1, hfr2⟩ := zfr_under hfr
  have hms : ¬ m = s := fun z => by rw [← z, hm] at hsn; cases hsn
  have hma := zfr_ne hm hfr1
  refine z_X (X' := (zup (zup (zup (zup (zup (zup (zup X a0 (.inl (zar g 0, 4, .inl (fun _ => 0)))) a1 (.inl (zar g 0, 6, .inl (fun _ => 0)))) a2 (.inl (zar g 0, 6, .inl (fun _ => 0)))) a3 (.inl (zar g 0, 6, .inl (fun _ => 0)))) a4 (.inl (zar g 0, 6, .inl (fun _ => 0)))) a5 (.inl (zar g 0, 6, .inl (fun _ => 0)))) s (.inr (4, [.ref a0, .ref a1, .ref a2, .ref a3, .ref a4, .ref a5, .int 0, .int 0, .int 0])))) zup_first ?_
  have hm9 : (zup (zup (zup (zup (zup (zup (zup X a0 (.inl (zar g 0, 4, .inl (fun _ => 0)))) a1 (.inl (zar g 0, 6, .inl (fun _ => 0)))) a2 (.inl (zar g 0, 6, .inl (fun _ => 0)))) a3 (.inl (zar g 0, 6, .inl (fun _ => 0)))) a4 (.inl (zar g 0, 6, .inl (fun _ => 0)))) a5 (.inl (zar g 0, 6, .inl (fun _ => 0)))) s (.inr (4, [.ref a0, .ref a1, .ref a2, .ref a3, .ref a4, .ref a5, .int 0, .int 0, .int 0]))) m = some (.inr (22, [.null, .null, .null, .int 0])) := zup_k hms (zup_k (hma a5 (by simp)) (zup_k (hma a4 (by simp)) (zup_k (hma a3 (by simp)) (zup_k (hma a2 (by simp)) (zup_k (hma a1 (by simp)) (zup_k (hma a0 (by simp)) (hm)))))))
  refine z_putF (X' := (zup (zup (zup (zup (zup (zup (zup (zup X a0 (.inl (zar g 0, 4, .inl (fun _ => 0)))) a1 (.inl (zar g 0, 6, .inl (fun _ => 0)))) a2 (.inl (zar g 0, 6, .inl (fun _ => 0)))) a3 (.inl (zar g 0, 6, .inl (fun _ => 0)))) a4 (.inl (zar g 0, 6, .inl (fun _ => 0)))) a5 (.inl (zar g 0, 6, .inl (fun _ => 0)))) s (.inr (4, [.ref a0, .ref a1, .ref a2, .ref a3, .ref a4, .ref a5, .int 0, .int 0, .int 0]))) m (.inr (22, [.ref s, .null, .null, .int 0])))) 0 hm9 rfl in_X22 (by decide) tyX22 tyX22_ok nmX22 q1459 rfl rfl rfl (tyX22_ok 0 (by decide)) rfl rfl (Nat.le_of_ble_eq_true rfl) hml dX22_init_12 rfl ?_
  have hx_4 : (zup (zup (zup (zup (zup (zup (zup (zup X a0 (.inl (zar g 0, 4, .inl (fun _ => 0)))) a1 (.inl (zar g 0, 6, .inl (fun _ => 0)))) a2 (.inl (zar g 0, 6, .inl (fun _ => 0)))) a3 (.inl (zar g 0, 6, .inl (fun _ => 0)))) a4 (.inl (zar g 0, 6, .inl (fun _ => 0)))) a5 (.inl (zar g 0, 6, .inl (fun _ => 0)))) s (.inr (4, [.ref a0, .ref a1, .ref a2, .ref a3, .ref a4, .ref a5, .int 0, .int 0, .int 0]))) m (.inr (22, [.ref s, .null, .null, .int 0]))) m = some (.inr (22, [.ref s, .null, .null, .int 0])) := zup_s
  refine z_aload_n 0 dX22_init_15 rfl ?_
  refine z_bipush (v := 8) dX22_init_16 (by decide) ?_
  refine z_newi 8 rfl (by omega) q297 dX22_init_18 rfl rfl (Nat.le_of_ble_eq_true rfl) (Nat.le_of_ble_eq_true rfl) (fun n_5 hn_6 hl_7 => ?_)
  have ne_8 : m ≠ n_5 := fun q9 => by rw [← q9, hx_4] at hn_6; cases hn_6
  have hx_9 : (zup (zup (zup (zup (zup (zup (zup (zup (zup X a0 (.inl (zar g 0, 4, .inl (fun _ => 0)))) a1 (.inl (zar g 0, 6, .inl (fun _ => 0)))) a2 (.inl (zar g 0, 6, .inl (fun _ => 0)))) a3 (.inl (zar g 0, 6, .inl (fun _ => 0)))) a4 (.inl (zar g 0, 6, .inl (fun _ => 0)))) a5 (.inl (zar g 0, 6, .inl (fun _ => 0)))) s (.inr (4, [.ref a0, .ref a1, .ref a2, .ref a3, .ref a4, .ref a5, .int 0, .int 0, .int 0]))) m (.inr (22, [.ref s, .null, .null, .int 0]))) n_5 (.inl (zar g 0, 8, .inl (fun _ => 0)))) m = some (.inr (22, [.ref s, .null, .null, .int 0])) := zup_k ne_8 hx_4
  have hx_10 : (zup (zup (zup (zup (zup (zup (zup (zup (zup X a0 (.inl (zar g 0, 4, .inl (fun _ => 0)))) a1 (.inl (zar g 0, 6, .inl (fun _ => 0)))) a2 (.inl (zar g 0, 6, .inl (fun _ => 0)))) a3 (.inl (zar g 0, 6, .inl (fun _ => 0)))) a4 (.inl (zar g 0, 6, .inl (fun _ => 0)))) a5 (.inl (zar g 0, 6, .inl (fun _ => 0)))) s (.inr (4, [.ref a0, .ref a1, .ref a2, .ref a3, .ref a4, .ref a5, .int 0, .int 0, .int 0]))) m (.inr (22, [.ref s, .null, .null, .int 0]))) n_5 (.inl (zar g 0, 8, .inl (fun _ => 0)))) n_5 = some (.inl (zar g 0, 8, .inl (fun _ => 0))) := zup_s
  refine z_putF (X' := (zup (zup (zup (zup (zup (zup (zup (zup (zup X a0 (.inl (zar g 0, 4, .inl (fun _ => 0)))) a1 (.inl (zar g 0, 6, .inl (fun _ => 0)))) a2 (.inl (zar g 0, 6, .inl (fun _ => 0)))) a3 (.inl (zar g 0, 6, .inl (fun _ => 0)))) a4 (.inl (zar g 0, 6, .inl (fun _ => 0)))) a5 (.inl (zar g 0, 6, .inl (fun _ => 0)))) s (.inr (4, [.ref a0, .ref a1, .ref a2, .ref a3, .ref a4, .ref a5, .int 0, .int 0, .int 0]))) n_5 (.inl (zar g 0, 8, .inl (fun _ => 0)))) m (.inr (22, [.ref s, .ref n_5, .null, .int 0])))) 1 hx_9 rfl in_X22 (by decide) tyX22 tyX22_ok nmX22 q1461 rfl rfl rfl (tyX22_ok 1 (by decide)) rfl rfl (Nat.le_of_ble_eq_true rfl) hml dX22_init_20 (zup_mid ne_8) ?_
  have hx_11 : (zup (zup (zup (zup (zup (zup (zup (zup (zup X a0 (.inl (zar g 0, 4, .inl (fun _ => 0)))) a1 (.inl (zar g 0, 6, .inl (fun _ => 0)))) a2 (.inl (zar g 0, 6, .inl (fun _ => 0)))) a3 (.inl (zar g 0, 6, .inl (fun _ => 0)))) a4 (.inl (zar g 0, 6, .inl (fun _ => 0)))) a5 (.inl (zar g 0, 6, .inl (fun _ => 0)))) s (.inr (4, [.ref a0, .ref a1, .ref a2, .ref a3, .ref a4, .ref a5, .int 0, .int 0, .int 0]))) n_5 (.inl (zar g 0, 8, .inl (fun _ => 0)))) m (.inr (22, [.ref s, .ref n_5, .null, .int 0]))) n_5 = some (.inl (zar g 0, 8, .inl (fun _ => 0))) := zup_over (Ne.symm ne_8) hx_10 (zup_mid ne_8)
  have hx_12 : (zup (zup (zup (zup (zup (zup (zup (zup (zup X a0 (.inl (zar g 0, 4, .inl (fun _ => 0)))) a1 (.inl (zar g 0, 6, .inl (fun _ => 0)))) a2 (.inl (zar g 0, 6, .inl (fun _ => 0)))) a3 (.inl (zar g 0, 6, .inl (fun _ => 0)))) a4 (.inl (zar g 0, 6, .inl (fun _ => 0)))) a5 (.inl (zar g 0, 6, .inl (fun _ => 0)))) s (.inr (4, [.ref a0, .ref a1, .ref a2, .ref a3, .ref a4, .ref a5, .int 0, .int 0, .int 0]))) n_5 (.inl (zar g 0, 8, .inl (fun _ => 0)))) m (.inr (22, [.ref s, .ref n_5, .null, .int 0]))) m = some (.inr (22, [.ref s, .ref n_5, .null, .int 0])) := zup_s
  refine z_aload_n 0 dX22_init_23 rfl ?_
  refine z_bipush (v := 8) dX22_init_24 (by decide) ?_
  refine z_newi 8 rfl (by omega) q297 dX22_init_26 rfl rfl (Nat.le_of_ble_eq_true rfl) (Nat.le_of_ble_eq_true rfl) (fun n_13 hn_14 hl_15 => ?_)
  have ne_16 : n_5 ≠ n_13 := fun q9 => by rw [← q9, hx_11] at hn_14; cases hn_14
  have ne_17 : m ≠ n_13 := fun q9 => by rw [← q9, hx_12] at hn_14; cases hn_14
  have hx_18 : (zup (zup (zup (zup (zup (zup (zup (zup (zup (zup X a0 (.inl (zar g 0, 4, .inl (fun _ => 0)))) a1 (.inl (zar g 0, 6, .inl (fun _ => 0)))) a2 (.inl (zar g 0, 6, .inl (fun _ => 0)))) a3 (.inl (zar g 0, 6, .inl (fun _ => 0)))) a4 (.inl (zar g 0, 6, .inl (fun _ => 0)))) a5 (.inl (zar g 0, 6, .inl (fun _ => 0)))) s (.inr (4, [.ref a0, .ref a1, .ref a2, .ref a3, .ref a4, .ref a5, .int 0, .int 0, .int 0]))) n_5 (.inl (zar g 0, 8, .inl (fun _ => 0)))) m (.inr (22, [.ref s, .ref n_5, .null, .int 0]))) n_13 (.inl (zar g 0, 8, .inl (fun _ => 0)))) n_5 = some (.inl (zar g 0, 8, .inl (fun _ => 0))) := zup_k ne_16 hx_11
  have hx_19 : (zup (zup (zup (zup (zup (zup (zup (zup (zup (zup X a0 (.inl (zar g 0, 4, .inl (fun _ => 0)))) a1 (.inl (zar g 0, 6, .inl (fun _ => 0)))) a2 (.inl (zar g 0, 6, .inl (fun _ => 0)))) a3 (.inl (zar g 0, 6, .inl (fun _ => 0)))) a4 (.inl (zar g 0, 6, .inl (fun _ => 0)))) a5 (.inl (zar g 0, 6, .inl (fun _ => 0)))) s (.inr (4, [.ref a0, .ref a1, .ref a2, .ref a3, .ref a4, .ref a5, .int 0, .int 0, .int 0]))) n_5 (.inl (zar g 0, 8, .inl (fun _ => 0)))) m (.inr (22, [.ref s, .ref n_5, .null, .int 0]))) n_13 (.inl (zar g 0, 8, .inl (fun _ => 0)))) m = some (.inr (22, [.ref s, .ref n_5, .null, .int 0])) := zup_k ne_17 hx_12
  have hx_20 : (zup (zup (zup (zup (zup (zup (zup (zup (zup (zup X a0 (.inl (zar g 0, 4, .inl (fun _ => 0)))) a1 (.inl (zar g 0, 6, .inl (fun _ => 0)))) a2 (.inl (zar g 0, 6, .inl (fun _ => 0)))) a3 (.inl (zar g 0, 6, .inl (fun _ => 0)))) a4 (.inl (zar g 0, 6, .inl (fun _ => 0)))) a5 (.inl (zar g 0, 6, .inl (fun _ => 0)))) s (.inr (4, [.ref a0, .ref a1, .ref a2, .ref a3, .ref a4, .ref a5, .int 0, .int 0, .int 0]))) n_5 (.inl (zar g 0, 8, .inl (fun _ => 0)))) m (.inr (22, [.ref s, .ref n_5, .null, .int 0]))) n_13 (.inl (zar g 0, 8, .inl (fun _ => 0)))) n_13 = some (.inl (zar g 0, 8, .inl (fun _ => 0))) := zup_s
  refine z_putF (X' := (zup (zup (zup (zup (zup (zup (zup (zup (zup (zup X a0 (.inl (zar g 0, 4, .inl (fun _ => 0)))) a1 (.inl (zar g 0, 6, .inl (fun _ => 0)))) a2 (.inl (zar g 0, 6, .inl (fun _ => 0)))) a3 (.inl (zar g 0, 6, .inl (fun _ => 0)))) a4 (.inl (zar g 0, 6, .inl (fun _ => 0)))) a5 (.inl (zar g 0, 6, .inl (fun _ => 0)))) s (.inr (4, [.ref a0, .ref a1, .ref a2, .ref a3, .ref a4, .ref a5, .int 0, .int 0, .int 0]))) n_5 (.inl (zar g 0, 8, .inl (fun _ => 0)))) n_13 (.inl (zar g 0, 8, .inl (fun _ => 0)))) m (.inr (22, [.ref s, .ref n_5, .ref n_13, .int 0])))) 2 hx_19 rfl in_X22 (by decide) tyX22 tyX22_ok nmX22 q1463 rfl rfl rfl (tyX22_ok 2 (by decide)) rfl rfl (Nat.le_of_ble_eq_true rfl) hml dX22_init_28 (zup_mid ne_17) ?_
  have hx_21 : (zup (zup (zup (zup (zup (zup (zup (zup (zup (zup X a0 (.inl (zar g 0, 4, .inl (fun _ => 0)))) a1 (.inl (zar g 0, 6, .inl (fun _ => 0)))) a2 (.inl (zar g 0, 6, .inl (fun _ => 0)))) a3 (.inl (zar g 0, 6, .inl (fun _ => 0)))) a4 (.inl (zar g 0, 6, .inl (fun _ => 0)))) a5 (.inl (zar g 0, 6, .inl (fun _ => 0)))) s (.inr (4, [.ref a0, .ref a1, .ref a2, .ref a3, .ref a4, .ref a5, .int 0, .int 0, .int 0]))) n_5 (.inl (zar g 0, 8, .inl (fun _ => 0)))) n_13 (.inl (zar g 0, 8, .inl (fun _ => 0)))) m (.inr (22, [.ref s, .ref n_5, .ref n_13, .int 0]))) n_5 = some (.inl (zar g 0, 8, .inl (fun _ => 0))) := zup_over (Ne.symm ne_8) hx_18 (zup_mid ne_17)
  have hx_22 : (zup (zup (zup (zup (zup (zup (zup (zup (zup (zup X a0 (.inl (zar g 0, 4, .inl (fun _ => 0)))) a1 (.inl (zar g 0, 6, .inl (fun _ => 0)))) a2 (.inl (zar g 0, 6, .inl (fun _ => 0)))) a3 (.inl (zar g 0, 6, .inl (fun _ => 0)))) a4 (.inl (zar g 0, 6, .inl (fun _ => 0)))) a5 (.inl (zar g 0, 6, .inl (fun _ => 0)))) s (.inr (4, [.ref a0, .ref a1, .ref a2, .ref a3, .ref a4, .ref a5, .int 0, .int 0, .int 0]))) n_5 (.inl (zar g 0, 8, .inl (fun _ => 0)))) n_13 (.inl (zar g 0, 8, .inl (fun _ => 0)))) m (.inr (22, [.ref s, .ref n_5, .ref n_13, .int 0]))) n_13 = some (.inl (zar g 0, 8, .inl (fun _ => 0))) := zup_over (Ne.symm ne_17) hx_20 (zup_mid ne_17)
  have hx_23 : (zup (zup (zup (zup (zup (zup (zup (zup (zup (zup X a0 (.inl (zar g 0, 4, .inl (fun _ => 0)))) a1 (.inl (zar g 0, 6, .inl (fun _ => 0)))) a2 (.inl (zar g 0, 6, .inl (fun _ => 0)))) a3 (.inl (zar g 0, 6, .inl (fun _ => 0)))) a4 (.inl (zar g 0, 6, .inl (fun _ => 0)))) a5 (.inl (zar g 0, 6, .inl (fun _ => 0)))) s (.inr (4, [.ref a0, .ref a1, .ref a2, .ref a3, .ref a4, .ref a5, .int 0, .int 0, .int 0]))) n_5 (.inl (zar g 0, 8, .inl (fun _ => 0)))) n_13 (.inl (zar g 0, 8, .inl (fun _ => 0)))) m (.inr (22, [.ref s, .ref n_5, .ref n_13, .int 0]))) m = some (.inr (22, [.ref s, .ref n_5, .ref n_13, .int 0])) := zup_s
  obtain ⟨p1, p2, p3, p4, p5, p6, p7, p8, p9⟩ : ¬ n_5 = m ∧ ¬ n_5 = s ∧ ¬ n_5 = a5 ∧ ¬ n_5 = a4 ∧ ¬ n_5 = a3 ∧ ¬ n_5 = a2 ∧ ¬ n_5 = a1 ∧ ¬ n_5 = a0 ∧ X n_5 = none := by have h9 := hn_6; simpa [zup_none] using h9
  obtain ⟨r1, r0, r2, r3, r4, r5, r6, r7, r8, r9⟩ : ¬ n_13 = m ∧ ¬ n_13 = n_5 ∧ ¬ n_13 = s ∧ ¬ n_13 = a5 ∧ ¬ n_13 = a4 ∧ ¬ n_13 = a3 ∧ ¬ n_13 = a2 ∧ ¬ n_13 = a1 ∧ ¬ n_13 = a0 ∧ X n_13 = none := by have h9 := hn_14; simp only [zup_none] at h9; exact ⟨h9.1, h9.2.1, h9.2.2.1, h9.2.2.2.1, h9.2.2.2.2.1, h9.2.2.2.2.2.1, h9.2.2.2.2.2.2.1, h9.2.2.2.2.2.2.2.1, h9.2.2.2.2.2.2.2.2.1, h9.2.2.2.2.2.2.2.2.2⟩
  have z1 : zfr g X [n_13, n_5, s, a0, a1, a2, a3, a4, a5] := ⟨r9, hl_15, fun b hb => by simp only [List.mem_cons, List.not_mem_nil, or_false] at hb; rcases hb with rfl | rfl | rfl | rfl | rfl | rfl | rfl | rfl <;> assumption, p9, hl_7, fun b hb => by simp only [List.mem_cons, List.not_mem_nil, or_false] at hb; rcases hb with rfl | rfl | rfl | rfl | rfl | rfl | rfl <;> assumption, hsn, hsl, hfr2, hfr1⟩
  exact z_vret dX22_init_31 rfl (Nat.le_of_ble_eq_true rfl) (Nat.le_of_ble_eq_true rfl) ⟨rfl, s, a0, a1, a2, a3, a4, a5, n_5, n_13, rfl, z1⟩
