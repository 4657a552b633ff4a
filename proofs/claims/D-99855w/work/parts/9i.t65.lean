/-! THE COMPONENT: beds tried, by depth. Printed by t65.py -/
set_option maxRecDepth 100000
theorem s_br_i {nh a : Nat} {σ : Nat → Int32} {calm : (Nat → Int32) → Bool} {f : Nat → Int32} {v : Int32} (hnh : nh ≤ 4) (h : s_br nh (s_bd nh σ calm a) f v) : v < 0 ↔ (s_bd nh σ calm a).1 < 0 := by
  by_cases e : (s_bd nh σ calm a).1 < 0
  · rw [h.1 e]
    exact ⟨fun _ => e, fun _ => m1neg⟩
  · rw [(h.2 e).1]
    refine ⟨fun z => ?_, fun z => absurd z e⟩
    obtain ⟨m, hm, e9⟩ := (s_bd_2 (nh := nh) (σ := σ) (calm := calm) a).resolve_left e
    rw [e9] at z
    exact absurd z (nI_lt0 (by omega))
theorem s_p3a {p r : Nat} : (3 * p + 0) * 3 ^ r = p * 3 ^ (r + 1) := by
  rw [Nat.pow_succ, Nat.mul_comm (3 ^ r) 3, ← Nat.mul_assoc, Nat.mul_comm p 3, Nat.add_zero]
theorem s_p3b {p r : Nat} : (3 * p + 3) * 3 ^ r = (p + 1) * 3 ^ (r + 1) := by
  rw [show 3 * p + 3 = (p + 1) * 3 by omega, Nat.pow_succ, Nat.mul_comm (3 ^ r) 3, ← Nat.mul_assoc]
theorem s_p3c {p h d : Nat} (hp : p < 3 ^ h) (hd : d < 3) : 3 * p + d < 3 ^ (h + 1) := by
  rw [Nat.pow_succ]
  omega
theorem s_row_ext {f fc : Nat → Int32} {h p k : Nat} (hf : ∀ j, j < h → fc j = f j) (hrow : ∀ j, j < h → f j = nI (s_bi h p j)) (hd : k < 3) : ∀ j, j < h + 1 → zs1 fc h (nI k) j = nI (s_bi (h + 1) (3 * p + k) j) := fun j hj => by
  by_cases e : j = h
  · rw [e, s_bi_end hd]
    exact zs1_s
  · rw [s_bi_ext hd (by omega), ← hrow j (by omega), ← hf j (by omega)]
    exact zs1_n e
theorem s_may_ext {bd : Nat → Nat} {h p k : Nat} (hmay : ∀ j, j < h → bd j + s_bi h p j ≤ 9) (hd : k < 3) (hk : bd h + k ≤ 9) : ∀ j, j < h + 1 → bd j + s_bi (h + 1) (3 * p + k) j ≤ 9 := fun j hj => by
  by_cases e : j = h
  · rw [e, s_bi_end hd]
    exact hk
  · rw [s_bi_ext hd (by omega)]
    exact hmay j (by omega)
set_option maxHeartbeats 4000000 in
theorem c_builds_0 {g : zG} {A : Nat → Nat} {K : Nat → Nat → Int32} {F : Nat → Int32} {O : Nat → Nat → Option Nat} {gl : Int64} {X : zX} (hA : cok g A X) {v : Nat} (hO : O 0 0 = some v) {vs : Nat → Int32} {nh nd : Nat} {own : Nat → Nat} {wv : Int32 → Int32 → Int32 → Int32 → Int32} (hV : s_ok vs nh nd own) (hv : cvl g X v vs nh nd wv) {σ ds τ es : Nat → Int32} {dt2 yr2 o : Int32} {now : Nat} (hnow : now < 2 ^ 28) (hiv : s_iv σ nd) {f h2 : Nat → Int32} {v9 : Int32} {bd : Nat → Nat} (hb : s_ib σ nh bd) (h p mn m : Nat) (hr : h + 0 = nh) (hm : m < 1000) (hmn : mn = s_bn h p h) (hp : p < 3 ^ h) (hrow : ∀ j, j < h → f j = nI (s_bi h p j)) (hmay : ∀ j, j < h → bd j + s_bi h p j ≤ 9) (hbr : s_br nh (s_bd nh σ (fun τ => decide ((s_go wv vs ds nh nd own now τ m).1 1 = τ 1)) (p * 3 ^ 0)) h2 v9) : zN g m_X1_builds ({ frames := 1004, cells := 0, slots := 0, locals := 40091 } : Room) [.ref (A 99), .int (nI (h)), .int (nI (mn)), .int (nI (m))] (cX g A (cput (cput (zs (s_rb K f h2 v9) 99 8 o) 300 σ ds (nI (now % 12)) (nI (now / 12))) 310 τ es dt2 yr2) F O gl X) (fun rv X' => rv = none ∧ ∃ (f' h2' : Nat → Int32) (v9' o' : Int32) (F' τ' es' : Nat → Int32) (dt' yr' : Int32), X' = cX g A (cput (cput (zs (s_rb K f' h2' v9') 99 8 o') 300 σ ds (nI (now % 12)) (nI (now / 12))) 310 τ' es' dt' yr') F' O gl X ∧ s_br nh (s_bd nh σ (fun τ => decide ((s_go wv vs ds nh nd own now τ m).1 1 = τ 1)) ((p + 1) * 3 ^ 0)) h2' v9' ∧ ∀ j, j < h → f' j = f j) := by
  refine zN.of (by decide +kernel) (Nat.le_of_ble_eq_true rfl) rfl ?_
  refine z_lv (lv' := [(0, .ref (A 99)), (1, .int (nI (h))), (2, .int (nI (mn))), (3, .int (nI (m)))]) [0, 1, 2, 3] rfl ?_
  have hA2 := hA.2.2.1
  have hV9 := hV
  have hv9 := hv
  obtain ⟨h0, hnh, h1, hnd, hown⟩ := hV9
  obtain ⟨lh, lg, fh, fg, st9, fa, hxv, ⟨mh, eh, ch, hlh, heh, hch1, hch2⟩, ⟨mg, eg, cg, hlg, heg, hcg1, hcg2⟩, hhs, hgs, hst9, hfa⟩ := hv9
  have hmn9 : mn ≤ 8 := by rw [hmn]; exact Nat.le_trans (s_bn_le h) (by omega)
  have hp9 := pow3_le h (by omega)
  have hrow9 : ∀ j, j < nh → f j = nI (s_bi nh p j) := by rw [← show h = nh by omega]; exact hrow
  refine z_aload_n 0 dX1_builds_0 rfl ?_
  refine cz_get (v := .int ((s_rb K f h2 v9) 99 13)) 13 hA (by decide) q340 rfl dX1_builds_1 ?_
  refine z_eq (y := v9) (by rfl) ?_
  refine z_if_lt 16 dX1_builds_4 (by decide) (fun c_1 => ?_) (fun c_1 => ?_)
  · -- v9 < 0
    have c_1' := Int32.not_le.mpr c_1
    have hgo : (s_bd nh σ (fun τ => decide ((s_go wv vs ds nh nd own now τ m).1 1 = τ 1)) (p * 3 ^ 0)).1 < 0 ∨ nI mn < (s_bd nh σ (fun τ => decide ((s_go wv vs ds nh nd own now τ m).1 1 = τ 1)) (p * 3 ^ 0)).2 := Or.inl ((s_br_i hnh hbr).mp c_1)
    refine z_iload_n 1 dX1_builds_16 rfl ?_
    refine z_aload_n 0 dX1_builds_17 rfl ?_
    refine z_callV (As := []) (c_houses (K := (cput (cput (zs (s_rb K f h2 v9) 99 8 o) 300 σ ds (nI (now % 12)) (nI (now / 12))) 310 τ es dt2 yr2)) (F := F) (gl := gl) hA hO hxv hlh heh hch1 hch2 hlg heg hcg1 hcg2) q1127 q1129 qs28 q112 q1130 nm_X1_houses (cX_obj hA) rfl rfl rfl (Nat.le_of_ble_eq_true rfl) ⟨Nat.le_of_ble_eq_true rfl, Nat.le_of_ble_eq_true rfl⟩ dX1_builds_18 rfl rfl (Nat.le_of_ble_eq_true rfl) (Nat.le_of_ble_eq_true rfl) (fun v_2 X_3 hp_4 => ?_)
    obtain ⟨rfl, rfl⟩ := hp_4
    refine z_st (st' := [.int (nI (nh)), .int (nI (h))]) rfl ?_
    refine z_icmp_neN (a := h) (b := nh) 99 (by omega) (by omega) dX1_builds_21 (by decide) (fun c_5 => absurd c_5 ((fun z => z (by omega)))) (fun c_5 => ?_)
    refine z_aload_n 0 dX1_builds_24 rfl ?_
    refine cz_get (v := .ref (A 319)) 5 hA (by decide) q332 rfl dX1_builds_25 ?_
    refine z_aload_n 0 dX1_builds_28 rfl ?_
    refine cz_get (v := .ref (A 309)) 4 hA (by decide) q331 rfl dX1_builds_29 ?_
    refine z_callV (As := [.ref (A 309)]) (c_be (K := (zs (s_rb K f h2 v9) 99 8 o)) (F := F) (O := O) (gl := gl) hA (cst_1 hA) (cst_0 hA) (by omega) (σ := τ) (τ := σ) (ds := es) (es := ds)) q1202 q1203 q1204 q118 q1205 nm_X4_be (cX_st hA (cst_1 hA)) rfl rfl rfl (Nat.le_of_ble_eq_true rfl) ⟨Nat.le_of_ble_eq_true rfl, Nat.le_of_ble_eq_true rfl⟩ dX1_builds_32 rfl rfl (Nat.le_of_ble_eq_true rfl) (Nat.le_of_ble_eq_true rfl) (fun v_6 X_7 hp_8 => ?_)
    obtain ⟨rfl, rfl⟩ := hp_8
    refine z_st (st' := []) rfl ?_
    refine z_iconst (v := 0) dX1_builds_35 (by decide) ?_
    refine z_istore (lv' := [(4, .int 0), (0, .ref (A 99)), (1, .int (nI (h))), (2, .int (nI (mn))), (3, .int (nI (m)))]) dX1_builds_36 (by decide) rfl ?_
    have loop_13 : ∀ (q_10 i_9 : Nat), i_9 + q_10 = nh → 0 ≤ i_9 → zZ g m_X1_builds (fun rv X' => rv = none ∧ ∃ (f' h2' : Nat → Int32) (v9' o' : Int32) (F' τ' es' : Nat → Int32) (dt' yr' : Int32), X' = cX g A (cput (cput (zs (s_rb K f' h2' v9') 99 8 o') 300 σ ds (nI (now % 12)) (nI (now / 12))) 310 τ' es' dt' yr') F' O gl X ∧ s_br nh (s_bd nh σ (fun τ => decide ((s_go wv vs ds nh nd own now τ m).1 1 = τ 1)) ((p + 1) * 3 ^ 0)) h2' v9' ∧ ∀ j, j < h → f' j = f j, zno, ({ frames := 1004, cells := 0, slots := 0, locals := 40091 } : Room)) 0 0 (cX g A (cput (cput (zs (s_rb K f h2 v9) 99 8 o) 300 σ ds (nI (now % 12)) (nI (now / 12))) 310 (s_bst nh p σ i_9) ds (nI (now % 12)) (nI (now / 12))) F O gl X) 38 [(0, .ref (A 99)), (1, .int (nI (h))), (2, .int (nI (mn))), (3, .int (nI (m))), (4, .int (nI (i_9)))] [] := by
      intro q_10
      induction q_10 with
      | zero =>
        intro i_9 hb_12 lo_14  
        obtain rfl : nh = i_9 := by omega
        refine z_iload 4 dX1_builds_38 rfl ?_
        refine z_aload_n 0 dX1_builds_40 rfl ?_
        refine z_callV (As := []) (c_houses (K := (cput (cput (zs (s_rb K f h2 v9) 99 8 o) 300 σ ds (nI (now % 12)) (nI (now / 12))) 310 (s_bst nh p σ nh) ds (nI (now % 12)) (nI (now / 12)))) (F := F) (gl := gl) hA hO hxv hlh heh hch1 hch2 hlg heg hcg1 hcg2) q1127 q1129 qs28 q112 q1130 nm_X1_houses (cX_obj hA) rfl rfl rfl (Nat.le_of_ble_eq_true rfl) ⟨Nat.le_of_ble_eq_true rfl, Nat.le_of_ble_eq_true rfl⟩ dX1_builds_41 rfl rfl (Nat.le_of_ble_eq_true rfl) (Nat.le_of_ble_eq_true rfl) (fun v_15 X_16 hp_17 => ?_)
        obtain ⟨rfl, rfl⟩ := hp_17
        refine z_st (st' := [.int (nI (nh)), .int (nI (nh))]) rfl ?_
        refine z_icmp_geN (a := nh) (b := nh) 73 (by omega) (by omega) dX1_builds_44 (by decide) (fun c_18 => ?_) (fun c_18 => absurd c_18 (by omega))
        refine z_aload_n 0 dX1_builds_73 rfl ?_
        refine z_iload_n 3 dX1_builds_74 rfl ?_
        refine z_callV (As := [.int (nI (m))]) (c_calm (K := (s_rb K f h2 v9)) (F := F) (gl := gl) (σ0 := σ) (ds0 := ds) (dt0 := (nI (now % 12))) (yr0 := (nI (now / 12))) (σ := (s_bst nh p σ nh)) (ds := ds) hA hO hV hv (now := now) (by omega) (s_iv_bst hiv nh hnh) m (by omega)) q1357 q1359 qs42 q112 q1360 nm_X1_isNoneRefused (cX_obj hA) rfl rfl rfl (Nat.le_of_ble_eq_true rfl) ⟨Nat.le_of_ble_eq_true rfl, Nat.le_of_ble_eq_true rfl⟩ dX1_builds_75 rfl rfl (Nat.le_of_ble_eq_true rfl) (Nat.le_of_ble_eq_true rfl) (fun v_21 X_22 hp_23 => ?_)
        obtain ⟨rfl, o_19, F_20, rfl⟩ := hp_23
        refine z_st (st' := [.int (zb (decide ((s_go wv vs ds nh nd own now (s_bst nh p σ nh) m).1 1 = (s_bst nh p σ nh) 1)))]) rfl ?_
        refine z_if_neb 82 dX1_builds_78 (by decide) (fun c_24 => ?_) (fun c_24 => ?_)
        · -- decide ((s_go wv vs ds nh nd own now (s_bst nh p σ nh) m).1 1 = (s_bst nh p σ nh) 1) = true
          refine z_aload_n 0 dX1_builds_82 rfl ?_
          refine z_iload_n 2 dX1_builds_83 rfl ?_
          refine cz_put (K' := (cput (cput (zs (s_rb K f h2 (nI (mn))) 99 8 o_19) 300 σ ds (nI (now % 12)) (nI (now / 12))) 310 ((s_go wv vs ds nh nd own now (s_bst nh p σ nh) m).1) ds (nI ((now + m) % 12)) (nI ((now + m) / 12)))) 13 hA (by decide) q340 (by rw [cput_zo (by omega), cput_zo (by omega), zs_cm (by omega), s_rb_13]) dX1_builds_84 ?_
          refine z_aload_n 0 dX1_builds_87 rfl ?_
          refine cz_get (v := .ref (A 11)) 11 hA (by decide) q338 rfl dX1_builds_88 ?_
          refine z_aload_n 0 dX1_builds_91 rfl ?_
          refine cz_get (v := .ref (A 12)) 12 hA (by decide) q339 rfl dX1_builds_92 ?_
          refine z_callS (As := [.ref (A 11), .ref (A 12)]) (c_copies (K := (cput (cput (zs (s_rb K f h2 (nI (mn))) 99 8 o_19) 300 σ ds (nI (now % 12)) (nI (now / 12))) 310 ((s_go wv vs ds nh nd own now (s_bst nh p σ nh) m).1) ds (nI ((now + m) % 12)) (nI ((now + m) / 12)))) (F := F_20) (O := O) (gl := gl) hA (i := 11) (j := 12) (n := 4) (by unfold cia; omega) (by unfold cia; omega) (by omega) rfl (by decide)) q1361 q1207 q112 q1208 nm_X1_copies rfl (Nat.le_of_ble_eq_true rfl) ⟨Nat.le_of_ble_eq_true rfl, Nat.le_of_ble_eq_true rfl⟩ dX1_builds_95 rfl rfl (Nat.le_of_ble_eq_true rfl) (Nat.le_of_ble_eq_true rfl) (fun v_25 X_26 hp_27 => ?_)
          obtain ⟨rfl, rfl⟩ := hp_27
          refine z_X (X' := (cX g A (cput (cput (zs (s_rb K f (fun q => if q < 4 then f q else h2 q) (nI (mn))) 99 8 o_19) 300 σ ds (nI (now % 12)) (nI (now / 12))) 310 ((s_go wv vs ds nh nd own now (s_bst nh p σ nh) m).1) ds (nI ((now + m) % 12)) (nI ((now + m) / 12))) F_20 O gl X)) (congrArg (fun z => cX g A z F_20 O gl X) s_rb_cp) ?_
          refine z_st (st' := []) rfl ?_
          exact z_vret dX1_builds_98 rfl (Nat.le_of_ble_eq_true rfl) (Nat.le_of_ble_eq_true rfl) ⟨rfl, f, (fun q => if q < 4 then f q else h2 q), (nI (mn)), o_19, F_20, (s_go wv vs ds nh nd own now (s_bst nh p σ nh) m).1, ds, (nI ((now + m) % 12)), (nI ((now + m) / 12)), rfl, (by rw [s_bd_yes hb (fun j hj => by have := hmay j (by omega); rw [show h = nh by omega] at this; exact this) (by rw [hmn, show h = nh by omega]) hgo c_24]; exact ⟨fun z => absurd z (nI_lt0 (by omega)), fun _ => ⟨rfl, fun q hq => (if_pos (by omega)).trans ((hrow9 q hq).trans (by show _ = nI (s_bi nh (nI p).toNatClampNeg q); rw [ncl (by omega)]))⟩⟩), fun j hj => rfl⟩
        · -- decide ((s_go wv vs ds nh nd own now (s_bst nh p σ nh) m).1 1 = (s_bst nh p σ nh) 1) = false
          exact z_vret dX1_builds_81 rfl (Nat.le_of_ble_eq_true rfl) (Nat.le_of_ble_eq_true rfl) ⟨rfl, f, h2, v9, o_19, F_20, (s_go wv vs ds nh nd own now (s_bst nh p σ nh) m).1, ds, (nI ((now + m) % 12)), (nI ((now + m) / 12)), rfl, (by rw [s_bd_no c_24]; exact hbr), fun j hj => rfl⟩
      | succ q_10 ih_11 =>
        intro i_9 hb_12 lo_14  
        refine z_iload 4 dX1_builds_38 rfl ?_
        refine z_aload_n 0 dX1_builds_40 rfl ?_
        refine z_callV (As := []) (c_houses (K := (cput (cput (zs (s_rb K f h2 v9) 99 8 o) 300 σ ds (nI (now % 12)) (nI (now / 12))) 310 (s_bst nh p σ i_9) ds (nI (now % 12)) (nI (now / 12)))) (F := F) (gl := gl) hA hO hxv hlh heh hch1 hch2 hlg heg hcg1 hcg2) q1127 q1129 qs28 q112 q1130 nm_X1_houses (cX_obj hA) rfl rfl rfl (Nat.le_of_ble_eq_true rfl) ⟨Nat.le_of_ble_eq_true rfl, Nat.le_of_ble_eq_true rfl⟩ dX1_builds_41 rfl rfl (Nat.le_of_ble_eq_true rfl) (Nat.le_of_ble_eq_true rfl) (fun v_28 X_29 hp_30 => ?_)
        obtain ⟨rfl, rfl⟩ := hp_30
        refine z_st (st' := [.int (nI (nh)), .int (nI (i_9))]) rfl ?_
        refine z_icmp_geN (a := i_9) (b := nh) 73 (by omega) (by omega) dX1_builds_44 (by decide) (fun c_31 => absurd c_31 (by omega)) (fun c_31 => ?_)
        refine z_aload_n 0 dX1_builds_47 rfl ?_
        refine cz_get (v := .ref (A 319)) 5 hA (by decide) q332 rfl dX1_builds_48 ?_
        refine cz_getSN (s := 310) (v := .ref (A 310)) 0 hA (cst_1 hA) (by decide) q259 rfl dX1_builds_51 ?_
        refine z_iload 4 dX1_builds_54 rfl ?_
        refine z_dup2_11 dX1_builds_56 rfl rfl ?_
        refine cz_iald (v := (s_bst nh p σ i_9) (i_9 + 2)) 310 i_9 hA (by unfold cia; omega) rfl (by have h9 : csz 310 = 4 := rfl; omega) (cput_beds (by omega)) dX1_builds_57 ?_
        refine z_aload_n 0 dX1_builds_58 rfl ?_
        refine cz_get (v := .ref (A 11)) 11 hA (by decide) q338 rfl dX1_builds_59 ?_
        refine z_iload 4 dX1_builds_62 rfl ?_
        refine cz_iald (v := (s_rb K f h2 v9) 11 i_9) 11 i_9 hA (by unfold cia; omega) rfl (by have h9 : csz 11 = 4 := rfl; omega) rfl dX1_builds_64 ?_
        refine z_eq (y := nI ((s_bi nh p i_9))) ((show _ = f i_9 from rfl).trans (hrow9 i_9 (by omega))) ?_
        refine z_iadd dX1_builds_65 ?_
        obtain ⟨x_32, ex_32⟩ : ∃ y : Int32, (((s_bst nh p σ i_9) (i_9 + 2)) + (nI ((s_bi nh p i_9)))) = y := ⟨_, rfl⟩
        refine z_eq ex_32 ?_
        refine cz_iast (K' := (cput (cput (zs (s_rb K f h2 v9) 99 8 o) 300 σ ds (nI (now % 12)) (nI (now / 12))) 310 (zs1 (s_bst nh p σ i_9) (i_9 + 2) x_32) ds (nI (now % 12)) (nI (now / 12)))) 310 i_9 hA (by unfold cia; omega) rfl (by have h9 : csz 310 = 4 := rfl; omega) (by rw [cput_zbeds (by omega)]) dX1_builds_66 ?_
        refine z_iinc (v := nI (i_9 + 1)) (lv' := [(4, .int (nI (i_9 + 1))), (0, .ref (A 99)), (1, .int (nI (h))), (2, .int (nI (mn))), (3, .int (nI (m)))]) 4 dX1_builds_67 rfl (nI_1 _) (by decide) rfl ?_
        refine z_goto 38 dX1_builds_70 (by decide) ?_
        refine z_lv (lv' := [(0, .ref (A 99)), (1, .int (nI (h))), (2, .int (nI (mn))), (3, .int (nI (m))), (4, .int (nI (i_9 + 1)))]) [1, 2, 3, 4, 0] rfl ?_
        refine z_X (X' := (cX g A (cput (cput (zs (s_rb K f h2 v9) 99 8 o) 300 σ ds (nI (now % 12)) (nI (now / 12))) 310 (s_bst nh p σ (i_9 + 1)) ds (nI (now % 12)) (nI (now / 12))) F O gl X)) (by (try subst ex_32); rfl) ?_
        exact ih_11 (i_9 + 1) (by omega) (by omega)  
    refine z_lv (lv' := [(0, .ref (A 99)), (1, .int (nI (h))), (2, .int (nI (mn))), (3, .int (nI (m))), (4, .int 0)]) [1, 2, 3, 4, 0] rfl ?_
    refine z_X (X' := (cX g A (cput (cput (zs (s_rb K f h2 v9) 99 8 o) 300 σ ds (nI (now % 12)) (nI (now / 12))) 310 (s_bst nh p σ 0) ds (nI (now % 12)) (nI (now / 12))) F O gl X)) (by skip; rfl) ?_
    exact loop_13 (nh - 0) 0 (by omega) (Nat.le_refl _)  
  · -- ¬ v9 < 0
    have c_1' := Int32.not_lt.mp c_1
    refine z_iload_n 2 dX1_builds_7 rfl ?_
    refine z_aload_n 0 dX1_builds_8 rfl ?_
    refine cz_get (v := .int ((s_rb K f h2 v9) 99 13)) 13 hA (by decide) q340 rfl dX1_builds_9 ?_
    refine z_eq (y := v9) (by rfl) ?_
    refine z_icmp_lt 16 dX1_builds_12 (by decide) (fun c_33 => ?_) (fun c_33 => ?_)
    · -- nI (mn) < v9
      have c_33' := Int32.not_le.mpr c_33
      have hgo : (s_bd nh σ (fun τ => decide ((s_go wv vs ds nh nd own now τ m).1 1 = τ 1)) (p * 3 ^ 0)).1 < 0 ∨ nI mn < (s_bd nh σ (fun τ => decide ((s_go wv vs ds nh nd own now τ m).1 1 = τ 1)) (p * 3 ^ 0)).2 := Or.inr (by rw [← (hbr.2 (fun z => c_1 ((s_br_i hnh hbr).mpr z))).1]; exact c_33)
      refine z_iload_n 1 dX1_builds_16 rfl ?_
      refine z_aload_n 0 dX1_builds_17 rfl ?_
      refine z_callV (As := []) (c_houses (K := (cput (cput (zs (s_rb K f h2 v9) 99 8 o) 300 σ ds (nI (now % 12)) (nI (now / 12))) 310 τ es dt2 yr2)) (F := F) (gl := gl) hA hO hxv hlh heh hch1 hch2 hlg heg hcg1 hcg2) q1127 q1129 qs28 q112 q1130 nm_X1_houses (cX_obj hA) rfl rfl rfl (Nat.le_of_ble_eq_true rfl) ⟨Nat.le_of_ble_eq_true rfl, Nat.le_of_ble_eq_true rfl⟩ dX1_builds_18 rfl rfl (Nat.le_of_ble_eq_true rfl) (Nat.le_of_ble_eq_true rfl) (fun v_34 X_35 hp_36 => ?_)
      obtain ⟨rfl, rfl⟩ := hp_36
      refine z_st (st' := [.int (nI (nh)), .int (nI (h))]) rfl ?_
      refine z_icmp_neN (a := h) (b := nh) 99 (by omega) (by omega) dX1_builds_21 (by decide) (fun c_37 => absurd c_37 ((fun z => z (by omega)))) (fun c_37 => ?_)
      refine z_aload_n 0 dX1_builds_24 rfl ?_
      refine cz_get (v := .ref (A 319)) 5 hA (by decide) q332 rfl dX1_builds_25 ?_
      refine z_aload_n 0 dX1_builds_28 rfl ?_
      refine cz_get (v := .ref (A 309)) 4 hA (by decide) q331 rfl dX1_builds_29 ?_
      refine z_callV (As := [.ref (A 309)]) (c_be (K := (zs (s_rb K f h2 v9) 99 8 o)) (F := F) (O := O) (gl := gl) hA (cst_1 hA) (cst_0 hA) (by omega) (σ := τ) (τ := σ) (ds := es) (es := ds)) q1202 q1203 q1204 q118 q1205 nm_X4_be (cX_st hA (cst_1 hA)) rfl rfl rfl (Nat.le_of_ble_eq_true rfl) ⟨Nat.le_of_ble_eq_true rfl, Nat.le_of_ble_eq_true rfl⟩ dX1_builds_32 rfl rfl (Nat.le_of_ble_eq_true rfl) (Nat.le_of_ble_eq_true rfl) (fun v_38 X_39 hp_40 => ?_)
      obtain ⟨rfl, rfl⟩ := hp_40
      refine z_st (st' := []) rfl ?_
      refine z_iconst (v := 0) dX1_builds_35 (by decide) ?_
      refine z_istore (lv' := [(4, .int 0), (0, .ref (A 99)), (1, .int (nI (h))), (2, .int (nI (mn))), (3, .int (nI (m)))]) dX1_builds_36 (by decide) rfl ?_
      have loop_45 : ∀ (q_42 i_41 : Nat), i_41 + q_42 = nh → 0 ≤ i_41 → zZ g m_X1_builds (fun rv X' => rv = none ∧ ∃ (f' h2' : Nat → Int32) (v9' o' : Int32) (F' τ' es' : Nat → Int32) (dt' yr' : Int32), X' = cX g A (cput (cput (zs (s_rb K f' h2' v9') 99 8 o') 300 σ ds (nI (now % 12)) (nI (now / 12))) 310 τ' es' dt' yr') F' O gl X ∧ s_br nh (s_bd nh σ (fun τ => decide ((s_go wv vs ds nh nd own now τ m).1 1 = τ 1)) ((p + 1) * 3 ^ 0)) h2' v9' ∧ ∀ j, j < h → f' j = f j, zno, ({ frames := 1004, cells := 0, slots := 0, locals := 40091 } : Room)) 0 0 (cX g A (cput (cput (zs (s_rb K f h2 v9) 99 8 o) 300 σ ds (nI (now % 12)) (nI (now / 12))) 310 (s_bst nh p σ i_41) ds (nI (now % 12)) (nI (now / 12))) F O gl X) 38 [(0, .ref (A 99)), (1, .int (nI (h))), (2, .int (nI (mn))), (3, .int (nI (m))), (4, .int (nI (i_41)))] [] := by
        intro q_42
        induction q_42 with
        | zero =>
          intro i_41 hb_44 lo_46  
          obtain rfl : nh = i_41 := by omega
          refine z_iload 4 dX1_builds_38 rfl ?_
          refine z_aload_n 0 dX1_builds_40 rfl ?_
          refine z_callV (As := []) (c_houses (K := (cput (cput (zs (s_rb K f h2 v9) 99 8 o) 300 σ ds (nI (now % 12)) (nI (now / 12))) 310 (s_bst nh p σ nh) ds (nI (now % 12)) (nI (now / 12)))) (F := F) (gl := gl) hA hO hxv hlh heh hch1 hch2 hlg heg hcg1 hcg2) q1127 q1129 qs28 q112 q1130 nm_X1_houses (cX_obj hA) rfl rfl rfl (Nat.le_of_ble_eq_true rfl) ⟨Nat.le_of_ble_eq_true rfl, Nat.le_of_ble_eq_true rfl⟩ dX1_builds_41 rfl rfl (Nat.le_of_ble_eq_true rfl) (Nat.le_of_ble_eq_true rfl) (fun v_47 X_48 hp_49 => ?_)
          obtain ⟨rfl, rfl⟩ := hp_49
          refine z_st (st' := [.int (nI (nh)), .int (nI (nh))]) rfl ?_
          refine z_icmp_geN (a := nh) (b := nh) 73 (by omega) (by omega) dX1_builds_44 (by decide) (fun c_50 => ?_) (fun c_50 => absurd c_50 (by omega))
          refine z_aload_n 0 dX1_builds_73 rfl ?_
          refine z_iload_n 3 dX1_builds_74 rfl ?_
          refine z_callV (As := [.int (nI (m))]) (c_calm (K := (s_rb K f h2 v9)) (F := F) (gl := gl) (σ0 := σ) (ds0 := ds) (dt0 := (nI (now % 12))) (yr0 := (nI (now / 12))) (σ := (s_bst nh p σ nh)) (ds := ds) hA hO hV hv (now := now) (by omega) (s_iv_bst hiv nh hnh) m (by omega)) q1357 q1359 qs42 q112 q1360 nm_X1_isNoneRefused (cX_obj hA) rfl rfl rfl (Nat.le_of_ble_eq_true rfl) ⟨Nat.le_of_ble_eq_true rfl, Nat.le_of_ble_eq_true rfl⟩ dX1_builds_75 rfl rfl (Nat.le_of_ble_eq_true rfl) (Nat.le_of_ble_eq_true rfl) (fun v_53 X_54 hp_55 => ?_)
          obtain ⟨rfl, o_51, F_52, rfl⟩ := hp_55
          refine z_st (st' := [.int (zb (decide ((s_go wv vs ds nh nd own now (s_bst nh p σ nh) m).1 1 = (s_bst nh p σ nh) 1)))]) rfl ?_
          refine z_if_neb 82 dX1_builds_78 (by decide) (fun c_56 => ?_) (fun c_56 => ?_)
          · -- decide ((s_go wv vs ds nh nd own now (s_bst nh p σ nh) m).1 1 = (s_bst nh p σ nh) 1) = true
            refine z_aload_n 0 dX1_builds_82 rfl ?_
            refine z_iload_n 2 dX1_builds_83 rfl ?_
            refine cz_put (K' := (cput (cput (zs (s_rb K f h2 (nI (mn))) 99 8 o_51) 300 σ ds (nI (now % 12)) (nI (now / 12))) 310 ((s_go wv vs ds nh nd own now (s_bst nh p σ nh) m).1) ds (nI ((now + m) % 12)) (nI ((now + m) / 12)))) 13 hA (by decide) q340 (by rw [cput_zo (by omega), cput_zo (by omega), zs_cm (by omega), s_rb_13]) dX1_builds_84 ?_
            refine z_aload_n 0 dX1_builds_87 rfl ?_
            refine cz_get (v := .ref (A 11)) 11 hA (by decide) q338 rfl dX1_builds_88 ?_
            refine z_aload_n 0 dX1_builds_91 rfl ?_
            refine cz_get (v := .ref (A 12)) 12 hA (by decide) q339 rfl dX1_builds_92 ?_
            refine z_callS (As := [.ref (A 11), .ref (A 12)]) (c_copies (K := (cput (cput (zs (s_rb K f h2 (nI (mn))) 99 8 o_51) 300 σ ds (nI (now % 12)) (nI (now / 12))) 310 ((s_go wv vs ds nh nd own now (s_bst nh p σ nh) m).1) ds (nI ((now + m) % 12)) (nI ((now + m) / 12)))) (F := F_52) (O := O) (gl := gl) hA (i := 11) (j := 12) (n := 4) (by unfold cia; omega) (by unfold cia; omega) (by omega) rfl (by decide)) q1361 q1207 q112 q1208 nm_X1_copies rfl (Nat.le_of_ble_eq_true rfl) ⟨Nat.le_of_ble_eq_true rfl, Nat.le_of_ble_eq_true rfl⟩ dX1_builds_95 rfl rfl (Nat.le_of_ble_eq_true rfl) (Nat.le_of_ble_eq_true rfl) (fun v_57 X_58 hp_59 => ?_)
            obtain ⟨rfl, rfl⟩ := hp_59
            refine z_X (X' := (cX g A (cput (cput (zs (s_rb K f (fun q => if q < 4 then f q else h2 q) (nI (mn))) 99 8 o_51) 300 σ ds (nI (now % 12)) (nI (now / 12))) 310 ((s_go wv vs ds nh nd own now (s_bst nh p σ nh) m).1) ds (nI ((now + m) % 12)) (nI ((now + m) / 12))) F_52 O gl X)) (congrArg (fun z => cX g A z F_52 O gl X) s_rb_cp) ?_
            refine z_st (st' := []) rfl ?_
            exact z_vret dX1_builds_98 rfl (Nat.le_of_ble_eq_true rfl) (Nat.le_of_ble_eq_true rfl) ⟨rfl, f, (fun q => if q < 4 then f q else h2 q), (nI (mn)), o_51, F_52, (s_go wv vs ds nh nd own now (s_bst nh p σ nh) m).1, ds, (nI ((now + m) % 12)), (nI ((now + m) / 12)), rfl, (by rw [s_bd_yes hb (fun j hj => by have := hmay j (by omega); rw [show h = nh by omega] at this; exact this) (by rw [hmn, show h = nh by omega]) hgo c_56]; exact ⟨fun z => absurd z (nI_lt0 (by omega)), fun _ => ⟨rfl, fun q hq => (if_pos (by omega)).trans ((hrow9 q hq).trans (by show _ = nI (s_bi nh (nI p).toNatClampNeg q); rw [ncl (by omega)]))⟩⟩), fun j hj => rfl⟩
          · -- decide ((s_go wv vs ds nh nd own now (s_bst nh p σ nh) m).1 1 = (s_bst nh p σ nh) 1) = false
            exact z_vret dX1_builds_81 rfl (Nat.le_of_ble_eq_true rfl) (Nat.le_of_ble_eq_true rfl) ⟨rfl, f, h2, v9, o_51, F_52, (s_go wv vs ds nh nd own now (s_bst nh p σ nh) m).1, ds, (nI ((now + m) % 12)), (nI ((now + m) / 12)), rfl, (by rw [s_bd_no c_56]; exact hbr), fun j hj => rfl⟩
        | succ q_42 ih_43 =>
          intro i_41 hb_44 lo_46  
          refine z_iload 4 dX1_builds_38 rfl ?_
          refine z_aload_n 0 dX1_builds_40 rfl ?_
          refine z_callV (As := []) (c_houses (K := (cput (cput (zs (s_rb K f h2 v9) 99 8 o) 300 σ ds (nI (now % 12)) (nI (now / 12))) 310 (s_bst nh p σ i_41) ds (nI (now % 12)) (nI (now / 12)))) (F := F) (gl := gl) hA hO hxv hlh heh hch1 hch2 hlg heg hcg1 hcg2) q1127 q1129 qs28 q112 q1130 nm_X1_houses (cX_obj hA) rfl rfl rfl (Nat.le_of_ble_eq_true rfl) ⟨Nat.le_of_ble_eq_true rfl, Nat.le_of_ble_eq_true rfl⟩ dX1_builds_41 rfl rfl (Nat.le_of_ble_eq_true rfl) (Nat.le_of_ble_eq_true rfl) (fun v_60 X_61 hp_62 => ?_)
          obtain ⟨rfl, rfl⟩ := hp_62
          refine z_st (st' := [.int (nI (nh)), .int (nI (i_41))]) rfl ?_
          refine z_icmp_geN (a := i_41) (b := nh) 73 (by omega) (by omega) dX1_builds_44 (by decide) (fun c_63 => absurd c_63 (by omega)) (fun c_63 => ?_)
          refine z_aload_n 0 dX1_builds_47 rfl ?_
          refine cz_get (v := .ref (A 319)) 5 hA (by decide) q332 rfl dX1_builds_48 ?_
          refine cz_getSN (s := 310) (v := .ref (A 310)) 0 hA (cst_1 hA) (by decide) q259 rfl dX1_builds_51 ?_
          refine z_iload 4 dX1_builds_54 rfl ?_
          refine z_dup2_11 dX1_builds_56 rfl rfl ?_
          refine cz_iald (v := (s_bst nh p σ i_41) (i_41 + 2)) 310 i_41 hA (by unfold cia; omega) rfl (by have h9 : csz 310 = 4 := rfl; omega) (cput_beds (by omega)) dX1_builds_57 ?_
          refine z_aload_n 0 dX1_builds_58 rfl ?_
          refine cz_get (v := .ref (A 11)) 11 hA (by decide) q338 rfl dX1_builds_59 ?_
          refine z_iload 4 dX1_builds_62 rfl ?_
          refine cz_iald (v := (s_rb K f h2 v9) 11 i_41) 11 i_41 hA (by unfold cia; omega) rfl (by have h9 : csz 11 = 4 := rfl; omega) rfl dX1_builds_64 ?_
          refine z_eq (y := nI ((s_bi nh p i_41))) ((show _ = f i_41 from rfl).trans (hrow9 i_41 (by omega))) ?_
          refine z_iadd dX1_builds_65 ?_
          obtain ⟨x_64, ex_64⟩ : ∃ y : Int32, (((s_bst nh p σ i_41) (i_41 + 2)) + (nI ((s_bi nh p i_41)))) = y := ⟨_, rfl⟩
          refine z_eq ex_64 ?_
          refine cz_iast (K' := (cput (cput (zs (s_rb K f h2 v9) 99 8 o) 300 σ ds (nI (now % 12)) (nI (now / 12))) 310 (zs1 (s_bst nh p σ i_41) (i_41 + 2) x_64) ds (nI (now % 12)) (nI (now / 12)))) 310 i_41 hA (by unfold cia; omega) rfl (by have h9 : csz 310 = 4 := rfl; omega) (by rw [cput_zbeds (by omega)]) dX1_builds_66 ?_
          refine z_iinc (v := nI (i_41 + 1)) (lv' := [(4, .int (nI (i_41 + 1))), (0, .ref (A 99)), (1, .int (nI (h))), (2, .int (nI (mn))), (3, .int (nI (m)))]) 4 dX1_builds_67 rfl (nI_1 _) (by decide) rfl ?_
          refine z_goto 38 dX1_builds_70 (by decide) ?_
          refine z_lv (lv' := [(0, .ref (A 99)), (1, .int (nI (h))), (2, .int (nI (mn))), (3, .int (nI (m))), (4, .int (nI (i_41 + 1)))]) [1, 2, 3, 4, 0] rfl ?_
          refine z_X (X' := (cX g A (cput (cput (zs (s_rb K f h2 v9) 99 8 o) 300 σ ds (nI (now % 12)) (nI (now / 12))) 310 (s_bst nh p σ (i_41 + 1)) ds (nI (now % 12)) (nI (now / 12))) F O gl X)) (by (try subst ex_64); rfl) ?_
          exact ih_43 (i_41 + 1) (by omega) (by omega)  
      refine z_lv (lv' := [(0, .ref (A 99)), (1, .int (nI (h))), (2, .int (nI (mn))), (3, .int (nI (m))), (4, .int 0)]) [1, 2, 3, 4, 0] rfl ?_
      refine z_X (X' := (cX g A (cput (cput (zs (s_rb K f h2 v9) 99 8 o) 300 σ ds (nI (now % 12)) (nI (now / 12))) 310 (s_bst nh p σ 0) ds (nI (now % 12)) (nI (now / 12))) F O gl X)) (by skip; rfl) ?_
      exact loop_45 (nh - 0) 0 (by omega) (Nat.le_refl _)  
    · -- ¬ nI (mn) < v9
      have c_33' := Int32.not_lt.mp c_33
      exact z_vret dX1_builds_15 rfl (Nat.le_of_ble_eq_true rfl) (Nat.le_of_ble_eq_true rfl) ⟨rfl, f, h2, v9, o, F, τ, es, dt2, yr2, rfl, (by rw [s_bd_prune (r := 0) (by omega) hnh hmn (fun z => c_1 ((s_br_i hnh hbr).mpr z)) (by rw [← (hbr.2 (fun z => c_1 ((s_br_i hnh hbr).mpr z))).1]; exact (Int32.not_lt.mp c_33))]; exact hbr), fun j hj => rfl⟩
set_option maxHeartbeats 4000000 in
theorem c_builds_1 {g : zG} {A : Nat → Nat} {K : Nat → Nat → Int32} {F : Nat → Int32} {O : Nat → Nat → Option Nat} {gl : Int64} {X : zX} (hA : cok g A X) {v : Nat} (hO : O 0 0 = some v) {vs : Nat → Int32} {nh nd : Nat} {own : Nat → Nat} {wv : Int32 → Int32 → Int32 → Int32 → Int32} (hV : s_ok vs nh nd own) (hv : cvl g X v vs nh nd wv) {σ ds τ es : Nat → Int32} {dt2 yr2 o : Int32} {now : Nat} (hnow : now < 2 ^ 28) (hiv : s_iv σ nd) {f h2 : Nat → Int32} {v9 : Int32} {bd : Nat → Nat} (hb : s_ib σ nh bd) (h p mn m : Nat) (hr : h + 1 = nh) (hm : m < 1000) (hmn : mn = s_bn h p h) (hp : p < 3 ^ h) (hrow : ∀ j, j < h → f j = nI (s_bi h p j)) (hmay : ∀ j, j < h → bd j + s_bi h p j ≤ 9) (hbr : s_br nh (s_bd nh σ (fun τ => decide ((s_go wv vs ds nh nd own now τ m).1 1 = τ 1)) (p * 3 ^ 1)) h2 v9) : zN g m_X1_builds ({ frames := 1005, cells := 0, slots := 0, locals := 40115 } : Room) [.ref (A 99), .int (nI (h)), .int (nI (mn)), .int (nI (m))] (cX g A (cput (cput (zs (s_rb K f h2 v9) 99 8 o) 300 σ ds (nI (now % 12)) (nI (now / 12))) 310 τ es dt2 yr2) F O gl X) (fun rv X' => rv = none ∧ ∃ (f' h2' : Nat → Int32) (v9' o' : Int32) (F' τ' es' : Nat → Int32) (dt' yr' : Int32), X' = cX g A (cput (cput (zs (s_rb K f' h2' v9') 99 8 o') 300 σ ds (nI (now % 12)) (nI (now / 12))) 310 τ' es' dt' yr') F' O gl X ∧ s_br nh (s_bd nh σ (fun τ => decide ((s_go wv vs ds nh nd own now τ m).1 1 = τ 1)) ((p + 1) * 3 ^ 1)) h2' v9' ∧ ∀ j, j < h → f' j = f j) := by
  refine zN.of (by decide +kernel) (Nat.le_of_ble_eq_true rfl) rfl ?_
  refine z_lv (lv' := [(0, .ref (A 99)), (1, .int (nI (h))), (2, .int (nI (mn))), (3, .int (nI (m)))]) [0, 1, 2, 3] rfl ?_
  have hA2 := hA.2.2.1
  have hV9 := hV
  have hv9 := hv
  obtain ⟨h0, hnh, h1, hnd, hown⟩ := hV9
  obtain ⟨lh, lg, fh, fg, st9, fa, hxv, ⟨mh, eh, ch, hlh, heh, hch1, hch2⟩, ⟨mg, eg, cg, hlg, heg, hcg1, hcg2⟩, hhs, hgs, hst9, hfa⟩ := hv9
  have hmn9 : mn ≤ 8 := by rw [hmn]; exact Nat.le_trans (s_bn_le h) (by omega)
  have hp9 := pow3_le h (by omega)
  have hbh := (hb h (by omega)).2
  refine z_aload_n 0 dX1_builds_0 rfl ?_
  refine cz_get (v := .int ((s_rb K f h2 v9) 99 13)) 13 hA (by decide) q340 rfl dX1_builds_1 ?_
  refine z_eq (y := v9) (by rfl) ?_
  refine z_if_lt 16 dX1_builds_4 (by decide) (fun c_1 => ?_) (fun c_1 => ?_)
  · -- v9 < 0
    have c_1' := Int32.not_le.mpr c_1
    have hgo : (s_bd nh σ (fun τ => decide ((s_go wv vs ds nh nd own now τ m).1 1 = τ 1)) (p * 3 ^ 1)).1 < 0 ∨ nI mn < (s_bd nh σ (fun τ => decide ((s_go wv vs ds nh nd own now τ m).1 1 = τ 1)) (p * 3 ^ 1)).2 := Or.inl ((s_br_i hnh hbr).mp c_1)
    refine z_iload_n 1 dX1_builds_16 rfl ?_
    refine z_aload_n 0 dX1_builds_17 rfl ?_
    refine z_callV (As := []) (c_houses (K := (cput (cput (zs (s_rb K f h2 v9) 99 8 o) 300 σ ds (nI (now % 12)) (nI (now / 12))) 310 τ es dt2 yr2)) (F := F) (gl := gl) hA hO hxv hlh heh hch1 hch2 hlg heg hcg1 hcg2) q1127 q1129 qs28 q112 q1130 nm_X1_houses (cX_obj hA) rfl rfl rfl (Nat.le_of_ble_eq_true rfl) ⟨Nat.le_of_ble_eq_true rfl, Nat.le_of_ble_eq_true rfl⟩ dX1_builds_18 rfl rfl (Nat.le_of_ble_eq_true rfl) (Nat.le_of_ble_eq_true rfl) (fun v_2 X_3 hp_4 => ?_)
    obtain ⟨rfl, rfl⟩ := hp_4
    refine z_st (st' := [.int (nI (nh)), .int (nI (h))]) rfl ?_
    refine z_icmp_neN (a := h) (b := nh) 99 (by omega) (by omega) dX1_builds_21 (by decide) (fun c_5 => ?_) (fun c_5 => absurd c_5 ((by omega)))
    refine z_iconst (v := 0) dX1_builds_99 (by decide) ?_
    refine z_istore (lv' := [(4, .int 0), (0, .ref (A 99)), (1, .int (nI (h))), (2, .int (nI (mn))), (3, .int (nI (m)))]) dX1_builds_100 (by decide) rfl ?_
    have loop_10 : ∀ (q_7 i_6 : Nat), i_6 + q_7 = 3 → 0 ≤ i_6 → ∀ (a_11 : Nat → Int32), ∀ (b_12 : Nat → Int32), ∀ (c_13 : Int32), ∀ (F_14 : Nat → Int32), ∀ (o_15 : Int32), ∀ (t_16 : Nat → Int32), ∀ (e_17 : Nat → Int32), ∀ (d_18 : Int32), ∀ (y_19 : Int32), s_br nh (s_bd nh σ (fun τ => decide ((s_go wv vs ds nh nd own now τ m).1 1 = τ 1)) ((3 * p + i_6) * 3 ^ 0)) b_12 c_13 → (∀ j, j < h → a_11 j = f j) → zZ g m_X1_builds (fun rv X' => rv = none ∧ ∃ (f' h2' : Nat → Int32) (v9' o' : Int32) (F' τ' es' : Nat → Int32) (dt' yr' : Int32), X' = cX g A (cput (cput (zs (s_rb K f' h2' v9') 99 8 o') 300 σ ds (nI (now % 12)) (nI (now / 12))) 310 τ' es' dt' yr') F' O gl X ∧ s_br nh (s_bd nh σ (fun τ => decide ((s_go wv vs ds nh nd own now τ m).1 1 = τ 1)) ((p + 1) * 3 ^ 1)) h2' v9' ∧ ∀ j, j < h → f' j = f j, zno, ({ frames := 1005, cells := 0, slots := 0, locals := 40115 } : Room)) 0 0 (cX g A (cput (cput (zs (s_rb K a_11 b_12 c_13) 99 8 o_15) 300 σ ds (nI (now % 12)) (nI (now / 12))) 310 t_16 e_17 d_18 y_19) F_14 O gl X) 102 [(0, .ref (A 99)), (1, .int (nI (h))), (2, .int (nI (mn))), (3, .int (nI (m))), (4, .int (nI (i_6)))] [] := by
      intro q_7
      induction q_7 with
      | zero =>
        intro i_6 hb_9 lo_22 a_11 b_12 c_13 F_14 o_15 t_16 e_17 d_18 y_19 hi_20 hi_21
        obtain rfl : 3 = i_6 := by omega
        refine z_iload 4 dX1_builds_102 rfl ?_
        refine z_iconst (v := 2) dX1_builds_104 (by decide) ?_
        refine z_icmp_gtN (a := 3) (b := 2) 151 (by decide) (by decide) dX1_builds_105 (by decide) (fun h_ => ?_) (fun h_ => absurd h_ (by decide))
        exact z_vret dX1_builds_151 rfl (Nat.le_of_ble_eq_true rfl) (Nat.le_of_ble_eq_true rfl) ⟨rfl, a_11, b_12, c_13, o_15, F_14, t_16, e_17, d_18, y_19, rfl, (by have e9 : (3 * p + 3) * 3 ^ 0 = (p + 1) * 3 ^ 1 := s_p3b; rw [← e9]; exact hi_20), hi_21⟩
      | succ q_7 ih_8 =>
        intro i_6 hb_9 lo_22 a_11 b_12 c_13 F_14 o_15 t_16 e_17 d_18 y_19 hi_20 hi_21
        refine z_iload 4 dX1_builds_102 rfl ?_
        refine z_iconst (v := 2) dX1_builds_104 (by decide) ?_
        refine z_icmp_gtN (a := i_6) (b := 2) 151 (by omega) (by omega) dX1_builds_105 (by decide) (fun c_23 => absurd c_23 (by omega)) (fun c_23 => ?_)
        refine z_aload_n 0 dX1_builds_108 rfl ?_
        refine cz_get (v := .ref (A 309)) 4 hA (by decide) q331 rfl dX1_builds_109 ?_
        refine cz_getSN (s := 300) (v := .ref (A 300)) 0 hA (cst_0 hA) (by decide) q259 rfl dX1_builds_112 ?_
        refine z_iload_n 1 dX1_builds_115 rfl ?_
        refine cz_iald (v := nI ((bd h))) 300 h hA (by unfold cia; omega) rfl (by have h9 : csz 300 = 4 := rfl; omega) (Eq.trans (b := σ (h + 2)) (by rw [cput_a (by omega), cput_beds (by omega)]) (hb h (by omega)).1) dX1_builds_116 ?_
        refine z_iload 4 dX1_builds_117 rfl ?_
        refine z_iaddN (a := (bd h)) (b := i_6) dX1_builds_119 ?_
        refine z_bipush (v := 9) dX1_builds_120 (by decide) ?_
        refine z_icmp_gtN (a := (bd h) + i_6) (b := 9) 151 (by omega) (by omega) dX1_builds_122 (by decide) (fun c_24 => ?_) (fun c_24 => ?_)
        · -- 9 < (bd h) + i_6
          exact z_vret dX1_builds_151 rfl (Nat.le_of_ble_eq_true rfl) (Nat.le_of_ble_eq_true rfl) ⟨rfl, a_11, b_12, c_13, o_15, F_14, t_16, e_17, d_18, y_19, rfl, (by rw [s_bd_full (r := 0) (h := h) (d := i_6) (by omega) hb (by omega) (by omega)]; exact hi_20), hi_21⟩
        · -- (bd h) + i_6 ≤ 9
          refine z_aload_n 0 dX1_builds_125 rfl ?_
          refine cz_get (v := .ref (A 11)) 11 hA (by decide) q338 rfl dX1_builds_126 ?_
          refine z_iload_n 1 dX1_builds_129 rfl ?_
          refine z_iload 4 dX1_builds_130 rfl ?_
          refine cz_iast (K' := (cput (cput (zs (s_rb K (zs1 a_11 h (nI (i_6))) b_12 c_13) 99 8 o_15) 300 σ ds (nI (now % 12)) (nI (now / 12))) 310 t_16 e_17 d_18 y_19)) 11 h hA (by unfold cia; omega) rfl (by have h9 : csz 11 = 4 := rfl; omega) (by rw [cput_zo (by omega), cput_zo (by omega), zs_cm (by omega), s_rb_11]) dX1_builds_132 ?_
          refine z_aload_n 0 dX1_builds_133 rfl ?_
          refine z_iload_n 1 dX1_builds_134 rfl ?_
          refine z_iconst (v := 1) dX1_builds_135 (by decide) ?_
          refine z_iaddN (a := h) (b := 1) dX1_builds_136 ?_
          refine z_iload_n 2 dX1_builds_137 rfl ?_
          refine z_iload 4 dX1_builds_138 rfl ?_
          refine z_iaddN (a := mn) (b := i_6) dX1_builds_140 ?_
          refine z_iload_n 3 dX1_builds_141 rfl ?_
          refine z_callV (As := [.int (nI (h + 1)), .int (nI (mn + i_6)), .int (nI (m))]) (c_builds_0 (K := K) (f := (zs1 a_11 h (nI (i_6)))) (h2 := b_12) (v9 := c_13) (F := F_14) (gl := gl) (σ := σ) (ds := ds) (τ := t_16) (es := e_17) (dt2 := d_18) (yr2 := y_19) (o := o_15) hA hO hV hv hnow hiv hb (h + 1) (3 * p + i_6) (mn + i_6) m (by omega) hm (by rw [s_bn_ext (by omega), hmn]) (s_p3c hp (by omega)) (s_row_ext hi_21 hrow (by omega)) (s_may_ext hmay (by omega) (by omega)) hi_20) q1353 q1355 qs41 q112 q1356 nm_X1_builds (cX_obj hA) rfl rfl rfl (Nat.le_of_ble_eq_true rfl) ⟨Nat.le_of_ble_eq_true rfl, Nat.le_of_ble_eq_true rfl⟩ dX1_builds_142 rfl rfl (Nat.le_of_ble_eq_true rfl) (Nat.le_of_ble_eq_true rfl) (fun v_36 X_37 hp_38 => ?_)
          obtain ⟨rfl, a_25, b_26, c_27, o_28, F_29, t_30, e_31, d_32, y_33, rfl, hbr_34, hrw_35⟩ := hp_38
          refine z_st (st' := []) rfl ?_
          refine z_iinc (v := nI (i_6 + 1)) (lv' := [(4, .int (nI (i_6 + 1))), (0, .ref (A 99)), (1, .int (nI (h))), (2, .int (nI (mn))), (3, .int (nI (m)))]) 4 dX1_builds_145 rfl (nI_1 _) (by decide) rfl ?_
          refine z_goto 102 dX1_builds_148 (by decide) ?_
          refine z_lv (lv' := [(0, .ref (A 99)), (1, .int (nI (h))), (2, .int (nI (mn))), (3, .int (nI (m))), (4, .int (nI (i_6 + 1)))]) [1, 2, 3, 4, 0] rfl ?_
          exact ih_8 (i_6 + 1) (by omega) (by omega) _ _ _ _ _ _ _ _ _ hbr_34 (fun j hj => (hrw_35 j (by omega)).trans ((zs1_n (by omega)).trans (hi_21 j hj)))
    refine z_lv (lv' := [(0, .ref (A 99)), (1, .int (nI (h))), (2, .int (nI (mn))), (3, .int (nI (m))), (4, .int 0)]) [1, 2, 3, 4, 0] rfl ?_
    exact loop_10 (3 - 0) 0 (by omega) (Nat.le_refl _) _ _ _ _ _ _ _ _ _ (by have e9 : (3 * p + 0) * 3 ^ 0 = p * 3 ^ 1 := s_p3a; rw [e9]; exact hbr) (fun j hj => rfl)
  · -- ¬ v9 < 0
    have c_1' := Int32.not_lt.mp c_1
    refine z_iload_n 2 dX1_builds_7 rfl ?_
    refine z_aload_n 0 dX1_builds_8 rfl ?_
    refine cz_get (v := .int ((s_rb K f h2 v9) 99 13)) 13 hA (by decide) q340 rfl dX1_builds_9 ?_
    refine z_eq (y := v9) (by rfl) ?_
    refine z_icmp_lt 16 dX1_builds_12 (by decide) (fun c_39 => ?_) (fun c_39 => ?_)
    · -- nI (mn) < v9
      have c_39' := Int32.not_le.mpr c_39
      have hgo : (s_bd nh σ (fun τ => decide ((s_go wv vs ds nh nd own now τ m).1 1 = τ 1)) (p * 3 ^ 1)).1 < 0 ∨ nI mn < (s_bd nh σ (fun τ => decide ((s_go wv vs ds nh nd own now τ m).1 1 = τ 1)) (p * 3 ^ 1)).2 := Or.inr (by rw [← (hbr.2 (fun z => c_1 ((s_br_i hnh hbr).mpr z))).1]; exact c_39)
      refine z_iload_n 1 dX1_builds_16 rfl ?_
      refine z_aload_n 0 dX1_builds_17 rfl ?_
      refine z_callV (As := []) (c_houses (K := (cput (cput (zs (s_rb K f h2 v9) 99 8 o) 300 σ ds (nI (now % 12)) (nI (now / 12))) 310 τ es dt2 yr2)) (F := F) (gl := gl) hA hO hxv hlh heh hch1 hch2 hlg heg hcg1 hcg2) q1127 q1129 qs28 q112 q1130 nm_X1_houses (cX_obj hA) rfl rfl rfl (Nat.le_of_ble_eq_true rfl) ⟨Nat.le_of_ble_eq_true rfl, Nat.le_of_ble_eq_true rfl⟩ dX1_builds_18 rfl rfl (Nat.le_of_ble_eq_true rfl) (Nat.le_of_ble_eq_true rfl) (fun v_40 X_41 hp_42 => ?_)
      obtain ⟨rfl, rfl⟩ := hp_42
      refine z_st (st' := [.int (nI (nh)), .int (nI (h))]) rfl ?_
      refine z_icmp_neN (a := h) (b := nh) 99 (by omega) (by omega) dX1_builds_21 (by decide) (fun c_43 => ?_) (fun c_43 => absurd c_43 ((by omega)))
      refine z_iconst (v := 0) dX1_builds_99 (by decide) ?_
      refine z_istore (lv' := [(4, .int 0), (0, .ref (A 99)), (1, .int (nI (h))), (2, .int (nI (mn))), (3, .int (nI (m)))]) dX1_builds_100 (by decide) rfl ?_
      have loop_48 : ∀ (q_45 i_44 : Nat), i_44 + q_45 = 3 → 0 ≤ i_44 → ∀ (a_49 : Nat → Int32), ∀ (b_50 : Nat → Int32), ∀ (c_51 : Int32), ∀ (F_52 : Nat → Int32), ∀ (o_53 : Int32), ∀ (t_54 : Nat → Int32), ∀ (e_55 : Nat → Int32), ∀ (d_56 : Int32), ∀ (y_57 : Int32), s_br nh (s_bd nh σ (fun τ => decide ((s_go wv vs ds nh nd own now τ m).1 1 = τ 1)) ((3 * p + i_44) * 3 ^ 0)) b_50 c_51 → (∀ j, j < h → a_49 j = f j) → zZ g m_X1_builds (fun rv X' => rv = none ∧ ∃ (f' h2' : Nat → Int32) (v9' o' : Int32) (F' τ' es' : Nat → Int32) (dt' yr' : Int32), X' = cX g A (cput (cput (zs (s_rb K f' h2' v9') 99 8 o') 300 σ ds (nI (now % 12)) (nI (now / 12))) 310 τ' es' dt' yr') F' O gl X ∧ s_br nh (s_bd nh σ (fun τ => decide ((s_go wv vs ds nh nd own now τ m).1 1 = τ 1)) ((p + 1) * 3 ^ 1)) h2' v9' ∧ ∀ j, j < h → f' j = f j, zno, ({ frames := 1005, cells := 0, slots := 0, locals := 40115 } : Room)) 0 0 (cX g A (cput (cput (zs (s_rb K a_49 b_50 c_51) 99 8 o_53) 300 σ ds (nI (now % 12)) (nI (now / 12))) 310 t_54 e_55 d_56 y_57) F_52 O gl X) 102 [(0, .ref (A 99)), (1, .int (nI (h))), (2, .int (nI (mn))), (3, .int (nI (m))), (4, .int (nI (i_44)))] [] := by
        intro q_45
        induction q_45 with
        | zero =>
          intro i_44 hb_47 lo_60 a_49 b_50 c_51 F_52 o_53 t_54 e_55 d_56 y_57 hi_58 hi_59
          obtain rfl : 3 = i_44 := by omega
          refine z_iload 4 dX1_builds_102 rfl ?_
          refine z_iconst (v := 2) dX1_builds_104 (by decide) ?_
          refine z_icmp_gtN (a := 3) (b := 2) 151 (by decide) (by decide) dX1_builds_105 (by decide) (fun h_ => ?_) (fun h_ => absurd h_ (by decide))
          exact z_vret dX1_builds_151 rfl (Nat.le_of_ble_eq_true rfl) (Nat.le_of_ble_eq_true rfl) ⟨rfl, a_49, b_50, c_51, o_53, F_52, t_54, e_55, d_56, y_57, rfl, (by have e9 : (3 * p + 3) * 3 ^ 0 = (p + 1) * 3 ^ 1 := s_p3b; rw [← e9]; exact hi_58), hi_59⟩
        | succ q_45 ih_46 =>
          intro i_44 hb_47 lo_60 a_49 b_50 c_51 F_52 o_53 t_54 e_55 d_56 y_57 hi_58 hi_59
          refine z_iload 4 dX1_builds_102 rfl ?_
          refine z_iconst (v := 2) dX1_builds_104 (by decide) ?_
          refine z_icmp_gtN (a := i_44) (b := 2) 151 (by omega) (by omega) dX1_builds_105 (by decide) (fun c_61 => absurd c_61 (by omega)) (fun c_61 => ?_)
          refine z_aload_n 0 dX1_builds_108 rfl ?_
          refine cz_get (v := .ref (A 309)) 4 hA (by decide) q331 rfl dX1_builds_109 ?_
          refine cz_getSN (s := 300) (v := .ref (A 300)) 0 hA (cst_0 hA) (by decide) q259 rfl dX1_builds_112 ?_
          refine z_iload_n 1 dX1_builds_115 rfl ?_
          refine cz_iald (v := nI ((bd h))) 300 h hA (by unfold cia; omega) rfl (by have h9 : csz 300 = 4 := rfl; omega) (Eq.trans (b := σ (h + 2)) (by rw [cput_a (by omega), cput_beds (by omega)]) (hb h (by omega)).1) dX1_builds_116 ?_
          refine z_iload 4 dX1_builds_117 rfl ?_
          refine z_iaddN (a := (bd h)) (b := i_44) dX1_builds_119 ?_
          refine z_bipush (v := 9) dX1_builds_120 (by decide) ?_
          refine z_icmp_gtN (a := (bd h) + i_44) (b := 9) 151 (by omega) (by omega) dX1_builds_122 (by decide) (fun c_62 => ?_) (fun c_62 => ?_)
          · -- 9 < (bd h) + i_44
            exact z_vret dX1_builds_151 rfl (Nat.le_of_ble_eq_true rfl) (Nat.le_of_ble_eq_true rfl) ⟨rfl, a_49, b_50, c_51, o_53, F_52, t_54, e_55, d_56, y_57, rfl, (by rw [s_bd_full (r := 0) (h := h) (d := i_44) (by omega) hb (by omega) (by omega)]; exact hi_58), hi_59⟩
          · -- (bd h) + i_44 ≤ 9
            refine z_aload_n 0 dX1_builds_125 rfl ?_
            refine cz_get (v := .ref (A 11)) 11 hA (by decide) q338 rfl dX1_builds_126 ?_
            refine z_iload_n 1 dX1_builds_129 rfl ?_
            refine z_iload 4 dX1_builds_130 rfl ?_
            refine cz_iast (K' := (cput (cput (zs (s_rb K (zs1 a_49 h (nI (i_44))) b_50 c_51) 99 8 o_53) 300 σ ds (nI (now % 12)) (nI (now / 12))) 310 t_54 e_55 d_56 y_57)) 11 h hA (by unfold cia; omega) rfl (by have h9 : csz 11 = 4 := rfl; omega) (by rw [cput_zo (by omega), cput_zo (by omega), zs_cm (by omega), s_rb_11]) dX1_builds_132 ?_
            refine z_aload_n 0 dX1_builds_133 rfl ?_
            refine z_iload_n 1 dX1_builds_134 rfl ?_
            refine z_iconst (v := 1) dX1_builds_135 (by decide) ?_
            refine z_iaddN (a := h) (b := 1) dX1_builds_136 ?_
            refine z_iload_n 2 dX1_builds_137 rfl ?_
            refine z_iload 4 dX1_builds_138 rfl ?_
            refine z_iaddN (a := mn) (b := i_44) dX1_builds_140 ?_
            refine z_iload_n 3 dX1_builds_141 rfl ?_
            refine z_callV (As := [.int (nI (h + 1)), .int (nI (mn + i_44)), .int (nI (m))]) (c_builds_0 (K := K) (f := (zs1 a_49 h (nI (i_44)))) (h2 := b_50) (v9 := c_51) (F := F_52) (gl := gl) (σ := σ) (ds := ds) (τ := t_54) (es := e_55) (dt2 := d_56) (yr2 := y_57) (o := o_53) hA hO hV hv hnow hiv hb (h + 1) (3 * p + i_44) (mn + i_44) m (by omega) hm (by rw [s_bn_ext (by omega), hmn]) (s_p3c hp (by omega)) (s_row_ext hi_59 hrow (by omega)) (s_may_ext hmay (by omega) (by omega)) hi_58) q1353 q1355 qs41 q112 q1356 nm_X1_builds (cX_obj hA) rfl rfl rfl (Nat.le_of_ble_eq_true rfl) ⟨Nat.le_of_ble_eq_true rfl, Nat.le_of_ble_eq_true rfl⟩ dX1_builds_142 rfl rfl (Nat.le_of_ble_eq_true rfl) (Nat.le_of_ble_eq_true rfl) (fun v_74 X_75 hp_76 => ?_)
            obtain ⟨rfl, a_63, b_64, c_65, o_66, F_67, t_68, e_69, d_70, y_71, rfl, hbr_72, hrw_73⟩ := hp_76
            refine z_st (st' := []) rfl ?_
            refine z_iinc (v := nI (i_44 + 1)) (lv' := [(4, .int (nI (i_44 + 1))), (0, .ref (A 99)), (1, .int (nI (h))), (2, .int (nI (mn))), (3, .int (nI (m)))]) 4 dX1_builds_145 rfl (nI_1 _) (by decide) rfl ?_
            refine z_goto 102 dX1_builds_148 (by decide) ?_
            refine z_lv (lv' := [(0, .ref (A 99)), (1, .int (nI (h))), (2, .int (nI (mn))), (3, .int (nI (m))), (4, .int (nI (i_44 + 1)))]) [1, 2, 3, 4, 0] rfl ?_
            exact ih_46 (i_44 + 1) (by omega) (by omega) _ _ _ _ _ _ _ _ _ hbr_72 (fun j hj => (hrw_73 j (by omega)).trans ((zs1_n (by omega)).trans (hi_59 j hj)))
      refine z_lv (lv' := [(0, .ref (A 99)), (1, .int (nI (h))), (2, .int (nI (mn))), (3, .int (nI (m))), (4, .int 0)]) [1, 2, 3, 4, 0] rfl ?_
      exact loop_48 (3 - 0) 0 (by omega) (Nat.le_refl _) _ _ _ _ _ _ _ _ _ (by have e9 : (3 * p + 0) * 3 ^ 0 = p * 3 ^ 1 := s_p3a; rw [e9]; exact hbr) (fun j hj => rfl)
    · -- ¬ nI (mn) < v9
      have c_39' := Int32.not_lt.mp c_39
      exact z_vret dX1_builds_15 rfl (Nat.le_of_ble_eq_true rfl) (Nat.le_of_ble_eq_true rfl) ⟨rfl, f, h2, v9, o, F, τ, es, dt2, yr2, rfl, (by rw [s_bd_prune (r := 1) (by omega) hnh hmn (fun z => c_1 ((s_br_i hnh hbr).mpr z)) (by rw [← (hbr.2 (fun z => c_1 ((s_br_i hnh hbr).mpr z))).1]; exact (Int32.not_lt.mp c_39))]; exact hbr), fun j hj => rfl⟩
set_option maxHeartbeats 4000000 in
theorem c_builds_2 {g : zG} {A : Nat → Nat} {K : Nat → Nat → Int32} {F : Nat → Int32} {O : Nat → Nat → Option Nat} {gl : Int64} {X : zX} (hA : cok g A X) {v : Nat} (hO : O 0 0 = some v) {vs : Nat → Int32} {nh nd : Nat} {own : Nat → Nat} {wv : Int32 → Int32 → Int32 → Int32 → Int32} (hV : s_ok vs nh nd own) (hv : cvl g X v vs nh nd wv) {σ ds τ es : Nat → Int32} {dt2 yr2 o : Int32} {now : Nat} (hnow : now < 2 ^ 28) (hiv : s_iv σ nd) {f h2 : Nat → Int32} {v9 : Int32} {bd : Nat → Nat} (hb : s_ib σ nh bd) (h p mn m : Nat) (hr : h + 2 = nh) (hm : m < 1000) (hmn : mn = s_bn h p h) (hp : p < 3 ^ h) (hrow : ∀ j, j < h → f j = nI (s_bi h p j)) (hmay : ∀ j, j < h → bd j + s_bi h p j ≤ 9) (hbr : s_br nh (s_bd nh σ (fun τ => decide ((s_go wv vs ds nh nd own now τ m).1 1 = τ 1)) (p * 3 ^ 2)) h2 v9) : zN g m_X1_builds ({ frames := 1006, cells := 0, slots := 0, locals := 40139 } : Room) [.ref (A 99), .int (nI (h)), .int (nI (mn)), .int (nI (m))] (cX g A (cput (cput (zs (s_rb K f h2 v9) 99 8 o) 300 σ ds (nI (now % 12)) (nI (now / 12))) 310 τ es dt2 yr2) F O gl X) (fun rv X' => rv = none ∧ ∃ (f' h2' : Nat → Int32) (v9' o' : Int32) (F' τ' es' : Nat → Int32) (dt' yr' : Int32), X' = cX g A (cput (cput (zs (s_rb K f' h2' v9') 99 8 o') 300 σ ds (nI (now % 12)) (nI (now / 12))) 310 τ' es' dt' yr') F' O gl X ∧ s_br nh (s_bd nh σ (fun τ => decide ((s_go wv vs ds nh nd own now τ m).1 1 = τ 1)) ((p + 1) * 3 ^ 2)) h2' v9' ∧ ∀ j, j < h → f' j = f j) := by
  refine zN.of (by decide +kernel) (Nat.le_of_ble_eq_true rfl) rfl ?_
  refine z_lv (lv' := [(0, .ref (A 99)), (1, .int (nI (h))), (2, .int (nI (mn))), (3, .int (nI (m)))]) [0, 1, 2, 3] rfl ?_
  have hA2 := hA.2.2.1
  have hV9 := hV
  have hv9 := hv
  obtain ⟨h0, hnh, h1, hnd, hown⟩ := hV9
  obtain ⟨lh, lg, fh, fg, st9, fa, hxv, ⟨mh, eh, ch, hlh, heh, hch1, hch2⟩, ⟨mg, eg, cg, hlg, heg, hcg1, hcg2⟩, hhs, hgs, hst9, hfa⟩ := hv9
  have hmn9 : mn ≤ 8 := by rw [hmn]; exact Nat.le_trans (s_bn_le h) (by omega)
  have hp9 := pow3_le h (by omega)
  have hbh := (hb h (by omega)).2
  refine z_aload_n 0 dX1_builds_0 rfl ?_
  refine cz_get (v := .int ((s_rb K f h2 v9) 99 13)) 13 hA (by decide) q340 rfl dX1_builds_1 ?_
  refine z_eq (y := v9) (by rfl) ?_
  refine z_if_lt 16 dX1_builds_4 (by decide) (fun c_1 => ?_) (fun c_1 => ?_)
  · -- v9 < 0
    have c_1' := Int32.not_le.mpr c_1
    have hgo : (s_bd nh σ (fun τ => decide ((s_go wv vs ds nh nd own now τ m).1 1 = τ 1)) (p * 3 ^ 2)).1 < 0 ∨ nI mn < (s_bd nh σ (fun τ => decide ((s_go wv vs ds nh nd own now τ m).1 1 = τ 1)) (p * 3 ^ 2)).2 := Or.inl ((s_br_i hnh hbr).mp c_1)
    refine z_iload_n 1 dX1_builds_16 rfl ?_
    refine z_aload_n 0 dX1_builds_17 rfl ?_
    refine z_callV (As := []) (c_houses (K := (cput (cput (zs (s_rb K f h2 v9) 99 8 o) 300 σ ds (nI (now % 12)) (nI (now / 12))) 310 τ es dt2 yr2)) (F := F) (gl := gl) hA hO hxv hlh heh hch1 hch2 hlg heg hcg1 hcg2) q1127 q1129 qs28 q112 q1130 nm_X1_houses (cX_obj hA) rfl rfl rfl (Nat.le_of_ble_eq_true rfl) ⟨Nat.le_of_ble_eq_true rfl, Nat.le_of_ble_eq_true rfl⟩ dX1_builds_18 rfl rfl (Nat.le_of_ble_eq_true rfl) (Nat.le_of_ble_eq_true rfl) (fun v_2 X_3 hp_4 => ?_)
    obtain ⟨rfl, rfl⟩ := hp_4
    refine z_st (st' := [.int (nI (nh)), .int (nI (h))]) rfl ?_
    refine z_icmp_neN (a := h) (b := nh) 99 (by omega) (by omega) dX1_builds_21 (by decide) (fun c_5 => ?_) (fun c_5 => absurd c_5 ((by omega)))
    refine z_iconst (v := 0) dX1_builds_99 (by decide) ?_
    refine z_istore (lv' := [(4, .int 0), (0, .ref (A 99)), (1, .int (nI (h))), (2, .int (nI (mn))), (3, .int (nI (m)))]) dX1_builds_100 (by decide) rfl ?_
    have loop_10 : ∀ (q_7 i_6 : Nat), i_6 + q_7 = 3 → 0 ≤ i_6 → ∀ (a_11 : Nat → Int32), ∀ (b_12 : Nat → Int32), ∀ (c_13 : Int32), ∀ (F_14 : Nat → Int32), ∀ (o_15 : Int32), ∀ (t_16 : Nat → Int32), ∀ (e_17 : Nat → Int32), ∀ (d_18 : Int32), ∀ (y_19 : Int32), s_br nh (s_bd nh σ (fun τ => decide ((s_go wv vs ds nh nd own now τ m).1 1 = τ 1)) ((3 * p + i_6) * 3 ^ 1)) b_12 c_13 → (∀ j, j < h → a_11 j = f j) → zZ g m_X1_builds (fun rv X' => rv = none ∧ ∃ (f' h2' : Nat → Int32) (v9' o' : Int32) (F' τ' es' : Nat → Int32) (dt' yr' : Int32), X' = cX g A (cput (cput (zs (s_rb K f' h2' v9') 99 8 o') 300 σ ds (nI (now % 12)) (nI (now / 12))) 310 τ' es' dt' yr') F' O gl X ∧ s_br nh (s_bd nh σ (fun τ => decide ((s_go wv vs ds nh nd own now τ m).1 1 = τ 1)) ((p + 1) * 3 ^ 2)) h2' v9' ∧ ∀ j, j < h → f' j = f j, zno, ({ frames := 1006, cells := 0, slots := 0, locals := 40139 } : Room)) 0 0 (cX g A (cput (cput (zs (s_rb K a_11 b_12 c_13) 99 8 o_15) 300 σ ds (nI (now % 12)) (nI (now / 12))) 310 t_16 e_17 d_18 y_19) F_14 O gl X) 102 [(0, .ref (A 99)), (1, .int (nI (h))), (2, .int (nI (mn))), (3, .int (nI (m))), (4, .int (nI (i_6)))] [] := by
      intro q_7
      induction q_7 with
      | zero =>
        intro i_6 hb_9 lo_22 a_11 b_12 c_13 F_14 o_15 t_16 e_17 d_18 y_19 hi_20 hi_21
        obtain rfl : 3 = i_6 := by omega
        refine z_iload 4 dX1_builds_102 rfl ?_
        refine z_iconst (v := 2) dX1_builds_104 (by decide) ?_
        refine z_icmp_gtN (a := 3) (b := 2) 151 (by decide) (by decide) dX1_builds_105 (by decide) (fun h_ => ?_) (fun h_ => absurd h_ (by decide))
        exact z_vret dX1_builds_151 rfl (Nat.le_of_ble_eq_true rfl) (Nat.le_of_ble_eq_true rfl) ⟨rfl, a_11, b_12, c_13, o_15, F_14, t_16, e_17, d_18, y_19, rfl, (by have e9 : (3 * p + 3) * 3 ^ 1 = (p + 1) * 3 ^ 2 := s_p3b; rw [← e9]; exact hi_20), hi_21⟩
      | succ q_7 ih_8 =>
        intro i_6 hb_9 lo_22 a_11 b_12 c_13 F_14 o_15 t_16 e_17 d_18 y_19 hi_20 hi_21
        refine z_iload 4 dX1_builds_102 rfl ?_
        refine z_iconst (v := 2) dX1_builds_104 (by decide) ?_
        refine z_icmp_gtN (a := i_6) (b := 2) 151 (by omega) (by omega) dX1_builds_105 (by decide) (fun c_23 => absurd c_23 (by omega)) (fun c_23 => ?_)
        refine z_aload_n 0 dX1_builds_108 rfl ?_
        refine cz_get (v := .ref (A 309)) 4 hA (by decide) q331 rfl dX1_builds_109 ?_
        refine cz_getSN (s := 300) (v := .ref (A 300)) 0 hA (cst_0 hA) (by decide) q259 rfl dX1_builds_112 ?_
        refine z_iload_n 1 dX1_builds_115 rfl ?_
        refine cz_iald (v := nI ((bd h))) 300 h hA (by unfold cia; omega) rfl (by have h9 : csz 300 = 4 := rfl; omega) (Eq.trans (b := σ (h + 2)) (by rw [cput_a (by omega), cput_beds (by omega)]) (hb h (by omega)).1) dX1_builds_116 ?_
        refine z_iload 4 dX1_builds_117 rfl ?_
        refine z_iaddN (a := (bd h)) (b := i_6) dX1_builds_119 ?_
        refine z_bipush (v := 9) dX1_builds_120 (by decide) ?_
        refine z_icmp_gtN (a := (bd h) + i_6) (b := 9) 151 (by omega) (by omega) dX1_builds_122 (by decide) (fun c_24 => ?_) (fun c_24 => ?_)
        · -- 9 < (bd h) + i_6
          exact z_vret dX1_builds_151 rfl (Nat.le_of_ble_eq_true rfl) (Nat.le_of_ble_eq_true rfl) ⟨rfl, a_11, b_12, c_13, o_15, F_14, t_16, e_17, d_18, y_19, rfl, (by rw [s_bd_full (r := 1) (h := h) (d := i_6) (by omega) hb (by omega) (by omega)]; exact hi_20), hi_21⟩
        · -- (bd h) + i_6 ≤ 9
          refine z_aload_n 0 dX1_builds_125 rfl ?_
          refine cz_get (v := .ref (A 11)) 11 hA (by decide) q338 rfl dX1_builds_126 ?_
          refine z_iload_n 1 dX1_builds_129 rfl ?_
          refine z_iload 4 dX1_builds_130 rfl ?_
          refine cz_iast (K' := (cput (cput (zs (s_rb K (zs1 a_11 h (nI (i_6))) b_12 c_13) 99 8 o_15) 300 σ ds (nI (now % 12)) (nI (now / 12))) 310 t_16 e_17 d_18 y_19)) 11 h hA (by unfold cia; omega) rfl (by have h9 : csz 11 = 4 := rfl; omega) (by rw [cput_zo (by omega), cput_zo (by omega), zs_cm (by omega), s_rb_11]) dX1_builds_132 ?_
          refine z_aload_n 0 dX1_builds_133 rfl ?_
          refine z_iload_n 1 dX1_builds_134 rfl ?_
          refine z_iconst (v := 1) dX1_builds_135 (by decide) ?_
          refine z_iaddN (a := h) (b := 1) dX1_builds_136 ?_
          refine z_iload_n 2 dX1_builds_137 rfl ?_
          refine z_iload 4 dX1_builds_138 rfl ?_
          refine z_iaddN (a := mn) (b := i_6) dX1_builds_140 ?_
          refine z_iload_n 3 dX1_builds_141 rfl ?_
          refine z_callV (As := [.int (nI (h + 1)), .int (nI (mn + i_6)), .int (nI (m))]) (c_builds_1 (K := K) (f := (zs1 a_11 h (nI (i_6)))) (h2 := b_12) (v9 := c_13) (F := F_14) (gl := gl) (σ := σ) (ds := ds) (τ := t_16) (es := e_17) (dt2 := d_18) (yr2 := y_19) (o := o_15) hA hO hV hv hnow hiv hb (h + 1) (3 * p + i_6) (mn + i_6) m (by omega) hm (by rw [s_bn_ext (by omega), hmn]) (s_p3c hp (by omega)) (s_row_ext hi_21 hrow (by omega)) (s_may_ext hmay (by omega) (by omega)) hi_20) q1353 q1355 qs41 q112 q1356 nm_X1_builds (cX_obj hA) rfl rfl rfl (Nat.le_of_ble_eq_true rfl) ⟨Nat.le_of_ble_eq_true rfl, Nat.le_of_ble_eq_true rfl⟩ dX1_builds_142 rfl rfl (Nat.le_of_ble_eq_true rfl) (Nat.le_of_ble_eq_true rfl) (fun v_36 X_37 hp_38 => ?_)
          obtain ⟨rfl, a_25, b_26, c_27, o_28, F_29, t_30, e_31, d_32, y_33, rfl, hbr_34, hrw_35⟩ := hp_38
          refine z_st (st' := []) rfl ?_
          refine z_iinc (v := nI (i_6 + 1)) (lv' := [(4, .int (nI (i_6 + 1))), (0, .ref (A 99)), (1, .int (nI (h))), (2, .int (nI (mn))), (3, .int (nI (m)))]) 4 dX1_builds_145 rfl (nI_1 _) (by decide) rfl ?_
          refine z_goto 102 dX1_builds_148 (by decide) ?_
          refine z_lv (lv' := [(0, .ref (A 99)), (1, .int (nI (h))), (2, .int (nI (mn))), (3, .int (nI (m))), (4, .int (nI (i_6 + 1)))]) [1, 2, 3, 4, 0] rfl ?_
          exact ih_8 (i_6 + 1) (by omega) (by omega) _ _ _ _ _ _ _ _ _ hbr_34 (fun j hj => (hrw_35 j (by omega)).trans ((zs1_n (by omega)).trans (hi_21 j hj)))
    refine z_lv (lv' := [(0, .ref (A 99)), (1, .int (nI (h))), (2, .int (nI (mn))), (3, .int (nI (m))), (4, .int 0)]) [1, 2, 3, 4, 0] rfl ?_
    exact loop_10 (3 - 0) 0 (by omega) (Nat.le_refl _) _ _ _ _ _ _ _ _ _ (by have e9 : (3 * p + 0) * 3 ^ 1 = p * 3 ^ 2 := s_p3a; rw [e9]; exact hbr) (fun j hj => rfl)
  · -- ¬ v9 < 0
    have c_1' := Int32.not_lt.mp c_1
    refine z_iload_n 2 dX1_builds_7 rfl ?_
    refine z_aload_n 0 dX1_builds_8 rfl ?_
    refine cz_get (v := .int ((s_rb K f h2 v9) 99 13)) 13 hA (by decide) q340 rfl dX1_builds_9 ?_
    refine z_eq (y := v9) (by rfl) ?_
    refine z_icmp_lt 16 dX1_builds_12 (by decide) (fun c_39 => ?_) (fun c_39 => ?_)
    · -- nI (mn) < v9
      have c_39' := Int32.not_le.mpr c_39
      have hgo : (s_bd nh σ (fun τ => decide ((s_go wv vs ds nh nd own now τ m).1 1 = τ 1)) (p * 3 ^ 2)).1 < 0 ∨ nI mn < (s_bd nh σ (fun τ => decide ((s_go wv vs ds nh nd own now τ m).1 1 = τ 1)) (p * 3 ^ 2)).2 := Or.inr (by rw [← (hbr.2 (fun z => c_1 ((s_br_i hnh hbr).mpr z))).1]; exact c_39)
      refine z_iload_n 1 dX1_builds_16 rfl ?_
      refine z_aload_n 0 dX1_builds_17 rfl ?_
      refine z_callV (As := []) (c_houses (K := (cput (cput (zs (s_rb K f h2 v9) 99 8 o) 300 σ ds (nI (now % 12)) (nI (now / 12))) 310 τ es dt2 yr2)) (F := F) (gl := gl) hA hO hxv hlh heh hch1 hch2 hlg heg hcg1 hcg2) q1127 q1129 qs28 q112 q1130 nm_X1_houses (cX_obj hA) rfl rfl rfl (Nat.le_of_ble_eq_true rfl) ⟨Nat.le_of_ble_eq_true rfl, Nat.le_of_ble_eq_true rfl⟩ dX1_builds_18 rfl rfl (Nat.le_of_ble_eq_true rfl) (Nat.le_of_ble_eq_true rfl) (fun v_40 X_41 hp_42 => ?_)
      obtain ⟨rfl, rfl⟩ := hp_42
      refine z_st (st' := [.int (nI (nh)), .int (nI (h))]) rfl ?_
      refine z_icmp_neN (a := h) (b := nh) 99 (by omega) (by omega) dX1_builds_21 (by decide) (fun c_43 => ?_) (fun c_43 => absurd c_43 ((by omega)))
      refine z_iconst (v := 0) dX1_builds_99 (by decide) ?_
      refine z_istore (lv' := [(4, .int 0), (0, .ref (A 99)), (1, .int (nI (h))), (2, .int (nI (mn))), (3, .int (nI (m)))]) dX1_builds_100 (by decide) rfl ?_
      have loop_48 : ∀ (q_45 i_44 : Nat), i_44 + q_45 = 3 → 0 ≤ i_44 → ∀ (a_49 : Nat → Int32), ∀ (b_50 : Nat → Int32), ∀ (c_51 : Int32), ∀ (F_52 : Nat → Int32), ∀ (o_53 : Int32), ∀ (t_54 : Nat → Int32), ∀ (e_55 : Nat → Int32), ∀ (d_56 : Int32), ∀ (y_57 : Int32), s_br nh (s_bd nh σ (fun τ => decide ((s_go wv vs ds nh nd own now τ m).1 1 = τ 1)) ((3 * p + i_44) * 3 ^ 1)) b_50 c_51 → (∀ j, j < h → a_49 j = f j) → zZ g m_X1_builds (fun rv X' => rv = none ∧ ∃ (f' h2' : Nat → Int32) (v9' o' : Int32) (F' τ' es' : Nat → Int32) (dt' yr' : Int32), X' = cX g A (cput (cput (zs (s_rb K f' h2' v9') 99 8 o') 300 σ ds (nI (now % 12)) (nI (now / 12))) 310 τ' es' dt' yr') F' O gl X ∧ s_br nh (s_bd nh σ (fun τ => decide ((s_go wv vs ds nh nd own now τ m).1 1 = τ 1)) ((p + 1) * 3 ^ 2)) h2' v9' ∧ ∀ j, j < h → f' j = f j, zno, ({ frames := 1006, cells := 0, slots := 0, locals := 40139 } : Room)) 0 0 (cX g A (cput (cput (zs (s_rb K a_49 b_50 c_51) 99 8 o_53) 300 σ ds (nI (now % 12)) (nI (now / 12))) 310 t_54 e_55 d_56 y_57) F_52 O gl X) 102 [(0, .ref (A 99)), (1, .int (nI (h))), (2, .int (nI (mn))), (3, .int (nI (m))), (4, .int (nI (i_44)))] [] := by
        intro q_45
        induction q_45 with
        | zero =>
          intro i_44 hb_47 lo_60 a_49 b_50 c_51 F_52 o_53 t_54 e_55 d_56 y_57 hi_58 hi_59
          obtain rfl : 3 = i_44 := by omega
          refine z_iload 4 dX1_builds_102 rfl ?_
          refine z_iconst (v := 2) dX1_builds_104 (by decide) ?_
          refine z_icmp_gtN (a := 3) (b := 2) 151 (by decide) (by decide) dX1_builds_105 (by decide) (fun h_ => ?_) (fun h_ => absurd h_ (by decide))
          exact z_vret dX1_builds_151 rfl (Nat.le_of_ble_eq_true rfl) (Nat.le_of_ble_eq_true rfl) ⟨rfl, a_49, b_50, c_51, o_53, F_52, t_54, e_55, d_56, y_57, rfl, (by have e9 : (3 * p + 3) * 3 ^ 1 = (p + 1) * 3 ^ 2 := s_p3b; rw [← e9]; exact hi_58), hi_59⟩
        | succ q_45 ih_46 =>
          intro i_44 hb_47 lo_60 a_49 b_50 c_51 F_52 o_53 t_54 e_55 d_56 y_57 hi_58 hi_59
          refine z_iload 4 dX1_builds_102 rfl ?_
          refine z_iconst (v := 2) dX1_builds_104 (by decide) ?_
          refine z_icmp_gtN (a := i_44) (b := 2) 151 (by omega) (by omega) dX1_builds_105 (by decide) (fun c_61 => absurd c_61 (by omega)) (fun c_61 => ?_)
          refine z_aload_n 0 dX1_builds_108 rfl ?_
          refine cz_get (v := .ref (A 309)) 4 hA (by decide) q331 rfl dX1_builds_109 ?_
          refine cz_getSN (s := 300) (v := .ref (A 300)) 0 hA (cst_0 hA) (by decide) q259 rfl dX1_builds_112 ?_
          refine z_iload_n 1 dX1_builds_115 rfl ?_
          refine cz_iald (v := nI ((bd h))) 300 h hA (by unfold cia; omega) rfl (by have h9 : csz 300 = 4 := rfl; omega) (Eq.trans (b := σ (h + 2)) (by rw [cput_a (by omega), cput_beds (by omega)]) (hb h (by omega)).1) dX1_builds_116 ?_
          refine z_iload 4 dX1_builds_117 rfl ?_
          refine z_iaddN (a := (bd h)) (b := i_44) dX1_builds_119 ?_
          refine z_bipush (v := 9) dX1_builds_120 (by decide) ?_
          refine z_icmp_gtN (a := (bd h) + i_44) (b := 9) 151 (by omega) (by omega) dX1_builds_122 (by decide) (fun c_62 => ?_) (fun c_62 => ?_)
          · -- 9 < (bd h) + i_44
            exact z_vret dX1_builds_151 rfl (Nat.le_of_ble_eq_true rfl) (Nat.le_of_ble_eq_true rfl) ⟨rfl, a_49, b_50, c_51, o_53, F_52, t_54, e_55, d_56, y_57, rfl, (by rw [s_bd_full (r := 1) (h := h) (d := i_44) (by omega) hb (by omega) (by omega)]; exact hi_58), hi_59⟩
          · -- (bd h) + i_44 ≤ 9
            refine z_aload_n 0 dX1_builds_125 rfl ?_
            refine cz_get (v := .ref (A 11)) 11 hA (by decide) q338 rfl dX1_builds_126 ?_
            refine z_iload_n 1 dX1_builds_129 rfl ?_
            refine z_iload 4 dX1_builds_130 rfl ?_
            refine cz_iast (K' := (cput (cput (zs (s_rb K (zs1 a_49 h (nI (i_44))) b_50 c_51) 99 8 o_53) 300 σ ds (nI (now % 12)) (nI (now / 12))) 310 t_54 e_55 d_56 y_57)) 11 h hA (by unfold cia; omega) rfl (by have h9 : csz 11 = 4 := rfl; omega) (by rw [cput_zo (by omega), cput_zo (by omega), zs_cm (by omega), s_rb_11]) dX1_builds_132 ?_
            refine z_aload_n 0 dX1_builds_133 rfl ?_
            refine z_iload_n 1 dX1_builds_134 rfl ?_
            refine z_iconst (v := 1) dX1_builds_135 (by decide) ?_
            refine z_iaddN (a := h) (b := 1) dX1_builds_136 ?_
            refine z_iload_n 2 dX1_builds_137 rfl ?_
            refine z_iload 4 dX1_builds_138 rfl ?_
            refine z_iaddN (a := mn) (b := i_44) dX1_builds_140 ?_
            refine z_iload_n 3 dX1_builds_141 rfl ?_
            refine z_callV (As := [.int (nI (h + 1)), .int (nI (mn + i_44)), .int (nI (m))]) (c_builds_1 (K := K) (f := (zs1 a_49 h (nI (i_44)))) (h2 := b_50) (v9 := c_51) (F := F_52) (gl := gl) (σ := σ) (ds := ds) (τ := t_54) (es := e_55) (dt2 := d_56) (yr2 := y_57) (o := o_53) hA hO hV hv hnow hiv hb (h + 1) (3 * p + i_44) (mn + i_44) m (by omega) hm (by rw [s_bn_ext (by omega), hmn]) (s_p3c hp (by omega)) (s_row_ext hi_59 hrow (by omega)) (s_may_ext hmay (by omega) (by omega)) hi_58) q1353 q1355 qs41 q112 q1356 nm_X1_builds (cX_obj hA) rfl rfl rfl (Nat.le_of_ble_eq_true rfl) ⟨Nat.le_of_ble_eq_true rfl, Nat.le_of_ble_eq_true rfl⟩ dX1_builds_142 rfl rfl (Nat.le_of_ble_eq_true rfl) (Nat.le_of_ble_eq_true rfl) (fun v_74 X_75 hp_76 => ?_)
            obtain ⟨rfl, a_63, b_64, c_65, o_66, F_67, t_68, e_69, d_70, y_71, rfl, hbr_72, hrw_73⟩ := hp_76
            refine z_st (st' := []) rfl ?_
            refine z_iinc (v := nI (i_44 + 1)) (lv' := [(4, .int (nI (i_44 + 1))), (0, .ref (A 99)), (1, .int (nI (h))), (2, .int (nI (mn))), (3, .int (nI (m)))]) 4 dX1_builds_145 rfl (nI_1 _) (by decide) rfl ?_
            refine z_goto 102 dX1_builds_148 (by decide) ?_
            refine z_lv (lv' := [(0, .ref (A 99)), (1, .int (nI (h))), (2, .int (nI (mn))), (3, .int (nI (m))), (4, .int (nI (i_44 + 1)))]) [1, 2, 3, 4, 0] rfl ?_
            exact ih_46 (i_44 + 1) (by omega) (by omega) _ _ _ _ _ _ _ _ _ hbr_72 (fun j hj => (hrw_73 j (by omega)).trans ((zs1_n (by omega)).trans (hi_59 j hj)))
      refine z_lv (lv' := [(0, .ref (A 99)), (1, .int (nI (h))), (2, .int (nI (mn))), (3, .int (nI (m))), (4, .int 0)]) [1, 2, 3, 4, 0] rfl ?_
      exact loop_48 (3 - 0) 0 (by omega) (Nat.le_refl _) _ _ _ _ _ _ _ _ _ (by have e9 : (3 * p + 0) * 3 ^ 1 = p * 3 ^ 2 := s_p3a; rw [e9]; exact hbr) (fun j hj => rfl)
    · -- ¬ nI (mn) < v9
      have c_39' := Int32.not_lt.mp c_39
      exact z_vret dX1_builds_15 rfl (Nat.le_of_ble_eq_true rfl) (Nat.le_of_ble_eq_true rfl) ⟨rfl, f, h2, v9, o, F, τ, es, dt2, yr2, rfl, (by rw [s_bd_prune (r := 2) (by omega) hnh hmn (fun z => c_1 ((s_br_i hnh hbr).mpr z)) (by rw [← (hbr.2 (fun z => c_1 ((s_br_i hnh hbr).mpr z))).1]; exact (Int32.not_lt.mp c_39))]; exact hbr), fun j hj => rfl⟩
set_option maxHeartbeats 4000000 in
theorem c_builds_3 {g : zG} {A : Nat → Nat} {K : Nat → Nat → Int32} {F : Nat → Int32} {O : Nat → Nat → Option Nat} {gl : Int64} {X : zX} (hA : cok g A X) {v : Nat} (hO : O 0 0 = some v) {vs : Nat → Int32} {nh nd : Nat} {own : Nat → Nat} {wv : Int32 → Int32 → Int32 → Int32 → Int32} (hV : s_ok vs nh nd own) (hv : cvl g X v vs nh nd wv) {σ ds τ es : Nat → Int32} {dt2 yr2 o : Int32} {now : Nat} (hnow : now < 2 ^ 28) (hiv : s_iv σ nd) {f h2 : Nat → Int32} {v9 : Int32} {bd : Nat → Nat} (hb : s_ib σ nh bd) (h p mn m : Nat) (hr : h + 3 = nh) (hm : m < 1000) (hmn : mn = s_bn h p h) (hp : p < 3 ^ h) (hrow : ∀ j, j < h → f j = nI (s_bi h p j)) (hmay : ∀ j, j < h → bd j + s_bi h p j ≤ 9) (hbr : s_br nh (s_bd nh σ (fun τ => decide ((s_go wv vs ds nh nd own now τ m).1 1 = τ 1)) (p * 3 ^ 3)) h2 v9) : zN g m_X1_builds ({ frames := 1007, cells := 0, slots := 0, locals := 40163 } : Room) [.ref (A 99), .int (nI (h)), .int (nI (mn)), .int (nI (m))] (cX g A (cput (cput (zs (s_rb K f h2 v9) 99 8 o) 300 σ ds (nI (now % 12)) (nI (now / 12))) 310 τ es dt2 yr2) F O gl X) (fun rv X' => rv = none ∧ ∃ (f' h2' : Nat → Int32) (v9' o' : Int32) (F' τ' es' : Nat → Int32) (dt' yr' : Int32), X' = cX g A (cput (cput (zs (s_rb K f' h2' v9') 99 8 o') 300 σ ds (nI (now % 12)) (nI (now / 12))) 310 τ' es' dt' yr') F' O gl X ∧ s_br nh (s_bd nh σ (fun τ => decide ((s_go wv vs ds nh nd own now τ m).1 1 = τ 1)) ((p + 1) * 3 ^ 3)) h2' v9' ∧ ∀ j, j < h → f' j = f j) := by
  refine zN.of (by decide +kernel) (Nat.le_of_ble_eq_true rfl) rfl ?_
  refine z_lv (lv' := [(0, .ref (A 99)), (1, .int (nI (h))), (2, .int (nI (mn))), (3, .int (nI (m)))]) [0, 1, 2, 3] rfl ?_
  have hA2 := hA.2.2.1
  have hV9 := hV
  have hv9 := hv
  obtain ⟨h0, hnh, h1, hnd, hown⟩ := hV9
  obtain ⟨lh, lg, fh, fg, st9, fa, hxv, ⟨mh, eh, ch, hlh, heh, hch1, hch2⟩, ⟨mg, eg, cg, hlg, heg, hcg1, hcg2⟩, hhs, hgs, hst9, hfa⟩ := hv9
  have hmn9 : mn ≤ 8 := by rw [hmn]; exact Nat.le_trans (s_bn_le h) (by omega)
  have hp9 := pow3_le h (by omega)
  have hbh := (hb h (by omega)).2
  refine z_aload_n 0 dX1_builds_0 rfl ?_
  refine cz_get (v := .int ((s_rb K f h2 v9) 99 13)) 13 hA (by decide) q340 rfl dX1_builds_1 ?_
  refine z_eq (y := v9) (by rfl) ?_
  refine z_if_lt 16 dX1_builds_4 (by decide) (fun c_1 => ?_) (fun c_1 => ?_)
  · -- v9 < 0
    have c_1' := Int32.not_le.mpr c_1
    have hgo : (s_bd nh σ (fun τ => decide ((s_go wv vs ds nh nd own now τ m).1 1 = τ 1)) (p * 3 ^ 3)).1 < 0 ∨ nI mn < (s_bd nh σ (fun τ => decide ((s_go wv vs ds nh nd own now τ m).1 1 = τ 1)) (p * 3 ^ 3)).2 := Or.inl ((s_br_i hnh hbr).mp c_1)
    refine z_iload_n 1 dX1_builds_16 rfl ?_
    refine z_aload_n 0 dX1_builds_17 rfl ?_
    refine z_callV (As := []) (c_houses (K := (cput (cput (zs (s_rb K f h2 v9) 99 8 o) 300 σ ds (nI (now % 12)) (nI (now / 12))) 310 τ es dt2 yr2)) (F := F) (gl := gl) hA hO hxv hlh heh hch1 hch2 hlg heg hcg1 hcg2) q1127 q1129 qs28 q112 q1130 nm_X1_houses (cX_obj hA) rfl rfl rfl (Nat.le_of_ble_eq_true rfl) ⟨Nat.le_of_ble_eq_true rfl, Nat.le_of_ble_eq_true rfl⟩ dX1_builds_18 rfl rfl (Nat.le_of_ble_eq_true rfl) (Nat.le_of_ble_eq_true rfl) (fun v_2 X_3 hp_4 => ?_)
    obtain ⟨rfl, rfl⟩ := hp_4
    refine z_st (st' := [.int (nI (nh)), .int (nI (h))]) rfl ?_
    refine z_icmp_neN (a := h) (b := nh) 99 (by omega) (by omega) dX1_builds_21 (by decide) (fun c_5 => ?_) (fun c_5 => absurd c_5 ((by omega)))
    refine z_iconst (v := 0) dX1_builds_99 (by decide) ?_
    refine z_istore (lv' := [(4, .int 0), (0, .ref (A 99)), (1, .int (nI (h))), (2, .int (nI (mn))), (3, .int (nI (m)))]) dX1_builds_100 (by decide) rfl ?_
    have loop_10 : ∀ (q_7 i_6 : Nat), i_6 + q_7 = 3 → 0 ≤ i_6 → ∀ (a_11 : Nat → Int32), ∀ (b_12 : Nat → Int32), ∀ (c_13 : Int32), ∀ (F_14 : Nat → Int32), ∀ (o_15 : Int32), ∀ (t_16 : Nat → Int32), ∀ (e_17 : Nat → Int32), ∀ (d_18 : Int32), ∀ (y_19 : Int32), s_br nh (s_bd nh σ (fun τ => decide ((s_go wv vs ds nh nd own now τ m).1 1 = τ 1)) ((3 * p + i_6) * 3 ^ 2)) b_12 c_13 → (∀ j, j < h → a_11 j = f j) → zZ g m_X1_builds (fun rv X' => rv = none ∧ ∃ (f' h2' : Nat → Int32) (v9' o' : Int32) (F' τ' es' : Nat → Int32) (dt' yr' : Int32), X' = cX g A (cput (cput (zs (s_rb K f' h2' v9') 99 8 o') 300 σ ds (nI (now % 12)) (nI (now / 12))) 310 τ' es' dt' yr') F' O gl X ∧ s_br nh (s_bd nh σ (fun τ => decide ((s_go wv vs ds nh nd own now τ m).1 1 = τ 1)) ((p + 1) * 3 ^ 3)) h2' v9' ∧ ∀ j, j < h → f' j = f j, zno, ({ frames := 1007, cells := 0, slots := 0, locals := 40163 } : Room)) 0 0 (cX g A (cput (cput (zs (s_rb K a_11 b_12 c_13) 99 8 o_15) 300 σ ds (nI (now % 12)) (nI (now / 12))) 310 t_16 e_17 d_18 y_19) F_14 O gl X) 102 [(0, .ref (A 99)), (1, .int (nI (h))), (2, .int (nI (mn))), (3, .int (nI (m))), (4, .int (nI (i_6)))] [] := by
      intro q_7
      induction q_7 with
      | zero =>
        intro i_6 hb_9 lo_22 a_11 b_12 c_13 F_14 o_15 t_16 e_17 d_18 y_19 hi_20 hi_21
        obtain rfl : 3 = i_6 := by omega
        refine z_iload 4 dX1_builds_102 rfl ?_
        refine z_iconst (v := 2) dX1_builds_104 (by decide) ?_
        refine z_icmp_gtN (a := 3) (b := 2) 151 (by decide) (by decide) dX1_builds_105 (by decide) (fun h_ => ?_) (fun h_ => absurd h_ (by decide))
        exact z_vret dX1_builds_151 rfl (Nat.le_of_ble_eq_true rfl) (Nat.le_of_ble_eq_true rfl) ⟨rfl, a_11, b_12, c_13, o_15, F_14, t_16, e_17, d_18, y_19, rfl, (by have e9 : (3 * p + 3) * 3 ^ 2 = (p + 1) * 3 ^ 3 := s_p3b; rw [← e9]; exact hi_20), hi_21⟩
      | succ q_7 ih_8 =>
        intro i_6 hb_9 lo_22 a_11 b_12 c_13 F_14 o_15 t_16 e_17 d_18 y_19 hi_20 hi_21
        refine z_iload 4 dX1_builds_102 rfl ?_
        refine z_iconst (v := 2) dX1_builds_104 (by decide) ?_
        refine z_icmp_gtN (a := i_6) (b := 2) 151 (by omega) (by omega) dX1_builds_105 (by decide) (fun c_23 => absurd c_23 (by omega)) (fun c_23 => ?_)
        refine z_aload_n 0 dX1_builds_108 rfl ?_
        refine cz_get (v := .ref (A 309)) 4 hA (by decide) q331 rfl dX1_builds_109 ?_
        refine cz_getSN (s := 300) (v := .ref (A 300)) 0 hA (cst_0 hA) (by decide) q259 rfl dX1_builds_112 ?_
        refine z_iload_n 1 dX1_builds_115 rfl ?_
        refine cz_iald (v := nI ((bd h))) 300 h hA (by unfold cia; omega) rfl (by have h9 : csz 300 = 4 := rfl; omega) (Eq.trans (b := σ (h + 2)) (by rw [cput_a (by omega), cput_beds (by omega)]) (hb h (by omega)).1) dX1_builds_116 ?_
        refine z_iload 4 dX1_builds_117 rfl ?_
        refine z_iaddN (a := (bd h)) (b := i_6) dX1_builds_119 ?_
        refine z_bipush (v := 9) dX1_builds_120 (by decide) ?_
        refine z_icmp_gtN (a := (bd h) + i_6) (b := 9) 151 (by omega) (by omega) dX1_builds_122 (by decide) (fun c_24 => ?_) (fun c_24 => ?_)
        · -- 9 < (bd h) + i_6
          exact z_vret dX1_builds_151 rfl (Nat.le_of_ble_eq_true rfl) (Nat.le_of_ble_eq_true rfl) ⟨rfl, a_11, b_12, c_13, o_15, F_14, t_16, e_17, d_18, y_19, rfl, (by rw [s_bd_full (r := 2) (h := h) (d := i_6) (by omega) hb (by omega) (by omega)]; exact hi_20), hi_21⟩
        · -- (bd h) + i_6 ≤ 9
          refine z_aload_n 0 dX1_builds_125 rfl ?_
          refine cz_get (v := .ref (A 11)) 11 hA (by decide) q338 rfl dX1_builds_126 ?_
          refine z_iload_n 1 dX1_builds_129 rfl ?_
          refine z_iload 4 dX1_builds_130 rfl ?_
          refine cz_iast (K' := (cput (cput (zs (s_rb K (zs1 a_11 h (nI (i_6))) b_12 c_13) 99 8 o_15) 300 σ ds (nI (now % 12)) (nI (now / 12))) 310 t_16 e_17 d_18 y_19)) 11 h hA (by unfold cia; omega) rfl (by have h9 : csz 11 = 4 := rfl; omega) (by rw [cput_zo (by omega), cput_zo (by omega), zs_cm (by omega), s_rb_11]) dX1_builds_132 ?_
          refine z_aload_n 0 dX1_builds_133 rfl ?_
          refine z_iload_n 1 dX1_builds_134 rfl ?_
          refine z_iconst (v := 1) dX1_builds_135 (by decide) ?_
          refine z_iaddN (a := h) (b := 1) dX1_builds_136 ?_
          refine z_iload_n 2 dX1_builds_137 rfl ?_
          refine z_iload 4 dX1_builds_138 rfl ?_
          refine z_iaddN (a := mn) (b := i_6) dX1_builds_140 ?_
          refine z_iload_n 3 dX1_builds_141 rfl ?_
          refine z_callV (As := [.int (nI (h + 1)), .int (nI (mn + i_6)), .int (nI (m))]) (c_builds_2 (K := K) (f := (zs1 a_11 h (nI (i_6)))) (h2 := b_12) (v9 := c_13) (F := F_14) (gl := gl) (σ := σ) (ds := ds) (τ := t_16) (es := e_17) (dt2 := d_18) (yr2 := y_19) (o := o_15) hA hO hV hv hnow hiv hb (h + 1) (3 * p + i_6) (mn + i_6) m (by omega) hm (by rw [s_bn_ext (by omega), hmn]) (s_p3c hp (by omega)) (s_row_ext hi_21 hrow (by omega)) (s_may_ext hmay (by omega) (by omega)) hi_20) q1353 q1355 qs41 q112 q1356 nm_X1_builds (cX_obj hA) rfl rfl rfl (Nat.le_of_ble_eq_true rfl) ⟨Nat.le_of_ble_eq_true rfl, Nat.le_of_ble_eq_true rfl⟩ dX1_builds_142 rfl rfl (Nat.le_of_ble_eq_true rfl) (Nat.le_of_ble_eq_true rfl) (fun v_36 X_37 hp_38 => ?_)
          obtain ⟨rfl, a_25, b_26, c_27, o_28, F_29, t_30, e_31, d_32, y_33, rfl, hbr_34, hrw_35⟩ := hp_38
          refine z_st (st' := []) rfl ?_
          refine z_iinc (v := nI (i_6 + 1)) (lv' := [(4, .int (nI (i_6 + 1))), (0, .ref (A 99)), (1, .int (nI (h))), (2, .int (nI (mn))), (3, .int (nI (m)))]) 4 dX1_builds_145 rfl (nI_1 _) (by decide) rfl ?_
          refine z_goto 102 dX1_builds_148 (by decide) ?_
          refine z_lv (lv' := [(0, .ref (A 99)), (1, .int (nI (h))), (2, .int (nI (mn))), (3, .int (nI (m))), (4, .int (nI (i_6 + 1)))]) [1, 2, 3, 4, 0] rfl ?_
          exact ih_8 (i_6 + 1) (by omega) (by omega) _ _ _ _ _ _ _ _ _ hbr_34 (fun j hj => (hrw_35 j (by omega)).trans ((zs1_n (by omega)).trans (hi_21 j hj)))
    refine z_lv (lv' := [(0, .ref (A 99)), (1, .int (nI (h))), (2, .int (nI (mn))), (3, .int (nI (m))), (4, .int 0)]) [1, 2, 3, 4, 0] rfl ?_
    exact loop_10 (3 - 0) 0 (by omega) (Nat.le_refl _) _ _ _ _ _ _ _ _ _ (by have e9 : (3 * p + 0) * 3 ^ 2 = p * 3 ^ 3 := s_p3a; rw [e9]; exact hbr) (fun j hj => rfl)
  · -- ¬ v9 < 0
    have c_1' := Int32.not_lt.mp c_1
    refine z_iload_n 2 dX1_builds_7 rfl ?_
    refine z_aload_n 0 dX1_builds_8 rfl ?_
    refine cz_get (v := .int ((s_rb K f h2 v9) 99 13)) 13 hA (by decide) q340 rfl dX1_builds_9 ?_
    refine z_eq (y := v9) (by rfl) ?_
    refine z_icmp_lt 16 dX1_builds_12 (by decide) (fun c_39 => ?_) (fun c_39 => ?_)
    · -- nI (mn) < v9
      have c_39' := Int32.not_le.mpr c_39
      have hgo : (s_bd nh σ (fun τ => decide ((s_go wv vs ds nh nd own now τ m).1 1 = τ 1)) (p * 3 ^ 3)).1 < 0 ∨ nI mn < (s_bd nh σ (fun τ => decide ((s_go wv vs ds nh nd own now τ m).1 1 = τ 1)) (p * 3 ^ 3)).2 := Or.inr (by rw [← (hbr.2 (fun z => c_1 ((s_br_i hnh hbr).mpr z))).1]; exact c_39)
      refine z_iload_n 1 dX1_builds_16 rfl ?_
      refine z_aload_n 0 dX1_builds_17 rfl ?_
      refine z_callV (As := []) (c_houses (K := (cput (cput (zs (s_rb K f h2 v9) 99 8 o) 300 σ ds (nI (now % 12)) (nI (now / 12))) 310 τ es dt2 yr2)) (F := F) (gl := gl) hA hO hxv hlh heh hch1 hch2 hlg heg hcg1 hcg2) q1127 q1129 qs28 q112 q1130 nm_X1_houses (cX_obj hA) rfl rfl rfl (Nat.le_of_ble_eq_true rfl) ⟨Nat.le_of_ble_eq_true rfl, Nat.le_of_ble_eq_true rfl⟩ dX1_builds_18 rfl rfl (Nat.le_of_ble_eq_true rfl) (Nat.le_of_ble_eq_true rfl) (fun v_40 X_41 hp_42 => ?_)
      obtain ⟨rfl, rfl⟩ := hp_42
      refine z_st (st' := [.int (nI (nh)), .int (nI (h))]) rfl ?_
      refine z_icmp_neN (a := h) (b := nh) 99 (by omega) (by omega) dX1_builds_21 (by decide) (fun c_43 => ?_) (fun c_43 => absurd c_43 ((by omega)))
      refine z_iconst (v := 0) dX1_builds_99 (by decide) ?_
      refine z_istore (lv' := [(4, .int 0), (0, .ref (A 99)), (1, .int (nI (h))), (2, .int (nI (mn))), (3, .int (nI (m)))]) dX1_builds_100 (by decide) rfl ?_
      have loop_48 : ∀ (q_45 i_44 : Nat), i_44 + q_45 = 3 → 0 ≤ i_44 → ∀ (a_49 : Nat → Int32), ∀ (b_50 : Nat → Int32), ∀ (c_51 : Int32), ∀ (F_52 : Nat → Int32), ∀ (o_53 : Int32), ∀ (t_54 : Nat → Int32), ∀ (e_55 : Nat → Int32), ∀ (d_56 : Int32), ∀ (y_57 : Int32), s_br nh (s_bd nh σ (fun τ => decide ((s_go wv vs ds nh nd own now τ m).1 1 = τ 1)) ((3 * p + i_44) * 3 ^ 2)) b_50 c_51 → (∀ j, j < h → a_49 j = f j) → zZ g m_X1_builds (fun rv X' => rv = none ∧ ∃ (f' h2' : Nat → Int32) (v9' o' : Int32) (F' τ' es' : Nat → Int32) (dt' yr' : Int32), X' = cX g A (cput (cput (zs (s_rb K f' h2' v9') 99 8 o') 300 σ ds (nI (now % 12)) (nI (now / 12))) 310 τ' es' dt' yr') F' O gl X ∧ s_br nh (s_bd nh σ (fun τ => decide ((s_go wv vs ds nh nd own now τ m).1 1 = τ 1)) ((p + 1) * 3 ^ 3)) h2' v9' ∧ ∀ j, j < h → f' j = f j, zno, ({ frames := 1007, cells := 0, slots := 0, locals := 40163 } : Room)) 0 0 (cX g A (cput (cput (zs (s_rb K a_49 b_50 c_51) 99 8 o_53) 300 σ ds (nI (now % 12)) (nI (now / 12))) 310 t_54 e_55 d_56 y_57) F_52 O gl X) 102 [(0, .ref (A 99)), (1, .int (nI (h))), (2, .int (nI (mn))), (3, .int (nI (m))), (4, .int (nI (i_44)))] [] := by
        intro q_45
        induction q_45 with
        | zero =>
          intro i_44 hb_47 lo_60 a_49 b_50 c_51 F_52 o_53 t_54 e_55 d_56 y_57 hi_58 hi_59
          obtain rfl : 3 = i_44 := by omega
          refine z_iload 4 dX1_builds_102 rfl ?_
          refine z_iconst (v := 2) dX1_builds_104 (by decide) ?_
          refine z_icmp_gtN (a := 3) (b := 2) 151 (by decide) (by decide) dX1_builds_105 (by decide) (fun h_ => ?_) (fun h_ => absurd h_ (by decide))
          exact z_vret dX1_builds_151 rfl (Nat.le_of_ble_eq_true rfl) (Nat.le_of_ble_eq_true rfl) ⟨rfl, a_49, b_50, c_51, o_53, F_52, t_54, e_55, d_56, y_57, rfl, (by have e9 : (3 * p + 3) * 3 ^ 2 = (p + 1) * 3 ^ 3 := s_p3b; rw [← e9]; exact hi_58), hi_59⟩
        | succ q_45 ih_46 =>
          intro i_44 hb_47 lo_60 a_49 b_50 c_51 F_52 o_53 t_54 e_55 d_56 y_57 hi_58 hi_59
          refine z_iload 4 dX1_builds_102 rfl ?_
          refine z_iconst (v := 2) dX1_builds_104 (by decide) ?_
          refine z_icmp_gtN (a := i_44) (b := 2) 151 (by omega) (by omega) dX1_builds_105 (by decide) (fun c_61 => absurd c_61 (by omega)) (fun c_61 => ?_)
          refine z_aload_n 0 dX1_builds_108 rfl ?_
          refine cz_get (v := .ref (A 309)) 4 hA (by decide) q331 rfl dX1_builds_109 ?_
          refine cz_getSN (s := 300) (v := .ref (A 300)) 0 hA (cst_0 hA) (by decide) q259 rfl dX1_builds_112 ?_
          refine z_iload_n 1 dX1_builds_115 rfl ?_
          refine cz_iald (v := nI ((bd h))) 300 h hA (by unfold cia; omega) rfl (by have h9 : csz 300 = 4 := rfl; omega) (Eq.trans (b := σ (h + 2)) (by rw [cput_a (by omega), cput_beds (by omega)]) (hb h (by omega)).1) dX1_builds_116 ?_
          refine z_iload 4 dX1_builds_117 rfl ?_
          refine z_iaddN (a := (bd h)) (b := i_44) dX1_builds_119 ?_
          refine z_bipush (v := 9) dX1_builds_120 (by decide) ?_
          refine z_icmp_gtN (a := (bd h) + i_44) (b := 9) 151 (by omega) (by omega) dX1_builds_122 (by decide) (fun c_62 => ?_) (fun c_62 => ?_)
          · -- 9 < (bd h) + i_44
            exact z_vret dX1_builds_151 rfl (Nat.le_of_ble_eq_true rfl) (Nat.le_of_ble_eq_true rfl) ⟨rfl, a_49, b_50, c_51, o_53, F_52, t_54, e_55, d_56, y_57, rfl, (by rw [s_bd_full (r := 2) (h := h) (d := i_44) (by omega) hb (by omega) (by omega)]; exact hi_58), hi_59⟩
          · -- (bd h) + i_44 ≤ 9
            refine z_aload_n 0 dX1_builds_125 rfl ?_
            refine cz_get (v := .ref (A 11)) 11 hA (by decide) q338 rfl dX1_builds_126 ?_
            refine z_iload_n 1 dX1_builds_129 rfl ?_
            refine z_iload 4 dX1_builds_130 rfl ?_
            refine cz_iast (K' := (cput (cput (zs (s_rb K (zs1 a_49 h (nI (i_44))) b_50 c_51) 99 8 o_53) 300 σ ds (nI (now % 12)) (nI (now / 12))) 310 t_54 e_55 d_56 y_57)) 11 h hA (by unfold cia; omega) rfl (by have h9 : csz 11 = 4 := rfl; omega) (by rw [cput_zo (by omega), cput_zo (by omega), zs_cm (by omega), s_rb_11]) dX1_builds_132 ?_
            refine z_aload_n 0 dX1_builds_133 rfl ?_
            refine z_iload_n 1 dX1_builds_134 rfl ?_
            refine z_iconst (v := 1) dX1_builds_135 (by decide) ?_
            refine z_iaddN (a := h) (b := 1) dX1_builds_136 ?_
            refine z_iload_n 2 dX1_builds_137 rfl ?_
            refine z_iload 4 dX1_builds_138 rfl ?_
            refine z_iaddN (a := mn) (b := i_44) dX1_builds_140 ?_
            refine z_iload_n 3 dX1_builds_141 rfl ?_
            refine z_callV (As := [.int (nI (h + 1)), .int (nI (mn + i_44)), .int (nI (m))]) (c_builds_2 (K := K) (f := (zs1 a_49 h (nI (i_44)))) (h2 := b_50) (v9 := c_51) (F := F_52) (gl := gl) (σ := σ) (ds := ds) (τ := t_54) (es := e_55) (dt2 := d_56) (yr2 := y_57) (o := o_53) hA hO hV hv hnow hiv hb (h + 1) (3 * p + i_44) (mn + i_44) m (by omega) hm (by rw [s_bn_ext (by omega), hmn]) (s_p3c hp (by omega)) (s_row_ext hi_59 hrow (by omega)) (s_may_ext hmay (by omega) (by omega)) hi_58) q1353 q1355 qs41 q112 q1356 nm_X1_builds (cX_obj hA) rfl rfl rfl (Nat.le_of_ble_eq_true rfl) ⟨Nat.le_of_ble_eq_true rfl, Nat.le_of_ble_eq_true rfl⟩ dX1_builds_142 rfl rfl (Nat.le_of_ble_eq_true rfl) (Nat.le_of_ble_eq_true rfl) (fun v_74 X_75 hp_76 => ?_)
            obtain ⟨rfl, a_63, b_64, c_65, o_66, F_67, t_68, e_69, d_70, y_71, rfl, hbr_72, hrw_73⟩ := hp_76
            refine z_st (st' := []) rfl ?_
            refine z_iinc (v := nI (i_44 + 1)) (lv' := [(4, .int (nI (i_44 + 1))), (0, .ref (A 99)), (1, .int (nI (h))), (2, .int (nI (mn))), (3, .int (nI (m)))]) 4 dX1_builds_145 rfl (nI_1 _) (by decide) rfl ?_
            refine z_goto 102 dX1_builds_148 (by decide) ?_
            refine z_lv (lv' := [(0, .ref (A 99)), (1, .int (nI (h))), (2, .int (nI (mn))), (3, .int (nI (m))), (4, .int (nI (i_44 + 1)))]) [1, 2, 3, 4, 0] rfl ?_
            exact ih_46 (i_44 + 1) (by omega) (by omega) _ _ _ _ _ _ _ _ _ hbr_72 (fun j hj => (hrw_73 j (by omega)).trans ((zs1_n (by omega)).trans (hi_59 j hj)))
      refine z_lv (lv' := [(0, .ref (A 99)), (1, .int (nI (h))), (2, .int (nI (mn))), (3, .int (nI (m))), (4, .int 0)]) [1, 2, 3, 4, 0] rfl ?_
      exact loop_48 (3 - 0) 0 (by omega) (Nat.le_refl _) _ _ _ _ _ _ _ _ _ (by have e9 : (3 * p + 0) * 3 ^ 2 = p * 3 ^ 3 := s_p3a; rw [e9]; exact hbr) (fun j hj => rfl)
    · -- ¬ nI (mn) < v9
      have c_39' := Int32.not_lt.mp c_39
      exact z_vret dX1_builds_15 rfl (Nat.le_of_ble_eq_true rfl) (Nat.le_of_ble_eq_true rfl) ⟨rfl, f, h2, v9, o, F, τ, es, dt2, yr2, rfl, (by rw [s_bd_prune (r := 3) (by omega) hnh hmn (fun z => c_1 ((s_br_i hnh hbr).mpr z)) (by rw [← (hbr.2 (fun z => c_1 ((s_br_i hnh hbr).mpr z))).1]; exact (Int32.not_lt.mp c_39))]; exact hbr), fun j hj => rfl⟩
set_option maxHeartbeats 4000000 in
theorem c_builds_4 {g : zG} {A : Nat → Nat} {K : Nat → Nat → Int32} {F : Nat → Int32} {O : Nat → Nat → Option Nat} {gl : Int64} {X : zX} (hA : cok g A X) {v : Nat} (hO : O 0 0 = some v) {vs : Nat → Int32} {nh nd : Nat} {own : Nat → Nat} {wv : Int32 → Int32 → Int32 → Int32 → Int32} (hV : s_ok vs nh nd own) (hv : cvl g X v vs nh nd wv) {σ ds τ es : Nat → Int32} {dt2 yr2 o : Int32} {now : Nat} (hnow : now < 2 ^ 28) (hiv : s_iv σ nd) {f h2 : Nat → Int32} {v9 : Int32} {bd : Nat → Nat} (hb : s_ib σ nh bd) (h p mn m : Nat) (hr : h + 4 = nh) (hm : m < 1000) (hmn : mn = s_bn h p h) (hp : p < 3 ^ h) (hrow : ∀ j, j < h → f j = nI (s_bi h p j)) (hmay : ∀ j, j < h → bd j + s_bi h p j ≤ 9) (hbr : s_br nh (s_bd nh σ (fun τ => decide ((s_go wv vs ds nh nd own now τ m).1 1 = τ 1)) (p * 3 ^ 4)) h2 v9) : zN g m_X1_builds ({ frames := 1008, cells := 0, slots := 0, locals := 40187 } : Room) [.ref (A 99), .int (nI (h)), .int (nI (mn)), .int (nI (m))] (cX g A (cput (cput (zs (s_rb K f h2 v9) 99 8 o) 300 σ ds (nI (now % 12)) (nI (now / 12))) 310 τ es dt2 yr2) F O gl X) (fun rv X' => rv = none ∧ ∃ (f' h2' : Nat → Int32) (v9' o' : Int32) (F' τ' es' : Nat → Int32) (dt' yr' : Int32), X' = cX g A (cput (cput (zs (s_rb K f' h2' v9') 99 8 o') 300 σ ds (nI (now % 12)) (nI (now / 12))) 310 τ' es' dt' yr') F' O gl X ∧ s_br nh (s_bd nh σ (fun τ => decide ((s_go wv vs ds nh nd own now τ m).1 1 = τ 1)) ((p + 1) * 3 ^ 4)) h2' v9' ∧ ∀ j, j < h → f' j = f j) := by
  refine zN.of (by decide +kernel) (Nat.le_of_ble_eq_true rfl) rfl ?_
  refine z_lv (lv' := [(0, .ref (A 99)), (1, .int (nI (h))), (2, .int (nI (mn))), (3, .int (nI (m)))]) [0, 1, 2, 3] rfl ?_
  have hA2 := hA.2.2.1
  have hV9 := hV
  have hv9 := hv
  obtain ⟨h0, hnh, h1, hnd, hown⟩ := hV9
  obtain ⟨lh, lg, fh, fg, st9, fa, hxv, ⟨mh, eh, ch, hlh, heh, hch1, hch2⟩, ⟨mg, eg, cg, hlg, heg, hcg1, hcg2⟩, hhs, hgs, hst9, hfa⟩ := hv9
  have hmn9 : mn ≤ 8 := by rw [hmn]; exact Nat.le_trans (s_bn_le h) (by omega)
  have hp9 := pow3_le h (by omega)
  have hbh := (hb h (by omega)).2
  refine z_aload_n 0 dX1_builds_0 rfl ?_
  refine cz_get (v := .int ((s_rb K f h2 v9) 99 13)) 13 hA (by decide) q340 rfl dX1_builds_1 ?_
  refine z_eq (y := v9) (by rfl) ?_
  refine z_if_lt 16 dX1_builds_4 (by decide) (fun c_1 => ?_) (fun c_1 => ?_)
  · -- v9 < 0
    have c_1' := Int32.not_le.mpr c_1
    have hgo : (s_bd nh σ (fun τ => decide ((s_go wv vs ds nh nd own now τ m).1 1 = τ 1)) (p * 3 ^ 4)).1 < 0 ∨ nI mn < (s_bd nh σ (fun τ => decide ((s_go wv vs ds nh nd own now τ m).1 1 = τ 1)) (p * 3 ^ 4)).2 := Or.inl ((s_br_i hnh hbr).mp c_1)
    refine z_iload_n 1 dX1_builds_16 rfl ?_
    refine z_aload_n 0 dX1_builds_17 rfl ?_
    refine z_callV (As := []) (c_houses (K := (cput (cput (zs (s_rb K f h2 v9) 99 8 o) 300 σ ds (nI (now % 12)) (nI (now / 12))) 310 τ es dt2 yr2)) (F := F) (gl := gl) hA hO hxv hlh heh hch1 hch2 hlg heg hcg1 hcg2) q1127 q1129 qs28 q112 q1130 nm_X1_houses (cX_obj hA) rfl rfl rfl (Nat.le_of_ble_eq_true rfl) ⟨Nat.le_of_ble_eq_true rfl, Nat.le_of_ble_eq_true rfl⟩ dX1_builds_18 rfl rfl (Nat.le_of_ble_eq_true rfl) (Nat.le_of_ble_eq_true rfl) (fun v_2 X_3 hp_4 => ?_)
    obtain ⟨rfl, rfl⟩ := hp_4
    refine z_st (st' := [.int (nI (nh)), .int (nI (h))]) rfl ?_
    refine z_icmp_neN (a := h) (b := nh) 99 (by omega) (by omega) dX1_builds_21 (by decide) (fun c_5 => ?_) (fun c_5 => absurd c_5 ((by omega)))
    refine z_iconst (v := 0) dX1_builds_99 (by decide) ?_
    refine z_istore (lv' := [(4, .int 0), (0, .ref (A 99)), (1, .int (nI (h))), (2, .int (nI (mn))), (3, .int (nI (m)))]) dX1_builds_100 (by decide) rfl ?_
    have loop_10 : ∀ (q_7 i_6 : Nat), i_6 + q_7 = 3 → 0 ≤ i_6 → ∀ (a_11 : Nat → Int32), ∀ (b_12 : Nat → Int32), ∀ (c_13 : Int32), ∀ (F_14 : Nat → Int32), ∀ (o_15 : Int32), ∀ (t_16 : Nat → Int32), ∀ (e_17 : Nat → Int32), ∀ (d_18 : Int32), ∀ (y_19 : Int32), s_br nh (s_bd nh σ (fun τ => decide ((s_go wv vs ds nh nd own now τ m).1 1 = τ 1)) ((3 * p + i_6) * 3 ^ 3)) b_12 c_13 → (∀ j, j < h → a_11 j = f j) → zZ g m_X1_builds (fun rv X' => rv = none ∧ ∃ (f' h2' : Nat → Int32) (v9' o' : Int32) (F' τ' es' : Nat → Int32) (dt' yr' : Int32), X' = cX g A (cput (cput (zs (s_rb K f' h2' v9') 99 8 o') 300 σ ds (nI (now % 12)) (nI (now / 12))) 310 τ' es' dt' yr') F' O gl X ∧ s_br nh (s_bd nh σ (fun τ => decide ((s_go wv vs ds nh nd own now τ m).1 1 = τ 1)) ((p + 1) * 3 ^ 4)) h2' v9' ∧ ∀ j, j < h → f' j = f j, zno, ({ frames := 1008, cells := 0, slots := 0, locals := 40187 } : Room)) 0 0 (cX g A (cput (cput (zs (s_rb K a_11 b_12 c_13) 99 8 o_15) 300 σ ds (nI (now % 12)) (nI (now / 12))) 310 t_16 e_17 d_18 y_19) F_14 O gl X) 102 [(0, .ref (A 99)), (1, .int (nI (h))), (2, .int (nI (mn))), (3, .int (nI (m))), (4, .int (nI (i_6)))] [] := by
      intro q_7
      induction q_7 with
      | zero =>
        intro i_6 hb_9 lo_22 a_11 b_12 c_13 F_14 o_15 t_16 e_17 d_18 y_19 hi_20 hi_21
        obtain rfl : 3 = i_6 := by omega
        refine z_iload 4 dX1_builds_102 rfl ?_
        refine z_iconst (v := 2) dX1_builds_104 (by decide) ?_
        refine z_icmp_gtN (a := 3) (b := 2) 151 (by decide) (by decide) dX1_builds_105 (by decide) (fun h_ => ?_) (fun h_ => absurd h_ (by decide))
        exact z_vret dX1_builds_151 rfl (Nat.le_of_ble_eq_true rfl) (Nat.le_of_ble_eq_true rfl) ⟨rfl, a_11, b_12, c_13, o_15, F_14, t_16, e_17, d_18, y_19, rfl, (by have e9 : (3 * p + 3) * 3 ^ 3 = (p + 1) * 3 ^ 4 := s_p3b; rw [← e9]; exact hi_20), hi_21⟩
      | succ q_7 ih_8 =>
        intro i_6 hb_9 lo_22 a_11 b_12 c_13 F_14 o_15 t_16 e_17 d_18 y_19 hi_20 hi_21
        refine z_iload 4 dX1_builds_102 rfl ?_
        refine z_iconst (v := 2) dX1_builds_104 (by decide) ?_
        refine z_icmp_gtN (a := i_6) (b := 2) 151 (by omega) (by omega) dX1_builds_105 (by decide) (fun c_23 => absurd c_23 (by omega)) (fun c_23 => ?_)
        refine z_aload_n 0 dX1_builds_108 rfl ?_
        refine cz_get (v := .ref (A 309)) 4 hA (by decide) q331 rfl dX1_builds_109 ?_
        refine cz_getSN (s := 300) (v := .ref (A 300)) 0 hA (cst_0 hA) (by decide) q259 rfl dX1_builds_112 ?_
        refine z_iload_n 1 dX1_builds_115 rfl ?_
        refine cz_iald (v := nI ((bd h))) 300 h hA (by unfold cia; omega) rfl (by have h9 : csz 300 = 4 := rfl; omega) (Eq.trans (b := σ (h + 2)) (by rw [cput_a (by omega), cput_beds (by omega)]) (hb h (by omega)).1) dX1_builds_116 ?_
        refine z_iload 4 dX1_builds_117 rfl ?_
        refine z_iaddN (a := (bd h)) (b := i_6) dX1_builds_119 ?_
        refine z_bipush (v := 9) dX1_builds_120 (by decide) ?_
        refine z_icmp_gtN (a := (bd h) + i_6) (b := 9) 151 (by omega) (by omega) dX1_builds_122 (by decide) (fun c_24 => ?_) (fun c_24 => ?_)
        · -- 9 < (bd h) + i_6
          exact z_vret dX1_builds_151 rfl (Nat.le_of_ble_eq_true rfl) (Nat.le_of_ble_eq_true rfl) ⟨rfl, a_11, b_12, c_13, o_15, F_14, t_16, e_17, d_18, y_19, rfl, (by rw [s_bd_full (r := 3) (h := h) (d := i_6) (by omega) hb (by omega) (by omega)]; exact hi_20), hi_21⟩
        · -- (bd h) + i_6 ≤ 9
          refine z_aload_n 0 dX1_builds_125 rfl ?_
          refine cz_get (v := .ref (A 11)) 11 hA (by decide) q338 rfl dX1_builds_126 ?_
          refine z_iload_n 1 dX1_builds_129 rfl ?_
          refine z_iload 4 dX1_builds_130 rfl ?_
          refine cz_iast (K' := (cput (cput (zs (s_rb K (zs1 a_11 h (nI (i_6))) b_12 c_13) 99 8 o_15) 300 σ ds (nI (now % 12)) (nI (now / 12))) 310 t_16 e_17 d_18 y_19)) 11 h hA (by unfold cia; omega) rfl (by have h9 : csz 11 = 4 := rfl; omega) (by rw [cput_zo (by omega), cput_zo (by omega), zs_cm (by omega), s_rb_11]) dX1_builds_132 ?_
          refine z_aload_n 0 dX1_builds_133 rfl ?_
          refine z_iload_n 1 dX1_builds_134 rfl ?_
          refine z_iconst (v := 1) dX1_builds_135 (by decide) ?_
          refine z_iaddN (a := h) (b := 1) dX1_builds_136 ?_
          refine z_iload_n 2 dX1_builds_137 rfl ?_
          refine z_iload 4 dX1_builds_138 rfl ?_
          refine z_iaddN (a := mn) (b := i_6) dX1_builds_140 ?_
          refine z_iload_n 3 dX1_builds_141 rfl ?_
          refine z_callV (As := [.int (nI (h + 1)), .int (nI (mn + i_6)), .int (nI (m))]) (c_builds_3 (K := K) (f := (zs1 a_11 h (nI (i_6)))) (h2 := b_12) (v9 := c_13) (F := F_14) (gl := gl) (σ := σ) (ds := ds) (τ := t_16) (es := e_17) (dt2 := d_18) (yr2 := y_19) (o := o_15) hA hO hV hv hnow hiv hb (h + 1) (3 * p + i_6) (mn + i_6) m (by omega) hm (by rw [s_bn_ext (by omega), hmn]) (s_p3c hp (by omega)) (s_row_ext hi_21 hrow (by omega)) (s_may_ext hmay (by omega) (by omega)) hi_20) q1353 q1355 qs41 q112 q1356 nm_X1_builds (cX_obj hA) rfl rfl rfl (Nat.le_of_ble_eq_true rfl) ⟨Nat.le_of_ble_eq_true rfl, Nat.le_of_ble_eq_true rfl⟩ dX1_builds_142 rfl rfl (Nat.le_of_ble_eq_true rfl) (Nat.le_of_ble_eq_true rfl) (fun v_36 X_37 hp_38 => ?_)
          obtain ⟨rfl, a_25, b_26, c_27, o_28, F_29, t_30, e_31, d_32, y_33, rfl, hbr_34, hrw_35⟩ := hp_38
          refine z_st (st' := []) rfl ?_
          refine z_iinc (v := nI (i_6 + 1)) (lv' := [(4, .int (nI (i_6 + 1))), (0, .ref (A 99)), (1, .int (nI (h))), (2, .int (nI (mn))), (3, .int (nI (m)))]) 4 dX1_builds_145 rfl (nI_1 _) (by decide) rfl ?_
          refine z_goto 102 dX1_builds_148 (by decide) ?_
          refine z_lv (lv' := [(0, .ref (A 99)), (1, .int (nI (h))), (2, .int (nI (mn))), (3, .int (nI (m))), (4, .int (nI (i_6 + 1)))]) [1, 2, 3, 4, 0] rfl ?_
          exact ih_8 (i_6 + 1) (by omega) (by omega) _ _ _ _ _ _ _ _ _ hbr_34 (fun j hj => (hrw_35 j (by omega)).trans ((zs1_n (by omega)).trans (hi_21 j hj)))
    refine z_lv (lv' := [(0, .ref (A 99)), (1, .int (nI (h))), (2, .int (nI (mn))), (3, .int (nI (m))), (4, .int 0)]) [1, 2, 3, 4, 0] rfl ?_
    exact loop_10 (3 - 0) 0 (by omega) (Nat.le_refl _) _ _ _ _ _ _ _ _ _ (by have e9 : (3 * p + 0) * 3 ^ 3 = p * 3 ^ 4 := s_p3a; rw [e9]; exact hbr) (fun j hj => rfl)
  · -- ¬ v9 < 0
    have c_1' := Int32.not_lt.mp c_1
    refine z_iload_n 2 dX1_builds_7 rfl ?_
    refine z_aload_n 0 dX1_builds_8 rfl ?_
    refine cz_get (v := .int ((s_rb K f h2 v9) 99 13)) 13 hA (by decide) q340 rfl dX1_builds_9 ?_
    refine z_eq (y := v9) (by rfl) ?_
    refine z_icmp_lt 16 dX1_builds_12 (by decide) (fun c_39 => ?_) (fun c_39 => ?_)
    · -- nI (mn) < v9
      have c_39' := Int32.not_le.mpr c_39
      have hgo : (s_bd nh σ (fun τ => decide ((s_go wv vs ds nh nd own now τ m).1 1 = τ 1)) (p * 3 ^ 4)).1 < 0 ∨ nI mn < (s_bd nh σ (fun τ => decide ((s_go wv vs ds nh nd own now τ m).1 1 = τ 1)) (p * 3 ^ 4)).2 := Or.inr (by rw [← (hbr.2 (fun z => c_1 ((s_br_i hnh hbr).mpr z))).1]; exact c_39)
      refine z_iload_n 1 dX1_builds_16 rfl ?_
      refine z_aload_n 0 dX1_builds_17 rfl ?_
      refine z_callV (As := []) (c_houses (K := (cput (cput (zs (s_rb K f h2 v9) 99 8 o) 300 σ ds (nI (now % 12)) (nI (now / 12))) 310 τ es dt2 yr2)) (F := F) (gl := gl) hA hO hxv hlh heh hch1 hch2 hlg heg hcg1 hcg2) q1127 q1129 qs28 q112 q1130 nm_X1_houses (cX_obj hA) rfl rfl rfl (Nat.le_of_ble_eq_true rfl) ⟨Nat.le_of_ble_eq_true rfl, Nat.le_of_ble_eq_true rfl⟩ dX1_builds_18 rfl rfl (Nat.le_of_ble_eq_true rfl) (Nat.le_of_ble_eq_true rfl) (fun v_40 X_41 hp_42 => ?_)
      obtain ⟨rfl, rfl⟩ := hp_42
      refine z_st (st' := [.int (nI (nh)), .int (nI (h))]) rfl ?_
      refine z_icmp_neN (a := h) (b := nh) 99 (by omega) (by omega) dX1_builds_21 (by decide) (fun c_43 => ?_) (fun c_43 => absurd c_43 ((by omega)))
      refine z_iconst (v := 0) dX1_builds_99 (by decide) ?_
      refine z_istore (lv' := [(4, .int 0), (0, .ref (A 99)), (1, .int (nI (h))), (2, .int (nI (mn))), (3, .int (nI (m)))]) dX1_builds_100 (by decide) rfl ?_
      have loop_48 : ∀ (q_45 i_44 : Nat), i_44 + q_45 = 3 → 0 ≤ i_44 → ∀ (a_49 : Nat → Int32), ∀ (b_50 : Nat → Int32), ∀ (c_51 : Int32), ∀ (F_52 : Nat → Int32), ∀ (o_53 : Int32), ∀ (t_54 : Nat → Int32), ∀ (e_55 : Nat → Int32), ∀ (d_56 : Int32), ∀ (y_57 : Int32), s_br nh (s_bd nh σ (fun τ => decide ((s_go wv vs ds nh nd own now τ m).1 1 = τ 1)) ((3 * p + i_44) * 3 ^ 3)) b_50 c_51 → (∀ j, j < h → a_49 j = f j) → zZ g m_X1_builds (fun rv X' => rv = none ∧ ∃ (f' h2' : Nat → Int32) (v9' o' : Int32) (F' τ' es' : Nat → Int32) (dt' yr' : Int32), X' = cX g A (cput (cput (zs (s_rb K f' h2' v9') 99 8 o') 300 σ ds (nI (now % 12)) (nI (now / 12))) 310 τ' es' dt' yr') F' O gl X ∧ s_br nh (s_bd nh σ (fun τ => decide ((s_go wv vs ds nh nd own now τ m).1 1 = τ 1)) ((p + 1) * 3 ^ 4)) h2' v9' ∧ ∀ j, j < h → f' j = f j, zno, ({ frames := 1008, cells := 0, slots := 0, locals := 40187 } : Room)) 0 0 (cX g A (cput (cput (zs (s_rb K a_49 b_50 c_51) 99 8 o_53) 300 σ ds (nI (now % 12)) (nI (now / 12))) 310 t_54 e_55 d_56 y_57) F_52 O gl X) 102 [(0, .ref (A 99)), (1, .int (nI (h))), (2, .int (nI (mn))), (3, .int (nI (m))), (4, .int (nI (i_44)))] [] := by
        intro q_45
        induction q_45 with
        | zero =>
          intro i_44 hb_47 lo_60 a_49 b_50 c_51 F_52 o_53 t_54 e_55 d_56 y_57 hi_58 hi_59
          obtain rfl : 3 = i_44 := by omega
          refine z_iload 4 dX1_builds_102 rfl ?_
          refine z_iconst (v := 2) dX1_builds_104 (by decide) ?_
          refine z_icmp_gtN (a := 3) (b := 2) 151 (by decide) (by decide) dX1_builds_105 (by decide) (fun h_ => ?_) (fun h_ => absurd h_ (by decide))
          exact z_vret dX1_builds_151 rfl (Nat.le_of_ble_eq_true rfl) (Nat.le_of_ble_eq_true rfl) ⟨rfl, a_49, b_50, c_51, o_53, F_52, t_54, e_55, d_56, y_57, rfl, (by have e9 : (3 * p + 3) * 3 ^ 3 = (p + 1) * 3 ^ 4 := s_p3b; rw [← e9]; exact hi_58), hi_59⟩
        | succ q_45 ih_46 =>
          intro i_44 hb_47 lo_60 a_49 b_50 c_51 F_52 o_53 t_54 e_55 d_56 y_57 hi_58 hi_59
          refine z_iload 4 dX1_builds_102 rfl ?_
          refine z_iconst (v := 2) dX1_builds_104 (by decide) ?_
          refine z_icmp_gtN (a := i_44) (b := 2) 151 (by omega) (by omega) dX1_builds_105 (by decide) (fun c_61 => absurd c_61 (by omega)) (fun c_61 => ?_)
          refine z_aload_n 0 dX1_builds_108 rfl ?_
          refine cz_get (v := .ref (A 309)) 4 hA (by decide) q331 rfl dX1_builds_109 ?_
          refine cz_getSN (s := 300) (v := .ref (A 300)) 0 hA (cst_0 hA) (by decide) q259 rfl dX1_builds_112 ?_
          refine z_iload_n 1 dX1_builds_115 rfl ?_
          refine cz_iald (v := nI ((bd h))) 300 h hA (by unfold cia; omega) rfl (by have h9 : csz 300 = 4 := rfl; omega) (Eq.trans (b := σ (h + 2)) (by rw [cput_a (by omega), cput_beds (by omega)]) (hb h (by omega)).1) dX1_builds_116 ?_
          refine z_iload 4 dX1_builds_117 rfl ?_
          refine z_iaddN (a := (bd h)) (b := i_44) dX1_builds_119 ?_
          refine z_bipush (v := 9) dX1_builds_120 (by decide) ?_
          refine z_icmp_gtN (a := (bd h) + i_44) (b := 9) 151 (by omega) (by omega) dX1_builds_122 (by decide) (fun c_62 => ?_) (fun c_62 => ?_)
          · -- 9 < (bd h) + i_44
            exact z_vret dX1_builds_151 rfl (Nat.le_of_ble_eq_true rfl) (Nat.le_of_ble_eq_true rfl) ⟨rfl, a_49, b_50, c_51, o_53, F_52, t_54, e_55, d_56, y_57, rfl, (by rw [s_bd_full (r := 3) (h := h) (d := i_44) (by omega) hb (by omega) (by omega)]; exact hi_58), hi_59⟩
          · -- (bd h) + i_44 ≤ 9
            refine z_aload_n 0 dX1_builds_125 rfl ?_
            refine cz_get (v := .ref (A 11)) 11 hA (by decide) q338 rfl dX1_builds_126 ?_
            refine z_iload_n 1 dX1_builds_129 rfl ?_
            refine z_iload 4 dX1_builds_130 rfl ?_
            refine cz_iast (K' := (cput (cput (zs (s_rb K (zs1 a_49 h (nI (i_44))) b_50 c_51) 99 8 o_53) 300 σ ds (nI (now % 12)) (nI (now / 12))) 310 t_54 e_55 d_56 y_57)) 11 h hA (by unfold cia; omega) rfl (by have h9 : csz 11 = 4 := rfl; omega) (by rw [cput_zo (by omega), cput_zo (by omega), zs_cm (by omega), s_rb_11]) dX1_builds_132 ?_
            refine z_aload_n 0 dX1_builds_133 rfl ?_
            refine z_iload_n 1 dX1_builds_134 rfl ?_
            refine z_iconst (v := 1) dX1_builds_135 (by decide) ?_
            refine z_iaddN (a := h) (b := 1) dX1_builds_136 ?_
            refine z_iload_n 2 dX1_builds_137 rfl ?_
            refine z_iload 4 dX1_builds_138 rfl ?_
            refine z_iaddN (a := mn) (b := i_44) dX1_builds_140 ?_
            refine z_iload_n 3 dX1_builds_141 rfl ?_
            refine z_callV (As := [.int (nI (h + 1)), .int (nI (mn + i_44)), .int (nI (m))]) (c_builds_3 (K := K) (f := (zs1 a_49 h (nI (i_44)))) (h2 := b_50) (v9 := c_51) (F := F_52) (gl := gl) (σ := σ) (ds := ds) (τ := t_54) (es := e_55) (dt2 := d_56) (yr2 := y_57) (o := o_53) hA hO hV hv hnow hiv hb (h + 1) (3 * p + i_44) (mn + i_44) m (by omega) hm (by rw [s_bn_ext (by omega), hmn]) (s_p3c hp (by omega)) (s_row_ext hi_59 hrow (by omega)) (s_may_ext hmay (by omega) (by omega)) hi_58) q1353 q1355 qs41 q112 q1356 nm_X1_builds (cX_obj hA) rfl rfl rfl (Nat.le_of_ble_eq_true rfl) ⟨Nat.le_of_ble_eq_true rfl, Nat.le_of_ble_eq_true rfl⟩ dX1_builds_142 rfl rfl (Nat.le_of_ble_eq_true rfl) (Nat.le_of_ble_eq_true rfl) (fun v_74 X_75 hp_76 => ?_)
            obtain ⟨rfl, a_63, b_64, c_65, o_66, F_67, t_68, e_69, d_70, y_71, rfl, hbr_72, hrw_73⟩ := hp_76
            refine z_st (st' := []) rfl ?_
            refine z_iinc (v := nI (i_44 + 1)) (lv' := [(4, .int (nI (i_44 + 1))), (0, .ref (A 99)), (1, .int (nI (h))), (2, .int (nI (mn))), (3, .int (nI (m)))]) 4 dX1_builds_145 rfl (nI_1 _) (by decide) rfl ?_
            refine z_goto 102 dX1_builds_148 (by decide) ?_
            refine z_lv (lv' := [(0, .ref (A 99)), (1, .int (nI (h))), (2, .int (nI (mn))), (3, .int (nI (m))), (4, .int (nI (i_44 + 1)))]) [1, 2, 3, 4, 0] rfl ?_
            exact ih_46 (i_44 + 1) (by omega) (by omega) _ _ _ _ _ _ _ _ _ hbr_72 (fun j hj => (hrw_73 j (by omega)).trans ((zs1_n (by omega)).trans (hi_59 j hj)))
      refine z_lv (lv' := [(0, .ref (A 99)), (1, .int (nI (h))), (2, .int (nI (mn))), (3, .int (nI (m))), (4, .int 0)]) [1, 2, 3, 4, 0] rfl ?_
      exact loop_48 (3 - 0) 0 (by omega) (Nat.le_refl _) _ _ _ _ _ _ _ _ _ (by have e9 : (3 * p + 0) * 3 ^ 3 = p * 3 ^ 4 := s_p3a; rw [e9]; exact hbr) (fun j hj => rfl)
    · -- ¬ nI (mn) < v9
      have c_39' := Int32.not_lt.mp c_39
      exact z_vret dX1_builds_15 rfl (Nat.le_of_ble_eq_true rfl) (Nat.le_of_ble_eq_true rfl) ⟨rfl, f, h2, v9, o, F, τ, es, dt2, yr2, rfl, (by rw [s_bd_prune (r := 4) (by omega) hnh hmn (fun z => c_1 ((s_br_i hnh hbr).mpr z)) (by rw [← (hbr.2 (fun z => c_1 ((s_br_i hnh hbr).mpr z))).1]; exact (Int32.not_lt.mp c_39))]; exact hbr), fun j hj => rfl⟩
