/-! THE COMPONENT: lines done. Printed by t78.py -/
set_option maxRecDepth 100000
set_option maxHeartbeats 4000000 in
theorem c_done0 {g : zG} {A : Nat → Nat} {K : Nat → Nat → Int32} {F : Nat → Int32} {O : Nat → Nat → Option Nat} {gl : Int64} {X : zX} (hA : cok g A X) {v : Nat} (hO : O 0 0 = some v) {vs : Nat → Int32} {nh nd : Nat} {own : Nat → Nat} {wv : Int32 → Int32 → Int32 → Int32 → Int32} (hV : s_ok vs nh nd own) (hv : cvl g X v vs nh nd wv) {σ ds τ es : Nat → Int32} {dt yr o : Int32} {tw : Nat} (htw : tw < 2 ^ 28) (hiv : s_iv τ nd) {l b h : Nat} (hl : X l = some (.inr (18, []))) : zN g m_X18_isDone ({ frames := 1002, cells := 0, slots := 0, locals := 40047 } : Room) [.ref l, .ref (A 99), .ref (A 319)] (cX g A (cput (cput (zs K 99 8 o) 300 σ ds dt yr) 310 τ es (nI (tw % 12)) (nI (tw / 12))) F O gl X) (fun rv X' => rv = some (.int (zb (s_lnd wv vs es nh nd own 0 b h τ tw).2.2)) ∧ ∃ (o' : Int32) (F' : Nat → Int32), X' = (cX g A (cput (cput (zs K 99 8 o') 300 σ ds dt yr) 310 ((s_lnd wv vs es nh nd own 0 b h τ tw).1) es (nI ((s_lnd wv vs es nh nd own 0 b h τ tw).2.1 % 12)) (nI ((s_lnd wv vs es nh nd own 0 b h τ tw).2.1 / 12))) F' O gl X)) := by
  refine zN.of (by decide +kernel) (Nat.le_of_ble_eq_true rfl) rfl ?_
  refine z_lv (lv' := [(0, .ref l), (1, .ref (A 99)), (2, .ref (A 319))]) [0, 1, 2] rfl ?_
  have hA2 := hA.2.2.1
  have hV9 := hV
  have hv9 := hv
  obtain ⟨h0, hnh, h1, hnd, hown⟩ := hV9
  obtain ⟨lh, lg, fh, fg, st9, fa, hxv, ⟨mh, eh, ch, hlh, heh, hch1, hch2⟩, ⟨mg, eg, cg, hlg, heg, hcg1, hcg2⟩, hhs, hgs, hst9, hfa⟩ := hv9
  refine z_aload_n 1 dX18_isDone_0 rfl ?_
  refine z_aload_n 2 dX18_isDone_1 rfl ?_
  refine z_callVN (As := [.ref (A 319)]) (c_passT (K := K) (F := F) (gl := gl) (σ0 := σ) (ds0 := ds) (dt0 := dt) (yr0 := yr) (σ := τ) (ds := es) (o := o) hA hO hV hv (now := tw) (by omega) hiv) q1308 q1211 qs36 q112 q1212 nm_X1_passes (cX_obj hA) rfl rfl rfl (Nat.le_of_ble_eq_true rfl) ⟨Nat.le_of_ble_eq_true rfl, Nat.le_of_ble_eq_true rfl⟩ dX18_isDone_2 rfl rfl (Nat.le_of_ble_eq_true rfl) (Nat.le_of_ble_eq_true rfl) (fun v_2 X_3 hp_4 => ?_)
  obtain ⟨rfl, F_1, rfl⟩ := hp_4
  refine z_st (st' := [.int ((s_pass wv vs es nh nd own tw τ).2.1)]) rfl ?_
  refine z_pop dX18_isDone_5 rfl ?_
  refine z_iconst (v := 1) dX18_isDone_6 (by decide) ?_
  exact z_zret dX18_isDone_7 rfl (by first | rfl | decide | exact zb_nar _) (Nat.le_of_ble_eq_true rfl) (Nat.le_of_ble_eq_true rfl) ⟨congrArg some (congrArg Value.int (by simp [s_lnd, zb])), (s_pass wv vs es nh nd own tw τ).2.2, F_1, by simp [s_lnd]⟩
set_option maxHeartbeats 4000000 in
theorem c_done1 {g : zG} {A : Nat → Nat} {K : Nat → Nat → Int32} {F : Nat → Int32} {O : Nat → Nat → Option Nat} {gl : Int64} {X : zX} (hA : cok g A X) {v : Nat} (hO : O 0 0 = some v) {vs : Nat → Int32} {nh nd : Nat} {own : Nat → Nat} {wv : Int32 → Int32 → Int32 → Int32 → Int32} (hV : s_ok vs nh nd own) (hv : cvl g X v vs nh nd wv) {σ ds τ es : Nat → Int32} {dt yr o : Int32} {tw : Nat} (htw : tw < 2 ^ 28) (hiv : s_iv τ nd) {l b h : Nat} (hl : X l = some (.inr (20, [.int (nI b), .int (nI h)]))) (hb : b < nd) (hh : h < nh) : zN g m_X20_isDone ({ frames := 7, cells := 0, slots := 0, locals := 155 } : Room) [.ref l, .ref (A 99), .ref (A 319)] (cX g A (cput (cput (zs K 99 8 o) 300 σ ds dt yr) 310 τ es (nI (tw % 12)) (nI (tw / 12))) F O gl X) (fun rv X' => rv = some (.int (zb (s_lnd wv vs es nh nd own 1 b h τ tw).2.2)) ∧ ∃ (o' : Int32) (F' : Nat → Int32), X' = (cX g A (cput (cput (zs K 99 8 o') 300 σ ds dt yr) 310 ((s_lnd wv vs es nh nd own 1 b h τ tw).1) es (nI ((s_lnd wv vs es nh nd own 1 b h τ tw).2.1 % 12)) (nI ((s_lnd wv vs es nh nd own 1 b h τ tw).2.1 / 12))) F' O gl X)) := by
  refine zN.of (by decide +kernel) (Nat.le_of_ble_eq_true rfl) rfl ?_
  refine z_lv (lv' := [(0, .ref l), (1, .ref (A 99)), (2, .ref (A 319))]) [0, 1, 2] rfl ?_
  have hA2 := hA.2.2.1
  have hV9 := hV
  have hv9 := hv
  obtain ⟨h0, hnh, h1, hnd, hown⟩ := hV9
  obtain ⟨lh, lg, fh, fg, st9, fa, hxv, ⟨mh, eh, ch, hlh, heh, hch1, hch2⟩, ⟨mg, eg, cg, hlg, heg, hcg1, hcg2⟩, hhs, hgs, hst9, hfa⟩ := hv9
  refine z_aload_n 1 dX20_isDone_0 rfl ?_
  refine z_aload_n 2 dX20_isDone_1 rfl ?_
  refine z_aload_n 0 dX20_isDone_2 rfl ?_
  refine z_get (v := .int (nI (b))) 0 (cX_lo hA hl) rfl in_X20 (by decide) q1102 rfl dX20_isDone_3 ?_
  refine z_aload_n 0 dX20_isDone_6 rfl ?_
  refine z_get (v := .int (nI (h))) 1 (cX_lo hA hl) rfl in_X20 (by decide) q1103 rfl dX20_isDone_7 ?_
  refine z_callVN (As := [.ref (A 319), .int (nI (b)), .int (nI (h))]) (c_canMove (F := F) (gl := gl) (K := (cput (zs K 99 8 o) 300 σ ds dt yr)) (σ := τ) (ds := es) (dt := (nI (tw % 12))) (yr := (nI (tw / 12))) hA hO hV hv (cst_1 hA) hiv.1 b h (by omega) (by omega)) q1304 q1276 qs39 q112 q1277 nm_X1_canMove (cX_obj hA) rfl rfl rfl (Nat.le_of_ble_eq_true rfl) ⟨Nat.le_of_ble_eq_true rfl, Nat.le_of_ble_eq_true rfl⟩ dX20_isDone_10 rfl rfl (Nat.le_of_ble_eq_true rfl) (Nat.le_of_ble_eq_true rfl) (fun v_1 X_2 hp_3 => ?_)
  obtain ⟨rfl, rfl⟩ := hp_3
  refine z_st (st' := [.int (zb (s_may vs τ nd b h))]) rfl ?_
  refine z_if_neb 18 dX20_isDone_13 (by decide) (fun c_4 => ?_) (fun c_4 => ?_)
  · -- s_may vs τ nd b h = true
    refine z_aload_n 2 dX20_isDone_18 rfl ?_
    refine cz_getSN (s := 310) (v := .ref (A 312)) 2 hA (cst_1 hA) (by decide) q264 rfl dX20_isDone_19 ?_
    refine z_aload_n 0 dX20_isDone_22 rfl ?_
    refine z_get (v := .int (nI (b))) 0 (cX_lo hA hl) rfl in_X20 (by decide) q1102 rfl dX20_isDone_23 ?_
    refine z_aload_n 0 dX20_isDone_26 rfl ?_
    refine z_get (v := .int (nI (h))) 1 (cX_lo hA hl) rfl in_X20 (by decide) q1103 rfl dX20_isDone_27 ?_
    refine cz_iast (K' := (cput (cput (zs K 99 8 o) 300 σ ds dt yr) 310 (zs1 τ (b + 6) (nI (h))) es (nI (tw % 12)) (nI (tw / 12)))) 312 b hA (by unfold cia; omega) rfl (by have h9 : csz 312 = 6 := rfl; omega) (by rw [cput_zwhere (by omega)]) dX20_isDone_30 ?_
    refine z_iconst (v := 1) dX20_isDone_31 (by decide) ?_
    exact z_zret dX20_isDone_32 rfl (by first | rfl | decide | exact zb_nar _) (Nat.le_of_ble_eq_true rfl) (Nat.le_of_ble_eq_true rfl) ⟨congrArg some (congrArg Value.int (by simp [s_lnd, c_4, zb])), o, F, by simp [s_lnd, c_4]⟩
  · -- s_may vs τ nd b h = false
    refine z_iconst (v := 0) dX20_isDone_16 (by decide) ?_
    exact z_zret dX20_isDone_17 rfl (by first | rfl | decide | exact zb_nar _) (Nat.le_of_ble_eq_true rfl) (Nat.le_of_ble_eq_true rfl) ⟨congrArg some (congrArg Value.int (by simp [s_lnd, c_4, zb])), o, F, by simp [s_lnd, c_4]⟩
set_option maxHeartbeats 4000000 in
theorem c_done2 {g : zG} {A : Nat → Nat} {K : Nat → Nat → Int32} {F : Nat → Int32} {O : Nat → Nat → Option Nat} {gl : Int64} {X : zX} (hA : cok g A X) {v : Nat} (hO : O 0 0 = some v) {vs : Nat → Int32} {nh nd : Nat} {own : Nat → Nat} {wv : Int32 → Int32 → Int32 → Int32 → Int32} (hV : s_ok vs nh nd own) (hv : cvl g X v vs nh nd wv) {σ ds τ es : Nat → Int32} {dt yr o : Int32} {tw : Nat} (htw : tw < 2 ^ 28) (hiv : s_iv τ nd) {l b h : Nat} (hl : X l = some (.inr (21, [.int (nI b)]))) (hb : b < nd) : zN g m_X21_isDone ({ frames := 1, cells := 0, slots := 0, locals := 21 } : Room) [.ref l, .ref (A 99), .ref (A 319)] (cX g A (cput (cput (zs K 99 8 o) 300 σ ds dt yr) 310 τ es (nI (tw % 12)) (nI (tw / 12))) F O gl X) (fun rv X' => rv = some (.int (zb (s_lnd wv vs es nh nd own 2 b h τ tw).2.2)) ∧ ∃ (o' : Int32) (F' : Nat → Int32), X' = (cX g A (cput (cput (zs K 99 8 o') 300 σ ds dt yr) 310 ((s_lnd wv vs es nh nd own 2 b h τ tw).1) es (nI ((s_lnd wv vs es nh nd own 2 b h τ tw).2.1 % 12)) (nI ((s_lnd wv vs es nh nd own 2 b h τ tw).2.1 / 12))) F' O gl X)) := by
  refine zN.of (by decide +kernel) (Nat.le_of_ble_eq_true rfl) rfl ?_
  refine z_lv (lv' := [(0, .ref l), (1, .ref (A 99)), (2, .ref (A 319))]) [0, 1, 2] rfl ?_
  have hA2 := hA.2.2.1
  have hV9 := hV
  have hv9 := hv
  obtain ⟨h0, hnh, h1, hnd, hown⟩ := hV9
  obtain ⟨lh, lg, fh, fg, st9, fa, hxv, ⟨mh, eh, ch, hlh, heh, hch1, hch2⟩, ⟨mg, eg, cg, hlg, heg, hcg1, hcg2⟩, hhs, hgs, hst9, hfa⟩ := hv9
  refine z_aload_n 2 dX21_isDone_0 rfl ?_
  refine cz_getSN (s := 310) (v := .ref (A 312)) 2 hA (cst_1 hA) (by decide) q263 rfl dX21_isDone_1 ?_
  refine z_aload_n 0 dX21_isDone_4 rfl ?_
  refine z_get (v := .int (nI (b))) 0 (cX_lo hA hl) rfl in_X21 (by decide) q1115 rfl dX21_isDone_5 ?_
  refine cz_iald (v := τ (b + 6)) 312 b hA (by unfold cia; omega) rfl (by have h9 : csz 312 = 6 := rfl; omega) (cput_where (by omega)) dX21_isDone_8 ?_
  refine z_if_ge 14 dX21_isDone_9 (by decide) (fun c_1 => ?_) (fun c_1 => ?_)
  · -- 0 ≤ τ (b + 6)
    have c_1' := Int32.not_lt.mpr c_1
    refine z_aload_n 2 dX21_isDone_14 rfl ?_
    refine z_aload_n 0 dX21_isDone_15 rfl ?_
    refine z_get (v := .int (nI (b))) 0 (cX_lo hA hl) rfl in_X21 (by decide) q1115 rfl dX21_isDone_16 ?_
    refine z_callV (As := [.int (nI (b))]) (c_goes (F := F) (gl := gl) (K := (cput (zs K 99 8 o) 300 σ ds dt yr)) (σ := τ) (ds := es) (dt := (nI (tw % 12))) (yr := (nI (tw / 12))) (O := O) hA (cst_1 hA) b (by omega)) q1312 q1218 q1219 q118 q1220 nm_X4_goes (cX_st hA (cst_1 hA)) rfl rfl rfl (Nat.le_of_ble_eq_true rfl) ⟨Nat.le_of_ble_eq_true rfl, Nat.le_of_ble_eq_true rfl⟩ dX21_isDone_19 rfl rfl (Nat.le_of_ble_eq_true rfl) (Nat.le_of_ble_eq_true rfl) (fun v_2 X_3 hp_4 => ?_)
    obtain ⟨rfl, rfl⟩ := hp_4
    refine z_st (st' := []) rfl ?_
    refine z_iconst (v := 1) dX21_isDone_22 (by decide) ?_
    exact z_zret dX21_isDone_23 rfl (by first | rfl | decide | exact zb_nar _) (Nat.le_of_ble_eq_true rfl) (Nat.le_of_ble_eq_true rfl) ⟨congrArg some (congrArg Value.int (by simp [s_lnd, c_1, zb])), o, F, by simp [s_lnd, c_1]⟩
  · -- ¬ 0 ≤ τ (b + 6)
    have c_1' := Int32.not_le.mp c_1
    refine z_iconst (v := 0) dX21_isDone_12 (by decide) ?_
    exact z_zret dX21_isDone_13 rfl (by first | rfl | decide | exact zb_nar _) (Nat.le_of_ble_eq_true rfl) (Nat.le_of_ble_eq_true rfl) ⟨congrArg some (congrArg Value.int (by simp [s_lnd, c_1, zb])), o, F, by simp [s_lnd, c_1]⟩
set_option maxHeartbeats 4000000 in
theorem c_done3 {g : zG} {A : Nat → Nat} {K : Nat → Nat → Int32} {F : Nat → Int32} {O : Nat → Nat → Option Nat} {gl : Int64} {X : zX} (hA : cok g A X) {v : Nat} (hO : O 0 0 = some v) {vs : Nat → Int32} {nh nd : Nat} {own : Nat → Nat} {wv : Int32 → Int32 → Int32 → Int32 → Int32} (hV : s_ok vs nh nd own) (hv : cvl g X v vs nh nd wv) {σ ds τ es : Nat → Int32} {dt yr o : Int32} {tw : Nat} (htw : tw < 2 ^ 28) (hiv : s_iv τ nd) {l b h : Nat} (hl : X l = some (.inr (19, [.int (nI b)]))) (hb : b < nh) : zN g m_X19_isDone ({ frames := 0, cells := 0, slots := 0, locals := 0 } : Room) [.ref l, .ref (A 99), .ref (A 319)] (cX g A (cput (cput (zs K 99 8 o) 300 σ ds dt yr) 310 τ es (nI (tw % 12)) (nI (tw / 12))) F O gl X) (fun rv X' => rv = some (.int (zb (s_lnd wv vs es nh nd own 3 b h τ tw).2.2)) ∧ ∃ (o' : Int32) (F' : Nat → Int32), X' = (cX g A (cput (cput (zs K 99 8 o') 300 σ ds dt yr) 310 ((s_lnd wv vs es nh nd own 3 b h τ tw).1) es (nI ((s_lnd wv vs es nh nd own 3 b h τ tw).2.1 % 12)) (nI ((s_lnd wv vs es nh nd own 3 b h τ tw).2.1 / 12))) F' O gl X)) := by
  refine zN.of (by decide +kernel) (Nat.le_of_ble_eq_true rfl) rfl ?_
  refine z_lv (lv' := [(0, .ref l), (1, .ref (A 99)), (2, .ref (A 319))]) [0, 1, 2] rfl ?_
  have hA2 := hA.2.2.1
  have hV9 := hV
  have hv9 := hv
  obtain ⟨h0, hnh, h1, hnd, hown⟩ := hV9
  obtain ⟨lh, lg, fh, fg, st9, fa, hxv, ⟨mh, eh, ch, hlh, heh, hch1, hch2⟩, ⟨mg, eg, cg, hlg, heg, hcg1, hcg2⟩, hhs, hgs, hst9, hfa⟩ := hv9
  refine z_aload_n 2 dX19_isDone_0 rfl ?_
  refine cz_getSN (s := 310) (v := .ref (A 310)) 0 hA (cst_1 hA) (by decide) q258 rfl dX19_isDone_1 ?_
  refine z_aload_n 0 dX19_isDone_4 rfl ?_
  refine z_get (v := .int (nI (b))) 0 (cX_lo hA hl) rfl in_X19 (by decide) q1092 rfl dX19_isDone_5 ?_
  refine cz_iald (v := τ (b + 2)) 310 b hA (by unfold cia; omega) rfl (by have h9 : csz 310 = 4 := rfl; omega) (cput_beds (by omega)) dX19_isDone_8 ?_
  refine z_bipush (v := 9) dX19_isDone_9 (by decide) ?_
  refine z_icmp_ne 16 dX19_isDone_11 (by decide) (fun c_1 => ?_) (fun c_1 => ?_)
  · -- ¬ τ (b + 2) = 9
    refine z_aload_n 2 dX19_isDone_16 rfl ?_
    refine cz_getSN (s := 310) (v := .ref (A 310)) 0 hA (cst_1 hA) (by decide) q258 rfl dX19_isDone_17 ?_
    refine z_aload_n 0 dX19_isDone_20 rfl ?_
    refine z_get (v := .int (nI (b))) 0 (cX_lo hA hl) rfl in_X19 (by decide) q1092 rfl dX19_isDone_21 ?_
    refine z_dup2_11 dX19_isDone_24 rfl rfl ?_
    refine cz_iald (v := τ (b + 2)) 310 b hA (by unfold cia; omega) rfl (by have h9 : csz 310 = 4 := rfl; omega) (cput_beds (by omega)) dX19_isDone_25 ?_
    refine z_iconst (v := 1) dX19_isDone_26 (by decide) ?_
    refine z_iadd dX19_isDone_27 ?_
    obtain ⟨x_2, ex_2⟩ : ∃ y : Int32, ((τ (b + 2)) + 1) = y := ⟨_, rfl⟩
    refine z_eq ex_2 ?_
    refine cz_iast (K' := (cput (cput (zs K 99 8 o) 300 σ ds dt yr) 310 (zs1 τ (b + 2) x_2) es (nI (tw % 12)) (nI (tw / 12)))) 310 b hA (by unfold cia; omega) rfl (by have h9 : csz 310 = 4 := rfl; omega) (by rw [cput_zbeds (by omega)]) dX19_isDone_28 ?_
    refine z_iconst (v := 1) dX19_isDone_29 (by decide) ?_
    exact z_zret dX19_isDone_30 rfl (by first | rfl | decide | exact zb_nar _) (Nat.le_of_ble_eq_true rfl) (Nat.le_of_ble_eq_true rfl) ⟨congrArg some (congrArg Value.int (by simp [s_lnd, c_1, zb])), o, F, by subst ex_2; simp [s_lnd, c_1]⟩
  · -- τ (b + 2) = 9
    refine z_iconst (v := 0) dX19_isDone_14 (by decide) ?_
    exact z_zret dX19_isDone_15 rfl (by first | rfl | decide | exact zb_nar _) (Nat.le_of_ble_eq_true rfl) (Nat.le_of_ble_eq_true rfl) ⟨congrArg some (congrArg Value.int (by simp [s_lnd, c_1, zb])), o, F, by simp [s_lnd, c_1]⟩
set_option maxHeartbeats 4000000 in
theorem z_isDone {g : zG} {A : Nat → Nat} {K : Nat → Nat → Int32} {F : Nat → Int32} {O : Nat → Nat → Option Nat} {gl : Int64} {X : zX} (hA : cok g A X) {v : Nat} (hO : O 0 0 = some v) {vs : Nat → Int32} {nh nd : Nat} {own : Nat → Nat} {wv : Int32 → Int32 → Int32 → Int32 → Int32} (hV : s_ok vs nh nd own) (hv : cvl g X v vs nh nd wv) {σ ds τ es : Nat → Int32} {dt yr o : Int32} {tw : Nat} (htw : tw < 2 ^ 28) (hiv : s_iv τ nd) {M : zMth} {P : zPo} {k n pc index : Nat} {lv : List (Nat × Value)} {rest : List Value} {l a b h : Nat} (hl : clo X l a b h) (hk9 : s_lok nh nd a b h) (q1 : Cond.methodLink M.1.cls index ⟨"DateVale$Line", "isDone", "(LDateVale;LDateVale$State;)Z"⟩ ∈ lw_all) (hW : (rest.map fun v => v.category).sum ≤ 8) (hf : 1003 ≤ P.2.2.frames) (hlo : 40087 ≤ P.2.2.locals) (hd : decode M.2.1 pc = .ok (.invokevirtual index, 3)) (hk : k ≤ P.2.2.cells) (hn : n ≤ P.2.2.slots)
    (kk : ∀ (o' : Int32) (F' : Nat → Int32), zZ g M P k n (cX g A (cput (cput (zs K 99 8 o') 300 σ ds dt yr) 310 ((s_lnd wv vs es nh nd own a b h τ tw).1) es (nI ((s_lnd wv vs es nh nd own a b h τ tw).2.1 % 12)) (nI ((s_lnd wv vs es nh nd own a b h τ tw).2.1 / 12))) F' O gl X) (pc + 3) lv (.int (zb (s_lnd wv vs es nh nd own a b h τ tw).2.2) :: rest)) : zZ g M P k n (cX g A (cput (cput (zs K 99 8 o) 300 σ ds dt yr) 310 τ es (nI (tw % 12)) (nI (tw / 12))) F O gl X) pc lv (.ref (A 319) :: .ref (A 99) :: .ref l :: rest) := by
  obtain ⟨k1, k2, k3, k4⟩ := hk9
  rcases hl with ⟨rfl, hl⟩ | ⟨rfl, hl⟩ | ⟨rfl, hl⟩ | ⟨rfl, hl⟩
  · refine z_callA (As := [.ref (A 99), .ref (A 319)]) (x := ⟨"DateVale$Line", "isDone", "(LDateVale;LDateVale$State;)Z"⟩) (owner := "DateVale$Line") (c_done0 (b := b) (h := h) hA hO hV hv htw hiv hl) q1 q1297 q1305 q1306 q147 q1307 q1296 ⟨by decide +kernel, by decide +kernel, nm_X18_isDone.2.2⟩ (cX_lo hA hl) rfl rfl hW ⟨by show 1002 + 1 ≤ _; omega, by show 8 + (_ + 11) + 40047 ≤ _; have h9 : m_X18_isDone.2.2.1 ≤ 10 := (by decide); omega⟩ hd rfl rfl (by show k + 0 ≤ _; omega) (by show n + 0 ≤ _; omega) (fun v X9 hp => ?_)
    obtain ⟨rfl, o', F', rfl⟩ := hp
    exact kk o' F'
  · refine z_callA (As := [.ref (A 99), .ref (A 319)]) (x := ⟨"DateVale$Line", "isDone", "(LDateVale;LDateVale$State;)Z"⟩) (owner := "DateVale$Line") (c_done1 (b := b) (h := h) hA hO hV hv htw hiv hl (k2 rfl).1 (k2 rfl).2) q1 q1297 q1301 q1302 q149 q1303 q1296 ⟨by decide +kernel, by decide +kernel, nm_X20_isDone.2.2⟩ (cX_lo hA hl) rfl rfl hW ⟨by show 7 + 1 ≤ _; omega, by show 8 + (_ + 11) + 155 ≤ _; have h9 : m_X20_isDone.2.2.1 ≤ 10 := (by decide); omega⟩ hd rfl rfl (by show k + 0 ≤ _; omega) (by show n + 0 ≤ _; omega) (fun v X9 hp => ?_)
    obtain ⟨rfl, o', F', rfl⟩ := hp
    exact kk o' F'
  · refine z_callA (As := [.ref (A 99), .ref (A 319)]) (x := ⟨"DateVale$Line", "isDone", "(LDateVale;LDateVale$State;)Z"⟩) (owner := "DateVale$Line") (c_done2 (b := b) (h := h) hA hO hV hv htw hiv hl (k3 rfl)) q1 q1297 q1309 q1310 q150 q1311 q1296 ⟨by decide +kernel, by decide +kernel, nm_X21_isDone.2.2⟩ (cX_lo hA hl) rfl rfl hW ⟨by show 1 + 1 ≤ _; omega, by show 8 + (_ + 11) + 21 ≤ _; have h9 : m_X21_isDone.2.2.1 ≤ 10 := (by decide); omega⟩ hd rfl rfl (by show k + 0 ≤ _; omega) (by show n + 0 ≤ _; omega) (fun v X9 hp => ?_)
    obtain ⟨rfl, o', F', rfl⟩ := hp
    exact kk o' F'
  · refine z_callA (As := [.ref (A 99), .ref (A 319)]) (x := ⟨"DateVale$Line", "isDone", "(LDateVale;LDateVale$State;)Z"⟩) (owner := "DateVale$Line") (c_done3 (b := b) (h := h) hA hO hV hv htw hiv hl (k4 rfl)) q1 q1297 q1298 q1299 q148 q1300 q1296 ⟨by decide +kernel, by decide +kernel, nm_X19_isDone.2.2⟩ (cX_lo hA hl) rfl rfl hW ⟨by show 0 + 1 ≤ _; omega, by show 8 + (_ + 11) + 0 ≤ _; have h9 : m_X19_isDone.2.2.1 ≤ 10 := (by decide); omega⟩ hd rfl rfl (by show k + 0 ≤ _; omega) (by show n + 0 ≤ _; omega) (fun v X9 hp => ?_)
    obtain ⟨rfl, o', F', rfl⟩ := hp
    exact kk o' F'
theorem z_castL {g : zG} {M : zMth} {P : zPo} {k n pc index : Nat} {X : zX} {lv : List (Nat × Value)} {st : List Value} {l a b h : Nat} (hl : clo X l a b h) (hlk : Cond.classLink M.1.cls index "DateVale$Line" ∈ lw_all) (hd : decode M.2.1 pc = .ok (.checkcast index, 3)) (kk : zZ g M P k n X (pc + 3) lv (.ref l :: st)) : zZ g M P k n X pc lv (.ref l :: st) := by
  rcases hl with ⟨-, hl⟩ | ⟨-, hl⟩ | ⟨-, hl⟩ | ⟨-, hl⟩
  · exact z_castY hl rfl hlk q2084 hd kk
  · exact z_castY hl rfl hlk q2083 hd kk
  · exact z_castY hl rfl hlk q2085 hd kk
  · exact z_castY hl rfl hlk q2082 hd kk
theorem clo.lo {g : zG} {A : Nat → Nat} {K : Nat → Nat → Int32} {F : Nat → Int32} {O : Nat → Nat → Option Nat} {gl : Int64} {X : zX} (hA : cok g A X) {l a b h : Nat} (hl : clo X l a b h) : clo (cX g A K F O gl X) l a b h := hl.mono (fun q e hq => cX_lo hA hq)
