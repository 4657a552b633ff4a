/-! THE COMPONENT: what befalls. Printed by t68.py -/
set_option maxRecDepth 100000
theorem s_lcgF {f : Nat → Nat} (hfe : f = s_lcg) {a : Nat} (h : a < 2147483648) : lN a * 1103515245 + 12345 - (lN a * 1103515245 + 12345) / 2147483648 * 2147483648 = lN (f a) := by
  subst hfe
  exact s_lcg_eq h
set_option maxHeartbeats 4000000 in
theorem c_draws {f : Nat → Nat} (hfe : f = s_lcg) {g : zG} {A : Nat → Nat} {K : Nat → Nat → Int32} {F : Nat → Int32} {O : Nat → Nat → Option Nat} {X : zX} (hA : cok g A X) {a : Nat} (ha : a < 2147483648) (m : Nat) (hm0 : 0 < m) (hm : m < 2 ^ 31) : zN g m_X1_draws ({ frames := 0, cells := 0, slots := 0, locals := 0 } : Room) [.ref (A 99), .int (nI (m))] (cX g A K F O (lN a) X) (fun rv X' => rv = some (.int (nI (f a / 65536 % m))) ∧ X' = (cX g A K F O (lN (f a)) X)) := by
  refine zN.of (by decide +kernel) (Nat.le_of_ble_eq_true rfl) rfl ?_
  refine z_lv (lv' := [(0, .ref (A 99)), (1, .int (nI (m)))]) [0, 1] rfl ?_
  have hA2 := hA.2.2.1
  have hfl : ∀ x, f x < 2147483648 := hfe ▸ s_lcg_lt
  have hmz : ¬ (nI m).toInt64 = 0 := fun h9 => by rw [nI_l hm] at h9; have := (lN_eq (b := 0) hm (by decide)).mp h9; omega
  refine z_aload_n 0 dX1_draws_0 rfl ?_
  refine z_aload_n 0 dX1_draws_1 rfl ?_
  refine cz_get (v := .long (lN a)) 19 hA (by decide) q346 rfl dX1_draws_2 ?_
  refine z_ldc2 q1441 dX1_draws_5 ?_
  refine z_lmul dX1_draws_8 ?_
  refine z_ldc2 q1442 dX1_draws_9 ?_
  refine z_ladd dX1_draws_12 ?_
  refine z_ldc2 q1443 dX1_draws_13 ?_
  refine z_lrem dX1_draws_16 (by decide) ?_
  refine z_st (st' := [.long (lN (f a)), .ref (A 99)]) (by rw [s_lcgF hfe ha]) ?_
  refine cz_putg hA q346 dX1_draws_17 ?_
  refine z_aload_n 0 dX1_draws_20 rfl ?_
  refine cz_get (v := .long (lN (f a))) 19 hA (by decide) q346 rfl dX1_draws_21 ?_
  refine z_ldc2 q1444 dX1_draws_24 ?_
  refine z_ldiv dX1_draws_27 (by decide) ?_
  refine z_iload_n 1 dX1_draws_28 rfl ?_
  refine z_i2l (v := (nI (m)).toInt64) dX1_draws_29 rfl ?_
  refine z_lrem dX1_draws_30 (by exact hmz) ?_
  refine z_l2i (v := ((lN (f a) / 65536) - (lN (f a) / 65536) / (nI (m)).toInt64 * (nI (m)).toInt64).toInt32) dX1_draws_31 rfl ?_
  refine z_st (st' := [.int (nI ((f a / 65536 % m)))]) (by rw [s_lcg_d (hfl a) hm0 hm]) ?_
  exact z_iret dX1_draws_32 rfl (Nat.le_of_ble_eq_true rfl) (Nat.le_of_ble_eq_true rfl) ⟨rfl, rfl⟩
set_option maxHeartbeats 4000000 in
theorem c_befalls {f : Nat → Nat} (hfe : f = s_lcg) {g : zG} {A : Nat → Nat} {K : Nat → Nat → Int32} {F : Nat → Int32} {O : Nat → Nat → Option Nat} {X : zX} (hA : cok g A X) {v : Nat} (hO : O 0 0 = some v) {vs : Nat → Int32} {nh nd : Nat} {own : Nat → Nat} {wv : Int32 → Int32 → Int32 → Int32 → Int32} (hV : s_ok vs nh nd own) (hv : cvl g X v vs nh nd wv) {σ ds τ es : Nat → Int32} {dt2 yr2 o : Int32} {now : Nat} (hnow : now < 2 ^ 28) (hiv : s_iv σ nd) {a : Nat} (ha : a < 2147483648) (hd0 : 0 < nd) (hiτ : s_iv τ nd) (hwτ : s_iw τ nh nd) : zN g m_X1_befalls ({ frames := 7, cells := 0, slots := 0, locals := 155 } : Room) [.ref (A 99), .ref (A 319)] (cX g A (cput (cput (zs K 99 8 o) 300 σ ds (nI (now % 12)) (nI (now / 12))) 310 τ es dt2 yr2) F O (lN a) X) (fun rv X' => rv = none ∧ X' = (cX g A (cput (cput (zs K 99 8 o) 300 σ ds (nI (now % 12)) (nI (now / 12))) 310 ((s_deed f vs nh nd τ a).1) es dt2 yr2) F O (lN (s_deed f vs nh nd τ a).2) X)) := by
  refine zN.of (by decide +kernel) (Nat.le_of_ble_eq_true rfl) rfl ?_
  refine z_lv (lv' := [(0, .ref (A 99)), (1, .ref (A 319))]) [0, 1] rfl ?_
  have hA2 := hA.2.2.1
  have hV9 := hV
  have hv9 := hv
  obtain ⟨h0, hnh, h1, hnd, hown⟩ := hV9
  obtain ⟨lh, lg, fh, fg, st9, fa, hxv, ⟨mh, eh, ch, hlh, heh, hch1, hch2⟩, ⟨mg, eg, cg, hlg, heg, hcg1, hcg2⟩, hhs, hgs, hst9, hfa⟩ := hv9
  have hfl : ∀ x, f x < 2147483648 := hfe ▸ s_lcg_lt
  have hnh0 : 0 < nh := by have := (hown 0 hd0).2; omega
  have hm6 : f a / 65536 % 6 < 6 := Nat.mod_lt _ (by decide)
  have hmd : f (f a) / 65536 % nd < nd := Nat.mod_lt _ hd0
  have hmh : f (f (f a)) / 65536 % nh < nh := Nat.mod_lt _ hnh0
  refine z_aload_n 0 dX1_befalls_0 rfl ?_
  refine z_bipush (v := 6) dX1_befalls_1 (by decide) ?_
  refine z_callV (As := [.int 6]) (c_draws (K := (cput (cput (zs K 99 8 o) 300 σ ds (nI (now % 12)) (nI (now / 12))) 310 τ es dt2 yr2)) (F := F) (O := O) hfe hA (a := a) (by first | exact ha | exact hfl _) 6 (by omega) (by omega)) q1437 q1439 qs47 q112 q1440 nm_X1_draws (cX_obj hA) rfl rfl rfl (Nat.le_of_ble_eq_true rfl) ⟨Nat.le_of_ble_eq_true rfl, Nat.le_of_ble_eq_true rfl⟩ dX1_befalls_3 rfl rfl (Nat.le_of_ble_eq_true rfl) (Nat.le_of_ble_eq_true rfl) (fun v_1 X_2 hp_3 => ?_)
  obtain ⟨rfl, rfl⟩ := hp_3
  refine z_st (st' := [.int (nI ((f a / 65536 % 6)))]) rfl ?_
  refine z_istore_n (lv' := [(2, .int (nI ((f a / 65536 % 6)))), (0, .ref (A 99)), (1, .ref (A 319))]) dX1_befalls_6 rfl (by decide) rfl ?_
  refine z_iload_n 0 dX1_befalls_7 rfl ?_
  refine z_iconst (v := 1) dX1_befalls_8 (by decide) ?_
  refine z_icmp_leN (a := (f a / 65536 % 6)) (b := 1) 13 (by omega) (by omega) dX1_befalls_9 (by decide) (fun c_4 => ?_) (fun c_4 => ?_)
  · -- (f a / 65536 % 6) ≤ 1
    refine z_aload_n 1 dX1_befalls_13 rfl ?_
    refine z_aload_n 1 dX1_befalls_14 rfl ?_
    refine z_callV (As := []) (c_guests (K := (cput (cput (zs K 99 8 o) 300 σ ds (nI (now % 12)) (nI (now / 12))) 310 τ es dt2 yr2)) (F := F) (gl := (lN (f a))) hA hO hxv hlh heh hch1 hch2 hlg heg hcg1 hcg2) q1139 q1141 qs30 q112 q1142 nm_X1_guests (cX_obj hA) rfl rfl rfl (Nat.le_of_ble_eq_true rfl) ⟨Nat.le_of_ble_eq_true rfl, Nat.le_of_ble_eq_true rfl⟩ dX1_befalls_15 rfl rfl (Nat.le_of_ble_eq_true rfl) (Nat.le_of_ble_eq_true rfl) (fun v_5 X_6 hp_7 => ?_)
    obtain ⟨rfl, rfl⟩ := hp_7
    refine z_st (st' := [.int (nI (nd)), .ref (A 99)]) rfl ?_
    refine z_callV (As := [.int (nI (nd))]) (c_draws (K := (cput (cput (zs K 99 8 o) 300 σ ds (nI (now % 12)) (nI (now / 12))) 310 τ es dt2 yr2)) (F := F) (O := O) hfe hA (a := (f a)) (by first | exact ha | exact hfl _) nd (by omega) (by omega)) q1437 q1439 qs47 q112 q1440 nm_X1_draws (cX_obj hA) rfl rfl rfl (Nat.le_of_ble_eq_true rfl) ⟨Nat.le_of_ble_eq_true rfl, Nat.le_of_ble_eq_true rfl⟩ dX1_befalls_18 rfl rfl (Nat.le_of_ble_eq_true rfl) (Nat.le_of_ble_eq_true rfl) (fun v_8 X_9 hp_10 => ?_)
    obtain ⟨rfl, rfl⟩ := hp_10
    refine z_st (st' := [.int (nI ((f (f a) / 65536 % nd)))]) rfl ?_
    refine z_istore_n (lv' := [(3, .int (nI ((f (f a) / 65536 % nd)))), (2, .int (nI ((f a / 65536 % 6)))), (0, .ref (A 99)), (1, .ref (A 319))]) dX1_befalls_21 rfl (by decide) rfl ?_
    refine z_iload_n 1 dX1_befalls_22 rfl ?_
    refine z_if_neN 32 (by omega) dX1_befalls_23 (by decide) (fun c_11 => ?_) (fun c_11 => ?_)
    · -- (f a / 65536 % 6) ≠ 0
      refine z_aload_n 2 dX1_befalls_32 rfl ?_
      refine z_aload_n 2 dX1_befalls_33 rfl ?_
      refine z_callV (As := []) (c_houses (K := (cput (cput (zs K 99 8 o) 300 σ ds (nI (now % 12)) (nI (now / 12))) 310 τ es dt2 yr2)) (F := F) (gl := (lN (f (f a)))) hA hO hxv hlh heh hch1 hch2 hlg heg hcg1 hcg2) q1127 q1129 qs28 q112 q1130 nm_X1_houses (cX_obj hA) rfl rfl rfl (Nat.le_of_ble_eq_true rfl) ⟨Nat.le_of_ble_eq_true rfl, Nat.le_of_ble_eq_true rfl⟩ dX1_befalls_34 rfl rfl (Nat.le_of_ble_eq_true rfl) (Nat.le_of_ble_eq_true rfl) (fun v_12 X_13 hp_14 => ?_)
      obtain ⟨rfl, rfl⟩ := hp_14
      refine z_st (st' := [.int (nI (nh)), .ref (A 99)]) rfl ?_
      refine z_callV (As := [.int (nI (nh))]) (c_draws (K := (cput (cput (zs K 99 8 o) 300 σ ds (nI (now % 12)) (nI (now / 12))) 310 τ es dt2 yr2)) (F := F) (O := O) hfe hA (a := (f (f a))) (by first | exact ha | exact hfl _) nh (by omega) (by omega)) q1437 q1439 qs47 q112 q1440 nm_X1_draws (cX_obj hA) rfl rfl rfl (Nat.le_of_ble_eq_true rfl) ⟨Nat.le_of_ble_eq_true rfl, Nat.le_of_ble_eq_true rfl⟩ dX1_befalls_37 rfl rfl (Nat.le_of_ble_eq_true rfl) (Nat.le_of_ble_eq_true rfl) (fun v_15 X_16 hp_17 => ?_)
      obtain ⟨rfl, rfl⟩ := hp_17
      refine z_st (st' := [.int (nI ((f (f (f a)) / 65536 % nh)))]) rfl ?_
      refine z_istore (lv' := [(4, .int (nI ((f (f (f a)) / 65536 % nh)))), (3, .int (nI ((f (f a) / 65536 % nd)))), (2, .int (nI ((f a / 65536 % 6)))), (0, .ref (A 99)), (1, .ref (A 319))]) dX1_befalls_40 (by decide) rfl ?_
      refine z_aload_n 3 dX1_befalls_42 rfl ?_
      refine z_aload_n 4 dX1_befalls_43 rfl ?_
      refine z_iload_n 1 dX1_befalls_44 rfl ?_
      refine z_iload 0 dX1_befalls_45 rfl ?_
      refine z_callV (As := [.ref (A 319), .int (nI ((f (f a) / 65536 % nd))), .int (nI ((f (f (f a)) / 65536 % nh)))]) (c_canMove (F := F) (gl := (lN (f (f (f a))))) (K := (cput (zs K 99 8 o) 300 σ ds (nI (now % 12)) (nI (now / 12)))) (σ := τ) (ds := es) (dt := dt2) (yr := yr2) hA hO hV hv (cst_1 hA) hiτ.1 (f (f a) / 65536 % nd) (f (f (f a)) / 65536 % nh) (by omega) (by omega)) q1274 q1276 qs39 q112 q1277 nm_X1_canMove (cX_obj hA) rfl rfl rfl (Nat.le_of_ble_eq_true rfl) ⟨Nat.le_of_ble_eq_true rfl, Nat.le_of_ble_eq_true rfl⟩ dX1_befalls_47 rfl rfl (Nat.le_of_ble_eq_true rfl) (Nat.le_of_ble_eq_true rfl) (fun v_18 X_19 hp_20 => ?_)
      obtain ⟨rfl, rfl⟩ := hp_20
      refine z_st (st' := [.int (zb (s_may vs τ nd (f (f a) / 65536 % nd) (f (f (f a)) / 65536 % nh)))]) rfl ?_
      refine z_if_eqb 61 dX1_befalls_50 (by decide) (fun c_21 => ?_) (fun c_21 => ?_)
      · -- s_may vs τ nd (f (f a) / 65536 % nd) (f (f (f a)) / 65536 % nh) = false
        exact z_vret dX1_befalls_61 rfl (Nat.le_of_ble_eq_true rfl) (Nat.le_of_ble_eq_true rfl) (by rw [show (s_deed f vs nh nd τ a) = (τ, (f (f (f a)))) from (by unfold s_deed s_deed1; rw [if_neg (by omega), if_pos (by omega), if_neg (by rw [c_21]; decide)])]; exact ⟨rfl, rfl⟩)
      · -- s_may vs τ nd (f (f a) / 65536 % nd) (f (f (f a)) / 65536 % nh) = true
        refine z_aload_n 4 dX1_befalls_53 rfl ?_
        refine cz_getSN (s := 310) (v := .ref (A 312)) 2 hA (cst_1 hA) (by decide) q265 rfl dX1_befalls_54 ?_
        refine z_iload_n 1 dX1_befalls_57 rfl ?_
        refine z_iload 0 dX1_befalls_58 rfl ?_
        refine cz_iast (K' := (cput (cput (zs K 99 8 o) 300 σ ds (nI (now % 12)) (nI (now / 12))) 310 (zs1 τ ((f (f a) / 65536 % nd) + 6) (nI ((f (f (f a)) / 65536 % nh)))) es dt2 yr2)) 312 (f (f a) / 65536 % nd) hA (by unfold cia; omega) rfl (by have h9 : csz 312 = 6 := rfl; omega) (by rw [cput_zwhere (by omega)]) dX1_befalls_60 ?_
        exact z_vret dX1_befalls_61 rfl (Nat.le_of_ble_eq_true rfl) (Nat.le_of_ble_eq_true rfl) (by rw [show (s_deed f vs nh nd τ a) = ((zs1 τ ((f (f a) / 65536 % nd) + 6) (nI ((f (f (f a)) / 65536 % nh)))), (f (f (f a)))) from (by unfold s_deed s_deed1; rw [if_neg (by omega), if_pos (by omega), if_pos c_21])]; exact ⟨rfl, rfl⟩)
    · -- (f a / 65536 % 6) = 0
      refine z_aload_n 3 dX1_befalls_26 rfl ?_
      refine z_iload_n 0 dX1_befalls_27 rfl ?_
      refine z_callV (As := [.int (nI ((f (f a) / 65536 % nd)))]) (c_goes (F := F) (gl := (lN (f (f a)))) (K := (cput (zs K 99 8 o) 300 σ ds (nI (now % 12)) (nI (now / 12)))) (σ := τ) (ds := es) (dt := dt2) (yr := yr2) (O := O) hA (cst_1 hA) (f (f a) / 65536 % nd) (by omega)) q1217 q1218 q1219 q118 q1220 nm_X4_goes (cX_st hA (cst_1 hA)) rfl rfl rfl (Nat.le_of_ble_eq_true rfl) ⟨Nat.le_of_ble_eq_true rfl, Nat.le_of_ble_eq_true rfl⟩ dX1_befalls_28 rfl rfl (Nat.le_of_ble_eq_true rfl) (Nat.le_of_ble_eq_true rfl) (fun v_22 X_23 hp_24 => ?_)
      obtain ⟨rfl, rfl⟩ := hp_24
      refine z_st (st' := []) rfl ?_
      exact z_vret dX1_befalls_31 rfl (Nat.le_of_ble_eq_true rfl) (Nat.le_of_ble_eq_true rfl) (by rw [show (s_deed f vs nh nd τ a) = ((s_leave τ (f (f a) / 65536 % nd)), (f (f a))) from (by unfold s_deed s_deed1; rw [if_pos (by omega), s_leave_if hiτ hwτ hmd hnd hnh])]; exact ⟨rfl, rfl⟩)
  · -- 1 < (f a / 65536 % 6)
    exact z_vret dX1_befalls_12 rfl (Nat.le_of_ble_eq_true rfl) (Nat.le_of_ble_eq_true rfl) (by rw [show (s_deed f vs nh nd τ a) = (τ, (f a)) from (by unfold s_deed s_deed1; rw [if_neg (by omega), if_neg (by omega)])]; exact ⟨rfl, rfl⟩)
