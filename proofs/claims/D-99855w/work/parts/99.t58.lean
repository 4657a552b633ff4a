/-! THE COMPONENT: what is seen. Printed by t58.py -/
set_option maxRecDepth 100000
theorem zs_cm {α : Type} {K : Nat → Nat → α} {a k r q : Nat} {v w : α} (h : ¬ (a = r ∧ k = q)) : zs (zs K a k v) r q w = zs (zs K r q w) a k v := by
  funext i j
  unfold zs
  by_cases h1 : i = r ∧ j = q
  · rw [if_pos h1, if_neg (fun h2 => h ⟨h2.1.symm.trans h1.1, h2.2.symm.trans h1.2⟩), if_pos h1]
  · rw [if_neg h1, if_neg h1]
def s_seen (K : Nat → Nat → Int32) (sm : Nat) (h m : Int32) : Nat → Nat → Int32 := zs (zs (zs K 15 sm h) 99 17 (nI (sm + 1))) 16 sm m
theorem s_seen_8 {K : Nat → Nat → Int32} {sm : Nat} {h m o : Int32} : zs (zs (zs (zs K 99 8 o) 15 sm h) 99 17 (nI (sm + 1))) 16 sm m = zs (s_seen K sm h m) 99 8 o := by
  unfold s_seen
  rw [zs_cm (a := 99) (k := 8) (r := 15) (by omega), zs_cm (a := 99) (k := 8) (r := 99) (by omega), zs_cm (a := 99) (k := 8) (r := 16) (by omega)]
set_option maxHeartbeats 4000000 in
theorem c_see {g : zG} {A : Nat → Nat} {K : Nat → Nat → Int32} {F : Nat → Int32} {O : Nat → Nat → Option Nat} {gl : Int64} {X : zX} (hA : cok g A X) {v : Nat} (hO : O 0 0 = some v) {vs : Nat → Int32} {nh nd : Nat} {own : Nat → Nat} {wv : Int32 → Int32 → Int32 → Int32 → Int32} (hV : s_ok vs nh nd own) (hv : cvl g X v vs nh nd wv) {σ ds τ es : Nat → Int32} {dt2 yr2 o : Int32} {now : Nat} (hnow : now < 2 ^ 28) (hiv : s_iv σ nd) {sm : Nat} (hsm : K 99 17 = nI sm) (hsm2 : sm ≤ 8) (h m : Int32) : zN g m_X1_see ({ frames := 3, cells := 0, slots := 0, locals := 61 } : Room) [.ref (A 99), .int h, .int m] (cX g A (cput (cput (zs K 99 8 o) 300 σ ds (nI (now % 12)) (nI (now / 12))) 310 τ es dt2 yr2) F O gl X) (fun rv X' => rv = some (.int (zb (((decide (h = zm1) || (decide (0 ≤ h) && decide (h < nI nh))) && (decide (0 ≤ m) && decide (m ≤ 24))) && decide (¬ sm = 8)))) ∧ X' = (cX g A (cput (cput (zs (if (((decide (h = zm1) || (decide (0 ≤ h) && decide (h < nI nh))) && (decide (0 ≤ m) && decide (m ≤ 24))) && decide (¬ sm = 8)) = true then s_seen K sm h m else K) 99 8 o) 300 σ ds (nI (now % 12)) (nI (now / 12))) 310 τ es dt2 yr2) F O gl X)) := by
  refine zN.of (by decide +kernel) (Nat.le_of_ble_eq_true rfl) rfl ?_
  refine z_lv (lv' := [(0, .ref (A 99)), (1, .int h), (2, .int m)]) [0, 1, 2] rfl ?_
  have hA2 := hA.2.2.1
  have hV9 := hV
  have hv9 := hv
  obtain ⟨h0, hnh, h1, hnd, hown⟩ := hV9
  obtain ⟨lh, lg, fh, fg, st9, fa, hxv, ⟨mh, eh, ch, hlh, heh, hch1, hch2⟩, ⟨mg, eg, cg, hlg, heg, hcg1, hcg2⟩, hhs, hgs, hst9, hfa⟩ := hv9
  refine z_iload_n 1 dX1_see_0 rfl ?_
  refine z_iconst (v := zm1) dX1_see_1 (by decide) ?_
  refine z_icmp_eq 13 dX1_see_2 (by decide) (fun c_1 => ?_) (fun c_1 => ?_)
  · -- h = zm1
    refine z_iload_n 2 dX1_see_13 rfl ?_
    refine z_iconst (v := 0) dX1_see_14 (by decide) ?_
    refine z_bipush (v := 24) dX1_see_15 (by decide) ?_
    refine z_callS (As := [.int m, .int 0, .int 24]) (c_inn m 0 24) q1132 q1133 q112 q1134 nm_X1_in rfl (Nat.le_of_ble_eq_true rfl) ⟨Nat.le_of_ble_eq_true rfl, Nat.le_of_ble_eq_true rfl⟩ dX1_see_17 rfl rfl (Nat.le_of_ble_eq_true rfl) (Nat.le_of_ble_eq_true rfl) (fun v_2 X_3 hp_4 => ?_)
    obtain ⟨rfl, rfl⟩ := hp_4
    refine z_st (st' := [.int (zb (decide (0 ≤ m) && decide (m ≤ 24)))]) rfl ?_
    refine z_if_eqb 32 dX1_see_20 (by decide) (fun c_5 => ?_) (fun c_5 => ?_)
    · -- decide (0 ≤ m) && decide (m ≤ 24) = false
      refine z_iconst (v := 0) dX1_see_32 (by decide) ?_
      exact z_zret dX1_see_33 rfl (by first | rfl | decide | exact zb_nar _) (Nat.le_of_ble_eq_true rfl) (Nat.le_of_ble_eq_true rfl) (by have hB : (((decide (h = zm1) || (decide (0 ≤ h) && decide (h < nI nh))) && (decide (0 ≤ m) && decide (m ≤ 24))) && decide (¬ sm = 8)) = false := (by simp [c_1, c_5]); exact ⟨by rw [hB]; rfl, by rw [if_neg (by rw [hB]; decide)]⟩)
    · -- decide (0 ≤ m) && decide (m ≤ 24) = true
      refine z_aload_n 0 dX1_see_23 rfl ?_
      refine cz_get (v := .int (nI (sm))) 17 hA (by decide) q344 (congrArg (fun z => some (Value.int z)) hsm) dX1_see_24 ?_
      refine z_bipush (v := 8) dX1_see_27 (by decide) ?_
      refine z_icmp_neN (a := sm) (b := 8) 34 (by omega) (by omega) dX1_see_29 (by decide) (fun c_6 => ?_) (fun c_6 => ?_)
      · -- sm ≠ 8
        refine z_aload_n 0 dX1_see_34 rfl ?_
        refine cz_get (v := .ref (A 15)) 15 hA (by decide) q342 rfl dX1_see_35 ?_
        refine z_aload_n 0 dX1_see_38 rfl ?_
        refine cz_get (v := .int (nI (sm))) 17 hA (by decide) q344 (congrArg (fun z => some (Value.int z)) hsm) dX1_see_39 ?_
        refine z_iload_n 1 dX1_see_42 rfl ?_
        refine cz_iast (K' := (cput (cput (zs (zs K 99 8 o) 15 sm h) 300 σ ds (nI (now % 12)) (nI (now / 12))) 310 τ es dt2 yr2)) 15 sm hA (by unfold cia; omega) rfl (by have h9 : csz 15 = 8 := rfl; omega) (by rw [cput_zo (by omega), cput_zo (by omega)]) dX1_see_43 ?_
        refine z_aload_n 0 dX1_see_44 rfl ?_
        refine cz_get (v := .ref (A 16)) 16 hA (by decide) q343 rfl dX1_see_45 ?_
        refine z_aload_n 0 dX1_see_48 rfl ?_
        refine z_dup dX1_see_49 rfl ?_
        refine cz_get (v := .int (nI (sm))) 17 hA (by decide) q344 (congrArg (fun z => some (Value.int z)) hsm) dX1_see_50 ?_
        refine z_dup_x1 dX1_see_53 rfl rfl ?_
        refine z_iconst (v := 1) dX1_see_54 (by decide) ?_
        refine z_iaddN (a := sm) (b := 1) dX1_see_55 ?_
        refine cz_put (K' := (cput (cput (zs (zs (zs K 99 8 o) 15 sm h) 99 17 (nI (sm + 1))) 300 σ ds (nI (now % 12)) (nI (now / 12))) 310 τ es dt2 yr2)) 17 hA (by decide) q344 (by rw [cput_zo (by omega), cput_zo (by omega)]) dX1_see_56 ?_
        refine z_iload_n 2 dX1_see_59 rfl ?_
        refine cz_iast (K' := (cput (cput (zs (zs (zs (zs K 99 8 o) 15 sm h) 99 17 (nI (sm + 1))) 16 sm m) 300 σ ds (nI (now % 12)) (nI (now / 12))) 310 τ es dt2 yr2)) 16 sm hA (by unfold cia; omega) rfl (by have h9 : csz 16 = 8 := rfl; omega) (by rw [cput_zo (by omega), cput_zo (by omega)]) dX1_see_60 ?_
        refine z_iconst (v := 1) dX1_see_61 (by decide) ?_
        exact z_zret dX1_see_62 rfl (by first | rfl | decide | exact zb_nar _) (Nat.le_of_ble_eq_true rfl) (Nat.le_of_ble_eq_true rfl) (by have hB : (((decide (h = zm1) || (decide (0 ≤ h) && decide (h < nI nh))) && (decide (0 ≤ m) && decide (m ≤ 24))) && decide (¬ sm = 8)) = true := (by simp [c_1, c_5, c_6]); exact ⟨by rw [hB]; rfl, by rw [if_pos hB, ← s_seen_8]⟩)
      · -- sm = 8
        refine z_iconst (v := 0) dX1_see_32 (by decide) ?_
        exact z_zret dX1_see_33 rfl (by first | rfl | decide | exact zb_nar _) (Nat.le_of_ble_eq_true rfl) (Nat.le_of_ble_eq_true rfl) (by have hB : (((decide (h = zm1) || (decide (0 ≤ h) && decide (h < nI nh))) && (decide (0 ≤ m) && decide (m ≤ 24))) && decide (¬ sm = 8)) = false := (by simp [c_1, c_5, c_6]); exact ⟨by rw [hB]; rfl, by rw [if_neg (by rw [hB]; decide)]⟩)
  · -- ¬ h = zm1
    refine z_aload_n 0 dX1_see_5 rfl ?_
    refine z_iload_n 1 dX1_see_6 rfl ?_
    refine z_callV (As := [.int h]) (c_isHouse (K := (cput (cput (zs K 99 8 o) 300 σ ds (nI (now % 12)) (nI (now / 12))) 310 τ es dt2 yr2)) (F := F) (gl := gl) hA hO hxv hlh heh hch1 hch2 hlg heg hcg1 hcg2 (by omega) h) q1123 q1125 qs27 q112 q1126 nm_X1_isHouse (cX_obj hA) rfl rfl rfl (Nat.le_of_ble_eq_true rfl) ⟨Nat.le_of_ble_eq_true rfl, Nat.le_of_ble_eq_true rfl⟩ dX1_see_7 rfl rfl (Nat.le_of_ble_eq_true rfl) (Nat.le_of_ble_eq_true rfl) (fun v_7 X_8 hp_9 => ?_)
    obtain ⟨rfl, rfl⟩ := hp_9
    refine z_st (st' := [.int (zb (decide (0 ≤ h) && decide (h < nI nh)))]) rfl ?_
    refine z_if_eqb 32 dX1_see_10 (by decide) (fun c_10 => ?_) (fun c_10 => ?_)
    · -- decide (0 ≤ h) && decide (h < nI nh) = false
      refine z_iconst (v := 0) dX1_see_32 (by decide) ?_
      exact z_zret dX1_see_33 rfl (by first | rfl | decide | exact zb_nar _) (Nat.le_of_ble_eq_true rfl) (Nat.le_of_ble_eq_true rfl) (by have hB : (((decide (h = zm1) || (decide (0 ≤ h) && decide (h < nI nh))) && (decide (0 ≤ m) && decide (m ≤ 24))) && decide (¬ sm = 8)) = false := (by simp [c_1, c_10]); exact ⟨by rw [hB]; rfl, by rw [if_neg (by rw [hB]; decide)]⟩)
    · -- decide (0 ≤ h) && decide (h < nI nh) = true
      refine z_iload_n 2 dX1_see_13 rfl ?_
      refine z_iconst (v := 0) dX1_see_14 (by decide) ?_
      refine z_bipush (v := 24) dX1_see_15 (by decide) ?_
      refine z_callS (As := [.int m, .int 0, .int 24]) (c_inn m 0 24) q1132 q1133 q112 q1134 nm_X1_in rfl (Nat.le_of_ble_eq_true rfl) ⟨Nat.le_of_ble_eq_true rfl, Nat.le_of_ble_eq_true rfl⟩ dX1_see_17 rfl rfl (Nat.le_of_ble_eq_true rfl) (Nat.le_of_ble_eq_true rfl) (fun v_11 X_12 hp_13 => ?_)
      obtain ⟨rfl, rfl⟩ := hp_13
      refine z_st (st' := [.int (zb (decide (0 ≤ m) && decide (m ≤ 24)))]) rfl ?_
      refine z_if_eqb 32 dX1_see_20 (by decide) (fun c_14 => ?_) (fun c_14 => ?_)
      · -- decide (0 ≤ m) && decide (m ≤ 24) = false
        refine z_iconst (v := 0) dX1_see_32 (by decide) ?_
        exact z_zret dX1_see_33 rfl (by first | rfl | decide | exact zb_nar _) (Nat.le_of_ble_eq_true rfl) (Nat.le_of_ble_eq_true rfl) (by have hB : (((decide (h = zm1) || (decide (0 ≤ h) && decide (h < nI nh))) && (decide (0 ≤ m) && decide (m ≤ 24))) && decide (¬ sm = 8)) = false := (by simp [c_1, c_10, c_14]); exact ⟨by rw [hB]; rfl, by rw [if_neg (by rw [hB]; decide)]⟩)
      · -- decide (0 ≤ m) && decide (m ≤ 24) = true
        refine z_aload_n 0 dX1_see_23 rfl ?_
        refine cz_get (v := .int (nI (sm))) 17 hA (by decide) q344 (congrArg (fun z => some (Value.int z)) hsm) dX1_see_24 ?_
        refine z_bipush (v := 8) dX1_see_27 (by decide) ?_
        refine z_icmp_neN (a := sm) (b := 8) 34 (by omega) (by omega) dX1_see_29 (by decide) (fun c_15 => ?_) (fun c_15 => ?_)
        · -- sm ≠ 8
          refine z_aload_n 0 dX1_see_34 rfl ?_
          refine cz_get (v := .ref (A 15)) 15 hA (by decide) q342 rfl dX1_see_35 ?_
          refine z_aload_n 0 dX1_see_38 rfl ?_
          refine cz_get (v := .int (nI (sm))) 17 hA (by decide) q344 (congrArg (fun z => some (Value.int z)) hsm) dX1_see_39 ?_
          refine z_iload_n 1 dX1_see_42 rfl ?_
          refine cz_iast (K' := (cput (cput (zs (zs K 99 8 o) 15 sm h) 300 σ ds (nI (now % 12)) (nI (now / 12))) 310 τ es dt2 yr2)) 15 sm hA (by unfold cia; omega) rfl (by have h9 : csz 15 = 8 := rfl; omega) (by rw [cput_zo (by omega), cput_zo (by omega)]) dX1_see_43 ?_
          refine z_aload_n 0 dX1_see_44 rfl ?_
          refine cz_get (v := .ref (A 16)) 16 hA (by decide) q343 rfl dX1_see_45 ?_
          refine z_aload_n 0 dX1_see_48 rfl ?_
          refine z_dup dX1_see_49 rfl ?_
          refine cz_get (v := .int (nI (sm))) 17 hA (by decide) q344 (congrArg (fun z => some (Value.int z)) hsm) dX1_see_50 ?_
          refine z_dup_x1 dX1_see_53 rfl rfl ?_
          refine z_iconst (v := 1) dX1_see_54 (by decide) ?_
          refine z_iaddN (a := sm) (b := 1) dX1_see_55 ?_
          refine cz_put (K' := (cput (cput (zs (zs (zs K 99 8 o) 15 sm h) 99 17 (nI (sm + 1))) 300 σ ds (nI (now % 12)) (nI (now / 12))) 310 τ es dt2 yr2)) 17 hA (by decide) q344 (by rw [cput_zo (by omega), cput_zo (by omega)]) dX1_see_56 ?_
          refine z_iload_n 2 dX1_see_59 rfl ?_
          refine cz_iast (K' := (cput (cput (zs (zs (zs (zs K 99 8 o) 15 sm h) 99 17 (nI (sm + 1))) 16 sm m) 300 σ ds (nI (now % 12)) (nI (now / 12))) 310 τ es dt2 yr2)) 16 sm hA (by unfold cia; omega) rfl (by have h9 : csz 16 = 8 := rfl; omega) (by rw [cput_zo (by omega), cput_zo (by omega)]) dX1_see_60 ?_
          refine z_iconst (v := 1) dX1_see_61 (by decide) ?_
          exact z_zret dX1_see_62 rfl (by first | rfl | decide | exact zb_nar _) (Nat.le_of_ble_eq_true rfl) (Nat.le_of_ble_eq_true rfl) (by have hB : (((decide (h = zm1) || (decide (0 ≤ h) && decide (h < nI nh))) && (decide (0 ≤ m) && decide (m ≤ 24))) && decide (¬ sm = 8)) = true := (by simp [c_1, c_10, c_14, c_15]); exact ⟨by rw [hB]; rfl, by rw [if_pos hB, ← s_seen_8]⟩)
        · -- sm = 8
          refine z_iconst (v := 0) dX1_see_32 (by decide) ?_
          exact z_zret dX1_see_33 rfl (by first | rfl | decide | exact zb_nar _) (Nat.le_of_ble_eq_true rfl) (Nat.le_of_ble_eq_true rfl) (by have hB : (((decide (h = zm1) || (decide (0 ≤ h) && decide (h < nI nh))) && (decide (0 ≤ m) && decide (m ≤ 24))) && decide (¬ sm = 8)) = false := (by simp [c_1, c_10, c_14, c_15]); exact ⟨by rw [hB]; rfl, by rw [if_neg (by rw [hB]; decide)]⟩)
