/-! THE MODEL: all cut. Printed by t24.py -/
set_option maxRecDepth 100000
set_option maxHeartbeats 4000000 in
theorem t_cutAll {g : zG} {L : Nat → Nat} {I : Nat → Nat → Int32} {J : Nat → Nat → Int64} {Gb : Nat → Nat → Int32} {X : zX} (hL : tok g L) {n : Nat} (hn : I 99 2 = nI n) (hn2 : n ≤ 1000) : zN g m_X5_cutAll ({ frames := 2, cells := 0, slots := 0, locals := 40 } : Room) [.ref (L 99)] (tX g L I J Gb X) (fun rv X' => rv = none ∧ ∃ (S P : Nat → Int32) (V : Nat → Int64) (m : Nat), X' = tX g L (zs (zs (s_cw I n S P) 99 7 0) 99 8 0) (s_jw J V) Gb X ∧ s_cut (I 1) n S P V m ∧ s_fr (I 1) n m = n ∧ S m = 0 ∧ P m = nI n ∧ m ≤ n) := by
  refine zN.of (by decide +kernel) (Nat.le_of_ble_eq_true rfl) rfl ?_
  refine z_lv (lv' := [(0, .ref (L 99))]) [0] rfl ?_
  refine z_aload_n 0 dX5_cutAll_0 rfl ?_
  refine z_aload_n 0 dX5_cutAll_1 rfl ?_
  refine tz_get (v := .int (nI (n))) 2 hL (by decide) q1595 (congrArg (fun z => some (Value.int z)) hn) dX5_cutAll_2 ?_
  refine tz_put (I' := (zs I 99 3 (nI (n)))) 3 hL (by decide) q1596 rfl dX5_cutAll_5 ?_
  refine z_aload_n 0 dX5_cutAll_8 rfl ?_
  refine z_iconst (v := 0) dX5_cutAll_9 (by decide) ?_
  refine tz_put (I' := (zs (zs I 99 3 (nI (n))) 99 2 0)) 2 hL (by decide) q1595 rfl dX5_cutAll_10 ?_
  refine z_X (X' := (tX g L (s_cw I n (I 4) (I 5)) (s_jw J (J 6)) Gb X)) (by rw [s_cw_self, s_jw_self]) ?_
  refine z_iconst (v := 0) dX5_cutAll_13 (by decide) ?_
  refine z_istore_n (lv' := [(1, .int 0), (0, .ref (L 99))]) dX5_cutAll_14 rfl (by decide) rfl ?_
  refine z_iconst (v := 0) dX5_cutAll_15 (by decide) ?_
  refine z_istore_n (lv' := [(2, .int 0), (1, .int 0), (0, .ref (L 99))]) dX5_cutAll_16 rfl (by decide) rfl ?_
  have loop_4 : ∀ (q_1 : Nat) (k_5 : Nat) (i_6 : Nat) (S_7 : Nat → Int32) (P_8 : Nat → Int32) (V_9 : Nat → Int64), (k_5 ≤ n) → (i_6 ≤ k_5) → (s_to s_bl (I 1) n k_5 = s_fr (I 1) n i_6) → (s_cut (I 1) n S_7 P_8 V_9 i_6) → n - k_5 < q_1 → zZ g m_X5_cutAll (fun rv X' => rv = none ∧ ∃ (S P : Nat → Int32) (V : Nat → Int64) (m : Nat), X' = tX g L (zs (zs (s_cw I n S P) 99 7 0) 99 8 0) (s_jw J V) Gb X ∧ s_cut (I 1) n S P V m ∧ s_fr (I 1) n m = n ∧ S m = 0 ∧ P m = nI n ∧ m ≤ n, zno, ({ frames := 2, cells := 0, slots := 0, locals := 40 } : Room)) 0 0 (tX g L (s_cw I n S_7 P_8) (s_jw J V_9) Gb X) 17 [(0, .ref (L 99)), (1, .int (nI (i_6))), (2, .int (nI (k_5)))] [] := by
    intro q_1
    induction q_1 with
    | zero => intro k_5 i_6 S_7 P_8 V_9 hk_10 hi_11 hs_12 hc_13 hm_3; exact absurd hm_3 (Nat.not_lt_zero _)
    | succ q_1 ih_2 =>
      intro k_5 i_6 S_7 P_8 V_9 hk_10 hi_11 hs_12 hc_13 hm_3
      refine z_iload_n 2 dX5_cutAll_17 rfl ?_
      refine z_aload_n 0 dX5_cutAll_18 rfl ?_
      refine tz_get (v := .int (nI (n))) 3 hL (by decide) q1596 rfl dX5_cutAll_19 ?_
      refine z_icmp_geN (a := k_5) (b := n) 279 (by omega) (by omega) dX5_cutAll_22 (by decide) (fun c_14 => ?_) (fun c_14 => ?_)
      · -- n ≤ k_5
        refine z_aload_n 0 dX5_cutAll_279 rfl ?_
        refine tz_get (v := .ref (L 4)) 4 hL (by decide) q1597 rfl dX5_cutAll_280 ?_
        refine z_iload_n 1 dX5_cutAll_283 rfl ?_
        refine z_iconst (v := 0) dX5_cutAll_284 (by decide) ?_
        refine tz_iast 4 (i_6) hL (by decide) rfl (by show i_6 < 1002; omega) rfl dX5_cutAll_285 ?_
        refine z_aload_n 0 dX5_cutAll_286 rfl ?_
        refine tz_get (v := .ref (L 5)) 5 hL (by decide) q1598 rfl dX5_cutAll_287 ?_
        refine z_iload_n 1 dX5_cutAll_290 rfl ?_
        refine z_aload_n 0 dX5_cutAll_291 rfl ?_
        refine tz_get (v := .int (nI (n))) 3 hL (by decide) q1596 rfl dX5_cutAll_292 ?_
        refine tz_iast 5 (i_6) hL (by decide) rfl (by show i_6 < 1002; omega) rfl dX5_cutAll_295 ?_
        refine z_aload_n 0 dX5_cutAll_296 rfl ?_
        refine z_iconst (v := 0) dX5_cutAll_297 (by decide) ?_
        refine tz_put (I' := (zs (zs (zs (s_cw I n S_7 P_8) 4 i_6 0) 5 i_6 (nI (n))) 99 7 0)) 7 hL (by decide) q1600 rfl dX5_cutAll_298 ?_
        refine z_aload_n 0 dX5_cutAll_301 rfl ?_
        refine z_iconst (v := 0) dX5_cutAll_302 (by decide) ?_
        refine tz_put (I' := (zs (zs (zs (zs (s_cw I n S_7 P_8) 4 i_6 0) 5 i_6 (nI (n))) 99 7 0) 99 8 0)) 8 hL (by decide) q1601 rfl dX5_cutAll_303 ?_
        exact z_vret dX5_cutAll_306 rfl (Nat.le_of_ble_eq_true rfl) (Nat.le_of_ble_eq_true rfl) ⟨rfl, zs1 S_7 i_6 0, zs1 P_8 i_6 (nI n), V_9, i_6, by rw [s_cw_4, s_cw_5], s_cut_x hc_13, hs_12.symm.trans ((s_to_e c_14).trans (by omega)), zs1_s, zs1_s, by omega⟩
      · -- k_5 < n
        refine z_aload_n 0 dX5_cutAll_25 rfl ?_
        refine tz_get (v := .ref (L 1)) 1 hL (by decide) q1594 rfl dX5_cutAll_26 ?_
        refine z_iload_n 2 dX5_cutAll_29 rfl ?_
        refine tz_iald (v := I 1 k_5) 1 (k_5) hL (by decide) rfl (by show k_5 < 1000; omega) rfl dX5_cutAll_30 ?_
        refine z_istore_n (lv' := [(3, .int (I 1 k_5)), (0, .ref (L 99)), (1, .int (nI (i_6))), (2, .int (nI (k_5)))]) dX5_cutAll_31 rfl (by decide) rfl ?_
        refine z_iload_n 0 dX5_cutAll_32 rfl ?_
        refine z_bipush (v := 10) dX5_cutAll_33 (by decide) ?_
        refine z_icmp_eq 44 dX5_cutAll_35 (by decide) (fun c_15 => ?_) (fun c_15 => ?_)
        · -- I 1 k_5 = 10
          refine z_iinc (v := nI (k_5 + 1)) (lv' := [(2, .int (nI (k_5 + 1))), (3, .int (I 1 k_5)), (0, .ref (L 99)), (1, .int (nI (i_6)))]) 3 dX5_cutAll_44 rfl (nI_1 _) (by decide) rfl ?_
          refine z_goto 17 dX5_cutAll_47 (by decide) ?_
          refine z_lv (lv' := [(0, .ref (L 99)), (1, .int (nI (i_6))), (2, .int (nI (k_5 + 1)))]) [2, 3, 0] rfl ?_
          exact ih_2 (k_5 + 1) i_6 S_7 P_8 V_9 (by omega) (by omega) ((s_to_t (by omega) (show s_bl (I 1 k_5) = true by simp [s_bl, c_15])).symm.trans hs_12) hc_13 (by omega)
        · -- ¬ I 1 k_5 = 10
          refine z_iload_n 0 dX5_cutAll_38 rfl ?_
          refine z_bipush (v := 32) dX5_cutAll_39 (by decide) ?_
          refine z_icmp_ne 50 dX5_cutAll_41 (by decide) (fun c_16 => ?_) (fun c_16 => ?_)
          · -- ¬ I 1 k_5 = 32
            have hk0 : s_fr (I 1) n i_6 = k_5 := hs_12.symm.trans (s_to_f (show s_bl (I 1 k_5) = false by simp [s_bl, c_15, c_16]))
            have hkn : k_5 < n := by omega
            refine z_iload_n 3 dX5_cutAll_50 rfl ?_
            refine z_istore (lv' := [(4, .int (nI (k_5))), (3, .int (I 1 k_5)), (0, .ref (L 99)), (1, .int (nI (i_6))), (2, .int (nI (k_5)))]) dX5_cutAll_51 (by decide) rfl ?_
            refine z_lconst (v := 0) dX5_cutAll_53 (by decide) ?_
            refine z_lstore (lv' := [(5, .long 0), (4, .int (nI (k_5))), (3, .int (I 1 k_5)), (0, .ref (L 99)), (1, .int (nI (i_6))), (2, .int (nI (k_5)))]) dX5_cutAll_54 (by decide) rfl ?_
            refine z_aload_n 3 dX5_cutAll_56 rfl ?_
            refine tz_get (v := .ref (L 5)) 5 hL (by decide) q1598 rfl dX5_cutAll_57 ?_
            refine z_iload_n 4 dX5_cutAll_60 rfl ?_
            refine z_iload_n 5 dX5_cutAll_61 rfl ?_
            refine tz_iast 5 (i_6) hL (by decide) rfl (by show i_6 < 1002; omega) rfl dX5_cutAll_62 ?_
            refine z_iload_n 2 dX5_cutAll_63 rfl ?_
            refine z_callS (As := [.int (I 1 k_5)]) (t_isLetter (I 1 k_5)) q1700 q1701 q121 q1702 nm_X5_isLetter rfl (Nat.le_of_ble_eq_true rfl) ⟨Nat.le_of_ble_eq_true rfl, Nat.le_of_ble_eq_true rfl⟩ dX5_cutAll_64 rfl rfl (Nat.le_of_ble_eq_true rfl) (Nat.le_of_ble_eq_true rfl) (fun v_17 X_18 hp_19 => ?_)
            obtain ⟨rfl, rfl⟩ := hp_19
            refine z_st (st' := [.int (zb (decide (97 ≤ I 1 k_5) && decide (I 1 k_5 ≤ 122)))]) rfl ?_
            refine z_if_eqb 152 dX5_cutAll_67 (by decide) (fun c_20 => ?_) (fun c_20 => ?_)
            · -- decide (97 ≤ I 1 k_5) && decide (I 1 k_5 ≤ 122) = false
              refine z_iload_n 2 dX5_cutAll_152 rfl ?_
              refine z_callS (As := [.int (I 1 k_5)]) (t_isDigit (I 1 k_5)) q1707 q1708 q121 q1709 nm_X5_isDigit rfl (Nat.le_of_ble_eq_true rfl) ⟨Nat.le_of_ble_eq_true rfl, Nat.le_of_ble_eq_true rfl⟩ dX5_cutAll_153 rfl rfl (Nat.le_of_ble_eq_true rfl) (Nat.le_of_ble_eq_true rfl) (fun v_21 X_22 hp_23 => ?_)
              obtain ⟨rfl, rfl⟩ := hp_23
              refine z_st (st' := [.int (zb (decide (48 ≤ I 1 k_5) && decide (I 1 k_5 ≤ 57)))]) rfl ?_
              refine z_if_eqb 240 dX5_cutAll_156 (by decide) (fun c_24 => ?_) (fun c_24 => ?_)
              · -- decide (48 ≤ I 1 k_5) && decide (I 1 k_5 ≤ 57) = false
                refine z_iload_n 2 dX5_cutAll_240 rfl ?_
                refine z_i2l (v := (I 1 k_5).toInt64) dX5_cutAll_241 rfl ?_
                refine z_lstore (lv' := [(5, .long ((I 1 k_5).toInt64)), (4, .int (nI (k_5))), (3, .int (I 1 k_5)), (0, .ref (L 99)), (1, .int (nI (i_6))), (2, .int (nI (k_5)))]) dX5_cutAll_242 (by decide) rfl ?_
                refine z_aload_n 3 dX5_cutAll_244 rfl ?_
                refine tz_get (v := .ref (L 4)) 4 hL (by decide) q1597 rfl dX5_cutAll_245 ?_
                refine z_iload_n 4 dX5_cutAll_248 rfl ?_
                refine z_iload_n 2 dX5_cutAll_249 rfl ?_
                refine z_callS (As := [.int (I 1 k_5)]) (t_isSignOf (I 1 k_5)) q1712 q1713 q121 q1714 nm_X5_isSignOf rfl (Nat.le_of_ble_eq_true rfl) ⟨Nat.le_of_ble_eq_true rfl, Nat.le_of_ble_eq_true rfl⟩ dX5_cutAll_250 rfl rfl (Nat.le_of_ble_eq_true rfl) (Nat.le_of_ble_eq_true rfl) (fun v_25 X_26 hp_27 => ?_)
                obtain ⟨rfl, rfl⟩ := hp_27
                refine z_st (st' := [.int (zb (s_sgn (I 1 k_5))), .int (nI (i_6)), .ref (L 4)]) rfl ?_
                refine z_if_eqb 260 dX5_cutAll_253 (by decide) (fun c_28 => ?_) (fun c_28 => ?_)
                · -- s_sgn (I 1 k_5) = false
                  refine z_iconst (v := 4) dX5_cutAll_260 (by decide) ?_
                  refine tz_iast 4 (i_6) hL (by decide) rfl (by show i_6 < 1002; omega) rfl dX5_cutAll_261 ?_
                  refine z_iinc (v := nI (k_5 + 1)) (lv' := [(2, .int (nI (k_5 + 1))), (5, .long ((I 1 k_5).toInt64)), (4, .int (nI (k_5))), (3, .int (I 1 k_5)), (0, .ref (L 99)), (1, .int (nI (i_6)))]) 5 dX5_cutAll_262 rfl (nI_1 _) (by decide) rfl ?_
                  have h1 : s_le (I 1 k_5) = false := c_20
                  have h2 : s_di (I 1 k_5) = false := c_24
                  have he : s_end (I 1) n k_5 = k_5 + 1 := by unfold s_end; rw [h1, h2]; rfl
                  have hx : (4 : Int32) = s_kd (I 1) n k_5 := by unfold s_kd; rw [if_pos hkn, h1, h2, c_28]; rfl
                  have hy : (I 1 k_5).toInt64 = s_vl (I 1) n k_5 := by unfold s_vl; rw [h1, h2]; rfl
                  have heb := (s_end_b (t := I 1) hkn).1
                  rw [he] at heb
                  refine z_aload_n 4 dX5_cutAll_265 rfl ?_
                  refine tz_get (v := .ref (L 6)) 6 hL (by decide) q1599 rfl dX5_cutAll_266 ?_
                  refine z_iload_n 5 dX5_cutAll_269 rfl ?_
                  refine z_lload 1 dX5_cutAll_270 rfl ?_
                  refine tz_last 6 (i_6) hL (by decide) rfl (by show i_6 < 1002; omega) rfl dX5_cutAll_272 ?_
                  refine z_iinc (v := nI (i_6 + 1)) (lv' := [(1, .int (nI (i_6 + 1))), (2, .int (nI (k_5 + 1))), (5, .long ((I 1 k_5).toInt64)), (4, .int (nI (k_5))), (3, .int (I 1 k_5)), (0, .ref (L 99))]) 5 dX5_cutAll_273 rfl (nI_1 _) (by decide) rfl ?_
                  refine z_goto 17 dX5_cutAll_276 (by decide) ?_
                  refine z_lv (lv' := [(0, .ref (L 99)), (1, .int (nI (i_6 + 1))), (2, .int (nI (k_5 + 1)))]) [5, 0, 1] rfl ?_
                  refine z_X (X' := (tX g L (s_cw I n (zs1 S_7 i_6 4) (zs1 P_8 i_6 (nI k_5))) (s_jw J (zs1 V_9 i_6 ((I 1 k_5).toInt64))) Gb X)) (by rw [s_cw_5, s_cw_4, s_jw_1]) ?_
                  exact ih_2 (k_5 + 1) (i_6 + 1) (zs1 S_7 i_6 4) (zs1 P_8 i_6 (nI k_5)) (zs1 V_9 i_6 ((I 1 k_5).toInt64)) (by omega) (by omega) ((congrArg (s_to s_bl (I 1) n) he).symm.trans (s_fr_1 hk0).symm) (s_cut_1 hc_13 hk0 (by omega) hx hy) (by omega)
                · -- s_sgn (I 1 k_5) = true
                  refine z_iconst (v := 3) dX5_cutAll_256 (by decide) ?_
                  refine z_goto 261 dX5_cutAll_257 (by decide) ?_
                  refine tz_iast 4 (i_6) hL (by decide) rfl (by show i_6 < 1002; omega) rfl dX5_cutAll_261 ?_
                  refine z_iinc (v := nI (k_5 + 1)) (lv' := [(2, .int (nI (k_5 + 1))), (5, .long ((I 1 k_5).toInt64)), (4, .int (nI (k_5))), (3, .int (I 1 k_5)), (0, .ref (L 99)), (1, .int (nI (i_6)))]) 5 dX5_cutAll_262 rfl (nI_1 _) (by decide) rfl ?_
                  have h1 : s_le (I 1 k_5) = false := c_20
                  have h2 : s_di (I 1 k_5) = false := c_24
                  have he : s_end (I 1) n k_5 = k_5 + 1 := by unfold s_end; rw [h1, h2]; rfl
                  have hx : (3 : Int32) = s_kd (I 1) n k_5 := by unfold s_kd; rw [if_pos hkn, h1, h2, c_28]; rfl
                  have hy : (I 1 k_5).toInt64 = s_vl (I 1) n k_5 := by unfold s_vl; rw [h1, h2]; rfl
                  have heb := (s_end_b (t := I 1) hkn).1
                  rw [he] at heb
                  refine z_aload_n 4 dX5_cutAll_265 rfl ?_
                  refine tz_get (v := .ref (L 6)) 6 hL (by decide) q1599 rfl dX5_cutAll_266 ?_
                  refine z_iload_n 5 dX5_cutAll_269 rfl ?_
                  refine z_lload 1 dX5_cutAll_270 rfl ?_
                  refine tz_last 6 (i_6) hL (by decide) rfl (by show i_6 < 1002; omega) rfl dX5_cutAll_272 ?_
                  refine z_iinc (v := nI (i_6 + 1)) (lv' := [(1, .int (nI (i_6 + 1))), (2, .int (nI (k_5 + 1))), (5, .long ((I 1 k_5).toInt64)), (4, .int (nI (k_5))), (3, .int (I 1 k_5)), (0, .ref (L 99))]) 5 dX5_cutAll_273 rfl (nI_1 _) (by decide) rfl ?_
                  refine z_goto 17 dX5_cutAll_276 (by decide) ?_
                  refine z_lv (lv' := [(0, .ref (L 99)), (1, .int (nI (i_6 + 1))), (2, .int (nI (k_5 + 1)))]) [5, 0, 1] rfl ?_
                  refine z_X (X' := (tX g L (s_cw I n (zs1 S_7 i_6 3) (zs1 P_8 i_6 (nI k_5))) (s_jw J (zs1 V_9 i_6 ((I 1 k_5).toInt64))) Gb X)) (by rw [s_cw_5, s_cw_4, s_jw_1]) ?_
                  exact ih_2 (k_5 + 1) (i_6 + 1) (zs1 S_7 i_6 3) (zs1 P_8 i_6 (nI k_5)) (zs1 V_9 i_6 ((I 1 k_5).toInt64)) (by omega) (by omega) ((congrArg (s_to s_bl (I 1) n) he).symm.trans (s_fr_1 hk0).symm) (s_cut_1 hc_13 hk0 (by omega) hx hy) (by omega)
              · -- decide (48 ≤ I 1 k_5) && decide (I 1 k_5 ≤ 57) = true
                have loop_32 : ∀ (q_29 : Nat) (m_33 : Nat), (k_5 ≤ m_33) → (m_33 ≤ n) → (s_to s_di (I 1) n k_5 = s_to s_di (I 1) n m_33) → n - m_33 < q_29 → zZ g m_X5_cutAll (fun rv X' => rv = none ∧ ∃ (S P : Nat → Int32) (V : Nat → Int64) (m : Nat), X' = tX g L (zs (zs (s_cw I n S P) 99 7 0) 99 8 0) (s_jw J V) Gb X ∧ s_cut (I 1) n S P V m ∧ s_fr (I 1) n m = n ∧ S m = 0 ∧ P m = nI n ∧ m ≤ n, zno, ({ frames := 2, cells := 0, slots := 0, locals := 40 } : Room)) 0 0 (tX g L (zs (s_cw I n S_7 P_8) 5 i_6 (nI (k_5))) (s_jw J V_9) Gb X) 159 [(0, .ref (L 99)), (1, .int (nI (i_6))), (2, .int (nI (m_33))), (3, .int (I 1 k_5)), (4, .int (nI (k_5))), (5, .long (s_w10 (I 1) k_5 (m_33 - k_5)))] [] := by
                  intro q_29
                  induction q_29 with
                  | zero => intro m_33 h1_34 h2_35 hr_36 hm_31; exact absurd hm_31 (Nat.not_lt_zero _)
                  | succ q_29 ih_30 =>
                    intro m_33 h1_34 h2_35 hr_36 hm_31
                    refine z_iload_n 2 dX5_cutAll_159 rfl ?_
                    refine z_aload_n 0 dX5_cutAll_160 rfl ?_
                    refine tz_get (v := .int (nI (n))) 3 hL (by decide) q1596 rfl dX5_cutAll_161 ?_
                    refine z_icmp_geN (a := m_33) (b := n) 218 (by omega) (by omega) dX5_cutAll_164 (by decide) (fun c_37 => ?_) (fun c_37 => ?_)
                    · -- n ≤ m_33
                      have he : s_end (I 1) n k_5 = m_33 := ((if_neg (by rw [show s_le (I 1 k_5) = false from c_20]; decide)).trans (if_pos c_24)).trans (hr_36.trans (s_to_e c_37))
                      refine z_aload_n 0 dX5_cutAll_218 rfl ?_
                      refine tz_get (v := .ref (L 4)) 4 hL (by decide) q1597 rfl dX5_cutAll_219 ?_
                      refine z_iload_n 1 dX5_cutAll_222 rfl ?_
                      refine z_iload_n 2 dX5_cutAll_223 rfl ?_
                      refine z_iload 4 dX5_cutAll_224 rfl ?_
                      refine z_isubN (a := m_33) (b := k_5) (by omega) dX5_cutAll_226 ?_
                      refine z_iconst (v := 4) dX5_cutAll_227 (by decide) ?_
                      refine z_icmp_leN (a := (m_33 - k_5)) (b := 4) 235 (by omega) (by omega) dX5_cutAll_228 (by decide) (fun c_38 => ?_) (fun c_38 => ?_)
                      · -- (m_33 - k_5) ≤ 4
                        refine z_iconst (v := 2) dX5_cutAll_235 (by decide) ?_
                        refine tz_iast 4 (i_6) hL (by decide) rfl (by show i_6 < 1002; omega) rfl dX5_cutAll_236 ?_
                        refine z_goto 265 dX5_cutAll_237 (by decide) ?_
                        have h1 : s_le (I 1 k_5) = false := c_20
                        have h2 : s_di (I 1 k_5) = true := c_24
                        have hx : (2 : Int32) = s_kd (I 1) n k_5 := by unfold s_kd; rw [if_pos hkn, h1, h2, he]; simp [Nat.not_lt.mpr c_38]
                        have hy : s_w10 (I 1) k_5 (m_33 - k_5) = s_vl (I 1) n k_5 := by unfold s_vl; rw [h1, h2, he]; rfl
                        have heb := (s_end_b (t := I 1) hkn).1
                        rw [he] at heb
                        refine z_aload_n 0 dX5_cutAll_265 rfl ?_
                        refine tz_get (v := .ref (L 6)) 6 hL (by decide) q1599 rfl dX5_cutAll_266 ?_
                        refine z_iload_n 1 dX5_cutAll_269 rfl ?_
                        refine z_lload 5 dX5_cutAll_270 rfl ?_
                        refine tz_last 6 (i_6) hL (by decide) rfl (by show i_6 < 1002; omega) rfl dX5_cutAll_272 ?_
                        refine z_iinc (v := nI (i_6 + 1)) (lv' := [(1, .int (nI (i_6 + 1))), (0, .ref (L 99)), (2, .int (nI (m_33))), (3, .int (I 1 k_5)), (4, .int (nI (k_5))), (5, .long (s_w10 (I 1) k_5 (m_33 - k_5)))]) 1 dX5_cutAll_273 rfl (nI_1 _) (by decide) rfl ?_
                        refine z_goto 17 dX5_cutAll_276 (by decide) ?_
                        refine z_lv (lv' := [(0, .ref (L 99)), (1, .int (nI (i_6 + 1))), (2, .int (nI (m_33)))]) [1, 0, 2] rfl ?_
                        refine z_X (X' := (tX g L (s_cw I n (zs1 S_7 i_6 2) (zs1 P_8 i_6 (nI k_5))) (s_jw J (zs1 V_9 i_6 (s_w10 (I 1) k_5 (m_33 - k_5)))) Gb X)) (by rw [s_cw_5, s_cw_4, s_jw_1]) ?_
                        exact ih_2 m_33 (i_6 + 1) (zs1 S_7 i_6 2) (zs1 P_8 i_6 (nI k_5)) (zs1 V_9 i_6 (s_w10 (I 1) k_5 (m_33 - k_5))) (by omega) (by omega) ((congrArg (s_to s_bl (I 1) n) he).symm.trans (s_fr_1 hk0).symm) (s_cut_1 hc_13 hk0 (by omega) hx hy) (by omega)
                      · -- 4 < (m_33 - k_5)
                        refine z_iconst (v := 4) dX5_cutAll_231 (by decide) ?_
                        refine z_goto 236 dX5_cutAll_232 (by decide) ?_
                        refine tz_iast 4 (i_6) hL (by decide) rfl (by show i_6 < 1002; omega) rfl dX5_cutAll_236 ?_
                        refine z_goto 265 dX5_cutAll_237 (by decide) ?_
                        have h1 : s_le (I 1 k_5) = false := c_20
                        have h2 : s_di (I 1 k_5) = true := c_24
                        have hx : (4 : Int32) = s_kd (I 1) n k_5 := by unfold s_kd; rw [if_pos hkn, h1, h2, he]; simp [c_38]
                        have hy : s_w10 (I 1) k_5 (m_33 - k_5) = s_vl (I 1) n k_5 := by unfold s_vl; rw [h1, h2, he]; rfl
                        have heb := (s_end_b (t := I 1) hkn).1
                        rw [he] at heb
                        refine z_aload_n 0 dX5_cutAll_265 rfl ?_
                        refine tz_get (v := .ref (L 6)) 6 hL (by decide) q1599 rfl dX5_cutAll_266 ?_
                        refine z_iload_n 1 dX5_cutAll_269 rfl ?_
                        refine z_lload 5 dX5_cutAll_270 rfl ?_
                        refine tz_last 6 (i_6) hL (by decide) rfl (by show i_6 < 1002; omega) rfl dX5_cutAll_272 ?_
                        refine z_iinc (v := nI (i_6 + 1)) (lv' := [(1, .int (nI (i_6 + 1))), (0, .ref (L 99)), (2, .int (nI (m_33))), (3, .int (I 1 k_5)), (4, .int (nI (k_5))), (5, .long (s_w10 (I 1) k_5 (m_33 - k_5)))]) 1 dX5_cutAll_273 rfl (nI_1 _) (by decide) rfl ?_
                        refine z_goto 17 dX5_cutAll_276 (by decide) ?_
                        refine z_lv (lv' := [(0, .ref (L 99)), (1, .int (nI (i_6 + 1))), (2, .int (nI (m_33)))]) [1, 0, 2] rfl ?_
                        refine z_X (X' := (tX g L (s_cw I n (zs1 S_7 i_6 4) (zs1 P_8 i_6 (nI k_5))) (s_jw J (zs1 V_9 i_6 (s_w10 (I 1) k_5 (m_33 - k_5)))) Gb X)) (by rw [s_cw_5, s_cw_4, s_jw_1]) ?_
                        exact ih_2 m_33 (i_6 + 1) (zs1 S_7 i_6 4) (zs1 P_8 i_6 (nI k_5)) (zs1 V_9 i_6 (s_w10 (I 1) k_5 (m_33 - k_5))) (by omega) (by omega) ((congrArg (s_to s_bl (I 1) n) he).symm.trans (s_fr_1 hk0).symm) (s_cut_1 hc_13 hk0 (by omega) hx hy) (by omega)
                    · -- m_33 < n
                      refine z_aload_n 0 dX5_cutAll_167 rfl ?_
                      refine tz_get (v := .ref (L 1)) 1 hL (by decide) q1594 rfl dX5_cutAll_168 ?_
                      refine z_iload_n 2 dX5_cutAll_171 rfl ?_
                      refine tz_iald (v := I 1 m_33) 1 (m_33) hL (by decide) rfl (by show m_33 < 1000; omega) rfl dX5_cutAll_172 ?_
                      refine z_callS (As := [.int (I 1 m_33)]) (t_isDigit (I 1 m_33)) q1707 q1708 q121 q1709 nm_X5_isDigit rfl (Nat.le_of_ble_eq_true rfl) ⟨Nat.le_of_ble_eq_true rfl, Nat.le_of_ble_eq_true rfl⟩ dX5_cutAll_173 rfl rfl (Nat.le_of_ble_eq_true rfl) (Nat.le_of_ble_eq_true rfl) (fun v_39 X_40 hp_41 => ?_)
                      obtain ⟨rfl, rfl⟩ := hp_41
                      refine z_st (st' := [.int (zb (decide (48 ≤ I 1 m_33) && decide (I 1 m_33 ≤ 57)))]) rfl ?_
                      refine z_if_eqb 218 dX5_cutAll_176 (by decide) (fun c_42 => ?_) (fun c_42 => ?_)
                      · -- decide (48 ≤ I 1 m_33) && decide (I 1 m_33 ≤ 57) = false
                        have he : s_end (I 1) n k_5 = m_33 := ((if_neg (by rw [show s_le (I 1 k_5) = false from c_20]; decide)).trans (if_pos c_24)).trans (hr_36.trans (s_to_f c_42))
                        refine z_aload_n 0 dX5_cutAll_218 rfl ?_
                        refine tz_get (v := .ref (L 4)) 4 hL (by decide) q1597 rfl dX5_cutAll_219 ?_
                        refine z_iload_n 1 dX5_cutAll_222 rfl ?_
                        refine z_iload_n 2 dX5_cutAll_223 rfl ?_
                        refine z_iload 4 dX5_cutAll_224 rfl ?_
                        refine z_isubN (a := m_33) (b := k_5) (by omega) dX5_cutAll_226 ?_
                        refine z_iconst (v := 4) dX5_cutAll_227 (by decide) ?_
                        refine z_icmp_leN (a := (m_33 - k_5)) (b := 4) 235 (by omega) (by omega) dX5_cutAll_228 (by decide) (fun c_43 => ?_) (fun c_43 => ?_)
                        · -- (m_33 - k_5) ≤ 4
                          refine z_iconst (v := 2) dX5_cutAll_235 (by decide) ?_
                          refine tz_iast 4 (i_6) hL (by decide) rfl (by show i_6 < 1002; omega) rfl dX5_cutAll_236 ?_
                          refine z_goto 265 dX5_cutAll_237 (by decide) ?_
                          have h1 : s_le (I 1 k_5) = false := c_20
                          have h2 : s_di (I 1 k_5) = true := c_24
                          have hx : (2 : Int32) = s_kd (I 1) n k_5 := by unfold s_kd; rw [if_pos hkn, h1, h2, he]; simp [Nat.not_lt.mpr c_43]
                          have hy : s_w10 (I 1) k_5 (m_33 - k_5) = s_vl (I 1) n k_5 := by unfold s_vl; rw [h1, h2, he]; rfl
                          have heb := (s_end_b (t := I 1) hkn).1
                          rw [he] at heb
                          refine z_aload_n 0 dX5_cutAll_265 rfl ?_
                          refine tz_get (v := .ref (L 6)) 6 hL (by decide) q1599 rfl dX5_cutAll_266 ?_
                          refine z_iload_n 1 dX5_cutAll_269 rfl ?_
                          refine z_lload 5 dX5_cutAll_270 rfl ?_
                          refine tz_last 6 (i_6) hL (by decide) rfl (by show i_6 < 1002; omega) rfl dX5_cutAll_272 ?_
                          refine z_iinc (v := nI (i_6 + 1)) (lv' := [(1, .int (nI (i_6 + 1))), (0, .ref (L 99)), (2, .int (nI (m_33))), (3, .int (I 1 k_5)), (4, .int (nI (k_5))), (5, .long (s_w10 (I 1) k_5 (m_33 - k_5)))]) 1 dX5_cutAll_273 rfl (nI_1 _) (by decide) rfl ?_
                          refine z_goto 17 dX5_cutAll_276 (by decide) ?_
                          refine z_lv (lv' := [(0, .ref (L 99)), (1, .int (nI (i_6 + 1))), (2, .int (nI (m_33)))]) [1, 0, 2] rfl ?_
                          refine z_X (X' := (tX g L (s_cw I n (zs1 S_7 i_6 2) (zs1 P_8 i_6 (nI k_5))) (s_jw J (zs1 V_9 i_6 (s_w10 (I 1) k_5 (m_33 - k_5)))) Gb X)) (by rw [s_cw_5, s_cw_4, s_jw_1]) ?_
                          exact ih_2 m_33 (i_6 + 1) (zs1 S_7 i_6 2) (zs1 P_8 i_6 (nI k_5)) (zs1 V_9 i_6 (s_w10 (I 1) k_5 (m_33 - k_5))) (by omega) (by omega) ((congrArg (s_to s_bl (I 1) n) he).symm.trans (s_fr_1 hk0).symm) (s_cut_1 hc_13 hk0 (by omega) hx hy) (by omega)
                        · -- 4 < (m_33 - k_5)
                          refine z_iconst (v := 4) dX5_cutAll_231 (by decide) ?_
                          refine z_goto 236 dX5_cutAll_232 (by decide) ?_
                          refine tz_iast 4 (i_6) hL (by decide) rfl (by show i_6 < 1002; omega) rfl dX5_cutAll_236 ?_
                          refine z_goto 265 dX5_cutAll_237 (by decide) ?_
                          have h1 : s_le (I 1 k_5) = false := c_20
                          have h2 : s_di (I 1 k_5) = true := c_24
                          have hx : (4 : Int32) = s_kd (I 1) n k_5 := by unfold s_kd; rw [if_pos hkn, h1, h2, he]; simp [c_43]
                          have hy : s_w10 (I 1) k_5 (m_33 - k_5) = s_vl (I 1) n k_5 := by unfold s_vl; rw [h1, h2, he]; rfl
                          have heb := (s_end_b (t := I 1) hkn).1
                          rw [he] at heb
                          refine z_aload_n 0 dX5_cutAll_265 rfl ?_
                          refine tz_get (v := .ref (L 6)) 6 hL (by decide) q1599 rfl dX5_cutAll_266 ?_
                          refine z_iload_n 1 dX5_cutAll_269 rfl ?_
                          refine z_lload 5 dX5_cutAll_270 rfl ?_
                          refine tz_last 6 (i_6) hL (by decide) rfl (by show i_6 < 1002; omega) rfl dX5_cutAll_272 ?_
                          refine z_iinc (v := nI (i_6 + 1)) (lv' := [(1, .int (nI (i_6 + 1))), (0, .ref (L 99)), (2, .int (nI (m_33))), (3, .int (I 1 k_5)), (4, .int (nI (k_5))), (5, .long (s_w10 (I 1) k_5 (m_33 - k_5)))]) 1 dX5_cutAll_273 rfl (nI_1 _) (by decide) rfl ?_
                          refine z_goto 17 dX5_cutAll_276 (by decide) ?_
                          refine z_lv (lv' := [(0, .ref (L 99)), (1, .int (nI (i_6 + 1))), (2, .int (nI (m_33)))]) [1, 0, 2] rfl ?_
                          refine z_X (X' := (tX g L (s_cw I n (zs1 S_7 i_6 4) (zs1 P_8 i_6 (nI k_5))) (s_jw J (zs1 V_9 i_6 (s_w10 (I 1) k_5 (m_33 - k_5)))) Gb X)) (by rw [s_cw_5, s_cw_4, s_jw_1]) ?_
                          exact ih_2 m_33 (i_6 + 1) (zs1 S_7 i_6 4) (zs1 P_8 i_6 (nI k_5)) (zs1 V_9 i_6 (s_w10 (I 1) k_5 (m_33 - k_5))) (by omega) (by omega) ((congrArg (s_to s_bl (I 1) n) he).symm.trans (s_fr_1 hk0).symm) (s_cut_1 hc_13 hk0 (by omega) hx hy) (by omega)
                      · -- decide (48 ≤ I 1 m_33) && decide (I 1 m_33 ≤ 57) = true
                        refine z_iload_n 2 dX5_cutAll_179 rfl ?_
                        refine z_iload 4 dX5_cutAll_180 rfl ?_
                        refine z_isubN (a := m_33) (b := k_5) (by omega) dX5_cutAll_182 ?_
                        refine z_iconst (v := 4) dX5_cutAll_183 (by decide) ?_
                        refine z_icmp_geN (a := (m_33 - k_5)) (b := 4) 208 (by omega) (by omega) dX5_cutAll_184 (by decide) (fun c_44 => ?_) (fun c_44 => ?_)
                        · -- 4 ≤ (m_33 - k_5)
                          refine z_lload 5 dX5_cutAll_208 rfl ?_
                          refine z_lstore (lv' := [(5, .long (s_w10 (I 1) k_5 (m_33 - k_5))), (0, .ref (L 99)), (1, .int (nI (i_6))), (2, .int (nI (m_33))), (3, .int (I 1 k_5)), (4, .int (nI (k_5)))]) dX5_cutAll_210 (by decide) rfl ?_
                          refine z_iinc (v := nI (m_33 + 1)) (lv' := [(2, .int (nI (m_33 + 1))), (5, .long (s_w10 (I 1) k_5 (m_33 - k_5))), (0, .ref (L 99)), (1, .int (nI (i_6))), (3, .int (I 1 k_5)), (4, .int (nI (k_5)))]) 3 dX5_cutAll_212 rfl (nI_1 _) (by decide) rfl ?_
                          refine z_goto 159 dX5_cutAll_215 (by decide) ?_
                          have f_45 : s_w10 (I 1) k_5 (m_33 - k_5) = s_w10 (I 1) k_5 (m_33 + 1 - k_5) := by rw [show m_33 + 1 - k_5 = (m_33 - k_5) + 1 by omega]; show _ = if m_33 - k_5 < 4 then 10 * s_w10 (I 1) k_5 (m_33 - k_5) + (I 1 (k_5 + (m_33 - k_5))).toInt64 - 48 else s_w10 (I 1) k_5 (m_33 - k_5); rw [if_neg (by omega)]
                          refine z_lv (lv' := [(0, .ref (L 99)), (1, .int (nI (i_6))), (2, .int (nI (m_33 + 1))), (3, .int (I 1 k_5)), (4, .int (nI (k_5))), (5, .long (s_w10 (I 1) k_5 (m_33 + 1 - k_5)))]) [2, 3, 0, 4, 5, 1] (by rw [← f_45]; rfl) ?_
                          exact ih_30 (m_33 + 1) (by omega) (by omega) (hr_36.trans (s_to_t (by omega) c_42)) (by omega)
                        · -- (m_33 - k_5) < 4
                          refine z_ldc2 q1710 dX5_cutAll_187 ?_
                          refine z_lload 5 dX5_cutAll_190 rfl ?_
                          refine z_lmul dX5_cutAll_192 ?_
                          refine z_aload_n 0 dX5_cutAll_193 rfl ?_
                          refine tz_get (v := .ref (L 1)) 1 hL (by decide) q1594 rfl dX5_cutAll_194 ?_
                          refine z_iload_n 2 dX5_cutAll_197 rfl ?_
                          refine tz_iald (v := I 1 m_33) 1 (m_33) hL (by decide) rfl (by show m_33 < 1000; omega) rfl dX5_cutAll_198 ?_
                          refine z_i2l (v := (I 1 m_33).toInt64) dX5_cutAll_199 rfl ?_
                          refine z_ladd dX5_cutAll_200 ?_
                          refine z_ldc2 q1711 dX5_cutAll_201 ?_
                          refine z_lsub dX5_cutAll_204 ?_
                          refine z_goto 210 dX5_cutAll_205 (by decide) ?_
                          refine z_lstore (lv' := [(5, .long (((10 * s_w10 (I 1) k_5 (m_33 - k_5)) + (I 1 m_33).toInt64) - 48)), (0, .ref (L 99)), (1, .int (nI (i_6))), (2, .int (nI (m_33))), (3, .int (I 1 k_5)), (4, .int (nI (k_5)))]) dX5_cutAll_210 (by decide) rfl ?_
                          refine z_iinc (v := nI (m_33 + 1)) (lv' := [(2, .int (nI (m_33 + 1))), (5, .long (((10 * s_w10 (I 1) k_5 (m_33 - k_5)) + (I 1 m_33).toInt64) - 48)), (0, .ref (L 99)), (1, .int (nI (i_6))), (3, .int (I 1 k_5)), (4, .int (nI (k_5)))]) 3 dX5_cutAll_212 rfl (nI_1 _) (by decide) rfl ?_
                          refine z_goto 159 dX5_cutAll_215 (by decide) ?_
                          have f_46 : (((10 * s_w10 (I 1) k_5 (m_33 - k_5)) + (I 1 m_33).toInt64) - 48) = s_w10 (I 1) k_5 (m_33 + 1 - k_5) := by rw [show m_33 + 1 - k_5 = (m_33 - k_5) + 1 by omega]; show _ = if m_33 - k_5 < 4 then 10 * s_w10 (I 1) k_5 (m_33 - k_5) + (I 1 (k_5 + (m_33 - k_5))).toInt64 - 48 else s_w10 (I 1) k_5 (m_33 - k_5); rw [if_pos c_44, show k_5 + (m_33 - k_5) = m_33 by omega]
                          refine z_lv (lv' := [(0, .ref (L 99)), (1, .int (nI (i_6))), (2, .int (nI (m_33 + 1))), (3, .int (I 1 k_5)), (4, .int (nI (k_5))), (5, .long (s_w10 (I 1) k_5 (m_33 + 1 - k_5)))]) [2, 3, 0, 4, 5, 1] (by rw [← f_46]; rfl) ?_
                          exact ih_30 (m_33 + 1) (by omega) (by omega) (hr_36.trans (s_to_t (by omega) c_42)) (by omega)
                have f_47 : 0 = s_w10 (I 1) k_5 (k_5 - k_5) := by rw [Nat.sub_self]; rfl
                refine z_lv (lv' := [(0, .ref (L 99)), (1, .int (nI (i_6))), (2, .int (nI (k_5))), (3, .int (I 1 k_5)), (4, .int (nI (k_5))), (5, .long (s_w10 (I 1) k_5 (k_5 - k_5)))]) [3, 4, 5, 2, 1, 0] (by rw [← f_47]; rfl) ?_
                exact loop_32 (n - k_5 + 1) k_5 (Nat.le_refl _) (by omega) rfl (Nat.lt_succ_self _)
            · -- decide (97 ≤ I 1 k_5) && decide (I 1 k_5 ≤ 122) = true
              have loop_51 : ∀ (q_48 : Nat) (m_52 : Nat), (k_5 ≤ m_52) → (m_52 ≤ n) → (s_to s_le (I 1) n k_5 = s_to s_le (I 1) n m_52) → n - m_52 < q_48 → zZ g m_X5_cutAll (fun rv X' => rv = none ∧ ∃ (S P : Nat → Int32) (V : Nat → Int64) (m : Nat), X' = tX g L (zs (zs (s_cw I n S P) 99 7 0) 99 8 0) (s_jw J V) Gb X ∧ s_cut (I 1) n S P V m ∧ s_fr (I 1) n m = n ∧ S m = 0 ∧ P m = nI n ∧ m ≤ n, zno, ({ frames := 2, cells := 0, slots := 0, locals := 40 } : Room)) 0 0 (tX g L (zs (s_cw I n S_7 P_8) 5 i_6 (nI (k_5))) (s_jw J V_9) Gb X) 70 [(0, .ref (L 99)), (1, .int (nI (i_6))), (2, .int (nI (m_52))), (3, .int (I 1 k_5)), (4, .int (nI (k_5))), (5, .long (s_w37 (I 1) k_5 (m_52 - k_5)))] [] := by
                intro q_48
                induction q_48 with
                | zero => intro m_52 h1_53 h2_54 hr_55 hm_50; exact absurd hm_50 (Nat.not_lt_zero _)
                | succ q_48 ih_49 =>
                  intro m_52 h1_53 h2_54 hr_55 hm_50
                  refine z_iload_n 2 dX5_cutAll_70 rfl ?_
                  refine z_aload_n 0 dX5_cutAll_71 rfl ?_
                  refine tz_get (v := .int (nI (n))) 3 hL (by decide) q1596 rfl dX5_cutAll_72 ?_
                  refine z_icmp_geN (a := m_52) (b := n) 129 (by omega) (by omega) dX5_cutAll_75 (by decide) (fun c_56 => ?_) (fun c_56 => ?_)
                  · -- n ≤ m_52
                    have he : s_end (I 1) n k_5 = m_52 := (if_pos c_20).trans (hr_55.trans (s_to_e c_56))
                    refine z_aload_n 0 dX5_cutAll_129 rfl ?_
                    refine tz_get (v := .ref (L 4)) 4 hL (by decide) q1597 rfl dX5_cutAll_130 ?_
                    refine z_iload_n 1 dX5_cutAll_133 rfl ?_
                    refine z_iload_n 2 dX5_cutAll_134 rfl ?_
                    refine z_iload 4 dX5_cutAll_135 rfl ?_
                    refine z_isubN (a := m_52) (b := k_5) (by omega) dX5_cutAll_137 ?_
                    refine z_bipush (v := 8) dX5_cutAll_138 (by decide) ?_
                    refine z_icmp_leN (a := (m_52 - k_5)) (b := 8) 147 (by omega) (by omega) dX5_cutAll_140 (by decide) (fun c_57 => ?_) (fun c_57 => ?_)
                    · -- (m_52 - k_5) ≤ 8
                      refine z_iconst (v := 1) dX5_cutAll_147 (by decide) ?_
                      refine tz_iast 4 (i_6) hL (by decide) rfl (by show i_6 < 1002; omega) rfl dX5_cutAll_148 ?_
                      refine z_goto 265 dX5_cutAll_149 (by decide) ?_
                      have h1 : s_le (I 1 k_5) = true := c_20
                      have hx : (1 : Int32) = s_kd (I 1) n k_5 := by unfold s_kd; rw [if_pos hkn, h1, he]; simp [Nat.not_lt.mpr c_57]
                      have hy : s_w37 (I 1) k_5 (m_52 - k_5) = s_vl (I 1) n k_5 := by unfold s_vl; rw [h1, he]; rfl
                      have heb := (s_end_b (t := I 1) hkn).1
                      rw [he] at heb
                      refine z_aload_n 0 dX5_cutAll_265 rfl ?_
                      refine tz_get (v := .ref (L 6)) 6 hL (by decide) q1599 rfl dX5_cutAll_266 ?_
                      refine z_iload_n 1 dX5_cutAll_269 rfl ?_
                      refine z_lload 5 dX5_cutAll_270 rfl ?_
                      refine tz_last 6 (i_6) hL (by decide) rfl (by show i_6 < 1002; omega) rfl dX5_cutAll_272 ?_
                      refine z_iinc (v := nI (i_6 + 1)) (lv' := [(1, .int (nI (i_6 + 1))), (0, .ref (L 99)), (2, .int (nI (m_52))), (3, .int (I 1 k_5)), (4, .int (nI (k_5))), (5, .long (s_w37 (I 1) k_5 (m_52 - k_5)))]) 1 dX5_cutAll_273 rfl (nI_1 _) (by decide) rfl ?_
                      refine z_goto 17 dX5_cutAll_276 (by decide) ?_
                      refine z_lv (lv' := [(0, .ref (L 99)), (1, .int (nI (i_6 + 1))), (2, .int (nI (m_52)))]) [1, 0, 2] rfl ?_
                      refine z_X (X' := (tX g L (s_cw I n (zs1 S_7 i_6 1) (zs1 P_8 i_6 (nI k_5))) (s_jw J (zs1 V_9 i_6 (s_w37 (I 1) k_5 (m_52 - k_5)))) Gb X)) (by rw [s_cw_5, s_cw_4, s_jw_1]) ?_
                      exact ih_2 m_52 (i_6 + 1) (zs1 S_7 i_6 1) (zs1 P_8 i_6 (nI k_5)) (zs1 V_9 i_6 (s_w37 (I 1) k_5 (m_52 - k_5))) (by omega) (by omega) ((congrArg (s_to s_bl (I 1) n) he).symm.trans (s_fr_1 hk0).symm) (s_cut_1 hc_13 hk0 (by omega) hx hy) (by omega)
                    · -- 8 < (m_52 - k_5)
                      refine z_iconst (v := 4) dX5_cutAll_143 (by decide) ?_
                      refine z_goto 148 dX5_cutAll_144 (by decide) ?_
                      refine tz_iast 4 (i_6) hL (by decide) rfl (by show i_6 < 1002; omega) rfl dX5_cutAll_148 ?_
                      refine z_goto 265 dX5_cutAll_149 (by decide) ?_
                      have h1 : s_le (I 1 k_5) = true := c_20
                      have hx : (4 : Int32) = s_kd (I 1) n k_5 := by unfold s_kd; rw [if_pos hkn, h1, he]; simp [c_57]
                      have hy : s_w37 (I 1) k_5 (m_52 - k_5) = s_vl (I 1) n k_5 := by unfold s_vl; rw [h1, he]; rfl
                      have heb := (s_end_b (t := I 1) hkn).1
                      rw [he] at heb
                      refine z_aload_n 0 dX5_cutAll_265 rfl ?_
                      refine tz_get (v := .ref (L 6)) 6 hL (by decide) q1599 rfl dX5_cutAll_266 ?_
                      refine z_iload_n 1 dX5_cutAll_269 rfl ?_
                      refine z_lload 5 dX5_cutAll_270 rfl ?_
                      refine tz_last 6 (i_6) hL (by decide) rfl (by show i_6 < 1002; omega) rfl dX5_cutAll_272 ?_
                      refine z_iinc (v := nI (i_6 + 1)) (lv' := [(1, .int (nI (i_6 + 1))), (0, .ref (L 99)), (2, .int (nI (m_52))), (3, .int (I 1 k_5)), (4, .int (nI (k_5))), (5, .long (s_w37 (I 1) k_5 (m_52 - k_5)))]) 1 dX5_cutAll_273 rfl (nI_1 _) (by decide) rfl ?_
                      refine z_goto 17 dX5_cutAll_276 (by decide) ?_
                      refine z_lv (lv' := [(0, .ref (L 99)), (1, .int (nI (i_6 + 1))), (2, .int (nI (m_52)))]) [1, 0, 2] rfl ?_
                      refine z_X (X' := (tX g L (s_cw I n (zs1 S_7 i_6 4) (zs1 P_8 i_6 (nI k_5))) (s_jw J (zs1 V_9 i_6 (s_w37 (I 1) k_5 (m_52 - k_5)))) Gb X)) (by rw [s_cw_5, s_cw_4, s_jw_1]) ?_
                      exact ih_2 m_52 (i_6 + 1) (zs1 S_7 i_6 4) (zs1 P_8 i_6 (nI k_5)) (zs1 V_9 i_6 (s_w37 (I 1) k_5 (m_52 - k_5))) (by omega) (by omega) ((congrArg (s_to s_bl (I 1) n) he).symm.trans (s_fr_1 hk0).symm) (s_cut_1 hc_13 hk0 (by omega) hx hy) (by omega)
                  · -- m_52 < n
                    refine z_aload_n 0 dX5_cutAll_78 rfl ?_
                    refine tz_get (v := .ref (L 1)) 1 hL (by decide) q1594 rfl dX5_cutAll_79 ?_
                    refine z_iload_n 2 dX5_cutAll_82 rfl ?_
                    refine tz_iald (v := I 1 m_52) 1 (m_52) hL (by decide) rfl (by show m_52 < 1000; omega) rfl dX5_cutAll_83 ?_
                    refine z_callS (As := [.int (I 1 m_52)]) (t_isLetter (I 1 m_52)) q1700 q1701 q121 q1702 nm_X5_isLetter rfl (Nat.le_of_ble_eq_true rfl) ⟨Nat.le_of_ble_eq_true rfl, Nat.le_of_ble_eq_true rfl⟩ dX5_cutAll_84 rfl rfl (Nat.le_of_ble_eq_true rfl) (Nat.le_of_ble_eq_true rfl) (fun v_58 X_59 hp_60 => ?_)
                    obtain ⟨rfl, rfl⟩ := hp_60
                    refine z_st (st' := [.int (zb (decide (97 ≤ I 1 m_52) && decide (I 1 m_52 ≤ 122)))]) rfl ?_
                    refine z_if_eqb 129 dX5_cutAll_87 (by decide) (fun c_61 => ?_) (fun c_61 => ?_)
                    · -- decide (97 ≤ I 1 m_52) && decide (I 1 m_52 ≤ 122) = false
                      have he : s_end (I 1) n k_5 = m_52 := (if_pos c_20).trans (hr_55.trans (s_to_f c_61))
                      refine z_aload_n 0 dX5_cutAll_129 rfl ?_
                      refine tz_get (v := .ref (L 4)) 4 hL (by decide) q1597 rfl dX5_cutAll_130 ?_
                      refine z_iload_n 1 dX5_cutAll_133 rfl ?_
                      refine z_iload_n 2 dX5_cutAll_134 rfl ?_
                      refine z_iload 4 dX5_cutAll_135 rfl ?_
                      refine z_isubN (a := m_52) (b := k_5) (by omega) dX5_cutAll_137 ?_
                      refine z_bipush (v := 8) dX5_cutAll_138 (by decide) ?_
                      refine z_icmp_leN (a := (m_52 - k_5)) (b := 8) 147 (by omega) (by omega) dX5_cutAll_140 (by decide) (fun c_62 => ?_) (fun c_62 => ?_)
                      · -- (m_52 - k_5) ≤ 8
                        refine z_iconst (v := 1) dX5_cutAll_147 (by decide) ?_
                        refine tz_iast 4 (i_6) hL (by decide) rfl (by show i_6 < 1002; omega) rfl dX5_cutAll_148 ?_
                        refine z_goto 265 dX5_cutAll_149 (by decide) ?_
                        have h1 : s_le (I 1 k_5) = true := c_20
                        have hx : (1 : Int32) = s_kd (I 1) n k_5 := by unfold s_kd; rw [if_pos hkn, h1, he]; simp [Nat.not_lt.mpr c_62]
                        have hy : s_w37 (I 1) k_5 (m_52 - k_5) = s_vl (I 1) n k_5 := by unfold s_vl; rw [h1, he]; rfl
                        have heb := (s_end_b (t := I 1) hkn).1
                        rw [he] at heb
                        refine z_aload_n 0 dX5_cutAll_265 rfl ?_
                        refine tz_get (v := .ref (L 6)) 6 hL (by decide) q1599 rfl dX5_cutAll_266 ?_
                        refine z_iload_n 1 dX5_cutAll_269 rfl ?_
                        refine z_lload 5 dX5_cutAll_270 rfl ?_
                        refine tz_last 6 (i_6) hL (by decide) rfl (by show i_6 < 1002; omega) rfl dX5_cutAll_272 ?_
                        refine z_iinc (v := nI (i_6 + 1)) (lv' := [(1, .int (nI (i_6 + 1))), (0, .ref (L 99)), (2, .int (nI (m_52))), (3, .int (I 1 k_5)), (4, .int (nI (k_5))), (5, .long (s_w37 (I 1) k_5 (m_52 - k_5)))]) 1 dX5_cutAll_273 rfl (nI_1 _) (by decide) rfl ?_
                        refine z_goto 17 dX5_cutAll_276 (by decide) ?_
                        refine z_lv (lv' := [(0, .ref (L 99)), (1, .int (nI (i_6 + 1))), (2, .int (nI (m_52)))]) [1, 0, 2] rfl ?_
                        refine z_X (X' := (tX g L (s_cw I n (zs1 S_7 i_6 1) (zs1 P_8 i_6 (nI k_5))) (s_jw J (zs1 V_9 i_6 (s_w37 (I 1) k_5 (m_52 - k_5)))) Gb X)) (by rw [s_cw_5, s_cw_4, s_jw_1]) ?_
                        exact ih_2 m_52 (i_6 + 1) (zs1 S_7 i_6 1) (zs1 P_8 i_6 (nI k_5)) (zs1 V_9 i_6 (s_w37 (I 1) k_5 (m_52 - k_5))) (by omega) (by omega) ((congrArg (s_to s_bl (I 1) n) he).symm.trans (s_fr_1 hk0).symm) (s_cut_1 hc_13 hk0 (by omega) hx hy) (by omega)
                      · -- 8 < (m_52 - k_5)
                        refine z_iconst (v := 4) dX5_cutAll_143 (by decide) ?_
                        refine z_goto 148 dX5_cutAll_144 (by decide) ?_
                        refine tz_iast 4 (i_6) hL (by decide) rfl (by show i_6 < 1002; omega) rfl dX5_cutAll_148 ?_
                        refine z_goto 265 dX5_cutAll_149 (by decide) ?_
                        have h1 : s_le (I 1 k_5) = true := c_20
                        have hx : (4 : Int32) = s_kd (I 1) n k_5 := by unfold s_kd; rw [if_pos hkn, h1, he]; simp [c_62]
                        have hy : s_w37 (I 1) k_5 (m_52 - k_5) = s_vl (I 1) n k_5 := by unfold s_vl; rw [h1, he]; rfl
                        have heb := (s_end_b (t := I 1) hkn).1
                        rw [he] at heb
                        refine z_aload_n 0 dX5_cutAll_265 rfl ?_
                        refine tz_get (v := .ref (L 6)) 6 hL (by decide) q1599 rfl dX5_cutAll_266 ?_
                        refine z_iload_n 1 dX5_cutAll_269 rfl ?_
                        refine z_lload 5 dX5_cutAll_270 rfl ?_
                        refine tz_last 6 (i_6) hL (by decide) rfl (by show i_6 < 1002; omega) rfl dX5_cutAll_272 ?_
                        refine z_iinc (v := nI (i_6 + 1)) (lv' := [(1, .int (nI (i_6 + 1))), (0, .ref (L 99)), (2, .int (nI (m_52))), (3, .int (I 1 k_5)), (4, .int (nI (k_5))), (5, .long (s_w37 (I 1) k_5 (m_52 - k_5)))]) 1 dX5_cutAll_273 rfl (nI_1 _) (by decide) rfl ?_
                        refine z_goto 17 dX5_cutAll_276 (by decide) ?_
                        refine z_lv (lv' := [(0, .ref (L 99)), (1, .int (nI (i_6 + 1))), (2, .int (nI (m_52)))]) [1, 0, 2] rfl ?_
                        refine z_X (X' := (tX g L (s_cw I n (zs1 S_7 i_6 4) (zs1 P_8 i_6 (nI k_5))) (s_jw J (zs1 V_9 i_6 (s_w37 (I 1) k_5 (m_52 - k_5)))) Gb X)) (by rw [s_cw_5, s_cw_4, s_jw_1]) ?_
                        exact ih_2 m_52 (i_6 + 1) (zs1 S_7 i_6 4) (zs1 P_8 i_6 (nI k_5)) (zs1 V_9 i_6 (s_w37 (I 1) k_5 (m_52 - k_5))) (by omega) (by omega) ((congrArg (s_to s_bl (I 1) n) he).symm.trans (s_fr_1 hk0).symm) (s_cut_1 hc_13 hk0 (by omega) hx hy) (by omega)
                    · -- decide (97 ≤ I 1 m_52) && decide (I 1 m_52 ≤ 122) = true
                      refine z_iload_n 2 dX5_cutAll_90 rfl ?_
                      refine z_iload 4 dX5_cutAll_91 rfl ?_
                      refine z_isubN (a := m_52) (b := k_5) (by omega) dX5_cutAll_93 ?_
                      refine z_bipush (v := 8) dX5_cutAll_94 (by decide) ?_
                      refine z_icmp_geN (a := (m_52 - k_5)) (b := 8) 119 (by omega) (by omega) dX5_cutAll_96 (by decide) (fun c_63 => ?_) (fun c_63 => ?_)
                      · -- 8 ≤ (m_52 - k_5)
                        refine z_lload 5 dX5_cutAll_119 rfl ?_
                        refine z_lstore (lv' := [(5, .long (s_w37 (I 1) k_5 (m_52 - k_5))), (0, .ref (L 99)), (1, .int (nI (i_6))), (2, .int (nI (m_52))), (3, .int (I 1 k_5)), (4, .int (nI (k_5)))]) dX5_cutAll_121 (by decide) rfl ?_
                        refine z_iinc (v := nI (m_52 + 1)) (lv' := [(2, .int (nI (m_52 + 1))), (5, .long (s_w37 (I 1) k_5 (m_52 - k_5))), (0, .ref (L 99)), (1, .int (nI (i_6))), (3, .int (I 1 k_5)), (4, .int (nI (k_5)))]) 3 dX5_cutAll_123 rfl (nI_1 _) (by decide) rfl ?_
                        refine z_goto 70 dX5_cutAll_126 (by decide) ?_
                        have f_64 : s_w37 (I 1) k_5 (m_52 - k_5) = s_w37 (I 1) k_5 (m_52 + 1 - k_5) := by rw [show m_52 + 1 - k_5 = (m_52 - k_5) + 1 by omega]; show _ = if m_52 - k_5 < 8 then 37 * s_w37 (I 1) k_5 (m_52 - k_5) + (s_rank (I 1 (k_5 + (m_52 - k_5)))).toInt64 else s_w37 (I 1) k_5 (m_52 - k_5); rw [if_neg (by omega)]
                        refine z_lv (lv' := [(0, .ref (L 99)), (1, .int (nI (i_6))), (2, .int (nI (m_52 + 1))), (3, .int (I 1 k_5)), (4, .int (nI (k_5))), (5, .long (s_w37 (I 1) k_5 (m_52 + 1 - k_5)))]) [2, 3, 0, 4, 5, 1] (by rw [← f_64]; rfl) ?_
                        exact ih_49 (m_52 + 1) (by omega) (by omega) (hr_55.trans (s_to_t (by omega) c_61)) (by omega)
                      · -- (m_52 - k_5) < 8
                        refine z_ldc2 q1703 dX5_cutAll_99 ?_
                        refine z_lload 5 dX5_cutAll_102 rfl ?_
                        refine z_lmul dX5_cutAll_104 ?_
                        refine z_aload_n 0 dX5_cutAll_105 rfl ?_
                        refine tz_get (v := .ref (L 1)) 1 hL (by decide) q1594 rfl dX5_cutAll_106 ?_
                        refine z_iload_n 2 dX5_cutAll_109 rfl ?_
                        refine tz_iald (v := I 1 m_52) 1 (m_52) hL (by decide) rfl (by show m_52 < 1000; omega) rfl dX5_cutAll_110 ?_
                        refine z_callS (As := [.int (I 1 m_52)]) (t_rank (I 1 m_52)) q1704 q1705 q121 q1706 nm_X5_rank rfl (Nat.le_of_ble_eq_true rfl) ⟨Nat.le_of_ble_eq_true rfl, Nat.le_of_ble_eq_true rfl⟩ dX5_cutAll_111 rfl rfl (Nat.le_of_ble_eq_true rfl) (Nat.le_of_ble_eq_true rfl) (fun v_65 X_66 hp_67 => ?_)
                        obtain ⟨rfl, rfl⟩ := hp_67
                        refine z_st (st' := [.int (s_rank (I 1 m_52)), .long (37 * s_w37 (I 1) k_5 (m_52 - k_5))]) rfl ?_
                        refine z_i2l (v := (s_rank (I 1 m_52)).toInt64) dX5_cutAll_114 rfl ?_
                        refine z_ladd dX5_cutAll_115 ?_
                        refine z_goto 121 dX5_cutAll_116 (by decide) ?_
                        refine z_lstore (lv' := [(5, .long ((37 * s_w37 (I 1) k_5 (m_52 - k_5)) + (s_rank (I 1 m_52)).toInt64)), (0, .ref (L 99)), (1, .int (nI (i_6))), (2, .int (nI (m_52))), (3, .int (I 1 k_5)), (4, .int (nI (k_5)))]) dX5_cutAll_121 (by decide) rfl ?_
                        refine z_iinc (v := nI (m_52 + 1)) (lv' := [(2, .int (nI (m_52 + 1))), (5, .long ((37 * s_w37 (I 1) k_5 (m_52 - k_5)) + (s_rank (I 1 m_52)).toInt64)), (0, .ref (L 99)), (1, .int (nI (i_6))), (3, .int (I 1 k_5)), (4, .int (nI (k_5)))]) 3 dX5_cutAll_123 rfl (nI_1 _) (by decide) rfl ?_
                        refine z_goto 70 dX5_cutAll_126 (by decide) ?_
                        have f_68 : ((37 * s_w37 (I 1) k_5 (m_52 - k_5)) + (s_rank (I 1 m_52)).toInt64) = s_w37 (I 1) k_5 (m_52 + 1 - k_5) := by rw [show m_52 + 1 - k_5 = (m_52 - k_5) + 1 by omega]; show _ = if m_52 - k_5 < 8 then 37 * s_w37 (I 1) k_5 (m_52 - k_5) + (s_rank (I 1 (k_5 + (m_52 - k_5)))).toInt64 else s_w37 (I 1) k_5 (m_52 - k_5); rw [if_pos c_63, show k_5 + (m_52 - k_5) = m_52 by omega]
                        refine z_lv (lv' := [(0, .ref (L 99)), (1, .int (nI (i_6))), (2, .int (nI (m_52 + 1))), (3, .int (I 1 k_5)), (4, .int (nI (k_5))), (5, .long (s_w37 (I 1) k_5 (m_52 + 1 - k_5)))]) [2, 3, 0, 4, 5, 1] (by rw [← f_68]; rfl) ?_
                        exact ih_49 (m_52 + 1) (by omega) (by omega) (hr_55.trans (s_to_t (by omega) c_61)) (by omega)
              have f_69 : 0 = s_w37 (I 1) k_5 (k_5 - k_5) := by rw [Nat.sub_self]; rfl
              refine z_lv (lv' := [(0, .ref (L 99)), (1, .int (nI (i_6))), (2, .int (nI (k_5))), (3, .int (I 1 k_5)), (4, .int (nI (k_5))), (5, .long (s_w37 (I 1) k_5 (k_5 - k_5)))]) [3, 4, 5, 2, 1, 0] (by rw [← f_69]; rfl) ?_
              exact loop_51 (n - k_5 + 1) k_5 (Nat.le_refl _) (by omega) rfl (Nat.lt_succ_self _)
          · -- I 1 k_5 = 32
            refine z_iinc (v := nI (k_5 + 1)) (lv' := [(2, .int (nI (k_5 + 1))), (3, .int (I 1 k_5)), (0, .ref (L 99)), (1, .int (nI (i_6)))]) 3 dX5_cutAll_44 rfl (nI_1 _) (by decide) rfl ?_
            refine z_goto 17 dX5_cutAll_47 (by decide) ?_
            refine z_lv (lv' := [(0, .ref (L 99)), (1, .int (nI (i_6))), (2, .int (nI (k_5 + 1)))]) [2, 3, 0] rfl ?_
            exact ih_2 (k_5 + 1) i_6 S_7 P_8 V_9 (by omega) (by omega) ((s_to_t (by omega) (show s_bl (I 1 k_5) = true by simp [s_bl, c_16, c_15])).symm.trans hs_12) hc_13 (by omega)
  refine z_lv (lv' := [(0, .ref (L 99)), (1, .int 0), (2, .int 0)]) [2, 1, 0] rfl ?_
  exact loop_4 (n - 0 + 1) 0 0 (I 4) (I 5) (J 6) (Nat.zero_le _) (Nat.le_refl _) rfl s_cut_0 (Nat.lt_succ_self _)
