/-! THE MODEL: beds to be built. Printed by t19.py -/
set_option maxRecDepth 100000
set_option maxHeartbeats 4000000 in
theorem t_builtIn_ {g : zG} {L : Nat → Nat} {I : Nat → Nat → Int32} {J : Nat → Nat → Int64} {Gb : Nat → Nat → Int32} {X : zX} (hL : tok g L) (k h n1 : Nat) (hk : k < 2 ^ 30) (hh : h ≤ n1) (hn1 : n1 < 2 ^ 30) (h0 : I 10 0 = nI (n1 + 1)) : zN g m_X5_builtIn ({ frames := 1, cells := 0, slots := 0, locals := 20 } : Room) [.ref (L 99), .int (nI (k)), .int (nI (h))] (tX g L I J Gb X) (fun rv X' => rv = some (.int (nI (s_bi (n1 + 1) k h))) ∧ X' = (tX g L I J Gb X)) := by
  refine zN.of (by decide +kernel) (Nat.le_of_ble_eq_true rfl) rfl ?_
  refine z_lv (lv' := [(0, .ref (L 99)), (1, .int (nI (k))), (2, .int (nI (h)))]) [0, 1, 2] rfl ?_
  refine z_iload_n 1 dX5_builtIn_0 rfl ?_
  refine z_istore_n (lv' := [(3, .int (nI (k))), (0, .ref (L 99)), (1, .int (nI (k))), (2, .int (nI (h)))]) dX5_builtIn_1 rfl (by decide) rfl ?_
  refine z_aload_n 1 dX5_builtIn_2 rfl ?_
  refine z_callV (As := []) (t_houses (I := I) hL h0) q1585 q1587 qs56 q121 q1588 nm_X5_houses (tX_obj hL) rfl rfl rfl (Nat.le_of_ble_eq_true rfl) ⟨Nat.le_of_ble_eq_true rfl, Nat.le_of_ble_eq_true rfl⟩ dX5_builtIn_3 rfl rfl (Nat.le_of_ble_eq_true rfl) (Nat.le_of_ble_eq_true rfl) (fun v_1 X_2 hp_3 => ?_)
  obtain ⟨rfl, rfl⟩ := hp_3
  refine z_st (st' := [.int (nI (n1 + 1))]) rfl ?_
  refine z_iconst (v := 1) dX5_builtIn_6 (by decide) ?_
  refine z_isubN (a := n1 + 1) (b := 1) (by omega) dX5_builtIn_7 ?_
  refine z_eq (y := nI (n1)) (congrArg nI (by omega)) ?_
  refine z_istore (lv' := [(4, .int (nI (n1))), (3, .int (nI (k))), (0, .ref (L 99)), (1, .int (nI (k))), (2, .int (nI (h)))]) dX5_builtIn_8 (by decide) rfl ?_
  have loop_8 : ∀ (q_5 i_4 : Nat), i_4 + q_5 = (n1 - h) → 0 ≤ i_4 → zZ g m_X5_builtIn (fun rv X' => rv = some (.int (nI (s_bi (n1 + 1) k h))) ∧ X' = (tX g L I J Gb X), zno, ({ frames := 1, cells := 0, slots := 0, locals := 20 } : Room)) 0 0 (tX g L I J Gb X) 10 [(0, .ref (L 99)), (1, .int (nI (k))), (2, .int (nI (h))), (3, .int (nI ((s_dv k i_4)))), (4, .int (nI ((n1 - i_4))))] [] := by
    intro q_5
    induction q_5 with
    | zero =>
      intro i_4 hb_7 lo_9  
      obtain rfl : (n1 - h) = i_4 := by omega
      refine z_iload 4 dX5_builtIn_10 rfl ?_
      refine z_iload_n 2 dX5_builtIn_12 rfl ?_
      refine z_icmp_leN (a := (n1 - (n1 - h))) (b := h) 26 (by omega) (by omega) dX5_builtIn_13 (by decide) (fun c_10 => ?_) (fun c_10 => absurd c_10 (by omega))
      have hdv := s_dv_le k (n1 - h)
      refine z_iload_n 3 dX5_builtIn_26 rfl ?_
      refine z_iconst (v := 3) dX5_builtIn_27 (by decide) ?_
      refine z_iremN (a := (s_dv k (n1 - h))) (b := 3) (by omega) (by decide) (by decide) dX5_builtIn_28 ?_
      exact z_iret dX5_builtIn_29 rfl (Nat.le_of_ble_eq_true rfl) (Nat.le_of_ble_eq_true rfl) ⟨rfl, rfl⟩
    | succ q_5 ih_6 =>
      intro i_4 hb_7 lo_9  
      refine z_iload 4 dX5_builtIn_10 rfl ?_
      refine z_iload_n 2 dX5_builtIn_12 rfl ?_
      refine z_icmp_leN (a := (n1 - i_4)) (b := h) 26 (by omega) (by omega) dX5_builtIn_13 (by decide) (fun c_11 => absurd c_11 (by omega)) (fun c_11 => ?_)
      have hdv := s_dv_le k i_4
      refine z_iload_n 3 dX5_builtIn_16 rfl ?_
      refine z_iconst (v := 3) dX5_builtIn_17 (by decide) ?_
      refine z_idivN (a := (s_dv k i_4)) (b := 3) (by omega) (by decide) (by decide) dX5_builtIn_18 ?_
      refine z_istore_n (lv' := [(3, .int (nI (((s_dv k i_4) / 3)))), (0, .ref (L 99)), (1, .int (nI (k))), (2, .int (nI (h))), (4, .int (nI ((n1 - i_4))))]) dX5_builtIn_19 rfl (by decide) rfl ?_
      obtain ⟨x_12, ex_12⟩ : ∃ y : Int32, nI ((n1 - i_4)) + (-1) = y := ⟨_, rfl⟩
      refine z_iinc (v := x_12) (lv' := [(4, .int x_12), (3, .int (nI (((s_dv k i_4) / 3)))), (0, .ref (L 99)), (1, .int (nI (k))), (2, .int (nI (h)))]) 4 dX5_builtIn_20 rfl (ex_12) (by decide) rfl ?_
      refine z_goto 10 dX5_builtIn_23 (by decide) ?_
      have f_13 : nI (((s_dv k i_4) / 3)) = nI ((s_dv k (i_4 + 1))) := rfl
      have f_14 : x_12 = nI ((n1 - (i_4 + 1))) := by subst ex_12; rw [show n1 - i_4 = (n1 - (i_4 + 1)) + 1 by omega]; exact pk_m1 _
      subst f_14
      refine z_lv (lv' := [(0, .ref (L 99)), (1, .int (nI (k))), (2, .int (nI (h))), (3, .int (nI ((s_dv k (i_4 + 1))))), (4, .int (nI ((n1 - (i_4 + 1)))))]) [2, 3, 4, 1, 0] (by rw [← f_13]; rfl) ?_
      exact ih_6 (i_4 + 1) (by omega) (by omega)  
  have f_15 : nI (k) = nI ((s_dv k 0)) := rfl
  have f_16 : nI (n1) = nI ((n1 - 0)) := congrArg nI (by omega)
  refine z_lv (lv' := [(0, .ref (L 99)), (1, .int (nI (k))), (2, .int (nI (h))), (3, .int (nI ((s_dv k 0)))), (4, .int (nI ((n1 - 0))))]) [2, 3, 4, 1, 0] (by rw [← f_15, ← f_16]; rfl) ?_
  exact loop_8 ((n1 - h) - 0) 0 (by omega) (Nat.le_refl _)  
theorem t_builtIn {g : zG} {L : Nat → Nat} {I : Nat → Nat → Int32} {J : Nat → Nat → Int64} {Gb : Nat → Nat → Int32} {X : zX} (hL : tok g L) (k h : Nat) {nh : Nat} (hk : k < 2 ^ 30) (hh : h < nh) (hnh : nh ≤ 4) (h0 : I 10 0 = nI nh) : zN g m_X5_builtIn ({ frames := 1, cells := 0, slots := 0, locals := 20 } : Room) [.ref (L 99), .int (nI k), .int (nI h)] (tX g L I J Gb X) (fun rv X' => rv = some (.int (nI (s_bi nh k h))) ∧ X' = tX g L I J Gb X) := by
  obtain ⟨n1, rfl⟩ : ∃ n1, nh = n1 + 1 := ⟨nh - 1, by omega⟩
  exact t_builtIn_ hL k h n1 hk (by omega) (by omega) h0
set_option maxHeartbeats 4000000 in
theorem t_beds {g : zG} {L : Nat → Nat} {I : Nat → Nat → Int32} {J : Nat → Nat → Int64} {Gb : Nat → Nat → Int32} {X : zX} (hL : tok g L) {nh nd : Nat} {own : Nat → Nat} (hV : s_ok (I 10) nh nd own) {wv : Int32 → Int32 → Int32 → Int32 → Int32} (hlaw : s_law (I 10) (I 11) (I 12) wv) {now : Nat} (hw : I 24 0 = nI now) (hw2 : now < 2 ^ 29) (m h : Int32) : zN g m_X5_beds ({ frames := 8, cells := 0, slots := 0, locals := 184 } : Room) [.ref (L 99), .int m, .int h] (tX g L I J Gb X) (fun rv X' => rv = some (.int (s_beds nh (I 24) (fun q9 τ => decide ((s_go wv (I 10) (I 27) nh nd own now τ q9).1 1 = τ 1)) m h)) ∧ ∃ (I' : Nat → Nat → Int32) (Gb' : Nat → Nat → Int32), X' = tX g L I' J Gb' X ∧ tobs I I' ∧ I' 99 0 = 0) := by
  refine zN.of (by decide +kernel) (Nat.le_of_ble_eq_true rfl) rfl ?_
  refine z_lv (lv' := [(0, .ref (L 99)), (1, .int m), (2, .int h)]) [0, 1, 2] rfl ?_
  have hV9 := hV
  obtain ⟨h0, hnh, h1, hnd, hown⟩ := hV9
  refine z_aload_n 0 dX5_beds_0 rfl ?_
  refine z_iconst (v := 0) dX5_beds_1 (by decide) ?_
  refine tz_put (I' := (zs I 99 0 0)) 0 hL (by decide) q1593 rfl dX5_beds_2 ?_
  refine z_X (X' := (tX g L (tput (tco (zs I 99 0 0) (I 99 28) (I 99 29)) 987 (s_tau I)) J Gb X)) (by show tX g L (zs I 99 0 0) J Gb X = (tX g L (tput (tco (zs I 99 0 0) (I 99 28) (I 99 29)) 987 (s_tau I)) J Gb X); rw [show tput (tco (zs I 99 0 0) (I 99 28) (I 99 29)) 987 (s_tau I) = tco (zs I 99 0 0) (I 99 28) (I 99 29) from tput_tau (I := tco (zs I 99 0 0) (I 99 28) (I 99 29))]; exact congrArg (fun z => tX g L z J Gb X) (tco_self (I := (zs I 99 0 0))).symm) ?_
  by_cases hv : ((decide (1 ≤ m) && decide (m ≤ 36)) && (decide (h = zm1) || (decide (0 ≤ h) && decide (h < nI nh)))) = true
  · skip
    obtain ⟨hv1, hv2⟩ := Bool.and_eq_true_iff.mp hv
    obtain ⟨mm, hmm1, hmm, e_m⟩ := zwin 1 36 (by decide) hv1
    subst e_m
    refine z_iload_n 1 dX5_beds_5 rfl ?_
    refine z_iconst (v := 1) dX5_beds_6 (by decide) ?_
    refine z_bipush (v := 36) dX5_beds_7 (by decide) ?_
    refine z_callS (As := [.int (nI (mm)), .int 1, .int 36]) (t_within (nI (mm)) 1 36) q1771 q1772 q121 q1773 nm_X5_within rfl (Nat.le_of_ble_eq_true rfl) ⟨Nat.le_of_ble_eq_true rfl, Nat.le_of_ble_eq_true rfl⟩ dX5_beds_9 rfl rfl (Nat.le_of_ble_eq_true rfl) (Nat.le_of_ble_eq_true rfl) (fun v_1 X_2 hp_3 => ?_)
    obtain ⟨rfl, rfl⟩ := hp_3
    refine z_st (st' := [.int (zb (decide (1 ≤ nI (mm)) && decide (nI (mm) ≤ 36)))]) rfl ?_
    refine z_eq (y := 1) (zb_t hv1) ?_
    refine z_if_eq 28 dX5_beds_12 (by decide) (fun h_ => absurd h_ (by decide)) (fun h_ => ?_)
    refine z_iload_n 2 dX5_beds_15 rfl ?_
    refine z_iconst (v := zm1) dX5_beds_16 (by decide) ?_
    refine z_icmp_eq 31 dX5_beds_17 (by decide) (fun c_4 => ?_) (fun c_4 => ?_)
    · -- h = zm1
      refine z_iconst (v := 1) dX5_beds_31 (by decide) ?_
      refine z_istore_n (lv' := [(3, .int 1), (0, .ref (L 99)), (1, .int (nI (mm))), (2, .int h)]) dX5_beds_32 rfl (by decide) rfl ?_
      refine z_iconst (v := 0) dX5_beds_33 (by decide) ?_
      refine z_istore (lv' := [(4, .int 0), (3, .int 1), (0, .ref (L 99)), (1, .int (nI (mm))), (2, .int h)]) dX5_beds_34 (by decide) rfl ?_
      have loop_9 : ∀ (q_6 i_5 : Nat), i_5 + q_6 = nh → 0 ≤ i_5 → zZ g m_X5_beds (fun rv X' => rv = some (.int (s_beds nh (I 24) (fun q9 τ => decide ((s_go wv (I 10) (I 27) nh nd own now τ q9).1 1 = τ 1)) (nI (mm)) h)) ∧ ∃ (I' : Nat → Nat → Int32) (Gb' : Nat → Nat → Int32), X' = tX g L I' J Gb' X ∧ tobs I I' ∧ I' 99 0 = 0, zno, ({ frames := 8, cells := 0, slots := 0, locals := 184 } : Room)) 0 0 (tX g L (tput (tco (zs I 99 0 0) (I 99 28) (I 99 29)) 987 (s_tau I)) J Gb X) 36 [(0, .ref (L 99)), (1, .int (nI (mm))), (2, .int h), (3, .int (nI ((3 ^ i_5)))), (4, .int (nI (i_5)))] [] := by
        intro q_6
        induction q_6 with
        | zero =>
          intro i_5 hb_8 lo_10  
          obtain rfl : nh = i_5 := by omega
          refine z_iload 4 dX5_beds_36 rfl ?_
          refine z_aload_n 0 dX5_beds_38 rfl ?_
          refine z_callV (As := []) (t_houses (I := (tput (tco (zs I 99 0 0) (I 99 28) (I 99 29)) 987 (s_tau I))) hL h0) q1585 q1587 qs56 q121 q1588 nm_X5_houses (tX_obj hL) rfl rfl rfl (Nat.le_of_ble_eq_true rfl) ⟨Nat.le_of_ble_eq_true rfl, Nat.le_of_ble_eq_true rfl⟩ dX5_beds_39 rfl rfl (Nat.le_of_ble_eq_true rfl) (Nat.le_of_ble_eq_true rfl) (fun v_11 X_12 hp_13 => ?_)
          obtain ⟨rfl, rfl⟩ := hp_13
          refine z_st (st' := [.int (nI (nh)), .int (nI (nh))]) rfl ?_
          refine z_icmp_geN (a := nh) (b := nh) 55 (by omega) (by omega) dX5_beds_42 (by decide) (fun c_14 => ?_) (fun c_14 => absurd c_14 (by omega))
          obtain ⟨al, hal⟩ : ∃ al, 3 ^ nh = al := ⟨_, rfl⟩
          have hal2 : al ≤ 81 := hal ▸ pow3_le nh hnh
          refine z_lv (lv' := [(0, .ref (L 99)), (1, .int (nI (mm))), (2, .int h), (3, .int (nI (al))), (4, .int (nI (nh)))]) [0, 1, 2, 3, 4] (by rw [hal]; rfl) ?_
          refine z_iconst (v := zm1) dX5_beds_55 (by decide) ?_
          refine z_istore (lv' := [(4, .int zm1), (0, .ref (L 99)), (1, .int (nI (mm))), (2, .int h), (3, .int (nI (al)))]) dX5_beds_56 (by decide) rfl ?_
          refine z_iconst (v := 0) dX5_beds_58 (by decide) ?_
          refine z_istore (lv' := [(5, .int 0), (4, .int zm1), (0, .ref (L 99)), (1, .int (nI (mm))), (2, .int h), (3, .int (nI (al)))]) dX5_beds_59 (by decide) rfl ?_
          refine z_iconst (v := 0) dX5_beds_61 (by decide) ?_
          refine z_istore (lv' := [(6, .int 0), (5, .int 0), (4, .int zm1), (0, .ref (L 99)), (1, .int (nI (mm))), (2, .int h), (3, .int (nI (al)))]) dX5_beds_62 (by decide) rfl ?_
          have loop_19 : ∀ (q_16 i_15 : Nat), i_15 + q_16 = al → 0 ≤ i_15 → ∀ (Gb_20 : Nat → Nat → Int32), ∀ (c_21 : Int32), ∀ (o_22 : Int32), ∀ (t_23 : Nat → Int32), zZ g m_X5_beds (fun rv X' => rv = some (.int (s_beds nh (I 24) (fun q9 τ => decide ((s_go wv (I 10) (I 27) nh nd own now τ q9).1 1 = τ 1)) (nI (mm)) h)) ∧ ∃ (I' : Nat → Nat → Int32) (Gb' : Nat → Nat → Int32), X' = tX g L I' J Gb' X ∧ tobs I I' ∧ I' 99 0 = 0, zno, ({ frames := 8, cells := 0, slots := 0, locals := 184 } : Room)) 0 0 (tX g L (tput (tco (zs I 99 0 0) c_21 o_22) 987 t_23) J Gb_20 X) 64 [(0, .ref (L 99)), (1, .int (nI (mm))), (2, .int h), (3, .int (nI (al))), (4, .int ((s_bd nh (I 24) (fun τ => decide ((s_go wv (I 10) (I 27) nh nd own now τ mm).1 1 = τ 1)) i_15).1)), (5, .int ((s_bd nh (I 24) (fun τ => decide ((s_go wv (I 10) (I 27) nh nd own now τ mm).1 1 = τ 1)) i_15).2)), (6, .int (nI (i_15)))] [] := by
            intro q_16
            induction q_16 with
            | zero =>
              intro i_15 hb_18 lo_24 Gb_20 c_21 o_22 t_23 
              obtain rfl : al = i_15 := by omega
              refine z_iload 6 dX5_beds_64 rfl ?_
              refine z_iload_n 3 dX5_beds_66 rfl ?_
              refine z_icmp_geN (a := al) (b := al) 227 (by omega) (by omega) dX5_beds_67 (by decide) (fun c_25 => ?_) (fun c_25 => absurd c_25 (by omega))
              refine z_iload 4 dX5_beds_227 rfl ?_
              refine z_if_ge 237 dX5_beds_229 (by decide) (fun c_26 => ?_) (fun c_26 => ?_)
              · -- 0 ≤ (s_bd nh (I 24) (fun τ => decide ((s_go wv (I 10) (I 27) nh nd own now τ mm).1 1 = τ 1)) al).1
                have c_26' := Int32.not_lt.mpr c_26
                refine z_iload_n 2 dX5_beds_237 rfl ?_
                refine z_iconst (v := zm1) dX5_beds_238 (by decide) ?_
                refine z_icmp_ne 247 dX5_beds_239 (by decide) (fun c_ => absurd c_4 c_) (fun _ => ?_)
                refine z_iload 5 dX5_beds_242 rfl ?_
                refine z_goto 254 dX5_beds_244 (by decide) ?_
                exact z_iret dX5_beds_254 rfl (Nat.le_of_ble_eq_true rfl) (Nat.le_of_ble_eq_true rfl) ⟨congrArg some (congrArg Value.int (by unfold s_beds; rw [hv, ncl (by omega), hal]; simp [c_4, c_26, c_26'])), (tput (tco (zs I 99 0 0) c_21 o_22) 987 t_23), Gb_20, rfl, (tobs_put (tobs_co (tobs_zs tobs_rf rfl)) (by decide)), rfl⟩
              · -- ¬ 0 ≤ (s_bd nh (I 24) (fun τ => decide ((s_go wv (I 10) (I 27) nh nd own now τ mm).1 1 = τ 1)) al).1
                have c_26' := Int32.not_le.mp c_26
                refine z_bipush (v := zm2) dX5_beds_232 (by decide) ?_
                refine z_goto 254 dX5_beds_234 (by decide) ?_
                exact z_iret dX5_beds_254 rfl (Nat.le_of_ble_eq_true rfl) (Nat.le_of_ble_eq_true rfl) ⟨congrArg some (congrArg Value.int (by unfold s_beds; rw [hv, ncl (by omega), hal]; simp [c_4, c_26, c_26'])), (tput (tco (zs I 99 0 0) c_21 o_22) 987 t_23), Gb_20, rfl, (tobs_put (tobs_co (tobs_zs tobs_rf rfl)) (by decide)), rfl⟩
            | succ q_16 ih_17 =>
              intro i_15 hb_18 lo_24 Gb_20 c_21 o_22 t_23 
              refine z_iload 6 dX5_beds_64 rfl ?_
              refine z_iload_n 3 dX5_beds_66 rfl ?_
              refine z_icmp_geN (a := i_15) (b := al) 227 (by omega) (by omega) dX5_beds_67 (by decide) (fun c_27 => absurd c_27 (by omega)) (fun c_27 => ?_)
              refine z_aload_n 0 dX5_beds_70 rfl ?_
              refine z_callV (As := []) (t_triesNow (I := (tco (zs I 99 0 0) c_21 o_22)) (τ := t_23) hL) q1928 q1930 qs100 q121 q1931 nm_X5_triesNow (tX_obj hL) rfl rfl rfl (Nat.le_of_ble_eq_true rfl) ⟨Nat.le_of_ble_eq_true rfl, Nat.le_of_ble_eq_true rfl⟩ dX5_beds_71 rfl rfl (Nat.le_of_ble_eq_true rfl) (Nat.le_of_ble_eq_true rfl) (fun v_28 X_29 hp_30 => ?_)
              obtain ⟨rfl, rfl⟩ := hp_30
              refine z_st (st' := []) rfl ?_
              refine z_iconst (v := 0) dX5_beds_74 (by decide) ?_
              refine z_istore (lv' := [(7, .int 0), (0, .ref (L 99)), (1, .int (nI (mm))), (2, .int h), (3, .int (nI (al))), (4, .int ((s_bd nh (I 24) (fun τ => decide ((s_go wv (I 10) (I 27) nh nd own now τ mm).1 1 = τ 1)) i_15).1)), (5, .int ((s_bd nh (I 24) (fun τ => decide ((s_go wv (I 10) (I 27) nh nd own now τ mm).1 1 = τ 1)) i_15).2)), (6, .int (nI (i_15)))]) dX5_beds_75 (by decide) rfl ?_
              refine z_iconst (v := 1) dX5_beds_77 (by decide) ?_
              refine z_istore (lv' := [(8, .int 1), (7, .int 0), (0, .ref (L 99)), (1, .int (nI (mm))), (2, .int h), (3, .int (nI (al))), (4, .int ((s_bd nh (I 24) (fun τ => decide ((s_go wv (I 10) (I 27) nh nd own now τ mm).1 1 = τ 1)) i_15).1)), (5, .int ((s_bd nh (I 24) (fun τ => decide ((s_go wv (I 10) (I 27) nh nd own now τ mm).1 1 = τ 1)) i_15).2)), (6, .int (nI (i_15)))]) dX5_beds_78 (by decide) rfl ?_
              refine z_iconst (v := 0) dX5_beds_80 (by decide) ?_
              refine z_istore (lv' := [(9, .int 0), (8, .int 1), (7, .int 0), (0, .ref (L 99)), (1, .int (nI (mm))), (2, .int h), (3, .int (nI (al))), (4, .int ((s_bd nh (I 24) (fun τ => decide ((s_go wv (I 10) (I 27) nh nd own now τ mm).1 1 = τ 1)) i_15).1)), (5, .int ((s_bd nh (I 24) (fun τ => decide ((s_go wv (I 10) (I 27) nh nd own now τ mm).1 1 = τ 1)) i_15).2)), (6, .int (nI (i_15)))]) dX5_beds_81 (by decide) rfl ?_
              have loop_35 : ∀ (q_32 i_31 : Nat), i_31 + q_32 = nh → 0 ≤ i_31 → zZ g m_X5_beds (fun rv X' => rv = some (.int (s_beds nh (I 24) (fun q9 τ => decide ((s_go wv (I 10) (I 27) nh nd own now τ q9).1 1 = τ 1)) (nI (mm)) h)) ∧ ∃ (I' : Nat → Nat → Int32) (Gb' : Nat → Nat → Int32), X' = tX g L I' J Gb' X ∧ tobs I I' ∧ I' 99 0 = 0, zno, ({ frames := 8, cells := 0, slots := 0, locals := 184 } : Room)) 0 0 (tX g L (tput (tco (zs I 99 0 0) c_21 o_22) 987 (s_bst nh i_15 (I 24) i_31)) J Gb_20 X) 83 [(0, .ref (L 99)), (1, .int (nI (mm))), (2, .int h), (3, .int (nI (al))), (4, .int ((s_bd nh (I 24) (fun τ => decide ((s_go wv (I 10) (I 27) nh nd own now τ mm).1 1 = τ 1)) i_15).1)), (5, .int ((s_bd nh (I 24) (fun τ => decide ((s_go wv (I 10) (I 27) nh nd own now τ mm).1 1 = τ 1)) i_15).2)), (6, .int (nI (i_15))), (7, .int (s_bsum nh i_15 i_31)), (8, .int (zb (s_bmay nh i_15 (I 24) i_31))), (9, .int (nI (i_31)))] [] := by
                intro q_32
                induction q_32 with
                | zero =>
                  intro i_31 hb_34 lo_36  
                  obtain rfl : nh = i_31 := by omega
                  refine z_iload 9 dX5_beds_83 rfl ?_
                  refine z_aload_n 0 dX5_beds_85 rfl ?_
                  refine z_callV (As := []) (t_houses (I := (tput (tco (zs I 99 0 0) c_21 o_22) 987 (s_bst nh i_15 (I 24) nh))) hL h0) q1585 q1587 qs56 q121 q1588 nm_X5_houses (tX_obj hL) rfl rfl rfl (Nat.le_of_ble_eq_true rfl) ⟨Nat.le_of_ble_eq_true rfl, Nat.le_of_ble_eq_true rfl⟩ dX5_beds_86 rfl rfl (Nat.le_of_ble_eq_true rfl) (Nat.le_of_ble_eq_true rfl) (fun v_37 X_38 hp_39 => ?_)
                  obtain ⟨rfl, rfl⟩ := hp_39
                  refine z_st (st' := [.int (nI (nh)), .int (nI (nh))]) rfl ?_
                  refine z_icmp_geN (a := nh) (b := nh) 161 (by omega) (by omega) dX5_beds_89 (by decide) (fun c_40 => ?_) (fun c_40 => absurd c_40 (by omega))
                  refine z_iload 8 dX5_beds_161 rfl ?_
                  refine z_if_eqb 190 dX5_beds_163 (by decide) (fun c_41 => ?_) (fun c_41 => ?_)
                  · -- s_bmay nh i_15 (I 24) nh = false
                    refine z_iconst (v := 0) dX5_beds_190 (by decide) ?_
                    refine z_istore (lv' := [(9, .int 0), (0, .ref (L 99)), (1, .int (nI (mm))), (2, .int h), (3, .int (nI (al))), (4, .int ((s_bd nh (I 24) (fun τ => decide ((s_go wv (I 10) (I 27) nh nd own now τ mm).1 1 = τ 1)) i_15).1)), (5, .int ((s_bd nh (I 24) (fun τ => decide ((s_go wv (I 10) (I 27) nh nd own now τ mm).1 1 = τ 1)) i_15).2)), (6, .int (nI (i_15))), (7, .int (s_bsum nh i_15 nh)), (8, .int (zb (s_bmay nh i_15 (I 24) nh)))]) dX5_beds_191 (by decide) rfl ?_
                    refine z_iload 0 dX5_beds_193 rfl ?_
                    refine z_if_eq 203 dX5_beds_195 (by decide) (fun h_ => ?_) (fun h_ => absurd h_ (by decide))
                    refine z_iload 5 dX5_beds_203 rfl ?_
                    refine z_istore (lv' := [(4, .int ((s_bd nh (I 24) (fun τ => decide ((s_go wv (I 10) (I 27) nh nd own now τ mm).1 1 = τ 1)) i_15).1)), (9, .int 0), (0, .ref (L 99)), (1, .int (nI (mm))), (2, .int h), (3, .int (nI (al))), (5, .int ((s_bd nh (I 24) (fun τ => decide ((s_go wv (I 10) (I 27) nh nd own now τ mm).1 1 = τ 1)) i_15).2)), (6, .int (nI (i_15))), (7, .int (s_bsum nh i_15 nh)), (8, .int (zb (s_bmay nh i_15 (I 24) nh)))]) dX5_beds_205 (by decide) rfl ?_
                    refine z_iload 1 dX5_beds_207 rfl ?_
                    refine z_if_eq 217 dX5_beds_209 (by decide) (fun h_ => ?_) (fun h_ => absurd h_ (by decide))
                    refine z_iload 6 dX5_beds_217 rfl ?_
                    refine z_istore (lv' := [(5, .int ((s_bd nh (I 24) (fun τ => decide ((s_go wv (I 10) (I 27) nh nd own now τ mm).1 1 = τ 1)) i_15).2)), (4, .int ((s_bd nh (I 24) (fun τ => decide ((s_go wv (I 10) (I 27) nh nd own now τ mm).1 1 = τ 1)) i_15).1)), (9, .int 0), (0, .ref (L 99)), (1, .int (nI (mm))), (2, .int h), (3, .int (nI (al))), (6, .int (nI (i_15))), (7, .int (s_bsum nh i_15 nh)), (8, .int (zb (s_bmay nh i_15 (I 24) nh)))]) dX5_beds_219 (by decide) rfl ?_
                    refine z_iinc (v := nI (i_15 + 1)) (lv' := [(6, .int (nI (i_15 + 1))), (5, .int ((s_bd nh (I 24) (fun τ => decide ((s_go wv (I 10) (I 27) nh nd own now τ mm).1 1 = τ 1)) i_15).2)), (4, .int ((s_bd nh (I 24) (fun τ => decide ((s_go wv (I 10) (I 27) nh nd own now τ mm).1 1 = τ 1)) i_15).1)), (9, .int 0), (0, .ref (L 99)), (1, .int (nI (mm))), (2, .int h), (3, .int (nI (al))), (7, .int (s_bsum nh i_15 nh)), (8, .int (zb (s_bmay nh i_15 (I 24) nh)))]) 7 dX5_beds_221 rfl (nI_1 _) (by decide) rfl ?_
                    refine z_goto 64 dX5_beds_224 (by decide) ?_
                    have f_42 : (s_bd nh (I 24) (fun τ => decide ((s_go wv (I 10) (I 27) nh nd own now τ mm).1 1 = τ 1)) i_15).1 = (s_bd nh (I 24) (fun τ => decide ((s_go wv (I 10) (I 27) nh nd own now τ mm).1 1 = τ 1)) (i_15 + 1)).1 := by skip; simp [s_bd, c_4, c_14, c_27, c_40, c_41]
                    have f_43 : (s_bd nh (I 24) (fun τ => decide ((s_go wv (I 10) (I 27) nh nd own now τ mm).1 1 = τ 1)) i_15).2 = (s_bd nh (I 24) (fun τ => decide ((s_go wv (I 10) (I 27) nh nd own now τ mm).1 1 = τ 1)) (i_15 + 1)).2 := by skip; simp [s_bd, c_4, c_14, c_27, c_40, c_41]
                    refine z_lv (lv' := [(0, .ref (L 99)), (1, .int (nI (mm))), (2, .int h), (3, .int (nI (al))), (4, .int ((s_bd nh (I 24) (fun τ => decide ((s_go wv (I 10) (I 27) nh nd own now τ mm).1 1 = τ 1)) (i_15 + 1)).1)), (5, .int ((s_bd nh (I 24) (fun τ => decide ((s_go wv (I 10) (I 27) nh nd own now τ mm).1 1 = τ 1)) (i_15 + 1)).2)), (6, .int (nI (i_15 + 1)))]) [4, 5, 6, 7, 2, 1, 0] (by rw [← f_42, ← f_43]; rfl) ?_
                    exact ih_17 (i_15 + 1) (by omega) (by omega) _ _ _ _ 
                  · -- s_bmay nh i_15 (I 24) nh = true
                    refine z_iload 4 dX5_beds_166 rfl ?_
                    refine z_if_lt 178 dX5_beds_168 (by decide) (fun c_44 => ?_) (fun c_44 => ?_)
                    · -- (s_bd nh (I 24) (fun τ => decide ((s_go wv (I 10) (I 27) nh nd own now τ mm).1 1 = τ 1)) i_15).1 < 0
                      have c_44' := Int32.not_le.mpr c_44
                      refine z_aload_n 0 dX5_beds_178 rfl ?_
                      refine z_iload_n 1 dX5_beds_179 rfl ?_
                      refine z_callV (As := [.int (nI (mm))]) (t_isCalm (I := (zs I 99 0 0)) (τ := (s_bst nh i_15 (I 24) nh)) (c := c_21) (o := o_22) hL hV hlaw mm (by omega) ((s_bst_0 _).trans hw) (by omega)) q1964 q1966 qs103 q121 q1967 nm_X5_isCalm (tX_obj hL) rfl rfl rfl (Nat.le_of_ble_eq_true rfl) ⟨Nat.le_of_ble_eq_true rfl, Nat.le_of_ble_eq_true rfl⟩ dX5_beds_180 rfl rfl (Nat.le_of_ble_eq_true rfl) (Nat.le_of_ble_eq_true rfl) (fun v_48 X_49 hp_50 => ?_)
                      obtain ⟨rfl, c_45, o_46, Gb_47, rfl⟩ := hp_50
                      refine z_st (st' := [.int (zb (decide ((s_go wv (I 10) (I 27) nh nd own now (s_bst nh i_15 (I 24) nh) mm).1 1 = (s_bst nh i_15 (I 24) nh) 1)))]) rfl ?_
                      refine z_if_eqb 190 dX5_beds_183 (by decide) (fun c_51 => ?_) (fun c_51 => ?_)
                      · -- decide ((s_go wv (I 10) (I 27) nh nd own now (s_bst nh i_15 (I 24) nh) mm).1 1 = (s_bst nh i_15 (I 24) nh) 1) = false
                        refine z_iconst (v := 0) dX5_beds_190 (by decide) ?_
                        refine z_istore (lv' := [(9, .int 0), (0, .ref (L 99)), (1, .int (nI (mm))), (2, .int h), (3, .int (nI (al))), (4, .int ((s_bd nh (I 24) (fun τ => decide ((s_go wv (I 10) (I 27) nh nd own now τ mm).1 1 = τ 1)) i_15).1)), (5, .int ((s_bd nh (I 24) (fun τ => decide ((s_go wv (I 10) (I 27) nh nd own now τ mm).1 1 = τ 1)) i_15).2)), (6, .int (nI (i_15))), (7, .int (s_bsum nh i_15 nh)), (8, .int (zb (s_bmay nh i_15 (I 24) nh)))]) dX5_beds_191 (by decide) rfl ?_
                        refine z_iload 0 dX5_beds_193 rfl ?_
                        refine z_if_eq 203 dX5_beds_195 (by decide) (fun h_ => ?_) (fun h_ => absurd h_ (by decide))
                        refine z_iload 5 dX5_beds_203 rfl ?_
                        refine z_istore (lv' := [(4, .int ((s_bd nh (I 24) (fun τ => decide ((s_go wv (I 10) (I 27) nh nd own now τ mm).1 1 = τ 1)) i_15).1)), (9, .int 0), (0, .ref (L 99)), (1, .int (nI (mm))), (2, .int h), (3, .int (nI (al))), (5, .int ((s_bd nh (I 24) (fun τ => decide ((s_go wv (I 10) (I 27) nh nd own now τ mm).1 1 = τ 1)) i_15).2)), (6, .int (nI (i_15))), (7, .int (s_bsum nh i_15 nh)), (8, .int (zb (s_bmay nh i_15 (I 24) nh)))]) dX5_beds_205 (by decide) rfl ?_
                        refine z_iload 1 dX5_beds_207 rfl ?_
                        refine z_if_eq 217 dX5_beds_209 (by decide) (fun h_ => ?_) (fun h_ => absurd h_ (by decide))
                        refine z_iload 6 dX5_beds_217 rfl ?_
                        refine z_istore (lv' := [(5, .int ((s_bd nh (I 24) (fun τ => decide ((s_go wv (I 10) (I 27) nh nd own now τ mm).1 1 = τ 1)) i_15).2)), (4, .int ((s_bd nh (I 24) (fun τ => decide ((s_go wv (I 10) (I 27) nh nd own now τ mm).1 1 = τ 1)) i_15).1)), (9, .int 0), (0, .ref (L 99)), (1, .int (nI (mm))), (2, .int h), (3, .int (nI (al))), (6, .int (nI (i_15))), (7, .int (s_bsum nh i_15 nh)), (8, .int (zb (s_bmay nh i_15 (I 24) nh)))]) dX5_beds_219 (by decide) rfl ?_
                        refine z_iinc (v := nI (i_15 + 1)) (lv' := [(6, .int (nI (i_15 + 1))), (5, .int ((s_bd nh (I 24) (fun τ => decide ((s_go wv (I 10) (I 27) nh nd own now τ mm).1 1 = τ 1)) i_15).2)), (4, .int ((s_bd nh (I 24) (fun τ => decide ((s_go wv (I 10) (I 27) nh nd own now τ mm).1 1 = τ 1)) i_15).1)), (9, .int 0), (0, .ref (L 99)), (1, .int (nI (mm))), (2, .int h), (3, .int (nI (al))), (7, .int (s_bsum nh i_15 nh)), (8, .int (zb (s_bmay nh i_15 (I 24) nh)))]) 7 dX5_beds_221 rfl (nI_1 _) (by decide) rfl ?_
                        refine z_goto 64 dX5_beds_224 (by decide) ?_
                        have f_52 : (s_bd nh (I 24) (fun τ => decide ((s_go wv (I 10) (I 27) nh nd own now τ mm).1 1 = τ 1)) i_15).1 = (s_bd nh (I 24) (fun τ => decide ((s_go wv (I 10) (I 27) nh nd own now τ mm).1 1 = τ 1)) (i_15 + 1)).1 := by skip; simp [s_bd, c_4, c_14, c_27, c_40, c_41, c_44, c_44', c_51]
                        have f_53 : (s_bd nh (I 24) (fun τ => decide ((s_go wv (I 10) (I 27) nh nd own now τ mm).1 1 = τ 1)) i_15).2 = (s_bd nh (I 24) (fun τ => decide ((s_go wv (I 10) (I 27) nh nd own now τ mm).1 1 = τ 1)) (i_15 + 1)).2 := by skip; simp [s_bd, c_4, c_14, c_27, c_40, c_41, c_44, c_44', c_51]
                        refine z_lv (lv' := [(0, .ref (L 99)), (1, .int (nI (mm))), (2, .int h), (3, .int (nI (al))), (4, .int ((s_bd nh (I 24) (fun τ => decide ((s_go wv (I 10) (I 27) nh nd own now τ mm).1 1 = τ 1)) (i_15 + 1)).1)), (5, .int ((s_bd nh (I 24) (fun τ => decide ((s_go wv (I 10) (I 27) nh nd own now τ mm).1 1 = τ 1)) (i_15 + 1)).2)), (6, .int (nI (i_15 + 1)))]) [4, 5, 6, 7, 2, 1, 0] (by rw [← f_52, ← f_53]; rfl) ?_
                        exact ih_17 (i_15 + 1) (by omega) (by omega) _ _ _ _ 
                      · -- decide ((s_go wv (I 10) (I 27) nh nd own now (s_bst nh i_15 (I 24) nh) mm).1 1 = (s_bst nh i_15 (I 24) nh) 1) = true
                        refine z_iconst (v := 1) dX5_beds_186 (by decide) ?_
                        refine z_goto 191 dX5_beds_187 (by decide) ?_
                        refine z_istore (lv' := [(9, .int 1), (0, .ref (L 99)), (1, .int (nI (mm))), (2, .int h), (3, .int (nI (al))), (4, .int ((s_bd nh (I 24) (fun τ => decide ((s_go wv (I 10) (I 27) nh nd own now τ mm).1 1 = τ 1)) i_15).1)), (5, .int ((s_bd nh (I 24) (fun τ => decide ((s_go wv (I 10) (I 27) nh nd own now τ mm).1 1 = τ 1)) i_15).2)), (6, .int (nI (i_15))), (7, .int (s_bsum nh i_15 nh)), (8, .int (zb (s_bmay nh i_15 (I 24) nh)))]) dX5_beds_191 (by decide) rfl ?_
                        refine z_iload 0 dX5_beds_193 rfl ?_
                        refine z_if_eq 203 dX5_beds_195 (by decide) (fun h_ => absurd h_ (by decide)) (fun h_ => ?_)
                        refine z_iload 7 dX5_beds_198 rfl ?_
                        refine z_goto 205 dX5_beds_200 (by decide) ?_
                        refine z_istore (lv' := [(4, .int (nI (i_15))), (9, .int 1), (0, .ref (L 99)), (1, .int (nI (mm))), (2, .int h), (3, .int (nI (al))), (5, .int ((s_bd nh (I 24) (fun τ => decide ((s_go wv (I 10) (I 27) nh nd own now τ mm).1 1 = τ 1)) i_15).2)), (6, .int (nI (i_15))), (7, .int (s_bsum nh i_15 nh)), (8, .int (zb (s_bmay nh i_15 (I 24) nh)))]) dX5_beds_205 (by decide) rfl ?_
                        refine z_iload 1 dX5_beds_207 rfl ?_
                        refine z_if_eq 217 dX5_beds_209 (by decide) (fun h_ => absurd h_ (by decide)) (fun h_ => ?_)
                        refine z_iload 8 dX5_beds_212 rfl ?_
                        refine z_goto 219 dX5_beds_214 (by decide) ?_
                        refine z_istore (lv' := [(5, .int (s_bsum nh i_15 nh)), (4, .int (nI (i_15))), (9, .int 1), (0, .ref (L 99)), (1, .int (nI (mm))), (2, .int h), (3, .int (nI (al))), (6, .int (nI (i_15))), (7, .int (s_bsum nh i_15 nh)), (8, .int (zb (s_bmay nh i_15 (I 24) nh)))]) dX5_beds_219 (by decide) rfl ?_
                        refine z_iinc (v := nI (i_15 + 1)) (lv' := [(6, .int (nI (i_15 + 1))), (5, .int (s_bsum nh i_15 nh)), (4, .int (nI (i_15))), (9, .int 1), (0, .ref (L 99)), (1, .int (nI (mm))), (2, .int h), (3, .int (nI (al))), (7, .int (s_bsum nh i_15 nh)), (8, .int (zb (s_bmay nh i_15 (I 24) nh)))]) 7 dX5_beds_221 rfl (nI_1 _) (by decide) rfl ?_
                        refine z_goto 64 dX5_beds_224 (by decide) ?_
                        have f_54 : nI (i_15) = (s_bd nh (I 24) (fun τ => decide ((s_go wv (I 10) (I 27) nh nd own now τ mm).1 1 = τ 1)) (i_15 + 1)).1 := by skip; simp [s_bd, c_4, c_14, c_27, c_40, c_41, c_44, c_44', c_51]
                        have f_55 : s_bsum nh i_15 nh = (s_bd nh (I 24) (fun τ => decide ((s_go wv (I 10) (I 27) nh nd own now τ mm).1 1 = τ 1)) (i_15 + 1)).2 := by skip; simp [s_bd, c_4, c_14, c_27, c_40, c_41, c_44, c_44', c_51]
                        refine z_lv (lv' := [(0, .ref (L 99)), (1, .int (nI (mm))), (2, .int h), (3, .int (nI (al))), (4, .int ((s_bd nh (I 24) (fun τ => decide ((s_go wv (I 10) (I 27) nh nd own now τ mm).1 1 = τ 1)) (i_15 + 1)).1)), (5, .int ((s_bd nh (I 24) (fun τ => decide ((s_go wv (I 10) (I 27) nh nd own now τ mm).1 1 = τ 1)) (i_15 + 1)).2)), (6, .int (nI (i_15 + 1)))]) [4, 5, 6, 7, 2, 1, 0] (by rw [← f_54, ← f_55]; rfl) ?_
                        exact ih_17 (i_15 + 1) (by omega) (by omega) _ _ _ _ 
                    · -- ¬ (s_bd nh (I 24) (fun τ => decide ((s_go wv (I 10) (I 27) nh nd own now τ mm).1 1 = τ 1)) i_15).1 < 0
                      have c_44' := Int32.not_lt.mp c_44
                      refine z_iload 7 dX5_beds_171 rfl ?_
                      refine z_iload 5 dX5_beds_173 rfl ?_
                      refine z_icmp_ge 190 dX5_beds_175 (by decide) (fun c_56 => ?_) (fun c_56 => ?_)
                      · -- (s_bd nh (I 24) (fun τ => decide ((s_go wv (I 10) (I 27) nh nd own now τ mm).1 1 = τ 1)) i_15).2 ≤ s_bsum nh i_15 nh
                        have c_56' := Int32.not_lt.mpr c_56
                        refine z_iconst (v := 0) dX5_beds_190 (by decide) ?_
                        refine z_istore (lv' := [(9, .int 0), (0, .ref (L 99)), (1, .int (nI (mm))), (2, .int h), (3, .int (nI (al))), (4, .int ((s_bd nh (I 24) (fun τ => decide ((s_go wv (I 10) (I 27) nh nd own now τ mm).1 1 = τ 1)) i_15).1)), (5, .int ((s_bd nh (I 24) (fun τ => decide ((s_go wv (I 10) (I 27) nh nd own now τ mm).1 1 = τ 1)) i_15).2)), (6, .int (nI (i_15))), (7, .int (s_bsum nh i_15 nh)), (8, .int (zb (s_bmay nh i_15 (I 24) nh)))]) dX5_beds_191 (by decide) rfl ?_
                        refine z_iload 0 dX5_beds_193 rfl ?_
                        refine z_if_eq 203 dX5_beds_195 (by decide) (fun h_ => ?_) (fun h_ => absurd h_ (by decide))
                        refine z_iload 5 dX5_beds_203 rfl ?_
                        refine z_istore (lv' := [(4, .int ((s_bd nh (I 24) (fun τ => decide ((s_go wv (I 10) (I 27) nh nd own now τ mm).1 1 = τ 1)) i_15).1)), (9, .int 0), (0, .ref (L 99)), (1, .int (nI (mm))), (2, .int h), (3, .int (nI (al))), (5, .int ((s_bd nh (I 24) (fun τ => decide ((s_go wv (I 10) (I 27) nh nd own now τ mm).1 1 = τ 1)) i_15).2)), (6, .int (nI (i_15))), (7, .int (s_bsum nh i_15 nh)), (8, .int (zb (s_bmay nh i_15 (I 24) nh)))]) dX5_beds_205 (by decide) rfl ?_
                        refine z_iload 1 dX5_beds_207 rfl ?_
                        refine z_if_eq 217 dX5_beds_209 (by decide) (fun h_ => ?_) (fun h_ => absurd h_ (by decide))
                        refine z_iload 6 dX5_beds_217 rfl ?_
                        refine z_istore (lv' := [(5, .int ((s_bd nh (I 24) (fun τ => decide ((s_go wv (I 10) (I 27) nh nd own now τ mm).1 1 = τ 1)) i_15).2)), (4, .int ((s_bd nh (I 24) (fun τ => decide ((s_go wv (I 10) (I 27) nh nd own now τ mm).1 1 = τ 1)) i_15).1)), (9, .int 0), (0, .ref (L 99)), (1, .int (nI (mm))), (2, .int h), (3, .int (nI (al))), (6, .int (nI (i_15))), (7, .int (s_bsum nh i_15 nh)), (8, .int (zb (s_bmay nh i_15 (I 24) nh)))]) dX5_beds_219 (by decide) rfl ?_
                        refine z_iinc (v := nI (i_15 + 1)) (lv' := [(6, .int (nI (i_15 + 1))), (5, .int ((s_bd nh (I 24) (fun τ => decide ((s_go wv (I 10) (I 27) nh nd own now τ mm).1 1 = τ 1)) i_15).2)), (4, .int ((s_bd nh (I 24) (fun τ => decide ((s_go wv (I 10) (I 27) nh nd own now τ mm).1 1 = τ 1)) i_15).1)), (9, .int 0), (0, .ref (L 99)), (1, .int (nI (mm))), (2, .int h), (3, .int (nI (al))), (7, .int (s_bsum nh i_15 nh)), (8, .int (zb (s_bmay nh i_15 (I 24) nh)))]) 7 dX5_beds_221 rfl (nI_1 _) (by decide) rfl ?_
                        refine z_goto 64 dX5_beds_224 (by decide) ?_
                        have f_57 : (s_bd nh (I 24) (fun τ => decide ((s_go wv (I 10) (I 27) nh nd own now τ mm).1 1 = τ 1)) i_15).1 = (s_bd nh (I 24) (fun τ => decide ((s_go wv (I 10) (I 27) nh nd own now τ mm).1 1 = τ 1)) (i_15 + 1)).1 := by skip; simp [s_bd, c_14, c_27, c_40, c_41, c_44, c_44', c_56, c_56']
                        have f_58 : (s_bd nh (I 24) (fun τ => decide ((s_go wv (I 10) (I 27) nh nd own now τ mm).1 1 = τ 1)) i_15).2 = (s_bd nh (I 24) (fun τ => decide ((s_go wv (I 10) (I 27) nh nd own now τ mm).1 1 = τ 1)) (i_15 + 1)).2 := by skip; simp [s_bd, c_14, c_27, c_40, c_41, c_44, c_44', c_56, c_56']
                        refine z_lv (lv' := [(0, .ref (L 99)), (1, .int (nI (mm))), (2, .int h), (3, .int (nI (al))), (4, .int ((s_bd nh (I 24) (fun τ => decide ((s_go wv (I 10) (I 27) nh nd own now τ mm).1 1 = τ 1)) (i_15 + 1)).1)), (5, .int ((s_bd nh (I 24) (fun τ => decide ((s_go wv (I 10) (I 27) nh nd own now τ mm).1 1 = τ 1)) (i_15 + 1)).2)), (6, .int (nI (i_15 + 1)))]) [4, 5, 6, 7, 2, 1, 0] (by rw [← f_57, ← f_58]; rfl) ?_
                        exact ih_17 (i_15 + 1) (by omega) (by omega) _ _ _ _ 
                      · -- ¬ (s_bd nh (I 24) (fun τ => decide ((s_go wv (I 10) (I 27) nh nd own now τ mm).1 1 = τ 1)) i_15).2 ≤ s_bsum nh i_15 nh
                        have c_56' := Int32.not_le.mp c_56
                        refine z_aload_n 0 dX5_beds_178 rfl ?_
                        refine z_iload_n 1 dX5_beds_179 rfl ?_
                        refine z_callV (As := [.int (nI (mm))]) (t_isCalm (I := (zs I 99 0 0)) (τ := (s_bst nh i_15 (I 24) nh)) (c := c_21) (o := o_22) hL hV hlaw mm (by omega) ((s_bst_0 _).trans hw) (by omega)) q1964 q1966 qs103 q121 q1967 nm_X5_isCalm (tX_obj hL) rfl rfl rfl (Nat.le_of_ble_eq_true rfl) ⟨Nat.le_of_ble_eq_true rfl, Nat.le_of_ble_eq_true rfl⟩ dX5_beds_180 rfl rfl (Nat.le_of_ble_eq_true rfl) (Nat.le_of_ble_eq_true rfl) (fun v_62 X_63 hp_64 => ?_)
                        obtain ⟨rfl, c_59, o_60, Gb_61, rfl⟩ := hp_64
                        refine z_st (st' := [.int (zb (decide ((s_go wv (I 10) (I 27) nh nd own now (s_bst nh i_15 (I 24) nh) mm).1 1 = (s_bst nh i_15 (I 24) nh) 1)))]) rfl ?_
                        refine z_if_eqb 190 dX5_beds_183 (by decide) (fun c_65 => ?_) (fun c_65 => ?_)
                        · -- decide ((s_go wv (I 10) (I 27) nh nd own now (s_bst nh i_15 (I 24) nh) mm).1 1 = (s_bst nh i_15 (I 24) nh) 1) = false
                          refine z_iconst (v := 0) dX5_beds_190 (by decide) ?_
                          refine z_istore (lv' := [(9, .int 0), (0, .ref (L 99)), (1, .int (nI (mm))), (2, .int h), (3, .int (nI (al))), (4, .int ((s_bd nh (I 24) (fun τ => decide ((s_go wv (I 10) (I 27) nh nd own now τ mm).1 1 = τ 1)) i_15).1)), (5, .int ((s_bd nh (I 24) (fun τ => decide ((s_go wv (I 10) (I 27) nh nd own now τ mm).1 1 = τ 1)) i_15).2)), (6, .int (nI (i_15))), (7, .int (s_bsum nh i_15 nh)), (8, .int (zb (s_bmay nh i_15 (I 24) nh)))]) dX5_beds_191 (by decide) rfl ?_
                          refine z_iload 0 dX5_beds_193 rfl ?_
                          refine z_if_eq 203 dX5_beds_195 (by decide) (fun h_ => ?_) (fun h_ => absurd h_ (by decide))
                          refine z_iload 5 dX5_beds_203 rfl ?_
                          refine z_istore (lv' := [(4, .int ((s_bd nh (I 24) (fun τ => decide ((s_go wv (I 10) (I 27) nh nd own now τ mm).1 1 = τ 1)) i_15).1)), (9, .int 0), (0, .ref (L 99)), (1, .int (nI (mm))), (2, .int h), (3, .int (nI (al))), (5, .int ((s_bd nh (I 24) (fun τ => decide ((s_go wv (I 10) (I 27) nh nd own now τ mm).1 1 = τ 1)) i_15).2)), (6, .int (nI (i_15))), (7, .int (s_bsum nh i_15 nh)), (8, .int (zb (s_bmay nh i_15 (I 24) nh)))]) dX5_beds_205 (by decide) rfl ?_
                          refine z_iload 1 dX5_beds_207 rfl ?_
                          refine z_if_eq 217 dX5_beds_209 (by decide) (fun h_ => ?_) (fun h_ => absurd h_ (by decide))
                          refine z_iload 6 dX5_beds_217 rfl ?_
                          refine z_istore (lv' := [(5, .int ((s_bd nh (I 24) (fun τ => decide ((s_go wv (I 10) (I 27) nh nd own now τ mm).1 1 = τ 1)) i_15).2)), (4, .int ((s_bd nh (I 24) (fun τ => decide ((s_go wv (I 10) (I 27) nh nd own now τ mm).1 1 = τ 1)) i_15).1)), (9, .int 0), (0, .ref (L 99)), (1, .int (nI (mm))), (2, .int h), (3, .int (nI (al))), (6, .int (nI (i_15))), (7, .int (s_bsum nh i_15 nh)), (8, .int (zb (s_bmay nh i_15 (I 24) nh)))]) dX5_beds_219 (by decide) rfl ?_
                          refine z_iinc (v := nI (i_15 + 1)) (lv' := [(6, .int (nI (i_15 + 1))), (5, .int ((s_bd nh (I 24) (fun τ => decide ((s_go wv (I 10) (I 27) nh nd own now τ mm).1 1 = τ 1)) i_15).2)), (4, .int ((s_bd nh (I 24) (fun τ => decide ((s_go wv (I 10) (I 27) nh nd own now τ mm).1 1 = τ 1)) i_15).1)), (9, .int 0), (0, .ref (L 99)), (1, .int (nI (mm))), (2, .int h), (3, .int (nI (al))), (7, .int (s_bsum nh i_15 nh)), (8, .int (zb (s_bmay nh i_15 (I 24) nh)))]) 7 dX5_beds_221 rfl (nI_1 _) (by decide) rfl ?_
                          refine z_goto 64 dX5_beds_224 (by decide) ?_
                          have f_66 : (s_bd nh (I 24) (fun τ => decide ((s_go wv (I 10) (I 27) nh nd own now τ mm).1 1 = τ 1)) i_15).1 = (s_bd nh (I 24) (fun τ => decide ((s_go wv (I 10) (I 27) nh nd own now τ mm).1 1 = τ 1)) (i_15 + 1)).1 := by skip; simp [s_bd, c_27, c_40, c_41, c_44, c_44', c_56, c_56', c_65]
                          have f_67 : (s_bd nh (I 24) (fun τ => decide ((s_go wv (I 10) (I 27) nh nd own now τ mm).1 1 = τ 1)) i_15).2 = (s_bd nh (I 24) (fun τ => decide ((s_go wv (I 10) (I 27) nh nd own now τ mm).1 1 = τ 1)) (i_15 + 1)).2 := by skip; simp [s_bd, c_27, c_40, c_41, c_44, c_44', c_56, c_56', c_65]
                          refine z_lv (lv' := [(0, .ref (L 99)), (1, .int (nI (mm))), (2, .int h), (3, .int (nI (al))), (4, .int ((s_bd nh (I 24) (fun τ => decide ((s_go wv (I 10) (I 27) nh nd own now τ mm).1 1 = τ 1)) (i_15 + 1)).1)), (5, .int ((s_bd nh (I 24) (fun τ => decide ((s_go wv (I 10) (I 27) nh nd own now τ mm).1 1 = τ 1)) (i_15 + 1)).2)), (6, .int (nI (i_15 + 1)))]) [4, 5, 6, 7, 2, 1, 0] (by rw [← f_66, ← f_67]; rfl) ?_
                          exact ih_17 (i_15 + 1) (by omega) (by omega) _ _ _ _ 
                        · -- decide ((s_go wv (I 10) (I 27) nh nd own now (s_bst nh i_15 (I 24) nh) mm).1 1 = (s_bst nh i_15 (I 24) nh) 1) = true
                          refine z_iconst (v := 1) dX5_beds_186 (by decide) ?_
                          refine z_goto 191 dX5_beds_187 (by decide) ?_
                          refine z_istore (lv' := [(9, .int 1), (0, .ref (L 99)), (1, .int (nI (mm))), (2, .int h), (3, .int (nI (al))), (4, .int ((s_bd nh (I 24) (fun τ => decide ((s_go wv (I 10) (I 27) nh nd own now τ mm).1 1 = τ 1)) i_15).1)), (5, .int ((s_bd nh (I 24) (fun τ => decide ((s_go wv (I 10) (I 27) nh nd own now τ mm).1 1 = τ 1)) i_15).2)), (6, .int (nI (i_15))), (7, .int (s_bsum nh i_15 nh)), (8, .int (zb (s_bmay nh i_15 (I 24) nh)))]) dX5_beds_191 (by decide) rfl ?_
                          refine z_iload 0 dX5_beds_193 rfl ?_
                          refine z_if_eq 203 dX5_beds_195 (by decide) (fun h_ => absurd h_ (by decide)) (fun h_ => ?_)
                          refine z_iload 7 dX5_beds_198 rfl ?_
                          refine z_goto 205 dX5_beds_200 (by decide) ?_
                          refine z_istore (lv' := [(4, .int (nI (i_15))), (9, .int 1), (0, .ref (L 99)), (1, .int (nI (mm))), (2, .int h), (3, .int (nI (al))), (5, .int ((s_bd nh (I 24) (fun τ => decide ((s_go wv (I 10) (I 27) nh nd own now τ mm).1 1 = τ 1)) i_15).2)), (6, .int (nI (i_15))), (7, .int (s_bsum nh i_15 nh)), (8, .int (zb (s_bmay nh i_15 (I 24) nh)))]) dX5_beds_205 (by decide) rfl ?_
                          refine z_iload 1 dX5_beds_207 rfl ?_
                          refine z_if_eq 217 dX5_beds_209 (by decide) (fun h_ => absurd h_ (by decide)) (fun h_ => ?_)
                          refine z_iload 8 dX5_beds_212 rfl ?_
                          refine z_goto 219 dX5_beds_214 (by decide) ?_
                          refine z_istore (lv' := [(5, .int (s_bsum nh i_15 nh)), (4, .int (nI (i_15))), (9, .int 1), (0, .ref (L 99)), (1, .int (nI (mm))), (2, .int h), (3, .int (nI (al))), (6, .int (nI (i_15))), (7, .int (s_bsum nh i_15 nh)), (8, .int (zb (s_bmay nh i_15 (I 24) nh)))]) dX5_beds_219 (by decide) rfl ?_
                          refine z_iinc (v := nI (i_15 + 1)) (lv' := [(6, .int (nI (i_15 + 1))), (5, .int (s_bsum nh i_15 nh)), (4, .int (nI (i_15))), (9, .int 1), (0, .ref (L 99)), (1, .int (nI (mm))), (2, .int h), (3, .int (nI (al))), (7, .int (s_bsum nh i_15 nh)), (8, .int (zb (s_bmay nh i_15 (I 24) nh)))]) 7 dX5_beds_221 rfl (nI_1 _) (by decide) rfl ?_
                          refine z_goto 64 dX5_beds_224 (by decide) ?_
                          have f_68 : nI (i_15) = (s_bd nh (I 24) (fun τ => decide ((s_go wv (I 10) (I 27) nh nd own now τ mm).1 1 = τ 1)) (i_15 + 1)).1 := by skip; simp [s_bd, c_27, c_40, c_41, c_44, c_44', c_56, c_56', c_65]
                          have f_69 : s_bsum nh i_15 nh = (s_bd nh (I 24) (fun τ => decide ((s_go wv (I 10) (I 27) nh nd own now τ mm).1 1 = τ 1)) (i_15 + 1)).2 := by skip; simp [s_bd, c_27, c_40, c_41, c_44, c_44', c_56, c_56', c_65]
                          refine z_lv (lv' := [(0, .ref (L 99)), (1, .int (nI (mm))), (2, .int h), (3, .int (nI (al))), (4, .int ((s_bd nh (I 24) (fun τ => decide ((s_go wv (I 10) (I 27) nh nd own now τ mm).1 1 = τ 1)) (i_15 + 1)).1)), (5, .int ((s_bd nh (I 24) (fun τ => decide ((s_go wv (I 10) (I 27) nh nd own now τ mm).1 1 = τ 1)) (i_15 + 1)).2)), (6, .int (nI (i_15 + 1)))]) [4, 5, 6, 7, 2, 1, 0] (by rw [← f_68, ← f_69]; rfl) ?_
                          exact ih_17 (i_15 + 1) (by omega) (by omega) _ _ _ _ 
                | succ q_32 ih_33 =>
                  intro i_31 hb_34 lo_36  
                  refine z_iload 9 dX5_beds_83 rfl ?_
                  refine z_aload_n 0 dX5_beds_85 rfl ?_
                  refine z_callV (As := []) (t_houses (I := (tput (tco (zs I 99 0 0) c_21 o_22) 987 (s_bst nh i_15 (I 24) i_31))) hL h0) q1585 q1587 qs56 q121 q1588 nm_X5_houses (tX_obj hL) rfl rfl rfl (Nat.le_of_ble_eq_true rfl) ⟨Nat.le_of_ble_eq_true rfl, Nat.le_of_ble_eq_true rfl⟩ dX5_beds_86 rfl rfl (Nat.le_of_ble_eq_true rfl) (Nat.le_of_ble_eq_true rfl) (fun v_70 X_71 hp_72 => ?_)
                  obtain ⟨rfl, rfl⟩ := hp_72
                  refine z_st (st' := [.int (nI (nh)), .int (nI (i_31))]) rfl ?_
                  refine z_icmp_geN (a := i_31) (b := nh) 161 (by omega) (by omega) dX5_beds_89 (by decide) (fun c_73 => absurd c_73 (by omega)) (fun c_73 => ?_)
                  refine z_iload 7 dX5_beds_92 rfl ?_
                  refine z_aload_n 0 dX5_beds_94 rfl ?_
                  refine z_iload 6 dX5_beds_95 rfl ?_
                  refine z_iload 9 dX5_beds_97 rfl ?_
                  refine z_callV (As := [.int (nI (i_15)), .int (nI (i_31))]) (t_builtIn (I := (tput (tco (zs I 99 0 0) c_21 o_22) 987 (s_bst nh i_15 (I 24) i_31))) hL i_15 i_31 (by omega) (by omega) hnh h0) q1960 q1962 qs102 q121 q1963 nm_X5_builtIn (tX_obj hL) rfl rfl rfl (Nat.le_of_ble_eq_true rfl) ⟨Nat.le_of_ble_eq_true rfl, Nat.le_of_ble_eq_true rfl⟩ dX5_beds_99 rfl rfl (Nat.le_of_ble_eq_true rfl) (Nat.le_of_ble_eq_true rfl) (fun v_74 X_75 hp_76 => ?_)
                  obtain ⟨rfl, rfl⟩ := hp_76
                  refine z_st (st' := [.int (nI ((s_bi nh i_15 i_31))), .int (s_bsum nh i_15 i_31)]) rfl ?_
                  refine z_iadd dX5_beds_102 ?_
                  obtain ⟨x_77, ex_77⟩ : ∃ y : Int32, ((s_bsum nh i_15 i_31) + (nI ((s_bi nh i_15 i_31)))) = y := ⟨_, rfl⟩
                  refine z_eq ex_77 ?_
                  refine z_istore (lv' := [(7, .int x_77), (0, .ref (L 99)), (1, .int (nI (mm))), (2, .int h), (3, .int (nI (al))), (4, .int ((s_bd nh (I 24) (fun τ => decide ((s_go wv (I 10) (I 27) nh nd own now τ mm).1 1 = τ 1)) i_15).1)), (5, .int ((s_bd nh (I 24) (fun τ => decide ((s_go wv (I 10) (I 27) nh nd own now τ mm).1 1 = τ 1)) i_15).2)), (6, .int (nI (i_15))), (8, .int (zb (s_bmay nh i_15 (I 24) i_31))), (9, .int (nI (i_31)))]) dX5_beds_103 (by decide) rfl ?_
                  refine z_aload_n 1 dX5_beds_105 rfl ?_
                  refine tz_get (v := .ref (L 24)) 24 hL (by decide) q1617 rfl dX5_beds_106 ?_
                  refine z_sipush (v := 989) dX5_beds_109 (by decide) ?_
                  refine z_iload 9 dX5_beds_112 rfl ?_
                  refine z_iaddN (a := 989) (b := i_31) dX5_beds_114 ?_
                  refine z_eq (y := nI (i_31 + 989)) (congrArg nI (by omega)) ?_
                  refine z_dup2_11 dX5_beds_115 rfl rfl ?_
                  refine tz_iald (v := (s_bst nh i_15 (I 24) i_31) (i_31 + 2)) 24 (987 + (i_31 + 2)) hL (by decide) (congrArg nI (by omega)) (by show 987 + (i_31 + 2) < 1081; omega) (tput_at (by omega)) dX5_beds_116 ?_
                  refine z_aload_n 1 dX5_beds_117 rfl ?_
                  refine z_iload 7 dX5_beds_118 rfl ?_
                  refine z_iload 9 dX5_beds_120 rfl ?_
                  refine z_callV (As := [.int (nI (i_15)), .int (nI (i_31))]) (t_builtIn (I := (tput (tco (zs I 99 0 0) c_21 o_22) 987 (s_bst nh i_15 (I 24) i_31))) hL i_15 i_31 (by omega) (by omega) hnh h0) q1960 q1962 qs102 q121 q1963 nm_X5_builtIn (tX_obj hL) rfl rfl rfl (Nat.le_of_ble_eq_true rfl) ⟨Nat.le_of_ble_eq_true rfl, Nat.le_of_ble_eq_true rfl⟩ dX5_beds_122 rfl rfl (Nat.le_of_ble_eq_true rfl) (Nat.le_of_ble_eq_true rfl) (fun v_78 X_79 hp_80 => ?_)
                  obtain ⟨rfl, rfl⟩ := hp_80
                  refine z_st (st' := [.int (nI ((s_bi nh i_15 i_31))), .int ((s_bst nh i_15 (I 24) i_31) (i_31 + 2)), .int (nI (i_31 + 989)), .ref (L 24)]) rfl ?_
                  refine z_iadd dX5_beds_125 ?_
                  obtain ⟨x_81, ex_81⟩ : ∃ y : Int32, (((s_bst nh i_15 (I 24) i_31) (i_31 + 2)) + (nI ((s_bi nh i_15 i_31)))) = y := ⟨_, rfl⟩
                  refine z_eq ex_81 ?_
                  refine tz_iast 24 (987 + (i_31 + 2)) hL (by decide) (congrArg nI (by omega)) (by show 987 + (i_31 + 2) < 1081; omega) (tput_zs (by omega)) dX5_beds_126 ?_
                  refine z_iload 8 dX5_beds_127 rfl ?_
                  refine z_if_eqb 152 dX5_beds_129 (by decide) (fun c_82 => ?_) (fun c_82 => ?_)
                  · -- s_bmay nh i_15 (I 24) i_31 = false
                    refine z_iconst (v := 0) dX5_beds_152 (by decide) ?_
                    refine z_istore (lv' := [(8, .int 0), (7, .int x_77), (0, .ref (L 99)), (1, .int (nI (mm))), (2, .int h), (3, .int (nI (al))), (4, .int ((s_bd nh (I 24) (fun τ => decide ((s_go wv (I 10) (I 27) nh nd own now τ mm).1 1 = τ 1)) i_15).1)), (5, .int ((s_bd nh (I 24) (fun τ => decide ((s_go wv (I 10) (I 27) nh nd own now τ mm).1 1 = τ 1)) i_15).2)), (6, .int (nI (i_15))), (9, .int (nI (i_31)))]) dX5_beds_153 (by decide) rfl ?_
                    refine z_iinc (v := nI (i_31 + 1)) (lv' := [(9, .int (nI (i_31 + 1))), (8, .int 0), (7, .int x_77), (0, .ref (L 99)), (1, .int (nI (mm))), (2, .int h), (3, .int (nI (al))), (4, .int ((s_bd nh (I 24) (fun τ => decide ((s_go wv (I 10) (I 27) nh nd own now τ mm).1 1 = τ 1)) i_15).1)), (5, .int ((s_bd nh (I 24) (fun τ => decide ((s_go wv (I 10) (I 27) nh nd own now τ mm).1 1 = τ 1)) i_15).2)), (6, .int (nI (i_15)))]) 9 dX5_beds_155 rfl (nI_1 _) (by decide) rfl ?_
                    refine z_goto 83 dX5_beds_158 (by decide) ?_
                    have f_83 : x_77 = s_bsum nh i_15 (i_31 + 1) := by (try subst ex_81); (try subst ex_77); simp [s_bsum, s_sum, s_bmay, zb, c_14, c_27, c_73, c_82]
                    subst f_83
                    have f_84 : 0 = zb (s_bmay nh i_15 (I 24) (i_31 + 1)) := by (try subst ex_81); (try subst ex_77); simp [s_bsum, s_sum, s_bmay, zb, c_14, c_27, c_73, c_82]
                    refine z_lv (lv' := [(0, .ref (L 99)), (1, .int (nI (mm))), (2, .int h), (3, .int (nI (al))), (4, .int ((s_bd nh (I 24) (fun τ => decide ((s_go wv (I 10) (I 27) nh nd own now τ mm).1 1 = τ 1)) i_15).1)), (5, .int ((s_bd nh (I 24) (fun τ => decide ((s_go wv (I 10) (I 27) nh nd own now τ mm).1 1 = τ 1)) i_15).2)), (6, .int (nI (i_15))), (7, .int (s_bsum nh i_15 (i_31 + 1))), (8, .int (zb (s_bmay nh i_15 (I 24) (i_31 + 1)))), (9, .int (nI (i_31 + 1)))]) [3, 4, 5, 6, 7, 8, 9, 2, 1, 0] (by rw [← f_84]; rfl) ?_
                    refine z_X (X' := (tX g L (tput (tco (zs I 99 0 0) c_21 o_22) 987 (s_bst nh i_15 (I 24) (i_31 + 1))) J Gb_20 X)) (by (try subst ex_81); (try subst ex_77); rfl) ?_
                    exact ih_33 (i_31 + 1) (by omega) (by omega)  
                  · -- s_bmay nh i_15 (I 24) i_31 = true
                    refine z_aload_n 1 dX5_beds_132 rfl ?_
                    refine tz_get (v := .ref (L 24)) 24 hL (by decide) q1617 rfl dX5_beds_133 ?_
                    refine z_sipush (v := 989) dX5_beds_136 (by decide) ?_
                    refine z_iload 9 dX5_beds_139 rfl ?_
                    refine z_iaddN (a := 989) (b := i_31) dX5_beds_141 ?_
                    refine z_eq (y := nI (i_31 + 989)) (congrArg nI (by omega)) ?_
                    refine tz_iald (v := x_81) 24 (987 + (i_31 + 2)) hL (by decide) (congrArg nI (by omega)) (by show 987 + (i_31 + 2) < 1081; omega) ((tput_at (by omega)).trans (by rw [zs1_s])) dX5_beds_142 ?_
                    refine z_bipush (v := 9) dX5_beds_143 (by decide) ?_
                    refine z_icmp_gt 152 dX5_beds_145 (by decide) (fun c_85 => ?_) (fun c_85 => ?_)
                    · -- 9 < x_81
                      have c_85' := Int32.not_le.mpr c_85
                      refine z_iconst (v := 0) dX5_beds_152 (by decide) ?_
                      refine z_istore (lv' := [(8, .int 0), (7, .int x_77), (0, .ref (L 99)), (1, .int (nI (mm))), (2, .int h), (3, .int (nI (al))), (4, .int ((s_bd nh (I 24) (fun τ => decide ((s_go wv (I 10) (I 27) nh nd own now τ mm).1 1 = τ 1)) i_15).1)), (5, .int ((s_bd nh (I 24) (fun τ => decide ((s_go wv (I 10) (I 27) nh nd own now τ mm).1 1 = τ 1)) i_15).2)), (6, .int (nI (i_15))), (9, .int (nI (i_31)))]) dX5_beds_153 (by decide) rfl ?_
                      refine z_iinc (v := nI (i_31 + 1)) (lv' := [(9, .int (nI (i_31 + 1))), (8, .int 0), (7, .int x_77), (0, .ref (L 99)), (1, .int (nI (mm))), (2, .int h), (3, .int (nI (al))), (4, .int ((s_bd nh (I 24) (fun τ => decide ((s_go wv (I 10) (I 27) nh nd own now τ mm).1 1 = τ 1)) i_15).1)), (5, .int ((s_bd nh (I 24) (fun τ => decide ((s_go wv (I 10) (I 27) nh nd own now τ mm).1 1 = τ 1)) i_15).2)), (6, .int (nI (i_15)))]) 9 dX5_beds_155 rfl (nI_1 _) (by decide) rfl ?_
                      refine z_goto 83 dX5_beds_158 (by decide) ?_
                      have f_86 : x_77 = s_bsum nh i_15 (i_31 + 1) := by (try subst ex_81); (try subst ex_77); simp [s_bsum, s_sum, s_bmay, zb, c_73, c_82, c_85, c_85']
                      subst f_86
                      have f_87 : 0 = zb (s_bmay nh i_15 (I 24) (i_31 + 1)) := by (try subst ex_81); (try subst ex_77); simp [s_bsum, s_sum, s_bmay, zb, c_73, c_82, c_85, c_85']
                      refine z_lv (lv' := [(0, .ref (L 99)), (1, .int (nI (mm))), (2, .int h), (3, .int (nI (al))), (4, .int ((s_bd nh (I 24) (fun τ => decide ((s_go wv (I 10) (I 27) nh nd own now τ mm).1 1 = τ 1)) i_15).1)), (5, .int ((s_bd nh (I 24) (fun τ => decide ((s_go wv (I 10) (I 27) nh nd own now τ mm).1 1 = τ 1)) i_15).2)), (6, .int (nI (i_15))), (7, .int (s_bsum nh i_15 (i_31 + 1))), (8, .int (zb (s_bmay nh i_15 (I 24) (i_31 + 1)))), (9, .int (nI (i_31 + 1)))]) [3, 4, 5, 6, 7, 8, 9, 2, 1, 0] (by rw [← f_87]; rfl) ?_
                      refine z_X (X' := (tX g L (tput (tco (zs I 99 0 0) c_21 o_22) 987 (s_bst nh i_15 (I 24) (i_31 + 1))) J Gb_20 X)) (by (try subst ex_81); (try subst ex_77); rfl) ?_
                      exact ih_33 (i_31 + 1) (by omega) (by omega)  
                    · -- ¬ 9 < x_81
                      have c_85' := Int32.not_lt.mp c_85
                      refine z_iconst (v := 1) dX5_beds_148 (by decide) ?_
                      refine z_goto 153 dX5_beds_149 (by decide) ?_
                      refine z_istore (lv' := [(8, .int 1), (7, .int x_77), (0, .ref (L 99)), (1, .int (nI (mm))), (2, .int h), (3, .int (nI (al))), (4, .int ((s_bd nh (I 24) (fun τ => decide ((s_go wv (I 10) (I 27) nh nd own now τ mm).1 1 = τ 1)) i_15).1)), (5, .int ((s_bd nh (I 24) (fun τ => decide ((s_go wv (I 10) (I 27) nh nd own now τ mm).1 1 = τ 1)) i_15).2)), (6, .int (nI (i_15))), (9, .int (nI (i_31)))]) dX5_beds_153 (by decide) rfl ?_
                      refine z_iinc (v := nI (i_31 + 1)) (lv' := [(9, .int (nI (i_31 + 1))), (8, .int 1), (7, .int x_77), (0, .ref (L 99)), (1, .int (nI (mm))), (2, .int h), (3, .int (nI (al))), (4, .int ((s_bd nh (I 24) (fun τ => decide ((s_go wv (I 10) (I 27) nh nd own now τ mm).1 1 = τ 1)) i_15).1)), (5, .int ((s_bd nh (I 24) (fun τ => decide ((s_go wv (I 10) (I 27) nh nd own now τ mm).1 1 = τ 1)) i_15).2)), (6, .int (nI (i_15)))]) 9 dX5_beds_155 rfl (nI_1 _) (by decide) rfl ?_
                      refine z_goto 83 dX5_beds_158 (by decide) ?_
                      have f_88 : x_77 = s_bsum nh i_15 (i_31 + 1) := by (try subst ex_81); (try subst ex_77); simp [s_bsum, s_sum, s_bmay, zb, c_73, c_82, c_85, c_85']
                      subst f_88
                      have f_89 : 1 = zb (s_bmay nh i_15 (I 24) (i_31 + 1)) := by (try subst ex_81); (try subst ex_77); simp [s_bsum, s_sum, s_bmay, zb, c_73, c_82, c_85, c_85']
                      refine z_lv (lv' := [(0, .ref (L 99)), (1, .int (nI (mm))), (2, .int h), (3, .int (nI (al))), (4, .int ((s_bd nh (I 24) (fun τ => decide ((s_go wv (I 10) (I 27) nh nd own now τ mm).1 1 = τ 1)) i_15).1)), (5, .int ((s_bd nh (I 24) (fun τ => decide ((s_go wv (I 10) (I 27) nh nd own now τ mm).1 1 = τ 1)) i_15).2)), (6, .int (nI (i_15))), (7, .int (s_bsum nh i_15 (i_31 + 1))), (8, .int (zb (s_bmay nh i_15 (I 24) (i_31 + 1)))), (9, .int (nI (i_31 + 1)))]) [3, 4, 5, 6, 7, 8, 9, 2, 1, 0] (by rw [← f_89]; rfl) ?_
                      refine z_X (X' := (tX g L (tput (tco (zs I 99 0 0) c_21 o_22) 987 (s_bst nh i_15 (I 24) (i_31 + 1))) J Gb_20 X)) (by (try subst ex_81); (try subst ex_77); rfl) ?_
                      exact ih_33 (i_31 + 1) (by omega) (by omega)  
              have f_90 : 0 = s_bsum nh i_15 0 := by rfl
              have f_91 : 1 = zb (s_bmay nh i_15 (I 24) 0) := by rfl
              refine z_lv (lv' := [(0, .ref (L 99)), (1, .int (nI (mm))), (2, .int h), (3, .int (nI (al))), (4, .int ((s_bd nh (I 24) (fun τ => decide ((s_go wv (I 10) (I 27) nh nd own now τ mm).1 1 = τ 1)) i_15).1)), (5, .int ((s_bd nh (I 24) (fun τ => decide ((s_go wv (I 10) (I 27) nh nd own now τ mm).1 1 = τ 1)) i_15).2)), (6, .int (nI (i_15))), (7, .int (s_bsum nh i_15 0)), (8, .int (zb (s_bmay nh i_15 (I 24) 0))), (9, .int 0)]) [3, 4, 5, 6, 7, 8, 9, 2, 1, 0] (by rw [← f_90, ← f_91]; rfl) ?_
              refine z_X (X' := (tX g L (tput (tco (zs I 99 0 0) c_21 o_22) 987 (s_bst nh i_15 (I 24) 0)) J Gb_20 X)) (by rfl) ?_
              exact loop_35 (nh - 0) 0 (by omega) (Nat.le_refl _)  
          have f_92 : zm1 = (s_bd nh (I 24) (fun τ => decide ((s_go wv (I 10) (I 27) nh nd own now τ mm).1 1 = τ 1)) 0).1 := by rfl
          have f_93 : 0 = (s_bd nh (I 24) (fun τ => decide ((s_go wv (I 10) (I 27) nh nd own now τ mm).1 1 = τ 1)) 0).2 := by rfl
          refine z_lv (lv' := [(0, .ref (L 99)), (1, .int (nI (mm))), (2, .int h), (3, .int (nI (al))), (4, .int ((s_bd nh (I 24) (fun τ => decide ((s_go wv (I 10) (I 27) nh nd own now τ mm).1 1 = τ 1)) 0).1)), (5, .int ((s_bd nh (I 24) (fun τ => decide ((s_go wv (I 10) (I 27) nh nd own now τ mm).1 1 = τ 1)) 0).2)), (6, .int 0)]) [3, 4, 5, 6, 2, 1, 0] (by rw [← f_92, ← f_93]; rfl) ?_
          exact loop_19 (al - 0) 0 (by omega) (Nat.le_refl _) _ _ _ _ 
        | succ q_6 ih_7 =>
          intro i_5 hb_8 lo_10  
          refine z_iload 4 dX5_beds_36 rfl ?_
          refine z_aload_n 0 dX5_beds_38 rfl ?_
          refine z_callV (As := []) (t_houses (I := (tput (tco (zs I 99 0 0) (I 99 28) (I 99 29)) 987 (s_tau I))) hL h0) q1585 q1587 qs56 q121 q1588 nm_X5_houses (tX_obj hL) rfl rfl rfl (Nat.le_of_ble_eq_true rfl) ⟨Nat.le_of_ble_eq_true rfl, Nat.le_of_ble_eq_true rfl⟩ dX5_beds_39 rfl rfl (Nat.le_of_ble_eq_true rfl) (Nat.le_of_ble_eq_true rfl) (fun v_94 X_95 hp_96 => ?_)
          obtain ⟨rfl, rfl⟩ := hp_96
          refine z_st (st' := [.int (nI (nh)), .int (nI (i_5))]) rfl ?_
          refine z_icmp_geN (a := i_5) (b := nh) 55 (by omega) (by omega) dX5_beds_42 (by decide) (fun c_97 => absurd c_97 (by omega)) (fun c_97 => ?_)
          refine z_iload_n 3 dX5_beds_45 rfl ?_
          refine z_iconst (v := 3) dX5_beds_46 (by decide) ?_
          refine z_imulN (a := (3 ^ i_5)) (b := 3) dX5_beds_47 ?_
          refine z_eq (y := nI (3 * (3 ^ i_5))) (congrArg nI (by omega)) ?_
          refine z_istore_n (lv' := [(3, .int (nI (3 * (3 ^ i_5)))), (0, .ref (L 99)), (1, .int (nI (mm))), (2, .int h), (4, .int (nI (i_5)))]) dX5_beds_48 rfl (by decide) rfl ?_
          refine z_iinc (v := nI (i_5 + 1)) (lv' := [(4, .int (nI (i_5 + 1))), (3, .int (nI (3 * (3 ^ i_5)))), (0, .ref (L 99)), (1, .int (nI (mm))), (2, .int h)]) 4 dX5_beds_49 rfl (nI_1 _) (by decide) rfl ?_
          refine z_goto 36 dX5_beds_52 (by decide) ?_
          have f_98 : nI (3 * (3 ^ i_5)) = nI ((3 ^ (i_5 + 1))) := congrArg nI (by rw [Nat.pow_succ, Nat.mul_comm])
          refine z_lv (lv' := [(0, .ref (L 99)), (1, .int (nI (mm))), (2, .int h), (3, .int (nI ((3 ^ (i_5 + 1))))), (4, .int (nI (i_5 + 1)))]) [2, 3, 4, 1, 0] (by rw [← f_98]; rfl) ?_
          exact ih_7 (i_5 + 1) (by omega) (by omega)  
      have f_99 : 1 = nI ((3 ^ 0)) := rfl
      refine z_lv (lv' := [(0, .ref (L 99)), (1, .int (nI (mm))), (2, .int h), (3, .int (nI ((3 ^ 0)))), (4, .int 0)]) [2, 3, 4, 1, 0] (by rw [← f_99]; rfl) ?_
      exact loop_9 (nh - 0) 0 (by omega) (Nat.le_refl _)  
    · -- ¬ h = zm1
      refine z_aload_n 0 dX5_beds_20 rfl ?_
      refine z_iload_n 2 dX5_beds_21 rfl ?_
      refine z_callV (As := [.int h]) (t_isHouse (I := (tput (tco (zs I 99 0 0) (I 99 28) (I 99 29)) 987 (s_tau I))) hL h0 h) q1826 q1828 qs84 q121 q1829 nm_X5_isHouse (tX_obj hL) rfl rfl rfl (Nat.le_of_ble_eq_true rfl) ⟨Nat.le_of_ble_eq_true rfl, Nat.le_of_ble_eq_true rfl⟩ dX5_beds_22 rfl rfl (Nat.le_of_ble_eq_true rfl) (Nat.le_of_ble_eq_true rfl) (fun v_100 X_101 hp_102 => ?_)
      obtain ⟨rfl, rfl⟩ := hp_102
      refine z_st (st' := [.int (zb (decide (0 ≤ h) && decide (h < nI nh)))]) rfl ?_
      refine z_if_neb 31 dX5_beds_25 (by decide) (fun c_103 => ?_) (fun c_103 => absurd c_103 (fun h9 => by rw [decide_eq_false c_4, h9] at hv; simp at hv))
      refine z_iconst (v := 1) dX5_beds_31 (by decide) ?_
      refine z_istore_n (lv' := [(3, .int 1), (0, .ref (L 99)), (1, .int (nI (mm))), (2, .int h)]) dX5_beds_32 rfl (by decide) rfl ?_
      refine z_iconst (v := 0) dX5_beds_33 (by decide) ?_
      refine z_istore (lv' := [(4, .int 0), (3, .int 1), (0, .ref (L 99)), (1, .int (nI (mm))), (2, .int h)]) dX5_beds_34 (by decide) rfl ?_
      have loop_108 : ∀ (q_105 i_104 : Nat), i_104 + q_105 = nh → 0 ≤ i_104 → zZ g m_X5_beds (fun rv X' => rv = some (.int (s_beds nh (I 24) (fun q9 τ => decide ((s_go wv (I 10) (I 27) nh nd own now τ q9).1 1 = τ 1)) (nI (mm)) h)) ∧ ∃ (I' : Nat → Nat → Int32) (Gb' : Nat → Nat → Int32), X' = tX g L I' J Gb' X ∧ tobs I I' ∧ I' 99 0 = 0, zno, ({ frames := 8, cells := 0, slots := 0, locals := 184 } : Room)) 0 0 (tX g L (tput (tco (zs I 99 0 0) (I 99 28) (I 99 29)) 987 (s_tau I)) J Gb X) 36 [(0, .ref (L 99)), (1, .int (nI (mm))), (2, .int h), (3, .int (nI ((3 ^ i_104)))), (4, .int (nI (i_104)))] [] := by
        intro q_105
        induction q_105 with
        | zero =>
          intro i_104 hb_107 lo_109  
          obtain rfl : nh = i_104 := by omega
          refine z_iload 4 dX5_beds_36 rfl ?_
          refine z_aload_n 0 dX5_beds_38 rfl ?_
          refine z_callV (As := []) (t_houses (I := (tput (tco (zs I 99 0 0) (I 99 28) (I 99 29)) 987 (s_tau I))) hL h0) q1585 q1587 qs56 q121 q1588 nm_X5_houses (tX_obj hL) rfl rfl rfl (Nat.le_of_ble_eq_true rfl) ⟨Nat.le_of_ble_eq_true rfl, Nat.le_of_ble_eq_true rfl⟩ dX5_beds_39 rfl rfl (Nat.le_of_ble_eq_true rfl) (Nat.le_of_ble_eq_true rfl) (fun v_110 X_111 hp_112 => ?_)
          obtain ⟨rfl, rfl⟩ := hp_112
          refine z_st (st' := [.int (nI (nh)), .int (nI (nh))]) rfl ?_
          refine z_icmp_geN (a := nh) (b := nh) 55 (by omega) (by omega) dX5_beds_42 (by decide) (fun c_113 => ?_) (fun c_113 => absurd c_113 (by omega))
          obtain ⟨al, hal⟩ : ∃ al, 3 ^ nh = al := ⟨_, rfl⟩
          have hal2 : al ≤ 81 := hal ▸ pow3_le nh hnh
          refine z_lv (lv' := [(0, .ref (L 99)), (1, .int (nI (mm))), (2, .int h), (3, .int (nI (al))), (4, .int (nI (nh)))]) [0, 1, 2, 3, 4] (by rw [hal]; rfl) ?_
          refine z_iconst (v := zm1) dX5_beds_55 (by decide) ?_
          refine z_istore (lv' := [(4, .int zm1), (0, .ref (L 99)), (1, .int (nI (mm))), (2, .int h), (3, .int (nI (al)))]) dX5_beds_56 (by decide) rfl ?_
          refine z_iconst (v := 0) dX5_beds_58 (by decide) ?_
          refine z_istore (lv' := [(5, .int 0), (4, .int zm1), (0, .ref (L 99)), (1, .int (nI (mm))), (2, .int h), (3, .int (nI (al)))]) dX5_beds_59 (by decide) rfl ?_
          refine z_iconst (v := 0) dX5_beds_61 (by decide) ?_
          refine z_istore (lv' := [(6, .int 0), (5, .int 0), (4, .int zm1), (0, .ref (L 99)), (1, .int (nI (mm))), (2, .int h), (3, .int (nI (al)))]) dX5_beds_62 (by decide) rfl ?_
          have loop_118 : ∀ (q_115 i_114 : Nat), i_114 + q_115 = al → 0 ≤ i_114 → ∀ (Gb_119 : Nat → Nat → Int32), ∀ (c_120 : Int32), ∀ (o_121 : Int32), ∀ (t_122 : Nat → Int32), zZ g m_X5_beds (fun rv X' => rv = some (.int (s_beds nh (I 24) (fun q9 τ => decide ((s_go wv (I 10) (I 27) nh nd own now τ q9).1 1 = τ 1)) (nI (mm)) h)) ∧ ∃ (I' : Nat → Nat → Int32) (Gb' : Nat → Nat → Int32), X' = tX g L I' J Gb' X ∧ tobs I I' ∧ I' 99 0 = 0, zno, ({ frames := 8, cells := 0, slots := 0, locals := 184 } : Room)) 0 0 (tX g L (tput (tco (zs I 99 0 0) c_120 o_121) 987 t_122) J Gb_119 X) 64 [(0, .ref (L 99)), (1, .int (nI (mm))), (2, .int h), (3, .int (nI (al))), (4, .int ((s_bd nh (I 24) (fun τ => decide ((s_go wv (I 10) (I 27) nh nd own now τ mm).1 1 = τ 1)) i_114).1)), (5, .int ((s_bd nh (I 24) (fun τ => decide ((s_go wv (I 10) (I 27) nh nd own now τ mm).1 1 = τ 1)) i_114).2)), (6, .int (nI (i_114)))] [] := by
            intro q_115
            induction q_115 with
            | zero =>
              intro i_114 hb_117 lo_123 Gb_119 c_120 o_121 t_122 
              obtain rfl : al = i_114 := by omega
              refine z_iload 6 dX5_beds_64 rfl ?_
              refine z_iload_n 3 dX5_beds_66 rfl ?_
              refine z_icmp_geN (a := al) (b := al) 227 (by omega) (by omega) dX5_beds_67 (by decide) (fun c_124 => ?_) (fun c_124 => absurd c_124 (by omega))
              refine z_iload 4 dX5_beds_227 rfl ?_
              refine z_if_ge 237 dX5_beds_229 (by decide) (fun c_125 => ?_) (fun c_125 => ?_)
              · -- 0 ≤ (s_bd nh (I 24) (fun τ => decide ((s_go wv (I 10) (I 27) nh nd own now τ mm).1 1 = τ 1)) al).1
                have c_125' := Int32.not_lt.mpr c_125
                refine z_iload_n 2 dX5_beds_237 rfl ?_
                refine z_iconst (v := zm1) dX5_beds_238 (by decide) ?_
                refine z_icmp_ne 247 dX5_beds_239 (by decide) (fun _ => ?_) (fun c_ => absurd c_ c_4)
                obtain ⟨hh, hhh, e_h⟩ := zday (by omega) c_103
                obtain ⟨kb, hkb, e_k⟩ := s_bd_n c_125'
                refine z_lv (lv' := [(0, .ref (L 99)), (1, .int (nI (mm))), (2, .int (nI (hh))), (3, .int (nI (al))), (4, .int (nI (kb))), (5, .int ((s_bd nh (I 24) (fun τ => decide ((s_go wv (I 10) (I 27) nh nd own now τ mm).1 1 = τ 1)) al).2)), (6, .int (nI (al)))]) [0, 1, 2, 3, 4, 5, 6] (by rw [e_h, e_k]; rfl) ?_
                refine z_aload_n 0 dX5_beds_247 rfl ?_
                refine z_iload 4 dX5_beds_248 rfl ?_
                refine z_iload_n 2 dX5_beds_250 rfl ?_
                refine z_callV (As := [.int (nI (kb)), .int (nI (hh))]) (t_builtIn (I := (tput (tco (zs I 99 0 0) c_120 o_121) 987 t_122)) hL kb hh (by omega) (by omega) hnh h0) q1960 q1962 qs102 q121 q1963 nm_X5_builtIn (tX_obj hL) rfl rfl rfl (Nat.le_of_ble_eq_true rfl) ⟨Nat.le_of_ble_eq_true rfl, Nat.le_of_ble_eq_true rfl⟩ dX5_beds_251 rfl rfl (Nat.le_of_ble_eq_true rfl) (Nat.le_of_ble_eq_true rfl) (fun v_126 X_127 hp_128 => ?_)
                obtain ⟨rfl, rfl⟩ := hp_128
                refine z_st (st' := [.int (nI ((s_bi nh kb hh)))]) rfl ?_
                exact z_iret dX5_beds_254 rfl (Nat.le_of_ble_eq_true rfl) (Nat.le_of_ble_eq_true rfl) ⟨congrArg some (congrArg Value.int (by unfold s_beds; rw [hv, ncl (by omega), hal]; simp only [c_4, c_125, c_125', ↓reduceIte, if_true, if_false]; rw [e_k, e_h, ncl (by omega), ncl (by omega)])), (tput (tco (zs I 99 0 0) c_120 o_121) 987 t_122), Gb_119, rfl, (tobs_put (tobs_co (tobs_zs tobs_rf rfl)) (by decide)), rfl⟩
              · -- ¬ 0 ≤ (s_bd nh (I 24) (fun τ => decide ((s_go wv (I 10) (I 27) nh nd own now τ mm).1 1 = τ 1)) al).1
                have c_125' := Int32.not_le.mp c_125
                refine z_bipush (v := zm2) dX5_beds_232 (by decide) ?_
                refine z_goto 254 dX5_beds_234 (by decide) ?_
                exact z_iret dX5_beds_254 rfl (Nat.le_of_ble_eq_true rfl) (Nat.le_of_ble_eq_true rfl) ⟨congrArg some (congrArg Value.int (by unfold s_beds; rw [hv, ncl (by omega), hal]; simp [c_4, c_125, c_125'])), (tput (tco (zs I 99 0 0) c_120 o_121) 987 t_122), Gb_119, rfl, (tobs_put (tobs_co (tobs_zs tobs_rf rfl)) (by decide)), rfl⟩
            | succ q_115 ih_116 =>
              intro i_114 hb_117 lo_123 Gb_119 c_120 o_121 t_122 
              refine z_iload 6 dX5_beds_64 rfl ?_
              refine z_iload_n 3 dX5_beds_66 rfl ?_
              refine z_icmp_geN (a := i_114) (b := al) 227 (by omega) (by omega) dX5_beds_67 (by decide) (fun c_129 => absurd c_129 (by omega)) (fun c_129 => ?_)
              refine z_aload_n 0 dX5_beds_70 rfl ?_
              refine z_callV (As := []) (t_triesNow (I := (tco (zs I 99 0 0) c_120 o_121)) (τ := t_122) hL) q1928 q1930 qs100 q121 q1931 nm_X5_triesNow (tX_obj hL) rfl rfl rfl (Nat.le_of_ble_eq_true rfl) ⟨Nat.le_of_ble_eq_true rfl, Nat.le_of_ble_eq_true rfl⟩ dX5_beds_71 rfl rfl (Nat.le_of_ble_eq_true rfl) (Nat.le_of_ble_eq_true rfl) (fun v_130 X_131 hp_132 => ?_)
              obtain ⟨rfl, rfl⟩ := hp_132
              refine z_st (st' := []) rfl ?_
              refine z_iconst (v := 0) dX5_beds_74 (by decide) ?_
              refine z_istore (lv' := [(7, .int 0), (0, .ref (L 99)), (1, .int (nI (mm))), (2, .int h), (3, .int (nI (al))), (4, .int ((s_bd nh (I 24) (fun τ => decide ((s_go wv (I 10) (I 27) nh nd own now τ mm).1 1 = τ 1)) i_114).1)), (5, .int ((s_bd nh (I 24) (fun τ => decide ((s_go wv (I 10) (I 27) nh nd own now τ mm).1 1 = τ 1)) i_114).2)), (6, .int (nI (i_114)))]) dX5_beds_75 (by decide) rfl ?_
              refine z_iconst (v := 1) dX5_beds_77 (by decide) ?_
              refine z_istore (lv' := [(8, .int 1), (7, .int 0), (0, .ref (L 99)), (1, .int (nI (mm))), (2, .int h), (3, .int (nI (al))), (4, .int ((s_bd nh (I 24) (fun τ => decide ((s_go wv (I 10) (I 27) nh nd own now τ mm).1 1 = τ 1)) i_114).1)), (5, .int ((s_bd nh (I 24) (fun τ => decide ((s_go wv (I 10) (I 27) nh nd own now τ mm).1 1 = τ 1)) i_114).2)), (6, .int (nI (i_114)))]) dX5_beds_78 (by decide) rfl ?_
              refine z_iconst (v := 0) dX5_beds_80 (by decide) ?_
              refine z_istore (lv' := [(9, .int 0), (8, .int 1), (7, .int 0), (0, .ref (L 99)), (1, .int (nI (mm))), (2, .int h), (3, .int (nI (al))), (4, .int ((s_bd nh (I 24) (fun τ => decide ((s_go wv (I 10) (I 27) nh nd own now τ mm).1 1 = τ 1)) i_114).1)), (5, .int ((s_bd nh (I 24) (fun τ => decide ((s_go wv (I 10) (I 27) nh nd own now τ mm).1 1 = τ 1)) i_114).2)), (6, .int (nI (i_114)))]) dX5_beds_81 (by decide) rfl ?_
              have loop_137 : ∀ (q_134 i_133 : Nat), i_133 + q_134 = nh → 0 ≤ i_133 → zZ g m_X5_beds (fun rv X' => rv = some (.int (s_beds nh (I 24) (fun q9 τ => decide ((s_go wv (I 10) (I 27) nh nd own now τ q9).1 1 = τ 1)) (nI (mm)) h)) ∧ ∃ (I' : Nat → Nat → Int32) (Gb' : Nat → Nat → Int32), X' = tX g L I' J Gb' X ∧ tobs I I' ∧ I' 99 0 = 0, zno, ({ frames := 8, cells := 0, slots := 0, locals := 184 } : Room)) 0 0 (tX g L (tput (tco (zs I 99 0 0) c_120 o_121) 987 (s_bst nh i_114 (I 24) i_133)) J Gb_119 X) 83 [(0, .ref (L 99)), (1, .int (nI (mm))), (2, .int h), (3, .int (nI (al))), (4, .int ((s_bd nh (I 24) (fun τ => decide ((s_go wv (I 10) (I 27) nh nd own now τ mm).1 1 = τ 1)) i_114).1)), (5, .int ((s_bd nh (I 24) (fun τ => decide ((s_go wv (I 10) (I 27) nh nd own now τ mm).1 1 = τ 1)) i_114).2)), (6, .int (nI (i_114))), (7, .int (s_bsum nh i_114 i_133)), (8, .int (zb (s_bmay nh i_114 (I 24) i_133))), (9, .int (nI (i_133)))] [] := by
                intro q_134
                induction q_134 with
                | zero =>
                  intro i_133 hb_136 lo_138  
                  obtain rfl : nh = i_133 := by omega
                  refine z_iload 9 dX5_beds_83 rfl ?_
                  refine z_aload_n 0 dX5_beds_85 rfl ?_
                  refine z_callV (As := []) (t_houses (I := (tput (tco (zs I 99 0 0) c_120 o_121) 987 (s_bst nh i_114 (I 24) nh))) hL h0) q1585 q1587 qs56 q121 q1588 nm_X5_houses (tX_obj hL) rfl rfl rfl (Nat.le_of_ble_eq_true rfl) ⟨Nat.le_of_ble_eq_true rfl, Nat.le_of_ble_eq_true rfl⟩ dX5_beds_86 rfl rfl (Nat.le_of_ble_eq_true rfl) (Nat.le_of_ble_eq_true rfl) (fun v_139 X_140 hp_141 => ?_)
                  obtain ⟨rfl, rfl⟩ := hp_141
                  refine z_st (st' := [.int (nI (nh)), .int (nI (nh))]) rfl ?_
                  refine z_icmp_geN (a := nh) (b := nh) 161 (by omega) (by omega) dX5_beds_89 (by decide) (fun c_142 => ?_) (fun c_142 => absurd c_142 (by omega))
                  refine z_iload 8 dX5_beds_161 rfl ?_
                  refine z_if_eqb 190 dX5_beds_163 (by decide) (fun c_143 => ?_) (fun c_143 => ?_)
                  · -- s_bmay nh i_114 (I 24) nh = false
                    refine z_iconst (v := 0) dX5_beds_190 (by decide) ?_
                    refine z_istore (lv' := [(9, .int 0), (0, .ref (L 99)), (1, .int (nI (mm))), (2, .int h), (3, .int (nI (al))), (4, .int ((s_bd nh (I 24) (fun τ => decide ((s_go wv (I 10) (I 27) nh nd own now τ mm).1 1 = τ 1)) i_114).1)), (5, .int ((s_bd nh (I 24) (fun τ => decide ((s_go wv (I 10) (I 27) nh nd own now τ mm).1 1 = τ 1)) i_114).2)), (6, .int (nI (i_114))), (7, .int (s_bsum nh i_114 nh)), (8, .int (zb (s_bmay nh i_114 (I 24) nh)))]) dX5_beds_191 (by decide) rfl ?_
                    refine z_iload 0 dX5_beds_193 rfl ?_
                    refine z_if_eq 203 dX5_beds_195 (by decide) (fun h_ => ?_) (fun h_ => absurd h_ (by decide))
                    refine z_iload 5 dX5_beds_203 rfl ?_
                    refine z_istore (lv' := [(4, .int ((s_bd nh (I 24) (fun τ => decide ((s_go wv (I 10) (I 27) nh nd own now τ mm).1 1 = τ 1)) i_114).1)), (9, .int 0), (0, .ref (L 99)), (1, .int (nI (mm))), (2, .int h), (3, .int (nI (al))), (5, .int ((s_bd nh (I 24) (fun τ => decide ((s_go wv (I 10) (I 27) nh nd own now τ mm).1 1 = τ 1)) i_114).2)), (6, .int (nI (i_114))), (7, .int (s_bsum nh i_114 nh)), (8, .int (zb (s_bmay nh i_114 (I 24) nh)))]) dX5_beds_205 (by decide) rfl ?_
                    refine z_iload 1 dX5_beds_207 rfl ?_
                    refine z_if_eq 217 dX5_beds_209 (by decide) (fun h_ => ?_) (fun h_ => absurd h_ (by decide))
                    refine z_iload 6 dX5_beds_217 rfl ?_
                    refine z_istore (lv' := [(5, .int ((s_bd nh (I 24) (fun τ => decide ((s_go wv (I 10) (I 27) nh nd own now τ mm).1 1 = τ 1)) i_114).2)), (4, .int ((s_bd nh (I 24) (fun τ => decide ((s_go wv (I 10) (I 27) nh nd own now τ mm).1 1 = τ 1)) i_114).1)), (9, .int 0), (0, .ref (L 99)), (1, .int (nI (mm))), (2, .int h), (3, .int (nI (al))), (6, .int (nI (i_114))), (7, .int (s_bsum nh i_114 nh)), (8, .int (zb (s_bmay nh i_114 (I 24) nh)))]) dX5_beds_219 (by decide) rfl ?_
                    refine z_iinc (v := nI (i_114 + 1)) (lv' := [(6, .int (nI (i_114 + 1))), (5, .int ((s_bd nh (I 24) (fun τ => decide ((s_go wv (I 10) (I 27) nh nd own now τ mm).1 1 = τ 1)) i_114).2)), (4, .int ((s_bd nh (I 24) (fun τ => decide ((s_go wv (I 10) (I 27) nh nd own now τ mm).1 1 = τ 1)) i_114).1)), (9, .int 0), (0, .ref (L 99)), (1, .int (nI (mm))), (2, .int h), (3, .int (nI (al))), (7, .int (s_bsum nh i_114 nh)), (8, .int (zb (s_bmay nh i_114 (I 24) nh)))]) 7 dX5_beds_221 rfl (nI_1 _) (by decide) rfl ?_
                    refine z_goto 64 dX5_beds_224 (by decide) ?_
                    have f_144 : (s_bd nh (I 24) (fun τ => decide ((s_go wv (I 10) (I 27) nh nd own now τ mm).1 1 = τ 1)) i_114).1 = (s_bd nh (I 24) (fun τ => decide ((s_go wv (I 10) (I 27) nh nd own now τ mm).1 1 = τ 1)) (i_114 + 1)).1 := by skip; simp [s_bd, c_4, c_103, c_113, c_129, c_142, c_143]
                    have f_145 : (s_bd nh (I 24) (fun τ => decide ((s_go wv (I 10) (I 27) nh nd own now τ mm).1 1 = τ 1)) i_114).2 = (s_bd nh (I 24) (fun τ => decide ((s_go wv (I 10) (I 27) nh nd own now τ mm).1 1 = τ 1)) (i_114 + 1)).2 := by skip; simp [s_bd, c_4, c_103, c_113, c_129, c_142, c_143]
                    refine z_lv (lv' := [(0, .ref (L 99)), (1, .int (nI (mm))), (2, .int h), (3, .int (nI (al))), (4, .int ((s_bd nh (I 24) (fun τ => decide ((s_go wv (I 10) (I 27) nh nd own now τ mm).1 1 = τ 1)) (i_114 + 1)).1)), (5, .int ((s_bd nh (I 24) (fun τ => decide ((s_go wv (I 10) (I 27) nh nd own now τ mm).1 1 = τ 1)) (i_114 + 1)).2)), (6, .int (nI (i_114 + 1)))]) [4, 5, 6, 7, 2, 1, 0] (by rw [← f_144, ← f_145]; rfl) ?_
                    exact ih_116 (i_114 + 1) (by omega) (by omega) _ _ _ _ 
                  · -- s_bmay nh i_114 (I 24) nh = true
                    refine z_iload 4 dX5_beds_166 rfl ?_
                    refine z_if_lt 178 dX5_beds_168 (by decide) (fun c_146 => ?_) (fun c_146 => ?_)
                    · -- (s_bd nh (I 24) (fun τ => decide ((s_go wv (I 10) (I 27) nh nd own now τ mm).1 1 = τ 1)) i_114).1 < 0
                      have c_146' := Int32.not_le.mpr c_146
                      refine z_aload_n 0 dX5_beds_178 rfl ?_
                      refine z_iload_n 1 dX5_beds_179 rfl ?_
                      refine z_callV (As := [.int (nI (mm))]) (t_isCalm (I := (zs I 99 0 0)) (τ := (s_bst nh i_114 (I 24) nh)) (c := c_120) (o := o_121) hL hV hlaw mm (by omega) ((s_bst_0 _).trans hw) (by omega)) q1964 q1966 qs103 q121 q1967 nm_X5_isCalm (tX_obj hL) rfl rfl rfl (Nat.le_of_ble_eq_true rfl) ⟨Nat.le_of_ble_eq_true rfl, Nat.le_of_ble_eq_true rfl⟩ dX5_beds_180 rfl rfl (Nat.le_of_ble_eq_true rfl) (Nat.le_of_ble_eq_true rfl) (fun v_150 X_151 hp_152 => ?_)
                      obtain ⟨rfl, c_147, o_148, Gb_149, rfl⟩ := hp_152
                      refine z_st (st' := [.int (zb (decide ((s_go wv (I 10) (I 27) nh nd own now (s_bst nh i_114 (I 24) nh) mm).1 1 = (s_bst nh i_114 (I 24) nh) 1)))]) rfl ?_
                      refine z_if_eqb 190 dX5_beds_183 (by decide) (fun c_153 => ?_) (fun c_153 => ?_)
                      · -- decide ((s_go wv (I 10) (I 27) nh nd own now (s_bst nh i_114 (I 24) nh) mm).1 1 = (s_bst nh i_114 (I 24) nh) 1) = false
                        refine z_iconst (v := 0) dX5_beds_190 (by decide) ?_
                        refine z_istore (lv' := [(9, .int 0), (0, .ref (L 99)), (1, .int (nI (mm))), (2, .int h), (3, .int (nI (al))), (4, .int ((s_bd nh (I 24) (fun τ => decide ((s_go wv (I 10) (I 27) nh nd own now τ mm).1 1 = τ 1)) i_114).1)), (5, .int ((s_bd nh (I 24) (fun τ => decide ((s_go wv (I 10) (I 27) nh nd own now τ mm).1 1 = τ 1)) i_114).2)), (6, .int (nI (i_114))), (7, .int (s_bsum nh i_114 nh)), (8, .int (zb (s_bmay nh i_114 (I 24) nh)))]) dX5_beds_191 (by decide) rfl ?_
                        refine z_iload 0 dX5_beds_193 rfl ?_
                        refine z_if_eq 203 dX5_beds_195 (by decide) (fun h_ => ?_) (fun h_ => absurd h_ (by decide))
                        refine z_iload 5 dX5_beds_203 rfl ?_
                        refine z_istore (lv' := [(4, .int ((s_bd nh (I 24) (fun τ => decide ((s_go wv (I 10) (I 27) nh nd own now τ mm).1 1 = τ 1)) i_114).1)), (9, .int 0), (0, .ref (L 99)), (1, .int (nI (mm))), (2, .int h), (3, .int (nI (al))), (5, .int ((s_bd nh (I 24) (fun τ => decide ((s_go wv (I 10) (I 27) nh nd own now τ mm).1 1 = τ 1)) i_114).2)), (6, .int (nI (i_114))), (7, .int (s_bsum nh i_114 nh)), (8, .int (zb (s_bmay nh i_114 (I 24) nh)))]) dX5_beds_205 (by decide) rfl ?_
                        refine z_iload 1 dX5_beds_207 rfl ?_
                        refine z_if_eq 217 dX5_beds_209 (by decide) (fun h_ => ?_) (fun h_ => absurd h_ (by decide))
                        refine z_iload 6 dX5_beds_217 rfl ?_
                        refine z_istore (lv' := [(5, .int ((s_bd nh (I 24) (fun τ => decide ((s_go wv (I 10) (I 27) nh nd own now τ mm).1 1 = τ 1)) i_114).2)), (4, .int ((s_bd nh (I 24) (fun τ => decide ((s_go wv (I 10) (I 27) nh nd own now τ mm).1 1 = τ 1)) i_114).1)), (9, .int 0), (0, .ref (L 99)), (1, .int (nI (mm))), (2, .int h), (3, .int (nI (al))), (6, .int (nI (i_114))), (7, .int (s_bsum nh i_114 nh)), (8, .int (zb (s_bmay nh i_114 (I 24) nh)))]) dX5_beds_219 (by decide) rfl ?_
                        refine z_iinc (v := nI (i_114 + 1)) (lv' := [(6, .int (nI (i_114 + 1))), (5, .int ((s_bd nh (I 24) (fun τ => decide ((s_go wv (I 10) (I 27) nh nd own now τ mm).1 1 = τ 1)) i_114).2)), (4, .int ((s_bd nh (I 24) (fun τ => decide ((s_go wv (I 10) (I 27) nh nd own now τ mm).1 1 = τ 1)) i_114).1)), (9, .int 0), (0, .ref (L 99)), (1, .int (nI (mm))), (2, .int h), (3, .int (nI (al))), (7, .int (s_bsum nh i_114 nh)), (8, .int (zb (s_bmay nh i_114 (I 24) nh)))]) 7 dX5_beds_221 rfl (nI_1 _) (by decide) rfl ?_
                        refine z_goto 64 dX5_beds_224 (by decide) ?_
                        have f_154 : (s_bd nh (I 24) (fun τ => decide ((s_go wv (I 10) (I 27) nh nd own now τ mm).1 1 = τ 1)) i_114).1 = (s_bd nh (I 24) (fun τ => decide ((s_go wv (I 10) (I 27) nh nd own now τ mm).1 1 = τ 1)) (i_114 + 1)).1 := by skip; simp [s_bd, c_103, c_113, c_129, c_142, c_143, c_146, c_146', c_153]
                        have f_155 : (s_bd nh (I 24) (fun τ => decide ((s_go wv (I 10) (I 27) nh nd own now τ mm).1 1 = τ 1)) i_114).2 = (s_bd nh (I 24) (fun τ => decide ((s_go wv (I 10) (I 27) nh nd own now τ mm).1 1 = τ 1)) (i_114 + 1)).2 := by skip; simp [s_bd, c_103, c_113, c_129, c_142, c_143, c_146, c_146', c_153]
                        refine z_lv (lv' := [(0, .ref (L 99)), (1, .int (nI (mm))), (2, .int h), (3, .int (nI (al))), (4, .int ((s_bd nh (I 24) (fun τ => decide ((s_go wv (I 10) (I 27) nh nd own now τ mm).1 1 = τ 1)) (i_114 + 1)).1)), (5, .int ((s_bd nh (I 24) (fun τ => decide ((s_go wv (I 10) (I 27) nh nd own now τ mm).1 1 = τ 1)) (i_114 + 1)).2)), (6, .int (nI (i_114 + 1)))]) [4, 5, 6, 7, 2, 1, 0] (by rw [← f_154, ← f_155]; rfl) ?_
                        exact ih_116 (i_114 + 1) (by omega) (by omega) _ _ _ _ 
                      · -- decide ((s_go wv (I 10) (I 27) nh nd own now (s_bst nh i_114 (I 24) nh) mm).1 1 = (s_bst nh i_114 (I 24) nh) 1) = true
                        refine z_iconst (v := 1) dX5_beds_186 (by decide) ?_
                        refine z_goto 191 dX5_beds_187 (by decide) ?_
                        refine z_istore (lv' := [(9, .int 1), (0, .ref (L 99)), (1, .int (nI (mm))), (2, .int h), (3, .int (nI (al))), (4, .int ((s_bd nh (I 24) (fun τ => decide ((s_go wv (I 10) (I 27) nh nd own now τ mm).1 1 = τ 1)) i_114).1)), (5, .int ((s_bd nh (I 24) (fun τ => decide ((s_go wv (I 10) (I 27) nh nd own now τ mm).1 1 = τ 1)) i_114).2)), (6, .int (nI (i_114))), (7, .int (s_bsum nh i_114 nh)), (8, .int (zb (s_bmay nh i_114 (I 24) nh)))]) dX5_beds_191 (by decide) rfl ?_
                        refine z_iload 0 dX5_beds_193 rfl ?_
                        refine z_if_eq 203 dX5_beds_195 (by decide) (fun h_ => absurd h_ (by decide)) (fun h_ => ?_)
                        refine z_iload 7 dX5_beds_198 rfl ?_
                        refine z_goto 205 dX5_beds_200 (by decide) ?_
                        refine z_istore (lv' := [(4, .int (nI (i_114))), (9, .int 1), (0, .ref (L 99)), (1, .int (nI (mm))), (2, .int h), (3, .int (nI (al))), (5, .int ((s_bd nh (I 24) (fun τ => decide ((s_go wv (I 10) (I 27) nh nd own now τ mm).1 1 = τ 1)) i_114).2)), (6, .int (nI (i_114))), (7, .int (s_bsum nh i_114 nh)), (8, .int (zb (s_bmay nh i_114 (I 24) nh)))]) dX5_beds_205 (by decide) rfl ?_
                        refine z_iload 1 dX5_beds_207 rfl ?_
                        refine z_if_eq 217 dX5_beds_209 (by decide) (fun h_ => absurd h_ (by decide)) (fun h_ => ?_)
                        refine z_iload 8 dX5_beds_212 rfl ?_
                        refine z_goto 219 dX5_beds_214 (by decide) ?_
                        refine z_istore (lv' := [(5, .int (s_bsum nh i_114 nh)), (4, .int (nI (i_114))), (9, .int 1), (0, .ref (L 99)), (1, .int (nI (mm))), (2, .int h), (3, .int (nI (al))), (6, .int (nI (i_114))), (7, .int (s_bsum nh i_114 nh)), (8, .int (zb (s_bmay nh i_114 (I 24) nh)))]) dX5_beds_219 (by decide) rfl ?_
                        refine z_iinc (v := nI (i_114 + 1)) (lv' := [(6, .int (nI (i_114 + 1))), (5, .int (s_bsum nh i_114 nh)), (4, .int (nI (i_114))), (9, .int 1), (0, .ref (L 99)), (1, .int (nI (mm))), (2, .int h), (3, .int (nI (al))), (7, .int (s_bsum nh i_114 nh)), (8, .int (zb (s_bmay nh i_114 (I 24) nh)))]) 7 dX5_beds_221 rfl (nI_1 _) (by decide) rfl ?_
                        refine z_goto 64 dX5_beds_224 (by decide) ?_
                        have f_156 : nI (i_114) = (s_bd nh (I 24) (fun τ => decide ((s_go wv (I 10) (I 27) nh nd own now τ mm).1 1 = τ 1)) (i_114 + 1)).1 := by skip; simp [s_bd, c_103, c_113, c_129, c_142, c_143, c_146, c_146', c_153]
                        have f_157 : s_bsum nh i_114 nh = (s_bd nh (I 24) (fun τ => decide ((s_go wv (I 10) (I 27) nh nd own now τ mm).1 1 = τ 1)) (i_114 + 1)).2 := by skip; simp [s_bd, c_103, c_113, c_129, c_142, c_143, c_146, c_146', c_153]
                        refine z_lv (lv' := [(0, .ref (L 99)), (1, .int (nI (mm))), (2, .int h), (3, .int (nI (al))), (4, .int ((s_bd nh (I 24) (fun τ => decide ((s_go wv (I 10) (I 27) nh nd own now τ mm).1 1 = τ 1)) (i_114 + 1)).1)), (5, .int ((s_bd nh (I 24) (fun τ => decide ((s_go wv (I 10) (I 27) nh nd own now τ mm).1 1 = τ 1)) (i_114 + 1)).2)), (6, .int (nI (i_114 + 1)))]) [4, 5, 6, 7, 2, 1, 0] (by rw [← f_156, ← f_157]; rfl) ?_
                        exact ih_116 (i_114 + 1) (by omega) (by omega) _ _ _ _ 
                    · -- ¬ (s_bd nh (I 24) (fun τ => decide ((s_go wv (I 10) (I 27) nh nd own now τ mm).1 1 = τ 1)) i_114).1 < 0
                      have c_146' := Int32.not_lt.mp c_146
                      refine z_iload 7 dX5_beds_171 rfl ?_
                      refine z_iload 5 dX5_beds_173 rfl ?_
                      refine z_icmp_ge 190 dX5_beds_175 (by decide) (fun c_158 => ?_) (fun c_158 => ?_)
                      · -- (s_bd nh (I 24) (fun τ => decide ((s_go wv (I 10) (I 27) nh nd own now τ mm).1 1 = τ 1)) i_114).2 ≤ s_bsum nh i_114 nh
                        have c_158' := Int32.not_lt.mpr c_158
                        refine z_iconst (v := 0) dX5_beds_190 (by decide) ?_
                        refine z_istore (lv' := [(9, .int 0), (0, .ref (L 99)), (1, .int (nI (mm))), (2, .int h), (3, .int (nI (al))), (4, .int ((s_bd nh (I 24) (fun τ => decide ((s_go wv (I 10) (I 27) nh nd own now τ mm).1 1 = τ 1)) i_114).1)), (5, .int ((s_bd nh (I 24) (fun τ => decide ((s_go wv (I 10) (I 27) nh nd own now τ mm).1 1 = τ 1)) i_114).2)), (6, .int (nI (i_114))), (7, .int (s_bsum nh i_114 nh)), (8, .int (zb (s_bmay nh i_114 (I 24) nh)))]) dX5_beds_191 (by decide) rfl ?_
                        refine z_iload 0 dX5_beds_193 rfl ?_
                        refine z_if_eq 203 dX5_beds_195 (by decide) (fun h_ => ?_) (fun h_ => absurd h_ (by decide))
                        refine z_iload 5 dX5_beds_203 rfl ?_
                        refine z_istore (lv' := [(4, .int ((s_bd nh (I 24) (fun τ => decide ((s_go wv (I 10) (I 27) nh nd own now τ mm).1 1 = τ 1)) i_114).1)), (9, .int 0), (0, .ref (L 99)), (1, .int (nI (mm))), (2, .int h), (3, .int (nI (al))), (5, .int ((s_bd nh (I 24) (fun τ => decide ((s_go wv (I 10) (I 27) nh nd own now τ mm).1 1 = τ 1)) i_114).2)), (6, .int (nI (i_114))), (7, .int (s_bsum nh i_114 nh)), (8, .int (zb (s_bmay nh i_114 (I 24) nh)))]) dX5_beds_205 (by decide) rfl ?_
                        refine z_iload 1 dX5_beds_207 rfl ?_
                        refine z_if_eq 217 dX5_beds_209 (by decide) (fun h_ => ?_) (fun h_ => absurd h_ (by decide))
                        refine z_iload 6 dX5_beds_217 rfl ?_
                        refine z_istore (lv' := [(5, .int ((s_bd nh (I 24) (fun τ => decide ((s_go wv (I 10) (I 27) nh nd own now τ mm).1 1 = τ 1)) i_114).2)), (4, .int ((s_bd nh (I 24) (fun τ => decide ((s_go wv (I 10) (I 27) nh nd own now τ mm).1 1 = τ 1)) i_114).1)), (9, .int 0), (0, .ref (L 99)), (1, .int (nI (mm))), (2, .int h), (3, .int (nI (al))), (6, .int (nI (i_114))), (7, .int (s_bsum nh i_114 nh)), (8, .int (zb (s_bmay nh i_114 (I 24) nh)))]) dX5_beds_219 (by decide) rfl ?_
                        refine z_iinc (v := nI (i_114 + 1)) (lv' := [(6, .int (nI (i_114 + 1))), (5, .int ((s_bd nh (I 24) (fun τ => decide ((s_go wv (I 10) (I 27) nh nd own now τ mm).1 1 = τ 1)) i_114).2)), (4, .int ((s_bd nh (I 24) (fun τ => decide ((s_go wv (I 10) (I 27) nh nd own now τ mm).1 1 = τ 1)) i_114).1)), (9, .int 0), (0, .ref (L 99)), (1, .int (nI (mm))), (2, .int h), (3, .int (nI (al))), (7, .int (s_bsum nh i_114 nh)), (8, .int (zb (s_bmay nh i_114 (I 24) nh)))]) 7 dX5_beds_221 rfl (nI_1 _) (by decide) rfl ?_
                        refine z_goto 64 dX5_beds_224 (by decide) ?_
                        have f_159 : (s_bd nh (I 24) (fun τ => decide ((s_go wv (I 10) (I 27) nh nd own now τ mm).1 1 = τ 1)) i_114).1 = (s_bd nh (I 24) (fun τ => decide ((s_go wv (I 10) (I 27) nh nd own now τ mm).1 1 = τ 1)) (i_114 + 1)).1 := by skip; simp [s_bd, c_113, c_129, c_142, c_143, c_146, c_146', c_158, c_158']
                        have f_160 : (s_bd nh (I 24) (fun τ => decide ((s_go wv (I 10) (I 27) nh nd own now τ mm).1 1 = τ 1)) i_114).2 = (s_bd nh (I 24) (fun τ => decide ((s_go wv (I 10) (I 27) nh nd own now τ mm).1 1 = τ 1)) (i_114 + 1)).2 := by skip; simp [s_bd, c_113, c_129, c_142, c_143, c_146, c_146', c_158, c_158']
                        refine z_lv (lv' := [(0, .ref (L 99)), (1, .int (nI (mm))), (2, .int h), (3, .int (nI (al))), (4, .int ((s_bd nh (I 24) (fun τ => decide ((s_go wv (I 10) (I 27) nh nd own now τ mm).1 1 = τ 1)) (i_114 + 1)).1)), (5, .int ((s_bd nh (I 24) (fun τ => decide ((s_go wv (I 10) (I 27) nh nd own now τ mm).1 1 = τ 1)) (i_114 + 1)).2)), (6, .int (nI (i_114 + 1)))]) [4, 5, 6, 7, 2, 1, 0] (by rw [← f_159, ← f_160]; rfl) ?_
                        exact ih_116 (i_114 + 1) (by omega) (by omega) _ _ _ _ 
                      · -- ¬ (s_bd nh (I 24) (fun τ => decide ((s_go wv (I 10) (I 27) nh nd own now τ mm).1 1 = τ 1)) i_114).2 ≤ s_bsum nh i_114 nh
                        have c_158' := Int32.not_le.mp c_158
                        refine z_aload_n 0 dX5_beds_178 rfl ?_
                        refine z_iload_n 1 dX5_beds_179 rfl ?_
                        refine z_callV (As := [.int (nI (mm))]) (t_isCalm (I := (zs I 99 0 0)) (τ := (s_bst nh i_114 (I 24) nh)) (c := c_120) (o := o_121) hL hV hlaw mm (by omega) ((s_bst_0 _).trans hw) (by omega)) q1964 q1966 qs103 q121 q1967 nm_X5_isCalm (tX_obj hL) rfl rfl rfl (Nat.le_of_ble_eq_true rfl) ⟨Nat.le_of_ble_eq_true rfl, Nat.le_of_ble_eq_true rfl⟩ dX5_beds_180 rfl rfl (Nat.le_of_ble_eq_true rfl) (Nat.le_of_ble_eq_true rfl) (fun v_164 X_165 hp_166 => ?_)
                        obtain ⟨rfl, c_161, o_162, Gb_163, rfl⟩ := hp_166
                        refine z_st (st' := [.int (zb (decide ((s_go wv (I 10) (I 27) nh nd own now (s_bst nh i_114 (I 24) nh) mm).1 1 = (s_bst nh i_114 (I 24) nh) 1)))]) rfl ?_
                        refine z_if_eqb 190 dX5_beds_183 (by decide) (fun c_167 => ?_) (fun c_167 => ?_)
                        · -- decide ((s_go wv (I 10) (I 27) nh nd own now (s_bst nh i_114 (I 24) nh) mm).1 1 = (s_bst nh i_114 (I 24) nh) 1) = false
                          refine z_iconst (v := 0) dX5_beds_190 (by decide) ?_
                          refine z_istore (lv' := [(9, .int 0), (0, .ref (L 99)), (1, .int (nI (mm))), (2, .int h), (3, .int (nI (al))), (4, .int ((s_bd nh (I 24) (fun τ => decide ((s_go wv (I 10) (I 27) nh nd own now τ mm).1 1 = τ 1)) i_114).1)), (5, .int ((s_bd nh (I 24) (fun τ => decide ((s_go wv (I 10) (I 27) nh nd own now τ mm).1 1 = τ 1)) i_114).2)), (6, .int (nI (i_114))), (7, .int (s_bsum nh i_114 nh)), (8, .int (zb (s_bmay nh i_114 (I 24) nh)))]) dX5_beds_191 (by decide) rfl ?_
                          refine z_iload 0 dX5_beds_193 rfl ?_
                          refine z_if_eq 203 dX5_beds_195 (by decide) (fun h_ => ?_) (fun h_ => absurd h_ (by decide))
                          refine z_iload 5 dX5_beds_203 rfl ?_
                          refine z_istore (lv' := [(4, .int ((s_bd nh (I 24) (fun τ => decide ((s_go wv (I 10) (I 27) nh nd own now τ mm).1 1 = τ 1)) i_114).1)), (9, .int 0), (0, .ref (L 99)), (1, .int (nI (mm))), (2, .int h), (3, .int (nI (al))), (5, .int ((s_bd nh (I 24) (fun τ => decide ((s_go wv (I 10) (I 27) nh nd own now τ mm).1 1 = τ 1)) i_114).2)), (6, .int (nI (i_114))), (7, .int (s_bsum nh i_114 nh)), (8, .int (zb (s_bmay nh i_114 (I 24) nh)))]) dX5_beds_205 (by decide) rfl ?_
                          refine z_iload 1 dX5_beds_207 rfl ?_
                          refine z_if_eq 217 dX5_beds_209 (by decide) (fun h_ => ?_) (fun h_ => absurd h_ (by decide))
                          refine z_iload 6 dX5_beds_217 rfl ?_
                          refine z_istore (lv' := [(5, .int ((s_bd nh (I 24) (fun τ => decide ((s_go wv (I 10) (I 27) nh nd own now τ mm).1 1 = τ 1)) i_114).2)), (4, .int ((s_bd nh (I 24) (fun τ => decide ((s_go wv (I 10) (I 27) nh nd own now τ mm).1 1 = τ 1)) i_114).1)), (9, .int 0), (0, .ref (L 99)), (1, .int (nI (mm))), (2, .int h), (3, .int (nI (al))), (6, .int (nI (i_114))), (7, .int (s_bsum nh i_114 nh)), (8, .int (zb (s_bmay nh i_114 (I 24) nh)))]) dX5_beds_219 (by decide) rfl ?_
                          refine z_iinc (v := nI (i_114 + 1)) (lv' := [(6, .int (nI (i_114 + 1))), (5, .int ((s_bd nh (I 24) (fun τ => decide ((s_go wv (I 10) (I 27) nh nd own now τ mm).1 1 = τ 1)) i_114).2)), (4, .int ((s_bd nh (I 24) (fun τ => decide ((s_go wv (I 10) (I 27) nh nd own now τ mm).1 1 = τ 1)) i_114).1)), (9, .int 0), (0, .ref (L 99)), (1, .int (nI (mm))), (2, .int h), (3, .int (nI (al))), (7, .int (s_bsum nh i_114 nh)), (8, .int (zb (s_bmay nh i_114 (I 24) nh)))]) 7 dX5_beds_221 rfl (nI_1 _) (by decide) rfl ?_
                          refine z_goto 64 dX5_beds_224 (by decide) ?_
                          have f_168 : (s_bd nh (I 24) (fun τ => decide ((s_go wv (I 10) (I 27) nh nd own now τ mm).1 1 = τ 1)) i_114).1 = (s_bd nh (I 24) (fun τ => decide ((s_go wv (I 10) (I 27) nh nd own now τ mm).1 1 = τ 1)) (i_114 + 1)).1 := by skip; simp [s_bd, c_129, c_142, c_143, c_146, c_146', c_158, c_158', c_167]
                          have f_169 : (s_bd nh (I 24) (fun τ => decide ((s_go wv (I 10) (I 27) nh nd own now τ mm).1 1 = τ 1)) i_114).2 = (s_bd nh (I 24) (fun τ => decide ((s_go wv (I 10) (I 27) nh nd own now τ mm).1 1 = τ 1)) (i_114 + 1)).2 := by skip; simp [s_bd, c_129, c_142, c_143, c_146, c_146', c_158, c_158', c_167]
                          refine z_lv (lv' := [(0, .ref (L 99)), (1, .int (nI (mm))), (2, .int h), (3, .int (nI (al))), (4, .int ((s_bd nh (I 24) (fun τ => decide ((s_go wv (I 10) (I 27) nh nd own now τ mm).1 1 = τ 1)) (i_114 + 1)).1)), (5, .int ((s_bd nh (I 24) (fun τ => decide ((s_go wv (I 10) (I 27) nh nd own now τ mm).1 1 = τ 1)) (i_114 + 1)).2)), (6, .int (nI (i_114 + 1)))]) [4, 5, 6, 7, 2, 1, 0] (by rw [← f_168, ← f_169]; rfl) ?_
                          exact ih_116 (i_114 + 1) (by omega) (by omega) _ _ _ _ 
                        · -- decide ((s_go wv (I 10) (I 27) nh nd own now (s_bst nh i_114 (I 24) nh) mm).1 1 = (s_bst nh i_114 (I 24) nh) 1) = true
                          refine z_iconst (v := 1) dX5_beds_186 (by decide) ?_
                          refine z_goto 191 dX5_beds_187 (by decide) ?_
                          refine z_istore (lv' := [(9, .int 1), (0, .ref (L 99)), (1, .int (nI (mm))), (2, .int h), (3, .int (nI (al))), (4, .int ((s_bd nh (I 24) (fun τ => decide ((s_go wv (I 10) (I 27) nh nd own now τ mm).1 1 = τ 1)) i_114).1)), (5, .int ((s_bd nh (I 24) (fun τ => decide ((s_go wv (I 10) (I 27) nh nd own now τ mm).1 1 = τ 1)) i_114).2)), (6, .int (nI (i_114))), (7, .int (s_bsum nh i_114 nh)), (8, .int (zb (s_bmay nh i_114 (I 24) nh)))]) dX5_beds_191 (by decide) rfl ?_
                          refine z_iload 0 dX5_beds_193 rfl ?_
                          refine z_if_eq 203 dX5_beds_195 (by decide) (fun h_ => absurd h_ (by decide)) (fun h_ => ?_)
                          refine z_iload 7 dX5_beds_198 rfl ?_
                          refine z_goto 205 dX5_beds_200 (by decide) ?_
                          refine z_istore (lv' := [(4, .int (nI (i_114))), (9, .int 1), (0, .ref (L 99)), (1, .int (nI (mm))), (2, .int h), (3, .int (nI (al))), (5, .int ((s_bd nh (I 24) (fun τ => decide ((s_go wv (I 10) (I 27) nh nd own now τ mm).1 1 = τ 1)) i_114).2)), (6, .int (nI (i_114))), (7, .int (s_bsum nh i_114 nh)), (8, .int (zb (s_bmay nh i_114 (I 24) nh)))]) dX5_beds_205 (by decide) rfl ?_
                          refine z_iload 1 dX5_beds_207 rfl ?_
                          refine z_if_eq 217 dX5_beds_209 (by decide) (fun h_ => absurd h_ (by decide)) (fun h_ => ?_)
                          refine z_iload 8 dX5_beds_212 rfl ?_
                          refine z_goto 219 dX5_beds_214 (by decide) ?_
                          refine z_istore (lv' := [(5, .int (s_bsum nh i_114 nh)), (4, .int (nI (i_114))), (9, .int 1), (0, .ref (L 99)), (1, .int (nI (mm))), (2, .int h), (3, .int (nI (al))), (6, .int (nI (i_114))), (7, .int (s_bsum nh i_114 nh)), (8, .int (zb (s_bmay nh i_114 (I 24) nh)))]) dX5_beds_219 (by decide) rfl ?_
                          refine z_iinc (v := nI (i_114 + 1)) (lv' := [(6, .int (nI (i_114 + 1))), (5, .int (s_bsum nh i_114 nh)), (4, .int (nI (i_114))), (9, .int 1), (0, .ref (L 99)), (1, .int (nI (mm))), (2, .int h), (3, .int (nI (al))), (7, .int (s_bsum nh i_114 nh)), (8, .int (zb (s_bmay nh i_114 (I 24) nh)))]) 7 dX5_beds_221 rfl (nI_1 _) (by decide) rfl ?_
                          refine z_goto 64 dX5_beds_224 (by decide) ?_
                          have f_170 : nI (i_114) = (s_bd nh (I 24) (fun τ => decide ((s_go wv (I 10) (I 27) nh nd own now τ mm).1 1 = τ 1)) (i_114 + 1)).1 := by skip; simp [s_bd, c_129, c_142, c_143, c_146, c_146', c_158, c_158', c_167]
                          have f_171 : s_bsum nh i_114 nh = (s_bd nh (I 24) (fun τ => decide ((s_go wv (I 10) (I 27) nh nd own now τ mm).1 1 = τ 1)) (i_114 + 1)).2 := by skip; simp [s_bd, c_129, c_142, c_143, c_146, c_146', c_158, c_158', c_167]
                          refine z_lv (lv' := [(0, .ref (L 99)), (1, .int (nI (mm))), (2, .int h), (3, .int (nI (al))), (4, .int ((s_bd nh (I 24) (fun τ => decide ((s_go wv (I 10) (I 27) nh nd own now τ mm).1 1 = τ 1)) (i_114 + 1)).1)), (5, .int ((s_bd nh (I 24) (fun τ => decide ((s_go wv (I 10) (I 27) nh nd own now τ mm).1 1 = τ 1)) (i_114 + 1)).2)), (6, .int (nI (i_114 + 1)))]) [4, 5, 6, 7, 2, 1, 0] (by rw [← f_170, ← f_171]; rfl) ?_
                          exact ih_116 (i_114 + 1) (by omega) (by omega) _ _ _ _ 
                | succ q_134 ih_135 =>
                  intro i_133 hb_136 lo_138  
                  refine z_iload 9 dX5_beds_83 rfl ?_
                  refine z_aload_n 0 dX5_beds_85 rfl ?_
                  refine z_callV (As := []) (t_houses (I := (tput (tco (zs I 99 0 0) c_120 o_121) 987 (s_bst nh i_114 (I 24) i_133))) hL h0) q1585 q1587 qs56 q121 q1588 nm_X5_houses (tX_obj hL) rfl rfl rfl (Nat.le_of_ble_eq_true rfl) ⟨Nat.le_of_ble_eq_true rfl, Nat.le_of_ble_eq_true rfl⟩ dX5_beds_86 rfl rfl (Nat.le_of_ble_eq_true rfl) (Nat.le_of_ble_eq_true rfl) (fun v_172 X_173 hp_174 => ?_)
                  obtain ⟨rfl, rfl⟩ := hp_174
                  refine z_st (st' := [.int (nI (nh)), .int (nI (i_133))]) rfl ?_
                  refine z_icmp_geN (a := i_133) (b := nh) 161 (by omega) (by omega) dX5_beds_89 (by decide) (fun c_175 => absurd c_175 (by omega)) (fun c_175 => ?_)
                  refine z_iload 7 dX5_beds_92 rfl ?_
                  refine z_aload_n 0 dX5_beds_94 rfl ?_
                  refine z_iload 6 dX5_beds_95 rfl ?_
                  refine z_iload 9 dX5_beds_97 rfl ?_
                  refine z_callV (As := [.int (nI (i_114)), .int (nI (i_133))]) (t_builtIn (I := (tput (tco (zs I 99 0 0) c_120 o_121) 987 (s_bst nh i_114 (I 24) i_133))) hL i_114 i_133 (by omega) (by omega) hnh h0) q1960 q1962 qs102 q121 q1963 nm_X5_builtIn (tX_obj hL) rfl rfl rfl (Nat.le_of_ble_eq_true rfl) ⟨Nat.le_of_ble_eq_true rfl, Nat.le_of_ble_eq_true rfl⟩ dX5_beds_99 rfl rfl (Nat.le_of_ble_eq_true rfl) (Nat.le_of_ble_eq_true rfl) (fun v_176 X_177 hp_178 => ?_)
                  obtain ⟨rfl, rfl⟩ := hp_178
                  refine z_st (st' := [.int (nI ((s_bi nh i_114 i_133))), .int (s_bsum nh i_114 i_133)]) rfl ?_
                  refine z_iadd dX5_beds_102 ?_
                  obtain ⟨x_179, ex_179⟩ : ∃ y : Int32, ((s_bsum nh i_114 i_133) + (nI ((s_bi nh i_114 i_133)))) = y := ⟨_, rfl⟩
                  refine z_eq ex_179 ?_
                  refine z_istore (lv' := [(7, .int x_179), (0, .ref (L 99)), (1, .int (nI (mm))), (2, .int h), (3, .int (nI (al))), (4, .int ((s_bd nh (I 24) (fun τ => decide ((s_go wv (I 10) (I 27) nh nd own now τ mm).1 1 = τ 1)) i_114).1)), (5, .int ((s_bd nh (I 24) (fun τ => decide ((s_go wv (I 10) (I 27) nh nd own now τ mm).1 1 = τ 1)) i_114).2)), (6, .int (nI (i_114))), (8, .int (zb (s_bmay nh i_114 (I 24) i_133))), (9, .int (nI (i_133)))]) dX5_beds_103 (by decide) rfl ?_
                  refine z_aload_n 1 dX5_beds_105 rfl ?_
                  refine tz_get (v := .ref (L 24)) 24 hL (by decide) q1617 rfl dX5_beds_106 ?_
                  refine z_sipush (v := 989) dX5_beds_109 (by decide) ?_
                  refine z_iload 9 dX5_beds_112 rfl ?_
                  refine z_iaddN (a := 989) (b := i_133) dX5_beds_114 ?_
                  refine z_eq (y := nI (i_133 + 989)) (congrArg nI (by omega)) ?_
                  refine z_dup2_11 dX5_beds_115 rfl rfl ?_
                  refine tz_iald (v := (s_bst nh i_114 (I 24) i_133) (i_133 + 2)) 24 (987 + (i_133 + 2)) hL (by decide) (congrArg nI (by omega)) (by show 987 + (i_133 + 2) < 1081; omega) (tput_at (by omega)) dX5_beds_116 ?_
                  refine z_aload_n 1 dX5_beds_117 rfl ?_
                  refine z_iload 7 dX5_beds_118 rfl ?_
                  refine z_iload 9 dX5_beds_120 rfl ?_
                  refine z_callV (As := [.int (nI (i_114)), .int (nI (i_133))]) (t_builtIn (I := (tput (tco (zs I 99 0 0) c_120 o_121) 987 (s_bst nh i_114 (I 24) i_133))) hL i_114 i_133 (by omega) (by omega) hnh h0) q1960 q1962 qs102 q121 q1963 nm_X5_builtIn (tX_obj hL) rfl rfl rfl (Nat.le_of_ble_eq_true rfl) ⟨Nat.le_of_ble_eq_true rfl, Nat.le_of_ble_eq_true rfl⟩ dX5_beds_122 rfl rfl (Nat.le_of_ble_eq_true rfl) (Nat.le_of_ble_eq_true rfl) (fun v_180 X_181 hp_182 => ?_)
                  obtain ⟨rfl, rfl⟩ := hp_182
                  refine z_st (st' := [.int (nI ((s_bi nh i_114 i_133))), .int ((s_bst nh i_114 (I 24) i_133) (i_133 + 2)), .int (nI (i_133 + 989)), .ref (L 24)]) rfl ?_
                  refine z_iadd dX5_beds_125 ?_
                  obtain ⟨x_183, ex_183⟩ : ∃ y : Int32, (((s_bst nh i_114 (I 24) i_133) (i_133 + 2)) + (nI ((s_bi nh i_114 i_133)))) = y := ⟨_, rfl⟩
                  refine z_eq ex_183 ?_
                  refine tz_iast 24 (987 + (i_133 + 2)) hL (by decide) (congrArg nI (by omega)) (by show 987 + (i_133 + 2) < 1081; omega) (tput_zs (by omega)) dX5_beds_126 ?_
                  refine z_iload 8 dX5_beds_127 rfl ?_
                  refine z_if_eqb 152 dX5_beds_129 (by decide) (fun c_184 => ?_) (fun c_184 => ?_)
                  · -- s_bmay nh i_114 (I 24) i_133 = false
                    refine z_iconst (v := 0) dX5_beds_152 (by decide) ?_
                    refine z_istore (lv' := [(8, .int 0), (7, .int x_179), (0, .ref (L 99)), (1, .int (nI (mm))), (2, .int h), (3, .int (nI (al))), (4, .int ((s_bd nh (I 24) (fun τ => decide ((s_go wv (I 10) (I 27) nh nd own now τ mm).1 1 = τ 1)) i_114).1)), (5, .int ((s_bd nh (I 24) (fun τ => decide ((s_go wv (I 10) (I 27) nh nd own now τ mm).1 1 = τ 1)) i_114).2)), (6, .int (nI (i_114))), (9, .int (nI (i_133)))]) dX5_beds_153 (by decide) rfl ?_
                    refine z_iinc (v := nI (i_133 + 1)) (lv' := [(9, .int (nI (i_133 + 1))), (8, .int 0), (7, .int x_179), (0, .ref (L 99)), (1, .int (nI (mm))), (2, .int h), (3, .int (nI (al))), (4, .int ((s_bd nh (I 24) (fun τ => decide ((s_go wv (I 10) (I 27) nh nd own now τ mm).1 1 = τ 1)) i_114).1)), (5, .int ((s_bd nh (I 24) (fun τ => decide ((s_go wv (I 10) (I 27) nh nd own now τ mm).1 1 = τ 1)) i_114).2)), (6, .int (nI (i_114)))]) 9 dX5_beds_155 rfl (nI_1 _) (by decide) rfl ?_
                    refine z_goto 83 dX5_beds_158 (by decide) ?_
                    have f_185 : x_179 = s_bsum nh i_114 (i_133 + 1) := by (try subst ex_183); (try subst ex_179); simp [s_bsum, s_sum, s_bmay, zb, c_113, c_129, c_175, c_184]
                    subst f_185
                    have f_186 : 0 = zb (s_bmay nh i_114 (I 24) (i_133 + 1)) := by (try subst ex_183); (try subst ex_179); simp [s_bsum, s_sum, s_bmay, zb, c_113, c_129, c_175, c_184]
                    refine z_lv (lv' := [(0, .ref (L 99)), (1, .int (nI (mm))), (2, .int h), (3, .int (nI (al))), (4, .int ((s_bd nh (I 24) (fun τ => decide ((s_go wv (I 10) (I 27) nh nd own now τ mm).1 1 = τ 1)) i_114).1)), (5, .int ((s_bd nh (I 24) (fun τ => decide ((s_go wv (I 10) (I 27) nh nd own now τ mm).1 1 = τ 1)) i_114).2)), (6, .int (nI (i_114))), (7, .int (s_bsum nh i_114 (i_133 + 1))), (8, .int (zb (s_bmay nh i_114 (I 24) (i_133 + 1)))), (9, .int (nI (i_133 + 1)))]) [3, 4, 5, 6, 7, 8, 9, 2, 1, 0] (by rw [← f_186]; rfl) ?_
                    refine z_X (X' := (tX g L (tput (tco (zs I 99 0 0) c_120 o_121) 987 (s_bst nh i_114 (I 24) (i_133 + 1))) J Gb_119 X)) (by (try subst ex_183); (try subst ex_179); rfl) ?_
                    exact ih_135 (i_133 + 1) (by omega) (by omega)  
                  · -- s_bmay nh i_114 (I 24) i_133 = true
                    refine z_aload_n 1 dX5_beds_132 rfl ?_
                    refine tz_get (v := .ref (L 24)) 24 hL (by decide) q1617 rfl dX5_beds_133 ?_
                    refine z_sipush (v := 989) dX5_beds_136 (by decide) ?_
                    refine z_iload 9 dX5_beds_139 rfl ?_
                    refine z_iaddN (a := 989) (b := i_133) dX5_beds_141 ?_
                    refine z_eq (y := nI (i_133 + 989)) (congrArg nI (by omega)) ?_
                    refine tz_iald (v := x_183) 24 (987 + (i_133 + 2)) hL (by decide) (congrArg nI (by omega)) (by show 987 + (i_133 + 2) < 1081; omega) ((tput_at (by omega)).trans (by rw [zs1_s])) dX5_beds_142 ?_
                    refine z_bipush (v := 9) dX5_beds_143 (by decide) ?_
                    refine z_icmp_gt 152 dX5_beds_145 (by decide) (fun c_187 => ?_) (fun c_187 => ?_)
                    · -- 9 < x_183
                      have c_187' := Int32.not_le.mpr c_187
                      refine z_iconst (v := 0) dX5_beds_152 (by decide) ?_
                      refine z_istore (lv' := [(8, .int 0), (7, .int x_179), (0, .ref (L 99)), (1, .int (nI (mm))), (2, .int h), (3, .int (nI (al))), (4, .int ((s_bd nh (I 24) (fun τ => decide ((s_go wv (I 10) (I 27) nh nd own now τ mm).1 1 = τ 1)) i_114).1)), (5, .int ((s_bd nh (I 24) (fun τ => decide ((s_go wv (I 10) (I 27) nh nd own now τ mm).1 1 = τ 1)) i_114).2)), (6, .int (nI (i_114))), (9, .int (nI (i_133)))]) dX5_beds_153 (by decide) rfl ?_
                      refine z_iinc (v := nI (i_133 + 1)) (lv' := [(9, .int (nI (i_133 + 1))), (8, .int 0), (7, .int x_179), (0, .ref (L 99)), (1, .int (nI (mm))), (2, .int h), (3, .int (nI (al))), (4, .int ((s_bd nh (I 24) (fun τ => decide ((s_go wv (I 10) (I 27) nh nd own now τ mm).1 1 = τ 1)) i_114).1)), (5, .int ((s_bd nh (I 24) (fun τ => decide ((s_go wv (I 10) (I 27) nh nd own now τ mm).1 1 = τ 1)) i_114).2)), (6, .int (nI (i_114)))]) 9 dX5_beds_155 rfl (nI_1 _) (by decide) rfl ?_
                      refine z_goto 83 dX5_beds_158 (by decide) ?_
                      have f_188 : x_179 = s_bsum nh i_114 (i_133 + 1) := by (try subst ex_183); (try subst ex_179); simp [s_bsum, s_sum, s_bmay, zb, c_175, c_184, c_187, c_187']
                      subst f_188
                      have f_189 : 0 = zb (s_bmay nh i_114 (I 24) (i_133 + 1)) := by (try subst ex_183); (try subst ex_179); simp [s_bsum, s_sum, s_bmay, zb, c_175, c_184, c_187, c_187']
                      refine z_lv (lv' := [(0, .ref (L 99)), (1, .int (nI (mm))), (2, .int h), (3, .int (nI (al))), (4, .int ((s_bd nh (I 24) (fun τ => decide ((s_go wv (I 10) (I 27) nh nd own now τ mm).1 1 = τ 1)) i_114).1)), (5, .int ((s_bd nh (I 24) (fun τ => decide ((s_go wv (I 10) (I 27) nh nd own now τ mm).1 1 = τ 1)) i_114).2)), (6, .int (nI (i_114))), (7, .int (s_bsum nh i_114 (i_133 + 1))), (8, .int (zb (s_bmay nh i_114 (I 24) (i_133 + 1)))), (9, .int (nI (i_133 + 1)))]) [3, 4, 5, 6, 7, 8, 9, 2, 1, 0] (by rw [← f_189]; rfl) ?_
                      refine z_X (X' := (tX g L (tput (tco (zs I 99 0 0) c_120 o_121) 987 (s_bst nh i_114 (I 24) (i_133 + 1))) J Gb_119 X)) (by (try subst ex_183); (try subst ex_179); rfl) ?_
                      exact ih_135 (i_133 + 1) (by omega) (by omega)  
                    · -- ¬ 9 < x_183
                      have c_187' := Int32.not_lt.mp c_187
                      refine z_iconst (v := 1) dX5_beds_148 (by decide) ?_
                      refine z_goto 153 dX5_beds_149 (by decide) ?_
                      refine z_istore (lv' := [(8, .int 1), (7, .int x_179), (0, .ref (L 99)), (1, .int (nI (mm))), (2, .int h), (3, .int (nI (al))), (4, .int ((s_bd nh (I 24) (fun τ => decide ((s_go wv (I 10) (I 27) nh nd own now τ mm).1 1 = τ 1)) i_114).1)), (5, .int ((s_bd nh (I 24) (fun τ => decide ((s_go wv (I 10) (I 27) nh nd own now τ mm).1 1 = τ 1)) i_114).2)), (6, .int (nI (i_114))), (9, .int (nI (i_133)))]) dX5_beds_153 (by decide) rfl ?_
                      refine z_iinc (v := nI (i_133 + 1)) (lv' := [(9, .int (nI (i_133 + 1))), (8, .int 1), (7, .int x_179), (0, .ref (L 99)), (1, .int (nI (mm))), (2, .int h), (3, .int (nI (al))), (4, .int ((s_bd nh (I 24) (fun τ => decide ((s_go wv (I 10) (I 27) nh nd own now τ mm).1 1 = τ 1)) i_114).1)), (5, .int ((s_bd nh (I 24) (fun τ => decide ((s_go wv (I 10) (I 27) nh nd own now τ mm).1 1 = τ 1)) i_114).2)), (6, .int (nI (i_114)))]) 9 dX5_beds_155 rfl (nI_1 _) (by decide) rfl ?_
                      refine z_goto 83 dX5_beds_158 (by decide) ?_
                      have f_190 : x_179 = s_bsum nh i_114 (i_133 + 1) := by (try subst ex_183); (try subst ex_179); simp [s_bsum, s_sum, s_bmay, zb, c_175, c_184, c_187, c_187']
                      subst f_190
                      have f_191 : 1 = zb (s_bmay nh i_114 (I 24) (i_133 + 1)) := by (try subst ex_183); (try subst ex_179); simp [s_bsum, s_sum, s_bmay, zb, c_175, c_184, c_187, c_187']
                      refine z_lv (lv' := [(0, .ref (L 99)), (1, .int (nI (mm))), (2, .int h), (3, .int (nI (al))), (4, .int ((s_bd nh (I 24) (fun τ => decide ((s_go wv (I 10) (I 27) nh nd own now τ mm).1 1 = τ 1)) i_114).1)), (5, .int ((s_bd nh (I 24) (fun τ => decide ((s_go wv (I 10) (I 27) nh nd own now τ mm).1 1 = τ 1)) i_114).2)), (6, .int (nI (i_114))), (7, .int (s_bsum nh i_114 (i_133 + 1))), (8, .int (zb (s_bmay nh i_114 (I 24) (i_133 + 1)))), (9, .int (nI (i_133 + 1)))]) [3, 4, 5, 6, 7, 8, 9, 2, 1, 0] (by rw [← f_191]; rfl) ?_
                      refine z_X (X' := (tX g L (tput (tco (zs I 99 0 0) c_120 o_121) 987 (s_bst nh i_114 (I 24) (i_133 + 1))) J Gb_119 X)) (by (try subst ex_183); (try subst ex_179); rfl) ?_
                      exact ih_135 (i_133 + 1) (by omega) (by omega)  
              have f_192 : 0 = s_bsum nh i_114 0 := by rfl
              have f_193 : 1 = zb (s_bmay nh i_114 (I 24) 0) := by rfl
              refine z_lv (lv' := [(0, .ref (L 99)), (1, .int (nI (mm))), (2, .int h), (3, .int (nI (al))), (4, .int ((s_bd nh (I 24) (fun τ => decide ((s_go wv (I 10) (I 27) nh nd own now τ mm).1 1 = τ 1)) i_114).1)), (5, .int ((s_bd nh (I 24) (fun τ => decide ((s_go wv (I 10) (I 27) nh nd own now τ mm).1 1 = τ 1)) i_114).2)), (6, .int (nI (i_114))), (7, .int (s_bsum nh i_114 0)), (8, .int (zb (s_bmay nh i_114 (I 24) 0))), (9, .int 0)]) [3, 4, 5, 6, 7, 8, 9, 2, 1, 0] (by rw [← f_192, ← f_193]; rfl) ?_
              refine z_X (X' := (tX g L (tput (tco (zs I 99 0 0) c_120 o_121) 987 (s_bst nh i_114 (I 24) 0)) J Gb_119 X)) (by rfl) ?_
              exact loop_137 (nh - 0) 0 (by omega) (Nat.le_refl _)  
          have f_194 : zm1 = (s_bd nh (I 24) (fun τ => decide ((s_go wv (I 10) (I 27) nh nd own now τ mm).1 1 = τ 1)) 0).1 := by rfl
          have f_195 : 0 = (s_bd nh (I 24) (fun τ => decide ((s_go wv (I 10) (I 27) nh nd own now τ mm).1 1 = τ 1)) 0).2 := by rfl
          refine z_lv (lv' := [(0, .ref (L 99)), (1, .int (nI (mm))), (2, .int h), (3, .int (nI (al))), (4, .int ((s_bd nh (I 24) (fun τ => decide ((s_go wv (I 10) (I 27) nh nd own now τ mm).1 1 = τ 1)) 0).1)), (5, .int ((s_bd nh (I 24) (fun τ => decide ((s_go wv (I 10) (I 27) nh nd own now τ mm).1 1 = τ 1)) 0).2)), (6, .int 0)]) [3, 4, 5, 6, 2, 1, 0] (by rw [← f_194, ← f_195]; rfl) ?_
          exact loop_118 (al - 0) 0 (by omega) (Nat.le_refl _) _ _ _ _ 
        | succ q_105 ih_106 =>
          intro i_104 hb_107 lo_109  
          refine z_iload 4 dX5_beds_36 rfl ?_
          refine z_aload_n 0 dX5_beds_38 rfl ?_
          refine z_callV (As := []) (t_houses (I := (tput (tco (zs I 99 0 0) (I 99 28) (I 99 29)) 987 (s_tau I))) hL h0) q1585 q1587 qs56 q121 q1588 nm_X5_houses (tX_obj hL) rfl rfl rfl (Nat.le_of_ble_eq_true rfl) ⟨Nat.le_of_ble_eq_true rfl, Nat.le_of_ble_eq_true rfl⟩ dX5_beds_39 rfl rfl (Nat.le_of_ble_eq_true rfl) (Nat.le_of_ble_eq_true rfl) (fun v_196 X_197 hp_198 => ?_)
          obtain ⟨rfl, rfl⟩ := hp_198
          refine z_st (st' := [.int (nI (nh)), .int (nI (i_104))]) rfl ?_
          refine z_icmp_geN (a := i_104) (b := nh) 55 (by omega) (by omega) dX5_beds_42 (by decide) (fun c_199 => absurd c_199 (by omega)) (fun c_199 => ?_)
          refine z_iload_n 3 dX5_beds_45 rfl ?_
          refine z_iconst (v := 3) dX5_beds_46 (by decide) ?_
          refine z_imulN (a := (3 ^ i_104)) (b := 3) dX5_beds_47 ?_
          refine z_eq (y := nI (3 * (3 ^ i_104))) (congrArg nI (by omega)) ?_
          refine z_istore_n (lv' := [(3, .int (nI (3 * (3 ^ i_104)))), (0, .ref (L 99)), (1, .int (nI (mm))), (2, .int h), (4, .int (nI (i_104)))]) dX5_beds_48 rfl (by decide) rfl ?_
          refine z_iinc (v := nI (i_104 + 1)) (lv' := [(4, .int (nI (i_104 + 1))), (3, .int (nI (3 * (3 ^ i_104)))), (0, .ref (L 99)), (1, .int (nI (mm))), (2, .int h)]) 4 dX5_beds_49 rfl (nI_1 _) (by decide) rfl ?_
          refine z_goto 36 dX5_beds_52 (by decide) ?_
          have f_200 : nI (3 * (3 ^ i_104)) = nI ((3 ^ (i_104 + 1))) := congrArg nI (by rw [Nat.pow_succ, Nat.mul_comm])
          refine z_lv (lv' := [(0, .ref (L 99)), (1, .int (nI (mm))), (2, .int h), (3, .int (nI ((3 ^ (i_104 + 1))))), (4, .int (nI (i_104 + 1)))]) [2, 3, 4, 1, 0] (by rw [← f_200]; rfl) ?_
          exact ih_106 (i_104 + 1) (by omega) (by omega)  
      have f_201 : 1 = nI ((3 ^ 0)) := rfl
      refine z_lv (lv' := [(0, .ref (L 99)), (1, .int (nI (mm))), (2, .int h), (3, .int (nI ((3 ^ 0)))), (4, .int 0)]) [2, 3, 4, 1, 0] (by rw [← f_201]; rfl) ?_
      exact loop_108 (nh - 0) 0 (by omega) (Nat.le_refl _)  
  · have hv := zb_not hv
    refine z_iload_n 1 dX5_beds_5 rfl ?_
    refine z_iconst (v := 1) dX5_beds_6 (by decide) ?_
    refine z_bipush (v := 36) dX5_beds_7 (by decide) ?_
    refine z_callS (As := [.int m, .int 1, .int 36]) (t_within m 1 36) q1771 q1772 q121 q1773 nm_X5_within rfl (Nat.le_of_ble_eq_true rfl) ⟨Nat.le_of_ble_eq_true rfl, Nat.le_of_ble_eq_true rfl⟩ dX5_beds_9 rfl rfl (Nat.le_of_ble_eq_true rfl) (Nat.le_of_ble_eq_true rfl) (fun v_202 X_203 hp_204 => ?_)
    obtain ⟨rfl, rfl⟩ := hp_204
    refine z_st (st' := [.int (zb (decide (1 ≤ m) && decide (m ≤ 36)))]) rfl ?_
    refine z_if_eqb 28 dX5_beds_12 (by decide) (fun c_205 => ?_) (fun c_205 => ?_)
    · -- decide (1 ≤ m) && decide (m ≤ 36) = false
      refine z_bipush (v := zm2) dX5_beds_28 (by decide) ?_
      exact z_iret dX5_beds_30 rfl (Nat.le_of_ble_eq_true rfl) (Nat.le_of_ble_eq_true rfl) ⟨congrArg some (congrArg Value.int (by unfold s_beds; rw [if_neg (by rw [hv]; decide)])), (tput (tco (zs I 99 0 0) (I 99 28) (I 99 29)) 987 (s_tau I)), Gb, rfl, (tobs_put (tobs_co (tobs_zs tobs_rf rfl)) (by decide)), rfl⟩
    · -- decide (1 ≤ m) && decide (m ≤ 36) = true
      refine z_iload_n 2 dX5_beds_15 rfl ?_
      refine z_iconst (v := zm1) dX5_beds_16 (by decide) ?_
      refine z_icmp_eq 31 dX5_beds_17 (by decide) (fun c_206 => absurd c_206 (fun h9 => by rw [c_205] at hv; rw [decide_eq_true h9] at hv; simp at hv)) (fun c_206 => ?_)
      refine z_aload_n 0 dX5_beds_20 rfl ?_
      refine z_iload_n 2 dX5_beds_21 rfl ?_
      refine z_callV (As := [.int h]) (t_isHouse (I := (tput (tco (zs I 99 0 0) (I 99 28) (I 99 29)) 987 (s_tau I))) hL h0 h) q1826 q1828 qs84 q121 q1829 nm_X5_isHouse (tX_obj hL) rfl rfl rfl (Nat.le_of_ble_eq_true rfl) ⟨Nat.le_of_ble_eq_true rfl, Nat.le_of_ble_eq_true rfl⟩ dX5_beds_22 rfl rfl (Nat.le_of_ble_eq_true rfl) (Nat.le_of_ble_eq_true rfl) (fun v_207 X_208 hp_209 => ?_)
      obtain ⟨rfl, rfl⟩ := hp_209
      refine z_st (st' := [.int (zb (decide (0 ≤ h) && decide (h < nI nh)))]) rfl ?_
      refine z_if_neb 31 dX5_beds_25 (by decide) (fun c_210 => absurd c_210 (fun h9 => by rw [c_205] at hv; rw [h9] at hv; simp at hv)) (fun c_210 => ?_)
      refine z_bipush (v := zm2) dX5_beds_28 (by decide) ?_
      exact z_iret dX5_beds_30 rfl (Nat.le_of_ble_eq_true rfl) (Nat.le_of_ble_eq_true rfl) ⟨congrArg some (congrArg Value.int (by unfold s_beds; rw [if_neg (by rw [hv]; decide)])), (tput (tco (zs I 99 0 0) (I 99 28) (I 99 29)) 987 (s_tau I)), Gb, rfl, (tobs_put (tobs_co (tobs_zs tobs_rf rfl)) (by decide)), rfl⟩
