/-! THE MODEL: tokens. Printed by t23.py -/
set_option maxRecDepth 100000
set_option maxHeartbeats 4000000 in
theorem t_rank {g : zG} {X : zX}  (c : Int32) : zN g m_X5_rank ({ frames := 1, cells := 0, slots := 0, locals := 20 } : Room) [.int c] X (fun rv X' => rv = some (.int (s_rank c)) ∧ X' = X) := by
  refine zN.of (by decide +kernel) (Nat.le_of_ble_eq_true rfl) rfl ?_
  refine z_lv (lv' := [(0, .int c)]) [0] rfl ?_
  refine z_iload_n 0 dX5_rank_0 rfl ?_
  refine z_callS (As := [.int c]) (t_isLetter c) q1700 q1701 q121 q1702 nm_X5_isLetter rfl (Nat.le_of_ble_eq_true rfl) ⟨Nat.le_of_ble_eq_true rfl, Nat.le_of_ble_eq_true rfl⟩ dX5_rank_1 rfl rfl (Nat.le_of_ble_eq_true rfl) (Nat.le_of_ble_eq_true rfl) (fun v_1 X_2 hp_3 => ?_)
  obtain ⟨rfl, rfl⟩ := hp_3
  refine z_st (st' := [.int (zb (decide (97 ≤ c) && decide (c ≤ 122)))]) rfl ?_
  refine z_if_eqb 14 dX5_rank_4 (by decide) (fun c_4 => ?_) (fun c_4 => ?_)
  · -- decide (97 ≤ c) && decide (c ≤ 122) = false
    refine z_iload_n 0 dX5_rank_14 rfl ?_
    refine z_bipush (v := 21) dX5_rank_15 (by decide) ?_
    refine z_isub dX5_rank_17 ?_
    exact z_iret dX5_rank_18 rfl (Nat.le_of_ble_eq_true rfl) (Nat.le_of_ble_eq_true rfl) ⟨congrArg some (congrArg Value.int (by first | rfl | (simp [s_rank, s_le, c_4]; done) | (skip; simp [s_rank, s_le, c_4]))), (by first | rfl | (simp [s_rank, s_le, c_4]; done) | (skip; simp [s_rank, s_le, c_4]))⟩
  · -- decide (97 ≤ c) && decide (c ≤ 122) = true
    refine z_iload_n 0 dX5_rank_7 rfl ?_
    refine z_bipush (v := 96) dX5_rank_8 (by decide) ?_
    refine z_isub dX5_rank_10 ?_
    refine z_goto 18 dX5_rank_11 (by decide) ?_
    exact z_iret dX5_rank_18 rfl (Nat.le_of_ble_eq_true rfl) (Nat.le_of_ble_eq_true rfl) ⟨congrArg some (congrArg Value.int (by first | rfl | (simp [s_rank, s_le, c_4]; done) | (skip; simp [s_rank, s_le, c_4]))), (by first | rfl | (simp [s_rank, s_le, c_4]; done) | (skip; simp [s_rank, s_le, c_4]))⟩
set_option maxHeartbeats 4000000 in
theorem t_isSignOf {g : zG} {X : zX}  (c : Int32) : zN g m_X5_isSignOf ({ frames := 0, cells := 0, slots := 0, locals := 0 } : Room) [.int c] X (fun rv X' => rv = some (.int (zb (s_sgn c))) ∧ X' = X) := by
  refine zN.of (by decide +kernel) (Nat.le_of_ble_eq_true rfl) rfl ?_
  refine z_lv (lv' := [(0, .int c)]) [0] rfl ?_
  refine z_iload_n 0 dX5_isSignOf_0 rfl ?_
  refine z_bipush (v := 40) dX5_isSignOf_1 (by decide) ?_
  refine z_icmp_eq 48 dX5_isSignOf_3 (by decide) (fun c_1 => ?_) (fun c_1 => ?_)
  · -- c = 40
    refine z_iconst (v := 1) dX5_isSignOf_48 (by decide) ?_
    refine z_goto 53 dX5_isSignOf_49 (by decide) ?_
    exact z_zret dX5_isSignOf_53 rfl (by first | rfl | decide | exact zb_nar _) (Nat.le_of_ble_eq_true rfl) (Nat.le_of_ble_eq_true rfl) ⟨congrArg some (congrArg Value.int (by unfold s_sgn; simp [zb, c_1])), rfl⟩
  · -- ¬ c = 40
    refine z_iload_n 0 dX5_isSignOf_6 rfl ?_
    refine z_bipush (v := 41) dX5_isSignOf_7 (by decide) ?_
    refine z_icmp_eq 48 dX5_isSignOf_9 (by decide) (fun c_2 => ?_) (fun c_2 => ?_)
    · -- c = 41
      refine z_iconst (v := 1) dX5_isSignOf_48 (by decide) ?_
      refine z_goto 53 dX5_isSignOf_49 (by decide) ?_
      exact z_zret dX5_isSignOf_53 rfl (by first | rfl | decide | exact zb_nar _) (Nat.le_of_ble_eq_true rfl) (Nat.le_of_ble_eq_true rfl) ⟨congrArg some (congrArg Value.int (by unfold s_sgn; simp [zb, c_1, c_2])), rfl⟩
    · -- ¬ c = 41
      refine z_iload_n 0 dX5_isSignOf_12 rfl ?_
      refine z_bipush (v := 59) dX5_isSignOf_13 (by decide) ?_
      refine z_icmp_eq 48 dX5_isSignOf_15 (by decide) (fun c_3 => ?_) (fun c_3 => ?_)
      · -- c = 59
        refine z_iconst (v := 1) dX5_isSignOf_48 (by decide) ?_
        refine z_goto 53 dX5_isSignOf_49 (by decide) ?_
        exact z_zret dX5_isSignOf_53 rfl (by first | rfl | decide | exact zb_nar _) (Nat.le_of_ble_eq_true rfl) (Nat.le_of_ble_eq_true rfl) ⟨congrArg some (congrArg Value.int (by unfold s_sgn; simp [zb, c_1, c_2, c_3])), rfl⟩
      · -- ¬ c = 59
        refine z_iload_n 0 dX5_isSignOf_18 rfl ?_
        refine z_bipush (v := 61) dX5_isSignOf_19 (by decide) ?_
        refine z_icmp_eq 48 dX5_isSignOf_21 (by decide) (fun c_4 => ?_) (fun c_4 => ?_)
        · -- c = 61
          refine z_iconst (v := 1) dX5_isSignOf_48 (by decide) ?_
          refine z_goto 53 dX5_isSignOf_49 (by decide) ?_
          exact z_zret dX5_isSignOf_53 rfl (by first | rfl | decide | exact zb_nar _) (Nat.le_of_ble_eq_true rfl) (Nat.le_of_ble_eq_true rfl) ⟨congrArg some (congrArg Value.int (by unfold s_sgn; simp [zb, c_1, c_2, c_3, c_4])), rfl⟩
        · -- ¬ c = 61
          refine z_iload_n 0 dX5_isSignOf_24 rfl ?_
          refine z_bipush (v := 60) dX5_isSignOf_25 (by decide) ?_
          refine z_icmp_eq 48 dX5_isSignOf_27 (by decide) (fun c_5 => ?_) (fun c_5 => ?_)
          · -- c = 60
            refine z_iconst (v := 1) dX5_isSignOf_48 (by decide) ?_
            refine z_goto 53 dX5_isSignOf_49 (by decide) ?_
            exact z_zret dX5_isSignOf_53 rfl (by first | rfl | decide | exact zb_nar _) (Nat.le_of_ble_eq_true rfl) (Nat.le_of_ble_eq_true rfl) ⟨congrArg some (congrArg Value.int (by unfold s_sgn; simp [zb, c_1, c_2, c_3, c_4, c_5])), rfl⟩
          · -- ¬ c = 60
            refine z_iload_n 0 dX5_isSignOf_30 rfl ?_
            refine z_bipush (v := 43) dX5_isSignOf_31 (by decide) ?_
            refine z_icmp_eq 48 dX5_isSignOf_33 (by decide) (fun c_6 => ?_) (fun c_6 => ?_)
            · -- c = 43
              refine z_iconst (v := 1) dX5_isSignOf_48 (by decide) ?_
              refine z_goto 53 dX5_isSignOf_49 (by decide) ?_
              exact z_zret dX5_isSignOf_53 rfl (by first | rfl | decide | exact zb_nar _) (Nat.le_of_ble_eq_true rfl) (Nat.le_of_ble_eq_true rfl) ⟨congrArg some (congrArg Value.int (by unfold s_sgn; simp [zb, c_1, c_2, c_3, c_4, c_5, c_6])), rfl⟩
            · -- ¬ c = 43
              refine z_iload_n 0 dX5_isSignOf_36 rfl ?_
              refine z_bipush (v := 45) dX5_isSignOf_37 (by decide) ?_
              refine z_icmp_eq 48 dX5_isSignOf_39 (by decide) (fun c_7 => ?_) (fun c_7 => ?_)
              · -- c = 45
                refine z_iconst (v := 1) dX5_isSignOf_48 (by decide) ?_
                refine z_goto 53 dX5_isSignOf_49 (by decide) ?_
                exact z_zret dX5_isSignOf_53 rfl (by first | rfl | decide | exact zb_nar _) (Nat.le_of_ble_eq_true rfl) (Nat.le_of_ble_eq_true rfl) ⟨congrArg some (congrArg Value.int (by unfold s_sgn; simp [zb, c_1, c_2, c_3, c_4, c_5, c_6, c_7])), rfl⟩
              · -- ¬ c = 45
                refine z_iload_n 0 dX5_isSignOf_42 rfl ?_
                refine z_bipush (v := 42) dX5_isSignOf_43 (by decide) ?_
                refine z_icmp_ne 52 dX5_isSignOf_45 (by decide) (fun c_8 => ?_) (fun c_8 => ?_)
                · -- ¬ c = 42
                  refine z_iconst (v := 0) dX5_isSignOf_52 (by decide) ?_
                  exact z_zret dX5_isSignOf_53 rfl (by first | rfl | decide | exact zb_nar _) (Nat.le_of_ble_eq_true rfl) (Nat.le_of_ble_eq_true rfl) ⟨congrArg some (congrArg Value.int (by unfold s_sgn; simp [zb, c_1, c_2, c_3, c_4, c_5, c_6, c_7, c_8])), rfl⟩
                · -- c = 42
                  refine z_iconst (v := 1) dX5_isSignOf_48 (by decide) ?_
                  refine z_goto 53 dX5_isSignOf_49 (by decide) ?_
                  exact z_zret dX5_isSignOf_53 rfl (by first | rfl | decide | exact zb_nar _) (Nat.le_of_ble_eq_true rfl) (Nat.le_of_ble_eq_true rfl) ⟨congrArg some (congrArg Value.int (by unfold s_sgn; simp [zb, c_1, c_2, c_3, c_4, c_5, c_6, c_7, c_8])), rfl⟩
