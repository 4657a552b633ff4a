/-! A STATE BEGUN, in plain Lean -/
set_option maxRecDepth 100000
def s_b1 (vs σ : Nat → Int32) (nh : Nat) : Nat → Nat → Int32
  | 0 => σ
  | n + 1 => zs1 (s_b1 vs σ nh n) (n + 2) (if n < nh then vs (2 * n + 4) else 0)
def s_b2 (vs σ : Nat → Int32) (nd : Nat) : Nat → Nat → Int32
  | 0 => σ
  | n + 1 => zs1 (zs1 (zs1 (zs1 (s_b2 vs σ nd n) (n + 18) (if n < nd then vs (5 * n + 15) else 0)) (n + 6) zm1) (n + 12) 0) (n + 24) 0
def s_d2 (vs ds : Nat → Int32) (nd : Nat) : Nat → Nat → Int32
  | 0 => ds
  | n + 1 => zs1 (s_d2 vs ds nd n) n (if n < nd then vs (5 * n + 14) else 0)
/-- the dates as told -/
def s_dt0 (vs : Nat → Int32) (nd : Nat) : Nat → Int32 := fun j => if j < nd then vs (5 * j + 14) else 0
section BEG
variable {vs σ ds : Nat → Int32} {nh nd n : Nat}
theorem s_b1_t (h : n < nh) : zs1 (s_b1 vs σ nh n) (n + 2) (vs (2 * n + 4)) = s_b1 vs σ nh (n + 1) := by
  show _ = zs1 _ _ (if n < nh then _ else _)
  rw [if_pos h]
theorem s_b1_f (h : nh ≤ n) : zs1 (s_b1 vs σ nh n) (n + 2) 0 = s_b1 vs σ nh (n + 1) := by
  show _ = zs1 _ _ (if n < nh then _ else _)
  rw [if_neg (by omega)]
theorem s_b2_t (h : n < nd) : zs1 (zs1 (zs1 (zs1 (s_b2 vs σ nd n) (n + 18) (vs (5 * n + 15))) (n + 6) zm1) (n + 12) 0) (n + 24) 0 = s_b2 vs σ nd (n + 1) := by
  show _ = zs1 (zs1 (zs1 (zs1 _ _ (if n < nd then _ else _)) _ _) _ _) _ _
  rw [if_pos h]
theorem s_b2_f (h : nd ≤ n) : zs1 (zs1 (zs1 (zs1 (s_b2 vs σ nd n) (n + 18) 0) (n + 6) zm1) (n + 12) 0) (n + 24) 0 = s_b2 vs σ nd (n + 1) := by
  show _ = zs1 (zs1 (zs1 (zs1 _ _ (if n < nd then _ else _)) _ _) _ _) _ _
  rw [if_neg (by omega)]
theorem s_d2_t (h : n < nd) : zs1 (s_d2 vs ds nd n) n (vs (5 * n + 14)) = s_d2 vs ds nd (n + 1) := by
  show _ = zs1 _ _ (if n < nd then _ else _)
  rw [if_pos h]
theorem s_d2_f (h : nd ≤ n) : zs1 (s_d2 vs ds nd n) n 0 = s_d2 vs ds nd (n + 1) := by
  show _ = zs1 _ _ (if n < nd then _ else _)
  rw [if_neg (by omega)]
theorem s_b1_at : ∀ n j, s_b1 vs σ nh n j = if 2 ≤ j ∧ j < n + 2 then (if j - 2 < nh then vs (2 * (j - 2) + 4) else 0) else σ j
  | 0, j => by
    rw [if_neg (by omega)]
    rfl
  | n + 1, j => by
    show (if j = n + 2 then (if n < nh then vs (2 * n + 4) else 0) else s_b1 vs σ nh n j) = _
    rw [s_b1_at n j]
    repeat' split
    all_goals first | rfl | (exfalso; omega) | exact congrArg vs (by omega)
theorem s_b2_at : ∀ n j, n ≤ 6 → s_b2 vs σ nd n j = if 6 ≤ j ∧ j < n + 6 then zm1 else if 12 ≤ j ∧ j < n + 12 then 0 else if 18 ≤ j ∧ j < n + 18 then (if j - 18 < nd then vs (5 * (j - 18) + 15) else 0) else if 24 ≤ j ∧ j < n + 24 then 0 else σ j
  | 0, j, _ => by rw [if_neg (by omega), if_neg (by omega), if_neg (by omega), if_neg (by omega)]; rfl
  | n + 1, j, hn => by
    show (if j = n + 24 then 0 else if j = n + 12 then 0 else if j = n + 6 then zm1 else if j = n + 18 then (if n < nd then vs (5 * n + 15) else 0) else s_b2 vs σ nd n j) = _
    rw [s_b2_at n j (by omega)]
    repeat' split
    all_goals first | rfl | (exfalso; omega) | exact congrArg vs (by omega)
theorem s_d2_at : ∀ n j, s_d2 vs ds nd n j = if j < n then (if j < nd then vs (5 * j + 14) else 0) else ds j
  | 0, j => by
    rw [if_neg (by omega)]
    rfl
  | n + 1, j => by
    show (if j = n then (if n < nd then vs (5 * n + 14) else 0) else s_d2 vs ds nd n j) = _
    rw [s_d2_at n j]
    repeat' split
    all_goals first | rfl | (exfalso; omega) | exact congrArg vs (by omega)
theorem s_sb_at : ∀ n j, s_sb vs σ n j = if 2 ≤ j ∧ j < n + 2 then vs (2 * (j - 2) + 4) else σ j
  | 0, j => by
    rw [if_neg (by omega)]
    rfl
  | n + 1, j => by
    show (if j = n + 2 then vs (2 * n + 4) else s_sb vs σ n j) = _
    rw [s_sb_at n j]
    repeat' split
    all_goals first | rfl | (exfalso; omega) | exact congrArg vs (by omega)
theorem s_sg_at : ∀ n j, n ≤ 6 → s_sg vs σ nd n j = if 6 ≤ j ∧ j < n + 6 then zm1 else if 18 ≤ j ∧ j < n + 18 then (if j - 18 < nd then vs (5 * (j - 18) + 15) else 0) else σ j
  | 0, j, _ => by rw [if_neg (by omega), if_neg (by omega)]; rfl
  | n + 1, j, hn => by
    show (if j = n + 18 then (if n < nd then vs (5 * n + 15) else 0) else if j = n + 6 then zm1 else s_sg vs σ nd n j) = _
    rw [s_sg_at n j (by omega)]
    repeat' split
    all_goals first | rfl | (exfalso; omega) | exact congrArg vs (by omega)
theorem s_start_at (hnh : nh ≤ 4) (j : Nat) (hj : j < 30) : s_start vs nh nd j = if 6 ≤ j ∧ j < 12 then zm1 else if 18 ≤ j ∧ j < 24 then (if j - 18 < nd then vs (5 * (j - 18) + 15) else 0) else if 2 ≤ j ∧ j < nh + 2 then vs (2 * (j - 2) + 4) else 0 := by
  unfold s_start
  rw [s_sg_at 6 j (by omega), s_sb_at]
/-- what a state begins as -/
theorem s_begun (hnh : nh ≤ 4) (j : Nat) (h1 : 1 ≤ j) (hj : j < 30) : zs1 (s_b2 vs (s_b1 vs σ nh 4) nd 6) 1 0 j = s_start vs nh nd j := by
  rw [s_start_at hnh j hj]
  show (if j = 1 then 0 else s_b2 vs (s_b1 vs σ nh 4) nd 6 j) = _
  rw [s_b2_at 6 j (by omega), s_b1_at]
  repeat' split
  all_goals first | rfl | (exfalso; omega)
theorem cput_cong {K : Nat → Nat → Int32} {s : Nat} {σ σ' ds ds' : Nat → Int32} {dt yr : Int32} (h : ∀ j, 1 ≤ j → j < 30 → σ j = σ' j) (hd : ∀ j, j < 6 → ds j = ds' j) : cput K s σ ds dt yr = cput K s σ' ds' dt yr := by
  funext r i
  unfold cput
  by_cases hr : s ≤ r ∧ r < s + 10
  · rw [if_pos hr, if_pos hr]
    unfold cpv
    rw [h 1 (by omega) (by omega)]
    repeat' split
    all_goals first | rfl | exact h _ (by omega) (by omega) | exact hd _ (by omega)
  · rw [if_neg hr, if_neg hr]
theorem s_begun_put {K : Nat → Nat → Int32} {s : Nat} {dt yr : Int32} (hnh : nh ≤ 4) : cput K s (zs1 (s_b2 vs (s_b1 vs σ nh 4) nd 6) 1 0) (s_d2 vs ds nd 6) dt yr = cput K s (s_start vs nh nd) (s_dt0 vs nd) dt yr :=
  cput_cong (fun j h1 h2 => s_begun hnh j h1 h2) (fun j hj => by rw [s_d2_at, if_pos hj]; rfl)
end BEG
