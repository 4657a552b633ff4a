/-! THE READER: days, houses made. Printed by t97.py -/
set_option maxRecDepth 100000
theorem s_wr_f {pl : Nat → Nat} {a f w : Nat} (hf : ¬ f = 0) : s_wr pl a f w = f := if_neg hf
section PROP
variable {kd pl : Nat → Nat} {vl wd : Nat → Int64} {a f w m : Nat} {lo hi : Int32}
theorem s_tW_f (hf : ¬ f = 0) : s_tW kd pl vl wd a f w = (a, f) := by
  unfold s_tW s_isW
  rw [decide_eq_false hf, Bool.false_and, if_neg (by decide), s_wr_f hf]
theorem s_tN_f (hf : ¬ f = 0) : s_tN kd pl vl a f lo hi = (0, a, f) := by
  unfold s_tN
  rw [if_neg hf]
theorem s_tA_f (hf : ¬ f = 0) : s_tA kd pl vl wd a f w lo hi = (0, a, f) := by
  unfold s_tA
  rw [s_tW_f hf, s_tN_f hf]
theorem s_tO_f (hf : ¬ f = 0) : s_tO kd pl vl wd a f w m = (0, a, f) := by
  unfold s_tO
  rw [if_neg hf]
variable (kd pl vl wd)
/-- a name not told yet -/
def k_fresh (hx gx : Int64 → Int32) (a : Nat) : Nat × Nat := if s_isN kd vl wd a 0 = true then (if hx (vl a) < 0 ∧ gx (vl a) < 0 then (a + 1, 0) else (a, s_wr pl a 0 3)) else (a, s_wr pl a 0 1)
/-- something told -/
def k_told (hx : Int64 → Int32) (a f : Nat) : Int32 × Nat × Nat := if f = 0 then (if s_isN kd vl wd a 0 = true then (if 0 ≤ hx (vl a) then (hx (vl a), a + 1, 0) else (0, a, s_wr pl a 0 2)) else (0, a, s_wr pl a 0 1)) else (0, a, f)
/-- a day: kind, house, date, says; where, the fault -/
def k_guest (hx gx : Int64 → Int32) (a : Nat) : Int32 × Int32 × Int32 × Int32 × Nat × Nat :=
  let n := k_fresh kd pl vl wd hx gx a
  let k := s_tO kd pl vl wd n.1 n.2 14 4
  let o := s_tW kd pl vl wd k.2.1 k.2.2 4
  let h := k_told kd pl vl wd hx o.1 o.2
  let d := s_tA kd pl vl wd h.2.1 h.2.2 5 (nI 0) (nI 11)
  let y := s_tA kd pl vl wd d.2.1 d.2.2 6 (nI 0) (nI 40)
  (k.1, h.1, d.1, y.1, y.2.1, y.2.2)
variable {kd pl vl wd}
theorem k_told_f {hx : Int64 → Int32} (hf : ¬ f = 0) : k_told kd pl vl wd hx a f = (0, a, f) := if_neg hf
end PROP
theorem kwf_k {p : Nat → Bool} : ∀ m k, kwf p m k < 0 ∨ ∃ j, k ≤ j ∧ j < k + m ∧ kwf p m k = nI j
  | 0, _ => Or.inl m1neg
  | m + 1, k => by
    unfold kwf
    split
    · exact Or.inr ⟨k, Nat.le_refl _, by omega, rfl⟩
    · rcases kwf_k (p := p) m (k + 1) with h | ⟨j, h1, h2, h3⟩
      · exact Or.inl h
      · exact Or.inr ⟨j, by omega, by omega, h3⟩
set_option maxHeartbeats 4000000 in
theorem rd_g8_X8 {g : zG} {X : zX} {o s : Nat} (ho : X o = some (.inr (8, [.null, .int 0, .int 0, .int 0, .int 0]))) (ho0 : z0 g ≤ o) : zN g m_X8_init ({ frames := 1, cells := 0, slots := 0, locals := 20 } : Room) [.ref o, .ref s] X (fun rv X' => rv = none ∧ X' = zup X o (.inr (8, [.ref s, .int 0, .int 0, .int 0, .int 0]))) := by
  refine zN.of (by decide +kernel) (Nat.le_of_ble_eq_true rfl) rfl ?_
  refine z_lv (lv' := [(0, .ref o), (1, .ref s)]) [0, 1] rfl ?_
  refine z_aload_n 0 dX8_init_0 rfl ?_
  refine z_objInit q919 q160 q161 dX8_init_1 (Nat.le_of_ble_eq_true rfl) (Nat.le_of_ble_eq_true rfl) ?_
  refine z_aload_n 0 dX8_init_4 rfl ?_
  refine z_aload_n 1 dX8_init_5 rfl ?_
  refine z_putF (X' := (zup X o (.inr (8, [.ref s, .int 0, .int 0, .int 0, .int 0])))) 0 ho rfl in_X8 (by decide) tyX8 tyX8_ok nmX8 q920 rfl rfl rfl (tyX8_ok 0 (by decide)) rfl rfl (Nat.le_of_ble_eq_true rfl) ho0 dX8_init_6 rfl ?_
  have hx_1 : (zup X o (.inr (8, [.ref s, .int 0, .int 0, .int 0, .int 0]))) o = some (.inr (8, [.ref s, .int 0, .int 0, .int 0, .int 0])) := zup_s
  exact z_vret dX8_init_9 rfl (Nat.le_of_ble_eq_true rfl) (Nat.le_of_ble_eq_true rfl) ⟨rfl, rfl⟩
set_option maxHeartbeats 4000000 in
theorem rd_g8_X9 {g : zG} {X : zX} {o s : Nat} (ho : X o = some (.inr (9, [.null, .int 0, .int 0, .int 0, .int 0]))) (ho0 : z0 g ≤ o) : zN g m_X8_init ({ frames := 1, cells := 0, slots := 0, locals := 20 } : Room) [.ref o, .ref s] X (fun rv X' => rv = none ∧ X' = zup X o (.inr (9, [.ref s, .int 0, .int 0, .int 0, .int 0]))) := by
  refine zN.of (by decide +kernel) (Nat.le_of_ble_eq_true rfl) rfl ?_
  refine z_lv (lv' := [(0, .ref o), (1, .ref s)]) [0, 1] rfl ?_
  refine z_aload_n 0 dX8_init_0 rfl ?_
  refine z_objInit q919 q160 q161 dX8_init_1 (Nat.le_of_ble_eq_true rfl) (Nat.le_of_ble_eq_true rfl) ?_
  refine z_aload_n 0 dX8_init_4 rfl ?_
  refine z_aload_n 1 dX8_init_5 rfl ?_
  refine z_putF (X' := (zup X o (.inr (9, [.ref s, .int 0, .int 0, .int 0, .int 0])))) 0 ho rfl in_X9 (by decide) tyX9 tyX9_ok nmX9 q920 rfl rfl rfl (tyX9_ok 0 (by decide)) rfl rfl (Nat.le_of_ble_eq_true rfl) ho0 dX8_init_6 rfl ?_
  have hx_1 : (zup X o (.inr (9, [.ref s, .int 0, .int 0, .int 0, .int 0]))) o = some (.inr (9, [.ref s, .int 0, .int 0, .int 0, .int 0])) := zup_s
  exact z_vret dX8_init_9 rfl (Nat.le_of_ble_eq_true rfl) (Nat.le_of_ble_eq_true rfl) ⟨rfl, rfl⟩
set_option maxHeartbeats 4000000 in
theorem rd_gi_X9 {g : zG} {X : zX} {o s : Nat} (ho : X o = some (.inr (9, [.null, .int 0, .int 0, .int 0, .int 0]))) (ho0 : z0 g ≤ o) : zN g m_X9_init ({ frames := 2, cells := 0, slots := 0, locals := 41 } : Room) [.ref o, .ref s] X (fun rv X' => rv = none ∧ X' = zup X o (.inr (9, [.ref s, .int 0, .int 0, .int 0, .int 0]))) := by
  refine zN.of (by decide +kernel) (Nat.le_of_ble_eq_true rfl) rfl ?_
  refine z_lv (lv' := [(0, .ref o), (1, .ref s)]) [0, 1] rfl ?_
  refine z_aload_n 0 dX9_init_0 rfl ?_
  refine z_aload_n 1 dX9_init_1 rfl ?_
  refine z_callI (As := [.ref s]) (rd_g8_X9 ho ho0) q947 q917 q137 q918 rfl rfl nm_X8_init rfl (Nat.le_of_ble_eq_true rfl) ⟨Nat.le_of_ble_eq_true rfl, Nat.le_of_ble_eq_true rfl⟩ dX9_init_2 rfl rfl (Nat.le_of_ble_eq_true rfl) (Nat.le_of_ble_eq_true rfl) (fun v_1 X_2 hp_3 => ?_)
  obtain ⟨rfl, h7⟩ := hp_3
  replace h7 := h7.symm
  subst h7
  refine z_st (st' := []) rfl ?_
  exact z_vret dX9_init_5 rfl (Nat.le_of_ble_eq_true rfl) (Nat.le_of_ble_eq_true rfl) ⟨rfl, rfl⟩
set_option maxHeartbeats 4000000 in
theorem rd_g8_X10 {g : zG} {X : zX} {o s : Nat} (ho : X o = some (.inr (10, [.null, .int 0, .int 0, .int 0, .int 0]))) (ho0 : z0 g ≤ o) : zN g m_X8_init ({ frames := 1, cells := 0, slots := 0, locals := 20 } : Room) [.ref o, .ref s] X (fun rv X' => rv = none ∧ X' = zup X o (.inr (10, [.ref s, .int 0, .int 0, .int 0, .int 0]))) := by
  refine zN.of (by decide +kernel) (Nat.le_of_ble_eq_true rfl) rfl ?_
  refine z_lv (lv' := [(0, .ref o), (1, .ref s)]) [0, 1] rfl ?_
  refine z_aload_n 0 dX8_init_0 rfl ?_
  refine z_objInit q919 q160 q161 dX8_init_1 (Nat.le_of_ble_eq_true rfl) (Nat.le_of_ble_eq_true rfl) ?_
  refine z_aload_n 0 dX8_init_4 rfl ?_
  refine z_aload_n 1 dX8_init_5 rfl ?_
  refine z_putF (X' := (zup X o (.inr (10, [.ref s, .int 0, .int 0, .int 0, .int 0])))) 0 ho rfl in_X10 (by decide) tyX10 tyX10_ok nmX10 q920 rfl rfl rfl (tyX10_ok 0 (by decide)) rfl rfl (Nat.le_of_ble_eq_true rfl) ho0 dX8_init_6 rfl ?_
  have hx_1 : (zup X o (.inr (10, [.ref s, .int 0, .int 0, .int 0, .int 0]))) o = some (.inr (10, [.ref s, .int 0, .int 0, .int 0, .int 0])) := zup_s
  exact z_vret dX8_init_9 rfl (Nat.le_of_ble_eq_true rfl) (Nat.le_of_ble_eq_true rfl) ⟨rfl, rfl⟩
set_option maxHeartbeats 4000000 in
theorem rd_gi_X10 {g : zG} {X : zX} {o s : Nat} (ho : X o = some (.inr (10, [.null, .int 0, .int 0, .int 0, .int 0]))) (ho0 : z0 g ≤ o) : zN g m_X10_init ({ frames := 2, cells := 0, slots := 0, locals := 41 } : Room) [.ref o, .ref s] X (fun rv X' => rv = none ∧ X' = zup X o (.inr (10, [.ref s, .int 0, .int 0, .int 0, .int 0]))) := by
  refine zN.of (by decide +kernel) (Nat.le_of_ble_eq_true rfl) rfl ?_
  refine z_lv (lv' := [(0, .ref o), (1, .ref s)]) [0, 1] rfl ?_
  refine z_aload_n 0 dX10_init_0 rfl ?_
  refine z_aload_n 1 dX10_init_1 rfl ?_
  refine z_callI (As := [.ref s]) (rd_g8_X10 ho ho0) q959 q917 q137 q918 rfl rfl nm_X8_init rfl (Nat.le_of_ble_eq_true rfl) ⟨Nat.le_of_ble_eq_true rfl, Nat.le_of_ble_eq_true rfl⟩ dX10_init_2 rfl rfl (Nat.le_of_ble_eq_true rfl) (Nat.le_of_ble_eq_true rfl) (fun v_1 X_2 hp_3 => ?_)
  obtain ⟨rfl, h7⟩ := hp_3
  replace h7 := h7.symm
  subst h7
  refine z_st (st' := []) rfl ?_
  exact z_vret dX10_init_5 rfl (Nat.le_of_ble_eq_true rfl) (Nat.le_of_ble_eq_true rfl) ⟨rfl, rfl⟩
set_option maxHeartbeats 4000000 in
theorem rd_g8_X11 {g : zG} {X : zX} {o s : Nat} (ho : X o = some (.inr (11, [.null, .int 0, .int 0, .int 0, .int 0]))) (ho0 : z0 g ≤ o) : zN g m_X8_init ({ frames := 1, cells := 0, slots := 0, locals := 20 } : Room) [.ref o, .ref s] X (fun rv X' => rv = none ∧ X' = zup X o (.inr (11, [.ref s, .int 0, .int 0, .int 0, .int 0]))) := by
  refine zN.of (by decide +kernel) (Nat.le_of_ble_eq_true rfl) rfl ?_
  refine z_lv (lv' := [(0, .ref o), (1, .ref s)]) [0, 1] rfl ?_
  refine z_aload_n 0 dX8_init_0 rfl ?_
  refine z_objInit q919 q160 q161 dX8_init_1 (Nat.le_of_ble_eq_true rfl) (Nat.le_of_ble_eq_true rfl) ?_
  refine z_aload_n 0 dX8_init_4 rfl ?_
  refine z_aload_n 1 dX8_init_5 rfl ?_
  refine z_putF (X' := (zup X o (.inr (11, [.ref s, .int 0, .int 0, .int 0, .int 0])))) 0 ho rfl in_X11 (by decide) tyX11 tyX11_ok nmX11 q920 rfl rfl rfl (tyX11_ok 0 (by decide)) rfl rfl (Nat.le_of_ble_eq_true rfl) ho0 dX8_init_6 rfl ?_
  have hx_1 : (zup X o (.inr (11, [.ref s, .int 0, .int 0, .int 0, .int 0]))) o = some (.inr (11, [.ref s, .int 0, .int 0, .int 0, .int 0])) := zup_s
  exact z_vret dX8_init_9 rfl (Nat.le_of_ble_eq_true rfl) (Nat.le_of_ble_eq_true rfl) ⟨rfl, rfl⟩
set_option maxHeartbeats 4000000 in
theorem rd_gi_X11 {g : zG} {X : zX} {o s : Nat} (ho : X o = some (.inr (11, [.null, .int 0, .int 0, .int 0, .int 0]))) (ho0 : z0 g ≤ o) : zN g m_X11_init ({ frames := 2, cells := 0, slots := 0, locals := 41 } : Room) [.ref o, .ref s] X (fun rv X' => rv = none ∧ X' = zup X o (.inr (11, [.ref s, .int 0, .int 0, .int 0, .int 0]))) := by
  refine zN.of (by decide +kernel) (Nat.le_of_ble_eq_true rfl) rfl ?_
  refine z_lv (lv' := [(0, .ref o), (1, .ref s)]) [0, 1] rfl ?_
  refine z_aload_n 0 dX11_init_0 rfl ?_
  refine z_aload_n 1 dX11_init_1 rfl ?_
  refine z_callI (As := [.ref s]) (rd_g8_X11 ho ho0) q971 q917 q137 q918 rfl rfl nm_X8_init rfl (Nat.le_of_ble_eq_true rfl) ⟨Nat.le_of_ble_eq_true rfl, Nat.le_of_ble_eq_true rfl⟩ dX11_init_2 rfl rfl (Nat.le_of_ble_eq_true rfl) (Nat.le_of_ble_eq_true rfl) (fun v_1 X_2 hp_3 => ?_)
  obtain ⟨rfl, h7⟩ := hp_3
  replace h7 := h7.symm
  subst h7
  refine z_st (st' := []) rfl ?_
  exact z_vret dX11_init_5 rfl (Nat.le_of_ble_eq_true rfl) (Nat.le_of_ble_eq_true rfl) ⟨rfl, rfl⟩
set_option maxHeartbeats 4000000 in
theorem rd_hoI {g : zG} {X : zX} {o s : Nat} (ho : X o = some (.inr (7, [.null, .int 0, .int 0]))) (ho0 : z0 g ≤ o) : zN g m_X7_init ({ frames := 1, cells := 0, slots := 0, locals := 20 } : Room) [.ref o, .ref s] X (fun rv X' => rv = none ∧ X' = zup X o (.inr (7, [.ref s, .int 0, .int 0]))) := by
  refine zN.of (by decide +kernel) (Nat.le_of_ble_eq_true rfl) rfl ?_
  refine z_lv (lv' := [(0, .ref o), (1, .ref s)]) [0, 1] rfl ?_
  refine z_aload_n 0 dX7_init_0 rfl ?_
  refine z_objInit q810 q160 q161 dX7_init_1 (Nat.le_of_ble_eq_true rfl) (Nat.le_of_ble_eq_true rfl) ?_
  refine z_aload_n 0 dX7_init_4 rfl ?_
  refine z_aload_n 1 dX7_init_5 rfl ?_
  refine z_putF (X' := (zup X o (.inr (7, [.ref s, .int 0, .int 0])))) 0 ho rfl in_X7 (by decide) tyX7 tyX7_ok nmX7 q811 rfl rfl rfl (tyX7_ok 0 (by decide)) rfl rfl (Nat.le_of_ble_eq_true rfl) ho0 dX7_init_6 rfl ?_
  have hx_1 : (zup X o (.inr (7, [.ref s, .int 0, .int 0]))) o = some (.inr (7, [.ref s, .int 0, .int 0])) := zup_s
  exact z_vret dX7_init_9 rfl (Nat.le_of_ble_eq_true rfl) (Nat.le_of_ble_eq_true rfl) ⟨rfl, rfl⟩
