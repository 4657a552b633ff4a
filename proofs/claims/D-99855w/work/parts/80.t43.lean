/-! THE COMPONENT: states. Printed by t43.py -/
set_option maxRecDepth 100000
theorem s_kw : ∀ {k : Nat}, k ≤ 3 → (if k = 1 then (2 : Int32) else 1) = (if nI k = 1 then 2 else 1) := by
  intro k hk
  rcases (by omega : k = 0 ∨ k = 1 ∨ k = 2 ∨ k = 3) with rfl | rfl | rfl | rfl <;> rfl
set_option maxHeartbeats 4000000 in
theorem c_in {g : zG} {A : Nat → Nat} {K : Nat → Nat → Int32} {F : Nat → Int32} {O : Nat → Nat → Option Nat} {gl : Int64} {X : zX} (hA : cok g A X) {s : Nat} (hs : cst A s) {σ ds : Nat → Int32} {dt yr : Int32} (h : Int32) : zN g m_X4_in ({ frames := 0, cells := 0, slots := 0, locals := 0 } : Room) [.ref (A (s + 9)), .int h] (cX g A (cput K s σ ds dt yr) F O gl X) (fun rv X' => rv = some (.int (s_in σ h 6)) ∧ X' = (cX g A (cput K s σ ds dt yr) F O gl X)) := by
  refine zN.of (by decide +kernel) (Nat.le_of_ble_eq_true rfl) rfl ?_
  refine z_lv (lv' := [(0, .ref (A (s + 9))), (1, .int h)]) [0, 1] rfl ?_
  have hA2 := hA.2.2.1
  obtain ⟨hs1, hs2, hs3⟩ := id hs
  refine z_iconst (v := 0) dX4_in_0 (by decide) ?_
  refine z_istore_n (lv' := [(2, .int 0), (0, .ref (A (s + 9))), (1, .int h)]) dX4_in_1 rfl (by decide) rfl ?_
  refine z_iconst (v := 0) dX4_in_2 (by decide) ?_
  refine z_istore_n (lv' := [(3, .int 0), (2, .int 0), (0, .ref (A (s + 9))), (1, .int h)]) dX4_in_3 rfl (by decide) rfl ?_
  have loop_5 : ∀ (q_2 i_1 : Nat), i_1 + q_2 = 6 → 0 ≤ i_1 → zZ g m_X4_in (fun rv X' => rv = some (.int (s_in σ h 6)) ∧ X' = (cX g A (cput K s σ ds dt yr) F O gl X), zno, ({ frames := 0, cells := 0, slots := 0, locals := 0 } : Room)) 0 0 (cX g A (cput K s σ ds dt yr) F O gl X) 4 [(0, .ref (A (s + 9))), (1, .int h), (2, .int (s_in σ h i_1)), (3, .int (nI (i_1)))] [] := by
    intro q_2
    induction q_2 with
    | zero =>
      intro i_1 hb_4 lo_6  
      obtain rfl : 6 = i_1 := by omega
      refine z_iload_n 3 dX4_in_4 rfl ?_
      refine z_bipush (v := 6) dX4_in_5 (by decide) ?_
      refine z_icmp_geN (a := 6) (b := 6) 32 (by decide) (by decide) dX4_in_7 (by decide) (fun h_ => ?_) (fun h_ => absurd h_ (by decide))
      refine z_iload_n 2 dX4_in_32 rfl ?_
      exact z_iret dX4_in_33 rfl (Nat.le_of_ble_eq_true rfl) (Nat.le_of_ble_eq_true rfl) ⟨rfl, rfl⟩
    | succ q_2 ih_3 =>
      intro i_1 hb_4 lo_6  
      refine z_iload_n 3 dX4_in_4 rfl ?_
      refine z_bipush (v := 6) dX4_in_5 (by decide) ?_
      refine z_icmp_geN (a := i_1) (b := 6) 32 (by omega) (by omega) dX4_in_7 (by decide) (fun c_7 => absurd c_7 (by omega)) (fun c_7 => ?_)
      refine z_aload_n 0 dX4_in_10 rfl ?_
      refine cz_getS (s := s) (v := .ref (A (s + 2))) 2 hA hs (by decide) q262 rfl dX4_in_11 ?_
      refine z_iload_n 3 dX4_in_14 rfl ?_
      refine cz_iald (v := σ (i_1 + 6)) (s + 2) i_1 hA (by unfold cia; omega) rfl (by rw [csz_q hA hs (by omega)]; omega) (cput_where (by omega)) dX4_in_15 ?_
      refine z_iload_n 1 dX4_in_16 rfl ?_
      refine z_icmp_ne 26 dX4_in_17 (by decide) (fun c_8 => ?_) (fun c_8 => ?_)
      · -- ¬ σ (i_1 + 6) = h
        refine z_iinc (v := nI (i_1 + 1)) (lv' := [(3, .int (nI (i_1 + 1))), (0, .ref (A (s + 9))), (1, .int h), (2, .int (s_in σ h i_1))]) 3 dX4_in_26 rfl (nI_1 _) (by decide) rfl ?_
        refine z_goto 4 dX4_in_29 (by decide) ?_
        have f_9 : s_in σ h i_1 = s_in σ h (i_1 + 1) := by first | rfl | omega | (simp [s_in, s_bit, hb_4, c_7, c_8]; done) | (skip; simp [s_in, s_bit, hb_4, c_7, c_8])
        refine z_lv (lv' := [(0, .ref (A (s + 9))), (1, .int h), (2, .int (s_in σ h (i_1 + 1))), (3, .int (nI (i_1 + 1)))]) [1, 2, 3, 0] (by rw [← f_9]; rfl) ?_
        exact ih_3 (i_1 + 1) (by omega) (by omega)  
      · -- σ (i_1 + 6) = h
        refine z_iload_n 2 dX4_in_20 rfl ?_
        refine z_iconst (v := 1) dX4_in_21 (by decide) ?_
        refine z_iload_n 3 dX4_in_22 rfl ?_
        refine z_ishl dX4_in_23 ?_
        refine z_ior dX4_in_24 ?_
        obtain ⟨x_10, ex_10⟩ : ∃ y : Int32, ((s_in σ h i_1) ||| (1 <<< ((nI (i_1)) &&& 31))) = y := ⟨_, rfl⟩
        refine z_eq ex_10 ?_
        refine z_istore_n (lv' := [(2, .int x_10), (0, .ref (A (s + 9))), (1, .int h), (3, .int (nI (i_1)))]) dX4_in_25 rfl (by decide) rfl ?_
        refine z_iinc (v := nI (i_1 + 1)) (lv' := [(3, .int (nI (i_1 + 1))), (2, .int x_10), (0, .ref (A (s + 9))), (1, .int h)]) 3 dX4_in_26 rfl (nI_1 _) (by decide) rfl ?_
        refine z_goto 4 dX4_in_29 (by decide) ?_
        have f_11 : x_10 = s_in σ h (i_1 + 1) := by first | rfl | omega | (simp [s_in, s_bit, hb_4, c_7, c_8]; done) | ((try subst ex_10); simp [s_in, s_bit, hb_4, c_7, c_8])
        subst f_11
        refine z_lv (lv' := [(0, .ref (A (s + 9))), (1, .int h), (2, .int (s_in σ h (i_1 + 1))), (3, .int (nI (i_1 + 1)))]) [2, 3, 1, 0] rfl ?_
        exact ih_3 (i_1 + 1) (by omega) (by omega)  
  have f_12 : 0 = s_in σ h 0 := by first | rfl | omega | (simp [s_in, s_bit]; done) | (skip; simp [s_in, s_bit])
  refine z_lv (lv' := [(0, .ref (A (s + 9))), (1, .int h), (2, .int (s_in σ h 0)), (3, .int 0)]) [2, 3, 1, 0] (by rw [← f_12]; rfl) ?_
  exact loop_5 (6 - 0) 0 (by omega) (Nat.le_refl _)  
set_option maxHeartbeats 4000000 in
theorem c_somewhere {g : zG} {A : Nat → Nat} {K : Nat → Nat → Int32} {F : Nat → Int32} {O : Nat → Nat → Option Nat} {gl : Int64} {X : zX} (hA : cok g A X) {s : Nat} (hs : cst A s) {σ ds : Nat → Int32} {dt yr : Int32}  : zN g m_X4_somewhere ({ frames := 0, cells := 0, slots := 0, locals := 0 } : Room) [.ref (A (s + 9))] (cX g A (cput K s σ ds dt yr) F O gl X) (fun rv X' => rv = some (.int (s_some σ 6)) ∧ X' = (cX g A (cput K s σ ds dt yr) F O gl X)) := by
  refine zN.of (by decide +kernel) (Nat.le_of_ble_eq_true rfl) rfl ?_
  refine z_lv (lv' := [(0, .ref (A (s + 9)))]) [0] rfl ?_
  have hA2 := hA.2.2.1
  obtain ⟨hs1, hs2, hs3⟩ := id hs
  refine z_iconst (v := 0) dX4_somewhere_0 (by decide) ?_
  refine z_istore_n (lv' := [(1, .int 0), (0, .ref (A (s + 9)))]) dX4_somewhere_1 rfl (by decide) rfl ?_
  refine z_iconst (v := 0) dX4_somewhere_2 (by decide) ?_
  refine z_istore_n (lv' := [(2, .int 0), (1, .int 0), (0, .ref (A (s + 9)))]) dX4_somewhere_3 rfl (by decide) rfl ?_
  have loop_5 : ∀ (q_2 i_1 : Nat), i_1 + q_2 = 6 → 0 ≤ i_1 → zZ g m_X4_somewhere (fun rv X' => rv = some (.int (s_some σ 6)) ∧ X' = (cX g A (cput K s σ ds dt yr) F O gl X), zno, ({ frames := 0, cells := 0, slots := 0, locals := 0 } : Room)) 0 0 (cX g A (cput K s σ ds dt yr) F O gl X) 4 [(0, .ref (A (s + 9))), (1, .int (s_some σ i_1)), (2, .int (nI (i_1)))] [] := by
    intro q_2
    induction q_2 with
    | zero =>
      intro i_1 hb_4 lo_6  
      obtain rfl : 6 = i_1 := by omega
      refine z_iload_n 2 dX4_somewhere_4 rfl ?_
      refine z_bipush (v := 6) dX4_somewhere_5 (by decide) ?_
      refine z_icmp_geN (a := 6) (b := 6) 31 (by decide) (by decide) dX4_somewhere_7 (by decide) (fun h_ => ?_) (fun h_ => absurd h_ (by decide))
      refine z_iload_n 1 dX4_somewhere_31 rfl ?_
      exact z_iret dX4_somewhere_32 rfl (Nat.le_of_ble_eq_true rfl) (Nat.le_of_ble_eq_true rfl) ⟨rfl, rfl⟩
    | succ q_2 ih_3 =>
      intro i_1 hb_4 lo_6  
      refine z_iload_n 2 dX4_somewhere_4 rfl ?_
      refine z_bipush (v := 6) dX4_somewhere_5 (by decide) ?_
      refine z_icmp_geN (a := i_1) (b := 6) 31 (by omega) (by omega) dX4_somewhere_7 (by decide) (fun c_7 => absurd c_7 (by omega)) (fun c_7 => ?_)
      refine z_aload_n 0 dX4_somewhere_10 rfl ?_
      refine cz_getS (s := s) (v := .ref (A (s + 2))) 2 hA hs (by decide) q262 rfl dX4_somewhere_11 ?_
      refine z_iload_n 2 dX4_somewhere_14 rfl ?_
      refine cz_iald (v := σ (i_1 + 6)) (s + 2) i_1 hA (by unfold cia; omega) rfl (by rw [csz_q hA hs (by omega)]; omega) (cput_where (by omega)) dX4_somewhere_15 ?_
      refine z_if_lt 25 dX4_somewhere_16 (by decide) (fun c_8 => ?_) (fun c_8 => ?_)
      · -- σ (i_1 + 6) < 0
        have c_8' := Int32.not_le.mpr c_8
        refine z_iinc (v := nI (i_1 + 1)) (lv' := [(2, .int (nI (i_1 + 1))), (0, .ref (A (s + 9))), (1, .int (s_some σ i_1))]) 2 dX4_somewhere_25 rfl (nI_1 _) (by decide) rfl ?_
        refine z_goto 4 dX4_somewhere_28 (by decide) ?_
        have f_9 : s_some σ i_1 = s_some σ (i_1 + 1) := by first | rfl | omega | (simp [s_some, s_bit, hb_4, c_7, c_8, c_8']; done) | (skip; simp [s_some, s_bit, hb_4, c_7, c_8, c_8'])
        refine z_lv (lv' := [(0, .ref (A (s + 9))), (1, .int (s_some σ (i_1 + 1))), (2, .int (nI (i_1 + 1)))]) [1, 2, 0] (by rw [← f_9]; rfl) ?_
        exact ih_3 (i_1 + 1) (by omega) (by omega)  
      · -- ¬ σ (i_1 + 6) < 0
        have c_8' := Int32.not_lt.mp c_8
        refine z_iload_n 1 dX4_somewhere_19 rfl ?_
        refine z_iconst (v := 1) dX4_somewhere_20 (by decide) ?_
        refine z_iload_n 2 dX4_somewhere_21 rfl ?_
        refine z_ishl dX4_somewhere_22 ?_
        refine z_ior dX4_somewhere_23 ?_
        obtain ⟨x_10, ex_10⟩ : ∃ y : Int32, ((s_some σ i_1) ||| (1 <<< ((nI (i_1)) &&& 31))) = y := ⟨_, rfl⟩
        refine z_eq ex_10 ?_
        refine z_istore_n (lv' := [(1, .int x_10), (0, .ref (A (s + 9))), (2, .int (nI (i_1)))]) dX4_somewhere_24 rfl (by decide) rfl ?_
        refine z_iinc (v := nI (i_1 + 1)) (lv' := [(2, .int (nI (i_1 + 1))), (1, .int x_10), (0, .ref (A (s + 9)))]) 2 dX4_somewhere_25 rfl (nI_1 _) (by decide) rfl ?_
        refine z_goto 4 dX4_somewhere_28 (by decide) ?_
        have f_11 : x_10 = s_some σ (i_1 + 1) := by first | rfl | omega | (simp [s_some, s_bit, hb_4, c_7, c_8, c_8']; done) | ((try subst ex_10); simp [s_some, s_bit, hb_4, c_7, c_8, c_8'])
        subst f_11
        refine z_lv (lv' := [(0, .ref (A (s + 9))), (1, .int (s_some σ (i_1 + 1))), (2, .int (nI (i_1 + 1)))]) [2, 1, 0] rfl ?_
        exact ih_3 (i_1 + 1) (by omega) (by omega)  
  have f_12 : 0 = s_some σ 0 := by first | rfl | omega | (simp [s_some, s_bit]; done) | (skip; simp [s_some, s_bit])
  refine z_lv (lv' := [(0, .ref (A (s + 9))), (1, .int (s_some σ 0)), (2, .int 0)]) [2, 1, 0] (by rw [← f_12]; rfl) ?_
  exact loop_5 (6 - 0) 0 (by omega) (Nat.le_refl _)  
set_option maxHeartbeats 4000000 in
theorem c_goes {g : zG} {A : Nat → Nat} {K : Nat → Nat → Int32} {F : Nat → Int32} {O : Nat → Nat → Option Nat} {gl : Int64} {X : zX} (hA : cok g A X) {s : Nat} (hs : cst A s) {σ ds : Nat → Int32} {dt yr : Int32} (d : Nat) (hd : d < 6) : zN g m_X4_goes ({ frames := 0, cells := 0, slots := 0, locals := 0 } : Room) [.ref (A (s + 9)), .int (nI (d))] (cX g A (cput K s σ ds dt yr) F O gl X) (fun rv X' => rv = none ∧ X' = (cX g A (cput K s (s_leave σ d) ds dt yr) F O gl X)) := by
  refine zN.of (by decide +kernel) (Nat.le_of_ble_eq_true rfl) rfl ?_
  refine z_lv (lv' := [(0, .ref (A (s + 9))), (1, .int (nI (d)))]) [0, 1] rfl ?_
  have hA2 := hA.2.2.1
  obtain ⟨hs1, hs2, hs3⟩ := id hs
  refine z_aload_n 0 dX4_goes_0 rfl ?_
  refine cz_getS (s := s) (v := .ref (A (s + 2))) 2 hA hs (by decide) q262 rfl dX4_goes_1 ?_
  refine z_iload_n 1 dX4_goes_4 rfl ?_
  refine z_iconst (v := zm1) dX4_goes_5 (by decide) ?_
  refine cz_iast (K' := (cput K s (zs1 σ (d + 6) zm1) ds dt yr)) (s + 2) d hA (by unfold cia; omega) rfl (by rw [csz_q hA hs (by omega)]; omega) (by rw [cput_zwhere (by omega)]) dX4_goes_6 ?_
  refine z_aload_n 0 dX4_goes_7 rfl ?_
  refine cz_getS (s := s) (v := .ref (A (s + 3))) 3 hA hs (by decide) q266 rfl dX4_goes_8 ?_
  refine z_iload_n 1 dX4_goes_11 rfl ?_
  refine z_iconst (v := 0) dX4_goes_12 (by decide) ?_
  refine cz_iast (K' := (cput K s (zs1 (zs1 σ (d + 6) zm1) (d + 12) 0) ds dt yr)) (s + 3) d hA (by unfold cia; omega) rfl (by rw [csz_q hA hs (by omega)]; omega) (by rw [cput_zbeen (by omega)]) dX4_goes_13 ?_
  exact z_vret dX4_goes_14 rfl (Nat.le_of_ble_eq_true rfl) (Nat.le_of_ble_eq_true rfl) ⟨rfl, rfl⟩
