/-! THE COMPONENT: states copied. Printed by t47.py -/
set_option maxRecDepth 100000
set_option maxHeartbeats 4000000 in
theorem c_copies {g : zG} {A : Nat → Nat} {K : Nat → Nat → Int32} {F : Nat → Int32} {O : Nat → Nat → Option Nat} {gl : Int64} {X : zX} (hA : cok g A X) {i j n : Nat} (hci : cia A i) (hcj : cia A j) (hij : ¬ i = j) (hn : csz j = n) (hni : n ≤ csz i) : zN g m_X1_copies ({ frames := 0, cells := 0, slots := 0, locals := 0 } : Room) [.ref (A i), .ref (A j)] (cX g A K F O gl X) (fun rv X' => rv = none ∧ X' = (cX g A (s_cpr K i j n) F O gl X)) := by
  refine zN.of (by decide +kernel) (Nat.le_of_ble_eq_true rfl) rfl ?_
  refine z_lv (lv' := [(0, .ref (A i)), (1, .ref (A j))]) [0, 1] rfl ?_
  have hA2 := hA.2.2.1
  have hn9 := csz_lt j
  refine z_iconst (v := 0) dX1_copies_0 (by decide) ?_
  refine z_istore_n (lv' := [(2, .int 0), (0, .ref (A i)), (1, .ref (A j))]) dX1_copies_1 rfl (by decide) rfl ?_
  have loop_5 : ∀ (q_2 i_1 : Nat), i_1 + q_2 = n → 0 ≤ i_1 → zZ g m_X1_copies (fun rv X' => rv = none ∧ X' = (cX g A (s_cpr K i j n) F O gl X), zno, ({ frames := 0, cells := 0, slots := 0, locals := 0 } : Room)) 0 0 (cX g A (s_cpr K i j i_1) F O gl X) 2 [(0, .ref (A i)), (1, .ref (A j)), (2, .int (nI (i_1)))] [] := by
    intro q_2
    induction q_2 with
    | zero =>
      intro i_1 hb_4 lo_6  
      obtain rfl : n = i_1 := by omega
      refine z_iload_n 2 dX1_copies_2 rfl ?_
      refine z_aload_n 1 dX1_copies_3 rfl ?_
      refine z_alen (sz := csz j) (ti := 0) (cX_i hA hcj) rfl dX1_copies_4 ?_
      refine z_eq (y := nI n) (congrArg nI hn) ?_
      refine z_icmp_geN (a := n) (b := n) 20 (by omega) (by omega) dX1_copies_5 (by decide) (fun c_7 => ?_) (fun c_7 => absurd c_7 (by omega))
      exact z_vret dX1_copies_20 rfl (Nat.le_of_ble_eq_true rfl) (Nat.le_of_ble_eq_true rfl) ⟨rfl, rfl⟩
    | succ q_2 ih_3 =>
      intro i_1 hb_4 lo_6  
      refine z_iload_n 2 dX1_copies_2 rfl ?_
      refine z_aload_n 1 dX1_copies_3 rfl ?_
      refine z_alen (sz := csz j) (ti := 0) (cX_i hA hcj) rfl dX1_copies_4 ?_
      refine z_eq (y := nI n) (congrArg nI hn) ?_
      refine z_icmp_geN (a := i_1) (b := n) 20 (by omega) (by omega) dX1_copies_5 (by decide) (fun c_8 => absurd c_8 (by omega)) (fun c_8 => ?_)
      refine z_aload_n 1 dX1_copies_8 rfl ?_
      refine z_iload_n 2 dX1_copies_9 rfl ?_
      refine z_aload_n 0 dX1_copies_10 rfl ?_
      refine z_iload_n 2 dX1_copies_11 rfl ?_
      refine cz_iald (v := (s_cpr K i j i_1) i i_1) i i_1 hA hci rfl (by omega) rfl dX1_copies_12 ?_
      refine cz_iast (K' := (zs (s_cpr K i j i_1) j i_1 ((s_cpr K i j i_1) i i_1))) j i_1 hA hcj rfl (by omega) rfl dX1_copies_13 ?_
      refine z_iinc (v := nI (i_1 + 1)) (lv' := [(2, .int (nI (i_1 + 1))), (0, .ref (A i)), (1, .ref (A j))]) 2 dX1_copies_14 rfl (nI_1 _) (by decide) rfl ?_
      refine z_goto 2 dX1_copies_17 (by decide) ?_
      refine z_lv (lv' := [(0, .ref (A i)), (1, .ref (A j)), (2, .int (nI (i_1 + 1)))]) [1, 2, 0] rfl ?_
      refine z_X (X' := (cX g A (s_cpr K i j (i_1 + 1)) F O gl X)) (by rw [s_cpr_1 hij]) ?_
      exact ih_3 (i_1 + 1) (by omega) (by omega)  
  refine z_lv (lv' := [(0, .ref (A i)), (1, .ref (A j)), (2, .int 0)]) [1, 2, 0] rfl ?_
  refine z_X (X' := (cX g A (s_cpr K i j 0) F O gl X)) (by rw [s_cpr_0]) ?_
  exact loop_5 (n - 0) 0 (by omega) (Nat.le_refl _)  
theorem s_be_r6 {K : Nat → Nat → Int32} {o s : Nat} (h : o + 10 ≤ s ∨ s + 10 ≤ o) : (s_cpr (s_cpr (s_cpr (s_cpr (s_cpr (s_cpr K o s 4) (o + 1) (s + 1) 6) (o + 2) (s + 2) 6) (o + 3) (s + 3) 6) (o + 4) (s + 4) 6) (o + 5) (s + 5) 6) (o + 9) 6 = K (o + 9) 6 := by
  rw [s_cpr_n (by omega), s_cpr_n (by omega), s_cpr_n (by omega), s_cpr_n (by omega), s_cpr_n (by omega), s_cpr_n (by omega)]
theorem s_be_r7 {K : Nat → Nat → Int32} {o s : Nat} (h : o + 10 ≤ s ∨ s + 10 ≤ o) : (zs (s_cpr (s_cpr (s_cpr (s_cpr (s_cpr (s_cpr K o s 4) (o + 1) (s + 1) 6) (o + 2) (s + 2) 6) (o + 3) (s + 3) 6) (o + 4) (s + 4) 6) (o + 5) (s + 5) 6) (s + 9) 6 (K (o + 9) 6)) (o + 9) 7 = K (o + 9) 7 := by
  rw [zs_o (by omega)]; rw [s_cpr_n (by omega), s_cpr_n (by omega), s_cpr_n (by omega), s_cpr_n (by omega), s_cpr_n (by omega), s_cpr_n (by omega)]
theorem s_be_r8 {K : Nat → Nat → Int32} {o s : Nat} (h : o + 10 ≤ s ∨ s + 10 ≤ o) : (zs (zs (s_cpr (s_cpr (s_cpr (s_cpr (s_cpr (s_cpr K o s 4) (o + 1) (s + 1) 6) (o + 2) (s + 2) 6) (o + 3) (s + 3) 6) (o + 4) (s + 4) 6) (o + 5) (s + 5) 6) (s + 9) 6 (K (o + 9) 6)) (s + 9) 7 (K (o + 9) 7)) (o + 9) 8 = K (o + 9) 8 := by
  rw [zs_o (by omega)]; rw [zs_o (by omega)]; rw [s_cpr_n (by omega), s_cpr_n (by omega), s_cpr_n (by omega), s_cpr_n (by omega), s_cpr_n (by omega), s_cpr_n (by omega)]
set_option maxHeartbeats 4000000 in
theorem c_be_ {g : zG} {A : Nat → Nat} {K : Nat → Nat → Int32} {F : Nat → Int32} {O : Nat → Nat → Option Nat} {gl : Int64} {X : zX} (hA : cok g A X) {s o : Nat} (hs : cst A s) (ho : cst A o) (hos : o + 10 ≤ s ∨ s + 10 ≤ o) : zN g m_X4_be ({ frames := 1, cells := 0, slots := 0, locals := 22 } : Room) [.ref (A (s + 9)), .ref (A (o + 9))] (cX g A K F O gl X) (fun rv X' => rv = none ∧ X' = (cX g A (s_be K o s) F O gl X)) := by
  refine zN.of (by decide +kernel) (Nat.le_of_ble_eq_true rfl) rfl ?_
  refine z_lv (lv' := [(0, .ref (A (s + 9))), (1, .ref (A (o + 9)))]) [0, 1] rfl ?_
  have hA2 := hA.2.2.1
  obtain ⟨hs1, hs2, hs3⟩ := id hs
  obtain ⟨ho1, ho2, ho3⟩ := id ho
  refine z_aload_n 1 dX4_be_0 rfl ?_
  refine cz_getS (s := o) (v := .ref (A o)) 0 hA ho (by decide) q257 rfl dX4_be_1 ?_
  refine z_aload_n 0 dX4_be_4 rfl ?_
  refine cz_getS (s := s) (v := .ref (A s)) 0 hA hs (by decide) q257 rfl dX4_be_5 ?_
  refine z_callSN (As := [.ref (A o), .ref (A s)]) (c_copies (K := K) (F := F) (O := O) (gl := gl) hA (i := o) (j := s) (n := 4) (by unfold cia; omega) (by unfold cia; omega) (by omega) (csz_s hA hs) (by rw [csz_s hA ho]; omega)) q1206 q1207 q112 q1208 nm_X1_copies rfl (Nat.le_of_ble_eq_true rfl) ⟨Nat.le_of_ble_eq_true rfl, Nat.le_of_ble_eq_true rfl⟩ dX4_be_8 rfl rfl (Nat.le_of_ble_eq_true rfl) (Nat.le_of_ble_eq_true rfl) (fun v_1 X_2 hp_3 => ?_)
  obtain ⟨rfl, rfl⟩ := hp_3
  refine z_st (st' := []) rfl ?_
  refine z_aload_n 1 dX4_be_11 rfl ?_
  refine cz_getS (s := o) (v := .ref (A (o + 1))) 1 hA ho (by decide) q260 rfl dX4_be_12 ?_
  refine z_aload_n 0 dX4_be_15 rfl ?_
  refine cz_getS (s := s) (v := .ref (A (s + 1))) 1 hA hs (by decide) q260 rfl dX4_be_16 ?_
  refine z_callSN (As := [.ref (A (o + 1)), .ref (A (s + 1))]) (c_copies (K := (s_cpr K o s 4)) (F := F) (O := O) (gl := gl) hA (i := o + 1) (j := s + 1) (n := 6) (by unfold cia; omega) (by unfold cia; omega) (by omega) (csz_q hA hs (by omega)) (by rw [csz_q hA ho (by omega)]; omega)) q1206 q1207 q112 q1208 nm_X1_copies rfl (Nat.le_of_ble_eq_true rfl) ⟨Nat.le_of_ble_eq_true rfl, Nat.le_of_ble_eq_true rfl⟩ dX4_be_19 rfl rfl (Nat.le_of_ble_eq_true rfl) (Nat.le_of_ble_eq_true rfl) (fun v_4 X_5 hp_6 => ?_)
  obtain ⟨rfl, rfl⟩ := hp_6
  refine z_st (st' := []) rfl ?_
  refine z_aload_n 1 dX4_be_22 rfl ?_
  refine cz_getS (s := o) (v := .ref (A (o + 2))) 2 hA ho (by decide) q262 rfl dX4_be_23 ?_
  refine z_aload_n 0 dX4_be_26 rfl ?_
  refine cz_getS (s := s) (v := .ref (A (s + 2))) 2 hA hs (by decide) q262 rfl dX4_be_27 ?_
  refine z_callSN (As := [.ref (A (o + 2)), .ref (A (s + 2))]) (c_copies (K := (s_cpr (s_cpr K o s 4) (o + 1) (s + 1) 6)) (F := F) (O := O) (gl := gl) hA (i := o + 2) (j := s + 2) (n := 6) (by unfold cia; omega) (by unfold cia; omega) (by omega) (csz_q hA hs (by omega)) (by rw [csz_q hA ho (by omega)]; omega)) q1206 q1207 q112 q1208 nm_X1_copies rfl (Nat.le_of_ble_eq_true rfl) ⟨Nat.le_of_ble_eq_true rfl, Nat.le_of_ble_eq_true rfl⟩ dX4_be_30 rfl rfl (Nat.le_of_ble_eq_true rfl) (Nat.le_of_ble_eq_true rfl) (fun v_7 X_8 hp_9 => ?_)
  obtain ⟨rfl, rfl⟩ := hp_9
  refine z_st (st' := []) rfl ?_
  refine z_aload_n 1 dX4_be_33 rfl ?_
  refine cz_getS (s := o) (v := .ref (A (o + 3))) 3 hA ho (by decide) q266 rfl dX4_be_34 ?_
  refine z_aload_n 0 dX4_be_37 rfl ?_
  refine cz_getS (s := s) (v := .ref (A (s + 3))) 3 hA hs (by decide) q266 rfl dX4_be_38 ?_
  refine z_callSN (As := [.ref (A (o + 3)), .ref (A (s + 3))]) (c_copies (K := (s_cpr (s_cpr (s_cpr K o s 4) (o + 1) (s + 1) 6) (o + 2) (s + 2) 6)) (F := F) (O := O) (gl := gl) hA (i := o + 3) (j := s + 3) (n := 6) (by unfold cia; omega) (by unfold cia; omega) (by omega) (csz_q hA hs (by omega)) (by rw [csz_q hA ho (by omega)]; omega)) q1206 q1207 q112 q1208 nm_X1_copies rfl (Nat.le_of_ble_eq_true rfl) ⟨Nat.le_of_ble_eq_true rfl, Nat.le_of_ble_eq_true rfl⟩ dX4_be_41 rfl rfl (Nat.le_of_ble_eq_true rfl) (Nat.le_of_ble_eq_true rfl) (fun v_10 X_11 hp_12 => ?_)
  obtain ⟨rfl, rfl⟩ := hp_12
  refine z_st (st' := []) rfl ?_
  refine z_aload_n 1 dX4_be_44 rfl ?_
  refine cz_getS (s := o) (v := .ref (A (o + 4))) 4 hA ho (by decide) q268 rfl dX4_be_45 ?_
  refine z_aload_n 0 dX4_be_48 rfl ?_
  refine cz_getS (s := s) (v := .ref (A (s + 4))) 4 hA hs (by decide) q268 rfl dX4_be_49 ?_
  refine z_callSN (As := [.ref (A (o + 4)), .ref (A (s + 4))]) (c_copies (K := (s_cpr (s_cpr (s_cpr (s_cpr K o s 4) (o + 1) (s + 1) 6) (o + 2) (s + 2) 6) (o + 3) (s + 3) 6)) (F := F) (O := O) (gl := gl) hA (i := o + 4) (j := s + 4) (n := 6) (by unfold cia; omega) (by unfold cia; omega) (by omega) (csz_q hA hs (by omega)) (by rw [csz_q hA ho (by omega)]; omega)) q1206 q1207 q112 q1208 nm_X1_copies rfl (Nat.le_of_ble_eq_true rfl) ⟨Nat.le_of_ble_eq_true rfl, Nat.le_of_ble_eq_true rfl⟩ dX4_be_52 rfl rfl (Nat.le_of_ble_eq_true rfl) (Nat.le_of_ble_eq_true rfl) (fun v_13 X_14 hp_15 => ?_)
  obtain ⟨rfl, rfl⟩ := hp_15
  refine z_st (st' := []) rfl ?_
  refine z_aload_n 1 dX4_be_55 rfl ?_
  refine cz_getS (s := o) (v := .ref (A (o + 5))) 5 hA ho (by decide) q270 rfl dX4_be_56 ?_
  refine z_aload_n 0 dX4_be_59 rfl ?_
  refine cz_getS (s := s) (v := .ref (A (s + 5))) 5 hA hs (by decide) q270 rfl dX4_be_60 ?_
  refine z_callSN (As := [.ref (A (o + 5)), .ref (A (s + 5))]) (c_copies (K := (s_cpr (s_cpr (s_cpr (s_cpr (s_cpr K o s 4) (o + 1) (s + 1) 6) (o + 2) (s + 2) 6) (o + 3) (s + 3) 6) (o + 4) (s + 4) 6)) (F := F) (O := O) (gl := gl) hA (i := o + 5) (j := s + 5) (n := 6) (by unfold cia; omega) (by unfold cia; omega) (by omega) (csz_q hA hs (by omega)) (by rw [csz_q hA ho (by omega)]; omega)) q1206 q1207 q112 q1208 nm_X1_copies rfl (Nat.le_of_ble_eq_true rfl) ⟨Nat.le_of_ble_eq_true rfl, Nat.le_of_ble_eq_true rfl⟩ dX4_be_63 rfl rfl (Nat.le_of_ble_eq_true rfl) (Nat.le_of_ble_eq_true rfl) (fun v_16 X_17 hp_18 => ?_)
  obtain ⟨rfl, rfl⟩ := hp_18
  refine z_st (st' := []) rfl ?_
  refine z_aload_n 0 dX4_be_66 rfl ?_
  refine z_aload_n 1 dX4_be_67 rfl ?_
  refine cz_getS (s := o) (v := .int (K (o + 9) 6)) 6 hA ho (by decide) q272 (congrArg (fun z => some (Value.int z)) (s_be_r6 hos)) dX4_be_68 ?_
  refine cz_putS (s := s) (K' := (zs (s_cpr (s_cpr (s_cpr (s_cpr (s_cpr (s_cpr K o s 4) (o + 1) (s + 1) 6) (o + 2) (s + 2) 6) (o + 3) (s + 3) 6) (o + 4) (s + 4) 6) (o + 5) (s + 5) 6) (s + 9) 6 (K (o + 9) 6))) 6 hA hs (by decide) q272 rfl dX4_be_71 ?_
  refine z_aload_n 0 dX4_be_74 rfl ?_
  refine z_aload_n 1 dX4_be_75 rfl ?_
  refine cz_getS (s := o) (v := .int (K (o + 9) 7)) 7 hA ho (by decide) q274 (congrArg (fun z => some (Value.int z)) (s_be_r7 hos)) dX4_be_76 ?_
  refine cz_putS (s := s) (K' := (zs (zs (s_cpr (s_cpr (s_cpr (s_cpr (s_cpr (s_cpr K o s 4) (o + 1) (s + 1) 6) (o + 2) (s + 2) 6) (o + 3) (s + 3) 6) (o + 4) (s + 4) 6) (o + 5) (s + 5) 6) (s + 9) 6 (K (o + 9) 6)) (s + 9) 7 (K (o + 9) 7))) 7 hA hs (by decide) q274 rfl dX4_be_79 ?_
  refine z_aload_n 0 dX4_be_82 rfl ?_
  refine z_aload_n 1 dX4_be_83 rfl ?_
  refine cz_getS (s := o) (v := .int (K (o + 9) 8)) 8 hA ho (by decide) q276 (congrArg (fun z => some (Value.int z)) (s_be_r8 hos)) dX4_be_84 ?_
  refine cz_putS (s := s) (K' := (zs (zs (zs (s_cpr (s_cpr (s_cpr (s_cpr (s_cpr (s_cpr K o s 4) (o + 1) (s + 1) 6) (o + 2) (s + 2) 6) (o + 3) (s + 3) 6) (o + 4) (s + 4) 6) (o + 5) (s + 5) 6) (s + 9) 6 (K (o + 9) 6)) (s + 9) 7 (K (o + 9) 7)) (s + 9) 8 (K (o + 9) 8))) 8 hA hs (by decide) q276 rfl dX4_be_87 ?_
  exact z_vret dX4_be_90 rfl (Nat.le_of_ble_eq_true rfl) (Nat.le_of_ble_eq_true rfl) ⟨rfl, rfl⟩
theorem c_be {g : zG} {A : Nat → Nat} {K : Nat → Nat → Int32} {F : Nat → Int32} {O : Nat → Nat → Option Nat} {gl : Int64} {X : zX} (hA : cok g A X) {s o : Nat} (hs : cst A s) (ho : cst A o) (hos : o + 10 ≤ s ∨ s + 10 ≤ o) {σ τ ds es : Nat → Int32} {dt yr dt' yr' : Int32} : zN g m_X4_be ({ frames := 1, cells := 0, slots := 0, locals := 22 } : Room) [.ref (A (s + 9)), .ref (A (o + 9))] (cX g A (cput (cput K o τ es dt' yr') s σ ds dt yr) F O gl X) (fun rv X' => rv = none ∧ X' = cX g A (cput (cput K o τ es dt' yr') s τ es dt' yr') F O gl X) := by
  have h := c_be_ (K := cput (cput K o τ es dt' yr') s σ ds dt yr) (F := F) (O := O) (gl := gl) hA hs ho hos
  rw [s_be_put hos] at h
  exact h
