/-! THE COMPONENT: a mark made. Printed by t81.py -/
set_option maxRecDepth 100000
theorem zup_first2 {Y : zX} {m s a0 a1 a2 a3 a4 a5 i0 i1 : Nat} {d o es e0 e1 e2 e3 e4 e5 f0 f1 : va_E} : zup (zup (zup (zup (zup (zup (zup (zup (zup (zup (zup Y m d) a0 e0) a1 e1) a2 e2) a3 e3) a4 e4) a5 e5) s es) i0 f0) i1 f1) m o = zup (zup (zup (zup (zup (zup (zup (zup (zup (zup Y a0 e0) a1 e1) a2 e2) a3 e3) a4 e4) a5 e5) s es) i0 f0) i1 f1) m o := by
  funext q
  unfold zup
  by_cases h : q = m
  · rw [if_pos h, if_pos h]
  · simp only [h, if_false]
set_option maxHeartbeats 4000000 in
theorem c_mark_new {g : zG} {A : Nat → Nat} {K : Nat → Nat → Int32} {F : Nat → Int32} {O : Nat → Nat → Option Nat} {gl : Int64} {X : zX} (hA : cok g A X) {j : Nat} (hj : j < 4) (h9 : A 2 < 9000) (hx : (decide (0 ≤ nI j) && decide (nI j ≤ 3)) = true) (hOj : O 20 j = none) : zN g m_X1_mark ({ frames := 3, cells := 10, slots := 63, locals := 80 } : Room) [.ref (A 99), .int (nI (j)), .int 0] (cX g A K F O gl X) (fun rv X' => rv = some (.int 1) ∧ ∃ (n : Nat → Nat) (s i0 i1 m : Nat), cok g (A_gm (A_gr A n s) i0 i1 m) X ∧ X' = cX g (A_gm (A_gr A n s) i0 i1 m) (zs (s_cpr (s_cpr (s_be (cm0 (cput K (300 + 10 * A 2) (fun _ => 0) (fun _ => 0) 0 0) (A 3)) 300 (10 * A 2 + 300)) 15 ((100000 + 10 * A 3) + 6) 8) 16 ((100000 + 10 * A 3) + 7) 8) ((100000 + 10 * A 3) + 8) 3 ((cm0 (cput K (300 + 10 * A 2) (fun _ => 0) (fun _ => 0) 0 0) (A 3)) 99 17)) F (zs (zs O (100000 + 10 * A 3) 0 (some ((A_gm (A_gr A n s) i0 i1 m) (10 * A 2 + 309)))) 20 j (some ((A_gm (A_gr A n s) i0 i1 m) ((100000 + 10 * A 3) + 8)))) gl X) := by
  refine zN.of (by decide +kernel) (Nat.le_of_ble_eq_true rfl) rfl ?_
  refine z_lv (lv' := [(0, .ref (A 99)), (1, .int (nI (j))), (2, .int 0)]) [0, 1, 2] rfl ?_
  have hA2 := hA.2.2.1
  refine z_iload_n 1 dX1_mark_0 rfl ?_
  refine z_iconst (v := 0) dX1_mark_1 (by decide) ?_
  refine z_iconst (v := 3) dX1_mark_2 (by decide) ?_
  refine z_callS (As := [.int (nI (j)), .int 0, .int 3]) (c_inn (nI (j)) 0 3) q1132 q1133 q112 q1134 nm_X1_in rfl (Nat.le_of_ble_eq_true rfl) ⟨Nat.le_of_ble_eq_true rfl, Nat.le_of_ble_eq_true rfl⟩ dX1_mark_3 rfl rfl (Nat.le_of_ble_eq_true rfl) (Nat.le_of_ble_eq_true rfl) (fun v_1 X_2 hp_3 => ?_)
  obtain ⟨rfl, rfl⟩ := hp_3
  refine z_st (st' := [.int (zb (decide (0 ≤ nI (j)) && decide (nI (j) ≤ 3)))]) rfl ?_
  refine z_if_eqb 22 dX1_mark_6 (by decide) (fun c_4 => absurd c_4 (by rw [hx]; decide)) (fun c_4 => ?_)
  refine z_iload_n 2 dX1_mark_9 rfl ?_
  refine z_if_eq 24 dX1_mark_10 (by decide) (fun h_ => ?_) (fun h_ => absurd h_ (by decide))
  refine z_aload_n 0 dX1_mark_24 rfl ?_
  refine cz_get (v := .ref (A 20)) 20 hA (by decide) q347 rfl dX1_mark_25 ?_
  refine z_iload_n 1 dX1_mark_28 rfl ?_
  refine cz_aldM (v := .null) j hA rfl (by omega) (by rw [hOj]; rfl) dX1_mark_29 ?_
  refine z_ifnonnullN dX1_mark_30 ?_
  refine z_aload_n 0 dX1_mark_33 rfl ?_
  refine cz_get (v := .ref (A 20)) 20 hA (by decide) q347 rfl dX1_mark_34 ?_
  refine z_iload_n 1 dX1_mark_37 rfl ?_
  refine z_new (ci := 22) (fs := [.null, .null, .null, .int 0]) rfl in_X22 tyX22 tyX22_ok q301 q1452 q153 zd_X22 dX1_mark_38 rfl rfl (Nat.le_of_ble_eq_true rfl) (Nat.le_of_ble_eq_true rfl) (fun m hmn hml => ?_)
  refine z_dup dX1_mark_41 rfl ?_
  refine z_callIN (As := []) (j_mark (X := zup (cX g A K F O gl X) m (.inr (22, [.null, .null, .null, .int 0]))) zup_s hml) q1453 q1454 q153 q1455 rfl rfl nm_X22_init rfl (Nat.le_of_ble_eq_true rfl) ⟨Nat.le_of_ble_eq_true rfl, Nat.le_of_ble_eq_true rfl⟩ dX1_mark_42 rfl rfl (Nat.le_of_ble_eq_true rfl) (Nat.le_of_ble_eq_true rfl) (fun v_5 X_6 hp_7 => ?_)
  obtain ⟨rfl, s, a0, a1, a2, a3, a4, a5, i0, i1, rfl, hfr⟩ := hp_7
  refine z_st (st' := [.ref m, .int (nI (j)), .ref (A 20)]) rfl ?_
  obtain ⟨hfr1, hfr2⟩ := zfr_under hfr
  have hnn := zfr_nn hfr1
  obtain ⟨hB, hW⟩ := cX_grow (n := (n6 a0 a1 a2 a3 a4 a5)) (s := s) (F := F) (O := O) (gl := gl) (K := K) hA h9 hfr1.2.2.2.2.2.2
  have hWs : (zup (zup (zup (zup (zup (zup (zup (cX g A K F O gl X) a0 (.inl (zar g 0, 4, .inl (fun _ => 0)))) a1 (.inl (zar g 0, 6, .inl (fun _ => 0)))) a2 (.inl (zar g 0, 6, .inl (fun _ => 0)))) a3 (.inl (zar g 0, 6, .inl (fun _ => 0)))) a4 (.inl (zar g 0, 6, .inl (fun _ => 0)))) a5 (.inl (zar g 0, 6, .inl (fun _ => 0)))) s (.inr (4, [.ref a0, .ref a1, .ref a2, .ref a3, .ref a4, .ref a5, .int 0, .int 0, .int 0]))) = cX g (A_gr A (n6 a0 a1 a2 a3 a4 a5) s) (cput K (300 + 10 * A 2) (fun _ => 0) (fun _ => 0) 0 0) F O gl X := hW
  have nm : ∀ q, (cX g A K F O gl X) q = none → ¬ q = s → ¬ q = a0 → ¬ q = a1 → ¬ q = a2 → ¬ q = a3 → ¬ q = a4 → ¬ q = a5 → cX g (A_gr A (n6 a0 a1 a2 a3 a4 a5) s) (cput K (300 + 10 * A 2) (fun _ => 0) (fun _ => 0) 0 0) F O gl X q = none := fun q h h0 h1 h2 h3 h4 h5 h6 => by rw [← hWs, zup_none, zup_none, zup_none, zup_none, zup_none, zup_none, zup_none]; exact ⟨h0, h6, h5, h4, h3, h2, h1, h⟩
  have d1 := hfr1.2.2.1
  have d0 := hfr1.2.2.2.2.2.1
  have hfm : zfr g (cX g (A_gr A (n6 a0 a1 a2 a3 a4 a5) s) (cput K (300 + 10 * A 2) (fun _ => 0) (fun _ => 0) 0 0) F O gl X) [m, i0, i1] := ⟨nm m hmn (hfr2 s (by simp)) (hfr2 a0 (by simp)) (hfr2 a1 (by simp)) (hfr2 a2 (by simp)) (hfr2 a3 (by simp)) (hfr2 a4 (by simp)) (hfr2 a5 (by simp)), hml, fun b hb => by simp only [List.mem_cons, List.not_mem_nil, or_false] at hb; rcases hb with rfl | rfl; exact hfr2 _ (by simp); exact hfr2 _ (by simp), nm i0 (hnn i0 (by simp)) (d0 s (by simp)) (d0 a0 (by simp)) (d0 a1 (by simp)) (d0 a2 (by simp)) (d0 a3 (by simp)) (d0 a4 (by simp)) (d0 a5 (by simp)), hfr1.2.2.2.2.1, fun b hb => by simp only [List.mem_cons, List.not_mem_nil, or_false] at hb; subst hb; exact fun z => d1 i0 (by simp) z.symm, nm i1 (hnn i1 (by simp)) (d1 s (by simp)) (d1 a0 (by simp)) (d1 a1 (by simp)) (d1 a2 (by simp)) (d1 a3 (by simp)) (d1 a4 (by simp)) (d1 a5 (by simp)), hfr1.2.1, fun b hb => absurd hb List.not_mem_nil, trivial⟩
  have e3 : (A_gr A (n6 a0 a1 a2 a3 a4 a5) s) 3 = A 3 := A_gr_o (by decide) (Or.inl (by omega))
  obtain ⟨hC, hWm⟩ := cX_growm (sa := s) hB hfm
  rw [e3] at hWm
  have e99 : (A_gm (A_gr A (n6 a0 a1 a2 a3 a4 a5) s) i0 i1 m) 99 = A 99 := (A_gm_o (by decide) (Or.inl (by omega))).trans (A_gr_o (by decide) (Or.inl (by omega)))
  have e20 : (A_gm (A_gr A (n6 a0 a1 a2 a3 a4 a5) s) i0 i1 m) 20 = A 20 := (A_gm_o (by decide) (Or.inl (by omega))).trans (A_gr_o (by decide) (Or.inl (by omega)))
  have em : (A_gm (A_gr A (n6 a0 a1 a2 a3 a4 a5) s) i0 i1 m) ((100000 + 10 * A 3) + 8) = m := by rw [← e3]; exact A_gm_8
  have es : (A_gm (A_gr A (n6 a0 a1 a2 a3 a4 a5) s) i0 i1 m) (10 * A 2 + 309) = s := (A_gm_o (by omega) (Or.inl (by omega))).trans (by rw [show 10 * A 2 + 309 = 300 + 10 * A 2 + 9 by omega]; exact A_gr_s)
  have ec2 : (A_gm (A_gr A (n6 a0 a1 a2 a3 a4 a5) s) i0 i1 m) 2 = A 2 + 1 := (A_gm_o (by decide) (Or.inl (by omega))).trans A_gr_2
  have ec3 : (A_gm (A_gr A (n6 a0 a1 a2 a3 a4 a5) s) i0 i1 m) 3 = A 3 + 1 := by rw [← e3]; exact A_gm_3
  rw [← hWs] at hWm
  refine z_X (X' := cX g (A_gm (A_gr A (n6 a0 a1 a2 a3 a4 a5) s) i0 i1 m) (cm0 (cput K (300 + 10 * A 2) (fun _ => 0) (fun _ => 0) 0 0) (A 3)) F (zs O (100000 + 10 * A 3) 0 (some ((A_gm (A_gr A (n6 a0 a1 a2 a3 a4 a5) s) i0 i1 m) (10 * A 2 + 309)))) gl X) (zup_first2.trans (by rw [es]; exact hWm)) ?_
  rw [← e99, ← e20]
  refine z_st (st' := [.ref ((A_gm (A_gr A (n6 a0 a1 a2 a3 a4 a5) s) i0 i1 m) ((100000 + 10 * A 3) + 8)), .int (nI j), .ref ((A_gm (A_gr A (n6 a0 a1 a2 a3 a4 a5) s) i0 i1 m) 20)]) (by rw [em]) ?_
  refine cz_astM (O' := (zs (zs O (100000 + 10 * A 3) 0 (some ((A_gm (A_gr A (n6 a0 a1 a2 a3 a4 a5) s) i0 i1 m) (10 * A 2 + 309)))) 20 j (some ((A_gm (A_gr A (n6 a0 a1 a2 a3 a4 a5) s) i0 i1 m) ((100000 + 10 * A 3) + 8))))) (m := (100000 + 10 * A 3)) j hC ⟨by omega, by rw [ec3]; omega, by omega⟩ rfl hj rfl dX1_mark_45 ?_
  exact c_mark_t hC (mr := (100000 + 10 * A 3)) (k := A 2) ⟨by omega, by rw [ec3]; omega, by omega⟩ ⟨by omega, by rw [ec2]; omega⟩ hj zs_s ((zs_o (by omega)).trans zs_s) ⟨rfl, (n6 a0 a1 a2 a3 a4 a5), s, i0, i1, m, hC, rfl⟩
