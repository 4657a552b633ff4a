/-! THE COMPONENT: expressions worked. Printed by t45.py -/
set_option maxRecDepth 100000
set_option maxHeartbeats 4000000 in
theorem c_work13 {g : zG} {A : Nat → Nat} {K : Nat → Nat → Int32} {F : Nat → Int32} {O : Nat → Nat → Option Nat} {gl : Int64} {X : zX} (hA : cok g A X) {e : Nat} {n : Int32} (he : X e = some (.inr (13, [.int n]))) : zN g m_X13_worked ({ frames := 0, cells := 0, slots := 0, locals := 0 } : Room) [.ref e, .ref (A 6)] (cX g A K F O gl X) (fun rv X' => rv = some (.int (n)) ∧ X' = (cX g A K F O gl X)) := by
  refine zN.of (by decide +kernel) (Nat.le_of_ble_eq_true rfl) rfl ?_
  refine z_lv (lv' := [(0, .ref e), (1, .ref (A 6))]) [0, 1] rfl ?_
  have hA2 := hA.2.2.1
  refine z_aload_n 0 dX13_worked_0 rfl ?_
  refine z_get (v := .int n) 0 (cX_lo hA he) rfl in_X13 (by decide) q1016 rfl dX13_worked_1 ?_
  exact z_iret dX13_worked_4 rfl (Nat.le_of_ble_eq_true rfl) (Nat.le_of_ble_eq_true rfl) ⟨rfl, rfl⟩
set_option maxHeartbeats 4000000 in
theorem c_work14 {g : zG} {A : Nat → Nat} {K : Nat → Nat → Int32} {F : Nat → Int32} {O : Nat → Nat → Option Nat} {gl : Int64} {X : zX} (hA : cok g A X) {e k : Nat} (hk : k < 4) (he : X e = some (.inr (14, [.int (nI k)]))) : zN g m_X14_worked ({ frames := 0, cells := 0, slots := 0, locals := 0 } : Room) [.ref e, .ref (A 6)] (cX g A K F O gl X) (fun rv X' => rv = some (.int (F k)) ∧ X' = (cX g A K F O gl X)) := by
  refine zN.of (by decide +kernel) (Nat.le_of_ble_eq_true rfl) rfl ?_
  refine z_lv (lv' := [(0, .ref e), (1, .ref (A 6))]) [0, 1] rfl ?_
  have hA2 := hA.2.2.1
  refine z_aload_n 1 dX14_worked_0 rfl ?_
  refine z_aload_n 0 dX14_worked_1 rfl ?_
  refine z_get (v := .int (nI (k))) 0 (cX_lo hA he) rfl in_X14 (by decide) q1026 rfl dX14_worked_2 ?_
  refine cz_ialdF (v := F k) k hA rfl (by omega) rfl dX14_worked_5 ?_
  exact z_iret dX14_worked_6 rfl (Nat.le_of_ble_eq_true rfl) (Nat.le_of_ble_eq_true rfl) ⟨rfl, rfl⟩
/-- what is needed of an expression's method to call it -/
def cwkP (g : zG) (A : Nat → Nat) (K : Nat → Nat → Int32) (F : Nat → Int32) (O : Nat → Nat → Option Nat) (gl : Int64) (X : zX) (d e : Nat) (w : Int32 → Int32 → Int32 → Int32 → Int32) (ci : Nat) (fs : List Value) (r : vw_C) (My : zMth) : Prop := X e = some (.inr (ci, fs)) ∧ zcl[ci]? = some r ∧ Cond.selects r.1 ⟨"DateVale$Expression", "worked", "([I)I"⟩ My.1 ∈ lw_all ∧ Cond.instanceMethod My.1 ∈ lw_all ∧ Cond.initialized My.1.cls ∈ lw_all ∧ Cond.code My.1 My.2.1 My.2.2.1 My.2.2.2.1 ∈ lw_all ∧ My.2.2.1 ≤ 4 ∧ zN g My ({ frames := d, cells := 0, slots := 0, locals := 40 * d } : Room) [.ref e, .ref (A 6)] (cX g A K F O gl X) (fun rv X' => rv = some (.int (w (F 0) (F 1) (F 2) (F 3))) ∧ X' = cX g A K F O gl X)
def cwk (g : zG) (A : Nat → Nat) (K : Nat → Nat → Int32) (F : Nat → Int32) (O : Nat → Nat → Option Nat) (gl : Int64) (X : zX) (d e : Nat) (w : Int32 → Int32 → Int32 → Int32 → Int32) : Prop := ∃ (ci : Nat) (fs : List Value) (r : vw_C) (My : zMth), cwkP g A K F O gl X d e w ci fs r My
set_option maxHeartbeats 4000000 in
theorem c_work15 {g : zG} {A : Nat → Nat} {K : Nat → Nat → Int32} {F : Nat → Int32} {O : Nat → Nat → Option Nat} {gl : Int64} {X : zX} (hA : cok g A X) {e p d : Nat} {w1 : Int32 → Int32 → Int32 → Int32 → Int32} (he : X e = some (.inr (15, [.ref p]))) (hw1 : cwk g A K F O gl X d p w1) : zN g m_X15_worked ({ frames := d + 1, cells := 0, slots := 0, locals := 40 * (d + 1) } : Room) [.ref e, .ref (A 6)] (cX g A K F O gl X) (fun rv X' => rv = some (.int (if w1 (F 0) (F 1) (F 2) (F 3) = 0 then 1 else 0)) ∧ X' = (cX g A K F O gl X)) := by
  refine zN.of (by decide +kernel) (Nat.le_of_ble_eq_true rfl) rfl ?_
  refine z_lv (lv' := [(0, .ref e), (1, .ref (A 6))]) [0, 1] rfl ?_
  obtain ⟨ci1, fs1, r1, My1, hx1, hc1, h31, h41, h51, h61, h71, hM1⟩ := hw1
  refine z_aload_n 0 dX15_worked_0 rfl ?_
  refine z_get (v := .ref p) 0 (cX_lo hA he) rfl in_X15 (by decide) q1036 rfl dX15_worked_1 ?_
  refine z_aload_n 1 dX15_worked_4 rfl ?_
  refine z_callA (As := [.ref (A 6)]) (x := ⟨"DateVale$Expression", "worked", "([I)I"⟩) (owner := "DateVale$Expression") hM1 q1260 q1250 h31 h41 h51 h61 q1249 ⟨by decide +kernel, by decide +kernel, nm_X13_worked.2.2⟩ (cX_lo hA hx1) hc1 rfl (Nat.le_of_ble_eq_true rfl) ⟨Nat.le_refl _, by show 8 + (My1.2.2.1 + 11) + 40 * d ≤ 40 * (d + 1); omega⟩ dX15_worked_5 rfl rfl (Nat.le_refl _) (Nat.le_refl _) (fun v_1 X_2 hp_3 => ?_)
  obtain ⟨rfl, rfl⟩ := hp_3
  refine z_st (st' := [.int (w1 (F 0) (F 1) (F 2) (F 3))]) rfl ?_
  refine z_if_ne 15 dX15_worked_8 (by decide) (fun c_4 => ?_) (fun c_4 => ?_)
  · -- ¬ (w1 (F 0) (F 1) (F 2) (F 3)) = 0
    refine z_iconst (v := 0) dX15_worked_15 (by decide) ?_
    exact z_iret dX15_worked_16 rfl (Nat.le_refl _) (Nat.le_refl _) ⟨congrArg some (congrArg Value.int (by simp [c_4])), rfl⟩
  · -- (w1 (F 0) (F 1) (F 2) (F 3)) = 0
    refine z_iconst (v := 1) dX15_worked_11 (by decide) ?_
    refine z_goto 16 dX15_worked_12 (by decide) ?_
    exact z_iret dX15_worked_16 rfl (Nat.le_refl _) (Nat.le_refl _) ⟨congrArg some (congrArg Value.int (by simp [c_4])), rfl⟩
set_option maxHeartbeats 4000000 in
theorem c_work16 {g : zG} {A : Nat → Nat} {K : Nat → Nat → Int32} {F : Nat → Int32} {O : Nat → Nat → Option Nat} {gl : Int64} {X : zX} (hA : cok g A X) {e p q d op : Nat} {ch : Int32} {w1 w2 : Int32 → Int32 → Int32 → Int32 → Int32} (he : X e = some (.inr (16, [.int ch, .ref p, .ref q]))) (hop : (ch = 43 ∧ op = 4) ∨ (ch = 45 ∧ op = 5) ∨ (ch = 42 ∧ op = 6) ∨ (ch = 60 ∧ op = 7) ∨ (ch = 61 ∧ op = 8) ∨ (ch = 38 ∧ op = 9) ∨ (ch = 124 ∧ op = 10)) (hw1 : cwk g A K F O gl X d p w1) (hw2 : cwk g A K F O gl X d q w2) : zN g m_X16_worked ({ frames := d + 1, cells := 0, slots := 0, locals := 40 * (d + 1) } : Room) [.ref e, .ref (A 6)] (cX g A K F O gl X) (fun rv X' => rv = some (.int (s_both op (w1 (F 0) (F 1) (F 2) (F 3)) (w2 (F 0) (F 1) (F 2) (F 3)))) ∧ X' = (cX g A K F O gl X)) := by
  refine zN.of (by decide +kernel) (Nat.le_of_ble_eq_true rfl) rfl ?_
  refine z_lv (lv' := [(0, .ref e), (1, .ref (A 6))]) [0, 1] rfl ?_
  obtain ⟨ci1, fs1, r1, My1, hx1, hc1, h31, h41, h51, h61, h71, hM1⟩ := hw1
  obtain ⟨ci2, fs2, r2, My2, hx2, hc2, h32, h42, h52, h62, h72, hM2⟩ := hw2
  refine z_aload_n 0 dX16_worked_0 rfl ?_
  refine z_get (v := .ref p) 1 (cX_lo hA he) rfl in_X16 (by decide) q1051 rfl dX16_worked_1 ?_
  refine z_aload_n 1 dX16_worked_4 rfl ?_
  refine z_callA (As := [.ref (A 6)]) (x := ⟨"DateVale$Expression", "worked", "([I)I"⟩) (owner := "DateVale$Expression") hM1 q1263 q1250 h31 h41 h51 h61 q1249 ⟨by decide +kernel, by decide +kernel, nm_X13_worked.2.2⟩ (cX_lo hA hx1) hc1 rfl (Nat.le_of_ble_eq_true rfl) ⟨Nat.le_refl _, by show 8 + (My1.2.2.1 + 11) + 40 * d ≤ 40 * (d + 1); omega⟩ dX16_worked_5 rfl rfl (Nat.le_refl _) (Nat.le_refl _) (fun v_1 X_2 hp_3 => ?_)
  obtain ⟨rfl, rfl⟩ := hp_3
  refine z_st (st' := [.int (w1 (F 0) (F 1) (F 2) (F 3))]) rfl ?_
  refine z_istore_n (lv' := [(2, .int (w1 (F 0) (F 1) (F 2) (F 3))), (0, .ref e), (1, .ref (A 6))]) dX16_worked_8 rfl (by decide) rfl ?_
  refine z_aload_n 1 dX16_worked_9 rfl ?_
  refine z_get (v := .ref q) 2 (cX_lo hA he) rfl in_X16 (by decide) q1052 rfl dX16_worked_10 ?_
  refine z_aload_n 2 dX16_worked_13 rfl ?_
  refine z_callA (As := [.ref (A 6)]) (x := ⟨"DateVale$Expression", "worked", "([I)I"⟩) (owner := "DateVale$Expression") hM2 q1263 q1250 h32 h42 h52 h62 q1249 ⟨by decide +kernel, by decide +kernel, nm_X13_worked.2.2⟩ (cX_lo hA hx2) hc2 rfl (Nat.le_of_ble_eq_true rfl) ⟨Nat.le_refl _, by show 8 + (My2.2.2.1 + 11) + 40 * d ≤ 40 * (d + 1); omega⟩ dX16_worked_14 rfl rfl (Nat.le_refl _) (Nat.le_refl _) (fun v_4 X_5 hp_6 => ?_)
  obtain ⟨rfl, rfl⟩ := hp_6
  refine z_st (st' := [.int (w2 (F 0) (F 1) (F 2) (F 3))]) rfl ?_
  refine z_istore_n (lv' := [(3, .int (w2 (F 0) (F 1) (F 2) (F 3))), (2, .int (w1 (F 0) (F 1) (F 2) (F 3))), (0, .ref e), (1, .ref (A 6))]) dX16_worked_17 rfl (by decide) rfl ?_
  refine z_aload_n 2 dX16_worked_18 rfl ?_
  refine z_get (v := .int ch) 0 (cX_lo hA he) rfl in_X16 (by decide) q1050 rfl dX16_worked_19 ?_
  rcases hop with ⟨rfl, rfl⟩ | ⟨rfl, rfl⟩ | ⟨rfl, rfl⟩ | ⟨rfl, rfl⟩ | ⟨rfl, rfl⟩ | ⟨rfl, rfl⟩ | ⟨rfl, rfl⟩
  · skip
    refine z_lookup (off := 58) 80 dX16_worked_22 (by decide) (by decide) (by decide) ?_
    refine z_iload_n 1 dX16_worked_80 rfl ?_
    refine z_iload_n 0 dX16_worked_81 rfl ?_
    refine z_iadd dX16_worked_82 ?_
    exact z_iret dX16_worked_83 rfl (Nat.le_refl _) (Nat.le_refl _) ⟨congrArg some (congrArg Value.int (by simp [s_both, ])), rfl⟩
  · skip
    refine z_lookup (off := 62) 84 dX16_worked_22 (by decide) (by decide) (by decide) ?_
    refine z_iload_n 1 dX16_worked_84 rfl ?_
    refine z_iload_n 0 dX16_worked_85 rfl ?_
    refine z_isub dX16_worked_86 ?_
    exact z_iret dX16_worked_87 rfl (Nat.le_refl _) (Nat.le_refl _) ⟨congrArg some (congrArg Value.int (by simp [s_both, ])), rfl⟩
  · skip
    refine z_lookup (off := 66) 88 dX16_worked_22 (by decide) (by decide) (by decide) ?_
    refine z_iload_n 1 dX16_worked_88 rfl ?_
    refine z_iload_n 0 dX16_worked_89 rfl ?_
    refine z_imul dX16_worked_90 ?_
    exact z_iret dX16_worked_91 rfl (Nat.le_refl _) (Nat.le_refl _) ⟨congrArg some (congrArg Value.int (by simp [s_both, ])), rfl⟩
  · skip
    refine z_lookup (off := 70) 92 dX16_worked_22 (by decide) (by decide) (by decide) ?_
    refine z_iload_n 1 dX16_worked_92 rfl ?_
    refine z_iload_n 0 dX16_worked_93 rfl ?_
    refine z_icmp_ge 101 dX16_worked_94 (by decide) (fun c_7 => ?_) (fun c_7 => ?_)
    · -- (w2 (F 0) (F 1) (F 2) (F 3)) ≤ (w1 (F 0) (F 1) (F 2) (F 3))
      have c_7' := Int32.not_lt.mpr c_7
      refine z_iconst (v := 0) dX16_worked_101 (by decide) ?_
      exact z_iret dX16_worked_102 rfl (Nat.le_refl _) (Nat.le_refl _) ⟨congrArg some (congrArg Value.int (by simp [s_both, c_7, c_7'])), rfl⟩
    · -- ¬ (w2 (F 0) (F 1) (F 2) (F 3)) ≤ (w1 (F 0) (F 1) (F 2) (F 3))
      have c_7' := Int32.not_le.mp c_7
      refine z_iconst (v := 1) dX16_worked_97 (by decide) ?_
      refine z_goto 102 dX16_worked_98 (by decide) ?_
      exact z_iret dX16_worked_102 rfl (Nat.le_refl _) (Nat.le_refl _) ⟨congrArg some (congrArg Value.int (by simp [s_both, c_7, c_7'])), rfl⟩
  · skip
    refine z_lookup (off := 81) 103 dX16_worked_22 (by decide) (by decide) (by decide) ?_
    refine z_iload_n 1 dX16_worked_103 rfl ?_
    refine z_iload_n 0 dX16_worked_104 rfl ?_
    refine z_icmp_ne 112 dX16_worked_105 (by decide) (fun c_8 => ?_) (fun c_8 => ?_)
    · -- ¬ (w1 (F 0) (F 1) (F 2) (F 3)) = (w2 (F 0) (F 1) (F 2) (F 3))
      refine z_iconst (v := 0) dX16_worked_112 (by decide) ?_
      exact z_iret dX16_worked_113 rfl (Nat.le_refl _) (Nat.le_refl _) ⟨congrArg some (congrArg Value.int (by simp [s_both, c_8])), rfl⟩
    · -- (w1 (F 0) (F 1) (F 2) (F 3)) = (w2 (F 0) (F 1) (F 2) (F 3))
      refine z_iconst (v := 1) dX16_worked_108 (by decide) ?_
      refine z_goto 113 dX16_worked_109 (by decide) ?_
      exact z_iret dX16_worked_113 rfl (Nat.le_refl _) (Nat.le_refl _) ⟨congrArg some (congrArg Value.int (by simp [s_both, c_8])), rfl⟩
  · skip
    refine z_lookup (off := 92) 114 dX16_worked_22 (by decide) (by decide) (by decide) ?_
    refine z_iload_n 1 dX16_worked_114 rfl ?_
    refine z_if_eq 126 dX16_worked_115 (by decide) (fun c_9 => ?_) (fun c_9 => ?_)
    · -- (w1 (F 0) (F 1) (F 2) (F 3)) = 0
      refine z_iconst (v := 0) dX16_worked_126 (by decide) ?_
      exact z_iret dX16_worked_127 rfl (Nat.le_refl _) (Nat.le_refl _) ⟨congrArg some (congrArg Value.int (by simp [s_both, c_9])), rfl⟩
    · -- ¬ (w1 (F 0) (F 1) (F 2) (F 3)) = 0
      refine z_iload_n 0 dX16_worked_118 rfl ?_
      refine z_if_eq 126 dX16_worked_119 (by decide) (fun c_10 => ?_) (fun c_10 => ?_)
      · -- (w2 (F 0) (F 1) (F 2) (F 3)) = 0
        refine z_iconst (v := 0) dX16_worked_126 (by decide) ?_
        exact z_iret dX16_worked_127 rfl (Nat.le_refl _) (Nat.le_refl _) ⟨congrArg some (congrArg Value.int (by simp [s_both, c_9, c_10])), rfl⟩
      · -- ¬ (w2 (F 0) (F 1) (F 2) (F 3)) = 0
        refine z_iconst (v := 1) dX16_worked_122 (by decide) ?_
        refine z_goto 127 dX16_worked_123 (by decide) ?_
        exact z_iret dX16_worked_127 rfl (Nat.le_refl _) (Nat.le_refl _) ⟨congrArg some (congrArg Value.int (by simp [s_both, c_9, c_10])), rfl⟩
  · skip
    refine z_lookup (off := 106) 128 dX16_worked_22 (by decide) (by decide) (by decide) ?_
    refine z_iload_n 1 dX16_worked_128 rfl ?_
    refine z_if_ne 136 dX16_worked_129 (by decide) (fun c_11 => ?_) (fun c_11 => ?_)
    · -- ¬ (w1 (F 0) (F 1) (F 2) (F 3)) = 0
      refine z_iconst (v := 1) dX16_worked_136 (by decide) ?_
      refine z_goto 141 dX16_worked_137 (by decide) ?_
      exact z_iret dX16_worked_141 rfl (Nat.le_refl _) (Nat.le_refl _) ⟨congrArg some (congrArg Value.int (by simp [s_both, c_11])), rfl⟩
    · -- (w1 (F 0) (F 1) (F 2) (F 3)) = 0
      refine z_iload_n 0 dX16_worked_132 rfl ?_
      refine z_if_eq 140 dX16_worked_133 (by decide) (fun c_12 => ?_) (fun c_12 => ?_)
      · -- (w2 (F 0) (F 1) (F 2) (F 3)) = 0
        refine z_iconst (v := 0) dX16_worked_140 (by decide) ?_
        exact z_iret dX16_worked_141 rfl (Nat.le_refl _) (Nat.le_refl _) ⟨congrArg some (congrArg Value.int (by simp [s_both, c_11, c_12])), rfl⟩
      · -- ¬ (w2 (F 0) (F 1) (F 2) (F 3)) = 0
        refine z_iconst (v := 1) dX16_worked_136 (by decide) ?_
        refine z_goto 141 dX16_worked_137 (by decide) ?_
        exact z_iret dX16_worked_141 rfl (Nat.le_refl _) (Nat.le_refl _) ⟨congrArg some (congrArg Value.int (by simp [s_both, c_11, c_12])), rfl⟩
theorem c_worked {g : zG} {A : Nat → Nat} {K : Nat → Nat → Int32} {F : Nat → Int32} {O : Nat → Nat → Option Nat} {gl : Int64} {X : zX} (hA : cok g A X) : ∀ (d e : Nat) (w : Int32 → Int32 → Int32 → Int32 → Int32), cexp X d e w → cwk g A K F O gl X d e w
  | 0, _, _, h => absurd h id
  | d + 1, e, w, h => by
    rcases h with ⟨n, h1, h2⟩ | ⟨k, h0, h1, h2⟩ | ⟨p, w1, h1, h2, h3⟩ | ⟨ch, op, p, q, w1, w2, h1, h2, h3, h4, h5⟩
    · refine ⟨13, _, _, m_X13_worked, h1, rfl, q1254, q1255, q142, q1256, by decide, ?_⟩
      rw [h2]
      have h9 := c_work13 (K := K) (F := F) (O := O) (gl := gl) hA h1
      refine zN.room ?_ ?_ ?_ ?_ h9
      · exact Nat.zero_le _
      · rfl
      · rfl
      · exact Nat.zero_le _
    · refine ⟨14, _, _, m_X14_worked, h1, rfl, q1251, q1252, q143, q1253, by decide, ?_⟩
      rw [h2, show s_facts (F 0) (F 1) (F 2) (F 3) k = F k by rcases (by omega : k = 0 ∨ k = 1 ∨ k = 2 ∨ k = 3) with rfl | rfl | rfl | rfl <;> rfl]
      have h9 := c_work14 (K := K) (F := F) (O := O) (gl := gl) hA h0 h1
      refine zN.room ?_ ?_ ?_ ?_ h9
      · exact Nat.zero_le _
      · rfl
      · rfl
      · exact Nat.zero_le _
    · refine ⟨15, _, _, m_X15_worked, h1, rfl, q1257, q1258, q144, q1259, by decide, ?_⟩
      rw [h3]
      exact c_work15 hA h1 (c_worked hA d p w1 h2)
    · refine ⟨16, _, _, m_X16_worked, h1, rfl, q1264, q1261, q145, q1262, by decide, ?_⟩
      rw [h5]
      exact c_work16 hA h1 h2 (c_worked hA d p w1 h3) (c_worked hA d q w2 h4)
