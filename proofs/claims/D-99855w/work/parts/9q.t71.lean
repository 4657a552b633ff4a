/-! THE COMPONENT: the tape fed. Printed by t71.py -/
set_option maxRecDepth 100000
-- the tape's rows
section CR2
variable {g : zG} {M : zMth} {P : zPo} {k n : Nat} {X : zX} {pc : Nat} {lv : List (Nat × Value)} {st : List Value} {A : Nat → Nat} {K K' : Nat → Nat → Int32} {F : Nat → Int32} {O : Nat → Nat → Option Nat} {gl : Int64} {index : Nat}
theorem cz_bald {ix v : Int32} (j : Nat) (hA : cok g A X) (hj : ix = nI j) (hlt : j < 1000) (hv : K 0 j = v) (hd : decode M.2.1 pc = .ok (.baload, 1)) (kk : zZ g M P k n (cX g A K F O gl X) (pc + 1) lv (.int v :: st)) : zZ g M P k n (cX g A K F O gl X) pc lv (.int ix :: .ref (A 0) :: st) := by
  subst hv
  exact z_bald j (cX_tp hA) hj hlt (by decide) hd kk
theorem cz_bast {ix v w : Int32} (j : Nat) (hA : cok g A X) (hj : ix = nI j) (hlt : j < 1000) (hw : vp_nar .byte v = w) (hK : zs K 0 j w = K') (hd : decode M.2.1 pc = .ok (.bastore, 1)) (kk : zZ g M P k n (cX g A K' F O gl X) (pc + 1) lv st) : zZ g M P k n (cX g A K F O gl X) pc lv (.int v :: .int ix :: .ref (A 0) :: st) := by
  subst hK
  subst hw
  exact z_bast j (cX_tp hA) hj hlt (by decide) (cok_lt hA (crs_of (by unfold crP; omega))) hd (cX_upt hA j _) kk
end CR2
/-- the tape laid -/
def s_tc (K : Nat → Nat → Int32) (t : (Nat → Int32) × Nat) : Nat → Nat → Int32 := fun r j => if r = 0 then t.1 j else if r = 99 ∧ j = 7 then nI t.2 else K r j
theorem s_tc_1 {K : Nat → Nat → Int32} {t : (Nat → Int32) × Nat} {c : Int32} : zs (zs (s_tc K t) 99 7 (nI (t.2 + 1))) 0 t.2 c = s_tc K (zs1 t.1 t.2 c, t.2 + 1) := by
  funext a j
  show (if a = 0 ∧ j = t.2 then c else if a = 99 ∧ j = 7 then nI (t.2 + 1) else if a = 0 then t.1 j else if a = 99 ∧ j = 7 then nI t.2 else K a j) = (if a = 0 then (if j = t.2 then c else t.1 j) else if a = 99 ∧ j = 7 then nI (t.2 + 1) else K a j)
  by_cases h1 : a = 0
  · subst h1
    by_cases h2 : j = t.2 <;> simp [h2]
  · by_cases h3 : a = 99 ∧ j = 7 <;> simp [h1, h3]
theorem s_tc_self {K : Nat → Nat → Int32} {n : Nat} (h : K 99 7 = nI n) : s_tc K (K 0, n) = K := by
  funext a j
  show (if a = 0 then K 0 j else if a = 99 ∧ j = 7 then nI n else K a j) = K a j
  by_cases h1 : a = 0
  · rw [if_pos h1, h1]
  · rw [if_neg h1]
    by_cases h3 : a = 99 ∧ j = 7
    · rw [if_pos h3, h3.1, h3.2, h]
    · rw [if_neg h3]
def s_fd (a b c : Int64) (t : (Nat → Int32) × Nat) : Nat → (Nat → Int32) × Nat
  | 0 => t
  | k + 1 => s_lay1 (s_fd a b c t k) (s_byte (if k < 8 then a else if k < 16 then b else c) (k % 8))
theorem s_fd_1 {a b c : Int64} {t : (Nat → Int32) × Nat} {k : Nat} : s_fd a b c t (k + 1) = s_lay1 (s_fd a b c t k) (s_byte (if k < 8 then a else if k < 16 then b else c) (k % 8)) := rfl
theorem s_fd_24 {a b c : Int64} {t : (Nat → Int32) × Nat} : s_fd a b c t 24 = s_lay c (s_lay b (s_lay a t 8) 8) 8 := rfl
theorem s_lay1_le {t : (Nat → Int32) × Nat} {c : Int32} (h : t.2 ≤ 1000) : (s_lay1 t c).2 ≤ 1000 := by
  unfold s_lay1
  split
  · rename_i hc
    simp only [Bool.and_eq_true, decide_eq_true_eq] at hc
    exact hc.2
  · exact h
theorem s_lay1_t {t : (Nat → Int32) × Nat} {c : Int32} (h : s_isT c = true) (h2 : t.2 < 1000) : s_lay1 t c = (zs1 t.1 t.2 c, t.2 + 1) := by
  unfold s_lay1
  rw [h, decide_eq_true h2]
  rfl
theorem s_lay1_f {t : (Nat → Int32) × Nat} {c : Int32} (h : ¬ (s_isT c && decide (t.2 < 1000)) = true) : s_lay1 t c = t := if_neg h
theorem s_fd_le {a b c : Int64} {t : (Nat → Int32) × Nat} (h : t.2 ≤ 1000) (n : Nat) : (s_fd a b c t n).2 ≤ 1000 := by
  induction n with
  | zero => exact h
  | succ n ih =>
    rw [s_fd_1]
    exact s_lay1_le ih
theorem s_chr2 : ∀ c, c < 127 → (nI c).toInt8.toInt32 = nI c ∧ vp_nar .byte (nI c) = nI c := by decide +kernel
theorem s_isT_b {v : Int32} (h : s_isT v = true) : v.toInt8.toInt32 = v ∧ vp_nar .byte v = v := by
  unfold s_isT at h
  simp only [Bool.or_eq_true, Bool.and_eq_true, decide_eq_true_eq] at h
  rcases h with e | ⟨h1, h2⟩
  · rw [e]; exact s_chr2 10 (by decide)
  · obtain ⟨c, hc1, hc, e⟩ := zwin (m := v) 32 126 (by decide) (by simp only [Bool.and_eq_true, decide_eq_true_eq]; exact ⟨h1, h2⟩)
    rw [e]
    exact s_chr2 c (by omega)
theorem s_k8_e {j : Nat} : (56 : Int32) - nI (8 * j) = s_k8 j := by
  unfold s_k8
  rw [show (8 : Int32) = nI 8 from rfl, pk_mul]
set_option maxHeartbeats 4000000 in
theorem c_feed {g : zG} {A : Nat → Nat} {K : Nat → Nat → Int32} {F : Nat → Int32} {O : Nat → Nat → Option Nat} {gl : Int64} {X : zX} (hA : cok g A X) {t : (Nat → Int32) × Nat} (ht : s_tc K t = K) (ht2 : t.2 ≤ 1000) (a b c : Int64) : zN g m_X1_feed ({ frames := 0, cells := 0, slots := 0, locals := 0 } : Room) [.ref (A 99), .long a, .long b, .long c] (cX g A K F O gl X) (fun rv X' => rv = some (.int (nI (s_fd a b c t 24).2)) ∧ X' = (cX g A (s_tc K (s_fd a b c t 24)) F O gl X)) := by
  refine zN.of (by decide +kernel) (Nat.le_of_ble_eq_true rfl) rfl ?_
  refine z_lv (lv' := [(0, .ref (A 99)), (1, .long a), (3, .long b), (5, .long c)]) [0, 1, 2, 3] rfl ?_
  have hA2 := hA.2.2.1
  refine z_iconst (v := 0) dX1_feed_0 (by decide) ?_
  refine z_istore (lv' := [(7, .int 0), (0, .ref (A 99)), (1, .long a), (3, .long b), (5, .long c)]) dX1_feed_1 (by decide) rfl ?_
  have loop_5 : ∀ (q_2 i_1 : Nat), i_1 + q_2 = 24 → 0 ≤ i_1 → zZ g m_X1_feed (fun rv X' => rv = some (.int (nI (s_fd a b c t 24).2)) ∧ X' = (cX g A (s_tc K (s_fd a b c t 24)) F O gl X), zno, ({ frames := 0, cells := 0, slots := 0, locals := 0 } : Room)) 0 0 (cX g A (s_tc K (s_fd a b c t i_1)) F O gl X) 3 [(0, .ref (A 99)), (1, .long a), (3, .long b), (5, .long c), (7, .int (nI (i_1)))] [] := by
    intro q_2
    induction q_2 with
    | zero =>
      intro i_1 hb_4 lo_6  
      obtain rfl : 24 = i_1 := by omega
      refine z_iload 4 dX1_feed_3 rfl ?_
      refine z_bipush (v := 24) dX1_feed_5 (by decide) ?_
      refine z_icmp_geN (a := 24) (b := 24) 109 (by decide) (by decide) dX1_feed_7 (by decide) (fun h_ => ?_) (fun h_ => absurd h_ (by decide))
      refine z_aload_n 0 dX1_feed_109 rfl ?_
      refine cz_get (v := .int ((s_tc K (s_fd a b c t 24)) 99 7)) 7 hA (by decide) q334 rfl dX1_feed_110 ?_
      have hle_7 := s_fd_le (a := a) (b := b) (c := c) ht2 24
      refine z_eq (y := nI (((s_fd a b c t 24).2))) (by rfl) ?_
      exact z_iret dX1_feed_113 rfl (Nat.le_of_ble_eq_true rfl) (Nat.le_of_ble_eq_true rfl) ⟨rfl, rfl⟩
    | succ q_2 ih_3 =>
      intro i_1 hb_4 lo_6  
      refine z_iload 4 dX1_feed_3 rfl ?_
      refine z_bipush (v := 24) dX1_feed_5 (by decide) ?_
      refine z_icmp_geN (a := i_1) (b := 24) 109 (by omega) (by omega) dX1_feed_7 (by decide) (fun c_8 => absurd c_8 (by omega)) (fun c_8 => ?_)
      refine z_iload 4 dX1_feed_10 rfl ?_
      refine z_bipush (v := 8) dX1_feed_12 (by decide) ?_
      refine z_icmp_geN (a := i_1) (b := 8) 21 (by omega) (by omega) dX1_feed_14 (by decide) (fun c_9 => ?_) (fun c_9 => ?_)
      · -- 8 ≤ i_1
        refine z_iload 4 dX1_feed_21 rfl ?_
        refine z_bipush (v := 16) dX1_feed_23 (by decide) ?_
        refine z_icmp_geN (a := i_1) (b := 16) 32 (by omega) (by omega) dX1_feed_25 (by decide) (fun c_10 => ?_) (fun c_10 => ?_)
        · -- 16 ≤ i_1
          refine z_lload 3 dX1_feed_32 rfl ?_
          refine z_bipush (v := 56) dX1_feed_34 (by decide) ?_
          refine z_bipush (v := 8) dX1_feed_36 (by decide) ?_
          refine z_iload 4 dX1_feed_38 rfl ?_
          refine z_bipush (v := 8) dX1_feed_40 (by decide) ?_
          refine z_iremN (a := i_1) (b := 8) (by omega) (by decide) (by decide) dX1_feed_42 ?_
          refine z_imulN (a := 8) (b := (i_1 % 8)) dX1_feed_43 ?_
          refine z_isub dX1_feed_44 ?_
          refine z_st (st' := [.int (s_k8 (i_1 % 8)), .long c]) (by skip; first | (rw [s_k8_e]; done) | (rw [← s_k8_e]; rfl)) ?_
          refine z_lshr dX1_feed_45 rfl ?_
          refine z_l2i (v := (c >>> ((s_k8 (i_1 % 8)).toInt64 &&& 63)).toInt32) dX1_feed_46 rfl ?_
          refine z_sipush (v := 255) dX1_feed_47 (by decide) ?_
          refine z_iand dX1_feed_50 ?_
          refine z_st (st' := [.int (s_byte (if i_1 < 8 then a else if i_1 < 16 then b else c) (i_1 % 8))]) (by skip; rw [if_neg (show ¬ i_1 < 8 by omega), if_neg (show ¬ i_1 < 16 by omega)]; rfl) ?_
          refine z_istore (lv' := [(8, .int (s_byte (if i_1 < 8 then a else if i_1 < 16 then b else c) (i_1 % 8))), (0, .ref (A 99)), (1, .long a), (3, .long b), (5, .long c), (7, .int (nI (i_1)))]) dX1_feed_51 (by decide) rfl ?_
          refine z_iload 0 dX1_feed_53 rfl ?_
          refine z_bipush (v := 10) dX1_feed_55 (by decide) ?_
          refine z_icmp_eq 74 dX1_feed_57 (by decide) (fun c_11 => ?_) (fun c_11 => ?_)
          · -- s_byte (if i_1 < 8 then a else if i_1 < 16 then b else c) (i_1 % 8) = 10
            refine z_aload_n 1 dX1_feed_74 rfl ?_
            refine cz_get (v := .int ((s_tc K (s_fd a b c t i_1)) 99 7)) 7 hA (by decide) q334 rfl dX1_feed_75 ?_
            have hle_12 := s_fd_le (a := a) (b := b) (c := c) ht2 i_1
            refine z_eq (y := nI (((s_fd a b c t i_1).2))) (by rfl) ?_
            refine z_sipush (v := 1000) dX1_feed_78 (by decide) ?_
            refine z_icmp_geN (a := ((s_fd a b c t i_1).2)) (b := 1000) 103 (by omega) (by omega) dX1_feed_81 (by decide) (fun c_13 => ?_) (fun c_13 => ?_)
            · -- 1000 ≤ ((s_fd a b c t i_1).2)
              refine z_iinc (v := nI (i_1 + 1)) (lv' := [(7, .int (nI (i_1 + 1))), (8, .int (s_byte (if i_1 < 8 then a else if i_1 < 16 then b else c) (i_1 % 8))), (0, .ref (A 99)), (1, .long a), (3, .long b), (5, .long c)]) 5 dX1_feed_103 rfl (nI_1 _) (by decide) rfl ?_
              refine z_goto 3 dX1_feed_106 (by decide) ?_
              refine z_lv (lv' := [(0, .ref (A 99)), (1, .long a), (3, .long b), (5, .long c), (7, .int (nI (i_1 + 1)))]) [2, 3, 4, 5, 0] rfl ?_
              refine z_X (X' := (cX g A (s_tc K (s_fd a b c t (i_1 + 1))) F O gl X)) (by rw [s_fd_1, s_lay1_f (by unfold s_isT; simp [c_11, c_13])]) ?_
              exact ih_3 (i_1 + 1) (by omega) (by omega)  
            · -- ((s_fd a b c t i_1).2) < 1000
              refine z_aload_n 1 dX1_feed_84 rfl ?_
              refine cz_get (v := .ref (A 0)) 0 hA (by decide) q327 rfl dX1_feed_85 ?_
              refine z_aload_n 1 dX1_feed_88 rfl ?_
              refine z_dup dX1_feed_89 rfl ?_
              refine cz_get (v := .int ((s_tc K (s_fd a b c t i_1)) 99 7)) 7 hA (by decide) q334 rfl dX1_feed_90 ?_
              have hle_14 := s_fd_le (a := a) (b := b) (c := c) ht2 i_1
              refine z_eq (y := nI (((s_fd a b c t i_1).2))) (by rfl) ?_
              refine z_dup_x1 dX1_feed_93 rfl rfl ?_
              refine z_iconst (v := 1) dX1_feed_94 (by decide) ?_
              refine z_iaddN (a := ((s_fd a b c t i_1).2)) (b := 1) dX1_feed_95 ?_
              refine cz_put (K' := (zs (s_tc K (s_fd a b c t i_1)) 99 7 (nI (((s_fd a b c t i_1).2) + 1)))) 7 hA (by decide) q334 rfl dX1_feed_96 ?_
              refine z_iload 0 dX1_feed_99 rfl ?_
              refine z_i2b (v := (s_byte (if i_1 < 8 then a else if i_1 < 16 then b else c) (i_1 % 8)).toInt8.toInt32) dX1_feed_101 rfl ?_
              have hT_15 : s_isT (s_byte (if i_1 < 8 then a else if i_1 < 16 then b else c) (i_1 % 8)) = true := by unfold s_isT; simp [c_11, c_13]
              refine cz_bast (K' := (s_tc K (s_lay1 (s_fd a b c t i_1) (s_byte (if i_1 < 8 then a else if i_1 < 16 then b else c) (i_1 % 8))))) (w := s_byte (if i_1 < 8 then a else if i_1 < 16 then b else c) (i_1 % 8)) ((s_fd a b c t i_1).2) hA rfl (by omega) (by skip; rw [(s_isT_b hT_15).1]; exact (s_isT_b hT_15).2) (by rw [s_lay1_t hT_15 (by omega)]; exact s_tc_1) dX1_feed_102 ?_
              refine z_iinc (v := nI (i_1 + 1)) (lv' := [(7, .int (nI (i_1 + 1))), (8, .int (s_byte (if i_1 < 8 then a else if i_1 < 16 then b else c) (i_1 % 8))), (0, .ref (A 99)), (1, .long a), (3, .long b), (5, .long c)]) 5 dX1_feed_103 rfl (nI_1 _) (by decide) rfl ?_
              refine z_goto 3 dX1_feed_106 (by decide) ?_
              refine z_lv (lv' := [(0, .ref (A 99)), (1, .long a), (3, .long b), (5, .long c), (7, .int (nI (i_1 + 1)))]) [2, 3, 4, 5, 0] rfl ?_
              refine z_X (X' := (cX g A (s_tc K (s_fd a b c t (i_1 + 1))) F O gl X)) (by rw [s_fd_1]) ?_
              exact ih_3 (i_1 + 1) (by omega) (by omega)  
          · -- ¬ s_byte (if i_1 < 8 then a else if i_1 < 16 then b else c) (i_1 % 8) = 10
            refine z_iload 0 dX1_feed_60 rfl ?_
            refine z_bipush (v := 32) dX1_feed_62 (by decide) ?_
            refine z_icmp_lt 103 dX1_feed_64 (by decide) (fun c_16 => ?_) (fun c_16 => ?_)
            · -- s_byte (if i_1 < 8 then a else if i_1 < 16 then b else c) (i_1 % 8) < 32
              have c_16' := Int32.not_le.mpr c_16
              refine z_iinc (v := nI (i_1 + 1)) (lv' := [(7, .int (nI (i_1 + 1))), (8, .int (s_byte (if i_1 < 8 then a else if i_1 < 16 then b else c) (i_1 % 8))), (0, .ref (A 99)), (1, .long a), (3, .long b), (5, .long c)]) 5 dX1_feed_103 rfl (nI_1 _) (by decide) rfl ?_
              refine z_goto 3 dX1_feed_106 (by decide) ?_
              refine z_lv (lv' := [(0, .ref (A 99)), (1, .long a), (3, .long b), (5, .long c), (7, .int (nI (i_1 + 1)))]) [2, 3, 4, 5, 0] rfl ?_
              refine z_X (X' := (cX g A (s_tc K (s_fd a b c t (i_1 + 1))) F O gl X)) (by rw [s_fd_1, s_lay1_f (by unfold s_isT; simp [c_11, c_16, c_16'])]) ?_
              exact ih_3 (i_1 + 1) (by omega) (by omega)  
            · -- ¬ s_byte (if i_1 < 8 then a else if i_1 < 16 then b else c) (i_1 % 8) < 32
              have c_16' := Int32.not_lt.mp c_16
              refine z_iload 0 dX1_feed_67 rfl ?_
              refine z_bipush (v := 126) dX1_feed_69 (by decide) ?_
              refine z_icmp_gt 103 dX1_feed_71 (by decide) (fun c_17 => ?_) (fun c_17 => ?_)
              · -- 126 < s_byte (if i_1 < 8 then a else if i_1 < 16 then b else c) (i_1 % 8)
                have c_17' := Int32.not_le.mpr c_17
                refine z_iinc (v := nI (i_1 + 1)) (lv' := [(7, .int (nI (i_1 + 1))), (8, .int (s_byte (if i_1 < 8 then a else if i_1 < 16 then b else c) (i_1 % 8))), (0, .ref (A 99)), (1, .long a), (3, .long b), (5, .long c)]) 5 dX1_feed_103 rfl (nI_1 _) (by decide) rfl ?_
                refine z_goto 3 dX1_feed_106 (by decide) ?_
                refine z_lv (lv' := [(0, .ref (A 99)), (1, .long a), (3, .long b), (5, .long c), (7, .int (nI (i_1 + 1)))]) [2, 3, 4, 5, 0] rfl ?_
                refine z_X (X' := (cX g A (s_tc K (s_fd a b c t (i_1 + 1))) F O gl X)) (by rw [s_fd_1, s_lay1_f (by unfold s_isT; simp [c_11, c_16, c_16', c_17, c_17'])]) ?_
                exact ih_3 (i_1 + 1) (by omega) (by omega)  
              · -- ¬ 126 < s_byte (if i_1 < 8 then a else if i_1 < 16 then b else c) (i_1 % 8)
                have c_17' := Int32.not_lt.mp c_17
                refine z_aload_n 1 dX1_feed_74 rfl ?_
                refine cz_get (v := .int ((s_tc K (s_fd a b c t i_1)) 99 7)) 7 hA (by decide) q334 rfl dX1_feed_75 ?_
                have hle_18 := s_fd_le (a := a) (b := b) (c := c) ht2 i_1
                refine z_eq (y := nI (((s_fd a b c t i_1).2))) (by rfl) ?_
                refine z_sipush (v := 1000) dX1_feed_78 (by decide) ?_
                refine z_icmp_geN (a := ((s_fd a b c t i_1).2)) (b := 1000) 103 (by omega) (by omega) dX1_feed_81 (by decide) (fun c_19 => ?_) (fun c_19 => ?_)
                · -- 1000 ≤ ((s_fd a b c t i_1).2)
                  refine z_iinc (v := nI (i_1 + 1)) (lv' := [(7, .int (nI (i_1 + 1))), (8, .int (s_byte (if i_1 < 8 then a else if i_1 < 16 then b else c) (i_1 % 8))), (0, .ref (A 99)), (1, .long a), (3, .long b), (5, .long c)]) 5 dX1_feed_103 rfl (nI_1 _) (by decide) rfl ?_
                  refine z_goto 3 dX1_feed_106 (by decide) ?_
                  refine z_lv (lv' := [(0, .ref (A 99)), (1, .long a), (3, .long b), (5, .long c), (7, .int (nI (i_1 + 1)))]) [2, 3, 4, 5, 0] rfl ?_
                  refine z_X (X' := (cX g A (s_tc K (s_fd a b c t (i_1 + 1))) F O gl X)) (by rw [s_fd_1, s_lay1_f (by unfold s_isT; simp [c_11, c_16, c_16', c_17, c_17', c_19])]) ?_
                  exact ih_3 (i_1 + 1) (by omega) (by omega)  
                · -- ((s_fd a b c t i_1).2) < 1000
                  refine z_aload_n 1 dX1_feed_84 rfl ?_
                  refine cz_get (v := .ref (A 0)) 0 hA (by decide) q327 rfl dX1_feed_85 ?_
                  refine z_aload_n 1 dX1_feed_88 rfl ?_
                  refine z_dup dX1_feed_89 rfl ?_
                  refine cz_get (v := .int ((s_tc K (s_fd a b c t i_1)) 99 7)) 7 hA (by decide) q334 rfl dX1_feed_90 ?_
                  have hle_20 := s_fd_le (a := a) (b := b) (c := c) ht2 i_1
                  refine z_eq (y := nI (((s_fd a b c t i_1).2))) (by rfl) ?_
                  refine z_dup_x1 dX1_feed_93 rfl rfl ?_
                  refine z_iconst (v := 1) dX1_feed_94 (by decide) ?_
                  refine z_iaddN (a := ((s_fd a b c t i_1).2)) (b := 1) dX1_feed_95 ?_
                  refine cz_put (K' := (zs (s_tc K (s_fd a b c t i_1)) 99 7 (nI (((s_fd a b c t i_1).2) + 1)))) 7 hA (by decide) q334 rfl dX1_feed_96 ?_
                  refine z_iload 0 dX1_feed_99 rfl ?_
                  refine z_i2b (v := (s_byte (if i_1 < 8 then a else if i_1 < 16 then b else c) (i_1 % 8)).toInt8.toInt32) dX1_feed_101 rfl ?_
                  have hT_21 : s_isT (s_byte (if i_1 < 8 then a else if i_1 < 16 then b else c) (i_1 % 8)) = true := by unfold s_isT; simp [c_11, c_16, c_16', c_17, c_17', c_19]
                  refine cz_bast (K' := (s_tc K (s_lay1 (s_fd a b c t i_1) (s_byte (if i_1 < 8 then a else if i_1 < 16 then b else c) (i_1 % 8))))) (w := s_byte (if i_1 < 8 then a else if i_1 < 16 then b else c) (i_1 % 8)) ((s_fd a b c t i_1).2) hA rfl (by omega) (by skip; rw [(s_isT_b hT_21).1]; exact (s_isT_b hT_21).2) (by rw [s_lay1_t hT_21 (by omega)]; exact s_tc_1) dX1_feed_102 ?_
                  refine z_iinc (v := nI (i_1 + 1)) (lv' := [(7, .int (nI (i_1 + 1))), (8, .int (s_byte (if i_1 < 8 then a else if i_1 < 16 then b else c) (i_1 % 8))), (0, .ref (A 99)), (1, .long a), (3, .long b), (5, .long c)]) 5 dX1_feed_103 rfl (nI_1 _) (by decide) rfl ?_
                  refine z_goto 3 dX1_feed_106 (by decide) ?_
                  refine z_lv (lv' := [(0, .ref (A 99)), (1, .long a), (3, .long b), (5, .long c), (7, .int (nI (i_1 + 1)))]) [2, 3, 4, 5, 0] rfl ?_
                  refine z_X (X' := (cX g A (s_tc K (s_fd a b c t (i_1 + 1))) F O gl X)) (by rw [s_fd_1]) ?_
                  exact ih_3 (i_1 + 1) (by omega) (by omega)  
        · -- i_1 < 16
          refine z_lload_n 2 dX1_feed_28 rfl ?_
          refine z_goto 34 dX1_feed_29 (by decide) ?_
          refine z_bipush (v := 56) dX1_feed_34 (by decide) ?_
          refine z_bipush (v := 8) dX1_feed_36 (by decide) ?_
          refine z_iload 4 dX1_feed_38 rfl ?_
          refine z_bipush (v := 8) dX1_feed_40 (by decide) ?_
          refine z_iremN (a := i_1) (b := 8) (by omega) (by decide) (by decide) dX1_feed_42 ?_
          refine z_imulN (a := 8) (b := (i_1 % 8)) dX1_feed_43 ?_
          refine z_isub dX1_feed_44 ?_
          refine z_st (st' := [.int (s_k8 (i_1 % 8)), .long b]) (by skip; first | (rw [s_k8_e]; done) | (rw [← s_k8_e]; rfl)) ?_
          refine z_lshr dX1_feed_45 rfl ?_
          refine z_l2i (v := (b >>> ((s_k8 (i_1 % 8)).toInt64 &&& 63)).toInt32) dX1_feed_46 rfl ?_
          refine z_sipush (v := 255) dX1_feed_47 (by decide) ?_
          refine z_iand dX1_feed_50 ?_
          refine z_st (st' := [.int (s_byte (if i_1 < 8 then a else if i_1 < 16 then b else c) (i_1 % 8))]) (by skip; rw [if_neg (show ¬ i_1 < 8 by omega), if_pos (show i_1 < 16 by omega)]; rfl) ?_
          refine z_istore (lv' := [(8, .int (s_byte (if i_1 < 8 then a else if i_1 < 16 then b else c) (i_1 % 8))), (0, .ref (A 99)), (1, .long a), (3, .long b), (5, .long c), (7, .int (nI (i_1)))]) dX1_feed_51 (by decide) rfl ?_
          refine z_iload 0 dX1_feed_53 rfl ?_
          refine z_bipush (v := 10) dX1_feed_55 (by decide) ?_
          refine z_icmp_eq 74 dX1_feed_57 (by decide) (fun c_22 => ?_) (fun c_22 => ?_)
          · -- s_byte (if i_1 < 8 then a else if i_1 < 16 then b else c) (i_1 % 8) = 10
            refine z_aload_n 1 dX1_feed_74 rfl ?_
            refine cz_get (v := .int ((s_tc K (s_fd a b c t i_1)) 99 7)) 7 hA (by decide) q334 rfl dX1_feed_75 ?_
            have hle_23 := s_fd_le (a := a) (b := b) (c := c) ht2 i_1
            refine z_eq (y := nI (((s_fd a b c t i_1).2))) (by rfl) ?_
            refine z_sipush (v := 1000) dX1_feed_78 (by decide) ?_
            refine z_icmp_geN (a := ((s_fd a b c t i_1).2)) (b := 1000) 103 (by omega) (by omega) dX1_feed_81 (by decide) (fun c_24 => ?_) (fun c_24 => ?_)
            · -- 1000 ≤ ((s_fd a b c t i_1).2)
              refine z_iinc (v := nI (i_1 + 1)) (lv' := [(7, .int (nI (i_1 + 1))), (8, .int (s_byte (if i_1 < 8 then a else if i_1 < 16 then b else c) (i_1 % 8))), (0, .ref (A 99)), (1, .long a), (3, .long b), (5, .long c)]) 5 dX1_feed_103 rfl (nI_1 _) (by decide) rfl ?_
              refine z_goto 3 dX1_feed_106 (by decide) ?_
              refine z_lv (lv' := [(0, .ref (A 99)), (1, .long a), (3, .long b), (5, .long c), (7, .int (nI (i_1 + 1)))]) [2, 3, 4, 5, 0] rfl ?_
              refine z_X (X' := (cX g A (s_tc K (s_fd a b c t (i_1 + 1))) F O gl X)) (by rw [s_fd_1, s_lay1_f (by unfold s_isT; simp [c_22, c_24])]) ?_
              exact ih_3 (i_1 + 1) (by omega) (by omega)  
            · -- ((s_fd a b c t i_1).2) < 1000
              refine z_aload_n 1 dX1_feed_84 rfl ?_
              refine cz_get (v := .ref (A 0)) 0 hA (by decide) q327 rfl dX1_feed_85 ?_
              refine z_aload_n 1 dX1_feed_88 rfl ?_
              refine z_dup dX1_feed_89 rfl ?_
              refine cz_get (v := .int ((s_tc K (s_fd a b c t i_1)) 99 7)) 7 hA (by decide) q334 rfl dX1_feed_90 ?_
              have hle_25 := s_fd_le (a := a) (b := b) (c := c) ht2 i_1
              refine z_eq (y := nI (((s_fd a b c t i_1).2))) (by rfl) ?_
              refine z_dup_x1 dX1_feed_93 rfl rfl ?_
              refine z_iconst (v := 1) dX1_feed_94 (by decide) ?_
              refine z_iaddN (a := ((s_fd a b c t i_1).2)) (b := 1) dX1_feed_95 ?_
              refine cz_put (K' := (zs (s_tc K (s_fd a b c t i_1)) 99 7 (nI (((s_fd a b c t i_1).2) + 1)))) 7 hA (by decide) q334 rfl dX1_feed_96 ?_
              refine z_iload 0 dX1_feed_99 rfl ?_
              refine z_i2b (v := (s_byte (if i_1 < 8 then a else if i_1 < 16 then b else c) (i_1 % 8)).toInt8.toInt32) dX1_feed_101 rfl ?_
              have hT_26 : s_isT (s_byte (if i_1 < 8 then a else if i_1 < 16 then b else c) (i_1 % 8)) = true := by unfold s_isT; simp [c_22, c_24]
              refine cz_bast (K' := (s_tc K (s_lay1 (s_fd a b c t i_1) (s_byte (if i_1 < 8 then a else if i_1 < 16 then b else c) (i_1 % 8))))) (w := s_byte (if i_1 < 8 then a else if i_1 < 16 then b else c) (i_1 % 8)) ((s_fd a b c t i_1).2) hA rfl (by omega) (by skip; rw [(s_isT_b hT_26).1]; exact (s_isT_b hT_26).2) (by rw [s_lay1_t hT_26 (by omega)]; exact s_tc_1) dX1_feed_102 ?_
              refine z_iinc (v := nI (i_1 + 1)) (lv' := [(7, .int (nI (i_1 + 1))), (8, .int (s_byte (if i_1 < 8 then a else if i_1 < 16 then b else c) (i_1 % 8))), (0, .ref (A 99)), (1, .long a), (3, .long b), (5, .long c)]) 5 dX1_feed_103 rfl (nI_1 _) (by decide) rfl ?_
              refine z_goto 3 dX1_feed_106 (by decide) ?_
              refine z_lv (lv' := [(0, .ref (A 99)), (1, .long a), (3, .long b), (5, .long c), (7, .int (nI (i_1 + 1)))]) [2, 3, 4, 5, 0] rfl ?_
              refine z_X (X' := (cX g A (s_tc K (s_fd a b c t (i_1 + 1))) F O gl X)) (by rw [s_fd_1]) ?_
              exact ih_3 (i_1 + 1) (by omega) (by omega)  
          · -- ¬ s_byte (if i_1 < 8 then a else if i_1 < 16 then b else c) (i_1 % 8) = 10
            refine z_iload 0 dX1_feed_60 rfl ?_
            refine z_bipush (v := 32) dX1_feed_62 (by decide) ?_
            refine z_icmp_lt 103 dX1_feed_64 (by decide) (fun c_27 => ?_) (fun c_27 => ?_)
            · -- s_byte (if i_1 < 8 then a else if i_1 < 16 then b else c) (i_1 % 8) < 32
              have c_27' := Int32.not_le.mpr c_27
              refine z_iinc (v := nI (i_1 + 1)) (lv' := [(7, .int (nI (i_1 + 1))), (8, .int (s_byte (if i_1 < 8 then a else if i_1 < 16 then b else c) (i_1 % 8))), (0, .ref (A 99)), (1, .long a), (3, .long b), (5, .long c)]) 5 dX1_feed_103 rfl (nI_1 _) (by decide) rfl ?_
              refine z_goto 3 dX1_feed_106 (by decide) ?_
              refine z_lv (lv' := [(0, .ref (A 99)), (1, .long a), (3, .long b), (5, .long c), (7, .int (nI (i_1 + 1)))]) [2, 3, 4, 5, 0] rfl ?_
              refine z_X (X' := (cX g A (s_tc K (s_fd a b c t (i_1 + 1))) F O gl X)) (by rw [s_fd_1, s_lay1_f (by unfold s_isT; simp [c_22, c_27, c_27'])]) ?_
              exact ih_3 (i_1 + 1) (by omega) (by omega)  
            · -- ¬ s_byte (if i_1 < 8 then a else if i_1 < 16 then b else c) (i_1 % 8) < 32
              have c_27' := Int32.not_lt.mp c_27
              refine z_iload 0 dX1_feed_67 rfl ?_
              refine z_bipush (v := 126) dX1_feed_69 (by decide) ?_
              refine z_icmp_gt 103 dX1_feed_71 (by decide) (fun c_28 => ?_) (fun c_28 => ?_)
              · -- 126 < s_byte (if i_1 < 8 then a else if i_1 < 16 then b else c) (i_1 % 8)
                have c_28' := Int32.not_le.mpr c_28
                refine z_iinc (v := nI (i_1 + 1)) (lv' := [(7, .int (nI (i_1 + 1))), (8, .int (s_byte (if i_1 < 8 then a else if i_1 < 16 then b else c) (i_1 % 8))), (0, .ref (A 99)), (1, .long a), (3, .long b), (5, .long c)]) 5 dX1_feed_103 rfl (nI_1 _) (by decide) rfl ?_
                refine z_goto 3 dX1_feed_106 (by decide) ?_
                refine z_lv (lv' := [(0, .ref (A 99)), (1, .long a), (3, .long b), (5, .long c), (7, .int (nI (i_1 + 1)))]) [2, 3, 4, 5, 0] rfl ?_
                refine z_X (X' := (cX g A (s_tc K (s_fd a b c t (i_1 + 1))) F O gl X)) (by rw [s_fd_1, s_lay1_f (by unfold s_isT; simp [c_22, c_27, c_27', c_28, c_28'])]) ?_
                exact ih_3 (i_1 + 1) (by omega) (by omega)  
              · -- ¬ 126 < s_byte (if i_1 < 8 then a else if i_1 < 16 then b else c) (i_1 % 8)
                have c_28' := Int32.not_lt.mp c_28
                refine z_aload_n 1 dX1_feed_74 rfl ?_
                refine cz_get (v := .int ((s_tc K (s_fd a b c t i_1)) 99 7)) 7 hA (by decide) q334 rfl dX1_feed_75 ?_
                have hle_29 := s_fd_le (a := a) (b := b) (c := c) ht2 i_1
                refine z_eq (y := nI (((s_fd a b c t i_1).2))) (by rfl) ?_
                refine z_sipush (v := 1000) dX1_feed_78 (by decide) ?_
                refine z_icmp_geN (a := ((s_fd a b c t i_1).2)) (b := 1000) 103 (by omega) (by omega) dX1_feed_81 (by decide) (fun c_30 => ?_) (fun c_30 => ?_)
                · -- 1000 ≤ ((s_fd a b c t i_1).2)
                  refine z_iinc (v := nI (i_1 + 1)) (lv' := [(7, .int (nI (i_1 + 1))), (8, .int (s_byte (if i_1 < 8 then a else if i_1 < 16 then b else c) (i_1 % 8))), (0, .ref (A 99)), (1, .long a), (3, .long b), (5, .long c)]) 5 dX1_feed_103 rfl (nI_1 _) (by decide) rfl ?_
                  refine z_goto 3 dX1_feed_106 (by decide) ?_
                  refine z_lv (lv' := [(0, .ref (A 99)), (1, .long a), (3, .long b), (5, .long c), (7, .int (nI (i_1 + 1)))]) [2, 3, 4, 5, 0] rfl ?_
                  refine z_X (X' := (cX g A (s_tc K (s_fd a b c t (i_1 + 1))) F O gl X)) (by rw [s_fd_1, s_lay1_f (by unfold s_isT; simp [c_22, c_27, c_27', c_28, c_28', c_30])]) ?_
                  exact ih_3 (i_1 + 1) (by omega) (by omega)  
                · -- ((s_fd a b c t i_1).2) < 1000
                  refine z_aload_n 1 dX1_feed_84 rfl ?_
                  refine cz_get (v := .ref (A 0)) 0 hA (by decide) q327 rfl dX1_feed_85 ?_
                  refine z_aload_n 1 dX1_feed_88 rfl ?_
                  refine z_dup dX1_feed_89 rfl ?_
                  refine cz_get (v := .int ((s_tc K (s_fd a b c t i_1)) 99 7)) 7 hA (by decide) q334 rfl dX1_feed_90 ?_
                  have hle_31 := s_fd_le (a := a) (b := b) (c := c) ht2 i_1
                  refine z_eq (y := nI (((s_fd a b c t i_1).2))) (by rfl) ?_
                  refine z_dup_x1 dX1_feed_93 rfl rfl ?_
                  refine z_iconst (v := 1) dX1_feed_94 (by decide) ?_
                  refine z_iaddN (a := ((s_fd a b c t i_1).2)) (b := 1) dX1_feed_95 ?_
                  refine cz_put (K' := (zs (s_tc K (s_fd a b c t i_1)) 99 7 (nI (((s_fd a b c t i_1).2) + 1)))) 7 hA (by decide) q334 rfl dX1_feed_96 ?_
                  refine z_iload 0 dX1_feed_99 rfl ?_
                  refine z_i2b (v := (s_byte (if i_1 < 8 then a else if i_1 < 16 then b else c) (i_1 % 8)).toInt8.toInt32) dX1_feed_101 rfl ?_
                  have hT_32 : s_isT (s_byte (if i_1 < 8 then a else if i_1 < 16 then b else c) (i_1 % 8)) = true := by unfold s_isT; simp [c_22, c_27, c_27', c_28, c_28', c_30]
                  refine cz_bast (K' := (s_tc K (s_lay1 (s_fd a b c t i_1) (s_byte (if i_1 < 8 then a else if i_1 < 16 then b else c) (i_1 % 8))))) (w := s_byte (if i_1 < 8 then a else if i_1 < 16 then b else c) (i_1 % 8)) ((s_fd a b c t i_1).2) hA rfl (by omega) (by skip; rw [(s_isT_b hT_32).1]; exact (s_isT_b hT_32).2) (by rw [s_lay1_t hT_32 (by omega)]; exact s_tc_1) dX1_feed_102 ?_
                  refine z_iinc (v := nI (i_1 + 1)) (lv' := [(7, .int (nI (i_1 + 1))), (8, .int (s_byte (if i_1 < 8 then a else if i_1 < 16 then b else c) (i_1 % 8))), (0, .ref (A 99)), (1, .long a), (3, .long b), (5, .long c)]) 5 dX1_feed_103 rfl (nI_1 _) (by decide) rfl ?_
                  refine z_goto 3 dX1_feed_106 (by decide) ?_
                  refine z_lv (lv' := [(0, .ref (A 99)), (1, .long a), (3, .long b), (5, .long c), (7, .int (nI (i_1 + 1)))]) [2, 3, 4, 5, 0] rfl ?_
                  refine z_X (X' := (cX g A (s_tc K (s_fd a b c t (i_1 + 1))) F O gl X)) (by rw [s_fd_1]) ?_
                  exact ih_3 (i_1 + 1) (by omega) (by omega)  
      · -- i_1 < 8
        refine z_lload_n 1 dX1_feed_17 rfl ?_
        refine z_goto 34 dX1_feed_18 (by decide) ?_
        refine z_bipush (v := 56) dX1_feed_34 (by decide) ?_
        refine z_bipush (v := 8) dX1_feed_36 (by decide) ?_
        refine z_iload 4 dX1_feed_38 rfl ?_
        refine z_bipush (v := 8) dX1_feed_40 (by decide) ?_
        refine z_iremN (a := i_1) (b := 8) (by omega) (by decide) (by decide) dX1_feed_42 ?_
        refine z_imulN (a := 8) (b := (i_1 % 8)) dX1_feed_43 ?_
        refine z_isub dX1_feed_44 ?_
        refine z_st (st' := [.int (s_k8 (i_1 % 8)), .long a]) (by skip; first | (rw [s_k8_e]; done) | (rw [← s_k8_e]; rfl)) ?_
        refine z_lshr dX1_feed_45 rfl ?_
        refine z_l2i (v := (a >>> ((s_k8 (i_1 % 8)).toInt64 &&& 63)).toInt32) dX1_feed_46 rfl ?_
        refine z_sipush (v := 255) dX1_feed_47 (by decide) ?_
        refine z_iand dX1_feed_50 ?_
        refine z_st (st' := [.int (s_byte (if i_1 < 8 then a else if i_1 < 16 then b else c) (i_1 % 8))]) (by skip; rw [if_pos (show i_1 < 8 by omega)]; rfl) ?_
        refine z_istore (lv' := [(8, .int (s_byte (if i_1 < 8 then a else if i_1 < 16 then b else c) (i_1 % 8))), (0, .ref (A 99)), (1, .long a), (3, .long b), (5, .long c), (7, .int (nI (i_1)))]) dX1_feed_51 (by decide) rfl ?_
        refine z_iload 0 dX1_feed_53 rfl ?_
        refine z_bipush (v := 10) dX1_feed_55 (by decide) ?_
        refine z_icmp_eq 74 dX1_feed_57 (by decide) (fun c_33 => ?_) (fun c_33 => ?_)
        · -- s_byte (if i_1 < 8 then a else if i_1 < 16 then b else c) (i_1 % 8) = 10
          refine z_aload_n 1 dX1_feed_74 rfl ?_
          refine cz_get (v := .int ((s_tc K (s_fd a b c t i_1)) 99 7)) 7 hA (by decide) q334 rfl dX1_feed_75 ?_
          have hle_34 := s_fd_le (a := a) (b := b) (c := c) ht2 i_1
          refine z_eq (y := nI (((s_fd a b c t i_1).2))) (by rfl) ?_
          refine z_sipush (v := 1000) dX1_feed_78 (by decide) ?_
          refine z_icmp_geN (a := ((s_fd a b c t i_1).2)) (b := 1000) 103 (by omega) (by omega) dX1_feed_81 (by decide) (fun c_35 => ?_) (fun c_35 => ?_)
          · -- 1000 ≤ ((s_fd a b c t i_1).2)
            refine z_iinc (v := nI (i_1 + 1)) (lv' := [(7, .int (nI (i_1 + 1))), (8, .int (s_byte (if i_1 < 8 then a else if i_1 < 16 then b else c) (i_1 % 8))), (0, .ref (A 99)), (1, .long a), (3, .long b), (5, .long c)]) 5 dX1_feed_103 rfl (nI_1 _) (by decide) rfl ?_
            refine z_goto 3 dX1_feed_106 (by decide) ?_
            refine z_lv (lv' := [(0, .ref (A 99)), (1, .long a), (3, .long b), (5, .long c), (7, .int (nI (i_1 + 1)))]) [2, 3, 4, 5, 0] rfl ?_
            refine z_X (X' := (cX g A (s_tc K (s_fd a b c t (i_1 + 1))) F O gl X)) (by rw [s_fd_1, s_lay1_f (by unfold s_isT; simp [c_33, c_35])]) ?_
            exact ih_3 (i_1 + 1) (by omega) (by omega)  
          · -- ((s_fd a b c t i_1).2) < 1000
            refine z_aload_n 1 dX1_feed_84 rfl ?_
            refine cz_get (v := .ref (A 0)) 0 hA (by decide) q327 rfl dX1_feed_85 ?_
            refine z_aload_n 1 dX1_feed_88 rfl ?_
            refine z_dup dX1_feed_89 rfl ?_
            refine cz_get (v := .int ((s_tc K (s_fd a b c t i_1)) 99 7)) 7 hA (by decide) q334 rfl dX1_feed_90 ?_
            have hle_36 := s_fd_le (a := a) (b := b) (c := c) ht2 i_1
            refine z_eq (y := nI (((s_fd a b c t i_1).2))) (by rfl) ?_
            refine z_dup_x1 dX1_feed_93 rfl rfl ?_
            refine z_iconst (v := 1) dX1_feed_94 (by decide) ?_
            refine z_iaddN (a := ((s_fd a b c t i_1).2)) (b := 1) dX1_feed_95 ?_
            refine cz_put (K' := (zs (s_tc K (s_fd a b c t i_1)) 99 7 (nI (((s_fd a b c t i_1).2) + 1)))) 7 hA (by decide) q334 rfl dX1_feed_96 ?_
            refine z_iload 0 dX1_feed_99 rfl ?_
            refine z_i2b (v := (s_byte (if i_1 < 8 then a else if i_1 < 16 then b else c) (i_1 % 8)).toInt8.toInt32) dX1_feed_101 rfl ?_
            have hT_37 : s_isT (s_byte (if i_1 < 8 then a else if i_1 < 16 then b else c) (i_1 % 8)) = true := by unfold s_isT; simp [c_33, c_35]
            refine cz_bast (K' := (s_tc K (s_lay1 (s_fd a b c t i_1) (s_byte (if i_1 < 8 then a else if i_1 < 16 then b else c) (i_1 % 8))))) (w := s_byte (if i_1 < 8 then a else if i_1 < 16 then b else c) (i_1 % 8)) ((s_fd a b c t i_1).2) hA rfl (by omega) (by skip; rw [(s_isT_b hT_37).1]; exact (s_isT_b hT_37).2) (by rw [s_lay1_t hT_37 (by omega)]; exact s_tc_1) dX1_feed_102 ?_
            refine z_iinc (v := nI (i_1 + 1)) (lv' := [(7, .int (nI (i_1 + 1))), (8, .int (s_byte (if i_1 < 8 then a else if i_1 < 16 then b else c) (i_1 % 8))), (0, .ref (A 99)), (1, .long a), (3, .long b), (5, .long c)]) 5 dX1_feed_103 rfl (nI_1 _) (by decide) rfl ?_
            refine z_goto 3 dX1_feed_106 (by decide) ?_
            refine z_lv (lv' := [(0, .ref (A 99)), (1, .long a), (3, .long b), (5, .long c), (7, .int (nI (i_1 + 1)))]) [2, 3, 4, 5, 0] rfl ?_
            refine z_X (X' := (cX g A (s_tc K (s_fd a b c t (i_1 + 1))) F O gl X)) (by rw [s_fd_1]) ?_
            exact ih_3 (i_1 + 1) (by omega) (by omega)  
        · -- ¬ s_byte (if i_1 < 8 then a else if i_1 < 16 then b else c) (i_1 % 8) = 10
          refine z_iload 0 dX1_feed_60 rfl ?_
          refine z_bipush (v := 32) dX1_feed_62 (by decide) ?_
          refine z_icmp_lt 103 dX1_feed_64 (by decide) (fun c_38 => ?_) (fun c_38 => ?_)
          · -- s_byte (if i_1 < 8 then a else if i_1 < 16 then b else c) (i_1 % 8) < 32
            have c_38' := Int32.not_le.mpr c_38
            refine z_iinc (v := nI (i_1 + 1)) (lv' := [(7, .int (nI (i_1 + 1))), (8, .int (s_byte (if i_1 < 8 then a else if i_1 < 16 then b else c) (i_1 % 8))), (0, .ref (A 99)), (1, .long a), (3, .long b), (5, .long c)]) 5 dX1_feed_103 rfl (nI_1 _) (by decide) rfl ?_
            refine z_goto 3 dX1_feed_106 (by decide) ?_
            refine z_lv (lv' := [(0, .ref (A 99)), (1, .long a), (3, .long b), (5, .long c), (7, .int (nI (i_1 + 1)))]) [2, 3, 4, 5, 0] rfl ?_
            refine z_X (X' := (cX g A (s_tc K (s_fd a b c t (i_1 + 1))) F O gl X)) (by rw [s_fd_1, s_lay1_f (by unfold s_isT; simp [c_33, c_38, c_38'])]) ?_
            exact ih_3 (i_1 + 1) (by omega) (by omega)  
          · -- ¬ s_byte (if i_1 < 8 then a else if i_1 < 16 then b else c) (i_1 % 8) < 32
            have c_38' := Int32.not_lt.mp c_38
            refine z_iload 0 dX1_feed_67 rfl ?_
            refine z_bipush (v := 126) dX1_feed_69 (by decide) ?_
            refine z_icmp_gt 103 dX1_feed_71 (by decide) (fun c_39 => ?_) (fun c_39 => ?_)
            · -- 126 < s_byte (if i_1 < 8 then a else if i_1 < 16 then b else c) (i_1 % 8)
              have c_39' := Int32.not_le.mpr c_39
              refine z_iinc (v := nI (i_1 + 1)) (lv' := [(7, .int (nI (i_1 + 1))), (8, .int (s_byte (if i_1 < 8 then a else if i_1 < 16 then b else c) (i_1 % 8))), (0, .ref (A 99)), (1, .long a), (3, .long b), (5, .long c)]) 5 dX1_feed_103 rfl (nI_1 _) (by decide) rfl ?_
              refine z_goto 3 dX1_feed_106 (by decide) ?_
              refine z_lv (lv' := [(0, .ref (A 99)), (1, .long a), (3, .long b), (5, .long c), (7, .int (nI (i_1 + 1)))]) [2, 3, 4, 5, 0] rfl ?_
              refine z_X (X' := (cX g A (s_tc K (s_fd a b c t (i_1 + 1))) F O gl X)) (by rw [s_fd_1, s_lay1_f (by unfold s_isT; simp [c_33, c_38, c_38', c_39, c_39'])]) ?_
              exact ih_3 (i_1 + 1) (by omega) (by omega)  
            · -- ¬ 126 < s_byte (if i_1 < 8 then a else if i_1 < 16 then b else c) (i_1 % 8)
              have c_39' := Int32.not_lt.mp c_39
              refine z_aload_n 1 dX1_feed_74 rfl ?_
              refine cz_get (v := .int ((s_tc K (s_fd a b c t i_1)) 99 7)) 7 hA (by decide) q334 rfl dX1_feed_75 ?_
              have hle_40 := s_fd_le (a := a) (b := b) (c := c) ht2 i_1
              refine z_eq (y := nI (((s_fd a b c t i_1).2))) (by rfl) ?_
              refine z_sipush (v := 1000) dX1_feed_78 (by decide) ?_
              refine z_icmp_geN (a := ((s_fd a b c t i_1).2)) (b := 1000) 103 (by omega) (by omega) dX1_feed_81 (by decide) (fun c_41 => ?_) (fun c_41 => ?_)
              · -- 1000 ≤ ((s_fd a b c t i_1).2)
                refine z_iinc (v := nI (i_1 + 1)) (lv' := [(7, .int (nI (i_1 + 1))), (8, .int (s_byte (if i_1 < 8 then a else if i_1 < 16 then b else c) (i_1 % 8))), (0, .ref (A 99)), (1, .long a), (3, .long b), (5, .long c)]) 5 dX1_feed_103 rfl (nI_1 _) (by decide) rfl ?_
                refine z_goto 3 dX1_feed_106 (by decide) ?_
                refine z_lv (lv' := [(0, .ref (A 99)), (1, .long a), (3, .long b), (5, .long c), (7, .int (nI (i_1 + 1)))]) [2, 3, 4, 5, 0] rfl ?_
                refine z_X (X' := (cX g A (s_tc K (s_fd a b c t (i_1 + 1))) F O gl X)) (by rw [s_fd_1, s_lay1_f (by unfold s_isT; simp [c_33, c_38, c_38', c_39, c_39', c_41])]) ?_
                exact ih_3 (i_1 + 1) (by omega) (by omega)  
              · -- ((s_fd a b c t i_1).2) < 1000
                refine z_aload_n 1 dX1_feed_84 rfl ?_
                refine cz_get (v := .ref (A 0)) 0 hA (by decide) q327 rfl dX1_feed_85 ?_
                refine z_aload_n 1 dX1_feed_88 rfl ?_
                refine z_dup dX1_feed_89 rfl ?_
                refine cz_get (v := .int ((s_tc K (s_fd a b c t i_1)) 99 7)) 7 hA (by decide) q334 rfl dX1_feed_90 ?_
                have hle_42 := s_fd_le (a := a) (b := b) (c := c) ht2 i_1
                refine z_eq (y := nI (((s_fd a b c t i_1).2))) (by rfl) ?_
                refine z_dup_x1 dX1_feed_93 rfl rfl ?_
                refine z_iconst (v := 1) dX1_feed_94 (by decide) ?_
                refine z_iaddN (a := ((s_fd a b c t i_1).2)) (b := 1) dX1_feed_95 ?_
                refine cz_put (K' := (zs (s_tc K (s_fd a b c t i_1)) 99 7 (nI (((s_fd a b c t i_1).2) + 1)))) 7 hA (by decide) q334 rfl dX1_feed_96 ?_
                refine z_iload 0 dX1_feed_99 rfl ?_
                refine z_i2b (v := (s_byte (if i_1 < 8 then a else if i_1 < 16 then b else c) (i_1 % 8)).toInt8.toInt32) dX1_feed_101 rfl ?_
                have hT_43 : s_isT (s_byte (if i_1 < 8 then a else if i_1 < 16 then b else c) (i_1 % 8)) = true := by unfold s_isT; simp [c_33, c_38, c_38', c_39, c_39', c_41]
                refine cz_bast (K' := (s_tc K (s_lay1 (s_fd a b c t i_1) (s_byte (if i_1 < 8 then a else if i_1 < 16 then b else c) (i_1 % 8))))) (w := s_byte (if i_1 < 8 then a else if i_1 < 16 then b else c) (i_1 % 8)) ((s_fd a b c t i_1).2) hA rfl (by omega) (by skip; rw [(s_isT_b hT_43).1]; exact (s_isT_b hT_43).2) (by rw [s_lay1_t hT_43 (by omega)]; exact s_tc_1) dX1_feed_102 ?_
                refine z_iinc (v := nI (i_1 + 1)) (lv' := [(7, .int (nI (i_1 + 1))), (8, .int (s_byte (if i_1 < 8 then a else if i_1 < 16 then b else c) (i_1 % 8))), (0, .ref (A 99)), (1, .long a), (3, .long b), (5, .long c)]) 5 dX1_feed_103 rfl (nI_1 _) (by decide) rfl ?_
                refine z_goto 3 dX1_feed_106 (by decide) ?_
                refine z_lv (lv' := [(0, .ref (A 99)), (1, .long a), (3, .long b), (5, .long c), (7, .int (nI (i_1 + 1)))]) [2, 3, 4, 5, 0] rfl ?_
                refine z_X (X' := (cX g A (s_tc K (s_fd a b c t (i_1 + 1))) F O gl X)) (by rw [s_fd_1]) ?_
                exact ih_3 (i_1 + 1) (by omega) (by omega)  
  refine z_lv (lv' := [(0, .ref (A 99)), (1, .long a), (3, .long b), (5, .long c), (7, .int 0)]) [1, 2, 3, 4, 0] rfl ?_
  refine z_X (X' := (cX g A (s_tc K (s_fd a b c t 0)) F O gl X)) (by show cX g A K F O gl X = cX g A (s_tc K t) F O gl X; rw [ht]) ?_
  exact loop_5 (24 - 0) 0 (by omega) (Nat.le_refl _)  
