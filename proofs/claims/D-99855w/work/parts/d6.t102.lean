/-! LINES READ: two of a kind. Printed by t102.py -/
set_option maxRecDepth 100000
section KP
variable (kd pl : Nat → Nat) (vl wd : Nat → Int64)
/-- the second of two: not the first, not among some (bits) -/
def k_two (hx : Int64 → Int32) (bits : Nat → Int32) (i : Int32) (a f : Nat) : Int32 × Nat × Nat := if f = 0 then (if s_isN kd vl wd a 0 = true then (if 0 ≤ hx (vl a) then (if hx (vl a) = i ∨ s_isBit (bits i.toNatClampNeg) (hx (vl a)).toNatClampNeg = true then (0, a, s_wr pl a 0 3) else (hx (vl a), a + 1, 0)) else (0, a, s_wr pl a 0 2)) else (0, a, s_wr pl a 0 1)) else (0, a, f)
def k_pair (hx : Int64 → Int32) (bits : Nat → Int32) (a : Nat) : Int32 × Int32 × Nat × Nat := ((k_told kd pl vl wd hx a 0).1, k_two kd pl vl wd hx bits (k_told kd pl vl wd hx a 0).1 (k_told kd pl vl wd hx a 0).2.1 (k_told kd pl vl wd hx a 0).2.2)
end KP
theorem k_cl {k : Nat} (h : k < 2 ^ 31) : (nI k).toNatClampNeg = k := ncl h

set_option maxHeartbeats 4000000 in
theorem rd_line_1 {g : zG} {X : zX} {r a w : Nat} {T : rTP} {X0 : zX} {v nh nd : Nat} {B : vB} {vs : Nat → Int32} {hv gv : Nat → Int64} {st : Int32} {fa : Option Nat} (hT : rTk T) (hW : rW g X r T a w (some v)) (hX0 : rto X0 X r) (hU0 : vU g X0 X v B vs nh nd hv gv st fa) (hnh : nh ≤ 4) (hnd : nd ≤ 6) : zV g m_X2_line ({ frames := 8, cells := 11, slots := 69, locals := 193 } : Room) [.ref r, .int 1] X (fun rv X' => rv = none ∧ ∃ i j, i < nh ∧ j < nh ∧ ¬ i = j ∧ k_pair T.kd T.pl T.vl T.wd (fun val => kwf (fun k => decide (hv k = val)) nh 0) (fun i => vs (2 * i + 5)) a = (nI i, nI j, a + 2, 0) ∧ rto X0 X' r ∧ rW g X' r T (a + 2) w (some v) ∧ (∀ vs' : Nat → Int32, (∀ k, k < nh → vs' (2 * k + 4) = vs (2 * k + 4) ∧ vs' (2 * k + 5) = if k = i then vs (2 * k + 5) ||| (1 : Int32) <<< (nI j &&& 31) else if k = j then vs (2 * k + 5) ||| (1 : Int32) <<< (nI i &&& 31) else vs (2 * k + 5)) → (∀ k j, k < nd → j < 5 → vs' (5 * k + 12 + j) = vs (5 * k + 12 + j)) → vU g X0 X' v B vs' nh nd hv gv st fa)) (fun q E X' => ∃ f, ¬ f = 0 ∧ (k_pair T.kd T.pl T.vl T.wd (fun val => kwf (fun k => decide (hv k = val)) nh 0) (fun i => vs (2 * i + 5)) a).2.2.2 = f ∧ rX X r T (some v) f q E X') := by
  refine zV.of (by decide +kernel) (Nat.le_of_ble_eq_true rfl) rfl ?_
  refine z_lv (lv' := [(0, .ref r), (1, .int 1)]) [0, 1] rfl ?_
  have hn := hT.n
  have hW2 := hW
  obtain ⟨hr0, hx, hks, ha, va, hr, hva⟩ := hW
  have hcn := hT.c
  have hpl := hT.le ha
  have hto := hT.to ha
  have hk4 := hT.kd4 ha
  have hU := hU0
  obtain ⟨hv0, hv00, hxv, hlh, hlg, hlhg, hehg, hhU, hgU⟩ := hU0
  refine z_iload_n 1 dX2_line_0 rfl ?_
  refine z_tableIn (off := 75) 76 dX2_line_1 (by decide) (by decide) (by rfl) (by decide) ?_
  refine z_aload_n 0 dX2_line_76 rfl ?_
  refine z_aload_n 0 dX2_line_77 rfl ?_
  refine z_get (v := .ref v) 7 hr rfl in_X2 (by decide) q175 rfl dX2_line_78 ?_
  refine z_aload_n 0 dX2_line_81 rfl ?_
  refine z_callVx (As := []) (rd_name hT hW2) q624 q626 qs8 q113 q627 nm_X2_name hr rfl rfl rfl (Nat.le_of_ble_eq_true rfl) ⟨Nat.le_of_ble_eq_true rfl, Nat.le_of_ble_eq_true rfl⟩ dX2_line_82 rfl rfl (Nat.le_of_ble_eq_true rfl) (Nat.le_of_ble_eq_true rfl) rfl (fun q9 E9 X8 hp9 => by obtain ⟨f9, hf9, hs9, hx9⟩ := hp9; exact ⟨f9, hf9, (by have hs8 : k_told T.kd T.pl T.vl T.wd (fun val => kwf (fun k => decide (hv k = val)) nh 0) a 0 = (0, a, f9) := (by unfold k_told; rw [if_pos rfl, if_neg (show ¬ s_isN T.kd T.vl T.wd a 0 = true by rw [hs9.1]; decide), hs9.2]); unfold k_pair k_two; rw [hs8, if_neg hf9]), hx9.tr rto.rf⟩) (fun v_3 X1 hp_4 => ?_)
  obtain ⟨s1, rfl, hi1, hn1, hzs1, hkS1, ht1, hw1⟩ := hp_4
  have hWk2 := hw1
  obtain ⟨-, hx2, hks2, ha2, va2, hr2, hva2⟩ := hw1
  have hrt2 := rto.rf.tr ht1
  have he2_v := ht1 _ _ (zne hxv hr (by unfold rdT; simp)) hxv
  have hvU2 := hU.to hr ht1
  have hpl2 := hT.le ha2
  have hto2 := hT.to ha2
  have hk42 := hT.kd4 ha2
  refine z_st (st' := [.ref s1, .ref v, .ref r]) rfl ?_
  refine z_callV (As := [.ref s1]) (rd_homeU hvU2 hkS1) q787 q788 q789 q114 q790 nm_X3_home he2_v rfl rfl rfl (Nat.le_of_ble_eq_true rfl) ⟨Nat.le_of_ble_eq_true rfl, Nat.le_of_ble_eq_true rfl⟩ dX2_line_85 rfl rfl (Nat.le_of_ble_eq_true rfl) (Nat.le_of_ble_eq_true rfl) (fun v_5 X_6 hp_7 => ?_)
  obtain ⟨rfl, h7⟩ := hp_7
  replace h7 := h7.symm
  subst h7
  refine z_st (st' := [.int (kwf (fun k => decide (hv k = (T.vl a))) nh 0), .ref r]) rfl ?_
  refine z_callVx (As := [.int (kwf (fun k => decide (hv k = (T.vl a))) nh 0)]) (rd_passed hT hWk2 (hT.lt ha2 (by rw [(s_isN_k hi1).2]; decide)).1 (kwf (fun k => decide (hv k = (T.vl a))) nh 0)) q893 q895 qs15 q113 q896 nm_X2_passed hr2 rfl rfl rfl (Nat.le_of_ble_eq_true rfl) ⟨Nat.le_of_ble_eq_true rfl, Nat.le_of_ble_eq_true rfl⟩ dX2_line_88 rfl rfl (Nat.le_of_ble_eq_true rfl) (Nat.le_of_ble_eq_true rfl) rfl (fun q9 E9 X8 hp9 => by obtain ⟨f9, hf9, hs9, hx9⟩ := hp9; exact ⟨f9, hf9, (by have hs8 : k_told T.kd T.pl T.vl T.wd (fun val => kwf (fun k => decide (hv k = val)) nh 0) a 0 = (0, a, f9) := (by unfold k_told; rw [if_pos rfl, if_pos hi1, if_neg (show ¬ 0 ≤ (fun val => kwf (fun k => decide (hv k = val)) nh 0) (T.vl a) from hs9.1), hs9.2]); unfold k_pair k_two; rw [hs8, if_neg hf9]), hx9.tr hrt2⟩) (fun v_10 X8 hp_11 => ?_)
  obtain ⟨hz8, rfl, ht8, hw8⟩ := hp_11
  have hWk9 := hw8
  obtain ⟨-, hx9, hks9, ha9, va9, hr9, hva9⟩ := hw8
  have hrt9 := hrt2.tr ht8
  have he9_v := ht8 _ _ (zne he2_v hr2 (by unfold rdT; simp)) he2_v
  have hvU9 := hvU2.to hr2 ht8
  have hst9_s1 := hkS1.to hr2 (by decide) ht8
  have hpl9 := hT.le ha9
  have hto9 := hT.to ha9
  have hk49 := hT.kd4 ha9
  obtain ⟨j8, -, hj8, ej8⟩ : ∃ j, 0 ≤ j ∧ j < 0 + nh ∧ kwf (fun k => decide (hv k = (T.vl a))) nh 0 = nI j := (kwf_k nh 0).resolve_left (Int32.not_lt.mpr hz8)
  have he8 : k_told T.kd T.pl T.vl T.wd (fun val => kwf (fun k => decide (hv k = val)) nh 0) a 0 = (nI j8, (a + 1), 0) := by unfold k_told; rw [if_pos rfl, if_pos hi1, if_pos (show 0 ≤ (fun val => kwf (fun k => decide (hv k = val)) nh 0) (T.vl a) from hz8)]; exact congrArg (fun z => (z, (a + 1), 0)) ej8
  refine z_st (st' := [.int (kwf (fun k => decide (hv k = (T.vl a))) nh 0)]) rfl ?_
  refine z_eq (y := nI (j8)) ej8 ?_
  refine z_istore_n (lv' := [(2, .int (nI (j8))), (0, .ref r), (1, .int 1)]) dX2_line_91 rfl (by decide) rfl ?_
  refine z_aload_n 1 dX2_line_92 rfl ?_
  refine z_aload_n 1 dX2_line_93 rfl ?_
  refine z_get (v := .ref v) 7 hr9 rfl in_X2 (by decide) q175 rfl dX2_line_94 ?_
  refine z_aload_n 1 dX2_line_97 rfl ?_
  refine z_callVx (As := []) (rd_name hT hWk9) q624 q626 qs8 q113 q627 nm_X2_name hr9 rfl rfl rfl (Nat.le_of_ble_eq_true rfl) ⟨Nat.le_of_ble_eq_true rfl, Nat.le_of_ble_eq_true rfl⟩ dX2_line_98 rfl rfl (Nat.le_of_ble_eq_true rfl) (Nat.le_of_ble_eq_true rfl) rfl (fun q9 E9 X8 hp9 => by obtain ⟨f9, hf9, hs9, hx9⟩ := hp9; exact ⟨f9, hf9, (by unfold k_pair k_two; rw [he8]; rw [if_pos rfl, if_neg (show ¬ s_isN T.kd T.vl T.wd (a + 1) 0 = true by rw [hs9.1]; decide), hs9.2]), hx9.tr hrt9⟩) (fun v_14 X12 hp_15 => ?_)
  obtain ⟨s12, rfl, hi12, hn12, hzs12, hkS12, ht12, hw12⟩ := hp_15
  have hWk13 := hw12
  obtain ⟨-, hx13, hks13, ha13, va13, hr13, hva13⟩ := hw12
  have hrt13 := hrt9.tr ht12
  have he13_v := ht12 _ _ (zne he9_v hr9 (by unfold rdT; simp)) he9_v
  have hvU13 := hvU9.to hr9 ht12
  have hst13_s1 := hst9_s1.to hr9 (by decide) ht12
  have hpl13 := hT.le ha13
  have hto13 := hT.to ha13
  have hk413 := hT.kd4 ha13
  refine z_st (st' := [.ref s12, .ref v, .ref r]) rfl ?_
  refine z_callV (As := [.ref s12]) (rd_homeU hvU13 hkS12) q787 q788 q789 q114 q790 nm_X3_home he13_v rfl rfl rfl (Nat.le_of_ble_eq_true rfl) ⟨Nat.le_of_ble_eq_true rfl, Nat.le_of_ble_eq_true rfl⟩ dX2_line_101 rfl rfl (Nat.le_of_ble_eq_true rfl) (Nat.le_of_ble_eq_true rfl) (fun v_16 X_17 hp_18 => ?_)
  obtain ⟨rfl, h7⟩ := hp_18
  replace h7 := h7.symm
  subst h7
  refine z_st (st' := [.int (kwf (fun k => decide (hv k = (T.vl (a + 1)))) nh 0), .ref r]) rfl ?_
  refine z_callVx (As := [.int (kwf (fun k => decide (hv k = (T.vl (a + 1)))) nh 0)]) (rd_told hT hWk13 (kwf (fun k => decide (hv k = (T.vl (a + 1)))) nh 0)) q897 q899 qs16 q113 q900 nm_X2_told hr13 rfl rfl rfl (Nat.le_of_ble_eq_true rfl) ⟨Nat.le_of_ble_eq_true rfl, Nat.le_of_ble_eq_true rfl⟩ dX2_line_104 rfl rfl (Nat.le_of_ble_eq_true rfl) (Nat.le_of_ble_eq_true rfl) rfl (fun q9 E9 X8 hp9 => by obtain ⟨f9, hf9, hs9, hx9⟩ := hp9; exact ⟨f9, hf9, (by unfold k_pair k_two; rw [he8]; rw [if_pos rfl, if_pos hi12, if_neg (show ¬ 0 ≤ (fun val => kwf (fun k => decide (hv k = val)) nh 0) (T.vl (a + 1)) from hs9.1), hs9.2]), hx9.tr hrt13⟩) (fun v_20 X_21 hp_22 => ?_)
  obtain ⟨hz19, rfl, h7⟩ := hp_22
  replace h7 := h7.symm
  subst h7
  obtain ⟨j19, -, hj19, ej19⟩ : ∃ j, 0 ≤ j ∧ j < 0 + nh ∧ kwf (fun k => decide (hv k = (T.vl (a + 1)))) nh 0 = nI j := (kwf_k nh 0).resolve_left (Int32.not_lt.mpr hz19)
  refine z_st (st' := [.int (kwf (fun k => decide (hv k = (T.vl (a + 1)))) nh 0)]) rfl ?_
  refine z_eq (y := nI (j19)) ej19 ?_
  refine z_istore_n (lv' := [(3, .int (nI (j19))), (2, .int (nI (j8))), (0, .ref r), (1, .int 1)]) dX2_line_107 rfl (by decide) rfl ?_
  refine z_iload_n 1 dX2_line_108 rfl ?_
  refine z_iload_n 0 dX2_line_109 rfl ?_
  refine z_icmp_eqN (a := j8) (b := j19) 137 (by omega) (by omega) dX2_line_110 (by decide) (fun c_23 => ?_) (fun c_23 => ?_)
  · -- j8 = j19
    refine z_aload_n 2 dX2_line_137 rfl ?_
    refine z_iconst (v := 3) dX2_line_138 (by decide) ?_
    refine z_callV (As := [.int 3]) (rd_wrong hr13 3) q540 q542 qs4 q113 q543 nm_X2_wrong hr13 rfl rfl rfl (Nat.le_of_ble_eq_true rfl) ⟨Nat.le_of_ble_eq_true rfl, Nat.le_of_ble_eq_true rfl⟩ dX2_line_139 rfl rfl (Nat.le_of_ble_eq_true rfl) (Nat.le_of_ble_eq_true rfl) (fun v_32 X_33 hp_34 => ?_)
    obtain ⟨q_24, rfl, h7, hnq_24, hzq_24⟩ := hp_34
    subst h7
    have ne_25 : r ≠ q_24 := fun q9 => by rw [← q9, hr13] at hnq_24; cases hnq_24
    have ne_26 : T.x ≠ q_24 := fun q9 => by rw [← q9, hx13] at hnq_24; cases hnq_24
    have ne_27 : v ≠ q_24 := fun q9 => by rw [← q9, he13_v] at hnq_24; cases hnq_24
    have hx_28 : (zup X12 q_24 (.inr (6, [.null, .null, .null, .null, .null, .int 0, .int (nI ((16 * T.pl (a + 1) + 3)))]))) r = some (rdT T (a + 1) va13 w (some v)) := zup_k ne_25 hr13
    have hx_29 : (zup X12 q_24 (.inr (6, [.null, .null, .null, .null, .null, .int 0, .int (nI ((16 * T.pl (a + 1) + 3)))]))) T.x = some (.inl (zar g 1, 1000, .inl T.t)) := zup_k ne_26 hx13
    have hx_30 : (zup X12 q_24 (.inr (6, [.null, .null, .null, .null, .null, .int 0, .int (nI ((16 * T.pl (a + 1) + 3)))]))) v = some (.inr (3, [.ref B.lh, .ref B.lg, .int st, va_rf (fa)])) := zup_k ne_27 he13_v
    have hx_31 : (zup X12 q_24 (.inr (6, [.null, .null, .null, .null, .null, .int 0, .int (nI ((16 * T.pl (a + 1) + 3)))]))) q_24 = some (.inr (6, [.null, .null, .null, .null, .null, .int 0, .int (nI ((16 * T.pl (a + 1) + 3)))])) := zup_s
    refine z_st (st' := [.ref q_24]) rfl ?_
    exact z_athrow hx_31 rfl dX2_line_142 rfl (Nat.le_of_ble_eq_true rfl) (Nat.le_of_ble_eq_true rfl) ⟨(16 * T.pl (a + 1) + 3), (by omega), (by unfold k_pair k_two; rw [he8]; rw [if_pos rfl, if_pos hi12, if_pos (show 0 ≤ (fun val => kwf (fun k => decide (hv k = val)) nh 0) (T.vl (a + 1)) from hz19), if_pos (Or.inl (by rw [(show (fun val => kwf (fun k => decide (hv k = val)) nh 0) (T.vl (a + 1)) = nI j19 from ej19), c_23])), s_wr_e]), rfl, (hrt13.nw hnq_24), ⟨_, _, _, hx_28⟩, hx_31⟩
  · -- j8 ≠ j19
    obtain ⟨hv0W, hv00W, hxvW, hlhW, hlgW, hneW, hneeW, hhW, hgW⟩ := id hvU13
    obtain ⟨l1, l2, l3, l4, l5, l6, l7, l8, l9⟩ := hlhW
    have hle9 := l7
    obtain ⟨a1, nm1, hf1, hz1, hx01, ha1, hn1⟩ := hhW.1 j8 (by omega)
    obtain ⟨a2, nm2, hf2, hz2, hx02, ha2, hn2⟩ := hhW.1 j19 (by omega)
    have hne12 : a1 ≠ a2 := fun z => absurd (hhW.2 j8 (by omega) j19 (by omega) (by rw [hf1, hf2, z])) (by omega)
    refine z_aload_n 2 dX2_line_113 rfl ?_
    refine z_get (v := .ref v) 7 hr13 rfl in_X2 (by decide) q175 rfl dX2_line_114 ?_
    refine z_getN (v := .ref B.lh) 0 he13_v rfl in_X3 (by decide) q231 rfl dX2_line_117 ?_
    refine z_iload_n 1 dX2_line_120 rfl ?_
    refine z_callV (As := [.int (nI (j8))]) (t_getL l5 l6 (by omega) j8 (by omega) hle9 hf1) q901 q312 q313 q117 q314 nm_J2_get l5 rfl rfl rfl (Nat.le_of_ble_eq_true rfl) ⟨Nat.le_of_ble_eq_true rfl, Nat.le_of_ble_eq_true rfl⟩ dX2_line_121 rfl rfl (Nat.le_of_ble_eq_true rfl) (Nat.le_of_ble_eq_true rfl) (fun v_35 X_36 hp_37 => ?_)
    obtain ⟨rfl, h7⟩ := hp_37
    replace h7 := h7.symm
    subst h7
    refine z_st (st' := [.ref a1]) rfl ?_
    refine z_castS ha1 rfl q618 rfl dX2_line_124 ?_
    refine z_getN (v := .int (vs (2 * j8 + 5))) 2 ha1 rfl in_X7 (by decide) q815 rfl dX2_line_127 ?_
    refine z_iload_n 0 dX2_line_130 rfl ?_
    refine z_callSN (As := [.int (vs (2 * j8 + 5)), .int (nI (j19))]) (c_isIn (vs (2 * j8 + 5)) j19) q902 q903 q112 q904 nm_X1_isIn rfl (Nat.le_of_ble_eq_true rfl) ⟨Nat.le_of_ble_eq_true rfl, Nat.le_of_ble_eq_true rfl⟩ dX2_line_131 rfl rfl (Nat.le_of_ble_eq_true rfl) (Nat.le_of_ble_eq_true rfl) (fun v_38 X_39 hp_40 => ?_)
    obtain ⟨rfl, h7⟩ := hp_40
    replace h7 := h7.symm
    subst h7
    refine z_st (st' := [.int (zb (s_isBit (vs (2 * j8 + 5)) j19))]) rfl ?_
    refine z_if_eqb 143 dX2_line_134 (by decide) (fun c_41 => ?_) (fun c_41 => ?_)
    · -- s_isBit (vs (2 * j8 + 5)) j19 = false
      refine z_aload_n 2 dX2_line_143 rfl ?_
      refine z_callV (As := []) (rd_nxt hT hWk13 (hT.lt ha13 (by rw [(s_isN_k hi12).2]; decide)).1) q408 q410 qs1 q113 q411 nm_X2_next hr13 rfl rfl rfl (Nat.le_of_ble_eq_true rfl) ⟨Nat.le_of_ble_eq_true rfl, Nat.le_of_ble_eq_true rfl⟩ dX2_line_144 rfl rfl (Nat.le_of_ble_eq_true rfl) (Nat.le_of_ble_eq_true rfl) (fun v_44 X42 hp_45 => ?_)
      obtain ⟨rfl, ht42, hw42⟩ := hp_45
      have hWk43 := hw42
      obtain ⟨-, hx43, hks43, ha43, va43, hr43, hva43⟩ := hw42
      have hrt43 := hrt13.tr ht42
      have he43_v := ht42 _ _ (zne he13_v hr13 (by unfold rdT; simp)) he13_v
      have he43_a1 := ht42 _ _ (zne ha1 hr13 (by unfold rdT; simp)) ha1
      have he43_a2 := ht42 _ _ (zne ha2 hr13 (by unfold rdT; simp)) ha2
      have he43_B.lh := ht42 _ _ (zne l5 hr13 (by unfold rdT; simp)) l5
      have he43_B.eh := ht42 _ _ (zne l6 hr13 (by unfold rdT; simp)) l6
      have hvU43 := hvU13.to hr13 ht42
      have hst43_s1 := hst13_s1.to hr13 (by decide) ht42
      have hst43_s12 := hkS12.to hr13 (by decide) ht42
      have hpl43 := hT.le ha43
      have hto43 := hT.to ha43
      have hk443 := hT.kd4 ha43
      refine z_st (st' := []) rfl ?_
      refine z_aload_n 2 dX2_line_147 rfl ?_
      refine z_get (v := .ref v) 7 hr43 rfl in_X2 (by decide) q175 rfl dX2_line_148 ?_
      refine z_getN (v := .ref B.lh) 0 he43_v rfl in_X3 (by decide) q231 rfl dX2_line_151 ?_
      refine z_iload_n 1 dX2_line_154 rfl ?_
      refine z_callV (As := [.int (nI (j8))]) (t_getL he43_B.lh he43_B.eh (by omega) j8 (by omega) hle9 hf1) q901 q312 q313 q117 q314 nm_J2_get he43_B.lh rfl rfl rfl (Nat.le_of_ble_eq_true rfl) ⟨Nat.le_of_ble_eq_true rfl, Nat.le_of_ble_eq_true rfl⟩ dX2_line_155 rfl rfl (Nat.le_of_ble_eq_true rfl) (Nat.le_of_ble_eq_true rfl) (fun v_46 X_47 hp_48 => ?_)
      obtain ⟨rfl, h7⟩ := hp_48
      replace h7 := h7.symm
      subst h7
      refine z_st (st' := [.ref a1]) rfl ?_
      refine z_castS he43_a1 rfl q618 rfl dX2_line_158 ?_
      refine z_dup dX2_line_161 rfl ?_
      refine z_getN (v := .int (vs (2 * j8 + 5))) 2 he43_a1 rfl in_X7 (by decide) q815 rfl dX2_line_162 ?_
      refine z_iconst (v := 1) dX2_line_165 (by decide) ?_
      refine z_iload_n 0 dX2_line_166 rfl ?_
      refine z_ishl dX2_line_167 ?_
      refine z_ior dX2_line_168 ?_
      obtain ⟨x_49, ex_49⟩ : ∃ y : Int32, ((vs (2 * j8 + 5)) ||| (1 <<< ((nI (j19)) &&& 31))) = y := ⟨_, rfl⟩
      refine z_eq ex_49 ?_
      refine z_putN (X' := (zup X42 a1 (.inr (7, [.ref nm1, .int (vs (2 * j8 + 4)), .int x_49])))) 2 he43_a1 rfl in_X7 (by decide) tyX7 tyX7_ok nmX7 q815 rfl (tyX7_ok 2 (by decide)) rfl rfl (Nat.le_of_ble_eq_true rfl) hz1 dX2_line_169 rfl ?_
      have hx_50 : (zup X42 a1 (.inr (7, [.ref nm1, .int (vs (2 * j8 + 4)), .int x_49]))) r = some (rdT T (a + 1 + 1) va43 w (some v)) := zup_k (zne hr43 he43_a1 (by unfold rdT; simp)) hr43
      have hx_51 : (zup X42 a1 (.inr (7, [.ref nm1, .int (vs (2 * j8 + 4)), .int x_49]))) T.x = some (.inl (zar g 1, 1000, .inl T.t)) := zup_k (zne hx43 he43_a1 (by simp)) hx43
      have hx_52 : (zup X42 a1 (.inr (7, [.ref nm1, .int (vs (2 * j8 + 4)), .int x_49]))) v = some (.inr (3, [.ref B.lh, .ref B.lg, .int st, va_rf (fa)])) := zup_k (zne he43_v he43_a1 (by simp)) he43_v
      have hx_53 : (zup X42 a1 (.inr (7, [.ref nm1, .int (vs (2 * j8 + 4)), .int x_49]))) a2 = some (.inr (7, [.ref nm2, .int (vs (2 * j19 + 4)), .int (vs (2 * j19 + 5))])) := zup_k (Ne.symm hne12) he43_a2
      have hx_54 : (zup X42 a1 (.inr (7, [.ref nm1, .int (vs (2 * j8 + 4)), .int x_49]))) B.lh = some (.inr (23, [.int B.mh, .ref B.eh, .int (nI (nh))])) := zup_k (zne he43_B.lh he43_a1 (by simp)) he43_B.lh
      have hx_55 : (zup X42 a1 (.inr (7, [.ref nm1, .int (vs (2 * j8 + 4)), .int x_49]))) B.eh = some (.inl (zar g 4, B.ch, .inr (.inr (.inr (.inr B.fh))))) := zup_k (zne he43_B.eh he43_a1 (by simp)) he43_B.eh
      have hx_56 : (zup X42 a1 (.inr (7, [.ref nm1, .int (vs (2 * j8 + 4)), .int x_49]))) a1 = some (.inr (7, [.ref nm1, .int (vs (2 * j8 + 4)), .int x_49])) := zup_s
      refine z_aload_n 2 dX2_line_172 rfl ?_
      refine z_get (v := .ref v) 7 hx_50 rfl in_X2 (by decide) q175 rfl dX2_line_173 ?_
      refine z_getN (v := .ref B.lh) 0 hx_52 rfl in_X3 (by decide) q231 rfl dX2_line_176 ?_
      refine z_iload_n 0 dX2_line_179 rfl ?_
      refine z_callV (As := [.int (nI (j19))]) (t_getL hx_54 hx_55 (by omega) j19 (by omega) hle9 hf2) q901 q312 q313 q117 q314 nm_J2_get hx_54 rfl rfl rfl (Nat.le_of_ble_eq_true rfl) ⟨Nat.le_of_ble_eq_true rfl, Nat.le_of_ble_eq_true rfl⟩ dX2_line_180 rfl rfl (Nat.le_of_ble_eq_true rfl) (Nat.le_of_ble_eq_true rfl) (fun v_57 X_58 hp_59 => ?_)
      obtain ⟨rfl, h7⟩ := hp_59
      replace h7 := h7.symm
      subst h7
      refine z_st (st' := [.ref a2]) rfl ?_
      refine z_castS hx_53 rfl q618 rfl dX2_line_183 ?_
      refine z_dup dX2_line_186 rfl ?_
      refine z_getN (v := .int (vs (2 * j19 + 5))) 2 hx_53 rfl in_X7 (by decide) q815 rfl dX2_line_187 ?_
      refine z_iconst (v := 1) dX2_line_190 (by decide) ?_
      refine z_iload_n 1 dX2_line_191 rfl ?_
      refine z_ishl dX2_line_192 ?_
      refine z_ior dX2_line_193 ?_
      obtain ⟨x_60, ex_60⟩ : ∃ y : Int32, ((vs (2 * j19 + 5)) ||| (1 <<< ((nI (j8)) &&& 31))) = y := ⟨_, rfl⟩
      refine z_eq ex_60 ?_
      refine z_putN (X' := (zup (zup X42 a1 (.inr (7, [.ref nm1, .int (vs (2 * j8 + 4)), .int x_49]))) a2 (.inr (7, [.ref nm2, .int (vs (2 * j19 + 4)), .int x_60])))) 2 hx_53 rfl in_X7 (by decide) tyX7 tyX7_ok nmX7 q815 rfl (tyX7_ok 2 (by decide)) rfl rfl (Nat.le_of_ble_eq_true rfl) hz2 dX2_line_194 rfl ?_
      have hx_61 : (zup (zup X42 a1 (.inr (7, [.ref nm1, .int (vs (2 * j8 + 4)), .int x_49]))) a2 (.inr (7, [.ref nm2, .int (vs (2 * j19 + 4)), .int x_60]))) r = some (rdT T (a + 1 + 1) va43 w (some v)) := zup_k (zne hx_50 hx_53 (by unfold rdT; simp)) hx_50
      have hx_62 : (zup (zup X42 a1 (.inr (7, [.ref nm1, .int (vs (2 * j8 + 4)), .int x_49]))) a2 (.inr (7, [.ref nm2, .int (vs (2 * j19 + 4)), .int x_60]))) T.x = some (.inl (zar g 1, 1000, .inl T.t)) := zup_k (zne hx_51 hx_53 (by simp)) hx_51
      have hx_63 : (zup (zup X42 a1 (.inr (7, [.ref nm1, .int (vs (2 * j8 + 4)), .int x_49]))) a2 (.inr (7, [.ref nm2, .int (vs (2 * j19 + 4)), .int x_60]))) v = some (.inr (3, [.ref B.lh, .ref B.lg, .int st, va_rf (fa)])) := zup_k (zne hx_52 hx_53 (by simp)) hx_52
      have hx_64 : (zup (zup X42 a1 (.inr (7, [.ref nm1, .int (vs (2 * j8 + 4)), .int x_49]))) a2 (.inr (7, [.ref nm2, .int (vs (2 * j19 + 4)), .int x_60]))) B.lh = some (.inr (23, [.int B.mh, .ref B.eh, .int (nI (nh))])) := zup_k (zne hx_54 hx_53 (by simp)) hx_54
      have hx_65 : (zup (zup X42 a1 (.inr (7, [.ref nm1, .int (vs (2 * j8 + 4)), .int x_49]))) a2 (.inr (7, [.ref nm2, .int (vs (2 * j19 + 4)), .int x_60]))) B.eh = some (.inl (zar g 4, B.ch, .inr (.inr (.inr (.inr B.fh))))) := zup_k (zne hx_55 hx_53 (by simp)) hx_55
      have hx_66 : (zup (zup X42 a1 (.inr (7, [.ref nm1, .int (vs (2 * j8 + 4)), .int x_49]))) a2 (.inr (7, [.ref nm2, .int (vs (2 * j19 + 4)), .int x_60]))) a1 = some (.inr (7, [.ref nm1, .int (vs (2 * j8 + 4)), .int x_49])) := zup_k hne12 hx_56
      have hx_67 : (zup (zup X42 a1 (.inr (7, [.ref nm1, .int (vs (2 * j8 + 4)), .int x_49]))) a2 (.inr (7, [.ref nm2, .int (vs (2 * j19 + 4)), .int x_60]))) a2 = some (.inr (7, [.ref nm2, .int (vs (2 * j19 + 4)), .int x_60])) := zup_s
      refine z_goto 369 dX2_line_197 (by decide) ?_
      subst ex_49
      subst ex_60
      exact z_vret dX2_line_369 rfl (Nat.le_of_ble_eq_true rfl) (Nat.le_of_ble_eq_true rfl) ⟨rfl, j8, j19, (by omega), (by omega), c_23, (by unfold k_pair k_two; rw [he8]; rw [if_pos rfl, if_pos hi12, if_pos (show 0 ≤ (fun val => kwf (fun k => decide (hv k = val)) nh 0) (T.vl (a + 1)) from hz19), if_neg (by rw [(show (fun val => kwf (fun k => decide (hv k = val)) nh 0) (T.vl (a + 1)) = nI j19 from ej19), k_cl (show j8 < 2 ^ 31 by omega), k_cl (show j19 < 2 ^ 31 by omega)]; rintro (z | z); exact absurd ((nI_eq (by omega) (by omega)).mp z) (by omega); exact absurd (show s_isBit (vs (2 * j8 + 5)) j19 = true from z) (by rw [c_41]; decide)), (show (fun val => kwf (fun k => decide (hv k = val)) nh 0) (T.vl (a + 1)) = nI j19 from ej19)]), (((hX0.tr hrt43).new hx01).new hx02), ((hWk43.up he43_a1 (by decide) (by decide)).up hx_53 (by decide) (by decide)), fun vs' g1 g2 => (hvU43.setH (vs' := fun k => if k = 2 * j8 + 5 then vs (2 * j8 + 5) ||| (1 : Int32) <<< (nI j19 &&& 31) else vs k) (show j8 < nh by omega) hf1 he43_a1 (by show (if 2 * j8 + 4 = 2 * j8 + 5 then _ else _) = _; rw [if_neg (by omega)]) (if_pos rfl) (fun k hk hne => ⟨by show (if 2 * k + 4 = 2 * j8 + 5 then _ else _) = _; rw [if_neg (by omega)], by show (if 2 * k + 5 = 2 * j8 + 5 then _ else _) = _; rw [if_neg (by omega)]⟩) (fun k q hk hq => by show (if 5 * k + 12 + q = 2 * j8 + 5 then _ else _) = _; rw [if_neg (by omega)])).setH (vs' := vs') (show j19 < nh by omega) hf2 hx_53 ((g1 j19 (by omega)).1) (by rw [(g1 j19 (by omega)).2, if_neg (by omega), if_pos rfl]) (fun k hk hne => ⟨by rw [(g1 k hk).1]; show _ = (if 2 * k + 4 = 2 * j8 + 5 then _ else _); rw [if_neg (by omega)], by rw [(g1 k hk).2]; show _ = (if 2 * k + 5 = 2 * j8 + 5 then _ else _); by_cases e : k = j8; (· rw [if_pos e, if_pos (by omega), e]); rw [if_neg e, if_neg hne, if_neg (by omega)]⟩) (fun k q hk hq => by rw [g2 k q hk hq]; show _ = (if 5 * k + 12 + q = 2 * j8 + 5 then _ else _); rw [if_neg (by omega)])⟩
    · -- s_isBit (vs (2 * j8 + 5)) j19 = true
      refine z_aload_n 2 dX2_line_137 rfl ?_
      refine z_iconst (v := 3) dX2_line_138 (by decide) ?_
      refine z_callV (As := [.int 3]) (rd_wrong hr13 3) q540 q542 qs4 q113 q543 nm_X2_wrong hr13 rfl rfl rfl (Nat.le_of_ble_eq_true rfl) ⟨Nat.le_of_ble_eq_true rfl, Nat.le_of_ble_eq_true rfl⟩ dX2_line_139 rfl rfl (Nat.le_of_ble_eq_true rfl) (Nat.le_of_ble_eq_true rfl) (fun v_84 X_85 hp_86 => ?_)
      obtain ⟨q_68, rfl, h7, hnq_68, hzq_68⟩ := hp_86
      subst h7
      have ne_69 : r ≠ q_68 := fun q9 => by rw [← q9, hr13] at hnq_68; cases hnq_68
      have ne_70 : T.x ≠ q_68 := fun q9 => by rw [← q9, hx13] at hnq_68; cases hnq_68
      have ne_71 : v ≠ q_68 := fun q9 => by rw [← q9, he13_v] at hnq_68; cases hnq_68
      have ne_72 : a1 ≠ q_68 := fun q9 => by rw [← q9, ha1] at hnq_68; cases hnq_68
      have ne_73 : a2 ≠ q_68 := fun q9 => by rw [← q9, ha2] at hnq_68; cases hnq_68
      have ne_74 : B.lh ≠ q_68 := fun q9 => by rw [← q9, l5] at hnq_68; cases hnq_68
      have ne_75 : B.eh ≠ q_68 := fun q9 => by rw [← q9, l6] at hnq_68; cases hnq_68
      have hx_76 : (zup X12 q_68 (.inr (6, [.null, .null, .null, .null, .null, .int 0, .int (nI ((16 * T.pl (a + 1) + 3)))]))) r = some (rdT T (a + 1) va13 w (some v)) := zup_k ne_69 hr13
      have hx_77 : (zup X12 q_68 (.inr (6, [.null, .null, .null, .null, .null, .int 0, .int (nI ((16 * T.pl (a + 1) + 3)))]))) T.x = some (.inl (zar g 1, 1000, .inl T.t)) := zup_k ne_70 hx13
      have hx_78 : (zup X12 q_68 (.inr (6, [.null, .null, .null, .null, .null, .int 0, .int (nI ((16 * T.pl (a + 1) + 3)))]))) v = some (.inr (3, [.ref B.lh, .ref B.lg, .int st, va_rf (fa)])) := zup_k ne_71 he13_v
      have hx_79 : (zup X12 q_68 (.inr (6, [.null, .null, .null, .null, .null, .int 0, .int (nI ((16 * T.pl (a + 1) + 3)))]))) a1 = some (.inr (7, [.ref nm1, .int (vs (2 * j8 + 4)), .int (vs (2 * j8 + 5))])) := zup_k ne_72 ha1
      have hx_80 : (zup X12 q_68 (.inr (6, [.null, .null, .null, .null, .null, .int 0, .int (nI ((16 * T.pl (a + 1) + 3)))]))) a2 = some (.inr (7, [.ref nm2, .int (vs (2 * j19 + 4)), .int (vs (2 * j19 + 5))])) := zup_k ne_73 ha2
      have hx_81 : (zup X12 q_68 (.inr (6, [.null, .null, .null, .null, .null, .int 0, .int (nI ((16 * T.pl (a + 1) + 3)))]))) B.lh = some (.inr (23, [.int B.mh, .ref B.eh, .int (nI (nh))])) := zup_k ne_74 l5
      have hx_82 : (zup X12 q_68 (.inr (6, [.null, .null, .null, .null, .null, .int 0, .int (nI ((16 * T.pl (a + 1) + 3)))]))) B.eh = some (.inl (zar g 4, B.ch, .inr (.inr (.inr (.inr B.fh))))) := zup_k ne_75 l6
      have hx_83 : (zup X12 q_68 (.inr (6, [.null, .null, .null, .null, .null, .int 0, .int (nI ((16 * T.pl (a + 1) + 3)))]))) q_68 = some (.inr (6, [.null, .null, .null, .null, .null, .int 0, .int (nI ((16 * T.pl (a + 1) + 3)))])) := zup_s
      refine z_st (st' := [.ref q_68]) rfl ?_
      exact z_athrow hx_83 rfl dX2_line_142 rfl (Nat.le_of_ble_eq_true rfl) (Nat.le_of_ble_eq_true rfl) ⟨(16 * T.pl (a + 1) + 3), (by omega), (by unfold k_pair k_two; rw [he8]; rw [if_pos rfl, if_pos hi12, if_pos (show 0 ≤ (fun val => kwf (fun k => decide (hv k = val)) nh 0) (T.vl (a + 1)) from hz19), if_pos (Or.inr (by rw [(show (fun val => kwf (fun k => decide (hv k = val)) nh 0) (T.vl (a + 1)) = nI j19 from ej19), k_cl (show j8 < 2 ^ 31 by omega), k_cl (show j19 < 2 ^ 31 by omega)]; exact c_41)), s_wr_e]), rfl, (hrt13.nw hnq_68), ⟨_, _, _, hx_76⟩, hx_83⟩
section ZPG
variable {g : zG} {M : zMth} {P : zPo} {k n : Nat} {X : zX} {pc index : Nat} {lv : List (Nat × Value)} {st : List Value}
theorem z_putG {a k0 s : Nat} {y1 y2 y3 y4 x : Int32} {X' : zX} (hx : X a = some (.inr (8 + k0, [.ref s, .int y1, .int y2, .int y3, .int y4]))) (hk0 : k0 ≤ 3) (hlk : Cond.fieldLink M.1.cls index "DateVale$Guest" "foes" "I" ∈ lw_all) (ha : z0 g ≤ a) (hd : decode M.2.1 pc = .ok (.putfield index, 3)) (hX : zup X a (.inr (8 + k0, [.ref s, .int y1, .int y2, .int y3, .int x])) = X') (kk : zZ g M P k n X' (pc + 3) lv st) : zZ g M P k n X pc lv (.int x :: .ref a :: st) := by
  rcases (by omega : k0 = 0 ∨ k0 = 1 ∨ k0 = 2 ∨ k0 = 3) with rfl | rfl | rfl | rfl
  · exact z_put 4 hx rfl in_X8 (by decide) tyX8 tyX8_ok nmX8 hlk rfl (tyX8_ok 4 (by decide)) rfl rfl (Nat.le_of_ble_eq_true rfl) ha hd hX kk
  · exact z_put 4 hx rfl in_X9 (by decide) tyX9 tyX9_ok nmX9 hlk rfl (tyX9_ok 4 (by decide)) rfl rfl (Nat.le_of_ble_eq_true rfl) ha hd hX kk
  · exact z_put 4 hx rfl in_X10 (by decide) tyX10 tyX10_ok nmX10 hlk rfl (tyX10_ok 4 (by decide)) rfl rfl (Nat.le_of_ble_eq_true rfl) ha hd hX kk
  · exact z_put 4 hx rfl in_X11 (by decide) tyX11 tyX11_ok nmX11 hlk rfl (tyX11_ok 4 (by decide)) rfl rfl (Nat.le_of_ble_eq_true rfl) ha hd hX kk
end ZPG
set_option maxHeartbeats 4000000 in
theorem rd_line_3 {g : zG} {X : zX} {r a w : Nat} {T : rTP} {X0 : zX} {v nh nd : Nat} {B : vB} {vs : Nat → Int32} {hv gv : Nat → Int64} {st : Int32} {fa : Option Nat} (hT : rTk T) (hW : rW g X r T a w (some v)) (hX0 : rto X0 X r) (hU0 : vU g X0 X v B vs nh nd hv gv st fa) (hnh : nh ≤ 4) (hnd : nd ≤ 6) : zV g m_X2_line ({ frames := 8, cells := 11, slots := 69, locals := 193 } : Room) [.ref r, .int 3] X (fun rv X' => rv = none ∧ ∃ i j, i < nd ∧ j < nd ∧ ¬ i = j ∧ k_pair T.kd T.pl T.vl T.wd (fun val => kwf (fun k => decide (gv k = val)) nd 0) (fun i => vs (5 * i + 16)) a = (nI i, nI j, a + 2, 0) ∧ rto X0 X' r ∧ rW g X' r T (a + 2) w (some v) ∧ (∀ vs' : Nat → Int32, (∀ k, k < nh → vs' (2 * k + 4) = vs (2 * k + 4) ∧ vs' (2 * k + 5) = vs (2 * k + 5)) → (∀ k q, k < nd → q < 5 → vs' (5 * k + 12 + q) = if q = 4 then (if k = i then vs (5 * k + 16) ||| (1 : Int32) <<< (nI j &&& 31) else if k = j then vs (5 * k + 16) ||| (1 : Int32) <<< (nI i &&& 31) else vs (5 * k + 16)) else vs (5 * k + 12 + q)) → vU g X0 X' v B vs' nh nd hv gv st fa)) (fun q E X' => ∃ f, ¬ f = 0 ∧ (k_pair T.kd T.pl T.vl T.wd (fun val => kwf (fun k => decide (gv k = val)) nd 0) (fun i => vs (5 * i + 16)) a).2.2.2 = f ∧ rX X r T (some v) f q E X') := by
  refine zV.of (by decide +kernel) (Nat.le_of_ble_eq_true rfl) rfl ?_
  refine z_lv (lv' := [(0, .ref r), (1, .int 3)]) [0, 1] rfl ?_
  have hn := hT.n
  have hW2 := hW
  obtain ⟨hr0, hx, hks, ha, va, hr, hva⟩ := hW
  have hcn := hT.c
  have hpl := hT.le ha
  have hto := hT.to ha
  have hk4 := hT.kd4 ha
  have hU := hU0
  obtain ⟨hv0, hv00, hxv, hlh, hlg, hlhg, hehg, hhU, hgU⟩ := hU0
  refine z_iload_n 1 dX2_line_0 rfl ?_
  refine z_tableIn (off := 217) 218 dX2_line_1 (by decide) (by decide) (by rfl) (by decide) ?_
  refine z_aload_n 0 dX2_line_218 rfl ?_
  refine z_aload_n 0 dX2_line_219 rfl ?_
  refine z_get (v := .ref v) 7 hr rfl in_X2 (by decide) q175 rfl dX2_line_220 ?_
  refine z_aload_n 0 dX2_line_223 rfl ?_
  refine z_callVx (As := []) (rd_name hT hW2) q624 q626 qs8 q113 q627 nm_X2_name hr rfl rfl rfl (Nat.le_of_ble_eq_true rfl) ⟨Nat.le_of_ble_eq_true rfl, Nat.le_of_ble_eq_true rfl⟩ dX2_line_224 rfl rfl (Nat.le_of_ble_eq_true rfl) (Nat.le_of_ble_eq_true rfl) rfl (fun q9 E9 X8 hp9 => by obtain ⟨f9, hf9, hs9, hx9⟩ := hp9; exact ⟨f9, hf9, (by have hs8 : k_told T.kd T.pl T.vl T.wd (fun val => kwf (fun k => decide (gv k = val)) nd 0) a 0 = (0, a, f9) := (by unfold k_told; rw [if_pos rfl, if_neg (show ¬ s_isN T.kd T.vl T.wd a 0 = true by rw [hs9.1]; decide), hs9.2]); unfold k_pair k_two; rw [hs8, if_neg hf9]), hx9.tr rto.rf⟩) (fun v_3 X1 hp_4 => ?_)
  obtain ⟨s1, rfl, hi1, hn1, hzs1, hkS1, ht1, hw1⟩ := hp_4
  have hWk2 := hw1
  obtain ⟨-, hx2, hks2, ha2, va2, hr2, hva2⟩ := hw1
  have hrt2 := rto.rf.tr ht1
  have he2_v := ht1 _ _ (zne hxv hr (by unfold rdT; simp)) hxv
  have hvU2 := hU.to hr ht1
  have hpl2 := hT.le ha2
  have hto2 := hT.to ha2
  have hk42 := hT.kd4 ha2
  refine z_st (st' := [.ref s1, .ref v, .ref r]) rfl ?_
  refine z_callV (As := [.ref s1]) (rd_guestU hvU2 hkS1) q802 q803 q804 q114 q805 nm_X3_guest he2_v rfl rfl rfl (Nat.le_of_ble_eq_true rfl) ⟨Nat.le_of_ble_eq_true rfl, Nat.le_of_ble_eq_true rfl⟩ dX2_line_227 rfl rfl (Nat.le_of_ble_eq_true rfl) (Nat.le_of_ble_eq_true rfl) (fun v_5 X_6 hp_7 => ?_)
  obtain ⟨rfl, h7⟩ := hp_7
  replace h7 := h7.symm
  subst h7
  refine z_st (st' := [.int (kwf (fun k => decide (gv k = (T.vl a))) nd 0), .ref r]) rfl ?_
  refine z_callVx (As := [.int (kwf (fun k => decide (gv k = (T.vl a))) nd 0)]) (rd_passed hT hWk2 (hT.lt ha2 (by rw [(s_isN_k hi1).2]; decide)).1 (kwf (fun k => decide (gv k = (T.vl a))) nd 0)) q893 q895 qs15 q113 q896 nm_X2_passed hr2 rfl rfl rfl (Nat.le_of_ble_eq_true rfl) ⟨Nat.le_of_ble_eq_true rfl, Nat.le_of_ble_eq_true rfl⟩ dX2_line_230 rfl rfl (Nat.le_of_ble_eq_true rfl) (Nat.le_of_ble_eq_true rfl) rfl (fun q9 E9 X8 hp9 => by obtain ⟨f9, hf9, hs9, hx9⟩ := hp9; exact ⟨f9, hf9, (by have hs8 : k_told T.kd T.pl T.vl T.wd (fun val => kwf (fun k => decide (gv k = val)) nd 0) a 0 = (0, a, f9) := (by unfold k_told; rw [if_pos rfl, if_pos hi1, if_neg (show ¬ 0 ≤ (fun val => kwf (fun k => decide (gv k = val)) nd 0) (T.vl a) from hs9.1), hs9.2]); unfold k_pair k_two; rw [hs8, if_neg hf9]), hx9.tr hrt2⟩) (fun v_10 X8 hp_11 => ?_)
  obtain ⟨hz8, rfl, ht8, hw8⟩ := hp_11
  have hWk9 := hw8
  obtain ⟨-, hx9, hks9, ha9, va9, hr9, hva9⟩ := hw8
  have hrt9 := hrt2.tr ht8
  have he9_v := ht8 _ _ (zne he2_v hr2 (by unfold rdT; simp)) he2_v
  have hvU9 := hvU2.to hr2 ht8
  have hst9_s1 := hkS1.to hr2 (by decide) ht8
  have hpl9 := hT.le ha9
  have hto9 := hT.to ha9
  have hk49 := hT.kd4 ha9
  obtain ⟨j8, -, hj8, ej8⟩ : ∃ j, 0 ≤ j ∧ j < 0 + nd ∧ kwf (fun k => decide (gv k = (T.vl a))) nd 0 = nI j := (kwf_k nd 0).resolve_left (Int32.not_lt.mpr hz8)
  have he8 : k_told T.kd T.pl T.vl T.wd (fun val => kwf (fun k => decide (gv k = val)) nd 0) a 0 = (nI j8, (a + 1), 0) := by unfold k_told; rw [if_pos rfl, if_pos hi1, if_pos (show 0 ≤ (fun val => kwf (fun k => decide (gv k = val)) nd 0) (T.vl a) from hz8)]; exact congrArg (fun z => (z, (a + 1), 0)) ej8
  refine z_st (st' := [.int (kwf (fun k => decide (gv k = (T.vl a))) nd 0)]) rfl ?_
  refine z_eq (y := nI (j8)) ej8 ?_
  refine z_istore_n (lv' := [(2, .int (nI (j8))), (0, .ref r), (1, .int 3)]) dX2_line_233 rfl (by decide) rfl ?_
  refine z_aload_n 1 dX2_line_234 rfl ?_
  refine z_aload_n 1 dX2_line_235 rfl ?_
  refine z_get (v := .ref v) 7 hr9 rfl in_X2 (by decide) q175 rfl dX2_line_236 ?_
  refine z_aload_n 1 dX2_line_239 rfl ?_
  refine z_callVx (As := []) (rd_name hT hWk9) q624 q626 qs8 q113 q627 nm_X2_name hr9 rfl rfl rfl (Nat.le_of_ble_eq_true rfl) ⟨Nat.le_of_ble_eq_true rfl, Nat.le_of_ble_eq_true rfl⟩ dX2_line_240 rfl rfl (Nat.le_of_ble_eq_true rfl) (Nat.le_of_ble_eq_true rfl) rfl (fun q9 E9 X8 hp9 => by obtain ⟨f9, hf9, hs9, hx9⟩ := hp9; exact ⟨f9, hf9, (by unfold k_pair k_two; rw [he8]; rw [if_pos rfl, if_neg (show ¬ s_isN T.kd T.vl T.wd (a + 1) 0 = true by rw [hs9.1]; decide), hs9.2]), hx9.tr hrt9⟩) (fun v_14 X12 hp_15 => ?_)
  obtain ⟨s12, rfl, hi12, hn12, hzs12, hkS12, ht12, hw12⟩ := hp_15
  have hWk13 := hw12
  obtain ⟨-, hx13, hks13, ha13, va13, hr13, hva13⟩ := hw12
  have hrt13 := hrt9.tr ht12
  have he13_v := ht12 _ _ (zne he9_v hr9 (by unfold rdT; simp)) he9_v
  have hvU13 := hvU9.to hr9 ht12
  have hst13_s1 := hst9_s1.to hr9 (by decide) ht12
  have hpl13 := hT.le ha13
  have hto13 := hT.to ha13
  have hk413 := hT.kd4 ha13
  refine z_st (st' := [.ref s12, .ref v, .ref r]) rfl ?_
  refine z_callV (As := [.ref s12]) (rd_guestU hvU13 hkS12) q802 q803 q804 q114 q805 nm_X3_guest he13_v rfl rfl rfl (Nat.le_of_ble_eq_true rfl) ⟨Nat.le_of_ble_eq_true rfl, Nat.le_of_ble_eq_true rfl⟩ dX2_line_243 rfl rfl (Nat.le_of_ble_eq_true rfl) (Nat.le_of_ble_eq_true rfl) (fun v_16 X_17 hp_18 => ?_)
  obtain ⟨rfl, h7⟩ := hp_18
  replace h7 := h7.symm
  subst h7
  refine z_st (st' := [.int (kwf (fun k => decide (gv k = (T.vl (a + 1)))) nd 0), .ref r]) rfl ?_
  refine z_callVx (As := [.int (kwf (fun k => decide (gv k = (T.vl (a + 1)))) nd 0)]) (rd_told hT hWk13 (kwf (fun k => decide (gv k = (T.vl (a + 1)))) nd 0)) q897 q899 qs16 q113 q900 nm_X2_told hr13 rfl rfl rfl (Nat.le_of_ble_eq_true rfl) ⟨Nat.le_of_ble_eq_true rfl, Nat.le_of_ble_eq_true rfl⟩ dX2_line_246 rfl rfl (Nat.le_of_ble_eq_true rfl) (Nat.le_of_ble_eq_true rfl) rfl (fun q9 E9 X8 hp9 => by obtain ⟨f9, hf9, hs9, hx9⟩ := hp9; exact ⟨f9, hf9, (by unfold k_pair k_two; rw [he8]; rw [if_pos rfl, if_pos hi12, if_neg (show ¬ 0 ≤ (fun val => kwf (fun k => decide (gv k = val)) nd 0) (T.vl (a + 1)) from hs9.1), hs9.2]), hx9.tr hrt13⟩) (fun v_20 X_21 hp_22 => ?_)
  obtain ⟨hz19, rfl, h7⟩ := hp_22
  replace h7 := h7.symm
  subst h7
  obtain ⟨j19, -, hj19, ej19⟩ : ∃ j, 0 ≤ j ∧ j < 0 + nd ∧ kwf (fun k => decide (gv k = (T.vl (a + 1)))) nd 0 = nI j := (kwf_k nd 0).resolve_left (Int32.not_lt.mpr hz19)
  refine z_st (st' := [.int (kwf (fun k => decide (gv k = (T.vl (a + 1)))) nd 0)]) rfl ?_
  refine z_eq (y := nI (j19)) ej19 ?_
  refine z_istore_n (lv' := [(3, .int (nI (j19))), (2, .int (nI (j8))), (0, .ref r), (1, .int 3)]) dX2_line_249 rfl (by decide) rfl ?_
  refine z_iload_n 1 dX2_line_250 rfl ?_
  refine z_iload_n 0 dX2_line_251 rfl ?_
  refine z_icmp_eqN (a := j8) (b := j19) 279 (by omega) (by omega) dX2_line_252 (by decide) (fun c_23 => ?_) (fun c_23 => ?_)
  · -- j8 = j19
    refine z_aload_n 2 dX2_line_279 rfl ?_
    refine z_iconst (v := 3) dX2_line_280 (by decide) ?_
    refine z_callV (As := [.int 3]) (rd_wrong hr13 3) q540 q542 qs4 q113 q543 nm_X2_wrong hr13 rfl rfl rfl (Nat.le_of_ble_eq_true rfl) ⟨Nat.le_of_ble_eq_true rfl, Nat.le_of_ble_eq_true rfl⟩ dX2_line_281 rfl rfl (Nat.le_of_ble_eq_true rfl) (Nat.le_of_ble_eq_true rfl) (fun v_32 X_33 hp_34 => ?_)
    obtain ⟨q_24, rfl, h7, hnq_24, hzq_24⟩ := hp_34
    subst h7
    have ne_25 : r ≠ q_24 := fun q9 => by rw [← q9, hr13] at hnq_24; cases hnq_24
    have ne_26 : T.x ≠ q_24 := fun q9 => by rw [← q9, hx13] at hnq_24; cases hnq_24
    have ne_27 : v ≠ q_24 := fun q9 => by rw [← q9, he13_v] at hnq_24; cases hnq_24
    have hx_28 : (zup X12 q_24 (.inr (6, [.null, .null, .null, .null, .null, .int 0, .int (nI ((16 * T.pl (a + 1) + 3)))]))) r = some (rdT T (a + 1) va13 w (some v)) := zup_k ne_25 hr13
    have hx_29 : (zup X12 q_24 (.inr (6, [.null, .null, .null, .null, .null, .int 0, .int (nI ((16 * T.pl (a + 1) + 3)))]))) T.x = some (.inl (zar g 1, 1000, .inl T.t)) := zup_k ne_26 hx13
    have hx_30 : (zup X12 q_24 (.inr (6, [.null, .null, .null, .null, .null, .int 0, .int (nI ((16 * T.pl (a + 1) + 3)))]))) v = some (.inr (3, [.ref B.lh, .ref B.lg, .int st, va_rf (fa)])) := zup_k ne_27 he13_v
    have hx_31 : (zup X12 q_24 (.inr (6, [.null, .null, .null, .null, .null, .int 0, .int (nI ((16 * T.pl (a + 1) + 3)))]))) q_24 = some (.inr (6, [.null, .null, .null, .null, .null, .int 0, .int (nI ((16 * T.pl (a + 1) + 3)))])) := zup_s
    refine z_st (st' := [.ref q_24]) rfl ?_
    exact z_athrow hx_31 rfl dX2_line_284 rfl (Nat.le_of_ble_eq_true rfl) (Nat.le_of_ble_eq_true rfl) ⟨(16 * T.pl (a + 1) + 3), (by omega), (by unfold k_pair k_two; rw [he8]; rw [if_pos rfl, if_pos hi12, if_pos (show 0 ≤ (fun val => kwf (fun k => decide (gv k = val)) nd 0) (T.vl (a + 1)) from hz19), if_pos (Or.inl (by rw [(show (fun val => kwf (fun k => decide (gv k = val)) nd 0) (T.vl (a + 1)) = nI j19 from ej19), c_23])), s_wr_e]), rfl, (hrt13.nw hnq_24), ⟨_, _, _, hx_28⟩, hx_31⟩
  · -- j8 ≠ j19
    obtain ⟨hv0W, hv00W, hxvW, hlhW, hlgW, hneW, hneeW, hhW, hgW⟩ := id hvU13
    obtain ⟨l1, l2, l3, l4, l5, l6, l7, l8, l9⟩ := hlgW
    have hle9 := l7
    obtain ⟨a1, nm1, kk1, hf1, hz1, hx01, hkk1, hkv1, ha1, hn1⟩ := hgW.1 j8 (by omega)
    obtain ⟨a2, nm2, kk2, hf2, hz2, hx02, hkk2, hkv2, ha2, hn2⟩ := hgW.1 j19 (by omega)
    have hne12 : a1 ≠ a2 := fun z => absurd (hgW.2 j8 (by omega) j19 (by omega) (by rw [hf1, hf2, z])) (by omega)
    refine z_aload_n 2 dX2_line_255 rfl ?_
    refine z_get (v := .ref v) 7 hr13 rfl in_X2 (by decide) q175 rfl dX2_line_256 ?_
    refine z_getN (v := .ref B.lg) 1 he13_v rfl in_X3 (by decide) q235 rfl dX2_line_259 ?_
    refine z_iload_n 1 dX2_line_262 rfl ?_
    refine z_callV (As := [.int (nI (j8))]) (t_getL l5 l6 (by omega) j8 (by omega) hle9 hf1) q901 q312 q313 q117 q314 nm_J2_get l5 rfl rfl rfl (Nat.le_of_ble_eq_true rfl) ⟨Nat.le_of_ble_eq_true rfl, Nat.le_of_ble_eq_true rfl⟩ dX2_line_263 rfl rfl (Nat.le_of_ble_eq_true rfl) (Nat.le_of_ble_eq_true rfl) (fun v_35 X_36 hp_37 => ?_)
    obtain ⟨rfl, h7⟩ := hp_37
    replace h7 := h7.symm
    subst h7
    refine z_st (st' := [.ref a1]) rfl ?_
    refine z_castG ha1 hkk1 q914 dX2_line_266 ?_
    refine z_getG (v := .int (vs (5 * j8 + 16))) 4 ha1 hkk1 (by decide) q930 rfl dX2_line_269 ?_
    refine z_iload_n 0 dX2_line_272 rfl ?_
    refine z_callSN (As := [.int (vs (5 * j8 + 16)), .int (nI (j19))]) (c_isIn (vs (5 * j8 + 16)) j19) q902 q903 q112 q904 nm_X1_isIn rfl (Nat.le_of_ble_eq_true rfl) ⟨Nat.le_of_ble_eq_true rfl, Nat.le_of_ble_eq_true rfl⟩ dX2_line_273 rfl rfl (Nat.le_of_ble_eq_true rfl) (Nat.le_of_ble_eq_true rfl) (fun v_38 X_39 hp_40 => ?_)
    obtain ⟨rfl, h7⟩ := hp_40
    replace h7 := h7.symm
    subst h7
    refine z_st (st' := [.int (zb (s_isBit (vs (5 * j8 + 16)) j19))]) rfl ?_
    refine z_if_eqb 285 dX2_line_276 (by decide) (fun c_41 => ?_) (fun c_41 => ?_)
    · -- s_isBit (vs (5 * j8 + 16)) j19 = false
      refine z_aload_n 2 dX2_line_285 rfl ?_
      refine z_callV (As := []) (rd_nxt hT hWk13 (hT.lt ha13 (by rw [(s_isN_k hi12).2]; decide)).1) q408 q410 qs1 q113 q411 nm_X2_next hr13 rfl rfl rfl (Nat.le_of_ble_eq_true rfl) ⟨Nat.le_of_ble_eq_true rfl, Nat.le_of_ble_eq_true rfl⟩ dX2_line_286 rfl rfl (Nat.le_of_ble_eq_true rfl) (Nat.le_of_ble_eq_true rfl) (fun v_44 X42 hp_45 => ?_)
      obtain ⟨rfl, ht42, hw42⟩ := hp_45
      have hWk43 := hw42
      obtain ⟨-, hx43, hks43, ha43, va43, hr43, hva43⟩ := hw42
      have hrt43 := hrt13.tr ht42
      have he43_v := ht42 _ _ (zne he13_v hr13 (by unfold rdT; simp)) he13_v
      have he43_a1 := ht42 _ _ (zne ha1 hr13 (fun z => by unfold rdT at z; injection z with z; injection z with z1 z2; omega)) ha1
      have he43_a2 := ht42 _ _ (zne ha2 hr13 (fun z => by unfold rdT at z; injection z with z; injection z with z1 z2; omega)) ha2
      have he43_B.lg := ht42 _ _ (zne l5 hr13 (by unfold rdT; simp)) l5
      have he43_B.eg := ht42 _ _ (zne l6 hr13 (by unfold rdT; simp)) l6
      have hvU43 := hvU13.to hr13 ht42
      have hst43_s1 := hst13_s1.to hr13 (by decide) ht42
      have hst43_s12 := hkS12.to hr13 (by decide) ht42
      have hpl43 := hT.le ha43
      have hto43 := hT.to ha43
      have hk443 := hT.kd4 ha43
      refine z_st (st' := []) rfl ?_
      refine z_aload_n 2 dX2_line_289 rfl ?_
      refine z_get (v := .ref v) 7 hr43 rfl in_X2 (by decide) q175 rfl dX2_line_290 ?_
      refine z_getN (v := .ref B.lg) 1 he43_v rfl in_X3 (by decide) q235 rfl dX2_line_293 ?_
      refine z_iload_n 1 dX2_line_296 rfl ?_
      refine z_callV (As := [.int (nI (j8))]) (t_getL he43_B.lg he43_B.eg (by omega) j8 (by omega) hle9 hf1) q901 q312 q313 q117 q314 nm_J2_get he43_B.lg rfl rfl rfl (Nat.le_of_ble_eq_true rfl) ⟨Nat.le_of_ble_eq_true rfl, Nat.le_of_ble_eq_true rfl⟩ dX2_line_297 rfl rfl (Nat.le_of_ble_eq_true rfl) (Nat.le_of_ble_eq_true rfl) (fun v_46 X_47 hp_48 => ?_)
      obtain ⟨rfl, h7⟩ := hp_48
      replace h7 := h7.symm
      subst h7
      refine z_st (st' := [.ref a1]) rfl ?_
      refine z_castG he43_a1 hkk1 q914 dX2_line_300 ?_
      refine z_dup dX2_line_303 rfl ?_
      refine z_getG (v := .int (vs (5 * j8 + 16))) 4 he43_a1 hkk1 (by decide) q930 rfl dX2_line_304 ?_
      refine z_iconst (v := 1) dX2_line_307 (by decide) ?_
      refine z_iload_n 0 dX2_line_308 rfl ?_
      refine z_ishl dX2_line_309 ?_
      refine z_ior dX2_line_310 ?_
      obtain ⟨x_49, ex_49⟩ : ∃ y : Int32, ((vs (5 * j8 + 16)) ||| (1 <<< ((nI (j19)) &&& 31))) = y := ⟨_, rfl⟩
      refine z_eq ex_49 ?_
      refine z_putG (X' := (zup X42 a1 (.inr (8 + kk1, [.ref nm1, .int (vs (5 * j8 + 13)), .int (vs (5 * j8 + 14)), .int (vs (5 * j8 + 15)), .int x_49])))) he43_a1 hkk1 q930 hz1 dX2_line_311 rfl ?_
      have hx_50 : (zup X42 a1 (.inr (8 + kk1, [.ref nm1, .int (vs (5 * j8 + 13)), .int (vs (5 * j8 + 14)), .int (vs (5 * j8 + 15)), .int x_49]))) r = some (rdT T (a + 1 + 1) va43 w (some v)) := zup_k (zne hr43 he43_a1 (fun z => by unfold rdT at z; injection z with z; injection z with z1 z2; omega)) hr43
      have hx_51 : (zup X42 a1 (.inr (8 + kk1, [.ref nm1, .int (vs (5 * j8 + 13)), .int (vs (5 * j8 + 14)), .int (vs (5 * j8 + 15)), .int x_49]))) T.x = some (.inl (zar g 1, 1000, .inl T.t)) := zup_k (zne hx43 he43_a1 (fun z => by cases z)) hx43
      have hx_52 : (zup X42 a1 (.inr (8 + kk1, [.ref nm1, .int (vs (5 * j8 + 13)), .int (vs (5 * j8 + 14)), .int (vs (5 * j8 + 15)), .int x_49]))) v = some (.inr (3, [.ref B.lh, .ref B.lg, .int st, va_rf (fa)])) := zup_k (zne he43_v he43_a1 (fun z => by injection z with z; injection z with z1 z2; omega)) he43_v
      have hx_53 : (zup X42 a1 (.inr (8 + kk1, [.ref nm1, .int (vs (5 * j8 + 13)), .int (vs (5 * j8 + 14)), .int (vs (5 * j8 + 15)), .int x_49]))) a2 = some (.inr (8 + kk2, [.ref nm2, .int (vs (5 * j19 + 13)), .int (vs (5 * j19 + 14)), .int (vs (5 * j19 + 15)), .int (vs (5 * j19 + 16))])) := zup_k (Ne.symm hne12) he43_a2
      have hx_54 : (zup X42 a1 (.inr (8 + kk1, [.ref nm1, .int (vs (5 * j8 + 13)), .int (vs (5 * j8 + 14)), .int (vs (5 * j8 + 15)), .int x_49]))) B.lg = some (.inr (23, [.int B.mg, .ref B.eg, .int (nI (nd))])) := zup_k (zne he43_B.lg he43_a1 (fun z => by injection z with z; injection z with z1 z2; omega)) he43_B.lg
      have hx_55 : (zup X42 a1 (.inr (8 + kk1, [.ref nm1, .int (vs (5 * j8 + 13)), .int (vs (5 * j8 + 14)), .int (vs (5 * j8 + 15)), .int x_49]))) B.eg = some (.inl (zar g 4, B.cg, .inr (.inr (.inr (.inr B.fg))))) := zup_k (zne he43_B.eg he43_a1 (fun z => by cases z)) he43_B.eg
      have hx_56 : (zup X42 a1 (.inr (8 + kk1, [.ref nm1, .int (vs (5 * j8 + 13)), .int (vs (5 * j8 + 14)), .int (vs (5 * j8 + 15)), .int x_49]))) a1 = some (.inr (8 + kk1, [.ref nm1, .int (vs (5 * j8 + 13)), .int (vs (5 * j8 + 14)), .int (vs (5 * j8 + 15)), .int x_49])) := zup_s
      refine z_aload_n 2 dX2_line_314 rfl ?_
      refine z_get (v := .ref v) 7 hx_50 rfl in_X2 (by decide) q175 rfl dX2_line_315 ?_
      refine z_getN (v := .ref B.lg) 1 hx_52 rfl in_X3 (by decide) q235 rfl dX2_line_318 ?_
      refine z_iload_n 0 dX2_line_321 rfl ?_
      refine z_callV (As := [.int (nI (j19))]) (t_getL hx_54 hx_55 (by omega) j19 (by omega) hle9 hf2) q901 q312 q313 q117 q314 nm_J2_get hx_54 rfl rfl rfl (Nat.le_of_ble_eq_true rfl) ⟨Nat.le_of_ble_eq_true rfl, Nat.le_of_ble_eq_true rfl⟩ dX2_line_322 rfl rfl (Nat.le_of_ble_eq_true rfl) (Nat.le_of_ble_eq_true rfl) (fun v_57 X_58 hp_59 => ?_)
      obtain ⟨rfl, h7⟩ := hp_59
      replace h7 := h7.symm
      subst h7
      refine z_st (st' := [.ref a2]) rfl ?_
      refine z_castG hx_53 hkk2 q914 dX2_line_325 ?_
      refine z_dup dX2_line_328 rfl ?_
      refine z_getG (v := .int (vs (5 * j19 + 16))) 4 hx_53 hkk2 (by decide) q930 rfl dX2_line_329 ?_
      refine z_iconst (v := 1) dX2_line_332 (by decide) ?_
      refine z_iload_n 1 dX2_line_333 rfl ?_
      refine z_ishl dX2_line_334 ?_
      refine z_ior dX2_line_335 ?_
      obtain ⟨x_60, ex_60⟩ : ∃ y : Int32, ((vs (5 * j19 + 16)) ||| (1 <<< ((nI (j8)) &&& 31))) = y := ⟨_, rfl⟩
      refine z_eq ex_60 ?_
      refine z_putG (X' := (zup (zup X42 a1 (.inr (8 + kk1, [.ref nm1, .int (vs (5 * j8 + 13)), .int (vs (5 * j8 + 14)), .int (vs (5 * j8 + 15)), .int x_49]))) a2 (.inr (8 + kk2, [.ref nm2, .int (vs (5 * j19 + 13)), .int (vs (5 * j19 + 14)), .int (vs (5 * j19 + 15)), .int x_60])))) hx_53 hkk2 q930 hz2 dX2_line_336 rfl ?_
      have hx_61 : (zup (zup X42 a1 (.inr (8 + kk1, [.ref nm1, .int (vs (5 * j8 + 13)), .int (vs (5 * j8 + 14)), .int (vs (5 * j8 + 15)), .int x_49]))) a2 (.inr (8 + kk2, [.ref nm2, .int (vs (5 * j19 + 13)), .int (vs (5 * j19 + 14)), .int (vs (5 * j19 + 15)), .int x_60]))) r = some (rdT T (a + 1 + 1) va43 w (some v)) := zup_k (zne hx_50 hx_53 (fun z => by unfold rdT at z; injection z with z; injection z with z1 z2; omega)) hx_50
      have hx_62 : (zup (zup X42 a1 (.inr (8 + kk1, [.ref nm1, .int (vs (5 * j8 + 13)), .int (vs (5 * j8 + 14)), .int (vs (5 * j8 + 15)), .int x_49]))) a2 (.inr (8 + kk2, [.ref nm2, .int (vs (5 * j19 + 13)), .int (vs (5 * j19 + 14)), .int (vs (5 * j19 + 15)), .int x_60]))) T.x = some (.inl (zar g 1, 1000, .inl T.t)) := zup_k (zne hx_51 hx_53 (fun z => by cases z)) hx_51
      have hx_63 : (zup (zup X42 a1 (.inr (8 + kk1, [.ref nm1, .int (vs (5 * j8 + 13)), .int (vs (5 * j8 + 14)), .int (vs (5 * j8 + 15)), .int x_49]))) a2 (.inr (8 + kk2, [.ref nm2, .int (vs (5 * j19 + 13)), .int (vs (5 * j19 + 14)), .int (vs (5 * j19 + 15)), .int x_60]))) v = some (.inr (3, [.ref B.lh, .ref B.lg, .int st, va_rf (fa)])) := zup_k (zne hx_52 hx_53 (fun z => by injection z with z; injection z with z1 z2; omega)) hx_52
      have hx_64 : (zup (zup X42 a1 (.inr (8 + kk1, [.ref nm1, .int (vs (5 * j8 + 13)), .int (vs (5 * j8 + 14)), .int (vs (5 * j8 + 15)), .int x_49]))) a2 (.inr (8 + kk2, [.ref nm2, .int (vs (5 * j19 + 13)), .int (vs (5 * j19 + 14)), .int (vs (5 * j19 + 15)), .int x_60]))) B.lg = some (.inr (23, [.int B.mg, .ref B.eg, .int (nI (nd))])) := zup_k (zne hx_54 hx_53 (fun z => by injection z with z; injection z with z1 z2; omega)) hx_54
      have hx_65 : (zup (zup X42 a1 (.inr (8 + kk1, [.ref nm1, .int (vs (5 * j8 + 13)), .int (vs (5 * j8 + 14)), .int (vs (5 * j8 + 15)), .int x_49]))) a2 (.inr (8 + kk2, [.ref nm2, .int (vs (5 * j19 + 13)), .int (vs (5 * j19 + 14)), .int (vs (5 * j19 + 15)), .int x_60]))) B.eg = some (.inl (zar g 4, B.cg, .inr (.inr (.inr (.inr B.fg))))) := zup_k (zne hx_55 hx_53 (fun z => by cases z)) hx_55
      have hx_66 : (zup (zup X42 a1 (.inr (8 + kk1, [.ref nm1, .int (vs (5 * j8 + 13)), .int (vs (5 * j8 + 14)), .int (vs (5 * j8 + 15)), .int x_49]))) a2 (.inr (8 + kk2, [.ref nm2, .int (vs (5 * j19 + 13)), .int (vs (5 * j19 + 14)), .int (vs (5 * j19 + 15)), .int x_60]))) a1 = some (.inr (8 + kk1, [.ref nm1, .int (vs (5 * j8 + 13)), .int (vs (5 * j8 + 14)), .int (vs (5 * j8 + 15)), .int x_49])) := zup_k hne12 hx_56
      have hx_67 : (zup (zup X42 a1 (.inr (8 + kk1, [.ref nm1, .int (vs (5 * j8 + 13)), .int (vs (5 * j8 + 14)), .int (vs (5 * j8 + 15)), .int x_49]))) a2 (.inr (8 + kk2, [.ref nm2, .int (vs (5 * j19 + 13)), .int (vs (5 * j19 + 14)), .int (vs (5 * j19 + 15)), .int x_60]))) a2 = some (.inr (8 + kk2, [.ref nm2, .int (vs (5 * j19 + 13)), .int (vs (5 * j19 + 14)), .int (vs (5 * j19 + 15)), .int x_60])) := zup_s
      refine z_goto 369 dX2_line_339 (by decide) ?_
      subst ex_49
      subst ex_60
      exact z_vret dX2_line_369 rfl (Nat.le_of_ble_eq_true rfl) (Nat.le_of_ble_eq_true rfl) ⟨rfl, j8, j19, (by omega), (by omega), c_23, (by unfold k_pair k_two; rw [he8]; rw [if_pos rfl, if_pos hi12, if_pos (show 0 ≤ (fun val => kwf (fun k => decide (gv k = val)) nd 0) (T.vl (a + 1)) from hz19), if_neg (by rw [(show (fun val => kwf (fun k => decide (gv k = val)) nd 0) (T.vl (a + 1)) = nI j19 from ej19), k_cl (show j8 < 2 ^ 31 by omega), k_cl (show j19 < 2 ^ 31 by omega)]; rintro (z | z); exact absurd ((nI_eq (by omega) (by omega)).mp z) (by omega); exact absurd (show s_isBit (vs (5 * j8 + 16)) j19 = true from z) (by rw [c_41]; decide)), (show (fun val => kwf (fun k => decide (gv k = val)) nd 0) (T.vl (a + 1)) = nI j19 from ej19)]), (((hX0.tr hrt43).new hx01).new hx02), ((hWk43.up he43_a1 (by omega) (by omega)).up hx_53 (by omega) (by omega)), fun vs' g1 g2 => (hvU43.setG (vs' := fun k => if k = 5 * j8 + 16 then vs (5 * j8 + 16) ||| (1 : Int32) <<< (nI j19 &&& 31) else vs k) (show j8 < nd by omega) hf1 hkk1 he43_a1 (if_pos rfl) (fun k hk => ⟨by show (if 2 * k + 4 = 5 * j8 + 16 then _ else _) = _; rw [if_neg (by omega)], by show (if 2 * k + 5 = 5 * j8 + 16 then _ else _) = _; rw [if_neg (by omega)]⟩) (fun k q hk hq hne => by show (if 5 * k + 12 + q = 5 * j8 + 16 then _ else _) = _; rw [if_neg (by omega)])).setG (vs' := vs') (show j19 < nd by omega) hf2 hkk2 hx_53 (by show vs' (5 * j19 + 12 + 4) = _; rw [g2 j19 4 (by omega) (by decide), if_pos rfl, if_neg (by omega), if_pos rfl]) (fun k hk => ⟨by rw [(g1 k hk).1]; show _ = (if 2 * k + 4 = 5 * j8 + 16 then _ else _); rw [if_neg (by omega)], by rw [(g1 k hk).2]; show _ = (if 2 * k + 5 = 5 * j8 + 16 then _ else _); rw [if_neg (by omega)]⟩) (fun k q hk hq hne => by rw [g2 k q hk hq]; show _ = (if 5 * k + 12 + q = 5 * j8 + 16 then _ else vs (5 * k + 12 + q)); by_cases e4 : q = 4; (· subst e4; rw [if_pos rfl]; by_cases e : k = j8; (· rw [if_pos e, if_pos (by omega), e]); rw [if_neg e, if_neg (by omega), if_neg (by omega)]); rw [if_neg e4, if_neg (by omega)])⟩
    · -- s_isBit (vs (5 * j8 + 16)) j19 = true
      refine z_aload_n 2 dX2_line_279 rfl ?_
      refine z_iconst (v := 3) dX2_line_280 (by decide) ?_
      refine z_callV (As := [.int 3]) (rd_wrong hr13 3) q540 q542 qs4 q113 q543 nm_X2_wrong hr13 rfl rfl rfl (Nat.le_of_ble_eq_true rfl) ⟨Nat.le_of_ble_eq_true rfl, Nat.le_of_ble_eq_true rfl⟩ dX2_line_281 rfl rfl (Nat.le_of_ble_eq_true rfl) (Nat.le_of_ble_eq_true rfl) (fun v_84 X_85 hp_86 => ?_)
      obtain ⟨q_68, rfl, h7, hnq_68, hzq_68⟩ := hp_86
      subst h7
      have ne_69 : r ≠ q_68 := fun q9 => by rw [← q9, hr13] at hnq_68; cases hnq_68
      have ne_70 : T.x ≠ q_68 := fun q9 => by rw [← q9, hx13] at hnq_68; cases hnq_68
      have ne_71 : v ≠ q_68 := fun q9 => by rw [← q9, he13_v] at hnq_68; cases hnq_68
      have ne_72 : a1 ≠ q_68 := fun q9 => by rw [← q9, ha1] at hnq_68; cases hnq_68
      have ne_73 : a2 ≠ q_68 := fun q9 => by rw [← q9, ha2] at hnq_68; cases hnq_68
      have ne_74 : B.lg ≠ q_68 := fun q9 => by rw [← q9, l5] at hnq_68; cases hnq_68
      have ne_75 : B.eg ≠ q_68 := fun q9 => by rw [← q9, l6] at hnq_68; cases hnq_68
      have hx_76 : (zup X12 q_68 (.inr (6, [.null, .null, .null, .null, .null, .int 0, .int (nI ((16 * T.pl (a + 1) + 3)))]))) r = some (rdT T (a + 1) va13 w (some v)) := zup_k ne_69 hr13
      have hx_77 : (zup X12 q_68 (.inr (6, [.null, .null, .null, .null, .null, .int 0, .int (nI ((16 * T.pl (a + 1) + 3)))]))) T.x = some (.inl (zar g 1, 1000, .inl T.t)) := zup_k ne_70 hx13
      have hx_78 : (zup X12 q_68 (.inr (6, [.null, .null, .null, .null, .null, .int 0, .int (nI ((16 * T.pl (a + 1) + 3)))]))) v = some (.inr (3, [.ref B.lh, .ref B.lg, .int st, va_rf (fa)])) := zup_k ne_71 he13_v
      have hx_79 : (zup X12 q_68 (.inr (6, [.null, .null, .null, .null, .null, .int 0, .int (nI ((16 * T.pl (a + 1) + 3)))]))) a1 = some (.inr (8 + kk1, [.ref nm1, .int (vs (5 * j8 + 13)), .int (vs (5 * j8 + 14)), .int (vs (5 * j8 + 15)), .int (vs (5 * j8 + 16))])) := zup_k ne_72 ha1
      have hx_80 : (zup X12 q_68 (.inr (6, [.null, .null, .null, .null, .null, .int 0, .int (nI ((16 * T.pl (a + 1) + 3)))]))) a2 = some (.inr (8 + kk2, [.ref nm2, .int (vs (5 * j19 + 13)), .int (vs (5 * j19 + 14)), .int (vs (5 * j19 + 15)), .int (vs (5 * j19 + 16))])) := zup_k ne_73 ha2
      have hx_81 : (zup X12 q_68 (.inr (6, [.null, .null, .null, .null, .null, .int 0, .int (nI ((16 * T.pl (a + 1) + 3)))]))) B.lg = some (.inr (23, [.int B.mg, .ref B.eg, .int (nI (nd))])) := zup_k ne_74 l5
      have hx_82 : (zup X12 q_68 (.inr (6, [.null, .null, .null, .null, .null, .int 0, .int (nI ((16 * T.pl (a + 1) + 3)))]))) B.eg = some (.inl (zar g 4, B.cg, .inr (.inr (.inr (.inr B.fg))))) := zup_k ne_75 l6
      have hx_83 : (zup X12 q_68 (.inr (6, [.null, .null, .null, .null, .null, .int 0, .int (nI ((16 * T.pl (a + 1) + 3)))]))) q_68 = some (.inr (6, [.null, .null, .null, .null, .null, .int 0, .int (nI ((16 * T.pl (a + 1) + 3)))])) := zup_s
      refine z_st (st' := [.ref q_68]) rfl ?_
      exact z_athrow hx_83 rfl dX2_line_284 rfl (Nat.le_of_ble_eq_true rfl) (Nat.le_of_ble_eq_true rfl) ⟨(16 * T.pl (a + 1) + 3), (by omega), (by unfold k_pair k_two; rw [he8]; rw [if_pos rfl, if_pos hi12, if_pos (show 0 ≤ (fun val => kwf (fun k => decide (gv k = val)) nd 0) (T.vl (a + 1)) from hz19), if_pos (Or.inr (by rw [(show (fun val => kwf (fun k => decide (gv k = val)) nd 0) (T.vl (a + 1)) = nI j19 from ej19), k_cl (show j8 < 2 ^ 31 by omega), k_cl (show j19 < 2 ^ 31 by omega)]; exact c_41)), s_wr_e]), rfl, (hrt13.nw hnq_68), ⟨_, _, _, hx_76⟩, hx_83⟩
