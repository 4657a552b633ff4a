/-! EXPRESSIONS READ. Printed by t104.py -/
set_option maxRecDepth 100000
theorem s_fx.s {q : sRS → sRS} (h : s_fx q) {s : sRS} (hf : ¬ s.2.1 = 0) : q s = s := h s.1 s.2.1 s.2.2 hf
theorem cexp.nw {X : zX} {q d e : Nat} {e1 : va_E} {w : Int32 → Int32 → Int32 → Int32 → Int32} (h : cexp X d e w) (hq : X q = none) : cexp (zup X q e1) d e w := cexp.mono (fun b f hb => zup_k (fun z => by rw [z, hq] at hb; cases hb) hb) d e w h
theorem s_isS_i {kd : Nat → Nat} {vl : Nat → Int64} {a : Nat} {c : Int32} (h : s_isS kd vl a 0 c = true) : kd a = 3 := (s_isS_k h).2
section ZLDW
variable {g : zG} {M : zMth} {P : zPo} {k n : Nat} {X : zX} {pc : Nat} {lv : List (Nat × Value)} {st : List Value}
theorem z_ldcwS {index : Nat} {tx : String} (i : Nat) (hi : zstr[i]? = some (M.1.cls, index, tx)) (hd : decode M.2.1 pc = .ok (.ldc_w index, 3)) (kk : zZ g M P k n X (pc + 3) lv (.ref (zk g (10 + i)) :: st)) : zZ g M P k n X pc lv st := by
  intro p e s m args below meth c H locs ls C I S L T hT X9
  have hZ := C.2.2.2.2.2.2.2.1.2.2.2.2.2.2.2 i _ hi
  obtain ⟨t, a1, b1⟩ := kk p e s m args below meth c H locs ls C I S L T hT X9
  exact ⟨t, X9.ldcStringW C.1 C.2.2.2.2.2.1 (text := tx) (a := zk g (10 + i)) hZ.1 hZ.2 (g := F0 m pc ls st) rfl (by rw [C.2.1]; exact hd) t a1, b1⟩
end ZLDW
set_option maxHeartbeats 4000000 in
theorem rd_part_0 {g : zG} {X : zX} {r a : Nat} {vo : Option Nat} {T : rTP} (hT : rTk T) (hW : rW g X r T a 5 vo)  : zV g m_X2_part ({ frames := 6, cells := (2 * ((s_part T.kd T.pl T.vl T.wd 0 (a, 0, [])).1 - a) + 1), slots := (10 * ((s_part T.kd T.pl T.vl T.wd 0 (a, 0, [])).1 - a) + 7), locals := 135 } : Room) [.ref r] X (fun rv X' => ∃ e a', rv = some (.ref e) ∧ rE g X X' r T a a' 5 vo (s_part T.kd T.pl T.vl T.wd 0) e) (fun q E X' => ∃ f, ¬ f = 0 ∧ (s_part T.kd T.pl T.vl T.wd 0 (a, 0, [])).2.1 = f ∧ rX X r T vo f q E X') := by
  refine zV.of (by decide +kernel) (Nat.le_of_ble_eq_true rfl) rfl ?_
  refine z_lv (lv' := [(0, .ref r)]) [0] rfl ?_
  have hn := hT.n
  have hW2 := hW
  obtain ⟨hr0, hx, hks, ha, va, hr, hva⟩ := hW
  have hcn := hT.c
  have hpl := hT.le ha
  have hto := hT.to ha
  have hk4 := hT.kd4 ha
  refine z_aload_n 0 dX2_part_0 rfl ?_
  refine z_ldcwS 8 rfl dX2_part_1 ?_
  refine z_callV (As := [.ref (zk g 18)]) (rd_wh hT hW2 8 21 4 (by decide) (by decide) rfl (by decide) (by decide)) q516 q518 qs3 q113 q519 nm_X2_which hr rfl rfl rfl (Nat.le_of_ble_eq_true rfl) ⟨Nat.le_of_ble_eq_true rfl, Nat.le_of_ble_eq_true rfl⟩ dX2_part_4 rfl rfl (show 0 ≤ (2 * ((s_part T.kd T.pl T.vl T.wd 0 (a, 0, [])).1 - a) + 1) by omega) (show 0 ≤ (10 * ((s_part T.kd T.pl T.vl T.wd 0 (a, 0, [])).1 - a) + 7) by omega) (fun v_1 X_2 hp_3 => ?_)
  obtain ⟨rfl, h7⟩ := hp_3
  replace h7 := h7.symm
  subst h7
  refine z_st (st' := [.int (s_wh T.kd T.vl T.wd a 0 21 4)]) rfl ?_
  refine z_istore_n (lv' := [(1, .int (s_wh T.kd T.vl T.wd a 0 21 4)), (0, .ref r)]) dX2_part_7 rfl (by decide) rfl ?_
  refine z_aload_n 1 dX2_part_8 rfl ?_
  refine z_ldcwS 9 rfl dX2_part_9 ?_
  refine z_callV (As := [.ref (zk g 19)]) (rd_wh hT hW2 9 18 1 (by decide) (by decide) rfl (by decide) (by decide)) q516 q518 qs3 q113 q519 nm_X2_which hr rfl rfl rfl (Nat.le_of_ble_eq_true rfl) ⟨Nat.le_of_ble_eq_true rfl, Nat.le_of_ble_eq_true rfl⟩ dX2_part_12 rfl rfl (show 0 ≤ (2 * ((s_part T.kd T.pl T.vl T.wd 0 (a, 0, [])).1 - a) + 1) by omega) (show 0 ≤ (10 * ((s_part T.kd T.pl T.vl T.wd 0 (a, 0, [])).1 - a) + 7) by omega) (fun v_4 X_5 hp_6 => ?_)
  obtain ⟨rfl, h7⟩ := hp_6
  replace h7 := h7.symm
  subst h7
  refine z_st (st' := [.int (s_wh T.kd T.vl T.wd a 0 18 1)]) rfl ?_
  refine z_if_lt 22 dX2_part_15 (by decide) (fun c_7 => ?_) (fun c_7 => ?_)
  · -- s_wh T.kd T.vl T.wd a 0 18 1 < 0
    have c_7' := Int32.not_le.mpr c_7
    refine z_iconst (v := 0) dX2_part_22 (by decide) ?_
    refine z_istore_n (lv' := [(2, .int 0), (1, .int (s_wh T.kd T.vl T.wd a 0 21 4)), (0, .ref r)]) dX2_part_23 rfl (by decide) rfl ?_
    refine z_aload_n 2 dX2_part_24 rfl ?_
    refine z_bipush (v := 40) dX2_part_25 (by decide) ?_
    refine z_callV (As := [.int 40]) (rd_isSign hT hW2 40) q1003 q1005 qs24 q113 q1006 nm_X2_isSign hr rfl rfl rfl (Nat.le_of_ble_eq_true rfl) ⟨Nat.le_of_ble_eq_true rfl, Nat.le_of_ble_eq_true rfl⟩ dX2_part_27 rfl rfl (show 0 ≤ (2 * ((s_part T.kd T.pl T.vl T.wd 0 (a, 0, [])).1 - a) + 1) by omega) (show 0 ≤ (10 * ((s_part T.kd T.pl T.vl T.wd 0 (a, 0, [])).1 - a) + 7) by omega) (fun v_8 X_9 hp_10 => ?_)
    obtain ⟨rfl, h7⟩ := hp_10
    replace h7 := h7.symm
    subst h7
    refine z_st (st' := [.int (zb (s_isS T.kd T.vl a 0 40))]) rfl ?_
    refine z_istore_n (lv' := [(3, .int (zb (s_isS T.kd T.vl a 0 40))), (2, .int 0), (1, .int (s_wh T.kd T.vl T.wd a 0 21 4)), (0, .ref r)]) dX2_part_30 rfl (by decide) rfl ?_
    refine z_iload_n 2 dX2_part_31 rfl ?_
    refine z_if_ge 57 dX2_part_32 (by decide) (fun c_11 => ?_) (fun c_11 => ?_)
    · -- 0 ≤ s_wh T.kd T.vl T.wd a 0 21 4
      have c_11' := Int32.not_lt.mpr c_11
      refine z_aload_n 3 dX2_part_57 rfl ?_
      refine z_get (v := .int 5) 6 hr rfl in_X2 (by decide) q174 rfl dX2_part_58 ?_
      refine z_iconst (v := 5) dX2_part_61 (by decide) ?_
      refine z_icmp_neN (a := 5) (b := 5) 71 (by decide) (by decide) dX2_part_62 (by decide) (fun h_ => absurd h_ (by decide)) (fun h_ => ?_)
      refine z_aload_n 3 dX2_part_65 rfl ?_
      refine z_iconst (v := 5) dX2_part_66 (by decide) ?_
      refine z_callV (As := [.int 5]) (rd_wrong hr 5) q540 q542 qs4 q113 q543 nm_X2_wrong hr rfl rfl rfl (Nat.le_of_ble_eq_true rfl) ⟨Nat.le_of_ble_eq_true rfl, Nat.le_of_ble_eq_true rfl⟩ dX2_part_67 rfl rfl (show 1 ≤ (2 * ((s_part T.kd T.pl T.vl T.wd 0 (a, 0, [])).1 - a) + 1) by omega) (show 7 ≤ (10 * ((s_part T.kd T.pl T.vl T.wd 0 (a, 0, [])).1 - a) + 7) by omega) (fun v_18 X_19 hp_20 => ?_)
      obtain ⟨q_12, rfl, h7, hnq_12, hzq_12⟩ := hp_20
      subst h7
      have ne_13 : r ≠ q_12 := fun q9 => by rw [← q9, hr] at hnq_12; cases hnq_12
      have ne_14 : T.x ≠ q_12 := fun q9 => by rw [← q9, hx] at hnq_12; cases hnq_12
      have hx_15 : (zup X q_12 (.inr (6, [.null, .null, .null, .null, .null, .int 0, .int (nI ((16 * T.pl a + 5)))]))) r = some (rdT T a va 5 vo) := zup_k ne_13 hr
      have hx_16 : (zup X q_12 (.inr (6, [.null, .null, .null, .null, .null, .int 0, .int (nI ((16 * T.pl a + 5)))]))) T.x = some (.inl (zar g 1, 1000, .inl T.t)) := zup_k ne_14 hx
      have hx_17 : (zup X q_12 (.inr (6, [.null, .null, .null, .null, .null, .int 0, .int (nI ((16 * T.pl a + 5)))]))) q_12 = some (.inr (6, [.null, .null, .null, .null, .null, .int 0, .int (nI ((16 * T.pl a + 5)))])) := zup_s
      refine z_st (st' := [.ref q_12]) rfl ?_
      exact z_athrow hx_17 rfl dX2_part_70 rfl (show 1 ≤ (2 * ((s_part T.kd T.pl T.vl T.wd 0 (a, 0, [])).1 - a) + 1) by omega) (show 7 ≤ (10 * ((s_part T.kd T.pl T.vl T.wd 0 (a, 0, [])).1 - a) + 7) by omega) ⟨(16 * T.pl a + 5), (by omega), (by rw [s_part_0]; simp only [if_true]; rw [if_neg (fun z => (Int32.not_lt.mpr c_11) z.1), s_wr_e]), rfl, (rto.rf.nw hnq_12), ⟨_, _, _, hx_15⟩, hx_17⟩
    · -- ¬ 0 ≤ s_wh T.kd T.vl T.wd a 0 21 4
      have c_11' := Int32.not_le.mp c_11
      refine z_iload_n 1 dX2_part_35 rfl ?_
      refine z_if_ne 57 dX2_part_36 (by decide) (fun h_ => absurd h_ (by decide)) (fun h_ => ?_)
      refine z_iload_n 0 dX2_part_39 rfl ?_
      refine z_if_neb 57 dX2_part_40 (by decide) (fun c_21 => ?_) (fun c_21 => ?_)
      · -- s_isS T.kd T.vl a 0 40 = true
        refine z_aload_n 3 dX2_part_57 rfl ?_
        refine z_get (v := .int 5) 6 hr rfl in_X2 (by decide) q174 rfl dX2_part_58 ?_
        refine z_iconst (v := 5) dX2_part_61 (by decide) ?_
        refine z_icmp_neN (a := 5) (b := 5) 71 (by decide) (by decide) dX2_part_62 (by decide) (fun h_ => absurd h_ (by decide)) (fun h_ => ?_)
        refine z_aload_n 3 dX2_part_65 rfl ?_
        refine z_iconst (v := 5) dX2_part_66 (by decide) ?_
        refine z_callV (As := [.int 5]) (rd_wrong hr 5) q540 q542 qs4 q113 q543 nm_X2_wrong hr rfl rfl rfl (Nat.le_of_ble_eq_true rfl) ⟨Nat.le_of_ble_eq_true rfl, Nat.le_of_ble_eq_true rfl⟩ dX2_part_67 rfl rfl (show 1 ≤ (2 * ((s_part T.kd T.pl T.vl T.wd 0 (a, 0, [])).1 - a) + 1) by omega) (show 7 ≤ (10 * ((s_part T.kd T.pl T.vl T.wd 0 (a, 0, [])).1 - a) + 7) by omega) (fun v_28 X_29 hp_30 => ?_)
        obtain ⟨q_22, rfl, h7, hnq_22, hzq_22⟩ := hp_30
        subst h7
        have ne_23 : r ≠ q_22 := fun q9 => by rw [← q9, hr] at hnq_22; cases hnq_22
        have ne_24 : T.x ≠ q_22 := fun q9 => by rw [← q9, hx] at hnq_22; cases hnq_22
        have hx_25 : (zup X q_22 (.inr (6, [.null, .null, .null, .null, .null, .int 0, .int (nI ((16 * T.pl a + 5)))]))) r = some (rdT T a va 5 vo) := zup_k ne_23 hr
        have hx_26 : (zup X q_22 (.inr (6, [.null, .null, .null, .null, .null, .int 0, .int (nI ((16 * T.pl a + 5)))]))) T.x = some (.inl (zar g 1, 1000, .inl T.t)) := zup_k ne_24 hx
        have hx_27 : (zup X q_22 (.inr (6, [.null, .null, .null, .null, .null, .int 0, .int (nI ((16 * T.pl a + 5)))]))) q_22 = some (.inr (6, [.null, .null, .null, .null, .null, .int 0, .int (nI ((16 * T.pl a + 5)))])) := zup_s
        refine z_st (st' := [.ref q_22]) rfl ?_
        exact z_athrow hx_27 rfl dX2_part_70 rfl (show 1 ≤ (2 * ((s_part T.kd T.pl T.vl T.wd 0 (a, 0, [])).1 - a) + 1) by omega) (show 7 ≤ (10 * ((s_part T.kd T.pl T.vl T.wd 0 (a, 0, [])).1 - a) + 7) by omega) ⟨(16 * T.pl a + 5), (by omega), (by rw [s_part_0]; simp only [if_true]; rw [if_neg (fun z => absurd (z.2.2.1.symm.trans c_21) (by decide)), s_wr_e]), rfl, (rto.rf.nw hnq_22), ⟨_, _, _, hx_25⟩, hx_27⟩
      · -- s_isS T.kd T.vl a 0 40 = false
        refine z_aload_n 3 dX2_part_43 rfl ?_
        refine z_get (v := .int (nI ((T.kd a)))) 3 hr rfl in_X2 (by decide) q171 rfl dX2_part_44 ?_
        refine z_iconst (v := 2) dX2_part_47 (by decide) ?_
        refine z_icmp_eqN (a := (T.kd a)) (b := 2) 57 (by omega) (by omega) dX2_part_48 (by decide) (fun c_31 => ?_) (fun c_31 => ?_)
        · -- (T.kd a) = 2
          refine z_aload_n 3 dX2_part_57 rfl ?_
          refine z_get (v := .int 5) 6 hr rfl in_X2 (by decide) q174 rfl dX2_part_58 ?_
          refine z_iconst (v := 5) dX2_part_61 (by decide) ?_
          refine z_icmp_neN (a := 5) (b := 5) 71 (by decide) (by decide) dX2_part_62 (by decide) (fun h_ => absurd h_ (by decide)) (fun h_ => ?_)
          refine z_aload_n 3 dX2_part_65 rfl ?_
          refine z_iconst (v := 5) dX2_part_66 (by decide) ?_
          refine z_callV (As := [.int 5]) (rd_wrong hr 5) q540 q542 qs4 q113 q543 nm_X2_wrong hr rfl rfl rfl (Nat.le_of_ble_eq_true rfl) ⟨Nat.le_of_ble_eq_true rfl, Nat.le_of_ble_eq_true rfl⟩ dX2_part_67 rfl rfl (show 1 ≤ (2 * ((s_part T.kd T.pl T.vl T.wd 0 (a, 0, [])).1 - a) + 1) by omega) (show 7 ≤ (10 * ((s_part T.kd T.pl T.vl T.wd 0 (a, 0, [])).1 - a) + 7) by omega) (fun v_38 X_39 hp_40 => ?_)
          obtain ⟨q_32, rfl, h7, hnq_32, hzq_32⟩ := hp_40
          subst h7
          have ne_33 : r ≠ q_32 := fun q9 => by rw [← q9, hr] at hnq_32; cases hnq_32
          have ne_34 : T.x ≠ q_32 := fun q9 => by rw [← q9, hx] at hnq_32; cases hnq_32
          have hx_35 : (zup X q_32 (.inr (6, [.null, .null, .null, .null, .null, .int 0, .int (nI ((16 * T.pl a + 5)))]))) r = some (rdT T a va 5 vo) := zup_k ne_33 hr
          have hx_36 : (zup X q_32 (.inr (6, [.null, .null, .null, .null, .null, .int 0, .int (nI ((16 * T.pl a + 5)))]))) T.x = some (.inl (zar g 1, 1000, .inl T.t)) := zup_k ne_34 hx
          have hx_37 : (zup X q_32 (.inr (6, [.null, .null, .null, .null, .null, .int 0, .int (nI ((16 * T.pl a + 5)))]))) q_32 = some (.inr (6, [.null, .null, .null, .null, .null, .int 0, .int (nI ((16 * T.pl a + 5)))])) := zup_s
          refine z_st (st' := [.ref q_32]) rfl ?_
          exact z_athrow hx_37 rfl dX2_part_70 rfl (show 1 ≤ (2 * ((s_part T.kd T.pl T.vl T.wd 0 (a, 0, [])).1 - a) + 1) by omega) (show 7 ≤ (10 * ((s_part T.kd T.pl T.vl T.wd 0 (a, 0, [])).1 - a) + 7) by omega) ⟨(16 * T.pl a + 5), (by omega), (by rw [s_part_0]; simp only [if_true]; rw [if_neg (fun z => z.2.1 c_31), s_wr_e]), rfl, (rto.rf.nw hnq_32), ⟨_, _, _, hx_35⟩, hx_37⟩
        · -- (T.kd a) ≠ 2
          refine z_aload_n 3 dX2_part_51 rfl ?_
          refine z_iconst (v := 1) dX2_part_52 (by decide) ?_
          refine z_callV (As := [.int 1]) (rd_wrong hr 1) q540 q542 qs4 q113 q543 nm_X2_wrong hr rfl rfl rfl (Nat.le_of_ble_eq_true rfl) ⟨Nat.le_of_ble_eq_true rfl, Nat.le_of_ble_eq_true rfl⟩ dX2_part_53 rfl rfl (show 1 ≤ (2 * ((s_part T.kd T.pl T.vl T.wd 0 (a, 0, [])).1 - a) + 1) by omega) (show 7 ≤ (10 * ((s_part T.kd T.pl T.vl T.wd 0 (a, 0, [])).1 - a) + 7) by omega) (fun v_47 X_48 hp_49 => ?_)
          obtain ⟨q_41, rfl, h7, hnq_41, hzq_41⟩ := hp_49
          subst h7
          have ne_42 : r ≠ q_41 := fun q9 => by rw [← q9, hr] at hnq_41; cases hnq_41
          have ne_43 : T.x ≠ q_41 := fun q9 => by rw [← q9, hx] at hnq_41; cases hnq_41
          have hx_44 : (zup X q_41 (.inr (6, [.null, .null, .null, .null, .null, .int 0, .int (nI ((16 * T.pl a + 1)))]))) r = some (rdT T a va 5 vo) := zup_k ne_42 hr
          have hx_45 : (zup X q_41 (.inr (6, [.null, .null, .null, .null, .null, .int 0, .int (nI ((16 * T.pl a + 1)))]))) T.x = some (.inl (zar g 1, 1000, .inl T.t)) := zup_k ne_43 hx
          have hx_46 : (zup X q_41 (.inr (6, [.null, .null, .null, .null, .null, .int 0, .int (nI ((16 * T.pl a + 1)))]))) q_41 = some (.inr (6, [.null, .null, .null, .null, .null, .int 0, .int (nI ((16 * T.pl a + 1)))])) := zup_s
          refine z_st (st' := [.ref q_41]) rfl ?_
          exact z_athrow hx_46 rfl dX2_part_56 rfl (show 1 ≤ (2 * ((s_part T.kd T.pl T.vl T.wd 0 (a, 0, [])).1 - a) + 1) by omega) (show 7 ≤ (10 * ((s_part T.kd T.pl T.vl T.wd 0 (a, 0, [])).1 - a) + 7) by omega) ⟨(16 * T.pl a + 1), (by omega), (by rw [s_part_0]; simp only [if_true]; rw [if_pos ⟨(Int32.not_le.mp c_11), c_31, c_21, s_wh_1.1.mp c_7⟩, s_wr_e]), rfl, (rto.rf.nw hnq_41), ⟨_, _, _, hx_44⟩, hx_46⟩
  · -- ¬ s_wh T.kd T.vl T.wd a 0 18 1 < 0
    have c_7' := Int32.not_lt.mp c_7
    refine z_iconst (v := 1) dX2_part_18 (by decide) ?_
    refine z_goto 23 dX2_part_19 (by decide) ?_
    refine z_istore_n (lv' := [(2, .int 1), (1, .int (s_wh T.kd T.vl T.wd a 0 21 4)), (0, .ref r)]) dX2_part_23 rfl (by decide) rfl ?_
    refine z_aload_n 2 dX2_part_24 rfl ?_
    refine z_bipush (v := 40) dX2_part_25 (by decide) ?_
    refine z_callV (As := [.int 40]) (rd_isSign hT hW2 40) q1003 q1005 qs24 q113 q1006 nm_X2_isSign hr rfl rfl rfl (Nat.le_of_ble_eq_true rfl) ⟨Nat.le_of_ble_eq_true rfl, Nat.le_of_ble_eq_true rfl⟩ dX2_part_27 rfl rfl (show 0 ≤ (2 * ((s_part T.kd T.pl T.vl T.wd 0 (a, 0, [])).1 - a) + 1) by omega) (show 0 ≤ (10 * ((s_part T.kd T.pl T.vl T.wd 0 (a, 0, [])).1 - a) + 7) by omega) (fun v_50 X_51 hp_52 => ?_)
    obtain ⟨rfl, h7⟩ := hp_52
    replace h7 := h7.symm
    subst h7
    refine z_st (st' := [.int (zb (s_isS T.kd T.vl a 0 40))]) rfl ?_
    refine z_istore_n (lv' := [(3, .int (zb (s_isS T.kd T.vl a 0 40))), (2, .int 1), (1, .int (s_wh T.kd T.vl T.wd a 0 21 4)), (0, .ref r)]) dX2_part_30 rfl (by decide) rfl ?_
    refine z_iload_n 2 dX2_part_31 rfl ?_
    refine z_if_ge 57 dX2_part_32 (by decide) (fun c_53 => ?_) (fun c_53 => ?_)
    · -- 0 ≤ s_wh T.kd T.vl T.wd a 0 21 4
      have c_53' := Int32.not_lt.mpr c_53
      refine z_aload_n 3 dX2_part_57 rfl ?_
      refine z_get (v := .int 5) 6 hr rfl in_X2 (by decide) q174 rfl dX2_part_58 ?_
      refine z_iconst (v := 5) dX2_part_61 (by decide) ?_
      refine z_icmp_neN (a := 5) (b := 5) 71 (by decide) (by decide) dX2_part_62 (by decide) (fun h_ => absurd h_ (by decide)) (fun h_ => ?_)
      refine z_aload_n 3 dX2_part_65 rfl ?_
      refine z_iconst (v := 5) dX2_part_66 (by decide) ?_
      refine z_callV (As := [.int 5]) (rd_wrong hr 5) q540 q542 qs4 q113 q543 nm_X2_wrong hr rfl rfl rfl (Nat.le_of_ble_eq_true rfl) ⟨Nat.le_of_ble_eq_true rfl, Nat.le_of_ble_eq_true rfl⟩ dX2_part_67 rfl rfl (show 1 ≤ (2 * ((s_part T.kd T.pl T.vl T.wd 0 (a, 0, [])).1 - a) + 1) by omega) (show 7 ≤ (10 * ((s_part T.kd T.pl T.vl T.wd 0 (a, 0, [])).1 - a) + 7) by omega) (fun v_60 X_61 hp_62 => ?_)
      obtain ⟨q_54, rfl, h7, hnq_54, hzq_54⟩ := hp_62
      subst h7
      have ne_55 : r ≠ q_54 := fun q9 => by rw [← q9, hr] at hnq_54; cases hnq_54
      have ne_56 : T.x ≠ q_54 := fun q9 => by rw [← q9, hx] at hnq_54; cases hnq_54
      have hx_57 : (zup X q_54 (.inr (6, [.null, .null, .null, .null, .null, .int 0, .int (nI ((16 * T.pl a + 5)))]))) r = some (rdT T a va 5 vo) := zup_k ne_55 hr
      have hx_58 : (zup X q_54 (.inr (6, [.null, .null, .null, .null, .null, .int 0, .int (nI ((16 * T.pl a + 5)))]))) T.x = some (.inl (zar g 1, 1000, .inl T.t)) := zup_k ne_56 hx
      have hx_59 : (zup X q_54 (.inr (6, [.null, .null, .null, .null, .null, .int 0, .int (nI ((16 * T.pl a + 5)))]))) q_54 = some (.inr (6, [.null, .null, .null, .null, .null, .int 0, .int (nI ((16 * T.pl a + 5)))])) := zup_s
      refine z_st (st' := [.ref q_54]) rfl ?_
      exact z_athrow hx_59 rfl dX2_part_70 rfl (show 1 ≤ (2 * ((s_part T.kd T.pl T.vl T.wd 0 (a, 0, [])).1 - a) + 1) by omega) (show 7 ≤ (10 * ((s_part T.kd T.pl T.vl T.wd 0 (a, 0, [])).1 - a) + 7) by omega) ⟨(16 * T.pl a + 5), (by omega), (by rw [s_part_0]; simp only [if_true]; rw [if_neg (fun z => (Int32.not_lt.mpr c_53) z.1), s_wr_e]), rfl, (rto.rf.nw hnq_54), ⟨_, _, _, hx_57⟩, hx_59⟩
    · -- ¬ 0 ≤ s_wh T.kd T.vl T.wd a 0 21 4
      have c_53' := Int32.not_le.mp c_53
      refine z_iload_n 1 dX2_part_35 rfl ?_
      refine z_if_ne 57 dX2_part_36 (by decide) (fun h_ => ?_) (fun h_ => absurd h_ (by decide))
      refine z_aload_n 3 dX2_part_57 rfl ?_
      refine z_get (v := .int 5) 6 hr rfl in_X2 (by decide) q174 rfl dX2_part_58 ?_
      refine z_iconst (v := 5) dX2_part_61 (by decide) ?_
      refine z_icmp_neN (a := 5) (b := 5) 71 (by decide) (by decide) dX2_part_62 (by decide) (fun h_ => absurd h_ (by decide)) (fun h_ => ?_)
      refine z_aload_n 3 dX2_part_65 rfl ?_
      refine z_iconst (v := 5) dX2_part_66 (by decide) ?_
      refine z_callV (As := [.int 5]) (rd_wrong hr 5) q540 q542 qs4 q113 q543 nm_X2_wrong hr rfl rfl rfl (Nat.le_of_ble_eq_true rfl) ⟨Nat.le_of_ble_eq_true rfl, Nat.le_of_ble_eq_true rfl⟩ dX2_part_67 rfl rfl (show 1 ≤ (2 * ((s_part T.kd T.pl T.vl T.wd 0 (a, 0, [])).1 - a) + 1) by omega) (show 7 ≤ (10 * ((s_part T.kd T.pl T.vl T.wd 0 (a, 0, [])).1 - a) + 7) by omega) (fun v_69 X_70 hp_71 => ?_)
      obtain ⟨q_63, rfl, h7, hnq_63, hzq_63⟩ := hp_71
      subst h7
      have ne_64 : r ≠ q_63 := fun q9 => by rw [← q9, hr] at hnq_63; cases hnq_63
      have ne_65 : T.x ≠ q_63 := fun q9 => by rw [← q9, hx] at hnq_63; cases hnq_63
      have hx_66 : (zup X q_63 (.inr (6, [.null, .null, .null, .null, .null, .int 0, .int (nI ((16 * T.pl a + 5)))]))) r = some (rdT T a va 5 vo) := zup_k ne_64 hr
      have hx_67 : (zup X q_63 (.inr (6, [.null, .null, .null, .null, .null, .int 0, .int (nI ((16 * T.pl a + 5)))]))) T.x = some (.inl (zar g 1, 1000, .inl T.t)) := zup_k ne_65 hx
      have hx_68 : (zup X q_63 (.inr (6, [.null, .null, .null, .null, .null, .int 0, .int (nI ((16 * T.pl a + 5)))]))) q_63 = some (.inr (6, [.null, .null, .null, .null, .null, .int 0, .int (nI ((16 * T.pl a + 5)))])) := zup_s
      refine z_st (st' := [.ref q_63]) rfl ?_
      exact z_athrow hx_68 rfl dX2_part_70 rfl (show 1 ≤ (2 * ((s_part T.kd T.pl T.vl T.wd 0 (a, 0, [])).1 - a) + 1) by omega) (show 7 ≤ (10 * ((s_part T.kd T.pl T.vl T.wd 0 (a, 0, [])).1 - a) + 7) by omega) ⟨(16 * T.pl a + 5), (by omega), (by rw [s_part_0]; simp only [if_true]; rw [if_neg (fun z => absurd (z.2.2.2.symm.trans (s_wh_1.2.mp c_7)) (by decide)), s_wr_e]), rfl, (rto.rf.nw hnq_63), ⟨_, _, _, hx_66⟩, hx_68⟩
