/-! THE READER: numbers, signs, what is told. Printed by t91.py -/
set_option maxRecDepth 100000
theorem rto.nw {X Y : zX} {r a : Nat} {e : va_E} (h : rto X Y r) (ha : Y a = none) : rto X (zup Y a e) r := fun q f hq hx => zup_k (fun z => by have h9 := h q f hq hx; rw [z, ha] at h9; cases h9) (h q f hq hx)
theorem rd_nxt {g : zG} {X : zX} {r a w : Nat} {vo : Option Nat} {T : rTP} (hT : rTk T) (hW : rW g X r T a w vo) (hal : a < T.cnt) : zN g m_X2_next ({ frames := 4, cells := 0, slots := 0, locals := 91 } : Room) [.ref r] X (fun rv X' => rv = none ∧ rto X X' r ∧ rW g X' r T (a + 1) w vo) :=
  zN.post (rd_next hT hW hal) (fun v X' hp => by
    obtain ⟨e1, va, e2, e3⟩ := hp
    rw [e2]
    exact ⟨e1, rto.up, hW.to (by omega) e3⟩)
theorem i64_lt {k l : Nat} (hk : k < 2 ^ 31) (hl : l < 2 ^ 31) : (Int64.ofNat k < (nI l).toInt64 ↔ k < l) ∧ (Int64.ofNat k ≤ (nI l).toInt64 ↔ k ≤ l) ∧ (Int64.ofNat k).toInt32 = nI k := by
  have e1 : (nI l).toInt64 = Int64.ofNat l := by
    apply Int64.toInt_inj.mp
    unfold nI
    rw [Int32.toInt_toInt64, Int32.toInt_ofNat_of_lt (by omega), Int64.toInt_ofNat_of_lt (by omega)]
  rw [e1, Int64.lt_iff_toInt_lt, Int64.le_iff_toInt_le, Int64.toInt_ofNat_of_lt (by omega), Int64.toInt_ofNat_of_lt (by omega)]
  refine ⟨by omega, by omega, ?_⟩
  apply Int32.toInt_inj.mp
  unfold nI
  rw [Int64.toInt_toInt32, Int64.toInt_ofNat_of_lt (by omega), Int32.toInt_ofNat_of_lt (by omega)]
  exact Int.bmod_eq_of_le (by omega) (by omega)
theorem s_tN_c {kd pl : Nat → Nat} {vl : Nat → Int64} {a lo hi k : Nat} (hl : lo < 2 ^ 31) (hh : hi < 2 ^ 31) (hk : k < 2 ^ 31) (h2 : kd a = 2) (hv : vl a = Int64.ofNat k) : s_tN kd pl vl a 0 (nI lo) (nI hi) = if k < lo then (0, a, s_wr pl a 0 4) else if k ≤ hi then (nI k, a + 1, 0) else (0, a, s_wr pl a 0 4) := by
  obtain ⟨g1, -, g3⟩ := i64_lt hk hl
  obtain ⟨-, g2, -⟩ := i64_lt hk hh
  unfold s_tN
  rw [if_pos rfl, if_pos h2, hv, g3]
  by_cases c1 : k < lo
  · rw [if_pos (g1.mpr c1), if_pos c1]
  · rw [if_neg (fun z => c1 (g1.mp z)), if_neg c1]
    by_cases c2 : k ≤ hi
    · rw [if_pos (g2.mpr c2), if_pos c2]
    · rw [if_neg (fun z => c2 (g2.mp z)), if_neg c2]
theorem s_wr_e {pl : Nat → Nat} {a w : Nat} : s_wr pl a 0 w = 16 * pl a + w := if_pos rfl
set_option maxHeartbeats 4000000 in
theorem rd_needc {g : zG} {X : zX} {r a w : Nat} {vo : Option Nat} {T : rTP} (hT : rTk T) (hW : rW g X r T a w vo) (q : Int32) : zV g m_X2_need_2 ({ frames := 6, cells := 1, slots := 7, locals := 135 } : Room) [.ref r, .int q] X (fun rv X' => rv = none ∧ s_tS T.kd T.pl T.vl a 0 q = (a + 1, 0) ∧ rto X X' r ∧ rW g X' r T (a + 1) w vo) (fun q9 E X' => ∃ f, ¬ f = 0 ∧ s_tS T.kd T.pl T.vl a 0 q = (a, f) ∧ rX X r T vo f q9 E X') := by
  refine zV.of (by decide +kernel) (Nat.le_of_ble_eq_true rfl) rfl ?_
  refine z_lv (lv' := [(0, .ref r), (1, .int q)]) [0, 1] rfl ?_
  have hn := hT.n
  have hW2 := hW
  obtain ⟨hr0, hx, hks, ha, va, hr, hva⟩ := hW
  have hcn := hT.c
  have hpl := hT.le ha
  have hto := hT.to ha
  have hk4 := hT.kd4 ha
  refine z_aload_n 0 dX2_need_2_0 rfl ?_
  refine z_iload_n 1 dX2_need_2_1 rfl ?_
  refine z_callV (As := [.int q]) (rd_isSign hT hW2 q) q1003 q1005 qs24 q113 q1006 nm_X2_isSign hr rfl rfl rfl (Nat.le_of_ble_eq_true rfl) ⟨Nat.le_of_ble_eq_true rfl, Nat.le_of_ble_eq_true rfl⟩ dX2_need_2_2 rfl rfl (Nat.le_of_ble_eq_true rfl) (Nat.le_of_ble_eq_true rfl) (fun v_1 X_2 hp_3 => ?_)
  obtain ⟨rfl, h7⟩ := hp_3
  replace h7 := h7.symm
  subst h7
  refine z_st (st' := [.int (zb (s_isS T.kd T.vl a 0 q))]) rfl ?_
  refine z_if_neb 14 dX2_need_2_5 (by decide) (fun c_4 => ?_) (fun c_4 => ?_)
  · -- s_isS T.kd T.vl a 0 q = true
    have hal := (hT.lt ha (by rw [(s_isS_k c_4).2]; decide)).1
    refine z_aload_n 0 dX2_need_2_14 rfl ?_
    refine z_callV (As := []) (rd_nxt hT hW2 (by omega)) q408 q410 qs1 q113 q411 nm_X2_next hr rfl rfl rfl (Nat.le_of_ble_eq_true rfl) ⟨Nat.le_of_ble_eq_true rfl, Nat.le_of_ble_eq_true rfl⟩ dX2_need_2_15 rfl rfl (Nat.le_of_ble_eq_true rfl) (Nat.le_of_ble_eq_true rfl) (fun v_8 X_5 hp_9 => ?_)
    obtain ⟨rfl, ht_6, hw_6⟩ := hp_9
    have hWk7 := hw_6
    obtain ⟨-, hx7, hks7, ha7, va7, hr7, hva7⟩ := hw_6
    have hrt7 := rto.rf.tr ht_6
    have hpl7 := hT.le ha7
    have hto7 := hT.to ha7
    have hk47 := hT.kd4 ha7
    refine z_st (st' := []) rfl ?_
    exact z_vret dX2_need_2_18 rfl (Nat.le_of_ble_eq_true rfl) (Nat.le_of_ble_eq_true rfl) ⟨rfl, (by unfold s_tS; rw [if_pos c_4]), hrt7, hWk7⟩
  · -- s_isS T.kd T.vl a 0 q = false
    refine z_aload_n 0 dX2_need_2_8 rfl ?_
    refine z_iconst (v := 1) dX2_need_2_9 (by decide) ?_
    refine z_callV (As := [.int 1]) (rd_wrong hr 1) q540 q542 qs4 q113 q543 nm_X2_wrong hr rfl rfl rfl (Nat.le_of_ble_eq_true rfl) ⟨Nat.le_of_ble_eq_true rfl, Nat.le_of_ble_eq_true rfl⟩ dX2_need_2_10 rfl rfl (Nat.le_of_ble_eq_true rfl) (Nat.le_of_ble_eq_true rfl) (fun v_16 X_17 hp_18 => ?_)
    obtain ⟨q_10, rfl, h7, hnq_10, hzq_10⟩ := hp_18
    subst h7
    have ne_11 : r ≠ q_10 := fun q9 => by rw [← q9, hr] at hnq_10; cases hnq_10
    have ne_12 : T.x ≠ q_10 := fun q9 => by rw [← q9, hx] at hnq_10; cases hnq_10
    have hx_13 : (zup X q_10 (.inr (6, [.null, .null, .null, .null, .null, .int 0, .int (nI ((16 * T.pl a + 1)))]))) r = some (rdT T a va w vo) := zup_k ne_11 hr
    have hx_14 : (zup X q_10 (.inr (6, [.null, .null, .null, .null, .null, .int 0, .int (nI ((16 * T.pl a + 1)))]))) T.x = some (.inl (zar g 1, 1000, .inl T.t)) := zup_k ne_12 hx
    have hx_15 : (zup X q_10 (.inr (6, [.null, .null, .null, .null, .null, .int 0, .int (nI ((16 * T.pl a + 1)))]))) q_10 = some (.inr (6, [.null, .null, .null, .null, .null, .int 0, .int (nI ((16 * T.pl a + 1)))])) := zup_s
    refine z_st (st' := [.ref q_10]) rfl ?_
    exact z_athrow hx_15 rfl dX2_need_2_13 rfl (Nat.le_of_ble_eq_true rfl) (Nat.le_of_ble_eq_true rfl) ⟨(16 * T.pl a + 1), (by omega), (by unfold s_tS; rw [if_neg (by rw [c_4]; decide), s_wr_e]), rfl, (rto.rf.nw hnq_10), ⟨_, _, _, hx_13⟩, hx_15⟩
set_option maxHeartbeats 4000000 in
theorem rd_number {g : zG} {X : zX} {r a w : Nat} {vo : Option Nat} {T : rTP} (hT : rTk T) (hW : rW g X r T a w vo) (lo hi : Nat) (hlo : lo < 2 ^ 31) (hhi : hi < 2 ^ 31) : zV g m_X2_number_2 ({ frames := 6, cells := 1, slots := 7, locals := 135 } : Room) [.ref r, .int (nI (lo)), .int (nI (hi))] X (fun rv X' => ∃ k, k < 10 ^ 4 ∧ lo ≤ k ∧ k ≤ hi ∧ rv = some (.int (nI k)) ∧ s_tN T.kd T.pl T.vl a 0 (nI lo) (nI hi) = (nI k, a + 1, 0) ∧ rto X X' r ∧ rW g X' r T (a + 1) w vo) (fun q E X' => ∃ f, ¬ f = 0 ∧ s_tN T.kd T.pl T.vl a 0 (nI lo) (nI hi) = (0, a, f) ∧ rX X r T vo f q E X') := by
  refine zV.of (by decide +kernel) (Nat.le_of_ble_eq_true rfl) rfl ?_
  refine z_lv (lv' := [(0, .ref r), (1, .int (nI (lo))), (2, .int (nI (hi)))]) [0, 1, 2] rfl ?_
  have hn := hT.n
  have hW2 := hW
  obtain ⟨hr0, hx, hks, ha, va, hr, hva⟩ := hW
  have hcn := hT.c
  have hpl := hT.le ha
  have hto := hT.to ha
  have hk4 := hT.kd4 ha
  refine z_aload_n 0 dX2_number_2_0 rfl ?_
  refine z_get (v := .int (nI ((T.kd a)))) 3 hr rfl in_X2 (by decide) q171 rfl dX2_number_2_1 ?_
  refine z_iconst (v := 2) dX2_number_2_4 (by decide) ?_
  refine z_icmp_eqN (a := (T.kd a)) (b := 2) 14 (by omega) (by omega) dX2_number_2_5 (by decide) (fun c_1 => ?_) (fun c_1 => ?_)
  · -- (T.kd a) = 2
    obtain ⟨hv1, hv2⟩ := hT.nu ha (by omega)
    have hal := (hT.lt ha (by omega)).1
    have hva9 := hva (by omega)
    have hv3 : k_nv T.t T.c T.n (T.pl a) < 2 ^ 31 := Nat.lt_trans hv2 (by decide)
    have hsp := s_tN_c (pl := T.pl) hlo hhi hv3 (show T.kd a = 2 by omega) hv1
    subst hva9
    refine z_aload_n 0 dX2_number_2_14 rfl ?_
    refine z_get (v := .int (nI (k_nv T.t T.c T.n (T.pl a)))) 5 hr rfl in_X2 (by decide) q173 rfl dX2_number_2_15 ?_
    refine z_iload_n 1 dX2_number_2_18 rfl ?_
    refine z_icmp_ltN (a := k_nv T.t T.c T.n (T.pl a)) (b := lo) 30 (by omega) (by omega) dX2_number_2_19 (by decide) (fun c_2 => ?_) (fun c_2 => ?_)
    · -- k_nv T.t T.c T.n (T.pl a) < lo
      refine z_aload_n 0 dX2_number_2_30 rfl ?_
      refine z_iconst (v := 4) dX2_number_2_31 (by decide) ?_
      refine z_callV (As := [.int 4]) (rd_wrong hr 4) q540 q542 qs4 q113 q543 nm_X2_wrong hr rfl rfl rfl (Nat.le_of_ble_eq_true rfl) ⟨Nat.le_of_ble_eq_true rfl, Nat.le_of_ble_eq_true rfl⟩ dX2_number_2_32 rfl rfl (Nat.le_of_ble_eq_true rfl) (Nat.le_of_ble_eq_true rfl) (fun v_9 X_10 hp_11 => ?_)
      obtain ⟨q_3, rfl, h7, hnq_3, hzq_3⟩ := hp_11
      subst h7
      have ne_4 : r ≠ q_3 := fun q9 => by rw [← q9, hr] at hnq_3; cases hnq_3
      have ne_5 : T.x ≠ q_3 := fun q9 => by rw [← q9, hx] at hnq_3; cases hnq_3
      have hx_6 : (zup X q_3 (.inr (6, [.null, .null, .null, .null, .null, .int 0, .int (nI ((16 * T.pl a + 4)))]))) r = some (rdT T a (nI (k_nv T.t T.c T.n (T.pl a))) w vo) := zup_k ne_4 hr
      have hx_7 : (zup X q_3 (.inr (6, [.null, .null, .null, .null, .null, .int 0, .int (nI ((16 * T.pl a + 4)))]))) T.x = some (.inl (zar g 1, 1000, .inl T.t)) := zup_k ne_5 hx
      have hx_8 : (zup X q_3 (.inr (6, [.null, .null, .null, .null, .null, .int 0, .int (nI ((16 * T.pl a + 4)))]))) q_3 = some (.inr (6, [.null, .null, .null, .null, .null, .int 0, .int (nI ((16 * T.pl a + 4)))])) := zup_s
      refine z_st (st' := [.ref q_3]) rfl ?_
      exact z_athrow hx_8 rfl dX2_number_2_35 rfl (Nat.le_of_ble_eq_true rfl) (Nat.le_of_ble_eq_true rfl) ⟨(16 * T.pl a + 4), (by omega), (by rw [hsp, s_wr_e]; (repeat' split) <;> first | rfl | omega), rfl, (rto.rf.nw hnq_3), ⟨_, _, _, hx_6⟩, hx_8⟩
    · -- lo ≤ k_nv T.t T.c T.n (T.pl a)
      refine z_aload_n 0 dX2_number_2_22 rfl ?_
      refine z_get (v := .int (nI (k_nv T.t T.c T.n (T.pl a)))) 5 hr rfl in_X2 (by decide) q173 rfl dX2_number_2_23 ?_
      refine z_iload_n 2 dX2_number_2_26 rfl ?_
      refine z_icmp_leN (a := k_nv T.t T.c T.n (T.pl a)) (b := hi) 36 (by omega) (by omega) dX2_number_2_27 (by decide) (fun c_12 => ?_) (fun c_12 => ?_)
      · -- k_nv T.t T.c T.n (T.pl a) ≤ hi
        refine z_aload_n 0 dX2_number_2_36 rfl ?_
        refine z_get (v := .int (nI (k_nv T.t T.c T.n (T.pl a)))) 5 hr rfl in_X2 (by decide) q173 rfl dX2_number_2_37 ?_
        refine z_istore_n (lv' := [(3, .int (nI (k_nv T.t T.c T.n (T.pl a)))), (0, .ref r), (1, .int (nI (lo))), (2, .int (nI (hi)))]) dX2_number_2_40 rfl (by decide) rfl ?_
        refine z_aload_n 1 dX2_number_2_41 rfl ?_
        refine z_callV (As := []) (rd_nxt hT hW2 (by omega)) q408 q410 qs1 q113 q411 nm_X2_next hr rfl rfl rfl (Nat.le_of_ble_eq_true rfl) ⟨Nat.le_of_ble_eq_true rfl, Nat.le_of_ble_eq_true rfl⟩ dX2_number_2_42 rfl rfl (Nat.le_of_ble_eq_true rfl) (Nat.le_of_ble_eq_true rfl) (fun v_16 X_13 hp_17 => ?_)
        obtain ⟨rfl, ht_14, hw_14⟩ := hp_17
        have hWk15 := hw_14
        obtain ⟨-, hx15, hks15, ha15, va15, hr15, hva15⟩ := hw_14
        have hrt15 := rto.rf.tr ht_14
        have hpl15 := hT.le ha15
        have hto15 := hT.to ha15
        have hk415 := hT.kd4 ha15
        refine z_st (st' := []) rfl ?_
        refine z_iload_n 0 dX2_number_2_45 rfl ?_
        exact z_iret dX2_number_2_46 rfl (Nat.le_of_ble_eq_true rfl) (Nat.le_of_ble_eq_true rfl) ⟨(k_nv T.t T.c T.n (T.pl a)), hv2, (by omega), (by omega), rfl, (by rw [hsp, if_neg (by omega), if_pos (by omega)]), hrt15, hWk15⟩
      · -- hi < k_nv T.t T.c T.n (T.pl a)
        refine z_aload_n 0 dX2_number_2_30 rfl ?_
        refine z_iconst (v := 4) dX2_number_2_31 (by decide) ?_
        refine z_callV (As := [.int 4]) (rd_wrong hr 4) q540 q542 qs4 q113 q543 nm_X2_wrong hr rfl rfl rfl (Nat.le_of_ble_eq_true rfl) ⟨Nat.le_of_ble_eq_true rfl, Nat.le_of_ble_eq_true rfl⟩ dX2_number_2_32 rfl rfl (Nat.le_of_ble_eq_true rfl) (Nat.le_of_ble_eq_true rfl) (fun v_24 X_25 hp_26 => ?_)
        obtain ⟨q_18, rfl, h7, hnq_18, hzq_18⟩ := hp_26
        subst h7
        have ne_19 : r ≠ q_18 := fun q9 => by rw [← q9, hr] at hnq_18; cases hnq_18
        have ne_20 : T.x ≠ q_18 := fun q9 => by rw [← q9, hx] at hnq_18; cases hnq_18
        have hx_21 : (zup X q_18 (.inr (6, [.null, .null, .null, .null, .null, .int 0, .int (nI ((16 * T.pl a + 4)))]))) r = some (rdT T a (nI (k_nv T.t T.c T.n (T.pl a))) w vo) := zup_k ne_19 hr
        have hx_22 : (zup X q_18 (.inr (6, [.null, .null, .null, .null, .null, .int 0, .int (nI ((16 * T.pl a + 4)))]))) T.x = some (.inl (zar g 1, 1000, .inl T.t)) := zup_k ne_20 hx
        have hx_23 : (zup X q_18 (.inr (6, [.null, .null, .null, .null, .null, .int 0, .int (nI ((16 * T.pl a + 4)))]))) q_18 = some (.inr (6, [.null, .null, .null, .null, .null, .int 0, .int (nI ((16 * T.pl a + 4)))])) := zup_s
        refine z_st (st' := [.ref q_18]) rfl ?_
        exact z_athrow hx_23 rfl dX2_number_2_35 rfl (Nat.le_of_ble_eq_true rfl) (Nat.le_of_ble_eq_true rfl) ⟨(16 * T.pl a + 4), (by omega), (by rw [hsp, s_wr_e]; (repeat' split) <;> first | rfl | omega), rfl, (rto.rf.nw hnq_18), ⟨_, _, _, hx_21⟩, hx_23⟩
  · -- (T.kd a) ≠ 2
    refine z_aload_n 0 dX2_number_2_8 rfl ?_
    refine z_iconst (v := 1) dX2_number_2_9 (by decide) ?_
    refine z_callV (As := [.int 1]) (rd_wrong hr 1) q540 q542 qs4 q113 q543 nm_X2_wrong hr rfl rfl rfl (Nat.le_of_ble_eq_true rfl) ⟨Nat.le_of_ble_eq_true rfl, Nat.le_of_ble_eq_true rfl⟩ dX2_number_2_10 rfl rfl (Nat.le_of_ble_eq_true rfl) (Nat.le_of_ble_eq_true rfl) (fun v_33 X_34 hp_35 => ?_)
    obtain ⟨q_27, rfl, h7, hnq_27, hzq_27⟩ := hp_35
    subst h7
    have ne_28 : r ≠ q_27 := fun q9 => by rw [← q9, hr] at hnq_27; cases hnq_27
    have ne_29 : T.x ≠ q_27 := fun q9 => by rw [← q9, hx] at hnq_27; cases hnq_27
    have hx_30 : (zup X q_27 (.inr (6, [.null, .null, .null, .null, .null, .int 0, .int (nI ((16 * T.pl a + 1)))]))) r = some (rdT T a va w vo) := zup_k ne_28 hr
    have hx_31 : (zup X q_27 (.inr (6, [.null, .null, .null, .null, .null, .int 0, .int (nI ((16 * T.pl a + 1)))]))) T.x = some (.inl (zar g 1, 1000, .inl T.t)) := zup_k ne_29 hx
    have hx_32 : (zup X q_27 (.inr (6, [.null, .null, .null, .null, .null, .int 0, .int (nI ((16 * T.pl a + 1)))]))) q_27 = some (.inr (6, [.null, .null, .null, .null, .null, .int 0, .int (nI ((16 * T.pl a + 1)))])) := zup_s
    refine z_st (st' := [.ref q_27]) rfl ?_
    exact z_athrow hx_32 rfl dX2_number_2_13 rfl (Nat.le_of_ble_eq_true rfl) (Nat.le_of_ble_eq_true rfl) ⟨(16 * T.pl a + 1), (by omega), (by unfold s_tN; rw [if_pos rfl, if_neg (by omega), s_wr_e]), rfl, (rto.rf.nw hnq_27), ⟨_, _, _, hx_30⟩, hx_32⟩
set_option maxHeartbeats 4000000 in
theorem rd_told {g : zG} {X : zX} {r a w : Nat} {vo : Option Nat} {T : rTP} (hT : rTk T) (hW : rW g X r T a w vo) (z : Int32) : zV g m_X2_told ({ frames := 6, cells := 1, slots := 7, locals := 135 } : Room) [.ref r, .int z] X (fun rv X' => 0 ≤ z ∧ rv = some (.int z) ∧ X' = X) (fun q E X' => ∃ f, ¬ f = 0 ∧ (¬ 0 ≤ z ∧ s_wr T.pl a 0 2 = f) ∧ rX X r T vo f q E X') := by
  refine zV.of (by decide +kernel) (Nat.le_of_ble_eq_true rfl) rfl ?_
  refine z_lv (lv' := [(0, .ref r), (1, .int z)]) [0, 1] rfl ?_
  have hn := hT.n
  have hW2 := hW
  obtain ⟨hr0, hx, hks, ha, va, hr, hva⟩ := hW
  have hcn := hT.c
  have hpl := hT.le ha
  have hto := hT.to ha
  have hk4 := hT.kd4 ha
  refine z_iload_n 1 dX2_told_0 rfl ?_
  refine z_if_ge 10 dX2_told_1 (by decide) (fun c_1 => ?_) (fun c_1 => ?_)
  · -- 0 ≤ z
    have c_1' := Int32.not_lt.mpr c_1
    refine z_iload_n 1 dX2_told_10 rfl ?_
    exact z_iret dX2_told_11 rfl (Nat.le_of_ble_eq_true rfl) (Nat.le_of_ble_eq_true rfl) ⟨c_1, rfl, rfl⟩
  · -- ¬ 0 ≤ z
    have c_1' := Int32.not_le.mp c_1
    refine z_aload_n 0 dX2_told_4 rfl ?_
    refine z_iconst (v := 2) dX2_told_5 (by decide) ?_
    refine z_callV (As := [.int 2]) (rd_wrong hr 2) q540 q542 qs4 q113 q543 nm_X2_wrong hr rfl rfl rfl (Nat.le_of_ble_eq_true rfl) ⟨Nat.le_of_ble_eq_true rfl, Nat.le_of_ble_eq_true rfl⟩ dX2_told_6 rfl rfl (Nat.le_of_ble_eq_true rfl) (Nat.le_of_ble_eq_true rfl) (fun v_8 X_9 hp_10 => ?_)
    obtain ⟨q_2, rfl, h7, hnq_2, hzq_2⟩ := hp_10
    subst h7
    have ne_3 : r ≠ q_2 := fun q9 => by rw [← q9, hr] at hnq_2; cases hnq_2
    have ne_4 : T.x ≠ q_2 := fun q9 => by rw [← q9, hx] at hnq_2; cases hnq_2
    have hx_5 : (zup X q_2 (.inr (6, [.null, .null, .null, .null, .null, .int 0, .int (nI ((16 * T.pl a + 2)))]))) r = some (rdT T a va w vo) := zup_k ne_3 hr
    have hx_6 : (zup X q_2 (.inr (6, [.null, .null, .null, .null, .null, .int 0, .int (nI ((16 * T.pl a + 2)))]))) T.x = some (.inl (zar g 1, 1000, .inl T.t)) := zup_k ne_4 hx
    have hx_7 : (zup X q_2 (.inr (6, [.null, .null, .null, .null, .null, .int 0, .int (nI ((16 * T.pl a + 2)))]))) q_2 = some (.inr (6, [.null, .null, .null, .null, .null, .int 0, .int (nI ((16 * T.pl a + 2)))])) := zup_s
    refine z_st (st' := [.ref q_2]) rfl ?_
    exact z_athrow hx_7 rfl dX2_told_9 rfl (Nat.le_of_ble_eq_true rfl) (Nat.le_of_ble_eq_true rfl) ⟨(16 * T.pl a + 2), (by omega), ⟨c_1, (by rw [s_wr_e])⟩, rfl, (rto.rf.nw hnq_2), ⟨_, _, _, hx_5⟩, hx_7⟩
