/-! THE COMPONENT: a state begun. Printed by t77.py -/
set_option maxRecDepth 100000
set_option maxHeartbeats 4000000 in
theorem c_begin {g : zG} {A : Nat → Nat} {K : Nat → Nat → Int32} {F : Nat → Int32} {O : Nat → Nat → Option Nat} {gl : Int64} {X : zX} (hA : cok g A X) {v : Nat} (hO : O 0 0 = some v) {vs : Nat → Int32} {nh nd : Nat} {own : Nat → Nat} {wv : Int32 → Int32 → Int32 → Int32 → Int32} (hV : s_ok vs nh nd own) (hv : cvl g X v vs nh nd wv) {s : Nat} (hs : cst A s) {σ ds : Nat → Int32} {dt yr : Int32}  : zN g m_X4_begin ({ frames := 3, cells := 0, slots := 0, locals := 64 } : Room) [.ref (A (s + 9)), .ref v] (cX g A (cput K s σ ds dt yr) F O gl X) (fun rv X' => rv = none ∧ X' = (cX g A (cput K s (s_start vs nh nd) (s_dt0 vs nd) 0 0) F O gl X)) := by
  refine zN.of (by decide +kernel) (Nat.le_of_ble_eq_true rfl) rfl ?_
  refine z_lv (lv' := [(0, .ref (A (s + 9))), (1, .ref v)]) [0, 1] rfl ?_
  have hA2 := hA.2.2.1
  obtain ⟨hs1, hs2, hs3⟩ := id hs
  have hV9 := hV
  have hv9 := hv
  obtain ⟨h0, hnh, h1, hnd, hown⟩ := hV9
  obtain ⟨lh, lg, fh, fg, st9, fa, hxv, ⟨mh, eh, ch, hlh, heh, hch1, hch2⟩, ⟨mg, eg, cg, hlg, heg, hcg1, hcg2⟩, hhs, hgs, hst9, hfa⟩ := hv9
  refine z_iconst (v := 0) dX4_begin_0 (by decide) ?_
  refine z_istore_n (lv' := [(2, .int 0), (0, .ref (A (s + 9))), (1, .ref v)]) dX4_begin_1 rfl (by decide) rfl ?_
  have loop_5 : ∀ (q_2 i_1 : Nat), i_1 + q_2 = 4 → 0 ≤ i_1 → zZ g m_X4_begin (fun rv X' => rv = none ∧ X' = (cX g A (cput K s (s_start vs nh nd) (s_dt0 vs nd) 0 0) F O gl X), zno, ({ frames := 3, cells := 0, slots := 0, locals := 64 } : Room)) 0 0 (cX g A (cput K s (s_b1 vs σ nh i_1) ds dt yr) F O gl X) 2 [(0, .ref (A (s + 9))), (1, .ref v), (2, .int (nI (i_1)))] [] := by
    intro q_2
    induction q_2 with
    | zero =>
      intro i_1 hb_4 lo_6  
      obtain rfl : 4 = i_1 := by omega
      refine z_iload_n 2 dX4_begin_2 rfl ?_
      refine z_iconst (v := 4) dX4_begin_3 (by decide) ?_
      refine z_icmp_geN (a := 4) (b := 4) 48 (by decide) (by decide) dX4_begin_4 (by decide) (fun h_ => ?_) (fun h_ => absurd h_ (by decide))
      refine z_iconst (v := 0) dX4_begin_48 (by decide) ?_
      refine z_istore_n (lv' := [(2, .int 0), (0, .ref (A (s + 9))), (1, .ref v)]) dX4_begin_49 rfl (by decide) rfl ?_
      have loop_11 : ∀ (q_8 i_7 : Nat), i_7 + q_8 = 6 → 0 ≤ i_7 → zZ g m_X4_begin (fun rv X' => rv = none ∧ X' = (cX g A (cput K s (s_start vs nh nd) (s_dt0 vs nd) 0 0) F O gl X), zno, ({ frames := 3, cells := 0, slots := 0, locals := 64 } : Room)) 0 0 (cX g A (cput K s (s_b2 vs (s_b1 vs σ nh 4) nd i_7) (s_d2 vs ds nd i_7) dt yr) F O gl X) 50 [(0, .ref (A (s + 9))), (1, .ref v), (2, .int (nI (i_7)))] [] := by
        intro q_8
        induction q_8 with
        | zero =>
          intro i_7 hb_10 lo_12  
          obtain rfl : 6 = i_7 := by omega
          refine z_iload_n 2 dX4_begin_50 rfl ?_
          refine z_bipush (v := 6) dX4_begin_51 (by decide) ?_
          refine z_icmp_geN (a := 6) (b := 6) 156 (by decide) (by decide) dX4_begin_53 (by decide) (fun h_ => ?_) (fun h_ => absurd h_ (by decide))
          refine z_aload_n 0 dX4_begin_156 rfl ?_
          refine z_iconst (v := 0) dX4_begin_157 (by decide) ?_
          refine cz_putS (s := s) (K' := (cput K s (s_b2 vs (s_b1 vs σ nh 4) nd 6) (s_d2 vs ds nd 6) 0 yr)) 6 hA hs (by decide) q272 (by rw [cput_zdate]) dX4_begin_158 ?_
          refine z_aload_n 0 dX4_begin_161 rfl ?_
          refine z_iconst (v := 0) dX4_begin_162 (by decide) ?_
          refine cz_putS (s := s) (K' := (cput K s (s_b2 vs (s_b1 vs σ nh 4) nd 6) (s_d2 vs ds nd 6) 0 0)) 7 hA hs (by decide) q274 (by rw [cput_zyear]) dX4_begin_163 ?_
          refine z_aload_n 0 dX4_begin_166 rfl ?_
          refine z_iconst (v := 0) dX4_begin_167 (by decide) ?_
          refine cz_putS (s := s) (K' := (cput K s (zs1 (s_b2 vs (s_b1 vs σ nh 4) nd 6) 1 0) (s_d2 vs ds nd 6) 0 0)) 8 hA hs (by decide) q276 (by rw [cput_zref]) dX4_begin_168 ?_
          exact z_vret dX4_begin_171 rfl (Nat.le_of_ble_eq_true rfl) (Nat.le_of_ble_eq_true rfl) ⟨rfl, congrArg (fun z => cX g A z F O gl X) (s_begun_put hnh)⟩
        | succ q_8 ih_9 =>
          intro i_7 hb_10 lo_12  
          refine z_iload_n 2 dX4_begin_50 rfl ?_
          refine z_bipush (v := 6) dX4_begin_51 (by decide) ?_
          refine z_icmp_geN (a := i_7) (b := 6) 156 (by omega) (by omega) dX4_begin_53 (by decide) (fun c_13 => absurd c_13 (by omega)) (fun c_13 => ?_)
          refine z_iload_n 2 dX4_begin_56 rfl ?_
          refine z_aload_n 1 dX4_begin_57 rfl ?_
          refine z_getN (v := .ref lg) 1 (cX_lo hA hxv) rfl in_X3 (by decide) q233 rfl dX4_begin_58 ?_
          refine z_callV (As := []) (t_size (cX_lo hA hlg)) q307 q308 q309 q117 q310 nm_J2_size (cX_lo hA hlg) rfl rfl rfl (Nat.le_of_ble_eq_true rfl) ⟨Nat.le_of_ble_eq_true rfl, Nat.le_of_ble_eq_true rfl⟩ dX4_begin_61 rfl rfl (Nat.le_of_ble_eq_true rfl) (Nat.le_of_ble_eq_true rfl) (fun v_14 X_15 hp_16 => ?_)
          obtain ⟨rfl, rfl⟩ := hp_16
          refine z_st (st' := [.int (nI (nd)), .int (nI (i_7))]) rfl ?_
          refine z_icmp_geN (a := i_7) (b := nd) 71 (by omega) (by omega) dX4_begin_64 (by decide) (fun c_17 => ?_) (fun c_17 => ?_)
          · -- nd ≤ i_7
            refine z_iconst (v := 0) dX4_begin_71 (by decide) ?_
            refine z_istore_n (lv' := [(3, .int 0), (0, .ref (A (s + 9))), (1, .ref v), (2, .int (nI (i_7)))]) dX4_begin_72 rfl (by decide) rfl ?_
            refine z_aload_n 1 dX4_begin_73 rfl ?_
            refine cz_getS (s := s) (v := .ref (A (s + 1))) 1 hA hs (by decide) q260 rfl dX4_begin_74 ?_
            refine z_iload_n 3 dX4_begin_77 rfl ?_
            refine z_iload_n 0 dX4_begin_78 rfl ?_
            refine z_if_eq 99 dX4_begin_79 (by decide) (fun h_ => ?_) (fun h_ => absurd h_ (by decide))
            refine z_iconst (v := 0) dX4_begin_99 (by decide) ?_
            refine cz_iast (K' := (cput K s (zs1 (s_b2 vs (s_b1 vs σ nh 4) nd i_7) (i_7 + 18) 0) (s_d2 vs ds nd i_7) dt yr)) (s + 1) i_7 hA (by unfold cia; omega) rfl (by rw [csz_q hA hs (by omega)]; omega) (by rw [cput_zsays (by omega)]) dX4_begin_100 ?_
            refine z_aload_n 1 dX4_begin_101 rfl ?_
            refine cz_getS (s := s) (v := .ref (A (s + 5))) 5 hA hs (by decide) q270 rfl dX4_begin_102 ?_
            refine z_iload_n 3 dX4_begin_105 rfl ?_
            refine z_iload_n 0 dX4_begin_106 rfl ?_
            refine z_if_eq 127 dX4_begin_107 (by decide) (fun h_ => ?_) (fun h_ => absurd h_ (by decide))
            refine z_iconst (v := 0) dX4_begin_127 (by decide) ?_
            refine cz_iast (K' := (cput K s (zs1 (s_b2 vs (s_b1 vs σ nh 4) nd i_7) (i_7 + 18) 0) (zs1 (s_d2 vs ds nd i_7) i_7 0) dt yr)) (s + 5) i_7 hA (by unfold cia; omega) rfl (by rw [csz_q hA hs (by omega)]; omega) (by rw [cput_zmonth (by omega)]) dX4_begin_128 ?_
            refine z_aload_n 1 dX4_begin_129 rfl ?_
            refine cz_getS (s := s) (v := .ref (A (s + 2))) 2 hA hs (by decide) q262 rfl dX4_begin_130 ?_
            refine z_iload_n 3 dX4_begin_133 rfl ?_
            refine z_iconst (v := zm1) dX4_begin_134 (by decide) ?_
            refine cz_iast (K' := (cput K s (zs1 (zs1 (s_b2 vs (s_b1 vs σ nh 4) nd i_7) (i_7 + 18) 0) (i_7 + 6) zm1) (zs1 (s_d2 vs ds nd i_7) i_7 0) dt yr)) (s + 2) i_7 hA (by unfold cia; omega) rfl (by rw [csz_q hA hs (by omega)]; omega) (by rw [cput_zwhere (by omega)]) dX4_begin_135 ?_
            refine z_aload_n 1 dX4_begin_136 rfl ?_
            refine cz_getS (s := s) (v := .ref (A (s + 3))) 3 hA hs (by decide) q266 rfl dX4_begin_137 ?_
            refine z_iload_n 3 dX4_begin_140 rfl ?_
            refine z_iconst (v := 0) dX4_begin_141 (by decide) ?_
            refine cz_iast (K' := (cput K s (zs1 (zs1 (zs1 (s_b2 vs (s_b1 vs σ nh 4) nd i_7) (i_7 + 18) 0) (i_7 + 6) zm1) (i_7 + 12) 0) (zs1 (s_d2 vs ds nd i_7) i_7 0) dt yr)) (s + 3) i_7 hA (by unfold cia; omega) rfl (by rw [csz_q hA hs (by omega)]; omega) (by rw [cput_zbeen (by omega)]) dX4_begin_142 ?_
            refine z_aload_n 1 dX4_begin_143 rfl ?_
            refine cz_getS (s := s) (v := .ref (A (s + 4))) 4 hA hs (by decide) q268 rfl dX4_begin_144 ?_
            refine z_iload_n 3 dX4_begin_147 rfl ?_
            refine z_iconst (v := 0) dX4_begin_148 (by decide) ?_
            refine cz_iast (K' := (cput K s (zs1 (zs1 (zs1 (zs1 (s_b2 vs (s_b1 vs σ nh 4) nd i_7) (i_7 + 18) 0) (i_7 + 6) zm1) (i_7 + 12) 0) (i_7 + 24) 0) (zs1 (s_d2 vs ds nd i_7) i_7 0) dt yr)) (s + 4) i_7 hA (by unfold cia; omega) rfl (by rw [csz_q hA hs (by omega)]; omega) (by rw [cput_ztimes (by omega)]) dX4_begin_149 ?_
            refine z_iinc (v := nI (i_7 + 1)) (lv' := [(2, .int (nI (i_7 + 1))), (3, .int 0), (0, .ref (A (s + 9))), (1, .ref v)]) 3 dX4_begin_150 rfl (nI_1 _) (by decide) rfl ?_
            refine z_goto 50 dX4_begin_153 (by decide) ?_
            refine z_lv (lv' := [(0, .ref (A (s + 9))), (1, .ref v), (2, .int (nI (i_7 + 1)))]) [2, 3, 0] rfl ?_
            refine z_X (X' := (cX g A (cput K s (s_b2 vs (s_b1 vs σ nh 4) nd (i_7 + 1)) (s_d2 vs ds nd (i_7 + 1)) dt yr) F O gl X)) (by rw [s_b2_f c_17, s_d2_f c_17]) ?_
            exact ih_9 (i_7 + 1) (by omega) (by omega)  
          · -- i_7 < nd
            refine z_iconst (v := 1) dX4_begin_67 (by decide) ?_
            refine z_goto 72 dX4_begin_68 (by decide) ?_
            refine z_istore_n (lv' := [(3, .int 1), (0, .ref (A (s + 9))), (1, .ref v), (2, .int (nI (i_7)))]) dX4_begin_72 rfl (by decide) rfl ?_
            refine z_aload_n 1 dX4_begin_73 rfl ?_
            refine cz_getS (s := s) (v := .ref (A (s + 1))) 1 hA hs (by decide) q260 rfl dX4_begin_74 ?_
            refine z_iload_n 3 dX4_begin_77 rfl ?_
            refine z_iload_n 0 dX4_begin_78 rfl ?_
            refine z_if_eq 99 dX4_begin_79 (by decide) (fun h_ => absurd h_ (by decide)) (fun h_ => ?_)
            refine z_aload_n 2 dX4_begin_82 rfl ?_
            refine z_getN (v := .ref lg) 1 (cX_lo hA hxv) rfl in_X3 (by decide) q233 rfl dX4_begin_83 ?_
            refine z_iload_n 3 dX4_begin_86 rfl ?_
            obtain ⟨a_18, m_19, k_22, he_20, hk_23, hkv_24, ha_21⟩ := hgs i_7 (by omega)
            refine z_callV (As := [.int (nI (i_7))]) (t_getL (cX_lo hA hlg) (cX_lo hA heg) (by omega) i_7 (by omega) (by omega) he_20) q311 q312 q313 q117 q314 nm_J2_get (cX_lo hA hlg) rfl rfl rfl (Nat.le_of_ble_eq_true rfl) ⟨Nat.le_of_ble_eq_true rfl, Nat.le_of_ble_eq_true rfl⟩ dX4_begin_87 rfl rfl (Nat.le_of_ble_eq_true rfl) (Nat.le_of_ble_eq_true rfl) (fun v_25 X_26 hp_27 => ?_)
            obtain ⟨rfl, rfl⟩ := hp_27
            refine z_st (st' := [.ref a_18, .int (nI (i_7)), .ref (A (s + 1))]) rfl ?_
            refine z_castG (cX_lo hA ha_21) hk_23 q326 dX4_begin_90 ?_
            refine z_getG (v := .int (vs (5 * i_7 + 15))) 3 (cX_lo hA ha_21) hk_23 (by decide) q927 rfl dX4_begin_93 ?_
            refine z_goto 100 dX4_begin_96 (by decide) ?_
            refine cz_iast (K' := (cput K s (zs1 (s_b2 vs (s_b1 vs σ nh 4) nd i_7) (i_7 + 18) (vs (5 * i_7 + 15))) (s_d2 vs ds nd i_7) dt yr)) (s + 1) i_7 hA (by unfold cia; omega) rfl (by rw [csz_q hA hs (by omega)]; omega) (by rw [cput_zsays (by omega)]) dX4_begin_100 ?_
            refine z_aload_n 1 dX4_begin_101 rfl ?_
            refine cz_getS (s := s) (v := .ref (A (s + 5))) 5 hA hs (by decide) q270 rfl dX4_begin_102 ?_
            refine z_iload_n 3 dX4_begin_105 rfl ?_
            refine z_iload_n 0 dX4_begin_106 rfl ?_
            refine z_if_eq 127 dX4_begin_107 (by decide) (fun h_ => absurd h_ (by decide)) (fun h_ => ?_)
            refine z_aload_n 2 dX4_begin_110 rfl ?_
            refine z_getN (v := .ref lg) 1 (cX_lo hA hxv) rfl in_X3 (by decide) q233 rfl dX4_begin_111 ?_
            refine z_iload_n 3 dX4_begin_114 rfl ?_
            obtain ⟨a_28, m_29, k_32, he_30, hk_33, hkv_34, ha_31⟩ := hgs i_7 (by omega)
            refine z_callV (As := [.int (nI (i_7))]) (t_getL (cX_lo hA hlg) (cX_lo hA heg) (by omega) i_7 (by omega) (by omega) he_30) q311 q312 q313 q117 q314 nm_J2_get (cX_lo hA hlg) rfl rfl rfl (Nat.le_of_ble_eq_true rfl) ⟨Nat.le_of_ble_eq_true rfl, Nat.le_of_ble_eq_true rfl⟩ dX4_begin_115 rfl rfl (Nat.le_of_ble_eq_true rfl) (Nat.le_of_ble_eq_true rfl) (fun v_35 X_36 hp_37 => ?_)
            obtain ⟨rfl, rfl⟩ := hp_37
            refine z_st (st' := [.ref a_28, .int (nI (i_7)), .ref (A (s + 5))]) rfl ?_
            refine z_castG (cX_lo hA ha_31) hk_33 q326 dX4_begin_118 ?_
            refine z_getG (v := .int (vs (5 * i_7 + 14))) 2 (cX_lo hA ha_31) hk_33 (by decide) q924 rfl dX4_begin_121 ?_
            refine z_goto 128 dX4_begin_124 (by decide) ?_
            refine cz_iast (K' := (cput K s (zs1 (s_b2 vs (s_b1 vs σ nh 4) nd i_7) (i_7 + 18) (vs (5 * i_7 + 15))) (zs1 (s_d2 vs ds nd i_7) i_7 (vs (5 * i_7 + 14))) dt yr)) (s + 5) i_7 hA (by unfold cia; omega) rfl (by rw [csz_q hA hs (by omega)]; omega) (by rw [cput_zmonth (by omega)]) dX4_begin_128 ?_
            refine z_aload_n 1 dX4_begin_129 rfl ?_
            refine cz_getS (s := s) (v := .ref (A (s + 2))) 2 hA hs (by decide) q262 rfl dX4_begin_130 ?_
            refine z_iload_n 3 dX4_begin_133 rfl ?_
            refine z_iconst (v := zm1) dX4_begin_134 (by decide) ?_
            refine cz_iast (K' := (cput K s (zs1 (zs1 (s_b2 vs (s_b1 vs σ nh 4) nd i_7) (i_7 + 18) (vs (5 * i_7 + 15))) (i_7 + 6) zm1) (zs1 (s_d2 vs ds nd i_7) i_7 (vs (5 * i_7 + 14))) dt yr)) (s + 2) i_7 hA (by unfold cia; omega) rfl (by rw [csz_q hA hs (by omega)]; omega) (by rw [cput_zwhere (by omega)]) dX4_begin_135 ?_
            refine z_aload_n 1 dX4_begin_136 rfl ?_
            refine cz_getS (s := s) (v := .ref (A (s + 3))) 3 hA hs (by decide) q266 rfl dX4_begin_137 ?_
            refine z_iload_n 3 dX4_begin_140 rfl ?_
            refine z_iconst (v := 0) dX4_begin_141 (by decide) ?_
            refine cz_iast (K' := (cput K s (zs1 (zs1 (zs1 (s_b2 vs (s_b1 vs σ nh 4) nd i_7) (i_7 + 18) (vs (5 * i_7 + 15))) (i_7 + 6) zm1) (i_7 + 12) 0) (zs1 (s_d2 vs ds nd i_7) i_7 (vs (5 * i_7 + 14))) dt yr)) (s + 3) i_7 hA (by unfold cia; omega) rfl (by rw [csz_q hA hs (by omega)]; omega) (by rw [cput_zbeen (by omega)]) dX4_begin_142 ?_
            refine z_aload_n 1 dX4_begin_143 rfl ?_
            refine cz_getS (s := s) (v := .ref (A (s + 4))) 4 hA hs (by decide) q268 rfl dX4_begin_144 ?_
            refine z_iload_n 3 dX4_begin_147 rfl ?_
            refine z_iconst (v := 0) dX4_begin_148 (by decide) ?_
            refine cz_iast (K' := (cput K s (zs1 (zs1 (zs1 (zs1 (s_b2 vs (s_b1 vs σ nh 4) nd i_7) (i_7 + 18) (vs (5 * i_7 + 15))) (i_7 + 6) zm1) (i_7 + 12) 0) (i_7 + 24) 0) (zs1 (s_d2 vs ds nd i_7) i_7 (vs (5 * i_7 + 14))) dt yr)) (s + 4) i_7 hA (by unfold cia; omega) rfl (by rw [csz_q hA hs (by omega)]; omega) (by rw [cput_ztimes (by omega)]) dX4_begin_149 ?_
            refine z_iinc (v := nI (i_7 + 1)) (lv' := [(2, .int (nI (i_7 + 1))), (3, .int 1), (0, .ref (A (s + 9))), (1, .ref v)]) 3 dX4_begin_150 rfl (nI_1 _) (by decide) rfl ?_
            refine z_goto 50 dX4_begin_153 (by decide) ?_
            refine z_lv (lv' := [(0, .ref (A (s + 9))), (1, .ref v), (2, .int (nI (i_7 + 1)))]) [2, 3, 0] rfl ?_
            refine z_X (X' := (cX g A (cput K s (s_b2 vs (s_b1 vs σ nh 4) nd (i_7 + 1)) (s_d2 vs ds nd (i_7 + 1)) dt yr) F O gl X)) (by rw [s_b2_t c_17, s_d2_t c_17]) ?_
            exact ih_9 (i_7 + 1) (by omega) (by omega)  
      refine z_lv (lv' := [(0, .ref (A (s + 9))), (1, .ref v), (2, .int 0)]) [1, 2, 0] rfl ?_
      refine z_X (X' := (cX g A (cput K s (s_b2 vs (s_b1 vs σ nh 4) nd 0) (s_d2 vs ds nd 0) dt yr) F O gl X)) (by rfl) ?_
      exact loop_11 (6 - 0) 0 (by omega) (Nat.le_refl _)  
    | succ q_2 ih_3 =>
      intro i_1 hb_4 lo_6  
      refine z_iload_n 2 dX4_begin_2 rfl ?_
      refine z_iconst (v := 4) dX4_begin_3 (by decide) ?_
      refine z_icmp_geN (a := i_1) (b := 4) 48 (by omega) (by omega) dX4_begin_4 (by decide) (fun c_38 => absurd c_38 (by omega)) (fun c_38 => ?_)
      refine z_aload_n 0 dX4_begin_7 rfl ?_
      refine cz_getS (s := s) (v := .ref (A s)) 0 hA hs (by decide) q257 rfl dX4_begin_8 ?_
      refine z_iload_n 2 dX4_begin_11 rfl ?_
      refine z_iload_n 2 dX4_begin_12 rfl ?_
      refine z_aload_n 1 dX4_begin_13 rfl ?_
      refine z_getN (v := .ref lh) 0 (cX_lo hA hxv) rfl in_X3 (by decide) q229 rfl dX4_begin_14 ?_
      refine z_callV (As := []) (t_size (cX_lo hA hlh)) q307 q308 q309 q117 q310 nm_J2_size (cX_lo hA hlh) rfl rfl rfl (Nat.le_of_ble_eq_true rfl) ⟨Nat.le_of_ble_eq_true rfl, Nat.le_of_ble_eq_true rfl⟩ dX4_begin_17 rfl rfl (Nat.le_of_ble_eq_true rfl) (Nat.le_of_ble_eq_true rfl) (fun v_39 X_40 hp_41 => ?_)
      obtain ⟨rfl, rfl⟩ := hp_41
      refine z_st (st' := [.int (nI (nh)), .int (nI (i_1)), .int (nI (i_1)), .ref (A s)]) rfl ?_
      refine z_icmp_geN (a := i_1) (b := nh) 40 (by omega) (by omega) dX4_begin_20 (by decide) (fun c_42 => ?_) (fun c_42 => ?_)
      · -- nh ≤ i_1
        refine z_iconst (v := 0) dX4_begin_40 (by decide) ?_
        refine cz_iast (K' := (cput K s (zs1 (s_b1 vs σ nh i_1) (i_1 + 2) 0) ds dt yr)) s i_1 hA (by unfold cia; omega) rfl (by rw [csz_s hA hs]; omega) (by rw [cput_zbeds (by omega)]) dX4_begin_41 ?_
        refine z_iinc (v := nI (i_1 + 1)) (lv' := [(2, .int (nI (i_1 + 1))), (0, .ref (A (s + 9))), (1, .ref v)]) 2 dX4_begin_42 rfl (nI_1 _) (by decide) rfl ?_
        refine z_goto 2 dX4_begin_45 (by decide) ?_
        refine z_lv (lv' := [(0, .ref (A (s + 9))), (1, .ref v), (2, .int (nI (i_1 + 1)))]) [1, 2, 0] rfl ?_
        refine z_X (X' := (cX g A (cput K s (s_b1 vs σ nh (i_1 + 1)) ds dt yr) F O gl X)) (by rw [s_b1_f c_42]) ?_
        exact ih_3 (i_1 + 1) (by omega) (by omega)  
      · -- i_1 < nh
        refine z_aload_n 1 dX4_begin_23 rfl ?_
        refine z_getN (v := .ref lh) 0 (cX_lo hA hxv) rfl in_X3 (by decide) q229 rfl dX4_begin_24 ?_
        refine z_iload_n 2 dX4_begin_27 rfl ?_
        obtain ⟨a_43, m_44, he_45, ha_46⟩ := hhs i_1 (by omega)
        refine z_callV (As := [.int (nI (i_1))]) (t_getL (cX_lo hA hlh) (cX_lo hA heh) (by omega) i_1 (by omega) (by omega) he_45) q311 q312 q313 q117 q314 nm_J2_get (cX_lo hA hlh) rfl rfl rfl (Nat.le_of_ble_eq_true rfl) ⟨Nat.le_of_ble_eq_true rfl, Nat.le_of_ble_eq_true rfl⟩ dX4_begin_28 rfl rfl (Nat.le_of_ble_eq_true rfl) (Nat.le_of_ble_eq_true rfl) (fun v_47 X_48 hp_49 => ?_)
        obtain ⟨rfl, rfl⟩ := hp_49
        refine z_st (st' := [.ref a_43, .int (nI (i_1)), .ref (A s)]) rfl ?_
        refine z_castS (cX_lo hA ha_46) rfl q325 rfl dX4_begin_31 ?_
        refine z_getN (v := .int (vs (2 * i_1 + 4))) 1 (cX_lo hA ha_46) rfl in_X7 (by decide) q813 rfl dX4_begin_34 ?_
        refine z_goto 41 dX4_begin_37 (by decide) ?_
        refine cz_iast (K' := (cput K s (zs1 (s_b1 vs σ nh i_1) (i_1 + 2) (vs (2 * i_1 + 4))) ds dt yr)) s i_1 hA (by unfold cia; omega) rfl (by rw [csz_s hA hs]; omega) (by rw [cput_zbeds (by omega)]) dX4_begin_41 ?_
        refine z_iinc (v := nI (i_1 + 1)) (lv' := [(2, .int (nI (i_1 + 1))), (0, .ref (A (s + 9))), (1, .ref v)]) 2 dX4_begin_42 rfl (nI_1 _) (by decide) rfl ?_
        refine z_goto 2 dX4_begin_45 (by decide) ?_
        refine z_lv (lv' := [(0, .ref (A (s + 9))), (1, .ref v), (2, .int (nI (i_1 + 1)))]) [1, 2, 0] rfl ?_
        refine z_X (X' := (cX g A (cput K s (s_b1 vs σ nh (i_1 + 1)) ds dt yr) F O gl X)) (by rw [s_b1_t c_42]) ?_
        exact ih_3 (i_1 + 1) (by omega) (by omega)  
  refine z_lv (lv' := [(0, .ref (A (s + 9))), (1, .ref v), (2, .int 0)]) [1, 2, 0] rfl ?_
  refine z_X (X' := (cX g A (cput K s (s_b1 vs σ nh 0) ds dt yr) F O gl X)) (by rfl) ?_
  exact loop_5 (4 - 0) 0 (by omega) (Nat.le_refl _)  
