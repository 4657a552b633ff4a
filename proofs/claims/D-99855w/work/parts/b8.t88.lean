/-! THE READER: the next token. Printed by t88.py -/
set_option maxRecDepth 100000
set_option maxHeartbeats 4000000 in
theorem rd_next0 {g : zG} {X : zX} {r x n to ki p w : Nat} {va : Int32} {vl : Option Nat} {t : Nat → Int32} {c : Nat → Nat} (hr : X r = some (rdr x n p to ki va w vl)) (hr0 : z0 g ≤ r) (hx : X x = some (.inl (zar g 1, 1000, .inl t))) (ht : k_tp t n c) (hk : kst g X) (hto : to ≤ n) : zN g m_X2_next ({ frames := 4, cells := 0, slots := 0, locals := 91 } : Room) [.ref r] X (fun rv X' => rv = none ∧ ∃ va', X' = zup X r (rdk x n t (s_to s_bl t n to) va' w vl) ∧ (k_kd t n (s_to s_bl t n to) = 2 → va' = nI (k_nv t c n (s_to s_bl t n to)))) := by
  refine zN.of (by decide +kernel) (Nat.le_of_ble_eq_true rfl) rfl ?_
  refine z_lv (lv' := [(0, .ref r)]) [0] rfl ?_
  have hn := ht.1
  obtain ⟨sb, hs, hz, hs1, hs2⟩ : ∃ (b : Nat) (hs hz : Int32), X (zk g 10) = some (.inr (24, [.ref b, .int 0, .int hs, .int hz])) ∧ X b = some (.inl (zar g 1, 8, .inl (kt 0))) := hk 0 (by decide)
  have hsr : zk g 10 ≠ r := fun z => by rw [z, hr] at hs1; cases hs1
  have hsr2 : sb ≠ r := fun z => by rw [z, hr] at hs2; cases hs2
  have hxr : x ≠ r := fun z => by rw [z, hr] at hx; cases hx
  refine z_X (X' := (zup X r (.inr (2, [.ref x, .int (nI (n)), .int (nI (to)), .int (nI (ki)), .int (nI (p)), .int va, .int (nI (w)), va_rf (vl)])))) (zup_self hr).symm ?_
  have hB : ∀ k, k ≤ n → s_to s_bl t n to = k → zZ g m_X2_next (fun rv X' => rv = none ∧ ∃ va', X' = zup X r (rdk x n t (s_to s_bl t n to) va' w vl) ∧ (k_kd t n (s_to s_bl t n to) = 2 → va' = nI (k_nv t c n (s_to s_bl t n to))), zno, ({ frames := 4, cells := 0, slots := 0, locals := 91 } : Room)) 0 0 (zup X r (.inr (2, [.ref x, .int (nI (n)), .int (nI (k)), .int (nI (ki)), .int (nI (p)), .int va, .int (nI (w)), va_rf (vl)]))) 52 [(0, .ref r)] [] := by
    intro k hk hp
    refine z_aload_n 0 dX2_next_52 rfl ?_
    refine z_aload_n 0 dX2_next_53 rfl ?_
    refine z_get (v := .int (nI (k))) 2 zup_s rfl in_X2 (by decide) q170 rfl dX2_next_54 ?_
    refine z_put (X' := (zup X r (.inr (2, [.ref x, .int (nI (n)), .int (nI (k)), .int (nI (ki)), .int (nI (k)), .int va, .int (nI (w)), va_rf (vl)])))) 4 zup_s rfl in_X2 (by decide) tyX2 tyX2_ok nmX2 q172 rfl (tyX2_ok 4 (by decide)) rfl rfl (Nat.le_of_ble_eq_true rfl) hr0 dX2_next_57 zup_zup ?_
    refine z_aload_n 0 dX2_next_60 rfl ?_
    refine z_get (v := .int (nI (k))) 2 zup_s rfl in_X2 (by decide) q170 rfl dX2_next_61 ?_
    refine z_aload_n 0 dX2_next_64 rfl ?_
    refine z_get (v := .int (nI (n))) 1 zup_s rfl in_X2 (by decide) q169 rfl dX2_next_65 ?_
    refine z_icmp_neN (a := k) (b := n) 79 (by omega) (by omega) dX2_next_68 (by decide) (fun c_1 => ?_) (fun c_1 => ?_)
    · -- k ≠ n
      have hkn : k < n := by omega
      obtain ⟨hck, hck2⟩ := k_at ht hkn
      have hkf : (if k < n then t k else 0) = t k := if_pos hkn
      refine z_aload_n 0 dX2_next_79 rfl ?_
      refine z_aload_n 0 dX2_next_80 rfl ?_
      refine z_get (v := .int (nI (k))) 2 zup_s rfl in_X2 (by decide) q170 rfl dX2_next_81 ?_
      refine z_callV (As := [.int (nI (k))]) (rd_at zup_s (zup_k hxr hx) hn k (by omega)) q412 q414 qs2 q113 q415 nm_X2_at zup_s rfl rfl rfl (Nat.le_of_ble_eq_true rfl) ⟨Nat.le_of_ble_eq_true rfl, Nat.le_of_ble_eq_true rfl⟩ dX2_next_84 rfl rfl (Nat.le_of_ble_eq_true rfl) (Nat.le_of_ble_eq_true rfl) (fun v_2 X_3 hp_4 => ?_)
      obtain ⟨rfl, h7⟩ := hp_4
      replace h7 := h7.symm
      subst h7
      refine z_st (st' := [.int (if k < n then t k else 0)]) rfl ?_
      refine z_eq (y := t k) hkf ?_
      refine z_callS (As := [.int (t k)]) (rd_isLetter (t k)) q416 q417 q113 q418 nm_X2_isLetter rfl (Nat.le_of_ble_eq_true rfl) ⟨Nat.le_of_ble_eq_true rfl, Nat.le_of_ble_eq_true rfl⟩ dX2_next_87 rfl rfl (Nat.le_of_ble_eq_true rfl) (Nat.le_of_ble_eq_true rfl) (fun v_5 X_6 hp_7 => ?_)
      obtain ⟨rfl, h7⟩ := hp_7
      replace h7 := h7.symm
      subst h7
      refine z_st (st' := [.int (zb (s_le (t k)))]) rfl ?_
      refine z_if_eqb 146 dX2_next_90 (by decide) (fun c_8 => ?_) (fun c_8 => ?_)
      · -- s_le (t k) = false
        refine z_aload_n 0 dX2_next_146 rfl ?_
        refine z_aload_n 0 dX2_next_147 rfl ?_
        refine z_get (v := .int (nI (k))) 2 zup_s rfl in_X2 (by decide) q170 rfl dX2_next_148 ?_
        refine z_callV (As := [.int (nI (k))]) (rd_at zup_s (zup_k hxr hx) hn k (by omega)) q412 q414 qs2 q113 q415 nm_X2_at zup_s rfl rfl rfl (Nat.le_of_ble_eq_true rfl) ⟨Nat.le_of_ble_eq_true rfl, Nat.le_of_ble_eq_true rfl⟩ dX2_next_151 rfl rfl (Nat.le_of_ble_eq_true rfl) (Nat.le_of_ble_eq_true rfl) (fun v_9 X_10 hp_11 => ?_)
        obtain ⟨rfl, h7⟩ := hp_11
        replace h7 := h7.symm
        subst h7
        refine z_st (st' := [.int (if k < n then t k else 0)]) rfl ?_
        refine z_eq (y := t k) hkf ?_
        refine z_callS (As := [.int (t k)]) (rd_isDigit (t k)) q419 q420 q113 q421 nm_X2_isDigit rfl (Nat.le_of_ble_eq_true rfl) ⟨Nat.le_of_ble_eq_true rfl, Nat.le_of_ble_eq_true rfl⟩ dX2_next_154 rfl rfl (Nat.le_of_ble_eq_true rfl) (Nat.le_of_ble_eq_true rfl) (fun v_12 X_13 hp_14 => ?_)
        obtain ⟨rfl, h7⟩ := hp_14
        replace h7 := h7.symm
        subst h7
        refine z_st (st' := [.int (zb (s_di (t k)))]) rfl ?_
        refine z_if_eqb 260 dX2_next_157 (by decide) (fun c_15 => ?_) (fun c_15 => ?_)
        · -- s_di (t k) = false
          refine z_aload_n 0 dX2_next_260 rfl ?_
          refine z_ldcS 0 rfl dX2_next_261 ?_
          refine z_aload_n 0 dX2_next_263 rfl ?_
          refine z_aload_n 0 dX2_next_264 rfl ?_
          refine z_get (v := .int (nI (k))) 2 zup_s rfl in_X2 (by decide) q170 rfl dX2_next_265 ?_
          refine z_callV (As := [.int (nI (k))]) (rd_at zup_s (zup_k hxr hx) hn k (by omega)) q412 q414 qs2 q113 q415 nm_X2_at zup_s rfl rfl rfl (Nat.le_of_ble_eq_true rfl) ⟨Nat.le_of_ble_eq_true rfl, Nat.le_of_ble_eq_true rfl⟩ dX2_next_268 rfl rfl (Nat.le_of_ble_eq_true rfl) (Nat.le_of_ble_eq_true rfl) (fun v_16 X_17 hp_18 => ?_)
          obtain ⟨rfl, h7⟩ := hp_18
          replace h7 := h7.symm
          subst h7
          refine z_st (st' := [.int (if k < n then t k else 0), .ref (zk g 10), .ref r]) rfl ?_
          refine z_eq (y := t k) hkf ?_
          refine z_i2c (v := ((t k).toUInt32 % 65536).toInt32) dX2_next_271 rfl ?_
          refine z_eq (y := nI ((c k))) ((congrArg (fun z : Int32 => (z.toUInt32 % 65536).toInt32) hck).trans (k_i2c _ hck2)) ?_
          refine z_callV (As := [.int (nI ((c k)))]) (t_ix1 (zup_k hsr hs1) (zup_k hsr2 hs2) (by decide) (c k) hck2) q423 q424 q425 q122 q426 nm_J5_indexOf (zup_k hsr hs1) rfl rfl rfl (Nat.le_of_ble_eq_true rfl) ⟨Nat.le_of_ble_eq_true rfl, Nat.le_of_ble_eq_true rfl⟩ dX2_next_272 rfl rfl (Nat.le_of_ble_eq_true rfl) (Nat.le_of_ble_eq_true rfl) (fun v_19 X_20 hp_21 => ?_)
          obtain ⟨rfl, h7⟩ := hp_21
          replace h7 := h7.symm
          subst h7
          refine z_st (st' := [.int (s_ix (kt 0) (nI (c k)) 8 0), .ref r]) rfl ?_
          refine z_if_lt 282 dX2_next_275 (by decide) (fun c_22 => ?_) (fun c_22 => ?_)
          · -- s_ix (kt 0) (nI (c k)) 8 0 < 0
            have c_22' := Int32.not_le.mpr c_22
            refine z_iconst (v := 4) dX2_next_282 (by decide) ?_
            refine z_put (X' := (zup X r (.inr (2, [.ref x, .int (nI (n)), .int (nI (k)), .int 4, .int (nI (k)), .int va, .int (nI (w)), va_rf (vl)])))) 3 zup_s rfl in_X2 (by decide) tyX2 tyX2_ok nmX2 q171 rfl (tyX2_ok 3 (by decide)) rfl rfl (Nat.le_of_ble_eq_true rfl) hr0 dX2_next_283 zup_zup ?_
            refine z_aload_n 0 dX2_next_286 rfl ?_
            refine z_dup dX2_next_287 rfl ?_
            refine z_get (v := .int (nI (k))) 2 zup_s rfl in_X2 (by decide) q170 rfl dX2_next_288 ?_
            refine z_iconst (v := 1) dX2_next_291 (by decide) ?_
            refine z_iaddN (a := k) (b := 1) dX2_next_292 ?_
            refine z_put (X' := (zup X r (.inr (2, [.ref x, .int (nI (n)), .int (nI (k + 1)), .int 4, .int (nI (k)), .int va, .int (nI (w)), va_rf (vl)])))) 2 zup_s rfl in_X2 (by decide) tyX2 tyX2_ok nmX2 q170 rfl (tyX2_ok 2 (by decide)) rfl rfl (Nat.le_of_ble_eq_true rfl) hr0 dX2_next_293 zup_zup ?_
            exact z_vret dX2_next_296 rfl (Nat.le_of_ble_eq_true rfl) (Nat.le_of_ble_eq_true rfl) ⟨rfl, va, (by rw [hp]; exact congrArg (zup X r) (((rdk_s (x := x) (w := w) (va := va) (vl := vl) hkn (by rw [c_8]; decide) (by rw [c_15]; decide)).1.trans (congrArg (fun z => rdr x n k (k + 1) z va w vl) (if_neg (by rw [hck, (k_sgn _ hck2).mp c_22]; decide)))).symm)), (by rw [hp]; exact fun h9 => absurd h9 (rdk_s (x := x) (w := w) (va := va) (vl := vl) hkn (by rw [c_8]; decide) (by rw [c_15]; decide)).2)⟩
          · -- ¬ s_ix (kt 0) (nI (c k)) 8 0 < 0
            have c_22' := Int32.not_lt.mp c_22
            refine z_iconst (v := 3) dX2_next_278 (by decide) ?_
            refine z_goto 283 dX2_next_279 (by decide) ?_
            refine z_put (X' := (zup X r (.inr (2, [.ref x, .int (nI (n)), .int (nI (k)), .int 3, .int (nI (k)), .int va, .int (nI (w)), va_rf (vl)])))) 3 zup_s rfl in_X2 (by decide) tyX2 tyX2_ok nmX2 q171 rfl (tyX2_ok 3 (by decide)) rfl rfl (Nat.le_of_ble_eq_true rfl) hr0 dX2_next_283 zup_zup ?_
            refine z_aload_n 0 dX2_next_286 rfl ?_
            refine z_dup dX2_next_287 rfl ?_
            refine z_get (v := .int (nI (k))) 2 zup_s rfl in_X2 (by decide) q170 rfl dX2_next_288 ?_
            refine z_iconst (v := 1) dX2_next_291 (by decide) ?_
            refine z_iaddN (a := k) (b := 1) dX2_next_292 ?_
            refine z_put (X' := (zup X r (.inr (2, [.ref x, .int (nI (n)), .int (nI (k + 1)), .int 3, .int (nI (k)), .int va, .int (nI (w)), va_rf (vl)])))) 2 zup_s rfl in_X2 (by decide) tyX2 tyX2_ok nmX2 q170 rfl (tyX2_ok 2 (by decide)) rfl rfl (Nat.le_of_ble_eq_true rfl) hr0 dX2_next_293 zup_zup ?_
            exact z_vret dX2_next_296 rfl (Nat.le_of_ble_eq_true rfl) (Nat.le_of_ble_eq_true rfl) ⟨rfl, va, (by rw [hp]; exact congrArg (zup X r) (((rdk_s (x := x) (w := w) (va := va) (vl := vl) hkn (by rw [c_8]; decide) (by rw [c_15]; decide)).1.trans (congrArg (fun z => rdr x n k (k + 1) z va w vl) (if_pos (by rw [hck]; exact eq_true_of_ne_false (fun z => c_22 ((k_sgn _ hck2).mpr z)))))).symm)), (by rw [hp]; exact fun h9 => absurd h9 (rdk_s (x := x) (w := w) (va := va) (vl := vl) hkn (by rw [c_8]; decide) (by rw [c_15]; decide)).2)⟩
        · -- s_di (t k) = true
          refine z_aload_n 0 dX2_next_160 rfl ?_
          refine z_iconst (v := 0) dX2_next_161 (by decide) ?_
          refine z_put (X' := (zup X r (.inr (2, [.ref x, .int (nI (n)), .int (nI (k)), .int (nI (ki)), .int (nI (k)), .int 0, .int (nI (w)), va_rf (vl)])))) 5 zup_s rfl in_X2 (by decide) tyX2 tyX2_ok nmX2 q173 rfl (tyX2_ok 5 (by decide)) rfl rfl (Nat.le_of_ble_eq_true rfl) hr0 dX2_next_162 zup_zup ?_
          have loop_26 : ∀ (q_23 : Nat) (k2_27 : Nat) (v_28 : Nat), (k ≤ k2_27 ∧ k2_27 ≤ n) → (s_to s_di t n k2_27 = s_to s_di t n k) → (v_28 = k_n10 c k (k2_27 - k)) → n - k2_27 < q_23 → zZ g m_X2_next (fun rv X' => rv = none ∧ ∃ va', X' = zup X r (rdk x n t (s_to s_bl t n to) va' w vl) ∧ (k_kd t n (s_to s_bl t n to) = 2 → va' = nI (k_nv t c n (s_to s_bl t n to))), zno, ({ frames := 4, cells := 0, slots := 0, locals := 91 } : Room)) 0 0 (zup X r (.inr (2, [.ref x, .int (nI (n)), .int (nI (k2_27)), .int (nI (ki)), .int (nI (k)), .int (nI (v_28)), .int (nI (w)), va_rf (vl)]))) 165 [(0, .ref r)] [] := by
            intro q_23
            induction q_23 with
            | zero => intro k2_27 v_28 h1_29 h2_30 h3_31 hm_25; exact absurd hm_25 (Nat.not_lt_zero _)
            | succ q_23 ih_24 =>
              intro k2_27 v_28 h1_29 h2_30 h3_31 hm_25
              refine z_aload_n 0 dX2_next_165 rfl ?_
              refine z_aload_n 0 dX2_next_166 rfl ?_
              refine z_get (v := .int (nI (k2_27))) 2 zup_s rfl in_X2 (by decide) q170 rfl dX2_next_167 ?_
              refine z_callV (As := [.int (nI (k2_27))]) (rd_at zup_s (zup_k hxr hx) hn k2_27 (by omega)) q412 q414 qs2 q113 q415 nm_X2_at zup_s rfl rfl rfl (Nat.le_of_ble_eq_true rfl) ⟨Nat.le_of_ble_eq_true rfl, Nat.le_of_ble_eq_true rfl⟩ dX2_next_170 rfl rfl (Nat.le_of_ble_eq_true rfl) (Nat.le_of_ble_eq_true rfl) (fun v_32 X_33 hp_34 => ?_)
              obtain ⟨rfl, h7⟩ := hp_34
              replace h7 := h7.symm
              subst h7
              refine z_st (st' := [.int (if k2_27 < n then t k2_27 else 0)]) rfl ?_
              refine z_callS (As := [.int (if k2_27 < n then t k2_27 else 0)]) (rd_isDigit (if k2_27 < n then t k2_27 else 0)) q419 q420 q113 q421 nm_X2_isDigit rfl (Nat.le_of_ble_eq_true rfl) ⟨Nat.le_of_ble_eq_true rfl, Nat.le_of_ble_eq_true rfl⟩ dX2_next_173 rfl rfl (Nat.le_of_ble_eq_true rfl) (Nat.le_of_ble_eq_true rfl) (fun v_35 X_36 hp_37 => ?_)
              obtain ⟨rfl, h7⟩ := hp_37
              replace h7 := h7.symm
              subst h7
              refine z_st (st' := [.int (zb (s_di (if k2_27 < n then t k2_27 else 0)))]) rfl ?_
              refine z_if_eqb 235 dX2_next_176 (by decide) (fun c_38 => ?_) (fun c_38 => ?_)
              · -- s_di (if k2_27 < n then t k2_27 else 0) = false
                have he9 := h2_30.symm.trans ((k_run k_di_0 (show k2_27 ≤ n by omega)).2 c_38)
                refine z_aload_n 0 dX2_next_235 rfl ?_
                refine z_aload_n 0 dX2_next_236 rfl ?_
                refine z_get (v := .int (nI (k2_27))) 2 zup_s rfl in_X2 (by decide) q170 rfl dX2_next_237 ?_
                refine z_aload_n 0 dX2_next_240 rfl ?_
                refine z_get (v := .int (nI (k))) 4 zup_s rfl in_X2 (by decide) q172 rfl dX2_next_241 ?_
                refine z_isubN (a := k2_27) (b := k) (by omega) dX2_next_244 ?_
                refine z_iconst (v := 4) dX2_next_245 (by decide) ?_
                refine z_icmp_leN (a := (k2_27 - k)) (b := 4) 253 (by omega) (by omega) dX2_next_246 (by decide) (fun c_39 => ?_) (fun c_39 => ?_)
                · -- (k2_27 - k) ≤ 4
                  refine z_iconst (v := 2) dX2_next_253 (by decide) ?_
                  refine z_put (X' := (zup X r (.inr (2, [.ref x, .int (nI (n)), .int (nI (k2_27)), .int 2, .int (nI (k)), .int (nI (v_28)), .int (nI (w)), va_rf (vl)])))) 3 zup_s rfl in_X2 (by decide) tyX2 tyX2_ok nmX2 q171 rfl (tyX2_ok 3 (by decide)) rfl rfl (Nat.le_of_ble_eq_true rfl) hr0 dX2_next_254 zup_zup ?_
                  refine z_goto 296 dX2_next_257 (by decide) ?_
                  exact z_vret dX2_next_296 rfl (Nat.le_of_ble_eq_true rfl) (Nat.le_of_ble_eq_true rfl) ⟨rfl, nI (v_28), (by rw [hp]; exact congrArg (zup X r) (((rdk_n (c := c) (x := x) (w := w) (va := nI (v_28)) (vl := vl) hkn (by rw [c_8]; decide) c_15 he9).1.trans (congrArg (fun z => rdr x n k k2_27 z (nI (v_28)) w vl) (if_neg (by omega)))).symm)), (by rw [hp]; exact fun _ => congrArg nI (h3_31.trans (rdk_n (c := c) (x := x) (w := w) (va := nI (v_28)) (vl := vl) hkn (by rw [c_8]; decide) c_15 he9).2.symm))⟩
                · -- 4 < (k2_27 - k)
                  refine z_iconst (v := 4) dX2_next_249 (by decide) ?_
                  refine z_goto 254 dX2_next_250 (by decide) ?_
                  refine z_put (X' := (zup X r (.inr (2, [.ref x, .int (nI (n)), .int (nI (k2_27)), .int 4, .int (nI (k)), .int (nI (v_28)), .int (nI (w)), va_rf (vl)])))) 3 zup_s rfl in_X2 (by decide) tyX2 tyX2_ok nmX2 q171 rfl (tyX2_ok 3 (by decide)) rfl rfl (Nat.le_of_ble_eq_true rfl) hr0 dX2_next_254 zup_zup ?_
                  refine z_goto 296 dX2_next_257 (by decide) ?_
                  exact z_vret dX2_next_296 rfl (Nat.le_of_ble_eq_true rfl) (Nat.le_of_ble_eq_true rfl) ⟨rfl, nI (v_28), (by rw [hp]; exact congrArg (zup X r) (((rdk_n (c := c) (x := x) (w := w) (va := nI (v_28)) (vl := vl) hkn (by rw [c_8]; decide) c_15 he9).1.trans (congrArg (fun z => rdr x n k k2_27 z (nI (v_28)) w vl) (if_pos (by omega)))).symm)), (by rw [hp]; exact fun _ => congrArg nI (h3_31.trans (rdk_n (c := c) (x := x) (w := w) (va := nI (v_28)) (vl := vl) hkn (by rw [c_8]; decide) c_15 he9).2.symm))⟩
              · -- s_di (if k2_27 < n then t k2_27 else 0) = true
                obtain ⟨hq1, hq2, hq3⟩ := (k_run k_di_0 (show k2_27 ≤ n by omega)).1 c_38
                obtain ⟨hc1, hc2⟩ := k_at ht hq1
                have hd9 := (k_di_n _ hc2).mp (hc1 ▸ hq2)
                refine z_aload_n 0 dX2_next_179 rfl ?_
                refine z_aload_n 0 dX2_next_180 rfl ?_
                refine z_get (v := .int (nI (k2_27))) 2 zup_s rfl in_X2 (by decide) q170 rfl dX2_next_181 ?_
                refine z_aload_n 0 dX2_next_184 rfl ?_
                refine z_get (v := .int (nI (k))) 4 zup_s rfl in_X2 (by decide) q172 rfl dX2_next_185 ?_
                refine z_isubN (a := k2_27) (b := k) (by omega) dX2_next_188 ?_
                refine z_iconst (v := 4) dX2_next_189 (by decide) ?_
                refine z_icmp_geN (a := (k2_27 - k)) (b := 4) 215 (by omega) (by omega) dX2_next_190 (by decide) (fun c_40 => ?_) (fun c_40 => ?_)
                · -- 4 ≤ (k2_27 - k)
                  refine z_aload_n 0 dX2_next_215 rfl ?_
                  refine z_get (v := .int (nI (v_28))) 5 zup_s rfl in_X2 (by decide) q173 rfl dX2_next_216 ?_
                  refine z_put (X' := (zup X r (.inr (2, [.ref x, .int (nI (n)), .int (nI (k2_27)), .int (nI (ki)), .int (nI (k)), .int (nI (v_28)), .int (nI (w)), va_rf (vl)])))) 5 zup_s rfl in_X2 (by decide) tyX2 tyX2_ok nmX2 q173 rfl (tyX2_ok 5 (by decide)) rfl rfl (Nat.le_of_ble_eq_true rfl) hr0 dX2_next_219 zup_zup ?_
                  refine z_aload_n 0 dX2_next_222 rfl ?_
                  refine z_dup dX2_next_223 rfl ?_
                  refine z_get (v := .int (nI (k2_27))) 2 zup_s rfl in_X2 (by decide) q170 rfl dX2_next_224 ?_
                  refine z_iconst (v := 1) dX2_next_227 (by decide) ?_
                  refine z_iaddN (a := k2_27) (b := 1) dX2_next_228 ?_
                  refine z_put (X' := (zup X r (.inr (2, [.ref x, .int (nI (n)), .int (nI (k2_27 + 1)), .int (nI (ki)), .int (nI (k)), .int (nI (v_28)), .int (nI (w)), va_rf (vl)])))) 2 zup_s rfl in_X2 (by decide) tyX2 tyX2_ok nmX2 q170 rfl (tyX2_ok 2 (by decide)) rfl rfl (Nat.le_of_ble_eq_true rfl) hr0 dX2_next_229 zup_zup ?_
                  refine z_goto 165 dX2_next_232 (by decide) ?_
                  refine z_X (X' := (zup X r (.inr (2, [.ref x, .int (nI (n)), .int (nI ((k2_27 + 1))), .int (nI (ki)), .int (nI (k)), .int (nI (v_28)), .int (nI (w)), va_rf (vl)])))) (by rfl) ?_
                  exact ih_24 (k2_27 + 1) v_28 (by omega) (hq3.symm.trans h2_30) (by rw [show k2_27 + 1 - k = (k2_27 - k) + 1 by omega, h3_31]; symm; show (if k2_27 - k < 4 then 10 * k_n10 c k (k2_27 - k) + (c (k + (k2_27 - k)) - 48) else k_n10 c k (k2_27 - k)) = _; rw [show k + (k2_27 - k) = k2_27 by omega]; (first | rw [if_pos (by omega)] | rw [if_neg (by omega)]) <;> omega) (by omega)
                · -- (k2_27 - k) < 4
                  refine z_bipush (v := 10) dX2_next_193 (by decide) ?_
                  refine z_aload_n 0 dX2_next_195 rfl ?_
                  refine z_get (v := .int (nI (v_28))) 5 zup_s rfl in_X2 (by decide) q173 rfl dX2_next_196 ?_
                  refine z_imulN (a := 10) (b := v_28) dX2_next_199 ?_
                  refine z_aload_n 0 dX2_next_200 rfl ?_
                  refine z_aload_n 0 dX2_next_201 rfl ?_
                  refine z_get (v := .int (nI (k2_27))) 2 zup_s rfl in_X2 (by decide) q170 rfl dX2_next_202 ?_
                  refine z_callV (As := [.int (nI (k2_27))]) (rd_at zup_s (zup_k hxr hx) hn k2_27 (by omega)) q412 q414 qs2 q113 q415 nm_X2_at zup_s rfl rfl rfl (Nat.le_of_ble_eq_true rfl) ⟨Nat.le_of_ble_eq_true rfl, Nat.le_of_ble_eq_true rfl⟩ dX2_next_205 rfl rfl (Nat.le_of_ble_eq_true rfl) (Nat.le_of_ble_eq_true rfl) (fun v_41 X_42 hp_43 => ?_)
                  obtain ⟨rfl, h7⟩ := hp_43
                  replace h7 := h7.symm
                  subst h7
                  refine z_st (st' := [.int (if k2_27 < n then t k2_27 else 0), .int (nI (10 * v_28)), .ref r]) rfl ?_
                  refine z_eq (y := nI ((c k2_27))) ((if_pos hq1).trans hc1) ?_
                  refine z_iaddN (a := 10 * v_28) (b := (c k2_27)) dX2_next_208 ?_
                  refine z_eq (y := nI (10 * v_28 + (c k2_27))) (congrArg nI (by omega)) ?_
                  refine z_bipush (v := 48) dX2_next_209 (by decide) ?_
                  refine z_isubN (a := 10 * v_28 + (c k2_27)) (b := 48) (by omega) dX2_next_211 ?_
                  refine z_goto 219 dX2_next_212 (by decide) ?_
                  refine z_put (X' := (zup X r (.inr (2, [.ref x, .int (nI (n)), .int (nI (k2_27)), .int (nI (ki)), .int (nI (k)), .int (nI ((10 * v_28 + (c k2_27) - 48))), .int (nI (w)), va_rf (vl)])))) 5 zup_s rfl in_X2 (by decide) tyX2 tyX2_ok nmX2 q173 rfl (tyX2_ok 5 (by decide)) rfl rfl (Nat.le_of_ble_eq_true rfl) hr0 dX2_next_219 zup_zup ?_
                  refine z_aload_n 0 dX2_next_222 rfl ?_
                  refine z_dup dX2_next_223 rfl ?_
                  refine z_get (v := .int (nI (k2_27))) 2 zup_s rfl in_X2 (by decide) q170 rfl dX2_next_224 ?_
                  refine z_iconst (v := 1) dX2_next_227 (by decide) ?_
                  refine z_iaddN (a := k2_27) (b := 1) dX2_next_228 ?_
                  refine z_put (X' := (zup X r (.inr (2, [.ref x, .int (nI (n)), .int (nI (k2_27 + 1)), .int (nI (ki)), .int (nI (k)), .int (nI ((10 * v_28 + (c k2_27) - 48))), .int (nI (w)), va_rf (vl)])))) 2 zup_s rfl in_X2 (by decide) tyX2 tyX2_ok nmX2 q170 rfl (tyX2_ok 2 (by decide)) rfl rfl (Nat.le_of_ble_eq_true rfl) hr0 dX2_next_229 zup_zup ?_
                  refine z_goto 165 dX2_next_232 (by decide) ?_
                  refine z_X (X' := (zup X r (.inr (2, [.ref x, .int (nI (n)), .int (nI ((k2_27 + 1))), .int (nI (ki)), .int (nI (k)), .int (nI ((10 * v_28 + (c k2_27) - 48))), .int (nI (w)), va_rf (vl)])))) (by rfl) ?_
                  exact ih_24 (k2_27 + 1) (10 * v_28 + (c k2_27) - 48) (by omega) (hq3.symm.trans h2_30) (by rw [show k2_27 + 1 - k = (k2_27 - k) + 1 by omega, h3_31]; symm; show (if k2_27 - k < 4 then 10 * k_n10 c k (k2_27 - k) + (c (k + (k2_27 - k)) - 48) else k_n10 c k (k2_27 - k)) = _; rw [show k + (k2_27 - k) = k2_27 by omega]; (first | rw [if_pos (by omega)] | rw [if_neg (by omega)]) <;> omega) (by omega)
          exact loop_26 (n - k + 1) k 0 ⟨Nat.le_refl _, by omega⟩ rfl (by rw [Nat.sub_self]; rfl) (Nat.lt_succ_self _)
      · -- s_le (t k) = true
        have loop_47 : ∀ (q_44 : Nat) (k2_48 : Nat), (k ≤ k2_48 ∧ k2_48 ≤ n) → (s_to s_le t n k2_48 = s_to s_le t n k) → n - k2_48 < q_44 → zZ g m_X2_next (fun rv X' => rv = none ∧ ∃ va', X' = zup X r (rdk x n t (s_to s_bl t n to) va' w vl) ∧ (k_kd t n (s_to s_bl t n to) = 2 → va' = nI (k_nv t c n (s_to s_bl t n to))), zno, ({ frames := 4, cells := 0, slots := 0, locals := 91 } : Room)) 0 0 (zup X r (.inr (2, [.ref x, .int (nI (n)), .int (nI (k2_48)), .int (nI (ki)), .int (nI (k)), .int va, .int (nI (w)), va_rf (vl)]))) 93 [(0, .ref r)] [] := by
          intro q_44
          induction q_44 with
          | zero => intro k2_48 h1_49 h2_50 hm_46; exact absurd hm_46 (Nat.not_lt_zero _)
          | succ q_44 ih_45 =>
            intro k2_48 h1_49 h2_50 hm_46
            refine z_aload_n 0 dX2_next_93 rfl ?_
            refine z_aload_n 0 dX2_next_94 rfl ?_
            refine z_get (v := .int (nI (k2_48))) 2 zup_s rfl in_X2 (by decide) q170 rfl dX2_next_95 ?_
            refine z_callV (As := [.int (nI (k2_48))]) (rd_at zup_s (zup_k hxr hx) hn k2_48 (by omega)) q412 q414 qs2 q113 q415 nm_X2_at zup_s rfl rfl rfl (Nat.le_of_ble_eq_true rfl) ⟨Nat.le_of_ble_eq_true rfl, Nat.le_of_ble_eq_true rfl⟩ dX2_next_98 rfl rfl (Nat.le_of_ble_eq_true rfl) (Nat.le_of_ble_eq_true rfl) (fun v_51 X_52 hp_53 => ?_)
            obtain ⟨rfl, h7⟩ := hp_53
            replace h7 := h7.symm
            subst h7
            refine z_st (st' := [.int (if k2_48 < n then t k2_48 else 0)]) rfl ?_
            refine z_callS (As := [.int (if k2_48 < n then t k2_48 else 0)]) (rd_isLetter (if k2_48 < n then t k2_48 else 0)) q416 q417 q113 q418 nm_X2_isLetter rfl (Nat.le_of_ble_eq_true rfl) ⟨Nat.le_of_ble_eq_true rfl, Nat.le_of_ble_eq_true rfl⟩ dX2_next_101 rfl rfl (Nat.le_of_ble_eq_true rfl) (Nat.le_of_ble_eq_true rfl) (fun v_54 X_55 hp_56 => ?_)
            obtain ⟨rfl, h7⟩ := hp_56
            replace h7 := h7.symm
            subst h7
            refine z_st (st' := [.int (zb (s_le (if k2_48 < n then t k2_48 else 0)))]) rfl ?_
            refine z_if_eqb 120 dX2_next_104 (by decide) (fun c_57 => ?_) (fun c_57 => ?_)
            · -- s_le (if k2_48 < n then t k2_48 else 0) = false
              have he9 := h2_50.symm.trans ((k_run k_le_0 (show k2_48 ≤ n by omega)).2 c_57)
              refine z_aload_n 0 dX2_next_120 rfl ?_
              refine z_aload_n 0 dX2_next_121 rfl ?_
              refine z_get (v := .int (nI (k2_48))) 2 zup_s rfl in_X2 (by decide) q170 rfl dX2_next_122 ?_
              refine z_aload_n 0 dX2_next_125 rfl ?_
              refine z_get (v := .int (nI (k))) 4 zup_s rfl in_X2 (by decide) q172 rfl dX2_next_126 ?_
              refine z_isubN (a := k2_48) (b := k) (by omega) dX2_next_129 ?_
              refine z_bipush (v := 8) dX2_next_130 (by decide) ?_
              refine z_icmp_leN (a := (k2_48 - k)) (b := 8) 139 (by omega) (by omega) dX2_next_132 (by decide) (fun c_58 => ?_) (fun c_58 => ?_)
              · -- (k2_48 - k) ≤ 8
                refine z_iconst (v := 1) dX2_next_139 (by decide) ?_
                refine z_put (X' := (zup X r (.inr (2, [.ref x, .int (nI (n)), .int (nI (k2_48)), .int 1, .int (nI (k)), .int va, .int (nI (w)), va_rf (vl)])))) 3 zup_s rfl in_X2 (by decide) tyX2 tyX2_ok nmX2 q171 rfl (tyX2_ok 3 (by decide)) rfl rfl (Nat.le_of_ble_eq_true rfl) hr0 dX2_next_140 zup_zup ?_
                refine z_goto 296 dX2_next_143 (by decide) ?_
                exact z_vret dX2_next_296 rfl (Nat.le_of_ble_eq_true rfl) (Nat.le_of_ble_eq_true rfl) ⟨rfl, va, (by rw [hp]; exact congrArg (zup X r) (((rdk_w (x := x) (w := w) (va := va) (vl := vl) hkn c_8 he9).1.trans (congrArg (fun z => rdr x n k k2_48 z va w vl) (if_neg (by omega)))).symm)), (by rw [hp]; exact fun h9 => absurd h9 (rdk_w (x := x) (w := w) (va := va) (vl := vl) hkn c_8 he9).2)⟩
              · -- 8 < (k2_48 - k)
                refine z_iconst (v := 4) dX2_next_135 (by decide) ?_
                refine z_goto 140 dX2_next_136 (by decide) ?_
                refine z_put (X' := (zup X r (.inr (2, [.ref x, .int (nI (n)), .int (nI (k2_48)), .int 4, .int (nI (k)), .int va, .int (nI (w)), va_rf (vl)])))) 3 zup_s rfl in_X2 (by decide) tyX2 tyX2_ok nmX2 q171 rfl (tyX2_ok 3 (by decide)) rfl rfl (Nat.le_of_ble_eq_true rfl) hr0 dX2_next_140 zup_zup ?_
                refine z_goto 296 dX2_next_143 (by decide) ?_
                exact z_vret dX2_next_296 rfl (Nat.le_of_ble_eq_true rfl) (Nat.le_of_ble_eq_true rfl) ⟨rfl, va, (by rw [hp]; exact congrArg (zup X r) (((rdk_w (x := x) (w := w) (va := va) (vl := vl) hkn c_8 he9).1.trans (congrArg (fun z => rdr x n k k2_48 z va w vl) (if_pos (by omega)))).symm)), (by rw [hp]; exact fun h9 => absurd h9 (rdk_w (x := x) (w := w) (va := va) (vl := vl) hkn c_8 he9).2)⟩
            · -- s_le (if k2_48 < n then t k2_48 else 0) = true
              obtain ⟨hq1, hq2, hq3⟩ := (k_run k_le_0 (show k2_48 ≤ n by omega)).1 c_57
              obtain ⟨hc1, hc2⟩ := k_at ht hq1
              refine z_aload_n 0 dX2_next_107 rfl ?_
              refine z_dup dX2_next_108 rfl ?_
              refine z_get (v := .int (nI (k2_48))) 2 zup_s rfl in_X2 (by decide) q170 rfl dX2_next_109 ?_
              refine z_iconst (v := 1) dX2_next_112 (by decide) ?_
              refine z_iaddN (a := k2_48) (b := 1) dX2_next_113 ?_
              refine z_put (X' := (zup X r (.inr (2, [.ref x, .int (nI (n)), .int (nI (k2_48 + 1)), .int (nI (ki)), .int (nI (k)), .int va, .int (nI (w)), va_rf (vl)])))) 2 zup_s rfl in_X2 (by decide) tyX2 tyX2_ok nmX2 q170 rfl (tyX2_ok 2 (by decide)) rfl rfl (Nat.le_of_ble_eq_true rfl) hr0 dX2_next_114 zup_zup ?_
              refine z_goto 93 dX2_next_117 (by decide) ?_
              refine z_X (X' := (zup X r (.inr (2, [.ref x, .int (nI (n)), .int (nI ((k2_48 + 1))), .int (nI (ki)), .int (nI (k)), .int va, .int (nI (w)), va_rf (vl)])))) (by rfl) ?_
              exact ih_45 (k2_48 + 1) (by omega) (hq3.symm.trans h2_50) (by omega)
        exact loop_47 (n - k + 1) k ⟨Nat.le_refl _, by omega⟩ rfl (Nat.lt_succ_self _)
    · -- k = n
      refine z_aload_n 0 dX2_next_71 rfl ?_
      refine z_iconst (v := 0) dX2_next_72 (by decide) ?_
      refine z_put (X' := (zup X r (.inr (2, [.ref x, .int (nI (n)), .int (nI (k)), .int 0, .int (nI (k)), .int va, .int (nI (w)), va_rf (vl)])))) 3 zup_s rfl in_X2 (by decide) tyX2 tyX2_ok nmX2 q171 rfl (tyX2_ok 3 (by decide)) rfl rfl (Nat.le_of_ble_eq_true rfl) hr0 dX2_next_73 zup_zup ?_
      refine z_goto 296 dX2_next_76 (by decide) ?_
      exact z_vret dX2_next_296 rfl (Nat.le_of_ble_eq_true rfl) (Nat.le_of_ble_eq_true rfl) ⟨rfl, va, (by rw [hp]; exact congrArg (zup X r) (((rdk_e (x := x) (w := w) (va := va) (vl := vl) (by omega) (by omega)).1).symm)), (by rw [hp]; exact fun h9 => absurd h9 (rdk_e (x := x) (w := w) (va := va) (vl := vl) (by omega) (by omega)).2)⟩
  have loop_62 : ∀ (q_59 : Nat) (k_63 : Nat), (k_63 ≤ n) → (s_to s_bl t n k_63 = s_to s_bl t n to) → n - k_63 < q_59 → zZ g m_X2_next (fun rv X' => rv = none ∧ ∃ va', X' = zup X r (rdk x n t (s_to s_bl t n to) va' w vl) ∧ (k_kd t n (s_to s_bl t n to) = 2 → va' = nI (k_nv t c n (s_to s_bl t n to))), zno, ({ frames := 4, cells := 0, slots := 0, locals := 91 } : Room)) 0 0 (zup X r (.inr (2, [.ref x, .int (nI (n)), .int (nI (k_63)), .int (nI (ki)), .int (nI (p)), .int va, .int (nI (w)), va_rf (vl)]))) 0 [(0, .ref r)] [] := by
    intro q_59
    induction q_59 with
    | zero => intro k_63 h1_64 h2_65 hm_61; exact absurd hm_61 (Nat.not_lt_zero _)
    | succ q_59 ih_60 =>
      intro k_63 h1_64 h2_65 hm_61
      refine z_aload_n 0 dX2_next_0 rfl ?_
      refine z_get (v := .int (nI (k_63))) 2 zup_s rfl in_X2 (by decide) q170 rfl dX2_next_1 ?_
      refine z_aload_n 0 dX2_next_4 rfl ?_
      refine z_get (v := .int (nI (n))) 1 zup_s rfl in_X2 (by decide) q169 rfl dX2_next_5 ?_
      refine z_icmp_geN (a := k_63) (b := n) 52 (by omega) (by omega) dX2_next_8 (by decide) (fun c_66 => ?_) (fun c_66 => ?_)
      · -- n ≤ k_63
        exact hB k_63 (by omega) (h2_65.symm.trans (s_to_e (by omega)))
      · -- k_63 < n
        obtain ⟨hc1, hc2⟩ := k_at ht (show k_63 < n by omega)
        refine z_aload_n 0 dX2_next_11 rfl ?_
        refine z_get (v := .ref x) 0 zup_s rfl in_X2 (by decide) q168 rfl dX2_next_12 ?_
        refine z_aload_n 0 dX2_next_15 rfl ?_
        refine z_get (v := .int (nI (k_63))) 2 zup_s rfl in_X2 (by decide) q170 rfl dX2_next_16 ?_
        refine z_bald k_63 (zup_k hxr hx) rfl (by omega) (by omega) dX2_next_19 ?_
        refine z_eq (y := nI ((c k_63))) hc1 ?_
        refine z_bipush (v := 10) dX2_next_20 (by decide) ?_
        refine z_icmp_eqN (a := (c k_63)) (b := 10) 39 (by omega) (by omega) dX2_next_22 (by decide) (fun c_67 => ?_) (fun c_67 => ?_)
        · -- (c k_63) = 10
          refine z_aload_n 0 dX2_next_39 rfl ?_
          refine z_dup dX2_next_40 rfl ?_
          refine z_get (v := .int (nI (k_63))) 2 zup_s rfl in_X2 (by decide) q170 rfl dX2_next_41 ?_
          refine z_iconst (v := 1) dX2_next_44 (by decide) ?_
          refine z_iaddN (a := k_63) (b := 1) dX2_next_45 ?_
          refine z_put (X' := (zup X r (.inr (2, [.ref x, .int (nI (n)), .int (nI (k_63 + 1)), .int (nI (ki)), .int (nI (p)), .int va, .int (nI (w)), va_rf (vl)])))) 2 zup_s rfl in_X2 (by decide) tyX2 tyX2_ok nmX2 q170 rfl (tyX2_ok 2 (by decide)) rfl rfl (Nat.le_of_ble_eq_true rfl) hr0 dX2_next_46 zup_zup ?_
          refine z_goto 0 dX2_next_49 (by decide) ?_
          refine z_X (X' := (zup X r (.inr (2, [.ref x, .int (nI (n)), .int (nI ((k_63 + 1))), .int (nI (ki)), .int (nI (p)), .int va, .int (nI (w)), va_rf (vl)])))) (by rfl) ?_
          exact ih_60 (k_63 + 1) (by omega) ((s_to_t (by omega) (by rw [hc1]; exact (k_bl_n _ hc2).mpr (by omega))).symm.trans h2_65) (by omega)
        · -- (c k_63) ≠ 10
          refine z_aload_n 0 dX2_next_25 rfl ?_
          refine z_get (v := .ref x) 0 zup_s rfl in_X2 (by decide) q168 rfl dX2_next_26 ?_
          refine z_aload_n 0 dX2_next_29 rfl ?_
          refine z_get (v := .int (nI (k_63))) 2 zup_s rfl in_X2 (by decide) q170 rfl dX2_next_30 ?_
          refine z_bald k_63 (zup_k hxr hx) rfl (by omega) (by omega) dX2_next_33 ?_
          refine z_eq (y := nI ((c k_63))) hc1 ?_
          refine z_bipush (v := 32) dX2_next_34 (by decide) ?_
          refine z_icmp_neN (a := (c k_63)) (b := 32) 52 (by omega) (by omega) dX2_next_36 (by decide) (fun c_68 => ?_) (fun c_68 => ?_)
          · -- (c k_63) ≠ 32
            exact hB k_63 (by omega) (h2_65.symm.trans (s_to_f (by rw [hc1]; exact Bool.eq_false_iff.mpr (fun z => by have z9 := (k_bl_n _ hc2).mp z; omega))))
          · -- (c k_63) = 32
            refine z_aload_n 0 dX2_next_39 rfl ?_
            refine z_dup dX2_next_40 rfl ?_
            refine z_get (v := .int (nI (k_63))) 2 zup_s rfl in_X2 (by decide) q170 rfl dX2_next_41 ?_
            refine z_iconst (v := 1) dX2_next_44 (by decide) ?_
            refine z_iaddN (a := k_63) (b := 1) dX2_next_45 ?_
            refine z_put (X' := (zup X r (.inr (2, [.ref x, .int (nI (n)), .int (nI (k_63 + 1)), .int (nI (ki)), .int (nI (p)), .int va, .int (nI (w)), va_rf (vl)])))) 2 zup_s rfl in_X2 (by decide) tyX2 tyX2_ok nmX2 q170 rfl (tyX2_ok 2 (by decide)) rfl rfl (Nat.le_of_ble_eq_true rfl) hr0 dX2_next_46 zup_zup ?_
            refine z_goto 0 dX2_next_49 (by decide) ?_
            refine z_X (X' := (zup X r (.inr (2, [.ref x, .int (nI (n)), .int (nI ((k_63 + 1))), .int (nI (ki)), .int (nI (p)), .int va, .int (nI (w)), va_rf (vl)])))) (by rfl) ?_
            exact ih_60 (k_63 + 1) (by omega) ((s_to_t (by omega) (by rw [hc1]; exact (k_bl_n _ hc2).mpr (by omega))).symm.trans h2_65) (by omega)
  exact loop_62 (n - to + 1) to hto rfl (Nat.lt_succ_self _)
