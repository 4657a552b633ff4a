/-! THE READER: the token at hand. Printed by t90.py -/
set_option maxRecDepth 100000
theorem rdT_rdk {T : rTP} {a w : Nat} {va : Int32} {vo : Option Nat} (h : T.kd a = k_kd T.t T.n (T.pl a)) : rdT T a va w vo = rdk T.x T.n T.t (T.pl a) va w vo := by
  unfold rdT rdk
  rw [h]
theorem rW.ne {g : zG} {X : zX} {r a w : Nat} {vo : Option Nat} {T : rTP} (h : rW g X r T a w vo) : T.x ≠ r := by
  obtain ⟨-, hx, -, -, va, hr, -⟩ := h
  intro z
  rw [z, hr] at hx
  cases hx
theorem kst.up {g : zG} {X : zX} {r : Nat} {ci : Nat} {fs : List Value} {e : va_E} (h : kst g X) (hr : X r = some (.inr (ci, fs))) (hc : ci ≠ 24) : kst g (zup X r e) := fun i hi => by
  obtain ⟨b, hs, hz, h1, h2⟩ := h i hi
  refine ⟨b, hs, hz, zup_k (fun z => ?_) h1, zup_k (fun z => ?_) h2⟩
  · rw [z, hr] at h1
    cases h1
    exact hc rfl
  · rw [z, hr] at h2
    cases h2
theorem rW.to {g : zG} {X : zX} {r a w a' w' : Nat} {vo vo' : Option Nat} {T : rTP} {va : Int32} (h : rW g X r T a w vo) (ha : a' ≤ T.cnt) (hv : T.kd a' = 2 → va = nI (k_nv T.t T.c T.n (T.pl a'))) : rW g (zup X r (rdT T a' va w' vo')) r T a' w' vo' := by
  have hne := h.ne
  obtain ⟨h1, hx, hk, -, va0, hr, -⟩ := h
  exact ⟨h1, zup_k hne hx, hk.up hr (by decide), ha, va, zup_s, hv⟩
theorem rd_next {g : zG} {X : zX} {r a w : Nat} {vo : Option Nat} {T : rTP} (hT : rTk T) (hW : rW g X r T a w vo) (hal : a < T.cnt) : zN g m_X2_next ({ frames := 4, cells := 0, slots := 0, locals := 91 } : Room) [.ref r] X (fun rv X' => rv = none ∧ ∃ va, X' = zup X r (rdT T (a + 1) va w vo) ∧ (T.kd (a + 1) = 2 → va = nI (k_nv T.t T.c T.n (T.pl (a + 1))))) := by
  obtain ⟨hr0, hx, hks, ha, va, hr, hva⟩ := hW
  obtain ⟨h1, h2⟩ := hT.nx hal
  refine zN.post (rd_next0 (va := va) (w := w) (vl := vo) hr hr0 hx hT.1 hks h1) (fun v X' hp => ?_)
  obtain ⟨e1, va', e2, e3⟩ := hp
  rw [h2] at e2 e3
  exact ⟨e1, va', by rw [rdT_rdk (hT.at (by omega))]; exact e2, by rw [hT.at (by omega)]; exact e3⟩
set_option maxHeartbeats 4000000 in
theorem rd_isSign {g : zG} {X : zX} {r a w : Nat} {vo : Option Nat} {T : rTP} (hT : rTk T) (hW : rW g X r T a w vo) (q : Int32) : zN g m_X2_isSign ({ frames := 0, cells := 0, slots := 0, locals := 0 } : Room) [.ref r, .int q] X (fun rv X' => rv = some (.int (zb (s_isS T.kd T.vl a 0 q))) ∧ X' = X) := by
  refine zN.of (by decide +kernel) (Nat.le_of_ble_eq_true rfl) rfl ?_
  refine z_lv (lv' := [(0, .ref r), (1, .int q)]) [0, 1] rfl ?_
  have hn := hT.n
  have hW2 := hW
  obtain ⟨hr0, hx, hks, ha, va, hr, hva⟩ := hW
  have hcn := hT.c
  have hpl := hT.le ha
  have hto := hT.to ha
  have hk4 := hT.kd4 ha
  refine z_aload_n 0 dX2_isSign_0 rfl ?_
  refine z_get (v := .int (nI ((T.kd a)))) 3 hr rfl in_X2 (by decide) q171 rfl dX2_isSign_1 ?_
  refine z_iconst (v := 3) dX2_isSign_4 (by decide) ?_
  refine z_icmp_neN (a := (T.kd a)) (b := 3) 25 (by omega) (by omega) dX2_isSign_5 (by decide) (fun c_1 => ?_) (fun c_1 => ?_)
  · -- (T.kd a) ≠ 3
    refine z_iconst (v := 0) dX2_isSign_25 (by decide) ?_
    exact z_zret dX2_isSign_26 rfl (by first | rfl | decide | exact zb_nar _) (Nat.le_of_ble_eq_true rfl) (Nat.le_of_ble_eq_true rfl) ⟨congrArg (fun b => some (Value.int (zb b))) (show false = s_isS T.kd T.vl a 0 q by unfold s_isS; rw [decide_eq_false c_1]; rfl), rfl⟩
  · -- (T.kd a) = 3
    obtain ⟨hl1, hl2⟩ := hT.lt ha (by omega)
    refine z_aload_n 0 dX2_isSign_8 rfl ?_
    refine z_get (v := .ref T.x) 0 hr rfl in_X2 (by decide) q168 rfl dX2_isSign_9 ?_
    refine z_aload_n 0 dX2_isSign_12 rfl ?_
    refine z_get (v := .int (nI ((T.pl a)))) 4 hr rfl in_X2 (by decide) q172 rfl dX2_isSign_13 ?_
    refine z_bald (T.pl a) hx rfl (by omega) (by omega) dX2_isSign_16 ?_
    refine z_iload_n 1 dX2_isSign_17 rfl ?_
    refine z_icmp_ne 25 dX2_isSign_18 (by decide) (fun c_2 => ?_) (fun c_2 => ?_)
    · -- ¬ T.t (T.pl a) = q
      refine z_iconst (v := 0) dX2_isSign_25 (by decide) ?_
      exact z_zret dX2_isSign_26 rfl (by first | rfl | decide | exact zb_nar _) (Nat.le_of_ble_eq_true rfl) (Nat.le_of_ble_eq_true rfl) ⟨congrArg (fun b => some (Value.int (zb b))) (show false = s_isS T.kd T.vl a 0 q by unfold s_isS; rw [hT.sg ha c_1, decide_eq_true c_1, show decide ((T.t (T.pl a)).toInt64 = q.toInt64) = false from decide_eq_false (fun z => c_2 (i64_inj.mp z))]; rfl), rfl⟩
    · -- T.t (T.pl a) = q
      refine z_iconst (v := 1) dX2_isSign_21 (by decide) ?_
      refine z_goto 26 dX2_isSign_22 (by decide) ?_
      exact z_zret dX2_isSign_26 rfl (by first | rfl | decide | exact zb_nar _) (Nat.le_of_ble_eq_true rfl) (Nat.le_of_ble_eq_true rfl) ⟨congrArg (fun b => some (Value.int (zb b))) (show true = s_isS T.kd T.vl a 0 q by unfold s_isS; rw [hT.sg ha c_1, decide_eq_true c_1, show decide ((T.t (T.pl a)).toInt64 = q.toInt64) = true from decide_eq_true ((i64_inj).mpr c_2)]; rfl), rfl⟩
