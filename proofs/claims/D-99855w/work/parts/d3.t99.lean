/-! THE READER: a day told, the walk. Printed by t99.py -/
set_option maxRecDepth 100000
set_option maxHeartbeats 4000000 in
theorem rd_guestl {g : zG} {X : zX} {r a w : Nat} {T : rTP} {X0 : zX} {v nh nd : Nat} {B : vB} {vs : Nat → Int32} {hv gv : Nat → Int64} {st : Int32} {fa : Option Nat} (hT : rTk T) (hW : rW g X r T a w (some v)) (hX0 : rto X0 X r) (hU0 : vU g X0 X v B vs nh nd hv gv st fa)  : zV g m_X2_guest ({ frames := 8, cells := 17, slots := 109, locals := 214 } : Room) [.ref r] X (fun rv X' => ∃ (o s k d y : Nat) (h : Int32), rv = some (.ref o) ∧ k ≤ 3 ∧ k_guest T.kd T.pl T.vl T.wd (fun val => kwf (fun k => decide (hv k = val)) nh 0) (fun val => kwf (fun k => decide (gv k = val)) nd 0) a = (nI k, h, nI d, nI y, a + 8, 0) ∧ T.kd a = 1 ∧ kwf (fun k => decide (hv k = (T.vl a))) nh 0 < 0 ∧ kwf (fun k => decide (gv k = (T.vl a))) nd 0 < 0 ∧ X o = none ∧ z0 g ≤ o ∧ ((∀ k, k < nh → B.fh k ≠ some o) ∧ ∀ k, k < nd → B.fg k ≠ some o) ∧ X' o = some (.inr (8 + k, [.ref s, .int h, .int (nI d), .int (nI y), .int 0])) ∧ kS X' s g (T.vl a) ∧ rto X X' r ∧ rW g X' r T (a + 8) w (some v) ∧ vU g X0 X' v B vs nh nd hv gv st fa) (fun q E X' => ∃ f, ¬ f = 0 ∧ (k_guest T.kd T.pl T.vl T.wd (fun val => kwf (fun k => decide (hv k = val)) nh 0) (fun val => kwf (fun k => decide (gv k = val)) nd 0) a).2.2.2.2.2 = f ∧ rX X r T (some v) f q E X') := by
  refine zV.of (by decide +kernel) (Nat.le_of_ble_eq_true rfl) rfl ?_
  refine z_lv (lv' := [(0, .ref r)]) [0] rfl ?_
  have hn := hT.n
  have hW2 := hW
  obtain ⟨hr0, hx, hks, ha, va, hr, hva⟩ := hW
  have hcn := hT.c
  have hpl := hT.le ha
  have hto := hT.to ha
  have hk4 := hT.kd4 ha
  have hU := hU0
  obtain ⟨hv0, hv00, hxv, hlh, hlg, hlhg, hehg, hhU, hgU⟩ := hU0
  refine z_aload_n 0 dX2_guest_0 rfl ?_
  refine z_callVx (As := []) (rd_fresh2 hT hW2 (hX0.tr rto.rf) hU) q620 q622 qs7 q113 q623 nm_X2_fresh hr rfl rfl rfl (Nat.le_of_ble_eq_true rfl) ⟨Nat.le_of_ble_eq_true rfl, Nat.le_of_ble_eq_true rfl⟩ dX2_guest_1 rfl rfl (Nat.le_of_ble_eq_true rfl) (Nat.le_of_ble_eq_true rfl) rfl (fun q9 E9 X8 hp9 => by obtain ⟨f9, hf9, hs9, hx9⟩ := hp9; exact ⟨f9, hf9, (by unfold k_guest; simp only [hs9, s_tO_f hf9, s_tW_f hf9, k_told_f hf9, s_tA_f hf9]), hx9.tr rto.rf⟩) (fun v_3 X1 hp_4 => ?_)
  obtain ⟨s1, rfl, he1, hkd1, hf11, hf21, hn1, hzs1, hkS1, ht1, hw1⟩ := hp_4
  have hWk2 := hw1
  obtain ⟨-, hx2, hks2, ha2, va2, hr2, hva2⟩ := hw1
  have hrt2 := rto.rf.tr ht1
  have he2_v := ht1 _ _ (zne hxv hr (by unfold rdT; simp)) hxv
  have hvU2 := hU.to hr ht1
  have hpl2 := hT.le ha2
  have hto2 := hT.to ha2
  have hk42 := hT.kd4 ha2
  refine z_st (st' := [.ref s1]) rfl ?_
  refine z_astore_n (lv' := [(1, .ref s1), (0, .ref r)]) dX2_guest_4 rfl (by decide) rfl ?_
  refine z_aload_n 1 dX2_guest_5 rfl ?_
  refine z_ldcS 4 rfl dX2_guest_6 ?_
  refine z_callVx (As := [.ref (zk g 14)]) (rd_one hT hWk2 4 14 4 (by decide) (by decide) rfl (by decide) (by decide)) q910 q912 qs18 q113 q913 nm_X2_one hr2 rfl rfl rfl (Nat.le_of_ble_eq_true rfl) ⟨Nat.le_of_ble_eq_true rfl, Nat.le_of_ble_eq_true rfl⟩ dX2_guest_8 rfl rfl (Nat.le_of_ble_eq_true rfl) (Nat.le_of_ble_eq_true rfl) rfl (fun q9 E9 X8 hp9 => by obtain ⟨f9, hf9, hs9, hx9⟩ := hp9; exact ⟨f9, hf9, (by unfold k_guest; simp only [he1, hs9, s_tO_f hf9, s_tW_f hf9, k_told_f hf9, s_tA_f hf9]), hx9.tr hrt2⟩) (fun v_7 X5 hp_8 => ?_)
  obtain ⟨k5, hk5, rfl, he5, ht5, hw5⟩ := hp_8
  have hWk6 := hw5
  obtain ⟨-, hx6, hks6, ha6, va6, hr6, hva6⟩ := hw5
  have hrt6 := hrt2.tr ht5
  have he6_v := ht5 _ _ (zne he2_v hr2 (by unfold rdT; simp)) he2_v
  have hvU6 := hvU2.to hr2 ht5
  have hst6_s1 := hkS1.to hr2 (by decide) ht5
  have hpl6 := hT.le ha6
  have hto6 := hT.to ha6
  have hk46 := hT.kd4 ha6
  refine z_st (st' := [.int (nI (k5))]) rfl ?_
  refine z_istore_n (lv' := [(2, .int (nI (k5))), (1, .ref s1), (0, .ref r)]) dX2_guest_11 rfl (by decide) rfl ?_
  refine z_iload_n 0 dX2_guest_12 rfl ?_
  refine z_if_neN 27 (by omega) dX2_guest_13 (by decide) (fun c_9 => ?_) (fun c_9 => ?_)
  · -- k5 ≠ 0
    refine z_iload_n 0 dX2_guest_27 rfl ?_
    refine z_iconst (v := 1) dX2_guest_28 (by decide) ?_
    refine z_icmp_neN (a := k5) (b := 1) 43 (by omega) (by omega) dX2_guest_29 (by decide) (fun c_10 => ?_) (fun c_10 => ?_)
    · -- k5 ≠ 1
      refine z_iload_n 0 dX2_guest_43 rfl ?_
      refine z_iconst (v := 2) dX2_guest_44 (by decide) ?_
      refine z_icmp_neN (a := k5) (b := 2) 59 (by omega) (by omega) dX2_guest_45 (by decide) (fun c_11 => ?_) (fun c_11 => ?_)
      · -- k5 ≠ 2
        refine z_new (ci := 11) (fs := [.null, .int 0, .int 0, .int 0, .int 0]) rfl in_X11 tyX11 tyX11_ok q966 q967 q140 zd_X11 dX2_guest_59 rfl rfl (Nat.le_of_ble_eq_true rfl) (Nat.le_of_ble_eq_true rfl) (fun n_12 hn_13 hl_14 => ?_)
        have ne_15 : r ≠ n_12 := fun q9 => by rw [← q9, hr6] at hn_13; cases hn_13
        have ne_16 : T.x ≠ n_12 := fun q9 => by rw [← q9, hx6] at hn_13; cases hn_13
        have ne_17 : v ≠ n_12 := fun q9 => by rw [← q9, he6_v] at hn_13; cases hn_13
        have hx_18 : (zup X5 n_12 (.inr (11, [.null, .int 0, .int 0, .int 0, .int 0]))) r = some (rdT T (a + 1 + 1) va6 w (some v)) := zup_k ne_15 hr6
        have hx_19 : (zup X5 n_12 (.inr (11, [.null, .int 0, .int 0, .int 0, .int 0]))) T.x = some (.inl (zar g 1, 1000, .inl T.t)) := zup_k ne_16 hx6
        have hx_20 : (zup X5 n_12 (.inr (11, [.null, .int 0, .int 0, .int 0, .int 0]))) v = some (.inr (3, [.ref B.lh, .ref B.lg, .int st, va_rf (fa)])) := zup_k ne_17 he6_v
        have hx_21 : (zup X5 n_12 (.inr (11, [.null, .int 0, .int 0, .int 0, .int 0]))) n_12 = some (.inr (11, [.null, .int 0, .int 0, .int 0, .int 0])) := zup_s
        have hz0n_12 := (hrt6).back hn_13 hr6
        have hz1n_12 := (hvU6).fgn hn_13
        refine z_dup dX2_guest_62 rfl ?_
        refine z_aload_n 1 dX2_guest_63 rfl ?_
        refine z_callI (As := [.ref s1]) (rd_gi_X11 hx_21 hl_14) q968 q969 q140 q970 rfl rfl nm_X11_init rfl (Nat.le_of_ble_eq_true rfl) ⟨Nat.le_of_ble_eq_true rfl, Nat.le_of_ble_eq_true rfl⟩ dX2_guest_64 rfl rfl (Nat.le_of_ble_eq_true rfl) (Nat.le_of_ble_eq_true rfl) (fun v_26 X_27 hp_28 => ?_)
        obtain ⟨rfl, h7⟩ := hp_28
        replace h7 := h7.symm
        subst h7
        refine z_X (X' := (zup X5 n_12 (.inr (11, [.ref s1, .int 0, .int 0, .int 0, .int 0])))) zup_zup ?_
        have hx_22 : (zup X5 n_12 (.inr (11, [.ref s1, .int 0, .int 0, .int 0, .int 0]))) r = some (rdT T (a + 1 + 1) va6 w (some v)) := zup_over ne_15 hx_18 zup_zup
        have hx_23 : (zup X5 n_12 (.inr (11, [.ref s1, .int 0, .int 0, .int 0, .int 0]))) T.x = some (.inl (zar g 1, 1000, .inl T.t)) := zup_over ne_16 hx_19 zup_zup
        have hx_24 : (zup X5 n_12 (.inr (11, [.ref s1, .int 0, .int 0, .int 0, .int 0]))) v = some (.inr (3, [.ref B.lh, .ref B.lg, .int st, va_rf (fa)])) := zup_over ne_17 hx_20 zup_zup
        have hx_25 : (zup X5 n_12 (.inr (11, [.ref s1, .int 0, .int 0, .int 0, .int 0]))) n_12 = some (.inr (11, [.ref s1, .int 0, .int 0, .int 0, .int 0])) := zup_s
        refine z_st (st' := [.ref n_12]) rfl ?_
        refine z_astore_n (lv' := [(3, .ref n_12), (2, .int (nI (k5))), (1, .ref s1), (0, .ref r)]) dX2_guest_67 rfl (by decide) rfl ?_
        refine z_aload_n 3 dX2_guest_68 rfl ?_
        refine z_ldcS 5 rfl dX2_guest_69 ?_
        refine z_callVx (As := [.ref (zk g 15)]) (rd_need hT (hWk6.nw hn_13) 5 4 (by decide) (by decide) rfl (by decide) (by decide)) q829 q831 qs10 q113 q832 nm_X2_need hx_22 rfl rfl rfl (Nat.le_of_ble_eq_true rfl) ⟨Nat.le_of_ble_eq_true rfl, Nat.le_of_ble_eq_true rfl⟩ dX2_guest_71 rfl rfl (Nat.le_of_ble_eq_true rfl) (Nat.le_of_ble_eq_true rfl) rfl (fun q9 E9 X8 hp9 => by obtain ⟨f9, hf9, hs9, hx9⟩ := hp9; exact ⟨f9, hf9, (by unfold k_guest; simp only [he1, he5, hs9, s_tO_f hf9, s_tW_f hf9, k_told_f hf9, s_tA_f hf9]), hx9.tr (hrt6.nw hn_13)⟩) (fun v_31 X29 hp_32 => ?_)
        obtain ⟨rfl, he29, ht29, hw29⟩ := hp_32
        have hWk30 := hw29
        obtain ⟨-, hx30, hks30, ha30, va30, hr30, hva30⟩ := hw29
        have hrt30 := (hrt6.nw hn_13).tr ht29
        have he30_v := ht29 _ _ (zne hx_24 hx_22 (by unfold rdT; simp)) hx_24
        have he30_n_12 := ht29 _ _ (zne hx_25 hx_22 (by unfold rdT; simp)) hx_25
        have hvU30 := (hvU6.nw hn_13).to hx_22 ht29
        have hst30_s1 := (hst6_s1.nw hn_13).to hx_22 (by decide) ht29
        have hpl30 := hT.le ha30
        have hto30 := hT.to ha30
        have hk430 := hT.kd4 ha30
        refine z_st (st' := []) rfl ?_
        refine z_aload_n 0 dX2_guest_74 rfl ?_
        refine z_aload_n 3 dX2_guest_75 rfl ?_
        refine z_aload_n 3 dX2_guest_76 rfl ?_
        refine z_get (v := .ref v) 7 hr30 rfl in_X2 (by decide) q175 rfl dX2_guest_77 ?_
        refine z_aload_n 3 dX2_guest_80 rfl ?_
        refine z_callVx (As := []) (rd_name hT hWk30) q624 q626 qs8 q113 q627 nm_X2_name hr30 rfl rfl rfl (Nat.le_of_ble_eq_true rfl) ⟨Nat.le_of_ble_eq_true rfl, Nat.le_of_ble_eq_true rfl⟩ dX2_guest_81 rfl rfl (Nat.le_of_ble_eq_true rfl) (Nat.le_of_ble_eq_true rfl) rfl (fun q9 E9 X8 hp9 => by obtain ⟨f9, hf9, hs9, hx9⟩ := hp9; exact ⟨f9, hf9, (by have hs8 := (show k_told T.kd T.pl T.vl T.wd (fun val => kwf (fun k => decide (hv k = val)) nh 0) (a + 1 + 1 + 1) 0 = (0, (a + 1 + 1 + 1), f9) by unfold k_told; rw [if_pos rfl, if_neg (by rw [hs9.1]; decide), hs9.2]); unfold k_guest; simp only [he1, he5, he29, hs8, s_tA_f hf9]), hx9.tr hrt30⟩) (fun v_35 X33 hp_36 => ?_)
        obtain ⟨s33, rfl, hi33, hn33, hzs33, hkS33, ht33, hw33⟩ := hp_36
        have hWk34 := hw33
        obtain ⟨-, hx34, hks34, ha34, va34, hr34, hva34⟩ := hw33
        have hrt34 := hrt30.tr ht33
        have he34_v := ht33 _ _ (zne he30_v hr30 (by unfold rdT; simp)) he30_v
        have he34_n_12 := ht33 _ _ (zne he30_n_12 hr30 (by unfold rdT; simp)) he30_n_12
        have hvU34 := hvU30.to hr30 ht33
        have hst34_s1 := hst30_s1.to hr30 (by decide) ht33
        have hpl34 := hT.le ha34
        have hto34 := hT.to ha34
        have hk434 := hT.kd4 ha34
        refine z_st (st' := [.ref s33, .ref v, .ref r, .ref n_12]) rfl ?_
        refine z_callV (As := [.ref s33]) (rd_homeU hvU34 hkS33) q787 q788 q789 q114 q790 nm_X3_home he34_v rfl rfl rfl (Nat.le_of_ble_eq_true rfl) ⟨Nat.le_of_ble_eq_true rfl, Nat.le_of_ble_eq_true rfl⟩ dX2_guest_84 rfl rfl (Nat.le_of_ble_eq_true rfl) (Nat.le_of_ble_eq_true rfl) (fun v_37 X_38 hp_39 => ?_)
        obtain ⟨rfl, h7⟩ := hp_39
        replace h7 := h7.symm
        subst h7
        refine z_st (st' := [.int (kwf (fun k => decide (hv k = (T.vl (a + 1 + 1 + 1)))) nh 0), .ref r, .ref n_12]) rfl ?_
        refine z_callVx (As := [.int (kwf (fun k => decide (hv k = (T.vl (a + 1 + 1 + 1)))) nh 0)]) (rd_passed hT hWk34 (hT.lt ha34 (by rw [(s_isN_k hi33).2]; decide)).1 (kwf (fun k => decide (hv k = (T.vl (a + 1 + 1 + 1)))) nh 0)) q893 q895 qs15 q113 q896 nm_X2_passed hr34 rfl rfl rfl (Nat.le_of_ble_eq_true rfl) ⟨Nat.le_of_ble_eq_true rfl, Nat.le_of_ble_eq_true rfl⟩ dX2_guest_87 rfl rfl (Nat.le_of_ble_eq_true rfl) (Nat.le_of_ble_eq_true rfl) rfl (fun q9 E9 X8 hp9 => by obtain ⟨f9, hf9, hs9, hx9⟩ := hp9; exact ⟨f9, hf9, (by have hs8 := (show k_told T.kd T.pl T.vl T.wd (fun val => kwf (fun k => decide (hv k = val)) nh 0) (a + 1 + 1 + 1) 0 = (0, (a + 1 + 1 + 1), f9) by unfold k_told; rw [if_pos rfl, if_pos hi33, if_neg (show ¬ 0 ≤ (fun val => kwf (fun k => decide (hv k = val)) nh 0) (T.vl (a + 1 + 1 + 1)) from hs9.1), hs9.2]); unfold k_guest; simp only [he1, he5, he29, hs8, s_tA_f hf9]), hx9.tr hrt34⟩) (fun v_42 X40 hp_43 => ?_)
        obtain ⟨hz40, rfl, ht40, hw40⟩ := hp_43
        have he40 : k_told T.kd T.pl T.vl T.wd (fun val => kwf (fun k => decide (hv k = val)) nh 0) (a + 1 + 1 + 1) 0 = ((fun val => kwf (fun k => decide (hv k = val)) nh 0) (T.vl (a + 1 + 1 + 1)), (a + 1 + 1 + 1 + 1), 0) := by unfold k_told; rw [if_pos rfl, if_pos hi33, if_pos (show 0 ≤ (fun val => kwf (fun k => decide (hv k = val)) nh 0) (T.vl (a + 1 + 1 + 1)) from hz40)]
        have hWk41 := hw40
        obtain ⟨-, hx41, hks41, ha41, va41, hr41, hva41⟩ := hw40
        have hrt41 := hrt34.tr ht40
        have he41_v := ht40 _ _ (zne he34_v hr34 (by unfold rdT; simp)) he34_v
        have he41_n_12 := ht40 _ _ (zne he34_n_12 hr34 (by unfold rdT; simp)) he34_n_12
        have hvU41 := hvU34.to hr34 ht40
        have hst41_s1 := hst34_s1.to hr34 (by decide) ht40
        have hst41_s33 := hkS33.to hr34 (by decide) ht40
        have hpl41 := hT.le ha41
        have hto41 := hT.to ha41
        have hk441 := hT.kd4 ha41
        refine z_st (st' := [.int (kwf (fun k => decide (hv k = (T.vl (a + 1 + 1 + 1)))) nh 0), .ref n_12]) rfl ?_
        refine z_put (X' := (zup X40 n_12 (.inr (11, [.ref s1, .int (kwf (fun k => decide (hv k = (T.vl (a + 1 + 1 + 1)))) nh 0), .int 0, .int 0, .int 0])))) 1 he41_n_12 rfl in_X11 (by decide) tyX11 tyX11_ok nmX11 q923 rfl (tyX11_ok 1 (by decide)) rfl rfl (Nat.le_of_ble_eq_true rfl) hl_14 dX2_guest_90 rfl ?_
        have hx_44 : (zup X40 n_12 (.inr (11, [.ref s1, .int (kwf (fun k => decide (hv k = (T.vl (a + 1 + 1 + 1)))) nh 0), .int 0, .int 0, .int 0]))) r = some (rdT T (a + 1 + 1 + 1 + 1) va41 w (some v)) := zup_k (zne hr41 he41_n_12 (by unfold rdT; simp)) hr41
        have hx_45 : (zup X40 n_12 (.inr (11, [.ref s1, .int (kwf (fun k => decide (hv k = (T.vl (a + 1 + 1 + 1)))) nh 0), .int 0, .int 0, .int 0]))) T.x = some (.inl (zar g 1, 1000, .inl T.t)) := zup_k (zne hx41 he41_n_12 (by simp)) hx41
        have hx_46 : (zup X40 n_12 (.inr (11, [.ref s1, .int (kwf (fun k => decide (hv k = (T.vl (a + 1 + 1 + 1)))) nh 0), .int 0, .int 0, .int 0]))) v = some (.inr (3, [.ref B.lh, .ref B.lg, .int st, va_rf (fa)])) := zup_k (zne he41_v he41_n_12 (by simp)) he41_v
        have hx_47 : (zup X40 n_12 (.inr (11, [.ref s1, .int (kwf (fun k => decide (hv k = (T.vl (a + 1 + 1 + 1)))) nh 0), .int 0, .int 0, .int 0]))) n_12 = some (.inr (11, [.ref s1, .int (kwf (fun k => decide (hv k = (T.vl (a + 1 + 1 + 1)))) nh 0), .int 0, .int 0, .int 0])) := zup_s
        refine z_aload_n 0 dX2_guest_93 rfl ?_
        refine z_aload_n 3 dX2_guest_94 rfl ?_
        refine z_ldcS 6 rfl dX2_guest_95 ?_
        refine z_iconst (v := 0) dX2_guest_97 (by decide) ?_
        refine z_bipush (v := 11) dX2_guest_98 (by decide) ?_
        refine z_callVx (As := [.ref (zk g 16), .int 0, .int 11]) (rd_numw hT (hWk41.up he41_n_12 (by decide) (by decide)) 6 5 (by decide) (by decide) rfl (by decide) (by decide) 0 11 (by decide) (by decide)) q825 q827 qs9 q113 q828 nm_X2_number hx_44 rfl rfl rfl (Nat.le_of_ble_eq_true rfl) ⟨Nat.le_of_ble_eq_true rfl, Nat.le_of_ble_eq_true rfl⟩ dX2_guest_100 rfl rfl (Nat.le_of_ble_eq_true rfl) (Nat.le_of_ble_eq_true rfl) rfl (fun q9 E9 X8 hp9 => by obtain ⟨f9, hf9, hs9, hx9⟩ := hp9; exact ⟨f9, hf9, (by obtain ⟨a8, hs8⟩ := hs9; unfold k_guest; simp only [he1, he5, he29, he40, hs8, s_tA_f hf9]), hx9.tr (hrt41.new hz0n_12)⟩) (fun v_50 X48 hp_51 => ?_)
        obtain ⟨k48, hk48, hlo48, hhi48, rfl, he48, ht48, hw48⟩ := hp_51
        have hWk49 := hw48
        obtain ⟨-, hx49, hks49, ha49, va49, hr49, hva49⟩ := hw48
        have hrt49 := (hrt41.new hz0n_12).tr ht48
        have he49_v := ht48 _ _ (zne hx_46 hx_44 (by unfold rdT; simp)) hx_46
        have he49_n_12 := ht48 _ _ (zne hx_47 hx_44 (by unfold rdT; simp)) hx_47
        have hvU49 := (hvU41.own hz1n_12 he41_n_12 (by decide) (by decide) (by decide)).to hx_44 ht48
        have hst49_s1 := (hst41_s1.up he41_n_12 (by decide)).to hx_44 (by decide) ht48
        have hst49_s33 := (hst41_s33.up he41_n_12 (by decide)).to hx_44 (by decide) ht48
        have hpl49 := hT.le ha49
        have hto49 := hT.to ha49
        have hk449 := hT.kd4 ha49
        refine z_st (st' := [.int (nI (k48)), .ref n_12]) rfl ?_
        refine z_put (X' := (zup X48 n_12 (.inr (11, [.ref s1, .int (kwf (fun k => decide (hv k = (T.vl (a + 1 + 1 + 1)))) nh 0), .int (nI (k48)), .int 0, .int 0])))) 2 he49_n_12 rfl in_X11 (by decide) tyX11 tyX11_ok nmX11 q925 rfl (tyX11_ok 2 (by decide)) rfl rfl (Nat.le_of_ble_eq_true rfl) hl_14 dX2_guest_103 rfl ?_
        have hx_52 : (zup X48 n_12 (.inr (11, [.ref s1, .int (kwf (fun k => decide (hv k = (T.vl (a + 1 + 1 + 1)))) nh 0), .int (nI (k48)), .int 0, .int 0]))) r = some (rdT T (a + 1 + 1 + 1 + 1 + 2) va49 w (some v)) := zup_k (zne hr49 he49_n_12 (by unfold rdT; simp)) hr49
        have hx_53 : (zup X48 n_12 (.inr (11, [.ref s1, .int (kwf (fun k => decide (hv k = (T.vl (a + 1 + 1 + 1)))) nh 0), .int (nI (k48)), .int 0, .int 0]))) T.x = some (.inl (zar g 1, 1000, .inl T.t)) := zup_k (zne hx49 he49_n_12 (by simp)) hx49
        have hx_54 : (zup X48 n_12 (.inr (11, [.ref s1, .int (kwf (fun k => decide (hv k = (T.vl (a + 1 + 1 + 1)))) nh 0), .int (nI (k48)), .int 0, .int 0]))) v = some (.inr (3, [.ref B.lh, .ref B.lg, .int st, va_rf (fa)])) := zup_k (zne he49_v he49_n_12 (by simp)) he49_v
        have hx_55 : (zup X48 n_12 (.inr (11, [.ref s1, .int (kwf (fun k => decide (hv k = (T.vl (a + 1 + 1 + 1)))) nh 0), .int (nI (k48)), .int 0, .int 0]))) n_12 = some (.inr (11, [.ref s1, .int (kwf (fun k => decide (hv k = (T.vl (a + 1 + 1 + 1)))) nh 0), .int (nI (k48)), .int 0, .int 0])) := zup_s
        refine z_aload_n 0 dX2_guest_106 rfl ?_
        refine z_aload_n 3 dX2_guest_107 rfl ?_
        refine z_ldcS 7 rfl dX2_guest_108 ?_
        refine z_iconst (v := 0) dX2_guest_110 (by decide) ?_
        refine z_bipush (v := 40) dX2_guest_111 (by decide) ?_
        refine z_callVx (As := [.ref (zk g 17), .int 0, .int 40]) (rd_numw hT (hWk49.up he49_n_12 (by decide) (by decide)) 7 6 (by decide) (by decide) rfl (by decide) (by decide) 0 40 (by decide) (by decide)) q825 q827 qs9 q113 q828 nm_X2_number hx_52 rfl rfl rfl (Nat.le_of_ble_eq_true rfl) ⟨Nat.le_of_ble_eq_true rfl, Nat.le_of_ble_eq_true rfl⟩ dX2_guest_113 rfl rfl (Nat.le_of_ble_eq_true rfl) (Nat.le_of_ble_eq_true rfl) rfl (fun q9 E9 X8 hp9 => by obtain ⟨f9, hf9, hs9, hx9⟩ := hp9; exact ⟨f9, hf9, (by obtain ⟨a8, hs8⟩ := hs9; unfold k_guest; simp only [he1, he5, he29, he40, he48, hs8, s_tA_f hf9]), hx9.tr (hrt49.new hz0n_12)⟩) (fun v_58 X56 hp_59 => ?_)
        obtain ⟨k56, hk56, hlo56, hhi56, rfl, he56, ht56, hw56⟩ := hp_59
        have hWk57 := hw56
        obtain ⟨-, hx57, hks57, ha57, va57, hr57, hva57⟩ := hw56
        have hrt57 := (hrt49.new hz0n_12).tr ht56
        have he57_v := ht56 _ _ (zne hx_54 hx_52 (by unfold rdT; simp)) hx_54
        have he57_n_12 := ht56 _ _ (zne hx_55 hx_52 (by unfold rdT; simp)) hx_55
        have hvU57 := (hvU49.own hz1n_12 he49_n_12 (by decide) (by decide) (by decide)).to hx_52 ht56
        have hst57_s1 := (hst49_s1.up he49_n_12 (by decide)).to hx_52 (by decide) ht56
        have hst57_s33 := (hst49_s33.up he49_n_12 (by decide)).to hx_52 (by decide) ht56
        have hpl57 := hT.le ha57
        have hto57 := hT.to ha57
        have hk457 := hT.kd4 ha57
        refine z_st (st' := [.int (nI (k56)), .ref n_12]) rfl ?_
        refine z_put (X' := (zup X56 n_12 (.inr (11, [.ref s1, .int (kwf (fun k => decide (hv k = (T.vl (a + 1 + 1 + 1)))) nh 0), .int (nI (k48)), .int (nI (k56)), .int 0])))) 3 he57_n_12 rfl in_X11 (by decide) tyX11 tyX11_ok nmX11 q928 rfl (tyX11_ok 3 (by decide)) rfl rfl (Nat.le_of_ble_eq_true rfl) hl_14 dX2_guest_116 rfl ?_
        have hx_60 : (zup X56 n_12 (.inr (11, [.ref s1, .int (kwf (fun k => decide (hv k = (T.vl (a + 1 + 1 + 1)))) nh 0), .int (nI (k48)), .int (nI (k56)), .int 0]))) r = some (rdT T (a + 1 + 1 + 1 + 1 + 2 + 2) va57 w (some v)) := zup_k (zne hr57 he57_n_12 (by unfold rdT; simp)) hr57
        have hx_61 : (zup X56 n_12 (.inr (11, [.ref s1, .int (kwf (fun k => decide (hv k = (T.vl (a + 1 + 1 + 1)))) nh 0), .int (nI (k48)), .int (nI (k56)), .int 0]))) T.x = some (.inl (zar g 1, 1000, .inl T.t)) := zup_k (zne hx57 he57_n_12 (by simp)) hx57
        have hx_62 : (zup X56 n_12 (.inr (11, [.ref s1, .int (kwf (fun k => decide (hv k = (T.vl (a + 1 + 1 + 1)))) nh 0), .int (nI (k48)), .int (nI (k56)), .int 0]))) v = some (.inr (3, [.ref B.lh, .ref B.lg, .int st, va_rf (fa)])) := zup_k (zne he57_v he57_n_12 (by simp)) he57_v
        have hx_63 : (zup X56 n_12 (.inr (11, [.ref s1, .int (kwf (fun k => decide (hv k = (T.vl (a + 1 + 1 + 1)))) nh 0), .int (nI (k48)), .int (nI (k56)), .int 0]))) n_12 = some (.inr (11, [.ref s1, .int (kwf (fun k => decide (hv k = (T.vl (a + 1 + 1 + 1)))) nh 0), .int (nI (k48)), .int (nI (k56)), .int 0])) := zup_s
        refine z_aload_n 0 dX2_guest_119 rfl ?_
        exact z_aret dX2_guest_120 rfl (Or.inl ⟨_, rfl⟩) (Or.inr ⟨_, rfl⟩) (Nat.le_of_ble_eq_true rfl) (Nat.le_of_ble_eq_true rfl) ⟨n_12, s1, 3, k48, k56, kwf (fun k => decide (hv k = (T.vl (a + 1 + 1 + 1)))) nh 0, rfl, (by decide), (by have e9 := (show k5 = 3 by omega); subst e9; unfold k_guest; simp only [he1, he5, he29, he40, he48, he56]), hkd1, hf11, hf21, hz0n_12, hl_14, hz1n_12, hx_63, (hst57_s1.up he57_n_12 (by decide)), (hrt57.new hz0n_12), (hWk57.up he57_n_12 (by decide) (by decide)), (hvU57.own hz1n_12 he57_n_12 (by decide) (by decide) (by decide))⟩
      · -- k5 = 2
        refine z_new (ci := 10) (fs := [.null, .int 0, .int 0, .int 0, .int 0]) rfl in_X10 tyX10 tyX10_ok q954 q955 q139 zd_X10 dX2_guest_48 rfl rfl (Nat.le_of_ble_eq_true rfl) (Nat.le_of_ble_eq_true rfl) (fun n_64 hn_65 hl_66 => ?_)
        have ne_67 : r ≠ n_64 := fun q9 => by rw [← q9, hr6] at hn_65; cases hn_65
        have ne_68 : T.x ≠ n_64 := fun q9 => by rw [← q9, hx6] at hn_65; cases hn_65
        have ne_69 : v ≠ n_64 := fun q9 => by rw [← q9, he6_v] at hn_65; cases hn_65
        have hx_70 : (zup X5 n_64 (.inr (10, [.null, .int 0, .int 0, .int 0, .int 0]))) r = some (rdT T (a + 1 + 1) va6 w (some v)) := zup_k ne_67 hr6
        have hx_71 : (zup X5 n_64 (.inr (10, [.null, .int 0, .int 0, .int 0, .int 0]))) T.x = some (.inl (zar g 1, 1000, .inl T.t)) := zup_k ne_68 hx6
        have hx_72 : (zup X5 n_64 (.inr (10, [.null, .int 0, .int 0, .int 0, .int 0]))) v = some (.inr (3, [.ref B.lh, .ref B.lg, .int st, va_rf (fa)])) := zup_k ne_69 he6_v
        have hx_73 : (zup X5 n_64 (.inr (10, [.null, .int 0, .int 0, .int 0, .int 0]))) n_64 = some (.inr (10, [.null, .int 0, .int 0, .int 0, .int 0])) := zup_s
        have hz0n_64 := (hrt6).back hn_65 hr6
        have hz1n_64 := (hvU6).fgn hn_65
        refine z_dup dX2_guest_51 rfl ?_
        refine z_aload_n 1 dX2_guest_52 rfl ?_
        refine z_callI (As := [.ref s1]) (rd_gi_X10 hx_73 hl_66) q956 q957 q139 q958 rfl rfl nm_X10_init rfl (Nat.le_of_ble_eq_true rfl) ⟨Nat.le_of_ble_eq_true rfl, Nat.le_of_ble_eq_true rfl⟩ dX2_guest_53 rfl rfl (Nat.le_of_ble_eq_true rfl) (Nat.le_of_ble_eq_true rfl) (fun v_78 X_79 hp_80 => ?_)
        obtain ⟨rfl, h7⟩ := hp_80
        replace h7 := h7.symm
        subst h7
        refine z_X (X' := (zup X5 n_64 (.inr (10, [.ref s1, .int 0, .int 0, .int 0, .int 0])))) zup_zup ?_
        have hx_74 : (zup X5 n_64 (.inr (10, [.ref s1, .int 0, .int 0, .int 0, .int 0]))) r = some (rdT T (a + 1 + 1) va6 w (some v)) := zup_over ne_67 hx_70 zup_zup
        have hx_75 : (zup X5 n_64 (.inr (10, [.ref s1, .int 0, .int 0, .int 0, .int 0]))) T.x = some (.inl (zar g 1, 1000, .inl T.t)) := zup_over ne_68 hx_71 zup_zup
        have hx_76 : (zup X5 n_64 (.inr (10, [.ref s1, .int 0, .int 0, .int 0, .int 0]))) v = some (.inr (3, [.ref B.lh, .ref B.lg, .int st, va_rf (fa)])) := zup_over ne_69 hx_72 zup_zup
        have hx_77 : (zup X5 n_64 (.inr (10, [.ref s1, .int 0, .int 0, .int 0, .int 0]))) n_64 = some (.inr (10, [.ref s1, .int 0, .int 0, .int 0, .int 0])) := zup_s
        refine z_st (st' := [.ref n_64]) rfl ?_
        refine z_goto 67 dX2_guest_56 (by decide) ?_
        refine z_astore_n (lv' := [(3, .ref n_64), (2, .int (nI (k5))), (1, .ref s1), (0, .ref r)]) dX2_guest_67 rfl (by decide) rfl ?_
        refine z_aload_n 3 dX2_guest_68 rfl ?_
        refine z_ldcS 5 rfl dX2_guest_69 ?_
        refine z_callVx (As := [.ref (zk g 15)]) (rd_need hT (hWk6.nw hn_65) 5 4 (by decide) (by decide) rfl (by decide) (by decide)) q829 q831 qs10 q113 q832 nm_X2_need hx_74 rfl rfl rfl (Nat.le_of_ble_eq_true rfl) ⟨Nat.le_of_ble_eq_true rfl, Nat.le_of_ble_eq_true rfl⟩ dX2_guest_71 rfl rfl (Nat.le_of_ble_eq_true rfl) (Nat.le_of_ble_eq_true rfl) rfl (fun q9 E9 X8 hp9 => by obtain ⟨f9, hf9, hs9, hx9⟩ := hp9; exact ⟨f9, hf9, (by unfold k_guest; simp only [he1, he5, hs9, s_tO_f hf9, s_tW_f hf9, k_told_f hf9, s_tA_f hf9]), hx9.tr (hrt6.nw hn_65)⟩) (fun v_83 X81 hp_84 => ?_)
        obtain ⟨rfl, he81, ht81, hw81⟩ := hp_84
        have hWk82 := hw81
        obtain ⟨-, hx82, hks82, ha82, va82, hr82, hva82⟩ := hw81
        have hrt82 := (hrt6.nw hn_65).tr ht81
        have he82_v := ht81 _ _ (zne hx_76 hx_74 (by unfold rdT; simp)) hx_76
        have he82_n_64 := ht81 _ _ (zne hx_77 hx_74 (by unfold rdT; simp)) hx_77
        have hvU82 := (hvU6.nw hn_65).to hx_74 ht81
        have hst82_s1 := (hst6_s1.nw hn_65).to hx_74 (by decide) ht81
        have hpl82 := hT.le ha82
        have hto82 := hT.to ha82
        have hk482 := hT.kd4 ha82
        refine z_st (st' := []) rfl ?_
        refine z_aload_n 0 dX2_guest_74 rfl ?_
        refine z_aload_n 3 dX2_guest_75 rfl ?_
        refine z_aload_n 3 dX2_guest_76 rfl ?_
        refine z_get (v := .ref v) 7 hr82 rfl in_X2 (by decide) q175 rfl dX2_guest_77 ?_
        refine z_aload_n 3 dX2_guest_80 rfl ?_
        refine z_callVx (As := []) (rd_name hT hWk82) q624 q626 qs8 q113 q627 nm_X2_name hr82 rfl rfl rfl (Nat.le_of_ble_eq_true rfl) ⟨Nat.le_of_ble_eq_true rfl, Nat.le_of_ble_eq_true rfl⟩ dX2_guest_81 rfl rfl (Nat.le_of_ble_eq_true rfl) (Nat.le_of_ble_eq_true rfl) rfl (fun q9 E9 X8 hp9 => by obtain ⟨f9, hf9, hs9, hx9⟩ := hp9; exact ⟨f9, hf9, (by have hs8 := (show k_told T.kd T.pl T.vl T.wd (fun val => kwf (fun k => decide (hv k = val)) nh 0) (a + 1 + 1 + 1) 0 = (0, (a + 1 + 1 + 1), f9) by unfold k_told; rw [if_pos rfl, if_neg (by rw [hs9.1]; decide), hs9.2]); unfold k_guest; simp only [he1, he5, he81, hs8, s_tA_f hf9]), hx9.tr hrt82⟩) (fun v_87 X85 hp_88 => ?_)
        obtain ⟨s85, rfl, hi85, hn85, hzs85, hkS85, ht85, hw85⟩ := hp_88
        have hWk86 := hw85
        obtain ⟨-, hx86, hks86, ha86, va86, hr86, hva86⟩ := hw85
        have hrt86 := hrt82.tr ht85
        have he86_v := ht85 _ _ (zne he82_v hr82 (by unfold rdT; simp)) he82_v
        have he86_n_64 := ht85 _ _ (zne he82_n_64 hr82 (by unfold rdT; simp)) he82_n_64
        have hvU86 := hvU82.to hr82 ht85
        have hst86_s1 := hst82_s1.to hr82 (by decide) ht85
        have hpl86 := hT.le ha86
        have hto86 := hT.to ha86
        have hk486 := hT.kd4 ha86
        refine z_st (st' := [.ref s85, .ref v, .ref r, .ref n_64]) rfl ?_
        refine z_callV (As := [.ref s85]) (rd_homeU hvU86 hkS85) q787 q788 q789 q114 q790 nm_X3_home he86_v rfl rfl rfl (Nat.le_of_ble_eq_true rfl) ⟨Nat.le_of_ble_eq_true rfl, Nat.le_of_ble_eq_true rfl⟩ dX2_guest_84 rfl rfl (Nat.le_of_ble_eq_true rfl) (Nat.le_of_ble_eq_true rfl) (fun v_89 X_90 hp_91 => ?_)
        obtain ⟨rfl, h7⟩ := hp_91
        replace h7 := h7.symm
        subst h7
        refine z_st (st' := [.int (kwf (fun k => decide (hv k = (T.vl (a + 1 + 1 + 1)))) nh 0), .ref r, .ref n_64]) rfl ?_
        refine z_callVx (As := [.int (kwf (fun k => decide (hv k = (T.vl (a + 1 + 1 + 1)))) nh 0)]) (rd_passed hT hWk86 (hT.lt ha86 (by rw [(s_isN_k hi85).2]; decide)).1 (kwf (fun k => decide (hv k = (T.vl (a + 1 + 1 + 1)))) nh 0)) q893 q895 qs15 q113 q896 nm_X2_passed hr86 rfl rfl rfl (Nat.le_of_ble_eq_true rfl) ⟨Nat.le_of_ble_eq_true rfl, Nat.le_of_ble_eq_true rfl⟩ dX2_guest_87 rfl rfl (Nat.le_of_ble_eq_true rfl) (Nat.le_of_ble_eq_true rfl) rfl (fun q9 E9 X8 hp9 => by obtain ⟨f9, hf9, hs9, hx9⟩ := hp9; exact ⟨f9, hf9, (by have hs8 := (show k_told T.kd T.pl T.vl T.wd (fun val => kwf (fun k => decide (hv k = val)) nh 0) (a + 1 + 1 + 1) 0 = (0, (a + 1 + 1 + 1), f9) by unfold k_told; rw [if_pos rfl, if_pos hi85, if_neg (show ¬ 0 ≤ (fun val => kwf (fun k => decide (hv k = val)) nh 0) (T.vl (a + 1 + 1 + 1)) from hs9.1), hs9.2]); unfold k_guest; simp only [he1, he5, he81, hs8, s_tA_f hf9]), hx9.tr hrt86⟩) (fun v_94 X92 hp_95 => ?_)
        obtain ⟨hz92, rfl, ht92, hw92⟩ := hp_95
        have he92 : k_told T.kd T.pl T.vl T.wd (fun val => kwf (fun k => decide (hv k = val)) nh 0) (a + 1 + 1 + 1) 0 = ((fun val => kwf (fun k => decide (hv k = val)) nh 0) (T.vl (a + 1 + 1 + 1)), (a + 1 + 1 + 1 + 1), 0) := by unfold k_told; rw [if_pos rfl, if_pos hi85, if_pos (show 0 ≤ (fun val => kwf (fun k => decide (hv k = val)) nh 0) (T.vl (a + 1 + 1 + 1)) from hz92)]
        have hWk93 := hw92
        obtain ⟨-, hx93, hks93, ha93, va93, hr93, hva93⟩ := hw92
        have hrt93 := hrt86.tr ht92
        have he93_v := ht92 _ _ (zne he86_v hr86 (by unfold rdT; simp)) he86_v
        have he93_n_64 := ht92 _ _ (zne he86_n_64 hr86 (by unfold rdT; simp)) he86_n_64
        have hvU93 := hvU86.to hr86 ht92
        have hst93_s1 := hst86_s1.to hr86 (by decide) ht92
        have hst93_s85 := hkS85.to hr86 (by decide) ht92
        have hpl93 := hT.le ha93
        have hto93 := hT.to ha93
        have hk493 := hT.kd4 ha93
        refine z_st (st' := [.int (kwf (fun k => decide (hv k = (T.vl (a + 1 + 1 + 1)))) nh 0), .ref n_64]) rfl ?_
        refine z_put (X' := (zup X92 n_64 (.inr (10, [.ref s1, .int (kwf (fun k => decide (hv k = (T.vl (a + 1 + 1 + 1)))) nh 0), .int 0, .int 0, .int 0])))) 1 he93_n_64 rfl in_X10 (by decide) tyX10 tyX10_ok nmX10 q923 rfl (tyX10_ok 1 (by decide)) rfl rfl (Nat.le_of_ble_eq_true rfl) hl_66 dX2_guest_90 rfl ?_
        have hx_96 : (zup X92 n_64 (.inr (10, [.ref s1, .int (kwf (fun k => decide (hv k = (T.vl (a + 1 + 1 + 1)))) nh 0), .int 0, .int 0, .int 0]))) r = some (rdT T (a + 1 + 1 + 1 + 1) va93 w (some v)) := zup_k (zne hr93 he93_n_64 (by unfold rdT; simp)) hr93
        have hx_97 : (zup X92 n_64 (.inr (10, [.ref s1, .int (kwf (fun k => decide (hv k = (T.vl (a + 1 + 1 + 1)))) nh 0), .int 0, .int 0, .int 0]))) T.x = some (.inl (zar g 1, 1000, .inl T.t)) := zup_k (zne hx93 he93_n_64 (by simp)) hx93
        have hx_98 : (zup X92 n_64 (.inr (10, [.ref s1, .int (kwf (fun k => decide (hv k = (T.vl (a + 1 + 1 + 1)))) nh 0), .int 0, .int 0, .int 0]))) v = some (.inr (3, [.ref B.lh, .ref B.lg, .int st, va_rf (fa)])) := zup_k (zne he93_v he93_n_64 (by simp)) he93_v
        have hx_99 : (zup X92 n_64 (.inr (10, [.ref s1, .int (kwf (fun k => decide (hv k = (T.vl (a + 1 + 1 + 1)))) nh 0), .int 0, .int 0, .int 0]))) n_64 = some (.inr (10, [.ref s1, .int (kwf (fun k => decide (hv k = (T.vl (a + 1 + 1 + 1)))) nh 0), .int 0, .int 0, .int 0])) := zup_s
        refine z_aload_n 0 dX2_guest_93 rfl ?_
        refine z_aload_n 3 dX2_guest_94 rfl ?_
        refine z_ldcS 6 rfl dX2_guest_95 ?_
        refine z_iconst (v := 0) dX2_guest_97 (by decide) ?_
        refine z_bipush (v := 11) dX2_guest_98 (by decide) ?_
        refine z_callVx (As := [.ref (zk g 16), .int 0, .int 11]) (rd_numw hT (hWk93.up he93_n_64 (by decide) (by decide)) 6 5 (by decide) (by decide) rfl (by decide) (by decide) 0 11 (by decide) (by decide)) q825 q827 qs9 q113 q828 nm_X2_number hx_96 rfl rfl rfl (Nat.le_of_ble_eq_true rfl) ⟨Nat.le_of_ble_eq_true rfl, Nat.le_of_ble_eq_true rfl⟩ dX2_guest_100 rfl rfl (Nat.le_of_ble_eq_true rfl) (Nat.le_of_ble_eq_true rfl) rfl (fun q9 E9 X8 hp9 => by obtain ⟨f9, hf9, hs9, hx9⟩ := hp9; exact ⟨f9, hf9, (by obtain ⟨a8, hs8⟩ := hs9; unfold k_guest; simp only [he1, he5, he81, he92, hs8, s_tA_f hf9]), hx9.tr (hrt93.new hz0n_64)⟩) (fun v_102 X100 hp_103 => ?_)
        obtain ⟨k100, hk100, hlo100, hhi100, rfl, he100, ht100, hw100⟩ := hp_103
        have hWk101 := hw100
        obtain ⟨-, hx101, hks101, ha101, va101, hr101, hva101⟩ := hw100
        have hrt101 := (hrt93.new hz0n_64).tr ht100
        have he101_v := ht100 _ _ (zne hx_98 hx_96 (by unfold rdT; simp)) hx_98
        have he101_n_64 := ht100 _ _ (zne hx_99 hx_96 (by unfold rdT; simp)) hx_99
        have hvU101 := (hvU93.own hz1n_64 he93_n_64 (by decide) (by decide) (by decide)).to hx_96 ht100
        have hst101_s1 := (hst93_s1.up he93_n_64 (by decide)).to hx_96 (by decide) ht100
        have hst101_s85 := (hst93_s85.up he93_n_64 (by decide)).to hx_96 (by decide) ht100
        have hpl101 := hT.le ha101
        have hto101 := hT.to ha101
        have hk4101 := hT.kd4 ha101
        refine z_st (st' := [.int (nI (k100)), .ref n_64]) rfl ?_
        refine z_put (X' := (zup X100 n_64 (.inr (10, [.ref s1, .int (kwf (fun k => decide (hv k = (T.vl (a + 1 + 1 + 1)))) nh 0), .int (nI (k100)), .int 0, .int 0])))) 2 he101_n_64 rfl in_X10 (by decide) tyX10 tyX10_ok nmX10 q925 rfl (tyX10_ok 2 (by decide)) rfl rfl (Nat.le_of_ble_eq_true rfl) hl_66 dX2_guest_103 rfl ?_
        have hx_104 : (zup X100 n_64 (.inr (10, [.ref s1, .int (kwf (fun k => decide (hv k = (T.vl (a + 1 + 1 + 1)))) nh 0), .int (nI (k100)), .int 0, .int 0]))) r = some (rdT T (a + 1 + 1 + 1 + 1 + 2) va101 w (some v)) := zup_k (zne hr101 he101_n_64 (by unfold rdT; simp)) hr101
        have hx_105 : (zup X100 n_64 (.inr (10, [.ref s1, .int (kwf (fun k => decide (hv k = (T.vl (a + 1 + 1 + 1)))) nh 0), .int (nI (k100)), .int 0, .int 0]))) T.x = some (.inl (zar g 1, 1000, .inl T.t)) := zup_k (zne hx101 he101_n_64 (by simp)) hx101
        have hx_106 : (zup X100 n_64 (.inr (10, [.ref s1, .int (kwf (fun k => decide (hv k = (T.vl (a + 1 + 1 + 1)))) nh 0), .int (nI (k100)), .int 0, .int 0]))) v = some (.inr (3, [.ref B.lh, .ref B.lg, .int st, va_rf (fa)])) := zup_k (zne he101_v he101_n_64 (by simp)) he101_v
        have hx_107 : (zup X100 n_64 (.inr (10, [.ref s1, .int (kwf (fun k => decide (hv k = (T.vl (a + 1 + 1 + 1)))) nh 0), .int (nI (k100)), .int 0, .int 0]))) n_64 = some (.inr (10, [.ref s1, .int (kwf (fun k => decide (hv k = (T.vl (a + 1 + 1 + 1)))) nh 0), .int (nI (k100)), .int 0, .int 0])) := zup_s
        refine z_aload_n 0 dX2_guest_106 rfl ?_
        refine z_aload_n 3 dX2_guest_107 rfl ?_
        refine z_ldcS 7 rfl dX2_guest_108 ?_
        refine z_iconst (v := 0) dX2_guest_110 (by decide) ?_
        refine z_bipush (v := 40) dX2_guest_111 (by decide) ?_
        refine z_callVx (As := [.ref (zk g 17), .int 0, .int 40]) (rd_numw hT (hWk101.up he101_n_64 (by decide) (by decide)) 7 6 (by decide) (by decide) rfl (by decide) (by decide) 0 40 (by decide) (by decide)) q825 q827 qs9 q113 q828 nm_X2_number hx_104 rfl rfl rfl (Nat.le_of_ble_eq_true rfl) ⟨Nat.le_of_ble_eq_true rfl, Nat.le_of_ble_eq_true rfl⟩ dX2_guest_113 rfl rfl (Nat.le_of_ble_eq_true rfl) (Nat.le_of_ble_eq_true rfl) rfl (fun q9 E9 X8 hp9 => by obtain ⟨f9, hf9, hs9, hx9⟩ := hp9; exact ⟨f9, hf9, (by obtain ⟨a8, hs8⟩ := hs9; unfold k_guest; simp only [he1, he5, he81, he92, he100, hs8, s_tA_f hf9]), hx9.tr (hrt101.new hz0n_64)⟩) (fun v_110 X108 hp_111 => ?_)
        obtain ⟨k108, hk108, hlo108, hhi108, rfl, he108, ht108, hw108⟩ := hp_111
        have hWk109 := hw108
        obtain ⟨-, hx109, hks109, ha109, va109, hr109, hva109⟩ := hw108
        have hrt109 := (hrt101.new hz0n_64).tr ht108
        have he109_v := ht108 _ _ (zne hx_106 hx_104 (by unfold rdT; simp)) hx_106
        have he109_n_64 := ht108 _ _ (zne hx_107 hx_104 (by unfold rdT; simp)) hx_107
        have hvU109 := (hvU101.own hz1n_64 he101_n_64 (by decide) (by decide) (by decide)).to hx_104 ht108
        have hst109_s1 := (hst101_s1.up he101_n_64 (by decide)).to hx_104 (by decide) ht108
        have hst109_s85 := (hst101_s85.up he101_n_64 (by decide)).to hx_104 (by decide) ht108
        have hpl109 := hT.le ha109
        have hto109 := hT.to ha109
        have hk4109 := hT.kd4 ha109
        refine z_st (st' := [.int (nI (k108)), .ref n_64]) rfl ?_
        refine z_put (X' := (zup X108 n_64 (.inr (10, [.ref s1, .int (kwf (fun k => decide (hv k = (T.vl (a + 1 + 1 + 1)))) nh 0), .int (nI (k100)), .int (nI (k108)), .int 0])))) 3 he109_n_64 rfl in_X10 (by decide) tyX10 tyX10_ok nmX10 q928 rfl (tyX10_ok 3 (by decide)) rfl rfl (Nat.le_of_ble_eq_true rfl) hl_66 dX2_guest_116 rfl ?_
        have hx_112 : (zup X108 n_64 (.inr (10, [.ref s1, .int (kwf (fun k => decide (hv k = (T.vl (a + 1 + 1 + 1)))) nh 0), .int (nI (k100)), .int (nI (k108)), .int 0]))) r = some (rdT T (a + 1 + 1 + 1 + 1 + 2 + 2) va109 w (some v)) := zup_k (zne hr109 he109_n_64 (by unfold rdT; simp)) hr109
        have hx_113 : (zup X108 n_64 (.inr (10, [.ref s1, .int (kwf (fun k => decide (hv k = (T.vl (a + 1 + 1 + 1)))) nh 0), .int (nI (k100)), .int (nI (k108)), .int 0]))) T.x = some (.inl (zar g 1, 1000, .inl T.t)) := zup_k (zne hx109 he109_n_64 (by simp)) hx109
        have hx_114 : (zup X108 n_64 (.inr (10, [.ref s1, .int (kwf (fun k => decide (hv k = (T.vl (a + 1 + 1 + 1)))) nh 0), .int (nI (k100)), .int (nI (k108)), .int 0]))) v = some (.inr (3, [.ref B.lh, .ref B.lg, .int st, va_rf (fa)])) := zup_k (zne he109_v he109_n_64 (by simp)) he109_v
        have hx_115 : (zup X108 n_64 (.inr (10, [.ref s1, .int (kwf (fun k => decide (hv k = (T.vl (a + 1 + 1 + 1)))) nh 0), .int (nI (k100)), .int (nI (k108)), .int 0]))) n_64 = some (.inr (10, [.ref s1, .int (kwf (fun k => decide (hv k = (T.vl (a + 1 + 1 + 1)))) nh 0), .int (nI (k100)), .int (nI (k108)), .int 0])) := zup_s
        refine z_aload_n 0 dX2_guest_119 rfl ?_
        exact z_aret dX2_guest_120 rfl (Or.inl ⟨_, rfl⟩) (Or.inr ⟨_, rfl⟩) (Nat.le_of_ble_eq_true rfl) (Nat.le_of_ble_eq_true rfl) ⟨n_64, s1, 2, k100, k108, kwf (fun k => decide (hv k = (T.vl (a + 1 + 1 + 1)))) nh 0, rfl, (by decide), (by have e9 := (show k5 = 2 by omega); subst e9; unfold k_guest; simp only [he1, he5, he81, he92, he100, he108]), hkd1, hf11, hf21, hz0n_64, hl_66, hz1n_64, hx_115, (hst109_s1.up he109_n_64 (by decide)), (hrt109.new hz0n_64), (hWk109.up he109_n_64 (by decide) (by decide)), (hvU109.own hz1n_64 he109_n_64 (by decide) (by decide) (by decide))⟩
    · -- k5 = 1
      refine z_new (ci := 9) (fs := [.null, .int 0, .int 0, .int 0, .int 0]) rfl in_X9 tyX9 tyX9_ok q942 q943 q138 zd_X9 dX2_guest_32 rfl rfl (Nat.le_of_ble_eq_true rfl) (Nat.le_of_ble_eq_true rfl) (fun n_116 hn_117 hl_118 => ?_)
      have ne_119 : r ≠ n_116 := fun q9 => by rw [← q9, hr6] at hn_117; cases hn_117
      have ne_120 : T.x ≠ n_116 := fun q9 => by rw [← q9, hx6] at hn_117; cases hn_117
      have ne_121 : v ≠ n_116 := fun q9 => by rw [← q9, he6_v] at hn_117; cases hn_117
      have hx_122 : (zup X5 n_116 (.inr (9, [.null, .int 0, .int 0, .int 0, .int 0]))) r = some (rdT T (a + 1 + 1) va6 w (some v)) := zup_k ne_119 hr6
      have hx_123 : (zup X5 n_116 (.inr (9, [.null, .int 0, .int 0, .int 0, .int 0]))) T.x = some (.inl (zar g 1, 1000, .inl T.t)) := zup_k ne_120 hx6
      have hx_124 : (zup X5 n_116 (.inr (9, [.null, .int 0, .int 0, .int 0, .int 0]))) v = some (.inr (3, [.ref B.lh, .ref B.lg, .int st, va_rf (fa)])) := zup_k ne_121 he6_v
      have hx_125 : (zup X5 n_116 (.inr (9, [.null, .int 0, .int 0, .int 0, .int 0]))) n_116 = some (.inr (9, [.null, .int 0, .int 0, .int 0, .int 0])) := zup_s
      have hz0n_116 := (hrt6).back hn_117 hr6
      have hz1n_116 := (hvU6).fgn hn_117
      refine z_dup dX2_guest_35 rfl ?_
      refine z_aload_n 1 dX2_guest_36 rfl ?_
      refine z_callI (As := [.ref s1]) (rd_gi_X9 hx_125 hl_118) q944 q945 q138 q946 rfl rfl nm_X9_init rfl (Nat.le_of_ble_eq_true rfl) ⟨Nat.le_of_ble_eq_true rfl, Nat.le_of_ble_eq_true rfl⟩ dX2_guest_37 rfl rfl (Nat.le_of_ble_eq_true rfl) (Nat.le_of_ble_eq_true rfl) (fun v_130 X_131 hp_132 => ?_)
      obtain ⟨rfl, h7⟩ := hp_132
      replace h7 := h7.symm
      subst h7
      refine z_X (X' := (zup X5 n_116 (.inr (9, [.ref s1, .int 0, .int 0, .int 0, .int 0])))) zup_zup ?_
      have hx_126 : (zup X5 n_116 (.inr (9, [.ref s1, .int 0, .int 0, .int 0, .int 0]))) r = some (rdT T (a + 1 + 1) va6 w (some v)) := zup_over ne_119 hx_122 zup_zup
      have hx_127 : (zup X5 n_116 (.inr (9, [.ref s1, .int 0, .int 0, .int 0, .int 0]))) T.x = some (.inl (zar g 1, 1000, .inl T.t)) := zup_over ne_120 hx_123 zup_zup
      have hx_128 : (zup X5 n_116 (.inr (9, [.ref s1, .int 0, .int 0, .int 0, .int 0]))) v = some (.inr (3, [.ref B.lh, .ref B.lg, .int st, va_rf (fa)])) := zup_over ne_121 hx_124 zup_zup
      have hx_129 : (zup X5 n_116 (.inr (9, [.ref s1, .int 0, .int 0, .int 0, .int 0]))) n_116 = some (.inr (9, [.ref s1, .int 0, .int 0, .int 0, .int 0])) := zup_s
      refine z_st (st' := [.ref n_116]) rfl ?_
      refine z_goto 67 dX2_guest_40 (by decide) ?_
      refine z_astore_n (lv' := [(3, .ref n_116), (2, .int (nI (k5))), (1, .ref s1), (0, .ref r)]) dX2_guest_67 rfl (by decide) rfl ?_
      refine z_aload_n 3 dX2_guest_68 rfl ?_
      refine z_ldcS 5 rfl dX2_guest_69 ?_
      refine z_callVx (As := [.ref (zk g 15)]) (rd_need hT (hWk6.nw hn_117) 5 4 (by decide) (by decide) rfl (by decide) (by decide)) q829 q831 qs10 q113 q832 nm_X2_need hx_126 rfl rfl rfl (Nat.le_of_ble_eq_true rfl) ⟨Nat.le_of_ble_eq_true rfl, Nat.le_of_ble_eq_true rfl⟩ dX2_guest_71 rfl rfl (Nat.le_of_ble_eq_true rfl) (Nat.le_of_ble_eq_true rfl) rfl (fun q9 E9 X8 hp9 => by obtain ⟨f9, hf9, hs9, hx9⟩ := hp9; exact ⟨f9, hf9, (by unfold k_guest; simp only [he1, he5, hs9, s_tO_f hf9, s_tW_f hf9, k_told_f hf9, s_tA_f hf9]), hx9.tr (hrt6.nw hn_117)⟩) (fun v_135 X133 hp_136 => ?_)
      obtain ⟨rfl, he133, ht133, hw133⟩ := hp_136
      have hWk134 := hw133
      obtain ⟨-, hx134, hks134, ha134, va134, hr134, hva134⟩ := hw133
      have hrt134 := (hrt6.nw hn_117).tr ht133
      have he134_v := ht133 _ _ (zne hx_128 hx_126 (by unfold rdT; simp)) hx_128
      have he134_n_116 := ht133 _ _ (zne hx_129 hx_126 (by unfold rdT; simp)) hx_129
      have hvU134 := (hvU6.nw hn_117).to hx_126 ht133
      have hst134_s1 := (hst6_s1.nw hn_117).to hx_126 (by decide) ht133
      have hpl134 := hT.le ha134
      have hto134 := hT.to ha134
      have hk4134 := hT.kd4 ha134
      refine z_st (st' := []) rfl ?_
      refine z_aload_n 0 dX2_guest_74 rfl ?_
      refine z_aload_n 3 dX2_guest_75 rfl ?_
      refine z_aload_n 3 dX2_guest_76 rfl ?_
      refine z_get (v := .ref v) 7 hr134 rfl in_X2 (by decide) q175 rfl dX2_guest_77 ?_
      refine z_aload_n 3 dX2_guest_80 rfl ?_
      refine z_callVx (As := []) (rd_name hT hWk134) q624 q626 qs8 q113 q627 nm_X2_name hr134 rfl rfl rfl (Nat.le_of_ble_eq_true rfl) ⟨Nat.le_of_ble_eq_true rfl, Nat.le_of_ble_eq_true rfl⟩ dX2_guest_81 rfl rfl (Nat.le_of_ble_eq_true rfl) (Nat.le_of_ble_eq_true rfl) rfl (fun q9 E9 X8 hp9 => by obtain ⟨f9, hf9, hs9, hx9⟩ := hp9; exact ⟨f9, hf9, (by have hs8 := (show k_told T.kd T.pl T.vl T.wd (fun val => kwf (fun k => decide (hv k = val)) nh 0) (a + 1 + 1 + 1) 0 = (0, (a + 1 + 1 + 1), f9) by unfold k_told; rw [if_pos rfl, if_neg (by rw [hs9.1]; decide), hs9.2]); unfold k_guest; simp only [he1, he5, he133, hs8, s_tA_f hf9]), hx9.tr hrt134⟩) (fun v_139 X137 hp_140 => ?_)
      obtain ⟨s137, rfl, hi137, hn137, hzs137, hkS137, ht137, hw137⟩ := hp_140
      have hWk138 := hw137
      obtain ⟨-, hx138, hks138, ha138, va138, hr138, hva138⟩ := hw137
      have hrt138 := hrt134.tr ht137
      have he138_v := ht137 _ _ (zne he134_v hr134 (by unfold rdT; simp)) he134_v
      have he138_n_116 := ht137 _ _ (zne he134_n_116 hr134 (by unfold rdT; simp)) he134_n_116
      have hvU138 := hvU134.to hr134 ht137
      have hst138_s1 := hst134_s1.to hr134 (by decide) ht137
      have hpl138 := hT.le ha138
      have hto138 := hT.to ha138
      have hk4138 := hT.kd4 ha138
      refine z_st (st' := [.ref s137, .ref v, .ref r, .ref n_116]) rfl ?_
      refine z_callV (As := [.ref s137]) (rd_homeU hvU138 hkS137) q787 q788 q789 q114 q790 nm_X3_home he138_v rfl rfl rfl (Nat.le_of_ble_eq_true rfl) ⟨Nat.le_of_ble_eq_true rfl, Nat.le_of_ble_eq_true rfl⟩ dX2_guest_84 rfl rfl (Nat.le_of_ble_eq_true rfl) (Nat.le_of_ble_eq_true rfl) (fun v_141 X_142 hp_143 => ?_)
      obtain ⟨rfl, h7⟩ := hp_143
      replace h7 := h7.symm
      subst h7
      refine z_st (st' := [.int (kwf (fun k => decide (hv k = (T.vl (a + 1 + 1 + 1)))) nh 0), .ref r, .ref n_116]) rfl ?_
      refine z_callVx (As := [.int (kwf (fun k => decide (hv k = (T.vl (a + 1 + 1 + 1)))) nh 0)]) (rd_passed hT hWk138 (hT.lt ha138 (by rw [(s_isN_k hi137).2]; decide)).1 (kwf (fun k => decide (hv k = (T.vl (a + 1 + 1 + 1)))) nh 0)) q893 q895 qs15 q113 q896 nm_X2_passed hr138 rfl rfl rfl (Nat.le_of_ble_eq_true rfl) ⟨Nat.le_of_ble_eq_true rfl, Nat.le_of_ble_eq_true rfl⟩ dX2_guest_87 rfl rfl (Nat.le_of_ble_eq_true rfl) (Nat.le_of_ble_eq_true rfl) rfl (fun q9 E9 X8 hp9 => by obtain ⟨f9, hf9, hs9, hx9⟩ := hp9; exact ⟨f9, hf9, (by have hs8 := (show k_told T.kd T.pl T.vl T.wd (fun val => kwf (fun k => decide (hv k = val)) nh 0) (a + 1 + 1 + 1) 0 = (0, (a + 1 + 1 + 1), f9) by unfold k_told; rw [if_pos rfl, if_pos hi137, if_neg (show ¬ 0 ≤ (fun val => kwf (fun k => decide (hv k = val)) nh 0) (T.vl (a + 1 + 1 + 1)) from hs9.1), hs9.2]); unfold k_guest; simp only [he1, he5, he133, hs8, s_tA_f hf9]), hx9.tr hrt138⟩) (fun v_146 X144 hp_147 => ?_)
      obtain ⟨hz144, rfl, ht144, hw144⟩ := hp_147
      have he144 : k_told T.kd T.pl T.vl T.wd (fun val => kwf (fun k => decide (hv k = val)) nh 0) (a + 1 + 1 + 1) 0 = ((fun val => kwf (fun k => decide (hv k = val)) nh 0) (T.vl (a + 1 + 1 + 1)), (a + 1 + 1 + 1 + 1), 0) := by unfold k_told; rw [if_pos rfl, if_pos hi137, if_pos (show 0 ≤ (fun val => kwf (fun k => decide (hv k = val)) nh 0) (T.vl (a + 1 + 1 + 1)) from hz144)]
      have hWk145 := hw144
      obtain ⟨-, hx145, hks145, ha145, va145, hr145, hva145⟩ := hw144
      have hrt145 := hrt138.tr ht144
      have he145_v := ht144 _ _ (zne he138_v hr138 (by unfold rdT; simp)) he138_v
      have he145_n_116 := ht144 _ _ (zne he138_n_116 hr138 (by unfold rdT; simp)) he138_n_116
      have hvU145 := hvU138.to hr138 ht144
      have hst145_s1 := hst138_s1.to hr138 (by decide) ht144
      have hst145_s137 := hkS137.to hr138 (by decide) ht144
      have hpl145 := hT.le ha145
      have hto145 := hT.to ha145
      have hk4145 := hT.kd4 ha145
      refine z_st (st' := [.int (kwf (fun k => decide (hv k = (T.vl (a + 1 + 1 + 1)))) nh 0), .ref n_116]) rfl ?_
      refine z_put (X' := (zup X144 n_116 (.inr (9, [.ref s1, .int (kwf (fun k => decide (hv k = (T.vl (a + 1 + 1 + 1)))) nh 0), .int 0, .int 0, .int 0])))) 1 he145_n_116 rfl in_X9 (by decide) tyX9 tyX9_ok nmX9 q923 rfl (tyX9_ok 1 (by decide)) rfl rfl (Nat.le_of_ble_eq_true rfl) hl_118 dX2_guest_90 rfl ?_
      have hx_148 : (zup X144 n_116 (.inr (9, [.ref s1, .int (kwf (fun k => decide (hv k = (T.vl (a + 1 + 1 + 1)))) nh 0), .int 0, .int 0, .int 0]))) r = some (rdT T (a + 1 + 1 + 1 + 1) va145 w (some v)) := zup_k (zne hr145 he145_n_116 (by unfold rdT; simp)) hr145
      have hx_149 : (zup X144 n_116 (.inr (9, [.ref s1, .int (kwf (fun k => decide (hv k = (T.vl (a + 1 + 1 + 1)))) nh 0), .int 0, .int 0, .int 0]))) T.x = some (.inl (zar g 1, 1000, .inl T.t)) := zup_k (zne hx145 he145_n_116 (by simp)) hx145
      have hx_150 : (zup X144 n_116 (.inr (9, [.ref s1, .int (kwf (fun k => decide (hv k = (T.vl (a + 1 + 1 + 1)))) nh 0), .int 0, .int 0, .int 0]))) v = some (.inr (3, [.ref B.lh, .ref B.lg, .int st, va_rf (fa)])) := zup_k (zne he145_v he145_n_116 (by simp)) he145_v
      have hx_151 : (zup X144 n_116 (.inr (9, [.ref s1, .int (kwf (fun k => decide (hv k = (T.vl (a + 1 + 1 + 1)))) nh 0), .int 0, .int 0, .int 0]))) n_116 = some (.inr (9, [.ref s1, .int (kwf (fun k => decide (hv k = (T.vl (a + 1 + 1 + 1)))) nh 0), .int 0, .int 0, .int 0])) := zup_s
      refine z_aload_n 0 dX2_guest_93 rfl ?_
      refine z_aload_n 3 dX2_guest_94 rfl ?_
      refine z_ldcS 6 rfl dX2_guest_95 ?_
      refine z_iconst (v := 0) dX2_guest_97 (by decide) ?_
      refine z_bipush (v := 11) dX2_guest_98 (by decide) ?_
      refine z_callVx (As := [.ref (zk g 16), .int 0, .int 11]) (rd_numw hT (hWk145.up he145_n_116 (by decide) (by decide)) 6 5 (by decide) (by decide) rfl (by decide) (by decide) 0 11 (by decide) (by decide)) q825 q827 qs9 q113 q828 nm_X2_number hx_148 rfl rfl rfl (Nat.le_of_ble_eq_true rfl) ⟨Nat.le_of_ble_eq_true rfl, Nat.le_of_ble_eq_true rfl⟩ dX2_guest_100 rfl rfl (Nat.le_of_ble_eq_true rfl) (Nat.le_of_ble_eq_true rfl) rfl (fun q9 E9 X8 hp9 => by obtain ⟨f9, hf9, hs9, hx9⟩ := hp9; exact ⟨f9, hf9, (by obtain ⟨a8, hs8⟩ := hs9; unfold k_guest; simp only [he1, he5, he133, he144, hs8, s_tA_f hf9]), hx9.tr (hrt145.new hz0n_116)⟩) (fun v_154 X152 hp_155 => ?_)
      obtain ⟨k152, hk152, hlo152, hhi152, rfl, he152, ht152, hw152⟩ := hp_155
      have hWk153 := hw152
      obtain ⟨-, hx153, hks153, ha153, va153, hr153, hva153⟩ := hw152
      have hrt153 := (hrt145.new hz0n_116).tr ht152
      have he153_v := ht152 _ _ (zne hx_150 hx_148 (by unfold rdT; simp)) hx_150
      have he153_n_116 := ht152 _ _ (zne hx_151 hx_148 (by unfold rdT; simp)) hx_151
      have hvU153 := (hvU145.own hz1n_116 he145_n_116 (by decide) (by decide) (by decide)).to hx_148 ht152
      have hst153_s1 := (hst145_s1.up he145_n_116 (by decide)).to hx_148 (by decide) ht152
      have hst153_s137 := (hst145_s137.up he145_n_116 (by decide)).to hx_148 (by decide) ht152
      have hpl153 := hT.le ha153
      have hto153 := hT.to ha153
      have hk4153 := hT.kd4 ha153
      refine z_st (st' := [.int (nI (k152)), .ref n_116]) rfl ?_
      refine z_put (X' := (zup X152 n_116 (.inr (9, [.ref s1, .int (kwf (fun k => decide (hv k = (T.vl (a + 1 + 1 + 1)))) nh 0), .int (nI (k152)), .int 0, .int 0])))) 2 he153_n_116 rfl in_X9 (by decide) tyX9 tyX9_ok nmX9 q925 rfl (tyX9_ok 2 (by decide)) rfl rfl (Nat.le_of_ble_eq_true rfl) hl_118 dX2_guest_103 rfl ?_
      have hx_156 : (zup X152 n_116 (.inr (9, [.ref s1, .int (kwf (fun k => decide (hv k = (T.vl (a + 1 + 1 + 1)))) nh 0), .int (nI (k152)), .int 0, .int 0]))) r = some (rdT T (a + 1 + 1 + 1 + 1 + 2) va153 w (some v)) := zup_k (zne hr153 he153_n_116 (by unfold rdT; simp)) hr153
      have hx_157 : (zup X152 n_116 (.inr (9, [.ref s1, .int (kwf (fun k => decide (hv k = (T.vl (a + 1 + 1 + 1)))) nh 0), .int (nI (k152)), .int 0, .int 0]))) T.x = some (.inl (zar g 1, 1000, .inl T.t)) := zup_k (zne hx153 he153_n_116 (by simp)) hx153
      have hx_158 : (zup X152 n_116 (.inr (9, [.ref s1, .int (kwf (fun k => decide (hv k = (T.vl (a + 1 + 1 + 1)))) nh 0), .int (nI (k152)), .int 0, .int 0]))) v = some (.inr (3, [.ref B.lh, .ref B.lg, .int st, va_rf (fa)])) := zup_k (zne he153_v he153_n_116 (by simp)) he153_v
      have hx_159 : (zup X152 n_116 (.inr (9, [.ref s1, .int (kwf (fun k => decide (hv k = (T.vl (a + 1 + 1 + 1)))) nh 0), .int (nI (k152)), .int 0, .int 0]))) n_116 = some (.inr (9, [.ref s1, .int (kwf (fun k => decide (hv k = (T.vl (a + 1 + 1 + 1)))) nh 0), .int (nI (k152)), .int 0, .int 0])) := zup_s
      refine z_aload_n 0 dX2_guest_106 rfl ?_
      refine z_aload_n 3 dX2_guest_107 rfl ?_
      refine z_ldcS 7 rfl dX2_guest_108 ?_
      refine z_iconst (v := 0) dX2_guest_110 (by decide) ?_
      refine z_bipush (v := 40) dX2_guest_111 (by decide) ?_
      refine z_callVx (As := [.ref (zk g 17), .int 0, .int 40]) (rd_numw hT (hWk153.up he153_n_116 (by decide) (by decide)) 7 6 (by decide) (by decide) rfl (by decide) (by decide) 0 40 (by decide) (by decide)) q825 q827 qs9 q113 q828 nm_X2_number hx_156 rfl rfl rfl (Nat.le_of_ble_eq_true rfl) ⟨Nat.le_of_ble_eq_true rfl, Nat.le_of_ble_eq_true rfl⟩ dX2_guest_113 rfl rfl (Nat.le_of_ble_eq_true rfl) (Nat.le_of_ble_eq_true rfl) rfl (fun q9 E9 X8 hp9 => by obtain ⟨f9, hf9, hs9, hx9⟩ := hp9; exact ⟨f9, hf9, (by obtain ⟨a8, hs8⟩ := hs9; unfold k_guest; simp only [he1, he5, he133, he144, he152, hs8, s_tA_f hf9]), hx9.tr (hrt153.new hz0n_116)⟩) (fun v_162 X160 hp_163 => ?_)
      obtain ⟨k160, hk160, hlo160, hhi160, rfl, he160, ht160, hw160⟩ := hp_163
      have hWk161 := hw160
      obtain ⟨-, hx161, hks161, ha161, va161, hr161, hva161⟩ := hw160
      have hrt161 := (hrt153.new hz0n_116).tr ht160
      have he161_v := ht160 _ _ (zne hx_158 hx_156 (by unfold rdT; simp)) hx_158
      have he161_n_116 := ht160 _ _ (zne hx_159 hx_156 (by unfold rdT; simp)) hx_159
      have hvU161 := (hvU153.own hz1n_116 he153_n_116 (by decide) (by decide) (by decide)).to hx_156 ht160
      have hst161_s1 := (hst153_s1.up he153_n_116 (by decide)).to hx_156 (by decide) ht160
      have hst161_s137 := (hst153_s137.up he153_n_116 (by decide)).to hx_156 (by decide) ht160
      have hpl161 := hT.le ha161
      have hto161 := hT.to ha161
      have hk4161 := hT.kd4 ha161
      refine z_st (st' := [.int (nI (k160)), .ref n_116]) rfl ?_
      refine z_put (X' := (zup X160 n_116 (.inr (9, [.ref s1, .int (kwf (fun k => decide (hv k = (T.vl (a + 1 + 1 + 1)))) nh 0), .int (nI (k152)), .int (nI (k160)), .int 0])))) 3 he161_n_116 rfl in_X9 (by decide) tyX9 tyX9_ok nmX9 q928 rfl (tyX9_ok 3 (by decide)) rfl rfl (Nat.le_of_ble_eq_true rfl) hl_118 dX2_guest_116 rfl ?_
      have hx_164 : (zup X160 n_116 (.inr (9, [.ref s1, .int (kwf (fun k => decide (hv k = (T.vl (a + 1 + 1 + 1)))) nh 0), .int (nI (k152)), .int (nI (k160)), .int 0]))) r = some (rdT T (a + 1 + 1 + 1 + 1 + 2 + 2) va161 w (some v)) := zup_k (zne hr161 he161_n_116 (by unfold rdT; simp)) hr161
      have hx_165 : (zup X160 n_116 (.inr (9, [.ref s1, .int (kwf (fun k => decide (hv k = (T.vl (a + 1 + 1 + 1)))) nh 0), .int (nI (k152)), .int (nI (k160)), .int 0]))) T.x = some (.inl (zar g 1, 1000, .inl T.t)) := zup_k (zne hx161 he161_n_116 (by simp)) hx161
      have hx_166 : (zup X160 n_116 (.inr (9, [.ref s1, .int (kwf (fun k => decide (hv k = (T.vl (a + 1 + 1 + 1)))) nh 0), .int (nI (k152)), .int (nI (k160)), .int 0]))) v = some (.inr (3, [.ref B.lh, .ref B.lg, .int st, va_rf (fa)])) := zup_k (zne he161_v he161_n_116 (by simp)) he161_v
      have hx_167 : (zup X160 n_116 (.inr (9, [.ref s1, .int (kwf (fun k => decide (hv k = (T.vl (a + 1 + 1 + 1)))) nh 0), .int (nI (k152)), .int (nI (k160)), .int 0]))) n_116 = some (.inr (9, [.ref s1, .int (kwf (fun k => decide (hv k = (T.vl (a + 1 + 1 + 1)))) nh 0), .int (nI (k152)), .int (nI (k160)), .int 0])) := zup_s
      refine z_aload_n 0 dX2_guest_119 rfl ?_
      exact z_aret dX2_guest_120 rfl (Or.inl ⟨_, rfl⟩) (Or.inr ⟨_, rfl⟩) (Nat.le_of_ble_eq_true rfl) (Nat.le_of_ble_eq_true rfl) ⟨n_116, s1, 1, k152, k160, kwf (fun k => decide (hv k = (T.vl (a + 1 + 1 + 1)))) nh 0, rfl, (by decide), (by have e9 := (show k5 = 1 by omega); subst e9; unfold k_guest; simp only [he1, he5, he133, he144, he152, he160]), hkd1, hf11, hf21, hz0n_116, hl_118, hz1n_116, hx_167, (hst161_s1.up he161_n_116 (by decide)), (hrt161.new hz0n_116), (hWk161.up he161_n_116 (by decide) (by decide)), (hvU161.own hz1n_116 he161_n_116 (by decide) (by decide) (by decide))⟩
  · -- k5 = 0
    refine z_new (ci := 8) (fs := [.null, .int 0, .int 0, .int 0, .int 0]) rfl in_X8 tyX8 tyX8_ok q914 q915 q137 zd_X8 dX2_guest_16 rfl rfl (Nat.le_of_ble_eq_true rfl) (Nat.le_of_ble_eq_true rfl) (fun n_168 hn_169 hl_170 => ?_)
    have ne_171 : r ≠ n_168 := fun q9 => by rw [← q9, hr6] at hn_169; cases hn_169
    have ne_172 : T.x ≠ n_168 := fun q9 => by rw [← q9, hx6] at hn_169; cases hn_169
    have ne_173 : v ≠ n_168 := fun q9 => by rw [← q9, he6_v] at hn_169; cases hn_169
    have hx_174 : (zup X5 n_168 (.inr (8, [.null, .int 0, .int 0, .int 0, .int 0]))) r = some (rdT T (a + 1 + 1) va6 w (some v)) := zup_k ne_171 hr6
    have hx_175 : (zup X5 n_168 (.inr (8, [.null, .int 0, .int 0, .int 0, .int 0]))) T.x = some (.inl (zar g 1, 1000, .inl T.t)) := zup_k ne_172 hx6
    have hx_176 : (zup X5 n_168 (.inr (8, [.null, .int 0, .int 0, .int 0, .int 0]))) v = some (.inr (3, [.ref B.lh, .ref B.lg, .int st, va_rf (fa)])) := zup_k ne_173 he6_v
    have hx_177 : (zup X5 n_168 (.inr (8, [.null, .int 0, .int 0, .int 0, .int 0]))) n_168 = some (.inr (8, [.null, .int 0, .int 0, .int 0, .int 0])) := zup_s
    have hz0n_168 := (hrt6).back hn_169 hr6
    have hz1n_168 := (hvU6).fgn hn_169
    refine z_dup dX2_guest_19 rfl ?_
    refine z_aload_n 1 dX2_guest_20 rfl ?_
    refine z_callI (As := [.ref s1]) (rd_g8_X8 hx_177 hl_170) q916 q917 q137 q918 rfl rfl nm_X8_init rfl (Nat.le_of_ble_eq_true rfl) ⟨Nat.le_of_ble_eq_true rfl, Nat.le_of_ble_eq_true rfl⟩ dX2_guest_21 rfl rfl (Nat.le_of_ble_eq_true rfl) (Nat.le_of_ble_eq_true rfl) (fun v_182 X_183 hp_184 => ?_)
    obtain ⟨rfl, h7⟩ := hp_184
    replace h7 := h7.symm
    subst h7
    refine z_X (X' := (zup X5 n_168 (.inr (8, [.ref s1, .int 0, .int 0, .int 0, .int 0])))) zup_zup ?_
    have hx_178 : (zup X5 n_168 (.inr (8, [.ref s1, .int 0, .int 0, .int 0, .int 0]))) r = some (rdT T (a + 1 + 1) va6 w (some v)) := zup_over ne_171 hx_174 zup_zup
    have hx_179 : (zup X5 n_168 (.inr (8, [.ref s1, .int 0, .int 0, .int 0, .int 0]))) T.x = some (.inl (zar g 1, 1000, .inl T.t)) := zup_over ne_172 hx_175 zup_zup
    have hx_180 : (zup X5 n_168 (.inr (8, [.ref s1, .int 0, .int 0, .int 0, .int 0]))) v = some (.inr (3, [.ref B.lh, .ref B.lg, .int st, va_rf (fa)])) := zup_over ne_173 hx_176 zup_zup
    have hx_181 : (zup X5 n_168 (.inr (8, [.ref s1, .int 0, .int 0, .int 0, .int 0]))) n_168 = some (.inr (8, [.ref s1, .int 0, .int 0, .int 0, .int 0])) := zup_s
    refine z_st (st' := [.ref n_168]) rfl ?_
    refine z_goto 67 dX2_guest_24 (by decide) ?_
    refine z_astore_n (lv' := [(3, .ref n_168), (2, .int (nI (k5))), (1, .ref s1), (0, .ref r)]) dX2_guest_67 rfl (by decide) rfl ?_
    refine z_aload_n 3 dX2_guest_68 rfl ?_
    refine z_ldcS 5 rfl dX2_guest_69 ?_
    refine z_callVx (As := [.ref (zk g 15)]) (rd_need hT (hWk6.nw hn_169) 5 4 (by decide) (by decide) rfl (by decide) (by decide)) q829 q831 qs10 q113 q832 nm_X2_need hx_178 rfl rfl rfl (Nat.le_of_ble_eq_true rfl) ⟨Nat.le_of_ble_eq_true rfl, Nat.le_of_ble_eq_true rfl⟩ dX2_guest_71 rfl rfl (Nat.le_of_ble_eq_true rfl) (Nat.le_of_ble_eq_true rfl) rfl (fun q9 E9 X8 hp9 => by obtain ⟨f9, hf9, hs9, hx9⟩ := hp9; exact ⟨f9, hf9, (by unfold k_guest; simp only [he1, he5, hs9, s_tO_f hf9, s_tW_f hf9, k_told_f hf9, s_tA_f hf9]), hx9.tr (hrt6.nw hn_169)⟩) (fun v_187 X185 hp_188 => ?_)
    obtain ⟨rfl, he185, ht185, hw185⟩ := hp_188
    have hWk186 := hw185
    obtain ⟨-, hx186, hks186, ha186, va186, hr186, hva186⟩ := hw185
    have hrt186 := (hrt6.nw hn_169).tr ht185
    have he186_v := ht185 _ _ (zne hx_180 hx_178 (by unfold rdT; simp)) hx_180
    have he186_n_168 := ht185 _ _ (zne hx_181 hx_178 (by unfold rdT; simp)) hx_181
    have hvU186 := (hvU6.nw hn_169).to hx_178 ht185
    have hst186_s1 := (hst6_s1.nw hn_169).to hx_178 (by decide) ht185
    have hpl186 := hT.le ha186
    have hto186 := hT.to ha186
    have hk4186 := hT.kd4 ha186
    refine z_st (st' := []) rfl ?_
    refine z_aload_n 0 dX2_guest_74 rfl ?_
    refine z_aload_n 3 dX2_guest_75 rfl ?_
    refine z_aload_n 3 dX2_guest_76 rfl ?_
    refine z_get (v := .ref v) 7 hr186 rfl in_X2 (by decide) q175 rfl dX2_guest_77 ?_
    refine z_aload_n 3 dX2_guest_80 rfl ?_
    refine z_callVx (As := []) (rd_name hT hWk186) q624 q626 qs8 q113 q627 nm_X2_name hr186 rfl rfl rfl (Nat.le_of_ble_eq_true rfl) ⟨Nat.le_of_ble_eq_true rfl, Nat.le_of_ble_eq_true rfl⟩ dX2_guest_81 rfl rfl (Nat.le_of_ble_eq_true rfl) (Nat.le_of_ble_eq_true rfl) rfl (fun q9 E9 X8 hp9 => by obtain ⟨f9, hf9, hs9, hx9⟩ := hp9; exact ⟨f9, hf9, (by have hs8 := (show k_told T.kd T.pl T.vl T.wd (fun val => kwf (fun k => decide (hv k = val)) nh 0) (a + 1 + 1 + 1) 0 = (0, (a + 1 + 1 + 1), f9) by unfold k_told; rw [if_pos rfl, if_neg (by rw [hs9.1]; decide), hs9.2]); unfold k_guest; simp only [he1, he5, he185, hs8, s_tA_f hf9]), hx9.tr hrt186⟩) (fun v_191 X189 hp_192 => ?_)
    obtain ⟨s189, rfl, hi189, hn189, hzs189, hkS189, ht189, hw189⟩ := hp_192
    have hWk190 := hw189
    obtain ⟨-, hx190, hks190, ha190, va190, hr190, hva190⟩ := hw189
    have hrt190 := hrt186.tr ht189
    have he190_v := ht189 _ _ (zne he186_v hr186 (by unfold rdT; simp)) he186_v
    have he190_n_168 := ht189 _ _ (zne he186_n_168 hr186 (by unfold rdT; simp)) he186_n_168
    have hvU190 := hvU186.to hr186 ht189
    have hst190_s1 := hst186_s1.to hr186 (by decide) ht189
    have hpl190 := hT.le ha190
    have hto190 := hT.to ha190
    have hk4190 := hT.kd4 ha190
    refine z_st (st' := [.ref s189, .ref v, .ref r, .ref n_168]) rfl ?_
    refine z_callV (As := [.ref s189]) (rd_homeU hvU190 hkS189) q787 q788 q789 q114 q790 nm_X3_home he190_v rfl rfl rfl (Nat.le_of_ble_eq_true rfl) ⟨Nat.le_of_ble_eq_true rfl, Nat.le_of_ble_eq_true rfl⟩ dX2_guest_84 rfl rfl (Nat.le_of_ble_eq_true rfl) (Nat.le_of_ble_eq_true rfl) (fun v_193 X_194 hp_195 => ?_)
    obtain ⟨rfl, h7⟩ := hp_195
    replace h7 := h7.symm
    subst h7
    refine z_st (st' := [.int (kwf (fun k => decide (hv k = (T.vl (a + 1 + 1 + 1)))) nh 0), .ref r, .ref n_168]) rfl ?_
    refine z_callVx (As := [.int (kwf (fun k => decide (hv k = (T.vl (a + 1 + 1 + 1)))) nh 0)]) (rd_passed hT hWk190 (hT.lt ha190 (by rw [(s_isN_k hi189).2]; decide)).1 (kwf (fun k => decide (hv k = (T.vl (a + 1 + 1 + 1)))) nh 0)) q893 q895 qs15 q113 q896 nm_X2_passed hr190 rfl rfl rfl (Nat.le_of_ble_eq_true rfl) ⟨Nat.le_of_ble_eq_true rfl, Nat.le_of_ble_eq_true rfl⟩ dX2_guest_87 rfl rfl (Nat.le_of_ble_eq_true rfl) (Nat.le_of_ble_eq_true rfl) rfl (fun q9 E9 X8 hp9 => by obtain ⟨f9, hf9, hs9, hx9⟩ := hp9; exact ⟨f9, hf9, (by have hs8 := (show k_told T.kd T.pl T.vl T.wd (fun val => kwf (fun k => decide (hv k = val)) nh 0) (a + 1 + 1 + 1) 0 = (0, (a + 1 + 1 + 1), f9) by unfold k_told; rw [if_pos rfl, if_pos hi189, if_neg (show ¬ 0 ≤ (fun val => kwf (fun k => decide (hv k = val)) nh 0) (T.vl (a + 1 + 1 + 1)) from hs9.1), hs9.2]); unfold k_guest; simp only [he1, he5, he185, hs8, s_tA_f hf9]), hx9.tr hrt190⟩) (fun v_198 X196 hp_199 => ?_)
    obtain ⟨hz196, rfl, ht196, hw196⟩ := hp_199
    have he196 : k_told T.kd T.pl T.vl T.wd (fun val => kwf (fun k => decide (hv k = val)) nh 0) (a + 1 + 1 + 1) 0 = ((fun val => kwf (fun k => decide (hv k = val)) nh 0) (T.vl (a + 1 + 1 + 1)), (a + 1 + 1 + 1 + 1), 0) := by unfold k_told; rw [if_pos rfl, if_pos hi189, if_pos (show 0 ≤ (fun val => kwf (fun k => decide (hv k = val)) nh 0) (T.vl (a + 1 + 1 + 1)) from hz196)]
    have hWk197 := hw196
    obtain ⟨-, hx197, hks197, ha197, va197, hr197, hva197⟩ := hw196
    have hrt197 := hrt190.tr ht196
    have he197_v := ht196 _ _ (zne he190_v hr190 (by unfold rdT; simp)) he190_v
    have he197_n_168 := ht196 _ _ (zne he190_n_168 hr190 (by unfold rdT; simp)) he190_n_168
    have hvU197 := hvU190.to hr190 ht196
    have hst197_s1 := hst190_s1.to hr190 (by decide) ht196
    have hst197_s189 := hkS189.to hr190 (by decide) ht196
    have hpl197 := hT.le ha197
    have hto197 := hT.to ha197
    have hk4197 := hT.kd4 ha197
    refine z_st (st' := [.int (kwf (fun k => decide (hv k = (T.vl (a + 1 + 1 + 1)))) nh 0), .ref n_168]) rfl ?_
    refine z_put (X' := (zup X196 n_168 (.inr (8, [.ref s1, .int (kwf (fun k => decide (hv k = (T.vl (a + 1 + 1 + 1)))) nh 0), .int 0, .int 0, .int 0])))) 1 he197_n_168 rfl in_X8 (by decide) tyX8 tyX8_ok nmX8 q923 rfl (tyX8_ok 1 (by decide)) rfl rfl (Nat.le_of_ble_eq_true rfl) hl_170 dX2_guest_90 rfl ?_
    have hx_200 : (zup X196 n_168 (.inr (8, [.ref s1, .int (kwf (fun k => decide (hv k = (T.vl (a + 1 + 1 + 1)))) nh 0), .int 0, .int 0, .int 0]))) r = some (rdT T (a + 1 + 1 + 1 + 1) va197 w (some v)) := zup_k (zne hr197 he197_n_168 (by unfold rdT; simp)) hr197
    have hx_201 : (zup X196 n_168 (.inr (8, [.ref s1, .int (kwf (fun k => decide (hv k = (T.vl (a + 1 + 1 + 1)))) nh 0), .int 0, .int 0, .int 0]))) T.x = some (.inl (zar g 1, 1000, .inl T.t)) := zup_k (zne hx197 he197_n_168 (by simp)) hx197
    have hx_202 : (zup X196 n_168 (.inr (8, [.ref s1, .int (kwf (fun k => decide (hv k = (T.vl (a + 1 + 1 + 1)))) nh 0), .int 0, .int 0, .int 0]))) v = some (.inr (3, [.ref B.lh, .ref B.lg, .int st, va_rf (fa)])) := zup_k (zne he197_v he197_n_168 (by simp)) he197_v
    have hx_203 : (zup X196 n_168 (.inr (8, [.ref s1, .int (kwf (fun k => decide (hv k = (T.vl (a + 1 + 1 + 1)))) nh 0), .int 0, .int 0, .int 0]))) n_168 = some (.inr (8, [.ref s1, .int (kwf (fun k => decide (hv k = (T.vl (a + 1 + 1 + 1)))) nh 0), .int 0, .int 0, .int 0])) := zup_s
    refine z_aload_n 0 dX2_guest_93 rfl ?_
    refine z_aload_n 3 dX2_guest_94 rfl ?_
    refine z_ldcS 6 rfl dX2_guest_95 ?_
    refine z_iconst (v := 0) dX2_guest_97 (by decide) ?_
    refine z_bipush (v := 11) dX2_guest_98 (by decide) ?_
    refine z_callVx (As := [.ref (zk g 16), .int 0, .int 11]) (rd_numw hT (hWk197.up he197_n_168 (by decide) (by decide)) 6 5 (by decide) (by decide) rfl (by decide) (by decide) 0 11 (by decide) (by decide)) q825 q827 qs9 q113 q828 nm_X2_number hx_200 rfl rfl rfl (Nat.le_of_ble_eq_true rfl) ⟨Nat.le_of_ble_eq_true rfl, Nat.le_of_ble_eq_true rfl⟩ dX2_guest_100 rfl rfl (Nat.le_of_ble_eq_true rfl) (Nat.le_of_ble_eq_true rfl) rfl (fun q9 E9 X8 hp9 => by obtain ⟨f9, hf9, hs9, hx9⟩ := hp9; exact ⟨f9, hf9, (by obtain ⟨a8, hs8⟩ := hs9; unfold k_guest; simp only [he1, he5, he185, he196, hs8, s_tA_f hf9]), hx9.tr (hrt197.new hz0n_168)⟩) (fun v_206 X204 hp_207 => ?_)
    obtain ⟨k204, hk204, hlo204, hhi204, rfl, he204, ht204, hw204⟩ := hp_207
    have hWk205 := hw204
    obtain ⟨-, hx205, hks205, ha205, va205, hr205, hva205⟩ := hw204
    have hrt205 := (hrt197.new hz0n_168).tr ht204
    have he205_v := ht204 _ _ (zne hx_202 hx_200 (by unfold rdT; simp)) hx_202
    have he205_n_168 := ht204 _ _ (zne hx_203 hx_200 (by unfold rdT; simp)) hx_203
    have hvU205 := (hvU197.own hz1n_168 he197_n_168 (by decide) (by decide) (by decide)).to hx_200 ht204
    have hst205_s1 := (hst197_s1.up he197_n_168 (by decide)).to hx_200 (by decide) ht204
    have hst205_s189 := (hst197_s189.up he197_n_168 (by decide)).to hx_200 (by decide) ht204
    have hpl205 := hT.le ha205
    have hto205 := hT.to ha205
    have hk4205 := hT.kd4 ha205
    refine z_st (st' := [.int (nI (k204)), .ref n_168]) rfl ?_
    refine z_put (X' := (zup X204 n_168 (.inr (8, [.ref s1, .int (kwf (fun k => decide (hv k = (T.vl (a + 1 + 1 + 1)))) nh 0), .int (nI (k204)), .int 0, .int 0])))) 2 he205_n_168 rfl in_X8 (by decide) tyX8 tyX8_ok nmX8 q925 rfl (tyX8_ok 2 (by decide)) rfl rfl (Nat.le_of_ble_eq_true rfl) hl_170 dX2_guest_103 rfl ?_
    have hx_208 : (zup X204 n_168 (.inr (8, [.ref s1, .int (kwf (fun k => decide (hv k = (T.vl (a + 1 + 1 + 1)))) nh 0), .int (nI (k204)), .int 0, .int 0]))) r = some (rdT T (a + 1 + 1 + 1 + 1 + 2) va205 w (some v)) := zup_k (zne hr205 he205_n_168 (by unfold rdT; simp)) hr205
    have hx_209 : (zup X204 n_168 (.inr (8, [.ref s1, .int (kwf (fun k => decide (hv k = (T.vl (a + 1 + 1 + 1)))) nh 0), .int (nI (k204)), .int 0, .int 0]))) T.x = some (.inl (zar g 1, 1000, .inl T.t)) := zup_k (zne hx205 he205_n_168 (by simp)) hx205
    have hx_210 : (zup X204 n_168 (.inr (8, [.ref s1, .int (kwf (fun k => decide (hv k = (T.vl (a + 1 + 1 + 1)))) nh 0), .int (nI (k204)), .int 0, .int 0]))) v = some (.inr (3, [.ref B.lh, .ref B.lg, .int st, va_rf (fa)])) := zup_k (zne he205_v he205_n_168 (by simp)) he205_v
    have hx_211 : (zup X204 n_168 (.inr (8, [.ref s1, .int (kwf (fun k => decide (hv k = (T.vl (a + 1 + 1 + 1)))) nh 0), .int (nI (k204)), .int 0, .int 0]))) n_168 = some (.inr (8, [.ref s1, .int (kwf (fun k => decide (hv k = (T.vl (a + 1 + 1 + 1)))) nh 0), .int (nI (k204)), .int 0, .int 0])) := zup_s
    refine z_aload_n 0 dX2_guest_106 rfl ?_
    refine z_aload_n 3 dX2_guest_107 rfl ?_
    refine z_ldcS 7 rfl dX2_guest_108 ?_
    refine z_iconst (v := 0) dX2_guest_110 (by decide) ?_
    refine z_bipush (v := 40) dX2_guest_111 (by decide) ?_
    refine z_callVx (As := [.ref (zk g 17), .int 0, .int 40]) (rd_numw hT (hWk205.up he205_n_168 (by decide) (by decide)) 7 6 (by decide) (by decide) rfl (by decide) (by decide) 0 40 (by decide) (by decide)) q825 q827 qs9 q113 q828 nm_X2_number hx_208 rfl rfl rfl (Nat.le_of_ble_eq_true rfl) ⟨Nat.le_of_ble_eq_true rfl, Nat.le_of_ble_eq_true rfl⟩ dX2_guest_113 rfl rfl (Nat.le_of_ble_eq_true rfl) (Nat.le_of_ble_eq_true rfl) rfl (fun q9 E9 X8 hp9 => by obtain ⟨f9, hf9, hs9, hx9⟩ := hp9; exact ⟨f9, hf9, (by obtain ⟨a8, hs8⟩ := hs9; unfold k_guest; simp only [he1, he5, he185, he196, he204, hs8, s_tA_f hf9]), hx9.tr (hrt205.new hz0n_168)⟩) (fun v_214 X212 hp_215 => ?_)
    obtain ⟨k212, hk212, hlo212, hhi212, rfl, he212, ht212, hw212⟩ := hp_215
    have hWk213 := hw212
    obtain ⟨-, hx213, hks213, ha213, va213, hr213, hva213⟩ := hw212
    have hrt213 := (hrt205.new hz0n_168).tr ht212
    have he213_v := ht212 _ _ (zne hx_210 hx_208 (by unfold rdT; simp)) hx_210
    have he213_n_168 := ht212 _ _ (zne hx_211 hx_208 (by unfold rdT; simp)) hx_211
    have hvU213 := (hvU205.own hz1n_168 he205_n_168 (by decide) (by decide) (by decide)).to hx_208 ht212
    have hst213_s1 := (hst205_s1.up he205_n_168 (by decide)).to hx_208 (by decide) ht212
    have hst213_s189 := (hst205_s189.up he205_n_168 (by decide)).to hx_208 (by decide) ht212
    have hpl213 := hT.le ha213
    have hto213 := hT.to ha213
    have hk4213 := hT.kd4 ha213
    refine z_st (st' := [.int (nI (k212)), .ref n_168]) rfl ?_
    refine z_put (X' := (zup X212 n_168 (.inr (8, [.ref s1, .int (kwf (fun k => decide (hv k = (T.vl (a + 1 + 1 + 1)))) nh 0), .int (nI (k204)), .int (nI (k212)), .int 0])))) 3 he213_n_168 rfl in_X8 (by decide) tyX8 tyX8_ok nmX8 q928 rfl (tyX8_ok 3 (by decide)) rfl rfl (Nat.le_of_ble_eq_true rfl) hl_170 dX2_guest_116 rfl ?_
    have hx_216 : (zup X212 n_168 (.inr (8, [.ref s1, .int (kwf (fun k => decide (hv k = (T.vl (a + 1 + 1 + 1)))) nh 0), .int (nI (k204)), .int (nI (k212)), .int 0]))) r = some (rdT T (a + 1 + 1 + 1 + 1 + 2 + 2) va213 w (some v)) := zup_k (zne hr213 he213_n_168 (by unfold rdT; simp)) hr213
    have hx_217 : (zup X212 n_168 (.inr (8, [.ref s1, .int (kwf (fun k => decide (hv k = (T.vl (a + 1 + 1 + 1)))) nh 0), .int (nI (k204)), .int (nI (k212)), .int 0]))) T.x = some (.inl (zar g 1, 1000, .inl T.t)) := zup_k (zne hx213 he213_n_168 (by simp)) hx213
    have hx_218 : (zup X212 n_168 (.inr (8, [.ref s1, .int (kwf (fun k => decide (hv k = (T.vl (a + 1 + 1 + 1)))) nh 0), .int (nI (k204)), .int (nI (k212)), .int 0]))) v = some (.inr (3, [.ref B.lh, .ref B.lg, .int st, va_rf (fa)])) := zup_k (zne he213_v he213_n_168 (by simp)) he213_v
    have hx_219 : (zup X212 n_168 (.inr (8, [.ref s1, .int (kwf (fun k => decide (hv k = (T.vl (a + 1 + 1 + 1)))) nh 0), .int (nI (k204)), .int (nI (k212)), .int 0]))) n_168 = some (.inr (8, [.ref s1, .int (kwf (fun k => decide (hv k = (T.vl (a + 1 + 1 + 1)))) nh 0), .int (nI (k204)), .int (nI (k212)), .int 0])) := zup_s
    refine z_aload_n 0 dX2_guest_119 rfl ?_
    exact z_aret dX2_guest_120 rfl (Or.inl ⟨_, rfl⟩) (Or.inr ⟨_, rfl⟩) (Nat.le_of_ble_eq_true rfl) (Nat.le_of_ble_eq_true rfl) ⟨n_168, s1, 0, k204, k212, kwf (fun k => decide (hv k = (T.vl (a + 1 + 1 + 1)))) nh 0, rfl, (by decide), (by have e9 := (show k5 = 0 by omega); subst e9; unfold k_guest; simp only [he1, he5, he185, he196, he204, he212]), hkd1, hf11, hf21, hz0n_168, hl_170, hz1n_168, hx_219, (hst213_s1.up he213_n_168 (by decide)), (hrt213.new hz0n_168), (hWk213.up he213_n_168 (by decide) (by decide)), (hvU213.own hz1n_168 he213_n_168 (by decide) (by decide) (by decide))⟩
