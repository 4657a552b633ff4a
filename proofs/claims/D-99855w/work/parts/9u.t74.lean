/-! THE COMPONENT: kept in a new state. Printed by t74.py -/
set_option maxRecDepth 100000
def n6 (a0 a1 a2 a3 a4 a5 : Nat) : Nat → Nat
  | 0 => a0
  | 1 => a1
  | 2 => a2
  | 3 => a3
  | 4 => a4
  | _ => a5
theorem zfr_under {g : zG} {Y : zX} {s : Nat} {e : va_E} : ∀ {l : List Nat}, zfr g (zup Y s e) l → zfr g Y l ∧ ∀ b ∈ l, ¬ s = b
  | [], _ => ⟨trivial, fun b hb => absurd hb List.not_mem_nil⟩
  | a :: l, h => by
    obtain ⟨h1, h2, h3, h4⟩ := h
    obtain ⟨e1, e2⟩ := zup_none.mp h1
    obtain ⟨i1, i2⟩ := zfr_under h4
    refine ⟨⟨e2, h2, h3, i1⟩, fun b hb => ?_⟩
    rcases List.mem_cons.mp hb with rfl | hb
    · exact fun z => e1 z.symm
    · exact i2 b hb
theorem zup_first {Y : zX} {s a0 a1 a2 a3 a4 a5 : Nat} {d o e0 e1 e2 e3 e4 e5 : va_E} : zup (zup (zup (zup (zup (zup (zup (zup Y s d) a0 e0) a1 e1) a2 e2) a3 e3) a4 e4) a5 e5) s o = zup (zup (zup (zup (zup (zup (zup Y a0 e0) a1 e1) a2 e2) a3 e3) a4 e4) a5 e5) s o := by
  funext q
  unfold zup
  by_cases h : q = s
  · rw [if_pos h, if_pos h]
  · simp only [h, if_false]
set_option maxHeartbeats 4000000 in
theorem c_keeps_tail {g : zG} {A : Nat → Nat} {K : Nat → Nat → Int32} {F : Nat → Int32} {O : Nat → Nat → Option Nat} {gl : Int64} {X : zX} (hA : cok g A X) {u : Nat} (hu9 : K 99 10 = nI u) {k : Nat} (hu : u < 16) (hk : 2 ≤ k ∧ k < A 2) {pv : Option Value → zX → Prop} (hpv : pv none (cX g A (s_be (zs K 99 10 (nI (u + 1))) 300 (10 * k + 300)) F (zs O 9 u (some (A (10 * k + 309)))) gl X)) : zZ g m_X1_keeps (pv, zno, ({ frames := 2, cells := 7, slots := 43, locals := 43 } : Room)) 7 43 (cX g A K F O gl X) 91 [(0, .ref (A 99))] [.ref (A (10 * k + 309)), .int (nI u), .ref (A 9)] := by
  have hA2 := hA.2.2.1
  refine cz_astU (O' := (zs O 9 u (some (A (10 * k + 309))))) (s := 10 * k + 300) u hA ⟨by omega, by omega, by omega⟩ rfl (by omega) rfl dX1_keeps_91 ?_
  refine z_aload_n 0 dX1_keeps_92 rfl ?_
  refine cz_get (v := .ref (A 9)) 9 hA (by decide) q336 rfl dX1_keeps_93 ?_
  refine z_aload_n 0 dX1_keeps_96 rfl ?_
  refine z_dup dX1_keeps_97 rfl ?_
  refine cz_get (v := .int (nI (u))) 10 hA (by decide) q337 (congrArg (fun z => some (Value.int z)) hu9) dX1_keeps_98 ?_
  refine z_dup_x1 dX1_keeps_101 rfl rfl ?_
  refine z_iconst (v := 1) dX1_keeps_102 (by decide) ?_
  refine z_iaddN (a := u) (b := 1) dX1_keeps_103 ?_
  refine cz_put (K' := (zs K 99 10 (nI (u + 1)))) 10 hA (by decide) q337 rfl dX1_keeps_104 ?_
  refine cz_aldU (v := .ref (A (10 * k + 309))) u hA rfl (by omega) (by show va_rf (if 9 = 9 ∧ u = u then _ else _) = _; rw [if_pos ⟨rfl, rfl⟩]; rfl) dX1_keeps_107 ?_
  refine z_aload_n 0 dX1_keeps_108 rfl ?_
  refine cz_get (v := .ref (A 309)) 4 hA (by decide) q331 rfl dX1_keeps_109 ?_
  refine z_callV (As := [.ref (A 309)]) (c_be_ (K := (zs K 99 10 (nI (u + 1)))) (F := F) (O := (zs O 9 u (some (A (10 * k + 309))))) (gl := gl) hA (s := 10 * k + 300) (o := 300) ⟨by omega, by omega, by omega⟩ (cst_0 hA) (by omega)) q1202 q1203 q1204 q118 q1205 nm_X4_be (cX_st hA (s := 10 * k + 300) ⟨by omega, by omega, by omega⟩) rfl rfl rfl (Nat.le_of_ble_eq_true rfl) ⟨Nat.le_of_ble_eq_true rfl, Nat.le_of_ble_eq_true rfl⟩ dX1_keeps_112 rfl rfl (Nat.le_of_ble_eq_true rfl) (Nat.le_of_ble_eq_true rfl) (fun v_1 X_2 hp_3 => ?_)
  obtain ⟨rfl, rfl⟩ := hp_3
  refine z_st (st' := []) rfl ?_
  exact z_vret dX1_keeps_115 rfl (Nat.le_of_ble_eq_true rfl) (Nat.le_of_ble_eq_true rfl) hpv
set_option maxHeartbeats 4000000 in
theorem c_keeps_b {g : zG} {A : Nat → Nat} {K : Nat → Nat → Int32} {F : Nat → Int32} {O : Nat → Nat → Option Nat} {gl : Int64} {X : zX} (hA : cok g A X) {u : Nat} (hu9 : K 99 10 = nI u) (hu : u < 16) (h9 : A 2 < 9000) (hO9 : O 9 u = none) : zN g m_X1_keeps ({ frames := 2, cells := 7, slots := 43, locals := 43 } : Room) [.ref (A 99)] (cX g A K F O gl X) (fun rv X' => rv = none ∧ ∃ (n : Nat → Nat) (s : Nat), cok g (A_gr A n s) X ∧ X' = cX g (A_gr A n s) (s_be (zs (cput K (300 + 10 * A 2) (fun _ => 0) (fun _ => 0) 0 0) 99 10 (nI (u + 1))) 300 (10 * A 2 + 300)) F (zs O 9 u (some (A_gr A n s (10 * A 2 + 309)))) gl X) := by
  refine zN.of (by decide +kernel) (Nat.le_of_ble_eq_true rfl) rfl ?_
  refine z_lv (lv' := [(0, .ref (A 99))]) [0] rfl ?_
  have hA2 := hA.2.2.1
  refine z_aload_n 0 dX1_keeps_0 rfl ?_
  refine cz_get (v := .int (nI (u))) 10 hA (by decide) q337 (congrArg (fun z => some (Value.int z)) hu9) dX1_keeps_1 ?_
  refine z_bipush (v := 16) dX1_keeps_4 (by decide) ?_
  refine z_icmp_neN (a := u) (b := 16) 64 (by omega) (by omega) dX1_keeps_6 (by decide) (fun c_1 => ?_) (fun c_1 => absurd c_1 ((by omega)))
  refine z_aload_n 0 dX1_keeps_64 rfl ?_
  refine cz_get (v := .ref (A 9)) 9 hA (by decide) q336 rfl dX1_keeps_65 ?_
  refine z_aload_n 0 dX1_keeps_68 rfl ?_
  refine cz_get (v := .int (nI (u))) 10 hA (by decide) q337 (congrArg (fun z => some (Value.int z)) hu9) dX1_keeps_69 ?_
  refine cz_aldU (v := .null) u hA rfl (by omega) (by rw [hO9]; rfl) dX1_keeps_72 ?_
  refine z_ifnonnullN dX1_keeps_73 ?_
  refine z_aload_n 0 dX1_keeps_76 rfl ?_
  refine cz_get (v := .ref (A 9)) 9 hA (by decide) q336 rfl dX1_keeps_77 ?_
  refine z_aload_n 0 dX1_keeps_80 rfl ?_
  refine cz_get (v := .int (nI (u))) 10 hA (by decide) q337 (congrArg (fun z => some (Value.int z)) hu9) dX1_keeps_81 ?_
  refine z_new (ci := 4) (fs := [.null, .null, .null, .null, .null, .null, .int 0, .int 0, .int 0]) rfl in_X4 tyX4 tyX4_ok q251 q252 q118 zd_X4 dX1_keeps_84 rfl rfl (Nat.le_of_ble_eq_true rfl) (Nat.le_of_ble_eq_true rfl) (fun s hsn hsl => ?_)
  refine z_dup dX1_keeps_87 rfl ?_
  refine z_callIN (As := []) (j_state (X := zup (cX g A K F O gl X) s (.inr (4, [.null, .null, .null, .null, .null, .null, .int 0, .int 0, .int 0]))) zup_s hsl) q253 q254 q118 q255 rfl rfl nm_X4_init rfl (Nat.le_of_ble_eq_true rfl) ⟨Nat.le_of_ble_eq_true rfl, Nat.le_of_ble_eq_true rfl⟩ dX1_keeps_88 rfl rfl (Nat.le_of_ble_eq_true rfl) (Nat.le_of_ble_eq_true rfl) (fun v_2 X_3 hp_4 => ?_)
  obtain ⟨rfl, a0, a1, a2, a3, a4, a5, rfl, hfr⟩ := hp_4
  refine z_st (st' := [.ref s, .int (nI (u)), .ref (A 9)]) rfl ?_
  obtain ⟨hfr1, hfr2⟩ := zfr_under hfr
  obtain ⟨hA9, hW⟩ := cX_grow (n := n6 a0 a1 a2 a3 a4 a5) (s := s) hA h9 ⟨hsn, hsl, hfr2, hfr1⟩
  refine z_X (X' := cX g (A_gr A (n6 a0 a1 a2 a3 a4 a5) s) (cput K (300 + 10 * A 2) (fun _ => 0) (fun _ => 0) 0 0) F O gl X) (zup_first.trans hW) ?_
  have e99 : A_gr A (n6 a0 a1 a2 a3 a4 a5) s 99 = A 99 := A_gr_o (by decide) (by omega)
  have e9 : A_gr A (n6 a0 a1 a2 a3 a4 a5) s 9 = A 9 := A_gr_o (by decide) (by omega)
  have es : A_gr A (n6 a0 a1 a2 a3 a4 a5) s (10 * A 2 + 309) = s := by rw [show 10 * A 2 + 309 = 300 + 10 * A 2 + 9 by omega]; exact A_gr_s
  rw [← e99, ← e9]
  refine z_st (st' := [.ref (A_gr A (n6 a0 a1 a2 a3 a4 a5) s (10 * A 2 + 309)), .int (nI u), .ref (A_gr A (n6 a0 a1 a2 a3 a4 a5) s 9)]) (by rw [es]) ?_
  exact c_keeps_tail hA9 (u := u) ((congrFun (cput_a (by omega)) 10).trans hu9) (k := A 2) hu ⟨by omega, by rw [A_gr_2]; omega⟩ ⟨rfl, n6 a0 a1 a2 a3 a4 a5, s, hA9, rfl⟩
