/-! THE COMPONENT: kept, where there is a state. Printed by t73.py -/
set_option maxRecDepth 100000
section CR3
variable {g : zG} {M : zMth} {P : zPo} {k n : Nat} {X : zX} {pc : Nat} {lv : List (Nat × Value)} {st : List Value} {A : Nat → Nat} {K : Nat → Nat → Int32} {F : Nat → Int32} {O O' : Nat → Nat → Option Nat} {gl : Int64} {index : Nat}
theorem cz_aldU {ix : Int32} {v : Value} (j : Nat) (hA : cok g A X) (hj : ix = nI j) (hlt : j < 16) (hv : va_rf (O 9 j) = v) (hd : decode M.2.1 pc = .ok (.aaload, 1)) (kk : zZ g M P k n (cX g A K F O gl X) (pc + 1) lv (v :: st)) : zZ g M P k n (cX g A K F O gl X) pc lv (.int ix :: .ref (A 9) :: st) :=
  z_aald5 j (cX_un hA) hj hlt (by decide) hv hd kk
theorem cz_astU {ix : Int32} {s : Nat} (j : Nat) (hA : cok g A X) (hs : cst A s) (hj : ix = nI j) (hlt : j < 16) (hO : zs O 9 j (some (A (s + 9))) = O') (hd : decode M.2.1 pc = .ok (.aastore, 1)) (kk : zZ g M P k n (cX g A K F O' gl X) (pc + 1) lv st) : zZ g M P k n (cX g A K F O gl X) pc lv (.ref (A (s + 9)) :: .int ix :: .ref (A 9) :: st) := by
  subst hO
  exact z_aast5 j (cX_un hA) (cX_st hA hs) rfl rfl hj hlt (by decide) (cok_lt hA (crs_of (by unfold crP; omega))) hd (cX_upu hA j _) kk
end CR3
/-- the undone turned by one -/
def s_sh (O : Nat → Nat → Option Nat) (n : Nat) : Nat → Nat → Option Nat := fun i p => if i = 9 ∧ p < n then O 9 (p + 1) else O i p
theorem s_sh_0 {O : Nat → Nat → Option Nat} : s_sh O 0 = O := by
  funext i p
  exact if_neg (by omega)
theorem s_sh_p {O : Nat → Nat → Option Nat} {n p : Nat} (h : n ≤ p) : s_sh O n 9 p = O 9 p := if_neg (by omega)
theorem s_sh_1 {O : Nat → Nat → Option Nat} {n : Nat} {v : Option Nat} (h : O 9 (n + 1) = v) : zs (s_sh O n) 9 n v = s_sh O (n + 1) := by
  subst h
  funext i p
  show (if i = 9 ∧ p = n then O 9 (n + 1) else if i = 9 ∧ p < n then O 9 (p + 1) else O i p) = if i = 9 ∧ p < n + 1 then O 9 (p + 1) else O i p
  by_cases h1 : i = 9 ∧ p = n
  · rw [if_pos h1, if_pos (by omega), h1.2]
  · by_cases h2 : i = 9 ∧ p < n
    · rw [if_neg h1, if_pos h2, if_pos (by omega)]
    · rw [if_neg h1, if_neg h2, if_neg (by omega)]
def s_rot (O : Nat → Nat → Option Nat) : Nat → Nat → Option Nat := zs (s_sh O 15) 9 15 (O 9 0)
set_option maxHeartbeats 4000000 in
theorem c_keeps_a {g : zG} {A : Nat → Nat} {K : Nat → Nat → Int32} {F : Nat → Int32} {O : Nat → Nat → Option Nat} {gl : Int64} {X : zX} (hA : cok g A X) {u : Nat} (hu9 : K 99 10 = nI u) {k : Nat} (hu : u < 16) (hk : 2 ≤ k ∧ k < A 2) (hO9 : O 9 u = some (A (10 * k + 309))) : zN g m_X1_keeps ({ frames := 2, cells := 7, slots := 43, locals := 43 } : Room) [.ref (A 99)] (cX g A K F O gl X) (fun rv X' => rv = none ∧ X' = (cX g A (s_be (zs K 99 10 (nI (u + 1))) 300 (10 * k + 300)) F O gl X)) := by
  refine zN.of (by decide +kernel) (Nat.le_of_ble_eq_true rfl) rfl ?_
  refine z_lv (lv' := [(0, .ref (A 99))]) [0] rfl ?_
  have hA2 := hA.2.2.1
  refine z_aload_n 0 dX1_keeps_0 rfl ?_
  refine cz_get (v := .int (nI (u))) 10 hA (by decide) q337 (congrArg (fun z => some (Value.int z)) hu9) dX1_keeps_1 ?_
  refine z_bipush (v := 16) dX1_keeps_4 (by decide) ?_
  refine z_icmp_neN (a := u) (b := 16) 64 (by omega) (by omega) dX1_keeps_6 (by decide) (fun c_1 => ?_) (fun c_1 => absurd c_1 ((by omega)))
  refine z_aload_n 0 dX1_keeps_64 rfl ?_
  refine cz_get (v := .ref (A 9)) 9 hA (by decide) q336 rfl dX1_keeps_65 ?_
  refine z_aload_n 0 dX1_keeps_68 rfl ?_
  refine cz_get (v := .int (nI (u))) 10 hA (by decide) q337 (congrArg (fun z => some (Value.int z)) hu9) dX1_keeps_69 ?_
  refine cz_aldU (v := .ref (A (10 * k + 309))) u hA rfl (by omega) (by rw [hO9]; rfl) dX1_keeps_72 ?_
  refine z_ifnonnull 92 dX1_keeps_73 (by decide) ?_
  refine z_aload_n 0 dX1_keeps_92 rfl ?_
  refine cz_get (v := .ref (A 9)) 9 hA (by decide) q336 rfl dX1_keeps_93 ?_
  refine z_aload_n 0 dX1_keeps_96 rfl ?_
  refine z_dup dX1_keeps_97 rfl ?_
  refine cz_get (v := .int (nI (u))) 10 hA (by decide) q337 (congrArg (fun z => some (Value.int z)) hu9) dX1_keeps_98 ?_
  refine z_dup_x1 dX1_keeps_101 rfl rfl ?_
  refine z_iconst (v := 1) dX1_keeps_102 (by decide) ?_
  refine z_iaddN (a := u) (b := 1) dX1_keeps_103 ?_
  refine cz_put (K' := (zs K 99 10 (nI (u + 1)))) 10 hA (by decide) q337 rfl dX1_keeps_104 ?_
  refine cz_aldU (v := .ref (A (10 * k + 309))) u hA rfl (by omega) (by rw [hO9]; rfl) dX1_keeps_107 ?_
  refine z_aload_n 0 dX1_keeps_108 rfl ?_
  refine cz_get (v := .ref (A 309)) 4 hA (by decide) q331 rfl dX1_keeps_109 ?_
  refine z_callV (As := [.ref (A 309)]) (c_be_ (K := (zs K 99 10 (nI (u + 1)))) (F := F) (O := O) (gl := gl) hA (s := 10 * k + 300) (o := 300) ⟨by omega, by omega, by omega⟩ (cst_0 hA) (by omega)) q1202 q1203 q1204 q118 q1205 nm_X4_be (cX_st hA (s := 10 * k + 300) ⟨by omega, by omega, by omega⟩) rfl rfl rfl (Nat.le_of_ble_eq_true rfl) ⟨Nat.le_of_ble_eq_true rfl, Nat.le_of_ble_eq_true rfl⟩ dX1_keeps_112 rfl rfl (Nat.le_of_ble_eq_true rfl) (Nat.le_of_ble_eq_true rfl) (fun v_2 X_3 hp_4 => ?_)
  obtain ⟨rfl, rfl⟩ := hp_4
  refine z_st (st' := []) rfl ?_
  exact z_vret dX1_keeps_115 rfl (Nat.le_of_ble_eq_true rfl) (Nat.le_of_ble_eq_true rfl) ⟨rfl, rfl⟩
set_option maxHeartbeats 4000000 in
theorem c_keeps_c {g : zG} {A : Nat → Nat} {K : Nat → Nat → Int32} {F : Nat → Int32} {O : Nat → Nat → Option Nat} {gl : Int64} {X : zX} (hA : cok g A X) (hu9 : K 99 10 = nI 16) {sl : Nat → Nat} (hsl : ∀ p, p < 16 → O 9 p = some (A (10 * sl p + 309)) ∧ 2 ≤ sl p ∧ sl p < A 2) : zN g m_X1_keeps ({ frames := 2, cells := 7, slots := 43, locals := 43 } : Room) [.ref (A 99)] (cX g A K F O gl X) (fun rv X' => rv = none ∧ X' = (cX g A (s_be (zs (zs K 99 10 15) 99 10 16) 300 (10 * sl 0 + 300)) F (s_rot O) gl X)) := by
  refine zN.of (by decide +kernel) (Nat.le_of_ble_eq_true rfl) rfl ?_
  refine z_lv (lv' := [(0, .ref (A 99))]) [0] rfl ?_
  have hA2 := hA.2.2.1
  have hs0 := (hsl 0 (by omega)).2
  refine z_aload_n 0 dX1_keeps_0 rfl ?_
  refine cz_get (v := .int 16) 10 hA (by decide) q337 (congrArg (fun z => some (Value.int z)) hu9) dX1_keeps_1 ?_
  refine z_bipush (v := 16) dX1_keeps_4 (by decide) ?_
  refine z_icmp_neN (a := 16) (b := 16) 64 (by decide) (by decide) dX1_keeps_6 (by decide) (fun h_ => absurd h_ (by decide)) (fun h_ => ?_)
  refine z_aload_n 0 dX1_keeps_9 rfl ?_
  refine cz_get (v := .ref (A 9)) 9 hA (by decide) q336 rfl dX1_keeps_10 ?_
  refine z_iconst (v := 0) dX1_keeps_13 (by decide) ?_
  refine cz_aldU (v := .ref (A (10 * sl 0 + 309))) 0 hA rfl (by omega) (by rw [(hsl 0 (by omega)).1]; rfl) dX1_keeps_14 ?_
  refine z_astore_n (lv' := [(1, .ref (A (10 * sl 0 + 309))), (0, .ref (A 99))]) dX1_keeps_15 rfl (by decide) rfl ?_
  refine z_iconst (v := 0) dX1_keeps_16 (by decide) ?_
  refine z_istore_n (lv' := [(2, .int 0), (1, .ref (A (10 * sl 0 + 309))), (0, .ref (A 99))]) dX1_keeps_17 rfl (by decide) rfl ?_
  have loop_5 : ∀ (q_2 i_1 : Nat), i_1 + q_2 = 15 → 0 ≤ i_1 → zZ g m_X1_keeps (fun rv X' => rv = none ∧ X' = (cX g A (s_be (zs (zs K 99 10 15) 99 10 16) 300 (10 * sl 0 + 300)) F (s_rot O) gl X), zno, ({ frames := 2, cells := 7, slots := 43, locals := 43 } : Room)) 0 0 (cX g A K F (s_sh O i_1) gl X) 18 [(0, .ref (A 99)), (1, .ref (A (10 * sl 0 + 309))), (2, .int (nI (i_1)))] [] := by
    intro q_2
    induction q_2 with
    | zero =>
      intro i_1 hb_4 lo_6  
      obtain rfl : 15 = i_1 := by omega
      refine z_iload_n 2 dX1_keeps_18 rfl ?_
      refine z_iconst (v := 1) dX1_keeps_19 (by decide) ?_
      refine z_iaddN (a := 15) (b := 1) dX1_keeps_20 ?_
      refine z_eq (y := 16) (by decide) ?_
      refine z_bipush (v := 16) dX1_keeps_21 (by decide) ?_
      refine z_icmp_geN (a := 16) (b := 16) 46 (by decide) (by decide) dX1_keeps_23 (by decide) (fun h_ => ?_) (fun h_ => absurd h_ (by decide))
      refine z_aload_n 0 dX1_keeps_46 rfl ?_
      refine cz_get (v := .ref (A 9)) 9 hA (by decide) q336 rfl dX1_keeps_47 ?_
      refine z_bipush (v := 15) dX1_keeps_50 (by decide) ?_
      refine z_aload_n 1 dX1_keeps_52 rfl ?_
      refine cz_astU (O' := (s_rot O)) (s := 10 * sl 0 + 300) 15 hA ⟨by omega, by omega, by omega⟩ rfl (by omega) (by unfold s_rot; rw [(hsl 0 (by omega)).1]) dX1_keeps_53 ?_
      refine z_aload_n 0 dX1_keeps_54 rfl ?_
      refine z_dup dX1_keeps_55 rfl ?_
      refine cz_get (v := .int 16) 10 hA (by decide) q337 (congrArg (fun z => some (Value.int z)) hu9) dX1_keeps_56 ?_
      refine z_iconst (v := 1) dX1_keeps_59 (by decide) ?_
      refine z_isubN (a := 16) (b := 1) (by omega) dX1_keeps_60 ?_
      refine z_eq (y := 15) (by decide) ?_
      refine cz_put (K' := (zs K 99 10 15)) 10 hA (by decide) q337 rfl dX1_keeps_61 ?_
      refine z_aload_n 0 dX1_keeps_64 rfl ?_
      refine cz_get (v := .ref (A 9)) 9 hA (by decide) q336 rfl dX1_keeps_65 ?_
      refine z_aload_n 0 dX1_keeps_68 rfl ?_
      refine cz_get (v := .int 15) 10 hA (by decide) q337 rfl dX1_keeps_69 ?_
      refine cz_aldU (v := .ref (A (10 * sl 0 + 309))) 15 hA rfl (by omega) (by show va_rf (O 9 0) = _; rw [(hsl 0 (by omega)).1]; rfl) dX1_keeps_72 ?_
      refine z_ifnonnull 92 dX1_keeps_73 (by decide) ?_
      refine z_aload_n 0 dX1_keeps_92 rfl ?_
      refine cz_get (v := .ref (A 9)) 9 hA (by decide) q336 rfl dX1_keeps_93 ?_
      refine z_aload_n 0 dX1_keeps_96 rfl ?_
      refine z_dup dX1_keeps_97 rfl ?_
      refine cz_get (v := .int 15) 10 hA (by decide) q337 rfl dX1_keeps_98 ?_
      refine z_dup_x1 dX1_keeps_101 rfl rfl ?_
      refine z_iconst (v := 1) dX1_keeps_102 (by decide) ?_
      refine z_iaddN (a := 15) (b := 1) dX1_keeps_103 ?_
      refine z_eq (y := 16) (by decide) ?_
      refine cz_put (K' := (zs (zs K 99 10 15) 99 10 16)) 10 hA (by decide) q337 rfl dX1_keeps_104 ?_
      refine cz_aldU (v := .ref (A (10 * sl 0 + 309))) 15 hA rfl (by omega) (by show va_rf (O 9 0) = _; rw [(hsl 0 (by omega)).1]; rfl) dX1_keeps_107 ?_
      refine z_aload_n 0 dX1_keeps_108 rfl ?_
      refine cz_get (v := .ref (A 309)) 4 hA (by decide) q331 rfl dX1_keeps_109 ?_
      refine z_callV (As := [.ref (A 309)]) (c_be_ (K := (zs (zs K 99 10 15) 99 10 16)) (F := F) (O := (s_rot O)) (gl := gl) hA (s := 10 * sl 0 + 300) (o := 300) ⟨by omega, by omega, by omega⟩ (cst_0 hA) (by omega)) q1202 q1203 q1204 q118 q1205 nm_X4_be (cX_st hA (s := 10 * sl 0 + 300) ⟨by omega, by omega, by omega⟩) rfl rfl rfl (Nat.le_of_ble_eq_true rfl) ⟨Nat.le_of_ble_eq_true rfl, Nat.le_of_ble_eq_true rfl⟩ dX1_keeps_112 rfl rfl (Nat.le_of_ble_eq_true rfl) (Nat.le_of_ble_eq_true rfl) (fun v_7 X_8 hp_9 => ?_)
      obtain ⟨rfl, rfl⟩ := hp_9
      refine z_st (st' := []) rfl ?_
      exact z_vret dX1_keeps_115 rfl (Nat.le_of_ble_eq_true rfl) (Nat.le_of_ble_eq_true rfl) ⟨rfl, rfl⟩
    | succ q_2 ih_3 =>
      intro i_1 hb_4 lo_6  
      refine z_iload_n 2 dX1_keeps_18 rfl ?_
      refine z_iconst (v := 1) dX1_keeps_19 (by decide) ?_
      refine z_iaddN (a := i_1) (b := 1) dX1_keeps_20 ?_
      refine z_bipush (v := 16) dX1_keeps_21 (by decide) ?_
      refine z_icmp_geN (a := i_1 + 1) (b := 16) 46 (by omega) (by omega) dX1_keeps_23 (by decide) (fun c_10 => absurd c_10 (by omega)) (fun c_10 => ?_)
      have hs1 := (hsl (i_1 + 1) (by omega)).2
      refine z_aload_n 0 dX1_keeps_26 rfl ?_
      refine cz_get (v := .ref (A 9)) 9 hA (by decide) q336 rfl dX1_keeps_27 ?_
      refine z_iload_n 2 dX1_keeps_30 rfl ?_
      refine z_aload_n 0 dX1_keeps_31 rfl ?_
      refine cz_get (v := .ref (A 9)) 9 hA (by decide) q336 rfl dX1_keeps_32 ?_
      refine z_iload_n 2 dX1_keeps_35 rfl ?_
      refine z_iconst (v := 1) dX1_keeps_36 (by decide) ?_
      refine z_iaddN (a := i_1) (b := 1) dX1_keeps_37 ?_
      refine cz_aldU (v := .ref (A (10 * sl (i_1 + 1) + 309))) (i_1 + 1) hA rfl (by omega) (by rw [s_sh_p (by omega), (hsl (i_1 + 1) (by omega)).1]; rfl) dX1_keeps_38 ?_
      refine cz_astU (O' := (s_sh O (i_1 + 1))) (s := 10 * sl (i_1 + 1) + 300) i_1 hA ⟨by omega, by omega, by omega⟩ rfl (by omega) (s_sh_1 (hsl (i_1 + 1) (by omega)).1) dX1_keeps_39 ?_
      refine z_iinc (v := nI (i_1 + 1)) (lv' := [(2, .int (nI (i_1 + 1))), (0, .ref (A 99)), (1, .ref (A (10 * sl 0 + 309)))]) 2 dX1_keeps_40 rfl (nI_1 _) (by decide) rfl ?_
      refine z_goto 18 dX1_keeps_43 (by decide) ?_
      refine z_lv (lv' := [(0, .ref (A 99)), (1, .ref (A (10 * sl 0 + 309))), (2, .int (nI (i_1 + 1)))]) [1, 2, 0] rfl ?_
      exact ih_3 (i_1 + 1) (by omega) (by omega)  
  refine z_lv (lv' := [(0, .ref (A 99)), (1, .ref (A (10 * sl 0 + 309))), (2, .int 0)]) [2, 1, 0] rfl ?_
  refine z_X (X' := (cX g A K F (s_sh O 0) gl X)) (by rw [s_sh_0]) ?_
  exact loop_5 (15 - 0) 0 (by omega) (Nat.le_refl _)  
