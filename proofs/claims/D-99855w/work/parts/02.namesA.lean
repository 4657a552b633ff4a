/-! DECODE ROWS BY BYTES: one lemma an opcode; a method's code is cut into short pieces once, and a row reads its own piece alone. -/
set_option maxRecDepth 100000
/-- the code has just these bytes from pc on -/
def DkAt (code : ByteArray) (pc : Nat) (bs : List UInt8) : Prop := ∀ (j : Nat) (b : UInt8), bs[j]? = some b → code.data.toList[pc + j]? = some b
/-- the piece W has the bytes bs from its place j on -/
def dkIn (W : List UInt8) (j : Nat) (bs : List UInt8) : Bool := decide ((W.drop j).take bs.length = bs)
theorem dk_seg {l W T : List UInt8} {o o2 : Nat} (h : l.drop o = W ++ T) (n : Nat) (hn : W.length = n) (ho : o + n = o2) : l.drop o2 = T := by
  subst ho
  rw [← List.drop_drop, h, List.drop_left' hn]
theorem dk_at {code : ByteArray} {W T bs : List UInt8} {o pc : Nat} (h : code.data.toList.drop o = W ++ T) (j : Nat) (hp : o + j = pc) (hw : dkIn W j bs = true) : DkAt code pc bs := by
  subst hp
  intro i b e
  have h1 := of_decide_eq_true hw
  have h2 : i < bs.length := (List.getElem?_eq_some_iff.mp e).1
  have h3 : W[j + i]? = some b := by
    rw [← h1, List.getElem?_take, if_pos h2, List.getElem?_drop] at e
    exact e
  have h4 : j + i < W.length := (List.getElem?_eq_some_iff.mp h3).1
  have h5 : (code.data.toList.drop o)[j + i]? = some b := by
    rw [h, List.getElem?_append_left h4]
    exact h3
  rw [List.getElem?_drop, ← Nat.add_assoc] at h5
  exact h5
theorem dk_u1 {A : ByteArray} {p : Nat} {b : UInt8} (h : A.data.toList[p]? = some b) : (Reader.u1 : Reader DecodeError Nat) A p = .ok (b.toNat, p + 1) := by
  obtain ⟨h1, h2⟩ := List.getElem?_eq_some_iff.mp h
  have h3 : p < A.size := by simpa using h1
  have h4 : A[p]'h3 = b := h2
  have e : (Reader.u1 : Reader DecodeError Nat) A p = (if h : p < A.size then .ok (A[p].toNat, p + 1) else .error (HasTruncated.truncated p)) := by
    show (do if h : p < A.size then do set (p + 1); Pure.pure A[p].toNat else MonadExcept.throw (HasTruncated.truncated p) : Reader DecodeError Nat) A p = _
    by_cases hi : p < A.size
    · rw [dif_pos hi, dif_pos hi]; rfl
    · rw [dif_neg hi, dif_neg hi]; rfl
  rw [e, dif_pos h3, h4]
theorem dk_bind {α β : Type} {r : Reader DecodeError α} {f : α → Reader DecodeError β} {A : ByteArray} {p s : Nat} {a : α} (h : r A p = .ok (a, s)) : (r >>= f) A p = f a A s := by
  show (do let (a, s) ← r A p; f a A s : Except DecodeError (β × Nat)) = _
  rw [h]
  rfl
theorem dk_map {α β : Type} {r : Reader DecodeError α} {g : α → β} {A : ByteArray} {p s : Nat} {a : α} (h : r A p = .ok (a, s)) : (g <$> r) A p = .ok (g a, s) := by
  show (do let (a, s) ← r A p; .ok (g a, s) : Except DecodeError (β × Nat)) = _
  rw [h]
  rfl
theorem dk_u2 {A : ByteArray} {p : Nat} {a b : UInt8} (h : A.data.toList[p]? = some a) (h2 : A.data.toList[p + 1]? = some b) : (Reader.u2 : Reader DecodeError Nat) A p = .ok (a.toNat * 256 + b.toNat, p + 2) := by
  show (Reader.u1 >>= fun hi => Reader.u1 >>= fun lo => Pure.pure (hi * 256 + lo) : Reader DecodeError Nat) A p = _
  rw [dk_bind (dk_u1 h), dk_bind (dk_u1 h2)]
  rfl
theorem dk_of {code : ByteArray} {pc n : Nat} {i : Instr} (h : Decoder.instr pc code pc = .ok (i, pc + n)) : decode code pc = .ok (i, n) := by
  have e : decode code pc = (match Decoder.instr pc code pc with | .error x => .error x | .ok (j, s) => .ok (j, s - pc)) := by
    show (do let (j, s) ← Decoder.instr pc code pc; Pure.pure (j, s - pc) : Except DecodeError (Instr × Nat)) = _
    cases Decoder.instr pc code pc <;> rfl
  rw [e, h]
  show Except.ok (i, pc + n - pc) = _
  rw [Nat.add_sub_cancel_left]
theorem dk_1 {code : ByteArray} {pc : Nat} (h : DkAt code pc [1]) : decode code pc = .ok (.aconst_null, 1) := dk_of ((dk_bind (dk_u1 (h 0 _ rfl))).trans rfl)
theorem dk_2 {code : ByteArray} {pc : Nat} (h : DkAt code pc [2]) : decode code pc = .ok (.iconst (-1), 1) := dk_of ((dk_bind (dk_u1 (h 0 _ rfl))).trans rfl)
theorem dk_3 {code : ByteArray} {pc : Nat} (h : DkAt code pc [3]) : decode code pc = .ok (.iconst 0, 1) := dk_of ((dk_bind (dk_u1 (h 0 _ rfl))).trans rfl)
theorem dk_4 {code : ByteArray} {pc : Nat} (h : DkAt code pc [4]) : decode code pc = .ok (.iconst 1, 1) := dk_of ((dk_bind (dk_u1 (h 0 _ rfl))).trans rfl)
theorem dk_5 {code : ByteArray} {pc : Nat} (h : DkAt code pc [5]) : decode code pc = .ok (.iconst 2, 1) := dk_of ((dk_bind (dk_u1 (h 0 _ rfl))).trans rfl)
theorem dk_6 {code : ByteArray} {pc : Nat} (h : DkAt code pc [6]) : decode code pc = .ok (.iconst 3, 1) := dk_of ((dk_bind (dk_u1 (h 0 _ rfl))).trans rfl)
theorem dk_7 {code : ByteArray} {pc : Nat} (h : DkAt code pc [7]) : decode code pc = .ok (.iconst 4, 1) := dk_of ((dk_bind (dk_u1 (h 0 _ rfl))).trans rfl)
theorem dk_8 {code : ByteArray} {pc : Nat} (h : DkAt code pc [8]) : decode code pc = .ok (.iconst 5, 1) := dk_of ((dk_bind (dk_u1 (h 0 _ rfl))).trans rfl)
theorem dk_9 {code : ByteArray} {pc : Nat} (h : DkAt code pc [9]) : decode code pc = .ok (.lconst 0, 1) := dk_of ((dk_bind (dk_u1 (h 0 _ rfl))).trans rfl)
theorem dk_10 {code : ByteArray} {pc : Nat} (h : DkAt code pc [10]) : decode code pc = .ok (.lconst 1, 1) := dk_of ((dk_bind (dk_u1 (h 0 _ rfl))).trans rfl)
theorem dk_16 {code : ByteArray} {pc : Nat} (a : UInt8) (h : DkAt code pc [16, a]) : decode code pc = .ok (.bipush (Reader.signed 8 a.toNat), 2) := dk_of ((dk_bind (dk_u1 (h 0 _ rfl))).trans ((dk_bind (dk_map (dk_u1 (h 1 _ rfl)))).trans rfl))
theorem dk_17 {code : ByteArray} {pc : Nat} (a b : UInt8) (h : DkAt code pc [17, a, b]) : decode code pc = .ok (.sipush (Reader.signed 16 (a.toNat * 256 + b.toNat)), 3) := dk_of ((dk_bind (dk_u1 (h 0 _ rfl))).trans ((dk_bind (dk_map (dk_u2 (h 1 _ rfl) (h 2 _ rfl)))).trans rfl))
theorem dk_18 {code : ByteArray} {pc : Nat} (a : UInt8) (h : DkAt code pc [18, a]) : decode code pc = .ok (.ldc a.toNat, 2) := dk_of ((dk_bind (dk_u1 (h 0 _ rfl))).trans ((dk_bind (dk_u1 (h 1 _ rfl))).trans rfl))
theorem dk_19 {code : ByteArray} {pc : Nat} (a b : UInt8) (h : DkAt code pc [19, a, b]) : decode code pc = .ok (.ldc_w (a.toNat * 256 + b.toNat), 3) := dk_of ((dk_bind (dk_u1 (h 0 _ rfl))).trans ((dk_bind (dk_u2 (h 1 _ rfl) (h 2 _ rfl))).trans rfl))
theorem dk_20 {code : ByteArray} {pc : Nat} (a b : UInt8) (h : DkAt code pc [20, a, b]) : decode code pc = .ok (.ldc2_w (a.toNat * 256 + b.toNat), 3) := dk_of ((dk_bind (dk_u1 (h 0 _ rfl))).trans ((dk_bind (dk_u2 (h 1 _ rfl) (h 2 _ rfl))).trans rfl))
theorem dk_21 {code : ByteArray} {pc : Nat} (a : UInt8) (h : DkAt code pc [21, a]) : decode code pc = .ok (.iload a.toNat, 2) := dk_of ((dk_bind (dk_u1 (h 0 _ rfl))).trans ((dk_bind (dk_u1 (h 1 _ rfl))).trans rfl))
theorem dk_22 {code : ByteArray} {pc : Nat} (a : UInt8) (h : DkAt code pc [22, a]) : decode code pc = .ok (.lload a.toNat, 2) := dk_of ((dk_bind (dk_u1 (h 0 _ rfl))).trans ((dk_bind (dk_u1 (h 1 _ rfl))).trans rfl))
theorem dk_25 {code : ByteArray} {pc : Nat} (a : UInt8) (h : DkAt code pc [25, a]) : decode code pc = .ok (.aload a.toNat, 2) := dk_of ((dk_bind (dk_u1 (h 0 _ rfl))).trans ((dk_bind (dk_u1 (h 1 _ rfl))).trans rfl))
theorem dk_26 {code : ByteArray} {pc : Nat} (h : DkAt code pc [26]) : decode code pc = .ok (.iload_n 0, 1) := dk_of ((dk_bind (dk_u1 (h 0 _ rfl))).trans rfl)
theorem dk_27 {code : ByteArray} {pc : Nat} (h : DkAt code pc [27]) : decode code pc = .ok (.iload_n 1, 1) := dk_of ((dk_bind (dk_u1 (h 0 _ rfl))).trans rfl)
theorem dk_28 {code : ByteArray} {pc : Nat} (h : DkAt code pc [28]) : decode code pc = .ok (.iload_n 2, 1) := dk_of ((dk_bind (dk_u1 (h 0 _ rfl))).trans rfl)
theorem dk_29 {code : ByteArray} {pc : Nat} (h : DkAt code pc [29]) : decode code pc = .ok (.iload_n 3, 1) := dk_of ((dk_bind (dk_u1 (h 0 _ rfl))).trans rfl)
theorem dk_31 {code : ByteArray} {pc : Nat} (h : DkAt code pc [31]) : decode code pc = .ok (.lload_n 1, 1) := dk_of ((dk_bind (dk_u1 (h 0 _ rfl))).trans rfl)
theorem dk_33 {code : ByteArray} {pc : Nat} (h : DkAt code pc [33]) : decode code pc = .ok (.lload_n 3, 1) := dk_of ((dk_bind (dk_u1 (h 0 _ rfl))).trans rfl)
theorem dk_42 {code : ByteArray} {pc : Nat} (h : DkAt code pc [42]) : decode code pc = .ok (.aload_n 0, 1) := dk_of ((dk_bind (dk_u1 (h 0 _ rfl))).trans rfl)
theorem dk_43 {code : ByteArray} {pc : Nat} (h : DkAt code pc [43]) : decode code pc = .ok (.aload_n 1, 1) := dk_of ((dk_bind (dk_u1 (h 0 _ rfl))).trans rfl)
theorem dk_44 {code : ByteArray} {pc : Nat} (h : DkAt code pc [44]) : decode code pc = .ok (.aload_n 2, 1) := dk_of ((dk_bind (dk_u1 (h 0 _ rfl))).trans rfl)
theorem dk_45 {code : ByteArray} {pc : Nat} (h : DkAt code pc [45]) : decode code pc = .ok (.aload_n 3, 1) := dk_of ((dk_bind (dk_u1 (h 0 _ rfl))).trans rfl)
theorem dk_46 {code : ByteArray} {pc : Nat} (h : DkAt code pc [46]) : decode code pc = .ok (.iaload, 1) := dk_of ((dk_bind (dk_u1 (h 0 _ rfl))).trans rfl)
theorem dk_47 {code : ByteArray} {pc : Nat} (h : DkAt code pc [47]) : decode code pc = .ok (.laload, 1) := dk_of ((dk_bind (dk_u1 (h 0 _ rfl))).trans rfl)
theorem dk_50 {code : ByteArray} {pc : Nat} (h : DkAt code pc [50]) : decode code pc = .ok (.aaload, 1) := dk_of ((dk_bind (dk_u1 (h 0 _ rfl))).trans rfl)
theorem dk_51 {code : ByteArray} {pc : Nat} (h : DkAt code pc [51]) : decode code pc = .ok (.baload, 1) := dk_of ((dk_bind (dk_u1 (h 0 _ rfl))).trans rfl)
theorem dk_54 {code : ByteArray} {pc : Nat} (a : UInt8) (h : DkAt code pc [54, a]) : decode code pc = .ok (.istore a.toNat, 2) := dk_of ((dk_bind (dk_u1 (h 0 _ rfl))).trans ((dk_bind (dk_u1 (h 1 _ rfl))).trans rfl))
theorem dk_55 {code : ByteArray} {pc : Nat} (a : UInt8) (h : DkAt code pc [55, a]) : decode code pc = .ok (.lstore a.toNat, 2) := dk_of ((dk_bind (dk_u1 (h 0 _ rfl))).trans ((dk_bind (dk_u1 (h 1 _ rfl))).trans rfl))
theorem dk_58 {code : ByteArray} {pc : Nat} (a : UInt8) (h : DkAt code pc [58, a]) : decode code pc = .ok (.astore a.toNat, 2) := dk_of ((dk_bind (dk_u1 (h 0 _ rfl))).trans ((dk_bind (dk_u1 (h 1 _ rfl))).trans rfl))
theorem dk_59 {code : ByteArray} {pc : Nat} (h : DkAt code pc [59]) : decode code pc = .ok (.istore_n 0, 1) := dk_of ((dk_bind (dk_u1 (h 0 _ rfl))).trans rfl)
theorem dk_60 {code : ByteArray} {pc : Nat} (h : DkAt code pc [60]) : decode code pc = .ok (.istore_n 1, 1) := dk_of ((dk_bind (dk_u1 (h 0 _ rfl))).trans rfl)
theorem dk_61 {code : ByteArray} {pc : Nat} (h : DkAt code pc [61]) : decode code pc = .ok (.istore_n 2, 1) := dk_of ((dk_bind (dk_u1 (h 0 _ rfl))).trans rfl)
theorem dk_62 {code : ByteArray} {pc : Nat} (h : DkAt code pc [62]) : decode code pc = .ok (.istore_n 3, 1) := dk_of ((dk_bind (dk_u1 (h 0 _ rfl))).trans rfl)
theorem dk_76 {code : ByteArray} {pc : Nat} (h : DkAt code pc [76]) : decode code pc = .ok (.astore_n 1, 1) := dk_of ((dk_bind (dk_u1 (h 0 _ rfl))).trans rfl)
theorem dk_77 {code : ByteArray} {pc : Nat} (h : DkAt code pc [77]) : decode code pc = .ok (.astore_n 2, 1) := dk_of ((dk_bind (dk_u1 (h 0 _ rfl))).trans rfl)
theorem dk_78 {code : ByteArray} {pc : Nat} (h : DkAt code pc [78]) : decode code pc = .ok (.astore_n 3, 1) := dk_of ((dk_bind (dk_u1 (h 0 _ rfl))).trans rfl)
theorem dk_79 {code : ByteArray} {pc : Nat} (h : DkAt code pc [79]) : decode code pc = .ok (.iastore, 1) := dk_of ((dk_bind (dk_u1 (h 0 _ rfl))).trans rfl)
theorem dk_80 {code : ByteArray} {pc : Nat} (h : DkAt code pc [80]) : decode code pc = .ok (.lastore, 1) := dk_of ((dk_bind (dk_u1 (h 0 _ rfl))).trans rfl)
theorem dk_83 {code : ByteArray} {pc : Nat} (h : DkAt code pc [83]) : decode code pc = .ok (.aastore, 1) := dk_of ((dk_bind (dk_u1 (h 0 _ rfl))).trans rfl)
theorem dk_84 {code : ByteArray} {pc : Nat} (h : DkAt code pc [84]) : decode code pc = .ok (.bastore, 1) := dk_of ((dk_bind (dk_u1 (h 0 _ rfl))).trans rfl)
theorem dk_87 {code : ByteArray} {pc : Nat} (h : DkAt code pc [87]) : decode code pc = .ok (.pop, 1) := dk_of ((dk_bind (dk_u1 (h 0 _ rfl))).trans rfl)
theorem dk_89 {code : ByteArray} {pc : Nat} (h : DkAt code pc [89]) : decode code pc = .ok (.dup, 1) := dk_of ((dk_bind (dk_u1 (h 0 _ rfl))).trans rfl)
theorem dk_90 {code : ByteArray} {pc : Nat} (h : DkAt code pc [90]) : decode code pc = .ok (.dup_x1, 1) := dk_of ((dk_bind (dk_u1 (h 0 _ rfl))).trans rfl)
theorem dk_91 {code : ByteArray} {pc : Nat} (h : DkAt code pc [91]) : decode code pc = .ok (.dup_x2, 1) := dk_of ((dk_bind (dk_u1 (h 0 _ rfl))).trans rfl)
theorem dk_92 {code : ByteArray} {pc : Nat} (h : DkAt code pc [92]) : decode code pc = .ok (.dup2, 1) := dk_of ((dk_bind (dk_u1 (h 0 _ rfl))).trans rfl)
theorem dk_96 {code : ByteArray} {pc : Nat} (h : DkAt code pc [96]) : decode code pc = .ok (.iadd, 1) := dk_of ((dk_bind (dk_u1 (h 0 _ rfl))).trans rfl)
theorem dk_97 {code : ByteArray} {pc : Nat} (h : DkAt code pc [97]) : decode code pc = .ok (.ladd, 1) := dk_of ((dk_bind (dk_u1 (h 0 _ rfl))).trans rfl)
theorem dk_100 {code : ByteArray} {pc : Nat} (h : DkAt code pc [100]) : decode code pc = .ok (.isub, 1) := dk_of ((dk_bind (dk_u1 (h 0 _ rfl))).trans rfl)
theorem dk_101 {code : ByteArray} {pc : Nat} (h : DkAt code pc [101]) : decode code pc = .ok (.lsub, 1) := dk_of ((dk_bind (dk_u1 (h 0 _ rfl))).trans rfl)
theorem dk_104 {code : ByteArray} {pc : Nat} (h : DkAt code pc [104]) : decode code pc = .ok (.imul, 1) := dk_of ((dk_bind (dk_u1 (h 0 _ rfl))).trans rfl)
theorem dk_105 {code : ByteArray} {pc : Nat} (h : DkAt code pc [105]) : decode code pc = .ok (.lmul, 1) := dk_of ((dk_bind (dk_u1 (h 0 _ rfl))).trans rfl)
theorem dk_108 {code : ByteArray} {pc : Nat} (h : DkAt code pc [108]) : decode code pc = .ok (.idiv, 1) := dk_of ((dk_bind (dk_u1 (h 0 _ rfl))).trans rfl)
theorem dk_109 {code : ByteArray} {pc : Nat} (h : DkAt code pc [109]) : decode code pc = .ok (.ldiv, 1) := dk_of ((dk_bind (dk_u1 (h 0 _ rfl))).trans rfl)
theorem dk_112 {code : ByteArray} {pc : Nat} (h : DkAt code pc [112]) : decode code pc = .ok (.irem, 1) := dk_of ((dk_bind (dk_u1 (h 0 _ rfl))).trans rfl)
theorem dk_113 {code : ByteArray} {pc : Nat} (h : DkAt code pc [113]) : decode code pc = .ok (.lrem, 1) := dk_of ((dk_bind (dk_u1 (h 0 _ rfl))).trans rfl)
theorem dk_116 {code : ByteArray} {pc : Nat} (h : DkAt code pc [116]) : decode code pc = .ok (.ineg, 1) := dk_of ((dk_bind (dk_u1 (h 0 _ rfl))).trans rfl)
theorem dk_120 {code : ByteArray} {pc : Nat} (h : DkAt code pc [120]) : decode code pc = .ok (.ishl, 1) := dk_of ((dk_bind (dk_u1 (h 0 _ rfl))).trans rfl)
theorem dk_121 {code : ByteArray} {pc : Nat} (h : DkAt code pc [121]) : decode code pc = .ok (.lshl, 1) := dk_of ((dk_bind (dk_u1 (h 0 _ rfl))).trans rfl)
theorem dk_122 {code : ByteArray} {pc : Nat} (h : DkAt code pc [122]) : decode code pc = .ok (.ishr, 1) := dk_of ((dk_bind (dk_u1 (h 0 _ rfl))).trans rfl)
theorem dk_123 {code : ByteArray} {pc : Nat} (h : DkAt code pc [123]) : decode code pc = .ok (.lshr, 1) := dk_of ((dk_bind (dk_u1 (h 0 _ rfl))).trans rfl)
theorem dk_124 {code : ByteArray} {pc : Nat} (h : DkAt code pc [124]) : decode code pc = .ok (.iushr, 1) := dk_of ((dk_bind (dk_u1 (h 0 _ rfl))).trans rfl)
theorem dk_126 {code : ByteArray} {pc : Nat} (h : DkAt code pc [126]) : decode code pc = .ok (.iand, 1) := dk_of ((dk_bind (dk_u1 (h 0 _ rfl))).trans rfl)
theorem dk_127 {code : ByteArray} {pc : Nat} (h : DkAt code pc [127]) : decode code pc = .ok (.land, 1) := dk_of ((dk_bind (dk_u1 (h 0 _ rfl))).trans rfl)
theorem dk_128 {code : ByteArray} {pc : Nat} (h : DkAt code pc [128]) : decode code pc = .ok (.ior, 1) := dk_of ((dk_bind (dk_u1 (h 0 _ rfl))).trans rfl)
theorem dk_129 {code : ByteArray} {pc : Nat} (h : DkAt code pc [129]) : decode code pc = .ok (.lor, 1) := dk_of ((dk_bind (dk_u1 (h 0 _ rfl))).trans rfl)
theorem dk_130 {code : ByteArray} {pc : Nat} (h : DkAt code pc [130]) : decode code pc = .ok (.ixor, 1) := dk_of ((dk_bind (dk_u1 (h 0 _ rfl))).trans rfl)
theorem dk_132 {code : ByteArray} {pc : Nat} (a b : UInt8) (h : DkAt code pc [132, a, b]) : decode code pc = .ok (.iinc a.toNat (Reader.signed 8 b.toNat), 3) := dk_of ((dk_bind (dk_u1 (h 0 _ rfl))).trans ((dk_bind (dk_u1 (h 1 _ rfl))).trans ((dk_bind (dk_map (dk_u1 (h 2 _ rfl)))).trans rfl)))
theorem dk_133 {code : ByteArray} {pc : Nat} (h : DkAt code pc [133]) : decode code pc = .ok (.i2l, 1) := dk_of ((dk_bind (dk_u1 (h 0 _ rfl))).trans rfl)
theorem dk_136 {code : ByteArray} {pc : Nat} (h : DkAt code pc [136]) : decode code pc = .ok (.l2i, 1) := dk_of ((dk_bind (dk_u1 (h 0 _ rfl))).trans rfl)
theorem dk_145 {code : ByteArray} {pc : Nat} (h : DkAt code pc [145]) : decode code pc = .ok (.i2b, 1) := dk_of ((dk_bind (dk_u1 (h 0 _ rfl))).trans rfl)
theorem dk_146 {code : ByteArray} {pc : Nat} (h : DkAt code pc [146]) : decode code pc = .ok (.i2c, 1) := dk_of ((dk_bind (dk_u1 (h 0 _ rfl))).trans rfl)
theorem dk_148 {code : ByteArray} {pc : Nat} (h : DkAt code pc [148]) : decode code pc = .ok (.lcmp, 1) := dk_of ((dk_bind (dk_u1 (h 0 _ rfl))).trans rfl)
theorem dk_153 {code : ByteArray} {pc : Nat} (a b : UInt8) (h : DkAt code pc [153, a, b]) : decode code pc = .ok (.ifCond .eq (Reader.signed 16 (a.toNat * 256 + b.toNat)), 3) := dk_of ((dk_bind (dk_u1 (h 0 _ rfl))).trans ((dk_bind (dk_map (dk_u2 (h 1 _ rfl) (h 2 _ rfl)))).trans rfl))
theorem dk_154 {code : ByteArray} {pc : Nat} (a b : UInt8) (h : DkAt code pc [154, a, b]) : decode code pc = .ok (.ifCond .ne (Reader.signed 16 (a.toNat * 256 + b.toNat)), 3) := dk_of ((dk_bind (dk_u1 (h 0 _ rfl))).trans ((dk_bind (dk_map (dk_u2 (h 1 _ rfl) (h 2 _ rfl)))).trans rfl))
theorem dk_155 {code : ByteArray} {pc : Nat} (a b : UInt8) (h : DkAt code pc [155, a, b]) : decode code pc = .ok (.ifCond .lt (Reader.signed 16 (a.toNat * 256 + b.toNat)), 3) := dk_of ((dk_bind (dk_u1 (h 0 _ rfl))).trans ((dk_bind (dk_map (dk_u2 (h 1 _ rfl) (h 2 _ rfl)))).trans rfl))
theorem dk_156 {code : ByteArray} {pc : Nat} (a b : UInt8) (h : DkAt code pc [156, a, b]) : decode code pc = .ok (.ifCond .ge (Reader.signed 16 (a.toNat * 256 + b.toNat)), 3) := dk_of ((dk_bind (dk_u1 (h 0 _ rfl))).trans ((dk_bind (dk_map (dk_u2 (h 1 _ rfl) (h 2 _ rfl)))).trans rfl))
theorem dk_157 {code : ByteArray} {pc : Nat} (a b : UInt8) (h : DkAt code pc [157, a, b]) : decode code pc = .ok (.ifCond .gt (Reader.signed 16 (a.toNat * 256 + b.toNat)), 3) := dk_of ((dk_bind (dk_u1 (h 0 _ rfl))).trans ((dk_bind (dk_map (dk_u2 (h 1 _ rfl) (h 2 _ rfl)))).trans rfl))
theorem dk_158 {code : ByteArray} {pc : Nat} (a b : UInt8) (h : DkAt code pc [158, a, b]) : decode code pc = .ok (.ifCond .le (Reader.signed 16 (a.toNat * 256 + b.toNat)), 3) := dk_of ((dk_bind (dk_u1 (h 0 _ rfl))).trans ((dk_bind (dk_map (dk_u2 (h 1 _ rfl) (h 2 _ rfl)))).trans rfl))
theorem dk_159 {code : ByteArray} {pc : Nat} (a b : UInt8) (h : DkAt code pc [159, a, b]) : decode code pc = .ok (.if_icmp .eq (Reader.signed 16 (a.toNat * 256 + b.toNat)), 3) := dk_of ((dk_bind (dk_u1 (h 0 _ rfl))).trans ((dk_bind (dk_map (dk_u2 (h 1 _ rfl) (h 2 _ rfl)))).trans rfl))
theorem dk_160 {code : ByteArray} {pc : Nat} (a b : UInt8) (h : DkAt code pc [160, a, b]) : decode code pc = .ok (.if_icmp .ne (Reader.signed 16 (a.toNat * 256 + b.toNat)), 3) := dk_of ((dk_bind (dk_u1 (h 0 _ rfl))).trans ((dk_bind (dk_map (dk_u2 (h 1 _ rfl) (h 2 _ rfl)))).trans rfl))
theorem dk_161 {code : ByteArray} {pc : Nat} (a b : UInt8) (h : DkAt code pc [161, a, b]) : decode code pc = .ok (.if_icmp .lt (Reader.signed 16 (a.toNat * 256 + b.toNat)), 3) := dk_of ((dk_bind (dk_u1 (h 0 _ rfl))).trans ((dk_bind (dk_map (dk_u2 (h 1 _ rfl) (h 2 _ rfl)))).trans rfl))
theorem dk_162 {code : ByteArray} {pc : Nat} (a b : UInt8) (h : DkAt code pc [162, a, b]) : decode code pc = .ok (.if_icmp .ge (Reader.signed 16 (a.toNat * 256 + b.toNat)), 3) := dk_of ((dk_bind (dk_u1 (h 0 _ rfl))).trans ((dk_bind (dk_map (dk_u2 (h 1 _ rfl) (h 2 _ rfl)))).trans rfl))
theorem dk_163 {code : ByteArray} {pc : Nat} (a b : UInt8) (h : DkAt code pc [163, a, b]) : decode code pc = .ok (.if_icmp .gt (Reader.signed 16 (a.toNat * 256 + b.toNat)), 3) := dk_of ((dk_bind (dk_u1 (h 0 _ rfl))).trans ((dk_bind (dk_map (dk_u2 (h 1 _ rfl) (h 2 _ rfl)))).trans rfl))
theorem dk_164 {code : ByteArray} {pc : Nat} (a b : UInt8) (h : DkAt code pc [164, a, b]) : decode code pc = .ok (.if_icmp .le (Reader.signed 16 (a.toNat * 256 + b.toNat)), 3) := dk_of ((dk_bind (dk_u1 (h 0 _ rfl))).trans ((dk_bind (dk_map (dk_u2 (h 1 _ rfl) (h 2 _ rfl)))).trans rfl))
theorem dk_165 {code : ByteArray} {pc : Nat} (a b : UInt8) (h : DkAt code pc [165, a, b]) : decode code pc = .ok (.if_acmp .eq (Reader.signed 16 (a.toNat * 256 + b.toNat)), 3) := dk_of ((dk_bind (dk_u1 (h 0 _ rfl))).trans ((dk_bind (dk_map (dk_u2 (h 1 _ rfl) (h 2 _ rfl)))).trans rfl))
theorem dk_166 {code : ByteArray} {pc : Nat} (a b : UInt8) (h : DkAt code pc [166, a, b]) : decode code pc = .ok (.if_acmp .ne (Reader.signed 16 (a.toNat * 256 + b.toNat)), 3) := dk_of ((dk_bind (dk_u1 (h 0 _ rfl))).trans ((dk_bind (dk_map (dk_u2 (h 1 _ rfl) (h 2 _ rfl)))).trans rfl))
theorem dk_167 {code : ByteArray} {pc : Nat} (a b : UInt8) (h : DkAt code pc [167, a, b]) : decode code pc = .ok (.goto (Reader.signed 16 (a.toNat * 256 + b.toNat)), 3) := dk_of ((dk_bind (dk_u1 (h 0 _ rfl))).trans ((dk_bind (dk_map (dk_u2 (h 1 _ rfl) (h 2 _ rfl)))).trans rfl))
theorem dk_172 {code : ByteArray} {pc : Nat} (h : DkAt code pc [172]) : decode code pc = .ok (.ireturn, 1) := dk_of ((dk_bind (dk_u1 (h 0 _ rfl))).trans rfl)
theorem dk_176 {code : ByteArray} {pc : Nat} (h : DkAt code pc [176]) : decode code pc = .ok (.areturn, 1) := dk_of ((dk_bind (dk_u1 (h 0 _ rfl))).trans rfl)
theorem dk_177 {code : ByteArray} {pc : Nat} (h : DkAt code pc [177]) : decode code pc = .ok (.return_, 1) := dk_of ((dk_bind (dk_u1 (h 0 _ rfl))).trans rfl)
theorem dk_178 {code : ByteArray} {pc : Nat} (a b : UInt8) (h : DkAt code pc [178, a, b]) : decode code pc = .ok (.getstatic (a.toNat * 256 + b.toNat), 3) := dk_of ((dk_bind (dk_u1 (h 0 _ rfl))).trans ((dk_bind (dk_u2 (h 1 _ rfl) (h 2 _ rfl))).trans rfl))
theorem dk_180 {code : ByteArray} {pc : Nat} (a b : UInt8) (h : DkAt code pc [180, a, b]) : decode code pc = .ok (.getfield (a.toNat * 256 + b.toNat), 3) := dk_of ((dk_bind (dk_u1 (h 0 _ rfl))).trans ((dk_bind (dk_u2 (h 1 _ rfl) (h 2 _ rfl))).trans rfl))
theorem dk_181 {code : ByteArray} {pc : Nat} (a b : UInt8) (h : DkAt code pc [181, a, b]) : decode code pc = .ok (.putfield (a.toNat * 256 + b.toNat), 3) := dk_of ((dk_bind (dk_u1 (h 0 _ rfl))).trans ((dk_bind (dk_u2 (h 1 _ rfl) (h 2 _ rfl))).trans rfl))
theorem dk_182 {code : ByteArray} {pc : Nat} (a b : UInt8) (h : DkAt code pc [182, a, b]) : decode code pc = .ok (.invokevirtual (a.toNat * 256 + b.toNat), 3) := dk_of ((dk_bind (dk_u1 (h 0 _ rfl))).trans ((dk_bind (dk_u2 (h 1 _ rfl) (h 2 _ rfl))).trans rfl))
theorem dk_183 {code : ByteArray} {pc : Nat} (a b : UInt8) (h : DkAt code pc [183, a, b]) : decode code pc = .ok (.invokespecial (a.toNat * 256 + b.toNat), 3) := dk_of ((dk_bind (dk_u1 (h 0 _ rfl))).trans ((dk_bind (dk_u2 (h 1 _ rfl) (h 2 _ rfl))).trans rfl))
theorem dk_184 {code : ByteArray} {pc : Nat} (a b : UInt8) (h : DkAt code pc [184, a, b]) : decode code pc = .ok (.invokestatic (a.toNat * 256 + b.toNat), 3) := dk_of ((dk_bind (dk_u1 (h 0 _ rfl))).trans ((dk_bind (dk_u2 (h 1 _ rfl) (h 2 _ rfl))).trans rfl))
theorem dk_187 {code : ByteArray} {pc : Nat} (a b : UInt8) (h : DkAt code pc [187, a, b]) : decode code pc = .ok (.new (a.toNat * 256 + b.toNat), 3) := dk_of ((dk_bind (dk_u1 (h 0 _ rfl))).trans ((dk_bind (dk_u2 (h 1 _ rfl) (h 2 _ rfl))).trans rfl))
theorem dk_188_4 {code : ByteArray} {pc : Nat} (h : DkAt code pc [188, 4]) : decode code pc = .ok (.newarray .boolean, 2) := dk_of ((dk_bind (dk_u1 (h 0 _ rfl))).trans ((dk_bind (dk_u1 (h 1 _ rfl))).trans rfl))
theorem dk_188_8 {code : ByteArray} {pc : Nat} (h : DkAt code pc [188, 8]) : decode code pc = .ok (.newarray .byte, 2) := dk_of ((dk_bind (dk_u1 (h 0 _ rfl))).trans ((dk_bind (dk_u1 (h 1 _ rfl))).trans rfl))
theorem dk_188_10 {code : ByteArray} {pc : Nat} (h : DkAt code pc [188, 10]) : decode code pc = .ok (.newarray .int, 2) := dk_of ((dk_bind (dk_u1 (h 0 _ rfl))).trans ((dk_bind (dk_u1 (h 1 _ rfl))).trans rfl))
theorem dk_188_11 {code : ByteArray} {pc : Nat} (h : DkAt code pc [188, 11]) : decode code pc = .ok (.newarray .long, 2) := dk_of ((dk_bind (dk_u1 (h 0 _ rfl))).trans ((dk_bind (dk_u1 (h 1 _ rfl))).trans rfl))
theorem dk_189 {code : ByteArray} {pc : Nat} (a b : UInt8) (h : DkAt code pc [189, a, b]) : decode code pc = .ok (.anewarray (a.toNat * 256 + b.toNat), 3) := dk_of ((dk_bind (dk_u1 (h 0 _ rfl))).trans ((dk_bind (dk_u2 (h 1 _ rfl) (h 2 _ rfl))).trans rfl))
theorem dk_190 {code : ByteArray} {pc : Nat} (h : DkAt code pc [190]) : decode code pc = .ok (.arraylength, 1) := dk_of ((dk_bind (dk_u1 (h 0 _ rfl))).trans rfl)
theorem dk_191 {code : ByteArray} {pc : Nat} (h : DkAt code pc [191]) : decode code pc = .ok (.athrow, 1) := dk_of ((dk_bind (dk_u1 (h 0 _ rfl))).trans rfl)
theorem dk_192 {code : ByteArray} {pc : Nat} (a b : UInt8) (h : DkAt code pc [192, a, b]) : decode code pc = .ok (.checkcast (a.toNat * 256 + b.toNat), 3) := dk_of ((dk_bind (dk_u1 (h 0 _ rfl))).trans ((dk_bind (dk_u2 (h 1 _ rfl) (h 2 _ rfl))).trans rfl))
theorem dk_193 {code : ByteArray} {pc : Nat} (a b : UInt8) (h : DkAt code pc [193, a, b]) : decode code pc = .ok (.instanceof (a.toNat * 256 + b.toNat), 3) := dk_of ((dk_bind (dk_u1 (h 0 _ rfl))).trans ((dk_bind (dk_u2 (h 1 _ rfl) (h 2 _ rfl))).trans rfl))
theorem dk_198 {code : ByteArray} {pc : Nat} (a b : UInt8) (h : DkAt code pc [198, a, b]) : decode code pc = .ok (.ifnull (Reader.signed 16 (a.toNat * 256 + b.toNat)), 3) := dk_of ((dk_bind (dk_u1 (h 0 _ rfl))).trans ((dk_bind (dk_map (dk_u2 (h 1 _ rfl) (h 2 _ rfl)))).trans rfl))
theorem dk_199 {code : ByteArray} {pc : Nat} (a b : UInt8) (h : DkAt code pc [199, a, b]) : decode code pc = .ok (.ifnonnull (Reader.signed 16 (a.toNat * 256 + b.toNat)), 3) := dk_of ((dk_bind (dk_u1 (h 0 _ rfl))).trans ((dk_bind (dk_map (dk_u2 (h 1 _ rfl) (h 2 _ rfl)))).trans rfl))
theorem q687 : (Jvm.Cond.sameMethod "[B" "java/lang/Object" "clone" "()Ljava/lang/Object;") ∈ lw_all := lw_g (lw_at lw_m3 96 rfl) rfl
set_option maxRecDepth 100000
theorem q690 : (Jvm.Cond.selects "[B" ({ cls := "[B", name := "clone", desc := "()Ljava/lang/Object;" } : Jvm.MethodName) ({ cls := "java/lang/Object", name := "clone", desc := "()Ljava/lang/Object;" } : Jvm.MethodName)) ∈ lw_all := lw_g (lw_at lw_m3 99 rfl) rfl
theorem q691 : (Jvm.Cond.castable "[B" "java/lang/Cloneable") ∈ lw_tbl := lw_at lw_m3 100 rfl
theorem q2114 : (Jvm.Cond.castable "[B" "java/lang/Object") ∈ lw_tbl := lw_at lw_m9 83 rfl
theorem q2116 : (Jvm.Cond.castable "[I" "java/lang/Object") ∈ lw_tbl := lw_at lw_m9 85 rfl
set_option maxRecDepth 100000
theorem q2120 : (Jvm.Cond.castable "[J" "java/lang/Object") ∈ lw_tbl := lw_at lw_m9 89 rfl
set_option maxRecDepth 100000
theorem q2119 : (Jvm.Cond.castable "[LDateVale$Mark;" "java/lang/Object") ∈ lw_tbl := lw_at lw_m9 88 rfl
set_option maxRecDepth 100000
theorem q2117 : (Jvm.Cond.castable "[LDateVale$State;" "java/lang/Object") ∈ lw_tbl := lw_at lw_m9 86 rfl
set_option maxRecDepth 100000
theorem q2111 : (Jvm.Cond.sameMethod "[Ljava/lang/Object;" "java/lang/Object" "getClass" "()Ljava/lang/Class;") ∈ lw_all := lw_g (lw_at lw_m9 80 rfl) rfl
set_option maxRecDepth 100000
theorem q2112 : (Jvm.Cond.selects "[Ljava/lang/Object;" ({ cls := "java/lang/Object", name := "getClass", desc := "()Ljava/lang/Class;" } : Jvm.MethodName) ({ cls := "java/lang/Object", name := "getClass", desc := "()Ljava/lang/Class;" } : Jvm.MethodName)) ∈ lw_all := lw_g (lw_at lw_m9 81 rfl) rfl
theorem q2115 : (Jvm.Cond.castable "[Ljava/lang/Object;" "java/lang/Object") ∈ lw_tbl := lw_at lw_m9 84 rfl
theorem q2121 : (Jvm.Cond.castable "[Z" "java/lang/Object") ∈ lw_tbl := lw_at lw_m9 90 rfl
set_option maxRecDepth 100000
theorem q2118 : (Jvm.Cond.castable "[[I" "java/lang/Object") ∈ lw_tbl := lw_at lw_m9 87 rfl
set_option maxRecDepth 100000
theorem q136 : (Jvm.Cond.initialized "java/lang/System") ∈ lw_all := lw_g (lw_at lw_m1 25 rfl) rfl
set_option maxRecDepth 100000
theorem q695 : (Jvm.Cond.static ({ cls := "java/lang/System", name := "arraycopy", desc := "(Ljava/lang/Object;ILjava/lang/Object;II)V" } : Jvm.MethodName)) ∈ lw_all := lw_g (lw_at lw_m3 104 rfl) rfl
theorem q696 : (Jvm.Cond.native ({ cls := "java/lang/System", name := "arraycopy", desc := "(Ljava/lang/Object;ILjava/lang/Object;II)V" } : Jvm.MethodName)) ∈ lw_all := lw_g (lw_at lw_m3 105 rfl) rfl
theorem q193 : (Jvm.Cond.arrayClass Jvm.ClassFile.FieldType.byte) ∈ lw_all := lw_g (lw_at lw_m1 82 rfl) rfl
set_option maxRecDepth 100000
theorem q213 : (Jvm.Cond.arrayOver (Jvm.ClassFile.FieldType.object "java/lang/Object")) ∈ lw_tbl := lw_at lw_m1 102 rfl
theorem q297 : (Jvm.Cond.arrayClass Jvm.ClassFile.FieldType.int) ∈ lw_all := lw_g (lw_at lw_m1 186 rfl) rfl
theorem q298 : (Jvm.Cond.arrayOver (Jvm.ClassFile.FieldType.object "DateVale$State")) ∈ lw_tbl := lw_at lw_m1 187 rfl
theorem q300 : (Jvm.Cond.arrayOver (Jvm.ClassFile.FieldType.array Jvm.ClassFile.FieldType.int)) ∈ lw_tbl := lw_at lw_m1 189 rfl
theorem q302 : (Jvm.Cond.arrayOver (Jvm.ClassFile.FieldType.object "DateVale$Mark")) ∈ lw_tbl := lw_at lw_m1 191 rfl
theorem q1690 : (Jvm.Cond.arrayClass Jvm.ClassFile.FieldType.long) ∈ lw_all := lw_g (lw_at lw_m7 139 rfl) rfl
theorem q1691 : (Jvm.Cond.arrayClass Jvm.ClassFile.FieldType.boolean) ∈ lw_all := lw_g (lw_at lw_m7 140 rfl) rfl
/-! DateValeLaw -/
set_option maxRecDepth 100000
def RX0 : String := "DateValeLaw"
abbrev cX0_rests : ByteArray := method_3_code
def yX0_rests : MethodName := ⟨RX0, "rests", "(LDateVale;IIII[J)I"⟩
def dkwX0_rests_0 : List UInt8 := [25, 5, 3, 42, 27, 28, 29, 21, 4, 182, 0, 7, 133, 80, 167, 0, 7, 58, 6, 4, 172, 3, 172]
abbrev dktX0_rests_0 : List UInt8 := dkwX0_rests_0 ++ []
theorem dksX0_rests_0 : cX0_rests.data.toList.drop 0 = dktX0_rests_0 := by decide +kernel
theorem dX0_rests_0 : decode cX0_rests 0 = .ok (.aload 5, 2) := dk_25 5 (dk_at dksX0_rests_0 0 rfl rfl)
theorem dX0_rests_2 : decode cX0_rests 2 = .ok (.iconst 0, 1) := dk_3 (dk_at dksX0_rests_0 2 rfl rfl)
theorem dX0_rests_3 : decode cX0_rests 3 = .ok (.aload_n 0, 1) := dk_42 (dk_at dksX0_rests_0 3 rfl rfl)
theorem dX0_rests_4 : decode cX0_rests 4 = .ok (.iload_n 1, 1) := dk_27 (dk_at dksX0_rests_0 4 rfl rfl)
theorem dX0_rests_5 : decode cX0_rests 5 = .ok (.iload_n 2, 1) := dk_28 (dk_at dksX0_rests_0 5 rfl rfl)
theorem dX0_rests_6 : decode cX0_rests 6 = .ok (.iload_n 3, 1) := dk_29 (dk_at dksX0_rests_0 6 rfl rfl)
theorem dX0_rests_7 : decode cX0_rests 7 = .ok (.iload 4, 2) := dk_21 4 (dk_at dksX0_rests_0 7 rfl rfl)
theorem dX0_rests_9 : decode cX0_rests 9 = .ok (.invokevirtual 7, 3) := dk_182 0 7 (dk_at dksX0_rests_0 9 rfl rfl)
theorem dX0_rests_12 : decode cX0_rests 12 = .ok (.i2l, 1) := dk_133 (dk_at dksX0_rests_0 12 rfl rfl)
theorem dX0_rests_13 : decode cX0_rests 13 = .ok (.lastore, 1) := dk_80 (dk_at dksX0_rests_0 13 rfl rfl)
theorem dX0_rests_14 : decode cX0_rests 14 = .ok (.goto 7, 3) := dk_167 0 7 (dk_at dksX0_rests_0 14 rfl rfl)
theorem dX0_rests_17 : decode cX0_rests 17 = .ok (.astore 6, 2) := dk_58 6 (dk_at dksX0_rests_0 17 rfl rfl)
theorem dX0_rests_19 : decode cX0_rests 19 = .ok (.iconst 1, 1) := dk_4 (dk_at dksX0_rests_0 19 rfl rfl)
theorem dX0_rests_20 : decode cX0_rests 20 = .ok (.ireturn, 1) := dk_172 (dk_at dksX0_rests_0 20 rfl rfl)
theorem dX0_rests_21 : decode cX0_rests 21 = .ok (.iconst 0, 1) := dk_3 (dk_at dksX0_rests_0 21 rfl rfl)
theorem dX0_rests_22 : decode cX0_rests 22 = .ok (.ireturn, 1) := dk_172 (dk_at dksX0_rests_0 22 rfl rfl)
theorem q111 : (Jvm.Cond.initialized "DateValeLaw") ∈ lw_all := lw_g (lw_at lw_m1 0 rfl) rfl
theorem q154 : (Jvm.Cond.classLink "DateValeLaw" (8 : Nat) "DateVale") ∈ lw_all := lw_g (lw_at lw_m1 43 rfl) rfl
theorem q156 : (Jvm.Cond.methodLink "DateValeLaw" (15 : Nat) ({ cls := "DateVale", name := "<init>", desc := "()V" } : Jvm.MethodName)) ∈ lw_all := lw_g (lw_at lw_m1 45 rfl) rfl
theorem q391 : (Jvm.Cond.methodLink "DateValeLaw" (21 : Nat) ({ cls := "DateVale", name := "feed", desc := "(JJJ)I" } : Jvm.MethodName)) ∈ lw_all := lw_g (lw_at lw_m2 40 rfl) rfl
theorem q395 : (Jvm.Cond.methodLink "DateValeLaw" (26 : Nat) ({ cls := "DateVale", name := "vale", desc := "()I" } : Jvm.MethodName)) ∈ lw_all := lw_g (lw_at lw_m2 44 rfl) rfl
theorem q1061 : (Jvm.Cond.methodLink "DateValeLaw" (31 : Nat) ({ cls := "DateVale", name := "year", desc := "()I" } : Jvm.MethodName)) ∈ lw_all := lw_g (lw_at lw_m4 230 rfl) rfl
theorem q1119 : (Jvm.Cond.methodLink "DateValeLaw" (35 : Nat) ({ cls := "DateVale", name := "house", desc := "(II)I" } : Jvm.MethodName)) ∈ lw_all := lw_g (lw_at lw_m5 48 rfl) rfl
theorem q1172 : (Jvm.Cond.methodLink "DateValeLaw" (40 : Nat) ({ cls := "DateVale", name := "day", desc := "(II)I" } : Jvm.MethodName)) ∈ lw_all := lw_g (lw_at lw_m5 101 rfl) rfl
theorem q1194 : (Jvm.Cond.methodLink "DateValeLaw" (44 : Nat) ({ cls := "DateVale", name := "date", desc := "()I" } : Jvm.MethodName)) ∈ lw_all := lw_g (lw_at lw_m5 123 rfl) rfl
theorem q1270 : (Jvm.Cond.methodLink "DateValeLaw" (48 : Nat) ({ cls := "DateVale", name := "move", desc := "(II)Z" } : Jvm.MethodName)) ∈ lw_all := lw_g (lw_at lw_m5 199 rfl) rfl
theorem q1278 : (Jvm.Cond.methodLink "DateValeLaw" (53 : Nat) ({ cls := "DateVale", name := "send", desc := "(I)Z" } : Jvm.MethodName)) ∈ lw_all := lw_g (lw_at lw_m5 207 rfl) rfl
theorem q1282 : (Jvm.Cond.methodLink "DateValeLaw" (58 : Nat) ({ cls := "DateVale", name := "build", desc := "(I)I" } : Jvm.MethodName)) ∈ lw_all := lw_g (lw_at lw_m5 211 rfl) rfl
theorem q1286 : (Jvm.Cond.methodLink "DateValeLaw" (63 : Nat) ({ cls := "DateVale", name := "undo", desc := "()Z" } : Jvm.MethodName)) ∈ lw_all := lw_g (lw_at lw_m5 215 rfl) rfl
theorem q1290 : (Jvm.Cond.methodLink "DateValeLaw" (68 : Nat) ({ cls := "DateVale", name := "judged", desc := "(I)I" } : Jvm.MethodName)) ∈ lw_all := lw_g (lw_at lw_m5 219 rfl) rfl
theorem q1313 : (Jvm.Cond.methodLink "DateValeLaw" (72 : Nat) ({ cls := "DateVale", name := "where", desc := "(II)I" } : Jvm.MethodName)) ∈ lw_all := lw_g (lw_at lw_m6 2 rfl) rfl
theorem q1321 : (Jvm.Cond.methodLink "DateValeLaw" (76 : Nat) ({ cls := "DateVale", name := "next", desc := "(I)I" } : Jvm.MethodName)) ∈ lw_all := lw_g (lw_at lw_m6 10 rfl) rfl
theorem q1325 : (Jvm.Cond.methodLink "DateValeLaw" (80 : Nat) ({ cls := "DateVale", name := "gone", desc := "(I)I" } : Jvm.MethodName)) ∈ lw_all := lw_g (lw_at lw_m6 14 rfl) rfl
theorem q1329 : (Jvm.Cond.methodLink "DateValeLaw" (84 : Nat) ({ cls := "DateVale", name := "crowd", desc := "()I" } : Jvm.MethodName)) ∈ lw_all := lw_g (lw_at lw_m6 18 rfl) rfl
theorem q1337 : (Jvm.Cond.methodLink "DateValeLaw" (88 : Nat) ({ cls := "DateVale", name := "refused", desc := "(I)I" } : Jvm.MethodName)) ∈ lw_all := lw_g (lw_at lw_m6 26 rfl) rfl
theorem q1345 : (Jvm.Cond.methodLink "DateValeLaw" (92 : Nat) ({ cls := "DateVale", name := "meets", desc := "(II)I" } : Jvm.MethodName)) ∈ lw_all := lw_g (lw_at lw_m6 34 rfl) rfl
theorem q1349 : (Jvm.Cond.methodLink "DateValeLaw" (96 : Nat) ({ cls := "DateVale", name := "beds", desc := "(II)I" } : Jvm.MethodName)) ∈ lw_all := lw_g (lw_at lw_m6 38 rfl) rfl
theorem q1362 : (Jvm.Cond.methodLink "DateValeLaw" (144 : Nat) ({ cls := "DateVale", name := "spare", desc := "()I" } : Jvm.MethodName)) ∈ lw_all := lw_g (lw_at lw_m6 51 rfl) rfl
theorem q1366 : (Jvm.Cond.methodLink "DateValeLaw" (100 : Nat) ({ cls := "DateVale", name := "laying", desc := "()I" } : Jvm.MethodName)) ∈ lw_all := lw_g (lw_at lw_m6 55 rfl) rfl
theorem q1374 : (Jvm.Cond.methodLink "DateValeLaw" (104 : Nat) ({ cls := "DateVale", name := "apart", desc := "()I" } : Jvm.MethodName)) ∈ lw_all := lw_g (lw_at lw_m6 63 rfl) rfl
theorem q1382 : (Jvm.Cond.methodLink "DateValeLaw" (108 : Nat) ({ cls := "DateVale", name := "defer", desc := "(I)I" } : Jvm.MethodName)) ∈ lw_all := lw_g (lw_at lw_m6 71 rfl) rfl
theorem q1386 : (Jvm.Cond.methodLink "DateValeLaw" (112 : Nat) ({ cls := "DateVale", name := "see", desc := "(II)Z" } : Jvm.MethodName)) ∈ lw_all := lw_g (lw_at lw_m6 75 rfl) rfl
theorem q1390 : (Jvm.Cond.methodLink "DateValeLaw" (116 : Nat) ({ cls := "DateVale", name := "who", desc := "()I" } : Jvm.MethodName)) ∈ lw_all := lw_g (lw_at lw_m6 79 rfl) rfl
theorem q1398 : (Jvm.Cond.methodLink "DateValeLaw" (120 : Nat) ({ cls := "DateVale", name := "look", desc := "()I" } : Jvm.MethodName)) ∈ lw_all := lw_g (lw_at lw_m6 87 rfl) rfl
theorem q1403 : (Jvm.Cond.methodLink "DateValeLaw" (124 : Nat) ({ cls := "DateVale", name := "through", desc := "(II)I" } : Jvm.MethodName)) ∈ lw_all := lw_g (lw_at lw_m6 92 rfl) rfl
theorem q1407 : (Jvm.Cond.methodLink "DateValeLaw" (128 : Nat) ({ cls := "DateVale", name := "quiet", desc := "()I" } : Jvm.MethodName)) ∈ lw_all := lw_g (lw_at lw_m6 96 rfl) rfl
theorem q1411 : (Jvm.Cond.methodLink "DateValeLaw" (132 : Nat) ({ cls := "DateVale", name := "peace", desc := "()I" } : Jvm.MethodName)) ∈ lw_all := lw_g (lw_at lw_m6 100 rfl) rfl
theorem q1415 : (Jvm.Cond.methodLink "DateValeLaw" (140 : Nat) ({ cls := "DateVale", name := "eldest", desc := "(I)I" } : Jvm.MethodName)) ∈ lw_all := lw_g (lw_at lw_m6 104 rfl) rfl
theorem q1419 : (Jvm.Cond.methodLink "DateValeLaw" (136 : Nat) ({ cls := "DateVale", name := "loudest", desc := "()I" } : Jvm.MethodName)) ∈ lw_all := lw_g (lw_at lw_m6 108 rfl) rfl
theorem q1423 : (Jvm.Cond.methodLink "DateValeLaw" (148 : Nat) ({ cls := "DateVale", name := "chance", desc := "(III)I" } : Jvm.MethodName)) ∈ lw_all := lw_g (lw_at lw_m6 112 rfl) rfl
theorem q1429 : (Jvm.Cond.methodLink "DateValeLaw" (162 : Nat) ({ cls := "DateVale", name := "ages", desc := "(III)I" } : Jvm.MethodName)) ∈ lw_all := lw_g (lw_at lw_m6 118 rfl) rfl
theorem q1448 : (Jvm.Cond.methodLink "DateValeLaw" (166 : Nat) ({ cls := "DateVale", name := "mark", desc := "(IZ)Z" } : Jvm.MethodName)) ∈ lw_all := lw_g (lw_at lw_m6 137 rfl) rfl
theorem q1475 : (Jvm.Cond.methodLink "DateValeLaw" (171 : Nat) ({ cls := "DateVale", name := "count", desc := "(I)I" } : Jvm.MethodName)) ∈ lw_all := lw_g (lw_at lw_m6 164 rfl) rfl
theorem q1483 : (Jvm.Cond.methodLink "DateValeLaw" (153 : Nat) ({ cls := "DateValeLaw", name := "rests", desc := "(LDateVale;IIII[J)I" } : Jvm.MethodName)) ∈ lw_all := lw_g (lw_at lw_m6 172 rfl) rfl
theorem q1484 : (Jvm.Cond.static ({ cls := "DateValeLaw", name := "rests", desc := "(LDateVale;IIII[J)I" } : Jvm.MethodName)) ∈ lw_all := lw_g (lw_at lw_m6 173 rfl) rfl
theorem q1485 : (Jvm.Cond.codeWith ({ cls := "DateValeLaw", name := "rests", desc := "(LDateVale;IIII[J)I" } : Jvm.MethodName) method_3_code (7 : Nat) (Option.some Jvm.ClassFile.FieldType.int) [((0 : Nat), (14 : Nat), (17 : Nat), (13 : Nat))]) ∈ lw_all := lw_g (lw_at lw_m6 174 rfl) rfl
theorem q1486 : (Jvm.Cond.classLink "DateValeLaw" (13 : Nat) "java/util/NoSuchElementException") ∈ lw_all := lw_g (lw_at lw_m6 175 rfl) rfl
theorem q1487 : (Jvm.Cond.methodLink "DateValeLaw" (7 : Nat) ({ cls := "DateVale", name := "rests", desc := "(IIII)I" } : Jvm.MethodName)) ∈ lw_all := lw_g (lw_at lw_m6 176 rfl) rfl
theorem q1518 : (Jvm.Cond.methodLink "DateValeLaw" (159 : Nat) ({ cls := "DateValeModel", name := "thrown", desc := "()I" } : Jvm.MethodName)) ∈ lw_all := lw_g (lw_at lw_m6 207 rfl) rfl
theorem q1522 : (Jvm.Cond.methodLink "DateValeLaw" (25 : Nat) ({ cls := "DateValeModel", name := "feed", desc := "(JJJ)I" } : Jvm.MethodName)) ∈ lw_all := lw_g (lw_at lw_m6 211 rfl) rfl
theorem q1531 : (Jvm.Cond.classLink "DateValeLaw" (16 : Nat) "DateValeModel") ∈ lw_all := lw_g (lw_at lw_m6 220 rfl) rfl
theorem q1532 : (Jvm.Cond.methodLink "DateValeLaw" (18 : Nat) ({ cls := "DateValeModel", name := "<init>", desc := "()V" } : Jvm.MethodName)) ∈ lw_all := lw_g (lw_at lw_m6 221 rfl) rfl
theorem q1692 : (Jvm.Cond.methodLink "DateValeLaw" (30 : Nat) ({ cls := "DateValeModel", name := "vale", desc := "()I" } : Jvm.MethodName)) ∈ lw_all := lw_g (lw_at lw_m7 141 rfl) rfl
theorem q1818 : (Jvm.Cond.methodLink "DateValeLaw" (34 : Nat) ({ cls := "DateValeModel", name := "year", desc := "()I" } : Jvm.MethodName)) ∈ lw_all := lw_g (lw_at lw_m8 27 rfl) rfl
theorem q1822 : (Jvm.Cond.methodLink "DateValeLaw" (39 : Nat) ({ cls := "DateValeModel", name := "house", desc := "(II)I" } : Jvm.MethodName)) ∈ lw_all := lw_g (lw_at lw_m8 31 rfl) rfl
theorem q1846 : (Jvm.Cond.methodLink "DateValeLaw" (43 : Nat) ({ cls := "DateValeModel", name := "day", desc := "(II)I" } : Jvm.MethodName)) ∈ lw_all := lw_g (lw_at lw_m8 55 rfl) rfl
theorem q1854 : (Jvm.Cond.methodLink "DateValeLaw" (47 : Nat) ({ cls := "DateValeModel", name := "date", desc := "()I" } : Jvm.MethodName)) ∈ lw_all := lw_g (lw_at lw_m8 63 rfl) rfl
theorem q1900 : (Jvm.Cond.methodLink "DateValeLaw" (52 : Nat) ({ cls := "DateValeModel", name := "move", desc := "(II)Z" } : Jvm.MethodName)) ∈ lw_all := lw_g (lw_at lw_m8 109 rfl) rfl
theorem q1908 : (Jvm.Cond.methodLink "DateValeLaw" (57 : Nat) ({ cls := "DateValeModel", name := "send", desc := "(I)Z" } : Jvm.MethodName)) ∈ lw_all := lw_g (lw_at lw_m8 117 rfl) rfl
theorem q1912 : (Jvm.Cond.methodLink "DateValeLaw" (62 : Nat) ({ cls := "DateValeModel", name := "build", desc := "(I)I" } : Jvm.MethodName)) ∈ lw_all := lw_g (lw_at lw_m8 121 rfl) rfl
theorem q1916 : (Jvm.Cond.methodLink "DateValeLaw" (67 : Nat) ({ cls := "DateValeModel", name := "undo", desc := "()Z" } : Jvm.MethodName)) ∈ lw_all := lw_g (lw_at lw_m8 125 rfl) rfl
theorem q1920 : (Jvm.Cond.methodLink "DateValeLaw" (71 : Nat) ({ cls := "DateValeModel", name := "judged", desc := "(I)I" } : Jvm.MethodName)) ∈ lw_all := lw_g (lw_at lw_m8 129 rfl) rfl
theorem q1924 : (Jvm.Cond.methodLink "DateValeLaw" (75 : Nat) ({ cls := "DateValeModel", name := "where", desc := "(II)I" } : Jvm.MethodName)) ∈ lw_all := lw_g (lw_at lw_m8 133 rfl) rfl
theorem q1932 : (Jvm.Cond.methodLink "DateValeLaw" (79 : Nat) ({ cls := "DateValeModel", name := "next", desc := "(I)I" } : Jvm.MethodName)) ∈ lw_all := lw_g (lw_at lw_m8 141 rfl) rfl
theorem q1936 : (Jvm.Cond.methodLink "DateValeLaw" (83 : Nat) ({ cls := "DateValeModel", name := "gone", desc := "(I)I" } : Jvm.MethodName)) ∈ lw_all := lw_g (lw_at lw_m8 145 rfl) rfl
theorem q1940 : (Jvm.Cond.methodLink "DateValeLaw" (87 : Nat) ({ cls := "DateValeModel", name := "crowd", desc := "()I" } : Jvm.MethodName)) ∈ lw_all := lw_g (lw_at lw_m8 149 rfl) rfl
theorem q1948 : (Jvm.Cond.methodLink "DateValeLaw" (91 : Nat) ({ cls := "DateValeModel", name := "refused", desc := "(I)I" } : Jvm.MethodName)) ∈ lw_all := lw_g (lw_at lw_m8 157 rfl) rfl
theorem q1952 : (Jvm.Cond.methodLink "DateValeLaw" (95 : Nat) ({ cls := "DateValeModel", name := "meets", desc := "(II)I" } : Jvm.MethodName)) ∈ lw_all := lw_g (lw_at lw_m8 161 rfl) rfl
theorem q1956 : (Jvm.Cond.methodLink "DateValeLaw" (99 : Nat) ({ cls := "DateValeModel", name := "beds", desc := "(II)I" } : Jvm.MethodName)) ∈ lw_all := lw_g (lw_at lw_m8 165 rfl) rfl
theorem q1968 : (Jvm.Cond.methodLink "DateValeLaw" (103 : Nat) ({ cls := "DateValeModel", name := "laying", desc := "()I" } : Jvm.MethodName)) ∈ lw_all := lw_g (lw_at lw_m8 177 rfl) rfl
theorem q1976 : (Jvm.Cond.methodLink "DateValeLaw" (107 : Nat) ({ cls := "DateValeModel", name := "apart", desc := "()I" } : Jvm.MethodName)) ∈ lw_all := lw_g (lw_at lw_m8 185 rfl) rfl
theorem q1984 : (Jvm.Cond.methodLink "DateValeLaw" (111 : Nat) ({ cls := "DateValeModel", name := "defer", desc := "(I)I" } : Jvm.MethodName)) ∈ lw_all := lw_g (lw_at lw_m8 193 rfl) rfl
theorem q1988 : (Jvm.Cond.methodLink "DateValeLaw" (147 : Nat) ({ cls := "DateValeModel", name := "spare", desc := "()I" } : Jvm.MethodName)) ∈ lw_all := lw_g (lw_at lw_m8 197 rfl) rfl
theorem q1992 : (Jvm.Cond.methodLink "DateValeLaw" (115 : Nat) ({ cls := "DateValeModel", name := "see", desc := "(II)Z" } : Jvm.MethodName)) ∈ lw_all := lw_g (lw_at lw_m8 201 rfl) rfl
theorem q1996 : (Jvm.Cond.methodLink "DateValeLaw" (119 : Nat) ({ cls := "DateValeModel", name := "who", desc := "()I" } : Jvm.MethodName)) ∈ lw_all := lw_g (lw_at lw_m8 205 rfl) rfl
theorem q2004 : (Jvm.Cond.methodLink "DateValeLaw" (123 : Nat) ({ cls := "DateValeModel", name := "look", desc := "()I" } : Jvm.MethodName)) ∈ lw_all := lw_g (lw_at lw_m8 213 rfl) rfl
theorem q2008 : (Jvm.Cond.methodLink "DateValeLaw" (127 : Nat) ({ cls := "DateValeModel", name := "through", desc := "(II)I" } : Jvm.MethodName)) ∈ lw_all := lw_g (lw_at lw_m8 217 rfl) rfl
theorem q2012 : (Jvm.Cond.methodLink "DateValeLaw" (131 : Nat) ({ cls := "DateValeModel", name := "quiet", desc := "()I" } : Jvm.MethodName)) ∈ lw_all := lw_g (lw_at lw_m8 221 rfl) rfl
theorem q2016 : (Jvm.Cond.methodLink "DateValeLaw" (135 : Nat) ({ cls := "DateValeModel", name := "peace", desc := "()I" } : Jvm.MethodName)) ∈ lw_all := lw_g (lw_at lw_m8 225 rfl) rfl
theorem q2020 : (Jvm.Cond.methodLink "DateValeLaw" (143 : Nat) ({ cls := "DateValeModel", name := "eldest", desc := "(I)I" } : Jvm.MethodName)) ∈ lw_all := lw_g (lw_at lw_m8 229 rfl) rfl
theorem q2024 : (Jvm.Cond.methodLink "DateValeLaw" (139 : Nat) ({ cls := "DateValeModel", name := "loudest", desc := "()I" } : Jvm.MethodName)) ∈ lw_all := lw_g (lw_at lw_m8 233 rfl) rfl
theorem q2028 : (Jvm.Cond.methodLink "DateValeLaw" (152 : Nat) ({ cls := "DateValeModel", name := "chance", desc := "(III)I" } : Jvm.MethodName)) ∈ lw_all := lw_g (lw_at lw_m8 237 rfl) rfl
theorem q2033 : (Jvm.Cond.methodLink "DateValeLaw" (158 : Nat) ({ cls := "DateValeModel", name := "rests", desc := "(IIII)I" } : Jvm.MethodName)) ∈ lw_all := lw_g (lw_at lw_m9 2 rfl) rfl
theorem q2040 : (Jvm.Cond.methodLink "DateValeLaw" (165 : Nat) ({ cls := "DateValeModel", name := "ages", desc := "(III)I" } : Jvm.MethodName)) ∈ lw_all := lw_g (lw_at lw_m9 9 rfl) rfl
theorem q2056 : (Jvm.Cond.methodLink "DateValeLaw" (170 : Nat) ({ cls := "DateValeModel", name := "mark", desc := "(IZ)Z" } : Jvm.MethodName)) ∈ lw_all := lw_g (lw_at lw_m9 25 rfl) rfl
theorem q2060 : (Jvm.Cond.methodLink "DateValeLaw" (174 : Nat) ({ cls := "DateValeModel", name := "count", desc := "(I)I" } : Jvm.MethodName)) ∈ lw_all := lw_g (lw_at lw_m9 29 rfl) rfl
theorem q2072 : (Jvm.Cond.constantLong "DateValeLaw" (19 : Nat) (4294967295 : Int64)) ∈ lw_all := lw_g (lw_at lw_m9 41 rfl) rfl
/-! DateVale$Reader -/
set_option maxRecDepth 100000
def RX2 : String := "DateVale$Reader"
def TX2 : u_T := fun k => match k with
  | 0 => ("DateVale$Reader", "text", "[B", false)
  | 1 => ("DateVale$Reader", "size", "I", false)
  | 2 => ("DateVale$Reader", "to", "I", false)
  | 3 => ("DateVale$Reader", "kind", "I", false)
  | 4 => ("DateVale$Reader", "from", "I", false)
  | 5 => ("DateVale$Reader", "value", "I", false)
  | 6 => ("DateVale$Reader", "within", "I", false)
  | _ => ("DateVale$Reader", "vale", "LDateVale$Vale;", false)
def tyX2 : Nat → FieldType := fun k => match k with
  | 0 => .array .byte
  | 1 => .int
  | 2 => .int
  | 3 => .int
  | 4 => .int
  | 5 => .int
  | 6 => .int
  | _ => .object "DateVale$Vale"
abbrev wsX20 : List Cond := u_ws RX2 TX2 8
theorem nmX2 : ∀ a, a < 8 → ∀ b, b < 8 → a ≠ b → (TX2 a).2.1 ≠ (TX2 b).2.1 := by decide +kernel
theorem tyX2_ok : ∀ k, k < 8 → parseFieldDescriptor (TX2 k).2.2.1 = some (tyX2 k) := by decide +kernel
abbrev cX2_init : ByteArray := prog_16_method_1_code
def yX2_init : MethodName := ⟨RX2, "<init>", "()V"⟩
theorem dX2_init_0 : decode cX2_init 0 = .ok (.aload_n 0, 1) := by decide +kernel
theorem dX2_init_1 : decode cX2_init 1 = .ok (.invokespecial 3, 3) := by decide +kernel
theorem dX2_init_4 : decode cX2_init 4 = .ok (.return_, 1) := by decide +kernel
abbrev cX2_begin : ByteArray := prog_16_method_2_code
def yX2_begin : MethodName := ⟨RX2, "begin", "([BI)V"⟩
def dkwX2_begin_1 : List UInt8 := [177]
abbrev dktX2_begin_1 : List UInt8 := dkwX2_begin_1 ++ []
def dkwX2_begin_0 : List UInt8 := [42, 43, 181, 0, 9, 42, 28, 181, 0, 15, 42, 3, 181, 0, 19, 42, 3, 181, 0, 22, 42, 182, 0, 25]
abbrev dktX2_begin_0 : List UInt8 := dkwX2_begin_0 ++ dktX2_begin_1
theorem dksX2_begin_0 : cX2_begin.data.toList.drop 0 = dktX2_begin_0 := by decide +kernel
theorem dksX2_begin_1 : cX2_begin.data.toList.drop 24 = dktX2_begin_1 := dk_seg dksX2_begin_0 24 rfl rfl
theorem dX2_begin_0 : decode cX2_begin 0 = .ok (.aload_n 0, 1) := dk_42 (dk_at dksX2_begin_0 0 rfl rfl)
theorem dX2_begin_1 : decode cX2_begin 1 = .ok (.aload_n 1, 1) := dk_43 (dk_at dksX2_begin_0 1 rfl rfl)
theorem dX2_begin_2 : decode cX2_begin 2 = .ok (.putfield 9, 3) := dk_181 0 9 (dk_at dksX2_begin_0 2 rfl rfl)
theorem dX2_begin_5 : decode cX2_begin 5 = .ok (.aload_n 0, 1) := dk_42 (dk_at dksX2_begin_0 5 rfl rfl)
theorem dX2_begin_6 : decode cX2_begin 6 = .ok (.iload_n 2, 1) := dk_28 (dk_at dksX2_begin_0 6 rfl rfl)
theorem dX2_begin_7 : decode cX2_begin 7 = .ok (.putfield 15, 3) := dk_181 0 15 (dk_at dksX2_begin_0 7 rfl rfl)
theorem dX2_begin_10 : decode cX2_begin 10 = .ok (.aload_n 0, 1) := dk_42 (dk_at dksX2_begin_0 10 rfl rfl)
theorem dX2_begin_11 : decode cX2_begin 11 = .ok (.iconst 0, 1) := dk_3 (dk_at dksX2_begin_0 11 rfl rfl)
theorem dX2_begin_12 : decode cX2_begin 12 = .ok (.putfield 19, 3) := dk_181 0 19 (dk_at dksX2_begin_0 12 rfl rfl)
theorem dX2_begin_15 : decode cX2_begin 15 = .ok (.aload_n 0, 1) := dk_42 (dk_at dksX2_begin_0 15 rfl rfl)
theorem dX2_begin_16 : decode cX2_begin 16 = .ok (.iconst 0, 1) := dk_3 (dk_at dksX2_begin_0 16 rfl rfl)
theorem dX2_begin_17 : decode cX2_begin 17 = .ok (.putfield 22, 3) := dk_181 0 22 (dk_at dksX2_begin_0 17 rfl rfl)
theorem dX2_begin_20 : decode cX2_begin 20 = .ok (.aload_n 0, 1) := dk_42 (dk_at dksX2_begin_0 20 rfl rfl)
theorem dX2_begin_21 : decode cX2_begin 21 = .ok (.invokevirtual 25, 3) := dk_182 0 25 (dk_at dksX2_begin_0 21 rfl rfl)
theorem dX2_begin_24 : decode cX2_begin 24 = .ok (.return_, 1) := dk_177 (dk_at dksX2_begin_1 0 rfl rfl)
abbrev cX2_next : ByteArray := prog_16_method_6_code
def yX2_next : MethodName := ⟨RX2, "next", "()V"⟩
def dkwX2_next_12 : List UInt8 := [6, 167, 0, 4, 7, 181, 0, 31, 42, 89, 180, 0, 19, 4, 96, 181, 0, 19, 177]
abbrev dktX2_next_12 : List UInt8 := dkwX2_next_12 ++ []
def dkwX2_next_11 : List UInt8 := [181, 0, 31, 167, 0, 39, 42, 18, 48, 42, 42, 180, 0, 19, 182, 0, 34, 146, 182, 0, 50, 155, 0, 7]
abbrev dktX2_next_11 : List UInt8 := dkwX2_next_11 ++ dktX2_next_12
def dkwX2_next_10 : List UInt8 := [167, 255, 189, 42, 42, 180, 0, 19, 42, 180, 0, 28, 100, 7, 164, 0, 7, 7, 167, 0, 4, 5]
abbrev dktX2_next_10 : List UInt8 := dkwX2_next_10 ++ dktX2_next_11
def dkwX2_next_9 : List UInt8 := [96, 16, 48, 100, 167, 0, 7, 42, 180, 0, 45, 181, 0, 45, 42, 89, 180, 0, 19, 4, 96, 181, 0, 19]
abbrev dktX2_next_9 : List UInt8 := dkwX2_next_9 ++ dktX2_next_10
def dkwX2_next_8 : List UInt8 := [42, 180, 0, 28, 100, 7, 162, 0, 25, 16, 10, 42, 180, 0, 45, 104, 42, 42, 180, 0, 19, 182, 0, 34]
abbrev dktX2_next_8 : List UInt8 := dkwX2_next_8 ++ dktX2_next_9
def dkwX2_next_7 : List UInt8 := [42, 3, 181, 0, 45, 42, 42, 180, 0, 19, 182, 0, 34, 184, 0, 42, 153, 0, 59, 42, 42, 180, 0, 19]
abbrev dktX2_next_7 : List UInt8 := dkwX2_next_7 ++ dktX2_next_8
def dkwX2_next_6 : List UInt8 := [167, 0, 4, 4, 181, 0, 31, 167, 0, 153, 42, 42, 180, 0, 19, 182, 0, 34, 184, 0, 42, 153, 0, 103]
abbrev dktX2_next_6 : List UInt8 := dkwX2_next_6 ++ dktX2_next_7
def dkwX2_next_5 : List UInt8 := [181, 0, 19, 167, 255, 232, 42, 42, 180, 0, 19, 42, 180, 0, 28, 100, 16, 8, 164, 0, 7, 7]
abbrev dktX2_next_5 : List UInt8 := dkwX2_next_5 ++ dktX2_next_6
def dkwX2_next_4 : List UInt8 := [153, 0, 56, 42, 42, 180, 0, 19, 182, 0, 34, 184, 0, 38, 153, 0, 16, 42, 89, 180, 0, 19, 4, 96]
abbrev dktX2_next_4 : List UInt8 := dkwX2_next_4 ++ dktX2_next_5
def dkwX2_next_3 : List UInt8 := [160, 0, 11, 42, 3, 181, 0, 31, 167, 0, 220, 42, 42, 180, 0, 19, 182, 0, 34, 184, 0, 38]
abbrev dktX2_next_3 : List UInt8 := dkwX2_next_3 ++ dktX2_next_4
def dkwX2_next_2 : List UInt8 := [181, 0, 19, 167, 255, 207, 42, 42, 180, 0, 19, 181, 0, 28, 42, 180, 0, 19, 42, 180, 0, 15]
abbrev dktX2_next_2 : List UInt8 := dkwX2_next_2 ++ dktX2_next_3
def dkwX2_next_1 : List UInt8 := [159, 0, 17, 42, 180, 0, 9, 42, 180, 0, 19, 51, 16, 32, 160, 0, 16, 42, 89, 180, 0, 19, 4, 96]
abbrev dktX2_next_1 : List UInt8 := dkwX2_next_1 ++ dktX2_next_2
def dkwX2_next_0 : List UInt8 := [42, 180, 0, 19, 42, 180, 0, 15, 162, 0, 44, 42, 180, 0, 9, 42, 180, 0, 19, 51, 16, 10]
abbrev dktX2_next_0 : List UInt8 := dkwX2_next_0 ++ dktX2_next_1
theorem dksX2_next_0 : cX2_next.data.toList.drop 0 = dktX2_next_0 := by decide +kernel
theorem dksX2_next_1 : cX2_next.data.toList.drop 22 = dktX2_next_1 := dk_seg dksX2_next_0 22 rfl rfl
theorem dksX2_next_2 : cX2_next.data.toList.drop 46 = dktX2_next_2 := dk_seg dksX2_next_1 24 rfl rfl
theorem dksX2_next_3 : cX2_next.data.toList.drop 68 = dktX2_next_3 := dk_seg dksX2_next_2 22 rfl rfl
theorem dksX2_next_4 : cX2_next.data.toList.drop 90 = dktX2_next_4 := dk_seg dksX2_next_3 22 rfl rfl
theorem dksX2_next_5 : cX2_next.data.toList.drop 114 = dktX2_next_5 := dk_seg dksX2_next_4 24 rfl rfl
theorem dksX2_next_6 : cX2_next.data.toList.drop 136 = dktX2_next_6 := dk_seg dksX2_next_5 22 rfl rfl
theorem dksX2_next_7 : cX2_next.data.toList.drop 160 = dktX2_next_7 := dk_seg dksX2_next_6 24 rfl rfl
theorem dksX2_next_8 : cX2_next.data.toList.drop 184 = dktX2_next_8 := dk_seg dksX2_next_7 24 rfl rfl
theorem dksX2_next_9 : cX2_next.data.toList.drop 208 = dktX2_next_9 := dk_seg dksX2_next_8 24 rfl rfl
theorem dksX2_next_10 : cX2_next.data.toList.drop 232 = dktX2_next_10 := dk_seg dksX2_next_9 24 rfl rfl
theorem dksX2_next_11 : cX2_next.data.toList.drop 254 = dktX2_next_11 := dk_seg dksX2_next_10 22 rfl rfl
theorem dksX2_next_12 : cX2_next.data.toList.drop 278 = dktX2_next_12 := dk_seg dksX2_next_11 24 rfl rfl
theorem dX2_next_0 : decode cX2_next 0 = .ok (.aload_n 0, 1) := dk_42 (dk_at dksX2_next_0 0 rfl rfl)
theorem dX2_next_1 : decode cX2_next 1 = .ok (.getfield 19, 3) := dk_180 0 19 (dk_at dksX2_next_0 1 rfl rfl)
theorem dX2_next_4 : decode cX2_next 4 = .ok (.aload_n 0, 1) := dk_42 (dk_at dksX2_next_0 4 rfl rfl)
theorem dX2_next_5 : decode cX2_next 5 = .ok (.getfield 15, 3) := dk_180 0 15 (dk_at dksX2_next_0 5 rfl rfl)
theorem dX2_next_8 : decode cX2_next 8 = .ok (.if_icmp .ge 44, 3) := dk_162 0 44 (dk_at dksX2_next_0 8 rfl rfl)
theorem dX2_next_11 : decode cX2_next 11 = .ok (.aload_n 0, 1) := dk_42 (dk_at dksX2_next_0 11 rfl rfl)
theorem dX2_next_12 : decode cX2_next 12 = .ok (.getfield 9, 3) := dk_180 0 9 (dk_at dksX2_next_0 12 rfl rfl)
theorem dX2_next_15 : decode cX2_next 15 = .ok (.aload_n 0, 1) := dk_42 (dk_at dksX2_next_0 15 rfl rfl)
theorem dX2_next_16 : decode cX2_next 16 = .ok (.getfield 19, 3) := dk_180 0 19 (dk_at dksX2_next_0 16 rfl rfl)
theorem dX2_next_19 : decode cX2_next 19 = .ok (.baload, 1) := dk_51 (dk_at dksX2_next_0 19 rfl rfl)
theorem dX2_next_20 : decode cX2_next 20 = .ok (.bipush 10, 2) := dk_16 10 (dk_at dksX2_next_0 20 rfl rfl)
theorem dX2_next_22 : decode cX2_next 22 = .ok (.if_icmp .eq 17, 3) := dk_159 0 17 (dk_at dksX2_next_1 0 rfl rfl)
theorem dX2_next_25 : decode cX2_next 25 = .ok (.aload_n 0, 1) := dk_42 (dk_at dksX2_next_1 3 rfl rfl)
theorem dX2_next_26 : decode cX2_next 26 = .ok (.getfield 9, 3) := dk_180 0 9 (dk_at dksX2_next_1 4 rfl rfl)
theorem dX2_next_29 : decode cX2_next 29 = .ok (.aload_n 0, 1) := dk_42 (dk_at dksX2_next_1 7 rfl rfl)
theorem dX2_next_30 : decode cX2_next 30 = .ok (.getfield 19, 3) := dk_180 0 19 (dk_at dksX2_next_1 8 rfl rfl)
theorem dX2_next_33 : decode cX2_next 33 = .ok (.baload, 1) := dk_51 (dk_at dksX2_next_1 11 rfl rfl)
theorem dX2_next_34 : decode cX2_next 34 = .ok (.bipush 32, 2) := dk_16 32 (dk_at dksX2_next_1 12 rfl rfl)
theorem dX2_next_36 : decode cX2_next 36 = .ok (.if_icmp .ne 16, 3) := dk_160 0 16 (dk_at dksX2_next_1 14 rfl rfl)
theorem dX2_next_39 : decode cX2_next 39 = .ok (.aload_n 0, 1) := dk_42 (dk_at dksX2_next_1 17 rfl rfl)
theorem dX2_next_40 : decode cX2_next 40 = .ok (.dup, 1) := dk_89 (dk_at dksX2_next_1 18 rfl rfl)
theorem dX2_next_41 : decode cX2_next 41 = .ok (.getfield 19, 3) := dk_180 0 19 (dk_at dksX2_next_1 19 rfl rfl)
theorem dX2_next_44 : decode cX2_next 44 = .ok (.iconst 1, 1) := dk_4 (dk_at dksX2_next_1 22 rfl rfl)
theorem dX2_next_45 : decode cX2_next 45 = .ok (.iadd, 1) := dk_96 (dk_at dksX2_next_1 23 rfl rfl)
theorem dX2_next_46 : decode cX2_next 46 = .ok (.putfield 19, 3) := dk_181 0 19 (dk_at dksX2_next_2 0 rfl rfl)
theorem dX2_next_49 : decode cX2_next 49 = .ok (.goto (-49), 3) := dk_167 255 207 (dk_at dksX2_next_2 3 rfl rfl)
theorem dX2_next_52 : decode cX2_next 52 = .ok (.aload_n 0, 1) := dk_42 (dk_at dksX2_next_2 6 rfl rfl)
theorem dX2_next_53 : decode cX2_next 53 = .ok (.aload_n 0, 1) := dk_42 (dk_at dksX2_next_2 7 rfl rfl)
theorem dX2_next_54 : decode cX2_next 54 = .ok (.getfield 19, 3) := dk_180 0 19 (dk_at dksX2_next_2 8 rfl rfl)
theorem dX2_next_57 : decode cX2_next 57 = .ok (.putfield 28, 3) := dk_181 0 28 (dk_at dksX2_next_2 11 rfl rfl)
theorem dX2_next_60 : decode cX2_next 60 = .ok (.aload_n 0, 1) := dk_42 (dk_at dksX2_next_2 14 rfl rfl)
theorem dX2_next_61 : decode cX2_next 61 = .ok (.getfield 19, 3) := dk_180 0 19 (dk_at dksX2_next_2 15 rfl rfl)
theorem dX2_next_64 : decode cX2_next 64 = .ok (.aload_n 0, 1) := dk_42 (dk_at dksX2_next_2 18 rfl rfl)
theorem dX2_next_65 : decode cX2_next 65 = .ok (.getfield 15, 3) := dk_180 0 15 (dk_at dksX2_next_2 19 rfl rfl)
theorem dX2_next_68 : decode cX2_next 68 = .ok (.if_icmp .ne 11, 3) := dk_160 0 11 (dk_at dksX2_next_3 0 rfl rfl)
theorem dX2_next_71 : decode cX2_next 71 = .ok (.aload_n 0, 1) := dk_42 (dk_at dksX2_next_3 3 rfl rfl)
theorem dX2_next_72 : decode cX2_next 72 = .ok (.iconst 0, 1) := dk_3 (dk_at dksX2_next_3 4 rfl rfl)
theorem dX2_next_73 : decode cX2_next 73 = .ok (.putfield 31, 3) := dk_181 0 31 (dk_at dksX2_next_3 5 rfl rfl)
theorem dX2_next_76 : decode cX2_next 76 = .ok (.goto 220, 3) := dk_167 0 220 (dk_at dksX2_next_3 8 rfl rfl)
theorem dX2_next_79 : decode cX2_next 79 = .ok (.aload_n 0, 1) := dk_42 (dk_at dksX2_next_3 11 rfl rfl)
theorem dX2_next_80 : decode cX2_next 80 = .ok (.aload_n 0, 1) := dk_42 (dk_at dksX2_next_3 12 rfl rfl)
theorem dX2_next_81 : decode cX2_next 81 = .ok (.getfield 19, 3) := dk_180 0 19 (dk_at dksX2_next_3 13 rfl rfl)
theorem dX2_next_84 : decode cX2_next 84 = .ok (.invokevirtual 34, 3) := dk_182 0 34 (dk_at dksX2_next_3 16 rfl rfl)
theorem dX2_next_87 : decode cX2_next 87 = .ok (.invokestatic 38, 3) := dk_184 0 38 (dk_at dksX2_next_3 19 rfl rfl)
theorem dX2_next_90 : decode cX2_next 90 = .ok (.ifCond .eq 56, 3) := dk_153 0 56 (dk_at dksX2_next_4 0 rfl rfl)
theorem dX2_next_93 : decode cX2_next 93 = .ok (.aload_n 0, 1) := dk_42 (dk_at dksX2_next_4 3 rfl rfl)
theorem dX2_next_94 : decode cX2_next 94 = .ok (.aload_n 0, 1) := dk_42 (dk_at dksX2_next_4 4 rfl rfl)
theorem dX2_next_95 : decode cX2_next 95 = .ok (.getfield 19, 3) := dk_180 0 19 (dk_at dksX2_next_4 5 rfl rfl)
theorem dX2_next_98 : decode cX2_next 98 = .ok (.invokevirtual 34, 3) := dk_182 0 34 (dk_at dksX2_next_4 8 rfl rfl)
theorem dX2_next_101 : decode cX2_next 101 = .ok (.invokestatic 38, 3) := dk_184 0 38 (dk_at dksX2_next_4 11 rfl rfl)
theorem dX2_next_104 : decode cX2_next 104 = .ok (.ifCond .eq 16, 3) := dk_153 0 16 (dk_at dksX2_next_4 14 rfl rfl)
theorem dX2_next_107 : decode cX2_next 107 = .ok (.aload_n 0, 1) := dk_42 (dk_at dksX2_next_4 17 rfl rfl)
theorem dX2_next_108 : decode cX2_next 108 = .ok (.dup, 1) := dk_89 (dk_at dksX2_next_4 18 rfl rfl)
theorem dX2_next_109 : decode cX2_next 109 = .ok (.getfield 19, 3) := dk_180 0 19 (dk_at dksX2_next_4 19 rfl rfl)
theorem dX2_next_112 : decode cX2_next 112 = .ok (.iconst 1, 1) := dk_4 (dk_at dksX2_next_4 22 rfl rfl)
theorem dX2_next_113 : decode cX2_next 113 = .ok (.iadd, 1) := dk_96 (dk_at dksX2_next_4 23 rfl rfl)
theorem dX2_next_114 : decode cX2_next 114 = .ok (.putfield 19, 3) := dk_181 0 19 (dk_at dksX2_next_5 0 rfl rfl)
theorem dX2_next_117 : decode cX2_next 117 = .ok (.goto (-24), 3) := dk_167 255 232 (dk_at dksX2_next_5 3 rfl rfl)
theorem dX2_next_120 : decode cX2_next 120 = .ok (.aload_n 0, 1) := dk_42 (dk_at dksX2_next_5 6 rfl rfl)
theorem dX2_next_121 : decode cX2_next 121 = .ok (.aload_n 0, 1) := dk_42 (dk_at dksX2_next_5 7 rfl rfl)
theorem dX2_next_122 : decode cX2_next 122 = .ok (.getfield 19, 3) := dk_180 0 19 (dk_at dksX2_next_5 8 rfl rfl)
theorem dX2_next_125 : decode cX2_next 125 = .ok (.aload_n 0, 1) := dk_42 (dk_at dksX2_next_5 11 rfl rfl)
theorem dX2_next_126 : decode cX2_next 126 = .ok (.getfield 28, 3) := dk_180 0 28 (dk_at dksX2_next_5 12 rfl rfl)
theorem dX2_next_129 : decode cX2_next 129 = .ok (.isub, 1) := dk_100 (dk_at dksX2_next_5 15 rfl rfl)
theorem dX2_next_130 : decode cX2_next 130 = .ok (.bipush 8, 2) := dk_16 8 (dk_at dksX2_next_5 16 rfl rfl)
theorem dX2_next_132 : decode cX2_next 132 = .ok (.if_icmp .le 7, 3) := dk_164 0 7 (dk_at dksX2_next_5 18 rfl rfl)
theorem dX2_next_135 : decode cX2_next 135 = .ok (.iconst 4, 1) := dk_7 (dk_at dksX2_next_5 21 rfl rfl)
theorem dX2_next_136 : decode cX2_next 136 = .ok (.goto 4, 3) := dk_167 0 4 (dk_at dksX2_next_6 0 rfl rfl)
theorem dX2_next_139 : decode cX2_next 139 = .ok (.iconst 1, 1) := dk_4 (dk_at dksX2_next_6 3 rfl rfl)
theorem dX2_next_140 : decode cX2_next 140 = .ok (.putfield 31, 3) := dk_181 0 31 (dk_at dksX2_next_6 4 rfl rfl)
theorem dX2_next_143 : decode cX2_next 143 = .ok (.goto 153, 3) := dk_167 0 153 (dk_at dksX2_next_6 7 rfl rfl)
theorem dX2_next_146 : decode cX2_next 146 = .ok (.aload_n 0, 1) := dk_42 (dk_at dksX2_next_6 10 rfl rfl)
theorem dX2_next_147 : decode cX2_next 147 = .ok (.aload_n 0, 1) := dk_42 (dk_at dksX2_next_6 11 rfl rfl)
theorem dX2_next_148 : decode cX2_next 148 = .ok (.getfield 19, 3) := dk_180 0 19 (dk_at dksX2_next_6 12 rfl rfl)
theorem dX2_next_151 : decode cX2_next 151 = .ok (.invokevirtual 34, 3) := dk_182 0 34 (dk_at dksX2_next_6 15 rfl rfl)
theorem dX2_next_154 : decode cX2_next 154 = .ok (.invokestatic 42, 3) := dk_184 0 42 (dk_at dksX2_next_6 18 rfl rfl)
theorem dX2_next_157 : decode cX2_next 157 = .ok (.ifCond .eq 103, 3) := dk_153 0 103 (dk_at dksX2_next_6 21 rfl rfl)
theorem dX2_next_160 : decode cX2_next 160 = .ok (.aload_n 0, 1) := dk_42 (dk_at dksX2_next_7 0 rfl rfl)
theorem dX2_next_161 : decode cX2_next 161 = .ok (.iconst 0, 1) := dk_3 (dk_at dksX2_next_7 1 rfl rfl)
theorem dX2_next_162 : decode cX2_next 162 = .ok (.putfield 45, 3) := dk_181 0 45 (dk_at dksX2_next_7 2 rfl rfl)
theorem dX2_next_165 : decode cX2_next 165 = .ok (.aload_n 0, 1) := dk_42 (dk_at dksX2_next_7 5 rfl rfl)
theorem dX2_next_166 : decode cX2_next 166 = .ok (.aload_n 0, 1) := dk_42 (dk_at dksX2_next_7 6 rfl rfl)
theorem dX2_next_167 : decode cX2_next 167 = .ok (.getfield 19, 3) := dk_180 0 19 (dk_at dksX2_next_7 7 rfl rfl)
theorem dX2_next_170 : decode cX2_next 170 = .ok (.invokevirtual 34, 3) := dk_182 0 34 (dk_at dksX2_next_7 10 rfl rfl)
theorem dX2_next_173 : decode cX2_next 173 = .ok (.invokestatic 42, 3) := dk_184 0 42 (dk_at dksX2_next_7 13 rfl rfl)
theorem dX2_next_176 : decode cX2_next 176 = .ok (.ifCond .eq 59, 3) := dk_153 0 59 (dk_at dksX2_next_7 16 rfl rfl)
theorem dX2_next_179 : decode cX2_next 179 = .ok (.aload_n 0, 1) := dk_42 (dk_at dksX2_next_7 19 rfl rfl)
theorem dX2_next_180 : decode cX2_next 180 = .ok (.aload_n 0, 1) := dk_42 (dk_at dksX2_next_7 20 rfl rfl)
theorem dX2_next_181 : decode cX2_next 181 = .ok (.getfield 19, 3) := dk_180 0 19 (dk_at dksX2_next_7 21 rfl rfl)
theorem dX2_next_184 : decode cX2_next 184 = .ok (.aload_n 0, 1) := dk_42 (dk_at dksX2_next_8 0 rfl rfl)
theorem dX2_next_185 : decode cX2_next 185 = .ok (.getfield 28, 3) := dk_180 0 28 (dk_at dksX2_next_8 1 rfl rfl)
theorem dX2_next_188 : decode cX2_next 188 = .ok (.isub, 1) := dk_100 (dk_at dksX2_next_8 4 rfl rfl)
theorem dX2_next_189 : decode cX2_next 189 = .ok (.iconst 4, 1) := dk_7 (dk_at dksX2_next_8 5 rfl rfl)
theorem dX2_next_190 : decode cX2_next 190 = .ok (.if_icmp .ge 25, 3) := dk_162 0 25 (dk_at dksX2_next_8 6 rfl rfl)
theorem dX2_next_193 : decode cX2_next 193 = .ok (.bipush 10, 2) := dk_16 10 (dk_at dksX2_next_8 9 rfl rfl)
theorem dX2_next_195 : decode cX2_next 195 = .ok (.aload_n 0, 1) := dk_42 (dk_at dksX2_next_8 11 rfl rfl)
theorem dX2_next_196 : decode cX2_next 196 = .ok (.getfield 45, 3) := dk_180 0 45 (dk_at dksX2_next_8 12 rfl rfl)
theorem dX2_next_199 : decode cX2_next 199 = .ok (.imul, 1) := dk_104 (dk_at dksX2_next_8 15 rfl rfl)
theorem dX2_next_200 : decode cX2_next 200 = .ok (.aload_n 0, 1) := dk_42 (dk_at dksX2_next_8 16 rfl rfl)
theorem dX2_next_201 : decode cX2_next 201 = .ok (.aload_n 0, 1) := dk_42 (dk_at dksX2_next_8 17 rfl rfl)
theorem dX2_next_202 : decode cX2_next 202 = .ok (.getfield 19, 3) := dk_180 0 19 (dk_at dksX2_next_8 18 rfl rfl)
theorem dX2_next_205 : decode cX2_next 205 = .ok (.invokevirtual 34, 3) := dk_182 0 34 (dk_at dksX2_next_8 21 rfl rfl)
theorem dX2_next_208 : decode cX2_next 208 = .ok (.iadd, 1) := dk_96 (dk_at dksX2_next_9 0 rfl rfl)
theorem dX2_next_209 : decode cX2_next 209 = .ok (.bipush 48, 2) := dk_16 48 (dk_at dksX2_next_9 1 rfl rfl)
theorem dX2_next_211 : decode cX2_next 211 = .ok (.isub, 1) := dk_100 (dk_at dksX2_next_9 3 rfl rfl)
theorem dX2_next_212 : decode cX2_next 212 = .ok (.goto 7, 3) := dk_167 0 7 (dk_at dksX2_next_9 4 rfl rfl)
theorem dX2_next_215 : decode cX2_next 215 = .ok (.aload_n 0, 1) := dk_42 (dk_at dksX2_next_9 7 rfl rfl)
theorem dX2_next_216 : decode cX2_next 216 = .ok (.getfield 45, 3) := dk_180 0 45 (dk_at dksX2_next_9 8 rfl rfl)
theorem dX2_next_219 : decode cX2_next 219 = .ok (.putfield 45, 3) := dk_181 0 45 (dk_at dksX2_next_9 11 rfl rfl)
theorem dX2_next_222 : decode cX2_next 222 = .ok (.aload_n 0, 1) := dk_42 (dk_at dksX2_next_9 14 rfl rfl)
theorem dX2_next_223 : decode cX2_next 223 = .ok (.dup, 1) := dk_89 (dk_at dksX2_next_9 15 rfl rfl)
theorem dX2_next_224 : decode cX2_next 224 = .ok (.getfield 19, 3) := dk_180 0 19 (dk_at dksX2_next_9 16 rfl rfl)
theorem dX2_next_227 : decode cX2_next 227 = .ok (.iconst 1, 1) := dk_4 (dk_at dksX2_next_9 19 rfl rfl)
theorem dX2_next_228 : decode cX2_next 228 = .ok (.iadd, 1) := dk_96 (dk_at dksX2_next_9 20 rfl rfl)
theorem dX2_next_229 : decode cX2_next 229 = .ok (.putfield 19, 3) := dk_181 0 19 (dk_at dksX2_next_9 21 rfl rfl)
theorem dX2_next_232 : decode cX2_next 232 = .ok (.goto (-67), 3) := dk_167 255 189 (dk_at dksX2_next_10 0 rfl rfl)
theorem dX2_next_235 : decode cX2_next 235 = .ok (.aload_n 0, 1) := dk_42 (dk_at dksX2_next_10 3 rfl rfl)
theorem dX2_next_236 : decode cX2_next 236 = .ok (.aload_n 0, 1) := dk_42 (dk_at dksX2_next_10 4 rfl rfl)
theorem dX2_next_237 : decode cX2_next 237 = .ok (.getfield 19, 3) := dk_180 0 19 (dk_at dksX2_next_10 5 rfl rfl)
theorem dX2_next_240 : decode cX2_next 240 = .ok (.aload_n 0, 1) := dk_42 (dk_at dksX2_next_10 8 rfl rfl)
theorem dX2_next_241 : decode cX2_next 241 = .ok (.getfield 28, 3) := dk_180 0 28 (dk_at dksX2_next_10 9 rfl rfl)
theorem dX2_next_244 : decode cX2_next 244 = .ok (.isub, 1) := dk_100 (dk_at dksX2_next_10 12 rfl rfl)
theorem dX2_next_245 : decode cX2_next 245 = .ok (.iconst 4, 1) := dk_7 (dk_at dksX2_next_10 13 rfl rfl)
theorem dX2_next_246 : decode cX2_next 246 = .ok (.if_icmp .le 7, 3) := dk_164 0 7 (dk_at dksX2_next_10 14 rfl rfl)
theorem dX2_next_249 : decode cX2_next 249 = .ok (.iconst 4, 1) := dk_7 (dk_at dksX2_next_10 17 rfl rfl)
theorem dX2_next_250 : decode cX2_next 250 = .ok (.goto 4, 3) := dk_167 0 4 (dk_at dksX2_next_10 18 rfl rfl)
theorem dX2_next_253 : decode cX2_next 253 = .ok (.iconst 2, 1) := dk_5 (dk_at dksX2_next_10 21 rfl rfl)
theorem dX2_next_254 : decode cX2_next 254 = .ok (.putfield 31, 3) := dk_181 0 31 (dk_at dksX2_next_11 0 rfl rfl)
theorem dX2_next_257 : decode cX2_next 257 = .ok (.goto 39, 3) := dk_167 0 39 (dk_at dksX2_next_11 3 rfl rfl)
theorem dX2_next_260 : decode cX2_next 260 = .ok (.aload_n 0, 1) := dk_42 (dk_at dksX2_next_11 6 rfl rfl)
theorem dX2_next_261 : decode cX2_next 261 = .ok (.ldc 48, 2) := dk_18 48 (dk_at dksX2_next_11 7 rfl rfl)
theorem dX2_next_263 : decode cX2_next 263 = .ok (.aload_n 0, 1) := dk_42 (dk_at dksX2_next_11 9 rfl rfl)
theorem dX2_next_264 : decode cX2_next 264 = .ok (.aload_n 0, 1) := dk_42 (dk_at dksX2_next_11 10 rfl rfl)
theorem dX2_next_265 : decode cX2_next 265 = .ok (.getfield 19, 3) := dk_180 0 19 (dk_at dksX2_next_11 11 rfl rfl)
theorem dX2_next_268 : decode cX2_next 268 = .ok (.invokevirtual 34, 3) := dk_182 0 34 (dk_at dksX2_next_11 14 rfl rfl)
theorem dX2_next_271 : decode cX2_next 271 = .ok (.i2c, 1) := dk_146 (dk_at dksX2_next_11 17 rfl rfl)
theorem dX2_next_272 : decode cX2_next 272 = .ok (.invokevirtual 50, 3) := dk_182 0 50 (dk_at dksX2_next_11 18 rfl rfl)
theorem dX2_next_275 : decode cX2_next 275 = .ok (.ifCond .lt 7, 3) := dk_155 0 7 (dk_at dksX2_next_11 21 rfl rfl)
theorem dX2_next_278 : decode cX2_next 278 = .ok (.iconst 3, 1) := dk_6 (dk_at dksX2_next_12 0 rfl rfl)
theorem dX2_next_279 : decode cX2_next 279 = .ok (.goto 4, 3) := dk_167 0 4 (dk_at dksX2_next_12 1 rfl rfl)
theorem dX2_next_282 : decode cX2_next 282 = .ok (.iconst 4, 1) := dk_7 (dk_at dksX2_next_12 4 rfl rfl)
theorem dX2_next_283 : decode cX2_next 283 = .ok (.putfield 31, 3) := dk_181 0 31 (dk_at dksX2_next_12 5 rfl rfl)
theorem dX2_next_286 : decode cX2_next 286 = .ok (.aload_n 0, 1) := dk_42 (dk_at dksX2_next_12 8 rfl rfl)
theorem dX2_next_287 : decode cX2_next 287 = .ok (.dup, 1) := dk_89 (dk_at dksX2_next_12 9 rfl rfl)
theorem dX2_next_288 : decode cX2_next 288 = .ok (.getfield 19, 3) := dk_180 0 19 (dk_at dksX2_next_12 10 rfl rfl)
theorem dX2_next_291 : decode cX2_next 291 = .ok (.iconst 1, 1) := dk_4 (dk_at dksX2_next_12 13 rfl rfl)
theorem dX2_next_292 : decode cX2_next 292 = .ok (.iadd, 1) := dk_96 (dk_at dksX2_next_12 14 rfl rfl)
theorem dX2_next_293 : decode cX2_next 293 = .ok (.putfield 19, 3) := dk_181 0 19 (dk_at dksX2_next_12 15 rfl rfl)
theorem dX2_next_296 : decode cX2_next 296 = .ok (.return_, 1) := dk_177 (dk_at dksX2_next_12 18 rfl rfl)
abbrev cX2_at : ByteArray := prog_16_method_3_code
def yX2_at : MethodName := ⟨RX2, "at", "(I)I"⟩
def dkwX2_at_0 : List UInt8 := [27, 42, 180, 0, 15, 162, 0, 12, 42, 180, 0, 9, 27, 51, 167, 0, 4, 3, 172]
abbrev dktX2_at_0 : List UInt8 := dkwX2_at_0 ++ []
theorem dksX2_at_0 : cX2_at.data.toList.drop 0 = dktX2_at_0 := by decide +kernel
theorem dX2_at_0 : decode cX2_at 0 = .ok (.iload_n 1, 1) := dk_27 (dk_at dksX2_at_0 0 rfl rfl)
theorem dX2_at_1 : decode cX2_at 1 = .ok (.aload_n 0, 1) := dk_42 (dk_at dksX2_at_0 1 rfl rfl)
theorem dX2_at_2 : decode cX2_at 2 = .ok (.getfield 15, 3) := dk_180 0 15 (dk_at dksX2_at_0 2 rfl rfl)
theorem dX2_at_5 : decode cX2_at 5 = .ok (.if_icmp .ge 12, 3) := dk_162 0 12 (dk_at dksX2_at_0 5 rfl rfl)
theorem dX2_at_8 : decode cX2_at 8 = .ok (.aload_n 0, 1) := dk_42 (dk_at dksX2_at_0 8 rfl rfl)
theorem dX2_at_9 : decode cX2_at 9 = .ok (.getfield 9, 3) := dk_180 0 9 (dk_at dksX2_at_0 9 rfl rfl)
theorem dX2_at_12 : decode cX2_at 12 = .ok (.iload_n 1, 1) := dk_27 (dk_at dksX2_at_0 12 rfl rfl)
theorem dX2_at_13 : decode cX2_at 13 = .ok (.baload, 1) := dk_51 (dk_at dksX2_at_0 13 rfl rfl)
theorem dX2_at_14 : decode cX2_at 14 = .ok (.goto 4, 3) := dk_167 0 4 (dk_at dksX2_at_0 14 rfl rfl)
theorem dX2_at_17 : decode cX2_at 17 = .ok (.iconst 0, 1) := dk_3 (dk_at dksX2_at_0 17 rfl rfl)
theorem dX2_at_18 : decode cX2_at 18 = .ok (.ireturn, 1) := dk_172 (dk_at dksX2_at_0 18 rfl rfl)
abbrev cX2_isLetter : ByteArray := prog_16_method_4_code
def yX2_isLetter : MethodName := ⟨RX2, "isLetter", "(I)Z"⟩
def dkwX2_isLetter_0 : List UInt8 := [26, 16, 97, 161, 0, 13, 26, 16, 122, 163, 0, 7, 4, 167, 0, 4, 3, 172]
abbrev dktX2_isLetter_0 : List UInt8 := dkwX2_isLetter_0 ++ []
theorem dksX2_isLetter_0 : cX2_isLetter.data.toList.drop 0 = dktX2_isLetter_0 := by decide +kernel
theorem dX2_isLetter_0 : decode cX2_isLetter 0 = .ok (.iload_n 0, 1) := dk_26 (dk_at dksX2_isLetter_0 0 rfl rfl)
theorem dX2_isLetter_1 : decode cX2_isLetter 1 = .ok (.bipush 97, 2) := dk_16 97 (dk_at dksX2_isLetter_0 1 rfl rfl)
theorem dX2_isLetter_3 : decode cX2_isLetter 3 = .ok (.if_icmp .lt 13, 3) := dk_161 0 13 (dk_at dksX2_isLetter_0 3 rfl rfl)
theorem dX2_isLetter_6 : decode cX2_isLetter 6 = .ok (.iload_n 0, 1) := dk_26 (dk_at dksX2_isLetter_0 6 rfl rfl)
theorem dX2_isLetter_7 : decode cX2_isLetter 7 = .ok (.bipush 122, 2) := dk_16 122 (dk_at dksX2_isLetter_0 7 rfl rfl)
theorem dX2_isLetter_9 : decode cX2_isLetter 9 = .ok (.if_icmp .gt 7, 3) := dk_163 0 7 (dk_at dksX2_isLetter_0 9 rfl rfl)
theorem dX2_isLetter_12 : decode cX2_isLetter 12 = .ok (.iconst 1, 1) := dk_4 (dk_at dksX2_isLetter_0 12 rfl rfl)
theorem dX2_isLetter_13 : decode cX2_isLetter 13 = .ok (.goto 4, 3) := dk_167 0 4 (dk_at dksX2_isLetter_0 13 rfl rfl)
theorem dX2_isLetter_16 : decode cX2_isLetter 16 = .ok (.iconst 0, 1) := dk_3 (dk_at dksX2_isLetter_0 16 rfl rfl)
theorem dX2_isLetter_17 : decode cX2_isLetter 17 = .ok (.ireturn, 1) := dk_172 (dk_at dksX2_isLetter_0 17 rfl rfl)
abbrev cX2_isDigit : ByteArray := prog_16_method_5_code
def yX2_isDigit : MethodName := ⟨RX2, "isDigit", "(I)Z"⟩
def dkwX2_isDigit_0 : List UInt8 := [26, 16, 48, 161, 0, 13, 26, 16, 57, 163, 0, 7, 4, 167, 0, 4, 3, 172]
abbrev dktX2_isDigit_0 : List UInt8 := dkwX2_isDigit_0 ++ []
theorem dksX2_isDigit_0 : cX2_isDigit.data.toList.drop 0 = dktX2_isDigit_0 := by decide +kernel
theorem dX2_isDigit_0 : decode cX2_isDigit 0 = .ok (.iload_n 0, 1) := dk_26 (dk_at dksX2_isDigit_0 0 rfl rfl)
theorem dX2_isDigit_1 : decode cX2_isDigit 1 = .ok (.bipush 48, 2) := dk_16 48 (dk_at dksX2_isDigit_0 1 rfl rfl)
theorem dX2_isDigit_3 : decode cX2_isDigit 3 = .ok (.if_icmp .lt 13, 3) := dk_161 0 13 (dk_at dksX2_isDigit_0 3 rfl rfl)
theorem dX2_isDigit_6 : decode cX2_isDigit 6 = .ok (.iload_n 0, 1) := dk_26 (dk_at dksX2_isDigit_0 6 rfl rfl)
theorem dX2_isDigit_7 : decode cX2_isDigit 7 = .ok (.bipush 57, 2) := dk_16 57 (dk_at dksX2_isDigit_0 7 rfl rfl)
theorem dX2_isDigit_9 : decode cX2_isDigit 9 = .ok (.if_icmp .gt 7, 3) := dk_163 0 7 (dk_at dksX2_isDigit_0 9 rfl rfl)
theorem dX2_isDigit_12 : decode cX2_isDigit 12 = .ok (.iconst 1, 1) := dk_4 (dk_at dksX2_isDigit_0 12 rfl rfl)
theorem dX2_isDigit_13 : decode cX2_isDigit 13 = .ok (.goto 4, 3) := dk_167 0 4 (dk_at dksX2_isDigit_0 13 rfl rfl)
theorem dX2_isDigit_16 : decode cX2_isDigit 16 = .ok (.iconst 0, 1) := dk_3 (dk_at dksX2_isDigit_0 16 rfl rfl)
theorem dX2_isDigit_17 : decode cX2_isDigit 17 = .ok (.ireturn, 1) := dk_172 (dk_at dksX2_isDigit_0 17 rfl rfl)
abbrev cX2_vale : ByteArray := prog_16_method_19_code
def yX2_vale : MethodName := ⟨RX2, "vale", "()LDateVale$Vale;"⟩
def dkwX2_vale_5 : List UInt8 := [42, 27, 182, 0, 144, 42, 16, 59, 182, 0, 147, 167, 255, 137, 42, 180, 0, 101, 176]
abbrev dktX2_vale_5 : List UInt8 := dkwX2_vale_5 ++ []
def dkwX2_vale_4 : List UInt8 := [180, 0, 101, 180, 0, 141, 182, 0, 137, 16, 6, 160, 0, 9, 42, 8, 182, 0, 75, 191, 42, 182, 0, 25]
abbrev dktX2_vale_4 : List UInt8 := dkwX2_vale_4 ++ dktX2_vale_5
def dkwX2_vale_3 : List UInt8 := [27, 154, 0, 17, 42, 180, 0, 101, 180, 0, 133, 182, 0, 137, 7, 159, 0, 23, 27, 5, 160, 0, 24, 42]
abbrev dktX2_vale_3 : List UInt8 := dkwX2_vale_3 ++ dktX2_vale_4
def dkwX2_vale_2 : List UInt8 := [156, 0, 18, 27, 8, 160, 0, 19, 42, 180, 0, 101, 180, 0, 129, 198, 0, 9, 42, 6, 182, 0, 75, 191]
abbrev dktX2_vale_2 : List UInt8 := dkwX2_vale_2 ++ dktX2_vale_3
def dkwX2_vale_1 : List UInt8 := [60, 27, 156, 0, 9, 42, 4, 182, 0, 75, 191, 27, 7, 160, 0, 13, 42, 180, 0, 101, 180, 0, 126]
abbrev dktX2_vale_1 : List UInt8 := dkwX2_vale_1 ++ dktX2_vale_2
def dkwX2_vale_0 : List UInt8 := [42, 187, 0, 106, 89, 183, 0, 123, 181, 0, 101, 42, 180, 0, 31, 153, 0, 118, 42, 18, 124, 182, 0, 71]
abbrev dktX2_vale_0 : List UInt8 := dkwX2_vale_0 ++ dktX2_vale_1
theorem dksX2_vale_0 : cX2_vale.data.toList.drop 0 = dktX2_vale_0 := by decide +kernel
theorem dksX2_vale_1 : cX2_vale.data.toList.drop 24 = dktX2_vale_1 := dk_seg dksX2_vale_0 24 rfl rfl
theorem dksX2_vale_2 : cX2_vale.data.toList.drop 47 = dktX2_vale_2 := dk_seg dksX2_vale_1 23 rfl rfl
theorem dksX2_vale_3 : cX2_vale.data.toList.drop 71 = dktX2_vale_3 := dk_seg dksX2_vale_2 24 rfl rfl
theorem dksX2_vale_4 : cX2_vale.data.toList.drop 95 = dktX2_vale_4 := dk_seg dksX2_vale_3 24 rfl rfl
theorem dksX2_vale_5 : cX2_vale.data.toList.drop 119 = dktX2_vale_5 := dk_seg dksX2_vale_4 24 rfl rfl
theorem dX2_vale_0 : decode cX2_vale 0 = .ok (.aload_n 0, 1) := dk_42 (dk_at dksX2_vale_0 0 rfl rfl)
theorem dX2_vale_1 : decode cX2_vale 1 = .ok (.new 106, 3) := dk_187 0 106 (dk_at dksX2_vale_0 1 rfl rfl)
theorem dX2_vale_4 : decode cX2_vale 4 = .ok (.dup, 1) := dk_89 (dk_at dksX2_vale_0 4 rfl rfl)
theorem dX2_vale_5 : decode cX2_vale 5 = .ok (.invokespecial 123, 3) := dk_183 0 123 (dk_at dksX2_vale_0 5 rfl rfl)
theorem dX2_vale_8 : decode cX2_vale 8 = .ok (.putfield 101, 3) := dk_181 0 101 (dk_at dksX2_vale_0 8 rfl rfl)
theorem dX2_vale_11 : decode cX2_vale 11 = .ok (.aload_n 0, 1) := dk_42 (dk_at dksX2_vale_0 11 rfl rfl)
theorem dX2_vale_12 : decode cX2_vale 12 = .ok (.getfield 31, 3) := dk_180 0 31 (dk_at dksX2_vale_0 12 rfl rfl)
theorem dX2_vale_15 : decode cX2_vale 15 = .ok (.ifCond .eq 118, 3) := dk_153 0 118 (dk_at dksX2_vale_0 15 rfl rfl)
theorem dX2_vale_18 : decode cX2_vale 18 = .ok (.aload_n 0, 1) := dk_42 (dk_at dksX2_vale_0 18 rfl rfl)
theorem dX2_vale_19 : decode cX2_vale 19 = .ok (.ldc 124, 2) := dk_18 124 (dk_at dksX2_vale_0 19 rfl rfl)
theorem dX2_vale_21 : decode cX2_vale 21 = .ok (.invokevirtual 71, 3) := dk_182 0 71 (dk_at dksX2_vale_0 21 rfl rfl)
theorem dX2_vale_24 : decode cX2_vale 24 = .ok (.istore_n 1, 1) := dk_60 (dk_at dksX2_vale_1 0 rfl rfl)
theorem dX2_vale_25 : decode cX2_vale 25 = .ok (.iload_n 1, 1) := dk_27 (dk_at dksX2_vale_1 1 rfl rfl)
theorem dX2_vale_26 : decode cX2_vale 26 = .ok (.ifCond .ge 9, 3) := dk_156 0 9 (dk_at dksX2_vale_1 2 rfl rfl)
theorem dX2_vale_29 : decode cX2_vale 29 = .ok (.aload_n 0, 1) := dk_42 (dk_at dksX2_vale_1 5 rfl rfl)
theorem dX2_vale_30 : decode cX2_vale 30 = .ok (.iconst 1, 1) := dk_4 (dk_at dksX2_vale_1 6 rfl rfl)
theorem dX2_vale_31 : decode cX2_vale 31 = .ok (.invokevirtual 75, 3) := dk_182 0 75 (dk_at dksX2_vale_1 7 rfl rfl)
theorem dX2_vale_34 : decode cX2_vale 34 = .ok (.athrow, 1) := dk_191 (dk_at dksX2_vale_1 10 rfl rfl)
theorem dX2_vale_35 : decode cX2_vale 35 = .ok (.iload_n 1, 1) := dk_27 (dk_at dksX2_vale_1 11 rfl rfl)
theorem dX2_vale_36 : decode cX2_vale 36 = .ok (.iconst 4, 1) := dk_7 (dk_at dksX2_vale_1 12 rfl rfl)
theorem dX2_vale_37 : decode cX2_vale 37 = .ok (.if_icmp .ne 13, 3) := dk_160 0 13 (dk_at dksX2_vale_1 13 rfl rfl)
theorem dX2_vale_40 : decode cX2_vale 40 = .ok (.aload_n 0, 1) := dk_42 (dk_at dksX2_vale_1 16 rfl rfl)
theorem dX2_vale_41 : decode cX2_vale 41 = .ok (.getfield 101, 3) := dk_180 0 101 (dk_at dksX2_vale_1 17 rfl rfl)
theorem dX2_vale_44 : decode cX2_vale 44 = .ok (.getfield 126, 3) := dk_180 0 126 (dk_at dksX2_vale_1 20 rfl rfl)
theorem dX2_vale_47 : decode cX2_vale 47 = .ok (.ifCond .ge 18, 3) := dk_156 0 18 (dk_at dksX2_vale_2 0 rfl rfl)
theorem dX2_vale_50 : decode cX2_vale 50 = .ok (.iload_n 1, 1) := dk_27 (dk_at dksX2_vale_2 3 rfl rfl)
theorem dX2_vale_51 : decode cX2_vale 51 = .ok (.iconst 5, 1) := dk_8 (dk_at dksX2_vale_2 4 rfl rfl)
theorem dX2_vale_52 : decode cX2_vale 52 = .ok (.if_icmp .ne 19, 3) := dk_160 0 19 (dk_at dksX2_vale_2 5 rfl rfl)
theorem dX2_vale_55 : decode cX2_vale 55 = .ok (.aload_n 0, 1) := dk_42 (dk_at dksX2_vale_2 8 rfl rfl)
theorem dX2_vale_56 : decode cX2_vale 56 = .ok (.getfield 101, 3) := dk_180 0 101 (dk_at dksX2_vale_2 9 rfl rfl)
theorem dX2_vale_59 : decode cX2_vale 59 = .ok (.getfield 129, 3) := dk_180 0 129 (dk_at dksX2_vale_2 12 rfl rfl)
theorem dX2_vale_62 : decode cX2_vale 62 = .ok (.ifnull 9, 3) := dk_198 0 9 (dk_at dksX2_vale_2 15 rfl rfl)
theorem dX2_vale_65 : decode cX2_vale 65 = .ok (.aload_n 0, 1) := dk_42 (dk_at dksX2_vale_2 18 rfl rfl)
theorem dX2_vale_66 : decode cX2_vale 66 = .ok (.iconst 3, 1) := dk_6 (dk_at dksX2_vale_2 19 rfl rfl)
theorem dX2_vale_67 : decode cX2_vale 67 = .ok (.invokevirtual 75, 3) := dk_182 0 75 (dk_at dksX2_vale_2 20 rfl rfl)
theorem dX2_vale_70 : decode cX2_vale 70 = .ok (.athrow, 1) := dk_191 (dk_at dksX2_vale_2 23 rfl rfl)
theorem dX2_vale_71 : decode cX2_vale 71 = .ok (.iload_n 1, 1) := dk_27 (dk_at dksX2_vale_3 0 rfl rfl)
theorem dX2_vale_72 : decode cX2_vale 72 = .ok (.ifCond .ne 17, 3) := dk_154 0 17 (dk_at dksX2_vale_3 1 rfl rfl)
theorem dX2_vale_75 : decode cX2_vale 75 = .ok (.aload_n 0, 1) := dk_42 (dk_at dksX2_vale_3 4 rfl rfl)
theorem dX2_vale_76 : decode cX2_vale 76 = .ok (.getfield 101, 3) := dk_180 0 101 (dk_at dksX2_vale_3 5 rfl rfl)
theorem dX2_vale_79 : decode cX2_vale 79 = .ok (.getfield 133, 3) := dk_180 0 133 (dk_at dksX2_vale_3 8 rfl rfl)
theorem dX2_vale_82 : decode cX2_vale 82 = .ok (.invokevirtual 137, 3) := dk_182 0 137 (dk_at dksX2_vale_3 11 rfl rfl)
theorem dX2_vale_85 : decode cX2_vale 85 = .ok (.iconst 4, 1) := dk_7 (dk_at dksX2_vale_3 14 rfl rfl)
theorem dX2_vale_86 : decode cX2_vale 86 = .ok (.if_icmp .eq 23, 3) := dk_159 0 23 (dk_at dksX2_vale_3 15 rfl rfl)
theorem dX2_vale_89 : decode cX2_vale 89 = .ok (.iload_n 1, 1) := dk_27 (dk_at dksX2_vale_3 18 rfl rfl)
theorem dX2_vale_90 : decode cX2_vale 90 = .ok (.iconst 2, 1) := dk_5 (dk_at dksX2_vale_3 19 rfl rfl)
theorem dX2_vale_91 : decode cX2_vale 91 = .ok (.if_icmp .ne 24, 3) := dk_160 0 24 (dk_at dksX2_vale_3 20 rfl rfl)
theorem dX2_vale_94 : decode cX2_vale 94 = .ok (.aload_n 0, 1) := dk_42 (dk_at dksX2_vale_3 23 rfl rfl)
theorem dX2_vale_95 : decode cX2_vale 95 = .ok (.getfield 101, 3) := dk_180 0 101 (dk_at dksX2_vale_4 0 rfl rfl)
theorem dX2_vale_98 : decode cX2_vale 98 = .ok (.getfield 141, 3) := dk_180 0 141 (dk_at dksX2_vale_4 3 rfl rfl)
theorem dX2_vale_101 : decode cX2_vale 101 = .ok (.invokevirtual 137, 3) := dk_182 0 137 (dk_at dksX2_vale_4 6 rfl rfl)
theorem dX2_vale_104 : decode cX2_vale 104 = .ok (.bipush 6, 2) := dk_16 6 (dk_at dksX2_vale_4 9 rfl rfl)
theorem dX2_vale_106 : decode cX2_vale 106 = .ok (.if_icmp .ne 9, 3) := dk_160 0 9 (dk_at dksX2_vale_4 11 rfl rfl)
theorem dX2_vale_109 : decode cX2_vale 109 = .ok (.aload_n 0, 1) := dk_42 (dk_at dksX2_vale_4 14 rfl rfl)
theorem dX2_vale_110 : decode cX2_vale 110 = .ok (.iconst 5, 1) := dk_8 (dk_at dksX2_vale_4 15 rfl rfl)
theorem dX2_vale_111 : decode cX2_vale 111 = .ok (.invokevirtual 75, 3) := dk_182 0 75 (dk_at dksX2_vale_4 16 rfl rfl)
theorem dX2_vale_114 : decode cX2_vale 114 = .ok (.athrow, 1) := dk_191 (dk_at dksX2_vale_4 19 rfl rfl)
theorem dX2_vale_115 : decode cX2_vale 115 = .ok (.aload_n 0, 1) := dk_42 (dk_at dksX2_vale_4 20 rfl rfl)
theorem dX2_vale_116 : decode cX2_vale 116 = .ok (.invokevirtual 25, 3) := dk_182 0 25 (dk_at dksX2_vale_4 21 rfl rfl)
theorem dX2_vale_119 : decode cX2_vale 119 = .ok (.aload_n 0, 1) := dk_42 (dk_at dksX2_vale_5 0 rfl rfl)
theorem dX2_vale_120 : decode cX2_vale 120 = .ok (.iload_n 1, 1) := dk_27 (dk_at dksX2_vale_5 1 rfl rfl)
theorem dX2_vale_121 : decode cX2_vale 121 = .ok (.invokevirtual 144, 3) := dk_182 0 144 (dk_at dksX2_vale_5 2 rfl rfl)
theorem dX2_vale_124 : decode cX2_vale 124 = .ok (.aload_n 0, 1) := dk_42 (dk_at dksX2_vale_5 5 rfl rfl)
theorem dX2_vale_125 : decode cX2_vale 125 = .ok (.bipush 59, 2) := dk_16 59 (dk_at dksX2_vale_5 6 rfl rfl)
theorem dX2_vale_127 : decode cX2_vale 127 = .ok (.invokevirtual 147, 3) := dk_182 0 147 (dk_at dksX2_vale_5 8 rfl rfl)
theorem dX2_vale_130 : decode cX2_vale 130 = .ok (.goto (-119), 3) := dk_167 255 137 (dk_at dksX2_vale_5 11 rfl rfl)
theorem dX2_vale_133 : decode cX2_vale 133 = .ok (.aload_n 0, 1) := dk_42 (dk_at dksX2_vale_5 14 rfl rfl)
theorem dX2_vale_134 : decode cX2_vale 134 = .ok (.getfield 101, 3) := dk_180 0 101 (dk_at dksX2_vale_5 15 rfl rfl)
theorem dX2_vale_137 : decode cX2_vale 137 = .ok (.areturn, 1) := dk_176 (dk_at dksX2_vale_5 18 rfl rfl)
abbrev cX2_which : ByteArray := prog_16_method_8_code
def yX2_which : MethodName := ⟨RX2, "which", "(Ljava/lang/String;)I"⟩
def dkwX2_which_5 : List UInt8 := [96, 62, 132, 2, 1, 167, 255, 140, 2, 172]
abbrev dktX2_which_5 : List UInt8 := dkwX2_which_5 ++ []
def dkwX2_which_4 : List UInt8 := [167, 0, 4, 3, 54, 5, 132, 6, 1, 167, 255, 211, 21, 5, 153, 0, 5, 28, 172, 29, 21, 4, 4, 96]
abbrev dktX2_which_4 : List UInt8 := dkwX2_which_4 ++ dktX2_which_5
def dkwX2_which_3 : List UInt8 := [180, 0, 9, 42, 180, 0, 28, 21, 6, 96, 51, 43, 29, 21, 6, 96, 182, 0, 67, 160, 0, 7, 4]
abbrev dktX2_which_3 : List UInt8 := dkwX2_which_3 ++ dktX2_which_4
def dkwX2_which_2 : List UInt8 := [167, 0, 4, 3, 54, 5, 3, 54, 6, 21, 5, 153, 0, 46, 21, 6, 21, 4, 162, 0, 39, 42]
abbrev dktX2_which_2 : List UInt8 := dkwX2_which_2 ++ dktX2_which_3
def dkwX2_which_1 : List UInt8 := [182, 0, 64, 29, 100, 54, 4, 42, 180, 0, 19, 42, 180, 0, 28, 100, 21, 4, 160, 0, 7, 4]
abbrev dktX2_which_1 : List UInt8 := dkwX2_which_1 ++ dktX2_which_2
def dkwX2_which_0 : List UInt8 := [3, 61, 3, 62, 29, 43, 182, 0, 60, 162, 0, 114, 42, 180, 0, 31, 4, 160, 0, 106, 43, 16, 32, 29]
abbrev dktX2_which_0 : List UInt8 := dkwX2_which_0 ++ dktX2_which_1
theorem dksX2_which_0 : cX2_which.data.toList.drop 0 = dktX2_which_0 := by decide +kernel
theorem dksX2_which_1 : cX2_which.data.toList.drop 24 = dktX2_which_1 := dk_seg dksX2_which_0 24 rfl rfl
theorem dksX2_which_2 : cX2_which.data.toList.drop 46 = dktX2_which_2 := dk_seg dksX2_which_1 22 rfl rfl
theorem dksX2_which_3 : cX2_which.data.toList.drop 68 = dktX2_which_3 := dk_seg dksX2_which_2 22 rfl rfl
theorem dksX2_which_4 : cX2_which.data.toList.drop 91 = dktX2_which_4 := dk_seg dksX2_which_3 23 rfl rfl
theorem dksX2_which_5 : cX2_which.data.toList.drop 115 = dktX2_which_5 := dk_seg dksX2_which_4 24 rfl rfl
theorem dX2_which_0 : decode cX2_which 0 = .ok (.iconst 0, 1) := dk_3 (dk_at dksX2_which_0 0 rfl rfl)
theorem dX2_which_1 : decode cX2_which 1 = .ok (.istore_n 2, 1) := dk_61 (dk_at dksX2_which_0 1 rfl rfl)
theorem dX2_which_2 : decode cX2_which 2 = .ok (.iconst 0, 1) := dk_3 (dk_at dksX2_which_0 2 rfl rfl)
theorem dX2_which_3 : decode cX2_which 3 = .ok (.istore_n 3, 1) := dk_62 (dk_at dksX2_which_0 3 rfl rfl)
theorem dX2_which_4 : decode cX2_which 4 = .ok (.iload_n 3, 1) := dk_29 (dk_at dksX2_which_0 4 rfl rfl)
theorem dX2_which_5 : decode cX2_which 5 = .ok (.aload_n 1, 1) := dk_43 (dk_at dksX2_which_0 5 rfl rfl)
theorem dX2_which_6 : decode cX2_which 6 = .ok (.invokevirtual 60, 3) := dk_182 0 60 (dk_at dksX2_which_0 6 rfl rfl)
theorem dX2_which_9 : decode cX2_which 9 = .ok (.if_icmp .ge 114, 3) := dk_162 0 114 (dk_at dksX2_which_0 9 rfl rfl)
theorem dX2_which_12 : decode cX2_which 12 = .ok (.aload_n 0, 1) := dk_42 (dk_at dksX2_which_0 12 rfl rfl)
theorem dX2_which_13 : decode cX2_which 13 = .ok (.getfield 31, 3) := dk_180 0 31 (dk_at dksX2_which_0 13 rfl rfl)
theorem dX2_which_16 : decode cX2_which 16 = .ok (.iconst 1, 1) := dk_4 (dk_at dksX2_which_0 16 rfl rfl)
theorem dX2_which_17 : decode cX2_which 17 = .ok (.if_icmp .ne 106, 3) := dk_160 0 106 (dk_at dksX2_which_0 17 rfl rfl)
theorem dX2_which_20 : decode cX2_which 20 = .ok (.aload_n 1, 1) := dk_43 (dk_at dksX2_which_0 20 rfl rfl)
theorem dX2_which_21 : decode cX2_which 21 = .ok (.bipush 32, 2) := dk_16 32 (dk_at dksX2_which_0 21 rfl rfl)
theorem dX2_which_23 : decode cX2_which 23 = .ok (.iload_n 3, 1) := dk_29 (dk_at dksX2_which_0 23 rfl rfl)
theorem dX2_which_24 : decode cX2_which 24 = .ok (.invokevirtual 64, 3) := dk_182 0 64 (dk_at dksX2_which_1 0 rfl rfl)
theorem dX2_which_27 : decode cX2_which 27 = .ok (.iload_n 3, 1) := dk_29 (dk_at dksX2_which_1 3 rfl rfl)
theorem dX2_which_28 : decode cX2_which 28 = .ok (.isub, 1) := dk_100 (dk_at dksX2_which_1 4 rfl rfl)
theorem dX2_which_29 : decode cX2_which 29 = .ok (.istore 4, 2) := dk_54 4 (dk_at dksX2_which_1 5 rfl rfl)
theorem dX2_which_31 : decode cX2_which 31 = .ok (.aload_n 0, 1) := dk_42 (dk_at dksX2_which_1 7 rfl rfl)
theorem dX2_which_32 : decode cX2_which 32 = .ok (.getfield 19, 3) := dk_180 0 19 (dk_at dksX2_which_1 8 rfl rfl)
theorem dX2_which_35 : decode cX2_which 35 = .ok (.aload_n 0, 1) := dk_42 (dk_at dksX2_which_1 11 rfl rfl)
theorem dX2_which_36 : decode cX2_which 36 = .ok (.getfield 28, 3) := dk_180 0 28 (dk_at dksX2_which_1 12 rfl rfl)
theorem dX2_which_39 : decode cX2_which 39 = .ok (.isub, 1) := dk_100 (dk_at dksX2_which_1 15 rfl rfl)
theorem dX2_which_40 : decode cX2_which 40 = .ok (.iload 4, 2) := dk_21 4 (dk_at dksX2_which_1 16 rfl rfl)
theorem dX2_which_42 : decode cX2_which 42 = .ok (.if_icmp .ne 7, 3) := dk_160 0 7 (dk_at dksX2_which_1 18 rfl rfl)
theorem dX2_which_45 : decode cX2_which 45 = .ok (.iconst 1, 1) := dk_4 (dk_at dksX2_which_1 21 rfl rfl)
theorem dX2_which_46 : decode cX2_which 46 = .ok (.goto 4, 3) := dk_167 0 4 (dk_at dksX2_which_2 0 rfl rfl)
theorem dX2_which_49 : decode cX2_which 49 = .ok (.iconst 0, 1) := dk_3 (dk_at dksX2_which_2 3 rfl rfl)
theorem dX2_which_50 : decode cX2_which 50 = .ok (.istore 5, 2) := dk_54 5 (dk_at dksX2_which_2 4 rfl rfl)
theorem dX2_which_52 : decode cX2_which 52 = .ok (.iconst 0, 1) := dk_3 (dk_at dksX2_which_2 6 rfl rfl)
theorem dX2_which_53 : decode cX2_which 53 = .ok (.istore 6, 2) := dk_54 6 (dk_at dksX2_which_2 7 rfl rfl)
theorem dX2_which_55 : decode cX2_which 55 = .ok (.iload 5, 2) := dk_21 5 (dk_at dksX2_which_2 9 rfl rfl)
theorem dX2_which_57 : decode cX2_which 57 = .ok (.ifCond .eq 46, 3) := dk_153 0 46 (dk_at dksX2_which_2 11 rfl rfl)
theorem dX2_which_60 : decode cX2_which 60 = .ok (.iload 6, 2) := dk_21 6 (dk_at dksX2_which_2 14 rfl rfl)
theorem dX2_which_62 : decode cX2_which 62 = .ok (.iload 4, 2) := dk_21 4 (dk_at dksX2_which_2 16 rfl rfl)
theorem dX2_which_64 : decode cX2_which 64 = .ok (.if_icmp .ge 39, 3) := dk_162 0 39 (dk_at dksX2_which_2 18 rfl rfl)
theorem dX2_which_67 : decode cX2_which 67 = .ok (.aload_n 0, 1) := dk_42 (dk_at dksX2_which_2 21 rfl rfl)
theorem dX2_which_68 : decode cX2_which 68 = .ok (.getfield 9, 3) := dk_180 0 9 (dk_at dksX2_which_3 0 rfl rfl)
theorem dX2_which_71 : decode cX2_which 71 = .ok (.aload_n 0, 1) := dk_42 (dk_at dksX2_which_3 3 rfl rfl)
theorem dX2_which_72 : decode cX2_which 72 = .ok (.getfield 28, 3) := dk_180 0 28 (dk_at dksX2_which_3 4 rfl rfl)
theorem dX2_which_75 : decode cX2_which 75 = .ok (.iload 6, 2) := dk_21 6 (dk_at dksX2_which_3 7 rfl rfl)
theorem dX2_which_77 : decode cX2_which 77 = .ok (.iadd, 1) := dk_96 (dk_at dksX2_which_3 9 rfl rfl)
theorem dX2_which_78 : decode cX2_which 78 = .ok (.baload, 1) := dk_51 (dk_at dksX2_which_3 10 rfl rfl)
theorem dX2_which_79 : decode cX2_which 79 = .ok (.aload_n 1, 1) := dk_43 (dk_at dksX2_which_3 11 rfl rfl)
theorem dX2_which_80 : decode cX2_which 80 = .ok (.iload_n 3, 1) := dk_29 (dk_at dksX2_which_3 12 rfl rfl)
theorem dX2_which_81 : decode cX2_which 81 = .ok (.iload 6, 2) := dk_21 6 (dk_at dksX2_which_3 13 rfl rfl)
theorem dX2_which_83 : decode cX2_which 83 = .ok (.iadd, 1) := dk_96 (dk_at dksX2_which_3 15 rfl rfl)
theorem dX2_which_84 : decode cX2_which 84 = .ok (.invokevirtual 67, 3) := dk_182 0 67 (dk_at dksX2_which_3 16 rfl rfl)
theorem dX2_which_87 : decode cX2_which 87 = .ok (.if_icmp .ne 7, 3) := dk_160 0 7 (dk_at dksX2_which_3 19 rfl rfl)
theorem dX2_which_90 : decode cX2_which 90 = .ok (.iconst 1, 1) := dk_4 (dk_at dksX2_which_3 22 rfl rfl)
theorem dX2_which_91 : decode cX2_which 91 = .ok (.goto 4, 3) := dk_167 0 4 (dk_at dksX2_which_4 0 rfl rfl)
theorem dX2_which_94 : decode cX2_which 94 = .ok (.iconst 0, 1) := dk_3 (dk_at dksX2_which_4 3 rfl rfl)
theorem dX2_which_95 : decode cX2_which 95 = .ok (.istore 5, 2) := dk_54 5 (dk_at dksX2_which_4 4 rfl rfl)
theorem dX2_which_97 : decode cX2_which 97 = .ok (.iinc 6 1, 3) := dk_132 6 1 (dk_at dksX2_which_4 6 rfl rfl)
theorem dX2_which_100 : decode cX2_which 100 = .ok (.goto (-45), 3) := dk_167 255 211 (dk_at dksX2_which_4 9 rfl rfl)
theorem dX2_which_103 : decode cX2_which 103 = .ok (.iload 5, 2) := dk_21 5 (dk_at dksX2_which_4 12 rfl rfl)
theorem dX2_which_105 : decode cX2_which 105 = .ok (.ifCond .eq 5, 3) := dk_153 0 5 (dk_at dksX2_which_4 14 rfl rfl)
theorem dX2_which_108 : decode cX2_which 108 = .ok (.iload_n 2, 1) := dk_28 (dk_at dksX2_which_4 17 rfl rfl)
theorem dX2_which_109 : decode cX2_which 109 = .ok (.ireturn, 1) := dk_172 (dk_at dksX2_which_4 18 rfl rfl)
theorem dX2_which_110 : decode cX2_which 110 = .ok (.iload_n 3, 1) := dk_29 (dk_at dksX2_which_4 19 rfl rfl)
theorem dX2_which_111 : decode cX2_which 111 = .ok (.iload 4, 2) := dk_21 4 (dk_at dksX2_which_4 20 rfl rfl)
theorem dX2_which_113 : decode cX2_which 113 = .ok (.iconst 1, 1) := dk_4 (dk_at dksX2_which_4 22 rfl rfl)
theorem dX2_which_114 : decode cX2_which 114 = .ok (.iadd, 1) := dk_96 (dk_at dksX2_which_4 23 rfl rfl)
theorem dX2_which_115 : decode cX2_which 115 = .ok (.iadd, 1) := dk_96 (dk_at dksX2_which_5 0 rfl rfl)
theorem dX2_which_116 : decode cX2_which 116 = .ok (.istore_n 3, 1) := dk_62 (dk_at dksX2_which_5 1 rfl rfl)
theorem dX2_which_117 : decode cX2_which 117 = .ok (.iinc 2 1, 3) := dk_132 2 1 (dk_at dksX2_which_5 2 rfl rfl)
theorem dX2_which_120 : decode cX2_which 120 = .ok (.goto (-116), 3) := dk_167 255 140 (dk_at dksX2_which_5 5 rfl rfl)
theorem dX2_which_123 : decode cX2_which 123 = .ok (.iconst (-1), 1) := dk_2 (dk_at dksX2_which_5 8 rfl rfl)
theorem dX2_which_124 : decode cX2_which 124 = .ok (.ireturn, 1) := dk_172 (dk_at dksX2_which_5 9 rfl rfl)
abbrev cX2_wrong : ByteArray := prog_16_method_7_code
def yX2_wrong : MethodName := ⟨RX2, "wrong", "(I)LDateVale$Wrong;"⟩
def dkwX2_wrong_0 : List UInt8 := [187, 0, 55, 89, 27, 42, 180, 0, 28, 183, 0, 57, 176]
abbrev dktX2_wrong_0 : List UInt8 := dkwX2_wrong_0 ++ []
theorem dksX2_wrong_0 : cX2_wrong.data.toList.drop 0 = dktX2_wrong_0 := by decide +kernel
theorem dX2_wrong_0 : decode cX2_wrong 0 = .ok (.new 55, 3) := dk_187 0 55 (dk_at dksX2_wrong_0 0 rfl rfl)
theorem dX2_wrong_3 : decode cX2_wrong 3 = .ok (.dup, 1) := dk_89 (dk_at dksX2_wrong_0 3 rfl rfl)
theorem dX2_wrong_4 : decode cX2_wrong 4 = .ok (.iload_n 1, 1) := dk_27 (dk_at dksX2_wrong_0 4 rfl rfl)
theorem dX2_wrong_5 : decode cX2_wrong 5 = .ok (.aload_n 0, 1) := dk_42 (dk_at dksX2_wrong_0 5 rfl rfl)
theorem dX2_wrong_6 : decode cX2_wrong 6 = .ok (.getfield 28, 3) := dk_180 0 28 (dk_at dksX2_wrong_0 6 rfl rfl)
theorem dX2_wrong_9 : decode cX2_wrong 9 = .ok (.invokespecial 57, 3) := dk_183 0 57 (dk_at dksX2_wrong_0 9 rfl rfl)
theorem dX2_wrong_12 : decode cX2_wrong 12 = .ok (.areturn, 1) := dk_176 (dk_at dksX2_wrong_0 12 rfl rfl)
abbrev cX2_line : ByteArray := prog_16_method_20_code
def yX2_line : MethodName := ⟨RX2, "line", "(I)V"⟩
def dkwX2_line_16 : List UInt8 := [180, 0, 101, 42, 182, 0, 191, 181, 0, 129, 177]
abbrev dktX2_line_16 : List UInt8 := dkwX2_line_16 ++ []
def dkwX2_line_15 : List UInt8 := [181, 0, 188, 167, 0, 30, 42, 180, 0, 101, 42, 4, 7, 182, 0, 117, 181, 0, 126, 167, 0, 14, 42]
abbrev dktX2_line_15 : List UInt8 := dkwX2_line_15 ++ dktX2_line_16
def dkwX2_line_14 : List UInt8 := [42, 180, 0, 101, 180, 0, 141, 29, 182, 0, 172, 192, 0, 186, 89, 180, 0, 188, 4, 28, 120, 128]
abbrev dktX2_line_14 : List UInt8 := dkwX2_line_14 ++ dktX2_line_15
def dkwX2_line_13 : List UInt8 := [180, 0, 101, 180, 0, 141, 28, 182, 0, 172, 192, 0, 186, 89, 180, 0, 188, 4, 29, 120, 128, 181, 0, 188]
abbrev dktX2_line_13 : List UInt8 := dkwX2_line_13 ++ dktX2_line_14
def dkwX2_line_12 : List UInt8 := [192, 0, 186, 180, 0, 188, 29, 184, 0, 179, 153, 0, 9, 42, 6, 182, 0, 75, 191, 42, 182, 0, 25, 42]
abbrev dktX2_line_12 : List UInt8 := dkwX2_line_12 ++ dktX2_line_13
def dkwX2_line_11 : List UInt8 := [182, 0, 110, 182, 0, 120, 62, 28, 29, 159, 0, 27, 42, 180, 0, 101, 180, 0, 141, 28, 182, 0, 172]
abbrev dktX2_line_11 : List UInt8 := dkwX2_line_11 ++ dktX2_line_12
def dkwX2_line_10 : List UInt8 := [180, 0, 101, 42, 182, 0, 98, 182, 0, 110, 182, 0, 169, 61, 42, 42, 180, 0, 101, 42, 182, 0, 98]
abbrev dktX2_line_10 : List UInt8 := dkwX2_line_10 ++ dktX2_line_11
def dkwX2_line_9 : List UInt8 := [167, 0, 172, 42, 180, 0, 101, 180, 0, 141, 42, 182, 0, 183, 182, 0, 165, 87, 167, 0, 154, 42, 42]
abbrev dktX2_line_9 : List UInt8 := dkwX2_line_9 ++ dktX2_line_10
def dkwX2_line_8 : List UInt8 := [180, 0, 101, 180, 0, 133, 29, 182, 0, 172, 192, 0, 150, 89, 180, 0, 176, 4, 28, 120, 128, 181, 0, 176]
abbrev dktX2_line_8 : List UInt8 := dkwX2_line_8 ++ dktX2_line_9
def dkwX2_line_7 : List UInt8 := [180, 0, 133, 28, 182, 0, 172, 192, 0, 150, 89, 180, 0, 176, 4, 29, 120, 128, 181, 0, 176, 42]
abbrev dktX2_line_7 : List UInt8 := dkwX2_line_7 ++ dktX2_line_8
def dkwX2_line_6 : List UInt8 := [180, 0, 176, 29, 184, 0, 179, 153, 0, 9, 42, 6, 182, 0, 75, 191, 42, 182, 0, 25, 42, 180, 0, 101]
abbrev dktX2_line_6 : List UInt8 := dkwX2_line_6 ++ dktX2_line_7
def dkwX2_line_5 : List UInt8 := [182, 0, 120, 62, 28, 29, 159, 0, 27, 42, 180, 0, 101, 180, 0, 133, 28, 182, 0, 172, 192, 0, 150]
abbrev dktX2_line_5 : List UInt8 := dkwX2_line_5 ++ dktX2_line_6
def dkwX2_line_4 : List UInt8 := [182, 0, 98, 182, 0, 105, 182, 0, 169, 61, 42, 42, 180, 0, 101, 42, 182, 0, 98, 182, 0, 105]
abbrev dktX2_line_4 : List UInt8 := dkwX2_line_4 ++ dktX2_line_5
def dkwX2_line_3 : List UInt8 := [181, 0, 162, 42, 180, 0, 101, 180, 0, 133, 44, 182, 0, 165, 87, 167, 1, 40, 42, 42, 180, 0, 101, 42]
abbrev dktX2_line_3 : List UInt8 := dkwX2_line_3 ++ dktX2_line_4
def dkwX2_line_2 : List UInt8 := [187, 0, 150, 89, 42, 182, 0, 152, 183, 0, 155, 77, 44, 42, 18, 157, 4, 16, 6, 182, 0, 159]
abbrev dktX2_line_2 : List UInt8 := dkwX2_line_2 ++ dktX2_line_3
def dkwX2_line_1 : List UInt8 := [170, 0, 0, 0, 0, 1, 101, 0, 0, 0, 0, 0, 0, 0, 4, 0, 0, 0, 35, 0, 0, 0, 75, 0, 0, 0, 199, 0, 0, 0, 217, 0, 0, 1, 85]
abbrev dktX2_line_1 : List UInt8 := dkwX2_line_1 ++ dktX2_line_2
def dkwX2_line_0 : List UInt8 := [27]
abbrev dktX2_line_0 : List UInt8 := dkwX2_line_0 ++ dktX2_line_1
theorem dksX2_line_0 : cX2_line.data.toList.drop 0 = dktX2_line_0 := by decide +kernel
theorem dksX2_line_1 : cX2_line.data.toList.drop 1 = dktX2_line_1 := dk_seg dksX2_line_0 1 rfl rfl
theorem dksX2_line_2 : cX2_line.data.toList.drop 36 = dktX2_line_2 := dk_seg dksX2_line_1 35 rfl rfl
theorem dksX2_line_3 : cX2_line.data.toList.drop 58 = dktX2_line_3 := dk_seg dksX2_line_2 22 rfl rfl
theorem dksX2_line_4 : cX2_line.data.toList.drop 82 = dktX2_line_4 := dk_seg dksX2_line_3 24 rfl rfl
theorem dksX2_line_5 : cX2_line.data.toList.drop 104 = dktX2_line_5 := dk_seg dksX2_line_4 22 rfl rfl
theorem dksX2_line_6 : cX2_line.data.toList.drop 127 = dktX2_line_6 := dk_seg dksX2_line_5 23 rfl rfl
theorem dksX2_line_7 : cX2_line.data.toList.drop 151 = dktX2_line_7 := dk_seg dksX2_line_6 24 rfl rfl
theorem dksX2_line_8 : cX2_line.data.toList.drop 173 = dktX2_line_8 := dk_seg dksX2_line_7 22 rfl rfl
theorem dksX2_line_9 : cX2_line.data.toList.drop 197 = dktX2_line_9 := dk_seg dksX2_line_8 24 rfl rfl
theorem dksX2_line_10 : cX2_line.data.toList.drop 220 = dktX2_line_10 := dk_seg dksX2_line_9 23 rfl rfl
theorem dksX2_line_11 : cX2_line.data.toList.drop 243 = dktX2_line_11 := dk_seg dksX2_line_10 23 rfl rfl
theorem dksX2_line_12 : cX2_line.data.toList.drop 266 = dktX2_line_12 := dk_seg dksX2_line_11 23 rfl rfl
theorem dksX2_line_13 : cX2_line.data.toList.drop 290 = dktX2_line_13 := dk_seg dksX2_line_12 24 rfl rfl
theorem dksX2_line_14 : cX2_line.data.toList.drop 314 = dktX2_line_14 := dk_seg dksX2_line_13 24 rfl rfl
theorem dksX2_line_15 : cX2_line.data.toList.drop 336 = dktX2_line_15 := dk_seg dksX2_line_14 22 rfl rfl
theorem dksX2_line_16 : cX2_line.data.toList.drop 359 = dktX2_line_16 := dk_seg dksX2_line_15 23 rfl rfl
theorem dX2_line_0 : decode cX2_line 0 = .ok (.iload_n 1, 1) := dk_27 (dk_at dksX2_line_0 0 rfl rfl)
theorem dX2_line_1 : decode cX2_line 1 = .ok (.tableswitch 357 0 4 #[35, 75, 199, 217, 341], 35) := by decide +kernel
theorem dX2_line_36 : decode cX2_line 36 = .ok (.new 150, 3) := dk_187 0 150 (dk_at dksX2_line_2 0 rfl rfl)
theorem dX2_line_39 : decode cX2_line 39 = .ok (.dup, 1) := dk_89 (dk_at dksX2_line_2 3 rfl rfl)
theorem dX2_line_40 : decode cX2_line 40 = .ok (.aload_n 0, 1) := dk_42 (dk_at dksX2_line_2 4 rfl rfl)
theorem dX2_line_41 : decode cX2_line 41 = .ok (.invokevirtual 152, 3) := dk_182 0 152 (dk_at dksX2_line_2 5 rfl rfl)
theorem dX2_line_44 : decode cX2_line 44 = .ok (.invokespecial 155, 3) := dk_183 0 155 (dk_at dksX2_line_2 8 rfl rfl)
theorem dX2_line_47 : decode cX2_line 47 = .ok (.astore_n 2, 1) := dk_77 (dk_at dksX2_line_2 11 rfl rfl)
theorem dX2_line_48 : decode cX2_line 48 = .ok (.aload_n 2, 1) := dk_44 (dk_at dksX2_line_2 12 rfl rfl)
theorem dX2_line_49 : decode cX2_line 49 = .ok (.aload_n 0, 1) := dk_42 (dk_at dksX2_line_2 13 rfl rfl)
theorem dX2_line_50 : decode cX2_line 50 = .ok (.ldc 157, 2) := dk_18 157 (dk_at dksX2_line_2 14 rfl rfl)
theorem dX2_line_52 : decode cX2_line 52 = .ok (.iconst 1, 1) := dk_4 (dk_at dksX2_line_2 16 rfl rfl)
theorem dX2_line_53 : decode cX2_line 53 = .ok (.bipush 6, 2) := dk_16 6 (dk_at dksX2_line_2 17 rfl rfl)
theorem dX2_line_55 : decode cX2_line 55 = .ok (.invokevirtual 159, 3) := dk_182 0 159 (dk_at dksX2_line_2 19 rfl rfl)
theorem dX2_line_58 : decode cX2_line 58 = .ok (.putfield 162, 3) := dk_181 0 162 (dk_at dksX2_line_3 0 rfl rfl)
theorem dX2_line_61 : decode cX2_line 61 = .ok (.aload_n 0, 1) := dk_42 (dk_at dksX2_line_3 3 rfl rfl)
theorem dX2_line_62 : decode cX2_line 62 = .ok (.getfield 101, 3) := dk_180 0 101 (dk_at dksX2_line_3 4 rfl rfl)
theorem dX2_line_65 : decode cX2_line 65 = .ok (.getfield 133, 3) := dk_180 0 133 (dk_at dksX2_line_3 7 rfl rfl)
theorem dX2_line_68 : decode cX2_line 68 = .ok (.aload_n 2, 1) := dk_44 (dk_at dksX2_line_3 10 rfl rfl)
theorem dX2_line_69 : decode cX2_line 69 = .ok (.invokevirtual 165, 3) := dk_182 0 165 (dk_at dksX2_line_3 11 rfl rfl)
theorem dX2_line_72 : decode cX2_line 72 = .ok (.pop, 1) := dk_87 (dk_at dksX2_line_3 14 rfl rfl)
theorem dX2_line_73 : decode cX2_line 73 = .ok (.goto 296, 3) := dk_167 1 40 (dk_at dksX2_line_3 15 rfl rfl)
theorem dX2_line_76 : decode cX2_line 76 = .ok (.aload_n 0, 1) := dk_42 (dk_at dksX2_line_3 18 rfl rfl)
theorem dX2_line_77 : decode cX2_line 77 = .ok (.aload_n 0, 1) := dk_42 (dk_at dksX2_line_3 19 rfl rfl)
theorem dX2_line_78 : decode cX2_line 78 = .ok (.getfield 101, 3) := dk_180 0 101 (dk_at dksX2_line_3 20 rfl rfl)
theorem dX2_line_81 : decode cX2_line 81 = .ok (.aload_n 0, 1) := dk_42 (dk_at dksX2_line_3 23 rfl rfl)
theorem dX2_line_82 : decode cX2_line 82 = .ok (.invokevirtual 98, 3) := dk_182 0 98 (dk_at dksX2_line_4 0 rfl rfl)
theorem dX2_line_85 : decode cX2_line 85 = .ok (.invokevirtual 105, 3) := dk_182 0 105 (dk_at dksX2_line_4 3 rfl rfl)
theorem dX2_line_88 : decode cX2_line 88 = .ok (.invokevirtual 169, 3) := dk_182 0 169 (dk_at dksX2_line_4 6 rfl rfl)
theorem dX2_line_91 : decode cX2_line 91 = .ok (.istore_n 2, 1) := dk_61 (dk_at dksX2_line_4 9 rfl rfl)
theorem dX2_line_92 : decode cX2_line 92 = .ok (.aload_n 0, 1) := dk_42 (dk_at dksX2_line_4 10 rfl rfl)
theorem dX2_line_93 : decode cX2_line 93 = .ok (.aload_n 0, 1) := dk_42 (dk_at dksX2_line_4 11 rfl rfl)
theorem dX2_line_94 : decode cX2_line 94 = .ok (.getfield 101, 3) := dk_180 0 101 (dk_at dksX2_line_4 12 rfl rfl)
theorem dX2_line_97 : decode cX2_line 97 = .ok (.aload_n 0, 1) := dk_42 (dk_at dksX2_line_4 15 rfl rfl)
theorem dX2_line_98 : decode cX2_line 98 = .ok (.invokevirtual 98, 3) := dk_182 0 98 (dk_at dksX2_line_4 16 rfl rfl)
theorem dX2_line_101 : decode cX2_line 101 = .ok (.invokevirtual 105, 3) := dk_182 0 105 (dk_at dksX2_line_4 19 rfl rfl)
theorem dX2_line_104 : decode cX2_line 104 = .ok (.invokevirtual 120, 3) := dk_182 0 120 (dk_at dksX2_line_5 0 rfl rfl)
theorem dX2_line_107 : decode cX2_line 107 = .ok (.istore_n 3, 1) := dk_62 (dk_at dksX2_line_5 3 rfl rfl)
theorem dX2_line_108 : decode cX2_line 108 = .ok (.iload_n 2, 1) := dk_28 (dk_at dksX2_line_5 4 rfl rfl)
theorem dX2_line_109 : decode cX2_line 109 = .ok (.iload_n 3, 1) := dk_29 (dk_at dksX2_line_5 5 rfl rfl)
theorem dX2_line_110 : decode cX2_line 110 = .ok (.if_icmp .eq 27, 3) := dk_159 0 27 (dk_at dksX2_line_5 6 rfl rfl)
theorem dX2_line_113 : decode cX2_line 113 = .ok (.aload_n 0, 1) := dk_42 (dk_at dksX2_line_5 9 rfl rfl)
theorem dX2_line_114 : decode cX2_line 114 = .ok (.getfield 101, 3) := dk_180 0 101 (dk_at dksX2_line_5 10 rfl rfl)
theorem dX2_line_117 : decode cX2_line 117 = .ok (.getfield 133, 3) := dk_180 0 133 (dk_at dksX2_line_5 13 rfl rfl)
theorem dX2_line_120 : decode cX2_line 120 = .ok (.iload_n 2, 1) := dk_28 (dk_at dksX2_line_5 16 rfl rfl)
theorem dX2_line_121 : decode cX2_line 121 = .ok (.invokevirtual 172, 3) := dk_182 0 172 (dk_at dksX2_line_5 17 rfl rfl)
theorem dX2_line_124 : decode cX2_line 124 = .ok (.checkcast 150, 3) := dk_192 0 150 (dk_at dksX2_line_5 20 rfl rfl)
theorem dX2_line_127 : decode cX2_line 127 = .ok (.getfield 176, 3) := dk_180 0 176 (dk_at dksX2_line_6 0 rfl rfl)
theorem dX2_line_130 : decode cX2_line 130 = .ok (.iload_n 3, 1) := dk_29 (dk_at dksX2_line_6 3 rfl rfl)
theorem dX2_line_131 : decode cX2_line 131 = .ok (.invokestatic 179, 3) := dk_184 0 179 (dk_at dksX2_line_6 4 rfl rfl)
theorem dX2_line_134 : decode cX2_line 134 = .ok (.ifCond .eq 9, 3) := dk_153 0 9 (dk_at dksX2_line_6 7 rfl rfl)
theorem dX2_line_137 : decode cX2_line 137 = .ok (.aload_n 0, 1) := dk_42 (dk_at dksX2_line_6 10 rfl rfl)
theorem dX2_line_138 : decode cX2_line 138 = .ok (.iconst 3, 1) := dk_6 (dk_at dksX2_line_6 11 rfl rfl)
theorem dX2_line_139 : decode cX2_line 139 = .ok (.invokevirtual 75, 3) := dk_182 0 75 (dk_at dksX2_line_6 12 rfl rfl)
theorem dX2_line_142 : decode cX2_line 142 = .ok (.athrow, 1) := dk_191 (dk_at dksX2_line_6 15 rfl rfl)
theorem dX2_line_143 : decode cX2_line 143 = .ok (.aload_n 0, 1) := dk_42 (dk_at dksX2_line_6 16 rfl rfl)
theorem dX2_line_144 : decode cX2_line 144 = .ok (.invokevirtual 25, 3) := dk_182 0 25 (dk_at dksX2_line_6 17 rfl rfl)
theorem dX2_line_147 : decode cX2_line 147 = .ok (.aload_n 0, 1) := dk_42 (dk_at dksX2_line_6 20 rfl rfl)
theorem dX2_line_148 : decode cX2_line 148 = .ok (.getfield 101, 3) := dk_180 0 101 (dk_at dksX2_line_6 21 rfl rfl)
theorem dX2_line_151 : decode cX2_line 151 = .ok (.getfield 133, 3) := dk_180 0 133 (dk_at dksX2_line_7 0 rfl rfl)
theorem dX2_line_154 : decode cX2_line 154 = .ok (.iload_n 2, 1) := dk_28 (dk_at dksX2_line_7 3 rfl rfl)
theorem dX2_line_155 : decode cX2_line 155 = .ok (.invokevirtual 172, 3) := dk_182 0 172 (dk_at dksX2_line_7 4 rfl rfl)
theorem dX2_line_158 : decode cX2_line 158 = .ok (.checkcast 150, 3) := dk_192 0 150 (dk_at dksX2_line_7 7 rfl rfl)
theorem dX2_line_161 : decode cX2_line 161 = .ok (.dup, 1) := dk_89 (dk_at dksX2_line_7 10 rfl rfl)
theorem dX2_line_162 : decode cX2_line 162 = .ok (.getfield 176, 3) := dk_180 0 176 (dk_at dksX2_line_7 11 rfl rfl)
theorem dX2_line_165 : decode cX2_line 165 = .ok (.iconst 1, 1) := dk_4 (dk_at dksX2_line_7 14 rfl rfl)
theorem dX2_line_166 : decode cX2_line 166 = .ok (.iload_n 3, 1) := dk_29 (dk_at dksX2_line_7 15 rfl rfl)
theorem dX2_line_167 : decode cX2_line 167 = .ok (.ishl, 1) := dk_120 (dk_at dksX2_line_7 16 rfl rfl)
theorem dX2_line_168 : decode cX2_line 168 = .ok (.ior, 1) := dk_128 (dk_at dksX2_line_7 17 rfl rfl)
theorem dX2_line_169 : decode cX2_line 169 = .ok (.putfield 176, 3) := dk_181 0 176 (dk_at dksX2_line_7 18 rfl rfl)
theorem dX2_line_172 : decode cX2_line 172 = .ok (.aload_n 0, 1) := dk_42 (dk_at dksX2_line_7 21 rfl rfl)
theorem dX2_line_173 : decode cX2_line 173 = .ok (.getfield 101, 3) := dk_180 0 101 (dk_at dksX2_line_8 0 rfl rfl)
theorem dX2_line_176 : decode cX2_line 176 = .ok (.getfield 133, 3) := dk_180 0 133 (dk_at dksX2_line_8 3 rfl rfl)
theorem dX2_line_179 : decode cX2_line 179 = .ok (.iload_n 3, 1) := dk_29 (dk_at dksX2_line_8 6 rfl rfl)
theorem dX2_line_180 : decode cX2_line 180 = .ok (.invokevirtual 172, 3) := dk_182 0 172 (dk_at dksX2_line_8 7 rfl rfl)
theorem dX2_line_183 : decode cX2_line 183 = .ok (.checkcast 150, 3) := dk_192 0 150 (dk_at dksX2_line_8 10 rfl rfl)
theorem dX2_line_186 : decode cX2_line 186 = .ok (.dup, 1) := dk_89 (dk_at dksX2_line_8 13 rfl rfl)
theorem dX2_line_187 : decode cX2_line 187 = .ok (.getfield 176, 3) := dk_180 0 176 (dk_at dksX2_line_8 14 rfl rfl)
theorem dX2_line_190 : decode cX2_line 190 = .ok (.iconst 1, 1) := dk_4 (dk_at dksX2_line_8 17 rfl rfl)
theorem dX2_line_191 : decode cX2_line 191 = .ok (.iload_n 2, 1) := dk_28 (dk_at dksX2_line_8 18 rfl rfl)
theorem dX2_line_192 : decode cX2_line 192 = .ok (.ishl, 1) := dk_120 (dk_at dksX2_line_8 19 rfl rfl)
theorem dX2_line_193 : decode cX2_line 193 = .ok (.ior, 1) := dk_128 (dk_at dksX2_line_8 20 rfl rfl)
theorem dX2_line_194 : decode cX2_line 194 = .ok (.putfield 176, 3) := dk_181 0 176 (dk_at dksX2_line_8 21 rfl rfl)
theorem dX2_line_197 : decode cX2_line 197 = .ok (.goto 172, 3) := dk_167 0 172 (dk_at dksX2_line_9 0 rfl rfl)
theorem dX2_line_200 : decode cX2_line 200 = .ok (.aload_n 0, 1) := dk_42 (dk_at dksX2_line_9 3 rfl rfl)
theorem dX2_line_201 : decode cX2_line 201 = .ok (.getfield 101, 3) := dk_180 0 101 (dk_at dksX2_line_9 4 rfl rfl)
theorem dX2_line_204 : decode cX2_line 204 = .ok (.getfield 141, 3) := dk_180 0 141 (dk_at dksX2_line_9 7 rfl rfl)
theorem dX2_line_207 : decode cX2_line 207 = .ok (.aload_n 0, 1) := dk_42 (dk_at dksX2_line_9 10 rfl rfl)
theorem dX2_line_208 : decode cX2_line 208 = .ok (.invokevirtual 183, 3) := dk_182 0 183 (dk_at dksX2_line_9 11 rfl rfl)
theorem dX2_line_211 : decode cX2_line 211 = .ok (.invokevirtual 165, 3) := dk_182 0 165 (dk_at dksX2_line_9 14 rfl rfl)
theorem dX2_line_214 : decode cX2_line 214 = .ok (.pop, 1) := dk_87 (dk_at dksX2_line_9 17 rfl rfl)
theorem dX2_line_215 : decode cX2_line 215 = .ok (.goto 154, 3) := dk_167 0 154 (dk_at dksX2_line_9 18 rfl rfl)
theorem dX2_line_218 : decode cX2_line 218 = .ok (.aload_n 0, 1) := dk_42 (dk_at dksX2_line_9 21 rfl rfl)
theorem dX2_line_219 : decode cX2_line 219 = .ok (.aload_n 0, 1) := dk_42 (dk_at dksX2_line_9 22 rfl rfl)
theorem dX2_line_220 : decode cX2_line 220 = .ok (.getfield 101, 3) := dk_180 0 101 (dk_at dksX2_line_10 0 rfl rfl)
theorem dX2_line_223 : decode cX2_line 223 = .ok (.aload_n 0, 1) := dk_42 (dk_at dksX2_line_10 3 rfl rfl)
theorem dX2_line_224 : decode cX2_line 224 = .ok (.invokevirtual 98, 3) := dk_182 0 98 (dk_at dksX2_line_10 4 rfl rfl)
theorem dX2_line_227 : decode cX2_line 227 = .ok (.invokevirtual 110, 3) := dk_182 0 110 (dk_at dksX2_line_10 7 rfl rfl)
theorem dX2_line_230 : decode cX2_line 230 = .ok (.invokevirtual 169, 3) := dk_182 0 169 (dk_at dksX2_line_10 10 rfl rfl)
theorem dX2_line_233 : decode cX2_line 233 = .ok (.istore_n 2, 1) := dk_61 (dk_at dksX2_line_10 13 rfl rfl)
theorem dX2_line_234 : decode cX2_line 234 = .ok (.aload_n 0, 1) := dk_42 (dk_at dksX2_line_10 14 rfl rfl)
theorem dX2_line_235 : decode cX2_line 235 = .ok (.aload_n 0, 1) := dk_42 (dk_at dksX2_line_10 15 rfl rfl)
theorem dX2_line_236 : decode cX2_line 236 = .ok (.getfield 101, 3) := dk_180 0 101 (dk_at dksX2_line_10 16 rfl rfl)
theorem dX2_line_239 : decode cX2_line 239 = .ok (.aload_n 0, 1) := dk_42 (dk_at dksX2_line_10 19 rfl rfl)
theorem dX2_line_240 : decode cX2_line 240 = .ok (.invokevirtual 98, 3) := dk_182 0 98 (dk_at dksX2_line_10 20 rfl rfl)
theorem dX2_line_243 : decode cX2_line 243 = .ok (.invokevirtual 110, 3) := dk_182 0 110 (dk_at dksX2_line_11 0 rfl rfl)
theorem dX2_line_246 : decode cX2_line 246 = .ok (.invokevirtual 120, 3) := dk_182 0 120 (dk_at dksX2_line_11 3 rfl rfl)
theorem dX2_line_249 : decode cX2_line 249 = .ok (.istore_n 3, 1) := dk_62 (dk_at dksX2_line_11 6 rfl rfl)
theorem dX2_line_250 : decode cX2_line 250 = .ok (.iload_n 2, 1) := dk_28 (dk_at dksX2_line_11 7 rfl rfl)
theorem dX2_line_251 : decode cX2_line 251 = .ok (.iload_n 3, 1) := dk_29 (dk_at dksX2_line_11 8 rfl rfl)
theorem dX2_line_252 : decode cX2_line 252 = .ok (.if_icmp .eq 27, 3) := dk_159 0 27 (dk_at dksX2_line_11 9 rfl rfl)
theorem dX2_line_255 : decode cX2_line 255 = .ok (.aload_n 0, 1) := dk_42 (dk_at dksX2_line_11 12 rfl rfl)
theorem dX2_line_256 : decode cX2_line 256 = .ok (.getfield 101, 3) := dk_180 0 101 (dk_at dksX2_line_11 13 rfl rfl)
theorem dX2_line_259 : decode cX2_line 259 = .ok (.getfield 141, 3) := dk_180 0 141 (dk_at dksX2_line_11 16 rfl rfl)
theorem dX2_line_262 : decode cX2_line 262 = .ok (.iload_n 2, 1) := dk_28 (dk_at dksX2_line_11 19 rfl rfl)
theorem dX2_line_263 : decode cX2_line 263 = .ok (.invokevirtual 172, 3) := dk_182 0 172 (dk_at dksX2_line_11 20 rfl rfl)
theorem dX2_line_266 : decode cX2_line 266 = .ok (.checkcast 186, 3) := dk_192 0 186 (dk_at dksX2_line_12 0 rfl rfl)
theorem dX2_line_269 : decode cX2_line 269 = .ok (.getfield 188, 3) := dk_180 0 188 (dk_at dksX2_line_12 3 rfl rfl)
theorem dX2_line_272 : decode cX2_line 272 = .ok (.iload_n 3, 1) := dk_29 (dk_at dksX2_line_12 6 rfl rfl)
theorem dX2_line_273 : decode cX2_line 273 = .ok (.invokestatic 179, 3) := dk_184 0 179 (dk_at dksX2_line_12 7 rfl rfl)
theorem dX2_line_276 : decode cX2_line 276 = .ok (.ifCond .eq 9, 3) := dk_153 0 9 (dk_at dksX2_line_12 10 rfl rfl)
theorem dX2_line_279 : decode cX2_line 279 = .ok (.aload_n 0, 1) := dk_42 (dk_at dksX2_line_12 13 rfl rfl)
theorem dX2_line_280 : decode cX2_line 280 = .ok (.iconst 3, 1) := dk_6 (dk_at dksX2_line_12 14 rfl rfl)
theorem dX2_line_281 : decode cX2_line 281 = .ok (.invokevirtual 75, 3) := dk_182 0 75 (dk_at dksX2_line_12 15 rfl rfl)
theorem dX2_line_284 : decode cX2_line 284 = .ok (.athrow, 1) := dk_191 (dk_at dksX2_line_12 18 rfl rfl)
theorem dX2_line_285 : decode cX2_line 285 = .ok (.aload_n 0, 1) := dk_42 (dk_at dksX2_line_12 19 rfl rfl)
theorem dX2_line_286 : decode cX2_line 286 = .ok (.invokevirtual 25, 3) := dk_182 0 25 (dk_at dksX2_line_12 20 rfl rfl)
theorem dX2_line_289 : decode cX2_line 289 = .ok (.aload_n 0, 1) := dk_42 (dk_at dksX2_line_12 23 rfl rfl)
theorem dX2_line_290 : decode cX2_line 290 = .ok (.getfield 101, 3) := dk_180 0 101 (dk_at dksX2_line_13 0 rfl rfl)
theorem dX2_line_293 : decode cX2_line 293 = .ok (.getfield 141, 3) := dk_180 0 141 (dk_at dksX2_line_13 3 rfl rfl)
theorem dX2_line_296 : decode cX2_line 296 = .ok (.iload_n 2, 1) := dk_28 (dk_at dksX2_line_13 6 rfl rfl)
theorem dX2_line_297 : decode cX2_line 297 = .ok (.invokevirtual 172, 3) := dk_182 0 172 (dk_at dksX2_line_13 7 rfl rfl)
theorem dX2_line_300 : decode cX2_line 300 = .ok (.checkcast 186, 3) := dk_192 0 186 (dk_at dksX2_line_13 10 rfl rfl)
theorem dX2_line_303 : decode cX2_line 303 = .ok (.dup, 1) := dk_89 (dk_at dksX2_line_13 13 rfl rfl)
theorem dX2_line_304 : decode cX2_line 304 = .ok (.getfield 188, 3) := dk_180 0 188 (dk_at dksX2_line_13 14 rfl rfl)
theorem dX2_line_307 : decode cX2_line 307 = .ok (.iconst 1, 1) := dk_4 (dk_at dksX2_line_13 17 rfl rfl)
theorem dX2_line_308 : decode cX2_line 308 = .ok (.iload_n 3, 1) := dk_29 (dk_at dksX2_line_13 18 rfl rfl)
theorem dX2_line_309 : decode cX2_line 309 = .ok (.ishl, 1) := dk_120 (dk_at dksX2_line_13 19 rfl rfl)
theorem dX2_line_310 : decode cX2_line 310 = .ok (.ior, 1) := dk_128 (dk_at dksX2_line_13 20 rfl rfl)
theorem dX2_line_311 : decode cX2_line 311 = .ok (.putfield 188, 3) := dk_181 0 188 (dk_at dksX2_line_13 21 rfl rfl)
theorem dX2_line_314 : decode cX2_line 314 = .ok (.aload_n 0, 1) := dk_42 (dk_at dksX2_line_14 0 rfl rfl)
theorem dX2_line_315 : decode cX2_line 315 = .ok (.getfield 101, 3) := dk_180 0 101 (dk_at dksX2_line_14 1 rfl rfl)
theorem dX2_line_318 : decode cX2_line 318 = .ok (.getfield 141, 3) := dk_180 0 141 (dk_at dksX2_line_14 4 rfl rfl)
theorem dX2_line_321 : decode cX2_line 321 = .ok (.iload_n 3, 1) := dk_29 (dk_at dksX2_line_14 7 rfl rfl)
theorem dX2_line_322 : decode cX2_line 322 = .ok (.invokevirtual 172, 3) := dk_182 0 172 (dk_at dksX2_line_14 8 rfl rfl)
theorem dX2_line_325 : decode cX2_line 325 = .ok (.checkcast 186, 3) := dk_192 0 186 (dk_at dksX2_line_14 11 rfl rfl)
theorem dX2_line_328 : decode cX2_line 328 = .ok (.dup, 1) := dk_89 (dk_at dksX2_line_14 14 rfl rfl)
theorem dX2_line_329 : decode cX2_line 329 = .ok (.getfield 188, 3) := dk_180 0 188 (dk_at dksX2_line_14 15 rfl rfl)
theorem dX2_line_332 : decode cX2_line 332 = .ok (.iconst 1, 1) := dk_4 (dk_at dksX2_line_14 18 rfl rfl)
theorem dX2_line_333 : decode cX2_line 333 = .ok (.iload_n 2, 1) := dk_28 (dk_at dksX2_line_14 19 rfl rfl)
theorem dX2_line_334 : decode cX2_line 334 = .ok (.ishl, 1) := dk_120 (dk_at dksX2_line_14 20 rfl rfl)
theorem dX2_line_335 : decode cX2_line 335 = .ok (.ior, 1) := dk_128 (dk_at dksX2_line_14 21 rfl rfl)
theorem dX2_line_336 : decode cX2_line 336 = .ok (.putfield 188, 3) := dk_181 0 188 (dk_at dksX2_line_15 0 rfl rfl)
theorem dX2_line_339 : decode cX2_line 339 = .ok (.goto 30, 3) := dk_167 0 30 (dk_at dksX2_line_15 3 rfl rfl)
theorem dX2_line_342 : decode cX2_line 342 = .ok (.aload_n 0, 1) := dk_42 (dk_at dksX2_line_15 6 rfl rfl)
theorem dX2_line_343 : decode cX2_line 343 = .ok (.getfield 101, 3) := dk_180 0 101 (dk_at dksX2_line_15 7 rfl rfl)
theorem dX2_line_346 : decode cX2_line 346 = .ok (.aload_n 0, 1) := dk_42 (dk_at dksX2_line_15 10 rfl rfl)
theorem dX2_line_347 : decode cX2_line 347 = .ok (.iconst 1, 1) := dk_4 (dk_at dksX2_line_15 11 rfl rfl)
theorem dX2_line_348 : decode cX2_line 348 = .ok (.iconst 4, 1) := dk_7 (dk_at dksX2_line_15 12 rfl rfl)
theorem dX2_line_349 : decode cX2_line 349 = .ok (.invokevirtual 117, 3) := dk_182 0 117 (dk_at dksX2_line_15 13 rfl rfl)
theorem dX2_line_352 : decode cX2_line 352 = .ok (.putfield 126, 3) := dk_181 0 126 (dk_at dksX2_line_15 16 rfl rfl)
theorem dX2_line_355 : decode cX2_line 355 = .ok (.goto 14, 3) := dk_167 0 14 (dk_at dksX2_line_15 19 rfl rfl)
theorem dX2_line_358 : decode cX2_line 358 = .ok (.aload_n 0, 1) := dk_42 (dk_at dksX2_line_15 22 rfl rfl)
theorem dX2_line_359 : decode cX2_line 359 = .ok (.getfield 101, 3) := dk_180 0 101 (dk_at dksX2_line_16 0 rfl rfl)
theorem dX2_line_362 : decode cX2_line 362 = .ok (.aload_n 0, 1) := dk_42 (dk_at dksX2_line_16 3 rfl rfl)
theorem dX2_line_363 : decode cX2_line 363 = .ok (.invokevirtual 191, 3) := dk_182 0 191 (dk_at dksX2_line_16 4 rfl rfl)
theorem dX2_line_366 : decode cX2_line 366 = .ok (.putfield 129, 3) := dk_181 0 129 (dk_at dksX2_line_16 7 rfl rfl)
theorem dX2_line_369 : decode cX2_line 369 = .ok (.return_, 1) := dk_177 (dk_at dksX2_line_16 10 rfl rfl)
abbrev cX2_fresh : ByteArray := prog_16_method_14_code
def yX2_fresh : MethodName := ⟨RX2, "fresh", "()Ljava/lang/String;"⟩
def dkwX2_fresh_1 : List UInt8 := [155, 0, 9, 42, 6, 182, 0, 75, 191, 42, 182, 0, 25, 43, 176]
abbrev dktX2_fresh_1 : List UInt8 := dkwX2_fresh_1 ++ []
def dkwX2_fresh_0 : List UInt8 := [42, 182, 0, 98, 76, 42, 180, 0, 101, 43, 182, 0, 105, 156, 0, 14, 42, 180, 0, 101, 43, 182, 0, 110]
abbrev dktX2_fresh_0 : List UInt8 := dkwX2_fresh_0 ++ dktX2_fresh_1
theorem dksX2_fresh_0 : cX2_fresh.data.toList.drop 0 = dktX2_fresh_0 := by decide +kernel
theorem dksX2_fresh_1 : cX2_fresh.data.toList.drop 24 = dktX2_fresh_1 := dk_seg dksX2_fresh_0 24 rfl rfl
theorem dX2_fresh_0 : decode cX2_fresh 0 = .ok (.aload_n 0, 1) := dk_42 (dk_at dksX2_fresh_0 0 rfl rfl)
theorem dX2_fresh_1 : decode cX2_fresh 1 = .ok (.invokevirtual 98, 3) := dk_182 0 98 (dk_at dksX2_fresh_0 1 rfl rfl)
theorem dX2_fresh_4 : decode cX2_fresh 4 = .ok (.astore_n 1, 1) := dk_76 (dk_at dksX2_fresh_0 4 rfl rfl)
theorem dX2_fresh_5 : decode cX2_fresh 5 = .ok (.aload_n 0, 1) := dk_42 (dk_at dksX2_fresh_0 5 rfl rfl)
theorem dX2_fresh_6 : decode cX2_fresh 6 = .ok (.getfield 101, 3) := dk_180 0 101 (dk_at dksX2_fresh_0 6 rfl rfl)
theorem dX2_fresh_9 : decode cX2_fresh 9 = .ok (.aload_n 1, 1) := dk_43 (dk_at dksX2_fresh_0 9 rfl rfl)
theorem dX2_fresh_10 : decode cX2_fresh 10 = .ok (.invokevirtual 105, 3) := dk_182 0 105 (dk_at dksX2_fresh_0 10 rfl rfl)
theorem dX2_fresh_13 : decode cX2_fresh 13 = .ok (.ifCond .ge 14, 3) := dk_156 0 14 (dk_at dksX2_fresh_0 13 rfl rfl)
theorem dX2_fresh_16 : decode cX2_fresh 16 = .ok (.aload_n 0, 1) := dk_42 (dk_at dksX2_fresh_0 16 rfl rfl)
theorem dX2_fresh_17 : decode cX2_fresh 17 = .ok (.getfield 101, 3) := dk_180 0 101 (dk_at dksX2_fresh_0 17 rfl rfl)
theorem dX2_fresh_20 : decode cX2_fresh 20 = .ok (.aload_n 1, 1) := dk_43 (dk_at dksX2_fresh_0 20 rfl rfl)
theorem dX2_fresh_21 : decode cX2_fresh 21 = .ok (.invokevirtual 110, 3) := dk_182 0 110 (dk_at dksX2_fresh_0 21 rfl rfl)
theorem dX2_fresh_24 : decode cX2_fresh 24 = .ok (.ifCond .lt 9, 3) := dk_155 0 9 (dk_at dksX2_fresh_1 0 rfl rfl)
theorem dX2_fresh_27 : decode cX2_fresh 27 = .ok (.aload_n 0, 1) := dk_42 (dk_at dksX2_fresh_1 3 rfl rfl)
theorem dX2_fresh_28 : decode cX2_fresh 28 = .ok (.iconst 3, 1) := dk_6 (dk_at dksX2_fresh_1 4 rfl rfl)
theorem dX2_fresh_29 : decode cX2_fresh 29 = .ok (.invokevirtual 75, 3) := dk_182 0 75 (dk_at dksX2_fresh_1 5 rfl rfl)
theorem dX2_fresh_32 : decode cX2_fresh 32 = .ok (.athrow, 1) := dk_191 (dk_at dksX2_fresh_1 8 rfl rfl)
theorem dX2_fresh_33 : decode cX2_fresh 33 = .ok (.aload_n 0, 1) := dk_42 (dk_at dksX2_fresh_1 9 rfl rfl)
theorem dX2_fresh_34 : decode cX2_fresh 34 = .ok (.invokevirtual 25, 3) := dk_182 0 25 (dk_at dksX2_fresh_1 10 rfl rfl)
theorem dX2_fresh_37 : decode cX2_fresh 37 = .ok (.aload_n 1, 1) := dk_43 (dk_at dksX2_fresh_1 13 rfl rfl)
theorem dX2_fresh_38 : decode cX2_fresh 38 = .ok (.areturn, 1) := dk_176 (dk_at dksX2_fresh_1 14 rfl rfl)
abbrev cX2_name : ByteArray := prog_16_method_13_code
def yX2_name : MethodName := ⟨RX2, "name", "()Ljava/lang/String;"⟩
def dkwX2_name_2 : List UInt8 := [42, 180, 0, 9, 28, 51, 146, 182, 0, 90, 87, 132, 2, 1, 167, 255, 233, 43, 182, 0, 94, 176]
abbrev dktX2_name_2 : List UInt8 := dkwX2_name_2 ++ []
def dkwX2_name_1 : List UInt8 := [187, 0, 85, 89, 16, 8, 183, 0, 87, 76, 42, 180, 0, 28, 61, 28, 42, 180, 0, 19, 162, 0, 21, 43]
abbrev dktX2_name_1 : List UInt8 := dkwX2_name_1 ++ dktX2_name_2
def dkwX2_name_0 : List UInt8 := [42, 180, 0, 31, 4, 160, 0, 12, 42, 18, 83, 182, 0, 71, 155, 0, 9, 42, 4, 182, 0, 75, 191]
abbrev dktX2_name_0 : List UInt8 := dkwX2_name_0 ++ dktX2_name_1
theorem dksX2_name_0 : cX2_name.data.toList.drop 0 = dktX2_name_0 := by decide +kernel
theorem dksX2_name_1 : cX2_name.data.toList.drop 23 = dktX2_name_1 := dk_seg dksX2_name_0 23 rfl rfl
theorem dksX2_name_2 : cX2_name.data.toList.drop 47 = dktX2_name_2 := dk_seg dksX2_name_1 24 rfl rfl
theorem dX2_name_0 : decode cX2_name 0 = .ok (.aload_n 0, 1) := dk_42 (dk_at dksX2_name_0 0 rfl rfl)
theorem dX2_name_1 : decode cX2_name 1 = .ok (.getfield 31, 3) := dk_180 0 31 (dk_at dksX2_name_0 1 rfl rfl)
theorem dX2_name_4 : decode cX2_name 4 = .ok (.iconst 1, 1) := dk_4 (dk_at dksX2_name_0 4 rfl rfl)
theorem dX2_name_5 : decode cX2_name 5 = .ok (.if_icmp .ne 12, 3) := dk_160 0 12 (dk_at dksX2_name_0 5 rfl rfl)
theorem dX2_name_8 : decode cX2_name 8 = .ok (.aload_n 0, 1) := dk_42 (dk_at dksX2_name_0 8 rfl rfl)
theorem dX2_name_9 : decode cX2_name 9 = .ok (.ldc 83, 2) := dk_18 83 (dk_at dksX2_name_0 9 rfl rfl)
theorem dX2_name_11 : decode cX2_name 11 = .ok (.invokevirtual 71, 3) := dk_182 0 71 (dk_at dksX2_name_0 11 rfl rfl)
theorem dX2_name_14 : decode cX2_name 14 = .ok (.ifCond .lt 9, 3) := dk_155 0 9 (dk_at dksX2_name_0 14 rfl rfl)
theorem dX2_name_17 : decode cX2_name 17 = .ok (.aload_n 0, 1) := dk_42 (dk_at dksX2_name_0 17 rfl rfl)
theorem dX2_name_18 : decode cX2_name 18 = .ok (.iconst 1, 1) := dk_4 (dk_at dksX2_name_0 18 rfl rfl)
theorem dX2_name_19 : decode cX2_name 19 = .ok (.invokevirtual 75, 3) := dk_182 0 75 (dk_at dksX2_name_0 19 rfl rfl)
theorem dX2_name_22 : decode cX2_name 22 = .ok (.athrow, 1) := dk_191 (dk_at dksX2_name_0 22 rfl rfl)
theorem dX2_name_23 : decode cX2_name 23 = .ok (.new 85, 3) := dk_187 0 85 (dk_at dksX2_name_1 0 rfl rfl)
theorem dX2_name_26 : decode cX2_name 26 = .ok (.dup, 1) := dk_89 (dk_at dksX2_name_1 3 rfl rfl)
theorem dX2_name_27 : decode cX2_name 27 = .ok (.bipush 8, 2) := dk_16 8 (dk_at dksX2_name_1 4 rfl rfl)
theorem dX2_name_29 : decode cX2_name 29 = .ok (.invokespecial 87, 3) := dk_183 0 87 (dk_at dksX2_name_1 6 rfl rfl)
theorem dX2_name_32 : decode cX2_name 32 = .ok (.astore_n 1, 1) := dk_76 (dk_at dksX2_name_1 9 rfl rfl)
theorem dX2_name_33 : decode cX2_name 33 = .ok (.aload_n 0, 1) := dk_42 (dk_at dksX2_name_1 10 rfl rfl)
theorem dX2_name_34 : decode cX2_name 34 = .ok (.getfield 28, 3) := dk_180 0 28 (dk_at dksX2_name_1 11 rfl rfl)
theorem dX2_name_37 : decode cX2_name 37 = .ok (.istore_n 2, 1) := dk_61 (dk_at dksX2_name_1 14 rfl rfl)
theorem dX2_name_38 : decode cX2_name 38 = .ok (.iload_n 2, 1) := dk_28 (dk_at dksX2_name_1 15 rfl rfl)
theorem dX2_name_39 : decode cX2_name 39 = .ok (.aload_n 0, 1) := dk_42 (dk_at dksX2_name_1 16 rfl rfl)
theorem dX2_name_40 : decode cX2_name 40 = .ok (.getfield 19, 3) := dk_180 0 19 (dk_at dksX2_name_1 17 rfl rfl)
theorem dX2_name_43 : decode cX2_name 43 = .ok (.if_icmp .ge 21, 3) := dk_162 0 21 (dk_at dksX2_name_1 20 rfl rfl)
theorem dX2_name_46 : decode cX2_name 46 = .ok (.aload_n 1, 1) := dk_43 (dk_at dksX2_name_1 23 rfl rfl)
theorem dX2_name_47 : decode cX2_name 47 = .ok (.aload_n 0, 1) := dk_42 (dk_at dksX2_name_2 0 rfl rfl)
theorem dX2_name_48 : decode cX2_name 48 = .ok (.getfield 9, 3) := dk_180 0 9 (dk_at dksX2_name_2 1 rfl rfl)
theorem dX2_name_51 : decode cX2_name 51 = .ok (.iload_n 2, 1) := dk_28 (dk_at dksX2_name_2 4 rfl rfl)
theorem dX2_name_52 : decode cX2_name 52 = .ok (.baload, 1) := dk_51 (dk_at dksX2_name_2 5 rfl rfl)
theorem dX2_name_53 : decode cX2_name 53 = .ok (.i2c, 1) := dk_146 (dk_at dksX2_name_2 6 rfl rfl)
theorem dX2_name_54 : decode cX2_name 54 = .ok (.invokevirtual 90, 3) := dk_182 0 90 (dk_at dksX2_name_2 7 rfl rfl)
theorem dX2_name_57 : decode cX2_name 57 = .ok (.pop, 1) := dk_87 (dk_at dksX2_name_2 10 rfl rfl)
theorem dX2_name_58 : decode cX2_name 58 = .ok (.iinc 2 1, 3) := dk_132 2 1 (dk_at dksX2_name_2 11 rfl rfl)
theorem dX2_name_61 : decode cX2_name 61 = .ok (.goto (-23), 3) := dk_167 255 233 (dk_at dksX2_name_2 14 rfl rfl)
theorem dX2_name_64 : decode cX2_name 64 = .ok (.aload_n 1, 1) := dk_43 (dk_at dksX2_name_2 17 rfl rfl)
theorem dX2_name_65 : decode cX2_name 65 = .ok (.invokevirtual 94, 3) := dk_182 0 94 (dk_at dksX2_name_2 18 rfl rfl)
theorem dX2_name_68 : decode cX2_name 68 = .ok (.areturn, 1) := dk_176 (dk_at dksX2_name_2 21 rfl rfl)
abbrev cX2_number : ByteArray := prog_16_method_15_code
def yX2_number : MethodName := ⟨RX2, "number", "(Ljava/lang/String;II)I"⟩
def dkwX2_number_0 : List UInt8 := [42, 43, 182, 0, 113, 42, 28, 29, 182, 0, 117, 172]
abbrev dktX2_number_0 : List UInt8 := dkwX2_number_0 ++ []
theorem dksX2_number_0 : cX2_number.data.toList.drop 0 = dktX2_number_0 := by decide +kernel
theorem dX2_number_0 : decode cX2_number 0 = .ok (.aload_n 0, 1) := dk_42 (dk_at dksX2_number_0 0 rfl rfl)
theorem dX2_number_1 : decode cX2_number 1 = .ok (.aload_n 1, 1) := dk_43 (dk_at dksX2_number_0 1 rfl rfl)
theorem dX2_number_2 : decode cX2_number 2 = .ok (.invokevirtual 113, 3) := dk_182 0 113 (dk_at dksX2_number_0 2 rfl rfl)
theorem dX2_number_5 : decode cX2_number 5 = .ok (.aload_n 0, 1) := dk_42 (dk_at dksX2_number_0 5 rfl rfl)
theorem dX2_number_6 : decode cX2_number 6 = .ok (.iload_n 2, 1) := dk_28 (dk_at dksX2_number_0 6 rfl rfl)
theorem dX2_number_7 : decode cX2_number 7 = .ok (.iload_n 3, 1) := dk_29 (dk_at dksX2_number_0 7 rfl rfl)
theorem dX2_number_8 : decode cX2_number 8 = .ok (.invokevirtual 117, 3) := dk_182 0 117 (dk_at dksX2_number_0 8 rfl rfl)
theorem dX2_number_11 : decode cX2_number 11 = .ok (.ireturn, 1) := dk_172 (dk_at dksX2_number_0 11 rfl rfl)
abbrev cX2_need : ByteArray := prog_16_method_9_code
def yX2_need : MethodName := ⟨RX2, "need", "(Ljava/lang/String;)V"⟩
def dkwX2_need_0 : List UInt8 := [42, 43, 182, 0, 71, 156, 0, 9, 42, 4, 182, 0, 75, 191, 42, 182, 0, 25, 177]
abbrev dktX2_need_0 : List UInt8 := dkwX2_need_0 ++ []
theorem dksX2_need_0 : cX2_need.data.toList.drop 0 = dktX2_need_0 := by decide +kernel
theorem dX2_need_0 : decode cX2_need 0 = .ok (.aload_n 0, 1) := dk_42 (dk_at dksX2_need_0 0 rfl rfl)
theorem dX2_need_1 : decode cX2_need 1 = .ok (.aload_n 1, 1) := dk_43 (dk_at dksX2_need_0 1 rfl rfl)
theorem dX2_need_2 : decode cX2_need 2 = .ok (.invokevirtual 71, 3) := dk_182 0 71 (dk_at dksX2_need_0 2 rfl rfl)
theorem dX2_need_5 : decode cX2_need 5 = .ok (.ifCond .ge 9, 3) := dk_156 0 9 (dk_at dksX2_need_0 5 rfl rfl)
theorem dX2_need_8 : decode cX2_need 8 = .ok (.aload_n 0, 1) := dk_42 (dk_at dksX2_need_0 8 rfl rfl)
theorem dX2_need_9 : decode cX2_need 9 = .ok (.iconst 1, 1) := dk_4 (dk_at dksX2_need_0 9 rfl rfl)
theorem dX2_need_10 : decode cX2_need 10 = .ok (.invokevirtual 75, 3) := dk_182 0 75 (dk_at dksX2_need_0 10 rfl rfl)
theorem dX2_need_13 : decode cX2_need 13 = .ok (.athrow, 1) := dk_191 (dk_at dksX2_need_0 13 rfl rfl)
theorem dX2_need_14 : decode cX2_need 14 = .ok (.aload_n 0, 1) := dk_42 (dk_at dksX2_need_0 14 rfl rfl)
theorem dX2_need_15 : decode cX2_need 15 = .ok (.invokevirtual 25, 3) := dk_182 0 25 (dk_at dksX2_need_0 15 rfl rfl)
theorem dX2_need_18 : decode cX2_need 18 = .ok (.return_, 1) := dk_177 (dk_at dksX2_need_0 18 rfl rfl)
abbrev cX2_number_2 : ByteArray := prog_16_method_12_code
def yX2_number_2 : MethodName := ⟨RX2, "number", "(II)I"⟩
def dkwX2_number_2_1 : List UInt8 := [180, 0, 45, 28, 164, 0, 9, 42, 7, 182, 0, 75, 191, 42, 180, 0, 45, 62, 42, 182, 0, 25, 29, 172]
abbrev dktX2_number_2_1 : List UInt8 := dkwX2_number_2_1 ++ []
def dkwX2_number_2_0 : List UInt8 := [42, 180, 0, 31, 5, 159, 0, 9, 42, 4, 182, 0, 75, 191, 42, 180, 0, 45, 27, 161, 0, 11, 42]
abbrev dktX2_number_2_0 : List UInt8 := dkwX2_number_2_0 ++ dktX2_number_2_1
theorem dksX2_number_2_0 : cX2_number_2.data.toList.drop 0 = dktX2_number_2_0 := by decide +kernel
theorem dksX2_number_2_1 : cX2_number_2.data.toList.drop 23 = dktX2_number_2_1 := dk_seg dksX2_number_2_0 23 rfl rfl
theorem dX2_number_2_0 : decode cX2_number_2 0 = .ok (.aload_n 0, 1) := dk_42 (dk_at dksX2_number_2_0 0 rfl rfl)
theorem dX2_number_2_1 : decode cX2_number_2 1 = .ok (.getfield 31, 3) := dk_180 0 31 (dk_at dksX2_number_2_0 1 rfl rfl)
theorem dX2_number_2_4 : decode cX2_number_2 4 = .ok (.iconst 2, 1) := dk_5 (dk_at dksX2_number_2_0 4 rfl rfl)
theorem dX2_number_2_5 : decode cX2_number_2 5 = .ok (.if_icmp .eq 9, 3) := dk_159 0 9 (dk_at dksX2_number_2_0 5 rfl rfl)
theorem dX2_number_2_8 : decode cX2_number_2 8 = .ok (.aload_n 0, 1) := dk_42 (dk_at dksX2_number_2_0 8 rfl rfl)
theorem dX2_number_2_9 : decode cX2_number_2 9 = .ok (.iconst 1, 1) := dk_4 (dk_at dksX2_number_2_0 9 rfl rfl)
theorem dX2_number_2_10 : decode cX2_number_2 10 = .ok (.invokevirtual 75, 3) := dk_182 0 75 (dk_at dksX2_number_2_0 10 rfl rfl)
theorem dX2_number_2_13 : decode cX2_number_2 13 = .ok (.athrow, 1) := dk_191 (dk_at dksX2_number_2_0 13 rfl rfl)
theorem dX2_number_2_14 : decode cX2_number_2 14 = .ok (.aload_n 0, 1) := dk_42 (dk_at dksX2_number_2_0 14 rfl rfl)
theorem dX2_number_2_15 : decode cX2_number_2 15 = .ok (.getfield 45, 3) := dk_180 0 45 (dk_at dksX2_number_2_0 15 rfl rfl)
theorem dX2_number_2_18 : decode cX2_number_2 18 = .ok (.iload_n 1, 1) := dk_27 (dk_at dksX2_number_2_0 18 rfl rfl)
theorem dX2_number_2_19 : decode cX2_number_2 19 = .ok (.if_icmp .lt 11, 3) := dk_161 0 11 (dk_at dksX2_number_2_0 19 rfl rfl)
theorem dX2_number_2_22 : decode cX2_number_2 22 = .ok (.aload_n 0, 1) := dk_42 (dk_at dksX2_number_2_0 22 rfl rfl)
theorem dX2_number_2_23 : decode cX2_number_2 23 = .ok (.getfield 45, 3) := dk_180 0 45 (dk_at dksX2_number_2_1 0 rfl rfl)
theorem dX2_number_2_26 : decode cX2_number_2 26 = .ok (.iload_n 2, 1) := dk_28 (dk_at dksX2_number_2_1 3 rfl rfl)
theorem dX2_number_2_27 : decode cX2_number_2 27 = .ok (.if_icmp .le 9, 3) := dk_164 0 9 (dk_at dksX2_number_2_1 4 rfl rfl)
theorem dX2_number_2_30 : decode cX2_number_2 30 = .ok (.aload_n 0, 1) := dk_42 (dk_at dksX2_number_2_1 7 rfl rfl)
theorem dX2_number_2_31 : decode cX2_number_2 31 = .ok (.iconst 4, 1) := dk_7 (dk_at dksX2_number_2_1 8 rfl rfl)
theorem dX2_number_2_32 : decode cX2_number_2 32 = .ok (.invokevirtual 75, 3) := dk_182 0 75 (dk_at dksX2_number_2_1 9 rfl rfl)
theorem dX2_number_2_35 : decode cX2_number_2 35 = .ok (.athrow, 1) := dk_191 (dk_at dksX2_number_2_1 12 rfl rfl)
theorem dX2_number_2_36 : decode cX2_number_2 36 = .ok (.aload_n 0, 1) := dk_42 (dk_at dksX2_number_2_1 13 rfl rfl)
theorem dX2_number_2_37 : decode cX2_number_2 37 = .ok (.getfield 45, 3) := dk_180 0 45 (dk_at dksX2_number_2_1 14 rfl rfl)
theorem dX2_number_2_40 : decode cX2_number_2 40 = .ok (.istore_n 3, 1) := dk_62 (dk_at dksX2_number_2_1 17 rfl rfl)
theorem dX2_number_2_41 : decode cX2_number_2 41 = .ok (.aload_n 0, 1) := dk_42 (dk_at dksX2_number_2_1 18 rfl rfl)
theorem dX2_number_2_42 : decode cX2_number_2 42 = .ok (.invokevirtual 25, 3) := dk_182 0 25 (dk_at dksX2_number_2_1 19 rfl rfl)
theorem dX2_number_2_45 : decode cX2_number_2 45 = .ok (.iload_n 3, 1) := dk_29 (dk_at dksX2_number_2_1 22 rfl rfl)
theorem dX2_number_2_46 : decode cX2_number_2 46 = .ok (.ireturn, 1) := dk_172 (dk_at dksX2_number_2_1 23 rfl rfl)
abbrev cX2_passed : ByteArray := prog_16_method_18_code
def yX2_passed : MethodName := ⟨RX2, "passed", "(I)I"⟩
def dkwX2_passed_0 : List UInt8 := [42, 27, 182, 0, 120, 87, 42, 182, 0, 25, 27, 172]
abbrev dktX2_passed_0 : List UInt8 := dkwX2_passed_0 ++ []
theorem dksX2_passed_0 : cX2_passed.data.toList.drop 0 = dktX2_passed_0 := by decide +kernel
theorem dX2_passed_0 : decode cX2_passed 0 = .ok (.aload_n 0, 1) := dk_42 (dk_at dksX2_passed_0 0 rfl rfl)
theorem dX2_passed_1 : decode cX2_passed 1 = .ok (.iload_n 1, 1) := dk_27 (dk_at dksX2_passed_0 1 rfl rfl)
theorem dX2_passed_2 : decode cX2_passed 2 = .ok (.invokevirtual 120, 3) := dk_182 0 120 (dk_at dksX2_passed_0 2 rfl rfl)
theorem dX2_passed_5 : decode cX2_passed 5 = .ok (.pop, 1) := dk_87 (dk_at dksX2_passed_0 5 rfl rfl)
theorem dX2_passed_6 : decode cX2_passed 6 = .ok (.aload_n 0, 1) := dk_42 (dk_at dksX2_passed_0 6 rfl rfl)
theorem dX2_passed_7 : decode cX2_passed 7 = .ok (.invokevirtual 25, 3) := dk_182 0 25 (dk_at dksX2_passed_0 7 rfl rfl)
theorem dX2_passed_10 : decode cX2_passed 10 = .ok (.iload_n 1, 1) := dk_27 (dk_at dksX2_passed_0 10 rfl rfl)
theorem dX2_passed_11 : decode cX2_passed 11 = .ok (.ireturn, 1) := dk_172 (dk_at dksX2_passed_0 11 rfl rfl)
abbrev cX2_told : ByteArray := prog_16_method_17_code
def yX2_told : MethodName := ⟨RX2, "told", "(I)I"⟩
def dkwX2_told_0 : List UInt8 := [27, 156, 0, 9, 42, 5, 182, 0, 75, 191, 27, 172]
abbrev dktX2_told_0 : List UInt8 := dkwX2_told_0 ++ []
theorem dksX2_told_0 : cX2_told.data.toList.drop 0 = dktX2_told_0 := by decide +kernel
theorem dX2_told_0 : decode cX2_told 0 = .ok (.iload_n 1, 1) := dk_27 (dk_at dksX2_told_0 0 rfl rfl)
theorem dX2_told_1 : decode cX2_told 1 = .ok (.ifCond .ge 9, 3) := dk_156 0 9 (dk_at dksX2_told_0 1 rfl rfl)
theorem dX2_told_4 : decode cX2_told 4 = .ok (.aload_n 0, 1) := dk_42 (dk_at dksX2_told_0 4 rfl rfl)
theorem dX2_told_5 : decode cX2_told 5 = .ok (.iconst 2, 1) := dk_5 (dk_at dksX2_told_0 5 rfl rfl)
theorem dX2_told_6 : decode cX2_told 6 = .ok (.invokevirtual 75, 3) := dk_182 0 75 (dk_at dksX2_told_0 6 rfl rfl)
theorem dX2_told_9 : decode cX2_told 9 = .ok (.athrow, 1) := dk_191 (dk_at dksX2_told_0 9 rfl rfl)
theorem dX2_told_10 : decode cX2_told 10 = .ok (.iload_n 1, 1) := dk_27 (dk_at dksX2_told_0 10 rfl rfl)
theorem dX2_told_11 : decode cX2_told 11 = .ok (.ireturn, 1) := dk_172 (dk_at dksX2_told_0 11 rfl rfl)
abbrev cX2_guest : ByteArray := prog_16_method_21_code
def yX2_guest : MethodName := ⟨RX2, "guest", "()LDateVale$Guest;"⟩
def dkwX2_guest_5 : List UInt8 := [45, 176]
abbrev dktX2_guest_5 : List UInt8 := dkwX2_guest_5 ++ []
def dkwX2_guest_4 : List UInt8 := [18, 215, 3, 16, 11, 182, 0, 159, 181, 0, 217, 45, 42, 18, 220, 3, 16, 40, 182, 0, 159, 181, 0, 222]
abbrev dktX2_guest_4 : List UInt8 := dkwX2_guest_4 ++ dktX2_guest_5
def dkwX2_guest_3 : List UInt8 := [182, 0, 113, 45, 42, 42, 180, 0, 101, 42, 182, 0, 98, 182, 0, 105, 182, 0, 169, 181, 0, 212, 45, 42]
abbrev dktX2_guest_3 : List UInt8 := dkwX2_guest_3 ++ dktX2_guest_4
def dkwX2_guest_2 : List UInt8 := [187, 0, 204, 89, 43, 183, 0, 206, 167, 0, 11, 187, 0, 207, 89, 43, 183, 0, 209, 78, 42, 18, 210]
abbrev dktX2_guest_2 : List UInt8 := dkwX2_guest_2 ++ dktX2_guest_3
def dkwX2_guest_1 : List UInt8 := [167, 0, 43, 28, 4, 160, 0, 14, 187, 0, 201, 89, 43, 183, 0, 203, 167, 0, 27, 28, 5, 160, 0, 14]
abbrev dktX2_guest_1 : List UInt8 := dkwX2_guest_1 ++ dktX2_guest_2
def dkwX2_guest_0 : List UInt8 := [42, 182, 0, 152, 76, 42, 18, 195, 182, 0, 197, 61, 28, 154, 0, 14, 187, 0, 186, 89, 43, 183, 0, 200]
abbrev dktX2_guest_0 : List UInt8 := dkwX2_guest_0 ++ dktX2_guest_1
theorem dksX2_guest_0 : cX2_guest.data.toList.drop 0 = dktX2_guest_0 := by decide +kernel
theorem dksX2_guest_1 : cX2_guest.data.toList.drop 24 = dktX2_guest_1 := dk_seg dksX2_guest_0 24 rfl rfl
theorem dksX2_guest_2 : cX2_guest.data.toList.drop 48 = dktX2_guest_2 := dk_seg dksX2_guest_1 24 rfl rfl
theorem dksX2_guest_3 : cX2_guest.data.toList.drop 71 = dktX2_guest_3 := dk_seg dksX2_guest_2 23 rfl rfl
theorem dksX2_guest_4 : cX2_guest.data.toList.drop 95 = dktX2_guest_4 := dk_seg dksX2_guest_3 24 rfl rfl
theorem dksX2_guest_5 : cX2_guest.data.toList.drop 119 = dktX2_guest_5 := dk_seg dksX2_guest_4 24 rfl rfl
theorem dX2_guest_0 : decode cX2_guest 0 = .ok (.aload_n 0, 1) := dk_42 (dk_at dksX2_guest_0 0 rfl rfl)
theorem dX2_guest_1 : decode cX2_guest 1 = .ok (.invokevirtual 152, 3) := dk_182 0 152 (dk_at dksX2_guest_0 1 rfl rfl)
theorem dX2_guest_4 : decode cX2_guest 4 = .ok (.astore_n 1, 1) := dk_76 (dk_at dksX2_guest_0 4 rfl rfl)
theorem dX2_guest_5 : decode cX2_guest 5 = .ok (.aload_n 0, 1) := dk_42 (dk_at dksX2_guest_0 5 rfl rfl)
theorem dX2_guest_6 : decode cX2_guest 6 = .ok (.ldc 195, 2) := dk_18 195 (dk_at dksX2_guest_0 6 rfl rfl)
theorem dX2_guest_8 : decode cX2_guest 8 = .ok (.invokevirtual 197, 3) := dk_182 0 197 (dk_at dksX2_guest_0 8 rfl rfl)
theorem dX2_guest_11 : decode cX2_guest 11 = .ok (.istore_n 2, 1) := dk_61 (dk_at dksX2_guest_0 11 rfl rfl)
theorem dX2_guest_12 : decode cX2_guest 12 = .ok (.iload_n 2, 1) := dk_28 (dk_at dksX2_guest_0 12 rfl rfl)
theorem dX2_guest_13 : decode cX2_guest 13 = .ok (.ifCond .ne 14, 3) := dk_154 0 14 (dk_at dksX2_guest_0 13 rfl rfl)
theorem dX2_guest_16 : decode cX2_guest 16 = .ok (.new 186, 3) := dk_187 0 186 (dk_at dksX2_guest_0 16 rfl rfl)
theorem dX2_guest_19 : decode cX2_guest 19 = .ok (.dup, 1) := dk_89 (dk_at dksX2_guest_0 19 rfl rfl)
theorem dX2_guest_20 : decode cX2_guest 20 = .ok (.aload_n 1, 1) := dk_43 (dk_at dksX2_guest_0 20 rfl rfl)
theorem dX2_guest_21 : decode cX2_guest 21 = .ok (.invokespecial 200, 3) := dk_183 0 200 (dk_at dksX2_guest_0 21 rfl rfl)
theorem dX2_guest_24 : decode cX2_guest 24 = .ok (.goto 43, 3) := dk_167 0 43 (dk_at dksX2_guest_1 0 rfl rfl)
theorem dX2_guest_27 : decode cX2_guest 27 = .ok (.iload_n 2, 1) := dk_28 (dk_at dksX2_guest_1 3 rfl rfl)
theorem dX2_guest_28 : decode cX2_guest 28 = .ok (.iconst 1, 1) := dk_4 (dk_at dksX2_guest_1 4 rfl rfl)
theorem dX2_guest_29 : decode cX2_guest 29 = .ok (.if_icmp .ne 14, 3) := dk_160 0 14 (dk_at dksX2_guest_1 5 rfl rfl)
theorem dX2_guest_32 : decode cX2_guest 32 = .ok (.new 201, 3) := dk_187 0 201 (dk_at dksX2_guest_1 8 rfl rfl)
theorem dX2_guest_35 : decode cX2_guest 35 = .ok (.dup, 1) := dk_89 (dk_at dksX2_guest_1 11 rfl rfl)
theorem dX2_guest_36 : decode cX2_guest 36 = .ok (.aload_n 1, 1) := dk_43 (dk_at dksX2_guest_1 12 rfl rfl)
theorem dX2_guest_37 : decode cX2_guest 37 = .ok (.invokespecial 203, 3) := dk_183 0 203 (dk_at dksX2_guest_1 13 rfl rfl)
theorem dX2_guest_40 : decode cX2_guest 40 = .ok (.goto 27, 3) := dk_167 0 27 (dk_at dksX2_guest_1 16 rfl rfl)
theorem dX2_guest_43 : decode cX2_guest 43 = .ok (.iload_n 2, 1) := dk_28 (dk_at dksX2_guest_1 19 rfl rfl)
theorem dX2_guest_44 : decode cX2_guest 44 = .ok (.iconst 2, 1) := dk_5 (dk_at dksX2_guest_1 20 rfl rfl)
theorem dX2_guest_45 : decode cX2_guest 45 = .ok (.if_icmp .ne 14, 3) := dk_160 0 14 (dk_at dksX2_guest_1 21 rfl rfl)
theorem dX2_guest_48 : decode cX2_guest 48 = .ok (.new 204, 3) := dk_187 0 204 (dk_at dksX2_guest_2 0 rfl rfl)
theorem dX2_guest_51 : decode cX2_guest 51 = .ok (.dup, 1) := dk_89 (dk_at dksX2_guest_2 3 rfl rfl)
theorem dX2_guest_52 : decode cX2_guest 52 = .ok (.aload_n 1, 1) := dk_43 (dk_at dksX2_guest_2 4 rfl rfl)
theorem dX2_guest_53 : decode cX2_guest 53 = .ok (.invokespecial 206, 3) := dk_183 0 206 (dk_at dksX2_guest_2 5 rfl rfl)
theorem dX2_guest_56 : decode cX2_guest 56 = .ok (.goto 11, 3) := dk_167 0 11 (dk_at dksX2_guest_2 8 rfl rfl)
theorem dX2_guest_59 : decode cX2_guest 59 = .ok (.new 207, 3) := dk_187 0 207 (dk_at dksX2_guest_2 11 rfl rfl)
theorem dX2_guest_62 : decode cX2_guest 62 = .ok (.dup, 1) := dk_89 (dk_at dksX2_guest_2 14 rfl rfl)
theorem dX2_guest_63 : decode cX2_guest 63 = .ok (.aload_n 1, 1) := dk_43 (dk_at dksX2_guest_2 15 rfl rfl)
theorem dX2_guest_64 : decode cX2_guest 64 = .ok (.invokespecial 209, 3) := dk_183 0 209 (dk_at dksX2_guest_2 16 rfl rfl)
theorem dX2_guest_67 : decode cX2_guest 67 = .ok (.astore_n 3, 1) := dk_78 (dk_at dksX2_guest_2 19 rfl rfl)
theorem dX2_guest_68 : decode cX2_guest 68 = .ok (.aload_n 0, 1) := dk_42 (dk_at dksX2_guest_2 20 rfl rfl)
theorem dX2_guest_69 : decode cX2_guest 69 = .ok (.ldc 210, 2) := dk_18 210 (dk_at dksX2_guest_2 21 rfl rfl)
theorem dX2_guest_71 : decode cX2_guest 71 = .ok (.invokevirtual 113, 3) := dk_182 0 113 (dk_at dksX2_guest_3 0 rfl rfl)
theorem dX2_guest_74 : decode cX2_guest 74 = .ok (.aload_n 3, 1) := dk_45 (dk_at dksX2_guest_3 3 rfl rfl)
theorem dX2_guest_75 : decode cX2_guest 75 = .ok (.aload_n 0, 1) := dk_42 (dk_at dksX2_guest_3 4 rfl rfl)
theorem dX2_guest_76 : decode cX2_guest 76 = .ok (.aload_n 0, 1) := dk_42 (dk_at dksX2_guest_3 5 rfl rfl)
theorem dX2_guest_77 : decode cX2_guest 77 = .ok (.getfield 101, 3) := dk_180 0 101 (dk_at dksX2_guest_3 6 rfl rfl)
theorem dX2_guest_80 : decode cX2_guest 80 = .ok (.aload_n 0, 1) := dk_42 (dk_at dksX2_guest_3 9 rfl rfl)
theorem dX2_guest_81 : decode cX2_guest 81 = .ok (.invokevirtual 98, 3) := dk_182 0 98 (dk_at dksX2_guest_3 10 rfl rfl)
theorem dX2_guest_84 : decode cX2_guest 84 = .ok (.invokevirtual 105, 3) := dk_182 0 105 (dk_at dksX2_guest_3 13 rfl rfl)
theorem dX2_guest_87 : decode cX2_guest 87 = .ok (.invokevirtual 169, 3) := dk_182 0 169 (dk_at dksX2_guest_3 16 rfl rfl)
theorem dX2_guest_90 : decode cX2_guest 90 = .ok (.putfield 212, 3) := dk_181 0 212 (dk_at dksX2_guest_3 19 rfl rfl)
theorem dX2_guest_93 : decode cX2_guest 93 = .ok (.aload_n 3, 1) := dk_45 (dk_at dksX2_guest_3 22 rfl rfl)
theorem dX2_guest_94 : decode cX2_guest 94 = .ok (.aload_n 0, 1) := dk_42 (dk_at dksX2_guest_3 23 rfl rfl)
theorem dX2_guest_95 : decode cX2_guest 95 = .ok (.ldc 215, 2) := dk_18 215 (dk_at dksX2_guest_4 0 rfl rfl)
theorem dX2_guest_97 : decode cX2_guest 97 = .ok (.iconst 0, 1) := dk_3 (dk_at dksX2_guest_4 2 rfl rfl)
theorem dX2_guest_98 : decode cX2_guest 98 = .ok (.bipush 11, 2) := dk_16 11 (dk_at dksX2_guest_4 3 rfl rfl)
theorem dX2_guest_100 : decode cX2_guest 100 = .ok (.invokevirtual 159, 3) := dk_182 0 159 (dk_at dksX2_guest_4 5 rfl rfl)
theorem dX2_guest_103 : decode cX2_guest 103 = .ok (.putfield 217, 3) := dk_181 0 217 (dk_at dksX2_guest_4 8 rfl rfl)
theorem dX2_guest_106 : decode cX2_guest 106 = .ok (.aload_n 3, 1) := dk_45 (dk_at dksX2_guest_4 11 rfl rfl)
theorem dX2_guest_107 : decode cX2_guest 107 = .ok (.aload_n 0, 1) := dk_42 (dk_at dksX2_guest_4 12 rfl rfl)
theorem dX2_guest_108 : decode cX2_guest 108 = .ok (.ldc 220, 2) := dk_18 220 (dk_at dksX2_guest_4 13 rfl rfl)
theorem dX2_guest_110 : decode cX2_guest 110 = .ok (.iconst 0, 1) := dk_3 (dk_at dksX2_guest_4 15 rfl rfl)
theorem dX2_guest_111 : decode cX2_guest 111 = .ok (.bipush 40, 2) := dk_16 40 (dk_at dksX2_guest_4 16 rfl rfl)
theorem dX2_guest_113 : decode cX2_guest 113 = .ok (.invokevirtual 159, 3) := dk_182 0 159 (dk_at dksX2_guest_4 18 rfl rfl)
theorem dX2_guest_116 : decode cX2_guest 116 = .ok (.putfield 222, 3) := dk_181 0 222 (dk_at dksX2_guest_4 21 rfl rfl)
theorem dX2_guest_119 : decode cX2_guest 119 = .ok (.aload_n 3, 1) := dk_45 (dk_at dksX2_guest_5 0 rfl rfl)
theorem dX2_guest_120 : decode cX2_guest 120 = .ok (.areturn, 1) := dk_176 (dk_at dksX2_guest_5 1 rfl rfl)
abbrev cX2_one : ByteArray := prog_16_method_16_code
def yX2_one : MethodName := ⟨RX2, "one", "(Ljava/lang/String;)I"⟩
def dkwX2_one_0 : List UInt8 := [42, 43, 182, 0, 71, 61, 28, 156, 0, 9, 42, 4, 182, 0, 75, 191, 42, 182, 0, 25, 28, 172]
abbrev dktX2_one_0 : List UInt8 := dkwX2_one_0 ++ []
theorem dksX2_one_0 : cX2_one.data.toList.drop 0 = dktX2_one_0 := by decide +kernel
theorem dX2_one_0 : decode cX2_one 0 = .ok (.aload_n 0, 1) := dk_42 (dk_at dksX2_one_0 0 rfl rfl)
theorem dX2_one_1 : decode cX2_one 1 = .ok (.aload_n 1, 1) := dk_43 (dk_at dksX2_one_0 1 rfl rfl)
theorem dX2_one_2 : decode cX2_one 2 = .ok (.invokevirtual 71, 3) := dk_182 0 71 (dk_at dksX2_one_0 2 rfl rfl)
theorem dX2_one_5 : decode cX2_one 5 = .ok (.istore_n 2, 1) := dk_61 (dk_at dksX2_one_0 5 rfl rfl)
theorem dX2_one_6 : decode cX2_one 6 = .ok (.iload_n 2, 1) := dk_28 (dk_at dksX2_one_0 6 rfl rfl)
theorem dX2_one_7 : decode cX2_one 7 = .ok (.ifCond .ge 9, 3) := dk_156 0 9 (dk_at dksX2_one_0 7 rfl rfl)
theorem dX2_one_10 : decode cX2_one 10 = .ok (.aload_n 0, 1) := dk_42 (dk_at dksX2_one_0 10 rfl rfl)
theorem dX2_one_11 : decode cX2_one 11 = .ok (.iconst 1, 1) := dk_4 (dk_at dksX2_one_0 11 rfl rfl)
theorem dX2_one_12 : decode cX2_one 12 = .ok (.invokevirtual 75, 3) := dk_182 0 75 (dk_at dksX2_one_0 12 rfl rfl)
theorem dX2_one_15 : decode cX2_one 15 = .ok (.athrow, 1) := dk_191 (dk_at dksX2_one_0 15 rfl rfl)
theorem dX2_one_16 : decode cX2_one 16 = .ok (.aload_n 0, 1) := dk_42 (dk_at dksX2_one_0 16 rfl rfl)
theorem dX2_one_17 : decode cX2_one 17 = .ok (.invokevirtual 25, 3) := dk_182 0 25 (dk_at dksX2_one_0 17 rfl rfl)
theorem dX2_one_20 : decode cX2_one 20 = .ok (.iload_n 2, 1) := dk_28 (dk_at dksX2_one_0 20 rfl rfl)
theorem dX2_one_21 : decode cX2_one 21 = .ok (.ireturn, 1) := dk_172 (dk_at dksX2_one_0 21 rfl rfl)
abbrev cX2_expression : ByteArray := prog_16_method_24_code
def yX2_expression : MethodName := ⟨RX2, "expression", "()LDateVale$Expression;"⟩
def dkwX2_expression_2 : List UInt8 := [167, 255, 215]
abbrev dktX2_expression_2 : List UInt8 := dkwX2_expression_2 ++ []
def dkwX2_expression_1 : List UInt8 := [187, 0, 249, 89, 28, 154, 0, 8, 16, 38, 167, 0, 5, 16, 124, 43, 42, 182, 0, 244, 183, 0, 251, 76]
abbrev dktX2_expression_1 : List UInt8 := dkwX2_expression_1 ++ dktX2_expression_2
def dkwX2_expression_0 : List UInt8 := [42, 182, 0, 244, 76, 42, 18, 247, 182, 0, 71, 61, 28, 156, 0, 5, 43, 176, 42, 182, 0, 25]
abbrev dktX2_expression_0 : List UInt8 := dkwX2_expression_0 ++ dktX2_expression_1
theorem dksX2_expression_0 : cX2_expression.data.toList.drop 0 = dktX2_expression_0 := by decide +kernel
theorem dksX2_expression_1 : cX2_expression.data.toList.drop 22 = dktX2_expression_1 := dk_seg dksX2_expression_0 22 rfl rfl
theorem dksX2_expression_2 : cX2_expression.data.toList.drop 46 = dktX2_expression_2 := dk_seg dksX2_expression_1 24 rfl rfl
theorem dX2_expression_0 : decode cX2_expression 0 = .ok (.aload_n 0, 1) := dk_42 (dk_at dksX2_expression_0 0 rfl rfl)
theorem dX2_expression_1 : decode cX2_expression 1 = .ok (.invokevirtual 244, 3) := dk_182 0 244 (dk_at dksX2_expression_0 1 rfl rfl)
theorem dX2_expression_4 : decode cX2_expression 4 = .ok (.astore_n 1, 1) := dk_76 (dk_at dksX2_expression_0 4 rfl rfl)
theorem dX2_expression_5 : decode cX2_expression 5 = .ok (.aload_n 0, 1) := dk_42 (dk_at dksX2_expression_0 5 rfl rfl)
theorem dX2_expression_6 : decode cX2_expression 6 = .ok (.ldc 247, 2) := dk_18 247 (dk_at dksX2_expression_0 6 rfl rfl)
theorem dX2_expression_8 : decode cX2_expression 8 = .ok (.invokevirtual 71, 3) := dk_182 0 71 (dk_at dksX2_expression_0 8 rfl rfl)
theorem dX2_expression_11 : decode cX2_expression 11 = .ok (.istore_n 2, 1) := dk_61 (dk_at dksX2_expression_0 11 rfl rfl)
theorem dX2_expression_12 : decode cX2_expression 12 = .ok (.iload_n 2, 1) := dk_28 (dk_at dksX2_expression_0 12 rfl rfl)
theorem dX2_expression_13 : decode cX2_expression 13 = .ok (.ifCond .ge 5, 3) := dk_156 0 5 (dk_at dksX2_expression_0 13 rfl rfl)
theorem dX2_expression_16 : decode cX2_expression 16 = .ok (.aload_n 1, 1) := dk_43 (dk_at dksX2_expression_0 16 rfl rfl)
theorem dX2_expression_17 : decode cX2_expression 17 = .ok (.areturn, 1) := dk_176 (dk_at dksX2_expression_0 17 rfl rfl)
theorem dX2_expression_18 : decode cX2_expression 18 = .ok (.aload_n 0, 1) := dk_42 (dk_at dksX2_expression_0 18 rfl rfl)
theorem dX2_expression_19 : decode cX2_expression 19 = .ok (.invokevirtual 25, 3) := dk_182 0 25 (dk_at dksX2_expression_0 19 rfl rfl)
theorem dX2_expression_22 : decode cX2_expression 22 = .ok (.new 249, 3) := dk_187 0 249 (dk_at dksX2_expression_1 0 rfl rfl)
theorem dX2_expression_25 : decode cX2_expression 25 = .ok (.dup, 1) := dk_89 (dk_at dksX2_expression_1 3 rfl rfl)
theorem dX2_expression_26 : decode cX2_expression 26 = .ok (.iload_n 2, 1) := dk_28 (dk_at dksX2_expression_1 4 rfl rfl)
theorem dX2_expression_27 : decode cX2_expression 27 = .ok (.ifCond .ne 8, 3) := dk_154 0 8 (dk_at dksX2_expression_1 5 rfl rfl)
theorem dX2_expression_30 : decode cX2_expression 30 = .ok (.bipush 38, 2) := dk_16 38 (dk_at dksX2_expression_1 8 rfl rfl)
theorem dX2_expression_32 : decode cX2_expression 32 = .ok (.goto 5, 3) := dk_167 0 5 (dk_at dksX2_expression_1 10 rfl rfl)
theorem dX2_expression_35 : decode cX2_expression 35 = .ok (.bipush 124, 2) := dk_16 124 (dk_at dksX2_expression_1 13 rfl rfl)
theorem dX2_expression_37 : decode cX2_expression 37 = .ok (.aload_n 1, 1) := dk_43 (dk_at dksX2_expression_1 15 rfl rfl)
theorem dX2_expression_38 : decode cX2_expression 38 = .ok (.aload_n 0, 1) := dk_42 (dk_at dksX2_expression_1 16 rfl rfl)
theorem dX2_expression_39 : decode cX2_expression 39 = .ok (.invokevirtual 244, 3) := dk_182 0 244 (dk_at dksX2_expression_1 17 rfl rfl)
theorem dX2_expression_42 : decode cX2_expression 42 = .ok (.invokespecial 251, 3) := dk_183 0 251 (dk_at dksX2_expression_1 20 rfl rfl)
theorem dX2_expression_45 : decode cX2_expression 45 = .ok (.astore_n 1, 1) := dk_76 (dk_at dksX2_expression_1 23 rfl rfl)
theorem dX2_expression_46 : decode cX2_expression 46 = .ok (.goto (-41), 3) := dk_167 255 215 (dk_at dksX2_expression_2 0 rfl rfl)
abbrev cX2_test : ByteArray := prog_16_method_25_code
def yX2_test : MethodName := ⟨RX2, "test", "()LDateVale$Expression;"⟩
def dkwX2_test_2 : List UInt8 := [182, 0, 25, 187, 0, 249, 89, 28, 43, 42, 182, 0, 254, 183, 0, 251, 176]
abbrev dktX2_test_2 : List UInt8 := dkwX2_test_2 ++ []
def dkwX2_test_1 : List UInt8 := [182, 0, 79, 153, 0, 8, 16, 61, 167, 0, 5, 16, 32, 61, 28, 16, 32, 160, 0, 5, 43, 176, 42]
abbrev dktX2_test_1 : List UInt8 := dkwX2_test_1 ++ dktX2_test_2
def dkwX2_test_0 : List UInt8 := [42, 182, 0, 254, 76, 42, 16, 60, 182, 0, 79, 153, 0, 8, 16, 60, 167, 0, 19, 42, 16, 61]
abbrev dktX2_test_0 : List UInt8 := dkwX2_test_0 ++ dktX2_test_1
theorem dksX2_test_0 : cX2_test.data.toList.drop 0 = dktX2_test_0 := by decide +kernel
theorem dksX2_test_1 : cX2_test.data.toList.drop 22 = dktX2_test_1 := dk_seg dksX2_test_0 22 rfl rfl
theorem dksX2_test_2 : cX2_test.data.toList.drop 45 = dktX2_test_2 := dk_seg dksX2_test_1 23 rfl rfl
theorem dX2_test_0 : decode cX2_test 0 = .ok (.aload_n 0, 1) := dk_42 (dk_at dksX2_test_0 0 rfl rfl)
theorem dX2_test_1 : decode cX2_test 1 = .ok (.invokevirtual 254, 3) := dk_182 0 254 (dk_at dksX2_test_0 1 rfl rfl)
theorem dX2_test_4 : decode cX2_test 4 = .ok (.astore_n 1, 1) := dk_76 (dk_at dksX2_test_0 4 rfl rfl)
theorem dX2_test_5 : decode cX2_test 5 = .ok (.aload_n 0, 1) := dk_42 (dk_at dksX2_test_0 5 rfl rfl)
theorem dX2_test_6 : decode cX2_test 6 = .ok (.bipush 60, 2) := dk_16 60 (dk_at dksX2_test_0 6 rfl rfl)
theorem dX2_test_8 : decode cX2_test 8 = .ok (.invokevirtual 79, 3) := dk_182 0 79 (dk_at dksX2_test_0 8 rfl rfl)
theorem dX2_test_11 : decode cX2_test 11 = .ok (.ifCond .eq 8, 3) := dk_153 0 8 (dk_at dksX2_test_0 11 rfl rfl)
theorem dX2_test_14 : decode cX2_test 14 = .ok (.bipush 60, 2) := dk_16 60 (dk_at dksX2_test_0 14 rfl rfl)
theorem dX2_test_16 : decode cX2_test 16 = .ok (.goto 19, 3) := dk_167 0 19 (dk_at dksX2_test_0 16 rfl rfl)
theorem dX2_test_19 : decode cX2_test 19 = .ok (.aload_n 0, 1) := dk_42 (dk_at dksX2_test_0 19 rfl rfl)
theorem dX2_test_20 : decode cX2_test 20 = .ok (.bipush 61, 2) := dk_16 61 (dk_at dksX2_test_0 20 rfl rfl)
theorem dX2_test_22 : decode cX2_test 22 = .ok (.invokevirtual 79, 3) := dk_182 0 79 (dk_at dksX2_test_1 0 rfl rfl)
theorem dX2_test_25 : decode cX2_test 25 = .ok (.ifCond .eq 8, 3) := dk_153 0 8 (dk_at dksX2_test_1 3 rfl rfl)
theorem dX2_test_28 : decode cX2_test 28 = .ok (.bipush 61, 2) := dk_16 61 (dk_at dksX2_test_1 6 rfl rfl)
theorem dX2_test_30 : decode cX2_test 30 = .ok (.goto 5, 3) := dk_167 0 5 (dk_at dksX2_test_1 8 rfl rfl)
theorem dX2_test_33 : decode cX2_test 33 = .ok (.bipush 32, 2) := dk_16 32 (dk_at dksX2_test_1 11 rfl rfl)
theorem dX2_test_35 : decode cX2_test 35 = .ok (.istore_n 2, 1) := dk_61 (dk_at dksX2_test_1 13 rfl rfl)
theorem dX2_test_36 : decode cX2_test 36 = .ok (.iload_n 2, 1) := dk_28 (dk_at dksX2_test_1 14 rfl rfl)
theorem dX2_test_37 : decode cX2_test 37 = .ok (.bipush 32, 2) := dk_16 32 (dk_at dksX2_test_1 15 rfl rfl)
theorem dX2_test_39 : decode cX2_test 39 = .ok (.if_icmp .ne 5, 3) := dk_160 0 5 (dk_at dksX2_test_1 17 rfl rfl)
theorem dX2_test_42 : decode cX2_test 42 = .ok (.aload_n 1, 1) := dk_43 (dk_at dksX2_test_1 20 rfl rfl)
theorem dX2_test_43 : decode cX2_test 43 = .ok (.areturn, 1) := dk_176 (dk_at dksX2_test_1 21 rfl rfl)
theorem dX2_test_44 : decode cX2_test 44 = .ok (.aload_n 0, 1) := dk_42 (dk_at dksX2_test_1 22 rfl rfl)
theorem dX2_test_45 : decode cX2_test 45 = .ok (.invokevirtual 25, 3) := dk_182 0 25 (dk_at dksX2_test_2 0 rfl rfl)
theorem dX2_test_48 : decode cX2_test 48 = .ok (.new 249, 3) := dk_187 0 249 (dk_at dksX2_test_2 3 rfl rfl)
theorem dX2_test_51 : decode cX2_test 51 = .ok (.dup, 1) := dk_89 (dk_at dksX2_test_2 6 rfl rfl)
theorem dX2_test_52 : decode cX2_test 52 = .ok (.iload_n 2, 1) := dk_28 (dk_at dksX2_test_2 7 rfl rfl)
theorem dX2_test_53 : decode cX2_test 53 = .ok (.aload_n 1, 1) := dk_43 (dk_at dksX2_test_2 8 rfl rfl)
theorem dX2_test_54 : decode cX2_test 54 = .ok (.aload_n 0, 1) := dk_42 (dk_at dksX2_test_2 9 rfl rfl)
theorem dX2_test_55 : decode cX2_test 55 = .ok (.invokevirtual 254, 3) := dk_182 0 254 (dk_at dksX2_test_2 10 rfl rfl)
theorem dX2_test_58 : decode cX2_test 58 = .ok (.invokespecial 251, 3) := dk_183 0 251 (dk_at dksX2_test_2 13 rfl rfl)
theorem dX2_test_61 : decode cX2_test 61 = .ok (.areturn, 1) := dk_176 (dk_at dksX2_test_2 16 rfl rfl)
abbrev cX2_sum : ByteArray := prog_16_method_26_code
def yX2_sum : MethodName := ⟨RX2, "sum", "()LDateVale$Expression;"⟩
def dkwX2_sum_2 : List UInt8 := [28, 43, 42, 182, 1, 1, 183, 0, 251, 76, 167, 255, 203, 43, 176]
abbrev dktX2_sum_2 : List UInt8 := dkwX2_sum_2 ++ []
def dkwX2_sum_1 : List UInt8 := [16, 43, 182, 0, 79, 153, 0, 8, 16, 43, 167, 0, 5, 16, 45, 61, 42, 182, 0, 25, 187, 0, 249, 89]
abbrev dktX2_sum_1 : List UInt8 := dkwX2_sum_1 ++ dktX2_sum_2
def dkwX2_sum_0 : List UInt8 := [42, 182, 1, 1, 76, 42, 16, 43, 182, 0, 79, 154, 0, 12, 42, 16, 45, 182, 0, 79, 153, 0, 41, 42]
abbrev dktX2_sum_0 : List UInt8 := dkwX2_sum_0 ++ dktX2_sum_1
theorem dksX2_sum_0 : cX2_sum.data.toList.drop 0 = dktX2_sum_0 := by decide +kernel
theorem dksX2_sum_1 : cX2_sum.data.toList.drop 24 = dktX2_sum_1 := dk_seg dksX2_sum_0 24 rfl rfl
theorem dksX2_sum_2 : cX2_sum.data.toList.drop 48 = dktX2_sum_2 := dk_seg dksX2_sum_1 24 rfl rfl
theorem dX2_sum_0 : decode cX2_sum 0 = .ok (.aload_n 0, 1) := dk_42 (dk_at dksX2_sum_0 0 rfl rfl)
theorem dX2_sum_1 : decode cX2_sum 1 = .ok (.invokevirtual 257, 3) := dk_182 1 1 (dk_at dksX2_sum_0 1 rfl rfl)
theorem dX2_sum_4 : decode cX2_sum 4 = .ok (.astore_n 1, 1) := dk_76 (dk_at dksX2_sum_0 4 rfl rfl)
theorem dX2_sum_5 : decode cX2_sum 5 = .ok (.aload_n 0, 1) := dk_42 (dk_at dksX2_sum_0 5 rfl rfl)
theorem dX2_sum_6 : decode cX2_sum 6 = .ok (.bipush 43, 2) := dk_16 43 (dk_at dksX2_sum_0 6 rfl rfl)
theorem dX2_sum_8 : decode cX2_sum 8 = .ok (.invokevirtual 79, 3) := dk_182 0 79 (dk_at dksX2_sum_0 8 rfl rfl)
theorem dX2_sum_11 : decode cX2_sum 11 = .ok (.ifCond .ne 12, 3) := dk_154 0 12 (dk_at dksX2_sum_0 11 rfl rfl)
theorem dX2_sum_14 : decode cX2_sum 14 = .ok (.aload_n 0, 1) := dk_42 (dk_at dksX2_sum_0 14 rfl rfl)
theorem dX2_sum_15 : decode cX2_sum 15 = .ok (.bipush 45, 2) := dk_16 45 (dk_at dksX2_sum_0 15 rfl rfl)
theorem dX2_sum_17 : decode cX2_sum 17 = .ok (.invokevirtual 79, 3) := dk_182 0 79 (dk_at dksX2_sum_0 17 rfl rfl)
theorem dX2_sum_20 : decode cX2_sum 20 = .ok (.ifCond .eq 41, 3) := dk_153 0 41 (dk_at dksX2_sum_0 20 rfl rfl)
theorem dX2_sum_23 : decode cX2_sum 23 = .ok (.aload_n 0, 1) := dk_42 (dk_at dksX2_sum_0 23 rfl rfl)
theorem dX2_sum_24 : decode cX2_sum 24 = .ok (.bipush 43, 2) := dk_16 43 (dk_at dksX2_sum_1 0 rfl rfl)
theorem dX2_sum_26 : decode cX2_sum 26 = .ok (.invokevirtual 79, 3) := dk_182 0 79 (dk_at dksX2_sum_1 2 rfl rfl)
theorem dX2_sum_29 : decode cX2_sum 29 = .ok (.ifCond .eq 8, 3) := dk_153 0 8 (dk_at dksX2_sum_1 5 rfl rfl)
theorem dX2_sum_32 : decode cX2_sum 32 = .ok (.bipush 43, 2) := dk_16 43 (dk_at dksX2_sum_1 8 rfl rfl)
theorem dX2_sum_34 : decode cX2_sum 34 = .ok (.goto 5, 3) := dk_167 0 5 (dk_at dksX2_sum_1 10 rfl rfl)
theorem dX2_sum_37 : decode cX2_sum 37 = .ok (.bipush 45, 2) := dk_16 45 (dk_at dksX2_sum_1 13 rfl rfl)
theorem dX2_sum_39 : decode cX2_sum 39 = .ok (.istore_n 2, 1) := dk_61 (dk_at dksX2_sum_1 15 rfl rfl)
theorem dX2_sum_40 : decode cX2_sum 40 = .ok (.aload_n 0, 1) := dk_42 (dk_at dksX2_sum_1 16 rfl rfl)
theorem dX2_sum_41 : decode cX2_sum 41 = .ok (.invokevirtual 25, 3) := dk_182 0 25 (dk_at dksX2_sum_1 17 rfl rfl)
theorem dX2_sum_44 : decode cX2_sum 44 = .ok (.new 249, 3) := dk_187 0 249 (dk_at dksX2_sum_1 20 rfl rfl)
theorem dX2_sum_47 : decode cX2_sum 47 = .ok (.dup, 1) := dk_89 (dk_at dksX2_sum_1 23 rfl rfl)
theorem dX2_sum_48 : decode cX2_sum 48 = .ok (.iload_n 2, 1) := dk_28 (dk_at dksX2_sum_2 0 rfl rfl)
theorem dX2_sum_49 : decode cX2_sum 49 = .ok (.aload_n 1, 1) := dk_43 (dk_at dksX2_sum_2 1 rfl rfl)
theorem dX2_sum_50 : decode cX2_sum 50 = .ok (.aload_n 0, 1) := dk_42 (dk_at dksX2_sum_2 2 rfl rfl)
theorem dX2_sum_51 : decode cX2_sum 51 = .ok (.invokevirtual 257, 3) := dk_182 1 1 (dk_at dksX2_sum_2 3 rfl rfl)
theorem dX2_sum_54 : decode cX2_sum 54 = .ok (.invokespecial 251, 3) := dk_183 0 251 (dk_at dksX2_sum_2 6 rfl rfl)
theorem dX2_sum_57 : decode cX2_sum 57 = .ok (.astore_n 1, 1) := dk_76 (dk_at dksX2_sum_2 9 rfl rfl)
theorem dX2_sum_58 : decode cX2_sum 58 = .ok (.goto (-53), 3) := dk_167 255 203 (dk_at dksX2_sum_2 10 rfl rfl)
theorem dX2_sum_61 : decode cX2_sum 61 = .ok (.aload_n 1, 1) := dk_43 (dk_at dksX2_sum_2 13 rfl rfl)
theorem dX2_sum_62 : decode cX2_sum 62 = .ok (.areturn, 1) := dk_176 (dk_at dksX2_sum_2 14 rfl rfl)
abbrev cX2_product : ByteArray := prog_16_method_27_code
def yX2_product : MethodName := ⟨RX2, "product", "()LDateVale$Expression;"⟩
def dkwX2_product_1 : List UInt8 := [43, 42, 182, 1, 4, 183, 0, 251, 76, 167, 255, 228, 43, 176]
abbrev dktX2_product_1 : List UInt8 := dkwX2_product_1 ++ []
def dkwX2_product_0 : List UInt8 := [42, 182, 1, 4, 76, 42, 16, 42, 182, 0, 79, 153, 0, 25, 42, 182, 0, 25, 187, 0, 249, 89, 16, 42]
abbrev dktX2_product_0 : List UInt8 := dkwX2_product_0 ++ dktX2_product_1
theorem dksX2_product_0 : cX2_product.data.toList.drop 0 = dktX2_product_0 := by decide +kernel
theorem dksX2_product_1 : cX2_product.data.toList.drop 24 = dktX2_product_1 := dk_seg dksX2_product_0 24 rfl rfl
theorem dX2_product_0 : decode cX2_product 0 = .ok (.aload_n 0, 1) := dk_42 (dk_at dksX2_product_0 0 rfl rfl)
theorem dX2_product_1 : decode cX2_product 1 = .ok (.invokevirtual 260, 3) := dk_182 1 4 (dk_at dksX2_product_0 1 rfl rfl)
theorem dX2_product_4 : decode cX2_product 4 = .ok (.astore_n 1, 1) := dk_76 (dk_at dksX2_product_0 4 rfl rfl)
theorem dX2_product_5 : decode cX2_product 5 = .ok (.aload_n 0, 1) := dk_42 (dk_at dksX2_product_0 5 rfl rfl)
theorem dX2_product_6 : decode cX2_product 6 = .ok (.bipush 42, 2) := dk_16 42 (dk_at dksX2_product_0 6 rfl rfl)
theorem dX2_product_8 : decode cX2_product 8 = .ok (.invokevirtual 79, 3) := dk_182 0 79 (dk_at dksX2_product_0 8 rfl rfl)
theorem dX2_product_11 : decode cX2_product 11 = .ok (.ifCond .eq 25, 3) := dk_153 0 25 (dk_at dksX2_product_0 11 rfl rfl)
theorem dX2_product_14 : decode cX2_product 14 = .ok (.aload_n 0, 1) := dk_42 (dk_at dksX2_product_0 14 rfl rfl)
theorem dX2_product_15 : decode cX2_product 15 = .ok (.invokevirtual 25, 3) := dk_182 0 25 (dk_at dksX2_product_0 15 rfl rfl)
theorem dX2_product_18 : decode cX2_product 18 = .ok (.new 249, 3) := dk_187 0 249 (dk_at dksX2_product_0 18 rfl rfl)
theorem dX2_product_21 : decode cX2_product 21 = .ok (.dup, 1) := dk_89 (dk_at dksX2_product_0 21 rfl rfl)
theorem dX2_product_22 : decode cX2_product 22 = .ok (.bipush 42, 2) := dk_16 42 (dk_at dksX2_product_0 22 rfl rfl)
theorem dX2_product_24 : decode cX2_product 24 = .ok (.aload_n 1, 1) := dk_43 (dk_at dksX2_product_1 0 rfl rfl)
theorem dX2_product_25 : decode cX2_product 25 = .ok (.aload_n 0, 1) := dk_42 (dk_at dksX2_product_1 1 rfl rfl)
theorem dX2_product_26 : decode cX2_product 26 = .ok (.invokevirtual 260, 3) := dk_182 1 4 (dk_at dksX2_product_1 2 rfl rfl)
theorem dX2_product_29 : decode cX2_product 29 = .ok (.invokespecial 251, 3) := dk_183 0 251 (dk_at dksX2_product_1 5 rfl rfl)
theorem dX2_product_32 : decode cX2_product 32 = .ok (.astore_n 1, 1) := dk_76 (dk_at dksX2_product_1 8 rfl rfl)
theorem dX2_product_33 : decode cX2_product 33 = .ok (.goto (-28), 3) := dk_167 255 228 (dk_at dksX2_product_1 9 rfl rfl)
theorem dX2_product_36 : decode cX2_product 36 = .ok (.aload_n 1, 1) := dk_43 (dk_at dksX2_product_1 12 rfl rfl)
theorem dX2_product_37 : decode cX2_product 37 = .ok (.areturn, 1) := dk_176 (dk_at dksX2_product_1 13 rfl rfl)
abbrev cX2_part : ByteArray := prog_16_method_28_code
def yX2_part : MethodName := ⟨RX2, "part", "()LDateVale$Expression;"⟩
def dkwX2_part_7 : List UInt8 := [181, 0, 22, 25, 4, 176]
abbrev dktX2_part_7 : List UInt8 := dkwX2_part_7 ++ []
def dkwX2_part_6 : List UInt8 := [182, 0, 191, 58, 4, 29, 153, 0, 9, 42, 16, 41, 182, 0, 147, 42, 89, 180, 0, 22, 4, 100]
abbrev dktX2_part_6 : List UInt8 := dkwX2_part_6 ++ dktX2_part_7
def dkwX2_part_5 : List UInt8 := [181, 0, 22, 28, 153, 0, 17, 187, 1, 17, 89, 42, 182, 1, 4, 183, 1, 19, 167, 0, 7, 42]
abbrev dktX2_part_5 : List UInt8 := dkwX2_part_5 ++ dktX2_part_6
def dkwX2_part_4 : List UInt8 := [182, 0, 25, 27, 155, 0, 12, 187, 1, 14, 89, 27, 183, 1, 16, 176, 42, 89, 180, 0, 22, 4, 96]
abbrev dktX2_part_4 : List UInt8 := dkwX2_part_4 ++ dktX2_part_5
def dkwX2_part_3 : List UInt8 := [180, 0, 31, 5, 160, 0, 19, 187, 1, 11, 89, 42, 3, 17, 39, 15, 182, 0, 117, 183, 1, 13, 176, 42]
abbrev dktX2_part_3 : List UInt8 := dkwX2_part_3 ++ dktX2_part_4
def dkwX2_part_2 : List UInt8 := [159, 0, 9, 42, 4, 182, 0, 75, 191, 42, 180, 0, 22, 8, 160, 0, 9, 42, 8, 182, 0, 75, 191, 42]
abbrev dktX2_part_2 : List UInt8 := dkwX2_part_2 ++ dktX2_part_3
def dkwX2_part_1 : List UInt8 := [42, 16, 40, 182, 0, 79, 62, 27, 156, 0, 25, 28, 154, 0, 21, 29, 154, 0, 17, 42, 180, 0, 31, 5]
abbrev dktX2_part_1 : List UInt8 := dkwX2_part_1 ++ dktX2_part_2
def dkwX2_part_0 : List UInt8 := [42, 19, 1, 7, 182, 0, 71, 60, 42, 19, 1, 9, 182, 0, 71, 155, 0, 7, 4, 167, 0, 4, 3, 61]
abbrev dktX2_part_0 : List UInt8 := dkwX2_part_0 ++ dktX2_part_1
theorem dksX2_part_0 : cX2_part.data.toList.drop 0 = dktX2_part_0 := by decide +kernel
theorem dksX2_part_1 : cX2_part.data.toList.drop 24 = dktX2_part_1 := dk_seg dksX2_part_0 24 rfl rfl
theorem dksX2_part_2 : cX2_part.data.toList.drop 48 = dktX2_part_2 := dk_seg dksX2_part_1 24 rfl rfl
theorem dksX2_part_3 : cX2_part.data.toList.drop 72 = dktX2_part_3 := dk_seg dksX2_part_2 24 rfl rfl
theorem dksX2_part_4 : cX2_part.data.toList.drop 96 = dktX2_part_4 := dk_seg dksX2_part_3 24 rfl rfl
theorem dksX2_part_5 : cX2_part.data.toList.drop 119 = dktX2_part_5 := dk_seg dksX2_part_4 23 rfl rfl
theorem dksX2_part_6 : cX2_part.data.toList.drop 141 = dktX2_part_6 := dk_seg dksX2_part_5 22 rfl rfl
theorem dksX2_part_7 : cX2_part.data.toList.drop 163 = dktX2_part_7 := dk_seg dksX2_part_6 22 rfl rfl
theorem dX2_part_0 : decode cX2_part 0 = .ok (.aload_n 0, 1) := dk_42 (dk_at dksX2_part_0 0 rfl rfl)
theorem dX2_part_1 : decode cX2_part 1 = .ok (.ldc_w 263, 3) := dk_19 1 7 (dk_at dksX2_part_0 1 rfl rfl)
theorem dX2_part_4 : decode cX2_part 4 = .ok (.invokevirtual 71, 3) := dk_182 0 71 (dk_at dksX2_part_0 4 rfl rfl)
theorem dX2_part_7 : decode cX2_part 7 = .ok (.istore_n 1, 1) := dk_60 (dk_at dksX2_part_0 7 rfl rfl)
theorem dX2_part_8 : decode cX2_part 8 = .ok (.aload_n 0, 1) := dk_42 (dk_at dksX2_part_0 8 rfl rfl)
theorem dX2_part_9 : decode cX2_part 9 = .ok (.ldc_w 265, 3) := dk_19 1 9 (dk_at dksX2_part_0 9 rfl rfl)
theorem dX2_part_12 : decode cX2_part 12 = .ok (.invokevirtual 71, 3) := dk_182 0 71 (dk_at dksX2_part_0 12 rfl rfl)
theorem dX2_part_15 : decode cX2_part 15 = .ok (.ifCond .lt 7, 3) := dk_155 0 7 (dk_at dksX2_part_0 15 rfl rfl)
theorem dX2_part_18 : decode cX2_part 18 = .ok (.iconst 1, 1) := dk_4 (dk_at dksX2_part_0 18 rfl rfl)
theorem dX2_part_19 : decode cX2_part 19 = .ok (.goto 4, 3) := dk_167 0 4 (dk_at dksX2_part_0 19 rfl rfl)
theorem dX2_part_22 : decode cX2_part 22 = .ok (.iconst 0, 1) := dk_3 (dk_at dksX2_part_0 22 rfl rfl)
theorem dX2_part_23 : decode cX2_part 23 = .ok (.istore_n 2, 1) := dk_61 (dk_at dksX2_part_0 23 rfl rfl)
theorem dX2_part_24 : decode cX2_part 24 = .ok (.aload_n 0, 1) := dk_42 (dk_at dksX2_part_1 0 rfl rfl)
theorem dX2_part_25 : decode cX2_part 25 = .ok (.bipush 40, 2) := dk_16 40 (dk_at dksX2_part_1 1 rfl rfl)
theorem dX2_part_27 : decode cX2_part 27 = .ok (.invokevirtual 79, 3) := dk_182 0 79 (dk_at dksX2_part_1 3 rfl rfl)
theorem dX2_part_30 : decode cX2_part 30 = .ok (.istore_n 3, 1) := dk_62 (dk_at dksX2_part_1 6 rfl rfl)
theorem dX2_part_31 : decode cX2_part 31 = .ok (.iload_n 1, 1) := dk_27 (dk_at dksX2_part_1 7 rfl rfl)
theorem dX2_part_32 : decode cX2_part 32 = .ok (.ifCond .ge 25, 3) := dk_156 0 25 (dk_at dksX2_part_1 8 rfl rfl)
theorem dX2_part_35 : decode cX2_part 35 = .ok (.iload_n 2, 1) := dk_28 (dk_at dksX2_part_1 11 rfl rfl)
theorem dX2_part_36 : decode cX2_part 36 = .ok (.ifCond .ne 21, 3) := dk_154 0 21 (dk_at dksX2_part_1 12 rfl rfl)
theorem dX2_part_39 : decode cX2_part 39 = .ok (.iload_n 3, 1) := dk_29 (dk_at dksX2_part_1 15 rfl rfl)
theorem dX2_part_40 : decode cX2_part 40 = .ok (.ifCond .ne 17, 3) := dk_154 0 17 (dk_at dksX2_part_1 16 rfl rfl)
theorem dX2_part_43 : decode cX2_part 43 = .ok (.aload_n 0, 1) := dk_42 (dk_at dksX2_part_1 19 rfl rfl)
theorem dX2_part_44 : decode cX2_part 44 = .ok (.getfield 31, 3) := dk_180 0 31 (dk_at dksX2_part_1 20 rfl rfl)
theorem dX2_part_47 : decode cX2_part 47 = .ok (.iconst 2, 1) := dk_5 (dk_at dksX2_part_1 23 rfl rfl)
theorem dX2_part_48 : decode cX2_part 48 = .ok (.if_icmp .eq 9, 3) := dk_159 0 9 (dk_at dksX2_part_2 0 rfl rfl)
theorem dX2_part_51 : decode cX2_part 51 = .ok (.aload_n 0, 1) := dk_42 (dk_at dksX2_part_2 3 rfl rfl)
theorem dX2_part_52 : decode cX2_part 52 = .ok (.iconst 1, 1) := dk_4 (dk_at dksX2_part_2 4 rfl rfl)
theorem dX2_part_53 : decode cX2_part 53 = .ok (.invokevirtual 75, 3) := dk_182 0 75 (dk_at dksX2_part_2 5 rfl rfl)
theorem dX2_part_56 : decode cX2_part 56 = .ok (.athrow, 1) := dk_191 (dk_at dksX2_part_2 8 rfl rfl)
theorem dX2_part_57 : decode cX2_part 57 = .ok (.aload_n 0, 1) := dk_42 (dk_at dksX2_part_2 9 rfl rfl)
theorem dX2_part_58 : decode cX2_part 58 = .ok (.getfield 22, 3) := dk_180 0 22 (dk_at dksX2_part_2 10 rfl rfl)
theorem dX2_part_61 : decode cX2_part 61 = .ok (.iconst 5, 1) := dk_8 (dk_at dksX2_part_2 13 rfl rfl)
theorem dX2_part_62 : decode cX2_part 62 = .ok (.if_icmp .ne 9, 3) := dk_160 0 9 (dk_at dksX2_part_2 14 rfl rfl)
theorem dX2_part_65 : decode cX2_part 65 = .ok (.aload_n 0, 1) := dk_42 (dk_at dksX2_part_2 17 rfl rfl)
theorem dX2_part_66 : decode cX2_part 66 = .ok (.iconst 5, 1) := dk_8 (dk_at dksX2_part_2 18 rfl rfl)
theorem dX2_part_67 : decode cX2_part 67 = .ok (.invokevirtual 75, 3) := dk_182 0 75 (dk_at dksX2_part_2 19 rfl rfl)
theorem dX2_part_70 : decode cX2_part 70 = .ok (.athrow, 1) := dk_191 (dk_at dksX2_part_2 22 rfl rfl)
theorem dX2_part_71 : decode cX2_part 71 = .ok (.aload_n 0, 1) := dk_42 (dk_at dksX2_part_2 23 rfl rfl)
theorem dX2_part_72 : decode cX2_part 72 = .ok (.getfield 31, 3) := dk_180 0 31 (dk_at dksX2_part_3 0 rfl rfl)
theorem dX2_part_75 : decode cX2_part 75 = .ok (.iconst 2, 1) := dk_5 (dk_at dksX2_part_3 3 rfl rfl)
theorem dX2_part_76 : decode cX2_part 76 = .ok (.if_icmp .ne 19, 3) := dk_160 0 19 (dk_at dksX2_part_3 4 rfl rfl)
theorem dX2_part_79 : decode cX2_part 79 = .ok (.new 267, 3) := dk_187 1 11 (dk_at dksX2_part_3 7 rfl rfl)
theorem dX2_part_82 : decode cX2_part 82 = .ok (.dup, 1) := dk_89 (dk_at dksX2_part_3 10 rfl rfl)
theorem dX2_part_83 : decode cX2_part 83 = .ok (.aload_n 0, 1) := dk_42 (dk_at dksX2_part_3 11 rfl rfl)
theorem dX2_part_84 : decode cX2_part 84 = .ok (.iconst 0, 1) := dk_3 (dk_at dksX2_part_3 12 rfl rfl)
theorem dX2_part_85 : decode cX2_part 85 = .ok (.sipush 9999, 3) := dk_17 39 15 (dk_at dksX2_part_3 13 rfl rfl)
theorem dX2_part_88 : decode cX2_part 88 = .ok (.invokevirtual 117, 3) := dk_182 0 117 (dk_at dksX2_part_3 16 rfl rfl)
theorem dX2_part_91 : decode cX2_part 91 = .ok (.invokespecial 269, 3) := dk_183 1 13 (dk_at dksX2_part_3 19 rfl rfl)
theorem dX2_part_94 : decode cX2_part 94 = .ok (.areturn, 1) := dk_176 (dk_at dksX2_part_3 22 rfl rfl)
theorem dX2_part_95 : decode cX2_part 95 = .ok (.aload_n 0, 1) := dk_42 (dk_at dksX2_part_3 23 rfl rfl)
theorem dX2_part_96 : decode cX2_part 96 = .ok (.invokevirtual 25, 3) := dk_182 0 25 (dk_at dksX2_part_4 0 rfl rfl)
theorem dX2_part_99 : decode cX2_part 99 = .ok (.iload_n 1, 1) := dk_27 (dk_at dksX2_part_4 3 rfl rfl)
theorem dX2_part_100 : decode cX2_part 100 = .ok (.ifCond .lt 12, 3) := dk_155 0 12 (dk_at dksX2_part_4 4 rfl rfl)
theorem dX2_part_103 : decode cX2_part 103 = .ok (.new 270, 3) := dk_187 1 14 (dk_at dksX2_part_4 7 rfl rfl)
theorem dX2_part_106 : decode cX2_part 106 = .ok (.dup, 1) := dk_89 (dk_at dksX2_part_4 10 rfl rfl)
theorem dX2_part_107 : decode cX2_part 107 = .ok (.iload_n 1, 1) := dk_27 (dk_at dksX2_part_4 11 rfl rfl)
theorem dX2_part_108 : decode cX2_part 108 = .ok (.invokespecial 272, 3) := dk_183 1 16 (dk_at dksX2_part_4 12 rfl rfl)
theorem dX2_part_111 : decode cX2_part 111 = .ok (.areturn, 1) := dk_176 (dk_at dksX2_part_4 15 rfl rfl)
theorem dX2_part_112 : decode cX2_part 112 = .ok (.aload_n 0, 1) := dk_42 (dk_at dksX2_part_4 16 rfl rfl)
theorem dX2_part_113 : decode cX2_part 113 = .ok (.dup, 1) := dk_89 (dk_at dksX2_part_4 17 rfl rfl)
theorem dX2_part_114 : decode cX2_part 114 = .ok (.getfield 22, 3) := dk_180 0 22 (dk_at dksX2_part_4 18 rfl rfl)
theorem dX2_part_117 : decode cX2_part 117 = .ok (.iconst 1, 1) := dk_4 (dk_at dksX2_part_4 21 rfl rfl)
theorem dX2_part_118 : decode cX2_part 118 = .ok (.iadd, 1) := dk_96 (dk_at dksX2_part_4 22 rfl rfl)
theorem dX2_part_119 : decode cX2_part 119 = .ok (.putfield 22, 3) := dk_181 0 22 (dk_at dksX2_part_5 0 rfl rfl)
theorem dX2_part_122 : decode cX2_part 122 = .ok (.iload_n 2, 1) := dk_28 (dk_at dksX2_part_5 3 rfl rfl)
theorem dX2_part_123 : decode cX2_part 123 = .ok (.ifCond .eq 17, 3) := dk_153 0 17 (dk_at dksX2_part_5 4 rfl rfl)
theorem dX2_part_126 : decode cX2_part 126 = .ok (.new 273, 3) := dk_187 1 17 (dk_at dksX2_part_5 7 rfl rfl)
theorem dX2_part_129 : decode cX2_part 129 = .ok (.dup, 1) := dk_89 (dk_at dksX2_part_5 10 rfl rfl)
theorem dX2_part_130 : decode cX2_part 130 = .ok (.aload_n 0, 1) := dk_42 (dk_at dksX2_part_5 11 rfl rfl)
theorem dX2_part_131 : decode cX2_part 131 = .ok (.invokevirtual 260, 3) := dk_182 1 4 (dk_at dksX2_part_5 12 rfl rfl)
theorem dX2_part_134 : decode cX2_part 134 = .ok (.invokespecial 275, 3) := dk_183 1 19 (dk_at dksX2_part_5 15 rfl rfl)
theorem dX2_part_137 : decode cX2_part 137 = .ok (.goto 7, 3) := dk_167 0 7 (dk_at dksX2_part_5 18 rfl rfl)
theorem dX2_part_140 : decode cX2_part 140 = .ok (.aload_n 0, 1) := dk_42 (dk_at dksX2_part_5 21 rfl rfl)
theorem dX2_part_141 : decode cX2_part 141 = .ok (.invokevirtual 191, 3) := dk_182 0 191 (dk_at dksX2_part_6 0 rfl rfl)
theorem dX2_part_144 : decode cX2_part 144 = .ok (.astore 4, 2) := dk_58 4 (dk_at dksX2_part_6 3 rfl rfl)
theorem dX2_part_146 : decode cX2_part 146 = .ok (.iload_n 3, 1) := dk_29 (dk_at dksX2_part_6 5 rfl rfl)
theorem dX2_part_147 : decode cX2_part 147 = .ok (.ifCond .eq 9, 3) := dk_153 0 9 (dk_at dksX2_part_6 6 rfl rfl)
theorem dX2_part_150 : decode cX2_part 150 = .ok (.aload_n 0, 1) := dk_42 (dk_at dksX2_part_6 9 rfl rfl)
theorem dX2_part_151 : decode cX2_part 151 = .ok (.bipush 41, 2) := dk_16 41 (dk_at dksX2_part_6 10 rfl rfl)
theorem dX2_part_153 : decode cX2_part 153 = .ok (.invokevirtual 147, 3) := dk_182 0 147 (dk_at dksX2_part_6 12 rfl rfl)
theorem dX2_part_156 : decode cX2_part 156 = .ok (.aload_n 0, 1) := dk_42 (dk_at dksX2_part_6 15 rfl rfl)
theorem dX2_part_157 : decode cX2_part 157 = .ok (.dup, 1) := dk_89 (dk_at dksX2_part_6 16 rfl rfl)
theorem dX2_part_158 : decode cX2_part 158 = .ok (.getfield 22, 3) := dk_180 0 22 (dk_at dksX2_part_6 17 rfl rfl)
theorem dX2_part_161 : decode cX2_part 161 = .ok (.iconst 1, 1) := dk_4 (dk_at dksX2_part_6 20 rfl rfl)
theorem dX2_part_162 : decode cX2_part 162 = .ok (.isub, 1) := dk_100 (dk_at dksX2_part_6 21 rfl rfl)
theorem dX2_part_163 : decode cX2_part 163 = .ok (.putfield 22, 3) := dk_181 0 22 (dk_at dksX2_part_7 0 rfl rfl)
theorem dX2_part_166 : decode cX2_part 166 = .ok (.aload 4, 2) := dk_25 4 (dk_at dksX2_part_7 3 rfl rfl)
theorem dX2_part_168 : decode cX2_part 168 = .ok (.areturn, 1) := dk_176 (dk_at dksX2_part_7 5 rfl rfl)
abbrev cX2_isSign : ByteArray := prog_16_method_10_code
def yX2_isSign : MethodName := ⟨RX2, "isSign", "(C)Z"⟩
def dkwX2_isSign_1 : List UInt8 := [167, 0, 4, 3, 172]
abbrev dktX2_isSign_1 : List UInt8 := dkwX2_isSign_1 ++ []
def dkwX2_isSign_0 : List UInt8 := [42, 180, 0, 31, 6, 160, 0, 20, 42, 180, 0, 9, 42, 180, 0, 28, 51, 27, 160, 0, 7, 4]
abbrev dktX2_isSign_0 : List UInt8 := dkwX2_isSign_0 ++ dktX2_isSign_1
theorem dksX2_isSign_0 : cX2_isSign.data.toList.drop 0 = dktX2_isSign_0 := by decide +kernel
theorem dksX2_isSign_1 : cX2_isSign.data.toList.drop 22 = dktX2_isSign_1 := dk_seg dksX2_isSign_0 22 rfl rfl
theorem dX2_isSign_0 : decode cX2_isSign 0 = .ok (.aload_n 0, 1) := dk_42 (dk_at dksX2_isSign_0 0 rfl rfl)
theorem dX2_isSign_1 : decode cX2_isSign 1 = .ok (.getfield 31, 3) := dk_180 0 31 (dk_at dksX2_isSign_0 1 rfl rfl)
theorem dX2_isSign_4 : decode cX2_isSign 4 = .ok (.iconst 3, 1) := dk_6 (dk_at dksX2_isSign_0 4 rfl rfl)
theorem dX2_isSign_5 : decode cX2_isSign 5 = .ok (.if_icmp .ne 20, 3) := dk_160 0 20 (dk_at dksX2_isSign_0 5 rfl rfl)
theorem dX2_isSign_8 : decode cX2_isSign 8 = .ok (.aload_n 0, 1) := dk_42 (dk_at dksX2_isSign_0 8 rfl rfl)
theorem dX2_isSign_9 : decode cX2_isSign 9 = .ok (.getfield 9, 3) := dk_180 0 9 (dk_at dksX2_isSign_0 9 rfl rfl)
theorem dX2_isSign_12 : decode cX2_isSign 12 = .ok (.aload_n 0, 1) := dk_42 (dk_at dksX2_isSign_0 12 rfl rfl)
theorem dX2_isSign_13 : decode cX2_isSign 13 = .ok (.getfield 28, 3) := dk_180 0 28 (dk_at dksX2_isSign_0 13 rfl rfl)
theorem dX2_isSign_16 : decode cX2_isSign 16 = .ok (.baload, 1) := dk_51 (dk_at dksX2_isSign_0 16 rfl rfl)
theorem dX2_isSign_17 : decode cX2_isSign 17 = .ok (.iload_n 1, 1) := dk_27 (dk_at dksX2_isSign_0 17 rfl rfl)
theorem dX2_isSign_18 : decode cX2_isSign 18 = .ok (.if_icmp .ne 7, 3) := dk_160 0 7 (dk_at dksX2_isSign_0 18 rfl rfl)
theorem dX2_isSign_21 : decode cX2_isSign 21 = .ok (.iconst 1, 1) := dk_4 (dk_at dksX2_isSign_0 21 rfl rfl)
theorem dX2_isSign_22 : decode cX2_isSign 22 = .ok (.goto 4, 3) := dk_167 0 4 (dk_at dksX2_isSign_1 0 rfl rfl)
theorem dX2_isSign_25 : decode cX2_isSign 25 = .ok (.iconst 0, 1) := dk_3 (dk_at dksX2_isSign_1 3 rfl rfl)
theorem dX2_isSign_26 : decode cX2_isSign 26 = .ok (.ireturn, 1) := dk_172 (dk_at dksX2_isSign_1 4 rfl rfl)
abbrev cX2_need_2 : ByteArray := prog_16_method_11_code
def yX2_need_2 : MethodName := ⟨RX2, "need", "(C)V"⟩
def dkwX2_need_2_0 : List UInt8 := [42, 27, 182, 0, 79, 154, 0, 9, 42, 4, 182, 0, 75, 191, 42, 182, 0, 25, 177]
abbrev dktX2_need_2_0 : List UInt8 := dkwX2_need_2_0 ++ []
theorem dksX2_need_2_0 : cX2_need_2.data.toList.drop 0 = dktX2_need_2_0 := by decide +kernel
theorem dX2_need_2_0 : decode cX2_need_2 0 = .ok (.aload_n 0, 1) := dk_42 (dk_at dksX2_need_2_0 0 rfl rfl)
theorem dX2_need_2_1 : decode cX2_need_2 1 = .ok (.iload_n 1, 1) := dk_27 (dk_at dksX2_need_2_0 1 rfl rfl)
theorem dX2_need_2_2 : decode cX2_need_2 2 = .ok (.invokevirtual 79, 3) := dk_182 0 79 (dk_at dksX2_need_2_0 2 rfl rfl)
theorem dX2_need_2_5 : decode cX2_need_2 5 = .ok (.ifCond .ne 9, 3) := dk_154 0 9 (dk_at dksX2_need_2_0 5 rfl rfl)
theorem dX2_need_2_8 : decode cX2_need_2 8 = .ok (.aload_n 0, 1) := dk_42 (dk_at dksX2_need_2_0 8 rfl rfl)
theorem dX2_need_2_9 : decode cX2_need_2 9 = .ok (.iconst 1, 1) := dk_4 (dk_at dksX2_need_2_0 9 rfl rfl)
theorem dX2_need_2_10 : decode cX2_need_2 10 = .ok (.invokevirtual 75, 3) := dk_182 0 75 (dk_at dksX2_need_2_0 10 rfl rfl)
theorem dX2_need_2_13 : decode cX2_need_2 13 = .ok (.athrow, 1) := dk_191 (dk_at dksX2_need_2_0 13 rfl rfl)
theorem dX2_need_2_14 : decode cX2_need_2 14 = .ok (.aload_n 0, 1) := dk_42 (dk_at dksX2_need_2_0 14 rfl rfl)
theorem dX2_need_2_15 : decode cX2_need_2 15 = .ok (.invokevirtual 25, 3) := dk_182 0 25 (dk_at dksX2_need_2_0 15 rfl rfl)
theorem dX2_need_2_18 : decode cX2_need_2 18 = .ok (.return_, 1) := dk_177 (dk_at dksX2_need_2_0 18 rfl rfl)
abbrev cX2_year : ByteArray := prog_16_method_22_code
def yX2_year : MethodName := ⟨RX2, "year", "(LDateVale$Vale;)Ljava/util/ArrayList;"⟩
def dkwX2_year_3 : List UInt8 := [182, 0, 147, 167, 255, 197, 44, 176]
abbrev dktX2_year_3 : List UInt8 := dkwX2_year_3 ++ []
def dkwX2_year_2 : List UInt8 := [8, 182, 0, 75, 191, 42, 182, 0, 25, 44, 42, 29, 182, 0, 228, 182, 0, 165, 87, 42, 16, 59]
abbrev dktX2_year_2 : List UInt8 := dkwX2_year_2 ++ dktX2_year_3
def dkwX2_year_1 : List UInt8 := [182, 0, 71, 62, 29, 156, 0, 9, 42, 4, 182, 0, 75, 191, 44, 182, 0, 137, 16, 40, 160, 0, 9, 42]
abbrev dktX2_year_1 : List UInt8 := dkwX2_year_1 ++ dktX2_year_2
def dkwX2_year_0 : List UInt8 := [42, 43, 181, 0, 101, 187, 0, 138, 89, 7, 183, 0, 225, 77, 42, 180, 0, 31, 153, 0, 58, 42, 18, 226]
abbrev dktX2_year_0 : List UInt8 := dkwX2_year_0 ++ dktX2_year_1
theorem dksX2_year_0 : cX2_year.data.toList.drop 0 = dktX2_year_0 := by decide +kernel
theorem dksX2_year_1 : cX2_year.data.toList.drop 24 = dktX2_year_1 := dk_seg dksX2_year_0 24 rfl rfl
theorem dksX2_year_2 : cX2_year.data.toList.drop 48 = dktX2_year_2 := dk_seg dksX2_year_1 24 rfl rfl
theorem dksX2_year_3 : cX2_year.data.toList.drop 70 = dktX2_year_3 := dk_seg dksX2_year_2 22 rfl rfl
theorem dX2_year_0 : decode cX2_year 0 = .ok (.aload_n 0, 1) := dk_42 (dk_at dksX2_year_0 0 rfl rfl)
theorem dX2_year_1 : decode cX2_year 1 = .ok (.aload_n 1, 1) := dk_43 (dk_at dksX2_year_0 1 rfl rfl)
theorem dX2_year_2 : decode cX2_year 2 = .ok (.putfield 101, 3) := dk_181 0 101 (dk_at dksX2_year_0 2 rfl rfl)
theorem dX2_year_5 : decode cX2_year 5 = .ok (.new 138, 3) := dk_187 0 138 (dk_at dksX2_year_0 5 rfl rfl)
theorem dX2_year_8 : decode cX2_year 8 = .ok (.dup, 1) := dk_89 (dk_at dksX2_year_0 8 rfl rfl)
theorem dX2_year_9 : decode cX2_year 9 = .ok (.iconst 4, 1) := dk_7 (dk_at dksX2_year_0 9 rfl rfl)
theorem dX2_year_10 : decode cX2_year 10 = .ok (.invokespecial 225, 3) := dk_183 0 225 (dk_at dksX2_year_0 10 rfl rfl)
theorem dX2_year_13 : decode cX2_year 13 = .ok (.astore_n 2, 1) := dk_77 (dk_at dksX2_year_0 13 rfl rfl)
theorem dX2_year_14 : decode cX2_year 14 = .ok (.aload_n 0, 1) := dk_42 (dk_at dksX2_year_0 14 rfl rfl)
theorem dX2_year_15 : decode cX2_year 15 = .ok (.getfield 31, 3) := dk_180 0 31 (dk_at dksX2_year_0 15 rfl rfl)
theorem dX2_year_18 : decode cX2_year 18 = .ok (.ifCond .eq 58, 3) := dk_153 0 58 (dk_at dksX2_year_0 18 rfl rfl)
theorem dX2_year_21 : decode cX2_year 21 = .ok (.aload_n 0, 1) := dk_42 (dk_at dksX2_year_0 21 rfl rfl)
theorem dX2_year_22 : decode cX2_year 22 = .ok (.ldc 226, 2) := dk_18 226 (dk_at dksX2_year_0 22 rfl rfl)
theorem dX2_year_24 : decode cX2_year 24 = .ok (.invokevirtual 71, 3) := dk_182 0 71 (dk_at dksX2_year_1 0 rfl rfl)
theorem dX2_year_27 : decode cX2_year 27 = .ok (.istore_n 3, 1) := dk_62 (dk_at dksX2_year_1 3 rfl rfl)
theorem dX2_year_28 : decode cX2_year 28 = .ok (.iload_n 3, 1) := dk_29 (dk_at dksX2_year_1 4 rfl rfl)
theorem dX2_year_29 : decode cX2_year 29 = .ok (.ifCond .ge 9, 3) := dk_156 0 9 (dk_at dksX2_year_1 5 rfl rfl)
theorem dX2_year_32 : decode cX2_year 32 = .ok (.aload_n 0, 1) := dk_42 (dk_at dksX2_year_1 8 rfl rfl)
theorem dX2_year_33 : decode cX2_year 33 = .ok (.iconst 1, 1) := dk_4 (dk_at dksX2_year_1 9 rfl rfl)
theorem dX2_year_34 : decode cX2_year 34 = .ok (.invokevirtual 75, 3) := dk_182 0 75 (dk_at dksX2_year_1 10 rfl rfl)
theorem dX2_year_37 : decode cX2_year 37 = .ok (.athrow, 1) := dk_191 (dk_at dksX2_year_1 13 rfl rfl)
theorem dX2_year_38 : decode cX2_year 38 = .ok (.aload_n 2, 1) := dk_44 (dk_at dksX2_year_1 14 rfl rfl)
theorem dX2_year_39 : decode cX2_year 39 = .ok (.invokevirtual 137, 3) := dk_182 0 137 (dk_at dksX2_year_1 15 rfl rfl)
theorem dX2_year_42 : decode cX2_year 42 = .ok (.bipush 40, 2) := dk_16 40 (dk_at dksX2_year_1 18 rfl rfl)
theorem dX2_year_44 : decode cX2_year 44 = .ok (.if_icmp .ne 9, 3) := dk_160 0 9 (dk_at dksX2_year_1 20 rfl rfl)
theorem dX2_year_47 : decode cX2_year 47 = .ok (.aload_n 0, 1) := dk_42 (dk_at dksX2_year_1 23 rfl rfl)
theorem dX2_year_48 : decode cX2_year 48 = .ok (.iconst 5, 1) := dk_8 (dk_at dksX2_year_2 0 rfl rfl)
theorem dX2_year_49 : decode cX2_year 49 = .ok (.invokevirtual 75, 3) := dk_182 0 75 (dk_at dksX2_year_2 1 rfl rfl)
theorem dX2_year_52 : decode cX2_year 52 = .ok (.athrow, 1) := dk_191 (dk_at dksX2_year_2 4 rfl rfl)
theorem dX2_year_53 : decode cX2_year 53 = .ok (.aload_n 0, 1) := dk_42 (dk_at dksX2_year_2 5 rfl rfl)
theorem dX2_year_54 : decode cX2_year 54 = .ok (.invokevirtual 25, 3) := dk_182 0 25 (dk_at dksX2_year_2 6 rfl rfl)
theorem dX2_year_57 : decode cX2_year 57 = .ok (.aload_n 2, 1) := dk_44 (dk_at dksX2_year_2 9 rfl rfl)
theorem dX2_year_58 : decode cX2_year 58 = .ok (.aload_n 0, 1) := dk_42 (dk_at dksX2_year_2 10 rfl rfl)
theorem dX2_year_59 : decode cX2_year 59 = .ok (.iload_n 3, 1) := dk_29 (dk_at dksX2_year_2 11 rfl rfl)
theorem dX2_year_60 : decode cX2_year 60 = .ok (.invokevirtual 228, 3) := dk_182 0 228 (dk_at dksX2_year_2 12 rfl rfl)
theorem dX2_year_63 : decode cX2_year 63 = .ok (.invokevirtual 165, 3) := dk_182 0 165 (dk_at dksX2_year_2 15 rfl rfl)
theorem dX2_year_66 : decode cX2_year 66 = .ok (.pop, 1) := dk_87 (dk_at dksX2_year_2 18 rfl rfl)
theorem dX2_year_67 : decode cX2_year 67 = .ok (.aload_n 0, 1) := dk_42 (dk_at dksX2_year_2 19 rfl rfl)
theorem dX2_year_68 : decode cX2_year 68 = .ok (.bipush 59, 2) := dk_16 59 (dk_at dksX2_year_2 20 rfl rfl)
theorem dX2_year_70 : decode cX2_year 70 = .ok (.invokevirtual 147, 3) := dk_182 0 147 (dk_at dksX2_year_3 0 rfl rfl)
theorem dX2_year_73 : decode cX2_year 73 = .ok (.goto (-59), 3) := dk_167 255 197 (dk_at dksX2_year_3 3 rfl rfl)
theorem dX2_year_76 : decode cX2_year 76 = .ok (.aload_n 2, 1) := dk_44 (dk_at dksX2_year_3 6 rfl rfl)
theorem dX2_year_77 : decode cX2_year 77 = .ok (.areturn, 1) := dk_176 (dk_at dksX2_year_3 7 rfl rfl)
abbrev cX2_done : ByteArray := prog_16_method_23_code
def yX2_done : MethodName := ⟨RX2, "done", "(I)LDateVale$Line;"⟩
def dkwX2_done_4 : List UInt8 := [183, 0, 243, 176]
abbrev dktX2_done_4 : List UInt8 := dkwX2_done_4 ++ []
def dkwX2_done_3 : List UInt8 := [180, 0, 101, 42, 182, 0, 98, 182, 0, 105, 182, 0, 169, 183, 0, 240, 167, 0, 11, 187, 0, 241, 89, 28]
abbrev dktX2_done_3 : List UInt8 := dkwX2_done_3 ++ dktX2_done_4
def dkwX2_done_2 : List UInt8 := [182, 0, 98, 182, 0, 110, 182, 0, 169, 61, 27, 4, 160, 0, 29, 187, 0, 238, 89, 28, 42, 42]
abbrev dktX2_done_2 : List UInt8 := dkwX2_done_2 ++ dktX2_done_3
def dkwX2_done_1 : List UInt8 := [180, 0, 101, 42, 182, 0, 98, 182, 0, 105, 182, 0, 169, 183, 0, 237, 176, 42, 42, 180, 0, 101, 42]
abbrev dktX2_done_1 : List UInt8 := dkwX2_done_1 ++ dktX2_done_2
def dkwX2_done_0 : List UInt8 := [27, 154, 0, 11, 187, 0, 232, 89, 183, 0, 234, 176, 27, 6, 160, 0, 26, 187, 0, 235, 89, 42, 42]
abbrev dktX2_done_0 : List UInt8 := dkwX2_done_0 ++ dktX2_done_1
theorem dksX2_done_0 : cX2_done.data.toList.drop 0 = dktX2_done_0 := by decide +kernel
theorem dksX2_done_1 : cX2_done.data.toList.drop 23 = dktX2_done_1 := dk_seg dksX2_done_0 23 rfl rfl
theorem dksX2_done_2 : cX2_done.data.toList.drop 46 = dktX2_done_2 := dk_seg dksX2_done_1 23 rfl rfl
theorem dksX2_done_3 : cX2_done.data.toList.drop 68 = dktX2_done_3 := dk_seg dksX2_done_2 22 rfl rfl
theorem dksX2_done_4 : cX2_done.data.toList.drop 92 = dktX2_done_4 := dk_seg dksX2_done_3 24 rfl rfl
theorem dX2_done_0 : decode cX2_done 0 = .ok (.iload_n 1, 1) := dk_27 (dk_at dksX2_done_0 0 rfl rfl)
theorem dX2_done_1 : decode cX2_done 1 = .ok (.ifCond .ne 11, 3) := dk_154 0 11 (dk_at dksX2_done_0 1 rfl rfl)
theorem dX2_done_4 : decode cX2_done 4 = .ok (.new 232, 3) := dk_187 0 232 (dk_at dksX2_done_0 4 rfl rfl)
theorem dX2_done_7 : decode cX2_done 7 = .ok (.dup, 1) := dk_89 (dk_at dksX2_done_0 7 rfl rfl)
theorem dX2_done_8 : decode cX2_done 8 = .ok (.invokespecial 234, 3) := dk_183 0 234 (dk_at dksX2_done_0 8 rfl rfl)
theorem dX2_done_11 : decode cX2_done 11 = .ok (.areturn, 1) := dk_176 (dk_at dksX2_done_0 11 rfl rfl)
theorem dX2_done_12 : decode cX2_done 12 = .ok (.iload_n 1, 1) := dk_27 (dk_at dksX2_done_0 12 rfl rfl)
theorem dX2_done_13 : decode cX2_done 13 = .ok (.iconst 3, 1) := dk_6 (dk_at dksX2_done_0 13 rfl rfl)
theorem dX2_done_14 : decode cX2_done 14 = .ok (.if_icmp .ne 26, 3) := dk_160 0 26 (dk_at dksX2_done_0 14 rfl rfl)
theorem dX2_done_17 : decode cX2_done 17 = .ok (.new 235, 3) := dk_187 0 235 (dk_at dksX2_done_0 17 rfl rfl)
theorem dX2_done_20 : decode cX2_done 20 = .ok (.dup, 1) := dk_89 (dk_at dksX2_done_0 20 rfl rfl)
theorem dX2_done_21 : decode cX2_done 21 = .ok (.aload_n 0, 1) := dk_42 (dk_at dksX2_done_0 21 rfl rfl)
theorem dX2_done_22 : decode cX2_done 22 = .ok (.aload_n 0, 1) := dk_42 (dk_at dksX2_done_0 22 rfl rfl)
theorem dX2_done_23 : decode cX2_done 23 = .ok (.getfield 101, 3) := dk_180 0 101 (dk_at dksX2_done_1 0 rfl rfl)
theorem dX2_done_26 : decode cX2_done 26 = .ok (.aload_n 0, 1) := dk_42 (dk_at dksX2_done_1 3 rfl rfl)
theorem dX2_done_27 : decode cX2_done 27 = .ok (.invokevirtual 98, 3) := dk_182 0 98 (dk_at dksX2_done_1 4 rfl rfl)
theorem dX2_done_30 : decode cX2_done 30 = .ok (.invokevirtual 105, 3) := dk_182 0 105 (dk_at dksX2_done_1 7 rfl rfl)
theorem dX2_done_33 : decode cX2_done 33 = .ok (.invokevirtual 169, 3) := dk_182 0 169 (dk_at dksX2_done_1 10 rfl rfl)
theorem dX2_done_36 : decode cX2_done 36 = .ok (.invokespecial 237, 3) := dk_183 0 237 (dk_at dksX2_done_1 13 rfl rfl)
theorem dX2_done_39 : decode cX2_done 39 = .ok (.areturn, 1) := dk_176 (dk_at dksX2_done_1 16 rfl rfl)
theorem dX2_done_40 : decode cX2_done 40 = .ok (.aload_n 0, 1) := dk_42 (dk_at dksX2_done_1 17 rfl rfl)
theorem dX2_done_41 : decode cX2_done 41 = .ok (.aload_n 0, 1) := dk_42 (dk_at dksX2_done_1 18 rfl rfl)
theorem dX2_done_42 : decode cX2_done 42 = .ok (.getfield 101, 3) := dk_180 0 101 (dk_at dksX2_done_1 19 rfl rfl)
theorem dX2_done_45 : decode cX2_done 45 = .ok (.aload_n 0, 1) := dk_42 (dk_at dksX2_done_1 22 rfl rfl)
theorem dX2_done_46 : decode cX2_done 46 = .ok (.invokevirtual 98, 3) := dk_182 0 98 (dk_at dksX2_done_2 0 rfl rfl)
theorem dX2_done_49 : decode cX2_done 49 = .ok (.invokevirtual 110, 3) := dk_182 0 110 (dk_at dksX2_done_2 3 rfl rfl)
theorem dX2_done_52 : decode cX2_done 52 = .ok (.invokevirtual 169, 3) := dk_182 0 169 (dk_at dksX2_done_2 6 rfl rfl)
theorem dX2_done_55 : decode cX2_done 55 = .ok (.istore_n 2, 1) := dk_61 (dk_at dksX2_done_2 9 rfl rfl)
theorem dX2_done_56 : decode cX2_done 56 = .ok (.iload_n 1, 1) := dk_27 (dk_at dksX2_done_2 10 rfl rfl)
theorem dX2_done_57 : decode cX2_done 57 = .ok (.iconst 1, 1) := dk_4 (dk_at dksX2_done_2 11 rfl rfl)
theorem dX2_done_58 : decode cX2_done 58 = .ok (.if_icmp .ne 29, 3) := dk_160 0 29 (dk_at dksX2_done_2 12 rfl rfl)
theorem dX2_done_61 : decode cX2_done 61 = .ok (.new 238, 3) := dk_187 0 238 (dk_at dksX2_done_2 15 rfl rfl)
theorem dX2_done_64 : decode cX2_done 64 = .ok (.dup, 1) := dk_89 (dk_at dksX2_done_2 18 rfl rfl)
theorem dX2_done_65 : decode cX2_done 65 = .ok (.iload_n 2, 1) := dk_28 (dk_at dksX2_done_2 19 rfl rfl)
theorem dX2_done_66 : decode cX2_done 66 = .ok (.aload_n 0, 1) := dk_42 (dk_at dksX2_done_2 20 rfl rfl)
theorem dX2_done_67 : decode cX2_done 67 = .ok (.aload_n 0, 1) := dk_42 (dk_at dksX2_done_2 21 rfl rfl)
theorem dX2_done_68 : decode cX2_done 68 = .ok (.getfield 101, 3) := dk_180 0 101 (dk_at dksX2_done_3 0 rfl rfl)
theorem dX2_done_71 : decode cX2_done 71 = .ok (.aload_n 0, 1) := dk_42 (dk_at dksX2_done_3 3 rfl rfl)
theorem dX2_done_72 : decode cX2_done 72 = .ok (.invokevirtual 98, 3) := dk_182 0 98 (dk_at dksX2_done_3 4 rfl rfl)
theorem dX2_done_75 : decode cX2_done 75 = .ok (.invokevirtual 105, 3) := dk_182 0 105 (dk_at dksX2_done_3 7 rfl rfl)
theorem dX2_done_78 : decode cX2_done 78 = .ok (.invokevirtual 169, 3) := dk_182 0 169 (dk_at dksX2_done_3 10 rfl rfl)
theorem dX2_done_81 : decode cX2_done 81 = .ok (.invokespecial 240, 3) := dk_183 0 240 (dk_at dksX2_done_3 13 rfl rfl)
theorem dX2_done_84 : decode cX2_done 84 = .ok (.goto 11, 3) := dk_167 0 11 (dk_at dksX2_done_3 16 rfl rfl)
theorem dX2_done_87 : decode cX2_done 87 = .ok (.new 241, 3) := dk_187 0 241 (dk_at dksX2_done_3 19 rfl rfl)
theorem dX2_done_90 : decode cX2_done 90 = .ok (.dup, 1) := dk_89 (dk_at dksX2_done_3 22 rfl rfl)
theorem dX2_done_91 : decode cX2_done 91 = .ok (.iload_n 2, 1) := dk_28 (dk_at dksX2_done_3 23 rfl rfl)
theorem dX2_done_92 : decode cX2_done 92 = .ok (.invokespecial 243, 3) := dk_183 0 243 (dk_at dksX2_done_4 0 rfl rfl)
theorem dX2_done_95 : decode cX2_done 95 = .ok (.areturn, 1) := dk_176 (dk_at dksX2_done_4 3 rfl rfl)
theorem q113 : (Jvm.Cond.initialized "DateVale$Reader") ∈ lw_all := lw_g (lw_at lw_m1 2 rfl) rfl
theorem q163 : (Jvm.Cond.instantiable "DateVale$Reader" (8 : Nat)) ∈ lw_all := lw_g (lw_at lw_m1 52 rfl) rfl
theorem q165 : (Jvm.Cond.instanceMethod ({ cls := "DateVale$Reader", name := "<init>", desc := "()V" } : Jvm.MethodName)) ∈ lw_all := lw_g (lw_at lw_m1 54 rfl) rfl
theorem q166 : (Jvm.Cond.code ({ cls := "DateVale$Reader", name := "<init>", desc := "()V" } : Jvm.MethodName) prog_16_method_1_code (1 : Nat) (Option.none : Option Jvm.ClassFile.FieldType)) ∈ lw_all := lw_g (lw_at lw_m1 55 rfl) rfl
theorem q167 : (Jvm.Cond.methodLink "DateVale$Reader" (3 : Nat) ({ cls := "java/lang/Object", name := "<init>", desc := "()V" } : Jvm.MethodName)) ∈ lw_all := lw_g (lw_at lw_m1 56 rfl) rfl
theorem q168 : (Jvm.Cond.fieldLink "DateVale$Reader" (9 : Nat) "DateVale$Reader" "text" "[B") ∈ lw_all := lw_g (lw_at lw_m1 57 rfl) rfl
theorem q169 : (Jvm.Cond.fieldLink "DateVale$Reader" (15 : Nat) "DateVale$Reader" "size" "I") ∈ lw_all := lw_g (lw_at lw_m1 58 rfl) rfl
theorem q170 : (Jvm.Cond.fieldLink "DateVale$Reader" (19 : Nat) "DateVale$Reader" "to" "I") ∈ lw_all := lw_g (lw_at lw_m1 59 rfl) rfl
theorem q171 : (Jvm.Cond.fieldLink "DateVale$Reader" (31 : Nat) "DateVale$Reader" "kind" "I") ∈ lw_all := lw_g (lw_at lw_m1 60 rfl) rfl
theorem q172 : (Jvm.Cond.fieldLink "DateVale$Reader" (28 : Nat) "DateVale$Reader" "from" "I") ∈ lw_all := lw_g (lw_at lw_m1 61 rfl) rfl
theorem q173 : (Jvm.Cond.fieldLink "DateVale$Reader" (45 : Nat) "DateVale$Reader" "value" "I") ∈ lw_all := lw_g (lw_at lw_m1 62 rfl) rfl
theorem q174 : (Jvm.Cond.fieldLink "DateVale$Reader" (22 : Nat) "DateVale$Reader" "within" "I") ∈ lw_all := lw_g (lw_at lw_m1 63 rfl) rfl
theorem q175 : (Jvm.Cond.fieldLink "DateVale$Reader" (101 : Nat) "DateVale$Reader" "vale" "LDateVale$Vale;") ∈ lw_all := lw_g (lw_at lw_m1 64 rfl) rfl
theorem q176 : (Jvm.Cond.lays "DateVale$Reader" "DateVale$Reader" "text" "[B") ∈ lw_all := lw_g (lw_at lw_m1 65 rfl) rfl
theorem q177 : (Jvm.Cond.soleField "DateVale$Reader" "text") ∈ lw_all := lw_g (lw_at lw_m1 66 rfl) rfl
theorem q178 : (Jvm.Cond.lays "DateVale$Reader" "DateVale$Reader" "size" "I") ∈ lw_all := lw_g (lw_at lw_m1 67 rfl) rfl
theorem q179 : (Jvm.Cond.soleField "DateVale$Reader" "size") ∈ lw_all := lw_g (lw_at lw_m1 68 rfl) rfl
theorem q180 : (Jvm.Cond.lays "DateVale$Reader" "DateVale$Reader" "to" "I") ∈ lw_all := lw_g (lw_at lw_m1 69 rfl) rfl
theorem q181 : (Jvm.Cond.soleField "DateVale$Reader" "to") ∈ lw_all := lw_g (lw_at lw_m1 70 rfl) rfl
theorem q182 : (Jvm.Cond.lays "DateVale$Reader" "DateVale$Reader" "kind" "I") ∈ lw_all := lw_g (lw_at lw_m1 71 rfl) rfl
theorem q183 : (Jvm.Cond.soleField "DateVale$Reader" "kind") ∈ lw_all := lw_g (lw_at lw_m1 72 rfl) rfl
theorem q184 : (Jvm.Cond.lays "DateVale$Reader" "DateVale$Reader" "from" "I") ∈ lw_all := lw_g (lw_at lw_m1 73 rfl) rfl
theorem q185 : (Jvm.Cond.soleField "DateVale$Reader" "from") ∈ lw_all := lw_g (lw_at lw_m1 74 rfl) rfl
theorem q186 : (Jvm.Cond.lays "DateVale$Reader" "DateVale$Reader" "value" "I") ∈ lw_all := lw_g (lw_at lw_m1 75 rfl) rfl
theorem q187 : (Jvm.Cond.soleField "DateVale$Reader" "value") ∈ lw_all := lw_g (lw_at lw_m1 76 rfl) rfl
theorem q188 : (Jvm.Cond.lays "DateVale$Reader" "DateVale$Reader" "within" "I") ∈ lw_all := lw_g (lw_at lw_m1 77 rfl) rfl
theorem q189 : (Jvm.Cond.soleField "DateVale$Reader" "within") ∈ lw_all := lw_g (lw_at lw_m1 78 rfl) rfl
theorem q190 : (Jvm.Cond.lays "DateVale$Reader" "DateVale$Reader" "vale" "LDateVale$Vale;") ∈ lw_all := lw_g (lw_at lw_m1 79 rfl) rfl
theorem q191 : (Jvm.Cond.soleField "DateVale$Reader" "vale") ∈ lw_all := lw_g (lw_at lw_m1 80 rfl) rfl
theorem q192 : (Jvm.Cond.superclass "DateVale$Reader" "java/lang/Object") ∈ lw_all := lw_g (lw_at lw_m1 81 rfl) rfl
theorem q231 : (Jvm.Cond.fieldLinkNest "DateVale$Reader" (133 : Nat) "DateVale$Vale" "homes" "Ljava/util/ArrayList;" "DateVale") ∈ lw_tbl := lw_at lw_m1 120 rfl
theorem q235 : (Jvm.Cond.fieldLinkNest "DateVale$Reader" (141 : Nat) "DateVale$Vale" "guests" "Ljava/util/ArrayList;" "DateVale") ∈ lw_tbl := lw_at lw_m1 124 rfl
theorem q237 : (Jvm.Cond.fieldLinkNest "DateVale$Reader" (126 : Nat) "DateVale$Vale" "stays" "I" "DateVale") ∈ lw_tbl := lw_at lw_m1 126 rfl
theorem q238 : (Jvm.Cond.fieldLinkNest "DateVale$Reader" (129 : Nat) "DateVale$Vale" "fades" "LDateVale$Expression;" "DateVale") ∈ lw_tbl := lw_at lw_m1 127 rfl
theorem q405 : (Jvm.Cond.instanceMethod ({ cls := "DateVale$Reader", name := "begin", desc := "([BI)V" } : Jvm.MethodName)) ∈ lw_all := lw_g (lw_at lw_m2 54 rfl) rfl
theorem q406 : (Jvm.Cond.selects "DateVale$Reader" ({ cls := "DateVale$Reader", name := "begin", desc := "([BI)V" } : Jvm.MethodName) ({ cls := "DateVale$Reader", name := "begin", desc := "([BI)V" } : Jvm.MethodName)) ∈ lw_all := lw_g (lw_at lw_m2 55 rfl) rfl
theorem q407 : (Jvm.Cond.code ({ cls := "DateVale$Reader", name := "begin", desc := "([BI)V" } : Jvm.MethodName) prog_16_method_2_code (3 : Nat) (Option.none : Option Jvm.ClassFile.FieldType)) ∈ lw_all := lw_g (lw_at lw_m2 56 rfl) rfl
theorem q408 : (Jvm.Cond.methodLink "DateVale$Reader" (25 : Nat) ({ cls := "DateVale$Reader", name := "next", desc := "()V" } : Jvm.MethodName)) ∈ lw_all := lw_g (lw_at lw_m2 57 rfl) rfl
theorem q409 : (Jvm.Cond.privateMethod ({ cls := "DateVale$Reader", name := "next", desc := "()V" } : Jvm.MethodName)) ∈ lw_tbl := lw_at lw_m2 58 rfl
theorem q410 : (Jvm.Cond.instanceMethod ({ cls := "DateVale$Reader", name := "next", desc := "()V" } : Jvm.MethodName)) ∈ lw_all := lw_g (lw_at lw_m2 59 rfl) rfl
theorem q411 : (Jvm.Cond.code ({ cls := "DateVale$Reader", name := "next", desc := "()V" } : Jvm.MethodName) prog_16_method_6_code (1 : Nat) (Option.none : Option Jvm.ClassFile.FieldType)) ∈ lw_all := lw_g (lw_at lw_m2 60 rfl) rfl
theorem q412 : (Jvm.Cond.methodLink "DateVale$Reader" (34 : Nat) ({ cls := "DateVale$Reader", name := "at", desc := "(I)I" } : Jvm.MethodName)) ∈ lw_all := lw_g (lw_at lw_m2 61 rfl) rfl
theorem q413 : (Jvm.Cond.privateMethod ({ cls := "DateVale$Reader", name := "at", desc := "(I)I" } : Jvm.MethodName)) ∈ lw_tbl := lw_at lw_m2 62 rfl
theorem q414 : (Jvm.Cond.instanceMethod ({ cls := "DateVale$Reader", name := "at", desc := "(I)I" } : Jvm.MethodName)) ∈ lw_all := lw_g (lw_at lw_m2 63 rfl) rfl
theorem q415 : (Jvm.Cond.code ({ cls := "DateVale$Reader", name := "at", desc := "(I)I" } : Jvm.MethodName) prog_16_method_3_code (2 : Nat) (Option.some Jvm.ClassFile.FieldType.int)) ∈ lw_all := lw_g (lw_at lw_m2 64 rfl) rfl
theorem q416 : (Jvm.Cond.methodLink "DateVale$Reader" (38 : Nat) ({ cls := "DateVale$Reader", name := "isLetter", desc := "(I)Z" } : Jvm.MethodName)) ∈ lw_all := lw_g (lw_at lw_m2 65 rfl) rfl
theorem q417 : (Jvm.Cond.static ({ cls := "DateVale$Reader", name := "isLetter", desc := "(I)Z" } : Jvm.MethodName)) ∈ lw_all := lw_g (lw_at lw_m2 66 rfl) rfl
theorem q418 : (Jvm.Cond.code ({ cls := "DateVale$Reader", name := "isLetter", desc := "(I)Z" } : Jvm.MethodName) prog_16_method_4_code (1 : Nat) (Option.some Jvm.ClassFile.FieldType.boolean)) ∈ lw_all := lw_g (lw_at lw_m2 67 rfl) rfl
theorem q419 : (Jvm.Cond.methodLink "DateVale$Reader" (42 : Nat) ({ cls := "DateVale$Reader", name := "isDigit", desc := "(I)Z" } : Jvm.MethodName)) ∈ lw_all := lw_g (lw_at lw_m2 68 rfl) rfl
theorem q420 : (Jvm.Cond.static ({ cls := "DateVale$Reader", name := "isDigit", desc := "(I)Z" } : Jvm.MethodName)) ∈ lw_all := lw_g (lw_at lw_m2 69 rfl) rfl
theorem q421 : (Jvm.Cond.code ({ cls := "DateVale$Reader", name := "isDigit", desc := "(I)Z" } : Jvm.MethodName) prog_16_method_5_code (1 : Nat) (Option.some Jvm.ClassFile.FieldType.boolean)) ∈ lw_all := lw_g (lw_at lw_m2 70 rfl) rfl
theorem q422 : (Jvm.Cond.stringRef "DateVale$Reader" (48 : Nat) "()<=+-*;") ∈ lw_tbl := lw_at lw_m2 71 rfl
theorem q423 : (Jvm.Cond.methodLink "DateVale$Reader" (50 : Nat) ({ cls := "java/lang/String", name := "indexOf", desc := "(I)I" } : Jvm.MethodName)) ∈ lw_all := lw_g (lw_at lw_m2 72 rfl) rfl
theorem q510 : (Jvm.Cond.instanceMethod ({ cls := "DateVale$Reader", name := "vale", desc := "()LDateVale$Vale;" } : Jvm.MethodName)) ∈ lw_all := lw_g (lw_at lw_m2 159 rfl) rfl
theorem q511 : (Jvm.Cond.selects "DateVale$Reader" ({ cls := "DateVale$Reader", name := "vale", desc := "()LDateVale$Vale;" } : Jvm.MethodName) ({ cls := "DateVale$Reader", name := "vale", desc := "()LDateVale$Vale;" } : Jvm.MethodName)) ∈ lw_all := lw_g (lw_at lw_m2 160 rfl) rfl
theorem q512 : (Jvm.Cond.code ({ cls := "DateVale$Reader", name := "vale", desc := "()LDateVale$Vale;" } : Jvm.MethodName) prog_16_method_19_code (2 : Nat) (Option.some (Jvm.ClassFile.FieldType.object "DateVale$Vale"))) ∈ lw_all := lw_g (lw_at lw_m2 161 rfl) rfl
theorem q513 : (Jvm.Cond.classLink "DateVale$Reader" (106 : Nat) "DateVale$Vale") ∈ lw_all := lw_g (lw_at lw_m2 162 rfl) rfl
theorem q514 : (Jvm.Cond.methodLinkNest "DateVale$Reader" (123 : Nat) ({ cls := "DateVale$Vale", name := "<init>", desc := "()V" } : Jvm.MethodName) "DateVale") ∈ lw_tbl := lw_at lw_m2 163 rfl
theorem q515 : (Jvm.Cond.stringRef "DateVale$Reader" (124 : Nat) "house lends day clash stays fades ") ∈ lw_tbl := lw_at lw_m2 164 rfl
theorem q516 : (Jvm.Cond.methodLink "DateVale$Reader" (71 : Nat) ({ cls := "DateVale$Reader", name := "which", desc := "(Ljava/lang/String;)I" } : Jvm.MethodName)) ∈ lw_all := lw_g (lw_at lw_m2 165 rfl) rfl
theorem q517 : (Jvm.Cond.privateMethod ({ cls := "DateVale$Reader", name := "which", desc := "(Ljava/lang/String;)I" } : Jvm.MethodName)) ∈ lw_tbl := lw_at lw_m2 166 rfl
theorem q518 : (Jvm.Cond.instanceMethod ({ cls := "DateVale$Reader", name := "which", desc := "(Ljava/lang/String;)I" } : Jvm.MethodName)) ∈ lw_all := lw_g (lw_at lw_m2 167 rfl) rfl
theorem q519 : (Jvm.Cond.code ({ cls := "DateVale$Reader", name := "which", desc := "(Ljava/lang/String;)I" } : Jvm.MethodName) prog_16_method_8_code (7 : Nat) (Option.some Jvm.ClassFile.FieldType.int)) ∈ lw_all := lw_g (lw_at lw_m2 168 rfl) rfl
theorem q520 : (Jvm.Cond.methodLink "DateVale$Reader" (60 : Nat) ({ cls := "java/lang/String", name := "length", desc := "()I" } : Jvm.MethodName)) ∈ lw_all := lw_g (lw_at lw_m2 169 rfl) rfl
theorem q521 : (Jvm.Cond.methodLink "DateVale$Reader" (64 : Nat) ({ cls := "java/lang/String", name := "indexOf", desc := "(II)I" } : Jvm.MethodName)) ∈ lw_all := lw_g (lw_at lw_m2 170 rfl) rfl
theorem q522 : (Jvm.Cond.methodLink "DateVale$Reader" (67 : Nat) ({ cls := "java/lang/String", name := "charAt", desc := "(I)C" } : Jvm.MethodName)) ∈ lw_all := lw_g (lw_at lw_m2 171 rfl) rfl
theorem q540 : (Jvm.Cond.methodLink "DateVale$Reader" (75 : Nat) ({ cls := "DateVale$Reader", name := "wrong", desc := "(I)LDateVale$Wrong;" } : Jvm.MethodName)) ∈ lw_all := lw_g (lw_at lw_m2 189 rfl) rfl
theorem q541 : (Jvm.Cond.privateMethod ({ cls := "DateVale$Reader", name := "wrong", desc := "(I)LDateVale$Wrong;" } : Jvm.MethodName)) ∈ lw_tbl := lw_at lw_m2 190 rfl
theorem q542 : (Jvm.Cond.instanceMethod ({ cls := "DateVale$Reader", name := "wrong", desc := "(I)LDateVale$Wrong;" } : Jvm.MethodName)) ∈ lw_all := lw_g (lw_at lw_m2 191 rfl) rfl
theorem q543 : (Jvm.Cond.code ({ cls := "DateVale$Reader", name := "wrong", desc := "(I)LDateVale$Wrong;" } : Jvm.MethodName) prog_16_method_7_code (2 : Nat) (Option.some (Jvm.ClassFile.FieldType.object "DateVale$Wrong"))) ∈ lw_all := lw_g (lw_at lw_m2 192 rfl) rfl
theorem q544 : (Jvm.Cond.classLink "DateVale$Reader" (55 : Nat) "DateVale$Wrong") ∈ lw_all := lw_g (lw_at lw_m2 193 rfl) rfl
theorem q584 : (Jvm.Cond.methodLink "DateVale$Reader" (57 : Nat) ({ cls := "DateVale$Wrong", name := "<init>", desc := "(II)V" } : Jvm.MethodName)) ∈ lw_all := lw_g (lw_at lw_m2 233 rfl) rfl
theorem q613 : (Jvm.Cond.methodLink "DateVale$Reader" (137 : Nat) ({ cls := "java/util/ArrayList", name := "size", desc := "()I" } : Jvm.MethodName)) ∈ lw_all := lw_g (lw_at lw_m3 22 rfl) rfl
theorem q614 : (Jvm.Cond.methodLink "DateVale$Reader" (144 : Nat) ({ cls := "DateVale$Reader", name := "line", desc := "(I)V" } : Jvm.MethodName)) ∈ lw_all := lw_g (lw_at lw_m3 23 rfl) rfl
theorem q615 : (Jvm.Cond.privateMethod ({ cls := "DateVale$Reader", name := "line", desc := "(I)V" } : Jvm.MethodName)) ∈ lw_tbl := lw_at lw_m3 24 rfl
theorem q616 : (Jvm.Cond.instanceMethod ({ cls := "DateVale$Reader", name := "line", desc := "(I)V" } : Jvm.MethodName)) ∈ lw_all := lw_g (lw_at lw_m3 25 rfl) rfl
theorem q617 : (Jvm.Cond.code ({ cls := "DateVale$Reader", name := "line", desc := "(I)V" } : Jvm.MethodName) prog_16_method_20_code (4 : Nat) (Option.none : Option Jvm.ClassFile.FieldType)) ∈ lw_all := lw_g (lw_at lw_m3 26 rfl) rfl
theorem q618 : (Jvm.Cond.classLink "DateVale$Reader" (150 : Nat) "DateVale$Home") ∈ lw_all := lw_g (lw_at lw_m3 27 rfl) rfl
theorem q620 : (Jvm.Cond.methodLink "DateVale$Reader" (152 : Nat) ({ cls := "DateVale$Reader", name := "fresh", desc := "()Ljava/lang/String;" } : Jvm.MethodName)) ∈ lw_all := lw_g (lw_at lw_m3 29 rfl) rfl
theorem q621 : (Jvm.Cond.privateMethod ({ cls := "DateVale$Reader", name := "fresh", desc := "()Ljava/lang/String;" } : Jvm.MethodName)) ∈ lw_tbl := lw_at lw_m3 30 rfl
theorem q622 : (Jvm.Cond.instanceMethod ({ cls := "DateVale$Reader", name := "fresh", desc := "()Ljava/lang/String;" } : Jvm.MethodName)) ∈ lw_all := lw_g (lw_at lw_m3 31 rfl) rfl
theorem q623 : (Jvm.Cond.code ({ cls := "DateVale$Reader", name := "fresh", desc := "()Ljava/lang/String;" } : Jvm.MethodName) prog_16_method_14_code (2 : Nat) (Option.some (Jvm.ClassFile.FieldType.object "java/lang/String"))) ∈ lw_all := lw_g (lw_at lw_m3 32 rfl) rfl
theorem q624 : (Jvm.Cond.methodLink "DateVale$Reader" (98 : Nat) ({ cls := "DateVale$Reader", name := "name", desc := "()Ljava/lang/String;" } : Jvm.MethodName)) ∈ lw_all := lw_g (lw_at lw_m3 33 rfl) rfl
theorem q625 : (Jvm.Cond.privateMethod ({ cls := "DateVale$Reader", name := "name", desc := "()Ljava/lang/String;" } : Jvm.MethodName)) ∈ lw_tbl := lw_at lw_m3 34 rfl
theorem q626 : (Jvm.Cond.instanceMethod ({ cls := "DateVale$Reader", name := "name", desc := "()Ljava/lang/String;" } : Jvm.MethodName)) ∈ lw_all := lw_g (lw_at lw_m3 35 rfl) rfl
theorem q627 : (Jvm.Cond.code ({ cls := "DateVale$Reader", name := "name", desc := "()Ljava/lang/String;" } : Jvm.MethodName) prog_16_method_13_code (3 : Nat) (Option.some (Jvm.ClassFile.FieldType.object "java/lang/String"))) ∈ lw_all := lw_g (lw_at lw_m3 36 rfl) rfl
theorem q628 : (Jvm.Cond.stringRef "DateVale$Reader" (83 : Nat) "house beds lends day of on says clash stays fades date move send build plain big early leap not and or ") ∈ lw_tbl := lw_at lw_m3 37 rfl
theorem q629 : (Jvm.Cond.classLink "DateVale$Reader" (85 : Nat) "java/lang/StringBuilder") ∈ lw_all := lw_g (lw_at lw_m3 38 rfl) rfl
theorem q631 : (Jvm.Cond.methodLink "DateVale$Reader" (87 : Nat) ({ cls := "java/lang/StringBuilder", name := "<init>", desc := "(I)V" } : Jvm.MethodName)) ∈ lw_all := lw_g (lw_at lw_m3 40 rfl) rfl
theorem q659 : (Jvm.Cond.methodLink "DateVale$Reader" (90 : Nat) ({ cls := "java/lang/StringBuilder", name := "append", desc := "(C)Ljava/lang/StringBuilder;" } : Jvm.MethodName)) ∈ lw_all := lw_g (lw_at lw_m3 68 rfl) rfl
theorem q730 : (Jvm.Cond.methodLink "DateVale$Reader" (94 : Nat) ({ cls := "java/lang/StringBuilder", name := "toString", desc := "()Ljava/lang/String;" } : Jvm.MethodName)) ∈ lw_all := lw_g (lw_at lw_m3 139 rfl) rfl
theorem q787 : (Jvm.Cond.methodLink "DateVale$Reader" (105 : Nat) ({ cls := "DateVale$Vale", name := "home", desc := "(Ljava/lang/String;)I" } : Jvm.MethodName)) ∈ lw_all := lw_g (lw_at lw_m3 196 rfl) rfl
theorem q802 : (Jvm.Cond.methodLink "DateVale$Reader" (110 : Nat) ({ cls := "DateVale$Vale", name := "guest", desc := "(Ljava/lang/String;)I" } : Jvm.MethodName)) ∈ lw_all := lw_g (lw_at lw_m3 211 rfl) rfl
theorem q807 : (Jvm.Cond.methodLink "DateVale$Reader" (155 : Nat) ({ cls := "DateVale$Home", name := "<init>", desc := "(Ljava/lang/String;)V" } : Jvm.MethodName)) ∈ lw_all := lw_g (lw_at lw_m3 216 rfl) rfl
theorem q814 : (Jvm.Cond.fieldLinkNest "DateVale$Reader" (162 : Nat) "DateVale$Home" "beds" "I" "DateVale") ∈ lw_tbl := lw_at lw_m3 223 rfl
theorem q815 : (Jvm.Cond.fieldLinkNest "DateVale$Reader" (176 : Nat) "DateVale$Home" "lends" "I" "DateVale") ∈ lw_tbl := lw_at lw_m3 224 rfl
theorem q824 : (Jvm.Cond.stringRef "DateVale$Reader" (157 : Nat) "beds ") ∈ lw_tbl := lw_at lw_m3 233 rfl
theorem q825 : (Jvm.Cond.methodLink "DateVale$Reader" (159 : Nat) ({ cls := "DateVale$Reader", name := "number", desc := "(Ljava/lang/String;II)I" } : Jvm.MethodName)) ∈ lw_all := lw_g (lw_at lw_m3 234 rfl) rfl
theorem q826 : (Jvm.Cond.privateMethod ({ cls := "DateVale$Reader", name := "number", desc := "(Ljava/lang/String;II)I" } : Jvm.MethodName)) ∈ lw_tbl := lw_at lw_m3 235 rfl
theorem q827 : (Jvm.Cond.instanceMethod ({ cls := "DateVale$Reader", name := "number", desc := "(Ljava/lang/String;II)I" } : Jvm.MethodName)) ∈ lw_all := lw_g (lw_at lw_m3 236 rfl) rfl
theorem q828 : (Jvm.Cond.code ({ cls := "DateVale$Reader", name := "number", desc := "(Ljava/lang/String;II)I" } : Jvm.MethodName) prog_16_method_15_code (4 : Nat) (Option.some Jvm.ClassFile.FieldType.int)) ∈ lw_all := lw_g (lw_at lw_m3 237 rfl) rfl
theorem q829 : (Jvm.Cond.methodLink "DateVale$Reader" (113 : Nat) ({ cls := "DateVale$Reader", name := "need", desc := "(Ljava/lang/String;)V" } : Jvm.MethodName)) ∈ lw_all := lw_g (lw_at lw_m3 238 rfl) rfl
theorem q830 : (Jvm.Cond.privateMethod ({ cls := "DateVale$Reader", name := "need", desc := "(Ljava/lang/String;)V" } : Jvm.MethodName)) ∈ lw_tbl := lw_at lw_m3 239 rfl
theorem q831 : (Jvm.Cond.instanceMethod ({ cls := "DateVale$Reader", name := "need", desc := "(Ljava/lang/String;)V" } : Jvm.MethodName)) ∈ lw_all := lw_g (lw_at lw_m4 0 rfl) rfl
theorem q832 : (Jvm.Cond.code ({ cls := "DateVale$Reader", name := "need", desc := "(Ljava/lang/String;)V" } : Jvm.MethodName) prog_16_method_9_code (2 : Nat) (Option.none : Option Jvm.ClassFile.FieldType)) ∈ lw_all := lw_g (lw_at lw_m4 1 rfl) rfl
theorem q833 : (Jvm.Cond.methodLink "DateVale$Reader" (117 : Nat) ({ cls := "DateVale$Reader", name := "number", desc := "(II)I" } : Jvm.MethodName)) ∈ lw_all := lw_g (lw_at lw_m4 2 rfl) rfl
theorem q834 : (Jvm.Cond.privateMethod ({ cls := "DateVale$Reader", name := "number", desc := "(II)I" } : Jvm.MethodName)) ∈ lw_tbl := lw_at lw_m4 3 rfl
theorem q835 : (Jvm.Cond.instanceMethod ({ cls := "DateVale$Reader", name := "number", desc := "(II)I" } : Jvm.MethodName)) ∈ lw_all := lw_g (lw_at lw_m4 4 rfl) rfl
theorem q836 : (Jvm.Cond.code ({ cls := "DateVale$Reader", name := "number", desc := "(II)I" } : Jvm.MethodName) prog_16_method_12_code (4 : Nat) (Option.some Jvm.ClassFile.FieldType.int)) ∈ lw_all := lw_g (lw_at lw_m4 5 rfl) rfl
theorem q837 : (Jvm.Cond.methodLink "DateVale$Reader" (165 : Nat) ({ cls := "java/util/ArrayList", name := "add", desc := "(Ljava/lang/Object;)Z" } : Jvm.MethodName)) ∈ lw_all := lw_g (lw_at lw_m4 6 rfl) rfl
theorem q875 : (Jvm.Cond.selects "DateVale$Reader" ({ cls := "java/lang/Object", name := "getClass", desc := "()Ljava/lang/Class;" } : Jvm.MethodName) ({ cls := "java/lang/Object", name := "getClass", desc := "()Ljava/lang/Class;" } : Jvm.MethodName)) ∈ lw_all := lw_g (lw_at lw_m4 44 rfl) rfl
theorem q893 : (Jvm.Cond.methodLink "DateVale$Reader" (169 : Nat) ({ cls := "DateVale$Reader", name := "passed", desc := "(I)I" } : Jvm.MethodName)) ∈ lw_all := lw_g (lw_at lw_m4 62 rfl) rfl
theorem q894 : (Jvm.Cond.privateMethod ({ cls := "DateVale$Reader", name := "passed", desc := "(I)I" } : Jvm.MethodName)) ∈ lw_tbl := lw_at lw_m4 63 rfl
theorem q895 : (Jvm.Cond.instanceMethod ({ cls := "DateVale$Reader", name := "passed", desc := "(I)I" } : Jvm.MethodName)) ∈ lw_all := lw_g (lw_at lw_m4 64 rfl) rfl
theorem q896 : (Jvm.Cond.code ({ cls := "DateVale$Reader", name := "passed", desc := "(I)I" } : Jvm.MethodName) prog_16_method_18_code (2 : Nat) (Option.some Jvm.ClassFile.FieldType.int)) ∈ lw_all := lw_g (lw_at lw_m4 65 rfl) rfl
theorem q897 : (Jvm.Cond.methodLink "DateVale$Reader" (120 : Nat) ({ cls := "DateVale$Reader", name := "told", desc := "(I)I" } : Jvm.MethodName)) ∈ lw_all := lw_g (lw_at lw_m4 66 rfl) rfl
theorem q898 : (Jvm.Cond.privateMethod ({ cls := "DateVale$Reader", name := "told", desc := "(I)I" } : Jvm.MethodName)) ∈ lw_tbl := lw_at lw_m4 67 rfl
theorem q899 : (Jvm.Cond.instanceMethod ({ cls := "DateVale$Reader", name := "told", desc := "(I)I" } : Jvm.MethodName)) ∈ lw_all := lw_g (lw_at lw_m4 68 rfl) rfl
theorem q900 : (Jvm.Cond.code ({ cls := "DateVale$Reader", name := "told", desc := "(I)I" } : Jvm.MethodName) prog_16_method_17_code (2 : Nat) (Option.some Jvm.ClassFile.FieldType.int)) ∈ lw_all := lw_g (lw_at lw_m4 69 rfl) rfl
theorem q901 : (Jvm.Cond.methodLink "DateVale$Reader" (172 : Nat) ({ cls := "java/util/ArrayList", name := "get", desc := "(I)Ljava/lang/Object;" } : Jvm.MethodName)) ∈ lw_all := lw_g (lw_at lw_m4 70 rfl) rfl
theorem q902 : (Jvm.Cond.methodLinkNest "DateVale$Reader" (179 : Nat) ({ cls := "DateVale", name := "isIn", desc := "(II)Z" } : Jvm.MethodName) "DateVale") ∈ lw_tbl := lw_at lw_m4 71 rfl
theorem q905 : (Jvm.Cond.methodLink "DateVale$Reader" (183 : Nat) ({ cls := "DateVale$Reader", name := "guest", desc := "()LDateVale$Guest;" } : Jvm.MethodName)) ∈ lw_all := lw_g (lw_at lw_m4 74 rfl) rfl
theorem q906 : (Jvm.Cond.privateMethod ({ cls := "DateVale$Reader", name := "guest", desc := "()LDateVale$Guest;" } : Jvm.MethodName)) ∈ lw_tbl := lw_at lw_m4 75 rfl
theorem q907 : (Jvm.Cond.instanceMethod ({ cls := "DateVale$Reader", name := "guest", desc := "()LDateVale$Guest;" } : Jvm.MethodName)) ∈ lw_all := lw_g (lw_at lw_m4 76 rfl) rfl
theorem q908 : (Jvm.Cond.code ({ cls := "DateVale$Reader", name := "guest", desc := "()LDateVale$Guest;" } : Jvm.MethodName) prog_16_method_21_code (4 : Nat) (Option.some (Jvm.ClassFile.FieldType.object "DateVale$Guest"))) ∈ lw_all := lw_g (lw_at lw_m4 77 rfl) rfl
theorem q909 : (Jvm.Cond.stringRef "DateVale$Reader" (195 : Nat) "plain big early leap ") ∈ lw_tbl := lw_at lw_m4 78 rfl
theorem q910 : (Jvm.Cond.methodLink "DateVale$Reader" (197 : Nat) ({ cls := "DateVale$Reader", name := "one", desc := "(Ljava/lang/String;)I" } : Jvm.MethodName)) ∈ lw_all := lw_g (lw_at lw_m4 79 rfl) rfl
theorem q911 : (Jvm.Cond.privateMethod ({ cls := "DateVale$Reader", name := "one", desc := "(Ljava/lang/String;)I" } : Jvm.MethodName)) ∈ lw_tbl := lw_at lw_m4 80 rfl
theorem q912 : (Jvm.Cond.instanceMethod ({ cls := "DateVale$Reader", name := "one", desc := "(Ljava/lang/String;)I" } : Jvm.MethodName)) ∈ lw_all := lw_g (lw_at lw_m4 81 rfl) rfl
theorem q913 : (Jvm.Cond.code ({ cls := "DateVale$Reader", name := "one", desc := "(Ljava/lang/String;)I" } : Jvm.MethodName) prog_16_method_16_code (3 : Nat) (Option.some Jvm.ClassFile.FieldType.int)) ∈ lw_all := lw_g (lw_at lw_m4 82 rfl) rfl
theorem q914 : (Jvm.Cond.classLink "DateVale$Reader" (186 : Nat) "DateVale$Guest") ∈ lw_all := lw_g (lw_at lw_m4 83 rfl) rfl
theorem q916 : (Jvm.Cond.methodLink "DateVale$Reader" (200 : Nat) ({ cls := "DateVale$Guest", name := "<init>", desc := "(Ljava/lang/String;)V" } : Jvm.MethodName)) ∈ lw_all := lw_g (lw_at lw_m4 85 rfl) rfl
theorem q923 : (Jvm.Cond.fieldLink "DateVale$Reader" (212 : Nat) "DateVale$Guest" "house" "I") ∈ lw_all := lw_g (lw_at lw_m4 92 rfl) rfl
theorem q925 : (Jvm.Cond.fieldLink "DateVale$Reader" (217 : Nat) "DateVale$Guest" "month" "I") ∈ lw_all := lw_g (lw_at lw_m4 94 rfl) rfl
theorem q928 : (Jvm.Cond.fieldLink "DateVale$Reader" (222 : Nat) "DateVale$Guest" "says" "I") ∈ lw_all := lw_g (lw_at lw_m4 97 rfl) rfl
theorem q930 : (Jvm.Cond.fieldLink "DateVale$Reader" (188 : Nat) "DateVale$Guest" "foes" "I") ∈ lw_all := lw_g (lw_at lw_m4 99 rfl) rfl
theorem q942 : (Jvm.Cond.classLink "DateVale$Reader" (201 : Nat) "DateVale$Big") ∈ lw_all := lw_g (lw_at lw_m4 111 rfl) rfl
theorem q944 : (Jvm.Cond.methodLink "DateVale$Reader" (203 : Nat) ({ cls := "DateVale$Big", name := "<init>", desc := "(Ljava/lang/String;)V" } : Jvm.MethodName)) ∈ lw_all := lw_g (lw_at lw_m4 113 rfl) rfl
theorem q954 : (Jvm.Cond.classLink "DateVale$Reader" (204 : Nat) "DateVale$Early") ∈ lw_all := lw_g (lw_at lw_m4 123 rfl) rfl
theorem q956 : (Jvm.Cond.methodLink "DateVale$Reader" (206 : Nat) ({ cls := "DateVale$Early", name := "<init>", desc := "(Ljava/lang/String;)V" } : Jvm.MethodName)) ∈ lw_all := lw_g (lw_at lw_m4 125 rfl) rfl
theorem q966 : (Jvm.Cond.classLink "DateVale$Reader" (207 : Nat) "DateVale$Leap") ∈ lw_all := lw_g (lw_at lw_m4 135 rfl) rfl
theorem q968 : (Jvm.Cond.methodLink "DateVale$Reader" (209 : Nat) ({ cls := "DateVale$Leap", name := "<init>", desc := "(Ljava/lang/String;)V" } : Jvm.MethodName)) ∈ lw_all := lw_g (lw_at lw_m4 137 rfl) rfl
theorem q978 : (Jvm.Cond.stringRef "DateVale$Reader" (210 : Nat) "of ") ∈ lw_tbl := lw_at lw_m4 147 rfl
theorem q979 : (Jvm.Cond.stringRef "DateVale$Reader" (215 : Nat) "on ") ∈ lw_tbl := lw_at lw_m4 148 rfl
theorem q980 : (Jvm.Cond.stringRef "DateVale$Reader" (220 : Nat) "says ") ∈ lw_tbl := lw_at lw_m4 149 rfl
theorem q981 : (Jvm.Cond.methodLink "DateVale$Reader" (191 : Nat) ({ cls := "DateVale$Reader", name := "expression", desc := "()LDateVale$Expression;" } : Jvm.MethodName)) ∈ lw_all := lw_g (lw_at lw_m4 150 rfl) rfl
theorem q982 : (Jvm.Cond.privateMethod ({ cls := "DateVale$Reader", name := "expression", desc := "()LDateVale$Expression;" } : Jvm.MethodName)) ∈ lw_tbl := lw_at lw_m4 151 rfl
theorem q983 : (Jvm.Cond.instanceMethod ({ cls := "DateVale$Reader", name := "expression", desc := "()LDateVale$Expression;" } : Jvm.MethodName)) ∈ lw_all := lw_g (lw_at lw_m4 152 rfl) rfl
theorem q984 : (Jvm.Cond.code ({ cls := "DateVale$Reader", name := "expression", desc := "()LDateVale$Expression;" } : Jvm.MethodName) prog_16_method_24_code (3 : Nat) (Option.some (Jvm.ClassFile.FieldType.object "DateVale$Expression"))) ∈ lw_all := lw_g (lw_at lw_m4 153 rfl) rfl
theorem q985 : (Jvm.Cond.methodLink "DateVale$Reader" (244 : Nat) ({ cls := "DateVale$Reader", name := "test", desc := "()LDateVale$Expression;" } : Jvm.MethodName)) ∈ lw_all := lw_g (lw_at lw_m4 154 rfl) rfl
theorem q986 : (Jvm.Cond.privateMethod ({ cls := "DateVale$Reader", name := "test", desc := "()LDateVale$Expression;" } : Jvm.MethodName)) ∈ lw_tbl := lw_at lw_m4 155 rfl
theorem q987 : (Jvm.Cond.instanceMethod ({ cls := "DateVale$Reader", name := "test", desc := "()LDateVale$Expression;" } : Jvm.MethodName)) ∈ lw_all := lw_g (lw_at lw_m4 156 rfl) rfl
theorem q988 : (Jvm.Cond.code ({ cls := "DateVale$Reader", name := "test", desc := "()LDateVale$Expression;" } : Jvm.MethodName) prog_16_method_25_code (3 : Nat) (Option.some (Jvm.ClassFile.FieldType.object "DateVale$Expression"))) ∈ lw_all := lw_g (lw_at lw_m4 157 rfl) rfl
theorem q989 : (Jvm.Cond.methodLink "DateVale$Reader" (254 : Nat) ({ cls := "DateVale$Reader", name := "sum", desc := "()LDateVale$Expression;" } : Jvm.MethodName)) ∈ lw_all := lw_g (lw_at lw_m4 158 rfl) rfl
theorem q990 : (Jvm.Cond.privateMethod ({ cls := "DateVale$Reader", name := "sum", desc := "()LDateVale$Expression;" } : Jvm.MethodName)) ∈ lw_tbl := lw_at lw_m4 159 rfl
theorem q991 : (Jvm.Cond.instanceMethod ({ cls := "DateVale$Reader", name := "sum", desc := "()LDateVale$Expression;" } : Jvm.MethodName)) ∈ lw_all := lw_g (lw_at lw_m4 160 rfl) rfl
theorem q992 : (Jvm.Cond.code ({ cls := "DateVale$Reader", name := "sum", desc := "()LDateVale$Expression;" } : Jvm.MethodName) prog_16_method_26_code (3 : Nat) (Option.some (Jvm.ClassFile.FieldType.object "DateVale$Expression"))) ∈ lw_all := lw_g (lw_at lw_m4 161 rfl) rfl
theorem q993 : (Jvm.Cond.methodLink "DateVale$Reader" (257 : Nat) ({ cls := "DateVale$Reader", name := "product", desc := "()LDateVale$Expression;" } : Jvm.MethodName)) ∈ lw_all := lw_g (lw_at lw_m4 162 rfl) rfl
theorem q994 : (Jvm.Cond.privateMethod ({ cls := "DateVale$Reader", name := "product", desc := "()LDateVale$Expression;" } : Jvm.MethodName)) ∈ lw_tbl := lw_at lw_m4 163 rfl
theorem q995 : (Jvm.Cond.instanceMethod ({ cls := "DateVale$Reader", name := "product", desc := "()LDateVale$Expression;" } : Jvm.MethodName)) ∈ lw_all := lw_g (lw_at lw_m4 164 rfl) rfl
theorem q996 : (Jvm.Cond.code ({ cls := "DateVale$Reader", name := "product", desc := "()LDateVale$Expression;" } : Jvm.MethodName) prog_16_method_27_code (2 : Nat) (Option.some (Jvm.ClassFile.FieldType.object "DateVale$Expression"))) ∈ lw_all := lw_g (lw_at lw_m4 165 rfl) rfl
theorem q997 : (Jvm.Cond.methodLink "DateVale$Reader" (260 : Nat) ({ cls := "DateVale$Reader", name := "part", desc := "()LDateVale$Expression;" } : Jvm.MethodName)) ∈ lw_all := lw_g (lw_at lw_m4 166 rfl) rfl
theorem q998 : (Jvm.Cond.privateMethod ({ cls := "DateVale$Reader", name := "part", desc := "()LDateVale$Expression;" } : Jvm.MethodName)) ∈ lw_tbl := lw_at lw_m4 167 rfl
theorem q999 : (Jvm.Cond.instanceMethod ({ cls := "DateVale$Reader", name := "part", desc := "()LDateVale$Expression;" } : Jvm.MethodName)) ∈ lw_all := lw_g (lw_at lw_m4 168 rfl) rfl
theorem q1000 : (Jvm.Cond.code ({ cls := "DateVale$Reader", name := "part", desc := "()LDateVale$Expression;" } : Jvm.MethodName) prog_16_method_28_code (5 : Nat) (Option.some (Jvm.ClassFile.FieldType.object "DateVale$Expression"))) ∈ lw_all := lw_g (lw_at lw_m4 169 rfl) rfl
theorem q1001 : (Jvm.Cond.stringRef "DateVale$Reader" (263 : Nat) "loud full month times ") ∈ lw_tbl := lw_at lw_m4 170 rfl
theorem q1002 : (Jvm.Cond.stringRef "DateVale$Reader" (265 : Nat) "not ") ∈ lw_tbl := lw_at lw_m4 171 rfl
theorem q1003 : (Jvm.Cond.methodLink "DateVale$Reader" (79 : Nat) ({ cls := "DateVale$Reader", name := "isSign", desc := "(C)Z" } : Jvm.MethodName)) ∈ lw_all := lw_g (lw_at lw_m4 172 rfl) rfl
theorem q1004 : (Jvm.Cond.privateMethod ({ cls := "DateVale$Reader", name := "isSign", desc := "(C)Z" } : Jvm.MethodName)) ∈ lw_tbl := lw_at lw_m4 173 rfl
theorem q1005 : (Jvm.Cond.instanceMethod ({ cls := "DateVale$Reader", name := "isSign", desc := "(C)Z" } : Jvm.MethodName)) ∈ lw_all := lw_g (lw_at lw_m4 174 rfl) rfl
theorem q1006 : (Jvm.Cond.code ({ cls := "DateVale$Reader", name := "isSign", desc := "(C)Z" } : Jvm.MethodName) prog_16_method_10_code (2 : Nat) (Option.some Jvm.ClassFile.FieldType.boolean)) ∈ lw_all := lw_g (lw_at lw_m4 175 rfl) rfl
theorem q1007 : (Jvm.Cond.classLink "DateVale$Reader" (267 : Nat) "DateVale$Given") ∈ lw_all := lw_g (lw_at lw_m4 176 rfl) rfl
theorem q1009 : (Jvm.Cond.methodLink "DateVale$Reader" (269 : Nat) ({ cls := "DateVale$Given", name := "<init>", desc := "(I)V" } : Jvm.MethodName)) ∈ lw_all := lw_g (lw_at lw_m4 178 rfl) rfl
theorem q1020 : (Jvm.Cond.classLink "DateVale$Reader" (270 : Nat) "DateVale$Fact") ∈ lw_all := lw_g (lw_at lw_m4 189 rfl) rfl
theorem q1022 : (Jvm.Cond.methodLink "DateVale$Reader" (272 : Nat) ({ cls := "DateVale$Fact", name := "<init>", desc := "(I)V" } : Jvm.MethodName)) ∈ lw_all := lw_g (lw_at lw_m4 191 rfl) rfl
theorem q1030 : (Jvm.Cond.classLink "DateVale$Reader" (273 : Nat) "DateVale$Not") ∈ lw_all := lw_g (lw_at lw_m4 199 rfl) rfl
theorem q1032 : (Jvm.Cond.methodLink "DateVale$Reader" (275 : Nat) ({ cls := "DateVale$Not", name := "<init>", desc := "(LDateVale$Expression;)V" } : Jvm.MethodName)) ∈ lw_all := lw_g (lw_at lw_m4 201 rfl) rfl
theorem q1040 : (Jvm.Cond.methodLink "DateVale$Reader" (147 : Nat) ({ cls := "DateVale$Reader", name := "need", desc := "(C)V" } : Jvm.MethodName)) ∈ lw_all := lw_g (lw_at lw_m4 209 rfl) rfl
theorem q1041 : (Jvm.Cond.privateMethod ({ cls := "DateVale$Reader", name := "need", desc := "(C)V" } : Jvm.MethodName)) ∈ lw_tbl := lw_at lw_m4 210 rfl
theorem q1042 : (Jvm.Cond.instanceMethod ({ cls := "DateVale$Reader", name := "need", desc := "(C)V" } : Jvm.MethodName)) ∈ lw_all := lw_g (lw_at lw_m4 211 rfl) rfl
theorem q1043 : (Jvm.Cond.code ({ cls := "DateVale$Reader", name := "need", desc := "(C)V" } : Jvm.MethodName) prog_16_method_11_code (2 : Nat) (Option.none : Option Jvm.ClassFile.FieldType)) ∈ lw_all := lw_g (lw_at lw_m4 212 rfl) rfl
theorem q1044 : (Jvm.Cond.classLink "DateVale$Reader" (249 : Nat) "DateVale$Two") ∈ lw_all := lw_g (lw_at lw_m4 213 rfl) rfl
theorem q1046 : (Jvm.Cond.methodLink "DateVale$Reader" (251 : Nat) ({ cls := "DateVale$Two", name := "<init>", desc := "(CLDateVale$Expression;LDateVale$Expression;)V" } : Jvm.MethodName)) ∈ lw_all := lw_g (lw_at lw_m4 215 rfl) rfl
theorem q1060 : (Jvm.Cond.stringRef "DateVale$Reader" (247 : Nat) "and or ") ∈ lw_tbl := lw_at lw_m4 229 rfl
theorem q1066 : (Jvm.Cond.instanceMethod ({ cls := "DateVale$Reader", name := "year", desc := "(LDateVale$Vale;)Ljava/util/ArrayList;" } : Jvm.MethodName)) ∈ lw_all := lw_g (lw_at lw_m4 235 rfl) rfl
theorem q1067 : (Jvm.Cond.selects "DateVale$Reader" ({ cls := "DateVale$Reader", name := "year", desc := "(LDateVale$Vale;)Ljava/util/ArrayList;" } : Jvm.MethodName) ({ cls := "DateVale$Reader", name := "year", desc := "(LDateVale$Vale;)Ljava/util/ArrayList;" } : Jvm.MethodName)) ∈ lw_all := lw_g (lw_at lw_m4 236 rfl) rfl
theorem q1068 : (Jvm.Cond.code ({ cls := "DateVale$Reader", name := "year", desc := "(LDateVale$Vale;)Ljava/util/ArrayList;" } : Jvm.MethodName) prog_16_method_22_code (4 : Nat) (Option.some (Jvm.ClassFile.FieldType.object "java/util/ArrayList"))) ∈ lw_all := lw_g (lw_at lw_m4 237 rfl) rfl
theorem q1069 : (Jvm.Cond.classLink "DateVale$Reader" (138 : Nat) "java/util/ArrayList") ∈ lw_all := lw_g (lw_at lw_m4 238 rfl) rfl
theorem q1070 : (Jvm.Cond.methodLink "DateVale$Reader" (225 : Nat) ({ cls := "java/util/ArrayList", name := "<init>", desc := "(I)V" } : Jvm.MethodName)) ∈ lw_all := lw_g (lw_at lw_m4 239 rfl) rfl
theorem q1071 : (Jvm.Cond.stringRef "DateVale$Reader" (226 : Nat) "date move send build ") ∈ lw_tbl := lw_at lw_m5 0 rfl
theorem q1072 : (Jvm.Cond.methodLink "DateVale$Reader" (228 : Nat) ({ cls := "DateVale$Reader", name := "done", desc := "(I)LDateVale$Line;" } : Jvm.MethodName)) ∈ lw_all := lw_g (lw_at lw_m5 1 rfl) rfl
theorem q1073 : (Jvm.Cond.privateMethod ({ cls := "DateVale$Reader", name := "done", desc := "(I)LDateVale$Line;" } : Jvm.MethodName)) ∈ lw_tbl := lw_at lw_m5 2 rfl
theorem q1074 : (Jvm.Cond.instanceMethod ({ cls := "DateVale$Reader", name := "done", desc := "(I)LDateVale$Line;" } : Jvm.MethodName)) ∈ lw_all := lw_g (lw_at lw_m5 3 rfl) rfl
theorem q1075 : (Jvm.Cond.code ({ cls := "DateVale$Reader", name := "done", desc := "(I)LDateVale$Line;" } : Jvm.MethodName) prog_16_method_23_code (3 : Nat) (Option.some (Jvm.ClassFile.FieldType.object "DateVale$Line"))) ∈ lw_all := lw_g (lw_at lw_m5 4 rfl) rfl
theorem q1076 : (Jvm.Cond.classLink "DateVale$Reader" (232 : Nat) "DateVale$Passed") ∈ lw_all := lw_g (lw_at lw_m5 5 rfl) rfl
theorem q1078 : (Jvm.Cond.methodLinkNest "DateVale$Reader" (234 : Nat) ({ cls := "DateVale$Passed", name := "<init>", desc := "()V" } : Jvm.MethodName) "DateVale") ∈ lw_tbl := lw_at lw_m5 7 rfl
theorem q1086 : (Jvm.Cond.classLink "DateVale$Reader" (235 : Nat) "DateVale$Built") ∈ lw_all := lw_g (lw_at lw_m5 15 rfl) rfl
theorem q1088 : (Jvm.Cond.methodLink "DateVale$Reader" (237 : Nat) ({ cls := "DateVale$Built", name := "<init>", desc := "(I)V" } : Jvm.MethodName)) ∈ lw_all := lw_g (lw_at lw_m5 17 rfl) rfl
theorem q1096 : (Jvm.Cond.classLink "DateVale$Reader" (238 : Nat) "DateVale$Moved") ∈ lw_all := lw_g (lw_at lw_m5 25 rfl) rfl
theorem q1098 : (Jvm.Cond.methodLink "DateVale$Reader" (240 : Nat) ({ cls := "DateVale$Moved", name := "<init>", desc := "(II)V" } : Jvm.MethodName)) ∈ lw_all := lw_g (lw_at lw_m5 27 rfl) rfl
theorem q1109 : (Jvm.Cond.classLink "DateVale$Reader" (241 : Nat) "DateVale$Sent") ∈ lw_all := lw_g (lw_at lw_m5 38 rfl) rfl
theorem q1111 : (Jvm.Cond.methodLink "DateVale$Reader" (243 : Nat) ({ cls := "DateVale$Sent", name := "<init>", desc := "(I)V" } : Jvm.MethodName)) ∈ lw_all := lw_g (lw_at lw_m5 40 rfl) rfl
theorem q2089 : (Jvm.Cond.castable "DateVale$Reader" "java/lang/Object") ∈ lw_tbl := lw_at lw_m9 58 rfl
theorem in_X2 : ∀ w ∈ wsX20, w ∈ lw_all := lw_in wsX20 [176, 178, 180, 182, 184, 186, 188, 190] (by decide +kernel) (by decide +kernel)
/-! DateVale$Vale -/
set_option maxRecDepth 100000
def RX3 : String := "DateVale$Vale"
def TX3 : u_T := fun k => match k with
  | 0 => ("DateVale$Vale", "homes", "Ljava/util/ArrayList;", true)
  | 1 => ("DateVale$Vale", "guests", "Ljava/util/ArrayList;", true)
  | 2 => ("DateVale$Vale", "stays", "I", false)
  | _ => ("DateVale$Vale", "fades", "LDateVale$Expression;", false)
def tyX3 : Nat → FieldType := fun k => match k with
  | 0 => .object "java/util/ArrayList"
  | 1 => .object "java/util/ArrayList"
  | 2 => .int
  | _ => .object "DateVale$Expression"
abbrev wsX30 : List Cond := u_ws RX3 TX3 4
theorem nmX3 : ∀ a, a < 4 → ∀ b, b < 4 → a ≠ b → (TX3 a).2.1 ≠ (TX3 b).2.1 := by decide +kernel
theorem tyX3_ok : ∀ k, k < 4 → parseFieldDescriptor (TX3 k).2.2.1 = some (tyX3 k) := by decide +kernel
abbrev cX3_init : ByteArray := prog_20_method_1_code
def yX3_init : MethodName := ⟨RX3, "<init>", "()V"⟩
def dkwX3_init_1 : List UInt8 := [183, 0, 11, 181, 0, 20, 42, 2, 181, 0, 23, 177]
abbrev dktX3_init_1 : List UInt8 := dkwX3_init_1 ++ []
def dkwX3_init_0 : List UInt8 := [42, 183, 0, 3, 42, 187, 0, 9, 89, 5, 183, 0, 11, 181, 0, 14, 42, 187, 0, 9, 89, 5]
abbrev dktX3_init_0 : List UInt8 := dkwX3_init_0 ++ dktX3_init_1
theorem dksX3_init_0 : cX3_init.data.toList.drop 0 = dktX3_init_0 := by decide +kernel
theorem dksX3_init_1 : cX3_init.data.toList.drop 22 = dktX3_init_1 := dk_seg dksX3_init_0 22 rfl rfl
theorem dX3_init_0 : decode cX3_init 0 = .ok (.aload_n 0, 1) := dk_42 (dk_at dksX3_init_0 0 rfl rfl)
theorem dX3_init_1 : decode cX3_init 1 = .ok (.invokespecial 3, 3) := dk_183 0 3 (dk_at dksX3_init_0 1 rfl rfl)
theorem dX3_init_4 : decode cX3_init 4 = .ok (.aload_n 0, 1) := dk_42 (dk_at dksX3_init_0 4 rfl rfl)
theorem dX3_init_5 : decode cX3_init 5 = .ok (.new 9, 3) := dk_187 0 9 (dk_at dksX3_init_0 5 rfl rfl)
theorem dX3_init_8 : decode cX3_init 8 = .ok (.dup, 1) := dk_89 (dk_at dksX3_init_0 8 rfl rfl)
theorem dX3_init_9 : decode cX3_init 9 = .ok (.iconst 2, 1) := dk_5 (dk_at dksX3_init_0 9 rfl rfl)
theorem dX3_init_10 : decode cX3_init 10 = .ok (.invokespecial 11, 3) := dk_183 0 11 (dk_at dksX3_init_0 10 rfl rfl)
theorem dX3_init_13 : decode cX3_init 13 = .ok (.putfield 14, 3) := dk_181 0 14 (dk_at dksX3_init_0 13 rfl rfl)
theorem dX3_init_16 : decode cX3_init 16 = .ok (.aload_n 0, 1) := dk_42 (dk_at dksX3_init_0 16 rfl rfl)
theorem dX3_init_17 : decode cX3_init 17 = .ok (.new 9, 3) := dk_187 0 9 (dk_at dksX3_init_0 17 rfl rfl)
theorem dX3_init_20 : decode cX3_init 20 = .ok (.dup, 1) := dk_89 (dk_at dksX3_init_0 20 rfl rfl)
theorem dX3_init_21 : decode cX3_init 21 = .ok (.iconst 2, 1) := dk_5 (dk_at dksX3_init_0 21 rfl rfl)
theorem dX3_init_22 : decode cX3_init 22 = .ok (.invokespecial 11, 3) := dk_183 0 11 (dk_at dksX3_init_1 0 rfl rfl)
theorem dX3_init_25 : decode cX3_init 25 = .ok (.putfield 20, 3) := dk_181 0 20 (dk_at dksX3_init_1 3 rfl rfl)
theorem dX3_init_28 : decode cX3_init 28 = .ok (.aload_n 0, 1) := dk_42 (dk_at dksX3_init_1 6 rfl rfl)
theorem dX3_init_29 : decode cX3_init 29 = .ok (.iconst (-1), 1) := dk_2 (dk_at dksX3_init_1 7 rfl rfl)
theorem dX3_init_30 : decode cX3_init 30 = .ok (.putfield 23, 3) := dk_181 0 23 (dk_at dksX3_init_1 8 rfl rfl)
theorem dX3_init_33 : decode cX3_init 33 = .ok (.return_, 1) := dk_177 (dk_at dksX3_init_1 11 rfl rfl)
abbrev cX3_home : ByteArray := prog_20_method_2_code
def yX3_home : MethodName := ⟨RX3, "home", "(Ljava/lang/String;)I"⟩
def dkwX3_home_1 : List UInt8 := [180, 0, 37, 43, 182, 0, 41, 153, 0, 5, 28, 172, 132, 2, 1, 167, 255, 219, 2, 172]
abbrev dktX3_home_1 : List UInt8 := dkwX3_home_1 ++ []
def dkwX3_home_0 : List UInt8 := [3, 61, 28, 42, 180, 0, 14, 182, 0, 27, 162, 0, 32, 42, 180, 0, 14, 28, 182, 0, 31, 192, 0, 35]
abbrev dktX3_home_0 : List UInt8 := dkwX3_home_0 ++ dktX3_home_1
theorem dksX3_home_0 : cX3_home.data.toList.drop 0 = dktX3_home_0 := by decide +kernel
theorem dksX3_home_1 : cX3_home.data.toList.drop 24 = dktX3_home_1 := dk_seg dksX3_home_0 24 rfl rfl
theorem dX3_home_0 : decode cX3_home 0 = .ok (.iconst 0, 1) := dk_3 (dk_at dksX3_home_0 0 rfl rfl)
theorem dX3_home_1 : decode cX3_home 1 = .ok (.istore_n 2, 1) := dk_61 (dk_at dksX3_home_0 1 rfl rfl)
theorem dX3_home_2 : decode cX3_home 2 = .ok (.iload_n 2, 1) := dk_28 (dk_at dksX3_home_0 2 rfl rfl)
theorem dX3_home_3 : decode cX3_home 3 = .ok (.aload_n 0, 1) := dk_42 (dk_at dksX3_home_0 3 rfl rfl)
theorem dX3_home_4 : decode cX3_home 4 = .ok (.getfield 14, 3) := dk_180 0 14 (dk_at dksX3_home_0 4 rfl rfl)
theorem dX3_home_7 : decode cX3_home 7 = .ok (.invokevirtual 27, 3) := dk_182 0 27 (dk_at dksX3_home_0 7 rfl rfl)
theorem dX3_home_10 : decode cX3_home 10 = .ok (.if_icmp .ge 32, 3) := dk_162 0 32 (dk_at dksX3_home_0 10 rfl rfl)
theorem dX3_home_13 : decode cX3_home 13 = .ok (.aload_n 0, 1) := dk_42 (dk_at dksX3_home_0 13 rfl rfl)
theorem dX3_home_14 : decode cX3_home 14 = .ok (.getfield 14, 3) := dk_180 0 14 (dk_at dksX3_home_0 14 rfl rfl)
theorem dX3_home_17 : decode cX3_home 17 = .ok (.iload_n 2, 1) := dk_28 (dk_at dksX3_home_0 17 rfl rfl)
theorem dX3_home_18 : decode cX3_home 18 = .ok (.invokevirtual 31, 3) := dk_182 0 31 (dk_at dksX3_home_0 18 rfl rfl)
theorem dX3_home_21 : decode cX3_home 21 = .ok (.checkcast 35, 3) := dk_192 0 35 (dk_at dksX3_home_0 21 rfl rfl)
theorem dX3_home_24 : decode cX3_home 24 = .ok (.getfield 37, 3) := dk_180 0 37 (dk_at dksX3_home_1 0 rfl rfl)
theorem dX3_home_27 : decode cX3_home 27 = .ok (.aload_n 1, 1) := dk_43 (dk_at dksX3_home_1 3 rfl rfl)
theorem dX3_home_28 : decode cX3_home 28 = .ok (.invokevirtual 41, 3) := dk_182 0 41 (dk_at dksX3_home_1 4 rfl rfl)
theorem dX3_home_31 : decode cX3_home 31 = .ok (.ifCond .eq 5, 3) := dk_153 0 5 (dk_at dksX3_home_1 7 rfl rfl)
theorem dX3_home_34 : decode cX3_home 34 = .ok (.iload_n 2, 1) := dk_28 (dk_at dksX3_home_1 10 rfl rfl)
theorem dX3_home_35 : decode cX3_home 35 = .ok (.ireturn, 1) := dk_172 (dk_at dksX3_home_1 11 rfl rfl)
theorem dX3_home_36 : decode cX3_home 36 = .ok (.iinc 2 1, 3) := dk_132 2 1 (dk_at dksX3_home_1 12 rfl rfl)
theorem dX3_home_39 : decode cX3_home 39 = .ok (.goto (-37), 3) := dk_167 255 219 (dk_at dksX3_home_1 15 rfl rfl)
theorem dX3_home_42 : decode cX3_home 42 = .ok (.iconst (-1), 1) := dk_2 (dk_at dksX3_home_1 18 rfl rfl)
theorem dX3_home_43 : decode cX3_home 43 = .ok (.ireturn, 1) := dk_172 (dk_at dksX3_home_1 19 rfl rfl)
abbrev cX3_guest : ByteArray := prog_20_method_3_code
def yX3_guest : MethodName := ⟨RX3, "guest", "(Ljava/lang/String;)I"⟩
def dkwX3_guest_1 : List UInt8 := [180, 0, 49, 43, 182, 0, 41, 153, 0, 5, 28, 172, 132, 2, 1, 167, 255, 219, 2, 172]
abbrev dktX3_guest_1 : List UInt8 := dkwX3_guest_1 ++ []
def dkwX3_guest_0 : List UInt8 := [3, 61, 28, 42, 180, 0, 20, 182, 0, 27, 162, 0, 32, 42, 180, 0, 20, 28, 182, 0, 31, 192, 0, 47]
abbrev dktX3_guest_0 : List UInt8 := dkwX3_guest_0 ++ dktX3_guest_1
theorem dksX3_guest_0 : cX3_guest.data.toList.drop 0 = dktX3_guest_0 := by decide +kernel
theorem dksX3_guest_1 : cX3_guest.data.toList.drop 24 = dktX3_guest_1 := dk_seg dksX3_guest_0 24 rfl rfl
theorem dX3_guest_0 : decode cX3_guest 0 = .ok (.iconst 0, 1) := dk_3 (dk_at dksX3_guest_0 0 rfl rfl)
theorem dX3_guest_1 : decode cX3_guest 1 = .ok (.istore_n 2, 1) := dk_61 (dk_at dksX3_guest_0 1 rfl rfl)
theorem dX3_guest_2 : decode cX3_guest 2 = .ok (.iload_n 2, 1) := dk_28 (dk_at dksX3_guest_0 2 rfl rfl)
theorem dX3_guest_3 : decode cX3_guest 3 = .ok (.aload_n 0, 1) := dk_42 (dk_at dksX3_guest_0 3 rfl rfl)
theorem dX3_guest_4 : decode cX3_guest 4 = .ok (.getfield 20, 3) := dk_180 0 20 (dk_at dksX3_guest_0 4 rfl rfl)
theorem dX3_guest_7 : decode cX3_guest 7 = .ok (.invokevirtual 27, 3) := dk_182 0 27 (dk_at dksX3_guest_0 7 rfl rfl)
theorem dX3_guest_10 : decode cX3_guest 10 = .ok (.if_icmp .ge 32, 3) := dk_162 0 32 (dk_at dksX3_guest_0 10 rfl rfl)
theorem dX3_guest_13 : decode cX3_guest 13 = .ok (.aload_n 0, 1) := dk_42 (dk_at dksX3_guest_0 13 rfl rfl)
theorem dX3_guest_14 : decode cX3_guest 14 = .ok (.getfield 20, 3) := dk_180 0 20 (dk_at dksX3_guest_0 14 rfl rfl)
theorem dX3_guest_17 : decode cX3_guest 17 = .ok (.iload_n 2, 1) := dk_28 (dk_at dksX3_guest_0 17 rfl rfl)
theorem dX3_guest_18 : decode cX3_guest 18 = .ok (.invokevirtual 31, 3) := dk_182 0 31 (dk_at dksX3_guest_0 18 rfl rfl)
theorem dX3_guest_21 : decode cX3_guest 21 = .ok (.checkcast 47, 3) := dk_192 0 47 (dk_at dksX3_guest_0 21 rfl rfl)
theorem dX3_guest_24 : decode cX3_guest 24 = .ok (.getfield 49, 3) := dk_180 0 49 (dk_at dksX3_guest_1 0 rfl rfl)
theorem dX3_guest_27 : decode cX3_guest 27 = .ok (.aload_n 1, 1) := dk_43 (dk_at dksX3_guest_1 3 rfl rfl)
theorem dX3_guest_28 : decode cX3_guest 28 = .ok (.invokevirtual 41, 3) := dk_182 0 41 (dk_at dksX3_guest_1 4 rfl rfl)
theorem dX3_guest_31 : decode cX3_guest 31 = .ok (.ifCond .eq 5, 3) := dk_153 0 5 (dk_at dksX3_guest_1 7 rfl rfl)
theorem dX3_guest_34 : decode cX3_guest 34 = .ok (.iload_n 2, 1) := dk_28 (dk_at dksX3_guest_1 10 rfl rfl)
theorem dX3_guest_35 : decode cX3_guest 35 = .ok (.ireturn, 1) := dk_172 (dk_at dksX3_guest_1 11 rfl rfl)
theorem dX3_guest_36 : decode cX3_guest 36 = .ok (.iinc 2 1, 3) := dk_132 2 1 (dk_at dksX3_guest_1 12 rfl rfl)
theorem dX3_guest_39 : decode cX3_guest 39 = .ok (.goto (-37), 3) := dk_167 255 219 (dk_at dksX3_guest_1 15 rfl rfl)
theorem dX3_guest_42 : decode cX3_guest 42 = .ok (.iconst (-1), 1) := dk_2 (dk_at dksX3_guest_1 18 rfl rfl)
theorem dX3_guest_43 : decode cX3_guest 43 = .ok (.ireturn, 1) := dk_172 (dk_at dksX3_guest_1 19 rfl rfl)
abbrev cX3_stays : ByteArray := prog_20_method_4_code
def yX3_stays : MethodName := ⟨RX3, "stays", "()I"⟩
def dkwX3_stays_0 : List UInt8 := [42, 180, 0, 23, 156, 0, 7, 4, 167, 0, 7, 42, 180, 0, 23, 172]
abbrev dktX3_stays_0 : List UInt8 := dkwX3_stays_0 ++ []
theorem dksX3_stays_0 : cX3_stays.data.toList.drop 0 = dktX3_stays_0 := by decide +kernel
theorem dX3_stays_0 : decode cX3_stays 0 = .ok (.aload_n 0, 1) := dk_42 (dk_at dksX3_stays_0 0 rfl rfl)
theorem dX3_stays_1 : decode cX3_stays 1 = .ok (.getfield 23, 3) := dk_180 0 23 (dk_at dksX3_stays_0 1 rfl rfl)
theorem dX3_stays_4 : decode cX3_stays 4 = .ok (.ifCond .ge 7, 3) := dk_156 0 7 (dk_at dksX3_stays_0 4 rfl rfl)
theorem dX3_stays_7 : decode cX3_stays 7 = .ok (.iconst 1, 1) := dk_4 (dk_at dksX3_stays_0 7 rfl rfl)
theorem dX3_stays_8 : decode cX3_stays 8 = .ok (.goto 7, 3) := dk_167 0 7 (dk_at dksX3_stays_0 8 rfl rfl)
theorem dX3_stays_11 : decode cX3_stays 11 = .ok (.aload_n 0, 1) := dk_42 (dk_at dksX3_stays_0 11 rfl rfl)
theorem dX3_stays_12 : decode cX3_stays 12 = .ok (.getfield 23, 3) := dk_180 0 23 (dk_at dksX3_stays_0 12 rfl rfl)
theorem dX3_stays_15 : decode cX3_stays 15 = .ok (.ireturn, 1) := dk_172 (dk_at dksX3_stays_0 15 rfl rfl)
theorem q114 : (Jvm.Cond.initialized "DateVale$Vale") ∈ lw_all := lw_g (lw_at lw_m1 3 rfl) rfl
theorem q195 : (Jvm.Cond.instantiable "DateVale$Vale" (4 : Nat)) ∈ lw_all := lw_g (lw_at lw_m1 84 rfl) rfl
theorem q197 : (Jvm.Cond.instanceMethod ({ cls := "DateVale$Vale", name := "<init>", desc := "()V" } : Jvm.MethodName)) ∈ lw_all := lw_g (lw_at lw_m1 86 rfl) rfl
theorem q198 : (Jvm.Cond.code ({ cls := "DateVale$Vale", name := "<init>", desc := "()V" } : Jvm.MethodName) prog_20_method_1_code (1 : Nat) (Option.none : Option Jvm.ClassFile.FieldType)) ∈ lw_all := lw_g (lw_at lw_m1 87 rfl) rfl
theorem q199 : (Jvm.Cond.methodLink "DateVale$Vale" (3 : Nat) ({ cls := "java/lang/Object", name := "<init>", desc := "()V" } : Jvm.MethodName)) ∈ lw_all := lw_g (lw_at lw_m1 88 rfl) rfl
theorem q200 : (Jvm.Cond.classLink "DateVale$Vale" (9 : Nat) "java/util/ArrayList") ∈ lw_all := lw_g (lw_at lw_m1 89 rfl) rfl
theorem q202 : (Jvm.Cond.methodLink "DateVale$Vale" (11 : Nat) ({ cls := "java/util/ArrayList", name := "<init>", desc := "(I)V" } : Jvm.MethodName)) ∈ lw_all := lw_g (lw_at lw_m1 91 rfl) rfl
theorem q228 : (Jvm.Cond.fieldLink "DateVale$Vale" (14 : Nat) "DateVale$Vale" "homes" "Ljava/util/ArrayList;") ∈ lw_all := lw_g (lw_at lw_m1 117 rfl) rfl
theorem q232 : (Jvm.Cond.fieldLink "DateVale$Vale" (20 : Nat) "DateVale$Vale" "guests" "Ljava/util/ArrayList;") ∈ lw_all := lw_g (lw_at lw_m1 121 rfl) rfl
theorem q236 : (Jvm.Cond.fieldLink "DateVale$Vale" (23 : Nat) "DateVale$Vale" "stays" "I") ∈ lw_all := lw_g (lw_at lw_m1 125 rfl) rfl
theorem q240 : (Jvm.Cond.laysFinal "DateVale$Vale" "DateVale$Vale" "homes" "Ljava/util/ArrayList;") ∈ lw_all := lw_g (lw_at lw_m1 129 rfl) rfl
theorem q241 : (Jvm.Cond.soleField "DateVale$Vale" "homes") ∈ lw_all := lw_g (lw_at lw_m1 130 rfl) rfl
theorem q242 : (Jvm.Cond.laysFinal "DateVale$Vale" "DateVale$Vale" "guests" "Ljava/util/ArrayList;") ∈ lw_all := lw_g (lw_at lw_m1 131 rfl) rfl
theorem q243 : (Jvm.Cond.soleField "DateVale$Vale" "guests") ∈ lw_all := lw_g (lw_at lw_m1 132 rfl) rfl
theorem q244 : (Jvm.Cond.lays "DateVale$Vale" "DateVale$Vale" "stays" "I") ∈ lw_all := lw_g (lw_at lw_m1 133 rfl) rfl
theorem q245 : (Jvm.Cond.soleField "DateVale$Vale" "stays") ∈ lw_all := lw_g (lw_at lw_m1 134 rfl) rfl
theorem q246 : (Jvm.Cond.lays "DateVale$Vale" "DateVale$Vale" "fades" "LDateVale$Expression;") ∈ lw_all := lw_g (lw_at lw_m1 135 rfl) rfl
theorem q247 : (Jvm.Cond.soleField "DateVale$Vale" "fades") ∈ lw_all := lw_g (lw_at lw_m1 136 rfl) rfl
theorem q248 : (Jvm.Cond.superclass "DateVale$Vale" "java/lang/Object") ∈ lw_all := lw_g (lw_at lw_m1 137 rfl) rfl
theorem q788 : (Jvm.Cond.instanceMethod ({ cls := "DateVale$Vale", name := "home", desc := "(Ljava/lang/String;)I" } : Jvm.MethodName)) ∈ lw_all := lw_g (lw_at lw_m3 197 rfl) rfl
theorem q789 : (Jvm.Cond.selects "DateVale$Vale" ({ cls := "DateVale$Vale", name := "home", desc := "(Ljava/lang/String;)I" } : Jvm.MethodName) ({ cls := "DateVale$Vale", name := "home", desc := "(Ljava/lang/String;)I" } : Jvm.MethodName)) ∈ lw_all := lw_g (lw_at lw_m3 198 rfl) rfl
theorem q790 : (Jvm.Cond.code ({ cls := "DateVale$Vale", name := "home", desc := "(Ljava/lang/String;)I" } : Jvm.MethodName) prog_20_method_2_code (3 : Nat) (Option.some Jvm.ClassFile.FieldType.int)) ∈ lw_all := lw_g (lw_at lw_m3 199 rfl) rfl
theorem q791 : (Jvm.Cond.methodLink "DateVale$Vale" (27 : Nat) ({ cls := "java/util/ArrayList", name := "size", desc := "()I" } : Jvm.MethodName)) ∈ lw_all := lw_g (lw_at lw_m3 200 rfl) rfl
theorem q792 : (Jvm.Cond.methodLink "DateVale$Vale" (31 : Nat) ({ cls := "java/util/ArrayList", name := "get", desc := "(I)Ljava/lang/Object;" } : Jvm.MethodName)) ∈ lw_all := lw_g (lw_at lw_m3 201 rfl) rfl
theorem q793 : (Jvm.Cond.classLink "DateVale$Vale" (35 : Nat) "DateVale$Home") ∈ lw_all := lw_g (lw_at lw_m3 202 rfl) rfl
theorem q794 : (Jvm.Cond.methodLink "DateVale$Vale" (41 : Nat) ({ cls := "java/lang/String", name := "equals", desc := "(Ljava/lang/Object;)Z" } : Jvm.MethodName)) ∈ lw_all := lw_g (lw_at lw_m3 203 rfl) rfl
theorem q803 : (Jvm.Cond.instanceMethod ({ cls := "DateVale$Vale", name := "guest", desc := "(Ljava/lang/String;)I" } : Jvm.MethodName)) ∈ lw_all := lw_g (lw_at lw_m3 212 rfl) rfl
theorem q804 : (Jvm.Cond.selects "DateVale$Vale" ({ cls := "DateVale$Vale", name := "guest", desc := "(Ljava/lang/String;)I" } : Jvm.MethodName) ({ cls := "DateVale$Vale", name := "guest", desc := "(Ljava/lang/String;)I" } : Jvm.MethodName)) ∈ lw_all := lw_g (lw_at lw_m3 213 rfl) rfl
theorem q805 : (Jvm.Cond.code ({ cls := "DateVale$Vale", name := "guest", desc := "(Ljava/lang/String;)I" } : Jvm.MethodName) prog_20_method_3_code (3 : Nat) (Option.some Jvm.ClassFile.FieldType.int)) ∈ lw_all := lw_g (lw_at lw_m3 214 rfl) rfl
theorem q806 : (Jvm.Cond.classLink "DateVale$Vale" (47 : Nat) "DateVale$Guest") ∈ lw_all := lw_g (lw_at lw_m3 215 rfl) rfl
theorem q812 : (Jvm.Cond.fieldLinkNest "DateVale$Vale" (37 : Nat) "DateVale$Home" "name" "Ljava/lang/String;" "DateVale") ∈ lw_tbl := lw_at lw_m3 221 rfl
theorem q879 : (Jvm.Cond.selects "DateVale$Vale" ({ cls := "java/lang/Object", name := "getClass", desc := "()Ljava/lang/Class;" } : Jvm.MethodName) ({ cls := "java/lang/Object", name := "getClass", desc := "()Ljava/lang/Class;" } : Jvm.MethodName)) ∈ lw_all := lw_g (lw_at lw_m4 48 rfl) rfl
theorem q921 : (Jvm.Cond.fieldLink "DateVale$Vale" (49 : Nat) "DateVale$Guest" "name" "Ljava/lang/String;") ∈ lw_all := lw_g (lw_at lw_m4 90 rfl) rfl
theorem q1214 : (Jvm.Cond.instanceMethod ({ cls := "DateVale$Vale", name := "stays", desc := "()I" } : Jvm.MethodName)) ∈ lw_all := lw_g (lw_at lw_m5 143 rfl) rfl
theorem q1215 : (Jvm.Cond.selects "DateVale$Vale" ({ cls := "DateVale$Vale", name := "stays", desc := "()I" } : Jvm.MethodName) ({ cls := "DateVale$Vale", name := "stays", desc := "()I" } : Jvm.MethodName)) ∈ lw_all := lw_g (lw_at lw_m5 144 rfl) rfl
theorem q1216 : (Jvm.Cond.code ({ cls := "DateVale$Vale", name := "stays", desc := "()I" } : Jvm.MethodName) prog_20_method_4_code (1 : Nat) (Option.some Jvm.ClassFile.FieldType.int)) ∈ lw_all := lw_g (lw_at lw_m5 145 rfl) rfl
theorem q2090 : (Jvm.Cond.castable "DateVale$Vale" "java/lang/Object") ∈ lw_tbl := lw_at lw_m9 59 rfl
theorem in_X3 : ∀ w ∈ wsX30, w ∈ lw_all := lw_in wsX30 [240, 242, 244, 246] (by decide +kernel) (by decide +kernel)
/-! DateVale$State -/
set_option maxRecDepth 100000
def RX4 : String := "DateVale$State"
def TX4 : u_T := fun k => match k with
  | 0 => ("DateVale$State", "beds", "[I", true)
  | 1 => ("DateVale$State", "says", "[I", true)
  | 2 => ("DateVale$State", "where", "[I", true)
  | 3 => ("DateVale$State", "been", "[I", true)
  | 4 => ("DateVale$State", "times", "[I", true)
  | 5 => ("DateVale$State", "month", "[I", true)
  | 6 => ("DateVale$State", "date", "I", false)
  | 7 => ("DateVale$State", "year", "I", false)
  | _ => ("DateVale$State", "refused", "I", false)
def tyX4 : Nat → FieldType := fun k => match k with
  | 0 => .array .int
  | 1 => .array .int
  | 2 => .array .int
  | 3 => .array .int
  | 4 => .array .int
  | 5 => .array .int
  | 6 => .int
  | 7 => .int
  | _ => .int
abbrev wsX40 : List Cond := u_ws RX4 TX4 9
theorem nmX4 : ∀ a, a < 9 → ∀ b, b < 9 → a ≠ b → (TX4 a).2.1 ≠ (TX4 b).2.1 := by decide +kernel
theorem tyX4_ok : ∀ k, k < 9 → parseFieldDescriptor (TX4 k).2.2.1 = some (tyX4 k) := by decide +kernel
abbrev cX4_init : ByteArray := prog_18_method_1_code
def yX4_init : MethodName := ⟨RX4, "<init>", "()V"⟩
def dkwX4_init_2 : List UInt8 := [181, 0, 27, 177]
abbrev dktX4_init_2 : List UInt8 := dkwX4_init_2 ++ []
def dkwX4_init_1 : List UInt8 := [181, 0, 18, 42, 16, 6, 188, 10, 181, 0, 21, 42, 16, 6, 188, 10, 181, 0, 24, 42, 16, 6, 188, 10]
abbrev dktX4_init_1 : List UInt8 := dkwX4_init_1 ++ dktX4_init_2
def dkwX4_init_0 : List UInt8 := [42, 183, 0, 3, 42, 7, 188, 10, 181, 0, 9, 42, 16, 6, 188, 10, 181, 0, 15, 42, 16, 6, 188, 10]
abbrev dktX4_init_0 : List UInt8 := dkwX4_init_0 ++ dktX4_init_1
theorem dksX4_init_0 : cX4_init.data.toList.drop 0 = dktX4_init_0 := by decide +kernel
theorem dksX4_init_1 : cX4_init.data.toList.drop 24 = dktX4_init_1 := dk_seg dksX4_init_0 24 rfl rfl
theorem dksX4_init_2 : cX4_init.data.toList.drop 48 = dktX4_init_2 := dk_seg dksX4_init_1 24 rfl rfl
theorem dX4_init_0 : decode cX4_init 0 = .ok (.aload_n 0, 1) := dk_42 (dk_at dksX4_init_0 0 rfl rfl)
theorem dX4_init_1 : decode cX4_init 1 = .ok (.invokespecial 3, 3) := dk_183 0 3 (dk_at dksX4_init_0 1 rfl rfl)
theorem dX4_init_4 : decode cX4_init 4 = .ok (.aload_n 0, 1) := dk_42 (dk_at dksX4_init_0 4 rfl rfl)
theorem dX4_init_5 : decode cX4_init 5 = .ok (.iconst 4, 1) := dk_7 (dk_at dksX4_init_0 5 rfl rfl)
theorem dX4_init_6 : decode cX4_init 6 = .ok (.newarray .int, 2) := dk_188_10 (dk_at dksX4_init_0 6 rfl rfl)
theorem dX4_init_8 : decode cX4_init 8 = .ok (.putfield 9, 3) := dk_181 0 9 (dk_at dksX4_init_0 8 rfl rfl)
theorem dX4_init_11 : decode cX4_init 11 = .ok (.aload_n 0, 1) := dk_42 (dk_at dksX4_init_0 11 rfl rfl)
theorem dX4_init_12 : decode cX4_init 12 = .ok (.bipush 6, 2) := dk_16 6 (dk_at dksX4_init_0 12 rfl rfl)
theorem dX4_init_14 : decode cX4_init 14 = .ok (.newarray .int, 2) := dk_188_10 (dk_at dksX4_init_0 14 rfl rfl)
theorem dX4_init_16 : decode cX4_init 16 = .ok (.putfield 15, 3) := dk_181 0 15 (dk_at dksX4_init_0 16 rfl rfl)
theorem dX4_init_19 : decode cX4_init 19 = .ok (.aload_n 0, 1) := dk_42 (dk_at dksX4_init_0 19 rfl rfl)
theorem dX4_init_20 : decode cX4_init 20 = .ok (.bipush 6, 2) := dk_16 6 (dk_at dksX4_init_0 20 rfl rfl)
theorem dX4_init_22 : decode cX4_init 22 = .ok (.newarray .int, 2) := dk_188_10 (dk_at dksX4_init_0 22 rfl rfl)
theorem dX4_init_24 : decode cX4_init 24 = .ok (.putfield 18, 3) := dk_181 0 18 (dk_at dksX4_init_1 0 rfl rfl)
theorem dX4_init_27 : decode cX4_init 27 = .ok (.aload_n 0, 1) := dk_42 (dk_at dksX4_init_1 3 rfl rfl)
theorem dX4_init_28 : decode cX4_init 28 = .ok (.bipush 6, 2) := dk_16 6 (dk_at dksX4_init_1 4 rfl rfl)
theorem dX4_init_30 : decode cX4_init 30 = .ok (.newarray .int, 2) := dk_188_10 (dk_at dksX4_init_1 6 rfl rfl)
theorem dX4_init_32 : decode cX4_init 32 = .ok (.putfield 21, 3) := dk_181 0 21 (dk_at dksX4_init_1 8 rfl rfl)
theorem dX4_init_35 : decode cX4_init 35 = .ok (.aload_n 0, 1) := dk_42 (dk_at dksX4_init_1 11 rfl rfl)
theorem dX4_init_36 : decode cX4_init 36 = .ok (.bipush 6, 2) := dk_16 6 (dk_at dksX4_init_1 12 rfl rfl)
theorem dX4_init_38 : decode cX4_init 38 = .ok (.newarray .int, 2) := dk_188_10 (dk_at dksX4_init_1 14 rfl rfl)
theorem dX4_init_40 : decode cX4_init 40 = .ok (.putfield 24, 3) := dk_181 0 24 (dk_at dksX4_init_1 16 rfl rfl)
theorem dX4_init_43 : decode cX4_init 43 = .ok (.aload_n 0, 1) := dk_42 (dk_at dksX4_init_1 19 rfl rfl)
theorem dX4_init_44 : decode cX4_init 44 = .ok (.bipush 6, 2) := dk_16 6 (dk_at dksX4_init_1 20 rfl rfl)
theorem dX4_init_46 : decode cX4_init 46 = .ok (.newarray .int, 2) := dk_188_10 (dk_at dksX4_init_1 22 rfl rfl)
theorem dX4_init_48 : decode cX4_init 48 = .ok (.putfield 27, 3) := dk_181 0 27 (dk_at dksX4_init_2 0 rfl rfl)
theorem dX4_init_51 : decode cX4_init 51 = .ok (.return_, 1) := dk_177 (dk_at dksX4_init_2 3 rfl rfl)
abbrev cX4_begin : ByteArray := prog_18_method_3_code
def yX4_begin : MethodName := ⟨RX4, "begin", "(LDateVale$Vale;)V"⟩
def dkwX4_begin_7 : List UInt8 := [42, 3, 181, 0, 41, 177]
abbrev dktX4_begin_7 : List UInt8 := dkwX4_begin_7 ++ []
def dkwX4_begin_6 : List UInt8 := [79, 42, 180, 0, 24, 28, 3, 79, 132, 2, 1, 167, 255, 153, 42, 3, 181, 0, 34, 42, 3, 181, 0, 38]
abbrev dktX4_begin_6 : List UInt8 := dkwX4_begin_6 ++ dktX4_begin_7
def dkwX4_begin_5 : List UInt8 := [192, 0, 67, 180, 0, 71, 167, 0, 4, 3, 79, 42, 180, 0, 18, 28, 2, 79, 42, 180, 0, 21, 28, 3]
abbrev dktX4_begin_5 : List UInt8 := dkwX4_begin_5 ++ dktX4_begin_6
def dkwX4_begin_4 : List UInt8 := [167, 0, 4, 3, 79, 42, 180, 0, 27, 28, 29, 153, 0, 20, 43, 180, 0, 64, 28, 182, 0, 56]
abbrev dktX4_begin_4 : List UInt8 := dkwX4_begin_4 ++ dktX4_begin_5
def dkwX4_begin_3 : List UInt8 := [62, 42, 180, 0, 15, 28, 29, 153, 0, 20, 43, 180, 0, 64, 28, 182, 0, 56, 192, 0, 67, 180, 0, 69]
abbrev dktX4_begin_3 : List UInt8 := dkwX4_begin_3 ++ dktX4_begin_4
def dkwX4_begin_2 : List UInt8 := [3, 61, 28, 16, 6, 162, 0, 103, 28, 43, 180, 0, 64, 182, 0, 50, 162, 0, 7, 4, 167, 0, 4, 3]
abbrev dktX4_begin_2 : List UInt8 := dkwX4_begin_2 ++ dktX4_begin_3
def dkwX4_begin_1 : List UInt8 := [180, 0, 44, 28, 182, 0, 56, 192, 0, 60, 180, 0, 62, 167, 0, 4, 3, 79, 132, 2, 1, 167, 255, 213]
abbrev dktX4_begin_1 : List UInt8 := dkwX4_begin_1 ++ dktX4_begin_2
def dkwX4_begin_0 : List UInt8 := [3, 61, 28, 7, 162, 0, 44, 42, 180, 0, 9, 28, 28, 43, 180, 0, 44, 182, 0, 50, 162, 0, 20, 43]
abbrev dktX4_begin_0 : List UInt8 := dkwX4_begin_0 ++ dktX4_begin_1
theorem dksX4_begin_0 : cX4_begin.data.toList.drop 0 = dktX4_begin_0 := by decide +kernel
theorem dksX4_begin_1 : cX4_begin.data.toList.drop 24 = dktX4_begin_1 := dk_seg dksX4_begin_0 24 rfl rfl
theorem dksX4_begin_2 : cX4_begin.data.toList.drop 48 = dktX4_begin_2 := dk_seg dksX4_begin_1 24 rfl rfl
theorem dksX4_begin_3 : cX4_begin.data.toList.drop 72 = dktX4_begin_3 := dk_seg dksX4_begin_2 24 rfl rfl
theorem dksX4_begin_4 : cX4_begin.data.toList.drop 96 = dktX4_begin_4 := dk_seg dksX4_begin_3 24 rfl rfl
theorem dksX4_begin_5 : cX4_begin.data.toList.drop 118 = dktX4_begin_5 := dk_seg dksX4_begin_4 22 rfl rfl
theorem dksX4_begin_6 : cX4_begin.data.toList.drop 142 = dktX4_begin_6 := dk_seg dksX4_begin_5 24 rfl rfl
theorem dksX4_begin_7 : cX4_begin.data.toList.drop 166 = dktX4_begin_7 := dk_seg dksX4_begin_6 24 rfl rfl
theorem dX4_begin_0 : decode cX4_begin 0 = .ok (.iconst 0, 1) := dk_3 (dk_at dksX4_begin_0 0 rfl rfl)
theorem dX4_begin_1 : decode cX4_begin 1 = .ok (.istore_n 2, 1) := dk_61 (dk_at dksX4_begin_0 1 rfl rfl)
theorem dX4_begin_2 : decode cX4_begin 2 = .ok (.iload_n 2, 1) := dk_28 (dk_at dksX4_begin_0 2 rfl rfl)
theorem dX4_begin_3 : decode cX4_begin 3 = .ok (.iconst 4, 1) := dk_7 (dk_at dksX4_begin_0 3 rfl rfl)
theorem dX4_begin_4 : decode cX4_begin 4 = .ok (.if_icmp .ge 44, 3) := dk_162 0 44 (dk_at dksX4_begin_0 4 rfl rfl)
theorem dX4_begin_7 : decode cX4_begin 7 = .ok (.aload_n 0, 1) := dk_42 (dk_at dksX4_begin_0 7 rfl rfl)
theorem dX4_begin_8 : decode cX4_begin 8 = .ok (.getfield 9, 3) := dk_180 0 9 (dk_at dksX4_begin_0 8 rfl rfl)
theorem dX4_begin_11 : decode cX4_begin 11 = .ok (.iload_n 2, 1) := dk_28 (dk_at dksX4_begin_0 11 rfl rfl)
theorem dX4_begin_12 : decode cX4_begin 12 = .ok (.iload_n 2, 1) := dk_28 (dk_at dksX4_begin_0 12 rfl rfl)
theorem dX4_begin_13 : decode cX4_begin 13 = .ok (.aload_n 1, 1) := dk_43 (dk_at dksX4_begin_0 13 rfl rfl)
theorem dX4_begin_14 : decode cX4_begin 14 = .ok (.getfield 44, 3) := dk_180 0 44 (dk_at dksX4_begin_0 14 rfl rfl)
theorem dX4_begin_17 : decode cX4_begin 17 = .ok (.invokevirtual 50, 3) := dk_182 0 50 (dk_at dksX4_begin_0 17 rfl rfl)
theorem dX4_begin_20 : decode cX4_begin 20 = .ok (.if_icmp .ge 20, 3) := dk_162 0 20 (dk_at dksX4_begin_0 20 rfl rfl)
theorem dX4_begin_23 : decode cX4_begin 23 = .ok (.aload_n 1, 1) := dk_43 (dk_at dksX4_begin_0 23 rfl rfl)
theorem dX4_begin_24 : decode cX4_begin 24 = .ok (.getfield 44, 3) := dk_180 0 44 (dk_at dksX4_begin_1 0 rfl rfl)
theorem dX4_begin_27 : decode cX4_begin 27 = .ok (.iload_n 2, 1) := dk_28 (dk_at dksX4_begin_1 3 rfl rfl)
theorem dX4_begin_28 : decode cX4_begin 28 = .ok (.invokevirtual 56, 3) := dk_182 0 56 (dk_at dksX4_begin_1 4 rfl rfl)
theorem dX4_begin_31 : decode cX4_begin 31 = .ok (.checkcast 60, 3) := dk_192 0 60 (dk_at dksX4_begin_1 7 rfl rfl)
theorem dX4_begin_34 : decode cX4_begin 34 = .ok (.getfield 62, 3) := dk_180 0 62 (dk_at dksX4_begin_1 10 rfl rfl)
theorem dX4_begin_37 : decode cX4_begin 37 = .ok (.goto 4, 3) := dk_167 0 4 (dk_at dksX4_begin_1 13 rfl rfl)
theorem dX4_begin_40 : decode cX4_begin 40 = .ok (.iconst 0, 1) := dk_3 (dk_at dksX4_begin_1 16 rfl rfl)
theorem dX4_begin_41 : decode cX4_begin 41 = .ok (.iastore, 1) := dk_79 (dk_at dksX4_begin_1 17 rfl rfl)
theorem dX4_begin_42 : decode cX4_begin 42 = .ok (.iinc 2 1, 3) := dk_132 2 1 (dk_at dksX4_begin_1 18 rfl rfl)
theorem dX4_begin_45 : decode cX4_begin 45 = .ok (.goto (-43), 3) := dk_167 255 213 (dk_at dksX4_begin_1 21 rfl rfl)
theorem dX4_begin_48 : decode cX4_begin 48 = .ok (.iconst 0, 1) := dk_3 (dk_at dksX4_begin_2 0 rfl rfl)
theorem dX4_begin_49 : decode cX4_begin 49 = .ok (.istore_n 2, 1) := dk_61 (dk_at dksX4_begin_2 1 rfl rfl)
theorem dX4_begin_50 : decode cX4_begin 50 = .ok (.iload_n 2, 1) := dk_28 (dk_at dksX4_begin_2 2 rfl rfl)
theorem dX4_begin_51 : decode cX4_begin 51 = .ok (.bipush 6, 2) := dk_16 6 (dk_at dksX4_begin_2 3 rfl rfl)
theorem dX4_begin_53 : decode cX4_begin 53 = .ok (.if_icmp .ge 103, 3) := dk_162 0 103 (dk_at dksX4_begin_2 5 rfl rfl)
theorem dX4_begin_56 : decode cX4_begin 56 = .ok (.iload_n 2, 1) := dk_28 (dk_at dksX4_begin_2 8 rfl rfl)
theorem dX4_begin_57 : decode cX4_begin 57 = .ok (.aload_n 1, 1) := dk_43 (dk_at dksX4_begin_2 9 rfl rfl)
theorem dX4_begin_58 : decode cX4_begin 58 = .ok (.getfield 64, 3) := dk_180 0 64 (dk_at dksX4_begin_2 10 rfl rfl)
theorem dX4_begin_61 : decode cX4_begin 61 = .ok (.invokevirtual 50, 3) := dk_182 0 50 (dk_at dksX4_begin_2 13 rfl rfl)
theorem dX4_begin_64 : decode cX4_begin 64 = .ok (.if_icmp .ge 7, 3) := dk_162 0 7 (dk_at dksX4_begin_2 16 rfl rfl)
theorem dX4_begin_67 : decode cX4_begin 67 = .ok (.iconst 1, 1) := dk_4 (dk_at dksX4_begin_2 19 rfl rfl)
theorem dX4_begin_68 : decode cX4_begin 68 = .ok (.goto 4, 3) := dk_167 0 4 (dk_at dksX4_begin_2 20 rfl rfl)
theorem dX4_begin_71 : decode cX4_begin 71 = .ok (.iconst 0, 1) := dk_3 (dk_at dksX4_begin_2 23 rfl rfl)
theorem dX4_begin_72 : decode cX4_begin 72 = .ok (.istore_n 3, 1) := dk_62 (dk_at dksX4_begin_3 0 rfl rfl)
theorem dX4_begin_73 : decode cX4_begin 73 = .ok (.aload_n 0, 1) := dk_42 (dk_at dksX4_begin_3 1 rfl rfl)
theorem dX4_begin_74 : decode cX4_begin 74 = .ok (.getfield 15, 3) := dk_180 0 15 (dk_at dksX4_begin_3 2 rfl rfl)
theorem dX4_begin_77 : decode cX4_begin 77 = .ok (.iload_n 2, 1) := dk_28 (dk_at dksX4_begin_3 5 rfl rfl)
theorem dX4_begin_78 : decode cX4_begin 78 = .ok (.iload_n 3, 1) := dk_29 (dk_at dksX4_begin_3 6 rfl rfl)
theorem dX4_begin_79 : decode cX4_begin 79 = .ok (.ifCond .eq 20, 3) := dk_153 0 20 (dk_at dksX4_begin_3 7 rfl rfl)
theorem dX4_begin_82 : decode cX4_begin 82 = .ok (.aload_n 1, 1) := dk_43 (dk_at dksX4_begin_3 10 rfl rfl)
theorem dX4_begin_83 : decode cX4_begin 83 = .ok (.getfield 64, 3) := dk_180 0 64 (dk_at dksX4_begin_3 11 rfl rfl)
theorem dX4_begin_86 : decode cX4_begin 86 = .ok (.iload_n 2, 1) := dk_28 (dk_at dksX4_begin_3 14 rfl rfl)
theorem dX4_begin_87 : decode cX4_begin 87 = .ok (.invokevirtual 56, 3) := dk_182 0 56 (dk_at dksX4_begin_3 15 rfl rfl)
theorem dX4_begin_90 : decode cX4_begin 90 = .ok (.checkcast 67, 3) := dk_192 0 67 (dk_at dksX4_begin_3 18 rfl rfl)
theorem dX4_begin_93 : decode cX4_begin 93 = .ok (.getfield 69, 3) := dk_180 0 69 (dk_at dksX4_begin_3 21 rfl rfl)
theorem dX4_begin_96 : decode cX4_begin 96 = .ok (.goto 4, 3) := dk_167 0 4 (dk_at dksX4_begin_4 0 rfl rfl)
theorem dX4_begin_99 : decode cX4_begin 99 = .ok (.iconst 0, 1) := dk_3 (dk_at dksX4_begin_4 3 rfl rfl)
theorem dX4_begin_100 : decode cX4_begin 100 = .ok (.iastore, 1) := dk_79 (dk_at dksX4_begin_4 4 rfl rfl)
theorem dX4_begin_101 : decode cX4_begin 101 = .ok (.aload_n 0, 1) := dk_42 (dk_at dksX4_begin_4 5 rfl rfl)
theorem dX4_begin_102 : decode cX4_begin 102 = .ok (.getfield 27, 3) := dk_180 0 27 (dk_at dksX4_begin_4 6 rfl rfl)
theorem dX4_begin_105 : decode cX4_begin 105 = .ok (.iload_n 2, 1) := dk_28 (dk_at dksX4_begin_4 9 rfl rfl)
theorem dX4_begin_106 : decode cX4_begin 106 = .ok (.iload_n 3, 1) := dk_29 (dk_at dksX4_begin_4 10 rfl rfl)
theorem dX4_begin_107 : decode cX4_begin 107 = .ok (.ifCond .eq 20, 3) := dk_153 0 20 (dk_at dksX4_begin_4 11 rfl rfl)
theorem dX4_begin_110 : decode cX4_begin 110 = .ok (.aload_n 1, 1) := dk_43 (dk_at dksX4_begin_4 14 rfl rfl)
theorem dX4_begin_111 : decode cX4_begin 111 = .ok (.getfield 64, 3) := dk_180 0 64 (dk_at dksX4_begin_4 15 rfl rfl)
theorem dX4_begin_114 : decode cX4_begin 114 = .ok (.iload_n 2, 1) := dk_28 (dk_at dksX4_begin_4 18 rfl rfl)
theorem dX4_begin_115 : decode cX4_begin 115 = .ok (.invokevirtual 56, 3) := dk_182 0 56 (dk_at dksX4_begin_4 19 rfl rfl)
theorem dX4_begin_118 : decode cX4_begin 118 = .ok (.checkcast 67, 3) := dk_192 0 67 (dk_at dksX4_begin_5 0 rfl rfl)
theorem dX4_begin_121 : decode cX4_begin 121 = .ok (.getfield 71, 3) := dk_180 0 71 (dk_at dksX4_begin_5 3 rfl rfl)
theorem dX4_begin_124 : decode cX4_begin 124 = .ok (.goto 4, 3) := dk_167 0 4 (dk_at dksX4_begin_5 6 rfl rfl)
theorem dX4_begin_127 : decode cX4_begin 127 = .ok (.iconst 0, 1) := dk_3 (dk_at dksX4_begin_5 9 rfl rfl)
theorem dX4_begin_128 : decode cX4_begin 128 = .ok (.iastore, 1) := dk_79 (dk_at dksX4_begin_5 10 rfl rfl)
theorem dX4_begin_129 : decode cX4_begin 129 = .ok (.aload_n 0, 1) := dk_42 (dk_at dksX4_begin_5 11 rfl rfl)
theorem dX4_begin_130 : decode cX4_begin 130 = .ok (.getfield 18, 3) := dk_180 0 18 (dk_at dksX4_begin_5 12 rfl rfl)
theorem dX4_begin_133 : decode cX4_begin 133 = .ok (.iload_n 2, 1) := dk_28 (dk_at dksX4_begin_5 15 rfl rfl)
theorem dX4_begin_134 : decode cX4_begin 134 = .ok (.iconst (-1), 1) := dk_2 (dk_at dksX4_begin_5 16 rfl rfl)
theorem dX4_begin_135 : decode cX4_begin 135 = .ok (.iastore, 1) := dk_79 (dk_at dksX4_begin_5 17 rfl rfl)
theorem dX4_begin_136 : decode cX4_begin 136 = .ok (.aload_n 0, 1) := dk_42 (dk_at dksX4_begin_5 18 rfl rfl)
theorem dX4_begin_137 : decode cX4_begin 137 = .ok (.getfield 21, 3) := dk_180 0 21 (dk_at dksX4_begin_5 19 rfl rfl)
theorem dX4_begin_140 : decode cX4_begin 140 = .ok (.iload_n 2, 1) := dk_28 (dk_at dksX4_begin_5 22 rfl rfl)
theorem dX4_begin_141 : decode cX4_begin 141 = .ok (.iconst 0, 1) := dk_3 (dk_at dksX4_begin_5 23 rfl rfl)
theorem dX4_begin_142 : decode cX4_begin 142 = .ok (.iastore, 1) := dk_79 (dk_at dksX4_begin_6 0 rfl rfl)
theorem dX4_begin_143 : decode cX4_begin 143 = .ok (.aload_n 0, 1) := dk_42 (dk_at dksX4_begin_6 1 rfl rfl)
theorem dX4_begin_144 : decode cX4_begin 144 = .ok (.getfield 24, 3) := dk_180 0 24 (dk_at dksX4_begin_6 2 rfl rfl)
theorem dX4_begin_147 : decode cX4_begin 147 = .ok (.iload_n 2, 1) := dk_28 (dk_at dksX4_begin_6 5 rfl rfl)
theorem dX4_begin_148 : decode cX4_begin 148 = .ok (.iconst 0, 1) := dk_3 (dk_at dksX4_begin_6 6 rfl rfl)
theorem dX4_begin_149 : decode cX4_begin 149 = .ok (.iastore, 1) := dk_79 (dk_at dksX4_begin_6 7 rfl rfl)
theorem dX4_begin_150 : decode cX4_begin 150 = .ok (.iinc 2 1, 3) := dk_132 2 1 (dk_at dksX4_begin_6 8 rfl rfl)
theorem dX4_begin_153 : decode cX4_begin 153 = .ok (.goto (-103), 3) := dk_167 255 153 (dk_at dksX4_begin_6 11 rfl rfl)
theorem dX4_begin_156 : decode cX4_begin 156 = .ok (.aload_n 0, 1) := dk_42 (dk_at dksX4_begin_6 14 rfl rfl)
theorem dX4_begin_157 : decode cX4_begin 157 = .ok (.iconst 0, 1) := dk_3 (dk_at dksX4_begin_6 15 rfl rfl)
theorem dX4_begin_158 : decode cX4_begin 158 = .ok (.putfield 34, 3) := dk_181 0 34 (dk_at dksX4_begin_6 16 rfl rfl)
theorem dX4_begin_161 : decode cX4_begin 161 = .ok (.aload_n 0, 1) := dk_42 (dk_at dksX4_begin_6 19 rfl rfl)
theorem dX4_begin_162 : decode cX4_begin 162 = .ok (.iconst 0, 1) := dk_3 (dk_at dksX4_begin_6 20 rfl rfl)
theorem dX4_begin_163 : decode cX4_begin 163 = .ok (.putfield 38, 3) := dk_181 0 38 (dk_at dksX4_begin_6 21 rfl rfl)
theorem dX4_begin_166 : decode cX4_begin 166 = .ok (.aload_n 0, 1) := dk_42 (dk_at dksX4_begin_7 0 rfl rfl)
theorem dX4_begin_167 : decode cX4_begin 167 = .ok (.iconst 0, 1) := dk_3 (dk_at dksX4_begin_7 1 rfl rfl)
theorem dX4_begin_168 : decode cX4_begin 168 = .ok (.putfield 41, 3) := dk_181 0 41 (dk_at dksX4_begin_7 2 rfl rfl)
theorem dX4_begin_171 : decode cX4_begin 171 = .ok (.return_, 1) := dk_177 (dk_at dksX4_begin_7 5 rfl rfl)
abbrev cX4_in : ByteArray := prog_18_method_4_code
def yX4_in : MethodName := ⟨RX4, "in", "(I)I"⟩
def dkwX4_in_1 : List UInt8 := [128, 61, 132, 3, 1, 167, 255, 231, 28, 172]
abbrev dktX4_in_1 : List UInt8 := dkwX4_in_1 ++ []
def dkwX4_in_0 : List UInt8 := [3, 61, 3, 62, 29, 16, 6, 162, 0, 25, 42, 180, 0, 18, 29, 46, 27, 160, 0, 9, 28, 4, 29, 120]
abbrev dktX4_in_0 : List UInt8 := dkwX4_in_0 ++ dktX4_in_1
theorem dksX4_in_0 : cX4_in.data.toList.drop 0 = dktX4_in_0 := by decide +kernel
theorem dksX4_in_1 : cX4_in.data.toList.drop 24 = dktX4_in_1 := dk_seg dksX4_in_0 24 rfl rfl
theorem dX4_in_0 : decode cX4_in 0 = .ok (.iconst 0, 1) := dk_3 (dk_at dksX4_in_0 0 rfl rfl)
theorem dX4_in_1 : decode cX4_in 1 = .ok (.istore_n 2, 1) := dk_61 (dk_at dksX4_in_0 1 rfl rfl)
theorem dX4_in_2 : decode cX4_in 2 = .ok (.iconst 0, 1) := dk_3 (dk_at dksX4_in_0 2 rfl rfl)
theorem dX4_in_3 : decode cX4_in 3 = .ok (.istore_n 3, 1) := dk_62 (dk_at dksX4_in_0 3 rfl rfl)
theorem dX4_in_4 : decode cX4_in 4 = .ok (.iload_n 3, 1) := dk_29 (dk_at dksX4_in_0 4 rfl rfl)
theorem dX4_in_5 : decode cX4_in 5 = .ok (.bipush 6, 2) := dk_16 6 (dk_at dksX4_in_0 5 rfl rfl)
theorem dX4_in_7 : decode cX4_in 7 = .ok (.if_icmp .ge 25, 3) := dk_162 0 25 (dk_at dksX4_in_0 7 rfl rfl)
theorem dX4_in_10 : decode cX4_in 10 = .ok (.aload_n 0, 1) := dk_42 (dk_at dksX4_in_0 10 rfl rfl)
theorem dX4_in_11 : decode cX4_in 11 = .ok (.getfield 18, 3) := dk_180 0 18 (dk_at dksX4_in_0 11 rfl rfl)
theorem dX4_in_14 : decode cX4_in 14 = .ok (.iload_n 3, 1) := dk_29 (dk_at dksX4_in_0 14 rfl rfl)
theorem dX4_in_15 : decode cX4_in 15 = .ok (.iaload, 1) := dk_46 (dk_at dksX4_in_0 15 rfl rfl)
theorem dX4_in_16 : decode cX4_in 16 = .ok (.iload_n 1, 1) := dk_27 (dk_at dksX4_in_0 16 rfl rfl)
theorem dX4_in_17 : decode cX4_in 17 = .ok (.if_icmp .ne 9, 3) := dk_160 0 9 (dk_at dksX4_in_0 17 rfl rfl)
theorem dX4_in_20 : decode cX4_in 20 = .ok (.iload_n 2, 1) := dk_28 (dk_at dksX4_in_0 20 rfl rfl)
theorem dX4_in_21 : decode cX4_in 21 = .ok (.iconst 1, 1) := dk_4 (dk_at dksX4_in_0 21 rfl rfl)
theorem dX4_in_22 : decode cX4_in 22 = .ok (.iload_n 3, 1) := dk_29 (dk_at dksX4_in_0 22 rfl rfl)
theorem dX4_in_23 : decode cX4_in 23 = .ok (.ishl, 1) := dk_120 (dk_at dksX4_in_0 23 rfl rfl)
theorem dX4_in_24 : decode cX4_in 24 = .ok (.ior, 1) := dk_128 (dk_at dksX4_in_1 0 rfl rfl)
theorem dX4_in_25 : decode cX4_in 25 = .ok (.istore_n 2, 1) := dk_61 (dk_at dksX4_in_1 1 rfl rfl)
theorem dX4_in_26 : decode cX4_in 26 = .ok (.iinc 3 1, 3) := dk_132 3 1 (dk_at dksX4_in_1 2 rfl rfl)
theorem dX4_in_29 : decode cX4_in 29 = .ok (.goto (-25), 3) := dk_167 255 231 (dk_at dksX4_in_1 5 rfl rfl)
theorem dX4_in_32 : decode cX4_in 32 = .ok (.iload_n 2, 1) := dk_28 (dk_at dksX4_in_1 8 rfl rfl)
theorem dX4_in_33 : decode cX4_in 33 = .ok (.ireturn, 1) := dk_172 (dk_at dksX4_in_1 9 rfl rfl)
abbrev cX4_be : ByteArray := prog_18_method_2_code
def yX4_be : MethodName := ⟨RX4, "be", "(LDateVale$State;)V"⟩
def dkwX4_be_3 : List UInt8 := [180, 0, 34, 181, 0, 34, 42, 43, 180, 0, 38, 181, 0, 38, 42, 43, 180, 0, 41, 181, 0, 41, 177]
abbrev dktX4_be_3 : List UInt8 := dkwX4_be_3 ++ []
def dkwX4_be_2 : List UInt8 := [180, 0, 24, 42, 180, 0, 24, 184, 0, 30, 43, 180, 0, 27, 42, 180, 0, 27, 184, 0, 30, 42, 43]
abbrev dktX4_be_2 : List UInt8 := dkwX4_be_2 ++ dktX4_be_3
def dkwX4_be_1 : List UInt8 := [180, 0, 18, 42, 180, 0, 18, 184, 0, 30, 43, 180, 0, 21, 42, 180, 0, 21, 184, 0, 30, 43]
abbrev dktX4_be_1 : List UInt8 := dkwX4_be_1 ++ dktX4_be_2
def dkwX4_be_0 : List UInt8 := [43, 180, 0, 9, 42, 180, 0, 9, 184, 0, 30, 43, 180, 0, 15, 42, 180, 0, 15, 184, 0, 30, 43]
abbrev dktX4_be_0 : List UInt8 := dkwX4_be_0 ++ dktX4_be_1
theorem dksX4_be_0 : cX4_be.data.toList.drop 0 = dktX4_be_0 := by decide +kernel
theorem dksX4_be_1 : cX4_be.data.toList.drop 23 = dktX4_be_1 := dk_seg dksX4_be_0 23 rfl rfl
theorem dksX4_be_2 : cX4_be.data.toList.drop 45 = dktX4_be_2 := dk_seg dksX4_be_1 22 rfl rfl
theorem dksX4_be_3 : cX4_be.data.toList.drop 68 = dktX4_be_3 := dk_seg dksX4_be_2 23 rfl rfl
theorem dX4_be_0 : decode cX4_be 0 = .ok (.aload_n 1, 1) := dk_43 (dk_at dksX4_be_0 0 rfl rfl)
theorem dX4_be_1 : decode cX4_be 1 = .ok (.getfield 9, 3) := dk_180 0 9 (dk_at dksX4_be_0 1 rfl rfl)
theorem dX4_be_4 : decode cX4_be 4 = .ok (.aload_n 0, 1) := dk_42 (dk_at dksX4_be_0 4 rfl rfl)
theorem dX4_be_5 : decode cX4_be 5 = .ok (.getfield 9, 3) := dk_180 0 9 (dk_at dksX4_be_0 5 rfl rfl)
theorem dX4_be_8 : decode cX4_be 8 = .ok (.invokestatic 30, 3) := dk_184 0 30 (dk_at dksX4_be_0 8 rfl rfl)
theorem dX4_be_11 : decode cX4_be 11 = .ok (.aload_n 1, 1) := dk_43 (dk_at dksX4_be_0 11 rfl rfl)
theorem dX4_be_12 : decode cX4_be 12 = .ok (.getfield 15, 3) := dk_180 0 15 (dk_at dksX4_be_0 12 rfl rfl)
theorem dX4_be_15 : decode cX4_be 15 = .ok (.aload_n 0, 1) := dk_42 (dk_at dksX4_be_0 15 rfl rfl)
theorem dX4_be_16 : decode cX4_be 16 = .ok (.getfield 15, 3) := dk_180 0 15 (dk_at dksX4_be_0 16 rfl rfl)
theorem dX4_be_19 : decode cX4_be 19 = .ok (.invokestatic 30, 3) := dk_184 0 30 (dk_at dksX4_be_0 19 rfl rfl)
theorem dX4_be_22 : decode cX4_be 22 = .ok (.aload_n 1, 1) := dk_43 (dk_at dksX4_be_0 22 rfl rfl)
theorem dX4_be_23 : decode cX4_be 23 = .ok (.getfield 18, 3) := dk_180 0 18 (dk_at dksX4_be_1 0 rfl rfl)
theorem dX4_be_26 : decode cX4_be 26 = .ok (.aload_n 0, 1) := dk_42 (dk_at dksX4_be_1 3 rfl rfl)
theorem dX4_be_27 : decode cX4_be 27 = .ok (.getfield 18, 3) := dk_180 0 18 (dk_at dksX4_be_1 4 rfl rfl)
theorem dX4_be_30 : decode cX4_be 30 = .ok (.invokestatic 30, 3) := dk_184 0 30 (dk_at dksX4_be_1 7 rfl rfl)
theorem dX4_be_33 : decode cX4_be 33 = .ok (.aload_n 1, 1) := dk_43 (dk_at dksX4_be_1 10 rfl rfl)
theorem dX4_be_34 : decode cX4_be 34 = .ok (.getfield 21, 3) := dk_180 0 21 (dk_at dksX4_be_1 11 rfl rfl)
theorem dX4_be_37 : decode cX4_be 37 = .ok (.aload_n 0, 1) := dk_42 (dk_at dksX4_be_1 14 rfl rfl)
theorem dX4_be_38 : decode cX4_be 38 = .ok (.getfield 21, 3) := dk_180 0 21 (dk_at dksX4_be_1 15 rfl rfl)
theorem dX4_be_41 : decode cX4_be 41 = .ok (.invokestatic 30, 3) := dk_184 0 30 (dk_at dksX4_be_1 18 rfl rfl)
theorem dX4_be_44 : decode cX4_be 44 = .ok (.aload_n 1, 1) := dk_43 (dk_at dksX4_be_1 21 rfl rfl)
theorem dX4_be_45 : decode cX4_be 45 = .ok (.getfield 24, 3) := dk_180 0 24 (dk_at dksX4_be_2 0 rfl rfl)
theorem dX4_be_48 : decode cX4_be 48 = .ok (.aload_n 0, 1) := dk_42 (dk_at dksX4_be_2 3 rfl rfl)
theorem dX4_be_49 : decode cX4_be 49 = .ok (.getfield 24, 3) := dk_180 0 24 (dk_at dksX4_be_2 4 rfl rfl)
theorem dX4_be_52 : decode cX4_be 52 = .ok (.invokestatic 30, 3) := dk_184 0 30 (dk_at dksX4_be_2 7 rfl rfl)
theorem dX4_be_55 : decode cX4_be 55 = .ok (.aload_n 1, 1) := dk_43 (dk_at dksX4_be_2 10 rfl rfl)
theorem dX4_be_56 : decode cX4_be 56 = .ok (.getfield 27, 3) := dk_180 0 27 (dk_at dksX4_be_2 11 rfl rfl)
theorem dX4_be_59 : decode cX4_be 59 = .ok (.aload_n 0, 1) := dk_42 (dk_at dksX4_be_2 14 rfl rfl)
theorem dX4_be_60 : decode cX4_be 60 = .ok (.getfield 27, 3) := dk_180 0 27 (dk_at dksX4_be_2 15 rfl rfl)
theorem dX4_be_63 : decode cX4_be 63 = .ok (.invokestatic 30, 3) := dk_184 0 30 (dk_at dksX4_be_2 18 rfl rfl)
theorem dX4_be_66 : decode cX4_be 66 = .ok (.aload_n 0, 1) := dk_42 (dk_at dksX4_be_2 21 rfl rfl)
theorem dX4_be_67 : decode cX4_be 67 = .ok (.aload_n 1, 1) := dk_43 (dk_at dksX4_be_2 22 rfl rfl)
theorem dX4_be_68 : decode cX4_be 68 = .ok (.getfield 34, 3) := dk_180 0 34 (dk_at dksX4_be_3 0 rfl rfl)
theorem dX4_be_71 : decode cX4_be 71 = .ok (.putfield 34, 3) := dk_181 0 34 (dk_at dksX4_be_3 3 rfl rfl)
theorem dX4_be_74 : decode cX4_be 74 = .ok (.aload_n 0, 1) := dk_42 (dk_at dksX4_be_3 6 rfl rfl)
theorem dX4_be_75 : decode cX4_be 75 = .ok (.aload_n 1, 1) := dk_43 (dk_at dksX4_be_3 7 rfl rfl)
theorem dX4_be_76 : decode cX4_be 76 = .ok (.getfield 38, 3) := dk_180 0 38 (dk_at dksX4_be_3 8 rfl rfl)
theorem dX4_be_79 : decode cX4_be 79 = .ok (.putfield 38, 3) := dk_181 0 38 (dk_at dksX4_be_3 11 rfl rfl)
theorem dX4_be_82 : decode cX4_be 82 = .ok (.aload_n 0, 1) := dk_42 (dk_at dksX4_be_3 14 rfl rfl)
theorem dX4_be_83 : decode cX4_be 83 = .ok (.aload_n 1, 1) := dk_43 (dk_at dksX4_be_3 15 rfl rfl)
theorem dX4_be_84 : decode cX4_be 84 = .ok (.getfield 41, 3) := dk_180 0 41 (dk_at dksX4_be_3 16 rfl rfl)
theorem dX4_be_87 : decode cX4_be 87 = .ok (.putfield 41, 3) := dk_181 0 41 (dk_at dksX4_be_3 19 rfl rfl)
theorem dX4_be_90 : decode cX4_be 90 = .ok (.return_, 1) := dk_177 (dk_at dksX4_be_3 22 rfl rfl)
abbrev cX4_goes : ByteArray := prog_18_method_6_code
def yX4_goes : MethodName := ⟨RX4, "goes", "(I)V"⟩
def dkwX4_goes_0 : List UInt8 := [42, 180, 0, 18, 27, 2, 79, 42, 180, 0, 21, 27, 3, 79, 177]
abbrev dktX4_goes_0 : List UInt8 := dkwX4_goes_0 ++ []
theorem dksX4_goes_0 : cX4_goes.data.toList.drop 0 = dktX4_goes_0 := by decide +kernel
theorem dX4_goes_0 : decode cX4_goes 0 = .ok (.aload_n 0, 1) := dk_42 (dk_at dksX4_goes_0 0 rfl rfl)
theorem dX4_goes_1 : decode cX4_goes 1 = .ok (.getfield 18, 3) := dk_180 0 18 (dk_at dksX4_goes_0 1 rfl rfl)
theorem dX4_goes_4 : decode cX4_goes 4 = .ok (.iload_n 1, 1) := dk_27 (dk_at dksX4_goes_0 4 rfl rfl)
theorem dX4_goes_5 : decode cX4_goes 5 = .ok (.iconst (-1), 1) := dk_2 (dk_at dksX4_goes_0 5 rfl rfl)
theorem dX4_goes_6 : decode cX4_goes 6 = .ok (.iastore, 1) := dk_79 (dk_at dksX4_goes_0 6 rfl rfl)
theorem dX4_goes_7 : decode cX4_goes 7 = .ok (.aload_n 0, 1) := dk_42 (dk_at dksX4_goes_0 7 rfl rfl)
theorem dX4_goes_8 : decode cX4_goes 8 = .ok (.getfield 21, 3) := dk_180 0 21 (dk_at dksX4_goes_0 8 rfl rfl)
theorem dX4_goes_11 : decode cX4_goes 11 = .ok (.iload_n 1, 1) := dk_27 (dk_at dksX4_goes_0 11 rfl rfl)
theorem dX4_goes_12 : decode cX4_goes 12 = .ok (.iconst 0, 1) := dk_3 (dk_at dksX4_goes_0 12 rfl rfl)
theorem dX4_goes_13 : decode cX4_goes 13 = .ok (.iastore, 1) := dk_79 (dk_at dksX4_goes_0 13 rfl rfl)
theorem dX4_goes_14 : decode cX4_goes 14 = .ok (.return_, 1) := dk_177 (dk_at dksX4_goes_0 14 rfl rfl)
abbrev cX4_somewhere : ByteArray := prog_18_method_5_code
def yX4_somewhere : MethodName := ⟨RX4, "somewhere", "()I"⟩
def dkwX4_somewhere_1 : List UInt8 := [60, 132, 2, 1, 167, 255, 232, 27, 172]
abbrev dktX4_somewhere_1 : List UInt8 := dkwX4_somewhere_1 ++ []
def dkwX4_somewhere_0 : List UInt8 := [3, 60, 3, 61, 28, 16, 6, 162, 0, 24, 42, 180, 0, 18, 28, 46, 155, 0, 9, 27, 4, 28, 120, 128]
abbrev dktX4_somewhere_0 : List UInt8 := dkwX4_somewhere_0 ++ dktX4_somewhere_1
theorem dksX4_somewhere_0 : cX4_somewhere.data.toList.drop 0 = dktX4_somewhere_0 := by decide +kernel
theorem dksX4_somewhere_1 : cX4_somewhere.data.toList.drop 24 = dktX4_somewhere_1 := dk_seg dksX4_somewhere_0 24 rfl rfl
theorem dX4_somewhere_0 : decode cX4_somewhere 0 = .ok (.iconst 0, 1) := dk_3 (dk_at dksX4_somewhere_0 0 rfl rfl)
theorem dX4_somewhere_1 : decode cX4_somewhere 1 = .ok (.istore_n 1, 1) := dk_60 (dk_at dksX4_somewhere_0 1 rfl rfl)
theorem dX4_somewhere_2 : decode cX4_somewhere 2 = .ok (.iconst 0, 1) := dk_3 (dk_at dksX4_somewhere_0 2 rfl rfl)
theorem dX4_somewhere_3 : decode cX4_somewhere 3 = .ok (.istore_n 2, 1) := dk_61 (dk_at dksX4_somewhere_0 3 rfl rfl)
theorem dX4_somewhere_4 : decode cX4_somewhere 4 = .ok (.iload_n 2, 1) := dk_28 (dk_at dksX4_somewhere_0 4 rfl rfl)
theorem dX4_somewhere_5 : decode cX4_somewhere 5 = .ok (.bipush 6, 2) := dk_16 6 (dk_at dksX4_somewhere_0 5 rfl rfl)
theorem dX4_somewhere_7 : decode cX4_somewhere 7 = .ok (.if_icmp .ge 24, 3) := dk_162 0 24 (dk_at dksX4_somewhere_0 7 rfl rfl)
theorem dX4_somewhere_10 : decode cX4_somewhere 10 = .ok (.aload_n 0, 1) := dk_42 (dk_at dksX4_somewhere_0 10 rfl rfl)
theorem dX4_somewhere_11 : decode cX4_somewhere 11 = .ok (.getfield 18, 3) := dk_180 0 18 (dk_at dksX4_somewhere_0 11 rfl rfl)
theorem dX4_somewhere_14 : decode cX4_somewhere 14 = .ok (.iload_n 2, 1) := dk_28 (dk_at dksX4_somewhere_0 14 rfl rfl)
theorem dX4_somewhere_15 : decode cX4_somewhere 15 = .ok (.iaload, 1) := dk_46 (dk_at dksX4_somewhere_0 15 rfl rfl)
theorem dX4_somewhere_16 : decode cX4_somewhere 16 = .ok (.ifCond .lt 9, 3) := dk_155 0 9 (dk_at dksX4_somewhere_0 16 rfl rfl)
theorem dX4_somewhere_19 : decode cX4_somewhere 19 = .ok (.iload_n 1, 1) := dk_27 (dk_at dksX4_somewhere_0 19 rfl rfl)
theorem dX4_somewhere_20 : decode cX4_somewhere 20 = .ok (.iconst 1, 1) := dk_4 (dk_at dksX4_somewhere_0 20 rfl rfl)
theorem dX4_somewhere_21 : decode cX4_somewhere 21 = .ok (.iload_n 2, 1) := dk_28 (dk_at dksX4_somewhere_0 21 rfl rfl)
theorem dX4_somewhere_22 : decode cX4_somewhere 22 = .ok (.ishl, 1) := dk_120 (dk_at dksX4_somewhere_0 22 rfl rfl)
theorem dX4_somewhere_23 : decode cX4_somewhere 23 = .ok (.ior, 1) := dk_128 (dk_at dksX4_somewhere_0 23 rfl rfl)
theorem dX4_somewhere_24 : decode cX4_somewhere 24 = .ok (.istore_n 1, 1) := dk_60 (dk_at dksX4_somewhere_1 0 rfl rfl)
theorem dX4_somewhere_25 : decode cX4_somewhere 25 = .ok (.iinc 2 1, 3) := dk_132 2 1 (dk_at dksX4_somewhere_1 1 rfl rfl)
theorem dX4_somewhere_28 : decode cX4_somewhere 28 = .ok (.goto (-24), 3) := dk_167 255 232 (dk_at dksX4_somewhere_1 4 rfl rfl)
theorem dX4_somewhere_31 : decode cX4_somewhere 31 = .ok (.iload_n 1, 1) := dk_27 (dk_at dksX4_somewhere_1 7 rfl rfl)
theorem dX4_somewhere_32 : decode cX4_somewhere 32 = .ok (.ireturn, 1) := dk_172 (dk_at dksX4_somewhere_1 8 rfl rfl)
theorem q118 : (Jvm.Cond.initialized "DateVale$State") ∈ lw_all := lw_g (lw_at lw_m1 7 rfl) rfl
theorem q229 : (Jvm.Cond.fieldLinkNest "DateVale$State" (44 : Nat) "DateVale$Vale" "homes" "Ljava/util/ArrayList;" "DateVale") ∈ lw_tbl := lw_at lw_m1 118 rfl
theorem q233 : (Jvm.Cond.fieldLinkNest "DateVale$State" (64 : Nat) "DateVale$Vale" "guests" "Ljava/util/ArrayList;" "DateVale") ∈ lw_tbl := lw_at lw_m1 122 rfl
theorem q252 : (Jvm.Cond.instantiable "DateVale$State" (9 : Nat)) ∈ lw_all := lw_g (lw_at lw_m1 141 rfl) rfl
theorem q254 : (Jvm.Cond.instanceMethod ({ cls := "DateVale$State", name := "<init>", desc := "()V" } : Jvm.MethodName)) ∈ lw_all := lw_g (lw_at lw_m1 143 rfl) rfl
theorem q255 : (Jvm.Cond.code ({ cls := "DateVale$State", name := "<init>", desc := "()V" } : Jvm.MethodName) prog_18_method_1_code (1 : Nat) (Option.none : Option Jvm.ClassFile.FieldType)) ∈ lw_all := lw_g (lw_at lw_m1 144 rfl) rfl
theorem q256 : (Jvm.Cond.methodLink "DateVale$State" (3 : Nat) ({ cls := "java/lang/Object", name := "<init>", desc := "()V" } : Jvm.MethodName)) ∈ lw_all := lw_g (lw_at lw_m1 145 rfl) rfl
theorem q257 : (Jvm.Cond.fieldLink "DateVale$State" (9 : Nat) "DateVale$State" "beds" "[I") ∈ lw_all := lw_g (lw_at lw_m1 146 rfl) rfl
theorem q260 : (Jvm.Cond.fieldLink "DateVale$State" (15 : Nat) "DateVale$State" "says" "[I") ∈ lw_all := lw_g (lw_at lw_m1 149 rfl) rfl
theorem q262 : (Jvm.Cond.fieldLink "DateVale$State" (18 : Nat) "DateVale$State" "where" "[I") ∈ lw_all := lw_g (lw_at lw_m1 151 rfl) rfl
theorem q266 : (Jvm.Cond.fieldLink "DateVale$State" (21 : Nat) "DateVale$State" "been" "[I") ∈ lw_all := lw_g (lw_at lw_m1 155 rfl) rfl
theorem q268 : (Jvm.Cond.fieldLink "DateVale$State" (24 : Nat) "DateVale$State" "times" "[I") ∈ lw_all := lw_g (lw_at lw_m1 157 rfl) rfl
theorem q270 : (Jvm.Cond.fieldLink "DateVale$State" (27 : Nat) "DateVale$State" "month" "[I") ∈ lw_all := lw_g (lw_at lw_m1 159 rfl) rfl
theorem q272 : (Jvm.Cond.fieldLink "DateVale$State" (34 : Nat) "DateVale$State" "date" "I") ∈ lw_all := lw_g (lw_at lw_m1 161 rfl) rfl
theorem q274 : (Jvm.Cond.fieldLink "DateVale$State" (38 : Nat) "DateVale$State" "year" "I") ∈ lw_all := lw_g (lw_at lw_m1 163 rfl) rfl
theorem q276 : (Jvm.Cond.fieldLink "DateVale$State" (41 : Nat) "DateVale$State" "refused" "I") ∈ lw_all := lw_g (lw_at lw_m1 165 rfl) rfl
theorem q278 : (Jvm.Cond.laysFinal "DateVale$State" "DateVale$State" "beds" "[I") ∈ lw_all := lw_g (lw_at lw_m1 167 rfl) rfl
theorem q279 : (Jvm.Cond.soleField "DateVale$State" "beds") ∈ lw_all := lw_g (lw_at lw_m1 168 rfl) rfl
theorem q280 : (Jvm.Cond.laysFinal "DateVale$State" "DateVale$State" "says" "[I") ∈ lw_all := lw_g (lw_at lw_m1 169 rfl) rfl
theorem q281 : (Jvm.Cond.soleField "DateVale$State" "says") ∈ lw_all := lw_g (lw_at lw_m1 170 rfl) rfl
theorem q282 : (Jvm.Cond.laysFinal "DateVale$State" "DateVale$State" "where" "[I") ∈ lw_all := lw_g (lw_at lw_m1 171 rfl) rfl
theorem q283 : (Jvm.Cond.soleField "DateVale$State" "where") ∈ lw_all := lw_g (lw_at lw_m1 172 rfl) rfl
theorem q284 : (Jvm.Cond.laysFinal "DateVale$State" "DateVale$State" "been" "[I") ∈ lw_all := lw_g (lw_at lw_m1 173 rfl) rfl
theorem q285 : (Jvm.Cond.soleField "DateVale$State" "been") ∈ lw_all := lw_g (lw_at lw_m1 174 rfl) rfl
theorem q286 : (Jvm.Cond.laysFinal "DateVale$State" "DateVale$State" "times" "[I") ∈ lw_all := lw_g (lw_at lw_m1 175 rfl) rfl
theorem q287 : (Jvm.Cond.soleField "DateVale$State" "times") ∈ lw_all := lw_g (lw_at lw_m1 176 rfl) rfl
theorem q288 : (Jvm.Cond.laysFinal "DateVale$State" "DateVale$State" "month" "[I") ∈ lw_all := lw_g (lw_at lw_m1 177 rfl) rfl
theorem q289 : (Jvm.Cond.soleField "DateVale$State" "month") ∈ lw_all := lw_g (lw_at lw_m1 178 rfl) rfl
theorem q290 : (Jvm.Cond.lays "DateVale$State" "DateVale$State" "date" "I") ∈ lw_all := lw_g (lw_at lw_m1 179 rfl) rfl
theorem q291 : (Jvm.Cond.soleField "DateVale$State" "date") ∈ lw_all := lw_g (lw_at lw_m1 180 rfl) rfl
theorem q292 : (Jvm.Cond.lays "DateVale$State" "DateVale$State" "year" "I") ∈ lw_all := lw_g (lw_at lw_m1 181 rfl) rfl
theorem q293 : (Jvm.Cond.soleField "DateVale$State" "year") ∈ lw_all := lw_g (lw_at lw_m1 182 rfl) rfl
theorem q294 : (Jvm.Cond.lays "DateVale$State" "DateVale$State" "refused" "I") ∈ lw_all := lw_g (lw_at lw_m1 183 rfl) rfl
theorem q295 : (Jvm.Cond.soleField "DateVale$State" "refused") ∈ lw_all := lw_g (lw_at lw_m1 184 rfl) rfl
theorem q296 : (Jvm.Cond.superclass "DateVale$State" "java/lang/Object") ∈ lw_all := lw_g (lw_at lw_m1 185 rfl) rfl
theorem q304 : (Jvm.Cond.instanceMethod ({ cls := "DateVale$State", name := "begin", desc := "(LDateVale$Vale;)V" } : Jvm.MethodName)) ∈ lw_all := lw_g (lw_at lw_m1 193 rfl) rfl
theorem q305 : (Jvm.Cond.selects "DateVale$State" ({ cls := "DateVale$State", name := "begin", desc := "(LDateVale$Vale;)V" } : Jvm.MethodName) ({ cls := "DateVale$State", name := "begin", desc := "(LDateVale$Vale;)V" } : Jvm.MethodName)) ∈ lw_all := lw_g (lw_at lw_m1 194 rfl) rfl
theorem q306 : (Jvm.Cond.code ({ cls := "DateVale$State", name := "begin", desc := "(LDateVale$Vale;)V" } : Jvm.MethodName) prog_18_method_3_code (4 : Nat) (Option.none : Option Jvm.ClassFile.FieldType)) ∈ lw_all := lw_g (lw_at lw_m1 195 rfl) rfl
theorem q307 : (Jvm.Cond.methodLink "DateVale$State" (50 : Nat) ({ cls := "java/util/ArrayList", name := "size", desc := "()I" } : Jvm.MethodName)) ∈ lw_all := lw_g (lw_at lw_m1 196 rfl) rfl
theorem q311 : (Jvm.Cond.methodLink "DateVale$State" (56 : Nat) ({ cls := "java/util/ArrayList", name := "get", desc := "(I)Ljava/lang/Object;" } : Jvm.MethodName)) ∈ lw_all := lw_g (lw_at lw_m1 200 rfl) rfl
theorem q325 : (Jvm.Cond.classLink "DateVale$State" (60 : Nat) "DateVale$Home") ∈ lw_all := lw_g (lw_at lw_m1 214 rfl) rfl
theorem q326 : (Jvm.Cond.classLink "DateVale$State" (67 : Nat) "DateVale$Guest") ∈ lw_all := lw_g (lw_at lw_m1 215 rfl) rfl
theorem q813 : (Jvm.Cond.fieldLinkNest "DateVale$State" (62 : Nat) "DateVale$Home" "beds" "I" "DateVale") ∈ lw_tbl := lw_at lw_m3 222 rfl
theorem q877 : (Jvm.Cond.selects "DateVale$State" ({ cls := "java/lang/Object", name := "getClass", desc := "()Ljava/lang/Class;" } : Jvm.MethodName) ({ cls := "java/lang/Object", name := "getClass", desc := "()Ljava/lang/Class;" } : Jvm.MethodName)) ∈ lw_all := lw_g (lw_at lw_m4 46 rfl) rfl
theorem q924 : (Jvm.Cond.fieldLink "DateVale$State" (71 : Nat) "DateVale$Guest" "month" "I") ∈ lw_all := lw_g (lw_at lw_m4 93 rfl) rfl
theorem q927 : (Jvm.Cond.fieldLink "DateVale$State" (69 : Nat) "DateVale$Guest" "says" "I") ∈ lw_all := lw_g (lw_at lw_m4 96 rfl) rfl
theorem q1160 : (Jvm.Cond.instanceMethod ({ cls := "DateVale$State", name := "in", desc := "(I)I" } : Jvm.MethodName)) ∈ lw_all := lw_g (lw_at lw_m5 89 rfl) rfl
theorem q1161 : (Jvm.Cond.selects "DateVale$State" ({ cls := "DateVale$State", name := "in", desc := "(I)I" } : Jvm.MethodName) ({ cls := "DateVale$State", name := "in", desc := "(I)I" } : Jvm.MethodName)) ∈ lw_all := lw_g (lw_at lw_m5 90 rfl) rfl
theorem q1162 : (Jvm.Cond.code ({ cls := "DateVale$State", name := "in", desc := "(I)I" } : Jvm.MethodName) prog_18_method_4_code (4 : Nat) (Option.some Jvm.ClassFile.FieldType.int)) ∈ lw_all := lw_g (lw_at lw_m5 91 rfl) rfl
theorem q1203 : (Jvm.Cond.instanceMethod ({ cls := "DateVale$State", name := "be", desc := "(LDateVale$State;)V" } : Jvm.MethodName)) ∈ lw_all := lw_g (lw_at lw_m5 132 rfl) rfl
theorem q1204 : (Jvm.Cond.selects "DateVale$State" ({ cls := "DateVale$State", name := "be", desc := "(LDateVale$State;)V" } : Jvm.MethodName) ({ cls := "DateVale$State", name := "be", desc := "(LDateVale$State;)V" } : Jvm.MethodName)) ∈ lw_all := lw_g (lw_at lw_m5 133 rfl) rfl
theorem q1205 : (Jvm.Cond.code ({ cls := "DateVale$State", name := "be", desc := "(LDateVale$State;)V" } : Jvm.MethodName) prog_18_method_2_code (2 : Nat) (Option.none : Option Jvm.ClassFile.FieldType)) ∈ lw_all := lw_g (lw_at lw_m5 134 rfl) rfl
theorem q1206 : (Jvm.Cond.methodLinkNest "DateVale$State" (30 : Nat) ({ cls := "DateVale", name := "copies", desc := "([I[I)V" } : Jvm.MethodName) "DateVale") ∈ lw_tbl := lw_at lw_m5 135 rfl
theorem q1218 : (Jvm.Cond.instanceMethod ({ cls := "DateVale$State", name := "goes", desc := "(I)V" } : Jvm.MethodName)) ∈ lw_all := lw_g (lw_at lw_m5 147 rfl) rfl
theorem q1219 : (Jvm.Cond.selects "DateVale$State" ({ cls := "DateVale$State", name := "goes", desc := "(I)V" } : Jvm.MethodName) ({ cls := "DateVale$State", name := "goes", desc := "(I)V" } : Jvm.MethodName)) ∈ lw_all := lw_g (lw_at lw_m5 148 rfl) rfl
theorem q1220 : (Jvm.Cond.code ({ cls := "DateVale$State", name := "goes", desc := "(I)V" } : Jvm.MethodName) prog_18_method_6_code (2 : Nat) (Option.none : Option Jvm.ClassFile.FieldType)) ∈ lw_all := lw_g (lw_at lw_m5 149 rfl) rfl
theorem q1334 : (Jvm.Cond.instanceMethod ({ cls := "DateVale$State", name := "somewhere", desc := "()I" } : Jvm.MethodName)) ∈ lw_all := lw_g (lw_at lw_m6 23 rfl) rfl
theorem q1335 : (Jvm.Cond.selects "DateVale$State" ({ cls := "DateVale$State", name := "somewhere", desc := "()I" } : Jvm.MethodName) ({ cls := "DateVale$State", name := "somewhere", desc := "()I" } : Jvm.MethodName)) ∈ lw_all := lw_g (lw_at lw_m6 24 rfl) rfl
theorem q1336 : (Jvm.Cond.code ({ cls := "DateVale$State", name := "somewhere", desc := "()I" } : Jvm.MethodName) prog_18_method_5_code (3 : Nat) (Option.some Jvm.ClassFile.FieldType.int)) ∈ lw_all := lw_g (lw_at lw_m6 25 rfl) rfl
theorem q2086 : (Jvm.Cond.castable "DateVale$State" "java/lang/Object") ∈ lw_tbl := lw_at lw_m9 55 rfl
theorem in_X4 : ∀ w ∈ wsX40, w ∈ lw_all := lw_in wsX40 [278, 280, 282, 284, 286, 288, 290, 292, 294] (by decide +kernel) (by decide +kernel)
/-! DateVale$Wrong -/
set_option maxRecDepth 100000
def RX6 : String := "DateVale$Wrong"
def TX6 : u_T := fun k => match k with
  | 0 => ("java/lang/Throwable", "cause", "Ljava/lang/Throwable;", false)
  | 1 => ("java/lang/Throwable", "stackTrace", "[Ljava/lang/StackTraceElement;", false)
  | 2 => ("java/lang/Throwable", "suppressedExceptions", "Ljava/util/List;", false)
  | 3 => ("java/lang/Throwable", "detailMessage", "Ljava/lang/String;", false)
  | 4 => ("java/lang/Throwable", "backtrace", "Ljava/lang/Object;", false)
  | 5 => ("java/lang/Throwable", "depth", "I", false)
  | _ => ("DateVale$Wrong", "fault", "I", true)
def tyX6 : Nat → FieldType := fun k => match k with
  | 0 => .object "java/lang/Throwable"
  | 1 => .array (.object "java/lang/StackTraceElement")
  | 2 => .object "java/util/List"
  | 3 => .object "java/lang/String"
  | 4 => .object "java/lang/Object"
  | 5 => .int
  | _ => .int
abbrev wsX60 : List Cond := u_ws RX6 TX6 7
theorem nmX6 : ∀ a, a < 7 → ∀ b, b < 7 → a ≠ b → (TX6 a).2.1 ≠ (TX6 b).2.1 := by decide +kernel
theorem tyX6_ok : ∀ k, k < 7 → parseFieldDescriptor (TX6 k).2.2.1 = some (tyX6 k) := by decide +kernel
abbrev cX6_init : ByteArray := prog_21_method_1_code
def yX6_init : MethodName := ⟨RX6, "<init>", "(II)V"⟩
def dkwX6_init_0 : List UInt8 := [42, 1, 1, 3, 3, 183, 0, 1, 42, 27, 16, 16, 28, 104, 96, 181, 0, 7, 177]
abbrev dktX6_init_0 : List UInt8 := dkwX6_init_0 ++ []
theorem dksX6_init_0 : cX6_init.data.toList.drop 0 = dktX6_init_0 := by decide +kernel
theorem dX6_init_0 : decode cX6_init 0 = .ok (.aload_n 0, 1) := dk_42 (dk_at dksX6_init_0 0 rfl rfl)
theorem dX6_init_1 : decode cX6_init 1 = .ok (.aconst_null, 1) := dk_1 (dk_at dksX6_init_0 1 rfl rfl)
theorem dX6_init_2 : decode cX6_init 2 = .ok (.aconst_null, 1) := dk_1 (dk_at dksX6_init_0 2 rfl rfl)
theorem dX6_init_3 : decode cX6_init 3 = .ok (.iconst 0, 1) := dk_3 (dk_at dksX6_init_0 3 rfl rfl)
theorem dX6_init_4 : decode cX6_init 4 = .ok (.iconst 0, 1) := dk_3 (dk_at dksX6_init_0 4 rfl rfl)
theorem dX6_init_5 : decode cX6_init 5 = .ok (.invokespecial 1, 3) := dk_183 0 1 (dk_at dksX6_init_0 5 rfl rfl)
theorem dX6_init_8 : decode cX6_init 8 = .ok (.aload_n 0, 1) := dk_42 (dk_at dksX6_init_0 8 rfl rfl)
theorem dX6_init_9 : decode cX6_init 9 = .ok (.iload_n 1, 1) := dk_27 (dk_at dksX6_init_0 9 rfl rfl)
theorem dX6_init_10 : decode cX6_init 10 = .ok (.bipush 16, 2) := dk_16 16 (dk_at dksX6_init_0 10 rfl rfl)
theorem dX6_init_12 : decode cX6_init 12 = .ok (.iload_n 2, 1) := dk_28 (dk_at dksX6_init_0 12 rfl rfl)
theorem dX6_init_13 : decode cX6_init 13 = .ok (.imul, 1) := dk_104 (dk_at dksX6_init_0 13 rfl rfl)
theorem dX6_init_14 : decode cX6_init 14 = .ok (.iadd, 1) := dk_96 (dk_at dksX6_init_0 14 rfl rfl)
theorem dX6_init_15 : decode cX6_init 15 = .ok (.putfield 7, 3) := dk_181 0 7 (dk_at dksX6_init_0 15 rfl rfl)
theorem dX6_init_18 : decode cX6_init 18 = .ok (.return_, 1) := dk_177 (dk_at dksX6_init_0 18 rfl rfl)
theorem q130 : (Jvm.Cond.initialized "DateVale$Wrong") ∈ lw_all := lw_g (lw_at lw_m1 19 rfl) rfl
theorem q545 : (Jvm.Cond.instantiable "DateVale$Wrong" (7 : Nat)) ∈ lw_all := lw_g (lw_at lw_m2 194 rfl) rfl
theorem q546 : (Jvm.Cond.castable "DateVale$Wrong" "DateVale$Wrong") ∈ lw_tbl := lw_at lw_m2 195 rfl
theorem q553 : (Jvm.Cond.selects "DateVale$Wrong" ({ cls := "java/lang/Throwable", name := "fillInStackTrace", desc := "(I)Ljava/lang/Throwable;" } : Jvm.MethodName) ({ cls := "java/lang/Throwable", name := "fillInStackTrace", desc := "(I)Ljava/lang/Throwable;" } : Jvm.MethodName)) ∈ lw_all := lw_g (lw_at lw_m2 202 rfl) rfl
theorem q554 : (Jvm.Cond.selects "DateVale$Wrong" ({ cls := "java/lang/Throwable", name := "fillInStackTrace", desc := "()Ljava/lang/Throwable;" } : Jvm.MethodName) ({ cls := "java/lang/Throwable", name := "fillInStackTrace", desc := "()Ljava/lang/Throwable;" } : Jvm.MethodName)) ∈ lw_all := lw_g (lw_at lw_m2 203 rfl) rfl
theorem q555 : (Jvm.Cond.lays "DateVale$Wrong" "java/lang/Throwable" "cause" "Ljava/lang/Throwable;") ∈ lw_all := lw_g (lw_at lw_m2 204 rfl) rfl
theorem q557 : (Jvm.Cond.lays "DateVale$Wrong" "java/lang/Throwable" "stackTrace" "[Ljava/lang/StackTraceElement;") ∈ lw_all := lw_g (lw_at lw_m2 206 rfl) rfl
theorem q559 : (Jvm.Cond.lays "DateVale$Wrong" "java/lang/Throwable" "suppressedExceptions" "Ljava/util/List;") ∈ lw_all := lw_g (lw_at lw_m2 208 rfl) rfl
theorem q561 : (Jvm.Cond.lays "DateVale$Wrong" "java/lang/Throwable" "detailMessage" "Ljava/lang/String;") ∈ lw_all := lw_g (lw_at lw_m2 210 rfl) rfl
theorem q563 : (Jvm.Cond.lays "DateVale$Wrong" "java/lang/Throwable" "backtrace" "Ljava/lang/Object;") ∈ lw_all := lw_g (lw_at lw_m2 212 rfl) rfl
theorem q585 : (Jvm.Cond.instanceMethod ({ cls := "DateVale$Wrong", name := "<init>", desc := "(II)V" } : Jvm.MethodName)) ∈ lw_all := lw_g (lw_at lw_m2 234 rfl) rfl
theorem q586 : (Jvm.Cond.code ({ cls := "DateVale$Wrong", name := "<init>", desc := "(II)V" } : Jvm.MethodName) prog_21_method_1_code (3 : Nat) (Option.none : Option Jvm.ClassFile.FieldType)) ∈ lw_all := lw_g (lw_at lw_m2 235 rfl) rfl
theorem q587 : (Jvm.Cond.methodLink "DateVale$Wrong" (1 : Nat) ({ cls := "java/lang/RuntimeException", name := "<init>", desc := "(Ljava/lang/String;Ljava/lang/Throwable;ZZ)V" } : Jvm.MethodName)) ∈ lw_all := lw_g (lw_at lw_m2 236 rfl) rfl
theorem q596 : (Jvm.Cond.fieldLink "DateVale$Wrong" (7 : Nat) "DateVale$Wrong" "fault" "I") ∈ lw_all := lw_g (lw_at lw_m3 5 rfl) rfl
theorem q603 : (Jvm.Cond.laysFinal "DateVale$Wrong" "DateVale$Wrong" "fault" "I") ∈ lw_all := lw_g (lw_at lw_m3 12 rfl) rfl
theorem q604 : (Jvm.Cond.soleField "DateVale$Wrong" "fault") ∈ lw_all := lw_g (lw_at lw_m3 13 rfl) rfl
theorem q609 : (Jvm.Cond.lays "DateVale$Wrong" "java/lang/Throwable" "depth" "I") ∈ lw_all := lw_g (lw_at lw_m3 18 rfl) rfl
theorem q612 : (Jvm.Cond.superclass "DateVale$Wrong" "java/lang/RuntimeException") ∈ lw_all := lw_g (lw_at lw_m3 21 rfl) rfl
theorem q880 : (Jvm.Cond.selects "DateVale$Wrong" ({ cls := "java/lang/Object", name := "getClass", desc := "()Ljava/lang/Class;" } : Jvm.MethodName) ({ cls := "java/lang/Object", name := "getClass", desc := "()Ljava/lang/Class;" } : Jvm.MethodName)) ∈ lw_all := lw_g (lw_at lw_m4 49 rfl) rfl
theorem q2093 : (Jvm.Cond.castable "DateVale$Wrong" "java/lang/Object") ∈ lw_tbl := lw_at lw_m9 62 rfl
theorem in_X6 : ∀ w ∈ wsX60, w ∈ lw_all := lw_in wsX60 [555, 557, 559, 561, 563, 609, 603] (by decide +kernel) (by decide +kernel)
/-! DateVale$Home -/
set_option maxRecDepth 100000
def RX7 : String := "DateVale$Home"
def TX7 : u_T := fun k => match k with
  | 0 => ("DateVale$Home", "name", "Ljava/lang/String;", true)
  | 1 => ("DateVale$Home", "beds", "I", false)
  | _ => ("DateVale$Home", "lends", "I", false)
def tyX7 : Nat → FieldType := fun k => match k with
  | 0 => .object "java/lang/String"
  | 1 => .int
  | _ => .int
abbrev wsX70 : List Cond := u_ws RX7 TX7 3
theorem nmX7 : ∀ a, a < 3 → ∀ b, b < 3 → a ≠ b → (TX7 a).2.1 ≠ (TX7 b).2.1 := by decide +kernel
theorem tyX7_ok : ∀ k, k < 3 → parseFieldDescriptor (TX7 k).2.2.1 = some (tyX7 k) := by decide +kernel
abbrev cX7_init : ByteArray := prog_9_method_1_code
def yX7_init : MethodName := ⟨RX7, "<init>", "(Ljava/lang/String;)V"⟩
def dkwX7_init_0 : List UInt8 := [42, 183, 0, 1, 42, 43, 181, 0, 7, 177]
abbrev dktX7_init_0 : List UInt8 := dkwX7_init_0 ++ []
theorem dksX7_init_0 : cX7_init.data.toList.drop 0 = dktX7_init_0 := by decide +kernel
theorem dX7_init_0 : decode cX7_init 0 = .ok (.aload_n 0, 1) := dk_42 (dk_at dksX7_init_0 0 rfl rfl)
theorem dX7_init_1 : decode cX7_init 1 = .ok (.invokespecial 1, 3) := dk_183 0 1 (dk_at dksX7_init_0 1 rfl rfl)
theorem dX7_init_4 : decode cX7_init 4 = .ok (.aload_n 0, 1) := dk_42 (dk_at dksX7_init_0 4 rfl rfl)
theorem dX7_init_5 : decode cX7_init 5 = .ok (.aload_n 1, 1) := dk_43 (dk_at dksX7_init_0 5 rfl rfl)
theorem dX7_init_6 : decode cX7_init 6 = .ok (.putfield 7, 3) := dk_181 0 7 (dk_at dksX7_init_0 6 rfl rfl)
theorem dX7_init_9 : decode cX7_init 9 = .ok (.return_, 1) := dk_177 (dk_at dksX7_init_0 9 rfl rfl)
theorem q131 : (Jvm.Cond.initialized "DateVale$Home") ∈ lw_all := lw_g (lw_at lw_m1 20 rfl) rfl
theorem q619 : (Jvm.Cond.instantiable "DateVale$Home" (3 : Nat)) ∈ lw_all := lw_g (lw_at lw_m3 28 rfl) rfl
theorem q808 : (Jvm.Cond.instanceMethod ({ cls := "DateVale$Home", name := "<init>", desc := "(Ljava/lang/String;)V" } : Jvm.MethodName)) ∈ lw_all := lw_g (lw_at lw_m3 217 rfl) rfl
theorem q809 : (Jvm.Cond.code ({ cls := "DateVale$Home", name := "<init>", desc := "(Ljava/lang/String;)V" } : Jvm.MethodName) prog_9_method_1_code (2 : Nat) (Option.none : Option Jvm.ClassFile.FieldType)) ∈ lw_all := lw_g (lw_at lw_m3 218 rfl) rfl
theorem q810 : (Jvm.Cond.methodLink "DateVale$Home" (1 : Nat) ({ cls := "java/lang/Object", name := "<init>", desc := "()V" } : Jvm.MethodName)) ∈ lw_all := lw_g (lw_at lw_m3 219 rfl) rfl
theorem q811 : (Jvm.Cond.fieldLink "DateVale$Home" (7 : Nat) "DateVale$Home" "name" "Ljava/lang/String;") ∈ lw_all := lw_g (lw_at lw_m3 220 rfl) rfl
theorem q817 : (Jvm.Cond.laysFinal "DateVale$Home" "DateVale$Home" "name" "Ljava/lang/String;") ∈ lw_all := lw_g (lw_at lw_m3 226 rfl) rfl
theorem q818 : (Jvm.Cond.soleField "DateVale$Home" "name") ∈ lw_all := lw_g (lw_at lw_m3 227 rfl) rfl
theorem q819 : (Jvm.Cond.lays "DateVale$Home" "DateVale$Home" "beds" "I") ∈ lw_all := lw_g (lw_at lw_m3 228 rfl) rfl
theorem q820 : (Jvm.Cond.soleField "DateVale$Home" "beds") ∈ lw_all := lw_g (lw_at lw_m3 229 rfl) rfl
theorem q821 : (Jvm.Cond.lays "DateVale$Home" "DateVale$Home" "lends" "I") ∈ lw_all := lw_g (lw_at lw_m3 230 rfl) rfl
theorem q822 : (Jvm.Cond.soleField "DateVale$Home" "lends") ∈ lw_all := lw_g (lw_at lw_m3 231 rfl) rfl
theorem q823 : (Jvm.Cond.superclass "DateVale$Home" "java/lang/Object") ∈ lw_all := lw_g (lw_at lw_m3 232 rfl) rfl
theorem q869 : (Jvm.Cond.selects "DateVale$Home" ({ cls := "java/lang/Object", name := "getClass", desc := "()Ljava/lang/Class;" } : Jvm.MethodName) ({ cls := "java/lang/Object", name := "getClass", desc := "()Ljava/lang/Class;" } : Jvm.MethodName)) ∈ lw_all := lw_g (lw_at lw_m4 38 rfl) rfl
theorem q2094 : (Jvm.Cond.castable "DateVale$Home" "java/lang/Object") ∈ lw_tbl := lw_at lw_m9 63 rfl
theorem in_X7 : ∀ w ∈ wsX70, w ∈ lw_all := lw_in wsX70 [817, 819, 821] (by decide +kernel) (by decide +kernel)
/-! DateVale$Guest -/
set_option maxRecDepth 100000
def RX8 : String := "DateVale$Guest"
def TX8 : u_T := fun k => match k with
  | 0 => ("DateVale$Guest", "name", "Ljava/lang/String;", true)
  | 1 => ("DateVale$Guest", "house", "I", false)
  | 2 => ("DateVale$Guest", "month", "I", false)
  | 3 => ("DateVale$Guest", "says", "I", false)
  | _ => ("DateVale$Guest", "foes", "I", false)
def tyX8 : Nat → FieldType := fun k => match k with
  | 0 => .object "java/lang/String"
  | 1 => .int
  | 2 => .int
  | 3 => .int
  | _ => .int
abbrev wsX80 : List Cond := u_ws RX8 TX8 5
theorem nmX8 : ∀ a, a < 5 → ∀ b, b < 5 → a ≠ b → (TX8 a).2.1 ≠ (TX8 b).2.1 := by decide +kernel
theorem tyX8_ok : ∀ k, k < 5 → parseFieldDescriptor (TX8 k).2.2.1 = some (tyX8 k) := by decide +kernel
abbrev cX8_init : ByteArray := prog_8_method_1_code
def yX8_init : MethodName := ⟨RX8, "<init>", "(Ljava/lang/String;)V"⟩
def dkwX8_init_0 : List UInt8 := [42, 183, 0, 1, 42, 43, 181, 0, 7, 177]
abbrev dktX8_init_0 : List UInt8 := dkwX8_init_0 ++ []
theorem dksX8_init_0 : cX8_init.data.toList.drop 0 = dktX8_init_0 := by decide +kernel
theorem dX8_init_0 : decode cX8_init 0 = .ok (.aload_n 0, 1) := dk_42 (dk_at dksX8_init_0 0 rfl rfl)
theorem dX8_init_1 : decode cX8_init 1 = .ok (.invokespecial 1, 3) := dk_183 0 1 (dk_at dksX8_init_0 1 rfl rfl)
theorem dX8_init_4 : decode cX8_init 4 = .ok (.aload_n 0, 1) := dk_42 (dk_at dksX8_init_0 4 rfl rfl)
theorem dX8_init_5 : decode cX8_init 5 = .ok (.aload_n 1, 1) := dk_43 (dk_at dksX8_init_0 5 rfl rfl)
theorem dX8_init_6 : decode cX8_init 6 = .ok (.putfield 7, 3) := dk_181 0 7 (dk_at dksX8_init_0 6 rfl rfl)
theorem dX8_init_9 : decode cX8_init 9 = .ok (.return_, 1) := dk_177 (dk_at dksX8_init_0 9 rfl rfl)
abbrev cX8_beds : ByteArray := prog_8_method_3_code
def yX8_beds : MethodName := ⟨RX8, "beds", "()I"⟩
theorem dX8_beds_0 : decode cX8_beds 0 = .ok (.iconst 1, 1) := by decide +kernel
theorem dX8_beds_1 : decode cX8_beds 1 = .ok (.ireturn, 1) := by decide +kernel
abbrev cX8_kind : ByteArray := prog_8_method_2_code
def yX8_kind : MethodName := ⟨RX8, "kind", "()I"⟩
theorem dX8_kind_0 : decode cX8_kind 0 = .ok (.iconst 0, 1) := by decide +kernel
theorem dX8_kind_1 : decode cX8_kind 1 = .ok (.ireturn, 1) := by decide +kernel
abbrev cX8_comes : ByteArray := prog_8_method_4_code
def yX8_comes : MethodName := ⟨RX8, "comes", "(III)Z"⟩
def dkwX8_comes_0 : List UInt8 := [27, 28, 160, 0, 7, 4, 167, 0, 4, 3, 172]
abbrev dktX8_comes_0 : List UInt8 := dkwX8_comes_0 ++ []
theorem dksX8_comes_0 : cX8_comes.data.toList.drop 0 = dktX8_comes_0 := by decide +kernel
theorem dX8_comes_0 : decode cX8_comes 0 = .ok (.iload_n 1, 1) := dk_27 (dk_at dksX8_comes_0 0 rfl rfl)
theorem dX8_comes_1 : decode cX8_comes 1 = .ok (.iload_n 2, 1) := dk_28 (dk_at dksX8_comes_0 1 rfl rfl)
theorem dX8_comes_2 : decode cX8_comes 2 = .ok (.if_icmp .ne 7, 3) := dk_160 0 7 (dk_at dksX8_comes_0 2 rfl rfl)
theorem dX8_comes_5 : decode cX8_comes 5 = .ok (.iconst 1, 1) := dk_4 (dk_at dksX8_comes_0 5 rfl rfl)
theorem dX8_comes_6 : decode cX8_comes 6 = .ok (.goto 4, 3) := dk_167 0 4 (dk_at dksX8_comes_0 6 rfl rfl)
theorem dX8_comes_9 : decode cX8_comes 9 = .ok (.iconst 0, 1) := dk_3 (dk_at dksX8_comes_0 9 rfl rfl)
theorem dX8_comes_10 : decode cX8_comes 10 = .ok (.ireturn, 1) := dk_172 (dk_at dksX8_comes_0 10 rfl rfl)
theorem q137 : (Jvm.Cond.initialized "DateVale$Guest") ∈ lw_all := lw_g (lw_at lw_m1 26 rfl) rfl
theorem q868 : (Jvm.Cond.selects "DateVale$Guest" ({ cls := "java/lang/Object", name := "getClass", desc := "()Ljava/lang/Class;" } : Jvm.MethodName) ({ cls := "java/lang/Object", name := "getClass", desc := "()Ljava/lang/Class;" } : Jvm.MethodName)) ∈ lw_all := lw_g (lw_at lw_m4 37 rfl) rfl
theorem q915 : (Jvm.Cond.instantiable "DateVale$Guest" (5 : Nat)) ∈ lw_all := lw_g (lw_at lw_m4 84 rfl) rfl
theorem q917 : (Jvm.Cond.instanceMethod ({ cls := "DateVale$Guest", name := "<init>", desc := "(Ljava/lang/String;)V" } : Jvm.MethodName)) ∈ lw_all := lw_g (lw_at lw_m4 86 rfl) rfl
theorem q918 : (Jvm.Cond.code ({ cls := "DateVale$Guest", name := "<init>", desc := "(Ljava/lang/String;)V" } : Jvm.MethodName) prog_8_method_1_code (2 : Nat) (Option.none : Option Jvm.ClassFile.FieldType)) ∈ lw_all := lw_g (lw_at lw_m4 87 rfl) rfl
theorem q919 : (Jvm.Cond.methodLink "DateVale$Guest" (1 : Nat) ({ cls := "java/lang/Object", name := "<init>", desc := "()V" } : Jvm.MethodName)) ∈ lw_all := lw_g (lw_at lw_m4 88 rfl) rfl
theorem q920 : (Jvm.Cond.fieldLink "DateVale$Guest" (7 : Nat) "DateVale$Guest" "name" "Ljava/lang/String;") ∈ lw_all := lw_g (lw_at lw_m4 89 rfl) rfl
theorem q931 : (Jvm.Cond.laysFinal "DateVale$Guest" "DateVale$Guest" "name" "Ljava/lang/String;") ∈ lw_all := lw_g (lw_at lw_m4 100 rfl) rfl
theorem q932 : (Jvm.Cond.soleField "DateVale$Guest" "name") ∈ lw_all := lw_g (lw_at lw_m4 101 rfl) rfl
theorem q933 : (Jvm.Cond.lays "DateVale$Guest" "DateVale$Guest" "house" "I") ∈ lw_all := lw_g (lw_at lw_m4 102 rfl) rfl
theorem q934 : (Jvm.Cond.soleField "DateVale$Guest" "house") ∈ lw_all := lw_g (lw_at lw_m4 103 rfl) rfl
theorem q935 : (Jvm.Cond.lays "DateVale$Guest" "DateVale$Guest" "month" "I") ∈ lw_all := lw_g (lw_at lw_m4 104 rfl) rfl
theorem q936 : (Jvm.Cond.soleField "DateVale$Guest" "month") ∈ lw_all := lw_g (lw_at lw_m4 105 rfl) rfl
theorem q937 : (Jvm.Cond.lays "DateVale$Guest" "DateVale$Guest" "says" "I") ∈ lw_all := lw_g (lw_at lw_m4 106 rfl) rfl
theorem q938 : (Jvm.Cond.soleField "DateVale$Guest" "says") ∈ lw_all := lw_g (lw_at lw_m4 107 rfl) rfl
theorem q939 : (Jvm.Cond.lays "DateVale$Guest" "DateVale$Guest" "foes" "I") ∈ lw_all := lw_g (lw_at lw_m4 108 rfl) rfl
theorem q940 : (Jvm.Cond.soleField "DateVale$Guest" "foes") ∈ lw_all := lw_g (lw_at lw_m4 109 rfl) rfl
theorem q941 : (Jvm.Cond.superclass "DateVale$Guest" "java/lang/Object") ∈ lw_all := lw_g (lw_at lw_m4 110 rfl) rfl
theorem q1150 : (Jvm.Cond.instanceMethod ({ cls := "DateVale$Guest", name := "beds", desc := "()I" } : Jvm.MethodName)) ∈ lw_all := lw_g (lw_at lw_m5 79 rfl) rfl
theorem q1151 : (Jvm.Cond.selects "DateVale$Guest" ({ cls := "DateVale$Guest", name := "beds", desc := "()I" } : Jvm.MethodName) ({ cls := "DateVale$Guest", name := "beds", desc := "()I" } : Jvm.MethodName)) ∈ lw_all := lw_g (lw_at lw_m5 80 rfl) rfl
theorem q1152 : (Jvm.Cond.sameMethod "DateVale$Guest" "DateVale$Guest" "beds" "()I") ∈ lw_all := lw_g (lw_at lw_m5 81 rfl) rfl
theorem q1158 : (Jvm.Cond.code ({ cls := "DateVale$Guest", name := "beds", desc := "()I" } : Jvm.MethodName) prog_8_method_3_code (1 : Nat) (Option.some Jvm.ClassFile.FieldType.int)) ∈ lw_all := lw_g (lw_at lw_m5 87 rfl) rfl
theorem q1181 : (Jvm.Cond.instanceMethod ({ cls := "DateVale$Guest", name := "kind", desc := "()I" } : Jvm.MethodName)) ∈ lw_all := lw_g (lw_at lw_m5 110 rfl) rfl
theorem q1182 : (Jvm.Cond.selects "DateVale$Guest" ({ cls := "DateVale$Guest", name := "kind", desc := "()I" } : Jvm.MethodName) ({ cls := "DateVale$Guest", name := "kind", desc := "()I" } : Jvm.MethodName)) ∈ lw_all := lw_g (lw_at lw_m5 111 rfl) rfl
theorem q1183 : (Jvm.Cond.sameMethod "DateVale$Guest" "DateVale$Guest" "kind" "()I") ∈ lw_all := lw_g (lw_at lw_m5 112 rfl) rfl
theorem q1193 : (Jvm.Cond.code ({ cls := "DateVale$Guest", name := "kind", desc := "()I" } : Jvm.MethodName) prog_8_method_2_code (1 : Nat) (Option.some Jvm.ClassFile.FieldType.int)) ∈ lw_all := lw_g (lw_at lw_m5 122 rfl) rfl
theorem q1222 : (Jvm.Cond.instanceMethod ({ cls := "DateVale$Guest", name := "comes", desc := "(III)Z" } : Jvm.MethodName)) ∈ lw_all := lw_g (lw_at lw_m5 151 rfl) rfl
theorem q1223 : (Jvm.Cond.selects "DateVale$Guest" ({ cls := "DateVale$Guest", name := "comes", desc := "(III)Z" } : Jvm.MethodName) ({ cls := "DateVale$Guest", name := "comes", desc := "(III)Z" } : Jvm.MethodName)) ∈ lw_all := lw_g (lw_at lw_m5 152 rfl) rfl
theorem q1224 : (Jvm.Cond.sameMethod "DateVale$Guest" "DateVale$Guest" "comes" "(III)Z") ∈ lw_all := lw_g (lw_at lw_m5 153 rfl) rfl
theorem q1232 : (Jvm.Cond.code ({ cls := "DateVale$Guest", name := "comes", desc := "(III)Z" } : Jvm.MethodName) prog_8_method_4_code (4 : Nat) (Option.some Jvm.ClassFile.FieldType.boolean)) ∈ lw_all := lw_g (lw_at lw_m5 161 rfl) rfl
theorem q2097 : (Jvm.Cond.castable "DateVale$Guest" "java/lang/Object") ∈ lw_tbl := lw_at lw_m9 66 rfl
theorem in_X8 : ∀ w ∈ wsX80, w ∈ lw_all := lw_in wsX80 [931, 933, 935, 937, 939] (by decide +kernel) (by decide +kernel)
/-! DateVale$Big -/
set_option maxRecDepth 100000
def RX9 : String := "DateVale$Big"
def TX9 : u_T := fun k => match k with
  | 0 => ("DateVale$Guest", "name", "Ljava/lang/String;", true)
  | 1 => ("DateVale$Guest", "house", "I", false)
  | 2 => ("DateVale$Guest", "month", "I", false)
  | 3 => ("DateVale$Guest", "says", "I", false)
  | _ => ("DateVale$Guest", "foes", "I", false)
def tyX9 : Nat → FieldType := fun k => match k with
  | 0 => .object "java/lang/String"
  | 1 => .int
  | 2 => .int
  | 3 => .int
  | _ => .int
abbrev wsX90 : List Cond := u_ws RX9 TX9 5
theorem nmX9 : ∀ a, a < 5 → ∀ b, b < 5 → a ≠ b → (TX9 a).2.1 ≠ (TX9 b).2.1 := by decide +kernel
theorem tyX9_ok : ∀ k, k < 5 → parseFieldDescriptor (TX9 k).2.2.1 = some (tyX9 k) := by decide +kernel
abbrev cX9_init : ByteArray := prog_2_method_1_code
def yX9_init : MethodName := ⟨RX9, "<init>", "(Ljava/lang/String;)V"⟩
def dkwX9_init_0 : List UInt8 := [42, 43, 183, 0, 1, 177]
abbrev dktX9_init_0 : List UInt8 := dkwX9_init_0 ++ []
theorem dksX9_init_0 : cX9_init.data.toList.drop 0 = dktX9_init_0 := by decide +kernel
theorem dX9_init_0 : decode cX9_init 0 = .ok (.aload_n 0, 1) := dk_42 (dk_at dksX9_init_0 0 rfl rfl)
theorem dX9_init_1 : decode cX9_init 1 = .ok (.aload_n 1, 1) := dk_43 (dk_at dksX9_init_0 1 rfl rfl)
theorem dX9_init_2 : decode cX9_init 2 = .ok (.invokespecial 1, 3) := dk_183 0 1 (dk_at dksX9_init_0 2 rfl rfl)
theorem dX9_init_5 : decode cX9_init 5 = .ok (.return_, 1) := dk_177 (dk_at dksX9_init_0 5 rfl rfl)
abbrev cX9_beds : ByteArray := prog_2_method_3_code
def yX9_beds : MethodName := ⟨RX9, "beds", "()I"⟩
theorem dX9_beds_0 : decode cX9_beds 0 = .ok (.iconst 2, 1) := by decide +kernel
theorem dX9_beds_1 : decode cX9_beds 1 = .ok (.ireturn, 1) := by decide +kernel
abbrev cX9_kind : ByteArray := prog_2_method_2_code
def yX9_kind : MethodName := ⟨RX9, "kind", "()I"⟩
theorem dX9_kind_0 : decode cX9_kind 0 = .ok (.iconst 1, 1) := by decide +kernel
theorem dX9_kind_1 : decode cX9_kind 1 = .ok (.ireturn, 1) := by decide +kernel
theorem q138 : (Jvm.Cond.initialized "DateVale$Big") ∈ lw_all := lw_g (lw_at lw_m1 27 rfl) rfl
theorem q863 : (Jvm.Cond.selects "DateVale$Big" ({ cls := "java/lang/Object", name := "getClass", desc := "()Ljava/lang/Class;" } : Jvm.MethodName) ({ cls := "java/lang/Object", name := "getClass", desc := "()Ljava/lang/Class;" } : Jvm.MethodName)) ∈ lw_all := lw_g (lw_at lw_m4 32 rfl) rfl
theorem q943 : (Jvm.Cond.instantiable "DateVale$Big" (5 : Nat)) ∈ lw_all := lw_g (lw_at lw_m4 112 rfl) rfl
theorem q945 : (Jvm.Cond.instanceMethod ({ cls := "DateVale$Big", name := "<init>", desc := "(Ljava/lang/String;)V" } : Jvm.MethodName)) ∈ lw_all := lw_g (lw_at lw_m4 114 rfl) rfl
theorem q946 : (Jvm.Cond.code ({ cls := "DateVale$Big", name := "<init>", desc := "(Ljava/lang/String;)V" } : Jvm.MethodName) prog_2_method_1_code (2 : Nat) (Option.none : Option Jvm.ClassFile.FieldType)) ∈ lw_all := lw_g (lw_at lw_m4 115 rfl) rfl
theorem q947 : (Jvm.Cond.methodLink "DateVale$Big" (1 : Nat) ({ cls := "DateVale$Guest", name := "<init>", desc := "(Ljava/lang/String;)V" } : Jvm.MethodName)) ∈ lw_all := lw_g (lw_at lw_m4 116 rfl) rfl
theorem q948 : (Jvm.Cond.laysFinal "DateVale$Big" "DateVale$Guest" "name" "Ljava/lang/String;") ∈ lw_all := lw_g (lw_at lw_m4 117 rfl) rfl
theorem q949 : (Jvm.Cond.lays "DateVale$Big" "DateVale$Guest" "house" "I") ∈ lw_all := lw_g (lw_at lw_m4 118 rfl) rfl
theorem q950 : (Jvm.Cond.lays "DateVale$Big" "DateVale$Guest" "month" "I") ∈ lw_all := lw_g (lw_at lw_m4 119 rfl) rfl
theorem q951 : (Jvm.Cond.lays "DateVale$Big" "DateVale$Guest" "says" "I") ∈ lw_all := lw_g (lw_at lw_m4 120 rfl) rfl
theorem q952 : (Jvm.Cond.lays "DateVale$Big" "DateVale$Guest" "foes" "I") ∈ lw_all := lw_g (lw_at lw_m4 121 rfl) rfl
theorem q953 : (Jvm.Cond.superclass "DateVale$Big" "DateVale$Guest") ∈ lw_all := lw_g (lw_at lw_m4 122 rfl) rfl
theorem q1153 : (Jvm.Cond.selects "DateVale$Big" ({ cls := "DateVale$Guest", name := "beds", desc := "()I" } : Jvm.MethodName) ({ cls := "DateVale$Big", name := "beds", desc := "()I" } : Jvm.MethodName)) ∈ lw_all := lw_g (lw_at lw_m5 82 rfl) rfl
theorem q1154 : (Jvm.Cond.instanceMethod ({ cls := "DateVale$Big", name := "beds", desc := "()I" } : Jvm.MethodName)) ∈ lw_all := lw_g (lw_at lw_m5 83 rfl) rfl
theorem q1155 : (Jvm.Cond.code ({ cls := "DateVale$Big", name := "beds", desc := "()I" } : Jvm.MethodName) prog_2_method_3_code (1 : Nat) (Option.some Jvm.ClassFile.FieldType.int)) ∈ lw_all := lw_g (lw_at lw_m5 84 rfl) rfl
theorem q1184 : (Jvm.Cond.selects "DateVale$Big" ({ cls := "DateVale$Guest", name := "kind", desc := "()I" } : Jvm.MethodName) ({ cls := "DateVale$Big", name := "kind", desc := "()I" } : Jvm.MethodName)) ∈ lw_all := lw_g (lw_at lw_m5 113 rfl) rfl
theorem q1185 : (Jvm.Cond.instanceMethod ({ cls := "DateVale$Big", name := "kind", desc := "()I" } : Jvm.MethodName)) ∈ lw_all := lw_g (lw_at lw_m5 114 rfl) rfl
theorem q1186 : (Jvm.Cond.code ({ cls := "DateVale$Big", name := "kind", desc := "()I" } : Jvm.MethodName) prog_2_method_2_code (1 : Nat) (Option.some Jvm.ClassFile.FieldType.int)) ∈ lw_all := lw_g (lw_at lw_m5 115 rfl) rfl
theorem q1225 : (Jvm.Cond.selects "DateVale$Big" ({ cls := "DateVale$Guest", name := "comes", desc := "(III)Z" } : Jvm.MethodName) ({ cls := "DateVale$Guest", name := "comes", desc := "(III)Z" } : Jvm.MethodName)) ∈ lw_all := lw_g (lw_at lw_m5 154 rfl) rfl
theorem q2079 : (Jvm.Cond.castable "DateVale$Big" "DateVale$Guest") ∈ lw_tbl := lw_at lw_m9 48 rfl
theorem q2098 : (Jvm.Cond.castable "DateVale$Big" "java/lang/Object") ∈ lw_tbl := lw_at lw_m9 67 rfl
theorem in_X9 : ∀ w ∈ wsX90, w ∈ lw_all := lw_in wsX90 [948, 949, 950, 951, 952] (by decide +kernel) (by decide +kernel)
/-! DateVale$Early -/
set_option maxRecDepth 100000
def RX10 : String := "DateVale$Early"
def TX10 : u_T := fun k => match k with
  | 0 => ("DateVale$Guest", "name", "Ljava/lang/String;", true)
  | 1 => ("DateVale$Guest", "house", "I", false)
  | 2 => ("DateVale$Guest", "month", "I", false)
  | 3 => ("DateVale$Guest", "says", "I", false)
  | _ => ("DateVale$Guest", "foes", "I", false)
def tyX10 : Nat → FieldType := fun k => match k with
  | 0 => .object "java/lang/String"
  | 1 => .int
  | 2 => .int
  | 3 => .int
  | _ => .int
abbrev wsX100 : List Cond := u_ws RX10 TX10 5
theorem nmX10 : ∀ a, a < 5 → ∀ b, b < 5 → a ≠ b → (TX10 a).2.1 ≠ (TX10 b).2.1 := by decide +kernel
theorem tyX10_ok : ∀ k, k < 5 → parseFieldDescriptor (TX10 k).2.2.1 = some (tyX10 k) := by decide +kernel
abbrev cX10_init : ByteArray := prog_4_method_1_code
def yX10_init : MethodName := ⟨RX10, "<init>", "(Ljava/lang/String;)V"⟩
def dkwX10_init_0 : List UInt8 := [42, 43, 183, 0, 3, 177]
abbrev dktX10_init_0 : List UInt8 := dkwX10_init_0 ++ []
theorem dksX10_init_0 : cX10_init.data.toList.drop 0 = dktX10_init_0 := by decide +kernel
theorem dX10_init_0 : decode cX10_init 0 = .ok (.aload_n 0, 1) := dk_42 (dk_at dksX10_init_0 0 rfl rfl)
theorem dX10_init_1 : decode cX10_init 1 = .ok (.aload_n 1, 1) := dk_43 (dk_at dksX10_init_0 1 rfl rfl)
theorem dX10_init_2 : decode cX10_init 2 = .ok (.invokespecial 3, 3) := dk_183 0 3 (dk_at dksX10_init_0 2 rfl rfl)
theorem dX10_init_5 : decode cX10_init 5 = .ok (.return_, 1) := dk_177 (dk_at dksX10_init_0 5 rfl rfl)
abbrev cX10_kind : ByteArray := prog_4_method_2_code
def yX10_kind : MethodName := ⟨RX10, "kind", "()I"⟩
theorem dX10_kind_0 : decode cX10_kind 0 = .ok (.iconst 2, 1) := by decide +kernel
theorem dX10_kind_1 : decode cX10_kind 1 = .ok (.ireturn, 1) := by decide +kernel
abbrev cX10_comes : ByteArray := prog_4_method_3_code
def yX10_comes : MethodName := ⟨RX10, "comes", "(III)Z"⟩
def dkwX10_comes_0 : List UInt8 := [27, 28, 4, 96, 16, 12, 112, 160, 0, 7, 4, 167, 0, 4, 3, 172]
abbrev dktX10_comes_0 : List UInt8 := dkwX10_comes_0 ++ []
theorem dksX10_comes_0 : cX10_comes.data.toList.drop 0 = dktX10_comes_0 := by decide +kernel
theorem dX10_comes_0 : decode cX10_comes 0 = .ok (.iload_n 1, 1) := dk_27 (dk_at dksX10_comes_0 0 rfl rfl)
theorem dX10_comes_1 : decode cX10_comes 1 = .ok (.iload_n 2, 1) := dk_28 (dk_at dksX10_comes_0 1 rfl rfl)
theorem dX10_comes_2 : decode cX10_comes 2 = .ok (.iconst 1, 1) := dk_4 (dk_at dksX10_comes_0 2 rfl rfl)
theorem dX10_comes_3 : decode cX10_comes 3 = .ok (.iadd, 1) := dk_96 (dk_at dksX10_comes_0 3 rfl rfl)
theorem dX10_comes_4 : decode cX10_comes 4 = .ok (.bipush 12, 2) := dk_16 12 (dk_at dksX10_comes_0 4 rfl rfl)
theorem dX10_comes_6 : decode cX10_comes 6 = .ok (.irem, 1) := dk_112 (dk_at dksX10_comes_0 6 rfl rfl)
theorem dX10_comes_7 : decode cX10_comes 7 = .ok (.if_icmp .ne 7, 3) := dk_160 0 7 (dk_at dksX10_comes_0 7 rfl rfl)
theorem dX10_comes_10 : decode cX10_comes 10 = .ok (.iconst 1, 1) := dk_4 (dk_at dksX10_comes_0 10 rfl rfl)
theorem dX10_comes_11 : decode cX10_comes 11 = .ok (.goto 4, 3) := dk_167 0 4 (dk_at dksX10_comes_0 11 rfl rfl)
theorem dX10_comes_14 : decode cX10_comes 14 = .ok (.iconst 0, 1) := dk_3 (dk_at dksX10_comes_0 14 rfl rfl)
theorem dX10_comes_15 : decode cX10_comes 15 = .ok (.ireturn, 1) := dk_172 (dk_at dksX10_comes_0 15 rfl rfl)
theorem q139 : (Jvm.Cond.initialized "DateVale$Early") ∈ lw_all := lw_g (lw_at lw_m1 28 rfl) rfl
theorem q865 : (Jvm.Cond.selects "DateVale$Early" ({ cls := "java/lang/Object", name := "getClass", desc := "()Ljava/lang/Class;" } : Jvm.MethodName) ({ cls := "java/lang/Object", name := "getClass", desc := "()Ljava/lang/Class;" } : Jvm.MethodName)) ∈ lw_all := lw_g (lw_at lw_m4 34 rfl) rfl
theorem q955 : (Jvm.Cond.instantiable "DateVale$Early" (5 : Nat)) ∈ lw_all := lw_g (lw_at lw_m4 124 rfl) rfl
theorem q957 : (Jvm.Cond.instanceMethod ({ cls := "DateVale$Early", name := "<init>", desc := "(Ljava/lang/String;)V" } : Jvm.MethodName)) ∈ lw_all := lw_g (lw_at lw_m4 126 rfl) rfl
theorem q958 : (Jvm.Cond.code ({ cls := "DateVale$Early", name := "<init>", desc := "(Ljava/lang/String;)V" } : Jvm.MethodName) prog_4_method_1_code (2 : Nat) (Option.none : Option Jvm.ClassFile.FieldType)) ∈ lw_all := lw_g (lw_at lw_m4 127 rfl) rfl
theorem q959 : (Jvm.Cond.methodLink "DateVale$Early" (3 : Nat) ({ cls := "DateVale$Guest", name := "<init>", desc := "(Ljava/lang/String;)V" } : Jvm.MethodName)) ∈ lw_all := lw_g (lw_at lw_m4 128 rfl) rfl
theorem q960 : (Jvm.Cond.laysFinal "DateVale$Early" "DateVale$Guest" "name" "Ljava/lang/String;") ∈ lw_all := lw_g (lw_at lw_m4 129 rfl) rfl
theorem q961 : (Jvm.Cond.lays "DateVale$Early" "DateVale$Guest" "house" "I") ∈ lw_all := lw_g (lw_at lw_m4 130 rfl) rfl
theorem q962 : (Jvm.Cond.lays "DateVale$Early" "DateVale$Guest" "month" "I") ∈ lw_all := lw_g (lw_at lw_m4 131 rfl) rfl
theorem q963 : (Jvm.Cond.lays "DateVale$Early" "DateVale$Guest" "says" "I") ∈ lw_all := lw_g (lw_at lw_m4 132 rfl) rfl
theorem q964 : (Jvm.Cond.lays "DateVale$Early" "DateVale$Guest" "foes" "I") ∈ lw_all := lw_g (lw_at lw_m4 133 rfl) rfl
theorem q965 : (Jvm.Cond.superclass "DateVale$Early" "DateVale$Guest") ∈ lw_all := lw_g (lw_at lw_m4 134 rfl) rfl
theorem q1156 : (Jvm.Cond.selects "DateVale$Early" ({ cls := "DateVale$Guest", name := "beds", desc := "()I" } : Jvm.MethodName) ({ cls := "DateVale$Guest", name := "beds", desc := "()I" } : Jvm.MethodName)) ∈ lw_all := lw_g (lw_at lw_m5 85 rfl) rfl
theorem q1187 : (Jvm.Cond.selects "DateVale$Early" ({ cls := "DateVale$Guest", name := "kind", desc := "()I" } : Jvm.MethodName) ({ cls := "DateVale$Early", name := "kind", desc := "()I" } : Jvm.MethodName)) ∈ lw_all := lw_g (lw_at lw_m5 116 rfl) rfl
theorem q1188 : (Jvm.Cond.instanceMethod ({ cls := "DateVale$Early", name := "kind", desc := "()I" } : Jvm.MethodName)) ∈ lw_all := lw_g (lw_at lw_m5 117 rfl) rfl
theorem q1189 : (Jvm.Cond.code ({ cls := "DateVale$Early", name := "kind", desc := "()I" } : Jvm.MethodName) prog_4_method_2_code (1 : Nat) (Option.some Jvm.ClassFile.FieldType.int)) ∈ lw_all := lw_g (lw_at lw_m5 118 rfl) rfl
theorem q1226 : (Jvm.Cond.selects "DateVale$Early" ({ cls := "DateVale$Guest", name := "comes", desc := "(III)Z" } : Jvm.MethodName) ({ cls := "DateVale$Early", name := "comes", desc := "(III)Z" } : Jvm.MethodName)) ∈ lw_all := lw_g (lw_at lw_m5 155 rfl) rfl
theorem q1227 : (Jvm.Cond.instanceMethod ({ cls := "DateVale$Early", name := "comes", desc := "(III)Z" } : Jvm.MethodName)) ∈ lw_all := lw_g (lw_at lw_m5 156 rfl) rfl
theorem q1228 : (Jvm.Cond.code ({ cls := "DateVale$Early", name := "comes", desc := "(III)Z" } : Jvm.MethodName) prog_4_method_3_code (4 : Nat) (Option.some Jvm.ClassFile.FieldType.boolean)) ∈ lw_all := lw_g (lw_at lw_m5 157 rfl) rfl
theorem q2080 : (Jvm.Cond.castable "DateVale$Early" "DateVale$Guest") ∈ lw_tbl := lw_at lw_m9 49 rfl
theorem q2099 : (Jvm.Cond.castable "DateVale$Early" "java/lang/Object") ∈ lw_tbl := lw_at lw_m9 68 rfl
theorem in_X10 : ∀ w ∈ wsX100, w ∈ lw_all := lw_in wsX100 [960, 961, 962, 963, 964] (by decide +kernel) (by decide +kernel)
/-! DateVale$Leap -/
set_option maxRecDepth 100000
def RX11 : String := "DateVale$Leap"
def TX11 : u_T := fun k => match k with
  | 0 => ("DateVale$Guest", "name", "Ljava/lang/String;", true)
  | 1 => ("DateVale$Guest", "house", "I", false)
  | 2 => ("DateVale$Guest", "month", "I", false)
  | 3 => ("DateVale$Guest", "says", "I", false)
  | _ => ("DateVale$Guest", "foes", "I", false)
def tyX11 : Nat → FieldType := fun k => match k with
  | 0 => .object "java/lang/String"
  | 1 => .int
  | 2 => .int
  | 3 => .int
  | _ => .int
abbrev wsX110 : List Cond := u_ws RX11 TX11 5
theorem nmX11 : ∀ a, a < 5 → ∀ b, b < 5 → a ≠ b → (TX11 a).2.1 ≠ (TX11 b).2.1 := by decide +kernel
theorem tyX11_ok : ∀ k, k < 5 → parseFieldDescriptor (TX11 k).2.2.1 = some (tyX11 k) := by decide +kernel
abbrev cX11_init : ByteArray := prog_10_method_1_code
def yX11_init : MethodName := ⟨RX11, "<init>", "(Ljava/lang/String;)V"⟩
def dkwX11_init_0 : List UInt8 := [42, 43, 183, 0, 3, 177]
abbrev dktX11_init_0 : List UInt8 := dkwX11_init_0 ++ []
theorem dksX11_init_0 : cX11_init.data.toList.drop 0 = dktX11_init_0 := by decide +kernel
theorem dX11_init_0 : decode cX11_init 0 = .ok (.aload_n 0, 1) := dk_42 (dk_at dksX11_init_0 0 rfl rfl)
theorem dX11_init_1 : decode cX11_init 1 = .ok (.aload_n 1, 1) := dk_43 (dk_at dksX11_init_0 1 rfl rfl)
theorem dX11_init_2 : decode cX11_init 2 = .ok (.invokespecial 3, 3) := dk_183 0 3 (dk_at dksX11_init_0 2 rfl rfl)
theorem dX11_init_5 : decode cX11_init 5 = .ok (.return_, 1) := dk_177 (dk_at dksX11_init_0 5 rfl rfl)
abbrev cX11_kind : ByteArray := prog_10_method_2_code
def yX11_kind : MethodName := ⟨RX11, "kind", "()I"⟩
theorem dX11_kind_0 : decode cX11_kind 0 = .ok (.iconst 3, 1) := by decide +kernel
theorem dX11_kind_1 : decode cX11_kind 1 = .ok (.ireturn, 1) := by decide +kernel
abbrev cX11_comes : ByteArray := prog_10_method_3_code
def yX11_comes : MethodName := ⟨RX11, "comes", "(III)Z"⟩
def dkwX11_comes_0 : List UInt8 := [27, 28, 160, 0, 13, 29, 7, 112, 154, 0, 7, 4, 167, 0, 4, 3, 172]
abbrev dktX11_comes_0 : List UInt8 := dkwX11_comes_0 ++ []
theorem dksX11_comes_0 : cX11_comes.data.toList.drop 0 = dktX11_comes_0 := by decide +kernel
theorem dX11_comes_0 : decode cX11_comes 0 = .ok (.iload_n 1, 1) := dk_27 (dk_at dksX11_comes_0 0 rfl rfl)
theorem dX11_comes_1 : decode cX11_comes 1 = .ok (.iload_n 2, 1) := dk_28 (dk_at dksX11_comes_0 1 rfl rfl)
theorem dX11_comes_2 : decode cX11_comes 2 = .ok (.if_icmp .ne 13, 3) := dk_160 0 13 (dk_at dksX11_comes_0 2 rfl rfl)
theorem dX11_comes_5 : decode cX11_comes 5 = .ok (.iload_n 3, 1) := dk_29 (dk_at dksX11_comes_0 5 rfl rfl)
theorem dX11_comes_6 : decode cX11_comes 6 = .ok (.iconst 4, 1) := dk_7 (dk_at dksX11_comes_0 6 rfl rfl)
theorem dX11_comes_7 : decode cX11_comes 7 = .ok (.irem, 1) := dk_112 (dk_at dksX11_comes_0 7 rfl rfl)
theorem dX11_comes_8 : decode cX11_comes 8 = .ok (.ifCond .ne 7, 3) := dk_154 0 7 (dk_at dksX11_comes_0 8 rfl rfl)
theorem dX11_comes_11 : decode cX11_comes 11 = .ok (.iconst 1, 1) := dk_4 (dk_at dksX11_comes_0 11 rfl rfl)
theorem dX11_comes_12 : decode cX11_comes 12 = .ok (.goto 4, 3) := dk_167 0 4 (dk_at dksX11_comes_0 12 rfl rfl)
theorem dX11_comes_15 : decode cX11_comes 15 = .ok (.iconst 0, 1) := dk_3 (dk_at dksX11_comes_0 15 rfl rfl)
theorem dX11_comes_16 : decode cX11_comes 16 = .ok (.ireturn, 1) := dk_172 (dk_at dksX11_comes_0 16 rfl rfl)
theorem q140 : (Jvm.Cond.initialized "DateVale$Leap") ∈ lw_all := lw_g (lw_at lw_m1 29 rfl) rfl
theorem q870 : (Jvm.Cond.selects "DateVale$Leap" ({ cls := "java/lang/Object", name := "getClass", desc := "()Ljava/lang/Class;" } : Jvm.MethodName) ({ cls := "java/lang/Object", name := "getClass", desc := "()Ljava/lang/Class;" } : Jvm.MethodName)) ∈ lw_all := lw_g (lw_at lw_m4 39 rfl) rfl
theorem q967 : (Jvm.Cond.instantiable "DateVale$Leap" (5 : Nat)) ∈ lw_all := lw_g (lw_at lw_m4 136 rfl) rfl
theorem q969 : (Jvm.Cond.instanceMethod ({ cls := "DateVale$Leap", name := "<init>", desc := "(Ljava/lang/String;)V" } : Jvm.MethodName)) ∈ lw_all := lw_g (lw_at lw_m4 138 rfl) rfl
theorem q970 : (Jvm.Cond.code ({ cls := "DateVale$Leap", name := "<init>", desc := "(Ljava/lang/String;)V" } : Jvm.MethodName) prog_10_method_1_code (2 : Nat) (Option.none : Option Jvm.ClassFile.FieldType)) ∈ lw_all := lw_g (lw_at lw_m4 139 rfl) rfl
theorem q971 : (Jvm.Cond.methodLink "DateVale$Leap" (3 : Nat) ({ cls := "DateVale$Guest", name := "<init>", desc := "(Ljava/lang/String;)V" } : Jvm.MethodName)) ∈ lw_all := lw_g (lw_at lw_m4 140 rfl) rfl
theorem q972 : (Jvm.Cond.laysFinal "DateVale$Leap" "DateVale$Guest" "name" "Ljava/lang/String;") ∈ lw_all := lw_g (lw_at lw_m4 141 rfl) rfl
theorem q973 : (Jvm.Cond.lays "DateVale$Leap" "DateVale$Guest" "house" "I") ∈ lw_all := lw_g (lw_at lw_m4 142 rfl) rfl
theorem q974 : (Jvm.Cond.lays "DateVale$Leap" "DateVale$Guest" "month" "I") ∈ lw_all := lw_g (lw_at lw_m4 143 rfl) rfl
theorem q975 : (Jvm.Cond.lays "DateVale$Leap" "DateVale$Guest" "says" "I") ∈ lw_all := lw_g (lw_at lw_m4 144 rfl) rfl
theorem q976 : (Jvm.Cond.lays "DateVale$Leap" "DateVale$Guest" "foes" "I") ∈ lw_all := lw_g (lw_at lw_m4 145 rfl) rfl
theorem q977 : (Jvm.Cond.superclass "DateVale$Leap" "DateVale$Guest") ∈ lw_all := lw_g (lw_at lw_m4 146 rfl) rfl
theorem q1157 : (Jvm.Cond.selects "DateVale$Leap" ({ cls := "DateVale$Guest", name := "beds", desc := "()I" } : Jvm.MethodName) ({ cls := "DateVale$Guest", name := "beds", desc := "()I" } : Jvm.MethodName)) ∈ lw_all := lw_g (lw_at lw_m5 86 rfl) rfl
theorem q1190 : (Jvm.Cond.selects "DateVale$Leap" ({ cls := "DateVale$Guest", name := "kind", desc := "()I" } : Jvm.MethodName) ({ cls := "DateVale$Leap", name := "kind", desc := "()I" } : Jvm.MethodName)) ∈ lw_all := lw_g (lw_at lw_m5 119 rfl) rfl
theorem q1191 : (Jvm.Cond.instanceMethod ({ cls := "DateVale$Leap", name := "kind", desc := "()I" } : Jvm.MethodName)) ∈ lw_all := lw_g (lw_at lw_m5 120 rfl) rfl
theorem q1192 : (Jvm.Cond.code ({ cls := "DateVale$Leap", name := "kind", desc := "()I" } : Jvm.MethodName) prog_10_method_2_code (1 : Nat) (Option.some Jvm.ClassFile.FieldType.int)) ∈ lw_all := lw_g (lw_at lw_m5 121 rfl) rfl
theorem q1229 : (Jvm.Cond.selects "DateVale$Leap" ({ cls := "DateVale$Guest", name := "comes", desc := "(III)Z" } : Jvm.MethodName) ({ cls := "DateVale$Leap", name := "comes", desc := "(III)Z" } : Jvm.MethodName)) ∈ lw_all := lw_g (lw_at lw_m5 158 rfl) rfl
theorem q1230 : (Jvm.Cond.instanceMethod ({ cls := "DateVale$Leap", name := "comes", desc := "(III)Z" } : Jvm.MethodName)) ∈ lw_all := lw_g (lw_at lw_m5 159 rfl) rfl
theorem q1231 : (Jvm.Cond.code ({ cls := "DateVale$Leap", name := "comes", desc := "(III)Z" } : Jvm.MethodName) prog_10_method_3_code (4 : Nat) (Option.some Jvm.ClassFile.FieldType.boolean)) ∈ lw_all := lw_g (lw_at lw_m5 160 rfl) rfl
theorem q2081 : (Jvm.Cond.castable "DateVale$Leap" "DateVale$Guest") ∈ lw_tbl := lw_at lw_m9 50 rfl
theorem q2100 : (Jvm.Cond.castable "DateVale$Leap" "java/lang/Object") ∈ lw_tbl := lw_at lw_m9 69 rfl
theorem in_X11 : ∀ w ∈ wsX110, w ∈ lw_all := lw_in wsX110 [972, 973, 974, 975, 976] (by decide +kernel) (by decide +kernel)
/-! DateVale$Expression -/
set_option maxRecDepth 100000
def RX12 : String := "DateVale$Expression"
abbrev cX12_init : ByteArray := prog_5_method_1_code
def yX12_init : MethodName := ⟨RX12, "<init>", "()V"⟩
theorem dX12_init_0 : decode cX12_init 0 = .ok (.aload_n 0, 1) := by decide +kernel
theorem dX12_init_1 : decode cX12_init 1 = .ok (.invokespecial 1, 3) := by decide +kernel
theorem dX12_init_4 : decode cX12_init 4 = .ok (.return_, 1) := by decide +kernel
theorem q141 : (Jvm.Cond.initialized "DateVale$Expression") ∈ lw_all := lw_g (lw_at lw_m1 30 rfl) rfl
theorem q1013 : (Jvm.Cond.instanceMethod ({ cls := "DateVale$Expression", name := "<init>", desc := "()V" } : Jvm.MethodName)) ∈ lw_all := lw_g (lw_at lw_m4 182 rfl) rfl
theorem q1014 : (Jvm.Cond.code ({ cls := "DateVale$Expression", name := "<init>", desc := "()V" } : Jvm.MethodName) prog_5_method_1_code (1 : Nat) (Option.none : Option Jvm.ClassFile.FieldType)) ∈ lw_all := lw_g (lw_at lw_m4 183 rfl) rfl
theorem q1015 : (Jvm.Cond.methodLink "DateVale$Expression" (1 : Nat) ({ cls := "java/lang/Object", name := "<init>", desc := "()V" } : Jvm.MethodName)) ∈ lw_all := lw_g (lw_at lw_m4 184 rfl) rfl
theorem q1249 : (Jvm.Cond.declares ({ cls := "DateVale$Expression", name := "worked", desc := "([I)I" } : Jvm.MethodName)) ∈ lw_tbl := lw_at lw_m5 178 rfl
theorem q1250 : (Jvm.Cond.sameMethod "DateVale$Expression" "DateVale$Expression" "worked" "([I)I") ∈ lw_all := lw_g (lw_at lw_m5 179 rfl) rfl
/-! DateVale$Given -/
set_option maxRecDepth 100000
def RX13 : String := "DateVale$Given"
def TX13 : u_T := fun k => match k with
  | _ => ("DateVale$Given", "n", "I", true)
def tyX13 : Nat → FieldType := fun k => match k with
  | _ => .int
abbrev wsX130 : List Cond := u_ws RX13 TX13 1
theorem nmX13 : ∀ a, a < 1 → ∀ b, b < 1 → a ≠ b → (TX13 a).2.1 ≠ (TX13 b).2.1 := by decide +kernel
theorem tyX13_ok : ∀ k, k < 1 → parseFieldDescriptor (TX13 k).2.2.1 = some (tyX13 k) := by decide +kernel
abbrev cX13_init : ByteArray := prog_7_method_1_code
def yX13_init : MethodName := ⟨RX13, "<init>", "(I)V"⟩
def dkwX13_init_0 : List UInt8 := [42, 183, 0, 1, 42, 27, 181, 0, 7, 177]
abbrev dktX13_init_0 : List UInt8 := dkwX13_init_0 ++ []
theorem dksX13_init_0 : cX13_init.data.toList.drop 0 = dktX13_init_0 := by decide +kernel
theorem dX13_init_0 : decode cX13_init 0 = .ok (.aload_n 0, 1) := dk_42 (dk_at dksX13_init_0 0 rfl rfl)
theorem dX13_init_1 : decode cX13_init 1 = .ok (.invokespecial 1, 3) := dk_183 0 1 (dk_at dksX13_init_0 1 rfl rfl)
theorem dX13_init_4 : decode cX13_init 4 = .ok (.aload_n 0, 1) := dk_42 (dk_at dksX13_init_0 4 rfl rfl)
theorem dX13_init_5 : decode cX13_init 5 = .ok (.iload_n 1, 1) := dk_27 (dk_at dksX13_init_0 5 rfl rfl)
theorem dX13_init_6 : decode cX13_init 6 = .ok (.putfield 7, 3) := dk_181 0 7 (dk_at dksX13_init_0 6 rfl rfl)
theorem dX13_init_9 : decode cX13_init 9 = .ok (.return_, 1) := dk_177 (dk_at dksX13_init_0 9 rfl rfl)
abbrev cX13_worked : ByteArray := prog_7_method_2_code
def yX13_worked : MethodName := ⟨RX13, "worked", "([I)I"⟩
theorem dX13_worked_0 : decode cX13_worked 0 = .ok (.aload_n 0, 1) := by decide +kernel
theorem dX13_worked_1 : decode cX13_worked 1 = .ok (.getfield 7, 3) := by decide +kernel
theorem dX13_worked_4 : decode cX13_worked 4 = .ok (.ireturn, 1) := by decide +kernel
theorem q142 : (Jvm.Cond.initialized "DateVale$Given") ∈ lw_all := lw_g (lw_at lw_m1 31 rfl) rfl
theorem q867 : (Jvm.Cond.selects "DateVale$Given" ({ cls := "java/lang/Object", name := "getClass", desc := "()Ljava/lang/Class;" } : Jvm.MethodName) ({ cls := "java/lang/Object", name := "getClass", desc := "()Ljava/lang/Class;" } : Jvm.MethodName)) ∈ lw_all := lw_g (lw_at lw_m4 36 rfl) rfl
theorem q1008 : (Jvm.Cond.instantiable "DateVale$Given" (1 : Nat)) ∈ lw_all := lw_g (lw_at lw_m4 177 rfl) rfl
theorem q1010 : (Jvm.Cond.instanceMethod ({ cls := "DateVale$Given", name := "<init>", desc := "(I)V" } : Jvm.MethodName)) ∈ lw_all := lw_g (lw_at lw_m4 179 rfl) rfl
theorem q1011 : (Jvm.Cond.code ({ cls := "DateVale$Given", name := "<init>", desc := "(I)V" } : Jvm.MethodName) prog_7_method_1_code (2 : Nat) (Option.none : Option Jvm.ClassFile.FieldType)) ∈ lw_all := lw_g (lw_at lw_m4 180 rfl) rfl
theorem q1012 : (Jvm.Cond.methodLinkNest "DateVale$Given" (1 : Nat) ({ cls := "DateVale$Expression", name := "<init>", desc := "()V" } : Jvm.MethodName) "DateVale") ∈ lw_tbl := lw_at lw_m4 181 rfl
theorem q1016 : (Jvm.Cond.fieldLink "DateVale$Given" (7 : Nat) "DateVale$Given" "n" "I") ∈ lw_all := lw_g (lw_at lw_m4 185 rfl) rfl
theorem q1017 : (Jvm.Cond.laysFinal "DateVale$Given" "DateVale$Given" "n" "I") ∈ lw_all := lw_g (lw_at lw_m4 186 rfl) rfl
theorem q1018 : (Jvm.Cond.soleField "DateVale$Given" "n") ∈ lw_all := lw_g (lw_at lw_m4 187 rfl) rfl
theorem q1019 : (Jvm.Cond.superclass "DateVale$Given" "DateVale$Expression") ∈ lw_all := lw_g (lw_at lw_m4 188 rfl) rfl
theorem q1254 : (Jvm.Cond.selects "DateVale$Given" ({ cls := "DateVale$Expression", name := "worked", desc := "([I)I" } : Jvm.MethodName) ({ cls := "DateVale$Given", name := "worked", desc := "([I)I" } : Jvm.MethodName)) ∈ lw_all := lw_g (lw_at lw_m5 183 rfl) rfl
theorem q1255 : (Jvm.Cond.instanceMethod ({ cls := "DateVale$Given", name := "worked", desc := "([I)I" } : Jvm.MethodName)) ∈ lw_all := lw_g (lw_at lw_m5 184 rfl) rfl
theorem q1256 : (Jvm.Cond.code ({ cls := "DateVale$Given", name := "worked", desc := "([I)I" } : Jvm.MethodName) prog_7_method_2_code (2 : Nat) (Option.some Jvm.ClassFile.FieldType.int)) ∈ lw_all := lw_g (lw_at lw_m5 185 rfl) rfl
theorem q2101 : (Jvm.Cond.castable "DateVale$Given" "java/lang/Object") ∈ lw_tbl := lw_at lw_m9 70 rfl
theorem in_X13 : ∀ w ∈ wsX130, w ∈ lw_all := lw_in wsX130 [1017] (by decide +kernel) (by decide +kernel)
/-! DateVale$Fact -/
set_option maxRecDepth 100000
def RX14 : String := "DateVale$Fact"
def TX14 : u_T := fun k => match k with
  | _ => ("DateVale$Fact", "which", "I", true)
def tyX14 : Nat → FieldType := fun k => match k with
  | _ => .int
abbrev wsX140 : List Cond := u_ws RX14 TX14 1
theorem nmX14 : ∀ a, a < 1 → ∀ b, b < 1 → a ≠ b → (TX14 a).2.1 ≠ (TX14 b).2.1 := by decide +kernel
theorem tyX14_ok : ∀ k, k < 1 → parseFieldDescriptor (TX14 k).2.2.1 = some (tyX14 k) := by decide +kernel
abbrev cX14_init : ByteArray := prog_6_method_1_code
def yX14_init : MethodName := ⟨RX14, "<init>", "(I)V"⟩
def dkwX14_init_0 : List UInt8 := [42, 183, 0, 1, 42, 27, 181, 0, 7, 177]
abbrev dktX14_init_0 : List UInt8 := dkwX14_init_0 ++ []
theorem dksX14_init_0 : cX14_init.data.toList.drop 0 = dktX14_init_0 := by decide +kernel
theorem dX14_init_0 : decode cX14_init 0 = .ok (.aload_n 0, 1) := dk_42 (dk_at dksX14_init_0 0 rfl rfl)
theorem dX14_init_1 : decode cX14_init 1 = .ok (.invokespecial 1, 3) := dk_183 0 1 (dk_at dksX14_init_0 1 rfl rfl)
theorem dX14_init_4 : decode cX14_init 4 = .ok (.aload_n 0, 1) := dk_42 (dk_at dksX14_init_0 4 rfl rfl)
theorem dX14_init_5 : decode cX14_init 5 = .ok (.iload_n 1, 1) := dk_27 (dk_at dksX14_init_0 5 rfl rfl)
theorem dX14_init_6 : decode cX14_init 6 = .ok (.putfield 7, 3) := dk_181 0 7 (dk_at dksX14_init_0 6 rfl rfl)
theorem dX14_init_9 : decode cX14_init 9 = .ok (.return_, 1) := dk_177 (dk_at dksX14_init_0 9 rfl rfl)
abbrev cX14_worked : ByteArray := prog_6_method_2_code
def yX14_worked : MethodName := ⟨RX14, "worked", "([I)I"⟩
def dkwX14_worked_0 : List UInt8 := [43, 42, 180, 0, 7, 46, 172]
abbrev dktX14_worked_0 : List UInt8 := dkwX14_worked_0 ++ []
theorem dksX14_worked_0 : cX14_worked.data.toList.drop 0 = dktX14_worked_0 := by decide +kernel
theorem dX14_worked_0 : decode cX14_worked 0 = .ok (.aload_n 1, 1) := dk_43 (dk_at dksX14_worked_0 0 rfl rfl)
theorem dX14_worked_1 : decode cX14_worked 1 = .ok (.aload_n 0, 1) := dk_42 (dk_at dksX14_worked_0 1 rfl rfl)
theorem dX14_worked_2 : decode cX14_worked 2 = .ok (.getfield 7, 3) := dk_180 0 7 (dk_at dksX14_worked_0 2 rfl rfl)
theorem dX14_worked_5 : decode cX14_worked 5 = .ok (.iaload, 1) := dk_46 (dk_at dksX14_worked_0 5 rfl rfl)
theorem dX14_worked_6 : decode cX14_worked 6 = .ok (.ireturn, 1) := dk_172 (dk_at dksX14_worked_0 6 rfl rfl)
theorem q143 : (Jvm.Cond.initialized "DateVale$Fact") ∈ lw_all := lw_g (lw_at lw_m1 32 rfl) rfl
theorem q866 : (Jvm.Cond.selects "DateVale$Fact" ({ cls := "java/lang/Object", name := "getClass", desc := "()Ljava/lang/Class;" } : Jvm.MethodName) ({ cls := "java/lang/Object", name := "getClass", desc := "()Ljava/lang/Class;" } : Jvm.MethodName)) ∈ lw_all := lw_g (lw_at lw_m4 35 rfl) rfl
theorem q1021 : (Jvm.Cond.instantiable "DateVale$Fact" (1 : Nat)) ∈ lw_all := lw_g (lw_at lw_m4 190 rfl) rfl
theorem q1023 : (Jvm.Cond.instanceMethod ({ cls := "DateVale$Fact", name := "<init>", desc := "(I)V" } : Jvm.MethodName)) ∈ lw_all := lw_g (lw_at lw_m4 192 rfl) rfl
theorem q1024 : (Jvm.Cond.code ({ cls := "DateVale$Fact", name := "<init>", desc := "(I)V" } : Jvm.MethodName) prog_6_method_1_code (2 : Nat) (Option.none : Option Jvm.ClassFile.FieldType)) ∈ lw_all := lw_g (lw_at lw_m4 193 rfl) rfl
theorem q1025 : (Jvm.Cond.methodLinkNest "DateVale$Fact" (1 : Nat) ({ cls := "DateVale$Expression", name := "<init>", desc := "()V" } : Jvm.MethodName) "DateVale") ∈ lw_tbl := lw_at lw_m4 194 rfl
theorem q1026 : (Jvm.Cond.fieldLink "DateVale$Fact" (7 : Nat) "DateVale$Fact" "which" "I") ∈ lw_all := lw_g (lw_at lw_m4 195 rfl) rfl
theorem q1027 : (Jvm.Cond.laysFinal "DateVale$Fact" "DateVale$Fact" "which" "I") ∈ lw_all := lw_g (lw_at lw_m4 196 rfl) rfl
theorem q1028 : (Jvm.Cond.soleField "DateVale$Fact" "which") ∈ lw_all := lw_g (lw_at lw_m4 197 rfl) rfl
theorem q1029 : (Jvm.Cond.superclass "DateVale$Fact" "DateVale$Expression") ∈ lw_all := lw_g (lw_at lw_m4 198 rfl) rfl
theorem q1251 : (Jvm.Cond.selects "DateVale$Fact" ({ cls := "DateVale$Expression", name := "worked", desc := "([I)I" } : Jvm.MethodName) ({ cls := "DateVale$Fact", name := "worked", desc := "([I)I" } : Jvm.MethodName)) ∈ lw_all := lw_g (lw_at lw_m5 180 rfl) rfl
theorem q1252 : (Jvm.Cond.instanceMethod ({ cls := "DateVale$Fact", name := "worked", desc := "([I)I" } : Jvm.MethodName)) ∈ lw_all := lw_g (lw_at lw_m5 181 rfl) rfl
theorem q1253 : (Jvm.Cond.code ({ cls := "DateVale$Fact", name := "worked", desc := "([I)I" } : Jvm.MethodName) prog_6_method_2_code (2 : Nat) (Option.some Jvm.ClassFile.FieldType.int)) ∈ lw_all := lw_g (lw_at lw_m5 182 rfl) rfl
theorem q2102 : (Jvm.Cond.castable "DateVale$Fact" "java/lang/Object") ∈ lw_tbl := lw_at lw_m9 71 rfl
theorem in_X14 : ∀ w ∈ wsX140, w ∈ lw_all := lw_in wsX140 [1027] (by decide +kernel) (by decide +kernel)
/-! DateVale$Not -/
set_option maxRecDepth 100000
def RX15 : String := "DateVale$Not"
def TX15 : u_T := fun k => match k with
  | _ => ("DateVale$Not", "part", "LDateVale$Expression;", true)
def tyX15 : Nat → FieldType := fun k => match k with
  | _ => .object "DateVale$Expression"
abbrev wsX150 : List Cond := u_ws RX15 TX15 1
theorem nmX15 : ∀ a, a < 1 → ∀ b, b < 1 → a ≠ b → (TX15 a).2.1 ≠ (TX15 b).2.1 := by decide +kernel
theorem tyX15_ok : ∀ k, k < 1 → parseFieldDescriptor (TX15 k).2.2.1 = some (tyX15 k) := by decide +kernel
abbrev cX15_init : ByteArray := prog_14_method_1_code
def yX15_init : MethodName := ⟨RX15, "<init>", "(LDateVale$Expression;)V"⟩
def dkwX15_init_0 : List UInt8 := [42, 183, 0, 1, 42, 43, 181, 0, 7, 177]
abbrev dktX15_init_0 : List UInt8 := dkwX15_init_0 ++ []
theorem dksX15_init_0 : cX15_init.data.toList.drop 0 = dktX15_init_0 := by decide +kernel
theorem dX15_init_0 : decode cX15_init 0 = .ok (.aload_n 0, 1) := dk_42 (dk_at dksX15_init_0 0 rfl rfl)
theorem dX15_init_1 : decode cX15_init 1 = .ok (.invokespecial 1, 3) := dk_183 0 1 (dk_at dksX15_init_0 1 rfl rfl)
theorem dX15_init_4 : decode cX15_init 4 = .ok (.aload_n 0, 1) := dk_42 (dk_at dksX15_init_0 4 rfl rfl)
theorem dX15_init_5 : decode cX15_init 5 = .ok (.aload_n 1, 1) := dk_43 (dk_at dksX15_init_0 5 rfl rfl)
theorem dX15_init_6 : decode cX15_init 6 = .ok (.putfield 7, 3) := dk_181 0 7 (dk_at dksX15_init_0 6 rfl rfl)
theorem dX15_init_9 : decode cX15_init 9 = .ok (.return_, 1) := dk_177 (dk_at dksX15_init_0 9 rfl rfl)
abbrev cX15_worked : ByteArray := prog_14_method_2_code
def yX15_worked : MethodName := ⟨RX15, "worked", "([I)I"⟩
def dkwX15_worked_0 : List UInt8 := [42, 180, 0, 7, 43, 182, 0, 13, 154, 0, 7, 4, 167, 0, 4, 3, 172]
abbrev dktX15_worked_0 : List UInt8 := dkwX15_worked_0 ++ []
theorem dksX15_worked_0 : cX15_worked.data.toList.drop 0 = dktX15_worked_0 := by decide +kernel
theorem dX15_worked_0 : decode cX15_worked 0 = .ok (.aload_n 0, 1) := dk_42 (dk_at dksX15_worked_0 0 rfl rfl)
theorem dX15_worked_1 : decode cX15_worked 1 = .ok (.getfield 7, 3) := dk_180 0 7 (dk_at dksX15_worked_0 1 rfl rfl)
theorem dX15_worked_4 : decode cX15_worked 4 = .ok (.aload_n 1, 1) := dk_43 (dk_at dksX15_worked_0 4 rfl rfl)
theorem dX15_worked_5 : decode cX15_worked 5 = .ok (.invokevirtual 13, 3) := dk_182 0 13 (dk_at dksX15_worked_0 5 rfl rfl)
theorem dX15_worked_8 : decode cX15_worked 8 = .ok (.ifCond .ne 7, 3) := dk_154 0 7 (dk_at dksX15_worked_0 8 rfl rfl)
theorem dX15_worked_11 : decode cX15_worked 11 = .ok (.iconst 1, 1) := dk_4 (dk_at dksX15_worked_0 11 rfl rfl)
theorem dX15_worked_12 : decode cX15_worked 12 = .ok (.goto 4, 3) := dk_167 0 4 (dk_at dksX15_worked_0 12 rfl rfl)
theorem dX15_worked_15 : decode cX15_worked 15 = .ok (.iconst 0, 1) := dk_3 (dk_at dksX15_worked_0 15 rfl rfl)
theorem dX15_worked_16 : decode cX15_worked 16 = .ok (.ireturn, 1) := dk_172 (dk_at dksX15_worked_0 16 rfl rfl)
theorem q144 : (Jvm.Cond.initialized "DateVale$Not") ∈ lw_all := lw_g (lw_at lw_m1 33 rfl) rfl
theorem q873 : (Jvm.Cond.selects "DateVale$Not" ({ cls := "java/lang/Object", name := "getClass", desc := "()Ljava/lang/Class;" } : Jvm.MethodName) ({ cls := "java/lang/Object", name := "getClass", desc := "()Ljava/lang/Class;" } : Jvm.MethodName)) ∈ lw_all := lw_g (lw_at lw_m4 42 rfl) rfl
theorem q1031 : (Jvm.Cond.instantiable "DateVale$Not" (1 : Nat)) ∈ lw_all := lw_g (lw_at lw_m4 200 rfl) rfl
theorem q1033 : (Jvm.Cond.instanceMethod ({ cls := "DateVale$Not", name := "<init>", desc := "(LDateVale$Expression;)V" } : Jvm.MethodName)) ∈ lw_all := lw_g (lw_at lw_m4 202 rfl) rfl
theorem q1034 : (Jvm.Cond.code ({ cls := "DateVale$Not", name := "<init>", desc := "(LDateVale$Expression;)V" } : Jvm.MethodName) prog_14_method_1_code (2 : Nat) (Option.none : Option Jvm.ClassFile.FieldType)) ∈ lw_all := lw_g (lw_at lw_m4 203 rfl) rfl
theorem q1035 : (Jvm.Cond.methodLinkNest "DateVale$Not" (1 : Nat) ({ cls := "DateVale$Expression", name := "<init>", desc := "()V" } : Jvm.MethodName) "DateVale") ∈ lw_tbl := lw_at lw_m4 204 rfl
theorem q1036 : (Jvm.Cond.fieldLink "DateVale$Not" (7 : Nat) "DateVale$Not" "part" "LDateVale$Expression;") ∈ lw_all := lw_g (lw_at lw_m4 205 rfl) rfl
theorem q1037 : (Jvm.Cond.laysFinal "DateVale$Not" "DateVale$Not" "part" "LDateVale$Expression;") ∈ lw_all := lw_g (lw_at lw_m4 206 rfl) rfl
theorem q1038 : (Jvm.Cond.soleField "DateVale$Not" "part") ∈ lw_all := lw_g (lw_at lw_m4 207 rfl) rfl
theorem q1039 : (Jvm.Cond.superclass "DateVale$Not" "DateVale$Expression") ∈ lw_all := lw_g (lw_at lw_m4 208 rfl) rfl
theorem q1257 : (Jvm.Cond.selects "DateVale$Not" ({ cls := "DateVale$Expression", name := "worked", desc := "([I)I" } : Jvm.MethodName) ({ cls := "DateVale$Not", name := "worked", desc := "([I)I" } : Jvm.MethodName)) ∈ lw_all := lw_g (lw_at lw_m5 186 rfl) rfl
theorem q1258 : (Jvm.Cond.instanceMethod ({ cls := "DateVale$Not", name := "worked", desc := "([I)I" } : Jvm.MethodName)) ∈ lw_all := lw_g (lw_at lw_m5 187 rfl) rfl
theorem q1259 : (Jvm.Cond.code ({ cls := "DateVale$Not", name := "worked", desc := "([I)I" } : Jvm.MethodName) prog_14_method_2_code (2 : Nat) (Option.some Jvm.ClassFile.FieldType.int)) ∈ lw_all := lw_g (lw_at lw_m5 188 rfl) rfl
theorem q1260 : (Jvm.Cond.methodLink "DateVale$Not" (13 : Nat) ({ cls := "DateVale$Expression", name := "worked", desc := "([I)I" } : Jvm.MethodName)) ∈ lw_all := lw_g (lw_at lw_m5 189 rfl) rfl
theorem q2103 : (Jvm.Cond.castable "DateVale$Not" "java/lang/Object") ∈ lw_tbl := lw_at lw_m9 72 rfl
theorem in_X15 : ∀ w ∈ wsX150, w ∈ lw_all := lw_in wsX150 [1037] (by decide +kernel) (by decide +kernel)
/-! DateVale$Two -/
set_option maxRecDepth 100000
def RX16 : String := "DateVale$Two"
def TX16 : u_T := fun k => match k with
  | 0 => ("DateVale$Two", "way", "C", true)
  | 1 => ("DateVale$Two", "a", "LDateVale$Expression;", true)
  | _ => ("DateVale$Two", "b", "LDateVale$Expression;", true)
def tyX16 : Nat → FieldType := fun k => match k with
  | 0 => .char
  | 1 => .object "DateVale$Expression"
  | _ => .object "DateVale$Expression"
abbrev wsX160 : List Cond := u_ws RX16 TX16 3
theorem nmX16 : ∀ a, a < 3 → ∀ b, b < 3 → a ≠ b → (TX16 a).2.1 ≠ (TX16 b).2.1 := by decide +kernel
theorem tyX16_ok : ∀ k, k < 3 → parseFieldDescriptor (TX16 k).2.2.1 = some (tyX16 k) := by decide +kernel
abbrev cX16_init : ByteArray := prog_19_method_1_code
def yX16_init : MethodName := ⟨RX16, "<init>", "(CLDateVale$Expression;LDateVale$Expression;)V"⟩
def dkwX16_init_0 : List UInt8 := [42, 183, 0, 1, 42, 27, 181, 0, 7, 42, 44, 181, 0, 13, 42, 45, 181, 0, 17, 177]
abbrev dktX16_init_0 : List UInt8 := dkwX16_init_0 ++ []
theorem dksX16_init_0 : cX16_init.data.toList.drop 0 = dktX16_init_0 := by decide +kernel
theorem dX16_init_0 : decode cX16_init 0 = .ok (.aload_n 0, 1) := dk_42 (dk_at dksX16_init_0 0 rfl rfl)
theorem dX16_init_1 : decode cX16_init 1 = .ok (.invokespecial 1, 3) := dk_183 0 1 (dk_at dksX16_init_0 1 rfl rfl)
theorem dX16_init_4 : decode cX16_init 4 = .ok (.aload_n 0, 1) := dk_42 (dk_at dksX16_init_0 4 rfl rfl)
theorem dX16_init_5 : decode cX16_init 5 = .ok (.iload_n 1, 1) := dk_27 (dk_at dksX16_init_0 5 rfl rfl)
theorem dX16_init_6 : decode cX16_init 6 = .ok (.putfield 7, 3) := dk_181 0 7 (dk_at dksX16_init_0 6 rfl rfl)
theorem dX16_init_9 : decode cX16_init 9 = .ok (.aload_n 0, 1) := dk_42 (dk_at dksX16_init_0 9 rfl rfl)
theorem dX16_init_10 : decode cX16_init 10 = .ok (.aload_n 2, 1) := dk_44 (dk_at dksX16_init_0 10 rfl rfl)
theorem dX16_init_11 : decode cX16_init 11 = .ok (.putfield 13, 3) := dk_181 0 13 (dk_at dksX16_init_0 11 rfl rfl)
theorem dX16_init_14 : decode cX16_init 14 = .ok (.aload_n 0, 1) := dk_42 (dk_at dksX16_init_0 14 rfl rfl)
theorem dX16_init_15 : decode cX16_init 15 = .ok (.aload_n 3, 1) := dk_45 (dk_at dksX16_init_0 15 rfl rfl)
theorem dX16_init_16 : decode cX16_init 16 = .ok (.putfield 17, 3) := dk_181 0 17 (dk_at dksX16_init_0 16 rfl rfl)
theorem dX16_init_19 : decode cX16_init 19 = .ok (.return_, 1) := dk_177 (dk_at dksX16_init_0 19 rfl rfl)
abbrev cX16_worked : ByteArray := prog_19_method_2_code
def yX16_worked : MethodName := ⟨RX16, "worked", "([I)I"⟩
def dkwX16_worked_4 : List UInt8 := [28, 154, 0, 7, 29, 153, 0, 7, 4, 167, 0, 4, 3, 172]
abbrev dktX16_worked_4 : List UInt8 := dkwX16_worked_4 ++ []
def dkwX16_worked_3 : List UInt8 := [29, 160, 0, 7, 4, 167, 0, 4, 3, 172, 28, 153, 0, 11, 29, 153, 0, 7, 4, 167, 0, 4, 3, 172]
abbrev dktX16_worked_3 : List UInt8 := dkwX16_worked_3 ++ dktX16_worked_4
def dkwX16_worked_2 : List UInt8 := [28, 29, 96, 172, 28, 29, 100, 172, 28, 29, 104, 172, 28, 29, 162, 0, 7, 4, 167, 0, 4, 3, 172, 28]
abbrev dktX16_worked_2 : List UInt8 := dkwX16_worked_2 ++ dktX16_worked_3
def dkwX16_worked_1 : List UInt8 := [171, 0, 0, 0, 0, 106, 0, 0, 0, 6, 0, 0, 0, 38, 0, 0, 0, 92, 0, 0, 0, 42, 0, 0, 0, 66, 0, 0, 0, 43, 0, 0, 0, 58, 0, 0, 0, 45, 0, 0, 0, 62, 0, 0, 0, 60, 0, 0, 0, 70, 0, 0, 0, 61, 0, 0, 0, 81]
abbrev dktX16_worked_1 : List UInt8 := dkwX16_worked_1 ++ dktX16_worked_2
def dkwX16_worked_0 : List UInt8 := [42, 180, 0, 13, 43, 182, 0, 20, 61, 42, 180, 0, 17, 43, 182, 0, 20, 62, 42, 180, 0, 7]
abbrev dktX16_worked_0 : List UInt8 := dkwX16_worked_0 ++ dktX16_worked_1
theorem dksX16_worked_0 : cX16_worked.data.toList.drop 0 = dktX16_worked_0 := by decide +kernel
theorem dksX16_worked_1 : cX16_worked.data.toList.drop 22 = dktX16_worked_1 := dk_seg dksX16_worked_0 22 rfl rfl
theorem dksX16_worked_2 : cX16_worked.data.toList.drop 80 = dktX16_worked_2 := dk_seg dksX16_worked_1 58 rfl rfl
theorem dksX16_worked_3 : cX16_worked.data.toList.drop 104 = dktX16_worked_3 := dk_seg dksX16_worked_2 24 rfl rfl
theorem dksX16_worked_4 : cX16_worked.data.toList.drop 128 = dktX16_worked_4 := dk_seg dksX16_worked_3 24 rfl rfl
theorem dX16_worked_0 : decode cX16_worked 0 = .ok (.aload_n 0, 1) := dk_42 (dk_at dksX16_worked_0 0 rfl rfl)
theorem dX16_worked_1 : decode cX16_worked 1 = .ok (.getfield 13, 3) := dk_180 0 13 (dk_at dksX16_worked_0 1 rfl rfl)
theorem dX16_worked_4 : decode cX16_worked 4 = .ok (.aload_n 1, 1) := dk_43 (dk_at dksX16_worked_0 4 rfl rfl)
theorem dX16_worked_5 : decode cX16_worked 5 = .ok (.invokevirtual 20, 3) := dk_182 0 20 (dk_at dksX16_worked_0 5 rfl rfl)
theorem dX16_worked_8 : decode cX16_worked 8 = .ok (.istore_n 2, 1) := dk_61 (dk_at dksX16_worked_0 8 rfl rfl)
theorem dX16_worked_9 : decode cX16_worked 9 = .ok (.aload_n 0, 1) := dk_42 (dk_at dksX16_worked_0 9 rfl rfl)
theorem dX16_worked_10 : decode cX16_worked 10 = .ok (.getfield 17, 3) := dk_180 0 17 (dk_at dksX16_worked_0 10 rfl rfl)
theorem dX16_worked_13 : decode cX16_worked 13 = .ok (.aload_n 1, 1) := dk_43 (dk_at dksX16_worked_0 13 rfl rfl)
theorem dX16_worked_14 : decode cX16_worked 14 = .ok (.invokevirtual 20, 3) := dk_182 0 20 (dk_at dksX16_worked_0 14 rfl rfl)
theorem dX16_worked_17 : decode cX16_worked 17 = .ok (.istore_n 3, 1) := dk_62 (dk_at dksX16_worked_0 17 rfl rfl)
theorem dX16_worked_18 : decode cX16_worked 18 = .ok (.aload_n 0, 1) := dk_42 (dk_at dksX16_worked_0 18 rfl rfl)
theorem dX16_worked_19 : decode cX16_worked 19 = .ok (.getfield 7, 3) := dk_180 0 7 (dk_at dksX16_worked_0 19 rfl rfl)
theorem dX16_worked_22 : decode cX16_worked 22 = .ok (.lookupswitch 106 #[(38, 92), (42, 66), (43, 58), (45, 62), (60, 70), (61, 81)], 58) := by decide +kernel
theorem dX16_worked_80 : decode cX16_worked 80 = .ok (.iload_n 2, 1) := dk_28 (dk_at dksX16_worked_2 0 rfl rfl)
theorem dX16_worked_81 : decode cX16_worked 81 = .ok (.iload_n 3, 1) := dk_29 (dk_at dksX16_worked_2 1 rfl rfl)
theorem dX16_worked_82 : decode cX16_worked 82 = .ok (.iadd, 1) := dk_96 (dk_at dksX16_worked_2 2 rfl rfl)
theorem dX16_worked_83 : decode cX16_worked 83 = .ok (.ireturn, 1) := dk_172 (dk_at dksX16_worked_2 3 rfl rfl)
theorem dX16_worked_84 : decode cX16_worked 84 = .ok (.iload_n 2, 1) := dk_28 (dk_at dksX16_worked_2 4 rfl rfl)
theorem dX16_worked_85 : decode cX16_worked 85 = .ok (.iload_n 3, 1) := dk_29 (dk_at dksX16_worked_2 5 rfl rfl)
theorem dX16_worked_86 : decode cX16_worked 86 = .ok (.isub, 1) := dk_100 (dk_at dksX16_worked_2 6 rfl rfl)
theorem dX16_worked_87 : decode cX16_worked 87 = .ok (.ireturn, 1) := dk_172 (dk_at dksX16_worked_2 7 rfl rfl)
theorem dX16_worked_88 : decode cX16_worked 88 = .ok (.iload_n 2, 1) := dk_28 (dk_at dksX16_worked_2 8 rfl rfl)
theorem dX16_worked_89 : decode cX16_worked 89 = .ok (.iload_n 3, 1) := dk_29 (dk_at dksX16_worked_2 9 rfl rfl)
theorem dX16_worked_90 : decode cX16_worked 90 = .ok (.imul, 1) := dk_104 (dk_at dksX16_worked_2 10 rfl rfl)
theorem dX16_worked_91 : decode cX16_worked 91 = .ok (.ireturn, 1) := dk_172 (dk_at dksX16_worked_2 11 rfl rfl)
theorem dX16_worked_92 : decode cX16_worked 92 = .ok (.iload_n 2, 1) := dk_28 (dk_at dksX16_worked_2 12 rfl rfl)
theorem dX16_worked_93 : decode cX16_worked 93 = .ok (.iload_n 3, 1) := dk_29 (dk_at dksX16_worked_2 13 rfl rfl)
theorem dX16_worked_94 : decode cX16_worked 94 = .ok (.if_icmp .ge 7, 3) := dk_162 0 7 (dk_at dksX16_worked_2 14 rfl rfl)
theorem dX16_worked_97 : decode cX16_worked 97 = .ok (.iconst 1, 1) := dk_4 (dk_at dksX16_worked_2 17 rfl rfl)
theorem dX16_worked_98 : decode cX16_worked 98 = .ok (.goto 4, 3) := dk_167 0 4 (dk_at dksX16_worked_2 18 rfl rfl)
theorem dX16_worked_101 : decode cX16_worked 101 = .ok (.iconst 0, 1) := dk_3 (dk_at dksX16_worked_2 21 rfl rfl)
theorem dX16_worked_102 : decode cX16_worked 102 = .ok (.ireturn, 1) := dk_172 (dk_at dksX16_worked_2 22 rfl rfl)
theorem dX16_worked_103 : decode cX16_worked 103 = .ok (.iload_n 2, 1) := dk_28 (dk_at dksX16_worked_2 23 rfl rfl)
theorem dX16_worked_104 : decode cX16_worked 104 = .ok (.iload_n 3, 1) := dk_29 (dk_at dksX16_worked_3 0 rfl rfl)
theorem dX16_worked_105 : decode cX16_worked 105 = .ok (.if_icmp .ne 7, 3) := dk_160 0 7 (dk_at dksX16_worked_3 1 rfl rfl)
theorem dX16_worked_108 : decode cX16_worked 108 = .ok (.iconst 1, 1) := dk_4 (dk_at dksX16_worked_3 4 rfl rfl)
theorem dX16_worked_109 : decode cX16_worked 109 = .ok (.goto 4, 3) := dk_167 0 4 (dk_at dksX16_worked_3 5 rfl rfl)
theorem dX16_worked_112 : decode cX16_worked 112 = .ok (.iconst 0, 1) := dk_3 (dk_at dksX16_worked_3 8 rfl rfl)
theorem dX16_worked_113 : decode cX16_worked 113 = .ok (.ireturn, 1) := dk_172 (dk_at dksX16_worked_3 9 rfl rfl)
theorem dX16_worked_114 : decode cX16_worked 114 = .ok (.iload_n 2, 1) := dk_28 (dk_at dksX16_worked_3 10 rfl rfl)
theorem dX16_worked_115 : decode cX16_worked 115 = .ok (.ifCond .eq 11, 3) := dk_153 0 11 (dk_at dksX16_worked_3 11 rfl rfl)
theorem dX16_worked_118 : decode cX16_worked 118 = .ok (.iload_n 3, 1) := dk_29 (dk_at dksX16_worked_3 14 rfl rfl)
theorem dX16_worked_119 : decode cX16_worked 119 = .ok (.ifCond .eq 7, 3) := dk_153 0 7 (dk_at dksX16_worked_3 15 rfl rfl)
theorem dX16_worked_122 : decode cX16_worked 122 = .ok (.iconst 1, 1) := dk_4 (dk_at dksX16_worked_3 18 rfl rfl)
theorem dX16_worked_123 : decode cX16_worked 123 = .ok (.goto 4, 3) := dk_167 0 4 (dk_at dksX16_worked_3 19 rfl rfl)
theorem dX16_worked_126 : decode cX16_worked 126 = .ok (.iconst 0, 1) := dk_3 (dk_at dksX16_worked_3 22 rfl rfl)
theorem dX16_worked_127 : decode cX16_worked 127 = .ok (.ireturn, 1) := dk_172 (dk_at dksX16_worked_3 23 rfl rfl)
theorem dX16_worked_128 : decode cX16_worked 128 = .ok (.iload_n 2, 1) := dk_28 (dk_at dksX16_worked_4 0 rfl rfl)
theorem dX16_worked_129 : decode cX16_worked 129 = .ok (.ifCond .ne 7, 3) := dk_154 0 7 (dk_at dksX16_worked_4 1 rfl rfl)
theorem dX16_worked_132 : decode cX16_worked 132 = .ok (.iload_n 3, 1) := dk_29 (dk_at dksX16_worked_4 4 rfl rfl)
theorem dX16_worked_133 : decode cX16_worked 133 = .ok (.ifCond .eq 7, 3) := dk_153 0 7 (dk_at dksX16_worked_4 5 rfl rfl)
theorem dX16_worked_136 : decode cX16_worked 136 = .ok (.iconst 1, 1) := dk_4 (dk_at dksX16_worked_4 8 rfl rfl)
theorem dX16_worked_137 : decode cX16_worked 137 = .ok (.goto 4, 3) := dk_167 0 4 (dk_at dksX16_worked_4 9 rfl rfl)
theorem dX16_worked_140 : decode cX16_worked 140 = .ok (.iconst 0, 1) := dk_3 (dk_at dksX16_worked_4 12 rfl rfl)
theorem dX16_worked_141 : decode cX16_worked 141 = .ok (.ireturn, 1) := dk_172 (dk_at dksX16_worked_4 13 rfl rfl)
theorem q145 : (Jvm.Cond.initialized "DateVale$Two") ∈ lw_all := lw_g (lw_at lw_m1 34 rfl) rfl
theorem q878 : (Jvm.Cond.selects "DateVale$Two" ({ cls := "java/lang/Object", name := "getClass", desc := "()Ljava/lang/Class;" } : Jvm.MethodName) ({ cls := "java/lang/Object", name := "getClass", desc := "()Ljava/lang/Class;" } : Jvm.MethodName)) ∈ lw_all := lw_g (lw_at lw_m4 47 rfl) rfl
theorem q1045 : (Jvm.Cond.instantiable "DateVale$Two" (3 : Nat)) ∈ lw_all := lw_g (lw_at lw_m4 214 rfl) rfl
theorem q1047 : (Jvm.Cond.instanceMethod ({ cls := "DateVale$Two", name := "<init>", desc := "(CLDateVale$Expression;LDateVale$Expression;)V" } : Jvm.MethodName)) ∈ lw_all := lw_g (lw_at lw_m4 216 rfl) rfl
theorem q1048 : (Jvm.Cond.code ({ cls := "DateVale$Two", name := "<init>", desc := "(CLDateVale$Expression;LDateVale$Expression;)V" } : Jvm.MethodName) prog_19_method_1_code (4 : Nat) (Option.none : Option Jvm.ClassFile.FieldType)) ∈ lw_all := lw_g (lw_at lw_m4 217 rfl) rfl
theorem q1049 : (Jvm.Cond.methodLinkNest "DateVale$Two" (1 : Nat) ({ cls := "DateVale$Expression", name := "<init>", desc := "()V" } : Jvm.MethodName) "DateVale") ∈ lw_tbl := lw_at lw_m4 218 rfl
theorem q1050 : (Jvm.Cond.fieldLink "DateVale$Two" (7 : Nat) "DateVale$Two" "way" "C") ∈ lw_all := lw_g (lw_at lw_m4 219 rfl) rfl
theorem q1051 : (Jvm.Cond.fieldLink "DateVale$Two" (13 : Nat) "DateVale$Two" "a" "LDateVale$Expression;") ∈ lw_all := lw_g (lw_at lw_m4 220 rfl) rfl
theorem q1052 : (Jvm.Cond.fieldLink "DateVale$Two" (17 : Nat) "DateVale$Two" "b" "LDateVale$Expression;") ∈ lw_all := lw_g (lw_at lw_m4 221 rfl) rfl
theorem q1053 : (Jvm.Cond.laysFinal "DateVale$Two" "DateVale$Two" "way" "C") ∈ lw_all := lw_g (lw_at lw_m4 222 rfl) rfl
theorem q1054 : (Jvm.Cond.soleField "DateVale$Two" "way") ∈ lw_all := lw_g (lw_at lw_m4 223 rfl) rfl
theorem q1055 : (Jvm.Cond.laysFinal "DateVale$Two" "DateVale$Two" "a" "LDateVale$Expression;") ∈ lw_all := lw_g (lw_at lw_m4 224 rfl) rfl
theorem q1056 : (Jvm.Cond.soleField "DateVale$Two" "a") ∈ lw_all := lw_g (lw_at lw_m4 225 rfl) rfl
theorem q1057 : (Jvm.Cond.laysFinal "DateVale$Two" "DateVale$Two" "b" "LDateVale$Expression;") ∈ lw_all := lw_g (lw_at lw_m4 226 rfl) rfl
theorem q1058 : (Jvm.Cond.soleField "DateVale$Two" "b") ∈ lw_all := lw_g (lw_at lw_m4 227 rfl) rfl
theorem q1059 : (Jvm.Cond.superclass "DateVale$Two" "DateVale$Expression") ∈ lw_all := lw_g (lw_at lw_m4 228 rfl) rfl
theorem q1261 : (Jvm.Cond.instanceMethod ({ cls := "DateVale$Two", name := "worked", desc := "([I)I" } : Jvm.MethodName)) ∈ lw_all := lw_g (lw_at lw_m5 190 rfl) rfl
theorem q1262 : (Jvm.Cond.code ({ cls := "DateVale$Two", name := "worked", desc := "([I)I" } : Jvm.MethodName) prog_19_method_2_code (4 : Nat) (Option.some Jvm.ClassFile.FieldType.int)) ∈ lw_all := lw_g (lw_at lw_m5 191 rfl) rfl
theorem q1263 : (Jvm.Cond.methodLink "DateVale$Two" (20 : Nat) ({ cls := "DateVale$Expression", name := "worked", desc := "([I)I" } : Jvm.MethodName)) ∈ lw_all := lw_g (lw_at lw_m5 192 rfl) rfl
theorem q1264 : (Jvm.Cond.selects "DateVale$Two" ({ cls := "DateVale$Expression", name := "worked", desc := "([I)I" } : Jvm.MethodName) ({ cls := "DateVale$Two", name := "worked", desc := "([I)I" } : Jvm.MethodName)) ∈ lw_all := lw_g (lw_at lw_m5 193 rfl) rfl
theorem q2104 : (Jvm.Cond.castable "DateVale$Two" "java/lang/Object") ∈ lw_tbl := lw_at lw_m9 73 rfl
theorem in_X16 : ∀ w ∈ wsX160, w ∈ lw_all := lw_in wsX160 [1053, 1055, 1057] (by decide +kernel) (by decide +kernel)
/-! DateVale$Line -/
set_option maxRecDepth 100000
def RX17 : String := "DateVale$Line"
abbrev cX17_init : ByteArray := prog_11_method_1_code
def yX17_init : MethodName := ⟨RX17, "<init>", "()V"⟩
theorem dX17_init_0 : decode cX17_init 0 = .ok (.aload_n 0, 1) := by decide +kernel
theorem dX17_init_1 : decode cX17_init 1 = .ok (.invokespecial 1, 3) := by decide +kernel
theorem dX17_init_4 : decode cX17_init 4 = .ok (.return_, 1) := by decide +kernel
theorem q146 : (Jvm.Cond.initialized "DateVale$Line") ∈ lw_all := lw_g (lw_at lw_m1 35 rfl) rfl
theorem q1082 : (Jvm.Cond.instanceMethod ({ cls := "DateVale$Line", name := "<init>", desc := "()V" } : Jvm.MethodName)) ∈ lw_all := lw_g (lw_at lw_m5 11 rfl) rfl
theorem q1083 : (Jvm.Cond.code ({ cls := "DateVale$Line", name := "<init>", desc := "()V" } : Jvm.MethodName) prog_11_method_1_code (1 : Nat) (Option.none : Option Jvm.ClassFile.FieldType)) ∈ lw_all := lw_g (lw_at lw_m5 12 rfl) rfl
theorem q1084 : (Jvm.Cond.methodLink "DateVale$Line" (1 : Nat) ({ cls := "java/lang/Object", name := "<init>", desc := "()V" } : Jvm.MethodName)) ∈ lw_all := lw_g (lw_at lw_m5 13 rfl) rfl
theorem q1296 : (Jvm.Cond.declares ({ cls := "DateVale$Line", name := "isDone", desc := "(LDateVale;LDateVale$State;)Z" } : Jvm.MethodName)) ∈ lw_tbl := lw_at lw_m5 225 rfl
theorem q1297 : (Jvm.Cond.sameMethod "DateVale$Line" "DateVale$Line" "isDone" "(LDateVale;LDateVale$State;)Z") ∈ lw_all := lw_g (lw_at lw_m5 226 rfl) rfl
/-! DateVale$Passed -/
set_option maxRecDepth 100000
def RX18 : String := "DateVale$Passed"
abbrev cX18_init : ByteArray := prog_15_method_1_code
def yX18_init : MethodName := ⟨RX18, "<init>", "()V"⟩
theorem dX18_init_0 : decode cX18_init 0 = .ok (.aload_n 0, 1) := by decide +kernel
theorem dX18_init_1 : decode cX18_init 1 = .ok (.invokespecial 1, 3) := by decide +kernel
theorem dX18_init_4 : decode cX18_init 4 = .ok (.return_, 1) := by decide +kernel
abbrev cX18_isDone : ByteArray := prog_15_method_2_code
def yX18_isDone : MethodName := ⟨RX18, "isDone", "(LDateVale;LDateVale$State;)Z"⟩
def dkwX18_isDone_0 : List UInt8 := [43, 44, 182, 0, 7, 87, 4, 172]
abbrev dktX18_isDone_0 : List UInt8 := dkwX18_isDone_0 ++ []
theorem dksX18_isDone_0 : cX18_isDone.data.toList.drop 0 = dktX18_isDone_0 := by decide +kernel
theorem dX18_isDone_0 : decode cX18_isDone 0 = .ok (.aload_n 1, 1) := dk_43 (dk_at dksX18_isDone_0 0 rfl rfl)
theorem dX18_isDone_1 : decode cX18_isDone 1 = .ok (.aload_n 2, 1) := dk_44 (dk_at dksX18_isDone_0 1 rfl rfl)
theorem dX18_isDone_2 : decode cX18_isDone 2 = .ok (.invokevirtual 7, 3) := dk_182 0 7 (dk_at dksX18_isDone_0 2 rfl rfl)
theorem dX18_isDone_5 : decode cX18_isDone 5 = .ok (.pop, 1) := dk_87 (dk_at dksX18_isDone_0 5 rfl rfl)
theorem dX18_isDone_6 : decode cX18_isDone 6 = .ok (.iconst 1, 1) := dk_4 (dk_at dksX18_isDone_0 6 rfl rfl)
theorem dX18_isDone_7 : decode cX18_isDone 7 = .ok (.ireturn, 1) := dk_172 (dk_at dksX18_isDone_0 7 rfl rfl)
theorem q147 : (Jvm.Cond.initialized "DateVale$Passed") ∈ lw_all := lw_g (lw_at lw_m1 36 rfl) rfl
theorem q874 : (Jvm.Cond.selects "DateVale$Passed" ({ cls := "java/lang/Object", name := "getClass", desc := "()Ljava/lang/Class;" } : Jvm.MethodName) ({ cls := "java/lang/Object", name := "getClass", desc := "()Ljava/lang/Class;" } : Jvm.MethodName)) ∈ lw_all := lw_g (lw_at lw_m4 43 rfl) rfl
theorem q1077 : (Jvm.Cond.instantiable "DateVale$Passed" (0 : Nat)) ∈ lw_all := lw_g (lw_at lw_m5 6 rfl) rfl
theorem q1079 : (Jvm.Cond.instanceMethod ({ cls := "DateVale$Passed", name := "<init>", desc := "()V" } : Jvm.MethodName)) ∈ lw_all := lw_g (lw_at lw_m5 8 rfl) rfl
theorem q1080 : (Jvm.Cond.code ({ cls := "DateVale$Passed", name := "<init>", desc := "()V" } : Jvm.MethodName) prog_15_method_1_code (1 : Nat) (Option.none : Option Jvm.ClassFile.FieldType)) ∈ lw_all := lw_g (lw_at lw_m5 9 rfl) rfl
theorem q1081 : (Jvm.Cond.methodLinkNest "DateVale$Passed" (1 : Nat) ({ cls := "DateVale$Line", name := "<init>", desc := "()V" } : Jvm.MethodName) "DateVale") ∈ lw_tbl := lw_at lw_m5 10 rfl
theorem q1085 : (Jvm.Cond.superclass "DateVale$Passed" "DateVale$Line") ∈ lw_all := lw_g (lw_at lw_m5 14 rfl) rfl
theorem q1305 : (Jvm.Cond.selects "DateVale$Passed" ({ cls := "DateVale$Line", name := "isDone", desc := "(LDateVale;LDateVale$State;)Z" } : Jvm.MethodName) ({ cls := "DateVale$Passed", name := "isDone", desc := "(LDateVale;LDateVale$State;)Z" } : Jvm.MethodName)) ∈ lw_all := lw_g (lw_at lw_m5 234 rfl) rfl
theorem q1306 : (Jvm.Cond.instanceMethod ({ cls := "DateVale$Passed", name := "isDone", desc := "(LDateVale;LDateVale$State;)Z" } : Jvm.MethodName)) ∈ lw_all := lw_g (lw_at lw_m5 235 rfl) rfl
theorem q1307 : (Jvm.Cond.code ({ cls := "DateVale$Passed", name := "isDone", desc := "(LDateVale;LDateVale$State;)Z" } : Jvm.MethodName) prog_15_method_2_code (3 : Nat) (Option.some Jvm.ClassFile.FieldType.boolean)) ∈ lw_all := lw_g (lw_at lw_m5 236 rfl) rfl
theorem q1308 : (Jvm.Cond.methodLinkNest "DateVale$Passed" (7 : Nat) ({ cls := "DateVale", name := "passes", desc := "(LDateVale$State;)I" } : Jvm.MethodName) "DateVale") ∈ lw_tbl := lw_at lw_m5 237 rfl
theorem q2084 : (Jvm.Cond.castable "DateVale$Passed" "DateVale$Line") ∈ lw_tbl := lw_at lw_m9 53 rfl
theorem q2105 : (Jvm.Cond.castable "DateVale$Passed" "java/lang/Object") ∈ lw_tbl := lw_at lw_m9 74 rfl
/-! DateVale$Built -/
set_option maxRecDepth 100000
def RX19 : String := "DateVale$Built"
def TX19 : u_T := fun k => match k with
  | _ => ("DateVale$Built", "house", "I", true)
def tyX19 : Nat → FieldType := fun k => match k with
  | _ => .int
abbrev wsX190 : List Cond := u_ws RX19 TX19 1
theorem nmX19 : ∀ a, a < 1 → ∀ b, b < 1 → a ≠ b → (TX19 a).2.1 ≠ (TX19 b).2.1 := by decide +kernel
theorem tyX19_ok : ∀ k, k < 1 → parseFieldDescriptor (TX19 k).2.2.1 = some (tyX19 k) := by decide +kernel
abbrev cX19_init : ByteArray := prog_3_method_1_code
def yX19_init : MethodName := ⟨RX19, "<init>", "(I)V"⟩
def dkwX19_init_0 : List UInt8 := [42, 183, 0, 3, 42, 27, 181, 0, 9, 177]
abbrev dktX19_init_0 : List UInt8 := dkwX19_init_0 ++ []
theorem dksX19_init_0 : cX19_init.data.toList.drop 0 = dktX19_init_0 := by decide +kernel
theorem dX19_init_0 : decode cX19_init 0 = .ok (.aload_n 0, 1) := dk_42 (dk_at dksX19_init_0 0 rfl rfl)
theorem dX19_init_1 : decode cX19_init 1 = .ok (.invokespecial 3, 3) := dk_183 0 3 (dk_at dksX19_init_0 1 rfl rfl)
theorem dX19_init_4 : decode cX19_init 4 = .ok (.aload_n 0, 1) := dk_42 (dk_at dksX19_init_0 4 rfl rfl)
theorem dX19_init_5 : decode cX19_init 5 = .ok (.iload_n 1, 1) := dk_27 (dk_at dksX19_init_0 5 rfl rfl)
theorem dX19_init_6 : decode cX19_init 6 = .ok (.putfield 9, 3) := dk_181 0 9 (dk_at dksX19_init_0 6 rfl rfl)
theorem dX19_init_9 : decode cX19_init 9 = .ok (.return_, 1) := dk_177 (dk_at dksX19_init_0 9 rfl rfl)
abbrev cX19_isDone : ByteArray := prog_3_method_2_code
def yX19_isDone : MethodName := ⟨RX19, "isDone", "(LDateVale;LDateVale$State;)Z"⟩
def dkwX19_isDone_1 : List UInt8 := [92, 46, 4, 96, 79, 4, 172]
abbrev dktX19_isDone_1 : List UInt8 := dkwX19_isDone_1 ++ []
def dkwX19_isDone_0 : List UInt8 := [44, 180, 0, 15, 42, 180, 0, 9, 46, 16, 9, 160, 0, 5, 3, 172, 44, 180, 0, 15, 42, 180, 0, 9]
abbrev dktX19_isDone_0 : List UInt8 := dkwX19_isDone_0 ++ dktX19_isDone_1
theorem dksX19_isDone_0 : cX19_isDone.data.toList.drop 0 = dktX19_isDone_0 := by decide +kernel
theorem dksX19_isDone_1 : cX19_isDone.data.toList.drop 24 = dktX19_isDone_1 := dk_seg dksX19_isDone_0 24 rfl rfl
theorem dX19_isDone_0 : decode cX19_isDone 0 = .ok (.aload_n 2, 1) := dk_44 (dk_at dksX19_isDone_0 0 rfl rfl)
theorem dX19_isDone_1 : decode cX19_isDone 1 = .ok (.getfield 15, 3) := dk_180 0 15 (dk_at dksX19_isDone_0 1 rfl rfl)
theorem dX19_isDone_4 : decode cX19_isDone 4 = .ok (.aload_n 0, 1) := dk_42 (dk_at dksX19_isDone_0 4 rfl rfl)
theorem dX19_isDone_5 : decode cX19_isDone 5 = .ok (.getfield 9, 3) := dk_180 0 9 (dk_at dksX19_isDone_0 5 rfl rfl)
theorem dX19_isDone_8 : decode cX19_isDone 8 = .ok (.iaload, 1) := dk_46 (dk_at dksX19_isDone_0 8 rfl rfl)
theorem dX19_isDone_9 : decode cX19_isDone 9 = .ok (.bipush 9, 2) := dk_16 9 (dk_at dksX19_isDone_0 9 rfl rfl)
theorem dX19_isDone_11 : decode cX19_isDone 11 = .ok (.if_icmp .ne 5, 3) := dk_160 0 5 (dk_at dksX19_isDone_0 11 rfl rfl)
theorem dX19_isDone_14 : decode cX19_isDone 14 = .ok (.iconst 0, 1) := dk_3 (dk_at dksX19_isDone_0 14 rfl rfl)
theorem dX19_isDone_15 : decode cX19_isDone 15 = .ok (.ireturn, 1) := dk_172 (dk_at dksX19_isDone_0 15 rfl rfl)
theorem dX19_isDone_16 : decode cX19_isDone 16 = .ok (.aload_n 2, 1) := dk_44 (dk_at dksX19_isDone_0 16 rfl rfl)
theorem dX19_isDone_17 : decode cX19_isDone 17 = .ok (.getfield 15, 3) := dk_180 0 15 (dk_at dksX19_isDone_0 17 rfl rfl)
theorem dX19_isDone_20 : decode cX19_isDone 20 = .ok (.aload_n 0, 1) := dk_42 (dk_at dksX19_isDone_0 20 rfl rfl)
theorem dX19_isDone_21 : decode cX19_isDone 21 = .ok (.getfield 9, 3) := dk_180 0 9 (dk_at dksX19_isDone_0 21 rfl rfl)
theorem dX19_isDone_24 : decode cX19_isDone 24 = .ok (.dup2, 1) := dk_92 (dk_at dksX19_isDone_1 0 rfl rfl)
theorem dX19_isDone_25 : decode cX19_isDone 25 = .ok (.iaload, 1) := dk_46 (dk_at dksX19_isDone_1 1 rfl rfl)
theorem dX19_isDone_26 : decode cX19_isDone 26 = .ok (.iconst 1, 1) := dk_4 (dk_at dksX19_isDone_1 2 rfl rfl)
theorem dX19_isDone_27 : decode cX19_isDone 27 = .ok (.iadd, 1) := dk_96 (dk_at dksX19_isDone_1 3 rfl rfl)
theorem dX19_isDone_28 : decode cX19_isDone 28 = .ok (.iastore, 1) := dk_79 (dk_at dksX19_isDone_1 4 rfl rfl)
theorem dX19_isDone_29 : decode cX19_isDone 29 = .ok (.iconst 1, 1) := dk_4 (dk_at dksX19_isDone_1 5 rfl rfl)
theorem dX19_isDone_30 : decode cX19_isDone 30 = .ok (.ireturn, 1) := dk_172 (dk_at dksX19_isDone_1 6 rfl rfl)
theorem q148 : (Jvm.Cond.initialized "DateVale$Built") ∈ lw_all := lw_g (lw_at lw_m1 37 rfl) rfl
theorem q258 : (Jvm.Cond.fieldLinkNest "DateVale$Built" (15 : Nat) "DateVale$State" "beds" "[I" "DateVale") ∈ lw_tbl := lw_at lw_m1 147 rfl
theorem q864 : (Jvm.Cond.selects "DateVale$Built" ({ cls := "java/lang/Object", name := "getClass", desc := "()Ljava/lang/Class;" } : Jvm.MethodName) ({ cls := "java/lang/Object", name := "getClass", desc := "()Ljava/lang/Class;" } : Jvm.MethodName)) ∈ lw_all := lw_g (lw_at lw_m4 33 rfl) rfl
theorem q1087 : (Jvm.Cond.instantiable "DateVale$Built" (1 : Nat)) ∈ lw_all := lw_g (lw_at lw_m5 16 rfl) rfl
theorem q1089 : (Jvm.Cond.instanceMethod ({ cls := "DateVale$Built", name := "<init>", desc := "(I)V" } : Jvm.MethodName)) ∈ lw_all := lw_g (lw_at lw_m5 18 rfl) rfl
theorem q1090 : (Jvm.Cond.code ({ cls := "DateVale$Built", name := "<init>", desc := "(I)V" } : Jvm.MethodName) prog_3_method_1_code (2 : Nat) (Option.none : Option Jvm.ClassFile.FieldType)) ∈ lw_all := lw_g (lw_at lw_m5 19 rfl) rfl
theorem q1091 : (Jvm.Cond.methodLinkNest "DateVale$Built" (3 : Nat) ({ cls := "DateVale$Line", name := "<init>", desc := "()V" } : Jvm.MethodName) "DateVale") ∈ lw_tbl := lw_at lw_m5 20 rfl
theorem q1092 : (Jvm.Cond.fieldLink "DateVale$Built" (9 : Nat) "DateVale$Built" "house" "I") ∈ lw_all := lw_g (lw_at lw_m5 21 rfl) rfl
theorem q1093 : (Jvm.Cond.laysFinal "DateVale$Built" "DateVale$Built" "house" "I") ∈ lw_all := lw_g (lw_at lw_m5 22 rfl) rfl
theorem q1094 : (Jvm.Cond.soleField "DateVale$Built" "house") ∈ lw_all := lw_g (lw_at lw_m5 23 rfl) rfl
theorem q1095 : (Jvm.Cond.superclass "DateVale$Built" "DateVale$Line") ∈ lw_all := lw_g (lw_at lw_m5 24 rfl) rfl
theorem q1298 : (Jvm.Cond.selects "DateVale$Built" ({ cls := "DateVale$Line", name := "isDone", desc := "(LDateVale;LDateVale$State;)Z" } : Jvm.MethodName) ({ cls := "DateVale$Built", name := "isDone", desc := "(LDateVale;LDateVale$State;)Z" } : Jvm.MethodName)) ∈ lw_all := lw_g (lw_at lw_m5 227 rfl) rfl
theorem q1299 : (Jvm.Cond.instanceMethod ({ cls := "DateVale$Built", name := "isDone", desc := "(LDateVale;LDateVale$State;)Z" } : Jvm.MethodName)) ∈ lw_all := lw_g (lw_at lw_m5 228 rfl) rfl
theorem q1300 : (Jvm.Cond.code ({ cls := "DateVale$Built", name := "isDone", desc := "(LDateVale;LDateVale$State;)Z" } : Jvm.MethodName) prog_3_method_2_code (3 : Nat) (Option.some Jvm.ClassFile.FieldType.boolean)) ∈ lw_all := lw_g (lw_at lw_m5 229 rfl) rfl
theorem q2082 : (Jvm.Cond.castable "DateVale$Built" "DateVale$Line") ∈ lw_tbl := lw_at lw_m9 51 rfl
theorem q2106 : (Jvm.Cond.castable "DateVale$Built" "java/lang/Object") ∈ lw_tbl := lw_at lw_m9 75 rfl
theorem in_X19 : ∀ w ∈ wsX190, w ∈ lw_all := lw_in wsX190 [1093] (by decide +kernel) (by decide +kernel)
/-! DateVale$Moved -/
set_option maxRecDepth 100000
def RX20 : String := "DateVale$Moved"
def TX20 : u_T := fun k => match k with
  | 0 => ("DateVale$Moved", "guest", "I", true)
  | _ => ("DateVale$Moved", "house", "I", true)
def tyX20 : Nat → FieldType := fun k => match k with
  | 0 => .int
  | _ => .int
abbrev wsX200 : List Cond := u_ws RX20 TX20 2
theorem nmX20 : ∀ a, a < 2 → ∀ b, b < 2 → a ≠ b → (TX20 a).2.1 ≠ (TX20 b).2.1 := by decide +kernel
theorem tyX20_ok : ∀ k, k < 2 → parseFieldDescriptor (TX20 k).2.2.1 = some (tyX20 k) := by decide +kernel
abbrev cX20_init : ByteArray := prog_13_method_1_code
def yX20_init : MethodName := ⟨RX20, "<init>", "(II)V"⟩
def dkwX20_init_0 : List UInt8 := [42, 183, 0, 1, 42, 27, 181, 0, 7, 42, 28, 181, 0, 13, 177]
abbrev dktX20_init_0 : List UInt8 := dkwX20_init_0 ++ []
theorem dksX20_init_0 : cX20_init.data.toList.drop 0 = dktX20_init_0 := by decide +kernel
theorem dX20_init_0 : decode cX20_init 0 = .ok (.aload_n 0, 1) := dk_42 (dk_at dksX20_init_0 0 rfl rfl)
theorem dX20_init_1 : decode cX20_init 1 = .ok (.invokespecial 1, 3) := dk_183 0 1 (dk_at dksX20_init_0 1 rfl rfl)
theorem dX20_init_4 : decode cX20_init 4 = .ok (.aload_n 0, 1) := dk_42 (dk_at dksX20_init_0 4 rfl rfl)
theorem dX20_init_5 : decode cX20_init 5 = .ok (.iload_n 1, 1) := dk_27 (dk_at dksX20_init_0 5 rfl rfl)
theorem dX20_init_6 : decode cX20_init 6 = .ok (.putfield 7, 3) := dk_181 0 7 (dk_at dksX20_init_0 6 rfl rfl)
theorem dX20_init_9 : decode cX20_init 9 = .ok (.aload_n 0, 1) := dk_42 (dk_at dksX20_init_0 9 rfl rfl)
theorem dX20_init_10 : decode cX20_init 10 = .ok (.iload_n 2, 1) := dk_28 (dk_at dksX20_init_0 10 rfl rfl)
theorem dX20_init_11 : decode cX20_init 11 = .ok (.putfield 13, 3) := dk_181 0 13 (dk_at dksX20_init_0 11 rfl rfl)
theorem dX20_init_14 : decode cX20_init 14 = .ok (.return_, 1) := dk_177 (dk_at dksX20_init_0 14 rfl rfl)
abbrev cX20_isDone : ByteArray := prog_13_method_2_code
def yX20_isDone : MethodName := ⟨RX20, "isDone", "(LDateVale;LDateVale$State;)Z"⟩
def dkwX20_isDone_1 : List UInt8 := [180, 0, 7, 42, 180, 0, 13, 79, 4, 172]
abbrev dktX20_isDone_1 : List UInt8 := dkwX20_isDone_1 ++ []
def dkwX20_isDone_0 : List UInt8 := [43, 44, 42, 180, 0, 7, 42, 180, 0, 13, 182, 0, 16, 154, 0, 5, 3, 172, 44, 180, 0, 22, 42]
abbrev dktX20_isDone_0 : List UInt8 := dkwX20_isDone_0 ++ dktX20_isDone_1
theorem dksX20_isDone_0 : cX20_isDone.data.toList.drop 0 = dktX20_isDone_0 := by decide +kernel
theorem dksX20_isDone_1 : cX20_isDone.data.toList.drop 23 = dktX20_isDone_1 := dk_seg dksX20_isDone_0 23 rfl rfl
theorem dX20_isDone_0 : decode cX20_isDone 0 = .ok (.aload_n 1, 1) := dk_43 (dk_at dksX20_isDone_0 0 rfl rfl)
theorem dX20_isDone_1 : decode cX20_isDone 1 = .ok (.aload_n 2, 1) := dk_44 (dk_at dksX20_isDone_0 1 rfl rfl)
theorem dX20_isDone_2 : decode cX20_isDone 2 = .ok (.aload_n 0, 1) := dk_42 (dk_at dksX20_isDone_0 2 rfl rfl)
theorem dX20_isDone_3 : decode cX20_isDone 3 = .ok (.getfield 7, 3) := dk_180 0 7 (dk_at dksX20_isDone_0 3 rfl rfl)
theorem dX20_isDone_6 : decode cX20_isDone 6 = .ok (.aload_n 0, 1) := dk_42 (dk_at dksX20_isDone_0 6 rfl rfl)
theorem dX20_isDone_7 : decode cX20_isDone 7 = .ok (.getfield 13, 3) := dk_180 0 13 (dk_at dksX20_isDone_0 7 rfl rfl)
theorem dX20_isDone_10 : decode cX20_isDone 10 = .ok (.invokevirtual 16, 3) := dk_182 0 16 (dk_at dksX20_isDone_0 10 rfl rfl)
theorem dX20_isDone_13 : decode cX20_isDone 13 = .ok (.ifCond .ne 5, 3) := dk_154 0 5 (dk_at dksX20_isDone_0 13 rfl rfl)
theorem dX20_isDone_16 : decode cX20_isDone 16 = .ok (.iconst 0, 1) := dk_3 (dk_at dksX20_isDone_0 16 rfl rfl)
theorem dX20_isDone_17 : decode cX20_isDone 17 = .ok (.ireturn, 1) := dk_172 (dk_at dksX20_isDone_0 17 rfl rfl)
theorem dX20_isDone_18 : decode cX20_isDone 18 = .ok (.aload_n 2, 1) := dk_44 (dk_at dksX20_isDone_0 18 rfl rfl)
theorem dX20_isDone_19 : decode cX20_isDone 19 = .ok (.getfield 22, 3) := dk_180 0 22 (dk_at dksX20_isDone_0 19 rfl rfl)
theorem dX20_isDone_22 : decode cX20_isDone 22 = .ok (.aload_n 0, 1) := dk_42 (dk_at dksX20_isDone_0 22 rfl rfl)
theorem dX20_isDone_23 : decode cX20_isDone 23 = .ok (.getfield 7, 3) := dk_180 0 7 (dk_at dksX20_isDone_1 0 rfl rfl)
theorem dX20_isDone_26 : decode cX20_isDone 26 = .ok (.aload_n 0, 1) := dk_42 (dk_at dksX20_isDone_1 3 rfl rfl)
theorem dX20_isDone_27 : decode cX20_isDone 27 = .ok (.getfield 13, 3) := dk_180 0 13 (dk_at dksX20_isDone_1 4 rfl rfl)
theorem dX20_isDone_30 : decode cX20_isDone 30 = .ok (.iastore, 1) := dk_79 (dk_at dksX20_isDone_1 7 rfl rfl)
theorem dX20_isDone_31 : decode cX20_isDone 31 = .ok (.iconst 1, 1) := dk_4 (dk_at dksX20_isDone_1 8 rfl rfl)
theorem dX20_isDone_32 : decode cX20_isDone 32 = .ok (.ireturn, 1) := dk_172 (dk_at dksX20_isDone_1 9 rfl rfl)
theorem q149 : (Jvm.Cond.initialized "DateVale$Moved") ∈ lw_all := lw_g (lw_at lw_m1 38 rfl) rfl
theorem q264 : (Jvm.Cond.fieldLinkNest "DateVale$Moved" (22 : Nat) "DateVale$State" "where" "[I" "DateVale") ∈ lw_tbl := lw_at lw_m1 153 rfl
theorem q872 : (Jvm.Cond.selects "DateVale$Moved" ({ cls := "java/lang/Object", name := "getClass", desc := "()Ljava/lang/Class;" } : Jvm.MethodName) ({ cls := "java/lang/Object", name := "getClass", desc := "()Ljava/lang/Class;" } : Jvm.MethodName)) ∈ lw_all := lw_g (lw_at lw_m4 41 rfl) rfl
theorem q1097 : (Jvm.Cond.instantiable "DateVale$Moved" (2 : Nat)) ∈ lw_all := lw_g (lw_at lw_m5 26 rfl) rfl
theorem q1099 : (Jvm.Cond.instanceMethod ({ cls := "DateVale$Moved", name := "<init>", desc := "(II)V" } : Jvm.MethodName)) ∈ lw_all := lw_g (lw_at lw_m5 28 rfl) rfl
theorem q1100 : (Jvm.Cond.code ({ cls := "DateVale$Moved", name := "<init>", desc := "(II)V" } : Jvm.MethodName) prog_13_method_1_code (3 : Nat) (Option.none : Option Jvm.ClassFile.FieldType)) ∈ lw_all := lw_g (lw_at lw_m5 29 rfl) rfl
theorem q1101 : (Jvm.Cond.methodLinkNest "DateVale$Moved" (1 : Nat) ({ cls := "DateVale$Line", name := "<init>", desc := "()V" } : Jvm.MethodName) "DateVale") ∈ lw_tbl := lw_at lw_m5 30 rfl
theorem q1102 : (Jvm.Cond.fieldLink "DateVale$Moved" (7 : Nat) "DateVale$Moved" "guest" "I") ∈ lw_all := lw_g (lw_at lw_m5 31 rfl) rfl
theorem q1103 : (Jvm.Cond.fieldLink "DateVale$Moved" (13 : Nat) "DateVale$Moved" "house" "I") ∈ lw_all := lw_g (lw_at lw_m5 32 rfl) rfl
theorem q1104 : (Jvm.Cond.laysFinal "DateVale$Moved" "DateVale$Moved" "guest" "I") ∈ lw_all := lw_g (lw_at lw_m5 33 rfl) rfl
theorem q1105 : (Jvm.Cond.soleField "DateVale$Moved" "guest") ∈ lw_all := lw_g (lw_at lw_m5 34 rfl) rfl
theorem q1106 : (Jvm.Cond.laysFinal "DateVale$Moved" "DateVale$Moved" "house" "I") ∈ lw_all := lw_g (lw_at lw_m5 35 rfl) rfl
theorem q1107 : (Jvm.Cond.soleField "DateVale$Moved" "house") ∈ lw_all := lw_g (lw_at lw_m5 36 rfl) rfl
theorem q1108 : (Jvm.Cond.superclass "DateVale$Moved" "DateVale$Line") ∈ lw_all := lw_g (lw_at lw_m5 37 rfl) rfl
theorem q1301 : (Jvm.Cond.selects "DateVale$Moved" ({ cls := "DateVale$Line", name := "isDone", desc := "(LDateVale;LDateVale$State;)Z" } : Jvm.MethodName) ({ cls := "DateVale$Moved", name := "isDone", desc := "(LDateVale;LDateVale$State;)Z" } : Jvm.MethodName)) ∈ lw_all := lw_g (lw_at lw_m5 230 rfl) rfl
theorem q1302 : (Jvm.Cond.instanceMethod ({ cls := "DateVale$Moved", name := "isDone", desc := "(LDateVale;LDateVale$State;)Z" } : Jvm.MethodName)) ∈ lw_all := lw_g (lw_at lw_m5 231 rfl) rfl
theorem q1303 : (Jvm.Cond.code ({ cls := "DateVale$Moved", name := "isDone", desc := "(LDateVale;LDateVale$State;)Z" } : Jvm.MethodName) prog_13_method_2_code (3 : Nat) (Option.some Jvm.ClassFile.FieldType.boolean)) ∈ lw_all := lw_g (lw_at lw_m5 232 rfl) rfl
theorem q1304 : (Jvm.Cond.methodLinkNest "DateVale$Moved" (16 : Nat) ({ cls := "DateVale", name := "canMove", desc := "(LDateVale$State;II)Z" } : Jvm.MethodName) "DateVale") ∈ lw_tbl := lw_at lw_m5 233 rfl
theorem q2083 : (Jvm.Cond.castable "DateVale$Moved" "DateVale$Line") ∈ lw_tbl := lw_at lw_m9 52 rfl
theorem q2107 : (Jvm.Cond.castable "DateVale$Moved" "java/lang/Object") ∈ lw_tbl := lw_at lw_m9 76 rfl
theorem in_X20 : ∀ w ∈ wsX200, w ∈ lw_all := lw_in wsX200 [1104, 1106] (by decide +kernel) (by decide +kernel)
/-! DateVale$Sent -/
set_option maxRecDepth 100000
def RX21 : String := "DateVale$Sent"
def TX21 : u_T := fun k => match k with
  | _ => ("DateVale$Sent", "guest", "I", true)
def tyX21 : Nat → FieldType := fun k => match k with
  | _ => .int
abbrev wsX210 : List Cond := u_ws RX21 TX21 1
theorem nmX21 : ∀ a, a < 1 → ∀ b, b < 1 → a ≠ b → (TX21 a).2.1 ≠ (TX21 b).2.1 := by decide +kernel
theorem tyX21_ok : ∀ k, k < 1 → parseFieldDescriptor (TX21 k).2.2.1 = some (tyX21 k) := by decide +kernel
abbrev cX21_init : ByteArray := prog_17_method_1_code
def yX21_init : MethodName := ⟨RX21, "<init>", "(I)V"⟩
def dkwX21_init_0 : List UInt8 := [42, 183, 0, 1, 42, 27, 181, 0, 7, 177]
abbrev dktX21_init_0 : List UInt8 := dkwX21_init_0 ++ []
theorem dksX21_init_0 : cX21_init.data.toList.drop 0 = dktX21_init_0 := by decide +kernel
theorem dX21_init_0 : decode cX21_init 0 = .ok (.aload_n 0, 1) := dk_42 (dk_at dksX21_init_0 0 rfl rfl)
theorem dX21_init_1 : decode cX21_init 1 = .ok (.invokespecial 1, 3) := dk_183 0 1 (dk_at dksX21_init_0 1 rfl rfl)
theorem dX21_init_4 : decode cX21_init 4 = .ok (.aload_n 0, 1) := dk_42 (dk_at dksX21_init_0 4 rfl rfl)
theorem dX21_init_5 : decode cX21_init 5 = .ok (.iload_n 1, 1) := dk_27 (dk_at dksX21_init_0 5 rfl rfl)
theorem dX21_init_6 : decode cX21_init 6 = .ok (.putfield 7, 3) := dk_181 0 7 (dk_at dksX21_init_0 6 rfl rfl)
theorem dX21_init_9 : decode cX21_init 9 = .ok (.return_, 1) := dk_177 (dk_at dksX21_init_0 9 rfl rfl)
abbrev cX21_isDone : ByteArray := prog_17_method_2_code
def yX21_isDone : MethodName := ⟨RX21, "isDone", "(LDateVale;LDateVale$State;)Z"⟩
def dkwX21_isDone_0 : List UInt8 := [44, 180, 0, 13, 42, 180, 0, 7, 46, 156, 0, 5, 3, 172, 44, 42, 180, 0, 7, 182, 0, 19, 4, 172]
abbrev dktX21_isDone_0 : List UInt8 := dkwX21_isDone_0 ++ []
theorem dksX21_isDone_0 : cX21_isDone.data.toList.drop 0 = dktX21_isDone_0 := by decide +kernel
theorem dX21_isDone_0 : decode cX21_isDone 0 = .ok (.aload_n 2, 1) := dk_44 (dk_at dksX21_isDone_0 0 rfl rfl)
theorem dX21_isDone_1 : decode cX21_isDone 1 = .ok (.getfield 13, 3) := dk_180 0 13 (dk_at dksX21_isDone_0 1 rfl rfl)
theorem dX21_isDone_4 : decode cX21_isDone 4 = .ok (.aload_n 0, 1) := dk_42 (dk_at dksX21_isDone_0 4 rfl rfl)
theorem dX21_isDone_5 : decode cX21_isDone 5 = .ok (.getfield 7, 3) := dk_180 0 7 (dk_at dksX21_isDone_0 5 rfl rfl)
theorem dX21_isDone_8 : decode cX21_isDone 8 = .ok (.iaload, 1) := dk_46 (dk_at dksX21_isDone_0 8 rfl rfl)
theorem dX21_isDone_9 : decode cX21_isDone 9 = .ok (.ifCond .ge 5, 3) := dk_156 0 5 (dk_at dksX21_isDone_0 9 rfl rfl)
theorem dX21_isDone_12 : decode cX21_isDone 12 = .ok (.iconst 0, 1) := dk_3 (dk_at dksX21_isDone_0 12 rfl rfl)
theorem dX21_isDone_13 : decode cX21_isDone 13 = .ok (.ireturn, 1) := dk_172 (dk_at dksX21_isDone_0 13 rfl rfl)
theorem dX21_isDone_14 : decode cX21_isDone 14 = .ok (.aload_n 2, 1) := dk_44 (dk_at dksX21_isDone_0 14 rfl rfl)
theorem dX21_isDone_15 : decode cX21_isDone 15 = .ok (.aload_n 0, 1) := dk_42 (dk_at dksX21_isDone_0 15 rfl rfl)
theorem dX21_isDone_16 : decode cX21_isDone 16 = .ok (.getfield 7, 3) := dk_180 0 7 (dk_at dksX21_isDone_0 16 rfl rfl)
theorem dX21_isDone_19 : decode cX21_isDone 19 = .ok (.invokevirtual 19, 3) := dk_182 0 19 (dk_at dksX21_isDone_0 19 rfl rfl)
theorem dX21_isDone_22 : decode cX21_isDone 22 = .ok (.iconst 1, 1) := dk_4 (dk_at dksX21_isDone_0 22 rfl rfl)
theorem dX21_isDone_23 : decode cX21_isDone 23 = .ok (.ireturn, 1) := dk_172 (dk_at dksX21_isDone_0 23 rfl rfl)
theorem q150 : (Jvm.Cond.initialized "DateVale$Sent") ∈ lw_all := lw_g (lw_at lw_m1 39 rfl) rfl
theorem q263 : (Jvm.Cond.fieldLinkNest "DateVale$Sent" (13 : Nat) "DateVale$State" "where" "[I" "DateVale") ∈ lw_tbl := lw_at lw_m1 152 rfl
theorem q876 : (Jvm.Cond.selects "DateVale$Sent" ({ cls := "java/lang/Object", name := "getClass", desc := "()Ljava/lang/Class;" } : Jvm.MethodName) ({ cls := "java/lang/Object", name := "getClass", desc := "()Ljava/lang/Class;" } : Jvm.MethodName)) ∈ lw_all := lw_g (lw_at lw_m4 45 rfl) rfl
theorem q1110 : (Jvm.Cond.instantiable "DateVale$Sent" (1 : Nat)) ∈ lw_all := lw_g (lw_at lw_m5 39 rfl) rfl
theorem q1112 : (Jvm.Cond.instanceMethod ({ cls := "DateVale$Sent", name := "<init>", desc := "(I)V" } : Jvm.MethodName)) ∈ lw_all := lw_g (lw_at lw_m5 41 rfl) rfl
theorem q1113 : (Jvm.Cond.code ({ cls := "DateVale$Sent", name := "<init>", desc := "(I)V" } : Jvm.MethodName) prog_17_method_1_code (2 : Nat) (Option.none : Option Jvm.ClassFile.FieldType)) ∈ lw_all := lw_g (lw_at lw_m5 42 rfl) rfl
theorem q1114 : (Jvm.Cond.methodLinkNest "DateVale$Sent" (1 : Nat) ({ cls := "DateVale$Line", name := "<init>", desc := "()V" } : Jvm.MethodName) "DateVale") ∈ lw_tbl := lw_at lw_m5 43 rfl
theorem q1115 : (Jvm.Cond.fieldLink "DateVale$Sent" (7 : Nat) "DateVale$Sent" "guest" "I") ∈ lw_all := lw_g (lw_at lw_m5 44 rfl) rfl
theorem q1116 : (Jvm.Cond.laysFinal "DateVale$Sent" "DateVale$Sent" "guest" "I") ∈ lw_all := lw_g (lw_at lw_m5 45 rfl) rfl
theorem q1117 : (Jvm.Cond.soleField "DateVale$Sent" "guest") ∈ lw_all := lw_g (lw_at lw_m5 46 rfl) rfl
theorem q1118 : (Jvm.Cond.superclass "DateVale$Sent" "DateVale$Line") ∈ lw_all := lw_g (lw_at lw_m5 47 rfl) rfl
theorem q1309 : (Jvm.Cond.selects "DateVale$Sent" ({ cls := "DateVale$Line", name := "isDone", desc := "(LDateVale;LDateVale$State;)Z" } : Jvm.MethodName) ({ cls := "DateVale$Sent", name := "isDone", desc := "(LDateVale;LDateVale$State;)Z" } : Jvm.MethodName)) ∈ lw_all := lw_g (lw_at lw_m5 238 rfl) rfl
theorem q1310 : (Jvm.Cond.instanceMethod ({ cls := "DateVale$Sent", name := "isDone", desc := "(LDateVale;LDateVale$State;)Z" } : Jvm.MethodName)) ∈ lw_all := lw_g (lw_at lw_m5 239 rfl) rfl
theorem q1311 : (Jvm.Cond.code ({ cls := "DateVale$Sent", name := "isDone", desc := "(LDateVale;LDateVale$State;)Z" } : Jvm.MethodName) prog_17_method_2_code (3 : Nat) (Option.some Jvm.ClassFile.FieldType.boolean)) ∈ lw_all := lw_g (lw_at lw_m6 0 rfl) rfl
theorem q1312 : (Jvm.Cond.methodLink "DateVale$Sent" (19 : Nat) ({ cls := "DateVale$State", name := "goes", desc := "(I)V" } : Jvm.MethodName)) ∈ lw_all := lw_g (lw_at lw_m6 1 rfl) rfl
theorem q2085 : (Jvm.Cond.castable "DateVale$Sent" "DateVale$Line") ∈ lw_tbl := lw_at lw_m9 54 rfl
theorem q2108 : (Jvm.Cond.castable "DateVale$Sent" "java/lang/Object") ∈ lw_tbl := lw_at lw_m9 77 rfl
theorem in_X21 : ∀ w ∈ wsX210, w ∈ lw_all := lw_in wsX210 [1116] (by decide +kernel) (by decide +kernel)
/-! DateVale$Mark -/
set_option maxRecDepth 100000
def RX22 : String := "DateVale$Mark"
def TX22 : u_T := fun k => match k with
  | 0 => ("DateVale$Mark", "state", "LDateVale$State;", true)
  | 1 => ("DateVale$Mark", "in", "[I", true)
  | 2 => ("DateVale$Mark", "at", "[I", true)
  | _ => ("DateVale$Mark", "many", "I", false)
def tyX22 : Nat → FieldType := fun k => match k with
  | 0 => .object "DateVale$State"
  | 1 => .array .int
  | 2 => .array .int
  | _ => .int
abbrev wsX220 : List Cond := u_ws RX22 TX22 4
theorem nmX22 : ∀ a, a < 4 → ∀ b, b < 4 → a ≠ b → (TX22 a).2.1 ≠ (TX22 b).2.1 := by decide +kernel
theorem tyX22_ok : ∀ k, k < 4 → parseFieldDescriptor (TX22 k).2.2.1 = some (tyX22 k) := by decide +kernel
abbrev cX22_init : ByteArray := prog_12_method_1_code
def yX22_init : MethodName := ⟨RX22, "<init>", "()V"⟩
def dkwX22_init_1 : List UInt8 := [16, 8, 188, 10, 181, 0, 22, 177]
abbrev dktX22_init_1 : List UInt8 := dkwX22_init_1 ++ []
def dkwX22_init_0 : List UInt8 := [42, 183, 0, 3, 42, 187, 0, 9, 89, 183, 0, 11, 181, 0, 12, 42, 16, 8, 188, 10, 181, 0, 18, 42]
abbrev dktX22_init_0 : List UInt8 := dkwX22_init_0 ++ dktX22_init_1
theorem dksX22_init_0 : cX22_init.data.toList.drop 0 = dktX22_init_0 := by decide +kernel
theorem dksX22_init_1 : cX22_init.data.toList.drop 24 = dktX22_init_1 := dk_seg dksX22_init_0 24 rfl rfl
theorem dX22_init_0 : decode cX22_init 0 = .ok (.aload_n 0, 1) := dk_42 (dk_at dksX22_init_0 0 rfl rfl)
theorem dX22_init_1 : decode cX22_init 1 = .ok (.invokespecial 3, 3) := dk_183 0 3 (dk_at dksX22_init_0 1 rfl rfl)
theorem dX22_init_4 : decode cX22_init 4 = .ok (.aload_n 0, 1) := dk_42 (dk_at dksX22_init_0 4 rfl rfl)
theorem dX22_init_5 : decode cX22_init 5 = .ok (.new 9, 3) := dk_187 0 9 (dk_at dksX22_init_0 5 rfl rfl)
theorem dX22_init_8 : decode cX22_init 8 = .ok (.dup, 1) := dk_89 (dk_at dksX22_init_0 8 rfl rfl)
theorem dX22_init_9 : decode cX22_init 9 = .ok (.invokespecial 11, 3) := dk_183 0 11 (dk_at dksX22_init_0 9 rfl rfl)
theorem dX22_init_12 : decode cX22_init 12 = .ok (.putfield 12, 3) := dk_181 0 12 (dk_at dksX22_init_0 12 rfl rfl)
theorem dX22_init_15 : decode cX22_init 15 = .ok (.aload_n 0, 1) := dk_42 (dk_at dksX22_init_0 15 rfl rfl)
theorem dX22_init_16 : decode cX22_init 16 = .ok (.bipush 8, 2) := dk_16 8 (dk_at dksX22_init_0 16 rfl rfl)
theorem dX22_init_18 : decode cX22_init 18 = .ok (.newarray .int, 2) := dk_188_10 (dk_at dksX22_init_0 18 rfl rfl)
theorem dX22_init_20 : decode cX22_init 20 = .ok (.putfield 18, 3) := dk_181 0 18 (dk_at dksX22_init_0 20 rfl rfl)
theorem dX22_init_23 : decode cX22_init 23 = .ok (.aload_n 0, 1) := dk_42 (dk_at dksX22_init_0 23 rfl rfl)
theorem dX22_init_24 : decode cX22_init 24 = .ok (.bipush 8, 2) := dk_16 8 (dk_at dksX22_init_1 0 rfl rfl)
theorem dX22_init_26 : decode cX22_init 26 = .ok (.newarray .int, 2) := dk_188_10 (dk_at dksX22_init_1 2 rfl rfl)
theorem dX22_init_28 : decode cX22_init 28 = .ok (.putfield 22, 3) := dk_181 0 22 (dk_at dksX22_init_1 4 rfl rfl)
theorem dX22_init_31 : decode cX22_init 31 = .ok (.return_, 1) := dk_177 (dk_at dksX22_init_1 7 rfl rfl)
theorem q153 : (Jvm.Cond.initialized "DateVale$Mark") ∈ lw_all := lw_g (lw_at lw_m1 42 rfl) rfl
theorem q871 : (Jvm.Cond.selects "DateVale$Mark" ({ cls := "java/lang/Object", name := "getClass", desc := "()Ljava/lang/Class;" } : Jvm.MethodName) ({ cls := "java/lang/Object", name := "getClass", desc := "()Ljava/lang/Class;" } : Jvm.MethodName)) ∈ lw_all := lw_g (lw_at lw_m4 40 rfl) rfl
theorem q1452 : (Jvm.Cond.instantiable "DateVale$Mark" (4 : Nat)) ∈ lw_all := lw_g (lw_at lw_m6 141 rfl) rfl
theorem q1454 : (Jvm.Cond.instanceMethod ({ cls := "DateVale$Mark", name := "<init>", desc := "()V" } : Jvm.MethodName)) ∈ lw_all := lw_g (lw_at lw_m6 143 rfl) rfl
theorem q1455 : (Jvm.Cond.code ({ cls := "DateVale$Mark", name := "<init>", desc := "()V" } : Jvm.MethodName) prog_12_method_1_code (1 : Nat) (Option.none : Option Jvm.ClassFile.FieldType)) ∈ lw_all := lw_g (lw_at lw_m6 144 rfl) rfl
theorem q1456 : (Jvm.Cond.methodLink "DateVale$Mark" (3 : Nat) ({ cls := "java/lang/Object", name := "<init>", desc := "()V" } : Jvm.MethodName)) ∈ lw_all := lw_g (lw_at lw_m6 145 rfl) rfl
theorem q1457 : (Jvm.Cond.classLink "DateVale$Mark" (9 : Nat) "DateVale$State") ∈ lw_all := lw_g (lw_at lw_m6 146 rfl) rfl
theorem q1458 : (Jvm.Cond.methodLinkNest "DateVale$Mark" (11 : Nat) ({ cls := "DateVale$State", name := "<init>", desc := "()V" } : Jvm.MethodName) "DateVale") ∈ lw_tbl := lw_at lw_m6 147 rfl
theorem q1459 : (Jvm.Cond.fieldLink "DateVale$Mark" (12 : Nat) "DateVale$Mark" "state" "LDateVale$State;") ∈ lw_all := lw_g (lw_at lw_m6 148 rfl) rfl
theorem q1461 : (Jvm.Cond.fieldLink "DateVale$Mark" (18 : Nat) "DateVale$Mark" "in" "[I") ∈ lw_all := lw_g (lw_at lw_m6 150 rfl) rfl
theorem q1463 : (Jvm.Cond.fieldLink "DateVale$Mark" (22 : Nat) "DateVale$Mark" "at" "[I") ∈ lw_all := lw_g (lw_at lw_m6 152 rfl) rfl
theorem q1466 : (Jvm.Cond.laysFinal "DateVale$Mark" "DateVale$Mark" "state" "LDateVale$State;") ∈ lw_all := lw_g (lw_at lw_m6 155 rfl) rfl
theorem q1467 : (Jvm.Cond.soleField "DateVale$Mark" "state") ∈ lw_all := lw_g (lw_at lw_m6 156 rfl) rfl
theorem q1468 : (Jvm.Cond.laysFinal "DateVale$Mark" "DateVale$Mark" "in" "[I") ∈ lw_all := lw_g (lw_at lw_m6 157 rfl) rfl
theorem q1469 : (Jvm.Cond.soleField "DateVale$Mark" "in") ∈ lw_all := lw_g (lw_at lw_m6 158 rfl) rfl
theorem q1470 : (Jvm.Cond.laysFinal "DateVale$Mark" "DateVale$Mark" "at" "[I") ∈ lw_all := lw_g (lw_at lw_m6 159 rfl) rfl
theorem q1471 : (Jvm.Cond.soleField "DateVale$Mark" "at") ∈ lw_all := lw_g (lw_at lw_m6 160 rfl) rfl
theorem q1472 : (Jvm.Cond.lays "DateVale$Mark" "DateVale$Mark" "many" "I") ∈ lw_all := lw_g (lw_at lw_m6 161 rfl) rfl
theorem q1473 : (Jvm.Cond.soleField "DateVale$Mark" "many") ∈ lw_all := lw_g (lw_at lw_m6 162 rfl) rfl
theorem q1474 : (Jvm.Cond.superclass "DateVale$Mark" "java/lang/Object") ∈ lw_all := lw_g (lw_at lw_m6 163 rfl) rfl
theorem q2087 : (Jvm.Cond.castable "DateVale$Mark" "java/lang/Object") ∈ lw_tbl := lw_at lw_m9 56 rfl
theorem in_X22 : ∀ w ∈ wsX220, w ∈ lw_all := lw_in wsX220 [1466, 1468, 1470, 1472] (by decide +kernel) (by decide +kernel)
