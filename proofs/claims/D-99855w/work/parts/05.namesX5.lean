/-! DateValeModel -/
set_option maxRecDepth 100000
def RX5 : String := "DateValeModel"
def TX5 : u_T := fun k => match k with
  | 0 => ("DateValeModel", "thrown", "I", false)
  | 1 => ("DateValeModel", "tape", "[I", true)
  | 2 => ("DateValeModel", "taped", "I", false)
  | 3 => ("DateValeModel", "size", "I", false)
  | 4 => ("DateValeModel", "sort", "[I", true)
  | 5 => ("DateValeModel", "place", "[I", true)
  | 6 => ("DateValeModel", "value", "[J", true)
  | 7 => ("DateValeModel", "at", "I", false)
  | 8 => ("DateValeModel", "fault", "I", false)
  | 9 => ("DateValeModel", "words", "[J", true)
  | 10 => ("DateValeModel", "vales", "[I", true)
  | 11 => ("DateValeModel", "op", "[I", true)
  | 12 => ("DateValeModel", "arg", "[I", true)
  | 13 => ("DateValeModel", "codes", "I", false)
  | 14 => ("DateValeModel", "names", "[J", true)
  | 15 => ("DateValeModel", "readNames", "[J", true)
  | 16 => ("DateValeModel", "nameOf", "[I", true)
  | 17 => ("DateValeModel", "readNameOf", "[I", true)
  | 18 => ("DateValeModel", "namesMany", "I", false)
  | 19 => ("DateValeModel", "readMany", "I", false)
  | 20 => ("DateValeModel", "once", "I", false)
  | 21 => ("DateValeModel", "lines", "[I", true)
  | 22 => ("DateValeModel", "facts", "[I", true)
  | 23 => ("DateValeModel", "pile", "[I", true)
  | 24 => ("DateValeModel", "state", "[I", true)
  | 25 => ("DateValeModel", "undos", "I", false)
  | 26 => ("DateValeModel", "isMarked", "[Z", true)
  | 27 => ("DateValeModel", "dates", "[I", true)
  | 28 => ("DateValeModel", "came", "I", false)
  | 29 => ("DateValeModel", "off", "I", false)
  | 30 => ("DateValeModel", "apart", "[I", true)
  | _ => ("DateValeModel", "g", "J", false)
def tyX5 : Nat → FieldType := fun k => match k with
  | 0 => .int
  | 1 => .array .int
  | 2 => .int
  | 3 => .int
  | 4 => .array .int
  | 5 => .array .int
  | 6 => .array .long
  | 7 => .int
  | 8 => .int
  | 9 => .array .long
  | 10 => .array .int
  | 11 => .array .int
  | 12 => .array .int
  | 13 => .int
  | 14 => .array .long
  | 15 => .array .long
  | 16 => .array .int
  | 17 => .array .int
  | 18 => .int
  | 19 => .int
  | 20 => .int
  | 21 => .array .int
  | 22 => .array .int
  | 23 => .array .int
  | 24 => .array .int
  | 25 => .int
  | 26 => .array .boolean
  | 27 => .array .int
  | 28 => .int
  | 29 => .int
  | 30 => .array .int
  | _ => .long
abbrev wsX50 : List Cond := u_ws RX5 TX5 32
set_option maxRecDepth 100000 in
theorem nmX5 : ∀ a, a < 32 → ∀ b, b < 32 → a ≠ b → (TX5 a).2.1 ≠ (TX5 b).2.1 := by decide +kernel
set_option maxRecDepth 100000 in
theorem tyX5_ok : ∀ k, k < 32 → parseFieldDescriptor (TX5 k).2.2.1 = some (tyX5 k) := by decide +kernel
abbrev cX5_thrown : ByteArray := prog_23_method_1_code
def yX5_thrown : MethodName := ⟨RX5, "thrown", "()I"⟩
theorem dX5_thrown_0 : decode cX5_thrown 0 = .ok (.aload_n 0, 1) := by decide +kernel
theorem dX5_thrown_1 : decode cX5_thrown 1 = .ok (.getfield 1, 3) := by decide +kernel
theorem dX5_thrown_4 : decode cX5_thrown 4 = .ok (.ireturn, 1) := by decide +kernel
abbrev cX5_feed : ByteArray := prog_23_method_2_code
def yX5_feed : MethodName := ⟨RX5, "feed", "(JJJ)I"⟩
def dkwX5_feed_1 : List UInt8 := [180, 0, 11, 172]
abbrev dktX5_feed_1 : List UInt8 := dkwX5_feed_1 ++ []
def dkwX5_feed_0 : List UInt8 := [42, 3, 181, 0, 1, 42, 31, 182, 0, 7, 42, 33, 182, 0, 7, 42, 22, 5, 182, 0, 7, 42]
abbrev dktX5_feed_0 : List UInt8 := dkwX5_feed_0 ++ dktX5_feed_1
theorem dksX5_feed_0 : cX5_feed.data.toList.drop 0 = dktX5_feed_0 := by decide +kernel
theorem dksX5_feed_1 : cX5_feed.data.toList.drop 22 = dktX5_feed_1 := dk_seg dksX5_feed_0 22 rfl rfl
theorem dX5_feed_0 : decode cX5_feed 0 = .ok (.aload_n 0, 1) := dk_42 (dk_at dksX5_feed_0 0 rfl rfl)
theorem dX5_feed_1 : decode cX5_feed 1 = .ok (.iconst 0, 1) := dk_3 (dk_at dksX5_feed_0 1 rfl rfl)
theorem dX5_feed_2 : decode cX5_feed 2 = .ok (.putfield 1, 3) := dk_181 0 1 (dk_at dksX5_feed_0 2 rfl rfl)
theorem dX5_feed_5 : decode cX5_feed 5 = .ok (.aload_n 0, 1) := dk_42 (dk_at dksX5_feed_0 5 rfl rfl)
theorem dX5_feed_6 : decode cX5_feed 6 = .ok (.lload_n 1, 1) := dk_31 (dk_at dksX5_feed_0 6 rfl rfl)
theorem dX5_feed_7 : decode cX5_feed 7 = .ok (.invokevirtual 7, 3) := dk_182 0 7 (dk_at dksX5_feed_0 7 rfl rfl)
theorem dX5_feed_10 : decode cX5_feed 10 = .ok (.aload_n 0, 1) := dk_42 (dk_at dksX5_feed_0 10 rfl rfl)
theorem dX5_feed_11 : decode cX5_feed 11 = .ok (.lload_n 3, 1) := dk_33 (dk_at dksX5_feed_0 11 rfl rfl)
theorem dX5_feed_12 : decode cX5_feed 12 = .ok (.invokevirtual 7, 3) := dk_182 0 7 (dk_at dksX5_feed_0 12 rfl rfl)
theorem dX5_feed_15 : decode cX5_feed 15 = .ok (.aload_n 0, 1) := dk_42 (dk_at dksX5_feed_0 15 rfl rfl)
theorem dX5_feed_16 : decode cX5_feed 16 = .ok (.lload 5, 2) := dk_22 5 (dk_at dksX5_feed_0 16 rfl rfl)
theorem dX5_feed_18 : decode cX5_feed 18 = .ok (.invokevirtual 7, 3) := dk_182 0 7 (dk_at dksX5_feed_0 18 rfl rfl)
theorem dX5_feed_21 : decode cX5_feed 21 = .ok (.aload_n 0, 1) := dk_42 (dk_at dksX5_feed_0 21 rfl rfl)
theorem dX5_feed_22 : decode cX5_feed 22 = .ok (.getfield 11, 3) := dk_180 0 11 (dk_at dksX5_feed_1 0 rfl rfl)
theorem dX5_feed_25 : decode cX5_feed 25 = .ok (.ireturn, 1) := dk_172 (dk_at dksX5_feed_1 3 rfl rfl)
abbrev cX5_lay : ByteArray := prog_23_method_3_code
def yX5_lay : MethodName := ⟨RX5, "lay", "(J)V"⟩
def dkwX5_lay_3 : List UInt8 := [167, 255, 187, 177]
abbrev dktX5_lay_3 : List UInt8 := dkwX5_lay_3 ++ []
def dkwX5_lay_2 : List UInt8 := [42, 180, 0, 14, 42, 180, 0, 11, 21, 4, 79, 42, 89, 180, 0, 11, 4, 96, 181, 0, 11, 132, 3, 248]
abbrev dktX5_lay_2 : List UInt8 := dkwX5_lay_2 ++ dktX5_lay_3
def dkwX5_lay_1 : List UInt8 := [21, 4, 16, 32, 161, 0, 41, 21, 4, 16, 126, 163, 0, 34, 42, 180, 0, 11, 17, 3, 232, 162, 0, 24]
abbrev dktX5_lay_1 : List UInt8 := dkwX5_lay_1 ++ dktX5_lay_2
def dkwX5_lay_0 : List UInt8 := [16, 56, 62, 29, 155, 0, 71, 31, 29, 123, 136, 17, 0, 255, 126, 54, 4, 21, 4, 16, 10, 159, 0, 17]
abbrev dktX5_lay_0 : List UInt8 := dkwX5_lay_0 ++ dktX5_lay_1
theorem dksX5_lay_0 : cX5_lay.data.toList.drop 0 = dktX5_lay_0 := by decide +kernel
theorem dksX5_lay_1 : cX5_lay.data.toList.drop 24 = dktX5_lay_1 := dk_seg dksX5_lay_0 24 rfl rfl
theorem dksX5_lay_2 : cX5_lay.data.toList.drop 48 = dktX5_lay_2 := dk_seg dksX5_lay_1 24 rfl rfl
theorem dksX5_lay_3 : cX5_lay.data.toList.drop 72 = dktX5_lay_3 := dk_seg dksX5_lay_2 24 rfl rfl
theorem dX5_lay_0 : decode cX5_lay 0 = .ok (.bipush 56, 2) := dk_16 56 (dk_at dksX5_lay_0 0 rfl rfl)
theorem dX5_lay_2 : decode cX5_lay 2 = .ok (.istore_n 3, 1) := dk_62 (dk_at dksX5_lay_0 2 rfl rfl)
theorem dX5_lay_3 : decode cX5_lay 3 = .ok (.iload_n 3, 1) := dk_29 (dk_at dksX5_lay_0 3 rfl rfl)
theorem dX5_lay_4 : decode cX5_lay 4 = .ok (.ifCond .lt 71, 3) := dk_155 0 71 (dk_at dksX5_lay_0 4 rfl rfl)
theorem dX5_lay_7 : decode cX5_lay 7 = .ok (.lload_n 1, 1) := dk_31 (dk_at dksX5_lay_0 7 rfl rfl)
theorem dX5_lay_8 : decode cX5_lay 8 = .ok (.iload_n 3, 1) := dk_29 (dk_at dksX5_lay_0 8 rfl rfl)
theorem dX5_lay_9 : decode cX5_lay 9 = .ok (.lshr, 1) := dk_123 (dk_at dksX5_lay_0 9 rfl rfl)
theorem dX5_lay_10 : decode cX5_lay 10 = .ok (.l2i, 1) := dk_136 (dk_at dksX5_lay_0 10 rfl rfl)
theorem dX5_lay_11 : decode cX5_lay 11 = .ok (.sipush 255, 3) := dk_17 0 255 (dk_at dksX5_lay_0 11 rfl rfl)
theorem dX5_lay_14 : decode cX5_lay 14 = .ok (.iand, 1) := dk_126 (dk_at dksX5_lay_0 14 rfl rfl)
theorem dX5_lay_15 : decode cX5_lay 15 = .ok (.istore 4, 2) := dk_54 4 (dk_at dksX5_lay_0 15 rfl rfl)
theorem dX5_lay_17 : decode cX5_lay 17 = .ok (.iload 4, 2) := dk_21 4 (dk_at dksX5_lay_0 17 rfl rfl)
theorem dX5_lay_19 : decode cX5_lay 19 = .ok (.bipush 10, 2) := dk_16 10 (dk_at dksX5_lay_0 19 rfl rfl)
theorem dX5_lay_21 : decode cX5_lay 21 = .ok (.if_icmp .eq 17, 3) := dk_159 0 17 (dk_at dksX5_lay_0 21 rfl rfl)
theorem dX5_lay_24 : decode cX5_lay 24 = .ok (.iload 4, 2) := dk_21 4 (dk_at dksX5_lay_1 0 rfl rfl)
theorem dX5_lay_26 : decode cX5_lay 26 = .ok (.bipush 32, 2) := dk_16 32 (dk_at dksX5_lay_1 2 rfl rfl)
theorem dX5_lay_28 : decode cX5_lay 28 = .ok (.if_icmp .lt 41, 3) := dk_161 0 41 (dk_at dksX5_lay_1 4 rfl rfl)
theorem dX5_lay_31 : decode cX5_lay 31 = .ok (.iload 4, 2) := dk_21 4 (dk_at dksX5_lay_1 7 rfl rfl)
theorem dX5_lay_33 : decode cX5_lay 33 = .ok (.bipush 126, 2) := dk_16 126 (dk_at dksX5_lay_1 9 rfl rfl)
theorem dX5_lay_35 : decode cX5_lay 35 = .ok (.if_icmp .gt 34, 3) := dk_163 0 34 (dk_at dksX5_lay_1 11 rfl rfl)
theorem dX5_lay_38 : decode cX5_lay 38 = .ok (.aload_n 0, 1) := dk_42 (dk_at dksX5_lay_1 14 rfl rfl)
theorem dX5_lay_39 : decode cX5_lay 39 = .ok (.getfield 11, 3) := dk_180 0 11 (dk_at dksX5_lay_1 15 rfl rfl)
theorem dX5_lay_42 : decode cX5_lay 42 = .ok (.sipush 1000, 3) := dk_17 3 232 (dk_at dksX5_lay_1 18 rfl rfl)
theorem dX5_lay_45 : decode cX5_lay 45 = .ok (.if_icmp .ge 24, 3) := dk_162 0 24 (dk_at dksX5_lay_1 21 rfl rfl)
theorem dX5_lay_48 : decode cX5_lay 48 = .ok (.aload_n 0, 1) := dk_42 (dk_at dksX5_lay_2 0 rfl rfl)
theorem dX5_lay_49 : decode cX5_lay 49 = .ok (.getfield 14, 3) := dk_180 0 14 (dk_at dksX5_lay_2 1 rfl rfl)
theorem dX5_lay_52 : decode cX5_lay 52 = .ok (.aload_n 0, 1) := dk_42 (dk_at dksX5_lay_2 4 rfl rfl)
theorem dX5_lay_53 : decode cX5_lay 53 = .ok (.getfield 11, 3) := dk_180 0 11 (dk_at dksX5_lay_2 5 rfl rfl)
theorem dX5_lay_56 : decode cX5_lay 56 = .ok (.iload 4, 2) := dk_21 4 (dk_at dksX5_lay_2 8 rfl rfl)
theorem dX5_lay_58 : decode cX5_lay 58 = .ok (.iastore, 1) := dk_79 (dk_at dksX5_lay_2 10 rfl rfl)
theorem dX5_lay_59 : decode cX5_lay 59 = .ok (.aload_n 0, 1) := dk_42 (dk_at dksX5_lay_2 11 rfl rfl)
theorem dX5_lay_60 : decode cX5_lay 60 = .ok (.dup, 1) := dk_89 (dk_at dksX5_lay_2 12 rfl rfl)
theorem dX5_lay_61 : decode cX5_lay 61 = .ok (.getfield 11, 3) := dk_180 0 11 (dk_at dksX5_lay_2 13 rfl rfl)
theorem dX5_lay_64 : decode cX5_lay 64 = .ok (.iconst 1, 1) := dk_4 (dk_at dksX5_lay_2 16 rfl rfl)
theorem dX5_lay_65 : decode cX5_lay 65 = .ok (.iadd, 1) := dk_96 (dk_at dksX5_lay_2 17 rfl rfl)
theorem dX5_lay_66 : decode cX5_lay 66 = .ok (.putfield 11, 3) := dk_181 0 11 (dk_at dksX5_lay_2 18 rfl rfl)
theorem dX5_lay_69 : decode cX5_lay 69 = .ok (.iinc 3 (-8), 3) := dk_132 3 248 (dk_at dksX5_lay_2 21 rfl rfl)
theorem dX5_lay_72 : decode cX5_lay 72 = .ok (.goto (-69), 3) := dk_167 255 187 (dk_at dksX5_lay_3 0 rfl rfl)
theorem dX5_lay_75 : decode cX5_lay 75 = .ok (.return_, 1) := dk_177 (dk_at dksX5_lay_3 3 rfl rfl)
abbrev cX5_init : ByteArray := prog_23_method_4_code
def yX5_init : MethodName := ⟨RX5, "<init>", "()V"⟩
def dkwX5_init_14 : List UInt8 := [188, 10, 181, 0, 127, 42, 3, 182, 0, 130, 42, 182, 0, 134, 177]
abbrev dktX5_init_14 : List UInt8 := dkwX5_init_14 ++ []
def dkwX5_init_13 : List UInt8 := [188, 10, 181, 0, 117, 42, 7, 188, 4, 181, 0, 120, 42, 16, 6, 188, 10, 181, 0, 124, 42, 16, 6]
abbrev dktX5_init_13 : List UInt8 := dkwX5_init_13 ++ dktX5_init_14
def dkwX5_init_12 : List UInt8 := [181, 0, 108, 42, 7, 188, 10, 181, 0, 111, 42, 17, 4, 76, 188, 10, 181, 0, 114, 42, 17, 4, 57]
abbrev dktX5_init_12 : List UInt8 := dkwX5_init_12 ++ dktX5_init_13
def dkwX5_init_11 : List UInt8 := [42, 16, 10, 188, 10, 181, 0, 102, 42, 16, 10, 188, 10, 181, 0, 105, 42, 17, 0, 250, 188, 10]
abbrev dktX5_init_11 : List UInt8 := dkwX5_init_11 ++ dktX5_init_12
def dkwX5_init_10 : List UInt8 := [17, 8, 152, 188, 10, 181, 0, 93, 42, 16, 10, 188, 11, 181, 0, 96, 42, 16, 10, 188, 11, 181, 0, 99]
abbrev dktX5_init_10 : List UInt8 := dkwX5_init_10 ++ dktX5_init_11
def dkwX5_init_9 : List UInt8 := [80, 181, 0, 84, 42, 16, 100, 188, 10, 181, 0, 87, 42, 17, 8, 152, 188, 10, 181, 0, 90, 42]
abbrev dktX5_init_9 : List UInt8 := dkwX5_init_9 ++ dktX5_init_10
def dkwX5_init_8 : List UInt8 := [20, 0, 76, 80, 89, 16, 22, 20, 0, 78, 80, 89, 16, 23, 20, 0, 80, 80, 89, 16, 24, 20, 0, 82]
abbrev dktX5_init_8 : List UInt8 := dkwX5_init_8 ++ dktX5_init_9
def dkwX5_init_7 : List UInt8 := [16, 18, 20, 0, 70, 80, 89, 16, 19, 20, 0, 72, 80, 89, 16, 20, 20, 0, 74, 80, 89, 16, 21]
abbrev dktX5_init_7 : List UInt8 := dkwX5_init_7 ++ dktX5_init_8
def dkwX5_init_6 : List UInt8 := [80, 89, 16, 15, 20, 0, 64, 80, 89, 16, 16, 20, 0, 66, 80, 89, 16, 17, 20, 0, 68, 80, 89]
abbrev dktX5_init_6 : List UInt8 := dkwX5_init_6 ++ dktX5_init_7
def dkwX5_init_5 : List UInt8 := [20, 0, 56, 80, 89, 16, 12, 20, 0, 58, 80, 89, 16, 13, 20, 0, 60, 80, 89, 16, 14, 20, 0, 62]
abbrev dktX5_init_5 : List UInt8 := dkwX5_init_5 ++ dktX5_init_6
def dkwX5_init_4 : List UInt8 := [89, 16, 8, 20, 0, 50, 80, 89, 16, 9, 20, 0, 52, 80, 89, 16, 10, 20, 0, 54, 80, 89, 16, 11]
abbrev dktX5_init_4 : List UInt8 := dkwX5_init_4 ++ dktX5_init_5
def dkwX5_init_3 : List UInt8 := [20, 0, 42, 80, 89, 8, 20, 0, 44, 80, 89, 16, 6, 20, 0, 46, 80, 89, 16, 7, 20, 0, 48, 80]
abbrev dktX5_init_3 : List UInt8 := dkwX5_init_3 ++ dktX5_init_4
def dkwX5_init_2 : List UInt8 := [20, 0, 34, 80, 89, 4, 20, 0, 36, 80, 89, 5, 20, 0, 38, 80, 89, 6, 20, 0, 40, 80, 89, 7]
abbrev dktX5_init_2 : List UInt8 := dkwX5_init_2 ++ dktX5_init_3
def dkwX5_init_1 : List UInt8 := [17, 3, 234, 188, 10, 181, 0, 27, 42, 17, 3, 234, 188, 11, 181, 0, 30, 42, 16, 25, 188, 11, 89, 3]
abbrev dktX5_init_1 : List UInt8 := dkwX5_init_1 ++ dktX5_init_2
def dkwX5_init_0 : List UInt8 := [42, 183, 0, 18, 42, 17, 3, 232, 188, 10, 181, 0, 14, 42, 17, 3, 234, 188, 10, 181, 0, 24, 42]
abbrev dktX5_init_0 : List UInt8 := dkwX5_init_0 ++ dktX5_init_1
theorem dksX5_init_0 : cX5_init.data.toList.drop 0 = dktX5_init_0 := by decide +kernel
theorem dksX5_init_1 : cX5_init.data.toList.drop 23 = dktX5_init_1 := dk_seg dksX5_init_0 23 rfl rfl
theorem dksX5_init_2 : cX5_init.data.toList.drop 47 = dktX5_init_2 := dk_seg dksX5_init_1 24 rfl rfl
theorem dksX5_init_3 : cX5_init.data.toList.drop 71 = dktX5_init_3 := dk_seg dksX5_init_2 24 rfl rfl
theorem dksX5_init_4 : cX5_init.data.toList.drop 95 = dktX5_init_4 := dk_seg dksX5_init_3 24 rfl rfl
theorem dksX5_init_5 : cX5_init.data.toList.drop 119 = dktX5_init_5 := dk_seg dksX5_init_4 24 rfl rfl
theorem dksX5_init_6 : cX5_init.data.toList.drop 143 = dktX5_init_6 := dk_seg dksX5_init_5 24 rfl rfl
theorem dksX5_init_7 : cX5_init.data.toList.drop 166 = dktX5_init_7 := dk_seg dksX5_init_6 23 rfl rfl
theorem dksX5_init_8 : cX5_init.data.toList.drop 189 = dktX5_init_8 := dk_seg dksX5_init_7 23 rfl rfl
theorem dksX5_init_9 : cX5_init.data.toList.drop 213 = dktX5_init_9 := dk_seg dksX5_init_8 24 rfl rfl
theorem dksX5_init_10 : cX5_init.data.toList.drop 235 = dktX5_init_10 := dk_seg dksX5_init_9 22 rfl rfl
theorem dksX5_init_11 : cX5_init.data.toList.drop 259 = dktX5_init_11 := dk_seg dksX5_init_10 24 rfl rfl
theorem dksX5_init_12 : cX5_init.data.toList.drop 281 = dktX5_init_12 := dk_seg dksX5_init_11 22 rfl rfl
theorem dksX5_init_13 : cX5_init.data.toList.drop 304 = dktX5_init_13 := dk_seg dksX5_init_12 23 rfl rfl
theorem dksX5_init_14 : cX5_init.data.toList.drop 327 = dktX5_init_14 := dk_seg dksX5_init_13 23 rfl rfl
theorem dX5_init_0 : decode cX5_init 0 = .ok (.aload_n 0, 1) := dk_42 (dk_at dksX5_init_0 0 rfl rfl)
theorem dX5_init_1 : decode cX5_init 1 = .ok (.invokespecial 18, 3) := dk_183 0 18 (dk_at dksX5_init_0 1 rfl rfl)
theorem dX5_init_4 : decode cX5_init 4 = .ok (.aload_n 0, 1) := dk_42 (dk_at dksX5_init_0 4 rfl rfl)
theorem dX5_init_5 : decode cX5_init 5 = .ok (.sipush 1000, 3) := dk_17 3 232 (dk_at dksX5_init_0 5 rfl rfl)
theorem dX5_init_8 : decode cX5_init 8 = .ok (.newarray .int, 2) := dk_188_10 (dk_at dksX5_init_0 8 rfl rfl)
theorem dX5_init_10 : decode cX5_init 10 = .ok (.putfield 14, 3) := dk_181 0 14 (dk_at dksX5_init_0 10 rfl rfl)
theorem dX5_init_13 : decode cX5_init 13 = .ok (.aload_n 0, 1) := dk_42 (dk_at dksX5_init_0 13 rfl rfl)
theorem dX5_init_14 : decode cX5_init 14 = .ok (.sipush 1002, 3) := dk_17 3 234 (dk_at dksX5_init_0 14 rfl rfl)
theorem dX5_init_17 : decode cX5_init 17 = .ok (.newarray .int, 2) := dk_188_10 (dk_at dksX5_init_0 17 rfl rfl)
theorem dX5_init_19 : decode cX5_init 19 = .ok (.putfield 24, 3) := dk_181 0 24 (dk_at dksX5_init_0 19 rfl rfl)
theorem dX5_init_22 : decode cX5_init 22 = .ok (.aload_n 0, 1) := dk_42 (dk_at dksX5_init_0 22 rfl rfl)
theorem dX5_init_23 : decode cX5_init 23 = .ok (.sipush 1002, 3) := dk_17 3 234 (dk_at dksX5_init_1 0 rfl rfl)
theorem dX5_init_26 : decode cX5_init 26 = .ok (.newarray .int, 2) := dk_188_10 (dk_at dksX5_init_1 3 rfl rfl)
theorem dX5_init_28 : decode cX5_init 28 = .ok (.putfield 27, 3) := dk_181 0 27 (dk_at dksX5_init_1 5 rfl rfl)
theorem dX5_init_31 : decode cX5_init 31 = .ok (.aload_n 0, 1) := dk_42 (dk_at dksX5_init_1 8 rfl rfl)
theorem dX5_init_32 : decode cX5_init 32 = .ok (.sipush 1002, 3) := dk_17 3 234 (dk_at dksX5_init_1 9 rfl rfl)
theorem dX5_init_35 : decode cX5_init 35 = .ok (.newarray .long, 2) := dk_188_11 (dk_at dksX5_init_1 12 rfl rfl)
theorem dX5_init_37 : decode cX5_init 37 = .ok (.putfield 30, 3) := dk_181 0 30 (dk_at dksX5_init_1 14 rfl rfl)
theorem dX5_init_40 : decode cX5_init 40 = .ok (.aload_n 0, 1) := dk_42 (dk_at dksX5_init_1 17 rfl rfl)
theorem dX5_init_41 : decode cX5_init 41 = .ok (.bipush 25, 2) := dk_16 25 (dk_at dksX5_init_1 18 rfl rfl)
theorem dX5_init_43 : decode cX5_init 43 = .ok (.newarray .long, 2) := dk_188_11 (dk_at dksX5_init_1 20 rfl rfl)
theorem dX5_init_45 : decode cX5_init 45 = .ok (.dup, 1) := dk_89 (dk_at dksX5_init_1 22 rfl rfl)
theorem dX5_init_46 : decode cX5_init 46 = .ok (.iconst 0, 1) := dk_3 (dk_at dksX5_init_1 23 rfl rfl)
theorem dX5_init_47 : decode cX5_init 47 = .ok (.ldc2_w 34, 3) := dk_20 0 34 (dk_at dksX5_init_2 0 rfl rfl)
theorem dX5_init_50 : decode cX5_init 50 = .ok (.lastore, 1) := dk_80 (dk_at dksX5_init_2 3 rfl rfl)
theorem dX5_init_51 : decode cX5_init 51 = .ok (.dup, 1) := dk_89 (dk_at dksX5_init_2 4 rfl rfl)
theorem dX5_init_52 : decode cX5_init 52 = .ok (.iconst 1, 1) := dk_4 (dk_at dksX5_init_2 5 rfl rfl)
theorem dX5_init_53 : decode cX5_init 53 = .ok (.ldc2_w 36, 3) := dk_20 0 36 (dk_at dksX5_init_2 6 rfl rfl)
theorem dX5_init_56 : decode cX5_init 56 = .ok (.lastore, 1) := dk_80 (dk_at dksX5_init_2 9 rfl rfl)
theorem dX5_init_57 : decode cX5_init 57 = .ok (.dup, 1) := dk_89 (dk_at dksX5_init_2 10 rfl rfl)
theorem dX5_init_58 : decode cX5_init 58 = .ok (.iconst 2, 1) := dk_5 (dk_at dksX5_init_2 11 rfl rfl)
theorem dX5_init_59 : decode cX5_init 59 = .ok (.ldc2_w 38, 3) := dk_20 0 38 (dk_at dksX5_init_2 12 rfl rfl)
theorem dX5_init_62 : decode cX5_init 62 = .ok (.lastore, 1) := dk_80 (dk_at dksX5_init_2 15 rfl rfl)
theorem dX5_init_63 : decode cX5_init 63 = .ok (.dup, 1) := dk_89 (dk_at dksX5_init_2 16 rfl rfl)
theorem dX5_init_64 : decode cX5_init 64 = .ok (.iconst 3, 1) := dk_6 (dk_at dksX5_init_2 17 rfl rfl)
theorem dX5_init_65 : decode cX5_init 65 = .ok (.ldc2_w 40, 3) := dk_20 0 40 (dk_at dksX5_init_2 18 rfl rfl)
theorem dX5_init_68 : decode cX5_init 68 = .ok (.lastore, 1) := dk_80 (dk_at dksX5_init_2 21 rfl rfl)
theorem dX5_init_69 : decode cX5_init 69 = .ok (.dup, 1) := dk_89 (dk_at dksX5_init_2 22 rfl rfl)
theorem dX5_init_70 : decode cX5_init 70 = .ok (.iconst 4, 1) := dk_7 (dk_at dksX5_init_2 23 rfl rfl)
theorem dX5_init_71 : decode cX5_init 71 = .ok (.ldc2_w 42, 3) := dk_20 0 42 (dk_at dksX5_init_3 0 rfl rfl)
theorem dX5_init_74 : decode cX5_init 74 = .ok (.lastore, 1) := dk_80 (dk_at dksX5_init_3 3 rfl rfl)
theorem dX5_init_75 : decode cX5_init 75 = .ok (.dup, 1) := dk_89 (dk_at dksX5_init_3 4 rfl rfl)
theorem dX5_init_76 : decode cX5_init 76 = .ok (.iconst 5, 1) := dk_8 (dk_at dksX5_init_3 5 rfl rfl)
theorem dX5_init_77 : decode cX5_init 77 = .ok (.ldc2_w 44, 3) := dk_20 0 44 (dk_at dksX5_init_3 6 rfl rfl)
theorem dX5_init_80 : decode cX5_init 80 = .ok (.lastore, 1) := dk_80 (dk_at dksX5_init_3 9 rfl rfl)
theorem dX5_init_81 : decode cX5_init 81 = .ok (.dup, 1) := dk_89 (dk_at dksX5_init_3 10 rfl rfl)
theorem dX5_init_82 : decode cX5_init 82 = .ok (.bipush 6, 2) := dk_16 6 (dk_at dksX5_init_3 11 rfl rfl)
theorem dX5_init_84 : decode cX5_init 84 = .ok (.ldc2_w 46, 3) := dk_20 0 46 (dk_at dksX5_init_3 13 rfl rfl)
theorem dX5_init_87 : decode cX5_init 87 = .ok (.lastore, 1) := dk_80 (dk_at dksX5_init_3 16 rfl rfl)
theorem dX5_init_88 : decode cX5_init 88 = .ok (.dup, 1) := dk_89 (dk_at dksX5_init_3 17 rfl rfl)
theorem dX5_init_89 : decode cX5_init 89 = .ok (.bipush 7, 2) := dk_16 7 (dk_at dksX5_init_3 18 rfl rfl)
theorem dX5_init_91 : decode cX5_init 91 = .ok (.ldc2_w 48, 3) := dk_20 0 48 (dk_at dksX5_init_3 20 rfl rfl)
theorem dX5_init_94 : decode cX5_init 94 = .ok (.lastore, 1) := dk_80 (dk_at dksX5_init_3 23 rfl rfl)
theorem dX5_init_95 : decode cX5_init 95 = .ok (.dup, 1) := dk_89 (dk_at dksX5_init_4 0 rfl rfl)
theorem dX5_init_96 : decode cX5_init 96 = .ok (.bipush 8, 2) := dk_16 8 (dk_at dksX5_init_4 1 rfl rfl)
theorem dX5_init_98 : decode cX5_init 98 = .ok (.ldc2_w 50, 3) := dk_20 0 50 (dk_at dksX5_init_4 3 rfl rfl)
theorem dX5_init_101 : decode cX5_init 101 = .ok (.lastore, 1) := dk_80 (dk_at dksX5_init_4 6 rfl rfl)
theorem dX5_init_102 : decode cX5_init 102 = .ok (.dup, 1) := dk_89 (dk_at dksX5_init_4 7 rfl rfl)
theorem dX5_init_103 : decode cX5_init 103 = .ok (.bipush 9, 2) := dk_16 9 (dk_at dksX5_init_4 8 rfl rfl)
theorem dX5_init_105 : decode cX5_init 105 = .ok (.ldc2_w 52, 3) := dk_20 0 52 (dk_at dksX5_init_4 10 rfl rfl)
theorem dX5_init_108 : decode cX5_init 108 = .ok (.lastore, 1) := dk_80 (dk_at dksX5_init_4 13 rfl rfl)
theorem dX5_init_109 : decode cX5_init 109 = .ok (.dup, 1) := dk_89 (dk_at dksX5_init_4 14 rfl rfl)
theorem dX5_init_110 : decode cX5_init 110 = .ok (.bipush 10, 2) := dk_16 10 (dk_at dksX5_init_4 15 rfl rfl)
theorem dX5_init_112 : decode cX5_init 112 = .ok (.ldc2_w 54, 3) := dk_20 0 54 (dk_at dksX5_init_4 17 rfl rfl)
theorem dX5_init_115 : decode cX5_init 115 = .ok (.lastore, 1) := dk_80 (dk_at dksX5_init_4 20 rfl rfl)
theorem dX5_init_116 : decode cX5_init 116 = .ok (.dup, 1) := dk_89 (dk_at dksX5_init_4 21 rfl rfl)
theorem dX5_init_117 : decode cX5_init 117 = .ok (.bipush 11, 2) := dk_16 11 (dk_at dksX5_init_4 22 rfl rfl)
theorem dX5_init_119 : decode cX5_init 119 = .ok (.ldc2_w 56, 3) := dk_20 0 56 (dk_at dksX5_init_5 0 rfl rfl)
theorem dX5_init_122 : decode cX5_init 122 = .ok (.lastore, 1) := dk_80 (dk_at dksX5_init_5 3 rfl rfl)
theorem dX5_init_123 : decode cX5_init 123 = .ok (.dup, 1) := dk_89 (dk_at dksX5_init_5 4 rfl rfl)
theorem dX5_init_124 : decode cX5_init 124 = .ok (.bipush 12, 2) := dk_16 12 (dk_at dksX5_init_5 5 rfl rfl)
theorem dX5_init_126 : decode cX5_init 126 = .ok (.ldc2_w 58, 3) := dk_20 0 58 (dk_at dksX5_init_5 7 rfl rfl)
theorem dX5_init_129 : decode cX5_init 129 = .ok (.lastore, 1) := dk_80 (dk_at dksX5_init_5 10 rfl rfl)
theorem dX5_init_130 : decode cX5_init 130 = .ok (.dup, 1) := dk_89 (dk_at dksX5_init_5 11 rfl rfl)
theorem dX5_init_131 : decode cX5_init 131 = .ok (.bipush 13, 2) := dk_16 13 (dk_at dksX5_init_5 12 rfl rfl)
theorem dX5_init_133 : decode cX5_init 133 = .ok (.ldc2_w 60, 3) := dk_20 0 60 (dk_at dksX5_init_5 14 rfl rfl)
theorem dX5_init_136 : decode cX5_init 136 = .ok (.lastore, 1) := dk_80 (dk_at dksX5_init_5 17 rfl rfl)
theorem dX5_init_137 : decode cX5_init 137 = .ok (.dup, 1) := dk_89 (dk_at dksX5_init_5 18 rfl rfl)
theorem dX5_init_138 : decode cX5_init 138 = .ok (.bipush 14, 2) := dk_16 14 (dk_at dksX5_init_5 19 rfl rfl)
theorem dX5_init_140 : decode cX5_init 140 = .ok (.ldc2_w 62, 3) := dk_20 0 62 (dk_at dksX5_init_5 21 rfl rfl)
theorem dX5_init_143 : decode cX5_init 143 = .ok (.lastore, 1) := dk_80 (dk_at dksX5_init_6 0 rfl rfl)
theorem dX5_init_144 : decode cX5_init 144 = .ok (.dup, 1) := dk_89 (dk_at dksX5_init_6 1 rfl rfl)
theorem dX5_init_145 : decode cX5_init 145 = .ok (.bipush 15, 2) := dk_16 15 (dk_at dksX5_init_6 2 rfl rfl)
theorem dX5_init_147 : decode cX5_init 147 = .ok (.ldc2_w 64, 3) := dk_20 0 64 (dk_at dksX5_init_6 4 rfl rfl)
theorem dX5_init_150 : decode cX5_init 150 = .ok (.lastore, 1) := dk_80 (dk_at dksX5_init_6 7 rfl rfl)
theorem dX5_init_151 : decode cX5_init 151 = .ok (.dup, 1) := dk_89 (dk_at dksX5_init_6 8 rfl rfl)
theorem dX5_init_152 : decode cX5_init 152 = .ok (.bipush 16, 2) := dk_16 16 (dk_at dksX5_init_6 9 rfl rfl)
theorem dX5_init_154 : decode cX5_init 154 = .ok (.ldc2_w 66, 3) := dk_20 0 66 (dk_at dksX5_init_6 11 rfl rfl)
theorem dX5_init_157 : decode cX5_init 157 = .ok (.lastore, 1) := dk_80 (dk_at dksX5_init_6 14 rfl rfl)
theorem dX5_init_158 : decode cX5_init 158 = .ok (.dup, 1) := dk_89 (dk_at dksX5_init_6 15 rfl rfl)
theorem dX5_init_159 : decode cX5_init 159 = .ok (.bipush 17, 2) := dk_16 17 (dk_at dksX5_init_6 16 rfl rfl)
theorem dX5_init_161 : decode cX5_init 161 = .ok (.ldc2_w 68, 3) := dk_20 0 68 (dk_at dksX5_init_6 18 rfl rfl)
theorem dX5_init_164 : decode cX5_init 164 = .ok (.lastore, 1) := dk_80 (dk_at dksX5_init_6 21 rfl rfl)
theorem dX5_init_165 : decode cX5_init 165 = .ok (.dup, 1) := dk_89 (dk_at dksX5_init_6 22 rfl rfl)
theorem dX5_init_166 : decode cX5_init 166 = .ok (.bipush 18, 2) := dk_16 18 (dk_at dksX5_init_7 0 rfl rfl)
theorem dX5_init_168 : decode cX5_init 168 = .ok (.ldc2_w 70, 3) := dk_20 0 70 (dk_at dksX5_init_7 2 rfl rfl)
theorem dX5_init_171 : decode cX5_init 171 = .ok (.lastore, 1) := dk_80 (dk_at dksX5_init_7 5 rfl rfl)
theorem dX5_init_172 : decode cX5_init 172 = .ok (.dup, 1) := dk_89 (dk_at dksX5_init_7 6 rfl rfl)
theorem dX5_init_173 : decode cX5_init 173 = .ok (.bipush 19, 2) := dk_16 19 (dk_at dksX5_init_7 7 rfl rfl)
theorem dX5_init_175 : decode cX5_init 175 = .ok (.ldc2_w 72, 3) := dk_20 0 72 (dk_at dksX5_init_7 9 rfl rfl)
theorem dX5_init_178 : decode cX5_init 178 = .ok (.lastore, 1) := dk_80 (dk_at dksX5_init_7 12 rfl rfl)
theorem dX5_init_179 : decode cX5_init 179 = .ok (.dup, 1) := dk_89 (dk_at dksX5_init_7 13 rfl rfl)
theorem dX5_init_180 : decode cX5_init 180 = .ok (.bipush 20, 2) := dk_16 20 (dk_at dksX5_init_7 14 rfl rfl)
theorem dX5_init_182 : decode cX5_init 182 = .ok (.ldc2_w 74, 3) := dk_20 0 74 (dk_at dksX5_init_7 16 rfl rfl)
theorem dX5_init_185 : decode cX5_init 185 = .ok (.lastore, 1) := dk_80 (dk_at dksX5_init_7 19 rfl rfl)
theorem dX5_init_186 : decode cX5_init 186 = .ok (.dup, 1) := dk_89 (dk_at dksX5_init_7 20 rfl rfl)
theorem dX5_init_187 : decode cX5_init 187 = .ok (.bipush 21, 2) := dk_16 21 (dk_at dksX5_init_7 21 rfl rfl)
theorem dX5_init_189 : decode cX5_init 189 = .ok (.ldc2_w 76, 3) := dk_20 0 76 (dk_at dksX5_init_8 0 rfl rfl)
theorem dX5_init_192 : decode cX5_init 192 = .ok (.lastore, 1) := dk_80 (dk_at dksX5_init_8 3 rfl rfl)
theorem dX5_init_193 : decode cX5_init 193 = .ok (.dup, 1) := dk_89 (dk_at dksX5_init_8 4 rfl rfl)
theorem dX5_init_194 : decode cX5_init 194 = .ok (.bipush 22, 2) := dk_16 22 (dk_at dksX5_init_8 5 rfl rfl)
theorem dX5_init_196 : decode cX5_init 196 = .ok (.ldc2_w 78, 3) := dk_20 0 78 (dk_at dksX5_init_8 7 rfl rfl)
theorem dX5_init_199 : decode cX5_init 199 = .ok (.lastore, 1) := dk_80 (dk_at dksX5_init_8 10 rfl rfl)
theorem dX5_init_200 : decode cX5_init 200 = .ok (.dup, 1) := dk_89 (dk_at dksX5_init_8 11 rfl rfl)
theorem dX5_init_201 : decode cX5_init 201 = .ok (.bipush 23, 2) := dk_16 23 (dk_at dksX5_init_8 12 rfl rfl)
theorem dX5_init_203 : decode cX5_init 203 = .ok (.ldc2_w 80, 3) := dk_20 0 80 (dk_at dksX5_init_8 14 rfl rfl)
theorem dX5_init_206 : decode cX5_init 206 = .ok (.lastore, 1) := dk_80 (dk_at dksX5_init_8 17 rfl rfl)
theorem dX5_init_207 : decode cX5_init 207 = .ok (.dup, 1) := dk_89 (dk_at dksX5_init_8 18 rfl rfl)
theorem dX5_init_208 : decode cX5_init 208 = .ok (.bipush 24, 2) := dk_16 24 (dk_at dksX5_init_8 19 rfl rfl)
theorem dX5_init_210 : decode cX5_init 210 = .ok (.ldc2_w 82, 3) := dk_20 0 82 (dk_at dksX5_init_8 21 rfl rfl)
theorem dX5_init_213 : decode cX5_init 213 = .ok (.lastore, 1) := dk_80 (dk_at dksX5_init_9 0 rfl rfl)
theorem dX5_init_214 : decode cX5_init 214 = .ok (.putfield 84, 3) := dk_181 0 84 (dk_at dksX5_init_9 1 rfl rfl)
theorem dX5_init_217 : decode cX5_init 217 = .ok (.aload_n 0, 1) := dk_42 (dk_at dksX5_init_9 4 rfl rfl)
theorem dX5_init_218 : decode cX5_init 218 = .ok (.bipush 100, 2) := dk_16 100 (dk_at dksX5_init_9 5 rfl rfl)
theorem dX5_init_220 : decode cX5_init 220 = .ok (.newarray .int, 2) := dk_188_10 (dk_at dksX5_init_9 7 rfl rfl)
theorem dX5_init_222 : decode cX5_init 222 = .ok (.putfield 87, 3) := dk_181 0 87 (dk_at dksX5_init_9 9 rfl rfl)
theorem dX5_init_225 : decode cX5_init 225 = .ok (.aload_n 0, 1) := dk_42 (dk_at dksX5_init_9 12 rfl rfl)
theorem dX5_init_226 : decode cX5_init 226 = .ok (.sipush 2200, 3) := dk_17 8 152 (dk_at dksX5_init_9 13 rfl rfl)
theorem dX5_init_229 : decode cX5_init 229 = .ok (.newarray .int, 2) := dk_188_10 (dk_at dksX5_init_9 16 rfl rfl)
theorem dX5_init_231 : decode cX5_init 231 = .ok (.putfield 90, 3) := dk_181 0 90 (dk_at dksX5_init_9 18 rfl rfl)
theorem dX5_init_234 : decode cX5_init 234 = .ok (.aload_n 0, 1) := dk_42 (dk_at dksX5_init_9 21 rfl rfl)
theorem dX5_init_235 : decode cX5_init 235 = .ok (.sipush 2200, 3) := dk_17 8 152 (dk_at dksX5_init_10 0 rfl rfl)
theorem dX5_init_238 : decode cX5_init 238 = .ok (.newarray .int, 2) := dk_188_10 (dk_at dksX5_init_10 3 rfl rfl)
theorem dX5_init_240 : decode cX5_init 240 = .ok (.putfield 93, 3) := dk_181 0 93 (dk_at dksX5_init_10 5 rfl rfl)
theorem dX5_init_243 : decode cX5_init 243 = .ok (.aload_n 0, 1) := dk_42 (dk_at dksX5_init_10 8 rfl rfl)
theorem dX5_init_244 : decode cX5_init 244 = .ok (.bipush 10, 2) := dk_16 10 (dk_at dksX5_init_10 9 rfl rfl)
theorem dX5_init_246 : decode cX5_init 246 = .ok (.newarray .long, 2) := dk_188_11 (dk_at dksX5_init_10 11 rfl rfl)
theorem dX5_init_248 : decode cX5_init 248 = .ok (.putfield 96, 3) := dk_181 0 96 (dk_at dksX5_init_10 13 rfl rfl)
theorem dX5_init_251 : decode cX5_init 251 = .ok (.aload_n 0, 1) := dk_42 (dk_at dksX5_init_10 16 rfl rfl)
theorem dX5_init_252 : decode cX5_init 252 = .ok (.bipush 10, 2) := dk_16 10 (dk_at dksX5_init_10 17 rfl rfl)
theorem dX5_init_254 : decode cX5_init 254 = .ok (.newarray .long, 2) := dk_188_11 (dk_at dksX5_init_10 19 rfl rfl)
theorem dX5_init_256 : decode cX5_init 256 = .ok (.putfield 99, 3) := dk_181 0 99 (dk_at dksX5_init_10 21 rfl rfl)
theorem dX5_init_259 : decode cX5_init 259 = .ok (.aload_n 0, 1) := dk_42 (dk_at dksX5_init_11 0 rfl rfl)
theorem dX5_init_260 : decode cX5_init 260 = .ok (.bipush 10, 2) := dk_16 10 (dk_at dksX5_init_11 1 rfl rfl)
theorem dX5_init_262 : decode cX5_init 262 = .ok (.newarray .int, 2) := dk_188_10 (dk_at dksX5_init_11 3 rfl rfl)
theorem dX5_init_264 : decode cX5_init 264 = .ok (.putfield 102, 3) := dk_181 0 102 (dk_at dksX5_init_11 5 rfl rfl)
theorem dX5_init_267 : decode cX5_init 267 = .ok (.aload_n 0, 1) := dk_42 (dk_at dksX5_init_11 8 rfl rfl)
theorem dX5_init_268 : decode cX5_init 268 = .ok (.bipush 10, 2) := dk_16 10 (dk_at dksX5_init_11 9 rfl rfl)
theorem dX5_init_270 : decode cX5_init 270 = .ok (.newarray .int, 2) := dk_188_10 (dk_at dksX5_init_11 11 rfl rfl)
theorem dX5_init_272 : decode cX5_init 272 = .ok (.putfield 105, 3) := dk_181 0 105 (dk_at dksX5_init_11 13 rfl rfl)
theorem dX5_init_275 : decode cX5_init 275 = .ok (.aload_n 0, 1) := dk_42 (dk_at dksX5_init_11 16 rfl rfl)
theorem dX5_init_276 : decode cX5_init 276 = .ok (.sipush 250, 3) := dk_17 0 250 (dk_at dksX5_init_11 17 rfl rfl)
theorem dX5_init_279 : decode cX5_init 279 = .ok (.newarray .int, 2) := dk_188_10 (dk_at dksX5_init_11 20 rfl rfl)
theorem dX5_init_281 : decode cX5_init 281 = .ok (.putfield 108, 3) := dk_181 0 108 (dk_at dksX5_init_12 0 rfl rfl)
theorem dX5_init_284 : decode cX5_init 284 = .ok (.aload_n 0, 1) := dk_42 (dk_at dksX5_init_12 3 rfl rfl)
theorem dX5_init_285 : decode cX5_init 285 = .ok (.iconst 4, 1) := dk_7 (dk_at dksX5_init_12 4 rfl rfl)
theorem dX5_init_286 : decode cX5_init 286 = .ok (.newarray .int, 2) := dk_188_10 (dk_at dksX5_init_12 5 rfl rfl)
theorem dX5_init_288 : decode cX5_init 288 = .ok (.putfield 111, 3) := dk_181 0 111 (dk_at dksX5_init_12 7 rfl rfl)
theorem dX5_init_291 : decode cX5_init 291 = .ok (.aload_n 0, 1) := dk_42 (dk_at dksX5_init_12 10 rfl rfl)
theorem dX5_init_292 : decode cX5_init 292 = .ok (.sipush 1100, 3) := dk_17 4 76 (dk_at dksX5_init_12 11 rfl rfl)
theorem dX5_init_295 : decode cX5_init 295 = .ok (.newarray .int, 2) := dk_188_10 (dk_at dksX5_init_12 14 rfl rfl)
theorem dX5_init_297 : decode cX5_init 297 = .ok (.putfield 114, 3) := dk_181 0 114 (dk_at dksX5_init_12 16 rfl rfl)
theorem dX5_init_300 : decode cX5_init 300 = .ok (.aload_n 0, 1) := dk_42 (dk_at dksX5_init_12 19 rfl rfl)
theorem dX5_init_301 : decode cX5_init 301 = .ok (.sipush 1081, 3) := dk_17 4 57 (dk_at dksX5_init_12 20 rfl rfl)
theorem dX5_init_304 : decode cX5_init 304 = .ok (.newarray .int, 2) := dk_188_10 (dk_at dksX5_init_13 0 rfl rfl)
theorem dX5_init_306 : decode cX5_init 306 = .ok (.putfield 117, 3) := dk_181 0 117 (dk_at dksX5_init_13 2 rfl rfl)
theorem dX5_init_309 : decode cX5_init 309 = .ok (.aload_n 0, 1) := dk_42 (dk_at dksX5_init_13 5 rfl rfl)
theorem dX5_init_310 : decode cX5_init 310 = .ok (.iconst 4, 1) := dk_7 (dk_at dksX5_init_13 6 rfl rfl)
theorem dX5_init_311 : decode cX5_init 311 = .ok (.newarray .boolean, 2) := dk_188_4 (dk_at dksX5_init_13 7 rfl rfl)
theorem dX5_init_313 : decode cX5_init 313 = .ok (.putfield 120, 3) := dk_181 0 120 (dk_at dksX5_init_13 9 rfl rfl)
theorem dX5_init_316 : decode cX5_init 316 = .ok (.aload_n 0, 1) := dk_42 (dk_at dksX5_init_13 12 rfl rfl)
theorem dX5_init_317 : decode cX5_init 317 = .ok (.bipush 6, 2) := dk_16 6 (dk_at dksX5_init_13 13 rfl rfl)
theorem dX5_init_319 : decode cX5_init 319 = .ok (.newarray .int, 2) := dk_188_10 (dk_at dksX5_init_13 15 rfl rfl)
theorem dX5_init_321 : decode cX5_init 321 = .ok (.putfield 124, 3) := dk_181 0 124 (dk_at dksX5_init_13 17 rfl rfl)
theorem dX5_init_324 : decode cX5_init 324 = .ok (.aload_n 0, 1) := dk_42 (dk_at dksX5_init_13 20 rfl rfl)
theorem dX5_init_325 : decode cX5_init 325 = .ok (.bipush 6, 2) := dk_16 6 (dk_at dksX5_init_13 21 rfl rfl)
theorem dX5_init_327 : decode cX5_init 327 = .ok (.newarray .int, 2) := dk_188_10 (dk_at dksX5_init_14 0 rfl rfl)
theorem dX5_init_329 : decode cX5_init 329 = .ok (.putfield 127, 3) := dk_181 0 127 (dk_at dksX5_init_14 2 rfl rfl)
theorem dX5_init_332 : decode cX5_init 332 = .ok (.aload_n 0, 1) := dk_42 (dk_at dksX5_init_14 5 rfl rfl)
theorem dX5_init_333 : decode cX5_init 333 = .ok (.iconst 0, 1) := dk_3 (dk_at dksX5_init_14 6 rfl rfl)
theorem dX5_init_334 : decode cX5_init 334 = .ok (.invokevirtual 130, 3) := dk_182 0 130 (dk_at dksX5_init_14 7 rfl rfl)
theorem dX5_init_337 : decode cX5_init 337 = .ok (.aload_n 0, 1) := dk_42 (dk_at dksX5_init_14 10 rfl rfl)
theorem dX5_init_338 : decode cX5_init 338 = .ok (.invokevirtual 134, 3) := dk_182 0 134 (dk_at dksX5_init_14 11 rfl rfl)
theorem dX5_init_341 : decode cX5_init 341 = .ok (.return_, 1) := dk_177 (dk_at dksX5_init_14 14 rfl rfl)
abbrev cX5_standsAsAlways : ByteArray := prog_23_method_18_code
def yX5_standsAsAlways : MethodName := ⟨RX5, "standsAsAlways", "(I)V"⟩
def dkwX5_standsAsAlways_1 : List UInt8 := [180, 0, 87, 27, 5, 96, 4, 79, 42, 180, 0, 87, 27, 6, 96, 2, 79, 177]
abbrev dktX5_standsAsAlways_1 : List UInt8 := dkwX5_standsAsAlways_1 ++ []
def dkwX5_standsAsAlways_0 : List UInt8 := [3, 61, 28, 16, 50, 162, 0, 18, 42, 180, 0, 87, 27, 28, 96, 3, 79, 132, 2, 1, 167, 255, 238, 42]
abbrev dktX5_standsAsAlways_0 : List UInt8 := dkwX5_standsAsAlways_0 ++ dktX5_standsAsAlways_1
theorem dksX5_standsAsAlways_0 : cX5_standsAsAlways.data.toList.drop 0 = dktX5_standsAsAlways_0 := by decide +kernel
theorem dksX5_standsAsAlways_1 : cX5_standsAsAlways.data.toList.drop 24 = dktX5_standsAsAlways_1 := dk_seg dksX5_standsAsAlways_0 24 rfl rfl
theorem dX5_standsAsAlways_0 : decode cX5_standsAsAlways 0 = .ok (.iconst 0, 1) := dk_3 (dk_at dksX5_standsAsAlways_0 0 rfl rfl)
theorem dX5_standsAsAlways_1 : decode cX5_standsAsAlways 1 = .ok (.istore_n 2, 1) := dk_61 (dk_at dksX5_standsAsAlways_0 1 rfl rfl)
theorem dX5_standsAsAlways_2 : decode cX5_standsAsAlways 2 = .ok (.iload_n 2, 1) := dk_28 (dk_at dksX5_standsAsAlways_0 2 rfl rfl)
theorem dX5_standsAsAlways_3 : decode cX5_standsAsAlways 3 = .ok (.bipush 50, 2) := dk_16 50 (dk_at dksX5_standsAsAlways_0 3 rfl rfl)
theorem dX5_standsAsAlways_5 : decode cX5_standsAsAlways 5 = .ok (.if_icmp .ge 18, 3) := dk_162 0 18 (dk_at dksX5_standsAsAlways_0 5 rfl rfl)
theorem dX5_standsAsAlways_8 : decode cX5_standsAsAlways 8 = .ok (.aload_n 0, 1) := dk_42 (dk_at dksX5_standsAsAlways_0 8 rfl rfl)
theorem dX5_standsAsAlways_9 : decode cX5_standsAsAlways 9 = .ok (.getfield 87, 3) := dk_180 0 87 (dk_at dksX5_standsAsAlways_0 9 rfl rfl)
theorem dX5_standsAsAlways_12 : decode cX5_standsAsAlways 12 = .ok (.iload_n 1, 1) := dk_27 (dk_at dksX5_standsAsAlways_0 12 rfl rfl)
theorem dX5_standsAsAlways_13 : decode cX5_standsAsAlways 13 = .ok (.iload_n 2, 1) := dk_28 (dk_at dksX5_standsAsAlways_0 13 rfl rfl)
theorem dX5_standsAsAlways_14 : decode cX5_standsAsAlways 14 = .ok (.iadd, 1) := dk_96 (dk_at dksX5_standsAsAlways_0 14 rfl rfl)
theorem dX5_standsAsAlways_15 : decode cX5_standsAsAlways 15 = .ok (.iconst 0, 1) := dk_3 (dk_at dksX5_standsAsAlways_0 15 rfl rfl)
theorem dX5_standsAsAlways_16 : decode cX5_standsAsAlways 16 = .ok (.iastore, 1) := dk_79 (dk_at dksX5_standsAsAlways_0 16 rfl rfl)
theorem dX5_standsAsAlways_17 : decode cX5_standsAsAlways 17 = .ok (.iinc 2 1, 3) := dk_132 2 1 (dk_at dksX5_standsAsAlways_0 17 rfl rfl)
theorem dX5_standsAsAlways_20 : decode cX5_standsAsAlways 20 = .ok (.goto (-18), 3) := dk_167 255 238 (dk_at dksX5_standsAsAlways_0 20 rfl rfl)
theorem dX5_standsAsAlways_23 : decode cX5_standsAsAlways 23 = .ok (.aload_n 0, 1) := dk_42 (dk_at dksX5_standsAsAlways_0 23 rfl rfl)
theorem dX5_standsAsAlways_24 : decode cX5_standsAsAlways 24 = .ok (.getfield 87, 3) := dk_180 0 87 (dk_at dksX5_standsAsAlways_1 0 rfl rfl)
theorem dX5_standsAsAlways_27 : decode cX5_standsAsAlways 27 = .ok (.iload_n 1, 1) := dk_27 (dk_at dksX5_standsAsAlways_1 3 rfl rfl)
theorem dX5_standsAsAlways_28 : decode cX5_standsAsAlways 28 = .ok (.iconst 2, 1) := dk_5 (dk_at dksX5_standsAsAlways_1 4 rfl rfl)
theorem dX5_standsAsAlways_29 : decode cX5_standsAsAlways 29 = .ok (.iadd, 1) := dk_96 (dk_at dksX5_standsAsAlways_1 5 rfl rfl)
theorem dX5_standsAsAlways_30 : decode cX5_standsAsAlways 30 = .ok (.iconst 1, 1) := dk_4 (dk_at dksX5_standsAsAlways_1 6 rfl rfl)
theorem dX5_standsAsAlways_31 : decode cX5_standsAsAlways 31 = .ok (.iastore, 1) := dk_79 (dk_at dksX5_standsAsAlways_1 7 rfl rfl)
theorem dX5_standsAsAlways_32 : decode cX5_standsAsAlways 32 = .ok (.aload_n 0, 1) := dk_42 (dk_at dksX5_standsAsAlways_1 8 rfl rfl)
theorem dX5_standsAsAlways_33 : decode cX5_standsAsAlways 33 = .ok (.getfield 87, 3) := dk_180 0 87 (dk_at dksX5_standsAsAlways_1 9 rfl rfl)
theorem dX5_standsAsAlways_36 : decode cX5_standsAsAlways 36 = .ok (.iload_n 1, 1) := dk_27 (dk_at dksX5_standsAsAlways_1 12 rfl rfl)
theorem dX5_standsAsAlways_37 : decode cX5_standsAsAlways 37 = .ok (.iconst 3, 1) := dk_6 (dk_at dksX5_standsAsAlways_1 13 rfl rfl)
theorem dX5_standsAsAlways_38 : decode cX5_standsAsAlways 38 = .ok (.iadd, 1) := dk_96 (dk_at dksX5_standsAsAlways_1 14 rfl rfl)
theorem dX5_standsAsAlways_39 : decode cX5_standsAsAlways 39 = .ok (.iconst (-1), 1) := dk_2 (dk_at dksX5_standsAsAlways_1 15 rfl rfl)
theorem dX5_standsAsAlways_40 : decode cX5_standsAsAlways 40 = .ok (.iastore, 1) := dk_79 (dk_at dksX5_standsAsAlways_1 16 rfl rfl)
theorem dX5_standsAsAlways_41 : decode cX5_standsAsAlways 41 = .ok (.return_, 1) := dk_177 (dk_at dksX5_standsAsAlways_1 17 rfl rfl)
abbrev cX5_begins : ByteArray := prog_23_method_44_code
def yX5_begins : MethodName := ⟨RX5, "begins", "()V"⟩
def dkwX5_begins_2 : List UInt8 := [167, 255, 241, 177]
abbrev dktX5_begins_2 : List UInt8 := dkwX5_begins_2 ++ []
def dkwX5_begins_1 : List UInt8 := [42, 3, 181, 1, 33, 3, 60, 27, 7, 162, 0, 16, 42, 180, 0, 120, 27, 3, 84, 132, 1, 1]
abbrev dktX5_begins_1 : List UInt8 := dkwX5_begins_1 ++ dktX5_begins_2
def dkwX5_begins_0 : List UInt8 := [42, 182, 1, 27, 42, 3, 182, 1, 30, 42, 180, 0, 117, 16, 30, 3, 79, 42, 180, 0, 108, 3, 3, 79]
abbrev dktX5_begins_0 : List UInt8 := dkwX5_begins_0 ++ dktX5_begins_1
theorem dksX5_begins_0 : cX5_begins.data.toList.drop 0 = dktX5_begins_0 := by decide +kernel
theorem dksX5_begins_1 : cX5_begins.data.toList.drop 24 = dktX5_begins_1 := dk_seg dksX5_begins_0 24 rfl rfl
theorem dksX5_begins_2 : cX5_begins.data.toList.drop 46 = dktX5_begins_2 := dk_seg dksX5_begins_1 22 rfl rfl
theorem dX5_begins_0 : decode cX5_begins 0 = .ok (.aload_n 0, 1) := dk_42 (dk_at dksX5_begins_0 0 rfl rfl)
theorem dX5_begins_1 : decode cX5_begins 1 = .ok (.invokevirtual 283, 3) := dk_182 1 27 (dk_at dksX5_begins_0 1 rfl rfl)
theorem dX5_begins_4 : decode cX5_begins 4 = .ok (.aload_n 0, 1) := dk_42 (dk_at dksX5_begins_0 4 rfl rfl)
theorem dX5_begins_5 : decode cX5_begins 5 = .ok (.iconst 0, 1) := dk_3 (dk_at dksX5_begins_0 5 rfl rfl)
theorem dX5_begins_6 : decode cX5_begins 6 = .ok (.invokevirtual 286, 3) := dk_182 1 30 (dk_at dksX5_begins_0 6 rfl rfl)
theorem dX5_begins_9 : decode cX5_begins 9 = .ok (.aload_n 0, 1) := dk_42 (dk_at dksX5_begins_0 9 rfl rfl)
theorem dX5_begins_10 : decode cX5_begins 10 = .ok (.getfield 117, 3) := dk_180 0 117 (dk_at dksX5_begins_0 10 rfl rfl)
theorem dX5_begins_13 : decode cX5_begins 13 = .ok (.bipush 30, 2) := dk_16 30 (dk_at dksX5_begins_0 13 rfl rfl)
theorem dX5_begins_15 : decode cX5_begins 15 = .ok (.iconst 0, 1) := dk_3 (dk_at dksX5_begins_0 15 rfl rfl)
theorem dX5_begins_16 : decode cX5_begins 16 = .ok (.iastore, 1) := dk_79 (dk_at dksX5_begins_0 16 rfl rfl)
theorem dX5_begins_17 : decode cX5_begins 17 = .ok (.aload_n 0, 1) := dk_42 (dk_at dksX5_begins_0 17 rfl rfl)
theorem dX5_begins_18 : decode cX5_begins 18 = .ok (.getfield 108, 3) := dk_180 0 108 (dk_at dksX5_begins_0 18 rfl rfl)
theorem dX5_begins_21 : decode cX5_begins 21 = .ok (.iconst 0, 1) := dk_3 (dk_at dksX5_begins_0 21 rfl rfl)
theorem dX5_begins_22 : decode cX5_begins 22 = .ok (.iconst 0, 1) := dk_3 (dk_at dksX5_begins_0 22 rfl rfl)
theorem dX5_begins_23 : decode cX5_begins 23 = .ok (.iastore, 1) := dk_79 (dk_at dksX5_begins_0 23 rfl rfl)
theorem dX5_begins_24 : decode cX5_begins 24 = .ok (.aload_n 0, 1) := dk_42 (dk_at dksX5_begins_1 0 rfl rfl)
theorem dX5_begins_25 : decode cX5_begins 25 = .ok (.iconst 0, 1) := dk_3 (dk_at dksX5_begins_1 1 rfl rfl)
theorem dX5_begins_26 : decode cX5_begins 26 = .ok (.putfield 289, 3) := dk_181 1 33 (dk_at dksX5_begins_1 2 rfl rfl)
theorem dX5_begins_29 : decode cX5_begins 29 = .ok (.iconst 0, 1) := dk_3 (dk_at dksX5_begins_1 5 rfl rfl)
theorem dX5_begins_30 : decode cX5_begins 30 = .ok (.istore_n 1, 1) := dk_60 (dk_at dksX5_begins_1 6 rfl rfl)
theorem dX5_begins_31 : decode cX5_begins 31 = .ok (.iload_n 1, 1) := dk_27 (dk_at dksX5_begins_1 7 rfl rfl)
theorem dX5_begins_32 : decode cX5_begins 32 = .ok (.iconst 4, 1) := dk_7 (dk_at dksX5_begins_1 8 rfl rfl)
theorem dX5_begins_33 : decode cX5_begins 33 = .ok (.if_icmp .ge 16, 3) := dk_162 0 16 (dk_at dksX5_begins_1 9 rfl rfl)
theorem dX5_begins_36 : decode cX5_begins 36 = .ok (.aload_n 0, 1) := dk_42 (dk_at dksX5_begins_1 12 rfl rfl)
theorem dX5_begins_37 : decode cX5_begins 37 = .ok (.getfield 120, 3) := dk_180 0 120 (dk_at dksX5_begins_1 13 rfl rfl)
theorem dX5_begins_40 : decode cX5_begins 40 = .ok (.iload_n 1, 1) := dk_27 (dk_at dksX5_begins_1 16 rfl rfl)
theorem dX5_begins_41 : decode cX5_begins 41 = .ok (.iconst 0, 1) := dk_3 (dk_at dksX5_begins_1 17 rfl rfl)
theorem dX5_begins_42 : decode cX5_begins 42 = .ok (.bastore, 1) := dk_84 (dk_at dksX5_begins_1 18 rfl rfl)
theorem dX5_begins_43 : decode cX5_begins 43 = .ok (.iinc 1 1, 3) := dk_132 1 1 (dk_at dksX5_begins_1 19 rfl rfl)
theorem dX5_begins_46 : decode cX5_begins 46 = .ok (.goto (-15), 3) := dk_167 255 241 (dk_at dksX5_begins_2 0 rfl rfl)
theorem dX5_begins_49 : decode cX5_begins 49 = .ok (.return_, 1) := dk_177 (dk_at dksX5_begins_2 3 rfl rfl)
abbrev cX5_datesAsTold : ByteArray := prog_23_method_43_code
def yX5_datesAsTold : MethodName := ⟨RX5, "datesAsTold", "()V"⟩
def dkwX5_datesAsTold_1 : List UInt8 := [132, 1, 1, 167, 255, 233, 177]
abbrev dktX5_datesAsTold_1 : List UInt8 := dkwX5_datesAsTold_1 ++ []
def dkwX5_datesAsTold_0 : List UInt8 := [3, 60, 27, 42, 182, 1, 21, 162, 0, 21, 42, 180, 0, 124, 27, 42, 27, 5, 182, 1, 24, 79]
abbrev dktX5_datesAsTold_0 : List UInt8 := dkwX5_datesAsTold_0 ++ dktX5_datesAsTold_1
theorem dksX5_datesAsTold_0 : cX5_datesAsTold.data.toList.drop 0 = dktX5_datesAsTold_0 := by decide +kernel
theorem dksX5_datesAsTold_1 : cX5_datesAsTold.data.toList.drop 22 = dktX5_datesAsTold_1 := dk_seg dksX5_datesAsTold_0 22 rfl rfl
theorem dX5_datesAsTold_0 : decode cX5_datesAsTold 0 = .ok (.iconst 0, 1) := dk_3 (dk_at dksX5_datesAsTold_0 0 rfl rfl)
theorem dX5_datesAsTold_1 : decode cX5_datesAsTold 1 = .ok (.istore_n 1, 1) := dk_60 (dk_at dksX5_datesAsTold_0 1 rfl rfl)
theorem dX5_datesAsTold_2 : decode cX5_datesAsTold 2 = .ok (.iload_n 1, 1) := dk_27 (dk_at dksX5_datesAsTold_0 2 rfl rfl)
theorem dX5_datesAsTold_3 : decode cX5_datesAsTold 3 = .ok (.aload_n 0, 1) := dk_42 (dk_at dksX5_datesAsTold_0 3 rfl rfl)
theorem dX5_datesAsTold_4 : decode cX5_datesAsTold 4 = .ok (.invokevirtual 277, 3) := dk_182 1 21 (dk_at dksX5_datesAsTold_0 4 rfl rfl)
theorem dX5_datesAsTold_7 : decode cX5_datesAsTold 7 = .ok (.if_icmp .ge 21, 3) := dk_162 0 21 (dk_at dksX5_datesAsTold_0 7 rfl rfl)
theorem dX5_datesAsTold_10 : decode cX5_datesAsTold 10 = .ok (.aload_n 0, 1) := dk_42 (dk_at dksX5_datesAsTold_0 10 rfl rfl)
theorem dX5_datesAsTold_11 : decode cX5_datesAsTold 11 = .ok (.getfield 124, 3) := dk_180 0 124 (dk_at dksX5_datesAsTold_0 11 rfl rfl)
theorem dX5_datesAsTold_14 : decode cX5_datesAsTold 14 = .ok (.iload_n 1, 1) := dk_27 (dk_at dksX5_datesAsTold_0 14 rfl rfl)
theorem dX5_datesAsTold_15 : decode cX5_datesAsTold 15 = .ok (.aload_n 0, 1) := dk_42 (dk_at dksX5_datesAsTold_0 15 rfl rfl)
theorem dX5_datesAsTold_16 : decode cX5_datesAsTold 16 = .ok (.iload_n 1, 1) := dk_27 (dk_at dksX5_datesAsTold_0 16 rfl rfl)
theorem dX5_datesAsTold_17 : decode cX5_datesAsTold 17 = .ok (.iconst 2, 1) := dk_5 (dk_at dksX5_datesAsTold_0 17 rfl rfl)
theorem dX5_datesAsTold_18 : decode cX5_datesAsTold 18 = .ok (.invokevirtual 280, 3) := dk_182 1 24 (dk_at dksX5_datesAsTold_0 18 rfl rfl)
theorem dX5_datesAsTold_21 : decode cX5_datesAsTold 21 = .ok (.iastore, 1) := dk_79 (dk_at dksX5_datesAsTold_0 21 rfl rfl)
theorem dX5_datesAsTold_22 : decode cX5_datesAsTold 22 = .ok (.iinc 1 1, 3) := dk_132 1 1 (dk_at dksX5_datesAsTold_1 0 rfl rfl)
theorem dX5_datesAsTold_25 : decode cX5_datesAsTold 25 = .ok (.goto (-23), 3) := dk_167 255 233 (dk_at dksX5_datesAsTold_1 3 rfl rfl)
theorem dX5_datesAsTold_28 : decode cX5_datesAsTold 28 = .ok (.return_, 1) := dk_177 (dk_at dksX5_datesAsTold_1 6 rfl rfl)
abbrev cX5_days : ByteArray := prog_23_method_47_code
def yX5_days : MethodName := ⟨RX5, "days", "()I"⟩
def dkwX5_days_0 : List UInt8 := [42, 180, 0, 87, 4, 46, 172]
abbrev dktX5_days_0 : List UInt8 := dkwX5_days_0 ++ []
theorem dksX5_days_0 : cX5_days.data.toList.drop 0 = dktX5_days_0 := by decide +kernel
theorem dX5_days_0 : decode cX5_days 0 = .ok (.aload_n 0, 1) := dk_42 (dk_at dksX5_days_0 0 rfl rfl)
theorem dX5_days_1 : decode cX5_days 1 = .ok (.getfield 87, 3) := dk_180 0 87 (dk_at dksX5_days_0 1 rfl rfl)
theorem dX5_days_4 : decode cX5_days 4 = .ok (.iconst 1, 1) := dk_4 (dk_at dksX5_days_0 4 rfl rfl)
theorem dX5_days_5 : decode cX5_days 5 = .ok (.iaload, 1) := dk_46 (dk_at dksX5_days_0 5 rfl rfl)
theorem dX5_days_6 : decode cX5_days 6 = .ok (.ireturn, 1) := dk_172 (dk_at dksX5_days_0 6 rfl rfl)
abbrev cX5_dayOf : ByteArray := prog_23_method_49_code
def yX5_dayOf : MethodName := ⟨RX5, "dayOf", "(II)I"⟩
def dkwX5_dayOf_0 : List UInt8 := [42, 180, 0, 87, 16, 12, 8, 27, 104, 96, 28, 96, 46, 172]
abbrev dktX5_dayOf_0 : List UInt8 := dkwX5_dayOf_0 ++ []
theorem dksX5_dayOf_0 : cX5_dayOf.data.toList.drop 0 = dktX5_dayOf_0 := by decide +kernel
theorem dX5_dayOf_0 : decode cX5_dayOf 0 = .ok (.aload_n 0, 1) := dk_42 (dk_at dksX5_dayOf_0 0 rfl rfl)
theorem dX5_dayOf_1 : decode cX5_dayOf 1 = .ok (.getfield 87, 3) := dk_180 0 87 (dk_at dksX5_dayOf_0 1 rfl rfl)
theorem dX5_dayOf_4 : decode cX5_dayOf 4 = .ok (.bipush 12, 2) := dk_16 12 (dk_at dksX5_dayOf_0 4 rfl rfl)
theorem dX5_dayOf_6 : decode cX5_dayOf 6 = .ok (.iconst 5, 1) := dk_8 (dk_at dksX5_dayOf_0 6 rfl rfl)
theorem dX5_dayOf_7 : decode cX5_dayOf 7 = .ok (.iload_n 1, 1) := dk_27 (dk_at dksX5_dayOf_0 7 rfl rfl)
theorem dX5_dayOf_8 : decode cX5_dayOf 8 = .ok (.imul, 1) := dk_104 (dk_at dksX5_dayOf_0 8 rfl rfl)
theorem dX5_dayOf_9 : decode cX5_dayOf 9 = .ok (.iadd, 1) := dk_96 (dk_at dksX5_dayOf_0 9 rfl rfl)
theorem dX5_dayOf_10 : decode cX5_dayOf 10 = .ok (.iload_n 2, 1) := dk_28 (dk_at dksX5_dayOf_0 10 rfl rfl)
theorem dX5_dayOf_11 : decode cX5_dayOf 11 = .ok (.iadd, 1) := dk_96 (dk_at dksX5_dayOf_0 11 rfl rfl)
theorem dX5_dayOf_12 : decode cX5_dayOf 12 = .ok (.iaload, 1) := dk_46 (dk_at dksX5_dayOf_0 12 rfl rfl)
theorem dX5_dayOf_13 : decode cX5_dayOf 13 = .ok (.ireturn, 1) := dk_172 (dk_at dksX5_dayOf_0 13 rfl rfl)
abbrev cX5_starts : ByteArray := prog_23_method_42_code
def yX5_starts : MethodName := ⟨RX5, "starts", "(I)V"⟩
def dkwX5_starts_4 : List UInt8 := [182, 1, 24, 167, 0, 4, 3, 79, 132, 2, 1, 167, 255, 206, 177]
abbrev dktX5_starts_4 : List UInt8 := dkwX5_starts_4 ++ []
def dkwX5_starts_3 : List UInt8 := [96, 2, 79, 42, 180, 0, 117, 27, 16, 18, 96, 28, 96, 28, 42, 182, 1, 21, 162, 0, 12, 42, 28, 6]
abbrev dktX5_starts_3 : List UInt8 := dkwX5_starts_3 ++ dktX5_starts_4
def dkwX5_starts_2 : List UInt8 := [79, 132, 2, 1, 167, 255, 229, 3, 61, 28, 16, 6, 162, 0, 50, 42, 180, 0, 117, 27, 16, 6, 96, 28]
abbrev dktX5_starts_2 : List UInt8 := dkwX5_starts_2 ++ dktX5_starts_3
def dkwX5_starts_1 : List UInt8 := [61, 28, 42, 182, 1, 14, 162, 0, 25, 42, 180, 0, 117, 27, 5, 96, 28, 96, 42, 28, 3, 182, 1, 18]
abbrev dktX5_starts_1 : List UInt8 := dkwX5_starts_1 ++ dktX5_starts_2
def dkwX5_starts_0 : List UInt8 := [3, 61, 28, 16, 30, 162, 0, 18, 42, 180, 0, 117, 27, 28, 96, 3, 79, 132, 2, 1, 167, 255, 238, 3]
abbrev dktX5_starts_0 : List UInt8 := dkwX5_starts_0 ++ dktX5_starts_1
theorem dksX5_starts_0 : cX5_starts.data.toList.drop 0 = dktX5_starts_0 := by decide +kernel
theorem dksX5_starts_1 : cX5_starts.data.toList.drop 24 = dktX5_starts_1 := dk_seg dksX5_starts_0 24 rfl rfl
theorem dksX5_starts_2 : cX5_starts.data.toList.drop 48 = dktX5_starts_2 := dk_seg dksX5_starts_1 24 rfl rfl
theorem dksX5_starts_3 : cX5_starts.data.toList.drop 72 = dktX5_starts_3 := dk_seg dksX5_starts_2 24 rfl rfl
theorem dksX5_starts_4 : cX5_starts.data.toList.drop 96 = dktX5_starts_4 := dk_seg dksX5_starts_3 24 rfl rfl
theorem dX5_starts_0 : decode cX5_starts 0 = .ok (.iconst 0, 1) := dk_3 (dk_at dksX5_starts_0 0 rfl rfl)
theorem dX5_starts_1 : decode cX5_starts 1 = .ok (.istore_n 2, 1) := dk_61 (dk_at dksX5_starts_0 1 rfl rfl)
theorem dX5_starts_2 : decode cX5_starts 2 = .ok (.iload_n 2, 1) := dk_28 (dk_at dksX5_starts_0 2 rfl rfl)
theorem dX5_starts_3 : decode cX5_starts 3 = .ok (.bipush 30, 2) := dk_16 30 (dk_at dksX5_starts_0 3 rfl rfl)
theorem dX5_starts_5 : decode cX5_starts 5 = .ok (.if_icmp .ge 18, 3) := dk_162 0 18 (dk_at dksX5_starts_0 5 rfl rfl)
theorem dX5_starts_8 : decode cX5_starts 8 = .ok (.aload_n 0, 1) := dk_42 (dk_at dksX5_starts_0 8 rfl rfl)
theorem dX5_starts_9 : decode cX5_starts 9 = .ok (.getfield 117, 3) := dk_180 0 117 (dk_at dksX5_starts_0 9 rfl rfl)
theorem dX5_starts_12 : decode cX5_starts 12 = .ok (.iload_n 1, 1) := dk_27 (dk_at dksX5_starts_0 12 rfl rfl)
theorem dX5_starts_13 : decode cX5_starts 13 = .ok (.iload_n 2, 1) := dk_28 (dk_at dksX5_starts_0 13 rfl rfl)
theorem dX5_starts_14 : decode cX5_starts 14 = .ok (.iadd, 1) := dk_96 (dk_at dksX5_starts_0 14 rfl rfl)
theorem dX5_starts_15 : decode cX5_starts 15 = .ok (.iconst 0, 1) := dk_3 (dk_at dksX5_starts_0 15 rfl rfl)
theorem dX5_starts_16 : decode cX5_starts 16 = .ok (.iastore, 1) := dk_79 (dk_at dksX5_starts_0 16 rfl rfl)
theorem dX5_starts_17 : decode cX5_starts 17 = .ok (.iinc 2 1, 3) := dk_132 2 1 (dk_at dksX5_starts_0 17 rfl rfl)
theorem dX5_starts_20 : decode cX5_starts 20 = .ok (.goto (-18), 3) := dk_167 255 238 (dk_at dksX5_starts_0 20 rfl rfl)
theorem dX5_starts_23 : decode cX5_starts 23 = .ok (.iconst 0, 1) := dk_3 (dk_at dksX5_starts_0 23 rfl rfl)
theorem dX5_starts_24 : decode cX5_starts 24 = .ok (.istore_n 2, 1) := dk_61 (dk_at dksX5_starts_1 0 rfl rfl)
theorem dX5_starts_25 : decode cX5_starts 25 = .ok (.iload_n 2, 1) := dk_28 (dk_at dksX5_starts_1 1 rfl rfl)
theorem dX5_starts_26 : decode cX5_starts 26 = .ok (.aload_n 0, 1) := dk_42 (dk_at dksX5_starts_1 2 rfl rfl)
theorem dX5_starts_27 : decode cX5_starts 27 = .ok (.invokevirtual 270, 3) := dk_182 1 14 (dk_at dksX5_starts_1 3 rfl rfl)
theorem dX5_starts_30 : decode cX5_starts 30 = .ok (.if_icmp .ge 25, 3) := dk_162 0 25 (dk_at dksX5_starts_1 6 rfl rfl)
theorem dX5_starts_33 : decode cX5_starts 33 = .ok (.aload_n 0, 1) := dk_42 (dk_at dksX5_starts_1 9 rfl rfl)
theorem dX5_starts_34 : decode cX5_starts 34 = .ok (.getfield 117, 3) := dk_180 0 117 (dk_at dksX5_starts_1 10 rfl rfl)
theorem dX5_starts_37 : decode cX5_starts 37 = .ok (.iload_n 1, 1) := dk_27 (dk_at dksX5_starts_1 13 rfl rfl)
theorem dX5_starts_38 : decode cX5_starts 38 = .ok (.iconst 2, 1) := dk_5 (dk_at dksX5_starts_1 14 rfl rfl)
theorem dX5_starts_39 : decode cX5_starts 39 = .ok (.iadd, 1) := dk_96 (dk_at dksX5_starts_1 15 rfl rfl)
theorem dX5_starts_40 : decode cX5_starts 40 = .ok (.iload_n 2, 1) := dk_28 (dk_at dksX5_starts_1 16 rfl rfl)
theorem dX5_starts_41 : decode cX5_starts 41 = .ok (.iadd, 1) := dk_96 (dk_at dksX5_starts_1 17 rfl rfl)
theorem dX5_starts_42 : decode cX5_starts 42 = .ok (.aload_n 0, 1) := dk_42 (dk_at dksX5_starts_1 18 rfl rfl)
theorem dX5_starts_43 : decode cX5_starts 43 = .ok (.iload_n 2, 1) := dk_28 (dk_at dksX5_starts_1 19 rfl rfl)
theorem dX5_starts_44 : decode cX5_starts 44 = .ok (.iconst 0, 1) := dk_3 (dk_at dksX5_starts_1 20 rfl rfl)
theorem dX5_starts_45 : decode cX5_starts 45 = .ok (.invokevirtual 274, 3) := dk_182 1 18 (dk_at dksX5_starts_1 21 rfl rfl)
theorem dX5_starts_48 : decode cX5_starts 48 = .ok (.iastore, 1) := dk_79 (dk_at dksX5_starts_2 0 rfl rfl)
theorem dX5_starts_49 : decode cX5_starts 49 = .ok (.iinc 2 1, 3) := dk_132 2 1 (dk_at dksX5_starts_2 1 rfl rfl)
theorem dX5_starts_52 : decode cX5_starts 52 = .ok (.goto (-27), 3) := dk_167 255 229 (dk_at dksX5_starts_2 4 rfl rfl)
theorem dX5_starts_55 : decode cX5_starts 55 = .ok (.iconst 0, 1) := dk_3 (dk_at dksX5_starts_2 7 rfl rfl)
theorem dX5_starts_56 : decode cX5_starts 56 = .ok (.istore_n 2, 1) := dk_61 (dk_at dksX5_starts_2 8 rfl rfl)
theorem dX5_starts_57 : decode cX5_starts 57 = .ok (.iload_n 2, 1) := dk_28 (dk_at dksX5_starts_2 9 rfl rfl)
theorem dX5_starts_58 : decode cX5_starts 58 = .ok (.bipush 6, 2) := dk_16 6 (dk_at dksX5_starts_2 10 rfl rfl)
theorem dX5_starts_60 : decode cX5_starts 60 = .ok (.if_icmp .ge 50, 3) := dk_162 0 50 (dk_at dksX5_starts_2 12 rfl rfl)
theorem dX5_starts_63 : decode cX5_starts 63 = .ok (.aload_n 0, 1) := dk_42 (dk_at dksX5_starts_2 15 rfl rfl)
theorem dX5_starts_64 : decode cX5_starts 64 = .ok (.getfield 117, 3) := dk_180 0 117 (dk_at dksX5_starts_2 16 rfl rfl)
theorem dX5_starts_67 : decode cX5_starts 67 = .ok (.iload_n 1, 1) := dk_27 (dk_at dksX5_starts_2 19 rfl rfl)
theorem dX5_starts_68 : decode cX5_starts 68 = .ok (.bipush 6, 2) := dk_16 6 (dk_at dksX5_starts_2 20 rfl rfl)
theorem dX5_starts_70 : decode cX5_starts 70 = .ok (.iadd, 1) := dk_96 (dk_at dksX5_starts_2 22 rfl rfl)
theorem dX5_starts_71 : decode cX5_starts 71 = .ok (.iload_n 2, 1) := dk_28 (dk_at dksX5_starts_2 23 rfl rfl)
theorem dX5_starts_72 : decode cX5_starts 72 = .ok (.iadd, 1) := dk_96 (dk_at dksX5_starts_3 0 rfl rfl)
theorem dX5_starts_73 : decode cX5_starts 73 = .ok (.iconst (-1), 1) := dk_2 (dk_at dksX5_starts_3 1 rfl rfl)
theorem dX5_starts_74 : decode cX5_starts 74 = .ok (.iastore, 1) := dk_79 (dk_at dksX5_starts_3 2 rfl rfl)
theorem dX5_starts_75 : decode cX5_starts 75 = .ok (.aload_n 0, 1) := dk_42 (dk_at dksX5_starts_3 3 rfl rfl)
theorem dX5_starts_76 : decode cX5_starts 76 = .ok (.getfield 117, 3) := dk_180 0 117 (dk_at dksX5_starts_3 4 rfl rfl)
theorem dX5_starts_79 : decode cX5_starts 79 = .ok (.iload_n 1, 1) := dk_27 (dk_at dksX5_starts_3 7 rfl rfl)
theorem dX5_starts_80 : decode cX5_starts 80 = .ok (.bipush 18, 2) := dk_16 18 (dk_at dksX5_starts_3 8 rfl rfl)
theorem dX5_starts_82 : decode cX5_starts 82 = .ok (.iadd, 1) := dk_96 (dk_at dksX5_starts_3 10 rfl rfl)
theorem dX5_starts_83 : decode cX5_starts 83 = .ok (.iload_n 2, 1) := dk_28 (dk_at dksX5_starts_3 11 rfl rfl)
theorem dX5_starts_84 : decode cX5_starts 84 = .ok (.iadd, 1) := dk_96 (dk_at dksX5_starts_3 12 rfl rfl)
theorem dX5_starts_85 : decode cX5_starts 85 = .ok (.iload_n 2, 1) := dk_28 (dk_at dksX5_starts_3 13 rfl rfl)
theorem dX5_starts_86 : decode cX5_starts 86 = .ok (.aload_n 0, 1) := dk_42 (dk_at dksX5_starts_3 14 rfl rfl)
theorem dX5_starts_87 : decode cX5_starts 87 = .ok (.invokevirtual 277, 3) := dk_182 1 21 (dk_at dksX5_starts_3 15 rfl rfl)
theorem dX5_starts_90 : decode cX5_starts 90 = .ok (.if_icmp .ge 12, 3) := dk_162 0 12 (dk_at dksX5_starts_3 18 rfl rfl)
theorem dX5_starts_93 : decode cX5_starts 93 = .ok (.aload_n 0, 1) := dk_42 (dk_at dksX5_starts_3 21 rfl rfl)
theorem dX5_starts_94 : decode cX5_starts 94 = .ok (.iload_n 2, 1) := dk_28 (dk_at dksX5_starts_3 22 rfl rfl)
theorem dX5_starts_95 : decode cX5_starts 95 = .ok (.iconst 3, 1) := dk_6 (dk_at dksX5_starts_3 23 rfl rfl)
theorem dX5_starts_96 : decode cX5_starts 96 = .ok (.invokevirtual 280, 3) := dk_182 1 24 (dk_at dksX5_starts_4 0 rfl rfl)
theorem dX5_starts_99 : decode cX5_starts 99 = .ok (.goto 4, 3) := dk_167 0 4 (dk_at dksX5_starts_4 3 rfl rfl)
theorem dX5_starts_102 : decode cX5_starts 102 = .ok (.iconst 0, 1) := dk_3 (dk_at dksX5_starts_4 6 rfl rfl)
theorem dX5_starts_103 : decode cX5_starts 103 = .ok (.iastore, 1) := dk_79 (dk_at dksX5_starts_4 7 rfl rfl)
theorem dX5_starts_104 : decode cX5_starts 104 = .ok (.iinc 2 1, 3) := dk_132 2 1 (dk_at dksX5_starts_4 8 rfl rfl)
theorem dX5_starts_107 : decode cX5_starts 107 = .ok (.goto (-50), 3) := dk_167 255 206 (dk_at dksX5_starts_4 11 rfl rfl)
theorem dX5_starts_110 : decode cX5_starts 110 = .ok (.return_, 1) := dk_177 (dk_at dksX5_starts_4 14 rfl rfl)
abbrev cX5_houses : ByteArray := prog_23_method_46_code
def yX5_houses : MethodName := ⟨RX5, "houses", "()I"⟩
def dkwX5_houses_0 : List UInt8 := [42, 180, 0, 87, 3, 46, 172]
abbrev dktX5_houses_0 : List UInt8 := dkwX5_houses_0 ++ []
theorem dksX5_houses_0 : cX5_houses.data.toList.drop 0 = dktX5_houses_0 := by decide +kernel
theorem dX5_houses_0 : decode cX5_houses 0 = .ok (.aload_n 0, 1) := dk_42 (dk_at dksX5_houses_0 0 rfl rfl)
theorem dX5_houses_1 : decode cX5_houses 1 = .ok (.getfield 87, 3) := dk_180 0 87 (dk_at dksX5_houses_0 1 rfl rfl)
theorem dX5_houses_4 : decode cX5_houses 4 = .ok (.iconst 0, 1) := dk_3 (dk_at dksX5_houses_0 4 rfl rfl)
theorem dX5_houses_5 : decode cX5_houses 5 = .ok (.iaload, 1) := dk_46 (dk_at dksX5_houses_0 5 rfl rfl)
theorem dX5_houses_6 : decode cX5_houses 6 = .ok (.ireturn, 1) := dk_172 (dk_at dksX5_houses_0 6 rfl rfl)
abbrev cX5_houseOf : ByteArray := prog_23_method_48_code
def yX5_houseOf : MethodName := ⟨RX5, "houseOf", "(II)I"⟩
def dkwX5_houseOf_0 : List UInt8 := [42, 180, 0, 87, 7, 5, 27, 104, 96, 28, 96, 46, 172]
abbrev dktX5_houseOf_0 : List UInt8 := dkwX5_houseOf_0 ++ []
theorem dksX5_houseOf_0 : cX5_houseOf.data.toList.drop 0 = dktX5_houseOf_0 := by decide +kernel
theorem dX5_houseOf_0 : decode cX5_houseOf 0 = .ok (.aload_n 0, 1) := dk_42 (dk_at dksX5_houseOf_0 0 rfl rfl)
theorem dX5_houseOf_1 : decode cX5_houseOf 1 = .ok (.getfield 87, 3) := dk_180 0 87 (dk_at dksX5_houseOf_0 1 rfl rfl)
theorem dX5_houseOf_4 : decode cX5_houseOf 4 = .ok (.iconst 4, 1) := dk_7 (dk_at dksX5_houseOf_0 4 rfl rfl)
theorem dX5_houseOf_5 : decode cX5_houseOf 5 = .ok (.iconst 2, 1) := dk_5 (dk_at dksX5_houseOf_0 5 rfl rfl)
theorem dX5_houseOf_6 : decode cX5_houseOf 6 = .ok (.iload_n 1, 1) := dk_27 (dk_at dksX5_houseOf_0 6 rfl rfl)
theorem dX5_houseOf_7 : decode cX5_houseOf 7 = .ok (.imul, 1) := dk_104 (dk_at dksX5_houseOf_0 7 rfl rfl)
theorem dX5_houseOf_8 : decode cX5_houseOf 8 = .ok (.iadd, 1) := dk_96 (dk_at dksX5_houseOf_0 8 rfl rfl)
theorem dX5_houseOf_9 : decode cX5_houseOf 9 = .ok (.iload_n 2, 1) := dk_28 (dk_at dksX5_houseOf_0 9 rfl rfl)
theorem dX5_houseOf_10 : decode cX5_houseOf 10 = .ok (.iadd, 1) := dk_96 (dk_at dksX5_houseOf_0 10 rfl rfl)
theorem dX5_houseOf_11 : decode cX5_houseOf 11 = .ok (.iaload, 1) := dk_46 (dk_at dksX5_houseOf_0 11 rfl rfl)
theorem dX5_houseOf_12 : decode cX5_houseOf 12 = .ok (.ireturn, 1) := dk_172 (dk_at dksX5_houseOf_0 12 rfl rfl)
abbrev cX5_vale : ByteArray := prog_23_method_26_code
def yX5_vale : MethodName := ⟨RX5, "vale", "()I"⟩
def dkwX5_vale_8 : List UInt8 := [167, 255, 221, 42, 42, 180, 0, 188, 181, 0, 191, 42, 182, 0, 134, 3, 172]
abbrev dktX5_vale_8 : List UInt8 := dkwX5_vale_8 ++ []
def dkwX5_vale_7 : List UInt8 := [42, 180, 0, 99, 27, 47, 80, 42, 180, 0, 102, 27, 42, 180, 0, 105, 27, 46, 79, 132, 1, 1]
abbrev dktX5_vale_7 : List UInt8 := dkwX5_vale_7 ++ dktX5_vale_8
def dkwX5_vale_6 : List UInt8 := [96, 46, 79, 132, 1, 1, 167, 255, 213, 3, 60, 27, 42, 180, 0, 188, 162, 0, 33, 42, 180, 0, 96, 27]
abbrev dktX5_vale_6 : List UInt8 := dkwX5_vale_6 ++ dktX5_vale_7
def dkwX5_vale_5 : List UInt8 := [42, 180, 0, 90, 17, 4, 76, 27, 96, 46, 79, 42, 180, 0, 93, 27, 42, 180, 0, 93, 17, 4, 76, 27]
abbrev dktX5_vale_5 : List UInt8 := dkwX5_vale_5 ++ dktX5_vale_6
def dkwX5_vale_4 : List UInt8 := [96, 46, 79, 132, 1, 1, 167, 255, 232, 3, 60, 27, 42, 180, 0, 209, 162, 0, 41, 42, 180, 0, 90, 27]
abbrev dktX5_vale_4 : List UInt8 := dkwX5_vale_4 ++ dktX5_vale_5
def dkwX5_vale_3 : List UInt8 := [180, 0, 163, 172, 3, 60, 27, 16, 50, 162, 0, 24, 42, 180, 0, 87, 27, 42, 180, 0, 87, 16, 50, 27]
abbrev dktX5_vale_3 : List UInt8 := dkwX5_vale_3 ++ dktX5_vale_4
def dkwX5_vale_2 : List UInt8 := [153, 0, 16, 42, 182, 0, 215, 42, 16, 59, 182, 0, 218, 167, 255, 227, 42, 180, 0, 163, 158, 0, 8, 42]
abbrev dktX5_vale_2 : List UInt8 := dkwX5_vale_2 ++ dktX5_vale_3
def dkwX5_vale_1 : List UInt8 := [42, 16, 50, 182, 0, 130, 42, 180, 0, 163, 154, 0, 28, 42, 180, 0, 24, 42, 180, 0, 160, 46]
abbrev dktX5_vale_1 : List UInt8 := dkwX5_vale_1 ++ dktX5_vale_2
def dkwX5_vale_0 : List UInt8 := [42, 3, 181, 0, 1, 42, 182, 0, 206, 42, 3, 181, 0, 209, 42, 3, 181, 0, 188, 42, 3, 181, 0, 212]
abbrev dktX5_vale_0 : List UInt8 := dkwX5_vale_0 ++ dktX5_vale_1
theorem dksX5_vale_0 : cX5_vale.data.toList.drop 0 = dktX5_vale_0 := by decide +kernel
theorem dksX5_vale_1 : cX5_vale.data.toList.drop 24 = dktX5_vale_1 := dk_seg dksX5_vale_0 24 rfl rfl
theorem dksX5_vale_2 : cX5_vale.data.toList.drop 46 = dktX5_vale_2 := dk_seg dksX5_vale_1 22 rfl rfl
theorem dksX5_vale_3 : cX5_vale.data.toList.drop 70 = dktX5_vale_3 := dk_seg dksX5_vale_2 24 rfl rfl
theorem dksX5_vale_4 : cX5_vale.data.toList.drop 94 = dktX5_vale_4 := dk_seg dksX5_vale_3 24 rfl rfl
theorem dksX5_vale_5 : cX5_vale.data.toList.drop 118 = dktX5_vale_5 := dk_seg dksX5_vale_4 24 rfl rfl
theorem dksX5_vale_6 : cX5_vale.data.toList.drop 142 = dktX5_vale_6 := dk_seg dksX5_vale_5 24 rfl rfl
theorem dksX5_vale_7 : cX5_vale.data.toList.drop 166 = dktX5_vale_7 := dk_seg dksX5_vale_6 24 rfl rfl
theorem dksX5_vale_8 : cX5_vale.data.toList.drop 188 = dktX5_vale_8 := dk_seg dksX5_vale_7 22 rfl rfl
theorem dX5_vale_0 : decode cX5_vale 0 = .ok (.aload_n 0, 1) := dk_42 (dk_at dksX5_vale_0 0 rfl rfl)
theorem dX5_vale_1 : decode cX5_vale 1 = .ok (.iconst 0, 1) := dk_3 (dk_at dksX5_vale_0 1 rfl rfl)
theorem dX5_vale_2 : decode cX5_vale 2 = .ok (.putfield 1, 3) := dk_181 0 1 (dk_at dksX5_vale_0 2 rfl rfl)
theorem dX5_vale_5 : decode cX5_vale 5 = .ok (.aload_n 0, 1) := dk_42 (dk_at dksX5_vale_0 5 rfl rfl)
theorem dX5_vale_6 : decode cX5_vale 6 = .ok (.invokevirtual 206, 3) := dk_182 0 206 (dk_at dksX5_vale_0 6 rfl rfl)
theorem dX5_vale_9 : decode cX5_vale 9 = .ok (.aload_n 0, 1) := dk_42 (dk_at dksX5_vale_0 9 rfl rfl)
theorem dX5_vale_10 : decode cX5_vale 10 = .ok (.iconst 0, 1) := dk_3 (dk_at dksX5_vale_0 10 rfl rfl)
theorem dX5_vale_11 : decode cX5_vale 11 = .ok (.putfield 209, 3) := dk_181 0 209 (dk_at dksX5_vale_0 11 rfl rfl)
theorem dX5_vale_14 : decode cX5_vale 14 = .ok (.aload_n 0, 1) := dk_42 (dk_at dksX5_vale_0 14 rfl rfl)
theorem dX5_vale_15 : decode cX5_vale 15 = .ok (.iconst 0, 1) := dk_3 (dk_at dksX5_vale_0 15 rfl rfl)
theorem dX5_vale_16 : decode cX5_vale 16 = .ok (.putfield 188, 3) := dk_181 0 188 (dk_at dksX5_vale_0 16 rfl rfl)
theorem dX5_vale_19 : decode cX5_vale 19 = .ok (.aload_n 0, 1) := dk_42 (dk_at dksX5_vale_0 19 rfl rfl)
theorem dX5_vale_20 : decode cX5_vale 20 = .ok (.iconst 0, 1) := dk_3 (dk_at dksX5_vale_0 20 rfl rfl)
theorem dX5_vale_21 : decode cX5_vale 21 = .ok (.putfield 212, 3) := dk_181 0 212 (dk_at dksX5_vale_0 21 rfl rfl)
theorem dX5_vale_24 : decode cX5_vale 24 = .ok (.aload_n 0, 1) := dk_42 (dk_at dksX5_vale_1 0 rfl rfl)
theorem dX5_vale_25 : decode cX5_vale 25 = .ok (.bipush 50, 2) := dk_16 50 (dk_at dksX5_vale_1 1 rfl rfl)
theorem dX5_vale_27 : decode cX5_vale 27 = .ok (.invokevirtual 130, 3) := dk_182 0 130 (dk_at dksX5_vale_1 3 rfl rfl)
theorem dX5_vale_30 : decode cX5_vale 30 = .ok (.aload_n 0, 1) := dk_42 (dk_at dksX5_vale_1 6 rfl rfl)
theorem dX5_vale_31 : decode cX5_vale 31 = .ok (.getfield 163, 3) := dk_180 0 163 (dk_at dksX5_vale_1 7 rfl rfl)
theorem dX5_vale_34 : decode cX5_vale 34 = .ok (.ifCond .ne 28, 3) := dk_154 0 28 (dk_at dksX5_vale_1 10 rfl rfl)
theorem dX5_vale_37 : decode cX5_vale 37 = .ok (.aload_n 0, 1) := dk_42 (dk_at dksX5_vale_1 13 rfl rfl)
theorem dX5_vale_38 : decode cX5_vale 38 = .ok (.getfield 24, 3) := dk_180 0 24 (dk_at dksX5_vale_1 14 rfl rfl)
theorem dX5_vale_41 : decode cX5_vale 41 = .ok (.aload_n 0, 1) := dk_42 (dk_at dksX5_vale_1 17 rfl rfl)
theorem dX5_vale_42 : decode cX5_vale 42 = .ok (.getfield 160, 3) := dk_180 0 160 (dk_at dksX5_vale_1 18 rfl rfl)
theorem dX5_vale_45 : decode cX5_vale 45 = .ok (.iaload, 1) := dk_46 (dk_at dksX5_vale_1 21 rfl rfl)
theorem dX5_vale_46 : decode cX5_vale 46 = .ok (.ifCond .eq 16, 3) := dk_153 0 16 (dk_at dksX5_vale_2 0 rfl rfl)
theorem dX5_vale_49 : decode cX5_vale 49 = .ok (.aload_n 0, 1) := dk_42 (dk_at dksX5_vale_2 3 rfl rfl)
theorem dX5_vale_50 : decode cX5_vale 50 = .ok (.invokevirtual 215, 3) := dk_182 0 215 (dk_at dksX5_vale_2 4 rfl rfl)
theorem dX5_vale_53 : decode cX5_vale 53 = .ok (.aload_n 0, 1) := dk_42 (dk_at dksX5_vale_2 7 rfl rfl)
theorem dX5_vale_54 : decode cX5_vale 54 = .ok (.bipush 59, 2) := dk_16 59 (dk_at dksX5_vale_2 8 rfl rfl)
theorem dX5_vale_56 : decode cX5_vale 56 = .ok (.invokevirtual 218, 3) := dk_182 0 218 (dk_at dksX5_vale_2 10 rfl rfl)
theorem dX5_vale_59 : decode cX5_vale 59 = .ok (.goto (-29), 3) := dk_167 255 227 (dk_at dksX5_vale_2 13 rfl rfl)
theorem dX5_vale_62 : decode cX5_vale 62 = .ok (.aload_n 0, 1) := dk_42 (dk_at dksX5_vale_2 16 rfl rfl)
theorem dX5_vale_63 : decode cX5_vale 63 = .ok (.getfield 163, 3) := dk_180 0 163 (dk_at dksX5_vale_2 17 rfl rfl)
theorem dX5_vale_66 : decode cX5_vale 66 = .ok (.ifCond .le 8, 3) := dk_158 0 8 (dk_at dksX5_vale_2 20 rfl rfl)
theorem dX5_vale_69 : decode cX5_vale 69 = .ok (.aload_n 0, 1) := dk_42 (dk_at dksX5_vale_2 23 rfl rfl)
theorem dX5_vale_70 : decode cX5_vale 70 = .ok (.getfield 163, 3) := dk_180 0 163 (dk_at dksX5_vale_3 0 rfl rfl)
theorem dX5_vale_73 : decode cX5_vale 73 = .ok (.ireturn, 1) := dk_172 (dk_at dksX5_vale_3 3 rfl rfl)
theorem dX5_vale_74 : decode cX5_vale 74 = .ok (.iconst 0, 1) := dk_3 (dk_at dksX5_vale_3 4 rfl rfl)
theorem dX5_vale_75 : decode cX5_vale 75 = .ok (.istore_n 1, 1) := dk_60 (dk_at dksX5_vale_3 5 rfl rfl)
theorem dX5_vale_76 : decode cX5_vale 76 = .ok (.iload_n 1, 1) := dk_27 (dk_at dksX5_vale_3 6 rfl rfl)
theorem dX5_vale_77 : decode cX5_vale 77 = .ok (.bipush 50, 2) := dk_16 50 (dk_at dksX5_vale_3 7 rfl rfl)
theorem dX5_vale_79 : decode cX5_vale 79 = .ok (.if_icmp .ge 24, 3) := dk_162 0 24 (dk_at dksX5_vale_3 9 rfl rfl)
theorem dX5_vale_82 : decode cX5_vale 82 = .ok (.aload_n 0, 1) := dk_42 (dk_at dksX5_vale_3 12 rfl rfl)
theorem dX5_vale_83 : decode cX5_vale 83 = .ok (.getfield 87, 3) := dk_180 0 87 (dk_at dksX5_vale_3 13 rfl rfl)
theorem dX5_vale_86 : decode cX5_vale 86 = .ok (.iload_n 1, 1) := dk_27 (dk_at dksX5_vale_3 16 rfl rfl)
theorem dX5_vale_87 : decode cX5_vale 87 = .ok (.aload_n 0, 1) := dk_42 (dk_at dksX5_vale_3 17 rfl rfl)
theorem dX5_vale_88 : decode cX5_vale 88 = .ok (.getfield 87, 3) := dk_180 0 87 (dk_at dksX5_vale_3 18 rfl rfl)
theorem dX5_vale_91 : decode cX5_vale 91 = .ok (.bipush 50, 2) := dk_16 50 (dk_at dksX5_vale_3 21 rfl rfl)
theorem dX5_vale_93 : decode cX5_vale 93 = .ok (.iload_n 1, 1) := dk_27 (dk_at dksX5_vale_3 23 rfl rfl)
theorem dX5_vale_94 : decode cX5_vale 94 = .ok (.iadd, 1) := dk_96 (dk_at dksX5_vale_4 0 rfl rfl)
theorem dX5_vale_95 : decode cX5_vale 95 = .ok (.iaload, 1) := dk_46 (dk_at dksX5_vale_4 1 rfl rfl)
theorem dX5_vale_96 : decode cX5_vale 96 = .ok (.iastore, 1) := dk_79 (dk_at dksX5_vale_4 2 rfl rfl)
theorem dX5_vale_97 : decode cX5_vale 97 = .ok (.iinc 1 1, 3) := dk_132 1 1 (dk_at dksX5_vale_4 3 rfl rfl)
theorem dX5_vale_100 : decode cX5_vale 100 = .ok (.goto (-24), 3) := dk_167 255 232 (dk_at dksX5_vale_4 6 rfl rfl)
theorem dX5_vale_103 : decode cX5_vale 103 = .ok (.iconst 0, 1) := dk_3 (dk_at dksX5_vale_4 9 rfl rfl)
theorem dX5_vale_104 : decode cX5_vale 104 = .ok (.istore_n 1, 1) := dk_60 (dk_at dksX5_vale_4 10 rfl rfl)
theorem dX5_vale_105 : decode cX5_vale 105 = .ok (.iload_n 1, 1) := dk_27 (dk_at dksX5_vale_4 11 rfl rfl)
theorem dX5_vale_106 : decode cX5_vale 106 = .ok (.aload_n 0, 1) := dk_42 (dk_at dksX5_vale_4 12 rfl rfl)
theorem dX5_vale_107 : decode cX5_vale 107 = .ok (.getfield 209, 3) := dk_180 0 209 (dk_at dksX5_vale_4 13 rfl rfl)
theorem dX5_vale_110 : decode cX5_vale 110 = .ok (.if_icmp .ge 41, 3) := dk_162 0 41 (dk_at dksX5_vale_4 16 rfl rfl)
theorem dX5_vale_113 : decode cX5_vale 113 = .ok (.aload_n 0, 1) := dk_42 (dk_at dksX5_vale_4 19 rfl rfl)
theorem dX5_vale_114 : decode cX5_vale 114 = .ok (.getfield 90, 3) := dk_180 0 90 (dk_at dksX5_vale_4 20 rfl rfl)
theorem dX5_vale_117 : decode cX5_vale 117 = .ok (.iload_n 1, 1) := dk_27 (dk_at dksX5_vale_4 23 rfl rfl)
theorem dX5_vale_118 : decode cX5_vale 118 = .ok (.aload_n 0, 1) := dk_42 (dk_at dksX5_vale_5 0 rfl rfl)
theorem dX5_vale_119 : decode cX5_vale 119 = .ok (.getfield 90, 3) := dk_180 0 90 (dk_at dksX5_vale_5 1 rfl rfl)
theorem dX5_vale_122 : decode cX5_vale 122 = .ok (.sipush 1100, 3) := dk_17 4 76 (dk_at dksX5_vale_5 4 rfl rfl)
theorem dX5_vale_125 : decode cX5_vale 125 = .ok (.iload_n 1, 1) := dk_27 (dk_at dksX5_vale_5 7 rfl rfl)
theorem dX5_vale_126 : decode cX5_vale 126 = .ok (.iadd, 1) := dk_96 (dk_at dksX5_vale_5 8 rfl rfl)
theorem dX5_vale_127 : decode cX5_vale 127 = .ok (.iaload, 1) := dk_46 (dk_at dksX5_vale_5 9 rfl rfl)
theorem dX5_vale_128 : decode cX5_vale 128 = .ok (.iastore, 1) := dk_79 (dk_at dksX5_vale_5 10 rfl rfl)
theorem dX5_vale_129 : decode cX5_vale 129 = .ok (.aload_n 0, 1) := dk_42 (dk_at dksX5_vale_5 11 rfl rfl)
theorem dX5_vale_130 : decode cX5_vale 130 = .ok (.getfield 93, 3) := dk_180 0 93 (dk_at dksX5_vale_5 12 rfl rfl)
theorem dX5_vale_133 : decode cX5_vale 133 = .ok (.iload_n 1, 1) := dk_27 (dk_at dksX5_vale_5 15 rfl rfl)
theorem dX5_vale_134 : decode cX5_vale 134 = .ok (.aload_n 0, 1) := dk_42 (dk_at dksX5_vale_5 16 rfl rfl)
theorem dX5_vale_135 : decode cX5_vale 135 = .ok (.getfield 93, 3) := dk_180 0 93 (dk_at dksX5_vale_5 17 rfl rfl)
theorem dX5_vale_138 : decode cX5_vale 138 = .ok (.sipush 1100, 3) := dk_17 4 76 (dk_at dksX5_vale_5 20 rfl rfl)
theorem dX5_vale_141 : decode cX5_vale 141 = .ok (.iload_n 1, 1) := dk_27 (dk_at dksX5_vale_5 23 rfl rfl)
theorem dX5_vale_142 : decode cX5_vale 142 = .ok (.iadd, 1) := dk_96 (dk_at dksX5_vale_6 0 rfl rfl)
theorem dX5_vale_143 : decode cX5_vale 143 = .ok (.iaload, 1) := dk_46 (dk_at dksX5_vale_6 1 rfl rfl)
theorem dX5_vale_144 : decode cX5_vale 144 = .ok (.iastore, 1) := dk_79 (dk_at dksX5_vale_6 2 rfl rfl)
theorem dX5_vale_145 : decode cX5_vale 145 = .ok (.iinc 1 1, 3) := dk_132 1 1 (dk_at dksX5_vale_6 3 rfl rfl)
theorem dX5_vale_148 : decode cX5_vale 148 = .ok (.goto (-43), 3) := dk_167 255 213 (dk_at dksX5_vale_6 6 rfl rfl)
theorem dX5_vale_151 : decode cX5_vale 151 = .ok (.iconst 0, 1) := dk_3 (dk_at dksX5_vale_6 9 rfl rfl)
theorem dX5_vale_152 : decode cX5_vale 152 = .ok (.istore_n 1, 1) := dk_60 (dk_at dksX5_vale_6 10 rfl rfl)
theorem dX5_vale_153 : decode cX5_vale 153 = .ok (.iload_n 1, 1) := dk_27 (dk_at dksX5_vale_6 11 rfl rfl)
theorem dX5_vale_154 : decode cX5_vale 154 = .ok (.aload_n 0, 1) := dk_42 (dk_at dksX5_vale_6 12 rfl rfl)
theorem dX5_vale_155 : decode cX5_vale 155 = .ok (.getfield 188, 3) := dk_180 0 188 (dk_at dksX5_vale_6 13 rfl rfl)
theorem dX5_vale_158 : decode cX5_vale 158 = .ok (.if_icmp .ge 33, 3) := dk_162 0 33 (dk_at dksX5_vale_6 16 rfl rfl)
theorem dX5_vale_161 : decode cX5_vale 161 = .ok (.aload_n 0, 1) := dk_42 (dk_at dksX5_vale_6 19 rfl rfl)
theorem dX5_vale_162 : decode cX5_vale 162 = .ok (.getfield 96, 3) := dk_180 0 96 (dk_at dksX5_vale_6 20 rfl rfl)
theorem dX5_vale_165 : decode cX5_vale 165 = .ok (.iload_n 1, 1) := dk_27 (dk_at dksX5_vale_6 23 rfl rfl)
theorem dX5_vale_166 : decode cX5_vale 166 = .ok (.aload_n 0, 1) := dk_42 (dk_at dksX5_vale_7 0 rfl rfl)
theorem dX5_vale_167 : decode cX5_vale 167 = .ok (.getfield 99, 3) := dk_180 0 99 (dk_at dksX5_vale_7 1 rfl rfl)
theorem dX5_vale_170 : decode cX5_vale 170 = .ok (.iload_n 1, 1) := dk_27 (dk_at dksX5_vale_7 4 rfl rfl)
theorem dX5_vale_171 : decode cX5_vale 171 = .ok (.laload, 1) := dk_47 (dk_at dksX5_vale_7 5 rfl rfl)
theorem dX5_vale_172 : decode cX5_vale 172 = .ok (.lastore, 1) := dk_80 (dk_at dksX5_vale_7 6 rfl rfl)
theorem dX5_vale_173 : decode cX5_vale 173 = .ok (.aload_n 0, 1) := dk_42 (dk_at dksX5_vale_7 7 rfl rfl)
theorem dX5_vale_174 : decode cX5_vale 174 = .ok (.getfield 102, 3) := dk_180 0 102 (dk_at dksX5_vale_7 8 rfl rfl)
theorem dX5_vale_177 : decode cX5_vale 177 = .ok (.iload_n 1, 1) := dk_27 (dk_at dksX5_vale_7 11 rfl rfl)
theorem dX5_vale_178 : decode cX5_vale 178 = .ok (.aload_n 0, 1) := dk_42 (dk_at dksX5_vale_7 12 rfl rfl)
theorem dX5_vale_179 : decode cX5_vale 179 = .ok (.getfield 105, 3) := dk_180 0 105 (dk_at dksX5_vale_7 13 rfl rfl)
theorem dX5_vale_182 : decode cX5_vale 182 = .ok (.iload_n 1, 1) := dk_27 (dk_at dksX5_vale_7 16 rfl rfl)
theorem dX5_vale_183 : decode cX5_vale 183 = .ok (.iaload, 1) := dk_46 (dk_at dksX5_vale_7 17 rfl rfl)
theorem dX5_vale_184 : decode cX5_vale 184 = .ok (.iastore, 1) := dk_79 (dk_at dksX5_vale_7 18 rfl rfl)
theorem dX5_vale_185 : decode cX5_vale 185 = .ok (.iinc 1 1, 3) := dk_132 1 1 (dk_at dksX5_vale_7 19 rfl rfl)
theorem dX5_vale_188 : decode cX5_vale 188 = .ok (.goto (-35), 3) := dk_167 255 221 (dk_at dksX5_vale_8 0 rfl rfl)
theorem dX5_vale_191 : decode cX5_vale 191 = .ok (.aload_n 0, 1) := dk_42 (dk_at dksX5_vale_8 3 rfl rfl)
theorem dX5_vale_192 : decode cX5_vale 192 = .ok (.aload_n 0, 1) := dk_42 (dk_at dksX5_vale_8 4 rfl rfl)
theorem dX5_vale_193 : decode cX5_vale 193 = .ok (.getfield 188, 3) := dk_180 0 188 (dk_at dksX5_vale_8 5 rfl rfl)
theorem dX5_vale_196 : decode cX5_vale 196 = .ok (.putfield 191, 3) := dk_181 0 191 (dk_at dksX5_vale_8 8 rfl rfl)
theorem dX5_vale_199 : decode cX5_vale 199 = .ok (.aload_n 0, 1) := dk_42 (dk_at dksX5_vale_8 11 rfl rfl)
theorem dX5_vale_200 : decode cX5_vale 200 = .ok (.invokevirtual 134, 3) := dk_182 0 134 (dk_at dksX5_vale_8 12 rfl rfl)
theorem dX5_vale_203 : decode cX5_vale 203 = .ok (.iconst 0, 1) := dk_3 (dk_at dksX5_vale_8 15 rfl rfl)
theorem dX5_vale_204 : decode cX5_vale 204 = .ok (.ireturn, 1) := dk_172 (dk_at dksX5_vale_8 16 rfl rfl)
abbrev cX5_cutAll : ByteArray := prog_23_method_9_code
def yX5_cutAll : MethodName := ⟨RX5, "cutAll", "()V"⟩
def dkwX5_cutAll_13 : List UInt8 := [181, 0, 163, 177]
abbrev dktX5_cutAll_13 : List UInt8 := dkwX5_cutAll_13 ++ []
def dkwX5_cutAll_12 : List UInt8 := [180, 0, 24, 27, 3, 79, 42, 180, 0, 27, 27, 42, 180, 0, 141, 79, 42, 3, 181, 0, 160, 42, 3]
abbrev dktX5_cutAll_12 : List UInt8 := dkwX5_cutAll_12 ++ dktX5_cutAll_13
def dkwX5_cutAll_11 : List UInt8 := [6, 167, 0, 4, 7, 79, 132, 2, 1, 42, 180, 0, 30, 27, 22, 5, 80, 132, 1, 1, 167, 254, 253, 42]
abbrev dktX5_cutAll_11 : List UInt8 := dkwX5_cutAll_11 ++ dktX5_cutAll_12
def dkwX5_cutAll_10 : List UInt8 := [167, 0, 4, 5, 79, 167, 0, 28, 29, 133, 55, 5, 42, 180, 0, 24, 27, 29, 184, 0, 157, 153, 0, 7]
abbrev dktX5_cutAll_10 : List UInt8 := dkwX5_cutAll_10 ++ dktX5_cutAll_11
def dkwX5_cutAll_9 : List UInt8 := [22, 5, 55, 5, 132, 2, 1, 167, 255, 200, 42, 180, 0, 24, 27, 28, 21, 4, 100, 7, 164, 0, 7, 7]
abbrev dktX5_cutAll_9 : List UInt8 := dkwX5_cutAll_9 ++ dktX5_cutAll_10
def dkwX5_cutAll_8 : List UInt8 := [162, 0, 24, 20, 0, 153, 22, 5, 105, 42, 180, 0, 14, 28, 46, 133, 97, 20, 0, 155, 101, 167, 0, 5]
abbrev dktX5_cutAll_8 : List UInt8 := dkwX5_cutAll_8 ++ dktX5_cutAll_9
def dkwX5_cutAll_7 : List UInt8 := [180, 0, 141, 162, 0, 54, 42, 180, 0, 14, 28, 46, 184, 0, 150, 153, 0, 42, 28, 21, 4, 100, 7]
abbrev dktX5_cutAll_7 : List UInt8 := dkwX5_cutAll_7 ++ dktX5_cutAll_8
def dkwX5_cutAll_6 : List UInt8 := [16, 8, 164, 0, 7, 7, 167, 0, 4, 4, 79, 167, 0, 116, 29, 184, 0, 150, 153, 0, 84, 28, 42]
abbrev dktX5_cutAll_6 : List UInt8 := dkwX5_cutAll_6 ++ dktX5_cutAll_7
def dkwX5_cutAll_5 : List UInt8 := [97, 167, 0, 5, 22, 5, 55, 5, 132, 2, 1, 167, 255, 200, 42, 180, 0, 24, 27, 28, 21, 4, 100]
abbrev dktX5_cutAll_5 : List UInt8 := dkwX5_cutAll_5 ++ dktX5_cutAll_6
def dkwX5_cutAll_4 : List UInt8 := [21, 4, 100, 16, 8, 162, 0, 23, 20, 0, 144, 22, 5, 105, 42, 180, 0, 14, 28, 46, 184, 0, 146, 133]
abbrev dktX5_cutAll_4 : List UInt8 := dkwX5_cutAll_4 ++ dktX5_cutAll_5
def dkwX5_cutAll_3 : List UInt8 := [153, 0, 85, 28, 42, 180, 0, 141, 162, 0, 54, 42, 180, 0, 14, 28, 46, 184, 0, 137, 153, 0, 42, 28]
abbrev dktX5_cutAll_3 : List UInt8 := dkwX5_cutAll_3 ++ dktX5_cutAll_4
def dkwX5_cutAll_2 : List UInt8 := [132, 2, 1, 167, 255, 226, 28, 54, 4, 9, 55, 5, 42, 180, 0, 27, 27, 28, 79, 29, 184, 0, 137]
abbrev dktX5_cutAll_2 : List UInt8 := dkwX5_cutAll_2 ++ dktX5_cutAll_3
def dkwX5_cutAll_1 : List UInt8 := [162, 1, 1, 42, 180, 0, 14, 28, 46, 62, 29, 16, 10, 159, 0, 9, 29, 16, 32, 160, 0, 9]
abbrev dktX5_cutAll_1 : List UInt8 := dkwX5_cutAll_1 ++ dktX5_cutAll_2
def dkwX5_cutAll_0 : List UInt8 := [42, 42, 180, 0, 11, 181, 0, 141, 42, 3, 181, 0, 11, 3, 60, 3, 61, 28, 42, 180, 0, 141]
abbrev dktX5_cutAll_0 : List UInt8 := dkwX5_cutAll_0 ++ dktX5_cutAll_1
theorem dksX5_cutAll_0 : cX5_cutAll.data.toList.drop 0 = dktX5_cutAll_0 := by decide +kernel
theorem dksX5_cutAll_1 : cX5_cutAll.data.toList.drop 22 = dktX5_cutAll_1 := dk_seg dksX5_cutAll_0 22 rfl rfl
theorem dksX5_cutAll_2 : cX5_cutAll.data.toList.drop 44 = dktX5_cutAll_2 := dk_seg dksX5_cutAll_1 22 rfl rfl
theorem dksX5_cutAll_3 : cX5_cutAll.data.toList.drop 67 = dktX5_cutAll_3 := dk_seg dksX5_cutAll_2 23 rfl rfl
theorem dksX5_cutAll_4 : cX5_cutAll.data.toList.drop 91 = dktX5_cutAll_4 := dk_seg dksX5_cutAll_3 24 rfl rfl
theorem dksX5_cutAll_5 : cX5_cutAll.data.toList.drop 115 = dktX5_cutAll_5 := dk_seg dksX5_cutAll_4 24 rfl rfl
theorem dksX5_cutAll_6 : cX5_cutAll.data.toList.drop 138 = dktX5_cutAll_6 := dk_seg dksX5_cutAll_5 23 rfl rfl
theorem dksX5_cutAll_7 : cX5_cutAll.data.toList.drop 161 = dktX5_cutAll_7 := dk_seg dksX5_cutAll_6 23 rfl rfl
theorem dksX5_cutAll_8 : cX5_cutAll.data.toList.drop 184 = dktX5_cutAll_8 := dk_seg dksX5_cutAll_7 23 rfl rfl
theorem dksX5_cutAll_9 : cX5_cutAll.data.toList.drop 208 = dktX5_cutAll_9 := dk_seg dksX5_cutAll_8 24 rfl rfl
theorem dksX5_cutAll_10 : cX5_cutAll.data.toList.drop 232 = dktX5_cutAll_10 := dk_seg dksX5_cutAll_9 24 rfl rfl
theorem dksX5_cutAll_11 : cX5_cutAll.data.toList.drop 256 = dktX5_cutAll_11 := dk_seg dksX5_cutAll_10 24 rfl rfl
theorem dksX5_cutAll_12 : cX5_cutAll.data.toList.drop 280 = dktX5_cutAll_12 := dk_seg dksX5_cutAll_11 24 rfl rfl
theorem dksX5_cutAll_13 : cX5_cutAll.data.toList.drop 303 = dktX5_cutAll_13 := dk_seg dksX5_cutAll_12 23 rfl rfl
theorem dX5_cutAll_0 : decode cX5_cutAll 0 = .ok (.aload_n 0, 1) := dk_42 (dk_at dksX5_cutAll_0 0 rfl rfl)
theorem dX5_cutAll_1 : decode cX5_cutAll 1 = .ok (.aload_n 0, 1) := dk_42 (dk_at dksX5_cutAll_0 1 rfl rfl)
theorem dX5_cutAll_2 : decode cX5_cutAll 2 = .ok (.getfield 11, 3) := dk_180 0 11 (dk_at dksX5_cutAll_0 2 rfl rfl)
theorem dX5_cutAll_5 : decode cX5_cutAll 5 = .ok (.putfield 141, 3) := dk_181 0 141 (dk_at dksX5_cutAll_0 5 rfl rfl)
theorem dX5_cutAll_8 : decode cX5_cutAll 8 = .ok (.aload_n 0, 1) := dk_42 (dk_at dksX5_cutAll_0 8 rfl rfl)
theorem dX5_cutAll_9 : decode cX5_cutAll 9 = .ok (.iconst 0, 1) := dk_3 (dk_at dksX5_cutAll_0 9 rfl rfl)
theorem dX5_cutAll_10 : decode cX5_cutAll 10 = .ok (.putfield 11, 3) := dk_181 0 11 (dk_at dksX5_cutAll_0 10 rfl rfl)
theorem dX5_cutAll_13 : decode cX5_cutAll 13 = .ok (.iconst 0, 1) := dk_3 (dk_at dksX5_cutAll_0 13 rfl rfl)
theorem dX5_cutAll_14 : decode cX5_cutAll 14 = .ok (.istore_n 1, 1) := dk_60 (dk_at dksX5_cutAll_0 14 rfl rfl)
theorem dX5_cutAll_15 : decode cX5_cutAll 15 = .ok (.iconst 0, 1) := dk_3 (dk_at dksX5_cutAll_0 15 rfl rfl)
theorem dX5_cutAll_16 : decode cX5_cutAll 16 = .ok (.istore_n 2, 1) := dk_61 (dk_at dksX5_cutAll_0 16 rfl rfl)
theorem dX5_cutAll_17 : decode cX5_cutAll 17 = .ok (.iload_n 2, 1) := dk_28 (dk_at dksX5_cutAll_0 17 rfl rfl)
theorem dX5_cutAll_18 : decode cX5_cutAll 18 = .ok (.aload_n 0, 1) := dk_42 (dk_at dksX5_cutAll_0 18 rfl rfl)
theorem dX5_cutAll_19 : decode cX5_cutAll 19 = .ok (.getfield 141, 3) := dk_180 0 141 (dk_at dksX5_cutAll_0 19 rfl rfl)
theorem dX5_cutAll_22 : decode cX5_cutAll 22 = .ok (.if_icmp .ge 257, 3) := dk_162 1 1 (dk_at dksX5_cutAll_1 0 rfl rfl)
theorem dX5_cutAll_25 : decode cX5_cutAll 25 = .ok (.aload_n 0, 1) := dk_42 (dk_at dksX5_cutAll_1 3 rfl rfl)
theorem dX5_cutAll_26 : decode cX5_cutAll 26 = .ok (.getfield 14, 3) := dk_180 0 14 (dk_at dksX5_cutAll_1 4 rfl rfl)
theorem dX5_cutAll_29 : decode cX5_cutAll 29 = .ok (.iload_n 2, 1) := dk_28 (dk_at dksX5_cutAll_1 7 rfl rfl)
theorem dX5_cutAll_30 : decode cX5_cutAll 30 = .ok (.iaload, 1) := dk_46 (dk_at dksX5_cutAll_1 8 rfl rfl)
theorem dX5_cutAll_31 : decode cX5_cutAll 31 = .ok (.istore_n 3, 1) := dk_62 (dk_at dksX5_cutAll_1 9 rfl rfl)
theorem dX5_cutAll_32 : decode cX5_cutAll 32 = .ok (.iload_n 3, 1) := dk_29 (dk_at dksX5_cutAll_1 10 rfl rfl)
theorem dX5_cutAll_33 : decode cX5_cutAll 33 = .ok (.bipush 10, 2) := dk_16 10 (dk_at dksX5_cutAll_1 11 rfl rfl)
theorem dX5_cutAll_35 : decode cX5_cutAll 35 = .ok (.if_icmp .eq 9, 3) := dk_159 0 9 (dk_at dksX5_cutAll_1 13 rfl rfl)
theorem dX5_cutAll_38 : decode cX5_cutAll 38 = .ok (.iload_n 3, 1) := dk_29 (dk_at dksX5_cutAll_1 16 rfl rfl)
theorem dX5_cutAll_39 : decode cX5_cutAll 39 = .ok (.bipush 32, 2) := dk_16 32 (dk_at dksX5_cutAll_1 17 rfl rfl)
theorem dX5_cutAll_41 : decode cX5_cutAll 41 = .ok (.if_icmp .ne 9, 3) := dk_160 0 9 (dk_at dksX5_cutAll_1 19 rfl rfl)
theorem dX5_cutAll_44 : decode cX5_cutAll 44 = .ok (.iinc 2 1, 3) := dk_132 2 1 (dk_at dksX5_cutAll_2 0 rfl rfl)
theorem dX5_cutAll_47 : decode cX5_cutAll 47 = .ok (.goto (-30), 3) := dk_167 255 226 (dk_at dksX5_cutAll_2 3 rfl rfl)
theorem dX5_cutAll_50 : decode cX5_cutAll 50 = .ok (.iload_n 2, 1) := dk_28 (dk_at dksX5_cutAll_2 6 rfl rfl)
theorem dX5_cutAll_51 : decode cX5_cutAll 51 = .ok (.istore 4, 2) := dk_54 4 (dk_at dksX5_cutAll_2 7 rfl rfl)
theorem dX5_cutAll_53 : decode cX5_cutAll 53 = .ok (.lconst 0, 1) := dk_9 (dk_at dksX5_cutAll_2 9 rfl rfl)
theorem dX5_cutAll_54 : decode cX5_cutAll 54 = .ok (.lstore 5, 2) := dk_55 5 (dk_at dksX5_cutAll_2 10 rfl rfl)
theorem dX5_cutAll_56 : decode cX5_cutAll 56 = .ok (.aload_n 0, 1) := dk_42 (dk_at dksX5_cutAll_2 12 rfl rfl)
theorem dX5_cutAll_57 : decode cX5_cutAll 57 = .ok (.getfield 27, 3) := dk_180 0 27 (dk_at dksX5_cutAll_2 13 rfl rfl)
theorem dX5_cutAll_60 : decode cX5_cutAll 60 = .ok (.iload_n 1, 1) := dk_27 (dk_at dksX5_cutAll_2 16 rfl rfl)
theorem dX5_cutAll_61 : decode cX5_cutAll 61 = .ok (.iload_n 2, 1) := dk_28 (dk_at dksX5_cutAll_2 17 rfl rfl)
theorem dX5_cutAll_62 : decode cX5_cutAll 62 = .ok (.iastore, 1) := dk_79 (dk_at dksX5_cutAll_2 18 rfl rfl)
theorem dX5_cutAll_63 : decode cX5_cutAll 63 = .ok (.iload_n 3, 1) := dk_29 (dk_at dksX5_cutAll_2 19 rfl rfl)
theorem dX5_cutAll_64 : decode cX5_cutAll 64 = .ok (.invokestatic 137, 3) := dk_184 0 137 (dk_at dksX5_cutAll_2 20 rfl rfl)
theorem dX5_cutAll_67 : decode cX5_cutAll 67 = .ok (.ifCond .eq 85, 3) := dk_153 0 85 (dk_at dksX5_cutAll_3 0 rfl rfl)
theorem dX5_cutAll_70 : decode cX5_cutAll 70 = .ok (.iload_n 2, 1) := dk_28 (dk_at dksX5_cutAll_3 3 rfl rfl)
theorem dX5_cutAll_71 : decode cX5_cutAll 71 = .ok (.aload_n 0, 1) := dk_42 (dk_at dksX5_cutAll_3 4 rfl rfl)
theorem dX5_cutAll_72 : decode cX5_cutAll 72 = .ok (.getfield 141, 3) := dk_180 0 141 (dk_at dksX5_cutAll_3 5 rfl rfl)
theorem dX5_cutAll_75 : decode cX5_cutAll 75 = .ok (.if_icmp .ge 54, 3) := dk_162 0 54 (dk_at dksX5_cutAll_3 8 rfl rfl)
theorem dX5_cutAll_78 : decode cX5_cutAll 78 = .ok (.aload_n 0, 1) := dk_42 (dk_at dksX5_cutAll_3 11 rfl rfl)
theorem dX5_cutAll_79 : decode cX5_cutAll 79 = .ok (.getfield 14, 3) := dk_180 0 14 (dk_at dksX5_cutAll_3 12 rfl rfl)
theorem dX5_cutAll_82 : decode cX5_cutAll 82 = .ok (.iload_n 2, 1) := dk_28 (dk_at dksX5_cutAll_3 15 rfl rfl)
theorem dX5_cutAll_83 : decode cX5_cutAll 83 = .ok (.iaload, 1) := dk_46 (dk_at dksX5_cutAll_3 16 rfl rfl)
theorem dX5_cutAll_84 : decode cX5_cutAll 84 = .ok (.invokestatic 137, 3) := dk_184 0 137 (dk_at dksX5_cutAll_3 17 rfl rfl)
theorem dX5_cutAll_87 : decode cX5_cutAll 87 = .ok (.ifCond .eq 42, 3) := dk_153 0 42 (dk_at dksX5_cutAll_3 20 rfl rfl)
theorem dX5_cutAll_90 : decode cX5_cutAll 90 = .ok (.iload_n 2, 1) := dk_28 (dk_at dksX5_cutAll_3 23 rfl rfl)
theorem dX5_cutAll_91 : decode cX5_cutAll 91 = .ok (.iload 4, 2) := dk_21 4 (dk_at dksX5_cutAll_4 0 rfl rfl)
theorem dX5_cutAll_93 : decode cX5_cutAll 93 = .ok (.isub, 1) := dk_100 (dk_at dksX5_cutAll_4 2 rfl rfl)
theorem dX5_cutAll_94 : decode cX5_cutAll 94 = .ok (.bipush 8, 2) := dk_16 8 (dk_at dksX5_cutAll_4 3 rfl rfl)
theorem dX5_cutAll_96 : decode cX5_cutAll 96 = .ok (.if_icmp .ge 23, 3) := dk_162 0 23 (dk_at dksX5_cutAll_4 5 rfl rfl)
theorem dX5_cutAll_99 : decode cX5_cutAll 99 = .ok (.ldc2_w 144, 3) := dk_20 0 144 (dk_at dksX5_cutAll_4 8 rfl rfl)
theorem dX5_cutAll_102 : decode cX5_cutAll 102 = .ok (.lload 5, 2) := dk_22 5 (dk_at dksX5_cutAll_4 11 rfl rfl)
theorem dX5_cutAll_104 : decode cX5_cutAll 104 = .ok (.lmul, 1) := dk_105 (dk_at dksX5_cutAll_4 13 rfl rfl)
theorem dX5_cutAll_105 : decode cX5_cutAll 105 = .ok (.aload_n 0, 1) := dk_42 (dk_at dksX5_cutAll_4 14 rfl rfl)
theorem dX5_cutAll_106 : decode cX5_cutAll 106 = .ok (.getfield 14, 3) := dk_180 0 14 (dk_at dksX5_cutAll_4 15 rfl rfl)
theorem dX5_cutAll_109 : decode cX5_cutAll 109 = .ok (.iload_n 2, 1) := dk_28 (dk_at dksX5_cutAll_4 18 rfl rfl)
theorem dX5_cutAll_110 : decode cX5_cutAll 110 = .ok (.iaload, 1) := dk_46 (dk_at dksX5_cutAll_4 19 rfl rfl)
theorem dX5_cutAll_111 : decode cX5_cutAll 111 = .ok (.invokestatic 146, 3) := dk_184 0 146 (dk_at dksX5_cutAll_4 20 rfl rfl)
theorem dX5_cutAll_114 : decode cX5_cutAll 114 = .ok (.i2l, 1) := dk_133 (dk_at dksX5_cutAll_4 23 rfl rfl)
theorem dX5_cutAll_115 : decode cX5_cutAll 115 = .ok (.ladd, 1) := dk_97 (dk_at dksX5_cutAll_5 0 rfl rfl)
theorem dX5_cutAll_116 : decode cX5_cutAll 116 = .ok (.goto 5, 3) := dk_167 0 5 (dk_at dksX5_cutAll_5 1 rfl rfl)
theorem dX5_cutAll_119 : decode cX5_cutAll 119 = .ok (.lload 5, 2) := dk_22 5 (dk_at dksX5_cutAll_5 4 rfl rfl)
theorem dX5_cutAll_121 : decode cX5_cutAll 121 = .ok (.lstore 5, 2) := dk_55 5 (dk_at dksX5_cutAll_5 6 rfl rfl)
theorem dX5_cutAll_123 : decode cX5_cutAll 123 = .ok (.iinc 2 1, 3) := dk_132 2 1 (dk_at dksX5_cutAll_5 8 rfl rfl)
theorem dX5_cutAll_126 : decode cX5_cutAll 126 = .ok (.goto (-56), 3) := dk_167 255 200 (dk_at dksX5_cutAll_5 11 rfl rfl)
theorem dX5_cutAll_129 : decode cX5_cutAll 129 = .ok (.aload_n 0, 1) := dk_42 (dk_at dksX5_cutAll_5 14 rfl rfl)
theorem dX5_cutAll_130 : decode cX5_cutAll 130 = .ok (.getfield 24, 3) := dk_180 0 24 (dk_at dksX5_cutAll_5 15 rfl rfl)
theorem dX5_cutAll_133 : decode cX5_cutAll 133 = .ok (.iload_n 1, 1) := dk_27 (dk_at dksX5_cutAll_5 18 rfl rfl)
theorem dX5_cutAll_134 : decode cX5_cutAll 134 = .ok (.iload_n 2, 1) := dk_28 (dk_at dksX5_cutAll_5 19 rfl rfl)
theorem dX5_cutAll_135 : decode cX5_cutAll 135 = .ok (.iload 4, 2) := dk_21 4 (dk_at dksX5_cutAll_5 20 rfl rfl)
theorem dX5_cutAll_137 : decode cX5_cutAll 137 = .ok (.isub, 1) := dk_100 (dk_at dksX5_cutAll_5 22 rfl rfl)
theorem dX5_cutAll_138 : decode cX5_cutAll 138 = .ok (.bipush 8, 2) := dk_16 8 (dk_at dksX5_cutAll_6 0 rfl rfl)
theorem dX5_cutAll_140 : decode cX5_cutAll 140 = .ok (.if_icmp .le 7, 3) := dk_164 0 7 (dk_at dksX5_cutAll_6 2 rfl rfl)
theorem dX5_cutAll_143 : decode cX5_cutAll 143 = .ok (.iconst 4, 1) := dk_7 (dk_at dksX5_cutAll_6 5 rfl rfl)
theorem dX5_cutAll_144 : decode cX5_cutAll 144 = .ok (.goto 4, 3) := dk_167 0 4 (dk_at dksX5_cutAll_6 6 rfl rfl)
theorem dX5_cutAll_147 : decode cX5_cutAll 147 = .ok (.iconst 1, 1) := dk_4 (dk_at dksX5_cutAll_6 9 rfl rfl)
theorem dX5_cutAll_148 : decode cX5_cutAll 148 = .ok (.iastore, 1) := dk_79 (dk_at dksX5_cutAll_6 10 rfl rfl)
theorem dX5_cutAll_149 : decode cX5_cutAll 149 = .ok (.goto 116, 3) := dk_167 0 116 (dk_at dksX5_cutAll_6 11 rfl rfl)
theorem dX5_cutAll_152 : decode cX5_cutAll 152 = .ok (.iload_n 3, 1) := dk_29 (dk_at dksX5_cutAll_6 14 rfl rfl)
theorem dX5_cutAll_153 : decode cX5_cutAll 153 = .ok (.invokestatic 150, 3) := dk_184 0 150 (dk_at dksX5_cutAll_6 15 rfl rfl)
theorem dX5_cutAll_156 : decode cX5_cutAll 156 = .ok (.ifCond .eq 84, 3) := dk_153 0 84 (dk_at dksX5_cutAll_6 18 rfl rfl)
theorem dX5_cutAll_159 : decode cX5_cutAll 159 = .ok (.iload_n 2, 1) := dk_28 (dk_at dksX5_cutAll_6 21 rfl rfl)
theorem dX5_cutAll_160 : decode cX5_cutAll 160 = .ok (.aload_n 0, 1) := dk_42 (dk_at dksX5_cutAll_6 22 rfl rfl)
theorem dX5_cutAll_161 : decode cX5_cutAll 161 = .ok (.getfield 141, 3) := dk_180 0 141 (dk_at dksX5_cutAll_7 0 rfl rfl)
theorem dX5_cutAll_164 : decode cX5_cutAll 164 = .ok (.if_icmp .ge 54, 3) := dk_162 0 54 (dk_at dksX5_cutAll_7 3 rfl rfl)
theorem dX5_cutAll_167 : decode cX5_cutAll 167 = .ok (.aload_n 0, 1) := dk_42 (dk_at dksX5_cutAll_7 6 rfl rfl)
theorem dX5_cutAll_168 : decode cX5_cutAll 168 = .ok (.getfield 14, 3) := dk_180 0 14 (dk_at dksX5_cutAll_7 7 rfl rfl)
theorem dX5_cutAll_171 : decode cX5_cutAll 171 = .ok (.iload_n 2, 1) := dk_28 (dk_at dksX5_cutAll_7 10 rfl rfl)
theorem dX5_cutAll_172 : decode cX5_cutAll 172 = .ok (.iaload, 1) := dk_46 (dk_at dksX5_cutAll_7 11 rfl rfl)
theorem dX5_cutAll_173 : decode cX5_cutAll 173 = .ok (.invokestatic 150, 3) := dk_184 0 150 (dk_at dksX5_cutAll_7 12 rfl rfl)
theorem dX5_cutAll_176 : decode cX5_cutAll 176 = .ok (.ifCond .eq 42, 3) := dk_153 0 42 (dk_at dksX5_cutAll_7 15 rfl rfl)
theorem dX5_cutAll_179 : decode cX5_cutAll 179 = .ok (.iload_n 2, 1) := dk_28 (dk_at dksX5_cutAll_7 18 rfl rfl)
theorem dX5_cutAll_180 : decode cX5_cutAll 180 = .ok (.iload 4, 2) := dk_21 4 (dk_at dksX5_cutAll_7 19 rfl rfl)
theorem dX5_cutAll_182 : decode cX5_cutAll 182 = .ok (.isub, 1) := dk_100 (dk_at dksX5_cutAll_7 21 rfl rfl)
theorem dX5_cutAll_183 : decode cX5_cutAll 183 = .ok (.iconst 4, 1) := dk_7 (dk_at dksX5_cutAll_7 22 rfl rfl)
theorem dX5_cutAll_184 : decode cX5_cutAll 184 = .ok (.if_icmp .ge 24, 3) := dk_162 0 24 (dk_at dksX5_cutAll_8 0 rfl rfl)
theorem dX5_cutAll_187 : decode cX5_cutAll 187 = .ok (.ldc2_w 153, 3) := dk_20 0 153 (dk_at dksX5_cutAll_8 3 rfl rfl)
theorem dX5_cutAll_190 : decode cX5_cutAll 190 = .ok (.lload 5, 2) := dk_22 5 (dk_at dksX5_cutAll_8 6 rfl rfl)
theorem dX5_cutAll_192 : decode cX5_cutAll 192 = .ok (.lmul, 1) := dk_105 (dk_at dksX5_cutAll_8 8 rfl rfl)
theorem dX5_cutAll_193 : decode cX5_cutAll 193 = .ok (.aload_n 0, 1) := dk_42 (dk_at dksX5_cutAll_8 9 rfl rfl)
theorem dX5_cutAll_194 : decode cX5_cutAll 194 = .ok (.getfield 14, 3) := dk_180 0 14 (dk_at dksX5_cutAll_8 10 rfl rfl)
theorem dX5_cutAll_197 : decode cX5_cutAll 197 = .ok (.iload_n 2, 1) := dk_28 (dk_at dksX5_cutAll_8 13 rfl rfl)
theorem dX5_cutAll_198 : decode cX5_cutAll 198 = .ok (.iaload, 1) := dk_46 (dk_at dksX5_cutAll_8 14 rfl rfl)
theorem dX5_cutAll_199 : decode cX5_cutAll 199 = .ok (.i2l, 1) := dk_133 (dk_at dksX5_cutAll_8 15 rfl rfl)
theorem dX5_cutAll_200 : decode cX5_cutAll 200 = .ok (.ladd, 1) := dk_97 (dk_at dksX5_cutAll_8 16 rfl rfl)
theorem dX5_cutAll_201 : decode cX5_cutAll 201 = .ok (.ldc2_w 155, 3) := dk_20 0 155 (dk_at dksX5_cutAll_8 17 rfl rfl)
theorem dX5_cutAll_204 : decode cX5_cutAll 204 = .ok (.lsub, 1) := dk_101 (dk_at dksX5_cutAll_8 20 rfl rfl)
theorem dX5_cutAll_205 : decode cX5_cutAll 205 = .ok (.goto 5, 3) := dk_167 0 5 (dk_at dksX5_cutAll_8 21 rfl rfl)
theorem dX5_cutAll_208 : decode cX5_cutAll 208 = .ok (.lload 5, 2) := dk_22 5 (dk_at dksX5_cutAll_9 0 rfl rfl)
theorem dX5_cutAll_210 : decode cX5_cutAll 210 = .ok (.lstore 5, 2) := dk_55 5 (dk_at dksX5_cutAll_9 2 rfl rfl)
theorem dX5_cutAll_212 : decode cX5_cutAll 212 = .ok (.iinc 2 1, 3) := dk_132 2 1 (dk_at dksX5_cutAll_9 4 rfl rfl)
theorem dX5_cutAll_215 : decode cX5_cutAll 215 = .ok (.goto (-56), 3) := dk_167 255 200 (dk_at dksX5_cutAll_9 7 rfl rfl)
theorem dX5_cutAll_218 : decode cX5_cutAll 218 = .ok (.aload_n 0, 1) := dk_42 (dk_at dksX5_cutAll_9 10 rfl rfl)
theorem dX5_cutAll_219 : decode cX5_cutAll 219 = .ok (.getfield 24, 3) := dk_180 0 24 (dk_at dksX5_cutAll_9 11 rfl rfl)
theorem dX5_cutAll_222 : decode cX5_cutAll 222 = .ok (.iload_n 1, 1) := dk_27 (dk_at dksX5_cutAll_9 14 rfl rfl)
theorem dX5_cutAll_223 : decode cX5_cutAll 223 = .ok (.iload_n 2, 1) := dk_28 (dk_at dksX5_cutAll_9 15 rfl rfl)
theorem dX5_cutAll_224 : decode cX5_cutAll 224 = .ok (.iload 4, 2) := dk_21 4 (dk_at dksX5_cutAll_9 16 rfl rfl)
theorem dX5_cutAll_226 : decode cX5_cutAll 226 = .ok (.isub, 1) := dk_100 (dk_at dksX5_cutAll_9 18 rfl rfl)
theorem dX5_cutAll_227 : decode cX5_cutAll 227 = .ok (.iconst 4, 1) := dk_7 (dk_at dksX5_cutAll_9 19 rfl rfl)
theorem dX5_cutAll_228 : decode cX5_cutAll 228 = .ok (.if_icmp .le 7, 3) := dk_164 0 7 (dk_at dksX5_cutAll_9 20 rfl rfl)
theorem dX5_cutAll_231 : decode cX5_cutAll 231 = .ok (.iconst 4, 1) := dk_7 (dk_at dksX5_cutAll_9 23 rfl rfl)
theorem dX5_cutAll_232 : decode cX5_cutAll 232 = .ok (.goto 4, 3) := dk_167 0 4 (dk_at dksX5_cutAll_10 0 rfl rfl)
theorem dX5_cutAll_235 : decode cX5_cutAll 235 = .ok (.iconst 2, 1) := dk_5 (dk_at dksX5_cutAll_10 3 rfl rfl)
theorem dX5_cutAll_236 : decode cX5_cutAll 236 = .ok (.iastore, 1) := dk_79 (dk_at dksX5_cutAll_10 4 rfl rfl)
theorem dX5_cutAll_237 : decode cX5_cutAll 237 = .ok (.goto 28, 3) := dk_167 0 28 (dk_at dksX5_cutAll_10 5 rfl rfl)
theorem dX5_cutAll_240 : decode cX5_cutAll 240 = .ok (.iload_n 3, 1) := dk_29 (dk_at dksX5_cutAll_10 8 rfl rfl)
theorem dX5_cutAll_241 : decode cX5_cutAll 241 = .ok (.i2l, 1) := dk_133 (dk_at dksX5_cutAll_10 9 rfl rfl)
theorem dX5_cutAll_242 : decode cX5_cutAll 242 = .ok (.lstore 5, 2) := dk_55 5 (dk_at dksX5_cutAll_10 10 rfl rfl)
theorem dX5_cutAll_244 : decode cX5_cutAll 244 = .ok (.aload_n 0, 1) := dk_42 (dk_at dksX5_cutAll_10 12 rfl rfl)
theorem dX5_cutAll_245 : decode cX5_cutAll 245 = .ok (.getfield 24, 3) := dk_180 0 24 (dk_at dksX5_cutAll_10 13 rfl rfl)
theorem dX5_cutAll_248 : decode cX5_cutAll 248 = .ok (.iload_n 1, 1) := dk_27 (dk_at dksX5_cutAll_10 16 rfl rfl)
theorem dX5_cutAll_249 : decode cX5_cutAll 249 = .ok (.iload_n 3, 1) := dk_29 (dk_at dksX5_cutAll_10 17 rfl rfl)
theorem dX5_cutAll_250 : decode cX5_cutAll 250 = .ok (.invokestatic 157, 3) := dk_184 0 157 (dk_at dksX5_cutAll_10 18 rfl rfl)
theorem dX5_cutAll_253 : decode cX5_cutAll 253 = .ok (.ifCond .eq 7, 3) := dk_153 0 7 (dk_at dksX5_cutAll_10 21 rfl rfl)
theorem dX5_cutAll_256 : decode cX5_cutAll 256 = .ok (.iconst 3, 1) := dk_6 (dk_at dksX5_cutAll_11 0 rfl rfl)
theorem dX5_cutAll_257 : decode cX5_cutAll 257 = .ok (.goto 4, 3) := dk_167 0 4 (dk_at dksX5_cutAll_11 1 rfl rfl)
theorem dX5_cutAll_260 : decode cX5_cutAll 260 = .ok (.iconst 4, 1) := dk_7 (dk_at dksX5_cutAll_11 4 rfl rfl)
theorem dX5_cutAll_261 : decode cX5_cutAll 261 = .ok (.iastore, 1) := dk_79 (dk_at dksX5_cutAll_11 5 rfl rfl)
theorem dX5_cutAll_262 : decode cX5_cutAll 262 = .ok (.iinc 2 1, 3) := dk_132 2 1 (dk_at dksX5_cutAll_11 6 rfl rfl)
theorem dX5_cutAll_265 : decode cX5_cutAll 265 = .ok (.aload_n 0, 1) := dk_42 (dk_at dksX5_cutAll_11 9 rfl rfl)
theorem dX5_cutAll_266 : decode cX5_cutAll 266 = .ok (.getfield 30, 3) := dk_180 0 30 (dk_at dksX5_cutAll_11 10 rfl rfl)
theorem dX5_cutAll_269 : decode cX5_cutAll 269 = .ok (.iload_n 1, 1) := dk_27 (dk_at dksX5_cutAll_11 13 rfl rfl)
theorem dX5_cutAll_270 : decode cX5_cutAll 270 = .ok (.lload 5, 2) := dk_22 5 (dk_at dksX5_cutAll_11 14 rfl rfl)
theorem dX5_cutAll_272 : decode cX5_cutAll 272 = .ok (.lastore, 1) := dk_80 (dk_at dksX5_cutAll_11 16 rfl rfl)
theorem dX5_cutAll_273 : decode cX5_cutAll 273 = .ok (.iinc 1 1, 3) := dk_132 1 1 (dk_at dksX5_cutAll_11 17 rfl rfl)
theorem dX5_cutAll_276 : decode cX5_cutAll 276 = .ok (.goto (-259), 3) := dk_167 254 253 (dk_at dksX5_cutAll_11 20 rfl rfl)
theorem dX5_cutAll_279 : decode cX5_cutAll 279 = .ok (.aload_n 0, 1) := dk_42 (dk_at dksX5_cutAll_11 23 rfl rfl)
theorem dX5_cutAll_280 : decode cX5_cutAll 280 = .ok (.getfield 24, 3) := dk_180 0 24 (dk_at dksX5_cutAll_12 0 rfl rfl)
theorem dX5_cutAll_283 : decode cX5_cutAll 283 = .ok (.iload_n 1, 1) := dk_27 (dk_at dksX5_cutAll_12 3 rfl rfl)
theorem dX5_cutAll_284 : decode cX5_cutAll 284 = .ok (.iconst 0, 1) := dk_3 (dk_at dksX5_cutAll_12 4 rfl rfl)
theorem dX5_cutAll_285 : decode cX5_cutAll 285 = .ok (.iastore, 1) := dk_79 (dk_at dksX5_cutAll_12 5 rfl rfl)
theorem dX5_cutAll_286 : decode cX5_cutAll 286 = .ok (.aload_n 0, 1) := dk_42 (dk_at dksX5_cutAll_12 6 rfl rfl)
theorem dX5_cutAll_287 : decode cX5_cutAll 287 = .ok (.getfield 27, 3) := dk_180 0 27 (dk_at dksX5_cutAll_12 7 rfl rfl)
theorem dX5_cutAll_290 : decode cX5_cutAll 290 = .ok (.iload_n 1, 1) := dk_27 (dk_at dksX5_cutAll_12 10 rfl rfl)
theorem dX5_cutAll_291 : decode cX5_cutAll 291 = .ok (.aload_n 0, 1) := dk_42 (dk_at dksX5_cutAll_12 11 rfl rfl)
theorem dX5_cutAll_292 : decode cX5_cutAll 292 = .ok (.getfield 141, 3) := dk_180 0 141 (dk_at dksX5_cutAll_12 12 rfl rfl)
theorem dX5_cutAll_295 : decode cX5_cutAll 295 = .ok (.iastore, 1) := dk_79 (dk_at dksX5_cutAll_12 15 rfl rfl)
theorem dX5_cutAll_296 : decode cX5_cutAll 296 = .ok (.aload_n 0, 1) := dk_42 (dk_at dksX5_cutAll_12 16 rfl rfl)
theorem dX5_cutAll_297 : decode cX5_cutAll 297 = .ok (.iconst 0, 1) := dk_3 (dk_at dksX5_cutAll_12 17 rfl rfl)
theorem dX5_cutAll_298 : decode cX5_cutAll 298 = .ok (.putfield 160, 3) := dk_181 0 160 (dk_at dksX5_cutAll_12 18 rfl rfl)
theorem dX5_cutAll_301 : decode cX5_cutAll 301 = .ok (.aload_n 0, 1) := dk_42 (dk_at dksX5_cutAll_12 21 rfl rfl)
theorem dX5_cutAll_302 : decode cX5_cutAll 302 = .ok (.iconst 0, 1) := dk_3 (dk_at dksX5_cutAll_12 22 rfl rfl)
theorem dX5_cutAll_303 : decode cX5_cutAll 303 = .ok (.putfield 163, 3) := dk_181 0 163 (dk_at dksX5_cutAll_13 0 rfl rfl)
theorem dX5_cutAll_306 : decode cX5_cutAll 306 = .ok (.return_, 1) := dk_177 (dk_at dksX5_cutAll_13 3 rfl rfl)
abbrev cX5_isLetter : ByteArray := prog_23_method_5_code
def yX5_isLetter : MethodName := ⟨RX5, "isLetter", "(I)Z"⟩
def dkwX5_isLetter_0 : List UInt8 := [26, 16, 97, 161, 0, 13, 26, 16, 122, 163, 0, 7, 4, 167, 0, 4, 3, 172]
abbrev dktX5_isLetter_0 : List UInt8 := dkwX5_isLetter_0 ++ []
theorem dksX5_isLetter_0 : cX5_isLetter.data.toList.drop 0 = dktX5_isLetter_0 := by decide +kernel
theorem dX5_isLetter_0 : decode cX5_isLetter 0 = .ok (.iload_n 0, 1) := dk_26 (dk_at dksX5_isLetter_0 0 rfl rfl)
theorem dX5_isLetter_1 : decode cX5_isLetter 1 = .ok (.bipush 97, 2) := dk_16 97 (dk_at dksX5_isLetter_0 1 rfl rfl)
theorem dX5_isLetter_3 : decode cX5_isLetter 3 = .ok (.if_icmp .lt 13, 3) := dk_161 0 13 (dk_at dksX5_isLetter_0 3 rfl rfl)
theorem dX5_isLetter_6 : decode cX5_isLetter 6 = .ok (.iload_n 0, 1) := dk_26 (dk_at dksX5_isLetter_0 6 rfl rfl)
theorem dX5_isLetter_7 : decode cX5_isLetter 7 = .ok (.bipush 122, 2) := dk_16 122 (dk_at dksX5_isLetter_0 7 rfl rfl)
theorem dX5_isLetter_9 : decode cX5_isLetter 9 = .ok (.if_icmp .gt 7, 3) := dk_163 0 7 (dk_at dksX5_isLetter_0 9 rfl rfl)
theorem dX5_isLetter_12 : decode cX5_isLetter 12 = .ok (.iconst 1, 1) := dk_4 (dk_at dksX5_isLetter_0 12 rfl rfl)
theorem dX5_isLetter_13 : decode cX5_isLetter 13 = .ok (.goto 4, 3) := dk_167 0 4 (dk_at dksX5_isLetter_0 13 rfl rfl)
theorem dX5_isLetter_16 : decode cX5_isLetter 16 = .ok (.iconst 0, 1) := dk_3 (dk_at dksX5_isLetter_0 16 rfl rfl)
theorem dX5_isLetter_17 : decode cX5_isLetter 17 = .ok (.ireturn, 1) := dk_172 (dk_at dksX5_isLetter_0 17 rfl rfl)
abbrev cX5_rank : ByteArray := prog_23_method_7_code
def yX5_rank : MethodName := ⟨RX5, "rank", "(I)I"⟩
def dkwX5_rank_0 : List UInt8 := [26, 184, 0, 137, 153, 0, 10, 26, 16, 96, 100, 167, 0, 7, 26, 16, 21, 100, 172]
abbrev dktX5_rank_0 : List UInt8 := dkwX5_rank_0 ++ []
theorem dksX5_rank_0 : cX5_rank.data.toList.drop 0 = dktX5_rank_0 := by decide +kernel
theorem dX5_rank_0 : decode cX5_rank 0 = .ok (.iload_n 0, 1) := dk_26 (dk_at dksX5_rank_0 0 rfl rfl)
theorem dX5_rank_1 : decode cX5_rank 1 = .ok (.invokestatic 137, 3) := dk_184 0 137 (dk_at dksX5_rank_0 1 rfl rfl)
theorem dX5_rank_4 : decode cX5_rank 4 = .ok (.ifCond .eq 10, 3) := dk_153 0 10 (dk_at dksX5_rank_0 4 rfl rfl)
theorem dX5_rank_7 : decode cX5_rank 7 = .ok (.iload_n 0, 1) := dk_26 (dk_at dksX5_rank_0 7 rfl rfl)
theorem dX5_rank_8 : decode cX5_rank 8 = .ok (.bipush 96, 2) := dk_16 96 (dk_at dksX5_rank_0 8 rfl rfl)
theorem dX5_rank_10 : decode cX5_rank 10 = .ok (.isub, 1) := dk_100 (dk_at dksX5_rank_0 10 rfl rfl)
theorem dX5_rank_11 : decode cX5_rank 11 = .ok (.goto 7, 3) := dk_167 0 7 (dk_at dksX5_rank_0 11 rfl rfl)
theorem dX5_rank_14 : decode cX5_rank 14 = .ok (.iload_n 0, 1) := dk_26 (dk_at dksX5_rank_0 14 rfl rfl)
theorem dX5_rank_15 : decode cX5_rank 15 = .ok (.bipush 21, 2) := dk_16 21 (dk_at dksX5_rank_0 15 rfl rfl)
theorem dX5_rank_17 : decode cX5_rank 17 = .ok (.isub, 1) := dk_100 (dk_at dksX5_rank_0 17 rfl rfl)
theorem dX5_rank_18 : decode cX5_rank 18 = .ok (.ireturn, 1) := dk_172 (dk_at dksX5_rank_0 18 rfl rfl)
abbrev cX5_isDigit : ByteArray := prog_23_method_6_code
def yX5_isDigit : MethodName := ⟨RX5, "isDigit", "(I)Z"⟩
def dkwX5_isDigit_0 : List UInt8 := [26, 16, 48, 161, 0, 13, 26, 16, 57, 163, 0, 7, 4, 167, 0, 4, 3, 172]
abbrev dktX5_isDigit_0 : List UInt8 := dkwX5_isDigit_0 ++ []
theorem dksX5_isDigit_0 : cX5_isDigit.data.toList.drop 0 = dktX5_isDigit_0 := by decide +kernel
theorem dX5_isDigit_0 : decode cX5_isDigit 0 = .ok (.iload_n 0, 1) := dk_26 (dk_at dksX5_isDigit_0 0 rfl rfl)
theorem dX5_isDigit_1 : decode cX5_isDigit 1 = .ok (.bipush 48, 2) := dk_16 48 (dk_at dksX5_isDigit_0 1 rfl rfl)
theorem dX5_isDigit_3 : decode cX5_isDigit 3 = .ok (.if_icmp .lt 13, 3) := dk_161 0 13 (dk_at dksX5_isDigit_0 3 rfl rfl)
theorem dX5_isDigit_6 : decode cX5_isDigit 6 = .ok (.iload_n 0, 1) := dk_26 (dk_at dksX5_isDigit_0 6 rfl rfl)
theorem dX5_isDigit_7 : decode cX5_isDigit 7 = .ok (.bipush 57, 2) := dk_16 57 (dk_at dksX5_isDigit_0 7 rfl rfl)
theorem dX5_isDigit_9 : decode cX5_isDigit 9 = .ok (.if_icmp .gt 7, 3) := dk_163 0 7 (dk_at dksX5_isDigit_0 9 rfl rfl)
theorem dX5_isDigit_12 : decode cX5_isDigit 12 = .ok (.iconst 1, 1) := dk_4 (dk_at dksX5_isDigit_0 12 rfl rfl)
theorem dX5_isDigit_13 : decode cX5_isDigit 13 = .ok (.goto 4, 3) := dk_167 0 4 (dk_at dksX5_isDigit_0 13 rfl rfl)
theorem dX5_isDigit_16 : decode cX5_isDigit 16 = .ok (.iconst 0, 1) := dk_3 (dk_at dksX5_isDigit_0 16 rfl rfl)
theorem dX5_isDigit_17 : decode cX5_isDigit 17 = .ok (.ireturn, 1) := dk_172 (dk_at dksX5_isDigit_0 17 rfl rfl)
abbrev cX5_isSignOf : ByteArray := prog_23_method_8_code
def yX5_isSignOf : MethodName := ⟨RX5, "isSignOf", "(I)Z"⟩
def dkwX5_isSignOf_2 : List UInt8 := [4, 167, 0, 4, 3, 172]
abbrev dktX5_isSignOf_2 : List UInt8 := dkwX5_isSignOf_2 ++ []
def dkwX5_isSignOf_1 : List UInt8 := [26, 16, 60, 159, 0, 21, 26, 16, 43, 159, 0, 15, 26, 16, 45, 159, 0, 9, 26, 16, 42, 160, 0, 7]
abbrev dktX5_isSignOf_1 : List UInt8 := dkwX5_isSignOf_1 ++ dktX5_isSignOf_2
def dkwX5_isSignOf_0 : List UInt8 := [26, 16, 40, 159, 0, 45, 26, 16, 41, 159, 0, 39, 26, 16, 59, 159, 0, 33, 26, 16, 61, 159, 0, 27]
abbrev dktX5_isSignOf_0 : List UInt8 := dkwX5_isSignOf_0 ++ dktX5_isSignOf_1
theorem dksX5_isSignOf_0 : cX5_isSignOf.data.toList.drop 0 = dktX5_isSignOf_0 := by decide +kernel
theorem dksX5_isSignOf_1 : cX5_isSignOf.data.toList.drop 24 = dktX5_isSignOf_1 := dk_seg dksX5_isSignOf_0 24 rfl rfl
theorem dksX5_isSignOf_2 : cX5_isSignOf.data.toList.drop 48 = dktX5_isSignOf_2 := dk_seg dksX5_isSignOf_1 24 rfl rfl
theorem dX5_isSignOf_0 : decode cX5_isSignOf 0 = .ok (.iload_n 0, 1) := dk_26 (dk_at dksX5_isSignOf_0 0 rfl rfl)
theorem dX5_isSignOf_1 : decode cX5_isSignOf 1 = .ok (.bipush 40, 2) := dk_16 40 (dk_at dksX5_isSignOf_0 1 rfl rfl)
theorem dX5_isSignOf_3 : decode cX5_isSignOf 3 = .ok (.if_icmp .eq 45, 3) := dk_159 0 45 (dk_at dksX5_isSignOf_0 3 rfl rfl)
theorem dX5_isSignOf_6 : decode cX5_isSignOf 6 = .ok (.iload_n 0, 1) := dk_26 (dk_at dksX5_isSignOf_0 6 rfl rfl)
theorem dX5_isSignOf_7 : decode cX5_isSignOf 7 = .ok (.bipush 41, 2) := dk_16 41 (dk_at dksX5_isSignOf_0 7 rfl rfl)
theorem dX5_isSignOf_9 : decode cX5_isSignOf 9 = .ok (.if_icmp .eq 39, 3) := dk_159 0 39 (dk_at dksX5_isSignOf_0 9 rfl rfl)
theorem dX5_isSignOf_12 : decode cX5_isSignOf 12 = .ok (.iload_n 0, 1) := dk_26 (dk_at dksX5_isSignOf_0 12 rfl rfl)
theorem dX5_isSignOf_13 : decode cX5_isSignOf 13 = .ok (.bipush 59, 2) := dk_16 59 (dk_at dksX5_isSignOf_0 13 rfl rfl)
theorem dX5_isSignOf_15 : decode cX5_isSignOf 15 = .ok (.if_icmp .eq 33, 3) := dk_159 0 33 (dk_at dksX5_isSignOf_0 15 rfl rfl)
theorem dX5_isSignOf_18 : decode cX5_isSignOf 18 = .ok (.iload_n 0, 1) := dk_26 (dk_at dksX5_isSignOf_0 18 rfl rfl)
theorem dX5_isSignOf_19 : decode cX5_isSignOf 19 = .ok (.bipush 61, 2) := dk_16 61 (dk_at dksX5_isSignOf_0 19 rfl rfl)
theorem dX5_isSignOf_21 : decode cX5_isSignOf 21 = .ok (.if_icmp .eq 27, 3) := dk_159 0 27 (dk_at dksX5_isSignOf_0 21 rfl rfl)
theorem dX5_isSignOf_24 : decode cX5_isSignOf 24 = .ok (.iload_n 0, 1) := dk_26 (dk_at dksX5_isSignOf_1 0 rfl rfl)
theorem dX5_isSignOf_25 : decode cX5_isSignOf 25 = .ok (.bipush 60, 2) := dk_16 60 (dk_at dksX5_isSignOf_1 1 rfl rfl)
theorem dX5_isSignOf_27 : decode cX5_isSignOf 27 = .ok (.if_icmp .eq 21, 3) := dk_159 0 21 (dk_at dksX5_isSignOf_1 3 rfl rfl)
theorem dX5_isSignOf_30 : decode cX5_isSignOf 30 = .ok (.iload_n 0, 1) := dk_26 (dk_at dksX5_isSignOf_1 6 rfl rfl)
theorem dX5_isSignOf_31 : decode cX5_isSignOf 31 = .ok (.bipush 43, 2) := dk_16 43 (dk_at dksX5_isSignOf_1 7 rfl rfl)
theorem dX5_isSignOf_33 : decode cX5_isSignOf 33 = .ok (.if_icmp .eq 15, 3) := dk_159 0 15 (dk_at dksX5_isSignOf_1 9 rfl rfl)
theorem dX5_isSignOf_36 : decode cX5_isSignOf 36 = .ok (.iload_n 0, 1) := dk_26 (dk_at dksX5_isSignOf_1 12 rfl rfl)
theorem dX5_isSignOf_37 : decode cX5_isSignOf 37 = .ok (.bipush 45, 2) := dk_16 45 (dk_at dksX5_isSignOf_1 13 rfl rfl)
theorem dX5_isSignOf_39 : decode cX5_isSignOf 39 = .ok (.if_icmp .eq 9, 3) := dk_159 0 9 (dk_at dksX5_isSignOf_1 15 rfl rfl)
theorem dX5_isSignOf_42 : decode cX5_isSignOf 42 = .ok (.iload_n 0, 1) := dk_26 (dk_at dksX5_isSignOf_1 18 rfl rfl)
theorem dX5_isSignOf_43 : decode cX5_isSignOf 43 = .ok (.bipush 42, 2) := dk_16 42 (dk_at dksX5_isSignOf_1 19 rfl rfl)
theorem dX5_isSignOf_45 : decode cX5_isSignOf 45 = .ok (.if_icmp .ne 7, 3) := dk_160 0 7 (dk_at dksX5_isSignOf_1 21 rfl rfl)
theorem dX5_isSignOf_48 : decode cX5_isSignOf 48 = .ok (.iconst 1, 1) := dk_4 (dk_at dksX5_isSignOf_2 0 rfl rfl)
theorem dX5_isSignOf_49 : decode cX5_isSignOf 49 = .ok (.goto 4, 3) := dk_167 0 4 (dk_at dksX5_isSignOf_2 1 rfl rfl)
theorem dX5_isSignOf_52 : decode cX5_isSignOf 52 = .ok (.iconst 0, 1) := dk_3 (dk_at dksX5_isSignOf_2 4 rfl rfl)
theorem dX5_isSignOf_53 : decode cX5_isSignOf 53 = .ok (.ireturn, 1) := dk_172 (dk_at dksX5_isSignOf_2 5 rfl rfl)
abbrev cX5_readLine : ByteArray := prog_23_method_27_code
def yX5_readLine : MethodName := ⟨RX5, "readLine", "()V"⟩
def dkwX5_readLine_4 : List UInt8 := [153, 0, 15, 42, 16, 20, 16, 16, 8, 182, 0, 232, 167, 0, 7, 42, 182, 0, 235, 177]
abbrev dktX5_readLine_4 : List UInt8 := dkwX5_readLine_4 ++ []
def dkwX5_readLine_3 : List UInt8 := [182, 0, 172, 153, 0, 13, 42, 3, 8, 5, 182, 0, 232, 167, 0, 28, 42, 16, 7, 182, 0, 172]
abbrev dktX5_readLine_3 : List UInt8 := dkwX5_readLine_3 ++ dktX5_readLine_4
def dkwX5_readLine_2 : List UInt8 := [27, 28, 79, 167, 0, 61, 42, 6, 182, 0, 172, 153, 0, 10, 42, 182, 0, 229, 167, 0, 46, 42, 5]
abbrev dktX5_readLine_2 : List UInt8 := dkwX5_readLine_2 ++ dktX5_readLine_3
def dkwX5_readLine_1 : List UInt8 := [3, 182, 0, 221, 42, 4, 4, 16, 6, 182, 0, 225, 61, 42, 180, 0, 163, 154, 0, 10, 42, 180, 0, 87]
abbrev dktX5_readLine_1 : List UInt8 := dkwX5_readLine_1 ++ dktX5_readLine_2
def dkwX5_readLine_0 : List UInt8 := [42, 3, 182, 0, 172, 153, 0, 49, 16, 54, 5, 42, 180, 0, 87, 16, 50, 46, 104, 96, 60, 42, 3, 7]
abbrev dktX5_readLine_0 : List UInt8 := dkwX5_readLine_0 ++ dktX5_readLine_1
theorem dksX5_readLine_0 : cX5_readLine.data.toList.drop 0 = dktX5_readLine_0 := by decide +kernel
theorem dksX5_readLine_1 : cX5_readLine.data.toList.drop 24 = dktX5_readLine_1 := dk_seg dksX5_readLine_0 24 rfl rfl
theorem dksX5_readLine_2 : cX5_readLine.data.toList.drop 48 = dktX5_readLine_2 := dk_seg dksX5_readLine_1 24 rfl rfl
theorem dksX5_readLine_3 : cX5_readLine.data.toList.drop 71 = dktX5_readLine_3 := dk_seg dksX5_readLine_2 23 rfl rfl
theorem dksX5_readLine_4 : cX5_readLine.data.toList.drop 93 = dktX5_readLine_4 := dk_seg dksX5_readLine_3 22 rfl rfl
theorem dX5_readLine_0 : decode cX5_readLine 0 = .ok (.aload_n 0, 1) := dk_42 (dk_at dksX5_readLine_0 0 rfl rfl)
theorem dX5_readLine_1 : decode cX5_readLine 1 = .ok (.iconst 0, 1) := dk_3 (dk_at dksX5_readLine_0 1 rfl rfl)
theorem dX5_readLine_2 : decode cX5_readLine 2 = .ok (.invokevirtual 172, 3) := dk_182 0 172 (dk_at dksX5_readLine_0 2 rfl rfl)
theorem dX5_readLine_5 : decode cX5_readLine 5 = .ok (.ifCond .eq 49, 3) := dk_153 0 49 (dk_at dksX5_readLine_0 5 rfl rfl)
theorem dX5_readLine_8 : decode cX5_readLine 8 = .ok (.bipush 54, 2) := dk_16 54 (dk_at dksX5_readLine_0 8 rfl rfl)
theorem dX5_readLine_10 : decode cX5_readLine 10 = .ok (.iconst 2, 1) := dk_5 (dk_at dksX5_readLine_0 10 rfl rfl)
theorem dX5_readLine_11 : decode cX5_readLine 11 = .ok (.aload_n 0, 1) := dk_42 (dk_at dksX5_readLine_0 11 rfl rfl)
theorem dX5_readLine_12 : decode cX5_readLine 12 = .ok (.getfield 87, 3) := dk_180 0 87 (dk_at dksX5_readLine_0 12 rfl rfl)
theorem dX5_readLine_15 : decode cX5_readLine 15 = .ok (.bipush 50, 2) := dk_16 50 (dk_at dksX5_readLine_0 15 rfl rfl)
theorem dX5_readLine_17 : decode cX5_readLine 17 = .ok (.iaload, 1) := dk_46 (dk_at dksX5_readLine_0 17 rfl rfl)
theorem dX5_readLine_18 : decode cX5_readLine 18 = .ok (.imul, 1) := dk_104 (dk_at dksX5_readLine_0 18 rfl rfl)
theorem dX5_readLine_19 : decode cX5_readLine 19 = .ok (.iadd, 1) := dk_96 (dk_at dksX5_readLine_0 19 rfl rfl)
theorem dX5_readLine_20 : decode cX5_readLine 20 = .ok (.istore_n 1, 1) := dk_60 (dk_at dksX5_readLine_0 20 rfl rfl)
theorem dX5_readLine_21 : decode cX5_readLine 21 = .ok (.aload_n 0, 1) := dk_42 (dk_at dksX5_readLine_0 21 rfl rfl)
theorem dX5_readLine_22 : decode cX5_readLine 22 = .ok (.iconst 0, 1) := dk_3 (dk_at dksX5_readLine_0 22 rfl rfl)
theorem dX5_readLine_23 : decode cX5_readLine 23 = .ok (.iconst 4, 1) := dk_7 (dk_at dksX5_readLine_0 23 rfl rfl)
theorem dX5_readLine_24 : decode cX5_readLine 24 = .ok (.iconst 0, 1) := dk_3 (dk_at dksX5_readLine_1 0 rfl rfl)
theorem dX5_readLine_25 : decode cX5_readLine 25 = .ok (.invokevirtual 221, 3) := dk_182 0 221 (dk_at dksX5_readLine_1 1 rfl rfl)
theorem dX5_readLine_28 : decode cX5_readLine 28 = .ok (.aload_n 0, 1) := dk_42 (dk_at dksX5_readLine_1 4 rfl rfl)
theorem dX5_readLine_29 : decode cX5_readLine 29 = .ok (.iconst 1, 1) := dk_4 (dk_at dksX5_readLine_1 5 rfl rfl)
theorem dX5_readLine_30 : decode cX5_readLine 30 = .ok (.iconst 1, 1) := dk_4 (dk_at dksX5_readLine_1 6 rfl rfl)
theorem dX5_readLine_31 : decode cX5_readLine 31 = .ok (.bipush 6, 2) := dk_16 6 (dk_at dksX5_readLine_1 7 rfl rfl)
theorem dX5_readLine_33 : decode cX5_readLine 33 = .ok (.invokevirtual 225, 3) := dk_182 0 225 (dk_at dksX5_readLine_1 9 rfl rfl)
theorem dX5_readLine_36 : decode cX5_readLine 36 = .ok (.istore_n 2, 1) := dk_61 (dk_at dksX5_readLine_1 12 rfl rfl)
theorem dX5_readLine_37 : decode cX5_readLine 37 = .ok (.aload_n 0, 1) := dk_42 (dk_at dksX5_readLine_1 13 rfl rfl)
theorem dX5_readLine_38 : decode cX5_readLine 38 = .ok (.getfield 163, 3) := dk_180 0 163 (dk_at dksX5_readLine_1 14 rfl rfl)
theorem dX5_readLine_41 : decode cX5_readLine 41 = .ok (.ifCond .ne 10, 3) := dk_154 0 10 (dk_at dksX5_readLine_1 17 rfl rfl)
theorem dX5_readLine_44 : decode cX5_readLine 44 = .ok (.aload_n 0, 1) := dk_42 (dk_at dksX5_readLine_1 20 rfl rfl)
theorem dX5_readLine_45 : decode cX5_readLine 45 = .ok (.getfield 87, 3) := dk_180 0 87 (dk_at dksX5_readLine_1 21 rfl rfl)
theorem dX5_readLine_48 : decode cX5_readLine 48 = .ok (.iload_n 1, 1) := dk_27 (dk_at dksX5_readLine_2 0 rfl rfl)
theorem dX5_readLine_49 : decode cX5_readLine 49 = .ok (.iload_n 2, 1) := dk_28 (dk_at dksX5_readLine_2 1 rfl rfl)
theorem dX5_readLine_50 : decode cX5_readLine 50 = .ok (.iastore, 1) := dk_79 (dk_at dksX5_readLine_2 2 rfl rfl)
theorem dX5_readLine_51 : decode cX5_readLine 51 = .ok (.goto 61, 3) := dk_167 0 61 (dk_at dksX5_readLine_2 3 rfl rfl)
theorem dX5_readLine_54 : decode cX5_readLine 54 = .ok (.aload_n 0, 1) := dk_42 (dk_at dksX5_readLine_2 6 rfl rfl)
theorem dX5_readLine_55 : decode cX5_readLine 55 = .ok (.iconst 3, 1) := dk_6 (dk_at dksX5_readLine_2 7 rfl rfl)
theorem dX5_readLine_56 : decode cX5_readLine 56 = .ok (.invokevirtual 172, 3) := dk_182 0 172 (dk_at dksX5_readLine_2 8 rfl rfl)
theorem dX5_readLine_59 : decode cX5_readLine 59 = .ok (.ifCond .eq 10, 3) := dk_153 0 10 (dk_at dksX5_readLine_2 11 rfl rfl)
theorem dX5_readLine_62 : decode cX5_readLine 62 = .ok (.aload_n 0, 1) := dk_42 (dk_at dksX5_readLine_2 14 rfl rfl)
theorem dX5_readLine_63 : decode cX5_readLine 63 = .ok (.invokevirtual 229, 3) := dk_182 0 229 (dk_at dksX5_readLine_2 15 rfl rfl)
theorem dX5_readLine_66 : decode cX5_readLine 66 = .ok (.goto 46, 3) := dk_167 0 46 (dk_at dksX5_readLine_2 18 rfl rfl)
theorem dX5_readLine_69 : decode cX5_readLine 69 = .ok (.aload_n 0, 1) := dk_42 (dk_at dksX5_readLine_2 21 rfl rfl)
theorem dX5_readLine_70 : decode cX5_readLine 70 = .ok (.iconst 2, 1) := dk_5 (dk_at dksX5_readLine_2 22 rfl rfl)
theorem dX5_readLine_71 : decode cX5_readLine 71 = .ok (.invokevirtual 172, 3) := dk_182 0 172 (dk_at dksX5_readLine_3 0 rfl rfl)
theorem dX5_readLine_74 : decode cX5_readLine 74 = .ok (.ifCond .eq 13, 3) := dk_153 0 13 (dk_at dksX5_readLine_3 3 rfl rfl)
theorem dX5_readLine_77 : decode cX5_readLine 77 = .ok (.aload_n 0, 1) := dk_42 (dk_at dksX5_readLine_3 6 rfl rfl)
theorem dX5_readLine_78 : decode cX5_readLine 78 = .ok (.iconst 0, 1) := dk_3 (dk_at dksX5_readLine_3 7 rfl rfl)
theorem dX5_readLine_79 : decode cX5_readLine 79 = .ok (.iconst 5, 1) := dk_8 (dk_at dksX5_readLine_3 8 rfl rfl)
theorem dX5_readLine_80 : decode cX5_readLine 80 = .ok (.iconst 2, 1) := dk_5 (dk_at dksX5_readLine_3 9 rfl rfl)
theorem dX5_readLine_81 : decode cX5_readLine 81 = .ok (.invokevirtual 232, 3) := dk_182 0 232 (dk_at dksX5_readLine_3 10 rfl rfl)
theorem dX5_readLine_84 : decode cX5_readLine 84 = .ok (.goto 28, 3) := dk_167 0 28 (dk_at dksX5_readLine_3 13 rfl rfl)
theorem dX5_readLine_87 : decode cX5_readLine 87 = .ok (.aload_n 0, 1) := dk_42 (dk_at dksX5_readLine_3 16 rfl rfl)
theorem dX5_readLine_88 : decode cX5_readLine 88 = .ok (.bipush 7, 2) := dk_16 7 (dk_at dksX5_readLine_3 17 rfl rfl)
theorem dX5_readLine_90 : decode cX5_readLine 90 = .ok (.invokevirtual 172, 3) := dk_182 0 172 (dk_at dksX5_readLine_3 19 rfl rfl)
theorem dX5_readLine_93 : decode cX5_readLine 93 = .ok (.ifCond .eq 15, 3) := dk_153 0 15 (dk_at dksX5_readLine_4 0 rfl rfl)
theorem dX5_readLine_96 : decode cX5_readLine 96 = .ok (.aload_n 0, 1) := dk_42 (dk_at dksX5_readLine_4 3 rfl rfl)
theorem dX5_readLine_97 : decode cX5_readLine 97 = .ok (.bipush 20, 2) := dk_16 20 (dk_at dksX5_readLine_4 4 rfl rfl)
theorem dX5_readLine_99 : decode cX5_readLine 99 = .ok (.bipush 16, 2) := dk_16 16 (dk_at dksX5_readLine_4 6 rfl rfl)
theorem dX5_readLine_101 : decode cX5_readLine 101 = .ok (.iconst 5, 1) := dk_8 (dk_at dksX5_readLine_4 8 rfl rfl)
theorem dX5_readLine_102 : decode cX5_readLine 102 = .ok (.invokevirtual 232, 3) := dk_182 0 232 (dk_at dksX5_readLine_4 9 rfl rfl)
theorem dX5_readLine_105 : decode cX5_readLine 105 = .ok (.goto 7, 3) := dk_167 0 7 (dk_at dksX5_readLine_4 12 rfl rfl)
theorem dX5_readLine_108 : decode cX5_readLine 108 = .ok (.aload_n 0, 1) := dk_42 (dk_at dksX5_readLine_4 15 rfl rfl)
theorem dX5_readLine_109 : decode cX5_readLine 109 = .ok (.invokevirtual 235, 3) := dk_182 0 235 (dk_at dksX5_readLine_4 16 rfl rfl)
theorem dX5_readLine_112 : decode cX5_readLine 112 = .ok (.return_, 1) := dk_177 (dk_at dksX5_readLine_4 19 rfl rfl)
abbrev cX5_isWord : ByteArray := prog_23_method_12_code
def yX5_isWord : MethodName := ⟨RX5, "isWord", "(I)Z"⟩
def dkwX5_isWord_1 : List UInt8 := [42, 180, 0, 160, 47, 42, 180, 0, 84, 27, 47, 148, 154, 0, 7, 4, 167, 0, 4, 3, 172]
abbrev dktX5_isWord_1 : List UInt8 := dkwX5_isWord_1 ++ []
def dkwX5_isWord_0 : List UInt8 := [42, 180, 0, 163, 154, 0, 39, 42, 180, 0, 24, 42, 180, 0, 160, 46, 4, 160, 0, 26, 42, 180, 0, 30]
abbrev dktX5_isWord_0 : List UInt8 := dkwX5_isWord_0 ++ dktX5_isWord_1
theorem dksX5_isWord_0 : cX5_isWord.data.toList.drop 0 = dktX5_isWord_0 := by decide +kernel
theorem dksX5_isWord_1 : cX5_isWord.data.toList.drop 24 = dktX5_isWord_1 := dk_seg dksX5_isWord_0 24 rfl rfl
theorem dX5_isWord_0 : decode cX5_isWord 0 = .ok (.aload_n 0, 1) := dk_42 (dk_at dksX5_isWord_0 0 rfl rfl)
theorem dX5_isWord_1 : decode cX5_isWord 1 = .ok (.getfield 163, 3) := dk_180 0 163 (dk_at dksX5_isWord_0 1 rfl rfl)
theorem dX5_isWord_4 : decode cX5_isWord 4 = .ok (.ifCond .ne 39, 3) := dk_154 0 39 (dk_at dksX5_isWord_0 4 rfl rfl)
theorem dX5_isWord_7 : decode cX5_isWord 7 = .ok (.aload_n 0, 1) := dk_42 (dk_at dksX5_isWord_0 7 rfl rfl)
theorem dX5_isWord_8 : decode cX5_isWord 8 = .ok (.getfield 24, 3) := dk_180 0 24 (dk_at dksX5_isWord_0 8 rfl rfl)
theorem dX5_isWord_11 : decode cX5_isWord 11 = .ok (.aload_n 0, 1) := dk_42 (dk_at dksX5_isWord_0 11 rfl rfl)
theorem dX5_isWord_12 : decode cX5_isWord 12 = .ok (.getfield 160, 3) := dk_180 0 160 (dk_at dksX5_isWord_0 12 rfl rfl)
theorem dX5_isWord_15 : decode cX5_isWord 15 = .ok (.iaload, 1) := dk_46 (dk_at dksX5_isWord_0 15 rfl rfl)
theorem dX5_isWord_16 : decode cX5_isWord 16 = .ok (.iconst 1, 1) := dk_4 (dk_at dksX5_isWord_0 16 rfl rfl)
theorem dX5_isWord_17 : decode cX5_isWord 17 = .ok (.if_icmp .ne 26, 3) := dk_160 0 26 (dk_at dksX5_isWord_0 17 rfl rfl)
theorem dX5_isWord_20 : decode cX5_isWord 20 = .ok (.aload_n 0, 1) := dk_42 (dk_at dksX5_isWord_0 20 rfl rfl)
theorem dX5_isWord_21 : decode cX5_isWord 21 = .ok (.getfield 30, 3) := dk_180 0 30 (dk_at dksX5_isWord_0 21 rfl rfl)
theorem dX5_isWord_24 : decode cX5_isWord 24 = .ok (.aload_n 0, 1) := dk_42 (dk_at dksX5_isWord_1 0 rfl rfl)
theorem dX5_isWord_25 : decode cX5_isWord 25 = .ok (.getfield 160, 3) := dk_180 0 160 (dk_at dksX5_isWord_1 1 rfl rfl)
theorem dX5_isWord_28 : decode cX5_isWord 28 = .ok (.laload, 1) := dk_47 (dk_at dksX5_isWord_1 4 rfl rfl)
theorem dX5_isWord_29 : decode cX5_isWord 29 = .ok (.aload_n 0, 1) := dk_42 (dk_at dksX5_isWord_1 5 rfl rfl)
theorem dX5_isWord_30 : decode cX5_isWord 30 = .ok (.getfield 84, 3) := dk_180 0 84 (dk_at dksX5_isWord_1 6 rfl rfl)
theorem dX5_isWord_33 : decode cX5_isWord 33 = .ok (.iload_n 1, 1) := dk_27 (dk_at dksX5_isWord_1 9 rfl rfl)
theorem dX5_isWord_34 : decode cX5_isWord 34 = .ok (.laload, 1) := dk_47 (dk_at dksX5_isWord_1 10 rfl rfl)
theorem dX5_isWord_35 : decode cX5_isWord 35 = .ok (.lcmp, 1) := dk_148 (dk_at dksX5_isWord_1 11 rfl rfl)
theorem dX5_isWord_36 : decode cX5_isWord 36 = .ok (.ifCond .ne 7, 3) := dk_154 0 7 (dk_at dksX5_isWord_1 12 rfl rfl)
theorem dX5_isWord_39 : decode cX5_isWord 39 = .ok (.iconst 1, 1) := dk_4 (dk_at dksX5_isWord_1 15 rfl rfl)
theorem dX5_isWord_40 : decode cX5_isWord 40 = .ok (.goto 4, 3) := dk_167 0 4 (dk_at dksX5_isWord_1 16 rfl rfl)
theorem dX5_isWord_43 : decode cX5_isWord 43 = .ok (.iconst 0, 1) := dk_3 (dk_at dksX5_isWord_1 19 rfl rfl)
theorem dX5_isWord_44 : decode cX5_isWord 44 = .ok (.ireturn, 1) := dk_172 (dk_at dksX5_isWord_1 20 rfl rfl)
abbrev cX5_readName : ByteArray := prog_23_method_29_code
def yX5_readName : MethodName := ⟨RX5, "readName", "(III)V"⟩
def dkwX5_readName_5 : List UInt8 := [42, 180, 0, 87, 16, 50, 27, 96, 92, 46, 4, 96, 79, 177]
abbrev dktX5_readName_5 : List UInt8 := dkwX5_readName_5 ++ []
def dkwX5_readName_4 : List UInt8 := [21, 4, 96, 79, 42, 89, 180, 0, 188, 4, 96, 181, 0, 188, 42, 89, 180, 0, 160, 4, 96, 181, 0, 160]
abbrev dktX5_readName_4 : List UInt8 := dkwX5_readName_4 ++ dktX5_readName_5
def dkwX5_readName_3 : List UInt8 := [42, 180, 0, 188, 42, 180, 0, 30, 42, 180, 0, 160, 47, 80, 42, 180, 0, 105, 42, 180, 0, 188, 29]
abbrev dktX5_readName_3 : List UInt8 := dkwX5_readName_3 ++ dktX5_readName_4
def dkwX5_readName_2 : List UInt8 := [42, 4, 182, 0, 198, 155, 0, 8, 42, 6, 182, 0, 169, 42, 180, 0, 163, 154, 0, 67, 42, 180, 0, 99]
abbrev dktX5_readName_2 : List UInt8 := dkwX5_readName_2 ++ dktX5_readName_3
def dkwX5_readName_1 : List UInt8 := [89, 180, 0, 160, 4, 96, 181, 0, 160, 42, 182, 0, 194, 154, 0, 11, 42, 4, 182, 0, 169, 167, 0, 16]
abbrev dktX5_readName_1 : List UInt8 := dkwX5_readName_1 ++ dktX5_readName_2
def dkwX5_readName_0 : List UInt8 := [42, 180, 0, 87, 16, 50, 27, 96, 46, 54, 4, 21, 4, 28, 160, 0, 9, 42, 8, 182, 0, 169, 177, 42]
abbrev dktX5_readName_0 : List UInt8 := dkwX5_readName_0 ++ dktX5_readName_1
theorem dksX5_readName_0 : cX5_readName.data.toList.drop 0 = dktX5_readName_0 := by decide +kernel
theorem dksX5_readName_1 : cX5_readName.data.toList.drop 24 = dktX5_readName_1 := dk_seg dksX5_readName_0 24 rfl rfl
theorem dksX5_readName_2 : cX5_readName.data.toList.drop 48 = dktX5_readName_2 := dk_seg dksX5_readName_1 24 rfl rfl
theorem dksX5_readName_3 : cX5_readName.data.toList.drop 72 = dktX5_readName_3 := dk_seg dksX5_readName_2 24 rfl rfl
theorem dksX5_readName_4 : cX5_readName.data.toList.drop 95 = dktX5_readName_4 := dk_seg dksX5_readName_3 23 rfl rfl
theorem dksX5_readName_5 : cX5_readName.data.toList.drop 119 = dktX5_readName_5 := dk_seg dksX5_readName_4 24 rfl rfl
theorem dX5_readName_0 : decode cX5_readName 0 = .ok (.aload_n 0, 1) := dk_42 (dk_at dksX5_readName_0 0 rfl rfl)
theorem dX5_readName_1 : decode cX5_readName 1 = .ok (.getfield 87, 3) := dk_180 0 87 (dk_at dksX5_readName_0 1 rfl rfl)
theorem dX5_readName_4 : decode cX5_readName 4 = .ok (.bipush 50, 2) := dk_16 50 (dk_at dksX5_readName_0 4 rfl rfl)
theorem dX5_readName_6 : decode cX5_readName 6 = .ok (.iload_n 1, 1) := dk_27 (dk_at dksX5_readName_0 6 rfl rfl)
theorem dX5_readName_7 : decode cX5_readName 7 = .ok (.iadd, 1) := dk_96 (dk_at dksX5_readName_0 7 rfl rfl)
theorem dX5_readName_8 : decode cX5_readName 8 = .ok (.iaload, 1) := dk_46 (dk_at dksX5_readName_0 8 rfl rfl)
theorem dX5_readName_9 : decode cX5_readName 9 = .ok (.istore 4, 2) := dk_54 4 (dk_at dksX5_readName_0 9 rfl rfl)
theorem dX5_readName_11 : decode cX5_readName 11 = .ok (.iload 4, 2) := dk_21 4 (dk_at dksX5_readName_0 11 rfl rfl)
theorem dX5_readName_13 : decode cX5_readName 13 = .ok (.iload_n 2, 1) := dk_28 (dk_at dksX5_readName_0 13 rfl rfl)
theorem dX5_readName_14 : decode cX5_readName 14 = .ok (.if_icmp .ne 9, 3) := dk_160 0 9 (dk_at dksX5_readName_0 14 rfl rfl)
theorem dX5_readName_17 : decode cX5_readName 17 = .ok (.aload_n 0, 1) := dk_42 (dk_at dksX5_readName_0 17 rfl rfl)
theorem dX5_readName_18 : decode cX5_readName 18 = .ok (.iconst 5, 1) := dk_8 (dk_at dksX5_readName_0 18 rfl rfl)
theorem dX5_readName_19 : decode cX5_readName 19 = .ok (.invokevirtual 169, 3) := dk_182 0 169 (dk_at dksX5_readName_0 19 rfl rfl)
theorem dX5_readName_22 : decode cX5_readName 22 = .ok (.return_, 1) := dk_177 (dk_at dksX5_readName_0 22 rfl rfl)
theorem dX5_readName_23 : decode cX5_readName 23 = .ok (.aload_n 0, 1) := dk_42 (dk_at dksX5_readName_0 23 rfl rfl)
theorem dX5_readName_24 : decode cX5_readName 24 = .ok (.dup, 1) := dk_89 (dk_at dksX5_readName_1 0 rfl rfl)
theorem dX5_readName_25 : decode cX5_readName 25 = .ok (.getfield 160, 3) := dk_180 0 160 (dk_at dksX5_readName_1 1 rfl rfl)
theorem dX5_readName_28 : decode cX5_readName 28 = .ok (.iconst 1, 1) := dk_4 (dk_at dksX5_readName_1 4 rfl rfl)
theorem dX5_readName_29 : decode cX5_readName 29 = .ok (.iadd, 1) := dk_96 (dk_at dksX5_readName_1 5 rfl rfl)
theorem dX5_readName_30 : decode cX5_readName 30 = .ok (.putfield 160, 3) := dk_181 0 160 (dk_at dksX5_readName_1 6 rfl rfl)
theorem dX5_readName_33 : decode cX5_readName 33 = .ok (.aload_n 0, 1) := dk_42 (dk_at dksX5_readName_1 9 rfl rfl)
theorem dX5_readName_34 : decode cX5_readName 34 = .ok (.invokevirtual 194, 3) := dk_182 0 194 (dk_at dksX5_readName_1 10 rfl rfl)
theorem dX5_readName_37 : decode cX5_readName 37 = .ok (.ifCond .ne 11, 3) := dk_154 0 11 (dk_at dksX5_readName_1 13 rfl rfl)
theorem dX5_readName_40 : decode cX5_readName 40 = .ok (.aload_n 0, 1) := dk_42 (dk_at dksX5_readName_1 16 rfl rfl)
theorem dX5_readName_41 : decode cX5_readName 41 = .ok (.iconst 1, 1) := dk_4 (dk_at dksX5_readName_1 17 rfl rfl)
theorem dX5_readName_42 : decode cX5_readName 42 = .ok (.invokevirtual 169, 3) := dk_182 0 169 (dk_at dksX5_readName_1 18 rfl rfl)
theorem dX5_readName_45 : decode cX5_readName 45 = .ok (.goto 16, 3) := dk_167 0 16 (dk_at dksX5_readName_1 21 rfl rfl)
theorem dX5_readName_48 : decode cX5_readName 48 = .ok (.aload_n 0, 1) := dk_42 (dk_at dksX5_readName_2 0 rfl rfl)
theorem dX5_readName_49 : decode cX5_readName 49 = .ok (.iconst 1, 1) := dk_4 (dk_at dksX5_readName_2 1 rfl rfl)
theorem dX5_readName_50 : decode cX5_readName 50 = .ok (.invokevirtual 198, 3) := dk_182 0 198 (dk_at dksX5_readName_2 2 rfl rfl)
theorem dX5_readName_53 : decode cX5_readName 53 = .ok (.ifCond .lt 8, 3) := dk_155 0 8 (dk_at dksX5_readName_2 5 rfl rfl)
theorem dX5_readName_56 : decode cX5_readName 56 = .ok (.aload_n 0, 1) := dk_42 (dk_at dksX5_readName_2 8 rfl rfl)
theorem dX5_readName_57 : decode cX5_readName 57 = .ok (.iconst 3, 1) := dk_6 (dk_at dksX5_readName_2 9 rfl rfl)
theorem dX5_readName_58 : decode cX5_readName 58 = .ok (.invokevirtual 169, 3) := dk_182 0 169 (dk_at dksX5_readName_2 10 rfl rfl)
theorem dX5_readName_61 : decode cX5_readName 61 = .ok (.aload_n 0, 1) := dk_42 (dk_at dksX5_readName_2 13 rfl rfl)
theorem dX5_readName_62 : decode cX5_readName 62 = .ok (.getfield 163, 3) := dk_180 0 163 (dk_at dksX5_readName_2 14 rfl rfl)
theorem dX5_readName_65 : decode cX5_readName 65 = .ok (.ifCond .ne 67, 3) := dk_154 0 67 (dk_at dksX5_readName_2 17 rfl rfl)
theorem dX5_readName_68 : decode cX5_readName 68 = .ok (.aload_n 0, 1) := dk_42 (dk_at dksX5_readName_2 20 rfl rfl)
theorem dX5_readName_69 : decode cX5_readName 69 = .ok (.getfield 99, 3) := dk_180 0 99 (dk_at dksX5_readName_2 21 rfl rfl)
theorem dX5_readName_72 : decode cX5_readName 72 = .ok (.aload_n 0, 1) := dk_42 (dk_at dksX5_readName_3 0 rfl rfl)
theorem dX5_readName_73 : decode cX5_readName 73 = .ok (.getfield 188, 3) := dk_180 0 188 (dk_at dksX5_readName_3 1 rfl rfl)
theorem dX5_readName_76 : decode cX5_readName 76 = .ok (.aload_n 0, 1) := dk_42 (dk_at dksX5_readName_3 4 rfl rfl)
theorem dX5_readName_77 : decode cX5_readName 77 = .ok (.getfield 30, 3) := dk_180 0 30 (dk_at dksX5_readName_3 5 rfl rfl)
theorem dX5_readName_80 : decode cX5_readName 80 = .ok (.aload_n 0, 1) := dk_42 (dk_at dksX5_readName_3 8 rfl rfl)
theorem dX5_readName_81 : decode cX5_readName 81 = .ok (.getfield 160, 3) := dk_180 0 160 (dk_at dksX5_readName_3 9 rfl rfl)
theorem dX5_readName_84 : decode cX5_readName 84 = .ok (.laload, 1) := dk_47 (dk_at dksX5_readName_3 12 rfl rfl)
theorem dX5_readName_85 : decode cX5_readName 85 = .ok (.lastore, 1) := dk_80 (dk_at dksX5_readName_3 13 rfl rfl)
theorem dX5_readName_86 : decode cX5_readName 86 = .ok (.aload_n 0, 1) := dk_42 (dk_at dksX5_readName_3 14 rfl rfl)
theorem dX5_readName_87 : decode cX5_readName 87 = .ok (.getfield 105, 3) := dk_180 0 105 (dk_at dksX5_readName_3 15 rfl rfl)
theorem dX5_readName_90 : decode cX5_readName 90 = .ok (.aload_n 0, 1) := dk_42 (dk_at dksX5_readName_3 18 rfl rfl)
theorem dX5_readName_91 : decode cX5_readName 91 = .ok (.getfield 188, 3) := dk_180 0 188 (dk_at dksX5_readName_3 19 rfl rfl)
theorem dX5_readName_94 : decode cX5_readName 94 = .ok (.iload_n 3, 1) := dk_29 (dk_at dksX5_readName_3 22 rfl rfl)
theorem dX5_readName_95 : decode cX5_readName 95 = .ok (.iload 4, 2) := dk_21 4 (dk_at dksX5_readName_4 0 rfl rfl)
theorem dX5_readName_97 : decode cX5_readName 97 = .ok (.iadd, 1) := dk_96 (dk_at dksX5_readName_4 2 rfl rfl)
theorem dX5_readName_98 : decode cX5_readName 98 = .ok (.iastore, 1) := dk_79 (dk_at dksX5_readName_4 3 rfl rfl)
theorem dX5_readName_99 : decode cX5_readName 99 = .ok (.aload_n 0, 1) := dk_42 (dk_at dksX5_readName_4 4 rfl rfl)
theorem dX5_readName_100 : decode cX5_readName 100 = .ok (.dup, 1) := dk_89 (dk_at dksX5_readName_4 5 rfl rfl)
theorem dX5_readName_101 : decode cX5_readName 101 = .ok (.getfield 188, 3) := dk_180 0 188 (dk_at dksX5_readName_4 6 rfl rfl)
theorem dX5_readName_104 : decode cX5_readName 104 = .ok (.iconst 1, 1) := dk_4 (dk_at dksX5_readName_4 9 rfl rfl)
theorem dX5_readName_105 : decode cX5_readName 105 = .ok (.iadd, 1) := dk_96 (dk_at dksX5_readName_4 10 rfl rfl)
theorem dX5_readName_106 : decode cX5_readName 106 = .ok (.putfield 188, 3) := dk_181 0 188 (dk_at dksX5_readName_4 11 rfl rfl)
theorem dX5_readName_109 : decode cX5_readName 109 = .ok (.aload_n 0, 1) := dk_42 (dk_at dksX5_readName_4 14 rfl rfl)
theorem dX5_readName_110 : decode cX5_readName 110 = .ok (.dup, 1) := dk_89 (dk_at dksX5_readName_4 15 rfl rfl)
theorem dX5_readName_111 : decode cX5_readName 111 = .ok (.getfield 160, 3) := dk_180 0 160 (dk_at dksX5_readName_4 16 rfl rfl)
theorem dX5_readName_114 : decode cX5_readName 114 = .ok (.iconst 1, 1) := dk_4 (dk_at dksX5_readName_4 19 rfl rfl)
theorem dX5_readName_115 : decode cX5_readName 115 = .ok (.iadd, 1) := dk_96 (dk_at dksX5_readName_4 20 rfl rfl)
theorem dX5_readName_116 : decode cX5_readName 116 = .ok (.putfield 160, 3) := dk_181 0 160 (dk_at dksX5_readName_4 21 rfl rfl)
theorem dX5_readName_119 : decode cX5_readName 119 = .ok (.aload_n 0, 1) := dk_42 (dk_at dksX5_readName_5 0 rfl rfl)
theorem dX5_readName_120 : decode cX5_readName 120 = .ok (.getfield 87, 3) := dk_180 0 87 (dk_at dksX5_readName_5 1 rfl rfl)
theorem dX5_readName_123 : decode cX5_readName 123 = .ok (.bipush 50, 2) := dk_16 50 (dk_at dksX5_readName_5 4 rfl rfl)
theorem dX5_readName_125 : decode cX5_readName 125 = .ok (.iload_n 1, 1) := dk_27 (dk_at dksX5_readName_5 6 rfl rfl)
theorem dX5_readName_126 : decode cX5_readName 126 = .ok (.iadd, 1) := dk_96 (dk_at dksX5_readName_5 7 rfl rfl)
theorem dX5_readName_127 : decode cX5_readName 127 = .ok (.dup2, 1) := dk_92 (dk_at dksX5_readName_5 8 rfl rfl)
theorem dX5_readName_128 : decode cX5_readName 128 = .ok (.iaload, 1) := dk_46 (dk_at dksX5_readName_5 9 rfl rfl)
theorem dX5_readName_129 : decode cX5_readName 129 = .ok (.iconst 1, 1) := dk_4 (dk_at dksX5_readName_5 10 rfl rfl)
theorem dX5_readName_130 : decode cX5_readName 130 = .ok (.iadd, 1) := dk_96 (dk_at dksX5_readName_5 11 rfl rfl)
theorem dX5_readName_131 : decode cX5_readName 131 = .ok (.iastore, 1) := dk_79 (dk_at dksX5_readName_5 12 rfl rfl)
theorem dX5_readName_132 : decode cX5_readName 132 = .ok (.return_, 1) := dk_177 (dk_at dksX5_readName_5 13 rfl rfl)
abbrev cX5_wrong : ByteArray := prog_23_method_10_code
def yX5_wrong : MethodName := ⟨RX5, "wrong", "(I)V"⟩
def dkwX5_wrong_1 : List UInt8 := [181, 0, 163, 177]
abbrev dktX5_wrong_1 : List UInt8 := dkwX5_wrong_1 ++ []
def dkwX5_wrong_0 : List UInt8 := [42, 180, 0, 163, 154, 0, 21, 42, 27, 16, 16, 42, 180, 0, 27, 42, 180, 0, 160, 46, 104, 96]
abbrev dktX5_wrong_0 : List UInt8 := dkwX5_wrong_0 ++ dktX5_wrong_1
theorem dksX5_wrong_0 : cX5_wrong.data.toList.drop 0 = dktX5_wrong_0 := by decide +kernel
theorem dksX5_wrong_1 : cX5_wrong.data.toList.drop 22 = dktX5_wrong_1 := dk_seg dksX5_wrong_0 22 rfl rfl
theorem dX5_wrong_0 : decode cX5_wrong 0 = .ok (.aload_n 0, 1) := dk_42 (dk_at dksX5_wrong_0 0 rfl rfl)
theorem dX5_wrong_1 : decode cX5_wrong 1 = .ok (.getfield 163, 3) := dk_180 0 163 (dk_at dksX5_wrong_0 1 rfl rfl)
theorem dX5_wrong_4 : decode cX5_wrong 4 = .ok (.ifCond .ne 21, 3) := dk_154 0 21 (dk_at dksX5_wrong_0 4 rfl rfl)
theorem dX5_wrong_7 : decode cX5_wrong 7 = .ok (.aload_n 0, 1) := dk_42 (dk_at dksX5_wrong_0 7 rfl rfl)
theorem dX5_wrong_8 : decode cX5_wrong 8 = .ok (.iload_n 1, 1) := dk_27 (dk_at dksX5_wrong_0 8 rfl rfl)
theorem dX5_wrong_9 : decode cX5_wrong 9 = .ok (.bipush 16, 2) := dk_16 16 (dk_at dksX5_wrong_0 9 rfl rfl)
theorem dX5_wrong_11 : decode cX5_wrong 11 = .ok (.aload_n 0, 1) := dk_42 (dk_at dksX5_wrong_0 11 rfl rfl)
theorem dX5_wrong_12 : decode cX5_wrong 12 = .ok (.getfield 27, 3) := dk_180 0 27 (dk_at dksX5_wrong_0 12 rfl rfl)
theorem dX5_wrong_15 : decode cX5_wrong 15 = .ok (.aload_n 0, 1) := dk_42 (dk_at dksX5_wrong_0 15 rfl rfl)
theorem dX5_wrong_16 : decode cX5_wrong 16 = .ok (.getfield 160, 3) := dk_180 0 160 (dk_at dksX5_wrong_0 16 rfl rfl)
theorem dX5_wrong_19 : decode cX5_wrong 19 = .ok (.iaload, 1) := dk_46 (dk_at dksX5_wrong_0 19 rfl rfl)
theorem dX5_wrong_20 : decode cX5_wrong 20 = .ok (.imul, 1) := dk_104 (dk_at dksX5_wrong_0 20 rfl rfl)
theorem dX5_wrong_21 : decode cX5_wrong 21 = .ok (.iadd, 1) := dk_96 (dk_at dksX5_wrong_0 21 rfl rfl)
theorem dX5_wrong_22 : decode cX5_wrong 22 = .ok (.putfield 163, 3) := dk_181 0 163 (dk_at dksX5_wrong_1 0 rfl rfl)
theorem dX5_wrong_25 : decode cX5_wrong 25 = .ok (.return_, 1) := dk_177 (dk_at dksX5_wrong_1 3 rfl rfl)
abbrev cX5_isName : ByteArray := prog_23_method_23_code
def yX5_isName : MethodName := ⟨RX5, "isName", "()Z"⟩
def dkwX5_isName_1 : List UInt8 := [182, 0, 185, 156, 0, 7, 4, 167, 0, 4, 3, 172]
abbrev dktX5_isName_1 : List UInt8 := dkwX5_isName_1 ++ []
def dkwX5_isName_0 : List UInt8 := [42, 180, 0, 163, 154, 0, 30, 42, 180, 0, 24, 42, 180, 0, 160, 46, 4, 160, 0, 17, 42, 3, 16, 21]
abbrev dktX5_isName_0 : List UInt8 := dkwX5_isName_0 ++ dktX5_isName_1
theorem dksX5_isName_0 : cX5_isName.data.toList.drop 0 = dktX5_isName_0 := by decide +kernel
theorem dksX5_isName_1 : cX5_isName.data.toList.drop 24 = dktX5_isName_1 := dk_seg dksX5_isName_0 24 rfl rfl
theorem dX5_isName_0 : decode cX5_isName 0 = .ok (.aload_n 0, 1) := dk_42 (dk_at dksX5_isName_0 0 rfl rfl)
theorem dX5_isName_1 : decode cX5_isName 1 = .ok (.getfield 163, 3) := dk_180 0 163 (dk_at dksX5_isName_0 1 rfl rfl)
theorem dX5_isName_4 : decode cX5_isName 4 = .ok (.ifCond .ne 30, 3) := dk_154 0 30 (dk_at dksX5_isName_0 4 rfl rfl)
theorem dX5_isName_7 : decode cX5_isName 7 = .ok (.aload_n 0, 1) := dk_42 (dk_at dksX5_isName_0 7 rfl rfl)
theorem dX5_isName_8 : decode cX5_isName 8 = .ok (.getfield 24, 3) := dk_180 0 24 (dk_at dksX5_isName_0 8 rfl rfl)
theorem dX5_isName_11 : decode cX5_isName 11 = .ok (.aload_n 0, 1) := dk_42 (dk_at dksX5_isName_0 11 rfl rfl)
theorem dX5_isName_12 : decode cX5_isName 12 = .ok (.getfield 160, 3) := dk_180 0 160 (dk_at dksX5_isName_0 12 rfl rfl)
theorem dX5_isName_15 : decode cX5_isName 15 = .ok (.iaload, 1) := dk_46 (dk_at dksX5_isName_0 15 rfl rfl)
theorem dX5_isName_16 : decode cX5_isName 16 = .ok (.iconst 1, 1) := dk_4 (dk_at dksX5_isName_0 16 rfl rfl)
theorem dX5_isName_17 : decode cX5_isName 17 = .ok (.if_icmp .ne 17, 3) := dk_160 0 17 (dk_at dksX5_isName_0 17 rfl rfl)
theorem dX5_isName_20 : decode cX5_isName 20 = .ok (.aload_n 0, 1) := dk_42 (dk_at dksX5_isName_0 20 rfl rfl)
theorem dX5_isName_21 : decode cX5_isName 21 = .ok (.iconst 0, 1) := dk_3 (dk_at dksX5_isName_0 21 rfl rfl)
theorem dX5_isName_22 : decode cX5_isName 22 = .ok (.bipush 21, 2) := dk_16 21 (dk_at dksX5_isName_0 22 rfl rfl)
theorem dX5_isName_24 : decode cX5_isName 24 = .ok (.invokevirtual 185, 3) := dk_182 0 185 (dk_at dksX5_isName_1 0 rfl rfl)
theorem dX5_isName_27 : decode cX5_isName 27 = .ok (.ifCond .ge 7, 3) := dk_156 0 7 (dk_at dksX5_isName_1 3 rfl rfl)
theorem dX5_isName_30 : decode cX5_isName 30 = .ok (.iconst 1, 1) := dk_4 (dk_at dksX5_isName_1 6 rfl rfl)
theorem dX5_isName_31 : decode cX5_isName 31 = .ok (.goto 4, 3) := dk_167 0 4 (dk_at dksX5_isName_1 7 rfl rfl)
theorem dX5_isName_34 : decode cX5_isName 34 = .ok (.iconst 0, 1) := dk_3 (dk_at dksX5_isName_1 10 rfl rfl)
theorem dX5_isName_35 : decode cX5_isName 35 = .ok (.ireturn, 1) := dk_172 (dk_at dksX5_isName_1 11 rfl rfl)
abbrev cX5_wordHere : ByteArray := prog_23_method_21_code
def yX5_wordHere : MethodName := ⟨RX5, "wordHere", "(II)I"⟩
def dkwX5_wordHere_1 : List UInt8 := [167, 0, 4, 29, 62, 132, 4, 1, 167, 255, 229, 29, 172]
abbrev dktX5_wordHere_1 : List UInt8 := dkwX5_wordHere_1 ++ []
def dkwX5_wordHere_0 : List UInt8 := [2, 62, 3, 54, 4, 21, 4, 28, 162, 0, 27, 42, 27, 21, 4, 96, 182, 0, 172, 153, 0, 8, 21, 4]
abbrev dktX5_wordHere_0 : List UInt8 := dkwX5_wordHere_0 ++ dktX5_wordHere_1
theorem dksX5_wordHere_0 : cX5_wordHere.data.toList.drop 0 = dktX5_wordHere_0 := by decide +kernel
theorem dksX5_wordHere_1 : cX5_wordHere.data.toList.drop 24 = dktX5_wordHere_1 := dk_seg dksX5_wordHere_0 24 rfl rfl
theorem dX5_wordHere_0 : decode cX5_wordHere 0 = .ok (.iconst (-1), 1) := dk_2 (dk_at dksX5_wordHere_0 0 rfl rfl)
theorem dX5_wordHere_1 : decode cX5_wordHere 1 = .ok (.istore_n 3, 1) := dk_62 (dk_at dksX5_wordHere_0 1 rfl rfl)
theorem dX5_wordHere_2 : decode cX5_wordHere 2 = .ok (.iconst 0, 1) := dk_3 (dk_at dksX5_wordHere_0 2 rfl rfl)
theorem dX5_wordHere_3 : decode cX5_wordHere 3 = .ok (.istore 4, 2) := dk_54 4 (dk_at dksX5_wordHere_0 3 rfl rfl)
theorem dX5_wordHere_5 : decode cX5_wordHere 5 = .ok (.iload 4, 2) := dk_21 4 (dk_at dksX5_wordHere_0 5 rfl rfl)
theorem dX5_wordHere_7 : decode cX5_wordHere 7 = .ok (.iload_n 2, 1) := dk_28 (dk_at dksX5_wordHere_0 7 rfl rfl)
theorem dX5_wordHere_8 : decode cX5_wordHere 8 = .ok (.if_icmp .ge 27, 3) := dk_162 0 27 (dk_at dksX5_wordHere_0 8 rfl rfl)
theorem dX5_wordHere_11 : decode cX5_wordHere 11 = .ok (.aload_n 0, 1) := dk_42 (dk_at dksX5_wordHere_0 11 rfl rfl)
theorem dX5_wordHere_12 : decode cX5_wordHere 12 = .ok (.iload_n 1, 1) := dk_27 (dk_at dksX5_wordHere_0 12 rfl rfl)
theorem dX5_wordHere_13 : decode cX5_wordHere 13 = .ok (.iload 4, 2) := dk_21 4 (dk_at dksX5_wordHere_0 13 rfl rfl)
theorem dX5_wordHere_15 : decode cX5_wordHere 15 = .ok (.iadd, 1) := dk_96 (dk_at dksX5_wordHere_0 15 rfl rfl)
theorem dX5_wordHere_16 : decode cX5_wordHere 16 = .ok (.invokevirtual 172, 3) := dk_182 0 172 (dk_at dksX5_wordHere_0 16 rfl rfl)
theorem dX5_wordHere_19 : decode cX5_wordHere 19 = .ok (.ifCond .eq 8, 3) := dk_153 0 8 (dk_at dksX5_wordHere_0 19 rfl rfl)
theorem dX5_wordHere_22 : decode cX5_wordHere 22 = .ok (.iload 4, 2) := dk_21 4 (dk_at dksX5_wordHere_0 22 rfl rfl)
theorem dX5_wordHere_24 : decode cX5_wordHere 24 = .ok (.goto 4, 3) := dk_167 0 4 (dk_at dksX5_wordHere_1 0 rfl rfl)
theorem dX5_wordHere_27 : decode cX5_wordHere 27 = .ok (.iload_n 3, 1) := dk_29 (dk_at dksX5_wordHere_1 3 rfl rfl)
theorem dX5_wordHere_28 : decode cX5_wordHere 28 = .ok (.istore_n 3, 1) := dk_62 (dk_at dksX5_wordHere_1 4 rfl rfl)
theorem dX5_wordHere_29 : decode cX5_wordHere 29 = .ok (.iinc 4 1, 3) := dk_132 4 1 (dk_at dksX5_wordHere_1 5 rfl rfl)
theorem dX5_wordHere_32 : decode cX5_wordHere 32 = .ok (.goto (-27), 3) := dk_167 255 229 (dk_at dksX5_wordHere_1 8 rfl rfl)
theorem dX5_wordHere_35 : decode cX5_wordHere 35 = .ok (.iload_n 3, 1) := dk_29 (dk_at dksX5_wordHere_1 11 rfl rfl)
theorem dX5_wordHere_36 : decode cX5_wordHere 36 = .ok (.ireturn, 1) := dk_172 (dk_at dksX5_wordHere_1 12 rfl rfl)
abbrev cX5_nameAt : ByteArray := prog_23_method_24_code
def yX5_nameAt : MethodName := ⟨RX5, "nameAt", "(Z)I"⟩
def dkwX5_nameAt_3 : List UInt8 := [180, 0, 102, 28, 46, 172, 132, 2, 1, 167, 255, 182, 2, 172]
abbrev dktX5_nameAt_3 : List UInt8 := dkwX5_nameAt_3 ++ []
def dkwX5_nameAt_2 : List UInt8 := [180, 0, 160, 47, 148, 154, 0, 23, 27, 153, 0, 12, 42, 180, 0, 105, 28, 46, 167, 0, 9, 42]
abbrev dktX5_nameAt_2 : List UInt8 := dkwX5_nameAt_2 ++ dktX5_nameAt_3
def dkwX5_nameAt_1 : List UInt8 := [153, 0, 12, 42, 180, 0, 99, 28, 47, 167, 0, 9, 42, 180, 0, 96, 28, 47, 42, 180, 0, 30, 42]
abbrev dktX5_nameAt_1 : List UInt8 := dkwX5_nameAt_1 ++ dktX5_nameAt_2
def dkwX5_nameAt_0 : List UInt8 := [3, 61, 28, 27, 153, 0, 10, 42, 180, 0, 188, 167, 0, 7, 42, 180, 0, 191, 162, 0, 61, 27]
abbrev dktX5_nameAt_0 : List UInt8 := dkwX5_nameAt_0 ++ dktX5_nameAt_1
theorem dksX5_nameAt_0 : cX5_nameAt.data.toList.drop 0 = dktX5_nameAt_0 := by decide +kernel
theorem dksX5_nameAt_1 : cX5_nameAt.data.toList.drop 22 = dktX5_nameAt_1 := dk_seg dksX5_nameAt_0 22 rfl rfl
theorem dksX5_nameAt_2 : cX5_nameAt.data.toList.drop 45 = dktX5_nameAt_2 := dk_seg dksX5_nameAt_1 23 rfl rfl
theorem dksX5_nameAt_3 : cX5_nameAt.data.toList.drop 67 = dktX5_nameAt_3 := dk_seg dksX5_nameAt_2 22 rfl rfl
theorem dX5_nameAt_0 : decode cX5_nameAt 0 = .ok (.iconst 0, 1) := dk_3 (dk_at dksX5_nameAt_0 0 rfl rfl)
theorem dX5_nameAt_1 : decode cX5_nameAt 1 = .ok (.istore_n 2, 1) := dk_61 (dk_at dksX5_nameAt_0 1 rfl rfl)
theorem dX5_nameAt_2 : decode cX5_nameAt 2 = .ok (.iload_n 2, 1) := dk_28 (dk_at dksX5_nameAt_0 2 rfl rfl)
theorem dX5_nameAt_3 : decode cX5_nameAt 3 = .ok (.iload_n 1, 1) := dk_27 (dk_at dksX5_nameAt_0 3 rfl rfl)
theorem dX5_nameAt_4 : decode cX5_nameAt 4 = .ok (.ifCond .eq 10, 3) := dk_153 0 10 (dk_at dksX5_nameAt_0 4 rfl rfl)
theorem dX5_nameAt_7 : decode cX5_nameAt 7 = .ok (.aload_n 0, 1) := dk_42 (dk_at dksX5_nameAt_0 7 rfl rfl)
theorem dX5_nameAt_8 : decode cX5_nameAt 8 = .ok (.getfield 188, 3) := dk_180 0 188 (dk_at dksX5_nameAt_0 8 rfl rfl)
theorem dX5_nameAt_11 : decode cX5_nameAt 11 = .ok (.goto 7, 3) := dk_167 0 7 (dk_at dksX5_nameAt_0 11 rfl rfl)
theorem dX5_nameAt_14 : decode cX5_nameAt 14 = .ok (.aload_n 0, 1) := dk_42 (dk_at dksX5_nameAt_0 14 rfl rfl)
theorem dX5_nameAt_15 : decode cX5_nameAt 15 = .ok (.getfield 191, 3) := dk_180 0 191 (dk_at dksX5_nameAt_0 15 rfl rfl)
theorem dX5_nameAt_18 : decode cX5_nameAt 18 = .ok (.if_icmp .ge 61, 3) := dk_162 0 61 (dk_at dksX5_nameAt_0 18 rfl rfl)
theorem dX5_nameAt_21 : decode cX5_nameAt 21 = .ok (.iload_n 1, 1) := dk_27 (dk_at dksX5_nameAt_0 21 rfl rfl)
theorem dX5_nameAt_22 : decode cX5_nameAt 22 = .ok (.ifCond .eq 12, 3) := dk_153 0 12 (dk_at dksX5_nameAt_1 0 rfl rfl)
theorem dX5_nameAt_25 : decode cX5_nameAt 25 = .ok (.aload_n 0, 1) := dk_42 (dk_at dksX5_nameAt_1 3 rfl rfl)
theorem dX5_nameAt_26 : decode cX5_nameAt 26 = .ok (.getfield 99, 3) := dk_180 0 99 (dk_at dksX5_nameAt_1 4 rfl rfl)
theorem dX5_nameAt_29 : decode cX5_nameAt 29 = .ok (.iload_n 2, 1) := dk_28 (dk_at dksX5_nameAt_1 7 rfl rfl)
theorem dX5_nameAt_30 : decode cX5_nameAt 30 = .ok (.laload, 1) := dk_47 (dk_at dksX5_nameAt_1 8 rfl rfl)
theorem dX5_nameAt_31 : decode cX5_nameAt 31 = .ok (.goto 9, 3) := dk_167 0 9 (dk_at dksX5_nameAt_1 9 rfl rfl)
theorem dX5_nameAt_34 : decode cX5_nameAt 34 = .ok (.aload_n 0, 1) := dk_42 (dk_at dksX5_nameAt_1 12 rfl rfl)
theorem dX5_nameAt_35 : decode cX5_nameAt 35 = .ok (.getfield 96, 3) := dk_180 0 96 (dk_at dksX5_nameAt_1 13 rfl rfl)
theorem dX5_nameAt_38 : decode cX5_nameAt 38 = .ok (.iload_n 2, 1) := dk_28 (dk_at dksX5_nameAt_1 16 rfl rfl)
theorem dX5_nameAt_39 : decode cX5_nameAt 39 = .ok (.laload, 1) := dk_47 (dk_at dksX5_nameAt_1 17 rfl rfl)
theorem dX5_nameAt_40 : decode cX5_nameAt 40 = .ok (.aload_n 0, 1) := dk_42 (dk_at dksX5_nameAt_1 18 rfl rfl)
theorem dX5_nameAt_41 : decode cX5_nameAt 41 = .ok (.getfield 30, 3) := dk_180 0 30 (dk_at dksX5_nameAt_1 19 rfl rfl)
theorem dX5_nameAt_44 : decode cX5_nameAt 44 = .ok (.aload_n 0, 1) := dk_42 (dk_at dksX5_nameAt_1 22 rfl rfl)
theorem dX5_nameAt_45 : decode cX5_nameAt 45 = .ok (.getfield 160, 3) := dk_180 0 160 (dk_at dksX5_nameAt_2 0 rfl rfl)
theorem dX5_nameAt_48 : decode cX5_nameAt 48 = .ok (.laload, 1) := dk_47 (dk_at dksX5_nameAt_2 3 rfl rfl)
theorem dX5_nameAt_49 : decode cX5_nameAt 49 = .ok (.lcmp, 1) := dk_148 (dk_at dksX5_nameAt_2 4 rfl rfl)
theorem dX5_nameAt_50 : decode cX5_nameAt 50 = .ok (.ifCond .ne 23, 3) := dk_154 0 23 (dk_at dksX5_nameAt_2 5 rfl rfl)
theorem dX5_nameAt_53 : decode cX5_nameAt 53 = .ok (.iload_n 1, 1) := dk_27 (dk_at dksX5_nameAt_2 8 rfl rfl)
theorem dX5_nameAt_54 : decode cX5_nameAt 54 = .ok (.ifCond .eq 12, 3) := dk_153 0 12 (dk_at dksX5_nameAt_2 9 rfl rfl)
theorem dX5_nameAt_57 : decode cX5_nameAt 57 = .ok (.aload_n 0, 1) := dk_42 (dk_at dksX5_nameAt_2 12 rfl rfl)
theorem dX5_nameAt_58 : decode cX5_nameAt 58 = .ok (.getfield 105, 3) := dk_180 0 105 (dk_at dksX5_nameAt_2 13 rfl rfl)
theorem dX5_nameAt_61 : decode cX5_nameAt 61 = .ok (.iload_n 2, 1) := dk_28 (dk_at dksX5_nameAt_2 16 rfl rfl)
theorem dX5_nameAt_62 : decode cX5_nameAt 62 = .ok (.iaload, 1) := dk_46 (dk_at dksX5_nameAt_2 17 rfl rfl)
theorem dX5_nameAt_63 : decode cX5_nameAt 63 = .ok (.goto 9, 3) := dk_167 0 9 (dk_at dksX5_nameAt_2 18 rfl rfl)
theorem dX5_nameAt_66 : decode cX5_nameAt 66 = .ok (.aload_n 0, 1) := dk_42 (dk_at dksX5_nameAt_2 21 rfl rfl)
theorem dX5_nameAt_67 : decode cX5_nameAt 67 = .ok (.getfield 102, 3) := dk_180 0 102 (dk_at dksX5_nameAt_3 0 rfl rfl)
theorem dX5_nameAt_70 : decode cX5_nameAt 70 = .ok (.iload_n 2, 1) := dk_28 (dk_at dksX5_nameAt_3 3 rfl rfl)
theorem dX5_nameAt_71 : decode cX5_nameAt 71 = .ok (.iaload, 1) := dk_46 (dk_at dksX5_nameAt_3 4 rfl rfl)
theorem dX5_nameAt_72 : decode cX5_nameAt 72 = .ok (.ireturn, 1) := dk_172 (dk_at dksX5_nameAt_3 5 rfl rfl)
theorem dX5_nameAt_73 : decode cX5_nameAt 73 = .ok (.iinc 2 1, 3) := dk_132 2 1 (dk_at dksX5_nameAt_3 6 rfl rfl)
theorem dX5_nameAt_76 : decode cX5_nameAt 76 = .ok (.goto (-74), 3) := dk_167 255 182 (dk_at dksX5_nameAt_3 9 rfl rfl)
theorem dX5_nameAt_79 : decode cX5_nameAt 79 = .ok (.iconst (-1), 1) := dk_2 (dk_at dksX5_nameAt_3 12 rfl rfl)
theorem dX5_nameAt_80 : decode cX5_nameAt 80 = .ok (.ireturn, 1) := dk_172 (dk_at dksX5_nameAt_3 13 rfl rfl)
abbrev cX5_takeAfter : ByteArray := prog_23_method_20_code
def yX5_takeAfter : MethodName := ⟨RX5, "takeAfter", "(III)I"⟩
def dkwX5_takeAfter_0 : List UInt8 := [42, 27, 182, 0, 178, 42, 28, 29, 182, 0, 181, 172]
abbrev dktX5_takeAfter_0 : List UInt8 := dkwX5_takeAfter_0 ++ []
theorem dksX5_takeAfter_0 : cX5_takeAfter.data.toList.drop 0 = dktX5_takeAfter_0 := by decide +kernel
theorem dX5_takeAfter_0 : decode cX5_takeAfter 0 = .ok (.aload_n 0, 1) := dk_42 (dk_at dksX5_takeAfter_0 0 rfl rfl)
theorem dX5_takeAfter_1 : decode cX5_takeAfter 1 = .ok (.iload_n 1, 1) := dk_27 (dk_at dksX5_takeAfter_0 1 rfl rfl)
theorem dX5_takeAfter_2 : decode cX5_takeAfter 2 = .ok (.invokevirtual 178, 3) := dk_182 0 178 (dk_at dksX5_takeAfter_0 2 rfl rfl)
theorem dX5_takeAfter_5 : decode cX5_takeAfter 5 = .ok (.aload_n 0, 1) := dk_42 (dk_at dksX5_takeAfter_0 5 rfl rfl)
theorem dX5_takeAfter_6 : decode cX5_takeAfter 6 = .ok (.iload_n 2, 1) := dk_28 (dk_at dksX5_takeAfter_0 6 rfl rfl)
theorem dX5_takeAfter_7 : decode cX5_takeAfter 7 = .ok (.iload_n 3, 1) := dk_29 (dk_at dksX5_takeAfter_0 7 rfl rfl)
theorem dX5_takeAfter_8 : decode cX5_takeAfter 8 = .ok (.invokevirtual 181, 3) := dk_182 0 181 (dk_at dksX5_takeAfter_0 8 rfl rfl)
theorem dX5_takeAfter_11 : decode cX5_takeAfter 11 = .ok (.ireturn, 1) := dk_172 (dk_at dksX5_takeAfter_0 11 rfl rfl)
abbrev cX5_takeWord : ByteArray := prog_23_method_16_code
def yX5_takeWord : MethodName := ⟨RX5, "takeWord", "(I)V"⟩
def dkwX5_takeWord_0 : List UInt8 := [42, 27, 182, 0, 175, 154, 0, 8, 42, 4, 182, 0, 169, 177]
abbrev dktX5_takeWord_0 : List UInt8 := dkwX5_takeWord_0 ++ []
theorem dksX5_takeWord_0 : cX5_takeWord.data.toList.drop 0 = dktX5_takeWord_0 := by decide +kernel
theorem dX5_takeWord_0 : decode cX5_takeWord 0 = .ok (.aload_n 0, 1) := dk_42 (dk_at dksX5_takeWord_0 0 rfl rfl)
theorem dX5_takeWord_1 : decode cX5_takeWord 1 = .ok (.iload_n 1, 1) := dk_27 (dk_at dksX5_takeWord_0 1 rfl rfl)
theorem dX5_takeWord_2 : decode cX5_takeWord 2 = .ok (.invokevirtual 175, 3) := dk_182 0 175 (dk_at dksX5_takeWord_0 2 rfl rfl)
theorem dX5_takeWord_5 : decode cX5_takeWord 5 = .ok (.ifCond .ne 8, 3) := dk_154 0 8 (dk_at dksX5_takeWord_0 5 rfl rfl)
theorem dX5_takeWord_8 : decode cX5_takeWord 8 = .ok (.aload_n 0, 1) := dk_42 (dk_at dksX5_takeWord_0 8 rfl rfl)
theorem dX5_takeWord_9 : decode cX5_takeWord 9 = .ok (.iconst 1, 1) := dk_4 (dk_at dksX5_takeWord_0 9 rfl rfl)
theorem dX5_takeWord_10 : decode cX5_takeWord 10 = .ok (.invokevirtual 169, 3) := dk_182 0 169 (dk_at dksX5_takeWord_0 10 rfl rfl)
theorem dX5_takeWord_13 : decode cX5_takeWord 13 = .ok (.return_, 1) := dk_177 (dk_at dksX5_takeWord_0 13 rfl rfl)
abbrev cX5_hasWord : ByteArray := prog_23_method_15_code
def yX5_hasWord : MethodName := ⟨RX5, "hasWord", "(I)Z"⟩
def dkwX5_hasWord_1 : List UInt8 := [28, 172]
abbrev dktX5_hasWord_1 : List UInt8 := dkwX5_hasWord_1 ++ []
def dkwX5_hasWord_0 : List UInt8 := [42, 27, 182, 0, 172, 61, 42, 89, 180, 0, 160, 28, 153, 0, 7, 4, 167, 0, 4, 3, 96, 181, 0, 160]
abbrev dktX5_hasWord_0 : List UInt8 := dkwX5_hasWord_0 ++ dktX5_hasWord_1
theorem dksX5_hasWord_0 : cX5_hasWord.data.toList.drop 0 = dktX5_hasWord_0 := by decide +kernel
theorem dksX5_hasWord_1 : cX5_hasWord.data.toList.drop 24 = dktX5_hasWord_1 := dk_seg dksX5_hasWord_0 24 rfl rfl
theorem dX5_hasWord_0 : decode cX5_hasWord 0 = .ok (.aload_n 0, 1) := dk_42 (dk_at dksX5_hasWord_0 0 rfl rfl)
theorem dX5_hasWord_1 : decode cX5_hasWord 1 = .ok (.iload_n 1, 1) := dk_27 (dk_at dksX5_hasWord_0 1 rfl rfl)
theorem dX5_hasWord_2 : decode cX5_hasWord 2 = .ok (.invokevirtual 172, 3) := dk_182 0 172 (dk_at dksX5_hasWord_0 2 rfl rfl)
theorem dX5_hasWord_5 : decode cX5_hasWord 5 = .ok (.istore_n 2, 1) := dk_61 (dk_at dksX5_hasWord_0 5 rfl rfl)
theorem dX5_hasWord_6 : decode cX5_hasWord 6 = .ok (.aload_n 0, 1) := dk_42 (dk_at dksX5_hasWord_0 6 rfl rfl)
theorem dX5_hasWord_7 : decode cX5_hasWord 7 = .ok (.dup, 1) := dk_89 (dk_at dksX5_hasWord_0 7 rfl rfl)
theorem dX5_hasWord_8 : decode cX5_hasWord 8 = .ok (.getfield 160, 3) := dk_180 0 160 (dk_at dksX5_hasWord_0 8 rfl rfl)
theorem dX5_hasWord_11 : decode cX5_hasWord 11 = .ok (.iload_n 2, 1) := dk_28 (dk_at dksX5_hasWord_0 11 rfl rfl)
theorem dX5_hasWord_12 : decode cX5_hasWord 12 = .ok (.ifCond .eq 7, 3) := dk_153 0 7 (dk_at dksX5_hasWord_0 12 rfl rfl)
theorem dX5_hasWord_15 : decode cX5_hasWord 15 = .ok (.iconst 1, 1) := dk_4 (dk_at dksX5_hasWord_0 15 rfl rfl)
theorem dX5_hasWord_16 : decode cX5_hasWord 16 = .ok (.goto 4, 3) := dk_167 0 4 (dk_at dksX5_hasWord_0 16 rfl rfl)
theorem dX5_hasWord_19 : decode cX5_hasWord 19 = .ok (.iconst 0, 1) := dk_3 (dk_at dksX5_hasWord_0 19 rfl rfl)
theorem dX5_hasWord_20 : decode cX5_hasWord 20 = .ok (.iadd, 1) := dk_96 (dk_at dksX5_hasWord_0 20 rfl rfl)
theorem dX5_hasWord_21 : decode cX5_hasWord 21 = .ok (.putfield 160, 3) := dk_181 0 160 (dk_at dksX5_hasWord_0 21 rfl rfl)
theorem dX5_hasWord_24 : decode cX5_hasWord 24 = .ok (.iload_n 2, 1) := dk_28 (dk_at dksX5_hasWord_1 0 rfl rfl)
theorem dX5_hasWord_25 : decode cX5_hasWord 25 = .ok (.ireturn, 1) := dk_172 (dk_at dksX5_hasWord_1 1 rfl rfl)
abbrev cX5_takeNumber : ByteArray := prog_23_method_19_code
def yX5_takeNumber : MethodName := ⟨RX5, "takeNumber", "(II)I"⟩
def dkwX5_takeNumber_4 : List UInt8 := [180, 0, 160, 4, 100, 47, 136, 172]
abbrev dktX5_takeNumber_4 : List UInt8 := dkwX5_takeNumber_4 ++ []
def dkwX5_takeNumber_3 : List UInt8 := [42, 180, 0, 163, 158, 0, 5, 3, 172, 42, 89, 180, 0, 160, 4, 96, 181, 0, 160, 42, 180, 0, 30, 42]
abbrev dktX5_takeNumber_3 : List UInt8 := dkwX5_takeNumber_3 ++ dktX5_takeNumber_4
def dkwX5_takeNumber_2 : List UInt8 := [148, 155, 0, 18, 42, 180, 0, 30, 42, 180, 0, 160, 47, 28, 133, 148, 158, 0, 8, 42, 7, 182, 0, 169]
abbrev dktX5_takeNumber_2 : List UInt8 := dkwX5_takeNumber_2 ++ dktX5_takeNumber_3
def dkwX5_takeNumber_1 : List UInt8 := [182, 0, 169, 167, 0, 45, 42, 180, 0, 163, 154, 0, 38, 42, 180, 0, 30, 42, 180, 0, 160, 47, 27, 133]
abbrev dktX5_takeNumber_1 : List UInt8 := dkwX5_takeNumber_1 ++ dktX5_takeNumber_2
def dkwX5_takeNumber_0 : List UInt8 := [42, 180, 0, 163, 154, 0, 24, 42, 180, 0, 24, 42, 180, 0, 160, 46, 5, 159, 0, 11, 42, 4]
abbrev dktX5_takeNumber_0 : List UInt8 := dkwX5_takeNumber_0 ++ dktX5_takeNumber_1
theorem dksX5_takeNumber_0 : cX5_takeNumber.data.toList.drop 0 = dktX5_takeNumber_0 := by decide +kernel
theorem dksX5_takeNumber_1 : cX5_takeNumber.data.toList.drop 22 = dktX5_takeNumber_1 := dk_seg dksX5_takeNumber_0 22 rfl rfl
theorem dksX5_takeNumber_2 : cX5_takeNumber.data.toList.drop 46 = dktX5_takeNumber_2 := dk_seg dksX5_takeNumber_1 24 rfl rfl
theorem dksX5_takeNumber_3 : cX5_takeNumber.data.toList.drop 70 = dktX5_takeNumber_3 := dk_seg dksX5_takeNumber_2 24 rfl rfl
theorem dksX5_takeNumber_4 : cX5_takeNumber.data.toList.drop 94 = dktX5_takeNumber_4 := dk_seg dksX5_takeNumber_3 24 rfl rfl
theorem dX5_takeNumber_0 : decode cX5_takeNumber 0 = .ok (.aload_n 0, 1) := dk_42 (dk_at dksX5_takeNumber_0 0 rfl rfl)
theorem dX5_takeNumber_1 : decode cX5_takeNumber 1 = .ok (.getfield 163, 3) := dk_180 0 163 (dk_at dksX5_takeNumber_0 1 rfl rfl)
theorem dX5_takeNumber_4 : decode cX5_takeNumber 4 = .ok (.ifCond .ne 24, 3) := dk_154 0 24 (dk_at dksX5_takeNumber_0 4 rfl rfl)
theorem dX5_takeNumber_7 : decode cX5_takeNumber 7 = .ok (.aload_n 0, 1) := dk_42 (dk_at dksX5_takeNumber_0 7 rfl rfl)
theorem dX5_takeNumber_8 : decode cX5_takeNumber 8 = .ok (.getfield 24, 3) := dk_180 0 24 (dk_at dksX5_takeNumber_0 8 rfl rfl)
theorem dX5_takeNumber_11 : decode cX5_takeNumber 11 = .ok (.aload_n 0, 1) := dk_42 (dk_at dksX5_takeNumber_0 11 rfl rfl)
theorem dX5_takeNumber_12 : decode cX5_takeNumber 12 = .ok (.getfield 160, 3) := dk_180 0 160 (dk_at dksX5_takeNumber_0 12 rfl rfl)
theorem dX5_takeNumber_15 : decode cX5_takeNumber 15 = .ok (.iaload, 1) := dk_46 (dk_at dksX5_takeNumber_0 15 rfl rfl)
theorem dX5_takeNumber_16 : decode cX5_takeNumber 16 = .ok (.iconst 2, 1) := dk_5 (dk_at dksX5_takeNumber_0 16 rfl rfl)
theorem dX5_takeNumber_17 : decode cX5_takeNumber 17 = .ok (.if_icmp .eq 11, 3) := dk_159 0 11 (dk_at dksX5_takeNumber_0 17 rfl rfl)
theorem dX5_takeNumber_20 : decode cX5_takeNumber 20 = .ok (.aload_n 0, 1) := dk_42 (dk_at dksX5_takeNumber_0 20 rfl rfl)
theorem dX5_takeNumber_21 : decode cX5_takeNumber 21 = .ok (.iconst 1, 1) := dk_4 (dk_at dksX5_takeNumber_0 21 rfl rfl)
theorem dX5_takeNumber_22 : decode cX5_takeNumber 22 = .ok (.invokevirtual 169, 3) := dk_182 0 169 (dk_at dksX5_takeNumber_1 0 rfl rfl)
theorem dX5_takeNumber_25 : decode cX5_takeNumber 25 = .ok (.goto 45, 3) := dk_167 0 45 (dk_at dksX5_takeNumber_1 3 rfl rfl)
theorem dX5_takeNumber_28 : decode cX5_takeNumber 28 = .ok (.aload_n 0, 1) := dk_42 (dk_at dksX5_takeNumber_1 6 rfl rfl)
theorem dX5_takeNumber_29 : decode cX5_takeNumber 29 = .ok (.getfield 163, 3) := dk_180 0 163 (dk_at dksX5_takeNumber_1 7 rfl rfl)
theorem dX5_takeNumber_32 : decode cX5_takeNumber 32 = .ok (.ifCond .ne 38, 3) := dk_154 0 38 (dk_at dksX5_takeNumber_1 10 rfl rfl)
theorem dX5_takeNumber_35 : decode cX5_takeNumber 35 = .ok (.aload_n 0, 1) := dk_42 (dk_at dksX5_takeNumber_1 13 rfl rfl)
theorem dX5_takeNumber_36 : decode cX5_takeNumber 36 = .ok (.getfield 30, 3) := dk_180 0 30 (dk_at dksX5_takeNumber_1 14 rfl rfl)
theorem dX5_takeNumber_39 : decode cX5_takeNumber 39 = .ok (.aload_n 0, 1) := dk_42 (dk_at dksX5_takeNumber_1 17 rfl rfl)
theorem dX5_takeNumber_40 : decode cX5_takeNumber 40 = .ok (.getfield 160, 3) := dk_180 0 160 (dk_at dksX5_takeNumber_1 18 rfl rfl)
theorem dX5_takeNumber_43 : decode cX5_takeNumber 43 = .ok (.laload, 1) := dk_47 (dk_at dksX5_takeNumber_1 21 rfl rfl)
theorem dX5_takeNumber_44 : decode cX5_takeNumber 44 = .ok (.iload_n 1, 1) := dk_27 (dk_at dksX5_takeNumber_1 22 rfl rfl)
theorem dX5_takeNumber_45 : decode cX5_takeNumber 45 = .ok (.i2l, 1) := dk_133 (dk_at dksX5_takeNumber_1 23 rfl rfl)
theorem dX5_takeNumber_46 : decode cX5_takeNumber 46 = .ok (.lcmp, 1) := dk_148 (dk_at dksX5_takeNumber_2 0 rfl rfl)
theorem dX5_takeNumber_47 : decode cX5_takeNumber 47 = .ok (.ifCond .lt 18, 3) := dk_155 0 18 (dk_at dksX5_takeNumber_2 1 rfl rfl)
theorem dX5_takeNumber_50 : decode cX5_takeNumber 50 = .ok (.aload_n 0, 1) := dk_42 (dk_at dksX5_takeNumber_2 4 rfl rfl)
theorem dX5_takeNumber_51 : decode cX5_takeNumber 51 = .ok (.getfield 30, 3) := dk_180 0 30 (dk_at dksX5_takeNumber_2 5 rfl rfl)
theorem dX5_takeNumber_54 : decode cX5_takeNumber 54 = .ok (.aload_n 0, 1) := dk_42 (dk_at dksX5_takeNumber_2 8 rfl rfl)
theorem dX5_takeNumber_55 : decode cX5_takeNumber 55 = .ok (.getfield 160, 3) := dk_180 0 160 (dk_at dksX5_takeNumber_2 9 rfl rfl)
theorem dX5_takeNumber_58 : decode cX5_takeNumber 58 = .ok (.laload, 1) := dk_47 (dk_at dksX5_takeNumber_2 12 rfl rfl)
theorem dX5_takeNumber_59 : decode cX5_takeNumber 59 = .ok (.iload_n 2, 1) := dk_28 (dk_at dksX5_takeNumber_2 13 rfl rfl)
theorem dX5_takeNumber_60 : decode cX5_takeNumber 60 = .ok (.i2l, 1) := dk_133 (dk_at dksX5_takeNumber_2 14 rfl rfl)
theorem dX5_takeNumber_61 : decode cX5_takeNumber 61 = .ok (.lcmp, 1) := dk_148 (dk_at dksX5_takeNumber_2 15 rfl rfl)
theorem dX5_takeNumber_62 : decode cX5_takeNumber 62 = .ok (.ifCond .le 8, 3) := dk_158 0 8 (dk_at dksX5_takeNumber_2 16 rfl rfl)
theorem dX5_takeNumber_65 : decode cX5_takeNumber 65 = .ok (.aload_n 0, 1) := dk_42 (dk_at dksX5_takeNumber_2 19 rfl rfl)
theorem dX5_takeNumber_66 : decode cX5_takeNumber 66 = .ok (.iconst 4, 1) := dk_7 (dk_at dksX5_takeNumber_2 20 rfl rfl)
theorem dX5_takeNumber_67 : decode cX5_takeNumber 67 = .ok (.invokevirtual 169, 3) := dk_182 0 169 (dk_at dksX5_takeNumber_2 21 rfl rfl)
theorem dX5_takeNumber_70 : decode cX5_takeNumber 70 = .ok (.aload_n 0, 1) := dk_42 (dk_at dksX5_takeNumber_3 0 rfl rfl)
theorem dX5_takeNumber_71 : decode cX5_takeNumber 71 = .ok (.getfield 163, 3) := dk_180 0 163 (dk_at dksX5_takeNumber_3 1 rfl rfl)
theorem dX5_takeNumber_74 : decode cX5_takeNumber 74 = .ok (.ifCond .le 5, 3) := dk_158 0 5 (dk_at dksX5_takeNumber_3 4 rfl rfl)
theorem dX5_takeNumber_77 : decode cX5_takeNumber 77 = .ok (.iconst 0, 1) := dk_3 (dk_at dksX5_takeNumber_3 7 rfl rfl)
theorem dX5_takeNumber_78 : decode cX5_takeNumber 78 = .ok (.ireturn, 1) := dk_172 (dk_at dksX5_takeNumber_3 8 rfl rfl)
theorem dX5_takeNumber_79 : decode cX5_takeNumber 79 = .ok (.aload_n 0, 1) := dk_42 (dk_at dksX5_takeNumber_3 9 rfl rfl)
theorem dX5_takeNumber_80 : decode cX5_takeNumber 80 = .ok (.dup, 1) := dk_89 (dk_at dksX5_takeNumber_3 10 rfl rfl)
theorem dX5_takeNumber_81 : decode cX5_takeNumber 81 = .ok (.getfield 160, 3) := dk_180 0 160 (dk_at dksX5_takeNumber_3 11 rfl rfl)
theorem dX5_takeNumber_84 : decode cX5_takeNumber 84 = .ok (.iconst 1, 1) := dk_4 (dk_at dksX5_takeNumber_3 14 rfl rfl)
theorem dX5_takeNumber_85 : decode cX5_takeNumber 85 = .ok (.iadd, 1) := dk_96 (dk_at dksX5_takeNumber_3 15 rfl rfl)
theorem dX5_takeNumber_86 : decode cX5_takeNumber 86 = .ok (.putfield 160, 3) := dk_181 0 160 (dk_at dksX5_takeNumber_3 16 rfl rfl)
theorem dX5_takeNumber_89 : decode cX5_takeNumber 89 = .ok (.aload_n 0, 1) := dk_42 (dk_at dksX5_takeNumber_3 19 rfl rfl)
theorem dX5_takeNumber_90 : decode cX5_takeNumber 90 = .ok (.getfield 30, 3) := dk_180 0 30 (dk_at dksX5_takeNumber_3 20 rfl rfl)
theorem dX5_takeNumber_93 : decode cX5_takeNumber 93 = .ok (.aload_n 0, 1) := dk_42 (dk_at dksX5_takeNumber_3 23 rfl rfl)
theorem dX5_takeNumber_94 : decode cX5_takeNumber 94 = .ok (.getfield 160, 3) := dk_180 0 160 (dk_at dksX5_takeNumber_4 0 rfl rfl)
theorem dX5_takeNumber_97 : decode cX5_takeNumber 97 = .ok (.iconst 1, 1) := dk_4 (dk_at dksX5_takeNumber_4 3 rfl rfl)
theorem dX5_takeNumber_98 : decode cX5_takeNumber 98 = .ok (.isub, 1) := dk_100 (dk_at dksX5_takeNumber_4 4 rfl rfl)
theorem dX5_takeNumber_99 : decode cX5_takeNumber 99 = .ok (.laload, 1) := dk_47 (dk_at dksX5_takeNumber_4 5 rfl rfl)
theorem dX5_takeNumber_100 : decode cX5_takeNumber 100 = .ok (.l2i, 1) := dk_136 (dk_at dksX5_takeNumber_4 6 rfl rfl)
theorem dX5_takeNumber_101 : decode cX5_takeNumber 101 = .ok (.ireturn, 1) := dk_172 (dk_at dksX5_takeNumber_4 7 rfl rfl)
abbrev cX5_readDay : ByteArray := prog_23_method_30_code
def yX5_readDay : MethodName := ⟨RX5, "readDay", "()V"⟩
def dkwX5_readDay_4 : List UInt8 := [5, 96, 21, 4, 79, 42, 180, 0, 87, 27, 6, 96, 21, 5, 79, 177]
abbrev dktX5_readDay_4 : List UInt8 := dkwX5_readDay_4 ++ []
def dkwX5_readDay_3 : List UInt8 := [154, 0, 39, 42, 180, 0, 87, 27, 28, 79, 42, 180, 0, 87, 27, 4, 96, 29, 79, 42, 180, 0, 87, 27]
abbrev dktX5_readDay_3 : List UInt8 := dkwX5_readDay_3 ++ dktX5_readDay_4
def dkwX5_readDay_2 : List UInt8 := [16, 11, 182, 0, 225, 54, 4, 42, 16, 6, 3, 16, 40, 182, 0, 225, 54, 5, 42, 180, 0, 163]
abbrev dktX5_readDay_2 : List UInt8 := dkwX5_readDay_2 ++ dktX5_readDay_3
def dkwX5_readDay_1 : List UInt8 := [16, 14, 7, 182, 0, 242, 61, 42, 7, 182, 0, 178, 42, 4, 3, 3, 182, 0, 238, 62, 42, 8, 3]
abbrev dktX5_readDay_1 : List UInt8 := dkwX5_readDay_1 ++ dktX5_readDay_2
def dkwX5_readDay_0 : List UInt8 := [16, 62, 8, 42, 180, 0, 87, 16, 51, 46, 104, 96, 60, 42, 4, 16, 6, 16, 20, 182, 0, 221, 42]
abbrev dktX5_readDay_0 : List UInt8 := dkwX5_readDay_0 ++ dktX5_readDay_1
theorem dksX5_readDay_0 : cX5_readDay.data.toList.drop 0 = dktX5_readDay_0 := by decide +kernel
theorem dksX5_readDay_1 : cX5_readDay.data.toList.drop 23 = dktX5_readDay_1 := dk_seg dksX5_readDay_0 23 rfl rfl
theorem dksX5_readDay_2 : cX5_readDay.data.toList.drop 46 = dktX5_readDay_2 := dk_seg dksX5_readDay_1 23 rfl rfl
theorem dksX5_readDay_3 : cX5_readDay.data.toList.drop 68 = dktX5_readDay_3 := dk_seg dksX5_readDay_2 22 rfl rfl
theorem dksX5_readDay_4 : cX5_readDay.data.toList.drop 92 = dktX5_readDay_4 := dk_seg dksX5_readDay_3 24 rfl rfl
theorem dX5_readDay_0 : decode cX5_readDay 0 = .ok (.bipush 62, 2) := dk_16 62 (dk_at dksX5_readDay_0 0 rfl rfl)
theorem dX5_readDay_2 : decode cX5_readDay 2 = .ok (.iconst 5, 1) := dk_8 (dk_at dksX5_readDay_0 2 rfl rfl)
theorem dX5_readDay_3 : decode cX5_readDay 3 = .ok (.aload_n 0, 1) := dk_42 (dk_at dksX5_readDay_0 3 rfl rfl)
theorem dX5_readDay_4 : decode cX5_readDay 4 = .ok (.getfield 87, 3) := dk_180 0 87 (dk_at dksX5_readDay_0 4 rfl rfl)
theorem dX5_readDay_7 : decode cX5_readDay 7 = .ok (.bipush 51, 2) := dk_16 51 (dk_at dksX5_readDay_0 7 rfl rfl)
theorem dX5_readDay_9 : decode cX5_readDay 9 = .ok (.iaload, 1) := dk_46 (dk_at dksX5_readDay_0 9 rfl rfl)
theorem dX5_readDay_10 : decode cX5_readDay 10 = .ok (.imul, 1) := dk_104 (dk_at dksX5_readDay_0 10 rfl rfl)
theorem dX5_readDay_11 : decode cX5_readDay 11 = .ok (.iadd, 1) := dk_96 (dk_at dksX5_readDay_0 11 rfl rfl)
theorem dX5_readDay_12 : decode cX5_readDay 12 = .ok (.istore_n 1, 1) := dk_60 (dk_at dksX5_readDay_0 12 rfl rfl)
theorem dX5_readDay_13 : decode cX5_readDay 13 = .ok (.aload_n 0, 1) := dk_42 (dk_at dksX5_readDay_0 13 rfl rfl)
theorem dX5_readDay_14 : decode cX5_readDay 14 = .ok (.iconst 1, 1) := dk_4 (dk_at dksX5_readDay_0 14 rfl rfl)
theorem dX5_readDay_15 : decode cX5_readDay 15 = .ok (.bipush 6, 2) := dk_16 6 (dk_at dksX5_readDay_0 15 rfl rfl)
theorem dX5_readDay_17 : decode cX5_readDay 17 = .ok (.bipush 20, 2) := dk_16 20 (dk_at dksX5_readDay_0 17 rfl rfl)
theorem dX5_readDay_19 : decode cX5_readDay 19 = .ok (.invokevirtual 221, 3) := dk_182 0 221 (dk_at dksX5_readDay_0 19 rfl rfl)
theorem dX5_readDay_22 : decode cX5_readDay 22 = .ok (.aload_n 0, 1) := dk_42 (dk_at dksX5_readDay_0 22 rfl rfl)
theorem dX5_readDay_23 : decode cX5_readDay 23 = .ok (.bipush 14, 2) := dk_16 14 (dk_at dksX5_readDay_1 0 rfl rfl)
theorem dX5_readDay_25 : decode cX5_readDay 25 = .ok (.iconst 4, 1) := dk_7 (dk_at dksX5_readDay_1 2 rfl rfl)
theorem dX5_readDay_26 : decode cX5_readDay 26 = .ok (.invokevirtual 242, 3) := dk_182 0 242 (dk_at dksX5_readDay_1 3 rfl rfl)
theorem dX5_readDay_29 : decode cX5_readDay 29 = .ok (.istore_n 2, 1) := dk_61 (dk_at dksX5_readDay_1 6 rfl rfl)
theorem dX5_readDay_30 : decode cX5_readDay 30 = .ok (.aload_n 0, 1) := dk_42 (dk_at dksX5_readDay_1 7 rfl rfl)
theorem dX5_readDay_31 : decode cX5_readDay 31 = .ok (.iconst 4, 1) := dk_7 (dk_at dksX5_readDay_1 8 rfl rfl)
theorem dX5_readDay_32 : decode cX5_readDay 32 = .ok (.invokevirtual 178, 3) := dk_182 0 178 (dk_at dksX5_readDay_1 9 rfl rfl)
theorem dX5_readDay_35 : decode cX5_readDay 35 = .ok (.aload_n 0, 1) := dk_42 (dk_at dksX5_readDay_1 12 rfl rfl)
theorem dX5_readDay_36 : decode cX5_readDay 36 = .ok (.iconst 1, 1) := dk_4 (dk_at dksX5_readDay_1 13 rfl rfl)
theorem dX5_readDay_37 : decode cX5_readDay 37 = .ok (.iconst 0, 1) := dk_3 (dk_at dksX5_readDay_1 14 rfl rfl)
theorem dX5_readDay_38 : decode cX5_readDay 38 = .ok (.iconst 0, 1) := dk_3 (dk_at dksX5_readDay_1 15 rfl rfl)
theorem dX5_readDay_39 : decode cX5_readDay 39 = .ok (.invokevirtual 238, 3) := dk_182 0 238 (dk_at dksX5_readDay_1 16 rfl rfl)
theorem dX5_readDay_42 : decode cX5_readDay 42 = .ok (.istore_n 3, 1) := dk_62 (dk_at dksX5_readDay_1 19 rfl rfl)
theorem dX5_readDay_43 : decode cX5_readDay 43 = .ok (.aload_n 0, 1) := dk_42 (dk_at dksX5_readDay_1 20 rfl rfl)
theorem dX5_readDay_44 : decode cX5_readDay 44 = .ok (.iconst 5, 1) := dk_8 (dk_at dksX5_readDay_1 21 rfl rfl)
theorem dX5_readDay_45 : decode cX5_readDay 45 = .ok (.iconst 0, 1) := dk_3 (dk_at dksX5_readDay_1 22 rfl rfl)
theorem dX5_readDay_46 : decode cX5_readDay 46 = .ok (.bipush 11, 2) := dk_16 11 (dk_at dksX5_readDay_2 0 rfl rfl)
theorem dX5_readDay_48 : decode cX5_readDay 48 = .ok (.invokevirtual 225, 3) := dk_182 0 225 (dk_at dksX5_readDay_2 2 rfl rfl)
theorem dX5_readDay_51 : decode cX5_readDay 51 = .ok (.istore 4, 2) := dk_54 4 (dk_at dksX5_readDay_2 5 rfl rfl)
theorem dX5_readDay_53 : decode cX5_readDay 53 = .ok (.aload_n 0, 1) := dk_42 (dk_at dksX5_readDay_2 7 rfl rfl)
theorem dX5_readDay_54 : decode cX5_readDay 54 = .ok (.bipush 6, 2) := dk_16 6 (dk_at dksX5_readDay_2 8 rfl rfl)
theorem dX5_readDay_56 : decode cX5_readDay 56 = .ok (.iconst 0, 1) := dk_3 (dk_at dksX5_readDay_2 10 rfl rfl)
theorem dX5_readDay_57 : decode cX5_readDay 57 = .ok (.bipush 40, 2) := dk_16 40 (dk_at dksX5_readDay_2 11 rfl rfl)
theorem dX5_readDay_59 : decode cX5_readDay 59 = .ok (.invokevirtual 225, 3) := dk_182 0 225 (dk_at dksX5_readDay_2 13 rfl rfl)
theorem dX5_readDay_62 : decode cX5_readDay 62 = .ok (.istore 5, 2) := dk_54 5 (dk_at dksX5_readDay_2 16 rfl rfl)
theorem dX5_readDay_64 : decode cX5_readDay 64 = .ok (.aload_n 0, 1) := dk_42 (dk_at dksX5_readDay_2 18 rfl rfl)
theorem dX5_readDay_65 : decode cX5_readDay 65 = .ok (.getfield 163, 3) := dk_180 0 163 (dk_at dksX5_readDay_2 19 rfl rfl)
theorem dX5_readDay_68 : decode cX5_readDay 68 = .ok (.ifCond .ne 39, 3) := dk_154 0 39 (dk_at dksX5_readDay_3 0 rfl rfl)
theorem dX5_readDay_71 : decode cX5_readDay 71 = .ok (.aload_n 0, 1) := dk_42 (dk_at dksX5_readDay_3 3 rfl rfl)
theorem dX5_readDay_72 : decode cX5_readDay 72 = .ok (.getfield 87, 3) := dk_180 0 87 (dk_at dksX5_readDay_3 4 rfl rfl)
theorem dX5_readDay_75 : decode cX5_readDay 75 = .ok (.iload_n 1, 1) := dk_27 (dk_at dksX5_readDay_3 7 rfl rfl)
theorem dX5_readDay_76 : decode cX5_readDay 76 = .ok (.iload_n 2, 1) := dk_28 (dk_at dksX5_readDay_3 8 rfl rfl)
theorem dX5_readDay_77 : decode cX5_readDay 77 = .ok (.iastore, 1) := dk_79 (dk_at dksX5_readDay_3 9 rfl rfl)
theorem dX5_readDay_78 : decode cX5_readDay 78 = .ok (.aload_n 0, 1) := dk_42 (dk_at dksX5_readDay_3 10 rfl rfl)
theorem dX5_readDay_79 : decode cX5_readDay 79 = .ok (.getfield 87, 3) := dk_180 0 87 (dk_at dksX5_readDay_3 11 rfl rfl)
theorem dX5_readDay_82 : decode cX5_readDay 82 = .ok (.iload_n 1, 1) := dk_27 (dk_at dksX5_readDay_3 14 rfl rfl)
theorem dX5_readDay_83 : decode cX5_readDay 83 = .ok (.iconst 1, 1) := dk_4 (dk_at dksX5_readDay_3 15 rfl rfl)
theorem dX5_readDay_84 : decode cX5_readDay 84 = .ok (.iadd, 1) := dk_96 (dk_at dksX5_readDay_3 16 rfl rfl)
theorem dX5_readDay_85 : decode cX5_readDay 85 = .ok (.iload_n 3, 1) := dk_29 (dk_at dksX5_readDay_3 17 rfl rfl)
theorem dX5_readDay_86 : decode cX5_readDay 86 = .ok (.iastore, 1) := dk_79 (dk_at dksX5_readDay_3 18 rfl rfl)
theorem dX5_readDay_87 : decode cX5_readDay 87 = .ok (.aload_n 0, 1) := dk_42 (dk_at dksX5_readDay_3 19 rfl rfl)
theorem dX5_readDay_88 : decode cX5_readDay 88 = .ok (.getfield 87, 3) := dk_180 0 87 (dk_at dksX5_readDay_3 20 rfl rfl)
theorem dX5_readDay_91 : decode cX5_readDay 91 = .ok (.iload_n 1, 1) := dk_27 (dk_at dksX5_readDay_3 23 rfl rfl)
theorem dX5_readDay_92 : decode cX5_readDay 92 = .ok (.iconst 2, 1) := dk_5 (dk_at dksX5_readDay_4 0 rfl rfl)
theorem dX5_readDay_93 : decode cX5_readDay 93 = .ok (.iadd, 1) := dk_96 (dk_at dksX5_readDay_4 1 rfl rfl)
theorem dX5_readDay_94 : decode cX5_readDay 94 = .ok (.iload 4, 2) := dk_21 4 (dk_at dksX5_readDay_4 2 rfl rfl)
theorem dX5_readDay_96 : decode cX5_readDay 96 = .ok (.iastore, 1) := dk_79 (dk_at dksX5_readDay_4 4 rfl rfl)
theorem dX5_readDay_97 : decode cX5_readDay 97 = .ok (.aload_n 0, 1) := dk_42 (dk_at dksX5_readDay_4 5 rfl rfl)
theorem dX5_readDay_98 : decode cX5_readDay 98 = .ok (.getfield 87, 3) := dk_180 0 87 (dk_at dksX5_readDay_4 6 rfl rfl)
theorem dX5_readDay_101 : decode cX5_readDay 101 = .ok (.iload_n 1, 1) := dk_27 (dk_at dksX5_readDay_4 9 rfl rfl)
theorem dX5_readDay_102 : decode cX5_readDay 102 = .ok (.iconst 3, 1) := dk_6 (dk_at dksX5_readDay_4 10 rfl rfl)
theorem dX5_readDay_103 : decode cX5_readDay 103 = .ok (.iadd, 1) := dk_96 (dk_at dksX5_readDay_4 11 rfl rfl)
theorem dX5_readDay_104 : decode cX5_readDay 104 = .ok (.iload 5, 2) := dk_21 5 (dk_at dksX5_readDay_4 12 rfl rfl)
theorem dX5_readDay_106 : decode cX5_readDay 106 = .ok (.iastore, 1) := dk_79 (dk_at dksX5_readDay_4 14 rfl rfl)
theorem dX5_readDay_107 : decode cX5_readDay 107 = .ok (.return_, 1) := dk_177 (dk_at dksX5_readDay_4 15 rfl rfl)
abbrev cX5_takeOne : ByteArray := prog_23_method_22_code
def yX5_takeOne : MethodName := ⟨RX5, "takeOne", "(II)I"⟩
def dkwX5_takeOne_2 : List UInt8 := [3, 167, 0, 4, 4, 96, 181, 0, 160, 42, 180, 0, 163, 158, 0, 7, 3, 167, 0, 4, 29, 172]
abbrev dktX5_takeOne_2 : List UInt8 := dkwX5_takeOne_2 ++ []
def dkwX5_takeOne_1 : List UInt8 := [154, 0, 12, 29, 156, 0, 8, 42, 4, 182, 0, 169, 42, 89, 180, 0, 160, 42, 180, 0, 163, 158, 0, 7]
abbrev dktX5_takeOne_1 : List UInt8 := dkwX5_takeOne_1 ++ dktX5_takeOne_2
def dkwX5_takeOne_0 : List UInt8 := [42, 180, 0, 163, 158, 0, 7, 2, 167, 0, 9, 42, 27, 28, 182, 0, 185, 62, 42, 180, 0, 163]
abbrev dktX5_takeOne_0 : List UInt8 := dkwX5_takeOne_0 ++ dktX5_takeOne_1
theorem dksX5_takeOne_0 : cX5_takeOne.data.toList.drop 0 = dktX5_takeOne_0 := by decide +kernel
theorem dksX5_takeOne_1 : cX5_takeOne.data.toList.drop 22 = dktX5_takeOne_1 := dk_seg dksX5_takeOne_0 22 rfl rfl
theorem dksX5_takeOne_2 : cX5_takeOne.data.toList.drop 46 = dktX5_takeOne_2 := dk_seg dksX5_takeOne_1 24 rfl rfl
theorem dX5_takeOne_0 : decode cX5_takeOne 0 = .ok (.aload_n 0, 1) := dk_42 (dk_at dksX5_takeOne_0 0 rfl rfl)
theorem dX5_takeOne_1 : decode cX5_takeOne 1 = .ok (.getfield 163, 3) := dk_180 0 163 (dk_at dksX5_takeOne_0 1 rfl rfl)
theorem dX5_takeOne_4 : decode cX5_takeOne 4 = .ok (.ifCond .le 7, 3) := dk_158 0 7 (dk_at dksX5_takeOne_0 4 rfl rfl)
theorem dX5_takeOne_7 : decode cX5_takeOne 7 = .ok (.iconst (-1), 1) := dk_2 (dk_at dksX5_takeOne_0 7 rfl rfl)
theorem dX5_takeOne_8 : decode cX5_takeOne 8 = .ok (.goto 9, 3) := dk_167 0 9 (dk_at dksX5_takeOne_0 8 rfl rfl)
theorem dX5_takeOne_11 : decode cX5_takeOne 11 = .ok (.aload_n 0, 1) := dk_42 (dk_at dksX5_takeOne_0 11 rfl rfl)
theorem dX5_takeOne_12 : decode cX5_takeOne 12 = .ok (.iload_n 1, 1) := dk_27 (dk_at dksX5_takeOne_0 12 rfl rfl)
theorem dX5_takeOne_13 : decode cX5_takeOne 13 = .ok (.iload_n 2, 1) := dk_28 (dk_at dksX5_takeOne_0 13 rfl rfl)
theorem dX5_takeOne_14 : decode cX5_takeOne 14 = .ok (.invokevirtual 185, 3) := dk_182 0 185 (dk_at dksX5_takeOne_0 14 rfl rfl)
theorem dX5_takeOne_17 : decode cX5_takeOne 17 = .ok (.istore_n 3, 1) := dk_62 (dk_at dksX5_takeOne_0 17 rfl rfl)
theorem dX5_takeOne_18 : decode cX5_takeOne 18 = .ok (.aload_n 0, 1) := dk_42 (dk_at dksX5_takeOne_0 18 rfl rfl)
theorem dX5_takeOne_19 : decode cX5_takeOne 19 = .ok (.getfield 163, 3) := dk_180 0 163 (dk_at dksX5_takeOne_0 19 rfl rfl)
theorem dX5_takeOne_22 : decode cX5_takeOne 22 = .ok (.ifCond .ne 12, 3) := dk_154 0 12 (dk_at dksX5_takeOne_1 0 rfl rfl)
theorem dX5_takeOne_25 : decode cX5_takeOne 25 = .ok (.iload_n 3, 1) := dk_29 (dk_at dksX5_takeOne_1 3 rfl rfl)
theorem dX5_takeOne_26 : decode cX5_takeOne 26 = .ok (.ifCond .ge 8, 3) := dk_156 0 8 (dk_at dksX5_takeOne_1 4 rfl rfl)
theorem dX5_takeOne_29 : decode cX5_takeOne 29 = .ok (.aload_n 0, 1) := dk_42 (dk_at dksX5_takeOne_1 7 rfl rfl)
theorem dX5_takeOne_30 : decode cX5_takeOne 30 = .ok (.iconst 1, 1) := dk_4 (dk_at dksX5_takeOne_1 8 rfl rfl)
theorem dX5_takeOne_31 : decode cX5_takeOne 31 = .ok (.invokevirtual 169, 3) := dk_182 0 169 (dk_at dksX5_takeOne_1 9 rfl rfl)
theorem dX5_takeOne_34 : decode cX5_takeOne 34 = .ok (.aload_n 0, 1) := dk_42 (dk_at dksX5_takeOne_1 12 rfl rfl)
theorem dX5_takeOne_35 : decode cX5_takeOne 35 = .ok (.dup, 1) := dk_89 (dk_at dksX5_takeOne_1 13 rfl rfl)
theorem dX5_takeOne_36 : decode cX5_takeOne 36 = .ok (.getfield 160, 3) := dk_180 0 160 (dk_at dksX5_takeOne_1 14 rfl rfl)
theorem dX5_takeOne_39 : decode cX5_takeOne 39 = .ok (.aload_n 0, 1) := dk_42 (dk_at dksX5_takeOne_1 17 rfl rfl)
theorem dX5_takeOne_40 : decode cX5_takeOne 40 = .ok (.getfield 163, 3) := dk_180 0 163 (dk_at dksX5_takeOne_1 18 rfl rfl)
theorem dX5_takeOne_43 : decode cX5_takeOne 43 = .ok (.ifCond .le 7, 3) := dk_158 0 7 (dk_at dksX5_takeOne_1 21 rfl rfl)
theorem dX5_takeOne_46 : decode cX5_takeOne 46 = .ok (.iconst 0, 1) := dk_3 (dk_at dksX5_takeOne_2 0 rfl rfl)
theorem dX5_takeOne_47 : decode cX5_takeOne 47 = .ok (.goto 4, 3) := dk_167 0 4 (dk_at dksX5_takeOne_2 1 rfl rfl)
theorem dX5_takeOne_50 : decode cX5_takeOne 50 = .ok (.iconst 1, 1) := dk_4 (dk_at dksX5_takeOne_2 4 rfl rfl)
theorem dX5_takeOne_51 : decode cX5_takeOne 51 = .ok (.iadd, 1) := dk_96 (dk_at dksX5_takeOne_2 5 rfl rfl)
theorem dX5_takeOne_52 : decode cX5_takeOne 52 = .ok (.putfield 160, 3) := dk_181 0 160 (dk_at dksX5_takeOne_2 6 rfl rfl)
theorem dX5_takeOne_55 : decode cX5_takeOne 55 = .ok (.aload_n 0, 1) := dk_42 (dk_at dksX5_takeOne_2 9 rfl rfl)
theorem dX5_takeOne_56 : decode cX5_takeOne 56 = .ok (.getfield 163, 3) := dk_180 0 163 (dk_at dksX5_takeOne_2 10 rfl rfl)
theorem dX5_takeOne_59 : decode cX5_takeOne 59 = .ok (.ifCond .le 7, 3) := dk_158 0 7 (dk_at dksX5_takeOne_2 13 rfl rfl)
theorem dX5_takeOne_62 : decode cX5_takeOne 62 = .ok (.iconst 0, 1) := dk_3 (dk_at dksX5_takeOne_2 16 rfl rfl)
theorem dX5_takeOne_63 : decode cX5_takeOne 63 = .ok (.goto 4, 3) := dk_167 0 4 (dk_at dksX5_takeOne_2 17 rfl rfl)
theorem dX5_takeOne_66 : decode cX5_takeOne 66 = .ok (.iload_n 3, 1) := dk_29 (dk_at dksX5_takeOne_2 20 rfl rfl)
theorem dX5_takeOne_67 : decode cX5_takeOne 67 = .ok (.ireturn, 1) := dk_172 (dk_at dksX5_takeOne_2 21 rfl rfl)
abbrev cX5_takeTold : ByteArray := prog_23_method_25_code
def yX5_takeTold : MethodName := ⟨RX5, "takeTold", "(ZII)I"⟩
def dkwX5_takeTold_5 : List UInt8 := [167, 0, 5, 21, 4, 172]
abbrev dktX5_takeTold_5 : List UInt8 := dkwX5_takeTold_5 ++ []
def dkwX5_takeTold_4 : List UInt8 := [180, 0, 163, 158, 0, 7, 3, 167, 0, 4, 4, 96, 181, 0, 160, 42, 180, 0, 163, 158, 0, 7, 3]
abbrev dktX5_takeTold_4 : List UInt8 := dkwX5_takeTold_4 ++ dktX5_takeTold_5
def dkwX5_takeTold_3 : List UInt8 := [154, 0, 18, 29, 21, 4, 122, 4, 126, 4, 160, 0, 8, 42, 6, 182, 0, 169, 42, 89, 180, 0, 160, 42]
abbrev dktX5_takeTold_3 : List UInt8 := dkwX5_takeTold_3 ++ dktX5_takeTold_4
def dkwX5_takeTold_2 : List UInt8 := [21, 4, 3, 8, 184, 0, 202, 154, 0, 11, 42, 5, 182, 0, 169, 167, 0, 25, 42, 180, 0, 163]
abbrev dktX5_takeTold_2 : List UInt8 := dkwX5_takeTold_2 ++ dktX5_takeTold_3
def dkwX5_takeTold_1 : List UInt8 := [158, 0, 7, 2, 167, 0, 10, 42, 27, 182, 0, 198, 28, 100, 54, 4, 42, 180, 0, 163, 154, 0, 21]
abbrev dktX5_takeTold_1 : List UInt8 := dkwX5_takeTold_1 ++ dktX5_takeTold_2
def dkwX5_takeTold_0 : List UInt8 := [42, 180, 0, 163, 154, 0, 15, 42, 182, 0, 194, 154, 0, 8, 42, 4, 182, 0, 169, 42, 180, 0, 163]
abbrev dktX5_takeTold_0 : List UInt8 := dkwX5_takeTold_0 ++ dktX5_takeTold_1
theorem dksX5_takeTold_0 : cX5_takeTold.data.toList.drop 0 = dktX5_takeTold_0 := by decide +kernel
theorem dksX5_takeTold_1 : cX5_takeTold.data.toList.drop 23 = dktX5_takeTold_1 := dk_seg dksX5_takeTold_0 23 rfl rfl
theorem dksX5_takeTold_2 : cX5_takeTold.data.toList.drop 46 = dktX5_takeTold_2 := dk_seg dksX5_takeTold_1 23 rfl rfl
theorem dksX5_takeTold_3 : cX5_takeTold.data.toList.drop 68 = dktX5_takeTold_3 := dk_seg dksX5_takeTold_2 22 rfl rfl
theorem dksX5_takeTold_4 : cX5_takeTold.data.toList.drop 92 = dktX5_takeTold_4 := dk_seg dksX5_takeTold_3 24 rfl rfl
theorem dksX5_takeTold_5 : cX5_takeTold.data.toList.drop 115 = dktX5_takeTold_5 := dk_seg dksX5_takeTold_4 23 rfl rfl
theorem dX5_takeTold_0 : decode cX5_takeTold 0 = .ok (.aload_n 0, 1) := dk_42 (dk_at dksX5_takeTold_0 0 rfl rfl)
theorem dX5_takeTold_1 : decode cX5_takeTold 1 = .ok (.getfield 163, 3) := dk_180 0 163 (dk_at dksX5_takeTold_0 1 rfl rfl)
theorem dX5_takeTold_4 : decode cX5_takeTold 4 = .ok (.ifCond .ne 15, 3) := dk_154 0 15 (dk_at dksX5_takeTold_0 4 rfl rfl)
theorem dX5_takeTold_7 : decode cX5_takeTold 7 = .ok (.aload_n 0, 1) := dk_42 (dk_at dksX5_takeTold_0 7 rfl rfl)
theorem dX5_takeTold_8 : decode cX5_takeTold 8 = .ok (.invokevirtual 194, 3) := dk_182 0 194 (dk_at dksX5_takeTold_0 8 rfl rfl)
theorem dX5_takeTold_11 : decode cX5_takeTold 11 = .ok (.ifCond .ne 8, 3) := dk_154 0 8 (dk_at dksX5_takeTold_0 11 rfl rfl)
theorem dX5_takeTold_14 : decode cX5_takeTold 14 = .ok (.aload_n 0, 1) := dk_42 (dk_at dksX5_takeTold_0 14 rfl rfl)
theorem dX5_takeTold_15 : decode cX5_takeTold 15 = .ok (.iconst 1, 1) := dk_4 (dk_at dksX5_takeTold_0 15 rfl rfl)
theorem dX5_takeTold_16 : decode cX5_takeTold 16 = .ok (.invokevirtual 169, 3) := dk_182 0 169 (dk_at dksX5_takeTold_0 16 rfl rfl)
theorem dX5_takeTold_19 : decode cX5_takeTold 19 = .ok (.aload_n 0, 1) := dk_42 (dk_at dksX5_takeTold_0 19 rfl rfl)
theorem dX5_takeTold_20 : decode cX5_takeTold 20 = .ok (.getfield 163, 3) := dk_180 0 163 (dk_at dksX5_takeTold_0 20 rfl rfl)
theorem dX5_takeTold_23 : decode cX5_takeTold 23 = .ok (.ifCond .le 7, 3) := dk_158 0 7 (dk_at dksX5_takeTold_1 0 rfl rfl)
theorem dX5_takeTold_26 : decode cX5_takeTold 26 = .ok (.iconst (-1), 1) := dk_2 (dk_at dksX5_takeTold_1 3 rfl rfl)
theorem dX5_takeTold_27 : decode cX5_takeTold 27 = .ok (.goto 10, 3) := dk_167 0 10 (dk_at dksX5_takeTold_1 4 rfl rfl)
theorem dX5_takeTold_30 : decode cX5_takeTold 30 = .ok (.aload_n 0, 1) := dk_42 (dk_at dksX5_takeTold_1 7 rfl rfl)
theorem dX5_takeTold_31 : decode cX5_takeTold 31 = .ok (.iload_n 1, 1) := dk_27 (dk_at dksX5_takeTold_1 8 rfl rfl)
theorem dX5_takeTold_32 : decode cX5_takeTold 32 = .ok (.invokevirtual 198, 3) := dk_182 0 198 (dk_at dksX5_takeTold_1 9 rfl rfl)
theorem dX5_takeTold_35 : decode cX5_takeTold 35 = .ok (.iload_n 2, 1) := dk_28 (dk_at dksX5_takeTold_1 12 rfl rfl)
theorem dX5_takeTold_36 : decode cX5_takeTold 36 = .ok (.isub, 1) := dk_100 (dk_at dksX5_takeTold_1 13 rfl rfl)
theorem dX5_takeTold_37 : decode cX5_takeTold 37 = .ok (.istore 4, 2) := dk_54 4 (dk_at dksX5_takeTold_1 14 rfl rfl)
theorem dX5_takeTold_39 : decode cX5_takeTold 39 = .ok (.aload_n 0, 1) := dk_42 (dk_at dksX5_takeTold_1 16 rfl rfl)
theorem dX5_takeTold_40 : decode cX5_takeTold 40 = .ok (.getfield 163, 3) := dk_180 0 163 (dk_at dksX5_takeTold_1 17 rfl rfl)
theorem dX5_takeTold_43 : decode cX5_takeTold 43 = .ok (.ifCond .ne 21, 3) := dk_154 0 21 (dk_at dksX5_takeTold_1 20 rfl rfl)
theorem dX5_takeTold_46 : decode cX5_takeTold 46 = .ok (.iload 4, 2) := dk_21 4 (dk_at dksX5_takeTold_2 0 rfl rfl)
theorem dX5_takeTold_48 : decode cX5_takeTold 48 = .ok (.iconst 0, 1) := dk_3 (dk_at dksX5_takeTold_2 2 rfl rfl)
theorem dX5_takeTold_49 : decode cX5_takeTold 49 = .ok (.iconst 5, 1) := dk_8 (dk_at dksX5_takeTold_2 3 rfl rfl)
theorem dX5_takeTold_50 : decode cX5_takeTold 50 = .ok (.invokestatic 202, 3) := dk_184 0 202 (dk_at dksX5_takeTold_2 4 rfl rfl)
theorem dX5_takeTold_53 : decode cX5_takeTold 53 = .ok (.ifCond .ne 11, 3) := dk_154 0 11 (dk_at dksX5_takeTold_2 7 rfl rfl)
theorem dX5_takeTold_56 : decode cX5_takeTold 56 = .ok (.aload_n 0, 1) := dk_42 (dk_at dksX5_takeTold_2 10 rfl rfl)
theorem dX5_takeTold_57 : decode cX5_takeTold 57 = .ok (.iconst 2, 1) := dk_5 (dk_at dksX5_takeTold_2 11 rfl rfl)
theorem dX5_takeTold_58 : decode cX5_takeTold 58 = .ok (.invokevirtual 169, 3) := dk_182 0 169 (dk_at dksX5_takeTold_2 12 rfl rfl)
theorem dX5_takeTold_61 : decode cX5_takeTold 61 = .ok (.goto 25, 3) := dk_167 0 25 (dk_at dksX5_takeTold_2 15 rfl rfl)
theorem dX5_takeTold_64 : decode cX5_takeTold 64 = .ok (.aload_n 0, 1) := dk_42 (dk_at dksX5_takeTold_2 18 rfl rfl)
theorem dX5_takeTold_65 : decode cX5_takeTold 65 = .ok (.getfield 163, 3) := dk_180 0 163 (dk_at dksX5_takeTold_2 19 rfl rfl)
theorem dX5_takeTold_68 : decode cX5_takeTold 68 = .ok (.ifCond .ne 18, 3) := dk_154 0 18 (dk_at dksX5_takeTold_3 0 rfl rfl)
theorem dX5_takeTold_71 : decode cX5_takeTold 71 = .ok (.iload_n 3, 1) := dk_29 (dk_at dksX5_takeTold_3 3 rfl rfl)
theorem dX5_takeTold_72 : decode cX5_takeTold 72 = .ok (.iload 4, 2) := dk_21 4 (dk_at dksX5_takeTold_3 4 rfl rfl)
theorem dX5_takeTold_74 : decode cX5_takeTold 74 = .ok (.ishr, 1) := dk_122 (dk_at dksX5_takeTold_3 6 rfl rfl)
theorem dX5_takeTold_75 : decode cX5_takeTold 75 = .ok (.iconst 1, 1) := dk_4 (dk_at dksX5_takeTold_3 7 rfl rfl)
theorem dX5_takeTold_76 : decode cX5_takeTold 76 = .ok (.iand, 1) := dk_126 (dk_at dksX5_takeTold_3 8 rfl rfl)
theorem dX5_takeTold_77 : decode cX5_takeTold 77 = .ok (.iconst 1, 1) := dk_4 (dk_at dksX5_takeTold_3 9 rfl rfl)
theorem dX5_takeTold_78 : decode cX5_takeTold 78 = .ok (.if_icmp .ne 8, 3) := dk_160 0 8 (dk_at dksX5_takeTold_3 10 rfl rfl)
theorem dX5_takeTold_81 : decode cX5_takeTold 81 = .ok (.aload_n 0, 1) := dk_42 (dk_at dksX5_takeTold_3 13 rfl rfl)
theorem dX5_takeTold_82 : decode cX5_takeTold 82 = .ok (.iconst 3, 1) := dk_6 (dk_at dksX5_takeTold_3 14 rfl rfl)
theorem dX5_takeTold_83 : decode cX5_takeTold 83 = .ok (.invokevirtual 169, 3) := dk_182 0 169 (dk_at dksX5_takeTold_3 15 rfl rfl)
theorem dX5_takeTold_86 : decode cX5_takeTold 86 = .ok (.aload_n 0, 1) := dk_42 (dk_at dksX5_takeTold_3 18 rfl rfl)
theorem dX5_takeTold_87 : decode cX5_takeTold 87 = .ok (.dup, 1) := dk_89 (dk_at dksX5_takeTold_3 19 rfl rfl)
theorem dX5_takeTold_88 : decode cX5_takeTold 88 = .ok (.getfield 160, 3) := dk_180 0 160 (dk_at dksX5_takeTold_3 20 rfl rfl)
theorem dX5_takeTold_91 : decode cX5_takeTold 91 = .ok (.aload_n 0, 1) := dk_42 (dk_at dksX5_takeTold_3 23 rfl rfl)
theorem dX5_takeTold_92 : decode cX5_takeTold 92 = .ok (.getfield 163, 3) := dk_180 0 163 (dk_at dksX5_takeTold_4 0 rfl rfl)
theorem dX5_takeTold_95 : decode cX5_takeTold 95 = .ok (.ifCond .le 7, 3) := dk_158 0 7 (dk_at dksX5_takeTold_4 3 rfl rfl)
theorem dX5_takeTold_98 : decode cX5_takeTold 98 = .ok (.iconst 0, 1) := dk_3 (dk_at dksX5_takeTold_4 6 rfl rfl)
theorem dX5_takeTold_99 : decode cX5_takeTold 99 = .ok (.goto 4, 3) := dk_167 0 4 (dk_at dksX5_takeTold_4 7 rfl rfl)
theorem dX5_takeTold_102 : decode cX5_takeTold 102 = .ok (.iconst 1, 1) := dk_4 (dk_at dksX5_takeTold_4 10 rfl rfl)
theorem dX5_takeTold_103 : decode cX5_takeTold 103 = .ok (.iadd, 1) := dk_96 (dk_at dksX5_takeTold_4 11 rfl rfl)
theorem dX5_takeTold_104 : decode cX5_takeTold 104 = .ok (.putfield 160, 3) := dk_181 0 160 (dk_at dksX5_takeTold_4 12 rfl rfl)
theorem dX5_takeTold_107 : decode cX5_takeTold 107 = .ok (.aload_n 0, 1) := dk_42 (dk_at dksX5_takeTold_4 15 rfl rfl)
theorem dX5_takeTold_108 : decode cX5_takeTold 108 = .ok (.getfield 163, 3) := dk_180 0 163 (dk_at dksX5_takeTold_4 16 rfl rfl)
theorem dX5_takeTold_111 : decode cX5_takeTold 111 = .ok (.ifCond .le 7, 3) := dk_158 0 7 (dk_at dksX5_takeTold_4 19 rfl rfl)
theorem dX5_takeTold_114 : decode cX5_takeTold 114 = .ok (.iconst 0, 1) := dk_3 (dk_at dksX5_takeTold_4 22 rfl rfl)
theorem dX5_takeTold_115 : decode cX5_takeTold 115 = .ok (.goto 5, 3) := dk_167 0 5 (dk_at dksX5_takeTold_5 0 rfl rfl)
theorem dX5_takeTold_118 : decode cX5_takeTold 118 = .ok (.iload 4, 2) := dk_21 4 (dk_at dksX5_takeTold_5 3 rfl rfl)
theorem dX5_takeTold_120 : decode cX5_takeTold 120 = .ok (.ireturn, 1) := dk_172 (dk_at dksX5_takeTold_5 5 rfl rfl)
abbrev cX5_within : ByteArray := prog_23_method_17_code
def yX5_within : MethodName := ⟨RX5, "within", "(III)Z"⟩
def dkwX5_within_0 : List UInt8 := [26, 27, 161, 0, 12, 26, 28, 163, 0, 7, 4, 167, 0, 4, 3, 172]
abbrev dktX5_within_0 : List UInt8 := dkwX5_within_0 ++ []
theorem dksX5_within_0 : cX5_within.data.toList.drop 0 = dktX5_within_0 := by decide +kernel
theorem dX5_within_0 : decode cX5_within 0 = .ok (.iload_n 0, 1) := dk_26 (dk_at dksX5_within_0 0 rfl rfl)
theorem dX5_within_1 : decode cX5_within 1 = .ok (.iload_n 1, 1) := dk_27 (dk_at dksX5_within_0 1 rfl rfl)
theorem dX5_within_2 : decode cX5_within 2 = .ok (.if_icmp .lt 12, 3) := dk_161 0 12 (dk_at dksX5_within_0 2 rfl rfl)
theorem dX5_within_5 : decode cX5_within 5 = .ok (.iload_n 0, 1) := dk_26 (dk_at dksX5_within_0 5 rfl rfl)
theorem dX5_within_6 : decode cX5_within 6 = .ok (.iload_n 2, 1) := dk_28 (dk_at dksX5_within_0 6 rfl rfl)
theorem dX5_within_7 : decode cX5_within 7 = .ok (.if_icmp .gt 7, 3) := dk_163 0 7 (dk_at dksX5_within_0 7 rfl rfl)
theorem dX5_within_10 : decode cX5_within 10 = .ok (.iconst 1, 1) := dk_4 (dk_at dksX5_within_0 10 rfl rfl)
theorem dX5_within_11 : decode cX5_within 11 = .ok (.goto 4, 3) := dk_167 0 4 (dk_at dksX5_within_0 11 rfl rfl)
theorem dX5_within_14 : decode cX5_within 14 = .ok (.iconst 0, 1) := dk_3 (dk_at dksX5_within_0 14 rfl rfl)
theorem dX5_within_15 : decode cX5_within 15 = .ok (.ireturn, 1) := dk_172 (dk_at dksX5_within_0 15 rfl rfl)
abbrev cX5_readPair : ByteArray := prog_23_method_28_code
def yX5_readPair : MethodName := ⟨RX5, "readPair", "(III)V"⟩
def dkwX5_readPair_3 : List UInt8 := [180, 0, 87, 16, 50, 28, 96, 29, 21, 6, 104, 96, 92, 46, 4, 21, 4, 120, 128, 79, 177]
abbrev dktX5_readPair_3 : List UInt8 := dkwX5_readPair_3 ++ []
def dkwX5_readPair_2 : List UInt8 := [54, 6, 42, 180, 0, 163, 154, 0, 38, 42, 180, 0, 87, 21, 5, 92, 46, 4, 21, 6, 120, 128, 79, 42]
abbrev dktX5_readPair_2 : List UInt8 := dkwX5_readPair_2 ++ dktX5_readPair_3
def dkwX5_readPair_1 : List UInt8 := [21, 4, 104, 96, 54, 5, 42, 4, 27, 42, 180, 0, 87, 21, 5, 46, 4, 21, 4, 120, 128, 182, 0, 238]
abbrev dktX5_readPair_1 : List UInt8 := dkwX5_readPair_1 ++ dktX5_readPair_2
def dkwX5_readPair_0 : List UInt8 := [42, 89, 180, 0, 160, 4, 96, 181, 0, 160, 42, 4, 27, 3, 182, 0, 238, 54, 4, 16, 50, 28, 96, 29]
abbrev dktX5_readPair_0 : List UInt8 := dkwX5_readPair_0 ++ dktX5_readPair_1
theorem dksX5_readPair_0 : cX5_readPair.data.toList.drop 0 = dktX5_readPair_0 := by decide +kernel
theorem dksX5_readPair_1 : cX5_readPair.data.toList.drop 24 = dktX5_readPair_1 := dk_seg dksX5_readPair_0 24 rfl rfl
theorem dksX5_readPair_2 : cX5_readPair.data.toList.drop 48 = dktX5_readPair_2 := dk_seg dksX5_readPair_1 24 rfl rfl
theorem dksX5_readPair_3 : cX5_readPair.data.toList.drop 72 = dktX5_readPair_3 := dk_seg dksX5_readPair_2 24 rfl rfl
theorem dX5_readPair_0 : decode cX5_readPair 0 = .ok (.aload_n 0, 1) := dk_42 (dk_at dksX5_readPair_0 0 rfl rfl)
theorem dX5_readPair_1 : decode cX5_readPair 1 = .ok (.dup, 1) := dk_89 (dk_at dksX5_readPair_0 1 rfl rfl)
theorem dX5_readPair_2 : decode cX5_readPair 2 = .ok (.getfield 160, 3) := dk_180 0 160 (dk_at dksX5_readPair_0 2 rfl rfl)
theorem dX5_readPair_5 : decode cX5_readPair 5 = .ok (.iconst 1, 1) := dk_4 (dk_at dksX5_readPair_0 5 rfl rfl)
theorem dX5_readPair_6 : decode cX5_readPair 6 = .ok (.iadd, 1) := dk_96 (dk_at dksX5_readPair_0 6 rfl rfl)
theorem dX5_readPair_7 : decode cX5_readPair 7 = .ok (.putfield 160, 3) := dk_181 0 160 (dk_at dksX5_readPair_0 7 rfl rfl)
theorem dX5_readPair_10 : decode cX5_readPair 10 = .ok (.aload_n 0, 1) := dk_42 (dk_at dksX5_readPair_0 10 rfl rfl)
theorem dX5_readPair_11 : decode cX5_readPair 11 = .ok (.iconst 1, 1) := dk_4 (dk_at dksX5_readPair_0 11 rfl rfl)
theorem dX5_readPair_12 : decode cX5_readPair 12 = .ok (.iload_n 1, 1) := dk_27 (dk_at dksX5_readPair_0 12 rfl rfl)
theorem dX5_readPair_13 : decode cX5_readPair 13 = .ok (.iconst 0, 1) := dk_3 (dk_at dksX5_readPair_0 13 rfl rfl)
theorem dX5_readPair_14 : decode cX5_readPair 14 = .ok (.invokevirtual 238, 3) := dk_182 0 238 (dk_at dksX5_readPair_0 14 rfl rfl)
theorem dX5_readPair_17 : decode cX5_readPair 17 = .ok (.istore 4, 2) := dk_54 4 (dk_at dksX5_readPair_0 17 rfl rfl)
theorem dX5_readPair_19 : decode cX5_readPair 19 = .ok (.bipush 50, 2) := dk_16 50 (dk_at dksX5_readPair_0 19 rfl rfl)
theorem dX5_readPair_21 : decode cX5_readPair 21 = .ok (.iload_n 2, 1) := dk_28 (dk_at dksX5_readPair_0 21 rfl rfl)
theorem dX5_readPair_22 : decode cX5_readPair 22 = .ok (.iadd, 1) := dk_96 (dk_at dksX5_readPair_0 22 rfl rfl)
theorem dX5_readPair_23 : decode cX5_readPair 23 = .ok (.iload_n 3, 1) := dk_29 (dk_at dksX5_readPair_0 23 rfl rfl)
theorem dX5_readPair_24 : decode cX5_readPair 24 = .ok (.iload 4, 2) := dk_21 4 (dk_at dksX5_readPair_1 0 rfl rfl)
theorem dX5_readPair_26 : decode cX5_readPair 26 = .ok (.imul, 1) := dk_104 (dk_at dksX5_readPair_1 2 rfl rfl)
theorem dX5_readPair_27 : decode cX5_readPair 27 = .ok (.iadd, 1) := dk_96 (dk_at dksX5_readPair_1 3 rfl rfl)
theorem dX5_readPair_28 : decode cX5_readPair 28 = .ok (.istore 5, 2) := dk_54 5 (dk_at dksX5_readPair_1 4 rfl rfl)
theorem dX5_readPair_30 : decode cX5_readPair 30 = .ok (.aload_n 0, 1) := dk_42 (dk_at dksX5_readPair_1 6 rfl rfl)
theorem dX5_readPair_31 : decode cX5_readPair 31 = .ok (.iconst 1, 1) := dk_4 (dk_at dksX5_readPair_1 7 rfl rfl)
theorem dX5_readPair_32 : decode cX5_readPair 32 = .ok (.iload_n 1, 1) := dk_27 (dk_at dksX5_readPair_1 8 rfl rfl)
theorem dX5_readPair_33 : decode cX5_readPair 33 = .ok (.aload_n 0, 1) := dk_42 (dk_at dksX5_readPair_1 9 rfl rfl)
theorem dX5_readPair_34 : decode cX5_readPair 34 = .ok (.getfield 87, 3) := dk_180 0 87 (dk_at dksX5_readPair_1 10 rfl rfl)
theorem dX5_readPair_37 : decode cX5_readPair 37 = .ok (.iload 5, 2) := dk_21 5 (dk_at dksX5_readPair_1 13 rfl rfl)
theorem dX5_readPair_39 : decode cX5_readPair 39 = .ok (.iaload, 1) := dk_46 (dk_at dksX5_readPair_1 15 rfl rfl)
theorem dX5_readPair_40 : decode cX5_readPair 40 = .ok (.iconst 1, 1) := dk_4 (dk_at dksX5_readPair_1 16 rfl rfl)
theorem dX5_readPair_41 : decode cX5_readPair 41 = .ok (.iload 4, 2) := dk_21 4 (dk_at dksX5_readPair_1 17 rfl rfl)
theorem dX5_readPair_43 : decode cX5_readPair 43 = .ok (.ishl, 1) := dk_120 (dk_at dksX5_readPair_1 19 rfl rfl)
theorem dX5_readPair_44 : decode cX5_readPair 44 = .ok (.ior, 1) := dk_128 (dk_at dksX5_readPair_1 20 rfl rfl)
theorem dX5_readPair_45 : decode cX5_readPair 45 = .ok (.invokevirtual 238, 3) := dk_182 0 238 (dk_at dksX5_readPair_1 21 rfl rfl)
theorem dX5_readPair_48 : decode cX5_readPair 48 = .ok (.istore 6, 2) := dk_54 6 (dk_at dksX5_readPair_2 0 rfl rfl)
theorem dX5_readPair_50 : decode cX5_readPair 50 = .ok (.aload_n 0, 1) := dk_42 (dk_at dksX5_readPair_2 2 rfl rfl)
theorem dX5_readPair_51 : decode cX5_readPair 51 = .ok (.getfield 163, 3) := dk_180 0 163 (dk_at dksX5_readPair_2 3 rfl rfl)
theorem dX5_readPair_54 : decode cX5_readPair 54 = .ok (.ifCond .ne 38, 3) := dk_154 0 38 (dk_at dksX5_readPair_2 6 rfl rfl)
theorem dX5_readPair_57 : decode cX5_readPair 57 = .ok (.aload_n 0, 1) := dk_42 (dk_at dksX5_readPair_2 9 rfl rfl)
theorem dX5_readPair_58 : decode cX5_readPair 58 = .ok (.getfield 87, 3) := dk_180 0 87 (dk_at dksX5_readPair_2 10 rfl rfl)
theorem dX5_readPair_61 : decode cX5_readPair 61 = .ok (.iload 5, 2) := dk_21 5 (dk_at dksX5_readPair_2 13 rfl rfl)
theorem dX5_readPair_63 : decode cX5_readPair 63 = .ok (.dup2, 1) := dk_92 (dk_at dksX5_readPair_2 15 rfl rfl)
theorem dX5_readPair_64 : decode cX5_readPair 64 = .ok (.iaload, 1) := dk_46 (dk_at dksX5_readPair_2 16 rfl rfl)
theorem dX5_readPair_65 : decode cX5_readPair 65 = .ok (.iconst 1, 1) := dk_4 (dk_at dksX5_readPair_2 17 rfl rfl)
theorem dX5_readPair_66 : decode cX5_readPair 66 = .ok (.iload 6, 2) := dk_21 6 (dk_at dksX5_readPair_2 18 rfl rfl)
theorem dX5_readPair_68 : decode cX5_readPair 68 = .ok (.ishl, 1) := dk_120 (dk_at dksX5_readPair_2 20 rfl rfl)
theorem dX5_readPair_69 : decode cX5_readPair 69 = .ok (.ior, 1) := dk_128 (dk_at dksX5_readPair_2 21 rfl rfl)
theorem dX5_readPair_70 : decode cX5_readPair 70 = .ok (.iastore, 1) := dk_79 (dk_at dksX5_readPair_2 22 rfl rfl)
theorem dX5_readPair_71 : decode cX5_readPair 71 = .ok (.aload_n 0, 1) := dk_42 (dk_at dksX5_readPair_2 23 rfl rfl)
theorem dX5_readPair_72 : decode cX5_readPair 72 = .ok (.getfield 87, 3) := dk_180 0 87 (dk_at dksX5_readPair_3 0 rfl rfl)
theorem dX5_readPair_75 : decode cX5_readPair 75 = .ok (.bipush 50, 2) := dk_16 50 (dk_at dksX5_readPair_3 3 rfl rfl)
theorem dX5_readPair_77 : decode cX5_readPair 77 = .ok (.iload_n 2, 1) := dk_28 (dk_at dksX5_readPair_3 5 rfl rfl)
theorem dX5_readPair_78 : decode cX5_readPair 78 = .ok (.iadd, 1) := dk_96 (dk_at dksX5_readPair_3 6 rfl rfl)
theorem dX5_readPair_79 : decode cX5_readPair 79 = .ok (.iload_n 3, 1) := dk_29 (dk_at dksX5_readPair_3 7 rfl rfl)
theorem dX5_readPair_80 : decode cX5_readPair 80 = .ok (.iload 6, 2) := dk_21 6 (dk_at dksX5_readPair_3 8 rfl rfl)
theorem dX5_readPair_82 : decode cX5_readPair 82 = .ok (.imul, 1) := dk_104 (dk_at dksX5_readPair_3 10 rfl rfl)
theorem dX5_readPair_83 : decode cX5_readPair 83 = .ok (.iadd, 1) := dk_96 (dk_at dksX5_readPair_3 11 rfl rfl)
theorem dX5_readPair_84 : decode cX5_readPair 84 = .ok (.dup2, 1) := dk_92 (dk_at dksX5_readPair_3 12 rfl rfl)
theorem dX5_readPair_85 : decode cX5_readPair 85 = .ok (.iaload, 1) := dk_46 (dk_at dksX5_readPair_3 13 rfl rfl)
theorem dX5_readPair_86 : decode cX5_readPair 86 = .ok (.iconst 1, 1) := dk_4 (dk_at dksX5_readPair_3 14 rfl rfl)
theorem dX5_readPair_87 : decode cX5_readPair 87 = .ok (.iload 4, 2) := dk_21 4 (dk_at dksX5_readPair_3 15 rfl rfl)
theorem dX5_readPair_89 : decode cX5_readPair 89 = .ok (.ishl, 1) := dk_120 (dk_at dksX5_readPair_3 17 rfl rfl)
theorem dX5_readPair_90 : decode cX5_readPair 90 = .ok (.ior, 1) := dk_128 (dk_at dksX5_readPair_3 18 rfl rfl)
theorem dX5_readPair_91 : decode cX5_readPair 91 = .ok (.iastore, 1) := dk_79 (dk_at dksX5_readPair_3 19 rfl rfl)
theorem dX5_readPair_92 : decode cX5_readPair 92 = .ok (.return_, 1) := dk_177 (dk_at dksX5_readPair_3 20 rfl rfl)
abbrev cX5_readOnce : ByteArray := prog_23_method_31_code
def yX5_readOnce : MethodName := ⟨RX5, "readOnce", "()V"⟩
def dkwX5_readOnce_4 : List UInt8 := [180, 0, 209, 79, 42, 3, 182, 0, 245, 42, 3, 3, 182, 0, 248, 177]
abbrev dktX5_readOnce_4 : List UInt8 := dkwX5_readOnce_4 ++ []
def dkwX5_readOnce_3 : List UInt8 := [42, 180, 0, 87, 16, 52, 42, 4, 7, 182, 0, 181, 79, 167, 0, 25, 42, 180, 0, 87, 16, 53, 42]
abbrev dktX5_readOnce_3 : List UInt8 := dkwX5_readOnce_3 ++ dktX5_readOnce_4
def dkwX5_readOnce_2 : List UInt8 := [180, 0, 212, 4, 27, 120, 128, 181, 0, 212, 42, 89, 180, 0, 160, 4, 96, 181, 0, 160, 27, 154, 0, 19]
abbrev dktX5_readOnce_2 : List UInt8 := dkwX5_readOnce_2 ++ dktX5_readOnce_3
def dkwX5_readOnce_1 : List UInt8 := [27, 122, 4, 126, 4, 160, 0, 8, 42, 6, 182, 0, 169, 42, 180, 0, 163, 158, 0, 4, 177, 42, 89]
abbrev dktX5_readOnce_1 : List UInt8 := dkwX5_readOnce_1 ++ dktX5_readOnce_2
def dkwX5_readOnce_0 : List UInt8 := [42, 16, 8, 5, 182, 0, 185, 60, 27, 156, 0, 11, 42, 4, 182, 0, 169, 167, 0, 20, 42, 180, 0, 212]
abbrev dktX5_readOnce_0 : List UInt8 := dkwX5_readOnce_0 ++ dktX5_readOnce_1
theorem dksX5_readOnce_0 : cX5_readOnce.data.toList.drop 0 = dktX5_readOnce_0 := by decide +kernel
theorem dksX5_readOnce_1 : cX5_readOnce.data.toList.drop 24 = dktX5_readOnce_1 := dk_seg dksX5_readOnce_0 24 rfl rfl
theorem dksX5_readOnce_2 : cX5_readOnce.data.toList.drop 47 = dktX5_readOnce_2 := dk_seg dksX5_readOnce_1 23 rfl rfl
theorem dksX5_readOnce_3 : cX5_readOnce.data.toList.drop 71 = dktX5_readOnce_3 := dk_seg dksX5_readOnce_2 24 rfl rfl
theorem dksX5_readOnce_4 : cX5_readOnce.data.toList.drop 94 = dktX5_readOnce_4 := dk_seg dksX5_readOnce_3 23 rfl rfl
theorem dX5_readOnce_0 : decode cX5_readOnce 0 = .ok (.aload_n 0, 1) := dk_42 (dk_at dksX5_readOnce_0 0 rfl rfl)
theorem dX5_readOnce_1 : decode cX5_readOnce 1 = .ok (.bipush 8, 2) := dk_16 8 (dk_at dksX5_readOnce_0 1 rfl rfl)
theorem dX5_readOnce_3 : decode cX5_readOnce 3 = .ok (.iconst 2, 1) := dk_5 (dk_at dksX5_readOnce_0 3 rfl rfl)
theorem dX5_readOnce_4 : decode cX5_readOnce 4 = .ok (.invokevirtual 185, 3) := dk_182 0 185 (dk_at dksX5_readOnce_0 4 rfl rfl)
theorem dX5_readOnce_7 : decode cX5_readOnce 7 = .ok (.istore_n 1, 1) := dk_60 (dk_at dksX5_readOnce_0 7 rfl rfl)
theorem dX5_readOnce_8 : decode cX5_readOnce 8 = .ok (.iload_n 1, 1) := dk_27 (dk_at dksX5_readOnce_0 8 rfl rfl)
theorem dX5_readOnce_9 : decode cX5_readOnce 9 = .ok (.ifCond .ge 11, 3) := dk_156 0 11 (dk_at dksX5_readOnce_0 9 rfl rfl)
theorem dX5_readOnce_12 : decode cX5_readOnce 12 = .ok (.aload_n 0, 1) := dk_42 (dk_at dksX5_readOnce_0 12 rfl rfl)
theorem dX5_readOnce_13 : decode cX5_readOnce 13 = .ok (.iconst 1, 1) := dk_4 (dk_at dksX5_readOnce_0 13 rfl rfl)
theorem dX5_readOnce_14 : decode cX5_readOnce 14 = .ok (.invokevirtual 169, 3) := dk_182 0 169 (dk_at dksX5_readOnce_0 14 rfl rfl)
theorem dX5_readOnce_17 : decode cX5_readOnce 17 = .ok (.goto 20, 3) := dk_167 0 20 (dk_at dksX5_readOnce_0 17 rfl rfl)
theorem dX5_readOnce_20 : decode cX5_readOnce 20 = .ok (.aload_n 0, 1) := dk_42 (dk_at dksX5_readOnce_0 20 rfl rfl)
theorem dX5_readOnce_21 : decode cX5_readOnce 21 = .ok (.getfield 212, 3) := dk_180 0 212 (dk_at dksX5_readOnce_0 21 rfl rfl)
theorem dX5_readOnce_24 : decode cX5_readOnce 24 = .ok (.iload_n 1, 1) := dk_27 (dk_at dksX5_readOnce_1 0 rfl rfl)
theorem dX5_readOnce_25 : decode cX5_readOnce 25 = .ok (.ishr, 1) := dk_122 (dk_at dksX5_readOnce_1 1 rfl rfl)
theorem dX5_readOnce_26 : decode cX5_readOnce 26 = .ok (.iconst 1, 1) := dk_4 (dk_at dksX5_readOnce_1 2 rfl rfl)
theorem dX5_readOnce_27 : decode cX5_readOnce 27 = .ok (.iand, 1) := dk_126 (dk_at dksX5_readOnce_1 3 rfl rfl)
theorem dX5_readOnce_28 : decode cX5_readOnce 28 = .ok (.iconst 1, 1) := dk_4 (dk_at dksX5_readOnce_1 4 rfl rfl)
theorem dX5_readOnce_29 : decode cX5_readOnce 29 = .ok (.if_icmp .ne 8, 3) := dk_160 0 8 (dk_at dksX5_readOnce_1 5 rfl rfl)
theorem dX5_readOnce_32 : decode cX5_readOnce 32 = .ok (.aload_n 0, 1) := dk_42 (dk_at dksX5_readOnce_1 8 rfl rfl)
theorem dX5_readOnce_33 : decode cX5_readOnce 33 = .ok (.iconst 3, 1) := dk_6 (dk_at dksX5_readOnce_1 9 rfl rfl)
theorem dX5_readOnce_34 : decode cX5_readOnce 34 = .ok (.invokevirtual 169, 3) := dk_182 0 169 (dk_at dksX5_readOnce_1 10 rfl rfl)
theorem dX5_readOnce_37 : decode cX5_readOnce 37 = .ok (.aload_n 0, 1) := dk_42 (dk_at dksX5_readOnce_1 13 rfl rfl)
theorem dX5_readOnce_38 : decode cX5_readOnce 38 = .ok (.getfield 163, 3) := dk_180 0 163 (dk_at dksX5_readOnce_1 14 rfl rfl)
theorem dX5_readOnce_41 : decode cX5_readOnce 41 = .ok (.ifCond .le 4, 3) := dk_158 0 4 (dk_at dksX5_readOnce_1 17 rfl rfl)
theorem dX5_readOnce_44 : decode cX5_readOnce 44 = .ok (.return_, 1) := dk_177 (dk_at dksX5_readOnce_1 20 rfl rfl)
theorem dX5_readOnce_45 : decode cX5_readOnce 45 = .ok (.aload_n 0, 1) := dk_42 (dk_at dksX5_readOnce_1 21 rfl rfl)
theorem dX5_readOnce_46 : decode cX5_readOnce 46 = .ok (.dup, 1) := dk_89 (dk_at dksX5_readOnce_1 22 rfl rfl)
theorem dX5_readOnce_47 : decode cX5_readOnce 47 = .ok (.getfield 212, 3) := dk_180 0 212 (dk_at dksX5_readOnce_2 0 rfl rfl)
theorem dX5_readOnce_50 : decode cX5_readOnce 50 = .ok (.iconst 1, 1) := dk_4 (dk_at dksX5_readOnce_2 3 rfl rfl)
theorem dX5_readOnce_51 : decode cX5_readOnce 51 = .ok (.iload_n 1, 1) := dk_27 (dk_at dksX5_readOnce_2 4 rfl rfl)
theorem dX5_readOnce_52 : decode cX5_readOnce 52 = .ok (.ishl, 1) := dk_120 (dk_at dksX5_readOnce_2 5 rfl rfl)
theorem dX5_readOnce_53 : decode cX5_readOnce 53 = .ok (.ior, 1) := dk_128 (dk_at dksX5_readOnce_2 6 rfl rfl)
theorem dX5_readOnce_54 : decode cX5_readOnce 54 = .ok (.putfield 212, 3) := dk_181 0 212 (dk_at dksX5_readOnce_2 7 rfl rfl)
theorem dX5_readOnce_57 : decode cX5_readOnce 57 = .ok (.aload_n 0, 1) := dk_42 (dk_at dksX5_readOnce_2 10 rfl rfl)
theorem dX5_readOnce_58 : decode cX5_readOnce 58 = .ok (.dup, 1) := dk_89 (dk_at dksX5_readOnce_2 11 rfl rfl)
theorem dX5_readOnce_59 : decode cX5_readOnce 59 = .ok (.getfield 160, 3) := dk_180 0 160 (dk_at dksX5_readOnce_2 12 rfl rfl)
theorem dX5_readOnce_62 : decode cX5_readOnce 62 = .ok (.iconst 1, 1) := dk_4 (dk_at dksX5_readOnce_2 15 rfl rfl)
theorem dX5_readOnce_63 : decode cX5_readOnce 63 = .ok (.iadd, 1) := dk_96 (dk_at dksX5_readOnce_2 16 rfl rfl)
theorem dX5_readOnce_64 : decode cX5_readOnce 64 = .ok (.putfield 160, 3) := dk_181 0 160 (dk_at dksX5_readOnce_2 17 rfl rfl)
theorem dX5_readOnce_67 : decode cX5_readOnce 67 = .ok (.iload_n 1, 1) := dk_27 (dk_at dksX5_readOnce_2 20 rfl rfl)
theorem dX5_readOnce_68 : decode cX5_readOnce 68 = .ok (.ifCond .ne 19, 3) := dk_154 0 19 (dk_at dksX5_readOnce_2 21 rfl rfl)
theorem dX5_readOnce_71 : decode cX5_readOnce 71 = .ok (.aload_n 0, 1) := dk_42 (dk_at dksX5_readOnce_3 0 rfl rfl)
theorem dX5_readOnce_72 : decode cX5_readOnce 72 = .ok (.getfield 87, 3) := dk_180 0 87 (dk_at dksX5_readOnce_3 1 rfl rfl)
theorem dX5_readOnce_75 : decode cX5_readOnce 75 = .ok (.bipush 52, 2) := dk_16 52 (dk_at dksX5_readOnce_3 4 rfl rfl)
theorem dX5_readOnce_77 : decode cX5_readOnce 77 = .ok (.aload_n 0, 1) := dk_42 (dk_at dksX5_readOnce_3 6 rfl rfl)
theorem dX5_readOnce_78 : decode cX5_readOnce 78 = .ok (.iconst 1, 1) := dk_4 (dk_at dksX5_readOnce_3 7 rfl rfl)
theorem dX5_readOnce_79 : decode cX5_readOnce 79 = .ok (.iconst 4, 1) := dk_7 (dk_at dksX5_readOnce_3 8 rfl rfl)
theorem dX5_readOnce_80 : decode cX5_readOnce 80 = .ok (.invokevirtual 181, 3) := dk_182 0 181 (dk_at dksX5_readOnce_3 9 rfl rfl)
theorem dX5_readOnce_83 : decode cX5_readOnce 83 = .ok (.iastore, 1) := dk_79 (dk_at dksX5_readOnce_3 12 rfl rfl)
theorem dX5_readOnce_84 : decode cX5_readOnce 84 = .ok (.goto 25, 3) := dk_167 0 25 (dk_at dksX5_readOnce_3 13 rfl rfl)
theorem dX5_readOnce_87 : decode cX5_readOnce 87 = .ok (.aload_n 0, 1) := dk_42 (dk_at dksX5_readOnce_3 16 rfl rfl)
theorem dX5_readOnce_88 : decode cX5_readOnce 88 = .ok (.getfield 87, 3) := dk_180 0 87 (dk_at dksX5_readOnce_3 17 rfl rfl)
theorem dX5_readOnce_91 : decode cX5_readOnce 91 = .ok (.bipush 53, 2) := dk_16 53 (dk_at dksX5_readOnce_3 20 rfl rfl)
theorem dX5_readOnce_93 : decode cX5_readOnce 93 = .ok (.aload_n 0, 1) := dk_42 (dk_at dksX5_readOnce_3 22 rfl rfl)
theorem dX5_readOnce_94 : decode cX5_readOnce 94 = .ok (.getfield 209, 3) := dk_180 0 209 (dk_at dksX5_readOnce_4 0 rfl rfl)
theorem dX5_readOnce_97 : decode cX5_readOnce 97 = .ok (.iastore, 1) := dk_79 (dk_at dksX5_readOnce_4 3 rfl rfl)
theorem dX5_readOnce_98 : decode cX5_readOnce 98 = .ok (.aload_n 0, 1) := dk_42 (dk_at dksX5_readOnce_4 4 rfl rfl)
theorem dX5_readOnce_99 : decode cX5_readOnce 99 = .ok (.iconst 0, 1) := dk_3 (dk_at dksX5_readOnce_4 5 rfl rfl)
theorem dX5_readOnce_100 : decode cX5_readOnce 100 = .ok (.invokevirtual 245, 3) := dk_182 0 245 (dk_at dksX5_readOnce_4 6 rfl rfl)
theorem dX5_readOnce_103 : decode cX5_readOnce 103 = .ok (.aload_n 0, 1) := dk_42 (dk_at dksX5_readOnce_4 9 rfl rfl)
theorem dX5_readOnce_104 : decode cX5_readOnce 104 = .ok (.iconst 0, 1) := dk_3 (dk_at dksX5_readOnce_4 10 rfl rfl)
theorem dX5_readOnce_105 : decode cX5_readOnce 105 = .ok (.iconst 0, 1) := dk_3 (dk_at dksX5_readOnce_4 11 rfl rfl)
theorem dX5_readOnce_106 : decode cX5_readOnce 106 = .ok (.invokevirtual 248, 3) := dk_182 0 248 (dk_at dksX5_readOnce_4 12 rfl rfl)
theorem dX5_readOnce_109 : decode cX5_readOnce 109 = .ok (.return_, 1) := dk_177 (dk_at dksX5_readOnce_4 15 rfl rfl)
abbrev cX5_whole : ByteArray := prog_23_method_34_code
def yX5_whole : MethodName := ⟨RX5, "whole", "(I)V"⟩
def dkwX5_whole_2 : List UInt8 := [153, 0, 8, 16, 9, 167, 0, 5, 16, 10, 3, 182, 0, 248, 167, 255, 200, 177]
abbrev dktX5_whole_2 : List UInt8 := dkwX5_whole_2 ++ []
def dkwX5_whole_1 : List UInt8 := [16, 19, 182, 0, 172, 61, 42, 89, 180, 0, 160, 4, 96, 181, 0, 160, 42, 27, 182, 0, 252, 42, 28]
abbrev dktX5_whole_1 : List UInt8 := dkwX5_whole_1 ++ dktX5_whole_2
def dkwX5_whole_0 : List UInt8 := [42, 27, 182, 0, 252, 42, 16, 19, 182, 0, 172, 154, 0, 12, 42, 16, 20, 182, 0, 172, 153, 0, 44, 42]
abbrev dktX5_whole_0 : List UInt8 := dkwX5_whole_0 ++ dktX5_whole_1
theorem dksX5_whole_0 : cX5_whole.data.toList.drop 0 = dktX5_whole_0 := by decide +kernel
theorem dksX5_whole_1 : cX5_whole.data.toList.drop 24 = dktX5_whole_1 := dk_seg dksX5_whole_0 24 rfl rfl
theorem dksX5_whole_2 : cX5_whole.data.toList.drop 47 = dktX5_whole_2 := dk_seg dksX5_whole_1 23 rfl rfl
theorem dX5_whole_0 : decode cX5_whole 0 = .ok (.aload_n 0, 1) := dk_42 (dk_at dksX5_whole_0 0 rfl rfl)
theorem dX5_whole_1 : decode cX5_whole 1 = .ok (.iload_n 1, 1) := dk_27 (dk_at dksX5_whole_0 1 rfl rfl)
theorem dX5_whole_2 : decode cX5_whole 2 = .ok (.invokevirtual 252, 3) := dk_182 0 252 (dk_at dksX5_whole_0 2 rfl rfl)
theorem dX5_whole_5 : decode cX5_whole 5 = .ok (.aload_n 0, 1) := dk_42 (dk_at dksX5_whole_0 5 rfl rfl)
theorem dX5_whole_6 : decode cX5_whole 6 = .ok (.bipush 19, 2) := dk_16 19 (dk_at dksX5_whole_0 6 rfl rfl)
theorem dX5_whole_8 : decode cX5_whole 8 = .ok (.invokevirtual 172, 3) := dk_182 0 172 (dk_at dksX5_whole_0 8 rfl rfl)
theorem dX5_whole_11 : decode cX5_whole 11 = .ok (.ifCond .ne 12, 3) := dk_154 0 12 (dk_at dksX5_whole_0 11 rfl rfl)
theorem dX5_whole_14 : decode cX5_whole 14 = .ok (.aload_n 0, 1) := dk_42 (dk_at dksX5_whole_0 14 rfl rfl)
theorem dX5_whole_15 : decode cX5_whole 15 = .ok (.bipush 20, 2) := dk_16 20 (dk_at dksX5_whole_0 15 rfl rfl)
theorem dX5_whole_17 : decode cX5_whole 17 = .ok (.invokevirtual 172, 3) := dk_182 0 172 (dk_at dksX5_whole_0 17 rfl rfl)
theorem dX5_whole_20 : decode cX5_whole 20 = .ok (.ifCond .eq 44, 3) := dk_153 0 44 (dk_at dksX5_whole_0 20 rfl rfl)
theorem dX5_whole_23 : decode cX5_whole 23 = .ok (.aload_n 0, 1) := dk_42 (dk_at dksX5_whole_0 23 rfl rfl)
theorem dX5_whole_24 : decode cX5_whole 24 = .ok (.bipush 19, 2) := dk_16 19 (dk_at dksX5_whole_1 0 rfl rfl)
theorem dX5_whole_26 : decode cX5_whole 26 = .ok (.invokevirtual 172, 3) := dk_182 0 172 (dk_at dksX5_whole_1 2 rfl rfl)
theorem dX5_whole_29 : decode cX5_whole 29 = .ok (.istore_n 2, 1) := dk_61 (dk_at dksX5_whole_1 5 rfl rfl)
theorem dX5_whole_30 : decode cX5_whole 30 = .ok (.aload_n 0, 1) := dk_42 (dk_at dksX5_whole_1 6 rfl rfl)
theorem dX5_whole_31 : decode cX5_whole 31 = .ok (.dup, 1) := dk_89 (dk_at dksX5_whole_1 7 rfl rfl)
theorem dX5_whole_32 : decode cX5_whole 32 = .ok (.getfield 160, 3) := dk_180 0 160 (dk_at dksX5_whole_1 8 rfl rfl)
theorem dX5_whole_35 : decode cX5_whole 35 = .ok (.iconst 1, 1) := dk_4 (dk_at dksX5_whole_1 11 rfl rfl)
theorem dX5_whole_36 : decode cX5_whole 36 = .ok (.iadd, 1) := dk_96 (dk_at dksX5_whole_1 12 rfl rfl)
theorem dX5_whole_37 : decode cX5_whole 37 = .ok (.putfield 160, 3) := dk_181 0 160 (dk_at dksX5_whole_1 13 rfl rfl)
theorem dX5_whole_40 : decode cX5_whole 40 = .ok (.aload_n 0, 1) := dk_42 (dk_at dksX5_whole_1 16 rfl rfl)
theorem dX5_whole_41 : decode cX5_whole 41 = .ok (.iload_n 1, 1) := dk_27 (dk_at dksX5_whole_1 17 rfl rfl)
theorem dX5_whole_42 : decode cX5_whole 42 = .ok (.invokevirtual 252, 3) := dk_182 0 252 (dk_at dksX5_whole_1 18 rfl rfl)
theorem dX5_whole_45 : decode cX5_whole 45 = .ok (.aload_n 0, 1) := dk_42 (dk_at dksX5_whole_1 21 rfl rfl)
theorem dX5_whole_46 : decode cX5_whole 46 = .ok (.iload_n 2, 1) := dk_28 (dk_at dksX5_whole_1 22 rfl rfl)
theorem dX5_whole_47 : decode cX5_whole 47 = .ok (.ifCond .eq 8, 3) := dk_153 0 8 (dk_at dksX5_whole_2 0 rfl rfl)
theorem dX5_whole_50 : decode cX5_whole 50 = .ok (.bipush 9, 2) := dk_16 9 (dk_at dksX5_whole_2 3 rfl rfl)
theorem dX5_whole_52 : decode cX5_whole 52 = .ok (.goto 5, 3) := dk_167 0 5 (dk_at dksX5_whole_2 5 rfl rfl)
theorem dX5_whole_55 : decode cX5_whole 55 = .ok (.bipush 10, 2) := dk_16 10 (dk_at dksX5_whole_2 8 rfl rfl)
theorem dX5_whole_57 : decode cX5_whole 57 = .ok (.iconst 0, 1) := dk_3 (dk_at dksX5_whole_2 10 rfl rfl)
theorem dX5_whole_58 : decode cX5_whole 58 = .ok (.invokevirtual 248, 3) := dk_182 0 248 (dk_at dksX5_whole_2 11 rfl rfl)
theorem dX5_whole_61 : decode cX5_whole 61 = .ok (.goto (-56), 3) := dk_167 255 200 (dk_at dksX5_whole_2 14 rfl rfl)
theorem dX5_whole_64 : decode cX5_whole 64 = .ok (.return_, 1) := dk_177 (dk_at dksX5_whole_2 17 rfl rfl)
abbrev cX5_test : ByteArray := prog_23_method_35_code
def yX5_test : MethodName := ⟨RX5, "test", "(I)V"⟩
def dkwX5_test_2 : List UInt8 := [182, 0, 248, 177]
abbrev dktX5_test_2 : List UInt8 := dkwX5_test_2 ++ []
def dkwX5_test_1 : List UInt8 := [182, 1, 2, 153, 0, 24, 42, 27, 182, 0, 255, 42, 28, 153, 0, 8, 16, 7, 167, 0, 5, 16, 8, 3]
abbrev dktX5_test_1 : List UInt8 := dkwX5_test_1 ++ dktX5_test_2
def dkwX5_test_0 : List UInt8 := [42, 27, 182, 0, 255, 42, 16, 60, 182, 0, 166, 61, 42, 16, 60, 182, 1, 2, 154, 0, 12, 42, 16, 61]
abbrev dktX5_test_0 : List UInt8 := dkwX5_test_0 ++ dktX5_test_1
theorem dksX5_test_0 : cX5_test.data.toList.drop 0 = dktX5_test_0 := by decide +kernel
theorem dksX5_test_1 : cX5_test.data.toList.drop 24 = dktX5_test_1 := dk_seg dksX5_test_0 24 rfl rfl
theorem dksX5_test_2 : cX5_test.data.toList.drop 48 = dktX5_test_2 := dk_seg dksX5_test_1 24 rfl rfl
theorem dX5_test_0 : decode cX5_test 0 = .ok (.aload_n 0, 1) := dk_42 (dk_at dksX5_test_0 0 rfl rfl)
theorem dX5_test_1 : decode cX5_test 1 = .ok (.iload_n 1, 1) := dk_27 (dk_at dksX5_test_0 1 rfl rfl)
theorem dX5_test_2 : decode cX5_test 2 = .ok (.invokevirtual 255, 3) := dk_182 0 255 (dk_at dksX5_test_0 2 rfl rfl)
theorem dX5_test_5 : decode cX5_test 5 = .ok (.aload_n 0, 1) := dk_42 (dk_at dksX5_test_0 5 rfl rfl)
theorem dX5_test_6 : decode cX5_test 6 = .ok (.bipush 60, 2) := dk_16 60 (dk_at dksX5_test_0 6 rfl rfl)
theorem dX5_test_8 : decode cX5_test 8 = .ok (.invokevirtual 166, 3) := dk_182 0 166 (dk_at dksX5_test_0 8 rfl rfl)
theorem dX5_test_11 : decode cX5_test 11 = .ok (.istore_n 2, 1) := dk_61 (dk_at dksX5_test_0 11 rfl rfl)
theorem dX5_test_12 : decode cX5_test 12 = .ok (.aload_n 0, 1) := dk_42 (dk_at dksX5_test_0 12 rfl rfl)
theorem dX5_test_13 : decode cX5_test 13 = .ok (.bipush 60, 2) := dk_16 60 (dk_at dksX5_test_0 13 rfl rfl)
theorem dX5_test_15 : decode cX5_test 15 = .ok (.invokevirtual 258, 3) := dk_182 1 2 (dk_at dksX5_test_0 15 rfl rfl)
theorem dX5_test_18 : decode cX5_test 18 = .ok (.ifCond .ne 12, 3) := dk_154 0 12 (dk_at dksX5_test_0 18 rfl rfl)
theorem dX5_test_21 : decode cX5_test 21 = .ok (.aload_n 0, 1) := dk_42 (dk_at dksX5_test_0 21 rfl rfl)
theorem dX5_test_22 : decode cX5_test 22 = .ok (.bipush 61, 2) := dk_16 61 (dk_at dksX5_test_0 22 rfl rfl)
theorem dX5_test_24 : decode cX5_test 24 = .ok (.invokevirtual 258, 3) := dk_182 1 2 (dk_at dksX5_test_1 0 rfl rfl)
theorem dX5_test_27 : decode cX5_test 27 = .ok (.ifCond .eq 24, 3) := dk_153 0 24 (dk_at dksX5_test_1 3 rfl rfl)
theorem dX5_test_30 : decode cX5_test 30 = .ok (.aload_n 0, 1) := dk_42 (dk_at dksX5_test_1 6 rfl rfl)
theorem dX5_test_31 : decode cX5_test 31 = .ok (.iload_n 1, 1) := dk_27 (dk_at dksX5_test_1 7 rfl rfl)
theorem dX5_test_32 : decode cX5_test 32 = .ok (.invokevirtual 255, 3) := dk_182 0 255 (dk_at dksX5_test_1 8 rfl rfl)
theorem dX5_test_35 : decode cX5_test 35 = .ok (.aload_n 0, 1) := dk_42 (dk_at dksX5_test_1 11 rfl rfl)
theorem dX5_test_36 : decode cX5_test 36 = .ok (.iload_n 2, 1) := dk_28 (dk_at dksX5_test_1 12 rfl rfl)
theorem dX5_test_37 : decode cX5_test 37 = .ok (.ifCond .eq 8, 3) := dk_153 0 8 (dk_at dksX5_test_1 13 rfl rfl)
theorem dX5_test_40 : decode cX5_test 40 = .ok (.bipush 7, 2) := dk_16 7 (dk_at dksX5_test_1 16 rfl rfl)
theorem dX5_test_42 : decode cX5_test 42 = .ok (.goto 5, 3) := dk_167 0 5 (dk_at dksX5_test_1 18 rfl rfl)
theorem dX5_test_45 : decode cX5_test 45 = .ok (.bipush 8, 2) := dk_16 8 (dk_at dksX5_test_1 21 rfl rfl)
theorem dX5_test_47 : decode cX5_test 47 = .ok (.iconst 0, 1) := dk_3 (dk_at dksX5_test_1 23 rfl rfl)
theorem dX5_test_48 : decode cX5_test 48 = .ok (.invokevirtual 248, 3) := dk_182 0 248 (dk_at dksX5_test_2 0 rfl rfl)
theorem dX5_test_51 : decode cX5_test 51 = .ok (.return_, 1) := dk_177 (dk_at dksX5_test_2 3 rfl rfl)
abbrev cX5_sums : ByteArray := prog_23_method_36_code
def yX5_sums : MethodName := ⟨RX5, "sums", "(I)V"⟩
def dkwX5_sums_2 : List UInt8 := [153, 0, 7, 7, 167, 0, 4, 8, 3, 182, 0, 248, 167, 255, 202, 177]
abbrev dktX5_sums_2 : List UInt8 := dkwX5_sums_2 ++ []
def dkwX5_sums_1 : List UInt8 := [16, 43, 182, 0, 166, 61, 42, 89, 180, 0, 160, 4, 96, 181, 0, 160, 42, 27, 182, 1, 5, 42, 28]
abbrev dktX5_sums_1 : List UInt8 := dkwX5_sums_1 ++ dktX5_sums_2
def dkwX5_sums_0 : List UInt8 := [42, 27, 182, 1, 5, 42, 16, 43, 182, 0, 166, 154, 0, 12, 42, 16, 45, 182, 0, 166, 153, 0, 42, 42]
abbrev dktX5_sums_0 : List UInt8 := dkwX5_sums_0 ++ dktX5_sums_1
theorem dksX5_sums_0 : cX5_sums.data.toList.drop 0 = dktX5_sums_0 := by decide +kernel
theorem dksX5_sums_1 : cX5_sums.data.toList.drop 24 = dktX5_sums_1 := dk_seg dksX5_sums_0 24 rfl rfl
theorem dksX5_sums_2 : cX5_sums.data.toList.drop 47 = dktX5_sums_2 := dk_seg dksX5_sums_1 23 rfl rfl
theorem dX5_sums_0 : decode cX5_sums 0 = .ok (.aload_n 0, 1) := dk_42 (dk_at dksX5_sums_0 0 rfl rfl)
theorem dX5_sums_1 : decode cX5_sums 1 = .ok (.iload_n 1, 1) := dk_27 (dk_at dksX5_sums_0 1 rfl rfl)
theorem dX5_sums_2 : decode cX5_sums 2 = .ok (.invokevirtual 261, 3) := dk_182 1 5 (dk_at dksX5_sums_0 2 rfl rfl)
theorem dX5_sums_5 : decode cX5_sums 5 = .ok (.aload_n 0, 1) := dk_42 (dk_at dksX5_sums_0 5 rfl rfl)
theorem dX5_sums_6 : decode cX5_sums 6 = .ok (.bipush 43, 2) := dk_16 43 (dk_at dksX5_sums_0 6 rfl rfl)
theorem dX5_sums_8 : decode cX5_sums 8 = .ok (.invokevirtual 166, 3) := dk_182 0 166 (dk_at dksX5_sums_0 8 rfl rfl)
theorem dX5_sums_11 : decode cX5_sums 11 = .ok (.ifCond .ne 12, 3) := dk_154 0 12 (dk_at dksX5_sums_0 11 rfl rfl)
theorem dX5_sums_14 : decode cX5_sums 14 = .ok (.aload_n 0, 1) := dk_42 (dk_at dksX5_sums_0 14 rfl rfl)
theorem dX5_sums_15 : decode cX5_sums 15 = .ok (.bipush 45, 2) := dk_16 45 (dk_at dksX5_sums_0 15 rfl rfl)
theorem dX5_sums_17 : decode cX5_sums 17 = .ok (.invokevirtual 166, 3) := dk_182 0 166 (dk_at dksX5_sums_0 17 rfl rfl)
theorem dX5_sums_20 : decode cX5_sums 20 = .ok (.ifCond .eq 42, 3) := dk_153 0 42 (dk_at dksX5_sums_0 20 rfl rfl)
theorem dX5_sums_23 : decode cX5_sums 23 = .ok (.aload_n 0, 1) := dk_42 (dk_at dksX5_sums_0 23 rfl rfl)
theorem dX5_sums_24 : decode cX5_sums 24 = .ok (.bipush 43, 2) := dk_16 43 (dk_at dksX5_sums_1 0 rfl rfl)
theorem dX5_sums_26 : decode cX5_sums 26 = .ok (.invokevirtual 166, 3) := dk_182 0 166 (dk_at dksX5_sums_1 2 rfl rfl)
theorem dX5_sums_29 : decode cX5_sums 29 = .ok (.istore_n 2, 1) := dk_61 (dk_at dksX5_sums_1 5 rfl rfl)
theorem dX5_sums_30 : decode cX5_sums 30 = .ok (.aload_n 0, 1) := dk_42 (dk_at dksX5_sums_1 6 rfl rfl)
theorem dX5_sums_31 : decode cX5_sums 31 = .ok (.dup, 1) := dk_89 (dk_at dksX5_sums_1 7 rfl rfl)
theorem dX5_sums_32 : decode cX5_sums 32 = .ok (.getfield 160, 3) := dk_180 0 160 (dk_at dksX5_sums_1 8 rfl rfl)
theorem dX5_sums_35 : decode cX5_sums 35 = .ok (.iconst 1, 1) := dk_4 (dk_at dksX5_sums_1 11 rfl rfl)
theorem dX5_sums_36 : decode cX5_sums 36 = .ok (.iadd, 1) := dk_96 (dk_at dksX5_sums_1 12 rfl rfl)
theorem dX5_sums_37 : decode cX5_sums 37 = .ok (.putfield 160, 3) := dk_181 0 160 (dk_at dksX5_sums_1 13 rfl rfl)
theorem dX5_sums_40 : decode cX5_sums 40 = .ok (.aload_n 0, 1) := dk_42 (dk_at dksX5_sums_1 16 rfl rfl)
theorem dX5_sums_41 : decode cX5_sums 41 = .ok (.iload_n 1, 1) := dk_27 (dk_at dksX5_sums_1 17 rfl rfl)
theorem dX5_sums_42 : decode cX5_sums 42 = .ok (.invokevirtual 261, 3) := dk_182 1 5 (dk_at dksX5_sums_1 18 rfl rfl)
theorem dX5_sums_45 : decode cX5_sums 45 = .ok (.aload_n 0, 1) := dk_42 (dk_at dksX5_sums_1 21 rfl rfl)
theorem dX5_sums_46 : decode cX5_sums 46 = .ok (.iload_n 2, 1) := dk_28 (dk_at dksX5_sums_1 22 rfl rfl)
theorem dX5_sums_47 : decode cX5_sums 47 = .ok (.ifCond .eq 7, 3) := dk_153 0 7 (dk_at dksX5_sums_2 0 rfl rfl)
theorem dX5_sums_50 : decode cX5_sums 50 = .ok (.iconst 4, 1) := dk_7 (dk_at dksX5_sums_2 3 rfl rfl)
theorem dX5_sums_51 : decode cX5_sums 51 = .ok (.goto 4, 3) := dk_167 0 4 (dk_at dksX5_sums_2 4 rfl rfl)
theorem dX5_sums_54 : decode cX5_sums 54 = .ok (.iconst 5, 1) := dk_8 (dk_at dksX5_sums_2 7 rfl rfl)
theorem dX5_sums_55 : decode cX5_sums 55 = .ok (.iconst 0, 1) := dk_3 (dk_at dksX5_sums_2 8 rfl rfl)
theorem dX5_sums_56 : decode cX5_sums 56 = .ok (.invokevirtual 248, 3) := dk_182 0 248 (dk_at dksX5_sums_2 9 rfl rfl)
theorem dX5_sums_59 : decode cX5_sums 59 = .ok (.goto (-54), 3) := dk_167 255 202 (dk_at dksX5_sums_2 12 rfl rfl)
theorem dX5_sums_62 : decode cX5_sums 62 = .ok (.return_, 1) := dk_177 (dk_at dksX5_sums_2 15 rfl rfl)
abbrev cX5_products : ByteArray := prog_23_method_37_code
def yX5_products : MethodName := ⟨RX5, "products", "(I)V"⟩
def dkwX5_products_1 : List UInt8 := [182, 0, 248, 167, 255, 235, 177]
abbrev dktX5_products_1 : List UInt8 := dkwX5_products_1 ++ []
def dkwX5_products_0 : List UInt8 := [42, 27, 182, 1, 8, 42, 16, 42, 182, 1, 2, 153, 0, 18, 42, 27, 182, 1, 8, 42, 16, 6, 3]
abbrev dktX5_products_0 : List UInt8 := dkwX5_products_0 ++ dktX5_products_1
theorem dksX5_products_0 : cX5_products.data.toList.drop 0 = dktX5_products_0 := by decide +kernel
theorem dksX5_products_1 : cX5_products.data.toList.drop 23 = dktX5_products_1 := dk_seg dksX5_products_0 23 rfl rfl
theorem dX5_products_0 : decode cX5_products 0 = .ok (.aload_n 0, 1) := dk_42 (dk_at dksX5_products_0 0 rfl rfl)
theorem dX5_products_1 : decode cX5_products 1 = .ok (.iload_n 1, 1) := dk_27 (dk_at dksX5_products_0 1 rfl rfl)
theorem dX5_products_2 : decode cX5_products 2 = .ok (.invokevirtual 264, 3) := dk_182 1 8 (dk_at dksX5_products_0 2 rfl rfl)
theorem dX5_products_5 : decode cX5_products 5 = .ok (.aload_n 0, 1) := dk_42 (dk_at dksX5_products_0 5 rfl rfl)
theorem dX5_products_6 : decode cX5_products 6 = .ok (.bipush 42, 2) := dk_16 42 (dk_at dksX5_products_0 6 rfl rfl)
theorem dX5_products_8 : decode cX5_products 8 = .ok (.invokevirtual 258, 3) := dk_182 1 2 (dk_at dksX5_products_0 8 rfl rfl)
theorem dX5_products_11 : decode cX5_products 11 = .ok (.ifCond .eq 18, 3) := dk_153 0 18 (dk_at dksX5_products_0 11 rfl rfl)
theorem dX5_products_14 : decode cX5_products 14 = .ok (.aload_n 0, 1) := dk_42 (dk_at dksX5_products_0 14 rfl rfl)
theorem dX5_products_15 : decode cX5_products 15 = .ok (.iload_n 1, 1) := dk_27 (dk_at dksX5_products_0 15 rfl rfl)
theorem dX5_products_16 : decode cX5_products 16 = .ok (.invokevirtual 264, 3) := dk_182 1 8 (dk_at dksX5_products_0 16 rfl rfl)
theorem dX5_products_19 : decode cX5_products 19 = .ok (.aload_n 0, 1) := dk_42 (dk_at dksX5_products_0 19 rfl rfl)
theorem dX5_products_20 : decode cX5_products 20 = .ok (.bipush 6, 2) := dk_16 6 (dk_at dksX5_products_0 20 rfl rfl)
theorem dX5_products_22 : decode cX5_products 22 = .ok (.iconst 0, 1) := dk_3 (dk_at dksX5_products_0 22 rfl rfl)
theorem dX5_products_23 : decode cX5_products 23 = .ok (.invokevirtual 248, 3) := dk_182 0 248 (dk_at dksX5_products_1 0 rfl rfl)
theorem dX5_products_26 : decode cX5_products 26 = .ok (.goto (-21), 3) := dk_167 255 235 (dk_at dksX5_products_1 3 rfl rfl)
theorem dX5_products_29 : decode cX5_products 29 = .ok (.return_, 1) := dk_177 (dk_at dksX5_products_1 6 rfl rfl)
abbrev cX5_takePart : ByteArray := prog_23_method_38_code
def yX5_takePart : MethodName := ⟨RX5, "takePart", "(I)V"⟩
def dkwX5_takePart_7 : List UInt8 := [167, 0, 4, 29, 182, 0, 248, 42, 89, 180, 0, 160, 4, 96, 181, 0, 160, 177]
abbrev dktX5_takePart_7 : List UInt8 := dkwX5_takePart_7 ++ []
def dkwX5_takePart_6 : List UInt8 := [153, 0, 7, 4, 167, 0, 4, 5, 28, 153, 0, 16, 42, 180, 0, 30, 42, 180, 0, 160, 47, 136]
abbrev dktX5_takePart_6 : List UInt8 := dkwX5_takePart_6 ++ dktX5_takePart_7
def dkwX5_takePart_5 : List UInt8 := [182, 1, 2, 153, 0, 19, 42, 27, 4, 96, 182, 0, 245, 42, 16, 41, 182, 0, 218, 167, 0, 44, 42, 28]
abbrev dktX5_takePart_5 : List UInt8 := dkwX5_takePart_5 ++ dktX5_takePart_6
def dkwX5_takePart_4 : List UInt8 := [153, 0, 19, 42, 27, 4, 96, 182, 1, 8, 42, 6, 3, 182, 0, 248, 167, 0, 69, 42, 16, 40]
abbrev dktX5_takePart_4 : List UInt8 := dkwX5_takePart_4 ++ dktX5_takePart_5
def dkwX5_takePart_3 : List UInt8 := [8, 160, 0, 8, 42, 8, 182, 0, 169, 42, 180, 0, 163, 158, 0, 4, 177, 42, 16, 18, 182, 0, 175]
abbrev dktX5_takePart_3 : List UInt8 := dkwX5_takePart_3 ++ dktX5_takePart_4
def dkwX5_takePart_2 : List UInt8 := [182, 0, 166, 154, 0, 20, 42, 16, 18, 182, 0, 172, 154, 0, 11, 42, 4, 182, 0, 169, 167, 0, 13, 27]
abbrev dktX5_takePart_2 : List UInt8 := dkwX5_takePart_2 ++ dktX5_takePart_3
def dkwX5_takePart_1 : List UInt8 := [167, 0, 4, 3, 61, 42, 16, 21, 7, 182, 0, 185, 62, 29, 156, 0, 33, 28, 154, 0, 29, 42, 16, 40]
abbrev dktX5_takePart_1 : List UInt8 := dkwX5_takePart_1 ++ dktX5_takePart_2
def dkwX5_takePart_0 : List UInt8 := [42, 180, 0, 163, 158, 0, 4, 177, 42, 180, 0, 24, 42, 180, 0, 160, 46, 5, 160, 0, 7, 4]
abbrev dktX5_takePart_0 : List UInt8 := dkwX5_takePart_0 ++ dktX5_takePart_1
theorem dksX5_takePart_0 : cX5_takePart.data.toList.drop 0 = dktX5_takePart_0 := by decide +kernel
theorem dksX5_takePart_1 : cX5_takePart.data.toList.drop 22 = dktX5_takePart_1 := dk_seg dksX5_takePart_0 22 rfl rfl
theorem dksX5_takePart_2 : cX5_takePart.data.toList.drop 46 = dktX5_takePart_2 := dk_seg dksX5_takePart_1 24 rfl rfl
theorem dksX5_takePart_3 : cX5_takePart.data.toList.drop 70 = dktX5_takePart_3 := dk_seg dksX5_takePart_2 24 rfl rfl
theorem dksX5_takePart_4 : cX5_takePart.data.toList.drop 93 = dktX5_takePart_4 := dk_seg dksX5_takePart_3 23 rfl rfl
theorem dksX5_takePart_5 : cX5_takePart.data.toList.drop 115 = dktX5_takePart_5 := dk_seg dksX5_takePart_4 22 rfl rfl
theorem dksX5_takePart_6 : cX5_takePart.data.toList.drop 139 = dktX5_takePart_6 := dk_seg dksX5_takePart_5 24 rfl rfl
theorem dksX5_takePart_7 : cX5_takePart.data.toList.drop 161 = dktX5_takePart_7 := dk_seg dksX5_takePart_6 22 rfl rfl
theorem dX5_takePart_0 : decode cX5_takePart 0 = .ok (.aload_n 0, 1) := dk_42 (dk_at dksX5_takePart_0 0 rfl rfl)
theorem dX5_takePart_1 : decode cX5_takePart 1 = .ok (.getfield 163, 3) := dk_180 0 163 (dk_at dksX5_takePart_0 1 rfl rfl)
theorem dX5_takePart_4 : decode cX5_takePart 4 = .ok (.ifCond .le 4, 3) := dk_158 0 4 (dk_at dksX5_takePart_0 4 rfl rfl)
theorem dX5_takePart_7 : decode cX5_takePart 7 = .ok (.return_, 1) := dk_177 (dk_at dksX5_takePart_0 7 rfl rfl)
theorem dX5_takePart_8 : decode cX5_takePart 8 = .ok (.aload_n 0, 1) := dk_42 (dk_at dksX5_takePart_0 8 rfl rfl)
theorem dX5_takePart_9 : decode cX5_takePart 9 = .ok (.getfield 24, 3) := dk_180 0 24 (dk_at dksX5_takePart_0 9 rfl rfl)
theorem dX5_takePart_12 : decode cX5_takePart 12 = .ok (.aload_n 0, 1) := dk_42 (dk_at dksX5_takePart_0 12 rfl rfl)
theorem dX5_takePart_13 : decode cX5_takePart 13 = .ok (.getfield 160, 3) := dk_180 0 160 (dk_at dksX5_takePart_0 13 rfl rfl)
theorem dX5_takePart_16 : decode cX5_takePart 16 = .ok (.iaload, 1) := dk_46 (dk_at dksX5_takePart_0 16 rfl rfl)
theorem dX5_takePart_17 : decode cX5_takePart 17 = .ok (.iconst 2, 1) := dk_5 (dk_at dksX5_takePart_0 17 rfl rfl)
theorem dX5_takePart_18 : decode cX5_takePart 18 = .ok (.if_icmp .ne 7, 3) := dk_160 0 7 (dk_at dksX5_takePart_0 18 rfl rfl)
theorem dX5_takePart_21 : decode cX5_takePart 21 = .ok (.iconst 1, 1) := dk_4 (dk_at dksX5_takePart_0 21 rfl rfl)
theorem dX5_takePart_22 : decode cX5_takePart 22 = .ok (.goto 4, 3) := dk_167 0 4 (dk_at dksX5_takePart_1 0 rfl rfl)
theorem dX5_takePart_25 : decode cX5_takePart 25 = .ok (.iconst 0, 1) := dk_3 (dk_at dksX5_takePart_1 3 rfl rfl)
theorem dX5_takePart_26 : decode cX5_takePart 26 = .ok (.istore_n 2, 1) := dk_61 (dk_at dksX5_takePart_1 4 rfl rfl)
theorem dX5_takePart_27 : decode cX5_takePart 27 = .ok (.aload_n 0, 1) := dk_42 (dk_at dksX5_takePart_1 5 rfl rfl)
theorem dX5_takePart_28 : decode cX5_takePart 28 = .ok (.bipush 21, 2) := dk_16 21 (dk_at dksX5_takePart_1 6 rfl rfl)
theorem dX5_takePart_30 : decode cX5_takePart 30 = .ok (.iconst 4, 1) := dk_7 (dk_at dksX5_takePart_1 8 rfl rfl)
theorem dX5_takePart_31 : decode cX5_takePart 31 = .ok (.invokevirtual 185, 3) := dk_182 0 185 (dk_at dksX5_takePart_1 9 rfl rfl)
theorem dX5_takePart_34 : decode cX5_takePart 34 = .ok (.istore_n 3, 1) := dk_62 (dk_at dksX5_takePart_1 12 rfl rfl)
theorem dX5_takePart_35 : decode cX5_takePart 35 = .ok (.iload_n 3, 1) := dk_29 (dk_at dksX5_takePart_1 13 rfl rfl)
theorem dX5_takePart_36 : decode cX5_takePart 36 = .ok (.ifCond .ge 33, 3) := dk_156 0 33 (dk_at dksX5_takePart_1 14 rfl rfl)
theorem dX5_takePart_39 : decode cX5_takePart 39 = .ok (.iload_n 2, 1) := dk_28 (dk_at dksX5_takePart_1 17 rfl rfl)
theorem dX5_takePart_40 : decode cX5_takePart 40 = .ok (.ifCond .ne 29, 3) := dk_154 0 29 (dk_at dksX5_takePart_1 18 rfl rfl)
theorem dX5_takePart_43 : decode cX5_takePart 43 = .ok (.aload_n 0, 1) := dk_42 (dk_at dksX5_takePart_1 21 rfl rfl)
theorem dX5_takePart_44 : decode cX5_takePart 44 = .ok (.bipush 40, 2) := dk_16 40 (dk_at dksX5_takePart_1 22 rfl rfl)
theorem dX5_takePart_46 : decode cX5_takePart 46 = .ok (.invokevirtual 166, 3) := dk_182 0 166 (dk_at dksX5_takePart_2 0 rfl rfl)
theorem dX5_takePart_49 : decode cX5_takePart 49 = .ok (.ifCond .ne 20, 3) := dk_154 0 20 (dk_at dksX5_takePart_2 3 rfl rfl)
theorem dX5_takePart_52 : decode cX5_takePart 52 = .ok (.aload_n 0, 1) := dk_42 (dk_at dksX5_takePart_2 6 rfl rfl)
theorem dX5_takePart_53 : decode cX5_takePart 53 = .ok (.bipush 18, 2) := dk_16 18 (dk_at dksX5_takePart_2 7 rfl rfl)
theorem dX5_takePart_55 : decode cX5_takePart 55 = .ok (.invokevirtual 172, 3) := dk_182 0 172 (dk_at dksX5_takePart_2 9 rfl rfl)
theorem dX5_takePart_58 : decode cX5_takePart 58 = .ok (.ifCond .ne 11, 3) := dk_154 0 11 (dk_at dksX5_takePart_2 12 rfl rfl)
theorem dX5_takePart_61 : decode cX5_takePart 61 = .ok (.aload_n 0, 1) := dk_42 (dk_at dksX5_takePart_2 15 rfl rfl)
theorem dX5_takePart_62 : decode cX5_takePart 62 = .ok (.iconst 1, 1) := dk_4 (dk_at dksX5_takePart_2 16 rfl rfl)
theorem dX5_takePart_63 : decode cX5_takePart 63 = .ok (.invokevirtual 169, 3) := dk_182 0 169 (dk_at dksX5_takePart_2 17 rfl rfl)
theorem dX5_takePart_66 : decode cX5_takePart 66 = .ok (.goto 13, 3) := dk_167 0 13 (dk_at dksX5_takePart_2 20 rfl rfl)
theorem dX5_takePart_69 : decode cX5_takePart 69 = .ok (.iload_n 1, 1) := dk_27 (dk_at dksX5_takePart_2 23 rfl rfl)
theorem dX5_takePart_70 : decode cX5_takePart 70 = .ok (.iconst 5, 1) := dk_8 (dk_at dksX5_takePart_3 0 rfl rfl)
theorem dX5_takePart_71 : decode cX5_takePart 71 = .ok (.if_icmp .ne 8, 3) := dk_160 0 8 (dk_at dksX5_takePart_3 1 rfl rfl)
theorem dX5_takePart_74 : decode cX5_takePart 74 = .ok (.aload_n 0, 1) := dk_42 (dk_at dksX5_takePart_3 4 rfl rfl)
theorem dX5_takePart_75 : decode cX5_takePart 75 = .ok (.iconst 5, 1) := dk_8 (dk_at dksX5_takePart_3 5 rfl rfl)
theorem dX5_takePart_76 : decode cX5_takePart 76 = .ok (.invokevirtual 169, 3) := dk_182 0 169 (dk_at dksX5_takePart_3 6 rfl rfl)
theorem dX5_takePart_79 : decode cX5_takePart 79 = .ok (.aload_n 0, 1) := dk_42 (dk_at dksX5_takePart_3 9 rfl rfl)
theorem dX5_takePart_80 : decode cX5_takePart 80 = .ok (.getfield 163, 3) := dk_180 0 163 (dk_at dksX5_takePart_3 10 rfl rfl)
theorem dX5_takePart_83 : decode cX5_takePart 83 = .ok (.ifCond .le 4, 3) := dk_158 0 4 (dk_at dksX5_takePart_3 13 rfl rfl)
theorem dX5_takePart_86 : decode cX5_takePart 86 = .ok (.return_, 1) := dk_177 (dk_at dksX5_takePart_3 16 rfl rfl)
theorem dX5_takePart_87 : decode cX5_takePart 87 = .ok (.aload_n 0, 1) := dk_42 (dk_at dksX5_takePart_3 17 rfl rfl)
theorem dX5_takePart_88 : decode cX5_takePart 88 = .ok (.bipush 18, 2) := dk_16 18 (dk_at dksX5_takePart_3 18 rfl rfl)
theorem dX5_takePart_90 : decode cX5_takePart 90 = .ok (.invokevirtual 175, 3) := dk_182 0 175 (dk_at dksX5_takePart_3 20 rfl rfl)
theorem dX5_takePart_93 : decode cX5_takePart 93 = .ok (.ifCond .eq 19, 3) := dk_153 0 19 (dk_at dksX5_takePart_4 0 rfl rfl)
theorem dX5_takePart_96 : decode cX5_takePart 96 = .ok (.aload_n 0, 1) := dk_42 (dk_at dksX5_takePart_4 3 rfl rfl)
theorem dX5_takePart_97 : decode cX5_takePart 97 = .ok (.iload_n 1, 1) := dk_27 (dk_at dksX5_takePart_4 4 rfl rfl)
theorem dX5_takePart_98 : decode cX5_takePart 98 = .ok (.iconst 1, 1) := dk_4 (dk_at dksX5_takePart_4 5 rfl rfl)
theorem dX5_takePart_99 : decode cX5_takePart 99 = .ok (.iadd, 1) := dk_96 (dk_at dksX5_takePart_4 6 rfl rfl)
theorem dX5_takePart_100 : decode cX5_takePart 100 = .ok (.invokevirtual 264, 3) := dk_182 1 8 (dk_at dksX5_takePart_4 7 rfl rfl)
theorem dX5_takePart_103 : decode cX5_takePart 103 = .ok (.aload_n 0, 1) := dk_42 (dk_at dksX5_takePart_4 10 rfl rfl)
theorem dX5_takePart_104 : decode cX5_takePart 104 = .ok (.iconst 3, 1) := dk_6 (dk_at dksX5_takePart_4 11 rfl rfl)
theorem dX5_takePart_105 : decode cX5_takePart 105 = .ok (.iconst 0, 1) := dk_3 (dk_at dksX5_takePart_4 12 rfl rfl)
theorem dX5_takePart_106 : decode cX5_takePart 106 = .ok (.invokevirtual 248, 3) := dk_182 0 248 (dk_at dksX5_takePart_4 13 rfl rfl)
theorem dX5_takePart_109 : decode cX5_takePart 109 = .ok (.goto 69, 3) := dk_167 0 69 (dk_at dksX5_takePart_4 16 rfl rfl)
theorem dX5_takePart_112 : decode cX5_takePart 112 = .ok (.aload_n 0, 1) := dk_42 (dk_at dksX5_takePart_4 19 rfl rfl)
theorem dX5_takePart_113 : decode cX5_takePart 113 = .ok (.bipush 40, 2) := dk_16 40 (dk_at dksX5_takePart_4 20 rfl rfl)
theorem dX5_takePart_115 : decode cX5_takePart 115 = .ok (.invokevirtual 258, 3) := dk_182 1 2 (dk_at dksX5_takePart_5 0 rfl rfl)
theorem dX5_takePart_118 : decode cX5_takePart 118 = .ok (.ifCond .eq 19, 3) := dk_153 0 19 (dk_at dksX5_takePart_5 3 rfl rfl)
theorem dX5_takePart_121 : decode cX5_takePart 121 = .ok (.aload_n 0, 1) := dk_42 (dk_at dksX5_takePart_5 6 rfl rfl)
theorem dX5_takePart_122 : decode cX5_takePart 122 = .ok (.iload_n 1, 1) := dk_27 (dk_at dksX5_takePart_5 7 rfl rfl)
theorem dX5_takePart_123 : decode cX5_takePart 123 = .ok (.iconst 1, 1) := dk_4 (dk_at dksX5_takePart_5 8 rfl rfl)
theorem dX5_takePart_124 : decode cX5_takePart 124 = .ok (.iadd, 1) := dk_96 (dk_at dksX5_takePart_5 9 rfl rfl)
theorem dX5_takePart_125 : decode cX5_takePart 125 = .ok (.invokevirtual 245, 3) := dk_182 0 245 (dk_at dksX5_takePart_5 10 rfl rfl)
theorem dX5_takePart_128 : decode cX5_takePart 128 = .ok (.aload_n 0, 1) := dk_42 (dk_at dksX5_takePart_5 13 rfl rfl)
theorem dX5_takePart_129 : decode cX5_takePart 129 = .ok (.bipush 41, 2) := dk_16 41 (dk_at dksX5_takePart_5 14 rfl rfl)
theorem dX5_takePart_131 : decode cX5_takePart 131 = .ok (.invokevirtual 218, 3) := dk_182 0 218 (dk_at dksX5_takePart_5 16 rfl rfl)
theorem dX5_takePart_134 : decode cX5_takePart 134 = .ok (.goto 44, 3) := dk_167 0 44 (dk_at dksX5_takePart_5 19 rfl rfl)
theorem dX5_takePart_137 : decode cX5_takePart 137 = .ok (.aload_n 0, 1) := dk_42 (dk_at dksX5_takePart_5 22 rfl rfl)
theorem dX5_takePart_138 : decode cX5_takePart 138 = .ok (.iload_n 2, 1) := dk_28 (dk_at dksX5_takePart_5 23 rfl rfl)
theorem dX5_takePart_139 : decode cX5_takePart 139 = .ok (.ifCond .eq 7, 3) := dk_153 0 7 (dk_at dksX5_takePart_6 0 rfl rfl)
theorem dX5_takePart_142 : decode cX5_takePart 142 = .ok (.iconst 1, 1) := dk_4 (dk_at dksX5_takePart_6 3 rfl rfl)
theorem dX5_takePart_143 : decode cX5_takePart 143 = .ok (.goto 4, 3) := dk_167 0 4 (dk_at dksX5_takePart_6 4 rfl rfl)
theorem dX5_takePart_146 : decode cX5_takePart 146 = .ok (.iconst 2, 1) := dk_5 (dk_at dksX5_takePart_6 7 rfl rfl)
theorem dX5_takePart_147 : decode cX5_takePart 147 = .ok (.iload_n 2, 1) := dk_28 (dk_at dksX5_takePart_6 8 rfl rfl)
theorem dX5_takePart_148 : decode cX5_takePart 148 = .ok (.ifCond .eq 16, 3) := dk_153 0 16 (dk_at dksX5_takePart_6 9 rfl rfl)
theorem dX5_takePart_151 : decode cX5_takePart 151 = .ok (.aload_n 0, 1) := dk_42 (dk_at dksX5_takePart_6 12 rfl rfl)
theorem dX5_takePart_152 : decode cX5_takePart 152 = .ok (.getfield 30, 3) := dk_180 0 30 (dk_at dksX5_takePart_6 13 rfl rfl)
theorem dX5_takePart_155 : decode cX5_takePart 155 = .ok (.aload_n 0, 1) := dk_42 (dk_at dksX5_takePart_6 16 rfl rfl)
theorem dX5_takePart_156 : decode cX5_takePart 156 = .ok (.getfield 160, 3) := dk_180 0 160 (dk_at dksX5_takePart_6 17 rfl rfl)
theorem dX5_takePart_159 : decode cX5_takePart 159 = .ok (.laload, 1) := dk_47 (dk_at dksX5_takePart_6 20 rfl rfl)
theorem dX5_takePart_160 : decode cX5_takePart 160 = .ok (.l2i, 1) := dk_136 (dk_at dksX5_takePart_6 21 rfl rfl)
theorem dX5_takePart_161 : decode cX5_takePart 161 = .ok (.goto 4, 3) := dk_167 0 4 (dk_at dksX5_takePart_7 0 rfl rfl)
theorem dX5_takePart_164 : decode cX5_takePart 164 = .ok (.iload_n 3, 1) := dk_29 (dk_at dksX5_takePart_7 3 rfl rfl)
theorem dX5_takePart_165 : decode cX5_takePart 165 = .ok (.invokevirtual 248, 3) := dk_182 0 248 (dk_at dksX5_takePart_7 4 rfl rfl)
theorem dX5_takePart_168 : decode cX5_takePart 168 = .ok (.aload_n 0, 1) := dk_42 (dk_at dksX5_takePart_7 7 rfl rfl)
theorem dX5_takePart_169 : decode cX5_takePart 169 = .ok (.dup, 1) := dk_89 (dk_at dksX5_takePart_7 8 rfl rfl)
theorem dX5_takePart_170 : decode cX5_takePart 170 = .ok (.getfield 160, 3) := dk_180 0 160 (dk_at dksX5_takePart_7 9 rfl rfl)
theorem dX5_takePart_173 : decode cX5_takePart 173 = .ok (.iconst 1, 1) := dk_4 (dk_at dksX5_takePart_7 12 rfl rfl)
theorem dX5_takePart_174 : decode cX5_takePart 174 = .ok (.iadd, 1) := dk_96 (dk_at dksX5_takePart_7 13 rfl rfl)
theorem dX5_takePart_175 : decode cX5_takePart 175 = .ok (.putfield 160, 3) := dk_181 0 160 (dk_at dksX5_takePart_7 14 rfl rfl)
theorem dX5_takePart_178 : decode cX5_takePart 178 = .ok (.return_, 1) := dk_177 (dk_at dksX5_takePart_7 17 rfl rfl)
abbrev cX5_isSign : ByteArray := prog_23_method_11_code
def yX5_isSign : MethodName := ⟨RX5, "isSign", "(I)Z"⟩
def dkwX5_isSign_1 : List UInt8 := [42, 180, 0, 160, 47, 27, 133, 148, 154, 0, 7, 4, 167, 0, 4, 3, 172]
abbrev dktX5_isSign_1 : List UInt8 := dkwX5_isSign_1 ++ []
def dkwX5_isSign_0 : List UInt8 := [42, 180, 0, 163, 154, 0, 35, 42, 180, 0, 24, 42, 180, 0, 160, 46, 6, 160, 0, 22, 42, 180, 0, 30]
abbrev dktX5_isSign_0 : List UInt8 := dkwX5_isSign_0 ++ dktX5_isSign_1
theorem dksX5_isSign_0 : cX5_isSign.data.toList.drop 0 = dktX5_isSign_0 := by decide +kernel
theorem dksX5_isSign_1 : cX5_isSign.data.toList.drop 24 = dktX5_isSign_1 := dk_seg dksX5_isSign_0 24 rfl rfl
theorem dX5_isSign_0 : decode cX5_isSign 0 = .ok (.aload_n 0, 1) := dk_42 (dk_at dksX5_isSign_0 0 rfl rfl)
theorem dX5_isSign_1 : decode cX5_isSign 1 = .ok (.getfield 163, 3) := dk_180 0 163 (dk_at dksX5_isSign_0 1 rfl rfl)
theorem dX5_isSign_4 : decode cX5_isSign 4 = .ok (.ifCond .ne 35, 3) := dk_154 0 35 (dk_at dksX5_isSign_0 4 rfl rfl)
theorem dX5_isSign_7 : decode cX5_isSign 7 = .ok (.aload_n 0, 1) := dk_42 (dk_at dksX5_isSign_0 7 rfl rfl)
theorem dX5_isSign_8 : decode cX5_isSign 8 = .ok (.getfield 24, 3) := dk_180 0 24 (dk_at dksX5_isSign_0 8 rfl rfl)
theorem dX5_isSign_11 : decode cX5_isSign 11 = .ok (.aload_n 0, 1) := dk_42 (dk_at dksX5_isSign_0 11 rfl rfl)
theorem dX5_isSign_12 : decode cX5_isSign 12 = .ok (.getfield 160, 3) := dk_180 0 160 (dk_at dksX5_isSign_0 12 rfl rfl)
theorem dX5_isSign_15 : decode cX5_isSign 15 = .ok (.iaload, 1) := dk_46 (dk_at dksX5_isSign_0 15 rfl rfl)
theorem dX5_isSign_16 : decode cX5_isSign 16 = .ok (.iconst 3, 1) := dk_6 (dk_at dksX5_isSign_0 16 rfl rfl)
theorem dX5_isSign_17 : decode cX5_isSign 17 = .ok (.if_icmp .ne 22, 3) := dk_160 0 22 (dk_at dksX5_isSign_0 17 rfl rfl)
theorem dX5_isSign_20 : decode cX5_isSign 20 = .ok (.aload_n 0, 1) := dk_42 (dk_at dksX5_isSign_0 20 rfl rfl)
theorem dX5_isSign_21 : decode cX5_isSign 21 = .ok (.getfield 30, 3) := dk_180 0 30 (dk_at dksX5_isSign_0 21 rfl rfl)
theorem dX5_isSign_24 : decode cX5_isSign 24 = .ok (.aload_n 0, 1) := dk_42 (dk_at dksX5_isSign_1 0 rfl rfl)
theorem dX5_isSign_25 : decode cX5_isSign 25 = .ok (.getfield 160, 3) := dk_180 0 160 (dk_at dksX5_isSign_1 1 rfl rfl)
theorem dX5_isSign_28 : decode cX5_isSign 28 = .ok (.laload, 1) := dk_47 (dk_at dksX5_isSign_1 4 rfl rfl)
theorem dX5_isSign_29 : decode cX5_isSign 29 = .ok (.iload_n 1, 1) := dk_27 (dk_at dksX5_isSign_1 5 rfl rfl)
theorem dX5_isSign_30 : decode cX5_isSign 30 = .ok (.i2l, 1) := dk_133 (dk_at dksX5_isSign_1 6 rfl rfl)
theorem dX5_isSign_31 : decode cX5_isSign 31 = .ok (.lcmp, 1) := dk_148 (dk_at dksX5_isSign_1 7 rfl rfl)
theorem dX5_isSign_32 : decode cX5_isSign 32 = .ok (.ifCond .ne 7, 3) := dk_154 0 7 (dk_at dksX5_isSign_1 8 rfl rfl)
theorem dX5_isSign_35 : decode cX5_isSign 35 = .ok (.iconst 1, 1) := dk_4 (dk_at dksX5_isSign_1 11 rfl rfl)
theorem dX5_isSign_36 : decode cX5_isSign 36 = .ok (.goto 4, 3) := dk_167 0 4 (dk_at dksX5_isSign_1 12 rfl rfl)
theorem dX5_isSign_39 : decode cX5_isSign 39 = .ok (.iconst 0, 1) := dk_3 (dk_at dksX5_isSign_1 15 rfl rfl)
theorem dX5_isSign_40 : decode cX5_isSign 40 = .ok (.ireturn, 1) := dk_172 (dk_at dksX5_isSign_1 16 rfl rfl)
abbrev cX5_emit : ByteArray := prog_23_method_33_code
def yX5_emit : MethodName := ⟨RX5, "emit", "(II)V"⟩
def dkwX5_emit_1 : List UInt8 := [180, 0, 209, 96, 28, 79, 42, 89, 180, 0, 209, 4, 96, 181, 0, 209, 177]
abbrev dktX5_emit_1 : List UInt8 := dkwX5_emit_1 ++ []
def dkwX5_emit_0 : List UInt8 := [42, 180, 0, 90, 17, 4, 76, 42, 180, 0, 209, 96, 27, 79, 42, 180, 0, 93, 17, 4, 76, 42]
abbrev dktX5_emit_0 : List UInt8 := dkwX5_emit_0 ++ dktX5_emit_1
theorem dksX5_emit_0 : cX5_emit.data.toList.drop 0 = dktX5_emit_0 := by decide +kernel
theorem dksX5_emit_1 : cX5_emit.data.toList.drop 22 = dktX5_emit_1 := dk_seg dksX5_emit_0 22 rfl rfl
theorem dX5_emit_0 : decode cX5_emit 0 = .ok (.aload_n 0, 1) := dk_42 (dk_at dksX5_emit_0 0 rfl rfl)
theorem dX5_emit_1 : decode cX5_emit 1 = .ok (.getfield 90, 3) := dk_180 0 90 (dk_at dksX5_emit_0 1 rfl rfl)
theorem dX5_emit_4 : decode cX5_emit 4 = .ok (.sipush 1100, 3) := dk_17 4 76 (dk_at dksX5_emit_0 4 rfl rfl)
theorem dX5_emit_7 : decode cX5_emit 7 = .ok (.aload_n 0, 1) := dk_42 (dk_at dksX5_emit_0 7 rfl rfl)
theorem dX5_emit_8 : decode cX5_emit 8 = .ok (.getfield 209, 3) := dk_180 0 209 (dk_at dksX5_emit_0 8 rfl rfl)
theorem dX5_emit_11 : decode cX5_emit 11 = .ok (.iadd, 1) := dk_96 (dk_at dksX5_emit_0 11 rfl rfl)
theorem dX5_emit_12 : decode cX5_emit 12 = .ok (.iload_n 1, 1) := dk_27 (dk_at dksX5_emit_0 12 rfl rfl)
theorem dX5_emit_13 : decode cX5_emit 13 = .ok (.iastore, 1) := dk_79 (dk_at dksX5_emit_0 13 rfl rfl)
theorem dX5_emit_14 : decode cX5_emit 14 = .ok (.aload_n 0, 1) := dk_42 (dk_at dksX5_emit_0 14 rfl rfl)
theorem dX5_emit_15 : decode cX5_emit 15 = .ok (.getfield 93, 3) := dk_180 0 93 (dk_at dksX5_emit_0 15 rfl rfl)
theorem dX5_emit_18 : decode cX5_emit 18 = .ok (.sipush 1100, 3) := dk_17 4 76 (dk_at dksX5_emit_0 18 rfl rfl)
theorem dX5_emit_21 : decode cX5_emit 21 = .ok (.aload_n 0, 1) := dk_42 (dk_at dksX5_emit_0 21 rfl rfl)
theorem dX5_emit_22 : decode cX5_emit 22 = .ok (.getfield 209, 3) := dk_180 0 209 (dk_at dksX5_emit_1 0 rfl rfl)
theorem dX5_emit_25 : decode cX5_emit 25 = .ok (.iadd, 1) := dk_96 (dk_at dksX5_emit_1 3 rfl rfl)
theorem dX5_emit_26 : decode cX5_emit 26 = .ok (.iload_n 2, 1) := dk_28 (dk_at dksX5_emit_1 4 rfl rfl)
theorem dX5_emit_27 : decode cX5_emit 27 = .ok (.iastore, 1) := dk_79 (dk_at dksX5_emit_1 5 rfl rfl)
theorem dX5_emit_28 : decode cX5_emit 28 = .ok (.aload_n 0, 1) := dk_42 (dk_at dksX5_emit_1 6 rfl rfl)
theorem dX5_emit_29 : decode cX5_emit 29 = .ok (.dup, 1) := dk_89 (dk_at dksX5_emit_1 7 rfl rfl)
theorem dX5_emit_30 : decode cX5_emit 30 = .ok (.getfield 209, 3) := dk_180 0 209 (dk_at dksX5_emit_1 8 rfl rfl)
theorem dX5_emit_33 : decode cX5_emit 33 = .ok (.iconst 1, 1) := dk_4 (dk_at dksX5_emit_1 11 rfl rfl)
theorem dX5_emit_34 : decode cX5_emit 34 = .ok (.iadd, 1) := dk_96 (dk_at dksX5_emit_1 12 rfl rfl)
theorem dX5_emit_35 : decode cX5_emit 35 = .ok (.putfield 209, 3) := dk_181 0 209 (dk_at dksX5_emit_1 13 rfl rfl)
theorem dX5_emit_38 : decode cX5_emit 38 = .ok (.return_, 1) := dk_177 (dk_at dksX5_emit_1 16 rfl rfl)
abbrev cX5_hasSign : ByteArray := prog_23_method_14_code
def yX5_hasSign : MethodName := ⟨RX5, "hasSign", "(I)Z"⟩
def dkwX5_hasSign_1 : List UInt8 := [28, 172]
abbrev dktX5_hasSign_1 : List UInt8 := dkwX5_hasSign_1 ++ []
def dkwX5_hasSign_0 : List UInt8 := [42, 27, 182, 0, 166, 61, 42, 89, 180, 0, 160, 28, 153, 0, 7, 4, 167, 0, 4, 3, 96, 181, 0, 160]
abbrev dktX5_hasSign_0 : List UInt8 := dkwX5_hasSign_0 ++ dktX5_hasSign_1
theorem dksX5_hasSign_0 : cX5_hasSign.data.toList.drop 0 = dktX5_hasSign_0 := by decide +kernel
theorem dksX5_hasSign_1 : cX5_hasSign.data.toList.drop 24 = dktX5_hasSign_1 := dk_seg dksX5_hasSign_0 24 rfl rfl
theorem dX5_hasSign_0 : decode cX5_hasSign 0 = .ok (.aload_n 0, 1) := dk_42 (dk_at dksX5_hasSign_0 0 rfl rfl)
theorem dX5_hasSign_1 : decode cX5_hasSign 1 = .ok (.iload_n 1, 1) := dk_27 (dk_at dksX5_hasSign_0 1 rfl rfl)
theorem dX5_hasSign_2 : decode cX5_hasSign 2 = .ok (.invokevirtual 166, 3) := dk_182 0 166 (dk_at dksX5_hasSign_0 2 rfl rfl)
theorem dX5_hasSign_5 : decode cX5_hasSign 5 = .ok (.istore_n 2, 1) := dk_61 (dk_at dksX5_hasSign_0 5 rfl rfl)
theorem dX5_hasSign_6 : decode cX5_hasSign 6 = .ok (.aload_n 0, 1) := dk_42 (dk_at dksX5_hasSign_0 6 rfl rfl)
theorem dX5_hasSign_7 : decode cX5_hasSign 7 = .ok (.dup, 1) := dk_89 (dk_at dksX5_hasSign_0 7 rfl rfl)
theorem dX5_hasSign_8 : decode cX5_hasSign 8 = .ok (.getfield 160, 3) := dk_180 0 160 (dk_at dksX5_hasSign_0 8 rfl rfl)
theorem dX5_hasSign_11 : decode cX5_hasSign 11 = .ok (.iload_n 2, 1) := dk_28 (dk_at dksX5_hasSign_0 11 rfl rfl)
theorem dX5_hasSign_12 : decode cX5_hasSign 12 = .ok (.ifCond .eq 7, 3) := dk_153 0 7 (dk_at dksX5_hasSign_0 12 rfl rfl)
theorem dX5_hasSign_15 : decode cX5_hasSign 15 = .ok (.iconst 1, 1) := dk_4 (dk_at dksX5_hasSign_0 15 rfl rfl)
theorem dX5_hasSign_16 : decode cX5_hasSign 16 = .ok (.goto 4, 3) := dk_167 0 4 (dk_at dksX5_hasSign_0 16 rfl rfl)
theorem dX5_hasSign_19 : decode cX5_hasSign 19 = .ok (.iconst 0, 1) := dk_3 (dk_at dksX5_hasSign_0 19 rfl rfl)
theorem dX5_hasSign_20 : decode cX5_hasSign 20 = .ok (.iadd, 1) := dk_96 (dk_at dksX5_hasSign_0 20 rfl rfl)
theorem dX5_hasSign_21 : decode cX5_hasSign 21 = .ok (.putfield 160, 3) := dk_181 0 160 (dk_at dksX5_hasSign_0 21 rfl rfl)
theorem dX5_hasSign_24 : decode cX5_hasSign 24 = .ok (.iload_n 2, 1) := dk_28 (dk_at dksX5_hasSign_1 0 rfl rfl)
theorem dX5_hasSign_25 : decode cX5_hasSign 25 = .ok (.ireturn, 1) := dk_172 (dk_at dksX5_hasSign_1 1 rfl rfl)
abbrev cX5_takeSign : ByteArray := prog_23_method_13_code
def yX5_takeSign : MethodName := ⟨RX5, "takeSign", "(I)V"⟩
def dkwX5_takeSign_1 : List UInt8 := [182, 0, 169, 177]
abbrev dktX5_takeSign_1 : List UInt8 := dkwX5_takeSign_1 ++ []
def dkwX5_takeSign_0 : List UInt8 := [42, 27, 182, 0, 166, 153, 0, 16, 42, 89, 180, 0, 160, 4, 96, 181, 0, 160, 167, 0, 8, 42, 4]
abbrev dktX5_takeSign_0 : List UInt8 := dkwX5_takeSign_0 ++ dktX5_takeSign_1
theorem dksX5_takeSign_0 : cX5_takeSign.data.toList.drop 0 = dktX5_takeSign_0 := by decide +kernel
theorem dksX5_takeSign_1 : cX5_takeSign.data.toList.drop 23 = dktX5_takeSign_1 := dk_seg dksX5_takeSign_0 23 rfl rfl
theorem dX5_takeSign_0 : decode cX5_takeSign 0 = .ok (.aload_n 0, 1) := dk_42 (dk_at dksX5_takeSign_0 0 rfl rfl)
theorem dX5_takeSign_1 : decode cX5_takeSign 1 = .ok (.iload_n 1, 1) := dk_27 (dk_at dksX5_takeSign_0 1 rfl rfl)
theorem dX5_takeSign_2 : decode cX5_takeSign 2 = .ok (.invokevirtual 166, 3) := dk_182 0 166 (dk_at dksX5_takeSign_0 2 rfl rfl)
theorem dX5_takeSign_5 : decode cX5_takeSign 5 = .ok (.ifCond .eq 16, 3) := dk_153 0 16 (dk_at dksX5_takeSign_0 5 rfl rfl)
theorem dX5_takeSign_8 : decode cX5_takeSign 8 = .ok (.aload_n 0, 1) := dk_42 (dk_at dksX5_takeSign_0 8 rfl rfl)
theorem dX5_takeSign_9 : decode cX5_takeSign 9 = .ok (.dup, 1) := dk_89 (dk_at dksX5_takeSign_0 9 rfl rfl)
theorem dX5_takeSign_10 : decode cX5_takeSign 10 = .ok (.getfield 160, 3) := dk_180 0 160 (dk_at dksX5_takeSign_0 10 rfl rfl)
theorem dX5_takeSign_13 : decode cX5_takeSign 13 = .ok (.iconst 1, 1) := dk_4 (dk_at dksX5_takeSign_0 13 rfl rfl)
theorem dX5_takeSign_14 : decode cX5_takeSign 14 = .ok (.iadd, 1) := dk_96 (dk_at dksX5_takeSign_0 14 rfl rfl)
theorem dX5_takeSign_15 : decode cX5_takeSign 15 = .ok (.putfield 160, 3) := dk_181 0 160 (dk_at dksX5_takeSign_0 15 rfl rfl)
theorem dX5_takeSign_18 : decode cX5_takeSign 18 = .ok (.goto 8, 3) := dk_167 0 8 (dk_at dksX5_takeSign_0 18 rfl rfl)
theorem dX5_takeSign_21 : decode cX5_takeSign 21 = .ok (.aload_n 0, 1) := dk_42 (dk_at dksX5_takeSign_0 21 rfl rfl)
theorem dX5_takeSign_22 : decode cX5_takeSign 22 = .ok (.iconst 1, 1) := dk_4 (dk_at dksX5_takeSign_0 22 rfl rfl)
theorem dX5_takeSign_23 : decode cX5_takeSign 23 = .ok (.invokevirtual 169, 3) := dk_182 0 169 (dk_at dksX5_takeSign_1 0 rfl rfl)
theorem dX5_takeSign_26 : decode cX5_takeSign 26 = .ok (.return_, 1) := dk_177 (dk_at dksX5_takeSign_1 3 rfl rfl)
abbrev cX5_year : ByteArray := prog_23_method_32_code
def yX5_year : MethodName := ⟨RX5, "year", "()I"⟩
def dkwX5_year_8 : List UInt8 := [180, 0, 108, 4, 28, 96, 42, 180, 0, 108, 16, 125, 28, 96, 46, 79, 132, 2, 1, 167, 255, 229, 3, 172]
abbrev dktX5_year_8 : List UInt8 := dkwX5_year_8 ++ []
def dkwX5_year_7 : List UInt8 := [42, 180, 0, 163, 172, 42, 180, 0, 108, 3, 27, 79, 3, 61, 28, 6, 27, 104, 162, 0, 26, 42]
abbrev dktX5_year_7 : List UInt8 := dkwX5_year_7 ++ dktX5_year_8
def dkwX5_year_6 : List UInt8 := [167, 0, 4, 3, 79, 132, 1, 1, 42, 16, 59, 182, 0, 218, 167, 255, 113, 42, 180, 0, 163, 158, 0, 8]
abbrev dktX5_year_6 : List UInt8 := dkwX5_year_6 ++ dktX5_year_7
def dkwX5_year_5 : List UInt8 := [182, 0, 238, 79, 42, 180, 0, 108, 29, 5, 96, 28, 4, 160, 0, 13, 42, 3, 3, 3, 182, 0, 238]
abbrev dktX5_year_5 : List UInt8 := dkwX5_year_5 ++ dktX5_year_6
def dkwX5_year_4 : List UInt8 := [28, 154, 0, 7, 3, 167, 0, 20, 42, 3, 28, 6, 160, 0, 7, 3, 167, 0, 5, 16, 20, 3]
abbrev dktX5_year_4 : List UInt8 := dkwX5_year_4 ++ dktX5_year_5
def dkwX5_year_3 : List UInt8 := [181, 0, 160, 16, 125, 6, 27, 104, 96, 62, 42, 180, 0, 108, 29, 28, 79, 42, 180, 0, 108, 29, 4, 96]
abbrev dktX5_year_3 : List UInt8 := dkwX5_year_3 ++ dktX5_year_4
def dkwX5_year_2 : List UInt8 := [167, 0, 101, 27, 16, 40, 160, 0, 11, 42, 8, 182, 0, 169, 167, 0, 87, 42, 89, 180, 0, 160, 4, 96]
abbrev dktX5_year_2 : List UInt8 := dkwX5_year_2 ++ dktX5_year_3
def dkwX5_year_1 : List UInt8 := [180, 0, 160, 46, 153, 0, 130, 42, 16, 10, 7, 182, 0, 185, 61, 28, 156, 0, 11, 42, 4, 182, 0, 169]
abbrev dktX5_year_1 : List UInt8 := dkwX5_year_1 ++ dktX5_year_2
def dkwX5_year_0 : List UInt8 := [42, 3, 181, 0, 1, 42, 182, 0, 206, 3, 60, 42, 180, 0, 163, 154, 0, 142, 42, 180, 0, 24, 42]
abbrev dktX5_year_0 : List UInt8 := dkwX5_year_0 ++ dktX5_year_1
theorem dksX5_year_0 : cX5_year.data.toList.drop 0 = dktX5_year_0 := by decide +kernel
theorem dksX5_year_1 : cX5_year.data.toList.drop 23 = dktX5_year_1 := dk_seg dksX5_year_0 23 rfl rfl
theorem dksX5_year_2 : cX5_year.data.toList.drop 47 = dktX5_year_2 := dk_seg dksX5_year_1 24 rfl rfl
theorem dksX5_year_3 : cX5_year.data.toList.drop 71 = dktX5_year_3 := dk_seg dksX5_year_2 24 rfl rfl
theorem dksX5_year_4 : cX5_year.data.toList.drop 95 = dktX5_year_4 := dk_seg dksX5_year_3 24 rfl rfl
theorem dksX5_year_5 : cX5_year.data.toList.drop 117 = dktX5_year_5 := dk_seg dksX5_year_4 22 rfl rfl
theorem dksX5_year_6 : cX5_year.data.toList.drop 140 = dktX5_year_6 := dk_seg dksX5_year_5 23 rfl rfl
theorem dksX5_year_7 : cX5_year.data.toList.drop 164 = dktX5_year_7 := dk_seg dksX5_year_6 24 rfl rfl
theorem dksX5_year_8 : cX5_year.data.toList.drop 186 = dktX5_year_8 := dk_seg dksX5_year_7 22 rfl rfl
theorem dX5_year_0 : decode cX5_year 0 = .ok (.aload_n 0, 1) := dk_42 (dk_at dksX5_year_0 0 rfl rfl)
theorem dX5_year_1 : decode cX5_year 1 = .ok (.iconst 0, 1) := dk_3 (dk_at dksX5_year_0 1 rfl rfl)
theorem dX5_year_2 : decode cX5_year 2 = .ok (.putfield 1, 3) := dk_181 0 1 (dk_at dksX5_year_0 2 rfl rfl)
theorem dX5_year_5 : decode cX5_year 5 = .ok (.aload_n 0, 1) := dk_42 (dk_at dksX5_year_0 5 rfl rfl)
theorem dX5_year_6 : decode cX5_year 6 = .ok (.invokevirtual 206, 3) := dk_182 0 206 (dk_at dksX5_year_0 6 rfl rfl)
theorem dX5_year_9 : decode cX5_year 9 = .ok (.iconst 0, 1) := dk_3 (dk_at dksX5_year_0 9 rfl rfl)
theorem dX5_year_10 : decode cX5_year 10 = .ok (.istore_n 1, 1) := dk_60 (dk_at dksX5_year_0 10 rfl rfl)
theorem dX5_year_11 : decode cX5_year 11 = .ok (.aload_n 0, 1) := dk_42 (dk_at dksX5_year_0 11 rfl rfl)
theorem dX5_year_12 : decode cX5_year 12 = .ok (.getfield 163, 3) := dk_180 0 163 (dk_at dksX5_year_0 12 rfl rfl)
theorem dX5_year_15 : decode cX5_year 15 = .ok (.ifCond .ne 142, 3) := dk_154 0 142 (dk_at dksX5_year_0 15 rfl rfl)
theorem dX5_year_18 : decode cX5_year 18 = .ok (.aload_n 0, 1) := dk_42 (dk_at dksX5_year_0 18 rfl rfl)
theorem dX5_year_19 : decode cX5_year 19 = .ok (.getfield 24, 3) := dk_180 0 24 (dk_at dksX5_year_0 19 rfl rfl)
theorem dX5_year_22 : decode cX5_year 22 = .ok (.aload_n 0, 1) := dk_42 (dk_at dksX5_year_0 22 rfl rfl)
theorem dX5_year_23 : decode cX5_year 23 = .ok (.getfield 160, 3) := dk_180 0 160 (dk_at dksX5_year_1 0 rfl rfl)
theorem dX5_year_26 : decode cX5_year 26 = .ok (.iaload, 1) := dk_46 (dk_at dksX5_year_1 3 rfl rfl)
theorem dX5_year_27 : decode cX5_year 27 = .ok (.ifCond .eq 130, 3) := dk_153 0 130 (dk_at dksX5_year_1 4 rfl rfl)
theorem dX5_year_30 : decode cX5_year 30 = .ok (.aload_n 0, 1) := dk_42 (dk_at dksX5_year_1 7 rfl rfl)
theorem dX5_year_31 : decode cX5_year 31 = .ok (.bipush 10, 2) := dk_16 10 (dk_at dksX5_year_1 8 rfl rfl)
theorem dX5_year_33 : decode cX5_year 33 = .ok (.iconst 4, 1) := dk_7 (dk_at dksX5_year_1 10 rfl rfl)
theorem dX5_year_34 : decode cX5_year 34 = .ok (.invokevirtual 185, 3) := dk_182 0 185 (dk_at dksX5_year_1 11 rfl rfl)
theorem dX5_year_37 : decode cX5_year 37 = .ok (.istore_n 2, 1) := dk_61 (dk_at dksX5_year_1 14 rfl rfl)
theorem dX5_year_38 : decode cX5_year 38 = .ok (.iload_n 2, 1) := dk_28 (dk_at dksX5_year_1 15 rfl rfl)
theorem dX5_year_39 : decode cX5_year 39 = .ok (.ifCond .ge 11, 3) := dk_156 0 11 (dk_at dksX5_year_1 16 rfl rfl)
theorem dX5_year_42 : decode cX5_year 42 = .ok (.aload_n 0, 1) := dk_42 (dk_at dksX5_year_1 19 rfl rfl)
theorem dX5_year_43 : decode cX5_year 43 = .ok (.iconst 1, 1) := dk_4 (dk_at dksX5_year_1 20 rfl rfl)
theorem dX5_year_44 : decode cX5_year 44 = .ok (.invokevirtual 169, 3) := dk_182 0 169 (dk_at dksX5_year_1 21 rfl rfl)
theorem dX5_year_47 : decode cX5_year 47 = .ok (.goto 101, 3) := dk_167 0 101 (dk_at dksX5_year_2 0 rfl rfl)
theorem dX5_year_50 : decode cX5_year 50 = .ok (.iload_n 1, 1) := dk_27 (dk_at dksX5_year_2 3 rfl rfl)
theorem dX5_year_51 : decode cX5_year 51 = .ok (.bipush 40, 2) := dk_16 40 (dk_at dksX5_year_2 4 rfl rfl)
theorem dX5_year_53 : decode cX5_year 53 = .ok (.if_icmp .ne 11, 3) := dk_160 0 11 (dk_at dksX5_year_2 6 rfl rfl)
theorem dX5_year_56 : decode cX5_year 56 = .ok (.aload_n 0, 1) := dk_42 (dk_at dksX5_year_2 9 rfl rfl)
theorem dX5_year_57 : decode cX5_year 57 = .ok (.iconst 5, 1) := dk_8 (dk_at dksX5_year_2 10 rfl rfl)
theorem dX5_year_58 : decode cX5_year 58 = .ok (.invokevirtual 169, 3) := dk_182 0 169 (dk_at dksX5_year_2 11 rfl rfl)
theorem dX5_year_61 : decode cX5_year 61 = .ok (.goto 87, 3) := dk_167 0 87 (dk_at dksX5_year_2 14 rfl rfl)
theorem dX5_year_64 : decode cX5_year 64 = .ok (.aload_n 0, 1) := dk_42 (dk_at dksX5_year_2 17 rfl rfl)
theorem dX5_year_65 : decode cX5_year 65 = .ok (.dup, 1) := dk_89 (dk_at dksX5_year_2 18 rfl rfl)
theorem dX5_year_66 : decode cX5_year 66 = .ok (.getfield 160, 3) := dk_180 0 160 (dk_at dksX5_year_2 19 rfl rfl)
theorem dX5_year_69 : decode cX5_year 69 = .ok (.iconst 1, 1) := dk_4 (dk_at dksX5_year_2 22 rfl rfl)
theorem dX5_year_70 : decode cX5_year 70 = .ok (.iadd, 1) := dk_96 (dk_at dksX5_year_2 23 rfl rfl)
theorem dX5_year_71 : decode cX5_year 71 = .ok (.putfield 160, 3) := dk_181 0 160 (dk_at dksX5_year_3 0 rfl rfl)
theorem dX5_year_74 : decode cX5_year 74 = .ok (.bipush 125, 2) := dk_16 125 (dk_at dksX5_year_3 3 rfl rfl)
theorem dX5_year_76 : decode cX5_year 76 = .ok (.iconst 3, 1) := dk_6 (dk_at dksX5_year_3 5 rfl rfl)
theorem dX5_year_77 : decode cX5_year 77 = .ok (.iload_n 1, 1) := dk_27 (dk_at dksX5_year_3 6 rfl rfl)
theorem dX5_year_78 : decode cX5_year 78 = .ok (.imul, 1) := dk_104 (dk_at dksX5_year_3 7 rfl rfl)
theorem dX5_year_79 : decode cX5_year 79 = .ok (.iadd, 1) := dk_96 (dk_at dksX5_year_3 8 rfl rfl)
theorem dX5_year_80 : decode cX5_year 80 = .ok (.istore_n 3, 1) := dk_62 (dk_at dksX5_year_3 9 rfl rfl)
theorem dX5_year_81 : decode cX5_year 81 = .ok (.aload_n 0, 1) := dk_42 (dk_at dksX5_year_3 10 rfl rfl)
theorem dX5_year_82 : decode cX5_year 82 = .ok (.getfield 108, 3) := dk_180 0 108 (dk_at dksX5_year_3 11 rfl rfl)
theorem dX5_year_85 : decode cX5_year 85 = .ok (.iload_n 3, 1) := dk_29 (dk_at dksX5_year_3 14 rfl rfl)
theorem dX5_year_86 : decode cX5_year 86 = .ok (.iload_n 2, 1) := dk_28 (dk_at dksX5_year_3 15 rfl rfl)
theorem dX5_year_87 : decode cX5_year 87 = .ok (.iastore, 1) := dk_79 (dk_at dksX5_year_3 16 rfl rfl)
theorem dX5_year_88 : decode cX5_year 88 = .ok (.aload_n 0, 1) := dk_42 (dk_at dksX5_year_3 17 rfl rfl)
theorem dX5_year_89 : decode cX5_year 89 = .ok (.getfield 108, 3) := dk_180 0 108 (dk_at dksX5_year_3 18 rfl rfl)
theorem dX5_year_92 : decode cX5_year 92 = .ok (.iload_n 3, 1) := dk_29 (dk_at dksX5_year_3 21 rfl rfl)
theorem dX5_year_93 : decode cX5_year 93 = .ok (.iconst 1, 1) := dk_4 (dk_at dksX5_year_3 22 rfl rfl)
theorem dX5_year_94 : decode cX5_year 94 = .ok (.iadd, 1) := dk_96 (dk_at dksX5_year_3 23 rfl rfl)
theorem dX5_year_95 : decode cX5_year 95 = .ok (.iload_n 2, 1) := dk_28 (dk_at dksX5_year_4 0 rfl rfl)
theorem dX5_year_96 : decode cX5_year 96 = .ok (.ifCond .ne 7, 3) := dk_154 0 7 (dk_at dksX5_year_4 1 rfl rfl)
theorem dX5_year_99 : decode cX5_year 99 = .ok (.iconst 0, 1) := dk_3 (dk_at dksX5_year_4 4 rfl rfl)
theorem dX5_year_100 : decode cX5_year 100 = .ok (.goto 20, 3) := dk_167 0 20 (dk_at dksX5_year_4 5 rfl rfl)
theorem dX5_year_103 : decode cX5_year 103 = .ok (.aload_n 0, 1) := dk_42 (dk_at dksX5_year_4 8 rfl rfl)
theorem dX5_year_104 : decode cX5_year 104 = .ok (.iconst 0, 1) := dk_3 (dk_at dksX5_year_4 9 rfl rfl)
theorem dX5_year_105 : decode cX5_year 105 = .ok (.iload_n 2, 1) := dk_28 (dk_at dksX5_year_4 10 rfl rfl)
theorem dX5_year_106 : decode cX5_year 106 = .ok (.iconst 3, 1) := dk_6 (dk_at dksX5_year_4 11 rfl rfl)
theorem dX5_year_107 : decode cX5_year 107 = .ok (.if_icmp .ne 7, 3) := dk_160 0 7 (dk_at dksX5_year_4 12 rfl rfl)
theorem dX5_year_110 : decode cX5_year 110 = .ok (.iconst 0, 1) := dk_3 (dk_at dksX5_year_4 15 rfl rfl)
theorem dX5_year_111 : decode cX5_year 111 = .ok (.goto 5, 3) := dk_167 0 5 (dk_at dksX5_year_4 16 rfl rfl)
theorem dX5_year_114 : decode cX5_year 114 = .ok (.bipush 20, 2) := dk_16 20 (dk_at dksX5_year_4 19 rfl rfl)
theorem dX5_year_116 : decode cX5_year 116 = .ok (.iconst 0, 1) := dk_3 (dk_at dksX5_year_4 21 rfl rfl)
theorem dX5_year_117 : decode cX5_year 117 = .ok (.invokevirtual 238, 3) := dk_182 0 238 (dk_at dksX5_year_5 0 rfl rfl)
theorem dX5_year_120 : decode cX5_year 120 = .ok (.iastore, 1) := dk_79 (dk_at dksX5_year_5 3 rfl rfl)
theorem dX5_year_121 : decode cX5_year 121 = .ok (.aload_n 0, 1) := dk_42 (dk_at dksX5_year_5 4 rfl rfl)
theorem dX5_year_122 : decode cX5_year 122 = .ok (.getfield 108, 3) := dk_180 0 108 (dk_at dksX5_year_5 5 rfl rfl)
theorem dX5_year_125 : decode cX5_year 125 = .ok (.iload_n 3, 1) := dk_29 (dk_at dksX5_year_5 8 rfl rfl)
theorem dX5_year_126 : decode cX5_year 126 = .ok (.iconst 2, 1) := dk_5 (dk_at dksX5_year_5 9 rfl rfl)
theorem dX5_year_127 : decode cX5_year 127 = .ok (.iadd, 1) := dk_96 (dk_at dksX5_year_5 10 rfl rfl)
theorem dX5_year_128 : decode cX5_year 128 = .ok (.iload_n 2, 1) := dk_28 (dk_at dksX5_year_5 11 rfl rfl)
theorem dX5_year_129 : decode cX5_year 129 = .ok (.iconst 1, 1) := dk_4 (dk_at dksX5_year_5 12 rfl rfl)
theorem dX5_year_130 : decode cX5_year 130 = .ok (.if_icmp .ne 13, 3) := dk_160 0 13 (dk_at dksX5_year_5 13 rfl rfl)
theorem dX5_year_133 : decode cX5_year 133 = .ok (.aload_n 0, 1) := dk_42 (dk_at dksX5_year_5 16 rfl rfl)
theorem dX5_year_134 : decode cX5_year 134 = .ok (.iconst 0, 1) := dk_3 (dk_at dksX5_year_5 17 rfl rfl)
theorem dX5_year_135 : decode cX5_year 135 = .ok (.iconst 0, 1) := dk_3 (dk_at dksX5_year_5 18 rfl rfl)
theorem dX5_year_136 : decode cX5_year 136 = .ok (.iconst 0, 1) := dk_3 (dk_at dksX5_year_5 19 rfl rfl)
theorem dX5_year_137 : decode cX5_year 137 = .ok (.invokevirtual 238, 3) := dk_182 0 238 (dk_at dksX5_year_5 20 rfl rfl)
theorem dX5_year_140 : decode cX5_year 140 = .ok (.goto 4, 3) := dk_167 0 4 (dk_at dksX5_year_6 0 rfl rfl)
theorem dX5_year_143 : decode cX5_year 143 = .ok (.iconst 0, 1) := dk_3 (dk_at dksX5_year_6 3 rfl rfl)
theorem dX5_year_144 : decode cX5_year 144 = .ok (.iastore, 1) := dk_79 (dk_at dksX5_year_6 4 rfl rfl)
theorem dX5_year_145 : decode cX5_year 145 = .ok (.iinc 1 1, 3) := dk_132 1 1 (dk_at dksX5_year_6 5 rfl rfl)
theorem dX5_year_148 : decode cX5_year 148 = .ok (.aload_n 0, 1) := dk_42 (dk_at dksX5_year_6 8 rfl rfl)
theorem dX5_year_149 : decode cX5_year 149 = .ok (.bipush 59, 2) := dk_16 59 (dk_at dksX5_year_6 9 rfl rfl)
theorem dX5_year_151 : decode cX5_year 151 = .ok (.invokevirtual 218, 3) := dk_182 0 218 (dk_at dksX5_year_6 11 rfl rfl)
theorem dX5_year_154 : decode cX5_year 154 = .ok (.goto (-143), 3) := dk_167 255 113 (dk_at dksX5_year_6 14 rfl rfl)
theorem dX5_year_157 : decode cX5_year 157 = .ok (.aload_n 0, 1) := dk_42 (dk_at dksX5_year_6 17 rfl rfl)
theorem dX5_year_158 : decode cX5_year 158 = .ok (.getfield 163, 3) := dk_180 0 163 (dk_at dksX5_year_6 18 rfl rfl)
theorem dX5_year_161 : decode cX5_year 161 = .ok (.ifCond .le 8, 3) := dk_158 0 8 (dk_at dksX5_year_6 21 rfl rfl)
theorem dX5_year_164 : decode cX5_year 164 = .ok (.aload_n 0, 1) := dk_42 (dk_at dksX5_year_7 0 rfl rfl)
theorem dX5_year_165 : decode cX5_year 165 = .ok (.getfield 163, 3) := dk_180 0 163 (dk_at dksX5_year_7 1 rfl rfl)
theorem dX5_year_168 : decode cX5_year 168 = .ok (.ireturn, 1) := dk_172 (dk_at dksX5_year_7 4 rfl rfl)
theorem dX5_year_169 : decode cX5_year 169 = .ok (.aload_n 0, 1) := dk_42 (dk_at dksX5_year_7 5 rfl rfl)
theorem dX5_year_170 : decode cX5_year 170 = .ok (.getfield 108, 3) := dk_180 0 108 (dk_at dksX5_year_7 6 rfl rfl)
theorem dX5_year_173 : decode cX5_year 173 = .ok (.iconst 0, 1) := dk_3 (dk_at dksX5_year_7 9 rfl rfl)
theorem dX5_year_174 : decode cX5_year 174 = .ok (.iload_n 1, 1) := dk_27 (dk_at dksX5_year_7 10 rfl rfl)
theorem dX5_year_175 : decode cX5_year 175 = .ok (.iastore, 1) := dk_79 (dk_at dksX5_year_7 11 rfl rfl)
theorem dX5_year_176 : decode cX5_year 176 = .ok (.iconst 0, 1) := dk_3 (dk_at dksX5_year_7 12 rfl rfl)
theorem dX5_year_177 : decode cX5_year 177 = .ok (.istore_n 2, 1) := dk_61 (dk_at dksX5_year_7 13 rfl rfl)
theorem dX5_year_178 : decode cX5_year 178 = .ok (.iload_n 2, 1) := dk_28 (dk_at dksX5_year_7 14 rfl rfl)
theorem dX5_year_179 : decode cX5_year 179 = .ok (.iconst 3, 1) := dk_6 (dk_at dksX5_year_7 15 rfl rfl)
theorem dX5_year_180 : decode cX5_year 180 = .ok (.iload_n 1, 1) := dk_27 (dk_at dksX5_year_7 16 rfl rfl)
theorem dX5_year_181 : decode cX5_year 181 = .ok (.imul, 1) := dk_104 (dk_at dksX5_year_7 17 rfl rfl)
theorem dX5_year_182 : decode cX5_year 182 = .ok (.if_icmp .ge 26, 3) := dk_162 0 26 (dk_at dksX5_year_7 18 rfl rfl)
theorem dX5_year_185 : decode cX5_year 185 = .ok (.aload_n 0, 1) := dk_42 (dk_at dksX5_year_7 21 rfl rfl)
theorem dX5_year_186 : decode cX5_year 186 = .ok (.getfield 108, 3) := dk_180 0 108 (dk_at dksX5_year_8 0 rfl rfl)
theorem dX5_year_189 : decode cX5_year 189 = .ok (.iconst 1, 1) := dk_4 (dk_at dksX5_year_8 3 rfl rfl)
theorem dX5_year_190 : decode cX5_year 190 = .ok (.iload_n 2, 1) := dk_28 (dk_at dksX5_year_8 4 rfl rfl)
theorem dX5_year_191 : decode cX5_year 191 = .ok (.iadd, 1) := dk_96 (dk_at dksX5_year_8 5 rfl rfl)
theorem dX5_year_192 : decode cX5_year 192 = .ok (.aload_n 0, 1) := dk_42 (dk_at dksX5_year_8 6 rfl rfl)
theorem dX5_year_193 : decode cX5_year 193 = .ok (.getfield 108, 3) := dk_180 0 108 (dk_at dksX5_year_8 7 rfl rfl)
theorem dX5_year_196 : decode cX5_year 196 = .ok (.bipush 125, 2) := dk_16 125 (dk_at dksX5_year_8 10 rfl rfl)
theorem dX5_year_198 : decode cX5_year 198 = .ok (.iload_n 2, 1) := dk_28 (dk_at dksX5_year_8 12 rfl rfl)
theorem dX5_year_199 : decode cX5_year 199 = .ok (.iadd, 1) := dk_96 (dk_at dksX5_year_8 13 rfl rfl)
theorem dX5_year_200 : decode cX5_year 200 = .ok (.iaload, 1) := dk_46 (dk_at dksX5_year_8 14 rfl rfl)
theorem dX5_year_201 : decode cX5_year 201 = .ok (.iastore, 1) := dk_79 (dk_at dksX5_year_8 15 rfl rfl)
theorem dX5_year_202 : decode cX5_year 202 = .ok (.iinc 2 1, 3) := dk_132 2 1 (dk_at dksX5_year_8 16 rfl rfl)
theorem dX5_year_205 : decode cX5_year 205 = .ok (.goto (-27), 3) := dk_167 255 229 (dk_at dksX5_year_8 19 rfl rfl)
theorem dX5_year_208 : decode cX5_year 208 = .ok (.iconst 0, 1) := dk_3 (dk_at dksX5_year_8 22 rfl rfl)
theorem dX5_year_209 : decode cX5_year 209 = .ok (.ireturn, 1) := dk_172 (dk_at dksX5_year_8 23 rfl rfl)
abbrev cX5_house : ByteArray := prog_23_method_64_code
def yX5_house : MethodName := ⟨RX5, "house", "(II)I"⟩
def dkwX5_house_4 : List UInt8 := [27, 4, 182, 1, 18, 172, 42, 3, 27, 182, 1, 79, 172]
abbrev dktX5_house_4 : List UInt8 := dkwX5_house_4 ++ []
def dkwX5_house_3 : List UInt8 := [42, 180, 0, 117, 5, 27, 96, 46, 172, 42, 3, 27, 182, 1, 42, 172, 42, 3, 27, 182, 1, 45, 172, 42]
abbrev dktX5_house_3 : List UInt8 := dkwX5_house_3 ++ dktX5_house_4
def dkwX5_house_2 : List UInt8 := [170, 0, 0, 0, 0, 60, 0, 0, 0, 0, 0, 0, 0, 3, 0, 0, 0, 30, 0, 0, 0, 39, 0, 0, 0, 46, 0, 0, 0, 53]
abbrev dktX5_house_2 : List UInt8 := dkwX5_house_2 ++ dktX5_house_3
def dkwX5_house_1 : List UInt8 := [172, 28]
abbrev dktX5_house_1 : List UInt8 := dkwX5_house_1 ++ dktX5_house_2
def dkwX5_house_0 : List UInt8 := [42, 3, 181, 0, 1, 42, 27, 182, 1, 76, 153, 0, 12, 28, 3, 7, 184, 0, 202, 154, 0, 6, 16, 254]
abbrev dktX5_house_0 : List UInt8 := dkwX5_house_0 ++ dktX5_house_1
theorem dksX5_house_0 : cX5_house.data.toList.drop 0 = dktX5_house_0 := by decide +kernel
theorem dksX5_house_1 : cX5_house.data.toList.drop 24 = dktX5_house_1 := dk_seg dksX5_house_0 24 rfl rfl
theorem dksX5_house_2 : cX5_house.data.toList.drop 26 = dktX5_house_2 := dk_seg dksX5_house_1 2 rfl rfl
theorem dksX5_house_3 : cX5_house.data.toList.drop 56 = dktX5_house_3 := dk_seg dksX5_house_2 30 rfl rfl
theorem dksX5_house_4 : cX5_house.data.toList.drop 80 = dktX5_house_4 := dk_seg dksX5_house_3 24 rfl rfl
theorem dX5_house_0 : decode cX5_house 0 = .ok (.aload_n 0, 1) := dk_42 (dk_at dksX5_house_0 0 rfl rfl)
theorem dX5_house_1 : decode cX5_house 1 = .ok (.iconst 0, 1) := dk_3 (dk_at dksX5_house_0 1 rfl rfl)
theorem dX5_house_2 : decode cX5_house 2 = .ok (.putfield 1, 3) := dk_181 0 1 (dk_at dksX5_house_0 2 rfl rfl)
theorem dX5_house_5 : decode cX5_house 5 = .ok (.aload_n 0, 1) := dk_42 (dk_at dksX5_house_0 5 rfl rfl)
theorem dX5_house_6 : decode cX5_house 6 = .ok (.iload_n 1, 1) := dk_27 (dk_at dksX5_house_0 6 rfl rfl)
theorem dX5_house_7 : decode cX5_house 7 = .ok (.invokevirtual 332, 3) := dk_182 1 76 (dk_at dksX5_house_0 7 rfl rfl)
theorem dX5_house_10 : decode cX5_house 10 = .ok (.ifCond .eq 12, 3) := dk_153 0 12 (dk_at dksX5_house_0 10 rfl rfl)
theorem dX5_house_13 : decode cX5_house 13 = .ok (.iload_n 2, 1) := dk_28 (dk_at dksX5_house_0 13 rfl rfl)
theorem dX5_house_14 : decode cX5_house 14 = .ok (.iconst 0, 1) := dk_3 (dk_at dksX5_house_0 14 rfl rfl)
theorem dX5_house_15 : decode cX5_house 15 = .ok (.iconst 4, 1) := dk_7 (dk_at dksX5_house_0 15 rfl rfl)
theorem dX5_house_16 : decode cX5_house 16 = .ok (.invokestatic 202, 3) := dk_184 0 202 (dk_at dksX5_house_0 16 rfl rfl)
theorem dX5_house_19 : decode cX5_house 19 = .ok (.ifCond .ne 6, 3) := dk_154 0 6 (dk_at dksX5_house_0 19 rfl rfl)
theorem dX5_house_22 : decode cX5_house 22 = .ok (.bipush (-2), 2) := dk_16 254 (dk_at dksX5_house_0 22 rfl rfl)
theorem dX5_house_24 : decode cX5_house 24 = .ok (.ireturn, 1) := dk_172 (dk_at dksX5_house_1 0 rfl rfl)
theorem dX5_house_25 : decode cX5_house 25 = .ok (.iload_n 2, 1) := dk_28 (dk_at dksX5_house_1 1 rfl rfl)
theorem dX5_house_26 : decode cX5_house 26 = .ok (.tableswitch 60 0 3 #[30, 39, 46, 53], 30) := by decide +kernel
theorem dX5_house_56 : decode cX5_house 56 = .ok (.aload_n 0, 1) := dk_42 (dk_at dksX5_house_3 0 rfl rfl)
theorem dX5_house_57 : decode cX5_house 57 = .ok (.getfield 117, 3) := dk_180 0 117 (dk_at dksX5_house_3 1 rfl rfl)
theorem dX5_house_60 : decode cX5_house 60 = .ok (.iconst 2, 1) := dk_5 (dk_at dksX5_house_3 4 rfl rfl)
theorem dX5_house_61 : decode cX5_house 61 = .ok (.iload_n 1, 1) := dk_27 (dk_at dksX5_house_3 5 rfl rfl)
theorem dX5_house_62 : decode cX5_house 62 = .ok (.iadd, 1) := dk_96 (dk_at dksX5_house_3 6 rfl rfl)
theorem dX5_house_63 : decode cX5_house 63 = .ok (.iaload, 1) := dk_46 (dk_at dksX5_house_3 7 rfl rfl)
theorem dX5_house_64 : decode cX5_house 64 = .ok (.ireturn, 1) := dk_172 (dk_at dksX5_house_3 8 rfl rfl)
theorem dX5_house_65 : decode cX5_house 65 = .ok (.aload_n 0, 1) := dk_42 (dk_at dksX5_house_3 9 rfl rfl)
theorem dX5_house_66 : decode cX5_house 66 = .ok (.iconst 0, 1) := dk_3 (dk_at dksX5_house_3 10 rfl rfl)
theorem dX5_house_67 : decode cX5_house 67 = .ok (.iload_n 1, 1) := dk_27 (dk_at dksX5_house_3 11 rfl rfl)
theorem dX5_house_68 : decode cX5_house 68 = .ok (.invokevirtual 298, 3) := dk_182 1 42 (dk_at dksX5_house_3 12 rfl rfl)
theorem dX5_house_71 : decode cX5_house 71 = .ok (.ireturn, 1) := dk_172 (dk_at dksX5_house_3 15 rfl rfl)
theorem dX5_house_72 : decode cX5_house 72 = .ok (.aload_n 0, 1) := dk_42 (dk_at dksX5_house_3 16 rfl rfl)
theorem dX5_house_73 : decode cX5_house 73 = .ok (.iconst 0, 1) := dk_3 (dk_at dksX5_house_3 17 rfl rfl)
theorem dX5_house_74 : decode cX5_house 74 = .ok (.iload_n 1, 1) := dk_27 (dk_at dksX5_house_3 18 rfl rfl)
theorem dX5_house_75 : decode cX5_house 75 = .ok (.invokevirtual 301, 3) := dk_182 1 45 (dk_at dksX5_house_3 19 rfl rfl)
theorem dX5_house_78 : decode cX5_house 78 = .ok (.ireturn, 1) := dk_172 (dk_at dksX5_house_3 22 rfl rfl)
theorem dX5_house_79 : decode cX5_house 79 = .ok (.aload_n 0, 1) := dk_42 (dk_at dksX5_house_3 23 rfl rfl)
theorem dX5_house_80 : decode cX5_house 80 = .ok (.iload_n 1, 1) := dk_27 (dk_at dksX5_house_4 0 rfl rfl)
theorem dX5_house_81 : decode cX5_house 81 = .ok (.iconst 1, 1) := dk_4 (dk_at dksX5_house_4 1 rfl rfl)
theorem dX5_house_82 : decode cX5_house 82 = .ok (.invokevirtual 274, 3) := dk_182 1 18 (dk_at dksX5_house_4 2 rfl rfl)
theorem dX5_house_85 : decode cX5_house 85 = .ok (.ireturn, 1) := dk_172 (dk_at dksX5_house_4 5 rfl rfl)
theorem dX5_house_86 : decode cX5_house 86 = .ok (.aload_n 0, 1) := dk_42 (dk_at dksX5_house_4 6 rfl rfl)
theorem dX5_house_87 : decode cX5_house 87 = .ok (.iconst 0, 1) := dk_3 (dk_at dksX5_house_4 7 rfl rfl)
theorem dX5_house_88 : decode cX5_house 88 = .ok (.iload_n 1, 1) := dk_27 (dk_at dksX5_house_4 8 rfl rfl)
theorem dX5_house_89 : decode cX5_house 89 = .ok (.invokevirtual 335, 3) := dk_182 1 79 (dk_at dksX5_house_4 9 rfl rfl)
theorem dX5_house_92 : decode cX5_house 92 = .ok (.ireturn, 1) := dk_172 (dk_at dksX5_house_4 12 rfl rfl)
abbrev cX5_isHouse : ByteArray := prog_23_method_50_code
def yX5_isHouse : MethodName := ⟨RX5, "isHouse", "(I)Z"⟩
def dkwX5_isHouse_0 : List UInt8 := [27, 155, 0, 15, 27, 42, 182, 1, 14, 162, 0, 7, 4, 167, 0, 4, 3, 172]
abbrev dktX5_isHouse_0 : List UInt8 := dkwX5_isHouse_0 ++ []
theorem dksX5_isHouse_0 : cX5_isHouse.data.toList.drop 0 = dktX5_isHouse_0 := by decide +kernel
theorem dX5_isHouse_0 : decode cX5_isHouse 0 = .ok (.iload_n 1, 1) := dk_27 (dk_at dksX5_isHouse_0 0 rfl rfl)
theorem dX5_isHouse_1 : decode cX5_isHouse 1 = .ok (.ifCond .lt 15, 3) := dk_155 0 15 (dk_at dksX5_isHouse_0 1 rfl rfl)
theorem dX5_isHouse_4 : decode cX5_isHouse 4 = .ok (.iload_n 1, 1) := dk_27 (dk_at dksX5_isHouse_0 4 rfl rfl)
theorem dX5_isHouse_5 : decode cX5_isHouse 5 = .ok (.aload_n 0, 1) := dk_42 (dk_at dksX5_isHouse_0 5 rfl rfl)
theorem dX5_isHouse_6 : decode cX5_isHouse 6 = .ok (.invokevirtual 270, 3) := dk_182 1 14 (dk_at dksX5_isHouse_0 6 rfl rfl)
theorem dX5_isHouse_9 : decode cX5_isHouse 9 = .ok (.if_icmp .ge 7, 3) := dk_162 0 7 (dk_at dksX5_isHouse_0 9 rfl rfl)
theorem dX5_isHouse_12 : decode cX5_isHouse 12 = .ok (.iconst 1, 1) := dk_4 (dk_at dksX5_isHouse_0 12 rfl rfl)
theorem dX5_isHouse_13 : decode cX5_isHouse 13 = .ok (.goto 4, 3) := dk_167 0 4 (dk_at dksX5_isHouse_0 13 rfl rfl)
theorem dX5_isHouse_16 : decode cX5_isHouse 16 = .ok (.iconst 0, 1) := dk_3 (dk_at dksX5_isHouse_0 16 rfl rfl)
theorem dX5_isHouse_17 : decode cX5_isHouse 17 = .ok (.ireturn, 1) := dk_172 (dk_at dksX5_isHouse_0 17 rfl rfl)
abbrev cX5_freeOf : ByteArray := prog_23_method_54_code
def yX5_freeOf : MethodName := ⟨RX5, "freeOf", "(II)I"⟩
def dkwX5_freeOf_2 : List UInt8 := [167, 0, 4, 3, 100, 62, 132, 4, 1, 167, 255, 215, 29, 172]
abbrev dktX5_freeOf_2 : List UInt8 := dkwX5_freeOf_2 ++ []
def dkwX5_freeOf_1 : List UInt8 := [42, 180, 0, 117, 27, 16, 6, 96, 21, 4, 96, 46, 28, 160, 0, 12, 42, 21, 4, 182, 1, 39]
abbrev dktX5_freeOf_1 : List UInt8 := dkwX5_freeOf_1 ++ dktX5_freeOf_2
def dkwX5_freeOf_0 : List UInt8 := [42, 180, 0, 117, 27, 5, 96, 28, 96, 46, 62, 3, 54, 4, 21, 4, 42, 182, 1, 21, 162, 0, 38, 29]
abbrev dktX5_freeOf_0 : List UInt8 := dkwX5_freeOf_0 ++ dktX5_freeOf_1
theorem dksX5_freeOf_0 : cX5_freeOf.data.toList.drop 0 = dktX5_freeOf_0 := by decide +kernel
theorem dksX5_freeOf_1 : cX5_freeOf.data.toList.drop 24 = dktX5_freeOf_1 := dk_seg dksX5_freeOf_0 24 rfl rfl
theorem dksX5_freeOf_2 : cX5_freeOf.data.toList.drop 46 = dktX5_freeOf_2 := dk_seg dksX5_freeOf_1 22 rfl rfl
theorem dX5_freeOf_0 : decode cX5_freeOf 0 = .ok (.aload_n 0, 1) := dk_42 (dk_at dksX5_freeOf_0 0 rfl rfl)
theorem dX5_freeOf_1 : decode cX5_freeOf 1 = .ok (.getfield 117, 3) := dk_180 0 117 (dk_at dksX5_freeOf_0 1 rfl rfl)
theorem dX5_freeOf_4 : decode cX5_freeOf 4 = .ok (.iload_n 1, 1) := dk_27 (dk_at dksX5_freeOf_0 4 rfl rfl)
theorem dX5_freeOf_5 : decode cX5_freeOf 5 = .ok (.iconst 2, 1) := dk_5 (dk_at dksX5_freeOf_0 5 rfl rfl)
theorem dX5_freeOf_6 : decode cX5_freeOf 6 = .ok (.iadd, 1) := dk_96 (dk_at dksX5_freeOf_0 6 rfl rfl)
theorem dX5_freeOf_7 : decode cX5_freeOf 7 = .ok (.iload_n 2, 1) := dk_28 (dk_at dksX5_freeOf_0 7 rfl rfl)
theorem dX5_freeOf_8 : decode cX5_freeOf 8 = .ok (.iadd, 1) := dk_96 (dk_at dksX5_freeOf_0 8 rfl rfl)
theorem dX5_freeOf_9 : decode cX5_freeOf 9 = .ok (.iaload, 1) := dk_46 (dk_at dksX5_freeOf_0 9 rfl rfl)
theorem dX5_freeOf_10 : decode cX5_freeOf 10 = .ok (.istore_n 3, 1) := dk_62 (dk_at dksX5_freeOf_0 10 rfl rfl)
theorem dX5_freeOf_11 : decode cX5_freeOf 11 = .ok (.iconst 0, 1) := dk_3 (dk_at dksX5_freeOf_0 11 rfl rfl)
theorem dX5_freeOf_12 : decode cX5_freeOf 12 = .ok (.istore 4, 2) := dk_54 4 (dk_at dksX5_freeOf_0 12 rfl rfl)
theorem dX5_freeOf_14 : decode cX5_freeOf 14 = .ok (.iload 4, 2) := dk_21 4 (dk_at dksX5_freeOf_0 14 rfl rfl)
theorem dX5_freeOf_16 : decode cX5_freeOf 16 = .ok (.aload_n 0, 1) := dk_42 (dk_at dksX5_freeOf_0 16 rfl rfl)
theorem dX5_freeOf_17 : decode cX5_freeOf 17 = .ok (.invokevirtual 277, 3) := dk_182 1 21 (dk_at dksX5_freeOf_0 17 rfl rfl)
theorem dX5_freeOf_20 : decode cX5_freeOf 20 = .ok (.if_icmp .ge 38, 3) := dk_162 0 38 (dk_at dksX5_freeOf_0 20 rfl rfl)
theorem dX5_freeOf_23 : decode cX5_freeOf 23 = .ok (.iload_n 3, 1) := dk_29 (dk_at dksX5_freeOf_0 23 rfl rfl)
theorem dX5_freeOf_24 : decode cX5_freeOf 24 = .ok (.aload_n 0, 1) := dk_42 (dk_at dksX5_freeOf_1 0 rfl rfl)
theorem dX5_freeOf_25 : decode cX5_freeOf 25 = .ok (.getfield 117, 3) := dk_180 0 117 (dk_at dksX5_freeOf_1 1 rfl rfl)
theorem dX5_freeOf_28 : decode cX5_freeOf 28 = .ok (.iload_n 1, 1) := dk_27 (dk_at dksX5_freeOf_1 4 rfl rfl)
theorem dX5_freeOf_29 : decode cX5_freeOf 29 = .ok (.bipush 6, 2) := dk_16 6 (dk_at dksX5_freeOf_1 5 rfl rfl)
theorem dX5_freeOf_31 : decode cX5_freeOf 31 = .ok (.iadd, 1) := dk_96 (dk_at dksX5_freeOf_1 7 rfl rfl)
theorem dX5_freeOf_32 : decode cX5_freeOf 32 = .ok (.iload 4, 2) := dk_21 4 (dk_at dksX5_freeOf_1 8 rfl rfl)
theorem dX5_freeOf_34 : decode cX5_freeOf 34 = .ok (.iadd, 1) := dk_96 (dk_at dksX5_freeOf_1 10 rfl rfl)
theorem dX5_freeOf_35 : decode cX5_freeOf 35 = .ok (.iaload, 1) := dk_46 (dk_at dksX5_freeOf_1 11 rfl rfl)
theorem dX5_freeOf_36 : decode cX5_freeOf 36 = .ok (.iload_n 2, 1) := dk_28 (dk_at dksX5_freeOf_1 12 rfl rfl)
theorem dX5_freeOf_37 : decode cX5_freeOf 37 = .ok (.if_icmp .ne 12, 3) := dk_160 0 12 (dk_at dksX5_freeOf_1 13 rfl rfl)
theorem dX5_freeOf_40 : decode cX5_freeOf 40 = .ok (.aload_n 0, 1) := dk_42 (dk_at dksX5_freeOf_1 16 rfl rfl)
theorem dX5_freeOf_41 : decode cX5_freeOf 41 = .ok (.iload 4, 2) := dk_21 4 (dk_at dksX5_freeOf_1 17 rfl rfl)
theorem dX5_freeOf_43 : decode cX5_freeOf 43 = .ok (.invokevirtual 295, 3) := dk_182 1 39 (dk_at dksX5_freeOf_1 19 rfl rfl)
theorem dX5_freeOf_46 : decode cX5_freeOf 46 = .ok (.goto 4, 3) := dk_167 0 4 (dk_at dksX5_freeOf_2 0 rfl rfl)
theorem dX5_freeOf_49 : decode cX5_freeOf 49 = .ok (.iconst 0, 1) := dk_3 (dk_at dksX5_freeOf_2 3 rfl rfl)
theorem dX5_freeOf_50 : decode cX5_freeOf 50 = .ok (.isub, 1) := dk_100 (dk_at dksX5_freeOf_2 4 rfl rfl)
theorem dX5_freeOf_51 : decode cX5_freeOf 51 = .ok (.istore_n 3, 1) := dk_62 (dk_at dksX5_freeOf_2 5 rfl rfl)
theorem dX5_freeOf_52 : decode cX5_freeOf 52 = .ok (.iinc 4 1, 3) := dk_132 4 1 (dk_at dksX5_freeOf_2 6 rfl rfl)
theorem dX5_freeOf_55 : decode cX5_freeOf 55 = .ok (.goto (-41), 3) := dk_167 255 215 (dk_at dksX5_freeOf_2 9 rfl rfl)
theorem dX5_freeOf_58 : decode cX5_freeOf 58 = .ok (.iload_n 3, 1) := dk_29 (dk_at dksX5_freeOf_2 12 rfl rfl)
theorem dX5_freeOf_59 : decode cX5_freeOf 59 = .ok (.ireturn, 1) := dk_172 (dk_at dksX5_freeOf_2 13 rfl rfl)
abbrev cX5_widthOf : ByteArray := prog_23_method_52_code
def yX5_widthOf : MethodName := ⟨RX5, "widthOf", "(I)I"⟩
def dkwX5_widthOf_0 : List UInt8 := [42, 27, 3, 182, 1, 24, 4, 160, 0, 7, 5, 167, 0, 4, 4, 172]
abbrev dktX5_widthOf_0 : List UInt8 := dkwX5_widthOf_0 ++ []
theorem dksX5_widthOf_0 : cX5_widthOf.data.toList.drop 0 = dktX5_widthOf_0 := by decide +kernel
theorem dX5_widthOf_0 : decode cX5_widthOf 0 = .ok (.aload_n 0, 1) := dk_42 (dk_at dksX5_widthOf_0 0 rfl rfl)
theorem dX5_widthOf_1 : decode cX5_widthOf 1 = .ok (.iload_n 1, 1) := dk_27 (dk_at dksX5_widthOf_0 1 rfl rfl)
theorem dX5_widthOf_2 : decode cX5_widthOf 2 = .ok (.iconst 0, 1) := dk_3 (dk_at dksX5_widthOf_0 2 rfl rfl)
theorem dX5_widthOf_3 : decode cX5_widthOf 3 = .ok (.invokevirtual 280, 3) := dk_182 1 24 (dk_at dksX5_widthOf_0 3 rfl rfl)
theorem dX5_widthOf_6 : decode cX5_widthOf 6 = .ok (.iconst 1, 1) := dk_4 (dk_at dksX5_widthOf_0 6 rfl rfl)
theorem dX5_widthOf_7 : decode cX5_widthOf 7 = .ok (.if_icmp .ne 7, 3) := dk_160 0 7 (dk_at dksX5_widthOf_0 7 rfl rfl)
theorem dX5_widthOf_10 : decode cX5_widthOf 10 = .ok (.iconst 2, 1) := dk_5 (dk_at dksX5_widthOf_0 10 rfl rfl)
theorem dX5_widthOf_11 : decode cX5_widthOf 11 = .ok (.goto 4, 3) := dk_167 0 4 (dk_at dksX5_widthOf_0 11 rfl rfl)
theorem dX5_widthOf_14 : decode cX5_widthOf 14 = .ok (.iconst 1, 1) := dk_4 (dk_at dksX5_widthOf_0 14 rfl rfl)
theorem dX5_widthOf_15 : decode cX5_widthOf 15 = .ok (.ireturn, 1) := dk_172 (dk_at dksX5_widthOf_0 15 rfl rfl)
abbrev cX5_inHouse : ByteArray := prog_23_method_53_code
def yX5_inHouse : MethodName := ⟨RX5, "inHouse", "(II)I"⟩
def dkwX5_inHouse_2 : List UInt8 := [29, 172]
abbrev dktX5_inHouse_2 : List UInt8 := dkwX5_inHouse_2 ++ []
def dkwX5_inHouse_1 : List UInt8 := [21, 4, 96, 46, 28, 160, 0, 10, 4, 21, 4, 120, 167, 0, 4, 3, 128, 62, 132, 4, 1, 167, 255, 217]
abbrev dktX5_inHouse_1 : List UInt8 := dkwX5_inHouse_1 ++ dktX5_inHouse_2
def dkwX5_inHouse_0 : List UInt8 := [3, 62, 3, 54, 4, 21, 4, 42, 182, 1, 21, 162, 0, 36, 29, 42, 180, 0, 117, 27, 16, 6, 96]
abbrev dktX5_inHouse_0 : List UInt8 := dkwX5_inHouse_0 ++ dktX5_inHouse_1
theorem dksX5_inHouse_0 : cX5_inHouse.data.toList.drop 0 = dktX5_inHouse_0 := by decide +kernel
theorem dksX5_inHouse_1 : cX5_inHouse.data.toList.drop 23 = dktX5_inHouse_1 := dk_seg dksX5_inHouse_0 23 rfl rfl
theorem dksX5_inHouse_2 : cX5_inHouse.data.toList.drop 47 = dktX5_inHouse_2 := dk_seg dksX5_inHouse_1 24 rfl rfl
theorem dX5_inHouse_0 : decode cX5_inHouse 0 = .ok (.iconst 0, 1) := dk_3 (dk_at dksX5_inHouse_0 0 rfl rfl)
theorem dX5_inHouse_1 : decode cX5_inHouse 1 = .ok (.istore_n 3, 1) := dk_62 (dk_at dksX5_inHouse_0 1 rfl rfl)
theorem dX5_inHouse_2 : decode cX5_inHouse 2 = .ok (.iconst 0, 1) := dk_3 (dk_at dksX5_inHouse_0 2 rfl rfl)
theorem dX5_inHouse_3 : decode cX5_inHouse 3 = .ok (.istore 4, 2) := dk_54 4 (dk_at dksX5_inHouse_0 3 rfl rfl)
theorem dX5_inHouse_5 : decode cX5_inHouse 5 = .ok (.iload 4, 2) := dk_21 4 (dk_at dksX5_inHouse_0 5 rfl rfl)
theorem dX5_inHouse_7 : decode cX5_inHouse 7 = .ok (.aload_n 0, 1) := dk_42 (dk_at dksX5_inHouse_0 7 rfl rfl)
theorem dX5_inHouse_8 : decode cX5_inHouse 8 = .ok (.invokevirtual 277, 3) := dk_182 1 21 (dk_at dksX5_inHouse_0 8 rfl rfl)
theorem dX5_inHouse_11 : decode cX5_inHouse 11 = .ok (.if_icmp .ge 36, 3) := dk_162 0 36 (dk_at dksX5_inHouse_0 11 rfl rfl)
theorem dX5_inHouse_14 : decode cX5_inHouse 14 = .ok (.iload_n 3, 1) := dk_29 (dk_at dksX5_inHouse_0 14 rfl rfl)
theorem dX5_inHouse_15 : decode cX5_inHouse 15 = .ok (.aload_n 0, 1) := dk_42 (dk_at dksX5_inHouse_0 15 rfl rfl)
theorem dX5_inHouse_16 : decode cX5_inHouse 16 = .ok (.getfield 117, 3) := dk_180 0 117 (dk_at dksX5_inHouse_0 16 rfl rfl)
theorem dX5_inHouse_19 : decode cX5_inHouse 19 = .ok (.iload_n 1, 1) := dk_27 (dk_at dksX5_inHouse_0 19 rfl rfl)
theorem dX5_inHouse_20 : decode cX5_inHouse 20 = .ok (.bipush 6, 2) := dk_16 6 (dk_at dksX5_inHouse_0 20 rfl rfl)
theorem dX5_inHouse_22 : decode cX5_inHouse 22 = .ok (.iadd, 1) := dk_96 (dk_at dksX5_inHouse_0 22 rfl rfl)
theorem dX5_inHouse_23 : decode cX5_inHouse 23 = .ok (.iload 4, 2) := dk_21 4 (dk_at dksX5_inHouse_1 0 rfl rfl)
theorem dX5_inHouse_25 : decode cX5_inHouse 25 = .ok (.iadd, 1) := dk_96 (dk_at dksX5_inHouse_1 2 rfl rfl)
theorem dX5_inHouse_26 : decode cX5_inHouse 26 = .ok (.iaload, 1) := dk_46 (dk_at dksX5_inHouse_1 3 rfl rfl)
theorem dX5_inHouse_27 : decode cX5_inHouse 27 = .ok (.iload_n 2, 1) := dk_28 (dk_at dksX5_inHouse_1 4 rfl rfl)
theorem dX5_inHouse_28 : decode cX5_inHouse 28 = .ok (.if_icmp .ne 10, 3) := dk_160 0 10 (dk_at dksX5_inHouse_1 5 rfl rfl)
theorem dX5_inHouse_31 : decode cX5_inHouse 31 = .ok (.iconst 1, 1) := dk_4 (dk_at dksX5_inHouse_1 8 rfl rfl)
theorem dX5_inHouse_32 : decode cX5_inHouse 32 = .ok (.iload 4, 2) := dk_21 4 (dk_at dksX5_inHouse_1 9 rfl rfl)
theorem dX5_inHouse_34 : decode cX5_inHouse 34 = .ok (.ishl, 1) := dk_120 (dk_at dksX5_inHouse_1 11 rfl rfl)
theorem dX5_inHouse_35 : decode cX5_inHouse 35 = .ok (.goto 4, 3) := dk_167 0 4 (dk_at dksX5_inHouse_1 12 rfl rfl)
theorem dX5_inHouse_38 : decode cX5_inHouse 38 = .ok (.iconst 0, 1) := dk_3 (dk_at dksX5_inHouse_1 15 rfl rfl)
theorem dX5_inHouse_39 : decode cX5_inHouse 39 = .ok (.ior, 1) := dk_128 (dk_at dksX5_inHouse_1 16 rfl rfl)
theorem dX5_inHouse_40 : decode cX5_inHouse 40 = .ok (.istore_n 3, 1) := dk_62 (dk_at dksX5_inHouse_1 17 rfl rfl)
theorem dX5_inHouse_41 : decode cX5_inHouse 41 = .ok (.iinc 4 1, 3) := dk_132 4 1 (dk_at dksX5_inHouse_1 18 rfl rfl)
theorem dX5_inHouse_44 : decode cX5_inHouse 44 = .ok (.goto (-39), 3) := dk_167 255 217 (dk_at dksX5_inHouse_1 21 rfl rfl)
theorem dX5_inHouse_47 : decode cX5_inHouse 47 = .ok (.iload_n 3, 1) := dk_29 (dk_at dksX5_inHouse_2 0 rfl rfl)
theorem dX5_inHouse_48 : decode cX5_inHouse 48 = .ok (.ireturn, 1) := dk_172 (dk_at dksX5_inHouse_2 1 rfl rfl)
abbrev cX5_talkIn : ByteArray := prog_23_method_63_code
def yX5_talkIn : MethodName := ⟨RX5, "talkIn", "(II)I"⟩
def dkwX5_talkIn_2 : List UInt8 := [96, 62, 132, 4, 1, 167, 255, 209, 29, 172]
abbrev dktX5_talkIn_2 : List UInt8 := dkwX5_talkIn_2 ++ []
def dkwX5_talkIn_1 : List UInt8 := [21, 4, 96, 46, 28, 160, 0, 18, 42, 180, 0, 117, 27, 16, 18, 96, 21, 4, 96, 46, 167, 0, 4, 3]
abbrev dktX5_talkIn_1 : List UInt8 := dkwX5_talkIn_1 ++ dktX5_talkIn_2
def dkwX5_talkIn_0 : List UInt8 := [3, 62, 3, 54, 4, 21, 4, 42, 182, 1, 21, 162, 0, 44, 29, 42, 180, 0, 117, 27, 16, 6, 96]
abbrev dktX5_talkIn_0 : List UInt8 := dkwX5_talkIn_0 ++ dktX5_talkIn_1
theorem dksX5_talkIn_0 : cX5_talkIn.data.toList.drop 0 = dktX5_talkIn_0 := by decide +kernel
theorem dksX5_talkIn_1 : cX5_talkIn.data.toList.drop 23 = dktX5_talkIn_1 := dk_seg dksX5_talkIn_0 23 rfl rfl
theorem dksX5_talkIn_2 : cX5_talkIn.data.toList.drop 47 = dktX5_talkIn_2 := dk_seg dksX5_talkIn_1 24 rfl rfl
theorem dX5_talkIn_0 : decode cX5_talkIn 0 = .ok (.iconst 0, 1) := dk_3 (dk_at dksX5_talkIn_0 0 rfl rfl)
theorem dX5_talkIn_1 : decode cX5_talkIn 1 = .ok (.istore_n 3, 1) := dk_62 (dk_at dksX5_talkIn_0 1 rfl rfl)
theorem dX5_talkIn_2 : decode cX5_talkIn 2 = .ok (.iconst 0, 1) := dk_3 (dk_at dksX5_talkIn_0 2 rfl rfl)
theorem dX5_talkIn_3 : decode cX5_talkIn 3 = .ok (.istore 4, 2) := dk_54 4 (dk_at dksX5_talkIn_0 3 rfl rfl)
theorem dX5_talkIn_5 : decode cX5_talkIn 5 = .ok (.iload 4, 2) := dk_21 4 (dk_at dksX5_talkIn_0 5 rfl rfl)
theorem dX5_talkIn_7 : decode cX5_talkIn 7 = .ok (.aload_n 0, 1) := dk_42 (dk_at dksX5_talkIn_0 7 rfl rfl)
theorem dX5_talkIn_8 : decode cX5_talkIn 8 = .ok (.invokevirtual 277, 3) := dk_182 1 21 (dk_at dksX5_talkIn_0 8 rfl rfl)
theorem dX5_talkIn_11 : decode cX5_talkIn 11 = .ok (.if_icmp .ge 44, 3) := dk_162 0 44 (dk_at dksX5_talkIn_0 11 rfl rfl)
theorem dX5_talkIn_14 : decode cX5_talkIn 14 = .ok (.iload_n 3, 1) := dk_29 (dk_at dksX5_talkIn_0 14 rfl rfl)
theorem dX5_talkIn_15 : decode cX5_talkIn 15 = .ok (.aload_n 0, 1) := dk_42 (dk_at dksX5_talkIn_0 15 rfl rfl)
theorem dX5_talkIn_16 : decode cX5_talkIn 16 = .ok (.getfield 117, 3) := dk_180 0 117 (dk_at dksX5_talkIn_0 16 rfl rfl)
theorem dX5_talkIn_19 : decode cX5_talkIn 19 = .ok (.iload_n 1, 1) := dk_27 (dk_at dksX5_talkIn_0 19 rfl rfl)
theorem dX5_talkIn_20 : decode cX5_talkIn 20 = .ok (.bipush 6, 2) := dk_16 6 (dk_at dksX5_talkIn_0 20 rfl rfl)
theorem dX5_talkIn_22 : decode cX5_talkIn 22 = .ok (.iadd, 1) := dk_96 (dk_at dksX5_talkIn_0 22 rfl rfl)
theorem dX5_talkIn_23 : decode cX5_talkIn 23 = .ok (.iload 4, 2) := dk_21 4 (dk_at dksX5_talkIn_1 0 rfl rfl)
theorem dX5_talkIn_25 : decode cX5_talkIn 25 = .ok (.iadd, 1) := dk_96 (dk_at dksX5_talkIn_1 2 rfl rfl)
theorem dX5_talkIn_26 : decode cX5_talkIn 26 = .ok (.iaload, 1) := dk_46 (dk_at dksX5_talkIn_1 3 rfl rfl)
theorem dX5_talkIn_27 : decode cX5_talkIn 27 = .ok (.iload_n 2, 1) := dk_28 (dk_at dksX5_talkIn_1 4 rfl rfl)
theorem dX5_talkIn_28 : decode cX5_talkIn 28 = .ok (.if_icmp .ne 18, 3) := dk_160 0 18 (dk_at dksX5_talkIn_1 5 rfl rfl)
theorem dX5_talkIn_31 : decode cX5_talkIn 31 = .ok (.aload_n 0, 1) := dk_42 (dk_at dksX5_talkIn_1 8 rfl rfl)
theorem dX5_talkIn_32 : decode cX5_talkIn 32 = .ok (.getfield 117, 3) := dk_180 0 117 (dk_at dksX5_talkIn_1 9 rfl rfl)
theorem dX5_talkIn_35 : decode cX5_talkIn 35 = .ok (.iload_n 1, 1) := dk_27 (dk_at dksX5_talkIn_1 12 rfl rfl)
theorem dX5_talkIn_36 : decode cX5_talkIn 36 = .ok (.bipush 18, 2) := dk_16 18 (dk_at dksX5_talkIn_1 13 rfl rfl)
theorem dX5_talkIn_38 : decode cX5_talkIn 38 = .ok (.iadd, 1) := dk_96 (dk_at dksX5_talkIn_1 15 rfl rfl)
theorem dX5_talkIn_39 : decode cX5_talkIn 39 = .ok (.iload 4, 2) := dk_21 4 (dk_at dksX5_talkIn_1 16 rfl rfl)
theorem dX5_talkIn_41 : decode cX5_talkIn 41 = .ok (.iadd, 1) := dk_96 (dk_at dksX5_talkIn_1 18 rfl rfl)
theorem dX5_talkIn_42 : decode cX5_talkIn 42 = .ok (.iaload, 1) := dk_46 (dk_at dksX5_talkIn_1 19 rfl rfl)
theorem dX5_talkIn_43 : decode cX5_talkIn 43 = .ok (.goto 4, 3) := dk_167 0 4 (dk_at dksX5_talkIn_1 20 rfl rfl)
theorem dX5_talkIn_46 : decode cX5_talkIn 46 = .ok (.iconst 0, 1) := dk_3 (dk_at dksX5_talkIn_1 23 rfl rfl)
theorem dX5_talkIn_47 : decode cX5_talkIn 47 = .ok (.iadd, 1) := dk_96 (dk_at dksX5_talkIn_2 0 rfl rfl)
theorem dX5_talkIn_48 : decode cX5_talkIn 48 = .ok (.istore_n 3, 1) := dk_62 (dk_at dksX5_talkIn_2 1 rfl rfl)
theorem dX5_talkIn_49 : decode cX5_talkIn 49 = .ok (.iinc 4 1, 3) := dk_132 4 1 (dk_at dksX5_talkIn_2 2 rfl rfl)
theorem dX5_talkIn_52 : decode cX5_talkIn 52 = .ok (.goto (-47), 3) := dk_167 255 209 (dk_at dksX5_talkIn_2 5 rfl rfl)
theorem dX5_talkIn_55 : decode cX5_talkIn 55 = .ok (.iload_n 3, 1) := dk_29 (dk_at dksX5_talkIn_2 8 rfl rfl)
theorem dX5_talkIn_56 : decode cX5_talkIn 56 = .ok (.ireturn, 1) := dk_172 (dk_at dksX5_talkIn_2 9 rfl rfl)
abbrev cX5_day : ByteArray := prog_23_method_65_code
def yX5_day : MethodName := ⟨RX5, "day", "(II)I"⟩
def dkwX5_day_5 : List UInt8 := [27, 28, 182, 1, 24, 172]
abbrev dktX5_day_5 : List UInt8 := dkwX5_day_5 ++ []
def dkwX5_day_4 : List UInt8 := [16, 12, 27, 96, 46, 172, 42, 180, 0, 117, 16, 24, 27, 96, 46, 172, 42, 27, 7, 182, 1, 24, 172, 42]
abbrev dktX5_day_4 : List UInt8 := dkwX5_day_4 ++ dktX5_day_5
def dkwX5_day_3 : List UInt8 := [42, 180, 0, 117, 16, 18, 27, 96, 46, 172, 42, 180, 0, 117, 16, 6, 27, 96, 46, 172, 42, 180, 0, 117]
abbrev dktX5_day_3 : List UInt8 := dkwX5_day_3 ++ dktX5_day_4
def dkwX5_day_2 : List UInt8 := [170, 0, 0, 0, 80, 0, 0, 0, 3, 0, 0, 0, 7, 0, 0, 0, 33, 0, 0, 0, 43, 0, 0, 0, 53, 0, 0, 0, 63, 0, 0, 0, 73]
abbrev dktX5_day_2 : List UInt8 := dkwX5_day_2 ++ dktX5_day_3
def dkwX5_day_1 : List UInt8 := [16, 254, 172, 28]
abbrev dktX5_day_1 : List UInt8 := dkwX5_day_1 ++ dktX5_day_2
def dkwX5_day_0 : List UInt8 := [42, 3, 181, 0, 1, 42, 27, 182, 1, 82, 153, 0, 13, 28, 3, 16, 7, 184, 0, 202, 154, 0, 6]
abbrev dktX5_day_0 : List UInt8 := dkwX5_day_0 ++ dktX5_day_1
theorem dksX5_day_0 : cX5_day.data.toList.drop 0 = dktX5_day_0 := by decide +kernel
theorem dksX5_day_1 : cX5_day.data.toList.drop 23 = dktX5_day_1 := dk_seg dksX5_day_0 23 rfl rfl
theorem dksX5_day_2 : cX5_day.data.toList.drop 27 = dktX5_day_2 := dk_seg dksX5_day_1 4 rfl rfl
theorem dksX5_day_3 : cX5_day.data.toList.drop 60 = dktX5_day_3 := dk_seg dksX5_day_2 33 rfl rfl
theorem dksX5_day_4 : cX5_day.data.toList.drop 84 = dktX5_day_4 := dk_seg dksX5_day_3 24 rfl rfl
theorem dksX5_day_5 : cX5_day.data.toList.drop 108 = dktX5_day_5 := dk_seg dksX5_day_4 24 rfl rfl
theorem dX5_day_0 : decode cX5_day 0 = .ok (.aload_n 0, 1) := dk_42 (dk_at dksX5_day_0 0 rfl rfl)
theorem dX5_day_1 : decode cX5_day 1 = .ok (.iconst 0, 1) := dk_3 (dk_at dksX5_day_0 1 rfl rfl)
theorem dX5_day_2 : decode cX5_day 2 = .ok (.putfield 1, 3) := dk_181 0 1 (dk_at dksX5_day_0 2 rfl rfl)
theorem dX5_day_5 : decode cX5_day 5 = .ok (.aload_n 0, 1) := dk_42 (dk_at dksX5_day_0 5 rfl rfl)
theorem dX5_day_6 : decode cX5_day 6 = .ok (.iload_n 1, 1) := dk_27 (dk_at dksX5_day_0 6 rfl rfl)
theorem dX5_day_7 : decode cX5_day 7 = .ok (.invokevirtual 338, 3) := dk_182 1 82 (dk_at dksX5_day_0 7 rfl rfl)
theorem dX5_day_10 : decode cX5_day 10 = .ok (.ifCond .eq 13, 3) := dk_153 0 13 (dk_at dksX5_day_0 10 rfl rfl)
theorem dX5_day_13 : decode cX5_day 13 = .ok (.iload_n 2, 1) := dk_28 (dk_at dksX5_day_0 13 rfl rfl)
theorem dX5_day_14 : decode cX5_day 14 = .ok (.iconst 0, 1) := dk_3 (dk_at dksX5_day_0 14 rfl rfl)
theorem dX5_day_15 : decode cX5_day 15 = .ok (.bipush 7, 2) := dk_16 7 (dk_at dksX5_day_0 15 rfl rfl)
theorem dX5_day_17 : decode cX5_day 17 = .ok (.invokestatic 202, 3) := dk_184 0 202 (dk_at dksX5_day_0 17 rfl rfl)
theorem dX5_day_20 : decode cX5_day 20 = .ok (.ifCond .ne 6, 3) := dk_154 0 6 (dk_at dksX5_day_0 20 rfl rfl)
theorem dX5_day_23 : decode cX5_day 23 = .ok (.bipush (-2), 2) := dk_16 254 (dk_at dksX5_day_1 0 rfl rfl)
theorem dX5_day_25 : decode cX5_day 25 = .ok (.ireturn, 1) := dk_172 (dk_at dksX5_day_1 2 rfl rfl)
theorem dX5_day_26 : decode cX5_day 26 = .ok (.iload_n 2, 1) := dk_28 (dk_at dksX5_day_1 3 rfl rfl)
theorem dX5_day_27 : decode cX5_day 27 = .ok (.tableswitch 80 3 7 #[33, 43, 53, 63, 73], 33) := by decide +kernel
theorem dX5_day_60 : decode cX5_day 60 = .ok (.aload_n 0, 1) := dk_42 (dk_at dksX5_day_3 0 rfl rfl)
theorem dX5_day_61 : decode cX5_day 61 = .ok (.getfield 117, 3) := dk_180 0 117 (dk_at dksX5_day_3 1 rfl rfl)
theorem dX5_day_64 : decode cX5_day 64 = .ok (.bipush 18, 2) := dk_16 18 (dk_at dksX5_day_3 4 rfl rfl)
theorem dX5_day_66 : decode cX5_day 66 = .ok (.iload_n 1, 1) := dk_27 (dk_at dksX5_day_3 6 rfl rfl)
theorem dX5_day_67 : decode cX5_day 67 = .ok (.iadd, 1) := dk_96 (dk_at dksX5_day_3 7 rfl rfl)
theorem dX5_day_68 : decode cX5_day 68 = .ok (.iaload, 1) := dk_46 (dk_at dksX5_day_3 8 rfl rfl)
theorem dX5_day_69 : decode cX5_day 69 = .ok (.ireturn, 1) := dk_172 (dk_at dksX5_day_3 9 rfl rfl)
theorem dX5_day_70 : decode cX5_day 70 = .ok (.aload_n 0, 1) := dk_42 (dk_at dksX5_day_3 10 rfl rfl)
theorem dX5_day_71 : decode cX5_day 71 = .ok (.getfield 117, 3) := dk_180 0 117 (dk_at dksX5_day_3 11 rfl rfl)
theorem dX5_day_74 : decode cX5_day 74 = .ok (.bipush 6, 2) := dk_16 6 (dk_at dksX5_day_3 14 rfl rfl)
theorem dX5_day_76 : decode cX5_day 76 = .ok (.iload_n 1, 1) := dk_27 (dk_at dksX5_day_3 16 rfl rfl)
theorem dX5_day_77 : decode cX5_day 77 = .ok (.iadd, 1) := dk_96 (dk_at dksX5_day_3 17 rfl rfl)
theorem dX5_day_78 : decode cX5_day 78 = .ok (.iaload, 1) := dk_46 (dk_at dksX5_day_3 18 rfl rfl)
theorem dX5_day_79 : decode cX5_day 79 = .ok (.ireturn, 1) := dk_172 (dk_at dksX5_day_3 19 rfl rfl)
theorem dX5_day_80 : decode cX5_day 80 = .ok (.aload_n 0, 1) := dk_42 (dk_at dksX5_day_3 20 rfl rfl)
theorem dX5_day_81 : decode cX5_day 81 = .ok (.getfield 117, 3) := dk_180 0 117 (dk_at dksX5_day_3 21 rfl rfl)
theorem dX5_day_84 : decode cX5_day 84 = .ok (.bipush 12, 2) := dk_16 12 (dk_at dksX5_day_4 0 rfl rfl)
theorem dX5_day_86 : decode cX5_day 86 = .ok (.iload_n 1, 1) := dk_27 (dk_at dksX5_day_4 2 rfl rfl)
theorem dX5_day_87 : decode cX5_day 87 = .ok (.iadd, 1) := dk_96 (dk_at dksX5_day_4 3 rfl rfl)
theorem dX5_day_88 : decode cX5_day 88 = .ok (.iaload, 1) := dk_46 (dk_at dksX5_day_4 4 rfl rfl)
theorem dX5_day_89 : decode cX5_day 89 = .ok (.ireturn, 1) := dk_172 (dk_at dksX5_day_4 5 rfl rfl)
theorem dX5_day_90 : decode cX5_day 90 = .ok (.aload_n 0, 1) := dk_42 (dk_at dksX5_day_4 6 rfl rfl)
theorem dX5_day_91 : decode cX5_day 91 = .ok (.getfield 117, 3) := dk_180 0 117 (dk_at dksX5_day_4 7 rfl rfl)
theorem dX5_day_94 : decode cX5_day 94 = .ok (.bipush 24, 2) := dk_16 24 (dk_at dksX5_day_4 10 rfl rfl)
theorem dX5_day_96 : decode cX5_day 96 = .ok (.iload_n 1, 1) := dk_27 (dk_at dksX5_day_4 12 rfl rfl)
theorem dX5_day_97 : decode cX5_day 97 = .ok (.iadd, 1) := dk_96 (dk_at dksX5_day_4 13 rfl rfl)
theorem dX5_day_98 : decode cX5_day 98 = .ok (.iaload, 1) := dk_46 (dk_at dksX5_day_4 14 rfl rfl)
theorem dX5_day_99 : decode cX5_day 99 = .ok (.ireturn, 1) := dk_172 (dk_at dksX5_day_4 15 rfl rfl)
theorem dX5_day_100 : decode cX5_day 100 = .ok (.aload_n 0, 1) := dk_42 (dk_at dksX5_day_4 16 rfl rfl)
theorem dX5_day_101 : decode cX5_day 101 = .ok (.iload_n 1, 1) := dk_27 (dk_at dksX5_day_4 17 rfl rfl)
theorem dX5_day_102 : decode cX5_day 102 = .ok (.iconst 4, 1) := dk_7 (dk_at dksX5_day_4 18 rfl rfl)
theorem dX5_day_103 : decode cX5_day 103 = .ok (.invokevirtual 280, 3) := dk_182 1 24 (dk_at dksX5_day_4 19 rfl rfl)
theorem dX5_day_106 : decode cX5_day 106 = .ok (.ireturn, 1) := dk_172 (dk_at dksX5_day_4 22 rfl rfl)
theorem dX5_day_107 : decode cX5_day 107 = .ok (.aload_n 0, 1) := dk_42 (dk_at dksX5_day_4 23 rfl rfl)
theorem dX5_day_108 : decode cX5_day 108 = .ok (.iload_n 1, 1) := dk_27 (dk_at dksX5_day_5 0 rfl rfl)
theorem dX5_day_109 : decode cX5_day 109 = .ok (.iload_n 2, 1) := dk_28 (dk_at dksX5_day_5 1 rfl rfl)
theorem dX5_day_110 : decode cX5_day 110 = .ok (.invokevirtual 280, 3) := dk_182 1 24 (dk_at dksX5_day_5 2 rfl rfl)
theorem dX5_day_113 : decode cX5_day 113 = .ok (.ireturn, 1) := dk_172 (dk_at dksX5_day_5 5 rfl rfl)
abbrev cX5_isDay : ByteArray := prog_23_method_51_code
def yX5_isDay : MethodName := ⟨RX5, "isDay", "(I)Z"⟩
def dkwX5_isDay_0 : List UInt8 := [27, 155, 0, 15, 27, 42, 182, 1, 21, 162, 0, 7, 4, 167, 0, 4, 3, 172]
abbrev dktX5_isDay_0 : List UInt8 := dkwX5_isDay_0 ++ []
theorem dksX5_isDay_0 : cX5_isDay.data.toList.drop 0 = dktX5_isDay_0 := by decide +kernel
theorem dX5_isDay_0 : decode cX5_isDay 0 = .ok (.iload_n 1, 1) := dk_27 (dk_at dksX5_isDay_0 0 rfl rfl)
theorem dX5_isDay_1 : decode cX5_isDay 1 = .ok (.ifCond .lt 15, 3) := dk_155 0 15 (dk_at dksX5_isDay_0 1 rfl rfl)
theorem dX5_isDay_4 : decode cX5_isDay 4 = .ok (.iload_n 1, 1) := dk_27 (dk_at dksX5_isDay_0 4 rfl rfl)
theorem dX5_isDay_5 : decode cX5_isDay 5 = .ok (.aload_n 0, 1) := dk_42 (dk_at dksX5_isDay_0 5 rfl rfl)
theorem dX5_isDay_6 : decode cX5_isDay 6 = .ok (.invokevirtual 277, 3) := dk_182 1 21 (dk_at dksX5_isDay_0 6 rfl rfl)
theorem dX5_isDay_9 : decode cX5_isDay 9 = .ok (.if_icmp .ge 7, 3) := dk_162 0 7 (dk_at dksX5_isDay_0 9 rfl rfl)
theorem dX5_isDay_12 : decode cX5_isDay 12 = .ok (.iconst 1, 1) := dk_4 (dk_at dksX5_isDay_0 12 rfl rfl)
theorem dX5_isDay_13 : decode cX5_isDay 13 = .ok (.goto 4, 3) := dk_167 0 4 (dk_at dksX5_isDay_0 13 rfl rfl)
theorem dX5_isDay_16 : decode cX5_isDay 16 = .ok (.iconst 0, 1) := dk_3 (dk_at dksX5_isDay_0 16 rfl rfl)
theorem dX5_isDay_17 : decode cX5_isDay 17 = .ok (.ireturn, 1) := dk_172 (dk_at dksX5_isDay_0 17 rfl rfl)
abbrev cX5_date : ByteArray := prog_23_method_66_code
def yX5_date : MethodName := ⟨RX5, "date", "()I"⟩
def dkwX5_date_0 : List UInt8 := [42, 3, 181, 0, 1, 42, 182, 1, 85, 42, 3, 182, 1, 88, 42, 180, 1, 57, 172]
abbrev dktX5_date_0 : List UInt8 := dkwX5_date_0 ++ []
theorem dksX5_date_0 : cX5_date.data.toList.drop 0 = dktX5_date_0 := by decide +kernel
theorem dX5_date_0 : decode cX5_date 0 = .ok (.aload_n 0, 1) := dk_42 (dk_at dksX5_date_0 0 rfl rfl)
theorem dX5_date_1 : decode cX5_date 1 = .ok (.iconst 0, 1) := dk_3 (dk_at dksX5_date_0 1 rfl rfl)
theorem dX5_date_2 : decode cX5_date 2 = .ok (.putfield 1, 3) := dk_181 0 1 (dk_at dksX5_date_0 2 rfl rfl)
theorem dX5_date_5 : decode cX5_date 5 = .ok (.aload_n 0, 1) := dk_42 (dk_at dksX5_date_0 5 rfl rfl)
theorem dX5_date_6 : decode cX5_date 6 = .ok (.invokevirtual 341, 3) := dk_182 1 85 (dk_at dksX5_date_0 6 rfl rfl)
theorem dX5_date_9 : decode cX5_date 9 = .ok (.aload_n 0, 1) := dk_42 (dk_at dksX5_date_0 9 rfl rfl)
theorem dX5_date_10 : decode cX5_date 10 = .ok (.iconst 0, 1) := dk_3 (dk_at dksX5_date_0 10 rfl rfl)
theorem dX5_date_11 : decode cX5_date 11 = .ok (.invokevirtual 344, 3) := dk_182 1 88 (dk_at dksX5_date_0 11 rfl rfl)
theorem dX5_date_14 : decode cX5_date 14 = .ok (.aload_n 0, 1) := dk_42 (dk_at dksX5_date_0 14 rfl rfl)
theorem dX5_date_15 : decode cX5_date 15 = .ok (.getfield 313, 3) := dk_180 1 57 (dk_at dksX5_date_0 15 rfl rfl)
theorem dX5_date_18 : decode cX5_date 18 = .ok (.ireturn, 1) := dk_172 (dk_at dksX5_date_0 18 rfl rfl)
abbrev cX5_keeps : ByteArray := prog_23_method_45_code
def yX5_keeps : MethodName := ⟨RX5, "keeps", "()V"⟩
def dkwX5_keeps_3 : List UInt8 := [180, 1, 33, 4, 96, 181, 1, 33, 177]
abbrev dktX5_keeps_3 : List UInt8 := dkwX5_keeps_3 ++ []
def dkwX5_keeps_2 : List UInt8 := [4, 100, 181, 1, 33, 42, 3, 16, 47, 8, 42, 180, 1, 33, 96, 104, 16, 30, 182, 1, 36, 42, 89]
abbrev dktX5_keeps_2 : List UInt8 := dkwX5_keeps_2 ++ dktX5_keeps_3
def dkwX5_keeps_1 : List UInt8 := [16, 47, 8, 27, 96, 4, 100, 104, 16, 30, 182, 1, 36, 132, 1, 1, 167, 255, 227, 42, 89, 180, 1, 33]
abbrev dktX5_keeps_1 : List UInt8 := dkwX5_keeps_1 ++ dktX5_keeps_2
def dkwX5_keeps_0 : List UInt8 := [42, 180, 1, 33, 16, 16, 160, 0, 47, 4, 60, 27, 16, 16, 162, 0, 29, 42, 16, 47, 8, 27, 96, 104]
abbrev dktX5_keeps_0 : List UInt8 := dkwX5_keeps_0 ++ dktX5_keeps_1
theorem dksX5_keeps_0 : cX5_keeps.data.toList.drop 0 = dktX5_keeps_0 := by decide +kernel
theorem dksX5_keeps_1 : cX5_keeps.data.toList.drop 24 = dktX5_keeps_1 := dk_seg dksX5_keeps_0 24 rfl rfl
theorem dksX5_keeps_2 : cX5_keeps.data.toList.drop 48 = dktX5_keeps_2 := dk_seg dksX5_keeps_1 24 rfl rfl
theorem dksX5_keeps_3 : cX5_keeps.data.toList.drop 71 = dktX5_keeps_3 := dk_seg dksX5_keeps_2 23 rfl rfl
theorem dX5_keeps_0 : decode cX5_keeps 0 = .ok (.aload_n 0, 1) := dk_42 (dk_at dksX5_keeps_0 0 rfl rfl)
theorem dX5_keeps_1 : decode cX5_keeps 1 = .ok (.getfield 289, 3) := dk_180 1 33 (dk_at dksX5_keeps_0 1 rfl rfl)
theorem dX5_keeps_4 : decode cX5_keeps 4 = .ok (.bipush 16, 2) := dk_16 16 (dk_at dksX5_keeps_0 4 rfl rfl)
theorem dX5_keeps_6 : decode cX5_keeps 6 = .ok (.if_icmp .ne 47, 3) := dk_160 0 47 (dk_at dksX5_keeps_0 6 rfl rfl)
theorem dX5_keeps_9 : decode cX5_keeps 9 = .ok (.iconst 1, 1) := dk_4 (dk_at dksX5_keeps_0 9 rfl rfl)
theorem dX5_keeps_10 : decode cX5_keeps 10 = .ok (.istore_n 1, 1) := dk_60 (dk_at dksX5_keeps_0 10 rfl rfl)
theorem dX5_keeps_11 : decode cX5_keeps 11 = .ok (.iload_n 1, 1) := dk_27 (dk_at dksX5_keeps_0 11 rfl rfl)
theorem dX5_keeps_12 : decode cX5_keeps 12 = .ok (.bipush 16, 2) := dk_16 16 (dk_at dksX5_keeps_0 12 rfl rfl)
theorem dX5_keeps_14 : decode cX5_keeps 14 = .ok (.if_icmp .ge 29, 3) := dk_162 0 29 (dk_at dksX5_keeps_0 14 rfl rfl)
theorem dX5_keeps_17 : decode cX5_keeps 17 = .ok (.aload_n 0, 1) := dk_42 (dk_at dksX5_keeps_0 17 rfl rfl)
theorem dX5_keeps_18 : decode cX5_keeps 18 = .ok (.bipush 47, 2) := dk_16 47 (dk_at dksX5_keeps_0 18 rfl rfl)
theorem dX5_keeps_20 : decode cX5_keeps 20 = .ok (.iconst 5, 1) := dk_8 (dk_at dksX5_keeps_0 20 rfl rfl)
theorem dX5_keeps_21 : decode cX5_keeps 21 = .ok (.iload_n 1, 1) := dk_27 (dk_at dksX5_keeps_0 21 rfl rfl)
theorem dX5_keeps_22 : decode cX5_keeps 22 = .ok (.iadd, 1) := dk_96 (dk_at dksX5_keeps_0 22 rfl rfl)
theorem dX5_keeps_23 : decode cX5_keeps 23 = .ok (.imul, 1) := dk_104 (dk_at dksX5_keeps_0 23 rfl rfl)
theorem dX5_keeps_24 : decode cX5_keeps 24 = .ok (.bipush 47, 2) := dk_16 47 (dk_at dksX5_keeps_1 0 rfl rfl)
theorem dX5_keeps_26 : decode cX5_keeps 26 = .ok (.iconst 5, 1) := dk_8 (dk_at dksX5_keeps_1 2 rfl rfl)
theorem dX5_keeps_27 : decode cX5_keeps 27 = .ok (.iload_n 1, 1) := dk_27 (dk_at dksX5_keeps_1 3 rfl rfl)
theorem dX5_keeps_28 : decode cX5_keeps 28 = .ok (.iadd, 1) := dk_96 (dk_at dksX5_keeps_1 4 rfl rfl)
theorem dX5_keeps_29 : decode cX5_keeps 29 = .ok (.iconst 1, 1) := dk_4 (dk_at dksX5_keeps_1 5 rfl rfl)
theorem dX5_keeps_30 : decode cX5_keeps 30 = .ok (.isub, 1) := dk_100 (dk_at dksX5_keeps_1 6 rfl rfl)
theorem dX5_keeps_31 : decode cX5_keeps 31 = .ok (.imul, 1) := dk_104 (dk_at dksX5_keeps_1 7 rfl rfl)
theorem dX5_keeps_32 : decode cX5_keeps 32 = .ok (.bipush 30, 2) := dk_16 30 (dk_at dksX5_keeps_1 8 rfl rfl)
theorem dX5_keeps_34 : decode cX5_keeps 34 = .ok (.invokevirtual 292, 3) := dk_182 1 36 (dk_at dksX5_keeps_1 10 rfl rfl)
theorem dX5_keeps_37 : decode cX5_keeps 37 = .ok (.iinc 1 1, 3) := dk_132 1 1 (dk_at dksX5_keeps_1 13 rfl rfl)
theorem dX5_keeps_40 : decode cX5_keeps 40 = .ok (.goto (-29), 3) := dk_167 255 227 (dk_at dksX5_keeps_1 16 rfl rfl)
theorem dX5_keeps_43 : decode cX5_keeps 43 = .ok (.aload_n 0, 1) := dk_42 (dk_at dksX5_keeps_1 19 rfl rfl)
theorem dX5_keeps_44 : decode cX5_keeps 44 = .ok (.dup, 1) := dk_89 (dk_at dksX5_keeps_1 20 rfl rfl)
theorem dX5_keeps_45 : decode cX5_keeps 45 = .ok (.getfield 289, 3) := dk_180 1 33 (dk_at dksX5_keeps_1 21 rfl rfl)
theorem dX5_keeps_48 : decode cX5_keeps 48 = .ok (.iconst 1, 1) := dk_4 (dk_at dksX5_keeps_2 0 rfl rfl)
theorem dX5_keeps_49 : decode cX5_keeps 49 = .ok (.isub, 1) := dk_100 (dk_at dksX5_keeps_2 1 rfl rfl)
theorem dX5_keeps_50 : decode cX5_keeps 50 = .ok (.putfield 289, 3) := dk_181 1 33 (dk_at dksX5_keeps_2 2 rfl rfl)
theorem dX5_keeps_53 : decode cX5_keeps 53 = .ok (.aload_n 0, 1) := dk_42 (dk_at dksX5_keeps_2 5 rfl rfl)
theorem dX5_keeps_54 : decode cX5_keeps 54 = .ok (.iconst 0, 1) := dk_3 (dk_at dksX5_keeps_2 6 rfl rfl)
theorem dX5_keeps_55 : decode cX5_keeps 55 = .ok (.bipush 47, 2) := dk_16 47 (dk_at dksX5_keeps_2 7 rfl rfl)
theorem dX5_keeps_57 : decode cX5_keeps 57 = .ok (.iconst 5, 1) := dk_8 (dk_at dksX5_keeps_2 9 rfl rfl)
theorem dX5_keeps_58 : decode cX5_keeps 58 = .ok (.aload_n 0, 1) := dk_42 (dk_at dksX5_keeps_2 10 rfl rfl)
theorem dX5_keeps_59 : decode cX5_keeps 59 = .ok (.getfield 289, 3) := dk_180 1 33 (dk_at dksX5_keeps_2 11 rfl rfl)
theorem dX5_keeps_62 : decode cX5_keeps 62 = .ok (.iadd, 1) := dk_96 (dk_at dksX5_keeps_2 14 rfl rfl)
theorem dX5_keeps_63 : decode cX5_keeps 63 = .ok (.imul, 1) := dk_104 (dk_at dksX5_keeps_2 15 rfl rfl)
theorem dX5_keeps_64 : decode cX5_keeps 64 = .ok (.bipush 30, 2) := dk_16 30 (dk_at dksX5_keeps_2 16 rfl rfl)
theorem dX5_keeps_66 : decode cX5_keeps 66 = .ok (.invokevirtual 292, 3) := dk_182 1 36 (dk_at dksX5_keeps_2 18 rfl rfl)
theorem dX5_keeps_69 : decode cX5_keeps 69 = .ok (.aload_n 0, 1) := dk_42 (dk_at dksX5_keeps_2 21 rfl rfl)
theorem dX5_keeps_70 : decode cX5_keeps 70 = .ok (.dup, 1) := dk_89 (dk_at dksX5_keeps_2 22 rfl rfl)
theorem dX5_keeps_71 : decode cX5_keeps 71 = .ok (.getfield 289, 3) := dk_180 1 33 (dk_at dksX5_keeps_3 0 rfl rfl)
theorem dX5_keeps_74 : decode cX5_keeps 74 = .ok (.iconst 1, 1) := dk_4 (dk_at dksX5_keeps_3 3 rfl rfl)
theorem dX5_keeps_75 : decode cX5_keeps 75 = .ok (.iadd, 1) := dk_96 (dk_at dksX5_keeps_3 4 rfl rfl)
theorem dX5_keeps_76 : decode cX5_keeps 76 = .ok (.putfield 289, 3) := dk_181 1 33 (dk_at dksX5_keeps_3 5 rfl rfl)
theorem dX5_keeps_79 : decode cX5_keeps 79 = .ok (.return_, 1) := dk_177 (dk_at dksX5_keeps_3 8 rfl rfl)
abbrev cX5_copies : ByteArray := prog_23_method_41_code
def yX5_copies : MethodName := ⟨RX5, "copies", "(III)V"⟩
def dkwX5_copies_1 : List UInt8 := [96, 46, 79, 132, 4, 1, 167, 255, 229, 177]
abbrev dktX5_copies_1 : List UInt8 := dkwX5_copies_1 ++ []
def dkwX5_copies_0 : List UInt8 := [3, 54, 4, 21, 4, 29, 162, 0, 27, 42, 180, 0, 117, 28, 21, 4, 96, 42, 180, 0, 117, 27, 21, 4]
abbrev dktX5_copies_0 : List UInt8 := dkwX5_copies_0 ++ dktX5_copies_1
theorem dksX5_copies_0 : cX5_copies.data.toList.drop 0 = dktX5_copies_0 := by decide +kernel
theorem dksX5_copies_1 : cX5_copies.data.toList.drop 24 = dktX5_copies_1 := dk_seg dksX5_copies_0 24 rfl rfl
theorem dX5_copies_0 : decode cX5_copies 0 = .ok (.iconst 0, 1) := dk_3 (dk_at dksX5_copies_0 0 rfl rfl)
theorem dX5_copies_1 : decode cX5_copies 1 = .ok (.istore 4, 2) := dk_54 4 (dk_at dksX5_copies_0 1 rfl rfl)
theorem dX5_copies_3 : decode cX5_copies 3 = .ok (.iload 4, 2) := dk_21 4 (dk_at dksX5_copies_0 3 rfl rfl)
theorem dX5_copies_5 : decode cX5_copies 5 = .ok (.iload_n 3, 1) := dk_29 (dk_at dksX5_copies_0 5 rfl rfl)
theorem dX5_copies_6 : decode cX5_copies 6 = .ok (.if_icmp .ge 27, 3) := dk_162 0 27 (dk_at dksX5_copies_0 6 rfl rfl)
theorem dX5_copies_9 : decode cX5_copies 9 = .ok (.aload_n 0, 1) := dk_42 (dk_at dksX5_copies_0 9 rfl rfl)
theorem dX5_copies_10 : decode cX5_copies 10 = .ok (.getfield 117, 3) := dk_180 0 117 (dk_at dksX5_copies_0 10 rfl rfl)
theorem dX5_copies_13 : decode cX5_copies 13 = .ok (.iload_n 2, 1) := dk_28 (dk_at dksX5_copies_0 13 rfl rfl)
theorem dX5_copies_14 : decode cX5_copies 14 = .ok (.iload 4, 2) := dk_21 4 (dk_at dksX5_copies_0 14 rfl rfl)
theorem dX5_copies_16 : decode cX5_copies 16 = .ok (.iadd, 1) := dk_96 (dk_at dksX5_copies_0 16 rfl rfl)
theorem dX5_copies_17 : decode cX5_copies 17 = .ok (.aload_n 0, 1) := dk_42 (dk_at dksX5_copies_0 17 rfl rfl)
theorem dX5_copies_18 : decode cX5_copies 18 = .ok (.getfield 117, 3) := dk_180 0 117 (dk_at dksX5_copies_0 18 rfl rfl)
theorem dX5_copies_21 : decode cX5_copies 21 = .ok (.iload_n 1, 1) := dk_27 (dk_at dksX5_copies_0 21 rfl rfl)
theorem dX5_copies_22 : decode cX5_copies 22 = .ok (.iload 4, 2) := dk_21 4 (dk_at dksX5_copies_0 22 rfl rfl)
theorem dX5_copies_24 : decode cX5_copies 24 = .ok (.iadd, 1) := dk_96 (dk_at dksX5_copies_1 0 rfl rfl)
theorem dX5_copies_25 : decode cX5_copies 25 = .ok (.iaload, 1) := dk_46 (dk_at dksX5_copies_1 1 rfl rfl)
theorem dX5_copies_26 : decode cX5_copies 26 = .ok (.iastore, 1) := dk_79 (dk_at dksX5_copies_1 2 rfl rfl)
theorem dX5_copies_27 : decode cX5_copies 27 = .ok (.iinc 4 1, 3) := dk_132 4 1 (dk_at dksX5_copies_1 3 rfl rfl)
theorem dX5_copies_30 : decode cX5_copies 30 = .ok (.goto (-27), 3) := dk_167 255 229 (dk_at dksX5_copies_1 6 rfl rfl)
theorem dX5_copies_33 : decode cX5_copies 33 = .ok (.return_, 1) := dk_177 (dk_at dksX5_copies_1 9 rfl rfl)
abbrev cX5_passes : ByteArray := prog_23_method_62_code
def yX5_passes : MethodName := ⟨RX5, "passes", "(I)V"⟩
def dkwX5_passes_6 : List UInt8 := [28, 182, 1, 73, 132, 2, 1, 167, 255, 202, 177]
abbrev dktX5_passes_6 : List UInt8 := dkwX5_passes_6 ++ []
def dkwX5_passes_5 : List UInt8 := [180, 0, 117, 27, 16, 18, 96, 28, 96, 46, 158, 0, 18, 42, 27, 28, 182, 1, 69, 153, 0, 9, 42, 27]
abbrev dktX5_passes_5 : List UInt8 := dkwX5_passes_5 ++ dktX5_passes_6
def dkwX5_passes_4 : List UInt8 := [28, 42, 182, 1, 21, 162, 0, 52, 42, 180, 0, 117, 27, 16, 6, 96, 28, 96, 46, 156, 0, 32, 42]
abbrev dktX5_passes_4 : List UInt8 := dkwX5_passes_4 ++ dktX5_passes_5
def dkwX5_passes_3 : List UInt8 := [46, 42, 180, 0, 87, 5, 46, 160, 0, 9, 42, 27, 28, 182, 1, 66, 132, 2, 1, 167, 255, 190, 3, 61]
abbrev dktX5_passes_3 : List UInt8 := dkwX5_passes_3 ++ dktX5_passes_4
def dkwX5_passes_2 : List UInt8 := [180, 0, 117, 27, 16, 12, 96, 28, 96, 92, 46, 4, 96, 79, 42, 180, 0, 117, 27, 16, 12, 96, 28, 96]
abbrev dktX5_passes_2 : List UInt8 := dkwX5_passes_2 ++ dktX5_passes_3
def dkwX5_passes_1 : List UInt8 := [28, 42, 182, 1, 21, 162, 0, 64, 42, 180, 0, 117, 27, 16, 6, 96, 28, 96, 46, 155, 0, 44, 42]
abbrev dktX5_passes_1 : List UInt8 := dkwX5_passes_1 ++ dktX5_passes_2
def dkwX5_passes_0 : List UInt8 := [42, 180, 0, 117, 27, 3, 96, 92, 46, 4, 96, 79, 42, 3, 181, 1, 57, 42, 3, 181, 1, 54, 3, 61]
abbrev dktX5_passes_0 : List UInt8 := dkwX5_passes_0 ++ dktX5_passes_1
theorem dksX5_passes_0 : cX5_passes.data.toList.drop 0 = dktX5_passes_0 := by decide +kernel
theorem dksX5_passes_1 : cX5_passes.data.toList.drop 24 = dktX5_passes_1 := dk_seg dksX5_passes_0 24 rfl rfl
theorem dksX5_passes_2 : cX5_passes.data.toList.drop 47 = dktX5_passes_2 := dk_seg dksX5_passes_1 23 rfl rfl
theorem dksX5_passes_3 : cX5_passes.data.toList.drop 71 = dktX5_passes_3 := dk_seg dksX5_passes_2 24 rfl rfl
theorem dksX5_passes_4 : cX5_passes.data.toList.drop 95 = dktX5_passes_4 := dk_seg dksX5_passes_3 24 rfl rfl
theorem dksX5_passes_5 : cX5_passes.data.toList.drop 118 = dktX5_passes_5 := dk_seg dksX5_passes_4 23 rfl rfl
theorem dksX5_passes_6 : cX5_passes.data.toList.drop 142 = dktX5_passes_6 := dk_seg dksX5_passes_5 24 rfl rfl
theorem dX5_passes_0 : decode cX5_passes 0 = .ok (.aload_n 0, 1) := dk_42 (dk_at dksX5_passes_0 0 rfl rfl)
theorem dX5_passes_1 : decode cX5_passes 1 = .ok (.getfield 117, 3) := dk_180 0 117 (dk_at dksX5_passes_0 1 rfl rfl)
theorem dX5_passes_4 : decode cX5_passes 4 = .ok (.iload_n 1, 1) := dk_27 (dk_at dksX5_passes_0 4 rfl rfl)
theorem dX5_passes_5 : decode cX5_passes 5 = .ok (.iconst 0, 1) := dk_3 (dk_at dksX5_passes_0 5 rfl rfl)
theorem dX5_passes_6 : decode cX5_passes 6 = .ok (.iadd, 1) := dk_96 (dk_at dksX5_passes_0 6 rfl rfl)
theorem dX5_passes_7 : decode cX5_passes 7 = .ok (.dup2, 1) := dk_92 (dk_at dksX5_passes_0 7 rfl rfl)
theorem dX5_passes_8 : decode cX5_passes 8 = .ok (.iaload, 1) := dk_46 (dk_at dksX5_passes_0 8 rfl rfl)
theorem dX5_passes_9 : decode cX5_passes 9 = .ok (.iconst 1, 1) := dk_4 (dk_at dksX5_passes_0 9 rfl rfl)
theorem dX5_passes_10 : decode cX5_passes 10 = .ok (.iadd, 1) := dk_96 (dk_at dksX5_passes_0 10 rfl rfl)
theorem dX5_passes_11 : decode cX5_passes 11 = .ok (.iastore, 1) := dk_79 (dk_at dksX5_passes_0 11 rfl rfl)
theorem dX5_passes_12 : decode cX5_passes 12 = .ok (.aload_n 0, 1) := dk_42 (dk_at dksX5_passes_0 12 rfl rfl)
theorem dX5_passes_13 : decode cX5_passes 13 = .ok (.iconst 0, 1) := dk_3 (dk_at dksX5_passes_0 13 rfl rfl)
theorem dX5_passes_14 : decode cX5_passes 14 = .ok (.putfield 313, 3) := dk_181 1 57 (dk_at dksX5_passes_0 14 rfl rfl)
theorem dX5_passes_17 : decode cX5_passes 17 = .ok (.aload_n 0, 1) := dk_42 (dk_at dksX5_passes_0 17 rfl rfl)
theorem dX5_passes_18 : decode cX5_passes 18 = .ok (.iconst 0, 1) := dk_3 (dk_at dksX5_passes_0 18 rfl rfl)
theorem dX5_passes_19 : decode cX5_passes 19 = .ok (.putfield 310, 3) := dk_181 1 54 (dk_at dksX5_passes_0 19 rfl rfl)
theorem dX5_passes_22 : decode cX5_passes 22 = .ok (.iconst 0, 1) := dk_3 (dk_at dksX5_passes_0 22 rfl rfl)
theorem dX5_passes_23 : decode cX5_passes 23 = .ok (.istore_n 2, 1) := dk_61 (dk_at dksX5_passes_0 23 rfl rfl)
theorem dX5_passes_24 : decode cX5_passes 24 = .ok (.iload_n 2, 1) := dk_28 (dk_at dksX5_passes_1 0 rfl rfl)
theorem dX5_passes_25 : decode cX5_passes 25 = .ok (.aload_n 0, 1) := dk_42 (dk_at dksX5_passes_1 1 rfl rfl)
theorem dX5_passes_26 : decode cX5_passes 26 = .ok (.invokevirtual 277, 3) := dk_182 1 21 (dk_at dksX5_passes_1 2 rfl rfl)
theorem dX5_passes_29 : decode cX5_passes 29 = .ok (.if_icmp .ge 64, 3) := dk_162 0 64 (dk_at dksX5_passes_1 5 rfl rfl)
theorem dX5_passes_32 : decode cX5_passes 32 = .ok (.aload_n 0, 1) := dk_42 (dk_at dksX5_passes_1 8 rfl rfl)
theorem dX5_passes_33 : decode cX5_passes 33 = .ok (.getfield 117, 3) := dk_180 0 117 (dk_at dksX5_passes_1 9 rfl rfl)
theorem dX5_passes_36 : decode cX5_passes 36 = .ok (.iload_n 1, 1) := dk_27 (dk_at dksX5_passes_1 12 rfl rfl)
theorem dX5_passes_37 : decode cX5_passes 37 = .ok (.bipush 6, 2) := dk_16 6 (dk_at dksX5_passes_1 13 rfl rfl)
theorem dX5_passes_39 : decode cX5_passes 39 = .ok (.iadd, 1) := dk_96 (dk_at dksX5_passes_1 15 rfl rfl)
theorem dX5_passes_40 : decode cX5_passes 40 = .ok (.iload_n 2, 1) := dk_28 (dk_at dksX5_passes_1 16 rfl rfl)
theorem dX5_passes_41 : decode cX5_passes 41 = .ok (.iadd, 1) := dk_96 (dk_at dksX5_passes_1 17 rfl rfl)
theorem dX5_passes_42 : decode cX5_passes 42 = .ok (.iaload, 1) := dk_46 (dk_at dksX5_passes_1 18 rfl rfl)
theorem dX5_passes_43 : decode cX5_passes 43 = .ok (.ifCond .lt 44, 3) := dk_155 0 44 (dk_at dksX5_passes_1 19 rfl rfl)
theorem dX5_passes_46 : decode cX5_passes 46 = .ok (.aload_n 0, 1) := dk_42 (dk_at dksX5_passes_1 22 rfl rfl)
theorem dX5_passes_47 : decode cX5_passes 47 = .ok (.getfield 117, 3) := dk_180 0 117 (dk_at dksX5_passes_2 0 rfl rfl)
theorem dX5_passes_50 : decode cX5_passes 50 = .ok (.iload_n 1, 1) := dk_27 (dk_at dksX5_passes_2 3 rfl rfl)
theorem dX5_passes_51 : decode cX5_passes 51 = .ok (.bipush 12, 2) := dk_16 12 (dk_at dksX5_passes_2 4 rfl rfl)
theorem dX5_passes_53 : decode cX5_passes 53 = .ok (.iadd, 1) := dk_96 (dk_at dksX5_passes_2 6 rfl rfl)
theorem dX5_passes_54 : decode cX5_passes 54 = .ok (.iload_n 2, 1) := dk_28 (dk_at dksX5_passes_2 7 rfl rfl)
theorem dX5_passes_55 : decode cX5_passes 55 = .ok (.iadd, 1) := dk_96 (dk_at dksX5_passes_2 8 rfl rfl)
theorem dX5_passes_56 : decode cX5_passes 56 = .ok (.dup2, 1) := dk_92 (dk_at dksX5_passes_2 9 rfl rfl)
theorem dX5_passes_57 : decode cX5_passes 57 = .ok (.iaload, 1) := dk_46 (dk_at dksX5_passes_2 10 rfl rfl)
theorem dX5_passes_58 : decode cX5_passes 58 = .ok (.iconst 1, 1) := dk_4 (dk_at dksX5_passes_2 11 rfl rfl)
theorem dX5_passes_59 : decode cX5_passes 59 = .ok (.iadd, 1) := dk_96 (dk_at dksX5_passes_2 12 rfl rfl)
theorem dX5_passes_60 : decode cX5_passes 60 = .ok (.iastore, 1) := dk_79 (dk_at dksX5_passes_2 13 rfl rfl)
theorem dX5_passes_61 : decode cX5_passes 61 = .ok (.aload_n 0, 1) := dk_42 (dk_at dksX5_passes_2 14 rfl rfl)
theorem dX5_passes_62 : decode cX5_passes 62 = .ok (.getfield 117, 3) := dk_180 0 117 (dk_at dksX5_passes_2 15 rfl rfl)
theorem dX5_passes_65 : decode cX5_passes 65 = .ok (.iload_n 1, 1) := dk_27 (dk_at dksX5_passes_2 18 rfl rfl)
theorem dX5_passes_66 : decode cX5_passes 66 = .ok (.bipush 12, 2) := dk_16 12 (dk_at dksX5_passes_2 19 rfl rfl)
theorem dX5_passes_68 : decode cX5_passes 68 = .ok (.iadd, 1) := dk_96 (dk_at dksX5_passes_2 21 rfl rfl)
theorem dX5_passes_69 : decode cX5_passes 69 = .ok (.iload_n 2, 1) := dk_28 (dk_at dksX5_passes_2 22 rfl rfl)
theorem dX5_passes_70 : decode cX5_passes 70 = .ok (.iadd, 1) := dk_96 (dk_at dksX5_passes_2 23 rfl rfl)
theorem dX5_passes_71 : decode cX5_passes 71 = .ok (.iaload, 1) := dk_46 (dk_at dksX5_passes_3 0 rfl rfl)
theorem dX5_passes_72 : decode cX5_passes 72 = .ok (.aload_n 0, 1) := dk_42 (dk_at dksX5_passes_3 1 rfl rfl)
theorem dX5_passes_73 : decode cX5_passes 73 = .ok (.getfield 87, 3) := dk_180 0 87 (dk_at dksX5_passes_3 2 rfl rfl)
theorem dX5_passes_76 : decode cX5_passes 76 = .ok (.iconst 2, 1) := dk_5 (dk_at dksX5_passes_3 5 rfl rfl)
theorem dX5_passes_77 : decode cX5_passes 77 = .ok (.iaload, 1) := dk_46 (dk_at dksX5_passes_3 6 rfl rfl)
theorem dX5_passes_78 : decode cX5_passes 78 = .ok (.if_icmp .ne 9, 3) := dk_160 0 9 (dk_at dksX5_passes_3 7 rfl rfl)
theorem dX5_passes_81 : decode cX5_passes 81 = .ok (.aload_n 0, 1) := dk_42 (dk_at dksX5_passes_3 10 rfl rfl)
theorem dX5_passes_82 : decode cX5_passes 82 = .ok (.iload_n 1, 1) := dk_27 (dk_at dksX5_passes_3 11 rfl rfl)
theorem dX5_passes_83 : decode cX5_passes 83 = .ok (.iload_n 2, 1) := dk_28 (dk_at dksX5_passes_3 12 rfl rfl)
theorem dX5_passes_84 : decode cX5_passes 84 = .ok (.invokevirtual 322, 3) := dk_182 1 66 (dk_at dksX5_passes_3 13 rfl rfl)
theorem dX5_passes_87 : decode cX5_passes 87 = .ok (.iinc 2 1, 3) := dk_132 2 1 (dk_at dksX5_passes_3 16 rfl rfl)
theorem dX5_passes_90 : decode cX5_passes 90 = .ok (.goto (-66), 3) := dk_167 255 190 (dk_at dksX5_passes_3 19 rfl rfl)
theorem dX5_passes_93 : decode cX5_passes 93 = .ok (.iconst 0, 1) := dk_3 (dk_at dksX5_passes_3 22 rfl rfl)
theorem dX5_passes_94 : decode cX5_passes 94 = .ok (.istore_n 2, 1) := dk_61 (dk_at dksX5_passes_3 23 rfl rfl)
theorem dX5_passes_95 : decode cX5_passes 95 = .ok (.iload_n 2, 1) := dk_28 (dk_at dksX5_passes_4 0 rfl rfl)
theorem dX5_passes_96 : decode cX5_passes 96 = .ok (.aload_n 0, 1) := dk_42 (dk_at dksX5_passes_4 1 rfl rfl)
theorem dX5_passes_97 : decode cX5_passes 97 = .ok (.invokevirtual 277, 3) := dk_182 1 21 (dk_at dksX5_passes_4 2 rfl rfl)
theorem dX5_passes_100 : decode cX5_passes 100 = .ok (.if_icmp .ge 52, 3) := dk_162 0 52 (dk_at dksX5_passes_4 5 rfl rfl)
theorem dX5_passes_103 : decode cX5_passes 103 = .ok (.aload_n 0, 1) := dk_42 (dk_at dksX5_passes_4 8 rfl rfl)
theorem dX5_passes_104 : decode cX5_passes 104 = .ok (.getfield 117, 3) := dk_180 0 117 (dk_at dksX5_passes_4 9 rfl rfl)
theorem dX5_passes_107 : decode cX5_passes 107 = .ok (.iload_n 1, 1) := dk_27 (dk_at dksX5_passes_4 12 rfl rfl)
theorem dX5_passes_108 : decode cX5_passes 108 = .ok (.bipush 6, 2) := dk_16 6 (dk_at dksX5_passes_4 13 rfl rfl)
theorem dX5_passes_110 : decode cX5_passes 110 = .ok (.iadd, 1) := dk_96 (dk_at dksX5_passes_4 15 rfl rfl)
theorem dX5_passes_111 : decode cX5_passes 111 = .ok (.iload_n 2, 1) := dk_28 (dk_at dksX5_passes_4 16 rfl rfl)
theorem dX5_passes_112 : decode cX5_passes 112 = .ok (.iadd, 1) := dk_96 (dk_at dksX5_passes_4 17 rfl rfl)
theorem dX5_passes_113 : decode cX5_passes 113 = .ok (.iaload, 1) := dk_46 (dk_at dksX5_passes_4 18 rfl rfl)
theorem dX5_passes_114 : decode cX5_passes 114 = .ok (.ifCond .ge 32, 3) := dk_156 0 32 (dk_at dksX5_passes_4 19 rfl rfl)
theorem dX5_passes_117 : decode cX5_passes 117 = .ok (.aload_n 0, 1) := dk_42 (dk_at dksX5_passes_4 22 rfl rfl)
theorem dX5_passes_118 : decode cX5_passes 118 = .ok (.getfield 117, 3) := dk_180 0 117 (dk_at dksX5_passes_5 0 rfl rfl)
theorem dX5_passes_121 : decode cX5_passes 121 = .ok (.iload_n 1, 1) := dk_27 (dk_at dksX5_passes_5 3 rfl rfl)
theorem dX5_passes_122 : decode cX5_passes 122 = .ok (.bipush 18, 2) := dk_16 18 (dk_at dksX5_passes_5 4 rfl rfl)
theorem dX5_passes_124 : decode cX5_passes 124 = .ok (.iadd, 1) := dk_96 (dk_at dksX5_passes_5 6 rfl rfl)
theorem dX5_passes_125 : decode cX5_passes 125 = .ok (.iload_n 2, 1) := dk_28 (dk_at dksX5_passes_5 7 rfl rfl)
theorem dX5_passes_126 : decode cX5_passes 126 = .ok (.iadd, 1) := dk_96 (dk_at dksX5_passes_5 8 rfl rfl)
theorem dX5_passes_127 : decode cX5_passes 127 = .ok (.iaload, 1) := dk_46 (dk_at dksX5_passes_5 9 rfl rfl)
theorem dX5_passes_128 : decode cX5_passes 128 = .ok (.ifCond .le 18, 3) := dk_158 0 18 (dk_at dksX5_passes_5 10 rfl rfl)
theorem dX5_passes_131 : decode cX5_passes 131 = .ok (.aload_n 0, 1) := dk_42 (dk_at dksX5_passes_5 13 rfl rfl)
theorem dX5_passes_132 : decode cX5_passes 132 = .ok (.iload_n 1, 1) := dk_27 (dk_at dksX5_passes_5 14 rfl rfl)
theorem dX5_passes_133 : decode cX5_passes 133 = .ok (.iload_n 2, 1) := dk_28 (dk_at dksX5_passes_5 15 rfl rfl)
theorem dX5_passes_134 : decode cX5_passes 134 = .ok (.invokevirtual 325, 3) := dk_182 1 69 (dk_at dksX5_passes_5 16 rfl rfl)
theorem dX5_passes_137 : decode cX5_passes 137 = .ok (.ifCond .eq 9, 3) := dk_153 0 9 (dk_at dksX5_passes_5 19 rfl rfl)
theorem dX5_passes_140 : decode cX5_passes 140 = .ok (.aload_n 0, 1) := dk_42 (dk_at dksX5_passes_5 22 rfl rfl)
theorem dX5_passes_141 : decode cX5_passes 141 = .ok (.iload_n 1, 1) := dk_27 (dk_at dksX5_passes_5 23 rfl rfl)
theorem dX5_passes_142 : decode cX5_passes 142 = .ok (.iload_n 2, 1) := dk_28 (dk_at dksX5_passes_6 0 rfl rfl)
theorem dX5_passes_143 : decode cX5_passes 143 = .ok (.invokevirtual 329, 3) := dk_182 1 73 (dk_at dksX5_passes_6 1 rfl rfl)
theorem dX5_passes_146 : decode cX5_passes 146 = .ok (.iinc 2 1, 3) := dk_132 2 1 (dk_at dksX5_passes_6 4 rfl rfl)
theorem dX5_passes_149 : decode cX5_passes 149 = .ok (.goto (-54), 3) := dk_167 255 202 (dk_at dksX5_passes_6 7 rfl rfl)
theorem dX5_passes_152 : decode cX5_passes 152 = .ok (.return_, 1) := dk_177 (dk_at dksX5_passes_6 10 rfl rfl)
abbrev cX5_leaves : ByteArray := prog_23_method_58_code
def yX5_leaves : MethodName := ⟨RX5, "leaves", "(II)V"⟩
def dkwX5_leaves_1 : List UInt8 := [177]
abbrev dktX5_leaves_1 : List UInt8 := dkwX5_leaves_1 ++ []
def dkwX5_leaves_0 : List UInt8 := [42, 180, 0, 117, 27, 16, 6, 96, 28, 96, 2, 79, 42, 180, 0, 117, 27, 16, 12, 96, 28, 96, 3, 79]
abbrev dktX5_leaves_0 : List UInt8 := dkwX5_leaves_0 ++ dktX5_leaves_1
theorem dksX5_leaves_0 : cX5_leaves.data.toList.drop 0 = dktX5_leaves_0 := by decide +kernel
theorem dksX5_leaves_1 : cX5_leaves.data.toList.drop 24 = dktX5_leaves_1 := dk_seg dksX5_leaves_0 24 rfl rfl
theorem dX5_leaves_0 : decode cX5_leaves 0 = .ok (.aload_n 0, 1) := dk_42 (dk_at dksX5_leaves_0 0 rfl rfl)
theorem dX5_leaves_1 : decode cX5_leaves 1 = .ok (.getfield 117, 3) := dk_180 0 117 (dk_at dksX5_leaves_0 1 rfl rfl)
theorem dX5_leaves_4 : decode cX5_leaves 4 = .ok (.iload_n 1, 1) := dk_27 (dk_at dksX5_leaves_0 4 rfl rfl)
theorem dX5_leaves_5 : decode cX5_leaves 5 = .ok (.bipush 6, 2) := dk_16 6 (dk_at dksX5_leaves_0 5 rfl rfl)
theorem dX5_leaves_7 : decode cX5_leaves 7 = .ok (.iadd, 1) := dk_96 (dk_at dksX5_leaves_0 7 rfl rfl)
theorem dX5_leaves_8 : decode cX5_leaves 8 = .ok (.iload_n 2, 1) := dk_28 (dk_at dksX5_leaves_0 8 rfl rfl)
theorem dX5_leaves_9 : decode cX5_leaves 9 = .ok (.iadd, 1) := dk_96 (dk_at dksX5_leaves_0 9 rfl rfl)
theorem dX5_leaves_10 : decode cX5_leaves 10 = .ok (.iconst (-1), 1) := dk_2 (dk_at dksX5_leaves_0 10 rfl rfl)
theorem dX5_leaves_11 : decode cX5_leaves 11 = .ok (.iastore, 1) := dk_79 (dk_at dksX5_leaves_0 11 rfl rfl)
theorem dX5_leaves_12 : decode cX5_leaves 12 = .ok (.aload_n 0, 1) := dk_42 (dk_at dksX5_leaves_0 12 rfl rfl)
theorem dX5_leaves_13 : decode cX5_leaves 13 = .ok (.getfield 117, 3) := dk_180 0 117 (dk_at dksX5_leaves_0 13 rfl rfl)
theorem dX5_leaves_16 : decode cX5_leaves 16 = .ok (.iload_n 1, 1) := dk_27 (dk_at dksX5_leaves_0 16 rfl rfl)
theorem dX5_leaves_17 : decode cX5_leaves 17 = .ok (.bipush 12, 2) := dk_16 12 (dk_at dksX5_leaves_0 17 rfl rfl)
theorem dX5_leaves_19 : decode cX5_leaves 19 = .ok (.iadd, 1) := dk_96 (dk_at dksX5_leaves_0 19 rfl rfl)
theorem dX5_leaves_20 : decode cX5_leaves 20 = .ok (.iload_n 2, 1) := dk_28 (dk_at dksX5_leaves_0 20 rfl rfl)
theorem dX5_leaves_21 : decode cX5_leaves 21 = .ok (.iadd, 1) := dk_96 (dk_at dksX5_leaves_0 21 rfl rfl)
theorem dX5_leaves_22 : decode cX5_leaves 22 = .ok (.iconst 0, 1) := dk_3 (dk_at dksX5_leaves_0 22 rfl rfl)
theorem dX5_leaves_23 : decode cX5_leaves 23 = .ok (.iastore, 1) := dk_79 (dk_at dksX5_leaves_0 23 rfl rfl)
theorem dX5_leaves_24 : decode cX5_leaves 24 = .ok (.return_, 1) := dk_177 (dk_at dksX5_leaves_1 0 rfl rfl)
abbrev cX5_isDate : ByteArray := prog_23_method_59_code
def yX5_isDate : MethodName := ⟨RX5, "isDate", "(II)Z"⟩
def dkwX5_isDate_3 : List UInt8 := [3, 96, 46, 16, 12, 108, 7, 112, 154, 0, 7, 4, 167, 0, 4, 3, 172]
abbrev dktX5_isDate_3 : List UInt8 := dkwX5_isDate_3 ++ []
def dkwX5_isDate_2 : List UInt8 := [167, 0, 40, 21, 4, 42, 180, 0, 124, 28, 46, 160, 0, 28, 29, 6, 160, 0, 19, 42, 180, 0, 117, 27]
abbrev dktX5_isDate_2 : List UInt8 := dkwX5_isDate_2 ++ dktX5_isDate_3
def dkwX5_isDate_1 : List UInt8 := [160, 0, 27, 21, 4, 4, 96, 16, 12, 112, 42, 180, 0, 124, 28, 46, 160, 0, 7, 4, 167, 0, 44, 3]
abbrev dktX5_isDate_1 : List UInt8 := dkwX5_isDate_1 ++ dktX5_isDate_2
def dkwX5_isDate_0 : List UInt8 := [42, 28, 3, 182, 1, 24, 62, 42, 180, 0, 117, 27, 3, 96, 46, 16, 12, 112, 54, 4, 29, 5]
abbrev dktX5_isDate_0 : List UInt8 := dkwX5_isDate_0 ++ dktX5_isDate_1
theorem dksX5_isDate_0 : cX5_isDate.data.toList.drop 0 = dktX5_isDate_0 := by decide +kernel
theorem dksX5_isDate_1 : cX5_isDate.data.toList.drop 22 = dktX5_isDate_1 := dk_seg dksX5_isDate_0 22 rfl rfl
theorem dksX5_isDate_2 : cX5_isDate.data.toList.drop 46 = dktX5_isDate_2 := dk_seg dksX5_isDate_1 24 rfl rfl
theorem dksX5_isDate_3 : cX5_isDate.data.toList.drop 70 = dktX5_isDate_3 := dk_seg dksX5_isDate_2 24 rfl rfl
theorem dX5_isDate_0 : decode cX5_isDate 0 = .ok (.aload_n 0, 1) := dk_42 (dk_at dksX5_isDate_0 0 rfl rfl)
theorem dX5_isDate_1 : decode cX5_isDate 1 = .ok (.iload_n 2, 1) := dk_28 (dk_at dksX5_isDate_0 1 rfl rfl)
theorem dX5_isDate_2 : decode cX5_isDate 2 = .ok (.iconst 0, 1) := dk_3 (dk_at dksX5_isDate_0 2 rfl rfl)
theorem dX5_isDate_3 : decode cX5_isDate 3 = .ok (.invokevirtual 280, 3) := dk_182 1 24 (dk_at dksX5_isDate_0 3 rfl rfl)
theorem dX5_isDate_6 : decode cX5_isDate 6 = .ok (.istore_n 3, 1) := dk_62 (dk_at dksX5_isDate_0 6 rfl rfl)
theorem dX5_isDate_7 : decode cX5_isDate 7 = .ok (.aload_n 0, 1) := dk_42 (dk_at dksX5_isDate_0 7 rfl rfl)
theorem dX5_isDate_8 : decode cX5_isDate 8 = .ok (.getfield 117, 3) := dk_180 0 117 (dk_at dksX5_isDate_0 8 rfl rfl)
theorem dX5_isDate_11 : decode cX5_isDate 11 = .ok (.iload_n 1, 1) := dk_27 (dk_at dksX5_isDate_0 11 rfl rfl)
theorem dX5_isDate_12 : decode cX5_isDate 12 = .ok (.iconst 0, 1) := dk_3 (dk_at dksX5_isDate_0 12 rfl rfl)
theorem dX5_isDate_13 : decode cX5_isDate 13 = .ok (.iadd, 1) := dk_96 (dk_at dksX5_isDate_0 13 rfl rfl)
theorem dX5_isDate_14 : decode cX5_isDate 14 = .ok (.iaload, 1) := dk_46 (dk_at dksX5_isDate_0 14 rfl rfl)
theorem dX5_isDate_15 : decode cX5_isDate 15 = .ok (.bipush 12, 2) := dk_16 12 (dk_at dksX5_isDate_0 15 rfl rfl)
theorem dX5_isDate_17 : decode cX5_isDate 17 = .ok (.irem, 1) := dk_112 (dk_at dksX5_isDate_0 17 rfl rfl)
theorem dX5_isDate_18 : decode cX5_isDate 18 = .ok (.istore 4, 2) := dk_54 4 (dk_at dksX5_isDate_0 18 rfl rfl)
theorem dX5_isDate_20 : decode cX5_isDate 20 = .ok (.iload_n 3, 1) := dk_29 (dk_at dksX5_isDate_0 20 rfl rfl)
theorem dX5_isDate_21 : decode cX5_isDate 21 = .ok (.iconst 2, 1) := dk_5 (dk_at dksX5_isDate_0 21 rfl rfl)
theorem dX5_isDate_22 : decode cX5_isDate 22 = .ok (.if_icmp .ne 27, 3) := dk_160 0 27 (dk_at dksX5_isDate_1 0 rfl rfl)
theorem dX5_isDate_25 : decode cX5_isDate 25 = .ok (.iload 4, 2) := dk_21 4 (dk_at dksX5_isDate_1 3 rfl rfl)
theorem dX5_isDate_27 : decode cX5_isDate 27 = .ok (.iconst 1, 1) := dk_4 (dk_at dksX5_isDate_1 5 rfl rfl)
theorem dX5_isDate_28 : decode cX5_isDate 28 = .ok (.iadd, 1) := dk_96 (dk_at dksX5_isDate_1 6 rfl rfl)
theorem dX5_isDate_29 : decode cX5_isDate 29 = .ok (.bipush 12, 2) := dk_16 12 (dk_at dksX5_isDate_1 7 rfl rfl)
theorem dX5_isDate_31 : decode cX5_isDate 31 = .ok (.irem, 1) := dk_112 (dk_at dksX5_isDate_1 9 rfl rfl)
theorem dX5_isDate_32 : decode cX5_isDate 32 = .ok (.aload_n 0, 1) := dk_42 (dk_at dksX5_isDate_1 10 rfl rfl)
theorem dX5_isDate_33 : decode cX5_isDate 33 = .ok (.getfield 124, 3) := dk_180 0 124 (dk_at dksX5_isDate_1 11 rfl rfl)
theorem dX5_isDate_36 : decode cX5_isDate 36 = .ok (.iload_n 2, 1) := dk_28 (dk_at dksX5_isDate_1 14 rfl rfl)
theorem dX5_isDate_37 : decode cX5_isDate 37 = .ok (.iaload, 1) := dk_46 (dk_at dksX5_isDate_1 15 rfl rfl)
theorem dX5_isDate_38 : decode cX5_isDate 38 = .ok (.if_icmp .ne 7, 3) := dk_160 0 7 (dk_at dksX5_isDate_1 16 rfl rfl)
theorem dX5_isDate_41 : decode cX5_isDate 41 = .ok (.iconst 1, 1) := dk_4 (dk_at dksX5_isDate_1 19 rfl rfl)
theorem dX5_isDate_42 : decode cX5_isDate 42 = .ok (.goto 44, 3) := dk_167 0 44 (dk_at dksX5_isDate_1 20 rfl rfl)
theorem dX5_isDate_45 : decode cX5_isDate 45 = .ok (.iconst 0, 1) := dk_3 (dk_at dksX5_isDate_1 23 rfl rfl)
theorem dX5_isDate_46 : decode cX5_isDate 46 = .ok (.goto 40, 3) := dk_167 0 40 (dk_at dksX5_isDate_2 0 rfl rfl)
theorem dX5_isDate_49 : decode cX5_isDate 49 = .ok (.iload 4, 2) := dk_21 4 (dk_at dksX5_isDate_2 3 rfl rfl)
theorem dX5_isDate_51 : decode cX5_isDate 51 = .ok (.aload_n 0, 1) := dk_42 (dk_at dksX5_isDate_2 5 rfl rfl)
theorem dX5_isDate_52 : decode cX5_isDate 52 = .ok (.getfield 124, 3) := dk_180 0 124 (dk_at dksX5_isDate_2 6 rfl rfl)
theorem dX5_isDate_55 : decode cX5_isDate 55 = .ok (.iload_n 2, 1) := dk_28 (dk_at dksX5_isDate_2 9 rfl rfl)
theorem dX5_isDate_56 : decode cX5_isDate 56 = .ok (.iaload, 1) := dk_46 (dk_at dksX5_isDate_2 10 rfl rfl)
theorem dX5_isDate_57 : decode cX5_isDate 57 = .ok (.if_icmp .ne 28, 3) := dk_160 0 28 (dk_at dksX5_isDate_2 11 rfl rfl)
theorem dX5_isDate_60 : decode cX5_isDate 60 = .ok (.iload_n 3, 1) := dk_29 (dk_at dksX5_isDate_2 14 rfl rfl)
theorem dX5_isDate_61 : decode cX5_isDate 61 = .ok (.iconst 3, 1) := dk_6 (dk_at dksX5_isDate_2 15 rfl rfl)
theorem dX5_isDate_62 : decode cX5_isDate 62 = .ok (.if_icmp .ne 19, 3) := dk_160 0 19 (dk_at dksX5_isDate_2 16 rfl rfl)
theorem dX5_isDate_65 : decode cX5_isDate 65 = .ok (.aload_n 0, 1) := dk_42 (dk_at dksX5_isDate_2 19 rfl rfl)
theorem dX5_isDate_66 : decode cX5_isDate 66 = .ok (.getfield 117, 3) := dk_180 0 117 (dk_at dksX5_isDate_2 20 rfl rfl)
theorem dX5_isDate_69 : decode cX5_isDate 69 = .ok (.iload_n 1, 1) := dk_27 (dk_at dksX5_isDate_2 23 rfl rfl)
theorem dX5_isDate_70 : decode cX5_isDate 70 = .ok (.iconst 0, 1) := dk_3 (dk_at dksX5_isDate_3 0 rfl rfl)
theorem dX5_isDate_71 : decode cX5_isDate 71 = .ok (.iadd, 1) := dk_96 (dk_at dksX5_isDate_3 1 rfl rfl)
theorem dX5_isDate_72 : decode cX5_isDate 72 = .ok (.iaload, 1) := dk_46 (dk_at dksX5_isDate_3 2 rfl rfl)
theorem dX5_isDate_73 : decode cX5_isDate 73 = .ok (.bipush 12, 2) := dk_16 12 (dk_at dksX5_isDate_3 3 rfl rfl)
theorem dX5_isDate_75 : decode cX5_isDate 75 = .ok (.idiv, 1) := dk_108 (dk_at dksX5_isDate_3 5 rfl rfl)
theorem dX5_isDate_76 : decode cX5_isDate 76 = .ok (.iconst 4, 1) := dk_7 (dk_at dksX5_isDate_3 6 rfl rfl)
theorem dX5_isDate_77 : decode cX5_isDate 77 = .ok (.irem, 1) := dk_112 (dk_at dksX5_isDate_3 7 rfl rfl)
theorem dX5_isDate_78 : decode cX5_isDate 78 = .ok (.ifCond .ne 7, 3) := dk_154 0 7 (dk_at dksX5_isDate_3 8 rfl rfl)
theorem dX5_isDate_81 : decode cX5_isDate 81 = .ok (.iconst 1, 1) := dk_4 (dk_at dksX5_isDate_3 11 rfl rfl)
theorem dX5_isDate_82 : decode cX5_isDate 82 = .ok (.goto 4, 3) := dk_167 0 4 (dk_at dksX5_isDate_3 12 rfl rfl)
theorem dX5_isDate_85 : decode cX5_isDate 85 = .ok (.iconst 0, 1) := dk_3 (dk_at dksX5_isDate_3 15 rfl rfl)
theorem dX5_isDate_86 : decode cX5_isDate 86 = .ok (.ireturn, 1) := dk_172 (dk_at dksX5_isDate_3 16 rfl rfl)
abbrev cX5_comes : ByteArray := prog_23_method_61_code
def yX5_comes : MethodName := ⟨RX5, "comes", "(II)V"⟩
def dkwX5_comes_10 : List UInt8 := [16, 99, 164, 0, 8, 16, 99, 167, 0, 5, 21, 4, 79, 177]
abbrev dktX5_comes_10 : List UInt8 := dkwX5_comes_10 ++ []
def dkwX5_comes_9 : List UInt8 := [96, 54, 4, 42, 180, 0, 117, 27, 16, 18, 96, 28, 96, 21, 4, 156, 0, 7, 3, 167, 0, 17, 21, 4]
abbrev dktX5_comes_9 : List UInt8 := dkwX5_comes_9 ++ dktX5_comes_10
def dkwX5_comes_8 : List UInt8 := [16, 247, 162, 0, 8, 16, 247, 167, 0, 17, 21, 5, 16, 9, 164, 0, 8, 16, 9, 167, 0, 5, 21, 5]
abbrev dktX5_comes_8 : List UInt8 := dkwX5_comes_8 ++ dktX5_comes_9
def dkwX5_comes_7 : List UInt8 := [156, 0, 7, 2, 167, 0, 13, 42, 42, 180, 0, 87, 6, 46, 182, 1, 63, 54, 5, 21, 4, 21, 5]
abbrev dktX5_comes_7 : List UInt8 := dkwX5_comes_7 ++ dktX5_comes_8
def dkwX5_comes_6 : List UInt8 := [180, 0, 111, 6, 42, 180, 0, 117, 27, 16, 24, 96, 28, 96, 46, 79, 42, 180, 0, 87, 6, 46]
abbrev dktX5_comes_6 : List UInt8 := dkwX5_comes_6 ++ dktX5_comes_7
def dkwX5_comes_5 : List UInt8 := [184, 1, 60, 79, 42, 180, 0, 111, 5, 42, 180, 0, 117, 27, 3, 96, 46, 16, 12, 112, 79, 42]
abbrev dktX5_comes_5 : List UInt8 := dkwX5_comes_5 ++ dktX5_comes_6
def dkwX5_comes_4 : List UInt8 := [96, 46, 54, 4, 42, 180, 0, 111, 3, 21, 4, 79, 42, 180, 0, 111, 4, 42, 27, 29, 182, 1, 45]
abbrev dktX5_comes_4 : List UInt8 := dkwX5_comes_4 ++ dktX5_comes_5
def dkwX5_comes_3 : List UInt8 := [42, 180, 0, 117, 27, 16, 24, 96, 28, 96, 92, 46, 4, 96, 79, 42, 180, 0, 117, 27, 16, 18, 96, 28]
abbrev dktX5_comes_3 : List UInt8 := dkwX5_comes_3 ++ dktX5_comes_4
def dkwX5_comes_2 : List UInt8 := [42, 180, 0, 117, 27, 16, 6, 96, 28, 96, 29, 79, 42, 180, 0, 117, 27, 16, 12, 96, 28, 96, 3, 79]
abbrev dktX5_comes_2 : List UInt8 := dkwX5_comes_2 ++ dktX5_comes_3
def dkwX5_comes_1 : List UInt8 := [180, 0, 117, 27, 4, 96, 92, 46, 4, 96, 79, 177, 42, 89, 180, 1, 57, 4, 28, 120, 128, 181, 1, 57]
abbrev dktX5_comes_1 : List UInt8 := dkwX5_comes_1 ++ dktX5_comes_2
def dkwX5_comes_0 : List UInt8 := [42, 27, 28, 182, 1, 51, 62, 29, 156, 0, 28, 42, 89, 180, 1, 54, 4, 28, 120, 128, 181, 1, 54, 42]
abbrev dktX5_comes_0 : List UInt8 := dkwX5_comes_0 ++ dktX5_comes_1
theorem dksX5_comes_0 : cX5_comes.data.toList.drop 0 = dktX5_comes_0 := by decide +kernel
theorem dksX5_comes_1 : cX5_comes.data.toList.drop 24 = dktX5_comes_1 := dk_seg dksX5_comes_0 24 rfl rfl
theorem dksX5_comes_2 : cX5_comes.data.toList.drop 48 = dktX5_comes_2 := dk_seg dksX5_comes_1 24 rfl rfl
theorem dksX5_comes_3 : cX5_comes.data.toList.drop 72 = dktX5_comes_3 := dk_seg dksX5_comes_2 24 rfl rfl
theorem dksX5_comes_4 : cX5_comes.data.toList.drop 96 = dktX5_comes_4 := dk_seg dksX5_comes_3 24 rfl rfl
theorem dksX5_comes_5 : cX5_comes.data.toList.drop 119 = dktX5_comes_5 := dk_seg dksX5_comes_4 23 rfl rfl
theorem dksX5_comes_6 : cX5_comes.data.toList.drop 141 = dktX5_comes_6 := dk_seg dksX5_comes_5 22 rfl rfl
theorem dksX5_comes_7 : cX5_comes.data.toList.drop 163 = dktX5_comes_7 := dk_seg dksX5_comes_6 22 rfl rfl
theorem dksX5_comes_8 : cX5_comes.data.toList.drop 186 = dktX5_comes_8 := dk_seg dksX5_comes_7 23 rfl rfl
theorem dksX5_comes_9 : cX5_comes.data.toList.drop 210 = dktX5_comes_9 := dk_seg dksX5_comes_8 24 rfl rfl
theorem dksX5_comes_10 : cX5_comes.data.toList.drop 234 = dktX5_comes_10 := dk_seg dksX5_comes_9 24 rfl rfl
theorem dX5_comes_0 : decode cX5_comes 0 = .ok (.aload_n 0, 1) := dk_42 (dk_at dksX5_comes_0 0 rfl rfl)
theorem dX5_comes_1 : decode cX5_comes 1 = .ok (.iload_n 1, 1) := dk_27 (dk_at dksX5_comes_0 1 rfl rfl)
theorem dX5_comes_2 : decode cX5_comes 2 = .ok (.iload_n 2, 1) := dk_28 (dk_at dksX5_comes_0 2 rfl rfl)
theorem dX5_comes_3 : decode cX5_comes 3 = .ok (.invokevirtual 307, 3) := dk_182 1 51 (dk_at dksX5_comes_0 3 rfl rfl)
theorem dX5_comes_6 : decode cX5_comes 6 = .ok (.istore_n 3, 1) := dk_62 (dk_at dksX5_comes_0 6 rfl rfl)
theorem dX5_comes_7 : decode cX5_comes 7 = .ok (.iload_n 3, 1) := dk_29 (dk_at dksX5_comes_0 7 rfl rfl)
theorem dX5_comes_8 : decode cX5_comes 8 = .ok (.ifCond .ge 28, 3) := dk_156 0 28 (dk_at dksX5_comes_0 8 rfl rfl)
theorem dX5_comes_11 : decode cX5_comes 11 = .ok (.aload_n 0, 1) := dk_42 (dk_at dksX5_comes_0 11 rfl rfl)
theorem dX5_comes_12 : decode cX5_comes 12 = .ok (.dup, 1) := dk_89 (dk_at dksX5_comes_0 12 rfl rfl)
theorem dX5_comes_13 : decode cX5_comes 13 = .ok (.getfield 310, 3) := dk_180 1 54 (dk_at dksX5_comes_0 13 rfl rfl)
theorem dX5_comes_16 : decode cX5_comes 16 = .ok (.iconst 1, 1) := dk_4 (dk_at dksX5_comes_0 16 rfl rfl)
theorem dX5_comes_17 : decode cX5_comes 17 = .ok (.iload_n 2, 1) := dk_28 (dk_at dksX5_comes_0 17 rfl rfl)
theorem dX5_comes_18 : decode cX5_comes 18 = .ok (.ishl, 1) := dk_120 (dk_at dksX5_comes_0 18 rfl rfl)
theorem dX5_comes_19 : decode cX5_comes 19 = .ok (.ior, 1) := dk_128 (dk_at dksX5_comes_0 19 rfl rfl)
theorem dX5_comes_20 : decode cX5_comes 20 = .ok (.putfield 310, 3) := dk_181 1 54 (dk_at dksX5_comes_0 20 rfl rfl)
theorem dX5_comes_23 : decode cX5_comes 23 = .ok (.aload_n 0, 1) := dk_42 (dk_at dksX5_comes_0 23 rfl rfl)
theorem dX5_comes_24 : decode cX5_comes 24 = .ok (.getfield 117, 3) := dk_180 0 117 (dk_at dksX5_comes_1 0 rfl rfl)
theorem dX5_comes_27 : decode cX5_comes 27 = .ok (.iload_n 1, 1) := dk_27 (dk_at dksX5_comes_1 3 rfl rfl)
theorem dX5_comes_28 : decode cX5_comes 28 = .ok (.iconst 1, 1) := dk_4 (dk_at dksX5_comes_1 4 rfl rfl)
theorem dX5_comes_29 : decode cX5_comes 29 = .ok (.iadd, 1) := dk_96 (dk_at dksX5_comes_1 5 rfl rfl)
theorem dX5_comes_30 : decode cX5_comes 30 = .ok (.dup2, 1) := dk_92 (dk_at dksX5_comes_1 6 rfl rfl)
theorem dX5_comes_31 : decode cX5_comes 31 = .ok (.iaload, 1) := dk_46 (dk_at dksX5_comes_1 7 rfl rfl)
theorem dX5_comes_32 : decode cX5_comes 32 = .ok (.iconst 1, 1) := dk_4 (dk_at dksX5_comes_1 8 rfl rfl)
theorem dX5_comes_33 : decode cX5_comes 33 = .ok (.iadd, 1) := dk_96 (dk_at dksX5_comes_1 9 rfl rfl)
theorem dX5_comes_34 : decode cX5_comes 34 = .ok (.iastore, 1) := dk_79 (dk_at dksX5_comes_1 10 rfl rfl)
theorem dX5_comes_35 : decode cX5_comes 35 = .ok (.return_, 1) := dk_177 (dk_at dksX5_comes_1 11 rfl rfl)
theorem dX5_comes_36 : decode cX5_comes 36 = .ok (.aload_n 0, 1) := dk_42 (dk_at dksX5_comes_1 12 rfl rfl)
theorem dX5_comes_37 : decode cX5_comes 37 = .ok (.dup, 1) := dk_89 (dk_at dksX5_comes_1 13 rfl rfl)
theorem dX5_comes_38 : decode cX5_comes 38 = .ok (.getfield 313, 3) := dk_180 1 57 (dk_at dksX5_comes_1 14 rfl rfl)
theorem dX5_comes_41 : decode cX5_comes 41 = .ok (.iconst 1, 1) := dk_4 (dk_at dksX5_comes_1 17 rfl rfl)
theorem dX5_comes_42 : decode cX5_comes 42 = .ok (.iload_n 2, 1) := dk_28 (dk_at dksX5_comes_1 18 rfl rfl)
theorem dX5_comes_43 : decode cX5_comes 43 = .ok (.ishl, 1) := dk_120 (dk_at dksX5_comes_1 19 rfl rfl)
theorem dX5_comes_44 : decode cX5_comes 44 = .ok (.ior, 1) := dk_128 (dk_at dksX5_comes_1 20 rfl rfl)
theorem dX5_comes_45 : decode cX5_comes 45 = .ok (.putfield 313, 3) := dk_181 1 57 (dk_at dksX5_comes_1 21 rfl rfl)
theorem dX5_comes_48 : decode cX5_comes 48 = .ok (.aload_n 0, 1) := dk_42 (dk_at dksX5_comes_2 0 rfl rfl)
theorem dX5_comes_49 : decode cX5_comes 49 = .ok (.getfield 117, 3) := dk_180 0 117 (dk_at dksX5_comes_2 1 rfl rfl)
theorem dX5_comes_52 : decode cX5_comes 52 = .ok (.iload_n 1, 1) := dk_27 (dk_at dksX5_comes_2 4 rfl rfl)
theorem dX5_comes_53 : decode cX5_comes 53 = .ok (.bipush 6, 2) := dk_16 6 (dk_at dksX5_comes_2 5 rfl rfl)
theorem dX5_comes_55 : decode cX5_comes 55 = .ok (.iadd, 1) := dk_96 (dk_at dksX5_comes_2 7 rfl rfl)
theorem dX5_comes_56 : decode cX5_comes 56 = .ok (.iload_n 2, 1) := dk_28 (dk_at dksX5_comes_2 8 rfl rfl)
theorem dX5_comes_57 : decode cX5_comes 57 = .ok (.iadd, 1) := dk_96 (dk_at dksX5_comes_2 9 rfl rfl)
theorem dX5_comes_58 : decode cX5_comes 58 = .ok (.iload_n 3, 1) := dk_29 (dk_at dksX5_comes_2 10 rfl rfl)
theorem dX5_comes_59 : decode cX5_comes 59 = .ok (.iastore, 1) := dk_79 (dk_at dksX5_comes_2 11 rfl rfl)
theorem dX5_comes_60 : decode cX5_comes 60 = .ok (.aload_n 0, 1) := dk_42 (dk_at dksX5_comes_2 12 rfl rfl)
theorem dX5_comes_61 : decode cX5_comes 61 = .ok (.getfield 117, 3) := dk_180 0 117 (dk_at dksX5_comes_2 13 rfl rfl)
theorem dX5_comes_64 : decode cX5_comes 64 = .ok (.iload_n 1, 1) := dk_27 (dk_at dksX5_comes_2 16 rfl rfl)
theorem dX5_comes_65 : decode cX5_comes 65 = .ok (.bipush 12, 2) := dk_16 12 (dk_at dksX5_comes_2 17 rfl rfl)
theorem dX5_comes_67 : decode cX5_comes 67 = .ok (.iadd, 1) := dk_96 (dk_at dksX5_comes_2 19 rfl rfl)
theorem dX5_comes_68 : decode cX5_comes 68 = .ok (.iload_n 2, 1) := dk_28 (dk_at dksX5_comes_2 20 rfl rfl)
theorem dX5_comes_69 : decode cX5_comes 69 = .ok (.iadd, 1) := dk_96 (dk_at dksX5_comes_2 21 rfl rfl)
theorem dX5_comes_70 : decode cX5_comes 70 = .ok (.iconst 0, 1) := dk_3 (dk_at dksX5_comes_2 22 rfl rfl)
theorem dX5_comes_71 : decode cX5_comes 71 = .ok (.iastore, 1) := dk_79 (dk_at dksX5_comes_2 23 rfl rfl)
theorem dX5_comes_72 : decode cX5_comes 72 = .ok (.aload_n 0, 1) := dk_42 (dk_at dksX5_comes_3 0 rfl rfl)
theorem dX5_comes_73 : decode cX5_comes 73 = .ok (.getfield 117, 3) := dk_180 0 117 (dk_at dksX5_comes_3 1 rfl rfl)
theorem dX5_comes_76 : decode cX5_comes 76 = .ok (.iload_n 1, 1) := dk_27 (dk_at dksX5_comes_3 4 rfl rfl)
theorem dX5_comes_77 : decode cX5_comes 77 = .ok (.bipush 24, 2) := dk_16 24 (dk_at dksX5_comes_3 5 rfl rfl)
theorem dX5_comes_79 : decode cX5_comes 79 = .ok (.iadd, 1) := dk_96 (dk_at dksX5_comes_3 7 rfl rfl)
theorem dX5_comes_80 : decode cX5_comes 80 = .ok (.iload_n 2, 1) := dk_28 (dk_at dksX5_comes_3 8 rfl rfl)
theorem dX5_comes_81 : decode cX5_comes 81 = .ok (.iadd, 1) := dk_96 (dk_at dksX5_comes_3 9 rfl rfl)
theorem dX5_comes_82 : decode cX5_comes 82 = .ok (.dup2, 1) := dk_92 (dk_at dksX5_comes_3 10 rfl rfl)
theorem dX5_comes_83 : decode cX5_comes 83 = .ok (.iaload, 1) := dk_46 (dk_at dksX5_comes_3 11 rfl rfl)
theorem dX5_comes_84 : decode cX5_comes 84 = .ok (.iconst 1, 1) := dk_4 (dk_at dksX5_comes_3 12 rfl rfl)
theorem dX5_comes_85 : decode cX5_comes 85 = .ok (.iadd, 1) := dk_96 (dk_at dksX5_comes_3 13 rfl rfl)
theorem dX5_comes_86 : decode cX5_comes 86 = .ok (.iastore, 1) := dk_79 (dk_at dksX5_comes_3 14 rfl rfl)
theorem dX5_comes_87 : decode cX5_comes 87 = .ok (.aload_n 0, 1) := dk_42 (dk_at dksX5_comes_3 15 rfl rfl)
theorem dX5_comes_88 : decode cX5_comes 88 = .ok (.getfield 117, 3) := dk_180 0 117 (dk_at dksX5_comes_3 16 rfl rfl)
theorem dX5_comes_91 : decode cX5_comes 91 = .ok (.iload_n 1, 1) := dk_27 (dk_at dksX5_comes_3 19 rfl rfl)
theorem dX5_comes_92 : decode cX5_comes 92 = .ok (.bipush 18, 2) := dk_16 18 (dk_at dksX5_comes_3 20 rfl rfl)
theorem dX5_comes_94 : decode cX5_comes 94 = .ok (.iadd, 1) := dk_96 (dk_at dksX5_comes_3 22 rfl rfl)
theorem dX5_comes_95 : decode cX5_comes 95 = .ok (.iload_n 2, 1) := dk_28 (dk_at dksX5_comes_3 23 rfl rfl)
theorem dX5_comes_96 : decode cX5_comes 96 = .ok (.iadd, 1) := dk_96 (dk_at dksX5_comes_4 0 rfl rfl)
theorem dX5_comes_97 : decode cX5_comes 97 = .ok (.iaload, 1) := dk_46 (dk_at dksX5_comes_4 1 rfl rfl)
theorem dX5_comes_98 : decode cX5_comes 98 = .ok (.istore 4, 2) := dk_54 4 (dk_at dksX5_comes_4 2 rfl rfl)
theorem dX5_comes_100 : decode cX5_comes 100 = .ok (.aload_n 0, 1) := dk_42 (dk_at dksX5_comes_4 4 rfl rfl)
theorem dX5_comes_101 : decode cX5_comes 101 = .ok (.getfield 111, 3) := dk_180 0 111 (dk_at dksX5_comes_4 5 rfl rfl)
theorem dX5_comes_104 : decode cX5_comes 104 = .ok (.iconst 0, 1) := dk_3 (dk_at dksX5_comes_4 8 rfl rfl)
theorem dX5_comes_105 : decode cX5_comes 105 = .ok (.iload 4, 2) := dk_21 4 (dk_at dksX5_comes_4 9 rfl rfl)
theorem dX5_comes_107 : decode cX5_comes 107 = .ok (.iastore, 1) := dk_79 (dk_at dksX5_comes_4 11 rfl rfl)
theorem dX5_comes_108 : decode cX5_comes 108 = .ok (.aload_n 0, 1) := dk_42 (dk_at dksX5_comes_4 12 rfl rfl)
theorem dX5_comes_109 : decode cX5_comes 109 = .ok (.getfield 111, 3) := dk_180 0 111 (dk_at dksX5_comes_4 13 rfl rfl)
theorem dX5_comes_112 : decode cX5_comes 112 = .ok (.iconst 1, 1) := dk_4 (dk_at dksX5_comes_4 16 rfl rfl)
theorem dX5_comes_113 : decode cX5_comes 113 = .ok (.aload_n 0, 1) := dk_42 (dk_at dksX5_comes_4 17 rfl rfl)
theorem dX5_comes_114 : decode cX5_comes 114 = .ok (.iload_n 1, 1) := dk_27 (dk_at dksX5_comes_4 18 rfl rfl)
theorem dX5_comes_115 : decode cX5_comes 115 = .ok (.iload_n 3, 1) := dk_29 (dk_at dksX5_comes_4 19 rfl rfl)
theorem dX5_comes_116 : decode cX5_comes 116 = .ok (.invokevirtual 301, 3) := dk_182 1 45 (dk_at dksX5_comes_4 20 rfl rfl)
theorem dX5_comes_119 : decode cX5_comes 119 = .ok (.invokestatic 316, 3) := dk_184 1 60 (dk_at dksX5_comes_5 0 rfl rfl)
theorem dX5_comes_122 : decode cX5_comes 122 = .ok (.iastore, 1) := dk_79 (dk_at dksX5_comes_5 3 rfl rfl)
theorem dX5_comes_123 : decode cX5_comes 123 = .ok (.aload_n 0, 1) := dk_42 (dk_at dksX5_comes_5 4 rfl rfl)
theorem dX5_comes_124 : decode cX5_comes 124 = .ok (.getfield 111, 3) := dk_180 0 111 (dk_at dksX5_comes_5 5 rfl rfl)
theorem dX5_comes_127 : decode cX5_comes 127 = .ok (.iconst 2, 1) := dk_5 (dk_at dksX5_comes_5 8 rfl rfl)
theorem dX5_comes_128 : decode cX5_comes 128 = .ok (.aload_n 0, 1) := dk_42 (dk_at dksX5_comes_5 9 rfl rfl)
theorem dX5_comes_129 : decode cX5_comes 129 = .ok (.getfield 117, 3) := dk_180 0 117 (dk_at dksX5_comes_5 10 rfl rfl)
theorem dX5_comes_132 : decode cX5_comes 132 = .ok (.iload_n 1, 1) := dk_27 (dk_at dksX5_comes_5 13 rfl rfl)
theorem dX5_comes_133 : decode cX5_comes 133 = .ok (.iconst 0, 1) := dk_3 (dk_at dksX5_comes_5 14 rfl rfl)
theorem dX5_comes_134 : decode cX5_comes 134 = .ok (.iadd, 1) := dk_96 (dk_at dksX5_comes_5 15 rfl rfl)
theorem dX5_comes_135 : decode cX5_comes 135 = .ok (.iaload, 1) := dk_46 (dk_at dksX5_comes_5 16 rfl rfl)
theorem dX5_comes_136 : decode cX5_comes 136 = .ok (.bipush 12, 2) := dk_16 12 (dk_at dksX5_comes_5 17 rfl rfl)
theorem dX5_comes_138 : decode cX5_comes 138 = .ok (.irem, 1) := dk_112 (dk_at dksX5_comes_5 19 rfl rfl)
theorem dX5_comes_139 : decode cX5_comes 139 = .ok (.iastore, 1) := dk_79 (dk_at dksX5_comes_5 20 rfl rfl)
theorem dX5_comes_140 : decode cX5_comes 140 = .ok (.aload_n 0, 1) := dk_42 (dk_at dksX5_comes_5 21 rfl rfl)
theorem dX5_comes_141 : decode cX5_comes 141 = .ok (.getfield 111, 3) := dk_180 0 111 (dk_at dksX5_comes_6 0 rfl rfl)
theorem dX5_comes_144 : decode cX5_comes 144 = .ok (.iconst 3, 1) := dk_6 (dk_at dksX5_comes_6 3 rfl rfl)
theorem dX5_comes_145 : decode cX5_comes 145 = .ok (.aload_n 0, 1) := dk_42 (dk_at dksX5_comes_6 4 rfl rfl)
theorem dX5_comes_146 : decode cX5_comes 146 = .ok (.getfield 117, 3) := dk_180 0 117 (dk_at dksX5_comes_6 5 rfl rfl)
theorem dX5_comes_149 : decode cX5_comes 149 = .ok (.iload_n 1, 1) := dk_27 (dk_at dksX5_comes_6 8 rfl rfl)
theorem dX5_comes_150 : decode cX5_comes 150 = .ok (.bipush 24, 2) := dk_16 24 (dk_at dksX5_comes_6 9 rfl rfl)
theorem dX5_comes_152 : decode cX5_comes 152 = .ok (.iadd, 1) := dk_96 (dk_at dksX5_comes_6 11 rfl rfl)
theorem dX5_comes_153 : decode cX5_comes 153 = .ok (.iload_n 2, 1) := dk_28 (dk_at dksX5_comes_6 12 rfl rfl)
theorem dX5_comes_154 : decode cX5_comes 154 = .ok (.iadd, 1) := dk_96 (dk_at dksX5_comes_6 13 rfl rfl)
theorem dX5_comes_155 : decode cX5_comes 155 = .ok (.iaload, 1) := dk_46 (dk_at dksX5_comes_6 14 rfl rfl)
theorem dX5_comes_156 : decode cX5_comes 156 = .ok (.iastore, 1) := dk_79 (dk_at dksX5_comes_6 15 rfl rfl)
theorem dX5_comes_157 : decode cX5_comes 157 = .ok (.aload_n 0, 1) := dk_42 (dk_at dksX5_comes_6 16 rfl rfl)
theorem dX5_comes_158 : decode cX5_comes 158 = .ok (.getfield 87, 3) := dk_180 0 87 (dk_at dksX5_comes_6 17 rfl rfl)
theorem dX5_comes_161 : decode cX5_comes 161 = .ok (.iconst 3, 1) := dk_6 (dk_at dksX5_comes_6 20 rfl rfl)
theorem dX5_comes_162 : decode cX5_comes 162 = .ok (.iaload, 1) := dk_46 (dk_at dksX5_comes_6 21 rfl rfl)
theorem dX5_comes_163 : decode cX5_comes 163 = .ok (.ifCond .ge 7, 3) := dk_156 0 7 (dk_at dksX5_comes_7 0 rfl rfl)
theorem dX5_comes_166 : decode cX5_comes 166 = .ok (.iconst (-1), 1) := dk_2 (dk_at dksX5_comes_7 3 rfl rfl)
theorem dX5_comes_167 : decode cX5_comes 167 = .ok (.goto 13, 3) := dk_167 0 13 (dk_at dksX5_comes_7 4 rfl rfl)
theorem dX5_comes_170 : decode cX5_comes 170 = .ok (.aload_n 0, 1) := dk_42 (dk_at dksX5_comes_7 7 rfl rfl)
theorem dX5_comes_171 : decode cX5_comes 171 = .ok (.aload_n 0, 1) := dk_42 (dk_at dksX5_comes_7 8 rfl rfl)
theorem dX5_comes_172 : decode cX5_comes 172 = .ok (.getfield 87, 3) := dk_180 0 87 (dk_at dksX5_comes_7 9 rfl rfl)
theorem dX5_comes_175 : decode cX5_comes 175 = .ok (.iconst 3, 1) := dk_6 (dk_at dksX5_comes_7 12 rfl rfl)
theorem dX5_comes_176 : decode cX5_comes 176 = .ok (.iaload, 1) := dk_46 (dk_at dksX5_comes_7 13 rfl rfl)
theorem dX5_comes_177 : decode cX5_comes 177 = .ok (.invokevirtual 319, 3) := dk_182 1 63 (dk_at dksX5_comes_7 14 rfl rfl)
theorem dX5_comes_180 : decode cX5_comes 180 = .ok (.istore 5, 2) := dk_54 5 (dk_at dksX5_comes_7 17 rfl rfl)
theorem dX5_comes_182 : decode cX5_comes 182 = .ok (.iload 4, 2) := dk_21 4 (dk_at dksX5_comes_7 19 rfl rfl)
theorem dX5_comes_184 : decode cX5_comes 184 = .ok (.iload 5, 2) := dk_21 5 (dk_at dksX5_comes_7 21 rfl rfl)
theorem dX5_comes_186 : decode cX5_comes 186 = .ok (.bipush (-9), 2) := dk_16 247 (dk_at dksX5_comes_8 0 rfl rfl)
theorem dX5_comes_188 : decode cX5_comes 188 = .ok (.if_icmp .ge 8, 3) := dk_162 0 8 (dk_at dksX5_comes_8 2 rfl rfl)
theorem dX5_comes_191 : decode cX5_comes 191 = .ok (.bipush (-9), 2) := dk_16 247 (dk_at dksX5_comes_8 5 rfl rfl)
theorem dX5_comes_193 : decode cX5_comes 193 = .ok (.goto 17, 3) := dk_167 0 17 (dk_at dksX5_comes_8 7 rfl rfl)
theorem dX5_comes_196 : decode cX5_comes 196 = .ok (.iload 5, 2) := dk_21 5 (dk_at dksX5_comes_8 10 rfl rfl)
theorem dX5_comes_198 : decode cX5_comes 198 = .ok (.bipush 9, 2) := dk_16 9 (dk_at dksX5_comes_8 12 rfl rfl)
theorem dX5_comes_200 : decode cX5_comes 200 = .ok (.if_icmp .le 8, 3) := dk_164 0 8 (dk_at dksX5_comes_8 14 rfl rfl)
theorem dX5_comes_203 : decode cX5_comes 203 = .ok (.bipush 9, 2) := dk_16 9 (dk_at dksX5_comes_8 17 rfl rfl)
theorem dX5_comes_205 : decode cX5_comes 205 = .ok (.goto 5, 3) := dk_167 0 5 (dk_at dksX5_comes_8 19 rfl rfl)
theorem dX5_comes_208 : decode cX5_comes 208 = .ok (.iload 5, 2) := dk_21 5 (dk_at dksX5_comes_8 22 rfl rfl)
theorem dX5_comes_210 : decode cX5_comes 210 = .ok (.iadd, 1) := dk_96 (dk_at dksX5_comes_9 0 rfl rfl)
theorem dX5_comes_211 : decode cX5_comes 211 = .ok (.istore 4, 2) := dk_54 4 (dk_at dksX5_comes_9 1 rfl rfl)
theorem dX5_comes_213 : decode cX5_comes 213 = .ok (.aload_n 0, 1) := dk_42 (dk_at dksX5_comes_9 3 rfl rfl)
theorem dX5_comes_214 : decode cX5_comes 214 = .ok (.getfield 117, 3) := dk_180 0 117 (dk_at dksX5_comes_9 4 rfl rfl)
theorem dX5_comes_217 : decode cX5_comes 217 = .ok (.iload_n 1, 1) := dk_27 (dk_at dksX5_comes_9 7 rfl rfl)
theorem dX5_comes_218 : decode cX5_comes 218 = .ok (.bipush 18, 2) := dk_16 18 (dk_at dksX5_comes_9 8 rfl rfl)
theorem dX5_comes_220 : decode cX5_comes 220 = .ok (.iadd, 1) := dk_96 (dk_at dksX5_comes_9 10 rfl rfl)
theorem dX5_comes_221 : decode cX5_comes 221 = .ok (.iload_n 2, 1) := dk_28 (dk_at dksX5_comes_9 11 rfl rfl)
theorem dX5_comes_222 : decode cX5_comes 222 = .ok (.iadd, 1) := dk_96 (dk_at dksX5_comes_9 12 rfl rfl)
theorem dX5_comes_223 : decode cX5_comes 223 = .ok (.iload 4, 2) := dk_21 4 (dk_at dksX5_comes_9 13 rfl rfl)
theorem dX5_comes_225 : decode cX5_comes 225 = .ok (.ifCond .ge 7, 3) := dk_156 0 7 (dk_at dksX5_comes_9 15 rfl rfl)
theorem dX5_comes_228 : decode cX5_comes 228 = .ok (.iconst 0, 1) := dk_3 (dk_at dksX5_comes_9 18 rfl rfl)
theorem dX5_comes_229 : decode cX5_comes 229 = .ok (.goto 17, 3) := dk_167 0 17 (dk_at dksX5_comes_9 19 rfl rfl)
theorem dX5_comes_232 : decode cX5_comes 232 = .ok (.iload 4, 2) := dk_21 4 (dk_at dksX5_comes_9 22 rfl rfl)
theorem dX5_comes_234 : decode cX5_comes 234 = .ok (.bipush 99, 2) := dk_16 99 (dk_at dksX5_comes_10 0 rfl rfl)
theorem dX5_comes_236 : decode cX5_comes 236 = .ok (.if_icmp .le 8, 3) := dk_164 0 8 (dk_at dksX5_comes_10 2 rfl rfl)
theorem dX5_comes_239 : decode cX5_comes 239 = .ok (.bipush 99, 2) := dk_16 99 (dk_at dksX5_comes_10 5 rfl rfl)
theorem dX5_comes_241 : decode cX5_comes 241 = .ok (.goto 5, 3) := dk_167 0 5 (dk_at dksX5_comes_10 7 rfl rfl)
theorem dX5_comes_244 : decode cX5_comes 244 = .ok (.iload 4, 2) := dk_21 4 (dk_at dksX5_comes_10 10 rfl rfl)
theorem dX5_comes_246 : decode cX5_comes 246 = .ok (.iastore, 1) := dk_79 (dk_at dksX5_comes_10 12 rfl rfl)
theorem dX5_comes_247 : decode cX5_comes 247 = .ok (.return_, 1) := dk_177 (dk_at dksX5_comes_10 13 rfl rfl)
abbrev cX5_bedFor : ByteArray := prog_23_method_60_code
def yX5_bedFor : MethodName := ⟨RX5, "bedFor", "(II)I"⟩
def dkwX5_bedFor_2 : List UInt8 := [21, 4, 28, 182, 1, 48, 153, 0, 6, 21, 4, 172, 132, 4, 1, 167, 255, 215, 2, 172]
abbrev dktX5_bedFor_2 : List UInt8 := dkwX5_bedFor_2 ++ []
def dkwX5_bedFor_1 : List UInt8 := [42, 182, 1, 14, 162, 0, 38, 42, 29, 4, 182, 1, 18, 21, 4, 122, 4, 126, 4, 160, 0, 17, 42, 27]
abbrev dktX5_bedFor_1 : List UInt8 := dkwX5_bedFor_1 ++ dktX5_bedFor_2
def dkwX5_bedFor_0 : List UInt8 := [42, 28, 4, 182, 1, 24, 62, 42, 27, 29, 28, 182, 1, 48, 153, 0, 5, 29, 172, 3, 54, 4, 21, 4]
abbrev dktX5_bedFor_0 : List UInt8 := dkwX5_bedFor_0 ++ dktX5_bedFor_1
theorem dksX5_bedFor_0 : cX5_bedFor.data.toList.drop 0 = dktX5_bedFor_0 := by decide +kernel
theorem dksX5_bedFor_1 : cX5_bedFor.data.toList.drop 24 = dktX5_bedFor_1 := dk_seg dksX5_bedFor_0 24 rfl rfl
theorem dksX5_bedFor_2 : cX5_bedFor.data.toList.drop 48 = dktX5_bedFor_2 := dk_seg dksX5_bedFor_1 24 rfl rfl
theorem dX5_bedFor_0 : decode cX5_bedFor 0 = .ok (.aload_n 0, 1) := dk_42 (dk_at dksX5_bedFor_0 0 rfl rfl)
theorem dX5_bedFor_1 : decode cX5_bedFor 1 = .ok (.iload_n 2, 1) := dk_28 (dk_at dksX5_bedFor_0 1 rfl rfl)
theorem dX5_bedFor_2 : decode cX5_bedFor 2 = .ok (.iconst 1, 1) := dk_4 (dk_at dksX5_bedFor_0 2 rfl rfl)
theorem dX5_bedFor_3 : decode cX5_bedFor 3 = .ok (.invokevirtual 280, 3) := dk_182 1 24 (dk_at dksX5_bedFor_0 3 rfl rfl)
theorem dX5_bedFor_6 : decode cX5_bedFor 6 = .ok (.istore_n 3, 1) := dk_62 (dk_at dksX5_bedFor_0 6 rfl rfl)
theorem dX5_bedFor_7 : decode cX5_bedFor 7 = .ok (.aload_n 0, 1) := dk_42 (dk_at dksX5_bedFor_0 7 rfl rfl)
theorem dX5_bedFor_8 : decode cX5_bedFor 8 = .ok (.iload_n 1, 1) := dk_27 (dk_at dksX5_bedFor_0 8 rfl rfl)
theorem dX5_bedFor_9 : decode cX5_bedFor 9 = .ok (.iload_n 3, 1) := dk_29 (dk_at dksX5_bedFor_0 9 rfl rfl)
theorem dX5_bedFor_10 : decode cX5_bedFor 10 = .ok (.iload_n 2, 1) := dk_28 (dk_at dksX5_bedFor_0 10 rfl rfl)
theorem dX5_bedFor_11 : decode cX5_bedFor 11 = .ok (.invokevirtual 304, 3) := dk_182 1 48 (dk_at dksX5_bedFor_0 11 rfl rfl)
theorem dX5_bedFor_14 : decode cX5_bedFor 14 = .ok (.ifCond .eq 5, 3) := dk_153 0 5 (dk_at dksX5_bedFor_0 14 rfl rfl)
theorem dX5_bedFor_17 : decode cX5_bedFor 17 = .ok (.iload_n 3, 1) := dk_29 (dk_at dksX5_bedFor_0 17 rfl rfl)
theorem dX5_bedFor_18 : decode cX5_bedFor 18 = .ok (.ireturn, 1) := dk_172 (dk_at dksX5_bedFor_0 18 rfl rfl)
theorem dX5_bedFor_19 : decode cX5_bedFor 19 = .ok (.iconst 0, 1) := dk_3 (dk_at dksX5_bedFor_0 19 rfl rfl)
theorem dX5_bedFor_20 : decode cX5_bedFor 20 = .ok (.istore 4, 2) := dk_54 4 (dk_at dksX5_bedFor_0 20 rfl rfl)
theorem dX5_bedFor_22 : decode cX5_bedFor 22 = .ok (.iload 4, 2) := dk_21 4 (dk_at dksX5_bedFor_0 22 rfl rfl)
theorem dX5_bedFor_24 : decode cX5_bedFor 24 = .ok (.aload_n 0, 1) := dk_42 (dk_at dksX5_bedFor_1 0 rfl rfl)
theorem dX5_bedFor_25 : decode cX5_bedFor 25 = .ok (.invokevirtual 270, 3) := dk_182 1 14 (dk_at dksX5_bedFor_1 1 rfl rfl)
theorem dX5_bedFor_28 : decode cX5_bedFor 28 = .ok (.if_icmp .ge 38, 3) := dk_162 0 38 (dk_at dksX5_bedFor_1 4 rfl rfl)
theorem dX5_bedFor_31 : decode cX5_bedFor 31 = .ok (.aload_n 0, 1) := dk_42 (dk_at dksX5_bedFor_1 7 rfl rfl)
theorem dX5_bedFor_32 : decode cX5_bedFor 32 = .ok (.iload_n 3, 1) := dk_29 (dk_at dksX5_bedFor_1 8 rfl rfl)
theorem dX5_bedFor_33 : decode cX5_bedFor 33 = .ok (.iconst 1, 1) := dk_4 (dk_at dksX5_bedFor_1 9 rfl rfl)
theorem dX5_bedFor_34 : decode cX5_bedFor 34 = .ok (.invokevirtual 274, 3) := dk_182 1 18 (dk_at dksX5_bedFor_1 10 rfl rfl)
theorem dX5_bedFor_37 : decode cX5_bedFor 37 = .ok (.iload 4, 2) := dk_21 4 (dk_at dksX5_bedFor_1 13 rfl rfl)
theorem dX5_bedFor_39 : decode cX5_bedFor 39 = .ok (.ishr, 1) := dk_122 (dk_at dksX5_bedFor_1 15 rfl rfl)
theorem dX5_bedFor_40 : decode cX5_bedFor 40 = .ok (.iconst 1, 1) := dk_4 (dk_at dksX5_bedFor_1 16 rfl rfl)
theorem dX5_bedFor_41 : decode cX5_bedFor 41 = .ok (.iand, 1) := dk_126 (dk_at dksX5_bedFor_1 17 rfl rfl)
theorem dX5_bedFor_42 : decode cX5_bedFor 42 = .ok (.iconst 1, 1) := dk_4 (dk_at dksX5_bedFor_1 18 rfl rfl)
theorem dX5_bedFor_43 : decode cX5_bedFor 43 = .ok (.if_icmp .ne 17, 3) := dk_160 0 17 (dk_at dksX5_bedFor_1 19 rfl rfl)
theorem dX5_bedFor_46 : decode cX5_bedFor 46 = .ok (.aload_n 0, 1) := dk_42 (dk_at dksX5_bedFor_1 22 rfl rfl)
theorem dX5_bedFor_47 : decode cX5_bedFor 47 = .ok (.iload_n 1, 1) := dk_27 (dk_at dksX5_bedFor_1 23 rfl rfl)
theorem dX5_bedFor_48 : decode cX5_bedFor 48 = .ok (.iload 4, 2) := dk_21 4 (dk_at dksX5_bedFor_2 0 rfl rfl)
theorem dX5_bedFor_50 : decode cX5_bedFor 50 = .ok (.iload_n 2, 1) := dk_28 (dk_at dksX5_bedFor_2 2 rfl rfl)
theorem dX5_bedFor_51 : decode cX5_bedFor 51 = .ok (.invokevirtual 304, 3) := dk_182 1 48 (dk_at dksX5_bedFor_2 3 rfl rfl)
theorem dX5_bedFor_54 : decode cX5_bedFor 54 = .ok (.ifCond .eq 6, 3) := dk_153 0 6 (dk_at dksX5_bedFor_2 6 rfl rfl)
theorem dX5_bedFor_57 : decode cX5_bedFor 57 = .ok (.iload 4, 2) := dk_21 4 (dk_at dksX5_bedFor_2 9 rfl rfl)
theorem dX5_bedFor_59 : decode cX5_bedFor 59 = .ok (.ireturn, 1) := dk_172 (dk_at dksX5_bedFor_2 11 rfl rfl)
theorem dX5_bedFor_60 : decode cX5_bedFor 60 = .ok (.iinc 4 1, 3) := dk_132 4 1 (dk_at dksX5_bedFor_2 12 rfl rfl)
theorem dX5_bedFor_63 : decode cX5_bedFor 63 = .ok (.goto (-41), 3) := dk_167 255 215 (dk_at dksX5_bedFor_2 15 rfl rfl)
theorem dX5_bedFor_66 : decode cX5_bedFor 66 = .ok (.iconst (-1), 1) := dk_2 (dk_at dksX5_bedFor_2 18 rfl rfl)
theorem dX5_bedFor_67 : decode cX5_bedFor 67 = .ok (.ireturn, 1) := dk_172 (dk_at dksX5_bedFor_2 19 rfl rfl)
abbrev cX5_doesHold : ByteArray := prog_23_method_55_code
def yX5_doesHold : MethodName := ⟨RX5, "doesHold", "(III)Z"⟩
def dkwX5_doesHold_1 : List UInt8 := [182, 1, 24, 126, 154, 0, 7, 4, 167, 0, 4, 3, 172]
abbrev dktX5_doesHold_1 : List UInt8 := dkwX5_doesHold_1 ++ []
def dkwX5_doesHold_0 : List UInt8 := [42, 27, 28, 182, 1, 42, 42, 29, 182, 1, 39, 161, 0, 23, 42, 27, 28, 182, 1, 45, 42, 29, 7]
abbrev dktX5_doesHold_0 : List UInt8 := dkwX5_doesHold_0 ++ dktX5_doesHold_1
theorem dksX5_doesHold_0 : cX5_doesHold.data.toList.drop 0 = dktX5_doesHold_0 := by decide +kernel
theorem dksX5_doesHold_1 : cX5_doesHold.data.toList.drop 23 = dktX5_doesHold_1 := dk_seg dksX5_doesHold_0 23 rfl rfl
theorem dX5_doesHold_0 : decode cX5_doesHold 0 = .ok (.aload_n 0, 1) := dk_42 (dk_at dksX5_doesHold_0 0 rfl rfl)
theorem dX5_doesHold_1 : decode cX5_doesHold 1 = .ok (.iload_n 1, 1) := dk_27 (dk_at dksX5_doesHold_0 1 rfl rfl)
theorem dX5_doesHold_2 : decode cX5_doesHold 2 = .ok (.iload_n 2, 1) := dk_28 (dk_at dksX5_doesHold_0 2 rfl rfl)
theorem dX5_doesHold_3 : decode cX5_doesHold 3 = .ok (.invokevirtual 298, 3) := dk_182 1 42 (dk_at dksX5_doesHold_0 3 rfl rfl)
theorem dX5_doesHold_6 : decode cX5_doesHold 6 = .ok (.aload_n 0, 1) := dk_42 (dk_at dksX5_doesHold_0 6 rfl rfl)
theorem dX5_doesHold_7 : decode cX5_doesHold 7 = .ok (.iload_n 3, 1) := dk_29 (dk_at dksX5_doesHold_0 7 rfl rfl)
theorem dX5_doesHold_8 : decode cX5_doesHold 8 = .ok (.invokevirtual 295, 3) := dk_182 1 39 (dk_at dksX5_doesHold_0 8 rfl rfl)
theorem dX5_doesHold_11 : decode cX5_doesHold 11 = .ok (.if_icmp .lt 23, 3) := dk_161 0 23 (dk_at dksX5_doesHold_0 11 rfl rfl)
theorem dX5_doesHold_14 : decode cX5_doesHold 14 = .ok (.aload_n 0, 1) := dk_42 (dk_at dksX5_doesHold_0 14 rfl rfl)
theorem dX5_doesHold_15 : decode cX5_doesHold 15 = .ok (.iload_n 1, 1) := dk_27 (dk_at dksX5_doesHold_0 15 rfl rfl)
theorem dX5_doesHold_16 : decode cX5_doesHold 16 = .ok (.iload_n 2, 1) := dk_28 (dk_at dksX5_doesHold_0 16 rfl rfl)
theorem dX5_doesHold_17 : decode cX5_doesHold 17 = .ok (.invokevirtual 301, 3) := dk_182 1 45 (dk_at dksX5_doesHold_0 17 rfl rfl)
theorem dX5_doesHold_20 : decode cX5_doesHold 20 = .ok (.aload_n 0, 1) := dk_42 (dk_at dksX5_doesHold_0 20 rfl rfl)
theorem dX5_doesHold_21 : decode cX5_doesHold 21 = .ok (.iload_n 3, 1) := dk_29 (dk_at dksX5_doesHold_0 21 rfl rfl)
theorem dX5_doesHold_22 : decode cX5_doesHold 22 = .ok (.iconst 4, 1) := dk_7 (dk_at dksX5_doesHold_0 22 rfl rfl)
theorem dX5_doesHold_23 : decode cX5_doesHold 23 = .ok (.invokevirtual 280, 3) := dk_182 1 24 (dk_at dksX5_doesHold_1 0 rfl rfl)
theorem dX5_doesHold_26 : decode cX5_doesHold 26 = .ok (.iand, 1) := dk_126 (dk_at dksX5_doesHold_1 3 rfl rfl)
theorem dX5_doesHold_27 : decode cX5_doesHold 27 = .ok (.ifCond .ne 7, 3) := dk_154 0 7 (dk_at dksX5_doesHold_1 4 rfl rfl)
theorem dX5_doesHold_30 : decode cX5_doesHold 30 = .ok (.iconst 1, 1) := dk_4 (dk_at dksX5_doesHold_1 7 rfl rfl)
theorem dX5_doesHold_31 : decode cX5_doesHold 31 = .ok (.goto 4, 3) := dk_167 0 4 (dk_at dksX5_doesHold_1 8 rfl rfl)
theorem dX5_doesHold_34 : decode cX5_doesHold 34 = .ok (.iconst 0, 1) := dk_3 (dk_at dksX5_doesHold_1 11 rfl rfl)
theorem dX5_doesHold_35 : decode cX5_doesHold 35 = .ok (.ireturn, 1) := dk_172 (dk_at dksX5_doesHold_1 12 rfl rfl)
abbrev cX5_bits : ByteArray := prog_23_method_56_code
def yX5_bits : MethodName := ⟨RX5, "bits", "(I)I"⟩
def dkwX5_bits_1 : List UInt8 := [27, 172]
abbrev dktX5_bits_1 : List UInt8 := dkwX5_bits_1 ++ []
def dkwX5_bits_0 : List UInt8 := [3, 60, 3, 61, 28, 16, 30, 162, 0, 17, 27, 26, 28, 122, 4, 126, 96, 60, 132, 2, 1, 167, 255, 239]
abbrev dktX5_bits_0 : List UInt8 := dkwX5_bits_0 ++ dktX5_bits_1
theorem dksX5_bits_0 : cX5_bits.data.toList.drop 0 = dktX5_bits_0 := by decide +kernel
theorem dksX5_bits_1 : cX5_bits.data.toList.drop 24 = dktX5_bits_1 := dk_seg dksX5_bits_0 24 rfl rfl
theorem dX5_bits_0 : decode cX5_bits 0 = .ok (.iconst 0, 1) := dk_3 (dk_at dksX5_bits_0 0 rfl rfl)
theorem dX5_bits_1 : decode cX5_bits 1 = .ok (.istore_n 1, 1) := dk_60 (dk_at dksX5_bits_0 1 rfl rfl)
theorem dX5_bits_2 : decode cX5_bits 2 = .ok (.iconst 0, 1) := dk_3 (dk_at dksX5_bits_0 2 rfl rfl)
theorem dX5_bits_3 : decode cX5_bits 3 = .ok (.istore_n 2, 1) := dk_61 (dk_at dksX5_bits_0 3 rfl rfl)
theorem dX5_bits_4 : decode cX5_bits 4 = .ok (.iload_n 2, 1) := dk_28 (dk_at dksX5_bits_0 4 rfl rfl)
theorem dX5_bits_5 : decode cX5_bits 5 = .ok (.bipush 30, 2) := dk_16 30 (dk_at dksX5_bits_0 5 rfl rfl)
theorem dX5_bits_7 : decode cX5_bits 7 = .ok (.if_icmp .ge 17, 3) := dk_162 0 17 (dk_at dksX5_bits_0 7 rfl rfl)
theorem dX5_bits_10 : decode cX5_bits 10 = .ok (.iload_n 1, 1) := dk_27 (dk_at dksX5_bits_0 10 rfl rfl)
theorem dX5_bits_11 : decode cX5_bits 11 = .ok (.iload_n 0, 1) := dk_26 (dk_at dksX5_bits_0 11 rfl rfl)
theorem dX5_bits_12 : decode cX5_bits 12 = .ok (.iload_n 2, 1) := dk_28 (dk_at dksX5_bits_0 12 rfl rfl)
theorem dX5_bits_13 : decode cX5_bits 13 = .ok (.ishr, 1) := dk_122 (dk_at dksX5_bits_0 13 rfl rfl)
theorem dX5_bits_14 : decode cX5_bits 14 = .ok (.iconst 1, 1) := dk_4 (dk_at dksX5_bits_0 14 rfl rfl)
theorem dX5_bits_15 : decode cX5_bits 15 = .ok (.iand, 1) := dk_126 (dk_at dksX5_bits_0 15 rfl rfl)
theorem dX5_bits_16 : decode cX5_bits 16 = .ok (.iadd, 1) := dk_96 (dk_at dksX5_bits_0 16 rfl rfl)
theorem dX5_bits_17 : decode cX5_bits 17 = .ok (.istore_n 1, 1) := dk_60 (dk_at dksX5_bits_0 17 rfl rfl)
theorem dX5_bits_18 : decode cX5_bits 18 = .ok (.iinc 2 1, 3) := dk_132 2 1 (dk_at dksX5_bits_0 18 rfl rfl)
theorem dX5_bits_21 : decode cX5_bits 21 = .ok (.goto (-17), 3) := dk_167 255 239 (dk_at dksX5_bits_0 21 rfl rfl)
theorem dX5_bits_24 : decode cX5_bits 24 = .ok (.iload_n 1, 1) := dk_27 (dk_at dksX5_bits_1 0 rfl rfl)
theorem dX5_bits_25 : decode cX5_bits 25 = .ok (.ireturn, 1) := dk_172 (dk_at dksX5_bits_1 1 rfl rfl)
abbrev cX5_worthAt : ByteArray := prog_23_method_39_code
def yX5_worthAt : MethodName := ⟨RX5, "worthAt", "(I)I"⟩
def dkwX5_worthAt_6 : List UInt8 := [180, 0, 114, 3, 46, 172]
abbrev dktX5_worthAt_6 : List UInt8 := dkwX5_worthAt_6 ++ []
def dkwX5_worthAt_5 : List UInt8 := [180, 0, 114, 28, 4, 100, 46, 42, 180, 0, 114, 28, 46, 184, 1, 11, 79, 132, 3, 1, 167, 255, 123, 42]
abbrev dktX5_worthAt_5 : List UInt8 := dkwX5_worthAt_5 ++ dktX5_worthAt_6
def dkwX5_worthAt_4 : List UInt8 := [4, 167, 0, 4, 3, 79, 167, 0, 33, 132, 2, 255, 42, 180, 0, 114, 28, 4, 100, 21, 4, 42]
abbrev dktX5_worthAt_4 : List UInt8 := dkwX5_worthAt_4 ++ dktX5_worthAt_5
def dkwX5_worthAt_3 : List UInt8 := [21, 4, 6, 160, 0, 30, 42, 180, 0, 114, 28, 4, 100, 42, 180, 0, 114, 28, 4, 100, 46, 154, 0, 7]
abbrev dktX5_worthAt_3 : List UInt8 := dkwX5_worthAt_3 ++ dktX5_worthAt_4
def dkwX5_worthAt_2 : List UInt8 := [29, 46, 167, 0, 14, 42, 180, 0, 111, 42, 180, 0, 93, 29, 46, 46, 79, 132, 2, 1, 167, 0, 66]
abbrev dktX5_worthAt_2 : List UInt8 := dkwX5_worthAt_2 ++ dktX5_worthAt_3
def dkwX5_worthAt_1 : List UInt8 := [159, 0, 9, 21, 4, 5, 160, 0, 41, 42, 180, 0, 114, 28, 21, 4, 4, 160, 0, 12, 42, 180, 0, 93]
abbrev dktX5_worthAt_1 : List UInt8 := dkwX5_worthAt_1 ++ dktX5_worthAt_2
def dkwX5_worthAt_0 : List UInt8 := [3, 61, 27, 62, 42, 180, 0, 90, 29, 46, 153, 0, 130, 42, 180, 0, 90, 29, 46, 54, 4, 21, 4, 4]
abbrev dktX5_worthAt_0 : List UInt8 := dkwX5_worthAt_0 ++ dktX5_worthAt_1
theorem dksX5_worthAt_0 : cX5_worthAt.data.toList.drop 0 = dktX5_worthAt_0 := by decide +kernel
theorem dksX5_worthAt_1 : cX5_worthAt.data.toList.drop 24 = dktX5_worthAt_1 := dk_seg dksX5_worthAt_0 24 rfl rfl
theorem dksX5_worthAt_2 : cX5_worthAt.data.toList.drop 48 = dktX5_worthAt_2 := dk_seg dksX5_worthAt_1 24 rfl rfl
theorem dksX5_worthAt_3 : cX5_worthAt.data.toList.drop 71 = dktX5_worthAt_3 := dk_seg dksX5_worthAt_2 23 rfl rfl
theorem dksX5_worthAt_4 : cX5_worthAt.data.toList.drop 95 = dktX5_worthAt_4 := dk_seg dksX5_worthAt_3 24 rfl rfl
theorem dksX5_worthAt_5 : cX5_worthAt.data.toList.drop 117 = dktX5_worthAt_5 := dk_seg dksX5_worthAt_4 22 rfl rfl
theorem dksX5_worthAt_6 : cX5_worthAt.data.toList.drop 141 = dktX5_worthAt_6 := dk_seg dksX5_worthAt_5 24 rfl rfl
theorem dX5_worthAt_0 : decode cX5_worthAt 0 = .ok (.iconst 0, 1) := dk_3 (dk_at dksX5_worthAt_0 0 rfl rfl)
theorem dX5_worthAt_1 : decode cX5_worthAt 1 = .ok (.istore_n 2, 1) := dk_61 (dk_at dksX5_worthAt_0 1 rfl rfl)
theorem dX5_worthAt_2 : decode cX5_worthAt 2 = .ok (.iload_n 1, 1) := dk_27 (dk_at dksX5_worthAt_0 2 rfl rfl)
theorem dX5_worthAt_3 : decode cX5_worthAt 3 = .ok (.istore_n 3, 1) := dk_62 (dk_at dksX5_worthAt_0 3 rfl rfl)
theorem dX5_worthAt_4 : decode cX5_worthAt 4 = .ok (.aload_n 0, 1) := dk_42 (dk_at dksX5_worthAt_0 4 rfl rfl)
theorem dX5_worthAt_5 : decode cX5_worthAt 5 = .ok (.getfield 90, 3) := dk_180 0 90 (dk_at dksX5_worthAt_0 5 rfl rfl)
theorem dX5_worthAt_8 : decode cX5_worthAt 8 = .ok (.iload_n 3, 1) := dk_29 (dk_at dksX5_worthAt_0 8 rfl rfl)
theorem dX5_worthAt_9 : decode cX5_worthAt 9 = .ok (.iaload, 1) := dk_46 (dk_at dksX5_worthAt_0 9 rfl rfl)
theorem dX5_worthAt_10 : decode cX5_worthAt 10 = .ok (.ifCond .eq 130, 3) := dk_153 0 130 (dk_at dksX5_worthAt_0 10 rfl rfl)
theorem dX5_worthAt_13 : decode cX5_worthAt 13 = .ok (.aload_n 0, 1) := dk_42 (dk_at dksX5_worthAt_0 13 rfl rfl)
theorem dX5_worthAt_14 : decode cX5_worthAt 14 = .ok (.getfield 90, 3) := dk_180 0 90 (dk_at dksX5_worthAt_0 14 rfl rfl)
theorem dX5_worthAt_17 : decode cX5_worthAt 17 = .ok (.iload_n 3, 1) := dk_29 (dk_at dksX5_worthAt_0 17 rfl rfl)
theorem dX5_worthAt_18 : decode cX5_worthAt 18 = .ok (.iaload, 1) := dk_46 (dk_at dksX5_worthAt_0 18 rfl rfl)
theorem dX5_worthAt_19 : decode cX5_worthAt 19 = .ok (.istore 4, 2) := dk_54 4 (dk_at dksX5_worthAt_0 19 rfl rfl)
theorem dX5_worthAt_21 : decode cX5_worthAt 21 = .ok (.iload 4, 2) := dk_21 4 (dk_at dksX5_worthAt_0 21 rfl rfl)
theorem dX5_worthAt_23 : decode cX5_worthAt 23 = .ok (.iconst 1, 1) := dk_4 (dk_at dksX5_worthAt_0 23 rfl rfl)
theorem dX5_worthAt_24 : decode cX5_worthAt 24 = .ok (.if_icmp .eq 9, 3) := dk_159 0 9 (dk_at dksX5_worthAt_1 0 rfl rfl)
theorem dX5_worthAt_27 : decode cX5_worthAt 27 = .ok (.iload 4, 2) := dk_21 4 (dk_at dksX5_worthAt_1 3 rfl rfl)
theorem dX5_worthAt_29 : decode cX5_worthAt 29 = .ok (.iconst 2, 1) := dk_5 (dk_at dksX5_worthAt_1 5 rfl rfl)
theorem dX5_worthAt_30 : decode cX5_worthAt 30 = .ok (.if_icmp .ne 41, 3) := dk_160 0 41 (dk_at dksX5_worthAt_1 6 rfl rfl)
theorem dX5_worthAt_33 : decode cX5_worthAt 33 = .ok (.aload_n 0, 1) := dk_42 (dk_at dksX5_worthAt_1 9 rfl rfl)
theorem dX5_worthAt_34 : decode cX5_worthAt 34 = .ok (.getfield 114, 3) := dk_180 0 114 (dk_at dksX5_worthAt_1 10 rfl rfl)
theorem dX5_worthAt_37 : decode cX5_worthAt 37 = .ok (.iload_n 2, 1) := dk_28 (dk_at dksX5_worthAt_1 13 rfl rfl)
theorem dX5_worthAt_38 : decode cX5_worthAt 38 = .ok (.iload 4, 2) := dk_21 4 (dk_at dksX5_worthAt_1 14 rfl rfl)
theorem dX5_worthAt_40 : decode cX5_worthAt 40 = .ok (.iconst 1, 1) := dk_4 (dk_at dksX5_worthAt_1 16 rfl rfl)
theorem dX5_worthAt_41 : decode cX5_worthAt 41 = .ok (.if_icmp .ne 12, 3) := dk_160 0 12 (dk_at dksX5_worthAt_1 17 rfl rfl)
theorem dX5_worthAt_44 : decode cX5_worthAt 44 = .ok (.aload_n 0, 1) := dk_42 (dk_at dksX5_worthAt_1 20 rfl rfl)
theorem dX5_worthAt_45 : decode cX5_worthAt 45 = .ok (.getfield 93, 3) := dk_180 0 93 (dk_at dksX5_worthAt_1 21 rfl rfl)
theorem dX5_worthAt_48 : decode cX5_worthAt 48 = .ok (.iload_n 3, 1) := dk_29 (dk_at dksX5_worthAt_2 0 rfl rfl)
theorem dX5_worthAt_49 : decode cX5_worthAt 49 = .ok (.iaload, 1) := dk_46 (dk_at dksX5_worthAt_2 1 rfl rfl)
theorem dX5_worthAt_50 : decode cX5_worthAt 50 = .ok (.goto 14, 3) := dk_167 0 14 (dk_at dksX5_worthAt_2 2 rfl rfl)
theorem dX5_worthAt_53 : decode cX5_worthAt 53 = .ok (.aload_n 0, 1) := dk_42 (dk_at dksX5_worthAt_2 5 rfl rfl)
theorem dX5_worthAt_54 : decode cX5_worthAt 54 = .ok (.getfield 111, 3) := dk_180 0 111 (dk_at dksX5_worthAt_2 6 rfl rfl)
theorem dX5_worthAt_57 : decode cX5_worthAt 57 = .ok (.aload_n 0, 1) := dk_42 (dk_at dksX5_worthAt_2 9 rfl rfl)
theorem dX5_worthAt_58 : decode cX5_worthAt 58 = .ok (.getfield 93, 3) := dk_180 0 93 (dk_at dksX5_worthAt_2 10 rfl rfl)
theorem dX5_worthAt_61 : decode cX5_worthAt 61 = .ok (.iload_n 3, 1) := dk_29 (dk_at dksX5_worthAt_2 13 rfl rfl)
theorem dX5_worthAt_62 : decode cX5_worthAt 62 = .ok (.iaload, 1) := dk_46 (dk_at dksX5_worthAt_2 14 rfl rfl)
theorem dX5_worthAt_63 : decode cX5_worthAt 63 = .ok (.iaload, 1) := dk_46 (dk_at dksX5_worthAt_2 15 rfl rfl)
theorem dX5_worthAt_64 : decode cX5_worthAt 64 = .ok (.iastore, 1) := dk_79 (dk_at dksX5_worthAt_2 16 rfl rfl)
theorem dX5_worthAt_65 : decode cX5_worthAt 65 = .ok (.iinc 2 1, 3) := dk_132 2 1 (dk_at dksX5_worthAt_2 17 rfl rfl)
theorem dX5_worthAt_68 : decode cX5_worthAt 68 = .ok (.goto 66, 3) := dk_167 0 66 (dk_at dksX5_worthAt_2 20 rfl rfl)
theorem dX5_worthAt_71 : decode cX5_worthAt 71 = .ok (.iload 4, 2) := dk_21 4 (dk_at dksX5_worthAt_3 0 rfl rfl)
theorem dX5_worthAt_73 : decode cX5_worthAt 73 = .ok (.iconst 3, 1) := dk_6 (dk_at dksX5_worthAt_3 2 rfl rfl)
theorem dX5_worthAt_74 : decode cX5_worthAt 74 = .ok (.if_icmp .ne 30, 3) := dk_160 0 30 (dk_at dksX5_worthAt_3 3 rfl rfl)
theorem dX5_worthAt_77 : decode cX5_worthAt 77 = .ok (.aload_n 0, 1) := dk_42 (dk_at dksX5_worthAt_3 6 rfl rfl)
theorem dX5_worthAt_78 : decode cX5_worthAt 78 = .ok (.getfield 114, 3) := dk_180 0 114 (dk_at dksX5_worthAt_3 7 rfl rfl)
theorem dX5_worthAt_81 : decode cX5_worthAt 81 = .ok (.iload_n 2, 1) := dk_28 (dk_at dksX5_worthAt_3 10 rfl rfl)
theorem dX5_worthAt_82 : decode cX5_worthAt 82 = .ok (.iconst 1, 1) := dk_4 (dk_at dksX5_worthAt_3 11 rfl rfl)
theorem dX5_worthAt_83 : decode cX5_worthAt 83 = .ok (.isub, 1) := dk_100 (dk_at dksX5_worthAt_3 12 rfl rfl)
theorem dX5_worthAt_84 : decode cX5_worthAt 84 = .ok (.aload_n 0, 1) := dk_42 (dk_at dksX5_worthAt_3 13 rfl rfl)
theorem dX5_worthAt_85 : decode cX5_worthAt 85 = .ok (.getfield 114, 3) := dk_180 0 114 (dk_at dksX5_worthAt_3 14 rfl rfl)
theorem dX5_worthAt_88 : decode cX5_worthAt 88 = .ok (.iload_n 2, 1) := dk_28 (dk_at dksX5_worthAt_3 17 rfl rfl)
theorem dX5_worthAt_89 : decode cX5_worthAt 89 = .ok (.iconst 1, 1) := dk_4 (dk_at dksX5_worthAt_3 18 rfl rfl)
theorem dX5_worthAt_90 : decode cX5_worthAt 90 = .ok (.isub, 1) := dk_100 (dk_at dksX5_worthAt_3 19 rfl rfl)
theorem dX5_worthAt_91 : decode cX5_worthAt 91 = .ok (.iaload, 1) := dk_46 (dk_at dksX5_worthAt_3 20 rfl rfl)
theorem dX5_worthAt_92 : decode cX5_worthAt 92 = .ok (.ifCond .ne 7, 3) := dk_154 0 7 (dk_at dksX5_worthAt_3 21 rfl rfl)
theorem dX5_worthAt_95 : decode cX5_worthAt 95 = .ok (.iconst 1, 1) := dk_4 (dk_at dksX5_worthAt_4 0 rfl rfl)
theorem dX5_worthAt_96 : decode cX5_worthAt 96 = .ok (.goto 4, 3) := dk_167 0 4 (dk_at dksX5_worthAt_4 1 rfl rfl)
theorem dX5_worthAt_99 : decode cX5_worthAt 99 = .ok (.iconst 0, 1) := dk_3 (dk_at dksX5_worthAt_4 4 rfl rfl)
theorem dX5_worthAt_100 : decode cX5_worthAt 100 = .ok (.iastore, 1) := dk_79 (dk_at dksX5_worthAt_4 5 rfl rfl)
theorem dX5_worthAt_101 : decode cX5_worthAt 101 = .ok (.goto 33, 3) := dk_167 0 33 (dk_at dksX5_worthAt_4 6 rfl rfl)
theorem dX5_worthAt_104 : decode cX5_worthAt 104 = .ok (.iinc 2 (-1), 3) := dk_132 2 255 (dk_at dksX5_worthAt_4 9 rfl rfl)
theorem dX5_worthAt_107 : decode cX5_worthAt 107 = .ok (.aload_n 0, 1) := dk_42 (dk_at dksX5_worthAt_4 12 rfl rfl)
theorem dX5_worthAt_108 : decode cX5_worthAt 108 = .ok (.getfield 114, 3) := dk_180 0 114 (dk_at dksX5_worthAt_4 13 rfl rfl)
theorem dX5_worthAt_111 : decode cX5_worthAt 111 = .ok (.iload_n 2, 1) := dk_28 (dk_at dksX5_worthAt_4 16 rfl rfl)
theorem dX5_worthAt_112 : decode cX5_worthAt 112 = .ok (.iconst 1, 1) := dk_4 (dk_at dksX5_worthAt_4 17 rfl rfl)
theorem dX5_worthAt_113 : decode cX5_worthAt 113 = .ok (.isub, 1) := dk_100 (dk_at dksX5_worthAt_4 18 rfl rfl)
theorem dX5_worthAt_114 : decode cX5_worthAt 114 = .ok (.iload 4, 2) := dk_21 4 (dk_at dksX5_worthAt_4 19 rfl rfl)
theorem dX5_worthAt_116 : decode cX5_worthAt 116 = .ok (.aload_n 0, 1) := dk_42 (dk_at dksX5_worthAt_4 21 rfl rfl)
theorem dX5_worthAt_117 : decode cX5_worthAt 117 = .ok (.getfield 114, 3) := dk_180 0 114 (dk_at dksX5_worthAt_5 0 rfl rfl)
theorem dX5_worthAt_120 : decode cX5_worthAt 120 = .ok (.iload_n 2, 1) := dk_28 (dk_at dksX5_worthAt_5 3 rfl rfl)
theorem dX5_worthAt_121 : decode cX5_worthAt 121 = .ok (.iconst 1, 1) := dk_4 (dk_at dksX5_worthAt_5 4 rfl rfl)
theorem dX5_worthAt_122 : decode cX5_worthAt 122 = .ok (.isub, 1) := dk_100 (dk_at dksX5_worthAt_5 5 rfl rfl)
theorem dX5_worthAt_123 : decode cX5_worthAt 123 = .ok (.iaload, 1) := dk_46 (dk_at dksX5_worthAt_5 6 rfl rfl)
theorem dX5_worthAt_124 : decode cX5_worthAt 124 = .ok (.aload_n 0, 1) := dk_42 (dk_at dksX5_worthAt_5 7 rfl rfl)
theorem dX5_worthAt_125 : decode cX5_worthAt 125 = .ok (.getfield 114, 3) := dk_180 0 114 (dk_at dksX5_worthAt_5 8 rfl rfl)
theorem dX5_worthAt_128 : decode cX5_worthAt 128 = .ok (.iload_n 2, 1) := dk_28 (dk_at dksX5_worthAt_5 11 rfl rfl)
theorem dX5_worthAt_129 : decode cX5_worthAt 129 = .ok (.iaload, 1) := dk_46 (dk_at dksX5_worthAt_5 12 rfl rfl)
theorem dX5_worthAt_130 : decode cX5_worthAt 130 = .ok (.invokestatic 267, 3) := dk_184 1 11 (dk_at dksX5_worthAt_5 13 rfl rfl)
theorem dX5_worthAt_133 : decode cX5_worthAt 133 = .ok (.iastore, 1) := dk_79 (dk_at dksX5_worthAt_5 16 rfl rfl)
theorem dX5_worthAt_134 : decode cX5_worthAt 134 = .ok (.iinc 3 1, 3) := dk_132 3 1 (dk_at dksX5_worthAt_5 17 rfl rfl)
theorem dX5_worthAt_137 : decode cX5_worthAt 137 = .ok (.goto (-133), 3) := dk_167 255 123 (dk_at dksX5_worthAt_5 20 rfl rfl)
theorem dX5_worthAt_140 : decode cX5_worthAt 140 = .ok (.aload_n 0, 1) := dk_42 (dk_at dksX5_worthAt_5 23 rfl rfl)
theorem dX5_worthAt_141 : decode cX5_worthAt 141 = .ok (.getfield 114, 3) := dk_180 0 114 (dk_at dksX5_worthAt_6 0 rfl rfl)
theorem dX5_worthAt_144 : decode cX5_worthAt 144 = .ok (.iconst 0, 1) := dk_3 (dk_at dksX5_worthAt_6 3 rfl rfl)
theorem dX5_worthAt_145 : decode cX5_worthAt 145 = .ok (.iaload, 1) := dk_46 (dk_at dksX5_worthAt_6 4 rfl rfl)
theorem dX5_worthAt_146 : decode cX5_worthAt 146 = .ok (.ireturn, 1) := dk_172 (dk_at dksX5_worthAt_6 5 rfl rfl)
abbrev cX5_both : ByteArray := prog_23_method_40_code
def yX5_both : MethodName := ⟨RX5, "both", "(III)I"⟩
def dkwX5_both_4 : List UInt8 := [27, 154, 0, 7, 28, 153, 0, 7, 4, 167, 0, 4, 3, 172]
abbrev dktX5_both_4 : List UInt8 := dkwX5_both_4 ++ []
def dkwX5_both_3 : List UInt8 := [28, 160, 0, 7, 4, 167, 0, 4, 3, 172, 27, 153, 0, 11, 28, 153, 0, 7, 4, 167, 0, 4, 3, 172]
abbrev dktX5_both_3 : List UInt8 := dkwX5_both_3 ++ dktX5_both_4
def dkwX5_both_2 : List UInt8 := [27, 28, 96, 172, 27, 28, 100, 172, 27, 28, 104, 172, 27, 28, 162, 0, 7, 4, 167, 0, 4, 3, 172, 27]
abbrev dktX5_both_2 : List UInt8 := dkwX5_both_2 ++ dktX5_both_3
def dkwX5_both_1 : List UInt8 := [170, 0, 0, 0, 0, 0, 87, 0, 0, 0, 4, 0, 0, 0, 9, 0, 0, 0, 39, 0, 0, 0, 43, 0, 0, 0, 47, 0, 0, 0, 51, 0, 0, 0, 62, 0, 0, 0, 73]
abbrev dktX5_both_1 : List UInt8 := dkwX5_both_1 ++ dktX5_both_2
def dkwX5_both_0 : List UInt8 := [26]
abbrev dktX5_both_0 : List UInt8 := dkwX5_both_0 ++ dktX5_both_1
theorem dksX5_both_0 : cX5_both.data.toList.drop 0 = dktX5_both_0 := by decide +kernel
theorem dksX5_both_1 : cX5_both.data.toList.drop 1 = dktX5_both_1 := dk_seg dksX5_both_0 1 rfl rfl
theorem dksX5_both_2 : cX5_both.data.toList.drop 40 = dktX5_both_2 := dk_seg dksX5_both_1 39 rfl rfl
theorem dksX5_both_3 : cX5_both.data.toList.drop 64 = dktX5_both_3 := dk_seg dksX5_both_2 24 rfl rfl
theorem dksX5_both_4 : cX5_both.data.toList.drop 88 = dktX5_both_4 := dk_seg dksX5_both_3 24 rfl rfl
theorem dX5_both_0 : decode cX5_both 0 = .ok (.iload_n 0, 1) := dk_26 (dk_at dksX5_both_0 0 rfl rfl)
theorem dX5_both_1 : decode cX5_both 1 = .ok (.tableswitch 87 4 9 #[39, 43, 47, 51, 62, 73], 39) := by decide +kernel
theorem dX5_both_40 : decode cX5_both 40 = .ok (.iload_n 1, 1) := dk_27 (dk_at dksX5_both_2 0 rfl rfl)
theorem dX5_both_41 : decode cX5_both 41 = .ok (.iload_n 2, 1) := dk_28 (dk_at dksX5_both_2 1 rfl rfl)
theorem dX5_both_42 : decode cX5_both 42 = .ok (.iadd, 1) := dk_96 (dk_at dksX5_both_2 2 rfl rfl)
theorem dX5_both_43 : decode cX5_both 43 = .ok (.ireturn, 1) := dk_172 (dk_at dksX5_both_2 3 rfl rfl)
theorem dX5_both_44 : decode cX5_both 44 = .ok (.iload_n 1, 1) := dk_27 (dk_at dksX5_both_2 4 rfl rfl)
theorem dX5_both_45 : decode cX5_both 45 = .ok (.iload_n 2, 1) := dk_28 (dk_at dksX5_both_2 5 rfl rfl)
theorem dX5_both_46 : decode cX5_both 46 = .ok (.isub, 1) := dk_100 (dk_at dksX5_both_2 6 rfl rfl)
theorem dX5_both_47 : decode cX5_both 47 = .ok (.ireturn, 1) := dk_172 (dk_at dksX5_both_2 7 rfl rfl)
theorem dX5_both_48 : decode cX5_both 48 = .ok (.iload_n 1, 1) := dk_27 (dk_at dksX5_both_2 8 rfl rfl)
theorem dX5_both_49 : decode cX5_both 49 = .ok (.iload_n 2, 1) := dk_28 (dk_at dksX5_both_2 9 rfl rfl)
theorem dX5_both_50 : decode cX5_both 50 = .ok (.imul, 1) := dk_104 (dk_at dksX5_both_2 10 rfl rfl)
theorem dX5_both_51 : decode cX5_both 51 = .ok (.ireturn, 1) := dk_172 (dk_at dksX5_both_2 11 rfl rfl)
theorem dX5_both_52 : decode cX5_both 52 = .ok (.iload_n 1, 1) := dk_27 (dk_at dksX5_both_2 12 rfl rfl)
theorem dX5_both_53 : decode cX5_both 53 = .ok (.iload_n 2, 1) := dk_28 (dk_at dksX5_both_2 13 rfl rfl)
theorem dX5_both_54 : decode cX5_both 54 = .ok (.if_icmp .ge 7, 3) := dk_162 0 7 (dk_at dksX5_both_2 14 rfl rfl)
theorem dX5_both_57 : decode cX5_both 57 = .ok (.iconst 1, 1) := dk_4 (dk_at dksX5_both_2 17 rfl rfl)
theorem dX5_both_58 : decode cX5_both 58 = .ok (.goto 4, 3) := dk_167 0 4 (dk_at dksX5_both_2 18 rfl rfl)
theorem dX5_both_61 : decode cX5_both 61 = .ok (.iconst 0, 1) := dk_3 (dk_at dksX5_both_2 21 rfl rfl)
theorem dX5_both_62 : decode cX5_both 62 = .ok (.ireturn, 1) := dk_172 (dk_at dksX5_both_2 22 rfl rfl)
theorem dX5_both_63 : decode cX5_both 63 = .ok (.iload_n 1, 1) := dk_27 (dk_at dksX5_both_2 23 rfl rfl)
theorem dX5_both_64 : decode cX5_both 64 = .ok (.iload_n 2, 1) := dk_28 (dk_at dksX5_both_3 0 rfl rfl)
theorem dX5_both_65 : decode cX5_both 65 = .ok (.if_icmp .ne 7, 3) := dk_160 0 7 (dk_at dksX5_both_3 1 rfl rfl)
theorem dX5_both_68 : decode cX5_both 68 = .ok (.iconst 1, 1) := dk_4 (dk_at dksX5_both_3 4 rfl rfl)
theorem dX5_both_69 : decode cX5_both 69 = .ok (.goto 4, 3) := dk_167 0 4 (dk_at dksX5_both_3 5 rfl rfl)
theorem dX5_both_72 : decode cX5_both 72 = .ok (.iconst 0, 1) := dk_3 (dk_at dksX5_both_3 8 rfl rfl)
theorem dX5_both_73 : decode cX5_both 73 = .ok (.ireturn, 1) := dk_172 (dk_at dksX5_both_3 9 rfl rfl)
theorem dX5_both_74 : decode cX5_both 74 = .ok (.iload_n 1, 1) := dk_27 (dk_at dksX5_both_3 10 rfl rfl)
theorem dX5_both_75 : decode cX5_both 75 = .ok (.ifCond .eq 11, 3) := dk_153 0 11 (dk_at dksX5_both_3 11 rfl rfl)
theorem dX5_both_78 : decode cX5_both 78 = .ok (.iload_n 2, 1) := dk_28 (dk_at dksX5_both_3 14 rfl rfl)
theorem dX5_both_79 : decode cX5_both 79 = .ok (.ifCond .eq 7, 3) := dk_153 0 7 (dk_at dksX5_both_3 15 rfl rfl)
theorem dX5_both_82 : decode cX5_both 82 = .ok (.iconst 1, 1) := dk_4 (dk_at dksX5_both_3 18 rfl rfl)
theorem dX5_both_83 : decode cX5_both 83 = .ok (.goto 4, 3) := dk_167 0 4 (dk_at dksX5_both_3 19 rfl rfl)
theorem dX5_both_86 : decode cX5_both 86 = .ok (.iconst 0, 1) := dk_3 (dk_at dksX5_both_3 22 rfl rfl)
theorem dX5_both_87 : decode cX5_both 87 = .ok (.ireturn, 1) := dk_172 (dk_at dksX5_both_3 23 rfl rfl)
theorem dX5_both_88 : decode cX5_both 88 = .ok (.iload_n 1, 1) := dk_27 (dk_at dksX5_both_4 0 rfl rfl)
theorem dX5_both_89 : decode cX5_both 89 = .ok (.ifCond .ne 7, 3) := dk_154 0 7 (dk_at dksX5_both_4 1 rfl rfl)
theorem dX5_both_92 : decode cX5_both 92 = .ok (.iload_n 2, 1) := dk_28 (dk_at dksX5_both_4 4 rfl rfl)
theorem dX5_both_93 : decode cX5_both 93 = .ok (.ifCond .eq 7, 3) := dk_153 0 7 (dk_at dksX5_both_4 5 rfl rfl)
theorem dX5_both_96 : decode cX5_both 96 = .ok (.iconst 1, 1) := dk_4 (dk_at dksX5_both_4 8 rfl rfl)
theorem dX5_both_97 : decode cX5_both 97 = .ok (.goto 4, 3) := dk_167 0 4 (dk_at dksX5_both_4 9 rfl rfl)
theorem dX5_both_100 : decode cX5_both 100 = .ok (.iconst 0, 1) := dk_3 (dk_at dksX5_both_4 12 rfl rfl)
theorem dX5_both_101 : decode cX5_both 101 = .ok (.ireturn, 1) := dk_172 (dk_at dksX5_both_4 13 rfl rfl)
abbrev cX5_move : ByteArray := prog_23_method_68_code
def yX5_move : MethodName := ⟨RX5, "move", "(II)Z"⟩
def dkwX5_move_2 : List UInt8 := [172]
abbrev dktX5_move_2 : List UInt8 := dkwX5_move_2 ++ []
def dkwX5_move_1 : List UInt8 := [28, 182, 1, 91, 154, 0, 5, 3, 172, 42, 182, 1, 85, 42, 180, 0, 117, 16, 6, 27, 96, 28, 79, 4]
abbrev dktX5_move_1 : List UInt8 := dkwX5_move_1 ++ dktX5_move_2
def dkwX5_move_0 : List UInt8 := [42, 3, 181, 0, 1, 42, 27, 182, 1, 82, 153, 0, 21, 42, 28, 182, 1, 76, 153, 0, 13, 42, 3, 27]
abbrev dktX5_move_0 : List UInt8 := dkwX5_move_0 ++ dktX5_move_1
theorem dksX5_move_0 : cX5_move.data.toList.drop 0 = dktX5_move_0 := by decide +kernel
theorem dksX5_move_1 : cX5_move.data.toList.drop 24 = dktX5_move_1 := dk_seg dksX5_move_0 24 rfl rfl
theorem dksX5_move_2 : cX5_move.data.toList.drop 48 = dktX5_move_2 := dk_seg dksX5_move_1 24 rfl rfl
theorem dX5_move_0 : decode cX5_move 0 = .ok (.aload_n 0, 1) := dk_42 (dk_at dksX5_move_0 0 rfl rfl)
theorem dX5_move_1 : decode cX5_move 1 = .ok (.iconst 0, 1) := dk_3 (dk_at dksX5_move_0 1 rfl rfl)
theorem dX5_move_2 : decode cX5_move 2 = .ok (.putfield 1, 3) := dk_181 0 1 (dk_at dksX5_move_0 2 rfl rfl)
theorem dX5_move_5 : decode cX5_move 5 = .ok (.aload_n 0, 1) := dk_42 (dk_at dksX5_move_0 5 rfl rfl)
theorem dX5_move_6 : decode cX5_move 6 = .ok (.iload_n 1, 1) := dk_27 (dk_at dksX5_move_0 6 rfl rfl)
theorem dX5_move_7 : decode cX5_move 7 = .ok (.invokevirtual 338, 3) := dk_182 1 82 (dk_at dksX5_move_0 7 rfl rfl)
theorem dX5_move_10 : decode cX5_move 10 = .ok (.ifCond .eq 21, 3) := dk_153 0 21 (dk_at dksX5_move_0 10 rfl rfl)
theorem dX5_move_13 : decode cX5_move 13 = .ok (.aload_n 0, 1) := dk_42 (dk_at dksX5_move_0 13 rfl rfl)
theorem dX5_move_14 : decode cX5_move 14 = .ok (.iload_n 2, 1) := dk_28 (dk_at dksX5_move_0 14 rfl rfl)
theorem dX5_move_15 : decode cX5_move 15 = .ok (.invokevirtual 332, 3) := dk_182 1 76 (dk_at dksX5_move_0 15 rfl rfl)
theorem dX5_move_18 : decode cX5_move 18 = .ok (.ifCond .eq 13, 3) := dk_153 0 13 (dk_at dksX5_move_0 18 rfl rfl)
theorem dX5_move_21 : decode cX5_move 21 = .ok (.aload_n 0, 1) := dk_42 (dk_at dksX5_move_0 21 rfl rfl)
theorem dX5_move_22 : decode cX5_move 22 = .ok (.iconst 0, 1) := dk_3 (dk_at dksX5_move_0 22 rfl rfl)
theorem dX5_move_23 : decode cX5_move 23 = .ok (.iload_n 1, 1) := dk_27 (dk_at dksX5_move_0 23 rfl rfl)
theorem dX5_move_24 : decode cX5_move 24 = .ok (.iload_n 2, 1) := dk_28 (dk_at dksX5_move_1 0 rfl rfl)
theorem dX5_move_25 : decode cX5_move 25 = .ok (.invokevirtual 347, 3) := dk_182 1 91 (dk_at dksX5_move_1 1 rfl rfl)
theorem dX5_move_28 : decode cX5_move 28 = .ok (.ifCond .ne 5, 3) := dk_154 0 5 (dk_at dksX5_move_1 4 rfl rfl)
theorem dX5_move_31 : decode cX5_move 31 = .ok (.iconst 0, 1) := dk_3 (dk_at dksX5_move_1 7 rfl rfl)
theorem dX5_move_32 : decode cX5_move 32 = .ok (.ireturn, 1) := dk_172 (dk_at dksX5_move_1 8 rfl rfl)
theorem dX5_move_33 : decode cX5_move 33 = .ok (.aload_n 0, 1) := dk_42 (dk_at dksX5_move_1 9 rfl rfl)
theorem dX5_move_34 : decode cX5_move 34 = .ok (.invokevirtual 341, 3) := dk_182 1 85 (dk_at dksX5_move_1 10 rfl rfl)
theorem dX5_move_37 : decode cX5_move 37 = .ok (.aload_n 0, 1) := dk_42 (dk_at dksX5_move_1 13 rfl rfl)
theorem dX5_move_38 : decode cX5_move 38 = .ok (.getfield 117, 3) := dk_180 0 117 (dk_at dksX5_move_1 14 rfl rfl)
theorem dX5_move_41 : decode cX5_move 41 = .ok (.bipush 6, 2) := dk_16 6 (dk_at dksX5_move_1 17 rfl rfl)
theorem dX5_move_43 : decode cX5_move 43 = .ok (.iload_n 1, 1) := dk_27 (dk_at dksX5_move_1 19 rfl rfl)
theorem dX5_move_44 : decode cX5_move 44 = .ok (.iadd, 1) := dk_96 (dk_at dksX5_move_1 20 rfl rfl)
theorem dX5_move_45 : decode cX5_move 45 = .ok (.iload_n 2, 1) := dk_28 (dk_at dksX5_move_1 21 rfl rfl)
theorem dX5_move_46 : decode cX5_move 46 = .ok (.iastore, 1) := dk_79 (dk_at dksX5_move_1 22 rfl rfl)
theorem dX5_move_47 : decode cX5_move 47 = .ok (.iconst 1, 1) := dk_4 (dk_at dksX5_move_1 23 rfl rfl)
theorem dX5_move_48 : decode cX5_move 48 = .ok (.ireturn, 1) := dk_172 (dk_at dksX5_move_2 0 rfl rfl)
abbrev cX5_mayMove : ByteArray := prog_23_method_67_code
def yX5_mayMove : MethodName := ⟨RX5, "mayMove", "(III)Z"⟩
def dkwX5_mayMove_1 : List UInt8 := [46, 29, 159, 0, 17, 42, 27, 29, 28, 182, 1, 48, 153, 0, 7, 4, 167, 0, 4, 3, 172]
abbrev dktX5_mayMove_1 : List UInt8 := dkwX5_mayMove_1 ++ []
def dkwX5_mayMove_0 : List UInt8 := [42, 180, 0, 117, 27, 16, 6, 96, 28, 96, 46, 155, 0, 32, 42, 180, 0, 117, 27, 16, 6, 96, 28, 96]
abbrev dktX5_mayMove_0 : List UInt8 := dkwX5_mayMove_0 ++ dktX5_mayMove_1
theorem dksX5_mayMove_0 : cX5_mayMove.data.toList.drop 0 = dktX5_mayMove_0 := by decide +kernel
theorem dksX5_mayMove_1 : cX5_mayMove.data.toList.drop 24 = dktX5_mayMove_1 := dk_seg dksX5_mayMove_0 24 rfl rfl
theorem dX5_mayMove_0 : decode cX5_mayMove 0 = .ok (.aload_n 0, 1) := dk_42 (dk_at dksX5_mayMove_0 0 rfl rfl)
theorem dX5_mayMove_1 : decode cX5_mayMove 1 = .ok (.getfield 117, 3) := dk_180 0 117 (dk_at dksX5_mayMove_0 1 rfl rfl)
theorem dX5_mayMove_4 : decode cX5_mayMove 4 = .ok (.iload_n 1, 1) := dk_27 (dk_at dksX5_mayMove_0 4 rfl rfl)
theorem dX5_mayMove_5 : decode cX5_mayMove 5 = .ok (.bipush 6, 2) := dk_16 6 (dk_at dksX5_mayMove_0 5 rfl rfl)
theorem dX5_mayMove_7 : decode cX5_mayMove 7 = .ok (.iadd, 1) := dk_96 (dk_at dksX5_mayMove_0 7 rfl rfl)
theorem dX5_mayMove_8 : decode cX5_mayMove 8 = .ok (.iload_n 2, 1) := dk_28 (dk_at dksX5_mayMove_0 8 rfl rfl)
theorem dX5_mayMove_9 : decode cX5_mayMove 9 = .ok (.iadd, 1) := dk_96 (dk_at dksX5_mayMove_0 9 rfl rfl)
theorem dX5_mayMove_10 : decode cX5_mayMove 10 = .ok (.iaload, 1) := dk_46 (dk_at dksX5_mayMove_0 10 rfl rfl)
theorem dX5_mayMove_11 : decode cX5_mayMove 11 = .ok (.ifCond .lt 32, 3) := dk_155 0 32 (dk_at dksX5_mayMove_0 11 rfl rfl)
theorem dX5_mayMove_14 : decode cX5_mayMove 14 = .ok (.aload_n 0, 1) := dk_42 (dk_at dksX5_mayMove_0 14 rfl rfl)
theorem dX5_mayMove_15 : decode cX5_mayMove 15 = .ok (.getfield 117, 3) := dk_180 0 117 (dk_at dksX5_mayMove_0 15 rfl rfl)
theorem dX5_mayMove_18 : decode cX5_mayMove 18 = .ok (.iload_n 1, 1) := dk_27 (dk_at dksX5_mayMove_0 18 rfl rfl)
theorem dX5_mayMove_19 : decode cX5_mayMove 19 = .ok (.bipush 6, 2) := dk_16 6 (dk_at dksX5_mayMove_0 19 rfl rfl)
theorem dX5_mayMove_21 : decode cX5_mayMove 21 = .ok (.iadd, 1) := dk_96 (dk_at dksX5_mayMove_0 21 rfl rfl)
theorem dX5_mayMove_22 : decode cX5_mayMove 22 = .ok (.iload_n 2, 1) := dk_28 (dk_at dksX5_mayMove_0 22 rfl rfl)
theorem dX5_mayMove_23 : decode cX5_mayMove 23 = .ok (.iadd, 1) := dk_96 (dk_at dksX5_mayMove_0 23 rfl rfl)
theorem dX5_mayMove_24 : decode cX5_mayMove 24 = .ok (.iaload, 1) := dk_46 (dk_at dksX5_mayMove_1 0 rfl rfl)
theorem dX5_mayMove_25 : decode cX5_mayMove 25 = .ok (.iload_n 3, 1) := dk_29 (dk_at dksX5_mayMove_1 1 rfl rfl)
theorem dX5_mayMove_26 : decode cX5_mayMove 26 = .ok (.if_icmp .eq 17, 3) := dk_159 0 17 (dk_at dksX5_mayMove_1 2 rfl rfl)
theorem dX5_mayMove_29 : decode cX5_mayMove 29 = .ok (.aload_n 0, 1) := dk_42 (dk_at dksX5_mayMove_1 5 rfl rfl)
theorem dX5_mayMove_30 : decode cX5_mayMove 30 = .ok (.iload_n 1, 1) := dk_27 (dk_at dksX5_mayMove_1 6 rfl rfl)
theorem dX5_mayMove_31 : decode cX5_mayMove 31 = .ok (.iload_n 3, 1) := dk_29 (dk_at dksX5_mayMove_1 7 rfl rfl)
theorem dX5_mayMove_32 : decode cX5_mayMove 32 = .ok (.iload_n 2, 1) := dk_28 (dk_at dksX5_mayMove_1 8 rfl rfl)
theorem dX5_mayMove_33 : decode cX5_mayMove 33 = .ok (.invokevirtual 304, 3) := dk_182 1 48 (dk_at dksX5_mayMove_1 9 rfl rfl)
theorem dX5_mayMove_36 : decode cX5_mayMove 36 = .ok (.ifCond .eq 7, 3) := dk_153 0 7 (dk_at dksX5_mayMove_1 12 rfl rfl)
theorem dX5_mayMove_39 : decode cX5_mayMove 39 = .ok (.iconst 1, 1) := dk_4 (dk_at dksX5_mayMove_1 15 rfl rfl)
theorem dX5_mayMove_40 : decode cX5_mayMove 40 = .ok (.goto 4, 3) := dk_167 0 4 (dk_at dksX5_mayMove_1 16 rfl rfl)
theorem dX5_mayMove_43 : decode cX5_mayMove 43 = .ok (.iconst 0, 1) := dk_3 (dk_at dksX5_mayMove_1 19 rfl rfl)
theorem dX5_mayMove_44 : decode cX5_mayMove 44 = .ok (.ireturn, 1) := dk_172 (dk_at dksX5_mayMove_1 20 rfl rfl)
abbrev cX5_send : ByteArray := prog_23_method_69_code
def yX5_send : MethodName := ⟨RX5, "send", "(I)Z"⟩
def dkwX5_send_1 : List UInt8 := [156, 0, 5, 3, 172, 42, 182, 1, 85, 42, 3, 27, 182, 1, 66, 4, 172]
abbrev dktX5_send_1 : List UInt8 := dkwX5_send_1 ++ []
def dkwX5_send_0 : List UInt8 := [42, 3, 181, 0, 1, 42, 27, 182, 1, 82, 153, 0, 15, 42, 180, 0, 117, 16, 6, 27, 96, 46]
abbrev dktX5_send_0 : List UInt8 := dkwX5_send_0 ++ dktX5_send_1
theorem dksX5_send_0 : cX5_send.data.toList.drop 0 = dktX5_send_0 := by decide +kernel
theorem dksX5_send_1 : cX5_send.data.toList.drop 22 = dktX5_send_1 := dk_seg dksX5_send_0 22 rfl rfl
theorem dX5_send_0 : decode cX5_send 0 = .ok (.aload_n 0, 1) := dk_42 (dk_at dksX5_send_0 0 rfl rfl)
theorem dX5_send_1 : decode cX5_send 1 = .ok (.iconst 0, 1) := dk_3 (dk_at dksX5_send_0 1 rfl rfl)
theorem dX5_send_2 : decode cX5_send 2 = .ok (.putfield 1, 3) := dk_181 0 1 (dk_at dksX5_send_0 2 rfl rfl)
theorem dX5_send_5 : decode cX5_send 5 = .ok (.aload_n 0, 1) := dk_42 (dk_at dksX5_send_0 5 rfl rfl)
theorem dX5_send_6 : decode cX5_send 6 = .ok (.iload_n 1, 1) := dk_27 (dk_at dksX5_send_0 6 rfl rfl)
theorem dX5_send_7 : decode cX5_send 7 = .ok (.invokevirtual 338, 3) := dk_182 1 82 (dk_at dksX5_send_0 7 rfl rfl)
theorem dX5_send_10 : decode cX5_send 10 = .ok (.ifCond .eq 15, 3) := dk_153 0 15 (dk_at dksX5_send_0 10 rfl rfl)
theorem dX5_send_13 : decode cX5_send 13 = .ok (.aload_n 0, 1) := dk_42 (dk_at dksX5_send_0 13 rfl rfl)
theorem dX5_send_14 : decode cX5_send 14 = .ok (.getfield 117, 3) := dk_180 0 117 (dk_at dksX5_send_0 14 rfl rfl)
theorem dX5_send_17 : decode cX5_send 17 = .ok (.bipush 6, 2) := dk_16 6 (dk_at dksX5_send_0 17 rfl rfl)
theorem dX5_send_19 : decode cX5_send 19 = .ok (.iload_n 1, 1) := dk_27 (dk_at dksX5_send_0 19 rfl rfl)
theorem dX5_send_20 : decode cX5_send 20 = .ok (.iadd, 1) := dk_96 (dk_at dksX5_send_0 20 rfl rfl)
theorem dX5_send_21 : decode cX5_send 21 = .ok (.iaload, 1) := dk_46 (dk_at dksX5_send_0 21 rfl rfl)
theorem dX5_send_22 : decode cX5_send 22 = .ok (.ifCond .ge 5, 3) := dk_156 0 5 (dk_at dksX5_send_1 0 rfl rfl)
theorem dX5_send_25 : decode cX5_send 25 = .ok (.iconst 0, 1) := dk_3 (dk_at dksX5_send_1 3 rfl rfl)
theorem dX5_send_26 : decode cX5_send 26 = .ok (.ireturn, 1) := dk_172 (dk_at dksX5_send_1 4 rfl rfl)
theorem dX5_send_27 : decode cX5_send 27 = .ok (.aload_n 0, 1) := dk_42 (dk_at dksX5_send_1 5 rfl rfl)
theorem dX5_send_28 : decode cX5_send 28 = .ok (.invokevirtual 341, 3) := dk_182 1 85 (dk_at dksX5_send_1 6 rfl rfl)
theorem dX5_send_31 : decode cX5_send 31 = .ok (.aload_n 0, 1) := dk_42 (dk_at dksX5_send_1 9 rfl rfl)
theorem dX5_send_32 : decode cX5_send 32 = .ok (.iconst 0, 1) := dk_3 (dk_at dksX5_send_1 10 rfl rfl)
theorem dX5_send_33 : decode cX5_send 33 = .ok (.iload_n 1, 1) := dk_27 (dk_at dksX5_send_1 11 rfl rfl)
theorem dX5_send_34 : decode cX5_send 34 = .ok (.invokevirtual 322, 3) := dk_182 1 66 (dk_at dksX5_send_1 12 rfl rfl)
theorem dX5_send_37 : decode cX5_send 37 = .ok (.iconst 1, 1) := dk_4 (dk_at dksX5_send_1 15 rfl rfl)
theorem dX5_send_38 : decode cX5_send 38 = .ok (.ireturn, 1) := dk_172 (dk_at dksX5_send_1 16 rfl rfl)
abbrev cX5_build : ByteArray := prog_23_method_70_code
def yX5_build : MethodName := ⟨RX5, "build", "(I)I"⟩
def dkwX5_build_2 : List UInt8 := [180, 0, 117, 5, 27, 96, 46, 172]
abbrev dktX5_build_2 : List UInt8 := dkwX5_build_2 ++ []
def dkwX5_build_1 : List UInt8 := [160, 0, 5, 2, 172, 42, 182, 1, 85, 42, 180, 0, 117, 5, 27, 96, 92, 46, 4, 96, 79, 42]
abbrev dktX5_build_1 : List UInt8 := dkwX5_build_1 ++ dktX5_build_2
def dkwX5_build_0 : List UInt8 := [42, 3, 181, 0, 1, 42, 27, 182, 1, 76, 153, 0, 16, 42, 180, 0, 117, 5, 27, 96, 46, 16, 9]
abbrev dktX5_build_0 : List UInt8 := dkwX5_build_0 ++ dktX5_build_1
theorem dksX5_build_0 : cX5_build.data.toList.drop 0 = dktX5_build_0 := by decide +kernel
theorem dksX5_build_1 : cX5_build.data.toList.drop 23 = dktX5_build_1 := dk_seg dksX5_build_0 23 rfl rfl
theorem dksX5_build_2 : cX5_build.data.toList.drop 45 = dktX5_build_2 := dk_seg dksX5_build_1 22 rfl rfl
theorem dX5_build_0 : decode cX5_build 0 = .ok (.aload_n 0, 1) := dk_42 (dk_at dksX5_build_0 0 rfl rfl)
theorem dX5_build_1 : decode cX5_build 1 = .ok (.iconst 0, 1) := dk_3 (dk_at dksX5_build_0 1 rfl rfl)
theorem dX5_build_2 : decode cX5_build 2 = .ok (.putfield 1, 3) := dk_181 0 1 (dk_at dksX5_build_0 2 rfl rfl)
theorem dX5_build_5 : decode cX5_build 5 = .ok (.aload_n 0, 1) := dk_42 (dk_at dksX5_build_0 5 rfl rfl)
theorem dX5_build_6 : decode cX5_build 6 = .ok (.iload_n 1, 1) := dk_27 (dk_at dksX5_build_0 6 rfl rfl)
theorem dX5_build_7 : decode cX5_build 7 = .ok (.invokevirtual 332, 3) := dk_182 1 76 (dk_at dksX5_build_0 7 rfl rfl)
theorem dX5_build_10 : decode cX5_build 10 = .ok (.ifCond .eq 16, 3) := dk_153 0 16 (dk_at dksX5_build_0 10 rfl rfl)
theorem dX5_build_13 : decode cX5_build 13 = .ok (.aload_n 0, 1) := dk_42 (dk_at dksX5_build_0 13 rfl rfl)
theorem dX5_build_14 : decode cX5_build 14 = .ok (.getfield 117, 3) := dk_180 0 117 (dk_at dksX5_build_0 14 rfl rfl)
theorem dX5_build_17 : decode cX5_build 17 = .ok (.iconst 2, 1) := dk_5 (dk_at dksX5_build_0 17 rfl rfl)
theorem dX5_build_18 : decode cX5_build 18 = .ok (.iload_n 1, 1) := dk_27 (dk_at dksX5_build_0 18 rfl rfl)
theorem dX5_build_19 : decode cX5_build 19 = .ok (.iadd, 1) := dk_96 (dk_at dksX5_build_0 19 rfl rfl)
theorem dX5_build_20 : decode cX5_build 20 = .ok (.iaload, 1) := dk_46 (dk_at dksX5_build_0 20 rfl rfl)
theorem dX5_build_21 : decode cX5_build 21 = .ok (.bipush 9, 2) := dk_16 9 (dk_at dksX5_build_0 21 rfl rfl)
theorem dX5_build_23 : decode cX5_build 23 = .ok (.if_icmp .ne 5, 3) := dk_160 0 5 (dk_at dksX5_build_1 0 rfl rfl)
theorem dX5_build_26 : decode cX5_build 26 = .ok (.iconst (-1), 1) := dk_2 (dk_at dksX5_build_1 3 rfl rfl)
theorem dX5_build_27 : decode cX5_build 27 = .ok (.ireturn, 1) := dk_172 (dk_at dksX5_build_1 4 rfl rfl)
theorem dX5_build_28 : decode cX5_build 28 = .ok (.aload_n 0, 1) := dk_42 (dk_at dksX5_build_1 5 rfl rfl)
theorem dX5_build_29 : decode cX5_build 29 = .ok (.invokevirtual 341, 3) := dk_182 1 85 (dk_at dksX5_build_1 6 rfl rfl)
theorem dX5_build_32 : decode cX5_build 32 = .ok (.aload_n 0, 1) := dk_42 (dk_at dksX5_build_1 9 rfl rfl)
theorem dX5_build_33 : decode cX5_build 33 = .ok (.getfield 117, 3) := dk_180 0 117 (dk_at dksX5_build_1 10 rfl rfl)
theorem dX5_build_36 : decode cX5_build 36 = .ok (.iconst 2, 1) := dk_5 (dk_at dksX5_build_1 13 rfl rfl)
theorem dX5_build_37 : decode cX5_build 37 = .ok (.iload_n 1, 1) := dk_27 (dk_at dksX5_build_1 14 rfl rfl)
theorem dX5_build_38 : decode cX5_build 38 = .ok (.iadd, 1) := dk_96 (dk_at dksX5_build_1 15 rfl rfl)
theorem dX5_build_39 : decode cX5_build 39 = .ok (.dup2, 1) := dk_92 (dk_at dksX5_build_1 16 rfl rfl)
theorem dX5_build_40 : decode cX5_build 40 = .ok (.iaload, 1) := dk_46 (dk_at dksX5_build_1 17 rfl rfl)
theorem dX5_build_41 : decode cX5_build 41 = .ok (.iconst 1, 1) := dk_4 (dk_at dksX5_build_1 18 rfl rfl)
theorem dX5_build_42 : decode cX5_build 42 = .ok (.iadd, 1) := dk_96 (dk_at dksX5_build_1 19 rfl rfl)
theorem dX5_build_43 : decode cX5_build 43 = .ok (.iastore, 1) := dk_79 (dk_at dksX5_build_1 20 rfl rfl)
theorem dX5_build_44 : decode cX5_build 44 = .ok (.aload_n 0, 1) := dk_42 (dk_at dksX5_build_1 21 rfl rfl)
theorem dX5_build_45 : decode cX5_build 45 = .ok (.getfield 117, 3) := dk_180 0 117 (dk_at dksX5_build_2 0 rfl rfl)
theorem dX5_build_48 : decode cX5_build 48 = .ok (.iconst 2, 1) := dk_5 (dk_at dksX5_build_2 3 rfl rfl)
theorem dX5_build_49 : decode cX5_build 49 = .ok (.iload_n 1, 1) := dk_27 (dk_at dksX5_build_2 4 rfl rfl)
theorem dX5_build_50 : decode cX5_build 50 = .ok (.iadd, 1) := dk_96 (dk_at dksX5_build_2 5 rfl rfl)
theorem dX5_build_51 : decode cX5_build 51 = .ok (.iaload, 1) := dk_46 (dk_at dksX5_build_2 6 rfl rfl)
theorem dX5_build_52 : decode cX5_build 52 = .ok (.ireturn, 1) := dk_172 (dk_at dksX5_build_2 7 rfl rfl)
abbrev cX5_undo : ByteArray := prog_23_method_71_code
def yX5_undo : MethodName := ⟨RX5, "undo", "()Z"⟩
def dkwX5_undo_1 : List UInt8 := [42, 16, 47, 8, 42, 180, 1, 33, 96, 104, 3, 16, 30, 182, 1, 36, 4, 172]
abbrev dktX5_undo_1 : List UInt8 := dkwX5_undo_1 ++ []
def dkwX5_undo_0 : List UInt8 := [42, 3, 181, 0, 1, 42, 180, 1, 33, 154, 0, 5, 3, 172, 42, 89, 180, 1, 33, 4, 100, 181, 1, 33]
abbrev dktX5_undo_0 : List UInt8 := dkwX5_undo_0 ++ dktX5_undo_1
theorem dksX5_undo_0 : cX5_undo.data.toList.drop 0 = dktX5_undo_0 := by decide +kernel
theorem dksX5_undo_1 : cX5_undo.data.toList.drop 24 = dktX5_undo_1 := dk_seg dksX5_undo_0 24 rfl rfl
theorem dX5_undo_0 : decode cX5_undo 0 = .ok (.aload_n 0, 1) := dk_42 (dk_at dksX5_undo_0 0 rfl rfl)
theorem dX5_undo_1 : decode cX5_undo 1 = .ok (.iconst 0, 1) := dk_3 (dk_at dksX5_undo_0 1 rfl rfl)
theorem dX5_undo_2 : decode cX5_undo 2 = .ok (.putfield 1, 3) := dk_181 0 1 (dk_at dksX5_undo_0 2 rfl rfl)
theorem dX5_undo_5 : decode cX5_undo 5 = .ok (.aload_n 0, 1) := dk_42 (dk_at dksX5_undo_0 5 rfl rfl)
theorem dX5_undo_6 : decode cX5_undo 6 = .ok (.getfield 289, 3) := dk_180 1 33 (dk_at dksX5_undo_0 6 rfl rfl)
theorem dX5_undo_9 : decode cX5_undo 9 = .ok (.ifCond .ne 5, 3) := dk_154 0 5 (dk_at dksX5_undo_0 9 rfl rfl)
theorem dX5_undo_12 : decode cX5_undo 12 = .ok (.iconst 0, 1) := dk_3 (dk_at dksX5_undo_0 12 rfl rfl)
theorem dX5_undo_13 : decode cX5_undo 13 = .ok (.ireturn, 1) := dk_172 (dk_at dksX5_undo_0 13 rfl rfl)
theorem dX5_undo_14 : decode cX5_undo 14 = .ok (.aload_n 0, 1) := dk_42 (dk_at dksX5_undo_0 14 rfl rfl)
theorem dX5_undo_15 : decode cX5_undo 15 = .ok (.dup, 1) := dk_89 (dk_at dksX5_undo_0 15 rfl rfl)
theorem dX5_undo_16 : decode cX5_undo 16 = .ok (.getfield 289, 3) := dk_180 1 33 (dk_at dksX5_undo_0 16 rfl rfl)
theorem dX5_undo_19 : decode cX5_undo 19 = .ok (.iconst 1, 1) := dk_4 (dk_at dksX5_undo_0 19 rfl rfl)
theorem dX5_undo_20 : decode cX5_undo 20 = .ok (.isub, 1) := dk_100 (dk_at dksX5_undo_0 20 rfl rfl)
theorem dX5_undo_21 : decode cX5_undo 21 = .ok (.putfield 289, 3) := dk_181 1 33 (dk_at dksX5_undo_0 21 rfl rfl)
theorem dX5_undo_24 : decode cX5_undo 24 = .ok (.aload_n 0, 1) := dk_42 (dk_at dksX5_undo_1 0 rfl rfl)
theorem dX5_undo_25 : decode cX5_undo 25 = .ok (.bipush 47, 2) := dk_16 47 (dk_at dksX5_undo_1 1 rfl rfl)
theorem dX5_undo_27 : decode cX5_undo 27 = .ok (.iconst 5, 1) := dk_8 (dk_at dksX5_undo_1 3 rfl rfl)
theorem dX5_undo_28 : decode cX5_undo 28 = .ok (.aload_n 0, 1) := dk_42 (dk_at dksX5_undo_1 4 rfl rfl)
theorem dX5_undo_29 : decode cX5_undo 29 = .ok (.getfield 289, 3) := dk_180 1 33 (dk_at dksX5_undo_1 5 rfl rfl)
theorem dX5_undo_32 : decode cX5_undo 32 = .ok (.iadd, 1) := dk_96 (dk_at dksX5_undo_1 8 rfl rfl)
theorem dX5_undo_33 : decode cX5_undo 33 = .ok (.imul, 1) := dk_104 (dk_at dksX5_undo_1 9 rfl rfl)
theorem dX5_undo_34 : decode cX5_undo 34 = .ok (.iconst 0, 1) := dk_3 (dk_at dksX5_undo_1 10 rfl rfl)
theorem dX5_undo_35 : decode cX5_undo 35 = .ok (.bipush 30, 2) := dk_16 30 (dk_at dksX5_undo_1 11 rfl rfl)
theorem dX5_undo_37 : decode cX5_undo 37 = .ok (.invokevirtual 292, 3) := dk_182 1 36 (dk_at dksX5_undo_1 13 rfl rfl)
theorem dX5_undo_40 : decode cX5_undo 40 = .ok (.iconst 1, 1) := dk_4 (dk_at dksX5_undo_1 16 rfl rfl)
theorem dX5_undo_41 : decode cX5_undo 41 = .ok (.ireturn, 1) := dk_172 (dk_at dksX5_undo_1 17 rfl rfl)
abbrev cX5_judged : ByteArray := prog_23_method_72_code
def yX5_judged : MethodName := ⟨RX5, "judged", "(I)I"⟩
def dkwX5_judged_12 : List UInt8 := [28, 167, 0, 20, 27, 4, 160, 0, 7, 29, 167, 0, 11, 42, 180, 0, 117, 17, 3, 220, 46, 172]
abbrev dktX5_judged_12 : List UInt8 := dkwX5_judged_12 ++ []
def dkwX5_judged_11 : List UInt8 := [180, 0, 117, 17, 3, 221, 21, 6, 96, 92, 46, 4, 96, 79, 132, 4, 1, 167, 255, 10, 27, 154, 0, 7]
abbrev dktX5_judged_11 : List UInt8 := dkwX5_judged_11 ++ dktX5_judged_12
def dkwX5_judged_10 : List UInt8 := [21, 5, 5, 160, 0, 15, 42, 17, 3, 219, 21, 6, 182, 1, 66, 167, 0, 23, 21, 8, 153, 0, 18, 42]
abbrev dktX5_judged_10 : List UInt8 := dkwX5_judged_10 ++ dktX5_judged_11
def dkwX5_judged_9 : List UInt8 := [160, 0, 19, 42, 180, 0, 117, 17, 3, 225, 21, 6, 96, 21, 7, 79, 167, 0, 46, 21, 8, 153, 0, 21]
abbrev dktX5_judged_9 : List UInt8 := dkwX5_judged_9 ++ dktX5_judged_10
def dkwX5_judged_8 : List UInt8 := [29, 156, 0, 8, 21, 4, 167, 0, 4, 29, 62, 167, 0, 73, 21, 8, 153, 0, 25, 21, 5, 4]
abbrev dktX5_judged_8 : List UInt8 := dkwX5_judged_8 ++ dktX5_judged_9
def dkwX5_judged_7 : List UInt8 := [167, 0, 4, 28, 61, 21, 5, 154, 0, 31, 42, 17, 3, 219, 182, 1, 88, 42, 180, 1, 54, 153, 0, 12]
abbrev dktX5_judged_7 : List UInt8 := dkwX5_judged_7 ++ dktX5_judged_8
def dkwX5_judged_6 : List UInt8 := [16, 9, 162, 0, 7, 4, 167, 0, 4, 3, 54, 8, 21, 8, 154, 0, 12, 28, 156, 0, 8, 21, 4]
abbrev dktX5_judged_6 : List UInt8 := dkwX5_judged_6 ++ dktX5_judged_7
def dkwX5_judged_5 : List UInt8 := [17, 3, 225, 21, 6, 96, 46, 155, 0, 26, 167, 0, 19, 42, 180, 0, 117, 17, 3, 221, 21, 6, 96, 46]
abbrev dktX5_judged_5 : List UInt8 := dkwX5_judged_5 ++ dktX5_judged_6
def dkwX5_judged_4 : List UInt8 := [21, 6, 21, 7, 182, 1, 91, 153, 0, 49, 167, 0, 42, 21, 5, 5, 160, 0, 20, 42, 180, 0, 117]
abbrev dktX5_judged_4 : List UInt8 := dkwX5_judged_4 ++ dktX5_judged_5
def dkwX5_judged_3 : List UInt8 := [6, 6, 21, 4, 104, 96, 46, 54, 7, 21, 5, 153, 0, 65, 21, 5, 4, 160, 0, 20, 42, 17, 3, 219]
abbrev dktX5_judged_3 : List UInt8 := dkwX5_judged_3 ++ dktX5_judged_4
def dkwX5_judged_2 : List UInt8 := [21, 4, 104, 96, 46, 54, 5, 42, 180, 0, 108, 5, 6, 21, 4, 104, 96, 46, 54, 6, 42, 180, 0, 108]
abbrev dktX5_judged_2 : List UInt8 := dkwX5_judged_2 ++ dktX5_judged_3
def dkwX5_judged_1 : List UInt8 := [2, 61, 2, 62, 3, 54, 4, 21, 4, 42, 180, 0, 108, 3, 46, 162, 0, 241, 42, 180, 0, 108, 4, 6]
abbrev dktX5_judged_1 : List UInt8 := dkwX5_judged_1 ++ dktX5_judged_2
def dkwX5_judged_0 : List UInt8 := [42, 3, 181, 0, 1, 27, 3, 5, 184, 0, 202, 154, 0, 6, 16, 254, 172, 42, 17, 3, 219, 182, 1, 30]
abbrev dktX5_judged_0 : List UInt8 := dkwX5_judged_0 ++ dktX5_judged_1
theorem dksX5_judged_0 : cX5_judged.data.toList.drop 0 = dktX5_judged_0 := by decide +kernel
theorem dksX5_judged_1 : cX5_judged.data.toList.drop 24 = dktX5_judged_1 := dk_seg dksX5_judged_0 24 rfl rfl
theorem dksX5_judged_2 : cX5_judged.data.toList.drop 48 = dktX5_judged_2 := dk_seg dksX5_judged_1 24 rfl rfl
theorem dksX5_judged_3 : cX5_judged.data.toList.drop 72 = dktX5_judged_3 := dk_seg dksX5_judged_2 24 rfl rfl
theorem dksX5_judged_4 : cX5_judged.data.toList.drop 96 = dktX5_judged_4 := dk_seg dksX5_judged_3 24 rfl rfl
theorem dksX5_judged_5 : cX5_judged.data.toList.drop 119 = dktX5_judged_5 := dk_seg dksX5_judged_4 23 rfl rfl
theorem dksX5_judged_6 : cX5_judged.data.toList.drop 143 = dktX5_judged_6 := dk_seg dksX5_judged_5 24 rfl rfl
theorem dksX5_judged_7 : cX5_judged.data.toList.drop 166 = dktX5_judged_7 := dk_seg dksX5_judged_6 23 rfl rfl
theorem dksX5_judged_8 : cX5_judged.data.toList.drop 190 = dktX5_judged_8 := dk_seg dksX5_judged_7 24 rfl rfl
theorem dksX5_judged_9 : cX5_judged.data.toList.drop 212 = dktX5_judged_9 := dk_seg dksX5_judged_8 22 rfl rfl
theorem dksX5_judged_10 : cX5_judged.data.toList.drop 236 = dktX5_judged_10 := dk_seg dksX5_judged_9 24 rfl rfl
theorem dksX5_judged_11 : cX5_judged.data.toList.drop 260 = dktX5_judged_11 := dk_seg dksX5_judged_10 24 rfl rfl
theorem dksX5_judged_12 : cX5_judged.data.toList.drop 284 = dktX5_judged_12 := dk_seg dksX5_judged_11 24 rfl rfl
theorem dX5_judged_0 : decode cX5_judged 0 = .ok (.aload_n 0, 1) := dk_42 (dk_at dksX5_judged_0 0 rfl rfl)
theorem dX5_judged_1 : decode cX5_judged 1 = .ok (.iconst 0, 1) := dk_3 (dk_at dksX5_judged_0 1 rfl rfl)
theorem dX5_judged_2 : decode cX5_judged 2 = .ok (.putfield 1, 3) := dk_181 0 1 (dk_at dksX5_judged_0 2 rfl rfl)
theorem dX5_judged_5 : decode cX5_judged 5 = .ok (.iload_n 1, 1) := dk_27 (dk_at dksX5_judged_0 5 rfl rfl)
theorem dX5_judged_6 : decode cX5_judged 6 = .ok (.iconst 0, 1) := dk_3 (dk_at dksX5_judged_0 6 rfl rfl)
theorem dX5_judged_7 : decode cX5_judged 7 = .ok (.iconst 2, 1) := dk_5 (dk_at dksX5_judged_0 7 rfl rfl)
theorem dX5_judged_8 : decode cX5_judged 8 = .ok (.invokestatic 202, 3) := dk_184 0 202 (dk_at dksX5_judged_0 8 rfl rfl)
theorem dX5_judged_11 : decode cX5_judged 11 = .ok (.ifCond .ne 6, 3) := dk_154 0 6 (dk_at dksX5_judged_0 11 rfl rfl)
theorem dX5_judged_14 : decode cX5_judged 14 = .ok (.bipush (-2), 2) := dk_16 254 (dk_at dksX5_judged_0 14 rfl rfl)
theorem dX5_judged_16 : decode cX5_judged 16 = .ok (.ireturn, 1) := dk_172 (dk_at dksX5_judged_0 16 rfl rfl)
theorem dX5_judged_17 : decode cX5_judged 17 = .ok (.aload_n 0, 1) := dk_42 (dk_at dksX5_judged_0 17 rfl rfl)
theorem dX5_judged_18 : decode cX5_judged 18 = .ok (.sipush 987, 3) := dk_17 3 219 (dk_at dksX5_judged_0 18 rfl rfl)
theorem dX5_judged_21 : decode cX5_judged 21 = .ok (.invokevirtual 286, 3) := dk_182 1 30 (dk_at dksX5_judged_0 21 rfl rfl)
theorem dX5_judged_24 : decode cX5_judged 24 = .ok (.iconst (-1), 1) := dk_2 (dk_at dksX5_judged_1 0 rfl rfl)
theorem dX5_judged_25 : decode cX5_judged 25 = .ok (.istore_n 2, 1) := dk_61 (dk_at dksX5_judged_1 1 rfl rfl)
theorem dX5_judged_26 : decode cX5_judged 26 = .ok (.iconst (-1), 1) := dk_2 (dk_at dksX5_judged_1 2 rfl rfl)
theorem dX5_judged_27 : decode cX5_judged 27 = .ok (.istore_n 3, 1) := dk_62 (dk_at dksX5_judged_1 3 rfl rfl)
theorem dX5_judged_28 : decode cX5_judged 28 = .ok (.iconst 0, 1) := dk_3 (dk_at dksX5_judged_1 4 rfl rfl)
theorem dX5_judged_29 : decode cX5_judged 29 = .ok (.istore 4, 2) := dk_54 4 (dk_at dksX5_judged_1 5 rfl rfl)
theorem dX5_judged_31 : decode cX5_judged 31 = .ok (.iload 4, 2) := dk_21 4 (dk_at dksX5_judged_1 7 rfl rfl)
theorem dX5_judged_33 : decode cX5_judged 33 = .ok (.aload_n 0, 1) := dk_42 (dk_at dksX5_judged_1 9 rfl rfl)
theorem dX5_judged_34 : decode cX5_judged 34 = .ok (.getfield 108, 3) := dk_180 0 108 (dk_at dksX5_judged_1 10 rfl rfl)
theorem dX5_judged_37 : decode cX5_judged 37 = .ok (.iconst 0, 1) := dk_3 (dk_at dksX5_judged_1 13 rfl rfl)
theorem dX5_judged_38 : decode cX5_judged 38 = .ok (.iaload, 1) := dk_46 (dk_at dksX5_judged_1 14 rfl rfl)
theorem dX5_judged_39 : decode cX5_judged 39 = .ok (.if_icmp .ge 241, 3) := dk_162 0 241 (dk_at dksX5_judged_1 15 rfl rfl)
theorem dX5_judged_42 : decode cX5_judged 42 = .ok (.aload_n 0, 1) := dk_42 (dk_at dksX5_judged_1 18 rfl rfl)
theorem dX5_judged_43 : decode cX5_judged 43 = .ok (.getfield 108, 3) := dk_180 0 108 (dk_at dksX5_judged_1 19 rfl rfl)
theorem dX5_judged_46 : decode cX5_judged 46 = .ok (.iconst 1, 1) := dk_4 (dk_at dksX5_judged_1 22 rfl rfl)
theorem dX5_judged_47 : decode cX5_judged 47 = .ok (.iconst 3, 1) := dk_6 (dk_at dksX5_judged_1 23 rfl rfl)
theorem dX5_judged_48 : decode cX5_judged 48 = .ok (.iload 4, 2) := dk_21 4 (dk_at dksX5_judged_2 0 rfl rfl)
theorem dX5_judged_50 : decode cX5_judged 50 = .ok (.imul, 1) := dk_104 (dk_at dksX5_judged_2 2 rfl rfl)
theorem dX5_judged_51 : decode cX5_judged 51 = .ok (.iadd, 1) := dk_96 (dk_at dksX5_judged_2 3 rfl rfl)
theorem dX5_judged_52 : decode cX5_judged 52 = .ok (.iaload, 1) := dk_46 (dk_at dksX5_judged_2 4 rfl rfl)
theorem dX5_judged_53 : decode cX5_judged 53 = .ok (.istore 5, 2) := dk_54 5 (dk_at dksX5_judged_2 5 rfl rfl)
theorem dX5_judged_55 : decode cX5_judged 55 = .ok (.aload_n 0, 1) := dk_42 (dk_at dksX5_judged_2 7 rfl rfl)
theorem dX5_judged_56 : decode cX5_judged 56 = .ok (.getfield 108, 3) := dk_180 0 108 (dk_at dksX5_judged_2 8 rfl rfl)
theorem dX5_judged_59 : decode cX5_judged 59 = .ok (.iconst 2, 1) := dk_5 (dk_at dksX5_judged_2 11 rfl rfl)
theorem dX5_judged_60 : decode cX5_judged 60 = .ok (.iconst 3, 1) := dk_6 (dk_at dksX5_judged_2 12 rfl rfl)
theorem dX5_judged_61 : decode cX5_judged 61 = .ok (.iload 4, 2) := dk_21 4 (dk_at dksX5_judged_2 13 rfl rfl)
theorem dX5_judged_63 : decode cX5_judged 63 = .ok (.imul, 1) := dk_104 (dk_at dksX5_judged_2 15 rfl rfl)
theorem dX5_judged_64 : decode cX5_judged 64 = .ok (.iadd, 1) := dk_96 (dk_at dksX5_judged_2 16 rfl rfl)
theorem dX5_judged_65 : decode cX5_judged 65 = .ok (.iaload, 1) := dk_46 (dk_at dksX5_judged_2 17 rfl rfl)
theorem dX5_judged_66 : decode cX5_judged 66 = .ok (.istore 6, 2) := dk_54 6 (dk_at dksX5_judged_2 18 rfl rfl)
theorem dX5_judged_68 : decode cX5_judged 68 = .ok (.aload_n 0, 1) := dk_42 (dk_at dksX5_judged_2 20 rfl rfl)
theorem dX5_judged_69 : decode cX5_judged 69 = .ok (.getfield 108, 3) := dk_180 0 108 (dk_at dksX5_judged_2 21 rfl rfl)
theorem dX5_judged_72 : decode cX5_judged 72 = .ok (.iconst 3, 1) := dk_6 (dk_at dksX5_judged_3 0 rfl rfl)
theorem dX5_judged_73 : decode cX5_judged 73 = .ok (.iconst 3, 1) := dk_6 (dk_at dksX5_judged_3 1 rfl rfl)
theorem dX5_judged_74 : decode cX5_judged 74 = .ok (.iload 4, 2) := dk_21 4 (dk_at dksX5_judged_3 2 rfl rfl)
theorem dX5_judged_76 : decode cX5_judged 76 = .ok (.imul, 1) := dk_104 (dk_at dksX5_judged_3 4 rfl rfl)
theorem dX5_judged_77 : decode cX5_judged 77 = .ok (.iadd, 1) := dk_96 (dk_at dksX5_judged_3 5 rfl rfl)
theorem dX5_judged_78 : decode cX5_judged 78 = .ok (.iaload, 1) := dk_46 (dk_at dksX5_judged_3 6 rfl rfl)
theorem dX5_judged_79 : decode cX5_judged 79 = .ok (.istore 7, 2) := dk_54 7 (dk_at dksX5_judged_3 7 rfl rfl)
theorem dX5_judged_81 : decode cX5_judged 81 = .ok (.iload 5, 2) := dk_21 5 (dk_at dksX5_judged_3 9 rfl rfl)
theorem dX5_judged_83 : decode cX5_judged 83 = .ok (.ifCond .eq 65, 3) := dk_153 0 65 (dk_at dksX5_judged_3 11 rfl rfl)
theorem dX5_judged_86 : decode cX5_judged 86 = .ok (.iload 5, 2) := dk_21 5 (dk_at dksX5_judged_3 14 rfl rfl)
theorem dX5_judged_88 : decode cX5_judged 88 = .ok (.iconst 1, 1) := dk_4 (dk_at dksX5_judged_3 16 rfl rfl)
theorem dX5_judged_89 : decode cX5_judged 89 = .ok (.if_icmp .ne 20, 3) := dk_160 0 20 (dk_at dksX5_judged_3 17 rfl rfl)
theorem dX5_judged_92 : decode cX5_judged 92 = .ok (.aload_n 0, 1) := dk_42 (dk_at dksX5_judged_3 20 rfl rfl)
theorem dX5_judged_93 : decode cX5_judged 93 = .ok (.sipush 987, 3) := dk_17 3 219 (dk_at dksX5_judged_3 21 rfl rfl)
theorem dX5_judged_96 : decode cX5_judged 96 = .ok (.iload 6, 2) := dk_21 6 (dk_at dksX5_judged_4 0 rfl rfl)
theorem dX5_judged_98 : decode cX5_judged 98 = .ok (.iload 7, 2) := dk_21 7 (dk_at dksX5_judged_4 2 rfl rfl)
theorem dX5_judged_100 : decode cX5_judged 100 = .ok (.invokevirtual 347, 3) := dk_182 1 91 (dk_at dksX5_judged_4 4 rfl rfl)
theorem dX5_judged_103 : decode cX5_judged 103 = .ok (.ifCond .eq 49, 3) := dk_153 0 49 (dk_at dksX5_judged_4 7 rfl rfl)
theorem dX5_judged_106 : decode cX5_judged 106 = .ok (.goto 42, 3) := dk_167 0 42 (dk_at dksX5_judged_4 10 rfl rfl)
theorem dX5_judged_109 : decode cX5_judged 109 = .ok (.iload 5, 2) := dk_21 5 (dk_at dksX5_judged_4 13 rfl rfl)
theorem dX5_judged_111 : decode cX5_judged 111 = .ok (.iconst 2, 1) := dk_5 (dk_at dksX5_judged_4 15 rfl rfl)
theorem dX5_judged_112 : decode cX5_judged 112 = .ok (.if_icmp .ne 20, 3) := dk_160 0 20 (dk_at dksX5_judged_4 16 rfl rfl)
theorem dX5_judged_115 : decode cX5_judged 115 = .ok (.aload_n 0, 1) := dk_42 (dk_at dksX5_judged_4 19 rfl rfl)
theorem dX5_judged_116 : decode cX5_judged 116 = .ok (.getfield 117, 3) := dk_180 0 117 (dk_at dksX5_judged_4 20 rfl rfl)
theorem dX5_judged_119 : decode cX5_judged 119 = .ok (.sipush 993, 3) := dk_17 3 225 (dk_at dksX5_judged_5 0 rfl rfl)
theorem dX5_judged_122 : decode cX5_judged 122 = .ok (.iload 6, 2) := dk_21 6 (dk_at dksX5_judged_5 3 rfl rfl)
theorem dX5_judged_124 : decode cX5_judged 124 = .ok (.iadd, 1) := dk_96 (dk_at dksX5_judged_5 5 rfl rfl)
theorem dX5_judged_125 : decode cX5_judged 125 = .ok (.iaload, 1) := dk_46 (dk_at dksX5_judged_5 6 rfl rfl)
theorem dX5_judged_126 : decode cX5_judged 126 = .ok (.ifCond .lt 26, 3) := dk_155 0 26 (dk_at dksX5_judged_5 7 rfl rfl)
theorem dX5_judged_129 : decode cX5_judged 129 = .ok (.goto 19, 3) := dk_167 0 19 (dk_at dksX5_judged_5 10 rfl rfl)
theorem dX5_judged_132 : decode cX5_judged 132 = .ok (.aload_n 0, 1) := dk_42 (dk_at dksX5_judged_5 13 rfl rfl)
theorem dX5_judged_133 : decode cX5_judged 133 = .ok (.getfield 117, 3) := dk_180 0 117 (dk_at dksX5_judged_5 14 rfl rfl)
theorem dX5_judged_136 : decode cX5_judged 136 = .ok (.sipush 989, 3) := dk_17 3 221 (dk_at dksX5_judged_5 17 rfl rfl)
theorem dX5_judged_139 : decode cX5_judged 139 = .ok (.iload 6, 2) := dk_21 6 (dk_at dksX5_judged_5 20 rfl rfl)
theorem dX5_judged_141 : decode cX5_judged 141 = .ok (.iadd, 1) := dk_96 (dk_at dksX5_judged_5 22 rfl rfl)
theorem dX5_judged_142 : decode cX5_judged 142 = .ok (.iaload, 1) := dk_46 (dk_at dksX5_judged_5 23 rfl rfl)
theorem dX5_judged_143 : decode cX5_judged 143 = .ok (.bipush 9, 2) := dk_16 9 (dk_at dksX5_judged_6 0 rfl rfl)
theorem dX5_judged_145 : decode cX5_judged 145 = .ok (.if_icmp .ge 7, 3) := dk_162 0 7 (dk_at dksX5_judged_6 2 rfl rfl)
theorem dX5_judged_148 : decode cX5_judged 148 = .ok (.iconst 1, 1) := dk_4 (dk_at dksX5_judged_6 5 rfl rfl)
theorem dX5_judged_149 : decode cX5_judged 149 = .ok (.goto 4, 3) := dk_167 0 4 (dk_at dksX5_judged_6 6 rfl rfl)
theorem dX5_judged_152 : decode cX5_judged 152 = .ok (.iconst 0, 1) := dk_3 (dk_at dksX5_judged_6 9 rfl rfl)
theorem dX5_judged_153 : decode cX5_judged 153 = .ok (.istore 8, 2) := dk_54 8 (dk_at dksX5_judged_6 10 rfl rfl)
theorem dX5_judged_155 : decode cX5_judged 155 = .ok (.iload 8, 2) := dk_21 8 (dk_at dksX5_judged_6 12 rfl rfl)
theorem dX5_judged_157 : decode cX5_judged 157 = .ok (.ifCond .ne 12, 3) := dk_154 0 12 (dk_at dksX5_judged_6 14 rfl rfl)
theorem dX5_judged_160 : decode cX5_judged 160 = .ok (.iload_n 2, 1) := dk_28 (dk_at dksX5_judged_6 17 rfl rfl)
theorem dX5_judged_161 : decode cX5_judged 161 = .ok (.ifCond .ge 8, 3) := dk_156 0 8 (dk_at dksX5_judged_6 18 rfl rfl)
theorem dX5_judged_164 : decode cX5_judged 164 = .ok (.iload 4, 2) := dk_21 4 (dk_at dksX5_judged_6 21 rfl rfl)
theorem dX5_judged_166 : decode cX5_judged 166 = .ok (.goto 4, 3) := dk_167 0 4 (dk_at dksX5_judged_7 0 rfl rfl)
theorem dX5_judged_169 : decode cX5_judged 169 = .ok (.iload_n 2, 1) := dk_28 (dk_at dksX5_judged_7 3 rfl rfl)
theorem dX5_judged_170 : decode cX5_judged 170 = .ok (.istore_n 2, 1) := dk_61 (dk_at dksX5_judged_7 4 rfl rfl)
theorem dX5_judged_171 : decode cX5_judged 171 = .ok (.iload 5, 2) := dk_21 5 (dk_at dksX5_judged_7 5 rfl rfl)
theorem dX5_judged_173 : decode cX5_judged 173 = .ok (.ifCond .ne 31, 3) := dk_154 0 31 (dk_at dksX5_judged_7 7 rfl rfl)
theorem dX5_judged_176 : decode cX5_judged 176 = .ok (.aload_n 0, 1) := dk_42 (dk_at dksX5_judged_7 10 rfl rfl)
theorem dX5_judged_177 : decode cX5_judged 177 = .ok (.sipush 987, 3) := dk_17 3 219 (dk_at dksX5_judged_7 11 rfl rfl)
theorem dX5_judged_180 : decode cX5_judged 180 = .ok (.invokevirtual 344, 3) := dk_182 1 88 (dk_at dksX5_judged_7 14 rfl rfl)
theorem dX5_judged_183 : decode cX5_judged 183 = .ok (.aload_n 0, 1) := dk_42 (dk_at dksX5_judged_7 17 rfl rfl)
theorem dX5_judged_184 : decode cX5_judged 184 = .ok (.getfield 310, 3) := dk_180 1 54 (dk_at dksX5_judged_7 18 rfl rfl)
theorem dX5_judged_187 : decode cX5_judged 187 = .ok (.ifCond .eq 12, 3) := dk_153 0 12 (dk_at dksX5_judged_7 21 rfl rfl)
theorem dX5_judged_190 : decode cX5_judged 190 = .ok (.iload_n 3, 1) := dk_29 (dk_at dksX5_judged_8 0 rfl rfl)
theorem dX5_judged_191 : decode cX5_judged 191 = .ok (.ifCond .ge 8, 3) := dk_156 0 8 (dk_at dksX5_judged_8 1 rfl rfl)
theorem dX5_judged_194 : decode cX5_judged 194 = .ok (.iload 4, 2) := dk_21 4 (dk_at dksX5_judged_8 4 rfl rfl)
theorem dX5_judged_196 : decode cX5_judged 196 = .ok (.goto 4, 3) := dk_167 0 4 (dk_at dksX5_judged_8 6 rfl rfl)
theorem dX5_judged_199 : decode cX5_judged 199 = .ok (.iload_n 3, 1) := dk_29 (dk_at dksX5_judged_8 9 rfl rfl)
theorem dX5_judged_200 : decode cX5_judged 200 = .ok (.istore_n 3, 1) := dk_62 (dk_at dksX5_judged_8 10 rfl rfl)
theorem dX5_judged_201 : decode cX5_judged 201 = .ok (.goto 73, 3) := dk_167 0 73 (dk_at dksX5_judged_8 11 rfl rfl)
theorem dX5_judged_204 : decode cX5_judged 204 = .ok (.iload 8, 2) := dk_21 8 (dk_at dksX5_judged_8 14 rfl rfl)
theorem dX5_judged_206 : decode cX5_judged 206 = .ok (.ifCond .eq 25, 3) := dk_153 0 25 (dk_at dksX5_judged_8 16 rfl rfl)
theorem dX5_judged_209 : decode cX5_judged 209 = .ok (.iload 5, 2) := dk_21 5 (dk_at dksX5_judged_8 19 rfl rfl)
theorem dX5_judged_211 : decode cX5_judged 211 = .ok (.iconst 1, 1) := dk_4 (dk_at dksX5_judged_8 21 rfl rfl)
theorem dX5_judged_212 : decode cX5_judged 212 = .ok (.if_icmp .ne 19, 3) := dk_160 0 19 (dk_at dksX5_judged_9 0 rfl rfl)
theorem dX5_judged_215 : decode cX5_judged 215 = .ok (.aload_n 0, 1) := dk_42 (dk_at dksX5_judged_9 3 rfl rfl)
theorem dX5_judged_216 : decode cX5_judged 216 = .ok (.getfield 117, 3) := dk_180 0 117 (dk_at dksX5_judged_9 4 rfl rfl)
theorem dX5_judged_219 : decode cX5_judged 219 = .ok (.sipush 993, 3) := dk_17 3 225 (dk_at dksX5_judged_9 7 rfl rfl)
theorem dX5_judged_222 : decode cX5_judged 222 = .ok (.iload 6, 2) := dk_21 6 (dk_at dksX5_judged_9 10 rfl rfl)
theorem dX5_judged_224 : decode cX5_judged 224 = .ok (.iadd, 1) := dk_96 (dk_at dksX5_judged_9 12 rfl rfl)
theorem dX5_judged_225 : decode cX5_judged 225 = .ok (.iload 7, 2) := dk_21 7 (dk_at dksX5_judged_9 13 rfl rfl)
theorem dX5_judged_227 : decode cX5_judged 227 = .ok (.iastore, 1) := dk_79 (dk_at dksX5_judged_9 15 rfl rfl)
theorem dX5_judged_228 : decode cX5_judged 228 = .ok (.goto 46, 3) := dk_167 0 46 (dk_at dksX5_judged_9 16 rfl rfl)
theorem dX5_judged_231 : decode cX5_judged 231 = .ok (.iload 8, 2) := dk_21 8 (dk_at dksX5_judged_9 19 rfl rfl)
theorem dX5_judged_233 : decode cX5_judged 233 = .ok (.ifCond .eq 21, 3) := dk_153 0 21 (dk_at dksX5_judged_9 21 rfl rfl)
theorem dX5_judged_236 : decode cX5_judged 236 = .ok (.iload 5, 2) := dk_21 5 (dk_at dksX5_judged_10 0 rfl rfl)
theorem dX5_judged_238 : decode cX5_judged 238 = .ok (.iconst 2, 1) := dk_5 (dk_at dksX5_judged_10 2 rfl rfl)
theorem dX5_judged_239 : decode cX5_judged 239 = .ok (.if_icmp .ne 15, 3) := dk_160 0 15 (dk_at dksX5_judged_10 3 rfl rfl)
theorem dX5_judged_242 : decode cX5_judged 242 = .ok (.aload_n 0, 1) := dk_42 (dk_at dksX5_judged_10 6 rfl rfl)
theorem dX5_judged_243 : decode cX5_judged 243 = .ok (.sipush 987, 3) := dk_17 3 219 (dk_at dksX5_judged_10 7 rfl rfl)
theorem dX5_judged_246 : decode cX5_judged 246 = .ok (.iload 6, 2) := dk_21 6 (dk_at dksX5_judged_10 10 rfl rfl)
theorem dX5_judged_248 : decode cX5_judged 248 = .ok (.invokevirtual 322, 3) := dk_182 1 66 (dk_at dksX5_judged_10 12 rfl rfl)
theorem dX5_judged_251 : decode cX5_judged 251 = .ok (.goto 23, 3) := dk_167 0 23 (dk_at dksX5_judged_10 15 rfl rfl)
theorem dX5_judged_254 : decode cX5_judged 254 = .ok (.iload 8, 2) := dk_21 8 (dk_at dksX5_judged_10 18 rfl rfl)
theorem dX5_judged_256 : decode cX5_judged 256 = .ok (.ifCond .eq 18, 3) := dk_153 0 18 (dk_at dksX5_judged_10 20 rfl rfl)
theorem dX5_judged_259 : decode cX5_judged 259 = .ok (.aload_n 0, 1) := dk_42 (dk_at dksX5_judged_10 23 rfl rfl)
theorem dX5_judged_260 : decode cX5_judged 260 = .ok (.getfield 117, 3) := dk_180 0 117 (dk_at dksX5_judged_11 0 rfl rfl)
theorem dX5_judged_263 : decode cX5_judged 263 = .ok (.sipush 989, 3) := dk_17 3 221 (dk_at dksX5_judged_11 3 rfl rfl)
theorem dX5_judged_266 : decode cX5_judged 266 = .ok (.iload 6, 2) := dk_21 6 (dk_at dksX5_judged_11 6 rfl rfl)
theorem dX5_judged_268 : decode cX5_judged 268 = .ok (.iadd, 1) := dk_96 (dk_at dksX5_judged_11 8 rfl rfl)
theorem dX5_judged_269 : decode cX5_judged 269 = .ok (.dup2, 1) := dk_92 (dk_at dksX5_judged_11 9 rfl rfl)
theorem dX5_judged_270 : decode cX5_judged 270 = .ok (.iaload, 1) := dk_46 (dk_at dksX5_judged_11 10 rfl rfl)
theorem dX5_judged_271 : decode cX5_judged 271 = .ok (.iconst 1, 1) := dk_4 (dk_at dksX5_judged_11 11 rfl rfl)
theorem dX5_judged_272 : decode cX5_judged 272 = .ok (.iadd, 1) := dk_96 (dk_at dksX5_judged_11 12 rfl rfl)
theorem dX5_judged_273 : decode cX5_judged 273 = .ok (.iastore, 1) := dk_79 (dk_at dksX5_judged_11 13 rfl rfl)
theorem dX5_judged_274 : decode cX5_judged 274 = .ok (.iinc 4 1, 3) := dk_132 4 1 (dk_at dksX5_judged_11 14 rfl rfl)
theorem dX5_judged_277 : decode cX5_judged 277 = .ok (.goto (-246), 3) := dk_167 255 10 (dk_at dksX5_judged_11 17 rfl rfl)
theorem dX5_judged_280 : decode cX5_judged 280 = .ok (.iload_n 1, 1) := dk_27 (dk_at dksX5_judged_11 20 rfl rfl)
theorem dX5_judged_281 : decode cX5_judged 281 = .ok (.ifCond .ne 7, 3) := dk_154 0 7 (dk_at dksX5_judged_11 21 rfl rfl)
theorem dX5_judged_284 : decode cX5_judged 284 = .ok (.iload_n 2, 1) := dk_28 (dk_at dksX5_judged_12 0 rfl rfl)
theorem dX5_judged_285 : decode cX5_judged 285 = .ok (.goto 20, 3) := dk_167 0 20 (dk_at dksX5_judged_12 1 rfl rfl)
theorem dX5_judged_288 : decode cX5_judged 288 = .ok (.iload_n 1, 1) := dk_27 (dk_at dksX5_judged_12 4 rfl rfl)
theorem dX5_judged_289 : decode cX5_judged 289 = .ok (.iconst 1, 1) := dk_4 (dk_at dksX5_judged_12 5 rfl rfl)
theorem dX5_judged_290 : decode cX5_judged 290 = .ok (.if_icmp .ne 7, 3) := dk_160 0 7 (dk_at dksX5_judged_12 6 rfl rfl)
theorem dX5_judged_293 : decode cX5_judged 293 = .ok (.iload_n 3, 1) := dk_29 (dk_at dksX5_judged_12 9 rfl rfl)
theorem dX5_judged_294 : decode cX5_judged 294 = .ok (.goto 11, 3) := dk_167 0 11 (dk_at dksX5_judged_12 10 rfl rfl)
theorem dX5_judged_297 : decode cX5_judged 297 = .ok (.aload_n 0, 1) := dk_42 (dk_at dksX5_judged_12 13 rfl rfl)
theorem dX5_judged_298 : decode cX5_judged 298 = .ok (.getfield 117, 3) := dk_180 0 117 (dk_at dksX5_judged_12 14 rfl rfl)
theorem dX5_judged_301 : decode cX5_judged 301 = .ok (.sipush 988, 3) := dk_17 3 220 (dk_at dksX5_judged_12 17 rfl rfl)
theorem dX5_judged_304 : decode cX5_judged 304 = .ok (.iaload, 1) := dk_46 (dk_at dksX5_judged_12 20 rfl rfl)
theorem dX5_judged_305 : decode cX5_judged 305 = .ok (.ireturn, 1) := dk_172 (dk_at dksX5_judged_12 21 rfl rfl)
abbrev cX5_where : ByteArray := prog_23_method_74_code
def yX5_where : MethodName := ⟨RX5, "where", "(II)I"⟩
def dkwX5_where_2 : List UInt8 := [167, 255, 241, 42, 180, 0, 117, 17, 3, 225, 27, 96, 46, 172]
abbrev dktX5_where_2 : List UInt8 := dkwX5_where_2 ++ []
def dkwX5_where_1 : List UInt8 := [16, 254, 172, 42, 182, 1, 94, 3, 62, 29, 28, 162, 0, 16, 42, 17, 3, 219, 182, 1, 88, 132, 3, 1]
abbrev dktX5_where_1 : List UInt8 := dkwX5_where_1 ++ dktX5_where_2
def dkwX5_where_0 : List UInt8 := [42, 3, 181, 0, 1, 42, 27, 182, 1, 82, 153, 0, 13, 28, 3, 16, 60, 184, 0, 202, 154, 0, 6]
abbrev dktX5_where_0 : List UInt8 := dkwX5_where_0 ++ dktX5_where_1
theorem dksX5_where_0 : cX5_where.data.toList.drop 0 = dktX5_where_0 := by decide +kernel
theorem dksX5_where_1 : cX5_where.data.toList.drop 23 = dktX5_where_1 := dk_seg dksX5_where_0 23 rfl rfl
theorem dksX5_where_2 : cX5_where.data.toList.drop 47 = dktX5_where_2 := dk_seg dksX5_where_1 24 rfl rfl
theorem dX5_where_0 : decode cX5_where 0 = .ok (.aload_n 0, 1) := dk_42 (dk_at dksX5_where_0 0 rfl rfl)
theorem dX5_where_1 : decode cX5_where 1 = .ok (.iconst 0, 1) := dk_3 (dk_at dksX5_where_0 1 rfl rfl)
theorem dX5_where_2 : decode cX5_where 2 = .ok (.putfield 1, 3) := dk_181 0 1 (dk_at dksX5_where_0 2 rfl rfl)
theorem dX5_where_5 : decode cX5_where 5 = .ok (.aload_n 0, 1) := dk_42 (dk_at dksX5_where_0 5 rfl rfl)
theorem dX5_where_6 : decode cX5_where 6 = .ok (.iload_n 1, 1) := dk_27 (dk_at dksX5_where_0 6 rfl rfl)
theorem dX5_where_7 : decode cX5_where 7 = .ok (.invokevirtual 338, 3) := dk_182 1 82 (dk_at dksX5_where_0 7 rfl rfl)
theorem dX5_where_10 : decode cX5_where 10 = .ok (.ifCond .eq 13, 3) := dk_153 0 13 (dk_at dksX5_where_0 10 rfl rfl)
theorem dX5_where_13 : decode cX5_where 13 = .ok (.iload_n 2, 1) := dk_28 (dk_at dksX5_where_0 13 rfl rfl)
theorem dX5_where_14 : decode cX5_where 14 = .ok (.iconst 0, 1) := dk_3 (dk_at dksX5_where_0 14 rfl rfl)
theorem dX5_where_15 : decode cX5_where 15 = .ok (.bipush 60, 2) := dk_16 60 (dk_at dksX5_where_0 15 rfl rfl)
theorem dX5_where_17 : decode cX5_where 17 = .ok (.invokestatic 202, 3) := dk_184 0 202 (dk_at dksX5_where_0 17 rfl rfl)
theorem dX5_where_20 : decode cX5_where 20 = .ok (.ifCond .ne 6, 3) := dk_154 0 6 (dk_at dksX5_where_0 20 rfl rfl)
theorem dX5_where_23 : decode cX5_where 23 = .ok (.bipush (-2), 2) := dk_16 254 (dk_at dksX5_where_1 0 rfl rfl)
theorem dX5_where_25 : decode cX5_where 25 = .ok (.ireturn, 1) := dk_172 (dk_at dksX5_where_1 2 rfl rfl)
theorem dX5_where_26 : decode cX5_where 26 = .ok (.aload_n 0, 1) := dk_42 (dk_at dksX5_where_1 3 rfl rfl)
theorem dX5_where_27 : decode cX5_where 27 = .ok (.invokevirtual 350, 3) := dk_182 1 94 (dk_at dksX5_where_1 4 rfl rfl)
theorem dX5_where_30 : decode cX5_where 30 = .ok (.iconst 0, 1) := dk_3 (dk_at dksX5_where_1 7 rfl rfl)
theorem dX5_where_31 : decode cX5_where 31 = .ok (.istore_n 3, 1) := dk_62 (dk_at dksX5_where_1 8 rfl rfl)
theorem dX5_where_32 : decode cX5_where 32 = .ok (.iload_n 3, 1) := dk_29 (dk_at dksX5_where_1 9 rfl rfl)
theorem dX5_where_33 : decode cX5_where 33 = .ok (.iload_n 2, 1) := dk_28 (dk_at dksX5_where_1 10 rfl rfl)
theorem dX5_where_34 : decode cX5_where 34 = .ok (.if_icmp .ge 16, 3) := dk_162 0 16 (dk_at dksX5_where_1 11 rfl rfl)
theorem dX5_where_37 : decode cX5_where 37 = .ok (.aload_n 0, 1) := dk_42 (dk_at dksX5_where_1 14 rfl rfl)
theorem dX5_where_38 : decode cX5_where 38 = .ok (.sipush 987, 3) := dk_17 3 219 (dk_at dksX5_where_1 15 rfl rfl)
theorem dX5_where_41 : decode cX5_where 41 = .ok (.invokevirtual 344, 3) := dk_182 1 88 (dk_at dksX5_where_1 18 rfl rfl)
theorem dX5_where_44 : decode cX5_where 44 = .ok (.iinc 3 1, 3) := dk_132 3 1 (dk_at dksX5_where_1 21 rfl rfl)
theorem dX5_where_47 : decode cX5_where 47 = .ok (.goto (-15), 3) := dk_167 255 241 (dk_at dksX5_where_2 0 rfl rfl)
theorem dX5_where_50 : decode cX5_where 50 = .ok (.aload_n 0, 1) := dk_42 (dk_at dksX5_where_2 3 rfl rfl)
theorem dX5_where_51 : decode cX5_where 51 = .ok (.getfield 117, 3) := dk_180 0 117 (dk_at dksX5_where_2 4 rfl rfl)
theorem dX5_where_54 : decode cX5_where 54 = .ok (.sipush 993, 3) := dk_17 3 225 (dk_at dksX5_where_2 7 rfl rfl)
theorem dX5_where_57 : decode cX5_where 57 = .ok (.iload_n 1, 1) := dk_27 (dk_at dksX5_where_2 10 rfl rfl)
theorem dX5_where_58 : decode cX5_where 58 = .ok (.iadd, 1) := dk_96 (dk_at dksX5_where_2 11 rfl rfl)
theorem dX5_where_59 : decode cX5_where 59 = .ok (.iaload, 1) := dk_46 (dk_at dksX5_where_2 12 rfl rfl)
theorem dX5_where_60 : decode cX5_where 60 = .ok (.ireturn, 1) := dk_172 (dk_at dksX5_where_2 13 rfl rfl)
abbrev cX5_triesNow : ByteArray := prog_23_method_73_code
def yX5_triesNow : MethodName := ⟨RX5, "triesNow", "()V"⟩
def dkwX5_triesNow_0 : List UInt8 := [42, 3, 17, 3, 219, 16, 30, 182, 1, 36, 177]
abbrev dktX5_triesNow_0 : List UInt8 := dkwX5_triesNow_0 ++ []
theorem dksX5_triesNow_0 : cX5_triesNow.data.toList.drop 0 = dktX5_triesNow_0 := by decide +kernel
theorem dX5_triesNow_0 : decode cX5_triesNow 0 = .ok (.aload_n 0, 1) := dk_42 (dk_at dksX5_triesNow_0 0 rfl rfl)
theorem dX5_triesNow_1 : decode cX5_triesNow 1 = .ok (.iconst 0, 1) := dk_3 (dk_at dksX5_triesNow_0 1 rfl rfl)
theorem dX5_triesNow_2 : decode cX5_triesNow 2 = .ok (.sipush 987, 3) := dk_17 3 219 (dk_at dksX5_triesNow_0 2 rfl rfl)
theorem dX5_triesNow_5 : decode cX5_triesNow 5 = .ok (.bipush 30, 2) := dk_16 30 (dk_at dksX5_triesNow_0 5 rfl rfl)
theorem dX5_triesNow_7 : decode cX5_triesNow 7 = .ok (.invokevirtual 292, 3) := dk_182 1 36 (dk_at dksX5_triesNow_0 7 rfl rfl)
theorem dX5_triesNow_10 : decode cX5_triesNow 10 = .ok (.return_, 1) := dk_177 (dk_at dksX5_triesNow_0 10 rfl rfl)
abbrev cX5_next : ByteArray := prog_23_method_75_code
def yX5_next : MethodName := ⟨RX5, "next", "(I)I"⟩
def dkwX5_next_2 : List UInt8 := [160, 0, 5, 28, 172, 132, 2, 1, 167, 255, 213, 2, 172]
abbrev dktX5_next_2 : List UInt8 := dkwX5_next_2 ++ []
def dkwX5_next_1 : List UInt8 := [153, 0, 35, 42, 17, 3, 219, 182, 1, 88, 42, 180, 1, 57, 42, 180, 1, 54, 128, 27, 122, 4, 126, 4]
abbrev dktX5_next_1 : List UInt8 := dkwX5_next_1 ++ dktX5_next_2
def dkwX5_next_0 : List UInt8 := [42, 3, 181, 0, 1, 42, 182, 1, 94, 4, 61, 28, 16, 60, 163, 0, 43, 42, 27, 182, 1, 82]
abbrev dktX5_next_0 : List UInt8 := dkwX5_next_0 ++ dktX5_next_1
theorem dksX5_next_0 : cX5_next.data.toList.drop 0 = dktX5_next_0 := by decide +kernel
theorem dksX5_next_1 : cX5_next.data.toList.drop 22 = dktX5_next_1 := dk_seg dksX5_next_0 22 rfl rfl
theorem dksX5_next_2 : cX5_next.data.toList.drop 46 = dktX5_next_2 := dk_seg dksX5_next_1 24 rfl rfl
theorem dX5_next_0 : decode cX5_next 0 = .ok (.aload_n 0, 1) := dk_42 (dk_at dksX5_next_0 0 rfl rfl)
theorem dX5_next_1 : decode cX5_next 1 = .ok (.iconst 0, 1) := dk_3 (dk_at dksX5_next_0 1 rfl rfl)
theorem dX5_next_2 : decode cX5_next 2 = .ok (.putfield 1, 3) := dk_181 0 1 (dk_at dksX5_next_0 2 rfl rfl)
theorem dX5_next_5 : decode cX5_next 5 = .ok (.aload_n 0, 1) := dk_42 (dk_at dksX5_next_0 5 rfl rfl)
theorem dX5_next_6 : decode cX5_next 6 = .ok (.invokevirtual 350, 3) := dk_182 1 94 (dk_at dksX5_next_0 6 rfl rfl)
theorem dX5_next_9 : decode cX5_next 9 = .ok (.iconst 1, 1) := dk_4 (dk_at dksX5_next_0 9 rfl rfl)
theorem dX5_next_10 : decode cX5_next 10 = .ok (.istore_n 2, 1) := dk_61 (dk_at dksX5_next_0 10 rfl rfl)
theorem dX5_next_11 : decode cX5_next 11 = .ok (.iload_n 2, 1) := dk_28 (dk_at dksX5_next_0 11 rfl rfl)
theorem dX5_next_12 : decode cX5_next 12 = .ok (.bipush 60, 2) := dk_16 60 (dk_at dksX5_next_0 12 rfl rfl)
theorem dX5_next_14 : decode cX5_next 14 = .ok (.if_icmp .gt 43, 3) := dk_163 0 43 (dk_at dksX5_next_0 14 rfl rfl)
theorem dX5_next_17 : decode cX5_next 17 = .ok (.aload_n 0, 1) := dk_42 (dk_at dksX5_next_0 17 rfl rfl)
theorem dX5_next_18 : decode cX5_next 18 = .ok (.iload_n 1, 1) := dk_27 (dk_at dksX5_next_0 18 rfl rfl)
theorem dX5_next_19 : decode cX5_next 19 = .ok (.invokevirtual 338, 3) := dk_182 1 82 (dk_at dksX5_next_0 19 rfl rfl)
theorem dX5_next_22 : decode cX5_next 22 = .ok (.ifCond .eq 35, 3) := dk_153 0 35 (dk_at dksX5_next_1 0 rfl rfl)
theorem dX5_next_25 : decode cX5_next 25 = .ok (.aload_n 0, 1) := dk_42 (dk_at dksX5_next_1 3 rfl rfl)
theorem dX5_next_26 : decode cX5_next 26 = .ok (.sipush 987, 3) := dk_17 3 219 (dk_at dksX5_next_1 4 rfl rfl)
theorem dX5_next_29 : decode cX5_next 29 = .ok (.invokevirtual 344, 3) := dk_182 1 88 (dk_at dksX5_next_1 7 rfl rfl)
theorem dX5_next_32 : decode cX5_next 32 = .ok (.aload_n 0, 1) := dk_42 (dk_at dksX5_next_1 10 rfl rfl)
theorem dX5_next_33 : decode cX5_next 33 = .ok (.getfield 313, 3) := dk_180 1 57 (dk_at dksX5_next_1 11 rfl rfl)
theorem dX5_next_36 : decode cX5_next 36 = .ok (.aload_n 0, 1) := dk_42 (dk_at dksX5_next_1 14 rfl rfl)
theorem dX5_next_37 : decode cX5_next 37 = .ok (.getfield 310, 3) := dk_180 1 54 (dk_at dksX5_next_1 15 rfl rfl)
theorem dX5_next_40 : decode cX5_next 40 = .ok (.ior, 1) := dk_128 (dk_at dksX5_next_1 18 rfl rfl)
theorem dX5_next_41 : decode cX5_next 41 = .ok (.iload_n 1, 1) := dk_27 (dk_at dksX5_next_1 19 rfl rfl)
theorem dX5_next_42 : decode cX5_next 42 = .ok (.ishr, 1) := dk_122 (dk_at dksX5_next_1 20 rfl rfl)
theorem dX5_next_43 : decode cX5_next 43 = .ok (.iconst 1, 1) := dk_4 (dk_at dksX5_next_1 21 rfl rfl)
theorem dX5_next_44 : decode cX5_next 44 = .ok (.iand, 1) := dk_126 (dk_at dksX5_next_1 22 rfl rfl)
theorem dX5_next_45 : decode cX5_next 45 = .ok (.iconst 1, 1) := dk_4 (dk_at dksX5_next_1 23 rfl rfl)
theorem dX5_next_46 : decode cX5_next 46 = .ok (.if_icmp .ne 5, 3) := dk_160 0 5 (dk_at dksX5_next_2 0 rfl rfl)
theorem dX5_next_49 : decode cX5_next 49 = .ok (.iload_n 2, 1) := dk_28 (dk_at dksX5_next_2 3 rfl rfl)
theorem dX5_next_50 : decode cX5_next 50 = .ok (.ireturn, 1) := dk_172 (dk_at dksX5_next_2 4 rfl rfl)
theorem dX5_next_51 : decode cX5_next 51 = .ok (.iinc 2 1, 3) := dk_132 2 1 (dk_at dksX5_next_2 5 rfl rfl)
theorem dX5_next_54 : decode cX5_next 54 = .ok (.goto (-43), 3) := dk_167 255 213 (dk_at dksX5_next_2 8 rfl rfl)
theorem dX5_next_57 : decode cX5_next 57 = .ok (.iconst (-1), 1) := dk_2 (dk_at dksX5_next_2 11 rfl rfl)
theorem dX5_next_58 : decode cX5_next 58 = .ok (.ireturn, 1) := dk_172 (dk_at dksX5_next_2 12 rfl rfl)
abbrev cX5_gone : ByteArray := prog_23_method_76_code
def yX5_gone : MethodName := ⟨RX5, "gone", "(I)I"⟩
def dkwX5_gone_2 : List UInt8 := [182, 1, 88, 132, 2, 1, 167, 255, 217, 2, 172]
abbrev dktX5_gone_2 : List UInt8 := dkwX5_gone_2 ++ []
def dkwX5_gone_1 : List UInt8 := [153, 0, 31, 42, 180, 0, 117, 17, 3, 237, 27, 96, 46, 154, 0, 5, 28, 172, 42, 17, 3, 219]
abbrev dktX5_gone_1 : List UInt8 := dkwX5_gone_1 ++ dktX5_gone_2
def dkwX5_gone_0 : List UInt8 := [42, 3, 181, 0, 1, 42, 182, 1, 94, 3, 61, 28, 16, 99, 163, 0, 39, 42, 27, 182, 1, 82]
abbrev dktX5_gone_0 : List UInt8 := dkwX5_gone_0 ++ dktX5_gone_1
theorem dksX5_gone_0 : cX5_gone.data.toList.drop 0 = dktX5_gone_0 := by decide +kernel
theorem dksX5_gone_1 : cX5_gone.data.toList.drop 22 = dktX5_gone_1 := dk_seg dksX5_gone_0 22 rfl rfl
theorem dksX5_gone_2 : cX5_gone.data.toList.drop 44 = dktX5_gone_2 := dk_seg dksX5_gone_1 22 rfl rfl
theorem dX5_gone_0 : decode cX5_gone 0 = .ok (.aload_n 0, 1) := dk_42 (dk_at dksX5_gone_0 0 rfl rfl)
theorem dX5_gone_1 : decode cX5_gone 1 = .ok (.iconst 0, 1) := dk_3 (dk_at dksX5_gone_0 1 rfl rfl)
theorem dX5_gone_2 : decode cX5_gone 2 = .ok (.putfield 1, 3) := dk_181 0 1 (dk_at dksX5_gone_0 2 rfl rfl)
theorem dX5_gone_5 : decode cX5_gone 5 = .ok (.aload_n 0, 1) := dk_42 (dk_at dksX5_gone_0 5 rfl rfl)
theorem dX5_gone_6 : decode cX5_gone 6 = .ok (.invokevirtual 350, 3) := dk_182 1 94 (dk_at dksX5_gone_0 6 rfl rfl)
theorem dX5_gone_9 : decode cX5_gone 9 = .ok (.iconst 0, 1) := dk_3 (dk_at dksX5_gone_0 9 rfl rfl)
theorem dX5_gone_10 : decode cX5_gone 10 = .ok (.istore_n 2, 1) := dk_61 (dk_at dksX5_gone_0 10 rfl rfl)
theorem dX5_gone_11 : decode cX5_gone 11 = .ok (.iload_n 2, 1) := dk_28 (dk_at dksX5_gone_0 11 rfl rfl)
theorem dX5_gone_12 : decode cX5_gone 12 = .ok (.bipush 99, 2) := dk_16 99 (dk_at dksX5_gone_0 12 rfl rfl)
theorem dX5_gone_14 : decode cX5_gone 14 = .ok (.if_icmp .gt 39, 3) := dk_163 0 39 (dk_at dksX5_gone_0 14 rfl rfl)
theorem dX5_gone_17 : decode cX5_gone 17 = .ok (.aload_n 0, 1) := dk_42 (dk_at dksX5_gone_0 17 rfl rfl)
theorem dX5_gone_18 : decode cX5_gone 18 = .ok (.iload_n 1, 1) := dk_27 (dk_at dksX5_gone_0 18 rfl rfl)
theorem dX5_gone_19 : decode cX5_gone 19 = .ok (.invokevirtual 338, 3) := dk_182 1 82 (dk_at dksX5_gone_0 19 rfl rfl)
theorem dX5_gone_22 : decode cX5_gone 22 = .ok (.ifCond .eq 31, 3) := dk_153 0 31 (dk_at dksX5_gone_1 0 rfl rfl)
theorem dX5_gone_25 : decode cX5_gone 25 = .ok (.aload_n 0, 1) := dk_42 (dk_at dksX5_gone_1 3 rfl rfl)
theorem dX5_gone_26 : decode cX5_gone 26 = .ok (.getfield 117, 3) := dk_180 0 117 (dk_at dksX5_gone_1 4 rfl rfl)
theorem dX5_gone_29 : decode cX5_gone 29 = .ok (.sipush 1005, 3) := dk_17 3 237 (dk_at dksX5_gone_1 7 rfl rfl)
theorem dX5_gone_32 : decode cX5_gone 32 = .ok (.iload_n 1, 1) := dk_27 (dk_at dksX5_gone_1 10 rfl rfl)
theorem dX5_gone_33 : decode cX5_gone 33 = .ok (.iadd, 1) := dk_96 (dk_at dksX5_gone_1 11 rfl rfl)
theorem dX5_gone_34 : decode cX5_gone 34 = .ok (.iaload, 1) := dk_46 (dk_at dksX5_gone_1 12 rfl rfl)
theorem dX5_gone_35 : decode cX5_gone 35 = .ok (.ifCond .ne 5, 3) := dk_154 0 5 (dk_at dksX5_gone_1 13 rfl rfl)
theorem dX5_gone_38 : decode cX5_gone 38 = .ok (.iload_n 2, 1) := dk_28 (dk_at dksX5_gone_1 16 rfl rfl)
theorem dX5_gone_39 : decode cX5_gone 39 = .ok (.ireturn, 1) := dk_172 (dk_at dksX5_gone_1 17 rfl rfl)
theorem dX5_gone_40 : decode cX5_gone 40 = .ok (.aload_n 0, 1) := dk_42 (dk_at dksX5_gone_1 18 rfl rfl)
theorem dX5_gone_41 : decode cX5_gone 41 = .ok (.sipush 987, 3) := dk_17 3 219 (dk_at dksX5_gone_1 19 rfl rfl)
theorem dX5_gone_44 : decode cX5_gone 44 = .ok (.invokevirtual 344, 3) := dk_182 1 88 (dk_at dksX5_gone_2 0 rfl rfl)
theorem dX5_gone_47 : decode cX5_gone 47 = .ok (.iinc 2 1, 3) := dk_132 2 1 (dk_at dksX5_gone_2 3 rfl rfl)
theorem dX5_gone_50 : decode cX5_gone 50 = .ok (.goto (-39), 3) := dk_167 255 217 (dk_at dksX5_gone_2 6 rfl rfl)
theorem dX5_gone_53 : decode cX5_gone 53 = .ok (.iconst (-1), 1) := dk_2 (dk_at dksX5_gone_2 9 rfl rfl)
theorem dX5_gone_54 : decode cX5_gone 54 = .ok (.ireturn, 1) := dk_172 (dk_at dksX5_gone_2 10 rfl rfl)
abbrev cX5_crowd : ByteArray := prog_23_method_77_code
def yX5_crowd : MethodName := ⟨RX5, "crowd", "()I"⟩
def dkwX5_crowd_3 : List UInt8 := [167, 255, 203, 27, 172]
abbrev dktX5_crowd_3 : List UInt8 := dkwX5_crowd_3 ++ []
def dkwX5_crowd_2 : List UInt8 := [21, 4, 28, 164, 0, 8, 21, 4, 167, 0, 4, 28, 61, 42, 17, 3, 219, 182, 1, 88, 132, 3, 1]
abbrev dktX5_crowd_2 : List UInt8 := dkwX5_crowd_2 ++ dktX5_crowd_3
def dkwX5_crowd_1 : List UInt8 := [17, 3, 219, 182, 1, 97, 184, 1, 60, 54, 4, 21, 4, 28, 164, 0, 7, 29, 167, 0, 4, 27, 60]
abbrev dktX5_crowd_1 : List UInt8 := dkwX5_crowd_1 ++ dktX5_crowd_2
def dkwX5_crowd_0 : List UInt8 := [42, 3, 181, 0, 1, 42, 182, 1, 94, 3, 60, 2, 61, 3, 62, 29, 16, 60, 163, 0, 53, 42]
abbrev dktX5_crowd_0 : List UInt8 := dkwX5_crowd_0 ++ dktX5_crowd_1
theorem dksX5_crowd_0 : cX5_crowd.data.toList.drop 0 = dktX5_crowd_0 := by decide +kernel
theorem dksX5_crowd_1 : cX5_crowd.data.toList.drop 22 = dktX5_crowd_1 := dk_seg dksX5_crowd_0 22 rfl rfl
theorem dksX5_crowd_2 : cX5_crowd.data.toList.drop 45 = dktX5_crowd_2 := dk_seg dksX5_crowd_1 23 rfl rfl
theorem dksX5_crowd_3 : cX5_crowd.data.toList.drop 68 = dktX5_crowd_3 := dk_seg dksX5_crowd_2 23 rfl rfl
theorem dX5_crowd_0 : decode cX5_crowd 0 = .ok (.aload_n 0, 1) := dk_42 (dk_at dksX5_crowd_0 0 rfl rfl)
theorem dX5_crowd_1 : decode cX5_crowd 1 = .ok (.iconst 0, 1) := dk_3 (dk_at dksX5_crowd_0 1 rfl rfl)
theorem dX5_crowd_2 : decode cX5_crowd 2 = .ok (.putfield 1, 3) := dk_181 0 1 (dk_at dksX5_crowd_0 2 rfl rfl)
theorem dX5_crowd_5 : decode cX5_crowd 5 = .ok (.aload_n 0, 1) := dk_42 (dk_at dksX5_crowd_0 5 rfl rfl)
theorem dX5_crowd_6 : decode cX5_crowd 6 = .ok (.invokevirtual 350, 3) := dk_182 1 94 (dk_at dksX5_crowd_0 6 rfl rfl)
theorem dX5_crowd_9 : decode cX5_crowd 9 = .ok (.iconst 0, 1) := dk_3 (dk_at dksX5_crowd_0 9 rfl rfl)
theorem dX5_crowd_10 : decode cX5_crowd 10 = .ok (.istore_n 1, 1) := dk_60 (dk_at dksX5_crowd_0 10 rfl rfl)
theorem dX5_crowd_11 : decode cX5_crowd 11 = .ok (.iconst (-1), 1) := dk_2 (dk_at dksX5_crowd_0 11 rfl rfl)
theorem dX5_crowd_12 : decode cX5_crowd 12 = .ok (.istore_n 2, 1) := dk_61 (dk_at dksX5_crowd_0 12 rfl rfl)
theorem dX5_crowd_13 : decode cX5_crowd 13 = .ok (.iconst 0, 1) := dk_3 (dk_at dksX5_crowd_0 13 rfl rfl)
theorem dX5_crowd_14 : decode cX5_crowd 14 = .ok (.istore_n 3, 1) := dk_62 (dk_at dksX5_crowd_0 14 rfl rfl)
theorem dX5_crowd_15 : decode cX5_crowd 15 = .ok (.iload_n 3, 1) := dk_29 (dk_at dksX5_crowd_0 15 rfl rfl)
theorem dX5_crowd_16 : decode cX5_crowd 16 = .ok (.bipush 60, 2) := dk_16 60 (dk_at dksX5_crowd_0 16 rfl rfl)
theorem dX5_crowd_18 : decode cX5_crowd 18 = .ok (.if_icmp .gt 53, 3) := dk_163 0 53 (dk_at dksX5_crowd_0 18 rfl rfl)
theorem dX5_crowd_21 : decode cX5_crowd 21 = .ok (.aload_n 0, 1) := dk_42 (dk_at dksX5_crowd_0 21 rfl rfl)
theorem dX5_crowd_22 : decode cX5_crowd 22 = .ok (.sipush 987, 3) := dk_17 3 219 (dk_at dksX5_crowd_1 0 rfl rfl)
theorem dX5_crowd_25 : decode cX5_crowd 25 = .ok (.invokevirtual 353, 3) := dk_182 1 97 (dk_at dksX5_crowd_1 3 rfl rfl)
theorem dX5_crowd_28 : decode cX5_crowd 28 = .ok (.invokestatic 316, 3) := dk_184 1 60 (dk_at dksX5_crowd_1 6 rfl rfl)
theorem dX5_crowd_31 : decode cX5_crowd 31 = .ok (.istore 4, 2) := dk_54 4 (dk_at dksX5_crowd_1 9 rfl rfl)
theorem dX5_crowd_33 : decode cX5_crowd 33 = .ok (.iload 4, 2) := dk_21 4 (dk_at dksX5_crowd_1 11 rfl rfl)
theorem dX5_crowd_35 : decode cX5_crowd 35 = .ok (.iload_n 2, 1) := dk_28 (dk_at dksX5_crowd_1 13 rfl rfl)
theorem dX5_crowd_36 : decode cX5_crowd 36 = .ok (.if_icmp .le 7, 3) := dk_164 0 7 (dk_at dksX5_crowd_1 14 rfl rfl)
theorem dX5_crowd_39 : decode cX5_crowd 39 = .ok (.iload_n 3, 1) := dk_29 (dk_at dksX5_crowd_1 17 rfl rfl)
theorem dX5_crowd_40 : decode cX5_crowd 40 = .ok (.goto 4, 3) := dk_167 0 4 (dk_at dksX5_crowd_1 18 rfl rfl)
theorem dX5_crowd_43 : decode cX5_crowd 43 = .ok (.iload_n 1, 1) := dk_27 (dk_at dksX5_crowd_1 21 rfl rfl)
theorem dX5_crowd_44 : decode cX5_crowd 44 = .ok (.istore_n 1, 1) := dk_60 (dk_at dksX5_crowd_1 22 rfl rfl)
theorem dX5_crowd_45 : decode cX5_crowd 45 = .ok (.iload 4, 2) := dk_21 4 (dk_at dksX5_crowd_2 0 rfl rfl)
theorem dX5_crowd_47 : decode cX5_crowd 47 = .ok (.iload_n 2, 1) := dk_28 (dk_at dksX5_crowd_2 2 rfl rfl)
theorem dX5_crowd_48 : decode cX5_crowd 48 = .ok (.if_icmp .le 8, 3) := dk_164 0 8 (dk_at dksX5_crowd_2 3 rfl rfl)
theorem dX5_crowd_51 : decode cX5_crowd 51 = .ok (.iload 4, 2) := dk_21 4 (dk_at dksX5_crowd_2 6 rfl rfl)
theorem dX5_crowd_53 : decode cX5_crowd 53 = .ok (.goto 4, 3) := dk_167 0 4 (dk_at dksX5_crowd_2 8 rfl rfl)
theorem dX5_crowd_56 : decode cX5_crowd 56 = .ok (.iload_n 2, 1) := dk_28 (dk_at dksX5_crowd_2 11 rfl rfl)
theorem dX5_crowd_57 : decode cX5_crowd 57 = .ok (.istore_n 2, 1) := dk_61 (dk_at dksX5_crowd_2 12 rfl rfl)
theorem dX5_crowd_58 : decode cX5_crowd 58 = .ok (.aload_n 0, 1) := dk_42 (dk_at dksX5_crowd_2 13 rfl rfl)
theorem dX5_crowd_59 : decode cX5_crowd 59 = .ok (.sipush 987, 3) := dk_17 3 219 (dk_at dksX5_crowd_2 14 rfl rfl)
theorem dX5_crowd_62 : decode cX5_crowd 62 = .ok (.invokevirtual 344, 3) := dk_182 1 88 (dk_at dksX5_crowd_2 17 rfl rfl)
theorem dX5_crowd_65 : decode cX5_crowd 65 = .ok (.iinc 3 1, 3) := dk_132 3 1 (dk_at dksX5_crowd_2 20 rfl rfl)
theorem dX5_crowd_68 : decode cX5_crowd 68 = .ok (.goto (-53), 3) := dk_167 255 203 (dk_at dksX5_crowd_3 0 rfl rfl)
theorem dX5_crowd_71 : decode cX5_crowd 71 = .ok (.iload_n 1, 1) := dk_27 (dk_at dksX5_crowd_3 3 rfl rfl)
theorem dX5_crowd_72 : decode cX5_crowd 72 = .ok (.ireturn, 1) := dk_172 (dk_at dksX5_crowd_3 4 rfl rfl)
abbrev cX5_somewhere : ByteArray := prog_23_method_57_code
def yX5_somewhere : MethodName := ⟨RX5, "somewhere", "(I)I"⟩
def dkwX5_somewhere_1 : List UInt8 := [155, 0, 9, 4, 29, 120, 167, 0, 4, 3, 128, 61, 132, 3, 1, 167, 255, 221, 28, 172]
abbrev dktX5_somewhere_1 : List UInt8 := dkwX5_somewhere_1 ++ []
def dkwX5_somewhere_0 : List UInt8 := [3, 61, 3, 62, 29, 42, 182, 1, 21, 162, 0, 33, 28, 42, 180, 0, 117, 27, 16, 6, 96, 29, 96, 46]
abbrev dktX5_somewhere_0 : List UInt8 := dkwX5_somewhere_0 ++ dktX5_somewhere_1
theorem dksX5_somewhere_0 : cX5_somewhere.data.toList.drop 0 = dktX5_somewhere_0 := by decide +kernel
theorem dksX5_somewhere_1 : cX5_somewhere.data.toList.drop 24 = dktX5_somewhere_1 := dk_seg dksX5_somewhere_0 24 rfl rfl
theorem dX5_somewhere_0 : decode cX5_somewhere 0 = .ok (.iconst 0, 1) := dk_3 (dk_at dksX5_somewhere_0 0 rfl rfl)
theorem dX5_somewhere_1 : decode cX5_somewhere 1 = .ok (.istore_n 2, 1) := dk_61 (dk_at dksX5_somewhere_0 1 rfl rfl)
theorem dX5_somewhere_2 : decode cX5_somewhere 2 = .ok (.iconst 0, 1) := dk_3 (dk_at dksX5_somewhere_0 2 rfl rfl)
theorem dX5_somewhere_3 : decode cX5_somewhere 3 = .ok (.istore_n 3, 1) := dk_62 (dk_at dksX5_somewhere_0 3 rfl rfl)
theorem dX5_somewhere_4 : decode cX5_somewhere 4 = .ok (.iload_n 3, 1) := dk_29 (dk_at dksX5_somewhere_0 4 rfl rfl)
theorem dX5_somewhere_5 : decode cX5_somewhere 5 = .ok (.aload_n 0, 1) := dk_42 (dk_at dksX5_somewhere_0 5 rfl rfl)
theorem dX5_somewhere_6 : decode cX5_somewhere 6 = .ok (.invokevirtual 277, 3) := dk_182 1 21 (dk_at dksX5_somewhere_0 6 rfl rfl)
theorem dX5_somewhere_9 : decode cX5_somewhere 9 = .ok (.if_icmp .ge 33, 3) := dk_162 0 33 (dk_at dksX5_somewhere_0 9 rfl rfl)
theorem dX5_somewhere_12 : decode cX5_somewhere 12 = .ok (.iload_n 2, 1) := dk_28 (dk_at dksX5_somewhere_0 12 rfl rfl)
theorem dX5_somewhere_13 : decode cX5_somewhere 13 = .ok (.aload_n 0, 1) := dk_42 (dk_at dksX5_somewhere_0 13 rfl rfl)
theorem dX5_somewhere_14 : decode cX5_somewhere 14 = .ok (.getfield 117, 3) := dk_180 0 117 (dk_at dksX5_somewhere_0 14 rfl rfl)
theorem dX5_somewhere_17 : decode cX5_somewhere 17 = .ok (.iload_n 1, 1) := dk_27 (dk_at dksX5_somewhere_0 17 rfl rfl)
theorem dX5_somewhere_18 : decode cX5_somewhere 18 = .ok (.bipush 6, 2) := dk_16 6 (dk_at dksX5_somewhere_0 18 rfl rfl)
theorem dX5_somewhere_20 : decode cX5_somewhere 20 = .ok (.iadd, 1) := dk_96 (dk_at dksX5_somewhere_0 20 rfl rfl)
theorem dX5_somewhere_21 : decode cX5_somewhere 21 = .ok (.iload_n 3, 1) := dk_29 (dk_at dksX5_somewhere_0 21 rfl rfl)
theorem dX5_somewhere_22 : decode cX5_somewhere 22 = .ok (.iadd, 1) := dk_96 (dk_at dksX5_somewhere_0 22 rfl rfl)
theorem dX5_somewhere_23 : decode cX5_somewhere 23 = .ok (.iaload, 1) := dk_46 (dk_at dksX5_somewhere_0 23 rfl rfl)
theorem dX5_somewhere_24 : decode cX5_somewhere 24 = .ok (.ifCond .lt 9, 3) := dk_155 0 9 (dk_at dksX5_somewhere_1 0 rfl rfl)
theorem dX5_somewhere_27 : decode cX5_somewhere 27 = .ok (.iconst 1, 1) := dk_4 (dk_at dksX5_somewhere_1 3 rfl rfl)
theorem dX5_somewhere_28 : decode cX5_somewhere 28 = .ok (.iload_n 3, 1) := dk_29 (dk_at dksX5_somewhere_1 4 rfl rfl)
theorem dX5_somewhere_29 : decode cX5_somewhere 29 = .ok (.ishl, 1) := dk_120 (dk_at dksX5_somewhere_1 5 rfl rfl)
theorem dX5_somewhere_30 : decode cX5_somewhere 30 = .ok (.goto 4, 3) := dk_167 0 4 (dk_at dksX5_somewhere_1 6 rfl rfl)
theorem dX5_somewhere_33 : decode cX5_somewhere 33 = .ok (.iconst 0, 1) := dk_3 (dk_at dksX5_somewhere_1 9 rfl rfl)
theorem dX5_somewhere_34 : decode cX5_somewhere 34 = .ok (.ior, 1) := dk_128 (dk_at dksX5_somewhere_1 10 rfl rfl)
theorem dX5_somewhere_35 : decode cX5_somewhere 35 = .ok (.istore_n 2, 1) := dk_61 (dk_at dksX5_somewhere_1 11 rfl rfl)
theorem dX5_somewhere_36 : decode cX5_somewhere 36 = .ok (.iinc 3 1, 3) := dk_132 3 1 (dk_at dksX5_somewhere_1 12 rfl rfl)
theorem dX5_somewhere_39 : decode cX5_somewhere 39 = .ok (.goto (-35), 3) := dk_167 255 221 (dk_at dksX5_somewhere_1 15 rfl rfl)
theorem dX5_somewhere_42 : decode cX5_somewhere 42 = .ok (.iload_n 2, 1) := dk_28 (dk_at dksX5_somewhere_1 18 rfl rfl)
theorem dX5_somewhere_43 : decode cX5_somewhere 43 = .ok (.ireturn, 1) := dk_172 (dk_at dksX5_somewhere_1 19 rfl rfl)
abbrev cX5_refused : ByteArray := prog_23_method_78_code
def yX5_refused : MethodName := ⟨RX5, "refused", "(I)I"⟩
def dkwX5_refused_3 : List UInt8 := [132, 2, 1, 167, 255, 195, 2, 172]
abbrev dktX5_refused_3 : List UInt8 := dkwX5_refused_3 ++ []
def dkwX5_refused_2 : List UInt8 := [122, 4, 126, 154, 0, 9, 132, 3, 1, 167, 255, 242, 27, 154, 0, 7, 28, 167, 0, 4, 29, 172]
abbrev dktX5_refused_2 : List UInt8 := dkwX5_refused_2 ++ dktX5_refused_3
def dkwX5_refused_1 : List UInt8 := [153, 0, 52, 42, 17, 3, 219, 182, 1, 88, 42, 180, 1, 54, 153, 0, 32, 3, 62, 42, 180, 1, 54, 29]
abbrev dktX5_refused_1 : List UInt8 := dkwX5_refused_1 ++ dktX5_refused_2
def dkwX5_refused_0 : List UInt8 := [42, 3, 181, 0, 1, 42, 182, 1, 94, 4, 61, 28, 16, 60, 163, 0, 61, 27, 3, 4, 184, 0, 202]
abbrev dktX5_refused_0 : List UInt8 := dkwX5_refused_0 ++ dktX5_refused_1
theorem dksX5_refused_0 : cX5_refused.data.toList.drop 0 = dktX5_refused_0 := by decide +kernel
theorem dksX5_refused_1 : cX5_refused.data.toList.drop 23 = dktX5_refused_1 := dk_seg dksX5_refused_0 23 rfl rfl
theorem dksX5_refused_2 : cX5_refused.data.toList.drop 47 = dktX5_refused_2 := dk_seg dksX5_refused_1 24 rfl rfl
theorem dksX5_refused_3 : cX5_refused.data.toList.drop 69 = dktX5_refused_3 := dk_seg dksX5_refused_2 22 rfl rfl
theorem dX5_refused_0 : decode cX5_refused 0 = .ok (.aload_n 0, 1) := dk_42 (dk_at dksX5_refused_0 0 rfl rfl)
theorem dX5_refused_1 : decode cX5_refused 1 = .ok (.iconst 0, 1) := dk_3 (dk_at dksX5_refused_0 1 rfl rfl)
theorem dX5_refused_2 : decode cX5_refused 2 = .ok (.putfield 1, 3) := dk_181 0 1 (dk_at dksX5_refused_0 2 rfl rfl)
theorem dX5_refused_5 : decode cX5_refused 5 = .ok (.aload_n 0, 1) := dk_42 (dk_at dksX5_refused_0 5 rfl rfl)
theorem dX5_refused_6 : decode cX5_refused 6 = .ok (.invokevirtual 350, 3) := dk_182 1 94 (dk_at dksX5_refused_0 6 rfl rfl)
theorem dX5_refused_9 : decode cX5_refused 9 = .ok (.iconst 1, 1) := dk_4 (dk_at dksX5_refused_0 9 rfl rfl)
theorem dX5_refused_10 : decode cX5_refused 10 = .ok (.istore_n 2, 1) := dk_61 (dk_at dksX5_refused_0 10 rfl rfl)
theorem dX5_refused_11 : decode cX5_refused 11 = .ok (.iload_n 2, 1) := dk_28 (dk_at dksX5_refused_0 11 rfl rfl)
theorem dX5_refused_12 : decode cX5_refused 12 = .ok (.bipush 60, 2) := dk_16 60 (dk_at dksX5_refused_0 12 rfl rfl)
theorem dX5_refused_14 : decode cX5_refused 14 = .ok (.if_icmp .gt 61, 3) := dk_163 0 61 (dk_at dksX5_refused_0 14 rfl rfl)
theorem dX5_refused_17 : decode cX5_refused 17 = .ok (.iload_n 1, 1) := dk_27 (dk_at dksX5_refused_0 17 rfl rfl)
theorem dX5_refused_18 : decode cX5_refused 18 = .ok (.iconst 0, 1) := dk_3 (dk_at dksX5_refused_0 18 rfl rfl)
theorem dX5_refused_19 : decode cX5_refused 19 = .ok (.iconst 1, 1) := dk_4 (dk_at dksX5_refused_0 19 rfl rfl)
theorem dX5_refused_20 : decode cX5_refused 20 = .ok (.invokestatic 202, 3) := dk_184 0 202 (dk_at dksX5_refused_0 20 rfl rfl)
theorem dX5_refused_23 : decode cX5_refused 23 = .ok (.ifCond .eq 52, 3) := dk_153 0 52 (dk_at dksX5_refused_1 0 rfl rfl)
theorem dX5_refused_26 : decode cX5_refused 26 = .ok (.aload_n 0, 1) := dk_42 (dk_at dksX5_refused_1 3 rfl rfl)
theorem dX5_refused_27 : decode cX5_refused 27 = .ok (.sipush 987, 3) := dk_17 3 219 (dk_at dksX5_refused_1 4 rfl rfl)
theorem dX5_refused_30 : decode cX5_refused 30 = .ok (.invokevirtual 344, 3) := dk_182 1 88 (dk_at dksX5_refused_1 7 rfl rfl)
theorem dX5_refused_33 : decode cX5_refused 33 = .ok (.aload_n 0, 1) := dk_42 (dk_at dksX5_refused_1 10 rfl rfl)
theorem dX5_refused_34 : decode cX5_refused 34 = .ok (.getfield 310, 3) := dk_180 1 54 (dk_at dksX5_refused_1 11 rfl rfl)
theorem dX5_refused_37 : decode cX5_refused 37 = .ok (.ifCond .eq 32, 3) := dk_153 0 32 (dk_at dksX5_refused_1 14 rfl rfl)
theorem dX5_refused_40 : decode cX5_refused 40 = .ok (.iconst 0, 1) := dk_3 (dk_at dksX5_refused_1 17 rfl rfl)
theorem dX5_refused_41 : decode cX5_refused 41 = .ok (.istore_n 3, 1) := dk_62 (dk_at dksX5_refused_1 18 rfl rfl)
theorem dX5_refused_42 : decode cX5_refused 42 = .ok (.aload_n 0, 1) := dk_42 (dk_at dksX5_refused_1 19 rfl rfl)
theorem dX5_refused_43 : decode cX5_refused 43 = .ok (.getfield 310, 3) := dk_180 1 54 (dk_at dksX5_refused_1 20 rfl rfl)
theorem dX5_refused_46 : decode cX5_refused 46 = .ok (.iload_n 3, 1) := dk_29 (dk_at dksX5_refused_1 23 rfl rfl)
theorem dX5_refused_47 : decode cX5_refused 47 = .ok (.ishr, 1) := dk_122 (dk_at dksX5_refused_2 0 rfl rfl)
theorem dX5_refused_48 : decode cX5_refused 48 = .ok (.iconst 1, 1) := dk_4 (dk_at dksX5_refused_2 1 rfl rfl)
theorem dX5_refused_49 : decode cX5_refused 49 = .ok (.iand, 1) := dk_126 (dk_at dksX5_refused_2 2 rfl rfl)
theorem dX5_refused_50 : decode cX5_refused 50 = .ok (.ifCond .ne 9, 3) := dk_154 0 9 (dk_at dksX5_refused_2 3 rfl rfl)
theorem dX5_refused_53 : decode cX5_refused 53 = .ok (.iinc 3 1, 3) := dk_132 3 1 (dk_at dksX5_refused_2 6 rfl rfl)
theorem dX5_refused_56 : decode cX5_refused 56 = .ok (.goto (-14), 3) := dk_167 255 242 (dk_at dksX5_refused_2 9 rfl rfl)
theorem dX5_refused_59 : decode cX5_refused 59 = .ok (.iload_n 1, 1) := dk_27 (dk_at dksX5_refused_2 12 rfl rfl)
theorem dX5_refused_60 : decode cX5_refused 60 = .ok (.ifCond .ne 7, 3) := dk_154 0 7 (dk_at dksX5_refused_2 13 rfl rfl)
theorem dX5_refused_63 : decode cX5_refused 63 = .ok (.iload_n 2, 1) := dk_28 (dk_at dksX5_refused_2 16 rfl rfl)
theorem dX5_refused_64 : decode cX5_refused 64 = .ok (.goto 4, 3) := dk_167 0 4 (dk_at dksX5_refused_2 17 rfl rfl)
theorem dX5_refused_67 : decode cX5_refused 67 = .ok (.iload_n 3, 1) := dk_29 (dk_at dksX5_refused_2 20 rfl rfl)
theorem dX5_refused_68 : decode cX5_refused 68 = .ok (.ireturn, 1) := dk_172 (dk_at dksX5_refused_2 21 rfl rfl)
theorem dX5_refused_69 : decode cX5_refused 69 = .ok (.iinc 2 1, 3) := dk_132 2 1 (dk_at dksX5_refused_3 0 rfl rfl)
theorem dX5_refused_72 : decode cX5_refused 72 = .ok (.goto (-61), 3) := dk_167 255 195 (dk_at dksX5_refused_3 3 rfl rfl)
theorem dX5_refused_75 : decode cX5_refused 75 = .ok (.iconst (-1), 1) := dk_2 (dk_at dksX5_refused_3 6 rfl rfl)
theorem dX5_refused_76 : decode cX5_refused 76 = .ok (.ireturn, 1) := dk_172 (dk_at dksX5_refused_3 7 rfl rfl)
abbrev cX5_meets : ByteArray := prog_23_method_79_code
def yX5_meets : MethodName := ⟨RX5, "meets", "(II)I"⟩
def dkwX5_meets_3 : List UInt8 := [46, 160, 0, 5, 29, 172, 42, 17, 3, 219, 182, 1, 88, 132, 3, 1, 167, 255, 181, 2, 172]
abbrev dktX5_meets_3 : List UInt8 := dkwX5_meets_3 ++ []
def dkwX5_meets_2 : List UInt8 := [96, 46, 155, 0, 28, 42, 180, 0, 117, 17, 3, 225, 27, 96, 46, 42, 180, 0, 117, 17, 3, 225, 28, 96]
abbrev dktX5_meets_2 : List UInt8 := dkwX5_meets_2 ++ dktX5_meets_3
def dkwX5_meets_1 : List UInt8 := [153, 0, 67, 42, 28, 182, 1, 82, 153, 0, 59, 27, 28, 159, 0, 54, 42, 180, 0, 117, 17, 3, 225, 27]
abbrev dktX5_meets_1 : List UInt8 := dkwX5_meets_1 ++ dktX5_meets_2
def dkwX5_meets_0 : List UInt8 := [42, 3, 181, 0, 1, 42, 182, 1, 94, 3, 62, 29, 16, 60, 163, 0, 75, 42, 27, 182, 1, 82]
abbrev dktX5_meets_0 : List UInt8 := dkwX5_meets_0 ++ dktX5_meets_1
theorem dksX5_meets_0 : cX5_meets.data.toList.drop 0 = dktX5_meets_0 := by decide +kernel
theorem dksX5_meets_1 : cX5_meets.data.toList.drop 22 = dktX5_meets_1 := dk_seg dksX5_meets_0 22 rfl rfl
theorem dksX5_meets_2 : cX5_meets.data.toList.drop 46 = dktX5_meets_2 := dk_seg dksX5_meets_1 24 rfl rfl
theorem dksX5_meets_3 : cX5_meets.data.toList.drop 70 = dktX5_meets_3 := dk_seg dksX5_meets_2 24 rfl rfl
theorem dX5_meets_0 : decode cX5_meets 0 = .ok (.aload_n 0, 1) := dk_42 (dk_at dksX5_meets_0 0 rfl rfl)
theorem dX5_meets_1 : decode cX5_meets 1 = .ok (.iconst 0, 1) := dk_3 (dk_at dksX5_meets_0 1 rfl rfl)
theorem dX5_meets_2 : decode cX5_meets 2 = .ok (.putfield 1, 3) := dk_181 0 1 (dk_at dksX5_meets_0 2 rfl rfl)
theorem dX5_meets_5 : decode cX5_meets 5 = .ok (.aload_n 0, 1) := dk_42 (dk_at dksX5_meets_0 5 rfl rfl)
theorem dX5_meets_6 : decode cX5_meets 6 = .ok (.invokevirtual 350, 3) := dk_182 1 94 (dk_at dksX5_meets_0 6 rfl rfl)
theorem dX5_meets_9 : decode cX5_meets 9 = .ok (.iconst 0, 1) := dk_3 (dk_at dksX5_meets_0 9 rfl rfl)
theorem dX5_meets_10 : decode cX5_meets 10 = .ok (.istore_n 3, 1) := dk_62 (dk_at dksX5_meets_0 10 rfl rfl)
theorem dX5_meets_11 : decode cX5_meets 11 = .ok (.iload_n 3, 1) := dk_29 (dk_at dksX5_meets_0 11 rfl rfl)
theorem dX5_meets_12 : decode cX5_meets 12 = .ok (.bipush 60, 2) := dk_16 60 (dk_at dksX5_meets_0 12 rfl rfl)
theorem dX5_meets_14 : decode cX5_meets 14 = .ok (.if_icmp .gt 75, 3) := dk_163 0 75 (dk_at dksX5_meets_0 14 rfl rfl)
theorem dX5_meets_17 : decode cX5_meets 17 = .ok (.aload_n 0, 1) := dk_42 (dk_at dksX5_meets_0 17 rfl rfl)
theorem dX5_meets_18 : decode cX5_meets 18 = .ok (.iload_n 1, 1) := dk_27 (dk_at dksX5_meets_0 18 rfl rfl)
theorem dX5_meets_19 : decode cX5_meets 19 = .ok (.invokevirtual 338, 3) := dk_182 1 82 (dk_at dksX5_meets_0 19 rfl rfl)
theorem dX5_meets_22 : decode cX5_meets 22 = .ok (.ifCond .eq 67, 3) := dk_153 0 67 (dk_at dksX5_meets_1 0 rfl rfl)
theorem dX5_meets_25 : decode cX5_meets 25 = .ok (.aload_n 0, 1) := dk_42 (dk_at dksX5_meets_1 3 rfl rfl)
theorem dX5_meets_26 : decode cX5_meets 26 = .ok (.iload_n 2, 1) := dk_28 (dk_at dksX5_meets_1 4 rfl rfl)
theorem dX5_meets_27 : decode cX5_meets 27 = .ok (.invokevirtual 338, 3) := dk_182 1 82 (dk_at dksX5_meets_1 5 rfl rfl)
theorem dX5_meets_30 : decode cX5_meets 30 = .ok (.ifCond .eq 59, 3) := dk_153 0 59 (dk_at dksX5_meets_1 8 rfl rfl)
theorem dX5_meets_33 : decode cX5_meets 33 = .ok (.iload_n 1, 1) := dk_27 (dk_at dksX5_meets_1 11 rfl rfl)
theorem dX5_meets_34 : decode cX5_meets 34 = .ok (.iload_n 2, 1) := dk_28 (dk_at dksX5_meets_1 12 rfl rfl)
theorem dX5_meets_35 : decode cX5_meets 35 = .ok (.if_icmp .eq 54, 3) := dk_159 0 54 (dk_at dksX5_meets_1 13 rfl rfl)
theorem dX5_meets_38 : decode cX5_meets 38 = .ok (.aload_n 0, 1) := dk_42 (dk_at dksX5_meets_1 16 rfl rfl)
theorem dX5_meets_39 : decode cX5_meets 39 = .ok (.getfield 117, 3) := dk_180 0 117 (dk_at dksX5_meets_1 17 rfl rfl)
theorem dX5_meets_42 : decode cX5_meets 42 = .ok (.sipush 993, 3) := dk_17 3 225 (dk_at dksX5_meets_1 20 rfl rfl)
theorem dX5_meets_45 : decode cX5_meets 45 = .ok (.iload_n 1, 1) := dk_27 (dk_at dksX5_meets_1 23 rfl rfl)
theorem dX5_meets_46 : decode cX5_meets 46 = .ok (.iadd, 1) := dk_96 (dk_at dksX5_meets_2 0 rfl rfl)
theorem dX5_meets_47 : decode cX5_meets 47 = .ok (.iaload, 1) := dk_46 (dk_at dksX5_meets_2 1 rfl rfl)
theorem dX5_meets_48 : decode cX5_meets 48 = .ok (.ifCond .lt 28, 3) := dk_155 0 28 (dk_at dksX5_meets_2 2 rfl rfl)
theorem dX5_meets_51 : decode cX5_meets 51 = .ok (.aload_n 0, 1) := dk_42 (dk_at dksX5_meets_2 5 rfl rfl)
theorem dX5_meets_52 : decode cX5_meets 52 = .ok (.getfield 117, 3) := dk_180 0 117 (dk_at dksX5_meets_2 6 rfl rfl)
theorem dX5_meets_55 : decode cX5_meets 55 = .ok (.sipush 993, 3) := dk_17 3 225 (dk_at dksX5_meets_2 9 rfl rfl)
theorem dX5_meets_58 : decode cX5_meets 58 = .ok (.iload_n 1, 1) := dk_27 (dk_at dksX5_meets_2 12 rfl rfl)
theorem dX5_meets_59 : decode cX5_meets 59 = .ok (.iadd, 1) := dk_96 (dk_at dksX5_meets_2 13 rfl rfl)
theorem dX5_meets_60 : decode cX5_meets 60 = .ok (.iaload, 1) := dk_46 (dk_at dksX5_meets_2 14 rfl rfl)
theorem dX5_meets_61 : decode cX5_meets 61 = .ok (.aload_n 0, 1) := dk_42 (dk_at dksX5_meets_2 15 rfl rfl)
theorem dX5_meets_62 : decode cX5_meets 62 = .ok (.getfield 117, 3) := dk_180 0 117 (dk_at dksX5_meets_2 16 rfl rfl)
theorem dX5_meets_65 : decode cX5_meets 65 = .ok (.sipush 993, 3) := dk_17 3 225 (dk_at dksX5_meets_2 19 rfl rfl)
theorem dX5_meets_68 : decode cX5_meets 68 = .ok (.iload_n 2, 1) := dk_28 (dk_at dksX5_meets_2 22 rfl rfl)
theorem dX5_meets_69 : decode cX5_meets 69 = .ok (.iadd, 1) := dk_96 (dk_at dksX5_meets_2 23 rfl rfl)
theorem dX5_meets_70 : decode cX5_meets 70 = .ok (.iaload, 1) := dk_46 (dk_at dksX5_meets_3 0 rfl rfl)
theorem dX5_meets_71 : decode cX5_meets 71 = .ok (.if_icmp .ne 5, 3) := dk_160 0 5 (dk_at dksX5_meets_3 1 rfl rfl)
theorem dX5_meets_74 : decode cX5_meets 74 = .ok (.iload_n 3, 1) := dk_29 (dk_at dksX5_meets_3 4 rfl rfl)
theorem dX5_meets_75 : decode cX5_meets 75 = .ok (.ireturn, 1) := dk_172 (dk_at dksX5_meets_3 5 rfl rfl)
theorem dX5_meets_76 : decode cX5_meets 76 = .ok (.aload_n 0, 1) := dk_42 (dk_at dksX5_meets_3 6 rfl rfl)
theorem dX5_meets_77 : decode cX5_meets 77 = .ok (.sipush 987, 3) := dk_17 3 219 (dk_at dksX5_meets_3 7 rfl rfl)
theorem dX5_meets_80 : decode cX5_meets 80 = .ok (.invokevirtual 344, 3) := dk_182 1 88 (dk_at dksX5_meets_3 10 rfl rfl)
theorem dX5_meets_83 : decode cX5_meets 83 = .ok (.iinc 3 1, 3) := dk_132 3 1 (dk_at dksX5_meets_3 13 rfl rfl)
theorem dX5_meets_86 : decode cX5_meets 86 = .ok (.goto (-75), 3) := dk_167 255 181 (dk_at dksX5_meets_3 16 rfl rfl)
theorem dX5_meets_89 : decode cX5_meets 89 = .ok (.iconst (-1), 1) := dk_2 (dk_at dksX5_meets_3 19 rfl rfl)
theorem dX5_meets_90 : decode cX5_meets 90 = .ok (.ireturn, 1) := dk_172 (dk_at dksX5_meets_3 20 rfl rfl)
abbrev cX5_beds : ByteArray := prog_23_method_82_code
def yX5_beds : MethodName := ⟨RX5, "beds", "(II)I"⟩
def dkwX5_beds_10 : List UInt8 := [2, 160, 0, 8, 21, 5, 167, 0, 10, 42, 21, 4, 28, 182, 1, 100, 172]
abbrev dktX5_beds_10 : List UInt8 := dkwX5_beds_10 ++ []
def dkwX5_beds_9 : List UInt8 := [167, 0, 5, 21, 5, 54, 5, 132, 6, 1, 167, 255, 96, 21, 4, 156, 0, 8, 16, 254, 167, 0, 20, 28]
abbrev dktX5_beds_9 : List UInt8 := dkwX5_beds_9 ++ dktX5_beds_10
def dkwX5_beds_8 : List UInt8 := [3, 54, 9, 21, 9, 153, 0, 8, 21, 6, 167, 0, 5, 21, 4, 54, 4, 21, 9, 153, 0, 8, 21, 7]
abbrev dktX5_beds_8 : List UInt8 := dkwX5_beds_8 ++ dktX5_beds_9
def dkwX5_beds_7 : List UInt8 := [21, 4, 155, 0, 10, 21, 7, 21, 5, 162, 0, 15, 42, 27, 182, 1, 103, 153, 0, 7, 4, 167, 0, 4]
abbrev dktX5_beds_7 : List UInt8 := dkwX5_beds_7 ++ dktX5_beds_8
def dkwX5_beds_6 : List UInt8 := [46, 16, 9, 163, 0, 7, 4, 167, 0, 4, 3, 54, 8, 132, 9, 1, 167, 255, 181, 21, 8, 153, 0, 27]
abbrev dktX5_beds_6 : List UInt8 := dkwX5_beds_6 ++ dktX5_beds_7
def dkwX5_beds_5 : List UInt8 := [21, 6, 21, 9, 182, 1, 100, 96, 79, 21, 8, 153, 0, 23, 42, 180, 0, 117, 17, 3, 221, 21, 9, 96]
abbrev dktX5_beds_5 : List UInt8 := dkwX5_beds_5 ++ dktX5_beds_6
def dkwX5_beds_4 : List UInt8 := [42, 21, 6, 21, 9, 182, 1, 100, 96, 54, 7, 42, 180, 0, 117, 17, 3, 221, 21, 9, 96, 92, 46, 42]
abbrev dktX5_beds_4 : List UInt8 := dkwX5_beds_4 ++ dktX5_beds_5
def dkwX5_beds_3 : List UInt8 := [42, 182, 1, 94, 3, 54, 7, 4, 54, 8, 3, 54, 9, 21, 9, 42, 182, 1, 14, 162, 0, 72, 21, 7]
abbrev dktX5_beds_3 : List UInt8 := dkwX5_beds_3 ++ dktX5_beds_4
def dkwX5_beds_2 : List UInt8 := [6, 104, 62, 132, 4, 1, 167, 255, 240, 2, 54, 4, 3, 54, 5, 3, 54, 6, 21, 6, 29, 162, 0, 160]
abbrev dktX5_beds_2 : List UInt8 := dkwX5_beds_2 ++ dktX5_beds_3
def dkwX5_beds_1 : List UInt8 := [182, 1, 76, 154, 0, 6, 16, 254, 172, 4, 62, 3, 54, 4, 21, 4, 42, 182, 1, 14, 162, 0, 13, 29]
abbrev dktX5_beds_1 : List UInt8 := dkwX5_beds_1 ++ dktX5_beds_2
def dkwX5_beds_0 : List UInt8 := [42, 3, 181, 0, 1, 27, 4, 16, 36, 184, 0, 202, 153, 0, 16, 28, 2, 159, 0, 14, 42, 28]
abbrev dktX5_beds_0 : List UInt8 := dkwX5_beds_0 ++ dktX5_beds_1
theorem dksX5_beds_0 : cX5_beds.data.toList.drop 0 = dktX5_beds_0 := by decide +kernel
theorem dksX5_beds_1 : cX5_beds.data.toList.drop 22 = dktX5_beds_1 := dk_seg dksX5_beds_0 22 rfl rfl
theorem dksX5_beds_2 : cX5_beds.data.toList.drop 46 = dktX5_beds_2 := dk_seg dksX5_beds_1 24 rfl rfl
theorem dksX5_beds_3 : cX5_beds.data.toList.drop 70 = dktX5_beds_3 := dk_seg dksX5_beds_2 24 rfl rfl
theorem dksX5_beds_4 : cX5_beds.data.toList.drop 94 = dktX5_beds_4 := dk_seg dksX5_beds_3 24 rfl rfl
theorem dksX5_beds_5 : cX5_beds.data.toList.drop 118 = dktX5_beds_5 := dk_seg dksX5_beds_4 24 rfl rfl
theorem dksX5_beds_6 : cX5_beds.data.toList.drop 142 = dktX5_beds_6 := dk_seg dksX5_beds_5 24 rfl rfl
theorem dksX5_beds_7 : cX5_beds.data.toList.drop 166 = dktX5_beds_7 := dk_seg dksX5_beds_6 24 rfl rfl
theorem dksX5_beds_8 : cX5_beds.data.toList.drop 190 = dktX5_beds_8 := dk_seg dksX5_beds_7 24 rfl rfl
theorem dksX5_beds_9 : cX5_beds.data.toList.drop 214 = dktX5_beds_9 := dk_seg dksX5_beds_8 24 rfl rfl
theorem dksX5_beds_10 : cX5_beds.data.toList.drop 238 = dktX5_beds_10 := dk_seg dksX5_beds_9 24 rfl rfl
theorem dX5_beds_0 : decode cX5_beds 0 = .ok (.aload_n 0, 1) := dk_42 (dk_at dksX5_beds_0 0 rfl rfl)
theorem dX5_beds_1 : decode cX5_beds 1 = .ok (.iconst 0, 1) := dk_3 (dk_at dksX5_beds_0 1 rfl rfl)
theorem dX5_beds_2 : decode cX5_beds 2 = .ok (.putfield 1, 3) := dk_181 0 1 (dk_at dksX5_beds_0 2 rfl rfl)
theorem dX5_beds_5 : decode cX5_beds 5 = .ok (.iload_n 1, 1) := dk_27 (dk_at dksX5_beds_0 5 rfl rfl)
theorem dX5_beds_6 : decode cX5_beds 6 = .ok (.iconst 1, 1) := dk_4 (dk_at dksX5_beds_0 6 rfl rfl)
theorem dX5_beds_7 : decode cX5_beds 7 = .ok (.bipush 36, 2) := dk_16 36 (dk_at dksX5_beds_0 7 rfl rfl)
theorem dX5_beds_9 : decode cX5_beds 9 = .ok (.invokestatic 202, 3) := dk_184 0 202 (dk_at dksX5_beds_0 9 rfl rfl)
theorem dX5_beds_12 : decode cX5_beds 12 = .ok (.ifCond .eq 16, 3) := dk_153 0 16 (dk_at dksX5_beds_0 12 rfl rfl)
theorem dX5_beds_15 : decode cX5_beds 15 = .ok (.iload_n 2, 1) := dk_28 (dk_at dksX5_beds_0 15 rfl rfl)
theorem dX5_beds_16 : decode cX5_beds 16 = .ok (.iconst (-1), 1) := dk_2 (dk_at dksX5_beds_0 16 rfl rfl)
theorem dX5_beds_17 : decode cX5_beds 17 = .ok (.if_icmp .eq 14, 3) := dk_159 0 14 (dk_at dksX5_beds_0 17 rfl rfl)
theorem dX5_beds_20 : decode cX5_beds 20 = .ok (.aload_n 0, 1) := dk_42 (dk_at dksX5_beds_0 20 rfl rfl)
theorem dX5_beds_21 : decode cX5_beds 21 = .ok (.iload_n 2, 1) := dk_28 (dk_at dksX5_beds_0 21 rfl rfl)
theorem dX5_beds_22 : decode cX5_beds 22 = .ok (.invokevirtual 332, 3) := dk_182 1 76 (dk_at dksX5_beds_1 0 rfl rfl)
theorem dX5_beds_25 : decode cX5_beds 25 = .ok (.ifCond .ne 6, 3) := dk_154 0 6 (dk_at dksX5_beds_1 3 rfl rfl)
theorem dX5_beds_28 : decode cX5_beds 28 = .ok (.bipush (-2), 2) := dk_16 254 (dk_at dksX5_beds_1 6 rfl rfl)
theorem dX5_beds_30 : decode cX5_beds 30 = .ok (.ireturn, 1) := dk_172 (dk_at dksX5_beds_1 8 rfl rfl)
theorem dX5_beds_31 : decode cX5_beds 31 = .ok (.iconst 1, 1) := dk_4 (dk_at dksX5_beds_1 9 rfl rfl)
theorem dX5_beds_32 : decode cX5_beds 32 = .ok (.istore_n 3, 1) := dk_62 (dk_at dksX5_beds_1 10 rfl rfl)
theorem dX5_beds_33 : decode cX5_beds 33 = .ok (.iconst 0, 1) := dk_3 (dk_at dksX5_beds_1 11 rfl rfl)
theorem dX5_beds_34 : decode cX5_beds 34 = .ok (.istore 4, 2) := dk_54 4 (dk_at dksX5_beds_1 12 rfl rfl)
theorem dX5_beds_36 : decode cX5_beds 36 = .ok (.iload 4, 2) := dk_21 4 (dk_at dksX5_beds_1 14 rfl rfl)
theorem dX5_beds_38 : decode cX5_beds 38 = .ok (.aload_n 0, 1) := dk_42 (dk_at dksX5_beds_1 16 rfl rfl)
theorem dX5_beds_39 : decode cX5_beds 39 = .ok (.invokevirtual 270, 3) := dk_182 1 14 (dk_at dksX5_beds_1 17 rfl rfl)
theorem dX5_beds_42 : decode cX5_beds 42 = .ok (.if_icmp .ge 13, 3) := dk_162 0 13 (dk_at dksX5_beds_1 20 rfl rfl)
theorem dX5_beds_45 : decode cX5_beds 45 = .ok (.iload_n 3, 1) := dk_29 (dk_at dksX5_beds_1 23 rfl rfl)
theorem dX5_beds_46 : decode cX5_beds 46 = .ok (.iconst 3, 1) := dk_6 (dk_at dksX5_beds_2 0 rfl rfl)
theorem dX5_beds_47 : decode cX5_beds 47 = .ok (.imul, 1) := dk_104 (dk_at dksX5_beds_2 1 rfl rfl)
theorem dX5_beds_48 : decode cX5_beds 48 = .ok (.istore_n 3, 1) := dk_62 (dk_at dksX5_beds_2 2 rfl rfl)
theorem dX5_beds_49 : decode cX5_beds 49 = .ok (.iinc 4 1, 3) := dk_132 4 1 (dk_at dksX5_beds_2 3 rfl rfl)
theorem dX5_beds_52 : decode cX5_beds 52 = .ok (.goto (-16), 3) := dk_167 255 240 (dk_at dksX5_beds_2 6 rfl rfl)
theorem dX5_beds_55 : decode cX5_beds 55 = .ok (.iconst (-1), 1) := dk_2 (dk_at dksX5_beds_2 9 rfl rfl)
theorem dX5_beds_56 : decode cX5_beds 56 = .ok (.istore 4, 2) := dk_54 4 (dk_at dksX5_beds_2 10 rfl rfl)
theorem dX5_beds_58 : decode cX5_beds 58 = .ok (.iconst 0, 1) := dk_3 (dk_at dksX5_beds_2 12 rfl rfl)
theorem dX5_beds_59 : decode cX5_beds 59 = .ok (.istore 5, 2) := dk_54 5 (dk_at dksX5_beds_2 13 rfl rfl)
theorem dX5_beds_61 : decode cX5_beds 61 = .ok (.iconst 0, 1) := dk_3 (dk_at dksX5_beds_2 15 rfl rfl)
theorem dX5_beds_62 : decode cX5_beds 62 = .ok (.istore 6, 2) := dk_54 6 (dk_at dksX5_beds_2 16 rfl rfl)
theorem dX5_beds_64 : decode cX5_beds 64 = .ok (.iload 6, 2) := dk_21 6 (dk_at dksX5_beds_2 18 rfl rfl)
theorem dX5_beds_66 : decode cX5_beds 66 = .ok (.iload_n 3, 1) := dk_29 (dk_at dksX5_beds_2 20 rfl rfl)
theorem dX5_beds_67 : decode cX5_beds 67 = .ok (.if_icmp .ge 160, 3) := dk_162 0 160 (dk_at dksX5_beds_2 21 rfl rfl)
theorem dX5_beds_70 : decode cX5_beds 70 = .ok (.aload_n 0, 1) := dk_42 (dk_at dksX5_beds_3 0 rfl rfl)
theorem dX5_beds_71 : decode cX5_beds 71 = .ok (.invokevirtual 350, 3) := dk_182 1 94 (dk_at dksX5_beds_3 1 rfl rfl)
theorem dX5_beds_74 : decode cX5_beds 74 = .ok (.iconst 0, 1) := dk_3 (dk_at dksX5_beds_3 4 rfl rfl)
theorem dX5_beds_75 : decode cX5_beds 75 = .ok (.istore 7, 2) := dk_54 7 (dk_at dksX5_beds_3 5 rfl rfl)
theorem dX5_beds_77 : decode cX5_beds 77 = .ok (.iconst 1, 1) := dk_4 (dk_at dksX5_beds_3 7 rfl rfl)
theorem dX5_beds_78 : decode cX5_beds 78 = .ok (.istore 8, 2) := dk_54 8 (dk_at dksX5_beds_3 8 rfl rfl)
theorem dX5_beds_80 : decode cX5_beds 80 = .ok (.iconst 0, 1) := dk_3 (dk_at dksX5_beds_3 10 rfl rfl)
theorem dX5_beds_81 : decode cX5_beds 81 = .ok (.istore 9, 2) := dk_54 9 (dk_at dksX5_beds_3 11 rfl rfl)
theorem dX5_beds_83 : decode cX5_beds 83 = .ok (.iload 9, 2) := dk_21 9 (dk_at dksX5_beds_3 13 rfl rfl)
theorem dX5_beds_85 : decode cX5_beds 85 = .ok (.aload_n 0, 1) := dk_42 (dk_at dksX5_beds_3 15 rfl rfl)
theorem dX5_beds_86 : decode cX5_beds 86 = .ok (.invokevirtual 270, 3) := dk_182 1 14 (dk_at dksX5_beds_3 16 rfl rfl)
theorem dX5_beds_89 : decode cX5_beds 89 = .ok (.if_icmp .ge 72, 3) := dk_162 0 72 (dk_at dksX5_beds_3 19 rfl rfl)
theorem dX5_beds_92 : decode cX5_beds 92 = .ok (.iload 7, 2) := dk_21 7 (dk_at dksX5_beds_3 22 rfl rfl)
theorem dX5_beds_94 : decode cX5_beds 94 = .ok (.aload_n 0, 1) := dk_42 (dk_at dksX5_beds_4 0 rfl rfl)
theorem dX5_beds_95 : decode cX5_beds 95 = .ok (.iload 6, 2) := dk_21 6 (dk_at dksX5_beds_4 1 rfl rfl)
theorem dX5_beds_97 : decode cX5_beds 97 = .ok (.iload 9, 2) := dk_21 9 (dk_at dksX5_beds_4 3 rfl rfl)
theorem dX5_beds_99 : decode cX5_beds 99 = .ok (.invokevirtual 356, 3) := dk_182 1 100 (dk_at dksX5_beds_4 5 rfl rfl)
theorem dX5_beds_102 : decode cX5_beds 102 = .ok (.iadd, 1) := dk_96 (dk_at dksX5_beds_4 8 rfl rfl)
theorem dX5_beds_103 : decode cX5_beds 103 = .ok (.istore 7, 2) := dk_54 7 (dk_at dksX5_beds_4 9 rfl rfl)
theorem dX5_beds_105 : decode cX5_beds 105 = .ok (.aload_n 0, 1) := dk_42 (dk_at dksX5_beds_4 11 rfl rfl)
theorem dX5_beds_106 : decode cX5_beds 106 = .ok (.getfield 117, 3) := dk_180 0 117 (dk_at dksX5_beds_4 12 rfl rfl)
theorem dX5_beds_109 : decode cX5_beds 109 = .ok (.sipush 989, 3) := dk_17 3 221 (dk_at dksX5_beds_4 15 rfl rfl)
theorem dX5_beds_112 : decode cX5_beds 112 = .ok (.iload 9, 2) := dk_21 9 (dk_at dksX5_beds_4 18 rfl rfl)
theorem dX5_beds_114 : decode cX5_beds 114 = .ok (.iadd, 1) := dk_96 (dk_at dksX5_beds_4 20 rfl rfl)
theorem dX5_beds_115 : decode cX5_beds 115 = .ok (.dup2, 1) := dk_92 (dk_at dksX5_beds_4 21 rfl rfl)
theorem dX5_beds_116 : decode cX5_beds 116 = .ok (.iaload, 1) := dk_46 (dk_at dksX5_beds_4 22 rfl rfl)
theorem dX5_beds_117 : decode cX5_beds 117 = .ok (.aload_n 0, 1) := dk_42 (dk_at dksX5_beds_4 23 rfl rfl)
theorem dX5_beds_118 : decode cX5_beds 118 = .ok (.iload 6, 2) := dk_21 6 (dk_at dksX5_beds_5 0 rfl rfl)
theorem dX5_beds_120 : decode cX5_beds 120 = .ok (.iload 9, 2) := dk_21 9 (dk_at dksX5_beds_5 2 rfl rfl)
theorem dX5_beds_122 : decode cX5_beds 122 = .ok (.invokevirtual 356, 3) := dk_182 1 100 (dk_at dksX5_beds_5 4 rfl rfl)
theorem dX5_beds_125 : decode cX5_beds 125 = .ok (.iadd, 1) := dk_96 (dk_at dksX5_beds_5 7 rfl rfl)
theorem dX5_beds_126 : decode cX5_beds 126 = .ok (.iastore, 1) := dk_79 (dk_at dksX5_beds_5 8 rfl rfl)
theorem dX5_beds_127 : decode cX5_beds 127 = .ok (.iload 8, 2) := dk_21 8 (dk_at dksX5_beds_5 9 rfl rfl)
theorem dX5_beds_129 : decode cX5_beds 129 = .ok (.ifCond .eq 23, 3) := dk_153 0 23 (dk_at dksX5_beds_5 11 rfl rfl)
theorem dX5_beds_132 : decode cX5_beds 132 = .ok (.aload_n 0, 1) := dk_42 (dk_at dksX5_beds_5 14 rfl rfl)
theorem dX5_beds_133 : decode cX5_beds 133 = .ok (.getfield 117, 3) := dk_180 0 117 (dk_at dksX5_beds_5 15 rfl rfl)
theorem dX5_beds_136 : decode cX5_beds 136 = .ok (.sipush 989, 3) := dk_17 3 221 (dk_at dksX5_beds_5 18 rfl rfl)
theorem dX5_beds_139 : decode cX5_beds 139 = .ok (.iload 9, 2) := dk_21 9 (dk_at dksX5_beds_5 21 rfl rfl)
theorem dX5_beds_141 : decode cX5_beds 141 = .ok (.iadd, 1) := dk_96 (dk_at dksX5_beds_5 23 rfl rfl)
theorem dX5_beds_142 : decode cX5_beds 142 = .ok (.iaload, 1) := dk_46 (dk_at dksX5_beds_6 0 rfl rfl)
theorem dX5_beds_143 : decode cX5_beds 143 = .ok (.bipush 9, 2) := dk_16 9 (dk_at dksX5_beds_6 1 rfl rfl)
theorem dX5_beds_145 : decode cX5_beds 145 = .ok (.if_icmp .gt 7, 3) := dk_163 0 7 (dk_at dksX5_beds_6 3 rfl rfl)
theorem dX5_beds_148 : decode cX5_beds 148 = .ok (.iconst 1, 1) := dk_4 (dk_at dksX5_beds_6 6 rfl rfl)
theorem dX5_beds_149 : decode cX5_beds 149 = .ok (.goto 4, 3) := dk_167 0 4 (dk_at dksX5_beds_6 7 rfl rfl)
theorem dX5_beds_152 : decode cX5_beds 152 = .ok (.iconst 0, 1) := dk_3 (dk_at dksX5_beds_6 10 rfl rfl)
theorem dX5_beds_153 : decode cX5_beds 153 = .ok (.istore 8, 2) := dk_54 8 (dk_at dksX5_beds_6 11 rfl rfl)
theorem dX5_beds_155 : decode cX5_beds 155 = .ok (.iinc 9 1, 3) := dk_132 9 1 (dk_at dksX5_beds_6 13 rfl rfl)
theorem dX5_beds_158 : decode cX5_beds 158 = .ok (.goto (-75), 3) := dk_167 255 181 (dk_at dksX5_beds_6 16 rfl rfl)
theorem dX5_beds_161 : decode cX5_beds 161 = .ok (.iload 8, 2) := dk_21 8 (dk_at dksX5_beds_6 19 rfl rfl)
theorem dX5_beds_163 : decode cX5_beds 163 = .ok (.ifCond .eq 27, 3) := dk_153 0 27 (dk_at dksX5_beds_6 21 rfl rfl)
theorem dX5_beds_166 : decode cX5_beds 166 = .ok (.iload 4, 2) := dk_21 4 (dk_at dksX5_beds_7 0 rfl rfl)
theorem dX5_beds_168 : decode cX5_beds 168 = .ok (.ifCond .lt 10, 3) := dk_155 0 10 (dk_at dksX5_beds_7 2 rfl rfl)
theorem dX5_beds_171 : decode cX5_beds 171 = .ok (.iload 7, 2) := dk_21 7 (dk_at dksX5_beds_7 5 rfl rfl)
theorem dX5_beds_173 : decode cX5_beds 173 = .ok (.iload 5, 2) := dk_21 5 (dk_at dksX5_beds_7 7 rfl rfl)
theorem dX5_beds_175 : decode cX5_beds 175 = .ok (.if_icmp .ge 15, 3) := dk_162 0 15 (dk_at dksX5_beds_7 9 rfl rfl)
theorem dX5_beds_178 : decode cX5_beds 178 = .ok (.aload_n 0, 1) := dk_42 (dk_at dksX5_beds_7 12 rfl rfl)
theorem dX5_beds_179 : decode cX5_beds 179 = .ok (.iload_n 1, 1) := dk_27 (dk_at dksX5_beds_7 13 rfl rfl)
theorem dX5_beds_180 : decode cX5_beds 180 = .ok (.invokevirtual 359, 3) := dk_182 1 103 (dk_at dksX5_beds_7 14 rfl rfl)
theorem dX5_beds_183 : decode cX5_beds 183 = .ok (.ifCond .eq 7, 3) := dk_153 0 7 (dk_at dksX5_beds_7 17 rfl rfl)
theorem dX5_beds_186 : decode cX5_beds 186 = .ok (.iconst 1, 1) := dk_4 (dk_at dksX5_beds_7 20 rfl rfl)
theorem dX5_beds_187 : decode cX5_beds 187 = .ok (.goto 4, 3) := dk_167 0 4 (dk_at dksX5_beds_7 21 rfl rfl)
theorem dX5_beds_190 : decode cX5_beds 190 = .ok (.iconst 0, 1) := dk_3 (dk_at dksX5_beds_8 0 rfl rfl)
theorem dX5_beds_191 : decode cX5_beds 191 = .ok (.istore 9, 2) := dk_54 9 (dk_at dksX5_beds_8 1 rfl rfl)
theorem dX5_beds_193 : decode cX5_beds 193 = .ok (.iload 9, 2) := dk_21 9 (dk_at dksX5_beds_8 3 rfl rfl)
theorem dX5_beds_195 : decode cX5_beds 195 = .ok (.ifCond .eq 8, 3) := dk_153 0 8 (dk_at dksX5_beds_8 5 rfl rfl)
theorem dX5_beds_198 : decode cX5_beds 198 = .ok (.iload 6, 2) := dk_21 6 (dk_at dksX5_beds_8 8 rfl rfl)
theorem dX5_beds_200 : decode cX5_beds 200 = .ok (.goto 5, 3) := dk_167 0 5 (dk_at dksX5_beds_8 10 rfl rfl)
theorem dX5_beds_203 : decode cX5_beds 203 = .ok (.iload 4, 2) := dk_21 4 (dk_at dksX5_beds_8 13 rfl rfl)
theorem dX5_beds_205 : decode cX5_beds 205 = .ok (.istore 4, 2) := dk_54 4 (dk_at dksX5_beds_8 15 rfl rfl)
theorem dX5_beds_207 : decode cX5_beds 207 = .ok (.iload 9, 2) := dk_21 9 (dk_at dksX5_beds_8 17 rfl rfl)
theorem dX5_beds_209 : decode cX5_beds 209 = .ok (.ifCond .eq 8, 3) := dk_153 0 8 (dk_at dksX5_beds_8 19 rfl rfl)
theorem dX5_beds_212 : decode cX5_beds 212 = .ok (.iload 7, 2) := dk_21 7 (dk_at dksX5_beds_8 22 rfl rfl)
theorem dX5_beds_214 : decode cX5_beds 214 = .ok (.goto 5, 3) := dk_167 0 5 (dk_at dksX5_beds_9 0 rfl rfl)
theorem dX5_beds_217 : decode cX5_beds 217 = .ok (.iload 5, 2) := dk_21 5 (dk_at dksX5_beds_9 3 rfl rfl)
theorem dX5_beds_219 : decode cX5_beds 219 = .ok (.istore 5, 2) := dk_54 5 (dk_at dksX5_beds_9 5 rfl rfl)
theorem dX5_beds_221 : decode cX5_beds 221 = .ok (.iinc 6 1, 3) := dk_132 6 1 (dk_at dksX5_beds_9 7 rfl rfl)
theorem dX5_beds_224 : decode cX5_beds 224 = .ok (.goto (-160), 3) := dk_167 255 96 (dk_at dksX5_beds_9 10 rfl rfl)
theorem dX5_beds_227 : decode cX5_beds 227 = .ok (.iload 4, 2) := dk_21 4 (dk_at dksX5_beds_9 13 rfl rfl)
theorem dX5_beds_229 : decode cX5_beds 229 = .ok (.ifCond .ge 8, 3) := dk_156 0 8 (dk_at dksX5_beds_9 15 rfl rfl)
theorem dX5_beds_232 : decode cX5_beds 232 = .ok (.bipush (-2), 2) := dk_16 254 (dk_at dksX5_beds_9 18 rfl rfl)
theorem dX5_beds_234 : decode cX5_beds 234 = .ok (.goto 20, 3) := dk_167 0 20 (dk_at dksX5_beds_9 20 rfl rfl)
theorem dX5_beds_237 : decode cX5_beds 237 = .ok (.iload_n 2, 1) := dk_28 (dk_at dksX5_beds_9 23 rfl rfl)
theorem dX5_beds_238 : decode cX5_beds 238 = .ok (.iconst (-1), 1) := dk_2 (dk_at dksX5_beds_10 0 rfl rfl)
theorem dX5_beds_239 : decode cX5_beds 239 = .ok (.if_icmp .ne 8, 3) := dk_160 0 8 (dk_at dksX5_beds_10 1 rfl rfl)
theorem dX5_beds_242 : decode cX5_beds 242 = .ok (.iload 5, 2) := dk_21 5 (dk_at dksX5_beds_10 4 rfl rfl)
theorem dX5_beds_244 : decode cX5_beds 244 = .ok (.goto 10, 3) := dk_167 0 10 (dk_at dksX5_beds_10 6 rfl rfl)
theorem dX5_beds_247 : decode cX5_beds 247 = .ok (.aload_n 0, 1) := dk_42 (dk_at dksX5_beds_10 9 rfl rfl)
theorem dX5_beds_248 : decode cX5_beds 248 = .ok (.iload 4, 2) := dk_21 4 (dk_at dksX5_beds_10 10 rfl rfl)
theorem dX5_beds_250 : decode cX5_beds 250 = .ok (.iload_n 2, 1) := dk_28 (dk_at dksX5_beds_10 12 rfl rfl)
theorem dX5_beds_251 : decode cX5_beds 251 = .ok (.invokevirtual 356, 3) := dk_182 1 100 (dk_at dksX5_beds_10 13 rfl rfl)
theorem dX5_beds_254 : decode cX5_beds 254 = .ok (.ireturn, 1) := dk_172 (dk_at dksX5_beds_10 16 rfl rfl)
abbrev cX5_builtIn : ByteArray := prog_23_method_81_code
def yX5_builtIn : MethodName := ⟨RX5, "builtIn", "(II)I"⟩
def dkwX5_builtIn_1 : List UInt8 := [167, 255, 243, 29, 6, 112, 172]
abbrev dktX5_builtIn_1 : List UInt8 := dkwX5_builtIn_1 ++ []
def dkwX5_builtIn_0 : List UInt8 := [27, 62, 42, 182, 1, 14, 4, 100, 54, 4, 21, 4, 28, 164, 0, 13, 29, 6, 108, 62, 132, 4, 255]
abbrev dktX5_builtIn_0 : List UInt8 := dkwX5_builtIn_0 ++ dktX5_builtIn_1
theorem dksX5_builtIn_0 : cX5_builtIn.data.toList.drop 0 = dktX5_builtIn_0 := by decide +kernel
theorem dksX5_builtIn_1 : cX5_builtIn.data.toList.drop 23 = dktX5_builtIn_1 := dk_seg dksX5_builtIn_0 23 rfl rfl
theorem dX5_builtIn_0 : decode cX5_builtIn 0 = .ok (.iload_n 1, 1) := dk_27 (dk_at dksX5_builtIn_0 0 rfl rfl)
theorem dX5_builtIn_1 : decode cX5_builtIn 1 = .ok (.istore_n 3, 1) := dk_62 (dk_at dksX5_builtIn_0 1 rfl rfl)
theorem dX5_builtIn_2 : decode cX5_builtIn 2 = .ok (.aload_n 0, 1) := dk_42 (dk_at dksX5_builtIn_0 2 rfl rfl)
theorem dX5_builtIn_3 : decode cX5_builtIn 3 = .ok (.invokevirtual 270, 3) := dk_182 1 14 (dk_at dksX5_builtIn_0 3 rfl rfl)
theorem dX5_builtIn_6 : decode cX5_builtIn 6 = .ok (.iconst 1, 1) := dk_4 (dk_at dksX5_builtIn_0 6 rfl rfl)
theorem dX5_builtIn_7 : decode cX5_builtIn 7 = .ok (.isub, 1) := dk_100 (dk_at dksX5_builtIn_0 7 rfl rfl)
theorem dX5_builtIn_8 : decode cX5_builtIn 8 = .ok (.istore 4, 2) := dk_54 4 (dk_at dksX5_builtIn_0 8 rfl rfl)
theorem dX5_builtIn_10 : decode cX5_builtIn 10 = .ok (.iload 4, 2) := dk_21 4 (dk_at dksX5_builtIn_0 10 rfl rfl)
theorem dX5_builtIn_12 : decode cX5_builtIn 12 = .ok (.iload_n 2, 1) := dk_28 (dk_at dksX5_builtIn_0 12 rfl rfl)
theorem dX5_builtIn_13 : decode cX5_builtIn 13 = .ok (.if_icmp .le 13, 3) := dk_164 0 13 (dk_at dksX5_builtIn_0 13 rfl rfl)
theorem dX5_builtIn_16 : decode cX5_builtIn 16 = .ok (.iload_n 3, 1) := dk_29 (dk_at dksX5_builtIn_0 16 rfl rfl)
theorem dX5_builtIn_17 : decode cX5_builtIn 17 = .ok (.iconst 3, 1) := dk_6 (dk_at dksX5_builtIn_0 17 rfl rfl)
theorem dX5_builtIn_18 : decode cX5_builtIn 18 = .ok (.idiv, 1) := dk_108 (dk_at dksX5_builtIn_0 18 rfl rfl)
theorem dX5_builtIn_19 : decode cX5_builtIn 19 = .ok (.istore_n 3, 1) := dk_62 (dk_at dksX5_builtIn_0 19 rfl rfl)
theorem dX5_builtIn_20 : decode cX5_builtIn 20 = .ok (.iinc 4 (-1), 3) := dk_132 4 255 (dk_at dksX5_builtIn_0 20 rfl rfl)
theorem dX5_builtIn_23 : decode cX5_builtIn 23 = .ok (.goto (-13), 3) := dk_167 255 243 (dk_at dksX5_builtIn_1 0 rfl rfl)
theorem dX5_builtIn_26 : decode cX5_builtIn 26 = .ok (.iload_n 3, 1) := dk_29 (dk_at dksX5_builtIn_1 3 rfl rfl)
theorem dX5_builtIn_27 : decode cX5_builtIn 27 = .ok (.iconst 3, 1) := dk_6 (dk_at dksX5_builtIn_1 4 rfl rfl)
theorem dX5_builtIn_28 : decode cX5_builtIn 28 = .ok (.irem, 1) := dk_112 (dk_at dksX5_builtIn_1 5 rfl rfl)
theorem dX5_builtIn_29 : decode cX5_builtIn 29 = .ok (.ireturn, 1) := dk_172 (dk_at dksX5_builtIn_1 6 rfl rfl)
abbrev cX5_isCalm : ByteArray := prog_23_method_80_code
def yX5_isCalm : MethodName := ⟨RX5, "isCalm", "(I)Z"⟩
def dkwX5_isCalm_1 : List UInt8 := [132, 3, 1, 167, 255, 241, 42, 180, 0, 117, 17, 3, 220, 46, 28, 160, 0, 7, 4, 167, 0, 4, 3, 172]
abbrev dktX5_isCalm_1 : List UInt8 := dkwX5_isCalm_1 ++ []
def dkwX5_isCalm_0 : List UInt8 := [42, 180, 0, 117, 17, 3, 220, 46, 61, 3, 62, 29, 27, 162, 0, 16, 42, 17, 3, 219, 182, 1, 88]
abbrev dktX5_isCalm_0 : List UInt8 := dkwX5_isCalm_0 ++ dktX5_isCalm_1
theorem dksX5_isCalm_0 : cX5_isCalm.data.toList.drop 0 = dktX5_isCalm_0 := by decide +kernel
theorem dksX5_isCalm_1 : cX5_isCalm.data.toList.drop 23 = dktX5_isCalm_1 := dk_seg dksX5_isCalm_0 23 rfl rfl
theorem dX5_isCalm_0 : decode cX5_isCalm 0 = .ok (.aload_n 0, 1) := dk_42 (dk_at dksX5_isCalm_0 0 rfl rfl)
theorem dX5_isCalm_1 : decode cX5_isCalm 1 = .ok (.getfield 117, 3) := dk_180 0 117 (dk_at dksX5_isCalm_0 1 rfl rfl)
theorem dX5_isCalm_4 : decode cX5_isCalm 4 = .ok (.sipush 988, 3) := dk_17 3 220 (dk_at dksX5_isCalm_0 4 rfl rfl)
theorem dX5_isCalm_7 : decode cX5_isCalm 7 = .ok (.iaload, 1) := dk_46 (dk_at dksX5_isCalm_0 7 rfl rfl)
theorem dX5_isCalm_8 : decode cX5_isCalm 8 = .ok (.istore_n 2, 1) := dk_61 (dk_at dksX5_isCalm_0 8 rfl rfl)
theorem dX5_isCalm_9 : decode cX5_isCalm 9 = .ok (.iconst 0, 1) := dk_3 (dk_at dksX5_isCalm_0 9 rfl rfl)
theorem dX5_isCalm_10 : decode cX5_isCalm 10 = .ok (.istore_n 3, 1) := dk_62 (dk_at dksX5_isCalm_0 10 rfl rfl)
theorem dX5_isCalm_11 : decode cX5_isCalm 11 = .ok (.iload_n 3, 1) := dk_29 (dk_at dksX5_isCalm_0 11 rfl rfl)
theorem dX5_isCalm_12 : decode cX5_isCalm 12 = .ok (.iload_n 1, 1) := dk_27 (dk_at dksX5_isCalm_0 12 rfl rfl)
theorem dX5_isCalm_13 : decode cX5_isCalm 13 = .ok (.if_icmp .ge 16, 3) := dk_162 0 16 (dk_at dksX5_isCalm_0 13 rfl rfl)
theorem dX5_isCalm_16 : decode cX5_isCalm 16 = .ok (.aload_n 0, 1) := dk_42 (dk_at dksX5_isCalm_0 16 rfl rfl)
theorem dX5_isCalm_17 : decode cX5_isCalm 17 = .ok (.sipush 987, 3) := dk_17 3 219 (dk_at dksX5_isCalm_0 17 rfl rfl)
theorem dX5_isCalm_20 : decode cX5_isCalm 20 = .ok (.invokevirtual 344, 3) := dk_182 1 88 (dk_at dksX5_isCalm_0 20 rfl rfl)
theorem dX5_isCalm_23 : decode cX5_isCalm 23 = .ok (.iinc 3 1, 3) := dk_132 3 1 (dk_at dksX5_isCalm_1 0 rfl rfl)
theorem dX5_isCalm_26 : decode cX5_isCalm 26 = .ok (.goto (-15), 3) := dk_167 255 241 (dk_at dksX5_isCalm_1 3 rfl rfl)
theorem dX5_isCalm_29 : decode cX5_isCalm 29 = .ok (.aload_n 0, 1) := dk_42 (dk_at dksX5_isCalm_1 6 rfl rfl)
theorem dX5_isCalm_30 : decode cX5_isCalm 30 = .ok (.getfield 117, 3) := dk_180 0 117 (dk_at dksX5_isCalm_1 7 rfl rfl)
theorem dX5_isCalm_33 : decode cX5_isCalm 33 = .ok (.sipush 988, 3) := dk_17 3 220 (dk_at dksX5_isCalm_1 10 rfl rfl)
theorem dX5_isCalm_36 : decode cX5_isCalm 36 = .ok (.iaload, 1) := dk_46 (dk_at dksX5_isCalm_1 13 rfl rfl)
theorem dX5_isCalm_37 : decode cX5_isCalm 37 = .ok (.iload_n 2, 1) := dk_28 (dk_at dksX5_isCalm_1 14 rfl rfl)
theorem dX5_isCalm_38 : decode cX5_isCalm 38 = .ok (.if_icmp .ne 7, 3) := dk_160 0 7 (dk_at dksX5_isCalm_1 15 rfl rfl)
theorem dX5_isCalm_41 : decode cX5_isCalm 41 = .ok (.iconst 1, 1) := dk_4 (dk_at dksX5_isCalm_1 18 rfl rfl)
theorem dX5_isCalm_42 : decode cX5_isCalm 42 = .ok (.goto 4, 3) := dk_167 0 4 (dk_at dksX5_isCalm_1 19 rfl rfl)
theorem dX5_isCalm_45 : decode cX5_isCalm 45 = .ok (.iconst 0, 1) := dk_3 (dk_at dksX5_isCalm_1 22 rfl rfl)
theorem dX5_isCalm_46 : decode cX5_isCalm 46 = .ok (.ireturn, 1) := dk_172 (dk_at dksX5_isCalm_1 23 rfl rfl)
abbrev cX5_laying : ByteArray := prog_23_method_84_code
def yX5_laying : MethodName := ⟨RX5, "laying", "()I"⟩
def dkwX5_laying_1 : List UInt8 := [27, 96, 2, 79, 132, 1, 1, 167, 255, 236, 42, 3, 182, 1, 106, 172]
abbrev dktX5_laying_1 : List UInt8 := dkwX5_laying_1 ++ []
def dkwX5_laying_0 : List UInt8 := [42, 3, 181, 0, 1, 42, 182, 1, 94, 3, 60, 27, 16, 6, 162, 0, 20, 42, 180, 0, 117, 17, 3, 225]
abbrev dktX5_laying_0 : List UInt8 := dkwX5_laying_0 ++ dktX5_laying_1
theorem dksX5_laying_0 : cX5_laying.data.toList.drop 0 = dktX5_laying_0 := by decide +kernel
theorem dksX5_laying_1 : cX5_laying.data.toList.drop 24 = dktX5_laying_1 := dk_seg dksX5_laying_0 24 rfl rfl
theorem dX5_laying_0 : decode cX5_laying 0 = .ok (.aload_n 0, 1) := dk_42 (dk_at dksX5_laying_0 0 rfl rfl)
theorem dX5_laying_1 : decode cX5_laying 1 = .ok (.iconst 0, 1) := dk_3 (dk_at dksX5_laying_0 1 rfl rfl)
theorem dX5_laying_2 : decode cX5_laying 2 = .ok (.putfield 1, 3) := dk_181 0 1 (dk_at dksX5_laying_0 2 rfl rfl)
theorem dX5_laying_5 : decode cX5_laying 5 = .ok (.aload_n 0, 1) := dk_42 (dk_at dksX5_laying_0 5 rfl rfl)
theorem dX5_laying_6 : decode cX5_laying 6 = .ok (.invokevirtual 350, 3) := dk_182 1 94 (dk_at dksX5_laying_0 6 rfl rfl)
theorem dX5_laying_9 : decode cX5_laying 9 = .ok (.iconst 0, 1) := dk_3 (dk_at dksX5_laying_0 9 rfl rfl)
theorem dX5_laying_10 : decode cX5_laying 10 = .ok (.istore_n 1, 1) := dk_60 (dk_at dksX5_laying_0 10 rfl rfl)
theorem dX5_laying_11 : decode cX5_laying 11 = .ok (.iload_n 1, 1) := dk_27 (dk_at dksX5_laying_0 11 rfl rfl)
theorem dX5_laying_12 : decode cX5_laying 12 = .ok (.bipush 6, 2) := dk_16 6 (dk_at dksX5_laying_0 12 rfl rfl)
theorem dX5_laying_14 : decode cX5_laying 14 = .ok (.if_icmp .ge 20, 3) := dk_162 0 20 (dk_at dksX5_laying_0 14 rfl rfl)
theorem dX5_laying_17 : decode cX5_laying 17 = .ok (.aload_n 0, 1) := dk_42 (dk_at dksX5_laying_0 17 rfl rfl)
theorem dX5_laying_18 : decode cX5_laying 18 = .ok (.getfield 117, 3) := dk_180 0 117 (dk_at dksX5_laying_0 18 rfl rfl)
theorem dX5_laying_21 : decode cX5_laying 21 = .ok (.sipush 993, 3) := dk_17 3 225 (dk_at dksX5_laying_0 21 rfl rfl)
theorem dX5_laying_24 : decode cX5_laying 24 = .ok (.iload_n 1, 1) := dk_27 (dk_at dksX5_laying_1 0 rfl rfl)
theorem dX5_laying_25 : decode cX5_laying 25 = .ok (.iadd, 1) := dk_96 (dk_at dksX5_laying_1 1 rfl rfl)
theorem dX5_laying_26 : decode cX5_laying 26 = .ok (.iconst (-1), 1) := dk_2 (dk_at dksX5_laying_1 2 rfl rfl)
theorem dX5_laying_27 : decode cX5_laying 27 = .ok (.iastore, 1) := dk_79 (dk_at dksX5_laying_1 3 rfl rfl)
theorem dX5_laying_28 : decode cX5_laying 28 = .ok (.iinc 1 1, 3) := dk_132 1 1 (dk_at dksX5_laying_1 4 rfl rfl)
theorem dX5_laying_31 : decode cX5_laying 31 = .ok (.goto (-20), 3) := dk_167 255 236 (dk_at dksX5_laying_1 7 rfl rfl)
theorem dX5_laying_34 : decode cX5_laying 34 = .ok (.aload_n 0, 1) := dk_42 (dk_at dksX5_laying_1 10 rfl rfl)
theorem dX5_laying_35 : decode cX5_laying 35 = .ok (.iconst 0, 1) := dk_3 (dk_at dksX5_laying_1 11 rfl rfl)
theorem dX5_laying_36 : decode cX5_laying 36 = .ok (.invokevirtual 362, 3) := dk_182 1 106 (dk_at dksX5_laying_1 12 rfl rfl)
theorem dX5_laying_39 : decode cX5_laying 39 = .ok (.ireturn, 1) := dk_172 (dk_at dksX5_laying_1 15 rfl rfl)
abbrev cX5_laysFrom : ByteArray := prog_23_method_83_code
def yX5_laysFrom : MethodName := ⟨RX5, "laysFrom", "(I)I"⟩
def dkwX5_laysFrom_3 : List UInt8 := [182, 1, 106, 96, 61, 42, 180, 0, 117, 17, 3, 225, 27, 96, 2, 79, 132, 3, 1, 167, 255, 201, 28, 172]
abbrev dktX5_laysFrom_3 : List UInt8 := dkwX5_laysFrom_3 ++ []
def dkwX5_laysFrom_2 : List UInt8 := [182, 1, 48, 153, 0, 35, 42, 180, 0, 117, 17, 3, 225, 27, 96, 29, 79, 28, 42, 27, 4, 96]
abbrev dktX5_laysFrom_2 : List UInt8 := dkwX5_laysFrom_2 ++ dktX5_laysFrom_3
def dkwX5_laysFrom_1 : List UInt8 := [4, 96, 182, 1, 106, 172, 3, 61, 3, 62, 29, 42, 182, 1, 14, 162, 0, 53, 42, 17, 3, 219, 29, 27]
abbrev dktX5_laysFrom_1 : List UInt8 := dkwX5_laysFrom_1 ++ dktX5_laysFrom_2
def dkwX5_laysFrom_0 : List UInt8 := [27, 42, 182, 1, 21, 160, 0, 5, 4, 172, 42, 180, 0, 117, 16, 6, 27, 96, 46, 156, 0, 11, 42, 27]
abbrev dktX5_laysFrom_0 : List UInt8 := dkwX5_laysFrom_0 ++ dktX5_laysFrom_1
theorem dksX5_laysFrom_0 : cX5_laysFrom.data.toList.drop 0 = dktX5_laysFrom_0 := by decide +kernel
theorem dksX5_laysFrom_1 : cX5_laysFrom.data.toList.drop 24 = dktX5_laysFrom_1 := dk_seg dksX5_laysFrom_0 24 rfl rfl
theorem dksX5_laysFrom_2 : cX5_laysFrom.data.toList.drop 48 = dktX5_laysFrom_2 := dk_seg dksX5_laysFrom_1 24 rfl rfl
theorem dksX5_laysFrom_3 : cX5_laysFrom.data.toList.drop 70 = dktX5_laysFrom_3 := dk_seg dksX5_laysFrom_2 22 rfl rfl
theorem dX5_laysFrom_0 : decode cX5_laysFrom 0 = .ok (.iload_n 1, 1) := dk_27 (dk_at dksX5_laysFrom_0 0 rfl rfl)
theorem dX5_laysFrom_1 : decode cX5_laysFrom 1 = .ok (.aload_n 0, 1) := dk_42 (dk_at dksX5_laysFrom_0 1 rfl rfl)
theorem dX5_laysFrom_2 : decode cX5_laysFrom 2 = .ok (.invokevirtual 277, 3) := dk_182 1 21 (dk_at dksX5_laysFrom_0 2 rfl rfl)
theorem dX5_laysFrom_5 : decode cX5_laysFrom 5 = .ok (.if_icmp .ne 5, 3) := dk_160 0 5 (dk_at dksX5_laysFrom_0 5 rfl rfl)
theorem dX5_laysFrom_8 : decode cX5_laysFrom 8 = .ok (.iconst 1, 1) := dk_4 (dk_at dksX5_laysFrom_0 8 rfl rfl)
theorem dX5_laysFrom_9 : decode cX5_laysFrom 9 = .ok (.ireturn, 1) := dk_172 (dk_at dksX5_laysFrom_0 9 rfl rfl)
theorem dX5_laysFrom_10 : decode cX5_laysFrom 10 = .ok (.aload_n 0, 1) := dk_42 (dk_at dksX5_laysFrom_0 10 rfl rfl)
theorem dX5_laysFrom_11 : decode cX5_laysFrom 11 = .ok (.getfield 117, 3) := dk_180 0 117 (dk_at dksX5_laysFrom_0 11 rfl rfl)
theorem dX5_laysFrom_14 : decode cX5_laysFrom 14 = .ok (.bipush 6, 2) := dk_16 6 (dk_at dksX5_laysFrom_0 14 rfl rfl)
theorem dX5_laysFrom_16 : decode cX5_laysFrom 16 = .ok (.iload_n 1, 1) := dk_27 (dk_at dksX5_laysFrom_0 16 rfl rfl)
theorem dX5_laysFrom_17 : decode cX5_laysFrom 17 = .ok (.iadd, 1) := dk_96 (dk_at dksX5_laysFrom_0 17 rfl rfl)
theorem dX5_laysFrom_18 : decode cX5_laysFrom 18 = .ok (.iaload, 1) := dk_46 (dk_at dksX5_laysFrom_0 18 rfl rfl)
theorem dX5_laysFrom_19 : decode cX5_laysFrom 19 = .ok (.ifCond .ge 11, 3) := dk_156 0 11 (dk_at dksX5_laysFrom_0 19 rfl rfl)
theorem dX5_laysFrom_22 : decode cX5_laysFrom 22 = .ok (.aload_n 0, 1) := dk_42 (dk_at dksX5_laysFrom_0 22 rfl rfl)
theorem dX5_laysFrom_23 : decode cX5_laysFrom 23 = .ok (.iload_n 1, 1) := dk_27 (dk_at dksX5_laysFrom_0 23 rfl rfl)
theorem dX5_laysFrom_24 : decode cX5_laysFrom 24 = .ok (.iconst 1, 1) := dk_4 (dk_at dksX5_laysFrom_1 0 rfl rfl)
theorem dX5_laysFrom_25 : decode cX5_laysFrom 25 = .ok (.iadd, 1) := dk_96 (dk_at dksX5_laysFrom_1 1 rfl rfl)
theorem dX5_laysFrom_26 : decode cX5_laysFrom 26 = .ok (.invokevirtual 362, 3) := dk_182 1 106 (dk_at dksX5_laysFrom_1 2 rfl rfl)
theorem dX5_laysFrom_29 : decode cX5_laysFrom 29 = .ok (.ireturn, 1) := dk_172 (dk_at dksX5_laysFrom_1 5 rfl rfl)
theorem dX5_laysFrom_30 : decode cX5_laysFrom 30 = .ok (.iconst 0, 1) := dk_3 (dk_at dksX5_laysFrom_1 6 rfl rfl)
theorem dX5_laysFrom_31 : decode cX5_laysFrom 31 = .ok (.istore_n 2, 1) := dk_61 (dk_at dksX5_laysFrom_1 7 rfl rfl)
theorem dX5_laysFrom_32 : decode cX5_laysFrom 32 = .ok (.iconst 0, 1) := dk_3 (dk_at dksX5_laysFrom_1 8 rfl rfl)
theorem dX5_laysFrom_33 : decode cX5_laysFrom 33 = .ok (.istore_n 3, 1) := dk_62 (dk_at dksX5_laysFrom_1 9 rfl rfl)
theorem dX5_laysFrom_34 : decode cX5_laysFrom 34 = .ok (.iload_n 3, 1) := dk_29 (dk_at dksX5_laysFrom_1 10 rfl rfl)
theorem dX5_laysFrom_35 : decode cX5_laysFrom 35 = .ok (.aload_n 0, 1) := dk_42 (dk_at dksX5_laysFrom_1 11 rfl rfl)
theorem dX5_laysFrom_36 : decode cX5_laysFrom 36 = .ok (.invokevirtual 270, 3) := dk_182 1 14 (dk_at dksX5_laysFrom_1 12 rfl rfl)
theorem dX5_laysFrom_39 : decode cX5_laysFrom 39 = .ok (.if_icmp .ge 53, 3) := dk_162 0 53 (dk_at dksX5_laysFrom_1 15 rfl rfl)
theorem dX5_laysFrom_42 : decode cX5_laysFrom 42 = .ok (.aload_n 0, 1) := dk_42 (dk_at dksX5_laysFrom_1 18 rfl rfl)
theorem dX5_laysFrom_43 : decode cX5_laysFrom 43 = .ok (.sipush 987, 3) := dk_17 3 219 (dk_at dksX5_laysFrom_1 19 rfl rfl)
theorem dX5_laysFrom_46 : decode cX5_laysFrom 46 = .ok (.iload_n 3, 1) := dk_29 (dk_at dksX5_laysFrom_1 22 rfl rfl)
theorem dX5_laysFrom_47 : decode cX5_laysFrom 47 = .ok (.iload_n 1, 1) := dk_27 (dk_at dksX5_laysFrom_1 23 rfl rfl)
theorem dX5_laysFrom_48 : decode cX5_laysFrom 48 = .ok (.invokevirtual 304, 3) := dk_182 1 48 (dk_at dksX5_laysFrom_2 0 rfl rfl)
theorem dX5_laysFrom_51 : decode cX5_laysFrom 51 = .ok (.ifCond .eq 35, 3) := dk_153 0 35 (dk_at dksX5_laysFrom_2 3 rfl rfl)
theorem dX5_laysFrom_54 : decode cX5_laysFrom 54 = .ok (.aload_n 0, 1) := dk_42 (dk_at dksX5_laysFrom_2 6 rfl rfl)
theorem dX5_laysFrom_55 : decode cX5_laysFrom 55 = .ok (.getfield 117, 3) := dk_180 0 117 (dk_at dksX5_laysFrom_2 7 rfl rfl)
theorem dX5_laysFrom_58 : decode cX5_laysFrom 58 = .ok (.sipush 993, 3) := dk_17 3 225 (dk_at dksX5_laysFrom_2 10 rfl rfl)
theorem dX5_laysFrom_61 : decode cX5_laysFrom 61 = .ok (.iload_n 1, 1) := dk_27 (dk_at dksX5_laysFrom_2 13 rfl rfl)
theorem dX5_laysFrom_62 : decode cX5_laysFrom 62 = .ok (.iadd, 1) := dk_96 (dk_at dksX5_laysFrom_2 14 rfl rfl)
theorem dX5_laysFrom_63 : decode cX5_laysFrom 63 = .ok (.iload_n 3, 1) := dk_29 (dk_at dksX5_laysFrom_2 15 rfl rfl)
theorem dX5_laysFrom_64 : decode cX5_laysFrom 64 = .ok (.iastore, 1) := dk_79 (dk_at dksX5_laysFrom_2 16 rfl rfl)
theorem dX5_laysFrom_65 : decode cX5_laysFrom 65 = .ok (.iload_n 2, 1) := dk_28 (dk_at dksX5_laysFrom_2 17 rfl rfl)
theorem dX5_laysFrom_66 : decode cX5_laysFrom 66 = .ok (.aload_n 0, 1) := dk_42 (dk_at dksX5_laysFrom_2 18 rfl rfl)
theorem dX5_laysFrom_67 : decode cX5_laysFrom 67 = .ok (.iload_n 1, 1) := dk_27 (dk_at dksX5_laysFrom_2 19 rfl rfl)
theorem dX5_laysFrom_68 : decode cX5_laysFrom 68 = .ok (.iconst 1, 1) := dk_4 (dk_at dksX5_laysFrom_2 20 rfl rfl)
theorem dX5_laysFrom_69 : decode cX5_laysFrom 69 = .ok (.iadd, 1) := dk_96 (dk_at dksX5_laysFrom_2 21 rfl rfl)
theorem dX5_laysFrom_70 : decode cX5_laysFrom 70 = .ok (.invokevirtual 362, 3) := dk_182 1 106 (dk_at dksX5_laysFrom_3 0 rfl rfl)
theorem dX5_laysFrom_73 : decode cX5_laysFrom 73 = .ok (.iadd, 1) := dk_96 (dk_at dksX5_laysFrom_3 3 rfl rfl)
theorem dX5_laysFrom_74 : decode cX5_laysFrom 74 = .ok (.istore_n 2, 1) := dk_61 (dk_at dksX5_laysFrom_3 4 rfl rfl)
theorem dX5_laysFrom_75 : decode cX5_laysFrom 75 = .ok (.aload_n 0, 1) := dk_42 (dk_at dksX5_laysFrom_3 5 rfl rfl)
theorem dX5_laysFrom_76 : decode cX5_laysFrom 76 = .ok (.getfield 117, 3) := dk_180 0 117 (dk_at dksX5_laysFrom_3 6 rfl rfl)
theorem dX5_laysFrom_79 : decode cX5_laysFrom 79 = .ok (.sipush 993, 3) := dk_17 3 225 (dk_at dksX5_laysFrom_3 9 rfl rfl)
theorem dX5_laysFrom_82 : decode cX5_laysFrom 82 = .ok (.iload_n 1, 1) := dk_27 (dk_at dksX5_laysFrom_3 12 rfl rfl)
theorem dX5_laysFrom_83 : decode cX5_laysFrom 83 = .ok (.iadd, 1) := dk_96 (dk_at dksX5_laysFrom_3 13 rfl rfl)
theorem dX5_laysFrom_84 : decode cX5_laysFrom 84 = .ok (.iconst (-1), 1) := dk_2 (dk_at dksX5_laysFrom_3 14 rfl rfl)
theorem dX5_laysFrom_85 : decode cX5_laysFrom 85 = .ok (.iastore, 1) := dk_79 (dk_at dksX5_laysFrom_3 15 rfl rfl)
theorem dX5_laysFrom_86 : decode cX5_laysFrom 86 = .ok (.iinc 3 1, 3) := dk_132 3 1 (dk_at dksX5_laysFrom_3 16 rfl rfl)
theorem dX5_laysFrom_89 : decode cX5_laysFrom 89 = .ok (.goto (-55), 3) := dk_167 255 201 (dk_at dksX5_laysFrom_3 19 rfl rfl)
theorem dX5_laysFrom_92 : decode cX5_laysFrom 92 = .ok (.iload_n 2, 1) := dk_28 (dk_at dksX5_laysFrom_3 22 rfl rfl)
theorem dX5_laysFrom_93 : decode cX5_laysFrom 93 = .ok (.ireturn, 1) := dk_172 (dk_at dksX5_laysFrom_3 23 rfl rfl)
abbrev cX5_apart : ByteArray := prog_23_method_86_code
def yX5_apart : MethodName := ⟨RX5, "apart", "()I"⟩
def dkwX5_apart_0 : List UInt8 := [42, 3, 181, 0, 1, 3, 60, 42, 3, 27, 182, 1, 109, 154, 0, 9, 132, 1, 1, 167, 255, 244, 27, 172]
abbrev dktX5_apart_0 : List UInt8 := dkwX5_apart_0 ++ []
theorem dksX5_apart_0 : cX5_apart.data.toList.drop 0 = dktX5_apart_0 := by decide +kernel
theorem dX5_apart_0 : decode cX5_apart 0 = .ok (.aload_n 0, 1) := dk_42 (dk_at dksX5_apart_0 0 rfl rfl)
theorem dX5_apart_1 : decode cX5_apart 1 = .ok (.iconst 0, 1) := dk_3 (dk_at dksX5_apart_0 1 rfl rfl)
theorem dX5_apart_2 : decode cX5_apart 2 = .ok (.putfield 1, 3) := dk_181 0 1 (dk_at dksX5_apart_0 2 rfl rfl)
theorem dX5_apart_5 : decode cX5_apart 5 = .ok (.iconst 0, 1) := dk_3 (dk_at dksX5_apart_0 5 rfl rfl)
theorem dX5_apart_6 : decode cX5_apart 6 = .ok (.istore_n 1, 1) := dk_60 (dk_at dksX5_apart_0 6 rfl rfl)
theorem dX5_apart_7 : decode cX5_apart 7 = .ok (.aload_n 0, 1) := dk_42 (dk_at dksX5_apart_0 7 rfl rfl)
theorem dX5_apart_8 : decode cX5_apart 8 = .ok (.iconst 0, 1) := dk_3 (dk_at dksX5_apart_0 8 rfl rfl)
theorem dX5_apart_9 : decode cX5_apart 9 = .ok (.iload_n 1, 1) := dk_27 (dk_at dksX5_apart_0 9 rfl rfl)
theorem dX5_apart_10 : decode cX5_apart 10 = .ok (.invokevirtual 365, 3) := dk_182 1 109 (dk_at dksX5_apart_0 10 rfl rfl)
theorem dX5_apart_13 : decode cX5_apart 13 = .ok (.ifCond .ne 9, 3) := dk_154 0 9 (dk_at dksX5_apart_0 13 rfl rfl)
theorem dX5_apart_16 : decode cX5_apart 16 = .ok (.iinc 1 1, 3) := dk_132 1 1 (dk_at dksX5_apart_0 16 rfl rfl)
theorem dX5_apart_19 : decode cX5_apart 19 = .ok (.goto (-12), 3) := dk_167 255 244 (dk_at dksX5_apart_0 19 rfl rfl)
theorem dX5_apart_22 : decode cX5_apart 22 = .ok (.iload_n 1, 1) := dk_27 (dk_at dksX5_apart_0 22 rfl rfl)
theorem dX5_apart_23 : decode cX5_apart 23 = .ok (.ireturn, 1) := dk_172 (dk_at dksX5_apart_0 23 rfl rfl)
abbrev cX5_isApart : ByteArray := prog_23_method_85_code
def yX5_isApart : MethodName := ⟨RX5, "isApart", "(II)Z"⟩
def dkwX5_isApart_5 : List UInt8 := [167, 255, 157, 29, 172]
abbrev dktX5_isApart_5 : List UInt8 := dkwX5_isApart_5 ++ []
def dkwX5_isApart_4 : List UInt8 := [153, 0, 18, 42, 27, 4, 96, 28, 182, 1, 109, 153, 0, 7, 4, 167, 0, 4, 3, 62, 132, 4, 1]
abbrev dktX5_isApart_4 : List UInt8 := dkwX5_isApart_4 ++ dktX5_isApart_5
def dkwX5_isApart_3 : List UInt8 := [167, 0, 4, 3, 54, 5, 132, 6, 1, 167, 255, 209, 42, 180, 0, 127, 27, 21, 4, 79, 21, 5]
abbrev dktX5_isApart_3 : List UInt8 := dkwX5_isApart_3 ++ dktX5_isApart_4
def dkwX5_isApart_2 : List UInt8 := [21, 6, 46, 21, 4, 160, 0, 17, 42, 27, 7, 182, 1, 24, 21, 6, 122, 4, 126, 154, 0, 7, 4]
abbrev dktX5_isApart_2 : List UInt8 := dkwX5_isApart_2 ++ dktX5_isApart_3
def dkwX5_isApart_1 : List UInt8 := [154, 0, 95, 4, 54, 5, 3, 54, 6, 21, 6, 27, 162, 0, 47, 21, 5, 153, 0, 33, 42, 180, 0, 127]
abbrev dktX5_isApart_1 : List UInt8 := dkwX5_isApart_1 ++ dktX5_isApart_2
def dkwX5_isApart_0 : List UInt8 := [27, 42, 182, 1, 21, 160, 0, 5, 4, 172, 3, 62, 3, 54, 4, 21, 4, 28, 162, 0, 99, 29]
abbrev dktX5_isApart_0 : List UInt8 := dkwX5_isApart_0 ++ dktX5_isApart_1
theorem dksX5_isApart_0 : cX5_isApart.data.toList.drop 0 = dktX5_isApart_0 := by decide +kernel
theorem dksX5_isApart_1 : cX5_isApart.data.toList.drop 22 = dktX5_isApart_1 := dk_seg dksX5_isApart_0 22 rfl rfl
theorem dksX5_isApart_2 : cX5_isApart.data.toList.drop 46 = dktX5_isApart_2 := dk_seg dksX5_isApart_1 24 rfl rfl
theorem dksX5_isApart_3 : cX5_isApart.data.toList.drop 69 = dktX5_isApart_3 := dk_seg dksX5_isApart_2 23 rfl rfl
theorem dksX5_isApart_4 : cX5_isApart.data.toList.drop 91 = dktX5_isApart_4 := dk_seg dksX5_isApart_3 22 rfl rfl
theorem dksX5_isApart_5 : cX5_isApart.data.toList.drop 114 = dktX5_isApart_5 := dk_seg dksX5_isApart_4 23 rfl rfl
theorem dX5_isApart_0 : decode cX5_isApart 0 = .ok (.iload_n 1, 1) := dk_27 (dk_at dksX5_isApart_0 0 rfl rfl)
theorem dX5_isApart_1 : decode cX5_isApart 1 = .ok (.aload_n 0, 1) := dk_42 (dk_at dksX5_isApart_0 1 rfl rfl)
theorem dX5_isApart_2 : decode cX5_isApart 2 = .ok (.invokevirtual 277, 3) := dk_182 1 21 (dk_at dksX5_isApart_0 2 rfl rfl)
theorem dX5_isApart_5 : decode cX5_isApart 5 = .ok (.if_icmp .ne 5, 3) := dk_160 0 5 (dk_at dksX5_isApart_0 5 rfl rfl)
theorem dX5_isApart_8 : decode cX5_isApart 8 = .ok (.iconst 1, 1) := dk_4 (dk_at dksX5_isApart_0 8 rfl rfl)
theorem dX5_isApart_9 : decode cX5_isApart 9 = .ok (.ireturn, 1) := dk_172 (dk_at dksX5_isApart_0 9 rfl rfl)
theorem dX5_isApart_10 : decode cX5_isApart 10 = .ok (.iconst 0, 1) := dk_3 (dk_at dksX5_isApart_0 10 rfl rfl)
theorem dX5_isApart_11 : decode cX5_isApart 11 = .ok (.istore_n 3, 1) := dk_62 (dk_at dksX5_isApart_0 11 rfl rfl)
theorem dX5_isApart_12 : decode cX5_isApart 12 = .ok (.iconst 0, 1) := dk_3 (dk_at dksX5_isApart_0 12 rfl rfl)
theorem dX5_isApart_13 : decode cX5_isApart 13 = .ok (.istore 4, 2) := dk_54 4 (dk_at dksX5_isApart_0 13 rfl rfl)
theorem dX5_isApart_15 : decode cX5_isApart 15 = .ok (.iload 4, 2) := dk_21 4 (dk_at dksX5_isApart_0 15 rfl rfl)
theorem dX5_isApart_17 : decode cX5_isApart 17 = .ok (.iload_n 2, 1) := dk_28 (dk_at dksX5_isApart_0 17 rfl rfl)
theorem dX5_isApart_18 : decode cX5_isApart 18 = .ok (.if_icmp .ge 99, 3) := dk_162 0 99 (dk_at dksX5_isApart_0 18 rfl rfl)
theorem dX5_isApart_21 : decode cX5_isApart 21 = .ok (.iload_n 3, 1) := dk_29 (dk_at dksX5_isApart_0 21 rfl rfl)
theorem dX5_isApart_22 : decode cX5_isApart 22 = .ok (.ifCond .ne 95, 3) := dk_154 0 95 (dk_at dksX5_isApart_1 0 rfl rfl)
theorem dX5_isApart_25 : decode cX5_isApart 25 = .ok (.iconst 1, 1) := dk_4 (dk_at dksX5_isApart_1 3 rfl rfl)
theorem dX5_isApart_26 : decode cX5_isApart 26 = .ok (.istore 5, 2) := dk_54 5 (dk_at dksX5_isApart_1 4 rfl rfl)
theorem dX5_isApart_28 : decode cX5_isApart 28 = .ok (.iconst 0, 1) := dk_3 (dk_at dksX5_isApart_1 6 rfl rfl)
theorem dX5_isApart_29 : decode cX5_isApart 29 = .ok (.istore 6, 2) := dk_54 6 (dk_at dksX5_isApart_1 7 rfl rfl)
theorem dX5_isApart_31 : decode cX5_isApart 31 = .ok (.iload 6, 2) := dk_21 6 (dk_at dksX5_isApart_1 9 rfl rfl)
theorem dX5_isApart_33 : decode cX5_isApart 33 = .ok (.iload_n 1, 1) := dk_27 (dk_at dksX5_isApart_1 11 rfl rfl)
theorem dX5_isApart_34 : decode cX5_isApart 34 = .ok (.if_icmp .ge 47, 3) := dk_162 0 47 (dk_at dksX5_isApart_1 12 rfl rfl)
theorem dX5_isApart_37 : decode cX5_isApart 37 = .ok (.iload 5, 2) := dk_21 5 (dk_at dksX5_isApart_1 15 rfl rfl)
theorem dX5_isApart_39 : decode cX5_isApart 39 = .ok (.ifCond .eq 33, 3) := dk_153 0 33 (dk_at dksX5_isApart_1 17 rfl rfl)
theorem dX5_isApart_42 : decode cX5_isApart 42 = .ok (.aload_n 0, 1) := dk_42 (dk_at dksX5_isApart_1 20 rfl rfl)
theorem dX5_isApart_43 : decode cX5_isApart 43 = .ok (.getfield 127, 3) := dk_180 0 127 (dk_at dksX5_isApart_1 21 rfl rfl)
theorem dX5_isApart_46 : decode cX5_isApart 46 = .ok (.iload 6, 2) := dk_21 6 (dk_at dksX5_isApart_2 0 rfl rfl)
theorem dX5_isApart_48 : decode cX5_isApart 48 = .ok (.iaload, 1) := dk_46 (dk_at dksX5_isApart_2 2 rfl rfl)
theorem dX5_isApart_49 : decode cX5_isApart 49 = .ok (.iload 4, 2) := dk_21 4 (dk_at dksX5_isApart_2 3 rfl rfl)
theorem dX5_isApart_51 : decode cX5_isApart 51 = .ok (.if_icmp .ne 17, 3) := dk_160 0 17 (dk_at dksX5_isApart_2 5 rfl rfl)
theorem dX5_isApart_54 : decode cX5_isApart 54 = .ok (.aload_n 0, 1) := dk_42 (dk_at dksX5_isApart_2 8 rfl rfl)
theorem dX5_isApart_55 : decode cX5_isApart 55 = .ok (.iload_n 1, 1) := dk_27 (dk_at dksX5_isApart_2 9 rfl rfl)
theorem dX5_isApart_56 : decode cX5_isApart 56 = .ok (.iconst 4, 1) := dk_7 (dk_at dksX5_isApart_2 10 rfl rfl)
theorem dX5_isApart_57 : decode cX5_isApart 57 = .ok (.invokevirtual 280, 3) := dk_182 1 24 (dk_at dksX5_isApart_2 11 rfl rfl)
theorem dX5_isApart_60 : decode cX5_isApart 60 = .ok (.iload 6, 2) := dk_21 6 (dk_at dksX5_isApart_2 14 rfl rfl)
theorem dX5_isApart_62 : decode cX5_isApart 62 = .ok (.ishr, 1) := dk_122 (dk_at dksX5_isApart_2 16 rfl rfl)
theorem dX5_isApart_63 : decode cX5_isApart 63 = .ok (.iconst 1, 1) := dk_4 (dk_at dksX5_isApart_2 17 rfl rfl)
theorem dX5_isApart_64 : decode cX5_isApart 64 = .ok (.iand, 1) := dk_126 (dk_at dksX5_isApart_2 18 rfl rfl)
theorem dX5_isApart_65 : decode cX5_isApart 65 = .ok (.ifCond .ne 7, 3) := dk_154 0 7 (dk_at dksX5_isApart_2 19 rfl rfl)
theorem dX5_isApart_68 : decode cX5_isApart 68 = .ok (.iconst 1, 1) := dk_4 (dk_at dksX5_isApart_2 22 rfl rfl)
theorem dX5_isApart_69 : decode cX5_isApart 69 = .ok (.goto 4, 3) := dk_167 0 4 (dk_at dksX5_isApart_3 0 rfl rfl)
theorem dX5_isApart_72 : decode cX5_isApart 72 = .ok (.iconst 0, 1) := dk_3 (dk_at dksX5_isApart_3 3 rfl rfl)
theorem dX5_isApart_73 : decode cX5_isApart 73 = .ok (.istore 5, 2) := dk_54 5 (dk_at dksX5_isApart_3 4 rfl rfl)
theorem dX5_isApart_75 : decode cX5_isApart 75 = .ok (.iinc 6 1, 3) := dk_132 6 1 (dk_at dksX5_isApart_3 6 rfl rfl)
theorem dX5_isApart_78 : decode cX5_isApart 78 = .ok (.goto (-47), 3) := dk_167 255 209 (dk_at dksX5_isApart_3 9 rfl rfl)
theorem dX5_isApart_81 : decode cX5_isApart 81 = .ok (.aload_n 0, 1) := dk_42 (dk_at dksX5_isApart_3 12 rfl rfl)
theorem dX5_isApart_82 : decode cX5_isApart 82 = .ok (.getfield 127, 3) := dk_180 0 127 (dk_at dksX5_isApart_3 13 rfl rfl)
theorem dX5_isApart_85 : decode cX5_isApart 85 = .ok (.iload_n 1, 1) := dk_27 (dk_at dksX5_isApart_3 16 rfl rfl)
theorem dX5_isApart_86 : decode cX5_isApart 86 = .ok (.iload 4, 2) := dk_21 4 (dk_at dksX5_isApart_3 17 rfl rfl)
theorem dX5_isApart_88 : decode cX5_isApart 88 = .ok (.iastore, 1) := dk_79 (dk_at dksX5_isApart_3 19 rfl rfl)
theorem dX5_isApart_89 : decode cX5_isApart 89 = .ok (.iload 5, 2) := dk_21 5 (dk_at dksX5_isApart_3 20 rfl rfl)
theorem dX5_isApart_91 : decode cX5_isApart 91 = .ok (.ifCond .eq 18, 3) := dk_153 0 18 (dk_at dksX5_isApart_4 0 rfl rfl)
theorem dX5_isApart_94 : decode cX5_isApart 94 = .ok (.aload_n 0, 1) := dk_42 (dk_at dksX5_isApart_4 3 rfl rfl)
theorem dX5_isApart_95 : decode cX5_isApart 95 = .ok (.iload_n 1, 1) := dk_27 (dk_at dksX5_isApart_4 4 rfl rfl)
theorem dX5_isApart_96 : decode cX5_isApart 96 = .ok (.iconst 1, 1) := dk_4 (dk_at dksX5_isApart_4 5 rfl rfl)
theorem dX5_isApart_97 : decode cX5_isApart 97 = .ok (.iadd, 1) := dk_96 (dk_at dksX5_isApart_4 6 rfl rfl)
theorem dX5_isApart_98 : decode cX5_isApart 98 = .ok (.iload_n 2, 1) := dk_28 (dk_at dksX5_isApart_4 7 rfl rfl)
theorem dX5_isApart_99 : decode cX5_isApart 99 = .ok (.invokevirtual 365, 3) := dk_182 1 109 (dk_at dksX5_isApart_4 8 rfl rfl)
theorem dX5_isApart_102 : decode cX5_isApart 102 = .ok (.ifCond .eq 7, 3) := dk_153 0 7 (dk_at dksX5_isApart_4 11 rfl rfl)
theorem dX5_isApart_105 : decode cX5_isApart 105 = .ok (.iconst 1, 1) := dk_4 (dk_at dksX5_isApart_4 14 rfl rfl)
theorem dX5_isApart_106 : decode cX5_isApart 106 = .ok (.goto 4, 3) := dk_167 0 4 (dk_at dksX5_isApart_4 15 rfl rfl)
theorem dX5_isApart_109 : decode cX5_isApart 109 = .ok (.iconst 0, 1) := dk_3 (dk_at dksX5_isApart_4 18 rfl rfl)
theorem dX5_isApart_110 : decode cX5_isApart 110 = .ok (.istore_n 3, 1) := dk_62 (dk_at dksX5_isApart_4 19 rfl rfl)
theorem dX5_isApart_111 : decode cX5_isApart 111 = .ok (.iinc 4 1, 3) := dk_132 4 1 (dk_at dksX5_isApart_4 20 rfl rfl)
theorem dX5_isApart_114 : decode cX5_isApart 114 = .ok (.goto (-99), 3) := dk_167 255 157 (dk_at dksX5_isApart_5 0 rfl rfl)
theorem dX5_isApart_117 : decode cX5_isApart 117 = .ok (.iload_n 3, 1) := dk_29 (dk_at dksX5_isApart_5 3 rfl rfl)
theorem dX5_isApart_118 : decode cX5_isApart 118 = .ok (.ireturn, 1) := dk_172 (dk_at dksX5_isApart_5 4 rfl rfl)
abbrev cX5_defer : ByteArray := prog_23_method_87_code
def yX5_defer : MethodName := ⟨RX5, "defer", "(I)I"⟩
def dkwX5_defer_6 : List UInt8 := [132, 4, 1, 167, 255, 127, 42, 182, 1, 27, 28, 172]
abbrev dktX5_defer_6 : List UInt8 := dkwX5_defer_6 ++ []
def dkwX5_defer_5 : List UInt8 := [153, 0, 8, 21, 4, 167, 0, 4, 28, 61, 21, 6, 153, 0, 8, 21, 5, 167, 0, 4, 29, 62]
abbrev dktX5_defer_5 : List UInt8 := dkwX5_defer_5 ++ dktX5_defer_6
def dkwX5_defer_4 : List UInt8 := [167, 255, 207, 28, 155, 0, 9, 21, 5, 29, 162, 0, 7, 4, 167, 0, 4, 3, 54, 6, 21, 6]
abbrev dktX5_defer_4 : List UInt8 := dkwX5_defer_4 ++ dktX5_defer_5
def dkwX5_defer_3 : List UInt8 := [164, 0, 16, 42, 17, 3, 219, 182, 1, 97, 184, 1, 60, 167, 0, 5, 21, 5, 54, 5, 132, 6, 1]
abbrev dktX5_defer_3 : List UInt8 := dkwX5_defer_3 ++ dktX5_defer_4
def dkwX5_defer_2 : List UInt8 := [16, 24, 162, 0, 48, 42, 17, 3, 219, 182, 1, 88, 42, 17, 3, 219, 182, 1, 97, 184, 1, 60, 21, 5]
abbrev dktX5_defer_2 : List UInt8 := dkwX5_defer_2 ++ dktX5_defer_3
def dkwX5_defer_1 : List UInt8 := [153, 0, 120, 42, 180, 0, 124, 27, 21, 4, 79, 42, 182, 1, 94, 3, 54, 5, 3, 54, 6, 21, 6]
abbrev dktX5_defer_1 : List UInt8 := dkwX5_defer_1 ++ dktX5_defer_2
def dkwX5_defer_0 : List UInt8 := [42, 3, 181, 0, 1, 2, 61, 3, 62, 3, 54, 4, 21, 4, 16, 12, 162, 0, 128, 42, 27, 182, 1, 82]
abbrev dktX5_defer_0 : List UInt8 := dkwX5_defer_0 ++ dktX5_defer_1
theorem dksX5_defer_0 : cX5_defer.data.toList.drop 0 = dktX5_defer_0 := by decide +kernel
theorem dksX5_defer_1 : cX5_defer.data.toList.drop 24 = dktX5_defer_1 := dk_seg dksX5_defer_0 24 rfl rfl
theorem dksX5_defer_2 : cX5_defer.data.toList.drop 47 = dktX5_defer_2 := dk_seg dksX5_defer_1 23 rfl rfl
theorem dksX5_defer_3 : cX5_defer.data.toList.drop 71 = dktX5_defer_3 := dk_seg dksX5_defer_2 24 rfl rfl
theorem dksX5_defer_4 : cX5_defer.data.toList.drop 94 = dktX5_defer_4 := dk_seg dksX5_defer_3 23 rfl rfl
theorem dksX5_defer_5 : cX5_defer.data.toList.drop 116 = dktX5_defer_5 := dk_seg dksX5_defer_4 22 rfl rfl
theorem dksX5_defer_6 : cX5_defer.data.toList.drop 138 = dktX5_defer_6 := dk_seg dksX5_defer_5 22 rfl rfl
theorem dX5_defer_0 : decode cX5_defer 0 = .ok (.aload_n 0, 1) := dk_42 (dk_at dksX5_defer_0 0 rfl rfl)
theorem dX5_defer_1 : decode cX5_defer 1 = .ok (.iconst 0, 1) := dk_3 (dk_at dksX5_defer_0 1 rfl rfl)
theorem dX5_defer_2 : decode cX5_defer 2 = .ok (.putfield 1, 3) := dk_181 0 1 (dk_at dksX5_defer_0 2 rfl rfl)
theorem dX5_defer_5 : decode cX5_defer 5 = .ok (.iconst (-1), 1) := dk_2 (dk_at dksX5_defer_0 5 rfl rfl)
theorem dX5_defer_6 : decode cX5_defer 6 = .ok (.istore_n 2, 1) := dk_61 (dk_at dksX5_defer_0 6 rfl rfl)
theorem dX5_defer_7 : decode cX5_defer 7 = .ok (.iconst 0, 1) := dk_3 (dk_at dksX5_defer_0 7 rfl rfl)
theorem dX5_defer_8 : decode cX5_defer 8 = .ok (.istore_n 3, 1) := dk_62 (dk_at dksX5_defer_0 8 rfl rfl)
theorem dX5_defer_9 : decode cX5_defer 9 = .ok (.iconst 0, 1) := dk_3 (dk_at dksX5_defer_0 9 rfl rfl)
theorem dX5_defer_10 : decode cX5_defer 10 = .ok (.istore 4, 2) := dk_54 4 (dk_at dksX5_defer_0 10 rfl rfl)
theorem dX5_defer_12 : decode cX5_defer 12 = .ok (.iload 4, 2) := dk_21 4 (dk_at dksX5_defer_0 12 rfl rfl)
theorem dX5_defer_14 : decode cX5_defer 14 = .ok (.bipush 12, 2) := dk_16 12 (dk_at dksX5_defer_0 14 rfl rfl)
theorem dX5_defer_16 : decode cX5_defer 16 = .ok (.if_icmp .ge 128, 3) := dk_162 0 128 (dk_at dksX5_defer_0 16 rfl rfl)
theorem dX5_defer_19 : decode cX5_defer 19 = .ok (.aload_n 0, 1) := dk_42 (dk_at dksX5_defer_0 19 rfl rfl)
theorem dX5_defer_20 : decode cX5_defer 20 = .ok (.iload_n 1, 1) := dk_27 (dk_at dksX5_defer_0 20 rfl rfl)
theorem dX5_defer_21 : decode cX5_defer 21 = .ok (.invokevirtual 338, 3) := dk_182 1 82 (dk_at dksX5_defer_0 21 rfl rfl)
theorem dX5_defer_24 : decode cX5_defer 24 = .ok (.ifCond .eq 120, 3) := dk_153 0 120 (dk_at dksX5_defer_1 0 rfl rfl)
theorem dX5_defer_27 : decode cX5_defer 27 = .ok (.aload_n 0, 1) := dk_42 (dk_at dksX5_defer_1 3 rfl rfl)
theorem dX5_defer_28 : decode cX5_defer 28 = .ok (.getfield 124, 3) := dk_180 0 124 (dk_at dksX5_defer_1 4 rfl rfl)
theorem dX5_defer_31 : decode cX5_defer 31 = .ok (.iload_n 1, 1) := dk_27 (dk_at dksX5_defer_1 7 rfl rfl)
theorem dX5_defer_32 : decode cX5_defer 32 = .ok (.iload 4, 2) := dk_21 4 (dk_at dksX5_defer_1 8 rfl rfl)
theorem dX5_defer_34 : decode cX5_defer 34 = .ok (.iastore, 1) := dk_79 (dk_at dksX5_defer_1 10 rfl rfl)
theorem dX5_defer_35 : decode cX5_defer 35 = .ok (.aload_n 0, 1) := dk_42 (dk_at dksX5_defer_1 11 rfl rfl)
theorem dX5_defer_36 : decode cX5_defer 36 = .ok (.invokevirtual 350, 3) := dk_182 1 94 (dk_at dksX5_defer_1 12 rfl rfl)
theorem dX5_defer_39 : decode cX5_defer 39 = .ok (.iconst 0, 1) := dk_3 (dk_at dksX5_defer_1 15 rfl rfl)
theorem dX5_defer_40 : decode cX5_defer 40 = .ok (.istore 5, 2) := dk_54 5 (dk_at dksX5_defer_1 16 rfl rfl)
theorem dX5_defer_42 : decode cX5_defer 42 = .ok (.iconst 0, 1) := dk_3 (dk_at dksX5_defer_1 18 rfl rfl)
theorem dX5_defer_43 : decode cX5_defer 43 = .ok (.istore 6, 2) := dk_54 6 (dk_at dksX5_defer_1 19 rfl rfl)
theorem dX5_defer_45 : decode cX5_defer 45 = .ok (.iload 6, 2) := dk_21 6 (dk_at dksX5_defer_1 21 rfl rfl)
theorem dX5_defer_47 : decode cX5_defer 47 = .ok (.bipush 24, 2) := dk_16 24 (dk_at dksX5_defer_2 0 rfl rfl)
theorem dX5_defer_49 : decode cX5_defer 49 = .ok (.if_icmp .ge 48, 3) := dk_162 0 48 (dk_at dksX5_defer_2 2 rfl rfl)
theorem dX5_defer_52 : decode cX5_defer 52 = .ok (.aload_n 0, 1) := dk_42 (dk_at dksX5_defer_2 5 rfl rfl)
theorem dX5_defer_53 : decode cX5_defer 53 = .ok (.sipush 987, 3) := dk_17 3 219 (dk_at dksX5_defer_2 6 rfl rfl)
theorem dX5_defer_56 : decode cX5_defer 56 = .ok (.invokevirtual 344, 3) := dk_182 1 88 (dk_at dksX5_defer_2 9 rfl rfl)
theorem dX5_defer_59 : decode cX5_defer 59 = .ok (.aload_n 0, 1) := dk_42 (dk_at dksX5_defer_2 12 rfl rfl)
theorem dX5_defer_60 : decode cX5_defer 60 = .ok (.sipush 987, 3) := dk_17 3 219 (dk_at dksX5_defer_2 13 rfl rfl)
theorem dX5_defer_63 : decode cX5_defer 63 = .ok (.invokevirtual 353, 3) := dk_182 1 97 (dk_at dksX5_defer_2 16 rfl rfl)
theorem dX5_defer_66 : decode cX5_defer 66 = .ok (.invokestatic 316, 3) := dk_184 1 60 (dk_at dksX5_defer_2 19 rfl rfl)
theorem dX5_defer_69 : decode cX5_defer 69 = .ok (.iload 5, 2) := dk_21 5 (dk_at dksX5_defer_2 22 rfl rfl)
theorem dX5_defer_71 : decode cX5_defer 71 = .ok (.if_icmp .le 16, 3) := dk_164 0 16 (dk_at dksX5_defer_3 0 rfl rfl)
theorem dX5_defer_74 : decode cX5_defer 74 = .ok (.aload_n 0, 1) := dk_42 (dk_at dksX5_defer_3 3 rfl rfl)
theorem dX5_defer_75 : decode cX5_defer 75 = .ok (.sipush 987, 3) := dk_17 3 219 (dk_at dksX5_defer_3 4 rfl rfl)
theorem dX5_defer_78 : decode cX5_defer 78 = .ok (.invokevirtual 353, 3) := dk_182 1 97 (dk_at dksX5_defer_3 7 rfl rfl)
theorem dX5_defer_81 : decode cX5_defer 81 = .ok (.invokestatic 316, 3) := dk_184 1 60 (dk_at dksX5_defer_3 10 rfl rfl)
theorem dX5_defer_84 : decode cX5_defer 84 = .ok (.goto 5, 3) := dk_167 0 5 (dk_at dksX5_defer_3 13 rfl rfl)
theorem dX5_defer_87 : decode cX5_defer 87 = .ok (.iload 5, 2) := dk_21 5 (dk_at dksX5_defer_3 16 rfl rfl)
theorem dX5_defer_89 : decode cX5_defer 89 = .ok (.istore 5, 2) := dk_54 5 (dk_at dksX5_defer_3 18 rfl rfl)
theorem dX5_defer_91 : decode cX5_defer 91 = .ok (.iinc 6 1, 3) := dk_132 6 1 (dk_at dksX5_defer_3 20 rfl rfl)
theorem dX5_defer_94 : decode cX5_defer 94 = .ok (.goto (-49), 3) := dk_167 255 207 (dk_at dksX5_defer_4 0 rfl rfl)
theorem dX5_defer_97 : decode cX5_defer 97 = .ok (.iload_n 2, 1) := dk_28 (dk_at dksX5_defer_4 3 rfl rfl)
theorem dX5_defer_98 : decode cX5_defer 98 = .ok (.ifCond .lt 9, 3) := dk_155 0 9 (dk_at dksX5_defer_4 4 rfl rfl)
theorem dX5_defer_101 : decode cX5_defer 101 = .ok (.iload 5, 2) := dk_21 5 (dk_at dksX5_defer_4 7 rfl rfl)
theorem dX5_defer_103 : decode cX5_defer 103 = .ok (.iload_n 3, 1) := dk_29 (dk_at dksX5_defer_4 9 rfl rfl)
theorem dX5_defer_104 : decode cX5_defer 104 = .ok (.if_icmp .ge 7, 3) := dk_162 0 7 (dk_at dksX5_defer_4 10 rfl rfl)
theorem dX5_defer_107 : decode cX5_defer 107 = .ok (.iconst 1, 1) := dk_4 (dk_at dksX5_defer_4 13 rfl rfl)
theorem dX5_defer_108 : decode cX5_defer 108 = .ok (.goto 4, 3) := dk_167 0 4 (dk_at dksX5_defer_4 14 rfl rfl)
theorem dX5_defer_111 : decode cX5_defer 111 = .ok (.iconst 0, 1) := dk_3 (dk_at dksX5_defer_4 17 rfl rfl)
theorem dX5_defer_112 : decode cX5_defer 112 = .ok (.istore 6, 2) := dk_54 6 (dk_at dksX5_defer_4 18 rfl rfl)
theorem dX5_defer_114 : decode cX5_defer 114 = .ok (.iload 6, 2) := dk_21 6 (dk_at dksX5_defer_4 20 rfl rfl)
theorem dX5_defer_116 : decode cX5_defer 116 = .ok (.ifCond .eq 8, 3) := dk_153 0 8 (dk_at dksX5_defer_5 0 rfl rfl)
theorem dX5_defer_119 : decode cX5_defer 119 = .ok (.iload 4, 2) := dk_21 4 (dk_at dksX5_defer_5 3 rfl rfl)
theorem dX5_defer_121 : decode cX5_defer 121 = .ok (.goto 4, 3) := dk_167 0 4 (dk_at dksX5_defer_5 5 rfl rfl)
theorem dX5_defer_124 : decode cX5_defer 124 = .ok (.iload_n 2, 1) := dk_28 (dk_at dksX5_defer_5 8 rfl rfl)
theorem dX5_defer_125 : decode cX5_defer 125 = .ok (.istore_n 2, 1) := dk_61 (dk_at dksX5_defer_5 9 rfl rfl)
theorem dX5_defer_126 : decode cX5_defer 126 = .ok (.iload 6, 2) := dk_21 6 (dk_at dksX5_defer_5 10 rfl rfl)
theorem dX5_defer_128 : decode cX5_defer 128 = .ok (.ifCond .eq 8, 3) := dk_153 0 8 (dk_at dksX5_defer_5 12 rfl rfl)
theorem dX5_defer_131 : decode cX5_defer 131 = .ok (.iload 5, 2) := dk_21 5 (dk_at dksX5_defer_5 15 rfl rfl)
theorem dX5_defer_133 : decode cX5_defer 133 = .ok (.goto 4, 3) := dk_167 0 4 (dk_at dksX5_defer_5 17 rfl rfl)
theorem dX5_defer_136 : decode cX5_defer 136 = .ok (.iload_n 3, 1) := dk_29 (dk_at dksX5_defer_5 20 rfl rfl)
theorem dX5_defer_137 : decode cX5_defer 137 = .ok (.istore_n 3, 1) := dk_62 (dk_at dksX5_defer_5 21 rfl rfl)
theorem dX5_defer_138 : decode cX5_defer 138 = .ok (.iinc 4 1, 3) := dk_132 4 1 (dk_at dksX5_defer_6 0 rfl rfl)
theorem dX5_defer_141 : decode cX5_defer 141 = .ok (.goto (-129), 3) := dk_167 255 127 (dk_at dksX5_defer_6 3 rfl rfl)
theorem dX5_defer_144 : decode cX5_defer 144 = .ok (.aload_n 0, 1) := dk_42 (dk_at dksX5_defer_6 6 rfl rfl)
theorem dX5_defer_145 : decode cX5_defer 145 = .ok (.invokevirtual 283, 3) := dk_182 1 27 (dk_at dksX5_defer_6 7 rfl rfl)
theorem dX5_defer_148 : decode cX5_defer 148 = .ok (.iload_n 2, 1) := dk_28 (dk_at dksX5_defer_6 10 rfl rfl)
theorem dX5_defer_149 : decode cX5_defer 149 = .ok (.ireturn, 1) := dk_172 (dk_at dksX5_defer_6 11 rfl rfl)
abbrev cX5_spare : ByteArray := prog_23_method_88_code
def yX5_spare : MethodName := ⟨RX5, "spare", "()I"⟩
def dkwX5_spare_3 : List UInt8 := [167, 255, 196, 27, 172]
abbrev dktX5_spare_3 : List UInt8 := dkwX5_spare_3 ++ []
def dkwX5_spare_2 : List UInt8 := [164, 0, 18, 42, 16, 24, 182, 1, 103, 153, 0, 9, 4, 28, 120, 167, 0, 4, 3, 128, 60, 132, 2, 1]
abbrev dktX5_spare_2 : List UInt8 := dkwX5_spare_2 ++ dktX5_spare_3
def dkwX5_spare_1 : List UInt8 := [180, 0, 117, 17, 3, 221, 28, 96, 92, 46, 4, 100, 79, 27, 42, 180, 0, 117, 5, 28, 96, 46, 4]
abbrev dktX5_spare_1 : List UInt8 := dkwX5_spare_1 ++ dktX5_spare_2
def dkwX5_spare_0 : List UInt8 := [42, 3, 181, 0, 1, 3, 60, 3, 61, 28, 42, 182, 1, 14, 162, 0, 58, 42, 182, 1, 94, 42]
abbrev dktX5_spare_0 : List UInt8 := dkwX5_spare_0 ++ dktX5_spare_1
theorem dksX5_spare_0 : cX5_spare.data.toList.drop 0 = dktX5_spare_0 := by decide +kernel
theorem dksX5_spare_1 : cX5_spare.data.toList.drop 22 = dktX5_spare_1 := dk_seg dksX5_spare_0 22 rfl rfl
theorem dksX5_spare_2 : cX5_spare.data.toList.drop 45 = dktX5_spare_2 := dk_seg dksX5_spare_1 23 rfl rfl
theorem dksX5_spare_3 : cX5_spare.data.toList.drop 69 = dktX5_spare_3 := dk_seg dksX5_spare_2 24 rfl rfl
theorem dX5_spare_0 : decode cX5_spare 0 = .ok (.aload_n 0, 1) := dk_42 (dk_at dksX5_spare_0 0 rfl rfl)
theorem dX5_spare_1 : decode cX5_spare 1 = .ok (.iconst 0, 1) := dk_3 (dk_at dksX5_spare_0 1 rfl rfl)
theorem dX5_spare_2 : decode cX5_spare 2 = .ok (.putfield 1, 3) := dk_181 0 1 (dk_at dksX5_spare_0 2 rfl rfl)
theorem dX5_spare_5 : decode cX5_spare 5 = .ok (.iconst 0, 1) := dk_3 (dk_at dksX5_spare_0 5 rfl rfl)
theorem dX5_spare_6 : decode cX5_spare 6 = .ok (.istore_n 1, 1) := dk_60 (dk_at dksX5_spare_0 6 rfl rfl)
theorem dX5_spare_7 : decode cX5_spare 7 = .ok (.iconst 0, 1) := dk_3 (dk_at dksX5_spare_0 7 rfl rfl)
theorem dX5_spare_8 : decode cX5_spare 8 = .ok (.istore_n 2, 1) := dk_61 (dk_at dksX5_spare_0 8 rfl rfl)
theorem dX5_spare_9 : decode cX5_spare 9 = .ok (.iload_n 2, 1) := dk_28 (dk_at dksX5_spare_0 9 rfl rfl)
theorem dX5_spare_10 : decode cX5_spare 10 = .ok (.aload_n 0, 1) := dk_42 (dk_at dksX5_spare_0 10 rfl rfl)
theorem dX5_spare_11 : decode cX5_spare 11 = .ok (.invokevirtual 270, 3) := dk_182 1 14 (dk_at dksX5_spare_0 11 rfl rfl)
theorem dX5_spare_14 : decode cX5_spare 14 = .ok (.if_icmp .ge 58, 3) := dk_162 0 58 (dk_at dksX5_spare_0 14 rfl rfl)
theorem dX5_spare_17 : decode cX5_spare 17 = .ok (.aload_n 0, 1) := dk_42 (dk_at dksX5_spare_0 17 rfl rfl)
theorem dX5_spare_18 : decode cX5_spare 18 = .ok (.invokevirtual 350, 3) := dk_182 1 94 (dk_at dksX5_spare_0 18 rfl rfl)
theorem dX5_spare_21 : decode cX5_spare 21 = .ok (.aload_n 0, 1) := dk_42 (dk_at dksX5_spare_0 21 rfl rfl)
theorem dX5_spare_22 : decode cX5_spare 22 = .ok (.getfield 117, 3) := dk_180 0 117 (dk_at dksX5_spare_1 0 rfl rfl)
theorem dX5_spare_25 : decode cX5_spare 25 = .ok (.sipush 989, 3) := dk_17 3 221 (dk_at dksX5_spare_1 3 rfl rfl)
theorem dX5_spare_28 : decode cX5_spare 28 = .ok (.iload_n 2, 1) := dk_28 (dk_at dksX5_spare_1 6 rfl rfl)
theorem dX5_spare_29 : decode cX5_spare 29 = .ok (.iadd, 1) := dk_96 (dk_at dksX5_spare_1 7 rfl rfl)
theorem dX5_spare_30 : decode cX5_spare 30 = .ok (.dup2, 1) := dk_92 (dk_at dksX5_spare_1 8 rfl rfl)
theorem dX5_spare_31 : decode cX5_spare 31 = .ok (.iaload, 1) := dk_46 (dk_at dksX5_spare_1 9 rfl rfl)
theorem dX5_spare_32 : decode cX5_spare 32 = .ok (.iconst 1, 1) := dk_4 (dk_at dksX5_spare_1 10 rfl rfl)
theorem dX5_spare_33 : decode cX5_spare 33 = .ok (.isub, 1) := dk_100 (dk_at dksX5_spare_1 11 rfl rfl)
theorem dX5_spare_34 : decode cX5_spare 34 = .ok (.iastore, 1) := dk_79 (dk_at dksX5_spare_1 12 rfl rfl)
theorem dX5_spare_35 : decode cX5_spare 35 = .ok (.iload_n 1, 1) := dk_27 (dk_at dksX5_spare_1 13 rfl rfl)
theorem dX5_spare_36 : decode cX5_spare 36 = .ok (.aload_n 0, 1) := dk_42 (dk_at dksX5_spare_1 14 rfl rfl)
theorem dX5_spare_37 : decode cX5_spare 37 = .ok (.getfield 117, 3) := dk_180 0 117 (dk_at dksX5_spare_1 15 rfl rfl)
theorem dX5_spare_40 : decode cX5_spare 40 = .ok (.iconst 2, 1) := dk_5 (dk_at dksX5_spare_1 18 rfl rfl)
theorem dX5_spare_41 : decode cX5_spare 41 = .ok (.iload_n 2, 1) := dk_28 (dk_at dksX5_spare_1 19 rfl rfl)
theorem dX5_spare_42 : decode cX5_spare 42 = .ok (.iadd, 1) := dk_96 (dk_at dksX5_spare_1 20 rfl rfl)
theorem dX5_spare_43 : decode cX5_spare 43 = .ok (.iaload, 1) := dk_46 (dk_at dksX5_spare_1 21 rfl rfl)
theorem dX5_spare_44 : decode cX5_spare 44 = .ok (.iconst 1, 1) := dk_4 (dk_at dksX5_spare_1 22 rfl rfl)
theorem dX5_spare_45 : decode cX5_spare 45 = .ok (.if_icmp .le 18, 3) := dk_164 0 18 (dk_at dksX5_spare_2 0 rfl rfl)
theorem dX5_spare_48 : decode cX5_spare 48 = .ok (.aload_n 0, 1) := dk_42 (dk_at dksX5_spare_2 3 rfl rfl)
theorem dX5_spare_49 : decode cX5_spare 49 = .ok (.bipush 24, 2) := dk_16 24 (dk_at dksX5_spare_2 4 rfl rfl)
theorem dX5_spare_51 : decode cX5_spare 51 = .ok (.invokevirtual 359, 3) := dk_182 1 103 (dk_at dksX5_spare_2 6 rfl rfl)
theorem dX5_spare_54 : decode cX5_spare 54 = .ok (.ifCond .eq 9, 3) := dk_153 0 9 (dk_at dksX5_spare_2 9 rfl rfl)
theorem dX5_spare_57 : decode cX5_spare 57 = .ok (.iconst 1, 1) := dk_4 (dk_at dksX5_spare_2 12 rfl rfl)
theorem dX5_spare_58 : decode cX5_spare 58 = .ok (.iload_n 2, 1) := dk_28 (dk_at dksX5_spare_2 13 rfl rfl)
theorem dX5_spare_59 : decode cX5_spare 59 = .ok (.ishl, 1) := dk_120 (dk_at dksX5_spare_2 14 rfl rfl)
theorem dX5_spare_60 : decode cX5_spare 60 = .ok (.goto 4, 3) := dk_167 0 4 (dk_at dksX5_spare_2 15 rfl rfl)
theorem dX5_spare_63 : decode cX5_spare 63 = .ok (.iconst 0, 1) := dk_3 (dk_at dksX5_spare_2 18 rfl rfl)
theorem dX5_spare_64 : decode cX5_spare 64 = .ok (.ior, 1) := dk_128 (dk_at dksX5_spare_2 19 rfl rfl)
theorem dX5_spare_65 : decode cX5_spare 65 = .ok (.istore_n 1, 1) := dk_60 (dk_at dksX5_spare_2 20 rfl rfl)
theorem dX5_spare_66 : decode cX5_spare 66 = .ok (.iinc 2 1, 3) := dk_132 2 1 (dk_at dksX5_spare_2 21 rfl rfl)
theorem dX5_spare_69 : decode cX5_spare 69 = .ok (.goto (-60), 3) := dk_167 255 196 (dk_at dksX5_spare_3 0 rfl rfl)
theorem dX5_spare_72 : decode cX5_spare 72 = .ok (.iload_n 1, 1) := dk_27 (dk_at dksX5_spare_3 3 rfl rfl)
theorem dX5_spare_73 : decode cX5_spare 73 = .ok (.ireturn, 1) := dk_172 (dk_at dksX5_spare_3 4 rfl rfl)
abbrev cX5_see : ByteArray := prog_23_method_89_code
def yX5_see : MethodName := ⟨RX5, "see", "(II)Z"⟩
def dkwX5_see_3 : List UInt8 := [79, 42, 180, 0, 117, 16, 30, 92, 46, 4, 96, 79, 4, 172]
abbrev dktX5_see_3 : List UInt8 := dkwX5_see_3 ++ []
def dkwX5_see_2 : List UInt8 := [180, 0, 117, 16, 30, 46, 104, 96, 62, 42, 180, 0, 117, 29, 27, 79, 42, 180, 0, 117, 29, 4, 96, 28]
abbrev dktX5_see_2 : List UInt8 := dkwX5_see_2 ++ dktX5_see_3
def dkwX5_see_1 : List UInt8 := [184, 0, 202, 153, 0, 15, 42, 180, 0, 117, 16, 30, 46, 16, 8, 160, 0, 5, 3, 172, 16, 31, 5, 42]
abbrev dktX5_see_1 : List UInt8 := dkwX5_see_1 ++ dktX5_see_2
def dkwX5_see_0 : List UInt8 := [42, 3, 181, 0, 1, 27, 2, 159, 0, 11, 42, 27, 182, 1, 76, 153, 0, 25, 28, 3, 16, 24]
abbrev dktX5_see_0 : List UInt8 := dkwX5_see_0 ++ dktX5_see_1
theorem dksX5_see_0 : cX5_see.data.toList.drop 0 = dktX5_see_0 := by decide +kernel
theorem dksX5_see_1 : cX5_see.data.toList.drop 22 = dktX5_see_1 := dk_seg dksX5_see_0 22 rfl rfl
theorem dksX5_see_2 : cX5_see.data.toList.drop 46 = dktX5_see_2 := dk_seg dksX5_see_1 24 rfl rfl
theorem dksX5_see_3 : cX5_see.data.toList.drop 70 = dktX5_see_3 := dk_seg dksX5_see_2 24 rfl rfl
theorem dX5_see_0 : decode cX5_see 0 = .ok (.aload_n 0, 1) := dk_42 (dk_at dksX5_see_0 0 rfl rfl)
theorem dX5_see_1 : decode cX5_see 1 = .ok (.iconst 0, 1) := dk_3 (dk_at dksX5_see_0 1 rfl rfl)
theorem dX5_see_2 : decode cX5_see 2 = .ok (.putfield 1, 3) := dk_181 0 1 (dk_at dksX5_see_0 2 rfl rfl)
theorem dX5_see_5 : decode cX5_see 5 = .ok (.iload_n 1, 1) := dk_27 (dk_at dksX5_see_0 5 rfl rfl)
theorem dX5_see_6 : decode cX5_see 6 = .ok (.iconst (-1), 1) := dk_2 (dk_at dksX5_see_0 6 rfl rfl)
theorem dX5_see_7 : decode cX5_see 7 = .ok (.if_icmp .eq 11, 3) := dk_159 0 11 (dk_at dksX5_see_0 7 rfl rfl)
theorem dX5_see_10 : decode cX5_see 10 = .ok (.aload_n 0, 1) := dk_42 (dk_at dksX5_see_0 10 rfl rfl)
theorem dX5_see_11 : decode cX5_see 11 = .ok (.iload_n 1, 1) := dk_27 (dk_at dksX5_see_0 11 rfl rfl)
theorem dX5_see_12 : decode cX5_see 12 = .ok (.invokevirtual 332, 3) := dk_182 1 76 (dk_at dksX5_see_0 12 rfl rfl)
theorem dX5_see_15 : decode cX5_see 15 = .ok (.ifCond .eq 25, 3) := dk_153 0 25 (dk_at dksX5_see_0 15 rfl rfl)
theorem dX5_see_18 : decode cX5_see 18 = .ok (.iload_n 2, 1) := dk_28 (dk_at dksX5_see_0 18 rfl rfl)
theorem dX5_see_19 : decode cX5_see 19 = .ok (.iconst 0, 1) := dk_3 (dk_at dksX5_see_0 19 rfl rfl)
theorem dX5_see_20 : decode cX5_see 20 = .ok (.bipush 24, 2) := dk_16 24 (dk_at dksX5_see_0 20 rfl rfl)
theorem dX5_see_22 : decode cX5_see 22 = .ok (.invokestatic 202, 3) := dk_184 0 202 (dk_at dksX5_see_1 0 rfl rfl)
theorem dX5_see_25 : decode cX5_see 25 = .ok (.ifCond .eq 15, 3) := dk_153 0 15 (dk_at dksX5_see_1 3 rfl rfl)
theorem dX5_see_28 : decode cX5_see 28 = .ok (.aload_n 0, 1) := dk_42 (dk_at dksX5_see_1 6 rfl rfl)
theorem dX5_see_29 : decode cX5_see 29 = .ok (.getfield 117, 3) := dk_180 0 117 (dk_at dksX5_see_1 7 rfl rfl)
theorem dX5_see_32 : decode cX5_see 32 = .ok (.bipush 30, 2) := dk_16 30 (dk_at dksX5_see_1 10 rfl rfl)
theorem dX5_see_34 : decode cX5_see 34 = .ok (.iaload, 1) := dk_46 (dk_at dksX5_see_1 12 rfl rfl)
theorem dX5_see_35 : decode cX5_see 35 = .ok (.bipush 8, 2) := dk_16 8 (dk_at dksX5_see_1 13 rfl rfl)
theorem dX5_see_37 : decode cX5_see 37 = .ok (.if_icmp .ne 5, 3) := dk_160 0 5 (dk_at dksX5_see_1 15 rfl rfl)
theorem dX5_see_40 : decode cX5_see 40 = .ok (.iconst 0, 1) := dk_3 (dk_at dksX5_see_1 18 rfl rfl)
theorem dX5_see_41 : decode cX5_see 41 = .ok (.ireturn, 1) := dk_172 (dk_at dksX5_see_1 19 rfl rfl)
theorem dX5_see_42 : decode cX5_see 42 = .ok (.bipush 31, 2) := dk_16 31 (dk_at dksX5_see_1 20 rfl rfl)
theorem dX5_see_44 : decode cX5_see 44 = .ok (.iconst 2, 1) := dk_5 (dk_at dksX5_see_1 22 rfl rfl)
theorem dX5_see_45 : decode cX5_see 45 = .ok (.aload_n 0, 1) := dk_42 (dk_at dksX5_see_1 23 rfl rfl)
theorem dX5_see_46 : decode cX5_see 46 = .ok (.getfield 117, 3) := dk_180 0 117 (dk_at dksX5_see_2 0 rfl rfl)
theorem dX5_see_49 : decode cX5_see 49 = .ok (.bipush 30, 2) := dk_16 30 (dk_at dksX5_see_2 3 rfl rfl)
theorem dX5_see_51 : decode cX5_see 51 = .ok (.iaload, 1) := dk_46 (dk_at dksX5_see_2 5 rfl rfl)
theorem dX5_see_52 : decode cX5_see 52 = .ok (.imul, 1) := dk_104 (dk_at dksX5_see_2 6 rfl rfl)
theorem dX5_see_53 : decode cX5_see 53 = .ok (.iadd, 1) := dk_96 (dk_at dksX5_see_2 7 rfl rfl)
theorem dX5_see_54 : decode cX5_see 54 = .ok (.istore_n 3, 1) := dk_62 (dk_at dksX5_see_2 8 rfl rfl)
theorem dX5_see_55 : decode cX5_see 55 = .ok (.aload_n 0, 1) := dk_42 (dk_at dksX5_see_2 9 rfl rfl)
theorem dX5_see_56 : decode cX5_see 56 = .ok (.getfield 117, 3) := dk_180 0 117 (dk_at dksX5_see_2 10 rfl rfl)
theorem dX5_see_59 : decode cX5_see 59 = .ok (.iload_n 3, 1) := dk_29 (dk_at dksX5_see_2 13 rfl rfl)
theorem dX5_see_60 : decode cX5_see 60 = .ok (.iload_n 1, 1) := dk_27 (dk_at dksX5_see_2 14 rfl rfl)
theorem dX5_see_61 : decode cX5_see 61 = .ok (.iastore, 1) := dk_79 (dk_at dksX5_see_2 15 rfl rfl)
theorem dX5_see_62 : decode cX5_see 62 = .ok (.aload_n 0, 1) := dk_42 (dk_at dksX5_see_2 16 rfl rfl)
theorem dX5_see_63 : decode cX5_see 63 = .ok (.getfield 117, 3) := dk_180 0 117 (dk_at dksX5_see_2 17 rfl rfl)
theorem dX5_see_66 : decode cX5_see 66 = .ok (.iload_n 3, 1) := dk_29 (dk_at dksX5_see_2 20 rfl rfl)
theorem dX5_see_67 : decode cX5_see 67 = .ok (.iconst 1, 1) := dk_4 (dk_at dksX5_see_2 21 rfl rfl)
theorem dX5_see_68 : decode cX5_see 68 = .ok (.iadd, 1) := dk_96 (dk_at dksX5_see_2 22 rfl rfl)
theorem dX5_see_69 : decode cX5_see 69 = .ok (.iload_n 2, 1) := dk_28 (dk_at dksX5_see_2 23 rfl rfl)
theorem dX5_see_70 : decode cX5_see 70 = .ok (.iastore, 1) := dk_79 (dk_at dksX5_see_3 0 rfl rfl)
theorem dX5_see_71 : decode cX5_see 71 = .ok (.aload_n 0, 1) := dk_42 (dk_at dksX5_see_3 1 rfl rfl)
theorem dX5_see_72 : decode cX5_see 72 = .ok (.getfield 117, 3) := dk_180 0 117 (dk_at dksX5_see_3 2 rfl rfl)
theorem dX5_see_75 : decode cX5_see 75 = .ok (.bipush 30, 2) := dk_16 30 (dk_at dksX5_see_3 5 rfl rfl)
theorem dX5_see_77 : decode cX5_see 77 = .ok (.dup2, 1) := dk_92 (dk_at dksX5_see_3 7 rfl rfl)
theorem dX5_see_78 : decode cX5_see 78 = .ok (.iaload, 1) := dk_46 (dk_at dksX5_see_3 8 rfl rfl)
theorem dX5_see_79 : decode cX5_see 79 = .ok (.iconst 1, 1) := dk_4 (dk_at dksX5_see_3 9 rfl rfl)
theorem dX5_see_80 : decode cX5_see 80 = .ok (.iadd, 1) := dk_96 (dk_at dksX5_see_3 10 rfl rfl)
theorem dX5_see_81 : decode cX5_see 81 = .ok (.iastore, 1) := dk_79 (dk_at dksX5_see_3 11 rfl rfl)
theorem dX5_see_82 : decode cX5_see 82 = .ok (.iconst 1, 1) := dk_4 (dk_at dksX5_see_3 12 rfl rfl)
theorem dX5_see_83 : decode cX5_see 83 = .ok (.ireturn, 1) := dk_172 (dk_at dksX5_see_3 13 rfl rfl)
abbrev cX5_who : ByteArray := prog_23_method_91_code
def yX5_who : MethodName := ⟨RX5, "who", "()I"⟩
def dkwX5_who_0 : List UInt8 := [42, 3, 181, 0, 1, 42, 182, 1, 112, 172]
abbrev dktX5_who_0 : List UInt8 := dkwX5_who_0 ++ []
theorem dksX5_who_0 : cX5_who.data.toList.drop 0 = dktX5_who_0 := by decide +kernel
theorem dX5_who_0 : decode cX5_who 0 = .ok (.aload_n 0, 1) := dk_42 (dk_at dksX5_who_0 0 rfl rfl)
theorem dX5_who_1 : decode cX5_who 1 = .ok (.iconst 0, 1) := dk_3 (dk_at dksX5_who_0 1 rfl rfl)
theorem dX5_who_2 : decode cX5_who 2 = .ok (.putfield 1, 3) := dk_181 0 1 (dk_at dksX5_who_0 2 rfl rfl)
theorem dX5_who_5 : decode cX5_who 5 = .ok (.aload_n 0, 1) := dk_42 (dk_at dksX5_who_0 5 rfl rfl)
theorem dX5_who_6 : decode cX5_who 6 = .ok (.invokevirtual 368, 3) := dk_182 1 112 (dk_at dksX5_who_0 6 rfl rfl)
theorem dX5_who_9 : decode cX5_who 9 = .ok (.ireturn, 1) := dk_172 (dk_at dksX5_who_0 9 rfl rfl)
abbrev cX5_whoNow : ByteArray := prog_23_method_90_code
def yX5_whoNow : MethodName := ⟨RX5, "whoNow", "()I"⟩
def dkwX5_whoNow_5 : List UInt8 := [182, 1, 88, 132, 2, 1, 167, 255, 148, 27, 172]
abbrev dktX5_whoNow_5 : List UInt8 := dkwX5_whoNow_5 ++ []
def dkwX5_whoNow_4 : List UInt8 := [167, 0, 4, 2, 126, 60, 132, 5, 1, 167, 255, 197, 132, 3, 1, 167, 255, 169, 42, 17, 3, 219]
abbrev dktX5_whoNow_4 : List UInt8 := dkwX5_whoNow_4 ++ dktX5_whoNow_5
def dkwX5_whoNow_3 : List UInt8 := [17, 3, 225, 21, 5, 96, 46, 42, 180, 0, 117, 21, 4, 46, 159, 0, 12, 4, 21, 5, 120, 2, 130]
abbrev dktX5_whoNow_3 : List UInt8 := dkwX5_whoNow_3 ++ dktX5_whoNow_4
def dkwX5_whoNow_2 : List UInt8 := [182, 1, 21, 162, 0, 56, 27, 42, 180, 0, 117, 21, 4, 4, 96, 46, 28, 160, 0, 33, 42, 180, 0, 117]
abbrev dktX5_whoNow_2 : List UInt8 := dkwX5_whoNow_2 ++ dktX5_whoNow_3
def dkwX5_whoNow_1 : List UInt8 := [42, 180, 0, 117, 16, 30, 46, 162, 0, 82, 16, 31, 5, 29, 104, 96, 54, 4, 3, 54, 5, 21, 5, 42]
abbrev dktX5_whoNow_1 : List UInt8 := dkwX5_whoNow_1 ++ dktX5_whoNow_2
def dkwX5_whoNow_0 : List UInt8 := [4, 42, 182, 1, 21, 120, 4, 100, 60, 42, 182, 1, 94, 3, 61, 28, 16, 24, 163, 0, 108, 3, 62, 29]
abbrev dktX5_whoNow_0 : List UInt8 := dkwX5_whoNow_0 ++ dktX5_whoNow_1
theorem dksX5_whoNow_0 : cX5_whoNow.data.toList.drop 0 = dktX5_whoNow_0 := by decide +kernel
theorem dksX5_whoNow_1 : cX5_whoNow.data.toList.drop 24 = dktX5_whoNow_1 := dk_seg dksX5_whoNow_0 24 rfl rfl
theorem dksX5_whoNow_2 : cX5_whoNow.data.toList.drop 48 = dktX5_whoNow_2 := dk_seg dksX5_whoNow_1 24 rfl rfl
theorem dksX5_whoNow_3 : cX5_whoNow.data.toList.drop 72 = dktX5_whoNow_3 := dk_seg dksX5_whoNow_2 24 rfl rfl
theorem dksX5_whoNow_4 : cX5_whoNow.data.toList.drop 95 = dktX5_whoNow_4 := dk_seg dksX5_whoNow_3 23 rfl rfl
theorem dksX5_whoNow_5 : cX5_whoNow.data.toList.drop 117 = dktX5_whoNow_5 := dk_seg dksX5_whoNow_4 22 rfl rfl
theorem dX5_whoNow_0 : decode cX5_whoNow 0 = .ok (.iconst 1, 1) := dk_4 (dk_at dksX5_whoNow_0 0 rfl rfl)
theorem dX5_whoNow_1 : decode cX5_whoNow 1 = .ok (.aload_n 0, 1) := dk_42 (dk_at dksX5_whoNow_0 1 rfl rfl)
theorem dX5_whoNow_2 : decode cX5_whoNow 2 = .ok (.invokevirtual 277, 3) := dk_182 1 21 (dk_at dksX5_whoNow_0 2 rfl rfl)
theorem dX5_whoNow_5 : decode cX5_whoNow 5 = .ok (.ishl, 1) := dk_120 (dk_at dksX5_whoNow_0 5 rfl rfl)
theorem dX5_whoNow_6 : decode cX5_whoNow 6 = .ok (.iconst 1, 1) := dk_4 (dk_at dksX5_whoNow_0 6 rfl rfl)
theorem dX5_whoNow_7 : decode cX5_whoNow 7 = .ok (.isub, 1) := dk_100 (dk_at dksX5_whoNow_0 7 rfl rfl)
theorem dX5_whoNow_8 : decode cX5_whoNow 8 = .ok (.istore_n 1, 1) := dk_60 (dk_at dksX5_whoNow_0 8 rfl rfl)
theorem dX5_whoNow_9 : decode cX5_whoNow 9 = .ok (.aload_n 0, 1) := dk_42 (dk_at dksX5_whoNow_0 9 rfl rfl)
theorem dX5_whoNow_10 : decode cX5_whoNow 10 = .ok (.invokevirtual 350, 3) := dk_182 1 94 (dk_at dksX5_whoNow_0 10 rfl rfl)
theorem dX5_whoNow_13 : decode cX5_whoNow 13 = .ok (.iconst 0, 1) := dk_3 (dk_at dksX5_whoNow_0 13 rfl rfl)
theorem dX5_whoNow_14 : decode cX5_whoNow 14 = .ok (.istore_n 2, 1) := dk_61 (dk_at dksX5_whoNow_0 14 rfl rfl)
theorem dX5_whoNow_15 : decode cX5_whoNow 15 = .ok (.iload_n 2, 1) := dk_28 (dk_at dksX5_whoNow_0 15 rfl rfl)
theorem dX5_whoNow_16 : decode cX5_whoNow 16 = .ok (.bipush 24, 2) := dk_16 24 (dk_at dksX5_whoNow_0 16 rfl rfl)
theorem dX5_whoNow_18 : decode cX5_whoNow 18 = .ok (.if_icmp .gt 108, 3) := dk_163 0 108 (dk_at dksX5_whoNow_0 18 rfl rfl)
theorem dX5_whoNow_21 : decode cX5_whoNow 21 = .ok (.iconst 0, 1) := dk_3 (dk_at dksX5_whoNow_0 21 rfl rfl)
theorem dX5_whoNow_22 : decode cX5_whoNow 22 = .ok (.istore_n 3, 1) := dk_62 (dk_at dksX5_whoNow_0 22 rfl rfl)
theorem dX5_whoNow_23 : decode cX5_whoNow 23 = .ok (.iload_n 3, 1) := dk_29 (dk_at dksX5_whoNow_0 23 rfl rfl)
theorem dX5_whoNow_24 : decode cX5_whoNow 24 = .ok (.aload_n 0, 1) := dk_42 (dk_at dksX5_whoNow_1 0 rfl rfl)
theorem dX5_whoNow_25 : decode cX5_whoNow 25 = .ok (.getfield 117, 3) := dk_180 0 117 (dk_at dksX5_whoNow_1 1 rfl rfl)
theorem dX5_whoNow_28 : decode cX5_whoNow 28 = .ok (.bipush 30, 2) := dk_16 30 (dk_at dksX5_whoNow_1 4 rfl rfl)
theorem dX5_whoNow_30 : decode cX5_whoNow 30 = .ok (.iaload, 1) := dk_46 (dk_at dksX5_whoNow_1 6 rfl rfl)
theorem dX5_whoNow_31 : decode cX5_whoNow 31 = .ok (.if_icmp .ge 82, 3) := dk_162 0 82 (dk_at dksX5_whoNow_1 7 rfl rfl)
theorem dX5_whoNow_34 : decode cX5_whoNow 34 = .ok (.bipush 31, 2) := dk_16 31 (dk_at dksX5_whoNow_1 10 rfl rfl)
theorem dX5_whoNow_36 : decode cX5_whoNow 36 = .ok (.iconst 2, 1) := dk_5 (dk_at dksX5_whoNow_1 12 rfl rfl)
theorem dX5_whoNow_37 : decode cX5_whoNow 37 = .ok (.iload_n 3, 1) := dk_29 (dk_at dksX5_whoNow_1 13 rfl rfl)
theorem dX5_whoNow_38 : decode cX5_whoNow 38 = .ok (.imul, 1) := dk_104 (dk_at dksX5_whoNow_1 14 rfl rfl)
theorem dX5_whoNow_39 : decode cX5_whoNow 39 = .ok (.iadd, 1) := dk_96 (dk_at dksX5_whoNow_1 15 rfl rfl)
theorem dX5_whoNow_40 : decode cX5_whoNow 40 = .ok (.istore 4, 2) := dk_54 4 (dk_at dksX5_whoNow_1 16 rfl rfl)
theorem dX5_whoNow_42 : decode cX5_whoNow 42 = .ok (.iconst 0, 1) := dk_3 (dk_at dksX5_whoNow_1 18 rfl rfl)
theorem dX5_whoNow_43 : decode cX5_whoNow 43 = .ok (.istore 5, 2) := dk_54 5 (dk_at dksX5_whoNow_1 19 rfl rfl)
theorem dX5_whoNow_45 : decode cX5_whoNow 45 = .ok (.iload 5, 2) := dk_21 5 (dk_at dksX5_whoNow_1 21 rfl rfl)
theorem dX5_whoNow_47 : decode cX5_whoNow 47 = .ok (.aload_n 0, 1) := dk_42 (dk_at dksX5_whoNow_1 23 rfl rfl)
theorem dX5_whoNow_48 : decode cX5_whoNow 48 = .ok (.invokevirtual 277, 3) := dk_182 1 21 (dk_at dksX5_whoNow_2 0 rfl rfl)
theorem dX5_whoNow_51 : decode cX5_whoNow 51 = .ok (.if_icmp .ge 56, 3) := dk_162 0 56 (dk_at dksX5_whoNow_2 3 rfl rfl)
theorem dX5_whoNow_54 : decode cX5_whoNow 54 = .ok (.iload_n 1, 1) := dk_27 (dk_at dksX5_whoNow_2 6 rfl rfl)
theorem dX5_whoNow_55 : decode cX5_whoNow 55 = .ok (.aload_n 0, 1) := dk_42 (dk_at dksX5_whoNow_2 7 rfl rfl)
theorem dX5_whoNow_56 : decode cX5_whoNow 56 = .ok (.getfield 117, 3) := dk_180 0 117 (dk_at dksX5_whoNow_2 8 rfl rfl)
theorem dX5_whoNow_59 : decode cX5_whoNow 59 = .ok (.iload 4, 2) := dk_21 4 (dk_at dksX5_whoNow_2 11 rfl rfl)
theorem dX5_whoNow_61 : decode cX5_whoNow 61 = .ok (.iconst 1, 1) := dk_4 (dk_at dksX5_whoNow_2 13 rfl rfl)
theorem dX5_whoNow_62 : decode cX5_whoNow 62 = .ok (.iadd, 1) := dk_96 (dk_at dksX5_whoNow_2 14 rfl rfl)
theorem dX5_whoNow_63 : decode cX5_whoNow 63 = .ok (.iaload, 1) := dk_46 (dk_at dksX5_whoNow_2 15 rfl rfl)
theorem dX5_whoNow_64 : decode cX5_whoNow 64 = .ok (.iload_n 2, 1) := dk_28 (dk_at dksX5_whoNow_2 16 rfl rfl)
theorem dX5_whoNow_65 : decode cX5_whoNow 65 = .ok (.if_icmp .ne 33, 3) := dk_160 0 33 (dk_at dksX5_whoNow_2 17 rfl rfl)
theorem dX5_whoNow_68 : decode cX5_whoNow 68 = .ok (.aload_n 0, 1) := dk_42 (dk_at dksX5_whoNow_2 20 rfl rfl)
theorem dX5_whoNow_69 : decode cX5_whoNow 69 = .ok (.getfield 117, 3) := dk_180 0 117 (dk_at dksX5_whoNow_2 21 rfl rfl)
theorem dX5_whoNow_72 : decode cX5_whoNow 72 = .ok (.sipush 993, 3) := dk_17 3 225 (dk_at dksX5_whoNow_3 0 rfl rfl)
theorem dX5_whoNow_75 : decode cX5_whoNow 75 = .ok (.iload 5, 2) := dk_21 5 (dk_at dksX5_whoNow_3 3 rfl rfl)
theorem dX5_whoNow_77 : decode cX5_whoNow 77 = .ok (.iadd, 1) := dk_96 (dk_at dksX5_whoNow_3 5 rfl rfl)
theorem dX5_whoNow_78 : decode cX5_whoNow 78 = .ok (.iaload, 1) := dk_46 (dk_at dksX5_whoNow_3 6 rfl rfl)
theorem dX5_whoNow_79 : decode cX5_whoNow 79 = .ok (.aload_n 0, 1) := dk_42 (dk_at dksX5_whoNow_3 7 rfl rfl)
theorem dX5_whoNow_80 : decode cX5_whoNow 80 = .ok (.getfield 117, 3) := dk_180 0 117 (dk_at dksX5_whoNow_3 8 rfl rfl)
theorem dX5_whoNow_83 : decode cX5_whoNow 83 = .ok (.iload 4, 2) := dk_21 4 (dk_at dksX5_whoNow_3 11 rfl rfl)
theorem dX5_whoNow_85 : decode cX5_whoNow 85 = .ok (.iaload, 1) := dk_46 (dk_at dksX5_whoNow_3 13 rfl rfl)
theorem dX5_whoNow_86 : decode cX5_whoNow 86 = .ok (.if_icmp .eq 12, 3) := dk_159 0 12 (dk_at dksX5_whoNow_3 14 rfl rfl)
theorem dX5_whoNow_89 : decode cX5_whoNow 89 = .ok (.iconst 1, 1) := dk_4 (dk_at dksX5_whoNow_3 17 rfl rfl)
theorem dX5_whoNow_90 : decode cX5_whoNow 90 = .ok (.iload 5, 2) := dk_21 5 (dk_at dksX5_whoNow_3 18 rfl rfl)
theorem dX5_whoNow_92 : decode cX5_whoNow 92 = .ok (.ishl, 1) := dk_120 (dk_at dksX5_whoNow_3 20 rfl rfl)
theorem dX5_whoNow_93 : decode cX5_whoNow 93 = .ok (.iconst (-1), 1) := dk_2 (dk_at dksX5_whoNow_3 21 rfl rfl)
theorem dX5_whoNow_94 : decode cX5_whoNow 94 = .ok (.ixor, 1) := dk_130 (dk_at dksX5_whoNow_3 22 rfl rfl)
theorem dX5_whoNow_95 : decode cX5_whoNow 95 = .ok (.goto 4, 3) := dk_167 0 4 (dk_at dksX5_whoNow_4 0 rfl rfl)
theorem dX5_whoNow_98 : decode cX5_whoNow 98 = .ok (.iconst (-1), 1) := dk_2 (dk_at dksX5_whoNow_4 3 rfl rfl)
theorem dX5_whoNow_99 : decode cX5_whoNow 99 = .ok (.iand, 1) := dk_126 (dk_at dksX5_whoNow_4 4 rfl rfl)
theorem dX5_whoNow_100 : decode cX5_whoNow 100 = .ok (.istore_n 1, 1) := dk_60 (dk_at dksX5_whoNow_4 5 rfl rfl)
theorem dX5_whoNow_101 : decode cX5_whoNow 101 = .ok (.iinc 5 1, 3) := dk_132 5 1 (dk_at dksX5_whoNow_4 6 rfl rfl)
theorem dX5_whoNow_104 : decode cX5_whoNow 104 = .ok (.goto (-59), 3) := dk_167 255 197 (dk_at dksX5_whoNow_4 9 rfl rfl)
theorem dX5_whoNow_107 : decode cX5_whoNow 107 = .ok (.iinc 3 1, 3) := dk_132 3 1 (dk_at dksX5_whoNow_4 12 rfl rfl)
theorem dX5_whoNow_110 : decode cX5_whoNow 110 = .ok (.goto (-87), 3) := dk_167 255 169 (dk_at dksX5_whoNow_4 15 rfl rfl)
theorem dX5_whoNow_113 : decode cX5_whoNow 113 = .ok (.aload_n 0, 1) := dk_42 (dk_at dksX5_whoNow_4 18 rfl rfl)
theorem dX5_whoNow_114 : decode cX5_whoNow 114 = .ok (.sipush 987, 3) := dk_17 3 219 (dk_at dksX5_whoNow_4 19 rfl rfl)
theorem dX5_whoNow_117 : decode cX5_whoNow 117 = .ok (.invokevirtual 344, 3) := dk_182 1 88 (dk_at dksX5_whoNow_5 0 rfl rfl)
theorem dX5_whoNow_120 : decode cX5_whoNow 120 = .ok (.iinc 2 1, 3) := dk_132 2 1 (dk_at dksX5_whoNow_5 3 rfl rfl)
theorem dX5_whoNow_123 : decode cX5_whoNow 123 = .ok (.goto (-108), 3) := dk_167 255 148 (dk_at dksX5_whoNow_5 6 rfl rfl)
theorem dX5_whoNow_126 : decode cX5_whoNow 126 = .ok (.iload_n 1, 1) := dk_27 (dk_at dksX5_whoNow_5 9 rfl rfl)
theorem dX5_whoNow_127 : decode cX5_whoNow 127 = .ok (.ireturn, 1) := dk_172 (dk_at dksX5_whoNow_5 10 rfl rfl)
abbrev cX5_look : ByteArray := prog_23_method_92_code
def yX5_look : MethodName := ⟨RX5, "look", "()I"⟩
def dkwX5_look_5 : List UInt8 := [132, 4, 1, 167, 255, 160, 28, 172]
abbrev dktX5_look_5 : List UInt8 := dkwX5_look_5 ++ []
def dkwX5_look_4 : List UInt8 := [28, 61, 21, 5, 29, 162, 0, 8, 21, 5, 167, 0, 4, 29, 62, 42, 17, 3, 219, 182, 1, 88]
abbrev dktX5_look_4 : List UInt8 := dkwX5_look_4 ++ dktX5_look_5
def dkwX5_look_3 : List UInt8 := [167, 0, 5, 21, 5, 54, 5, 132, 6, 1, 167, 255, 212, 21, 5, 29, 162, 0, 8, 21, 4, 167, 0, 4]
abbrev dktX5_look_3 : List UInt8 := dkwX5_look_3 ++ dktX5_look_4
def dkwX5_look_2 : List UInt8 := [17, 3, 219, 21, 6, 182, 1, 45, 27, 126, 184, 1, 60, 54, 7, 21, 7, 21, 5, 164, 0, 8, 21, 7]
abbrev dktX5_look_2 : List UInt8 := dkwX5_look_2 ++ dktX5_look_3
def dkwX5_look_1 : List UInt8 := [21, 4, 16, 24, 163, 0, 95, 3, 54, 5, 2, 54, 6, 21, 6, 42, 182, 1, 14, 162, 0, 41, 42]
abbrev dktX5_look_1 : List UInt8 := dkwX5_look_1 ++ dktX5_look_2
def dkwX5_look_0 : List UInt8 := [42, 3, 181, 0, 1, 42, 182, 1, 112, 60, 2, 61, 27, 184, 1, 60, 62, 42, 182, 1, 94, 3, 54, 4]
abbrev dktX5_look_0 : List UInt8 := dkwX5_look_0 ++ dktX5_look_1
theorem dksX5_look_0 : cX5_look.data.toList.drop 0 = dktX5_look_0 := by decide +kernel
theorem dksX5_look_1 : cX5_look.data.toList.drop 24 = dktX5_look_1 := dk_seg dksX5_look_0 24 rfl rfl
theorem dksX5_look_2 : cX5_look.data.toList.drop 47 = dktX5_look_2 := dk_seg dksX5_look_1 23 rfl rfl
theorem dksX5_look_3 : cX5_look.data.toList.drop 71 = dktX5_look_3 := dk_seg dksX5_look_2 24 rfl rfl
theorem dksX5_look_4 : cX5_look.data.toList.drop 95 = dktX5_look_4 := dk_seg dksX5_look_3 24 rfl rfl
theorem dksX5_look_5 : cX5_look.data.toList.drop 117 = dktX5_look_5 := dk_seg dksX5_look_4 22 rfl rfl
theorem dX5_look_0 : decode cX5_look 0 = .ok (.aload_n 0, 1) := dk_42 (dk_at dksX5_look_0 0 rfl rfl)
theorem dX5_look_1 : decode cX5_look 1 = .ok (.iconst 0, 1) := dk_3 (dk_at dksX5_look_0 1 rfl rfl)
theorem dX5_look_2 : decode cX5_look 2 = .ok (.putfield 1, 3) := dk_181 0 1 (dk_at dksX5_look_0 2 rfl rfl)
theorem dX5_look_5 : decode cX5_look 5 = .ok (.aload_n 0, 1) := dk_42 (dk_at dksX5_look_0 5 rfl rfl)
theorem dX5_look_6 : decode cX5_look 6 = .ok (.invokevirtual 368, 3) := dk_182 1 112 (dk_at dksX5_look_0 6 rfl rfl)
theorem dX5_look_9 : decode cX5_look 9 = .ok (.istore_n 1, 1) := dk_60 (dk_at dksX5_look_0 9 rfl rfl)
theorem dX5_look_10 : decode cX5_look 10 = .ok (.iconst (-1), 1) := dk_2 (dk_at dksX5_look_0 10 rfl rfl)
theorem dX5_look_11 : decode cX5_look 11 = .ok (.istore_n 2, 1) := dk_61 (dk_at dksX5_look_0 11 rfl rfl)
theorem dX5_look_12 : decode cX5_look 12 = .ok (.iload_n 1, 1) := dk_27 (dk_at dksX5_look_0 12 rfl rfl)
theorem dX5_look_13 : decode cX5_look 13 = .ok (.invokestatic 316, 3) := dk_184 1 60 (dk_at dksX5_look_0 13 rfl rfl)
theorem dX5_look_16 : decode cX5_look 16 = .ok (.istore_n 3, 1) := dk_62 (dk_at dksX5_look_0 16 rfl rfl)
theorem dX5_look_17 : decode cX5_look 17 = .ok (.aload_n 0, 1) := dk_42 (dk_at dksX5_look_0 17 rfl rfl)
theorem dX5_look_18 : decode cX5_look 18 = .ok (.invokevirtual 350, 3) := dk_182 1 94 (dk_at dksX5_look_0 18 rfl rfl)
theorem dX5_look_21 : decode cX5_look 21 = .ok (.iconst 0, 1) := dk_3 (dk_at dksX5_look_0 21 rfl rfl)
theorem dX5_look_22 : decode cX5_look 22 = .ok (.istore 4, 2) := dk_54 4 (dk_at dksX5_look_0 22 rfl rfl)
theorem dX5_look_24 : decode cX5_look 24 = .ok (.iload 4, 2) := dk_21 4 (dk_at dksX5_look_1 0 rfl rfl)
theorem dX5_look_26 : decode cX5_look 26 = .ok (.bipush 24, 2) := dk_16 24 (dk_at dksX5_look_1 2 rfl rfl)
theorem dX5_look_28 : decode cX5_look 28 = .ok (.if_icmp .gt 95, 3) := dk_163 0 95 (dk_at dksX5_look_1 4 rfl rfl)
theorem dX5_look_31 : decode cX5_look 31 = .ok (.iconst 0, 1) := dk_3 (dk_at dksX5_look_1 7 rfl rfl)
theorem dX5_look_32 : decode cX5_look 32 = .ok (.istore 5, 2) := dk_54 5 (dk_at dksX5_look_1 8 rfl rfl)
theorem dX5_look_34 : decode cX5_look 34 = .ok (.iconst (-1), 1) := dk_2 (dk_at dksX5_look_1 10 rfl rfl)
theorem dX5_look_35 : decode cX5_look 35 = .ok (.istore 6, 2) := dk_54 6 (dk_at dksX5_look_1 11 rfl rfl)
theorem dX5_look_37 : decode cX5_look 37 = .ok (.iload 6, 2) := dk_21 6 (dk_at dksX5_look_1 13 rfl rfl)
theorem dX5_look_39 : decode cX5_look 39 = .ok (.aload_n 0, 1) := dk_42 (dk_at dksX5_look_1 15 rfl rfl)
theorem dX5_look_40 : decode cX5_look 40 = .ok (.invokevirtual 270, 3) := dk_182 1 14 (dk_at dksX5_look_1 16 rfl rfl)
theorem dX5_look_43 : decode cX5_look 43 = .ok (.if_icmp .ge 41, 3) := dk_162 0 41 (dk_at dksX5_look_1 19 rfl rfl)
theorem dX5_look_46 : decode cX5_look 46 = .ok (.aload_n 0, 1) := dk_42 (dk_at dksX5_look_1 22 rfl rfl)
theorem dX5_look_47 : decode cX5_look 47 = .ok (.sipush 987, 3) := dk_17 3 219 (dk_at dksX5_look_2 0 rfl rfl)
theorem dX5_look_50 : decode cX5_look 50 = .ok (.iload 6, 2) := dk_21 6 (dk_at dksX5_look_2 3 rfl rfl)
theorem dX5_look_52 : decode cX5_look 52 = .ok (.invokevirtual 301, 3) := dk_182 1 45 (dk_at dksX5_look_2 5 rfl rfl)
theorem dX5_look_55 : decode cX5_look 55 = .ok (.iload_n 1, 1) := dk_27 (dk_at dksX5_look_2 8 rfl rfl)
theorem dX5_look_56 : decode cX5_look 56 = .ok (.iand, 1) := dk_126 (dk_at dksX5_look_2 9 rfl rfl)
theorem dX5_look_57 : decode cX5_look 57 = .ok (.invokestatic 316, 3) := dk_184 1 60 (dk_at dksX5_look_2 10 rfl rfl)
theorem dX5_look_60 : decode cX5_look 60 = .ok (.istore 7, 2) := dk_54 7 (dk_at dksX5_look_2 13 rfl rfl)
theorem dX5_look_62 : decode cX5_look 62 = .ok (.iload 7, 2) := dk_21 7 (dk_at dksX5_look_2 15 rfl rfl)
theorem dX5_look_64 : decode cX5_look 64 = .ok (.iload 5, 2) := dk_21 5 (dk_at dksX5_look_2 17 rfl rfl)
theorem dX5_look_66 : decode cX5_look 66 = .ok (.if_icmp .le 8, 3) := dk_164 0 8 (dk_at dksX5_look_2 19 rfl rfl)
theorem dX5_look_69 : decode cX5_look 69 = .ok (.iload 7, 2) := dk_21 7 (dk_at dksX5_look_2 22 rfl rfl)
theorem dX5_look_71 : decode cX5_look 71 = .ok (.goto 5, 3) := dk_167 0 5 (dk_at dksX5_look_3 0 rfl rfl)
theorem dX5_look_74 : decode cX5_look 74 = .ok (.iload 5, 2) := dk_21 5 (dk_at dksX5_look_3 3 rfl rfl)
theorem dX5_look_76 : decode cX5_look 76 = .ok (.istore 5, 2) := dk_54 5 (dk_at dksX5_look_3 5 rfl rfl)
theorem dX5_look_78 : decode cX5_look 78 = .ok (.iinc 6 1, 3) := dk_132 6 1 (dk_at dksX5_look_3 7 rfl rfl)
theorem dX5_look_81 : decode cX5_look 81 = .ok (.goto (-44), 3) := dk_167 255 212 (dk_at dksX5_look_3 10 rfl rfl)
theorem dX5_look_84 : decode cX5_look 84 = .ok (.iload 5, 2) := dk_21 5 (dk_at dksX5_look_3 13 rfl rfl)
theorem dX5_look_86 : decode cX5_look 86 = .ok (.iload_n 3, 1) := dk_29 (dk_at dksX5_look_3 15 rfl rfl)
theorem dX5_look_87 : decode cX5_look 87 = .ok (.if_icmp .ge 8, 3) := dk_162 0 8 (dk_at dksX5_look_3 16 rfl rfl)
theorem dX5_look_90 : decode cX5_look 90 = .ok (.iload 4, 2) := dk_21 4 (dk_at dksX5_look_3 19 rfl rfl)
theorem dX5_look_92 : decode cX5_look 92 = .ok (.goto 4, 3) := dk_167 0 4 (dk_at dksX5_look_3 21 rfl rfl)
theorem dX5_look_95 : decode cX5_look 95 = .ok (.iload_n 2, 1) := dk_28 (dk_at dksX5_look_4 0 rfl rfl)
theorem dX5_look_96 : decode cX5_look 96 = .ok (.istore_n 2, 1) := dk_61 (dk_at dksX5_look_4 1 rfl rfl)
theorem dX5_look_97 : decode cX5_look 97 = .ok (.iload 5, 2) := dk_21 5 (dk_at dksX5_look_4 2 rfl rfl)
theorem dX5_look_99 : decode cX5_look 99 = .ok (.iload_n 3, 1) := dk_29 (dk_at dksX5_look_4 4 rfl rfl)
theorem dX5_look_100 : decode cX5_look 100 = .ok (.if_icmp .ge 8, 3) := dk_162 0 8 (dk_at dksX5_look_4 5 rfl rfl)
theorem dX5_look_103 : decode cX5_look 103 = .ok (.iload 5, 2) := dk_21 5 (dk_at dksX5_look_4 8 rfl rfl)
theorem dX5_look_105 : decode cX5_look 105 = .ok (.goto 4, 3) := dk_167 0 4 (dk_at dksX5_look_4 10 rfl rfl)
theorem dX5_look_108 : decode cX5_look 108 = .ok (.iload_n 3, 1) := dk_29 (dk_at dksX5_look_4 13 rfl rfl)
theorem dX5_look_109 : decode cX5_look 109 = .ok (.istore_n 3, 1) := dk_62 (dk_at dksX5_look_4 14 rfl rfl)
theorem dX5_look_110 : decode cX5_look 110 = .ok (.aload_n 0, 1) := dk_42 (dk_at dksX5_look_4 15 rfl rfl)
theorem dX5_look_111 : decode cX5_look 111 = .ok (.sipush 987, 3) := dk_17 3 219 (dk_at dksX5_look_4 16 rfl rfl)
theorem dX5_look_114 : decode cX5_look 114 = .ok (.invokevirtual 344, 3) := dk_182 1 88 (dk_at dksX5_look_4 19 rfl rfl)
theorem dX5_look_117 : decode cX5_look 117 = .ok (.iinc 4 1, 3) := dk_132 4 1 (dk_at dksX5_look_5 0 rfl rfl)
theorem dX5_look_120 : decode cX5_look 120 = .ok (.goto (-96), 3) := dk_167 255 160 (dk_at dksX5_look_5 3 rfl rfl)
theorem dX5_look_123 : decode cX5_look 123 = .ok (.iload_n 2, 1) := dk_28 (dk_at dksX5_look_5 6 rfl rfl)
theorem dX5_look_124 : decode cX5_look 124 = .ok (.ireturn, 1) := dk_172 (dk_at dksX5_look_5 7 rfl rfl)
abbrev cX5_through : ByteArray := prog_23_method_93_code
def yX5_through : MethodName := ⟨RX5, "through", "(II)I"⟩
def dkwX5_through_4 : List UInt8 := [167, 255, 218, 21, 5, 62, 132, 4, 1, 167, 255, 177, 2, 172]
abbrev dktX5_through_4 : List UInt8 := dkwX5_through_4 ++ []
def dkwX5_through_3 : List UInt8 := [4, 126, 4, 160, 0, 13, 42, 21, 6, 4, 182, 1, 18, 167, 0, 4, 3, 128, 54, 5, 132, 6, 1]
abbrev dktX5_through_3 : List UInt8 := dkwX5_through_3 ++ dktX5_through_4
def dkwX5_through_2 : List UInt8 := [21, 4, 172, 29, 54, 5, 3, 54, 6, 21, 6, 42, 182, 1, 14, 162, 0, 35, 21, 5, 29, 21, 6, 122]
abbrev dktX5_through_2 : List UInt8 := dkwX5_through_2 ++ dktX5_through_3
def dkwX5_through_1 : List UInt8 := [21, 4, 7, 162, 0, 79, 42, 28, 182, 1, 76, 153, 0, 71, 29, 28, 122, 4, 126, 4, 160, 0, 6]
abbrev dktX5_through_1 : List UInt8 := dkwX5_through_1 ++ dktX5_through_2
def dkwX5_through_0 : List UInt8 := [42, 3, 181, 0, 1, 42, 27, 182, 1, 76, 153, 0, 9, 4, 27, 120, 167, 0, 4, 3, 62, 3, 54, 4]
abbrev dktX5_through_0 : List UInt8 := dkwX5_through_0 ++ dktX5_through_1
theorem dksX5_through_0 : cX5_through.data.toList.drop 0 = dktX5_through_0 := by decide +kernel
theorem dksX5_through_1 : cX5_through.data.toList.drop 24 = dktX5_through_1 := dk_seg dksX5_through_0 24 rfl rfl
theorem dksX5_through_2 : cX5_through.data.toList.drop 47 = dktX5_through_2 := dk_seg dksX5_through_1 23 rfl rfl
theorem dksX5_through_3 : cX5_through.data.toList.drop 71 = dktX5_through_3 := dk_seg dksX5_through_2 24 rfl rfl
theorem dksX5_through_4 : cX5_through.data.toList.drop 94 = dktX5_through_4 := dk_seg dksX5_through_3 23 rfl rfl
theorem dX5_through_0 : decode cX5_through 0 = .ok (.aload_n 0, 1) := dk_42 (dk_at dksX5_through_0 0 rfl rfl)
theorem dX5_through_1 : decode cX5_through 1 = .ok (.iconst 0, 1) := dk_3 (dk_at dksX5_through_0 1 rfl rfl)
theorem dX5_through_2 : decode cX5_through 2 = .ok (.putfield 1, 3) := dk_181 0 1 (dk_at dksX5_through_0 2 rfl rfl)
theorem dX5_through_5 : decode cX5_through 5 = .ok (.aload_n 0, 1) := dk_42 (dk_at dksX5_through_0 5 rfl rfl)
theorem dX5_through_6 : decode cX5_through 6 = .ok (.iload_n 1, 1) := dk_27 (dk_at dksX5_through_0 6 rfl rfl)
theorem dX5_through_7 : decode cX5_through 7 = .ok (.invokevirtual 332, 3) := dk_182 1 76 (dk_at dksX5_through_0 7 rfl rfl)
theorem dX5_through_10 : decode cX5_through 10 = .ok (.ifCond .eq 9, 3) := dk_153 0 9 (dk_at dksX5_through_0 10 rfl rfl)
theorem dX5_through_13 : decode cX5_through 13 = .ok (.iconst 1, 1) := dk_4 (dk_at dksX5_through_0 13 rfl rfl)
theorem dX5_through_14 : decode cX5_through 14 = .ok (.iload_n 1, 1) := dk_27 (dk_at dksX5_through_0 14 rfl rfl)
theorem dX5_through_15 : decode cX5_through 15 = .ok (.ishl, 1) := dk_120 (dk_at dksX5_through_0 15 rfl rfl)
theorem dX5_through_16 : decode cX5_through 16 = .ok (.goto 4, 3) := dk_167 0 4 (dk_at dksX5_through_0 16 rfl rfl)
theorem dX5_through_19 : decode cX5_through 19 = .ok (.iconst 0, 1) := dk_3 (dk_at dksX5_through_0 19 rfl rfl)
theorem dX5_through_20 : decode cX5_through 20 = .ok (.istore_n 3, 1) := dk_62 (dk_at dksX5_through_0 20 rfl rfl)
theorem dX5_through_21 : decode cX5_through 21 = .ok (.iconst 0, 1) := dk_3 (dk_at dksX5_through_0 21 rfl rfl)
theorem dX5_through_22 : decode cX5_through 22 = .ok (.istore 4, 2) := dk_54 4 (dk_at dksX5_through_0 22 rfl rfl)
theorem dX5_through_24 : decode cX5_through 24 = .ok (.iload 4, 2) := dk_21 4 (dk_at dksX5_through_1 0 rfl rfl)
theorem dX5_through_26 : decode cX5_through 26 = .ok (.iconst 4, 1) := dk_7 (dk_at dksX5_through_1 2 rfl rfl)
theorem dX5_through_27 : decode cX5_through 27 = .ok (.if_icmp .ge 79, 3) := dk_162 0 79 (dk_at dksX5_through_1 3 rfl rfl)
theorem dX5_through_30 : decode cX5_through 30 = .ok (.aload_n 0, 1) := dk_42 (dk_at dksX5_through_1 6 rfl rfl)
theorem dX5_through_31 : decode cX5_through 31 = .ok (.iload_n 2, 1) := dk_28 (dk_at dksX5_through_1 7 rfl rfl)
theorem dX5_through_32 : decode cX5_through 32 = .ok (.invokevirtual 332, 3) := dk_182 1 76 (dk_at dksX5_through_1 8 rfl rfl)
theorem dX5_through_35 : decode cX5_through 35 = .ok (.ifCond .eq 71, 3) := dk_153 0 71 (dk_at dksX5_through_1 11 rfl rfl)
theorem dX5_through_38 : decode cX5_through 38 = .ok (.iload_n 3, 1) := dk_29 (dk_at dksX5_through_1 14 rfl rfl)
theorem dX5_through_39 : decode cX5_through 39 = .ok (.iload_n 2, 1) := dk_28 (dk_at dksX5_through_1 15 rfl rfl)
theorem dX5_through_40 : decode cX5_through 40 = .ok (.ishr, 1) := dk_122 (dk_at dksX5_through_1 16 rfl rfl)
theorem dX5_through_41 : decode cX5_through 41 = .ok (.iconst 1, 1) := dk_4 (dk_at dksX5_through_1 17 rfl rfl)
theorem dX5_through_42 : decode cX5_through 42 = .ok (.iand, 1) := dk_126 (dk_at dksX5_through_1 18 rfl rfl)
theorem dX5_through_43 : decode cX5_through 43 = .ok (.iconst 1, 1) := dk_4 (dk_at dksX5_through_1 19 rfl rfl)
theorem dX5_through_44 : decode cX5_through 44 = .ok (.if_icmp .ne 6, 3) := dk_160 0 6 (dk_at dksX5_through_1 20 rfl rfl)
theorem dX5_through_47 : decode cX5_through 47 = .ok (.iload 4, 2) := dk_21 4 (dk_at dksX5_through_2 0 rfl rfl)
theorem dX5_through_49 : decode cX5_through 49 = .ok (.ireturn, 1) := dk_172 (dk_at dksX5_through_2 2 rfl rfl)
theorem dX5_through_50 : decode cX5_through 50 = .ok (.iload_n 3, 1) := dk_29 (dk_at dksX5_through_2 3 rfl rfl)
theorem dX5_through_51 : decode cX5_through 51 = .ok (.istore 5, 2) := dk_54 5 (dk_at dksX5_through_2 4 rfl rfl)
theorem dX5_through_53 : decode cX5_through 53 = .ok (.iconst 0, 1) := dk_3 (dk_at dksX5_through_2 6 rfl rfl)
theorem dX5_through_54 : decode cX5_through 54 = .ok (.istore 6, 2) := dk_54 6 (dk_at dksX5_through_2 7 rfl rfl)
theorem dX5_through_56 : decode cX5_through 56 = .ok (.iload 6, 2) := dk_21 6 (dk_at dksX5_through_2 9 rfl rfl)
theorem dX5_through_58 : decode cX5_through 58 = .ok (.aload_n 0, 1) := dk_42 (dk_at dksX5_through_2 11 rfl rfl)
theorem dX5_through_59 : decode cX5_through 59 = .ok (.invokevirtual 270, 3) := dk_182 1 14 (dk_at dksX5_through_2 12 rfl rfl)
theorem dX5_through_62 : decode cX5_through 62 = .ok (.if_icmp .ge 35, 3) := dk_162 0 35 (dk_at dksX5_through_2 15 rfl rfl)
theorem dX5_through_65 : decode cX5_through 65 = .ok (.iload 5, 2) := dk_21 5 (dk_at dksX5_through_2 18 rfl rfl)
theorem dX5_through_67 : decode cX5_through 67 = .ok (.iload_n 3, 1) := dk_29 (dk_at dksX5_through_2 20 rfl rfl)
theorem dX5_through_68 : decode cX5_through 68 = .ok (.iload 6, 2) := dk_21 6 (dk_at dksX5_through_2 21 rfl rfl)
theorem dX5_through_70 : decode cX5_through 70 = .ok (.ishr, 1) := dk_122 (dk_at dksX5_through_2 23 rfl rfl)
theorem dX5_through_71 : decode cX5_through 71 = .ok (.iconst 1, 1) := dk_4 (dk_at dksX5_through_3 0 rfl rfl)
theorem dX5_through_72 : decode cX5_through 72 = .ok (.iand, 1) := dk_126 (dk_at dksX5_through_3 1 rfl rfl)
theorem dX5_through_73 : decode cX5_through 73 = .ok (.iconst 1, 1) := dk_4 (dk_at dksX5_through_3 2 rfl rfl)
theorem dX5_through_74 : decode cX5_through 74 = .ok (.if_icmp .ne 13, 3) := dk_160 0 13 (dk_at dksX5_through_3 3 rfl rfl)
theorem dX5_through_77 : decode cX5_through 77 = .ok (.aload_n 0, 1) := dk_42 (dk_at dksX5_through_3 6 rfl rfl)
theorem dX5_through_78 : decode cX5_through 78 = .ok (.iload 6, 2) := dk_21 6 (dk_at dksX5_through_3 7 rfl rfl)
theorem dX5_through_80 : decode cX5_through 80 = .ok (.iconst 1, 1) := dk_4 (dk_at dksX5_through_3 9 rfl rfl)
theorem dX5_through_81 : decode cX5_through 81 = .ok (.invokevirtual 274, 3) := dk_182 1 18 (dk_at dksX5_through_3 10 rfl rfl)
theorem dX5_through_84 : decode cX5_through 84 = .ok (.goto 4, 3) := dk_167 0 4 (dk_at dksX5_through_3 13 rfl rfl)
theorem dX5_through_87 : decode cX5_through 87 = .ok (.iconst 0, 1) := dk_3 (dk_at dksX5_through_3 16 rfl rfl)
theorem dX5_through_88 : decode cX5_through 88 = .ok (.ior, 1) := dk_128 (dk_at dksX5_through_3 17 rfl rfl)
theorem dX5_through_89 : decode cX5_through 89 = .ok (.istore 5, 2) := dk_54 5 (dk_at dksX5_through_3 18 rfl rfl)
theorem dX5_through_91 : decode cX5_through 91 = .ok (.iinc 6 1, 3) := dk_132 6 1 (dk_at dksX5_through_3 20 rfl rfl)
theorem dX5_through_94 : decode cX5_through 94 = .ok (.goto (-38), 3) := dk_167 255 218 (dk_at dksX5_through_4 0 rfl rfl)
theorem dX5_through_97 : decode cX5_through 97 = .ok (.iload 5, 2) := dk_21 5 (dk_at dksX5_through_4 3 rfl rfl)
theorem dX5_through_99 : decode cX5_through 99 = .ok (.istore_n 3, 1) := dk_62 (dk_at dksX5_through_4 5 rfl rfl)
theorem dX5_through_100 : decode cX5_through 100 = .ok (.iinc 4 1, 3) := dk_132 4 1 (dk_at dksX5_through_4 6 rfl rfl)
theorem dX5_through_103 : decode cX5_through 103 = .ok (.goto (-79), 3) := dk_167 255 177 (dk_at dksX5_through_4 9 rfl rfl)
theorem dX5_through_106 : decode cX5_through 106 = .ok (.iconst (-1), 1) := dk_2 (dk_at dksX5_through_4 12 rfl rfl)
theorem dX5_through_107 : decode cX5_through 107 = .ok (.ireturn, 1) := dk_172 (dk_at dksX5_through_4 13 rfl rfl)
abbrev cX5_quiet : ByteArray := prog_23_method_94_code
def yX5_quiet : MethodName := ⟨RX5, "quiet", "()I"⟩
def dkwX5_quiet_2 : List UInt8 := [27, 60, 132, 2, 1, 167, 255, 214, 27, 172]
abbrev dktX5_quiet_2 : List UInt8 := dkwX5_quiet_2 ++ []
def dkwX5_quiet_1 : List UInt8 := [180, 0, 117, 16, 18, 28, 96, 46, 42, 180, 0, 117, 16, 18, 27, 96, 46, 162, 0, 7, 28, 167, 0, 4]
abbrev dktX5_quiet_1 : List UInt8 := dkwX5_quiet_1 ++ dktX5_quiet_2
def dkwX5_quiet_0 : List UInt8 := [42, 3, 181, 0, 1, 2, 60, 3, 61, 28, 42, 182, 1, 21, 162, 0, 40, 27, 155, 0, 24, 42]
abbrev dktX5_quiet_0 : List UInt8 := dkwX5_quiet_0 ++ dktX5_quiet_1
theorem dksX5_quiet_0 : cX5_quiet.data.toList.drop 0 = dktX5_quiet_0 := by decide +kernel
theorem dksX5_quiet_1 : cX5_quiet.data.toList.drop 22 = dktX5_quiet_1 := dk_seg dksX5_quiet_0 22 rfl rfl
theorem dksX5_quiet_2 : cX5_quiet.data.toList.drop 46 = dktX5_quiet_2 := dk_seg dksX5_quiet_1 24 rfl rfl
theorem dX5_quiet_0 : decode cX5_quiet 0 = .ok (.aload_n 0, 1) := dk_42 (dk_at dksX5_quiet_0 0 rfl rfl)
theorem dX5_quiet_1 : decode cX5_quiet 1 = .ok (.iconst 0, 1) := dk_3 (dk_at dksX5_quiet_0 1 rfl rfl)
theorem dX5_quiet_2 : decode cX5_quiet 2 = .ok (.putfield 1, 3) := dk_181 0 1 (dk_at dksX5_quiet_0 2 rfl rfl)
theorem dX5_quiet_5 : decode cX5_quiet 5 = .ok (.iconst (-1), 1) := dk_2 (dk_at dksX5_quiet_0 5 rfl rfl)
theorem dX5_quiet_6 : decode cX5_quiet 6 = .ok (.istore_n 1, 1) := dk_60 (dk_at dksX5_quiet_0 6 rfl rfl)
theorem dX5_quiet_7 : decode cX5_quiet 7 = .ok (.iconst 0, 1) := dk_3 (dk_at dksX5_quiet_0 7 rfl rfl)
theorem dX5_quiet_8 : decode cX5_quiet 8 = .ok (.istore_n 2, 1) := dk_61 (dk_at dksX5_quiet_0 8 rfl rfl)
theorem dX5_quiet_9 : decode cX5_quiet 9 = .ok (.iload_n 2, 1) := dk_28 (dk_at dksX5_quiet_0 9 rfl rfl)
theorem dX5_quiet_10 : decode cX5_quiet 10 = .ok (.aload_n 0, 1) := dk_42 (dk_at dksX5_quiet_0 10 rfl rfl)
theorem dX5_quiet_11 : decode cX5_quiet 11 = .ok (.invokevirtual 277, 3) := dk_182 1 21 (dk_at dksX5_quiet_0 11 rfl rfl)
theorem dX5_quiet_14 : decode cX5_quiet 14 = .ok (.if_icmp .ge 40, 3) := dk_162 0 40 (dk_at dksX5_quiet_0 14 rfl rfl)
theorem dX5_quiet_17 : decode cX5_quiet 17 = .ok (.iload_n 1, 1) := dk_27 (dk_at dksX5_quiet_0 17 rfl rfl)
theorem dX5_quiet_18 : decode cX5_quiet 18 = .ok (.ifCond .lt 24, 3) := dk_155 0 24 (dk_at dksX5_quiet_0 18 rfl rfl)
theorem dX5_quiet_21 : decode cX5_quiet 21 = .ok (.aload_n 0, 1) := dk_42 (dk_at dksX5_quiet_0 21 rfl rfl)
theorem dX5_quiet_22 : decode cX5_quiet 22 = .ok (.getfield 117, 3) := dk_180 0 117 (dk_at dksX5_quiet_1 0 rfl rfl)
theorem dX5_quiet_25 : decode cX5_quiet 25 = .ok (.bipush 18, 2) := dk_16 18 (dk_at dksX5_quiet_1 3 rfl rfl)
theorem dX5_quiet_27 : decode cX5_quiet 27 = .ok (.iload_n 2, 1) := dk_28 (dk_at dksX5_quiet_1 5 rfl rfl)
theorem dX5_quiet_28 : decode cX5_quiet 28 = .ok (.iadd, 1) := dk_96 (dk_at dksX5_quiet_1 6 rfl rfl)
theorem dX5_quiet_29 : decode cX5_quiet 29 = .ok (.iaload, 1) := dk_46 (dk_at dksX5_quiet_1 7 rfl rfl)
theorem dX5_quiet_30 : decode cX5_quiet 30 = .ok (.aload_n 0, 1) := dk_42 (dk_at dksX5_quiet_1 8 rfl rfl)
theorem dX5_quiet_31 : decode cX5_quiet 31 = .ok (.getfield 117, 3) := dk_180 0 117 (dk_at dksX5_quiet_1 9 rfl rfl)
theorem dX5_quiet_34 : decode cX5_quiet 34 = .ok (.bipush 18, 2) := dk_16 18 (dk_at dksX5_quiet_1 12 rfl rfl)
theorem dX5_quiet_36 : decode cX5_quiet 36 = .ok (.iload_n 1, 1) := dk_27 (dk_at dksX5_quiet_1 14 rfl rfl)
theorem dX5_quiet_37 : decode cX5_quiet 37 = .ok (.iadd, 1) := dk_96 (dk_at dksX5_quiet_1 15 rfl rfl)
theorem dX5_quiet_38 : decode cX5_quiet 38 = .ok (.iaload, 1) := dk_46 (dk_at dksX5_quiet_1 16 rfl rfl)
theorem dX5_quiet_39 : decode cX5_quiet 39 = .ok (.if_icmp .ge 7, 3) := dk_162 0 7 (dk_at dksX5_quiet_1 17 rfl rfl)
theorem dX5_quiet_42 : decode cX5_quiet 42 = .ok (.iload_n 2, 1) := dk_28 (dk_at dksX5_quiet_1 20 rfl rfl)
theorem dX5_quiet_43 : decode cX5_quiet 43 = .ok (.goto 4, 3) := dk_167 0 4 (dk_at dksX5_quiet_1 21 rfl rfl)
theorem dX5_quiet_46 : decode cX5_quiet 46 = .ok (.iload_n 1, 1) := dk_27 (dk_at dksX5_quiet_2 0 rfl rfl)
theorem dX5_quiet_47 : decode cX5_quiet 47 = .ok (.istore_n 1, 1) := dk_60 (dk_at dksX5_quiet_2 1 rfl rfl)
theorem dX5_quiet_48 : decode cX5_quiet 48 = .ok (.iinc 2 1, 3) := dk_132 2 1 (dk_at dksX5_quiet_2 2 rfl rfl)
theorem dX5_quiet_51 : decode cX5_quiet 51 = .ok (.goto (-42), 3) := dk_167 255 214 (dk_at dksX5_quiet_2 5 rfl rfl)
theorem dX5_quiet_54 : decode cX5_quiet 54 = .ok (.iload_n 1, 1) := dk_27 (dk_at dksX5_quiet_2 8 rfl rfl)
theorem dX5_quiet_55 : decode cX5_quiet 55 = .ok (.ireturn, 1) := dk_172 (dk_at dksX5_quiet_2 9 rfl rfl)
abbrev cX5_peace : ByteArray := prog_23_method_95_code
def yX5_peace : MethodName := ⟨RX5, "peace", "()I"⟩
def dkwX5_peace_1 : List UInt8 := [184, 1, 60, 62, 27, 29, 29, 4, 100, 104, 5, 108, 96, 60, 132, 2, 1, 167, 255, 225, 27, 172]
abbrev dktX5_peace_1 : List UInt8 := dkwX5_peace_1 ++ []
def dkwX5_peace_0 : List UInt8 := [42, 3, 181, 0, 1, 3, 60, 3, 61, 28, 42, 182, 1, 14, 162, 0, 29, 42, 3, 28, 182, 1, 45]
abbrev dktX5_peace_0 : List UInt8 := dkwX5_peace_0 ++ dktX5_peace_1
theorem dksX5_peace_0 : cX5_peace.data.toList.drop 0 = dktX5_peace_0 := by decide +kernel
theorem dksX5_peace_1 : cX5_peace.data.toList.drop 23 = dktX5_peace_1 := dk_seg dksX5_peace_0 23 rfl rfl
theorem dX5_peace_0 : decode cX5_peace 0 = .ok (.aload_n 0, 1) := dk_42 (dk_at dksX5_peace_0 0 rfl rfl)
theorem dX5_peace_1 : decode cX5_peace 1 = .ok (.iconst 0, 1) := dk_3 (dk_at dksX5_peace_0 1 rfl rfl)
theorem dX5_peace_2 : decode cX5_peace 2 = .ok (.putfield 1, 3) := dk_181 0 1 (dk_at dksX5_peace_0 2 rfl rfl)
theorem dX5_peace_5 : decode cX5_peace 5 = .ok (.iconst 0, 1) := dk_3 (dk_at dksX5_peace_0 5 rfl rfl)
theorem dX5_peace_6 : decode cX5_peace 6 = .ok (.istore_n 1, 1) := dk_60 (dk_at dksX5_peace_0 6 rfl rfl)
theorem dX5_peace_7 : decode cX5_peace 7 = .ok (.iconst 0, 1) := dk_3 (dk_at dksX5_peace_0 7 rfl rfl)
theorem dX5_peace_8 : decode cX5_peace 8 = .ok (.istore_n 2, 1) := dk_61 (dk_at dksX5_peace_0 8 rfl rfl)
theorem dX5_peace_9 : decode cX5_peace 9 = .ok (.iload_n 2, 1) := dk_28 (dk_at dksX5_peace_0 9 rfl rfl)
theorem dX5_peace_10 : decode cX5_peace 10 = .ok (.aload_n 0, 1) := dk_42 (dk_at dksX5_peace_0 10 rfl rfl)
theorem dX5_peace_11 : decode cX5_peace 11 = .ok (.invokevirtual 270, 3) := dk_182 1 14 (dk_at dksX5_peace_0 11 rfl rfl)
theorem dX5_peace_14 : decode cX5_peace 14 = .ok (.if_icmp .ge 29, 3) := dk_162 0 29 (dk_at dksX5_peace_0 14 rfl rfl)
theorem dX5_peace_17 : decode cX5_peace 17 = .ok (.aload_n 0, 1) := dk_42 (dk_at dksX5_peace_0 17 rfl rfl)
theorem dX5_peace_18 : decode cX5_peace 18 = .ok (.iconst 0, 1) := dk_3 (dk_at dksX5_peace_0 18 rfl rfl)
theorem dX5_peace_19 : decode cX5_peace 19 = .ok (.iload_n 2, 1) := dk_28 (dk_at dksX5_peace_0 19 rfl rfl)
theorem dX5_peace_20 : decode cX5_peace 20 = .ok (.invokevirtual 301, 3) := dk_182 1 45 (dk_at dksX5_peace_0 20 rfl rfl)
theorem dX5_peace_23 : decode cX5_peace 23 = .ok (.invokestatic 316, 3) := dk_184 1 60 (dk_at dksX5_peace_1 0 rfl rfl)
theorem dX5_peace_26 : decode cX5_peace 26 = .ok (.istore_n 3, 1) := dk_62 (dk_at dksX5_peace_1 3 rfl rfl)
theorem dX5_peace_27 : decode cX5_peace 27 = .ok (.iload_n 1, 1) := dk_27 (dk_at dksX5_peace_1 4 rfl rfl)
theorem dX5_peace_28 : decode cX5_peace 28 = .ok (.iload_n 3, 1) := dk_29 (dk_at dksX5_peace_1 5 rfl rfl)
theorem dX5_peace_29 : decode cX5_peace 29 = .ok (.iload_n 3, 1) := dk_29 (dk_at dksX5_peace_1 6 rfl rfl)
theorem dX5_peace_30 : decode cX5_peace 30 = .ok (.iconst 1, 1) := dk_4 (dk_at dksX5_peace_1 7 rfl rfl)
theorem dX5_peace_31 : decode cX5_peace 31 = .ok (.isub, 1) := dk_100 (dk_at dksX5_peace_1 8 rfl rfl)
theorem dX5_peace_32 : decode cX5_peace 32 = .ok (.imul, 1) := dk_104 (dk_at dksX5_peace_1 9 rfl rfl)
theorem dX5_peace_33 : decode cX5_peace 33 = .ok (.iconst 2, 1) := dk_5 (dk_at dksX5_peace_1 10 rfl rfl)
theorem dX5_peace_34 : decode cX5_peace 34 = .ok (.idiv, 1) := dk_108 (dk_at dksX5_peace_1 11 rfl rfl)
theorem dX5_peace_35 : decode cX5_peace 35 = .ok (.iadd, 1) := dk_96 (dk_at dksX5_peace_1 12 rfl rfl)
theorem dX5_peace_36 : decode cX5_peace 36 = .ok (.istore_n 1, 1) := dk_60 (dk_at dksX5_peace_1 13 rfl rfl)
theorem dX5_peace_37 : decode cX5_peace 37 = .ok (.iinc 2 1, 3) := dk_132 2 1 (dk_at dksX5_peace_1 14 rfl rfl)
theorem dX5_peace_40 : decode cX5_peace 40 = .ok (.goto (-31), 3) := dk_167 255 225 (dk_at dksX5_peace_1 17 rfl rfl)
theorem dX5_peace_43 : decode cX5_peace 43 = .ok (.iload_n 1, 1) := dk_27 (dk_at dksX5_peace_1 20 rfl rfl)
theorem dX5_peace_44 : decode cX5_peace 44 = .ok (.ireturn, 1) := dk_172 (dk_at dksX5_peace_1 21 rfl rfl)
abbrev cX5_eldest : ByteArray := prog_23_method_96_code
def yX5_eldest : MethodName := ⟨RX5, "eldest", "(I)I"⟩
def dkwX5_eldest_3 : List UInt8 := [132, 3, 1, 167, 255, 193, 28, 172]
abbrev dktX5_eldest_3 : List UInt8 := dkwX5_eldest_3 ++ []
def dkwX5_eldest_2 : List UInt8 := [16, 12, 29, 96, 46, 42, 180, 0, 117, 16, 12, 28, 96, 46, 164, 0, 7, 29, 167, 0, 4, 28, 61]
abbrev dktX5_eldest_2 : List UInt8 := dkwX5_eldest_2 ++ dktX5_eldest_3
def dkwX5_eldest_1 : List UInt8 := [153, 0, 53, 42, 180, 0, 117, 16, 6, 29, 96, 46, 27, 160, 0, 32, 28, 155, 0, 24, 42, 180, 0, 117]
abbrev dktX5_eldest_1 : List UInt8 := dkwX5_eldest_1 ++ dktX5_eldest_2
def dkwX5_eldest_0 : List UInt8 := [42, 3, 181, 0, 1, 2, 61, 3, 62, 29, 42, 182, 1, 21, 162, 0, 61, 42, 27, 182, 1, 76]
abbrev dktX5_eldest_0 : List UInt8 := dkwX5_eldest_0 ++ dktX5_eldest_1
theorem dksX5_eldest_0 : cX5_eldest.data.toList.drop 0 = dktX5_eldest_0 := by decide +kernel
theorem dksX5_eldest_1 : cX5_eldest.data.toList.drop 22 = dktX5_eldest_1 := dk_seg dksX5_eldest_0 22 rfl rfl
theorem dksX5_eldest_2 : cX5_eldest.data.toList.drop 46 = dktX5_eldest_2 := dk_seg dksX5_eldest_1 24 rfl rfl
theorem dksX5_eldest_3 : cX5_eldest.data.toList.drop 69 = dktX5_eldest_3 := dk_seg dksX5_eldest_2 23 rfl rfl
theorem dX5_eldest_0 : decode cX5_eldest 0 = .ok (.aload_n 0, 1) := dk_42 (dk_at dksX5_eldest_0 0 rfl rfl)
theorem dX5_eldest_1 : decode cX5_eldest 1 = .ok (.iconst 0, 1) := dk_3 (dk_at dksX5_eldest_0 1 rfl rfl)
theorem dX5_eldest_2 : decode cX5_eldest 2 = .ok (.putfield 1, 3) := dk_181 0 1 (dk_at dksX5_eldest_0 2 rfl rfl)
theorem dX5_eldest_5 : decode cX5_eldest 5 = .ok (.iconst (-1), 1) := dk_2 (dk_at dksX5_eldest_0 5 rfl rfl)
theorem dX5_eldest_6 : decode cX5_eldest 6 = .ok (.istore_n 2, 1) := dk_61 (dk_at dksX5_eldest_0 6 rfl rfl)
theorem dX5_eldest_7 : decode cX5_eldest 7 = .ok (.iconst 0, 1) := dk_3 (dk_at dksX5_eldest_0 7 rfl rfl)
theorem dX5_eldest_8 : decode cX5_eldest 8 = .ok (.istore_n 3, 1) := dk_62 (dk_at dksX5_eldest_0 8 rfl rfl)
theorem dX5_eldest_9 : decode cX5_eldest 9 = .ok (.iload_n 3, 1) := dk_29 (dk_at dksX5_eldest_0 9 rfl rfl)
theorem dX5_eldest_10 : decode cX5_eldest 10 = .ok (.aload_n 0, 1) := dk_42 (dk_at dksX5_eldest_0 10 rfl rfl)
theorem dX5_eldest_11 : decode cX5_eldest 11 = .ok (.invokevirtual 277, 3) := dk_182 1 21 (dk_at dksX5_eldest_0 11 rfl rfl)
theorem dX5_eldest_14 : decode cX5_eldest 14 = .ok (.if_icmp .ge 61, 3) := dk_162 0 61 (dk_at dksX5_eldest_0 14 rfl rfl)
theorem dX5_eldest_17 : decode cX5_eldest 17 = .ok (.aload_n 0, 1) := dk_42 (dk_at dksX5_eldest_0 17 rfl rfl)
theorem dX5_eldest_18 : decode cX5_eldest 18 = .ok (.iload_n 1, 1) := dk_27 (dk_at dksX5_eldest_0 18 rfl rfl)
theorem dX5_eldest_19 : decode cX5_eldest 19 = .ok (.invokevirtual 332, 3) := dk_182 1 76 (dk_at dksX5_eldest_0 19 rfl rfl)
theorem dX5_eldest_22 : decode cX5_eldest 22 = .ok (.ifCond .eq 53, 3) := dk_153 0 53 (dk_at dksX5_eldest_1 0 rfl rfl)
theorem dX5_eldest_25 : decode cX5_eldest 25 = .ok (.aload_n 0, 1) := dk_42 (dk_at dksX5_eldest_1 3 rfl rfl)
theorem dX5_eldest_26 : decode cX5_eldest 26 = .ok (.getfield 117, 3) := dk_180 0 117 (dk_at dksX5_eldest_1 4 rfl rfl)
theorem dX5_eldest_29 : decode cX5_eldest 29 = .ok (.bipush 6, 2) := dk_16 6 (dk_at dksX5_eldest_1 7 rfl rfl)
theorem dX5_eldest_31 : decode cX5_eldest 31 = .ok (.iload_n 3, 1) := dk_29 (dk_at dksX5_eldest_1 9 rfl rfl)
theorem dX5_eldest_32 : decode cX5_eldest 32 = .ok (.iadd, 1) := dk_96 (dk_at dksX5_eldest_1 10 rfl rfl)
theorem dX5_eldest_33 : decode cX5_eldest 33 = .ok (.iaload, 1) := dk_46 (dk_at dksX5_eldest_1 11 rfl rfl)
theorem dX5_eldest_34 : decode cX5_eldest 34 = .ok (.iload_n 1, 1) := dk_27 (dk_at dksX5_eldest_1 12 rfl rfl)
theorem dX5_eldest_35 : decode cX5_eldest 35 = .ok (.if_icmp .ne 32, 3) := dk_160 0 32 (dk_at dksX5_eldest_1 13 rfl rfl)
theorem dX5_eldest_38 : decode cX5_eldest 38 = .ok (.iload_n 2, 1) := dk_28 (dk_at dksX5_eldest_1 16 rfl rfl)
theorem dX5_eldest_39 : decode cX5_eldest 39 = .ok (.ifCond .lt 24, 3) := dk_155 0 24 (dk_at dksX5_eldest_1 17 rfl rfl)
theorem dX5_eldest_42 : decode cX5_eldest 42 = .ok (.aload_n 0, 1) := dk_42 (dk_at dksX5_eldest_1 20 rfl rfl)
theorem dX5_eldest_43 : decode cX5_eldest 43 = .ok (.getfield 117, 3) := dk_180 0 117 (dk_at dksX5_eldest_1 21 rfl rfl)
theorem dX5_eldest_46 : decode cX5_eldest 46 = .ok (.bipush 12, 2) := dk_16 12 (dk_at dksX5_eldest_2 0 rfl rfl)
theorem dX5_eldest_48 : decode cX5_eldest 48 = .ok (.iload_n 3, 1) := dk_29 (dk_at dksX5_eldest_2 2 rfl rfl)
theorem dX5_eldest_49 : decode cX5_eldest 49 = .ok (.iadd, 1) := dk_96 (dk_at dksX5_eldest_2 3 rfl rfl)
theorem dX5_eldest_50 : decode cX5_eldest 50 = .ok (.iaload, 1) := dk_46 (dk_at dksX5_eldest_2 4 rfl rfl)
theorem dX5_eldest_51 : decode cX5_eldest 51 = .ok (.aload_n 0, 1) := dk_42 (dk_at dksX5_eldest_2 5 rfl rfl)
theorem dX5_eldest_52 : decode cX5_eldest 52 = .ok (.getfield 117, 3) := dk_180 0 117 (dk_at dksX5_eldest_2 6 rfl rfl)
theorem dX5_eldest_55 : decode cX5_eldest 55 = .ok (.bipush 12, 2) := dk_16 12 (dk_at dksX5_eldest_2 9 rfl rfl)
theorem dX5_eldest_57 : decode cX5_eldest 57 = .ok (.iload_n 2, 1) := dk_28 (dk_at dksX5_eldest_2 11 rfl rfl)
theorem dX5_eldest_58 : decode cX5_eldest 58 = .ok (.iadd, 1) := dk_96 (dk_at dksX5_eldest_2 12 rfl rfl)
theorem dX5_eldest_59 : decode cX5_eldest 59 = .ok (.iaload, 1) := dk_46 (dk_at dksX5_eldest_2 13 rfl rfl)
theorem dX5_eldest_60 : decode cX5_eldest 60 = .ok (.if_icmp .le 7, 3) := dk_164 0 7 (dk_at dksX5_eldest_2 14 rfl rfl)
theorem dX5_eldest_63 : decode cX5_eldest 63 = .ok (.iload_n 3, 1) := dk_29 (dk_at dksX5_eldest_2 17 rfl rfl)
theorem dX5_eldest_64 : decode cX5_eldest 64 = .ok (.goto 4, 3) := dk_167 0 4 (dk_at dksX5_eldest_2 18 rfl rfl)
theorem dX5_eldest_67 : decode cX5_eldest 67 = .ok (.iload_n 2, 1) := dk_28 (dk_at dksX5_eldest_2 21 rfl rfl)
theorem dX5_eldest_68 : decode cX5_eldest 68 = .ok (.istore_n 2, 1) := dk_61 (dk_at dksX5_eldest_2 22 rfl rfl)
theorem dX5_eldest_69 : decode cX5_eldest 69 = .ok (.iinc 3 1, 3) := dk_132 3 1 (dk_at dksX5_eldest_3 0 rfl rfl)
theorem dX5_eldest_72 : decode cX5_eldest 72 = .ok (.goto (-63), 3) := dk_167 255 193 (dk_at dksX5_eldest_3 3 rfl rfl)
theorem dX5_eldest_75 : decode cX5_eldest 75 = .ok (.iload_n 2, 1) := dk_28 (dk_at dksX5_eldest_3 6 rfl rfl)
theorem dX5_eldest_76 : decode cX5_eldest 76 = .ok (.ireturn, 1) := dk_172 (dk_at dksX5_eldest_3 7 rfl rfl)
abbrev cX5_loudest : ByteArray := prog_23_method_97_code
def yX5_loudest : MethodName := ⟨RX5, "loudest", "()I"⟩
def dkwX5_loudest_2 : List UInt8 := [3, 29, 182, 1, 79, 167, 0, 4, 28, 61, 132, 3, 1, 167, 255, 208, 27, 172]
abbrev dktX5_loudest_2 : List UInt8 := dkwX5_loudest_2 ++ []
def dkwX5_loudest_1 : List UInt8 := [182, 1, 79, 28, 164, 0, 7, 29, 167, 0, 4, 27, 60, 42, 3, 29, 182, 1, 79, 28, 164, 0, 12, 42]
abbrev dktX5_loudest_1 : List UInt8 := dkwX5_loudest_1 ++ dktX5_loudest_2
def dkwX5_loudest_0 : List UInt8 := [42, 3, 181, 0, 1, 2, 60, 3, 61, 3, 62, 29, 42, 182, 1, 14, 162, 0, 46, 42, 3, 29]
abbrev dktX5_loudest_0 : List UInt8 := dkwX5_loudest_0 ++ dktX5_loudest_1
theorem dksX5_loudest_0 : cX5_loudest.data.toList.drop 0 = dktX5_loudest_0 := by decide +kernel
theorem dksX5_loudest_1 : cX5_loudest.data.toList.drop 22 = dktX5_loudest_1 := dk_seg dksX5_loudest_0 22 rfl rfl
theorem dksX5_loudest_2 : cX5_loudest.data.toList.drop 46 = dktX5_loudest_2 := dk_seg dksX5_loudest_1 24 rfl rfl
theorem dX5_loudest_0 : decode cX5_loudest 0 = .ok (.aload_n 0, 1) := dk_42 (dk_at dksX5_loudest_0 0 rfl rfl)
theorem dX5_loudest_1 : decode cX5_loudest 1 = .ok (.iconst 0, 1) := dk_3 (dk_at dksX5_loudest_0 1 rfl rfl)
theorem dX5_loudest_2 : decode cX5_loudest 2 = .ok (.putfield 1, 3) := dk_181 0 1 (dk_at dksX5_loudest_0 2 rfl rfl)
theorem dX5_loudest_5 : decode cX5_loudest 5 = .ok (.iconst (-1), 1) := dk_2 (dk_at dksX5_loudest_0 5 rfl rfl)
theorem dX5_loudest_6 : decode cX5_loudest 6 = .ok (.istore_n 1, 1) := dk_60 (dk_at dksX5_loudest_0 6 rfl rfl)
theorem dX5_loudest_7 : decode cX5_loudest 7 = .ok (.iconst 0, 1) := dk_3 (dk_at dksX5_loudest_0 7 rfl rfl)
theorem dX5_loudest_8 : decode cX5_loudest 8 = .ok (.istore_n 2, 1) := dk_61 (dk_at dksX5_loudest_0 8 rfl rfl)
theorem dX5_loudest_9 : decode cX5_loudest 9 = .ok (.iconst 0, 1) := dk_3 (dk_at dksX5_loudest_0 9 rfl rfl)
theorem dX5_loudest_10 : decode cX5_loudest 10 = .ok (.istore_n 3, 1) := dk_62 (dk_at dksX5_loudest_0 10 rfl rfl)
theorem dX5_loudest_11 : decode cX5_loudest 11 = .ok (.iload_n 3, 1) := dk_29 (dk_at dksX5_loudest_0 11 rfl rfl)
theorem dX5_loudest_12 : decode cX5_loudest 12 = .ok (.aload_n 0, 1) := dk_42 (dk_at dksX5_loudest_0 12 rfl rfl)
theorem dX5_loudest_13 : decode cX5_loudest 13 = .ok (.invokevirtual 270, 3) := dk_182 1 14 (dk_at dksX5_loudest_0 13 rfl rfl)
theorem dX5_loudest_16 : decode cX5_loudest 16 = .ok (.if_icmp .ge 46, 3) := dk_162 0 46 (dk_at dksX5_loudest_0 16 rfl rfl)
theorem dX5_loudest_19 : decode cX5_loudest 19 = .ok (.aload_n 0, 1) := dk_42 (dk_at dksX5_loudest_0 19 rfl rfl)
theorem dX5_loudest_20 : decode cX5_loudest 20 = .ok (.iconst 0, 1) := dk_3 (dk_at dksX5_loudest_0 20 rfl rfl)
theorem dX5_loudest_21 : decode cX5_loudest 21 = .ok (.iload_n 3, 1) := dk_29 (dk_at dksX5_loudest_0 21 rfl rfl)
theorem dX5_loudest_22 : decode cX5_loudest 22 = .ok (.invokevirtual 335, 3) := dk_182 1 79 (dk_at dksX5_loudest_1 0 rfl rfl)
theorem dX5_loudest_25 : decode cX5_loudest 25 = .ok (.iload_n 2, 1) := dk_28 (dk_at dksX5_loudest_1 3 rfl rfl)
theorem dX5_loudest_26 : decode cX5_loudest 26 = .ok (.if_icmp .le 7, 3) := dk_164 0 7 (dk_at dksX5_loudest_1 4 rfl rfl)
theorem dX5_loudest_29 : decode cX5_loudest 29 = .ok (.iload_n 3, 1) := dk_29 (dk_at dksX5_loudest_1 7 rfl rfl)
theorem dX5_loudest_30 : decode cX5_loudest 30 = .ok (.goto 4, 3) := dk_167 0 4 (dk_at dksX5_loudest_1 8 rfl rfl)
theorem dX5_loudest_33 : decode cX5_loudest 33 = .ok (.iload_n 1, 1) := dk_27 (dk_at dksX5_loudest_1 11 rfl rfl)
theorem dX5_loudest_34 : decode cX5_loudest 34 = .ok (.istore_n 1, 1) := dk_60 (dk_at dksX5_loudest_1 12 rfl rfl)
theorem dX5_loudest_35 : decode cX5_loudest 35 = .ok (.aload_n 0, 1) := dk_42 (dk_at dksX5_loudest_1 13 rfl rfl)
theorem dX5_loudest_36 : decode cX5_loudest 36 = .ok (.iconst 0, 1) := dk_3 (dk_at dksX5_loudest_1 14 rfl rfl)
theorem dX5_loudest_37 : decode cX5_loudest 37 = .ok (.iload_n 3, 1) := dk_29 (dk_at dksX5_loudest_1 15 rfl rfl)
theorem dX5_loudest_38 : decode cX5_loudest 38 = .ok (.invokevirtual 335, 3) := dk_182 1 79 (dk_at dksX5_loudest_1 16 rfl rfl)
theorem dX5_loudest_41 : decode cX5_loudest 41 = .ok (.iload_n 2, 1) := dk_28 (dk_at dksX5_loudest_1 19 rfl rfl)
theorem dX5_loudest_42 : decode cX5_loudest 42 = .ok (.if_icmp .le 12, 3) := dk_164 0 12 (dk_at dksX5_loudest_1 20 rfl rfl)
theorem dX5_loudest_45 : decode cX5_loudest 45 = .ok (.aload_n 0, 1) := dk_42 (dk_at dksX5_loudest_1 23 rfl rfl)
theorem dX5_loudest_46 : decode cX5_loudest 46 = .ok (.iconst 0, 1) := dk_3 (dk_at dksX5_loudest_2 0 rfl rfl)
theorem dX5_loudest_47 : decode cX5_loudest 47 = .ok (.iload_n 3, 1) := dk_29 (dk_at dksX5_loudest_2 1 rfl rfl)
theorem dX5_loudest_48 : decode cX5_loudest 48 = .ok (.invokevirtual 335, 3) := dk_182 1 79 (dk_at dksX5_loudest_2 2 rfl rfl)
theorem dX5_loudest_51 : decode cX5_loudest 51 = .ok (.goto 4, 3) := dk_167 0 4 (dk_at dksX5_loudest_2 5 rfl rfl)
theorem dX5_loudest_54 : decode cX5_loudest 54 = .ok (.iload_n 2, 1) := dk_28 (dk_at dksX5_loudest_2 8 rfl rfl)
theorem dX5_loudest_55 : decode cX5_loudest 55 = .ok (.istore_n 2, 1) := dk_61 (dk_at dksX5_loudest_2 9 rfl rfl)
theorem dX5_loudest_56 : decode cX5_loudest 56 = .ok (.iinc 3 1, 3) := dk_132 3 1 (dk_at dksX5_loudest_2 10 rfl rfl)
theorem dX5_loudest_59 : decode cX5_loudest 59 = .ok (.goto (-48), 3) := dk_167 255 208 (dk_at dksX5_loudest_2 13 rfl rfl)
theorem dX5_loudest_62 : decode cX5_loudest 62 = .ok (.iload_n 1, 1) := dk_27 (dk_at dksX5_loudest_2 16 rfl rfl)
theorem dX5_loudest_63 : decode cX5_loudest 63 = .ok (.ireturn, 1) := dk_172 (dk_at dksX5_loudest_2 17 rfl rfl)
abbrev cX5_chance : ByteArray := prog_23_method_98_code
def yX5_chance : MethodName := ⟨RX5, "chance", "(III)I"⟩
def dkwX5_chance_9 : List UInt8 := [132, 8, 1, 167, 255, 113, 22, 6, 20, 1, 115, 105, 22, 4, 109, 136, 172]
abbrev dktX5_chance_9 : List UInt8 := dkwX5_chance_9 ++ []
def dkwX5_chance_8 : List UInt8 := [167, 255, 161, 22, 6, 21, 11, 27, 122, 4, 126, 4, 160, 0, 8, 22, 9, 167, 0, 4, 9, 97, 55, 6]
abbrev dktX5_chance_8 : List UInt8 := dkwX5_chance_8 ++ dktX5_chance_9
def dkwX5_chance_7 : List UInt8 := [167, 255, 230, 42, 17, 3, 219, 182, 1, 88, 21, 11, 42, 180, 1, 54, 128, 54, 11, 132, 12, 1]
abbrev dktX5_chance_7 : List UInt8 := dkwX5_chance_7 ++ dktX5_chance_8
def dkwX5_chance_6 : List UInt8 := [182, 1, 21, 162, 0, 23, 21, 13, 153, 0, 18, 42, 17, 3, 219, 21, 14, 182, 1, 66, 132, 14, 1]
abbrev dktX5_chance_6 : List UInt8 := dkwX5_chance_6 ++ dktX5_chance_7
def dkwX5_chance_5 : List UInt8 := [153, 0, 8, 29, 133, 167, 0, 8, 16, 10, 29, 100, 133, 105, 55, 9, 3, 54, 14, 21, 14, 42]
abbrev dktX5_chance_5 : List UInt8 := dkwX5_chance_5 ++ dktX5_chance_6
def dkwX5_chance_4 : List UInt8 := [21, 8, 21, 12, 122, 4, 126, 4, 160, 0, 7, 4, 167, 0, 4, 3, 54, 13, 22, 9, 21, 13]
abbrev dktX5_chance_4 : List UInt8 := dkwX5_chance_4 ++ dktX5_chance_5
def dkwX5_chance_3 : List UInt8 := [120, 162, 0, 141, 42, 182, 1, 94, 10, 55, 9, 3, 54, 11, 3, 54, 12, 21, 12, 28, 162, 0, 95]
abbrev dktX5_chance_3 : List UInt8 := dkwX5_chance_3 ++ dktX5_chance_4
def dkwX5_chance_2 : List UInt8 := [162, 0, 17, 22, 4, 20, 0, 153, 105, 55, 4, 132, 8, 1, 167, 255, 239, 3, 54, 8, 21, 8, 4, 28]
abbrev dktX5_chance_2 : List UInt8 := dkwX5_chance_2 ++ dktX5_chance_3
def dkwX5_chance_1 : List UInt8 := [3, 16, 10, 184, 0, 202, 154, 0, 5, 2, 172, 10, 55, 4, 9, 55, 6, 3, 54, 8, 21, 8, 28]
abbrev dktX5_chance_1 : List UInt8 := dkwX5_chance_1 ++ dktX5_chance_2
def dkwX5_chance_0 : List UInt8 := [42, 3, 181, 0, 1, 42, 27, 182, 1, 82, 153, 0, 23, 28, 4, 16, 6, 184, 0, 202, 153, 0, 13, 29]
abbrev dktX5_chance_0 : List UInt8 := dkwX5_chance_0 ++ dktX5_chance_1
theorem dksX5_chance_0 : cX5_chance.data.toList.drop 0 = dktX5_chance_0 := by decide +kernel
theorem dksX5_chance_1 : cX5_chance.data.toList.drop 24 = dktX5_chance_1 := dk_seg dksX5_chance_0 24 rfl rfl
theorem dksX5_chance_2 : cX5_chance.data.toList.drop 47 = dktX5_chance_2 := dk_seg dksX5_chance_1 23 rfl rfl
theorem dksX5_chance_3 : cX5_chance.data.toList.drop 71 = dktX5_chance_3 := dk_seg dksX5_chance_2 24 rfl rfl
theorem dksX5_chance_4 : cX5_chance.data.toList.drop 94 = dktX5_chance_4 := dk_seg dksX5_chance_3 23 rfl rfl
theorem dksX5_chance_5 : cX5_chance.data.toList.drop 116 = dktX5_chance_5 := dk_seg dksX5_chance_4 22 rfl rfl
theorem dksX5_chance_6 : cX5_chance.data.toList.drop 138 = dktX5_chance_6 := dk_seg dksX5_chance_5 22 rfl rfl
theorem dksX5_chance_7 : cX5_chance.data.toList.drop 161 = dktX5_chance_7 := dk_seg dksX5_chance_6 23 rfl rfl
theorem dksX5_chance_8 : cX5_chance.data.toList.drop 183 = dktX5_chance_8 := dk_seg dksX5_chance_7 22 rfl rfl
theorem dksX5_chance_9 : cX5_chance.data.toList.drop 207 = dktX5_chance_9 := dk_seg dksX5_chance_8 24 rfl rfl
theorem dX5_chance_0 : decode cX5_chance 0 = .ok (.aload_n 0, 1) := dk_42 (dk_at dksX5_chance_0 0 rfl rfl)
theorem dX5_chance_1 : decode cX5_chance 1 = .ok (.iconst 0, 1) := dk_3 (dk_at dksX5_chance_0 1 rfl rfl)
theorem dX5_chance_2 : decode cX5_chance 2 = .ok (.putfield 1, 3) := dk_181 0 1 (dk_at dksX5_chance_0 2 rfl rfl)
theorem dX5_chance_5 : decode cX5_chance 5 = .ok (.aload_n 0, 1) := dk_42 (dk_at dksX5_chance_0 5 rfl rfl)
theorem dX5_chance_6 : decode cX5_chance 6 = .ok (.iload_n 1, 1) := dk_27 (dk_at dksX5_chance_0 6 rfl rfl)
theorem dX5_chance_7 : decode cX5_chance 7 = .ok (.invokevirtual 338, 3) := dk_182 1 82 (dk_at dksX5_chance_0 7 rfl rfl)
theorem dX5_chance_10 : decode cX5_chance 10 = .ok (.ifCond .eq 23, 3) := dk_153 0 23 (dk_at dksX5_chance_0 10 rfl rfl)
theorem dX5_chance_13 : decode cX5_chance 13 = .ok (.iload_n 2, 1) := dk_28 (dk_at dksX5_chance_0 13 rfl rfl)
theorem dX5_chance_14 : decode cX5_chance 14 = .ok (.iconst 1, 1) := dk_4 (dk_at dksX5_chance_0 14 rfl rfl)
theorem dX5_chance_15 : decode cX5_chance 15 = .ok (.bipush 6, 2) := dk_16 6 (dk_at dksX5_chance_0 15 rfl rfl)
theorem dX5_chance_17 : decode cX5_chance 17 = .ok (.invokestatic 202, 3) := dk_184 0 202 (dk_at dksX5_chance_0 17 rfl rfl)
theorem dX5_chance_20 : decode cX5_chance 20 = .ok (.ifCond .eq 13, 3) := dk_153 0 13 (dk_at dksX5_chance_0 20 rfl rfl)
theorem dX5_chance_23 : decode cX5_chance 23 = .ok (.iload_n 3, 1) := dk_29 (dk_at dksX5_chance_0 23 rfl rfl)
theorem dX5_chance_24 : decode cX5_chance 24 = .ok (.iconst 0, 1) := dk_3 (dk_at dksX5_chance_1 0 rfl rfl)
theorem dX5_chance_25 : decode cX5_chance 25 = .ok (.bipush 10, 2) := dk_16 10 (dk_at dksX5_chance_1 1 rfl rfl)
theorem dX5_chance_27 : decode cX5_chance 27 = .ok (.invokestatic 202, 3) := dk_184 0 202 (dk_at dksX5_chance_1 3 rfl rfl)
theorem dX5_chance_30 : decode cX5_chance 30 = .ok (.ifCond .ne 5, 3) := dk_154 0 5 (dk_at dksX5_chance_1 6 rfl rfl)
theorem dX5_chance_33 : decode cX5_chance 33 = .ok (.iconst (-1), 1) := dk_2 (dk_at dksX5_chance_1 9 rfl rfl)
theorem dX5_chance_34 : decode cX5_chance 34 = .ok (.ireturn, 1) := dk_172 (dk_at dksX5_chance_1 10 rfl rfl)
theorem dX5_chance_35 : decode cX5_chance 35 = .ok (.lconst 1, 1) := dk_10 (dk_at dksX5_chance_1 11 rfl rfl)
theorem dX5_chance_36 : decode cX5_chance 36 = .ok (.lstore 4, 2) := dk_55 4 (dk_at dksX5_chance_1 12 rfl rfl)
theorem dX5_chance_38 : decode cX5_chance 38 = .ok (.lconst 0, 1) := dk_9 (dk_at dksX5_chance_1 14 rfl rfl)
theorem dX5_chance_39 : decode cX5_chance 39 = .ok (.lstore 6, 2) := dk_55 6 (dk_at dksX5_chance_1 15 rfl rfl)
theorem dX5_chance_41 : decode cX5_chance 41 = .ok (.iconst 0, 1) := dk_3 (dk_at dksX5_chance_1 17 rfl rfl)
theorem dX5_chance_42 : decode cX5_chance 42 = .ok (.istore 8, 2) := dk_54 8 (dk_at dksX5_chance_1 18 rfl rfl)
theorem dX5_chance_44 : decode cX5_chance 44 = .ok (.iload 8, 2) := dk_21 8 (dk_at dksX5_chance_1 20 rfl rfl)
theorem dX5_chance_46 : decode cX5_chance 46 = .ok (.iload_n 2, 1) := dk_28 (dk_at dksX5_chance_1 22 rfl rfl)
theorem dX5_chance_47 : decode cX5_chance 47 = .ok (.if_icmp .ge 17, 3) := dk_162 0 17 (dk_at dksX5_chance_2 0 rfl rfl)
theorem dX5_chance_50 : decode cX5_chance 50 = .ok (.lload 4, 2) := dk_22 4 (dk_at dksX5_chance_2 3 rfl rfl)
theorem dX5_chance_52 : decode cX5_chance 52 = .ok (.ldc2_w 153, 3) := dk_20 0 153 (dk_at dksX5_chance_2 5 rfl rfl)
theorem dX5_chance_55 : decode cX5_chance 55 = .ok (.lmul, 1) := dk_105 (dk_at dksX5_chance_2 8 rfl rfl)
theorem dX5_chance_56 : decode cX5_chance 56 = .ok (.lstore 4, 2) := dk_55 4 (dk_at dksX5_chance_2 9 rfl rfl)
theorem dX5_chance_58 : decode cX5_chance 58 = .ok (.iinc 8 1, 3) := dk_132 8 1 (dk_at dksX5_chance_2 11 rfl rfl)
theorem dX5_chance_61 : decode cX5_chance 61 = .ok (.goto (-17), 3) := dk_167 255 239 (dk_at dksX5_chance_2 14 rfl rfl)
theorem dX5_chance_64 : decode cX5_chance 64 = .ok (.iconst 0, 1) := dk_3 (dk_at dksX5_chance_2 17 rfl rfl)
theorem dX5_chance_65 : decode cX5_chance 65 = .ok (.istore 8, 2) := dk_54 8 (dk_at dksX5_chance_2 18 rfl rfl)
theorem dX5_chance_67 : decode cX5_chance 67 = .ok (.iload 8, 2) := dk_21 8 (dk_at dksX5_chance_2 20 rfl rfl)
theorem dX5_chance_69 : decode cX5_chance 69 = .ok (.iconst 1, 1) := dk_4 (dk_at dksX5_chance_2 22 rfl rfl)
theorem dX5_chance_70 : decode cX5_chance 70 = .ok (.iload_n 2, 1) := dk_28 (dk_at dksX5_chance_2 23 rfl rfl)
theorem dX5_chance_71 : decode cX5_chance 71 = .ok (.ishl, 1) := dk_120 (dk_at dksX5_chance_3 0 rfl rfl)
theorem dX5_chance_72 : decode cX5_chance 72 = .ok (.if_icmp .ge 141, 3) := dk_162 0 141 (dk_at dksX5_chance_3 1 rfl rfl)
theorem dX5_chance_75 : decode cX5_chance 75 = .ok (.aload_n 0, 1) := dk_42 (dk_at dksX5_chance_3 4 rfl rfl)
theorem dX5_chance_76 : decode cX5_chance 76 = .ok (.invokevirtual 350, 3) := dk_182 1 94 (dk_at dksX5_chance_3 5 rfl rfl)
theorem dX5_chance_79 : decode cX5_chance 79 = .ok (.lconst 1, 1) := dk_10 (dk_at dksX5_chance_3 8 rfl rfl)
theorem dX5_chance_80 : decode cX5_chance 80 = .ok (.lstore 9, 2) := dk_55 9 (dk_at dksX5_chance_3 9 rfl rfl)
theorem dX5_chance_82 : decode cX5_chance 82 = .ok (.iconst 0, 1) := dk_3 (dk_at dksX5_chance_3 11 rfl rfl)
theorem dX5_chance_83 : decode cX5_chance 83 = .ok (.istore 11, 2) := dk_54 11 (dk_at dksX5_chance_3 12 rfl rfl)
theorem dX5_chance_85 : decode cX5_chance 85 = .ok (.iconst 0, 1) := dk_3 (dk_at dksX5_chance_3 14 rfl rfl)
theorem dX5_chance_86 : decode cX5_chance 86 = .ok (.istore 12, 2) := dk_54 12 (dk_at dksX5_chance_3 15 rfl rfl)
theorem dX5_chance_88 : decode cX5_chance 88 = .ok (.iload 12, 2) := dk_21 12 (dk_at dksX5_chance_3 17 rfl rfl)
theorem dX5_chance_90 : decode cX5_chance 90 = .ok (.iload_n 2, 1) := dk_28 (dk_at dksX5_chance_3 19 rfl rfl)
theorem dX5_chance_91 : decode cX5_chance 91 = .ok (.if_icmp .ge 95, 3) := dk_162 0 95 (dk_at dksX5_chance_3 20 rfl rfl)
theorem dX5_chance_94 : decode cX5_chance 94 = .ok (.iload 8, 2) := dk_21 8 (dk_at dksX5_chance_4 0 rfl rfl)
theorem dX5_chance_96 : decode cX5_chance 96 = .ok (.iload 12, 2) := dk_21 12 (dk_at dksX5_chance_4 2 rfl rfl)
theorem dX5_chance_98 : decode cX5_chance 98 = .ok (.ishr, 1) := dk_122 (dk_at dksX5_chance_4 4 rfl rfl)
theorem dX5_chance_99 : decode cX5_chance 99 = .ok (.iconst 1, 1) := dk_4 (dk_at dksX5_chance_4 5 rfl rfl)
theorem dX5_chance_100 : decode cX5_chance 100 = .ok (.iand, 1) := dk_126 (dk_at dksX5_chance_4 6 rfl rfl)
theorem dX5_chance_101 : decode cX5_chance 101 = .ok (.iconst 1, 1) := dk_4 (dk_at dksX5_chance_4 7 rfl rfl)
theorem dX5_chance_102 : decode cX5_chance 102 = .ok (.if_icmp .ne 7, 3) := dk_160 0 7 (dk_at dksX5_chance_4 8 rfl rfl)
theorem dX5_chance_105 : decode cX5_chance 105 = .ok (.iconst 1, 1) := dk_4 (dk_at dksX5_chance_4 11 rfl rfl)
theorem dX5_chance_106 : decode cX5_chance 106 = .ok (.goto 4, 3) := dk_167 0 4 (dk_at dksX5_chance_4 12 rfl rfl)
theorem dX5_chance_109 : decode cX5_chance 109 = .ok (.iconst 0, 1) := dk_3 (dk_at dksX5_chance_4 15 rfl rfl)
theorem dX5_chance_110 : decode cX5_chance 110 = .ok (.istore 13, 2) := dk_54 13 (dk_at dksX5_chance_4 16 rfl rfl)
theorem dX5_chance_112 : decode cX5_chance 112 = .ok (.lload 9, 2) := dk_22 9 (dk_at dksX5_chance_4 18 rfl rfl)
theorem dX5_chance_114 : decode cX5_chance 114 = .ok (.iload 13, 2) := dk_21 13 (dk_at dksX5_chance_4 20 rfl rfl)
theorem dX5_chance_116 : decode cX5_chance 116 = .ok (.ifCond .eq 8, 3) := dk_153 0 8 (dk_at dksX5_chance_5 0 rfl rfl)
theorem dX5_chance_119 : decode cX5_chance 119 = .ok (.iload_n 3, 1) := dk_29 (dk_at dksX5_chance_5 3 rfl rfl)
theorem dX5_chance_120 : decode cX5_chance 120 = .ok (.i2l, 1) := dk_133 (dk_at dksX5_chance_5 4 rfl rfl)
theorem dX5_chance_121 : decode cX5_chance 121 = .ok (.goto 8, 3) := dk_167 0 8 (dk_at dksX5_chance_5 5 rfl rfl)
theorem dX5_chance_124 : decode cX5_chance 124 = .ok (.bipush 10, 2) := dk_16 10 (dk_at dksX5_chance_5 8 rfl rfl)
theorem dX5_chance_126 : decode cX5_chance 126 = .ok (.iload_n 3, 1) := dk_29 (dk_at dksX5_chance_5 10 rfl rfl)
theorem dX5_chance_127 : decode cX5_chance 127 = .ok (.isub, 1) := dk_100 (dk_at dksX5_chance_5 11 rfl rfl)
theorem dX5_chance_128 : decode cX5_chance 128 = .ok (.i2l, 1) := dk_133 (dk_at dksX5_chance_5 12 rfl rfl)
theorem dX5_chance_129 : decode cX5_chance 129 = .ok (.lmul, 1) := dk_105 (dk_at dksX5_chance_5 13 rfl rfl)
theorem dX5_chance_130 : decode cX5_chance 130 = .ok (.lstore 9, 2) := dk_55 9 (dk_at dksX5_chance_5 14 rfl rfl)
theorem dX5_chance_132 : decode cX5_chance 132 = .ok (.iconst 0, 1) := dk_3 (dk_at dksX5_chance_5 16 rfl rfl)
theorem dX5_chance_133 : decode cX5_chance 133 = .ok (.istore 14, 2) := dk_54 14 (dk_at dksX5_chance_5 17 rfl rfl)
theorem dX5_chance_135 : decode cX5_chance 135 = .ok (.iload 14, 2) := dk_21 14 (dk_at dksX5_chance_5 19 rfl rfl)
theorem dX5_chance_137 : decode cX5_chance 137 = .ok (.aload_n 0, 1) := dk_42 (dk_at dksX5_chance_5 21 rfl rfl)
theorem dX5_chance_138 : decode cX5_chance 138 = .ok (.invokevirtual 277, 3) := dk_182 1 21 (dk_at dksX5_chance_6 0 rfl rfl)
theorem dX5_chance_141 : decode cX5_chance 141 = .ok (.if_icmp .ge 23, 3) := dk_162 0 23 (dk_at dksX5_chance_6 3 rfl rfl)
theorem dX5_chance_144 : decode cX5_chance 144 = .ok (.iload 13, 2) := dk_21 13 (dk_at dksX5_chance_6 6 rfl rfl)
theorem dX5_chance_146 : decode cX5_chance 146 = .ok (.ifCond .eq 18, 3) := dk_153 0 18 (dk_at dksX5_chance_6 8 rfl rfl)
theorem dX5_chance_149 : decode cX5_chance 149 = .ok (.aload_n 0, 1) := dk_42 (dk_at dksX5_chance_6 11 rfl rfl)
theorem dX5_chance_150 : decode cX5_chance 150 = .ok (.sipush 987, 3) := dk_17 3 219 (dk_at dksX5_chance_6 12 rfl rfl)
theorem dX5_chance_153 : decode cX5_chance 153 = .ok (.iload 14, 2) := dk_21 14 (dk_at dksX5_chance_6 15 rfl rfl)
theorem dX5_chance_155 : decode cX5_chance 155 = .ok (.invokevirtual 322, 3) := dk_182 1 66 (dk_at dksX5_chance_6 17 rfl rfl)
theorem dX5_chance_158 : decode cX5_chance 158 = .ok (.iinc 14 1, 3) := dk_132 14 1 (dk_at dksX5_chance_6 20 rfl rfl)
theorem dX5_chance_161 : decode cX5_chance 161 = .ok (.goto (-26), 3) := dk_167 255 230 (dk_at dksX5_chance_7 0 rfl rfl)
theorem dX5_chance_164 : decode cX5_chance 164 = .ok (.aload_n 0, 1) := dk_42 (dk_at dksX5_chance_7 3 rfl rfl)
theorem dX5_chance_165 : decode cX5_chance 165 = .ok (.sipush 987, 3) := dk_17 3 219 (dk_at dksX5_chance_7 4 rfl rfl)
theorem dX5_chance_168 : decode cX5_chance 168 = .ok (.invokevirtual 344, 3) := dk_182 1 88 (dk_at dksX5_chance_7 7 rfl rfl)
theorem dX5_chance_171 : decode cX5_chance 171 = .ok (.iload 11, 2) := dk_21 11 (dk_at dksX5_chance_7 10 rfl rfl)
theorem dX5_chance_173 : decode cX5_chance 173 = .ok (.aload_n 0, 1) := dk_42 (dk_at dksX5_chance_7 12 rfl rfl)
theorem dX5_chance_174 : decode cX5_chance 174 = .ok (.getfield 310, 3) := dk_180 1 54 (dk_at dksX5_chance_7 13 rfl rfl)
theorem dX5_chance_177 : decode cX5_chance 177 = .ok (.ior, 1) := dk_128 (dk_at dksX5_chance_7 16 rfl rfl)
theorem dX5_chance_178 : decode cX5_chance 178 = .ok (.istore 11, 2) := dk_54 11 (dk_at dksX5_chance_7 17 rfl rfl)
theorem dX5_chance_180 : decode cX5_chance 180 = .ok (.iinc 12 1, 3) := dk_132 12 1 (dk_at dksX5_chance_7 19 rfl rfl)
theorem dX5_chance_183 : decode cX5_chance 183 = .ok (.goto (-95), 3) := dk_167 255 161 (dk_at dksX5_chance_8 0 rfl rfl)
theorem dX5_chance_186 : decode cX5_chance 186 = .ok (.lload 6, 2) := dk_22 6 (dk_at dksX5_chance_8 3 rfl rfl)
theorem dX5_chance_188 : decode cX5_chance 188 = .ok (.iload 11, 2) := dk_21 11 (dk_at dksX5_chance_8 5 rfl rfl)
theorem dX5_chance_190 : decode cX5_chance 190 = .ok (.iload_n 1, 1) := dk_27 (dk_at dksX5_chance_8 7 rfl rfl)
theorem dX5_chance_191 : decode cX5_chance 191 = .ok (.ishr, 1) := dk_122 (dk_at dksX5_chance_8 8 rfl rfl)
theorem dX5_chance_192 : decode cX5_chance 192 = .ok (.iconst 1, 1) := dk_4 (dk_at dksX5_chance_8 9 rfl rfl)
theorem dX5_chance_193 : decode cX5_chance 193 = .ok (.iand, 1) := dk_126 (dk_at dksX5_chance_8 10 rfl rfl)
theorem dX5_chance_194 : decode cX5_chance 194 = .ok (.iconst 1, 1) := dk_4 (dk_at dksX5_chance_8 11 rfl rfl)
theorem dX5_chance_195 : decode cX5_chance 195 = .ok (.if_icmp .ne 8, 3) := dk_160 0 8 (dk_at dksX5_chance_8 12 rfl rfl)
theorem dX5_chance_198 : decode cX5_chance 198 = .ok (.lload 9, 2) := dk_22 9 (dk_at dksX5_chance_8 15 rfl rfl)
theorem dX5_chance_200 : decode cX5_chance 200 = .ok (.goto 4, 3) := dk_167 0 4 (dk_at dksX5_chance_8 17 rfl rfl)
theorem dX5_chance_203 : decode cX5_chance 203 = .ok (.lconst 0, 1) := dk_9 (dk_at dksX5_chance_8 20 rfl rfl)
theorem dX5_chance_204 : decode cX5_chance 204 = .ok (.ladd, 1) := dk_97 (dk_at dksX5_chance_8 21 rfl rfl)
theorem dX5_chance_205 : decode cX5_chance 205 = .ok (.lstore 6, 2) := dk_55 6 (dk_at dksX5_chance_8 22 rfl rfl)
theorem dX5_chance_207 : decode cX5_chance 207 = .ok (.iinc 8 1, 3) := dk_132 8 1 (dk_at dksX5_chance_9 0 rfl rfl)
theorem dX5_chance_210 : decode cX5_chance 210 = .ok (.goto (-143), 3) := dk_167 255 113 (dk_at dksX5_chance_9 3 rfl rfl)
theorem dX5_chance_213 : decode cX5_chance 213 = .ok (.lload 6, 2) := dk_22 6 (dk_at dksX5_chance_9 6 rfl rfl)
theorem dX5_chance_215 : decode cX5_chance 215 = .ok (.ldc2_w 371, 3) := dk_20 1 115 (dk_at dksX5_chance_9 8 rfl rfl)
theorem dX5_chance_218 : decode cX5_chance 218 = .ok (.lmul, 1) := dk_105 (dk_at dksX5_chance_9 11 rfl rfl)
theorem dX5_chance_219 : decode cX5_chance 219 = .ok (.lload 4, 2) := dk_22 4 (dk_at dksX5_chance_9 12 rfl rfl)
theorem dX5_chance_221 : decode cX5_chance 221 = .ok (.ldiv, 1) := dk_109 (dk_at dksX5_chance_9 14 rfl rfl)
theorem dX5_chance_222 : decode cX5_chance 222 = .ok (.l2i, 1) := dk_136 (dk_at dksX5_chance_9 15 rfl rfl)
theorem dX5_chance_223 : decode cX5_chance 223 = .ok (.ireturn, 1) := dk_172 (dk_at dksX5_chance_9 16 rfl rfl)
abbrev cX5_rests : ByteArray := prog_23_method_100_code
def yX5_rests : MethodName := ⟨RX5, "rests", "(IIII)I"⟩
def dkwX5_rests_9 : List UInt8 := [156, 0, 8, 21, 6, 167, 0, 5, 21, 7, 172]
abbrev dktX5_rests_9 : List UInt8 := dkwX5_rests_9 ++ []
def dkwX5_rests_8 : List UInt8 := [155, 0, 7, 3, 167, 0, 4, 4, 181, 0, 1, 42, 180, 0, 1, 158, 0, 7, 3, 167, 0, 15, 21, 4]
abbrev dktX5_rests_8 : List UInt8 := dkwX5_rests_8 ++ dktX5_rests_9
def dkwX5_rests_7 : List UInt8 := [96, 54, 6, 132, 8, 1, 167, 255, 137, 42, 21, 5, 153, 0, 17, 21, 4, 155, 0, 8, 21, 7]
abbrev dktX5_rests_7 : List UInt8 := dkwX5_rests_7 ++ dktX5_rests_8
def dkwX5_rests_6 : List UInt8 := [160, 0, 8, 21, 8, 167, 0, 5, 21, 7, 54, 7, 21, 6, 21, 11, 153, 0, 7, 4, 167, 0, 4, 3]
abbrev dktX5_rests_6 : List UInt8 := dkwX5_rests_6 ++ dktX5_rests_7
def dkwX5_rests_5 : List UInt8 := [29, 184, 1, 117, 163, 0, 7, 4, 167, 0, 4, 3, 54, 11, 21, 11, 153, 0, 15, 21, 6, 21, 4]
abbrev dktX5_rests_5 : List UInt8 := dkwX5_rests_5 ++ dktX5_rests_6
def dkwX5_rests_4 : List UInt8 := [184, 1, 117, 163, 0, 32, 4, 21, 10, 100, 21, 9, 27, 28, 29, 184, 1, 117, 21, 10, 21, 9, 27, 28]
abbrev dktX5_rests_4 : List UInt8 := dkwX5_rests_4 ++ dktX5_rests_5
def dkwX5_rests_3 : List UInt8 := [5, 112, 54, 10, 4, 21, 9, 100, 21, 10, 27, 28, 29, 184, 1, 117, 21, 9, 21, 10, 27, 28, 29]
abbrev dktX5_rests_3 : List UInt8 := dkwX5_rests_3 ++ dktX5_rests_4
def dkwX5_rests_2 : List UInt8 := [54, 7, 3, 54, 8, 21, 8, 7, 162, 0, 119, 21, 5, 153, 0, 114, 21, 8, 5, 108, 54, 9, 21, 8]
abbrev dktX5_rests_2 : List UInt8 := dkwX5_rests_2 ++ dktX5_rests_3
def dkwX5_rests_1 : List UInt8 := [184, 0, 202, 153, 0, 13, 21, 4, 2, 161, 0, 7, 4, 167, 0, 4, 3, 54, 5, 3, 54, 6, 2]
abbrev dktX5_rests_1 : List UInt8 := dkwX5_rests_1 ++ dktX5_rests_2
def dkwX5_rests_0 : List UInt8 := [27, 3, 16, 9, 184, 0, 202, 153, 0, 33, 28, 3, 16, 9, 184, 0, 202, 153, 0, 23, 29, 3, 16, 9]
abbrev dktX5_rests_0 : List UInt8 := dkwX5_rests_0 ++ dktX5_rests_1
theorem dksX5_rests_0 : cX5_rests.data.toList.drop 0 = dktX5_rests_0 := by decide +kernel
theorem dksX5_rests_1 : cX5_rests.data.toList.drop 24 = dktX5_rests_1 := dk_seg dksX5_rests_0 24 rfl rfl
theorem dksX5_rests_2 : cX5_rests.data.toList.drop 47 = dktX5_rests_2 := dk_seg dksX5_rests_1 23 rfl rfl
theorem dksX5_rests_3 : cX5_rests.data.toList.drop 71 = dktX5_rests_3 := dk_seg dksX5_rests_2 24 rfl rfl
theorem dksX5_rests_4 : cX5_rests.data.toList.drop 94 = dktX5_rests_4 := dk_seg dksX5_rests_3 23 rfl rfl
theorem dksX5_rests_5 : cX5_rests.data.toList.drop 118 = dktX5_rests_5 := dk_seg dksX5_rests_4 24 rfl rfl
theorem dksX5_rests_6 : cX5_rests.data.toList.drop 141 = dktX5_rests_6 := dk_seg dksX5_rests_5 23 rfl rfl
theorem dksX5_rests_7 : cX5_rests.data.toList.drop 165 = dktX5_rests_7 := dk_seg dksX5_rests_6 24 rfl rfl
theorem dksX5_rests_8 : cX5_rests.data.toList.drop 187 = dktX5_rests_8 := dk_seg dksX5_rests_7 22 rfl rfl
theorem dksX5_rests_9 : cX5_rests.data.toList.drop 211 = dktX5_rests_9 := dk_seg dksX5_rests_8 24 rfl rfl
theorem dX5_rests_0 : decode cX5_rests 0 = .ok (.iload_n 1, 1) := dk_27 (dk_at dksX5_rests_0 0 rfl rfl)
theorem dX5_rests_1 : decode cX5_rests 1 = .ok (.iconst 0, 1) := dk_3 (dk_at dksX5_rests_0 1 rfl rfl)
theorem dX5_rests_2 : decode cX5_rests 2 = .ok (.bipush 9, 2) := dk_16 9 (dk_at dksX5_rests_0 2 rfl rfl)
theorem dX5_rests_4 : decode cX5_rests 4 = .ok (.invokestatic 202, 3) := dk_184 0 202 (dk_at dksX5_rests_0 4 rfl rfl)
theorem dX5_rests_7 : decode cX5_rests 7 = .ok (.ifCond .eq 33, 3) := dk_153 0 33 (dk_at dksX5_rests_0 7 rfl rfl)
theorem dX5_rests_10 : decode cX5_rests 10 = .ok (.iload_n 2, 1) := dk_28 (dk_at dksX5_rests_0 10 rfl rfl)
theorem dX5_rests_11 : decode cX5_rests 11 = .ok (.iconst 0, 1) := dk_3 (dk_at dksX5_rests_0 11 rfl rfl)
theorem dX5_rests_12 : decode cX5_rests 12 = .ok (.bipush 9, 2) := dk_16 9 (dk_at dksX5_rests_0 12 rfl rfl)
theorem dX5_rests_14 : decode cX5_rests 14 = .ok (.invokestatic 202, 3) := dk_184 0 202 (dk_at dksX5_rests_0 14 rfl rfl)
theorem dX5_rests_17 : decode cX5_rests 17 = .ok (.ifCond .eq 23, 3) := dk_153 0 23 (dk_at dksX5_rests_0 17 rfl rfl)
theorem dX5_rests_20 : decode cX5_rests 20 = .ok (.iload_n 3, 1) := dk_29 (dk_at dksX5_rests_0 20 rfl rfl)
theorem dX5_rests_21 : decode cX5_rests 21 = .ok (.iconst 0, 1) := dk_3 (dk_at dksX5_rests_0 21 rfl rfl)
theorem dX5_rests_22 : decode cX5_rests 22 = .ok (.bipush 9, 2) := dk_16 9 (dk_at dksX5_rests_0 22 rfl rfl)
theorem dX5_rests_24 : decode cX5_rests 24 = .ok (.invokestatic 202, 3) := dk_184 0 202 (dk_at dksX5_rests_1 0 rfl rfl)
theorem dX5_rests_27 : decode cX5_rests 27 = .ok (.ifCond .eq 13, 3) := dk_153 0 13 (dk_at dksX5_rests_1 3 rfl rfl)
theorem dX5_rests_30 : decode cX5_rests 30 = .ok (.iload 4, 2) := dk_21 4 (dk_at dksX5_rests_1 6 rfl rfl)
theorem dX5_rests_32 : decode cX5_rests 32 = .ok (.iconst (-1), 1) := dk_2 (dk_at dksX5_rests_1 8 rfl rfl)
theorem dX5_rests_33 : decode cX5_rests 33 = .ok (.if_icmp .lt 7, 3) := dk_161 0 7 (dk_at dksX5_rests_1 9 rfl rfl)
theorem dX5_rests_36 : decode cX5_rests 36 = .ok (.iconst 1, 1) := dk_4 (dk_at dksX5_rests_1 12 rfl rfl)
theorem dX5_rests_37 : decode cX5_rests 37 = .ok (.goto 4, 3) := dk_167 0 4 (dk_at dksX5_rests_1 13 rfl rfl)
theorem dX5_rests_40 : decode cX5_rests 40 = .ok (.iconst 0, 1) := dk_3 (dk_at dksX5_rests_1 16 rfl rfl)
theorem dX5_rests_41 : decode cX5_rests 41 = .ok (.istore 5, 2) := dk_54 5 (dk_at dksX5_rests_1 17 rfl rfl)
theorem dX5_rests_43 : decode cX5_rests 43 = .ok (.iconst 0, 1) := dk_3 (dk_at dksX5_rests_1 19 rfl rfl)
theorem dX5_rests_44 : decode cX5_rests 44 = .ok (.istore 6, 2) := dk_54 6 (dk_at dksX5_rests_1 20 rfl rfl)
theorem dX5_rests_46 : decode cX5_rests 46 = .ok (.iconst (-1), 1) := dk_2 (dk_at dksX5_rests_1 22 rfl rfl)
theorem dX5_rests_47 : decode cX5_rests 47 = .ok (.istore 7, 2) := dk_54 7 (dk_at dksX5_rests_2 0 rfl rfl)
theorem dX5_rests_49 : decode cX5_rests 49 = .ok (.iconst 0, 1) := dk_3 (dk_at dksX5_rests_2 2 rfl rfl)
theorem dX5_rests_50 : decode cX5_rests 50 = .ok (.istore 8, 2) := dk_54 8 (dk_at dksX5_rests_2 3 rfl rfl)
theorem dX5_rests_52 : decode cX5_rests 52 = .ok (.iload 8, 2) := dk_21 8 (dk_at dksX5_rests_2 5 rfl rfl)
theorem dX5_rests_54 : decode cX5_rests 54 = .ok (.iconst 4, 1) := dk_7 (dk_at dksX5_rests_2 7 rfl rfl)
theorem dX5_rests_55 : decode cX5_rests 55 = .ok (.if_icmp .ge 119, 3) := dk_162 0 119 (dk_at dksX5_rests_2 8 rfl rfl)
theorem dX5_rests_58 : decode cX5_rests 58 = .ok (.iload 5, 2) := dk_21 5 (dk_at dksX5_rests_2 11 rfl rfl)
theorem dX5_rests_60 : decode cX5_rests 60 = .ok (.ifCond .eq 114, 3) := dk_153 0 114 (dk_at dksX5_rests_2 13 rfl rfl)
theorem dX5_rests_63 : decode cX5_rests 63 = .ok (.iload 8, 2) := dk_21 8 (dk_at dksX5_rests_2 16 rfl rfl)
theorem dX5_rests_65 : decode cX5_rests 65 = .ok (.iconst 2, 1) := dk_5 (dk_at dksX5_rests_2 18 rfl rfl)
theorem dX5_rests_66 : decode cX5_rests 66 = .ok (.idiv, 1) := dk_108 (dk_at dksX5_rests_2 19 rfl rfl)
theorem dX5_rests_67 : decode cX5_rests 67 = .ok (.istore 9, 2) := dk_54 9 (dk_at dksX5_rests_2 20 rfl rfl)
theorem dX5_rests_69 : decode cX5_rests 69 = .ok (.iload 8, 2) := dk_21 8 (dk_at dksX5_rests_2 22 rfl rfl)
theorem dX5_rests_71 : decode cX5_rests 71 = .ok (.iconst 2, 1) := dk_5 (dk_at dksX5_rests_3 0 rfl rfl)
theorem dX5_rests_72 : decode cX5_rests 72 = .ok (.irem, 1) := dk_112 (dk_at dksX5_rests_3 1 rfl rfl)
theorem dX5_rests_73 : decode cX5_rests 73 = .ok (.istore 10, 2) := dk_54 10 (dk_at dksX5_rests_3 2 rfl rfl)
theorem dX5_rests_75 : decode cX5_rests 75 = .ok (.iconst 1, 1) := dk_4 (dk_at dksX5_rests_3 4 rfl rfl)
theorem dX5_rests_76 : decode cX5_rests 76 = .ok (.iload 9, 2) := dk_21 9 (dk_at dksX5_rests_3 5 rfl rfl)
theorem dX5_rests_78 : decode cX5_rests 78 = .ok (.isub, 1) := dk_100 (dk_at dksX5_rests_3 7 rfl rfl)
theorem dX5_rests_79 : decode cX5_rests 79 = .ok (.iload 10, 2) := dk_21 10 (dk_at dksX5_rests_3 8 rfl rfl)
theorem dX5_rests_81 : decode cX5_rests 81 = .ok (.iload_n 1, 1) := dk_27 (dk_at dksX5_rests_3 10 rfl rfl)
theorem dX5_rests_82 : decode cX5_rests 82 = .ok (.iload_n 2, 1) := dk_28 (dk_at dksX5_rests_3 11 rfl rfl)
theorem dX5_rests_83 : decode cX5_rests 83 = .ok (.iload_n 3, 1) := dk_29 (dk_at dksX5_rests_3 12 rfl rfl)
theorem dX5_rests_84 : decode cX5_rests 84 = .ok (.invokestatic 373, 3) := dk_184 1 117 (dk_at dksX5_rests_3 13 rfl rfl)
theorem dX5_rests_87 : decode cX5_rests 87 = .ok (.iload 9, 2) := dk_21 9 (dk_at dksX5_rests_3 16 rfl rfl)
theorem dX5_rests_89 : decode cX5_rests 89 = .ok (.iload 10, 2) := dk_21 10 (dk_at dksX5_rests_3 18 rfl rfl)
theorem dX5_rests_91 : decode cX5_rests 91 = .ok (.iload_n 1, 1) := dk_27 (dk_at dksX5_rests_3 20 rfl rfl)
theorem dX5_rests_92 : decode cX5_rests 92 = .ok (.iload_n 2, 1) := dk_28 (dk_at dksX5_rests_3 21 rfl rfl)
theorem dX5_rests_93 : decode cX5_rests 93 = .ok (.iload_n 3, 1) := dk_29 (dk_at dksX5_rests_3 22 rfl rfl)
theorem dX5_rests_94 : decode cX5_rests 94 = .ok (.invokestatic 373, 3) := dk_184 1 117 (dk_at dksX5_rests_4 0 rfl rfl)
theorem dX5_rests_97 : decode cX5_rests 97 = .ok (.if_icmp .gt 32, 3) := dk_163 0 32 (dk_at dksX5_rests_4 3 rfl rfl)
theorem dX5_rests_100 : decode cX5_rests 100 = .ok (.iconst 1, 1) := dk_4 (dk_at dksX5_rests_4 6 rfl rfl)
theorem dX5_rests_101 : decode cX5_rests 101 = .ok (.iload 10, 2) := dk_21 10 (dk_at dksX5_rests_4 7 rfl rfl)
theorem dX5_rests_103 : decode cX5_rests 103 = .ok (.isub, 1) := dk_100 (dk_at dksX5_rests_4 9 rfl rfl)
theorem dX5_rests_104 : decode cX5_rests 104 = .ok (.iload 9, 2) := dk_21 9 (dk_at dksX5_rests_4 10 rfl rfl)
theorem dX5_rests_106 : decode cX5_rests 106 = .ok (.iload_n 1, 1) := dk_27 (dk_at dksX5_rests_4 12 rfl rfl)
theorem dX5_rests_107 : decode cX5_rests 107 = .ok (.iload_n 2, 1) := dk_28 (dk_at dksX5_rests_4 13 rfl rfl)
theorem dX5_rests_108 : decode cX5_rests 108 = .ok (.iload_n 3, 1) := dk_29 (dk_at dksX5_rests_4 14 rfl rfl)
theorem dX5_rests_109 : decode cX5_rests 109 = .ok (.invokestatic 373, 3) := dk_184 1 117 (dk_at dksX5_rests_4 15 rfl rfl)
theorem dX5_rests_112 : decode cX5_rests 112 = .ok (.iload 10, 2) := dk_21 10 (dk_at dksX5_rests_4 18 rfl rfl)
theorem dX5_rests_114 : decode cX5_rests 114 = .ok (.iload 9, 2) := dk_21 9 (dk_at dksX5_rests_4 20 rfl rfl)
theorem dX5_rests_116 : decode cX5_rests 116 = .ok (.iload_n 1, 1) := dk_27 (dk_at dksX5_rests_4 22 rfl rfl)
theorem dX5_rests_117 : decode cX5_rests 117 = .ok (.iload_n 2, 1) := dk_28 (dk_at dksX5_rests_4 23 rfl rfl)
theorem dX5_rests_118 : decode cX5_rests 118 = .ok (.iload_n 3, 1) := dk_29 (dk_at dksX5_rests_5 0 rfl rfl)
theorem dX5_rests_119 : decode cX5_rests 119 = .ok (.invokestatic 373, 3) := dk_184 1 117 (dk_at dksX5_rests_5 1 rfl rfl)
theorem dX5_rests_122 : decode cX5_rests 122 = .ok (.if_icmp .gt 7, 3) := dk_163 0 7 (dk_at dksX5_rests_5 4 rfl rfl)
theorem dX5_rests_125 : decode cX5_rests 125 = .ok (.iconst 1, 1) := dk_4 (dk_at dksX5_rests_5 7 rfl rfl)
theorem dX5_rests_126 : decode cX5_rests 126 = .ok (.goto 4, 3) := dk_167 0 4 (dk_at dksX5_rests_5 8 rfl rfl)
theorem dX5_rests_129 : decode cX5_rests 129 = .ok (.iconst 0, 1) := dk_3 (dk_at dksX5_rests_5 11 rfl rfl)
theorem dX5_rests_130 : decode cX5_rests 130 = .ok (.istore 11, 2) := dk_54 11 (dk_at dksX5_rests_5 12 rfl rfl)
theorem dX5_rests_132 : decode cX5_rests 132 = .ok (.iload 11, 2) := dk_21 11 (dk_at dksX5_rests_5 14 rfl rfl)
theorem dX5_rests_134 : decode cX5_rests 134 = .ok (.ifCond .eq 15, 3) := dk_153 0 15 (dk_at dksX5_rests_5 16 rfl rfl)
theorem dX5_rests_137 : decode cX5_rests 137 = .ok (.iload 6, 2) := dk_21 6 (dk_at dksX5_rests_5 19 rfl rfl)
theorem dX5_rests_139 : decode cX5_rests 139 = .ok (.iload 4, 2) := dk_21 4 (dk_at dksX5_rests_5 21 rfl rfl)
theorem dX5_rests_141 : decode cX5_rests 141 = .ok (.if_icmp .ne 8, 3) := dk_160 0 8 (dk_at dksX5_rests_6 0 rfl rfl)
theorem dX5_rests_144 : decode cX5_rests 144 = .ok (.iload 8, 2) := dk_21 8 (dk_at dksX5_rests_6 3 rfl rfl)
theorem dX5_rests_146 : decode cX5_rests 146 = .ok (.goto 5, 3) := dk_167 0 5 (dk_at dksX5_rests_6 5 rfl rfl)
theorem dX5_rests_149 : decode cX5_rests 149 = .ok (.iload 7, 2) := dk_21 7 (dk_at dksX5_rests_6 8 rfl rfl)
theorem dX5_rests_151 : decode cX5_rests 151 = .ok (.istore 7, 2) := dk_54 7 (dk_at dksX5_rests_6 10 rfl rfl)
theorem dX5_rests_153 : decode cX5_rests 153 = .ok (.iload 6, 2) := dk_21 6 (dk_at dksX5_rests_6 12 rfl rfl)
theorem dX5_rests_155 : decode cX5_rests 155 = .ok (.iload 11, 2) := dk_21 11 (dk_at dksX5_rests_6 14 rfl rfl)
theorem dX5_rests_157 : decode cX5_rests 157 = .ok (.ifCond .eq 7, 3) := dk_153 0 7 (dk_at dksX5_rests_6 16 rfl rfl)
theorem dX5_rests_160 : decode cX5_rests 160 = .ok (.iconst 1, 1) := dk_4 (dk_at dksX5_rests_6 19 rfl rfl)
theorem dX5_rests_161 : decode cX5_rests 161 = .ok (.goto 4, 3) := dk_167 0 4 (dk_at dksX5_rests_6 20 rfl rfl)
theorem dX5_rests_164 : decode cX5_rests 164 = .ok (.iconst 0, 1) := dk_3 (dk_at dksX5_rests_6 23 rfl rfl)
theorem dX5_rests_165 : decode cX5_rests 165 = .ok (.iadd, 1) := dk_96 (dk_at dksX5_rests_7 0 rfl rfl)
theorem dX5_rests_166 : decode cX5_rests 166 = .ok (.istore 6, 2) := dk_54 6 (dk_at dksX5_rests_7 1 rfl rfl)
theorem dX5_rests_168 : decode cX5_rests 168 = .ok (.iinc 8 1, 3) := dk_132 8 1 (dk_at dksX5_rests_7 3 rfl rfl)
theorem dX5_rests_171 : decode cX5_rests 171 = .ok (.goto (-119), 3) := dk_167 255 137 (dk_at dksX5_rests_7 6 rfl rfl)
theorem dX5_rests_174 : decode cX5_rests 174 = .ok (.aload_n 0, 1) := dk_42 (dk_at dksX5_rests_7 9 rfl rfl)
theorem dX5_rests_175 : decode cX5_rests 175 = .ok (.iload 5, 2) := dk_21 5 (dk_at dksX5_rests_7 10 rfl rfl)
theorem dX5_rests_177 : decode cX5_rests 177 = .ok (.ifCond .eq 17, 3) := dk_153 0 17 (dk_at dksX5_rests_7 12 rfl rfl)
theorem dX5_rests_180 : decode cX5_rests 180 = .ok (.iload 4, 2) := dk_21 4 (dk_at dksX5_rests_7 15 rfl rfl)
theorem dX5_rests_182 : decode cX5_rests 182 = .ok (.ifCond .lt 8, 3) := dk_155 0 8 (dk_at dksX5_rests_7 17 rfl rfl)
theorem dX5_rests_185 : decode cX5_rests 185 = .ok (.iload 7, 2) := dk_21 7 (dk_at dksX5_rests_7 20 rfl rfl)
theorem dX5_rests_187 : decode cX5_rests 187 = .ok (.ifCond .lt 7, 3) := dk_155 0 7 (dk_at dksX5_rests_8 0 rfl rfl)
theorem dX5_rests_190 : decode cX5_rests 190 = .ok (.iconst 0, 1) := dk_3 (dk_at dksX5_rests_8 3 rfl rfl)
theorem dX5_rests_191 : decode cX5_rests 191 = .ok (.goto 4, 3) := dk_167 0 4 (dk_at dksX5_rests_8 4 rfl rfl)
theorem dX5_rests_194 : decode cX5_rests 194 = .ok (.iconst 1, 1) := dk_4 (dk_at dksX5_rests_8 7 rfl rfl)
theorem dX5_rests_195 : decode cX5_rests 195 = .ok (.putfield 1, 3) := dk_181 0 1 (dk_at dksX5_rests_8 8 rfl rfl)
theorem dX5_rests_198 : decode cX5_rests 198 = .ok (.aload_n 0, 1) := dk_42 (dk_at dksX5_rests_8 11 rfl rfl)
theorem dX5_rests_199 : decode cX5_rests 199 = .ok (.getfield 1, 3) := dk_180 0 1 (dk_at dksX5_rests_8 12 rfl rfl)
theorem dX5_rests_202 : decode cX5_rests 202 = .ok (.ifCond .le 7, 3) := dk_158 0 7 (dk_at dksX5_rests_8 15 rfl rfl)
theorem dX5_rests_205 : decode cX5_rests 205 = .ok (.iconst 0, 1) := dk_3 (dk_at dksX5_rests_8 18 rfl rfl)
theorem dX5_rests_206 : decode cX5_rests 206 = .ok (.goto 15, 3) := dk_167 0 15 (dk_at dksX5_rests_8 19 rfl rfl)
theorem dX5_rests_209 : decode cX5_rests 209 = .ok (.iload 4, 2) := dk_21 4 (dk_at dksX5_rests_8 22 rfl rfl)
theorem dX5_rests_211 : decode cX5_rests 211 = .ok (.ifCond .ge 8, 3) := dk_156 0 8 (dk_at dksX5_rests_9 0 rfl rfl)
theorem dX5_rests_214 : decode cX5_rests 214 = .ok (.iload 6, 2) := dk_21 6 (dk_at dksX5_rests_9 3 rfl rfl)
theorem dX5_rests_216 : decode cX5_rests 216 = .ok (.goto 5, 3) := dk_167 0 5 (dk_at dksX5_rests_9 5 rfl rfl)
theorem dX5_rests_219 : decode cX5_rests 219 = .ok (.iload 7, 2) := dk_21 7 (dk_at dksX5_rests_9 8 rfl rfl)
theorem dX5_rests_221 : decode cX5_rests 221 = .ok (.ireturn, 1) := dk_172 (dk_at dksX5_rests_9 10 rfl rfl)
abbrev cX5_getsBy : ByteArray := prog_23_method_99_code
def yX5_getsBy : MethodName := ⟨RX5, "getsBy", "(IIIII)I"⟩
def dkwX5_getsBy_1 : List UInt8 := [21, 4, 167, 0, 4, 3, 172]
abbrev dktX5_getsBy_1 : List UInt8 := dkwX5_getsBy_1 ++ []
def dkwX5_getsBy_0 : List UInt8 := [26, 4, 160, 0, 17, 27, 4, 160, 0, 8, 28, 116, 167, 0, 18, 29, 167, 0, 14, 27, 4, 160, 0, 8]
abbrev dktX5_getsBy_0 : List UInt8 := dkwX5_getsBy_0 ++ dktX5_getsBy_1
theorem dksX5_getsBy_0 : cX5_getsBy.data.toList.drop 0 = dktX5_getsBy_0 := by decide +kernel
theorem dksX5_getsBy_1 : cX5_getsBy.data.toList.drop 24 = dktX5_getsBy_1 := dk_seg dksX5_getsBy_0 24 rfl rfl
theorem dX5_getsBy_0 : decode cX5_getsBy 0 = .ok (.iload_n 0, 1) := dk_26 (dk_at dksX5_getsBy_0 0 rfl rfl)
theorem dX5_getsBy_1 : decode cX5_getsBy 1 = .ok (.iconst 1, 1) := dk_4 (dk_at dksX5_getsBy_0 1 rfl rfl)
theorem dX5_getsBy_2 : decode cX5_getsBy 2 = .ok (.if_icmp .ne 17, 3) := dk_160 0 17 (dk_at dksX5_getsBy_0 2 rfl rfl)
theorem dX5_getsBy_5 : decode cX5_getsBy 5 = .ok (.iload_n 1, 1) := dk_27 (dk_at dksX5_getsBy_0 5 rfl rfl)
theorem dX5_getsBy_6 : decode cX5_getsBy 6 = .ok (.iconst 1, 1) := dk_4 (dk_at dksX5_getsBy_0 6 rfl rfl)
theorem dX5_getsBy_7 : decode cX5_getsBy 7 = .ok (.if_icmp .ne 8, 3) := dk_160 0 8 (dk_at dksX5_getsBy_0 7 rfl rfl)
theorem dX5_getsBy_10 : decode cX5_getsBy 10 = .ok (.iload_n 2, 1) := dk_28 (dk_at dksX5_getsBy_0 10 rfl rfl)
theorem dX5_getsBy_11 : decode cX5_getsBy 11 = .ok (.ineg, 1) := dk_116 (dk_at dksX5_getsBy_0 11 rfl rfl)
theorem dX5_getsBy_12 : decode cX5_getsBy 12 = .ok (.goto 18, 3) := dk_167 0 18 (dk_at dksX5_getsBy_0 12 rfl rfl)
theorem dX5_getsBy_15 : decode cX5_getsBy 15 = .ok (.iload_n 3, 1) := dk_29 (dk_at dksX5_getsBy_0 15 rfl rfl)
theorem dX5_getsBy_16 : decode cX5_getsBy 16 = .ok (.goto 14, 3) := dk_167 0 14 (dk_at dksX5_getsBy_0 16 rfl rfl)
theorem dX5_getsBy_19 : decode cX5_getsBy 19 = .ok (.iload_n 1, 1) := dk_27 (dk_at dksX5_getsBy_0 19 rfl rfl)
theorem dX5_getsBy_20 : decode cX5_getsBy 20 = .ok (.iconst 1, 1) := dk_4 (dk_at dksX5_getsBy_0 20 rfl rfl)
theorem dX5_getsBy_21 : decode cX5_getsBy 21 = .ok (.if_icmp .ne 8, 3) := dk_160 0 8 (dk_at dksX5_getsBy_0 21 rfl rfl)
theorem dX5_getsBy_24 : decode cX5_getsBy 24 = .ok (.iload 4, 2) := dk_21 4 (dk_at dksX5_getsBy_1 0 rfl rfl)
theorem dX5_getsBy_26 : decode cX5_getsBy 26 = .ok (.goto 4, 3) := dk_167 0 4 (dk_at dksX5_getsBy_1 2 rfl rfl)
theorem dX5_getsBy_29 : decode cX5_getsBy 29 = .ok (.iconst 0, 1) := dk_3 (dk_at dksX5_getsBy_1 5 rfl rfl)
theorem dX5_getsBy_30 : decode cX5_getsBy 30 = .ok (.ireturn, 1) := dk_172 (dk_at dksX5_getsBy_1 6 rfl rfl)
abbrev cX5_ages : ByteArray := prog_23_method_103_code
def yX5_ages : MethodName := ⟨RX5, "ages", "(III)I"⟩
def dkwX5_ages_7 : List UInt8 := [180, 0, 117, 4, 46, 100, 167, 0, 5, 21, 5, 172]
abbrev dktX5_ages_7 : List UInt8 := dkwX5_ages_7 ++ []
def dkwX5_ages_6 : List UInt8 := [154, 0, 8, 21, 4, 167, 0, 28, 29, 4, 160, 0, 21, 42, 180, 0, 117, 17, 4, 11, 46, 42]
abbrev dktX5_ages_6 : List UInt8 := dkwX5_ages_6 ++ dktX5_ages_7
def dkwX5_ages_5 : List UInt8 := [21, 5, 42, 180, 0, 117, 17, 4, 28, 21, 6, 96, 46, 96, 54, 5, 132, 6, 1, 167, 255, 228, 29]
abbrev dktX5_ages_5 : List UInt8 := dkwX5_ages_5 ++ dktX5_ages_6
def dkwX5_ages_4 : List UInt8 := [54, 4, 132, 5, 1, 167, 255, 217, 3, 54, 5, 3, 54, 6, 21, 6, 42, 182, 1, 21, 162, 0, 25]
abbrev dktX5_ages_4 : List UInt8 := dkwX5_ages_4 ++ dktX5_ages_5
def dkwX5_ages_3 : List UInt8 := [158, 0, 7, 42, 182, 1, 136, 42, 17, 4, 10, 182, 1, 88, 21, 4, 42, 180, 1, 57, 184, 1, 60, 96]
abbrev dktX5_ages_3 : List UInt8 := dkwX5_ages_3 ++ dktX5_ages_4
def dkwX5_ages_2 : List UInt8 := [42, 27, 133, 181, 1, 121, 3, 54, 4, 3, 54, 5, 21, 5, 28, 162, 0, 39, 42, 182, 1, 21]
abbrev dktX5_ages_2 : List UInt8 := dkwX5_ages_2 ++ dktX5_ages_3
def dkwX5_ages_1 : List UInt8 := [153, 0, 12, 29, 3, 5, 184, 0, 202, 154, 0, 5, 2, 172, 42, 3, 17, 4, 10, 16, 30, 182, 1, 36]
abbrev dktX5_ages_1 : List UInt8 := dkwX5_ages_1 ++ dktX5_ages_2
def dkwX5_ages_0 : List UInt8 := [42, 3, 181, 0, 1, 27, 3, 17, 39, 15, 184, 0, 202, 153, 0, 22, 28, 4, 16, 99, 184, 0, 202]
abbrev dktX5_ages_0 : List UInt8 := dkwX5_ages_0 ++ dktX5_ages_1
theorem dksX5_ages_0 : cX5_ages.data.toList.drop 0 = dktX5_ages_0 := by decide +kernel
theorem dksX5_ages_1 : cX5_ages.data.toList.drop 23 = dktX5_ages_1 := dk_seg dksX5_ages_0 23 rfl rfl
theorem dksX5_ages_2 : cX5_ages.data.toList.drop 47 = dktX5_ages_2 := dk_seg dksX5_ages_1 24 rfl rfl
theorem dksX5_ages_3 : cX5_ages.data.toList.drop 69 = dktX5_ages_3 := dk_seg dksX5_ages_2 22 rfl rfl
theorem dksX5_ages_4 : cX5_ages.data.toList.drop 93 = dktX5_ages_4 := dk_seg dksX5_ages_3 24 rfl rfl
theorem dksX5_ages_5 : cX5_ages.data.toList.drop 116 = dktX5_ages_5 := dk_seg dksX5_ages_4 23 rfl rfl
theorem dksX5_ages_6 : cX5_ages.data.toList.drop 139 = dktX5_ages_6 := dk_seg dksX5_ages_5 23 rfl rfl
theorem dksX5_ages_7 : cX5_ages.data.toList.drop 161 = dktX5_ages_7 := dk_seg dksX5_ages_6 22 rfl rfl
theorem dX5_ages_0 : decode cX5_ages 0 = .ok (.aload_n 0, 1) := dk_42 (dk_at dksX5_ages_0 0 rfl rfl)
theorem dX5_ages_1 : decode cX5_ages 1 = .ok (.iconst 0, 1) := dk_3 (dk_at dksX5_ages_0 1 rfl rfl)
theorem dX5_ages_2 : decode cX5_ages 2 = .ok (.putfield 1, 3) := dk_181 0 1 (dk_at dksX5_ages_0 2 rfl rfl)
theorem dX5_ages_5 : decode cX5_ages 5 = .ok (.iload_n 1, 1) := dk_27 (dk_at dksX5_ages_0 5 rfl rfl)
theorem dX5_ages_6 : decode cX5_ages 6 = .ok (.iconst 0, 1) := dk_3 (dk_at dksX5_ages_0 6 rfl rfl)
theorem dX5_ages_7 : decode cX5_ages 7 = .ok (.sipush 9999, 3) := dk_17 39 15 (dk_at dksX5_ages_0 7 rfl rfl)
theorem dX5_ages_10 : decode cX5_ages 10 = .ok (.invokestatic 202, 3) := dk_184 0 202 (dk_at dksX5_ages_0 10 rfl rfl)
theorem dX5_ages_13 : decode cX5_ages 13 = .ok (.ifCond .eq 22, 3) := dk_153 0 22 (dk_at dksX5_ages_0 13 rfl rfl)
theorem dX5_ages_16 : decode cX5_ages 16 = .ok (.iload_n 2, 1) := dk_28 (dk_at dksX5_ages_0 16 rfl rfl)
theorem dX5_ages_17 : decode cX5_ages 17 = .ok (.iconst 1, 1) := dk_4 (dk_at dksX5_ages_0 17 rfl rfl)
theorem dX5_ages_18 : decode cX5_ages 18 = .ok (.bipush 99, 2) := dk_16 99 (dk_at dksX5_ages_0 18 rfl rfl)
theorem dX5_ages_20 : decode cX5_ages 20 = .ok (.invokestatic 202, 3) := dk_184 0 202 (dk_at dksX5_ages_0 20 rfl rfl)
theorem dX5_ages_23 : decode cX5_ages 23 = .ok (.ifCond .eq 12, 3) := dk_153 0 12 (dk_at dksX5_ages_1 0 rfl rfl)
theorem dX5_ages_26 : decode cX5_ages 26 = .ok (.iload_n 3, 1) := dk_29 (dk_at dksX5_ages_1 3 rfl rfl)
theorem dX5_ages_27 : decode cX5_ages 27 = .ok (.iconst 0, 1) := dk_3 (dk_at dksX5_ages_1 4 rfl rfl)
theorem dX5_ages_28 : decode cX5_ages 28 = .ok (.iconst 2, 1) := dk_5 (dk_at dksX5_ages_1 5 rfl rfl)
theorem dX5_ages_29 : decode cX5_ages 29 = .ok (.invokestatic 202, 3) := dk_184 0 202 (dk_at dksX5_ages_1 6 rfl rfl)
theorem dX5_ages_32 : decode cX5_ages 32 = .ok (.ifCond .ne 5, 3) := dk_154 0 5 (dk_at dksX5_ages_1 9 rfl rfl)
theorem dX5_ages_35 : decode cX5_ages 35 = .ok (.iconst (-1), 1) := dk_2 (dk_at dksX5_ages_1 12 rfl rfl)
theorem dX5_ages_36 : decode cX5_ages 36 = .ok (.ireturn, 1) := dk_172 (dk_at dksX5_ages_1 13 rfl rfl)
theorem dX5_ages_37 : decode cX5_ages 37 = .ok (.aload_n 0, 1) := dk_42 (dk_at dksX5_ages_1 14 rfl rfl)
theorem dX5_ages_38 : decode cX5_ages 38 = .ok (.iconst 0, 1) := dk_3 (dk_at dksX5_ages_1 15 rfl rfl)
theorem dX5_ages_39 : decode cX5_ages 39 = .ok (.sipush 1034, 3) := dk_17 4 10 (dk_at dksX5_ages_1 16 rfl rfl)
theorem dX5_ages_42 : decode cX5_ages 42 = .ok (.bipush 30, 2) := dk_16 30 (dk_at dksX5_ages_1 19 rfl rfl)
theorem dX5_ages_44 : decode cX5_ages 44 = .ok (.invokevirtual 292, 3) := dk_182 1 36 (dk_at dksX5_ages_1 21 rfl rfl)
theorem dX5_ages_47 : decode cX5_ages 47 = .ok (.aload_n 0, 1) := dk_42 (dk_at dksX5_ages_2 0 rfl rfl)
theorem dX5_ages_48 : decode cX5_ages 48 = .ok (.iload_n 1, 1) := dk_27 (dk_at dksX5_ages_2 1 rfl rfl)
theorem dX5_ages_49 : decode cX5_ages 49 = .ok (.i2l, 1) := dk_133 (dk_at dksX5_ages_2 2 rfl rfl)
theorem dX5_ages_50 : decode cX5_ages 50 = .ok (.putfield 377, 3) := dk_181 1 121 (dk_at dksX5_ages_2 3 rfl rfl)
theorem dX5_ages_53 : decode cX5_ages 53 = .ok (.iconst 0, 1) := dk_3 (dk_at dksX5_ages_2 6 rfl rfl)
theorem dX5_ages_54 : decode cX5_ages 54 = .ok (.istore 4, 2) := dk_54 4 (dk_at dksX5_ages_2 7 rfl rfl)
theorem dX5_ages_56 : decode cX5_ages 56 = .ok (.iconst 0, 1) := dk_3 (dk_at dksX5_ages_2 9 rfl rfl)
theorem dX5_ages_57 : decode cX5_ages 57 = .ok (.istore 5, 2) := dk_54 5 (dk_at dksX5_ages_2 10 rfl rfl)
theorem dX5_ages_59 : decode cX5_ages 59 = .ok (.iload 5, 2) := dk_21 5 (dk_at dksX5_ages_2 12 rfl rfl)
theorem dX5_ages_61 : decode cX5_ages 61 = .ok (.iload_n 2, 1) := dk_28 (dk_at dksX5_ages_2 14 rfl rfl)
theorem dX5_ages_62 : decode cX5_ages 62 = .ok (.if_icmp .ge 39, 3) := dk_162 0 39 (dk_at dksX5_ages_2 15 rfl rfl)
theorem dX5_ages_65 : decode cX5_ages 65 = .ok (.aload_n 0, 1) := dk_42 (dk_at dksX5_ages_2 18 rfl rfl)
theorem dX5_ages_66 : decode cX5_ages 66 = .ok (.invokevirtual 277, 3) := dk_182 1 21 (dk_at dksX5_ages_2 19 rfl rfl)
theorem dX5_ages_69 : decode cX5_ages 69 = .ok (.ifCond .le 7, 3) := dk_158 0 7 (dk_at dksX5_ages_3 0 rfl rfl)
theorem dX5_ages_72 : decode cX5_ages 72 = .ok (.aload_n 0, 1) := dk_42 (dk_at dksX5_ages_3 3 rfl rfl)
theorem dX5_ages_73 : decode cX5_ages 73 = .ok (.invokevirtual 392, 3) := dk_182 1 136 (dk_at dksX5_ages_3 4 rfl rfl)
theorem dX5_ages_76 : decode cX5_ages 76 = .ok (.aload_n 0, 1) := dk_42 (dk_at dksX5_ages_3 7 rfl rfl)
theorem dX5_ages_77 : decode cX5_ages 77 = .ok (.sipush 1034, 3) := dk_17 4 10 (dk_at dksX5_ages_3 8 rfl rfl)
theorem dX5_ages_80 : decode cX5_ages 80 = .ok (.invokevirtual 344, 3) := dk_182 1 88 (dk_at dksX5_ages_3 11 rfl rfl)
theorem dX5_ages_83 : decode cX5_ages 83 = .ok (.iload 4, 2) := dk_21 4 (dk_at dksX5_ages_3 14 rfl rfl)
theorem dX5_ages_85 : decode cX5_ages 85 = .ok (.aload_n 0, 1) := dk_42 (dk_at dksX5_ages_3 16 rfl rfl)
theorem dX5_ages_86 : decode cX5_ages 86 = .ok (.getfield 313, 3) := dk_180 1 57 (dk_at dksX5_ages_3 17 rfl rfl)
theorem dX5_ages_89 : decode cX5_ages 89 = .ok (.invokestatic 316, 3) := dk_184 1 60 (dk_at dksX5_ages_3 20 rfl rfl)
theorem dX5_ages_92 : decode cX5_ages 92 = .ok (.iadd, 1) := dk_96 (dk_at dksX5_ages_3 23 rfl rfl)
theorem dX5_ages_93 : decode cX5_ages 93 = .ok (.istore 4, 2) := dk_54 4 (dk_at dksX5_ages_4 0 rfl rfl)
theorem dX5_ages_95 : decode cX5_ages 95 = .ok (.iinc 5 1, 3) := dk_132 5 1 (dk_at dksX5_ages_4 2 rfl rfl)
theorem dX5_ages_98 : decode cX5_ages 98 = .ok (.goto (-39), 3) := dk_167 255 217 (dk_at dksX5_ages_4 5 rfl rfl)
theorem dX5_ages_101 : decode cX5_ages 101 = .ok (.iconst 0, 1) := dk_3 (dk_at dksX5_ages_4 8 rfl rfl)
theorem dX5_ages_102 : decode cX5_ages 102 = .ok (.istore 5, 2) := dk_54 5 (dk_at dksX5_ages_4 9 rfl rfl)
theorem dX5_ages_104 : decode cX5_ages 104 = .ok (.iconst 0, 1) := dk_3 (dk_at dksX5_ages_4 11 rfl rfl)
theorem dX5_ages_105 : decode cX5_ages 105 = .ok (.istore 6, 2) := dk_54 6 (dk_at dksX5_ages_4 12 rfl rfl)
theorem dX5_ages_107 : decode cX5_ages 107 = .ok (.iload 6, 2) := dk_21 6 (dk_at dksX5_ages_4 14 rfl rfl)
theorem dX5_ages_109 : decode cX5_ages 109 = .ok (.aload_n 0, 1) := dk_42 (dk_at dksX5_ages_4 16 rfl rfl)
theorem dX5_ages_110 : decode cX5_ages 110 = .ok (.invokevirtual 277, 3) := dk_182 1 21 (dk_at dksX5_ages_4 17 rfl rfl)
theorem dX5_ages_113 : decode cX5_ages 113 = .ok (.if_icmp .ge 25, 3) := dk_162 0 25 (dk_at dksX5_ages_4 20 rfl rfl)
theorem dX5_ages_116 : decode cX5_ages 116 = .ok (.iload 5, 2) := dk_21 5 (dk_at dksX5_ages_5 0 rfl rfl)
theorem dX5_ages_118 : decode cX5_ages 118 = .ok (.aload_n 0, 1) := dk_42 (dk_at dksX5_ages_5 2 rfl rfl)
theorem dX5_ages_119 : decode cX5_ages 119 = .ok (.getfield 117, 3) := dk_180 0 117 (dk_at dksX5_ages_5 3 rfl rfl)
theorem dX5_ages_122 : decode cX5_ages 122 = .ok (.sipush 1052, 3) := dk_17 4 28 (dk_at dksX5_ages_5 6 rfl rfl)
theorem dX5_ages_125 : decode cX5_ages 125 = .ok (.iload 6, 2) := dk_21 6 (dk_at dksX5_ages_5 9 rfl rfl)
theorem dX5_ages_127 : decode cX5_ages 127 = .ok (.iadd, 1) := dk_96 (dk_at dksX5_ages_5 11 rfl rfl)
theorem dX5_ages_128 : decode cX5_ages 128 = .ok (.iaload, 1) := dk_46 (dk_at dksX5_ages_5 12 rfl rfl)
theorem dX5_ages_129 : decode cX5_ages 129 = .ok (.iadd, 1) := dk_96 (dk_at dksX5_ages_5 13 rfl rfl)
theorem dX5_ages_130 : decode cX5_ages 130 = .ok (.istore 5, 2) := dk_54 5 (dk_at dksX5_ages_5 14 rfl rfl)
theorem dX5_ages_132 : decode cX5_ages 132 = .ok (.iinc 6 1, 3) := dk_132 6 1 (dk_at dksX5_ages_5 16 rfl rfl)
theorem dX5_ages_135 : decode cX5_ages 135 = .ok (.goto (-28), 3) := dk_167 255 228 (dk_at dksX5_ages_5 19 rfl rfl)
theorem dX5_ages_138 : decode cX5_ages 138 = .ok (.iload_n 3, 1) := dk_29 (dk_at dksX5_ages_5 22 rfl rfl)
theorem dX5_ages_139 : decode cX5_ages 139 = .ok (.ifCond .ne 8, 3) := dk_154 0 8 (dk_at dksX5_ages_6 0 rfl rfl)
theorem dX5_ages_142 : decode cX5_ages 142 = .ok (.iload 4, 2) := dk_21 4 (dk_at dksX5_ages_6 3 rfl rfl)
theorem dX5_ages_144 : decode cX5_ages 144 = .ok (.goto 28, 3) := dk_167 0 28 (dk_at dksX5_ages_6 5 rfl rfl)
theorem dX5_ages_147 : decode cX5_ages 147 = .ok (.iload_n 3, 1) := dk_29 (dk_at dksX5_ages_6 8 rfl rfl)
theorem dX5_ages_148 : decode cX5_ages 148 = .ok (.iconst 1, 1) := dk_4 (dk_at dksX5_ages_6 9 rfl rfl)
theorem dX5_ages_149 : decode cX5_ages 149 = .ok (.if_icmp .ne 21, 3) := dk_160 0 21 (dk_at dksX5_ages_6 10 rfl rfl)
theorem dX5_ages_152 : decode cX5_ages 152 = .ok (.aload_n 0, 1) := dk_42 (dk_at dksX5_ages_6 13 rfl rfl)
theorem dX5_ages_153 : decode cX5_ages 153 = .ok (.getfield 117, 3) := dk_180 0 117 (dk_at dksX5_ages_6 14 rfl rfl)
theorem dX5_ages_156 : decode cX5_ages 156 = .ok (.sipush 1035, 3) := dk_17 4 11 (dk_at dksX5_ages_6 17 rfl rfl)
theorem dX5_ages_159 : decode cX5_ages 159 = .ok (.iaload, 1) := dk_46 (dk_at dksX5_ages_6 20 rfl rfl)
theorem dX5_ages_160 : decode cX5_ages 160 = .ok (.aload_n 0, 1) := dk_42 (dk_at dksX5_ages_6 21 rfl rfl)
theorem dX5_ages_161 : decode cX5_ages 161 = .ok (.getfield 117, 3) := dk_180 0 117 (dk_at dksX5_ages_7 0 rfl rfl)
theorem dX5_ages_164 : decode cX5_ages 164 = .ok (.iconst 1, 1) := dk_4 (dk_at dksX5_ages_7 3 rfl rfl)
theorem dX5_ages_165 : decode cX5_ages 165 = .ok (.iaload, 1) := dk_46 (dk_at dksX5_ages_7 4 rfl rfl)
theorem dX5_ages_166 : decode cX5_ages 166 = .ok (.isub, 1) := dk_100 (dk_at dksX5_ages_7 5 rfl rfl)
theorem dX5_ages_167 : decode cX5_ages 167 = .ok (.goto 5, 3) := dk_167 0 5 (dk_at dksX5_ages_7 6 rfl rfl)
theorem dX5_ages_170 : decode cX5_ages 170 = .ok (.iload 5, 2) := dk_21 5 (dk_at dksX5_ages_7 9 rfl rfl)
theorem dX5_ages_172 : decode cX5_ages 172 = .ok (.ireturn, 1) := dk_172 (dk_at dksX5_ages_7 11 rfl rfl)
abbrev cX5_drawsDeed : ByteArray := prog_23_method_102_code
def yX5_drawsDeed : MethodName := ⟨RX5, "drawsDeed", "()V"⟩
def dkwX5_drawsDeed_3 : List UInt8 := [17, 4, 10, 28, 29, 182, 1, 91, 153, 0, 14, 42, 180, 0, 117, 17, 4, 16, 28, 96, 29, 79, 177]
abbrev dktX5_drawsDeed_3 : List UInt8 := dkwX5_drawsDeed_3 ++ []
def dkwX5_drawsDeed_2 : List UInt8 := [160, 0, 44, 42, 42, 182, 1, 21, 182, 1, 133, 61, 42, 42, 182, 1, 14, 182, 1, 133, 62, 42]
abbrev dktX5_drawsDeed_2 : List UInt8 := dkwX5_drawsDeed_2 ++ dktX5_drawsDeed_3
def dkwX5_drawsDeed_1 : List UInt8 := [17, 4, 16, 28, 96, 46, 155, 0, 11, 42, 17, 4, 10, 28, 182, 1, 66, 167, 0, 49, 27, 4]
abbrev dktX5_drawsDeed_1 : List UInt8 := dkwX5_drawsDeed_1 ++ dktX5_drawsDeed_2
def dkwX5_drawsDeed_0 : List UInt8 := [42, 16, 6, 182, 1, 133, 60, 27, 154, 0, 36, 42, 42, 182, 1, 21, 182, 1, 133, 61, 42, 180, 0, 117]
abbrev dktX5_drawsDeed_0 : List UInt8 := dkwX5_drawsDeed_0 ++ dktX5_drawsDeed_1
theorem dksX5_drawsDeed_0 : cX5_drawsDeed.data.toList.drop 0 = dktX5_drawsDeed_0 := by decide +kernel
theorem dksX5_drawsDeed_1 : cX5_drawsDeed.data.toList.drop 24 = dktX5_drawsDeed_1 := dk_seg dksX5_drawsDeed_0 24 rfl rfl
theorem dksX5_drawsDeed_2 : cX5_drawsDeed.data.toList.drop 46 = dktX5_drawsDeed_2 := dk_seg dksX5_drawsDeed_1 22 rfl rfl
theorem dksX5_drawsDeed_3 : cX5_drawsDeed.data.toList.drop 68 = dktX5_drawsDeed_3 := dk_seg dksX5_drawsDeed_2 22 rfl rfl
theorem dX5_drawsDeed_0 : decode cX5_drawsDeed 0 = .ok (.aload_n 0, 1) := dk_42 (dk_at dksX5_drawsDeed_0 0 rfl rfl)
theorem dX5_drawsDeed_1 : decode cX5_drawsDeed 1 = .ok (.bipush 6, 2) := dk_16 6 (dk_at dksX5_drawsDeed_0 1 rfl rfl)
theorem dX5_drawsDeed_3 : decode cX5_drawsDeed 3 = .ok (.invokevirtual 389, 3) := dk_182 1 133 (dk_at dksX5_drawsDeed_0 3 rfl rfl)
theorem dX5_drawsDeed_6 : decode cX5_drawsDeed 6 = .ok (.istore_n 1, 1) := dk_60 (dk_at dksX5_drawsDeed_0 6 rfl rfl)
theorem dX5_drawsDeed_7 : decode cX5_drawsDeed 7 = .ok (.iload_n 1, 1) := dk_27 (dk_at dksX5_drawsDeed_0 7 rfl rfl)
theorem dX5_drawsDeed_8 : decode cX5_drawsDeed 8 = .ok (.ifCond .ne 36, 3) := dk_154 0 36 (dk_at dksX5_drawsDeed_0 8 rfl rfl)
theorem dX5_drawsDeed_11 : decode cX5_drawsDeed 11 = .ok (.aload_n 0, 1) := dk_42 (dk_at dksX5_drawsDeed_0 11 rfl rfl)
theorem dX5_drawsDeed_12 : decode cX5_drawsDeed 12 = .ok (.aload_n 0, 1) := dk_42 (dk_at dksX5_drawsDeed_0 12 rfl rfl)
theorem dX5_drawsDeed_13 : decode cX5_drawsDeed 13 = .ok (.invokevirtual 277, 3) := dk_182 1 21 (dk_at dksX5_drawsDeed_0 13 rfl rfl)
theorem dX5_drawsDeed_16 : decode cX5_drawsDeed 16 = .ok (.invokevirtual 389, 3) := dk_182 1 133 (dk_at dksX5_drawsDeed_0 16 rfl rfl)
theorem dX5_drawsDeed_19 : decode cX5_drawsDeed 19 = .ok (.istore_n 2, 1) := dk_61 (dk_at dksX5_drawsDeed_0 19 rfl rfl)
theorem dX5_drawsDeed_20 : decode cX5_drawsDeed 20 = .ok (.aload_n 0, 1) := dk_42 (dk_at dksX5_drawsDeed_0 20 rfl rfl)
theorem dX5_drawsDeed_21 : decode cX5_drawsDeed 21 = .ok (.getfield 117, 3) := dk_180 0 117 (dk_at dksX5_drawsDeed_0 21 rfl rfl)
theorem dX5_drawsDeed_24 : decode cX5_drawsDeed 24 = .ok (.sipush 1040, 3) := dk_17 4 16 (dk_at dksX5_drawsDeed_1 0 rfl rfl)
theorem dX5_drawsDeed_27 : decode cX5_drawsDeed 27 = .ok (.iload_n 2, 1) := dk_28 (dk_at dksX5_drawsDeed_1 3 rfl rfl)
theorem dX5_drawsDeed_28 : decode cX5_drawsDeed 28 = .ok (.iadd, 1) := dk_96 (dk_at dksX5_drawsDeed_1 4 rfl rfl)
theorem dX5_drawsDeed_29 : decode cX5_drawsDeed 29 = .ok (.iaload, 1) := dk_46 (dk_at dksX5_drawsDeed_1 5 rfl rfl)
theorem dX5_drawsDeed_30 : decode cX5_drawsDeed 30 = .ok (.ifCond .lt 11, 3) := dk_155 0 11 (dk_at dksX5_drawsDeed_1 6 rfl rfl)
theorem dX5_drawsDeed_33 : decode cX5_drawsDeed 33 = .ok (.aload_n 0, 1) := dk_42 (dk_at dksX5_drawsDeed_1 9 rfl rfl)
theorem dX5_drawsDeed_34 : decode cX5_drawsDeed 34 = .ok (.sipush 1034, 3) := dk_17 4 10 (dk_at dksX5_drawsDeed_1 10 rfl rfl)
theorem dX5_drawsDeed_37 : decode cX5_drawsDeed 37 = .ok (.iload_n 2, 1) := dk_28 (dk_at dksX5_drawsDeed_1 13 rfl rfl)
theorem dX5_drawsDeed_38 : decode cX5_drawsDeed 38 = .ok (.invokevirtual 322, 3) := dk_182 1 66 (dk_at dksX5_drawsDeed_1 14 rfl rfl)
theorem dX5_drawsDeed_41 : decode cX5_drawsDeed 41 = .ok (.goto 49, 3) := dk_167 0 49 (dk_at dksX5_drawsDeed_1 17 rfl rfl)
theorem dX5_drawsDeed_44 : decode cX5_drawsDeed 44 = .ok (.iload_n 1, 1) := dk_27 (dk_at dksX5_drawsDeed_1 20 rfl rfl)
theorem dX5_drawsDeed_45 : decode cX5_drawsDeed 45 = .ok (.iconst 1, 1) := dk_4 (dk_at dksX5_drawsDeed_1 21 rfl rfl)
theorem dX5_drawsDeed_46 : decode cX5_drawsDeed 46 = .ok (.if_icmp .ne 44, 3) := dk_160 0 44 (dk_at dksX5_drawsDeed_2 0 rfl rfl)
theorem dX5_drawsDeed_49 : decode cX5_drawsDeed 49 = .ok (.aload_n 0, 1) := dk_42 (dk_at dksX5_drawsDeed_2 3 rfl rfl)
theorem dX5_drawsDeed_50 : decode cX5_drawsDeed 50 = .ok (.aload_n 0, 1) := dk_42 (dk_at dksX5_drawsDeed_2 4 rfl rfl)
theorem dX5_drawsDeed_51 : decode cX5_drawsDeed 51 = .ok (.invokevirtual 277, 3) := dk_182 1 21 (dk_at dksX5_drawsDeed_2 5 rfl rfl)
theorem dX5_drawsDeed_54 : decode cX5_drawsDeed 54 = .ok (.invokevirtual 389, 3) := dk_182 1 133 (dk_at dksX5_drawsDeed_2 8 rfl rfl)
theorem dX5_drawsDeed_57 : decode cX5_drawsDeed 57 = .ok (.istore_n 2, 1) := dk_61 (dk_at dksX5_drawsDeed_2 11 rfl rfl)
theorem dX5_drawsDeed_58 : decode cX5_drawsDeed 58 = .ok (.aload_n 0, 1) := dk_42 (dk_at dksX5_drawsDeed_2 12 rfl rfl)
theorem dX5_drawsDeed_59 : decode cX5_drawsDeed 59 = .ok (.aload_n 0, 1) := dk_42 (dk_at dksX5_drawsDeed_2 13 rfl rfl)
theorem dX5_drawsDeed_60 : decode cX5_drawsDeed 60 = .ok (.invokevirtual 270, 3) := dk_182 1 14 (dk_at dksX5_drawsDeed_2 14 rfl rfl)
theorem dX5_drawsDeed_63 : decode cX5_drawsDeed 63 = .ok (.invokevirtual 389, 3) := dk_182 1 133 (dk_at dksX5_drawsDeed_2 17 rfl rfl)
theorem dX5_drawsDeed_66 : decode cX5_drawsDeed 66 = .ok (.istore_n 3, 1) := dk_62 (dk_at dksX5_drawsDeed_2 20 rfl rfl)
theorem dX5_drawsDeed_67 : decode cX5_drawsDeed 67 = .ok (.aload_n 0, 1) := dk_42 (dk_at dksX5_drawsDeed_2 21 rfl rfl)
theorem dX5_drawsDeed_68 : decode cX5_drawsDeed 68 = .ok (.sipush 1034, 3) := dk_17 4 10 (dk_at dksX5_drawsDeed_3 0 rfl rfl)
theorem dX5_drawsDeed_71 : decode cX5_drawsDeed 71 = .ok (.iload_n 2, 1) := dk_28 (dk_at dksX5_drawsDeed_3 3 rfl rfl)
theorem dX5_drawsDeed_72 : decode cX5_drawsDeed 72 = .ok (.iload_n 3, 1) := dk_29 (dk_at dksX5_drawsDeed_3 4 rfl rfl)
theorem dX5_drawsDeed_73 : decode cX5_drawsDeed 73 = .ok (.invokevirtual 347, 3) := dk_182 1 91 (dk_at dksX5_drawsDeed_3 5 rfl rfl)
theorem dX5_drawsDeed_76 : decode cX5_drawsDeed 76 = .ok (.ifCond .eq 14, 3) := dk_153 0 14 (dk_at dksX5_drawsDeed_3 8 rfl rfl)
theorem dX5_drawsDeed_79 : decode cX5_drawsDeed 79 = .ok (.aload_n 0, 1) := dk_42 (dk_at dksX5_drawsDeed_3 11 rfl rfl)
theorem dX5_drawsDeed_80 : decode cX5_drawsDeed 80 = .ok (.getfield 117, 3) := dk_180 0 117 (dk_at dksX5_drawsDeed_3 12 rfl rfl)
theorem dX5_drawsDeed_83 : decode cX5_drawsDeed 83 = .ok (.sipush 1040, 3) := dk_17 4 16 (dk_at dksX5_drawsDeed_3 15 rfl rfl)
theorem dX5_drawsDeed_86 : decode cX5_drawsDeed 86 = .ok (.iload_n 2, 1) := dk_28 (dk_at dksX5_drawsDeed_3 18 rfl rfl)
theorem dX5_drawsDeed_87 : decode cX5_drawsDeed 87 = .ok (.iadd, 1) := dk_96 (dk_at dksX5_drawsDeed_3 19 rfl rfl)
theorem dX5_drawsDeed_88 : decode cX5_drawsDeed 88 = .ok (.iload_n 3, 1) := dk_29 (dk_at dksX5_drawsDeed_3 20 rfl rfl)
theorem dX5_drawsDeed_89 : decode cX5_drawsDeed 89 = .ok (.iastore, 1) := dk_79 (dk_at dksX5_drawsDeed_3 21 rfl rfl)
theorem dX5_drawsDeed_90 : decode cX5_drawsDeed 90 = .ok (.return_, 1) := dk_177 (dk_at dksX5_drawsDeed_3 22 rfl rfl)
abbrev cX5_draw : ByteArray := prog_23_method_101_code
def yX5_draw : MethodName := ⟨RX5, "draw", "(I)I"⟩
def dkwX5_draw_1 : List UInt8 := [20, 1, 131, 109, 27, 133, 113, 136, 172]
abbrev dktX5_draw_1 : List UInt8 := dkwX5_draw_1 ++ []
def dkwX5_draw_0 : List UInt8 := [42, 42, 180, 1, 121, 20, 1, 125, 105, 20, 1, 127, 97, 20, 1, 129, 113, 181, 1, 121, 42, 180, 1, 121]
abbrev dktX5_draw_0 : List UInt8 := dkwX5_draw_0 ++ dktX5_draw_1
theorem dksX5_draw_0 : cX5_draw.data.toList.drop 0 = dktX5_draw_0 := by decide +kernel
theorem dksX5_draw_1 : cX5_draw.data.toList.drop 24 = dktX5_draw_1 := dk_seg dksX5_draw_0 24 rfl rfl
theorem dX5_draw_0 : decode cX5_draw 0 = .ok (.aload_n 0, 1) := dk_42 (dk_at dksX5_draw_0 0 rfl rfl)
theorem dX5_draw_1 : decode cX5_draw 1 = .ok (.aload_n 0, 1) := dk_42 (dk_at dksX5_draw_0 1 rfl rfl)
theorem dX5_draw_2 : decode cX5_draw 2 = .ok (.getfield 377, 3) := dk_180 1 121 (dk_at dksX5_draw_0 2 rfl rfl)
theorem dX5_draw_5 : decode cX5_draw 5 = .ok (.ldc2_w 381, 3) := dk_20 1 125 (dk_at dksX5_draw_0 5 rfl rfl)
theorem dX5_draw_8 : decode cX5_draw 8 = .ok (.lmul, 1) := dk_105 (dk_at dksX5_draw_0 8 rfl rfl)
theorem dX5_draw_9 : decode cX5_draw 9 = .ok (.ldc2_w 383, 3) := dk_20 1 127 (dk_at dksX5_draw_0 9 rfl rfl)
theorem dX5_draw_12 : decode cX5_draw 12 = .ok (.ladd, 1) := dk_97 (dk_at dksX5_draw_0 12 rfl rfl)
theorem dX5_draw_13 : decode cX5_draw 13 = .ok (.ldc2_w 385, 3) := dk_20 1 129 (dk_at dksX5_draw_0 13 rfl rfl)
theorem dX5_draw_16 : decode cX5_draw 16 = .ok (.lrem, 1) := dk_113 (dk_at dksX5_draw_0 16 rfl rfl)
theorem dX5_draw_17 : decode cX5_draw 17 = .ok (.putfield 377, 3) := dk_181 1 121 (dk_at dksX5_draw_0 17 rfl rfl)
theorem dX5_draw_20 : decode cX5_draw 20 = .ok (.aload_n 0, 1) := dk_42 (dk_at dksX5_draw_0 20 rfl rfl)
theorem dX5_draw_21 : decode cX5_draw 21 = .ok (.getfield 377, 3) := dk_180 1 121 (dk_at dksX5_draw_0 21 rfl rfl)
theorem dX5_draw_24 : decode cX5_draw 24 = .ok (.ldc2_w 387, 3) := dk_20 1 131 (dk_at dksX5_draw_1 0 rfl rfl)
theorem dX5_draw_27 : decode cX5_draw 27 = .ok (.ldiv, 1) := dk_109 (dk_at dksX5_draw_1 3 rfl rfl)
theorem dX5_draw_28 : decode cX5_draw 28 = .ok (.iload_n 1, 1) := dk_27 (dk_at dksX5_draw_1 4 rfl rfl)
theorem dX5_draw_29 : decode cX5_draw 29 = .ok (.i2l, 1) := dk_133 (dk_at dksX5_draw_1 5 rfl rfl)
theorem dX5_draw_30 : decode cX5_draw 30 = .ok (.lrem, 1) := dk_113 (dk_at dksX5_draw_1 6 rfl rfl)
theorem dX5_draw_31 : decode cX5_draw 31 = .ok (.l2i, 1) := dk_136 (dk_at dksX5_draw_1 7 rfl rfl)
theorem dX5_draw_32 : decode cX5_draw 32 = .ok (.ireturn, 1) := dk_172 (dk_at dksX5_draw_1 8 rfl rfl)
abbrev cX5_mark : ByteArray := prog_23_method_104_code
def yX5_mark : MethodName := ⟨RX5, "mark", "(IZ)Z"⟩
def dkwX5_mark_3 : List UInt8 := [28, 153, 0, 7, 3, 167, 0, 7, 42, 180, 1, 33, 181, 1, 33, 4, 172]
abbrev dktX5_mark_3 : List UInt8 := dkwX5_mark_3 ++ []
def dkwX5_mark_2 : List UInt8 := [167, 0, 4, 3, 28, 153, 0, 7, 3, 167, 0, 9, 16, 47, 4, 27, 96, 104, 16, 47, 182, 1, 36, 42]
abbrev dktX5_mark_2 : List UInt8 := dkwX5_mark_2 ++ dktX5_mark_3
def dkwX5_mark_1 : List UInt8 := [154, 0, 5, 3, 172, 42, 180, 0, 120, 27, 4, 84, 42, 28, 153, 0, 12, 16, 47, 4, 27, 96, 104]
abbrev dktX5_mark_1 : List UInt8 := dkwX5_mark_1 ++ dktX5_mark_2
def dkwX5_mark_0 : List UInt8 := [42, 3, 181, 0, 1, 27, 3, 6, 184, 0, 202, 153, 0, 16, 28, 153, 0, 14, 42, 180, 0, 120, 27, 51]
abbrev dktX5_mark_0 : List UInt8 := dkwX5_mark_0 ++ dktX5_mark_1
theorem dksX5_mark_0 : cX5_mark.data.toList.drop 0 = dktX5_mark_0 := by decide +kernel
theorem dksX5_mark_1 : cX5_mark.data.toList.drop 24 = dktX5_mark_1 := dk_seg dksX5_mark_0 24 rfl rfl
theorem dksX5_mark_2 : cX5_mark.data.toList.drop 47 = dktX5_mark_2 := dk_seg dksX5_mark_1 23 rfl rfl
theorem dksX5_mark_3 : cX5_mark.data.toList.drop 71 = dktX5_mark_3 := dk_seg dksX5_mark_2 24 rfl rfl
theorem dX5_mark_0 : decode cX5_mark 0 = .ok (.aload_n 0, 1) := dk_42 (dk_at dksX5_mark_0 0 rfl rfl)
theorem dX5_mark_1 : decode cX5_mark 1 = .ok (.iconst 0, 1) := dk_3 (dk_at dksX5_mark_0 1 rfl rfl)
theorem dX5_mark_2 : decode cX5_mark 2 = .ok (.putfield 1, 3) := dk_181 0 1 (dk_at dksX5_mark_0 2 rfl rfl)
theorem dX5_mark_5 : decode cX5_mark 5 = .ok (.iload_n 1, 1) := dk_27 (dk_at dksX5_mark_0 5 rfl rfl)
theorem dX5_mark_6 : decode cX5_mark 6 = .ok (.iconst 0, 1) := dk_3 (dk_at dksX5_mark_0 6 rfl rfl)
theorem dX5_mark_7 : decode cX5_mark 7 = .ok (.iconst 3, 1) := dk_6 (dk_at dksX5_mark_0 7 rfl rfl)
theorem dX5_mark_8 : decode cX5_mark 8 = .ok (.invokestatic 202, 3) := dk_184 0 202 (dk_at dksX5_mark_0 8 rfl rfl)
theorem dX5_mark_11 : decode cX5_mark 11 = .ok (.ifCond .eq 16, 3) := dk_153 0 16 (dk_at dksX5_mark_0 11 rfl rfl)
theorem dX5_mark_14 : decode cX5_mark 14 = .ok (.iload_n 2, 1) := dk_28 (dk_at dksX5_mark_0 14 rfl rfl)
theorem dX5_mark_15 : decode cX5_mark 15 = .ok (.ifCond .eq 14, 3) := dk_153 0 14 (dk_at dksX5_mark_0 15 rfl rfl)
theorem dX5_mark_18 : decode cX5_mark 18 = .ok (.aload_n 0, 1) := dk_42 (dk_at dksX5_mark_0 18 rfl rfl)
theorem dX5_mark_19 : decode cX5_mark 19 = .ok (.getfield 120, 3) := dk_180 0 120 (dk_at dksX5_mark_0 19 rfl rfl)
theorem dX5_mark_22 : decode cX5_mark 22 = .ok (.iload_n 1, 1) := dk_27 (dk_at dksX5_mark_0 22 rfl rfl)
theorem dX5_mark_23 : decode cX5_mark 23 = .ok (.baload, 1) := dk_51 (dk_at dksX5_mark_0 23 rfl rfl)
theorem dX5_mark_24 : decode cX5_mark 24 = .ok (.ifCond .ne 5, 3) := dk_154 0 5 (dk_at dksX5_mark_1 0 rfl rfl)
theorem dX5_mark_27 : decode cX5_mark 27 = .ok (.iconst 0, 1) := dk_3 (dk_at dksX5_mark_1 3 rfl rfl)
theorem dX5_mark_28 : decode cX5_mark 28 = .ok (.ireturn, 1) := dk_172 (dk_at dksX5_mark_1 4 rfl rfl)
theorem dX5_mark_29 : decode cX5_mark 29 = .ok (.aload_n 0, 1) := dk_42 (dk_at dksX5_mark_1 5 rfl rfl)
theorem dX5_mark_30 : decode cX5_mark 30 = .ok (.getfield 120, 3) := dk_180 0 120 (dk_at dksX5_mark_1 6 rfl rfl)
theorem dX5_mark_33 : decode cX5_mark 33 = .ok (.iload_n 1, 1) := dk_27 (dk_at dksX5_mark_1 9 rfl rfl)
theorem dX5_mark_34 : decode cX5_mark 34 = .ok (.iconst 1, 1) := dk_4 (dk_at dksX5_mark_1 10 rfl rfl)
theorem dX5_mark_35 : decode cX5_mark 35 = .ok (.bastore, 1) := dk_84 (dk_at dksX5_mark_1 11 rfl rfl)
theorem dX5_mark_36 : decode cX5_mark 36 = .ok (.aload_n 0, 1) := dk_42 (dk_at dksX5_mark_1 12 rfl rfl)
theorem dX5_mark_37 : decode cX5_mark 37 = .ok (.iload_n 2, 1) := dk_28 (dk_at dksX5_mark_1 13 rfl rfl)
theorem dX5_mark_38 : decode cX5_mark 38 = .ok (.ifCond .eq 12, 3) := dk_153 0 12 (dk_at dksX5_mark_1 14 rfl rfl)
theorem dX5_mark_41 : decode cX5_mark 41 = .ok (.bipush 47, 2) := dk_16 47 (dk_at dksX5_mark_1 17 rfl rfl)
theorem dX5_mark_43 : decode cX5_mark 43 = .ok (.iconst 1, 1) := dk_4 (dk_at dksX5_mark_1 19 rfl rfl)
theorem dX5_mark_44 : decode cX5_mark 44 = .ok (.iload_n 1, 1) := dk_27 (dk_at dksX5_mark_1 20 rfl rfl)
theorem dX5_mark_45 : decode cX5_mark 45 = .ok (.iadd, 1) := dk_96 (dk_at dksX5_mark_1 21 rfl rfl)
theorem dX5_mark_46 : decode cX5_mark 46 = .ok (.imul, 1) := dk_104 (dk_at dksX5_mark_1 22 rfl rfl)
theorem dX5_mark_47 : decode cX5_mark 47 = .ok (.goto 4, 3) := dk_167 0 4 (dk_at dksX5_mark_2 0 rfl rfl)
theorem dX5_mark_50 : decode cX5_mark 50 = .ok (.iconst 0, 1) := dk_3 (dk_at dksX5_mark_2 3 rfl rfl)
theorem dX5_mark_51 : decode cX5_mark 51 = .ok (.iload_n 2, 1) := dk_28 (dk_at dksX5_mark_2 4 rfl rfl)
theorem dX5_mark_52 : decode cX5_mark 52 = .ok (.ifCond .eq 7, 3) := dk_153 0 7 (dk_at dksX5_mark_2 5 rfl rfl)
theorem dX5_mark_55 : decode cX5_mark 55 = .ok (.iconst 0, 1) := dk_3 (dk_at dksX5_mark_2 8 rfl rfl)
theorem dX5_mark_56 : decode cX5_mark 56 = .ok (.goto 9, 3) := dk_167 0 9 (dk_at dksX5_mark_2 9 rfl rfl)
theorem dX5_mark_59 : decode cX5_mark 59 = .ok (.bipush 47, 2) := dk_16 47 (dk_at dksX5_mark_2 12 rfl rfl)
theorem dX5_mark_61 : decode cX5_mark 61 = .ok (.iconst 1, 1) := dk_4 (dk_at dksX5_mark_2 14 rfl rfl)
theorem dX5_mark_62 : decode cX5_mark 62 = .ok (.iload_n 1, 1) := dk_27 (dk_at dksX5_mark_2 15 rfl rfl)
theorem dX5_mark_63 : decode cX5_mark 63 = .ok (.iadd, 1) := dk_96 (dk_at dksX5_mark_2 16 rfl rfl)
theorem dX5_mark_64 : decode cX5_mark 64 = .ok (.imul, 1) := dk_104 (dk_at dksX5_mark_2 17 rfl rfl)
theorem dX5_mark_65 : decode cX5_mark 65 = .ok (.bipush 47, 2) := dk_16 47 (dk_at dksX5_mark_2 18 rfl rfl)
theorem dX5_mark_67 : decode cX5_mark 67 = .ok (.invokevirtual 292, 3) := dk_182 1 36 (dk_at dksX5_mark_2 20 rfl rfl)
theorem dX5_mark_70 : decode cX5_mark 70 = .ok (.aload_n 0, 1) := dk_42 (dk_at dksX5_mark_2 23 rfl rfl)
theorem dX5_mark_71 : decode cX5_mark 71 = .ok (.iload_n 2, 1) := dk_28 (dk_at dksX5_mark_3 0 rfl rfl)
theorem dX5_mark_72 : decode cX5_mark 72 = .ok (.ifCond .eq 7, 3) := dk_153 0 7 (dk_at dksX5_mark_3 1 rfl rfl)
theorem dX5_mark_75 : decode cX5_mark 75 = .ok (.iconst 0, 1) := dk_3 (dk_at dksX5_mark_3 4 rfl rfl)
theorem dX5_mark_76 : decode cX5_mark 76 = .ok (.goto 7, 3) := dk_167 0 7 (dk_at dksX5_mark_3 5 rfl rfl)
theorem dX5_mark_79 : decode cX5_mark 79 = .ok (.aload_n 0, 1) := dk_42 (dk_at dksX5_mark_3 8 rfl rfl)
theorem dX5_mark_80 : decode cX5_mark 80 = .ok (.getfield 289, 3) := dk_180 1 33 (dk_at dksX5_mark_3 9 rfl rfl)
theorem dX5_mark_83 : decode cX5_mark 83 = .ok (.putfield 289, 3) := dk_181 1 33 (dk_at dksX5_mark_3 12 rfl rfl)
theorem dX5_mark_86 : decode cX5_mark 86 = .ok (.iconst 1, 1) := dk_4 (dk_at dksX5_mark_3 15 rfl rfl)
theorem dX5_mark_87 : decode cX5_mark 87 = .ok (.ireturn, 1) := dk_172 (dk_at dksX5_mark_3 16 rfl rfl)
abbrev cX5_count : ByteArray := prog_23_method_107_code
def yX5_count : MethodName := ⟨RX5, "count", "(I)I"⟩
def dkwX5_count_5 : List UInt8 := [42, 180, 0, 11, 172, 2, 172]
abbrev dktX5_count_5 : List UInt8 := dkwX5_count_5 ++ []
def dkwX5_count_4 : List UInt8 := [182, 1, 142, 172, 42, 180, 0, 108, 3, 46, 172, 42, 180, 0, 117, 16, 30, 46, 172, 42, 180, 1, 33, 172]
abbrev dktX5_count_4 : List UInt8 := dkwX5_count_4 ++ dktX5_count_5
def dkwX5_count_3 : List UInt8 := [16, 12, 112, 172, 42, 3, 182, 1, 97, 172, 42, 182, 1, 139, 172, 42, 180, 0, 117, 4, 46, 172, 42]
abbrev dktX5_count_3 : List UInt8 := dkwX5_count_3 ++ dktX5_count_4
def dkwX5_count_2 : List UInt8 := [42, 180, 0, 87, 27, 46, 172, 42, 180, 0, 117, 3, 46, 16, 12, 108, 172, 42, 180, 0, 117, 3, 46]
abbrev dktX5_count_2 : List UInt8 := dkwX5_count_2 ++ dktX5_count_3
def dkwX5_count_1 : List UInt8 := [170, 0, 0, 0, 0, 141, 0, 0, 0, 0, 0, 0, 0, 12, 0, 0, 0, 66, 0, 0, 0, 66, 0, 0, 0, 66, 0, 0, 0, 73, 0, 0, 0, 83, 0, 0, 0, 93, 0, 0, 0, 99, 0, 0, 0, 104, 0, 0, 0, 111, 0, 0, 0, 116, 0, 0, 0, 123, 0, 0, 0, 131, 0, 0, 0, 136]
abbrev dktX5_count_1 : List UInt8 := dkwX5_count_1 ++ dktX5_count_2
def dkwX5_count_0 : List UInt8 := [42, 3, 181, 0, 1, 27]
abbrev dktX5_count_0 : List UInt8 := dkwX5_count_0 ++ dktX5_count_1
theorem dksX5_count_0 : cX5_count.data.toList.drop 0 = dktX5_count_0 := by decide +kernel
theorem dksX5_count_1 : cX5_count.data.toList.drop 6 = dktX5_count_1 := dk_seg dksX5_count_0 6 rfl rfl
theorem dksX5_count_2 : cX5_count.data.toList.drop 72 = dktX5_count_2 := dk_seg dksX5_count_1 66 rfl rfl
theorem dksX5_count_3 : cX5_count.data.toList.drop 95 = dktX5_count_3 := dk_seg dksX5_count_2 23 rfl rfl
theorem dksX5_count_4 : cX5_count.data.toList.drop 118 = dktX5_count_4 := dk_seg dksX5_count_3 23 rfl rfl
theorem dksX5_count_5 : cX5_count.data.toList.drop 142 = dktX5_count_5 := dk_seg dksX5_count_4 24 rfl rfl
theorem dX5_count_0 : decode cX5_count 0 = .ok (.aload_n 0, 1) := dk_42 (dk_at dksX5_count_0 0 rfl rfl)
theorem dX5_count_1 : decode cX5_count 1 = .ok (.iconst 0, 1) := dk_3 (dk_at dksX5_count_0 1 rfl rfl)
theorem dX5_count_2 : decode cX5_count 2 = .ok (.putfield 1, 3) := dk_181 0 1 (dk_at dksX5_count_0 2 rfl rfl)
theorem dX5_count_5 : decode cX5_count 5 = .ok (.iload_n 1, 1) := dk_27 (dk_at dksX5_count_0 5 rfl rfl)
theorem dX5_count_6 : decode cX5_count 6 = .ok (.tableswitch 141 0 12 #[66, 66, 66, 73, 83, 93, 99, 104, 111, 116, 123, 131, 136], 66) := by decide +kernel
theorem dX5_count_72 : decode cX5_count 72 = .ok (.aload_n 0, 1) := dk_42 (dk_at dksX5_count_2 0 rfl rfl)
theorem dX5_count_73 : decode cX5_count 73 = .ok (.getfield 87, 3) := dk_180 0 87 (dk_at dksX5_count_2 1 rfl rfl)
theorem dX5_count_76 : decode cX5_count 76 = .ok (.iload_n 1, 1) := dk_27 (dk_at dksX5_count_2 4 rfl rfl)
theorem dX5_count_77 : decode cX5_count 77 = .ok (.iaload, 1) := dk_46 (dk_at dksX5_count_2 5 rfl rfl)
theorem dX5_count_78 : decode cX5_count 78 = .ok (.ireturn, 1) := dk_172 (dk_at dksX5_count_2 6 rfl rfl)
theorem dX5_count_79 : decode cX5_count 79 = .ok (.aload_n 0, 1) := dk_42 (dk_at dksX5_count_2 7 rfl rfl)
theorem dX5_count_80 : decode cX5_count 80 = .ok (.getfield 117, 3) := dk_180 0 117 (dk_at dksX5_count_2 8 rfl rfl)
theorem dX5_count_83 : decode cX5_count 83 = .ok (.iconst 0, 1) := dk_3 (dk_at dksX5_count_2 11 rfl rfl)
theorem dX5_count_84 : decode cX5_count 84 = .ok (.iaload, 1) := dk_46 (dk_at dksX5_count_2 12 rfl rfl)
theorem dX5_count_85 : decode cX5_count 85 = .ok (.bipush 12, 2) := dk_16 12 (dk_at dksX5_count_2 13 rfl rfl)
theorem dX5_count_87 : decode cX5_count 87 = .ok (.idiv, 1) := dk_108 (dk_at dksX5_count_2 15 rfl rfl)
theorem dX5_count_88 : decode cX5_count 88 = .ok (.ireturn, 1) := dk_172 (dk_at dksX5_count_2 16 rfl rfl)
theorem dX5_count_89 : decode cX5_count 89 = .ok (.aload_n 0, 1) := dk_42 (dk_at dksX5_count_2 17 rfl rfl)
theorem dX5_count_90 : decode cX5_count 90 = .ok (.getfield 117, 3) := dk_180 0 117 (dk_at dksX5_count_2 18 rfl rfl)
theorem dX5_count_93 : decode cX5_count 93 = .ok (.iconst 0, 1) := dk_3 (dk_at dksX5_count_2 21 rfl rfl)
theorem dX5_count_94 : decode cX5_count 94 = .ok (.iaload, 1) := dk_46 (dk_at dksX5_count_2 22 rfl rfl)
theorem dX5_count_95 : decode cX5_count 95 = .ok (.bipush 12, 2) := dk_16 12 (dk_at dksX5_count_3 0 rfl rfl)
theorem dX5_count_97 : decode cX5_count 97 = .ok (.irem, 1) := dk_112 (dk_at dksX5_count_3 2 rfl rfl)
theorem dX5_count_98 : decode cX5_count 98 = .ok (.ireturn, 1) := dk_172 (dk_at dksX5_count_3 3 rfl rfl)
theorem dX5_count_99 : decode cX5_count 99 = .ok (.aload_n 0, 1) := dk_42 (dk_at dksX5_count_3 4 rfl rfl)
theorem dX5_count_100 : decode cX5_count 100 = .ok (.iconst 0, 1) := dk_3 (dk_at dksX5_count_3 5 rfl rfl)
theorem dX5_count_101 : decode cX5_count 101 = .ok (.invokevirtual 353, 3) := dk_182 1 97 (dk_at dksX5_count_3 6 rfl rfl)
theorem dX5_count_104 : decode cX5_count 104 = .ok (.ireturn, 1) := dk_172 (dk_at dksX5_count_3 9 rfl rfl)
theorem dX5_count_105 : decode cX5_count 105 = .ok (.aload_n 0, 1) := dk_42 (dk_at dksX5_count_3 10 rfl rfl)
theorem dX5_count_106 : decode cX5_count 106 = .ok (.invokevirtual 395, 3) := dk_182 1 139 (dk_at dksX5_count_3 11 rfl rfl)
theorem dX5_count_109 : decode cX5_count 109 = .ok (.ireturn, 1) := dk_172 (dk_at dksX5_count_3 14 rfl rfl)
theorem dX5_count_110 : decode cX5_count 110 = .ok (.aload_n 0, 1) := dk_42 (dk_at dksX5_count_3 15 rfl rfl)
theorem dX5_count_111 : decode cX5_count 111 = .ok (.getfield 117, 3) := dk_180 0 117 (dk_at dksX5_count_3 16 rfl rfl)
theorem dX5_count_114 : decode cX5_count 114 = .ok (.iconst 1, 1) := dk_4 (dk_at dksX5_count_3 19 rfl rfl)
theorem dX5_count_115 : decode cX5_count 115 = .ok (.iaload, 1) := dk_46 (dk_at dksX5_count_3 20 rfl rfl)
theorem dX5_count_116 : decode cX5_count 116 = .ok (.ireturn, 1) := dk_172 (dk_at dksX5_count_3 21 rfl rfl)
theorem dX5_count_117 : decode cX5_count 117 = .ok (.aload_n 0, 1) := dk_42 (dk_at dksX5_count_3 22 rfl rfl)
theorem dX5_count_118 : decode cX5_count 118 = .ok (.invokevirtual 398, 3) := dk_182 1 142 (dk_at dksX5_count_4 0 rfl rfl)
theorem dX5_count_121 : decode cX5_count 121 = .ok (.ireturn, 1) := dk_172 (dk_at dksX5_count_4 3 rfl rfl)
theorem dX5_count_122 : decode cX5_count 122 = .ok (.aload_n 0, 1) := dk_42 (dk_at dksX5_count_4 4 rfl rfl)
theorem dX5_count_123 : decode cX5_count 123 = .ok (.getfield 108, 3) := dk_180 0 108 (dk_at dksX5_count_4 5 rfl rfl)
theorem dX5_count_126 : decode cX5_count 126 = .ok (.iconst 0, 1) := dk_3 (dk_at dksX5_count_4 8 rfl rfl)
theorem dX5_count_127 : decode cX5_count 127 = .ok (.iaload, 1) := dk_46 (dk_at dksX5_count_4 9 rfl rfl)
theorem dX5_count_128 : decode cX5_count 128 = .ok (.ireturn, 1) := dk_172 (dk_at dksX5_count_4 10 rfl rfl)
theorem dX5_count_129 : decode cX5_count 129 = .ok (.aload_n 0, 1) := dk_42 (dk_at dksX5_count_4 11 rfl rfl)
theorem dX5_count_130 : decode cX5_count 130 = .ok (.getfield 117, 3) := dk_180 0 117 (dk_at dksX5_count_4 12 rfl rfl)
theorem dX5_count_133 : decode cX5_count 133 = .ok (.bipush 30, 2) := dk_16 30 (dk_at dksX5_count_4 15 rfl rfl)
theorem dX5_count_135 : decode cX5_count 135 = .ok (.iaload, 1) := dk_46 (dk_at dksX5_count_4 17 rfl rfl)
theorem dX5_count_136 : decode cX5_count 136 = .ok (.ireturn, 1) := dk_172 (dk_at dksX5_count_4 18 rfl rfl)
theorem dX5_count_137 : decode cX5_count 137 = .ok (.aload_n 0, 1) := dk_42 (dk_at dksX5_count_4 19 rfl rfl)
theorem dX5_count_138 : decode cX5_count 138 = .ok (.getfield 289, 3) := dk_180 1 33 (dk_at dksX5_count_4 20 rfl rfl)
theorem dX5_count_141 : decode cX5_count 141 = .ok (.ireturn, 1) := dk_172 (dk_at dksX5_count_4 23 rfl rfl)
theorem dX5_count_142 : decode cX5_count 142 = .ok (.aload_n 0, 1) := dk_42 (dk_at dksX5_count_5 0 rfl rfl)
theorem dX5_count_143 : decode cX5_count 143 = .ok (.getfield 11, 3) := dk_180 0 11 (dk_at dksX5_count_5 1 rfl rfl)
theorem dX5_count_146 : decode cX5_count 146 = .ok (.ireturn, 1) := dk_172 (dk_at dksX5_count_5 4 rfl rfl)
theorem dX5_count_147 : decode cX5_count 147 = .ok (.iconst (-1), 1) := dk_2 (dk_at dksX5_count_5 5 rfl rfl)
theorem dX5_count_148 : decode cX5_count 148 = .ok (.ireturn, 1) := dk_172 (dk_at dksX5_count_5 6 rfl rfl)
abbrev cX5_bedsOfAll : ByteArray := prog_23_method_106_code
def yX5_bedsOfAll : MethodName := ⟨RX5, "bedsOfAll", "()I"⟩
def dkwX5_bedsOfAll_1 : List UInt8 := [132, 2, 1, 167, 255, 234, 27, 172]
abbrev dktX5_bedsOfAll_1 : List UInt8 := dkwX5_bedsOfAll_1 ++ []
def dkwX5_bedsOfAll_0 : List UInt8 := [3, 60, 3, 61, 28, 42, 182, 1, 14, 162, 0, 20, 27, 42, 180, 0, 117, 5, 28, 96, 46, 96, 60]
abbrev dktX5_bedsOfAll_0 : List UInt8 := dkwX5_bedsOfAll_0 ++ dktX5_bedsOfAll_1
theorem dksX5_bedsOfAll_0 : cX5_bedsOfAll.data.toList.drop 0 = dktX5_bedsOfAll_0 := by decide +kernel
theorem dksX5_bedsOfAll_1 : cX5_bedsOfAll.data.toList.drop 23 = dktX5_bedsOfAll_1 := dk_seg dksX5_bedsOfAll_0 23 rfl rfl
theorem dX5_bedsOfAll_0 : decode cX5_bedsOfAll 0 = .ok (.iconst 0, 1) := dk_3 (dk_at dksX5_bedsOfAll_0 0 rfl rfl)
theorem dX5_bedsOfAll_1 : decode cX5_bedsOfAll 1 = .ok (.istore_n 1, 1) := dk_60 (dk_at dksX5_bedsOfAll_0 1 rfl rfl)
theorem dX5_bedsOfAll_2 : decode cX5_bedsOfAll 2 = .ok (.iconst 0, 1) := dk_3 (dk_at dksX5_bedsOfAll_0 2 rfl rfl)
theorem dX5_bedsOfAll_3 : decode cX5_bedsOfAll 3 = .ok (.istore_n 2, 1) := dk_61 (dk_at dksX5_bedsOfAll_0 3 rfl rfl)
theorem dX5_bedsOfAll_4 : decode cX5_bedsOfAll 4 = .ok (.iload_n 2, 1) := dk_28 (dk_at dksX5_bedsOfAll_0 4 rfl rfl)
theorem dX5_bedsOfAll_5 : decode cX5_bedsOfAll 5 = .ok (.aload_n 0, 1) := dk_42 (dk_at dksX5_bedsOfAll_0 5 rfl rfl)
theorem dX5_bedsOfAll_6 : decode cX5_bedsOfAll 6 = .ok (.invokevirtual 270, 3) := dk_182 1 14 (dk_at dksX5_bedsOfAll_0 6 rfl rfl)
theorem dX5_bedsOfAll_9 : decode cX5_bedsOfAll 9 = .ok (.if_icmp .ge 20, 3) := dk_162 0 20 (dk_at dksX5_bedsOfAll_0 9 rfl rfl)
theorem dX5_bedsOfAll_12 : decode cX5_bedsOfAll 12 = .ok (.iload_n 1, 1) := dk_27 (dk_at dksX5_bedsOfAll_0 12 rfl rfl)
theorem dX5_bedsOfAll_13 : decode cX5_bedsOfAll 13 = .ok (.aload_n 0, 1) := dk_42 (dk_at dksX5_bedsOfAll_0 13 rfl rfl)
theorem dX5_bedsOfAll_14 : decode cX5_bedsOfAll 14 = .ok (.getfield 117, 3) := dk_180 0 117 (dk_at dksX5_bedsOfAll_0 14 rfl rfl)
theorem dX5_bedsOfAll_17 : decode cX5_bedsOfAll 17 = .ok (.iconst 2, 1) := dk_5 (dk_at dksX5_bedsOfAll_0 17 rfl rfl)
theorem dX5_bedsOfAll_18 : decode cX5_bedsOfAll 18 = .ok (.iload_n 2, 1) := dk_28 (dk_at dksX5_bedsOfAll_0 18 rfl rfl)
theorem dX5_bedsOfAll_19 : decode cX5_bedsOfAll 19 = .ok (.iadd, 1) := dk_96 (dk_at dksX5_bedsOfAll_0 19 rfl rfl)
theorem dX5_bedsOfAll_20 : decode cX5_bedsOfAll 20 = .ok (.iaload, 1) := dk_46 (dk_at dksX5_bedsOfAll_0 20 rfl rfl)
theorem dX5_bedsOfAll_21 : decode cX5_bedsOfAll 21 = .ok (.iadd, 1) := dk_96 (dk_at dksX5_bedsOfAll_0 21 rfl rfl)
theorem dX5_bedsOfAll_22 : decode cX5_bedsOfAll 22 = .ok (.istore_n 1, 1) := dk_60 (dk_at dksX5_bedsOfAll_0 22 rfl rfl)
theorem dX5_bedsOfAll_23 : decode cX5_bedsOfAll 23 = .ok (.iinc 2 1, 3) := dk_132 2 1 (dk_at dksX5_bedsOfAll_1 0 rfl rfl)
theorem dX5_bedsOfAll_26 : decode cX5_bedsOfAll 26 = .ok (.goto (-22), 3) := dk_167 255 234 (dk_at dksX5_bedsOfAll_1 3 rfl rfl)
theorem dX5_bedsOfAll_29 : decode cX5_bedsOfAll 29 = .ok (.iload_n 1, 1) := dk_27 (dk_at dksX5_bedsOfAll_1 6 rfl rfl)
theorem dX5_bedsOfAll_30 : decode cX5_bedsOfAll 30 = .ok (.ireturn, 1) := dk_172 (dk_at dksX5_bedsOfAll_1 7 rfl rfl)
abbrev cX5_fadedNow : ByteArray := prog_23_method_105_code
def yX5_fadedNow : MethodName := ⟨RX5, "fadedNow", "()I"⟩
def dkwX5_fadedNow_1 : List UInt8 := [154, 0, 9, 4, 28, 120, 167, 0, 4, 3, 128, 60, 132, 2, 1, 167, 255, 223, 27, 172]
abbrev dktX5_fadedNow_1 : List UInt8 := dkwX5_fadedNow_1 ++ []
def dkwX5_fadedNow_0 : List UInt8 := [3, 60, 3, 61, 28, 42, 182, 1, 21, 162, 0, 31, 27, 42, 180, 0, 117, 16, 18, 28, 96, 46]
abbrev dktX5_fadedNow_0 : List UInt8 := dkwX5_fadedNow_0 ++ dktX5_fadedNow_1
theorem dksX5_fadedNow_0 : cX5_fadedNow.data.toList.drop 0 = dktX5_fadedNow_0 := by decide +kernel
theorem dksX5_fadedNow_1 : cX5_fadedNow.data.toList.drop 22 = dktX5_fadedNow_1 := dk_seg dksX5_fadedNow_0 22 rfl rfl
theorem dX5_fadedNow_0 : decode cX5_fadedNow 0 = .ok (.iconst 0, 1) := dk_3 (dk_at dksX5_fadedNow_0 0 rfl rfl)
theorem dX5_fadedNow_1 : decode cX5_fadedNow 1 = .ok (.istore_n 1, 1) := dk_60 (dk_at dksX5_fadedNow_0 1 rfl rfl)
theorem dX5_fadedNow_2 : decode cX5_fadedNow 2 = .ok (.iconst 0, 1) := dk_3 (dk_at dksX5_fadedNow_0 2 rfl rfl)
theorem dX5_fadedNow_3 : decode cX5_fadedNow 3 = .ok (.istore_n 2, 1) := dk_61 (dk_at dksX5_fadedNow_0 3 rfl rfl)
theorem dX5_fadedNow_4 : decode cX5_fadedNow 4 = .ok (.iload_n 2, 1) := dk_28 (dk_at dksX5_fadedNow_0 4 rfl rfl)
theorem dX5_fadedNow_5 : decode cX5_fadedNow 5 = .ok (.aload_n 0, 1) := dk_42 (dk_at dksX5_fadedNow_0 5 rfl rfl)
theorem dX5_fadedNow_6 : decode cX5_fadedNow 6 = .ok (.invokevirtual 277, 3) := dk_182 1 21 (dk_at dksX5_fadedNow_0 6 rfl rfl)
theorem dX5_fadedNow_9 : decode cX5_fadedNow 9 = .ok (.if_icmp .ge 31, 3) := dk_162 0 31 (dk_at dksX5_fadedNow_0 9 rfl rfl)
theorem dX5_fadedNow_12 : decode cX5_fadedNow 12 = .ok (.iload_n 1, 1) := dk_27 (dk_at dksX5_fadedNow_0 12 rfl rfl)
theorem dX5_fadedNow_13 : decode cX5_fadedNow 13 = .ok (.aload_n 0, 1) := dk_42 (dk_at dksX5_fadedNow_0 13 rfl rfl)
theorem dX5_fadedNow_14 : decode cX5_fadedNow 14 = .ok (.getfield 117, 3) := dk_180 0 117 (dk_at dksX5_fadedNow_0 14 rfl rfl)
theorem dX5_fadedNow_17 : decode cX5_fadedNow 17 = .ok (.bipush 18, 2) := dk_16 18 (dk_at dksX5_fadedNow_0 17 rfl rfl)
theorem dX5_fadedNow_19 : decode cX5_fadedNow 19 = .ok (.iload_n 2, 1) := dk_28 (dk_at dksX5_fadedNow_0 19 rfl rfl)
theorem dX5_fadedNow_20 : decode cX5_fadedNow 20 = .ok (.iadd, 1) := dk_96 (dk_at dksX5_fadedNow_0 20 rfl rfl)
theorem dX5_fadedNow_21 : decode cX5_fadedNow 21 = .ok (.iaload, 1) := dk_46 (dk_at dksX5_fadedNow_0 21 rfl rfl)
theorem dX5_fadedNow_22 : decode cX5_fadedNow 22 = .ok (.ifCond .ne 9, 3) := dk_154 0 9 (dk_at dksX5_fadedNow_1 0 rfl rfl)
theorem dX5_fadedNow_25 : decode cX5_fadedNow 25 = .ok (.iconst 1, 1) := dk_4 (dk_at dksX5_fadedNow_1 3 rfl rfl)
theorem dX5_fadedNow_26 : decode cX5_fadedNow 26 = .ok (.iload_n 2, 1) := dk_28 (dk_at dksX5_fadedNow_1 4 rfl rfl)
theorem dX5_fadedNow_27 : decode cX5_fadedNow 27 = .ok (.ishl, 1) := dk_120 (dk_at dksX5_fadedNow_1 5 rfl rfl)
theorem dX5_fadedNow_28 : decode cX5_fadedNow 28 = .ok (.goto 4, 3) := dk_167 0 4 (dk_at dksX5_fadedNow_1 6 rfl rfl)
theorem dX5_fadedNow_31 : decode cX5_fadedNow 31 = .ok (.iconst 0, 1) := dk_3 (dk_at dksX5_fadedNow_1 9 rfl rfl)
theorem dX5_fadedNow_32 : decode cX5_fadedNow 32 = .ok (.ior, 1) := dk_128 (dk_at dksX5_fadedNow_1 10 rfl rfl)
theorem dX5_fadedNow_33 : decode cX5_fadedNow 33 = .ok (.istore_n 1, 1) := dk_60 (dk_at dksX5_fadedNow_1 11 rfl rfl)
theorem dX5_fadedNow_34 : decode cX5_fadedNow 34 = .ok (.iinc 2 1, 3) := dk_132 2 1 (dk_at dksX5_fadedNow_1 12 rfl rfl)
theorem dX5_fadedNow_37 : decode cX5_fadedNow 37 = .ok (.goto (-33), 3) := dk_167 255 223 (dk_at dksX5_fadedNow_1 15 rfl rfl)
theorem dX5_fadedNow_40 : decode cX5_fadedNow 40 = .ok (.iload_n 1, 1) := dk_27 (dk_at dksX5_fadedNow_1 18 rfl rfl)
theorem dX5_fadedNow_41 : decode cX5_fadedNow 41 = .ok (.ireturn, 1) := dk_172 (dk_at dksX5_fadedNow_1 19 rfl rfl)
theorem q121 : (Jvm.Cond.initialized "DateValeModel") ∈ lw_all := lw_g (lw_at lw_m1 10 rfl) rfl
theorem q881 : (Jvm.Cond.selects "DateValeModel" ({ cls := "java/lang/Object", name := "getClass", desc := "()Ljava/lang/Class;" } : Jvm.MethodName) ({ cls := "java/lang/Object", name := "getClass", desc := "()Ljava/lang/Class;" } : Jvm.MethodName)) ∈ lw_all := lw_g (lw_at lw_m4 50 rfl) rfl
theorem q1519 : (Jvm.Cond.instanceMethod ({ cls := "DateValeModel", name := "thrown", desc := "()I" } : Jvm.MethodName)) ∈ lw_all := lw_g (lw_at lw_m6 208 rfl) rfl
theorem q1520 : (Jvm.Cond.selects "DateValeModel" ({ cls := "DateValeModel", name := "thrown", desc := "()I" } : Jvm.MethodName) ({ cls := "DateValeModel", name := "thrown", desc := "()I" } : Jvm.MethodName)) ∈ lw_all := lw_g (lw_at lw_m6 209 rfl) rfl
theorem q1521 : (Jvm.Cond.code ({ cls := "DateValeModel", name := "thrown", desc := "()I" } : Jvm.MethodName) prog_23_method_1_code (1 : Nat) (Option.some Jvm.ClassFile.FieldType.int)) ∈ lw_all := lw_g (lw_at lw_m6 210 rfl) rfl
theorem q1523 : (Jvm.Cond.instanceMethod ({ cls := "DateValeModel", name := "feed", desc := "(JJJ)I" } : Jvm.MethodName)) ∈ lw_all := lw_g (lw_at lw_m6 212 rfl) rfl
theorem q1524 : (Jvm.Cond.selects "DateValeModel" ({ cls := "DateValeModel", name := "feed", desc := "(JJJ)I" } : Jvm.MethodName) ({ cls := "DateValeModel", name := "feed", desc := "(JJJ)I" } : Jvm.MethodName)) ∈ lw_all := lw_g (lw_at lw_m6 213 rfl) rfl
theorem q1525 : (Jvm.Cond.code ({ cls := "DateValeModel", name := "feed", desc := "(JJJ)I" } : Jvm.MethodName) prog_23_method_2_code (7 : Nat) (Option.some Jvm.ClassFile.FieldType.int)) ∈ lw_all := lw_g (lw_at lw_m6 214 rfl) rfl
theorem q1526 : (Jvm.Cond.methodLink "DateValeModel" (7 : Nat) ({ cls := "DateValeModel", name := "lay", desc := "(J)V" } : Jvm.MethodName)) ∈ lw_all := lw_g (lw_at lw_m6 215 rfl) rfl
theorem q1527 : (Jvm.Cond.privateMethod ({ cls := "DateValeModel", name := "lay", desc := "(J)V" } : Jvm.MethodName)) ∈ lw_tbl := lw_at lw_m6 216 rfl
theorem q1528 : (Jvm.Cond.instanceMethod ({ cls := "DateValeModel", name := "lay", desc := "(J)V" } : Jvm.MethodName)) ∈ lw_all := lw_g (lw_at lw_m6 217 rfl) rfl
theorem q1529 : (Jvm.Cond.instantiable "DateValeModel" (32 : Nat)) ∈ lw_all := lw_g (lw_at lw_m6 218 rfl) rfl
theorem q1530 : (Jvm.Cond.code ({ cls := "DateValeModel", name := "lay", desc := "(J)V" } : Jvm.MethodName) prog_23_method_3_code (5 : Nat) (Option.none : Option Jvm.ClassFile.FieldType)) ∈ lw_all := lw_g (lw_at lw_m6 219 rfl) rfl
theorem q1533 : (Jvm.Cond.instanceMethod ({ cls := "DateValeModel", name := "<init>", desc := "()V" } : Jvm.MethodName)) ∈ lw_all := lw_g (lw_at lw_m6 222 rfl) rfl
theorem q1534 : (Jvm.Cond.code ({ cls := "DateValeModel", name := "<init>", desc := "()V" } : Jvm.MethodName) prog_23_method_4_code (1 : Nat) (Option.none : Option Jvm.ClassFile.FieldType)) ∈ lw_all := lw_g (lw_at lw_m6 223 rfl) rfl
theorem q1535 : (Jvm.Cond.methodLink "DateValeModel" (18 : Nat) ({ cls := "java/lang/Object", name := "<init>", desc := "()V" } : Jvm.MethodName)) ∈ lw_all := lw_g (lw_at lw_m6 224 rfl) rfl
theorem q1536 : (Jvm.Cond.constantLong "DateValeModel" (34 : Nat) (15782540 : Int64)) ∈ lw_all := lw_g (lw_at lw_m6 225 rfl) rfl
theorem q1537 : (Jvm.Cond.constantLong "DateValeModel" (36 : Nat) (108318 : Int64)) ∈ lw_all := lw_g (lw_at lw_m6 226 rfl) rfl
theorem q1538 : (Jvm.Cond.constantLong "DateValeModel" (38 : Nat) (22762530 : Int64)) ∈ lw_all := lw_g (lw_at lw_m6 227 rfl) rfl
theorem q1539 : (Jvm.Cond.constantLong "DateValeModel" (40 : Nat) (5538 : Int64)) ∈ lw_all := lw_g (lw_at lw_m6 228 rfl) rfl
theorem q1540 : (Jvm.Cond.constantLong "DateValeModel" (42 : Nat) (561 : Int64)) ∈ lw_all := lw_g (lw_at lw_m6 229 rfl) rfl
theorem q1541 : (Jvm.Cond.constantLong "DateValeModel" (44 : Nat) (569 : Int64)) ∈ lw_all := lw_g (lw_at lw_m6 230 rfl) rfl
theorem q1542 : (Jvm.Cond.constantLong "DateValeModel" (46 : Nat) (964720 : Int64)) ∈ lw_all := lw_g (lw_at lw_m6 231 rfl) rfl
theorem q1543 : (Jvm.Cond.constantLong "DateValeModel" (48 : Nat) (6232399 : Int64)) ∈ lw_all := lw_g (lw_at lw_m6 232 rfl) rfl
theorem q1544 : (Jvm.Cond.constantLong "DateValeModel" (50 : Nat) (36624432 : Int64)) ∈ lw_all := lw_g (lw_at lw_m6 233 rfl) rfl
theorem q1545 : (Jvm.Cond.constantLong "DateValeModel" (52 : Nat) (11301299 : Int64)) ∈ lw_all := lw_g (lw_at lw_m6 234 rfl) rfl
theorem q1546 : (Jvm.Cond.constantLong "DateValeModel" (54 : Nat) (204726 : Int64)) ∈ lw_all := lw_g (lw_at lw_m6 235 rfl) rfl
theorem q1547 : (Jvm.Cond.constantLong "DateValeModel" (56 : Nat) (679843 : Int64)) ∈ lw_all := lw_g (lw_at lw_m6 236 rfl) rfl
theorem q1548 : (Jvm.Cond.constantLong "DateValeModel" (58 : Nat) (969774 : Int64)) ∈ lw_all := lw_g (lw_at lw_m6 237 rfl) rfl
theorem q1549 : (Jvm.Cond.constantLong "DateValeModel" (60 : Nat) (4824804 : Int64)) ∈ lw_all := lw_g (lw_at lw_m6 238 rfl) rfl
theorem q1550 : (Jvm.Cond.constantLong "DateValeModel" (62 : Nat) (30596128 : Int64)) ∈ lw_all := lw_g (lw_at lw_m6 239 rfl) rfl
theorem q1551 : (Jvm.Cond.constantLong "DateValeModel" (64 : Nat) (3078 : Int64)) ∈ lw_all := lw_g (lw_at lw_m7 0 rfl) rfl
theorem q1552 : (Jvm.Cond.constantLong "DateValeModel" (66 : Nat) (9446569 : Int64)) ∈ lw_all := lw_g (lw_at lw_m7 1 rfl) rfl
theorem q1553 : (Jvm.Cond.constantLong "DateValeModel" (68 : Nat) (614734 : Int64)) ∈ lw_all := lw_g (lw_at lw_m7 2 rfl) rfl
theorem q1554 : (Jvm.Cond.constantLong "DateValeModel" (70 : Nat) (19741 : Int64)) ∈ lw_all := lw_g (lw_at lw_m7 3 rfl) rfl
theorem q1555 : (Jvm.Cond.constantLong "DateValeModel" (72 : Nat) (1891 : Int64)) ∈ lw_all := lw_g (lw_at lw_m7 4 rfl) rfl
theorem q1556 : (Jvm.Cond.constantLong "DateValeModel" (74 : Nat) (573 : Int64)) ∈ lw_all := lw_g (lw_at lw_m7 5 rfl) rfl
theorem q1557 : (Jvm.Cond.constantLong "DateValeModel" (76 : Nat) (629152 : Int64)) ∈ lw_all := lw_g (lw_at lw_m7 6 rfl) rfl
theorem q1558 : (Jvm.Cond.constantLong "DateValeModel" (78 : Nat) (333123 : Int64)) ∈ lw_all := lw_g (lw_at lw_m7 7 rfl) rfl
theorem q1559 : (Jvm.Cond.constantLong "DateValeModel" (80 : Nat) (25143802 : Int64)) ∈ lw_all := lw_g (lw_at lw_m7 8 rfl) rfl
theorem q1560 : (Jvm.Cond.constantLong "DateValeModel" (82 : Nat) (37957098 : Int64)) ∈ lw_all := lw_g (lw_at lw_m7 9 rfl) rfl
theorem q1561 : (Jvm.Cond.methodLink "DateValeModel" (130 : Nat) ({ cls := "DateValeModel", name := "standsAsAlways", desc := "(I)V" } : Jvm.MethodName)) ∈ lw_all := lw_g (lw_at lw_m7 10 rfl) rfl
theorem q1562 : (Jvm.Cond.privateMethod ({ cls := "DateValeModel", name := "standsAsAlways", desc := "(I)V" } : Jvm.MethodName)) ∈ lw_tbl := lw_at lw_m7 11 rfl
theorem q1563 : (Jvm.Cond.instanceMethod ({ cls := "DateValeModel", name := "standsAsAlways", desc := "(I)V" } : Jvm.MethodName)) ∈ lw_all := lw_g (lw_at lw_m7 12 rfl) rfl
theorem q1564 : (Jvm.Cond.code ({ cls := "DateValeModel", name := "standsAsAlways", desc := "(I)V" } : Jvm.MethodName) prog_23_method_18_code (3 : Nat) (Option.none : Option Jvm.ClassFile.FieldType)) ∈ lw_all := lw_g (lw_at lw_m7 13 rfl) rfl
theorem q1565 : (Jvm.Cond.methodLink "DateValeModel" (134 : Nat) ({ cls := "DateValeModel", name := "begins", desc := "()V" } : Jvm.MethodName)) ∈ lw_all := lw_g (lw_at lw_m7 14 rfl) rfl
theorem q1566 : (Jvm.Cond.privateMethod ({ cls := "DateValeModel", name := "begins", desc := "()V" } : Jvm.MethodName)) ∈ lw_tbl := lw_at lw_m7 15 rfl
theorem q1567 : (Jvm.Cond.instanceMethod ({ cls := "DateValeModel", name := "begins", desc := "()V" } : Jvm.MethodName)) ∈ lw_all := lw_g (lw_at lw_m7 16 rfl) rfl
theorem q1568 : (Jvm.Cond.code ({ cls := "DateValeModel", name := "begins", desc := "()V" } : Jvm.MethodName) prog_23_method_44_code (2 : Nat) (Option.none : Option Jvm.ClassFile.FieldType)) ∈ lw_all := lw_g (lw_at lw_m7 17 rfl) rfl
theorem q1569 : (Jvm.Cond.methodLink "DateValeModel" (283 : Nat) ({ cls := "DateValeModel", name := "datesAsTold", desc := "()V" } : Jvm.MethodName)) ∈ lw_all := lw_g (lw_at lw_m7 18 rfl) rfl
theorem q1570 : (Jvm.Cond.privateMethod ({ cls := "DateValeModel", name := "datesAsTold", desc := "()V" } : Jvm.MethodName)) ∈ lw_tbl := lw_at lw_m7 19 rfl
theorem q1571 : (Jvm.Cond.instanceMethod ({ cls := "DateValeModel", name := "datesAsTold", desc := "()V" } : Jvm.MethodName)) ∈ lw_all := lw_g (lw_at lw_m7 20 rfl) rfl
theorem q1572 : (Jvm.Cond.code ({ cls := "DateValeModel", name := "datesAsTold", desc := "()V" } : Jvm.MethodName) prog_23_method_43_code (2 : Nat) (Option.none : Option Jvm.ClassFile.FieldType)) ∈ lw_all := lw_g (lw_at lw_m7 21 rfl) rfl
theorem q1573 : (Jvm.Cond.methodLink "DateValeModel" (277 : Nat) ({ cls := "DateValeModel", name := "days", desc := "()I" } : Jvm.MethodName)) ∈ lw_all := lw_g (lw_at lw_m7 22 rfl) rfl
theorem q1574 : (Jvm.Cond.privateMethod ({ cls := "DateValeModel", name := "days", desc := "()I" } : Jvm.MethodName)) ∈ lw_tbl := lw_at lw_m7 23 rfl
theorem q1575 : (Jvm.Cond.instanceMethod ({ cls := "DateValeModel", name := "days", desc := "()I" } : Jvm.MethodName)) ∈ lw_all := lw_g (lw_at lw_m7 24 rfl) rfl
theorem q1576 : (Jvm.Cond.code ({ cls := "DateValeModel", name := "days", desc := "()I" } : Jvm.MethodName) prog_23_method_47_code (1 : Nat) (Option.some Jvm.ClassFile.FieldType.int)) ∈ lw_all := lw_g (lw_at lw_m7 25 rfl) rfl
theorem q1577 : (Jvm.Cond.methodLink "DateValeModel" (280 : Nat) ({ cls := "DateValeModel", name := "dayOf", desc := "(II)I" } : Jvm.MethodName)) ∈ lw_all := lw_g (lw_at lw_m7 26 rfl) rfl
theorem q1578 : (Jvm.Cond.privateMethod ({ cls := "DateValeModel", name := "dayOf", desc := "(II)I" } : Jvm.MethodName)) ∈ lw_tbl := lw_at lw_m7 27 rfl
theorem q1579 : (Jvm.Cond.instanceMethod ({ cls := "DateValeModel", name := "dayOf", desc := "(II)I" } : Jvm.MethodName)) ∈ lw_all := lw_g (lw_at lw_m7 28 rfl) rfl
theorem q1580 : (Jvm.Cond.code ({ cls := "DateValeModel", name := "dayOf", desc := "(II)I" } : Jvm.MethodName) prog_23_method_49_code (3 : Nat) (Option.some Jvm.ClassFile.FieldType.int)) ∈ lw_all := lw_g (lw_at lw_m7 29 rfl) rfl
theorem q1581 : (Jvm.Cond.methodLink "DateValeModel" (286 : Nat) ({ cls := "DateValeModel", name := "starts", desc := "(I)V" } : Jvm.MethodName)) ∈ lw_all := lw_g (lw_at lw_m7 30 rfl) rfl
theorem q1582 : (Jvm.Cond.privateMethod ({ cls := "DateValeModel", name := "starts", desc := "(I)V" } : Jvm.MethodName)) ∈ lw_tbl := lw_at lw_m7 31 rfl
theorem q1583 : (Jvm.Cond.instanceMethod ({ cls := "DateValeModel", name := "starts", desc := "(I)V" } : Jvm.MethodName)) ∈ lw_all := lw_g (lw_at lw_m7 32 rfl) rfl
theorem q1584 : (Jvm.Cond.code ({ cls := "DateValeModel", name := "starts", desc := "(I)V" } : Jvm.MethodName) prog_23_method_42_code (3 : Nat) (Option.none : Option Jvm.ClassFile.FieldType)) ∈ lw_all := lw_g (lw_at lw_m7 33 rfl) rfl
theorem q1585 : (Jvm.Cond.methodLink "DateValeModel" (270 : Nat) ({ cls := "DateValeModel", name := "houses", desc := "()I" } : Jvm.MethodName)) ∈ lw_all := lw_g (lw_at lw_m7 34 rfl) rfl
theorem q1586 : (Jvm.Cond.privateMethod ({ cls := "DateValeModel", name := "houses", desc := "()I" } : Jvm.MethodName)) ∈ lw_tbl := lw_at lw_m7 35 rfl
theorem q1587 : (Jvm.Cond.instanceMethod ({ cls := "DateValeModel", name := "houses", desc := "()I" } : Jvm.MethodName)) ∈ lw_all := lw_g (lw_at lw_m7 36 rfl) rfl
theorem q1588 : (Jvm.Cond.code ({ cls := "DateValeModel", name := "houses", desc := "()I" } : Jvm.MethodName) prog_23_method_46_code (1 : Nat) (Option.some Jvm.ClassFile.FieldType.int)) ∈ lw_all := lw_g (lw_at lw_m7 37 rfl) rfl
theorem q1589 : (Jvm.Cond.methodLink "DateValeModel" (274 : Nat) ({ cls := "DateValeModel", name := "houseOf", desc := "(II)I" } : Jvm.MethodName)) ∈ lw_all := lw_g (lw_at lw_m7 38 rfl) rfl
theorem q1590 : (Jvm.Cond.privateMethod ({ cls := "DateValeModel", name := "houseOf", desc := "(II)I" } : Jvm.MethodName)) ∈ lw_tbl := lw_at lw_m7 39 rfl
theorem q1591 : (Jvm.Cond.instanceMethod ({ cls := "DateValeModel", name := "houseOf", desc := "(II)I" } : Jvm.MethodName)) ∈ lw_all := lw_g (lw_at lw_m7 40 rfl) rfl
theorem q1592 : (Jvm.Cond.code ({ cls := "DateValeModel", name := "houseOf", desc := "(II)I" } : Jvm.MethodName) prog_23_method_48_code (3 : Nat) (Option.some Jvm.ClassFile.FieldType.int)) ∈ lw_all := lw_g (lw_at lw_m7 41 rfl) rfl
theorem q1593 : (Jvm.Cond.fieldLink "DateValeModel" (1 : Nat) "DateValeModel" "thrown" "I") ∈ lw_all := lw_g (lw_at lw_m7 42 rfl) rfl
theorem q1594 : (Jvm.Cond.fieldLink "DateValeModel" (14 : Nat) "DateValeModel" "tape" "[I") ∈ lw_all := lw_g (lw_at lw_m7 43 rfl) rfl
theorem q1595 : (Jvm.Cond.fieldLink "DateValeModel" (11 : Nat) "DateValeModel" "taped" "I") ∈ lw_all := lw_g (lw_at lw_m7 44 rfl) rfl
theorem q1596 : (Jvm.Cond.fieldLink "DateValeModel" (141 : Nat) "DateValeModel" "size" "I") ∈ lw_all := lw_g (lw_at lw_m7 45 rfl) rfl
theorem q1597 : (Jvm.Cond.fieldLink "DateValeModel" (24 : Nat) "DateValeModel" "sort" "[I") ∈ lw_all := lw_g (lw_at lw_m7 46 rfl) rfl
theorem q1598 : (Jvm.Cond.fieldLink "DateValeModel" (27 : Nat) "DateValeModel" "place" "[I") ∈ lw_all := lw_g (lw_at lw_m7 47 rfl) rfl
theorem q1599 : (Jvm.Cond.fieldLink "DateValeModel" (30 : Nat) "DateValeModel" "value" "[J") ∈ lw_all := lw_g (lw_at lw_m7 48 rfl) rfl
theorem q1600 : (Jvm.Cond.fieldLink "DateValeModel" (160 : Nat) "DateValeModel" "at" "I") ∈ lw_all := lw_g (lw_at lw_m7 49 rfl) rfl
theorem q1601 : (Jvm.Cond.fieldLink "DateValeModel" (163 : Nat) "DateValeModel" "fault" "I") ∈ lw_all := lw_g (lw_at lw_m7 50 rfl) rfl
theorem q1602 : (Jvm.Cond.fieldLink "DateValeModel" (84 : Nat) "DateValeModel" "words" "[J") ∈ lw_all := lw_g (lw_at lw_m7 51 rfl) rfl
theorem q1603 : (Jvm.Cond.fieldLink "DateValeModel" (87 : Nat) "DateValeModel" "vales" "[I") ∈ lw_all := lw_g (lw_at lw_m7 52 rfl) rfl
theorem q1604 : (Jvm.Cond.fieldLink "DateValeModel" (90 : Nat) "DateValeModel" "op" "[I") ∈ lw_all := lw_g (lw_at lw_m7 53 rfl) rfl
theorem q1605 : (Jvm.Cond.fieldLink "DateValeModel" (93 : Nat) "DateValeModel" "arg" "[I") ∈ lw_all := lw_g (lw_at lw_m7 54 rfl) rfl
theorem q1606 : (Jvm.Cond.fieldLink "DateValeModel" (209 : Nat) "DateValeModel" "codes" "I") ∈ lw_all := lw_g (lw_at lw_m7 55 rfl) rfl
theorem q1607 : (Jvm.Cond.fieldLink "DateValeModel" (96 : Nat) "DateValeModel" "names" "[J") ∈ lw_all := lw_g (lw_at lw_m7 56 rfl) rfl
theorem q1608 : (Jvm.Cond.fieldLink "DateValeModel" (99 : Nat) "DateValeModel" "readNames" "[J") ∈ lw_all := lw_g (lw_at lw_m7 57 rfl) rfl
theorem q1609 : (Jvm.Cond.fieldLink "DateValeModel" (102 : Nat) "DateValeModel" "nameOf" "[I") ∈ lw_all := lw_g (lw_at lw_m7 58 rfl) rfl
theorem q1610 : (Jvm.Cond.fieldLink "DateValeModel" (105 : Nat) "DateValeModel" "readNameOf" "[I") ∈ lw_all := lw_g (lw_at lw_m7 59 rfl) rfl
theorem q1611 : (Jvm.Cond.fieldLink "DateValeModel" (191 : Nat) "DateValeModel" "namesMany" "I") ∈ lw_all := lw_g (lw_at lw_m7 60 rfl) rfl
theorem q1612 : (Jvm.Cond.fieldLink "DateValeModel" (188 : Nat) "DateValeModel" "readMany" "I") ∈ lw_all := lw_g (lw_at lw_m7 61 rfl) rfl
theorem q1613 : (Jvm.Cond.fieldLink "DateValeModel" (212 : Nat) "DateValeModel" "once" "I") ∈ lw_all := lw_g (lw_at lw_m7 62 rfl) rfl
theorem q1614 : (Jvm.Cond.fieldLink "DateValeModel" (108 : Nat) "DateValeModel" "lines" "[I") ∈ lw_all := lw_g (lw_at lw_m7 63 rfl) rfl
theorem q1615 : (Jvm.Cond.fieldLink "DateValeModel" (111 : Nat) "DateValeModel" "facts" "[I") ∈ lw_all := lw_g (lw_at lw_m7 64 rfl) rfl
theorem q1616 : (Jvm.Cond.fieldLink "DateValeModel" (114 : Nat) "DateValeModel" "pile" "[I") ∈ lw_all := lw_g (lw_at lw_m7 65 rfl) rfl
theorem q1617 : (Jvm.Cond.fieldLink "DateValeModel" (117 : Nat) "DateValeModel" "state" "[I") ∈ lw_all := lw_g (lw_at lw_m7 66 rfl) rfl
theorem q1618 : (Jvm.Cond.fieldLink "DateValeModel" (289 : Nat) "DateValeModel" "undos" "I") ∈ lw_all := lw_g (lw_at lw_m7 67 rfl) rfl
theorem q1619 : (Jvm.Cond.fieldLink "DateValeModel" (120 : Nat) "DateValeModel" "isMarked" "[Z") ∈ lw_all := lw_g (lw_at lw_m7 68 rfl) rfl
theorem q1620 : (Jvm.Cond.fieldLink "DateValeModel" (124 : Nat) "DateValeModel" "dates" "[I") ∈ lw_all := lw_g (lw_at lw_m7 69 rfl) rfl
theorem q1621 : (Jvm.Cond.fieldLink "DateValeModel" (313 : Nat) "DateValeModel" "came" "I") ∈ lw_all := lw_g (lw_at lw_m7 70 rfl) rfl
theorem q1622 : (Jvm.Cond.fieldLink "DateValeModel" (310 : Nat) "DateValeModel" "off" "I") ∈ lw_all := lw_g (lw_at lw_m7 71 rfl) rfl
theorem q1623 : (Jvm.Cond.fieldLink "DateValeModel" (127 : Nat) "DateValeModel" "apart" "[I") ∈ lw_all := lw_g (lw_at lw_m7 72 rfl) rfl
theorem q1624 : (Jvm.Cond.fieldLink "DateValeModel" (377 : Nat) "DateValeModel" "g" "J") ∈ lw_all := lw_g (lw_at lw_m7 73 rfl) rfl
theorem q1625 : (Jvm.Cond.lays "DateValeModel" "DateValeModel" "thrown" "I") ∈ lw_all := lw_g (lw_at lw_m7 74 rfl) rfl
theorem q1626 : (Jvm.Cond.soleField "DateValeModel" "thrown") ∈ lw_all := lw_g (lw_at lw_m7 75 rfl) rfl
theorem q1627 : (Jvm.Cond.laysFinal "DateValeModel" "DateValeModel" "tape" "[I") ∈ lw_all := lw_g (lw_at lw_m7 76 rfl) rfl
theorem q1628 : (Jvm.Cond.soleField "DateValeModel" "tape") ∈ lw_all := lw_g (lw_at lw_m7 77 rfl) rfl
theorem q1629 : (Jvm.Cond.lays "DateValeModel" "DateValeModel" "taped" "I") ∈ lw_all := lw_g (lw_at lw_m7 78 rfl) rfl
theorem q1630 : (Jvm.Cond.soleField "DateValeModel" "taped") ∈ lw_all := lw_g (lw_at lw_m7 79 rfl) rfl
theorem q1631 : (Jvm.Cond.lays "DateValeModel" "DateValeModel" "size" "I") ∈ lw_all := lw_g (lw_at lw_m7 80 rfl) rfl
theorem q1632 : (Jvm.Cond.soleField "DateValeModel" "size") ∈ lw_all := lw_g (lw_at lw_m7 81 rfl) rfl
theorem q1633 : (Jvm.Cond.laysFinal "DateValeModel" "DateValeModel" "sort" "[I") ∈ lw_all := lw_g (lw_at lw_m7 82 rfl) rfl
theorem q1634 : (Jvm.Cond.soleField "DateValeModel" "sort") ∈ lw_all := lw_g (lw_at lw_m7 83 rfl) rfl
theorem q1635 : (Jvm.Cond.laysFinal "DateValeModel" "DateValeModel" "place" "[I") ∈ lw_all := lw_g (lw_at lw_m7 84 rfl) rfl
theorem q1636 : (Jvm.Cond.soleField "DateValeModel" "place") ∈ lw_all := lw_g (lw_at lw_m7 85 rfl) rfl
theorem q1637 : (Jvm.Cond.laysFinal "DateValeModel" "DateValeModel" "value" "[J") ∈ lw_all := lw_g (lw_at lw_m7 86 rfl) rfl
theorem q1638 : (Jvm.Cond.soleField "DateValeModel" "value") ∈ lw_all := lw_g (lw_at lw_m7 87 rfl) rfl
theorem q1639 : (Jvm.Cond.lays "DateValeModel" "DateValeModel" "at" "I") ∈ lw_all := lw_g (lw_at lw_m7 88 rfl) rfl
theorem q1640 : (Jvm.Cond.soleField "DateValeModel" "at") ∈ lw_all := lw_g (lw_at lw_m7 89 rfl) rfl
theorem q1641 : (Jvm.Cond.lays "DateValeModel" "DateValeModel" "fault" "I") ∈ lw_all := lw_g (lw_at lw_m7 90 rfl) rfl
theorem q1642 : (Jvm.Cond.soleField "DateValeModel" "fault") ∈ lw_all := lw_g (lw_at lw_m7 91 rfl) rfl
theorem q1643 : (Jvm.Cond.laysFinal "DateValeModel" "DateValeModel" "words" "[J") ∈ lw_all := lw_g (lw_at lw_m7 92 rfl) rfl
theorem q1644 : (Jvm.Cond.soleField "DateValeModel" "words") ∈ lw_all := lw_g (lw_at lw_m7 93 rfl) rfl
theorem q1645 : (Jvm.Cond.laysFinal "DateValeModel" "DateValeModel" "vales" "[I") ∈ lw_all := lw_g (lw_at lw_m7 94 rfl) rfl
theorem q1646 : (Jvm.Cond.soleField "DateValeModel" "vales") ∈ lw_all := lw_g (lw_at lw_m7 95 rfl) rfl
theorem q1647 : (Jvm.Cond.laysFinal "DateValeModel" "DateValeModel" "op" "[I") ∈ lw_all := lw_g (lw_at lw_m7 96 rfl) rfl
theorem q1648 : (Jvm.Cond.soleField "DateValeModel" "op") ∈ lw_all := lw_g (lw_at lw_m7 97 rfl) rfl
theorem q1649 : (Jvm.Cond.laysFinal "DateValeModel" "DateValeModel" "arg" "[I") ∈ lw_all := lw_g (lw_at lw_m7 98 rfl) rfl
theorem q1650 : (Jvm.Cond.soleField "DateValeModel" "arg") ∈ lw_all := lw_g (lw_at lw_m7 99 rfl) rfl
theorem q1651 : (Jvm.Cond.lays "DateValeModel" "DateValeModel" "codes" "I") ∈ lw_all := lw_g (lw_at lw_m7 100 rfl) rfl
theorem q1652 : (Jvm.Cond.soleField "DateValeModel" "codes") ∈ lw_all := lw_g (lw_at lw_m7 101 rfl) rfl
theorem q1653 : (Jvm.Cond.laysFinal "DateValeModel" "DateValeModel" "names" "[J") ∈ lw_all := lw_g (lw_at lw_m7 102 rfl) rfl
theorem q1654 : (Jvm.Cond.soleField "DateValeModel" "names") ∈ lw_all := lw_g (lw_at lw_m7 103 rfl) rfl
theorem q1655 : (Jvm.Cond.laysFinal "DateValeModel" "DateValeModel" "readNames" "[J") ∈ lw_all := lw_g (lw_at lw_m7 104 rfl) rfl
theorem q1656 : (Jvm.Cond.soleField "DateValeModel" "readNames") ∈ lw_all := lw_g (lw_at lw_m7 105 rfl) rfl
theorem q1657 : (Jvm.Cond.laysFinal "DateValeModel" "DateValeModel" "nameOf" "[I") ∈ lw_all := lw_g (lw_at lw_m7 106 rfl) rfl
theorem q1658 : (Jvm.Cond.soleField "DateValeModel" "nameOf") ∈ lw_all := lw_g (lw_at lw_m7 107 rfl) rfl
theorem q1659 : (Jvm.Cond.laysFinal "DateValeModel" "DateValeModel" "readNameOf" "[I") ∈ lw_all := lw_g (lw_at lw_m7 108 rfl) rfl
theorem q1660 : (Jvm.Cond.soleField "DateValeModel" "readNameOf") ∈ lw_all := lw_g (lw_at lw_m7 109 rfl) rfl
theorem q1661 : (Jvm.Cond.lays "DateValeModel" "DateValeModel" "namesMany" "I") ∈ lw_all := lw_g (lw_at lw_m7 110 rfl) rfl
theorem q1662 : (Jvm.Cond.soleField "DateValeModel" "namesMany") ∈ lw_all := lw_g (lw_at lw_m7 111 rfl) rfl
theorem q1663 : (Jvm.Cond.lays "DateValeModel" "DateValeModel" "readMany" "I") ∈ lw_all := lw_g (lw_at lw_m7 112 rfl) rfl
theorem q1664 : (Jvm.Cond.soleField "DateValeModel" "readMany") ∈ lw_all := lw_g (lw_at lw_m7 113 rfl) rfl
theorem q1665 : (Jvm.Cond.lays "DateValeModel" "DateValeModel" "once" "I") ∈ lw_all := lw_g (lw_at lw_m7 114 rfl) rfl
theorem q1666 : (Jvm.Cond.soleField "DateValeModel" "once") ∈ lw_all := lw_g (lw_at lw_m7 115 rfl) rfl
theorem q1667 : (Jvm.Cond.laysFinal "DateValeModel" "DateValeModel" "lines" "[I") ∈ lw_all := lw_g (lw_at lw_m7 116 rfl) rfl
theorem q1668 : (Jvm.Cond.soleField "DateValeModel" "lines") ∈ lw_all := lw_g (lw_at lw_m7 117 rfl) rfl
theorem q1669 : (Jvm.Cond.laysFinal "DateValeModel" "DateValeModel" "facts" "[I") ∈ lw_all := lw_g (lw_at lw_m7 118 rfl) rfl
theorem q1670 : (Jvm.Cond.soleField "DateValeModel" "facts") ∈ lw_all := lw_g (lw_at lw_m7 119 rfl) rfl
theorem q1671 : (Jvm.Cond.laysFinal "DateValeModel" "DateValeModel" "pile" "[I") ∈ lw_all := lw_g (lw_at lw_m7 120 rfl) rfl
theorem q1672 : (Jvm.Cond.soleField "DateValeModel" "pile") ∈ lw_all := lw_g (lw_at lw_m7 121 rfl) rfl
theorem q1673 : (Jvm.Cond.laysFinal "DateValeModel" "DateValeModel" "state" "[I") ∈ lw_all := lw_g (lw_at lw_m7 122 rfl) rfl
theorem q1674 : (Jvm.Cond.soleField "DateValeModel" "state") ∈ lw_all := lw_g (lw_at lw_m7 123 rfl) rfl
theorem q1675 : (Jvm.Cond.lays "DateValeModel" "DateValeModel" "undos" "I") ∈ lw_all := lw_g (lw_at lw_m7 124 rfl) rfl
theorem q1676 : (Jvm.Cond.soleField "DateValeModel" "undos") ∈ lw_all := lw_g (lw_at lw_m7 125 rfl) rfl
theorem q1677 : (Jvm.Cond.laysFinal "DateValeModel" "DateValeModel" "isMarked" "[Z") ∈ lw_all := lw_g (lw_at lw_m7 126 rfl) rfl
theorem q1678 : (Jvm.Cond.soleField "DateValeModel" "isMarked") ∈ lw_all := lw_g (lw_at lw_m7 127 rfl) rfl
theorem q1679 : (Jvm.Cond.laysFinal "DateValeModel" "DateValeModel" "dates" "[I") ∈ lw_all := lw_g (lw_at lw_m7 128 rfl) rfl
theorem q1680 : (Jvm.Cond.soleField "DateValeModel" "dates") ∈ lw_all := lw_g (lw_at lw_m7 129 rfl) rfl
theorem q1681 : (Jvm.Cond.lays "DateValeModel" "DateValeModel" "came" "I") ∈ lw_all := lw_g (lw_at lw_m7 130 rfl) rfl
theorem q1682 : (Jvm.Cond.soleField "DateValeModel" "came") ∈ lw_all := lw_g (lw_at lw_m7 131 rfl) rfl
theorem q1683 : (Jvm.Cond.lays "DateValeModel" "DateValeModel" "off" "I") ∈ lw_all := lw_g (lw_at lw_m7 132 rfl) rfl
theorem q1684 : (Jvm.Cond.soleField "DateValeModel" "off") ∈ lw_all := lw_g (lw_at lw_m7 133 rfl) rfl
theorem q1685 : (Jvm.Cond.laysFinal "DateValeModel" "DateValeModel" "apart" "[I") ∈ lw_all := lw_g (lw_at lw_m7 134 rfl) rfl
theorem q1686 : (Jvm.Cond.soleField "DateValeModel" "apart") ∈ lw_all := lw_g (lw_at lw_m7 135 rfl) rfl
theorem q1687 : (Jvm.Cond.lays "DateValeModel" "DateValeModel" "g" "J") ∈ lw_all := lw_g (lw_at lw_m7 136 rfl) rfl
theorem q1688 : (Jvm.Cond.soleField "DateValeModel" "g") ∈ lw_all := lw_g (lw_at lw_m7 137 rfl) rfl
theorem q1689 : (Jvm.Cond.superclass "DateValeModel" "java/lang/Object") ∈ lw_all := lw_g (lw_at lw_m7 138 rfl) rfl
theorem q1693 : (Jvm.Cond.instanceMethod ({ cls := "DateValeModel", name := "vale", desc := "()I" } : Jvm.MethodName)) ∈ lw_all := lw_g (lw_at lw_m7 142 rfl) rfl
theorem q1694 : (Jvm.Cond.selects "DateValeModel" ({ cls := "DateValeModel", name := "vale", desc := "()I" } : Jvm.MethodName) ({ cls := "DateValeModel", name := "vale", desc := "()I" } : Jvm.MethodName)) ∈ lw_all := lw_g (lw_at lw_m7 143 rfl) rfl
theorem q1695 : (Jvm.Cond.code ({ cls := "DateValeModel", name := "vale", desc := "()I" } : Jvm.MethodName) prog_23_method_26_code (2 : Nat) (Option.some Jvm.ClassFile.FieldType.int)) ∈ lw_all := lw_g (lw_at lw_m7 144 rfl) rfl
theorem q1696 : (Jvm.Cond.methodLink "DateValeModel" (206 : Nat) ({ cls := "DateValeModel", name := "cutAll", desc := "()V" } : Jvm.MethodName)) ∈ lw_all := lw_g (lw_at lw_m7 145 rfl) rfl
theorem q1697 : (Jvm.Cond.privateMethod ({ cls := "DateValeModel", name := "cutAll", desc := "()V" } : Jvm.MethodName)) ∈ lw_tbl := lw_at lw_m7 146 rfl
theorem q1698 : (Jvm.Cond.instanceMethod ({ cls := "DateValeModel", name := "cutAll", desc := "()V" } : Jvm.MethodName)) ∈ lw_all := lw_g (lw_at lw_m7 147 rfl) rfl
theorem q1699 : (Jvm.Cond.code ({ cls := "DateValeModel", name := "cutAll", desc := "()V" } : Jvm.MethodName) prog_23_method_9_code (7 : Nat) (Option.none : Option Jvm.ClassFile.FieldType)) ∈ lw_all := lw_g (lw_at lw_m7 148 rfl) rfl
theorem q1700 : (Jvm.Cond.methodLink "DateValeModel" (137 : Nat) ({ cls := "DateValeModel", name := "isLetter", desc := "(I)Z" } : Jvm.MethodName)) ∈ lw_all := lw_g (lw_at lw_m7 149 rfl) rfl
theorem q1701 : (Jvm.Cond.static ({ cls := "DateValeModel", name := "isLetter", desc := "(I)Z" } : Jvm.MethodName)) ∈ lw_all := lw_g (lw_at lw_m7 150 rfl) rfl
theorem q1702 : (Jvm.Cond.code ({ cls := "DateValeModel", name := "isLetter", desc := "(I)Z" } : Jvm.MethodName) prog_23_method_5_code (1 : Nat) (Option.some Jvm.ClassFile.FieldType.boolean)) ∈ lw_all := lw_g (lw_at lw_m7 151 rfl) rfl
theorem q1703 : (Jvm.Cond.constantLong "DateValeModel" (144 : Nat) (37 : Int64)) ∈ lw_all := lw_g (lw_at lw_m7 152 rfl) rfl
theorem q1704 : (Jvm.Cond.methodLink "DateValeModel" (146 : Nat) ({ cls := "DateValeModel", name := "rank", desc := "(I)I" } : Jvm.MethodName)) ∈ lw_all := lw_g (lw_at lw_m7 153 rfl) rfl
theorem q1705 : (Jvm.Cond.static ({ cls := "DateValeModel", name := "rank", desc := "(I)I" } : Jvm.MethodName)) ∈ lw_all := lw_g (lw_at lw_m7 154 rfl) rfl
theorem q1706 : (Jvm.Cond.code ({ cls := "DateValeModel", name := "rank", desc := "(I)I" } : Jvm.MethodName) prog_23_method_7_code (1 : Nat) (Option.some Jvm.ClassFile.FieldType.int)) ∈ lw_all := lw_g (lw_at lw_m7 155 rfl) rfl
theorem q1707 : (Jvm.Cond.methodLink "DateValeModel" (150 : Nat) ({ cls := "DateValeModel", name := "isDigit", desc := "(I)Z" } : Jvm.MethodName)) ∈ lw_all := lw_g (lw_at lw_m7 156 rfl) rfl
theorem q1708 : (Jvm.Cond.static ({ cls := "DateValeModel", name := "isDigit", desc := "(I)Z" } : Jvm.MethodName)) ∈ lw_all := lw_g (lw_at lw_m7 157 rfl) rfl
theorem q1709 : (Jvm.Cond.code ({ cls := "DateValeModel", name := "isDigit", desc := "(I)Z" } : Jvm.MethodName) prog_23_method_6_code (1 : Nat) (Option.some Jvm.ClassFile.FieldType.boolean)) ∈ lw_all := lw_g (lw_at lw_m7 158 rfl) rfl
theorem q1710 : (Jvm.Cond.constantLong "DateValeModel" (153 : Nat) (10 : Int64)) ∈ lw_all := lw_g (lw_at lw_m7 159 rfl) rfl
theorem q1711 : (Jvm.Cond.constantLong "DateValeModel" (155 : Nat) (48 : Int64)) ∈ lw_all := lw_g (lw_at lw_m7 160 rfl) rfl
theorem q1712 : (Jvm.Cond.methodLink "DateValeModel" (157 : Nat) ({ cls := "DateValeModel", name := "isSignOf", desc := "(I)Z" } : Jvm.MethodName)) ∈ lw_all := lw_g (lw_at lw_m7 161 rfl) rfl
theorem q1713 : (Jvm.Cond.static ({ cls := "DateValeModel", name := "isSignOf", desc := "(I)Z" } : Jvm.MethodName)) ∈ lw_all := lw_g (lw_at lw_m7 162 rfl) rfl
theorem q1714 : (Jvm.Cond.code ({ cls := "DateValeModel", name := "isSignOf", desc := "(I)Z" } : Jvm.MethodName) prog_23_method_8_code (1 : Nat) (Option.some Jvm.ClassFile.FieldType.boolean)) ∈ lw_all := lw_g (lw_at lw_m7 163 rfl) rfl
theorem q1715 : (Jvm.Cond.methodLink "DateValeModel" (215 : Nat) ({ cls := "DateValeModel", name := "readLine", desc := "()V" } : Jvm.MethodName)) ∈ lw_all := lw_g (lw_at lw_m7 164 rfl) rfl
theorem q1716 : (Jvm.Cond.privateMethod ({ cls := "DateValeModel", name := "readLine", desc := "()V" } : Jvm.MethodName)) ∈ lw_tbl := lw_at lw_m7 165 rfl
theorem q1717 : (Jvm.Cond.instanceMethod ({ cls := "DateValeModel", name := "readLine", desc := "()V" } : Jvm.MethodName)) ∈ lw_all := lw_g (lw_at lw_m7 166 rfl) rfl
theorem q1718 : (Jvm.Cond.code ({ cls := "DateValeModel", name := "readLine", desc := "()V" } : Jvm.MethodName) prog_23_method_27_code (3 : Nat) (Option.none : Option Jvm.ClassFile.FieldType)) ∈ lw_all := lw_g (lw_at lw_m7 167 rfl) rfl
theorem q1719 : (Jvm.Cond.methodLink "DateValeModel" (172 : Nat) ({ cls := "DateValeModel", name := "isWord", desc := "(I)Z" } : Jvm.MethodName)) ∈ lw_all := lw_g (lw_at lw_m7 168 rfl) rfl
theorem q1720 : (Jvm.Cond.privateMethod ({ cls := "DateValeModel", name := "isWord", desc := "(I)Z" } : Jvm.MethodName)) ∈ lw_tbl := lw_at lw_m7 169 rfl
theorem q1721 : (Jvm.Cond.instanceMethod ({ cls := "DateValeModel", name := "isWord", desc := "(I)Z" } : Jvm.MethodName)) ∈ lw_all := lw_g (lw_at lw_m7 170 rfl) rfl
theorem q1722 : (Jvm.Cond.code ({ cls := "DateValeModel", name := "isWord", desc := "(I)Z" } : Jvm.MethodName) prog_23_method_12_code (2 : Nat) (Option.some Jvm.ClassFile.FieldType.boolean)) ∈ lw_all := lw_g (lw_at lw_m7 171 rfl) rfl
theorem q1723 : (Jvm.Cond.methodLink "DateValeModel" (221 : Nat) ({ cls := "DateValeModel", name := "readName", desc := "(III)V" } : Jvm.MethodName)) ∈ lw_all := lw_g (lw_at lw_m7 172 rfl) rfl
theorem q1724 : (Jvm.Cond.privateMethod ({ cls := "DateValeModel", name := "readName", desc := "(III)V" } : Jvm.MethodName)) ∈ lw_tbl := lw_at lw_m7 173 rfl
theorem q1725 : (Jvm.Cond.instanceMethod ({ cls := "DateValeModel", name := "readName", desc := "(III)V" } : Jvm.MethodName)) ∈ lw_all := lw_g (lw_at lw_m7 174 rfl) rfl
theorem q1726 : (Jvm.Cond.code ({ cls := "DateValeModel", name := "readName", desc := "(III)V" } : Jvm.MethodName) prog_23_method_29_code (5 : Nat) (Option.none : Option Jvm.ClassFile.FieldType)) ∈ lw_all := lw_g (lw_at lw_m7 175 rfl) rfl
theorem q1727 : (Jvm.Cond.methodLink "DateValeModel" (169 : Nat) ({ cls := "DateValeModel", name := "wrong", desc := "(I)V" } : Jvm.MethodName)) ∈ lw_all := lw_g (lw_at lw_m7 176 rfl) rfl
theorem q1728 : (Jvm.Cond.privateMethod ({ cls := "DateValeModel", name := "wrong", desc := "(I)V" } : Jvm.MethodName)) ∈ lw_tbl := lw_at lw_m7 177 rfl
theorem q1729 : (Jvm.Cond.instanceMethod ({ cls := "DateValeModel", name := "wrong", desc := "(I)V" } : Jvm.MethodName)) ∈ lw_all := lw_g (lw_at lw_m7 178 rfl) rfl
theorem q1730 : (Jvm.Cond.code ({ cls := "DateValeModel", name := "wrong", desc := "(I)V" } : Jvm.MethodName) prog_23_method_10_code (2 : Nat) (Option.none : Option Jvm.ClassFile.FieldType)) ∈ lw_all := lw_g (lw_at lw_m7 179 rfl) rfl
theorem q1731 : (Jvm.Cond.methodLink "DateValeModel" (194 : Nat) ({ cls := "DateValeModel", name := "isName", desc := "()Z" } : Jvm.MethodName)) ∈ lw_all := lw_g (lw_at lw_m7 180 rfl) rfl
theorem q1732 : (Jvm.Cond.privateMethod ({ cls := "DateValeModel", name := "isName", desc := "()Z" } : Jvm.MethodName)) ∈ lw_tbl := lw_at lw_m7 181 rfl
theorem q1733 : (Jvm.Cond.instanceMethod ({ cls := "DateValeModel", name := "isName", desc := "()Z" } : Jvm.MethodName)) ∈ lw_all := lw_g (lw_at lw_m7 182 rfl) rfl
theorem q1734 : (Jvm.Cond.code ({ cls := "DateValeModel", name := "isName", desc := "()Z" } : Jvm.MethodName) prog_23_method_23_code (1 : Nat) (Option.some Jvm.ClassFile.FieldType.boolean)) ∈ lw_all := lw_g (lw_at lw_m7 183 rfl) rfl
theorem q1735 : (Jvm.Cond.methodLink "DateValeModel" (185 : Nat) ({ cls := "DateValeModel", name := "wordHere", desc := "(II)I" } : Jvm.MethodName)) ∈ lw_all := lw_g (lw_at lw_m7 184 rfl) rfl
theorem q1736 : (Jvm.Cond.privateMethod ({ cls := "DateValeModel", name := "wordHere", desc := "(II)I" } : Jvm.MethodName)) ∈ lw_tbl := lw_at lw_m7 185 rfl
theorem q1737 : (Jvm.Cond.instanceMethod ({ cls := "DateValeModel", name := "wordHere", desc := "(II)I" } : Jvm.MethodName)) ∈ lw_all := lw_g (lw_at lw_m7 186 rfl) rfl
theorem q1738 : (Jvm.Cond.code ({ cls := "DateValeModel", name := "wordHere", desc := "(II)I" } : Jvm.MethodName) prog_23_method_21_code (5 : Nat) (Option.some Jvm.ClassFile.FieldType.int)) ∈ lw_all := lw_g (lw_at lw_m7 187 rfl) rfl
theorem q1739 : (Jvm.Cond.methodLink "DateValeModel" (198 : Nat) ({ cls := "DateValeModel", name := "nameAt", desc := "(Z)I" } : Jvm.MethodName)) ∈ lw_all := lw_g (lw_at lw_m7 188 rfl) rfl
theorem q1740 : (Jvm.Cond.privateMethod ({ cls := "DateValeModel", name := "nameAt", desc := "(Z)I" } : Jvm.MethodName)) ∈ lw_tbl := lw_at lw_m7 189 rfl
theorem q1741 : (Jvm.Cond.instanceMethod ({ cls := "DateValeModel", name := "nameAt", desc := "(Z)I" } : Jvm.MethodName)) ∈ lw_all := lw_g (lw_at lw_m7 190 rfl) rfl
theorem q1742 : (Jvm.Cond.code ({ cls := "DateValeModel", name := "nameAt", desc := "(Z)I" } : Jvm.MethodName) prog_23_method_24_code (3 : Nat) (Option.some Jvm.ClassFile.FieldType.int)) ∈ lw_all := lw_g (lw_at lw_m7 191 rfl) rfl
theorem q1743 : (Jvm.Cond.methodLink "DateValeModel" (225 : Nat) ({ cls := "DateValeModel", name := "takeAfter", desc := "(III)I" } : Jvm.MethodName)) ∈ lw_all := lw_g (lw_at lw_m7 192 rfl) rfl
theorem q1744 : (Jvm.Cond.privateMethod ({ cls := "DateValeModel", name := "takeAfter", desc := "(III)I" } : Jvm.MethodName)) ∈ lw_tbl := lw_at lw_m7 193 rfl
theorem q1745 : (Jvm.Cond.instanceMethod ({ cls := "DateValeModel", name := "takeAfter", desc := "(III)I" } : Jvm.MethodName)) ∈ lw_all := lw_g (lw_at lw_m7 194 rfl) rfl
theorem q1746 : (Jvm.Cond.code ({ cls := "DateValeModel", name := "takeAfter", desc := "(III)I" } : Jvm.MethodName) prog_23_method_20_code (4 : Nat) (Option.some Jvm.ClassFile.FieldType.int)) ∈ lw_all := lw_g (lw_at lw_m7 195 rfl) rfl
theorem q1747 : (Jvm.Cond.methodLink "DateValeModel" (178 : Nat) ({ cls := "DateValeModel", name := "takeWord", desc := "(I)V" } : Jvm.MethodName)) ∈ lw_all := lw_g (lw_at lw_m7 196 rfl) rfl
theorem q1748 : (Jvm.Cond.privateMethod ({ cls := "DateValeModel", name := "takeWord", desc := "(I)V" } : Jvm.MethodName)) ∈ lw_tbl := lw_at lw_m7 197 rfl
theorem q1749 : (Jvm.Cond.instanceMethod ({ cls := "DateValeModel", name := "takeWord", desc := "(I)V" } : Jvm.MethodName)) ∈ lw_all := lw_g (lw_at lw_m7 198 rfl) rfl
theorem q1750 : (Jvm.Cond.code ({ cls := "DateValeModel", name := "takeWord", desc := "(I)V" } : Jvm.MethodName) prog_23_method_16_code (2 : Nat) (Option.none : Option Jvm.ClassFile.FieldType)) ∈ lw_all := lw_g (lw_at lw_m7 199 rfl) rfl
theorem q1751 : (Jvm.Cond.methodLink "DateValeModel" (175 : Nat) ({ cls := "DateValeModel", name := "hasWord", desc := "(I)Z" } : Jvm.MethodName)) ∈ lw_all := lw_g (lw_at lw_m7 200 rfl) rfl
theorem q1752 : (Jvm.Cond.privateMethod ({ cls := "DateValeModel", name := "hasWord", desc := "(I)Z" } : Jvm.MethodName)) ∈ lw_tbl := lw_at lw_m7 201 rfl
theorem q1753 : (Jvm.Cond.instanceMethod ({ cls := "DateValeModel", name := "hasWord", desc := "(I)Z" } : Jvm.MethodName)) ∈ lw_all := lw_g (lw_at lw_m7 202 rfl) rfl
theorem q1754 : (Jvm.Cond.code ({ cls := "DateValeModel", name := "hasWord", desc := "(I)Z" } : Jvm.MethodName) prog_23_method_15_code (3 : Nat) (Option.some Jvm.ClassFile.FieldType.boolean)) ∈ lw_all := lw_g (lw_at lw_m7 203 rfl) rfl
theorem q1755 : (Jvm.Cond.methodLink "DateValeModel" (181 : Nat) ({ cls := "DateValeModel", name := "takeNumber", desc := "(II)I" } : Jvm.MethodName)) ∈ lw_all := lw_g (lw_at lw_m7 204 rfl) rfl
theorem q1756 : (Jvm.Cond.privateMethod ({ cls := "DateValeModel", name := "takeNumber", desc := "(II)I" } : Jvm.MethodName)) ∈ lw_tbl := lw_at lw_m7 205 rfl
theorem q1757 : (Jvm.Cond.instanceMethod ({ cls := "DateValeModel", name := "takeNumber", desc := "(II)I" } : Jvm.MethodName)) ∈ lw_all := lw_g (lw_at lw_m7 206 rfl) rfl
theorem q1758 : (Jvm.Cond.code ({ cls := "DateValeModel", name := "takeNumber", desc := "(II)I" } : Jvm.MethodName) prog_23_method_19_code (3 : Nat) (Option.some Jvm.ClassFile.FieldType.int)) ∈ lw_all := lw_g (lw_at lw_m7 207 rfl) rfl
theorem q1759 : (Jvm.Cond.methodLink "DateValeModel" (229 : Nat) ({ cls := "DateValeModel", name := "readDay", desc := "()V" } : Jvm.MethodName)) ∈ lw_all := lw_g (lw_at lw_m7 208 rfl) rfl
theorem q1760 : (Jvm.Cond.privateMethod ({ cls := "DateValeModel", name := "readDay", desc := "()V" } : Jvm.MethodName)) ∈ lw_tbl := lw_at lw_m7 209 rfl
theorem q1761 : (Jvm.Cond.instanceMethod ({ cls := "DateValeModel", name := "readDay", desc := "()V" } : Jvm.MethodName)) ∈ lw_all := lw_g (lw_at lw_m7 210 rfl) rfl
theorem q1762 : (Jvm.Cond.code ({ cls := "DateValeModel", name := "readDay", desc := "()V" } : Jvm.MethodName) prog_23_method_30_code (6 : Nat) (Option.none : Option Jvm.ClassFile.FieldType)) ∈ lw_all := lw_g (lw_at lw_m7 211 rfl) rfl
theorem q1763 : (Jvm.Cond.methodLink "DateValeModel" (242 : Nat) ({ cls := "DateValeModel", name := "takeOne", desc := "(II)I" } : Jvm.MethodName)) ∈ lw_all := lw_g (lw_at lw_m7 212 rfl) rfl
theorem q1764 : (Jvm.Cond.privateMethod ({ cls := "DateValeModel", name := "takeOne", desc := "(II)I" } : Jvm.MethodName)) ∈ lw_tbl := lw_at lw_m7 213 rfl
theorem q1765 : (Jvm.Cond.instanceMethod ({ cls := "DateValeModel", name := "takeOne", desc := "(II)I" } : Jvm.MethodName)) ∈ lw_all := lw_g (lw_at lw_m7 214 rfl) rfl
theorem q1766 : (Jvm.Cond.code ({ cls := "DateValeModel", name := "takeOne", desc := "(II)I" } : Jvm.MethodName) prog_23_method_22_code (4 : Nat) (Option.some Jvm.ClassFile.FieldType.int)) ∈ lw_all := lw_g (lw_at lw_m7 215 rfl) rfl
theorem q1767 : (Jvm.Cond.methodLink "DateValeModel" (238 : Nat) ({ cls := "DateValeModel", name := "takeTold", desc := "(ZII)I" } : Jvm.MethodName)) ∈ lw_all := lw_g (lw_at lw_m7 216 rfl) rfl
theorem q1768 : (Jvm.Cond.privateMethod ({ cls := "DateValeModel", name := "takeTold", desc := "(ZII)I" } : Jvm.MethodName)) ∈ lw_tbl := lw_at lw_m7 217 rfl
theorem q1769 : (Jvm.Cond.instanceMethod ({ cls := "DateValeModel", name := "takeTold", desc := "(ZII)I" } : Jvm.MethodName)) ∈ lw_all := lw_g (lw_at lw_m7 218 rfl) rfl
theorem q1770 : (Jvm.Cond.code ({ cls := "DateValeModel", name := "takeTold", desc := "(ZII)I" } : Jvm.MethodName) prog_23_method_25_code (5 : Nat) (Option.some Jvm.ClassFile.FieldType.int)) ∈ lw_all := lw_g (lw_at lw_m7 219 rfl) rfl
theorem q1771 : (Jvm.Cond.methodLink "DateValeModel" (202 : Nat) ({ cls := "DateValeModel", name := "within", desc := "(III)Z" } : Jvm.MethodName)) ∈ lw_all := lw_g (lw_at lw_m7 220 rfl) rfl
theorem q1772 : (Jvm.Cond.static ({ cls := "DateValeModel", name := "within", desc := "(III)Z" } : Jvm.MethodName)) ∈ lw_all := lw_g (lw_at lw_m7 221 rfl) rfl
theorem q1773 : (Jvm.Cond.code ({ cls := "DateValeModel", name := "within", desc := "(III)Z" } : Jvm.MethodName) prog_23_method_17_code (3 : Nat) (Option.some Jvm.ClassFile.FieldType.boolean)) ∈ lw_all := lw_g (lw_at lw_m7 222 rfl) rfl
theorem q1774 : (Jvm.Cond.methodLink "DateValeModel" (232 : Nat) ({ cls := "DateValeModel", name := "readPair", desc := "(III)V" } : Jvm.MethodName)) ∈ lw_all := lw_g (lw_at lw_m7 223 rfl) rfl
theorem q1775 : (Jvm.Cond.privateMethod ({ cls := "DateValeModel", name := "readPair", desc := "(III)V" } : Jvm.MethodName)) ∈ lw_tbl := lw_at lw_m7 224 rfl
theorem q1776 : (Jvm.Cond.instanceMethod ({ cls := "DateValeModel", name := "readPair", desc := "(III)V" } : Jvm.MethodName)) ∈ lw_all := lw_g (lw_at lw_m7 225 rfl) rfl
theorem q1777 : (Jvm.Cond.code ({ cls := "DateValeModel", name := "readPair", desc := "(III)V" } : Jvm.MethodName) prog_23_method_28_code (7 : Nat) (Option.none : Option Jvm.ClassFile.FieldType)) ∈ lw_all := lw_g (lw_at lw_m7 226 rfl) rfl
theorem q1778 : (Jvm.Cond.methodLink "DateValeModel" (235 : Nat) ({ cls := "DateValeModel", name := "readOnce", desc := "()V" } : Jvm.MethodName)) ∈ lw_all := lw_g (lw_at lw_m7 227 rfl) rfl
theorem q1779 : (Jvm.Cond.privateMethod ({ cls := "DateValeModel", name := "readOnce", desc := "()V" } : Jvm.MethodName)) ∈ lw_tbl := lw_at lw_m7 228 rfl
theorem q1780 : (Jvm.Cond.instanceMethod ({ cls := "DateValeModel", name := "readOnce", desc := "()V" } : Jvm.MethodName)) ∈ lw_all := lw_g (lw_at lw_m7 229 rfl) rfl
theorem q1781 : (Jvm.Cond.code ({ cls := "DateValeModel", name := "readOnce", desc := "()V" } : Jvm.MethodName) prog_23_method_31_code (2 : Nat) (Option.none : Option Jvm.ClassFile.FieldType)) ∈ lw_all := lw_g (lw_at lw_m7 230 rfl) rfl
theorem q1782 : (Jvm.Cond.methodLink "DateValeModel" (245 : Nat) ({ cls := "DateValeModel", name := "whole", desc := "(I)V" } : Jvm.MethodName)) ∈ lw_all := lw_g (lw_at lw_m7 231 rfl) rfl
theorem q1783 : (Jvm.Cond.privateMethod ({ cls := "DateValeModel", name := "whole", desc := "(I)V" } : Jvm.MethodName)) ∈ lw_tbl := lw_at lw_m7 232 rfl
theorem q1784 : (Jvm.Cond.instanceMethod ({ cls := "DateValeModel", name := "whole", desc := "(I)V" } : Jvm.MethodName)) ∈ lw_all := lw_g (lw_at lw_m7 233 rfl) rfl
theorem q1785 : (Jvm.Cond.code ({ cls := "DateValeModel", name := "whole", desc := "(I)V" } : Jvm.MethodName) prog_23_method_34_code (3 : Nat) (Option.none : Option Jvm.ClassFile.FieldType)) ∈ lw_all := lw_g (lw_at lw_m7 234 rfl) rfl
theorem q1786 : (Jvm.Cond.methodLink "DateValeModel" (252 : Nat) ({ cls := "DateValeModel", name := "test", desc := "(I)V" } : Jvm.MethodName)) ∈ lw_all := lw_g (lw_at lw_m7 235 rfl) rfl
theorem q1787 : (Jvm.Cond.privateMethod ({ cls := "DateValeModel", name := "test", desc := "(I)V" } : Jvm.MethodName)) ∈ lw_tbl := lw_at lw_m7 236 rfl
theorem q1788 : (Jvm.Cond.instanceMethod ({ cls := "DateValeModel", name := "test", desc := "(I)V" } : Jvm.MethodName)) ∈ lw_all := lw_g (lw_at lw_m7 237 rfl) rfl
theorem q1789 : (Jvm.Cond.code ({ cls := "DateValeModel", name := "test", desc := "(I)V" } : Jvm.MethodName) prog_23_method_35_code (3 : Nat) (Option.none : Option Jvm.ClassFile.FieldType)) ∈ lw_all := lw_g (lw_at lw_m7 238 rfl) rfl
theorem q1790 : (Jvm.Cond.methodLink "DateValeModel" (255 : Nat) ({ cls := "DateValeModel", name := "sums", desc := "(I)V" } : Jvm.MethodName)) ∈ lw_all := lw_g (lw_at lw_m7 239 rfl) rfl
theorem q1791 : (Jvm.Cond.privateMethod ({ cls := "DateValeModel", name := "sums", desc := "(I)V" } : Jvm.MethodName)) ∈ lw_tbl := lw_at lw_m8 0 rfl
theorem q1792 : (Jvm.Cond.instanceMethod ({ cls := "DateValeModel", name := "sums", desc := "(I)V" } : Jvm.MethodName)) ∈ lw_all := lw_g (lw_at lw_m8 1 rfl) rfl
theorem q1793 : (Jvm.Cond.code ({ cls := "DateValeModel", name := "sums", desc := "(I)V" } : Jvm.MethodName) prog_23_method_36_code (3 : Nat) (Option.none : Option Jvm.ClassFile.FieldType)) ∈ lw_all := lw_g (lw_at lw_m8 2 rfl) rfl
theorem q1794 : (Jvm.Cond.methodLink "DateValeModel" (261 : Nat) ({ cls := "DateValeModel", name := "products", desc := "(I)V" } : Jvm.MethodName)) ∈ lw_all := lw_g (lw_at lw_m8 3 rfl) rfl
theorem q1795 : (Jvm.Cond.privateMethod ({ cls := "DateValeModel", name := "products", desc := "(I)V" } : Jvm.MethodName)) ∈ lw_tbl := lw_at lw_m8 4 rfl
theorem q1796 : (Jvm.Cond.instanceMethod ({ cls := "DateValeModel", name := "products", desc := "(I)V" } : Jvm.MethodName)) ∈ lw_all := lw_g (lw_at lw_m8 5 rfl) rfl
theorem q1797 : (Jvm.Cond.code ({ cls := "DateValeModel", name := "products", desc := "(I)V" } : Jvm.MethodName) prog_23_method_37_code (2 : Nat) (Option.none : Option Jvm.ClassFile.FieldType)) ∈ lw_all := lw_g (lw_at lw_m8 6 rfl) rfl
theorem q1798 : (Jvm.Cond.methodLink "DateValeModel" (264 : Nat) ({ cls := "DateValeModel", name := "takePart", desc := "(I)V" } : Jvm.MethodName)) ∈ lw_all := lw_g (lw_at lw_m8 7 rfl) rfl
theorem q1799 : (Jvm.Cond.privateMethod ({ cls := "DateValeModel", name := "takePart", desc := "(I)V" } : Jvm.MethodName)) ∈ lw_tbl := lw_at lw_m8 8 rfl
theorem q1800 : (Jvm.Cond.instanceMethod ({ cls := "DateValeModel", name := "takePart", desc := "(I)V" } : Jvm.MethodName)) ∈ lw_all := lw_g (lw_at lw_m8 9 rfl) rfl
theorem q1801 : (Jvm.Cond.code ({ cls := "DateValeModel", name := "takePart", desc := "(I)V" } : Jvm.MethodName) prog_23_method_38_code (4 : Nat) (Option.none : Option Jvm.ClassFile.FieldType)) ∈ lw_all := lw_g (lw_at lw_m8 10 rfl) rfl
theorem q1802 : (Jvm.Cond.methodLink "DateValeModel" (166 : Nat) ({ cls := "DateValeModel", name := "isSign", desc := "(I)Z" } : Jvm.MethodName)) ∈ lw_all := lw_g (lw_at lw_m8 11 rfl) rfl
theorem q1803 : (Jvm.Cond.privateMethod ({ cls := "DateValeModel", name := "isSign", desc := "(I)Z" } : Jvm.MethodName)) ∈ lw_tbl := lw_at lw_m8 12 rfl
theorem q1804 : (Jvm.Cond.instanceMethod ({ cls := "DateValeModel", name := "isSign", desc := "(I)Z" } : Jvm.MethodName)) ∈ lw_all := lw_g (lw_at lw_m8 13 rfl) rfl
theorem q1805 : (Jvm.Cond.code ({ cls := "DateValeModel", name := "isSign", desc := "(I)Z" } : Jvm.MethodName) prog_23_method_11_code (2 : Nat) (Option.some Jvm.ClassFile.FieldType.boolean)) ∈ lw_all := lw_g (lw_at lw_m8 14 rfl) rfl
theorem q1806 : (Jvm.Cond.methodLink "DateValeModel" (248 : Nat) ({ cls := "DateValeModel", name := "emit", desc := "(II)V" } : Jvm.MethodName)) ∈ lw_all := lw_g (lw_at lw_m8 15 rfl) rfl
theorem q1807 : (Jvm.Cond.privateMethod ({ cls := "DateValeModel", name := "emit", desc := "(II)V" } : Jvm.MethodName)) ∈ lw_tbl := lw_at lw_m8 16 rfl
theorem q1808 : (Jvm.Cond.instanceMethod ({ cls := "DateValeModel", name := "emit", desc := "(II)V" } : Jvm.MethodName)) ∈ lw_all := lw_g (lw_at lw_m8 17 rfl) rfl
theorem q1809 : (Jvm.Cond.code ({ cls := "DateValeModel", name := "emit", desc := "(II)V" } : Jvm.MethodName) prog_23_method_33_code (3 : Nat) (Option.none : Option Jvm.ClassFile.FieldType)) ∈ lw_all := lw_g (lw_at lw_m8 18 rfl) rfl
theorem q1810 : (Jvm.Cond.methodLink "DateValeModel" (258 : Nat) ({ cls := "DateValeModel", name := "hasSign", desc := "(I)Z" } : Jvm.MethodName)) ∈ lw_all := lw_g (lw_at lw_m8 19 rfl) rfl
theorem q1811 : (Jvm.Cond.privateMethod ({ cls := "DateValeModel", name := "hasSign", desc := "(I)Z" } : Jvm.MethodName)) ∈ lw_tbl := lw_at lw_m8 20 rfl
theorem q1812 : (Jvm.Cond.instanceMethod ({ cls := "DateValeModel", name := "hasSign", desc := "(I)Z" } : Jvm.MethodName)) ∈ lw_all := lw_g (lw_at lw_m8 21 rfl) rfl
theorem q1813 : (Jvm.Cond.code ({ cls := "DateValeModel", name := "hasSign", desc := "(I)Z" } : Jvm.MethodName) prog_23_method_14_code (3 : Nat) (Option.some Jvm.ClassFile.FieldType.boolean)) ∈ lw_all := lw_g (lw_at lw_m8 22 rfl) rfl
theorem q1814 : (Jvm.Cond.methodLink "DateValeModel" (218 : Nat) ({ cls := "DateValeModel", name := "takeSign", desc := "(I)V" } : Jvm.MethodName)) ∈ lw_all := lw_g (lw_at lw_m8 23 rfl) rfl
theorem q1815 : (Jvm.Cond.privateMethod ({ cls := "DateValeModel", name := "takeSign", desc := "(I)V" } : Jvm.MethodName)) ∈ lw_tbl := lw_at lw_m8 24 rfl
theorem q1816 : (Jvm.Cond.instanceMethod ({ cls := "DateValeModel", name := "takeSign", desc := "(I)V" } : Jvm.MethodName)) ∈ lw_all := lw_g (lw_at lw_m8 25 rfl) rfl
theorem q1817 : (Jvm.Cond.code ({ cls := "DateValeModel", name := "takeSign", desc := "(I)V" } : Jvm.MethodName) prog_23_method_13_code (2 : Nat) (Option.none : Option Jvm.ClassFile.FieldType)) ∈ lw_all := lw_g (lw_at lw_m8 26 rfl) rfl
theorem q1819 : (Jvm.Cond.instanceMethod ({ cls := "DateValeModel", name := "year", desc := "()I" } : Jvm.MethodName)) ∈ lw_all := lw_g (lw_at lw_m8 28 rfl) rfl
theorem q1820 : (Jvm.Cond.selects "DateValeModel" ({ cls := "DateValeModel", name := "year", desc := "()I" } : Jvm.MethodName) ({ cls := "DateValeModel", name := "year", desc := "()I" } : Jvm.MethodName)) ∈ lw_all := lw_g (lw_at lw_m8 29 rfl) rfl
theorem q1821 : (Jvm.Cond.code ({ cls := "DateValeModel", name := "year", desc := "()I" } : Jvm.MethodName) prog_23_method_32_code (4 : Nat) (Option.some Jvm.ClassFile.FieldType.int)) ∈ lw_all := lw_g (lw_at lw_m8 30 rfl) rfl
theorem q1823 : (Jvm.Cond.instanceMethod ({ cls := "DateValeModel", name := "house", desc := "(II)I" } : Jvm.MethodName)) ∈ lw_all := lw_g (lw_at lw_m8 32 rfl) rfl
theorem q1824 : (Jvm.Cond.selects "DateValeModel" ({ cls := "DateValeModel", name := "house", desc := "(II)I" } : Jvm.MethodName) ({ cls := "DateValeModel", name := "house", desc := "(II)I" } : Jvm.MethodName)) ∈ lw_all := lw_g (lw_at lw_m8 33 rfl) rfl
theorem q1825 : (Jvm.Cond.code ({ cls := "DateValeModel", name := "house", desc := "(II)I" } : Jvm.MethodName) prog_23_method_64_code (3 : Nat) (Option.some Jvm.ClassFile.FieldType.int)) ∈ lw_all := lw_g (lw_at lw_m8 34 rfl) rfl
theorem q1826 : (Jvm.Cond.methodLink "DateValeModel" (332 : Nat) ({ cls := "DateValeModel", name := "isHouse", desc := "(I)Z" } : Jvm.MethodName)) ∈ lw_all := lw_g (lw_at lw_m8 35 rfl) rfl
theorem q1827 : (Jvm.Cond.privateMethod ({ cls := "DateValeModel", name := "isHouse", desc := "(I)Z" } : Jvm.MethodName)) ∈ lw_tbl := lw_at lw_m8 36 rfl
theorem q1828 : (Jvm.Cond.instanceMethod ({ cls := "DateValeModel", name := "isHouse", desc := "(I)Z" } : Jvm.MethodName)) ∈ lw_all := lw_g (lw_at lw_m8 37 rfl) rfl
theorem q1829 : (Jvm.Cond.code ({ cls := "DateValeModel", name := "isHouse", desc := "(I)Z" } : Jvm.MethodName) prog_23_method_50_code (2 : Nat) (Option.some Jvm.ClassFile.FieldType.boolean)) ∈ lw_all := lw_g (lw_at lw_m8 38 rfl) rfl
theorem q1830 : (Jvm.Cond.methodLink "DateValeModel" (298 : Nat) ({ cls := "DateValeModel", name := "freeOf", desc := "(II)I" } : Jvm.MethodName)) ∈ lw_all := lw_g (lw_at lw_m8 39 rfl) rfl
theorem q1831 : (Jvm.Cond.privateMethod ({ cls := "DateValeModel", name := "freeOf", desc := "(II)I" } : Jvm.MethodName)) ∈ lw_tbl := lw_at lw_m8 40 rfl
theorem q1832 : (Jvm.Cond.instanceMethod ({ cls := "DateValeModel", name := "freeOf", desc := "(II)I" } : Jvm.MethodName)) ∈ lw_all := lw_g (lw_at lw_m8 41 rfl) rfl
theorem q1833 : (Jvm.Cond.code ({ cls := "DateValeModel", name := "freeOf", desc := "(II)I" } : Jvm.MethodName) prog_23_method_54_code (5 : Nat) (Option.some Jvm.ClassFile.FieldType.int)) ∈ lw_all := lw_g (lw_at lw_m8 42 rfl) rfl
theorem q1834 : (Jvm.Cond.methodLink "DateValeModel" (295 : Nat) ({ cls := "DateValeModel", name := "widthOf", desc := "(I)I" } : Jvm.MethodName)) ∈ lw_all := lw_g (lw_at lw_m8 43 rfl) rfl
theorem q1835 : (Jvm.Cond.privateMethod ({ cls := "DateValeModel", name := "widthOf", desc := "(I)I" } : Jvm.MethodName)) ∈ lw_tbl := lw_at lw_m8 44 rfl
theorem q1836 : (Jvm.Cond.instanceMethod ({ cls := "DateValeModel", name := "widthOf", desc := "(I)I" } : Jvm.MethodName)) ∈ lw_all := lw_g (lw_at lw_m8 45 rfl) rfl
theorem q1837 : (Jvm.Cond.code ({ cls := "DateValeModel", name := "widthOf", desc := "(I)I" } : Jvm.MethodName) prog_23_method_52_code (2 : Nat) (Option.some Jvm.ClassFile.FieldType.int)) ∈ lw_all := lw_g (lw_at lw_m8 46 rfl) rfl
theorem q1838 : (Jvm.Cond.methodLink "DateValeModel" (301 : Nat) ({ cls := "DateValeModel", name := "inHouse", desc := "(II)I" } : Jvm.MethodName)) ∈ lw_all := lw_g (lw_at lw_m8 47 rfl) rfl
theorem q1839 : (Jvm.Cond.privateMethod ({ cls := "DateValeModel", name := "inHouse", desc := "(II)I" } : Jvm.MethodName)) ∈ lw_tbl := lw_at lw_m8 48 rfl
theorem q1840 : (Jvm.Cond.instanceMethod ({ cls := "DateValeModel", name := "inHouse", desc := "(II)I" } : Jvm.MethodName)) ∈ lw_all := lw_g (lw_at lw_m8 49 rfl) rfl
theorem q1841 : (Jvm.Cond.code ({ cls := "DateValeModel", name := "inHouse", desc := "(II)I" } : Jvm.MethodName) prog_23_method_53_code (5 : Nat) (Option.some Jvm.ClassFile.FieldType.int)) ∈ lw_all := lw_g (lw_at lw_m8 50 rfl) rfl
theorem q1842 : (Jvm.Cond.methodLink "DateValeModel" (335 : Nat) ({ cls := "DateValeModel", name := "talkIn", desc := "(II)I" } : Jvm.MethodName)) ∈ lw_all := lw_g (lw_at lw_m8 51 rfl) rfl
theorem q1843 : (Jvm.Cond.privateMethod ({ cls := "DateValeModel", name := "talkIn", desc := "(II)I" } : Jvm.MethodName)) ∈ lw_tbl := lw_at lw_m8 52 rfl
theorem q1844 : (Jvm.Cond.instanceMethod ({ cls := "DateValeModel", name := "talkIn", desc := "(II)I" } : Jvm.MethodName)) ∈ lw_all := lw_g (lw_at lw_m8 53 rfl) rfl
theorem q1845 : (Jvm.Cond.code ({ cls := "DateValeModel", name := "talkIn", desc := "(II)I" } : Jvm.MethodName) prog_23_method_63_code (5 : Nat) (Option.some Jvm.ClassFile.FieldType.int)) ∈ lw_all := lw_g (lw_at lw_m8 54 rfl) rfl
theorem q1847 : (Jvm.Cond.instanceMethod ({ cls := "DateValeModel", name := "day", desc := "(II)I" } : Jvm.MethodName)) ∈ lw_all := lw_g (lw_at lw_m8 56 rfl) rfl
theorem q1848 : (Jvm.Cond.selects "DateValeModel" ({ cls := "DateValeModel", name := "day", desc := "(II)I" } : Jvm.MethodName) ({ cls := "DateValeModel", name := "day", desc := "(II)I" } : Jvm.MethodName)) ∈ lw_all := lw_g (lw_at lw_m8 57 rfl) rfl
theorem q1849 : (Jvm.Cond.code ({ cls := "DateValeModel", name := "day", desc := "(II)I" } : Jvm.MethodName) prog_23_method_65_code (3 : Nat) (Option.some Jvm.ClassFile.FieldType.int)) ∈ lw_all := lw_g (lw_at lw_m8 58 rfl) rfl
theorem q1850 : (Jvm.Cond.methodLink "DateValeModel" (338 : Nat) ({ cls := "DateValeModel", name := "isDay", desc := "(I)Z" } : Jvm.MethodName)) ∈ lw_all := lw_g (lw_at lw_m8 59 rfl) rfl
theorem q1851 : (Jvm.Cond.privateMethod ({ cls := "DateValeModel", name := "isDay", desc := "(I)Z" } : Jvm.MethodName)) ∈ lw_tbl := lw_at lw_m8 60 rfl
theorem q1852 : (Jvm.Cond.instanceMethod ({ cls := "DateValeModel", name := "isDay", desc := "(I)Z" } : Jvm.MethodName)) ∈ lw_all := lw_g (lw_at lw_m8 61 rfl) rfl
theorem q1853 : (Jvm.Cond.code ({ cls := "DateValeModel", name := "isDay", desc := "(I)Z" } : Jvm.MethodName) prog_23_method_51_code (2 : Nat) (Option.some Jvm.ClassFile.FieldType.boolean)) ∈ lw_all := lw_g (lw_at lw_m8 62 rfl) rfl
theorem q1855 : (Jvm.Cond.instanceMethod ({ cls := "DateValeModel", name := "date", desc := "()I" } : Jvm.MethodName)) ∈ lw_all := lw_g (lw_at lw_m8 64 rfl) rfl
theorem q1856 : (Jvm.Cond.selects "DateValeModel" ({ cls := "DateValeModel", name := "date", desc := "()I" } : Jvm.MethodName) ({ cls := "DateValeModel", name := "date", desc := "()I" } : Jvm.MethodName)) ∈ lw_all := lw_g (lw_at lw_m8 65 rfl) rfl
theorem q1857 : (Jvm.Cond.code ({ cls := "DateValeModel", name := "date", desc := "()I" } : Jvm.MethodName) prog_23_method_66_code (1 : Nat) (Option.some Jvm.ClassFile.FieldType.int)) ∈ lw_all := lw_g (lw_at lw_m8 66 rfl) rfl
theorem q1858 : (Jvm.Cond.methodLink "DateValeModel" (341 : Nat) ({ cls := "DateValeModel", name := "keeps", desc := "()V" } : Jvm.MethodName)) ∈ lw_all := lw_g (lw_at lw_m8 67 rfl) rfl
theorem q1859 : (Jvm.Cond.privateMethod ({ cls := "DateValeModel", name := "keeps", desc := "()V" } : Jvm.MethodName)) ∈ lw_tbl := lw_at lw_m8 68 rfl
theorem q1860 : (Jvm.Cond.instanceMethod ({ cls := "DateValeModel", name := "keeps", desc := "()V" } : Jvm.MethodName)) ∈ lw_all := lw_g (lw_at lw_m8 69 rfl) rfl
theorem q1861 : (Jvm.Cond.code ({ cls := "DateValeModel", name := "keeps", desc := "()V" } : Jvm.MethodName) prog_23_method_45_code (2 : Nat) (Option.none : Option Jvm.ClassFile.FieldType)) ∈ lw_all := lw_g (lw_at lw_m8 70 rfl) rfl
theorem q1862 : (Jvm.Cond.methodLink "DateValeModel" (292 : Nat) ({ cls := "DateValeModel", name := "copies", desc := "(III)V" } : Jvm.MethodName)) ∈ lw_all := lw_g (lw_at lw_m8 71 rfl) rfl
theorem q1863 : (Jvm.Cond.privateMethod ({ cls := "DateValeModel", name := "copies", desc := "(III)V" } : Jvm.MethodName)) ∈ lw_tbl := lw_at lw_m8 72 rfl
theorem q1864 : (Jvm.Cond.instanceMethod ({ cls := "DateValeModel", name := "copies", desc := "(III)V" } : Jvm.MethodName)) ∈ lw_all := lw_g (lw_at lw_m8 73 rfl) rfl
theorem q1865 : (Jvm.Cond.code ({ cls := "DateValeModel", name := "copies", desc := "(III)V" } : Jvm.MethodName) prog_23_method_41_code (5 : Nat) (Option.none : Option Jvm.ClassFile.FieldType)) ∈ lw_all := lw_g (lw_at lw_m8 74 rfl) rfl
theorem q1866 : (Jvm.Cond.methodLink "DateValeModel" (344 : Nat) ({ cls := "DateValeModel", name := "passes", desc := "(I)V" } : Jvm.MethodName)) ∈ lw_all := lw_g (lw_at lw_m8 75 rfl) rfl
theorem q1867 : (Jvm.Cond.privateMethod ({ cls := "DateValeModel", name := "passes", desc := "(I)V" } : Jvm.MethodName)) ∈ lw_tbl := lw_at lw_m8 76 rfl
theorem q1868 : (Jvm.Cond.instanceMethod ({ cls := "DateValeModel", name := "passes", desc := "(I)V" } : Jvm.MethodName)) ∈ lw_all := lw_g (lw_at lw_m8 77 rfl) rfl
theorem q1869 : (Jvm.Cond.code ({ cls := "DateValeModel", name := "passes", desc := "(I)V" } : Jvm.MethodName) prog_23_method_62_code (3 : Nat) (Option.none : Option Jvm.ClassFile.FieldType)) ∈ lw_all := lw_g (lw_at lw_m8 78 rfl) rfl
theorem q1870 : (Jvm.Cond.methodLink "DateValeModel" (322 : Nat) ({ cls := "DateValeModel", name := "leaves", desc := "(II)V" } : Jvm.MethodName)) ∈ lw_all := lw_g (lw_at lw_m8 79 rfl) rfl
theorem q1871 : (Jvm.Cond.privateMethod ({ cls := "DateValeModel", name := "leaves", desc := "(II)V" } : Jvm.MethodName)) ∈ lw_tbl := lw_at lw_m8 80 rfl
theorem q1872 : (Jvm.Cond.instanceMethod ({ cls := "DateValeModel", name := "leaves", desc := "(II)V" } : Jvm.MethodName)) ∈ lw_all := lw_g (lw_at lw_m8 81 rfl) rfl
theorem q1873 : (Jvm.Cond.code ({ cls := "DateValeModel", name := "leaves", desc := "(II)V" } : Jvm.MethodName) prog_23_method_58_code (3 : Nat) (Option.none : Option Jvm.ClassFile.FieldType)) ∈ lw_all := lw_g (lw_at lw_m8 82 rfl) rfl
theorem q1874 : (Jvm.Cond.methodLink "DateValeModel" (325 : Nat) ({ cls := "DateValeModel", name := "isDate", desc := "(II)Z" } : Jvm.MethodName)) ∈ lw_all := lw_g (lw_at lw_m8 83 rfl) rfl
theorem q1875 : (Jvm.Cond.privateMethod ({ cls := "DateValeModel", name := "isDate", desc := "(II)Z" } : Jvm.MethodName)) ∈ lw_tbl := lw_at lw_m8 84 rfl
theorem q1876 : (Jvm.Cond.instanceMethod ({ cls := "DateValeModel", name := "isDate", desc := "(II)Z" } : Jvm.MethodName)) ∈ lw_all := lw_g (lw_at lw_m8 85 rfl) rfl
theorem q1877 : (Jvm.Cond.code ({ cls := "DateValeModel", name := "isDate", desc := "(II)Z" } : Jvm.MethodName) prog_23_method_59_code (5 : Nat) (Option.some Jvm.ClassFile.FieldType.boolean)) ∈ lw_all := lw_g (lw_at lw_m8 86 rfl) rfl
theorem q1878 : (Jvm.Cond.methodLink "DateValeModel" (329 : Nat) ({ cls := "DateValeModel", name := "comes", desc := "(II)V" } : Jvm.MethodName)) ∈ lw_all := lw_g (lw_at lw_m8 87 rfl) rfl
theorem q1879 : (Jvm.Cond.privateMethod ({ cls := "DateValeModel", name := "comes", desc := "(II)V" } : Jvm.MethodName)) ∈ lw_tbl := lw_at lw_m8 88 rfl
theorem q1880 : (Jvm.Cond.instanceMethod ({ cls := "DateValeModel", name := "comes", desc := "(II)V" } : Jvm.MethodName)) ∈ lw_all := lw_g (lw_at lw_m8 89 rfl) rfl
theorem q1881 : (Jvm.Cond.code ({ cls := "DateValeModel", name := "comes", desc := "(II)V" } : Jvm.MethodName) prog_23_method_61_code (6 : Nat) (Option.none : Option Jvm.ClassFile.FieldType)) ∈ lw_all := lw_g (lw_at lw_m8 90 rfl) rfl
theorem q1882 : (Jvm.Cond.methodLink "DateValeModel" (307 : Nat) ({ cls := "DateValeModel", name := "bedFor", desc := "(II)I" } : Jvm.MethodName)) ∈ lw_all := lw_g (lw_at lw_m8 91 rfl) rfl
theorem q1883 : (Jvm.Cond.privateMethod ({ cls := "DateValeModel", name := "bedFor", desc := "(II)I" } : Jvm.MethodName)) ∈ lw_tbl := lw_at lw_m8 92 rfl
theorem q1884 : (Jvm.Cond.instanceMethod ({ cls := "DateValeModel", name := "bedFor", desc := "(II)I" } : Jvm.MethodName)) ∈ lw_all := lw_g (lw_at lw_m8 93 rfl) rfl
theorem q1885 : (Jvm.Cond.code ({ cls := "DateValeModel", name := "bedFor", desc := "(II)I" } : Jvm.MethodName) prog_23_method_60_code (5 : Nat) (Option.some Jvm.ClassFile.FieldType.int)) ∈ lw_all := lw_g (lw_at lw_m8 94 rfl) rfl
theorem q1886 : (Jvm.Cond.methodLink "DateValeModel" (304 : Nat) ({ cls := "DateValeModel", name := "doesHold", desc := "(III)Z" } : Jvm.MethodName)) ∈ lw_all := lw_g (lw_at lw_m8 95 rfl) rfl
theorem q1887 : (Jvm.Cond.privateMethod ({ cls := "DateValeModel", name := "doesHold", desc := "(III)Z" } : Jvm.MethodName)) ∈ lw_tbl := lw_at lw_m8 96 rfl
theorem q1888 : (Jvm.Cond.instanceMethod ({ cls := "DateValeModel", name := "doesHold", desc := "(III)Z" } : Jvm.MethodName)) ∈ lw_all := lw_g (lw_at lw_m8 97 rfl) rfl
theorem q1889 : (Jvm.Cond.code ({ cls := "DateValeModel", name := "doesHold", desc := "(III)Z" } : Jvm.MethodName) prog_23_method_55_code (4 : Nat) (Option.some Jvm.ClassFile.FieldType.boolean)) ∈ lw_all := lw_g (lw_at lw_m8 98 rfl) rfl
theorem q1890 : (Jvm.Cond.methodLink "DateValeModel" (316 : Nat) ({ cls := "DateValeModel", name := "bits", desc := "(I)I" } : Jvm.MethodName)) ∈ lw_all := lw_g (lw_at lw_m8 99 rfl) rfl
theorem q1891 : (Jvm.Cond.static ({ cls := "DateValeModel", name := "bits", desc := "(I)I" } : Jvm.MethodName)) ∈ lw_all := lw_g (lw_at lw_m8 100 rfl) rfl
theorem q1892 : (Jvm.Cond.code ({ cls := "DateValeModel", name := "bits", desc := "(I)I" } : Jvm.MethodName) prog_23_method_56_code (3 : Nat) (Option.some Jvm.ClassFile.FieldType.int)) ∈ lw_all := lw_g (lw_at lw_m8 101 rfl) rfl
theorem q1893 : (Jvm.Cond.methodLink "DateValeModel" (319 : Nat) ({ cls := "DateValeModel", name := "worthAt", desc := "(I)I" } : Jvm.MethodName)) ∈ lw_all := lw_g (lw_at lw_m8 102 rfl) rfl
theorem q1894 : (Jvm.Cond.privateMethod ({ cls := "DateValeModel", name := "worthAt", desc := "(I)I" } : Jvm.MethodName)) ∈ lw_tbl := lw_at lw_m8 103 rfl
theorem q1895 : (Jvm.Cond.instanceMethod ({ cls := "DateValeModel", name := "worthAt", desc := "(I)I" } : Jvm.MethodName)) ∈ lw_all := lw_g (lw_at lw_m8 104 rfl) rfl
theorem q1896 : (Jvm.Cond.code ({ cls := "DateValeModel", name := "worthAt", desc := "(I)I" } : Jvm.MethodName) prog_23_method_39_code (5 : Nat) (Option.some Jvm.ClassFile.FieldType.int)) ∈ lw_all := lw_g (lw_at lw_m8 105 rfl) rfl
theorem q1897 : (Jvm.Cond.methodLink "DateValeModel" (267 : Nat) ({ cls := "DateValeModel", name := "both", desc := "(III)I" } : Jvm.MethodName)) ∈ lw_all := lw_g (lw_at lw_m8 106 rfl) rfl
theorem q1898 : (Jvm.Cond.static ({ cls := "DateValeModel", name := "both", desc := "(III)I" } : Jvm.MethodName)) ∈ lw_all := lw_g (lw_at lw_m8 107 rfl) rfl
theorem q1899 : (Jvm.Cond.code ({ cls := "DateValeModel", name := "both", desc := "(III)I" } : Jvm.MethodName) prog_23_method_40_code (3 : Nat) (Option.some Jvm.ClassFile.FieldType.int)) ∈ lw_all := lw_g (lw_at lw_m8 108 rfl) rfl
theorem q1901 : (Jvm.Cond.instanceMethod ({ cls := "DateValeModel", name := "move", desc := "(II)Z" } : Jvm.MethodName)) ∈ lw_all := lw_g (lw_at lw_m8 110 rfl) rfl
theorem q1902 : (Jvm.Cond.selects "DateValeModel" ({ cls := "DateValeModel", name := "move", desc := "(II)Z" } : Jvm.MethodName) ({ cls := "DateValeModel", name := "move", desc := "(II)Z" } : Jvm.MethodName)) ∈ lw_all := lw_g (lw_at lw_m8 111 rfl) rfl
theorem q1903 : (Jvm.Cond.code ({ cls := "DateValeModel", name := "move", desc := "(II)Z" } : Jvm.MethodName) prog_23_method_68_code (3 : Nat) (Option.some Jvm.ClassFile.FieldType.boolean)) ∈ lw_all := lw_g (lw_at lw_m8 112 rfl) rfl
theorem q1904 : (Jvm.Cond.methodLink "DateValeModel" (347 : Nat) ({ cls := "DateValeModel", name := "mayMove", desc := "(III)Z" } : Jvm.MethodName)) ∈ lw_all := lw_g (lw_at lw_m8 113 rfl) rfl
theorem q1905 : (Jvm.Cond.privateMethod ({ cls := "DateValeModel", name := "mayMove", desc := "(III)Z" } : Jvm.MethodName)) ∈ lw_tbl := lw_at lw_m8 114 rfl
theorem q1906 : (Jvm.Cond.instanceMethod ({ cls := "DateValeModel", name := "mayMove", desc := "(III)Z" } : Jvm.MethodName)) ∈ lw_all := lw_g (lw_at lw_m8 115 rfl) rfl
theorem q1907 : (Jvm.Cond.code ({ cls := "DateValeModel", name := "mayMove", desc := "(III)Z" } : Jvm.MethodName) prog_23_method_67_code (4 : Nat) (Option.some Jvm.ClassFile.FieldType.boolean)) ∈ lw_all := lw_g (lw_at lw_m8 116 rfl) rfl
theorem q1909 : (Jvm.Cond.instanceMethod ({ cls := "DateValeModel", name := "send", desc := "(I)Z" } : Jvm.MethodName)) ∈ lw_all := lw_g (lw_at lw_m8 118 rfl) rfl
theorem q1910 : (Jvm.Cond.selects "DateValeModel" ({ cls := "DateValeModel", name := "send", desc := "(I)Z" } : Jvm.MethodName) ({ cls := "DateValeModel", name := "send", desc := "(I)Z" } : Jvm.MethodName)) ∈ lw_all := lw_g (lw_at lw_m8 119 rfl) rfl
theorem q1911 : (Jvm.Cond.code ({ cls := "DateValeModel", name := "send", desc := "(I)Z" } : Jvm.MethodName) prog_23_method_69_code (2 : Nat) (Option.some Jvm.ClassFile.FieldType.boolean)) ∈ lw_all := lw_g (lw_at lw_m8 120 rfl) rfl
theorem q1913 : (Jvm.Cond.instanceMethod ({ cls := "DateValeModel", name := "build", desc := "(I)I" } : Jvm.MethodName)) ∈ lw_all := lw_g (lw_at lw_m8 122 rfl) rfl
theorem q1914 : (Jvm.Cond.selects "DateValeModel" ({ cls := "DateValeModel", name := "build", desc := "(I)I" } : Jvm.MethodName) ({ cls := "DateValeModel", name := "build", desc := "(I)I" } : Jvm.MethodName)) ∈ lw_all := lw_g (lw_at lw_m8 123 rfl) rfl
theorem q1915 : (Jvm.Cond.code ({ cls := "DateValeModel", name := "build", desc := "(I)I" } : Jvm.MethodName) prog_23_method_70_code (2 : Nat) (Option.some Jvm.ClassFile.FieldType.int)) ∈ lw_all := lw_g (lw_at lw_m8 124 rfl) rfl
theorem q1917 : (Jvm.Cond.instanceMethod ({ cls := "DateValeModel", name := "undo", desc := "()Z" } : Jvm.MethodName)) ∈ lw_all := lw_g (lw_at lw_m8 126 rfl) rfl
theorem q1918 : (Jvm.Cond.selects "DateValeModel" ({ cls := "DateValeModel", name := "undo", desc := "()Z" } : Jvm.MethodName) ({ cls := "DateValeModel", name := "undo", desc := "()Z" } : Jvm.MethodName)) ∈ lw_all := lw_g (lw_at lw_m8 127 rfl) rfl
theorem q1919 : (Jvm.Cond.code ({ cls := "DateValeModel", name := "undo", desc := "()Z" } : Jvm.MethodName) prog_23_method_71_code (1 : Nat) (Option.some Jvm.ClassFile.FieldType.boolean)) ∈ lw_all := lw_g (lw_at lw_m8 128 rfl) rfl
theorem q1921 : (Jvm.Cond.instanceMethod ({ cls := "DateValeModel", name := "judged", desc := "(I)I" } : Jvm.MethodName)) ∈ lw_all := lw_g (lw_at lw_m8 130 rfl) rfl
theorem q1922 : (Jvm.Cond.selects "DateValeModel" ({ cls := "DateValeModel", name := "judged", desc := "(I)I" } : Jvm.MethodName) ({ cls := "DateValeModel", name := "judged", desc := "(I)I" } : Jvm.MethodName)) ∈ lw_all := lw_g (lw_at lw_m8 131 rfl) rfl
theorem q1923 : (Jvm.Cond.code ({ cls := "DateValeModel", name := "judged", desc := "(I)I" } : Jvm.MethodName) prog_23_method_72_code (9 : Nat) (Option.some Jvm.ClassFile.FieldType.int)) ∈ lw_all := lw_g (lw_at lw_m8 132 rfl) rfl
theorem q1925 : (Jvm.Cond.instanceMethod ({ cls := "DateValeModel", name := "where", desc := "(II)I" } : Jvm.MethodName)) ∈ lw_all := lw_g (lw_at lw_m8 134 rfl) rfl
theorem q1926 : (Jvm.Cond.selects "DateValeModel" ({ cls := "DateValeModel", name := "where", desc := "(II)I" } : Jvm.MethodName) ({ cls := "DateValeModel", name := "where", desc := "(II)I" } : Jvm.MethodName)) ∈ lw_all := lw_g (lw_at lw_m8 135 rfl) rfl
theorem q1927 : (Jvm.Cond.code ({ cls := "DateValeModel", name := "where", desc := "(II)I" } : Jvm.MethodName) prog_23_method_74_code (4 : Nat) (Option.some Jvm.ClassFile.FieldType.int)) ∈ lw_all := lw_g (lw_at lw_m8 136 rfl) rfl
theorem q1928 : (Jvm.Cond.methodLink "DateValeModel" (350 : Nat) ({ cls := "DateValeModel", name := "triesNow", desc := "()V" } : Jvm.MethodName)) ∈ lw_all := lw_g (lw_at lw_m8 137 rfl) rfl
theorem q1929 : (Jvm.Cond.privateMethod ({ cls := "DateValeModel", name := "triesNow", desc := "()V" } : Jvm.MethodName)) ∈ lw_tbl := lw_at lw_m8 138 rfl
theorem q1930 : (Jvm.Cond.instanceMethod ({ cls := "DateValeModel", name := "triesNow", desc := "()V" } : Jvm.MethodName)) ∈ lw_all := lw_g (lw_at lw_m8 139 rfl) rfl
theorem q1931 : (Jvm.Cond.code ({ cls := "DateValeModel", name := "triesNow", desc := "()V" } : Jvm.MethodName) prog_23_method_73_code (1 : Nat) (Option.none : Option Jvm.ClassFile.FieldType)) ∈ lw_all := lw_g (lw_at lw_m8 140 rfl) rfl
theorem q1933 : (Jvm.Cond.instanceMethod ({ cls := "DateValeModel", name := "next", desc := "(I)I" } : Jvm.MethodName)) ∈ lw_all := lw_g (lw_at lw_m8 142 rfl) rfl
theorem q1934 : (Jvm.Cond.selects "DateValeModel" ({ cls := "DateValeModel", name := "next", desc := "(I)I" } : Jvm.MethodName) ({ cls := "DateValeModel", name := "next", desc := "(I)I" } : Jvm.MethodName)) ∈ lw_all := lw_g (lw_at lw_m8 143 rfl) rfl
theorem q1935 : (Jvm.Cond.code ({ cls := "DateValeModel", name := "next", desc := "(I)I" } : Jvm.MethodName) prog_23_method_75_code (3 : Nat) (Option.some Jvm.ClassFile.FieldType.int)) ∈ lw_all := lw_g (lw_at lw_m8 144 rfl) rfl
theorem q1937 : (Jvm.Cond.instanceMethod ({ cls := "DateValeModel", name := "gone", desc := "(I)I" } : Jvm.MethodName)) ∈ lw_all := lw_g (lw_at lw_m8 146 rfl) rfl
theorem q1938 : (Jvm.Cond.selects "DateValeModel" ({ cls := "DateValeModel", name := "gone", desc := "(I)I" } : Jvm.MethodName) ({ cls := "DateValeModel", name := "gone", desc := "(I)I" } : Jvm.MethodName)) ∈ lw_all := lw_g (lw_at lw_m8 147 rfl) rfl
theorem q1939 : (Jvm.Cond.code ({ cls := "DateValeModel", name := "gone", desc := "(I)I" } : Jvm.MethodName) prog_23_method_76_code (3 : Nat) (Option.some Jvm.ClassFile.FieldType.int)) ∈ lw_all := lw_g (lw_at lw_m8 148 rfl) rfl
theorem q1941 : (Jvm.Cond.instanceMethod ({ cls := "DateValeModel", name := "crowd", desc := "()I" } : Jvm.MethodName)) ∈ lw_all := lw_g (lw_at lw_m8 150 rfl) rfl
theorem q1942 : (Jvm.Cond.selects "DateValeModel" ({ cls := "DateValeModel", name := "crowd", desc := "()I" } : Jvm.MethodName) ({ cls := "DateValeModel", name := "crowd", desc := "()I" } : Jvm.MethodName)) ∈ lw_all := lw_g (lw_at lw_m8 151 rfl) rfl
theorem q1943 : (Jvm.Cond.code ({ cls := "DateValeModel", name := "crowd", desc := "()I" } : Jvm.MethodName) prog_23_method_77_code (5 : Nat) (Option.some Jvm.ClassFile.FieldType.int)) ∈ lw_all := lw_g (lw_at lw_m8 152 rfl) rfl
theorem q1944 : (Jvm.Cond.methodLink "DateValeModel" (353 : Nat) ({ cls := "DateValeModel", name := "somewhere", desc := "(I)I" } : Jvm.MethodName)) ∈ lw_all := lw_g (lw_at lw_m8 153 rfl) rfl
theorem q1945 : (Jvm.Cond.privateMethod ({ cls := "DateValeModel", name := "somewhere", desc := "(I)I" } : Jvm.MethodName)) ∈ lw_tbl := lw_at lw_m8 154 rfl
theorem q1946 : (Jvm.Cond.instanceMethod ({ cls := "DateValeModel", name := "somewhere", desc := "(I)I" } : Jvm.MethodName)) ∈ lw_all := lw_g (lw_at lw_m8 155 rfl) rfl
theorem q1947 : (Jvm.Cond.code ({ cls := "DateValeModel", name := "somewhere", desc := "(I)I" } : Jvm.MethodName) prog_23_method_57_code (4 : Nat) (Option.some Jvm.ClassFile.FieldType.int)) ∈ lw_all := lw_g (lw_at lw_m8 156 rfl) rfl
theorem q1949 : (Jvm.Cond.instanceMethod ({ cls := "DateValeModel", name := "refused", desc := "(I)I" } : Jvm.MethodName)) ∈ lw_all := lw_g (lw_at lw_m8 158 rfl) rfl
theorem q1950 : (Jvm.Cond.selects "DateValeModel" ({ cls := "DateValeModel", name := "refused", desc := "(I)I" } : Jvm.MethodName) ({ cls := "DateValeModel", name := "refused", desc := "(I)I" } : Jvm.MethodName)) ∈ lw_all := lw_g (lw_at lw_m8 159 rfl) rfl
theorem q1951 : (Jvm.Cond.code ({ cls := "DateValeModel", name := "refused", desc := "(I)I" } : Jvm.MethodName) prog_23_method_78_code (4 : Nat) (Option.some Jvm.ClassFile.FieldType.int)) ∈ lw_all := lw_g (lw_at lw_m8 160 rfl) rfl
theorem q1953 : (Jvm.Cond.instanceMethod ({ cls := "DateValeModel", name := "meets", desc := "(II)I" } : Jvm.MethodName)) ∈ lw_all := lw_g (lw_at lw_m8 162 rfl) rfl
theorem q1954 : (Jvm.Cond.selects "DateValeModel" ({ cls := "DateValeModel", name := "meets", desc := "(II)I" } : Jvm.MethodName) ({ cls := "DateValeModel", name := "meets", desc := "(II)I" } : Jvm.MethodName)) ∈ lw_all := lw_g (lw_at lw_m8 163 rfl) rfl
theorem q1955 : (Jvm.Cond.code ({ cls := "DateValeModel", name := "meets", desc := "(II)I" } : Jvm.MethodName) prog_23_method_79_code (4 : Nat) (Option.some Jvm.ClassFile.FieldType.int)) ∈ lw_all := lw_g (lw_at lw_m8 164 rfl) rfl
theorem q1957 : (Jvm.Cond.instanceMethod ({ cls := "DateValeModel", name := "beds", desc := "(II)I" } : Jvm.MethodName)) ∈ lw_all := lw_g (lw_at lw_m8 166 rfl) rfl
theorem q1958 : (Jvm.Cond.selects "DateValeModel" ({ cls := "DateValeModel", name := "beds", desc := "(II)I" } : Jvm.MethodName) ({ cls := "DateValeModel", name := "beds", desc := "(II)I" } : Jvm.MethodName)) ∈ lw_all := lw_g (lw_at lw_m8 167 rfl) rfl
theorem q1959 : (Jvm.Cond.code ({ cls := "DateValeModel", name := "beds", desc := "(II)I" } : Jvm.MethodName) prog_23_method_82_code (10 : Nat) (Option.some Jvm.ClassFile.FieldType.int)) ∈ lw_all := lw_g (lw_at lw_m8 168 rfl) rfl
theorem q1960 : (Jvm.Cond.methodLink "DateValeModel" (356 : Nat) ({ cls := "DateValeModel", name := "builtIn", desc := "(II)I" } : Jvm.MethodName)) ∈ lw_all := lw_g (lw_at lw_m8 169 rfl) rfl
theorem q1961 : (Jvm.Cond.privateMethod ({ cls := "DateValeModel", name := "builtIn", desc := "(II)I" } : Jvm.MethodName)) ∈ lw_tbl := lw_at lw_m8 170 rfl
theorem q1962 : (Jvm.Cond.instanceMethod ({ cls := "DateValeModel", name := "builtIn", desc := "(II)I" } : Jvm.MethodName)) ∈ lw_all := lw_g (lw_at lw_m8 171 rfl) rfl
theorem q1963 : (Jvm.Cond.code ({ cls := "DateValeModel", name := "builtIn", desc := "(II)I" } : Jvm.MethodName) prog_23_method_81_code (5 : Nat) (Option.some Jvm.ClassFile.FieldType.int)) ∈ lw_all := lw_g (lw_at lw_m8 172 rfl) rfl
theorem q1964 : (Jvm.Cond.methodLink "DateValeModel" (359 : Nat) ({ cls := "DateValeModel", name := "isCalm", desc := "(I)Z" } : Jvm.MethodName)) ∈ lw_all := lw_g (lw_at lw_m8 173 rfl) rfl
theorem q1965 : (Jvm.Cond.privateMethod ({ cls := "DateValeModel", name := "isCalm", desc := "(I)Z" } : Jvm.MethodName)) ∈ lw_tbl := lw_at lw_m8 174 rfl
theorem q1966 : (Jvm.Cond.instanceMethod ({ cls := "DateValeModel", name := "isCalm", desc := "(I)Z" } : Jvm.MethodName)) ∈ lw_all := lw_g (lw_at lw_m8 175 rfl) rfl
theorem q1967 : (Jvm.Cond.code ({ cls := "DateValeModel", name := "isCalm", desc := "(I)Z" } : Jvm.MethodName) prog_23_method_80_code (4 : Nat) (Option.some Jvm.ClassFile.FieldType.boolean)) ∈ lw_all := lw_g (lw_at lw_m8 176 rfl) rfl
theorem q1969 : (Jvm.Cond.instanceMethod ({ cls := "DateValeModel", name := "laying", desc := "()I" } : Jvm.MethodName)) ∈ lw_all := lw_g (lw_at lw_m8 178 rfl) rfl
theorem q1970 : (Jvm.Cond.selects "DateValeModel" ({ cls := "DateValeModel", name := "laying", desc := "()I" } : Jvm.MethodName) ({ cls := "DateValeModel", name := "laying", desc := "()I" } : Jvm.MethodName)) ∈ lw_all := lw_g (lw_at lw_m8 179 rfl) rfl
theorem q1971 : (Jvm.Cond.code ({ cls := "DateValeModel", name := "laying", desc := "()I" } : Jvm.MethodName) prog_23_method_84_code (2 : Nat) (Option.some Jvm.ClassFile.FieldType.int)) ∈ lw_all := lw_g (lw_at lw_m8 180 rfl) rfl
theorem q1972 : (Jvm.Cond.methodLink "DateValeModel" (362 : Nat) ({ cls := "DateValeModel", name := "laysFrom", desc := "(I)I" } : Jvm.MethodName)) ∈ lw_all := lw_g (lw_at lw_m8 181 rfl) rfl
theorem q1973 : (Jvm.Cond.privateMethod ({ cls := "DateValeModel", name := "laysFrom", desc := "(I)I" } : Jvm.MethodName)) ∈ lw_tbl := lw_at lw_m8 182 rfl
theorem q1974 : (Jvm.Cond.instanceMethod ({ cls := "DateValeModel", name := "laysFrom", desc := "(I)I" } : Jvm.MethodName)) ∈ lw_all := lw_g (lw_at lw_m8 183 rfl) rfl
theorem q1975 : (Jvm.Cond.code ({ cls := "DateValeModel", name := "laysFrom", desc := "(I)I" } : Jvm.MethodName) prog_23_method_83_code (4 : Nat) (Option.some Jvm.ClassFile.FieldType.int)) ∈ lw_all := lw_g (lw_at lw_m8 184 rfl) rfl
theorem q1977 : (Jvm.Cond.instanceMethod ({ cls := "DateValeModel", name := "apart", desc := "()I" } : Jvm.MethodName)) ∈ lw_all := lw_g (lw_at lw_m8 186 rfl) rfl
theorem q1978 : (Jvm.Cond.selects "DateValeModel" ({ cls := "DateValeModel", name := "apart", desc := "()I" } : Jvm.MethodName) ({ cls := "DateValeModel", name := "apart", desc := "()I" } : Jvm.MethodName)) ∈ lw_all := lw_g (lw_at lw_m8 187 rfl) rfl
theorem q1979 : (Jvm.Cond.code ({ cls := "DateValeModel", name := "apart", desc := "()I" } : Jvm.MethodName) prog_23_method_86_code (2 : Nat) (Option.some Jvm.ClassFile.FieldType.int)) ∈ lw_all := lw_g (lw_at lw_m8 188 rfl) rfl
theorem q1980 : (Jvm.Cond.methodLink "DateValeModel" (365 : Nat) ({ cls := "DateValeModel", name := "isApart", desc := "(II)Z" } : Jvm.MethodName)) ∈ lw_all := lw_g (lw_at lw_m8 189 rfl) rfl
theorem q1981 : (Jvm.Cond.privateMethod ({ cls := "DateValeModel", name := "isApart", desc := "(II)Z" } : Jvm.MethodName)) ∈ lw_tbl := lw_at lw_m8 190 rfl
theorem q1982 : (Jvm.Cond.instanceMethod ({ cls := "DateValeModel", name := "isApart", desc := "(II)Z" } : Jvm.MethodName)) ∈ lw_all := lw_g (lw_at lw_m8 191 rfl) rfl
theorem q1983 : (Jvm.Cond.code ({ cls := "DateValeModel", name := "isApart", desc := "(II)Z" } : Jvm.MethodName) prog_23_method_85_code (7 : Nat) (Option.some Jvm.ClassFile.FieldType.boolean)) ∈ lw_all := lw_g (lw_at lw_m8 192 rfl) rfl
theorem q1985 : (Jvm.Cond.instanceMethod ({ cls := "DateValeModel", name := "defer", desc := "(I)I" } : Jvm.MethodName)) ∈ lw_all := lw_g (lw_at lw_m8 194 rfl) rfl
theorem q1986 : (Jvm.Cond.selects "DateValeModel" ({ cls := "DateValeModel", name := "defer", desc := "(I)I" } : Jvm.MethodName) ({ cls := "DateValeModel", name := "defer", desc := "(I)I" } : Jvm.MethodName)) ∈ lw_all := lw_g (lw_at lw_m8 195 rfl) rfl
theorem q1987 : (Jvm.Cond.code ({ cls := "DateValeModel", name := "defer", desc := "(I)I" } : Jvm.MethodName) prog_23_method_87_code (7 : Nat) (Option.some Jvm.ClassFile.FieldType.int)) ∈ lw_all := lw_g (lw_at lw_m8 196 rfl) rfl
theorem q1989 : (Jvm.Cond.instanceMethod ({ cls := "DateValeModel", name := "spare", desc := "()I" } : Jvm.MethodName)) ∈ lw_all := lw_g (lw_at lw_m8 198 rfl) rfl
theorem q1990 : (Jvm.Cond.selects "DateValeModel" ({ cls := "DateValeModel", name := "spare", desc := "()I" } : Jvm.MethodName) ({ cls := "DateValeModel", name := "spare", desc := "()I" } : Jvm.MethodName)) ∈ lw_all := lw_g (lw_at lw_m8 199 rfl) rfl
theorem q1991 : (Jvm.Cond.code ({ cls := "DateValeModel", name := "spare", desc := "()I" } : Jvm.MethodName) prog_23_method_88_code (3 : Nat) (Option.some Jvm.ClassFile.FieldType.int)) ∈ lw_all := lw_g (lw_at lw_m8 200 rfl) rfl
theorem q1993 : (Jvm.Cond.instanceMethod ({ cls := "DateValeModel", name := "see", desc := "(II)Z" } : Jvm.MethodName)) ∈ lw_all := lw_g (lw_at lw_m8 202 rfl) rfl
theorem q1994 : (Jvm.Cond.selects "DateValeModel" ({ cls := "DateValeModel", name := "see", desc := "(II)Z" } : Jvm.MethodName) ({ cls := "DateValeModel", name := "see", desc := "(II)Z" } : Jvm.MethodName)) ∈ lw_all := lw_g (lw_at lw_m8 203 rfl) rfl
theorem q1995 : (Jvm.Cond.code ({ cls := "DateValeModel", name := "see", desc := "(II)Z" } : Jvm.MethodName) prog_23_method_89_code (4 : Nat) (Option.some Jvm.ClassFile.FieldType.boolean)) ∈ lw_all := lw_g (lw_at lw_m8 204 rfl) rfl
theorem q1997 : (Jvm.Cond.instanceMethod ({ cls := "DateValeModel", name := "who", desc := "()I" } : Jvm.MethodName)) ∈ lw_all := lw_g (lw_at lw_m8 206 rfl) rfl
theorem q1998 : (Jvm.Cond.selects "DateValeModel" ({ cls := "DateValeModel", name := "who", desc := "()I" } : Jvm.MethodName) ({ cls := "DateValeModel", name := "who", desc := "()I" } : Jvm.MethodName)) ∈ lw_all := lw_g (lw_at lw_m8 207 rfl) rfl
theorem q1999 : (Jvm.Cond.code ({ cls := "DateValeModel", name := "who", desc := "()I" } : Jvm.MethodName) prog_23_method_91_code (1 : Nat) (Option.some Jvm.ClassFile.FieldType.int)) ∈ lw_all := lw_g (lw_at lw_m8 208 rfl) rfl
theorem q2000 : (Jvm.Cond.methodLink "DateValeModel" (368 : Nat) ({ cls := "DateValeModel", name := "whoNow", desc := "()I" } : Jvm.MethodName)) ∈ lw_all := lw_g (lw_at lw_m8 209 rfl) rfl
theorem q2001 : (Jvm.Cond.privateMethod ({ cls := "DateValeModel", name := "whoNow", desc := "()I" } : Jvm.MethodName)) ∈ lw_tbl := lw_at lw_m8 210 rfl
theorem q2002 : (Jvm.Cond.instanceMethod ({ cls := "DateValeModel", name := "whoNow", desc := "()I" } : Jvm.MethodName)) ∈ lw_all := lw_g (lw_at lw_m8 211 rfl) rfl
theorem q2003 : (Jvm.Cond.code ({ cls := "DateValeModel", name := "whoNow", desc := "()I" } : Jvm.MethodName) prog_23_method_90_code (6 : Nat) (Option.some Jvm.ClassFile.FieldType.int)) ∈ lw_all := lw_g (lw_at lw_m8 212 rfl) rfl
theorem q2005 : (Jvm.Cond.instanceMethod ({ cls := "DateValeModel", name := "look", desc := "()I" } : Jvm.MethodName)) ∈ lw_all := lw_g (lw_at lw_m8 214 rfl) rfl
theorem q2006 : (Jvm.Cond.selects "DateValeModel" ({ cls := "DateValeModel", name := "look", desc := "()I" } : Jvm.MethodName) ({ cls := "DateValeModel", name := "look", desc := "()I" } : Jvm.MethodName)) ∈ lw_all := lw_g (lw_at lw_m8 215 rfl) rfl
theorem q2007 : (Jvm.Cond.code ({ cls := "DateValeModel", name := "look", desc := "()I" } : Jvm.MethodName) prog_23_method_92_code (8 : Nat) (Option.some Jvm.ClassFile.FieldType.int)) ∈ lw_all := lw_g (lw_at lw_m8 216 rfl) rfl
theorem q2009 : (Jvm.Cond.instanceMethod ({ cls := "DateValeModel", name := "through", desc := "(II)I" } : Jvm.MethodName)) ∈ lw_all := lw_g (lw_at lw_m8 218 rfl) rfl
theorem q2010 : (Jvm.Cond.selects "DateValeModel" ({ cls := "DateValeModel", name := "through", desc := "(II)I" } : Jvm.MethodName) ({ cls := "DateValeModel", name := "through", desc := "(II)I" } : Jvm.MethodName)) ∈ lw_all := lw_g (lw_at lw_m8 219 rfl) rfl
theorem q2011 : (Jvm.Cond.code ({ cls := "DateValeModel", name := "through", desc := "(II)I" } : Jvm.MethodName) prog_23_method_93_code (7 : Nat) (Option.some Jvm.ClassFile.FieldType.int)) ∈ lw_all := lw_g (lw_at lw_m8 220 rfl) rfl
theorem q2013 : (Jvm.Cond.instanceMethod ({ cls := "DateValeModel", name := "quiet", desc := "()I" } : Jvm.MethodName)) ∈ lw_all := lw_g (lw_at lw_m8 222 rfl) rfl
theorem q2014 : (Jvm.Cond.selects "DateValeModel" ({ cls := "DateValeModel", name := "quiet", desc := "()I" } : Jvm.MethodName) ({ cls := "DateValeModel", name := "quiet", desc := "()I" } : Jvm.MethodName)) ∈ lw_all := lw_g (lw_at lw_m8 223 rfl) rfl
theorem q2015 : (Jvm.Cond.code ({ cls := "DateValeModel", name := "quiet", desc := "()I" } : Jvm.MethodName) prog_23_method_94_code (3 : Nat) (Option.some Jvm.ClassFile.FieldType.int)) ∈ lw_all := lw_g (lw_at lw_m8 224 rfl) rfl
theorem q2017 : (Jvm.Cond.instanceMethod ({ cls := "DateValeModel", name := "peace", desc := "()I" } : Jvm.MethodName)) ∈ lw_all := lw_g (lw_at lw_m8 226 rfl) rfl
theorem q2018 : (Jvm.Cond.selects "DateValeModel" ({ cls := "DateValeModel", name := "peace", desc := "()I" } : Jvm.MethodName) ({ cls := "DateValeModel", name := "peace", desc := "()I" } : Jvm.MethodName)) ∈ lw_all := lw_g (lw_at lw_m8 227 rfl) rfl
theorem q2019 : (Jvm.Cond.code ({ cls := "DateValeModel", name := "peace", desc := "()I" } : Jvm.MethodName) prog_23_method_95_code (4 : Nat) (Option.some Jvm.ClassFile.FieldType.int)) ∈ lw_all := lw_g (lw_at lw_m8 228 rfl) rfl
theorem q2021 : (Jvm.Cond.instanceMethod ({ cls := "DateValeModel", name := "eldest", desc := "(I)I" } : Jvm.MethodName)) ∈ lw_all := lw_g (lw_at lw_m8 230 rfl) rfl
theorem q2022 : (Jvm.Cond.selects "DateValeModel" ({ cls := "DateValeModel", name := "eldest", desc := "(I)I" } : Jvm.MethodName) ({ cls := "DateValeModel", name := "eldest", desc := "(I)I" } : Jvm.MethodName)) ∈ lw_all := lw_g (lw_at lw_m8 231 rfl) rfl
theorem q2023 : (Jvm.Cond.code ({ cls := "DateValeModel", name := "eldest", desc := "(I)I" } : Jvm.MethodName) prog_23_method_96_code (4 : Nat) (Option.some Jvm.ClassFile.FieldType.int)) ∈ lw_all := lw_g (lw_at lw_m8 232 rfl) rfl
theorem q2025 : (Jvm.Cond.instanceMethod ({ cls := "DateValeModel", name := "loudest", desc := "()I" } : Jvm.MethodName)) ∈ lw_all := lw_g (lw_at lw_m8 234 rfl) rfl
theorem q2026 : (Jvm.Cond.selects "DateValeModel" ({ cls := "DateValeModel", name := "loudest", desc := "()I" } : Jvm.MethodName) ({ cls := "DateValeModel", name := "loudest", desc := "()I" } : Jvm.MethodName)) ∈ lw_all := lw_g (lw_at lw_m8 235 rfl) rfl
theorem q2027 : (Jvm.Cond.code ({ cls := "DateValeModel", name := "loudest", desc := "()I" } : Jvm.MethodName) prog_23_method_97_code (4 : Nat) (Option.some Jvm.ClassFile.FieldType.int)) ∈ lw_all := lw_g (lw_at lw_m8 236 rfl) rfl
theorem q2029 : (Jvm.Cond.instanceMethod ({ cls := "DateValeModel", name := "chance", desc := "(III)I" } : Jvm.MethodName)) ∈ lw_all := lw_g (lw_at lw_m8 238 rfl) rfl
theorem q2030 : (Jvm.Cond.selects "DateValeModel" ({ cls := "DateValeModel", name := "chance", desc := "(III)I" } : Jvm.MethodName) ({ cls := "DateValeModel", name := "chance", desc := "(III)I" } : Jvm.MethodName)) ∈ lw_all := lw_g (lw_at lw_m8 239 rfl) rfl
theorem q2031 : (Jvm.Cond.code ({ cls := "DateValeModel", name := "chance", desc := "(III)I" } : Jvm.MethodName) prog_23_method_98_code (15 : Nat) (Option.some Jvm.ClassFile.FieldType.int)) ∈ lw_all := lw_g (lw_at lw_m9 0 rfl) rfl
theorem q2032 : (Jvm.Cond.constantLong "DateValeModel" (371 : Nat) (1000000 : Int64)) ∈ lw_all := lw_g (lw_at lw_m9 1 rfl) rfl
theorem q2034 : (Jvm.Cond.instanceMethod ({ cls := "DateValeModel", name := "rests", desc := "(IIII)I" } : Jvm.MethodName)) ∈ lw_all := lw_g (lw_at lw_m9 3 rfl) rfl
theorem q2035 : (Jvm.Cond.selects "DateValeModel" ({ cls := "DateValeModel", name := "rests", desc := "(IIII)I" } : Jvm.MethodName) ({ cls := "DateValeModel", name := "rests", desc := "(IIII)I" } : Jvm.MethodName)) ∈ lw_all := lw_g (lw_at lw_m9 4 rfl) rfl
theorem q2036 : (Jvm.Cond.code ({ cls := "DateValeModel", name := "rests", desc := "(IIII)I" } : Jvm.MethodName) prog_23_method_100_code (12 : Nat) (Option.some Jvm.ClassFile.FieldType.int)) ∈ lw_all := lw_g (lw_at lw_m9 5 rfl) rfl
theorem q2037 : (Jvm.Cond.methodLink "DateValeModel" (373 : Nat) ({ cls := "DateValeModel", name := "getsBy", desc := "(IIIII)I" } : Jvm.MethodName)) ∈ lw_all := lw_g (lw_at lw_m9 6 rfl) rfl
theorem q2038 : (Jvm.Cond.static ({ cls := "DateValeModel", name := "getsBy", desc := "(IIIII)I" } : Jvm.MethodName)) ∈ lw_all := lw_g (lw_at lw_m9 7 rfl) rfl
theorem q2039 : (Jvm.Cond.code ({ cls := "DateValeModel", name := "getsBy", desc := "(IIIII)I" } : Jvm.MethodName) prog_23_method_99_code (5 : Nat) (Option.some Jvm.ClassFile.FieldType.int)) ∈ lw_all := lw_g (lw_at lw_m9 8 rfl) rfl
theorem q2041 : (Jvm.Cond.instanceMethod ({ cls := "DateValeModel", name := "ages", desc := "(III)I" } : Jvm.MethodName)) ∈ lw_all := lw_g (lw_at lw_m9 10 rfl) rfl
theorem q2042 : (Jvm.Cond.selects "DateValeModel" ({ cls := "DateValeModel", name := "ages", desc := "(III)I" } : Jvm.MethodName) ({ cls := "DateValeModel", name := "ages", desc := "(III)I" } : Jvm.MethodName)) ∈ lw_all := lw_g (lw_at lw_m9 11 rfl) rfl
theorem q2043 : (Jvm.Cond.code ({ cls := "DateValeModel", name := "ages", desc := "(III)I" } : Jvm.MethodName) prog_23_method_103_code (7 : Nat) (Option.some Jvm.ClassFile.FieldType.int)) ∈ lw_all := lw_g (lw_at lw_m9 12 rfl) rfl
theorem q2044 : (Jvm.Cond.methodLink "DateValeModel" (392 : Nat) ({ cls := "DateValeModel", name := "drawsDeed", desc := "()V" } : Jvm.MethodName)) ∈ lw_all := lw_g (lw_at lw_m9 13 rfl) rfl
theorem q2045 : (Jvm.Cond.privateMethod ({ cls := "DateValeModel", name := "drawsDeed", desc := "()V" } : Jvm.MethodName)) ∈ lw_tbl := lw_at lw_m9 14 rfl
theorem q2046 : (Jvm.Cond.instanceMethod ({ cls := "DateValeModel", name := "drawsDeed", desc := "()V" } : Jvm.MethodName)) ∈ lw_all := lw_g (lw_at lw_m9 15 rfl) rfl
theorem q2047 : (Jvm.Cond.code ({ cls := "DateValeModel", name := "drawsDeed", desc := "()V" } : Jvm.MethodName) prog_23_method_102_code (4 : Nat) (Option.none : Option Jvm.ClassFile.FieldType)) ∈ lw_all := lw_g (lw_at lw_m9 16 rfl) rfl
theorem q2048 : (Jvm.Cond.methodLink "DateValeModel" (389 : Nat) ({ cls := "DateValeModel", name := "draw", desc := "(I)I" } : Jvm.MethodName)) ∈ lw_all := lw_g (lw_at lw_m9 17 rfl) rfl
theorem q2049 : (Jvm.Cond.privateMethod ({ cls := "DateValeModel", name := "draw", desc := "(I)I" } : Jvm.MethodName)) ∈ lw_tbl := lw_at lw_m9 18 rfl
theorem q2050 : (Jvm.Cond.instanceMethod ({ cls := "DateValeModel", name := "draw", desc := "(I)I" } : Jvm.MethodName)) ∈ lw_all := lw_g (lw_at lw_m9 19 rfl) rfl
theorem q2051 : (Jvm.Cond.code ({ cls := "DateValeModel", name := "draw", desc := "(I)I" } : Jvm.MethodName) prog_23_method_101_code (2 : Nat) (Option.some Jvm.ClassFile.FieldType.int)) ∈ lw_all := lw_g (lw_at lw_m9 20 rfl) rfl
theorem q2052 : (Jvm.Cond.constantLong "DateValeModel" (381 : Nat) (1103515245 : Int64)) ∈ lw_all := lw_g (lw_at lw_m9 21 rfl) rfl
theorem q2053 : (Jvm.Cond.constantLong "DateValeModel" (383 : Nat) (12345 : Int64)) ∈ lw_all := lw_g (lw_at lw_m9 22 rfl) rfl
theorem q2054 : (Jvm.Cond.constantLong "DateValeModel" (385 : Nat) (2147483648 : Int64)) ∈ lw_all := lw_g (lw_at lw_m9 23 rfl) rfl
theorem q2055 : (Jvm.Cond.constantLong "DateValeModel" (387 : Nat) (65536 : Int64)) ∈ lw_all := lw_g (lw_at lw_m9 24 rfl) rfl
theorem q2057 : (Jvm.Cond.instanceMethod ({ cls := "DateValeModel", name := "mark", desc := "(IZ)Z" } : Jvm.MethodName)) ∈ lw_all := lw_g (lw_at lw_m9 26 rfl) rfl
theorem q2058 : (Jvm.Cond.selects "DateValeModel" ({ cls := "DateValeModel", name := "mark", desc := "(IZ)Z" } : Jvm.MethodName) ({ cls := "DateValeModel", name := "mark", desc := "(IZ)Z" } : Jvm.MethodName)) ∈ lw_all := lw_g (lw_at lw_m9 27 rfl) rfl
theorem q2059 : (Jvm.Cond.code ({ cls := "DateValeModel", name := "mark", desc := "(IZ)Z" } : Jvm.MethodName) prog_23_method_104_code (3 : Nat) (Option.some Jvm.ClassFile.FieldType.boolean)) ∈ lw_all := lw_g (lw_at lw_m9 28 rfl) rfl
theorem q2061 : (Jvm.Cond.instanceMethod ({ cls := "DateValeModel", name := "count", desc := "(I)I" } : Jvm.MethodName)) ∈ lw_all := lw_g (lw_at lw_m9 30 rfl) rfl
theorem q2062 : (Jvm.Cond.selects "DateValeModel" ({ cls := "DateValeModel", name := "count", desc := "(I)I" } : Jvm.MethodName) ({ cls := "DateValeModel", name := "count", desc := "(I)I" } : Jvm.MethodName)) ∈ lw_all := lw_g (lw_at lw_m9 31 rfl) rfl
theorem q2063 : (Jvm.Cond.code ({ cls := "DateValeModel", name := "count", desc := "(I)I" } : Jvm.MethodName) prog_23_method_107_code (2 : Nat) (Option.some Jvm.ClassFile.FieldType.int)) ∈ lw_all := lw_g (lw_at lw_m9 32 rfl) rfl
theorem q2064 : (Jvm.Cond.methodLink "DateValeModel" (395 : Nat) ({ cls := "DateValeModel", name := "bedsOfAll", desc := "()I" } : Jvm.MethodName)) ∈ lw_all := lw_g (lw_at lw_m9 33 rfl) rfl
theorem q2065 : (Jvm.Cond.privateMethod ({ cls := "DateValeModel", name := "bedsOfAll", desc := "()I" } : Jvm.MethodName)) ∈ lw_tbl := lw_at lw_m9 34 rfl
theorem q2066 : (Jvm.Cond.instanceMethod ({ cls := "DateValeModel", name := "bedsOfAll", desc := "()I" } : Jvm.MethodName)) ∈ lw_all := lw_g (lw_at lw_m9 35 rfl) rfl
theorem q2067 : (Jvm.Cond.code ({ cls := "DateValeModel", name := "bedsOfAll", desc := "()I" } : Jvm.MethodName) prog_23_method_106_code (3 : Nat) (Option.some Jvm.ClassFile.FieldType.int)) ∈ lw_all := lw_g (lw_at lw_m9 36 rfl) rfl
theorem q2068 : (Jvm.Cond.methodLink "DateValeModel" (398 : Nat) ({ cls := "DateValeModel", name := "fadedNow", desc := "()I" } : Jvm.MethodName)) ∈ lw_all := lw_g (lw_at lw_m9 37 rfl) rfl
theorem q2069 : (Jvm.Cond.privateMethod ({ cls := "DateValeModel", name := "fadedNow", desc := "()I" } : Jvm.MethodName)) ∈ lw_tbl := lw_at lw_m9 38 rfl
theorem q2070 : (Jvm.Cond.instanceMethod ({ cls := "DateValeModel", name := "fadedNow", desc := "()I" } : Jvm.MethodName)) ∈ lw_all := lw_g (lw_at lw_m9 39 rfl) rfl
theorem q2071 : (Jvm.Cond.code ({ cls := "DateValeModel", name := "fadedNow", desc := "()I" } : Jvm.MethodName) prog_23_method_105_code (3 : Nat) (Option.some Jvm.ClassFile.FieldType.int)) ∈ lw_all := lw_g (lw_at lw_m9 40 rfl) rfl
theorem q2092 : (Jvm.Cond.castable "DateValeModel" "java/lang/Object") ∈ lw_tbl := lw_at lw_m9 61 rfl
theorem in_X5 : ∀ w ∈ wsX50, w ∈ lw_all := lw_in wsX50 [1625, 1627, 1629, 1631, 1633, 1635, 1637, 1639, 1641, 1643, 1645, 1647, 1649, 1651, 1653, 1655, 1657, 1659, 1661, 1663, 1665, 1667, 1669, 1671, 1673, 1675, 1677, 1679, 1681, 1683, 1685, 1687] (by decide +kernel) (by decide +kernel)
