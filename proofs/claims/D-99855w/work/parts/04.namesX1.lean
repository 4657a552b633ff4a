/-! DateVale -/
set_option maxRecDepth 100000
def RX1 : String := "DateVale"
def TX1 : u_T := fun k => match k with
  | 0 => ("DateVale", "tape", "[B", true)
  | 1 => ("DateVale", "reader", "LDateVale$Reader;", true)
  | 2 => ("DateVale", "vale", "LDateVale$Vale;", false)
  | 3 => ("DateVale", "lines", "Ljava/util/ArrayList;", false)
  | 4 => ("DateVale", "state", "LDateVale$State;", true)
  | 5 => ("DateVale", "trial", "LDateVale$State;", true)
  | 6 => ("DateVale", "facts", "[I", true)
  | 7 => ("DateVale", "taped", "I", false)
  | 8 => ("DateVale", "refusedNow", "I", false)
  | 9 => ("DateVale", "undone", "[LDateVale$State;", true)
  | 10 => ("DateVale", "done", "I", false)
  | 11 => ("DateVale", "row", "[I", true)
  | 12 => ("DateVale", "bestRow", "[I", true)
  | 13 => ("DateVale", "fewest", "I", false)
  | 14 => ("DateVale", "apart", "[I", true)
  | 15 => ("DateVale", "seenIn", "[I", true)
  | 16 => ("DateVale", "seenAt", "[I", true)
  | 17 => ("DateVale", "seenMany", "I", false)
  | 18 => ("DateVale", "places", "[[I", true)
  | 19 => ("DateVale", "g", "J", false)
  | _ => ("DateVale", "marks", "[LDateVale$Mark;", true)
def tyX1 : Nat → FieldType := fun k => match k with
  | 0 => .array .byte
  | 1 => .object "DateVale$Reader"
  | 2 => .object "DateVale$Vale"
  | 3 => .object "java/util/ArrayList"
  | 4 => .object "DateVale$State"
  | 5 => .object "DateVale$State"
  | 6 => .array .int
  | 7 => .int
  | 8 => .int
  | 9 => .array (.object "DateVale$State")
  | 10 => .int
  | 11 => .array .int
  | 12 => .array .int
  | 13 => .int
  | 14 => .array .int
  | 15 => .array .int
  | 16 => .array .int
  | 17 => .int
  | 18 => .array (.array .int)
  | 19 => .long
  | _ => .array (.object "DateVale$Mark")
abbrev wsX10 : List Cond := u_ws RX1 TX1 21
set_option maxRecDepth 100000 in
theorem nmX1 : ∀ a, a < 21 → ∀ b, b < 21 → a ≠ b → (TX1 a).2.1 ≠ (TX1 b).2.1 := by decide +kernel
set_option maxRecDepth 100000 in
theorem tyX1_ok : ∀ k, k < 21 → parseFieldDescriptor (TX1 k).2.2.1 = some (tyX1 k) := by decide +kernel
abbrev cX1_init : ByteArray := prog_1_method_7_code
def yX1_init : MethodName := ⟨RX1, "<init>", "()V"⟩
def dkwX1_init_6 : List UInt8 := [181, 0, 88, 42, 180, 0, 51, 42, 180, 0, 35, 182, 0, 92, 177]
abbrev dktX1_init_6 : List UInt8 := dkwX1_init_6 ++ []
def dkwX1_init_5 : List UInt8 := [188, 10, 181, 0, 78, 42, 16, 25, 16, 6, 197, 0, 81, 2, 181, 0, 83, 42, 7, 189, 0, 86]
abbrev dktX1_init_5 : List UInt8 := dkwX1_init_5 ++ dktX1_init_6
def dkwX1_init_4 : List UInt8 := [188, 10, 181, 0, 69, 42, 16, 6, 188, 10, 181, 0, 72, 42, 16, 8, 188, 10, 181, 0, 75, 42, 16, 8]
abbrev dktX1_init_4 : List UInt8 := dkwX1_init_4 ++ dktX1_init_5
def dkwX1_init_3 : List UInt8 := [188, 10, 181, 0, 58, 42, 16, 16, 189, 0, 48, 181, 0, 62, 42, 7, 188, 10, 181, 0, 66, 42, 7]
abbrev dktX1_init_3 : List UInt8 := dkwX1_init_3 ++ dktX1_init_4
def dkwX1_init_2 : List UInt8 := [187, 0, 48, 89, 183, 0, 50, 181, 0, 51, 42, 187, 0, 48, 89, 183, 0, 50, 181, 0, 55, 42, 7]
abbrev dktX1_init_2 : List UInt8 := dkwX1_init_2 ++ dktX1_init_3
def dkwX1_init_1 : List UInt8 := [42, 187, 0, 32, 89, 183, 0, 34, 181, 0, 35, 42, 187, 0, 39, 89, 3, 183, 0, 41, 181, 0, 44, 42]
abbrev dktX1_init_1 : List UInt8 := dkwX1_init_1 ++ dktX1_init_2
def dkwX1_init_0 : List UInt8 := [42, 183, 0, 16, 42, 17, 3, 232, 188, 8, 181, 0, 21, 42, 187, 0, 25, 89, 183, 0, 27, 181, 0, 28]
abbrev dktX1_init_0 : List UInt8 := dkwX1_init_0 ++ dktX1_init_1
theorem dksX1_init_0 : cX1_init.data.toList.drop 0 = dktX1_init_0 := by decide +kernel
theorem dksX1_init_1 : cX1_init.data.toList.drop 24 = dktX1_init_1 := dk_seg dksX1_init_0 24 rfl rfl
theorem dksX1_init_2 : cX1_init.data.toList.drop 48 = dktX1_init_2 := dk_seg dksX1_init_1 24 rfl rfl
theorem dksX1_init_3 : cX1_init.data.toList.drop 71 = dktX1_init_3 := dk_seg dksX1_init_2 23 rfl rfl
theorem dksX1_init_4 : cX1_init.data.toList.drop 94 = dktX1_init_4 := dk_seg dksX1_init_3 23 rfl rfl
theorem dksX1_init_5 : cX1_init.data.toList.drop 118 = dktX1_init_5 := dk_seg dksX1_init_4 24 rfl rfl
theorem dksX1_init_6 : cX1_init.data.toList.drop 140 = dktX1_init_6 := dk_seg dksX1_init_5 22 rfl rfl
theorem dX1_init_0 : decode cX1_init 0 = .ok (.aload_n 0, 1) := dk_42 (dk_at dksX1_init_0 0 rfl rfl)
theorem dX1_init_1 : decode cX1_init 1 = .ok (.invokespecial 16, 3) := dk_183 0 16 (dk_at dksX1_init_0 1 rfl rfl)
theorem dX1_init_4 : decode cX1_init 4 = .ok (.aload_n 0, 1) := dk_42 (dk_at dksX1_init_0 4 rfl rfl)
theorem dX1_init_5 : decode cX1_init 5 = .ok (.sipush 1000, 3) := dk_17 3 232 (dk_at dksX1_init_0 5 rfl rfl)
theorem dX1_init_8 : decode cX1_init 8 = .ok (.newarray .byte, 2) := dk_188_8 (dk_at dksX1_init_0 8 rfl rfl)
theorem dX1_init_10 : decode cX1_init 10 = .ok (.putfield 21, 3) := dk_181 0 21 (dk_at dksX1_init_0 10 rfl rfl)
theorem dX1_init_13 : decode cX1_init 13 = .ok (.aload_n 0, 1) := dk_42 (dk_at dksX1_init_0 13 rfl rfl)
theorem dX1_init_14 : decode cX1_init 14 = .ok (.new 25, 3) := dk_187 0 25 (dk_at dksX1_init_0 14 rfl rfl)
theorem dX1_init_17 : decode cX1_init 17 = .ok (.dup, 1) := dk_89 (dk_at dksX1_init_0 17 rfl rfl)
theorem dX1_init_18 : decode cX1_init 18 = .ok (.invokespecial 27, 3) := dk_183 0 27 (dk_at dksX1_init_0 18 rfl rfl)
theorem dX1_init_21 : decode cX1_init 21 = .ok (.putfield 28, 3) := dk_181 0 28 (dk_at dksX1_init_0 21 rfl rfl)
theorem dX1_init_24 : decode cX1_init 24 = .ok (.aload_n 0, 1) := dk_42 (dk_at dksX1_init_1 0 rfl rfl)
theorem dX1_init_25 : decode cX1_init 25 = .ok (.new 32, 3) := dk_187 0 32 (dk_at dksX1_init_1 1 rfl rfl)
theorem dX1_init_28 : decode cX1_init 28 = .ok (.dup, 1) := dk_89 (dk_at dksX1_init_1 4 rfl rfl)
theorem dX1_init_29 : decode cX1_init 29 = .ok (.invokespecial 34, 3) := dk_183 0 34 (dk_at dksX1_init_1 5 rfl rfl)
theorem dX1_init_32 : decode cX1_init 32 = .ok (.putfield 35, 3) := dk_181 0 35 (dk_at dksX1_init_1 8 rfl rfl)
theorem dX1_init_35 : decode cX1_init 35 = .ok (.aload_n 0, 1) := dk_42 (dk_at dksX1_init_1 11 rfl rfl)
theorem dX1_init_36 : decode cX1_init 36 = .ok (.new 39, 3) := dk_187 0 39 (dk_at dksX1_init_1 12 rfl rfl)
theorem dX1_init_39 : decode cX1_init 39 = .ok (.dup, 1) := dk_89 (dk_at dksX1_init_1 15 rfl rfl)
theorem dX1_init_40 : decode cX1_init 40 = .ok (.iconst 0, 1) := dk_3 (dk_at dksX1_init_1 16 rfl rfl)
theorem dX1_init_41 : decode cX1_init 41 = .ok (.invokespecial 41, 3) := dk_183 0 41 (dk_at dksX1_init_1 17 rfl rfl)
theorem dX1_init_44 : decode cX1_init 44 = .ok (.putfield 44, 3) := dk_181 0 44 (dk_at dksX1_init_1 20 rfl rfl)
theorem dX1_init_47 : decode cX1_init 47 = .ok (.aload_n 0, 1) := dk_42 (dk_at dksX1_init_1 23 rfl rfl)
theorem dX1_init_48 : decode cX1_init 48 = .ok (.new 48, 3) := dk_187 0 48 (dk_at dksX1_init_2 0 rfl rfl)
theorem dX1_init_51 : decode cX1_init 51 = .ok (.dup, 1) := dk_89 (dk_at dksX1_init_2 3 rfl rfl)
theorem dX1_init_52 : decode cX1_init 52 = .ok (.invokespecial 50, 3) := dk_183 0 50 (dk_at dksX1_init_2 4 rfl rfl)
theorem dX1_init_55 : decode cX1_init 55 = .ok (.putfield 51, 3) := dk_181 0 51 (dk_at dksX1_init_2 7 rfl rfl)
theorem dX1_init_58 : decode cX1_init 58 = .ok (.aload_n 0, 1) := dk_42 (dk_at dksX1_init_2 10 rfl rfl)
theorem dX1_init_59 : decode cX1_init 59 = .ok (.new 48, 3) := dk_187 0 48 (dk_at dksX1_init_2 11 rfl rfl)
theorem dX1_init_62 : decode cX1_init 62 = .ok (.dup, 1) := dk_89 (dk_at dksX1_init_2 14 rfl rfl)
theorem dX1_init_63 : decode cX1_init 63 = .ok (.invokespecial 50, 3) := dk_183 0 50 (dk_at dksX1_init_2 15 rfl rfl)
theorem dX1_init_66 : decode cX1_init 66 = .ok (.putfield 55, 3) := dk_181 0 55 (dk_at dksX1_init_2 18 rfl rfl)
theorem dX1_init_69 : decode cX1_init 69 = .ok (.aload_n 0, 1) := dk_42 (dk_at dksX1_init_2 21 rfl rfl)
theorem dX1_init_70 : decode cX1_init 70 = .ok (.iconst 4, 1) := dk_7 (dk_at dksX1_init_2 22 rfl rfl)
theorem dX1_init_71 : decode cX1_init 71 = .ok (.newarray .int, 2) := dk_188_10 (dk_at dksX1_init_3 0 rfl rfl)
theorem dX1_init_73 : decode cX1_init 73 = .ok (.putfield 58, 3) := dk_181 0 58 (dk_at dksX1_init_3 2 rfl rfl)
theorem dX1_init_76 : decode cX1_init 76 = .ok (.aload_n 0, 1) := dk_42 (dk_at dksX1_init_3 5 rfl rfl)
theorem dX1_init_77 : decode cX1_init 77 = .ok (.bipush 16, 2) := dk_16 16 (dk_at dksX1_init_3 6 rfl rfl)
theorem dX1_init_79 : decode cX1_init 79 = .ok (.anewarray 48, 3) := dk_189 0 48 (dk_at dksX1_init_3 8 rfl rfl)
theorem dX1_init_82 : decode cX1_init 82 = .ok (.putfield 62, 3) := dk_181 0 62 (dk_at dksX1_init_3 11 rfl rfl)
theorem dX1_init_85 : decode cX1_init 85 = .ok (.aload_n 0, 1) := dk_42 (dk_at dksX1_init_3 14 rfl rfl)
theorem dX1_init_86 : decode cX1_init 86 = .ok (.iconst 4, 1) := dk_7 (dk_at dksX1_init_3 15 rfl rfl)
theorem dX1_init_87 : decode cX1_init 87 = .ok (.newarray .int, 2) := dk_188_10 (dk_at dksX1_init_3 16 rfl rfl)
theorem dX1_init_89 : decode cX1_init 89 = .ok (.putfield 66, 3) := dk_181 0 66 (dk_at dksX1_init_3 18 rfl rfl)
theorem dX1_init_92 : decode cX1_init 92 = .ok (.aload_n 0, 1) := dk_42 (dk_at dksX1_init_3 21 rfl rfl)
theorem dX1_init_93 : decode cX1_init 93 = .ok (.iconst 4, 1) := dk_7 (dk_at dksX1_init_3 22 rfl rfl)
theorem dX1_init_94 : decode cX1_init 94 = .ok (.newarray .int, 2) := dk_188_10 (dk_at dksX1_init_4 0 rfl rfl)
theorem dX1_init_96 : decode cX1_init 96 = .ok (.putfield 69, 3) := dk_181 0 69 (dk_at dksX1_init_4 2 rfl rfl)
theorem dX1_init_99 : decode cX1_init 99 = .ok (.aload_n 0, 1) := dk_42 (dk_at dksX1_init_4 5 rfl rfl)
theorem dX1_init_100 : decode cX1_init 100 = .ok (.bipush 6, 2) := dk_16 6 (dk_at dksX1_init_4 6 rfl rfl)
theorem dX1_init_102 : decode cX1_init 102 = .ok (.newarray .int, 2) := dk_188_10 (dk_at dksX1_init_4 8 rfl rfl)
theorem dX1_init_104 : decode cX1_init 104 = .ok (.putfield 72, 3) := dk_181 0 72 (dk_at dksX1_init_4 10 rfl rfl)
theorem dX1_init_107 : decode cX1_init 107 = .ok (.aload_n 0, 1) := dk_42 (dk_at dksX1_init_4 13 rfl rfl)
theorem dX1_init_108 : decode cX1_init 108 = .ok (.bipush 8, 2) := dk_16 8 (dk_at dksX1_init_4 14 rfl rfl)
theorem dX1_init_110 : decode cX1_init 110 = .ok (.newarray .int, 2) := dk_188_10 (dk_at dksX1_init_4 16 rfl rfl)
theorem dX1_init_112 : decode cX1_init 112 = .ok (.putfield 75, 3) := dk_181 0 75 (dk_at dksX1_init_4 18 rfl rfl)
theorem dX1_init_115 : decode cX1_init 115 = .ok (.aload_n 0, 1) := dk_42 (dk_at dksX1_init_4 21 rfl rfl)
theorem dX1_init_116 : decode cX1_init 116 = .ok (.bipush 8, 2) := dk_16 8 (dk_at dksX1_init_4 22 rfl rfl)
theorem dX1_init_118 : decode cX1_init 118 = .ok (.newarray .int, 2) := dk_188_10 (dk_at dksX1_init_5 0 rfl rfl)
theorem dX1_init_120 : decode cX1_init 120 = .ok (.putfield 78, 3) := dk_181 0 78 (dk_at dksX1_init_5 2 rfl rfl)
theorem dX1_init_123 : decode cX1_init 123 = .ok (.aload_n 0, 1) := dk_42 (dk_at dksX1_init_5 5 rfl rfl)
theorem dX1_init_124 : decode cX1_init 124 = .ok (.bipush 25, 2) := dk_16 25 (dk_at dksX1_init_5 6 rfl rfl)
theorem dX1_init_126 : decode cX1_init 126 = .ok (.bipush 6, 2) := dk_16 6 (dk_at dksX1_init_5 8 rfl rfl)
theorem dX1_init_128 : decode cX1_init 128 = .ok (.multianewarray 81 2, 4) := by decide +kernel
theorem dX1_init_132 : decode cX1_init 132 = .ok (.putfield 83, 3) := dk_181 0 83 (dk_at dksX1_init_5 14 rfl rfl)
theorem dX1_init_135 : decode cX1_init 135 = .ok (.aload_n 0, 1) := dk_42 (dk_at dksX1_init_5 17 rfl rfl)
theorem dX1_init_136 : decode cX1_init 136 = .ok (.iconst 4, 1) := dk_7 (dk_at dksX1_init_5 18 rfl rfl)
theorem dX1_init_137 : decode cX1_init 137 = .ok (.anewarray 86, 3) := dk_189 0 86 (dk_at dksX1_init_5 19 rfl rfl)
theorem dX1_init_140 : decode cX1_init 140 = .ok (.putfield 88, 3) := dk_181 0 88 (dk_at dksX1_init_6 0 rfl rfl)
theorem dX1_init_143 : decode cX1_init 143 = .ok (.aload_n 0, 1) := dk_42 (dk_at dksX1_init_6 3 rfl rfl)
theorem dX1_init_144 : decode cX1_init 144 = .ok (.getfield 51, 3) := dk_180 0 51 (dk_at dksX1_init_6 4 rfl rfl)
theorem dX1_init_147 : decode cX1_init 147 = .ok (.aload_n 0, 1) := dk_42 (dk_at dksX1_init_6 7 rfl rfl)
theorem dX1_init_148 : decode cX1_init 148 = .ok (.getfield 35, 3) := dk_180 0 35 (dk_at dksX1_init_6 8 rfl rfl)
theorem dX1_init_151 : decode cX1_init 151 = .ok (.invokevirtual 92, 3) := dk_182 0 92 (dk_at dksX1_init_6 11 rfl rfl)
theorem dX1_init_154 : decode cX1_init 154 = .ok (.return_, 1) := dk_177 (dk_at dksX1_init_6 14 rfl rfl)
abbrev cX1_feed : ByteArray := prog_1_method_8_code
def yX1_feed : MethodName := ⟨RX1, "feed", "(JJJ)I"⟩
def dkwX1_feed_4 : List UInt8 := [96, 181, 0, 96, 21, 8, 145, 84, 132, 7, 1, 167, 255, 153, 42, 180, 0, 96, 172]
abbrev dktX1_feed_4 : List UInt8 := dkwX1_feed_4 ++ []
def dkwX1_feed_3 : List UInt8 := [163, 0, 32, 42, 180, 0, 96, 17, 3, 232, 162, 0, 22, 42, 180, 0, 21, 42, 89, 180, 0, 96, 90, 4]
abbrev dktX1_feed_3 : List UInt8 := dkwX1_feed_3 ++ dktX1_feed_4
def dkwX1_feed_2 : List UInt8 := [17, 0, 255, 126, 54, 8, 21, 8, 16, 10, 159, 0, 17, 21, 8, 16, 32, 161, 0, 39, 21, 8, 16, 126]
abbrev dktX1_feed_2 : List UInt8 := dkwX1_feed_2 ++ dktX1_feed_3
def dkwX1_feed_1 : List UInt8 := [16, 16, 162, 0, 7, 33, 167, 0, 5, 22, 5, 16, 56, 16, 8, 21, 7, 16, 8, 112, 104, 100, 123, 136]
abbrev dktX1_feed_1 : List UInt8 := dkwX1_feed_1 ++ dktX1_feed_2
def dkwX1_feed_0 : List UInt8 := [3, 54, 7, 21, 7, 16, 24, 162, 0, 102, 21, 7, 16, 8, 162, 0, 7, 31, 167, 0, 16, 21, 7]
abbrev dktX1_feed_0 : List UInt8 := dkwX1_feed_0 ++ dktX1_feed_1
theorem dksX1_feed_0 : cX1_feed.data.toList.drop 0 = dktX1_feed_0 := by decide +kernel
theorem dksX1_feed_1 : cX1_feed.data.toList.drop 23 = dktX1_feed_1 := dk_seg dksX1_feed_0 23 rfl rfl
theorem dksX1_feed_2 : cX1_feed.data.toList.drop 47 = dktX1_feed_2 := dk_seg dksX1_feed_1 24 rfl rfl
theorem dksX1_feed_3 : cX1_feed.data.toList.drop 71 = dktX1_feed_3 := dk_seg dksX1_feed_2 24 rfl rfl
theorem dksX1_feed_4 : cX1_feed.data.toList.drop 95 = dktX1_feed_4 := dk_seg dksX1_feed_3 24 rfl rfl
theorem dX1_feed_0 : decode cX1_feed 0 = .ok (.iconst 0, 1) := dk_3 (dk_at dksX1_feed_0 0 rfl rfl)
theorem dX1_feed_1 : decode cX1_feed 1 = .ok (.istore 7, 2) := dk_54 7 (dk_at dksX1_feed_0 1 rfl rfl)
theorem dX1_feed_3 : decode cX1_feed 3 = .ok (.iload 7, 2) := dk_21 7 (dk_at dksX1_feed_0 3 rfl rfl)
theorem dX1_feed_5 : decode cX1_feed 5 = .ok (.bipush 24, 2) := dk_16 24 (dk_at dksX1_feed_0 5 rfl rfl)
theorem dX1_feed_7 : decode cX1_feed 7 = .ok (.if_icmp .ge 102, 3) := dk_162 0 102 (dk_at dksX1_feed_0 7 rfl rfl)
theorem dX1_feed_10 : decode cX1_feed 10 = .ok (.iload 7, 2) := dk_21 7 (dk_at dksX1_feed_0 10 rfl rfl)
theorem dX1_feed_12 : decode cX1_feed 12 = .ok (.bipush 8, 2) := dk_16 8 (dk_at dksX1_feed_0 12 rfl rfl)
theorem dX1_feed_14 : decode cX1_feed 14 = .ok (.if_icmp .ge 7, 3) := dk_162 0 7 (dk_at dksX1_feed_0 14 rfl rfl)
theorem dX1_feed_17 : decode cX1_feed 17 = .ok (.lload_n 1, 1) := dk_31 (dk_at dksX1_feed_0 17 rfl rfl)
theorem dX1_feed_18 : decode cX1_feed 18 = .ok (.goto 16, 3) := dk_167 0 16 (dk_at dksX1_feed_0 18 rfl rfl)
theorem dX1_feed_21 : decode cX1_feed 21 = .ok (.iload 7, 2) := dk_21 7 (dk_at dksX1_feed_0 21 rfl rfl)
theorem dX1_feed_23 : decode cX1_feed 23 = .ok (.bipush 16, 2) := dk_16 16 (dk_at dksX1_feed_1 0 rfl rfl)
theorem dX1_feed_25 : decode cX1_feed 25 = .ok (.if_icmp .ge 7, 3) := dk_162 0 7 (dk_at dksX1_feed_1 2 rfl rfl)
theorem dX1_feed_28 : decode cX1_feed 28 = .ok (.lload_n 3, 1) := dk_33 (dk_at dksX1_feed_1 5 rfl rfl)
theorem dX1_feed_29 : decode cX1_feed 29 = .ok (.goto 5, 3) := dk_167 0 5 (dk_at dksX1_feed_1 6 rfl rfl)
theorem dX1_feed_32 : decode cX1_feed 32 = .ok (.lload 5, 2) := dk_22 5 (dk_at dksX1_feed_1 9 rfl rfl)
theorem dX1_feed_34 : decode cX1_feed 34 = .ok (.bipush 56, 2) := dk_16 56 (dk_at dksX1_feed_1 11 rfl rfl)
theorem dX1_feed_36 : decode cX1_feed 36 = .ok (.bipush 8, 2) := dk_16 8 (dk_at dksX1_feed_1 13 rfl rfl)
theorem dX1_feed_38 : decode cX1_feed 38 = .ok (.iload 7, 2) := dk_21 7 (dk_at dksX1_feed_1 15 rfl rfl)
theorem dX1_feed_40 : decode cX1_feed 40 = .ok (.bipush 8, 2) := dk_16 8 (dk_at dksX1_feed_1 17 rfl rfl)
theorem dX1_feed_42 : decode cX1_feed 42 = .ok (.irem, 1) := dk_112 (dk_at dksX1_feed_1 19 rfl rfl)
theorem dX1_feed_43 : decode cX1_feed 43 = .ok (.imul, 1) := dk_104 (dk_at dksX1_feed_1 20 rfl rfl)
theorem dX1_feed_44 : decode cX1_feed 44 = .ok (.isub, 1) := dk_100 (dk_at dksX1_feed_1 21 rfl rfl)
theorem dX1_feed_45 : decode cX1_feed 45 = .ok (.lshr, 1) := dk_123 (dk_at dksX1_feed_1 22 rfl rfl)
theorem dX1_feed_46 : decode cX1_feed 46 = .ok (.l2i, 1) := dk_136 (dk_at dksX1_feed_1 23 rfl rfl)
theorem dX1_feed_47 : decode cX1_feed 47 = .ok (.sipush 255, 3) := dk_17 0 255 (dk_at dksX1_feed_2 0 rfl rfl)
theorem dX1_feed_50 : decode cX1_feed 50 = .ok (.iand, 1) := dk_126 (dk_at dksX1_feed_2 3 rfl rfl)
theorem dX1_feed_51 : decode cX1_feed 51 = .ok (.istore 8, 2) := dk_54 8 (dk_at dksX1_feed_2 4 rfl rfl)
theorem dX1_feed_53 : decode cX1_feed 53 = .ok (.iload 8, 2) := dk_21 8 (dk_at dksX1_feed_2 6 rfl rfl)
theorem dX1_feed_55 : decode cX1_feed 55 = .ok (.bipush 10, 2) := dk_16 10 (dk_at dksX1_feed_2 8 rfl rfl)
theorem dX1_feed_57 : decode cX1_feed 57 = .ok (.if_icmp .eq 17, 3) := dk_159 0 17 (dk_at dksX1_feed_2 10 rfl rfl)
theorem dX1_feed_60 : decode cX1_feed 60 = .ok (.iload 8, 2) := dk_21 8 (dk_at dksX1_feed_2 13 rfl rfl)
theorem dX1_feed_62 : decode cX1_feed 62 = .ok (.bipush 32, 2) := dk_16 32 (dk_at dksX1_feed_2 15 rfl rfl)
theorem dX1_feed_64 : decode cX1_feed 64 = .ok (.if_icmp .lt 39, 3) := dk_161 0 39 (dk_at dksX1_feed_2 17 rfl rfl)
theorem dX1_feed_67 : decode cX1_feed 67 = .ok (.iload 8, 2) := dk_21 8 (dk_at dksX1_feed_2 20 rfl rfl)
theorem dX1_feed_69 : decode cX1_feed 69 = .ok (.bipush 126, 2) := dk_16 126 (dk_at dksX1_feed_2 22 rfl rfl)
theorem dX1_feed_71 : decode cX1_feed 71 = .ok (.if_icmp .gt 32, 3) := dk_163 0 32 (dk_at dksX1_feed_3 0 rfl rfl)
theorem dX1_feed_74 : decode cX1_feed 74 = .ok (.aload_n 0, 1) := dk_42 (dk_at dksX1_feed_3 3 rfl rfl)
theorem dX1_feed_75 : decode cX1_feed 75 = .ok (.getfield 96, 3) := dk_180 0 96 (dk_at dksX1_feed_3 4 rfl rfl)
theorem dX1_feed_78 : decode cX1_feed 78 = .ok (.sipush 1000, 3) := dk_17 3 232 (dk_at dksX1_feed_3 7 rfl rfl)
theorem dX1_feed_81 : decode cX1_feed 81 = .ok (.if_icmp .ge 22, 3) := dk_162 0 22 (dk_at dksX1_feed_3 10 rfl rfl)
theorem dX1_feed_84 : decode cX1_feed 84 = .ok (.aload_n 0, 1) := dk_42 (dk_at dksX1_feed_3 13 rfl rfl)
theorem dX1_feed_85 : decode cX1_feed 85 = .ok (.getfield 21, 3) := dk_180 0 21 (dk_at dksX1_feed_3 14 rfl rfl)
theorem dX1_feed_88 : decode cX1_feed 88 = .ok (.aload_n 0, 1) := dk_42 (dk_at dksX1_feed_3 17 rfl rfl)
theorem dX1_feed_89 : decode cX1_feed 89 = .ok (.dup, 1) := dk_89 (dk_at dksX1_feed_3 18 rfl rfl)
theorem dX1_feed_90 : decode cX1_feed 90 = .ok (.getfield 96, 3) := dk_180 0 96 (dk_at dksX1_feed_3 19 rfl rfl)
theorem dX1_feed_93 : decode cX1_feed 93 = .ok (.dup_x1, 1) := dk_90 (dk_at dksX1_feed_3 22 rfl rfl)
theorem dX1_feed_94 : decode cX1_feed 94 = .ok (.iconst 1, 1) := dk_4 (dk_at dksX1_feed_3 23 rfl rfl)
theorem dX1_feed_95 : decode cX1_feed 95 = .ok (.iadd, 1) := dk_96 (dk_at dksX1_feed_4 0 rfl rfl)
theorem dX1_feed_96 : decode cX1_feed 96 = .ok (.putfield 96, 3) := dk_181 0 96 (dk_at dksX1_feed_4 1 rfl rfl)
theorem dX1_feed_99 : decode cX1_feed 99 = .ok (.iload 8, 2) := dk_21 8 (dk_at dksX1_feed_4 4 rfl rfl)
theorem dX1_feed_101 : decode cX1_feed 101 = .ok (.i2b, 1) := dk_145 (dk_at dksX1_feed_4 6 rfl rfl)
theorem dX1_feed_102 : decode cX1_feed 102 = .ok (.bastore, 1) := dk_84 (dk_at dksX1_feed_4 7 rfl rfl)
theorem dX1_feed_103 : decode cX1_feed 103 = .ok (.iinc 7 1, 3) := dk_132 7 1 (dk_at dksX1_feed_4 8 rfl rfl)
theorem dX1_feed_106 : decode cX1_feed 106 = .ok (.goto (-103), 3) := dk_167 255 153 (dk_at dksX1_feed_4 11 rfl rfl)
theorem dX1_feed_109 : decode cX1_feed 109 = .ok (.aload_n 0, 1) := dk_42 (dk_at dksX1_feed_4 14 rfl rfl)
theorem dX1_feed_110 : decode cX1_feed 110 = .ok (.getfield 96, 3) := dk_180 0 96 (dk_at dksX1_feed_4 15 rfl rfl)
theorem dX1_feed_113 : decode cX1_feed 113 = .ok (.ireturn, 1) := dk_172 (dk_at dksX1_feed_4 18 rfl rfl)
abbrev cX1_vale : ByteArray := prog_1_method_10_code
def yX1_vale : MethodName := ⟨RX1, "vale", "()I"⟩
def dkwX1_vale_3 : List UInt8 := [132, 1, 1, 167, 255, 241, 3, 172]
abbrev dktX1_vale_3 : List UInt8 := dkwX1_vale_3 ++ []
def dkwX1_vale_2 : List UInt8 := [3, 181, 0, 114, 42, 3, 181, 0, 117, 3, 60, 27, 7, 162, 0, 16, 42, 180, 0, 88, 27, 1, 83]
abbrev dktX1_vale_2 : List UInt8 := dkwX1_vale_2 ++ dktX1_vale_3
def dkwX1_vale_1 : List UInt8 := [42, 180, 0, 51, 42, 180, 0, 35, 182, 0, 92, 42, 187, 0, 39, 89, 3, 183, 0, 41, 181, 0, 44, 42]
abbrev dktX1_vale_1 : List UInt8 := dkwX1_vale_1 ++ dktX1_vale_2
def dkwX1_vale_0 : List UInt8 := [42, 182, 0, 103, 42, 42, 180, 0, 28, 182, 0, 106, 181, 0, 35, 167, 0, 9, 76, 43, 180, 0, 111, 172]
abbrev dktX1_vale_0 : List UInt8 := dkwX1_vale_0 ++ dktX1_vale_1
theorem dksX1_vale_0 : cX1_vale.data.toList.drop 0 = dktX1_vale_0 := by decide +kernel
theorem dksX1_vale_1 : cX1_vale.data.toList.drop 24 = dktX1_vale_1 := dk_seg dksX1_vale_0 24 rfl rfl
theorem dksX1_vale_2 : cX1_vale.data.toList.drop 48 = dktX1_vale_2 := dk_seg dksX1_vale_1 24 rfl rfl
theorem dksX1_vale_3 : cX1_vale.data.toList.drop 71 = dktX1_vale_3 := dk_seg dksX1_vale_2 23 rfl rfl
theorem dX1_vale_0 : decode cX1_vale 0 = .ok (.aload_n 0, 1) := dk_42 (dk_at dksX1_vale_0 0 rfl rfl)
theorem dX1_vale_1 : decode cX1_vale 1 = .ok (.invokevirtual 103, 3) := dk_182 0 103 (dk_at dksX1_vale_0 1 rfl rfl)
theorem dX1_vale_4 : decode cX1_vale 4 = .ok (.aload_n 0, 1) := dk_42 (dk_at dksX1_vale_0 4 rfl rfl)
theorem dX1_vale_5 : decode cX1_vale 5 = .ok (.aload_n 0, 1) := dk_42 (dk_at dksX1_vale_0 5 rfl rfl)
theorem dX1_vale_6 : decode cX1_vale 6 = .ok (.getfield 28, 3) := dk_180 0 28 (dk_at dksX1_vale_0 6 rfl rfl)
theorem dX1_vale_9 : decode cX1_vale 9 = .ok (.invokevirtual 106, 3) := dk_182 0 106 (dk_at dksX1_vale_0 9 rfl rfl)
theorem dX1_vale_12 : decode cX1_vale 12 = .ok (.putfield 35, 3) := dk_181 0 35 (dk_at dksX1_vale_0 12 rfl rfl)
theorem dX1_vale_15 : decode cX1_vale 15 = .ok (.goto 9, 3) := dk_167 0 9 (dk_at dksX1_vale_0 15 rfl rfl)
theorem dX1_vale_18 : decode cX1_vale 18 = .ok (.astore_n 1, 1) := dk_76 (dk_at dksX1_vale_0 18 rfl rfl)
theorem dX1_vale_19 : decode cX1_vale 19 = .ok (.aload_n 1, 1) := dk_43 (dk_at dksX1_vale_0 19 rfl rfl)
theorem dX1_vale_20 : decode cX1_vale 20 = .ok (.getfield 111, 3) := dk_180 0 111 (dk_at dksX1_vale_0 20 rfl rfl)
theorem dX1_vale_23 : decode cX1_vale 23 = .ok (.ireturn, 1) := dk_172 (dk_at dksX1_vale_0 23 rfl rfl)
theorem dX1_vale_24 : decode cX1_vale 24 = .ok (.aload_n 0, 1) := dk_42 (dk_at dksX1_vale_1 0 rfl rfl)
theorem dX1_vale_25 : decode cX1_vale 25 = .ok (.getfield 51, 3) := dk_180 0 51 (dk_at dksX1_vale_1 1 rfl rfl)
theorem dX1_vale_28 : decode cX1_vale 28 = .ok (.aload_n 0, 1) := dk_42 (dk_at dksX1_vale_1 4 rfl rfl)
theorem dX1_vale_29 : decode cX1_vale 29 = .ok (.getfield 35, 3) := dk_180 0 35 (dk_at dksX1_vale_1 5 rfl rfl)
theorem dX1_vale_32 : decode cX1_vale 32 = .ok (.invokevirtual 92, 3) := dk_182 0 92 (dk_at dksX1_vale_1 8 rfl rfl)
theorem dX1_vale_35 : decode cX1_vale 35 = .ok (.aload_n 0, 1) := dk_42 (dk_at dksX1_vale_1 11 rfl rfl)
theorem dX1_vale_36 : decode cX1_vale 36 = .ok (.new 39, 3) := dk_187 0 39 (dk_at dksX1_vale_1 12 rfl rfl)
theorem dX1_vale_39 : decode cX1_vale 39 = .ok (.dup, 1) := dk_89 (dk_at dksX1_vale_1 15 rfl rfl)
theorem dX1_vale_40 : decode cX1_vale 40 = .ok (.iconst 0, 1) := dk_3 (dk_at dksX1_vale_1 16 rfl rfl)
theorem dX1_vale_41 : decode cX1_vale 41 = .ok (.invokespecial 41, 3) := dk_183 0 41 (dk_at dksX1_vale_1 17 rfl rfl)
theorem dX1_vale_44 : decode cX1_vale 44 = .ok (.putfield 44, 3) := dk_181 0 44 (dk_at dksX1_vale_1 20 rfl rfl)
theorem dX1_vale_47 : decode cX1_vale 47 = .ok (.aload_n 0, 1) := dk_42 (dk_at dksX1_vale_1 23 rfl rfl)
theorem dX1_vale_48 : decode cX1_vale 48 = .ok (.iconst 0, 1) := dk_3 (dk_at dksX1_vale_2 0 rfl rfl)
theorem dX1_vale_49 : decode cX1_vale 49 = .ok (.putfield 114, 3) := dk_181 0 114 (dk_at dksX1_vale_2 1 rfl rfl)
theorem dX1_vale_52 : decode cX1_vale 52 = .ok (.aload_n 0, 1) := dk_42 (dk_at dksX1_vale_2 4 rfl rfl)
theorem dX1_vale_53 : decode cX1_vale 53 = .ok (.iconst 0, 1) := dk_3 (dk_at dksX1_vale_2 5 rfl rfl)
theorem dX1_vale_54 : decode cX1_vale 54 = .ok (.putfield 117, 3) := dk_181 0 117 (dk_at dksX1_vale_2 6 rfl rfl)
theorem dX1_vale_57 : decode cX1_vale 57 = .ok (.iconst 0, 1) := dk_3 (dk_at dksX1_vale_2 9 rfl rfl)
theorem dX1_vale_58 : decode cX1_vale 58 = .ok (.istore_n 1, 1) := dk_60 (dk_at dksX1_vale_2 10 rfl rfl)
theorem dX1_vale_59 : decode cX1_vale 59 = .ok (.iload_n 1, 1) := dk_27 (dk_at dksX1_vale_2 11 rfl rfl)
theorem dX1_vale_60 : decode cX1_vale 60 = .ok (.iconst 4, 1) := dk_7 (dk_at dksX1_vale_2 12 rfl rfl)
theorem dX1_vale_61 : decode cX1_vale 61 = .ok (.if_icmp .ge 16, 3) := dk_162 0 16 (dk_at dksX1_vale_2 13 rfl rfl)
theorem dX1_vale_64 : decode cX1_vale 64 = .ok (.aload_n 0, 1) := dk_42 (dk_at dksX1_vale_2 16 rfl rfl)
theorem dX1_vale_65 : decode cX1_vale 65 = .ok (.getfield 88, 3) := dk_180 0 88 (dk_at dksX1_vale_2 17 rfl rfl)
theorem dX1_vale_68 : decode cX1_vale 68 = .ok (.iload_n 1, 1) := dk_27 (dk_at dksX1_vale_2 20 rfl rfl)
theorem dX1_vale_69 : decode cX1_vale 69 = .ok (.aconst_null, 1) := dk_1 (dk_at dksX1_vale_2 21 rfl rfl)
theorem dX1_vale_70 : decode cX1_vale 70 = .ok (.aastore, 1) := dk_83 (dk_at dksX1_vale_2 22 rfl rfl)
theorem dX1_vale_71 : decode cX1_vale 71 = .ok (.iinc 1 1, 3) := dk_132 1 1 (dk_at dksX1_vale_3 0 rfl rfl)
theorem dX1_vale_74 : decode cX1_vale 74 = .ok (.goto (-15), 3) := dk_167 255 241 (dk_at dksX1_vale_3 3 rfl rfl)
theorem dX1_vale_77 : decode cX1_vale 77 = .ok (.iconst 0, 1) := dk_3 (dk_at dksX1_vale_3 6 rfl rfl)
theorem dX1_vale_78 : decode cX1_vale 78 = .ok (.ireturn, 1) := dk_172 (dk_at dksX1_vale_3 7 rfl rfl)
abbrev cX1_reads : ByteArray := prog_1_method_9_code
def yX1_reads : MethodName := ⟨RX1, "reads", "()V"⟩
def dkwX1_reads_0 : List UInt8 := [42, 180, 0, 28, 42, 180, 0, 21, 42, 180, 0, 96, 182, 0, 100, 42, 3, 181, 0, 96, 177]
abbrev dktX1_reads_0 : List UInt8 := dkwX1_reads_0 ++ []
theorem dksX1_reads_0 : cX1_reads.data.toList.drop 0 = dktX1_reads_0 := by decide +kernel
theorem dX1_reads_0 : decode cX1_reads 0 = .ok (.aload_n 0, 1) := dk_42 (dk_at dksX1_reads_0 0 rfl rfl)
theorem dX1_reads_1 : decode cX1_reads 1 = .ok (.getfield 28, 3) := dk_180 0 28 (dk_at dksX1_reads_0 1 rfl rfl)
theorem dX1_reads_4 : decode cX1_reads 4 = .ok (.aload_n 0, 1) := dk_42 (dk_at dksX1_reads_0 4 rfl rfl)
theorem dX1_reads_5 : decode cX1_reads 5 = .ok (.getfield 21, 3) := dk_180 0 21 (dk_at dksX1_reads_0 5 rfl rfl)
theorem dX1_reads_8 : decode cX1_reads 8 = .ok (.aload_n 0, 1) := dk_42 (dk_at dksX1_reads_0 8 rfl rfl)
theorem dX1_reads_9 : decode cX1_reads 9 = .ok (.getfield 96, 3) := dk_180 0 96 (dk_at dksX1_reads_0 9 rfl rfl)
theorem dX1_reads_12 : decode cX1_reads 12 = .ok (.invokevirtual 100, 3) := dk_182 0 100 (dk_at dksX1_reads_0 12 rfl rfl)
theorem dX1_reads_15 : decode cX1_reads 15 = .ok (.aload_n 0, 1) := dk_42 (dk_at dksX1_reads_0 15 rfl rfl)
theorem dX1_reads_16 : decode cX1_reads 16 = .ok (.iconst 0, 1) := dk_3 (dk_at dksX1_reads_0 16 rfl rfl)
theorem dX1_reads_17 : decode cX1_reads 17 = .ok (.putfield 96, 3) := dk_181 0 96 (dk_at dksX1_reads_0 17 rfl rfl)
theorem dX1_reads_20 : decode cX1_reads 20 = .ok (.return_, 1) := dk_177 (dk_at dksX1_reads_0 20 rfl rfl)
abbrev cX1_isIn : ByteArray := prog_1_method_3_code
def yX1_isIn : MethodName := ⟨RX1, "isIn", "(II)Z"⟩
def dkwX1_isIn_0 : List UInt8 := [26, 27, 122, 4, 126, 4, 160, 0, 7, 4, 167, 0, 4, 3, 172]
abbrev dktX1_isIn_0 : List UInt8 := dkwX1_isIn_0 ++ []
theorem dksX1_isIn_0 : cX1_isIn.data.toList.drop 0 = dktX1_isIn_0 := by decide +kernel
theorem dX1_isIn_0 : decode cX1_isIn 0 = .ok (.iload_n 0, 1) := dk_26 (dk_at dksX1_isIn_0 0 rfl rfl)
theorem dX1_isIn_1 : decode cX1_isIn 1 = .ok (.iload_n 1, 1) := dk_27 (dk_at dksX1_isIn_0 1 rfl rfl)
theorem dX1_isIn_2 : decode cX1_isIn 2 = .ok (.ishr, 1) := dk_122 (dk_at dksX1_isIn_0 2 rfl rfl)
theorem dX1_isIn_3 : decode cX1_isIn 3 = .ok (.iconst 1, 1) := dk_4 (dk_at dksX1_isIn_0 3 rfl rfl)
theorem dX1_isIn_4 : decode cX1_isIn 4 = .ok (.iand, 1) := dk_126 (dk_at dksX1_isIn_0 4 rfl rfl)
theorem dX1_isIn_5 : decode cX1_isIn 5 = .ok (.iconst 1, 1) := dk_4 (dk_at dksX1_isIn_0 5 rfl rfl)
theorem dX1_isIn_6 : decode cX1_isIn 6 = .ok (.if_icmp .ne 7, 3) := dk_160 0 7 (dk_at dksX1_isIn_0 6 rfl rfl)
theorem dX1_isIn_9 : decode cX1_isIn 9 = .ok (.iconst 1, 1) := dk_4 (dk_at dksX1_isIn_0 9 rfl rfl)
theorem dX1_isIn_10 : decode cX1_isIn 10 = .ok (.goto 4, 3) := dk_167 0 4 (dk_at dksX1_isIn_0 10 rfl rfl)
theorem dX1_isIn_13 : decode cX1_isIn 13 = .ok (.iconst 0, 1) := dk_3 (dk_at dksX1_isIn_0 13 rfl rfl)
theorem dX1_isIn_14 : decode cX1_isIn 14 = .ok (.ireturn, 1) := dk_172 (dk_at dksX1_isIn_0 14 rfl rfl)
abbrev cX1_year : ByteArray := prog_1_method_11_code
def yX1_year : MethodName := ⟨RX1, "year", "()I"⟩
def dkwX1_year_1 : List UInt8 := [180, 0, 111, 172, 3, 172]
abbrev dktX1_year_1 : List UInt8 := dkwX1_year_1 ++ []
def dkwX1_year_0 : List UInt8 := [42, 182, 0, 103, 42, 42, 180, 0, 28, 42, 180, 0, 35, 182, 0, 120, 181, 0, 44, 167, 0, 9, 76, 43]
abbrev dktX1_year_0 : List UInt8 := dkwX1_year_0 ++ dktX1_year_1
theorem dksX1_year_0 : cX1_year.data.toList.drop 0 = dktX1_year_0 := by decide +kernel
theorem dksX1_year_1 : cX1_year.data.toList.drop 24 = dktX1_year_1 := dk_seg dksX1_year_0 24 rfl rfl
theorem dX1_year_0 : decode cX1_year 0 = .ok (.aload_n 0, 1) := dk_42 (dk_at dksX1_year_0 0 rfl rfl)
theorem dX1_year_1 : decode cX1_year 1 = .ok (.invokevirtual 103, 3) := dk_182 0 103 (dk_at dksX1_year_0 1 rfl rfl)
theorem dX1_year_4 : decode cX1_year 4 = .ok (.aload_n 0, 1) := dk_42 (dk_at dksX1_year_0 4 rfl rfl)
theorem dX1_year_5 : decode cX1_year 5 = .ok (.aload_n 0, 1) := dk_42 (dk_at dksX1_year_0 5 rfl rfl)
theorem dX1_year_6 : decode cX1_year 6 = .ok (.getfield 28, 3) := dk_180 0 28 (dk_at dksX1_year_0 6 rfl rfl)
theorem dX1_year_9 : decode cX1_year 9 = .ok (.aload_n 0, 1) := dk_42 (dk_at dksX1_year_0 9 rfl rfl)
theorem dX1_year_10 : decode cX1_year 10 = .ok (.getfield 35, 3) := dk_180 0 35 (dk_at dksX1_year_0 10 rfl rfl)
theorem dX1_year_13 : decode cX1_year 13 = .ok (.invokevirtual 120, 3) := dk_182 0 120 (dk_at dksX1_year_0 13 rfl rfl)
theorem dX1_year_16 : decode cX1_year 16 = .ok (.putfield 44, 3) := dk_181 0 44 (dk_at dksX1_year_0 16 rfl rfl)
theorem dX1_year_19 : decode cX1_year 19 = .ok (.goto 9, 3) := dk_167 0 9 (dk_at dksX1_year_0 19 rfl rfl)
theorem dX1_year_22 : decode cX1_year 22 = .ok (.astore_n 1, 1) := dk_76 (dk_at dksX1_year_0 22 rfl rfl)
theorem dX1_year_23 : decode cX1_year 23 = .ok (.aload_n 1, 1) := dk_43 (dk_at dksX1_year_0 23 rfl rfl)
theorem dX1_year_24 : decode cX1_year 24 = .ok (.getfield 111, 3) := dk_180 0 111 (dk_at dksX1_year_1 0 rfl rfl)
theorem dX1_year_27 : decode cX1_year 27 = .ok (.ireturn, 1) := dk_172 (dk_at dksX1_year_1 3 rfl rfl)
theorem dX1_year_28 : decode cX1_year 28 = .ok (.iconst 0, 1) := dk_3 (dk_at dksX1_year_1 4 rfl rfl)
theorem dX1_year_29 : decode cX1_year 29 = .ok (.ireturn, 1) := dk_172 (dk_at dksX1_year_1 5 rfl rfl)
abbrev cX1_house : ByteArray := prog_1_method_24_code
def yX1_house : MethodName := ⟨RX1, "house", "(II)I"⟩
def dkwX1_house_3 : List UInt8 := [27, 182, 0, 167, 172, 42, 27, 182, 0, 180, 180, 0, 184, 172, 42, 27, 182, 0, 249, 172, 16, 254, 172]
abbrev dktX1_house_3 : List UInt8 := dkwX1_house_3 ++ []
def dkwX1_house_2 : List UInt8 := [42, 180, 0, 51, 180, 0, 151, 27, 46, 172, 42, 42, 180, 0, 51, 27, 182, 0, 163, 172, 42, 180, 0, 51]
abbrev dktX1_house_2 : List UInt8 := dkwX1_house_2 ++ dktX1_house_3
def dkwX1_house_1 : List UInt8 := [170, 0, 0, 0, 0, 0, 0, 80, 0, 0, 0, 0, 0, 0, 0, 4, 0, 0, 0, 36, 0, 0, 0, 46, 0, 0, 0, 56, 0, 0, 0, 65, 0, 0, 0, 74]
abbrev dktX1_house_1 : List UInt8 := dkwX1_house_1 ++ dktX1_house_2
def dkwX1_house_0 : List UInt8 := [42, 27, 182, 0, 245, 154, 0, 6, 16, 254, 172, 28]
abbrev dktX1_house_0 : List UInt8 := dkwX1_house_0 ++ dktX1_house_1
theorem dksX1_house_0 : cX1_house.data.toList.drop 0 = dktX1_house_0 := by decide +kernel
theorem dksX1_house_1 : cX1_house.data.toList.drop 12 = dktX1_house_1 := dk_seg dksX1_house_0 12 rfl rfl
theorem dksX1_house_2 : cX1_house.data.toList.drop 48 = dktX1_house_2 := dk_seg dksX1_house_1 36 rfl rfl
theorem dksX1_house_3 : cX1_house.data.toList.drop 72 = dktX1_house_3 := dk_seg dksX1_house_2 24 rfl rfl
theorem dX1_house_0 : decode cX1_house 0 = .ok (.aload_n 0, 1) := dk_42 (dk_at dksX1_house_0 0 rfl rfl)
theorem dX1_house_1 : decode cX1_house 1 = .ok (.iload_n 1, 1) := dk_27 (dk_at dksX1_house_0 1 rfl rfl)
theorem dX1_house_2 : decode cX1_house 2 = .ok (.invokevirtual 245, 3) := dk_182 0 245 (dk_at dksX1_house_0 2 rfl rfl)
theorem dX1_house_5 : decode cX1_house 5 = .ok (.ifCond .ne 6, 3) := dk_154 0 6 (dk_at dksX1_house_0 5 rfl rfl)
theorem dX1_house_8 : decode cX1_house 8 = .ok (.bipush (-2), 2) := dk_16 254 (dk_at dksX1_house_0 8 rfl rfl)
theorem dX1_house_10 : decode cX1_house 10 = .ok (.ireturn, 1) := dk_172 (dk_at dksX1_house_0 10 rfl rfl)
theorem dX1_house_11 : decode cX1_house 11 = .ok (.iload_n 2, 1) := dk_28 (dk_at dksX1_house_0 11 rfl rfl)
theorem dX1_house_12 : decode cX1_house 12 = .ok (.tableswitch 80 0 4 #[36, 46, 56, 65, 74], 36) := by decide +kernel
theorem dX1_house_48 : decode cX1_house 48 = .ok (.aload_n 0, 1) := dk_42 (dk_at dksX1_house_2 0 rfl rfl)
theorem dX1_house_49 : decode cX1_house 49 = .ok (.getfield 51, 3) := dk_180 0 51 (dk_at dksX1_house_2 1 rfl rfl)
theorem dX1_house_52 : decode cX1_house 52 = .ok (.getfield 151, 3) := dk_180 0 151 (dk_at dksX1_house_2 4 rfl rfl)
theorem dX1_house_55 : decode cX1_house 55 = .ok (.iload_n 1, 1) := dk_27 (dk_at dksX1_house_2 7 rfl rfl)
theorem dX1_house_56 : decode cX1_house 56 = .ok (.iaload, 1) := dk_46 (dk_at dksX1_house_2 8 rfl rfl)
theorem dX1_house_57 : decode cX1_house 57 = .ok (.ireturn, 1) := dk_172 (dk_at dksX1_house_2 9 rfl rfl)
theorem dX1_house_58 : decode cX1_house 58 = .ok (.aload_n 0, 1) := dk_42 (dk_at dksX1_house_2 10 rfl rfl)
theorem dX1_house_59 : decode cX1_house 59 = .ok (.aload_n 0, 1) := dk_42 (dk_at dksX1_house_2 11 rfl rfl)
theorem dX1_house_60 : decode cX1_house 60 = .ok (.getfield 51, 3) := dk_180 0 51 (dk_at dksX1_house_2 12 rfl rfl)
theorem dX1_house_63 : decode cX1_house 63 = .ok (.iload_n 1, 1) := dk_27 (dk_at dksX1_house_2 15 rfl rfl)
theorem dX1_house_64 : decode cX1_house 64 = .ok (.invokevirtual 163, 3) := dk_182 0 163 (dk_at dksX1_house_2 16 rfl rfl)
theorem dX1_house_67 : decode cX1_house 67 = .ok (.ireturn, 1) := dk_172 (dk_at dksX1_house_2 19 rfl rfl)
theorem dX1_house_68 : decode cX1_house 68 = .ok (.aload_n 0, 1) := dk_42 (dk_at dksX1_house_2 20 rfl rfl)
theorem dX1_house_69 : decode cX1_house 69 = .ok (.getfield 51, 3) := dk_180 0 51 (dk_at dksX1_house_2 21 rfl rfl)
theorem dX1_house_72 : decode cX1_house 72 = .ok (.iload_n 1, 1) := dk_27 (dk_at dksX1_house_3 0 rfl rfl)
theorem dX1_house_73 : decode cX1_house 73 = .ok (.invokevirtual 167, 3) := dk_182 0 167 (dk_at dksX1_house_3 1 rfl rfl)
theorem dX1_house_76 : decode cX1_house 76 = .ok (.ireturn, 1) := dk_172 (dk_at dksX1_house_3 4 rfl rfl)
theorem dX1_house_77 : decode cX1_house 77 = .ok (.aload_n 0, 1) := dk_42 (dk_at dksX1_house_3 5 rfl rfl)
theorem dX1_house_78 : decode cX1_house 78 = .ok (.iload_n 1, 1) := dk_27 (dk_at dksX1_house_3 6 rfl rfl)
theorem dX1_house_79 : decode cX1_house 79 = .ok (.invokevirtual 180, 3) := dk_182 0 180 (dk_at dksX1_house_3 7 rfl rfl)
theorem dX1_house_82 : decode cX1_house 82 = .ok (.getfield 184, 3) := dk_180 0 184 (dk_at dksX1_house_3 10 rfl rfl)
theorem dX1_house_85 : decode cX1_house 85 = .ok (.ireturn, 1) := dk_172 (dk_at dksX1_house_3 13 rfl rfl)
theorem dX1_house_86 : decode cX1_house 86 = .ok (.aload_n 0, 1) := dk_42 (dk_at dksX1_house_3 14 rfl rfl)
theorem dX1_house_87 : decode cX1_house 87 = .ok (.iload_n 1, 1) := dk_27 (dk_at dksX1_house_3 15 rfl rfl)
theorem dX1_house_88 : decode cX1_house 88 = .ok (.invokevirtual 249, 3) := dk_182 0 249 (dk_at dksX1_house_3 16 rfl rfl)
theorem dX1_house_91 : decode cX1_house 91 = .ok (.ireturn, 1) := dk_172 (dk_at dksX1_house_3 19 rfl rfl)
theorem dX1_house_92 : decode cX1_house 92 = .ok (.bipush (-2), 2) := dk_16 254 (dk_at dksX1_house_3 20 rfl rfl)
theorem dX1_house_94 : decode cX1_house 94 = .ok (.ireturn, 1) := dk_172 (dk_at dksX1_house_3 22 rfl rfl)
abbrev cX1_isHouse : ByteArray := prog_1_method_16_code
def yX1_isHouse : MethodName := ⟨RX1, "isHouse", "(I)Z"⟩
def dkwX1_isHouse_0 : List UInt8 := [27, 3, 42, 182, 0, 142, 4, 100, 184, 0, 145, 172]
abbrev dktX1_isHouse_0 : List UInt8 := dkwX1_isHouse_0 ++ []
theorem dksX1_isHouse_0 : cX1_isHouse.data.toList.drop 0 = dktX1_isHouse_0 := by decide +kernel
theorem dX1_isHouse_0 : decode cX1_isHouse 0 = .ok (.iload_n 1, 1) := dk_27 (dk_at dksX1_isHouse_0 0 rfl rfl)
theorem dX1_isHouse_1 : decode cX1_isHouse 1 = .ok (.iconst 0, 1) := dk_3 (dk_at dksX1_isHouse_0 1 rfl rfl)
theorem dX1_isHouse_2 : decode cX1_isHouse 2 = .ok (.aload_n 0, 1) := dk_42 (dk_at dksX1_isHouse_0 2 rfl rfl)
theorem dX1_isHouse_3 : decode cX1_isHouse 3 = .ok (.invokevirtual 142, 3) := dk_182 0 142 (dk_at dksX1_isHouse_0 3 rfl rfl)
theorem dX1_isHouse_6 : decode cX1_isHouse 6 = .ok (.iconst 1, 1) := dk_4 (dk_at dksX1_isHouse_0 6 rfl rfl)
theorem dX1_isHouse_7 : decode cX1_isHouse 7 = .ok (.isub, 1) := dk_100 (dk_at dksX1_isHouse_0 7 rfl rfl)
theorem dX1_isHouse_8 : decode cX1_isHouse 8 = .ok (.invokestatic 145, 3) := dk_184 0 145 (dk_at dksX1_isHouse_0 8 rfl rfl)
theorem dX1_isHouse_11 : decode cX1_isHouse 11 = .ok (.ireturn, 1) := dk_172 (dk_at dksX1_isHouse_0 11 rfl rfl)
abbrev cX1_houses : ByteArray := prog_1_method_12_code
def yX1_houses : MethodName := ⟨RX1, "houses", "()I"⟩
def dkwX1_houses_0 : List UInt8 := [42, 180, 0, 35, 180, 0, 124, 182, 0, 127, 172]
abbrev dktX1_houses_0 : List UInt8 := dkwX1_houses_0 ++ []
theorem dksX1_houses_0 : cX1_houses.data.toList.drop 0 = dktX1_houses_0 := by decide +kernel
theorem dX1_houses_0 : decode cX1_houses 0 = .ok (.aload_n 0, 1) := dk_42 (dk_at dksX1_houses_0 0 rfl rfl)
theorem dX1_houses_1 : decode cX1_houses 1 = .ok (.getfield 35, 3) := dk_180 0 35 (dk_at dksX1_houses_0 1 rfl rfl)
theorem dX1_houses_4 : decode cX1_houses 4 = .ok (.getfield 124, 3) := dk_180 0 124 (dk_at dksX1_houses_0 4 rfl rfl)
theorem dX1_houses_7 : decode cX1_houses 7 = .ok (.invokevirtual 127, 3) := dk_182 0 127 (dk_at dksX1_houses_0 7 rfl rfl)
theorem dX1_houses_10 : decode cX1_houses 10 = .ok (.ireturn, 1) := dk_172 (dk_at dksX1_houses_0 10 rfl rfl)
abbrev cX1_in : ByteArray := prog_1_method_1_code
def yX1_in : MethodName := ⟨RX1, "in", "(III)Z"⟩
def dkwX1_in_0 : List UInt8 := [26, 27, 161, 0, 12, 26, 28, 163, 0, 7, 4, 167, 0, 4, 3, 172]
abbrev dktX1_in_0 : List UInt8 := dkwX1_in_0 ++ []
theorem dksX1_in_0 : cX1_in.data.toList.drop 0 = dktX1_in_0 := by decide +kernel
theorem dX1_in_0 : decode cX1_in 0 = .ok (.iload_n 0, 1) := dk_26 (dk_at dksX1_in_0 0 rfl rfl)
theorem dX1_in_1 : decode cX1_in 1 = .ok (.iload_n 1, 1) := dk_27 (dk_at dksX1_in_0 1 rfl rfl)
theorem dX1_in_2 : decode cX1_in 2 = .ok (.if_icmp .lt 12, 3) := dk_161 0 12 (dk_at dksX1_in_0 2 rfl rfl)
theorem dX1_in_5 : decode cX1_in 5 = .ok (.iload_n 0, 1) := dk_26 (dk_at dksX1_in_0 5 rfl rfl)
theorem dX1_in_6 : decode cX1_in 6 = .ok (.iload_n 2, 1) := dk_28 (dk_at dksX1_in_0 6 rfl rfl)
theorem dX1_in_7 : decode cX1_in 7 = .ok (.if_icmp .gt 7, 3) := dk_163 0 7 (dk_at dksX1_in_0 7 rfl rfl)
theorem dX1_in_10 : decode cX1_in 10 = .ok (.iconst 1, 1) := dk_4 (dk_at dksX1_in_0 10 rfl rfl)
theorem dX1_in_11 : decode cX1_in 11 = .ok (.goto 4, 3) := dk_167 0 4 (dk_at dksX1_in_0 11 rfl rfl)
theorem dX1_in_14 : decode cX1_in 14 = .ok (.iconst 0, 1) := dk_3 (dk_at dksX1_in_0 14 rfl rfl)
theorem dX1_in_15 : decode cX1_in 15 = .ok (.ireturn, 1) := dk_172 (dk_at dksX1_in_0 15 rfl rfl)
abbrev cX1_freeIn : ByteArray := prog_1_method_18_code
def yX1_freeIn : MethodName := ⟨RX1, "freeIn", "(LDateVale$State;I)I"⟩
def dkwX1_freeIn_2 : List UInt8 := [167, 255, 221, 29, 172]
abbrev dktX1_freeIn_2 : List UInt8 := dkwX1_freeIn_2 ++ []
def dkwX1_freeIn_1 : List UInt8 := [21, 4, 46, 28, 160, 0, 15, 29, 42, 21, 4, 182, 0, 157, 182, 0, 161, 100, 62, 132, 4, 1]
abbrev dktX1_freeIn_1 : List UInt8 := dkwX1_freeIn_1 ++ dktX1_freeIn_2
def dkwX1_freeIn_0 : List UInt8 := [43, 180, 0, 151, 28, 46, 62, 3, 54, 4, 21, 4, 42, 182, 0, 149, 162, 0, 32, 43, 180, 0, 154]
abbrev dktX1_freeIn_0 : List UInt8 := dkwX1_freeIn_0 ++ dktX1_freeIn_1
theorem dksX1_freeIn_0 : cX1_freeIn.data.toList.drop 0 = dktX1_freeIn_0 := by decide +kernel
theorem dksX1_freeIn_1 : cX1_freeIn.data.toList.drop 23 = dktX1_freeIn_1 := dk_seg dksX1_freeIn_0 23 rfl rfl
theorem dksX1_freeIn_2 : cX1_freeIn.data.toList.drop 45 = dktX1_freeIn_2 := dk_seg dksX1_freeIn_1 22 rfl rfl
theorem dX1_freeIn_0 : decode cX1_freeIn 0 = .ok (.aload_n 1, 1) := dk_43 (dk_at dksX1_freeIn_0 0 rfl rfl)
theorem dX1_freeIn_1 : decode cX1_freeIn 1 = .ok (.getfield 151, 3) := dk_180 0 151 (dk_at dksX1_freeIn_0 1 rfl rfl)
theorem dX1_freeIn_4 : decode cX1_freeIn 4 = .ok (.iload_n 2, 1) := dk_28 (dk_at dksX1_freeIn_0 4 rfl rfl)
theorem dX1_freeIn_5 : decode cX1_freeIn 5 = .ok (.iaload, 1) := dk_46 (dk_at dksX1_freeIn_0 5 rfl rfl)
theorem dX1_freeIn_6 : decode cX1_freeIn 6 = .ok (.istore_n 3, 1) := dk_62 (dk_at dksX1_freeIn_0 6 rfl rfl)
theorem dX1_freeIn_7 : decode cX1_freeIn 7 = .ok (.iconst 0, 1) := dk_3 (dk_at dksX1_freeIn_0 7 rfl rfl)
theorem dX1_freeIn_8 : decode cX1_freeIn 8 = .ok (.istore 4, 2) := dk_54 4 (dk_at dksX1_freeIn_0 8 rfl rfl)
theorem dX1_freeIn_10 : decode cX1_freeIn 10 = .ok (.iload 4, 2) := dk_21 4 (dk_at dksX1_freeIn_0 10 rfl rfl)
theorem dX1_freeIn_12 : decode cX1_freeIn 12 = .ok (.aload_n 0, 1) := dk_42 (dk_at dksX1_freeIn_0 12 rfl rfl)
theorem dX1_freeIn_13 : decode cX1_freeIn 13 = .ok (.invokevirtual 149, 3) := dk_182 0 149 (dk_at dksX1_freeIn_0 13 rfl rfl)
theorem dX1_freeIn_16 : decode cX1_freeIn 16 = .ok (.if_icmp .ge 32, 3) := dk_162 0 32 (dk_at dksX1_freeIn_0 16 rfl rfl)
theorem dX1_freeIn_19 : decode cX1_freeIn 19 = .ok (.aload_n 1, 1) := dk_43 (dk_at dksX1_freeIn_0 19 rfl rfl)
theorem dX1_freeIn_20 : decode cX1_freeIn 20 = .ok (.getfield 154, 3) := dk_180 0 154 (dk_at dksX1_freeIn_0 20 rfl rfl)
theorem dX1_freeIn_23 : decode cX1_freeIn 23 = .ok (.iload 4, 2) := dk_21 4 (dk_at dksX1_freeIn_1 0 rfl rfl)
theorem dX1_freeIn_25 : decode cX1_freeIn 25 = .ok (.iaload, 1) := dk_46 (dk_at dksX1_freeIn_1 2 rfl rfl)
theorem dX1_freeIn_26 : decode cX1_freeIn 26 = .ok (.iload_n 2, 1) := dk_28 (dk_at dksX1_freeIn_1 3 rfl rfl)
theorem dX1_freeIn_27 : decode cX1_freeIn 27 = .ok (.if_icmp .ne 15, 3) := dk_160 0 15 (dk_at dksX1_freeIn_1 4 rfl rfl)
theorem dX1_freeIn_30 : decode cX1_freeIn 30 = .ok (.iload_n 3, 1) := dk_29 (dk_at dksX1_freeIn_1 7 rfl rfl)
theorem dX1_freeIn_31 : decode cX1_freeIn 31 = .ok (.aload_n 0, 1) := dk_42 (dk_at dksX1_freeIn_1 8 rfl rfl)
theorem dX1_freeIn_32 : decode cX1_freeIn 32 = .ok (.iload 4, 2) := dk_21 4 (dk_at dksX1_freeIn_1 9 rfl rfl)
theorem dX1_freeIn_34 : decode cX1_freeIn 34 = .ok (.invokevirtual 157, 3) := dk_182 0 157 (dk_at dksX1_freeIn_1 11 rfl rfl)
theorem dX1_freeIn_37 : decode cX1_freeIn 37 = .ok (.invokevirtual 161, 3) := dk_182 0 161 (dk_at dksX1_freeIn_1 14 rfl rfl)
theorem dX1_freeIn_40 : decode cX1_freeIn 40 = .ok (.isub, 1) := dk_100 (dk_at dksX1_freeIn_1 17 rfl rfl)
theorem dX1_freeIn_41 : decode cX1_freeIn 41 = .ok (.istore_n 3, 1) := dk_62 (dk_at dksX1_freeIn_1 18 rfl rfl)
theorem dX1_freeIn_42 : decode cX1_freeIn 42 = .ok (.iinc 4 1, 3) := dk_132 4 1 (dk_at dksX1_freeIn_1 19 rfl rfl)
theorem dX1_freeIn_45 : decode cX1_freeIn 45 = .ok (.goto (-35), 3) := dk_167 255 221 (dk_at dksX1_freeIn_2 0 rfl rfl)
theorem dX1_freeIn_48 : decode cX1_freeIn 48 = .ok (.iload_n 3, 1) := dk_29 (dk_at dksX1_freeIn_2 3 rfl rfl)
theorem dX1_freeIn_49 : decode cX1_freeIn 49 = .ok (.ireturn, 1) := dk_172 (dk_at dksX1_freeIn_2 4 rfl rfl)
abbrev cX1_guests : ByteArray := prog_1_method_14_code
def yX1_guests : MethodName := ⟨RX1, "guests", "()I"⟩
def dkwX1_guests_0 : List UInt8 := [42, 180, 0, 35, 180, 0, 137, 182, 0, 127, 172]
abbrev dktX1_guests_0 : List UInt8 := dkwX1_guests_0 ++ []
theorem dksX1_guests_0 : cX1_guests.data.toList.drop 0 = dktX1_guests_0 := by decide +kernel
theorem dX1_guests_0 : decode cX1_guests 0 = .ok (.aload_n 0, 1) := dk_42 (dk_at dksX1_guests_0 0 rfl rfl)
theorem dX1_guests_1 : decode cX1_guests 1 = .ok (.getfield 35, 3) := dk_180 0 35 (dk_at dksX1_guests_0 1 rfl rfl)
theorem dX1_guests_4 : decode cX1_guests 4 = .ok (.getfield 137, 3) := dk_180 0 137 (dk_at dksX1_guests_0 4 rfl rfl)
theorem dX1_guests_7 : decode cX1_guests 7 = .ok (.invokevirtual 127, 3) := dk_182 0 127 (dk_at dksX1_guests_0 7 rfl rfl)
theorem dX1_guests_10 : decode cX1_guests 10 = .ok (.ireturn, 1) := dk_172 (dk_at dksX1_guests_0 10 rfl rfl)
abbrev cX1_guest : ByteArray := prog_1_method_15_code
def yX1_guest : MethodName := ⟨RX1, "guest", "(I)LDateVale$Guest;"⟩
def dkwX1_guest_0 : List UInt8 := [42, 180, 0, 35, 180, 0, 137, 27, 182, 0, 131, 192, 0, 140, 176]
abbrev dktX1_guest_0 : List UInt8 := dkwX1_guest_0 ++ []
theorem dksX1_guest_0 : cX1_guest.data.toList.drop 0 = dktX1_guest_0 := by decide +kernel
theorem dX1_guest_0 : decode cX1_guest 0 = .ok (.aload_n 0, 1) := dk_42 (dk_at dksX1_guest_0 0 rfl rfl)
theorem dX1_guest_1 : decode cX1_guest 1 = .ok (.getfield 35, 3) := dk_180 0 35 (dk_at dksX1_guest_0 1 rfl rfl)
theorem dX1_guest_4 : decode cX1_guest 4 = .ok (.getfield 137, 3) := dk_180 0 137 (dk_at dksX1_guest_0 4 rfl rfl)
theorem dX1_guest_7 : decode cX1_guest 7 = .ok (.iload_n 1, 1) := dk_27 (dk_at dksX1_guest_0 7 rfl rfl)
theorem dX1_guest_8 : decode cX1_guest 8 = .ok (.invokevirtual 131, 3) := dk_182 0 131 (dk_at dksX1_guest_0 8 rfl rfl)
theorem dX1_guest_11 : decode cX1_guest 11 = .ok (.checkcast 140, 3) := dk_192 0 140 (dk_at dksX1_guest_0 11 rfl rfl)
theorem dX1_guest_14 : decode cX1_guest 14 = .ok (.areturn, 1) := dk_176 (dk_at dksX1_guest_0 14 rfl rfl)
abbrev cX1_home : ByteArray := prog_1_method_13_code
def yX1_home : MethodName := ⟨RX1, "home", "(I)LDateVale$Home;"⟩
def dkwX1_home_0 : List UInt8 := [42, 180, 0, 35, 180, 0, 124, 27, 182, 0, 131, 192, 0, 135, 176]
abbrev dktX1_home_0 : List UInt8 := dkwX1_home_0 ++ []
theorem dksX1_home_0 : cX1_home.data.toList.drop 0 = dktX1_home_0 := by decide +kernel
theorem dX1_home_0 : decode cX1_home 0 = .ok (.aload_n 0, 1) := dk_42 (dk_at dksX1_home_0 0 rfl rfl)
theorem dX1_home_1 : decode cX1_home 1 = .ok (.getfield 35, 3) := dk_180 0 35 (dk_at dksX1_home_0 1 rfl rfl)
theorem dX1_home_4 : decode cX1_home 4 = .ok (.getfield 124, 3) := dk_180 0 124 (dk_at dksX1_home_0 4 rfl rfl)
theorem dX1_home_7 : decode cX1_home 7 = .ok (.iload_n 1, 1) := dk_27 (dk_at dksX1_home_0 7 rfl rfl)
theorem dX1_home_8 : decode cX1_home 8 = .ok (.invokevirtual 131, 3) := dk_182 0 131 (dk_at dksX1_home_0 8 rfl rfl)
theorem dX1_home_11 : decode cX1_home 11 = .ok (.checkcast 135, 3) := dk_192 0 135 (dk_at dksX1_home_0 11 rfl rfl)
theorem dX1_home_14 : decode cX1_home 14 = .ok (.areturn, 1) := dk_176 (dk_at dksX1_home_0 14 rfl rfl)
abbrev cX1_talk : ByteArray := prog_1_method_23_code
def yX1_talk : MethodName := ⟨RX1, "talk", "(I)I"⟩
def dkwX1_talk_1 : List UInt8 := [160, 0, 15, 28, 42, 180, 0, 51, 180, 0, 208, 29, 46, 96, 61, 132, 3, 1, 167, 255, 220, 28, 172]
abbrev dktX1_talk_1 : List UInt8 := dkwX1_talk_1 ++ []
def dkwX1_talk_0 : List UInt8 := [3, 61, 3, 62, 29, 42, 182, 0, 149, 162, 0, 34, 42, 180, 0, 51, 180, 0, 154, 29, 46, 27]
abbrev dktX1_talk_0 : List UInt8 := dkwX1_talk_0 ++ dktX1_talk_1
theorem dksX1_talk_0 : cX1_talk.data.toList.drop 0 = dktX1_talk_0 := by decide +kernel
theorem dksX1_talk_1 : cX1_talk.data.toList.drop 22 = dktX1_talk_1 := dk_seg dksX1_talk_0 22 rfl rfl
theorem dX1_talk_0 : decode cX1_talk 0 = .ok (.iconst 0, 1) := dk_3 (dk_at dksX1_talk_0 0 rfl rfl)
theorem dX1_talk_1 : decode cX1_talk 1 = .ok (.istore_n 2, 1) := dk_61 (dk_at dksX1_talk_0 1 rfl rfl)
theorem dX1_talk_2 : decode cX1_talk 2 = .ok (.iconst 0, 1) := dk_3 (dk_at dksX1_talk_0 2 rfl rfl)
theorem dX1_talk_3 : decode cX1_talk 3 = .ok (.istore_n 3, 1) := dk_62 (dk_at dksX1_talk_0 3 rfl rfl)
theorem dX1_talk_4 : decode cX1_talk 4 = .ok (.iload_n 3, 1) := dk_29 (dk_at dksX1_talk_0 4 rfl rfl)
theorem dX1_talk_5 : decode cX1_talk 5 = .ok (.aload_n 0, 1) := dk_42 (dk_at dksX1_talk_0 5 rfl rfl)
theorem dX1_talk_6 : decode cX1_talk 6 = .ok (.invokevirtual 149, 3) := dk_182 0 149 (dk_at dksX1_talk_0 6 rfl rfl)
theorem dX1_talk_9 : decode cX1_talk 9 = .ok (.if_icmp .ge 34, 3) := dk_162 0 34 (dk_at dksX1_talk_0 9 rfl rfl)
theorem dX1_talk_12 : decode cX1_talk 12 = .ok (.aload_n 0, 1) := dk_42 (dk_at dksX1_talk_0 12 rfl rfl)
theorem dX1_talk_13 : decode cX1_talk 13 = .ok (.getfield 51, 3) := dk_180 0 51 (dk_at dksX1_talk_0 13 rfl rfl)
theorem dX1_talk_16 : decode cX1_talk 16 = .ok (.getfield 154, 3) := dk_180 0 154 (dk_at dksX1_talk_0 16 rfl rfl)
theorem dX1_talk_19 : decode cX1_talk 19 = .ok (.iload_n 3, 1) := dk_29 (dk_at dksX1_talk_0 19 rfl rfl)
theorem dX1_talk_20 : decode cX1_talk 20 = .ok (.iaload, 1) := dk_46 (dk_at dksX1_talk_0 20 rfl rfl)
theorem dX1_talk_21 : decode cX1_talk 21 = .ok (.iload_n 1, 1) := dk_27 (dk_at dksX1_talk_0 21 rfl rfl)
theorem dX1_talk_22 : decode cX1_talk 22 = .ok (.if_icmp .ne 15, 3) := dk_160 0 15 (dk_at dksX1_talk_1 0 rfl rfl)
theorem dX1_talk_25 : decode cX1_talk 25 = .ok (.iload_n 2, 1) := dk_28 (dk_at dksX1_talk_1 3 rfl rfl)
theorem dX1_talk_26 : decode cX1_talk 26 = .ok (.aload_n 0, 1) := dk_42 (dk_at dksX1_talk_1 4 rfl rfl)
theorem dX1_talk_27 : decode cX1_talk 27 = .ok (.getfield 51, 3) := dk_180 0 51 (dk_at dksX1_talk_1 5 rfl rfl)
theorem dX1_talk_30 : decode cX1_talk 30 = .ok (.getfield 208, 3) := dk_180 0 208 (dk_at dksX1_talk_1 8 rfl rfl)
theorem dX1_talk_33 : decode cX1_talk 33 = .ok (.iload_n 3, 1) := dk_29 (dk_at dksX1_talk_1 11 rfl rfl)
theorem dX1_talk_34 : decode cX1_talk 34 = .ok (.iaload, 1) := dk_46 (dk_at dksX1_talk_1 12 rfl rfl)
theorem dX1_talk_35 : decode cX1_talk 35 = .ok (.iadd, 1) := dk_96 (dk_at dksX1_talk_1 13 rfl rfl)
theorem dX1_talk_36 : decode cX1_talk 36 = .ok (.istore_n 2, 1) := dk_61 (dk_at dksX1_talk_1 14 rfl rfl)
theorem dX1_talk_37 : decode cX1_talk 37 = .ok (.iinc 3 1, 3) := dk_132 3 1 (dk_at dksX1_talk_1 15 rfl rfl)
theorem dX1_talk_40 : decode cX1_talk 40 = .ok (.goto (-36), 3) := dk_167 255 220 (dk_at dksX1_talk_1 18 rfl rfl)
theorem dX1_talk_43 : decode cX1_talk 43 = .ok (.iload_n 2, 1) := dk_28 (dk_at dksX1_talk_1 21 rfl rfl)
theorem dX1_talk_44 : decode cX1_talk 44 = .ok (.ireturn, 1) := dk_172 (dk_at dksX1_talk_1 22 rfl rfl)
abbrev cX1_day : ByteArray := prog_1_method_25_code
def yX1_day : MethodName := ⟨RX1, "day", "(II)I"⟩
def dkwX1_day_5 : List UInt8 := [182, 0, 157, 180, 0, 170, 172, 16, 254, 172]
abbrev dktX1_day_5 : List UInt8 := dkwX1_day_5 ++ []
def dkwX1_day_4 : List UInt8 := [42, 180, 0, 51, 180, 0, 199, 27, 46, 172, 42, 180, 0, 51, 180, 0, 223, 27, 46, 172, 42, 27]
abbrev dktX1_day_4 : List UInt8 := dkwX1_day_4 ++ dktX1_day_5
def dkwX1_day_3 : List UInt8 := [180, 1, 2, 172, 42, 180, 0, 51, 180, 0, 208, 27, 46, 172, 42, 180, 0, 51, 180, 0, 154, 27, 46, 172]
abbrev dktX1_day_3 : List UInt8 := dkwX1_day_3 ++ dktX1_day_4
def dkwX1_day_2 : List UInt8 := [42, 27, 182, 0, 157, 182, 0, 255, 172, 42, 27, 182, 0, 157, 180, 0, 177, 172, 42, 27, 182, 0, 157]
abbrev dktX1_day_2 : List UInt8 := dkwX1_day_2 ++ dktX1_day_3
def dkwX1_day_1 : List UInt8 := [170, 0, 0, 0, 0, 0, 0, 124, 0, 0, 0, 0, 0, 0, 0, 7, 0, 0, 0, 48, 0, 0, 0, 57, 0, 0, 0, 66, 0, 0, 0, 75, 0, 0, 0, 85, 0, 0, 0, 95, 0, 0, 0, 105, 0, 0, 0, 115]
abbrev dktX1_day_1 : List UInt8 := dkwX1_day_1 ++ dktX1_day_2
def dkwX1_day_0 : List UInt8 := [42, 27, 182, 0, 252, 154, 0, 6, 16, 254, 172, 28]
abbrev dktX1_day_0 : List UInt8 := dkwX1_day_0 ++ dktX1_day_1
theorem dksX1_day_0 : cX1_day.data.toList.drop 0 = dktX1_day_0 := by decide +kernel
theorem dksX1_day_1 : cX1_day.data.toList.drop 12 = dktX1_day_1 := dk_seg dksX1_day_0 12 rfl rfl
theorem dksX1_day_2 : cX1_day.data.toList.drop 60 = dktX1_day_2 := dk_seg dksX1_day_1 48 rfl rfl
theorem dksX1_day_3 : cX1_day.data.toList.drop 83 = dktX1_day_3 := dk_seg dksX1_day_2 23 rfl rfl
theorem dksX1_day_4 : cX1_day.data.toList.drop 107 = dktX1_day_4 := dk_seg dksX1_day_3 24 rfl rfl
theorem dksX1_day_5 : cX1_day.data.toList.drop 129 = dktX1_day_5 := dk_seg dksX1_day_4 22 rfl rfl
theorem dX1_day_0 : decode cX1_day 0 = .ok (.aload_n 0, 1) := dk_42 (dk_at dksX1_day_0 0 rfl rfl)
theorem dX1_day_1 : decode cX1_day 1 = .ok (.iload_n 1, 1) := dk_27 (dk_at dksX1_day_0 1 rfl rfl)
theorem dX1_day_2 : decode cX1_day 2 = .ok (.invokevirtual 252, 3) := dk_182 0 252 (dk_at dksX1_day_0 2 rfl rfl)
theorem dX1_day_5 : decode cX1_day 5 = .ok (.ifCond .ne 6, 3) := dk_154 0 6 (dk_at dksX1_day_0 5 rfl rfl)
theorem dX1_day_8 : decode cX1_day 8 = .ok (.bipush (-2), 2) := dk_16 254 (dk_at dksX1_day_0 8 rfl rfl)
theorem dX1_day_10 : decode cX1_day 10 = .ok (.ireturn, 1) := dk_172 (dk_at dksX1_day_0 10 rfl rfl)
theorem dX1_day_11 : decode cX1_day 11 = .ok (.iload_n 2, 1) := dk_28 (dk_at dksX1_day_0 11 rfl rfl)
theorem dX1_day_12 : decode cX1_day 12 = .ok (.tableswitch 124 0 7 #[48, 57, 66, 75, 85, 95, 105, 115], 48) := by decide +kernel
theorem dX1_day_60 : decode cX1_day 60 = .ok (.aload_n 0, 1) := dk_42 (dk_at dksX1_day_2 0 rfl rfl)
theorem dX1_day_61 : decode cX1_day 61 = .ok (.iload_n 1, 1) := dk_27 (dk_at dksX1_day_2 1 rfl rfl)
theorem dX1_day_62 : decode cX1_day 62 = .ok (.invokevirtual 157, 3) := dk_182 0 157 (dk_at dksX1_day_2 2 rfl rfl)
theorem dX1_day_65 : decode cX1_day 65 = .ok (.invokevirtual 255, 3) := dk_182 0 255 (dk_at dksX1_day_2 5 rfl rfl)
theorem dX1_day_68 : decode cX1_day 68 = .ok (.ireturn, 1) := dk_172 (dk_at dksX1_day_2 8 rfl rfl)
theorem dX1_day_69 : decode cX1_day 69 = .ok (.aload_n 0, 1) := dk_42 (dk_at dksX1_day_2 9 rfl rfl)
theorem dX1_day_70 : decode cX1_day 70 = .ok (.iload_n 1, 1) := dk_27 (dk_at dksX1_day_2 10 rfl rfl)
theorem dX1_day_71 : decode cX1_day 71 = .ok (.invokevirtual 157, 3) := dk_182 0 157 (dk_at dksX1_day_2 11 rfl rfl)
theorem dX1_day_74 : decode cX1_day 74 = .ok (.getfield 177, 3) := dk_180 0 177 (dk_at dksX1_day_2 14 rfl rfl)
theorem dX1_day_77 : decode cX1_day 77 = .ok (.ireturn, 1) := dk_172 (dk_at dksX1_day_2 17 rfl rfl)
theorem dX1_day_78 : decode cX1_day 78 = .ok (.aload_n 0, 1) := dk_42 (dk_at dksX1_day_2 18 rfl rfl)
theorem dX1_day_79 : decode cX1_day 79 = .ok (.iload_n 1, 1) := dk_27 (dk_at dksX1_day_2 19 rfl rfl)
theorem dX1_day_80 : decode cX1_day 80 = .ok (.invokevirtual 157, 3) := dk_182 0 157 (dk_at dksX1_day_2 20 rfl rfl)
theorem dX1_day_83 : decode cX1_day 83 = .ok (.getfield 258, 3) := dk_180 1 2 (dk_at dksX1_day_3 0 rfl rfl)
theorem dX1_day_86 : decode cX1_day 86 = .ok (.ireturn, 1) := dk_172 (dk_at dksX1_day_3 3 rfl rfl)
theorem dX1_day_87 : decode cX1_day 87 = .ok (.aload_n 0, 1) := dk_42 (dk_at dksX1_day_3 4 rfl rfl)
theorem dX1_day_88 : decode cX1_day 88 = .ok (.getfield 51, 3) := dk_180 0 51 (dk_at dksX1_day_3 5 rfl rfl)
theorem dX1_day_91 : decode cX1_day 91 = .ok (.getfield 208, 3) := dk_180 0 208 (dk_at dksX1_day_3 8 rfl rfl)
theorem dX1_day_94 : decode cX1_day 94 = .ok (.iload_n 1, 1) := dk_27 (dk_at dksX1_day_3 11 rfl rfl)
theorem dX1_day_95 : decode cX1_day 95 = .ok (.iaload, 1) := dk_46 (dk_at dksX1_day_3 12 rfl rfl)
theorem dX1_day_96 : decode cX1_day 96 = .ok (.ireturn, 1) := dk_172 (dk_at dksX1_day_3 13 rfl rfl)
theorem dX1_day_97 : decode cX1_day 97 = .ok (.aload_n 0, 1) := dk_42 (dk_at dksX1_day_3 14 rfl rfl)
theorem dX1_day_98 : decode cX1_day 98 = .ok (.getfield 51, 3) := dk_180 0 51 (dk_at dksX1_day_3 15 rfl rfl)
theorem dX1_day_101 : decode cX1_day 101 = .ok (.getfield 154, 3) := dk_180 0 154 (dk_at dksX1_day_3 18 rfl rfl)
theorem dX1_day_104 : decode cX1_day 104 = .ok (.iload_n 1, 1) := dk_27 (dk_at dksX1_day_3 21 rfl rfl)
theorem dX1_day_105 : decode cX1_day 105 = .ok (.iaload, 1) := dk_46 (dk_at dksX1_day_3 22 rfl rfl)
theorem dX1_day_106 : decode cX1_day 106 = .ok (.ireturn, 1) := dk_172 (dk_at dksX1_day_3 23 rfl rfl)
theorem dX1_day_107 : decode cX1_day 107 = .ok (.aload_n 0, 1) := dk_42 (dk_at dksX1_day_4 0 rfl rfl)
theorem dX1_day_108 : decode cX1_day 108 = .ok (.getfield 51, 3) := dk_180 0 51 (dk_at dksX1_day_4 1 rfl rfl)
theorem dX1_day_111 : decode cX1_day 111 = .ok (.getfield 199, 3) := dk_180 0 199 (dk_at dksX1_day_4 4 rfl rfl)
theorem dX1_day_114 : decode cX1_day 114 = .ok (.iload_n 1, 1) := dk_27 (dk_at dksX1_day_4 7 rfl rfl)
theorem dX1_day_115 : decode cX1_day 115 = .ok (.iaload, 1) := dk_46 (dk_at dksX1_day_4 8 rfl rfl)
theorem dX1_day_116 : decode cX1_day 116 = .ok (.ireturn, 1) := dk_172 (dk_at dksX1_day_4 9 rfl rfl)
theorem dX1_day_117 : decode cX1_day 117 = .ok (.aload_n 0, 1) := dk_42 (dk_at dksX1_day_4 10 rfl rfl)
theorem dX1_day_118 : decode cX1_day 118 = .ok (.getfield 51, 3) := dk_180 0 51 (dk_at dksX1_day_4 11 rfl rfl)
theorem dX1_day_121 : decode cX1_day 121 = .ok (.getfield 223, 3) := dk_180 0 223 (dk_at dksX1_day_4 14 rfl rfl)
theorem dX1_day_124 : decode cX1_day 124 = .ok (.iload_n 1, 1) := dk_27 (dk_at dksX1_day_4 17 rfl rfl)
theorem dX1_day_125 : decode cX1_day 125 = .ok (.iaload, 1) := dk_46 (dk_at dksX1_day_4 18 rfl rfl)
theorem dX1_day_126 : decode cX1_day 126 = .ok (.ireturn, 1) := dk_172 (dk_at dksX1_day_4 19 rfl rfl)
theorem dX1_day_127 : decode cX1_day 127 = .ok (.aload_n 0, 1) := dk_42 (dk_at dksX1_day_4 20 rfl rfl)
theorem dX1_day_128 : decode cX1_day 128 = .ok (.iload_n 1, 1) := dk_27 (dk_at dksX1_day_4 21 rfl rfl)
theorem dX1_day_129 : decode cX1_day 129 = .ok (.invokevirtual 157, 3) := dk_182 0 157 (dk_at dksX1_day_5 0 rfl rfl)
theorem dX1_day_132 : decode cX1_day 132 = .ok (.getfield 170, 3) := dk_180 0 170 (dk_at dksX1_day_5 3 rfl rfl)
theorem dX1_day_135 : decode cX1_day 135 = .ok (.ireturn, 1) := dk_172 (dk_at dksX1_day_5 6 rfl rfl)
theorem dX1_day_136 : decode cX1_day 136 = .ok (.bipush (-2), 2) := dk_16 254 (dk_at dksX1_day_5 7 rfl rfl)
theorem dX1_day_138 : decode cX1_day 138 = .ok (.ireturn, 1) := dk_172 (dk_at dksX1_day_5 9 rfl rfl)
abbrev cX1_isGuest : ByteArray := prog_1_method_17_code
def yX1_isGuest : MethodName := ⟨RX1, "isGuest", "(I)Z"⟩
def dkwX1_isGuest_0 : List UInt8 := [27, 3, 42, 182, 0, 149, 4, 100, 184, 0, 145, 172]
abbrev dktX1_isGuest_0 : List UInt8 := dkwX1_isGuest_0 ++ []
theorem dksX1_isGuest_0 : cX1_isGuest.data.toList.drop 0 = dktX1_isGuest_0 := by decide +kernel
theorem dX1_isGuest_0 : decode cX1_isGuest 0 = .ok (.iload_n 1, 1) := dk_27 (dk_at dksX1_isGuest_0 0 rfl rfl)
theorem dX1_isGuest_1 : decode cX1_isGuest 1 = .ok (.iconst 0, 1) := dk_3 (dk_at dksX1_isGuest_0 1 rfl rfl)
theorem dX1_isGuest_2 : decode cX1_isGuest 2 = .ok (.aload_n 0, 1) := dk_42 (dk_at dksX1_isGuest_0 2 rfl rfl)
theorem dX1_isGuest_3 : decode cX1_isGuest 3 = .ok (.invokevirtual 149, 3) := dk_182 0 149 (dk_at dksX1_isGuest_0 3 rfl rfl)
theorem dX1_isGuest_6 : decode cX1_isGuest 6 = .ok (.iconst 1, 1) := dk_4 (dk_at dksX1_isGuest_0 6 rfl rfl)
theorem dX1_isGuest_7 : decode cX1_isGuest 7 = .ok (.isub, 1) := dk_100 (dk_at dksX1_isGuest_0 7 rfl rfl)
theorem dX1_isGuest_8 : decode cX1_isGuest 8 = .ok (.invokestatic 145, 3) := dk_184 0 145 (dk_at dksX1_isGuest_0 8 rfl rfl)
theorem dX1_isGuest_11 : decode cX1_isGuest 11 = .ok (.ireturn, 1) := dk_172 (dk_at dksX1_isGuest_0 11 rfl rfl)
abbrev cX1_date : ByteArray := prog_1_method_27_code
def yX1_date : MethodName := ⟨RX1, "date", "()I"⟩
def dkwX1_date_0 : List UInt8 := [42, 182, 1, 8, 42, 42, 180, 0, 51, 182, 1, 11, 172]
abbrev dktX1_date_0 : List UInt8 := dkwX1_date_0 ++ []
theorem dksX1_date_0 : cX1_date.data.toList.drop 0 = dktX1_date_0 := by decide +kernel
theorem dX1_date_0 : decode cX1_date 0 = .ok (.aload_n 0, 1) := dk_42 (dk_at dksX1_date_0 0 rfl rfl)
theorem dX1_date_1 : decode cX1_date 1 = .ok (.invokevirtual 264, 3) := dk_182 1 8 (dk_at dksX1_date_0 1 rfl rfl)
theorem dX1_date_4 : decode cX1_date 4 = .ok (.aload_n 0, 1) := dk_42 (dk_at dksX1_date_0 4 rfl rfl)
theorem dX1_date_5 : decode cX1_date 5 = .ok (.aload_n 0, 1) := dk_42 (dk_at dksX1_date_0 5 rfl rfl)
theorem dX1_date_6 : decode cX1_date 6 = .ok (.getfield 51, 3) := dk_180 0 51 (dk_at dksX1_date_0 6 rfl rfl)
theorem dX1_date_9 : decode cX1_date 9 = .ok (.invokevirtual 267, 3) := dk_182 1 11 (dk_at dksX1_date_0 9 rfl rfl)
theorem dX1_date_12 : decode cX1_date 12 = .ok (.ireturn, 1) := dk_172 (dk_at dksX1_date_0 12 rfl rfl)
abbrev cX1_keeps : ByteArray := prog_1_method_26_code
def yX1_keeps : MethodName := ⟨RX1, "keeps", "()V"⟩
def dkwX1_keeps_4 : List UInt8 := [180, 0, 62, 42, 89, 180, 0, 117, 90, 4, 96, 181, 0, 117, 50, 42, 180, 0, 51, 182, 1, 4, 177]
abbrev dktX1_keeps_4 : List UInt8 := dkwX1_keeps_4 ++ []
def dkwX1_keeps_3 : List UInt8 := [180, 0, 117, 50, 199, 0, 19, 42, 180, 0, 62, 42, 180, 0, 117, 187, 0, 48, 89, 183, 0, 50, 83, 42]
abbrev dktX1_keeps_3 : List UInt8 := dkwX1_keeps_3 ++ dktX1_keeps_4
def dkwX1_keeps_2 : List UInt8 := [180, 0, 62, 16, 15, 43, 83, 42, 89, 180, 0, 117, 4, 100, 181, 0, 117, 42, 180, 0, 62, 42]
abbrev dktX1_keeps_2 : List UInt8 := dkwX1_keeps_2 ++ dktX1_keeps_3
def dkwX1_keeps_1 : List UInt8 := [162, 0, 23, 42, 180, 0, 62, 28, 42, 180, 0, 62, 28, 4, 96, 50, 83, 132, 2, 1, 167, 255, 231, 42]
abbrev dktX1_keeps_1 : List UInt8 := dkwX1_keeps_1 ++ dktX1_keeps_2
def dkwX1_keeps_0 : List UInt8 := [42, 180, 0, 117, 16, 16, 160, 0, 58, 42, 180, 0, 62, 3, 50, 76, 3, 61, 28, 4, 96, 16, 16]
abbrev dktX1_keeps_0 : List UInt8 := dkwX1_keeps_0 ++ dktX1_keeps_1
theorem dksX1_keeps_0 : cX1_keeps.data.toList.drop 0 = dktX1_keeps_0 := by decide +kernel
theorem dksX1_keeps_1 : cX1_keeps.data.toList.drop 23 = dktX1_keeps_1 := dk_seg dksX1_keeps_0 23 rfl rfl
theorem dksX1_keeps_2 : cX1_keeps.data.toList.drop 47 = dktX1_keeps_2 := dk_seg dksX1_keeps_1 24 rfl rfl
theorem dksX1_keeps_3 : cX1_keeps.data.toList.drop 69 = dktX1_keeps_3 := dk_seg dksX1_keeps_2 22 rfl rfl
theorem dksX1_keeps_4 : cX1_keeps.data.toList.drop 93 = dktX1_keeps_4 := dk_seg dksX1_keeps_3 24 rfl rfl
theorem dX1_keeps_0 : decode cX1_keeps 0 = .ok (.aload_n 0, 1) := dk_42 (dk_at dksX1_keeps_0 0 rfl rfl)
theorem dX1_keeps_1 : decode cX1_keeps 1 = .ok (.getfield 117, 3) := dk_180 0 117 (dk_at dksX1_keeps_0 1 rfl rfl)
theorem dX1_keeps_4 : decode cX1_keeps 4 = .ok (.bipush 16, 2) := dk_16 16 (dk_at dksX1_keeps_0 4 rfl rfl)
theorem dX1_keeps_6 : decode cX1_keeps 6 = .ok (.if_icmp .ne 58, 3) := dk_160 0 58 (dk_at dksX1_keeps_0 6 rfl rfl)
theorem dX1_keeps_9 : decode cX1_keeps 9 = .ok (.aload_n 0, 1) := dk_42 (dk_at dksX1_keeps_0 9 rfl rfl)
theorem dX1_keeps_10 : decode cX1_keeps 10 = .ok (.getfield 62, 3) := dk_180 0 62 (dk_at dksX1_keeps_0 10 rfl rfl)
theorem dX1_keeps_13 : decode cX1_keeps 13 = .ok (.iconst 0, 1) := dk_3 (dk_at dksX1_keeps_0 13 rfl rfl)
theorem dX1_keeps_14 : decode cX1_keeps 14 = .ok (.aaload, 1) := dk_50 (dk_at dksX1_keeps_0 14 rfl rfl)
theorem dX1_keeps_15 : decode cX1_keeps 15 = .ok (.astore_n 1, 1) := dk_76 (dk_at dksX1_keeps_0 15 rfl rfl)
theorem dX1_keeps_16 : decode cX1_keeps 16 = .ok (.iconst 0, 1) := dk_3 (dk_at dksX1_keeps_0 16 rfl rfl)
theorem dX1_keeps_17 : decode cX1_keeps 17 = .ok (.istore_n 2, 1) := dk_61 (dk_at dksX1_keeps_0 17 rfl rfl)
theorem dX1_keeps_18 : decode cX1_keeps 18 = .ok (.iload_n 2, 1) := dk_28 (dk_at dksX1_keeps_0 18 rfl rfl)
theorem dX1_keeps_19 : decode cX1_keeps 19 = .ok (.iconst 1, 1) := dk_4 (dk_at dksX1_keeps_0 19 rfl rfl)
theorem dX1_keeps_20 : decode cX1_keeps 20 = .ok (.iadd, 1) := dk_96 (dk_at dksX1_keeps_0 20 rfl rfl)
theorem dX1_keeps_21 : decode cX1_keeps 21 = .ok (.bipush 16, 2) := dk_16 16 (dk_at dksX1_keeps_0 21 rfl rfl)
theorem dX1_keeps_23 : decode cX1_keeps 23 = .ok (.if_icmp .ge 23, 3) := dk_162 0 23 (dk_at dksX1_keeps_1 0 rfl rfl)
theorem dX1_keeps_26 : decode cX1_keeps 26 = .ok (.aload_n 0, 1) := dk_42 (dk_at dksX1_keeps_1 3 rfl rfl)
theorem dX1_keeps_27 : decode cX1_keeps 27 = .ok (.getfield 62, 3) := dk_180 0 62 (dk_at dksX1_keeps_1 4 rfl rfl)
theorem dX1_keeps_30 : decode cX1_keeps 30 = .ok (.iload_n 2, 1) := dk_28 (dk_at dksX1_keeps_1 7 rfl rfl)
theorem dX1_keeps_31 : decode cX1_keeps 31 = .ok (.aload_n 0, 1) := dk_42 (dk_at dksX1_keeps_1 8 rfl rfl)
theorem dX1_keeps_32 : decode cX1_keeps 32 = .ok (.getfield 62, 3) := dk_180 0 62 (dk_at dksX1_keeps_1 9 rfl rfl)
theorem dX1_keeps_35 : decode cX1_keeps 35 = .ok (.iload_n 2, 1) := dk_28 (dk_at dksX1_keeps_1 12 rfl rfl)
theorem dX1_keeps_36 : decode cX1_keeps 36 = .ok (.iconst 1, 1) := dk_4 (dk_at dksX1_keeps_1 13 rfl rfl)
theorem dX1_keeps_37 : decode cX1_keeps 37 = .ok (.iadd, 1) := dk_96 (dk_at dksX1_keeps_1 14 rfl rfl)
theorem dX1_keeps_38 : decode cX1_keeps 38 = .ok (.aaload, 1) := dk_50 (dk_at dksX1_keeps_1 15 rfl rfl)
theorem dX1_keeps_39 : decode cX1_keeps 39 = .ok (.aastore, 1) := dk_83 (dk_at dksX1_keeps_1 16 rfl rfl)
theorem dX1_keeps_40 : decode cX1_keeps 40 = .ok (.iinc 2 1, 3) := dk_132 2 1 (dk_at dksX1_keeps_1 17 rfl rfl)
theorem dX1_keeps_43 : decode cX1_keeps 43 = .ok (.goto (-25), 3) := dk_167 255 231 (dk_at dksX1_keeps_1 20 rfl rfl)
theorem dX1_keeps_46 : decode cX1_keeps 46 = .ok (.aload_n 0, 1) := dk_42 (dk_at dksX1_keeps_1 23 rfl rfl)
theorem dX1_keeps_47 : decode cX1_keeps 47 = .ok (.getfield 62, 3) := dk_180 0 62 (dk_at dksX1_keeps_2 0 rfl rfl)
theorem dX1_keeps_50 : decode cX1_keeps 50 = .ok (.bipush 15, 2) := dk_16 15 (dk_at dksX1_keeps_2 3 rfl rfl)
theorem dX1_keeps_52 : decode cX1_keeps 52 = .ok (.aload_n 1, 1) := dk_43 (dk_at dksX1_keeps_2 5 rfl rfl)
theorem dX1_keeps_53 : decode cX1_keeps 53 = .ok (.aastore, 1) := dk_83 (dk_at dksX1_keeps_2 6 rfl rfl)
theorem dX1_keeps_54 : decode cX1_keeps 54 = .ok (.aload_n 0, 1) := dk_42 (dk_at dksX1_keeps_2 7 rfl rfl)
theorem dX1_keeps_55 : decode cX1_keeps 55 = .ok (.dup, 1) := dk_89 (dk_at dksX1_keeps_2 8 rfl rfl)
theorem dX1_keeps_56 : decode cX1_keeps 56 = .ok (.getfield 117, 3) := dk_180 0 117 (dk_at dksX1_keeps_2 9 rfl rfl)
theorem dX1_keeps_59 : decode cX1_keeps 59 = .ok (.iconst 1, 1) := dk_4 (dk_at dksX1_keeps_2 12 rfl rfl)
theorem dX1_keeps_60 : decode cX1_keeps 60 = .ok (.isub, 1) := dk_100 (dk_at dksX1_keeps_2 13 rfl rfl)
theorem dX1_keeps_61 : decode cX1_keeps 61 = .ok (.putfield 117, 3) := dk_181 0 117 (dk_at dksX1_keeps_2 14 rfl rfl)
theorem dX1_keeps_64 : decode cX1_keeps 64 = .ok (.aload_n 0, 1) := dk_42 (dk_at dksX1_keeps_2 17 rfl rfl)
theorem dX1_keeps_65 : decode cX1_keeps 65 = .ok (.getfield 62, 3) := dk_180 0 62 (dk_at dksX1_keeps_2 18 rfl rfl)
theorem dX1_keeps_68 : decode cX1_keeps 68 = .ok (.aload_n 0, 1) := dk_42 (dk_at dksX1_keeps_2 21 rfl rfl)
theorem dX1_keeps_69 : decode cX1_keeps 69 = .ok (.getfield 117, 3) := dk_180 0 117 (dk_at dksX1_keeps_3 0 rfl rfl)
theorem dX1_keeps_72 : decode cX1_keeps 72 = .ok (.aaload, 1) := dk_50 (dk_at dksX1_keeps_3 3 rfl rfl)
theorem dX1_keeps_73 : decode cX1_keeps 73 = .ok (.ifnonnull 19, 3) := dk_199 0 19 (dk_at dksX1_keeps_3 4 rfl rfl)
theorem dX1_keeps_76 : decode cX1_keeps 76 = .ok (.aload_n 0, 1) := dk_42 (dk_at dksX1_keeps_3 7 rfl rfl)
theorem dX1_keeps_77 : decode cX1_keeps 77 = .ok (.getfield 62, 3) := dk_180 0 62 (dk_at dksX1_keeps_3 8 rfl rfl)
theorem dX1_keeps_80 : decode cX1_keeps 80 = .ok (.aload_n 0, 1) := dk_42 (dk_at dksX1_keeps_3 11 rfl rfl)
theorem dX1_keeps_81 : decode cX1_keeps 81 = .ok (.getfield 117, 3) := dk_180 0 117 (dk_at dksX1_keeps_3 12 rfl rfl)
theorem dX1_keeps_84 : decode cX1_keeps 84 = .ok (.new 48, 3) := dk_187 0 48 (dk_at dksX1_keeps_3 15 rfl rfl)
theorem dX1_keeps_87 : decode cX1_keeps 87 = .ok (.dup, 1) := dk_89 (dk_at dksX1_keeps_3 18 rfl rfl)
theorem dX1_keeps_88 : decode cX1_keeps 88 = .ok (.invokespecial 50, 3) := dk_183 0 50 (dk_at dksX1_keeps_3 19 rfl rfl)
theorem dX1_keeps_91 : decode cX1_keeps 91 = .ok (.aastore, 1) := dk_83 (dk_at dksX1_keeps_3 22 rfl rfl)
theorem dX1_keeps_92 : decode cX1_keeps 92 = .ok (.aload_n 0, 1) := dk_42 (dk_at dksX1_keeps_3 23 rfl rfl)
theorem dX1_keeps_93 : decode cX1_keeps 93 = .ok (.getfield 62, 3) := dk_180 0 62 (dk_at dksX1_keeps_4 0 rfl rfl)
theorem dX1_keeps_96 : decode cX1_keeps 96 = .ok (.aload_n 0, 1) := dk_42 (dk_at dksX1_keeps_4 3 rfl rfl)
theorem dX1_keeps_97 : decode cX1_keeps 97 = .ok (.dup, 1) := dk_89 (dk_at dksX1_keeps_4 4 rfl rfl)
theorem dX1_keeps_98 : decode cX1_keeps 98 = .ok (.getfield 117, 3) := dk_180 0 117 (dk_at dksX1_keeps_4 5 rfl rfl)
theorem dX1_keeps_101 : decode cX1_keeps 101 = .ok (.dup_x1, 1) := dk_90 (dk_at dksX1_keeps_4 8 rfl rfl)
theorem dX1_keeps_102 : decode cX1_keeps 102 = .ok (.iconst 1, 1) := dk_4 (dk_at dksX1_keeps_4 9 rfl rfl)
theorem dX1_keeps_103 : decode cX1_keeps 103 = .ok (.iadd, 1) := dk_96 (dk_at dksX1_keeps_4 10 rfl rfl)
theorem dX1_keeps_104 : decode cX1_keeps 104 = .ok (.putfield 117, 3) := dk_181 0 117 (dk_at dksX1_keeps_4 11 rfl rfl)
theorem dX1_keeps_107 : decode cX1_keeps 107 = .ok (.aaload, 1) := dk_50 (dk_at dksX1_keeps_4 14 rfl rfl)
theorem dX1_keeps_108 : decode cX1_keeps 108 = .ok (.aload_n 0, 1) := dk_42 (dk_at dksX1_keeps_4 15 rfl rfl)
theorem dX1_keeps_109 : decode cX1_keeps 109 = .ok (.getfield 51, 3) := dk_180 0 51 (dk_at dksX1_keeps_4 16 rfl rfl)
theorem dX1_keeps_112 : decode cX1_keeps 112 = .ok (.invokevirtual 260, 3) := dk_182 1 4 (dk_at dksX1_keeps_4 19 rfl rfl)
theorem dX1_keeps_115 : decode cX1_keeps 115 = .ok (.return_, 1) := dk_177 (dk_at dksX1_keeps_4 22 rfl rfl)
abbrev cX1_copies : ByteArray := prog_1_method_5_code
def yX1_copies : MethodName := ⟨RX1, "copies", "([I[I)V"⟩
def dkwX1_copies_0 : List UInt8 := [3, 61, 28, 43, 190, 162, 0, 15, 43, 28, 42, 28, 46, 79, 132, 2, 1, 167, 255, 241, 177]
abbrev dktX1_copies_0 : List UInt8 := dkwX1_copies_0 ++ []
theorem dksX1_copies_0 : cX1_copies.data.toList.drop 0 = dktX1_copies_0 := by decide +kernel
theorem dX1_copies_0 : decode cX1_copies 0 = .ok (.iconst 0, 1) := dk_3 (dk_at dksX1_copies_0 0 rfl rfl)
theorem dX1_copies_1 : decode cX1_copies 1 = .ok (.istore_n 2, 1) := dk_61 (dk_at dksX1_copies_0 1 rfl rfl)
theorem dX1_copies_2 : decode cX1_copies 2 = .ok (.iload_n 2, 1) := dk_28 (dk_at dksX1_copies_0 2 rfl rfl)
theorem dX1_copies_3 : decode cX1_copies 3 = .ok (.aload_n 1, 1) := dk_43 (dk_at dksX1_copies_0 3 rfl rfl)
theorem dX1_copies_4 : decode cX1_copies 4 = .ok (.arraylength, 1) := dk_190 (dk_at dksX1_copies_0 4 rfl rfl)
theorem dX1_copies_5 : decode cX1_copies 5 = .ok (.if_icmp .ge 15, 3) := dk_162 0 15 (dk_at dksX1_copies_0 5 rfl rfl)
theorem dX1_copies_8 : decode cX1_copies 8 = .ok (.aload_n 1, 1) := dk_43 (dk_at dksX1_copies_0 8 rfl rfl)
theorem dX1_copies_9 : decode cX1_copies 9 = .ok (.iload_n 2, 1) := dk_28 (dk_at dksX1_copies_0 9 rfl rfl)
theorem dX1_copies_10 : decode cX1_copies 10 = .ok (.aload_n 0, 1) := dk_42 (dk_at dksX1_copies_0 10 rfl rfl)
theorem dX1_copies_11 : decode cX1_copies 11 = .ok (.iload_n 2, 1) := dk_28 (dk_at dksX1_copies_0 11 rfl rfl)
theorem dX1_copies_12 : decode cX1_copies 12 = .ok (.iaload, 1) := dk_46 (dk_at dksX1_copies_0 12 rfl rfl)
theorem dX1_copies_13 : decode cX1_copies 13 = .ok (.iastore, 1) := dk_79 (dk_at dksX1_copies_0 13 rfl rfl)
theorem dX1_copies_14 : decode cX1_copies 14 = .ok (.iinc 2 1, 3) := dk_132 2 1 (dk_at dksX1_copies_0 14 rfl rfl)
theorem dX1_copies_17 : decode cX1_copies 17 = .ok (.goto (-15), 3) := dk_167 255 241 (dk_at dksX1_copies_0 17 rfl rfl)
theorem dX1_copies_20 : decode cX1_copies 20 = .ok (.return_, 1) := dk_177 (dk_at dksX1_copies_0 20 rfl rfl)
abbrev cX1_passes : ByteArray := prog_1_method_22_code
def yX1_passes : MethodName := ⟨RX1, "passes", "(LDateVale$State;)I"⟩
def dkwX1_passes_13 : List UInt8 := [16, 99, 184, 0, 241, 79, 132, 3, 1, 167, 255, 34, 28, 172]
abbrev dktX1_passes_13 : List UInt8 := dkwX1_passes_13 ++ []
def dkwX1_passes_12 : List UInt8 := [42, 180, 0, 35, 180, 0, 231, 42, 180, 0, 58, 182, 0, 235, 16, 247, 16, 9, 184, 0, 241, 96, 3]
abbrev dktX1_passes_12 : List UInt8 := dkwX1_passes_12 ++ dktX1_passes_13
def dkwX1_passes_11 : List UInt8 := [180, 0, 208, 29, 43, 180, 0, 208, 29, 46, 42, 180, 0, 35, 180, 0, 231, 199, 0, 7, 2, 167, 0, 24]
abbrev dktX1_passes_11 : List UInt8 := dkwX1_passes_11 ++ dktX1_passes_12
def dkwX1_passes_10 : List UInt8 := [180, 0, 58, 5, 43, 180, 0, 194, 79, 42, 180, 0, 58, 6, 43, 180, 0, 223, 29, 46, 79, 43]
abbrev dktX1_passes_10 : List UInt8 := dkwX1_passes_10 ++ dktX1_passes_11
def dkwX1_passes_9 : List UInt8 := [180, 0, 208, 29, 46, 79, 42, 180, 0, 58, 4, 43, 21, 4, 182, 0, 167, 184, 0, 226, 79, 42]
abbrev dktX1_passes_9 : List UInt8 := dkwX1_passes_9 ++ dktX1_passes_10
def dkwX1_passes_8 : List UInt8 := [79, 43, 180, 0, 223, 29, 92, 46, 4, 96, 79, 28, 4, 29, 120, 128, 61, 42, 180, 0, 58, 3, 43]
abbrev dktX1_passes_8 : List UInt8 := dkwX1_passes_8 ++ dktX1_passes_9
def dkwX1_passes_7 : List UInt8 := [128, 181, 0, 191, 43, 89, 180, 0, 220, 4, 96, 181, 0, 220, 167, 0, 130, 43, 180, 0, 154, 29, 21, 4]
abbrev dktX1_passes_7 : List UInt8 := dkwX1_passes_7 ++ dktX1_passes_8
def dkwX1_passes_6 : List UInt8 := [167, 0, 168, 42, 43, 29, 182, 0, 217, 54, 4, 21, 4, 156, 0, 28, 42, 89, 180, 0, 191, 4, 29, 120]
abbrev dktX1_passes_6 : List UInt8 := dkwX1_passes_6 ++ dktX1_passes_7
def dkwX1_passes_5 : List UInt8 := [182, 0, 157, 43, 180, 0, 211, 29, 46, 43, 180, 0, 194, 43, 180, 0, 197, 182, 0, 214, 154, 0, 6]
abbrev dktX1_passes_5 : List UInt8 := dkwX1_passes_5 ++ dktX1_passes_6
def dkwX1_passes_4 : List UInt8 := [162, 0, 220, 43, 180, 0, 154, 29, 46, 156, 0, 205, 43, 180, 0, 208, 29, 46, 153, 0, 196, 42, 29]
abbrev dktX1_passes_4 : List UInt8 := dkwX1_passes_4 ++ dktX1_passes_5
def dkwX1_passes_3 : List UInt8 := [182, 0, 202, 160, 0, 8, 43, 29, 182, 0, 205, 132, 3, 1, 167, 255, 210, 3, 62, 29, 42, 182, 0, 149]
abbrev dktX1_passes_3 : List UInt8 := dkwX1_passes_3 ++ dktX1_passes_4
def dkwX1_passes_2 : List UInt8 := [180, 0, 154, 29, 46, 155, 0, 29, 43, 180, 0, 199, 29, 92, 46, 4, 96, 91, 79, 42, 180, 0, 35]
abbrev dktX1_passes_2 : List UInt8 := dkwX1_passes_2 ++ dktX1_passes_3
def dkwX1_passes_1 : List UInt8 := [154, 0, 13, 43, 89, 180, 0, 197, 4, 96, 181, 0, 197, 3, 62, 29, 42, 182, 0, 149, 162, 0, 44, 43]
abbrev dktX1_passes_1 : List UInt8 := dkwX1_passes_1 ++ dktX1_passes_2
def dkwX1_passes_0 : List UInt8 := [3, 61, 42, 3, 181, 0, 191, 43, 43, 180, 0, 194, 4, 96, 16, 12, 112, 181, 0, 194, 43, 180, 0, 194]
abbrev dktX1_passes_0 : List UInt8 := dkwX1_passes_0 ++ dktX1_passes_1
theorem dksX1_passes_0 : cX1_passes.data.toList.drop 0 = dktX1_passes_0 := by decide +kernel
theorem dksX1_passes_1 : cX1_passes.data.toList.drop 24 = dktX1_passes_1 := dk_seg dksX1_passes_0 24 rfl rfl
theorem dksX1_passes_2 : cX1_passes.data.toList.drop 48 = dktX1_passes_2 := dk_seg dksX1_passes_1 24 rfl rfl
theorem dksX1_passes_3 : cX1_passes.data.toList.drop 71 = dktX1_passes_3 := dk_seg dksX1_passes_2 23 rfl rfl
theorem dksX1_passes_4 : cX1_passes.data.toList.drop 95 = dktX1_passes_4 := dk_seg dksX1_passes_3 24 rfl rfl
theorem dksX1_passes_5 : cX1_passes.data.toList.drop 118 = dktX1_passes_5 := dk_seg dksX1_passes_4 23 rfl rfl
theorem dksX1_passes_6 : cX1_passes.data.toList.drop 141 = dktX1_passes_6 := dk_seg dksX1_passes_5 23 rfl rfl
theorem dksX1_passes_7 : cX1_passes.data.toList.drop 165 = dktX1_passes_7 := dk_seg dksX1_passes_6 24 rfl rfl
theorem dksX1_passes_8 : cX1_passes.data.toList.drop 189 = dktX1_passes_8 := dk_seg dksX1_passes_7 24 rfl rfl
theorem dksX1_passes_9 : cX1_passes.data.toList.drop 212 = dktX1_passes_9 := dk_seg dksX1_passes_8 23 rfl rfl
theorem dksX1_passes_10 : cX1_passes.data.toList.drop 234 = dktX1_passes_10 := dk_seg dksX1_passes_9 22 rfl rfl
theorem dksX1_passes_11 : cX1_passes.data.toList.drop 256 = dktX1_passes_11 := dk_seg dksX1_passes_10 22 rfl rfl
theorem dksX1_passes_12 : cX1_passes.data.toList.drop 280 = dktX1_passes_12 := dk_seg dksX1_passes_11 24 rfl rfl
theorem dksX1_passes_13 : cX1_passes.data.toList.drop 303 = dktX1_passes_13 := dk_seg dksX1_passes_12 23 rfl rfl
theorem dX1_passes_0 : decode cX1_passes 0 = .ok (.iconst 0, 1) := dk_3 (dk_at dksX1_passes_0 0 rfl rfl)
theorem dX1_passes_1 : decode cX1_passes 1 = .ok (.istore_n 2, 1) := dk_61 (dk_at dksX1_passes_0 1 rfl rfl)
theorem dX1_passes_2 : decode cX1_passes 2 = .ok (.aload_n 0, 1) := dk_42 (dk_at dksX1_passes_0 2 rfl rfl)
theorem dX1_passes_3 : decode cX1_passes 3 = .ok (.iconst 0, 1) := dk_3 (dk_at dksX1_passes_0 3 rfl rfl)
theorem dX1_passes_4 : decode cX1_passes 4 = .ok (.putfield 191, 3) := dk_181 0 191 (dk_at dksX1_passes_0 4 rfl rfl)
theorem dX1_passes_7 : decode cX1_passes 7 = .ok (.aload_n 1, 1) := dk_43 (dk_at dksX1_passes_0 7 rfl rfl)
theorem dX1_passes_8 : decode cX1_passes 8 = .ok (.aload_n 1, 1) := dk_43 (dk_at dksX1_passes_0 8 rfl rfl)
theorem dX1_passes_9 : decode cX1_passes 9 = .ok (.getfield 194, 3) := dk_180 0 194 (dk_at dksX1_passes_0 9 rfl rfl)
theorem dX1_passes_12 : decode cX1_passes 12 = .ok (.iconst 1, 1) := dk_4 (dk_at dksX1_passes_0 12 rfl rfl)
theorem dX1_passes_13 : decode cX1_passes 13 = .ok (.iadd, 1) := dk_96 (dk_at dksX1_passes_0 13 rfl rfl)
theorem dX1_passes_14 : decode cX1_passes 14 = .ok (.bipush 12, 2) := dk_16 12 (dk_at dksX1_passes_0 14 rfl rfl)
theorem dX1_passes_16 : decode cX1_passes 16 = .ok (.irem, 1) := dk_112 (dk_at dksX1_passes_0 16 rfl rfl)
theorem dX1_passes_17 : decode cX1_passes 17 = .ok (.putfield 194, 3) := dk_181 0 194 (dk_at dksX1_passes_0 17 rfl rfl)
theorem dX1_passes_20 : decode cX1_passes 20 = .ok (.aload_n 1, 1) := dk_43 (dk_at dksX1_passes_0 20 rfl rfl)
theorem dX1_passes_21 : decode cX1_passes 21 = .ok (.getfield 194, 3) := dk_180 0 194 (dk_at dksX1_passes_0 21 rfl rfl)
theorem dX1_passes_24 : decode cX1_passes 24 = .ok (.ifCond .ne 13, 3) := dk_154 0 13 (dk_at dksX1_passes_1 0 rfl rfl)
theorem dX1_passes_27 : decode cX1_passes 27 = .ok (.aload_n 1, 1) := dk_43 (dk_at dksX1_passes_1 3 rfl rfl)
theorem dX1_passes_28 : decode cX1_passes 28 = .ok (.dup, 1) := dk_89 (dk_at dksX1_passes_1 4 rfl rfl)
theorem dX1_passes_29 : decode cX1_passes 29 = .ok (.getfield 197, 3) := dk_180 0 197 (dk_at dksX1_passes_1 5 rfl rfl)
theorem dX1_passes_32 : decode cX1_passes 32 = .ok (.iconst 1, 1) := dk_4 (dk_at dksX1_passes_1 8 rfl rfl)
theorem dX1_passes_33 : decode cX1_passes 33 = .ok (.iadd, 1) := dk_96 (dk_at dksX1_passes_1 9 rfl rfl)
theorem dX1_passes_34 : decode cX1_passes 34 = .ok (.putfield 197, 3) := dk_181 0 197 (dk_at dksX1_passes_1 10 rfl rfl)
theorem dX1_passes_37 : decode cX1_passes 37 = .ok (.iconst 0, 1) := dk_3 (dk_at dksX1_passes_1 13 rfl rfl)
theorem dX1_passes_38 : decode cX1_passes 38 = .ok (.istore_n 3, 1) := dk_62 (dk_at dksX1_passes_1 14 rfl rfl)
theorem dX1_passes_39 : decode cX1_passes 39 = .ok (.iload_n 3, 1) := dk_29 (dk_at dksX1_passes_1 15 rfl rfl)
theorem dX1_passes_40 : decode cX1_passes 40 = .ok (.aload_n 0, 1) := dk_42 (dk_at dksX1_passes_1 16 rfl rfl)
theorem dX1_passes_41 : decode cX1_passes 41 = .ok (.invokevirtual 149, 3) := dk_182 0 149 (dk_at dksX1_passes_1 17 rfl rfl)
theorem dX1_passes_44 : decode cX1_passes 44 = .ok (.if_icmp .ge 44, 3) := dk_162 0 44 (dk_at dksX1_passes_1 20 rfl rfl)
theorem dX1_passes_47 : decode cX1_passes 47 = .ok (.aload_n 1, 1) := dk_43 (dk_at dksX1_passes_1 23 rfl rfl)
theorem dX1_passes_48 : decode cX1_passes 48 = .ok (.getfield 154, 3) := dk_180 0 154 (dk_at dksX1_passes_2 0 rfl rfl)
theorem dX1_passes_51 : decode cX1_passes 51 = .ok (.iload_n 3, 1) := dk_29 (dk_at dksX1_passes_2 3 rfl rfl)
theorem dX1_passes_52 : decode cX1_passes 52 = .ok (.iaload, 1) := dk_46 (dk_at dksX1_passes_2 4 rfl rfl)
theorem dX1_passes_53 : decode cX1_passes 53 = .ok (.ifCond .lt 29, 3) := dk_155 0 29 (dk_at dksX1_passes_2 5 rfl rfl)
theorem dX1_passes_56 : decode cX1_passes 56 = .ok (.aload_n 1, 1) := dk_43 (dk_at dksX1_passes_2 8 rfl rfl)
theorem dX1_passes_57 : decode cX1_passes 57 = .ok (.getfield 199, 3) := dk_180 0 199 (dk_at dksX1_passes_2 9 rfl rfl)
theorem dX1_passes_60 : decode cX1_passes 60 = .ok (.iload_n 3, 1) := dk_29 (dk_at dksX1_passes_2 12 rfl rfl)
theorem dX1_passes_61 : decode cX1_passes 61 = .ok (.dup2, 1) := dk_92 (dk_at dksX1_passes_2 13 rfl rfl)
theorem dX1_passes_62 : decode cX1_passes 62 = .ok (.iaload, 1) := dk_46 (dk_at dksX1_passes_2 14 rfl rfl)
theorem dX1_passes_63 : decode cX1_passes 63 = .ok (.iconst 1, 1) := dk_4 (dk_at dksX1_passes_2 15 rfl rfl)
theorem dX1_passes_64 : decode cX1_passes 64 = .ok (.iadd, 1) := dk_96 (dk_at dksX1_passes_2 16 rfl rfl)
theorem dX1_passes_65 : decode cX1_passes 65 = .ok (.dup_x2, 1) := dk_91 (dk_at dksX1_passes_2 17 rfl rfl)
theorem dX1_passes_66 : decode cX1_passes 66 = .ok (.iastore, 1) := dk_79 (dk_at dksX1_passes_2 18 rfl rfl)
theorem dX1_passes_67 : decode cX1_passes 67 = .ok (.aload_n 0, 1) := dk_42 (dk_at dksX1_passes_2 19 rfl rfl)
theorem dX1_passes_68 : decode cX1_passes 68 = .ok (.getfield 35, 3) := dk_180 0 35 (dk_at dksX1_passes_2 20 rfl rfl)
theorem dX1_passes_71 : decode cX1_passes 71 = .ok (.invokevirtual 202, 3) := dk_182 0 202 (dk_at dksX1_passes_3 0 rfl rfl)
theorem dX1_passes_74 : decode cX1_passes 74 = .ok (.if_icmp .ne 8, 3) := dk_160 0 8 (dk_at dksX1_passes_3 3 rfl rfl)
theorem dX1_passes_77 : decode cX1_passes 77 = .ok (.aload_n 1, 1) := dk_43 (dk_at dksX1_passes_3 6 rfl rfl)
theorem dX1_passes_78 : decode cX1_passes 78 = .ok (.iload_n 3, 1) := dk_29 (dk_at dksX1_passes_3 7 rfl rfl)
theorem dX1_passes_79 : decode cX1_passes 79 = .ok (.invokevirtual 205, 3) := dk_182 0 205 (dk_at dksX1_passes_3 8 rfl rfl)
theorem dX1_passes_82 : decode cX1_passes 82 = .ok (.iinc 3 1, 3) := dk_132 3 1 (dk_at dksX1_passes_3 11 rfl rfl)
theorem dX1_passes_85 : decode cX1_passes 85 = .ok (.goto (-46), 3) := dk_167 255 210 (dk_at dksX1_passes_3 14 rfl rfl)
theorem dX1_passes_88 : decode cX1_passes 88 = .ok (.iconst 0, 1) := dk_3 (dk_at dksX1_passes_3 17 rfl rfl)
theorem dX1_passes_89 : decode cX1_passes 89 = .ok (.istore_n 3, 1) := dk_62 (dk_at dksX1_passes_3 18 rfl rfl)
theorem dX1_passes_90 : decode cX1_passes 90 = .ok (.iload_n 3, 1) := dk_29 (dk_at dksX1_passes_3 19 rfl rfl)
theorem dX1_passes_91 : decode cX1_passes 91 = .ok (.aload_n 0, 1) := dk_42 (dk_at dksX1_passes_3 20 rfl rfl)
theorem dX1_passes_92 : decode cX1_passes 92 = .ok (.invokevirtual 149, 3) := dk_182 0 149 (dk_at dksX1_passes_3 21 rfl rfl)
theorem dX1_passes_95 : decode cX1_passes 95 = .ok (.if_icmp .ge 220, 3) := dk_162 0 220 (dk_at dksX1_passes_4 0 rfl rfl)
theorem dX1_passes_98 : decode cX1_passes 98 = .ok (.aload_n 1, 1) := dk_43 (dk_at dksX1_passes_4 3 rfl rfl)
theorem dX1_passes_99 : decode cX1_passes 99 = .ok (.getfield 154, 3) := dk_180 0 154 (dk_at dksX1_passes_4 4 rfl rfl)
theorem dX1_passes_102 : decode cX1_passes 102 = .ok (.iload_n 3, 1) := dk_29 (dk_at dksX1_passes_4 7 rfl rfl)
theorem dX1_passes_103 : decode cX1_passes 103 = .ok (.iaload, 1) := dk_46 (dk_at dksX1_passes_4 8 rfl rfl)
theorem dX1_passes_104 : decode cX1_passes 104 = .ok (.ifCond .ge 205, 3) := dk_156 0 205 (dk_at dksX1_passes_4 9 rfl rfl)
theorem dX1_passes_107 : decode cX1_passes 107 = .ok (.aload_n 1, 1) := dk_43 (dk_at dksX1_passes_4 12 rfl rfl)
theorem dX1_passes_108 : decode cX1_passes 108 = .ok (.getfield 208, 3) := dk_180 0 208 (dk_at dksX1_passes_4 13 rfl rfl)
theorem dX1_passes_111 : decode cX1_passes 111 = .ok (.iload_n 3, 1) := dk_29 (dk_at dksX1_passes_4 16 rfl rfl)
theorem dX1_passes_112 : decode cX1_passes 112 = .ok (.iaload, 1) := dk_46 (dk_at dksX1_passes_4 17 rfl rfl)
theorem dX1_passes_113 : decode cX1_passes 113 = .ok (.ifCond .eq 196, 3) := dk_153 0 196 (dk_at dksX1_passes_4 18 rfl rfl)
theorem dX1_passes_116 : decode cX1_passes 116 = .ok (.aload_n 0, 1) := dk_42 (dk_at dksX1_passes_4 21 rfl rfl)
theorem dX1_passes_117 : decode cX1_passes 117 = .ok (.iload_n 3, 1) := dk_29 (dk_at dksX1_passes_4 22 rfl rfl)
theorem dX1_passes_118 : decode cX1_passes 118 = .ok (.invokevirtual 157, 3) := dk_182 0 157 (dk_at dksX1_passes_5 0 rfl rfl)
theorem dX1_passes_121 : decode cX1_passes 121 = .ok (.aload_n 1, 1) := dk_43 (dk_at dksX1_passes_5 3 rfl rfl)
theorem dX1_passes_122 : decode cX1_passes 122 = .ok (.getfield 211, 3) := dk_180 0 211 (dk_at dksX1_passes_5 4 rfl rfl)
theorem dX1_passes_125 : decode cX1_passes 125 = .ok (.iload_n 3, 1) := dk_29 (dk_at dksX1_passes_5 7 rfl rfl)
theorem dX1_passes_126 : decode cX1_passes 126 = .ok (.iaload, 1) := dk_46 (dk_at dksX1_passes_5 8 rfl rfl)
theorem dX1_passes_127 : decode cX1_passes 127 = .ok (.aload_n 1, 1) := dk_43 (dk_at dksX1_passes_5 9 rfl rfl)
theorem dX1_passes_128 : decode cX1_passes 128 = .ok (.getfield 194, 3) := dk_180 0 194 (dk_at dksX1_passes_5 10 rfl rfl)
theorem dX1_passes_131 : decode cX1_passes 131 = .ok (.aload_n 1, 1) := dk_43 (dk_at dksX1_passes_5 13 rfl rfl)
theorem dX1_passes_132 : decode cX1_passes 132 = .ok (.getfield 197, 3) := dk_180 0 197 (dk_at dksX1_passes_5 14 rfl rfl)
theorem dX1_passes_135 : decode cX1_passes 135 = .ok (.invokevirtual 214, 3) := dk_182 0 214 (dk_at dksX1_passes_5 17 rfl rfl)
theorem dX1_passes_138 : decode cX1_passes 138 = .ok (.ifCond .ne 6, 3) := dk_154 0 6 (dk_at dksX1_passes_5 20 rfl rfl)
theorem dX1_passes_141 : decode cX1_passes 141 = .ok (.goto 168, 3) := dk_167 0 168 (dk_at dksX1_passes_6 0 rfl rfl)
theorem dX1_passes_144 : decode cX1_passes 144 = .ok (.aload_n 0, 1) := dk_42 (dk_at dksX1_passes_6 3 rfl rfl)
theorem dX1_passes_145 : decode cX1_passes 145 = .ok (.aload_n 1, 1) := dk_43 (dk_at dksX1_passes_6 4 rfl rfl)
theorem dX1_passes_146 : decode cX1_passes 146 = .ok (.iload_n 3, 1) := dk_29 (dk_at dksX1_passes_6 5 rfl rfl)
theorem dX1_passes_147 : decode cX1_passes 147 = .ok (.invokevirtual 217, 3) := dk_182 0 217 (dk_at dksX1_passes_6 6 rfl rfl)
theorem dX1_passes_150 : decode cX1_passes 150 = .ok (.istore 4, 2) := dk_54 4 (dk_at dksX1_passes_6 9 rfl rfl)
theorem dX1_passes_152 : decode cX1_passes 152 = .ok (.iload 4, 2) := dk_21 4 (dk_at dksX1_passes_6 11 rfl rfl)
theorem dX1_passes_154 : decode cX1_passes 154 = .ok (.ifCond .ge 28, 3) := dk_156 0 28 (dk_at dksX1_passes_6 13 rfl rfl)
theorem dX1_passes_157 : decode cX1_passes 157 = .ok (.aload_n 0, 1) := dk_42 (dk_at dksX1_passes_6 16 rfl rfl)
theorem dX1_passes_158 : decode cX1_passes 158 = .ok (.dup, 1) := dk_89 (dk_at dksX1_passes_6 17 rfl rfl)
theorem dX1_passes_159 : decode cX1_passes 159 = .ok (.getfield 191, 3) := dk_180 0 191 (dk_at dksX1_passes_6 18 rfl rfl)
theorem dX1_passes_162 : decode cX1_passes 162 = .ok (.iconst 1, 1) := dk_4 (dk_at dksX1_passes_6 21 rfl rfl)
theorem dX1_passes_163 : decode cX1_passes 163 = .ok (.iload_n 3, 1) := dk_29 (dk_at dksX1_passes_6 22 rfl rfl)
theorem dX1_passes_164 : decode cX1_passes 164 = .ok (.ishl, 1) := dk_120 (dk_at dksX1_passes_6 23 rfl rfl)
theorem dX1_passes_165 : decode cX1_passes 165 = .ok (.ior, 1) := dk_128 (dk_at dksX1_passes_7 0 rfl rfl)
theorem dX1_passes_166 : decode cX1_passes 166 = .ok (.putfield 191, 3) := dk_181 0 191 (dk_at dksX1_passes_7 1 rfl rfl)
theorem dX1_passes_169 : decode cX1_passes 169 = .ok (.aload_n 1, 1) := dk_43 (dk_at dksX1_passes_7 4 rfl rfl)
theorem dX1_passes_170 : decode cX1_passes 170 = .ok (.dup, 1) := dk_89 (dk_at dksX1_passes_7 5 rfl rfl)
theorem dX1_passes_171 : decode cX1_passes 171 = .ok (.getfield 220, 3) := dk_180 0 220 (dk_at dksX1_passes_7 6 rfl rfl)
theorem dX1_passes_174 : decode cX1_passes 174 = .ok (.iconst 1, 1) := dk_4 (dk_at dksX1_passes_7 9 rfl rfl)
theorem dX1_passes_175 : decode cX1_passes 175 = .ok (.iadd, 1) := dk_96 (dk_at dksX1_passes_7 10 rfl rfl)
theorem dX1_passes_176 : decode cX1_passes 176 = .ok (.putfield 220, 3) := dk_181 0 220 (dk_at dksX1_passes_7 11 rfl rfl)
theorem dX1_passes_179 : decode cX1_passes 179 = .ok (.goto 130, 3) := dk_167 0 130 (dk_at dksX1_passes_7 14 rfl rfl)
theorem dX1_passes_182 : decode cX1_passes 182 = .ok (.aload_n 1, 1) := dk_43 (dk_at dksX1_passes_7 17 rfl rfl)
theorem dX1_passes_183 : decode cX1_passes 183 = .ok (.getfield 154, 3) := dk_180 0 154 (dk_at dksX1_passes_7 18 rfl rfl)
theorem dX1_passes_186 : decode cX1_passes 186 = .ok (.iload_n 3, 1) := dk_29 (dk_at dksX1_passes_7 21 rfl rfl)
theorem dX1_passes_187 : decode cX1_passes 187 = .ok (.iload 4, 2) := dk_21 4 (dk_at dksX1_passes_7 22 rfl rfl)
theorem dX1_passes_189 : decode cX1_passes 189 = .ok (.iastore, 1) := dk_79 (dk_at dksX1_passes_8 0 rfl rfl)
theorem dX1_passes_190 : decode cX1_passes 190 = .ok (.aload_n 1, 1) := dk_43 (dk_at dksX1_passes_8 1 rfl rfl)
theorem dX1_passes_191 : decode cX1_passes 191 = .ok (.getfield 223, 3) := dk_180 0 223 (dk_at dksX1_passes_8 2 rfl rfl)
theorem dX1_passes_194 : decode cX1_passes 194 = .ok (.iload_n 3, 1) := dk_29 (dk_at dksX1_passes_8 5 rfl rfl)
theorem dX1_passes_195 : decode cX1_passes 195 = .ok (.dup2, 1) := dk_92 (dk_at dksX1_passes_8 6 rfl rfl)
theorem dX1_passes_196 : decode cX1_passes 196 = .ok (.iaload, 1) := dk_46 (dk_at dksX1_passes_8 7 rfl rfl)
theorem dX1_passes_197 : decode cX1_passes 197 = .ok (.iconst 1, 1) := dk_4 (dk_at dksX1_passes_8 8 rfl rfl)
theorem dX1_passes_198 : decode cX1_passes 198 = .ok (.iadd, 1) := dk_96 (dk_at dksX1_passes_8 9 rfl rfl)
theorem dX1_passes_199 : decode cX1_passes 199 = .ok (.iastore, 1) := dk_79 (dk_at dksX1_passes_8 10 rfl rfl)
theorem dX1_passes_200 : decode cX1_passes 200 = .ok (.iload_n 2, 1) := dk_28 (dk_at dksX1_passes_8 11 rfl rfl)
theorem dX1_passes_201 : decode cX1_passes 201 = .ok (.iconst 1, 1) := dk_4 (dk_at dksX1_passes_8 12 rfl rfl)
theorem dX1_passes_202 : decode cX1_passes 202 = .ok (.iload_n 3, 1) := dk_29 (dk_at dksX1_passes_8 13 rfl rfl)
theorem dX1_passes_203 : decode cX1_passes 203 = .ok (.ishl, 1) := dk_120 (dk_at dksX1_passes_8 14 rfl rfl)
theorem dX1_passes_204 : decode cX1_passes 204 = .ok (.ior, 1) := dk_128 (dk_at dksX1_passes_8 15 rfl rfl)
theorem dX1_passes_205 : decode cX1_passes 205 = .ok (.istore_n 2, 1) := dk_61 (dk_at dksX1_passes_8 16 rfl rfl)
theorem dX1_passes_206 : decode cX1_passes 206 = .ok (.aload_n 0, 1) := dk_42 (dk_at dksX1_passes_8 17 rfl rfl)
theorem dX1_passes_207 : decode cX1_passes 207 = .ok (.getfield 58, 3) := dk_180 0 58 (dk_at dksX1_passes_8 18 rfl rfl)
theorem dX1_passes_210 : decode cX1_passes 210 = .ok (.iconst 0, 1) := dk_3 (dk_at dksX1_passes_8 21 rfl rfl)
theorem dX1_passes_211 : decode cX1_passes 211 = .ok (.aload_n 1, 1) := dk_43 (dk_at dksX1_passes_8 22 rfl rfl)
theorem dX1_passes_212 : decode cX1_passes 212 = .ok (.getfield 208, 3) := dk_180 0 208 (dk_at dksX1_passes_9 0 rfl rfl)
theorem dX1_passes_215 : decode cX1_passes 215 = .ok (.iload_n 3, 1) := dk_29 (dk_at dksX1_passes_9 3 rfl rfl)
theorem dX1_passes_216 : decode cX1_passes 216 = .ok (.iaload, 1) := dk_46 (dk_at dksX1_passes_9 4 rfl rfl)
theorem dX1_passes_217 : decode cX1_passes 217 = .ok (.iastore, 1) := dk_79 (dk_at dksX1_passes_9 5 rfl rfl)
theorem dX1_passes_218 : decode cX1_passes 218 = .ok (.aload_n 0, 1) := dk_42 (dk_at dksX1_passes_9 6 rfl rfl)
theorem dX1_passes_219 : decode cX1_passes 219 = .ok (.getfield 58, 3) := dk_180 0 58 (dk_at dksX1_passes_9 7 rfl rfl)
theorem dX1_passes_222 : decode cX1_passes 222 = .ok (.iconst 1, 1) := dk_4 (dk_at dksX1_passes_9 10 rfl rfl)
theorem dX1_passes_223 : decode cX1_passes 223 = .ok (.aload_n 1, 1) := dk_43 (dk_at dksX1_passes_9 11 rfl rfl)
theorem dX1_passes_224 : decode cX1_passes 224 = .ok (.iload 4, 2) := dk_21 4 (dk_at dksX1_passes_9 12 rfl rfl)
theorem dX1_passes_226 : decode cX1_passes 226 = .ok (.invokevirtual 167, 3) := dk_182 0 167 (dk_at dksX1_passes_9 14 rfl rfl)
theorem dX1_passes_229 : decode cX1_passes 229 = .ok (.invokestatic 226, 3) := dk_184 0 226 (dk_at dksX1_passes_9 17 rfl rfl)
theorem dX1_passes_232 : decode cX1_passes 232 = .ok (.iastore, 1) := dk_79 (dk_at dksX1_passes_9 20 rfl rfl)
theorem dX1_passes_233 : decode cX1_passes 233 = .ok (.aload_n 0, 1) := dk_42 (dk_at dksX1_passes_9 21 rfl rfl)
theorem dX1_passes_234 : decode cX1_passes 234 = .ok (.getfield 58, 3) := dk_180 0 58 (dk_at dksX1_passes_10 0 rfl rfl)
theorem dX1_passes_237 : decode cX1_passes 237 = .ok (.iconst 2, 1) := dk_5 (dk_at dksX1_passes_10 3 rfl rfl)
theorem dX1_passes_238 : decode cX1_passes 238 = .ok (.aload_n 1, 1) := dk_43 (dk_at dksX1_passes_10 4 rfl rfl)
theorem dX1_passes_239 : decode cX1_passes 239 = .ok (.getfield 194, 3) := dk_180 0 194 (dk_at dksX1_passes_10 5 rfl rfl)
theorem dX1_passes_242 : decode cX1_passes 242 = .ok (.iastore, 1) := dk_79 (dk_at dksX1_passes_10 8 rfl rfl)
theorem dX1_passes_243 : decode cX1_passes 243 = .ok (.aload_n 0, 1) := dk_42 (dk_at dksX1_passes_10 9 rfl rfl)
theorem dX1_passes_244 : decode cX1_passes 244 = .ok (.getfield 58, 3) := dk_180 0 58 (dk_at dksX1_passes_10 10 rfl rfl)
theorem dX1_passes_247 : decode cX1_passes 247 = .ok (.iconst 3, 1) := dk_6 (dk_at dksX1_passes_10 13 rfl rfl)
theorem dX1_passes_248 : decode cX1_passes 248 = .ok (.aload_n 1, 1) := dk_43 (dk_at dksX1_passes_10 14 rfl rfl)
theorem dX1_passes_249 : decode cX1_passes 249 = .ok (.getfield 223, 3) := dk_180 0 223 (dk_at dksX1_passes_10 15 rfl rfl)
theorem dX1_passes_252 : decode cX1_passes 252 = .ok (.iload_n 3, 1) := dk_29 (dk_at dksX1_passes_10 18 rfl rfl)
theorem dX1_passes_253 : decode cX1_passes 253 = .ok (.iaload, 1) := dk_46 (dk_at dksX1_passes_10 19 rfl rfl)
theorem dX1_passes_254 : decode cX1_passes 254 = .ok (.iastore, 1) := dk_79 (dk_at dksX1_passes_10 20 rfl rfl)
theorem dX1_passes_255 : decode cX1_passes 255 = .ok (.aload_n 1, 1) := dk_43 (dk_at dksX1_passes_10 21 rfl rfl)
theorem dX1_passes_256 : decode cX1_passes 256 = .ok (.getfield 208, 3) := dk_180 0 208 (dk_at dksX1_passes_11 0 rfl rfl)
theorem dX1_passes_259 : decode cX1_passes 259 = .ok (.iload_n 3, 1) := dk_29 (dk_at dksX1_passes_11 3 rfl rfl)
theorem dX1_passes_260 : decode cX1_passes 260 = .ok (.aload_n 1, 1) := dk_43 (dk_at dksX1_passes_11 4 rfl rfl)
theorem dX1_passes_261 : decode cX1_passes 261 = .ok (.getfield 208, 3) := dk_180 0 208 (dk_at dksX1_passes_11 5 rfl rfl)
theorem dX1_passes_264 : decode cX1_passes 264 = .ok (.iload_n 3, 1) := dk_29 (dk_at dksX1_passes_11 8 rfl rfl)
theorem dX1_passes_265 : decode cX1_passes 265 = .ok (.iaload, 1) := dk_46 (dk_at dksX1_passes_11 9 rfl rfl)
theorem dX1_passes_266 : decode cX1_passes 266 = .ok (.aload_n 0, 1) := dk_42 (dk_at dksX1_passes_11 10 rfl rfl)
theorem dX1_passes_267 : decode cX1_passes 267 = .ok (.getfield 35, 3) := dk_180 0 35 (dk_at dksX1_passes_11 11 rfl rfl)
theorem dX1_passes_270 : decode cX1_passes 270 = .ok (.getfield 231, 3) := dk_180 0 231 (dk_at dksX1_passes_11 14 rfl rfl)
theorem dX1_passes_273 : decode cX1_passes 273 = .ok (.ifnonnull 7, 3) := dk_199 0 7 (dk_at dksX1_passes_11 17 rfl rfl)
theorem dX1_passes_276 : decode cX1_passes 276 = .ok (.iconst (-1), 1) := dk_2 (dk_at dksX1_passes_11 20 rfl rfl)
theorem dX1_passes_277 : decode cX1_passes 277 = .ok (.goto 24, 3) := dk_167 0 24 (dk_at dksX1_passes_11 21 rfl rfl)
theorem dX1_passes_280 : decode cX1_passes 280 = .ok (.aload_n 0, 1) := dk_42 (dk_at dksX1_passes_12 0 rfl rfl)
theorem dX1_passes_281 : decode cX1_passes 281 = .ok (.getfield 35, 3) := dk_180 0 35 (dk_at dksX1_passes_12 1 rfl rfl)
theorem dX1_passes_284 : decode cX1_passes 284 = .ok (.getfield 231, 3) := dk_180 0 231 (dk_at dksX1_passes_12 4 rfl rfl)
theorem dX1_passes_287 : decode cX1_passes 287 = .ok (.aload_n 0, 1) := dk_42 (dk_at dksX1_passes_12 7 rfl rfl)
theorem dX1_passes_288 : decode cX1_passes 288 = .ok (.getfield 58, 3) := dk_180 0 58 (dk_at dksX1_passes_12 8 rfl rfl)
theorem dX1_passes_291 : decode cX1_passes 291 = .ok (.invokevirtual 235, 3) := dk_182 0 235 (dk_at dksX1_passes_12 11 rfl rfl)
theorem dX1_passes_294 : decode cX1_passes 294 = .ok (.bipush (-9), 2) := dk_16 247 (dk_at dksX1_passes_12 14 rfl rfl)
theorem dX1_passes_296 : decode cX1_passes 296 = .ok (.bipush 9, 2) := dk_16 9 (dk_at dksX1_passes_12 16 rfl rfl)
theorem dX1_passes_298 : decode cX1_passes 298 = .ok (.invokestatic 241, 3) := dk_184 0 241 (dk_at dksX1_passes_12 18 rfl rfl)
theorem dX1_passes_301 : decode cX1_passes 301 = .ok (.iadd, 1) := dk_96 (dk_at dksX1_passes_12 21 rfl rfl)
theorem dX1_passes_302 : decode cX1_passes 302 = .ok (.iconst 0, 1) := dk_3 (dk_at dksX1_passes_12 22 rfl rfl)
theorem dX1_passes_303 : decode cX1_passes 303 = .ok (.bipush 99, 2) := dk_16 99 (dk_at dksX1_passes_13 0 rfl rfl)
theorem dX1_passes_305 : decode cX1_passes 305 = .ok (.invokestatic 241, 3) := dk_184 0 241 (dk_at dksX1_passes_13 2 rfl rfl)
theorem dX1_passes_308 : decode cX1_passes 308 = .ok (.iastore, 1) := dk_79 (dk_at dksX1_passes_13 5 rfl rfl)
theorem dX1_passes_309 : decode cX1_passes 309 = .ok (.iinc 3 1, 3) := dk_132 3 1 (dk_at dksX1_passes_13 6 rfl rfl)
theorem dX1_passes_312 : decode cX1_passes 312 = .ok (.goto (-222), 3) := dk_167 255 34 (dk_at dksX1_passes_13 9 rfl rfl)
theorem dX1_passes_315 : decode cX1_passes 315 = .ok (.iload_n 2, 1) := dk_28 (dk_at dksX1_passes_13 12 rfl rfl)
theorem dX1_passes_316 : decode cX1_passes 316 = .ok (.ireturn, 1) := dk_172 (dk_at dksX1_passes_13 13 rfl rfl)
abbrev cX1_taking : ByteArray := prog_1_method_21_code
def yX1_taking : MethodName := ⟨RX1, "taking", "(LDateVale$State;I)I"⟩
def dkwX1_taking_3 : List UInt8 := [172]
abbrev dktX1_taking_3 : List UInt8 := dkwX1_taking_3 ++ []
def dkwX1_taking_2 : List UInt8 := [153, 0, 17, 42, 43, 21, 4, 28, 182, 0, 173, 153, 0, 6, 21, 4, 172, 132, 4, 1, 167, 255, 214, 2]
abbrev dktX1_taking_2 : List UInt8 := dkwX1_taking_2 ++ dktX1_taking_3
def dkwX1_taking_1 : List UInt8 := [21, 4, 42, 182, 0, 142, 162, 0, 39, 42, 29, 182, 0, 180, 180, 0, 184, 21, 4, 184, 0, 187]
abbrev dktX1_taking_1 : List UInt8 := dkwX1_taking_1 ++ dktX1_taking_2
def dkwX1_taking_0 : List UInt8 := [42, 28, 182, 0, 157, 180, 0, 177, 62, 42, 43, 29, 28, 182, 0, 173, 153, 0, 5, 29, 172, 3, 54, 4]
abbrev dktX1_taking_0 : List UInt8 := dkwX1_taking_0 ++ dktX1_taking_1
theorem dksX1_taking_0 : cX1_taking.data.toList.drop 0 = dktX1_taking_0 := by decide +kernel
theorem dksX1_taking_1 : cX1_taking.data.toList.drop 24 = dktX1_taking_1 := dk_seg dksX1_taking_0 24 rfl rfl
theorem dksX1_taking_2 : cX1_taking.data.toList.drop 46 = dktX1_taking_2 := dk_seg dksX1_taking_1 22 rfl rfl
theorem dksX1_taking_3 : cX1_taking.data.toList.drop 70 = dktX1_taking_3 := dk_seg dksX1_taking_2 24 rfl rfl
theorem dX1_taking_0 : decode cX1_taking 0 = .ok (.aload_n 0, 1) := dk_42 (dk_at dksX1_taking_0 0 rfl rfl)
theorem dX1_taking_1 : decode cX1_taking 1 = .ok (.iload_n 2, 1) := dk_28 (dk_at dksX1_taking_0 1 rfl rfl)
theorem dX1_taking_2 : decode cX1_taking 2 = .ok (.invokevirtual 157, 3) := dk_182 0 157 (dk_at dksX1_taking_0 2 rfl rfl)
theorem dX1_taking_5 : decode cX1_taking 5 = .ok (.getfield 177, 3) := dk_180 0 177 (dk_at dksX1_taking_0 5 rfl rfl)
theorem dX1_taking_8 : decode cX1_taking 8 = .ok (.istore_n 3, 1) := dk_62 (dk_at dksX1_taking_0 8 rfl rfl)
theorem dX1_taking_9 : decode cX1_taking 9 = .ok (.aload_n 0, 1) := dk_42 (dk_at dksX1_taking_0 9 rfl rfl)
theorem dX1_taking_10 : decode cX1_taking 10 = .ok (.aload_n 1, 1) := dk_43 (dk_at dksX1_taking_0 10 rfl rfl)
theorem dX1_taking_11 : decode cX1_taking 11 = .ok (.iload_n 3, 1) := dk_29 (dk_at dksX1_taking_0 11 rfl rfl)
theorem dX1_taking_12 : decode cX1_taking 12 = .ok (.iload_n 2, 1) := dk_28 (dk_at dksX1_taking_0 12 rfl rfl)
theorem dX1_taking_13 : decode cX1_taking 13 = .ok (.invokevirtual 173, 3) := dk_182 0 173 (dk_at dksX1_taking_0 13 rfl rfl)
theorem dX1_taking_16 : decode cX1_taking 16 = .ok (.ifCond .eq 5, 3) := dk_153 0 5 (dk_at dksX1_taking_0 16 rfl rfl)
theorem dX1_taking_19 : decode cX1_taking 19 = .ok (.iload_n 3, 1) := dk_29 (dk_at dksX1_taking_0 19 rfl rfl)
theorem dX1_taking_20 : decode cX1_taking 20 = .ok (.ireturn, 1) := dk_172 (dk_at dksX1_taking_0 20 rfl rfl)
theorem dX1_taking_21 : decode cX1_taking 21 = .ok (.iconst 0, 1) := dk_3 (dk_at dksX1_taking_0 21 rfl rfl)
theorem dX1_taking_22 : decode cX1_taking 22 = .ok (.istore 4, 2) := dk_54 4 (dk_at dksX1_taking_0 22 rfl rfl)
theorem dX1_taking_24 : decode cX1_taking 24 = .ok (.iload 4, 2) := dk_21 4 (dk_at dksX1_taking_1 0 rfl rfl)
theorem dX1_taking_26 : decode cX1_taking 26 = .ok (.aload_n 0, 1) := dk_42 (dk_at dksX1_taking_1 2 rfl rfl)
theorem dX1_taking_27 : decode cX1_taking 27 = .ok (.invokevirtual 142, 3) := dk_182 0 142 (dk_at dksX1_taking_1 3 rfl rfl)
theorem dX1_taking_30 : decode cX1_taking 30 = .ok (.if_icmp .ge 39, 3) := dk_162 0 39 (dk_at dksX1_taking_1 6 rfl rfl)
theorem dX1_taking_33 : decode cX1_taking 33 = .ok (.aload_n 0, 1) := dk_42 (dk_at dksX1_taking_1 9 rfl rfl)
theorem dX1_taking_34 : decode cX1_taking 34 = .ok (.iload_n 3, 1) := dk_29 (dk_at dksX1_taking_1 10 rfl rfl)
theorem dX1_taking_35 : decode cX1_taking 35 = .ok (.invokevirtual 180, 3) := dk_182 0 180 (dk_at dksX1_taking_1 11 rfl rfl)
theorem dX1_taking_38 : decode cX1_taking 38 = .ok (.getfield 184, 3) := dk_180 0 184 (dk_at dksX1_taking_1 14 rfl rfl)
theorem dX1_taking_41 : decode cX1_taking 41 = .ok (.iload 4, 2) := dk_21 4 (dk_at dksX1_taking_1 17 rfl rfl)
theorem dX1_taking_43 : decode cX1_taking 43 = .ok (.invokestatic 187, 3) := dk_184 0 187 (dk_at dksX1_taking_1 19 rfl rfl)
theorem dX1_taking_46 : decode cX1_taking 46 = .ok (.ifCond .eq 17, 3) := dk_153 0 17 (dk_at dksX1_taking_2 0 rfl rfl)
theorem dX1_taking_49 : decode cX1_taking 49 = .ok (.aload_n 0, 1) := dk_42 (dk_at dksX1_taking_2 3 rfl rfl)
theorem dX1_taking_50 : decode cX1_taking 50 = .ok (.aload_n 1, 1) := dk_43 (dk_at dksX1_taking_2 4 rfl rfl)
theorem dX1_taking_51 : decode cX1_taking 51 = .ok (.iload 4, 2) := dk_21 4 (dk_at dksX1_taking_2 5 rfl rfl)
theorem dX1_taking_53 : decode cX1_taking 53 = .ok (.iload_n 2, 1) := dk_28 (dk_at dksX1_taking_2 7 rfl rfl)
theorem dX1_taking_54 : decode cX1_taking 54 = .ok (.invokevirtual 173, 3) := dk_182 0 173 (dk_at dksX1_taking_2 8 rfl rfl)
theorem dX1_taking_57 : decode cX1_taking 57 = .ok (.ifCond .eq 6, 3) := dk_153 0 6 (dk_at dksX1_taking_2 11 rfl rfl)
theorem dX1_taking_60 : decode cX1_taking 60 = .ok (.iload 4, 2) := dk_21 4 (dk_at dksX1_taking_2 14 rfl rfl)
theorem dX1_taking_62 : decode cX1_taking 62 = .ok (.ireturn, 1) := dk_172 (dk_at dksX1_taking_2 16 rfl rfl)
theorem dX1_taking_63 : decode cX1_taking 63 = .ok (.iinc 4 1, 3) := dk_132 4 1 (dk_at dksX1_taking_2 17 rfl rfl)
theorem dX1_taking_66 : decode cX1_taking 66 = .ok (.goto (-42), 3) := dk_167 255 214 (dk_at dksX1_taking_2 20 rfl rfl)
theorem dX1_taking_69 : decode cX1_taking 69 = .ok (.iconst (-1), 1) := dk_2 (dk_at dksX1_taking_2 23 rfl rfl)
theorem dX1_taking_70 : decode cX1_taking 70 = .ok (.ireturn, 1) := dk_172 (dk_at dksX1_taking_3 0 rfl rfl)
abbrev cX1_holds : ByteArray := prog_1_method_19_code
def yX1_holds : MethodName := ⟨RX1, "holds", "(LDateVale$State;II)Z"⟩
def dkwX1_holds_1 : List UInt8 := [182, 0, 157, 180, 0, 170, 126, 154, 0, 7, 4, 167, 0, 4, 3, 172]
abbrev dktX1_holds_1 : List UInt8 := dkwX1_holds_1 ++ []
def dkwX1_holds_0 : List UInt8 := [42, 43, 28, 182, 0, 163, 42, 29, 182, 0, 157, 182, 0, 161, 161, 0, 24, 43, 28, 182, 0, 167, 42, 29]
abbrev dktX1_holds_0 : List UInt8 := dkwX1_holds_0 ++ dktX1_holds_1
theorem dksX1_holds_0 : cX1_holds.data.toList.drop 0 = dktX1_holds_0 := by decide +kernel
theorem dksX1_holds_1 : cX1_holds.data.toList.drop 24 = dktX1_holds_1 := dk_seg dksX1_holds_0 24 rfl rfl
theorem dX1_holds_0 : decode cX1_holds 0 = .ok (.aload_n 0, 1) := dk_42 (dk_at dksX1_holds_0 0 rfl rfl)
theorem dX1_holds_1 : decode cX1_holds 1 = .ok (.aload_n 1, 1) := dk_43 (dk_at dksX1_holds_0 1 rfl rfl)
theorem dX1_holds_2 : decode cX1_holds 2 = .ok (.iload_n 2, 1) := dk_28 (dk_at dksX1_holds_0 2 rfl rfl)
theorem dX1_holds_3 : decode cX1_holds 3 = .ok (.invokevirtual 163, 3) := dk_182 0 163 (dk_at dksX1_holds_0 3 rfl rfl)
theorem dX1_holds_6 : decode cX1_holds 6 = .ok (.aload_n 0, 1) := dk_42 (dk_at dksX1_holds_0 6 rfl rfl)
theorem dX1_holds_7 : decode cX1_holds 7 = .ok (.iload_n 3, 1) := dk_29 (dk_at dksX1_holds_0 7 rfl rfl)
theorem dX1_holds_8 : decode cX1_holds 8 = .ok (.invokevirtual 157, 3) := dk_182 0 157 (dk_at dksX1_holds_0 8 rfl rfl)
theorem dX1_holds_11 : decode cX1_holds 11 = .ok (.invokevirtual 161, 3) := dk_182 0 161 (dk_at dksX1_holds_0 11 rfl rfl)
theorem dX1_holds_14 : decode cX1_holds 14 = .ok (.if_icmp .lt 24, 3) := dk_161 0 24 (dk_at dksX1_holds_0 14 rfl rfl)
theorem dX1_holds_17 : decode cX1_holds 17 = .ok (.aload_n 1, 1) := dk_43 (dk_at dksX1_holds_0 17 rfl rfl)
theorem dX1_holds_18 : decode cX1_holds 18 = .ok (.iload_n 2, 1) := dk_28 (dk_at dksX1_holds_0 18 rfl rfl)
theorem dX1_holds_19 : decode cX1_holds 19 = .ok (.invokevirtual 167, 3) := dk_182 0 167 (dk_at dksX1_holds_0 19 rfl rfl)
theorem dX1_holds_22 : decode cX1_holds 22 = .ok (.aload_n 0, 1) := dk_42 (dk_at dksX1_holds_0 22 rfl rfl)
theorem dX1_holds_23 : decode cX1_holds 23 = .ok (.iload_n 3, 1) := dk_29 (dk_at dksX1_holds_0 23 rfl rfl)
theorem dX1_holds_24 : decode cX1_holds 24 = .ok (.invokevirtual 157, 3) := dk_182 0 157 (dk_at dksX1_holds_1 0 rfl rfl)
theorem dX1_holds_27 : decode cX1_holds 27 = .ok (.getfield 170, 3) := dk_180 0 170 (dk_at dksX1_holds_1 3 rfl rfl)
theorem dX1_holds_30 : decode cX1_holds 30 = .ok (.iand, 1) := dk_126 (dk_at dksX1_holds_1 6 rfl rfl)
theorem dX1_holds_31 : decode cX1_holds 31 = .ok (.ifCond .ne 7, 3) := dk_154 0 7 (dk_at dksX1_holds_1 7 rfl rfl)
theorem dX1_holds_34 : decode cX1_holds 34 = .ok (.iconst 1, 1) := dk_4 (dk_at dksX1_holds_1 10 rfl rfl)
theorem dX1_holds_35 : decode cX1_holds 35 = .ok (.goto 4, 3) := dk_167 0 4 (dk_at dksX1_holds_1 11 rfl rfl)
theorem dX1_holds_38 : decode cX1_holds 38 = .ok (.iconst 0, 1) := dk_3 (dk_at dksX1_holds_1 14 rfl rfl)
theorem dX1_holds_39 : decode cX1_holds 39 = .ok (.ireturn, 1) := dk_172 (dk_at dksX1_holds_1 15 rfl rfl)
abbrev cX1_between : ByteArray := prog_1_method_2_code
def yX1_between : MethodName := ⟨RX1, "between", "(III)I"⟩
def dkwX1_between_0 : List UInt8 := [27, 28, 26, 184, 0, 1, 184, 0, 7, 172]
abbrev dktX1_between_0 : List UInt8 := dkwX1_between_0 ++ []
theorem dksX1_between_0 : cX1_between.data.toList.drop 0 = dktX1_between_0 := by decide +kernel
theorem dX1_between_0 : decode cX1_between 0 = .ok (.iload_n 1, 1) := dk_27 (dk_at dksX1_between_0 0 rfl rfl)
theorem dX1_between_1 : decode cX1_between 1 = .ok (.iload_n 2, 1) := dk_28 (dk_at dksX1_between_0 1 rfl rfl)
theorem dX1_between_2 : decode cX1_between 2 = .ok (.iload_n 0, 1) := dk_26 (dk_at dksX1_between_0 2 rfl rfl)
theorem dX1_between_3 : decode cX1_between 3 = .ok (.invokestatic 1, 3) := dk_184 0 1 (dk_at dksX1_between_0 3 rfl rfl)
theorem dX1_between_6 : decode cX1_between 6 = .ok (.invokestatic 7, 3) := dk_184 0 7 (dk_at dksX1_between_0 6 rfl rfl)
theorem dX1_between_9 : decode cX1_between 9 = .ok (.ireturn, 1) := dk_172 (dk_at dksX1_between_0 9 rfl rfl)
abbrev cX1_move : ByteArray := prog_1_method_28_code
def yX1_move : MethodName := ⟨RX1, "move", "(II)Z"⟩
def dkwX1_move_1 : List UInt8 := [182, 1, 15, 154, 0, 5, 3, 172, 42, 182, 1, 8, 42, 180, 0, 51, 180, 0, 154, 27, 28, 79, 4, 172]
abbrev dktX1_move_1 : List UInt8 := dkwX1_move_1 ++ []
def dkwX1_move_0 : List UInt8 := [42, 27, 182, 0, 252, 153, 0, 24, 42, 28, 182, 0, 245, 153, 0, 16, 42, 42, 180, 0, 51, 27, 28]
abbrev dktX1_move_0 : List UInt8 := dkwX1_move_0 ++ dktX1_move_1
theorem dksX1_move_0 : cX1_move.data.toList.drop 0 = dktX1_move_0 := by decide +kernel
theorem dksX1_move_1 : cX1_move.data.toList.drop 23 = dktX1_move_1 := dk_seg dksX1_move_0 23 rfl rfl
theorem dX1_move_0 : decode cX1_move 0 = .ok (.aload_n 0, 1) := dk_42 (dk_at dksX1_move_0 0 rfl rfl)
theorem dX1_move_1 : decode cX1_move 1 = .ok (.iload_n 1, 1) := dk_27 (dk_at dksX1_move_0 1 rfl rfl)
theorem dX1_move_2 : decode cX1_move 2 = .ok (.invokevirtual 252, 3) := dk_182 0 252 (dk_at dksX1_move_0 2 rfl rfl)
theorem dX1_move_5 : decode cX1_move 5 = .ok (.ifCond .eq 24, 3) := dk_153 0 24 (dk_at dksX1_move_0 5 rfl rfl)
theorem dX1_move_8 : decode cX1_move 8 = .ok (.aload_n 0, 1) := dk_42 (dk_at dksX1_move_0 8 rfl rfl)
theorem dX1_move_9 : decode cX1_move 9 = .ok (.iload_n 2, 1) := dk_28 (dk_at dksX1_move_0 9 rfl rfl)
theorem dX1_move_10 : decode cX1_move 10 = .ok (.invokevirtual 245, 3) := dk_182 0 245 (dk_at dksX1_move_0 10 rfl rfl)
theorem dX1_move_13 : decode cX1_move 13 = .ok (.ifCond .eq 16, 3) := dk_153 0 16 (dk_at dksX1_move_0 13 rfl rfl)
theorem dX1_move_16 : decode cX1_move 16 = .ok (.aload_n 0, 1) := dk_42 (dk_at dksX1_move_0 16 rfl rfl)
theorem dX1_move_17 : decode cX1_move 17 = .ok (.aload_n 0, 1) := dk_42 (dk_at dksX1_move_0 17 rfl rfl)
theorem dX1_move_18 : decode cX1_move 18 = .ok (.getfield 51, 3) := dk_180 0 51 (dk_at dksX1_move_0 18 rfl rfl)
theorem dX1_move_21 : decode cX1_move 21 = .ok (.iload_n 1, 1) := dk_27 (dk_at dksX1_move_0 21 rfl rfl)
theorem dX1_move_22 : decode cX1_move 22 = .ok (.iload_n 2, 1) := dk_28 (dk_at dksX1_move_0 22 rfl rfl)
theorem dX1_move_23 : decode cX1_move 23 = .ok (.invokevirtual 271, 3) := dk_182 1 15 (dk_at dksX1_move_1 0 rfl rfl)
theorem dX1_move_26 : decode cX1_move 26 = .ok (.ifCond .ne 5, 3) := dk_154 0 5 (dk_at dksX1_move_1 3 rfl rfl)
theorem dX1_move_29 : decode cX1_move 29 = .ok (.iconst 0, 1) := dk_3 (dk_at dksX1_move_1 6 rfl rfl)
theorem dX1_move_30 : decode cX1_move 30 = .ok (.ireturn, 1) := dk_172 (dk_at dksX1_move_1 7 rfl rfl)
theorem dX1_move_31 : decode cX1_move 31 = .ok (.aload_n 0, 1) := dk_42 (dk_at dksX1_move_1 8 rfl rfl)
theorem dX1_move_32 : decode cX1_move 32 = .ok (.invokevirtual 264, 3) := dk_182 1 8 (dk_at dksX1_move_1 9 rfl rfl)
theorem dX1_move_35 : decode cX1_move 35 = .ok (.aload_n 0, 1) := dk_42 (dk_at dksX1_move_1 12 rfl rfl)
theorem dX1_move_36 : decode cX1_move 36 = .ok (.getfield 51, 3) := dk_180 0 51 (dk_at dksX1_move_1 13 rfl rfl)
theorem dX1_move_39 : decode cX1_move 39 = .ok (.getfield 154, 3) := dk_180 0 154 (dk_at dksX1_move_1 16 rfl rfl)
theorem dX1_move_42 : decode cX1_move 42 = .ok (.iload_n 1, 1) := dk_27 (dk_at dksX1_move_1 19 rfl rfl)
theorem dX1_move_43 : decode cX1_move 43 = .ok (.iload_n 2, 1) := dk_28 (dk_at dksX1_move_1 20 rfl rfl)
theorem dX1_move_44 : decode cX1_move 44 = .ok (.iastore, 1) := dk_79 (dk_at dksX1_move_1 21 rfl rfl)
theorem dX1_move_45 : decode cX1_move 45 = .ok (.iconst 1, 1) := dk_4 (dk_at dksX1_move_1 22 rfl rfl)
theorem dX1_move_46 : decode cX1_move 46 = .ok (.ireturn, 1) := dk_172 (dk_at dksX1_move_1 23 rfl rfl)
abbrev cX1_canMove : ByteArray := prog_1_method_20_code
def yX1_canMove : MethodName := ⟨RX1, "canMove", "(LDateVale$State;II)Z"⟩
def dkwX1_canMove_1 : List UInt8 := [182, 0, 173, 153, 0, 7, 4, 167, 0, 4, 3, 172]
abbrev dktX1_canMove_1 : List UInt8 := dkwX1_canMove_1 ++ []
def dkwX1_canMove_0 : List UInt8 := [43, 180, 0, 154, 28, 46, 155, 0, 27, 43, 180, 0, 154, 28, 46, 29, 159, 0, 17, 42, 43, 29, 28]
abbrev dktX1_canMove_0 : List UInt8 := dkwX1_canMove_0 ++ dktX1_canMove_1
theorem dksX1_canMove_0 : cX1_canMove.data.toList.drop 0 = dktX1_canMove_0 := by decide +kernel
theorem dksX1_canMove_1 : cX1_canMove.data.toList.drop 23 = dktX1_canMove_1 := dk_seg dksX1_canMove_0 23 rfl rfl
theorem dX1_canMove_0 : decode cX1_canMove 0 = .ok (.aload_n 1, 1) := dk_43 (dk_at dksX1_canMove_0 0 rfl rfl)
theorem dX1_canMove_1 : decode cX1_canMove 1 = .ok (.getfield 154, 3) := dk_180 0 154 (dk_at dksX1_canMove_0 1 rfl rfl)
theorem dX1_canMove_4 : decode cX1_canMove 4 = .ok (.iload_n 2, 1) := dk_28 (dk_at dksX1_canMove_0 4 rfl rfl)
theorem dX1_canMove_5 : decode cX1_canMove 5 = .ok (.iaload, 1) := dk_46 (dk_at dksX1_canMove_0 5 rfl rfl)
theorem dX1_canMove_6 : decode cX1_canMove 6 = .ok (.ifCond .lt 27, 3) := dk_155 0 27 (dk_at dksX1_canMove_0 6 rfl rfl)
theorem dX1_canMove_9 : decode cX1_canMove 9 = .ok (.aload_n 1, 1) := dk_43 (dk_at dksX1_canMove_0 9 rfl rfl)
theorem dX1_canMove_10 : decode cX1_canMove 10 = .ok (.getfield 154, 3) := dk_180 0 154 (dk_at dksX1_canMove_0 10 rfl rfl)
theorem dX1_canMove_13 : decode cX1_canMove 13 = .ok (.iload_n 2, 1) := dk_28 (dk_at dksX1_canMove_0 13 rfl rfl)
theorem dX1_canMove_14 : decode cX1_canMove 14 = .ok (.iaload, 1) := dk_46 (dk_at dksX1_canMove_0 14 rfl rfl)
theorem dX1_canMove_15 : decode cX1_canMove 15 = .ok (.iload_n 3, 1) := dk_29 (dk_at dksX1_canMove_0 15 rfl rfl)
theorem dX1_canMove_16 : decode cX1_canMove 16 = .ok (.if_icmp .eq 17, 3) := dk_159 0 17 (dk_at dksX1_canMove_0 16 rfl rfl)
theorem dX1_canMove_19 : decode cX1_canMove 19 = .ok (.aload_n 0, 1) := dk_42 (dk_at dksX1_canMove_0 19 rfl rfl)
theorem dX1_canMove_20 : decode cX1_canMove 20 = .ok (.aload_n 1, 1) := dk_43 (dk_at dksX1_canMove_0 20 rfl rfl)
theorem dX1_canMove_21 : decode cX1_canMove 21 = .ok (.iload_n 3, 1) := dk_29 (dk_at dksX1_canMove_0 21 rfl rfl)
theorem dX1_canMove_22 : decode cX1_canMove 22 = .ok (.iload_n 2, 1) := dk_28 (dk_at dksX1_canMove_0 22 rfl rfl)
theorem dX1_canMove_23 : decode cX1_canMove 23 = .ok (.invokevirtual 173, 3) := dk_182 0 173 (dk_at dksX1_canMove_1 0 rfl rfl)
theorem dX1_canMove_26 : decode cX1_canMove 26 = .ok (.ifCond .eq 7, 3) := dk_153 0 7 (dk_at dksX1_canMove_1 3 rfl rfl)
theorem dX1_canMove_29 : decode cX1_canMove 29 = .ok (.iconst 1, 1) := dk_4 (dk_at dksX1_canMove_1 6 rfl rfl)
theorem dX1_canMove_30 : decode cX1_canMove 30 = .ok (.goto 4, 3) := dk_167 0 4 (dk_at dksX1_canMove_1 7 rfl rfl)
theorem dX1_canMove_33 : decode cX1_canMove 33 = .ok (.iconst 0, 1) := dk_3 (dk_at dksX1_canMove_1 10 rfl rfl)
theorem dX1_canMove_34 : decode cX1_canMove 34 = .ok (.ireturn, 1) := dk_172 (dk_at dksX1_canMove_1 11 rfl rfl)
abbrev cX1_send : ByteArray := prog_1_method_29_code
def yX1_send : MethodName := ⟨RX1, "send", "(I)Z"⟩
def dkwX1_send_1 : List UInt8 := [182, 1, 8, 42, 180, 0, 51, 27, 182, 0, 205, 4, 172]
abbrev dktX1_send_1 : List UInt8 := dkwX1_send_1 ++ []
def dkwX1_send_0 : List UInt8 := [42, 27, 182, 0, 252, 153, 0, 15, 42, 180, 0, 51, 180, 0, 154, 27, 46, 156, 0, 5, 3, 172, 42]
abbrev dktX1_send_0 : List UInt8 := dkwX1_send_0 ++ dktX1_send_1
theorem dksX1_send_0 : cX1_send.data.toList.drop 0 = dktX1_send_0 := by decide +kernel
theorem dksX1_send_1 : cX1_send.data.toList.drop 23 = dktX1_send_1 := dk_seg dksX1_send_0 23 rfl rfl
theorem dX1_send_0 : decode cX1_send 0 = .ok (.aload_n 0, 1) := dk_42 (dk_at dksX1_send_0 0 rfl rfl)
theorem dX1_send_1 : decode cX1_send 1 = .ok (.iload_n 1, 1) := dk_27 (dk_at dksX1_send_0 1 rfl rfl)
theorem dX1_send_2 : decode cX1_send 2 = .ok (.invokevirtual 252, 3) := dk_182 0 252 (dk_at dksX1_send_0 2 rfl rfl)
theorem dX1_send_5 : decode cX1_send 5 = .ok (.ifCond .eq 15, 3) := dk_153 0 15 (dk_at dksX1_send_0 5 rfl rfl)
theorem dX1_send_8 : decode cX1_send 8 = .ok (.aload_n 0, 1) := dk_42 (dk_at dksX1_send_0 8 rfl rfl)
theorem dX1_send_9 : decode cX1_send 9 = .ok (.getfield 51, 3) := dk_180 0 51 (dk_at dksX1_send_0 9 rfl rfl)
theorem dX1_send_12 : decode cX1_send 12 = .ok (.getfield 154, 3) := dk_180 0 154 (dk_at dksX1_send_0 12 rfl rfl)
theorem dX1_send_15 : decode cX1_send 15 = .ok (.iload_n 1, 1) := dk_27 (dk_at dksX1_send_0 15 rfl rfl)
theorem dX1_send_16 : decode cX1_send 16 = .ok (.iaload, 1) := dk_46 (dk_at dksX1_send_0 16 rfl rfl)
theorem dX1_send_17 : decode cX1_send 17 = .ok (.ifCond .ge 5, 3) := dk_156 0 5 (dk_at dksX1_send_0 17 rfl rfl)
theorem dX1_send_20 : decode cX1_send 20 = .ok (.iconst 0, 1) := dk_3 (dk_at dksX1_send_0 20 rfl rfl)
theorem dX1_send_21 : decode cX1_send 21 = .ok (.ireturn, 1) := dk_172 (dk_at dksX1_send_0 21 rfl rfl)
theorem dX1_send_22 : decode cX1_send 22 = .ok (.aload_n 0, 1) := dk_42 (dk_at dksX1_send_0 22 rfl rfl)
theorem dX1_send_23 : decode cX1_send 23 = .ok (.invokevirtual 264, 3) := dk_182 1 8 (dk_at dksX1_send_1 0 rfl rfl)
theorem dX1_send_26 : decode cX1_send 26 = .ok (.aload_n 0, 1) := dk_42 (dk_at dksX1_send_1 3 rfl rfl)
theorem dX1_send_27 : decode cX1_send 27 = .ok (.getfield 51, 3) := dk_180 0 51 (dk_at dksX1_send_1 4 rfl rfl)
theorem dX1_send_30 : decode cX1_send 30 = .ok (.iload_n 1, 1) := dk_27 (dk_at dksX1_send_1 7 rfl rfl)
theorem dX1_send_31 : decode cX1_send 31 = .ok (.invokevirtual 205, 3) := dk_182 0 205 (dk_at dksX1_send_1 8 rfl rfl)
theorem dX1_send_34 : decode cX1_send 34 = .ok (.iconst 1, 1) := dk_4 (dk_at dksX1_send_1 11 rfl rfl)
theorem dX1_send_35 : decode cX1_send 35 = .ok (.ireturn, 1) := dk_172 (dk_at dksX1_send_1 12 rfl rfl)
abbrev cX1_build : ByteArray := prog_1_method_30_code
def yX1_build : MethodName := ⟨RX1, "build", "(I)I"⟩
def dkwX1_build_1 : List UInt8 := [42, 182, 1, 8, 42, 180, 0, 51, 180, 0, 151, 27, 92, 46, 4, 96, 91, 79, 172]
abbrev dktX1_build_1 : List UInt8 := dkwX1_build_1 ++ []
def dkwX1_build_0 : List UInt8 := [42, 27, 182, 0, 245, 153, 0, 17, 42, 180, 0, 51, 180, 0, 151, 27, 46, 16, 9, 160, 0, 5, 2, 172]
abbrev dktX1_build_0 : List UInt8 := dkwX1_build_0 ++ dktX1_build_1
theorem dksX1_build_0 : cX1_build.data.toList.drop 0 = dktX1_build_0 := by decide +kernel
theorem dksX1_build_1 : cX1_build.data.toList.drop 24 = dktX1_build_1 := dk_seg dksX1_build_0 24 rfl rfl
theorem dX1_build_0 : decode cX1_build 0 = .ok (.aload_n 0, 1) := dk_42 (dk_at dksX1_build_0 0 rfl rfl)
theorem dX1_build_1 : decode cX1_build 1 = .ok (.iload_n 1, 1) := dk_27 (dk_at dksX1_build_0 1 rfl rfl)
theorem dX1_build_2 : decode cX1_build 2 = .ok (.invokevirtual 245, 3) := dk_182 0 245 (dk_at dksX1_build_0 2 rfl rfl)
theorem dX1_build_5 : decode cX1_build 5 = .ok (.ifCond .eq 17, 3) := dk_153 0 17 (dk_at dksX1_build_0 5 rfl rfl)
theorem dX1_build_8 : decode cX1_build 8 = .ok (.aload_n 0, 1) := dk_42 (dk_at dksX1_build_0 8 rfl rfl)
theorem dX1_build_9 : decode cX1_build 9 = .ok (.getfield 51, 3) := dk_180 0 51 (dk_at dksX1_build_0 9 rfl rfl)
theorem dX1_build_12 : decode cX1_build 12 = .ok (.getfield 151, 3) := dk_180 0 151 (dk_at dksX1_build_0 12 rfl rfl)
theorem dX1_build_15 : decode cX1_build 15 = .ok (.iload_n 1, 1) := dk_27 (dk_at dksX1_build_0 15 rfl rfl)
theorem dX1_build_16 : decode cX1_build 16 = .ok (.iaload, 1) := dk_46 (dk_at dksX1_build_0 16 rfl rfl)
theorem dX1_build_17 : decode cX1_build 17 = .ok (.bipush 9, 2) := dk_16 9 (dk_at dksX1_build_0 17 rfl rfl)
theorem dX1_build_19 : decode cX1_build 19 = .ok (.if_icmp .ne 5, 3) := dk_160 0 5 (dk_at dksX1_build_0 19 rfl rfl)
theorem dX1_build_22 : decode cX1_build 22 = .ok (.iconst (-1), 1) := dk_2 (dk_at dksX1_build_0 22 rfl rfl)
theorem dX1_build_23 : decode cX1_build 23 = .ok (.ireturn, 1) := dk_172 (dk_at dksX1_build_0 23 rfl rfl)
theorem dX1_build_24 : decode cX1_build 24 = .ok (.aload_n 0, 1) := dk_42 (dk_at dksX1_build_1 0 rfl rfl)
theorem dX1_build_25 : decode cX1_build 25 = .ok (.invokevirtual 264, 3) := dk_182 1 8 (dk_at dksX1_build_1 1 rfl rfl)
theorem dX1_build_28 : decode cX1_build 28 = .ok (.aload_n 0, 1) := dk_42 (dk_at dksX1_build_1 4 rfl rfl)
theorem dX1_build_29 : decode cX1_build 29 = .ok (.getfield 51, 3) := dk_180 0 51 (dk_at dksX1_build_1 5 rfl rfl)
theorem dX1_build_32 : decode cX1_build 32 = .ok (.getfield 151, 3) := dk_180 0 151 (dk_at dksX1_build_1 8 rfl rfl)
theorem dX1_build_35 : decode cX1_build 35 = .ok (.iload_n 1, 1) := dk_27 (dk_at dksX1_build_1 11 rfl rfl)
theorem dX1_build_36 : decode cX1_build 36 = .ok (.dup2, 1) := dk_92 (dk_at dksX1_build_1 12 rfl rfl)
theorem dX1_build_37 : decode cX1_build 37 = .ok (.iaload, 1) := dk_46 (dk_at dksX1_build_1 13 rfl rfl)
theorem dX1_build_38 : decode cX1_build 38 = .ok (.iconst 1, 1) := dk_4 (dk_at dksX1_build_1 14 rfl rfl)
theorem dX1_build_39 : decode cX1_build 39 = .ok (.iadd, 1) := dk_96 (dk_at dksX1_build_1 15 rfl rfl)
theorem dX1_build_40 : decode cX1_build 40 = .ok (.dup_x2, 1) := dk_91 (dk_at dksX1_build_1 16 rfl rfl)
theorem dX1_build_41 : decode cX1_build 41 = .ok (.iastore, 1) := dk_79 (dk_at dksX1_build_1 17 rfl rfl)
theorem dX1_build_42 : decode cX1_build 42 = .ok (.ireturn, 1) := dk_172 (dk_at dksX1_build_1 18 rfl rfl)
abbrev cX1_undo : ByteArray := prog_1_method_31_code
def yX1_undo : MethodName := ⟨RX1, "undo", "()Z"⟩
def dkwX1_undo_1 : List UInt8 := [90, 181, 0, 117, 50, 182, 1, 4, 4, 172]
abbrev dktX1_undo_1 : List UInt8 := dkwX1_undo_1 ++ []
def dkwX1_undo_0 : List UInt8 := [42, 180, 0, 117, 154, 0, 5, 3, 172, 42, 180, 0, 51, 42, 180, 0, 62, 42, 89, 180, 0, 117, 4, 100]
abbrev dktX1_undo_0 : List UInt8 := dkwX1_undo_0 ++ dktX1_undo_1
theorem dksX1_undo_0 : cX1_undo.data.toList.drop 0 = dktX1_undo_0 := by decide +kernel
theorem dksX1_undo_1 : cX1_undo.data.toList.drop 24 = dktX1_undo_1 := dk_seg dksX1_undo_0 24 rfl rfl
theorem dX1_undo_0 : decode cX1_undo 0 = .ok (.aload_n 0, 1) := dk_42 (dk_at dksX1_undo_0 0 rfl rfl)
theorem dX1_undo_1 : decode cX1_undo 1 = .ok (.getfield 117, 3) := dk_180 0 117 (dk_at dksX1_undo_0 1 rfl rfl)
theorem dX1_undo_4 : decode cX1_undo 4 = .ok (.ifCond .ne 5, 3) := dk_154 0 5 (dk_at dksX1_undo_0 4 rfl rfl)
theorem dX1_undo_7 : decode cX1_undo 7 = .ok (.iconst 0, 1) := dk_3 (dk_at dksX1_undo_0 7 rfl rfl)
theorem dX1_undo_8 : decode cX1_undo 8 = .ok (.ireturn, 1) := dk_172 (dk_at dksX1_undo_0 8 rfl rfl)
theorem dX1_undo_9 : decode cX1_undo 9 = .ok (.aload_n 0, 1) := dk_42 (dk_at dksX1_undo_0 9 rfl rfl)
theorem dX1_undo_10 : decode cX1_undo 10 = .ok (.getfield 51, 3) := dk_180 0 51 (dk_at dksX1_undo_0 10 rfl rfl)
theorem dX1_undo_13 : decode cX1_undo 13 = .ok (.aload_n 0, 1) := dk_42 (dk_at dksX1_undo_0 13 rfl rfl)
theorem dX1_undo_14 : decode cX1_undo 14 = .ok (.getfield 62, 3) := dk_180 0 62 (dk_at dksX1_undo_0 14 rfl rfl)
theorem dX1_undo_17 : decode cX1_undo 17 = .ok (.aload_n 0, 1) := dk_42 (dk_at dksX1_undo_0 17 rfl rfl)
theorem dX1_undo_18 : decode cX1_undo 18 = .ok (.dup, 1) := dk_89 (dk_at dksX1_undo_0 18 rfl rfl)
theorem dX1_undo_19 : decode cX1_undo 19 = .ok (.getfield 117, 3) := dk_180 0 117 (dk_at dksX1_undo_0 19 rfl rfl)
theorem dX1_undo_22 : decode cX1_undo 22 = .ok (.iconst 1, 1) := dk_4 (dk_at dksX1_undo_0 22 rfl rfl)
theorem dX1_undo_23 : decode cX1_undo 23 = .ok (.isub, 1) := dk_100 (dk_at dksX1_undo_0 23 rfl rfl)
theorem dX1_undo_24 : decode cX1_undo 24 = .ok (.dup_x1, 1) := dk_90 (dk_at dksX1_undo_1 0 rfl rfl)
theorem dX1_undo_25 : decode cX1_undo 25 = .ok (.putfield 117, 3) := dk_181 0 117 (dk_at dksX1_undo_1 1 rfl rfl)
theorem dX1_undo_28 : decode cX1_undo 28 = .ok (.aaload, 1) := dk_50 (dk_at dksX1_undo_1 4 rfl rfl)
theorem dX1_undo_29 : decode cX1_undo 29 = .ok (.invokevirtual 260, 3) := dk_182 1 4 (dk_at dksX1_undo_1 5 rfl rfl)
theorem dX1_undo_32 : decode cX1_undo 32 = .ok (.iconst 1, 1) := dk_4 (dk_at dksX1_undo_1 8 rfl rfl)
theorem dX1_undo_33 : decode cX1_undo 33 = .ok (.ireturn, 1) := dk_172 (dk_at dksX1_undo_1 9 rfl rfl)
abbrev cX1_judged : ByteArray := prog_1_method_32_code
def yX1_judged : MethodName := ⟨RX1, "judged", "(I)I"⟩
def dkwX1_judged_4 : List UInt8 := [154, 0, 7, 28, 167, 0, 19, 27, 4, 160, 0, 7, 29, 167, 0, 10, 42, 180, 0, 55, 180, 0, 220, 172]
abbrev dktX1_judged_4 : List UInt8 := dkwX1_judged_4 ++ []
def dkwX1_judged_3 : List UInt8 := [29, 156, 0, 16, 42, 180, 0, 55, 180, 0, 220, 158, 0, 6, 21, 4, 62, 132, 4, 1, 167, 255, 194, 27]
abbrev dktX1_judged_3 : List UInt8 := dkwX1_judged_3 ++ dktX1_judged_4
def dkwX1_judged_2 : List UInt8 := [182, 0, 131, 192, 1, 18, 42, 42, 180, 0, 55, 182, 1, 20, 154, 0, 10, 28, 156, 0, 6, 21, 4, 61]
abbrev dktX1_judged_2 : List UInt8 := dkwX1_judged_2 ++ dktX1_judged_3
def dkwX1_judged_1 : List UInt8 := [61, 2, 62, 3, 54, 4, 21, 4, 42, 180, 0, 44, 182, 0, 127, 162, 0, 56, 42, 180, 0, 44, 21, 4]
abbrev dktX1_judged_1 : List UInt8 := dkwX1_judged_1 ++ dktX1_judged_2
def dkwX1_judged_0 : List UInt8 := [27, 3, 5, 184, 0, 145, 154, 0, 6, 16, 254, 172, 42, 180, 0, 55, 42, 180, 0, 35, 182, 0, 92, 2]
abbrev dktX1_judged_0 : List UInt8 := dkwX1_judged_0 ++ dktX1_judged_1
theorem dksX1_judged_0 : cX1_judged.data.toList.drop 0 = dktX1_judged_0 := by decide +kernel
theorem dksX1_judged_1 : cX1_judged.data.toList.drop 24 = dktX1_judged_1 := dk_seg dksX1_judged_0 24 rfl rfl
theorem dksX1_judged_2 : cX1_judged.data.toList.drop 48 = dktX1_judged_2 := dk_seg dksX1_judged_1 24 rfl rfl
theorem dksX1_judged_3 : cX1_judged.data.toList.drop 72 = dktX1_judged_3 := dk_seg dksX1_judged_2 24 rfl rfl
theorem dksX1_judged_4 : cX1_judged.data.toList.drop 96 = dktX1_judged_4 := dk_seg dksX1_judged_3 24 rfl rfl
theorem dX1_judged_0 : decode cX1_judged 0 = .ok (.iload_n 1, 1) := dk_27 (dk_at dksX1_judged_0 0 rfl rfl)
theorem dX1_judged_1 : decode cX1_judged 1 = .ok (.iconst 0, 1) := dk_3 (dk_at dksX1_judged_0 1 rfl rfl)
theorem dX1_judged_2 : decode cX1_judged 2 = .ok (.iconst 2, 1) := dk_5 (dk_at dksX1_judged_0 2 rfl rfl)
theorem dX1_judged_3 : decode cX1_judged 3 = .ok (.invokestatic 145, 3) := dk_184 0 145 (dk_at dksX1_judged_0 3 rfl rfl)
theorem dX1_judged_6 : decode cX1_judged 6 = .ok (.ifCond .ne 6, 3) := dk_154 0 6 (dk_at dksX1_judged_0 6 rfl rfl)
theorem dX1_judged_9 : decode cX1_judged 9 = .ok (.bipush (-2), 2) := dk_16 254 (dk_at dksX1_judged_0 9 rfl rfl)
theorem dX1_judged_11 : decode cX1_judged 11 = .ok (.ireturn, 1) := dk_172 (dk_at dksX1_judged_0 11 rfl rfl)
theorem dX1_judged_12 : decode cX1_judged 12 = .ok (.aload_n 0, 1) := dk_42 (dk_at dksX1_judged_0 12 rfl rfl)
theorem dX1_judged_13 : decode cX1_judged 13 = .ok (.getfield 55, 3) := dk_180 0 55 (dk_at dksX1_judged_0 13 rfl rfl)
theorem dX1_judged_16 : decode cX1_judged 16 = .ok (.aload_n 0, 1) := dk_42 (dk_at dksX1_judged_0 16 rfl rfl)
theorem dX1_judged_17 : decode cX1_judged 17 = .ok (.getfield 35, 3) := dk_180 0 35 (dk_at dksX1_judged_0 17 rfl rfl)
theorem dX1_judged_20 : decode cX1_judged 20 = .ok (.invokevirtual 92, 3) := dk_182 0 92 (dk_at dksX1_judged_0 20 rfl rfl)
theorem dX1_judged_23 : decode cX1_judged 23 = .ok (.iconst (-1), 1) := dk_2 (dk_at dksX1_judged_0 23 rfl rfl)
theorem dX1_judged_24 : decode cX1_judged 24 = .ok (.istore_n 2, 1) := dk_61 (dk_at dksX1_judged_1 0 rfl rfl)
theorem dX1_judged_25 : decode cX1_judged 25 = .ok (.iconst (-1), 1) := dk_2 (dk_at dksX1_judged_1 1 rfl rfl)
theorem dX1_judged_26 : decode cX1_judged 26 = .ok (.istore_n 3, 1) := dk_62 (dk_at dksX1_judged_1 2 rfl rfl)
theorem dX1_judged_27 : decode cX1_judged 27 = .ok (.iconst 0, 1) := dk_3 (dk_at dksX1_judged_1 3 rfl rfl)
theorem dX1_judged_28 : decode cX1_judged 28 = .ok (.istore 4, 2) := dk_54 4 (dk_at dksX1_judged_1 4 rfl rfl)
theorem dX1_judged_30 : decode cX1_judged 30 = .ok (.iload 4, 2) := dk_21 4 (dk_at dksX1_judged_1 6 rfl rfl)
theorem dX1_judged_32 : decode cX1_judged 32 = .ok (.aload_n 0, 1) := dk_42 (dk_at dksX1_judged_1 8 rfl rfl)
theorem dX1_judged_33 : decode cX1_judged 33 = .ok (.getfield 44, 3) := dk_180 0 44 (dk_at dksX1_judged_1 9 rfl rfl)
theorem dX1_judged_36 : decode cX1_judged 36 = .ok (.invokevirtual 127, 3) := dk_182 0 127 (dk_at dksX1_judged_1 12 rfl rfl)
theorem dX1_judged_39 : decode cX1_judged 39 = .ok (.if_icmp .ge 56, 3) := dk_162 0 56 (dk_at dksX1_judged_1 15 rfl rfl)
theorem dX1_judged_42 : decode cX1_judged 42 = .ok (.aload_n 0, 1) := dk_42 (dk_at dksX1_judged_1 18 rfl rfl)
theorem dX1_judged_43 : decode cX1_judged 43 = .ok (.getfield 44, 3) := dk_180 0 44 (dk_at dksX1_judged_1 19 rfl rfl)
theorem dX1_judged_46 : decode cX1_judged 46 = .ok (.iload 4, 2) := dk_21 4 (dk_at dksX1_judged_1 22 rfl rfl)
theorem dX1_judged_48 : decode cX1_judged 48 = .ok (.invokevirtual 131, 3) := dk_182 0 131 (dk_at dksX1_judged_2 0 rfl rfl)
theorem dX1_judged_51 : decode cX1_judged 51 = .ok (.checkcast 274, 3) := dk_192 1 18 (dk_at dksX1_judged_2 3 rfl rfl)
theorem dX1_judged_54 : decode cX1_judged 54 = .ok (.aload_n 0, 1) := dk_42 (dk_at dksX1_judged_2 6 rfl rfl)
theorem dX1_judged_55 : decode cX1_judged 55 = .ok (.aload_n 0, 1) := dk_42 (dk_at dksX1_judged_2 7 rfl rfl)
theorem dX1_judged_56 : decode cX1_judged 56 = .ok (.getfield 55, 3) := dk_180 0 55 (dk_at dksX1_judged_2 8 rfl rfl)
theorem dX1_judged_59 : decode cX1_judged 59 = .ok (.invokevirtual 276, 3) := dk_182 1 20 (dk_at dksX1_judged_2 11 rfl rfl)
theorem dX1_judged_62 : decode cX1_judged 62 = .ok (.ifCond .ne 10, 3) := dk_154 0 10 (dk_at dksX1_judged_2 14 rfl rfl)
theorem dX1_judged_65 : decode cX1_judged 65 = .ok (.iload_n 2, 1) := dk_28 (dk_at dksX1_judged_2 17 rfl rfl)
theorem dX1_judged_66 : decode cX1_judged 66 = .ok (.ifCond .ge 6, 3) := dk_156 0 6 (dk_at dksX1_judged_2 18 rfl rfl)
theorem dX1_judged_69 : decode cX1_judged 69 = .ok (.iload 4, 2) := dk_21 4 (dk_at dksX1_judged_2 21 rfl rfl)
theorem dX1_judged_71 : decode cX1_judged 71 = .ok (.istore_n 2, 1) := dk_61 (dk_at dksX1_judged_2 23 rfl rfl)
theorem dX1_judged_72 : decode cX1_judged 72 = .ok (.iload_n 3, 1) := dk_29 (dk_at dksX1_judged_3 0 rfl rfl)
theorem dX1_judged_73 : decode cX1_judged 73 = .ok (.ifCond .ge 16, 3) := dk_156 0 16 (dk_at dksX1_judged_3 1 rfl rfl)
theorem dX1_judged_76 : decode cX1_judged 76 = .ok (.aload_n 0, 1) := dk_42 (dk_at dksX1_judged_3 4 rfl rfl)
theorem dX1_judged_77 : decode cX1_judged 77 = .ok (.getfield 55, 3) := dk_180 0 55 (dk_at dksX1_judged_3 5 rfl rfl)
theorem dX1_judged_80 : decode cX1_judged 80 = .ok (.getfield 220, 3) := dk_180 0 220 (dk_at dksX1_judged_3 8 rfl rfl)
theorem dX1_judged_83 : decode cX1_judged 83 = .ok (.ifCond .le 6, 3) := dk_158 0 6 (dk_at dksX1_judged_3 11 rfl rfl)
theorem dX1_judged_86 : decode cX1_judged 86 = .ok (.iload 4, 2) := dk_21 4 (dk_at dksX1_judged_3 14 rfl rfl)
theorem dX1_judged_88 : decode cX1_judged 88 = .ok (.istore_n 3, 1) := dk_62 (dk_at dksX1_judged_3 16 rfl rfl)
theorem dX1_judged_89 : decode cX1_judged 89 = .ok (.iinc 4 1, 3) := dk_132 4 1 (dk_at dksX1_judged_3 17 rfl rfl)
theorem dX1_judged_92 : decode cX1_judged 92 = .ok (.goto (-62), 3) := dk_167 255 194 (dk_at dksX1_judged_3 20 rfl rfl)
theorem dX1_judged_95 : decode cX1_judged 95 = .ok (.iload_n 1, 1) := dk_27 (dk_at dksX1_judged_3 23 rfl rfl)
theorem dX1_judged_96 : decode cX1_judged 96 = .ok (.ifCond .ne 7, 3) := dk_154 0 7 (dk_at dksX1_judged_4 0 rfl rfl)
theorem dX1_judged_99 : decode cX1_judged 99 = .ok (.iload_n 2, 1) := dk_28 (dk_at dksX1_judged_4 3 rfl rfl)
theorem dX1_judged_100 : decode cX1_judged 100 = .ok (.goto 19, 3) := dk_167 0 19 (dk_at dksX1_judged_4 4 rfl rfl)
theorem dX1_judged_103 : decode cX1_judged 103 = .ok (.iload_n 1, 1) := dk_27 (dk_at dksX1_judged_4 7 rfl rfl)
theorem dX1_judged_104 : decode cX1_judged 104 = .ok (.iconst 1, 1) := dk_4 (dk_at dksX1_judged_4 8 rfl rfl)
theorem dX1_judged_105 : decode cX1_judged 105 = .ok (.if_icmp .ne 7, 3) := dk_160 0 7 (dk_at dksX1_judged_4 9 rfl rfl)
theorem dX1_judged_108 : decode cX1_judged 108 = .ok (.iload_n 3, 1) := dk_29 (dk_at dksX1_judged_4 12 rfl rfl)
theorem dX1_judged_109 : decode cX1_judged 109 = .ok (.goto 10, 3) := dk_167 0 10 (dk_at dksX1_judged_4 13 rfl rfl)
theorem dX1_judged_112 : decode cX1_judged 112 = .ok (.aload_n 0, 1) := dk_42 (dk_at dksX1_judged_4 16 rfl rfl)
theorem dX1_judged_113 : decode cX1_judged 113 = .ok (.getfield 55, 3) := dk_180 0 55 (dk_at dksX1_judged_4 17 rfl rfl)
theorem dX1_judged_116 : decode cX1_judged 116 = .ok (.getfield 220, 3) := dk_180 0 220 (dk_at dksX1_judged_4 20 rfl rfl)
theorem dX1_judged_119 : decode cX1_judged 119 = .ok (.ireturn, 1) := dk_172 (dk_at dksX1_judged_4 23 rfl rfl)
abbrev cX1_where : ByteArray := prog_1_method_34_code
def yX1_where : MethodName := ⟨RX1, "where", "(II)I"⟩
def dkwX1_where_2 : List UInt8 := [172]
abbrev dktX1_where_2 : List UInt8 := dkwX1_where_2 ++ []
def dkwX1_where_1 : List UInt8 := [180, 0, 55, 42, 180, 0, 51, 182, 1, 4, 42, 28, 182, 1, 24, 42, 180, 0, 55, 180, 0, 154, 27, 46]
abbrev dktX1_where_1 : List UInt8 := dkwX1_where_1 ++ dktX1_where_2
def dkwX1_where_0 : List UInt8 := [42, 27, 182, 0, 252, 153, 0, 13, 28, 3, 16, 60, 184, 0, 145, 154, 0, 6, 16, 254, 172, 42]
abbrev dktX1_where_0 : List UInt8 := dkwX1_where_0 ++ dktX1_where_1
theorem dksX1_where_0 : cX1_where.data.toList.drop 0 = dktX1_where_0 := by decide +kernel
theorem dksX1_where_1 : cX1_where.data.toList.drop 22 = dktX1_where_1 := dk_seg dksX1_where_0 22 rfl rfl
theorem dksX1_where_2 : cX1_where.data.toList.drop 46 = dktX1_where_2 := dk_seg dksX1_where_1 24 rfl rfl
theorem dX1_where_0 : decode cX1_where 0 = .ok (.aload_n 0, 1) := dk_42 (dk_at dksX1_where_0 0 rfl rfl)
theorem dX1_where_1 : decode cX1_where 1 = .ok (.iload_n 1, 1) := dk_27 (dk_at dksX1_where_0 1 rfl rfl)
theorem dX1_where_2 : decode cX1_where 2 = .ok (.invokevirtual 252, 3) := dk_182 0 252 (dk_at dksX1_where_0 2 rfl rfl)
theorem dX1_where_5 : decode cX1_where 5 = .ok (.ifCond .eq 13, 3) := dk_153 0 13 (dk_at dksX1_where_0 5 rfl rfl)
theorem dX1_where_8 : decode cX1_where 8 = .ok (.iload_n 2, 1) := dk_28 (dk_at dksX1_where_0 8 rfl rfl)
theorem dX1_where_9 : decode cX1_where 9 = .ok (.iconst 0, 1) := dk_3 (dk_at dksX1_where_0 9 rfl rfl)
theorem dX1_where_10 : decode cX1_where 10 = .ok (.bipush 60, 2) := dk_16 60 (dk_at dksX1_where_0 10 rfl rfl)
theorem dX1_where_12 : decode cX1_where 12 = .ok (.invokestatic 145, 3) := dk_184 0 145 (dk_at dksX1_where_0 12 rfl rfl)
theorem dX1_where_15 : decode cX1_where 15 = .ok (.ifCond .ne 6, 3) := dk_154 0 6 (dk_at dksX1_where_0 15 rfl rfl)
theorem dX1_where_18 : decode cX1_where 18 = .ok (.bipush (-2), 2) := dk_16 254 (dk_at dksX1_where_0 18 rfl rfl)
theorem dX1_where_20 : decode cX1_where 20 = .ok (.ireturn, 1) := dk_172 (dk_at dksX1_where_0 20 rfl rfl)
theorem dX1_where_21 : decode cX1_where 21 = .ok (.aload_n 0, 1) := dk_42 (dk_at dksX1_where_0 21 rfl rfl)
theorem dX1_where_22 : decode cX1_where 22 = .ok (.getfield 55, 3) := dk_180 0 55 (dk_at dksX1_where_1 0 rfl rfl)
theorem dX1_where_25 : decode cX1_where 25 = .ok (.aload_n 0, 1) := dk_42 (dk_at dksX1_where_1 3 rfl rfl)
theorem dX1_where_26 : decode cX1_where 26 = .ok (.getfield 51, 3) := dk_180 0 51 (dk_at dksX1_where_1 4 rfl rfl)
theorem dX1_where_29 : decode cX1_where 29 = .ok (.invokevirtual 260, 3) := dk_182 1 4 (dk_at dksX1_where_1 7 rfl rfl)
theorem dX1_where_32 : decode cX1_where 32 = .ok (.aload_n 0, 1) := dk_42 (dk_at dksX1_where_1 10 rfl rfl)
theorem dX1_where_33 : decode cX1_where 33 = .ok (.iload_n 2, 1) := dk_28 (dk_at dksX1_where_1 11 rfl rfl)
theorem dX1_where_34 : decode cX1_where 34 = .ok (.invokevirtual 280, 3) := dk_182 1 24 (dk_at dksX1_where_1 12 rfl rfl)
theorem dX1_where_37 : decode cX1_where 37 = .ok (.aload_n 0, 1) := dk_42 (dk_at dksX1_where_1 15 rfl rfl)
theorem dX1_where_38 : decode cX1_where 38 = .ok (.getfield 55, 3) := dk_180 0 55 (dk_at dksX1_where_1 16 rfl rfl)
theorem dX1_where_41 : decode cX1_where 41 = .ok (.getfield 154, 3) := dk_180 0 154 (dk_at dksX1_where_1 19 rfl rfl)
theorem dX1_where_44 : decode cX1_where 44 = .ok (.iload_n 1, 1) := dk_27 (dk_at dksX1_where_1 22 rfl rfl)
theorem dX1_where_45 : decode cX1_where 45 = .ok (.iaload, 1) := dk_46 (dk_at dksX1_where_1 23 rfl rfl)
theorem dX1_where_46 : decode cX1_where 46 = .ok (.ireturn, 1) := dk_172 (dk_at dksX1_where_2 0 rfl rfl)
abbrev cX1_goesOn : ByteArray := prog_1_method_33_code
def yX1_goesOn : MethodName := ⟨RX1, "goesOn", "(I)V"⟩
def dkwX1_goesOn_0 : List UInt8 := [3, 61, 28, 27, 162, 0, 18, 42, 42, 180, 0, 55, 182, 1, 11, 87, 132, 2, 1, 167, 255, 239, 177]
abbrev dktX1_goesOn_0 : List UInt8 := dkwX1_goesOn_0 ++ []
theorem dksX1_goesOn_0 : cX1_goesOn.data.toList.drop 0 = dktX1_goesOn_0 := by decide +kernel
theorem dX1_goesOn_0 : decode cX1_goesOn 0 = .ok (.iconst 0, 1) := dk_3 (dk_at dksX1_goesOn_0 0 rfl rfl)
theorem dX1_goesOn_1 : decode cX1_goesOn 1 = .ok (.istore_n 2, 1) := dk_61 (dk_at dksX1_goesOn_0 1 rfl rfl)
theorem dX1_goesOn_2 : decode cX1_goesOn 2 = .ok (.iload_n 2, 1) := dk_28 (dk_at dksX1_goesOn_0 2 rfl rfl)
theorem dX1_goesOn_3 : decode cX1_goesOn 3 = .ok (.iload_n 1, 1) := dk_27 (dk_at dksX1_goesOn_0 3 rfl rfl)
theorem dX1_goesOn_4 : decode cX1_goesOn 4 = .ok (.if_icmp .ge 18, 3) := dk_162 0 18 (dk_at dksX1_goesOn_0 4 rfl rfl)
theorem dX1_goesOn_7 : decode cX1_goesOn 7 = .ok (.aload_n 0, 1) := dk_42 (dk_at dksX1_goesOn_0 7 rfl rfl)
theorem dX1_goesOn_8 : decode cX1_goesOn 8 = .ok (.aload_n 0, 1) := dk_42 (dk_at dksX1_goesOn_0 8 rfl rfl)
theorem dX1_goesOn_9 : decode cX1_goesOn 9 = .ok (.getfield 55, 3) := dk_180 0 55 (dk_at dksX1_goesOn_0 9 rfl rfl)
theorem dX1_goesOn_12 : decode cX1_goesOn 12 = .ok (.invokevirtual 267, 3) := dk_182 1 11 (dk_at dksX1_goesOn_0 12 rfl rfl)
theorem dX1_goesOn_15 : decode cX1_goesOn 15 = .ok (.pop, 1) := dk_87 (dk_at dksX1_goesOn_0 15 rfl rfl)
theorem dX1_goesOn_16 : decode cX1_goesOn 16 = .ok (.iinc 2 1, 3) := dk_132 2 1 (dk_at dksX1_goesOn_0 16 rfl rfl)
theorem dX1_goesOn_19 : decode cX1_goesOn 19 = .ok (.goto (-17), 3) := dk_167 255 239 (dk_at dksX1_goesOn_0 19 rfl rfl)
theorem dX1_goesOn_22 : decode cX1_goesOn 22 = .ok (.return_, 1) := dk_177 (dk_at dksX1_goesOn_0 22 rfl rfl)
abbrev cX1_next : ByteArray := prog_1_method_35_code
def yX1_next : MethodName := ⟨RX1, "next", "(I)I"⟩
def dkwX1_next_2 : List UInt8 := [153, 0, 5, 28, 172, 132, 2, 1, 167, 255, 225, 2, 172]
abbrev dktX1_next_2 : List UInt8 := dkwX1_next_2 ++ []
def dkwX1_next_1 : List UInt8 := [16, 60, 163, 0, 31, 42, 42, 180, 0, 55, 182, 1, 11, 42, 180, 0, 191, 128, 27, 184, 0, 187]
abbrev dktX1_next_1 : List UInt8 := dkwX1_next_1 ++ dktX1_next_2
def dkwX1_next_0 : List UInt8 := [42, 27, 182, 0, 252, 154, 0, 5, 2, 172, 42, 180, 0, 55, 42, 180, 0, 51, 182, 1, 4, 4, 61, 28]
abbrev dktX1_next_0 : List UInt8 := dkwX1_next_0 ++ dktX1_next_1
theorem dksX1_next_0 : cX1_next.data.toList.drop 0 = dktX1_next_0 := by decide +kernel
theorem dksX1_next_1 : cX1_next.data.toList.drop 24 = dktX1_next_1 := dk_seg dksX1_next_0 24 rfl rfl
theorem dksX1_next_2 : cX1_next.data.toList.drop 46 = dktX1_next_2 := dk_seg dksX1_next_1 22 rfl rfl
theorem dX1_next_0 : decode cX1_next 0 = .ok (.aload_n 0, 1) := dk_42 (dk_at dksX1_next_0 0 rfl rfl)
theorem dX1_next_1 : decode cX1_next 1 = .ok (.iload_n 1, 1) := dk_27 (dk_at dksX1_next_0 1 rfl rfl)
theorem dX1_next_2 : decode cX1_next 2 = .ok (.invokevirtual 252, 3) := dk_182 0 252 (dk_at dksX1_next_0 2 rfl rfl)
theorem dX1_next_5 : decode cX1_next 5 = .ok (.ifCond .ne 5, 3) := dk_154 0 5 (dk_at dksX1_next_0 5 rfl rfl)
theorem dX1_next_8 : decode cX1_next 8 = .ok (.iconst (-1), 1) := dk_2 (dk_at dksX1_next_0 8 rfl rfl)
theorem dX1_next_9 : decode cX1_next 9 = .ok (.ireturn, 1) := dk_172 (dk_at dksX1_next_0 9 rfl rfl)
theorem dX1_next_10 : decode cX1_next 10 = .ok (.aload_n 0, 1) := dk_42 (dk_at dksX1_next_0 10 rfl rfl)
theorem dX1_next_11 : decode cX1_next 11 = .ok (.getfield 55, 3) := dk_180 0 55 (dk_at dksX1_next_0 11 rfl rfl)
theorem dX1_next_14 : decode cX1_next 14 = .ok (.aload_n 0, 1) := dk_42 (dk_at dksX1_next_0 14 rfl rfl)
theorem dX1_next_15 : decode cX1_next 15 = .ok (.getfield 51, 3) := dk_180 0 51 (dk_at dksX1_next_0 15 rfl rfl)
theorem dX1_next_18 : decode cX1_next 18 = .ok (.invokevirtual 260, 3) := dk_182 1 4 (dk_at dksX1_next_0 18 rfl rfl)
theorem dX1_next_21 : decode cX1_next 21 = .ok (.iconst 1, 1) := dk_4 (dk_at dksX1_next_0 21 rfl rfl)
theorem dX1_next_22 : decode cX1_next 22 = .ok (.istore_n 2, 1) := dk_61 (dk_at dksX1_next_0 22 rfl rfl)
theorem dX1_next_23 : decode cX1_next 23 = .ok (.iload_n 2, 1) := dk_28 (dk_at dksX1_next_0 23 rfl rfl)
theorem dX1_next_24 : decode cX1_next 24 = .ok (.bipush 60, 2) := dk_16 60 (dk_at dksX1_next_1 0 rfl rfl)
theorem dX1_next_26 : decode cX1_next 26 = .ok (.if_icmp .gt 31, 3) := dk_163 0 31 (dk_at dksX1_next_1 2 rfl rfl)
theorem dX1_next_29 : decode cX1_next 29 = .ok (.aload_n 0, 1) := dk_42 (dk_at dksX1_next_1 5 rfl rfl)
theorem dX1_next_30 : decode cX1_next 30 = .ok (.aload_n 0, 1) := dk_42 (dk_at dksX1_next_1 6 rfl rfl)
theorem dX1_next_31 : decode cX1_next 31 = .ok (.getfield 55, 3) := dk_180 0 55 (dk_at dksX1_next_1 7 rfl rfl)
theorem dX1_next_34 : decode cX1_next 34 = .ok (.invokevirtual 267, 3) := dk_182 1 11 (dk_at dksX1_next_1 10 rfl rfl)
theorem dX1_next_37 : decode cX1_next 37 = .ok (.aload_n 0, 1) := dk_42 (dk_at dksX1_next_1 13 rfl rfl)
theorem dX1_next_38 : decode cX1_next 38 = .ok (.getfield 191, 3) := dk_180 0 191 (dk_at dksX1_next_1 14 rfl rfl)
theorem dX1_next_41 : decode cX1_next 41 = .ok (.ior, 1) := dk_128 (dk_at dksX1_next_1 17 rfl rfl)
theorem dX1_next_42 : decode cX1_next 42 = .ok (.iload_n 1, 1) := dk_27 (dk_at dksX1_next_1 18 rfl rfl)
theorem dX1_next_43 : decode cX1_next 43 = .ok (.invokestatic 187, 3) := dk_184 0 187 (dk_at dksX1_next_1 19 rfl rfl)
theorem dX1_next_46 : decode cX1_next 46 = .ok (.ifCond .eq 5, 3) := dk_153 0 5 (dk_at dksX1_next_2 0 rfl rfl)
theorem dX1_next_49 : decode cX1_next 49 = .ok (.iload_n 2, 1) := dk_28 (dk_at dksX1_next_2 3 rfl rfl)
theorem dX1_next_50 : decode cX1_next 50 = .ok (.ireturn, 1) := dk_172 (dk_at dksX1_next_2 4 rfl rfl)
theorem dX1_next_51 : decode cX1_next 51 = .ok (.iinc 2 1, 3) := dk_132 2 1 (dk_at dksX1_next_2 5 rfl rfl)
theorem dX1_next_54 : decode cX1_next 54 = .ok (.goto (-31), 3) := dk_167 255 225 (dk_at dksX1_next_2 8 rfl rfl)
theorem dX1_next_57 : decode cX1_next 57 = .ok (.iconst (-1), 1) := dk_2 (dk_at dksX1_next_2 11 rfl rfl)
theorem dX1_next_58 : decode cX1_next 58 = .ok (.ireturn, 1) := dk_172 (dk_at dksX1_next_2 12 rfl rfl)
abbrev cX1_gone : ByteArray := prog_1_method_36_code
def yX1_gone : MethodName := ⟨RX1, "gone", "(I)I"⟩
def dkwX1_gone_2 : List UInt8 := [182, 1, 11, 87, 132, 2, 1, 167, 255, 224, 2, 172]
abbrev dktX1_gone_2 : List UInt8 := dkwX1_gone_2 ++ []
def dkwX1_gone_1 : List UInt8 := [16, 99, 163, 0, 32, 42, 180, 0, 55, 180, 0, 208, 27, 46, 154, 0, 5, 28, 172, 42, 42, 180, 0, 55]
abbrev dktX1_gone_1 : List UInt8 := dkwX1_gone_1 ++ dktX1_gone_2
def dkwX1_gone_0 : List UInt8 := [42, 27, 182, 0, 252, 154, 0, 5, 2, 172, 42, 180, 0, 55, 42, 180, 0, 51, 182, 1, 4, 3, 61, 28]
abbrev dktX1_gone_0 : List UInt8 := dkwX1_gone_0 ++ dktX1_gone_1
theorem dksX1_gone_0 : cX1_gone.data.toList.drop 0 = dktX1_gone_0 := by decide +kernel
theorem dksX1_gone_1 : cX1_gone.data.toList.drop 24 = dktX1_gone_1 := dk_seg dksX1_gone_0 24 rfl rfl
theorem dksX1_gone_2 : cX1_gone.data.toList.drop 48 = dktX1_gone_2 := dk_seg dksX1_gone_1 24 rfl rfl
theorem dX1_gone_0 : decode cX1_gone 0 = .ok (.aload_n 0, 1) := dk_42 (dk_at dksX1_gone_0 0 rfl rfl)
theorem dX1_gone_1 : decode cX1_gone 1 = .ok (.iload_n 1, 1) := dk_27 (dk_at dksX1_gone_0 1 rfl rfl)
theorem dX1_gone_2 : decode cX1_gone 2 = .ok (.invokevirtual 252, 3) := dk_182 0 252 (dk_at dksX1_gone_0 2 rfl rfl)
theorem dX1_gone_5 : decode cX1_gone 5 = .ok (.ifCond .ne 5, 3) := dk_154 0 5 (dk_at dksX1_gone_0 5 rfl rfl)
theorem dX1_gone_8 : decode cX1_gone 8 = .ok (.iconst (-1), 1) := dk_2 (dk_at dksX1_gone_0 8 rfl rfl)
theorem dX1_gone_9 : decode cX1_gone 9 = .ok (.ireturn, 1) := dk_172 (dk_at dksX1_gone_0 9 rfl rfl)
theorem dX1_gone_10 : decode cX1_gone 10 = .ok (.aload_n 0, 1) := dk_42 (dk_at dksX1_gone_0 10 rfl rfl)
theorem dX1_gone_11 : decode cX1_gone 11 = .ok (.getfield 55, 3) := dk_180 0 55 (dk_at dksX1_gone_0 11 rfl rfl)
theorem dX1_gone_14 : decode cX1_gone 14 = .ok (.aload_n 0, 1) := dk_42 (dk_at dksX1_gone_0 14 rfl rfl)
theorem dX1_gone_15 : decode cX1_gone 15 = .ok (.getfield 51, 3) := dk_180 0 51 (dk_at dksX1_gone_0 15 rfl rfl)
theorem dX1_gone_18 : decode cX1_gone 18 = .ok (.invokevirtual 260, 3) := dk_182 1 4 (dk_at dksX1_gone_0 18 rfl rfl)
theorem dX1_gone_21 : decode cX1_gone 21 = .ok (.iconst 0, 1) := dk_3 (dk_at dksX1_gone_0 21 rfl rfl)
theorem dX1_gone_22 : decode cX1_gone 22 = .ok (.istore_n 2, 1) := dk_61 (dk_at dksX1_gone_0 22 rfl rfl)
theorem dX1_gone_23 : decode cX1_gone 23 = .ok (.iload_n 2, 1) := dk_28 (dk_at dksX1_gone_0 23 rfl rfl)
theorem dX1_gone_24 : decode cX1_gone 24 = .ok (.bipush 99, 2) := dk_16 99 (dk_at dksX1_gone_1 0 rfl rfl)
theorem dX1_gone_26 : decode cX1_gone 26 = .ok (.if_icmp .gt 32, 3) := dk_163 0 32 (dk_at dksX1_gone_1 2 rfl rfl)
theorem dX1_gone_29 : decode cX1_gone 29 = .ok (.aload_n 0, 1) := dk_42 (dk_at dksX1_gone_1 5 rfl rfl)
theorem dX1_gone_30 : decode cX1_gone 30 = .ok (.getfield 55, 3) := dk_180 0 55 (dk_at dksX1_gone_1 6 rfl rfl)
theorem dX1_gone_33 : decode cX1_gone 33 = .ok (.getfield 208, 3) := dk_180 0 208 (dk_at dksX1_gone_1 9 rfl rfl)
theorem dX1_gone_36 : decode cX1_gone 36 = .ok (.iload_n 1, 1) := dk_27 (dk_at dksX1_gone_1 12 rfl rfl)
theorem dX1_gone_37 : decode cX1_gone 37 = .ok (.iaload, 1) := dk_46 (dk_at dksX1_gone_1 13 rfl rfl)
theorem dX1_gone_38 : decode cX1_gone 38 = .ok (.ifCond .ne 5, 3) := dk_154 0 5 (dk_at dksX1_gone_1 14 rfl rfl)
theorem dX1_gone_41 : decode cX1_gone 41 = .ok (.iload_n 2, 1) := dk_28 (dk_at dksX1_gone_1 17 rfl rfl)
theorem dX1_gone_42 : decode cX1_gone 42 = .ok (.ireturn, 1) := dk_172 (dk_at dksX1_gone_1 18 rfl rfl)
theorem dX1_gone_43 : decode cX1_gone 43 = .ok (.aload_n 0, 1) := dk_42 (dk_at dksX1_gone_1 19 rfl rfl)
theorem dX1_gone_44 : decode cX1_gone 44 = .ok (.aload_n 0, 1) := dk_42 (dk_at dksX1_gone_1 20 rfl rfl)
theorem dX1_gone_45 : decode cX1_gone 45 = .ok (.getfield 55, 3) := dk_180 0 55 (dk_at dksX1_gone_1 21 rfl rfl)
theorem dX1_gone_48 : decode cX1_gone 48 = .ok (.invokevirtual 267, 3) := dk_182 1 11 (dk_at dksX1_gone_2 0 rfl rfl)
theorem dX1_gone_51 : decode cX1_gone 51 = .ok (.pop, 1) := dk_87 (dk_at dksX1_gone_2 3 rfl rfl)
theorem dX1_gone_52 : decode cX1_gone 52 = .ok (.iinc 2 1, 3) := dk_132 2 1 (dk_at dksX1_gone_2 4 rfl rfl)
theorem dX1_gone_55 : decode cX1_gone 55 = .ok (.goto (-32), 3) := dk_167 255 224 (dk_at dksX1_gone_2 7 rfl rfl)
theorem dX1_gone_58 : decode cX1_gone 58 = .ok (.iconst (-1), 1) := dk_2 (dk_at dksX1_gone_2 10 rfl rfl)
theorem dX1_gone_59 : decode cX1_gone 59 = .ok (.ireturn, 1) := dk_172 (dk_at dksX1_gone_2 11 rfl rfl)
abbrev cX1_crowd : ByteArray := prog_1_method_37_code
def yX1_crowd : MethodName := ⟨RX1, "crowd", "()I"⟩
def dkwX1_crowd_2 : List UInt8 := [180, 0, 55, 182, 1, 11, 87, 132, 3, 1, 167, 255, 215, 27, 172]
abbrev dktX1_crowd_2 : List UInt8 := dkwX1_crowd_2 ++ []
def dkwX1_crowd_1 : List UInt8 := [180, 0, 55, 182, 1, 27, 184, 0, 226, 54, 4, 21, 4, 28, 164, 0, 8, 21, 4, 61, 29, 60, 42, 42]
abbrev dktX1_crowd_1 : List UInt8 := dkwX1_crowd_1 ++ dktX1_crowd_2
def dkwX1_crowd_0 : List UInt8 := [3, 60, 2, 61, 42, 180, 0, 55, 42, 180, 0, 51, 182, 1, 4, 3, 62, 29, 16, 60, 163, 0, 41, 42]
abbrev dktX1_crowd_0 : List UInt8 := dkwX1_crowd_0 ++ dktX1_crowd_1
theorem dksX1_crowd_0 : cX1_crowd.data.toList.drop 0 = dktX1_crowd_0 := by decide +kernel
theorem dksX1_crowd_1 : cX1_crowd.data.toList.drop 24 = dktX1_crowd_1 := dk_seg dksX1_crowd_0 24 rfl rfl
theorem dksX1_crowd_2 : cX1_crowd.data.toList.drop 48 = dktX1_crowd_2 := dk_seg dksX1_crowd_1 24 rfl rfl
theorem dX1_crowd_0 : decode cX1_crowd 0 = .ok (.iconst 0, 1) := dk_3 (dk_at dksX1_crowd_0 0 rfl rfl)
theorem dX1_crowd_1 : decode cX1_crowd 1 = .ok (.istore_n 1, 1) := dk_60 (dk_at dksX1_crowd_0 1 rfl rfl)
theorem dX1_crowd_2 : decode cX1_crowd 2 = .ok (.iconst (-1), 1) := dk_2 (dk_at dksX1_crowd_0 2 rfl rfl)
theorem dX1_crowd_3 : decode cX1_crowd 3 = .ok (.istore_n 2, 1) := dk_61 (dk_at dksX1_crowd_0 3 rfl rfl)
theorem dX1_crowd_4 : decode cX1_crowd 4 = .ok (.aload_n 0, 1) := dk_42 (dk_at dksX1_crowd_0 4 rfl rfl)
theorem dX1_crowd_5 : decode cX1_crowd 5 = .ok (.getfield 55, 3) := dk_180 0 55 (dk_at dksX1_crowd_0 5 rfl rfl)
theorem dX1_crowd_8 : decode cX1_crowd 8 = .ok (.aload_n 0, 1) := dk_42 (dk_at dksX1_crowd_0 8 rfl rfl)
theorem dX1_crowd_9 : decode cX1_crowd 9 = .ok (.getfield 51, 3) := dk_180 0 51 (dk_at dksX1_crowd_0 9 rfl rfl)
theorem dX1_crowd_12 : decode cX1_crowd 12 = .ok (.invokevirtual 260, 3) := dk_182 1 4 (dk_at dksX1_crowd_0 12 rfl rfl)
theorem dX1_crowd_15 : decode cX1_crowd 15 = .ok (.iconst 0, 1) := dk_3 (dk_at dksX1_crowd_0 15 rfl rfl)
theorem dX1_crowd_16 : decode cX1_crowd 16 = .ok (.istore_n 3, 1) := dk_62 (dk_at dksX1_crowd_0 16 rfl rfl)
theorem dX1_crowd_17 : decode cX1_crowd 17 = .ok (.iload_n 3, 1) := dk_29 (dk_at dksX1_crowd_0 17 rfl rfl)
theorem dX1_crowd_18 : decode cX1_crowd 18 = .ok (.bipush 60, 2) := dk_16 60 (dk_at dksX1_crowd_0 18 rfl rfl)
theorem dX1_crowd_20 : decode cX1_crowd 20 = .ok (.if_icmp .gt 41, 3) := dk_163 0 41 (dk_at dksX1_crowd_0 20 rfl rfl)
theorem dX1_crowd_23 : decode cX1_crowd 23 = .ok (.aload_n 0, 1) := dk_42 (dk_at dksX1_crowd_0 23 rfl rfl)
theorem dX1_crowd_24 : decode cX1_crowd 24 = .ok (.getfield 55, 3) := dk_180 0 55 (dk_at dksX1_crowd_1 0 rfl rfl)
theorem dX1_crowd_27 : decode cX1_crowd 27 = .ok (.invokevirtual 283, 3) := dk_182 1 27 (dk_at dksX1_crowd_1 3 rfl rfl)
theorem dX1_crowd_30 : decode cX1_crowd 30 = .ok (.invokestatic 226, 3) := dk_184 0 226 (dk_at dksX1_crowd_1 6 rfl rfl)
theorem dX1_crowd_33 : decode cX1_crowd 33 = .ok (.istore 4, 2) := dk_54 4 (dk_at dksX1_crowd_1 9 rfl rfl)
theorem dX1_crowd_35 : decode cX1_crowd 35 = .ok (.iload 4, 2) := dk_21 4 (dk_at dksX1_crowd_1 11 rfl rfl)
theorem dX1_crowd_37 : decode cX1_crowd 37 = .ok (.iload_n 2, 1) := dk_28 (dk_at dksX1_crowd_1 13 rfl rfl)
theorem dX1_crowd_38 : decode cX1_crowd 38 = .ok (.if_icmp .le 8, 3) := dk_164 0 8 (dk_at dksX1_crowd_1 14 rfl rfl)
theorem dX1_crowd_41 : decode cX1_crowd 41 = .ok (.iload 4, 2) := dk_21 4 (dk_at dksX1_crowd_1 17 rfl rfl)
theorem dX1_crowd_43 : decode cX1_crowd 43 = .ok (.istore_n 2, 1) := dk_61 (dk_at dksX1_crowd_1 19 rfl rfl)
theorem dX1_crowd_44 : decode cX1_crowd 44 = .ok (.iload_n 3, 1) := dk_29 (dk_at dksX1_crowd_1 20 rfl rfl)
theorem dX1_crowd_45 : decode cX1_crowd 45 = .ok (.istore_n 1, 1) := dk_60 (dk_at dksX1_crowd_1 21 rfl rfl)
theorem dX1_crowd_46 : decode cX1_crowd 46 = .ok (.aload_n 0, 1) := dk_42 (dk_at dksX1_crowd_1 22 rfl rfl)
theorem dX1_crowd_47 : decode cX1_crowd 47 = .ok (.aload_n 0, 1) := dk_42 (dk_at dksX1_crowd_1 23 rfl rfl)
theorem dX1_crowd_48 : decode cX1_crowd 48 = .ok (.getfield 55, 3) := dk_180 0 55 (dk_at dksX1_crowd_2 0 rfl rfl)
theorem dX1_crowd_51 : decode cX1_crowd 51 = .ok (.invokevirtual 267, 3) := dk_182 1 11 (dk_at dksX1_crowd_2 3 rfl rfl)
theorem dX1_crowd_54 : decode cX1_crowd 54 = .ok (.pop, 1) := dk_87 (dk_at dksX1_crowd_2 6 rfl rfl)
theorem dX1_crowd_55 : decode cX1_crowd 55 = .ok (.iinc 3 1, 3) := dk_132 3 1 (dk_at dksX1_crowd_2 7 rfl rfl)
theorem dX1_crowd_58 : decode cX1_crowd 58 = .ok (.goto (-41), 3) := dk_167 255 215 (dk_at dksX1_crowd_2 10 rfl rfl)
theorem dX1_crowd_61 : decode cX1_crowd 61 = .ok (.iload_n 1, 1) := dk_27 (dk_at dksX1_crowd_2 13 rfl rfl)
theorem dX1_crowd_62 : decode cX1_crowd 62 = .ok (.ireturn, 1) := dk_172 (dk_at dksX1_crowd_2 14 rfl rfl)
abbrev cX1_refused : ByteArray := prog_1_method_38_code
def yX1_refused : MethodName := ⟨RX1, "refused", "(I)I"⟩
def dkwX1_refused_2 : List UInt8 := [154, 0, 7, 28, 167, 0, 10, 42, 180, 0, 191, 184, 1, 30, 172, 132, 2, 1, 167, 255, 215, 2, 172]
abbrev dktX1_refused_2 : List UInt8 := dkwX1_refused_2 ++ []
def dkwX1_refused_1 : List UInt8 := [28, 16, 60, 163, 0, 41, 42, 42, 180, 0, 55, 182, 1, 11, 87, 42, 180, 0, 191, 153, 0, 19, 27]
abbrev dktX1_refused_1 : List UInt8 := dkwX1_refused_1 ++ dktX1_refused_2
def dkwX1_refused_0 : List UInt8 := [27, 3, 4, 184, 0, 145, 154, 0, 5, 2, 172, 42, 180, 0, 55, 42, 180, 0, 51, 182, 1, 4, 4, 61]
abbrev dktX1_refused_0 : List UInt8 := dkwX1_refused_0 ++ dktX1_refused_1
theorem dksX1_refused_0 : cX1_refused.data.toList.drop 0 = dktX1_refused_0 := by decide +kernel
theorem dksX1_refused_1 : cX1_refused.data.toList.drop 24 = dktX1_refused_1 := dk_seg dksX1_refused_0 24 rfl rfl
theorem dksX1_refused_2 : cX1_refused.data.toList.drop 47 = dktX1_refused_2 := dk_seg dksX1_refused_1 23 rfl rfl
theorem dX1_refused_0 : decode cX1_refused 0 = .ok (.iload_n 1, 1) := dk_27 (dk_at dksX1_refused_0 0 rfl rfl)
theorem dX1_refused_1 : decode cX1_refused 1 = .ok (.iconst 0, 1) := dk_3 (dk_at dksX1_refused_0 1 rfl rfl)
theorem dX1_refused_2 : decode cX1_refused 2 = .ok (.iconst 1, 1) := dk_4 (dk_at dksX1_refused_0 2 rfl rfl)
theorem dX1_refused_3 : decode cX1_refused 3 = .ok (.invokestatic 145, 3) := dk_184 0 145 (dk_at dksX1_refused_0 3 rfl rfl)
theorem dX1_refused_6 : decode cX1_refused 6 = .ok (.ifCond .ne 5, 3) := dk_154 0 5 (dk_at dksX1_refused_0 6 rfl rfl)
theorem dX1_refused_9 : decode cX1_refused 9 = .ok (.iconst (-1), 1) := dk_2 (dk_at dksX1_refused_0 9 rfl rfl)
theorem dX1_refused_10 : decode cX1_refused 10 = .ok (.ireturn, 1) := dk_172 (dk_at dksX1_refused_0 10 rfl rfl)
theorem dX1_refused_11 : decode cX1_refused 11 = .ok (.aload_n 0, 1) := dk_42 (dk_at dksX1_refused_0 11 rfl rfl)
theorem dX1_refused_12 : decode cX1_refused 12 = .ok (.getfield 55, 3) := dk_180 0 55 (dk_at dksX1_refused_0 12 rfl rfl)
theorem dX1_refused_15 : decode cX1_refused 15 = .ok (.aload_n 0, 1) := dk_42 (dk_at dksX1_refused_0 15 rfl rfl)
theorem dX1_refused_16 : decode cX1_refused 16 = .ok (.getfield 51, 3) := dk_180 0 51 (dk_at dksX1_refused_0 16 rfl rfl)
theorem dX1_refused_19 : decode cX1_refused 19 = .ok (.invokevirtual 260, 3) := dk_182 1 4 (dk_at dksX1_refused_0 19 rfl rfl)
theorem dX1_refused_22 : decode cX1_refused 22 = .ok (.iconst 1, 1) := dk_4 (dk_at dksX1_refused_0 22 rfl rfl)
theorem dX1_refused_23 : decode cX1_refused 23 = .ok (.istore_n 2, 1) := dk_61 (dk_at dksX1_refused_0 23 rfl rfl)
theorem dX1_refused_24 : decode cX1_refused 24 = .ok (.iload_n 2, 1) := dk_28 (dk_at dksX1_refused_1 0 rfl rfl)
theorem dX1_refused_25 : decode cX1_refused 25 = .ok (.bipush 60, 2) := dk_16 60 (dk_at dksX1_refused_1 1 rfl rfl)
theorem dX1_refused_27 : decode cX1_refused 27 = .ok (.if_icmp .gt 41, 3) := dk_163 0 41 (dk_at dksX1_refused_1 3 rfl rfl)
theorem dX1_refused_30 : decode cX1_refused 30 = .ok (.aload_n 0, 1) := dk_42 (dk_at dksX1_refused_1 6 rfl rfl)
theorem dX1_refused_31 : decode cX1_refused 31 = .ok (.aload_n 0, 1) := dk_42 (dk_at dksX1_refused_1 7 rfl rfl)
theorem dX1_refused_32 : decode cX1_refused 32 = .ok (.getfield 55, 3) := dk_180 0 55 (dk_at dksX1_refused_1 8 rfl rfl)
theorem dX1_refused_35 : decode cX1_refused 35 = .ok (.invokevirtual 267, 3) := dk_182 1 11 (dk_at dksX1_refused_1 11 rfl rfl)
theorem dX1_refused_38 : decode cX1_refused 38 = .ok (.pop, 1) := dk_87 (dk_at dksX1_refused_1 14 rfl rfl)
theorem dX1_refused_39 : decode cX1_refused 39 = .ok (.aload_n 0, 1) := dk_42 (dk_at dksX1_refused_1 15 rfl rfl)
theorem dX1_refused_40 : decode cX1_refused 40 = .ok (.getfield 191, 3) := dk_180 0 191 (dk_at dksX1_refused_1 16 rfl rfl)
theorem dX1_refused_43 : decode cX1_refused 43 = .ok (.ifCond .eq 19, 3) := dk_153 0 19 (dk_at dksX1_refused_1 19 rfl rfl)
theorem dX1_refused_46 : decode cX1_refused 46 = .ok (.iload_n 1, 1) := dk_27 (dk_at dksX1_refused_1 22 rfl rfl)
theorem dX1_refused_47 : decode cX1_refused 47 = .ok (.ifCond .ne 7, 3) := dk_154 0 7 (dk_at dksX1_refused_2 0 rfl rfl)
theorem dX1_refused_50 : decode cX1_refused 50 = .ok (.iload_n 2, 1) := dk_28 (dk_at dksX1_refused_2 3 rfl rfl)
theorem dX1_refused_51 : decode cX1_refused 51 = .ok (.goto 10, 3) := dk_167 0 10 (dk_at dksX1_refused_2 4 rfl rfl)
theorem dX1_refused_54 : decode cX1_refused 54 = .ok (.aload_n 0, 1) := dk_42 (dk_at dksX1_refused_2 7 rfl rfl)
theorem dX1_refused_55 : decode cX1_refused 55 = .ok (.getfield 191, 3) := dk_180 0 191 (dk_at dksX1_refused_2 8 rfl rfl)
theorem dX1_refused_58 : decode cX1_refused 58 = .ok (.invokestatic 286, 3) := dk_184 1 30 (dk_at dksX1_refused_2 11 rfl rfl)
theorem dX1_refused_61 : decode cX1_refused 61 = .ok (.ireturn, 1) := dk_172 (dk_at dksX1_refused_2 14 rfl rfl)
theorem dX1_refused_62 : decode cX1_refused 62 = .ok (.iinc 2 1, 3) := dk_132 2 1 (dk_at dksX1_refused_2 15 rfl rfl)
theorem dX1_refused_65 : decode cX1_refused 65 = .ok (.goto (-41), 3) := dk_167 255 215 (dk_at dksX1_refused_2 18 rfl rfl)
theorem dX1_refused_68 : decode cX1_refused 68 = .ok (.iconst (-1), 1) := dk_2 (dk_at dksX1_refused_2 21 rfl rfl)
theorem dX1_refused_69 : decode cX1_refused 69 = .ok (.ireturn, 1) := dk_172 (dk_at dksX1_refused_2 22 rfl rfl)
abbrev cX1_meets : ByteArray := prog_1_method_39_code
def yX1_meets : MethodName := ⟨RX1, "meets", "(II)I"⟩
def dkwX1_meets_3 : List UInt8 := [28, 46, 160, 0, 5, 29, 172, 42, 42, 180, 0, 55, 182, 1, 11, 87, 132, 3, 1, 167, 255, 203, 2, 172]
abbrev dktX1_meets_3 : List UInt8 := dkwX1_meets_3 ++ []
def dkwX1_meets_2 : List UInt8 := [180, 0, 154, 27, 46, 155, 0, 26, 42, 180, 0, 55, 180, 0, 154, 27, 46, 42, 180, 0, 55, 180, 0, 154]
abbrev dktX1_meets_2 : List UInt8 := dkwX1_meets_2 ++ dktX1_meets_3
def dkwX1_meets_1 : List UInt8 := [180, 0, 55, 42, 180, 0, 51, 182, 1, 4, 3, 62, 29, 16, 60, 163, 0, 53, 42, 180, 0, 55]
abbrev dktX1_meets_1 : List UInt8 := dkwX1_meets_1 ++ dktX1_meets_2
def dkwX1_meets_0 : List UInt8 := [42, 27, 182, 0, 252, 153, 0, 16, 42, 28, 182, 0, 252, 153, 0, 8, 27, 28, 160, 0, 5, 2, 172, 42]
abbrev dktX1_meets_0 : List UInt8 := dkwX1_meets_0 ++ dktX1_meets_1
theorem dksX1_meets_0 : cX1_meets.data.toList.drop 0 = dktX1_meets_0 := by decide +kernel
theorem dksX1_meets_1 : cX1_meets.data.toList.drop 24 = dktX1_meets_1 := dk_seg dksX1_meets_0 24 rfl rfl
theorem dksX1_meets_2 : cX1_meets.data.toList.drop 46 = dktX1_meets_2 := dk_seg dksX1_meets_1 22 rfl rfl
theorem dksX1_meets_3 : cX1_meets.data.toList.drop 70 = dktX1_meets_3 := dk_seg dksX1_meets_2 24 rfl rfl
theorem dX1_meets_0 : decode cX1_meets 0 = .ok (.aload_n 0, 1) := dk_42 (dk_at dksX1_meets_0 0 rfl rfl)
theorem dX1_meets_1 : decode cX1_meets 1 = .ok (.iload_n 1, 1) := dk_27 (dk_at dksX1_meets_0 1 rfl rfl)
theorem dX1_meets_2 : decode cX1_meets 2 = .ok (.invokevirtual 252, 3) := dk_182 0 252 (dk_at dksX1_meets_0 2 rfl rfl)
theorem dX1_meets_5 : decode cX1_meets 5 = .ok (.ifCond .eq 16, 3) := dk_153 0 16 (dk_at dksX1_meets_0 5 rfl rfl)
theorem dX1_meets_8 : decode cX1_meets 8 = .ok (.aload_n 0, 1) := dk_42 (dk_at dksX1_meets_0 8 rfl rfl)
theorem dX1_meets_9 : decode cX1_meets 9 = .ok (.iload_n 2, 1) := dk_28 (dk_at dksX1_meets_0 9 rfl rfl)
theorem dX1_meets_10 : decode cX1_meets 10 = .ok (.invokevirtual 252, 3) := dk_182 0 252 (dk_at dksX1_meets_0 10 rfl rfl)
theorem dX1_meets_13 : decode cX1_meets 13 = .ok (.ifCond .eq 8, 3) := dk_153 0 8 (dk_at dksX1_meets_0 13 rfl rfl)
theorem dX1_meets_16 : decode cX1_meets 16 = .ok (.iload_n 1, 1) := dk_27 (dk_at dksX1_meets_0 16 rfl rfl)
theorem dX1_meets_17 : decode cX1_meets 17 = .ok (.iload_n 2, 1) := dk_28 (dk_at dksX1_meets_0 17 rfl rfl)
theorem dX1_meets_18 : decode cX1_meets 18 = .ok (.if_icmp .ne 5, 3) := dk_160 0 5 (dk_at dksX1_meets_0 18 rfl rfl)
theorem dX1_meets_21 : decode cX1_meets 21 = .ok (.iconst (-1), 1) := dk_2 (dk_at dksX1_meets_0 21 rfl rfl)
theorem dX1_meets_22 : decode cX1_meets 22 = .ok (.ireturn, 1) := dk_172 (dk_at dksX1_meets_0 22 rfl rfl)
theorem dX1_meets_23 : decode cX1_meets 23 = .ok (.aload_n 0, 1) := dk_42 (dk_at dksX1_meets_0 23 rfl rfl)
theorem dX1_meets_24 : decode cX1_meets 24 = .ok (.getfield 55, 3) := dk_180 0 55 (dk_at dksX1_meets_1 0 rfl rfl)
theorem dX1_meets_27 : decode cX1_meets 27 = .ok (.aload_n 0, 1) := dk_42 (dk_at dksX1_meets_1 3 rfl rfl)
theorem dX1_meets_28 : decode cX1_meets 28 = .ok (.getfield 51, 3) := dk_180 0 51 (dk_at dksX1_meets_1 4 rfl rfl)
theorem dX1_meets_31 : decode cX1_meets 31 = .ok (.invokevirtual 260, 3) := dk_182 1 4 (dk_at dksX1_meets_1 7 rfl rfl)
theorem dX1_meets_34 : decode cX1_meets 34 = .ok (.iconst 0, 1) := dk_3 (dk_at dksX1_meets_1 10 rfl rfl)
theorem dX1_meets_35 : decode cX1_meets 35 = .ok (.istore_n 3, 1) := dk_62 (dk_at dksX1_meets_1 11 rfl rfl)
theorem dX1_meets_36 : decode cX1_meets 36 = .ok (.iload_n 3, 1) := dk_29 (dk_at dksX1_meets_1 12 rfl rfl)
theorem dX1_meets_37 : decode cX1_meets 37 = .ok (.bipush 60, 2) := dk_16 60 (dk_at dksX1_meets_1 13 rfl rfl)
theorem dX1_meets_39 : decode cX1_meets 39 = .ok (.if_icmp .gt 53, 3) := dk_163 0 53 (dk_at dksX1_meets_1 15 rfl rfl)
theorem dX1_meets_42 : decode cX1_meets 42 = .ok (.aload_n 0, 1) := dk_42 (dk_at dksX1_meets_1 18 rfl rfl)
theorem dX1_meets_43 : decode cX1_meets 43 = .ok (.getfield 55, 3) := dk_180 0 55 (dk_at dksX1_meets_1 19 rfl rfl)
theorem dX1_meets_46 : decode cX1_meets 46 = .ok (.getfield 154, 3) := dk_180 0 154 (dk_at dksX1_meets_2 0 rfl rfl)
theorem dX1_meets_49 : decode cX1_meets 49 = .ok (.iload_n 1, 1) := dk_27 (dk_at dksX1_meets_2 3 rfl rfl)
theorem dX1_meets_50 : decode cX1_meets 50 = .ok (.iaload, 1) := dk_46 (dk_at dksX1_meets_2 4 rfl rfl)
theorem dX1_meets_51 : decode cX1_meets 51 = .ok (.ifCond .lt 26, 3) := dk_155 0 26 (dk_at dksX1_meets_2 5 rfl rfl)
theorem dX1_meets_54 : decode cX1_meets 54 = .ok (.aload_n 0, 1) := dk_42 (dk_at dksX1_meets_2 8 rfl rfl)
theorem dX1_meets_55 : decode cX1_meets 55 = .ok (.getfield 55, 3) := dk_180 0 55 (dk_at dksX1_meets_2 9 rfl rfl)
theorem dX1_meets_58 : decode cX1_meets 58 = .ok (.getfield 154, 3) := dk_180 0 154 (dk_at dksX1_meets_2 12 rfl rfl)
theorem dX1_meets_61 : decode cX1_meets 61 = .ok (.iload_n 1, 1) := dk_27 (dk_at dksX1_meets_2 15 rfl rfl)
theorem dX1_meets_62 : decode cX1_meets 62 = .ok (.iaload, 1) := dk_46 (dk_at dksX1_meets_2 16 rfl rfl)
theorem dX1_meets_63 : decode cX1_meets 63 = .ok (.aload_n 0, 1) := dk_42 (dk_at dksX1_meets_2 17 rfl rfl)
theorem dX1_meets_64 : decode cX1_meets 64 = .ok (.getfield 55, 3) := dk_180 0 55 (dk_at dksX1_meets_2 18 rfl rfl)
theorem dX1_meets_67 : decode cX1_meets 67 = .ok (.getfield 154, 3) := dk_180 0 154 (dk_at dksX1_meets_2 21 rfl rfl)
theorem dX1_meets_70 : decode cX1_meets 70 = .ok (.iload_n 2, 1) := dk_28 (dk_at dksX1_meets_3 0 rfl rfl)
theorem dX1_meets_71 : decode cX1_meets 71 = .ok (.iaload, 1) := dk_46 (dk_at dksX1_meets_3 1 rfl rfl)
theorem dX1_meets_72 : decode cX1_meets 72 = .ok (.if_icmp .ne 5, 3) := dk_160 0 5 (dk_at dksX1_meets_3 2 rfl rfl)
theorem dX1_meets_75 : decode cX1_meets 75 = .ok (.iload_n 3, 1) := dk_29 (dk_at dksX1_meets_3 5 rfl rfl)
theorem dX1_meets_76 : decode cX1_meets 76 = .ok (.ireturn, 1) := dk_172 (dk_at dksX1_meets_3 6 rfl rfl)
theorem dX1_meets_77 : decode cX1_meets 77 = .ok (.aload_n 0, 1) := dk_42 (dk_at dksX1_meets_3 7 rfl rfl)
theorem dX1_meets_78 : decode cX1_meets 78 = .ok (.aload_n 0, 1) := dk_42 (dk_at dksX1_meets_3 8 rfl rfl)
theorem dX1_meets_79 : decode cX1_meets 79 = .ok (.getfield 55, 3) := dk_180 0 55 (dk_at dksX1_meets_3 9 rfl rfl)
theorem dX1_meets_82 : decode cX1_meets 82 = .ok (.invokevirtual 267, 3) := dk_182 1 11 (dk_at dksX1_meets_3 12 rfl rfl)
theorem dX1_meets_85 : decode cX1_meets 85 = .ok (.pop, 1) := dk_87 (dk_at dksX1_meets_3 15 rfl rfl)
theorem dX1_meets_86 : decode cX1_meets 86 = .ok (.iinc 3 1, 3) := dk_132 3 1 (dk_at dksX1_meets_3 16 rfl rfl)
theorem dX1_meets_89 : decode cX1_meets 89 = .ok (.goto (-53), 3) := dk_167 255 203 (dk_at dksX1_meets_3 19 rfl rfl)
theorem dX1_meets_92 : decode cX1_meets 92 = .ok (.iconst (-1), 1) := dk_2 (dk_at dksX1_meets_3 22 rfl rfl)
theorem dX1_meets_93 : decode cX1_meets 93 = .ok (.ireturn, 1) := dk_172 (dk_at dksX1_meets_3 23 rfl rfl)
abbrev cX1_beds : ByteArray := prog_1_method_42_code
def yX1_beds : MethodName := ⟨RX1, "beds", "(II)I"⟩
def dkwX1_beds_2 : List UInt8 := [167, 0, 21, 28, 2, 160, 0, 10, 42, 180, 1, 33, 167, 0, 9, 42, 180, 0, 69, 28, 46, 172]
abbrev dktX1_beds_2 : List UInt8 := dkwX1_beds_2 ++ []
def dkwX1_beds_1 : List UInt8 := [16, 254, 172, 42, 2, 181, 1, 33, 42, 3, 3, 27, 182, 1, 43, 42, 180, 1, 33, 156, 0, 8, 16, 254]
abbrev dktX1_beds_1 : List UInt8 := dkwX1_beds_1 ++ dktX1_beds_2
def dkwX1_beds_0 : List UInt8 := [27, 4, 16, 36, 184, 0, 145, 153, 0, 16, 28, 2, 159, 0, 14, 42, 28, 182, 0, 245, 154, 0, 6]
abbrev dktX1_beds_0 : List UInt8 := dkwX1_beds_0 ++ dktX1_beds_1
theorem dksX1_beds_0 : cX1_beds.data.toList.drop 0 = dktX1_beds_0 := by decide +kernel
theorem dksX1_beds_1 : cX1_beds.data.toList.drop 23 = dktX1_beds_1 := dk_seg dksX1_beds_0 23 rfl rfl
theorem dksX1_beds_2 : cX1_beds.data.toList.drop 47 = dktX1_beds_2 := dk_seg dksX1_beds_1 24 rfl rfl
theorem dX1_beds_0 : decode cX1_beds 0 = .ok (.iload_n 1, 1) := dk_27 (dk_at dksX1_beds_0 0 rfl rfl)
theorem dX1_beds_1 : decode cX1_beds 1 = .ok (.iconst 1, 1) := dk_4 (dk_at dksX1_beds_0 1 rfl rfl)
theorem dX1_beds_2 : decode cX1_beds 2 = .ok (.bipush 36, 2) := dk_16 36 (dk_at dksX1_beds_0 2 rfl rfl)
theorem dX1_beds_4 : decode cX1_beds 4 = .ok (.invokestatic 145, 3) := dk_184 0 145 (dk_at dksX1_beds_0 4 rfl rfl)
theorem dX1_beds_7 : decode cX1_beds 7 = .ok (.ifCond .eq 16, 3) := dk_153 0 16 (dk_at dksX1_beds_0 7 rfl rfl)
theorem dX1_beds_10 : decode cX1_beds 10 = .ok (.iload_n 2, 1) := dk_28 (dk_at dksX1_beds_0 10 rfl rfl)
theorem dX1_beds_11 : decode cX1_beds 11 = .ok (.iconst (-1), 1) := dk_2 (dk_at dksX1_beds_0 11 rfl rfl)
theorem dX1_beds_12 : decode cX1_beds 12 = .ok (.if_icmp .eq 14, 3) := dk_159 0 14 (dk_at dksX1_beds_0 12 rfl rfl)
theorem dX1_beds_15 : decode cX1_beds 15 = .ok (.aload_n 0, 1) := dk_42 (dk_at dksX1_beds_0 15 rfl rfl)
theorem dX1_beds_16 : decode cX1_beds 16 = .ok (.iload_n 2, 1) := dk_28 (dk_at dksX1_beds_0 16 rfl rfl)
theorem dX1_beds_17 : decode cX1_beds 17 = .ok (.invokevirtual 245, 3) := dk_182 0 245 (dk_at dksX1_beds_0 17 rfl rfl)
theorem dX1_beds_20 : decode cX1_beds 20 = .ok (.ifCond .ne 6, 3) := dk_154 0 6 (dk_at dksX1_beds_0 20 rfl rfl)
theorem dX1_beds_23 : decode cX1_beds 23 = .ok (.bipush (-2), 2) := dk_16 254 (dk_at dksX1_beds_1 0 rfl rfl)
theorem dX1_beds_25 : decode cX1_beds 25 = .ok (.ireturn, 1) := dk_172 (dk_at dksX1_beds_1 2 rfl rfl)
theorem dX1_beds_26 : decode cX1_beds 26 = .ok (.aload_n 0, 1) := dk_42 (dk_at dksX1_beds_1 3 rfl rfl)
theorem dX1_beds_27 : decode cX1_beds 27 = .ok (.iconst (-1), 1) := dk_2 (dk_at dksX1_beds_1 4 rfl rfl)
theorem dX1_beds_28 : decode cX1_beds 28 = .ok (.putfield 289, 3) := dk_181 1 33 (dk_at dksX1_beds_1 5 rfl rfl)
theorem dX1_beds_31 : decode cX1_beds 31 = .ok (.aload_n 0, 1) := dk_42 (dk_at dksX1_beds_1 8 rfl rfl)
theorem dX1_beds_32 : decode cX1_beds 32 = .ok (.iconst 0, 1) := dk_3 (dk_at dksX1_beds_1 9 rfl rfl)
theorem dX1_beds_33 : decode cX1_beds 33 = .ok (.iconst 0, 1) := dk_3 (dk_at dksX1_beds_1 10 rfl rfl)
theorem dX1_beds_34 : decode cX1_beds 34 = .ok (.iload_n 1, 1) := dk_27 (dk_at dksX1_beds_1 11 rfl rfl)
theorem dX1_beds_35 : decode cX1_beds 35 = .ok (.invokevirtual 299, 3) := dk_182 1 43 (dk_at dksX1_beds_1 12 rfl rfl)
theorem dX1_beds_38 : decode cX1_beds 38 = .ok (.aload_n 0, 1) := dk_42 (dk_at dksX1_beds_1 15 rfl rfl)
theorem dX1_beds_39 : decode cX1_beds 39 = .ok (.getfield 289, 3) := dk_180 1 33 (dk_at dksX1_beds_1 16 rfl rfl)
theorem dX1_beds_42 : decode cX1_beds 42 = .ok (.ifCond .ge 8, 3) := dk_156 0 8 (dk_at dksX1_beds_1 19 rfl rfl)
theorem dX1_beds_45 : decode cX1_beds 45 = .ok (.bipush (-2), 2) := dk_16 254 (dk_at dksX1_beds_1 22 rfl rfl)
theorem dX1_beds_47 : decode cX1_beds 47 = .ok (.goto 21, 3) := dk_167 0 21 (dk_at dksX1_beds_2 0 rfl rfl)
theorem dX1_beds_50 : decode cX1_beds 50 = .ok (.iload_n 2, 1) := dk_28 (dk_at dksX1_beds_2 3 rfl rfl)
theorem dX1_beds_51 : decode cX1_beds 51 = .ok (.iconst (-1), 1) := dk_2 (dk_at dksX1_beds_2 4 rfl rfl)
theorem dX1_beds_52 : decode cX1_beds 52 = .ok (.if_icmp .ne 10, 3) := dk_160 0 10 (dk_at dksX1_beds_2 5 rfl rfl)
theorem dX1_beds_55 : decode cX1_beds 55 = .ok (.aload_n 0, 1) := dk_42 (dk_at dksX1_beds_2 8 rfl rfl)
theorem dX1_beds_56 : decode cX1_beds 56 = .ok (.getfield 289, 3) := dk_180 1 33 (dk_at dksX1_beds_2 9 rfl rfl)
theorem dX1_beds_59 : decode cX1_beds 59 = .ok (.goto 9, 3) := dk_167 0 9 (dk_at dksX1_beds_2 12 rfl rfl)
theorem dX1_beds_62 : decode cX1_beds 62 = .ok (.aload_n 0, 1) := dk_42 (dk_at dksX1_beds_2 15 rfl rfl)
theorem dX1_beds_63 : decode cX1_beds 63 = .ok (.getfield 69, 3) := dk_180 0 69 (dk_at dksX1_beds_2 16 rfl rfl)
theorem dX1_beds_66 : decode cX1_beds 66 = .ok (.iload_n 2, 1) := dk_28 (dk_at dksX1_beds_2 19 rfl rfl)
theorem dX1_beds_67 : decode cX1_beds 67 = .ok (.iaload, 1) := dk_46 (dk_at dksX1_beds_2 20 rfl rfl)
theorem dX1_beds_68 : decode cX1_beds 68 = .ok (.ireturn, 1) := dk_172 (dk_at dksX1_beds_2 21 rfl rfl)
abbrev cX1_builds : ByteArray := prog_1_method_41_code
def yX1_builds : MethodName := ⟨RX1, "builds", "(III)V"⟩
def dkwX1_builds_6 : List UInt8 := [96, 29, 182, 1, 43, 132, 4, 1, 167, 255, 210, 177]
abbrev dktX1_builds_6 : List UInt8 := dkwX1_builds_6 ++ []
def dkwX1_builds_5 : List UInt8 := [46, 21, 4, 96, 16, 9, 163, 0, 29, 42, 180, 0, 66, 27, 21, 4, 79, 42, 27, 4, 96, 28, 21, 4]
abbrev dktX1_builds_5 : List UInt8 := dkwX1_builds_5 ++ dktX1_builds_6
def dkwX1_builds_4 : List UInt8 := [180, 0, 69, 184, 1, 39, 177, 3, 54, 4, 21, 4, 5, 163, 0, 46, 42, 180, 0, 51, 180, 0, 151, 27]
abbrev dktX1_builds_4 : List UInt8 := dkwX1_builds_4 ++ dktX1_builds_5
def dkwX1_builds_3 : List UInt8 := [167, 255, 224, 42, 29, 182, 1, 36, 154, 0, 4, 177, 42, 28, 181, 1, 33, 42, 180, 0, 66, 42]
abbrev dktX1_builds_3 : List UInt8 := dkwX1_builds_3 ++ dktX1_builds_4
def dkwX1_builds_2 : List UInt8 := [180, 0, 55, 180, 0, 151, 21, 4, 92, 46, 42, 180, 0, 66, 21, 4, 46, 96, 79, 132, 4, 1]
abbrev dktX1_builds_2 : List UInt8 := dkwX1_builds_2 ++ dktX1_builds_3
def dkwX1_builds_1 : List UInt8 := [42, 180, 0, 55, 42, 180, 0, 51, 182, 1, 4, 3, 54, 4, 21, 4, 42, 182, 0, 142, 162, 0, 29, 42]
abbrev dktX1_builds_1 : List UInt8 := dkwX1_builds_1 ++ dktX1_builds_2
def dkwX1_builds_0 : List UInt8 := [42, 180, 1, 33, 155, 0, 12, 28, 42, 180, 1, 33, 161, 0, 4, 177, 27, 42, 182, 0, 142, 160, 0, 78]
abbrev dktX1_builds_0 : List UInt8 := dkwX1_builds_0 ++ dktX1_builds_1
theorem dksX1_builds_0 : cX1_builds.data.toList.drop 0 = dktX1_builds_0 := by decide +kernel
theorem dksX1_builds_1 : cX1_builds.data.toList.drop 24 = dktX1_builds_1 := dk_seg dksX1_builds_0 24 rfl rfl
theorem dksX1_builds_2 : cX1_builds.data.toList.drop 48 = dktX1_builds_2 := dk_seg dksX1_builds_1 24 rfl rfl
theorem dksX1_builds_3 : cX1_builds.data.toList.drop 70 = dktX1_builds_3 := dk_seg dksX1_builds_2 22 rfl rfl
theorem dksX1_builds_4 : cX1_builds.data.toList.drop 92 = dktX1_builds_4 := dk_seg dksX1_builds_3 22 rfl rfl
theorem dksX1_builds_5 : cX1_builds.data.toList.drop 116 = dktX1_builds_5 := dk_seg dksX1_builds_4 24 rfl rfl
theorem dksX1_builds_6 : cX1_builds.data.toList.drop 140 = dktX1_builds_6 := dk_seg dksX1_builds_5 24 rfl rfl
theorem dX1_builds_0 : decode cX1_builds 0 = .ok (.aload_n 0, 1) := dk_42 (dk_at dksX1_builds_0 0 rfl rfl)
theorem dX1_builds_1 : decode cX1_builds 1 = .ok (.getfield 289, 3) := dk_180 1 33 (dk_at dksX1_builds_0 1 rfl rfl)
theorem dX1_builds_4 : decode cX1_builds 4 = .ok (.ifCond .lt 12, 3) := dk_155 0 12 (dk_at dksX1_builds_0 4 rfl rfl)
theorem dX1_builds_7 : decode cX1_builds 7 = .ok (.iload_n 2, 1) := dk_28 (dk_at dksX1_builds_0 7 rfl rfl)
theorem dX1_builds_8 : decode cX1_builds 8 = .ok (.aload_n 0, 1) := dk_42 (dk_at dksX1_builds_0 8 rfl rfl)
theorem dX1_builds_9 : decode cX1_builds 9 = .ok (.getfield 289, 3) := dk_180 1 33 (dk_at dksX1_builds_0 9 rfl rfl)
theorem dX1_builds_12 : decode cX1_builds 12 = .ok (.if_icmp .lt 4, 3) := dk_161 0 4 (dk_at dksX1_builds_0 12 rfl rfl)
theorem dX1_builds_15 : decode cX1_builds 15 = .ok (.return_, 1) := dk_177 (dk_at dksX1_builds_0 15 rfl rfl)
theorem dX1_builds_16 : decode cX1_builds 16 = .ok (.iload_n 1, 1) := dk_27 (dk_at dksX1_builds_0 16 rfl rfl)
theorem dX1_builds_17 : decode cX1_builds 17 = .ok (.aload_n 0, 1) := dk_42 (dk_at dksX1_builds_0 17 rfl rfl)
theorem dX1_builds_18 : decode cX1_builds 18 = .ok (.invokevirtual 142, 3) := dk_182 0 142 (dk_at dksX1_builds_0 18 rfl rfl)
theorem dX1_builds_21 : decode cX1_builds 21 = .ok (.if_icmp .ne 78, 3) := dk_160 0 78 (dk_at dksX1_builds_0 21 rfl rfl)
theorem dX1_builds_24 : decode cX1_builds 24 = .ok (.aload_n 0, 1) := dk_42 (dk_at dksX1_builds_1 0 rfl rfl)
theorem dX1_builds_25 : decode cX1_builds 25 = .ok (.getfield 55, 3) := dk_180 0 55 (dk_at dksX1_builds_1 1 rfl rfl)
theorem dX1_builds_28 : decode cX1_builds 28 = .ok (.aload_n 0, 1) := dk_42 (dk_at dksX1_builds_1 4 rfl rfl)
theorem dX1_builds_29 : decode cX1_builds 29 = .ok (.getfield 51, 3) := dk_180 0 51 (dk_at dksX1_builds_1 5 rfl rfl)
theorem dX1_builds_32 : decode cX1_builds 32 = .ok (.invokevirtual 260, 3) := dk_182 1 4 (dk_at dksX1_builds_1 8 rfl rfl)
theorem dX1_builds_35 : decode cX1_builds 35 = .ok (.iconst 0, 1) := dk_3 (dk_at dksX1_builds_1 11 rfl rfl)
theorem dX1_builds_36 : decode cX1_builds 36 = .ok (.istore 4, 2) := dk_54 4 (dk_at dksX1_builds_1 12 rfl rfl)
theorem dX1_builds_38 : decode cX1_builds 38 = .ok (.iload 4, 2) := dk_21 4 (dk_at dksX1_builds_1 14 rfl rfl)
theorem dX1_builds_40 : decode cX1_builds 40 = .ok (.aload_n 0, 1) := dk_42 (dk_at dksX1_builds_1 16 rfl rfl)
theorem dX1_builds_41 : decode cX1_builds 41 = .ok (.invokevirtual 142, 3) := dk_182 0 142 (dk_at dksX1_builds_1 17 rfl rfl)
theorem dX1_builds_44 : decode cX1_builds 44 = .ok (.if_icmp .ge 29, 3) := dk_162 0 29 (dk_at dksX1_builds_1 20 rfl rfl)
theorem dX1_builds_47 : decode cX1_builds 47 = .ok (.aload_n 0, 1) := dk_42 (dk_at dksX1_builds_1 23 rfl rfl)
theorem dX1_builds_48 : decode cX1_builds 48 = .ok (.getfield 55, 3) := dk_180 0 55 (dk_at dksX1_builds_2 0 rfl rfl)
theorem dX1_builds_51 : decode cX1_builds 51 = .ok (.getfield 151, 3) := dk_180 0 151 (dk_at dksX1_builds_2 3 rfl rfl)
theorem dX1_builds_54 : decode cX1_builds 54 = .ok (.iload 4, 2) := dk_21 4 (dk_at dksX1_builds_2 6 rfl rfl)
theorem dX1_builds_56 : decode cX1_builds 56 = .ok (.dup2, 1) := dk_92 (dk_at dksX1_builds_2 8 rfl rfl)
theorem dX1_builds_57 : decode cX1_builds 57 = .ok (.iaload, 1) := dk_46 (dk_at dksX1_builds_2 9 rfl rfl)
theorem dX1_builds_58 : decode cX1_builds 58 = .ok (.aload_n 0, 1) := dk_42 (dk_at dksX1_builds_2 10 rfl rfl)
theorem dX1_builds_59 : decode cX1_builds 59 = .ok (.getfield 66, 3) := dk_180 0 66 (dk_at dksX1_builds_2 11 rfl rfl)
theorem dX1_builds_62 : decode cX1_builds 62 = .ok (.iload 4, 2) := dk_21 4 (dk_at dksX1_builds_2 14 rfl rfl)
theorem dX1_builds_64 : decode cX1_builds 64 = .ok (.iaload, 1) := dk_46 (dk_at dksX1_builds_2 16 rfl rfl)
theorem dX1_builds_65 : decode cX1_builds 65 = .ok (.iadd, 1) := dk_96 (dk_at dksX1_builds_2 17 rfl rfl)
theorem dX1_builds_66 : decode cX1_builds 66 = .ok (.iastore, 1) := dk_79 (dk_at dksX1_builds_2 18 rfl rfl)
theorem dX1_builds_67 : decode cX1_builds 67 = .ok (.iinc 4 1, 3) := dk_132 4 1 (dk_at dksX1_builds_2 19 rfl rfl)
theorem dX1_builds_70 : decode cX1_builds 70 = .ok (.goto (-32), 3) := dk_167 255 224 (dk_at dksX1_builds_3 0 rfl rfl)
theorem dX1_builds_73 : decode cX1_builds 73 = .ok (.aload_n 0, 1) := dk_42 (dk_at dksX1_builds_3 3 rfl rfl)
theorem dX1_builds_74 : decode cX1_builds 74 = .ok (.iload_n 3, 1) := dk_29 (dk_at dksX1_builds_3 4 rfl rfl)
theorem dX1_builds_75 : decode cX1_builds 75 = .ok (.invokevirtual 292, 3) := dk_182 1 36 (dk_at dksX1_builds_3 5 rfl rfl)
theorem dX1_builds_78 : decode cX1_builds 78 = .ok (.ifCond .ne 4, 3) := dk_154 0 4 (dk_at dksX1_builds_3 8 rfl rfl)
theorem dX1_builds_81 : decode cX1_builds 81 = .ok (.return_, 1) := dk_177 (dk_at dksX1_builds_3 11 rfl rfl)
theorem dX1_builds_82 : decode cX1_builds 82 = .ok (.aload_n 0, 1) := dk_42 (dk_at dksX1_builds_3 12 rfl rfl)
theorem dX1_builds_83 : decode cX1_builds 83 = .ok (.iload_n 2, 1) := dk_28 (dk_at dksX1_builds_3 13 rfl rfl)
theorem dX1_builds_84 : decode cX1_builds 84 = .ok (.putfield 289, 3) := dk_181 1 33 (dk_at dksX1_builds_3 14 rfl rfl)
theorem dX1_builds_87 : decode cX1_builds 87 = .ok (.aload_n 0, 1) := dk_42 (dk_at dksX1_builds_3 17 rfl rfl)
theorem dX1_builds_88 : decode cX1_builds 88 = .ok (.getfield 66, 3) := dk_180 0 66 (dk_at dksX1_builds_3 18 rfl rfl)
theorem dX1_builds_91 : decode cX1_builds 91 = .ok (.aload_n 0, 1) := dk_42 (dk_at dksX1_builds_3 21 rfl rfl)
theorem dX1_builds_92 : decode cX1_builds 92 = .ok (.getfield 69, 3) := dk_180 0 69 (dk_at dksX1_builds_4 0 rfl rfl)
theorem dX1_builds_95 : decode cX1_builds 95 = .ok (.invokestatic 295, 3) := dk_184 1 39 (dk_at dksX1_builds_4 3 rfl rfl)
theorem dX1_builds_98 : decode cX1_builds 98 = .ok (.return_, 1) := dk_177 (dk_at dksX1_builds_4 6 rfl rfl)
theorem dX1_builds_99 : decode cX1_builds 99 = .ok (.iconst 0, 1) := dk_3 (dk_at dksX1_builds_4 7 rfl rfl)
theorem dX1_builds_100 : decode cX1_builds 100 = .ok (.istore 4, 2) := dk_54 4 (dk_at dksX1_builds_4 8 rfl rfl)
theorem dX1_builds_102 : decode cX1_builds 102 = .ok (.iload 4, 2) := dk_21 4 (dk_at dksX1_builds_4 10 rfl rfl)
theorem dX1_builds_104 : decode cX1_builds 104 = .ok (.iconst 2, 1) := dk_5 (dk_at dksX1_builds_4 12 rfl rfl)
theorem dX1_builds_105 : decode cX1_builds 105 = .ok (.if_icmp .gt 46, 3) := dk_163 0 46 (dk_at dksX1_builds_4 13 rfl rfl)
theorem dX1_builds_108 : decode cX1_builds 108 = .ok (.aload_n 0, 1) := dk_42 (dk_at dksX1_builds_4 16 rfl rfl)
theorem dX1_builds_109 : decode cX1_builds 109 = .ok (.getfield 51, 3) := dk_180 0 51 (dk_at dksX1_builds_4 17 rfl rfl)
theorem dX1_builds_112 : decode cX1_builds 112 = .ok (.getfield 151, 3) := dk_180 0 151 (dk_at dksX1_builds_4 20 rfl rfl)
theorem dX1_builds_115 : decode cX1_builds 115 = .ok (.iload_n 1, 1) := dk_27 (dk_at dksX1_builds_4 23 rfl rfl)
theorem dX1_builds_116 : decode cX1_builds 116 = .ok (.iaload, 1) := dk_46 (dk_at dksX1_builds_5 0 rfl rfl)
theorem dX1_builds_117 : decode cX1_builds 117 = .ok (.iload 4, 2) := dk_21 4 (dk_at dksX1_builds_5 1 rfl rfl)
theorem dX1_builds_119 : decode cX1_builds 119 = .ok (.iadd, 1) := dk_96 (dk_at dksX1_builds_5 3 rfl rfl)
theorem dX1_builds_120 : decode cX1_builds 120 = .ok (.bipush 9, 2) := dk_16 9 (dk_at dksX1_builds_5 4 rfl rfl)
theorem dX1_builds_122 : decode cX1_builds 122 = .ok (.if_icmp .gt 29, 3) := dk_163 0 29 (dk_at dksX1_builds_5 6 rfl rfl)
theorem dX1_builds_125 : decode cX1_builds 125 = .ok (.aload_n 0, 1) := dk_42 (dk_at dksX1_builds_5 9 rfl rfl)
theorem dX1_builds_126 : decode cX1_builds 126 = .ok (.getfield 66, 3) := dk_180 0 66 (dk_at dksX1_builds_5 10 rfl rfl)
theorem dX1_builds_129 : decode cX1_builds 129 = .ok (.iload_n 1, 1) := dk_27 (dk_at dksX1_builds_5 13 rfl rfl)
theorem dX1_builds_130 : decode cX1_builds 130 = .ok (.iload 4, 2) := dk_21 4 (dk_at dksX1_builds_5 14 rfl rfl)
theorem dX1_builds_132 : decode cX1_builds 132 = .ok (.iastore, 1) := dk_79 (dk_at dksX1_builds_5 16 rfl rfl)
theorem dX1_builds_133 : decode cX1_builds 133 = .ok (.aload_n 0, 1) := dk_42 (dk_at dksX1_builds_5 17 rfl rfl)
theorem dX1_builds_134 : decode cX1_builds 134 = .ok (.iload_n 1, 1) := dk_27 (dk_at dksX1_builds_5 18 rfl rfl)
theorem dX1_builds_135 : decode cX1_builds 135 = .ok (.iconst 1, 1) := dk_4 (dk_at dksX1_builds_5 19 rfl rfl)
theorem dX1_builds_136 : decode cX1_builds 136 = .ok (.iadd, 1) := dk_96 (dk_at dksX1_builds_5 20 rfl rfl)
theorem dX1_builds_137 : decode cX1_builds 137 = .ok (.iload_n 2, 1) := dk_28 (dk_at dksX1_builds_5 21 rfl rfl)
theorem dX1_builds_138 : decode cX1_builds 138 = .ok (.iload 4, 2) := dk_21 4 (dk_at dksX1_builds_5 22 rfl rfl)
theorem dX1_builds_140 : decode cX1_builds 140 = .ok (.iadd, 1) := dk_96 (dk_at dksX1_builds_6 0 rfl rfl)
theorem dX1_builds_141 : decode cX1_builds 141 = .ok (.iload_n 3, 1) := dk_29 (dk_at dksX1_builds_6 1 rfl rfl)
theorem dX1_builds_142 : decode cX1_builds 142 = .ok (.invokevirtual 299, 3) := dk_182 1 43 (dk_at dksX1_builds_6 2 rfl rfl)
theorem dX1_builds_145 : decode cX1_builds 145 = .ok (.iinc 4 1, 3) := dk_132 4 1 (dk_at dksX1_builds_6 5 rfl rfl)
theorem dX1_builds_148 : decode cX1_builds 148 = .ok (.goto (-46), 3) := dk_167 255 210 (dk_at dksX1_builds_6 8 rfl rfl)
theorem dX1_builds_151 : decode cX1_builds 151 = .ok (.return_, 1) := dk_177 (dk_at dksX1_builds_6 11 rfl rfl)
abbrev cX1_isNoneRefused : ByteArray := prog_1_method_40_code
def yX1_isNoneRefused : MethodName := ⟨RX1, "isNoneRefused", "(I)Z"⟩
def dkwX1_isNoneRefused_1 : List UInt8 := [4, 167, 0, 4, 3, 172]
abbrev dktX1_isNoneRefused_1 : List UInt8 := dkwX1_isNoneRefused_1 ++ []
def dkwX1_isNoneRefused_0 : List UInt8 := [42, 180, 0, 55, 180, 0, 220, 61, 42, 27, 182, 1, 24, 42, 180, 0, 55, 180, 0, 220, 28, 160, 0, 7]
abbrev dktX1_isNoneRefused_0 : List UInt8 := dkwX1_isNoneRefused_0 ++ dktX1_isNoneRefused_1
theorem dksX1_isNoneRefused_0 : cX1_isNoneRefused.data.toList.drop 0 = dktX1_isNoneRefused_0 := by decide +kernel
theorem dksX1_isNoneRefused_1 : cX1_isNoneRefused.data.toList.drop 24 = dktX1_isNoneRefused_1 := dk_seg dksX1_isNoneRefused_0 24 rfl rfl
theorem dX1_isNoneRefused_0 : decode cX1_isNoneRefused 0 = .ok (.aload_n 0, 1) := dk_42 (dk_at dksX1_isNoneRefused_0 0 rfl rfl)
theorem dX1_isNoneRefused_1 : decode cX1_isNoneRefused 1 = .ok (.getfield 55, 3) := dk_180 0 55 (dk_at dksX1_isNoneRefused_0 1 rfl rfl)
theorem dX1_isNoneRefused_4 : decode cX1_isNoneRefused 4 = .ok (.getfield 220, 3) := dk_180 0 220 (dk_at dksX1_isNoneRefused_0 4 rfl rfl)
theorem dX1_isNoneRefused_7 : decode cX1_isNoneRefused 7 = .ok (.istore_n 2, 1) := dk_61 (dk_at dksX1_isNoneRefused_0 7 rfl rfl)
theorem dX1_isNoneRefused_8 : decode cX1_isNoneRefused 8 = .ok (.aload_n 0, 1) := dk_42 (dk_at dksX1_isNoneRefused_0 8 rfl rfl)
theorem dX1_isNoneRefused_9 : decode cX1_isNoneRefused 9 = .ok (.iload_n 1, 1) := dk_27 (dk_at dksX1_isNoneRefused_0 9 rfl rfl)
theorem dX1_isNoneRefused_10 : decode cX1_isNoneRefused 10 = .ok (.invokevirtual 280, 3) := dk_182 1 24 (dk_at dksX1_isNoneRefused_0 10 rfl rfl)
theorem dX1_isNoneRefused_13 : decode cX1_isNoneRefused 13 = .ok (.aload_n 0, 1) := dk_42 (dk_at dksX1_isNoneRefused_0 13 rfl rfl)
theorem dX1_isNoneRefused_14 : decode cX1_isNoneRefused 14 = .ok (.getfield 55, 3) := dk_180 0 55 (dk_at dksX1_isNoneRefused_0 14 rfl rfl)
theorem dX1_isNoneRefused_17 : decode cX1_isNoneRefused 17 = .ok (.getfield 220, 3) := dk_180 0 220 (dk_at dksX1_isNoneRefused_0 17 rfl rfl)
theorem dX1_isNoneRefused_20 : decode cX1_isNoneRefused 20 = .ok (.iload_n 2, 1) := dk_28 (dk_at dksX1_isNoneRefused_0 20 rfl rfl)
theorem dX1_isNoneRefused_21 : decode cX1_isNoneRefused 21 = .ok (.if_icmp .ne 7, 3) := dk_160 0 7 (dk_at dksX1_isNoneRefused_0 21 rfl rfl)
theorem dX1_isNoneRefused_24 : decode cX1_isNoneRefused 24 = .ok (.iconst 1, 1) := dk_4 (dk_at dksX1_isNoneRefused_1 0 rfl rfl)
theorem dX1_isNoneRefused_25 : decode cX1_isNoneRefused 25 = .ok (.goto 4, 3) := dk_167 0 4 (dk_at dksX1_isNoneRefused_1 1 rfl rfl)
theorem dX1_isNoneRefused_28 : decode cX1_isNoneRefused 28 = .ok (.iconst 0, 1) := dk_3 (dk_at dksX1_isNoneRefused_1 4 rfl rfl)
theorem dX1_isNoneRefused_29 : decode cX1_isNoneRefused 29 = .ok (.ireturn, 1) := dk_172 (dk_at dksX1_isNoneRefused_1 5 rfl rfl)
abbrev cX1_spare : ByteArray := prog_1_method_43_code
def yX1_spare : MethodName := ⟨RX1, "spare", "()I"⟩
def dkwX1_spare_3 : List UInt8 := [167, 255, 190, 27, 172]
abbrev dktX1_spare_3 : List UInt8 := dkwX1_spare_3 ++ []
def dkwX1_spare_2 : List UInt8 := [28, 92, 46, 4, 100, 79, 42, 16, 24, 182, 1, 36, 153, 0, 9, 27, 4, 28, 120, 128, 60, 132, 2, 1]
abbrev dktX1_spare_2 : List UInt8 := dkwX1_spare_2 ++ dktX1_spare_3
def dkwX1_spare_1 : List UInt8 := [162, 0, 6, 167, 0, 42, 42, 180, 0, 55, 42, 180, 0, 51, 182, 1, 4, 42, 180, 0, 55, 180, 0, 151]
abbrev dktX1_spare_1 : List UInt8 := dkwX1_spare_1 ++ dktX1_spare_2
def dkwX1_spare_0 : List UInt8 := [3, 60, 3, 61, 28, 42, 182, 0, 142, 162, 0, 64, 42, 180, 0, 51, 180, 0, 151, 28, 46, 5]
abbrev dktX1_spare_0 : List UInt8 := dkwX1_spare_0 ++ dktX1_spare_1
theorem dksX1_spare_0 : cX1_spare.data.toList.drop 0 = dktX1_spare_0 := by decide +kernel
theorem dksX1_spare_1 : cX1_spare.data.toList.drop 22 = dktX1_spare_1 := dk_seg dksX1_spare_0 22 rfl rfl
theorem dksX1_spare_2 : cX1_spare.data.toList.drop 46 = dktX1_spare_2 := dk_seg dksX1_spare_1 24 rfl rfl
theorem dksX1_spare_3 : cX1_spare.data.toList.drop 70 = dktX1_spare_3 := dk_seg dksX1_spare_2 24 rfl rfl
theorem dX1_spare_0 : decode cX1_spare 0 = .ok (.iconst 0, 1) := dk_3 (dk_at dksX1_spare_0 0 rfl rfl)
theorem dX1_spare_1 : decode cX1_spare 1 = .ok (.istore_n 1, 1) := dk_60 (dk_at dksX1_spare_0 1 rfl rfl)
theorem dX1_spare_2 : decode cX1_spare 2 = .ok (.iconst 0, 1) := dk_3 (dk_at dksX1_spare_0 2 rfl rfl)
theorem dX1_spare_3 : decode cX1_spare 3 = .ok (.istore_n 2, 1) := dk_61 (dk_at dksX1_spare_0 3 rfl rfl)
theorem dX1_spare_4 : decode cX1_spare 4 = .ok (.iload_n 2, 1) := dk_28 (dk_at dksX1_spare_0 4 rfl rfl)
theorem dX1_spare_5 : decode cX1_spare 5 = .ok (.aload_n 0, 1) := dk_42 (dk_at dksX1_spare_0 5 rfl rfl)
theorem dX1_spare_6 : decode cX1_spare 6 = .ok (.invokevirtual 142, 3) := dk_182 0 142 (dk_at dksX1_spare_0 6 rfl rfl)
theorem dX1_spare_9 : decode cX1_spare 9 = .ok (.if_icmp .ge 64, 3) := dk_162 0 64 (dk_at dksX1_spare_0 9 rfl rfl)
theorem dX1_spare_12 : decode cX1_spare 12 = .ok (.aload_n 0, 1) := dk_42 (dk_at dksX1_spare_0 12 rfl rfl)
theorem dX1_spare_13 : decode cX1_spare 13 = .ok (.getfield 51, 3) := dk_180 0 51 (dk_at dksX1_spare_0 13 rfl rfl)
theorem dX1_spare_16 : decode cX1_spare 16 = .ok (.getfield 151, 3) := dk_180 0 151 (dk_at dksX1_spare_0 16 rfl rfl)
theorem dX1_spare_19 : decode cX1_spare 19 = .ok (.iload_n 2, 1) := dk_28 (dk_at dksX1_spare_0 19 rfl rfl)
theorem dX1_spare_20 : decode cX1_spare 20 = .ok (.iaload, 1) := dk_46 (dk_at dksX1_spare_0 20 rfl rfl)
theorem dX1_spare_21 : decode cX1_spare 21 = .ok (.iconst 2, 1) := dk_5 (dk_at dksX1_spare_0 21 rfl rfl)
theorem dX1_spare_22 : decode cX1_spare 22 = .ok (.if_icmp .ge 6, 3) := dk_162 0 6 (dk_at dksX1_spare_1 0 rfl rfl)
theorem dX1_spare_25 : decode cX1_spare 25 = .ok (.goto 42, 3) := dk_167 0 42 (dk_at dksX1_spare_1 3 rfl rfl)
theorem dX1_spare_28 : decode cX1_spare 28 = .ok (.aload_n 0, 1) := dk_42 (dk_at dksX1_spare_1 6 rfl rfl)
theorem dX1_spare_29 : decode cX1_spare 29 = .ok (.getfield 55, 3) := dk_180 0 55 (dk_at dksX1_spare_1 7 rfl rfl)
theorem dX1_spare_32 : decode cX1_spare 32 = .ok (.aload_n 0, 1) := dk_42 (dk_at dksX1_spare_1 10 rfl rfl)
theorem dX1_spare_33 : decode cX1_spare 33 = .ok (.getfield 51, 3) := dk_180 0 51 (dk_at dksX1_spare_1 11 rfl rfl)
theorem dX1_spare_36 : decode cX1_spare 36 = .ok (.invokevirtual 260, 3) := dk_182 1 4 (dk_at dksX1_spare_1 14 rfl rfl)
theorem dX1_spare_39 : decode cX1_spare 39 = .ok (.aload_n 0, 1) := dk_42 (dk_at dksX1_spare_1 17 rfl rfl)
theorem dX1_spare_40 : decode cX1_spare 40 = .ok (.getfield 55, 3) := dk_180 0 55 (dk_at dksX1_spare_1 18 rfl rfl)
theorem dX1_spare_43 : decode cX1_spare 43 = .ok (.getfield 151, 3) := dk_180 0 151 (dk_at dksX1_spare_1 21 rfl rfl)
theorem dX1_spare_46 : decode cX1_spare 46 = .ok (.iload_n 2, 1) := dk_28 (dk_at dksX1_spare_2 0 rfl rfl)
theorem dX1_spare_47 : decode cX1_spare 47 = .ok (.dup2, 1) := dk_92 (dk_at dksX1_spare_2 1 rfl rfl)
theorem dX1_spare_48 : decode cX1_spare 48 = .ok (.iaload, 1) := dk_46 (dk_at dksX1_spare_2 2 rfl rfl)
theorem dX1_spare_49 : decode cX1_spare 49 = .ok (.iconst 1, 1) := dk_4 (dk_at dksX1_spare_2 3 rfl rfl)
theorem dX1_spare_50 : decode cX1_spare 50 = .ok (.isub, 1) := dk_100 (dk_at dksX1_spare_2 4 rfl rfl)
theorem dX1_spare_51 : decode cX1_spare 51 = .ok (.iastore, 1) := dk_79 (dk_at dksX1_spare_2 5 rfl rfl)
theorem dX1_spare_52 : decode cX1_spare 52 = .ok (.aload_n 0, 1) := dk_42 (dk_at dksX1_spare_2 6 rfl rfl)
theorem dX1_spare_53 : decode cX1_spare 53 = .ok (.bipush 24, 2) := dk_16 24 (dk_at dksX1_spare_2 7 rfl rfl)
theorem dX1_spare_55 : decode cX1_spare 55 = .ok (.invokevirtual 292, 3) := dk_182 1 36 (dk_at dksX1_spare_2 9 rfl rfl)
theorem dX1_spare_58 : decode cX1_spare 58 = .ok (.ifCond .eq 9, 3) := dk_153 0 9 (dk_at dksX1_spare_2 12 rfl rfl)
theorem dX1_spare_61 : decode cX1_spare 61 = .ok (.iload_n 1, 1) := dk_27 (dk_at dksX1_spare_2 15 rfl rfl)
theorem dX1_spare_62 : decode cX1_spare 62 = .ok (.iconst 1, 1) := dk_4 (dk_at dksX1_spare_2 16 rfl rfl)
theorem dX1_spare_63 : decode cX1_spare 63 = .ok (.iload_n 2, 1) := dk_28 (dk_at dksX1_spare_2 17 rfl rfl)
theorem dX1_spare_64 : decode cX1_spare 64 = .ok (.ishl, 1) := dk_120 (dk_at dksX1_spare_2 18 rfl rfl)
theorem dX1_spare_65 : decode cX1_spare 65 = .ok (.ior, 1) := dk_128 (dk_at dksX1_spare_2 19 rfl rfl)
theorem dX1_spare_66 : decode cX1_spare 66 = .ok (.istore_n 1, 1) := dk_60 (dk_at dksX1_spare_2 20 rfl rfl)
theorem dX1_spare_67 : decode cX1_spare 67 = .ok (.iinc 2 1, 3) := dk_132 2 1 (dk_at dksX1_spare_2 21 rfl rfl)
theorem dX1_spare_70 : decode cX1_spare 70 = .ok (.goto (-66), 3) := dk_167 255 190 (dk_at dksX1_spare_3 0 rfl rfl)
theorem dX1_spare_73 : decode cX1_spare 73 = .ok (.iload_n 1, 1) := dk_27 (dk_at dksX1_spare_3 3 rfl rfl)
theorem dX1_spare_74 : decode cX1_spare 74 = .ok (.ireturn, 1) := dk_172 (dk_at dksX1_spare_3 4 rfl rfl)
abbrev cX1_laying : ByteArray := prog_1_method_45_code
def yX1_laying : MethodName := ⟨RX1, "laying", "()I"⟩
def dkwX1_laying_1 : List UInt8 := [180, 0, 154, 27, 2, 79, 132, 1, 1, 167, 255, 237, 42, 3, 182, 1, 47, 172]
abbrev dktX1_laying_1 : List UInt8 := dkwX1_laying_1 ++ []
def dkwX1_laying_0 : List UInt8 := [42, 180, 0, 55, 42, 180, 0, 51, 182, 1, 4, 3, 60, 27, 16, 6, 162, 0, 19, 42, 180, 0, 55]
abbrev dktX1_laying_0 : List UInt8 := dkwX1_laying_0 ++ dktX1_laying_1
theorem dksX1_laying_0 : cX1_laying.data.toList.drop 0 = dktX1_laying_0 := by decide +kernel
theorem dksX1_laying_1 : cX1_laying.data.toList.drop 23 = dktX1_laying_1 := dk_seg dksX1_laying_0 23 rfl rfl
theorem dX1_laying_0 : decode cX1_laying 0 = .ok (.aload_n 0, 1) := dk_42 (dk_at dksX1_laying_0 0 rfl rfl)
theorem dX1_laying_1 : decode cX1_laying 1 = .ok (.getfield 55, 3) := dk_180 0 55 (dk_at dksX1_laying_0 1 rfl rfl)
theorem dX1_laying_4 : decode cX1_laying 4 = .ok (.aload_n 0, 1) := dk_42 (dk_at dksX1_laying_0 4 rfl rfl)
theorem dX1_laying_5 : decode cX1_laying 5 = .ok (.getfield 51, 3) := dk_180 0 51 (dk_at dksX1_laying_0 5 rfl rfl)
theorem dX1_laying_8 : decode cX1_laying 8 = .ok (.invokevirtual 260, 3) := dk_182 1 4 (dk_at dksX1_laying_0 8 rfl rfl)
theorem dX1_laying_11 : decode cX1_laying 11 = .ok (.iconst 0, 1) := dk_3 (dk_at dksX1_laying_0 11 rfl rfl)
theorem dX1_laying_12 : decode cX1_laying 12 = .ok (.istore_n 1, 1) := dk_60 (dk_at dksX1_laying_0 12 rfl rfl)
theorem dX1_laying_13 : decode cX1_laying 13 = .ok (.iload_n 1, 1) := dk_27 (dk_at dksX1_laying_0 13 rfl rfl)
theorem dX1_laying_14 : decode cX1_laying 14 = .ok (.bipush 6, 2) := dk_16 6 (dk_at dksX1_laying_0 14 rfl rfl)
theorem dX1_laying_16 : decode cX1_laying 16 = .ok (.if_icmp .ge 19, 3) := dk_162 0 19 (dk_at dksX1_laying_0 16 rfl rfl)
theorem dX1_laying_19 : decode cX1_laying 19 = .ok (.aload_n 0, 1) := dk_42 (dk_at dksX1_laying_0 19 rfl rfl)
theorem dX1_laying_20 : decode cX1_laying 20 = .ok (.getfield 55, 3) := dk_180 0 55 (dk_at dksX1_laying_0 20 rfl rfl)
theorem dX1_laying_23 : decode cX1_laying 23 = .ok (.getfield 154, 3) := dk_180 0 154 (dk_at dksX1_laying_1 0 rfl rfl)
theorem dX1_laying_26 : decode cX1_laying 26 = .ok (.iload_n 1, 1) := dk_27 (dk_at dksX1_laying_1 3 rfl rfl)
theorem dX1_laying_27 : decode cX1_laying 27 = .ok (.iconst (-1), 1) := dk_2 (dk_at dksX1_laying_1 4 rfl rfl)
theorem dX1_laying_28 : decode cX1_laying 28 = .ok (.iastore, 1) := dk_79 (dk_at dksX1_laying_1 5 rfl rfl)
theorem dX1_laying_29 : decode cX1_laying 29 = .ok (.iinc 1 1, 3) := dk_132 1 1 (dk_at dksX1_laying_1 6 rfl rfl)
theorem dX1_laying_32 : decode cX1_laying 32 = .ok (.goto (-19), 3) := dk_167 255 237 (dk_at dksX1_laying_1 9 rfl rfl)
theorem dX1_laying_35 : decode cX1_laying 35 = .ok (.aload_n 0, 1) := dk_42 (dk_at dksX1_laying_1 12 rfl rfl)
theorem dX1_laying_36 : decode cX1_laying 36 = .ok (.iconst 0, 1) := dk_3 (dk_at dksX1_laying_1 13 rfl rfl)
theorem dX1_laying_37 : decode cX1_laying 37 = .ok (.invokevirtual 303, 3) := dk_182 1 47 (dk_at dksX1_laying_1 14 rfl rfl)
theorem dX1_laying_40 : decode cX1_laying 40 = .ok (.ireturn, 1) := dk_172 (dk_at dksX1_laying_1 17 rfl rfl)
abbrev cX1_lays : ByteArray := prog_1_method_44_code
def yX1_lays : MethodName := ⟨RX1, "lays", "(I)I"⟩
def dkwX1_lays_3 : List UInt8 := [96, 182, 1, 47, 96, 61, 42, 180, 0, 55, 180, 0, 154, 27, 2, 79, 132, 3, 1, 167, 255, 199, 28, 172]
abbrev dktX1_lays_3 : List UInt8 := dkwX1_lays_3 ++ []
def dkwX1_lays_2 : List UInt8 := [27, 182, 0, 173, 154, 0, 6, 167, 0, 33, 42, 180, 0, 55, 180, 0, 154, 27, 29, 79, 28, 42, 27, 4]
abbrev dktX1_lays_2 : List UInt8 := dkwX1_lays_2 ++ dktX1_lays_3
def dkwX1_lays_1 : List UInt8 := [4, 96, 182, 1, 47, 172, 3, 61, 3, 62, 29, 42, 182, 0, 142, 162, 0, 55, 42, 42, 180, 0, 55, 29]
abbrev dktX1_lays_1 : List UInt8 := dkwX1_lays_1 ++ dktX1_lays_2
def dkwX1_lays_0 : List UInt8 := [27, 42, 182, 0, 149, 160, 0, 5, 4, 172, 42, 180, 0, 51, 180, 0, 154, 27, 46, 156, 0, 11, 42, 27]
abbrev dktX1_lays_0 : List UInt8 := dkwX1_lays_0 ++ dktX1_lays_1
theorem dksX1_lays_0 : cX1_lays.data.toList.drop 0 = dktX1_lays_0 := by decide +kernel
theorem dksX1_lays_1 : cX1_lays.data.toList.drop 24 = dktX1_lays_1 := dk_seg dksX1_lays_0 24 rfl rfl
theorem dksX1_lays_2 : cX1_lays.data.toList.drop 48 = dktX1_lays_2 := dk_seg dksX1_lays_1 24 rfl rfl
theorem dksX1_lays_3 : cX1_lays.data.toList.drop 72 = dktX1_lays_3 := dk_seg dksX1_lays_2 24 rfl rfl
theorem dX1_lays_0 : decode cX1_lays 0 = .ok (.iload_n 1, 1) := dk_27 (dk_at dksX1_lays_0 0 rfl rfl)
theorem dX1_lays_1 : decode cX1_lays 1 = .ok (.aload_n 0, 1) := dk_42 (dk_at dksX1_lays_0 1 rfl rfl)
theorem dX1_lays_2 : decode cX1_lays 2 = .ok (.invokevirtual 149, 3) := dk_182 0 149 (dk_at dksX1_lays_0 2 rfl rfl)
theorem dX1_lays_5 : decode cX1_lays 5 = .ok (.if_icmp .ne 5, 3) := dk_160 0 5 (dk_at dksX1_lays_0 5 rfl rfl)
theorem dX1_lays_8 : decode cX1_lays 8 = .ok (.iconst 1, 1) := dk_4 (dk_at dksX1_lays_0 8 rfl rfl)
theorem dX1_lays_9 : decode cX1_lays 9 = .ok (.ireturn, 1) := dk_172 (dk_at dksX1_lays_0 9 rfl rfl)
theorem dX1_lays_10 : decode cX1_lays 10 = .ok (.aload_n 0, 1) := dk_42 (dk_at dksX1_lays_0 10 rfl rfl)
theorem dX1_lays_11 : decode cX1_lays 11 = .ok (.getfield 51, 3) := dk_180 0 51 (dk_at dksX1_lays_0 11 rfl rfl)
theorem dX1_lays_14 : decode cX1_lays 14 = .ok (.getfield 154, 3) := dk_180 0 154 (dk_at dksX1_lays_0 14 rfl rfl)
theorem dX1_lays_17 : decode cX1_lays 17 = .ok (.iload_n 1, 1) := dk_27 (dk_at dksX1_lays_0 17 rfl rfl)
theorem dX1_lays_18 : decode cX1_lays 18 = .ok (.iaload, 1) := dk_46 (dk_at dksX1_lays_0 18 rfl rfl)
theorem dX1_lays_19 : decode cX1_lays 19 = .ok (.ifCond .ge 11, 3) := dk_156 0 11 (dk_at dksX1_lays_0 19 rfl rfl)
theorem dX1_lays_22 : decode cX1_lays 22 = .ok (.aload_n 0, 1) := dk_42 (dk_at dksX1_lays_0 22 rfl rfl)
theorem dX1_lays_23 : decode cX1_lays 23 = .ok (.iload_n 1, 1) := dk_27 (dk_at dksX1_lays_0 23 rfl rfl)
theorem dX1_lays_24 : decode cX1_lays 24 = .ok (.iconst 1, 1) := dk_4 (dk_at dksX1_lays_1 0 rfl rfl)
theorem dX1_lays_25 : decode cX1_lays 25 = .ok (.iadd, 1) := dk_96 (dk_at dksX1_lays_1 1 rfl rfl)
theorem dX1_lays_26 : decode cX1_lays 26 = .ok (.invokevirtual 303, 3) := dk_182 1 47 (dk_at dksX1_lays_1 2 rfl rfl)
theorem dX1_lays_29 : decode cX1_lays 29 = .ok (.ireturn, 1) := dk_172 (dk_at dksX1_lays_1 5 rfl rfl)
theorem dX1_lays_30 : decode cX1_lays 30 = .ok (.iconst 0, 1) := dk_3 (dk_at dksX1_lays_1 6 rfl rfl)
theorem dX1_lays_31 : decode cX1_lays 31 = .ok (.istore_n 2, 1) := dk_61 (dk_at dksX1_lays_1 7 rfl rfl)
theorem dX1_lays_32 : decode cX1_lays 32 = .ok (.iconst 0, 1) := dk_3 (dk_at dksX1_lays_1 8 rfl rfl)
theorem dX1_lays_33 : decode cX1_lays 33 = .ok (.istore_n 3, 1) := dk_62 (dk_at dksX1_lays_1 9 rfl rfl)
theorem dX1_lays_34 : decode cX1_lays 34 = .ok (.iload_n 3, 1) := dk_29 (dk_at dksX1_lays_1 10 rfl rfl)
theorem dX1_lays_35 : decode cX1_lays 35 = .ok (.aload_n 0, 1) := dk_42 (dk_at dksX1_lays_1 11 rfl rfl)
theorem dX1_lays_36 : decode cX1_lays 36 = .ok (.invokevirtual 142, 3) := dk_182 0 142 (dk_at dksX1_lays_1 12 rfl rfl)
theorem dX1_lays_39 : decode cX1_lays 39 = .ok (.if_icmp .ge 55, 3) := dk_162 0 55 (dk_at dksX1_lays_1 15 rfl rfl)
theorem dX1_lays_42 : decode cX1_lays 42 = .ok (.aload_n 0, 1) := dk_42 (dk_at dksX1_lays_1 18 rfl rfl)
theorem dX1_lays_43 : decode cX1_lays 43 = .ok (.aload_n 0, 1) := dk_42 (dk_at dksX1_lays_1 19 rfl rfl)
theorem dX1_lays_44 : decode cX1_lays 44 = .ok (.getfield 55, 3) := dk_180 0 55 (dk_at dksX1_lays_1 20 rfl rfl)
theorem dX1_lays_47 : decode cX1_lays 47 = .ok (.iload_n 3, 1) := dk_29 (dk_at dksX1_lays_1 23 rfl rfl)
theorem dX1_lays_48 : decode cX1_lays 48 = .ok (.iload_n 1, 1) := dk_27 (dk_at dksX1_lays_2 0 rfl rfl)
theorem dX1_lays_49 : decode cX1_lays 49 = .ok (.invokevirtual 173, 3) := dk_182 0 173 (dk_at dksX1_lays_2 1 rfl rfl)
theorem dX1_lays_52 : decode cX1_lays 52 = .ok (.ifCond .ne 6, 3) := dk_154 0 6 (dk_at dksX1_lays_2 4 rfl rfl)
theorem dX1_lays_55 : decode cX1_lays 55 = .ok (.goto 33, 3) := dk_167 0 33 (dk_at dksX1_lays_2 7 rfl rfl)
theorem dX1_lays_58 : decode cX1_lays 58 = .ok (.aload_n 0, 1) := dk_42 (dk_at dksX1_lays_2 10 rfl rfl)
theorem dX1_lays_59 : decode cX1_lays 59 = .ok (.getfield 55, 3) := dk_180 0 55 (dk_at dksX1_lays_2 11 rfl rfl)
theorem dX1_lays_62 : decode cX1_lays 62 = .ok (.getfield 154, 3) := dk_180 0 154 (dk_at dksX1_lays_2 14 rfl rfl)
theorem dX1_lays_65 : decode cX1_lays 65 = .ok (.iload_n 1, 1) := dk_27 (dk_at dksX1_lays_2 17 rfl rfl)
theorem dX1_lays_66 : decode cX1_lays 66 = .ok (.iload_n 3, 1) := dk_29 (dk_at dksX1_lays_2 18 rfl rfl)
theorem dX1_lays_67 : decode cX1_lays 67 = .ok (.iastore, 1) := dk_79 (dk_at dksX1_lays_2 19 rfl rfl)
theorem dX1_lays_68 : decode cX1_lays 68 = .ok (.iload_n 2, 1) := dk_28 (dk_at dksX1_lays_2 20 rfl rfl)
theorem dX1_lays_69 : decode cX1_lays 69 = .ok (.aload_n 0, 1) := dk_42 (dk_at dksX1_lays_2 21 rfl rfl)
theorem dX1_lays_70 : decode cX1_lays 70 = .ok (.iload_n 1, 1) := dk_27 (dk_at dksX1_lays_2 22 rfl rfl)
theorem dX1_lays_71 : decode cX1_lays 71 = .ok (.iconst 1, 1) := dk_4 (dk_at dksX1_lays_2 23 rfl rfl)
theorem dX1_lays_72 : decode cX1_lays 72 = .ok (.iadd, 1) := dk_96 (dk_at dksX1_lays_3 0 rfl rfl)
theorem dX1_lays_73 : decode cX1_lays 73 = .ok (.invokevirtual 303, 3) := dk_182 1 47 (dk_at dksX1_lays_3 1 rfl rfl)
theorem dX1_lays_76 : decode cX1_lays 76 = .ok (.iadd, 1) := dk_96 (dk_at dksX1_lays_3 4 rfl rfl)
theorem dX1_lays_77 : decode cX1_lays 77 = .ok (.istore_n 2, 1) := dk_61 (dk_at dksX1_lays_3 5 rfl rfl)
theorem dX1_lays_78 : decode cX1_lays 78 = .ok (.aload_n 0, 1) := dk_42 (dk_at dksX1_lays_3 6 rfl rfl)
theorem dX1_lays_79 : decode cX1_lays 79 = .ok (.getfield 55, 3) := dk_180 0 55 (dk_at dksX1_lays_3 7 rfl rfl)
theorem dX1_lays_82 : decode cX1_lays 82 = .ok (.getfield 154, 3) := dk_180 0 154 (dk_at dksX1_lays_3 10 rfl rfl)
theorem dX1_lays_85 : decode cX1_lays 85 = .ok (.iload_n 1, 1) := dk_27 (dk_at dksX1_lays_3 13 rfl rfl)
theorem dX1_lays_86 : decode cX1_lays 86 = .ok (.iconst (-1), 1) := dk_2 (dk_at dksX1_lays_3 14 rfl rfl)
theorem dX1_lays_87 : decode cX1_lays 87 = .ok (.iastore, 1) := dk_79 (dk_at dksX1_lays_3 15 rfl rfl)
theorem dX1_lays_88 : decode cX1_lays 88 = .ok (.iinc 3 1, 3) := dk_132 3 1 (dk_at dksX1_lays_3 16 rfl rfl)
theorem dX1_lays_91 : decode cX1_lays 91 = .ok (.goto (-57), 3) := dk_167 255 199 (dk_at dksX1_lays_3 19 rfl rfl)
theorem dX1_lays_94 : decode cX1_lays 94 = .ok (.iload_n 2, 1) := dk_28 (dk_at dksX1_lays_3 22 rfl rfl)
theorem dX1_lays_95 : decode cX1_lays 95 = .ok (.ireturn, 1) := dk_172 (dk_at dksX1_lays_3 23 rfl rfl)
abbrev cX1_apart : ByteArray := prog_1_method_47_code
def yX1_apart : MethodName := ⟨RX1, "apart", "()I"⟩
def dkwX1_apart_0 : List UInt8 := [3, 60, 42, 3, 27, 182, 1, 50, 154, 0, 9, 132, 1, 1, 167, 255, 244, 27, 172]
abbrev dktX1_apart_0 : List UInt8 := dkwX1_apart_0 ++ []
theorem dksX1_apart_0 : cX1_apart.data.toList.drop 0 = dktX1_apart_0 := by decide +kernel
theorem dX1_apart_0 : decode cX1_apart 0 = .ok (.iconst 0, 1) := dk_3 (dk_at dksX1_apart_0 0 rfl rfl)
theorem dX1_apart_1 : decode cX1_apart 1 = .ok (.istore_n 1, 1) := dk_60 (dk_at dksX1_apart_0 1 rfl rfl)
theorem dX1_apart_2 : decode cX1_apart 2 = .ok (.aload_n 0, 1) := dk_42 (dk_at dksX1_apart_0 2 rfl rfl)
theorem dX1_apart_3 : decode cX1_apart 3 = .ok (.iconst 0, 1) := dk_3 (dk_at dksX1_apart_0 3 rfl rfl)
theorem dX1_apart_4 : decode cX1_apart 4 = .ok (.iload_n 1, 1) := dk_27 (dk_at dksX1_apart_0 4 rfl rfl)
theorem dX1_apart_5 : decode cX1_apart 5 = .ok (.invokevirtual 306, 3) := dk_182 1 50 (dk_at dksX1_apart_0 5 rfl rfl)
theorem dX1_apart_8 : decode cX1_apart 8 = .ok (.ifCond .ne 9, 3) := dk_154 0 9 (dk_at dksX1_apart_0 8 rfl rfl)
theorem dX1_apart_11 : decode cX1_apart 11 = .ok (.iinc 1 1, 3) := dk_132 1 1 (dk_at dksX1_apart_0 11 rfl rfl)
theorem dX1_apart_14 : decode cX1_apart 14 = .ok (.goto (-12), 3) := dk_167 255 244 (dk_at dksX1_apart_0 14 rfl rfl)
theorem dX1_apart_17 : decode cX1_apart 17 = .ok (.iload_n 1, 1) := dk_27 (dk_at dksX1_apart_0 17 rfl rfl)
theorem dX1_apart_18 : decode cX1_apart 18 = .ok (.ireturn, 1) := dk_172 (dk_at dksX1_apart_0 18 rfl rfl)
abbrev cX1_isApart : ByteArray := prog_1_method_46_code
def yX1_isApart : MethodName := ⟨RX1, "isApart", "(II)Z"⟩
def dkwX1_isApart_4 : List UInt8 := [4, 172, 132, 3, 1, 167, 255, 172, 3, 172]
abbrev dktX1_isApart_4 : List UInt8 := dkwX1_isApart_4 ++ []
def dkwX1_isApart_3 : List UInt8 := [154, 0, 6, 167, 0, 23, 42, 180, 0, 72, 27, 29, 79, 42, 27, 4, 96, 28, 182, 1, 50, 153, 0, 5]
abbrev dktX1_isApart_3 : List UInt8 := dkwX1_isApart_3 ++ dktX1_isApart_4
def dkwX1_isApart_2 : List UInt8 := [180, 0, 170, 21, 5, 184, 0, 187, 153, 0, 6, 3, 54, 4, 132, 5, 1, 167, 255, 217, 21, 4]
abbrev dktX1_isApart_2 : List UInt8 := dkwX1_isApart_2 ++ dktX1_isApart_3
def dkwX1_isApart_1 : List UInt8 := [21, 5, 27, 162, 0, 39, 42, 180, 0, 72, 21, 5, 46, 29, 160, 0, 22, 42, 27, 182, 0, 157]
abbrev dktX1_isApart_1 : List UInt8 := dkwX1_isApart_1 ++ dktX1_isApart_2
def dkwX1_isApart_0 : List UInt8 := [27, 42, 182, 0, 149, 160, 0, 5, 4, 172, 3, 62, 29, 28, 162, 0, 85, 4, 54, 4, 3, 54, 5]
abbrev dktX1_isApart_0 : List UInt8 := dkwX1_isApart_0 ++ dktX1_isApart_1
theorem dksX1_isApart_0 : cX1_isApart.data.toList.drop 0 = dktX1_isApart_0 := by decide +kernel
theorem dksX1_isApart_1 : cX1_isApart.data.toList.drop 23 = dktX1_isApart_1 := dk_seg dksX1_isApart_0 23 rfl rfl
theorem dksX1_isApart_2 : cX1_isApart.data.toList.drop 45 = dktX1_isApart_2 := dk_seg dksX1_isApart_1 22 rfl rfl
theorem dksX1_isApart_3 : cX1_isApart.data.toList.drop 67 = dktX1_isApart_3 := dk_seg dksX1_isApart_2 22 rfl rfl
theorem dksX1_isApart_4 : cX1_isApart.data.toList.drop 91 = dktX1_isApart_4 := dk_seg dksX1_isApart_3 24 rfl rfl
theorem dX1_isApart_0 : decode cX1_isApart 0 = .ok (.iload_n 1, 1) := dk_27 (dk_at dksX1_isApart_0 0 rfl rfl)
theorem dX1_isApart_1 : decode cX1_isApart 1 = .ok (.aload_n 0, 1) := dk_42 (dk_at dksX1_isApart_0 1 rfl rfl)
theorem dX1_isApart_2 : decode cX1_isApart 2 = .ok (.invokevirtual 149, 3) := dk_182 0 149 (dk_at dksX1_isApart_0 2 rfl rfl)
theorem dX1_isApart_5 : decode cX1_isApart 5 = .ok (.if_icmp .ne 5, 3) := dk_160 0 5 (dk_at dksX1_isApart_0 5 rfl rfl)
theorem dX1_isApart_8 : decode cX1_isApart 8 = .ok (.iconst 1, 1) := dk_4 (dk_at dksX1_isApart_0 8 rfl rfl)
theorem dX1_isApart_9 : decode cX1_isApart 9 = .ok (.ireturn, 1) := dk_172 (dk_at dksX1_isApart_0 9 rfl rfl)
theorem dX1_isApart_10 : decode cX1_isApart 10 = .ok (.iconst 0, 1) := dk_3 (dk_at dksX1_isApart_0 10 rfl rfl)
theorem dX1_isApart_11 : decode cX1_isApart 11 = .ok (.istore_n 3, 1) := dk_62 (dk_at dksX1_isApart_0 11 rfl rfl)
theorem dX1_isApart_12 : decode cX1_isApart 12 = .ok (.iload_n 3, 1) := dk_29 (dk_at dksX1_isApart_0 12 rfl rfl)
theorem dX1_isApart_13 : decode cX1_isApart 13 = .ok (.iload_n 2, 1) := dk_28 (dk_at dksX1_isApart_0 13 rfl rfl)
theorem dX1_isApart_14 : decode cX1_isApart 14 = .ok (.if_icmp .ge 85, 3) := dk_162 0 85 (dk_at dksX1_isApart_0 14 rfl rfl)
theorem dX1_isApart_17 : decode cX1_isApart 17 = .ok (.iconst 1, 1) := dk_4 (dk_at dksX1_isApart_0 17 rfl rfl)
theorem dX1_isApart_18 : decode cX1_isApart 18 = .ok (.istore 4, 2) := dk_54 4 (dk_at dksX1_isApart_0 18 rfl rfl)
theorem dX1_isApart_20 : decode cX1_isApart 20 = .ok (.iconst 0, 1) := dk_3 (dk_at dksX1_isApart_0 20 rfl rfl)
theorem dX1_isApart_21 : decode cX1_isApart 21 = .ok (.istore 5, 2) := dk_54 5 (dk_at dksX1_isApart_0 21 rfl rfl)
theorem dX1_isApart_23 : decode cX1_isApart 23 = .ok (.iload 5, 2) := dk_21 5 (dk_at dksX1_isApart_1 0 rfl rfl)
theorem dX1_isApart_25 : decode cX1_isApart 25 = .ok (.iload_n 1, 1) := dk_27 (dk_at dksX1_isApart_1 2 rfl rfl)
theorem dX1_isApart_26 : decode cX1_isApart 26 = .ok (.if_icmp .ge 39, 3) := dk_162 0 39 (dk_at dksX1_isApart_1 3 rfl rfl)
theorem dX1_isApart_29 : decode cX1_isApart 29 = .ok (.aload_n 0, 1) := dk_42 (dk_at dksX1_isApart_1 6 rfl rfl)
theorem dX1_isApart_30 : decode cX1_isApart 30 = .ok (.getfield 72, 3) := dk_180 0 72 (dk_at dksX1_isApart_1 7 rfl rfl)
theorem dX1_isApart_33 : decode cX1_isApart 33 = .ok (.iload 5, 2) := dk_21 5 (dk_at dksX1_isApart_1 10 rfl rfl)
theorem dX1_isApart_35 : decode cX1_isApart 35 = .ok (.iaload, 1) := dk_46 (dk_at dksX1_isApart_1 12 rfl rfl)
theorem dX1_isApart_36 : decode cX1_isApart 36 = .ok (.iload_n 3, 1) := dk_29 (dk_at dksX1_isApart_1 13 rfl rfl)
theorem dX1_isApart_37 : decode cX1_isApart 37 = .ok (.if_icmp .ne 22, 3) := dk_160 0 22 (dk_at dksX1_isApart_1 14 rfl rfl)
theorem dX1_isApart_40 : decode cX1_isApart 40 = .ok (.aload_n 0, 1) := dk_42 (dk_at dksX1_isApart_1 17 rfl rfl)
theorem dX1_isApart_41 : decode cX1_isApart 41 = .ok (.iload_n 1, 1) := dk_27 (dk_at dksX1_isApart_1 18 rfl rfl)
theorem dX1_isApart_42 : decode cX1_isApart 42 = .ok (.invokevirtual 157, 3) := dk_182 0 157 (dk_at dksX1_isApart_1 19 rfl rfl)
theorem dX1_isApart_45 : decode cX1_isApart 45 = .ok (.getfield 170, 3) := dk_180 0 170 (dk_at dksX1_isApart_2 0 rfl rfl)
theorem dX1_isApart_48 : decode cX1_isApart 48 = .ok (.iload 5, 2) := dk_21 5 (dk_at dksX1_isApart_2 3 rfl rfl)
theorem dX1_isApart_50 : decode cX1_isApart 50 = .ok (.invokestatic 187, 3) := dk_184 0 187 (dk_at dksX1_isApart_2 5 rfl rfl)
theorem dX1_isApart_53 : decode cX1_isApart 53 = .ok (.ifCond .eq 6, 3) := dk_153 0 6 (dk_at dksX1_isApart_2 8 rfl rfl)
theorem dX1_isApart_56 : decode cX1_isApart 56 = .ok (.iconst 0, 1) := dk_3 (dk_at dksX1_isApart_2 11 rfl rfl)
theorem dX1_isApart_57 : decode cX1_isApart 57 = .ok (.istore 4, 2) := dk_54 4 (dk_at dksX1_isApart_2 12 rfl rfl)
theorem dX1_isApart_59 : decode cX1_isApart 59 = .ok (.iinc 5 1, 3) := dk_132 5 1 (dk_at dksX1_isApart_2 14 rfl rfl)
theorem dX1_isApart_62 : decode cX1_isApart 62 = .ok (.goto (-39), 3) := dk_167 255 217 (dk_at dksX1_isApart_2 17 rfl rfl)
theorem dX1_isApart_65 : decode cX1_isApart 65 = .ok (.iload 4, 2) := dk_21 4 (dk_at dksX1_isApart_2 20 rfl rfl)
theorem dX1_isApart_67 : decode cX1_isApart 67 = .ok (.ifCond .ne 6, 3) := dk_154 0 6 (dk_at dksX1_isApart_3 0 rfl rfl)
theorem dX1_isApart_70 : decode cX1_isApart 70 = .ok (.goto 23, 3) := dk_167 0 23 (dk_at dksX1_isApart_3 3 rfl rfl)
theorem dX1_isApart_73 : decode cX1_isApart 73 = .ok (.aload_n 0, 1) := dk_42 (dk_at dksX1_isApart_3 6 rfl rfl)
theorem dX1_isApart_74 : decode cX1_isApart 74 = .ok (.getfield 72, 3) := dk_180 0 72 (dk_at dksX1_isApart_3 7 rfl rfl)
theorem dX1_isApart_77 : decode cX1_isApart 77 = .ok (.iload_n 1, 1) := dk_27 (dk_at dksX1_isApart_3 10 rfl rfl)
theorem dX1_isApart_78 : decode cX1_isApart 78 = .ok (.iload_n 3, 1) := dk_29 (dk_at dksX1_isApart_3 11 rfl rfl)
theorem dX1_isApart_79 : decode cX1_isApart 79 = .ok (.iastore, 1) := dk_79 (dk_at dksX1_isApart_3 12 rfl rfl)
theorem dX1_isApart_80 : decode cX1_isApart 80 = .ok (.aload_n 0, 1) := dk_42 (dk_at dksX1_isApart_3 13 rfl rfl)
theorem dX1_isApart_81 : decode cX1_isApart 81 = .ok (.iload_n 1, 1) := dk_27 (dk_at dksX1_isApart_3 14 rfl rfl)
theorem dX1_isApart_82 : decode cX1_isApart 82 = .ok (.iconst 1, 1) := dk_4 (dk_at dksX1_isApart_3 15 rfl rfl)
theorem dX1_isApart_83 : decode cX1_isApart 83 = .ok (.iadd, 1) := dk_96 (dk_at dksX1_isApart_3 16 rfl rfl)
theorem dX1_isApart_84 : decode cX1_isApart 84 = .ok (.iload_n 2, 1) := dk_28 (dk_at dksX1_isApart_3 17 rfl rfl)
theorem dX1_isApart_85 : decode cX1_isApart 85 = .ok (.invokevirtual 306, 3) := dk_182 1 50 (dk_at dksX1_isApart_3 18 rfl rfl)
theorem dX1_isApart_88 : decode cX1_isApart 88 = .ok (.ifCond .eq 5, 3) := dk_153 0 5 (dk_at dksX1_isApart_3 21 rfl rfl)
theorem dX1_isApart_91 : decode cX1_isApart 91 = .ok (.iconst 1, 1) := dk_4 (dk_at dksX1_isApart_4 0 rfl rfl)
theorem dX1_isApart_92 : decode cX1_isApart 92 = .ok (.ireturn, 1) := dk_172 (dk_at dksX1_isApart_4 1 rfl rfl)
theorem dX1_isApart_93 : decode cX1_isApart 93 = .ok (.iinc 3 1, 3) := dk_132 3 1 (dk_at dksX1_isApart_4 2 rfl rfl)
theorem dX1_isApart_96 : decode cX1_isApart 96 = .ok (.goto (-84), 3) := dk_167 255 172 (dk_at dksX1_isApart_4 5 rfl rfl)
theorem dX1_isApart_99 : decode cX1_isApart 99 = .ok (.iconst 0, 1) := dk_3 (dk_at dksX1_isApart_4 8 rfl rfl)
theorem dX1_isApart_100 : decode cX1_isApart 100 = .ok (.ireturn, 1) := dk_172 (dk_at dksX1_isApart_4 9 rfl rfl)
abbrev cX1_defer : ByteArray := prog_1_method_48_code
def yX1_defer : MethodName := ⟨RX1, "defer", "(I)I"⟩
def dkwX1_defer_4 : List UInt8 := [21, 5, 29, 161, 0, 6, 167, 0, 9, 21, 4, 61, 21, 5, 62, 132, 4, 1, 167, 255, 160, 28, 172]
abbrev dktX1_defer_4 : List UInt8 := dkwX1_defer_4 ++ []
def dkwX1_defer_3 : List UInt8 := [180, 0, 55, 182, 1, 27, 184, 0, 226, 184, 0, 7, 54, 5, 132, 6, 1, 167, 255, 220, 28, 155, 0, 12]
abbrev dktX1_defer_3 : List UInt8 := dkwX1_defer_3 ++ dktX1_defer_4
def dkwX1_defer_2 : List UInt8 := [54, 5, 3, 54, 6, 21, 6, 16, 24, 162, 0, 35, 42, 42, 180, 0, 55, 182, 1, 11, 87, 21, 5, 42]
abbrev dktX1_defer_2 : List UInt8 := dkwX1_defer_2 ++ dktX1_defer_3
def dkwX1_defer_1 : List UInt8 := [42, 180, 0, 55, 42, 180, 0, 51, 182, 1, 4, 42, 180, 0, 55, 180, 0, 211, 27, 21, 4, 79, 3]
abbrev dktX1_defer_1 : List UInt8 := dkwX1_defer_1 ++ dktX1_defer_2
def dkwX1_defer_0 : List UInt8 := [42, 27, 182, 0, 252, 154, 0, 5, 2, 172, 2, 61, 3, 62, 3, 54, 4, 21, 4, 16, 12, 162, 0, 95]
abbrev dktX1_defer_0 : List UInt8 := dkwX1_defer_0 ++ dktX1_defer_1
theorem dksX1_defer_0 : cX1_defer.data.toList.drop 0 = dktX1_defer_0 := by decide +kernel
theorem dksX1_defer_1 : cX1_defer.data.toList.drop 24 = dktX1_defer_1 := dk_seg dksX1_defer_0 24 rfl rfl
theorem dksX1_defer_2 : cX1_defer.data.toList.drop 47 = dktX1_defer_2 := dk_seg dksX1_defer_1 23 rfl rfl
theorem dksX1_defer_3 : cX1_defer.data.toList.drop 71 = dktX1_defer_3 := dk_seg dksX1_defer_2 24 rfl rfl
theorem dksX1_defer_4 : cX1_defer.data.toList.drop 95 = dktX1_defer_4 := dk_seg dksX1_defer_3 24 rfl rfl
theorem dX1_defer_0 : decode cX1_defer 0 = .ok (.aload_n 0, 1) := dk_42 (dk_at dksX1_defer_0 0 rfl rfl)
theorem dX1_defer_1 : decode cX1_defer 1 = .ok (.iload_n 1, 1) := dk_27 (dk_at dksX1_defer_0 1 rfl rfl)
theorem dX1_defer_2 : decode cX1_defer 2 = .ok (.invokevirtual 252, 3) := dk_182 0 252 (dk_at dksX1_defer_0 2 rfl rfl)
theorem dX1_defer_5 : decode cX1_defer 5 = .ok (.ifCond .ne 5, 3) := dk_154 0 5 (dk_at dksX1_defer_0 5 rfl rfl)
theorem dX1_defer_8 : decode cX1_defer 8 = .ok (.iconst (-1), 1) := dk_2 (dk_at dksX1_defer_0 8 rfl rfl)
theorem dX1_defer_9 : decode cX1_defer 9 = .ok (.ireturn, 1) := dk_172 (dk_at dksX1_defer_0 9 rfl rfl)
theorem dX1_defer_10 : decode cX1_defer 10 = .ok (.iconst (-1), 1) := dk_2 (dk_at dksX1_defer_0 10 rfl rfl)
theorem dX1_defer_11 : decode cX1_defer 11 = .ok (.istore_n 2, 1) := dk_61 (dk_at dksX1_defer_0 11 rfl rfl)
theorem dX1_defer_12 : decode cX1_defer 12 = .ok (.iconst 0, 1) := dk_3 (dk_at dksX1_defer_0 12 rfl rfl)
theorem dX1_defer_13 : decode cX1_defer 13 = .ok (.istore_n 3, 1) := dk_62 (dk_at dksX1_defer_0 13 rfl rfl)
theorem dX1_defer_14 : decode cX1_defer 14 = .ok (.iconst 0, 1) := dk_3 (dk_at dksX1_defer_0 14 rfl rfl)
theorem dX1_defer_15 : decode cX1_defer 15 = .ok (.istore 4, 2) := dk_54 4 (dk_at dksX1_defer_0 15 rfl rfl)
theorem dX1_defer_17 : decode cX1_defer 17 = .ok (.iload 4, 2) := dk_21 4 (dk_at dksX1_defer_0 17 rfl rfl)
theorem dX1_defer_19 : decode cX1_defer 19 = .ok (.bipush 12, 2) := dk_16 12 (dk_at dksX1_defer_0 19 rfl rfl)
theorem dX1_defer_21 : decode cX1_defer 21 = .ok (.if_icmp .ge 95, 3) := dk_162 0 95 (dk_at dksX1_defer_0 21 rfl rfl)
theorem dX1_defer_24 : decode cX1_defer 24 = .ok (.aload_n 0, 1) := dk_42 (dk_at dksX1_defer_1 0 rfl rfl)
theorem dX1_defer_25 : decode cX1_defer 25 = .ok (.getfield 55, 3) := dk_180 0 55 (dk_at dksX1_defer_1 1 rfl rfl)
theorem dX1_defer_28 : decode cX1_defer 28 = .ok (.aload_n 0, 1) := dk_42 (dk_at dksX1_defer_1 4 rfl rfl)
theorem dX1_defer_29 : decode cX1_defer 29 = .ok (.getfield 51, 3) := dk_180 0 51 (dk_at dksX1_defer_1 5 rfl rfl)
theorem dX1_defer_32 : decode cX1_defer 32 = .ok (.invokevirtual 260, 3) := dk_182 1 4 (dk_at dksX1_defer_1 8 rfl rfl)
theorem dX1_defer_35 : decode cX1_defer 35 = .ok (.aload_n 0, 1) := dk_42 (dk_at dksX1_defer_1 11 rfl rfl)
theorem dX1_defer_36 : decode cX1_defer 36 = .ok (.getfield 55, 3) := dk_180 0 55 (dk_at dksX1_defer_1 12 rfl rfl)
theorem dX1_defer_39 : decode cX1_defer 39 = .ok (.getfield 211, 3) := dk_180 0 211 (dk_at dksX1_defer_1 15 rfl rfl)
theorem dX1_defer_42 : decode cX1_defer 42 = .ok (.iload_n 1, 1) := dk_27 (dk_at dksX1_defer_1 18 rfl rfl)
theorem dX1_defer_43 : decode cX1_defer 43 = .ok (.iload 4, 2) := dk_21 4 (dk_at dksX1_defer_1 19 rfl rfl)
theorem dX1_defer_45 : decode cX1_defer 45 = .ok (.iastore, 1) := dk_79 (dk_at dksX1_defer_1 21 rfl rfl)
theorem dX1_defer_46 : decode cX1_defer 46 = .ok (.iconst 0, 1) := dk_3 (dk_at dksX1_defer_1 22 rfl rfl)
theorem dX1_defer_47 : decode cX1_defer 47 = .ok (.istore 5, 2) := dk_54 5 (dk_at dksX1_defer_2 0 rfl rfl)
theorem dX1_defer_49 : decode cX1_defer 49 = .ok (.iconst 0, 1) := dk_3 (dk_at dksX1_defer_2 2 rfl rfl)
theorem dX1_defer_50 : decode cX1_defer 50 = .ok (.istore 6, 2) := dk_54 6 (dk_at dksX1_defer_2 3 rfl rfl)
theorem dX1_defer_52 : decode cX1_defer 52 = .ok (.iload 6, 2) := dk_21 6 (dk_at dksX1_defer_2 5 rfl rfl)
theorem dX1_defer_54 : decode cX1_defer 54 = .ok (.bipush 24, 2) := dk_16 24 (dk_at dksX1_defer_2 7 rfl rfl)
theorem dX1_defer_56 : decode cX1_defer 56 = .ok (.if_icmp .ge 35, 3) := dk_162 0 35 (dk_at dksX1_defer_2 9 rfl rfl)
theorem dX1_defer_59 : decode cX1_defer 59 = .ok (.aload_n 0, 1) := dk_42 (dk_at dksX1_defer_2 12 rfl rfl)
theorem dX1_defer_60 : decode cX1_defer 60 = .ok (.aload_n 0, 1) := dk_42 (dk_at dksX1_defer_2 13 rfl rfl)
theorem dX1_defer_61 : decode cX1_defer 61 = .ok (.getfield 55, 3) := dk_180 0 55 (dk_at dksX1_defer_2 14 rfl rfl)
theorem dX1_defer_64 : decode cX1_defer 64 = .ok (.invokevirtual 267, 3) := dk_182 1 11 (dk_at dksX1_defer_2 17 rfl rfl)
theorem dX1_defer_67 : decode cX1_defer 67 = .ok (.pop, 1) := dk_87 (dk_at dksX1_defer_2 20 rfl rfl)
theorem dX1_defer_68 : decode cX1_defer 68 = .ok (.iload 5, 2) := dk_21 5 (dk_at dksX1_defer_2 21 rfl rfl)
theorem dX1_defer_70 : decode cX1_defer 70 = .ok (.aload_n 0, 1) := dk_42 (dk_at dksX1_defer_2 23 rfl rfl)
theorem dX1_defer_71 : decode cX1_defer 71 = .ok (.getfield 55, 3) := dk_180 0 55 (dk_at dksX1_defer_3 0 rfl rfl)
theorem dX1_defer_74 : decode cX1_defer 74 = .ok (.invokevirtual 283, 3) := dk_182 1 27 (dk_at dksX1_defer_3 3 rfl rfl)
theorem dX1_defer_77 : decode cX1_defer 77 = .ok (.invokestatic 226, 3) := dk_184 0 226 (dk_at dksX1_defer_3 6 rfl rfl)
theorem dX1_defer_80 : decode cX1_defer 80 = .ok (.invokestatic 7, 3) := dk_184 0 7 (dk_at dksX1_defer_3 9 rfl rfl)
theorem dX1_defer_83 : decode cX1_defer 83 = .ok (.istore 5, 2) := dk_54 5 (dk_at dksX1_defer_3 12 rfl rfl)
theorem dX1_defer_85 : decode cX1_defer 85 = .ok (.iinc 6 1, 3) := dk_132 6 1 (dk_at dksX1_defer_3 14 rfl rfl)
theorem dX1_defer_88 : decode cX1_defer 88 = .ok (.goto (-36), 3) := dk_167 255 220 (dk_at dksX1_defer_3 17 rfl rfl)
theorem dX1_defer_91 : decode cX1_defer 91 = .ok (.iload_n 2, 1) := dk_28 (dk_at dksX1_defer_3 20 rfl rfl)
theorem dX1_defer_92 : decode cX1_defer 92 = .ok (.ifCond .lt 12, 3) := dk_155 0 12 (dk_at dksX1_defer_3 21 rfl rfl)
theorem dX1_defer_95 : decode cX1_defer 95 = .ok (.iload 5, 2) := dk_21 5 (dk_at dksX1_defer_4 0 rfl rfl)
theorem dX1_defer_97 : decode cX1_defer 97 = .ok (.iload_n 3, 1) := dk_29 (dk_at dksX1_defer_4 2 rfl rfl)
theorem dX1_defer_98 : decode cX1_defer 98 = .ok (.if_icmp .lt 6, 3) := dk_161 0 6 (dk_at dksX1_defer_4 3 rfl rfl)
theorem dX1_defer_101 : decode cX1_defer 101 = .ok (.goto 9, 3) := dk_167 0 9 (dk_at dksX1_defer_4 6 rfl rfl)
theorem dX1_defer_104 : decode cX1_defer 104 = .ok (.iload 4, 2) := dk_21 4 (dk_at dksX1_defer_4 9 rfl rfl)
theorem dX1_defer_106 : decode cX1_defer 106 = .ok (.istore_n 2, 1) := dk_61 (dk_at dksX1_defer_4 11 rfl rfl)
theorem dX1_defer_107 : decode cX1_defer 107 = .ok (.iload 5, 2) := dk_21 5 (dk_at dksX1_defer_4 12 rfl rfl)
theorem dX1_defer_109 : decode cX1_defer 109 = .ok (.istore_n 3, 1) := dk_62 (dk_at dksX1_defer_4 14 rfl rfl)
theorem dX1_defer_110 : decode cX1_defer 110 = .ok (.iinc 4 1, 3) := dk_132 4 1 (dk_at dksX1_defer_4 15 rfl rfl)
theorem dX1_defer_113 : decode cX1_defer 113 = .ok (.goto (-96), 3) := dk_167 255 160 (dk_at dksX1_defer_4 18 rfl rfl)
theorem dX1_defer_116 : decode cX1_defer 116 = .ok (.iload_n 2, 1) := dk_28 (dk_at dksX1_defer_4 21 rfl rfl)
theorem dX1_defer_117 : decode cX1_defer 117 = .ok (.ireturn, 1) := dk_172 (dk_at dksX1_defer_4 22 rfl rfl)
abbrev cX1_see : ByteArray := prog_1_method_49_code
def yX1_see : MethodName := ⟨RX1, "see", "(II)Z"⟩
def dkwX1_see_2 : List UInt8 := [42, 89, 180, 0, 114, 90, 4, 96, 181, 0, 114, 28, 79, 4, 172]
abbrev dktX1_see_2 : List UInt8 := dkwX1_see_2 ++ []
def dkwX1_see_1 : List UInt8 := [180, 0, 114, 16, 8, 160, 0, 5, 3, 172, 42, 180, 0, 75, 42, 180, 0, 114, 27, 79, 42, 180, 0, 78]
abbrev dktX1_see_1 : List UInt8 := dkwX1_see_1 ++ dktX1_see_2
def dkwX1_see_0 : List UInt8 := [27, 2, 159, 0, 11, 42, 27, 182, 0, 245, 153, 0, 22, 28, 3, 16, 24, 184, 0, 145, 153, 0, 12, 42]
abbrev dktX1_see_0 : List UInt8 := dkwX1_see_0 ++ dktX1_see_1
theorem dksX1_see_0 : cX1_see.data.toList.drop 0 = dktX1_see_0 := by decide +kernel
theorem dksX1_see_1 : cX1_see.data.toList.drop 24 = dktX1_see_1 := dk_seg dksX1_see_0 24 rfl rfl
theorem dksX1_see_2 : cX1_see.data.toList.drop 48 = dktX1_see_2 := dk_seg dksX1_see_1 24 rfl rfl
theorem dX1_see_0 : decode cX1_see 0 = .ok (.iload_n 1, 1) := dk_27 (dk_at dksX1_see_0 0 rfl rfl)
theorem dX1_see_1 : decode cX1_see 1 = .ok (.iconst (-1), 1) := dk_2 (dk_at dksX1_see_0 1 rfl rfl)
theorem dX1_see_2 : decode cX1_see 2 = .ok (.if_icmp .eq 11, 3) := dk_159 0 11 (dk_at dksX1_see_0 2 rfl rfl)
theorem dX1_see_5 : decode cX1_see 5 = .ok (.aload_n 0, 1) := dk_42 (dk_at dksX1_see_0 5 rfl rfl)
theorem dX1_see_6 : decode cX1_see 6 = .ok (.iload_n 1, 1) := dk_27 (dk_at dksX1_see_0 6 rfl rfl)
theorem dX1_see_7 : decode cX1_see 7 = .ok (.invokevirtual 245, 3) := dk_182 0 245 (dk_at dksX1_see_0 7 rfl rfl)
theorem dX1_see_10 : decode cX1_see 10 = .ok (.ifCond .eq 22, 3) := dk_153 0 22 (dk_at dksX1_see_0 10 rfl rfl)
theorem dX1_see_13 : decode cX1_see 13 = .ok (.iload_n 2, 1) := dk_28 (dk_at dksX1_see_0 13 rfl rfl)
theorem dX1_see_14 : decode cX1_see 14 = .ok (.iconst 0, 1) := dk_3 (dk_at dksX1_see_0 14 rfl rfl)
theorem dX1_see_15 : decode cX1_see 15 = .ok (.bipush 24, 2) := dk_16 24 (dk_at dksX1_see_0 15 rfl rfl)
theorem dX1_see_17 : decode cX1_see 17 = .ok (.invokestatic 145, 3) := dk_184 0 145 (dk_at dksX1_see_0 17 rfl rfl)
theorem dX1_see_20 : decode cX1_see 20 = .ok (.ifCond .eq 12, 3) := dk_153 0 12 (dk_at dksX1_see_0 20 rfl rfl)
theorem dX1_see_23 : decode cX1_see 23 = .ok (.aload_n 0, 1) := dk_42 (dk_at dksX1_see_0 23 rfl rfl)
theorem dX1_see_24 : decode cX1_see 24 = .ok (.getfield 114, 3) := dk_180 0 114 (dk_at dksX1_see_1 0 rfl rfl)
theorem dX1_see_27 : decode cX1_see 27 = .ok (.bipush 8, 2) := dk_16 8 (dk_at dksX1_see_1 3 rfl rfl)
theorem dX1_see_29 : decode cX1_see 29 = .ok (.if_icmp .ne 5, 3) := dk_160 0 5 (dk_at dksX1_see_1 5 rfl rfl)
theorem dX1_see_32 : decode cX1_see 32 = .ok (.iconst 0, 1) := dk_3 (dk_at dksX1_see_1 8 rfl rfl)
theorem dX1_see_33 : decode cX1_see 33 = .ok (.ireturn, 1) := dk_172 (dk_at dksX1_see_1 9 rfl rfl)
theorem dX1_see_34 : decode cX1_see 34 = .ok (.aload_n 0, 1) := dk_42 (dk_at dksX1_see_1 10 rfl rfl)
theorem dX1_see_35 : decode cX1_see 35 = .ok (.getfield 75, 3) := dk_180 0 75 (dk_at dksX1_see_1 11 rfl rfl)
theorem dX1_see_38 : decode cX1_see 38 = .ok (.aload_n 0, 1) := dk_42 (dk_at dksX1_see_1 14 rfl rfl)
theorem dX1_see_39 : decode cX1_see 39 = .ok (.getfield 114, 3) := dk_180 0 114 (dk_at dksX1_see_1 15 rfl rfl)
theorem dX1_see_42 : decode cX1_see 42 = .ok (.iload_n 1, 1) := dk_27 (dk_at dksX1_see_1 18 rfl rfl)
theorem dX1_see_43 : decode cX1_see 43 = .ok (.iastore, 1) := dk_79 (dk_at dksX1_see_1 19 rfl rfl)
theorem dX1_see_44 : decode cX1_see 44 = .ok (.aload_n 0, 1) := dk_42 (dk_at dksX1_see_1 20 rfl rfl)
theorem dX1_see_45 : decode cX1_see 45 = .ok (.getfield 78, 3) := dk_180 0 78 (dk_at dksX1_see_1 21 rfl rfl)
theorem dX1_see_48 : decode cX1_see 48 = .ok (.aload_n 0, 1) := dk_42 (dk_at dksX1_see_2 0 rfl rfl)
theorem dX1_see_49 : decode cX1_see 49 = .ok (.dup, 1) := dk_89 (dk_at dksX1_see_2 1 rfl rfl)
theorem dX1_see_50 : decode cX1_see 50 = .ok (.getfield 114, 3) := dk_180 0 114 (dk_at dksX1_see_2 2 rfl rfl)
theorem dX1_see_53 : decode cX1_see 53 = .ok (.dup_x1, 1) := dk_90 (dk_at dksX1_see_2 5 rfl rfl)
theorem dX1_see_54 : decode cX1_see 54 = .ok (.iconst 1, 1) := dk_4 (dk_at dksX1_see_2 6 rfl rfl)
theorem dX1_see_55 : decode cX1_see 55 = .ok (.iadd, 1) := dk_96 (dk_at dksX1_see_2 7 rfl rfl)
theorem dX1_see_56 : decode cX1_see 56 = .ok (.putfield 114, 3) := dk_181 0 114 (dk_at dksX1_see_2 8 rfl rfl)
theorem dX1_see_59 : decode cX1_see 59 = .ok (.iload_n 2, 1) := dk_28 (dk_at dksX1_see_2 11 rfl rfl)
theorem dX1_see_60 : decode cX1_see 60 = .ok (.iastore, 1) := dk_79 (dk_at dksX1_see_2 12 rfl rfl)
theorem dX1_see_61 : decode cX1_see 61 = .ok (.iconst 1, 1) := dk_4 (dk_at dksX1_see_2 13 rfl rfl)
theorem dX1_see_62 : decode cX1_see 62 = .ok (.ireturn, 1) := dk_172 (dk_at dksX1_see_2 14 rfl rfl)
abbrev cX1_who : ByteArray := prog_1_method_51_code
def yX1_who : MethodName := ⟨RX1, "who", "()I"⟩
def dkwX1_who_3 : List UInt8 := [153, 0, 9, 27, 4, 28, 120, 128, 60, 132, 2, 1, 167, 255, 181, 27, 172]
abbrev dktX1_who_3 : List UInt8 := dkwX1_who_3 ++ []
def dkwX1_who_2 : List UInt8 := [42, 180, 0, 75, 21, 4, 46, 160, 0, 7, 4, 167, 0, 4, 3, 62, 132, 4, 1, 167, 255, 210, 29]
abbrev dktX1_who_2 : List UInt8 := dkwX1_who_2 ++ dktX1_who_3
def dkwX1_who_1 : List UInt8 := [180, 0, 114, 162, 0, 43, 29, 153, 0, 31, 42, 180, 0, 83, 42, 180, 0, 78, 21, 4, 46, 50, 28, 46]
abbrev dktX1_who_1 : List UInt8 := dkwX1_who_1 ++ dktX1_who_2
def dkwX1_who_0 : List UInt8 := [42, 182, 1, 53, 3, 60, 3, 61, 28, 42, 182, 0, 149, 162, 0, 73, 4, 62, 3, 54, 4, 21, 4, 42]
abbrev dktX1_who_0 : List UInt8 := dkwX1_who_0 ++ dktX1_who_1
theorem dksX1_who_0 : cX1_who.data.toList.drop 0 = dktX1_who_0 := by decide +kernel
theorem dksX1_who_1 : cX1_who.data.toList.drop 24 = dktX1_who_1 := dk_seg dksX1_who_0 24 rfl rfl
theorem dksX1_who_2 : cX1_who.data.toList.drop 48 = dktX1_who_2 := dk_seg dksX1_who_1 24 rfl rfl
theorem dksX1_who_3 : cX1_who.data.toList.drop 71 = dktX1_who_3 := dk_seg dksX1_who_2 23 rfl rfl
theorem dX1_who_0 : decode cX1_who 0 = .ok (.aload_n 0, 1) := dk_42 (dk_at dksX1_who_0 0 rfl rfl)
theorem dX1_who_1 : decode cX1_who 1 = .ok (.invokevirtual 309, 3) := dk_182 1 53 (dk_at dksX1_who_0 1 rfl rfl)
theorem dX1_who_4 : decode cX1_who 4 = .ok (.iconst 0, 1) := dk_3 (dk_at dksX1_who_0 4 rfl rfl)
theorem dX1_who_5 : decode cX1_who 5 = .ok (.istore_n 1, 1) := dk_60 (dk_at dksX1_who_0 5 rfl rfl)
theorem dX1_who_6 : decode cX1_who 6 = .ok (.iconst 0, 1) := dk_3 (dk_at dksX1_who_0 6 rfl rfl)
theorem dX1_who_7 : decode cX1_who 7 = .ok (.istore_n 2, 1) := dk_61 (dk_at dksX1_who_0 7 rfl rfl)
theorem dX1_who_8 : decode cX1_who 8 = .ok (.iload_n 2, 1) := dk_28 (dk_at dksX1_who_0 8 rfl rfl)
theorem dX1_who_9 : decode cX1_who 9 = .ok (.aload_n 0, 1) := dk_42 (dk_at dksX1_who_0 9 rfl rfl)
theorem dX1_who_10 : decode cX1_who 10 = .ok (.invokevirtual 149, 3) := dk_182 0 149 (dk_at dksX1_who_0 10 rfl rfl)
theorem dX1_who_13 : decode cX1_who 13 = .ok (.if_icmp .ge 73, 3) := dk_162 0 73 (dk_at dksX1_who_0 13 rfl rfl)
theorem dX1_who_16 : decode cX1_who 16 = .ok (.iconst 1, 1) := dk_4 (dk_at dksX1_who_0 16 rfl rfl)
theorem dX1_who_17 : decode cX1_who 17 = .ok (.istore_n 3, 1) := dk_62 (dk_at dksX1_who_0 17 rfl rfl)
theorem dX1_who_18 : decode cX1_who 18 = .ok (.iconst 0, 1) := dk_3 (dk_at dksX1_who_0 18 rfl rfl)
theorem dX1_who_19 : decode cX1_who 19 = .ok (.istore 4, 2) := dk_54 4 (dk_at dksX1_who_0 19 rfl rfl)
theorem dX1_who_21 : decode cX1_who 21 = .ok (.iload 4, 2) := dk_21 4 (dk_at dksX1_who_0 21 rfl rfl)
theorem dX1_who_23 : decode cX1_who 23 = .ok (.aload_n 0, 1) := dk_42 (dk_at dksX1_who_0 23 rfl rfl)
theorem dX1_who_24 : decode cX1_who 24 = .ok (.getfield 114, 3) := dk_180 0 114 (dk_at dksX1_who_1 0 rfl rfl)
theorem dX1_who_27 : decode cX1_who 27 = .ok (.if_icmp .ge 43, 3) := dk_162 0 43 (dk_at dksX1_who_1 3 rfl rfl)
theorem dX1_who_30 : decode cX1_who 30 = .ok (.iload_n 3, 1) := dk_29 (dk_at dksX1_who_1 6 rfl rfl)
theorem dX1_who_31 : decode cX1_who 31 = .ok (.ifCond .eq 31, 3) := dk_153 0 31 (dk_at dksX1_who_1 7 rfl rfl)
theorem dX1_who_34 : decode cX1_who 34 = .ok (.aload_n 0, 1) := dk_42 (dk_at dksX1_who_1 10 rfl rfl)
theorem dX1_who_35 : decode cX1_who 35 = .ok (.getfield 83, 3) := dk_180 0 83 (dk_at dksX1_who_1 11 rfl rfl)
theorem dX1_who_38 : decode cX1_who 38 = .ok (.aload_n 0, 1) := dk_42 (dk_at dksX1_who_1 14 rfl rfl)
theorem dX1_who_39 : decode cX1_who 39 = .ok (.getfield 78, 3) := dk_180 0 78 (dk_at dksX1_who_1 15 rfl rfl)
theorem dX1_who_42 : decode cX1_who 42 = .ok (.iload 4, 2) := dk_21 4 (dk_at dksX1_who_1 18 rfl rfl)
theorem dX1_who_44 : decode cX1_who 44 = .ok (.iaload, 1) := dk_46 (dk_at dksX1_who_1 20 rfl rfl)
theorem dX1_who_45 : decode cX1_who 45 = .ok (.aaload, 1) := dk_50 (dk_at dksX1_who_1 21 rfl rfl)
theorem dX1_who_46 : decode cX1_who 46 = .ok (.iload_n 2, 1) := dk_28 (dk_at dksX1_who_1 22 rfl rfl)
theorem dX1_who_47 : decode cX1_who 47 = .ok (.iaload, 1) := dk_46 (dk_at dksX1_who_1 23 rfl rfl)
theorem dX1_who_48 : decode cX1_who 48 = .ok (.aload_n 0, 1) := dk_42 (dk_at dksX1_who_2 0 rfl rfl)
theorem dX1_who_49 : decode cX1_who 49 = .ok (.getfield 75, 3) := dk_180 0 75 (dk_at dksX1_who_2 1 rfl rfl)
theorem dX1_who_52 : decode cX1_who 52 = .ok (.iload 4, 2) := dk_21 4 (dk_at dksX1_who_2 4 rfl rfl)
theorem dX1_who_54 : decode cX1_who 54 = .ok (.iaload, 1) := dk_46 (dk_at dksX1_who_2 6 rfl rfl)
theorem dX1_who_55 : decode cX1_who 55 = .ok (.if_icmp .ne 7, 3) := dk_160 0 7 (dk_at dksX1_who_2 7 rfl rfl)
theorem dX1_who_58 : decode cX1_who 58 = .ok (.iconst 1, 1) := dk_4 (dk_at dksX1_who_2 10 rfl rfl)
theorem dX1_who_59 : decode cX1_who 59 = .ok (.goto 4, 3) := dk_167 0 4 (dk_at dksX1_who_2 11 rfl rfl)
theorem dX1_who_62 : decode cX1_who 62 = .ok (.iconst 0, 1) := dk_3 (dk_at dksX1_who_2 14 rfl rfl)
theorem dX1_who_63 : decode cX1_who 63 = .ok (.istore_n 3, 1) := dk_62 (dk_at dksX1_who_2 15 rfl rfl)
theorem dX1_who_64 : decode cX1_who 64 = .ok (.iinc 4 1, 3) := dk_132 4 1 (dk_at dksX1_who_2 16 rfl rfl)
theorem dX1_who_67 : decode cX1_who 67 = .ok (.goto (-46), 3) := dk_167 255 210 (dk_at dksX1_who_2 19 rfl rfl)
theorem dX1_who_70 : decode cX1_who 70 = .ok (.iload_n 3, 1) := dk_29 (dk_at dksX1_who_2 22 rfl rfl)
theorem dX1_who_71 : decode cX1_who 71 = .ok (.ifCond .eq 9, 3) := dk_153 0 9 (dk_at dksX1_who_3 0 rfl rfl)
theorem dX1_who_74 : decode cX1_who 74 = .ok (.iload_n 1, 1) := dk_27 (dk_at dksX1_who_3 3 rfl rfl)
theorem dX1_who_75 : decode cX1_who 75 = .ok (.iconst 1, 1) := dk_4 (dk_at dksX1_who_3 4 rfl rfl)
theorem dX1_who_76 : decode cX1_who 76 = .ok (.iload_n 2, 1) := dk_28 (dk_at dksX1_who_3 5 rfl rfl)
theorem dX1_who_77 : decode cX1_who 77 = .ok (.ishl, 1) := dk_120 (dk_at dksX1_who_3 6 rfl rfl)
theorem dX1_who_78 : decode cX1_who 78 = .ok (.ior, 1) := dk_128 (dk_at dksX1_who_3 7 rfl rfl)
theorem dX1_who_79 : decode cX1_who 79 = .ok (.istore_n 1, 1) := dk_60 (dk_at dksX1_who_3 8 rfl rfl)
theorem dX1_who_80 : decode cX1_who 80 = .ok (.iinc 2 1, 3) := dk_132 2 1 (dk_at dksX1_who_3 9 rfl rfl)
theorem dX1_who_83 : decode cX1_who 83 = .ok (.goto (-75), 3) := dk_167 255 181 (dk_at dksX1_who_3 12 rfl rfl)
theorem dX1_who_86 : decode cX1_who 86 = .ok (.iload_n 1, 1) := dk_27 (dk_at dksX1_who_3 15 rfl rfl)
theorem dX1_who_87 : decode cX1_who 87 = .ok (.ireturn, 1) := dk_172 (dk_at dksX1_who_3 16 rfl rfl)
abbrev cX1_laysPlaces : ByteArray := prog_1_method_50_code
def yX1_laysPlaces : MethodName := ⟨RX1, "laysPlaces", "()V"⟩
def dkwX1_laysPlaces_2 : List UInt8 := [167, 255, 222, 177]
abbrev dktX1_laysPlaces_2 : List UInt8 := dkwX1_laysPlaces_2 ++ []
def dkwX1_laysPlaces_1 : List UInt8 := [180, 0, 154, 42, 180, 0, 83, 27, 50, 184, 1, 39, 42, 42, 180, 0, 55, 182, 1, 11, 87, 132, 1, 1]
abbrev dktX1_laysPlaces_1 : List UInt8 := dkwX1_laysPlaces_1 ++ dktX1_laysPlaces_2
def dkwX1_laysPlaces_0 : List UInt8 := [42, 180, 0, 55, 42, 180, 0, 51, 182, 1, 4, 3, 60, 27, 16, 24, 163, 0, 34, 42, 180, 0, 55]
abbrev dktX1_laysPlaces_0 : List UInt8 := dkwX1_laysPlaces_0 ++ dktX1_laysPlaces_1
theorem dksX1_laysPlaces_0 : cX1_laysPlaces.data.toList.drop 0 = dktX1_laysPlaces_0 := by decide +kernel
theorem dksX1_laysPlaces_1 : cX1_laysPlaces.data.toList.drop 23 = dktX1_laysPlaces_1 := dk_seg dksX1_laysPlaces_0 23 rfl rfl
theorem dksX1_laysPlaces_2 : cX1_laysPlaces.data.toList.drop 47 = dktX1_laysPlaces_2 := dk_seg dksX1_laysPlaces_1 24 rfl rfl
theorem dX1_laysPlaces_0 : decode cX1_laysPlaces 0 = .ok (.aload_n 0, 1) := dk_42 (dk_at dksX1_laysPlaces_0 0 rfl rfl)
theorem dX1_laysPlaces_1 : decode cX1_laysPlaces 1 = .ok (.getfield 55, 3) := dk_180 0 55 (dk_at dksX1_laysPlaces_0 1 rfl rfl)
theorem dX1_laysPlaces_4 : decode cX1_laysPlaces 4 = .ok (.aload_n 0, 1) := dk_42 (dk_at dksX1_laysPlaces_0 4 rfl rfl)
theorem dX1_laysPlaces_5 : decode cX1_laysPlaces 5 = .ok (.getfield 51, 3) := dk_180 0 51 (dk_at dksX1_laysPlaces_0 5 rfl rfl)
theorem dX1_laysPlaces_8 : decode cX1_laysPlaces 8 = .ok (.invokevirtual 260, 3) := dk_182 1 4 (dk_at dksX1_laysPlaces_0 8 rfl rfl)
theorem dX1_laysPlaces_11 : decode cX1_laysPlaces 11 = .ok (.iconst 0, 1) := dk_3 (dk_at dksX1_laysPlaces_0 11 rfl rfl)
theorem dX1_laysPlaces_12 : decode cX1_laysPlaces 12 = .ok (.istore_n 1, 1) := dk_60 (dk_at dksX1_laysPlaces_0 12 rfl rfl)
theorem dX1_laysPlaces_13 : decode cX1_laysPlaces 13 = .ok (.iload_n 1, 1) := dk_27 (dk_at dksX1_laysPlaces_0 13 rfl rfl)
theorem dX1_laysPlaces_14 : decode cX1_laysPlaces 14 = .ok (.bipush 24, 2) := dk_16 24 (dk_at dksX1_laysPlaces_0 14 rfl rfl)
theorem dX1_laysPlaces_16 : decode cX1_laysPlaces 16 = .ok (.if_icmp .gt 34, 3) := dk_163 0 34 (dk_at dksX1_laysPlaces_0 16 rfl rfl)
theorem dX1_laysPlaces_19 : decode cX1_laysPlaces 19 = .ok (.aload_n 0, 1) := dk_42 (dk_at dksX1_laysPlaces_0 19 rfl rfl)
theorem dX1_laysPlaces_20 : decode cX1_laysPlaces 20 = .ok (.getfield 55, 3) := dk_180 0 55 (dk_at dksX1_laysPlaces_0 20 rfl rfl)
theorem dX1_laysPlaces_23 : decode cX1_laysPlaces 23 = .ok (.getfield 154, 3) := dk_180 0 154 (dk_at dksX1_laysPlaces_1 0 rfl rfl)
theorem dX1_laysPlaces_26 : decode cX1_laysPlaces 26 = .ok (.aload_n 0, 1) := dk_42 (dk_at dksX1_laysPlaces_1 3 rfl rfl)
theorem dX1_laysPlaces_27 : decode cX1_laysPlaces 27 = .ok (.getfield 83, 3) := dk_180 0 83 (dk_at dksX1_laysPlaces_1 4 rfl rfl)
theorem dX1_laysPlaces_30 : decode cX1_laysPlaces 30 = .ok (.iload_n 1, 1) := dk_27 (dk_at dksX1_laysPlaces_1 7 rfl rfl)
theorem dX1_laysPlaces_31 : decode cX1_laysPlaces 31 = .ok (.aaload, 1) := dk_50 (dk_at dksX1_laysPlaces_1 8 rfl rfl)
theorem dX1_laysPlaces_32 : decode cX1_laysPlaces 32 = .ok (.invokestatic 295, 3) := dk_184 1 39 (dk_at dksX1_laysPlaces_1 9 rfl rfl)
theorem dX1_laysPlaces_35 : decode cX1_laysPlaces 35 = .ok (.aload_n 0, 1) := dk_42 (dk_at dksX1_laysPlaces_1 12 rfl rfl)
theorem dX1_laysPlaces_36 : decode cX1_laysPlaces 36 = .ok (.aload_n 0, 1) := dk_42 (dk_at dksX1_laysPlaces_1 13 rfl rfl)
theorem dX1_laysPlaces_37 : decode cX1_laysPlaces 37 = .ok (.getfield 55, 3) := dk_180 0 55 (dk_at dksX1_laysPlaces_1 14 rfl rfl)
theorem dX1_laysPlaces_40 : decode cX1_laysPlaces 40 = .ok (.invokevirtual 267, 3) := dk_182 1 11 (dk_at dksX1_laysPlaces_1 17 rfl rfl)
theorem dX1_laysPlaces_43 : decode cX1_laysPlaces 43 = .ok (.pop, 1) := dk_87 (dk_at dksX1_laysPlaces_1 20 rfl rfl)
theorem dX1_laysPlaces_44 : decode cX1_laysPlaces 44 = .ok (.iinc 1 1, 3) := dk_132 1 1 (dk_at dksX1_laysPlaces_1 21 rfl rfl)
theorem dX1_laysPlaces_47 : decode cX1_laysPlaces 47 = .ok (.goto (-34), 3) := dk_167 255 222 (dk_at dksX1_laysPlaces_2 0 rfl rfl)
theorem dX1_laysPlaces_50 : decode cX1_laysPlaces 50 = .ok (.return_, 1) := dk_177 (dk_at dksX1_laysPlaces_2 3 rfl rfl)
abbrev cX1_look : ByteArray := prog_1_method_52_code
def yX1_look : MethodName := ⟨RX1, "look", "()I"⟩
def dkwX1_look_5 : List UInt8 := [167, 255, 153, 29, 172]
abbrev dktX1_look_5 : List UInt8 := dkwX1_look_5 ++ []
def dkwX1_look_4 : List UInt8 := [132, 6, 1, 167, 255, 187, 21, 5, 28, 161, 0, 6, 167, 0, 9, 21, 5, 61, 21, 4, 62, 132, 4, 1]
abbrev dktX1_look_4 : List UInt8 := dkwX1_look_4 ++ dktX1_look_5
def dkwX1_look_3 : List UInt8 := [46, 21, 6, 160, 0, 6, 132, 7, 1, 132, 8, 1, 167, 255, 217, 21, 5, 21, 7, 184, 0, 7, 54, 5]
abbrev dktX1_look_3 : List UInt8 := dkwX1_look_3 ++ dktX1_look_4
def dkwX1_look_2 : List UInt8 := [182, 0, 149, 162, 0, 36, 27, 21, 8, 184, 0, 187, 153, 0, 21, 42, 180, 0, 83, 21, 4, 50, 21, 8]
abbrev dktX1_look_2 : List UInt8 := dkwX1_look_2 ++ dktX1_look_3
def dkwX1_look_1 : List UInt8 := [54, 5, 2, 54, 6, 21, 6, 42, 182, 0, 142, 162, 0, 66, 3, 54, 7, 3, 54, 8, 21, 8, 42]
abbrev dktX1_look_1 : List UInt8 := dkwX1_look_1 ++ dktX1_look_2
def dkwX1_look_0 : List UInt8 := [42, 182, 1, 56, 60, 27, 184, 0, 226, 61, 2, 62, 3, 54, 4, 21, 4, 16, 24, 163, 0, 102, 3]
abbrev dktX1_look_0 : List UInt8 := dkwX1_look_0 ++ dktX1_look_1
theorem dksX1_look_0 : cX1_look.data.toList.drop 0 = dktX1_look_0 := by decide +kernel
theorem dksX1_look_1 : cX1_look.data.toList.drop 23 = dktX1_look_1 := dk_seg dksX1_look_0 23 rfl rfl
theorem dksX1_look_2 : cX1_look.data.toList.drop 46 = dktX1_look_2 := dk_seg dksX1_look_1 23 rfl rfl
theorem dksX1_look_3 : cX1_look.data.toList.drop 70 = dktX1_look_3 := dk_seg dksX1_look_2 24 rfl rfl
theorem dksX1_look_4 : cX1_look.data.toList.drop 94 = dktX1_look_4 := dk_seg dksX1_look_3 24 rfl rfl
theorem dksX1_look_5 : cX1_look.data.toList.drop 118 = dktX1_look_5 := dk_seg dksX1_look_4 24 rfl rfl
theorem dX1_look_0 : decode cX1_look 0 = .ok (.aload_n 0, 1) := dk_42 (dk_at dksX1_look_0 0 rfl rfl)
theorem dX1_look_1 : decode cX1_look 1 = .ok (.invokevirtual 312, 3) := dk_182 1 56 (dk_at dksX1_look_0 1 rfl rfl)
theorem dX1_look_4 : decode cX1_look 4 = .ok (.istore_n 1, 1) := dk_60 (dk_at dksX1_look_0 4 rfl rfl)
theorem dX1_look_5 : decode cX1_look 5 = .ok (.iload_n 1, 1) := dk_27 (dk_at dksX1_look_0 5 rfl rfl)
theorem dX1_look_6 : decode cX1_look 6 = .ok (.invokestatic 226, 3) := dk_184 0 226 (dk_at dksX1_look_0 6 rfl rfl)
theorem dX1_look_9 : decode cX1_look 9 = .ok (.istore_n 2, 1) := dk_61 (dk_at dksX1_look_0 9 rfl rfl)
theorem dX1_look_10 : decode cX1_look 10 = .ok (.iconst (-1), 1) := dk_2 (dk_at dksX1_look_0 10 rfl rfl)
theorem dX1_look_11 : decode cX1_look 11 = .ok (.istore_n 3, 1) := dk_62 (dk_at dksX1_look_0 11 rfl rfl)
theorem dX1_look_12 : decode cX1_look 12 = .ok (.iconst 0, 1) := dk_3 (dk_at dksX1_look_0 12 rfl rfl)
theorem dX1_look_13 : decode cX1_look 13 = .ok (.istore 4, 2) := dk_54 4 (dk_at dksX1_look_0 13 rfl rfl)
theorem dX1_look_15 : decode cX1_look 15 = .ok (.iload 4, 2) := dk_21 4 (dk_at dksX1_look_0 15 rfl rfl)
theorem dX1_look_17 : decode cX1_look 17 = .ok (.bipush 24, 2) := dk_16 24 (dk_at dksX1_look_0 17 rfl rfl)
theorem dX1_look_19 : decode cX1_look 19 = .ok (.if_icmp .gt 102, 3) := dk_163 0 102 (dk_at dksX1_look_0 19 rfl rfl)
theorem dX1_look_22 : decode cX1_look 22 = .ok (.iconst 0, 1) := dk_3 (dk_at dksX1_look_0 22 rfl rfl)
theorem dX1_look_23 : decode cX1_look 23 = .ok (.istore 5, 2) := dk_54 5 (dk_at dksX1_look_1 0 rfl rfl)
theorem dX1_look_25 : decode cX1_look 25 = .ok (.iconst (-1), 1) := dk_2 (dk_at dksX1_look_1 2 rfl rfl)
theorem dX1_look_26 : decode cX1_look 26 = .ok (.istore 6, 2) := dk_54 6 (dk_at dksX1_look_1 3 rfl rfl)
theorem dX1_look_28 : decode cX1_look 28 = .ok (.iload 6, 2) := dk_21 6 (dk_at dksX1_look_1 5 rfl rfl)
theorem dX1_look_30 : decode cX1_look 30 = .ok (.aload_n 0, 1) := dk_42 (dk_at dksX1_look_1 7 rfl rfl)
theorem dX1_look_31 : decode cX1_look 31 = .ok (.invokevirtual 142, 3) := dk_182 0 142 (dk_at dksX1_look_1 8 rfl rfl)
theorem dX1_look_34 : decode cX1_look 34 = .ok (.if_icmp .ge 66, 3) := dk_162 0 66 (dk_at dksX1_look_1 11 rfl rfl)
theorem dX1_look_37 : decode cX1_look 37 = .ok (.iconst 0, 1) := dk_3 (dk_at dksX1_look_1 14 rfl rfl)
theorem dX1_look_38 : decode cX1_look 38 = .ok (.istore 7, 2) := dk_54 7 (dk_at dksX1_look_1 15 rfl rfl)
theorem dX1_look_40 : decode cX1_look 40 = .ok (.iconst 0, 1) := dk_3 (dk_at dksX1_look_1 17 rfl rfl)
theorem dX1_look_41 : decode cX1_look 41 = .ok (.istore 8, 2) := dk_54 8 (dk_at dksX1_look_1 18 rfl rfl)
theorem dX1_look_43 : decode cX1_look 43 = .ok (.iload 8, 2) := dk_21 8 (dk_at dksX1_look_1 20 rfl rfl)
theorem dX1_look_45 : decode cX1_look 45 = .ok (.aload_n 0, 1) := dk_42 (dk_at dksX1_look_1 22 rfl rfl)
theorem dX1_look_46 : decode cX1_look 46 = .ok (.invokevirtual 149, 3) := dk_182 0 149 (dk_at dksX1_look_2 0 rfl rfl)
theorem dX1_look_49 : decode cX1_look 49 = .ok (.if_icmp .ge 36, 3) := dk_162 0 36 (dk_at dksX1_look_2 3 rfl rfl)
theorem dX1_look_52 : decode cX1_look 52 = .ok (.iload_n 1, 1) := dk_27 (dk_at dksX1_look_2 6 rfl rfl)
theorem dX1_look_53 : decode cX1_look 53 = .ok (.iload 8, 2) := dk_21 8 (dk_at dksX1_look_2 7 rfl rfl)
theorem dX1_look_55 : decode cX1_look 55 = .ok (.invokestatic 187, 3) := dk_184 0 187 (dk_at dksX1_look_2 9 rfl rfl)
theorem dX1_look_58 : decode cX1_look 58 = .ok (.ifCond .eq 21, 3) := dk_153 0 21 (dk_at dksX1_look_2 12 rfl rfl)
theorem dX1_look_61 : decode cX1_look 61 = .ok (.aload_n 0, 1) := dk_42 (dk_at dksX1_look_2 15 rfl rfl)
theorem dX1_look_62 : decode cX1_look 62 = .ok (.getfield 83, 3) := dk_180 0 83 (dk_at dksX1_look_2 16 rfl rfl)
theorem dX1_look_65 : decode cX1_look 65 = .ok (.iload 4, 2) := dk_21 4 (dk_at dksX1_look_2 19 rfl rfl)
theorem dX1_look_67 : decode cX1_look 67 = .ok (.aaload, 1) := dk_50 (dk_at dksX1_look_2 21 rfl rfl)
theorem dX1_look_68 : decode cX1_look 68 = .ok (.iload 8, 2) := dk_21 8 (dk_at dksX1_look_2 22 rfl rfl)
theorem dX1_look_70 : decode cX1_look 70 = .ok (.iaload, 1) := dk_46 (dk_at dksX1_look_3 0 rfl rfl)
theorem dX1_look_71 : decode cX1_look 71 = .ok (.iload 6, 2) := dk_21 6 (dk_at dksX1_look_3 1 rfl rfl)
theorem dX1_look_73 : decode cX1_look 73 = .ok (.if_icmp .ne 6, 3) := dk_160 0 6 (dk_at dksX1_look_3 3 rfl rfl)
theorem dX1_look_76 : decode cX1_look 76 = .ok (.iinc 7 1, 3) := dk_132 7 1 (dk_at dksX1_look_3 6 rfl rfl)
theorem dX1_look_79 : decode cX1_look 79 = .ok (.iinc 8 1, 3) := dk_132 8 1 (dk_at dksX1_look_3 9 rfl rfl)
theorem dX1_look_82 : decode cX1_look 82 = .ok (.goto (-39), 3) := dk_167 255 217 (dk_at dksX1_look_3 12 rfl rfl)
theorem dX1_look_85 : decode cX1_look 85 = .ok (.iload 5, 2) := dk_21 5 (dk_at dksX1_look_3 15 rfl rfl)
theorem dX1_look_87 : decode cX1_look 87 = .ok (.iload 7, 2) := dk_21 7 (dk_at dksX1_look_3 17 rfl rfl)
theorem dX1_look_89 : decode cX1_look 89 = .ok (.invokestatic 7, 3) := dk_184 0 7 (dk_at dksX1_look_3 19 rfl rfl)
theorem dX1_look_92 : decode cX1_look 92 = .ok (.istore 5, 2) := dk_54 5 (dk_at dksX1_look_3 22 rfl rfl)
theorem dX1_look_94 : decode cX1_look 94 = .ok (.iinc 6 1, 3) := dk_132 6 1 (dk_at dksX1_look_4 0 rfl rfl)
theorem dX1_look_97 : decode cX1_look 97 = .ok (.goto (-69), 3) := dk_167 255 187 (dk_at dksX1_look_4 3 rfl rfl)
theorem dX1_look_100 : decode cX1_look 100 = .ok (.iload 5, 2) := dk_21 5 (dk_at dksX1_look_4 6 rfl rfl)
theorem dX1_look_102 : decode cX1_look 102 = .ok (.iload_n 2, 1) := dk_28 (dk_at dksX1_look_4 8 rfl rfl)
theorem dX1_look_103 : decode cX1_look 103 = .ok (.if_icmp .lt 6, 3) := dk_161 0 6 (dk_at dksX1_look_4 9 rfl rfl)
theorem dX1_look_106 : decode cX1_look 106 = .ok (.goto 9, 3) := dk_167 0 9 (dk_at dksX1_look_4 12 rfl rfl)
theorem dX1_look_109 : decode cX1_look 109 = .ok (.iload 5, 2) := dk_21 5 (dk_at dksX1_look_4 15 rfl rfl)
theorem dX1_look_111 : decode cX1_look 111 = .ok (.istore_n 2, 1) := dk_61 (dk_at dksX1_look_4 17 rfl rfl)
theorem dX1_look_112 : decode cX1_look 112 = .ok (.iload 4, 2) := dk_21 4 (dk_at dksX1_look_4 18 rfl rfl)
theorem dX1_look_114 : decode cX1_look 114 = .ok (.istore_n 3, 1) := dk_62 (dk_at dksX1_look_4 20 rfl rfl)
theorem dX1_look_115 : decode cX1_look 115 = .ok (.iinc 4 1, 3) := dk_132 4 1 (dk_at dksX1_look_4 21 rfl rfl)
theorem dX1_look_118 : decode cX1_look 118 = .ok (.goto (-103), 3) := dk_167 255 153 (dk_at dksX1_look_5 0 rfl rfl)
theorem dX1_look_121 : decode cX1_look 121 = .ok (.iload_n 3, 1) := dk_29 (dk_at dksX1_look_5 3 rfl rfl)
theorem dX1_look_122 : decode cX1_look 122 = .ok (.ireturn, 1) := dk_172 (dk_at dksX1_look_5 4 rfl rfl)
abbrev cX1_through : ByteArray := prog_1_method_53_code
def yX1_through : MethodName := ⟨RX1, "through", "(II)I"⟩
def dkwX1_through_4 : List UInt8 := [167, 255, 189, 2, 172]
abbrev dktX1_through_4 : List UInt8 := dkwX1_through_4 ++ []
def dkwX1_through_3 : List UInt8 := [21, 6, 182, 0, 180, 180, 0, 184, 128, 54, 5, 132, 6, 1, 167, 255, 221, 21, 5, 62, 132, 4, 1]
abbrev dktX1_through_3 : List UInt8 := dkwX1_through_3 ++ dktX1_through_4
def dkwX1_through_2 : List UInt8 := [54, 6, 21, 6, 42, 182, 0, 142, 162, 0, 32, 29, 21, 6, 184, 0, 187, 153, 0, 17, 21, 5, 42]
abbrev dktX1_through_2 : List UInt8 := dkwX1_through_2 ++ dktX1_through_3
def dkwX1_through_1 : List UInt8 := [54, 4, 21, 4, 7, 162, 0, 67, 29, 28, 184, 0, 187, 153, 0, 6, 21, 4, 172, 29, 54, 5, 3]
abbrev dktX1_through_1 : List UInt8 := dkwX1_through_1 ++ dktX1_through_2
def dkwX1_through_0 : List UInt8 := [42, 27, 182, 0, 245, 153, 0, 11, 42, 28, 182, 0, 245, 154, 0, 5, 2, 172, 4, 27, 120, 62, 3]
abbrev dktX1_through_0 : List UInt8 := dkwX1_through_0 ++ dktX1_through_1
theorem dksX1_through_0 : cX1_through.data.toList.drop 0 = dktX1_through_0 := by decide +kernel
theorem dksX1_through_1 : cX1_through.data.toList.drop 23 = dktX1_through_1 := dk_seg dksX1_through_0 23 rfl rfl
theorem dksX1_through_2 : cX1_through.data.toList.drop 46 = dktX1_through_2 := dk_seg dksX1_through_1 23 rfl rfl
theorem dksX1_through_3 : cX1_through.data.toList.drop 69 = dktX1_through_3 := dk_seg dksX1_through_2 23 rfl rfl
theorem dksX1_through_4 : cX1_through.data.toList.drop 92 = dktX1_through_4 := dk_seg dksX1_through_3 23 rfl rfl
theorem dX1_through_0 : decode cX1_through 0 = .ok (.aload_n 0, 1) := dk_42 (dk_at dksX1_through_0 0 rfl rfl)
theorem dX1_through_1 : decode cX1_through 1 = .ok (.iload_n 1, 1) := dk_27 (dk_at dksX1_through_0 1 rfl rfl)
theorem dX1_through_2 : decode cX1_through 2 = .ok (.invokevirtual 245, 3) := dk_182 0 245 (dk_at dksX1_through_0 2 rfl rfl)
theorem dX1_through_5 : decode cX1_through 5 = .ok (.ifCond .eq 11, 3) := dk_153 0 11 (dk_at dksX1_through_0 5 rfl rfl)
theorem dX1_through_8 : decode cX1_through 8 = .ok (.aload_n 0, 1) := dk_42 (dk_at dksX1_through_0 8 rfl rfl)
theorem dX1_through_9 : decode cX1_through 9 = .ok (.iload_n 2, 1) := dk_28 (dk_at dksX1_through_0 9 rfl rfl)
theorem dX1_through_10 : decode cX1_through 10 = .ok (.invokevirtual 245, 3) := dk_182 0 245 (dk_at dksX1_through_0 10 rfl rfl)
theorem dX1_through_13 : decode cX1_through 13 = .ok (.ifCond .ne 5, 3) := dk_154 0 5 (dk_at dksX1_through_0 13 rfl rfl)
theorem dX1_through_16 : decode cX1_through 16 = .ok (.iconst (-1), 1) := dk_2 (dk_at dksX1_through_0 16 rfl rfl)
theorem dX1_through_17 : decode cX1_through 17 = .ok (.ireturn, 1) := dk_172 (dk_at dksX1_through_0 17 rfl rfl)
theorem dX1_through_18 : decode cX1_through 18 = .ok (.iconst 1, 1) := dk_4 (dk_at dksX1_through_0 18 rfl rfl)
theorem dX1_through_19 : decode cX1_through 19 = .ok (.iload_n 1, 1) := dk_27 (dk_at dksX1_through_0 19 rfl rfl)
theorem dX1_through_20 : decode cX1_through 20 = .ok (.ishl, 1) := dk_120 (dk_at dksX1_through_0 20 rfl rfl)
theorem dX1_through_21 : decode cX1_through 21 = .ok (.istore_n 3, 1) := dk_62 (dk_at dksX1_through_0 21 rfl rfl)
theorem dX1_through_22 : decode cX1_through 22 = .ok (.iconst 0, 1) := dk_3 (dk_at dksX1_through_0 22 rfl rfl)
theorem dX1_through_23 : decode cX1_through 23 = .ok (.istore 4, 2) := dk_54 4 (dk_at dksX1_through_1 0 rfl rfl)
theorem dX1_through_25 : decode cX1_through 25 = .ok (.iload 4, 2) := dk_21 4 (dk_at dksX1_through_1 2 rfl rfl)
theorem dX1_through_27 : decode cX1_through 27 = .ok (.iconst 4, 1) := dk_7 (dk_at dksX1_through_1 4 rfl rfl)
theorem dX1_through_28 : decode cX1_through 28 = .ok (.if_icmp .ge 67, 3) := dk_162 0 67 (dk_at dksX1_through_1 5 rfl rfl)
theorem dX1_through_31 : decode cX1_through 31 = .ok (.iload_n 3, 1) := dk_29 (dk_at dksX1_through_1 8 rfl rfl)
theorem dX1_through_32 : decode cX1_through 32 = .ok (.iload_n 2, 1) := dk_28 (dk_at dksX1_through_1 9 rfl rfl)
theorem dX1_through_33 : decode cX1_through 33 = .ok (.invokestatic 187, 3) := dk_184 0 187 (dk_at dksX1_through_1 10 rfl rfl)
theorem dX1_through_36 : decode cX1_through 36 = .ok (.ifCond .eq 6, 3) := dk_153 0 6 (dk_at dksX1_through_1 13 rfl rfl)
theorem dX1_through_39 : decode cX1_through 39 = .ok (.iload 4, 2) := dk_21 4 (dk_at dksX1_through_1 16 rfl rfl)
theorem dX1_through_41 : decode cX1_through 41 = .ok (.ireturn, 1) := dk_172 (dk_at dksX1_through_1 18 rfl rfl)
theorem dX1_through_42 : decode cX1_through 42 = .ok (.iload_n 3, 1) := dk_29 (dk_at dksX1_through_1 19 rfl rfl)
theorem dX1_through_43 : decode cX1_through 43 = .ok (.istore 5, 2) := dk_54 5 (dk_at dksX1_through_1 20 rfl rfl)
theorem dX1_through_45 : decode cX1_through 45 = .ok (.iconst 0, 1) := dk_3 (dk_at dksX1_through_1 22 rfl rfl)
theorem dX1_through_46 : decode cX1_through 46 = .ok (.istore 6, 2) := dk_54 6 (dk_at dksX1_through_2 0 rfl rfl)
theorem dX1_through_48 : decode cX1_through 48 = .ok (.iload 6, 2) := dk_21 6 (dk_at dksX1_through_2 2 rfl rfl)
theorem dX1_through_50 : decode cX1_through 50 = .ok (.aload_n 0, 1) := dk_42 (dk_at dksX1_through_2 4 rfl rfl)
theorem dX1_through_51 : decode cX1_through 51 = .ok (.invokevirtual 142, 3) := dk_182 0 142 (dk_at dksX1_through_2 5 rfl rfl)
theorem dX1_through_54 : decode cX1_through 54 = .ok (.if_icmp .ge 32, 3) := dk_162 0 32 (dk_at dksX1_through_2 8 rfl rfl)
theorem dX1_through_57 : decode cX1_through 57 = .ok (.iload_n 3, 1) := dk_29 (dk_at dksX1_through_2 11 rfl rfl)
theorem dX1_through_58 : decode cX1_through 58 = .ok (.iload 6, 2) := dk_21 6 (dk_at dksX1_through_2 12 rfl rfl)
theorem dX1_through_60 : decode cX1_through 60 = .ok (.invokestatic 187, 3) := dk_184 0 187 (dk_at dksX1_through_2 14 rfl rfl)
theorem dX1_through_63 : decode cX1_through 63 = .ok (.ifCond .eq 17, 3) := dk_153 0 17 (dk_at dksX1_through_2 17 rfl rfl)
theorem dX1_through_66 : decode cX1_through 66 = .ok (.iload 5, 2) := dk_21 5 (dk_at dksX1_through_2 20 rfl rfl)
theorem dX1_through_68 : decode cX1_through 68 = .ok (.aload_n 0, 1) := dk_42 (dk_at dksX1_through_2 22 rfl rfl)
theorem dX1_through_69 : decode cX1_through 69 = .ok (.iload 6, 2) := dk_21 6 (dk_at dksX1_through_3 0 rfl rfl)
theorem dX1_through_71 : decode cX1_through 71 = .ok (.invokevirtual 180, 3) := dk_182 0 180 (dk_at dksX1_through_3 2 rfl rfl)
theorem dX1_through_74 : decode cX1_through 74 = .ok (.getfield 184, 3) := dk_180 0 184 (dk_at dksX1_through_3 5 rfl rfl)
theorem dX1_through_77 : decode cX1_through 77 = .ok (.ior, 1) := dk_128 (dk_at dksX1_through_3 8 rfl rfl)
theorem dX1_through_78 : decode cX1_through 78 = .ok (.istore 5, 2) := dk_54 5 (dk_at dksX1_through_3 9 rfl rfl)
theorem dX1_through_80 : decode cX1_through 80 = .ok (.iinc 6 1, 3) := dk_132 6 1 (dk_at dksX1_through_3 11 rfl rfl)
theorem dX1_through_83 : decode cX1_through 83 = .ok (.goto (-35), 3) := dk_167 255 221 (dk_at dksX1_through_3 14 rfl rfl)
theorem dX1_through_86 : decode cX1_through 86 = .ok (.iload 5, 2) := dk_21 5 (dk_at dksX1_through_3 17 rfl rfl)
theorem dX1_through_88 : decode cX1_through 88 = .ok (.istore_n 3, 1) := dk_62 (dk_at dksX1_through_3 19 rfl rfl)
theorem dX1_through_89 : decode cX1_through 89 = .ok (.iinc 4 1, 3) := dk_132 4 1 (dk_at dksX1_through_3 20 rfl rfl)
theorem dX1_through_92 : decode cX1_through 92 = .ok (.goto (-67), 3) := dk_167 255 189 (dk_at dksX1_through_4 0 rfl rfl)
theorem dX1_through_95 : decode cX1_through 95 = .ok (.iconst (-1), 1) := dk_2 (dk_at dksX1_through_4 3 rfl rfl)
theorem dX1_through_96 : decode cX1_through 96 = .ok (.ireturn, 1) := dk_172 (dk_at dksX1_through_4 4 rfl rfl)
abbrev cX1_quiet : ByteArray := prog_1_method_54_code
def yX1_quiet : MethodName := ⟨RX1, "quiet", "()I"⟩
def dkwX1_quiet_1 : List UInt8 := [46, 42, 180, 0, 51, 180, 0, 208, 27, 46, 162, 0, 5, 28, 60, 132, 2, 1, 167, 255, 218, 27, 172]
abbrev dktX1_quiet_1 : List UInt8 := dkwX1_quiet_1 ++ []
def dkwX1_quiet_0 : List UInt8 := [2, 60, 3, 61, 28, 42, 182, 0, 149, 162, 0, 36, 27, 155, 0, 24, 42, 180, 0, 51, 180, 0, 208, 28]
abbrev dktX1_quiet_0 : List UInt8 := dkwX1_quiet_0 ++ dktX1_quiet_1
theorem dksX1_quiet_0 : cX1_quiet.data.toList.drop 0 = dktX1_quiet_0 := by decide +kernel
theorem dksX1_quiet_1 : cX1_quiet.data.toList.drop 24 = dktX1_quiet_1 := dk_seg dksX1_quiet_0 24 rfl rfl
theorem dX1_quiet_0 : decode cX1_quiet 0 = .ok (.iconst (-1), 1) := dk_2 (dk_at dksX1_quiet_0 0 rfl rfl)
theorem dX1_quiet_1 : decode cX1_quiet 1 = .ok (.istore_n 1, 1) := dk_60 (dk_at dksX1_quiet_0 1 rfl rfl)
theorem dX1_quiet_2 : decode cX1_quiet 2 = .ok (.iconst 0, 1) := dk_3 (dk_at dksX1_quiet_0 2 rfl rfl)
theorem dX1_quiet_3 : decode cX1_quiet 3 = .ok (.istore_n 2, 1) := dk_61 (dk_at dksX1_quiet_0 3 rfl rfl)
theorem dX1_quiet_4 : decode cX1_quiet 4 = .ok (.iload_n 2, 1) := dk_28 (dk_at dksX1_quiet_0 4 rfl rfl)
theorem dX1_quiet_5 : decode cX1_quiet 5 = .ok (.aload_n 0, 1) := dk_42 (dk_at dksX1_quiet_0 5 rfl rfl)
theorem dX1_quiet_6 : decode cX1_quiet 6 = .ok (.invokevirtual 149, 3) := dk_182 0 149 (dk_at dksX1_quiet_0 6 rfl rfl)
theorem dX1_quiet_9 : decode cX1_quiet 9 = .ok (.if_icmp .ge 36, 3) := dk_162 0 36 (dk_at dksX1_quiet_0 9 rfl rfl)
theorem dX1_quiet_12 : decode cX1_quiet 12 = .ok (.iload_n 1, 1) := dk_27 (dk_at dksX1_quiet_0 12 rfl rfl)
theorem dX1_quiet_13 : decode cX1_quiet 13 = .ok (.ifCond .lt 24, 3) := dk_155 0 24 (dk_at dksX1_quiet_0 13 rfl rfl)
theorem dX1_quiet_16 : decode cX1_quiet 16 = .ok (.aload_n 0, 1) := dk_42 (dk_at dksX1_quiet_0 16 rfl rfl)
theorem dX1_quiet_17 : decode cX1_quiet 17 = .ok (.getfield 51, 3) := dk_180 0 51 (dk_at dksX1_quiet_0 17 rfl rfl)
theorem dX1_quiet_20 : decode cX1_quiet 20 = .ok (.getfield 208, 3) := dk_180 0 208 (dk_at dksX1_quiet_0 20 rfl rfl)
theorem dX1_quiet_23 : decode cX1_quiet 23 = .ok (.iload_n 2, 1) := dk_28 (dk_at dksX1_quiet_0 23 rfl rfl)
theorem dX1_quiet_24 : decode cX1_quiet 24 = .ok (.iaload, 1) := dk_46 (dk_at dksX1_quiet_1 0 rfl rfl)
theorem dX1_quiet_25 : decode cX1_quiet 25 = .ok (.aload_n 0, 1) := dk_42 (dk_at dksX1_quiet_1 1 rfl rfl)
theorem dX1_quiet_26 : decode cX1_quiet 26 = .ok (.getfield 51, 3) := dk_180 0 51 (dk_at dksX1_quiet_1 2 rfl rfl)
theorem dX1_quiet_29 : decode cX1_quiet 29 = .ok (.getfield 208, 3) := dk_180 0 208 (dk_at dksX1_quiet_1 5 rfl rfl)
theorem dX1_quiet_32 : decode cX1_quiet 32 = .ok (.iload_n 1, 1) := dk_27 (dk_at dksX1_quiet_1 8 rfl rfl)
theorem dX1_quiet_33 : decode cX1_quiet 33 = .ok (.iaload, 1) := dk_46 (dk_at dksX1_quiet_1 9 rfl rfl)
theorem dX1_quiet_34 : decode cX1_quiet 34 = .ok (.if_icmp .ge 5, 3) := dk_162 0 5 (dk_at dksX1_quiet_1 10 rfl rfl)
theorem dX1_quiet_37 : decode cX1_quiet 37 = .ok (.iload_n 2, 1) := dk_28 (dk_at dksX1_quiet_1 13 rfl rfl)
theorem dX1_quiet_38 : decode cX1_quiet 38 = .ok (.istore_n 1, 1) := dk_60 (dk_at dksX1_quiet_1 14 rfl rfl)
theorem dX1_quiet_39 : decode cX1_quiet 39 = .ok (.iinc 2 1, 3) := dk_132 2 1 (dk_at dksX1_quiet_1 15 rfl rfl)
theorem dX1_quiet_42 : decode cX1_quiet 42 = .ok (.goto (-38), 3) := dk_167 255 218 (dk_at dksX1_quiet_1 18 rfl rfl)
theorem dX1_quiet_45 : decode cX1_quiet 45 = .ok (.iload_n 1, 1) := dk_27 (dk_at dksX1_quiet_1 21 rfl rfl)
theorem dX1_quiet_46 : decode cX1_quiet 46 = .ok (.ireturn, 1) := dk_172 (dk_at dksX1_quiet_1 22 rfl rfl)
abbrev cX1_peace : ByteArray := prog_1_method_55_code
def yX1_peace : MethodName := ⟨RX1, "peace", "()I"⟩
def dkwX1_peace_2 : List UInt8 := [29, 46, 160, 0, 6, 132, 1, 1, 132, 3, 1, 167, 255, 212, 132, 2, 1, 167, 255, 196, 27, 172]
abbrev dktX1_peace_2 : List UInt8 := dkwX1_peace_2 ++ []
def dkwX1_peace_1 : List UInt8 := [180, 0, 154, 28, 46, 155, 0, 27, 42, 180, 0, 51, 180, 0, 154, 28, 46, 42, 180, 0, 51, 180, 0, 154]
abbrev dktX1_peace_1 : List UInt8 := dkwX1_peace_1 ++ dktX1_peace_2
def dkwX1_peace_0 : List UInt8 := [3, 60, 3, 61, 28, 42, 182, 0, 149, 162, 0, 58, 3, 62, 29, 28, 162, 0, 45, 42, 180, 0, 51]
abbrev dktX1_peace_0 : List UInt8 := dkwX1_peace_0 ++ dktX1_peace_1
theorem dksX1_peace_0 : cX1_peace.data.toList.drop 0 = dktX1_peace_0 := by decide +kernel
theorem dksX1_peace_1 : cX1_peace.data.toList.drop 23 = dktX1_peace_1 := dk_seg dksX1_peace_0 23 rfl rfl
theorem dksX1_peace_2 : cX1_peace.data.toList.drop 47 = dktX1_peace_2 := dk_seg dksX1_peace_1 24 rfl rfl
theorem dX1_peace_0 : decode cX1_peace 0 = .ok (.iconst 0, 1) := dk_3 (dk_at dksX1_peace_0 0 rfl rfl)
theorem dX1_peace_1 : decode cX1_peace 1 = .ok (.istore_n 1, 1) := dk_60 (dk_at dksX1_peace_0 1 rfl rfl)
theorem dX1_peace_2 : decode cX1_peace 2 = .ok (.iconst 0, 1) := dk_3 (dk_at dksX1_peace_0 2 rfl rfl)
theorem dX1_peace_3 : decode cX1_peace 3 = .ok (.istore_n 2, 1) := dk_61 (dk_at dksX1_peace_0 3 rfl rfl)
theorem dX1_peace_4 : decode cX1_peace 4 = .ok (.iload_n 2, 1) := dk_28 (dk_at dksX1_peace_0 4 rfl rfl)
theorem dX1_peace_5 : decode cX1_peace 5 = .ok (.aload_n 0, 1) := dk_42 (dk_at dksX1_peace_0 5 rfl rfl)
theorem dX1_peace_6 : decode cX1_peace 6 = .ok (.invokevirtual 149, 3) := dk_182 0 149 (dk_at dksX1_peace_0 6 rfl rfl)
theorem dX1_peace_9 : decode cX1_peace 9 = .ok (.if_icmp .ge 58, 3) := dk_162 0 58 (dk_at dksX1_peace_0 9 rfl rfl)
theorem dX1_peace_12 : decode cX1_peace 12 = .ok (.iconst 0, 1) := dk_3 (dk_at dksX1_peace_0 12 rfl rfl)
theorem dX1_peace_13 : decode cX1_peace 13 = .ok (.istore_n 3, 1) := dk_62 (dk_at dksX1_peace_0 13 rfl rfl)
theorem dX1_peace_14 : decode cX1_peace 14 = .ok (.iload_n 3, 1) := dk_29 (dk_at dksX1_peace_0 14 rfl rfl)
theorem dX1_peace_15 : decode cX1_peace 15 = .ok (.iload_n 2, 1) := dk_28 (dk_at dksX1_peace_0 15 rfl rfl)
theorem dX1_peace_16 : decode cX1_peace 16 = .ok (.if_icmp .ge 45, 3) := dk_162 0 45 (dk_at dksX1_peace_0 16 rfl rfl)
theorem dX1_peace_19 : decode cX1_peace 19 = .ok (.aload_n 0, 1) := dk_42 (dk_at dksX1_peace_0 19 rfl rfl)
theorem dX1_peace_20 : decode cX1_peace 20 = .ok (.getfield 51, 3) := dk_180 0 51 (dk_at dksX1_peace_0 20 rfl rfl)
theorem dX1_peace_23 : decode cX1_peace 23 = .ok (.getfield 154, 3) := dk_180 0 154 (dk_at dksX1_peace_1 0 rfl rfl)
theorem dX1_peace_26 : decode cX1_peace 26 = .ok (.iload_n 2, 1) := dk_28 (dk_at dksX1_peace_1 3 rfl rfl)
theorem dX1_peace_27 : decode cX1_peace 27 = .ok (.iaload, 1) := dk_46 (dk_at dksX1_peace_1 4 rfl rfl)
theorem dX1_peace_28 : decode cX1_peace 28 = .ok (.ifCond .lt 27, 3) := dk_155 0 27 (dk_at dksX1_peace_1 5 rfl rfl)
theorem dX1_peace_31 : decode cX1_peace 31 = .ok (.aload_n 0, 1) := dk_42 (dk_at dksX1_peace_1 8 rfl rfl)
theorem dX1_peace_32 : decode cX1_peace 32 = .ok (.getfield 51, 3) := dk_180 0 51 (dk_at dksX1_peace_1 9 rfl rfl)
theorem dX1_peace_35 : decode cX1_peace 35 = .ok (.getfield 154, 3) := dk_180 0 154 (dk_at dksX1_peace_1 12 rfl rfl)
theorem dX1_peace_38 : decode cX1_peace 38 = .ok (.iload_n 2, 1) := dk_28 (dk_at dksX1_peace_1 15 rfl rfl)
theorem dX1_peace_39 : decode cX1_peace 39 = .ok (.iaload, 1) := dk_46 (dk_at dksX1_peace_1 16 rfl rfl)
theorem dX1_peace_40 : decode cX1_peace 40 = .ok (.aload_n 0, 1) := dk_42 (dk_at dksX1_peace_1 17 rfl rfl)
theorem dX1_peace_41 : decode cX1_peace 41 = .ok (.getfield 51, 3) := dk_180 0 51 (dk_at dksX1_peace_1 18 rfl rfl)
theorem dX1_peace_44 : decode cX1_peace 44 = .ok (.getfield 154, 3) := dk_180 0 154 (dk_at dksX1_peace_1 21 rfl rfl)
theorem dX1_peace_47 : decode cX1_peace 47 = .ok (.iload_n 3, 1) := dk_29 (dk_at dksX1_peace_2 0 rfl rfl)
theorem dX1_peace_48 : decode cX1_peace 48 = .ok (.iaload, 1) := dk_46 (dk_at dksX1_peace_2 1 rfl rfl)
theorem dX1_peace_49 : decode cX1_peace 49 = .ok (.if_icmp .ne 6, 3) := dk_160 0 6 (dk_at dksX1_peace_2 2 rfl rfl)
theorem dX1_peace_52 : decode cX1_peace 52 = .ok (.iinc 1 1, 3) := dk_132 1 1 (dk_at dksX1_peace_2 5 rfl rfl)
theorem dX1_peace_55 : decode cX1_peace 55 = .ok (.iinc 3 1, 3) := dk_132 3 1 (dk_at dksX1_peace_2 8 rfl rfl)
theorem dX1_peace_58 : decode cX1_peace 58 = .ok (.goto (-44), 3) := dk_167 255 212 (dk_at dksX1_peace_2 11 rfl rfl)
theorem dX1_peace_61 : decode cX1_peace 61 = .ok (.iinc 2 1, 3) := dk_132 2 1 (dk_at dksX1_peace_2 14 rfl rfl)
theorem dX1_peace_64 : decode cX1_peace 64 = .ok (.goto (-60), 3) := dk_167 255 196 (dk_at dksX1_peace_2 17 rfl rfl)
theorem dX1_peace_67 : decode cX1_peace 67 = .ok (.iload_n 1, 1) := dk_27 (dk_at dksX1_peace_2 20 rfl rfl)
theorem dX1_peace_68 : decode cX1_peace 68 = .ok (.ireturn, 1) := dk_172 (dk_at dksX1_peace_2 21 rfl rfl)
abbrev cX1_eldest : ByteArray := prog_1_method_56_code
def yX1_eldest : MethodName := ⟨RX1, "eldest", "(I)I"⟩
def dkwX1_eldest_3 : List UInt8 := [28, 172]
abbrev dktX1_eldest_3 : List UInt8 := dkwX1_eldest_3 ++ []
def dkwX1_eldest_2 : List UInt8 := [46, 42, 180, 0, 51, 180, 0, 199, 28, 46, 163, 0, 6, 167, 0, 5, 29, 61, 132, 3, 1, 167, 255, 202]
abbrev dktX1_eldest_2 : List UInt8 := dkwX1_eldest_2 ++ dktX1_eldest_3
def dkwX1_eldest_1 : List UInt8 := [180, 0, 51, 180, 0, 154, 29, 46, 27, 160, 0, 33, 28, 155, 0, 27, 42, 180, 0, 51, 180, 0, 199, 29]
abbrev dktX1_eldest_1 : List UInt8 := dkwX1_eldest_1 ++ dktX1_eldest_2
def dkwX1_eldest_0 : List UInt8 := [42, 27, 182, 0, 245, 154, 0, 5, 2, 172, 2, 61, 3, 62, 29, 42, 182, 0, 149, 162, 0, 52, 42]
abbrev dktX1_eldest_0 : List UInt8 := dkwX1_eldest_0 ++ dktX1_eldest_1
theorem dksX1_eldest_0 : cX1_eldest.data.toList.drop 0 = dktX1_eldest_0 := by decide +kernel
theorem dksX1_eldest_1 : cX1_eldest.data.toList.drop 23 = dktX1_eldest_1 := dk_seg dksX1_eldest_0 23 rfl rfl
theorem dksX1_eldest_2 : cX1_eldest.data.toList.drop 47 = dktX1_eldest_2 := dk_seg dksX1_eldest_1 24 rfl rfl
theorem dksX1_eldest_3 : cX1_eldest.data.toList.drop 71 = dktX1_eldest_3 := dk_seg dksX1_eldest_2 24 rfl rfl
theorem dX1_eldest_0 : decode cX1_eldest 0 = .ok (.aload_n 0, 1) := dk_42 (dk_at dksX1_eldest_0 0 rfl rfl)
theorem dX1_eldest_1 : decode cX1_eldest 1 = .ok (.iload_n 1, 1) := dk_27 (dk_at dksX1_eldest_0 1 rfl rfl)
theorem dX1_eldest_2 : decode cX1_eldest 2 = .ok (.invokevirtual 245, 3) := dk_182 0 245 (dk_at dksX1_eldest_0 2 rfl rfl)
theorem dX1_eldest_5 : decode cX1_eldest 5 = .ok (.ifCond .ne 5, 3) := dk_154 0 5 (dk_at dksX1_eldest_0 5 rfl rfl)
theorem dX1_eldest_8 : decode cX1_eldest 8 = .ok (.iconst (-1), 1) := dk_2 (dk_at dksX1_eldest_0 8 rfl rfl)
theorem dX1_eldest_9 : decode cX1_eldest 9 = .ok (.ireturn, 1) := dk_172 (dk_at dksX1_eldest_0 9 rfl rfl)
theorem dX1_eldest_10 : decode cX1_eldest 10 = .ok (.iconst (-1), 1) := dk_2 (dk_at dksX1_eldest_0 10 rfl rfl)
theorem dX1_eldest_11 : decode cX1_eldest 11 = .ok (.istore_n 2, 1) := dk_61 (dk_at dksX1_eldest_0 11 rfl rfl)
theorem dX1_eldest_12 : decode cX1_eldest 12 = .ok (.iconst 0, 1) := dk_3 (dk_at dksX1_eldest_0 12 rfl rfl)
theorem dX1_eldest_13 : decode cX1_eldest 13 = .ok (.istore_n 3, 1) := dk_62 (dk_at dksX1_eldest_0 13 rfl rfl)
theorem dX1_eldest_14 : decode cX1_eldest 14 = .ok (.iload_n 3, 1) := dk_29 (dk_at dksX1_eldest_0 14 rfl rfl)
theorem dX1_eldest_15 : decode cX1_eldest 15 = .ok (.aload_n 0, 1) := dk_42 (dk_at dksX1_eldest_0 15 rfl rfl)
theorem dX1_eldest_16 : decode cX1_eldest 16 = .ok (.invokevirtual 149, 3) := dk_182 0 149 (dk_at dksX1_eldest_0 16 rfl rfl)
theorem dX1_eldest_19 : decode cX1_eldest 19 = .ok (.if_icmp .ge 52, 3) := dk_162 0 52 (dk_at dksX1_eldest_0 19 rfl rfl)
theorem dX1_eldest_22 : decode cX1_eldest 22 = .ok (.aload_n 0, 1) := dk_42 (dk_at dksX1_eldest_0 22 rfl rfl)
theorem dX1_eldest_23 : decode cX1_eldest 23 = .ok (.getfield 51, 3) := dk_180 0 51 (dk_at dksX1_eldest_1 0 rfl rfl)
theorem dX1_eldest_26 : decode cX1_eldest 26 = .ok (.getfield 154, 3) := dk_180 0 154 (dk_at dksX1_eldest_1 3 rfl rfl)
theorem dX1_eldest_29 : decode cX1_eldest 29 = .ok (.iload_n 3, 1) := dk_29 (dk_at dksX1_eldest_1 6 rfl rfl)
theorem dX1_eldest_30 : decode cX1_eldest 30 = .ok (.iaload, 1) := dk_46 (dk_at dksX1_eldest_1 7 rfl rfl)
theorem dX1_eldest_31 : decode cX1_eldest 31 = .ok (.iload_n 1, 1) := dk_27 (dk_at dksX1_eldest_1 8 rfl rfl)
theorem dX1_eldest_32 : decode cX1_eldest 32 = .ok (.if_icmp .ne 33, 3) := dk_160 0 33 (dk_at dksX1_eldest_1 9 rfl rfl)
theorem dX1_eldest_35 : decode cX1_eldest 35 = .ok (.iload_n 2, 1) := dk_28 (dk_at dksX1_eldest_1 12 rfl rfl)
theorem dX1_eldest_36 : decode cX1_eldest 36 = .ok (.ifCond .lt 27, 3) := dk_155 0 27 (dk_at dksX1_eldest_1 13 rfl rfl)
theorem dX1_eldest_39 : decode cX1_eldest 39 = .ok (.aload_n 0, 1) := dk_42 (dk_at dksX1_eldest_1 16 rfl rfl)
theorem dX1_eldest_40 : decode cX1_eldest 40 = .ok (.getfield 51, 3) := dk_180 0 51 (dk_at dksX1_eldest_1 17 rfl rfl)
theorem dX1_eldest_43 : decode cX1_eldest 43 = .ok (.getfield 199, 3) := dk_180 0 199 (dk_at dksX1_eldest_1 20 rfl rfl)
theorem dX1_eldest_46 : decode cX1_eldest 46 = .ok (.iload_n 3, 1) := dk_29 (dk_at dksX1_eldest_1 23 rfl rfl)
theorem dX1_eldest_47 : decode cX1_eldest 47 = .ok (.iaload, 1) := dk_46 (dk_at dksX1_eldest_2 0 rfl rfl)
theorem dX1_eldest_48 : decode cX1_eldest 48 = .ok (.aload_n 0, 1) := dk_42 (dk_at dksX1_eldest_2 1 rfl rfl)
theorem dX1_eldest_49 : decode cX1_eldest 49 = .ok (.getfield 51, 3) := dk_180 0 51 (dk_at dksX1_eldest_2 2 rfl rfl)
theorem dX1_eldest_52 : decode cX1_eldest 52 = .ok (.getfield 199, 3) := dk_180 0 199 (dk_at dksX1_eldest_2 5 rfl rfl)
theorem dX1_eldest_55 : decode cX1_eldest 55 = .ok (.iload_n 2, 1) := dk_28 (dk_at dksX1_eldest_2 8 rfl rfl)
theorem dX1_eldest_56 : decode cX1_eldest 56 = .ok (.iaload, 1) := dk_46 (dk_at dksX1_eldest_2 9 rfl rfl)
theorem dX1_eldest_57 : decode cX1_eldest 57 = .ok (.if_icmp .gt 6, 3) := dk_163 0 6 (dk_at dksX1_eldest_2 10 rfl rfl)
theorem dX1_eldest_60 : decode cX1_eldest 60 = .ok (.goto 5, 3) := dk_167 0 5 (dk_at dksX1_eldest_2 13 rfl rfl)
theorem dX1_eldest_63 : decode cX1_eldest 63 = .ok (.iload_n 3, 1) := dk_29 (dk_at dksX1_eldest_2 16 rfl rfl)
theorem dX1_eldest_64 : decode cX1_eldest 64 = .ok (.istore_n 2, 1) := dk_61 (dk_at dksX1_eldest_2 17 rfl rfl)
theorem dX1_eldest_65 : decode cX1_eldest 65 = .ok (.iinc 3 1, 3) := dk_132 3 1 (dk_at dksX1_eldest_2 18 rfl rfl)
theorem dX1_eldest_68 : decode cX1_eldest 68 = .ok (.goto (-54), 3) := dk_167 255 202 (dk_at dksX1_eldest_2 21 rfl rfl)
theorem dX1_eldest_71 : decode cX1_eldest 71 = .ok (.iload_n 2, 1) := dk_28 (dk_at dksX1_eldest_3 0 rfl rfl)
theorem dX1_eldest_72 : decode cX1_eldest 72 = .ok (.ireturn, 1) := dk_172 (dk_at dksX1_eldest_3 1 rfl rfl)
abbrev cX1_loudest : ByteArray := prog_1_method_57_code
def yX1_loudest : MethodName := ⟨RX1, "loudest", "()I"⟩
def dkwX1_loudest_1 : List UInt8 := [167, 0, 11, 29, 60, 42, 29, 182, 0, 249, 61, 132, 3, 1, 167, 255, 225, 27, 172]
abbrev dktX1_loudest_1 : List UInt8 := dkwX1_loudest_1 ++ []
def dkwX1_loudest_0 : List UInt8 := [2, 60, 3, 61, 3, 62, 29, 42, 182, 0, 142, 162, 0, 29, 42, 29, 182, 0, 249, 28, 163, 0, 6]
abbrev dktX1_loudest_0 : List UInt8 := dkwX1_loudest_0 ++ dktX1_loudest_1
theorem dksX1_loudest_0 : cX1_loudest.data.toList.drop 0 = dktX1_loudest_0 := by decide +kernel
theorem dksX1_loudest_1 : cX1_loudest.data.toList.drop 23 = dktX1_loudest_1 := dk_seg dksX1_loudest_0 23 rfl rfl
theorem dX1_loudest_0 : decode cX1_loudest 0 = .ok (.iconst (-1), 1) := dk_2 (dk_at dksX1_loudest_0 0 rfl rfl)
theorem dX1_loudest_1 : decode cX1_loudest 1 = .ok (.istore_n 1, 1) := dk_60 (dk_at dksX1_loudest_0 1 rfl rfl)
theorem dX1_loudest_2 : decode cX1_loudest 2 = .ok (.iconst 0, 1) := dk_3 (dk_at dksX1_loudest_0 2 rfl rfl)
theorem dX1_loudest_3 : decode cX1_loudest 3 = .ok (.istore_n 2, 1) := dk_61 (dk_at dksX1_loudest_0 3 rfl rfl)
theorem dX1_loudest_4 : decode cX1_loudest 4 = .ok (.iconst 0, 1) := dk_3 (dk_at dksX1_loudest_0 4 rfl rfl)
theorem dX1_loudest_5 : decode cX1_loudest 5 = .ok (.istore_n 3, 1) := dk_62 (dk_at dksX1_loudest_0 5 rfl rfl)
theorem dX1_loudest_6 : decode cX1_loudest 6 = .ok (.iload_n 3, 1) := dk_29 (dk_at dksX1_loudest_0 6 rfl rfl)
theorem dX1_loudest_7 : decode cX1_loudest 7 = .ok (.aload_n 0, 1) := dk_42 (dk_at dksX1_loudest_0 7 rfl rfl)
theorem dX1_loudest_8 : decode cX1_loudest 8 = .ok (.invokevirtual 142, 3) := dk_182 0 142 (dk_at dksX1_loudest_0 8 rfl rfl)
theorem dX1_loudest_11 : decode cX1_loudest 11 = .ok (.if_icmp .ge 29, 3) := dk_162 0 29 (dk_at dksX1_loudest_0 11 rfl rfl)
theorem dX1_loudest_14 : decode cX1_loudest 14 = .ok (.aload_n 0, 1) := dk_42 (dk_at dksX1_loudest_0 14 rfl rfl)
theorem dX1_loudest_15 : decode cX1_loudest 15 = .ok (.iload_n 3, 1) := dk_29 (dk_at dksX1_loudest_0 15 rfl rfl)
theorem dX1_loudest_16 : decode cX1_loudest 16 = .ok (.invokevirtual 249, 3) := dk_182 0 249 (dk_at dksX1_loudest_0 16 rfl rfl)
theorem dX1_loudest_19 : decode cX1_loudest 19 = .ok (.iload_n 2, 1) := dk_28 (dk_at dksX1_loudest_0 19 rfl rfl)
theorem dX1_loudest_20 : decode cX1_loudest 20 = .ok (.if_icmp .gt 6, 3) := dk_163 0 6 (dk_at dksX1_loudest_0 20 rfl rfl)
theorem dX1_loudest_23 : decode cX1_loudest 23 = .ok (.goto 11, 3) := dk_167 0 11 (dk_at dksX1_loudest_1 0 rfl rfl)
theorem dX1_loudest_26 : decode cX1_loudest 26 = .ok (.iload_n 3, 1) := dk_29 (dk_at dksX1_loudest_1 3 rfl rfl)
theorem dX1_loudest_27 : decode cX1_loudest 27 = .ok (.istore_n 1, 1) := dk_60 (dk_at dksX1_loudest_1 4 rfl rfl)
theorem dX1_loudest_28 : decode cX1_loudest 28 = .ok (.aload_n 0, 1) := dk_42 (dk_at dksX1_loudest_1 5 rfl rfl)
theorem dX1_loudest_29 : decode cX1_loudest 29 = .ok (.iload_n 3, 1) := dk_29 (dk_at dksX1_loudest_1 6 rfl rfl)
theorem dX1_loudest_30 : decode cX1_loudest 30 = .ok (.invokevirtual 249, 3) := dk_182 0 249 (dk_at dksX1_loudest_1 7 rfl rfl)
theorem dX1_loudest_33 : decode cX1_loudest 33 = .ok (.istore_n 2, 1) := dk_61 (dk_at dksX1_loudest_1 10 rfl rfl)
theorem dX1_loudest_34 : decode cX1_loudest 34 = .ok (.iinc 3 1, 3) := dk_132 3 1 (dk_at dksX1_loudest_1 11 rfl rfl)
theorem dX1_loudest_37 : decode cX1_loudest 37 = .ok (.goto (-31), 3) := dk_167 255 225 (dk_at dksX1_loudest_1 14 rfl rfl)
theorem dX1_loudest_40 : decode cX1_loudest 40 = .ok (.iload_n 1, 1) := dk_27 (dk_at dksX1_loudest_1 17 rfl rfl)
theorem dX1_loudest_41 : decode cX1_loudest 41 = .ok (.ireturn, 1) := dk_172 (dk_at dksX1_loudest_1 18 rfl rfl)
abbrev cX1_chance : ByteArray := prog_1_method_58_code
def yX1_chance : MethodName := ⟨RX1, "chance", "(III)I"⟩
def dkwX1_chance_9 : List UInt8 := [132, 8, 1, 167, 255, 107, 22, 4, 20, 1, 61, 105, 22, 6, 109, 136, 172]
abbrev dktX1_chance_9 : List UInt8 := dkwX1_chance_9 ++ []
def dkwX1_chance_8 : List UInt8 := [167, 0, 4, 3, 54, 11, 132, 12, 1, 167, 255, 153, 21, 11, 153, 0, 10, 22, 4, 22, 9, 97, 55, 4]
abbrev dktX1_chance_8 : List UInt8 := dkwX1_chance_8 ++ dktX1_chance_9
def dkwX1_chance_7 : List UInt8 := [180, 0, 55, 182, 1, 11, 87, 21, 11, 154, 0, 14, 42, 180, 0, 191, 27, 184, 0, 187, 153, 0, 7, 4]
abbrev dktX1_chance_7 : List UInt8 := dkwX1_chance_7 ++ dktX1_chance_8
def dkwX1_chance_6 : List UInt8 := [184, 0, 187, 153, 0, 18, 42, 180, 0, 55, 21, 13, 182, 0, 205, 132, 13, 1, 167, 255, 225, 42, 42]
abbrev dktX1_chance_6 : List UInt8 := dkwX1_chance_6 ++ dktX1_chance_7
def dkwX1_chance_5 : List UInt8 := [16, 10, 29, 100, 133, 105, 55, 9, 3, 54, 13, 21, 13, 42, 182, 0, 149, 162, 0, 28, 21, 8, 21, 12]
abbrev dktX1_chance_5 : List UInt8 := dkwX1_chance_5 ++ dktX1_chance_6
def dkwX1_chance_4 : List UInt8 := [21, 12, 28, 162, 0, 103, 22, 9, 21, 8, 21, 12, 184, 0, 187, 153, 0, 8, 29, 133, 167, 0, 8]
abbrev dktX1_chance_4 : List UInt8 := dkwX1_chance_4 ++ dktX1_chance_5
def dkwX1_chance_3 : List UInt8 := [162, 0, 147, 10, 55, 9, 3, 54, 11, 42, 180, 0, 55, 42, 180, 0, 51, 182, 1, 4, 3, 54, 12]
abbrev dktX1_chance_3 : List UInt8 := dkwX1_chance_3 ++ dktX1_chance_4
def dkwX1_chance_2 : List UInt8 := [22, 6, 20, 1, 59, 105, 55, 6, 132, 8, 1, 167, 255, 239, 3, 54, 8, 21, 8, 4, 28, 120]
abbrev dktX1_chance_2 : List UInt8 := dkwX1_chance_2 ++ dktX1_chance_3
def dkwX1_chance_1 : List UInt8 := [184, 0, 145, 154, 0, 5, 2, 172, 9, 55, 4, 10, 55, 6, 3, 54, 8, 21, 8, 28, 162, 0, 17]
abbrev dktX1_chance_1 : List UInt8 := dkwX1_chance_1 ++ dktX1_chance_2
def dkwX1_chance_0 : List UInt8 := [42, 27, 182, 0, 252, 153, 0, 23, 28, 4, 16, 6, 184, 0, 145, 153, 0, 13, 29, 3, 16, 10]
abbrev dktX1_chance_0 : List UInt8 := dkwX1_chance_0 ++ dktX1_chance_1
theorem dksX1_chance_0 : cX1_chance.data.toList.drop 0 = dktX1_chance_0 := by decide +kernel
theorem dksX1_chance_1 : cX1_chance.data.toList.drop 22 = dktX1_chance_1 := dk_seg dksX1_chance_0 22 rfl rfl
theorem dksX1_chance_2 : cX1_chance.data.toList.drop 45 = dktX1_chance_2 := dk_seg dksX1_chance_1 23 rfl rfl
theorem dksX1_chance_3 : cX1_chance.data.toList.drop 67 = dktX1_chance_3 := dk_seg dksX1_chance_2 22 rfl rfl
theorem dksX1_chance_4 : cX1_chance.data.toList.drop 90 = dktX1_chance_4 := dk_seg dksX1_chance_3 23 rfl rfl
theorem dksX1_chance_5 : cX1_chance.data.toList.drop 113 = dktX1_chance_5 := dk_seg dksX1_chance_4 23 rfl rfl
theorem dksX1_chance_6 : cX1_chance.data.toList.drop 137 = dktX1_chance_6 := dk_seg dksX1_chance_5 24 rfl rfl
theorem dksX1_chance_7 : cX1_chance.data.toList.drop 160 = dktX1_chance_7 := dk_seg dksX1_chance_6 23 rfl rfl
theorem dksX1_chance_8 : cX1_chance.data.toList.drop 184 = dktX1_chance_8 := dk_seg dksX1_chance_7 24 rfl rfl
theorem dksX1_chance_9 : cX1_chance.data.toList.drop 208 = dktX1_chance_9 := dk_seg dksX1_chance_8 24 rfl rfl
theorem dX1_chance_0 : decode cX1_chance 0 = .ok (.aload_n 0, 1) := dk_42 (dk_at dksX1_chance_0 0 rfl rfl)
theorem dX1_chance_1 : decode cX1_chance 1 = .ok (.iload_n 1, 1) := dk_27 (dk_at dksX1_chance_0 1 rfl rfl)
theorem dX1_chance_2 : decode cX1_chance 2 = .ok (.invokevirtual 252, 3) := dk_182 0 252 (dk_at dksX1_chance_0 2 rfl rfl)
theorem dX1_chance_5 : decode cX1_chance 5 = .ok (.ifCond .eq 23, 3) := dk_153 0 23 (dk_at dksX1_chance_0 5 rfl rfl)
theorem dX1_chance_8 : decode cX1_chance 8 = .ok (.iload_n 2, 1) := dk_28 (dk_at dksX1_chance_0 8 rfl rfl)
theorem dX1_chance_9 : decode cX1_chance 9 = .ok (.iconst 1, 1) := dk_4 (dk_at dksX1_chance_0 9 rfl rfl)
theorem dX1_chance_10 : decode cX1_chance 10 = .ok (.bipush 6, 2) := dk_16 6 (dk_at dksX1_chance_0 10 rfl rfl)
theorem dX1_chance_12 : decode cX1_chance 12 = .ok (.invokestatic 145, 3) := dk_184 0 145 (dk_at dksX1_chance_0 12 rfl rfl)
theorem dX1_chance_15 : decode cX1_chance 15 = .ok (.ifCond .eq 13, 3) := dk_153 0 13 (dk_at dksX1_chance_0 15 rfl rfl)
theorem dX1_chance_18 : decode cX1_chance 18 = .ok (.iload_n 3, 1) := dk_29 (dk_at dksX1_chance_0 18 rfl rfl)
theorem dX1_chance_19 : decode cX1_chance 19 = .ok (.iconst 0, 1) := dk_3 (dk_at dksX1_chance_0 19 rfl rfl)
theorem dX1_chance_20 : decode cX1_chance 20 = .ok (.bipush 10, 2) := dk_16 10 (dk_at dksX1_chance_0 20 rfl rfl)
theorem dX1_chance_22 : decode cX1_chance 22 = .ok (.invokestatic 145, 3) := dk_184 0 145 (dk_at dksX1_chance_1 0 rfl rfl)
theorem dX1_chance_25 : decode cX1_chance 25 = .ok (.ifCond .ne 5, 3) := dk_154 0 5 (dk_at dksX1_chance_1 3 rfl rfl)
theorem dX1_chance_28 : decode cX1_chance 28 = .ok (.iconst (-1), 1) := dk_2 (dk_at dksX1_chance_1 6 rfl rfl)
theorem dX1_chance_29 : decode cX1_chance 29 = .ok (.ireturn, 1) := dk_172 (dk_at dksX1_chance_1 7 rfl rfl)
theorem dX1_chance_30 : decode cX1_chance 30 = .ok (.lconst 0, 1) := dk_9 (dk_at dksX1_chance_1 8 rfl rfl)
theorem dX1_chance_31 : decode cX1_chance 31 = .ok (.lstore 4, 2) := dk_55 4 (dk_at dksX1_chance_1 9 rfl rfl)
theorem dX1_chance_33 : decode cX1_chance 33 = .ok (.lconst 1, 1) := dk_10 (dk_at dksX1_chance_1 11 rfl rfl)
theorem dX1_chance_34 : decode cX1_chance 34 = .ok (.lstore 6, 2) := dk_55 6 (dk_at dksX1_chance_1 12 rfl rfl)
theorem dX1_chance_36 : decode cX1_chance 36 = .ok (.iconst 0, 1) := dk_3 (dk_at dksX1_chance_1 14 rfl rfl)
theorem dX1_chance_37 : decode cX1_chance 37 = .ok (.istore 8, 2) := dk_54 8 (dk_at dksX1_chance_1 15 rfl rfl)
theorem dX1_chance_39 : decode cX1_chance 39 = .ok (.iload 8, 2) := dk_21 8 (dk_at dksX1_chance_1 17 rfl rfl)
theorem dX1_chance_41 : decode cX1_chance 41 = .ok (.iload_n 2, 1) := dk_28 (dk_at dksX1_chance_1 19 rfl rfl)
theorem dX1_chance_42 : decode cX1_chance 42 = .ok (.if_icmp .ge 17, 3) := dk_162 0 17 (dk_at dksX1_chance_1 20 rfl rfl)
theorem dX1_chance_45 : decode cX1_chance 45 = .ok (.lload 6, 2) := dk_22 6 (dk_at dksX1_chance_2 0 rfl rfl)
theorem dX1_chance_47 : decode cX1_chance 47 = .ok (.ldc2_w 315, 3) := dk_20 1 59 (dk_at dksX1_chance_2 2 rfl rfl)
theorem dX1_chance_50 : decode cX1_chance 50 = .ok (.lmul, 1) := dk_105 (dk_at dksX1_chance_2 5 rfl rfl)
theorem dX1_chance_51 : decode cX1_chance 51 = .ok (.lstore 6, 2) := dk_55 6 (dk_at dksX1_chance_2 6 rfl rfl)
theorem dX1_chance_53 : decode cX1_chance 53 = .ok (.iinc 8 1, 3) := dk_132 8 1 (dk_at dksX1_chance_2 8 rfl rfl)
theorem dX1_chance_56 : decode cX1_chance 56 = .ok (.goto (-17), 3) := dk_167 255 239 (dk_at dksX1_chance_2 11 rfl rfl)
theorem dX1_chance_59 : decode cX1_chance 59 = .ok (.iconst 0, 1) := dk_3 (dk_at dksX1_chance_2 14 rfl rfl)
theorem dX1_chance_60 : decode cX1_chance 60 = .ok (.istore 8, 2) := dk_54 8 (dk_at dksX1_chance_2 15 rfl rfl)
theorem dX1_chance_62 : decode cX1_chance 62 = .ok (.iload 8, 2) := dk_21 8 (dk_at dksX1_chance_2 17 rfl rfl)
theorem dX1_chance_64 : decode cX1_chance 64 = .ok (.iconst 1, 1) := dk_4 (dk_at dksX1_chance_2 19 rfl rfl)
theorem dX1_chance_65 : decode cX1_chance 65 = .ok (.iload_n 2, 1) := dk_28 (dk_at dksX1_chance_2 20 rfl rfl)
theorem dX1_chance_66 : decode cX1_chance 66 = .ok (.ishl, 1) := dk_120 (dk_at dksX1_chance_2 21 rfl rfl)
theorem dX1_chance_67 : decode cX1_chance 67 = .ok (.if_icmp .ge 147, 3) := dk_162 0 147 (dk_at dksX1_chance_3 0 rfl rfl)
theorem dX1_chance_70 : decode cX1_chance 70 = .ok (.lconst 1, 1) := dk_10 (dk_at dksX1_chance_3 3 rfl rfl)
theorem dX1_chance_71 : decode cX1_chance 71 = .ok (.lstore 9, 2) := dk_55 9 (dk_at dksX1_chance_3 4 rfl rfl)
theorem dX1_chance_73 : decode cX1_chance 73 = .ok (.iconst 0, 1) := dk_3 (dk_at dksX1_chance_3 6 rfl rfl)
theorem dX1_chance_74 : decode cX1_chance 74 = .ok (.istore 11, 2) := dk_54 11 (dk_at dksX1_chance_3 7 rfl rfl)
theorem dX1_chance_76 : decode cX1_chance 76 = .ok (.aload_n 0, 1) := dk_42 (dk_at dksX1_chance_3 9 rfl rfl)
theorem dX1_chance_77 : decode cX1_chance 77 = .ok (.getfield 55, 3) := dk_180 0 55 (dk_at dksX1_chance_3 10 rfl rfl)
theorem dX1_chance_80 : decode cX1_chance 80 = .ok (.aload_n 0, 1) := dk_42 (dk_at dksX1_chance_3 13 rfl rfl)
theorem dX1_chance_81 : decode cX1_chance 81 = .ok (.getfield 51, 3) := dk_180 0 51 (dk_at dksX1_chance_3 14 rfl rfl)
theorem dX1_chance_84 : decode cX1_chance 84 = .ok (.invokevirtual 260, 3) := dk_182 1 4 (dk_at dksX1_chance_3 17 rfl rfl)
theorem dX1_chance_87 : decode cX1_chance 87 = .ok (.iconst 0, 1) := dk_3 (dk_at dksX1_chance_3 20 rfl rfl)
theorem dX1_chance_88 : decode cX1_chance 88 = .ok (.istore 12, 2) := dk_54 12 (dk_at dksX1_chance_3 21 rfl rfl)
theorem dX1_chance_90 : decode cX1_chance 90 = .ok (.iload 12, 2) := dk_21 12 (dk_at dksX1_chance_4 0 rfl rfl)
theorem dX1_chance_92 : decode cX1_chance 92 = .ok (.iload_n 2, 1) := dk_28 (dk_at dksX1_chance_4 2 rfl rfl)
theorem dX1_chance_93 : decode cX1_chance 93 = .ok (.if_icmp .ge 103, 3) := dk_162 0 103 (dk_at dksX1_chance_4 3 rfl rfl)
theorem dX1_chance_96 : decode cX1_chance 96 = .ok (.lload 9, 2) := dk_22 9 (dk_at dksX1_chance_4 6 rfl rfl)
theorem dX1_chance_98 : decode cX1_chance 98 = .ok (.iload 8, 2) := dk_21 8 (dk_at dksX1_chance_4 8 rfl rfl)
theorem dX1_chance_100 : decode cX1_chance 100 = .ok (.iload 12, 2) := dk_21 12 (dk_at dksX1_chance_4 10 rfl rfl)
theorem dX1_chance_102 : decode cX1_chance 102 = .ok (.invokestatic 187, 3) := dk_184 0 187 (dk_at dksX1_chance_4 12 rfl rfl)
theorem dX1_chance_105 : decode cX1_chance 105 = .ok (.ifCond .eq 8, 3) := dk_153 0 8 (dk_at dksX1_chance_4 15 rfl rfl)
theorem dX1_chance_108 : decode cX1_chance 108 = .ok (.iload_n 3, 1) := dk_29 (dk_at dksX1_chance_4 18 rfl rfl)
theorem dX1_chance_109 : decode cX1_chance 109 = .ok (.i2l, 1) := dk_133 (dk_at dksX1_chance_4 19 rfl rfl)
theorem dX1_chance_110 : decode cX1_chance 110 = .ok (.goto 8, 3) := dk_167 0 8 (dk_at dksX1_chance_4 20 rfl rfl)
theorem dX1_chance_113 : decode cX1_chance 113 = .ok (.bipush 10, 2) := dk_16 10 (dk_at dksX1_chance_5 0 rfl rfl)
theorem dX1_chance_115 : decode cX1_chance 115 = .ok (.iload_n 3, 1) := dk_29 (dk_at dksX1_chance_5 2 rfl rfl)
theorem dX1_chance_116 : decode cX1_chance 116 = .ok (.isub, 1) := dk_100 (dk_at dksX1_chance_5 3 rfl rfl)
theorem dX1_chance_117 : decode cX1_chance 117 = .ok (.i2l, 1) := dk_133 (dk_at dksX1_chance_5 4 rfl rfl)
theorem dX1_chance_118 : decode cX1_chance 118 = .ok (.lmul, 1) := dk_105 (dk_at dksX1_chance_5 5 rfl rfl)
theorem dX1_chance_119 : decode cX1_chance 119 = .ok (.lstore 9, 2) := dk_55 9 (dk_at dksX1_chance_5 6 rfl rfl)
theorem dX1_chance_121 : decode cX1_chance 121 = .ok (.iconst 0, 1) := dk_3 (dk_at dksX1_chance_5 8 rfl rfl)
theorem dX1_chance_122 : decode cX1_chance 122 = .ok (.istore 13, 2) := dk_54 13 (dk_at dksX1_chance_5 9 rfl rfl)
theorem dX1_chance_124 : decode cX1_chance 124 = .ok (.iload 13, 2) := dk_21 13 (dk_at dksX1_chance_5 11 rfl rfl)
theorem dX1_chance_126 : decode cX1_chance 126 = .ok (.aload_n 0, 1) := dk_42 (dk_at dksX1_chance_5 13 rfl rfl)
theorem dX1_chance_127 : decode cX1_chance 127 = .ok (.invokevirtual 149, 3) := dk_182 0 149 (dk_at dksX1_chance_5 14 rfl rfl)
theorem dX1_chance_130 : decode cX1_chance 130 = .ok (.if_icmp .ge 28, 3) := dk_162 0 28 (dk_at dksX1_chance_5 17 rfl rfl)
theorem dX1_chance_133 : decode cX1_chance 133 = .ok (.iload 8, 2) := dk_21 8 (dk_at dksX1_chance_5 20 rfl rfl)
theorem dX1_chance_135 : decode cX1_chance 135 = .ok (.iload 12, 2) := dk_21 12 (dk_at dksX1_chance_5 22 rfl rfl)
theorem dX1_chance_137 : decode cX1_chance 137 = .ok (.invokestatic 187, 3) := dk_184 0 187 (dk_at dksX1_chance_6 0 rfl rfl)
theorem dX1_chance_140 : decode cX1_chance 140 = .ok (.ifCond .eq 18, 3) := dk_153 0 18 (dk_at dksX1_chance_6 3 rfl rfl)
theorem dX1_chance_143 : decode cX1_chance 143 = .ok (.aload_n 0, 1) := dk_42 (dk_at dksX1_chance_6 6 rfl rfl)
theorem dX1_chance_144 : decode cX1_chance 144 = .ok (.getfield 55, 3) := dk_180 0 55 (dk_at dksX1_chance_6 7 rfl rfl)
theorem dX1_chance_147 : decode cX1_chance 147 = .ok (.iload 13, 2) := dk_21 13 (dk_at dksX1_chance_6 10 rfl rfl)
theorem dX1_chance_149 : decode cX1_chance 149 = .ok (.invokevirtual 205, 3) := dk_182 0 205 (dk_at dksX1_chance_6 12 rfl rfl)
theorem dX1_chance_152 : decode cX1_chance 152 = .ok (.iinc 13 1, 3) := dk_132 13 1 (dk_at dksX1_chance_6 15 rfl rfl)
theorem dX1_chance_155 : decode cX1_chance 155 = .ok (.goto (-31), 3) := dk_167 255 225 (dk_at dksX1_chance_6 18 rfl rfl)
theorem dX1_chance_158 : decode cX1_chance 158 = .ok (.aload_n 0, 1) := dk_42 (dk_at dksX1_chance_6 21 rfl rfl)
theorem dX1_chance_159 : decode cX1_chance 159 = .ok (.aload_n 0, 1) := dk_42 (dk_at dksX1_chance_6 22 rfl rfl)
theorem dX1_chance_160 : decode cX1_chance 160 = .ok (.getfield 55, 3) := dk_180 0 55 (dk_at dksX1_chance_7 0 rfl rfl)
theorem dX1_chance_163 : decode cX1_chance 163 = .ok (.invokevirtual 267, 3) := dk_182 1 11 (dk_at dksX1_chance_7 3 rfl rfl)
theorem dX1_chance_166 : decode cX1_chance 166 = .ok (.pop, 1) := dk_87 (dk_at dksX1_chance_7 6 rfl rfl)
theorem dX1_chance_167 : decode cX1_chance 167 = .ok (.iload 11, 2) := dk_21 11 (dk_at dksX1_chance_7 7 rfl rfl)
theorem dX1_chance_169 : decode cX1_chance 169 = .ok (.ifCond .ne 14, 3) := dk_154 0 14 (dk_at dksX1_chance_7 9 rfl rfl)
theorem dX1_chance_172 : decode cX1_chance 172 = .ok (.aload_n 0, 1) := dk_42 (dk_at dksX1_chance_7 12 rfl rfl)
theorem dX1_chance_173 : decode cX1_chance 173 = .ok (.getfield 191, 3) := dk_180 0 191 (dk_at dksX1_chance_7 13 rfl rfl)
theorem dX1_chance_176 : decode cX1_chance 176 = .ok (.iload_n 1, 1) := dk_27 (dk_at dksX1_chance_7 16 rfl rfl)
theorem dX1_chance_177 : decode cX1_chance 177 = .ok (.invokestatic 187, 3) := dk_184 0 187 (dk_at dksX1_chance_7 17 rfl rfl)
theorem dX1_chance_180 : decode cX1_chance 180 = .ok (.ifCond .eq 7, 3) := dk_153 0 7 (dk_at dksX1_chance_7 20 rfl rfl)
theorem dX1_chance_183 : decode cX1_chance 183 = .ok (.iconst 1, 1) := dk_4 (dk_at dksX1_chance_7 23 rfl rfl)
theorem dX1_chance_184 : decode cX1_chance 184 = .ok (.goto 4, 3) := dk_167 0 4 (dk_at dksX1_chance_8 0 rfl rfl)
theorem dX1_chance_187 : decode cX1_chance 187 = .ok (.iconst 0, 1) := dk_3 (dk_at dksX1_chance_8 3 rfl rfl)
theorem dX1_chance_188 : decode cX1_chance 188 = .ok (.istore 11, 2) := dk_54 11 (dk_at dksX1_chance_8 4 rfl rfl)
theorem dX1_chance_190 : decode cX1_chance 190 = .ok (.iinc 12 1, 3) := dk_132 12 1 (dk_at dksX1_chance_8 6 rfl rfl)
theorem dX1_chance_193 : decode cX1_chance 193 = .ok (.goto (-103), 3) := dk_167 255 153 (dk_at dksX1_chance_8 9 rfl rfl)
theorem dX1_chance_196 : decode cX1_chance 196 = .ok (.iload 11, 2) := dk_21 11 (dk_at dksX1_chance_8 12 rfl rfl)
theorem dX1_chance_198 : decode cX1_chance 198 = .ok (.ifCond .eq 10, 3) := dk_153 0 10 (dk_at dksX1_chance_8 14 rfl rfl)
theorem dX1_chance_201 : decode cX1_chance 201 = .ok (.lload 4, 2) := dk_22 4 (dk_at dksX1_chance_8 17 rfl rfl)
theorem dX1_chance_203 : decode cX1_chance 203 = .ok (.lload 9, 2) := dk_22 9 (dk_at dksX1_chance_8 19 rfl rfl)
theorem dX1_chance_205 : decode cX1_chance 205 = .ok (.ladd, 1) := dk_97 (dk_at dksX1_chance_8 21 rfl rfl)
theorem dX1_chance_206 : decode cX1_chance 206 = .ok (.lstore 4, 2) := dk_55 4 (dk_at dksX1_chance_8 22 rfl rfl)
theorem dX1_chance_208 : decode cX1_chance 208 = .ok (.iinc 8 1, 3) := dk_132 8 1 (dk_at dksX1_chance_9 0 rfl rfl)
theorem dX1_chance_211 : decode cX1_chance 211 = .ok (.goto (-149), 3) := dk_167 255 107 (dk_at dksX1_chance_9 3 rfl rfl)
theorem dX1_chance_214 : decode cX1_chance 214 = .ok (.lload 4, 2) := dk_22 4 (dk_at dksX1_chance_9 6 rfl rfl)
theorem dX1_chance_216 : decode cX1_chance 216 = .ok (.ldc2_w 317, 3) := dk_20 1 61 (dk_at dksX1_chance_9 8 rfl rfl)
theorem dX1_chance_219 : decode cX1_chance 219 = .ok (.lmul, 1) := dk_105 (dk_at dksX1_chance_9 11 rfl rfl)
theorem dX1_chance_220 : decode cX1_chance 220 = .ok (.lload 6, 2) := dk_22 6 (dk_at dksX1_chance_9 12 rfl rfl)
theorem dX1_chance_222 : decode cX1_chance 222 = .ok (.ldiv, 1) := dk_109 (dk_at dksX1_chance_9 14 rfl rfl)
theorem dX1_chance_223 : decode cX1_chance 223 = .ok (.l2i, 1) := dk_136 (dk_at dksX1_chance_9 15 rfl rfl)
theorem dX1_chance_224 : decode cX1_chance 224 = .ok (.ireturn, 1) := dk_172 (dk_at dksX1_chance_9 16 rfl rfl)
abbrev cX1_ages : ByteArray := prog_1_method_63_code
def yX1_ages : MethodName := ⟨RX1, "ages", "(III)I"⟩
def dkwX1_ages_6 : List UInt8 := [172]
abbrev dktX1_ages_6 : List UInt8 := dkwX1_ages_6 ++ []
def dkwX1_ages_5 : List UInt8 := [180, 0, 220, 42, 180, 0, 51, 180, 0, 220, 100, 167, 0, 13, 42, 180, 0, 55, 180, 0, 208, 184, 1, 89]
abbrev dktX1_ages_5 : List UInt8 := dkwX1_ages_5 ++ dktX1_ages_6
def dkwX1_ages_4 : List UInt8 := [132, 5, 1, 167, 255, 216, 29, 154, 0, 8, 21, 4, 167, 0, 36, 29, 4, 160, 0, 21, 42, 180, 0, 55]
abbrev dktX1_ages_4 : List UInt8 := dkwX1_ages_4 ++ dktX1_ages_5
def dkwX1_ages_3 : List UInt8 := [180, 0, 55, 182, 1, 86, 21, 4, 42, 42, 180, 0, 55, 182, 1, 11, 184, 0, 226, 96, 54, 4]
abbrev dktX1_ages_3 : List UInt8 := dkwX1_ages_3 ++ dktX1_ages_4
def dkwX1_ages_2 : List UInt8 := [180, 0, 51, 182, 1, 4, 3, 54, 5, 21, 5, 28, 162, 0, 40, 42, 182, 0, 149, 158, 0, 11, 42, 42]
abbrev dktX1_ages_2 : List UInt8 := dkwX1_ages_2 ++ dktX1_ages_3
def dkwX1_ages_1 : List UInt8 := [184, 0, 145, 154, 0, 5, 2, 172, 42, 27, 133, 181, 1, 71, 3, 54, 4, 42, 180, 0, 55, 42]
abbrev dktX1_ages_1 : List UInt8 := dkwX1_ages_1 ++ dktX1_ages_2
def dkwX1_ages_0 : List UInt8 := [27, 3, 17, 39, 15, 184, 0, 145, 153, 0, 22, 28, 4, 16, 99, 184, 0, 145, 153, 0, 12, 29, 3, 5]
abbrev dktX1_ages_0 : List UInt8 := dkwX1_ages_0 ++ dktX1_ages_1
theorem dksX1_ages_0 : cX1_ages.data.toList.drop 0 = dktX1_ages_0 := by decide +kernel
theorem dksX1_ages_1 : cX1_ages.data.toList.drop 24 = dktX1_ages_1 := dk_seg dksX1_ages_0 24 rfl rfl
theorem dksX1_ages_2 : cX1_ages.data.toList.drop 46 = dktX1_ages_2 := dk_seg dksX1_ages_1 22 rfl rfl
theorem dksX1_ages_3 : cX1_ages.data.toList.drop 70 = dktX1_ages_3 := dk_seg dksX1_ages_2 24 rfl rfl
theorem dksX1_ages_4 : cX1_ages.data.toList.drop 92 = dktX1_ages_4 := dk_seg dksX1_ages_3 22 rfl rfl
theorem dksX1_ages_5 : cX1_ages.data.toList.drop 116 = dktX1_ages_5 := dk_seg dksX1_ages_4 24 rfl rfl
theorem dksX1_ages_6 : cX1_ages.data.toList.drop 140 = dktX1_ages_6 := dk_seg dksX1_ages_5 24 rfl rfl
theorem dX1_ages_0 : decode cX1_ages 0 = .ok (.iload_n 1, 1) := dk_27 (dk_at dksX1_ages_0 0 rfl rfl)
theorem dX1_ages_1 : decode cX1_ages 1 = .ok (.iconst 0, 1) := dk_3 (dk_at dksX1_ages_0 1 rfl rfl)
theorem dX1_ages_2 : decode cX1_ages 2 = .ok (.sipush 9999, 3) := dk_17 39 15 (dk_at dksX1_ages_0 2 rfl rfl)
theorem dX1_ages_5 : decode cX1_ages 5 = .ok (.invokestatic 145, 3) := dk_184 0 145 (dk_at dksX1_ages_0 5 rfl rfl)
theorem dX1_ages_8 : decode cX1_ages 8 = .ok (.ifCond .eq 22, 3) := dk_153 0 22 (dk_at dksX1_ages_0 8 rfl rfl)
theorem dX1_ages_11 : decode cX1_ages 11 = .ok (.iload_n 2, 1) := dk_28 (dk_at dksX1_ages_0 11 rfl rfl)
theorem dX1_ages_12 : decode cX1_ages 12 = .ok (.iconst 1, 1) := dk_4 (dk_at dksX1_ages_0 12 rfl rfl)
theorem dX1_ages_13 : decode cX1_ages 13 = .ok (.bipush 99, 2) := dk_16 99 (dk_at dksX1_ages_0 13 rfl rfl)
theorem dX1_ages_15 : decode cX1_ages 15 = .ok (.invokestatic 145, 3) := dk_184 0 145 (dk_at dksX1_ages_0 15 rfl rfl)
theorem dX1_ages_18 : decode cX1_ages 18 = .ok (.ifCond .eq 12, 3) := dk_153 0 12 (dk_at dksX1_ages_0 18 rfl rfl)
theorem dX1_ages_21 : decode cX1_ages 21 = .ok (.iload_n 3, 1) := dk_29 (dk_at dksX1_ages_0 21 rfl rfl)
theorem dX1_ages_22 : decode cX1_ages 22 = .ok (.iconst 0, 1) := dk_3 (dk_at dksX1_ages_0 22 rfl rfl)
theorem dX1_ages_23 : decode cX1_ages 23 = .ok (.iconst 2, 1) := dk_5 (dk_at dksX1_ages_0 23 rfl rfl)
theorem dX1_ages_24 : decode cX1_ages 24 = .ok (.invokestatic 145, 3) := dk_184 0 145 (dk_at dksX1_ages_1 0 rfl rfl)
theorem dX1_ages_27 : decode cX1_ages 27 = .ok (.ifCond .ne 5, 3) := dk_154 0 5 (dk_at dksX1_ages_1 3 rfl rfl)
theorem dX1_ages_30 : decode cX1_ages 30 = .ok (.iconst (-1), 1) := dk_2 (dk_at dksX1_ages_1 6 rfl rfl)
theorem dX1_ages_31 : decode cX1_ages 31 = .ok (.ireturn, 1) := dk_172 (dk_at dksX1_ages_1 7 rfl rfl)
theorem dX1_ages_32 : decode cX1_ages 32 = .ok (.aload_n 0, 1) := dk_42 (dk_at dksX1_ages_1 8 rfl rfl)
theorem dX1_ages_33 : decode cX1_ages 33 = .ok (.iload_n 1, 1) := dk_27 (dk_at dksX1_ages_1 9 rfl rfl)
theorem dX1_ages_34 : decode cX1_ages 34 = .ok (.i2l, 1) := dk_133 (dk_at dksX1_ages_1 10 rfl rfl)
theorem dX1_ages_35 : decode cX1_ages 35 = .ok (.putfield 327, 3) := dk_181 1 71 (dk_at dksX1_ages_1 11 rfl rfl)
theorem dX1_ages_38 : decode cX1_ages 38 = .ok (.iconst 0, 1) := dk_3 (dk_at dksX1_ages_1 14 rfl rfl)
theorem dX1_ages_39 : decode cX1_ages 39 = .ok (.istore 4, 2) := dk_54 4 (dk_at dksX1_ages_1 15 rfl rfl)
theorem dX1_ages_41 : decode cX1_ages 41 = .ok (.aload_n 0, 1) := dk_42 (dk_at dksX1_ages_1 17 rfl rfl)
theorem dX1_ages_42 : decode cX1_ages 42 = .ok (.getfield 55, 3) := dk_180 0 55 (dk_at dksX1_ages_1 18 rfl rfl)
theorem dX1_ages_45 : decode cX1_ages 45 = .ok (.aload_n 0, 1) := dk_42 (dk_at dksX1_ages_1 21 rfl rfl)
theorem dX1_ages_46 : decode cX1_ages 46 = .ok (.getfield 51, 3) := dk_180 0 51 (dk_at dksX1_ages_2 0 rfl rfl)
theorem dX1_ages_49 : decode cX1_ages 49 = .ok (.invokevirtual 260, 3) := dk_182 1 4 (dk_at dksX1_ages_2 3 rfl rfl)
theorem dX1_ages_52 : decode cX1_ages 52 = .ok (.iconst 0, 1) := dk_3 (dk_at dksX1_ages_2 6 rfl rfl)
theorem dX1_ages_53 : decode cX1_ages 53 = .ok (.istore 5, 2) := dk_54 5 (dk_at dksX1_ages_2 7 rfl rfl)
theorem dX1_ages_55 : decode cX1_ages 55 = .ok (.iload 5, 2) := dk_21 5 (dk_at dksX1_ages_2 9 rfl rfl)
theorem dX1_ages_57 : decode cX1_ages 57 = .ok (.iload_n 2, 1) := dk_28 (dk_at dksX1_ages_2 11 rfl rfl)
theorem dX1_ages_58 : decode cX1_ages 58 = .ok (.if_icmp .ge 40, 3) := dk_162 0 40 (dk_at dksX1_ages_2 12 rfl rfl)
theorem dX1_ages_61 : decode cX1_ages 61 = .ok (.aload_n 0, 1) := dk_42 (dk_at dksX1_ages_2 15 rfl rfl)
theorem dX1_ages_62 : decode cX1_ages 62 = .ok (.invokevirtual 149, 3) := dk_182 0 149 (dk_at dksX1_ages_2 16 rfl rfl)
theorem dX1_ages_65 : decode cX1_ages 65 = .ok (.ifCond .le 11, 3) := dk_158 0 11 (dk_at dksX1_ages_2 19 rfl rfl)
theorem dX1_ages_68 : decode cX1_ages 68 = .ok (.aload_n 0, 1) := dk_42 (dk_at dksX1_ages_2 22 rfl rfl)
theorem dX1_ages_69 : decode cX1_ages 69 = .ok (.aload_n 0, 1) := dk_42 (dk_at dksX1_ages_2 23 rfl rfl)
theorem dX1_ages_70 : decode cX1_ages 70 = .ok (.getfield 55, 3) := dk_180 0 55 (dk_at dksX1_ages_3 0 rfl rfl)
theorem dX1_ages_73 : decode cX1_ages 73 = .ok (.invokevirtual 342, 3) := dk_182 1 86 (dk_at dksX1_ages_3 3 rfl rfl)
theorem dX1_ages_76 : decode cX1_ages 76 = .ok (.iload 4, 2) := dk_21 4 (dk_at dksX1_ages_3 6 rfl rfl)
theorem dX1_ages_78 : decode cX1_ages 78 = .ok (.aload_n 0, 1) := dk_42 (dk_at dksX1_ages_3 8 rfl rfl)
theorem dX1_ages_79 : decode cX1_ages 79 = .ok (.aload_n 0, 1) := dk_42 (dk_at dksX1_ages_3 9 rfl rfl)
theorem dX1_ages_80 : decode cX1_ages 80 = .ok (.getfield 55, 3) := dk_180 0 55 (dk_at dksX1_ages_3 10 rfl rfl)
theorem dX1_ages_83 : decode cX1_ages 83 = .ok (.invokevirtual 267, 3) := dk_182 1 11 (dk_at dksX1_ages_3 13 rfl rfl)
theorem dX1_ages_86 : decode cX1_ages 86 = .ok (.invokestatic 226, 3) := dk_184 0 226 (dk_at dksX1_ages_3 16 rfl rfl)
theorem dX1_ages_89 : decode cX1_ages 89 = .ok (.iadd, 1) := dk_96 (dk_at dksX1_ages_3 19 rfl rfl)
theorem dX1_ages_90 : decode cX1_ages 90 = .ok (.istore 4, 2) := dk_54 4 (dk_at dksX1_ages_3 20 rfl rfl)
theorem dX1_ages_92 : decode cX1_ages 92 = .ok (.iinc 5 1, 3) := dk_132 5 1 (dk_at dksX1_ages_4 0 rfl rfl)
theorem dX1_ages_95 : decode cX1_ages 95 = .ok (.goto (-40), 3) := dk_167 255 216 (dk_at dksX1_ages_4 3 rfl rfl)
theorem dX1_ages_98 : decode cX1_ages 98 = .ok (.iload_n 3, 1) := dk_29 (dk_at dksX1_ages_4 6 rfl rfl)
theorem dX1_ages_99 : decode cX1_ages 99 = .ok (.ifCond .ne 8, 3) := dk_154 0 8 (dk_at dksX1_ages_4 7 rfl rfl)
theorem dX1_ages_102 : decode cX1_ages 102 = .ok (.iload 4, 2) := dk_21 4 (dk_at dksX1_ages_4 10 rfl rfl)
theorem dX1_ages_104 : decode cX1_ages 104 = .ok (.goto 36, 3) := dk_167 0 36 (dk_at dksX1_ages_4 12 rfl rfl)
theorem dX1_ages_107 : decode cX1_ages 107 = .ok (.iload_n 3, 1) := dk_29 (dk_at dksX1_ages_4 15 rfl rfl)
theorem dX1_ages_108 : decode cX1_ages 108 = .ok (.iconst 1, 1) := dk_4 (dk_at dksX1_ages_4 16 rfl rfl)
theorem dX1_ages_109 : decode cX1_ages 109 = .ok (.if_icmp .ne 21, 3) := dk_160 0 21 (dk_at dksX1_ages_4 17 rfl rfl)
theorem dX1_ages_112 : decode cX1_ages 112 = .ok (.aload_n 0, 1) := dk_42 (dk_at dksX1_ages_4 20 rfl rfl)
theorem dX1_ages_113 : decode cX1_ages 113 = .ok (.getfield 55, 3) := dk_180 0 55 (dk_at dksX1_ages_4 21 rfl rfl)
theorem dX1_ages_116 : decode cX1_ages 116 = .ok (.getfield 220, 3) := dk_180 0 220 (dk_at dksX1_ages_5 0 rfl rfl)
theorem dX1_ages_119 : decode cX1_ages 119 = .ok (.aload_n 0, 1) := dk_42 (dk_at dksX1_ages_5 3 rfl rfl)
theorem dX1_ages_120 : decode cX1_ages 120 = .ok (.getfield 51, 3) := dk_180 0 51 (dk_at dksX1_ages_5 4 rfl rfl)
theorem dX1_ages_123 : decode cX1_ages 123 = .ok (.getfield 220, 3) := dk_180 0 220 (dk_at dksX1_ages_5 7 rfl rfl)
theorem dX1_ages_126 : decode cX1_ages 126 = .ok (.isub, 1) := dk_100 (dk_at dksX1_ages_5 10 rfl rfl)
theorem dX1_ages_127 : decode cX1_ages 127 = .ok (.goto 13, 3) := dk_167 0 13 (dk_at dksX1_ages_5 11 rfl rfl)
theorem dX1_ages_130 : decode cX1_ages 130 = .ok (.aload_n 0, 1) := dk_42 (dk_at dksX1_ages_5 14 rfl rfl)
theorem dX1_ages_131 : decode cX1_ages 131 = .ok (.getfield 55, 3) := dk_180 0 55 (dk_at dksX1_ages_5 15 rfl rfl)
theorem dX1_ages_134 : decode cX1_ages 134 = .ok (.getfield 208, 3) := dk_180 0 208 (dk_at dksX1_ages_5 18 rfl rfl)
theorem dX1_ages_137 : decode cX1_ages 137 = .ok (.invokestatic 345, 3) := dk_184 1 89 (dk_at dksX1_ages_5 21 rfl rfl)
theorem dX1_ages_140 : decode cX1_ages 140 = .ok (.ireturn, 1) := dk_172 (dk_at dksX1_ages_6 0 rfl rfl)
abbrev cX1_befalls : ByteArray := prog_1_method_62_code
def yX1_befalls : MethodName := ⟨RX1, "befalls", "(LDateVale$State;)V"⟩
def dkwX1_befalls_2 : List UInt8 := [182, 1, 15, 153, 0, 11, 43, 180, 0, 154, 29, 21, 4, 79, 177]
abbrev dktX1_befalls_2 : List UInt8 := dkwX1_befalls_2 ++ []
def dkwX1_befalls_1 : List UInt8 := [154, 0, 9, 43, 29, 182, 0, 205, 177, 42, 42, 182, 0, 142, 182, 1, 83, 54, 4, 42, 43, 29, 21, 4]
abbrev dktX1_befalls_1 : List UInt8 := dkwX1_befalls_1 ++ dktX1_befalls_2
def dkwX1_befalls_0 : List UInt8 := [42, 16, 6, 182, 1, 83, 61, 28, 4, 164, 0, 4, 177, 42, 42, 182, 0, 149, 182, 1, 83, 62, 28]
abbrev dktX1_befalls_0 : List UInt8 := dkwX1_befalls_0 ++ dktX1_befalls_1
theorem dksX1_befalls_0 : cX1_befalls.data.toList.drop 0 = dktX1_befalls_0 := by decide +kernel
theorem dksX1_befalls_1 : cX1_befalls.data.toList.drop 23 = dktX1_befalls_1 := dk_seg dksX1_befalls_0 23 rfl rfl
theorem dksX1_befalls_2 : cX1_befalls.data.toList.drop 47 = dktX1_befalls_2 := dk_seg dksX1_befalls_1 24 rfl rfl
theorem dX1_befalls_0 : decode cX1_befalls 0 = .ok (.aload_n 0, 1) := dk_42 (dk_at dksX1_befalls_0 0 rfl rfl)
theorem dX1_befalls_1 : decode cX1_befalls 1 = .ok (.bipush 6, 2) := dk_16 6 (dk_at dksX1_befalls_0 1 rfl rfl)
theorem dX1_befalls_3 : decode cX1_befalls 3 = .ok (.invokevirtual 339, 3) := dk_182 1 83 (dk_at dksX1_befalls_0 3 rfl rfl)
theorem dX1_befalls_6 : decode cX1_befalls 6 = .ok (.istore_n 2, 1) := dk_61 (dk_at dksX1_befalls_0 6 rfl rfl)
theorem dX1_befalls_7 : decode cX1_befalls 7 = .ok (.iload_n 2, 1) := dk_28 (dk_at dksX1_befalls_0 7 rfl rfl)
theorem dX1_befalls_8 : decode cX1_befalls 8 = .ok (.iconst 1, 1) := dk_4 (dk_at dksX1_befalls_0 8 rfl rfl)
theorem dX1_befalls_9 : decode cX1_befalls 9 = .ok (.if_icmp .le 4, 3) := dk_164 0 4 (dk_at dksX1_befalls_0 9 rfl rfl)
theorem dX1_befalls_12 : decode cX1_befalls 12 = .ok (.return_, 1) := dk_177 (dk_at dksX1_befalls_0 12 rfl rfl)
theorem dX1_befalls_13 : decode cX1_befalls 13 = .ok (.aload_n 0, 1) := dk_42 (dk_at dksX1_befalls_0 13 rfl rfl)
theorem dX1_befalls_14 : decode cX1_befalls 14 = .ok (.aload_n 0, 1) := dk_42 (dk_at dksX1_befalls_0 14 rfl rfl)
theorem dX1_befalls_15 : decode cX1_befalls 15 = .ok (.invokevirtual 149, 3) := dk_182 0 149 (dk_at dksX1_befalls_0 15 rfl rfl)
theorem dX1_befalls_18 : decode cX1_befalls 18 = .ok (.invokevirtual 339, 3) := dk_182 1 83 (dk_at dksX1_befalls_0 18 rfl rfl)
theorem dX1_befalls_21 : decode cX1_befalls 21 = .ok (.istore_n 3, 1) := dk_62 (dk_at dksX1_befalls_0 21 rfl rfl)
theorem dX1_befalls_22 : decode cX1_befalls 22 = .ok (.iload_n 2, 1) := dk_28 (dk_at dksX1_befalls_0 22 rfl rfl)
theorem dX1_befalls_23 : decode cX1_befalls 23 = .ok (.ifCond .ne 9, 3) := dk_154 0 9 (dk_at dksX1_befalls_1 0 rfl rfl)
theorem dX1_befalls_26 : decode cX1_befalls 26 = .ok (.aload_n 1, 1) := dk_43 (dk_at dksX1_befalls_1 3 rfl rfl)
theorem dX1_befalls_27 : decode cX1_befalls 27 = .ok (.iload_n 3, 1) := dk_29 (dk_at dksX1_befalls_1 4 rfl rfl)
theorem dX1_befalls_28 : decode cX1_befalls 28 = .ok (.invokevirtual 205, 3) := dk_182 0 205 (dk_at dksX1_befalls_1 5 rfl rfl)
theorem dX1_befalls_31 : decode cX1_befalls 31 = .ok (.return_, 1) := dk_177 (dk_at dksX1_befalls_1 8 rfl rfl)
theorem dX1_befalls_32 : decode cX1_befalls 32 = .ok (.aload_n 0, 1) := dk_42 (dk_at dksX1_befalls_1 9 rfl rfl)
theorem dX1_befalls_33 : decode cX1_befalls 33 = .ok (.aload_n 0, 1) := dk_42 (dk_at dksX1_befalls_1 10 rfl rfl)
theorem dX1_befalls_34 : decode cX1_befalls 34 = .ok (.invokevirtual 142, 3) := dk_182 0 142 (dk_at dksX1_befalls_1 11 rfl rfl)
theorem dX1_befalls_37 : decode cX1_befalls 37 = .ok (.invokevirtual 339, 3) := dk_182 1 83 (dk_at dksX1_befalls_1 14 rfl rfl)
theorem dX1_befalls_40 : decode cX1_befalls 40 = .ok (.istore 4, 2) := dk_54 4 (dk_at dksX1_befalls_1 17 rfl rfl)
theorem dX1_befalls_42 : decode cX1_befalls 42 = .ok (.aload_n 0, 1) := dk_42 (dk_at dksX1_befalls_1 19 rfl rfl)
theorem dX1_befalls_43 : decode cX1_befalls 43 = .ok (.aload_n 1, 1) := dk_43 (dk_at dksX1_befalls_1 20 rfl rfl)
theorem dX1_befalls_44 : decode cX1_befalls 44 = .ok (.iload_n 3, 1) := dk_29 (dk_at dksX1_befalls_1 21 rfl rfl)
theorem dX1_befalls_45 : decode cX1_befalls 45 = .ok (.iload 4, 2) := dk_21 4 (dk_at dksX1_befalls_1 22 rfl rfl)
theorem dX1_befalls_47 : decode cX1_befalls 47 = .ok (.invokevirtual 271, 3) := dk_182 1 15 (dk_at dksX1_befalls_2 0 rfl rfl)
theorem dX1_befalls_50 : decode cX1_befalls 50 = .ok (.ifCond .eq 11, 3) := dk_153 0 11 (dk_at dksX1_befalls_2 3 rfl rfl)
theorem dX1_befalls_53 : decode cX1_befalls 53 = .ok (.aload_n 1, 1) := dk_43 (dk_at dksX1_befalls_2 6 rfl rfl)
theorem dX1_befalls_54 : decode cX1_befalls 54 = .ok (.getfield 154, 3) := dk_180 0 154 (dk_at dksX1_befalls_2 7 rfl rfl)
theorem dX1_befalls_57 : decode cX1_befalls 57 = .ok (.iload_n 3, 1) := dk_29 (dk_at dksX1_befalls_2 10 rfl rfl)
theorem dX1_befalls_58 : decode cX1_befalls 58 = .ok (.iload 4, 2) := dk_21 4 (dk_at dksX1_befalls_2 11 rfl rfl)
theorem dX1_befalls_60 : decode cX1_befalls 60 = .ok (.iastore, 1) := dk_79 (dk_at dksX1_befalls_2 13 rfl rfl)
theorem dX1_befalls_61 : decode cX1_befalls 61 = .ok (.return_, 1) := dk_177 (dk_at dksX1_befalls_2 14 rfl rfl)
abbrev cX1_draws : ByteArray := prog_1_method_61_code
def yX1_draws : MethodName := ⟨RX1, "draws", "(I)I"⟩
def dkwX1_draws_1 : List UInt8 := [20, 1, 81, 109, 27, 133, 113, 136, 172]
abbrev dktX1_draws_1 : List UInt8 := dkwX1_draws_1 ++ []
def dkwX1_draws_0 : List UInt8 := [42, 42, 180, 1, 71, 20, 1, 75, 105, 20, 1, 77, 97, 20, 1, 79, 113, 181, 1, 71, 42, 180, 1, 71]
abbrev dktX1_draws_0 : List UInt8 := dkwX1_draws_0 ++ dktX1_draws_1
theorem dksX1_draws_0 : cX1_draws.data.toList.drop 0 = dktX1_draws_0 := by decide +kernel
theorem dksX1_draws_1 : cX1_draws.data.toList.drop 24 = dktX1_draws_1 := dk_seg dksX1_draws_0 24 rfl rfl
theorem dX1_draws_0 : decode cX1_draws 0 = .ok (.aload_n 0, 1) := dk_42 (dk_at dksX1_draws_0 0 rfl rfl)
theorem dX1_draws_1 : decode cX1_draws 1 = .ok (.aload_n 0, 1) := dk_42 (dk_at dksX1_draws_0 1 rfl rfl)
theorem dX1_draws_2 : decode cX1_draws 2 = .ok (.getfield 327, 3) := dk_180 1 71 (dk_at dksX1_draws_0 2 rfl rfl)
theorem dX1_draws_5 : decode cX1_draws 5 = .ok (.ldc2_w 331, 3) := dk_20 1 75 (dk_at dksX1_draws_0 5 rfl rfl)
theorem dX1_draws_8 : decode cX1_draws 8 = .ok (.lmul, 1) := dk_105 (dk_at dksX1_draws_0 8 rfl rfl)
theorem dX1_draws_9 : decode cX1_draws 9 = .ok (.ldc2_w 333, 3) := dk_20 1 77 (dk_at dksX1_draws_0 9 rfl rfl)
theorem dX1_draws_12 : decode cX1_draws 12 = .ok (.ladd, 1) := dk_97 (dk_at dksX1_draws_0 12 rfl rfl)
theorem dX1_draws_13 : decode cX1_draws 13 = .ok (.ldc2_w 335, 3) := dk_20 1 79 (dk_at dksX1_draws_0 13 rfl rfl)
theorem dX1_draws_16 : decode cX1_draws 16 = .ok (.lrem, 1) := dk_113 (dk_at dksX1_draws_0 16 rfl rfl)
theorem dX1_draws_17 : decode cX1_draws 17 = .ok (.putfield 327, 3) := dk_181 1 71 (dk_at dksX1_draws_0 17 rfl rfl)
theorem dX1_draws_20 : decode cX1_draws 20 = .ok (.aload_n 0, 1) := dk_42 (dk_at dksX1_draws_0 20 rfl rfl)
theorem dX1_draws_21 : decode cX1_draws 21 = .ok (.getfield 327, 3) := dk_180 1 71 (dk_at dksX1_draws_0 21 rfl rfl)
theorem dX1_draws_24 : decode cX1_draws 24 = .ok (.ldc2_w 337, 3) := dk_20 1 81 (dk_at dksX1_draws_1 0 rfl rfl)
theorem dX1_draws_27 : decode cX1_draws 27 = .ok (.ldiv, 1) := dk_109 (dk_at dksX1_draws_1 3 rfl rfl)
theorem dX1_draws_28 : decode cX1_draws 28 = .ok (.iload_n 1, 1) := dk_27 (dk_at dksX1_draws_1 4 rfl rfl)
theorem dX1_draws_29 : decode cX1_draws 29 = .ok (.i2l, 1) := dk_133 (dk_at dksX1_draws_1 5 rfl rfl)
theorem dX1_draws_30 : decode cX1_draws 30 = .ok (.lrem, 1) := dk_113 (dk_at dksX1_draws_1 6 rfl rfl)
theorem dX1_draws_31 : decode cX1_draws 31 = .ok (.l2i, 1) := dk_136 (dk_at dksX1_draws_1 7 rfl rfl)
theorem dX1_draws_32 : decode cX1_draws 32 = .ok (.ireturn, 1) := dk_172 (dk_at dksX1_draws_1 8 rfl rfl)
abbrev cX1_sum : ByteArray := prog_1_method_6_code
def yX1_sum : MethodName := ⟨RX1, "sum", "([I)I"⟩
def dkwX1_sum_0 : List UInt8 := [3, 60, 3, 61, 28, 42, 190, 162, 0, 15, 27, 42, 28, 46, 96, 60, 132, 2, 1, 167, 255, 241, 27, 172]
abbrev dktX1_sum_0 : List UInt8 := dkwX1_sum_0 ++ []
theorem dksX1_sum_0 : cX1_sum.data.toList.drop 0 = dktX1_sum_0 := by decide +kernel
theorem dX1_sum_0 : decode cX1_sum 0 = .ok (.iconst 0, 1) := dk_3 (dk_at dksX1_sum_0 0 rfl rfl)
theorem dX1_sum_1 : decode cX1_sum 1 = .ok (.istore_n 1, 1) := dk_60 (dk_at dksX1_sum_0 1 rfl rfl)
theorem dX1_sum_2 : decode cX1_sum 2 = .ok (.iconst 0, 1) := dk_3 (dk_at dksX1_sum_0 2 rfl rfl)
theorem dX1_sum_3 : decode cX1_sum 3 = .ok (.istore_n 2, 1) := dk_61 (dk_at dksX1_sum_0 3 rfl rfl)
theorem dX1_sum_4 : decode cX1_sum 4 = .ok (.iload_n 2, 1) := dk_28 (dk_at dksX1_sum_0 4 rfl rfl)
theorem dX1_sum_5 : decode cX1_sum 5 = .ok (.aload_n 0, 1) := dk_42 (dk_at dksX1_sum_0 5 rfl rfl)
theorem dX1_sum_6 : decode cX1_sum 6 = .ok (.arraylength, 1) := dk_190 (dk_at dksX1_sum_0 6 rfl rfl)
theorem dX1_sum_7 : decode cX1_sum 7 = .ok (.if_icmp .ge 15, 3) := dk_162 0 15 (dk_at dksX1_sum_0 7 rfl rfl)
theorem dX1_sum_10 : decode cX1_sum 10 = .ok (.iload_n 1, 1) := dk_27 (dk_at dksX1_sum_0 10 rfl rfl)
theorem dX1_sum_11 : decode cX1_sum 11 = .ok (.aload_n 0, 1) := dk_42 (dk_at dksX1_sum_0 11 rfl rfl)
theorem dX1_sum_12 : decode cX1_sum 12 = .ok (.iload_n 2, 1) := dk_28 (dk_at dksX1_sum_0 12 rfl rfl)
theorem dX1_sum_13 : decode cX1_sum 13 = .ok (.iaload, 1) := dk_46 (dk_at dksX1_sum_0 13 rfl rfl)
theorem dX1_sum_14 : decode cX1_sum 14 = .ok (.iadd, 1) := dk_96 (dk_at dksX1_sum_0 14 rfl rfl)
theorem dX1_sum_15 : decode cX1_sum 15 = .ok (.istore_n 1, 1) := dk_60 (dk_at dksX1_sum_0 15 rfl rfl)
theorem dX1_sum_16 : decode cX1_sum 16 = .ok (.iinc 2 1, 3) := dk_132 2 1 (dk_at dksX1_sum_0 16 rfl rfl)
theorem dX1_sum_19 : decode cX1_sum 19 = .ok (.goto (-15), 3) := dk_167 255 241 (dk_at dksX1_sum_0 19 rfl rfl)
theorem dX1_sum_22 : decode cX1_sum 22 = .ok (.iload_n 1, 1) := dk_27 (dk_at dksX1_sum_0 22 rfl rfl)
theorem dX1_sum_23 : decode cX1_sum 23 = .ok (.ireturn, 1) := dk_172 (dk_at dksX1_sum_0 23 rfl rfl)
abbrev cX1_mark : ByteArray := prog_1_method_64_code
def yX1_mark : MethodName := ⟨RX1, "mark", "(IZ)Z"⟩
def dkwX1_mark_6 : List UInt8 := [184, 1, 39, 45, 42, 180, 0, 114, 181, 1, 99, 4, 172]
abbrev dktX1_mark_6 : List UInt8 := dkwX1_mark_6 ++ []
def dkwX1_mark_5 : List UInt8 := [182, 1, 4, 42, 180, 0, 75, 45, 180, 1, 94, 184, 1, 39, 42, 180, 0, 78, 45, 180, 1, 96]
abbrev dktX1_mark_5 : List UInt8 := dkwX1_mark_5 ++ dktX1_mark_6
def dkwX1_mark_4 : List UInt8 := [180, 1, 99, 181, 0, 114, 42, 3, 181, 0, 117, 167, 0, 44, 45, 180, 1, 93, 42, 180, 0, 51]
abbrev dktX1_mark_4 : List UInt8 := dkwX1_mark_4 ++ dktX1_mark_5
def dkwX1_mark_3 : List UInt8 := [180, 1, 94, 42, 180, 0, 75, 184, 1, 39, 45, 180, 1, 96, 42, 180, 0, 78, 184, 1, 39, 42, 45]
abbrev dktX1_mark_3 : List UInt8 := dkwX1_mark_3 ++ dktX1_mark_4
def dkwX1_mark_2 : List UInt8 := [180, 0, 88, 27, 50, 78, 28, 153, 0, 52, 42, 180, 0, 51, 45, 180, 1, 93, 182, 1, 4, 45]
abbrev dktX1_mark_2 : List UInt8 := dkwX1_mark_2 ++ dktX1_mark_3
def dkwX1_mark_1 : List UInt8 := [42, 180, 0, 88, 27, 50, 199, 0, 16, 42, 180, 0, 88, 27, 187, 0, 86, 89, 183, 1, 92, 83, 42]
abbrev dktX1_mark_1 : List UInt8 := dkwX1_mark_1 ++ dktX1_mark_2
def dkwX1_mark_0 : List UInt8 := [27, 3, 6, 184, 0, 145, 153, 0, 16, 28, 153, 0, 14, 42, 180, 0, 88, 27, 50, 199, 0, 5, 3, 172]
abbrev dktX1_mark_0 : List UInt8 := dkwX1_mark_0 ++ dktX1_mark_1
theorem dksX1_mark_0 : cX1_mark.data.toList.drop 0 = dktX1_mark_0 := by decide +kernel
theorem dksX1_mark_1 : cX1_mark.data.toList.drop 24 = dktX1_mark_1 := dk_seg dksX1_mark_0 24 rfl rfl
theorem dksX1_mark_2 : cX1_mark.data.toList.drop 47 = dktX1_mark_2 := dk_seg dksX1_mark_1 23 rfl rfl
theorem dksX1_mark_3 : cX1_mark.data.toList.drop 69 = dktX1_mark_3 := dk_seg dksX1_mark_2 22 rfl rfl
theorem dksX1_mark_4 : cX1_mark.data.toList.drop 92 = dktX1_mark_4 := dk_seg dksX1_mark_3 23 rfl rfl
theorem dksX1_mark_5 : cX1_mark.data.toList.drop 114 = dktX1_mark_5 := dk_seg dksX1_mark_4 22 rfl rfl
theorem dksX1_mark_6 : cX1_mark.data.toList.drop 136 = dktX1_mark_6 := dk_seg dksX1_mark_5 22 rfl rfl
theorem dX1_mark_0 : decode cX1_mark 0 = .ok (.iload_n 1, 1) := dk_27 (dk_at dksX1_mark_0 0 rfl rfl)
theorem dX1_mark_1 : decode cX1_mark 1 = .ok (.iconst 0, 1) := dk_3 (dk_at dksX1_mark_0 1 rfl rfl)
theorem dX1_mark_2 : decode cX1_mark 2 = .ok (.iconst 3, 1) := dk_6 (dk_at dksX1_mark_0 2 rfl rfl)
theorem dX1_mark_3 : decode cX1_mark 3 = .ok (.invokestatic 145, 3) := dk_184 0 145 (dk_at dksX1_mark_0 3 rfl rfl)
theorem dX1_mark_6 : decode cX1_mark 6 = .ok (.ifCond .eq 16, 3) := dk_153 0 16 (dk_at dksX1_mark_0 6 rfl rfl)
theorem dX1_mark_9 : decode cX1_mark 9 = .ok (.iload_n 2, 1) := dk_28 (dk_at dksX1_mark_0 9 rfl rfl)
theorem dX1_mark_10 : decode cX1_mark 10 = .ok (.ifCond .eq 14, 3) := dk_153 0 14 (dk_at dksX1_mark_0 10 rfl rfl)
theorem dX1_mark_13 : decode cX1_mark 13 = .ok (.aload_n 0, 1) := dk_42 (dk_at dksX1_mark_0 13 rfl rfl)
theorem dX1_mark_14 : decode cX1_mark 14 = .ok (.getfield 88, 3) := dk_180 0 88 (dk_at dksX1_mark_0 14 rfl rfl)
theorem dX1_mark_17 : decode cX1_mark 17 = .ok (.iload_n 1, 1) := dk_27 (dk_at dksX1_mark_0 17 rfl rfl)
theorem dX1_mark_18 : decode cX1_mark 18 = .ok (.aaload, 1) := dk_50 (dk_at dksX1_mark_0 18 rfl rfl)
theorem dX1_mark_19 : decode cX1_mark 19 = .ok (.ifnonnull 5, 3) := dk_199 0 5 (dk_at dksX1_mark_0 19 rfl rfl)
theorem dX1_mark_22 : decode cX1_mark 22 = .ok (.iconst 0, 1) := dk_3 (dk_at dksX1_mark_0 22 rfl rfl)
theorem dX1_mark_23 : decode cX1_mark 23 = .ok (.ireturn, 1) := dk_172 (dk_at dksX1_mark_0 23 rfl rfl)
theorem dX1_mark_24 : decode cX1_mark 24 = .ok (.aload_n 0, 1) := dk_42 (dk_at dksX1_mark_1 0 rfl rfl)
theorem dX1_mark_25 : decode cX1_mark 25 = .ok (.getfield 88, 3) := dk_180 0 88 (dk_at dksX1_mark_1 1 rfl rfl)
theorem dX1_mark_28 : decode cX1_mark 28 = .ok (.iload_n 1, 1) := dk_27 (dk_at dksX1_mark_1 4 rfl rfl)
theorem dX1_mark_29 : decode cX1_mark 29 = .ok (.aaload, 1) := dk_50 (dk_at dksX1_mark_1 5 rfl rfl)
theorem dX1_mark_30 : decode cX1_mark 30 = .ok (.ifnonnull 16, 3) := dk_199 0 16 (dk_at dksX1_mark_1 6 rfl rfl)
theorem dX1_mark_33 : decode cX1_mark 33 = .ok (.aload_n 0, 1) := dk_42 (dk_at dksX1_mark_1 9 rfl rfl)
theorem dX1_mark_34 : decode cX1_mark 34 = .ok (.getfield 88, 3) := dk_180 0 88 (dk_at dksX1_mark_1 10 rfl rfl)
theorem dX1_mark_37 : decode cX1_mark 37 = .ok (.iload_n 1, 1) := dk_27 (dk_at dksX1_mark_1 13 rfl rfl)
theorem dX1_mark_38 : decode cX1_mark 38 = .ok (.new 86, 3) := dk_187 0 86 (dk_at dksX1_mark_1 14 rfl rfl)
theorem dX1_mark_41 : decode cX1_mark 41 = .ok (.dup, 1) := dk_89 (dk_at dksX1_mark_1 17 rfl rfl)
theorem dX1_mark_42 : decode cX1_mark 42 = .ok (.invokespecial 348, 3) := dk_183 1 92 (dk_at dksX1_mark_1 18 rfl rfl)
theorem dX1_mark_45 : decode cX1_mark 45 = .ok (.aastore, 1) := dk_83 (dk_at dksX1_mark_1 21 rfl rfl)
theorem dX1_mark_46 : decode cX1_mark 46 = .ok (.aload_n 0, 1) := dk_42 (dk_at dksX1_mark_1 22 rfl rfl)
theorem dX1_mark_47 : decode cX1_mark 47 = .ok (.getfield 88, 3) := dk_180 0 88 (dk_at dksX1_mark_2 0 rfl rfl)
theorem dX1_mark_50 : decode cX1_mark 50 = .ok (.iload_n 1, 1) := dk_27 (dk_at dksX1_mark_2 3 rfl rfl)
theorem dX1_mark_51 : decode cX1_mark 51 = .ok (.aaload, 1) := dk_50 (dk_at dksX1_mark_2 4 rfl rfl)
theorem dX1_mark_52 : decode cX1_mark 52 = .ok (.astore_n 3, 1) := dk_78 (dk_at dksX1_mark_2 5 rfl rfl)
theorem dX1_mark_53 : decode cX1_mark 53 = .ok (.iload_n 2, 1) := dk_28 (dk_at dksX1_mark_2 6 rfl rfl)
theorem dX1_mark_54 : decode cX1_mark 54 = .ok (.ifCond .eq 52, 3) := dk_153 0 52 (dk_at dksX1_mark_2 7 rfl rfl)
theorem dX1_mark_57 : decode cX1_mark 57 = .ok (.aload_n 0, 1) := dk_42 (dk_at dksX1_mark_2 10 rfl rfl)
theorem dX1_mark_58 : decode cX1_mark 58 = .ok (.getfield 51, 3) := dk_180 0 51 (dk_at dksX1_mark_2 11 rfl rfl)
theorem dX1_mark_61 : decode cX1_mark 61 = .ok (.aload_n 3, 1) := dk_45 (dk_at dksX1_mark_2 14 rfl rfl)
theorem dX1_mark_62 : decode cX1_mark 62 = .ok (.getfield 349, 3) := dk_180 1 93 (dk_at dksX1_mark_2 15 rfl rfl)
theorem dX1_mark_65 : decode cX1_mark 65 = .ok (.invokevirtual 260, 3) := dk_182 1 4 (dk_at dksX1_mark_2 18 rfl rfl)
theorem dX1_mark_68 : decode cX1_mark 68 = .ok (.aload_n 3, 1) := dk_45 (dk_at dksX1_mark_2 21 rfl rfl)
theorem dX1_mark_69 : decode cX1_mark 69 = .ok (.getfield 350, 3) := dk_180 1 94 (dk_at dksX1_mark_3 0 rfl rfl)
theorem dX1_mark_72 : decode cX1_mark 72 = .ok (.aload_n 0, 1) := dk_42 (dk_at dksX1_mark_3 3 rfl rfl)
theorem dX1_mark_73 : decode cX1_mark 73 = .ok (.getfield 75, 3) := dk_180 0 75 (dk_at dksX1_mark_3 4 rfl rfl)
theorem dX1_mark_76 : decode cX1_mark 76 = .ok (.invokestatic 295, 3) := dk_184 1 39 (dk_at dksX1_mark_3 7 rfl rfl)
theorem dX1_mark_79 : decode cX1_mark 79 = .ok (.aload_n 3, 1) := dk_45 (dk_at dksX1_mark_3 10 rfl rfl)
theorem dX1_mark_80 : decode cX1_mark 80 = .ok (.getfield 352, 3) := dk_180 1 96 (dk_at dksX1_mark_3 11 rfl rfl)
theorem dX1_mark_83 : decode cX1_mark 83 = .ok (.aload_n 0, 1) := dk_42 (dk_at dksX1_mark_3 14 rfl rfl)
theorem dX1_mark_84 : decode cX1_mark 84 = .ok (.getfield 78, 3) := dk_180 0 78 (dk_at dksX1_mark_3 15 rfl rfl)
theorem dX1_mark_87 : decode cX1_mark 87 = .ok (.invokestatic 295, 3) := dk_184 1 39 (dk_at dksX1_mark_3 18 rfl rfl)
theorem dX1_mark_90 : decode cX1_mark 90 = .ok (.aload_n 0, 1) := dk_42 (dk_at dksX1_mark_3 21 rfl rfl)
theorem dX1_mark_91 : decode cX1_mark 91 = .ok (.aload_n 3, 1) := dk_45 (dk_at dksX1_mark_3 22 rfl rfl)
theorem dX1_mark_92 : decode cX1_mark 92 = .ok (.getfield 355, 3) := dk_180 1 99 (dk_at dksX1_mark_4 0 rfl rfl)
theorem dX1_mark_95 : decode cX1_mark 95 = .ok (.putfield 114, 3) := dk_181 0 114 (dk_at dksX1_mark_4 3 rfl rfl)
theorem dX1_mark_98 : decode cX1_mark 98 = .ok (.aload_n 0, 1) := dk_42 (dk_at dksX1_mark_4 6 rfl rfl)
theorem dX1_mark_99 : decode cX1_mark 99 = .ok (.iconst 0, 1) := dk_3 (dk_at dksX1_mark_4 7 rfl rfl)
theorem dX1_mark_100 : decode cX1_mark 100 = .ok (.putfield 117, 3) := dk_181 0 117 (dk_at dksX1_mark_4 8 rfl rfl)
theorem dX1_mark_103 : decode cX1_mark 103 = .ok (.goto 44, 3) := dk_167 0 44 (dk_at dksX1_mark_4 11 rfl rfl)
theorem dX1_mark_106 : decode cX1_mark 106 = .ok (.aload_n 3, 1) := dk_45 (dk_at dksX1_mark_4 14 rfl rfl)
theorem dX1_mark_107 : decode cX1_mark 107 = .ok (.getfield 349, 3) := dk_180 1 93 (dk_at dksX1_mark_4 15 rfl rfl)
theorem dX1_mark_110 : decode cX1_mark 110 = .ok (.aload_n 0, 1) := dk_42 (dk_at dksX1_mark_4 18 rfl rfl)
theorem dX1_mark_111 : decode cX1_mark 111 = .ok (.getfield 51, 3) := dk_180 0 51 (dk_at dksX1_mark_4 19 rfl rfl)
theorem dX1_mark_114 : decode cX1_mark 114 = .ok (.invokevirtual 260, 3) := dk_182 1 4 (dk_at dksX1_mark_5 0 rfl rfl)
theorem dX1_mark_117 : decode cX1_mark 117 = .ok (.aload_n 0, 1) := dk_42 (dk_at dksX1_mark_5 3 rfl rfl)
theorem dX1_mark_118 : decode cX1_mark 118 = .ok (.getfield 75, 3) := dk_180 0 75 (dk_at dksX1_mark_5 4 rfl rfl)
theorem dX1_mark_121 : decode cX1_mark 121 = .ok (.aload_n 3, 1) := dk_45 (dk_at dksX1_mark_5 7 rfl rfl)
theorem dX1_mark_122 : decode cX1_mark 122 = .ok (.getfield 350, 3) := dk_180 1 94 (dk_at dksX1_mark_5 8 rfl rfl)
theorem dX1_mark_125 : decode cX1_mark 125 = .ok (.invokestatic 295, 3) := dk_184 1 39 (dk_at dksX1_mark_5 11 rfl rfl)
theorem dX1_mark_128 : decode cX1_mark 128 = .ok (.aload_n 0, 1) := dk_42 (dk_at dksX1_mark_5 14 rfl rfl)
theorem dX1_mark_129 : decode cX1_mark 129 = .ok (.getfield 78, 3) := dk_180 0 78 (dk_at dksX1_mark_5 15 rfl rfl)
theorem dX1_mark_132 : decode cX1_mark 132 = .ok (.aload_n 3, 1) := dk_45 (dk_at dksX1_mark_5 18 rfl rfl)
theorem dX1_mark_133 : decode cX1_mark 133 = .ok (.getfield 352, 3) := dk_180 1 96 (dk_at dksX1_mark_5 19 rfl rfl)
theorem dX1_mark_136 : decode cX1_mark 136 = .ok (.invokestatic 295, 3) := dk_184 1 39 (dk_at dksX1_mark_6 0 rfl rfl)
theorem dX1_mark_139 : decode cX1_mark 139 = .ok (.aload_n 3, 1) := dk_45 (dk_at dksX1_mark_6 3 rfl rfl)
theorem dX1_mark_140 : decode cX1_mark 140 = .ok (.aload_n 0, 1) := dk_42 (dk_at dksX1_mark_6 4 rfl rfl)
theorem dX1_mark_141 : decode cX1_mark 141 = .ok (.getfield 114, 3) := dk_180 0 114 (dk_at dksX1_mark_6 5 rfl rfl)
theorem dX1_mark_144 : decode cX1_mark 144 = .ok (.putfield 355, 3) := dk_181 1 99 (dk_at dksX1_mark_6 8 rfl rfl)
theorem dX1_mark_147 : decode cX1_mark 147 = .ok (.iconst 1, 1) := dk_4 (dk_at dksX1_mark_6 11 rfl rfl)
theorem dX1_mark_148 : decode cX1_mark 148 = .ok (.ireturn, 1) := dk_172 (dk_at dksX1_mark_6 12 rfl rfl)
abbrev cX1_count : ByteArray := prog_1_method_66_code
def yX1_count : MethodName := ⟨RX1, "count", "(I)I"⟩
def dkwX1_count_5 : List UInt8 := [182, 0, 127, 172, 42, 180, 0, 114, 172, 42, 180, 0, 117, 172, 42, 180, 0, 96, 172, 2, 172]
abbrev dktX1_count_5 : List UInt8 := dkwX1_count_5 ++ []
def dkwX1_count_4 : List UInt8 := [180, 0, 151, 184, 1, 89, 172, 42, 180, 0, 51, 180, 0, 220, 172, 42, 182, 1, 102, 172, 42, 180, 0, 44]
abbrev dktX1_count_4 : List UInt8 := dkwX1_count_4 ++ dktX1_count_5
def dkwX1_count_3 : List UInt8 := [180, 0, 197, 172, 42, 180, 0, 51, 180, 0, 194, 172, 42, 180, 0, 51, 182, 1, 27, 172, 42, 180, 0, 51]
abbrev dktX1_count_3 : List UInt8 := dkwX1_count_3 ++ dktX1_count_4
def dkwX1_count_2 : List UInt8 := [42, 182, 0, 142, 172, 42, 182, 0, 149, 172, 42, 180, 0, 35, 182, 0, 202, 172, 42, 180, 0, 51]
abbrev dktX1_count_2 : List UInt8 := dkwX1_count_2 ++ dktX1_count_3
def dkwX1_count_1 : List UInt8 := [170, 0, 0, 0, 0, 0, 156, 0, 0, 0, 0, 0, 0, 0, 12, 0, 0, 0, 67, 0, 0, 0, 72, 0, 0, 0, 77, 0, 0, 0, 85, 0, 0, 0, 93, 0, 0, 0, 101, 0, 0, 0, 109, 0, 0, 0, 120, 0, 0, 0, 128, 0, 0, 0, 133, 0, 0, 0, 141, 0, 0, 0, 146, 0, 0, 0, 151]
abbrev dktX1_count_1 : List UInt8 := dkwX1_count_1 ++ dktX1_count_2
def dkwX1_count_0 : List UInt8 := [27]
abbrev dktX1_count_0 : List UInt8 := dkwX1_count_0 ++ dktX1_count_1
theorem dksX1_count_0 : cX1_count.data.toList.drop 0 = dktX1_count_0 := by decide +kernel
theorem dksX1_count_1 : cX1_count.data.toList.drop 1 = dktX1_count_1 := dk_seg dksX1_count_0 1 rfl rfl
theorem dksX1_count_2 : cX1_count.data.toList.drop 68 = dktX1_count_2 := dk_seg dksX1_count_1 67 rfl rfl
theorem dksX1_count_3 : cX1_count.data.toList.drop 90 = dktX1_count_3 := dk_seg dksX1_count_2 22 rfl rfl
theorem dksX1_count_4 : cX1_count.data.toList.drop 114 = dktX1_count_4 := dk_seg dksX1_count_3 24 rfl rfl
theorem dksX1_count_5 : cX1_count.data.toList.drop 138 = dktX1_count_5 := dk_seg dksX1_count_4 24 rfl rfl
theorem dX1_count_0 : decode cX1_count 0 = .ok (.iload_n 1, 1) := dk_27 (dk_at dksX1_count_0 0 rfl rfl)
theorem dX1_count_1 : decode cX1_count 1 = .ok (.tableswitch 156 0 12 #[67, 72, 77, 85, 93, 101, 109, 120, 128, 133, 141, 146, 151], 67) := by decide +kernel
theorem dX1_count_68 : decode cX1_count 68 = .ok (.aload_n 0, 1) := dk_42 (dk_at dksX1_count_2 0 rfl rfl)
theorem dX1_count_69 : decode cX1_count 69 = .ok (.invokevirtual 142, 3) := dk_182 0 142 (dk_at dksX1_count_2 1 rfl rfl)
theorem dX1_count_72 : decode cX1_count 72 = .ok (.ireturn, 1) := dk_172 (dk_at dksX1_count_2 4 rfl rfl)
theorem dX1_count_73 : decode cX1_count 73 = .ok (.aload_n 0, 1) := dk_42 (dk_at dksX1_count_2 5 rfl rfl)
theorem dX1_count_74 : decode cX1_count 74 = .ok (.invokevirtual 149, 3) := dk_182 0 149 (dk_at dksX1_count_2 6 rfl rfl)
theorem dX1_count_77 : decode cX1_count 77 = .ok (.ireturn, 1) := dk_172 (dk_at dksX1_count_2 9 rfl rfl)
theorem dX1_count_78 : decode cX1_count 78 = .ok (.aload_n 0, 1) := dk_42 (dk_at dksX1_count_2 10 rfl rfl)
theorem dX1_count_79 : decode cX1_count 79 = .ok (.getfield 35, 3) := dk_180 0 35 (dk_at dksX1_count_2 11 rfl rfl)
theorem dX1_count_82 : decode cX1_count 82 = .ok (.invokevirtual 202, 3) := dk_182 0 202 (dk_at dksX1_count_2 14 rfl rfl)
theorem dX1_count_85 : decode cX1_count 85 = .ok (.ireturn, 1) := dk_172 (dk_at dksX1_count_2 17 rfl rfl)
theorem dX1_count_86 : decode cX1_count 86 = .ok (.aload_n 0, 1) := dk_42 (dk_at dksX1_count_2 18 rfl rfl)
theorem dX1_count_87 : decode cX1_count 87 = .ok (.getfield 51, 3) := dk_180 0 51 (dk_at dksX1_count_2 19 rfl rfl)
theorem dX1_count_90 : decode cX1_count 90 = .ok (.getfield 197, 3) := dk_180 0 197 (dk_at dksX1_count_3 0 rfl rfl)
theorem dX1_count_93 : decode cX1_count 93 = .ok (.ireturn, 1) := dk_172 (dk_at dksX1_count_3 3 rfl rfl)
theorem dX1_count_94 : decode cX1_count 94 = .ok (.aload_n 0, 1) := dk_42 (dk_at dksX1_count_3 4 rfl rfl)
theorem dX1_count_95 : decode cX1_count 95 = .ok (.getfield 51, 3) := dk_180 0 51 (dk_at dksX1_count_3 5 rfl rfl)
theorem dX1_count_98 : decode cX1_count 98 = .ok (.getfield 194, 3) := dk_180 0 194 (dk_at dksX1_count_3 8 rfl rfl)
theorem dX1_count_101 : decode cX1_count 101 = .ok (.ireturn, 1) := dk_172 (dk_at dksX1_count_3 11 rfl rfl)
theorem dX1_count_102 : decode cX1_count 102 = .ok (.aload_n 0, 1) := dk_42 (dk_at dksX1_count_3 12 rfl rfl)
theorem dX1_count_103 : decode cX1_count 103 = .ok (.getfield 51, 3) := dk_180 0 51 (dk_at dksX1_count_3 13 rfl rfl)
theorem dX1_count_106 : decode cX1_count 106 = .ok (.invokevirtual 283, 3) := dk_182 1 27 (dk_at dksX1_count_3 16 rfl rfl)
theorem dX1_count_109 : decode cX1_count 109 = .ok (.ireturn, 1) := dk_172 (dk_at dksX1_count_3 19 rfl rfl)
theorem dX1_count_110 : decode cX1_count 110 = .ok (.aload_n 0, 1) := dk_42 (dk_at dksX1_count_3 20 rfl rfl)
theorem dX1_count_111 : decode cX1_count 111 = .ok (.getfield 51, 3) := dk_180 0 51 (dk_at dksX1_count_3 21 rfl rfl)
theorem dX1_count_114 : decode cX1_count 114 = .ok (.getfield 151, 3) := dk_180 0 151 (dk_at dksX1_count_4 0 rfl rfl)
theorem dX1_count_117 : decode cX1_count 117 = .ok (.invokestatic 345, 3) := dk_184 1 89 (dk_at dksX1_count_4 3 rfl rfl)
theorem dX1_count_120 : decode cX1_count 120 = .ok (.ireturn, 1) := dk_172 (dk_at dksX1_count_4 6 rfl rfl)
theorem dX1_count_121 : decode cX1_count 121 = .ok (.aload_n 0, 1) := dk_42 (dk_at dksX1_count_4 7 rfl rfl)
theorem dX1_count_122 : decode cX1_count 122 = .ok (.getfield 51, 3) := dk_180 0 51 (dk_at dksX1_count_4 8 rfl rfl)
theorem dX1_count_125 : decode cX1_count 125 = .ok (.getfield 220, 3) := dk_180 0 220 (dk_at dksX1_count_4 11 rfl rfl)
theorem dX1_count_128 : decode cX1_count 128 = .ok (.ireturn, 1) := dk_172 (dk_at dksX1_count_4 14 rfl rfl)
theorem dX1_count_129 : decode cX1_count 129 = .ok (.aload_n 0, 1) := dk_42 (dk_at dksX1_count_4 15 rfl rfl)
theorem dX1_count_130 : decode cX1_count 130 = .ok (.invokevirtual 358, 3) := dk_182 1 102 (dk_at dksX1_count_4 16 rfl rfl)
theorem dX1_count_133 : decode cX1_count 133 = .ok (.ireturn, 1) := dk_172 (dk_at dksX1_count_4 19 rfl rfl)
theorem dX1_count_134 : decode cX1_count 134 = .ok (.aload_n 0, 1) := dk_42 (dk_at dksX1_count_4 20 rfl rfl)
theorem dX1_count_135 : decode cX1_count 135 = .ok (.getfield 44, 3) := dk_180 0 44 (dk_at dksX1_count_4 21 rfl rfl)
theorem dX1_count_138 : decode cX1_count 138 = .ok (.invokevirtual 127, 3) := dk_182 0 127 (dk_at dksX1_count_5 0 rfl rfl)
theorem dX1_count_141 : decode cX1_count 141 = .ok (.ireturn, 1) := dk_172 (dk_at dksX1_count_5 3 rfl rfl)
theorem dX1_count_142 : decode cX1_count 142 = .ok (.aload_n 0, 1) := dk_42 (dk_at dksX1_count_5 4 rfl rfl)
theorem dX1_count_143 : decode cX1_count 143 = .ok (.getfield 114, 3) := dk_180 0 114 (dk_at dksX1_count_5 5 rfl rfl)
theorem dX1_count_146 : decode cX1_count 146 = .ok (.ireturn, 1) := dk_172 (dk_at dksX1_count_5 8 rfl rfl)
theorem dX1_count_147 : decode cX1_count 147 = .ok (.aload_n 0, 1) := dk_42 (dk_at dksX1_count_5 9 rfl rfl)
theorem dX1_count_148 : decode cX1_count 148 = .ok (.getfield 117, 3) := dk_180 0 117 (dk_at dksX1_count_5 10 rfl rfl)
theorem dX1_count_151 : decode cX1_count 151 = .ok (.ireturn, 1) := dk_172 (dk_at dksX1_count_5 13 rfl rfl)
theorem dX1_count_152 : decode cX1_count 152 = .ok (.aload_n 0, 1) := dk_42 (dk_at dksX1_count_5 14 rfl rfl)
theorem dX1_count_153 : decode cX1_count 153 = .ok (.getfield 96, 3) := dk_180 0 96 (dk_at dksX1_count_5 15 rfl rfl)
theorem dX1_count_156 : decode cX1_count 156 = .ok (.ireturn, 1) := dk_172 (dk_at dksX1_count_5 18 rfl rfl)
theorem dX1_count_157 : decode cX1_count 157 = .ok (.iconst (-1), 1) := dk_2 (dk_at dksX1_count_5 19 rfl rfl)
theorem dX1_count_158 : decode cX1_count 158 = .ok (.ireturn, 1) := dk_172 (dk_at dksX1_count_5 20 rfl rfl)
abbrev cX1_faded : ByteArray := prog_1_method_65_code
def yX1_faded : MethodName := ⟨RX1, "faded", "()I"⟩
def dkwX1_faded_1 : List UInt8 := [27, 4, 28, 120, 128, 60, 132, 2, 1, 167, 255, 227, 27, 172]
abbrev dktX1_faded_1 : List UInt8 := dkwX1_faded_1 ++ []
def dkwX1_faded_0 : List UInt8 := [3, 60, 3, 61, 28, 42, 182, 0, 149, 162, 0, 27, 42, 180, 0, 51, 180, 0, 208, 28, 46, 154, 0, 9]
abbrev dktX1_faded_0 : List UInt8 := dkwX1_faded_0 ++ dktX1_faded_1
theorem dksX1_faded_0 : cX1_faded.data.toList.drop 0 = dktX1_faded_0 := by decide +kernel
theorem dksX1_faded_1 : cX1_faded.data.toList.drop 24 = dktX1_faded_1 := dk_seg dksX1_faded_0 24 rfl rfl
theorem dX1_faded_0 : decode cX1_faded 0 = .ok (.iconst 0, 1) := dk_3 (dk_at dksX1_faded_0 0 rfl rfl)
theorem dX1_faded_1 : decode cX1_faded 1 = .ok (.istore_n 1, 1) := dk_60 (dk_at dksX1_faded_0 1 rfl rfl)
theorem dX1_faded_2 : decode cX1_faded 2 = .ok (.iconst 0, 1) := dk_3 (dk_at dksX1_faded_0 2 rfl rfl)
theorem dX1_faded_3 : decode cX1_faded 3 = .ok (.istore_n 2, 1) := dk_61 (dk_at dksX1_faded_0 3 rfl rfl)
theorem dX1_faded_4 : decode cX1_faded 4 = .ok (.iload_n 2, 1) := dk_28 (dk_at dksX1_faded_0 4 rfl rfl)
theorem dX1_faded_5 : decode cX1_faded 5 = .ok (.aload_n 0, 1) := dk_42 (dk_at dksX1_faded_0 5 rfl rfl)
theorem dX1_faded_6 : decode cX1_faded 6 = .ok (.invokevirtual 149, 3) := dk_182 0 149 (dk_at dksX1_faded_0 6 rfl rfl)
theorem dX1_faded_9 : decode cX1_faded 9 = .ok (.if_icmp .ge 27, 3) := dk_162 0 27 (dk_at dksX1_faded_0 9 rfl rfl)
theorem dX1_faded_12 : decode cX1_faded 12 = .ok (.aload_n 0, 1) := dk_42 (dk_at dksX1_faded_0 12 rfl rfl)
theorem dX1_faded_13 : decode cX1_faded 13 = .ok (.getfield 51, 3) := dk_180 0 51 (dk_at dksX1_faded_0 13 rfl rfl)
theorem dX1_faded_16 : decode cX1_faded 16 = .ok (.getfield 208, 3) := dk_180 0 208 (dk_at dksX1_faded_0 16 rfl rfl)
theorem dX1_faded_19 : decode cX1_faded 19 = .ok (.iload_n 2, 1) := dk_28 (dk_at dksX1_faded_0 19 rfl rfl)
theorem dX1_faded_20 : decode cX1_faded 20 = .ok (.iaload, 1) := dk_46 (dk_at dksX1_faded_0 20 rfl rfl)
theorem dX1_faded_21 : decode cX1_faded 21 = .ok (.ifCond .ne 9, 3) := dk_154 0 9 (dk_at dksX1_faded_0 21 rfl rfl)
theorem dX1_faded_24 : decode cX1_faded 24 = .ok (.iload_n 1, 1) := dk_27 (dk_at dksX1_faded_1 0 rfl rfl)
theorem dX1_faded_25 : decode cX1_faded 25 = .ok (.iconst 1, 1) := dk_4 (dk_at dksX1_faded_1 1 rfl rfl)
theorem dX1_faded_26 : decode cX1_faded 26 = .ok (.iload_n 2, 1) := dk_28 (dk_at dksX1_faded_1 2 rfl rfl)
theorem dX1_faded_27 : decode cX1_faded 27 = .ok (.ishl, 1) := dk_120 (dk_at dksX1_faded_1 3 rfl rfl)
theorem dX1_faded_28 : decode cX1_faded 28 = .ok (.ior, 1) := dk_128 (dk_at dksX1_faded_1 4 rfl rfl)
theorem dX1_faded_29 : decode cX1_faded 29 = .ok (.istore_n 1, 1) := dk_60 (dk_at dksX1_faded_1 5 rfl rfl)
theorem dX1_faded_30 : decode cX1_faded 30 = .ok (.iinc 2 1, 3) := dk_132 2 1 (dk_at dksX1_faded_1 6 rfl rfl)
theorem dX1_faded_33 : decode cX1_faded 33 = .ok (.goto (-29), 3) := dk_167 255 227 (dk_at dksX1_faded_1 9 rfl rfl)
theorem dX1_faded_36 : decode cX1_faded 36 = .ok (.iload_n 1, 1) := dk_27 (dk_at dksX1_faded_1 12 rfl rfl)
theorem dX1_faded_37 : decode cX1_faded 37 = .ok (.ireturn, 1) := dk_172 (dk_at dksX1_faded_1 13 rfl rfl)
abbrev cX1_rests : ByteArray := prog_1_method_60_code
def yX1_rests : MethodName := ⟨RX1, "rests", "(IIII)I"⟩
def dkwX1_rests_6 : List UInt8 := [2, 160, 0, 7, 4, 167, 0, 4, 3, 184, 1, 63, 21, 5, 172]
abbrev dktX1_rests_6 : List UInt8 := dkwX1_rests_6 ++ []
def dkwX1_rests_5 : List UInt8 := [167, 0, 16, 21, 5, 21, 4, 160, 0, 6, 21, 6, 172, 132, 5, 1, 132, 6, 1, 167, 255, 169, 21, 4]
abbrev dktX1_rests_5 : List UInt8 := dkwX1_rests_5 ++ dktX1_rests_6
def dkwX1_rests_4 : List UInt8 := [4, 21, 8, 100, 21, 7, 184, 1, 67, 27, 28, 29, 21, 8, 21, 7, 184, 1, 67, 164, 0, 6]
abbrev dktX1_rests_4 : List UInt8 := dkwX1_rests_4 ++ dktX1_rests_5
def dkwX1_rests_3 : List UInt8 := [21, 7, 100, 21, 8, 184, 1, 67, 27, 28, 29, 21, 7, 21, 8, 184, 1, 67, 163, 0, 44, 27, 28, 29]
abbrev dktX1_rests_3 : List UInt8 := dkwX1_rests_3 ++ dktX1_rests_4
def dkwX1_rests_2 : List UInt8 := [54, 6, 21, 6, 7, 162, 0, 87, 21, 6, 5, 108, 54, 7, 21, 6, 5, 112, 54, 8, 27, 28, 29, 4]
abbrev dktX1_rests_2 : List UInt8 := dkwX1_rests_2 ++ dktX1_rests_3
def dkwX1_rests_1 : List UInt8 := [184, 0, 145, 153, 0, 13, 21, 4, 2, 161, 0, 7, 4, 167, 0, 4, 3, 184, 1, 63, 3, 54, 5, 3]
abbrev dktX1_rests_1 : List UInt8 := dkwX1_rests_1 ++ dktX1_rests_2
def dkwX1_rests_0 : List UInt8 := [27, 3, 16, 9, 184, 0, 145, 153, 0, 33, 28, 3, 16, 9, 184, 0, 145, 153, 0, 23, 29, 3, 16, 9]
abbrev dktX1_rests_0 : List UInt8 := dkwX1_rests_0 ++ dktX1_rests_1
theorem dksX1_rests_0 : cX1_rests.data.toList.drop 0 = dktX1_rests_0 := by decide +kernel
theorem dksX1_rests_1 : cX1_rests.data.toList.drop 24 = dktX1_rests_1 := dk_seg dksX1_rests_0 24 rfl rfl
theorem dksX1_rests_2 : cX1_rests.data.toList.drop 48 = dktX1_rests_2 := dk_seg dksX1_rests_1 24 rfl rfl
theorem dksX1_rests_3 : cX1_rests.data.toList.drop 72 = dktX1_rests_3 := dk_seg dksX1_rests_2 24 rfl rfl
theorem dksX1_rests_4 : cX1_rests.data.toList.drop 96 = dktX1_rests_4 := dk_seg dksX1_rests_3 24 rfl rfl
theorem dksX1_rests_5 : cX1_rests.data.toList.drop 118 = dktX1_rests_5 := dk_seg dksX1_rests_4 22 rfl rfl
theorem dksX1_rests_6 : cX1_rests.data.toList.drop 142 = dktX1_rests_6 := dk_seg dksX1_rests_5 24 rfl rfl
theorem dX1_rests_0 : decode cX1_rests 0 = .ok (.iload_n 1, 1) := dk_27 (dk_at dksX1_rests_0 0 rfl rfl)
theorem dX1_rests_1 : decode cX1_rests 1 = .ok (.iconst 0, 1) := dk_3 (dk_at dksX1_rests_0 1 rfl rfl)
theorem dX1_rests_2 : decode cX1_rests 2 = .ok (.bipush 9, 2) := dk_16 9 (dk_at dksX1_rests_0 2 rfl rfl)
theorem dX1_rests_4 : decode cX1_rests 4 = .ok (.invokestatic 145, 3) := dk_184 0 145 (dk_at dksX1_rests_0 4 rfl rfl)
theorem dX1_rests_7 : decode cX1_rests 7 = .ok (.ifCond .eq 33, 3) := dk_153 0 33 (dk_at dksX1_rests_0 7 rfl rfl)
theorem dX1_rests_10 : decode cX1_rests 10 = .ok (.iload_n 2, 1) := dk_28 (dk_at dksX1_rests_0 10 rfl rfl)
theorem dX1_rests_11 : decode cX1_rests 11 = .ok (.iconst 0, 1) := dk_3 (dk_at dksX1_rests_0 11 rfl rfl)
theorem dX1_rests_12 : decode cX1_rests 12 = .ok (.bipush 9, 2) := dk_16 9 (dk_at dksX1_rests_0 12 rfl rfl)
theorem dX1_rests_14 : decode cX1_rests 14 = .ok (.invokestatic 145, 3) := dk_184 0 145 (dk_at dksX1_rests_0 14 rfl rfl)
theorem dX1_rests_17 : decode cX1_rests 17 = .ok (.ifCond .eq 23, 3) := dk_153 0 23 (dk_at dksX1_rests_0 17 rfl rfl)
theorem dX1_rests_20 : decode cX1_rests 20 = .ok (.iload_n 3, 1) := dk_29 (dk_at dksX1_rests_0 20 rfl rfl)
theorem dX1_rests_21 : decode cX1_rests 21 = .ok (.iconst 0, 1) := dk_3 (dk_at dksX1_rests_0 21 rfl rfl)
theorem dX1_rests_22 : decode cX1_rests 22 = .ok (.bipush 9, 2) := dk_16 9 (dk_at dksX1_rests_0 22 rfl rfl)
theorem dX1_rests_24 : decode cX1_rests 24 = .ok (.invokestatic 145, 3) := dk_184 0 145 (dk_at dksX1_rests_1 0 rfl rfl)
theorem dX1_rests_27 : decode cX1_rests 27 = .ok (.ifCond .eq 13, 3) := dk_153 0 13 (dk_at dksX1_rests_1 3 rfl rfl)
theorem dX1_rests_30 : decode cX1_rests 30 = .ok (.iload 4, 2) := dk_21 4 (dk_at dksX1_rests_1 6 rfl rfl)
theorem dX1_rests_32 : decode cX1_rests 32 = .ok (.iconst (-1), 1) := dk_2 (dk_at dksX1_rests_1 8 rfl rfl)
theorem dX1_rests_33 : decode cX1_rests 33 = .ok (.if_icmp .lt 7, 3) := dk_161 0 7 (dk_at dksX1_rests_1 9 rfl rfl)
theorem dX1_rests_36 : decode cX1_rests 36 = .ok (.iconst 1, 1) := dk_4 (dk_at dksX1_rests_1 12 rfl rfl)
theorem dX1_rests_37 : decode cX1_rests 37 = .ok (.goto 4, 3) := dk_167 0 4 (dk_at dksX1_rests_1 13 rfl rfl)
theorem dX1_rests_40 : decode cX1_rests 40 = .ok (.iconst 0, 1) := dk_3 (dk_at dksX1_rests_1 16 rfl rfl)
theorem dX1_rests_41 : decode cX1_rests 41 = .ok (.invokestatic 319, 3) := dk_184 1 63 (dk_at dksX1_rests_1 17 rfl rfl)
theorem dX1_rests_44 : decode cX1_rests 44 = .ok (.iconst 0, 1) := dk_3 (dk_at dksX1_rests_1 20 rfl rfl)
theorem dX1_rests_45 : decode cX1_rests 45 = .ok (.istore 5, 2) := dk_54 5 (dk_at dksX1_rests_1 21 rfl rfl)
theorem dX1_rests_47 : decode cX1_rests 47 = .ok (.iconst 0, 1) := dk_3 (dk_at dksX1_rests_1 23 rfl rfl)
theorem dX1_rests_48 : decode cX1_rests 48 = .ok (.istore 6, 2) := dk_54 6 (dk_at dksX1_rests_2 0 rfl rfl)
theorem dX1_rests_50 : decode cX1_rests 50 = .ok (.iload 6, 2) := dk_21 6 (dk_at dksX1_rests_2 2 rfl rfl)
theorem dX1_rests_52 : decode cX1_rests 52 = .ok (.iconst 4, 1) := dk_7 (dk_at dksX1_rests_2 4 rfl rfl)
theorem dX1_rests_53 : decode cX1_rests 53 = .ok (.if_icmp .ge 87, 3) := dk_162 0 87 (dk_at dksX1_rests_2 5 rfl rfl)
theorem dX1_rests_56 : decode cX1_rests 56 = .ok (.iload 6, 2) := dk_21 6 (dk_at dksX1_rests_2 8 rfl rfl)
theorem dX1_rests_58 : decode cX1_rests 58 = .ok (.iconst 2, 1) := dk_5 (dk_at dksX1_rests_2 10 rfl rfl)
theorem dX1_rests_59 : decode cX1_rests 59 = .ok (.idiv, 1) := dk_108 (dk_at dksX1_rests_2 11 rfl rfl)
theorem dX1_rests_60 : decode cX1_rests 60 = .ok (.istore 7, 2) := dk_54 7 (dk_at dksX1_rests_2 12 rfl rfl)
theorem dX1_rests_62 : decode cX1_rests 62 = .ok (.iload 6, 2) := dk_21 6 (dk_at dksX1_rests_2 14 rfl rfl)
theorem dX1_rests_64 : decode cX1_rests 64 = .ok (.iconst 2, 1) := dk_5 (dk_at dksX1_rests_2 16 rfl rfl)
theorem dX1_rests_65 : decode cX1_rests 65 = .ok (.irem, 1) := dk_112 (dk_at dksX1_rests_2 17 rfl rfl)
theorem dX1_rests_66 : decode cX1_rests 66 = .ok (.istore 8, 2) := dk_54 8 (dk_at dksX1_rests_2 18 rfl rfl)
theorem dX1_rests_68 : decode cX1_rests 68 = .ok (.iload_n 1, 1) := dk_27 (dk_at dksX1_rests_2 20 rfl rfl)
theorem dX1_rests_69 : decode cX1_rests 69 = .ok (.iload_n 2, 1) := dk_28 (dk_at dksX1_rests_2 21 rfl rfl)
theorem dX1_rests_70 : decode cX1_rests 70 = .ok (.iload_n 3, 1) := dk_29 (dk_at dksX1_rests_2 22 rfl rfl)
theorem dX1_rests_71 : decode cX1_rests 71 = .ok (.iconst 1, 1) := dk_4 (dk_at dksX1_rests_2 23 rfl rfl)
theorem dX1_rests_72 : decode cX1_rests 72 = .ok (.iload 7, 2) := dk_21 7 (dk_at dksX1_rests_3 0 rfl rfl)
theorem dX1_rests_74 : decode cX1_rests 74 = .ok (.isub, 1) := dk_100 (dk_at dksX1_rests_3 2 rfl rfl)
theorem dX1_rests_75 : decode cX1_rests 75 = .ok (.iload 8, 2) := dk_21 8 (dk_at dksX1_rests_3 3 rfl rfl)
theorem dX1_rests_77 : decode cX1_rests 77 = .ok (.invokestatic 323, 3) := dk_184 1 67 (dk_at dksX1_rests_3 5 rfl rfl)
theorem dX1_rests_80 : decode cX1_rests 80 = .ok (.iload_n 1, 1) := dk_27 (dk_at dksX1_rests_3 8 rfl rfl)
theorem dX1_rests_81 : decode cX1_rests 81 = .ok (.iload_n 2, 1) := dk_28 (dk_at dksX1_rests_3 9 rfl rfl)
theorem dX1_rests_82 : decode cX1_rests 82 = .ok (.iload_n 3, 1) := dk_29 (dk_at dksX1_rests_3 10 rfl rfl)
theorem dX1_rests_83 : decode cX1_rests 83 = .ok (.iload 7, 2) := dk_21 7 (dk_at dksX1_rests_3 11 rfl rfl)
theorem dX1_rests_85 : decode cX1_rests 85 = .ok (.iload 8, 2) := dk_21 8 (dk_at dksX1_rests_3 13 rfl rfl)
theorem dX1_rests_87 : decode cX1_rests 87 = .ok (.invokestatic 323, 3) := dk_184 1 67 (dk_at dksX1_rests_3 15 rfl rfl)
theorem dX1_rests_90 : decode cX1_rests 90 = .ok (.if_icmp .gt 44, 3) := dk_163 0 44 (dk_at dksX1_rests_3 18 rfl rfl)
theorem dX1_rests_93 : decode cX1_rests 93 = .ok (.iload_n 1, 1) := dk_27 (dk_at dksX1_rests_3 21 rfl rfl)
theorem dX1_rests_94 : decode cX1_rests 94 = .ok (.iload_n 2, 1) := dk_28 (dk_at dksX1_rests_3 22 rfl rfl)
theorem dX1_rests_95 : decode cX1_rests 95 = .ok (.iload_n 3, 1) := dk_29 (dk_at dksX1_rests_3 23 rfl rfl)
theorem dX1_rests_96 : decode cX1_rests 96 = .ok (.iconst 1, 1) := dk_4 (dk_at dksX1_rests_4 0 rfl rfl)
theorem dX1_rests_97 : decode cX1_rests 97 = .ok (.iload 8, 2) := dk_21 8 (dk_at dksX1_rests_4 1 rfl rfl)
theorem dX1_rests_99 : decode cX1_rests 99 = .ok (.isub, 1) := dk_100 (dk_at dksX1_rests_4 3 rfl rfl)
theorem dX1_rests_100 : decode cX1_rests 100 = .ok (.iload 7, 2) := dk_21 7 (dk_at dksX1_rests_4 4 rfl rfl)
theorem dX1_rests_102 : decode cX1_rests 102 = .ok (.invokestatic 323, 3) := dk_184 1 67 (dk_at dksX1_rests_4 6 rfl rfl)
theorem dX1_rests_105 : decode cX1_rests 105 = .ok (.iload_n 1, 1) := dk_27 (dk_at dksX1_rests_4 9 rfl rfl)
theorem dX1_rests_106 : decode cX1_rests 106 = .ok (.iload_n 2, 1) := dk_28 (dk_at dksX1_rests_4 10 rfl rfl)
theorem dX1_rests_107 : decode cX1_rests 107 = .ok (.iload_n 3, 1) := dk_29 (dk_at dksX1_rests_4 11 rfl rfl)
theorem dX1_rests_108 : decode cX1_rests 108 = .ok (.iload 8, 2) := dk_21 8 (dk_at dksX1_rests_4 12 rfl rfl)
theorem dX1_rests_110 : decode cX1_rests 110 = .ok (.iload 7, 2) := dk_21 7 (dk_at dksX1_rests_4 14 rfl rfl)
theorem dX1_rests_112 : decode cX1_rests 112 = .ok (.invokestatic 323, 3) := dk_184 1 67 (dk_at dksX1_rests_4 16 rfl rfl)
theorem dX1_rests_115 : decode cX1_rests 115 = .ok (.if_icmp .le 6, 3) := dk_164 0 6 (dk_at dksX1_rests_4 19 rfl rfl)
theorem dX1_rests_118 : decode cX1_rests 118 = .ok (.goto 16, 3) := dk_167 0 16 (dk_at dksX1_rests_5 0 rfl rfl)
theorem dX1_rests_121 : decode cX1_rests 121 = .ok (.iload 5, 2) := dk_21 5 (dk_at dksX1_rests_5 3 rfl rfl)
theorem dX1_rests_123 : decode cX1_rests 123 = .ok (.iload 4, 2) := dk_21 4 (dk_at dksX1_rests_5 5 rfl rfl)
theorem dX1_rests_125 : decode cX1_rests 125 = .ok (.if_icmp .ne 6, 3) := dk_160 0 6 (dk_at dksX1_rests_5 7 rfl rfl)
theorem dX1_rests_128 : decode cX1_rests 128 = .ok (.iload 6, 2) := dk_21 6 (dk_at dksX1_rests_5 10 rfl rfl)
theorem dX1_rests_130 : decode cX1_rests 130 = .ok (.ireturn, 1) := dk_172 (dk_at dksX1_rests_5 12 rfl rfl)
theorem dX1_rests_131 : decode cX1_rests 131 = .ok (.iinc 5 1, 3) := dk_132 5 1 (dk_at dksX1_rests_5 13 rfl rfl)
theorem dX1_rests_134 : decode cX1_rests 134 = .ok (.iinc 6 1, 3) := dk_132 6 1 (dk_at dksX1_rests_5 16 rfl rfl)
theorem dX1_rests_137 : decode cX1_rests 137 = .ok (.goto (-87), 3) := dk_167 255 169 (dk_at dksX1_rests_5 19 rfl rfl)
theorem dX1_rests_140 : decode cX1_rests 140 = .ok (.iload 4, 2) := dk_21 4 (dk_at dksX1_rests_5 22 rfl rfl)
theorem dX1_rests_142 : decode cX1_rests 142 = .ok (.iconst (-1), 1) := dk_2 (dk_at dksX1_rests_6 0 rfl rfl)
theorem dX1_rests_143 : decode cX1_rests 143 = .ok (.if_icmp .ne 7, 3) := dk_160 0 7 (dk_at dksX1_rests_6 1 rfl rfl)
theorem dX1_rests_146 : decode cX1_rests 146 = .ok (.iconst 1, 1) := dk_4 (dk_at dksX1_rests_6 4 rfl rfl)
theorem dX1_rests_147 : decode cX1_rests 147 = .ok (.goto 4, 3) := dk_167 0 4 (dk_at dksX1_rests_6 5 rfl rfl)
theorem dX1_rests_150 : decode cX1_rests 150 = .ok (.iconst 0, 1) := dk_3 (dk_at dksX1_rests_6 8 rfl rfl)
theorem dX1_rests_151 : decode cX1_rests 151 = .ok (.invokestatic 319, 3) := dk_184 1 63 (dk_at dksX1_rests_6 9 rfl rfl)
theorem dX1_rests_154 : decode cX1_rests 154 = .ok (.iload 5, 2) := dk_21 5 (dk_at dksX1_rests_6 12 rfl rfl)
theorem dX1_rests_156 : decode cX1_rests 156 = .ok (.ireturn, 1) := dk_172 (dk_at dksX1_rests_6 14 rfl rfl)
abbrev cX1_need : ByteArray := prog_1_method_4_code
def yX1_need : MethodName := ⟨RX1, "need", "(Z)V"⟩
def dkwX1_need_0 : List UInt8 := [26, 154, 0, 11, 187, 0, 10, 89, 183, 0, 12, 191, 177]
abbrev dktX1_need_0 : List UInt8 := dkwX1_need_0 ++ []
theorem dksX1_need_0 : cX1_need.data.toList.drop 0 = dktX1_need_0 := by decide +kernel
theorem dX1_need_0 : decode cX1_need 0 = .ok (.iload_n 0, 1) := dk_26 (dk_at dksX1_need_0 0 rfl rfl)
theorem dX1_need_1 : decode cX1_need 1 = .ok (.ifCond .ne 11, 3) := dk_154 0 11 (dk_at dksX1_need_0 1 rfl rfl)
theorem dX1_need_4 : decode cX1_need 4 = .ok (.new 10, 3) := dk_187 0 10 (dk_at dksX1_need_0 4 rfl rfl)
theorem dX1_need_7 : decode cX1_need 7 = .ok (.dup, 1) := dk_89 (dk_at dksX1_need_0 7 rfl rfl)
theorem dX1_need_8 : decode cX1_need 8 = .ok (.invokespecial 12, 3) := dk_183 0 12 (dk_at dksX1_need_0 8 rfl rfl)
theorem dX1_need_11 : decode cX1_need 11 = .ok (.athrow, 1) := dk_191 (dk_at dksX1_need_0 11 rfl rfl)
theorem dX1_need_12 : decode cX1_need 12 = .ok (.return_, 1) := dk_177 (dk_at dksX1_need_0 12 rfl rfl)
abbrev cX1_gets : ByteArray := prog_1_method_59_code
def yX1_gets : MethodName := ⟨RX1, "gets", "(IIIII)I"⟩
def dkwX1_gets_1 : List UInt8 := [160, 0, 7, 28, 167, 0, 4, 3, 172]
abbrev dktX1_gets_1 : List UInt8 := dkwX1_gets_1 ++ []
def dkwX1_gets_0 : List UInt8 := [29, 4, 160, 0, 18, 21, 4, 4, 160, 0, 8, 26, 116, 167, 0, 18, 27, 167, 0, 14, 21, 4, 4]
abbrev dktX1_gets_0 : List UInt8 := dkwX1_gets_0 ++ dktX1_gets_1
theorem dksX1_gets_0 : cX1_gets.data.toList.drop 0 = dktX1_gets_0 := by decide +kernel
theorem dksX1_gets_1 : cX1_gets.data.toList.drop 23 = dktX1_gets_1 := dk_seg dksX1_gets_0 23 rfl rfl
theorem dX1_gets_0 : decode cX1_gets 0 = .ok (.iload_n 3, 1) := dk_29 (dk_at dksX1_gets_0 0 rfl rfl)
theorem dX1_gets_1 : decode cX1_gets 1 = .ok (.iconst 1, 1) := dk_4 (dk_at dksX1_gets_0 1 rfl rfl)
theorem dX1_gets_2 : decode cX1_gets 2 = .ok (.if_icmp .ne 18, 3) := dk_160 0 18 (dk_at dksX1_gets_0 2 rfl rfl)
theorem dX1_gets_5 : decode cX1_gets 5 = .ok (.iload 4, 2) := dk_21 4 (dk_at dksX1_gets_0 5 rfl rfl)
theorem dX1_gets_7 : decode cX1_gets 7 = .ok (.iconst 1, 1) := dk_4 (dk_at dksX1_gets_0 7 rfl rfl)
theorem dX1_gets_8 : decode cX1_gets 8 = .ok (.if_icmp .ne 8, 3) := dk_160 0 8 (dk_at dksX1_gets_0 8 rfl rfl)
theorem dX1_gets_11 : decode cX1_gets 11 = .ok (.iload_n 0, 1) := dk_26 (dk_at dksX1_gets_0 11 rfl rfl)
theorem dX1_gets_12 : decode cX1_gets 12 = .ok (.ineg, 1) := dk_116 (dk_at dksX1_gets_0 12 rfl rfl)
theorem dX1_gets_13 : decode cX1_gets 13 = .ok (.goto 18, 3) := dk_167 0 18 (dk_at dksX1_gets_0 13 rfl rfl)
theorem dX1_gets_16 : decode cX1_gets 16 = .ok (.iload_n 1, 1) := dk_27 (dk_at dksX1_gets_0 16 rfl rfl)
theorem dX1_gets_17 : decode cX1_gets 17 = .ok (.goto 14, 3) := dk_167 0 14 (dk_at dksX1_gets_0 17 rfl rfl)
theorem dX1_gets_20 : decode cX1_gets 20 = .ok (.iload 4, 2) := dk_21 4 (dk_at dksX1_gets_0 20 rfl rfl)
theorem dX1_gets_22 : decode cX1_gets 22 = .ok (.iconst 1, 1) := dk_4 (dk_at dksX1_gets_0 22 rfl rfl)
theorem dX1_gets_23 : decode cX1_gets 23 = .ok (.if_icmp .ne 7, 3) := dk_160 0 7 (dk_at dksX1_gets_1 0 rfl rfl)
theorem dX1_gets_26 : decode cX1_gets 26 = .ok (.iload_n 2, 1) := dk_28 (dk_at dksX1_gets_1 3 rfl rfl)
theorem dX1_gets_27 : decode cX1_gets 27 = .ok (.goto 4, 3) := dk_167 0 4 (dk_at dksX1_gets_1 4 rfl rfl)
theorem dX1_gets_30 : decode cX1_gets 30 = .ok (.iconst 0, 1) := dk_3 (dk_at dksX1_gets_1 7 rfl rfl)
theorem dX1_gets_31 : decode cX1_gets 31 = .ok (.ireturn, 1) := dk_172 (dk_at dksX1_gets_1 8 rfl rfl)
theorem q112 : (Jvm.Cond.initialized "DateVale") ∈ lw_all := lw_g (lw_at lw_m1 1 rfl) rfl
theorem q155 : (Jvm.Cond.instantiable "DateVale" (21 : Nat)) ∈ lw_all := lw_g (lw_at lw_m1 44 rfl) rfl
theorem q157 : (Jvm.Cond.instanceMethod ({ cls := "DateVale", name := "<init>", desc := "()V" } : Jvm.MethodName)) ∈ lw_all := lw_g (lw_at lw_m1 46 rfl) rfl
theorem q158 : (Jvm.Cond.code ({ cls := "DateVale", name := "<init>", desc := "()V" } : Jvm.MethodName) prog_1_method_7_code (1 : Nat) (Option.none : Option Jvm.ClassFile.FieldType)) ∈ lw_all := lw_g (lw_at lw_m1 47 rfl) rfl
theorem q159 : (Jvm.Cond.methodLink "DateVale" (16 : Nat) ({ cls := "java/lang/Object", name := "<init>", desc := "()V" } : Jvm.MethodName)) ∈ lw_all := lw_g (lw_at lw_m1 48 rfl) rfl
theorem q162 : (Jvm.Cond.classLink "DateVale" (25 : Nat) "DateVale$Reader") ∈ lw_all := lw_g (lw_at lw_m1 51 rfl) rfl
theorem q164 : (Jvm.Cond.methodLinkNest "DateVale" (27 : Nat) ({ cls := "DateVale$Reader", name := "<init>", desc := "()V" } : Jvm.MethodName) "DateVale") ∈ lw_tbl := lw_at lw_m1 53 rfl
theorem q194 : (Jvm.Cond.classLink "DateVale" (32 : Nat) "DateVale$Vale") ∈ lw_all := lw_g (lw_at lw_m1 83 rfl) rfl
theorem q196 : (Jvm.Cond.methodLinkNest "DateVale" (34 : Nat) ({ cls := "DateVale$Vale", name := "<init>", desc := "()V" } : Jvm.MethodName) "DateVale") ∈ lw_tbl := lw_at lw_m1 85 rfl
theorem q230 : (Jvm.Cond.fieldLinkNest "DateVale" (124 : Nat) "DateVale$Vale" "homes" "Ljava/util/ArrayList;" "DateVale") ∈ lw_tbl := lw_at lw_m1 119 rfl
theorem q234 : (Jvm.Cond.fieldLinkNest "DateVale" (137 : Nat) "DateVale$Vale" "guests" "Ljava/util/ArrayList;" "DateVale") ∈ lw_tbl := lw_at lw_m1 123 rfl
theorem q239 : (Jvm.Cond.fieldLinkNest "DateVale" (231 : Nat) "DateVale$Vale" "fades" "LDateVale$Expression;" "DateVale") ∈ lw_tbl := lw_at lw_m1 128 rfl
theorem q249 : (Jvm.Cond.classLink "DateVale" (39 : Nat) "java/util/ArrayList") ∈ lw_all := lw_g (lw_at lw_m1 138 rfl) rfl
theorem q250 : (Jvm.Cond.methodLink "DateVale" (41 : Nat) ({ cls := "java/util/ArrayList", name := "<init>", desc := "(I)V" } : Jvm.MethodName)) ∈ lw_all := lw_g (lw_at lw_m1 139 rfl) rfl
theorem q251 : (Jvm.Cond.classLink "DateVale" (48 : Nat) "DateVale$State") ∈ lw_all := lw_g (lw_at lw_m1 140 rfl) rfl
theorem q253 : (Jvm.Cond.methodLinkNest "DateVale" (50 : Nat) ({ cls := "DateVale$State", name := "<init>", desc := "()V" } : Jvm.MethodName) "DateVale") ∈ lw_tbl := lw_at lw_m1 142 rfl
theorem q259 : (Jvm.Cond.fieldLinkNest "DateVale" (151 : Nat) "DateVale$State" "beds" "[I" "DateVale") ∈ lw_tbl := lw_at lw_m1 148 rfl
theorem q261 : (Jvm.Cond.fieldLinkNest "DateVale" (208 : Nat) "DateVale$State" "says" "[I" "DateVale") ∈ lw_tbl := lw_at lw_m1 150 rfl
theorem q265 : (Jvm.Cond.fieldLinkNest "DateVale" (154 : Nat) "DateVale$State" "where" "[I" "DateVale") ∈ lw_tbl := lw_at lw_m1 154 rfl
theorem q267 : (Jvm.Cond.fieldLinkNest "DateVale" (199 : Nat) "DateVale$State" "been" "[I" "DateVale") ∈ lw_tbl := lw_at lw_m1 156 rfl
theorem q269 : (Jvm.Cond.fieldLinkNest "DateVale" (223 : Nat) "DateVale$State" "times" "[I" "DateVale") ∈ lw_tbl := lw_at lw_m1 158 rfl
theorem q271 : (Jvm.Cond.fieldLinkNest "DateVale" (211 : Nat) "DateVale$State" "month" "[I" "DateVale") ∈ lw_tbl := lw_at lw_m1 160 rfl
theorem q273 : (Jvm.Cond.fieldLinkNest "DateVale" (194 : Nat) "DateVale$State" "date" "I" "DateVale") ∈ lw_tbl := lw_at lw_m1 162 rfl
theorem q275 : (Jvm.Cond.fieldLinkNest "DateVale" (197 : Nat) "DateVale$State" "year" "I" "DateVale") ∈ lw_tbl := lw_at lw_m1 164 rfl
theorem q277 : (Jvm.Cond.fieldLinkNest "DateVale" (220 : Nat) "DateVale$State" "refused" "I" "DateVale") ∈ lw_tbl := lw_at lw_m1 166 rfl
theorem q299 : (Jvm.Cond.classLink "DateVale" (81 : Nat) "[[I") ∈ lw_all := lw_g (lw_at lw_m1 188 rfl) rfl
theorem q301 : (Jvm.Cond.classLink "DateVale" (86 : Nat) "DateVale$Mark") ∈ lw_all := lw_g (lw_at lw_m1 190 rfl) rfl
theorem q303 : (Jvm.Cond.methodLink "DateVale" (92 : Nat) ({ cls := "DateVale$State", name := "begin", desc := "(LDateVale$Vale;)V" } : Jvm.MethodName)) ∈ lw_all := lw_g (lw_at lw_m1 192 rfl) rfl
theorem q327 : (Jvm.Cond.fieldLink "DateVale" (21 : Nat) "DateVale" "tape" "[B") ∈ lw_all := lw_g (lw_at lw_m1 216 rfl) rfl
theorem q328 : (Jvm.Cond.fieldLink "DateVale" (28 : Nat) "DateVale" "reader" "LDateVale$Reader;") ∈ lw_all := lw_g (lw_at lw_m1 217 rfl) rfl
theorem q329 : (Jvm.Cond.fieldLink "DateVale" (35 : Nat) "DateVale" "vale" "LDateVale$Vale;") ∈ lw_all := lw_g (lw_at lw_m1 218 rfl) rfl
theorem q330 : (Jvm.Cond.fieldLink "DateVale" (44 : Nat) "DateVale" "lines" "Ljava/util/ArrayList;") ∈ lw_all := lw_g (lw_at lw_m1 219 rfl) rfl
theorem q331 : (Jvm.Cond.fieldLink "DateVale" (51 : Nat) "DateVale" "state" "LDateVale$State;") ∈ lw_all := lw_g (lw_at lw_m1 220 rfl) rfl
theorem q332 : (Jvm.Cond.fieldLink "DateVale" (55 : Nat) "DateVale" "trial" "LDateVale$State;") ∈ lw_all := lw_g (lw_at lw_m1 221 rfl) rfl
theorem q333 : (Jvm.Cond.fieldLink "DateVale" (58 : Nat) "DateVale" "facts" "[I") ∈ lw_all := lw_g (lw_at lw_m1 222 rfl) rfl
theorem q334 : (Jvm.Cond.fieldLink "DateVale" (96 : Nat) "DateVale" "taped" "I") ∈ lw_all := lw_g (lw_at lw_m1 223 rfl) rfl
theorem q335 : (Jvm.Cond.fieldLink "DateVale" (191 : Nat) "DateVale" "refusedNow" "I") ∈ lw_all := lw_g (lw_at lw_m1 224 rfl) rfl
theorem q336 : (Jvm.Cond.fieldLink "DateVale" (62 : Nat) "DateVale" "undone" "[LDateVale$State;") ∈ lw_all := lw_g (lw_at lw_m1 225 rfl) rfl
theorem q337 : (Jvm.Cond.fieldLink "DateVale" (117 : Nat) "DateVale" "done" "I") ∈ lw_all := lw_g (lw_at lw_m1 226 rfl) rfl
theorem q338 : (Jvm.Cond.fieldLink "DateVale" (66 : Nat) "DateVale" "row" "[I") ∈ lw_all := lw_g (lw_at lw_m1 227 rfl) rfl
theorem q339 : (Jvm.Cond.fieldLink "DateVale" (69 : Nat) "DateVale" "bestRow" "[I") ∈ lw_all := lw_g (lw_at lw_m1 228 rfl) rfl
theorem q340 : (Jvm.Cond.fieldLink "DateVale" (289 : Nat) "DateVale" "fewest" "I") ∈ lw_all := lw_g (lw_at lw_m1 229 rfl) rfl
theorem q341 : (Jvm.Cond.fieldLink "DateVale" (72 : Nat) "DateVale" "apart" "[I") ∈ lw_all := lw_g (lw_at lw_m1 230 rfl) rfl
theorem q342 : (Jvm.Cond.fieldLink "DateVale" (75 : Nat) "DateVale" "seenIn" "[I") ∈ lw_all := lw_g (lw_at lw_m1 231 rfl) rfl
theorem q343 : (Jvm.Cond.fieldLink "DateVale" (78 : Nat) "DateVale" "seenAt" "[I") ∈ lw_all := lw_g (lw_at lw_m1 232 rfl) rfl
theorem q344 : (Jvm.Cond.fieldLink "DateVale" (114 : Nat) "DateVale" "seenMany" "I") ∈ lw_all := lw_g (lw_at lw_m1 233 rfl) rfl
theorem q345 : (Jvm.Cond.fieldLink "DateVale" (83 : Nat) "DateVale" "places" "[[I") ∈ lw_all := lw_g (lw_at lw_m1 234 rfl) rfl
theorem q346 : (Jvm.Cond.fieldLink "DateVale" (327 : Nat) "DateVale" "g" "J") ∈ lw_all := lw_g (lw_at lw_m1 235 rfl) rfl
theorem q347 : (Jvm.Cond.fieldLink "DateVale" (88 : Nat) "DateVale" "marks" "[LDateVale$Mark;") ∈ lw_all := lw_g (lw_at lw_m1 236 rfl) rfl
theorem q348 : (Jvm.Cond.laysFinal "DateVale" "DateVale" "tape" "[B") ∈ lw_all := lw_g (lw_at lw_m1 237 rfl) rfl
theorem q349 : (Jvm.Cond.soleField "DateVale" "tape") ∈ lw_all := lw_g (lw_at lw_m1 238 rfl) rfl
theorem q350 : (Jvm.Cond.laysFinal "DateVale" "DateVale" "reader" "LDateVale$Reader;") ∈ lw_all := lw_g (lw_at lw_m1 239 rfl) rfl
theorem q351 : (Jvm.Cond.soleField "DateVale" "reader") ∈ lw_all := lw_g (lw_at lw_m2 0 rfl) rfl
theorem q352 : (Jvm.Cond.lays "DateVale" "DateVale" "vale" "LDateVale$Vale;") ∈ lw_all := lw_g (lw_at lw_m2 1 rfl) rfl
theorem q353 : (Jvm.Cond.soleField "DateVale" "vale") ∈ lw_all := lw_g (lw_at lw_m2 2 rfl) rfl
theorem q354 : (Jvm.Cond.lays "DateVale" "DateVale" "lines" "Ljava/util/ArrayList;") ∈ lw_all := lw_g (lw_at lw_m2 3 rfl) rfl
theorem q355 : (Jvm.Cond.soleField "DateVale" "lines") ∈ lw_all := lw_g (lw_at lw_m2 4 rfl) rfl
theorem q356 : (Jvm.Cond.laysFinal "DateVale" "DateVale" "state" "LDateVale$State;") ∈ lw_all := lw_g (lw_at lw_m2 5 rfl) rfl
theorem q357 : (Jvm.Cond.soleField "DateVale" "state") ∈ lw_all := lw_g (lw_at lw_m2 6 rfl) rfl
theorem q358 : (Jvm.Cond.laysFinal "DateVale" "DateVale" "trial" "LDateVale$State;") ∈ lw_all := lw_g (lw_at lw_m2 7 rfl) rfl
theorem q359 : (Jvm.Cond.soleField "DateVale" "trial") ∈ lw_all := lw_g (lw_at lw_m2 8 rfl) rfl
theorem q360 : (Jvm.Cond.laysFinal "DateVale" "DateVale" "facts" "[I") ∈ lw_all := lw_g (lw_at lw_m2 9 rfl) rfl
theorem q361 : (Jvm.Cond.soleField "DateVale" "facts") ∈ lw_all := lw_g (lw_at lw_m2 10 rfl) rfl
theorem q362 : (Jvm.Cond.lays "DateVale" "DateVale" "taped" "I") ∈ lw_all := lw_g (lw_at lw_m2 11 rfl) rfl
theorem q363 : (Jvm.Cond.soleField "DateVale" "taped") ∈ lw_all := lw_g (lw_at lw_m2 12 rfl) rfl
theorem q364 : (Jvm.Cond.lays "DateVale" "DateVale" "refusedNow" "I") ∈ lw_all := lw_g (lw_at lw_m2 13 rfl) rfl
theorem q365 : (Jvm.Cond.soleField "DateVale" "refusedNow") ∈ lw_all := lw_g (lw_at lw_m2 14 rfl) rfl
theorem q366 : (Jvm.Cond.laysFinal "DateVale" "DateVale" "undone" "[LDateVale$State;") ∈ lw_all := lw_g (lw_at lw_m2 15 rfl) rfl
theorem q367 : (Jvm.Cond.soleField "DateVale" "undone") ∈ lw_all := lw_g (lw_at lw_m2 16 rfl) rfl
theorem q368 : (Jvm.Cond.lays "DateVale" "DateVale" "done" "I") ∈ lw_all := lw_g (lw_at lw_m2 17 rfl) rfl
theorem q369 : (Jvm.Cond.soleField "DateVale" "done") ∈ lw_all := lw_g (lw_at lw_m2 18 rfl) rfl
theorem q370 : (Jvm.Cond.laysFinal "DateVale" "DateVale" "row" "[I") ∈ lw_all := lw_g (lw_at lw_m2 19 rfl) rfl
theorem q371 : (Jvm.Cond.soleField "DateVale" "row") ∈ lw_all := lw_g (lw_at lw_m2 20 rfl) rfl
theorem q372 : (Jvm.Cond.laysFinal "DateVale" "DateVale" "bestRow" "[I") ∈ lw_all := lw_g (lw_at lw_m2 21 rfl) rfl
theorem q373 : (Jvm.Cond.soleField "DateVale" "bestRow") ∈ lw_all := lw_g (lw_at lw_m2 22 rfl) rfl
theorem q374 : (Jvm.Cond.lays "DateVale" "DateVale" "fewest" "I") ∈ lw_all := lw_g (lw_at lw_m2 23 rfl) rfl
theorem q375 : (Jvm.Cond.soleField "DateVale" "fewest") ∈ lw_all := lw_g (lw_at lw_m2 24 rfl) rfl
theorem q376 : (Jvm.Cond.laysFinal "DateVale" "DateVale" "apart" "[I") ∈ lw_all := lw_g (lw_at lw_m2 25 rfl) rfl
theorem q377 : (Jvm.Cond.soleField "DateVale" "apart") ∈ lw_all := lw_g (lw_at lw_m2 26 rfl) rfl
theorem q378 : (Jvm.Cond.laysFinal "DateVale" "DateVale" "seenIn" "[I") ∈ lw_all := lw_g (lw_at lw_m2 27 rfl) rfl
theorem q379 : (Jvm.Cond.soleField "DateVale" "seenIn") ∈ lw_all := lw_g (lw_at lw_m2 28 rfl) rfl
theorem q380 : (Jvm.Cond.laysFinal "DateVale" "DateVale" "seenAt" "[I") ∈ lw_all := lw_g (lw_at lw_m2 29 rfl) rfl
theorem q381 : (Jvm.Cond.soleField "DateVale" "seenAt") ∈ lw_all := lw_g (lw_at lw_m2 30 rfl) rfl
theorem q382 : (Jvm.Cond.lays "DateVale" "DateVale" "seenMany" "I") ∈ lw_all := lw_g (lw_at lw_m2 31 rfl) rfl
theorem q383 : (Jvm.Cond.soleField "DateVale" "seenMany") ∈ lw_all := lw_g (lw_at lw_m2 32 rfl) rfl
theorem q384 : (Jvm.Cond.laysFinal "DateVale" "DateVale" "places" "[[I") ∈ lw_all := lw_g (lw_at lw_m2 33 rfl) rfl
theorem q385 : (Jvm.Cond.soleField "DateVale" "places") ∈ lw_all := lw_g (lw_at lw_m2 34 rfl) rfl
theorem q386 : (Jvm.Cond.lays "DateVale" "DateVale" "g" "J") ∈ lw_all := lw_g (lw_at lw_m2 35 rfl) rfl
theorem q387 : (Jvm.Cond.soleField "DateVale" "g") ∈ lw_all := lw_g (lw_at lw_m2 36 rfl) rfl
theorem q388 : (Jvm.Cond.laysFinal "DateVale" "DateVale" "marks" "[LDateVale$Mark;") ∈ lw_all := lw_g (lw_at lw_m2 37 rfl) rfl
theorem q389 : (Jvm.Cond.soleField "DateVale" "marks") ∈ lw_all := lw_g (lw_at lw_m2 38 rfl) rfl
theorem q390 : (Jvm.Cond.superclass "DateVale" "java/lang/Object") ∈ lw_all := lw_g (lw_at lw_m2 39 rfl) rfl
theorem q392 : (Jvm.Cond.instanceMethod ({ cls := "DateVale", name := "feed", desc := "(JJJ)I" } : Jvm.MethodName)) ∈ lw_all := lw_g (lw_at lw_m2 41 rfl) rfl
theorem q393 : (Jvm.Cond.selects "DateVale" ({ cls := "DateVale", name := "feed", desc := "(JJJ)I" } : Jvm.MethodName) ({ cls := "DateVale", name := "feed", desc := "(JJJ)I" } : Jvm.MethodName)) ∈ lw_all := lw_g (lw_at lw_m2 42 rfl) rfl
theorem q394 : (Jvm.Cond.code ({ cls := "DateVale", name := "feed", desc := "(JJJ)I" } : Jvm.MethodName) prog_1_method_8_code (9 : Nat) (Option.some Jvm.ClassFile.FieldType.int)) ∈ lw_all := lw_g (lw_at lw_m2 43 rfl) rfl
theorem q396 : (Jvm.Cond.instanceMethod ({ cls := "DateVale", name := "vale", desc := "()I" } : Jvm.MethodName)) ∈ lw_all := lw_g (lw_at lw_m2 45 rfl) rfl
theorem q397 : (Jvm.Cond.selects "DateVale" ({ cls := "DateVale", name := "vale", desc := "()I" } : Jvm.MethodName) ({ cls := "DateVale", name := "vale", desc := "()I" } : Jvm.MethodName)) ∈ lw_all := lw_g (lw_at lw_m2 46 rfl) rfl
theorem q398 : (Jvm.Cond.codeWith ({ cls := "DateVale", name := "vale", desc := "()I" } : Jvm.MethodName) prog_1_method_10_code (2 : Nat) (Option.some Jvm.ClassFile.FieldType.int) [((4 : Nat), (15 : Nat), (18 : Nat), (109 : Nat))]) ∈ lw_all := lw_g (lw_at lw_m2 47 rfl) rfl
theorem q399 : (Jvm.Cond.classLink "DateVale" (109 : Nat) "DateVale$Wrong") ∈ lw_all := lw_g (lw_at lw_m2 48 rfl) rfl
theorem q400 : (Jvm.Cond.methodLink "DateVale" (103 : Nat) ({ cls := "DateVale", name := "reads", desc := "()V" } : Jvm.MethodName)) ∈ lw_all := lw_g (lw_at lw_m2 49 rfl) rfl
theorem q401 : (Jvm.Cond.privateMethod ({ cls := "DateVale", name := "reads", desc := "()V" } : Jvm.MethodName)) ∈ lw_tbl := lw_at lw_m2 50 rfl
theorem q402 : (Jvm.Cond.instanceMethod ({ cls := "DateVale", name := "reads", desc := "()V" } : Jvm.MethodName)) ∈ lw_all := lw_g (lw_at lw_m2 51 rfl) rfl
theorem q403 : (Jvm.Cond.code ({ cls := "DateVale", name := "reads", desc := "()V" } : Jvm.MethodName) prog_1_method_9_code (1 : Nat) (Option.none : Option Jvm.ClassFile.FieldType)) ∈ lw_all := lw_g (lw_at lw_m2 52 rfl) rfl
theorem q404 : (Jvm.Cond.methodLink "DateVale" (100 : Nat) ({ cls := "DateVale$Reader", name := "begin", desc := "([BI)V" } : Jvm.MethodName)) ∈ lw_all := lw_g (lw_at lw_m2 53 rfl) rfl
theorem q509 : (Jvm.Cond.methodLink "DateVale" (106 : Nat) ({ cls := "DateVale$Reader", name := "vale", desc := "()LDateVale$Vale;" } : Jvm.MethodName)) ∈ lw_all := lw_g (lw_at lw_m2 158 rfl) rfl
theorem q597 : (Jvm.Cond.fieldLinkNest "DateVale" (111 : Nat) "DateVale$Wrong" "fault" "I" "DateVale") ∈ lw_tbl := lw_at lw_m3 6 rfl
theorem q816 : (Jvm.Cond.fieldLinkNest "DateVale" (184 : Nat) "DateVale$Home" "lends" "I" "DateVale") ∈ lw_tbl := lw_at lw_m3 225 rfl
theorem q862 : (Jvm.Cond.selects "DateVale" ({ cls := "java/lang/Object", name := "getClass", desc := "()Ljava/lang/Class;" } : Jvm.MethodName) ({ cls := "java/lang/Object", name := "getClass", desc := "()Ljava/lang/Class;" } : Jvm.MethodName)) ∈ lw_all := lw_g (lw_at lw_m4 31 rfl) rfl
theorem q903 : (Jvm.Cond.static ({ cls := "DateVale", name := "isIn", desc := "(II)Z" } : Jvm.MethodName)) ∈ lw_all := lw_g (lw_at lw_m4 72 rfl) rfl
theorem q904 : (Jvm.Cond.code ({ cls := "DateVale", name := "isIn", desc := "(II)Z" } : Jvm.MethodName) prog_1_method_3_code (2 : Nat) (Option.some Jvm.ClassFile.FieldType.boolean)) ∈ lw_all := lw_g (lw_at lw_m4 73 rfl) rfl
theorem q922 : (Jvm.Cond.fieldLink "DateVale" (177 : Nat) "DateVale$Guest" "house" "I") ∈ lw_all := lw_g (lw_at lw_m4 91 rfl) rfl
theorem q926 : (Jvm.Cond.fieldLink "DateVale" (258 : Nat) "DateVale$Guest" "month" "I") ∈ lw_all := lw_g (lw_at lw_m4 95 rfl) rfl
theorem q929 : (Jvm.Cond.fieldLink "DateVale" (170 : Nat) "DateVale$Guest" "foes" "I") ∈ lw_all := lw_g (lw_at lw_m4 98 rfl) rfl
theorem q1062 : (Jvm.Cond.instanceMethod ({ cls := "DateVale", name := "year", desc := "()I" } : Jvm.MethodName)) ∈ lw_all := lw_g (lw_at lw_m4 231 rfl) rfl
theorem q1063 : (Jvm.Cond.selects "DateVale" ({ cls := "DateVale", name := "year", desc := "()I" } : Jvm.MethodName) ({ cls := "DateVale", name := "year", desc := "()I" } : Jvm.MethodName)) ∈ lw_all := lw_g (lw_at lw_m4 232 rfl) rfl
theorem q1064 : (Jvm.Cond.codeWith ({ cls := "DateVale", name := "year", desc := "()I" } : Jvm.MethodName) prog_1_method_11_code (2 : Nat) (Option.some Jvm.ClassFile.FieldType.int) [((4 : Nat), (19 : Nat), (22 : Nat), (109 : Nat))]) ∈ lw_all := lw_g (lw_at lw_m4 233 rfl) rfl
theorem q1065 : (Jvm.Cond.methodLink "DateVale" (120 : Nat) ({ cls := "DateVale$Reader", name := "year", desc := "(LDateVale$Vale;)Ljava/util/ArrayList;" } : Jvm.MethodName)) ∈ lw_all := lw_g (lw_at lw_m4 234 rfl) rfl
theorem q1120 : (Jvm.Cond.instanceMethod ({ cls := "DateVale", name := "house", desc := "(II)I" } : Jvm.MethodName)) ∈ lw_all := lw_g (lw_at lw_m5 49 rfl) rfl
theorem q1121 : (Jvm.Cond.selects "DateVale" ({ cls := "DateVale", name := "house", desc := "(II)I" } : Jvm.MethodName) ({ cls := "DateVale", name := "house", desc := "(II)I" } : Jvm.MethodName)) ∈ lw_all := lw_g (lw_at lw_m5 50 rfl) rfl
theorem q1122 : (Jvm.Cond.code ({ cls := "DateVale", name := "house", desc := "(II)I" } : Jvm.MethodName) prog_1_method_24_code (3 : Nat) (Option.some Jvm.ClassFile.FieldType.int)) ∈ lw_all := lw_g (lw_at lw_m5 51 rfl) rfl
theorem q1123 : (Jvm.Cond.methodLink "DateVale" (245 : Nat) ({ cls := "DateVale", name := "isHouse", desc := "(I)Z" } : Jvm.MethodName)) ∈ lw_all := lw_g (lw_at lw_m5 52 rfl) rfl
theorem q1124 : (Jvm.Cond.privateMethod ({ cls := "DateVale", name := "isHouse", desc := "(I)Z" } : Jvm.MethodName)) ∈ lw_tbl := lw_at lw_m5 53 rfl
theorem q1125 : (Jvm.Cond.instanceMethod ({ cls := "DateVale", name := "isHouse", desc := "(I)Z" } : Jvm.MethodName)) ∈ lw_all := lw_g (lw_at lw_m5 54 rfl) rfl
theorem q1126 : (Jvm.Cond.code ({ cls := "DateVale", name := "isHouse", desc := "(I)Z" } : Jvm.MethodName) prog_1_method_16_code (2 : Nat) (Option.some Jvm.ClassFile.FieldType.boolean)) ∈ lw_all := lw_g (lw_at lw_m5 55 rfl) rfl
theorem q1127 : (Jvm.Cond.methodLink "DateVale" (142 : Nat) ({ cls := "DateVale", name := "houses", desc := "()I" } : Jvm.MethodName)) ∈ lw_all := lw_g (lw_at lw_m5 56 rfl) rfl
theorem q1128 : (Jvm.Cond.privateMethod ({ cls := "DateVale", name := "houses", desc := "()I" } : Jvm.MethodName)) ∈ lw_tbl := lw_at lw_m5 57 rfl
theorem q1129 : (Jvm.Cond.instanceMethod ({ cls := "DateVale", name := "houses", desc := "()I" } : Jvm.MethodName)) ∈ lw_all := lw_g (lw_at lw_m5 58 rfl) rfl
theorem q1130 : (Jvm.Cond.code ({ cls := "DateVale", name := "houses", desc := "()I" } : Jvm.MethodName) prog_1_method_12_code (1 : Nat) (Option.some Jvm.ClassFile.FieldType.int)) ∈ lw_all := lw_g (lw_at lw_m5 59 rfl) rfl
theorem q1131 : (Jvm.Cond.methodLink "DateVale" (127 : Nat) ({ cls := "java/util/ArrayList", name := "size", desc := "()I" } : Jvm.MethodName)) ∈ lw_all := lw_g (lw_at lw_m5 60 rfl) rfl
theorem q1132 : (Jvm.Cond.methodLink "DateVale" (145 : Nat) ({ cls := "DateVale", name := "in", desc := "(III)Z" } : Jvm.MethodName)) ∈ lw_all := lw_g (lw_at lw_m5 61 rfl) rfl
theorem q1133 : (Jvm.Cond.static ({ cls := "DateVale", name := "in", desc := "(III)Z" } : Jvm.MethodName)) ∈ lw_all := lw_g (lw_at lw_m5 62 rfl) rfl
theorem q1134 : (Jvm.Cond.code ({ cls := "DateVale", name := "in", desc := "(III)Z" } : Jvm.MethodName) prog_1_method_1_code (3 : Nat) (Option.some Jvm.ClassFile.FieldType.boolean)) ∈ lw_all := lw_g (lw_at lw_m5 63 rfl) rfl
theorem q1135 : (Jvm.Cond.methodLink "DateVale" (163 : Nat) ({ cls := "DateVale", name := "freeIn", desc := "(LDateVale$State;I)I" } : Jvm.MethodName)) ∈ lw_all := lw_g (lw_at lw_m5 64 rfl) rfl
theorem q1136 : (Jvm.Cond.privateMethod ({ cls := "DateVale", name := "freeIn", desc := "(LDateVale$State;I)I" } : Jvm.MethodName)) ∈ lw_tbl := lw_at lw_m5 65 rfl
theorem q1137 : (Jvm.Cond.instanceMethod ({ cls := "DateVale", name := "freeIn", desc := "(LDateVale$State;I)I" } : Jvm.MethodName)) ∈ lw_all := lw_g (lw_at lw_m5 66 rfl) rfl
theorem q1138 : (Jvm.Cond.code ({ cls := "DateVale", name := "freeIn", desc := "(LDateVale$State;I)I" } : Jvm.MethodName) prog_1_method_18_code (5 : Nat) (Option.some Jvm.ClassFile.FieldType.int)) ∈ lw_all := lw_g (lw_at lw_m5 67 rfl) rfl
theorem q1139 : (Jvm.Cond.methodLink "DateVale" (149 : Nat) ({ cls := "DateVale", name := "guests", desc := "()I" } : Jvm.MethodName)) ∈ lw_all := lw_g (lw_at lw_m5 68 rfl) rfl
theorem q1140 : (Jvm.Cond.privateMethod ({ cls := "DateVale", name := "guests", desc := "()I" } : Jvm.MethodName)) ∈ lw_tbl := lw_at lw_m5 69 rfl
theorem q1141 : (Jvm.Cond.instanceMethod ({ cls := "DateVale", name := "guests", desc := "()I" } : Jvm.MethodName)) ∈ lw_all := lw_g (lw_at lw_m5 70 rfl) rfl
theorem q1142 : (Jvm.Cond.code ({ cls := "DateVale", name := "guests", desc := "()I" } : Jvm.MethodName) prog_1_method_14_code (1 : Nat) (Option.some Jvm.ClassFile.FieldType.int)) ∈ lw_all := lw_g (lw_at lw_m5 71 rfl) rfl
theorem q1143 : (Jvm.Cond.methodLink "DateVale" (157 : Nat) ({ cls := "DateVale", name := "guest", desc := "(I)LDateVale$Guest;" } : Jvm.MethodName)) ∈ lw_all := lw_g (lw_at lw_m5 72 rfl) rfl
theorem q1144 : (Jvm.Cond.privateMethod ({ cls := "DateVale", name := "guest", desc := "(I)LDateVale$Guest;" } : Jvm.MethodName)) ∈ lw_tbl := lw_at lw_m5 73 rfl
theorem q1145 : (Jvm.Cond.instanceMethod ({ cls := "DateVale", name := "guest", desc := "(I)LDateVale$Guest;" } : Jvm.MethodName)) ∈ lw_all := lw_g (lw_at lw_m5 74 rfl) rfl
theorem q1146 : (Jvm.Cond.code ({ cls := "DateVale", name := "guest", desc := "(I)LDateVale$Guest;" } : Jvm.MethodName) prog_1_method_15_code (2 : Nat) (Option.some (Jvm.ClassFile.FieldType.object "DateVale$Guest"))) ∈ lw_all := lw_g (lw_at lw_m5 75 rfl) rfl
theorem q1147 : (Jvm.Cond.methodLink "DateVale" (131 : Nat) ({ cls := "java/util/ArrayList", name := "get", desc := "(I)Ljava/lang/Object;" } : Jvm.MethodName)) ∈ lw_all := lw_g (lw_at lw_m5 76 rfl) rfl
theorem q1148 : (Jvm.Cond.classLink "DateVale" (140 : Nat) "DateVale$Guest") ∈ lw_all := lw_g (lw_at lw_m5 77 rfl) rfl
theorem q1149 : (Jvm.Cond.methodLink "DateVale" (161 : Nat) ({ cls := "DateVale$Guest", name := "beds", desc := "()I" } : Jvm.MethodName)) ∈ lw_all := lw_g (lw_at lw_m5 78 rfl) rfl
theorem q1159 : (Jvm.Cond.methodLink "DateVale" (167 : Nat) ({ cls := "DateVale$State", name := "in", desc := "(I)I" } : Jvm.MethodName)) ∈ lw_all := lw_g (lw_at lw_m5 88 rfl) rfl
theorem q1163 : (Jvm.Cond.methodLink "DateVale" (180 : Nat) ({ cls := "DateVale", name := "home", desc := "(I)LDateVale$Home;" } : Jvm.MethodName)) ∈ lw_all := lw_g (lw_at lw_m5 92 rfl) rfl
theorem q1164 : (Jvm.Cond.privateMethod ({ cls := "DateVale", name := "home", desc := "(I)LDateVale$Home;" } : Jvm.MethodName)) ∈ lw_tbl := lw_at lw_m5 93 rfl
theorem q1165 : (Jvm.Cond.instanceMethod ({ cls := "DateVale", name := "home", desc := "(I)LDateVale$Home;" } : Jvm.MethodName)) ∈ lw_all := lw_g (lw_at lw_m5 94 rfl) rfl
theorem q1166 : (Jvm.Cond.code ({ cls := "DateVale", name := "home", desc := "(I)LDateVale$Home;" } : Jvm.MethodName) prog_1_method_13_code (2 : Nat) (Option.some (Jvm.ClassFile.FieldType.object "DateVale$Home"))) ∈ lw_all := lw_g (lw_at lw_m5 95 rfl) rfl
theorem q1167 : (Jvm.Cond.classLink "DateVale" (135 : Nat) "DateVale$Home") ∈ lw_all := lw_g (lw_at lw_m5 96 rfl) rfl
theorem q1168 : (Jvm.Cond.methodLink "DateVale" (249 : Nat) ({ cls := "DateVale", name := "talk", desc := "(I)I" } : Jvm.MethodName)) ∈ lw_all := lw_g (lw_at lw_m5 97 rfl) rfl
theorem q1169 : (Jvm.Cond.privateMethod ({ cls := "DateVale", name := "talk", desc := "(I)I" } : Jvm.MethodName)) ∈ lw_tbl := lw_at lw_m5 98 rfl
theorem q1170 : (Jvm.Cond.instanceMethod ({ cls := "DateVale", name := "talk", desc := "(I)I" } : Jvm.MethodName)) ∈ lw_all := lw_g (lw_at lw_m5 99 rfl) rfl
theorem q1171 : (Jvm.Cond.code ({ cls := "DateVale", name := "talk", desc := "(I)I" } : Jvm.MethodName) prog_1_method_23_code (4 : Nat) (Option.some Jvm.ClassFile.FieldType.int)) ∈ lw_all := lw_g (lw_at lw_m5 100 rfl) rfl
theorem q1173 : (Jvm.Cond.instanceMethod ({ cls := "DateVale", name := "day", desc := "(II)I" } : Jvm.MethodName)) ∈ lw_all := lw_g (lw_at lw_m5 102 rfl) rfl
theorem q1174 : (Jvm.Cond.selects "DateVale" ({ cls := "DateVale", name := "day", desc := "(II)I" } : Jvm.MethodName) ({ cls := "DateVale", name := "day", desc := "(II)I" } : Jvm.MethodName)) ∈ lw_all := lw_g (lw_at lw_m5 103 rfl) rfl
theorem q1175 : (Jvm.Cond.code ({ cls := "DateVale", name := "day", desc := "(II)I" } : Jvm.MethodName) prog_1_method_25_code (3 : Nat) (Option.some Jvm.ClassFile.FieldType.int)) ∈ lw_all := lw_g (lw_at lw_m5 104 rfl) rfl
theorem q1176 : (Jvm.Cond.methodLink "DateVale" (252 : Nat) ({ cls := "DateVale", name := "isGuest", desc := "(I)Z" } : Jvm.MethodName)) ∈ lw_all := lw_g (lw_at lw_m5 105 rfl) rfl
theorem q1177 : (Jvm.Cond.privateMethod ({ cls := "DateVale", name := "isGuest", desc := "(I)Z" } : Jvm.MethodName)) ∈ lw_tbl := lw_at lw_m5 106 rfl
theorem q1178 : (Jvm.Cond.instanceMethod ({ cls := "DateVale", name := "isGuest", desc := "(I)Z" } : Jvm.MethodName)) ∈ lw_all := lw_g (lw_at lw_m5 107 rfl) rfl
theorem q1179 : (Jvm.Cond.code ({ cls := "DateVale", name := "isGuest", desc := "(I)Z" } : Jvm.MethodName) prog_1_method_17_code (2 : Nat) (Option.some Jvm.ClassFile.FieldType.boolean)) ∈ lw_all := lw_g (lw_at lw_m5 108 rfl) rfl
theorem q1180 : (Jvm.Cond.methodLink "DateVale" (255 : Nat) ({ cls := "DateVale$Guest", name := "kind", desc := "()I" } : Jvm.MethodName)) ∈ lw_all := lw_g (lw_at lw_m5 109 rfl) rfl
theorem q1195 : (Jvm.Cond.instanceMethod ({ cls := "DateVale", name := "date", desc := "()I" } : Jvm.MethodName)) ∈ lw_all := lw_g (lw_at lw_m5 124 rfl) rfl
theorem q1196 : (Jvm.Cond.selects "DateVale" ({ cls := "DateVale", name := "date", desc := "()I" } : Jvm.MethodName) ({ cls := "DateVale", name := "date", desc := "()I" } : Jvm.MethodName)) ∈ lw_all := lw_g (lw_at lw_m5 125 rfl) rfl
theorem q1197 : (Jvm.Cond.code ({ cls := "DateVale", name := "date", desc := "()I" } : Jvm.MethodName) prog_1_method_27_code (1 : Nat) (Option.some Jvm.ClassFile.FieldType.int)) ∈ lw_all := lw_g (lw_at lw_m5 126 rfl) rfl
theorem q1198 : (Jvm.Cond.methodLink "DateVale" (264 : Nat) ({ cls := "DateVale", name := "keeps", desc := "()V" } : Jvm.MethodName)) ∈ lw_all := lw_g (lw_at lw_m5 127 rfl) rfl
theorem q1199 : (Jvm.Cond.privateMethod ({ cls := "DateVale", name := "keeps", desc := "()V" } : Jvm.MethodName)) ∈ lw_tbl := lw_at lw_m5 128 rfl
theorem q1200 : (Jvm.Cond.instanceMethod ({ cls := "DateVale", name := "keeps", desc := "()V" } : Jvm.MethodName)) ∈ lw_all := lw_g (lw_at lw_m5 129 rfl) rfl
theorem q1201 : (Jvm.Cond.code ({ cls := "DateVale", name := "keeps", desc := "()V" } : Jvm.MethodName) prog_1_method_26_code (3 : Nat) (Option.none : Option Jvm.ClassFile.FieldType)) ∈ lw_all := lw_g (lw_at lw_m5 130 rfl) rfl
theorem q1202 : (Jvm.Cond.methodLink "DateVale" (260 : Nat) ({ cls := "DateVale$State", name := "be", desc := "(LDateVale$State;)V" } : Jvm.MethodName)) ∈ lw_all := lw_g (lw_at lw_m5 131 rfl) rfl
theorem q1207 : (Jvm.Cond.static ({ cls := "DateVale", name := "copies", desc := "([I[I)V" } : Jvm.MethodName)) ∈ lw_all := lw_g (lw_at lw_m5 136 rfl) rfl
theorem q1208 : (Jvm.Cond.code ({ cls := "DateVale", name := "copies", desc := "([I[I)V" } : Jvm.MethodName) prog_1_method_5_code (3 : Nat) (Option.none : Option Jvm.ClassFile.FieldType)) ∈ lw_all := lw_g (lw_at lw_m5 137 rfl) rfl
theorem q1209 : (Jvm.Cond.methodLink "DateVale" (267 : Nat) ({ cls := "DateVale", name := "passes", desc := "(LDateVale$State;)I" } : Jvm.MethodName)) ∈ lw_all := lw_g (lw_at lw_m5 138 rfl) rfl
theorem q1210 : (Jvm.Cond.privateMethod ({ cls := "DateVale", name := "passes", desc := "(LDateVale$State;)I" } : Jvm.MethodName)) ∈ lw_tbl := lw_at lw_m5 139 rfl
theorem q1211 : (Jvm.Cond.instanceMethod ({ cls := "DateVale", name := "passes", desc := "(LDateVale$State;)I" } : Jvm.MethodName)) ∈ lw_all := lw_g (lw_at lw_m5 140 rfl) rfl
theorem q1212 : (Jvm.Cond.code ({ cls := "DateVale", name := "passes", desc := "(LDateVale$State;)I" } : Jvm.MethodName) prog_1_method_22_code (5 : Nat) (Option.some Jvm.ClassFile.FieldType.int)) ∈ lw_all := lw_g (lw_at lw_m5 141 rfl) rfl
theorem q1213 : (Jvm.Cond.methodLink "DateVale" (202 : Nat) ({ cls := "DateVale$Vale", name := "stays", desc := "()I" } : Jvm.MethodName)) ∈ lw_all := lw_g (lw_at lw_m5 142 rfl) rfl
theorem q1217 : (Jvm.Cond.methodLink "DateVale" (205 : Nat) ({ cls := "DateVale$State", name := "goes", desc := "(I)V" } : Jvm.MethodName)) ∈ lw_all := lw_g (lw_at lw_m5 146 rfl) rfl
theorem q1221 : (Jvm.Cond.methodLink "DateVale" (214 : Nat) ({ cls := "DateVale$Guest", name := "comes", desc := "(III)Z" } : Jvm.MethodName)) ∈ lw_all := lw_g (lw_at lw_m5 150 rfl) rfl
theorem q1233 : (Jvm.Cond.methodLink "DateVale" (217 : Nat) ({ cls := "DateVale", name := "taking", desc := "(LDateVale$State;I)I" } : Jvm.MethodName)) ∈ lw_all := lw_g (lw_at lw_m5 162 rfl) rfl
theorem q1234 : (Jvm.Cond.privateMethod ({ cls := "DateVale", name := "taking", desc := "(LDateVale$State;I)I" } : Jvm.MethodName)) ∈ lw_tbl := lw_at lw_m5 163 rfl
theorem q1235 : (Jvm.Cond.instanceMethod ({ cls := "DateVale", name := "taking", desc := "(LDateVale$State;I)I" } : Jvm.MethodName)) ∈ lw_all := lw_g (lw_at lw_m5 164 rfl) rfl
theorem q1236 : (Jvm.Cond.code ({ cls := "DateVale", name := "taking", desc := "(LDateVale$State;I)I" } : Jvm.MethodName) prog_1_method_21_code (5 : Nat) (Option.some Jvm.ClassFile.FieldType.int)) ∈ lw_all := lw_g (lw_at lw_m5 165 rfl) rfl
theorem q1237 : (Jvm.Cond.methodLink "DateVale" (173 : Nat) ({ cls := "DateVale", name := "holds", desc := "(LDateVale$State;II)Z" } : Jvm.MethodName)) ∈ lw_all := lw_g (lw_at lw_m5 166 rfl) rfl
theorem q1238 : (Jvm.Cond.privateMethod ({ cls := "DateVale", name := "holds", desc := "(LDateVale$State;II)Z" } : Jvm.MethodName)) ∈ lw_tbl := lw_at lw_m5 167 rfl
theorem q1239 : (Jvm.Cond.instanceMethod ({ cls := "DateVale", name := "holds", desc := "(LDateVale$State;II)Z" } : Jvm.MethodName)) ∈ lw_all := lw_g (lw_at lw_m5 168 rfl) rfl
theorem q1240 : (Jvm.Cond.code ({ cls := "DateVale", name := "holds", desc := "(LDateVale$State;II)Z" } : Jvm.MethodName) prog_1_method_19_code (4 : Nat) (Option.some Jvm.ClassFile.FieldType.boolean)) ∈ lw_all := lw_g (lw_at lw_m5 169 rfl) rfl
theorem q1241 : (Jvm.Cond.methodLink "DateVale" (187 : Nat) ({ cls := "DateVale", name := "isIn", desc := "(II)Z" } : Jvm.MethodName)) ∈ lw_all := lw_g (lw_at lw_m5 170 rfl) rfl
theorem q1242 : (Jvm.Cond.methodLink "DateVale" (226 : Nat) ({ cls := "java/lang/Integer", name := "bitCount", desc := "(I)I" } : Jvm.MethodName)) ∈ lw_all := lw_g (lw_at lw_m5 171 rfl) rfl
theorem q1248 : (Jvm.Cond.methodLink "DateVale" (235 : Nat) ({ cls := "DateVale$Expression", name := "worked", desc := "([I)I" } : Jvm.MethodName)) ∈ lw_all := lw_g (lw_at lw_m5 177 rfl) rfl
theorem q1265 : (Jvm.Cond.methodLink "DateVale" (241 : Nat) ({ cls := "DateVale", name := "between", desc := "(III)I" } : Jvm.MethodName)) ∈ lw_all := lw_g (lw_at lw_m5 194 rfl) rfl
theorem q1266 : (Jvm.Cond.static ({ cls := "DateVale", name := "between", desc := "(III)I" } : Jvm.MethodName)) ∈ lw_all := lw_g (lw_at lw_m5 195 rfl) rfl
theorem q1267 : (Jvm.Cond.code ({ cls := "DateVale", name := "between", desc := "(III)I" } : Jvm.MethodName) prog_1_method_2_code (3 : Nat) (Option.some Jvm.ClassFile.FieldType.int)) ∈ lw_all := lw_g (lw_at lw_m5 196 rfl) rfl
theorem q1268 : (Jvm.Cond.methodLink "DateVale" (1 : Nat) ({ cls := "java/lang/Math", name := "min", desc := "(II)I" } : Jvm.MethodName)) ∈ lw_all := lw_g (lw_at lw_m5 197 rfl) rfl
theorem q1269 : (Jvm.Cond.methodLink "DateVale" (7 : Nat) ({ cls := "java/lang/Math", name := "max", desc := "(II)I" } : Jvm.MethodName)) ∈ lw_all := lw_g (lw_at lw_m5 198 rfl) rfl
theorem q1271 : (Jvm.Cond.instanceMethod ({ cls := "DateVale", name := "move", desc := "(II)Z" } : Jvm.MethodName)) ∈ lw_all := lw_g (lw_at lw_m5 200 rfl) rfl
theorem q1272 : (Jvm.Cond.selects "DateVale" ({ cls := "DateVale", name := "move", desc := "(II)Z" } : Jvm.MethodName) ({ cls := "DateVale", name := "move", desc := "(II)Z" } : Jvm.MethodName)) ∈ lw_all := lw_g (lw_at lw_m5 201 rfl) rfl
theorem q1273 : (Jvm.Cond.code ({ cls := "DateVale", name := "move", desc := "(II)Z" } : Jvm.MethodName) prog_1_method_28_code (3 : Nat) (Option.some Jvm.ClassFile.FieldType.boolean)) ∈ lw_all := lw_g (lw_at lw_m5 202 rfl) rfl
theorem q1274 : (Jvm.Cond.methodLink "DateVale" (271 : Nat) ({ cls := "DateVale", name := "canMove", desc := "(LDateVale$State;II)Z" } : Jvm.MethodName)) ∈ lw_all := lw_g (lw_at lw_m5 203 rfl) rfl
theorem q1275 : (Jvm.Cond.privateMethod ({ cls := "DateVale", name := "canMove", desc := "(LDateVale$State;II)Z" } : Jvm.MethodName)) ∈ lw_tbl := lw_at lw_m5 204 rfl
theorem q1276 : (Jvm.Cond.instanceMethod ({ cls := "DateVale", name := "canMove", desc := "(LDateVale$State;II)Z" } : Jvm.MethodName)) ∈ lw_all := lw_g (lw_at lw_m5 205 rfl) rfl
theorem q1277 : (Jvm.Cond.code ({ cls := "DateVale", name := "canMove", desc := "(LDateVale$State;II)Z" } : Jvm.MethodName) prog_1_method_20_code (4 : Nat) (Option.some Jvm.ClassFile.FieldType.boolean)) ∈ lw_all := lw_g (lw_at lw_m5 206 rfl) rfl
theorem q1279 : (Jvm.Cond.instanceMethod ({ cls := "DateVale", name := "send", desc := "(I)Z" } : Jvm.MethodName)) ∈ lw_all := lw_g (lw_at lw_m5 208 rfl) rfl
theorem q1280 : (Jvm.Cond.selects "DateVale" ({ cls := "DateVale", name := "send", desc := "(I)Z" } : Jvm.MethodName) ({ cls := "DateVale", name := "send", desc := "(I)Z" } : Jvm.MethodName)) ∈ lw_all := lw_g (lw_at lw_m5 209 rfl) rfl
theorem q1281 : (Jvm.Cond.code ({ cls := "DateVale", name := "send", desc := "(I)Z" } : Jvm.MethodName) prog_1_method_29_code (2 : Nat) (Option.some Jvm.ClassFile.FieldType.boolean)) ∈ lw_all := lw_g (lw_at lw_m5 210 rfl) rfl
theorem q1283 : (Jvm.Cond.instanceMethod ({ cls := "DateVale", name := "build", desc := "(I)I" } : Jvm.MethodName)) ∈ lw_all := lw_g (lw_at lw_m5 212 rfl) rfl
theorem q1284 : (Jvm.Cond.selects "DateVale" ({ cls := "DateVale", name := "build", desc := "(I)I" } : Jvm.MethodName) ({ cls := "DateVale", name := "build", desc := "(I)I" } : Jvm.MethodName)) ∈ lw_all := lw_g (lw_at lw_m5 213 rfl) rfl
theorem q1285 : (Jvm.Cond.code ({ cls := "DateVale", name := "build", desc := "(I)I" } : Jvm.MethodName) prog_1_method_30_code (2 : Nat) (Option.some Jvm.ClassFile.FieldType.int)) ∈ lw_all := lw_g (lw_at lw_m5 214 rfl) rfl
theorem q1287 : (Jvm.Cond.instanceMethod ({ cls := "DateVale", name := "undo", desc := "()Z" } : Jvm.MethodName)) ∈ lw_all := lw_g (lw_at lw_m5 216 rfl) rfl
theorem q1288 : (Jvm.Cond.selects "DateVale" ({ cls := "DateVale", name := "undo", desc := "()Z" } : Jvm.MethodName) ({ cls := "DateVale", name := "undo", desc := "()Z" } : Jvm.MethodName)) ∈ lw_all := lw_g (lw_at lw_m5 217 rfl) rfl
theorem q1289 : (Jvm.Cond.code ({ cls := "DateVale", name := "undo", desc := "()Z" } : Jvm.MethodName) prog_1_method_31_code (1 : Nat) (Option.some Jvm.ClassFile.FieldType.boolean)) ∈ lw_all := lw_g (lw_at lw_m5 218 rfl) rfl
theorem q1291 : (Jvm.Cond.instanceMethod ({ cls := "DateVale", name := "judged", desc := "(I)I" } : Jvm.MethodName)) ∈ lw_all := lw_g (lw_at lw_m5 220 rfl) rfl
theorem q1292 : (Jvm.Cond.selects "DateVale" ({ cls := "DateVale", name := "judged", desc := "(I)I" } : Jvm.MethodName) ({ cls := "DateVale", name := "judged", desc := "(I)I" } : Jvm.MethodName)) ∈ lw_all := lw_g (lw_at lw_m5 221 rfl) rfl
theorem q1293 : (Jvm.Cond.code ({ cls := "DateVale", name := "judged", desc := "(I)I" } : Jvm.MethodName) prog_1_method_32_code (5 : Nat) (Option.some Jvm.ClassFile.FieldType.int)) ∈ lw_all := lw_g (lw_at lw_m5 222 rfl) rfl
theorem q1294 : (Jvm.Cond.classLink "DateVale" (274 : Nat) "DateVale$Line") ∈ lw_all := lw_g (lw_at lw_m5 223 rfl) rfl
theorem q1295 : (Jvm.Cond.methodLink "DateVale" (276 : Nat) ({ cls := "DateVale$Line", name := "isDone", desc := "(LDateVale;LDateVale$State;)Z" } : Jvm.MethodName)) ∈ lw_all := lw_g (lw_at lw_m5 224 rfl) rfl
theorem q1314 : (Jvm.Cond.instanceMethod ({ cls := "DateVale", name := "where", desc := "(II)I" } : Jvm.MethodName)) ∈ lw_all := lw_g (lw_at lw_m6 3 rfl) rfl
theorem q1315 : (Jvm.Cond.selects "DateVale" ({ cls := "DateVale", name := "where", desc := "(II)I" } : Jvm.MethodName) ({ cls := "DateVale", name := "where", desc := "(II)I" } : Jvm.MethodName)) ∈ lw_all := lw_g (lw_at lw_m6 4 rfl) rfl
theorem q1316 : (Jvm.Cond.code ({ cls := "DateVale", name := "where", desc := "(II)I" } : Jvm.MethodName) prog_1_method_34_code (3 : Nat) (Option.some Jvm.ClassFile.FieldType.int)) ∈ lw_all := lw_g (lw_at lw_m6 5 rfl) rfl
theorem q1317 : (Jvm.Cond.methodLink "DateVale" (280 : Nat) ({ cls := "DateVale", name := "goesOn", desc := "(I)V" } : Jvm.MethodName)) ∈ lw_all := lw_g (lw_at lw_m6 6 rfl) rfl
theorem q1318 : (Jvm.Cond.privateMethod ({ cls := "DateVale", name := "goesOn", desc := "(I)V" } : Jvm.MethodName)) ∈ lw_tbl := lw_at lw_m6 7 rfl
theorem q1319 : (Jvm.Cond.instanceMethod ({ cls := "DateVale", name := "goesOn", desc := "(I)V" } : Jvm.MethodName)) ∈ lw_all := lw_g (lw_at lw_m6 8 rfl) rfl
theorem q1320 : (Jvm.Cond.code ({ cls := "DateVale", name := "goesOn", desc := "(I)V" } : Jvm.MethodName) prog_1_method_33_code (3 : Nat) (Option.none : Option Jvm.ClassFile.FieldType)) ∈ lw_all := lw_g (lw_at lw_m6 9 rfl) rfl
theorem q1322 : (Jvm.Cond.instanceMethod ({ cls := "DateVale", name := "next", desc := "(I)I" } : Jvm.MethodName)) ∈ lw_all := lw_g (lw_at lw_m6 11 rfl) rfl
theorem q1323 : (Jvm.Cond.selects "DateVale" ({ cls := "DateVale", name := "next", desc := "(I)I" } : Jvm.MethodName) ({ cls := "DateVale", name := "next", desc := "(I)I" } : Jvm.MethodName)) ∈ lw_all := lw_g (lw_at lw_m6 12 rfl) rfl
theorem q1324 : (Jvm.Cond.code ({ cls := "DateVale", name := "next", desc := "(I)I" } : Jvm.MethodName) prog_1_method_35_code (3 : Nat) (Option.some Jvm.ClassFile.FieldType.int)) ∈ lw_all := lw_g (lw_at lw_m6 13 rfl) rfl
theorem q1326 : (Jvm.Cond.instanceMethod ({ cls := "DateVale", name := "gone", desc := "(I)I" } : Jvm.MethodName)) ∈ lw_all := lw_g (lw_at lw_m6 15 rfl) rfl
theorem q1327 : (Jvm.Cond.selects "DateVale" ({ cls := "DateVale", name := "gone", desc := "(I)I" } : Jvm.MethodName) ({ cls := "DateVale", name := "gone", desc := "(I)I" } : Jvm.MethodName)) ∈ lw_all := lw_g (lw_at lw_m6 16 rfl) rfl
theorem q1328 : (Jvm.Cond.code ({ cls := "DateVale", name := "gone", desc := "(I)I" } : Jvm.MethodName) prog_1_method_36_code (3 : Nat) (Option.some Jvm.ClassFile.FieldType.int)) ∈ lw_all := lw_g (lw_at lw_m6 17 rfl) rfl
theorem q1330 : (Jvm.Cond.instanceMethod ({ cls := "DateVale", name := "crowd", desc := "()I" } : Jvm.MethodName)) ∈ lw_all := lw_g (lw_at lw_m6 19 rfl) rfl
theorem q1331 : (Jvm.Cond.selects "DateVale" ({ cls := "DateVale", name := "crowd", desc := "()I" } : Jvm.MethodName) ({ cls := "DateVale", name := "crowd", desc := "()I" } : Jvm.MethodName)) ∈ lw_all := lw_g (lw_at lw_m6 20 rfl) rfl
theorem q1332 : (Jvm.Cond.code ({ cls := "DateVale", name := "crowd", desc := "()I" } : Jvm.MethodName) prog_1_method_37_code (5 : Nat) (Option.some Jvm.ClassFile.FieldType.int)) ∈ lw_all := lw_g (lw_at lw_m6 21 rfl) rfl
theorem q1333 : (Jvm.Cond.methodLink "DateVale" (283 : Nat) ({ cls := "DateVale$State", name := "somewhere", desc := "()I" } : Jvm.MethodName)) ∈ lw_all := lw_g (lw_at lw_m6 22 rfl) rfl
theorem q1338 : (Jvm.Cond.instanceMethod ({ cls := "DateVale", name := "refused", desc := "(I)I" } : Jvm.MethodName)) ∈ lw_all := lw_g (lw_at lw_m6 27 rfl) rfl
theorem q1339 : (Jvm.Cond.selects "DateVale" ({ cls := "DateVale", name := "refused", desc := "(I)I" } : Jvm.MethodName) ({ cls := "DateVale", name := "refused", desc := "(I)I" } : Jvm.MethodName)) ∈ lw_all := lw_g (lw_at lw_m6 28 rfl) rfl
theorem q1340 : (Jvm.Cond.code ({ cls := "DateVale", name := "refused", desc := "(I)I" } : Jvm.MethodName) prog_1_method_38_code (3 : Nat) (Option.some Jvm.ClassFile.FieldType.int)) ∈ lw_all := lw_g (lw_at lw_m6 29 rfl) rfl
theorem q1341 : (Jvm.Cond.methodLink "DateVale" (286 : Nat) ({ cls := "java/lang/Integer", name := "numberOfTrailingZeros", desc := "(I)I" } : Jvm.MethodName)) ∈ lw_all := lw_g (lw_at lw_m6 30 rfl) rfl
theorem q1346 : (Jvm.Cond.instanceMethod ({ cls := "DateVale", name := "meets", desc := "(II)I" } : Jvm.MethodName)) ∈ lw_all := lw_g (lw_at lw_m6 35 rfl) rfl
theorem q1347 : (Jvm.Cond.selects "DateVale" ({ cls := "DateVale", name := "meets", desc := "(II)I" } : Jvm.MethodName) ({ cls := "DateVale", name := "meets", desc := "(II)I" } : Jvm.MethodName)) ∈ lw_all := lw_g (lw_at lw_m6 36 rfl) rfl
theorem q1348 : (Jvm.Cond.code ({ cls := "DateVale", name := "meets", desc := "(II)I" } : Jvm.MethodName) prog_1_method_39_code (4 : Nat) (Option.some Jvm.ClassFile.FieldType.int)) ∈ lw_all := lw_g (lw_at lw_m6 37 rfl) rfl
theorem q1350 : (Jvm.Cond.instanceMethod ({ cls := "DateVale", name := "beds", desc := "(II)I" } : Jvm.MethodName)) ∈ lw_all := lw_g (lw_at lw_m6 39 rfl) rfl
theorem q1351 : (Jvm.Cond.selects "DateVale" ({ cls := "DateVale", name := "beds", desc := "(II)I" } : Jvm.MethodName) ({ cls := "DateVale", name := "beds", desc := "(II)I" } : Jvm.MethodName)) ∈ lw_all := lw_g (lw_at lw_m6 40 rfl) rfl
theorem q1352 : (Jvm.Cond.code ({ cls := "DateVale", name := "beds", desc := "(II)I" } : Jvm.MethodName) prog_1_method_42_code (3 : Nat) (Option.some Jvm.ClassFile.FieldType.int)) ∈ lw_all := lw_g (lw_at lw_m6 41 rfl) rfl
theorem q1353 : (Jvm.Cond.methodLink "DateVale" (299 : Nat) ({ cls := "DateVale", name := "builds", desc := "(III)V" } : Jvm.MethodName)) ∈ lw_all := lw_g (lw_at lw_m6 42 rfl) rfl
theorem q1354 : (Jvm.Cond.privateMethod ({ cls := "DateVale", name := "builds", desc := "(III)V" } : Jvm.MethodName)) ∈ lw_tbl := lw_at lw_m6 43 rfl
theorem q1355 : (Jvm.Cond.instanceMethod ({ cls := "DateVale", name := "builds", desc := "(III)V" } : Jvm.MethodName)) ∈ lw_all := lw_g (lw_at lw_m6 44 rfl) rfl
theorem q1356 : (Jvm.Cond.code ({ cls := "DateVale", name := "builds", desc := "(III)V" } : Jvm.MethodName) prog_1_method_41_code (5 : Nat) (Option.none : Option Jvm.ClassFile.FieldType)) ∈ lw_all := lw_g (lw_at lw_m6 45 rfl) rfl
theorem q1357 : (Jvm.Cond.methodLink "DateVale" (292 : Nat) ({ cls := "DateVale", name := "isNoneRefused", desc := "(I)Z" } : Jvm.MethodName)) ∈ lw_all := lw_g (lw_at lw_m6 46 rfl) rfl
theorem q1358 : (Jvm.Cond.privateMethod ({ cls := "DateVale", name := "isNoneRefused", desc := "(I)Z" } : Jvm.MethodName)) ∈ lw_tbl := lw_at lw_m6 47 rfl
theorem q1359 : (Jvm.Cond.instanceMethod ({ cls := "DateVale", name := "isNoneRefused", desc := "(I)Z" } : Jvm.MethodName)) ∈ lw_all := lw_g (lw_at lw_m6 48 rfl) rfl
theorem q1360 : (Jvm.Cond.code ({ cls := "DateVale", name := "isNoneRefused", desc := "(I)Z" } : Jvm.MethodName) prog_1_method_40_code (3 : Nat) (Option.some Jvm.ClassFile.FieldType.boolean)) ∈ lw_all := lw_g (lw_at lw_m6 49 rfl) rfl
theorem q1361 : (Jvm.Cond.methodLink "DateVale" (295 : Nat) ({ cls := "DateVale", name := "copies", desc := "([I[I)V" } : Jvm.MethodName)) ∈ lw_all := lw_g (lw_at lw_m6 50 rfl) rfl
theorem q1363 : (Jvm.Cond.instanceMethod ({ cls := "DateVale", name := "spare", desc := "()I" } : Jvm.MethodName)) ∈ lw_all := lw_g (lw_at lw_m6 52 rfl) rfl
theorem q1364 : (Jvm.Cond.selects "DateVale" ({ cls := "DateVale", name := "spare", desc := "()I" } : Jvm.MethodName) ({ cls := "DateVale", name := "spare", desc := "()I" } : Jvm.MethodName)) ∈ lw_all := lw_g (lw_at lw_m6 53 rfl) rfl
theorem q1365 : (Jvm.Cond.code ({ cls := "DateVale", name := "spare", desc := "()I" } : Jvm.MethodName) prog_1_method_43_code (3 : Nat) (Option.some Jvm.ClassFile.FieldType.int)) ∈ lw_all := lw_g (lw_at lw_m6 54 rfl) rfl
theorem q1367 : (Jvm.Cond.instanceMethod ({ cls := "DateVale", name := "laying", desc := "()I" } : Jvm.MethodName)) ∈ lw_all := lw_g (lw_at lw_m6 56 rfl) rfl
theorem q1368 : (Jvm.Cond.selects "DateVale" ({ cls := "DateVale", name := "laying", desc := "()I" } : Jvm.MethodName) ({ cls := "DateVale", name := "laying", desc := "()I" } : Jvm.MethodName)) ∈ lw_all := lw_g (lw_at lw_m6 57 rfl) rfl
theorem q1369 : (Jvm.Cond.code ({ cls := "DateVale", name := "laying", desc := "()I" } : Jvm.MethodName) prog_1_method_45_code (2 : Nat) (Option.some Jvm.ClassFile.FieldType.int)) ∈ lw_all := lw_g (lw_at lw_m6 58 rfl) rfl
theorem q1370 : (Jvm.Cond.methodLink "DateVale" (303 : Nat) ({ cls := "DateVale", name := "lays", desc := "(I)I" } : Jvm.MethodName)) ∈ lw_all := lw_g (lw_at lw_m6 59 rfl) rfl
theorem q1371 : (Jvm.Cond.privateMethod ({ cls := "DateVale", name := "lays", desc := "(I)I" } : Jvm.MethodName)) ∈ lw_tbl := lw_at lw_m6 60 rfl
theorem q1372 : (Jvm.Cond.instanceMethod ({ cls := "DateVale", name := "lays", desc := "(I)I" } : Jvm.MethodName)) ∈ lw_all := lw_g (lw_at lw_m6 61 rfl) rfl
theorem q1373 : (Jvm.Cond.code ({ cls := "DateVale", name := "lays", desc := "(I)I" } : Jvm.MethodName) prog_1_method_44_code (4 : Nat) (Option.some Jvm.ClassFile.FieldType.int)) ∈ lw_all := lw_g (lw_at lw_m6 62 rfl) rfl
theorem q1375 : (Jvm.Cond.instanceMethod ({ cls := "DateVale", name := "apart", desc := "()I" } : Jvm.MethodName)) ∈ lw_all := lw_g (lw_at lw_m6 64 rfl) rfl
theorem q1376 : (Jvm.Cond.selects "DateVale" ({ cls := "DateVale", name := "apart", desc := "()I" } : Jvm.MethodName) ({ cls := "DateVale", name := "apart", desc := "()I" } : Jvm.MethodName)) ∈ lw_all := lw_g (lw_at lw_m6 65 rfl) rfl
theorem q1377 : (Jvm.Cond.code ({ cls := "DateVale", name := "apart", desc := "()I" } : Jvm.MethodName) prog_1_method_47_code (2 : Nat) (Option.some Jvm.ClassFile.FieldType.int)) ∈ lw_all := lw_g (lw_at lw_m6 66 rfl) rfl
theorem q1378 : (Jvm.Cond.methodLink "DateVale" (306 : Nat) ({ cls := "DateVale", name := "isApart", desc := "(II)Z" } : Jvm.MethodName)) ∈ lw_all := lw_g (lw_at lw_m6 67 rfl) rfl
theorem q1379 : (Jvm.Cond.privateMethod ({ cls := "DateVale", name := "isApart", desc := "(II)Z" } : Jvm.MethodName)) ∈ lw_tbl := lw_at lw_m6 68 rfl
theorem q1380 : (Jvm.Cond.instanceMethod ({ cls := "DateVale", name := "isApart", desc := "(II)Z" } : Jvm.MethodName)) ∈ lw_all := lw_g (lw_at lw_m6 69 rfl) rfl
theorem q1381 : (Jvm.Cond.code ({ cls := "DateVale", name := "isApart", desc := "(II)Z" } : Jvm.MethodName) prog_1_method_46_code (6 : Nat) (Option.some Jvm.ClassFile.FieldType.boolean)) ∈ lw_all := lw_g (lw_at lw_m6 70 rfl) rfl
theorem q1383 : (Jvm.Cond.instanceMethod ({ cls := "DateVale", name := "defer", desc := "(I)I" } : Jvm.MethodName)) ∈ lw_all := lw_g (lw_at lw_m6 72 rfl) rfl
theorem q1384 : (Jvm.Cond.selects "DateVale" ({ cls := "DateVale", name := "defer", desc := "(I)I" } : Jvm.MethodName) ({ cls := "DateVale", name := "defer", desc := "(I)I" } : Jvm.MethodName)) ∈ lw_all := lw_g (lw_at lw_m6 73 rfl) rfl
theorem q1385 : (Jvm.Cond.code ({ cls := "DateVale", name := "defer", desc := "(I)I" } : Jvm.MethodName) prog_1_method_48_code (7 : Nat) (Option.some Jvm.ClassFile.FieldType.int)) ∈ lw_all := lw_g (lw_at lw_m6 74 rfl) rfl
theorem q1387 : (Jvm.Cond.instanceMethod ({ cls := "DateVale", name := "see", desc := "(II)Z" } : Jvm.MethodName)) ∈ lw_all := lw_g (lw_at lw_m6 76 rfl) rfl
theorem q1388 : (Jvm.Cond.selects "DateVale" ({ cls := "DateVale", name := "see", desc := "(II)Z" } : Jvm.MethodName) ({ cls := "DateVale", name := "see", desc := "(II)Z" } : Jvm.MethodName)) ∈ lw_all := lw_g (lw_at lw_m6 77 rfl) rfl
theorem q1389 : (Jvm.Cond.code ({ cls := "DateVale", name := "see", desc := "(II)Z" } : Jvm.MethodName) prog_1_method_49_code (3 : Nat) (Option.some Jvm.ClassFile.FieldType.boolean)) ∈ lw_all := lw_g (lw_at lw_m6 78 rfl) rfl
theorem q1391 : (Jvm.Cond.instanceMethod ({ cls := "DateVale", name := "who", desc := "()I" } : Jvm.MethodName)) ∈ lw_all := lw_g (lw_at lw_m6 80 rfl) rfl
theorem q1392 : (Jvm.Cond.selects "DateVale" ({ cls := "DateVale", name := "who", desc := "()I" } : Jvm.MethodName) ({ cls := "DateVale", name := "who", desc := "()I" } : Jvm.MethodName)) ∈ lw_all := lw_g (lw_at lw_m6 81 rfl) rfl
theorem q1393 : (Jvm.Cond.code ({ cls := "DateVale", name := "who", desc := "()I" } : Jvm.MethodName) prog_1_method_51_code (5 : Nat) (Option.some Jvm.ClassFile.FieldType.int)) ∈ lw_all := lw_g (lw_at lw_m6 82 rfl) rfl
theorem q1394 : (Jvm.Cond.methodLink "DateVale" (309 : Nat) ({ cls := "DateVale", name := "laysPlaces", desc := "()V" } : Jvm.MethodName)) ∈ lw_all := lw_g (lw_at lw_m6 83 rfl) rfl
theorem q1395 : (Jvm.Cond.privateMethod ({ cls := "DateVale", name := "laysPlaces", desc := "()V" } : Jvm.MethodName)) ∈ lw_tbl := lw_at lw_m6 84 rfl
theorem q1396 : (Jvm.Cond.instanceMethod ({ cls := "DateVale", name := "laysPlaces", desc := "()V" } : Jvm.MethodName)) ∈ lw_all := lw_g (lw_at lw_m6 85 rfl) rfl
theorem q1397 : (Jvm.Cond.code ({ cls := "DateVale", name := "laysPlaces", desc := "()V" } : Jvm.MethodName) prog_1_method_50_code (2 : Nat) (Option.none : Option Jvm.ClassFile.FieldType)) ∈ lw_all := lw_g (lw_at lw_m6 86 rfl) rfl
theorem q1399 : (Jvm.Cond.instanceMethod ({ cls := "DateVale", name := "look", desc := "()I" } : Jvm.MethodName)) ∈ lw_all := lw_g (lw_at lw_m6 88 rfl) rfl
theorem q1400 : (Jvm.Cond.selects "DateVale" ({ cls := "DateVale", name := "look", desc := "()I" } : Jvm.MethodName) ({ cls := "DateVale", name := "look", desc := "()I" } : Jvm.MethodName)) ∈ lw_all := lw_g (lw_at lw_m6 89 rfl) rfl
theorem q1401 : (Jvm.Cond.code ({ cls := "DateVale", name := "look", desc := "()I" } : Jvm.MethodName) prog_1_method_52_code (9 : Nat) (Option.some Jvm.ClassFile.FieldType.int)) ∈ lw_all := lw_g (lw_at lw_m6 90 rfl) rfl
theorem q1402 : (Jvm.Cond.methodLink "DateVale" (312 : Nat) ({ cls := "DateVale", name := "who", desc := "()I" } : Jvm.MethodName)) ∈ lw_all := lw_g (lw_at lw_m6 91 rfl) rfl
theorem q1404 : (Jvm.Cond.instanceMethod ({ cls := "DateVale", name := "through", desc := "(II)I" } : Jvm.MethodName)) ∈ lw_all := lw_g (lw_at lw_m6 93 rfl) rfl
theorem q1405 : (Jvm.Cond.selects "DateVale" ({ cls := "DateVale", name := "through", desc := "(II)I" } : Jvm.MethodName) ({ cls := "DateVale", name := "through", desc := "(II)I" } : Jvm.MethodName)) ∈ lw_all := lw_g (lw_at lw_m6 94 rfl) rfl
theorem q1406 : (Jvm.Cond.code ({ cls := "DateVale", name := "through", desc := "(II)I" } : Jvm.MethodName) prog_1_method_53_code (7 : Nat) (Option.some Jvm.ClassFile.FieldType.int)) ∈ lw_all := lw_g (lw_at lw_m6 95 rfl) rfl
theorem q1408 : (Jvm.Cond.instanceMethod ({ cls := "DateVale", name := "quiet", desc := "()I" } : Jvm.MethodName)) ∈ lw_all := lw_g (lw_at lw_m6 97 rfl) rfl
theorem q1409 : (Jvm.Cond.selects "DateVale" ({ cls := "DateVale", name := "quiet", desc := "()I" } : Jvm.MethodName) ({ cls := "DateVale", name := "quiet", desc := "()I" } : Jvm.MethodName)) ∈ lw_all := lw_g (lw_at lw_m6 98 rfl) rfl
theorem q1410 : (Jvm.Cond.code ({ cls := "DateVale", name := "quiet", desc := "()I" } : Jvm.MethodName) prog_1_method_54_code (3 : Nat) (Option.some Jvm.ClassFile.FieldType.int)) ∈ lw_all := lw_g (lw_at lw_m6 99 rfl) rfl
theorem q1412 : (Jvm.Cond.instanceMethod ({ cls := "DateVale", name := "peace", desc := "()I" } : Jvm.MethodName)) ∈ lw_all := lw_g (lw_at lw_m6 101 rfl) rfl
theorem q1413 : (Jvm.Cond.selects "DateVale" ({ cls := "DateVale", name := "peace", desc := "()I" } : Jvm.MethodName) ({ cls := "DateVale", name := "peace", desc := "()I" } : Jvm.MethodName)) ∈ lw_all := lw_g (lw_at lw_m6 102 rfl) rfl
theorem q1414 : (Jvm.Cond.code ({ cls := "DateVale", name := "peace", desc := "()I" } : Jvm.MethodName) prog_1_method_55_code (4 : Nat) (Option.some Jvm.ClassFile.FieldType.int)) ∈ lw_all := lw_g (lw_at lw_m6 103 rfl) rfl
theorem q1416 : (Jvm.Cond.instanceMethod ({ cls := "DateVale", name := "eldest", desc := "(I)I" } : Jvm.MethodName)) ∈ lw_all := lw_g (lw_at lw_m6 105 rfl) rfl
theorem q1417 : (Jvm.Cond.selects "DateVale" ({ cls := "DateVale", name := "eldest", desc := "(I)I" } : Jvm.MethodName) ({ cls := "DateVale", name := "eldest", desc := "(I)I" } : Jvm.MethodName)) ∈ lw_all := lw_g (lw_at lw_m6 106 rfl) rfl
theorem q1418 : (Jvm.Cond.code ({ cls := "DateVale", name := "eldest", desc := "(I)I" } : Jvm.MethodName) prog_1_method_56_code (4 : Nat) (Option.some Jvm.ClassFile.FieldType.int)) ∈ lw_all := lw_g (lw_at lw_m6 107 rfl) rfl
theorem q1420 : (Jvm.Cond.instanceMethod ({ cls := "DateVale", name := "loudest", desc := "()I" } : Jvm.MethodName)) ∈ lw_all := lw_g (lw_at lw_m6 109 rfl) rfl
theorem q1421 : (Jvm.Cond.selects "DateVale" ({ cls := "DateVale", name := "loudest", desc := "()I" } : Jvm.MethodName) ({ cls := "DateVale", name := "loudest", desc := "()I" } : Jvm.MethodName)) ∈ lw_all := lw_g (lw_at lw_m6 110 rfl) rfl
theorem q1422 : (Jvm.Cond.code ({ cls := "DateVale", name := "loudest", desc := "()I" } : Jvm.MethodName) prog_1_method_57_code (4 : Nat) (Option.some Jvm.ClassFile.FieldType.int)) ∈ lw_all := lw_g (lw_at lw_m6 111 rfl) rfl
theorem q1424 : (Jvm.Cond.instanceMethod ({ cls := "DateVale", name := "chance", desc := "(III)I" } : Jvm.MethodName)) ∈ lw_all := lw_g (lw_at lw_m6 113 rfl) rfl
theorem q1425 : (Jvm.Cond.selects "DateVale" ({ cls := "DateVale", name := "chance", desc := "(III)I" } : Jvm.MethodName) ({ cls := "DateVale", name := "chance", desc := "(III)I" } : Jvm.MethodName)) ∈ lw_all := lw_g (lw_at lw_m6 114 rfl) rfl
theorem q1426 : (Jvm.Cond.code ({ cls := "DateVale", name := "chance", desc := "(III)I" } : Jvm.MethodName) prog_1_method_58_code (14 : Nat) (Option.some Jvm.ClassFile.FieldType.int)) ∈ lw_all := lw_g (lw_at lw_m6 115 rfl) rfl
theorem q1427 : (Jvm.Cond.constantLong "DateVale" (315 : Nat) (10 : Int64)) ∈ lw_all := lw_g (lw_at lw_m6 116 rfl) rfl
theorem q1428 : (Jvm.Cond.constantLong "DateVale" (317 : Nat) (1000000 : Int64)) ∈ lw_all := lw_g (lw_at lw_m6 117 rfl) rfl
theorem q1430 : (Jvm.Cond.instanceMethod ({ cls := "DateVale", name := "ages", desc := "(III)I" } : Jvm.MethodName)) ∈ lw_all := lw_g (lw_at lw_m6 119 rfl) rfl
theorem q1431 : (Jvm.Cond.selects "DateVale" ({ cls := "DateVale", name := "ages", desc := "(III)I" } : Jvm.MethodName) ({ cls := "DateVale", name := "ages", desc := "(III)I" } : Jvm.MethodName)) ∈ lw_all := lw_g (lw_at lw_m6 120 rfl) rfl
theorem q1432 : (Jvm.Cond.code ({ cls := "DateVale", name := "ages", desc := "(III)I" } : Jvm.MethodName) prog_1_method_63_code (6 : Nat) (Option.some Jvm.ClassFile.FieldType.int)) ∈ lw_all := lw_g (lw_at lw_m6 121 rfl) rfl
theorem q1433 : (Jvm.Cond.methodLink "DateVale" (342 : Nat) ({ cls := "DateVale", name := "befalls", desc := "(LDateVale$State;)V" } : Jvm.MethodName)) ∈ lw_all := lw_g (lw_at lw_m6 122 rfl) rfl
theorem q1434 : (Jvm.Cond.privateMethod ({ cls := "DateVale", name := "befalls", desc := "(LDateVale$State;)V" } : Jvm.MethodName)) ∈ lw_tbl := lw_at lw_m6 123 rfl
theorem q1435 : (Jvm.Cond.instanceMethod ({ cls := "DateVale", name := "befalls", desc := "(LDateVale$State;)V" } : Jvm.MethodName)) ∈ lw_all := lw_g (lw_at lw_m6 124 rfl) rfl
theorem q1436 : (Jvm.Cond.code ({ cls := "DateVale", name := "befalls", desc := "(LDateVale$State;)V" } : Jvm.MethodName) prog_1_method_62_code (5 : Nat) (Option.none : Option Jvm.ClassFile.FieldType)) ∈ lw_all := lw_g (lw_at lw_m6 125 rfl) rfl
theorem q1437 : (Jvm.Cond.methodLink "DateVale" (339 : Nat) ({ cls := "DateVale", name := "draws", desc := "(I)I" } : Jvm.MethodName)) ∈ lw_all := lw_g (lw_at lw_m6 126 rfl) rfl
theorem q1438 : (Jvm.Cond.privateMethod ({ cls := "DateVale", name := "draws", desc := "(I)I" } : Jvm.MethodName)) ∈ lw_tbl := lw_at lw_m6 127 rfl
theorem q1439 : (Jvm.Cond.instanceMethod ({ cls := "DateVale", name := "draws", desc := "(I)I" } : Jvm.MethodName)) ∈ lw_all := lw_g (lw_at lw_m6 128 rfl) rfl
theorem q1440 : (Jvm.Cond.code ({ cls := "DateVale", name := "draws", desc := "(I)I" } : Jvm.MethodName) prog_1_method_61_code (2 : Nat) (Option.some Jvm.ClassFile.FieldType.int)) ∈ lw_all := lw_g (lw_at lw_m6 129 rfl) rfl
theorem q1441 : (Jvm.Cond.constantLong "DateVale" (331 : Nat) (1103515245 : Int64)) ∈ lw_all := lw_g (lw_at lw_m6 130 rfl) rfl
theorem q1442 : (Jvm.Cond.constantLong "DateVale" (333 : Nat) (12345 : Int64)) ∈ lw_all := lw_g (lw_at lw_m6 131 rfl) rfl
theorem q1443 : (Jvm.Cond.constantLong "DateVale" (335 : Nat) (2147483648 : Int64)) ∈ lw_all := lw_g (lw_at lw_m6 132 rfl) rfl
theorem q1444 : (Jvm.Cond.constantLong "DateVale" (337 : Nat) (65536 : Int64)) ∈ lw_all := lw_g (lw_at lw_m6 133 rfl) rfl
theorem q1445 : (Jvm.Cond.methodLink "DateVale" (345 : Nat) ({ cls := "DateVale", name := "sum", desc := "([I)I" } : Jvm.MethodName)) ∈ lw_all := lw_g (lw_at lw_m6 134 rfl) rfl
theorem q1446 : (Jvm.Cond.static ({ cls := "DateVale", name := "sum", desc := "([I)I" } : Jvm.MethodName)) ∈ lw_all := lw_g (lw_at lw_m6 135 rfl) rfl
theorem q1447 : (Jvm.Cond.code ({ cls := "DateVale", name := "sum", desc := "([I)I" } : Jvm.MethodName) prog_1_method_6_code (3 : Nat) (Option.some Jvm.ClassFile.FieldType.int)) ∈ lw_all := lw_g (lw_at lw_m6 136 rfl) rfl
theorem q1449 : (Jvm.Cond.instanceMethod ({ cls := "DateVale", name := "mark", desc := "(IZ)Z" } : Jvm.MethodName)) ∈ lw_all := lw_g (lw_at lw_m6 138 rfl) rfl
theorem q1450 : (Jvm.Cond.selects "DateVale" ({ cls := "DateVale", name := "mark", desc := "(IZ)Z" } : Jvm.MethodName) ({ cls := "DateVale", name := "mark", desc := "(IZ)Z" } : Jvm.MethodName)) ∈ lw_all := lw_g (lw_at lw_m6 139 rfl) rfl
theorem q1451 : (Jvm.Cond.code ({ cls := "DateVale", name := "mark", desc := "(IZ)Z" } : Jvm.MethodName) prog_1_method_64_code (4 : Nat) (Option.some Jvm.ClassFile.FieldType.boolean)) ∈ lw_all := lw_g (lw_at lw_m6 140 rfl) rfl
theorem q1453 : (Jvm.Cond.methodLinkNest "DateVale" (348 : Nat) ({ cls := "DateVale$Mark", name := "<init>", desc := "()V" } : Jvm.MethodName) "DateVale") ∈ lw_tbl := lw_at lw_m6 142 rfl
theorem q1460 : (Jvm.Cond.fieldLinkNest "DateVale" (349 : Nat) "DateVale$Mark" "state" "LDateVale$State;" "DateVale") ∈ lw_tbl := lw_at lw_m6 149 rfl
theorem q1462 : (Jvm.Cond.fieldLinkNest "DateVale" (350 : Nat) "DateVale$Mark" "in" "[I" "DateVale") ∈ lw_tbl := lw_at lw_m6 151 rfl
theorem q1464 : (Jvm.Cond.fieldLinkNest "DateVale" (352 : Nat) "DateVale$Mark" "at" "[I" "DateVale") ∈ lw_tbl := lw_at lw_m6 153 rfl
theorem q1465 : (Jvm.Cond.fieldLinkNest "DateVale" (355 : Nat) "DateVale$Mark" "many" "I" "DateVale") ∈ lw_tbl := lw_at lw_m6 154 rfl
theorem q1476 : (Jvm.Cond.instanceMethod ({ cls := "DateVale", name := "count", desc := "(I)I" } : Jvm.MethodName)) ∈ lw_all := lw_g (lw_at lw_m6 165 rfl) rfl
theorem q1477 : (Jvm.Cond.selects "DateVale" ({ cls := "DateVale", name := "count", desc := "(I)I" } : Jvm.MethodName) ({ cls := "DateVale", name := "count", desc := "(I)I" } : Jvm.MethodName)) ∈ lw_all := lw_g (lw_at lw_m6 166 rfl) rfl
theorem q1478 : (Jvm.Cond.code ({ cls := "DateVale", name := "count", desc := "(I)I" } : Jvm.MethodName) prog_1_method_66_code (2 : Nat) (Option.some Jvm.ClassFile.FieldType.int)) ∈ lw_all := lw_g (lw_at lw_m6 167 rfl) rfl
theorem q1479 : (Jvm.Cond.methodLink "DateVale" (358 : Nat) ({ cls := "DateVale", name := "faded", desc := "()I" } : Jvm.MethodName)) ∈ lw_all := lw_g (lw_at lw_m6 168 rfl) rfl
theorem q1480 : (Jvm.Cond.privateMethod ({ cls := "DateVale", name := "faded", desc := "()I" } : Jvm.MethodName)) ∈ lw_tbl := lw_at lw_m6 169 rfl
theorem q1481 : (Jvm.Cond.instanceMethod ({ cls := "DateVale", name := "faded", desc := "()I" } : Jvm.MethodName)) ∈ lw_all := lw_g (lw_at lw_m6 170 rfl) rfl
theorem q1482 : (Jvm.Cond.code ({ cls := "DateVale", name := "faded", desc := "()I" } : Jvm.MethodName) prog_1_method_65_code (3 : Nat) (Option.some Jvm.ClassFile.FieldType.int)) ∈ lw_all := lw_g (lw_at lw_m6 171 rfl) rfl
theorem q1488 : (Jvm.Cond.instanceMethod ({ cls := "DateVale", name := "rests", desc := "(IIII)I" } : Jvm.MethodName)) ∈ lw_all := lw_g (lw_at lw_m6 177 rfl) rfl
theorem q1489 : (Jvm.Cond.selects "DateVale" ({ cls := "DateVale", name := "rests", desc := "(IIII)I" } : Jvm.MethodName) ({ cls := "DateVale", name := "rests", desc := "(IIII)I" } : Jvm.MethodName)) ∈ lw_all := lw_g (lw_at lw_m6 178 rfl) rfl
theorem q1490 : (Jvm.Cond.code ({ cls := "DateVale", name := "rests", desc := "(IIII)I" } : Jvm.MethodName) prog_1_method_60_code (9 : Nat) (Option.some Jvm.ClassFile.FieldType.int)) ∈ lw_all := lw_g (lw_at lw_m6 179 rfl) rfl
theorem q1491 : (Jvm.Cond.methodLink "DateVale" (319 : Nat) ({ cls := "DateVale", name := "need", desc := "(Z)V" } : Jvm.MethodName)) ∈ lw_all := lw_g (lw_at lw_m6 180 rfl) rfl
theorem q1492 : (Jvm.Cond.static ({ cls := "DateVale", name := "need", desc := "(Z)V" } : Jvm.MethodName)) ∈ lw_all := lw_g (lw_at lw_m6 181 rfl) rfl
theorem q1493 : (Jvm.Cond.code ({ cls := "DateVale", name := "need", desc := "(Z)V" } : Jvm.MethodName) prog_1_method_4_code (1 : Nat) (Option.none : Option Jvm.ClassFile.FieldType)) ∈ lw_all := lw_g (lw_at lw_m6 182 rfl) rfl
theorem q1494 : (Jvm.Cond.classLink "DateVale" (10 : Nat) "java/util/NoSuchElementException") ∈ lw_all := lw_g (lw_at lw_m6 183 rfl) rfl
theorem q1503 : (Jvm.Cond.methodLink "DateVale" (12 : Nat) ({ cls := "java/util/NoSuchElementException", name := "<init>", desc := "()V" } : Jvm.MethodName)) ∈ lw_all := lw_g (lw_at lw_m6 192 rfl) rfl
theorem q1515 : (Jvm.Cond.methodLink "DateVale" (323 : Nat) ({ cls := "DateVale", name := "gets", desc := "(IIIII)I" } : Jvm.MethodName)) ∈ lw_all := lw_g (lw_at lw_m6 204 rfl) rfl
theorem q1516 : (Jvm.Cond.static ({ cls := "DateVale", name := "gets", desc := "(IIIII)I" } : Jvm.MethodName)) ∈ lw_all := lw_g (lw_at lw_m6 205 rfl) rfl
theorem q1517 : (Jvm.Cond.code ({ cls := "DateVale", name := "gets", desc := "(IIIII)I" } : Jvm.MethodName) prog_1_method_59_code (5 : Nat) (Option.some Jvm.ClassFile.FieldType.int)) ∈ lw_all := lw_g (lw_at lw_m6 206 rfl) rfl
theorem q2088 : (Jvm.Cond.castable "DateVale" "java/lang/Object") ∈ lw_tbl := lw_at lw_m9 57 rfl
theorem in_X1 : ∀ w ∈ wsX10, w ∈ lw_all := lw_in wsX10 [348, 350, 352, 354, 356, 358, 360, 362, 364, 366, 368, 370, 372, 374, 376, 378, 380, 382, 384, 386, 388] (by decide +kernel) (by decide +kernel)
