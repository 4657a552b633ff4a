/-! java/util/AbstractCollection -/
set_option maxRecDepth 100000
def RJ0 : String := "java/util/AbstractCollection"
abbrev cJ0_init : ByteArray := prog_44_method_1_code
def yJ0_init : MethodName := ⟨RJ0, "<init>", "()V"⟩
theorem dJ0_init_0 : decode cJ0_init 0 = .ok (.aload_n 0, 1) := by decide +kernel
theorem dJ0_init_1 : decode cJ0_init 1 = .ok (.invokespecial 1, 3) := by decide +kernel
theorem dJ0_init_4 : decode cJ0_init 4 = .ok (.return_, 1) := by decide +kernel
theorem q115 : (Jvm.Cond.initialized "java/util/AbstractCollection") ∈ lw_all := lw_g (lw_at lw_m1 4 rfl) rfl
theorem q209 : (Jvm.Cond.instanceMethod ({ cls := "java/util/AbstractCollection", name := "<init>", desc := "()V" } : Jvm.MethodName)) ∈ lw_all := lw_g (lw_at lw_m1 98 rfl) rfl
theorem q210 : (Jvm.Cond.code ({ cls := "java/util/AbstractCollection", name := "<init>", desc := "()V" } : Jvm.MethodName) prog_44_method_1_code (1 : Nat) (Option.none : Option Jvm.ClassFile.FieldType)) ∈ lw_all := lw_g (lw_at lw_m1 99 rfl) rfl
theorem q211 : (Jvm.Cond.methodLink "java/util/AbstractCollection" (1 : Nat) ({ cls := "java/lang/Object", name := "<init>", desc := "()V" } : Jvm.MethodName)) ∈ lw_all := lw_g (lw_at lw_m1 100 rfl) rfl
/-! java/util/AbstractList -/
set_option maxRecDepth 100000
def RJ1 : String := "java/util/AbstractList"
abbrev cJ1_init : ByteArray := prog_45_method_1_code
def yJ1_init : MethodName := ⟨RJ1, "<init>", "()V"⟩
def dkwJ1_init_0 : List UInt8 := [42, 183, 0, 1, 42, 3, 181, 0, 7, 177]
abbrev dktJ1_init_0 : List UInt8 := dkwJ1_init_0 ++ []
theorem dksJ1_init_0 : cJ1_init.data.toList.drop 0 = dktJ1_init_0 := by decide +kernel
theorem dJ1_init_0 : decode cJ1_init 0 = .ok (.aload_n 0, 1) := dk_42 (dk_at dksJ1_init_0 0 rfl rfl)
theorem dJ1_init_1 : decode cJ1_init 1 = .ok (.invokespecial 1, 3) := dk_183 0 1 (dk_at dksJ1_init_0 1 rfl rfl)
theorem dJ1_init_4 : decode cJ1_init 4 = .ok (.aload_n 0, 1) := dk_42 (dk_at dksJ1_init_0 4 rfl rfl)
theorem dJ1_init_5 : decode cJ1_init 5 = .ok (.iconst 0, 1) := dk_3 (dk_at dksJ1_init_0 5 rfl rfl)
theorem dJ1_init_6 : decode cJ1_init 6 = .ok (.putfield 7, 3) := dk_181 0 7 (dk_at dksJ1_init_0 6 rfl rfl)
theorem dJ1_init_9 : decode cJ1_init 9 = .ok (.return_, 1) := dk_177 (dk_at dksJ1_init_0 9 rfl rfl)
theorem q116 : (Jvm.Cond.initialized "java/util/AbstractList") ∈ lw_all := lw_g (lw_at lw_m1 5 rfl) rfl
theorem q206 : (Jvm.Cond.instanceMethod ({ cls := "java/util/AbstractList", name := "<init>", desc := "()V" } : Jvm.MethodName)) ∈ lw_all := lw_g (lw_at lw_m1 95 rfl) rfl
theorem q207 : (Jvm.Cond.code ({ cls := "java/util/AbstractList", name := "<init>", desc := "()V" } : Jvm.MethodName) prog_45_method_1_code (1 : Nat) (Option.none : Option Jvm.ClassFile.FieldType)) ∈ lw_all := lw_g (lw_at lw_m1 96 rfl) rfl
theorem q208 : (Jvm.Cond.methodLink "java/util/AbstractList" (1 : Nat) ({ cls := "java/util/AbstractCollection", name := "<init>", desc := "()V" } : Jvm.MethodName)) ∈ lw_all := lw_g (lw_at lw_m1 97 rfl) rfl
theorem q218 : (Jvm.Cond.fieldLink "java/util/AbstractList" (7 : Nat) "java/util/AbstractList" "modCount" "I") ∈ lw_all := lw_g (lw_at lw_m1 107 rfl) rfl
theorem q226 : (Jvm.Cond.soleField "java/util/AbstractList" "modCount") ∈ lw_all := lw_g (lw_at lw_m1 115 rfl) rfl
/-! java/lang/Throwable -/
set_option maxRecDepth 100000
def RJ10 : String := "java/lang/Throwable"
def TJ10 : u_T := fun k => match k with
  | 0 => ("java/lang/Throwable", "cause", "Ljava/lang/Throwable;", false)
  | 1 => ("java/lang/Throwable", "stackTrace", "[Ljava/lang/StackTraceElement;", false)
  | 2 => ("java/lang/Throwable", "suppressedExceptions", "Ljava/util/List;", false)
  | 3 => ("java/lang/Throwable", "detailMessage", "Ljava/lang/String;", false)
  | _ => ("java/lang/Throwable", "backtrace", "Ljava/lang/Object;", false)
def tyJ10 : Nat → FieldType := fun k => match k with
  | 0 => .object "java/lang/Throwable"
  | 1 => .array (.object "java/lang/StackTraceElement")
  | 2 => .object "java/util/List"
  | 3 => .object "java/lang/String"
  | _ => .object "java/lang/Object"
abbrev wsJ100 : List Cond := u_ws RJ10 TJ10 5
theorem nmJ10 : ∀ a, a < 5 → ∀ b, b < 5 → a ≠ b → (TJ10 a).2.1 ≠ (TJ10 b).2.1 := by decide +kernel
theorem tyJ10_ok : ∀ k, k < 5 → parseFieldDescriptor (TJ10 k).2.2.1 = some (tyJ10 k) := by decide +kernel
abbrev cJ10_init : ByteArray := prog_41_method_1_code
def yJ10_init : MethodName := ⟨RJ10, "<init>", "()V"⟩
def dkwJ10_init_1 : List UInt8 := [182, 0, 27, 87, 177]
abbrev dktJ10_init_1 : List UInt8 := dkwJ10_init_1 ++ []
def dkwJ10_init_0 : List UInt8 := [42, 183, 0, 1, 42, 42, 181, 0, 7, 42, 178, 0, 13, 181, 0, 17, 42, 178, 0, 20, 181, 0, 24, 42]
abbrev dktJ10_init_0 : List UInt8 := dkwJ10_init_0 ++ dktJ10_init_1
theorem dksJ10_init_0 : cJ10_init.data.toList.drop 0 = dktJ10_init_0 := by decide +kernel
theorem dksJ10_init_1 : cJ10_init.data.toList.drop 24 = dktJ10_init_1 := dk_seg dksJ10_init_0 24 rfl rfl
theorem dJ10_init_0 : decode cJ10_init 0 = .ok (.aload_n 0, 1) := dk_42 (dk_at dksJ10_init_0 0 rfl rfl)
theorem dJ10_init_1 : decode cJ10_init 1 = .ok (.invokespecial 1, 3) := dk_183 0 1 (dk_at dksJ10_init_0 1 rfl rfl)
theorem dJ10_init_4 : decode cJ10_init 4 = .ok (.aload_n 0, 1) := dk_42 (dk_at dksJ10_init_0 4 rfl rfl)
theorem dJ10_init_5 : decode cJ10_init 5 = .ok (.aload_n 0, 1) := dk_42 (dk_at dksJ10_init_0 5 rfl rfl)
theorem dJ10_init_6 : decode cJ10_init 6 = .ok (.putfield 7, 3) := dk_181 0 7 (dk_at dksJ10_init_0 6 rfl rfl)
theorem dJ10_init_9 : decode cJ10_init 9 = .ok (.aload_n 0, 1) := dk_42 (dk_at dksJ10_init_0 9 rfl rfl)
theorem dJ10_init_10 : decode cJ10_init 10 = .ok (.getstatic 13, 3) := dk_178 0 13 (dk_at dksJ10_init_0 10 rfl rfl)
theorem dJ10_init_13 : decode cJ10_init 13 = .ok (.putfield 17, 3) := dk_181 0 17 (dk_at dksJ10_init_0 13 rfl rfl)
theorem dJ10_init_16 : decode cJ10_init 16 = .ok (.aload_n 0, 1) := dk_42 (dk_at dksJ10_init_0 16 rfl rfl)
theorem dJ10_init_17 : decode cJ10_init 17 = .ok (.getstatic 20, 3) := dk_178 0 20 (dk_at dksJ10_init_0 17 rfl rfl)
theorem dJ10_init_20 : decode cJ10_init 20 = .ok (.putfield 24, 3) := dk_181 0 24 (dk_at dksJ10_init_0 20 rfl rfl)
theorem dJ10_init_23 : decode cJ10_init 23 = .ok (.aload_n 0, 1) := dk_42 (dk_at dksJ10_init_0 23 rfl rfl)
theorem dJ10_init_24 : decode cJ10_init 24 = .ok (.invokevirtual 27, 3) := dk_182 0 27 (dk_at dksJ10_init_1 0 rfl rfl)
theorem dJ10_init_27 : decode cJ10_init 27 = .ok (.pop, 1) := dk_87 (dk_at dksJ10_init_1 3 rfl rfl)
theorem dJ10_init_28 : decode cJ10_init 28 = .ok (.return_, 1) := dk_177 (dk_at dksJ10_init_1 4 rfl rfl)
abbrev cJ10_init_2 : ByteArray := prog_41_method_5_code
def yJ10_init_2 : MethodName := ⟨RJ10, "<init>", "(Ljava/lang/String;Ljava/lang/Throwable;ZZ)V"⟩
def dkwJ10_init_2_2 : List UInt8 := [44, 181, 0, 7, 29, 154, 0, 8, 42, 1, 181, 0, 24, 177]
abbrev dktJ10_init_2_2 : List UInt8 := dkwJ10_init_2_2 ++ []
def dkwJ10_init_2_1 : List UInt8 := [21, 4, 153, 0, 11, 42, 182, 0, 27, 87, 167, 0, 8, 42, 1, 181, 0, 17, 42, 43, 181, 0, 31, 42]
abbrev dktJ10_init_2_1 : List UInt8 := dkwJ10_init_2_1 ++ dktJ10_init_2_2
def dkwJ10_init_2_0 : List UInt8 := [42, 183, 0, 1, 42, 42, 181, 0, 7, 42, 178, 0, 13, 181, 0, 17, 42, 178, 0, 20, 181, 0, 24]
abbrev dktJ10_init_2_0 : List UInt8 := dkwJ10_init_2_0 ++ dktJ10_init_2_1
theorem dksJ10_init_2_0 : cJ10_init_2.data.toList.drop 0 = dktJ10_init_2_0 := by decide +kernel
theorem dksJ10_init_2_1 : cJ10_init_2.data.toList.drop 23 = dktJ10_init_2_1 := dk_seg dksJ10_init_2_0 23 rfl rfl
theorem dksJ10_init_2_2 : cJ10_init_2.data.toList.drop 47 = dktJ10_init_2_2 := dk_seg dksJ10_init_2_1 24 rfl rfl
theorem dJ10_init_2_0 : decode cJ10_init_2 0 = .ok (.aload_n 0, 1) := dk_42 (dk_at dksJ10_init_2_0 0 rfl rfl)
theorem dJ10_init_2_1 : decode cJ10_init_2 1 = .ok (.invokespecial 1, 3) := dk_183 0 1 (dk_at dksJ10_init_2_0 1 rfl rfl)
theorem dJ10_init_2_4 : decode cJ10_init_2 4 = .ok (.aload_n 0, 1) := dk_42 (dk_at dksJ10_init_2_0 4 rfl rfl)
theorem dJ10_init_2_5 : decode cJ10_init_2 5 = .ok (.aload_n 0, 1) := dk_42 (dk_at dksJ10_init_2_0 5 rfl rfl)
theorem dJ10_init_2_6 : decode cJ10_init_2 6 = .ok (.putfield 7, 3) := dk_181 0 7 (dk_at dksJ10_init_2_0 6 rfl rfl)
theorem dJ10_init_2_9 : decode cJ10_init_2 9 = .ok (.aload_n 0, 1) := dk_42 (dk_at dksJ10_init_2_0 9 rfl rfl)
theorem dJ10_init_2_10 : decode cJ10_init_2 10 = .ok (.getstatic 13, 3) := dk_178 0 13 (dk_at dksJ10_init_2_0 10 rfl rfl)
theorem dJ10_init_2_13 : decode cJ10_init_2 13 = .ok (.putfield 17, 3) := dk_181 0 17 (dk_at dksJ10_init_2_0 13 rfl rfl)
theorem dJ10_init_2_16 : decode cJ10_init_2 16 = .ok (.aload_n 0, 1) := dk_42 (dk_at dksJ10_init_2_0 16 rfl rfl)
theorem dJ10_init_2_17 : decode cJ10_init_2 17 = .ok (.getstatic 20, 3) := dk_178 0 20 (dk_at dksJ10_init_2_0 17 rfl rfl)
theorem dJ10_init_2_20 : decode cJ10_init_2 20 = .ok (.putfield 24, 3) := dk_181 0 24 (dk_at dksJ10_init_2_0 20 rfl rfl)
theorem dJ10_init_2_23 : decode cJ10_init_2 23 = .ok (.iload 4, 2) := dk_21 4 (dk_at dksJ10_init_2_1 0 rfl rfl)
theorem dJ10_init_2_25 : decode cJ10_init_2 25 = .ok (.ifCond .eq 11, 3) := dk_153 0 11 (dk_at dksJ10_init_2_1 2 rfl rfl)
theorem dJ10_init_2_28 : decode cJ10_init_2 28 = .ok (.aload_n 0, 1) := dk_42 (dk_at dksJ10_init_2_1 5 rfl rfl)
theorem dJ10_init_2_29 : decode cJ10_init_2 29 = .ok (.invokevirtual 27, 3) := dk_182 0 27 (dk_at dksJ10_init_2_1 6 rfl rfl)
theorem dJ10_init_2_32 : decode cJ10_init_2 32 = .ok (.pop, 1) := dk_87 (dk_at dksJ10_init_2_1 9 rfl rfl)
theorem dJ10_init_2_33 : decode cJ10_init_2 33 = .ok (.goto 8, 3) := dk_167 0 8 (dk_at dksJ10_init_2_1 10 rfl rfl)
theorem dJ10_init_2_36 : decode cJ10_init_2 36 = .ok (.aload_n 0, 1) := dk_42 (dk_at dksJ10_init_2_1 13 rfl rfl)
theorem dJ10_init_2_37 : decode cJ10_init_2 37 = .ok (.aconst_null, 1) := dk_1 (dk_at dksJ10_init_2_1 14 rfl rfl)
theorem dJ10_init_2_38 : decode cJ10_init_2 38 = .ok (.putfield 17, 3) := dk_181 0 17 (dk_at dksJ10_init_2_1 15 rfl rfl)
theorem dJ10_init_2_41 : decode cJ10_init_2 41 = .ok (.aload_n 0, 1) := dk_42 (dk_at dksJ10_init_2_1 18 rfl rfl)
theorem dJ10_init_2_42 : decode cJ10_init_2 42 = .ok (.aload_n 1, 1) := dk_43 (dk_at dksJ10_init_2_1 19 rfl rfl)
theorem dJ10_init_2_43 : decode cJ10_init_2 43 = .ok (.putfield 31, 3) := dk_181 0 31 (dk_at dksJ10_init_2_1 20 rfl rfl)
theorem dJ10_init_2_46 : decode cJ10_init_2 46 = .ok (.aload_n 0, 1) := dk_42 (dk_at dksJ10_init_2_1 23 rfl rfl)
theorem dJ10_init_2_47 : decode cJ10_init_2 47 = .ok (.aload_n 2, 1) := dk_44 (dk_at dksJ10_init_2_2 0 rfl rfl)
theorem dJ10_init_2_48 : decode cJ10_init_2 48 = .ok (.putfield 7, 3) := dk_181 0 7 (dk_at dksJ10_init_2_2 1 rfl rfl)
theorem dJ10_init_2_51 : decode cJ10_init_2 51 = .ok (.iload_n 3, 1) := dk_29 (dk_at dksJ10_init_2_2 4 rfl rfl)
theorem dJ10_init_2_52 : decode cJ10_init_2 52 = .ok (.ifCond .ne 8, 3) := dk_154 0 8 (dk_at dksJ10_init_2_2 5 rfl rfl)
theorem dJ10_init_2_55 : decode cJ10_init_2 55 = .ok (.aload_n 0, 1) := dk_42 (dk_at dksJ10_init_2_2 8 rfl rfl)
theorem dJ10_init_2_56 : decode cJ10_init_2 56 = .ok (.aconst_null, 1) := dk_1 (dk_at dksJ10_init_2_2 9 rfl rfl)
theorem dJ10_init_2_57 : decode cJ10_init_2 57 = .ok (.putfield 24, 3) := dk_181 0 24 (dk_at dksJ10_init_2_2 10 rfl rfl)
theorem dJ10_init_2_60 : decode cJ10_init_2 60 = .ok (.return_, 1) := dk_177 (dk_at dksJ10_init_2_2 13 rfl rfl)
theorem q127 : (Jvm.Cond.initialized "java/lang/Throwable") ∈ lw_all := lw_g (lw_at lw_m1 16 rfl) rfl
theorem q551 : (Jvm.Cond.declares ({ cls := "java/lang/Throwable", name := "<init>", desc := "()V" } : Jvm.MethodName)) ∈ lw_tbl := lw_at lw_m2 200 rfl
theorem q552 : (Jvm.Cond.declares ({ cls := "java/lang/Throwable", name := "<init>", desc := "(Ljava/lang/String;)V" } : Jvm.MethodName)) ∈ lw_tbl := lw_at lw_m2 201 rfl
theorem q556 : (Jvm.Cond.lays "java/lang/Throwable" "java/lang/Throwable" "cause" "Ljava/lang/Throwable;") ∈ lw_all := lw_g (lw_at lw_m2 205 rfl) rfl
theorem q558 : (Jvm.Cond.lays "java/lang/Throwable" "java/lang/Throwable" "stackTrace" "[Ljava/lang/StackTraceElement;") ∈ lw_all := lw_g (lw_at lw_m2 207 rfl) rfl
theorem q560 : (Jvm.Cond.lays "java/lang/Throwable" "java/lang/Throwable" "suppressedExceptions" "Ljava/util/List;") ∈ lw_all := lw_g (lw_at lw_m2 209 rfl) rfl
theorem q562 : (Jvm.Cond.lays "java/lang/Throwable" "java/lang/Throwable" "detailMessage" "Ljava/lang/String;") ∈ lw_all := lw_g (lw_at lw_m2 211 rfl) rfl
theorem q564 : (Jvm.Cond.lays "java/lang/Throwable" "java/lang/Throwable" "backtrace" "Ljava/lang/Object;") ∈ lw_all := lw_g (lw_at lw_m2 213 rfl) rfl
theorem q565 : (Jvm.Cond.fieldLink "java/lang/Throwable" (198 : Nat) "java/lang/Throwable" "backtrace" "Ljava/lang/Object;") ∈ lw_all := lw_g (lw_at lw_m2 214 rfl) rfl
theorem q566 : (Jvm.Cond.superclass "java/lang/Throwable" "java/lang/Object") ∈ lw_all := lw_g (lw_at lw_m2 215 rfl) rfl
theorem q567 : (Jvm.Cond.instanceMethod ({ cls := "java/lang/Throwable", name := "<init>", desc := "()V" } : Jvm.MethodName)) ∈ lw_all := lw_g (lw_at lw_m2 216 rfl) rfl
theorem q568 : (Jvm.Cond.code ({ cls := "java/lang/Throwable", name := "<init>", desc := "()V" } : Jvm.MethodName) prog_41_method_1_code (1 : Nat) (Option.none : Option Jvm.ClassFile.FieldType)) ∈ lw_all := lw_g (lw_at lw_m2 217 rfl) rfl
theorem q569 : (Jvm.Cond.methodLink "java/lang/Throwable" (1 : Nat) ({ cls := "java/lang/Object", name := "<init>", desc := "()V" } : Jvm.MethodName)) ∈ lw_all := lw_g (lw_at lw_m2 218 rfl) rfl
theorem q570 : (Jvm.Cond.fieldLink "java/lang/Throwable" (13 : Nat) "java/lang/Throwable" "UNASSIGNED_STACK" "[Ljava/lang/StackTraceElement;") ∈ lw_all := lw_g (lw_at lw_m2 219 rfl) rfl
theorem q571 : (Jvm.Cond.laysStatic "java/lang/Throwable" "UNASSIGNED_STACK" "[Ljava/lang/StackTraceElement;") ∈ lw_tbl := lw_at lw_m2 220 rfl
theorem q572 : (Jvm.Cond.fieldLink "java/lang/Throwable" (20 : Nat) "java/lang/Throwable" "SUPPRESSED_SENTINEL" "Ljava/util/List;") ∈ lw_all := lw_g (lw_at lw_m2 221 rfl) rfl
theorem q573 : (Jvm.Cond.laysStatic "java/lang/Throwable" "SUPPRESSED_SENTINEL" "Ljava/util/List;") ∈ lw_tbl := lw_at lw_m2 222 rfl
theorem q574 : (Jvm.Cond.methodLink "java/lang/Throwable" (27 : Nat) ({ cls := "java/lang/Throwable", name := "fillInStackTrace", desc := "()Ljava/lang/Throwable;" } : Jvm.MethodName)) ∈ lw_all := lw_g (lw_at lw_m2 223 rfl) rfl
theorem q575 : (Jvm.Cond.instanceMethod ({ cls := "java/lang/Throwable", name := "fillInStackTrace", desc := "()Ljava/lang/Throwable;" } : Jvm.MethodName)) ∈ lw_all := lw_g (lw_at lw_m2 224 rfl) rfl
theorem q576 : (Jvm.Cond.sameMethod "java/lang/Throwable" "java/lang/Throwable" "fillInStackTrace" "()Ljava/lang/Throwable;") ∈ lw_all := lw_g (lw_at lw_m2 225 rfl) rfl
theorem q578 : (Jvm.Cond.codeSync ({ cls := "java/lang/Throwable", name := "fillInStackTrace", desc := "()Ljava/lang/Throwable;" } : Jvm.MethodName) prog_41_method_18_code (1 : Nat) (Option.some (Jvm.ClassFile.FieldType.object "java/lang/Throwable"))) ∈ lw_all := lw_g (lw_at lw_m2 227 rfl) rfl
theorem q579 : (Jvm.Cond.methodLink "java/lang/Throwable" (202 : Nat) ({ cls := "java/lang/Throwable", name := "fillInStackTrace", desc := "(I)Ljava/lang/Throwable;" } : Jvm.MethodName)) ∈ lw_all := lw_g (lw_at lw_m2 228 rfl) rfl
theorem q580 : (Jvm.Cond.privateMethod ({ cls := "java/lang/Throwable", name := "fillInStackTrace", desc := "(I)Ljava/lang/Throwable;" } : Jvm.MethodName)) ∈ lw_tbl := lw_at lw_m2 229 rfl
theorem q581 : (Jvm.Cond.instanceMethod ({ cls := "java/lang/Throwable", name := "fillInStackTrace", desc := "(I)Ljava/lang/Throwable;" } : Jvm.MethodName)) ∈ lw_all := lw_g (lw_at lw_m2 230 rfl) rfl
theorem q582 : (Jvm.Cond.instantiable "java/lang/Throwable" (6 : Nat)) ∈ lw_all := lw_g (lw_at lw_m2 231 rfl) rfl
theorem q583 : (Jvm.Cond.native ({ cls := "java/lang/Throwable", name := "fillInStackTrace", desc := "(I)Ljava/lang/Throwable;" } : Jvm.MethodName)) ∈ lw_all := lw_g (lw_at lw_m2 232 rfl) rfl
theorem q594 : (Jvm.Cond.instanceMethod ({ cls := "java/lang/Throwable", name := "<init>", desc := "(Ljava/lang/String;Ljava/lang/Throwable;ZZ)V" } : Jvm.MethodName)) ∈ lw_all := lw_g (lw_at lw_m3 3 rfl) rfl
theorem q595 : (Jvm.Cond.code ({ cls := "java/lang/Throwable", name := "<init>", desc := "(Ljava/lang/String;Ljava/lang/Throwable;ZZ)V" } : Jvm.MethodName) prog_41_method_5_code (5 : Nat) (Option.none : Option Jvm.ClassFile.FieldType)) ∈ lw_all := lw_g (lw_at lw_m3 4 rfl) rfl
theorem q598 : (Jvm.Cond.fieldLink "java/lang/Throwable" (198 : Nat) "java/lang/Throwable" "backtrace" "Ljava/lang/Object;") ∈ lw_all := lw_g (lw_at lw_m3 7 rfl) rfl
theorem q599 : (Jvm.Cond.fieldLink "java/lang/Throwable" (31 : Nat) "java/lang/Throwable" "detailMessage" "Ljava/lang/String;") ∈ lw_all := lw_g (lw_at lw_m3 8 rfl) rfl
theorem q600 : (Jvm.Cond.fieldLink "java/lang/Throwable" (7 : Nat) "java/lang/Throwable" "cause" "Ljava/lang/Throwable;") ∈ lw_all := lw_g (lw_at lw_m3 9 rfl) rfl
theorem q601 : (Jvm.Cond.fieldLink "java/lang/Throwable" (17 : Nat) "java/lang/Throwable" "stackTrace" "[Ljava/lang/StackTraceElement;") ∈ lw_all := lw_g (lw_at lw_m3 10 rfl) rfl
theorem q602 : (Jvm.Cond.fieldLink "java/lang/Throwable" (24 : Nat) "java/lang/Throwable" "suppressedExceptions" "Ljava/util/List;") ∈ lw_all := lw_g (lw_at lw_m3 11 rfl) rfl
theorem q605 : (Jvm.Cond.soleField "java/lang/Throwable" "backtrace") ∈ lw_all := lw_g (lw_at lw_m3 14 rfl) rfl
theorem q606 : (Jvm.Cond.soleField "java/lang/Throwable" "detailMessage") ∈ lw_all := lw_g (lw_at lw_m3 15 rfl) rfl
theorem q607 : (Jvm.Cond.soleField "java/lang/Throwable" "cause") ∈ lw_all := lw_g (lw_at lw_m3 16 rfl) rfl
theorem q608 : (Jvm.Cond.soleField "java/lang/Throwable" "stackTrace") ∈ lw_all := lw_g (lw_at lw_m3 17 rfl) rfl
theorem q610 : (Jvm.Cond.soleField "java/lang/Throwable" "depth") ∈ lw_all := lw_g (lw_at lw_m3 19 rfl) rfl
theorem q611 : (Jvm.Cond.soleField "java/lang/Throwable" "suppressedExceptions") ∈ lw_all := lw_g (lw_at lw_m3 20 rfl) rfl
theorem q2073 : (Jvm.Cond.sameMethod "java/lang/Throwable" "java/lang/Throwable" "fillInStackTrace" "(I)Ljava/lang/Throwable;") ∈ lw_all := lw_g (lw_at lw_m9 42 rfl) rfl
theorem q2110 : (Jvm.Cond.castable "java/lang/Throwable" "java/lang/Object") ∈ lw_tbl := lw_at lw_m9 79 rfl
theorem in_J10 : ∀ w ∈ wsJ100, w ∈ lw_all := lw_in wsJ100 [556, 558, 560, 562, 564] (by decide +kernel) (by decide +kernel)
/-! java/lang/Exception -/
set_option maxRecDepth 100000
def RJ11 : String := "java/lang/Exception"
abbrev cJ11_init : ByteArray := prog_31_method_5_code
def yJ11_init : MethodName := ⟨RJ11, "<init>", "(Ljava/lang/String;Ljava/lang/Throwable;ZZ)V"⟩
def dkwJ11_init_0 : List UInt8 := [42, 43, 44, 29, 21, 4, 183, 0, 16, 177]
abbrev dktJ11_init_0 : List UInt8 := dkwJ11_init_0 ++ []
theorem dksJ11_init_0 : cJ11_init.data.toList.drop 0 = dktJ11_init_0 := by decide +kernel
theorem dJ11_init_0 : decode cJ11_init 0 = .ok (.aload_n 0, 1) := dk_42 (dk_at dksJ11_init_0 0 rfl rfl)
theorem dJ11_init_1 : decode cJ11_init 1 = .ok (.aload_n 1, 1) := dk_43 (dk_at dksJ11_init_0 1 rfl rfl)
theorem dJ11_init_2 : decode cJ11_init 2 = .ok (.aload_n 2, 1) := dk_44 (dk_at dksJ11_init_0 2 rfl rfl)
theorem dJ11_init_3 : decode cJ11_init 3 = .ok (.iload_n 3, 1) := dk_29 (dk_at dksJ11_init_0 3 rfl rfl)
theorem dJ11_init_4 : decode cJ11_init 4 = .ok (.iload 4, 2) := dk_21 4 (dk_at dksJ11_init_0 4 rfl rfl)
theorem dJ11_init_6 : decode cJ11_init 6 = .ok (.invokespecial 16, 3) := dk_183 0 16 (dk_at dksJ11_init_0 6 rfl rfl)
theorem dJ11_init_9 : decode cJ11_init 9 = .ok (.return_, 1) := dk_177 (dk_at dksJ11_init_0 9 rfl rfl)
abbrev cJ11_init_2 : ByteArray := prog_31_method_1_code
def yJ11_init_2 : MethodName := ⟨RJ11, "<init>", "()V"⟩
theorem dJ11_init_2_0 : decode cJ11_init_2 0 = .ok (.aload_n 0, 1) := by decide +kernel
theorem dJ11_init_2_1 : decode cJ11_init_2 1 = .ok (.invokespecial 1, 3) := by decide +kernel
theorem dJ11_init_2_4 : decode cJ11_init_2 4 = .ok (.return_, 1) := by decide +kernel
theorem q128 : (Jvm.Cond.initialized "java/lang/Exception") ∈ lw_all := lw_g (lw_at lw_m1 17 rfl) rfl
theorem q549 : (Jvm.Cond.declares ({ cls := "java/lang/Exception", name := "<init>", desc := "()V" } : Jvm.MethodName)) ∈ lw_tbl := lw_at lw_m2 198 rfl
theorem q550 : (Jvm.Cond.declares ({ cls := "java/lang/Exception", name := "<init>", desc := "(Ljava/lang/String;)V" } : Jvm.MethodName)) ∈ lw_tbl := lw_at lw_m2 199 rfl
theorem q591 : (Jvm.Cond.instanceMethod ({ cls := "java/lang/Exception", name := "<init>", desc := "(Ljava/lang/String;Ljava/lang/Throwable;ZZ)V" } : Jvm.MethodName)) ∈ lw_all := lw_g (lw_at lw_m3 0 rfl) rfl
theorem q592 : (Jvm.Cond.code ({ cls := "java/lang/Exception", name := "<init>", desc := "(Ljava/lang/String;Ljava/lang/Throwable;ZZ)V" } : Jvm.MethodName) prog_31_method_5_code (5 : Nat) (Option.none : Option Jvm.ClassFile.FieldType)) ∈ lw_all := lw_g (lw_at lw_m3 1 rfl) rfl
theorem q593 : (Jvm.Cond.methodLink "java/lang/Exception" (16 : Nat) ({ cls := "java/lang/Throwable", name := "<init>", desc := "(Ljava/lang/String;Ljava/lang/Throwable;ZZ)V" } : Jvm.MethodName)) ∈ lw_all := lw_g (lw_at lw_m3 2 rfl) rfl
theorem q1510 : (Jvm.Cond.instanceMethod ({ cls := "java/lang/Exception", name := "<init>", desc := "()V" } : Jvm.MethodName)) ∈ lw_all := lw_g (lw_at lw_m6 199 rfl) rfl
theorem q1511 : (Jvm.Cond.code ({ cls := "java/lang/Exception", name := "<init>", desc := "()V" } : Jvm.MethodName) prog_31_method_1_code (1 : Nat) (Option.none : Option Jvm.ClassFile.FieldType)) ∈ lw_all := lw_g (lw_at lw_m6 200 rfl) rfl
theorem q1512 : (Jvm.Cond.methodLink "java/lang/Exception" (1 : Nat) ({ cls := "java/lang/Throwable", name := "<init>", desc := "()V" } : Jvm.MethodName)) ∈ lw_all := lw_g (lw_at lw_m6 201 rfl) rfl
/-! java/lang/RuntimeException -/
set_option maxRecDepth 100000
def RJ12 : String := "java/lang/RuntimeException"
abbrev cJ12_init : ByteArray := prog_35_method_5_code
def yJ12_init : MethodName := ⟨RJ12, "<init>", "(Ljava/lang/String;Ljava/lang/Throwable;ZZ)V"⟩
def dkwJ12_init_0 : List UInt8 := [42, 43, 44, 29, 21, 4, 183, 0, 16, 177]
abbrev dktJ12_init_0 : List UInt8 := dkwJ12_init_0 ++ []
theorem dksJ12_init_0 : cJ12_init.data.toList.drop 0 = dktJ12_init_0 := by decide +kernel
theorem dJ12_init_0 : decode cJ12_init 0 = .ok (.aload_n 0, 1) := dk_42 (dk_at dksJ12_init_0 0 rfl rfl)
theorem dJ12_init_1 : decode cJ12_init 1 = .ok (.aload_n 1, 1) := dk_43 (dk_at dksJ12_init_0 1 rfl rfl)
theorem dJ12_init_2 : decode cJ12_init 2 = .ok (.aload_n 2, 1) := dk_44 (dk_at dksJ12_init_0 2 rfl rfl)
theorem dJ12_init_3 : decode cJ12_init 3 = .ok (.iload_n 3, 1) := dk_29 (dk_at dksJ12_init_0 3 rfl rfl)
theorem dJ12_init_4 : decode cJ12_init 4 = .ok (.iload 4, 2) := dk_21 4 (dk_at dksJ12_init_0 4 rfl rfl)
theorem dJ12_init_6 : decode cJ12_init 6 = .ok (.invokespecial 16, 3) := dk_183 0 16 (dk_at dksJ12_init_0 6 rfl rfl)
theorem dJ12_init_9 : decode cJ12_init 9 = .ok (.return_, 1) := dk_177 (dk_at dksJ12_init_0 9 rfl rfl)
abbrev cJ12_init_2 : ByteArray := prog_35_method_1_code
def yJ12_init_2 : MethodName := ⟨RJ12, "<init>", "()V"⟩
theorem dJ12_init_2_0 : decode cJ12_init_2 0 = .ok (.aload_n 0, 1) := by decide +kernel
theorem dJ12_init_2_1 : decode cJ12_init_2 1 = .ok (.invokespecial 1, 3) := by decide +kernel
theorem dJ12_init_2_4 : decode cJ12_init_2 4 = .ok (.return_, 1) := by decide +kernel
theorem q129 : (Jvm.Cond.initialized "java/lang/RuntimeException") ∈ lw_all := lw_g (lw_at lw_m1 18 rfl) rfl
theorem q547 : (Jvm.Cond.declares ({ cls := "java/lang/RuntimeException", name := "<init>", desc := "()V" } : Jvm.MethodName)) ∈ lw_tbl := lw_at lw_m2 196 rfl
theorem q548 : (Jvm.Cond.declares ({ cls := "java/lang/RuntimeException", name := "<init>", desc := "(Ljava/lang/String;)V" } : Jvm.MethodName)) ∈ lw_tbl := lw_at lw_m2 197 rfl
theorem q588 : (Jvm.Cond.instanceMethod ({ cls := "java/lang/RuntimeException", name := "<init>", desc := "(Ljava/lang/String;Ljava/lang/Throwable;ZZ)V" } : Jvm.MethodName)) ∈ lw_all := lw_g (lw_at lw_m2 237 rfl) rfl
theorem q589 : (Jvm.Cond.code ({ cls := "java/lang/RuntimeException", name := "<init>", desc := "(Ljava/lang/String;Ljava/lang/Throwable;ZZ)V" } : Jvm.MethodName) prog_35_method_5_code (5 : Nat) (Option.none : Option Jvm.ClassFile.FieldType)) ∈ lw_all := lw_g (lw_at lw_m2 238 rfl) rfl
theorem q590 : (Jvm.Cond.methodLink "java/lang/RuntimeException" (16 : Nat) ({ cls := "java/lang/Exception", name := "<init>", desc := "(Ljava/lang/String;Ljava/lang/Throwable;ZZ)V" } : Jvm.MethodName)) ∈ lw_all := lw_g (lw_at lw_m2 239 rfl) rfl
theorem q1507 : (Jvm.Cond.instanceMethod ({ cls := "java/lang/RuntimeException", name := "<init>", desc := "()V" } : Jvm.MethodName)) ∈ lw_all := lw_g (lw_at lw_m6 196 rfl) rfl
theorem q1508 : (Jvm.Cond.code ({ cls := "java/lang/RuntimeException", name := "<init>", desc := "()V" } : Jvm.MethodName) prog_35_method_1_code (1 : Nat) (Option.none : Option Jvm.ClassFile.FieldType)) ∈ lw_all := lw_g (lw_at lw_m6 197 rfl) rfl
theorem q1509 : (Jvm.Cond.methodLink "java/lang/RuntimeException" (1 : Nat) ({ cls := "java/lang/Exception", name := "<init>", desc := "()V" } : Jvm.MethodName)) ∈ lw_all := lw_g (lw_at lw_m6 198 rfl) rfl
/-! java/lang/AbstractStringBuilder -/
set_option maxRecDepth 100000
def RJ13 : String := "java/lang/AbstractStringBuilder"
abbrev cJ13_init : ByteArray := prog_25_method_2_code
def yJ13_init : MethodName := ⟨RJ13, "<init>", "(I)V"⟩
def dkwJ13_init_1 : List UInt8 := [167, 0, 16, 42, 27, 184, 0, 26, 181, 0, 15, 42, 4, 181, 0, 22, 177]
abbrev dktJ13_init_1 : List UInt8 := dkwJ13_init_1 ++ []
def dkwJ13_init_0 : List UInt8 := [42, 183, 0, 3, 178, 0, 18, 153, 0, 18, 42, 27, 188, 8, 181, 0, 15, 42, 3, 181, 0, 22]
abbrev dktJ13_init_0 : List UInt8 := dkwJ13_init_0 ++ dktJ13_init_1
theorem dksJ13_init_0 : cJ13_init.data.toList.drop 0 = dktJ13_init_0 := by decide +kernel
theorem dksJ13_init_1 : cJ13_init.data.toList.drop 22 = dktJ13_init_1 := dk_seg dksJ13_init_0 22 rfl rfl
theorem dJ13_init_0 : decode cJ13_init 0 = .ok (.aload_n 0, 1) := dk_42 (dk_at dksJ13_init_0 0 rfl rfl)
theorem dJ13_init_1 : decode cJ13_init 1 = .ok (.invokespecial 3, 3) := dk_183 0 3 (dk_at dksJ13_init_0 1 rfl rfl)
theorem dJ13_init_4 : decode cJ13_init 4 = .ok (.getstatic 18, 3) := dk_178 0 18 (dk_at dksJ13_init_0 4 rfl rfl)
theorem dJ13_init_7 : decode cJ13_init 7 = .ok (.ifCond .eq 18, 3) := dk_153 0 18 (dk_at dksJ13_init_0 7 rfl rfl)
theorem dJ13_init_10 : decode cJ13_init 10 = .ok (.aload_n 0, 1) := dk_42 (dk_at dksJ13_init_0 10 rfl rfl)
theorem dJ13_init_11 : decode cJ13_init 11 = .ok (.iload_n 1, 1) := dk_27 (dk_at dksJ13_init_0 11 rfl rfl)
theorem dJ13_init_12 : decode cJ13_init 12 = .ok (.newarray .byte, 2) := dk_188_8 (dk_at dksJ13_init_0 12 rfl rfl)
theorem dJ13_init_14 : decode cJ13_init 14 = .ok (.putfield 15, 3) := dk_181 0 15 (dk_at dksJ13_init_0 14 rfl rfl)
theorem dJ13_init_17 : decode cJ13_init 17 = .ok (.aload_n 0, 1) := dk_42 (dk_at dksJ13_init_0 17 rfl rfl)
theorem dJ13_init_18 : decode cJ13_init 18 = .ok (.iconst 0, 1) := dk_3 (dk_at dksJ13_init_0 18 rfl rfl)
theorem dJ13_init_19 : decode cJ13_init 19 = .ok (.putfield 22, 3) := dk_181 0 22 (dk_at dksJ13_init_0 19 rfl rfl)
theorem dJ13_init_22 : decode cJ13_init 22 = .ok (.goto 16, 3) := dk_167 0 16 (dk_at dksJ13_init_1 0 rfl rfl)
theorem dJ13_init_25 : decode cJ13_init 25 = .ok (.aload_n 0, 1) := dk_42 (dk_at dksJ13_init_1 3 rfl rfl)
theorem dJ13_init_26 : decode cJ13_init 26 = .ok (.iload_n 1, 1) := dk_27 (dk_at dksJ13_init_1 4 rfl rfl)
theorem dJ13_init_27 : decode cJ13_init 27 = .ok (.invokestatic 26, 3) := dk_184 0 26 (dk_at dksJ13_init_1 5 rfl rfl)
theorem dJ13_init_30 : decode cJ13_init 30 = .ok (.putfield 15, 3) := dk_181 0 15 (dk_at dksJ13_init_1 8 rfl rfl)
theorem dJ13_init_33 : decode cJ13_init 33 = .ok (.aload_n 0, 1) := dk_42 (dk_at dksJ13_init_1 11 rfl rfl)
theorem dJ13_init_34 : decode cJ13_init 34 = .ok (.iconst 1, 1) := dk_4 (dk_at dksJ13_init_1 12 rfl rfl)
theorem dJ13_init_35 : decode cJ13_init 35 = .ok (.putfield 22, 3) := dk_181 0 22 (dk_at dksJ13_init_1 13 rfl rfl)
theorem dJ13_init_38 : decode cJ13_init 38 = .ok (.return_, 1) := dk_177 (dk_at dksJ13_init_1 16 rfl rfl)
abbrev cJ13_append : ByteArray := prog_25_method_31_code
def yJ13_append : MethodName := ⟨RJ13, "append", "(C)Ljava/lang/AbstractStringBuilder;"⟩
def dkwJ13_append_3 : List UInt8 := [181, 0, 79, 27, 184, 0, 197, 42, 176]
abbrev dktJ13_append_3 : List UInt8 := dkwJ13_append_3 ++ []
def dkwJ13_append_2 : List UInt8 := [182, 0, 83, 153, 0, 7, 42, 182, 0, 195, 42, 180, 0, 15, 42, 89, 180, 0, 79, 90, 4, 96]
abbrev dktJ13_append_2 : List UInt8 := dkwJ13_append_2 ++ dktJ13_append_3
def dkwJ13_append_1 : List UInt8 := [42, 180, 0, 15, 42, 89, 180, 0, 79, 90, 4, 96, 181, 0, 79, 27, 145, 84, 167, 0, 33, 42]
abbrev dktJ13_append_1 : List UInt8 := dkwJ13_append_1 ++ dktJ13_append_2
def dkwJ13_append_0 : List UInt8 := [42, 42, 180, 0, 79, 4, 96, 182, 0, 100, 42, 182, 0, 83, 153, 0, 31, 27, 184, 0, 191, 153, 0, 24]
abbrev dktJ13_append_0 : List UInt8 := dkwJ13_append_0 ++ dktJ13_append_1
theorem dksJ13_append_0 : cJ13_append.data.toList.drop 0 = dktJ13_append_0 := by decide +kernel
theorem dksJ13_append_1 : cJ13_append.data.toList.drop 24 = dktJ13_append_1 := dk_seg dksJ13_append_0 24 rfl rfl
theorem dksJ13_append_2 : cJ13_append.data.toList.drop 46 = dktJ13_append_2 := dk_seg dksJ13_append_1 22 rfl rfl
theorem dksJ13_append_3 : cJ13_append.data.toList.drop 68 = dktJ13_append_3 := dk_seg dksJ13_append_2 22 rfl rfl
theorem dJ13_append_0 : decode cJ13_append 0 = .ok (.aload_n 0, 1) := dk_42 (dk_at dksJ13_append_0 0 rfl rfl)
theorem dJ13_append_1 : decode cJ13_append 1 = .ok (.aload_n 0, 1) := dk_42 (dk_at dksJ13_append_0 1 rfl rfl)
theorem dJ13_append_2 : decode cJ13_append 2 = .ok (.getfield 79, 3) := dk_180 0 79 (dk_at dksJ13_append_0 2 rfl rfl)
theorem dJ13_append_5 : decode cJ13_append 5 = .ok (.iconst 1, 1) := dk_4 (dk_at dksJ13_append_0 5 rfl rfl)
theorem dJ13_append_6 : decode cJ13_append 6 = .ok (.iadd, 1) := dk_96 (dk_at dksJ13_append_0 6 rfl rfl)
theorem dJ13_append_7 : decode cJ13_append 7 = .ok (.invokevirtual 100, 3) := dk_182 0 100 (dk_at dksJ13_append_0 7 rfl rfl)
theorem dJ13_append_10 : decode cJ13_append 10 = .ok (.aload_n 0, 1) := dk_42 (dk_at dksJ13_append_0 10 rfl rfl)
theorem dJ13_append_11 : decode cJ13_append 11 = .ok (.invokevirtual 83, 3) := dk_182 0 83 (dk_at dksJ13_append_0 11 rfl rfl)
theorem dJ13_append_14 : decode cJ13_append 14 = .ok (.ifCond .eq 31, 3) := dk_153 0 31 (dk_at dksJ13_append_0 14 rfl rfl)
theorem dJ13_append_17 : decode cJ13_append 17 = .ok (.iload_n 1, 1) := dk_27 (dk_at dksJ13_append_0 17 rfl rfl)
theorem dJ13_append_18 : decode cJ13_append 18 = .ok (.invokestatic 191, 3) := dk_184 0 191 (dk_at dksJ13_append_0 18 rfl rfl)
theorem dJ13_append_21 : decode cJ13_append 21 = .ok (.ifCond .eq 24, 3) := dk_153 0 24 (dk_at dksJ13_append_0 21 rfl rfl)
theorem dJ13_append_24 : decode cJ13_append 24 = .ok (.aload_n 0, 1) := dk_42 (dk_at dksJ13_append_1 0 rfl rfl)
theorem dJ13_append_25 : decode cJ13_append 25 = .ok (.getfield 15, 3) := dk_180 0 15 (dk_at dksJ13_append_1 1 rfl rfl)
theorem dJ13_append_28 : decode cJ13_append 28 = .ok (.aload_n 0, 1) := dk_42 (dk_at dksJ13_append_1 4 rfl rfl)
theorem dJ13_append_29 : decode cJ13_append 29 = .ok (.dup, 1) := dk_89 (dk_at dksJ13_append_1 5 rfl rfl)
theorem dJ13_append_30 : decode cJ13_append 30 = .ok (.getfield 79, 3) := dk_180 0 79 (dk_at dksJ13_append_1 6 rfl rfl)
theorem dJ13_append_33 : decode cJ13_append 33 = .ok (.dup_x1, 1) := dk_90 (dk_at dksJ13_append_1 9 rfl rfl)
theorem dJ13_append_34 : decode cJ13_append 34 = .ok (.iconst 1, 1) := dk_4 (dk_at dksJ13_append_1 10 rfl rfl)
theorem dJ13_append_35 : decode cJ13_append 35 = .ok (.iadd, 1) := dk_96 (dk_at dksJ13_append_1 11 rfl rfl)
theorem dJ13_append_36 : decode cJ13_append 36 = .ok (.putfield 79, 3) := dk_181 0 79 (dk_at dksJ13_append_1 12 rfl rfl)
theorem dJ13_append_39 : decode cJ13_append 39 = .ok (.iload_n 1, 1) := dk_27 (dk_at dksJ13_append_1 15 rfl rfl)
theorem dJ13_append_40 : decode cJ13_append 40 = .ok (.i2b, 1) := dk_145 (dk_at dksJ13_append_1 16 rfl rfl)
theorem dJ13_append_41 : decode cJ13_append 41 = .ok (.bastore, 1) := dk_84 (dk_at dksJ13_append_1 17 rfl rfl)
theorem dJ13_append_42 : decode cJ13_append 42 = .ok (.goto 33, 3) := dk_167 0 33 (dk_at dksJ13_append_1 18 rfl rfl)
theorem dJ13_append_45 : decode cJ13_append 45 = .ok (.aload_n 0, 1) := dk_42 (dk_at dksJ13_append_1 21 rfl rfl)
theorem dJ13_append_46 : decode cJ13_append 46 = .ok (.invokevirtual 83, 3) := dk_182 0 83 (dk_at dksJ13_append_2 0 rfl rfl)
theorem dJ13_append_49 : decode cJ13_append 49 = .ok (.ifCond .eq 7, 3) := dk_153 0 7 (dk_at dksJ13_append_2 3 rfl rfl)
theorem dJ13_append_52 : decode cJ13_append 52 = .ok (.aload_n 0, 1) := dk_42 (dk_at dksJ13_append_2 6 rfl rfl)
theorem dJ13_append_53 : decode cJ13_append 53 = .ok (.invokevirtual 195, 3) := dk_182 0 195 (dk_at dksJ13_append_2 7 rfl rfl)
theorem dJ13_append_56 : decode cJ13_append 56 = .ok (.aload_n 0, 1) := dk_42 (dk_at dksJ13_append_2 10 rfl rfl)
theorem dJ13_append_57 : decode cJ13_append 57 = .ok (.getfield 15, 3) := dk_180 0 15 (dk_at dksJ13_append_2 11 rfl rfl)
theorem dJ13_append_60 : decode cJ13_append 60 = .ok (.aload_n 0, 1) := dk_42 (dk_at dksJ13_append_2 14 rfl rfl)
theorem dJ13_append_61 : decode cJ13_append 61 = .ok (.dup, 1) := dk_89 (dk_at dksJ13_append_2 15 rfl rfl)
theorem dJ13_append_62 : decode cJ13_append 62 = .ok (.getfield 79, 3) := dk_180 0 79 (dk_at dksJ13_append_2 16 rfl rfl)
theorem dJ13_append_65 : decode cJ13_append 65 = .ok (.dup_x1, 1) := dk_90 (dk_at dksJ13_append_2 19 rfl rfl)
theorem dJ13_append_66 : decode cJ13_append 66 = .ok (.iconst 1, 1) := dk_4 (dk_at dksJ13_append_2 20 rfl rfl)
theorem dJ13_append_67 : decode cJ13_append 67 = .ok (.iadd, 1) := dk_96 (dk_at dksJ13_append_2 21 rfl rfl)
theorem dJ13_append_68 : decode cJ13_append 68 = .ok (.putfield 79, 3) := dk_181 0 79 (dk_at dksJ13_append_3 0 rfl rfl)
theorem dJ13_append_71 : decode cJ13_append 71 = .ok (.iload_n 1, 1) := dk_27 (dk_at dksJ13_append_3 3 rfl rfl)
theorem dJ13_append_72 : decode cJ13_append 72 = .ok (.invokestatic 197, 3) := dk_184 0 197 (dk_at dksJ13_append_3 4 rfl rfl)
theorem dJ13_append_75 : decode cJ13_append 75 = .ok (.aload_n 0, 1) := dk_42 (dk_at dksJ13_append_3 7 rfl rfl)
theorem dJ13_append_76 : decode cJ13_append 76 = .ok (.areturn, 1) := dk_176 (dk_at dksJ13_append_3 8 rfl rfl)
abbrev cJ13_ensureCapacityInternal : ByteArray := prog_25_method_9_code
def yJ13_ensureCapacityInternal : MethodName := ⟨RJ13, "ensureCapacityInternal", "(I)V"⟩
def dkwJ13_ensureCapacityInternal_1 : List UInt8 := [182, 0, 104, 42, 180, 0, 22, 120, 184, 0, 108, 181, 0, 15, 177]
abbrev dktJ13_ensureCapacityInternal_1 : List UInt8 := dkwJ13_ensureCapacityInternal_1 ++ []
def dkwJ13_ensureCapacityInternal_0 : List UInt8 := [42, 180, 0, 15, 190, 42, 180, 0, 22, 122, 61, 27, 28, 100, 158, 0, 24, 42, 42, 180, 0, 15, 42, 27]
abbrev dktJ13_ensureCapacityInternal_0 : List UInt8 := dkwJ13_ensureCapacityInternal_0 ++ dktJ13_ensureCapacityInternal_1
theorem dksJ13_ensureCapacityInternal_0 : cJ13_ensureCapacityInternal.data.toList.drop 0 = dktJ13_ensureCapacityInternal_0 := by decide +kernel
theorem dksJ13_ensureCapacityInternal_1 : cJ13_ensureCapacityInternal.data.toList.drop 24 = dktJ13_ensureCapacityInternal_1 := dk_seg dksJ13_ensureCapacityInternal_0 24 rfl rfl
theorem dJ13_ensureCapacityInternal_0 : decode cJ13_ensureCapacityInternal 0 = .ok (.aload_n 0, 1) := dk_42 (dk_at dksJ13_ensureCapacityInternal_0 0 rfl rfl)
theorem dJ13_ensureCapacityInternal_1 : decode cJ13_ensureCapacityInternal 1 = .ok (.getfield 15, 3) := dk_180 0 15 (dk_at dksJ13_ensureCapacityInternal_0 1 rfl rfl)
theorem dJ13_ensureCapacityInternal_4 : decode cJ13_ensureCapacityInternal 4 = .ok (.arraylength, 1) := dk_190 (dk_at dksJ13_ensureCapacityInternal_0 4 rfl rfl)
theorem dJ13_ensureCapacityInternal_5 : decode cJ13_ensureCapacityInternal 5 = .ok (.aload_n 0, 1) := dk_42 (dk_at dksJ13_ensureCapacityInternal_0 5 rfl rfl)
theorem dJ13_ensureCapacityInternal_6 : decode cJ13_ensureCapacityInternal 6 = .ok (.getfield 22, 3) := dk_180 0 22 (dk_at dksJ13_ensureCapacityInternal_0 6 rfl rfl)
theorem dJ13_ensureCapacityInternal_9 : decode cJ13_ensureCapacityInternal 9 = .ok (.ishr, 1) := dk_122 (dk_at dksJ13_ensureCapacityInternal_0 9 rfl rfl)
theorem dJ13_ensureCapacityInternal_10 : decode cJ13_ensureCapacityInternal 10 = .ok (.istore_n 2, 1) := dk_61 (dk_at dksJ13_ensureCapacityInternal_0 10 rfl rfl)
theorem dJ13_ensureCapacityInternal_11 : decode cJ13_ensureCapacityInternal 11 = .ok (.iload_n 1, 1) := dk_27 (dk_at dksJ13_ensureCapacityInternal_0 11 rfl rfl)
theorem dJ13_ensureCapacityInternal_12 : decode cJ13_ensureCapacityInternal 12 = .ok (.iload_n 2, 1) := dk_28 (dk_at dksJ13_ensureCapacityInternal_0 12 rfl rfl)
theorem dJ13_ensureCapacityInternal_13 : decode cJ13_ensureCapacityInternal 13 = .ok (.isub, 1) := dk_100 (dk_at dksJ13_ensureCapacityInternal_0 13 rfl rfl)
theorem dJ13_ensureCapacityInternal_14 : decode cJ13_ensureCapacityInternal 14 = .ok (.ifCond .le 24, 3) := dk_158 0 24 (dk_at dksJ13_ensureCapacityInternal_0 14 rfl rfl)
theorem dJ13_ensureCapacityInternal_17 : decode cJ13_ensureCapacityInternal 17 = .ok (.aload_n 0, 1) := dk_42 (dk_at dksJ13_ensureCapacityInternal_0 17 rfl rfl)
theorem dJ13_ensureCapacityInternal_18 : decode cJ13_ensureCapacityInternal 18 = .ok (.aload_n 0, 1) := dk_42 (dk_at dksJ13_ensureCapacityInternal_0 18 rfl rfl)
theorem dJ13_ensureCapacityInternal_19 : decode cJ13_ensureCapacityInternal 19 = .ok (.getfield 15, 3) := dk_180 0 15 (dk_at dksJ13_ensureCapacityInternal_0 19 rfl rfl)
theorem dJ13_ensureCapacityInternal_22 : decode cJ13_ensureCapacityInternal 22 = .ok (.aload_n 0, 1) := dk_42 (dk_at dksJ13_ensureCapacityInternal_0 22 rfl rfl)
theorem dJ13_ensureCapacityInternal_23 : decode cJ13_ensureCapacityInternal 23 = .ok (.iload_n 1, 1) := dk_27 (dk_at dksJ13_ensureCapacityInternal_0 23 rfl rfl)
theorem dJ13_ensureCapacityInternal_24 : decode cJ13_ensureCapacityInternal 24 = .ok (.invokevirtual 104, 3) := dk_182 0 104 (dk_at dksJ13_ensureCapacityInternal_1 0 rfl rfl)
theorem dJ13_ensureCapacityInternal_27 : decode cJ13_ensureCapacityInternal 27 = .ok (.aload_n 0, 1) := dk_42 (dk_at dksJ13_ensureCapacityInternal_1 3 rfl rfl)
theorem dJ13_ensureCapacityInternal_28 : decode cJ13_ensureCapacityInternal 28 = .ok (.getfield 22, 3) := dk_180 0 22 (dk_at dksJ13_ensureCapacityInternal_1 4 rfl rfl)
theorem dJ13_ensureCapacityInternal_31 : decode cJ13_ensureCapacityInternal 31 = .ok (.ishl, 1) := dk_120 (dk_at dksJ13_ensureCapacityInternal_1 7 rfl rfl)
theorem dJ13_ensureCapacityInternal_32 : decode cJ13_ensureCapacityInternal 32 = .ok (.invokestatic 108, 3) := dk_184 0 108 (dk_at dksJ13_ensureCapacityInternal_1 8 rfl rfl)
theorem dJ13_ensureCapacityInternal_35 : decode cJ13_ensureCapacityInternal 35 = .ok (.putfield 15, 3) := dk_181 0 15 (dk_at dksJ13_ensureCapacityInternal_1 11 rfl rfl)
theorem dJ13_ensureCapacityInternal_38 : decode cJ13_ensureCapacityInternal 38 = .ok (.return_, 1) := dk_177 (dk_at dksJ13_ensureCapacityInternal_1 14 rfl rfl)
abbrev cJ13_newCapacity : ByteArray := prog_25_method_10_code
def yJ13_newCapacity : MethodName := ⟨RJ13, "newCapacity", "(I)I"⟩
def dkwJ13_newCapacity_2 : List UInt8 := [183, 0, 124, 191, 21, 5, 42, 180, 0, 22, 122, 172]
abbrev dktJ13_newCapacity_2 : List UInt8 := dkwJ13_newCapacity_2 ++ []
def dkwJ13_newCapacity_1 : List UInt8 := [180, 0, 22, 120, 96, 184, 0, 114, 54, 5, 21, 5, 18, 39, 160, 0, 13, 187, 0, 120, 89, 18, 122]
abbrev dktJ13_newCapacity_1 : List UInt8 := dkwJ13_newCapacity_1 ++ dktJ13_newCapacity_2
def dkwJ13_newCapacity_0 : List UInt8 := [42, 180, 0, 15, 190, 61, 27, 42, 180, 0, 22, 120, 62, 29, 28, 100, 54, 4, 28, 21, 4, 28, 5, 42]
abbrev dktJ13_newCapacity_0 : List UInt8 := dkwJ13_newCapacity_0 ++ dktJ13_newCapacity_1
theorem dksJ13_newCapacity_0 : cJ13_newCapacity.data.toList.drop 0 = dktJ13_newCapacity_0 := by decide +kernel
theorem dksJ13_newCapacity_1 : cJ13_newCapacity.data.toList.drop 24 = dktJ13_newCapacity_1 := dk_seg dksJ13_newCapacity_0 24 rfl rfl
theorem dksJ13_newCapacity_2 : cJ13_newCapacity.data.toList.drop 47 = dktJ13_newCapacity_2 := dk_seg dksJ13_newCapacity_1 23 rfl rfl
theorem dJ13_newCapacity_0 : decode cJ13_newCapacity 0 = .ok (.aload_n 0, 1) := dk_42 (dk_at dksJ13_newCapacity_0 0 rfl rfl)
theorem dJ13_newCapacity_1 : decode cJ13_newCapacity 1 = .ok (.getfield 15, 3) := dk_180 0 15 (dk_at dksJ13_newCapacity_0 1 rfl rfl)
theorem dJ13_newCapacity_4 : decode cJ13_newCapacity 4 = .ok (.arraylength, 1) := dk_190 (dk_at dksJ13_newCapacity_0 4 rfl rfl)
theorem dJ13_newCapacity_5 : decode cJ13_newCapacity 5 = .ok (.istore_n 2, 1) := dk_61 (dk_at dksJ13_newCapacity_0 5 rfl rfl)
theorem dJ13_newCapacity_6 : decode cJ13_newCapacity 6 = .ok (.iload_n 1, 1) := dk_27 (dk_at dksJ13_newCapacity_0 6 rfl rfl)
theorem dJ13_newCapacity_7 : decode cJ13_newCapacity 7 = .ok (.aload_n 0, 1) := dk_42 (dk_at dksJ13_newCapacity_0 7 rfl rfl)
theorem dJ13_newCapacity_8 : decode cJ13_newCapacity 8 = .ok (.getfield 22, 3) := dk_180 0 22 (dk_at dksJ13_newCapacity_0 8 rfl rfl)
theorem dJ13_newCapacity_11 : decode cJ13_newCapacity 11 = .ok (.ishl, 1) := dk_120 (dk_at dksJ13_newCapacity_0 11 rfl rfl)
theorem dJ13_newCapacity_12 : decode cJ13_newCapacity 12 = .ok (.istore_n 3, 1) := dk_62 (dk_at dksJ13_newCapacity_0 12 rfl rfl)
theorem dJ13_newCapacity_13 : decode cJ13_newCapacity 13 = .ok (.iload_n 3, 1) := dk_29 (dk_at dksJ13_newCapacity_0 13 rfl rfl)
theorem dJ13_newCapacity_14 : decode cJ13_newCapacity 14 = .ok (.iload_n 2, 1) := dk_28 (dk_at dksJ13_newCapacity_0 14 rfl rfl)
theorem dJ13_newCapacity_15 : decode cJ13_newCapacity 15 = .ok (.isub, 1) := dk_100 (dk_at dksJ13_newCapacity_0 15 rfl rfl)
theorem dJ13_newCapacity_16 : decode cJ13_newCapacity 16 = .ok (.istore 4, 2) := dk_54 4 (dk_at dksJ13_newCapacity_0 16 rfl rfl)
theorem dJ13_newCapacity_18 : decode cJ13_newCapacity 18 = .ok (.iload_n 2, 1) := dk_28 (dk_at dksJ13_newCapacity_0 18 rfl rfl)
theorem dJ13_newCapacity_19 : decode cJ13_newCapacity 19 = .ok (.iload 4, 2) := dk_21 4 (dk_at dksJ13_newCapacity_0 19 rfl rfl)
theorem dJ13_newCapacity_21 : decode cJ13_newCapacity 21 = .ok (.iload_n 2, 1) := dk_28 (dk_at dksJ13_newCapacity_0 21 rfl rfl)
theorem dJ13_newCapacity_22 : decode cJ13_newCapacity 22 = .ok (.iconst 2, 1) := dk_5 (dk_at dksJ13_newCapacity_0 22 rfl rfl)
theorem dJ13_newCapacity_23 : decode cJ13_newCapacity 23 = .ok (.aload_n 0, 1) := dk_42 (dk_at dksJ13_newCapacity_0 23 rfl rfl)
theorem dJ13_newCapacity_24 : decode cJ13_newCapacity 24 = .ok (.getfield 22, 3) := dk_180 0 22 (dk_at dksJ13_newCapacity_1 0 rfl rfl)
theorem dJ13_newCapacity_27 : decode cJ13_newCapacity 27 = .ok (.ishl, 1) := dk_120 (dk_at dksJ13_newCapacity_1 3 rfl rfl)
theorem dJ13_newCapacity_28 : decode cJ13_newCapacity 28 = .ok (.iadd, 1) := dk_96 (dk_at dksJ13_newCapacity_1 4 rfl rfl)
theorem dJ13_newCapacity_29 : decode cJ13_newCapacity 29 = .ok (.invokestatic 114, 3) := dk_184 0 114 (dk_at dksJ13_newCapacity_1 5 rfl rfl)
theorem dJ13_newCapacity_32 : decode cJ13_newCapacity 32 = .ok (.istore 5, 2) := dk_54 5 (dk_at dksJ13_newCapacity_1 8 rfl rfl)
theorem dJ13_newCapacity_34 : decode cJ13_newCapacity 34 = .ok (.iload 5, 2) := dk_21 5 (dk_at dksJ13_newCapacity_1 10 rfl rfl)
theorem dJ13_newCapacity_36 : decode cJ13_newCapacity 36 = .ok (.ldc 39, 2) := dk_18 39 (dk_at dksJ13_newCapacity_1 12 rfl rfl)
theorem dJ13_newCapacity_38 : decode cJ13_newCapacity 38 = .ok (.if_icmp .ne 13, 3) := dk_160 0 13 (dk_at dksJ13_newCapacity_1 14 rfl rfl)
theorem dJ13_newCapacity_41 : decode cJ13_newCapacity 41 = .ok (.new 120, 3) := dk_187 0 120 (dk_at dksJ13_newCapacity_1 17 rfl rfl)
theorem dJ13_newCapacity_44 : decode cJ13_newCapacity 44 = .ok (.dup, 1) := dk_89 (dk_at dksJ13_newCapacity_1 20 rfl rfl)
theorem dJ13_newCapacity_45 : decode cJ13_newCapacity 45 = .ok (.ldc 122, 2) := dk_18 122 (dk_at dksJ13_newCapacity_1 21 rfl rfl)
theorem dJ13_newCapacity_47 : decode cJ13_newCapacity 47 = .ok (.invokespecial 124, 3) := dk_183 0 124 (dk_at dksJ13_newCapacity_2 0 rfl rfl)
theorem dJ13_newCapacity_50 : decode cJ13_newCapacity 50 = .ok (.athrow, 1) := dk_191 (dk_at dksJ13_newCapacity_2 3 rfl rfl)
theorem dJ13_newCapacity_51 : decode cJ13_newCapacity 51 = .ok (.iload 5, 2) := dk_21 5 (dk_at dksJ13_newCapacity_2 4 rfl rfl)
theorem dJ13_newCapacity_53 : decode cJ13_newCapacity 53 = .ok (.aload_n 0, 1) := dk_42 (dk_at dksJ13_newCapacity_2 6 rfl rfl)
theorem dJ13_newCapacity_54 : decode cJ13_newCapacity 54 = .ok (.getfield 22, 3) := dk_180 0 22 (dk_at dksJ13_newCapacity_2 7 rfl rfl)
theorem dJ13_newCapacity_57 : decode cJ13_newCapacity 57 = .ok (.ishr, 1) := dk_122 (dk_at dksJ13_newCapacity_2 10 rfl rfl)
theorem dJ13_newCapacity_58 : decode cJ13_newCapacity 58 = .ok (.ireturn, 1) := dk_172 (dk_at dksJ13_newCapacity_2 11 rfl rfl)
abbrev cJ13_isLatin1 : ByteArray := prog_25_method_68_code
def yJ13_isLatin1 : MethodName := ⟨RJ13, "isLatin1", "()Z"⟩
def dkwJ13_isLatin1_0 : List UInt8 := [178, 0, 18, 153, 0, 14, 42, 180, 0, 22, 154, 0, 7, 4, 167, 0, 4, 3, 172]
abbrev dktJ13_isLatin1_0 : List UInt8 := dkwJ13_isLatin1_0 ++ []
theorem dksJ13_isLatin1_0 : cJ13_isLatin1.data.toList.drop 0 = dktJ13_isLatin1_0 := by decide +kernel
theorem dJ13_isLatin1_0 : decode cJ13_isLatin1 0 = .ok (.getstatic 18, 3) := dk_178 0 18 (dk_at dksJ13_isLatin1_0 0 rfl rfl)
theorem dJ13_isLatin1_3 : decode cJ13_isLatin1 3 = .ok (.ifCond .eq 14, 3) := dk_153 0 14 (dk_at dksJ13_isLatin1_0 3 rfl rfl)
theorem dJ13_isLatin1_6 : decode cJ13_isLatin1 6 = .ok (.aload_n 0, 1) := dk_42 (dk_at dksJ13_isLatin1_0 6 rfl rfl)
theorem dJ13_isLatin1_7 : decode cJ13_isLatin1 7 = .ok (.getfield 22, 3) := dk_180 0 22 (dk_at dksJ13_isLatin1_0 7 rfl rfl)
theorem dJ13_isLatin1_10 : decode cJ13_isLatin1 10 = .ok (.ifCond .ne 7, 3) := dk_154 0 7 (dk_at dksJ13_isLatin1_0 10 rfl rfl)
theorem dJ13_isLatin1_13 : decode cJ13_isLatin1 13 = .ok (.iconst 1, 1) := dk_4 (dk_at dksJ13_isLatin1_0 13 rfl rfl)
theorem dJ13_isLatin1_14 : decode cJ13_isLatin1 14 = .ok (.goto 4, 3) := dk_167 0 4 (dk_at dksJ13_isLatin1_0 14 rfl rfl)
theorem dJ13_isLatin1_17 : decode cJ13_isLatin1 17 = .ok (.iconst 0, 1) := dk_3 (dk_at dksJ13_isLatin1_0 17 rfl rfl)
theorem dJ13_isLatin1_18 : decode cJ13_isLatin1 18 = .ok (.ireturn, 1) := dk_172 (dk_at dksJ13_isLatin1_0 18 rfl rfl)
abbrev cJ13_inflate : ByteArray := prog_25_method_11_code
def yJ13_inflate : MethodName := ⟨RJ13, "inflate", "()V"⟩
def dkwJ13_inflate_1 : List UInt8 := [42, 180, 0, 79, 184, 0, 125, 42, 43, 181, 0, 15, 42, 4, 181, 0, 22, 177]
abbrev dktJ13_inflate_1 : List UInt8 := dkwJ13_inflate_1 ++ []
def dkwJ13_inflate_0 : List UInt8 := [42, 182, 0, 83, 154, 0, 4, 177, 42, 180, 0, 15, 190, 184, 0, 26, 76, 42, 180, 0, 15, 3, 43, 3]
abbrev dktJ13_inflate_0 : List UInt8 := dkwJ13_inflate_0 ++ dktJ13_inflate_1
theorem dksJ13_inflate_0 : cJ13_inflate.data.toList.drop 0 = dktJ13_inflate_0 := by decide +kernel
theorem dksJ13_inflate_1 : cJ13_inflate.data.toList.drop 24 = dktJ13_inflate_1 := dk_seg dksJ13_inflate_0 24 rfl rfl
theorem dJ13_inflate_0 : decode cJ13_inflate 0 = .ok (.aload_n 0, 1) := dk_42 (dk_at dksJ13_inflate_0 0 rfl rfl)
theorem dJ13_inflate_1 : decode cJ13_inflate 1 = .ok (.invokevirtual 83, 3) := dk_182 0 83 (dk_at dksJ13_inflate_0 1 rfl rfl)
theorem dJ13_inflate_4 : decode cJ13_inflate 4 = .ok (.ifCond .ne 4, 3) := dk_154 0 4 (dk_at dksJ13_inflate_0 4 rfl rfl)
theorem dJ13_inflate_7 : decode cJ13_inflate 7 = .ok (.return_, 1) := dk_177 (dk_at dksJ13_inflate_0 7 rfl rfl)
theorem dJ13_inflate_8 : decode cJ13_inflate 8 = .ok (.aload_n 0, 1) := dk_42 (dk_at dksJ13_inflate_0 8 rfl rfl)
theorem dJ13_inflate_9 : decode cJ13_inflate 9 = .ok (.getfield 15, 3) := dk_180 0 15 (dk_at dksJ13_inflate_0 9 rfl rfl)
theorem dJ13_inflate_12 : decode cJ13_inflate 12 = .ok (.arraylength, 1) := dk_190 (dk_at dksJ13_inflate_0 12 rfl rfl)
theorem dJ13_inflate_13 : decode cJ13_inflate 13 = .ok (.invokestatic 26, 3) := dk_184 0 26 (dk_at dksJ13_inflate_0 13 rfl rfl)
theorem dJ13_inflate_16 : decode cJ13_inflate 16 = .ok (.astore_n 1, 1) := dk_76 (dk_at dksJ13_inflate_0 16 rfl rfl)
theorem dJ13_inflate_17 : decode cJ13_inflate 17 = .ok (.aload_n 0, 1) := dk_42 (dk_at dksJ13_inflate_0 17 rfl rfl)
theorem dJ13_inflate_18 : decode cJ13_inflate 18 = .ok (.getfield 15, 3) := dk_180 0 15 (dk_at dksJ13_inflate_0 18 rfl rfl)
theorem dJ13_inflate_21 : decode cJ13_inflate 21 = .ok (.iconst 0, 1) := dk_3 (dk_at dksJ13_inflate_0 21 rfl rfl)
theorem dJ13_inflate_22 : decode cJ13_inflate 22 = .ok (.aload_n 1, 1) := dk_43 (dk_at dksJ13_inflate_0 22 rfl rfl)
theorem dJ13_inflate_23 : decode cJ13_inflate 23 = .ok (.iconst 0, 1) := dk_3 (dk_at dksJ13_inflate_0 23 rfl rfl)
theorem dJ13_inflate_24 : decode cJ13_inflate 24 = .ok (.aload_n 0, 1) := dk_42 (dk_at dksJ13_inflate_1 0 rfl rfl)
theorem dJ13_inflate_25 : decode cJ13_inflate 25 = .ok (.getfield 79, 3) := dk_180 0 79 (dk_at dksJ13_inflate_1 1 rfl rfl)
theorem dJ13_inflate_28 : decode cJ13_inflate 28 = .ok (.invokestatic 125, 3) := dk_184 0 125 (dk_at dksJ13_inflate_1 4 rfl rfl)
theorem dJ13_inflate_31 : decode cJ13_inflate 31 = .ok (.aload_n 0, 1) := dk_42 (dk_at dksJ13_inflate_1 7 rfl rfl)
theorem dJ13_inflate_32 : decode cJ13_inflate 32 = .ok (.aload_n 1, 1) := dk_43 (dk_at dksJ13_inflate_1 8 rfl rfl)
theorem dJ13_inflate_33 : decode cJ13_inflate 33 = .ok (.putfield 15, 3) := dk_181 0 15 (dk_at dksJ13_inflate_1 9 rfl rfl)
theorem dJ13_inflate_36 : decode cJ13_inflate 36 = .ok (.aload_n 0, 1) := dk_42 (dk_at dksJ13_inflate_1 12 rfl rfl)
theorem dJ13_inflate_37 : decode cJ13_inflate 37 = .ok (.iconst 1, 1) := dk_4 (dk_at dksJ13_inflate_1 13 rfl rfl)
theorem dJ13_inflate_38 : decode cJ13_inflate 38 = .ok (.putfield 22, 3) := dk_181 0 22 (dk_at dksJ13_inflate_1 14 rfl rfl)
theorem dJ13_inflate_41 : decode cJ13_inflate 41 = .ok (.return_, 1) := dk_177 (dk_at dksJ13_inflate_1 17 rfl rfl)
abbrev cJ13_getValue : ByteArray := prog_25_method_64_code
def yJ13_getValue : MethodName := ⟨RJ13, "getValue", "()[B"⟩
theorem dJ13_getValue_0 : decode cJ13_getValue 0 = .ok (.aload_n 0, 1) := by decide +kernel
theorem dJ13_getValue_1 : decode cJ13_getValue 1 = .ok (.getfield 15, 3) := by decide +kernel
theorem dJ13_getValue_4 : decode cJ13_getValue 4 = .ok (.areturn, 1) := by decide +kernel
abbrev cJ13_length : ByteArray := prog_25_method_6_code
def yJ13_length : MethodName := ⟨RJ13, "length", "()I"⟩
theorem dJ13_length_0 : decode cJ13_length 0 = .ok (.aload_n 0, 1) := by decide +kernel
theorem dJ13_length_1 : decode cJ13_length 1 = .ok (.getfield 79, 3) := by decide +kernel
theorem dJ13_length_4 : decode cJ13_length 4 = .ok (.ireturn, 1) := by decide +kernel
theorem q132 : (Jvm.Cond.initialized "java/lang/AbstractStringBuilder") ∈ lw_all := lw_g (lw_at lw_m1 21 rfl) rfl
theorem q635 : (Jvm.Cond.instanceMethod ({ cls := "java/lang/AbstractStringBuilder", name := "<init>", desc := "(I)V" } : Jvm.MethodName)) ∈ lw_all := lw_g (lw_at lw_m3 44 rfl) rfl
theorem q636 : (Jvm.Cond.code ({ cls := "java/lang/AbstractStringBuilder", name := "<init>", desc := "(I)V" } : Jvm.MethodName) prog_25_method_2_code (2 : Nat) (Option.none : Option Jvm.ClassFile.FieldType)) ∈ lw_all := lw_g (lw_at lw_m3 45 rfl) rfl
theorem q637 : (Jvm.Cond.methodLink "java/lang/AbstractStringBuilder" (3 : Nat) ({ cls := "java/lang/Object", name := "<init>", desc := "()V" } : Jvm.MethodName)) ∈ lw_all := lw_g (lw_at lw_m3 46 rfl) rfl
theorem q638 : (Jvm.Cond.fieldLink "java/lang/AbstractStringBuilder" (18 : Nat) "java/lang/String" "COMPACT_STRINGS" "Z") ∈ lw_all := lw_g (lw_at lw_m3 47 rfl) rfl
theorem q639 : (Jvm.Cond.methodLink "java/lang/AbstractStringBuilder" (26 : Nat) ({ cls := "java/lang/StringUTF16", name := "newBytesFor", desc := "(I)[B" } : Jvm.MethodName)) ∈ lw_all := lw_g (lw_at lw_m3 48 rfl) rfl
theorem q646 : (Jvm.Cond.fieldLink "java/lang/AbstractStringBuilder" (15 : Nat) "java/lang/AbstractStringBuilder" "value" "[B") ∈ lw_all := lw_g (lw_at lw_m3 55 rfl) rfl
theorem q647 : (Jvm.Cond.fieldLink "java/lang/AbstractStringBuilder" (22 : Nat) "java/lang/AbstractStringBuilder" "coder" "B") ∈ lw_all := lw_g (lw_at lw_m3 56 rfl) rfl
theorem q649 : (Jvm.Cond.fieldLink "java/lang/AbstractStringBuilder" (79 : Nat) "java/lang/AbstractStringBuilder" "count" "I") ∈ lw_all := lw_g (lw_at lw_m3 58 rfl) rfl
theorem q651 : (Jvm.Cond.soleField "java/lang/AbstractStringBuilder" "value") ∈ lw_all := lw_g (lw_at lw_m3 60 rfl) rfl
theorem q653 : (Jvm.Cond.soleField "java/lang/AbstractStringBuilder" "coder") ∈ lw_all := lw_g (lw_at lw_m3 62 rfl) rfl
theorem q655 : (Jvm.Cond.soleField "java/lang/AbstractStringBuilder" "maybeLatin1") ∈ lw_all := lw_g (lw_at lw_m3 64 rfl) rfl
theorem q657 : (Jvm.Cond.soleField "java/lang/AbstractStringBuilder" "count") ∈ lw_all := lw_g (lw_at lw_m3 66 rfl) rfl
theorem q664 : (Jvm.Cond.instanceMethod ({ cls := "java/lang/AbstractStringBuilder", name := "append", desc := "(C)Ljava/lang/AbstractStringBuilder;" } : Jvm.MethodName)) ∈ lw_all := lw_g (lw_at lw_m3 73 rfl) rfl
theorem q665 : (Jvm.Cond.code ({ cls := "java/lang/AbstractStringBuilder", name := "append", desc := "(C)Ljava/lang/AbstractStringBuilder;" } : Jvm.MethodName) prog_25_method_31_code (2 : Nat) (Option.some (Jvm.ClassFile.FieldType.object "java/lang/AbstractStringBuilder"))) ∈ lw_all := lw_g (lw_at lw_m3 74 rfl) rfl
theorem q666 : (Jvm.Cond.methodLink "java/lang/AbstractStringBuilder" (100 : Nat) ({ cls := "java/lang/AbstractStringBuilder", name := "ensureCapacityInternal", desc := "(I)V" } : Jvm.MethodName)) ∈ lw_all := lw_g (lw_at lw_m3 75 rfl) rfl
theorem q667 : (Jvm.Cond.privateMethod ({ cls := "java/lang/AbstractStringBuilder", name := "ensureCapacityInternal", desc := "(I)V" } : Jvm.MethodName)) ∈ lw_tbl := lw_at lw_m3 76 rfl
theorem q668 : (Jvm.Cond.instanceMethod ({ cls := "java/lang/AbstractStringBuilder", name := "ensureCapacityInternal", desc := "(I)V" } : Jvm.MethodName)) ∈ lw_all := lw_g (lw_at lw_m3 77 rfl) rfl
theorem q669 : (Jvm.Cond.code ({ cls := "java/lang/AbstractStringBuilder", name := "ensureCapacityInternal", desc := "(I)V" } : Jvm.MethodName) prog_25_method_9_code (3 : Nat) (Option.none : Option Jvm.ClassFile.FieldType)) ∈ lw_all := lw_g (lw_at lw_m3 78 rfl) rfl
theorem q670 : (Jvm.Cond.methodLink "java/lang/AbstractStringBuilder" (104 : Nat) ({ cls := "java/lang/AbstractStringBuilder", name := "newCapacity", desc := "(I)I" } : Jvm.MethodName)) ∈ lw_all := lw_g (lw_at lw_m3 79 rfl) rfl
theorem q671 : (Jvm.Cond.privateMethod ({ cls := "java/lang/AbstractStringBuilder", name := "newCapacity", desc := "(I)I" } : Jvm.MethodName)) ∈ lw_tbl := lw_at lw_m3 80 rfl
theorem q672 : (Jvm.Cond.instanceMethod ({ cls := "java/lang/AbstractStringBuilder", name := "newCapacity", desc := "(I)I" } : Jvm.MethodName)) ∈ lw_all := lw_g (lw_at lw_m3 81 rfl) rfl
theorem q673 : (Jvm.Cond.code ({ cls := "java/lang/AbstractStringBuilder", name := "newCapacity", desc := "(I)I" } : Jvm.MethodName) prog_25_method_10_code (6 : Nat) (Option.some Jvm.ClassFile.FieldType.int)) ∈ lw_all := lw_g (lw_at lw_m3 82 rfl) rfl
theorem q674 : (Jvm.Cond.methodLink "java/lang/AbstractStringBuilder" (114 : Nat) ({ cls := "jdk/internal/util/ArraysSupport", name := "newLength", desc := "(III)I" } : Jvm.MethodName)) ∈ lw_all := lw_g (lw_at lw_m3 83 rfl) rfl
theorem q682 : (Jvm.Cond.constant "java/lang/AbstractStringBuilder" (39 : Nat) (2147483647 : Int32)) ∈ lw_all := lw_g (lw_at lw_m3 91 rfl) rfl
theorem q683 : (Jvm.Cond.methodLink "java/lang/AbstractStringBuilder" (108 : Nat) ({ cls := "java/util/Arrays", name := "copyOf", desc := "([BI)[B" } : Jvm.MethodName)) ∈ lw_all := lw_g (lw_at lw_m3 92 rfl) rfl
theorem q697 : (Jvm.Cond.methodLink "java/lang/AbstractStringBuilder" (83 : Nat) ({ cls := "java/lang/AbstractStringBuilder", name := "isLatin1", desc := "()Z" } : Jvm.MethodName)) ∈ lw_all := lw_g (lw_at lw_m3 106 rfl) rfl
theorem q698 : (Jvm.Cond.instanceMethod ({ cls := "java/lang/AbstractStringBuilder", name := "isLatin1", desc := "()Z" } : Jvm.MethodName)) ∈ lw_all := lw_g (lw_at lw_m3 107 rfl) rfl
theorem q699 : (Jvm.Cond.sameMethod "java/lang/AbstractStringBuilder" "java/lang/AbstractStringBuilder" "isLatin1" "()Z") ∈ lw_all := lw_g (lw_at lw_m3 108 rfl) rfl
theorem q701 : (Jvm.Cond.code ({ cls := "java/lang/AbstractStringBuilder", name := "isLatin1", desc := "()Z" } : Jvm.MethodName) prog_25_method_68_code (1 : Nat) (Option.some Jvm.ClassFile.FieldType.boolean)) ∈ lw_all := lw_g (lw_at lw_m3 110 rfl) rfl
theorem q702 : (Jvm.Cond.methodLink "java/lang/AbstractStringBuilder" (191 : Nat) ({ cls := "java/lang/StringLatin1", name := "canEncode", desc := "(C)Z" } : Jvm.MethodName)) ∈ lw_all := lw_g (lw_at lw_m3 111 rfl) rfl
theorem q705 : (Jvm.Cond.methodLink "java/lang/AbstractStringBuilder" (195 : Nat) ({ cls := "java/lang/AbstractStringBuilder", name := "inflate", desc := "()V" } : Jvm.MethodName)) ∈ lw_all := lw_g (lw_at lw_m3 114 rfl) rfl
theorem q706 : (Jvm.Cond.privateMethod ({ cls := "java/lang/AbstractStringBuilder", name := "inflate", desc := "()V" } : Jvm.MethodName)) ∈ lw_tbl := lw_at lw_m3 115 rfl
theorem q707 : (Jvm.Cond.instanceMethod ({ cls := "java/lang/AbstractStringBuilder", name := "inflate", desc := "()V" } : Jvm.MethodName)) ∈ lw_all := lw_g (lw_at lw_m3 116 rfl) rfl
theorem q708 : (Jvm.Cond.code ({ cls := "java/lang/AbstractStringBuilder", name := "inflate", desc := "()V" } : Jvm.MethodName) prog_25_method_11_code (2 : Nat) (Option.none : Option Jvm.ClassFile.FieldType)) ∈ lw_all := lw_g (lw_at lw_m3 117 rfl) rfl
theorem q709 : (Jvm.Cond.methodLink "java/lang/AbstractStringBuilder" (125 : Nat) ({ cls := "java/lang/StringLatin1", name := "inflate", desc := "([BI[BII)V" } : Jvm.MethodName)) ∈ lw_all := lw_g (lw_at lw_m3 118 rfl) rfl
theorem q727 : (Jvm.Cond.methodLink "java/lang/AbstractStringBuilder" (197 : Nat) ({ cls := "java/lang/StringUTF16", name := "putCharSB", desc := "([BII)V" } : Jvm.MethodName)) ∈ lw_all := lw_g (lw_at lw_m3 136 rfl) rfl
theorem q744 : (Jvm.Cond.instanceMethod ({ cls := "java/lang/AbstractStringBuilder", name := "getValue", desc := "()[B" } : Jvm.MethodName)) ∈ lw_all := lw_g (lw_at lw_m3 153 rfl) rfl
theorem q745 : (Jvm.Cond.sameMethod "java/lang/AbstractStringBuilder" "java/lang/AbstractStringBuilder" "getValue" "()[B") ∈ lw_all := lw_g (lw_at lw_m3 154 rfl) rfl
theorem q747 : (Jvm.Cond.code ({ cls := "java/lang/AbstractStringBuilder", name := "getValue", desc := "()[B" } : Jvm.MethodName) prog_25_method_64_code (1 : Nat) (Option.some (Jvm.ClassFile.FieldType.array Jvm.ClassFile.FieldType.byte))) ∈ lw_all := lw_g (lw_at lw_m3 156 rfl) rfl
theorem q749 : (Jvm.Cond.instanceMethod ({ cls := "java/lang/AbstractStringBuilder", name := "length", desc := "()I" } : Jvm.MethodName)) ∈ lw_all := lw_g (lw_at lw_m3 158 rfl) rfl
theorem q750 : (Jvm.Cond.sameMethod "java/lang/AbstractStringBuilder" "java/lang/AbstractStringBuilder" "length" "()I") ∈ lw_all := lw_g (lw_at lw_m3 159 rfl) rfl
theorem q755 : (Jvm.Cond.code ({ cls := "java/lang/AbstractStringBuilder", name := "length", desc := "()I" } : Jvm.MethodName) prog_25_method_6_code (1 : Nat) (Option.some Jvm.ClassFile.FieldType.int)) ∈ lw_all := lw_g (lw_at lw_m3 164 rfl) rfl
theorem q2074 : (Jvm.Cond.sameMethod "java/lang/AbstractStringBuilder" "java/lang/AbstractStringBuilder" "append" "(C)Ljava/lang/AbstractStringBuilder;") ∈ lw_all := lw_g (lw_at lw_m9 43 rfl) rfl
theorem q2075 : (Jvm.Cond.sameMethod "java/lang/AbstractStringBuilder" "java/lang/AbstractStringBuilder" "ensureCapacityInternal" "(I)V") ∈ lw_all := lw_g (lw_at lw_m9 44 rfl) rfl
theorem q2076 : (Jvm.Cond.sameMethod "java/lang/AbstractStringBuilder" "java/lang/AbstractStringBuilder" "newCapacity" "(I)I") ∈ lw_all := lw_g (lw_at lw_m9 45 rfl) rfl
theorem q2077 : (Jvm.Cond.sameMethod "java/lang/AbstractStringBuilder" "java/lang/AbstractStringBuilder" "inflate" "()V") ∈ lw_all := lw_g (lw_at lw_m9 46 rfl) rfl
/-! java/lang/StringBuilder -/
set_option maxRecDepth 100000
def RJ14 : String := "java/lang/StringBuilder"
def TJ14 : u_T := fun k => match k with
  | 0 => ("java/lang/AbstractStringBuilder", "value", "[B", false)
  | 1 => ("java/lang/AbstractStringBuilder", "coder", "B", false)
  | 2 => ("java/lang/AbstractStringBuilder", "maybeLatin1", "Z", false)
  | _ => ("java/lang/AbstractStringBuilder", "count", "I", false)
def tyJ14 : Nat → FieldType := fun k => match k with
  | 0 => .array .byte
  | 1 => .byte
  | 2 => .boolean
  | _ => .int
abbrev wsJ140 : List Cond := u_ws RJ14 TJ14 4
theorem nmJ14 : ∀ a, a < 4 → ∀ b, b < 4 → a ≠ b → (TJ14 a).2.1 ≠ (TJ14 b).2.1 := by decide +kernel
theorem tyJ14_ok : ∀ k, k < 4 → parseFieldDescriptor (TJ14 k).2.2.1 = some (tyJ14 k) := by decide +kernel
abbrev cJ14_init : ByteArray := prog_37_method_2_code
def yJ14_init : MethodName := ⟨RJ14, "<init>", "(I)V"⟩
def dkwJ14_init_0 : List UInt8 := [42, 27, 183, 0, 1, 177]
abbrev dktJ14_init_0 : List UInt8 := dkwJ14_init_0 ++ []
theorem dksJ14_init_0 : cJ14_init.data.toList.drop 0 = dktJ14_init_0 := by decide +kernel
theorem dJ14_init_0 : decode cJ14_init 0 = .ok (.aload_n 0, 1) := dk_42 (dk_at dksJ14_init_0 0 rfl rfl)
theorem dJ14_init_1 : decode cJ14_init 1 = .ok (.iload_n 1, 1) := dk_27 (dk_at dksJ14_init_0 1 rfl rfl)
theorem dJ14_init_2 : decode cJ14_init 2 = .ok (.invokespecial 1, 3) := dk_183 0 1 (dk_at dksJ14_init_0 2 rfl rfl)
theorem dJ14_init_5 : decode cJ14_init 5 = .ok (.return_, 1) := dk_177 (dk_at dksJ14_init_0 5 rfl rfl)
abbrev cJ14_append : ByteArray := prog_37_method_14_code
def yJ14_append : MethodName := ⟨RJ14, "append", "(C)Ljava/lang/StringBuilder;"⟩
def dkwJ14_append_0 : List UInt8 := [42, 27, 183, 0, 50, 87, 42, 176]
abbrev dktJ14_append_0 : List UInt8 := dkwJ14_append_0 ++ []
theorem dksJ14_append_0 : cJ14_append.data.toList.drop 0 = dktJ14_append_0 := by decide +kernel
theorem dJ14_append_0 : decode cJ14_append 0 = .ok (.aload_n 0, 1) := dk_42 (dk_at dksJ14_append_0 0 rfl rfl)
theorem dJ14_append_1 : decode cJ14_append 1 = .ok (.iload_n 1, 1) := dk_27 (dk_at dksJ14_append_0 1 rfl rfl)
theorem dJ14_append_2 : decode cJ14_append 2 = .ok (.invokespecial 50, 3) := dk_183 0 50 (dk_at dksJ14_append_0 2 rfl rfl)
theorem dJ14_append_5 : decode cJ14_append 5 = .ok (.pop, 1) := dk_87 (dk_at dksJ14_append_0 5 rfl rfl)
theorem dJ14_append_6 : decode cJ14_append 6 = .ok (.aload_n 0, 1) := dk_42 (dk_at dksJ14_append_0 6 rfl rfl)
theorem dJ14_append_7 : decode cJ14_append 7 = .ok (.areturn, 1) := dk_176 (dk_at dksJ14_append_0 7 rfl rfl)
abbrev cJ14_toString : ByteArray := prog_37_method_42_code
def yJ14_toString : MethodName := ⟨RJ14, "toString", "()Ljava/lang/String;"⟩
def dkwJ14_toString_0 : List UInt8 := [187, 0, 18, 89, 42, 183, 0, 137, 176]
abbrev dktJ14_toString_0 : List UInt8 := dkwJ14_toString_0 ++ []
theorem dksJ14_toString_0 : cJ14_toString.data.toList.drop 0 = dktJ14_toString_0 := by decide +kernel
theorem dJ14_toString_0 : decode cJ14_toString 0 = .ok (.new 18, 3) := dk_187 0 18 (dk_at dksJ14_toString_0 0 rfl rfl)
theorem dJ14_toString_3 : decode cJ14_toString 3 = .ok (.dup, 1) := dk_89 (dk_at dksJ14_toString_0 3 rfl rfl)
theorem dJ14_toString_4 : decode cJ14_toString 4 = .ok (.aload_n 0, 1) := dk_42 (dk_at dksJ14_toString_0 4 rfl rfl)
theorem dJ14_toString_5 : decode cJ14_toString 5 = .ok (.invokespecial 137, 3) := dk_183 0 137 (dk_at dksJ14_toString_0 5 rfl rfl)
theorem dJ14_toString_8 : decode cJ14_toString 8 = .ok (.areturn, 1) := dk_176 (dk_at dksJ14_toString_0 8 rfl rfl)
abbrev cJ14_length : ByteArray := prog_37_method_93_code
def yJ14_length : MethodName := ⟨RJ14, "length", "()I"⟩
theorem dJ14_length_0 : decode cJ14_length 0 = .ok (.aload_n 0, 1) := by decide +kernel
theorem dJ14_length_1 : decode cJ14_length 1 = .ok (.invokespecial 343, 3) := by decide +kernel
theorem dJ14_length_4 : decode cJ14_length 4 = .ok (.ireturn, 1) := by decide +kernel
theorem q133 : (Jvm.Cond.initialized "java/lang/StringBuilder") ∈ lw_all := lw_g (lw_at lw_m1 22 rfl) rfl
theorem q630 : (Jvm.Cond.instantiable "java/lang/StringBuilder" (4 : Nat)) ∈ lw_all := lw_g (lw_at lw_m3 39 rfl) rfl
theorem q632 : (Jvm.Cond.instanceMethod ({ cls := "java/lang/StringBuilder", name := "<init>", desc := "(I)V" } : Jvm.MethodName)) ∈ lw_all := lw_g (lw_at lw_m3 41 rfl) rfl
theorem q633 : (Jvm.Cond.code ({ cls := "java/lang/StringBuilder", name := "<init>", desc := "(I)V" } : Jvm.MethodName) prog_37_method_2_code (2 : Nat) (Option.none : Option Jvm.ClassFile.FieldType)) ∈ lw_all := lw_g (lw_at lw_m3 42 rfl) rfl
theorem q634 : (Jvm.Cond.methodLink "java/lang/StringBuilder" (1 : Nat) ({ cls := "java/lang/AbstractStringBuilder", name := "<init>", desc := "(I)V" } : Jvm.MethodName)) ∈ lw_all := lw_g (lw_at lw_m3 43 rfl) rfl
theorem q650 : (Jvm.Cond.lays "java/lang/StringBuilder" "java/lang/AbstractStringBuilder" "value" "[B") ∈ lw_all := lw_g (lw_at lw_m3 59 rfl) rfl
theorem q652 : (Jvm.Cond.lays "java/lang/StringBuilder" "java/lang/AbstractStringBuilder" "coder" "B") ∈ lw_all := lw_g (lw_at lw_m3 61 rfl) rfl
theorem q654 : (Jvm.Cond.lays "java/lang/StringBuilder" "java/lang/AbstractStringBuilder" "maybeLatin1" "Z") ∈ lw_all := lw_g (lw_at lw_m3 63 rfl) rfl
theorem q656 : (Jvm.Cond.lays "java/lang/StringBuilder" "java/lang/AbstractStringBuilder" "count" "I") ∈ lw_all := lw_g (lw_at lw_m3 65 rfl) rfl
theorem q658 : (Jvm.Cond.superclass "java/lang/StringBuilder" "java/lang/AbstractStringBuilder") ∈ lw_all := lw_g (lw_at lw_m3 67 rfl) rfl
theorem q660 : (Jvm.Cond.instanceMethod ({ cls := "java/lang/StringBuilder", name := "append", desc := "(C)Ljava/lang/StringBuilder;" } : Jvm.MethodName)) ∈ lw_all := lw_g (lw_at lw_m3 69 rfl) rfl
theorem q661 : (Jvm.Cond.selects "java/lang/StringBuilder" ({ cls := "java/lang/StringBuilder", name := "append", desc := "(C)Ljava/lang/StringBuilder;" } : Jvm.MethodName) ({ cls := "java/lang/StringBuilder", name := "append", desc := "(C)Ljava/lang/StringBuilder;" } : Jvm.MethodName)) ∈ lw_all := lw_g (lw_at lw_m3 70 rfl) rfl
theorem q662 : (Jvm.Cond.code ({ cls := "java/lang/StringBuilder", name := "append", desc := "(C)Ljava/lang/StringBuilder;" } : Jvm.MethodName) prog_37_method_14_code (2 : Nat) (Option.some (Jvm.ClassFile.FieldType.object "java/lang/StringBuilder"))) ∈ lw_all := lw_g (lw_at lw_m3 71 rfl) rfl
theorem q663 : (Jvm.Cond.methodLink "java/lang/StringBuilder" (50 : Nat) ({ cls := "java/lang/AbstractStringBuilder", name := "append", desc := "(C)Ljava/lang/AbstractStringBuilder;" } : Jvm.MethodName)) ∈ lw_all := lw_g (lw_at lw_m3 72 rfl) rfl
theorem q700 : (Jvm.Cond.selects "java/lang/StringBuilder" ({ cls := "java/lang/AbstractStringBuilder", name := "isLatin1", desc := "()Z" } : Jvm.MethodName) ({ cls := "java/lang/AbstractStringBuilder", name := "isLatin1", desc := "()Z" } : Jvm.MethodName)) ∈ lw_all := lw_g (lw_at lw_m3 109 rfl) rfl
theorem q731 : (Jvm.Cond.instanceMethod ({ cls := "java/lang/StringBuilder", name := "toString", desc := "()Ljava/lang/String;" } : Jvm.MethodName)) ∈ lw_all := lw_g (lw_at lw_m3 140 rfl) rfl
theorem q732 : (Jvm.Cond.selects "java/lang/StringBuilder" ({ cls := "java/lang/StringBuilder", name := "toString", desc := "()Ljava/lang/String;" } : Jvm.MethodName) ({ cls := "java/lang/StringBuilder", name := "toString", desc := "()Ljava/lang/String;" } : Jvm.MethodName)) ∈ lw_all := lw_g (lw_at lw_m3 141 rfl) rfl
theorem q733 : (Jvm.Cond.code ({ cls := "java/lang/StringBuilder", name := "toString", desc := "()Ljava/lang/String;" } : Jvm.MethodName) prog_37_method_42_code (1 : Nat) (Option.some (Jvm.ClassFile.FieldType.object "java/lang/String"))) ∈ lw_all := lw_g (lw_at lw_m3 142 rfl) rfl
theorem q734 : (Jvm.Cond.classLink "java/lang/StringBuilder" (18 : Nat) "java/lang/String") ∈ lw_all := lw_g (lw_at lw_m3 143 rfl) rfl
theorem q736 : (Jvm.Cond.methodLink "java/lang/StringBuilder" (137 : Nat) ({ cls := "java/lang/String", name := "<init>", desc := "(Ljava/lang/StringBuilder;)V" } : Jvm.MethodName)) ∈ lw_all := lw_g (lw_at lw_m3 145 rfl) rfl
theorem q746 : (Jvm.Cond.selects "java/lang/StringBuilder" ({ cls := "java/lang/AbstractStringBuilder", name := "getValue", desc := "()[B" } : Jvm.MethodName) ({ cls := "java/lang/AbstractStringBuilder", name := "getValue", desc := "()[B" } : Jvm.MethodName)) ∈ lw_all := lw_g (lw_at lw_m3 155 rfl) rfl
theorem q751 : (Jvm.Cond.selects "java/lang/StringBuilder" ({ cls := "java/lang/AbstractStringBuilder", name := "length", desc := "()I" } : Jvm.MethodName) ({ cls := "java/lang/StringBuilder", name := "length", desc := "()I" } : Jvm.MethodName)) ∈ lw_all := lw_g (lw_at lw_m3 160 rfl) rfl
theorem q752 : (Jvm.Cond.instanceMethod ({ cls := "java/lang/StringBuilder", name := "length", desc := "()I" } : Jvm.MethodName)) ∈ lw_all := lw_g (lw_at lw_m3 161 rfl) rfl
theorem q753 : (Jvm.Cond.code ({ cls := "java/lang/StringBuilder", name := "length", desc := "()I" } : Jvm.MethodName) prog_37_method_93_code (1 : Nat) (Option.some Jvm.ClassFile.FieldType.int)) ∈ lw_all := lw_g (lw_at lw_m3 162 rfl) rfl
theorem q754 : (Jvm.Cond.methodLink "java/lang/StringBuilder" (343 : Nat) ({ cls := "java/lang/AbstractStringBuilder", name := "length", desc := "()I" } : Jvm.MethodName)) ∈ lw_all := lw_g (lw_at lw_m3 163 rfl) rfl
theorem q883 : (Jvm.Cond.selects "java/lang/StringBuilder" ({ cls := "java/lang/Object", name := "getClass", desc := "()Ljava/lang/Class;" } : Jvm.MethodName) ({ cls := "java/lang/Object", name := "getClass", desc := "()Ljava/lang/Class;" } : Jvm.MethodName)) ∈ lw_all := lw_g (lw_at lw_m4 52 rfl) rfl
theorem q2095 : (Jvm.Cond.castable "java/lang/StringBuilder" "java/lang/Object") ∈ lw_tbl := lw_at lw_m9 64 rfl
theorem in_J14 : ∀ w ∈ wsJ140, w ∈ lw_all := lw_in wsJ140 [650, 652, 654, 656] (by decide +kernel) (by decide +kernel)
/-! jdk/internal/util/ArraysSupport -/
set_option maxRecDepth 100000
def RJ15 : String := "jdk/internal/util/ArraysSupport"
abbrev cJ15_newLength : ByteArray := prog_54_method_27_code
def yJ15_newLength : MethodName := ⟨RJ15, "newLength", "(III)I"⟩
def dkwJ15_newLength_1 : List UInt8 := [184, 0, 201, 172]
abbrev dktJ15_newLength_1 : List UInt8 := dkwJ15_newLength_1 ++ []
def dkwJ15_newLength_0 : List UInt8 := [26, 27, 28, 184, 0, 194, 96, 62, 3, 29, 162, 0, 11, 29, 18, 200, 163, 0, 5, 29, 172, 26, 27]
abbrev dktJ15_newLength_0 : List UInt8 := dkwJ15_newLength_0 ++ dktJ15_newLength_1
theorem dksJ15_newLength_0 : cJ15_newLength.data.toList.drop 0 = dktJ15_newLength_0 := by decide +kernel
theorem dksJ15_newLength_1 : cJ15_newLength.data.toList.drop 23 = dktJ15_newLength_1 := dk_seg dksJ15_newLength_0 23 rfl rfl
theorem dJ15_newLength_0 : decode cJ15_newLength 0 = .ok (.iload_n 0, 1) := dk_26 (dk_at dksJ15_newLength_0 0 rfl rfl)
theorem dJ15_newLength_1 : decode cJ15_newLength 1 = .ok (.iload_n 1, 1) := dk_27 (dk_at dksJ15_newLength_0 1 rfl rfl)
theorem dJ15_newLength_2 : decode cJ15_newLength 2 = .ok (.iload_n 2, 1) := dk_28 (dk_at dksJ15_newLength_0 2 rfl rfl)
theorem dJ15_newLength_3 : decode cJ15_newLength 3 = .ok (.invokestatic 194, 3) := dk_184 0 194 (dk_at dksJ15_newLength_0 3 rfl rfl)
theorem dJ15_newLength_6 : decode cJ15_newLength 6 = .ok (.iadd, 1) := dk_96 (dk_at dksJ15_newLength_0 6 rfl rfl)
theorem dJ15_newLength_7 : decode cJ15_newLength 7 = .ok (.istore_n 3, 1) := dk_62 (dk_at dksJ15_newLength_0 7 rfl rfl)
theorem dJ15_newLength_8 : decode cJ15_newLength 8 = .ok (.iconst 0, 1) := dk_3 (dk_at dksJ15_newLength_0 8 rfl rfl)
theorem dJ15_newLength_9 : decode cJ15_newLength 9 = .ok (.iload_n 3, 1) := dk_29 (dk_at dksJ15_newLength_0 9 rfl rfl)
theorem dJ15_newLength_10 : decode cJ15_newLength 10 = .ok (.if_icmp .ge 11, 3) := dk_162 0 11 (dk_at dksJ15_newLength_0 10 rfl rfl)
theorem dJ15_newLength_13 : decode cJ15_newLength 13 = .ok (.iload_n 3, 1) := dk_29 (dk_at dksJ15_newLength_0 13 rfl rfl)
theorem dJ15_newLength_14 : decode cJ15_newLength 14 = .ok (.ldc 200, 2) := dk_18 200 (dk_at dksJ15_newLength_0 14 rfl rfl)
theorem dJ15_newLength_16 : decode cJ15_newLength 16 = .ok (.if_icmp .gt 5, 3) := dk_163 0 5 (dk_at dksJ15_newLength_0 16 rfl rfl)
theorem dJ15_newLength_19 : decode cJ15_newLength 19 = .ok (.iload_n 3, 1) := dk_29 (dk_at dksJ15_newLength_0 19 rfl rfl)
theorem dJ15_newLength_20 : decode cJ15_newLength 20 = .ok (.ireturn, 1) := dk_172 (dk_at dksJ15_newLength_0 20 rfl rfl)
theorem dJ15_newLength_21 : decode cJ15_newLength 21 = .ok (.iload_n 0, 1) := dk_26 (dk_at dksJ15_newLength_0 21 rfl rfl)
theorem dJ15_newLength_22 : decode cJ15_newLength 22 = .ok (.iload_n 1, 1) := dk_27 (dk_at dksJ15_newLength_0 22 rfl rfl)
theorem dJ15_newLength_23 : decode cJ15_newLength 23 = .ok (.invokestatic 201, 3) := dk_184 0 201 (dk_at dksJ15_newLength_1 0 rfl rfl)
theorem dJ15_newLength_26 : decode cJ15_newLength 26 = .ok (.ireturn, 1) := dk_172 (dk_at dksJ15_newLength_1 3 rfl rfl)
abbrev cJ15_hugeLength : ByteArray := prog_54_method_28_code
def yJ15_hugeLength : MethodName := ⟨RJ15, "hugeLength", "(II)I"⟩
def dkwJ15_hugeLength_2 : List UInt8 := [191, 28, 18, 200, 163, 0, 6, 18, 200, 172, 28, 172]
abbrev dktJ15_hugeLength_2 : List UInt8 := dkwJ15_hugeLength_2 ++ []
def dkwJ15_hugeLength_1 : List UInt8 := [26, 182, 0, 98, 18, 208, 182, 0, 94, 27, 182, 0, 98, 18, 210, 182, 0, 94, 182, 0, 101, 183, 0, 212]
abbrev dktJ15_hugeLength_1 : List UInt8 := dkwJ15_hugeLength_1 ++ dktJ15_hugeLength_2
def dkwJ15_hugeLength_0 : List UInt8 := [26, 27, 96, 61, 28, 156, 0, 44, 187, 0, 204, 89, 187, 0, 89, 89, 183, 0, 91, 18, 206, 182, 0, 94]
abbrev dktJ15_hugeLength_0 : List UInt8 := dkwJ15_hugeLength_0 ++ dktJ15_hugeLength_1
theorem dksJ15_hugeLength_0 : cJ15_hugeLength.data.toList.drop 0 = dktJ15_hugeLength_0 := by decide +kernel
theorem dksJ15_hugeLength_1 : cJ15_hugeLength.data.toList.drop 24 = dktJ15_hugeLength_1 := dk_seg dksJ15_hugeLength_0 24 rfl rfl
theorem dksJ15_hugeLength_2 : cJ15_hugeLength.data.toList.drop 48 = dktJ15_hugeLength_2 := dk_seg dksJ15_hugeLength_1 24 rfl rfl
theorem dJ15_hugeLength_0 : decode cJ15_hugeLength 0 = .ok (.iload_n 0, 1) := dk_26 (dk_at dksJ15_hugeLength_0 0 rfl rfl)
theorem dJ15_hugeLength_1 : decode cJ15_hugeLength 1 = .ok (.iload_n 1, 1) := dk_27 (dk_at dksJ15_hugeLength_0 1 rfl rfl)
theorem dJ15_hugeLength_2 : decode cJ15_hugeLength 2 = .ok (.iadd, 1) := dk_96 (dk_at dksJ15_hugeLength_0 2 rfl rfl)
theorem dJ15_hugeLength_3 : decode cJ15_hugeLength 3 = .ok (.istore_n 2, 1) := dk_61 (dk_at dksJ15_hugeLength_0 3 rfl rfl)
theorem dJ15_hugeLength_4 : decode cJ15_hugeLength 4 = .ok (.iload_n 2, 1) := dk_28 (dk_at dksJ15_hugeLength_0 4 rfl rfl)
theorem dJ15_hugeLength_5 : decode cJ15_hugeLength 5 = .ok (.ifCond .ge 44, 3) := dk_156 0 44 (dk_at dksJ15_hugeLength_0 5 rfl rfl)
theorem dJ15_hugeLength_8 : decode cJ15_hugeLength 8 = .ok (.new 204, 3) := dk_187 0 204 (dk_at dksJ15_hugeLength_0 8 rfl rfl)
theorem dJ15_hugeLength_11 : decode cJ15_hugeLength 11 = .ok (.dup, 1) := dk_89 (dk_at dksJ15_hugeLength_0 11 rfl rfl)
theorem dJ15_hugeLength_12 : decode cJ15_hugeLength 12 = .ok (.new 89, 3) := dk_187 0 89 (dk_at dksJ15_hugeLength_0 12 rfl rfl)
theorem dJ15_hugeLength_15 : decode cJ15_hugeLength 15 = .ok (.dup, 1) := dk_89 (dk_at dksJ15_hugeLength_0 15 rfl rfl)
theorem dJ15_hugeLength_16 : decode cJ15_hugeLength 16 = .ok (.invokespecial 91, 3) := dk_183 0 91 (dk_at dksJ15_hugeLength_0 16 rfl rfl)
theorem dJ15_hugeLength_19 : decode cJ15_hugeLength 19 = .ok (.ldc 206, 2) := dk_18 206 (dk_at dksJ15_hugeLength_0 19 rfl rfl)
theorem dJ15_hugeLength_21 : decode cJ15_hugeLength 21 = .ok (.invokevirtual 94, 3) := dk_182 0 94 (dk_at dksJ15_hugeLength_0 21 rfl rfl)
theorem dJ15_hugeLength_24 : decode cJ15_hugeLength 24 = .ok (.iload_n 0, 1) := dk_26 (dk_at dksJ15_hugeLength_1 0 rfl rfl)
theorem dJ15_hugeLength_25 : decode cJ15_hugeLength 25 = .ok (.invokevirtual 98, 3) := dk_182 0 98 (dk_at dksJ15_hugeLength_1 1 rfl rfl)
theorem dJ15_hugeLength_28 : decode cJ15_hugeLength 28 = .ok (.ldc 208, 2) := dk_18 208 (dk_at dksJ15_hugeLength_1 4 rfl rfl)
theorem dJ15_hugeLength_30 : decode cJ15_hugeLength 30 = .ok (.invokevirtual 94, 3) := dk_182 0 94 (dk_at dksJ15_hugeLength_1 6 rfl rfl)
theorem dJ15_hugeLength_33 : decode cJ15_hugeLength 33 = .ok (.iload_n 1, 1) := dk_27 (dk_at dksJ15_hugeLength_1 9 rfl rfl)
theorem dJ15_hugeLength_34 : decode cJ15_hugeLength 34 = .ok (.invokevirtual 98, 3) := dk_182 0 98 (dk_at dksJ15_hugeLength_1 10 rfl rfl)
theorem dJ15_hugeLength_37 : decode cJ15_hugeLength 37 = .ok (.ldc 210, 2) := dk_18 210 (dk_at dksJ15_hugeLength_1 13 rfl rfl)
theorem dJ15_hugeLength_39 : decode cJ15_hugeLength 39 = .ok (.invokevirtual 94, 3) := dk_182 0 94 (dk_at dksJ15_hugeLength_1 15 rfl rfl)
theorem dJ15_hugeLength_42 : decode cJ15_hugeLength 42 = .ok (.invokevirtual 101, 3) := dk_182 0 101 (dk_at dksJ15_hugeLength_1 18 rfl rfl)
theorem dJ15_hugeLength_45 : decode cJ15_hugeLength 45 = .ok (.invokespecial 212, 3) := dk_183 0 212 (dk_at dksJ15_hugeLength_1 21 rfl rfl)
theorem dJ15_hugeLength_48 : decode cJ15_hugeLength 48 = .ok (.athrow, 1) := dk_191 (dk_at dksJ15_hugeLength_2 0 rfl rfl)
theorem dJ15_hugeLength_49 : decode cJ15_hugeLength 49 = .ok (.iload_n 2, 1) := dk_28 (dk_at dksJ15_hugeLength_2 1 rfl rfl)
theorem dJ15_hugeLength_50 : decode cJ15_hugeLength 50 = .ok (.ldc 200, 2) := dk_18 200 (dk_at dksJ15_hugeLength_2 2 rfl rfl)
theorem dJ15_hugeLength_52 : decode cJ15_hugeLength 52 = .ok (.if_icmp .gt 6, 3) := dk_163 0 6 (dk_at dksJ15_hugeLength_2 4 rfl rfl)
theorem dJ15_hugeLength_55 : decode cJ15_hugeLength 55 = .ok (.ldc 200, 2) := dk_18 200 (dk_at dksJ15_hugeLength_2 7 rfl rfl)
theorem dJ15_hugeLength_57 : decode cJ15_hugeLength 57 = .ok (.ireturn, 1) := dk_172 (dk_at dksJ15_hugeLength_2 9 rfl rfl)
theorem dJ15_hugeLength_58 : decode cJ15_hugeLength 58 = .ok (.iload_n 2, 1) := dk_28 (dk_at dksJ15_hugeLength_2 10 rfl rfl)
theorem dJ15_hugeLength_59 : decode cJ15_hugeLength 59 = .ok (.ireturn, 1) := dk_172 (dk_at dksJ15_hugeLength_2 11 rfl rfl)
theorem q134 : (Jvm.Cond.initialized "jdk/internal/util/ArraysSupport") ∈ lw_all := lw_g (lw_at lw_m1 23 rfl) rfl
theorem q675 : (Jvm.Cond.static ({ cls := "jdk/internal/util/ArraysSupport", name := "newLength", desc := "(III)I" } : Jvm.MethodName)) ∈ lw_all := lw_g (lw_at lw_m3 84 rfl) rfl
theorem q676 : (Jvm.Cond.code ({ cls := "jdk/internal/util/ArraysSupport", name := "newLength", desc := "(III)I" } : Jvm.MethodName) prog_54_method_27_code (4 : Nat) (Option.some Jvm.ClassFile.FieldType.int)) ∈ lw_all := lw_g (lw_at lw_m3 85 rfl) rfl
theorem q677 : (Jvm.Cond.methodLink "jdk/internal/util/ArraysSupport" (194 : Nat) ({ cls := "java/lang/Math", name := "max", desc := "(II)I" } : Jvm.MethodName)) ∈ lw_all := lw_g (lw_at lw_m3 86 rfl) rfl
theorem q678 : (Jvm.Cond.constant "jdk/internal/util/ArraysSupport" (200 : Nat) (2147483639 : Int32)) ∈ lw_all := lw_g (lw_at lw_m3 87 rfl) rfl
theorem q679 : (Jvm.Cond.methodLink "jdk/internal/util/ArraysSupport" (201 : Nat) ({ cls := "jdk/internal/util/ArraysSupport", name := "hugeLength", desc := "(II)I" } : Jvm.MethodName)) ∈ lw_all := lw_g (lw_at lw_m3 88 rfl) rfl
theorem q680 : (Jvm.Cond.static ({ cls := "jdk/internal/util/ArraysSupport", name := "hugeLength", desc := "(II)I" } : Jvm.MethodName)) ∈ lw_all := lw_g (lw_at lw_m3 89 rfl) rfl
theorem q681 : (Jvm.Cond.code ({ cls := "jdk/internal/util/ArraysSupport", name := "hugeLength", desc := "(II)I" } : Jvm.MethodName) prog_54_method_28_code (3 : Nat) (Option.some Jvm.ClassFile.FieldType.int)) ∈ lw_all := lw_g (lw_at lw_m3 90 rfl) rfl
/-! java/util/Arrays -/
set_option maxRecDepth 100000
def RJ16 : String := "java/util/Arrays"
abbrev cJ16_copyOf : ByteArray := prog_47_method_121_code
def yJ16_copyOf : MethodName := ⟨RJ16, "copyOf", "([BI)[B"⟩
def dkwJ16_copyOf_1 : List UInt8 := [27, 184, 1, 48, 184, 0, 150, 44, 176]
abbrev dktJ16_copyOf_1 : List UInt8 := dkwJ16_copyOf_1 ++ []
def dkwJ16_copyOf_0 : List UInt8 := [27, 42, 190, 160, 0, 11, 42, 182, 1, 54, 192, 1, 55, 176, 27, 188, 8, 77, 42, 3, 44, 3, 42, 190]
abbrev dktJ16_copyOf_0 : List UInt8 := dkwJ16_copyOf_0 ++ dktJ16_copyOf_1
theorem dksJ16_copyOf_0 : cJ16_copyOf.data.toList.drop 0 = dktJ16_copyOf_0 := by decide +kernel
theorem dksJ16_copyOf_1 : cJ16_copyOf.data.toList.drop 24 = dktJ16_copyOf_1 := dk_seg dksJ16_copyOf_0 24 rfl rfl
theorem dJ16_copyOf_0 : decode cJ16_copyOf 0 = .ok (.iload_n 1, 1) := dk_27 (dk_at dksJ16_copyOf_0 0 rfl rfl)
theorem dJ16_copyOf_1 : decode cJ16_copyOf 1 = .ok (.aload_n 0, 1) := dk_42 (dk_at dksJ16_copyOf_0 1 rfl rfl)
theorem dJ16_copyOf_2 : decode cJ16_copyOf 2 = .ok (.arraylength, 1) := dk_190 (dk_at dksJ16_copyOf_0 2 rfl rfl)
theorem dJ16_copyOf_3 : decode cJ16_copyOf 3 = .ok (.if_icmp .ne 11, 3) := dk_160 0 11 (dk_at dksJ16_copyOf_0 3 rfl rfl)
theorem dJ16_copyOf_6 : decode cJ16_copyOf 6 = .ok (.aload_n 0, 1) := dk_42 (dk_at dksJ16_copyOf_0 6 rfl rfl)
theorem dJ16_copyOf_7 : decode cJ16_copyOf 7 = .ok (.invokevirtual 310, 3) := dk_182 1 54 (dk_at dksJ16_copyOf_0 7 rfl rfl)
theorem dJ16_copyOf_10 : decode cJ16_copyOf 10 = .ok (.checkcast 311, 3) := dk_192 1 55 (dk_at dksJ16_copyOf_0 10 rfl rfl)
theorem dJ16_copyOf_13 : decode cJ16_copyOf 13 = .ok (.areturn, 1) := dk_176 (dk_at dksJ16_copyOf_0 13 rfl rfl)
theorem dJ16_copyOf_14 : decode cJ16_copyOf 14 = .ok (.iload_n 1, 1) := dk_27 (dk_at dksJ16_copyOf_0 14 rfl rfl)
theorem dJ16_copyOf_15 : decode cJ16_copyOf 15 = .ok (.newarray .byte, 2) := dk_188_8 (dk_at dksJ16_copyOf_0 15 rfl rfl)
theorem dJ16_copyOf_17 : decode cJ16_copyOf 17 = .ok (.astore_n 2, 1) := dk_77 (dk_at dksJ16_copyOf_0 17 rfl rfl)
theorem dJ16_copyOf_18 : decode cJ16_copyOf 18 = .ok (.aload_n 0, 1) := dk_42 (dk_at dksJ16_copyOf_0 18 rfl rfl)
theorem dJ16_copyOf_19 : decode cJ16_copyOf 19 = .ok (.iconst 0, 1) := dk_3 (dk_at dksJ16_copyOf_0 19 rfl rfl)
theorem dJ16_copyOf_20 : decode cJ16_copyOf 20 = .ok (.aload_n 2, 1) := dk_44 (dk_at dksJ16_copyOf_0 20 rfl rfl)
theorem dJ16_copyOf_21 : decode cJ16_copyOf 21 = .ok (.iconst 0, 1) := dk_3 (dk_at dksJ16_copyOf_0 21 rfl rfl)
theorem dJ16_copyOf_22 : decode cJ16_copyOf 22 = .ok (.aload_n 0, 1) := dk_42 (dk_at dksJ16_copyOf_0 22 rfl rfl)
theorem dJ16_copyOf_23 : decode cJ16_copyOf 23 = .ok (.arraylength, 1) := dk_190 (dk_at dksJ16_copyOf_0 23 rfl rfl)
theorem dJ16_copyOf_24 : decode cJ16_copyOf 24 = .ok (.iload_n 1, 1) := dk_27 (dk_at dksJ16_copyOf_1 0 rfl rfl)
theorem dJ16_copyOf_25 : decode cJ16_copyOf 25 = .ok (.invokestatic 304, 3) := dk_184 1 48 (dk_at dksJ16_copyOf_1 1 rfl rfl)
theorem dJ16_copyOf_28 : decode cJ16_copyOf 28 = .ok (.invokestatic 150, 3) := dk_184 0 150 (dk_at dksJ16_copyOf_1 4 rfl rfl)
theorem dJ16_copyOf_31 : decode cJ16_copyOf 31 = .ok (.aload_n 2, 1) := dk_44 (dk_at dksJ16_copyOf_1 7 rfl rfl)
theorem dJ16_copyOf_32 : decode cJ16_copyOf 32 = .ok (.areturn, 1) := dk_176 (dk_at dksJ16_copyOf_1 8 rfl rfl)
abbrev cJ16_copyOfRange : ByteArray := prog_47_method_132_code
def yJ16_copyOfRange : MethodName := ⟨RJ16, "copyOfRange", "([BII)[B"⟩
def dkwJ16_copyOfRange_1 : List UInt8 := [176]
abbrev dktJ16_copyOfRange_1 : List UInt8 := dkwJ16_copyOfRange_1 ++ []
def dkwJ16_copyOfRange_0 : List UInt8 := [27, 154, 0, 9, 28, 42, 190, 159, 0, 10, 42, 27, 28, 184, 1, 83, 176, 42, 182, 1, 54, 192, 1, 55]
abbrev dktJ16_copyOfRange_0 : List UInt8 := dkwJ16_copyOfRange_0 ++ dktJ16_copyOfRange_1
theorem dksJ16_copyOfRange_0 : cJ16_copyOfRange.data.toList.drop 0 = dktJ16_copyOfRange_0 := by decide +kernel
theorem dksJ16_copyOfRange_1 : cJ16_copyOfRange.data.toList.drop 24 = dktJ16_copyOfRange_1 := dk_seg dksJ16_copyOfRange_0 24 rfl rfl
theorem dJ16_copyOfRange_0 : decode cJ16_copyOfRange 0 = .ok (.iload_n 1, 1) := dk_27 (dk_at dksJ16_copyOfRange_0 0 rfl rfl)
theorem dJ16_copyOfRange_1 : decode cJ16_copyOfRange 1 = .ok (.ifCond .ne 9, 3) := dk_154 0 9 (dk_at dksJ16_copyOfRange_0 1 rfl rfl)
theorem dJ16_copyOfRange_4 : decode cJ16_copyOfRange 4 = .ok (.iload_n 2, 1) := dk_28 (dk_at dksJ16_copyOfRange_0 4 rfl rfl)
theorem dJ16_copyOfRange_5 : decode cJ16_copyOfRange 5 = .ok (.aload_n 0, 1) := dk_42 (dk_at dksJ16_copyOfRange_0 5 rfl rfl)
theorem dJ16_copyOfRange_6 : decode cJ16_copyOfRange 6 = .ok (.arraylength, 1) := dk_190 (dk_at dksJ16_copyOfRange_0 6 rfl rfl)
theorem dJ16_copyOfRange_7 : decode cJ16_copyOfRange 7 = .ok (.if_icmp .eq 10, 3) := dk_159 0 10 (dk_at dksJ16_copyOfRange_0 7 rfl rfl)
theorem dJ16_copyOfRange_10 : decode cJ16_copyOfRange 10 = .ok (.aload_n 0, 1) := dk_42 (dk_at dksJ16_copyOfRange_0 10 rfl rfl)
theorem dJ16_copyOfRange_11 : decode cJ16_copyOfRange 11 = .ok (.iload_n 1, 1) := dk_27 (dk_at dksJ16_copyOfRange_0 11 rfl rfl)
theorem dJ16_copyOfRange_12 : decode cJ16_copyOfRange 12 = .ok (.iload_n 2, 1) := dk_28 (dk_at dksJ16_copyOfRange_0 12 rfl rfl)
theorem dJ16_copyOfRange_13 : decode cJ16_copyOfRange 13 = .ok (.invokestatic 339, 3) := dk_184 1 83 (dk_at dksJ16_copyOfRange_0 13 rfl rfl)
theorem dJ16_copyOfRange_16 : decode cJ16_copyOfRange 16 = .ok (.areturn, 1) := dk_176 (dk_at dksJ16_copyOfRange_0 16 rfl rfl)
theorem dJ16_copyOfRange_17 : decode cJ16_copyOfRange 17 = .ok (.aload_n 0, 1) := dk_42 (dk_at dksJ16_copyOfRange_0 17 rfl rfl)
theorem dJ16_copyOfRange_18 : decode cJ16_copyOfRange 18 = .ok (.invokevirtual 310, 3) := dk_182 1 54 (dk_at dksJ16_copyOfRange_0 18 rfl rfl)
theorem dJ16_copyOfRange_21 : decode cJ16_copyOfRange 21 = .ok (.checkcast 311, 3) := dk_192 1 55 (dk_at dksJ16_copyOfRange_0 21 rfl rfl)
theorem dJ16_copyOfRange_24 : decode cJ16_copyOfRange 24 = .ok (.areturn, 1) := dk_176 (dk_at dksJ16_copyOfRange_1 0 rfl rfl)
abbrev cJ16_copyOfRangeByte : ByteArray := prog_47_method_133_code
def yJ16_copyOfRangeByte : MethodName := ⟨RJ16, "copyOfRangeByte", "([BII)[B"⟩
def dkwJ16_copyOfRangeByte_1 : List UInt8 := [184, 1, 48, 184, 0, 150, 25, 4, 176]
abbrev dktJ16_copyOfRangeByte_1 : List UInt8 := dkwJ16_copyOfRangeByte_1 ++ []
def dkwJ16_copyOfRangeByte_0 : List UInt8 := [27, 28, 184, 1, 87, 28, 27, 100, 62, 29, 188, 8, 58, 4, 42, 27, 25, 4, 3, 42, 190, 27, 100, 29]
abbrev dktJ16_copyOfRangeByte_0 : List UInt8 := dkwJ16_copyOfRangeByte_0 ++ dktJ16_copyOfRangeByte_1
theorem dksJ16_copyOfRangeByte_0 : cJ16_copyOfRangeByte.data.toList.drop 0 = dktJ16_copyOfRangeByte_0 := by decide +kernel
theorem dksJ16_copyOfRangeByte_1 : cJ16_copyOfRangeByte.data.toList.drop 24 = dktJ16_copyOfRangeByte_1 := dk_seg dksJ16_copyOfRangeByte_0 24 rfl rfl
theorem dJ16_copyOfRangeByte_0 : decode cJ16_copyOfRangeByte 0 = .ok (.iload_n 1, 1) := dk_27 (dk_at dksJ16_copyOfRangeByte_0 0 rfl rfl)
theorem dJ16_copyOfRangeByte_1 : decode cJ16_copyOfRangeByte 1 = .ok (.iload_n 2, 1) := dk_28 (dk_at dksJ16_copyOfRangeByte_0 1 rfl rfl)
theorem dJ16_copyOfRangeByte_2 : decode cJ16_copyOfRangeByte 2 = .ok (.invokestatic 343, 3) := dk_184 1 87 (dk_at dksJ16_copyOfRangeByte_0 2 rfl rfl)
theorem dJ16_copyOfRangeByte_5 : decode cJ16_copyOfRangeByte 5 = .ok (.iload_n 2, 1) := dk_28 (dk_at dksJ16_copyOfRangeByte_0 5 rfl rfl)
theorem dJ16_copyOfRangeByte_6 : decode cJ16_copyOfRangeByte 6 = .ok (.iload_n 1, 1) := dk_27 (dk_at dksJ16_copyOfRangeByte_0 6 rfl rfl)
theorem dJ16_copyOfRangeByte_7 : decode cJ16_copyOfRangeByte 7 = .ok (.isub, 1) := dk_100 (dk_at dksJ16_copyOfRangeByte_0 7 rfl rfl)
theorem dJ16_copyOfRangeByte_8 : decode cJ16_copyOfRangeByte 8 = .ok (.istore_n 3, 1) := dk_62 (dk_at dksJ16_copyOfRangeByte_0 8 rfl rfl)
theorem dJ16_copyOfRangeByte_9 : decode cJ16_copyOfRangeByte 9 = .ok (.iload_n 3, 1) := dk_29 (dk_at dksJ16_copyOfRangeByte_0 9 rfl rfl)
theorem dJ16_copyOfRangeByte_10 : decode cJ16_copyOfRangeByte 10 = .ok (.newarray .byte, 2) := dk_188_8 (dk_at dksJ16_copyOfRangeByte_0 10 rfl rfl)
theorem dJ16_copyOfRangeByte_12 : decode cJ16_copyOfRangeByte 12 = .ok (.astore 4, 2) := dk_58 4 (dk_at dksJ16_copyOfRangeByte_0 12 rfl rfl)
theorem dJ16_copyOfRangeByte_14 : decode cJ16_copyOfRangeByte 14 = .ok (.aload_n 0, 1) := dk_42 (dk_at dksJ16_copyOfRangeByte_0 14 rfl rfl)
theorem dJ16_copyOfRangeByte_15 : decode cJ16_copyOfRangeByte 15 = .ok (.iload_n 1, 1) := dk_27 (dk_at dksJ16_copyOfRangeByte_0 15 rfl rfl)
theorem dJ16_copyOfRangeByte_16 : decode cJ16_copyOfRangeByte 16 = .ok (.aload 4, 2) := dk_25 4 (dk_at dksJ16_copyOfRangeByte_0 16 rfl rfl)
theorem dJ16_copyOfRangeByte_18 : decode cJ16_copyOfRangeByte 18 = .ok (.iconst 0, 1) := dk_3 (dk_at dksJ16_copyOfRangeByte_0 18 rfl rfl)
theorem dJ16_copyOfRangeByte_19 : decode cJ16_copyOfRangeByte 19 = .ok (.aload_n 0, 1) := dk_42 (dk_at dksJ16_copyOfRangeByte_0 19 rfl rfl)
theorem dJ16_copyOfRangeByte_20 : decode cJ16_copyOfRangeByte 20 = .ok (.arraylength, 1) := dk_190 (dk_at dksJ16_copyOfRangeByte_0 20 rfl rfl)
theorem dJ16_copyOfRangeByte_21 : decode cJ16_copyOfRangeByte 21 = .ok (.iload_n 1, 1) := dk_27 (dk_at dksJ16_copyOfRangeByte_0 21 rfl rfl)
theorem dJ16_copyOfRangeByte_22 : decode cJ16_copyOfRangeByte 22 = .ok (.isub, 1) := dk_100 (dk_at dksJ16_copyOfRangeByte_0 22 rfl rfl)
theorem dJ16_copyOfRangeByte_23 : decode cJ16_copyOfRangeByte 23 = .ok (.iload_n 3, 1) := dk_29 (dk_at dksJ16_copyOfRangeByte_0 23 rfl rfl)
theorem dJ16_copyOfRangeByte_24 : decode cJ16_copyOfRangeByte 24 = .ok (.invokestatic 304, 3) := dk_184 1 48 (dk_at dksJ16_copyOfRangeByte_1 0 rfl rfl)
theorem dJ16_copyOfRangeByte_27 : decode cJ16_copyOfRangeByte 27 = .ok (.invokestatic 150, 3) := dk_184 0 150 (dk_at dksJ16_copyOfRangeByte_1 3 rfl rfl)
theorem dJ16_copyOfRangeByte_30 : decode cJ16_copyOfRangeByte 30 = .ok (.aload 4, 2) := dk_25 4 (dk_at dksJ16_copyOfRangeByte_1 6 rfl rfl)
theorem dJ16_copyOfRangeByte_32 : decode cJ16_copyOfRangeByte 32 = .ok (.areturn, 1) := dk_176 (dk_at dksJ16_copyOfRangeByte_1 8 rfl rfl)
abbrev cJ16_checkLength : ByteArray := prog_47_method_131_code
def yJ16_checkLength : MethodName := ⟨RJ16, "checkLength", "(II)V"⟩
def dkwJ16_checkLength_1 : List UInt8 := [182, 0, 50, 27, 182, 0, 54, 182, 0, 61, 183, 0, 65, 191, 177]
abbrev dktJ16_checkLength_1 : List UInt8 := dkwJ16_checkLength_1 ++ []
def dkwJ16_checkLength_0 : List UInt8 := [27, 26, 162, 0, 35, 187, 0, 43, 89, 187, 0, 45, 89, 183, 0, 47, 26, 182, 0, 54, 19, 1, 81]
abbrev dktJ16_checkLength_0 : List UInt8 := dkwJ16_checkLength_0 ++ dktJ16_checkLength_1
theorem dksJ16_checkLength_0 : cJ16_checkLength.data.toList.drop 0 = dktJ16_checkLength_0 := by decide +kernel
theorem dksJ16_checkLength_1 : cJ16_checkLength.data.toList.drop 23 = dktJ16_checkLength_1 := dk_seg dksJ16_checkLength_0 23 rfl rfl
theorem dJ16_checkLength_0 : decode cJ16_checkLength 0 = .ok (.iload_n 1, 1) := dk_27 (dk_at dksJ16_checkLength_0 0 rfl rfl)
theorem dJ16_checkLength_1 : decode cJ16_checkLength 1 = .ok (.iload_n 0, 1) := dk_26 (dk_at dksJ16_checkLength_0 1 rfl rfl)
theorem dJ16_checkLength_2 : decode cJ16_checkLength 2 = .ok (.if_icmp .ge 35, 3) := dk_162 0 35 (dk_at dksJ16_checkLength_0 2 rfl rfl)
theorem dJ16_checkLength_5 : decode cJ16_checkLength 5 = .ok (.new 43, 3) := dk_187 0 43 (dk_at dksJ16_checkLength_0 5 rfl rfl)
theorem dJ16_checkLength_8 : decode cJ16_checkLength 8 = .ok (.dup, 1) := dk_89 (dk_at dksJ16_checkLength_0 8 rfl rfl)
theorem dJ16_checkLength_9 : decode cJ16_checkLength 9 = .ok (.new 45, 3) := dk_187 0 45 (dk_at dksJ16_checkLength_0 9 rfl rfl)
theorem dJ16_checkLength_12 : decode cJ16_checkLength 12 = .ok (.dup, 1) := dk_89 (dk_at dksJ16_checkLength_0 12 rfl rfl)
theorem dJ16_checkLength_13 : decode cJ16_checkLength 13 = .ok (.invokespecial 47, 3) := dk_183 0 47 (dk_at dksJ16_checkLength_0 13 rfl rfl)
theorem dJ16_checkLength_16 : decode cJ16_checkLength 16 = .ok (.iload_n 0, 1) := dk_26 (dk_at dksJ16_checkLength_0 16 rfl rfl)
theorem dJ16_checkLength_17 : decode cJ16_checkLength 17 = .ok (.invokevirtual 54, 3) := dk_182 0 54 (dk_at dksJ16_checkLength_0 17 rfl rfl)
theorem dJ16_checkLength_20 : decode cJ16_checkLength 20 = .ok (.ldc_w 337, 3) := dk_19 1 81 (dk_at dksJ16_checkLength_0 20 rfl rfl)
theorem dJ16_checkLength_23 : decode cJ16_checkLength 23 = .ok (.invokevirtual 50, 3) := dk_182 0 50 (dk_at dksJ16_checkLength_1 0 rfl rfl)
theorem dJ16_checkLength_26 : decode cJ16_checkLength 26 = .ok (.iload_n 1, 1) := dk_27 (dk_at dksJ16_checkLength_1 3 rfl rfl)
theorem dJ16_checkLength_27 : decode cJ16_checkLength 27 = .ok (.invokevirtual 54, 3) := dk_182 0 54 (dk_at dksJ16_checkLength_1 4 rfl rfl)
theorem dJ16_checkLength_30 : decode cJ16_checkLength 30 = .ok (.invokevirtual 61, 3) := dk_182 0 61 (dk_at dksJ16_checkLength_1 7 rfl rfl)
theorem dJ16_checkLength_33 : decode cJ16_checkLength 33 = .ok (.invokespecial 65, 3) := dk_183 0 65 (dk_at dksJ16_checkLength_1 10 rfl rfl)
theorem dJ16_checkLength_36 : decode cJ16_checkLength 36 = .ok (.athrow, 1) := dk_191 (dk_at dksJ16_checkLength_1 13 rfl rfl)
theorem dJ16_checkLength_37 : decode cJ16_checkLength 37 = .ok (.return_, 1) := dk_177 (dk_at dksJ16_checkLength_1 14 rfl rfl)
abbrev cJ16_copyOf_2 : ByteArray := prog_47_method_119_code
def yJ16_copyOf_2 : MethodName := ⟨RJ16, "copyOf", "([Ljava/lang/Object;I)[Ljava/lang/Object;"⟩
def dkwJ16_copyOf_2_0 : List UInt8 := [42, 27, 42, 182, 0, 86, 184, 1, 44, 176]
abbrev dktJ16_copyOf_2_0 : List UInt8 := dkwJ16_copyOf_2_0 ++ []
theorem dksJ16_copyOf_2_0 : cJ16_copyOf_2.data.toList.drop 0 = dktJ16_copyOf_2_0 := by decide +kernel
theorem dJ16_copyOf_2_0 : decode cJ16_copyOf_2 0 = .ok (.aload_n 0, 1) := dk_42 (dk_at dksJ16_copyOf_2_0 0 rfl rfl)
theorem dJ16_copyOf_2_1 : decode cJ16_copyOf_2 1 = .ok (.iload_n 1, 1) := dk_27 (dk_at dksJ16_copyOf_2_0 1 rfl rfl)
theorem dJ16_copyOf_2_2 : decode cJ16_copyOf_2 2 = .ok (.aload_n 0, 1) := dk_42 (dk_at dksJ16_copyOf_2_0 2 rfl rfl)
theorem dJ16_copyOf_2_3 : decode cJ16_copyOf_2 3 = .ok (.invokevirtual 86, 3) := dk_182 0 86 (dk_at dksJ16_copyOf_2_0 3 rfl rfl)
theorem dJ16_copyOf_2_6 : decode cJ16_copyOf_2 6 = .ok (.invokestatic 300, 3) := dk_184 1 44 (dk_at dksJ16_copyOf_2_0 6 rfl rfl)
theorem dJ16_copyOf_2_9 : decode cJ16_copyOf_2 9 = .ok (.areturn, 1) := dk_176 (dk_at dksJ16_copyOf_2_0 9 rfl rfl)
abbrev cJ16_copyOf_3 : ByteArray := prog_47_method_120_code
def yJ16_copyOf_3 : MethodName := ⟨RJ16, "copyOf", "([Ljava/lang/Object;ILjava/lang/Class;)[Ljava/lang/Object;"⟩
def dkwJ16_copyOf_3_1 : List UInt8 := [78, 42, 3, 45, 3, 42, 190, 27, 184, 1, 48, 184, 0, 150, 45, 176]
abbrev dktJ16_copyOf_3_1 : List UInt8 := dkwJ16_copyOf_3_1 ++ []
def dkwJ16_copyOf_3_0 : List UInt8 := [44, 18, 110, 166, 0, 10, 27, 189, 0, 2, 167, 0, 14, 44, 182, 0, 90, 27, 184, 0, 95, 192, 0, 110]
abbrev dktJ16_copyOf_3_0 : List UInt8 := dkwJ16_copyOf_3_0 ++ dktJ16_copyOf_3_1
theorem dksJ16_copyOf_3_0 : cJ16_copyOf_3.data.toList.drop 0 = dktJ16_copyOf_3_0 := by decide +kernel
theorem dksJ16_copyOf_3_1 : cJ16_copyOf_3.data.toList.drop 24 = dktJ16_copyOf_3_1 := dk_seg dksJ16_copyOf_3_0 24 rfl rfl
theorem dJ16_copyOf_3_0 : decode cJ16_copyOf_3 0 = .ok (.aload_n 2, 1) := dk_44 (dk_at dksJ16_copyOf_3_0 0 rfl rfl)
theorem dJ16_copyOf_3_1 : decode cJ16_copyOf_3 1 = .ok (.ldc 110, 2) := dk_18 110 (dk_at dksJ16_copyOf_3_0 1 rfl rfl)
theorem dJ16_copyOf_3_3 : decode cJ16_copyOf_3 3 = .ok (.if_acmp .ne 10, 3) := dk_166 0 10 (dk_at dksJ16_copyOf_3_0 3 rfl rfl)
theorem dJ16_copyOf_3_6 : decode cJ16_copyOf_3 6 = .ok (.iload_n 1, 1) := dk_27 (dk_at dksJ16_copyOf_3_0 6 rfl rfl)
theorem dJ16_copyOf_3_7 : decode cJ16_copyOf_3 7 = .ok (.anewarray 2, 3) := dk_189 0 2 (dk_at dksJ16_copyOf_3_0 7 rfl rfl)
theorem dJ16_copyOf_3_10 : decode cJ16_copyOf_3 10 = .ok (.goto 14, 3) := dk_167 0 14 (dk_at dksJ16_copyOf_3_0 10 rfl rfl)
theorem dJ16_copyOf_3_13 : decode cJ16_copyOf_3 13 = .ok (.aload_n 2, 1) := dk_44 (dk_at dksJ16_copyOf_3_0 13 rfl rfl)
theorem dJ16_copyOf_3_14 : decode cJ16_copyOf_3 14 = .ok (.invokevirtual 90, 3) := dk_182 0 90 (dk_at dksJ16_copyOf_3_0 14 rfl rfl)
theorem dJ16_copyOf_3_17 : decode cJ16_copyOf_3 17 = .ok (.iload_n 1, 1) := dk_27 (dk_at dksJ16_copyOf_3_0 17 rfl rfl)
theorem dJ16_copyOf_3_18 : decode cJ16_copyOf_3 18 = .ok (.invokestatic 95, 3) := dk_184 0 95 (dk_at dksJ16_copyOf_3_0 18 rfl rfl)
theorem dJ16_copyOf_3_21 : decode cJ16_copyOf_3 21 = .ok (.checkcast 110, 3) := dk_192 0 110 (dk_at dksJ16_copyOf_3_0 21 rfl rfl)
theorem dJ16_copyOf_3_24 : decode cJ16_copyOf_3 24 = .ok (.astore_n 3, 1) := dk_78 (dk_at dksJ16_copyOf_3_1 0 rfl rfl)
theorem dJ16_copyOf_3_25 : decode cJ16_copyOf_3 25 = .ok (.aload_n 0, 1) := dk_42 (dk_at dksJ16_copyOf_3_1 1 rfl rfl)
theorem dJ16_copyOf_3_26 : decode cJ16_copyOf_3 26 = .ok (.iconst 0, 1) := dk_3 (dk_at dksJ16_copyOf_3_1 2 rfl rfl)
theorem dJ16_copyOf_3_27 : decode cJ16_copyOf_3 27 = .ok (.aload_n 3, 1) := dk_45 (dk_at dksJ16_copyOf_3_1 3 rfl rfl)
theorem dJ16_copyOf_3_28 : decode cJ16_copyOf_3 28 = .ok (.iconst 0, 1) := dk_3 (dk_at dksJ16_copyOf_3_1 4 rfl rfl)
theorem dJ16_copyOf_3_29 : decode cJ16_copyOf_3 29 = .ok (.aload_n 0, 1) := dk_42 (dk_at dksJ16_copyOf_3_1 5 rfl rfl)
theorem dJ16_copyOf_3_30 : decode cJ16_copyOf_3 30 = .ok (.arraylength, 1) := dk_190 (dk_at dksJ16_copyOf_3_1 6 rfl rfl)
theorem dJ16_copyOf_3_31 : decode cJ16_copyOf_3 31 = .ok (.iload_n 1, 1) := dk_27 (dk_at dksJ16_copyOf_3_1 7 rfl rfl)
theorem dJ16_copyOf_3_32 : decode cJ16_copyOf_3 32 = .ok (.invokestatic 304, 3) := dk_184 1 48 (dk_at dksJ16_copyOf_3_1 8 rfl rfl)
theorem dJ16_copyOf_3_35 : decode cJ16_copyOf_3 35 = .ok (.invokestatic 150, 3) := dk_184 0 150 (dk_at dksJ16_copyOf_3_1 11 rfl rfl)
theorem dJ16_copyOf_3_38 : decode cJ16_copyOf_3 38 = .ok (.aload_n 3, 1) := dk_45 (dk_at dksJ16_copyOf_3_1 14 rfl rfl)
theorem dJ16_copyOf_3_39 : decode cJ16_copyOf_3 39 = .ok (.areturn, 1) := dk_176 (dk_at dksJ16_copyOf_3_1 15 rfl rfl)
theorem q135 : (Jvm.Cond.initialized "java/util/Arrays") ∈ lw_all := lw_g (lw_at lw_m1 24 rfl) rfl
theorem q684 : (Jvm.Cond.static ({ cls := "java/util/Arrays", name := "copyOf", desc := "([BI)[B" } : Jvm.MethodName)) ∈ lw_all := lw_g (lw_at lw_m3 93 rfl) rfl
theorem q685 : (Jvm.Cond.code ({ cls := "java/util/Arrays", name := "copyOf", desc := "([BI)[B" } : Jvm.MethodName) prog_47_method_121_code (3 : Nat) (Option.some (Jvm.ClassFile.FieldType.array Jvm.ClassFile.FieldType.byte))) ∈ lw_all := lw_g (lw_at lw_m3 94 rfl) rfl
theorem q686 : (Jvm.Cond.methodLink "java/util/Arrays" (310 : Nat) ({ cls := "[B", name := "clone", desc := "()Ljava/lang/Object;" } : Jvm.MethodName)) ∈ lw_all := lw_g (lw_at lw_m3 95 rfl) rfl
theorem q692 : (Jvm.Cond.classLink "java/util/Arrays" (311 : Nat) "[B") ∈ lw_all := lw_g (lw_at lw_m3 101 rfl) rfl
theorem q693 : (Jvm.Cond.methodLink "java/util/Arrays" (304 : Nat) ({ cls := "java/lang/Math", name := "min", desc := "(II)I" } : Jvm.MethodName)) ∈ lw_all := lw_g (lw_at lw_m3 102 rfl) rfl
theorem q694 : (Jvm.Cond.methodLink "java/util/Arrays" (150 : Nat) ({ cls := "java/lang/System", name := "arraycopy", desc := "(Ljava/lang/Object;ILjava/lang/Object;II)V" } : Jvm.MethodName)) ∈ lw_all := lw_g (lw_at lw_m3 103 rfl) rfl
theorem q758 : (Jvm.Cond.static ({ cls := "java/util/Arrays", name := "copyOfRange", desc := "([BII)[B" } : Jvm.MethodName)) ∈ lw_all := lw_g (lw_at lw_m3 167 rfl) rfl
theorem q759 : (Jvm.Cond.code ({ cls := "java/util/Arrays", name := "copyOfRange", desc := "([BII)[B" } : Jvm.MethodName) prog_47_method_132_code (3 : Nat) (Option.some (Jvm.ClassFile.FieldType.array Jvm.ClassFile.FieldType.byte))) ∈ lw_all := lw_g (lw_at lw_m3 168 rfl) rfl
theorem q760 : (Jvm.Cond.methodLink "java/util/Arrays" (339 : Nat) ({ cls := "java/util/Arrays", name := "copyOfRangeByte", desc := "([BII)[B" } : Jvm.MethodName)) ∈ lw_all := lw_g (lw_at lw_m3 169 rfl) rfl
theorem q761 : (Jvm.Cond.static ({ cls := "java/util/Arrays", name := "copyOfRangeByte", desc := "([BII)[B" } : Jvm.MethodName)) ∈ lw_all := lw_g (lw_at lw_m3 170 rfl) rfl
theorem q762 : (Jvm.Cond.code ({ cls := "java/util/Arrays", name := "copyOfRangeByte", desc := "([BII)[B" } : Jvm.MethodName) prog_47_method_133_code (5 : Nat) (Option.some (Jvm.ClassFile.FieldType.array Jvm.ClassFile.FieldType.byte))) ∈ lw_all := lw_g (lw_at lw_m3 171 rfl) rfl
theorem q763 : (Jvm.Cond.methodLink "java/util/Arrays" (343 : Nat) ({ cls := "java/util/Arrays", name := "checkLength", desc := "(II)V" } : Jvm.MethodName)) ∈ lw_all := lw_g (lw_at lw_m3 172 rfl) rfl
theorem q764 : (Jvm.Cond.static ({ cls := "java/util/Arrays", name := "checkLength", desc := "(II)V" } : Jvm.MethodName)) ∈ lw_all := lw_g (lw_at lw_m3 173 rfl) rfl
theorem q765 : (Jvm.Cond.code ({ cls := "java/util/Arrays", name := "checkLength", desc := "(II)V" } : Jvm.MethodName) prog_47_method_131_code (2 : Nat) (Option.none : Option Jvm.ClassFile.FieldType)) ∈ lw_all := lw_g (lw_at lw_m3 174 rfl) rfl
theorem q857 : (Jvm.Cond.static ({ cls := "java/util/Arrays", name := "copyOf", desc := "([Ljava/lang/Object;I)[Ljava/lang/Object;" } : Jvm.MethodName)) ∈ lw_all := lw_g (lw_at lw_m4 26 rfl) rfl
theorem q858 : (Jvm.Cond.code ({ cls := "java/util/Arrays", name := "copyOf", desc := "([Ljava/lang/Object;I)[Ljava/lang/Object;" } : Jvm.MethodName) prog_47_method_119_code (2 : Nat) (Option.some (Jvm.ClassFile.FieldType.array (Jvm.ClassFile.FieldType.object "java/lang/Object")))) ∈ lw_all := lw_g (lw_at lw_m4 27 rfl) rfl
theorem q859 : (Jvm.Cond.methodLink "java/util/Arrays" (86 : Nat) ({ cls := "java/lang/Object", name := "getClass", desc := "()Ljava/lang/Class;" } : Jvm.MethodName)) ∈ lw_all := lw_g (lw_at lw_m4 28 rfl) rfl
theorem q887 : (Jvm.Cond.methodLink "java/util/Arrays" (300 : Nat) ({ cls := "java/util/Arrays", name := "copyOf", desc := "([Ljava/lang/Object;ILjava/lang/Class;)[Ljava/lang/Object;" } : Jvm.MethodName)) ∈ lw_all := lw_g (lw_at lw_m4 56 rfl) rfl
theorem q888 : (Jvm.Cond.static ({ cls := "java/util/Arrays", name := "copyOf", desc := "([Ljava/lang/Object;ILjava/lang/Class;)[Ljava/lang/Object;" } : Jvm.MethodName)) ∈ lw_all := lw_g (lw_at lw_m4 57 rfl) rfl
theorem q889 : (Jvm.Cond.code ({ cls := "java/util/Arrays", name := "copyOf", desc := "([Ljava/lang/Object;ILjava/lang/Class;)[Ljava/lang/Object;" } : Jvm.MethodName) prog_47_method_120_code (4 : Nat) (Option.some (Jvm.ClassFile.FieldType.array (Jvm.ClassFile.FieldType.object "java/lang/Object")))) ∈ lw_all := lw_g (lw_at lw_m4 58 rfl) rfl
theorem q890 : (Jvm.Cond.classLink "java/util/Arrays" (110 : Nat) "[Ljava/lang/Object;") ∈ lw_all := lw_g (lw_at lw_m4 59 rfl) rfl
theorem q891 : (Jvm.Cond.classLink "java/util/Arrays" (2 : Nat) "java/lang/Object") ∈ lw_all := lw_g (lw_at lw_m4 60 rfl) rfl
/-! java/lang/Integer -/
set_option maxRecDepth 100000
def RJ17 : String := "java/lang/Integer"
abbrev cJ17_bitCount : ByteArray := prog_32_method_49_code
def yJ17_bitCount : MethodName := ⟨RJ17, "bitCount", "(I)I"⟩
def dkwJ17_bitCount_2 : List UInt8 := [26, 16, 63, 126, 172]
abbrev dktJ17_bitCount_2 : List UInt8 := dkwJ17_bitCount_2 ++ []
def dkwJ17_bitCount_1 : List UInt8 := [26, 26, 7, 124, 96, 19, 1, 11, 126, 59, 26, 26, 16, 8, 124, 96, 59, 26, 26, 16, 16, 124, 96, 59]
abbrev dktJ17_bitCount_1 : List UInt8 := dkwJ17_bitCount_1 ++ dktJ17_bitCount_2
def dkwJ17_bitCount_0 : List UInt8 := [26, 26, 4, 124, 19, 1, 9, 126, 100, 59, 26, 19, 1, 10, 126, 26, 5, 124, 19, 1, 10, 126, 96, 59]
abbrev dktJ17_bitCount_0 : List UInt8 := dkwJ17_bitCount_0 ++ dktJ17_bitCount_1
theorem dksJ17_bitCount_0 : cJ17_bitCount.data.toList.drop 0 = dktJ17_bitCount_0 := by decide +kernel
theorem dksJ17_bitCount_1 : cJ17_bitCount.data.toList.drop 24 = dktJ17_bitCount_1 := dk_seg dksJ17_bitCount_0 24 rfl rfl
theorem dksJ17_bitCount_2 : cJ17_bitCount.data.toList.drop 48 = dktJ17_bitCount_2 := dk_seg dksJ17_bitCount_1 24 rfl rfl
theorem dJ17_bitCount_0 : decode cJ17_bitCount 0 = .ok (.iload_n 0, 1) := dk_26 (dk_at dksJ17_bitCount_0 0 rfl rfl)
theorem dJ17_bitCount_1 : decode cJ17_bitCount 1 = .ok (.iload_n 0, 1) := dk_26 (dk_at dksJ17_bitCount_0 1 rfl rfl)
theorem dJ17_bitCount_2 : decode cJ17_bitCount 2 = .ok (.iconst 1, 1) := dk_4 (dk_at dksJ17_bitCount_0 2 rfl rfl)
theorem dJ17_bitCount_3 : decode cJ17_bitCount 3 = .ok (.iushr, 1) := dk_124 (dk_at dksJ17_bitCount_0 3 rfl rfl)
theorem dJ17_bitCount_4 : decode cJ17_bitCount 4 = .ok (.ldc_w 265, 3) := dk_19 1 9 (dk_at dksJ17_bitCount_0 4 rfl rfl)
theorem dJ17_bitCount_7 : decode cJ17_bitCount 7 = .ok (.iand, 1) := dk_126 (dk_at dksJ17_bitCount_0 7 rfl rfl)
theorem dJ17_bitCount_8 : decode cJ17_bitCount 8 = .ok (.isub, 1) := dk_100 (dk_at dksJ17_bitCount_0 8 rfl rfl)
theorem dJ17_bitCount_9 : decode cJ17_bitCount 9 = .ok (.istore_n 0, 1) := dk_59 (dk_at dksJ17_bitCount_0 9 rfl rfl)
theorem dJ17_bitCount_10 : decode cJ17_bitCount 10 = .ok (.iload_n 0, 1) := dk_26 (dk_at dksJ17_bitCount_0 10 rfl rfl)
theorem dJ17_bitCount_11 : decode cJ17_bitCount 11 = .ok (.ldc_w 266, 3) := dk_19 1 10 (dk_at dksJ17_bitCount_0 11 rfl rfl)
theorem dJ17_bitCount_14 : decode cJ17_bitCount 14 = .ok (.iand, 1) := dk_126 (dk_at dksJ17_bitCount_0 14 rfl rfl)
theorem dJ17_bitCount_15 : decode cJ17_bitCount 15 = .ok (.iload_n 0, 1) := dk_26 (dk_at dksJ17_bitCount_0 15 rfl rfl)
theorem dJ17_bitCount_16 : decode cJ17_bitCount 16 = .ok (.iconst 2, 1) := dk_5 (dk_at dksJ17_bitCount_0 16 rfl rfl)
theorem dJ17_bitCount_17 : decode cJ17_bitCount 17 = .ok (.iushr, 1) := dk_124 (dk_at dksJ17_bitCount_0 17 rfl rfl)
theorem dJ17_bitCount_18 : decode cJ17_bitCount 18 = .ok (.ldc_w 266, 3) := dk_19 1 10 (dk_at dksJ17_bitCount_0 18 rfl rfl)
theorem dJ17_bitCount_21 : decode cJ17_bitCount 21 = .ok (.iand, 1) := dk_126 (dk_at dksJ17_bitCount_0 21 rfl rfl)
theorem dJ17_bitCount_22 : decode cJ17_bitCount 22 = .ok (.iadd, 1) := dk_96 (dk_at dksJ17_bitCount_0 22 rfl rfl)
theorem dJ17_bitCount_23 : decode cJ17_bitCount 23 = .ok (.istore_n 0, 1) := dk_59 (dk_at dksJ17_bitCount_0 23 rfl rfl)
theorem dJ17_bitCount_24 : decode cJ17_bitCount 24 = .ok (.iload_n 0, 1) := dk_26 (dk_at dksJ17_bitCount_1 0 rfl rfl)
theorem dJ17_bitCount_25 : decode cJ17_bitCount 25 = .ok (.iload_n 0, 1) := dk_26 (dk_at dksJ17_bitCount_1 1 rfl rfl)
theorem dJ17_bitCount_26 : decode cJ17_bitCount 26 = .ok (.iconst 4, 1) := dk_7 (dk_at dksJ17_bitCount_1 2 rfl rfl)
theorem dJ17_bitCount_27 : decode cJ17_bitCount 27 = .ok (.iushr, 1) := dk_124 (dk_at dksJ17_bitCount_1 3 rfl rfl)
theorem dJ17_bitCount_28 : decode cJ17_bitCount 28 = .ok (.iadd, 1) := dk_96 (dk_at dksJ17_bitCount_1 4 rfl rfl)
theorem dJ17_bitCount_29 : decode cJ17_bitCount 29 = .ok (.ldc_w 267, 3) := dk_19 1 11 (dk_at dksJ17_bitCount_1 5 rfl rfl)
theorem dJ17_bitCount_32 : decode cJ17_bitCount 32 = .ok (.iand, 1) := dk_126 (dk_at dksJ17_bitCount_1 8 rfl rfl)
theorem dJ17_bitCount_33 : decode cJ17_bitCount 33 = .ok (.istore_n 0, 1) := dk_59 (dk_at dksJ17_bitCount_1 9 rfl rfl)
theorem dJ17_bitCount_34 : decode cJ17_bitCount 34 = .ok (.iload_n 0, 1) := dk_26 (dk_at dksJ17_bitCount_1 10 rfl rfl)
theorem dJ17_bitCount_35 : decode cJ17_bitCount 35 = .ok (.iload_n 0, 1) := dk_26 (dk_at dksJ17_bitCount_1 11 rfl rfl)
theorem dJ17_bitCount_36 : decode cJ17_bitCount 36 = .ok (.bipush 8, 2) := dk_16 8 (dk_at dksJ17_bitCount_1 12 rfl rfl)
theorem dJ17_bitCount_38 : decode cJ17_bitCount 38 = .ok (.iushr, 1) := dk_124 (dk_at dksJ17_bitCount_1 14 rfl rfl)
theorem dJ17_bitCount_39 : decode cJ17_bitCount 39 = .ok (.iadd, 1) := dk_96 (dk_at dksJ17_bitCount_1 15 rfl rfl)
theorem dJ17_bitCount_40 : decode cJ17_bitCount 40 = .ok (.istore_n 0, 1) := dk_59 (dk_at dksJ17_bitCount_1 16 rfl rfl)
theorem dJ17_bitCount_41 : decode cJ17_bitCount 41 = .ok (.iload_n 0, 1) := dk_26 (dk_at dksJ17_bitCount_1 17 rfl rfl)
theorem dJ17_bitCount_42 : decode cJ17_bitCount 42 = .ok (.iload_n 0, 1) := dk_26 (dk_at dksJ17_bitCount_1 18 rfl rfl)
theorem dJ17_bitCount_43 : decode cJ17_bitCount 43 = .ok (.bipush 16, 2) := dk_16 16 (dk_at dksJ17_bitCount_1 19 rfl rfl)
theorem dJ17_bitCount_45 : decode cJ17_bitCount 45 = .ok (.iushr, 1) := dk_124 (dk_at dksJ17_bitCount_1 21 rfl rfl)
theorem dJ17_bitCount_46 : decode cJ17_bitCount 46 = .ok (.iadd, 1) := dk_96 (dk_at dksJ17_bitCount_1 22 rfl rfl)
theorem dJ17_bitCount_47 : decode cJ17_bitCount 47 = .ok (.istore_n 0, 1) := dk_59 (dk_at dksJ17_bitCount_1 23 rfl rfl)
theorem dJ17_bitCount_48 : decode cJ17_bitCount 48 = .ok (.iload_n 0, 1) := dk_26 (dk_at dksJ17_bitCount_2 0 rfl rfl)
theorem dJ17_bitCount_49 : decode cJ17_bitCount 49 = .ok (.bipush 63, 2) := dk_16 63 (dk_at dksJ17_bitCount_2 1 rfl rfl)
theorem dJ17_bitCount_51 : decode cJ17_bitCount 51 = .ok (.iand, 1) := dk_126 (dk_at dksJ17_bitCount_2 3 rfl rfl)
theorem dJ17_bitCount_52 : decode cJ17_bitCount 52 = .ok (.ireturn, 1) := dk_172 (dk_at dksJ17_bitCount_2 4 rfl rfl)
abbrev cJ17_numberOfTrailingZeros : ByteArray := prog_32_method_48_code
def yJ17_numberOfTrailingZeros : MethodName := ⟨RJ17, "numberOfTrailingZeros", "(I)I"⟩
def dkwJ17_numberOfTrailingZeros_3 : List UInt8 := [5, 124, 59, 27, 26, 4, 124, 96, 172]
abbrev dktJ17_numberOfTrailingZeros_3 : List UInt8 := dkwJ17_numberOfTrailingZeros_3 ++ []
def dkwJ17_numberOfTrailingZeros_2 : List UInt8 := [124, 59, 26, 16, 16, 164, 0, 10, 132, 1, 4, 26, 7, 124, 59, 26, 7, 164, 0, 10, 132, 1, 2, 26]
abbrev dktJ17_numberOfTrailingZeros_2 : List UInt8 := dkwJ17_numberOfTrailingZeros_2 ++ dktJ17_numberOfTrailingZeros_3
def dkwJ17_numberOfTrailingZeros_1 : List UInt8 := [164, 0, 11, 132, 1, 16, 26, 16, 16, 124, 59, 26, 17, 1, 0, 164, 0, 11, 132, 1, 8, 26, 16, 8]
abbrev dktJ17_numberOfTrailingZeros_1 : List UInt8 := dkwJ17_numberOfTrailingZeros_1 ++ dktJ17_numberOfTrailingZeros_2
def dkwJ17_numberOfTrailingZeros_0 : List UInt8 := [26, 2, 130, 26, 4, 100, 126, 59, 26, 157, 0, 8, 26, 16, 32, 126, 172, 4, 60, 26, 19, 1, 8]
abbrev dktJ17_numberOfTrailingZeros_0 : List UInt8 := dkwJ17_numberOfTrailingZeros_0 ++ dktJ17_numberOfTrailingZeros_1
theorem dksJ17_numberOfTrailingZeros_0 : cJ17_numberOfTrailingZeros.data.toList.drop 0 = dktJ17_numberOfTrailingZeros_0 := by decide +kernel
theorem dksJ17_numberOfTrailingZeros_1 : cJ17_numberOfTrailingZeros.data.toList.drop 23 = dktJ17_numberOfTrailingZeros_1 := dk_seg dksJ17_numberOfTrailingZeros_0 23 rfl rfl
theorem dksJ17_numberOfTrailingZeros_2 : cJ17_numberOfTrailingZeros.data.toList.drop 47 = dktJ17_numberOfTrailingZeros_2 := dk_seg dksJ17_numberOfTrailingZeros_1 24 rfl rfl
theorem dksJ17_numberOfTrailingZeros_3 : cJ17_numberOfTrailingZeros.data.toList.drop 71 = dktJ17_numberOfTrailingZeros_3 := dk_seg dksJ17_numberOfTrailingZeros_2 24 rfl rfl
theorem dJ17_numberOfTrailingZeros_0 : decode cJ17_numberOfTrailingZeros 0 = .ok (.iload_n 0, 1) := dk_26 (dk_at dksJ17_numberOfTrailingZeros_0 0 rfl rfl)
theorem dJ17_numberOfTrailingZeros_1 : decode cJ17_numberOfTrailingZeros 1 = .ok (.iconst (-1), 1) := dk_2 (dk_at dksJ17_numberOfTrailingZeros_0 1 rfl rfl)
theorem dJ17_numberOfTrailingZeros_2 : decode cJ17_numberOfTrailingZeros 2 = .ok (.ixor, 1) := dk_130 (dk_at dksJ17_numberOfTrailingZeros_0 2 rfl rfl)
theorem dJ17_numberOfTrailingZeros_3 : decode cJ17_numberOfTrailingZeros 3 = .ok (.iload_n 0, 1) := dk_26 (dk_at dksJ17_numberOfTrailingZeros_0 3 rfl rfl)
theorem dJ17_numberOfTrailingZeros_4 : decode cJ17_numberOfTrailingZeros 4 = .ok (.iconst 1, 1) := dk_4 (dk_at dksJ17_numberOfTrailingZeros_0 4 rfl rfl)
theorem dJ17_numberOfTrailingZeros_5 : decode cJ17_numberOfTrailingZeros 5 = .ok (.isub, 1) := dk_100 (dk_at dksJ17_numberOfTrailingZeros_0 5 rfl rfl)
theorem dJ17_numberOfTrailingZeros_6 : decode cJ17_numberOfTrailingZeros 6 = .ok (.iand, 1) := dk_126 (dk_at dksJ17_numberOfTrailingZeros_0 6 rfl rfl)
theorem dJ17_numberOfTrailingZeros_7 : decode cJ17_numberOfTrailingZeros 7 = .ok (.istore_n 0, 1) := dk_59 (dk_at dksJ17_numberOfTrailingZeros_0 7 rfl rfl)
theorem dJ17_numberOfTrailingZeros_8 : decode cJ17_numberOfTrailingZeros 8 = .ok (.iload_n 0, 1) := dk_26 (dk_at dksJ17_numberOfTrailingZeros_0 8 rfl rfl)
theorem dJ17_numberOfTrailingZeros_9 : decode cJ17_numberOfTrailingZeros 9 = .ok (.ifCond .gt 8, 3) := dk_157 0 8 (dk_at dksJ17_numberOfTrailingZeros_0 9 rfl rfl)
theorem dJ17_numberOfTrailingZeros_12 : decode cJ17_numberOfTrailingZeros 12 = .ok (.iload_n 0, 1) := dk_26 (dk_at dksJ17_numberOfTrailingZeros_0 12 rfl rfl)
theorem dJ17_numberOfTrailingZeros_13 : decode cJ17_numberOfTrailingZeros 13 = .ok (.bipush 32, 2) := dk_16 32 (dk_at dksJ17_numberOfTrailingZeros_0 13 rfl rfl)
theorem dJ17_numberOfTrailingZeros_15 : decode cJ17_numberOfTrailingZeros 15 = .ok (.iand, 1) := dk_126 (dk_at dksJ17_numberOfTrailingZeros_0 15 rfl rfl)
theorem dJ17_numberOfTrailingZeros_16 : decode cJ17_numberOfTrailingZeros 16 = .ok (.ireturn, 1) := dk_172 (dk_at dksJ17_numberOfTrailingZeros_0 16 rfl rfl)
theorem dJ17_numberOfTrailingZeros_17 : decode cJ17_numberOfTrailingZeros 17 = .ok (.iconst 1, 1) := dk_4 (dk_at dksJ17_numberOfTrailingZeros_0 17 rfl rfl)
theorem dJ17_numberOfTrailingZeros_18 : decode cJ17_numberOfTrailingZeros 18 = .ok (.istore_n 1, 1) := dk_60 (dk_at dksJ17_numberOfTrailingZeros_0 18 rfl rfl)
theorem dJ17_numberOfTrailingZeros_19 : decode cJ17_numberOfTrailingZeros 19 = .ok (.iload_n 0, 1) := dk_26 (dk_at dksJ17_numberOfTrailingZeros_0 19 rfl rfl)
theorem dJ17_numberOfTrailingZeros_20 : decode cJ17_numberOfTrailingZeros 20 = .ok (.ldc_w 264, 3) := dk_19 1 8 (dk_at dksJ17_numberOfTrailingZeros_0 20 rfl rfl)
theorem dJ17_numberOfTrailingZeros_23 : decode cJ17_numberOfTrailingZeros 23 = .ok (.if_icmp .le 11, 3) := dk_164 0 11 (dk_at dksJ17_numberOfTrailingZeros_1 0 rfl rfl)
theorem dJ17_numberOfTrailingZeros_26 : decode cJ17_numberOfTrailingZeros 26 = .ok (.iinc 1 16, 3) := dk_132 1 16 (dk_at dksJ17_numberOfTrailingZeros_1 3 rfl rfl)
theorem dJ17_numberOfTrailingZeros_29 : decode cJ17_numberOfTrailingZeros 29 = .ok (.iload_n 0, 1) := dk_26 (dk_at dksJ17_numberOfTrailingZeros_1 6 rfl rfl)
theorem dJ17_numberOfTrailingZeros_30 : decode cJ17_numberOfTrailingZeros 30 = .ok (.bipush 16, 2) := dk_16 16 (dk_at dksJ17_numberOfTrailingZeros_1 7 rfl rfl)
theorem dJ17_numberOfTrailingZeros_32 : decode cJ17_numberOfTrailingZeros 32 = .ok (.iushr, 1) := dk_124 (dk_at dksJ17_numberOfTrailingZeros_1 9 rfl rfl)
theorem dJ17_numberOfTrailingZeros_33 : decode cJ17_numberOfTrailingZeros 33 = .ok (.istore_n 0, 1) := dk_59 (dk_at dksJ17_numberOfTrailingZeros_1 10 rfl rfl)
theorem dJ17_numberOfTrailingZeros_34 : decode cJ17_numberOfTrailingZeros 34 = .ok (.iload_n 0, 1) := dk_26 (dk_at dksJ17_numberOfTrailingZeros_1 11 rfl rfl)
theorem dJ17_numberOfTrailingZeros_35 : decode cJ17_numberOfTrailingZeros 35 = .ok (.sipush 256, 3) := dk_17 1 0 (dk_at dksJ17_numberOfTrailingZeros_1 12 rfl rfl)
theorem dJ17_numberOfTrailingZeros_38 : decode cJ17_numberOfTrailingZeros 38 = .ok (.if_icmp .le 11, 3) := dk_164 0 11 (dk_at dksJ17_numberOfTrailingZeros_1 15 rfl rfl)
theorem dJ17_numberOfTrailingZeros_41 : decode cJ17_numberOfTrailingZeros 41 = .ok (.iinc 1 8, 3) := dk_132 1 8 (dk_at dksJ17_numberOfTrailingZeros_1 18 rfl rfl)
theorem dJ17_numberOfTrailingZeros_44 : decode cJ17_numberOfTrailingZeros 44 = .ok (.iload_n 0, 1) := dk_26 (dk_at dksJ17_numberOfTrailingZeros_1 21 rfl rfl)
theorem dJ17_numberOfTrailingZeros_45 : decode cJ17_numberOfTrailingZeros 45 = .ok (.bipush 8, 2) := dk_16 8 (dk_at dksJ17_numberOfTrailingZeros_1 22 rfl rfl)
theorem dJ17_numberOfTrailingZeros_47 : decode cJ17_numberOfTrailingZeros 47 = .ok (.iushr, 1) := dk_124 (dk_at dksJ17_numberOfTrailingZeros_2 0 rfl rfl)
theorem dJ17_numberOfTrailingZeros_48 : decode cJ17_numberOfTrailingZeros 48 = .ok (.istore_n 0, 1) := dk_59 (dk_at dksJ17_numberOfTrailingZeros_2 1 rfl rfl)
theorem dJ17_numberOfTrailingZeros_49 : decode cJ17_numberOfTrailingZeros 49 = .ok (.iload_n 0, 1) := dk_26 (dk_at dksJ17_numberOfTrailingZeros_2 2 rfl rfl)
theorem dJ17_numberOfTrailingZeros_50 : decode cJ17_numberOfTrailingZeros 50 = .ok (.bipush 16, 2) := dk_16 16 (dk_at dksJ17_numberOfTrailingZeros_2 3 rfl rfl)
theorem dJ17_numberOfTrailingZeros_52 : decode cJ17_numberOfTrailingZeros 52 = .ok (.if_icmp .le 10, 3) := dk_164 0 10 (dk_at dksJ17_numberOfTrailingZeros_2 5 rfl rfl)
theorem dJ17_numberOfTrailingZeros_55 : decode cJ17_numberOfTrailingZeros 55 = .ok (.iinc 1 4, 3) := dk_132 1 4 (dk_at dksJ17_numberOfTrailingZeros_2 8 rfl rfl)
theorem dJ17_numberOfTrailingZeros_58 : decode cJ17_numberOfTrailingZeros 58 = .ok (.iload_n 0, 1) := dk_26 (dk_at dksJ17_numberOfTrailingZeros_2 11 rfl rfl)
theorem dJ17_numberOfTrailingZeros_59 : decode cJ17_numberOfTrailingZeros 59 = .ok (.iconst 4, 1) := dk_7 (dk_at dksJ17_numberOfTrailingZeros_2 12 rfl rfl)
theorem dJ17_numberOfTrailingZeros_60 : decode cJ17_numberOfTrailingZeros 60 = .ok (.iushr, 1) := dk_124 (dk_at dksJ17_numberOfTrailingZeros_2 13 rfl rfl)
theorem dJ17_numberOfTrailingZeros_61 : decode cJ17_numberOfTrailingZeros 61 = .ok (.istore_n 0, 1) := dk_59 (dk_at dksJ17_numberOfTrailingZeros_2 14 rfl rfl)
theorem dJ17_numberOfTrailingZeros_62 : decode cJ17_numberOfTrailingZeros 62 = .ok (.iload_n 0, 1) := dk_26 (dk_at dksJ17_numberOfTrailingZeros_2 15 rfl rfl)
theorem dJ17_numberOfTrailingZeros_63 : decode cJ17_numberOfTrailingZeros 63 = .ok (.iconst 4, 1) := dk_7 (dk_at dksJ17_numberOfTrailingZeros_2 16 rfl rfl)
theorem dJ17_numberOfTrailingZeros_64 : decode cJ17_numberOfTrailingZeros 64 = .ok (.if_icmp .le 10, 3) := dk_164 0 10 (dk_at dksJ17_numberOfTrailingZeros_2 17 rfl rfl)
theorem dJ17_numberOfTrailingZeros_67 : decode cJ17_numberOfTrailingZeros 67 = .ok (.iinc 1 2, 3) := dk_132 1 2 (dk_at dksJ17_numberOfTrailingZeros_2 20 rfl rfl)
theorem dJ17_numberOfTrailingZeros_70 : decode cJ17_numberOfTrailingZeros 70 = .ok (.iload_n 0, 1) := dk_26 (dk_at dksJ17_numberOfTrailingZeros_2 23 rfl rfl)
theorem dJ17_numberOfTrailingZeros_71 : decode cJ17_numberOfTrailingZeros 71 = .ok (.iconst 2, 1) := dk_5 (dk_at dksJ17_numberOfTrailingZeros_3 0 rfl rfl)
theorem dJ17_numberOfTrailingZeros_72 : decode cJ17_numberOfTrailingZeros 72 = .ok (.iushr, 1) := dk_124 (dk_at dksJ17_numberOfTrailingZeros_3 1 rfl rfl)
theorem dJ17_numberOfTrailingZeros_73 : decode cJ17_numberOfTrailingZeros 73 = .ok (.istore_n 0, 1) := dk_59 (dk_at dksJ17_numberOfTrailingZeros_3 2 rfl rfl)
theorem dJ17_numberOfTrailingZeros_74 : decode cJ17_numberOfTrailingZeros 74 = .ok (.iload_n 1, 1) := dk_27 (dk_at dksJ17_numberOfTrailingZeros_3 3 rfl rfl)
theorem dJ17_numberOfTrailingZeros_75 : decode cJ17_numberOfTrailingZeros 75 = .ok (.iload_n 0, 1) := dk_26 (dk_at dksJ17_numberOfTrailingZeros_3 4 rfl rfl)
theorem dJ17_numberOfTrailingZeros_76 : decode cJ17_numberOfTrailingZeros 76 = .ok (.iconst 1, 1) := dk_4 (dk_at dksJ17_numberOfTrailingZeros_3 5 rfl rfl)
theorem dJ17_numberOfTrailingZeros_77 : decode cJ17_numberOfTrailingZeros 77 = .ok (.iushr, 1) := dk_124 (dk_at dksJ17_numberOfTrailingZeros_3 6 rfl rfl)
theorem dJ17_numberOfTrailingZeros_78 : decode cJ17_numberOfTrailingZeros 78 = .ok (.iadd, 1) := dk_96 (dk_at dksJ17_numberOfTrailingZeros_3 7 rfl rfl)
theorem dJ17_numberOfTrailingZeros_79 : decode cJ17_numberOfTrailingZeros 79 = .ok (.ireturn, 1) := dk_172 (dk_at dksJ17_numberOfTrailingZeros_3 8 rfl rfl)
theorem q151 : (Jvm.Cond.initialized "java/lang/Integer") ∈ lw_all := lw_g (lw_at lw_m1 40 rfl) rfl
theorem q1243 : (Jvm.Cond.static ({ cls := "java/lang/Integer", name := "bitCount", desc := "(I)I" } : Jvm.MethodName)) ∈ lw_all := lw_g (lw_at lw_m5 172 rfl) rfl
theorem q1244 : (Jvm.Cond.code ({ cls := "java/lang/Integer", name := "bitCount", desc := "(I)I" } : Jvm.MethodName) prog_32_method_49_code (1 : Nat) (Option.some Jvm.ClassFile.FieldType.int)) ∈ lw_all := lw_g (lw_at lw_m5 173 rfl) rfl
theorem q1245 : (Jvm.Cond.constant "java/lang/Integer" (265 : Nat) (1431655765 : Int32)) ∈ lw_all := lw_g (lw_at lw_m5 174 rfl) rfl
theorem q1246 : (Jvm.Cond.constant "java/lang/Integer" (266 : Nat) (858993459 : Int32)) ∈ lw_all := lw_g (lw_at lw_m5 175 rfl) rfl
theorem q1247 : (Jvm.Cond.constant "java/lang/Integer" (267 : Nat) (252645135 : Int32)) ∈ lw_all := lw_g (lw_at lw_m5 176 rfl) rfl
theorem q1342 : (Jvm.Cond.static ({ cls := "java/lang/Integer", name := "numberOfTrailingZeros", desc := "(I)I" } : Jvm.MethodName)) ∈ lw_all := lw_g (lw_at lw_m6 31 rfl) rfl
theorem q1343 : (Jvm.Cond.code ({ cls := "java/lang/Integer", name := "numberOfTrailingZeros", desc := "(I)I" } : Jvm.MethodName) prog_32_method_48_code (2 : Nat) (Option.some Jvm.ClassFile.FieldType.int)) ∈ lw_all := lw_g (lw_at lw_m6 32 rfl) rfl
theorem q1344 : (Jvm.Cond.constant "java/lang/Integer" (264 : Nat) (65536 : Int32)) ∈ lw_all := lw_g (lw_at lw_m6 33 rfl) rfl
/-! java/util/NoSuchElementException -/
set_option maxRecDepth 100000
def RJ18 : String := "java/util/NoSuchElementException"
def TJ18 : u_T := fun k => match k with
  | 0 => ("java/lang/Throwable", "cause", "Ljava/lang/Throwable;", false)
  | 1 => ("java/lang/Throwable", "stackTrace", "[Ljava/lang/StackTraceElement;", false)
  | 2 => ("java/lang/Throwable", "suppressedExceptions", "Ljava/util/List;", false)
  | 3 => ("java/lang/Throwable", "detailMessage", "Ljava/lang/String;", false)
  | 4 => ("java/lang/Throwable", "backtrace", "Ljava/lang/Object;", false)
  | _ => ("java/lang/Throwable", "depth", "I", false)
def tyJ18 : Nat → FieldType := fun k => match k with
  | 0 => .object "java/lang/Throwable"
  | 1 => .array (.object "java/lang/StackTraceElement")
  | 2 => .object "java/util/List"
  | 3 => .object "java/lang/String"
  | 4 => .object "java/lang/Object"
  | _ => .int
abbrev wsJ180 : List Cond := u_ws RJ18 TJ18 6
theorem nmJ18 : ∀ a, a < 6 → ∀ b, b < 6 → a ≠ b → (TJ18 a).2.1 ≠ (TJ18 b).2.1 := by decide +kernel
theorem tyJ18_ok : ∀ k, k < 6 → parseFieldDescriptor (TJ18 k).2.2.1 = some (tyJ18 k) := by decide +kernel
abbrev cJ18_init : ByteArray := prog_50_method_1_code
def yJ18_init : MethodName := ⟨RJ18, "<init>", "()V"⟩
theorem dJ18_init_0 : decode cJ18_init 0 = .ok (.aload_n 0, 1) := by decide +kernel
theorem dJ18_init_1 : decode cJ18_init 1 = .ok (.invokespecial 1, 3) := by decide +kernel
theorem dJ18_init_4 : decode cJ18_init 4 = .ok (.return_, 1) := by decide +kernel
theorem q152 : (Jvm.Cond.initialized "java/util/NoSuchElementException") ∈ lw_all := lw_g (lw_at lw_m1 41 rfl) rfl
theorem q577 : (Jvm.Cond.selects "java/util/NoSuchElementException" ({ cls := "java/lang/Throwable", name := "fillInStackTrace", desc := "()Ljava/lang/Throwable;" } : Jvm.MethodName) ({ cls := "java/lang/Throwable", name := "fillInStackTrace", desc := "()Ljava/lang/Throwable;" } : Jvm.MethodName)) ∈ lw_all := lw_g (lw_at lw_m2 226 rfl) rfl
theorem q885 : (Jvm.Cond.selects "java/util/NoSuchElementException" ({ cls := "java/lang/Object", name := "getClass", desc := "()Ljava/lang/Class;" } : Jvm.MethodName) ({ cls := "java/lang/Object", name := "getClass", desc := "()Ljava/lang/Class;" } : Jvm.MethodName)) ∈ lw_all := lw_g (lw_at lw_m4 54 rfl) rfl
theorem q1495 : (Jvm.Cond.instantiable "java/util/NoSuchElementException" (6 : Nat)) ∈ lw_all := lw_g (lw_at lw_m6 184 rfl) rfl
theorem q1496 : (Jvm.Cond.castable "java/util/NoSuchElementException" "java/util/NoSuchElementException") ∈ lw_tbl := lw_at lw_m6 185 rfl
theorem q1497 : (Jvm.Cond.selects "java/util/NoSuchElementException" ({ cls := "java/lang/Throwable", name := "fillInStackTrace", desc := "(I)Ljava/lang/Throwable;" } : Jvm.MethodName) ({ cls := "java/lang/Throwable", name := "fillInStackTrace", desc := "(I)Ljava/lang/Throwable;" } : Jvm.MethodName)) ∈ lw_all := lw_g (lw_at lw_m6 186 rfl) rfl
theorem q1498 : (Jvm.Cond.lays "java/util/NoSuchElementException" "java/lang/Throwable" "cause" "Ljava/lang/Throwable;") ∈ lw_all := lw_g (lw_at lw_m6 187 rfl) rfl
theorem q1499 : (Jvm.Cond.lays "java/util/NoSuchElementException" "java/lang/Throwable" "stackTrace" "[Ljava/lang/StackTraceElement;") ∈ lw_all := lw_g (lw_at lw_m6 188 rfl) rfl
theorem q1500 : (Jvm.Cond.lays "java/util/NoSuchElementException" "java/lang/Throwable" "suppressedExceptions" "Ljava/util/List;") ∈ lw_all := lw_g (lw_at lw_m6 189 rfl) rfl
theorem q1501 : (Jvm.Cond.lays "java/util/NoSuchElementException" "java/lang/Throwable" "detailMessage" "Ljava/lang/String;") ∈ lw_all := lw_g (lw_at lw_m6 190 rfl) rfl
theorem q1502 : (Jvm.Cond.lays "java/util/NoSuchElementException" "java/lang/Throwable" "backtrace" "Ljava/lang/Object;") ∈ lw_all := lw_g (lw_at lw_m6 191 rfl) rfl
theorem q1504 : (Jvm.Cond.instanceMethod ({ cls := "java/util/NoSuchElementException", name := "<init>", desc := "()V" } : Jvm.MethodName)) ∈ lw_all := lw_g (lw_at lw_m6 193 rfl) rfl
theorem q1505 : (Jvm.Cond.code ({ cls := "java/util/NoSuchElementException", name := "<init>", desc := "()V" } : Jvm.MethodName) prog_50_method_1_code (1 : Nat) (Option.none : Option Jvm.ClassFile.FieldType)) ∈ lw_all := lw_g (lw_at lw_m6 194 rfl) rfl
theorem q1506 : (Jvm.Cond.methodLink "java/util/NoSuchElementException" (1 : Nat) ({ cls := "java/lang/RuntimeException", name := "<init>", desc := "()V" } : Jvm.MethodName)) ∈ lw_all := lw_g (lw_at lw_m6 195 rfl) rfl
theorem q1513 : (Jvm.Cond.lays "java/util/NoSuchElementException" "java/lang/Throwable" "depth" "I") ∈ lw_all := lw_g (lw_at lw_m6 202 rfl) rfl
theorem q1514 : (Jvm.Cond.superclass "java/util/NoSuchElementException" "java/lang/RuntimeException") ∈ lw_all := lw_g (lw_at lw_m6 203 rfl) rfl
theorem q2109 : (Jvm.Cond.castable "java/util/NoSuchElementException" "java/lang/Object") ∈ lw_tbl := lw_at lw_m9 78 rfl
theorem in_J18 : ∀ w ∈ wsJ180, w ∈ lw_all := lw_in wsJ180 [1498, 1499, 1500, 1501, 1502, 1513] (by decide +kernel) (by decide +kernel)
/-! java/lang/Object -/
set_option maxRecDepth 100000
def RJ19 : String := "java/lang/Object"
abbrev cJ19_init : ByteArray := object_method_1_code
def yJ19_init : MethodName := ⟨RJ19, "<init>", "()V"⟩
theorem dJ19_init_0 : decode cJ19_init 0 = .ok (.return_, 1) := by decide +kernel
theorem q160 : (Jvm.Cond.instanceMethod ({ cls := "java/lang/Object", name := "<init>", desc := "()V" } : Jvm.MethodName)) ∈ lw_all := lw_g (lw_at lw_m1 49 rfl) rfl
theorem q161 : (Jvm.Cond.code ({ cls := "java/lang/Object", name := "<init>", desc := "()V" } : Jvm.MethodName) object_method_1_code (1 : Nat) (Option.none : Option Jvm.ClassFile.FieldType)) ∈ lw_all := lw_g (lw_at lw_m1 50 rfl) rfl
theorem q688 : (Jvm.Cond.native ({ cls := "java/lang/Object", name := "clone", desc := "()Ljava/lang/Object;" } : Jvm.MethodName)) ∈ lw_all := lw_g (lw_at lw_m3 97 rfl) rfl
theorem q689 : (Jvm.Cond.instanceMethod ({ cls := "java/lang/Object", name := "clone", desc := "()Ljava/lang/Object;" } : Jvm.MethodName)) ∈ lw_all := lw_g (lw_at lw_m3 98 rfl) rfl
theorem q860 : (Jvm.Cond.instanceMethod ({ cls := "java/lang/Object", name := "getClass", desc := "()Ljava/lang/Class;" } : Jvm.MethodName)) ∈ lw_all := lw_g (lw_at lw_m4 29 rfl) rfl
theorem q861 : (Jvm.Cond.sameMethod "java/lang/Object" "java/lang/Object" "getClass" "()Ljava/lang/Class;") ∈ lw_all := lw_g (lw_at lw_m4 30 rfl) rfl
theorem q886 : (Jvm.Cond.native ({ cls := "java/lang/Object", name := "getClass", desc := "()Ljava/lang/Class;" } : Jvm.MethodName)) ∈ lw_all := lw_g (lw_at lw_m4 55 rfl) rfl
theorem q2078 : (Jvm.Cond.initialized "java/lang/Object") ∈ lw_all := lw_g (lw_at lw_m9 47 rfl) rfl
theorem q2113 : (Jvm.Cond.declares ({ cls := "java/lang/Object", name := "getClass", desc := "()Ljava/lang/Class;" } : Jvm.MethodName)) ∈ lw_tbl := lw_at lw_m9 82 rfl
/-! java/util/ArrayList -/
set_option maxRecDepth 100000
def RJ2 : String := "java/util/ArrayList"
def TJ2 : u_T := fun k => match k with
  | 0 => ("java/util/AbstractList", "modCount", "I", false)
  | 1 => ("java/util/ArrayList", "elementData", "[Ljava/lang/Object;", false)
  | _ => ("java/util/ArrayList", "size", "I", false)
def tyJ2 : Nat → FieldType := fun k => match k with
  | 0 => .int
  | 1 => .array (.object "java/lang/Object")
  | _ => .int
abbrev wsJ20 : List Cond := u_ws RJ2 TJ2 3
theorem nmJ2 : ∀ a, a < 3 → ∀ b, b < 3 → a ≠ b → (TJ2 a).2.1 ≠ (TJ2 b).2.1 := by decide +kernel
theorem tyJ2_ok : ∀ k, k < 3 → parseFieldDescriptor (TJ2 k).2.2.1 = some (tyJ2 k) := by decide +kernel
abbrev cJ2_init : ByteArray := prog_46_method_1_code
def yJ2_init : MethodName := ⟨RJ2, "<init>", "(I)V"⟩
def dkwJ2_init_2 : List UInt8 := [182, 0, 25, 27, 182, 0, 29, 182, 0, 32, 183, 0, 36, 191, 177]
abbrev dktJ2_init_2 : List UInt8 := dkwJ2_init_2 ++ []
def dkwJ2_init_1 : List UInt8 := [178, 0, 15, 181, 0, 9, 167, 0, 30, 187, 0, 18, 89, 187, 0, 20, 89, 183, 0, 22, 18, 23]
abbrev dktJ2_init_1 : List UInt8 := dkwJ2_init_1 ++ dktJ2_init_2
def dkwJ2_init_0 : List UInt8 := [42, 183, 0, 1, 27, 158, 0, 14, 42, 27, 189, 0, 7, 181, 0, 9, 167, 0, 44, 27, 154, 0, 13, 42]
abbrev dktJ2_init_0 : List UInt8 := dkwJ2_init_0 ++ dktJ2_init_1
theorem dksJ2_init_0 : cJ2_init.data.toList.drop 0 = dktJ2_init_0 := by decide +kernel
theorem dksJ2_init_1 : cJ2_init.data.toList.drop 24 = dktJ2_init_1 := dk_seg dksJ2_init_0 24 rfl rfl
theorem dksJ2_init_2 : cJ2_init.data.toList.drop 46 = dktJ2_init_2 := dk_seg dksJ2_init_1 22 rfl rfl
theorem dJ2_init_0 : decode cJ2_init 0 = .ok (.aload_n 0, 1) := dk_42 (dk_at dksJ2_init_0 0 rfl rfl)
theorem dJ2_init_1 : decode cJ2_init 1 = .ok (.invokespecial 1, 3) := dk_183 0 1 (dk_at dksJ2_init_0 1 rfl rfl)
theorem dJ2_init_4 : decode cJ2_init 4 = .ok (.iload_n 1, 1) := dk_27 (dk_at dksJ2_init_0 4 rfl rfl)
theorem dJ2_init_5 : decode cJ2_init 5 = .ok (.ifCond .le 14, 3) := dk_158 0 14 (dk_at dksJ2_init_0 5 rfl rfl)
theorem dJ2_init_8 : decode cJ2_init 8 = .ok (.aload_n 0, 1) := dk_42 (dk_at dksJ2_init_0 8 rfl rfl)
theorem dJ2_init_9 : decode cJ2_init 9 = .ok (.iload_n 1, 1) := dk_27 (dk_at dksJ2_init_0 9 rfl rfl)
theorem dJ2_init_10 : decode cJ2_init 10 = .ok (.anewarray 7, 3) := dk_189 0 7 (dk_at dksJ2_init_0 10 rfl rfl)
theorem dJ2_init_13 : decode cJ2_init 13 = .ok (.putfield 9, 3) := dk_181 0 9 (dk_at dksJ2_init_0 13 rfl rfl)
theorem dJ2_init_16 : decode cJ2_init 16 = .ok (.goto 44, 3) := dk_167 0 44 (dk_at dksJ2_init_0 16 rfl rfl)
theorem dJ2_init_19 : decode cJ2_init 19 = .ok (.iload_n 1, 1) := dk_27 (dk_at dksJ2_init_0 19 rfl rfl)
theorem dJ2_init_20 : decode cJ2_init 20 = .ok (.ifCond .ne 13, 3) := dk_154 0 13 (dk_at dksJ2_init_0 20 rfl rfl)
theorem dJ2_init_23 : decode cJ2_init 23 = .ok (.aload_n 0, 1) := dk_42 (dk_at dksJ2_init_0 23 rfl rfl)
theorem dJ2_init_24 : decode cJ2_init 24 = .ok (.getstatic 15, 3) := dk_178 0 15 (dk_at dksJ2_init_1 0 rfl rfl)
theorem dJ2_init_27 : decode cJ2_init 27 = .ok (.putfield 9, 3) := dk_181 0 9 (dk_at dksJ2_init_1 3 rfl rfl)
theorem dJ2_init_30 : decode cJ2_init 30 = .ok (.goto 30, 3) := dk_167 0 30 (dk_at dksJ2_init_1 6 rfl rfl)
theorem dJ2_init_33 : decode cJ2_init 33 = .ok (.new 18, 3) := dk_187 0 18 (dk_at dksJ2_init_1 9 rfl rfl)
theorem dJ2_init_36 : decode cJ2_init 36 = .ok (.dup, 1) := dk_89 (dk_at dksJ2_init_1 12 rfl rfl)
theorem dJ2_init_37 : decode cJ2_init 37 = .ok (.new 20, 3) := dk_187 0 20 (dk_at dksJ2_init_1 13 rfl rfl)
theorem dJ2_init_40 : decode cJ2_init 40 = .ok (.dup, 1) := dk_89 (dk_at dksJ2_init_1 16 rfl rfl)
theorem dJ2_init_41 : decode cJ2_init 41 = .ok (.invokespecial 22, 3) := dk_183 0 22 (dk_at dksJ2_init_1 17 rfl rfl)
theorem dJ2_init_44 : decode cJ2_init 44 = .ok (.ldc 23, 2) := dk_18 23 (dk_at dksJ2_init_1 20 rfl rfl)
theorem dJ2_init_46 : decode cJ2_init 46 = .ok (.invokevirtual 25, 3) := dk_182 0 25 (dk_at dksJ2_init_2 0 rfl rfl)
theorem dJ2_init_49 : decode cJ2_init 49 = .ok (.iload_n 1, 1) := dk_27 (dk_at dksJ2_init_2 3 rfl rfl)
theorem dJ2_init_50 : decode cJ2_init 50 = .ok (.invokevirtual 29, 3) := dk_182 0 29 (dk_at dksJ2_init_2 4 rfl rfl)
theorem dJ2_init_53 : decode cJ2_init 53 = .ok (.invokevirtual 32, 3) := dk_182 0 32 (dk_at dksJ2_init_2 7 rfl rfl)
theorem dJ2_init_56 : decode cJ2_init 56 = .ok (.invokespecial 36, 3) := dk_183 0 36 (dk_at dksJ2_init_2 10 rfl rfl)
theorem dJ2_init_59 : decode cJ2_init 59 = .ok (.athrow, 1) := dk_191 (dk_at dksJ2_init_2 13 rfl rfl)
theorem dJ2_init_60 : decode cJ2_init 60 = .ok (.return_, 1) := dk_177 (dk_at dksJ2_init_2 14 rfl rfl)
abbrev cJ2_size : ByteArray := prog_46_method_8_code
def yJ2_size : MethodName := ⟨RJ2, "size", "()I"⟩
theorem dJ2_size_0 : decode cJ2_size 0 = .ok (.aload_n 0, 1) := by decide +kernel
theorem dJ2_size_1 : decode cJ2_size 1 = .ok (.getfield 48, 3) := by decide +kernel
theorem dJ2_size_4 : decode cJ2_size 4 = .ok (.ireturn, 1) := by decide +kernel
abbrev cJ2_get : ByteArray := prog_46_method_20_code
def yJ2_get : MethodName := ⟨RJ2, "get", "(I)Ljava/lang/Object;"⟩
def dkwJ2_get_0 : List UInt8 := [27, 42, 180, 0, 48, 184, 0, 118, 87, 42, 27, 182, 0, 123, 176]
abbrev dktJ2_get_0 : List UInt8 := dkwJ2_get_0 ++ []
theorem dksJ2_get_0 : cJ2_get.data.toList.drop 0 = dktJ2_get_0 := by decide +kernel
theorem dJ2_get_0 : decode cJ2_get 0 = .ok (.iload_n 1, 1) := dk_27 (dk_at dksJ2_get_0 0 rfl rfl)
theorem dJ2_get_1 : decode cJ2_get 1 = .ok (.aload_n 0, 1) := dk_42 (dk_at dksJ2_get_0 1 rfl rfl)
theorem dJ2_get_2 : decode cJ2_get 2 = .ok (.getfield 48, 3) := dk_180 0 48 (dk_at dksJ2_get_0 2 rfl rfl)
theorem dJ2_get_5 : decode cJ2_get 5 = .ok (.invokestatic 118, 3) := dk_184 0 118 (dk_at dksJ2_get_0 5 rfl rfl)
theorem dJ2_get_8 : decode cJ2_get 8 = .ok (.pop, 1) := dk_87 (dk_at dksJ2_get_0 8 rfl rfl)
theorem dJ2_get_9 : decode cJ2_get 9 = .ok (.aload_n 0, 1) := dk_42 (dk_at dksJ2_get_0 9 rfl rfl)
theorem dJ2_get_10 : decode cJ2_get 10 = .ok (.iload_n 1, 1) := dk_27 (dk_at dksJ2_get_0 10 rfl rfl)
theorem dJ2_get_11 : decode cJ2_get 11 = .ok (.invokevirtual 123, 3) := dk_182 0 123 (dk_at dksJ2_get_0 11 rfl rfl)
theorem dJ2_get_14 : decode cJ2_get 14 = .ok (.areturn, 1) := dk_176 (dk_at dksJ2_get_0 14 rfl rfl)
abbrev cJ2_elementData : ByteArray := prog_46_method_18_code
def yJ2_elementData : MethodName := ⟨RJ2, "elementData", "(I)Ljava/lang/Object;"⟩
def dkwJ2_elementData_0 : List UInt8 := [42, 180, 0, 9, 27, 50, 176]
abbrev dktJ2_elementData_0 : List UInt8 := dkwJ2_elementData_0 ++ []
theorem dksJ2_elementData_0 : cJ2_elementData.data.toList.drop 0 = dktJ2_elementData_0 := by decide +kernel
theorem dJ2_elementData_0 : decode cJ2_elementData 0 = .ok (.aload_n 0, 1) := dk_42 (dk_at dksJ2_elementData_0 0 rfl rfl)
theorem dJ2_elementData_1 : decode cJ2_elementData 1 = .ok (.getfield 9, 3) := dk_180 0 9 (dk_at dksJ2_elementData_0 1 rfl rfl)
theorem dJ2_elementData_4 : decode cJ2_elementData 4 = .ok (.iload_n 1, 1) := dk_27 (dk_at dksJ2_elementData_0 4 rfl rfl)
theorem dJ2_elementData_5 : decode cJ2_elementData 5 = .ok (.aaload, 1) := dk_50 (dk_at dksJ2_elementData_0 5 rfl rfl)
theorem dJ2_elementData_6 : decode cJ2_elementData 6 = .ok (.areturn, 1) := dk_176 (dk_at dksJ2_elementData_0 6 rfl rfl)
abbrev cJ2_add : ByteArray := prog_46_method_25_code
def yJ2_add : MethodName := ⟨RJ2, "add", "(Ljava/lang/Object;)Z"⟩
def dkwJ2_add_1 : List UInt8 := [172]
abbrev dktJ2_add_1 : List UInt8 := dkwJ2_add_1 ++ []
def dkwJ2_add_0 : List UInt8 := [42, 89, 180, 0, 63, 4, 96, 181, 0, 63, 42, 43, 42, 180, 0, 9, 42, 180, 0, 48, 182, 0, 131, 4]
abbrev dktJ2_add_0 : List UInt8 := dkwJ2_add_0 ++ dktJ2_add_1
theorem dksJ2_add_0 : cJ2_add.data.toList.drop 0 = dktJ2_add_0 := by decide +kernel
theorem dksJ2_add_1 : cJ2_add.data.toList.drop 24 = dktJ2_add_1 := dk_seg dksJ2_add_0 24 rfl rfl
theorem dJ2_add_0 : decode cJ2_add 0 = .ok (.aload_n 0, 1) := dk_42 (dk_at dksJ2_add_0 0 rfl rfl)
theorem dJ2_add_1 : decode cJ2_add 1 = .ok (.dup, 1) := dk_89 (dk_at dksJ2_add_0 1 rfl rfl)
theorem dJ2_add_2 : decode cJ2_add 2 = .ok (.getfield 63, 3) := dk_180 0 63 (dk_at dksJ2_add_0 2 rfl rfl)
theorem dJ2_add_5 : decode cJ2_add 5 = .ok (.iconst 1, 1) := dk_4 (dk_at dksJ2_add_0 5 rfl rfl)
theorem dJ2_add_6 : decode cJ2_add 6 = .ok (.iadd, 1) := dk_96 (dk_at dksJ2_add_0 6 rfl rfl)
theorem dJ2_add_7 : decode cJ2_add 7 = .ok (.putfield 63, 3) := dk_181 0 63 (dk_at dksJ2_add_0 7 rfl rfl)
theorem dJ2_add_10 : decode cJ2_add 10 = .ok (.aload_n 0, 1) := dk_42 (dk_at dksJ2_add_0 10 rfl rfl)
theorem dJ2_add_11 : decode cJ2_add 11 = .ok (.aload_n 1, 1) := dk_43 (dk_at dksJ2_add_0 11 rfl rfl)
theorem dJ2_add_12 : decode cJ2_add 12 = .ok (.aload_n 0, 1) := dk_42 (dk_at dksJ2_add_0 12 rfl rfl)
theorem dJ2_add_13 : decode cJ2_add 13 = .ok (.getfield 9, 3) := dk_180 0 9 (dk_at dksJ2_add_0 13 rfl rfl)
theorem dJ2_add_16 : decode cJ2_add 16 = .ok (.aload_n 0, 1) := dk_42 (dk_at dksJ2_add_0 16 rfl rfl)
theorem dJ2_add_17 : decode cJ2_add 17 = .ok (.getfield 48, 3) := dk_180 0 48 (dk_at dksJ2_add_0 17 rfl rfl)
theorem dJ2_add_20 : decode cJ2_add 20 = .ok (.invokevirtual 131, 3) := dk_182 0 131 (dk_at dksJ2_add_0 20 rfl rfl)
theorem dJ2_add_23 : decode cJ2_add 23 = .ok (.iconst 1, 1) := dk_4 (dk_at dksJ2_add_0 23 rfl rfl)
theorem dJ2_add_24 : decode cJ2_add 24 = .ok (.ireturn, 1) := dk_172 (dk_at dksJ2_add_1 0 rfl rfl)
abbrev cJ2_add_2 : ByteArray := prog_46_method_24_code
def yJ2_add_2 : MethodName := ⟨RJ2, "add", "(Ljava/lang/Object;[Ljava/lang/Object;I)V"⟩
def dkwJ2_add_2_0 : List UInt8 := [29, 44, 190, 160, 0, 8, 42, 182, 0, 129, 77, 44, 29, 43, 83, 42, 29, 4, 96, 181, 0, 48, 177]
abbrev dktJ2_add_2_0 : List UInt8 := dkwJ2_add_2_0 ++ []
theorem dksJ2_add_2_0 : cJ2_add_2.data.toList.drop 0 = dktJ2_add_2_0 := by decide +kernel
theorem dJ2_add_2_0 : decode cJ2_add_2 0 = .ok (.iload_n 3, 1) := dk_29 (dk_at dksJ2_add_2_0 0 rfl rfl)
theorem dJ2_add_2_1 : decode cJ2_add_2 1 = .ok (.aload_n 2, 1) := dk_44 (dk_at dksJ2_add_2_0 1 rfl rfl)
theorem dJ2_add_2_2 : decode cJ2_add_2 2 = .ok (.arraylength, 1) := dk_190 (dk_at dksJ2_add_2_0 2 rfl rfl)
theorem dJ2_add_2_3 : decode cJ2_add_2 3 = .ok (.if_icmp .ne 8, 3) := dk_160 0 8 (dk_at dksJ2_add_2_0 3 rfl rfl)
theorem dJ2_add_2_6 : decode cJ2_add_2 6 = .ok (.aload_n 0, 1) := dk_42 (dk_at dksJ2_add_2_0 6 rfl rfl)
theorem dJ2_add_2_7 : decode cJ2_add_2 7 = .ok (.invokevirtual 129, 3) := dk_182 0 129 (dk_at dksJ2_add_2_0 7 rfl rfl)
theorem dJ2_add_2_10 : decode cJ2_add_2 10 = .ok (.astore_n 2, 1) := dk_77 (dk_at dksJ2_add_2_0 10 rfl rfl)
theorem dJ2_add_2_11 : decode cJ2_add_2 11 = .ok (.aload_n 2, 1) := dk_44 (dk_at dksJ2_add_2_0 11 rfl rfl)
theorem dJ2_add_2_12 : decode cJ2_add_2 12 = .ok (.iload_n 3, 1) := dk_29 (dk_at dksJ2_add_2_0 12 rfl rfl)
theorem dJ2_add_2_13 : decode cJ2_add_2 13 = .ok (.aload_n 1, 1) := dk_43 (dk_at dksJ2_add_2_0 13 rfl rfl)
theorem dJ2_add_2_14 : decode cJ2_add_2 14 = .ok (.aastore, 1) := dk_83 (dk_at dksJ2_add_2_0 14 rfl rfl)
theorem dJ2_add_2_15 : decode cJ2_add_2 15 = .ok (.aload_n 0, 1) := dk_42 (dk_at dksJ2_add_2_0 15 rfl rfl)
theorem dJ2_add_2_16 : decode cJ2_add_2 16 = .ok (.iload_n 3, 1) := dk_29 (dk_at dksJ2_add_2_0 16 rfl rfl)
theorem dJ2_add_2_17 : decode cJ2_add_2 17 = .ok (.iconst 1, 1) := dk_4 (dk_at dksJ2_add_2_0 17 rfl rfl)
theorem dJ2_add_2_18 : decode cJ2_add_2 18 = .ok (.iadd, 1) := dk_96 (dk_at dksJ2_add_2_0 18 rfl rfl)
theorem dJ2_add_2_19 : decode cJ2_add_2 19 = .ok (.putfield 48, 3) := dk_181 0 48 (dk_at dksJ2_add_2_0 19 rfl rfl)
theorem dJ2_add_2_22 : decode cJ2_add_2 22 = .ok (.return_, 1) := dk_177 (dk_at dksJ2_add_2_0 22 rfl rfl)
abbrev cJ2_grow : ByteArray := prog_46_method_7_code
def yJ2_grow : MethodName := ⟨RJ2, "grow", "()[Ljava/lang/Object;"⟩
def dkwJ2_grow_0 : List UInt8 := [42, 42, 180, 0, 48, 4, 96, 182, 0, 69, 176]
abbrev dktJ2_grow_0 : List UInt8 := dkwJ2_grow_0 ++ []
theorem dksJ2_grow_0 : cJ2_grow.data.toList.drop 0 = dktJ2_grow_0 := by decide +kernel
theorem dJ2_grow_0 : decode cJ2_grow 0 = .ok (.aload_n 0, 1) := dk_42 (dk_at dksJ2_grow_0 0 rfl rfl)
theorem dJ2_grow_1 : decode cJ2_grow 1 = .ok (.aload_n 0, 1) := dk_42 (dk_at dksJ2_grow_0 1 rfl rfl)
theorem dJ2_grow_2 : decode cJ2_grow 2 = .ok (.getfield 48, 3) := dk_180 0 48 (dk_at dksJ2_grow_0 2 rfl rfl)
theorem dJ2_grow_5 : decode cJ2_grow 5 = .ok (.iconst 1, 1) := dk_4 (dk_at dksJ2_grow_0 5 rfl rfl)
theorem dJ2_grow_6 : decode cJ2_grow 6 = .ok (.iadd, 1) := dk_96 (dk_at dksJ2_grow_0 6 rfl rfl)
theorem dJ2_grow_7 : decode cJ2_grow 7 = .ok (.invokevirtual 69, 3) := dk_182 0 69 (dk_at dksJ2_grow_0 7 rfl rfl)
theorem dJ2_grow_10 : decode cJ2_grow 10 = .ok (.areturn, 1) := dk_176 (dk_at dksJ2_grow_0 10 rfl rfl)
abbrev cJ2_grow_2 : ByteArray := prog_46_method_6_code
def yJ2_grow_2 : MethodName := ⟨RJ2, "grow", "(I)[Ljava/lang/Object;"⟩
def dkwJ2_grow_2_2 : List UInt8 := [27, 184, 0, 79, 189, 0, 7, 90, 181, 0, 9, 176]
abbrev dktJ2_grow_2_2 : List UInt8 := dkwJ2_grow_2_2 ++ []
def dkwJ2_grow_2_1 : List UInt8 := [28, 4, 122, 184, 0, 73, 62, 42, 42, 180, 0, 9, 29, 184, 0, 66, 90, 181, 0, 9, 176, 42, 16, 10]
abbrev dktJ2_grow_2_1 : List UInt8 := dkwJ2_grow_2_1 ++ dktJ2_grow_2_2
def dkwJ2_grow_2_0 : List UInt8 := [42, 180, 0, 9, 190, 61, 28, 157, 0, 13, 42, 180, 0, 9, 178, 0, 39, 165, 0, 28, 28, 27, 28, 100]
abbrev dktJ2_grow_2_0 : List UInt8 := dkwJ2_grow_2_0 ++ dktJ2_grow_2_1
theorem dksJ2_grow_2_0 : cJ2_grow_2.data.toList.drop 0 = dktJ2_grow_2_0 := by decide +kernel
theorem dksJ2_grow_2_1 : cJ2_grow_2.data.toList.drop 24 = dktJ2_grow_2_1 := dk_seg dksJ2_grow_2_0 24 rfl rfl
theorem dksJ2_grow_2_2 : cJ2_grow_2.data.toList.drop 48 = dktJ2_grow_2_2 := dk_seg dksJ2_grow_2_1 24 rfl rfl
theorem dJ2_grow_2_0 : decode cJ2_grow_2 0 = .ok (.aload_n 0, 1) := dk_42 (dk_at dksJ2_grow_2_0 0 rfl rfl)
theorem dJ2_grow_2_1 : decode cJ2_grow_2 1 = .ok (.getfield 9, 3) := dk_180 0 9 (dk_at dksJ2_grow_2_0 1 rfl rfl)
theorem dJ2_grow_2_4 : decode cJ2_grow_2 4 = .ok (.arraylength, 1) := dk_190 (dk_at dksJ2_grow_2_0 4 rfl rfl)
theorem dJ2_grow_2_5 : decode cJ2_grow_2 5 = .ok (.istore_n 2, 1) := dk_61 (dk_at dksJ2_grow_2_0 5 rfl rfl)
theorem dJ2_grow_2_6 : decode cJ2_grow_2 6 = .ok (.iload_n 2, 1) := dk_28 (dk_at dksJ2_grow_2_0 6 rfl rfl)
theorem dJ2_grow_2_7 : decode cJ2_grow_2 7 = .ok (.ifCond .gt 13, 3) := dk_157 0 13 (dk_at dksJ2_grow_2_0 7 rfl rfl)
theorem dJ2_grow_2_10 : decode cJ2_grow_2 10 = .ok (.aload_n 0, 1) := dk_42 (dk_at dksJ2_grow_2_0 10 rfl rfl)
theorem dJ2_grow_2_11 : decode cJ2_grow_2 11 = .ok (.getfield 9, 3) := dk_180 0 9 (dk_at dksJ2_grow_2_0 11 rfl rfl)
theorem dJ2_grow_2_14 : decode cJ2_grow_2 14 = .ok (.getstatic 39, 3) := dk_178 0 39 (dk_at dksJ2_grow_2_0 14 rfl rfl)
theorem dJ2_grow_2_17 : decode cJ2_grow_2 17 = .ok (.if_acmp .eq 28, 3) := dk_165 0 28 (dk_at dksJ2_grow_2_0 17 rfl rfl)
theorem dJ2_grow_2_20 : decode cJ2_grow_2 20 = .ok (.iload_n 2, 1) := dk_28 (dk_at dksJ2_grow_2_0 20 rfl rfl)
theorem dJ2_grow_2_21 : decode cJ2_grow_2 21 = .ok (.iload_n 1, 1) := dk_27 (dk_at dksJ2_grow_2_0 21 rfl rfl)
theorem dJ2_grow_2_22 : decode cJ2_grow_2 22 = .ok (.iload_n 2, 1) := dk_28 (dk_at dksJ2_grow_2_0 22 rfl rfl)
theorem dJ2_grow_2_23 : decode cJ2_grow_2 23 = .ok (.isub, 1) := dk_100 (dk_at dksJ2_grow_2_0 23 rfl rfl)
theorem dJ2_grow_2_24 : decode cJ2_grow_2 24 = .ok (.iload_n 2, 1) := dk_28 (dk_at dksJ2_grow_2_1 0 rfl rfl)
theorem dJ2_grow_2_25 : decode cJ2_grow_2 25 = .ok (.iconst 1, 1) := dk_4 (dk_at dksJ2_grow_2_1 1 rfl rfl)
theorem dJ2_grow_2_26 : decode cJ2_grow_2 26 = .ok (.ishr, 1) := dk_122 (dk_at dksJ2_grow_2_1 2 rfl rfl)
theorem dJ2_grow_2_27 : decode cJ2_grow_2 27 = .ok (.invokestatic 73, 3) := dk_184 0 73 (dk_at dksJ2_grow_2_1 3 rfl rfl)
theorem dJ2_grow_2_30 : decode cJ2_grow_2 30 = .ok (.istore_n 3, 1) := dk_62 (dk_at dksJ2_grow_2_1 6 rfl rfl)
theorem dJ2_grow_2_31 : decode cJ2_grow_2 31 = .ok (.aload_n 0, 1) := dk_42 (dk_at dksJ2_grow_2_1 7 rfl rfl)
theorem dJ2_grow_2_32 : decode cJ2_grow_2 32 = .ok (.aload_n 0, 1) := dk_42 (dk_at dksJ2_grow_2_1 8 rfl rfl)
theorem dJ2_grow_2_33 : decode cJ2_grow_2 33 = .ok (.getfield 9, 3) := dk_180 0 9 (dk_at dksJ2_grow_2_1 9 rfl rfl)
theorem dJ2_grow_2_36 : decode cJ2_grow_2 36 = .ok (.iload_n 3, 1) := dk_29 (dk_at dksJ2_grow_2_1 12 rfl rfl)
theorem dJ2_grow_2_37 : decode cJ2_grow_2 37 = .ok (.invokestatic 66, 3) := dk_184 0 66 (dk_at dksJ2_grow_2_1 13 rfl rfl)
theorem dJ2_grow_2_40 : decode cJ2_grow_2 40 = .ok (.dup_x1, 1) := dk_90 (dk_at dksJ2_grow_2_1 16 rfl rfl)
theorem dJ2_grow_2_41 : decode cJ2_grow_2 41 = .ok (.putfield 9, 3) := dk_181 0 9 (dk_at dksJ2_grow_2_1 17 rfl rfl)
theorem dJ2_grow_2_44 : decode cJ2_grow_2 44 = .ok (.areturn, 1) := dk_176 (dk_at dksJ2_grow_2_1 20 rfl rfl)
theorem dJ2_grow_2_45 : decode cJ2_grow_2 45 = .ok (.aload_n 0, 1) := dk_42 (dk_at dksJ2_grow_2_1 21 rfl rfl)
theorem dJ2_grow_2_46 : decode cJ2_grow_2 46 = .ok (.bipush 10, 2) := dk_16 10 (dk_at dksJ2_grow_2_1 22 rfl rfl)
theorem dJ2_grow_2_48 : decode cJ2_grow_2 48 = .ok (.iload_n 1, 1) := dk_27 (dk_at dksJ2_grow_2_2 0 rfl rfl)
theorem dJ2_grow_2_49 : decode cJ2_grow_2 49 = .ok (.invokestatic 79, 3) := dk_184 0 79 (dk_at dksJ2_grow_2_2 1 rfl rfl)
theorem dJ2_grow_2_52 : decode cJ2_grow_2 52 = .ok (.anewarray 7, 3) := dk_189 0 7 (dk_at dksJ2_grow_2_2 4 rfl rfl)
theorem dJ2_grow_2_55 : decode cJ2_grow_2 55 = .ok (.dup_x1, 1) := dk_90 (dk_at dksJ2_grow_2_2 7 rfl rfl)
theorem dJ2_grow_2_56 : decode cJ2_grow_2 56 = .ok (.putfield 9, 3) := dk_181 0 9 (dk_at dksJ2_grow_2_2 8 rfl rfl)
theorem dJ2_grow_2_59 : decode cJ2_grow_2 59 = .ok (.areturn, 1) := dk_176 (dk_at dksJ2_grow_2_2 11 rfl rfl)
theorem q117 : (Jvm.Cond.initialized "java/util/ArrayList") ∈ lw_all := lw_g (lw_at lw_m1 6 rfl) rfl
theorem q201 : (Jvm.Cond.instantiable "java/util/ArrayList" (3 : Nat)) ∈ lw_all := lw_g (lw_at lw_m1 90 rfl) rfl
theorem q203 : (Jvm.Cond.instanceMethod ({ cls := "java/util/ArrayList", name := "<init>", desc := "(I)V" } : Jvm.MethodName)) ∈ lw_all := lw_g (lw_at lw_m1 92 rfl) rfl
theorem q204 : (Jvm.Cond.code ({ cls := "java/util/ArrayList", name := "<init>", desc := "(I)V" } : Jvm.MethodName) prog_46_method_1_code (2 : Nat) (Option.none : Option Jvm.ClassFile.FieldType)) ∈ lw_all := lw_g (lw_at lw_m1 93 rfl) rfl
theorem q205 : (Jvm.Cond.methodLink "java/util/ArrayList" (1 : Nat) ({ cls := "java/util/AbstractList", name := "<init>", desc := "()V" } : Jvm.MethodName)) ∈ lw_all := lw_g (lw_at lw_m1 94 rfl) rfl
theorem q212 : (Jvm.Cond.classLink "java/util/ArrayList" (7 : Nat) "java/lang/Object") ∈ lw_all := lw_g (lw_at lw_m1 101 rfl) rfl
theorem q214 : (Jvm.Cond.fieldLink "java/util/ArrayList" (15 : Nat) "java/util/ArrayList" "EMPTY_ELEMENTDATA" "[Ljava/lang/Object;") ∈ lw_all := lw_g (lw_at lw_m1 103 rfl) rfl
theorem q215 : (Jvm.Cond.laysStatic "java/util/ArrayList" "EMPTY_ELEMENTDATA" "[Ljava/lang/Object;") ∈ lw_tbl := lw_at lw_m1 104 rfl
theorem q216 : (Jvm.Cond.fieldLink "java/util/ArrayList" (9 : Nat) "java/util/ArrayList" "elementData" "[Ljava/lang/Object;") ∈ lw_all := lw_g (lw_at lw_m1 105 rfl) rfl
theorem q217 : (Jvm.Cond.fieldLink "java/util/ArrayList" (48 : Nat) "java/util/ArrayList" "size" "I") ∈ lw_all := lw_g (lw_at lw_m1 106 rfl) rfl
theorem q219 : (Jvm.Cond.fieldLink "java/util/ArrayList" (63 : Nat) "java/util/ArrayList" "modCount" "I") ∈ lw_all := lw_g (lw_at lw_m1 108 rfl) rfl
theorem q220 : (Jvm.Cond.sameField "java/util/ArrayList" "java/util/AbstractList" "modCount" "I") ∈ lw_all := lw_g (lw_at lw_m1 109 rfl) rfl
theorem q221 : (Jvm.Cond.lays "java/util/ArrayList" "java/util/ArrayList" "elementData" "[Ljava/lang/Object;") ∈ lw_all := lw_g (lw_at lw_m1 110 rfl) rfl
theorem q222 : (Jvm.Cond.soleField "java/util/ArrayList" "elementData") ∈ lw_all := lw_g (lw_at lw_m1 111 rfl) rfl
theorem q223 : (Jvm.Cond.lays "java/util/ArrayList" "java/util/ArrayList" "size" "I") ∈ lw_all := lw_g (lw_at lw_m1 112 rfl) rfl
theorem q224 : (Jvm.Cond.soleField "java/util/ArrayList" "size") ∈ lw_all := lw_g (lw_at lw_m1 113 rfl) rfl
theorem q225 : (Jvm.Cond.lays "java/util/ArrayList" "java/util/AbstractList" "modCount" "I") ∈ lw_all := lw_g (lw_at lw_m1 114 rfl) rfl
theorem q227 : (Jvm.Cond.superclass "java/util/ArrayList" "java/util/AbstractList") ∈ lw_all := lw_g (lw_at lw_m1 116 rfl) rfl
theorem q308 : (Jvm.Cond.instanceMethod ({ cls := "java/util/ArrayList", name := "size", desc := "()I" } : Jvm.MethodName)) ∈ lw_all := lw_g (lw_at lw_m1 197 rfl) rfl
theorem q309 : (Jvm.Cond.selects "java/util/ArrayList" ({ cls := "java/util/ArrayList", name := "size", desc := "()I" } : Jvm.MethodName) ({ cls := "java/util/ArrayList", name := "size", desc := "()I" } : Jvm.MethodName)) ∈ lw_all := lw_g (lw_at lw_m1 198 rfl) rfl
theorem q310 : (Jvm.Cond.code ({ cls := "java/util/ArrayList", name := "size", desc := "()I" } : Jvm.MethodName) prog_46_method_8_code (1 : Nat) (Option.some Jvm.ClassFile.FieldType.int)) ∈ lw_all := lw_g (lw_at lw_m1 199 rfl) rfl
theorem q312 : (Jvm.Cond.instanceMethod ({ cls := "java/util/ArrayList", name := "get", desc := "(I)Ljava/lang/Object;" } : Jvm.MethodName)) ∈ lw_all := lw_g (lw_at lw_m1 201 rfl) rfl
theorem q313 : (Jvm.Cond.selects "java/util/ArrayList" ({ cls := "java/util/ArrayList", name := "get", desc := "(I)Ljava/lang/Object;" } : Jvm.MethodName) ({ cls := "java/util/ArrayList", name := "get", desc := "(I)Ljava/lang/Object;" } : Jvm.MethodName)) ∈ lw_all := lw_g (lw_at lw_m1 202 rfl) rfl
theorem q314 : (Jvm.Cond.code ({ cls := "java/util/ArrayList", name := "get", desc := "(I)Ljava/lang/Object;" } : Jvm.MethodName) prog_46_method_20_code (2 : Nat) (Option.some (Jvm.ClassFile.FieldType.object "java/lang/Object"))) ∈ lw_all := lw_g (lw_at lw_m1 203 rfl) rfl
theorem q315 : (Jvm.Cond.methodLink "java/util/ArrayList" (118 : Nat) ({ cls := "java/util/Objects", name := "checkIndex", desc := "(II)I" } : Jvm.MethodName)) ∈ lw_all := lw_g (lw_at lw_m1 204 rfl) rfl
theorem q321 : (Jvm.Cond.methodLink "java/util/ArrayList" (123 : Nat) ({ cls := "java/util/ArrayList", name := "elementData", desc := "(I)Ljava/lang/Object;" } : Jvm.MethodName)) ∈ lw_all := lw_g (lw_at lw_m1 210 rfl) rfl
theorem q322 : (Jvm.Cond.instanceMethod ({ cls := "java/util/ArrayList", name := "elementData", desc := "(I)Ljava/lang/Object;" } : Jvm.MethodName)) ∈ lw_all := lw_g (lw_at lw_m1 211 rfl) rfl
theorem q323 : (Jvm.Cond.selects "java/util/ArrayList" ({ cls := "java/util/ArrayList", name := "elementData", desc := "(I)Ljava/lang/Object;" } : Jvm.MethodName) ({ cls := "java/util/ArrayList", name := "elementData", desc := "(I)Ljava/lang/Object;" } : Jvm.MethodName)) ∈ lw_all := lw_g (lw_at lw_m1 212 rfl) rfl
theorem q324 : (Jvm.Cond.code ({ cls := "java/util/ArrayList", name := "elementData", desc := "(I)Ljava/lang/Object;" } : Jvm.MethodName) prog_46_method_18_code (2 : Nat) (Option.some (Jvm.ClassFile.FieldType.object "java/lang/Object"))) ∈ lw_all := lw_g (lw_at lw_m1 213 rfl) rfl
theorem q838 : (Jvm.Cond.instanceMethod ({ cls := "java/util/ArrayList", name := "add", desc := "(Ljava/lang/Object;)Z" } : Jvm.MethodName)) ∈ lw_all := lw_g (lw_at lw_m4 7 rfl) rfl
theorem q839 : (Jvm.Cond.selects "java/util/ArrayList" ({ cls := "java/util/ArrayList", name := "add", desc := "(Ljava/lang/Object;)Z" } : Jvm.MethodName) ({ cls := "java/util/ArrayList", name := "add", desc := "(Ljava/lang/Object;)Z" } : Jvm.MethodName)) ∈ lw_all := lw_g (lw_at lw_m4 8 rfl) rfl
theorem q840 : (Jvm.Cond.code ({ cls := "java/util/ArrayList", name := "add", desc := "(Ljava/lang/Object;)Z" } : Jvm.MethodName) prog_46_method_25_code (2 : Nat) (Option.some Jvm.ClassFile.FieldType.boolean)) ∈ lw_all := lw_g (lw_at lw_m4 9 rfl) rfl
theorem q841 : (Jvm.Cond.methodLink "java/util/ArrayList" (131 : Nat) ({ cls := "java/util/ArrayList", name := "add", desc := "(Ljava/lang/Object;[Ljava/lang/Object;I)V" } : Jvm.MethodName)) ∈ lw_all := lw_g (lw_at lw_m4 10 rfl) rfl
theorem q842 : (Jvm.Cond.privateMethod ({ cls := "java/util/ArrayList", name := "add", desc := "(Ljava/lang/Object;[Ljava/lang/Object;I)V" } : Jvm.MethodName)) ∈ lw_tbl := lw_at lw_m4 11 rfl
theorem q843 : (Jvm.Cond.instanceMethod ({ cls := "java/util/ArrayList", name := "add", desc := "(Ljava/lang/Object;[Ljava/lang/Object;I)V" } : Jvm.MethodName)) ∈ lw_all := lw_g (lw_at lw_m4 12 rfl) rfl
theorem q844 : (Jvm.Cond.code ({ cls := "java/util/ArrayList", name := "add", desc := "(Ljava/lang/Object;[Ljava/lang/Object;I)V" } : Jvm.MethodName) prog_46_method_24_code (4 : Nat) (Option.none : Option Jvm.ClassFile.FieldType)) ∈ lw_all := lw_g (lw_at lw_m4 13 rfl) rfl
theorem q845 : (Jvm.Cond.methodLink "java/util/ArrayList" (129 : Nat) ({ cls := "java/util/ArrayList", name := "grow", desc := "()[Ljava/lang/Object;" } : Jvm.MethodName)) ∈ lw_all := lw_g (lw_at lw_m4 14 rfl) rfl
theorem q846 : (Jvm.Cond.privateMethod ({ cls := "java/util/ArrayList", name := "grow", desc := "()[Ljava/lang/Object;" } : Jvm.MethodName)) ∈ lw_tbl := lw_at lw_m4 15 rfl
theorem q847 : (Jvm.Cond.instanceMethod ({ cls := "java/util/ArrayList", name := "grow", desc := "()[Ljava/lang/Object;" } : Jvm.MethodName)) ∈ lw_all := lw_g (lw_at lw_m4 16 rfl) rfl
theorem q848 : (Jvm.Cond.code ({ cls := "java/util/ArrayList", name := "grow", desc := "()[Ljava/lang/Object;" } : Jvm.MethodName) prog_46_method_7_code (1 : Nat) (Option.some (Jvm.ClassFile.FieldType.array (Jvm.ClassFile.FieldType.object "java/lang/Object")))) ∈ lw_all := lw_g (lw_at lw_m4 17 rfl) rfl
theorem q849 : (Jvm.Cond.methodLink "java/util/ArrayList" (69 : Nat) ({ cls := "java/util/ArrayList", name := "grow", desc := "(I)[Ljava/lang/Object;" } : Jvm.MethodName)) ∈ lw_all := lw_g (lw_at lw_m4 18 rfl) rfl
theorem q850 : (Jvm.Cond.privateMethod ({ cls := "java/util/ArrayList", name := "grow", desc := "(I)[Ljava/lang/Object;" } : Jvm.MethodName)) ∈ lw_tbl := lw_at lw_m4 19 rfl
theorem q851 : (Jvm.Cond.instanceMethod ({ cls := "java/util/ArrayList", name := "grow", desc := "(I)[Ljava/lang/Object;" } : Jvm.MethodName)) ∈ lw_all := lw_g (lw_at lw_m4 20 rfl) rfl
theorem q852 : (Jvm.Cond.code ({ cls := "java/util/ArrayList", name := "grow", desc := "(I)[Ljava/lang/Object;" } : Jvm.MethodName) prog_46_method_6_code (4 : Nat) (Option.some (Jvm.ClassFile.FieldType.array (Jvm.ClassFile.FieldType.object "java/lang/Object")))) ∈ lw_all := lw_g (lw_at lw_m4 21 rfl) rfl
theorem q853 : (Jvm.Cond.fieldLink "java/util/ArrayList" (39 : Nat) "java/util/ArrayList" "DEFAULTCAPACITY_EMPTY_ELEMENTDATA" "[Ljava/lang/Object;") ∈ lw_all := lw_g (lw_at lw_m4 22 rfl) rfl
theorem q854 : (Jvm.Cond.laysStatic "java/util/ArrayList" "DEFAULTCAPACITY_EMPTY_ELEMENTDATA" "[Ljava/lang/Object;") ∈ lw_tbl := lw_at lw_m4 23 rfl
theorem q855 : (Jvm.Cond.methodLink "java/util/ArrayList" (73 : Nat) ({ cls := "jdk/internal/util/ArraysSupport", name := "newLength", desc := "(III)I" } : Jvm.MethodName)) ∈ lw_all := lw_g (lw_at lw_m4 24 rfl) rfl
theorem q856 : (Jvm.Cond.methodLink "java/util/ArrayList" (66 : Nat) ({ cls := "java/util/Arrays", name := "copyOf", desc := "([Ljava/lang/Object;I)[Ljava/lang/Object;" } : Jvm.MethodName)) ∈ lw_all := lw_g (lw_at lw_m4 25 rfl) rfl
theorem q884 : (Jvm.Cond.selects "java/util/ArrayList" ({ cls := "java/lang/Object", name := "getClass", desc := "()Ljava/lang/Class;" } : Jvm.MethodName) ({ cls := "java/lang/Object", name := "getClass", desc := "()Ljava/lang/Class;" } : Jvm.MethodName)) ∈ lw_all := lw_g (lw_at lw_m4 53 rfl) rfl
theorem q892 : (Jvm.Cond.methodLink "java/util/ArrayList" (79 : Nat) ({ cls := "java/lang/Math", name := "max", desc := "(II)I" } : Jvm.MethodName)) ∈ lw_all := lw_g (lw_at lw_m4 61 rfl) rfl
theorem q2091 : (Jvm.Cond.castable "java/util/ArrayList" "java/lang/Object") ∈ lw_tbl := lw_at lw_m9 60 rfl
theorem in_J2 : ∀ w ∈ wsJ20, w ∈ lw_all := lw_in wsJ20 [225, 221, 223] (by decide +kernel) (by decide +kernel)
/-! java/util/Objects -/
set_option maxRecDepth 100000
def RJ3 : String := "java/util/Objects"
abbrev cJ3_checkIndex : ByteArray := prog_51_method_17_code
def yJ3_checkIndex : MethodName := ⟨RJ3, "checkIndex", "(II)I"⟩
def dkwJ3_checkIndex_0 : List UInt8 := [26, 27, 1, 184, 0, 105, 172]
abbrev dktJ3_checkIndex_0 : List UInt8 := dkwJ3_checkIndex_0 ++ []
theorem dksJ3_checkIndex_0 : cJ3_checkIndex.data.toList.drop 0 = dktJ3_checkIndex_0 := by decide +kernel
theorem dJ3_checkIndex_0 : decode cJ3_checkIndex 0 = .ok (.iload_n 0, 1) := dk_26 (dk_at dksJ3_checkIndex_0 0 rfl rfl)
theorem dJ3_checkIndex_1 : decode cJ3_checkIndex 1 = .ok (.iload_n 1, 1) := dk_27 (dk_at dksJ3_checkIndex_0 1 rfl rfl)
theorem dJ3_checkIndex_2 : decode cJ3_checkIndex 2 = .ok (.aconst_null, 1) := dk_1 (dk_at dksJ3_checkIndex_0 2 rfl rfl)
theorem dJ3_checkIndex_3 : decode cJ3_checkIndex 3 = .ok (.invokestatic 105, 3) := dk_184 0 105 (dk_at dksJ3_checkIndex_0 3 rfl rfl)
theorem dJ3_checkIndex_6 : decode cJ3_checkIndex 6 = .ok (.ireturn, 1) := dk_172 (dk_at dksJ3_checkIndex_0 6 rfl rfl)
theorem q119 : (Jvm.Cond.initialized "java/util/Objects") ∈ lw_all := lw_g (lw_at lw_m1 8 rfl) rfl
theorem q316 : (Jvm.Cond.static ({ cls := "java/util/Objects", name := "checkIndex", desc := "(II)I" } : Jvm.MethodName)) ∈ lw_all := lw_g (lw_at lw_m1 205 rfl) rfl
theorem q317 : (Jvm.Cond.code ({ cls := "java/util/Objects", name := "checkIndex", desc := "(II)I" } : Jvm.MethodName) prog_51_method_17_code (2 : Nat) (Option.some Jvm.ClassFile.FieldType.int)) ∈ lw_all := lw_g (lw_at lw_m1 206 rfl) rfl
theorem q318 : (Jvm.Cond.methodLink "java/util/Objects" (105 : Nat) ({ cls := "jdk/internal/util/Preconditions", name := "checkIndex", desc := "(IILjava/util/function/BiFunction;)I" } : Jvm.MethodName)) ∈ lw_all := lw_g (lw_at lw_m1 207 rfl) rfl
/-! jdk/internal/util/Preconditions -/
set_option maxRecDepth 100000
def RJ4 : String := "jdk/internal/util/Preconditions"
abbrev cJ4_checkIndex : ByteArray := prog_55_method_11_code
def yJ4_checkIndex : MethodName := ⟨RJ4, "checkIndex", "(IILjava/util/function/BiFunction;)I"⟩
def dkwJ4_checkIndex_0 : List UInt8 := [26, 155, 0, 8, 26, 27, 161, 0, 10, 44, 26, 27, 184, 0, 95, 191, 26, 172]
abbrev dktJ4_checkIndex_0 : List UInt8 := dkwJ4_checkIndex_0 ++ []
theorem dksJ4_checkIndex_0 : cJ4_checkIndex.data.toList.drop 0 = dktJ4_checkIndex_0 := by decide +kernel
theorem dJ4_checkIndex_0 : decode cJ4_checkIndex 0 = .ok (.iload_n 0, 1) := dk_26 (dk_at dksJ4_checkIndex_0 0 rfl rfl)
theorem dJ4_checkIndex_1 : decode cJ4_checkIndex 1 = .ok (.ifCond .lt 8, 3) := dk_155 0 8 (dk_at dksJ4_checkIndex_0 1 rfl rfl)
theorem dJ4_checkIndex_4 : decode cJ4_checkIndex 4 = .ok (.iload_n 0, 1) := dk_26 (dk_at dksJ4_checkIndex_0 4 rfl rfl)
theorem dJ4_checkIndex_5 : decode cJ4_checkIndex 5 = .ok (.iload_n 1, 1) := dk_27 (dk_at dksJ4_checkIndex_0 5 rfl rfl)
theorem dJ4_checkIndex_6 : decode cJ4_checkIndex 6 = .ok (.if_icmp .lt 10, 3) := dk_161 0 10 (dk_at dksJ4_checkIndex_0 6 rfl rfl)
theorem dJ4_checkIndex_9 : decode cJ4_checkIndex 9 = .ok (.aload_n 2, 1) := dk_44 (dk_at dksJ4_checkIndex_0 9 rfl rfl)
theorem dJ4_checkIndex_10 : decode cJ4_checkIndex 10 = .ok (.iload_n 0, 1) := dk_26 (dk_at dksJ4_checkIndex_0 10 rfl rfl)
theorem dJ4_checkIndex_11 : decode cJ4_checkIndex 11 = .ok (.iload_n 1, 1) := dk_27 (dk_at dksJ4_checkIndex_0 11 rfl rfl)
theorem dJ4_checkIndex_12 : decode cJ4_checkIndex 12 = .ok (.invokestatic 95, 3) := dk_184 0 95 (dk_at dksJ4_checkIndex_0 12 rfl rfl)
theorem dJ4_checkIndex_15 : decode cJ4_checkIndex 15 = .ok (.athrow, 1) := dk_191 (dk_at dksJ4_checkIndex_0 15 rfl rfl)
theorem dJ4_checkIndex_16 : decode cJ4_checkIndex 16 = .ok (.iload_n 0, 1) := dk_26 (dk_at dksJ4_checkIndex_0 16 rfl rfl)
theorem dJ4_checkIndex_17 : decode cJ4_checkIndex 17 = .ok (.ireturn, 1) := dk_172 (dk_at dksJ4_checkIndex_0 17 rfl rfl)
abbrev cJ4_checkFromToIndex : ByteArray := prog_55_method_12_code
def yJ4_checkFromToIndex : MethodName := ⟨RJ4, "checkFromToIndex", "(IIILjava/util/function/BiFunction;)I"⟩
def dkwJ4_checkFromToIndex_0 : List UInt8 := [26, 155, 0, 13, 26, 27, 163, 0, 8, 27, 28, 164, 0, 11, 45, 26, 27, 28, 184, 0, 99, 191, 26, 172]
abbrev dktJ4_checkFromToIndex_0 : List UInt8 := dkwJ4_checkFromToIndex_0 ++ []
theorem dksJ4_checkFromToIndex_0 : cJ4_checkFromToIndex.data.toList.drop 0 = dktJ4_checkFromToIndex_0 := by decide +kernel
theorem dJ4_checkFromToIndex_0 : decode cJ4_checkFromToIndex 0 = .ok (.iload_n 0, 1) := dk_26 (dk_at dksJ4_checkFromToIndex_0 0 rfl rfl)
theorem dJ4_checkFromToIndex_1 : decode cJ4_checkFromToIndex 1 = .ok (.ifCond .lt 13, 3) := dk_155 0 13 (dk_at dksJ4_checkFromToIndex_0 1 rfl rfl)
theorem dJ4_checkFromToIndex_4 : decode cJ4_checkFromToIndex 4 = .ok (.iload_n 0, 1) := dk_26 (dk_at dksJ4_checkFromToIndex_0 4 rfl rfl)
theorem dJ4_checkFromToIndex_5 : decode cJ4_checkFromToIndex 5 = .ok (.iload_n 1, 1) := dk_27 (dk_at dksJ4_checkFromToIndex_0 5 rfl rfl)
theorem dJ4_checkFromToIndex_6 : decode cJ4_checkFromToIndex 6 = .ok (.if_icmp .gt 8, 3) := dk_163 0 8 (dk_at dksJ4_checkFromToIndex_0 6 rfl rfl)
theorem dJ4_checkFromToIndex_9 : decode cJ4_checkFromToIndex 9 = .ok (.iload_n 1, 1) := dk_27 (dk_at dksJ4_checkFromToIndex_0 9 rfl rfl)
theorem dJ4_checkFromToIndex_10 : decode cJ4_checkFromToIndex 10 = .ok (.iload_n 2, 1) := dk_28 (dk_at dksJ4_checkFromToIndex_0 10 rfl rfl)
theorem dJ4_checkFromToIndex_11 : decode cJ4_checkFromToIndex 11 = .ok (.if_icmp .le 11, 3) := dk_164 0 11 (dk_at dksJ4_checkFromToIndex_0 11 rfl rfl)
theorem dJ4_checkFromToIndex_14 : decode cJ4_checkFromToIndex 14 = .ok (.aload_n 3, 1) := dk_45 (dk_at dksJ4_checkFromToIndex_0 14 rfl rfl)
theorem dJ4_checkFromToIndex_15 : decode cJ4_checkFromToIndex 15 = .ok (.iload_n 0, 1) := dk_26 (dk_at dksJ4_checkFromToIndex_0 15 rfl rfl)
theorem dJ4_checkFromToIndex_16 : decode cJ4_checkFromToIndex 16 = .ok (.iload_n 1, 1) := dk_27 (dk_at dksJ4_checkFromToIndex_0 16 rfl rfl)
theorem dJ4_checkFromToIndex_17 : decode cJ4_checkFromToIndex 17 = .ok (.iload_n 2, 1) := dk_28 (dk_at dksJ4_checkFromToIndex_0 17 rfl rfl)
theorem dJ4_checkFromToIndex_18 : decode cJ4_checkFromToIndex 18 = .ok (.invokestatic 99, 3) := dk_184 0 99 (dk_at dksJ4_checkFromToIndex_0 18 rfl rfl)
theorem dJ4_checkFromToIndex_21 : decode cJ4_checkFromToIndex 21 = .ok (.athrow, 1) := dk_191 (dk_at dksJ4_checkFromToIndex_0 21 rfl rfl)
theorem dJ4_checkFromToIndex_22 : decode cJ4_checkFromToIndex 22 = .ok (.iload_n 0, 1) := dk_26 (dk_at dksJ4_checkFromToIndex_0 22 rfl rfl)
theorem dJ4_checkFromToIndex_23 : decode cJ4_checkFromToIndex 23 = .ok (.ireturn, 1) := dk_172 (dk_at dksJ4_checkFromToIndex_0 23 rfl rfl)
abbrev cJ4_checkFromIndexSize : ByteArray := prog_55_method_13_code
def yJ4_checkFromIndexSize : MethodName := ⟨RJ4, "checkFromIndexSize", "(IIILjava/util/function/BiFunction;)I"⟩
def dkwJ4_checkFromIndexSize_1 : List UInt8 := [172]
abbrev dktJ4_checkFromIndexSize_1 : List UInt8 := dkwJ4_checkFromIndexSize_1 ++ []
def dkwJ4_checkFromIndexSize_0 : List UInt8 := [28, 26, 128, 27, 128, 155, 0, 10, 27, 28, 26, 100, 164, 0, 11, 45, 26, 27, 28, 184, 0, 103, 191, 26]
abbrev dktJ4_checkFromIndexSize_0 : List UInt8 := dkwJ4_checkFromIndexSize_0 ++ dktJ4_checkFromIndexSize_1
theorem dksJ4_checkFromIndexSize_0 : cJ4_checkFromIndexSize.data.toList.drop 0 = dktJ4_checkFromIndexSize_0 := by decide +kernel
theorem dksJ4_checkFromIndexSize_1 : cJ4_checkFromIndexSize.data.toList.drop 24 = dktJ4_checkFromIndexSize_1 := dk_seg dksJ4_checkFromIndexSize_0 24 rfl rfl
theorem dJ4_checkFromIndexSize_0 : decode cJ4_checkFromIndexSize 0 = .ok (.iload_n 2, 1) := dk_28 (dk_at dksJ4_checkFromIndexSize_0 0 rfl rfl)
theorem dJ4_checkFromIndexSize_1 : decode cJ4_checkFromIndexSize 1 = .ok (.iload_n 0, 1) := dk_26 (dk_at dksJ4_checkFromIndexSize_0 1 rfl rfl)
theorem dJ4_checkFromIndexSize_2 : decode cJ4_checkFromIndexSize 2 = .ok (.ior, 1) := dk_128 (dk_at dksJ4_checkFromIndexSize_0 2 rfl rfl)
theorem dJ4_checkFromIndexSize_3 : decode cJ4_checkFromIndexSize 3 = .ok (.iload_n 1, 1) := dk_27 (dk_at dksJ4_checkFromIndexSize_0 3 rfl rfl)
theorem dJ4_checkFromIndexSize_4 : decode cJ4_checkFromIndexSize 4 = .ok (.ior, 1) := dk_128 (dk_at dksJ4_checkFromIndexSize_0 4 rfl rfl)
theorem dJ4_checkFromIndexSize_5 : decode cJ4_checkFromIndexSize 5 = .ok (.ifCond .lt 10, 3) := dk_155 0 10 (dk_at dksJ4_checkFromIndexSize_0 5 rfl rfl)
theorem dJ4_checkFromIndexSize_8 : decode cJ4_checkFromIndexSize 8 = .ok (.iload_n 1, 1) := dk_27 (dk_at dksJ4_checkFromIndexSize_0 8 rfl rfl)
theorem dJ4_checkFromIndexSize_9 : decode cJ4_checkFromIndexSize 9 = .ok (.iload_n 2, 1) := dk_28 (dk_at dksJ4_checkFromIndexSize_0 9 rfl rfl)
theorem dJ4_checkFromIndexSize_10 : decode cJ4_checkFromIndexSize 10 = .ok (.iload_n 0, 1) := dk_26 (dk_at dksJ4_checkFromIndexSize_0 10 rfl rfl)
theorem dJ4_checkFromIndexSize_11 : decode cJ4_checkFromIndexSize 11 = .ok (.isub, 1) := dk_100 (dk_at dksJ4_checkFromIndexSize_0 11 rfl rfl)
theorem dJ4_checkFromIndexSize_12 : decode cJ4_checkFromIndexSize 12 = .ok (.if_icmp .le 11, 3) := dk_164 0 11 (dk_at dksJ4_checkFromIndexSize_0 12 rfl rfl)
theorem dJ4_checkFromIndexSize_15 : decode cJ4_checkFromIndexSize 15 = .ok (.aload_n 3, 1) := dk_45 (dk_at dksJ4_checkFromIndexSize_0 15 rfl rfl)
theorem dJ4_checkFromIndexSize_16 : decode cJ4_checkFromIndexSize 16 = .ok (.iload_n 0, 1) := dk_26 (dk_at dksJ4_checkFromIndexSize_0 16 rfl rfl)
theorem dJ4_checkFromIndexSize_17 : decode cJ4_checkFromIndexSize 17 = .ok (.iload_n 1, 1) := dk_27 (dk_at dksJ4_checkFromIndexSize_0 17 rfl rfl)
theorem dJ4_checkFromIndexSize_18 : decode cJ4_checkFromIndexSize 18 = .ok (.iload_n 2, 1) := dk_28 (dk_at dksJ4_checkFromIndexSize_0 18 rfl rfl)
theorem dJ4_checkFromIndexSize_19 : decode cJ4_checkFromIndexSize 19 = .ok (.invokestatic 103, 3) := dk_184 0 103 (dk_at dksJ4_checkFromIndexSize_0 19 rfl rfl)
theorem dJ4_checkFromIndexSize_22 : decode cJ4_checkFromIndexSize 22 = .ok (.athrow, 1) := dk_191 (dk_at dksJ4_checkFromIndexSize_0 22 rfl rfl)
theorem dJ4_checkFromIndexSize_23 : decode cJ4_checkFromIndexSize 23 = .ok (.iload_n 0, 1) := dk_26 (dk_at dksJ4_checkFromIndexSize_0 23 rfl rfl)
theorem dJ4_checkFromIndexSize_24 : decode cJ4_checkFromIndexSize 24 = .ok (.ireturn, 1) := dk_172 (dk_at dksJ4_checkFromIndexSize_1 0 rfl rfl)
theorem q120 : (Jvm.Cond.initialized "jdk/internal/util/Preconditions") ∈ lw_all := lw_g (lw_at lw_m1 9 rfl) rfl
theorem q319 : (Jvm.Cond.static ({ cls := "jdk/internal/util/Preconditions", name := "checkIndex", desc := "(IILjava/util/function/BiFunction;)I" } : Jvm.MethodName)) ∈ lw_all := lw_g (lw_at lw_m1 208 rfl) rfl
theorem q320 : (Jvm.Cond.code ({ cls := "jdk/internal/util/Preconditions", name := "checkIndex", desc := "(IILjava/util/function/BiFunction;)I" } : Jvm.MethodName) prog_55_method_11_code (3 : Nat) (Option.some Jvm.ClassFile.FieldType.int)) ∈ lw_all := lw_g (lw_at lw_m1 209 rfl) rfl
theorem q479 : (Jvm.Cond.laysStatic "jdk/internal/util/Preconditions" "SIOOBE_FORMATTER" "Ljava/util/function/BiFunction;") ∈ lw_tbl := lw_at lw_m2 128 rfl
theorem q481 : (Jvm.Cond.static ({ cls := "jdk/internal/util/Preconditions", name := "checkFromToIndex", desc := "(IIILjava/util/function/BiFunction;)I" } : Jvm.MethodName)) ∈ lw_all := lw_g (lw_at lw_m2 130 rfl) rfl
theorem q482 : (Jvm.Cond.code ({ cls := "jdk/internal/util/Preconditions", name := "checkFromToIndex", desc := "(IIILjava/util/function/BiFunction;)I" } : Jvm.MethodName) prog_55_method_12_code (4 : Nat) (Option.some Jvm.ClassFile.FieldType.int)) ∈ lw_all := lw_g (lw_at lw_m2 131 rfl) rfl
theorem q722 : (Jvm.Cond.static ({ cls := "jdk/internal/util/Preconditions", name := "checkFromIndexSize", desc := "(IIILjava/util/function/BiFunction;)I" } : Jvm.MethodName)) ∈ lw_all := lw_g (lw_at lw_m3 131 rfl) rfl
theorem q723 : (Jvm.Cond.code ({ cls := "jdk/internal/util/Preconditions", name := "checkFromIndexSize", desc := "(IIILjava/util/function/BiFunction;)I" } : Jvm.MethodName) prog_55_method_13_code (4 : Nat) (Option.some Jvm.ClassFile.FieldType.int)) ∈ lw_all := lw_g (lw_at lw_m3 132 rfl) rfl
/-! java/lang/String -/
set_option maxRecDepth 100000
def RJ5 : String := "java/lang/String"
def TJ5 : u_T := fun k => match k with
  | 0 => ("java/lang/String", "value", "[B", true)
  | 1 => ("java/lang/String", "coder", "B", true)
  | 2 => ("java/lang/String", "hash", "I", false)
  | _ => ("java/lang/String", "hashIsZero", "Z", false)
def tyJ5 : Nat → FieldType := fun k => match k with
  | 0 => .array .byte
  | 1 => .byte
  | 2 => .int
  | _ => .boolean
abbrev wsJ50 : List Cond := u_ws RJ5 TJ5 4
theorem nmJ5 : ∀ a, a < 4 → ∀ b, b < 4 → a ≠ b → (TJ5 a).2.1 ≠ (TJ5 b).2.1 := by decide +kernel
theorem tyJ5_ok : ∀ k, k < 4 → parseFieldDescriptor (TJ5 k).2.2.1 = some (tyJ5 k) := by decide +kernel
abbrev cJ5_indexOf : ByteArray := prog_36_method_79_code
def yJ5_indexOf : MethodName := ⟨RJ5, "indexOf", "(I)I"⟩
def dkwJ5_indexOf_0 : List UInt8 := [42, 27, 3, 182, 2, 121, 172]
abbrev dktJ5_indexOf_0 : List UInt8 := dkwJ5_indexOf_0 ++ []
theorem dksJ5_indexOf_0 : cJ5_indexOf.data.toList.drop 0 = dktJ5_indexOf_0 := by decide +kernel
theorem dJ5_indexOf_0 : decode cJ5_indexOf 0 = .ok (.aload_n 0, 1) := dk_42 (dk_at dksJ5_indexOf_0 0 rfl rfl)
theorem dJ5_indexOf_1 : decode cJ5_indexOf 1 = .ok (.iload_n 1, 1) := dk_27 (dk_at dksJ5_indexOf_0 1 rfl rfl)
theorem dJ5_indexOf_2 : decode cJ5_indexOf 2 = .ok (.iconst 0, 1) := dk_3 (dk_at dksJ5_indexOf_0 2 rfl rfl)
theorem dJ5_indexOf_3 : decode cJ5_indexOf 3 = .ok (.invokevirtual 633, 3) := dk_182 2 121 (dk_at dksJ5_indexOf_0 3 rfl rfl)
theorem dJ5_indexOf_6 : decode cJ5_indexOf 6 = .ok (.ireturn, 1) := dk_172 (dk_at dksJ5_indexOf_0 6 rfl rfl)
abbrev cJ5_indexOf_2 : ByteArray := prog_36_method_80_code
def yJ5_indexOf_2 : MethodName := ⟨RJ5, "indexOf", "(II)I"⟩
def dkwJ5_indexOf_2_1 : List UInt8 := [180, 0, 9, 27, 28, 42, 182, 1, 249, 184, 2, 128, 172]
abbrev dktJ5_indexOf_2_1 : List UInt8 := dkwJ5_indexOf_2_1 ++ []
def dkwJ5_indexOf_2_0 : List UInt8 := [42, 182, 1, 236, 153, 0, 19, 42, 180, 0, 9, 27, 28, 42, 182, 1, 249, 184, 2, 125, 167, 0, 16, 42]
abbrev dktJ5_indexOf_2_0 : List UInt8 := dkwJ5_indexOf_2_0 ++ dktJ5_indexOf_2_1
theorem dksJ5_indexOf_2_0 : cJ5_indexOf_2.data.toList.drop 0 = dktJ5_indexOf_2_0 := by decide +kernel
theorem dksJ5_indexOf_2_1 : cJ5_indexOf_2.data.toList.drop 24 = dktJ5_indexOf_2_1 := dk_seg dksJ5_indexOf_2_0 24 rfl rfl
theorem dJ5_indexOf_2_0 : decode cJ5_indexOf_2 0 = .ok (.aload_n 0, 1) := dk_42 (dk_at dksJ5_indexOf_2_0 0 rfl rfl)
theorem dJ5_indexOf_2_1 : decode cJ5_indexOf_2 1 = .ok (.invokevirtual 492, 3) := dk_182 1 236 (dk_at dksJ5_indexOf_2_0 1 rfl rfl)
theorem dJ5_indexOf_2_4 : decode cJ5_indexOf_2 4 = .ok (.ifCond .eq 19, 3) := dk_153 0 19 (dk_at dksJ5_indexOf_2_0 4 rfl rfl)
theorem dJ5_indexOf_2_7 : decode cJ5_indexOf_2 7 = .ok (.aload_n 0, 1) := dk_42 (dk_at dksJ5_indexOf_2_0 7 rfl rfl)
theorem dJ5_indexOf_2_8 : decode cJ5_indexOf_2 8 = .ok (.getfield 9, 3) := dk_180 0 9 (dk_at dksJ5_indexOf_2_0 8 rfl rfl)
theorem dJ5_indexOf_2_11 : decode cJ5_indexOf_2 11 = .ok (.iload_n 1, 1) := dk_27 (dk_at dksJ5_indexOf_2_0 11 rfl rfl)
theorem dJ5_indexOf_2_12 : decode cJ5_indexOf_2 12 = .ok (.iload_n 2, 1) := dk_28 (dk_at dksJ5_indexOf_2_0 12 rfl rfl)
theorem dJ5_indexOf_2_13 : decode cJ5_indexOf_2 13 = .ok (.aload_n 0, 1) := dk_42 (dk_at dksJ5_indexOf_2_0 13 rfl rfl)
theorem dJ5_indexOf_2_14 : decode cJ5_indexOf_2 14 = .ok (.invokevirtual 505, 3) := dk_182 1 249 (dk_at dksJ5_indexOf_2_0 14 rfl rfl)
theorem dJ5_indexOf_2_17 : decode cJ5_indexOf_2 17 = .ok (.invokestatic 637, 3) := dk_184 2 125 (dk_at dksJ5_indexOf_2_0 17 rfl rfl)
theorem dJ5_indexOf_2_20 : decode cJ5_indexOf_2 20 = .ok (.goto 16, 3) := dk_167 0 16 (dk_at dksJ5_indexOf_2_0 20 rfl rfl)
theorem dJ5_indexOf_2_23 : decode cJ5_indexOf_2 23 = .ok (.aload_n 0, 1) := dk_42 (dk_at dksJ5_indexOf_2_0 23 rfl rfl)
theorem dJ5_indexOf_2_24 : decode cJ5_indexOf_2 24 = .ok (.getfield 9, 3) := dk_180 0 9 (dk_at dksJ5_indexOf_2_1 0 rfl rfl)
theorem dJ5_indexOf_2_27 : decode cJ5_indexOf_2 27 = .ok (.iload_n 1, 1) := dk_27 (dk_at dksJ5_indexOf_2_1 3 rfl rfl)
theorem dJ5_indexOf_2_28 : decode cJ5_indexOf_2 28 = .ok (.iload_n 2, 1) := dk_28 (dk_at dksJ5_indexOf_2_1 4 rfl rfl)
theorem dJ5_indexOf_2_29 : decode cJ5_indexOf_2 29 = .ok (.aload_n 0, 1) := dk_42 (dk_at dksJ5_indexOf_2_1 5 rfl rfl)
theorem dJ5_indexOf_2_30 : decode cJ5_indexOf_2 30 = .ok (.invokevirtual 505, 3) := dk_182 1 249 (dk_at dksJ5_indexOf_2_1 6 rfl rfl)
theorem dJ5_indexOf_2_33 : decode cJ5_indexOf_2 33 = .ok (.invokestatic 640, 3) := dk_184 2 128 (dk_at dksJ5_indexOf_2_1 9 rfl rfl)
theorem dJ5_indexOf_2_36 : decode cJ5_indexOf_2 36 = .ok (.ireturn, 1) := dk_172 (dk_at dksJ5_indexOf_2_1 12 rfl rfl)
abbrev cJ5_isLatin1 : ByteArray := prog_36_method_154_code
def yJ5_isLatin1 : MethodName := ⟨RJ5, "isLatin1", "()Z"⟩
def dkwJ5_isLatin1_0 : List UInt8 := [178, 0, 38, 153, 0, 14, 42, 180, 0, 15, 154, 0, 7, 4, 167, 0, 4, 3, 172]
abbrev dktJ5_isLatin1_0 : List UInt8 := dkwJ5_isLatin1_0 ++ []
theorem dksJ5_isLatin1_0 : cJ5_isLatin1.data.toList.drop 0 = dktJ5_isLatin1_0 := by decide +kernel
theorem dJ5_isLatin1_0 : decode cJ5_isLatin1 0 = .ok (.getstatic 38, 3) := dk_178 0 38 (dk_at dksJ5_isLatin1_0 0 rfl rfl)
theorem dJ5_isLatin1_3 : decode cJ5_isLatin1 3 = .ok (.ifCond .eq 14, 3) := dk_153 0 14 (dk_at dksJ5_isLatin1_0 3 rfl rfl)
theorem dJ5_isLatin1_6 : decode cJ5_isLatin1 6 = .ok (.aload_n 0, 1) := dk_42 (dk_at dksJ5_isLatin1_0 6 rfl rfl)
theorem dJ5_isLatin1_7 : decode cJ5_isLatin1 7 = .ok (.getfield 15, 3) := dk_180 0 15 (dk_at dksJ5_isLatin1_0 7 rfl rfl)
theorem dJ5_isLatin1_10 : decode cJ5_isLatin1 10 = .ok (.ifCond .ne 7, 3) := dk_154 0 7 (dk_at dksJ5_isLatin1_0 10 rfl rfl)
theorem dJ5_isLatin1_13 : decode cJ5_isLatin1 13 = .ok (.iconst 1, 1) := dk_4 (dk_at dksJ5_isLatin1_0 13 rfl rfl)
theorem dJ5_isLatin1_14 : decode cJ5_isLatin1 14 = .ok (.goto 4, 3) := dk_167 0 4 (dk_at dksJ5_isLatin1_0 14 rfl rfl)
theorem dJ5_isLatin1_17 : decode cJ5_isLatin1 17 = .ok (.iconst 0, 1) := dk_3 (dk_at dksJ5_isLatin1_0 17 rfl rfl)
theorem dJ5_isLatin1_18 : decode cJ5_isLatin1 18 = .ok (.ireturn, 1) := dk_172 (dk_at dksJ5_isLatin1_0 18 rfl rfl)
abbrev cJ5_length : ByteArray := prog_36_method_54_code
def yJ5_length : MethodName := ⟨RJ5, "length", "()I"⟩
def dkwJ5_length_0 : List UInt8 := [42, 180, 0, 9, 190, 42, 182, 1, 79, 122, 172]
abbrev dktJ5_length_0 : List UInt8 := dkwJ5_length_0 ++ []
theorem dksJ5_length_0 : cJ5_length.data.toList.drop 0 = dktJ5_length_0 := by decide +kernel
theorem dJ5_length_0 : decode cJ5_length 0 = .ok (.aload_n 0, 1) := dk_42 (dk_at dksJ5_length_0 0 rfl rfl)
theorem dJ5_length_1 : decode cJ5_length 1 = .ok (.getfield 9, 3) := dk_180 0 9 (dk_at dksJ5_length_0 1 rfl rfl)
theorem dJ5_length_4 : decode cJ5_length 4 = .ok (.arraylength, 1) := dk_190 (dk_at dksJ5_length_0 4 rfl rfl)
theorem dJ5_length_5 : decode cJ5_length 5 = .ok (.aload_n 0, 1) := dk_42 (dk_at dksJ5_length_0 5 rfl rfl)
theorem dJ5_length_6 : decode cJ5_length 6 = .ok (.invokevirtual 335, 3) := dk_182 1 79 (dk_at dksJ5_length_0 6 rfl rfl)
theorem dJ5_length_9 : decode cJ5_length 9 = .ok (.ishr, 1) := dk_122 (dk_at dksJ5_length_0 9 rfl rfl)
theorem dJ5_length_10 : decode cJ5_length 10 = .ok (.ireturn, 1) := dk_172 (dk_at dksJ5_length_0 10 rfl rfl)
abbrev cJ5_coder : ByteArray := prog_36_method_152_code
def yJ5_coder : MethodName := ⟨RJ5, "coder", "()B"⟩
def dkwJ5_coder_0 : List UInt8 := [178, 0, 38, 153, 0, 10, 42, 180, 0, 15, 167, 0, 4, 4, 172]
abbrev dktJ5_coder_0 : List UInt8 := dkwJ5_coder_0 ++ []
theorem dksJ5_coder_0 : cJ5_coder.data.toList.drop 0 = dktJ5_coder_0 := by decide +kernel
theorem dJ5_coder_0 : decode cJ5_coder 0 = .ok (.getstatic 38, 3) := dk_178 0 38 (dk_at dksJ5_coder_0 0 rfl rfl)
theorem dJ5_coder_3 : decode cJ5_coder 3 = .ok (.ifCond .eq 10, 3) := dk_153 0 10 (dk_at dksJ5_coder_0 3 rfl rfl)
theorem dJ5_coder_6 : decode cJ5_coder 6 = .ok (.aload_n 0, 1) := dk_42 (dk_at dksJ5_coder_0 6 rfl rfl)
theorem dJ5_coder_7 : decode cJ5_coder 7 = .ok (.getfield 15, 3) := dk_180 0 15 (dk_at dksJ5_coder_0 7 rfl rfl)
theorem dJ5_coder_10 : decode cJ5_coder 10 = .ok (.goto 4, 3) := dk_167 0 4 (dk_at dksJ5_coder_0 10 rfl rfl)
theorem dJ5_coder_13 : decode cJ5_coder 13 = .ok (.iconst 1, 1) := dk_4 (dk_at dksJ5_coder_0 13 rfl rfl)
theorem dJ5_coder_14 : decode cJ5_coder 14 = .ok (.ireturn, 1) := dk_172 (dk_at dksJ5_coder_0 14 rfl rfl)
abbrev cJ5_checkBoundsBeginEnd : ByteArray := prog_36_method_158_code
def yJ5_checkBoundsBeginEnd : MethodName := ⟨RJ5, "checkBoundsBeginEnd", "(III)V"⟩
def dkwJ5_checkBoundsBeginEnd_0 : List UInt8 := [26, 27, 28, 178, 4, 29, 184, 4, 38, 87, 177]
abbrev dktJ5_checkBoundsBeginEnd_0 : List UInt8 := dkwJ5_checkBoundsBeginEnd_0 ++ []
theorem dksJ5_checkBoundsBeginEnd_0 : cJ5_checkBoundsBeginEnd.data.toList.drop 0 = dktJ5_checkBoundsBeginEnd_0 := by decide +kernel
theorem dJ5_checkBoundsBeginEnd_0 : decode cJ5_checkBoundsBeginEnd 0 = .ok (.iload_n 0, 1) := dk_26 (dk_at dksJ5_checkBoundsBeginEnd_0 0 rfl rfl)
theorem dJ5_checkBoundsBeginEnd_1 : decode cJ5_checkBoundsBeginEnd 1 = .ok (.iload_n 1, 1) := dk_27 (dk_at dksJ5_checkBoundsBeginEnd_0 1 rfl rfl)
theorem dJ5_checkBoundsBeginEnd_2 : decode cJ5_checkBoundsBeginEnd 2 = .ok (.iload_n 2, 1) := dk_28 (dk_at dksJ5_checkBoundsBeginEnd_0 2 rfl rfl)
theorem dJ5_checkBoundsBeginEnd_3 : decode cJ5_checkBoundsBeginEnd 3 = .ok (.getstatic 1053, 3) := dk_178 4 29 (dk_at dksJ5_checkBoundsBeginEnd_0 3 rfl rfl)
theorem dJ5_checkBoundsBeginEnd_6 : decode cJ5_checkBoundsBeginEnd 6 = .ok (.invokestatic 1062, 3) := dk_184 4 38 (dk_at dksJ5_checkBoundsBeginEnd_0 6 rfl rfl)
theorem dJ5_checkBoundsBeginEnd_9 : decode cJ5_checkBoundsBeginEnd 9 = .ok (.pop, 1) := dk_87 (dk_at dksJ5_checkBoundsBeginEnd_0 9 rfl rfl)
theorem dJ5_checkBoundsBeginEnd_10 : decode cJ5_checkBoundsBeginEnd 10 = .ok (.return_, 1) := dk_177 (dk_at dksJ5_checkBoundsBeginEnd_0 10 rfl rfl)
abbrev cJ5_charAt : ByteArray := prog_36_method_56_code
def yJ5_charAt : MethodName := ⟨RJ5, "charAt", "(I)C"⟩
def dkwJ5_charAt_1 : List UInt8 := [172]
abbrev dktJ5_charAt_1 : List UInt8 := dkwJ5_charAt_1 ++ []
def dkwJ5_charAt_0 : List UInt8 := [42, 182, 1, 236, 153, 0, 12, 42, 180, 0, 9, 27, 184, 1, 239, 172, 42, 180, 0, 9, 27, 184, 1, 242]
abbrev dktJ5_charAt_0 : List UInt8 := dkwJ5_charAt_0 ++ dktJ5_charAt_1
theorem dksJ5_charAt_0 : cJ5_charAt.data.toList.drop 0 = dktJ5_charAt_0 := by decide +kernel
theorem dksJ5_charAt_1 : cJ5_charAt.data.toList.drop 24 = dktJ5_charAt_1 := dk_seg dksJ5_charAt_0 24 rfl rfl
theorem dJ5_charAt_0 : decode cJ5_charAt 0 = .ok (.aload_n 0, 1) := dk_42 (dk_at dksJ5_charAt_0 0 rfl rfl)
theorem dJ5_charAt_1 : decode cJ5_charAt 1 = .ok (.invokevirtual 492, 3) := dk_182 1 236 (dk_at dksJ5_charAt_0 1 rfl rfl)
theorem dJ5_charAt_4 : decode cJ5_charAt 4 = .ok (.ifCond .eq 12, 3) := dk_153 0 12 (dk_at dksJ5_charAt_0 4 rfl rfl)
theorem dJ5_charAt_7 : decode cJ5_charAt 7 = .ok (.aload_n 0, 1) := dk_42 (dk_at dksJ5_charAt_0 7 rfl rfl)
theorem dJ5_charAt_8 : decode cJ5_charAt 8 = .ok (.getfield 9, 3) := dk_180 0 9 (dk_at dksJ5_charAt_0 8 rfl rfl)
theorem dJ5_charAt_11 : decode cJ5_charAt 11 = .ok (.iload_n 1, 1) := dk_27 (dk_at dksJ5_charAt_0 11 rfl rfl)
theorem dJ5_charAt_12 : decode cJ5_charAt 12 = .ok (.invokestatic 495, 3) := dk_184 1 239 (dk_at dksJ5_charAt_0 12 rfl rfl)
theorem dJ5_charAt_15 : decode cJ5_charAt 15 = .ok (.ireturn, 1) := dk_172 (dk_at dksJ5_charAt_0 15 rfl rfl)
theorem dJ5_charAt_16 : decode cJ5_charAt 16 = .ok (.aload_n 0, 1) := dk_42 (dk_at dksJ5_charAt_0 16 rfl rfl)
theorem dJ5_charAt_17 : decode cJ5_charAt 17 = .ok (.getfield 9, 3) := dk_180 0 9 (dk_at dksJ5_charAt_0 17 rfl rfl)
theorem dJ5_charAt_20 : decode cJ5_charAt 20 = .ok (.iload_n 1, 1) := dk_27 (dk_at dksJ5_charAt_0 20 rfl rfl)
theorem dJ5_charAt_21 : decode cJ5_charAt 21 = .ok (.invokestatic 498, 3) := dk_184 1 242 (dk_at dksJ5_charAt_0 21 rfl rfl)
theorem dJ5_charAt_24 : decode cJ5_charAt 24 = .ok (.ireturn, 1) := dk_172 (dk_at dksJ5_charAt_1 0 rfl rfl)
abbrev cJ5_checkIndex : ByteArray := prog_36_method_155_code
def yJ5_checkIndex : MethodName := ⟨RJ5, "checkIndex", "(II)V"⟩
def dkwJ5_checkIndex_0 : List UInt8 := [26, 27, 178, 4, 29, 184, 4, 35, 87, 177]
abbrev dktJ5_checkIndex_0 : List UInt8 := dkwJ5_checkIndex_0 ++ []
theorem dksJ5_checkIndex_0 : cJ5_checkIndex.data.toList.drop 0 = dktJ5_checkIndex_0 := by decide +kernel
theorem dJ5_checkIndex_0 : decode cJ5_checkIndex 0 = .ok (.iload_n 0, 1) := dk_26 (dk_at dksJ5_checkIndex_0 0 rfl rfl)
theorem dJ5_checkIndex_1 : decode cJ5_checkIndex 1 = .ok (.iload_n 1, 1) := dk_27 (dk_at dksJ5_checkIndex_0 1 rfl rfl)
theorem dJ5_checkIndex_2 : decode cJ5_checkIndex 2 = .ok (.getstatic 1053, 3) := dk_178 4 29 (dk_at dksJ5_checkIndex_0 2 rfl rfl)
theorem dJ5_checkIndex_5 : decode cJ5_checkIndex 5 = .ok (.invokestatic 1059, 3) := dk_184 4 35 (dk_at dksJ5_checkIndex_0 5 rfl rfl)
theorem dJ5_checkIndex_8 : decode cJ5_checkIndex 8 = .ok (.pop, 1) := dk_87 (dk_at dksJ5_checkIndex_0 8 rfl rfl)
theorem dJ5_checkIndex_9 : decode cJ5_checkIndex 9 = .ok (.return_, 1) := dk_177 (dk_at dksJ5_checkIndex_0 9 rfl rfl)
abbrev cJ5_checkBoundsOffCount : ByteArray := prog_36_method_157_code
def yJ5_checkBoundsOffCount : MethodName := ⟨RJ5, "checkBoundsOffCount", "(III)I"⟩
def dkwJ5_checkBoundsOffCount_0 : List UInt8 := [26, 27, 28, 178, 4, 29, 184, 4, 41, 172]
abbrev dktJ5_checkBoundsOffCount_0 : List UInt8 := dkwJ5_checkBoundsOffCount_0 ++ []
theorem dksJ5_checkBoundsOffCount_0 : cJ5_checkBoundsOffCount.data.toList.drop 0 = dktJ5_checkBoundsOffCount_0 := by decide +kernel
theorem dJ5_checkBoundsOffCount_0 : decode cJ5_checkBoundsOffCount 0 = .ok (.iload_n 0, 1) := dk_26 (dk_at dksJ5_checkBoundsOffCount_0 0 rfl rfl)
theorem dJ5_checkBoundsOffCount_1 : decode cJ5_checkBoundsOffCount 1 = .ok (.iload_n 1, 1) := dk_27 (dk_at dksJ5_checkBoundsOffCount_0 1 rfl rfl)
theorem dJ5_checkBoundsOffCount_2 : decode cJ5_checkBoundsOffCount 2 = .ok (.iload_n 2, 1) := dk_28 (dk_at dksJ5_checkBoundsOffCount_0 2 rfl rfl)
theorem dJ5_checkBoundsOffCount_3 : decode cJ5_checkBoundsOffCount 3 = .ok (.getstatic 1053, 3) := dk_178 4 29 (dk_at dksJ5_checkBoundsOffCount_0 3 rfl rfl)
theorem dJ5_checkBoundsOffCount_6 : decode cJ5_checkBoundsOffCount 6 = .ok (.invokestatic 1065, 3) := dk_184 4 41 (dk_at dksJ5_checkBoundsOffCount_0 6 rfl rfl)
theorem dJ5_checkBoundsOffCount_9 : decode cJ5_checkBoundsOffCount 9 = .ok (.ireturn, 1) := dk_172 (dk_at dksJ5_checkBoundsOffCount_0 9 rfl rfl)
abbrev cJ5_init : ByteArray := prog_36_method_53_code
def yJ5_init : MethodName := ⟨RJ5, "<init>", "(Ljava/lang/StringBuilder;)V"⟩
def dkwJ5_init_0 : List UInt8 := [42, 43, 1, 183, 1, 233, 177]
abbrev dktJ5_init_0 : List UInt8 := dkwJ5_init_0 ++ []
theorem dksJ5_init_0 : cJ5_init.data.toList.drop 0 = dktJ5_init_0 := by decide +kernel
theorem dJ5_init_0 : decode cJ5_init 0 = .ok (.aload_n 0, 1) := dk_42 (dk_at dksJ5_init_0 0 rfl rfl)
theorem dJ5_init_1 : decode cJ5_init 1 = .ok (.aload_n 1, 1) := dk_43 (dk_at dksJ5_init_0 1 rfl rfl)
theorem dJ5_init_2 : decode cJ5_init 2 = .ok (.aconst_null, 1) := dk_1 (dk_at dksJ5_init_0 2 rfl rfl)
theorem dJ5_init_3 : decode cJ5_init 3 = .ok (.invokespecial 489, 3) := dk_183 1 233 (dk_at dksJ5_init_0 3 rfl rfl)
theorem dJ5_init_6 : decode cJ5_init 6 = .ok (.return_, 1) := dk_177 (dk_at dksJ5_init_0 6 rfl rfl)
abbrev cJ5_init_2 : ByteArray := prog_36_method_150_code
def yJ5_init_2 : MethodName := ⟨RJ5, "<init>", "(Ljava/lang/AbstractStringBuilder;Ljava/lang/Void;)V"⟩
def dkwJ5_init_2_4 : List UInt8 := [181, 0, 9, 177]
abbrev dktJ5_init_2_4 : List UInt8 := dkwJ5_init_2_4 ++ []
def dkwJ5_init_2_3 : List UInt8 := [184, 0, 47, 181, 0, 15, 177, 42, 4, 181, 0, 15, 42, 45, 3, 21, 4, 4, 120, 184, 0, 54]
abbrev dktJ5_init_2_3 : List UInt8 := dkwJ5_init_2_3 ++ dktJ5_init_2_4
def dkwJ5_init_2_2 : List UInt8 := [180, 4, 24, 153, 0, 28, 42, 45, 3, 21, 4, 184, 4, 27, 181, 0, 9, 42, 42, 180, 0, 9, 21, 4]
abbrev dktJ5_init_2_2 : List UInt8 := dkwJ5_init_2_2 ++ dktJ5_init_2_3
def dkwJ5_init_2_1 : List UInt8 := [181, 0, 15, 42, 45, 3, 21, 4, 184, 0, 54, 181, 0, 9, 167, 0, 59, 178, 0, 38, 153, 0, 35, 43]
abbrev dktJ5_init_2_1 : List UInt8 := dkwJ5_init_2_1 ++ dktJ5_init_2_2
def dkwJ5_init_2_0 : List UInt8 := [42, 183, 0, 1, 43, 182, 2, 40, 78, 43, 182, 2, 37, 54, 4, 43, 182, 4, 23, 153, 0, 22, 42, 3]
abbrev dktJ5_init_2_0 : List UInt8 := dkwJ5_init_2_0 ++ dktJ5_init_2_1
theorem dksJ5_init_2_0 : cJ5_init_2.data.toList.drop 0 = dktJ5_init_2_0 := by decide +kernel
theorem dksJ5_init_2_1 : cJ5_init_2.data.toList.drop 24 = dktJ5_init_2_1 := dk_seg dksJ5_init_2_0 24 rfl rfl
theorem dksJ5_init_2_2 : cJ5_init_2.data.toList.drop 48 = dktJ5_init_2_2 := dk_seg dksJ5_init_2_1 24 rfl rfl
theorem dksJ5_init_2_3 : cJ5_init_2.data.toList.drop 72 = dktJ5_init_2_3 := dk_seg dksJ5_init_2_2 24 rfl rfl
theorem dksJ5_init_2_4 : cJ5_init_2.data.toList.drop 94 = dktJ5_init_2_4 := dk_seg dksJ5_init_2_3 22 rfl rfl
theorem dJ5_init_2_0 : decode cJ5_init_2 0 = .ok (.aload_n 0, 1) := dk_42 (dk_at dksJ5_init_2_0 0 rfl rfl)
theorem dJ5_init_2_1 : decode cJ5_init_2 1 = .ok (.invokespecial 1, 3) := dk_183 0 1 (dk_at dksJ5_init_2_0 1 rfl rfl)
theorem dJ5_init_2_4 : decode cJ5_init_2 4 = .ok (.aload_n 1, 1) := dk_43 (dk_at dksJ5_init_2_0 4 rfl rfl)
theorem dJ5_init_2_5 : decode cJ5_init_2 5 = .ok (.invokevirtual 552, 3) := dk_182 2 40 (dk_at dksJ5_init_2_0 5 rfl rfl)
theorem dJ5_init_2_8 : decode cJ5_init_2 8 = .ok (.astore_n 3, 1) := dk_78 (dk_at dksJ5_init_2_0 8 rfl rfl)
theorem dJ5_init_2_9 : decode cJ5_init_2 9 = .ok (.aload_n 1, 1) := dk_43 (dk_at dksJ5_init_2_0 9 rfl rfl)
theorem dJ5_init_2_10 : decode cJ5_init_2 10 = .ok (.invokevirtual 549, 3) := dk_182 2 37 (dk_at dksJ5_init_2_0 10 rfl rfl)
theorem dJ5_init_2_13 : decode cJ5_init_2 13 = .ok (.istore 4, 2) := dk_54 4 (dk_at dksJ5_init_2_0 13 rfl rfl)
theorem dJ5_init_2_15 : decode cJ5_init_2 15 = .ok (.aload_n 1, 1) := dk_43 (dk_at dksJ5_init_2_0 15 rfl rfl)
theorem dJ5_init_2_16 : decode cJ5_init_2 16 = .ok (.invokevirtual 1047, 3) := dk_182 4 23 (dk_at dksJ5_init_2_0 16 rfl rfl)
theorem dJ5_init_2_19 : decode cJ5_init_2 19 = .ok (.ifCond .eq 22, 3) := dk_153 0 22 (dk_at dksJ5_init_2_0 19 rfl rfl)
theorem dJ5_init_2_22 : decode cJ5_init_2 22 = .ok (.aload_n 0, 1) := dk_42 (dk_at dksJ5_init_2_0 22 rfl rfl)
theorem dJ5_init_2_23 : decode cJ5_init_2 23 = .ok (.iconst 0, 1) := dk_3 (dk_at dksJ5_init_2_0 23 rfl rfl)
theorem dJ5_init_2_24 : decode cJ5_init_2 24 = .ok (.putfield 15, 3) := dk_181 0 15 (dk_at dksJ5_init_2_1 0 rfl rfl)
theorem dJ5_init_2_27 : decode cJ5_init_2 27 = .ok (.aload_n 0, 1) := dk_42 (dk_at dksJ5_init_2_1 3 rfl rfl)
theorem dJ5_init_2_28 : decode cJ5_init_2 28 = .ok (.aload_n 3, 1) := dk_45 (dk_at dksJ5_init_2_1 4 rfl rfl)
theorem dJ5_init_2_29 : decode cJ5_init_2 29 = .ok (.iconst 0, 1) := dk_3 (dk_at dksJ5_init_2_1 5 rfl rfl)
theorem dJ5_init_2_30 : decode cJ5_init_2 30 = .ok (.iload 4, 2) := dk_21 4 (dk_at dksJ5_init_2_1 6 rfl rfl)
theorem dJ5_init_2_32 : decode cJ5_init_2 32 = .ok (.invokestatic 54, 3) := dk_184 0 54 (dk_at dksJ5_init_2_1 8 rfl rfl)
theorem dJ5_init_2_35 : decode cJ5_init_2 35 = .ok (.putfield 9, 3) := dk_181 0 9 (dk_at dksJ5_init_2_1 11 rfl rfl)
theorem dJ5_init_2_38 : decode cJ5_init_2 38 = .ok (.goto 59, 3) := dk_167 0 59 (dk_at dksJ5_init_2_1 14 rfl rfl)
theorem dJ5_init_2_41 : decode cJ5_init_2 41 = .ok (.getstatic 38, 3) := dk_178 0 38 (dk_at dksJ5_init_2_1 17 rfl rfl)
theorem dJ5_init_2_44 : decode cJ5_init_2 44 = .ok (.ifCond .eq 35, 3) := dk_153 0 35 (dk_at dksJ5_init_2_1 20 rfl rfl)
theorem dJ5_init_2_47 : decode cJ5_init_2 47 = .ok (.aload_n 1, 1) := dk_43 (dk_at dksJ5_init_2_1 23 rfl rfl)
theorem dJ5_init_2_48 : decode cJ5_init_2 48 = .ok (.getfield 1048, 3) := dk_180 4 24 (dk_at dksJ5_init_2_2 0 rfl rfl)
theorem dJ5_init_2_51 : decode cJ5_init_2 51 = .ok (.ifCond .eq 28, 3) := dk_153 0 28 (dk_at dksJ5_init_2_2 3 rfl rfl)
theorem dJ5_init_2_54 : decode cJ5_init_2 54 = .ok (.aload_n 0, 1) := dk_42 (dk_at dksJ5_init_2_2 6 rfl rfl)
theorem dJ5_init_2_55 : decode cJ5_init_2 55 = .ok (.aload_n 3, 1) := dk_45 (dk_at dksJ5_init_2_2 7 rfl rfl)
theorem dJ5_init_2_56 : decode cJ5_init_2 56 = .ok (.iconst 0, 1) := dk_3 (dk_at dksJ5_init_2_2 8 rfl rfl)
theorem dJ5_init_2_57 : decode cJ5_init_2 57 = .ok (.iload 4, 2) := dk_21 4 (dk_at dksJ5_init_2_2 9 rfl rfl)
theorem dJ5_init_2_59 : decode cJ5_init_2 59 = .ok (.invokestatic 1051, 3) := dk_184 4 27 (dk_at dksJ5_init_2_2 11 rfl rfl)
theorem dJ5_init_2_62 : decode cJ5_init_2 62 = .ok (.putfield 9, 3) := dk_181 0 9 (dk_at dksJ5_init_2_2 14 rfl rfl)
theorem dJ5_init_2_65 : decode cJ5_init_2 65 = .ok (.aload_n 0, 1) := dk_42 (dk_at dksJ5_init_2_2 17 rfl rfl)
theorem dJ5_init_2_66 : decode cJ5_init_2 66 = .ok (.aload_n 0, 1) := dk_42 (dk_at dksJ5_init_2_2 18 rfl rfl)
theorem dJ5_init_2_67 : decode cJ5_init_2 67 = .ok (.getfield 9, 3) := dk_180 0 9 (dk_at dksJ5_init_2_2 19 rfl rfl)
theorem dJ5_init_2_70 : decode cJ5_init_2 70 = .ok (.iload 4, 2) := dk_21 4 (dk_at dksJ5_init_2_2 22 rfl rfl)
theorem dJ5_init_2_72 : decode cJ5_init_2 72 = .ok (.invokestatic 47, 3) := dk_184 0 47 (dk_at dksJ5_init_2_3 0 rfl rfl)
theorem dJ5_init_2_75 : decode cJ5_init_2 75 = .ok (.putfield 15, 3) := dk_181 0 15 (dk_at dksJ5_init_2_3 3 rfl rfl)
theorem dJ5_init_2_78 : decode cJ5_init_2 78 = .ok (.return_, 1) := dk_177 (dk_at dksJ5_init_2_3 6 rfl rfl)
theorem dJ5_init_2_79 : decode cJ5_init_2 79 = .ok (.aload_n 0, 1) := dk_42 (dk_at dksJ5_init_2_3 7 rfl rfl)
theorem dJ5_init_2_80 : decode cJ5_init_2 80 = .ok (.iconst 1, 1) := dk_4 (dk_at dksJ5_init_2_3 8 rfl rfl)
theorem dJ5_init_2_81 : decode cJ5_init_2 81 = .ok (.putfield 15, 3) := dk_181 0 15 (dk_at dksJ5_init_2_3 9 rfl rfl)
theorem dJ5_init_2_84 : decode cJ5_init_2 84 = .ok (.aload_n 0, 1) := dk_42 (dk_at dksJ5_init_2_3 12 rfl rfl)
theorem dJ5_init_2_85 : decode cJ5_init_2 85 = .ok (.aload_n 3, 1) := dk_45 (dk_at dksJ5_init_2_3 13 rfl rfl)
theorem dJ5_init_2_86 : decode cJ5_init_2 86 = .ok (.iconst 0, 1) := dk_3 (dk_at dksJ5_init_2_3 14 rfl rfl)
theorem dJ5_init_2_87 : decode cJ5_init_2 87 = .ok (.iload 4, 2) := dk_21 4 (dk_at dksJ5_init_2_3 15 rfl rfl)
theorem dJ5_init_2_89 : decode cJ5_init_2 89 = .ok (.iconst 1, 1) := dk_4 (dk_at dksJ5_init_2_3 17 rfl rfl)
theorem dJ5_init_2_90 : decode cJ5_init_2 90 = .ok (.ishl, 1) := dk_120 (dk_at dksJ5_init_2_3 18 rfl rfl)
theorem dJ5_init_2_91 : decode cJ5_init_2 91 = .ok (.invokestatic 54, 3) := dk_184 0 54 (dk_at dksJ5_init_2_3 19 rfl rfl)
theorem dJ5_init_2_94 : decode cJ5_init_2 94 = .ok (.putfield 9, 3) := dk_181 0 9 (dk_at dksJ5_init_2_4 0 rfl rfl)
theorem dJ5_init_2_97 : decode cJ5_init_2 97 = .ok (.return_, 1) := dk_177 (dk_at dksJ5_init_2_4 3 rfl rfl)
abbrev cJ5_equals : ByteArray := prog_36_method_66_code
def yJ5_equals : MethodName := ⟨RJ5, "equals", "(Ljava/lang/Object;)Z"⟩
def dkwJ5_equals_2 : List UInt8 := [184, 2, 29, 153, 0, 7, 4, 167, 0, 4, 3, 172]
abbrev dktJ5_equals_2 : List UInt8 := dkwJ5_equals_2 ++ []
def dkwJ5_equals_1 : List UInt8 := [153, 0, 14, 42, 180, 0, 15, 44, 180, 0, 15, 160, 0, 21, 42, 180, 0, 9, 44, 180, 0, 9]
abbrev dktJ5_equals_1 : List UInt8 := dkwJ5_equals_1 ++ dktJ5_equals_2
def dkwJ5_equals_0 : List UInt8 := [42, 43, 166, 0, 5, 4, 172, 43, 193, 0, 10, 153, 0, 43, 43, 192, 0, 10, 77, 178, 0, 38]
abbrev dktJ5_equals_0 : List UInt8 := dkwJ5_equals_0 ++ dktJ5_equals_1
theorem dksJ5_equals_0 : cJ5_equals.data.toList.drop 0 = dktJ5_equals_0 := by decide +kernel
theorem dksJ5_equals_1 : cJ5_equals.data.toList.drop 22 = dktJ5_equals_1 := dk_seg dksJ5_equals_0 22 rfl rfl
theorem dksJ5_equals_2 : cJ5_equals.data.toList.drop 44 = dktJ5_equals_2 := dk_seg dksJ5_equals_1 22 rfl rfl
theorem dJ5_equals_0 : decode cJ5_equals 0 = .ok (.aload_n 0, 1) := dk_42 (dk_at dksJ5_equals_0 0 rfl rfl)
theorem dJ5_equals_1 : decode cJ5_equals 1 = .ok (.aload_n 1, 1) := dk_43 (dk_at dksJ5_equals_0 1 rfl rfl)
theorem dJ5_equals_2 : decode cJ5_equals 2 = .ok (.if_acmp .ne 5, 3) := dk_166 0 5 (dk_at dksJ5_equals_0 2 rfl rfl)
theorem dJ5_equals_5 : decode cJ5_equals 5 = .ok (.iconst 1, 1) := dk_4 (dk_at dksJ5_equals_0 5 rfl rfl)
theorem dJ5_equals_6 : decode cJ5_equals 6 = .ok (.ireturn, 1) := dk_172 (dk_at dksJ5_equals_0 6 rfl rfl)
theorem dJ5_equals_7 : decode cJ5_equals 7 = .ok (.aload_n 1, 1) := dk_43 (dk_at dksJ5_equals_0 7 rfl rfl)
theorem dJ5_equals_8 : decode cJ5_equals 8 = .ok (.instanceof 10, 3) := dk_193 0 10 (dk_at dksJ5_equals_0 8 rfl rfl)
theorem dJ5_equals_11 : decode cJ5_equals 11 = .ok (.ifCond .eq 43, 3) := dk_153 0 43 (dk_at dksJ5_equals_0 11 rfl rfl)
theorem dJ5_equals_14 : decode cJ5_equals 14 = .ok (.aload_n 1, 1) := dk_43 (dk_at dksJ5_equals_0 14 rfl rfl)
theorem dJ5_equals_15 : decode cJ5_equals 15 = .ok (.checkcast 10, 3) := dk_192 0 10 (dk_at dksJ5_equals_0 15 rfl rfl)
theorem dJ5_equals_18 : decode cJ5_equals 18 = .ok (.astore_n 2, 1) := dk_77 (dk_at dksJ5_equals_0 18 rfl rfl)
theorem dJ5_equals_19 : decode cJ5_equals 19 = .ok (.getstatic 38, 3) := dk_178 0 38 (dk_at dksJ5_equals_0 19 rfl rfl)
theorem dJ5_equals_22 : decode cJ5_equals 22 = .ok (.ifCond .eq 14, 3) := dk_153 0 14 (dk_at dksJ5_equals_1 0 rfl rfl)
theorem dJ5_equals_25 : decode cJ5_equals 25 = .ok (.aload_n 0, 1) := dk_42 (dk_at dksJ5_equals_1 3 rfl rfl)
theorem dJ5_equals_26 : decode cJ5_equals 26 = .ok (.getfield 15, 3) := dk_180 0 15 (dk_at dksJ5_equals_1 4 rfl rfl)
theorem dJ5_equals_29 : decode cJ5_equals 29 = .ok (.aload_n 2, 1) := dk_44 (dk_at dksJ5_equals_1 7 rfl rfl)
theorem dJ5_equals_30 : decode cJ5_equals 30 = .ok (.getfield 15, 3) := dk_180 0 15 (dk_at dksJ5_equals_1 8 rfl rfl)
theorem dJ5_equals_33 : decode cJ5_equals 33 = .ok (.if_icmp .ne 21, 3) := dk_160 0 21 (dk_at dksJ5_equals_1 11 rfl rfl)
theorem dJ5_equals_36 : decode cJ5_equals 36 = .ok (.aload_n 0, 1) := dk_42 (dk_at dksJ5_equals_1 14 rfl rfl)
theorem dJ5_equals_37 : decode cJ5_equals 37 = .ok (.getfield 9, 3) := dk_180 0 9 (dk_at dksJ5_equals_1 15 rfl rfl)
theorem dJ5_equals_40 : decode cJ5_equals 40 = .ok (.aload_n 2, 1) := dk_44 (dk_at dksJ5_equals_1 18 rfl rfl)
theorem dJ5_equals_41 : decode cJ5_equals 41 = .ok (.getfield 9, 3) := dk_180 0 9 (dk_at dksJ5_equals_1 19 rfl rfl)
theorem dJ5_equals_44 : decode cJ5_equals 44 = .ok (.invokestatic 541, 3) := dk_184 2 29 (dk_at dksJ5_equals_2 0 rfl rfl)
theorem dJ5_equals_47 : decode cJ5_equals 47 = .ok (.ifCond .eq 7, 3) := dk_153 0 7 (dk_at dksJ5_equals_2 3 rfl rfl)
theorem dJ5_equals_50 : decode cJ5_equals 50 = .ok (.iconst 1, 1) := dk_4 (dk_at dksJ5_equals_2 6 rfl rfl)
theorem dJ5_equals_51 : decode cJ5_equals 51 = .ok (.goto 4, 3) := dk_167 0 4 (dk_at dksJ5_equals_2 7 rfl rfl)
theorem dJ5_equals_54 : decode cJ5_equals 54 = .ok (.iconst 0, 1) := dk_3 (dk_at dksJ5_equals_2 10 rfl rfl)
theorem dJ5_equals_55 : decode cJ5_equals 55 = .ok (.ireturn, 1) := dk_172 (dk_at dksJ5_equals_2 11 rfl rfl)
theorem q122 : (Jvm.Cond.initialized "java/lang/String") ∈ lw_all := lw_g (lw_at lw_m1 11 rfl) rfl
theorem q424 : (Jvm.Cond.instanceMethod ({ cls := "java/lang/String", name := "indexOf", desc := "(I)I" } : Jvm.MethodName)) ∈ lw_all := lw_g (lw_at lw_m2 73 rfl) rfl
theorem q425 : (Jvm.Cond.selects "java/lang/String" ({ cls := "java/lang/String", name := "indexOf", desc := "(I)I" } : Jvm.MethodName) ({ cls := "java/lang/String", name := "indexOf", desc := "(I)I" } : Jvm.MethodName)) ∈ lw_all := lw_g (lw_at lw_m2 74 rfl) rfl
theorem q426 : (Jvm.Cond.code ({ cls := "java/lang/String", name := "indexOf", desc := "(I)I" } : Jvm.MethodName) prog_36_method_79_code (2 : Nat) (Option.some Jvm.ClassFile.FieldType.int)) ∈ lw_all := lw_g (lw_at lw_m2 75 rfl) rfl
theorem q427 : (Jvm.Cond.methodLink "java/lang/String" (633 : Nat) ({ cls := "java/lang/String", name := "indexOf", desc := "(II)I" } : Jvm.MethodName)) ∈ lw_all := lw_g (lw_at lw_m2 76 rfl) rfl
theorem q428 : (Jvm.Cond.instanceMethod ({ cls := "java/lang/String", name := "indexOf", desc := "(II)I" } : Jvm.MethodName)) ∈ lw_all := lw_g (lw_at lw_m2 77 rfl) rfl
theorem q429 : (Jvm.Cond.selects "java/lang/String" ({ cls := "java/lang/String", name := "indexOf", desc := "(II)I" } : Jvm.MethodName) ({ cls := "java/lang/String", name := "indexOf", desc := "(II)I" } : Jvm.MethodName)) ∈ lw_all := lw_g (lw_at lw_m2 78 rfl) rfl
theorem q430 : (Jvm.Cond.code ({ cls := "java/lang/String", name := "indexOf", desc := "(II)I" } : Jvm.MethodName) prog_36_method_80_code (3 : Nat) (Option.some Jvm.ClassFile.FieldType.int)) ∈ lw_all := lw_g (lw_at lw_m2 79 rfl) rfl
theorem q431 : (Jvm.Cond.methodLink "java/lang/String" (492 : Nat) ({ cls := "java/lang/String", name := "isLatin1", desc := "()Z" } : Jvm.MethodName)) ∈ lw_all := lw_g (lw_at lw_m2 80 rfl) rfl
theorem q432 : (Jvm.Cond.instanceMethod ({ cls := "java/lang/String", name := "isLatin1", desc := "()Z" } : Jvm.MethodName)) ∈ lw_all := lw_g (lw_at lw_m2 81 rfl) rfl
theorem q433 : (Jvm.Cond.selects "java/lang/String" ({ cls := "java/lang/String", name := "isLatin1", desc := "()Z" } : Jvm.MethodName) ({ cls := "java/lang/String", name := "isLatin1", desc := "()Z" } : Jvm.MethodName)) ∈ lw_all := lw_g (lw_at lw_m2 82 rfl) rfl
theorem q434 : (Jvm.Cond.code ({ cls := "java/lang/String", name := "isLatin1", desc := "()Z" } : Jvm.MethodName) prog_36_method_154_code (1 : Nat) (Option.some Jvm.ClassFile.FieldType.boolean)) ∈ lw_all := lw_g (lw_at lw_m2 83 rfl) rfl
theorem q435 : (Jvm.Cond.fieldLink "java/lang/String" (38 : Nat) "java/lang/String" "COMPACT_STRINGS" "Z") ∈ lw_all := lw_g (lw_at lw_m2 84 rfl) rfl
theorem q436 : (Jvm.Cond.laysStatic "java/lang/String" "COMPACT_STRINGS" "Z") ∈ lw_tbl := lw_at lw_m2 85 rfl
theorem q437 : (Jvm.Cond.methodLink "java/lang/String" (505 : Nat) ({ cls := "java/lang/String", name := "length", desc := "()I" } : Jvm.MethodName)) ∈ lw_all := lw_g (lw_at lw_m2 86 rfl) rfl
theorem q438 : (Jvm.Cond.instanceMethod ({ cls := "java/lang/String", name := "length", desc := "()I" } : Jvm.MethodName)) ∈ lw_all := lw_g (lw_at lw_m2 87 rfl) rfl
theorem q439 : (Jvm.Cond.selects "java/lang/String" ({ cls := "java/lang/String", name := "length", desc := "()I" } : Jvm.MethodName) ({ cls := "java/lang/String", name := "length", desc := "()I" } : Jvm.MethodName)) ∈ lw_all := lw_g (lw_at lw_m2 88 rfl) rfl
theorem q440 : (Jvm.Cond.code ({ cls := "java/lang/String", name := "length", desc := "()I" } : Jvm.MethodName) prog_36_method_54_code (1 : Nat) (Option.some Jvm.ClassFile.FieldType.int)) ∈ lw_all := lw_g (lw_at lw_m2 89 rfl) rfl
theorem q441 : (Jvm.Cond.methodLink "java/lang/String" (335 : Nat) ({ cls := "java/lang/String", name := "coder", desc := "()B" } : Jvm.MethodName)) ∈ lw_all := lw_g (lw_at lw_m2 90 rfl) rfl
theorem q442 : (Jvm.Cond.instanceMethod ({ cls := "java/lang/String", name := "coder", desc := "()B" } : Jvm.MethodName)) ∈ lw_all := lw_g (lw_at lw_m2 91 rfl) rfl
theorem q443 : (Jvm.Cond.selects "java/lang/String" ({ cls := "java/lang/String", name := "coder", desc := "()B" } : Jvm.MethodName) ({ cls := "java/lang/String", name := "coder", desc := "()B" } : Jvm.MethodName)) ∈ lw_all := lw_g (lw_at lw_m2 92 rfl) rfl
theorem q444 : (Jvm.Cond.code ({ cls := "java/lang/String", name := "coder", desc := "()B" } : Jvm.MethodName) prog_36_method_152_code (1 : Nat) (Option.some Jvm.ClassFile.FieldType.byte)) ∈ lw_all := lw_g (lw_at lw_m2 93 rfl) rfl
theorem q445 : (Jvm.Cond.methodLink "java/lang/String" (637 : Nat) ({ cls := "java/lang/StringLatin1", name := "indexOf", desc := "([BIII)I" } : Jvm.MethodName)) ∈ lw_all := lw_g (lw_at lw_m2 94 rfl) rfl
theorem q460 : (Jvm.Cond.methodLink "java/lang/String" (640 : Nat) ({ cls := "java/lang/StringUTF16", name := "indexOf", desc := "([BIII)I" } : Jvm.MethodName)) ∈ lw_all := lw_g (lw_at lw_m2 109 rfl) rfl
theorem q476 : (Jvm.Cond.static ({ cls := "java/lang/String", name := "checkBoundsBeginEnd", desc := "(III)V" } : Jvm.MethodName)) ∈ lw_all := lw_g (lw_at lw_m2 125 rfl) rfl
theorem q477 : (Jvm.Cond.code ({ cls := "java/lang/String", name := "checkBoundsBeginEnd", desc := "(III)V" } : Jvm.MethodName) prog_36_method_158_code (3 : Nat) (Option.none : Option Jvm.ClassFile.FieldType)) ∈ lw_all := lw_g (lw_at lw_m2 126 rfl) rfl
theorem q478 : (Jvm.Cond.fieldLink "java/lang/String" (1053 : Nat) "jdk/internal/util/Preconditions" "SIOOBE_FORMATTER" "Ljava/util/function/BiFunction;") ∈ lw_all := lw_g (lw_at lw_m2 127 rfl) rfl
theorem q480 : (Jvm.Cond.methodLink "java/lang/String" (1062 : Nat) ({ cls := "jdk/internal/util/Preconditions", name := "checkFromToIndex", desc := "(IIILjava/util/function/BiFunction;)I" } : Jvm.MethodName)) ∈ lw_all := lw_g (lw_at lw_m2 129 rfl) rfl
theorem q523 : (Jvm.Cond.instanceMethod ({ cls := "java/lang/String", name := "charAt", desc := "(I)C" } : Jvm.MethodName)) ∈ lw_all := lw_g (lw_at lw_m2 172 rfl) rfl
theorem q524 : (Jvm.Cond.selects "java/lang/String" ({ cls := "java/lang/String", name := "charAt", desc := "(I)C" } : Jvm.MethodName) ({ cls := "java/lang/String", name := "charAt", desc := "(I)C" } : Jvm.MethodName)) ∈ lw_all := lw_g (lw_at lw_m2 173 rfl) rfl
theorem q525 : (Jvm.Cond.code ({ cls := "java/lang/String", name := "charAt", desc := "(I)C" } : Jvm.MethodName) prog_36_method_56_code (2 : Nat) (Option.some Jvm.ClassFile.FieldType.char)) ∈ lw_all := lw_g (lw_at lw_m2 174 rfl) rfl
theorem q526 : (Jvm.Cond.methodLink "java/lang/String" (495 : Nat) ({ cls := "java/lang/StringLatin1", name := "charAt", desc := "([BI)C" } : Jvm.MethodName)) ∈ lw_all := lw_g (lw_at lw_m2 175 rfl) rfl
theorem q530 : (Jvm.Cond.static ({ cls := "java/lang/String", name := "checkIndex", desc := "(II)V" } : Jvm.MethodName)) ∈ lw_all := lw_g (lw_at lw_m2 179 rfl) rfl
theorem q531 : (Jvm.Cond.code ({ cls := "java/lang/String", name := "checkIndex", desc := "(II)V" } : Jvm.MethodName) prog_36_method_155_code (2 : Nat) (Option.none : Option Jvm.ClassFile.FieldType)) ∈ lw_all := lw_g (lw_at lw_m2 180 rfl) rfl
theorem q532 : (Jvm.Cond.methodLink "java/lang/String" (1059 : Nat) ({ cls := "jdk/internal/util/Preconditions", name := "checkIndex", desc := "(IILjava/util/function/BiFunction;)I" } : Jvm.MethodName)) ∈ lw_all := lw_g (lw_at lw_m2 181 rfl) rfl
theorem q533 : (Jvm.Cond.methodLink "java/lang/String" (498 : Nat) ({ cls := "java/lang/StringUTF16", name := "charAt", desc := "([BI)C" } : Jvm.MethodName)) ∈ lw_all := lw_g (lw_at lw_m2 182 rfl) rfl
theorem q648 : (Jvm.Cond.fieldLink "java/lang/String" (1048 : Nat) "java/lang/AbstractStringBuilder" "maybeLatin1" "Z") ∈ lw_all := lw_g (lw_at lw_m3 57 rfl) rfl
theorem q719 : (Jvm.Cond.static ({ cls := "java/lang/String", name := "checkBoundsOffCount", desc := "(III)I" } : Jvm.MethodName)) ∈ lw_all := lw_g (lw_at lw_m3 128 rfl) rfl
theorem q720 : (Jvm.Cond.code ({ cls := "java/lang/String", name := "checkBoundsOffCount", desc := "(III)I" } : Jvm.MethodName) prog_36_method_157_code (3 : Nat) (Option.some Jvm.ClassFile.FieldType.int)) ∈ lw_all := lw_g (lw_at lw_m3 129 rfl) rfl
theorem q721 : (Jvm.Cond.methodLink "java/lang/String" (1065 : Nat) ({ cls := "jdk/internal/util/Preconditions", name := "checkFromIndexSize", desc := "(IIILjava/util/function/BiFunction;)I" } : Jvm.MethodName)) ∈ lw_all := lw_g (lw_at lw_m3 130 rfl) rfl
theorem q735 : (Jvm.Cond.instantiable "java/lang/String" (4 : Nat)) ∈ lw_all := lw_g (lw_at lw_m3 144 rfl) rfl
theorem q737 : (Jvm.Cond.instanceMethod ({ cls := "java/lang/String", name := "<init>", desc := "(Ljava/lang/StringBuilder;)V" } : Jvm.MethodName)) ∈ lw_all := lw_g (lw_at lw_m3 146 rfl) rfl
theorem q738 : (Jvm.Cond.code ({ cls := "java/lang/String", name := "<init>", desc := "(Ljava/lang/StringBuilder;)V" } : Jvm.MethodName) prog_36_method_53_code (2 : Nat) (Option.none : Option Jvm.ClassFile.FieldType)) ∈ lw_all := lw_g (lw_at lw_m3 147 rfl) rfl
theorem q739 : (Jvm.Cond.methodLink "java/lang/String" (489 : Nat) ({ cls := "java/lang/String", name := "<init>", desc := "(Ljava/lang/AbstractStringBuilder;Ljava/lang/Void;)V" } : Jvm.MethodName)) ∈ lw_all := lw_g (lw_at lw_m3 148 rfl) rfl
theorem q740 : (Jvm.Cond.instanceMethod ({ cls := "java/lang/String", name := "<init>", desc := "(Ljava/lang/AbstractStringBuilder;Ljava/lang/Void;)V" } : Jvm.MethodName)) ∈ lw_all := lw_g (lw_at lw_m3 149 rfl) rfl
theorem q741 : (Jvm.Cond.code ({ cls := "java/lang/String", name := "<init>", desc := "(Ljava/lang/AbstractStringBuilder;Ljava/lang/Void;)V" } : Jvm.MethodName) prog_36_method_150_code (5 : Nat) (Option.none : Option Jvm.ClassFile.FieldType)) ∈ lw_all := lw_g (lw_at lw_m3 150 rfl) rfl
theorem q742 : (Jvm.Cond.methodLink "java/lang/String" (1 : Nat) ({ cls := "java/lang/Object", name := "<init>", desc := "()V" } : Jvm.MethodName)) ∈ lw_all := lw_g (lw_at lw_m3 151 rfl) rfl
theorem q743 : (Jvm.Cond.methodLink "java/lang/String" (552 : Nat) ({ cls := "java/lang/AbstractStringBuilder", name := "getValue", desc := "()[B" } : Jvm.MethodName)) ∈ lw_all := lw_g (lw_at lw_m3 152 rfl) rfl
theorem q748 : (Jvm.Cond.methodLink "java/lang/String" (549 : Nat) ({ cls := "java/lang/AbstractStringBuilder", name := "length", desc := "()I" } : Jvm.MethodName)) ∈ lw_all := lw_g (lw_at lw_m3 157 rfl) rfl
theorem q756 : (Jvm.Cond.methodLink "java/lang/String" (1047 : Nat) ({ cls := "java/lang/AbstractStringBuilder", name := "isLatin1", desc := "()Z" } : Jvm.MethodName)) ∈ lw_all := lw_g (lw_at lw_m3 165 rfl) rfl
theorem q757 : (Jvm.Cond.methodLink "java/lang/String" (54 : Nat) ({ cls := "java/util/Arrays", name := "copyOfRange", desc := "([BII)[B" } : Jvm.MethodName)) ∈ lw_all := lw_g (lw_at lw_m3 166 rfl) rfl
theorem q766 : (Jvm.Cond.methodLink "java/lang/String" (1051 : Nat) ({ cls := "java/lang/StringUTF16", name := "compress", desc := "([BII)[B" } : Jvm.MethodName)) ∈ lw_all := lw_g (lw_at lw_m3 175 rfl) rfl
theorem q773 : (Jvm.Cond.methodLink "java/lang/String" (47 : Nat) ({ cls := "java/lang/StringUTF16", name := "coderFromArrayLen", desc := "([BI)B" } : Jvm.MethodName)) ∈ lw_all := lw_g (lw_at lw_m3 182 rfl) rfl
theorem q776 : (Jvm.Cond.fieldLink "java/lang/String" (9 : Nat) "java/lang/String" "value" "[B") ∈ lw_all := lw_g (lw_at lw_m3 185 rfl) rfl
theorem q777 : (Jvm.Cond.fieldLink "java/lang/String" (15 : Nat) "java/lang/String" "coder" "B") ∈ lw_all := lw_g (lw_at lw_m3 186 rfl) rfl
theorem q778 : (Jvm.Cond.laysFinal "java/lang/String" "java/lang/String" "value" "[B") ∈ lw_all := lw_g (lw_at lw_m3 187 rfl) rfl
theorem q779 : (Jvm.Cond.soleField "java/lang/String" "value") ∈ lw_all := lw_g (lw_at lw_m3 188 rfl) rfl
theorem q780 : (Jvm.Cond.laysFinal "java/lang/String" "java/lang/String" "coder" "B") ∈ lw_all := lw_g (lw_at lw_m3 189 rfl) rfl
theorem q781 : (Jvm.Cond.soleField "java/lang/String" "coder") ∈ lw_all := lw_g (lw_at lw_m3 190 rfl) rfl
theorem q782 : (Jvm.Cond.lays "java/lang/String" "java/lang/String" "hash" "I") ∈ lw_all := lw_g (lw_at lw_m3 191 rfl) rfl
theorem q783 : (Jvm.Cond.soleField "java/lang/String" "hash") ∈ lw_all := lw_g (lw_at lw_m3 192 rfl) rfl
theorem q784 : (Jvm.Cond.lays "java/lang/String" "java/lang/String" "hashIsZero" "Z") ∈ lw_all := lw_g (lw_at lw_m3 193 rfl) rfl
theorem q785 : (Jvm.Cond.soleField "java/lang/String" "hashIsZero") ∈ lw_all := lw_g (lw_at lw_m3 194 rfl) rfl
theorem q786 : (Jvm.Cond.superclass "java/lang/String" "java/lang/Object") ∈ lw_all := lw_g (lw_at lw_m3 195 rfl) rfl
theorem q795 : (Jvm.Cond.instanceMethod ({ cls := "java/lang/String", name := "equals", desc := "(Ljava/lang/Object;)Z" } : Jvm.MethodName)) ∈ lw_all := lw_g (lw_at lw_m3 204 rfl) rfl
theorem q796 : (Jvm.Cond.selects "java/lang/String" ({ cls := "java/lang/String", name := "equals", desc := "(Ljava/lang/Object;)Z" } : Jvm.MethodName) ({ cls := "java/lang/String", name := "equals", desc := "(Ljava/lang/Object;)Z" } : Jvm.MethodName)) ∈ lw_all := lw_g (lw_at lw_m3 205 rfl) rfl
theorem q797 : (Jvm.Cond.code ({ cls := "java/lang/String", name := "equals", desc := "(Ljava/lang/Object;)Z" } : Jvm.MethodName) prog_36_method_66_code (3 : Nat) (Option.some Jvm.ClassFile.FieldType.boolean)) ∈ lw_all := lw_g (lw_at lw_m3 206 rfl) rfl
theorem q798 : (Jvm.Cond.classLink "java/lang/String" (10 : Nat) "java/lang/String") ∈ lw_all := lw_g (lw_at lw_m3 207 rfl) rfl
theorem q799 : (Jvm.Cond.methodLink "java/lang/String" (541 : Nat) ({ cls := "java/lang/StringLatin1", name := "equals", desc := "([B[B)Z" } : Jvm.MethodName)) ∈ lw_all := lw_g (lw_at lw_m3 208 rfl) rfl
theorem q882 : (Jvm.Cond.selects "java/lang/String" ({ cls := "java/lang/Object", name := "getClass", desc := "()Ljava/lang/Class;" } : Jvm.MethodName) ({ cls := "java/lang/Object", name := "getClass", desc := "()Ljava/lang/Class;" } : Jvm.MethodName)) ∈ lw_all := lw_g (lw_at lw_m4 51 rfl) rfl
theorem q2096 : (Jvm.Cond.castable "java/lang/String" "java/lang/Object") ∈ lw_tbl := lw_at lw_m9 65 rfl
theorem in_J5 : ∀ w ∈ wsJ50, w ∈ lw_all := lw_in wsJ50 [778, 780, 782, 784] (by decide +kernel) (by decide +kernel)
/-! java/lang/StringLatin1 -/
set_option maxRecDepth 100000
def RJ6 : String := "java/lang/StringLatin1"
abbrev cJ6_indexOf : ByteArray := prog_38_method_22_code
def yJ6_indexOf : MethodName := ⟨RJ6, "indexOf", "([BIII)I"⟩
def dkwJ6_indexOf_1 : List UInt8 := [161, 0, 5, 2, 172, 42, 27, 28, 29, 184, 0, 95, 172]
abbrev dktJ6_indexOf_1 : List UInt8 := dkwJ6_indexOf_1 ++ []
def dkwJ6_indexOf_0 : List UInt8 := [27, 184, 0, 88, 154, 0, 5, 2, 172, 28, 3, 184, 0, 92, 61, 29, 42, 190, 184, 0, 38, 62, 28, 29]
abbrev dktJ6_indexOf_0 : List UInt8 := dkwJ6_indexOf_0 ++ dktJ6_indexOf_1
theorem dksJ6_indexOf_0 : cJ6_indexOf.data.toList.drop 0 = dktJ6_indexOf_0 := by decide +kernel
theorem dksJ6_indexOf_1 : cJ6_indexOf.data.toList.drop 24 = dktJ6_indexOf_1 := dk_seg dksJ6_indexOf_0 24 rfl rfl
theorem dJ6_indexOf_0 : decode cJ6_indexOf 0 = .ok (.iload_n 1, 1) := dk_27 (dk_at dksJ6_indexOf_0 0 rfl rfl)
theorem dJ6_indexOf_1 : decode cJ6_indexOf 1 = .ok (.invokestatic 88, 3) := dk_184 0 88 (dk_at dksJ6_indexOf_0 1 rfl rfl)
theorem dJ6_indexOf_4 : decode cJ6_indexOf 4 = .ok (.ifCond .ne 5, 3) := dk_154 0 5 (dk_at dksJ6_indexOf_0 4 rfl rfl)
theorem dJ6_indexOf_7 : decode cJ6_indexOf 7 = .ok (.iconst (-1), 1) := dk_2 (dk_at dksJ6_indexOf_0 7 rfl rfl)
theorem dJ6_indexOf_8 : decode cJ6_indexOf 8 = .ok (.ireturn, 1) := dk_172 (dk_at dksJ6_indexOf_0 8 rfl rfl)
theorem dJ6_indexOf_9 : decode cJ6_indexOf 9 = .ok (.iload_n 2, 1) := dk_28 (dk_at dksJ6_indexOf_0 9 rfl rfl)
theorem dJ6_indexOf_10 : decode cJ6_indexOf 10 = .ok (.iconst 0, 1) := dk_3 (dk_at dksJ6_indexOf_0 10 rfl rfl)
theorem dJ6_indexOf_11 : decode cJ6_indexOf 11 = .ok (.invokestatic 92, 3) := dk_184 0 92 (dk_at dksJ6_indexOf_0 11 rfl rfl)
theorem dJ6_indexOf_14 : decode cJ6_indexOf 14 = .ok (.istore_n 2, 1) := dk_61 (dk_at dksJ6_indexOf_0 14 rfl rfl)
theorem dJ6_indexOf_15 : decode cJ6_indexOf 15 = .ok (.iload_n 3, 1) := dk_29 (dk_at dksJ6_indexOf_0 15 rfl rfl)
theorem dJ6_indexOf_16 : decode cJ6_indexOf 16 = .ok (.aload_n 0, 1) := dk_42 (dk_at dksJ6_indexOf_0 16 rfl rfl)
theorem dJ6_indexOf_17 : decode cJ6_indexOf 17 = .ok (.arraylength, 1) := dk_190 (dk_at dksJ6_indexOf_0 17 rfl rfl)
theorem dJ6_indexOf_18 : decode cJ6_indexOf 18 = .ok (.invokestatic 38, 3) := dk_184 0 38 (dk_at dksJ6_indexOf_0 18 rfl rfl)
theorem dJ6_indexOf_21 : decode cJ6_indexOf 21 = .ok (.istore_n 3, 1) := dk_62 (dk_at dksJ6_indexOf_0 21 rfl rfl)
theorem dJ6_indexOf_22 : decode cJ6_indexOf 22 = .ok (.iload_n 2, 1) := dk_28 (dk_at dksJ6_indexOf_0 22 rfl rfl)
theorem dJ6_indexOf_23 : decode cJ6_indexOf 23 = .ok (.iload_n 3, 1) := dk_29 (dk_at dksJ6_indexOf_0 23 rfl rfl)
theorem dJ6_indexOf_24 : decode cJ6_indexOf 24 = .ok (.if_icmp .lt 5, 3) := dk_161 0 5 (dk_at dksJ6_indexOf_1 0 rfl rfl)
theorem dJ6_indexOf_27 : decode cJ6_indexOf 27 = .ok (.iconst (-1), 1) := dk_2 (dk_at dksJ6_indexOf_1 3 rfl rfl)
theorem dJ6_indexOf_28 : decode cJ6_indexOf 28 = .ok (.ireturn, 1) := dk_172 (dk_at dksJ6_indexOf_1 4 rfl rfl)
theorem dJ6_indexOf_29 : decode cJ6_indexOf 29 = .ok (.aload_n 0, 1) := dk_42 (dk_at dksJ6_indexOf_1 5 rfl rfl)
theorem dJ6_indexOf_30 : decode cJ6_indexOf 30 = .ok (.iload_n 1, 1) := dk_27 (dk_at dksJ6_indexOf_1 6 rfl rfl)
theorem dJ6_indexOf_31 : decode cJ6_indexOf 31 = .ok (.iload_n 2, 1) := dk_28 (dk_at dksJ6_indexOf_1 7 rfl rfl)
theorem dJ6_indexOf_32 : decode cJ6_indexOf 32 = .ok (.iload_n 3, 1) := dk_29 (dk_at dksJ6_indexOf_1 8 rfl rfl)
theorem dJ6_indexOf_33 : decode cJ6_indexOf 33 = .ok (.invokestatic 95, 3) := dk_184 0 95 (dk_at dksJ6_indexOf_1 9 rfl rfl)
theorem dJ6_indexOf_36 : decode cJ6_indexOf 36 = .ok (.ireturn, 1) := dk_172 (dk_at dksJ6_indexOf_1 12 rfl rfl)
abbrev cJ6_canEncode : ByteArray := prog_38_method_4_code
def yJ6_canEncode : MethodName := ⟨RJ6, "canEncode", "(I)Z"⟩
def dkwJ6_canEncode_0 : List UInt8 := [26, 155, 0, 14, 26, 17, 0, 255, 163, 0, 7, 4, 167, 0, 4, 3, 172]
abbrev dktJ6_canEncode_0 : List UInt8 := dkwJ6_canEncode_0 ++ []
theorem dksJ6_canEncode_0 : cJ6_canEncode.data.toList.drop 0 = dktJ6_canEncode_0 := by decide +kernel
theorem dJ6_canEncode_0 : decode cJ6_canEncode 0 = .ok (.iload_n 0, 1) := dk_26 (dk_at dksJ6_canEncode_0 0 rfl rfl)
theorem dJ6_canEncode_1 : decode cJ6_canEncode 1 = .ok (.ifCond .lt 14, 3) := dk_155 0 14 (dk_at dksJ6_canEncode_0 1 rfl rfl)
theorem dJ6_canEncode_4 : decode cJ6_canEncode 4 = .ok (.iload_n 0, 1) := dk_26 (dk_at dksJ6_canEncode_0 4 rfl rfl)
theorem dJ6_canEncode_5 : decode cJ6_canEncode 5 = .ok (.sipush 255, 3) := dk_17 0 255 (dk_at dksJ6_canEncode_0 5 rfl rfl)
theorem dJ6_canEncode_8 : decode cJ6_canEncode 8 = .ok (.if_icmp .gt 7, 3) := dk_163 0 7 (dk_at dksJ6_canEncode_0 8 rfl rfl)
theorem dJ6_canEncode_11 : decode cJ6_canEncode 11 = .ok (.iconst 1, 1) := dk_4 (dk_at dksJ6_canEncode_0 11 rfl rfl)
theorem dJ6_canEncode_12 : decode cJ6_canEncode 12 = .ok (.goto 4, 3) := dk_167 0 4 (dk_at dksJ6_canEncode_0 12 rfl rfl)
theorem dJ6_canEncode_15 : decode cJ6_canEncode 15 = .ok (.iconst 0, 1) := dk_3 (dk_at dksJ6_canEncode_0 15 rfl rfl)
theorem dJ6_canEncode_16 : decode cJ6_canEncode 16 = .ok (.ireturn, 1) := dk_172 (dk_at dksJ6_canEncode_0 16 rfl rfl)
abbrev cJ6_indexOfChar : ByteArray := prog_38_method_23_code
def yJ6_indexOfChar : MethodName := ⟨RJ6, "indexOfChar", "([BIII)I"⟩
def dkwJ6_indexOfChar_1 : List UInt8 := [172, 132, 5, 1, 167, 255, 235, 2, 172]
abbrev dktJ6_indexOfChar_1 : List UInt8 := dkwJ6_indexOfChar_1 ++ []
def dkwJ6_indexOfChar_0 : List UInt8 := [27, 145, 54, 4, 28, 54, 5, 21, 5, 29, 162, 0, 21, 42, 21, 5, 51, 21, 4, 160, 0, 6, 21, 5]
abbrev dktJ6_indexOfChar_0 : List UInt8 := dkwJ6_indexOfChar_0 ++ dktJ6_indexOfChar_1
theorem dksJ6_indexOfChar_0 : cJ6_indexOfChar.data.toList.drop 0 = dktJ6_indexOfChar_0 := by decide +kernel
theorem dksJ6_indexOfChar_1 : cJ6_indexOfChar.data.toList.drop 24 = dktJ6_indexOfChar_1 := dk_seg dksJ6_indexOfChar_0 24 rfl rfl
theorem dJ6_indexOfChar_0 : decode cJ6_indexOfChar 0 = .ok (.iload_n 1, 1) := dk_27 (dk_at dksJ6_indexOfChar_0 0 rfl rfl)
theorem dJ6_indexOfChar_1 : decode cJ6_indexOfChar 1 = .ok (.i2b, 1) := dk_145 (dk_at dksJ6_indexOfChar_0 1 rfl rfl)
theorem dJ6_indexOfChar_2 : decode cJ6_indexOfChar 2 = .ok (.istore 4, 2) := dk_54 4 (dk_at dksJ6_indexOfChar_0 2 rfl rfl)
theorem dJ6_indexOfChar_4 : decode cJ6_indexOfChar 4 = .ok (.iload_n 2, 1) := dk_28 (dk_at dksJ6_indexOfChar_0 4 rfl rfl)
theorem dJ6_indexOfChar_5 : decode cJ6_indexOfChar 5 = .ok (.istore 5, 2) := dk_54 5 (dk_at dksJ6_indexOfChar_0 5 rfl rfl)
theorem dJ6_indexOfChar_7 : decode cJ6_indexOfChar 7 = .ok (.iload 5, 2) := dk_21 5 (dk_at dksJ6_indexOfChar_0 7 rfl rfl)
theorem dJ6_indexOfChar_9 : decode cJ6_indexOfChar 9 = .ok (.iload_n 3, 1) := dk_29 (dk_at dksJ6_indexOfChar_0 9 rfl rfl)
theorem dJ6_indexOfChar_10 : decode cJ6_indexOfChar 10 = .ok (.if_icmp .ge 21, 3) := dk_162 0 21 (dk_at dksJ6_indexOfChar_0 10 rfl rfl)
theorem dJ6_indexOfChar_13 : decode cJ6_indexOfChar 13 = .ok (.aload_n 0, 1) := dk_42 (dk_at dksJ6_indexOfChar_0 13 rfl rfl)
theorem dJ6_indexOfChar_14 : decode cJ6_indexOfChar 14 = .ok (.iload 5, 2) := dk_21 5 (dk_at dksJ6_indexOfChar_0 14 rfl rfl)
theorem dJ6_indexOfChar_16 : decode cJ6_indexOfChar 16 = .ok (.baload, 1) := dk_51 (dk_at dksJ6_indexOfChar_0 16 rfl rfl)
theorem dJ6_indexOfChar_17 : decode cJ6_indexOfChar 17 = .ok (.iload 4, 2) := dk_21 4 (dk_at dksJ6_indexOfChar_0 17 rfl rfl)
theorem dJ6_indexOfChar_19 : decode cJ6_indexOfChar 19 = .ok (.if_icmp .ne 6, 3) := dk_160 0 6 (dk_at dksJ6_indexOfChar_0 19 rfl rfl)
theorem dJ6_indexOfChar_22 : decode cJ6_indexOfChar 22 = .ok (.iload 5, 2) := dk_21 5 (dk_at dksJ6_indexOfChar_0 22 rfl rfl)
theorem dJ6_indexOfChar_24 : decode cJ6_indexOfChar 24 = .ok (.ireturn, 1) := dk_172 (dk_at dksJ6_indexOfChar_1 0 rfl rfl)
theorem dJ6_indexOfChar_25 : decode cJ6_indexOfChar 25 = .ok (.iinc 5 1, 3) := dk_132 5 1 (dk_at dksJ6_indexOfChar_1 1 rfl rfl)
theorem dJ6_indexOfChar_28 : decode cJ6_indexOfChar 28 = .ok (.goto (-21), 3) := dk_167 255 235 (dk_at dksJ6_indexOfChar_1 4 rfl rfl)
theorem dJ6_indexOfChar_31 : decode cJ6_indexOfChar 31 = .ok (.iconst (-1), 1) := dk_2 (dk_at dksJ6_indexOfChar_1 7 rfl rfl)
theorem dJ6_indexOfChar_32 : decode cJ6_indexOfChar 32 = .ok (.ireturn, 1) := dk_172 (dk_at dksJ6_indexOfChar_1 8 rfl rfl)
abbrev cJ6_charAt : ByteArray := prog_38_method_2_code
def yJ6_charAt : MethodName := ⟨RJ6, "charAt", "([BI)C"⟩
def dkwJ6_charAt_0 : List UInt8 := [27, 42, 190, 184, 0, 9, 42, 27, 51, 17, 0, 255, 126, 146, 172]
abbrev dktJ6_charAt_0 : List UInt8 := dkwJ6_charAt_0 ++ []
theorem dksJ6_charAt_0 : cJ6_charAt.data.toList.drop 0 = dktJ6_charAt_0 := by decide +kernel
theorem dJ6_charAt_0 : decode cJ6_charAt 0 = .ok (.iload_n 1, 1) := dk_27 (dk_at dksJ6_charAt_0 0 rfl rfl)
theorem dJ6_charAt_1 : decode cJ6_charAt 1 = .ok (.aload_n 0, 1) := dk_42 (dk_at dksJ6_charAt_0 1 rfl rfl)
theorem dJ6_charAt_2 : decode cJ6_charAt 2 = .ok (.arraylength, 1) := dk_190 (dk_at dksJ6_charAt_0 2 rfl rfl)
theorem dJ6_charAt_3 : decode cJ6_charAt 3 = .ok (.invokestatic 9, 3) := dk_184 0 9 (dk_at dksJ6_charAt_0 3 rfl rfl)
theorem dJ6_charAt_6 : decode cJ6_charAt 6 = .ok (.aload_n 0, 1) := dk_42 (dk_at dksJ6_charAt_0 6 rfl rfl)
theorem dJ6_charAt_7 : decode cJ6_charAt 7 = .ok (.iload_n 1, 1) := dk_27 (dk_at dksJ6_charAt_0 7 rfl rfl)
theorem dJ6_charAt_8 : decode cJ6_charAt 8 = .ok (.baload, 1) := dk_51 (dk_at dksJ6_charAt_0 8 rfl rfl)
theorem dJ6_charAt_9 : decode cJ6_charAt 9 = .ok (.sipush 255, 3) := dk_17 0 255 (dk_at dksJ6_charAt_0 9 rfl rfl)
theorem dJ6_charAt_12 : decode cJ6_charAt 12 = .ok (.iand, 1) := dk_126 (dk_at dksJ6_charAt_0 12 rfl rfl)
theorem dJ6_charAt_13 : decode cJ6_charAt 13 = .ok (.i2c, 1) := dk_146 (dk_at dksJ6_charAt_0 13 rfl rfl)
theorem dJ6_charAt_14 : decode cJ6_charAt 14 = .ok (.ireturn, 1) := dk_172 (dk_at dksJ6_charAt_0 14 rfl rfl)
abbrev cJ6_canEncode_2 : ByteArray := prog_38_method_3_code
def yJ6_canEncode_2 : MethodName := ⟨RJ6, "canEncode", "(C)Z"⟩
def dkwJ6_canEncode_2_0 : List UInt8 := [26, 17, 0, 255, 163, 0, 7, 4, 167, 0, 4, 3, 172]
abbrev dktJ6_canEncode_2_0 : List UInt8 := dkwJ6_canEncode_2_0 ++ []
theorem dksJ6_canEncode_2_0 : cJ6_canEncode_2.data.toList.drop 0 = dktJ6_canEncode_2_0 := by decide +kernel
theorem dJ6_canEncode_2_0 : decode cJ6_canEncode_2 0 = .ok (.iload_n 0, 1) := dk_26 (dk_at dksJ6_canEncode_2_0 0 rfl rfl)
theorem dJ6_canEncode_2_1 : decode cJ6_canEncode_2 1 = .ok (.sipush 255, 3) := dk_17 0 255 (dk_at dksJ6_canEncode_2_0 1 rfl rfl)
theorem dJ6_canEncode_2_4 : decode cJ6_canEncode_2 4 = .ok (.if_icmp .gt 7, 3) := dk_163 0 7 (dk_at dksJ6_canEncode_2_0 4 rfl rfl)
theorem dJ6_canEncode_2_7 : decode cJ6_canEncode_2 7 = .ok (.iconst 1, 1) := dk_4 (dk_at dksJ6_canEncode_2_0 7 rfl rfl)
theorem dJ6_canEncode_2_8 : decode cJ6_canEncode_2 8 = .ok (.goto 4, 3) := dk_167 0 4 (dk_at dksJ6_canEncode_2_0 8 rfl rfl)
theorem dJ6_canEncode_2_11 : decode cJ6_canEncode_2 11 = .ok (.iconst 0, 1) := dk_3 (dk_at dksJ6_canEncode_2_0 11 rfl rfl)
theorem dJ6_canEncode_2_12 : decode cJ6_canEncode_2 12 = .ok (.ireturn, 1) := dk_172 (dk_at dksJ6_canEncode_2_0 12 rfl rfl)
abbrev cJ6_inflate : ByteArray := prog_38_method_50_code
def yJ6_inflate : MethodName := ⟨RJ6, "inflate", "([BI[BII)V"⟩
def dkwJ6_inflate_0 : List UInt8 := [42, 27, 44, 29, 21, 4, 184, 0, 240, 177]
abbrev dktJ6_inflate_0 : List UInt8 := dkwJ6_inflate_0 ++ []
theorem dksJ6_inflate_0 : cJ6_inflate.data.toList.drop 0 = dktJ6_inflate_0 := by decide +kernel
theorem dJ6_inflate_0 : decode cJ6_inflate 0 = .ok (.aload_n 0, 1) := dk_42 (dk_at dksJ6_inflate_0 0 rfl rfl)
theorem dJ6_inflate_1 : decode cJ6_inflate 1 = .ok (.iload_n 1, 1) := dk_27 (dk_at dksJ6_inflate_0 1 rfl rfl)
theorem dJ6_inflate_2 : decode cJ6_inflate 2 = .ok (.aload_n 2, 1) := dk_44 (dk_at dksJ6_inflate_0 2 rfl rfl)
theorem dJ6_inflate_3 : decode cJ6_inflate 3 = .ok (.iload_n 3, 1) := dk_29 (dk_at dksJ6_inflate_0 3 rfl rfl)
theorem dJ6_inflate_4 : decode cJ6_inflate 4 = .ok (.iload 4, 2) := dk_21 4 (dk_at dksJ6_inflate_0 4 rfl rfl)
theorem dJ6_inflate_6 : decode cJ6_inflate 6 = .ok (.invokestatic 240, 3) := dk_184 0 240 (dk_at dksJ6_inflate_0 6 rfl rfl)
theorem dJ6_inflate_9 : decode cJ6_inflate 9 = .ok (.return_, 1) := dk_177 (dk_at dksJ6_inflate_0 9 rfl rfl)
abbrev cJ6_equals : ByteArray := prog_38_method_13_code
def yJ6_equals : MethodName := ⟨RJ6, "equals", "([B[B)Z"⟩
def dkwJ6_equals_1 : List UInt8 := [3, 172, 132, 2, 1, 167, 255, 236, 4, 172, 3, 172]
abbrev dktJ6_equals_1 : List UInt8 := dkwJ6_equals_1 ++ []
def dkwJ6_equals_0 : List UInt8 := [42, 190, 43, 190, 160, 0, 30, 3, 61, 28, 42, 190, 162, 0, 20, 42, 28, 51, 43, 28, 51, 159, 0, 5]
abbrev dktJ6_equals_0 : List UInt8 := dkwJ6_equals_0 ++ dktJ6_equals_1
theorem dksJ6_equals_0 : cJ6_equals.data.toList.drop 0 = dktJ6_equals_0 := by decide +kernel
theorem dksJ6_equals_1 : cJ6_equals.data.toList.drop 24 = dktJ6_equals_1 := dk_seg dksJ6_equals_0 24 rfl rfl
theorem dJ6_equals_0 : decode cJ6_equals 0 = .ok (.aload_n 0, 1) := dk_42 (dk_at dksJ6_equals_0 0 rfl rfl)
theorem dJ6_equals_1 : decode cJ6_equals 1 = .ok (.arraylength, 1) := dk_190 (dk_at dksJ6_equals_0 1 rfl rfl)
theorem dJ6_equals_2 : decode cJ6_equals 2 = .ok (.aload_n 1, 1) := dk_43 (dk_at dksJ6_equals_0 2 rfl rfl)
theorem dJ6_equals_3 : decode cJ6_equals 3 = .ok (.arraylength, 1) := dk_190 (dk_at dksJ6_equals_0 3 rfl rfl)
theorem dJ6_equals_4 : decode cJ6_equals 4 = .ok (.if_icmp .ne 30, 3) := dk_160 0 30 (dk_at dksJ6_equals_0 4 rfl rfl)
theorem dJ6_equals_7 : decode cJ6_equals 7 = .ok (.iconst 0, 1) := dk_3 (dk_at dksJ6_equals_0 7 rfl rfl)
theorem dJ6_equals_8 : decode cJ6_equals 8 = .ok (.istore_n 2, 1) := dk_61 (dk_at dksJ6_equals_0 8 rfl rfl)
theorem dJ6_equals_9 : decode cJ6_equals 9 = .ok (.iload_n 2, 1) := dk_28 (dk_at dksJ6_equals_0 9 rfl rfl)
theorem dJ6_equals_10 : decode cJ6_equals 10 = .ok (.aload_n 0, 1) := dk_42 (dk_at dksJ6_equals_0 10 rfl rfl)
theorem dJ6_equals_11 : decode cJ6_equals 11 = .ok (.arraylength, 1) := dk_190 (dk_at dksJ6_equals_0 11 rfl rfl)
theorem dJ6_equals_12 : decode cJ6_equals 12 = .ok (.if_icmp .ge 20, 3) := dk_162 0 20 (dk_at dksJ6_equals_0 12 rfl rfl)
theorem dJ6_equals_15 : decode cJ6_equals 15 = .ok (.aload_n 0, 1) := dk_42 (dk_at dksJ6_equals_0 15 rfl rfl)
theorem dJ6_equals_16 : decode cJ6_equals 16 = .ok (.iload_n 2, 1) := dk_28 (dk_at dksJ6_equals_0 16 rfl rfl)
theorem dJ6_equals_17 : decode cJ6_equals 17 = .ok (.baload, 1) := dk_51 (dk_at dksJ6_equals_0 17 rfl rfl)
theorem dJ6_equals_18 : decode cJ6_equals 18 = .ok (.aload_n 1, 1) := dk_43 (dk_at dksJ6_equals_0 18 rfl rfl)
theorem dJ6_equals_19 : decode cJ6_equals 19 = .ok (.iload_n 2, 1) := dk_28 (dk_at dksJ6_equals_0 19 rfl rfl)
theorem dJ6_equals_20 : decode cJ6_equals 20 = .ok (.baload, 1) := dk_51 (dk_at dksJ6_equals_0 20 rfl rfl)
theorem dJ6_equals_21 : decode cJ6_equals 21 = .ok (.if_icmp .eq 5, 3) := dk_159 0 5 (dk_at dksJ6_equals_0 21 rfl rfl)
theorem dJ6_equals_24 : decode cJ6_equals 24 = .ok (.iconst 0, 1) := dk_3 (dk_at dksJ6_equals_1 0 rfl rfl)
theorem dJ6_equals_25 : decode cJ6_equals 25 = .ok (.ireturn, 1) := dk_172 (dk_at dksJ6_equals_1 1 rfl rfl)
theorem dJ6_equals_26 : decode cJ6_equals 26 = .ok (.iinc 2 1, 3) := dk_132 2 1 (dk_at dksJ6_equals_1 2 rfl rfl)
theorem dJ6_equals_29 : decode cJ6_equals 29 = .ok (.goto (-20), 3) := dk_167 255 236 (dk_at dksJ6_equals_1 5 rfl rfl)
theorem dJ6_equals_32 : decode cJ6_equals 32 = .ok (.iconst 1, 1) := dk_4 (dk_at dksJ6_equals_1 8 rfl rfl)
theorem dJ6_equals_33 : decode cJ6_equals 33 = .ok (.ireturn, 1) := dk_172 (dk_at dksJ6_equals_1 9 rfl rfl)
theorem dJ6_equals_34 : decode cJ6_equals 34 = .ok (.iconst 0, 1) := dk_3 (dk_at dksJ6_equals_1 10 rfl rfl)
theorem dJ6_equals_35 : decode cJ6_equals 35 = .ok (.ireturn, 1) := dk_172 (dk_at dksJ6_equals_1 11 rfl rfl)
theorem q123 : (Jvm.Cond.initialized "java/lang/StringLatin1") ∈ lw_all := lw_g (lw_at lw_m1 12 rfl) rfl
theorem q446 : (Jvm.Cond.static ({ cls := "java/lang/StringLatin1", name := "indexOf", desc := "([BIII)I" } : Jvm.MethodName)) ∈ lw_all := lw_g (lw_at lw_m2 95 rfl) rfl
theorem q447 : (Jvm.Cond.code ({ cls := "java/lang/StringLatin1", name := "indexOf", desc := "([BIII)I" } : Jvm.MethodName) prog_38_method_22_code (4 : Nat) (Option.some Jvm.ClassFile.FieldType.int)) ∈ lw_all := lw_g (lw_at lw_m2 96 rfl) rfl
theorem q448 : (Jvm.Cond.methodLink "java/lang/StringLatin1" (88 : Nat) ({ cls := "java/lang/StringLatin1", name := "canEncode", desc := "(I)Z" } : Jvm.MethodName)) ∈ lw_all := lw_g (lw_at lw_m2 97 rfl) rfl
theorem q449 : (Jvm.Cond.static ({ cls := "java/lang/StringLatin1", name := "canEncode", desc := "(I)Z" } : Jvm.MethodName)) ∈ lw_all := lw_g (lw_at lw_m2 98 rfl) rfl
theorem q450 : (Jvm.Cond.code ({ cls := "java/lang/StringLatin1", name := "canEncode", desc := "(I)Z" } : Jvm.MethodName) prog_38_method_4_code (1 : Nat) (Option.some Jvm.ClassFile.FieldType.boolean)) ∈ lw_all := lw_g (lw_at lw_m2 99 rfl) rfl
theorem q451 : (Jvm.Cond.methodLink "java/lang/StringLatin1" (92 : Nat) ({ cls := "java/lang/Math", name := "max", desc := "(II)I" } : Jvm.MethodName)) ∈ lw_all := lw_g (lw_at lw_m2 100 rfl) rfl
theorem q454 : (Jvm.Cond.methodLink "java/lang/StringLatin1" (38 : Nat) ({ cls := "java/lang/Math", name := "min", desc := "(II)I" } : Jvm.MethodName)) ∈ lw_all := lw_g (lw_at lw_m2 103 rfl) rfl
theorem q457 : (Jvm.Cond.methodLink "java/lang/StringLatin1" (95 : Nat) ({ cls := "java/lang/StringLatin1", name := "indexOfChar", desc := "([BIII)I" } : Jvm.MethodName)) ∈ lw_all := lw_g (lw_at lw_m2 106 rfl) rfl
theorem q458 : (Jvm.Cond.static ({ cls := "java/lang/StringLatin1", name := "indexOfChar", desc := "([BIII)I" } : Jvm.MethodName)) ∈ lw_all := lw_g (lw_at lw_m2 107 rfl) rfl
theorem q459 : (Jvm.Cond.code ({ cls := "java/lang/StringLatin1", name := "indexOfChar", desc := "([BIII)I" } : Jvm.MethodName) prog_38_method_23_code (6 : Nat) (Option.some Jvm.ClassFile.FieldType.int)) ∈ lw_all := lw_g (lw_at lw_m2 108 rfl) rfl
theorem q527 : (Jvm.Cond.static ({ cls := "java/lang/StringLatin1", name := "charAt", desc := "([BI)C" } : Jvm.MethodName)) ∈ lw_all := lw_g (lw_at lw_m2 176 rfl) rfl
theorem q528 : (Jvm.Cond.code ({ cls := "java/lang/StringLatin1", name := "charAt", desc := "([BI)C" } : Jvm.MethodName) prog_38_method_2_code (2 : Nat) (Option.some Jvm.ClassFile.FieldType.char)) ∈ lw_all := lw_g (lw_at lw_m2 177 rfl) rfl
theorem q529 : (Jvm.Cond.methodLink "java/lang/StringLatin1" (9 : Nat) ({ cls := "java/lang/String", name := "checkIndex", desc := "(II)V" } : Jvm.MethodName)) ∈ lw_all := lw_g (lw_at lw_m2 178 rfl) rfl
theorem q703 : (Jvm.Cond.static ({ cls := "java/lang/StringLatin1", name := "canEncode", desc := "(C)Z" } : Jvm.MethodName)) ∈ lw_all := lw_g (lw_at lw_m3 112 rfl) rfl
theorem q704 : (Jvm.Cond.code ({ cls := "java/lang/StringLatin1", name := "canEncode", desc := "(C)Z" } : Jvm.MethodName) prog_38_method_3_code (1 : Nat) (Option.some Jvm.ClassFile.FieldType.boolean)) ∈ lw_all := lw_g (lw_at lw_m3 113 rfl) rfl
theorem q710 : (Jvm.Cond.static ({ cls := "java/lang/StringLatin1", name := "inflate", desc := "([BI[BII)V" } : Jvm.MethodName)) ∈ lw_all := lw_g (lw_at lw_m3 119 rfl) rfl
theorem q711 : (Jvm.Cond.code ({ cls := "java/lang/StringLatin1", name := "inflate", desc := "([BI[BII)V" } : Jvm.MethodName) prog_38_method_50_code (5 : Nat) (Option.none : Option Jvm.ClassFile.FieldType)) ∈ lw_all := lw_g (lw_at lw_m3 120 rfl) rfl
theorem q712 : (Jvm.Cond.methodLink "java/lang/StringLatin1" (240 : Nat) ({ cls := "java/lang/StringUTF16", name := "inflate", desc := "([BI[BII)V" } : Jvm.MethodName)) ∈ lw_all := lw_g (lw_at lw_m3 121 rfl) rfl
theorem q800 : (Jvm.Cond.static ({ cls := "java/lang/StringLatin1", name := "equals", desc := "([B[B)Z" } : Jvm.MethodName)) ∈ lw_all := lw_g (lw_at lw_m3 209 rfl) rfl
theorem q801 : (Jvm.Cond.code ({ cls := "java/lang/StringLatin1", name := "equals", desc := "([B[B)Z" } : Jvm.MethodName) prog_38_method_13_code (3 : Nat) (Option.some Jvm.ClassFile.FieldType.boolean)) ∈ lw_all := lw_g (lw_at lw_m3 210 rfl) rfl
/-! java/lang/Math -/
set_option maxRecDepth 100000
def RJ7 : String := "java/lang/Math"
abbrev cJ7_max : ByteArray := prog_34_method_65_code
def yJ7_max : MethodName := ⟨RJ7, "max", "(II)I"⟩
def dkwJ7_max_0 : List UInt8 := [26, 27, 161, 0, 7, 26, 167, 0, 4, 27, 172]
abbrev dktJ7_max_0 : List UInt8 := dkwJ7_max_0 ++ []
theorem dksJ7_max_0 : cJ7_max.data.toList.drop 0 = dktJ7_max_0 := by decide +kernel
theorem dJ7_max_0 : decode cJ7_max 0 = .ok (.iload_n 0, 1) := dk_26 (dk_at dksJ7_max_0 0 rfl rfl)
theorem dJ7_max_1 : decode cJ7_max 1 = .ok (.iload_n 1, 1) := dk_27 (dk_at dksJ7_max_0 1 rfl rfl)
theorem dJ7_max_2 : decode cJ7_max 2 = .ok (.if_icmp .lt 7, 3) := dk_161 0 7 (dk_at dksJ7_max_0 2 rfl rfl)
theorem dJ7_max_5 : decode cJ7_max 5 = .ok (.iload_n 0, 1) := dk_26 (dk_at dksJ7_max_0 5 rfl rfl)
theorem dJ7_max_6 : decode cJ7_max 6 = .ok (.goto 4, 3) := dk_167 0 4 (dk_at dksJ7_max_0 6 rfl rfl)
theorem dJ7_max_9 : decode cJ7_max 9 = .ok (.iload_n 1, 1) := dk_27 (dk_at dksJ7_max_0 9 rfl rfl)
theorem dJ7_max_10 : decode cJ7_max 10 = .ok (.ireturn, 1) := dk_172 (dk_at dksJ7_max_0 10 rfl rfl)
abbrev cJ7_min : ByteArray := prog_34_method_69_code
def yJ7_min : MethodName := ⟨RJ7, "min", "(II)I"⟩
def dkwJ7_min_0 : List UInt8 := [26, 27, 163, 0, 7, 26, 167, 0, 4, 27, 172]
abbrev dktJ7_min_0 : List UInt8 := dkwJ7_min_0 ++ []
theorem dksJ7_min_0 : cJ7_min.data.toList.drop 0 = dktJ7_min_0 := by decide +kernel
theorem dJ7_min_0 : decode cJ7_min 0 = .ok (.iload_n 0, 1) := dk_26 (dk_at dksJ7_min_0 0 rfl rfl)
theorem dJ7_min_1 : decode cJ7_min 1 = .ok (.iload_n 1, 1) := dk_27 (dk_at dksJ7_min_0 1 rfl rfl)
theorem dJ7_min_2 : decode cJ7_min 2 = .ok (.if_icmp .gt 7, 3) := dk_163 0 7 (dk_at dksJ7_min_0 2 rfl rfl)
theorem dJ7_min_5 : decode cJ7_min 5 = .ok (.iload_n 0, 1) := dk_26 (dk_at dksJ7_min_0 5 rfl rfl)
theorem dJ7_min_6 : decode cJ7_min 6 = .ok (.goto 4, 3) := dk_167 0 4 (dk_at dksJ7_min_0 6 rfl rfl)
theorem dJ7_min_9 : decode cJ7_min 9 = .ok (.iload_n 1, 1) := dk_27 (dk_at dksJ7_min_0 9 rfl rfl)
theorem dJ7_min_10 : decode cJ7_min 10 = .ok (.ireturn, 1) := dk_172 (dk_at dksJ7_min_0 10 rfl rfl)
theorem q124 : (Jvm.Cond.initialized "java/lang/Math") ∈ lw_all := lw_g (lw_at lw_m1 13 rfl) rfl
theorem q452 : (Jvm.Cond.static ({ cls := "java/lang/Math", name := "max", desc := "(II)I" } : Jvm.MethodName)) ∈ lw_all := lw_g (lw_at lw_m2 101 rfl) rfl
theorem q453 : (Jvm.Cond.code ({ cls := "java/lang/Math", name := "max", desc := "(II)I" } : Jvm.MethodName) prog_34_method_65_code (2 : Nat) (Option.some Jvm.ClassFile.FieldType.int)) ∈ lw_all := lw_g (lw_at lw_m2 102 rfl) rfl
theorem q455 : (Jvm.Cond.static ({ cls := "java/lang/Math", name := "min", desc := "(II)I" } : Jvm.MethodName)) ∈ lw_all := lw_g (lw_at lw_m2 104 rfl) rfl
theorem q456 : (Jvm.Cond.code ({ cls := "java/lang/Math", name := "min", desc := "(II)I" } : Jvm.MethodName) prog_34_method_69_code (2 : Nat) (Option.some Jvm.ClassFile.FieldType.int)) ∈ lw_all := lw_g (lw_at lw_m2 105 rfl) rfl
/-! java/lang/StringUTF16 -/
set_option maxRecDepth 100000
def RJ8 : String := "java/lang/StringUTF16"
abbrev cJ8_indexOf : ByteArray := prog_39_method_40_code
def yJ8_indexOf : MethodName := ⟨RJ8, "indexOf", "([BIII)I"⟩
def dkwJ8_indexOf_1 : List UInt8 := [18, 227, 162, 0, 11, 42, 27, 28, 29, 184, 0, 228, 172, 42, 27, 28, 29, 184, 0, 232, 172]
abbrev dktJ8_indexOf_1 : List UInt8 := dkwJ8_indexOf_1 ++ []
def dkwJ8_indexOf_0 : List UInt8 := [28, 3, 184, 0, 224, 61, 29, 42, 190, 4, 122, 184, 0, 183, 62, 28, 29, 161, 0, 5, 2, 172, 27]
abbrev dktJ8_indexOf_0 : List UInt8 := dkwJ8_indexOf_0 ++ dktJ8_indexOf_1
theorem dksJ8_indexOf_0 : cJ8_indexOf.data.toList.drop 0 = dktJ8_indexOf_0 := by decide +kernel
theorem dksJ8_indexOf_1 : cJ8_indexOf.data.toList.drop 23 = dktJ8_indexOf_1 := dk_seg dksJ8_indexOf_0 23 rfl rfl
theorem dJ8_indexOf_0 : decode cJ8_indexOf 0 = .ok (.iload_n 2, 1) := dk_28 (dk_at dksJ8_indexOf_0 0 rfl rfl)
theorem dJ8_indexOf_1 : decode cJ8_indexOf 1 = .ok (.iconst 0, 1) := dk_3 (dk_at dksJ8_indexOf_0 1 rfl rfl)
theorem dJ8_indexOf_2 : decode cJ8_indexOf 2 = .ok (.invokestatic 224, 3) := dk_184 0 224 (dk_at dksJ8_indexOf_0 2 rfl rfl)
theorem dJ8_indexOf_5 : decode cJ8_indexOf 5 = .ok (.istore_n 2, 1) := dk_61 (dk_at dksJ8_indexOf_0 5 rfl rfl)
theorem dJ8_indexOf_6 : decode cJ8_indexOf 6 = .ok (.iload_n 3, 1) := dk_29 (dk_at dksJ8_indexOf_0 6 rfl rfl)
theorem dJ8_indexOf_7 : decode cJ8_indexOf 7 = .ok (.aload_n 0, 1) := dk_42 (dk_at dksJ8_indexOf_0 7 rfl rfl)
theorem dJ8_indexOf_8 : decode cJ8_indexOf 8 = .ok (.arraylength, 1) := dk_190 (dk_at dksJ8_indexOf_0 8 rfl rfl)
theorem dJ8_indexOf_9 : decode cJ8_indexOf 9 = .ok (.iconst 1, 1) := dk_4 (dk_at dksJ8_indexOf_0 9 rfl rfl)
theorem dJ8_indexOf_10 : decode cJ8_indexOf 10 = .ok (.ishr, 1) := dk_122 (dk_at dksJ8_indexOf_0 10 rfl rfl)
theorem dJ8_indexOf_11 : decode cJ8_indexOf 11 = .ok (.invokestatic 183, 3) := dk_184 0 183 (dk_at dksJ8_indexOf_0 11 rfl rfl)
theorem dJ8_indexOf_14 : decode cJ8_indexOf 14 = .ok (.istore_n 3, 1) := dk_62 (dk_at dksJ8_indexOf_0 14 rfl rfl)
theorem dJ8_indexOf_15 : decode cJ8_indexOf 15 = .ok (.iload_n 2, 1) := dk_28 (dk_at dksJ8_indexOf_0 15 rfl rfl)
theorem dJ8_indexOf_16 : decode cJ8_indexOf 16 = .ok (.iload_n 3, 1) := dk_29 (dk_at dksJ8_indexOf_0 16 rfl rfl)
theorem dJ8_indexOf_17 : decode cJ8_indexOf 17 = .ok (.if_icmp .lt 5, 3) := dk_161 0 5 (dk_at dksJ8_indexOf_0 17 rfl rfl)
theorem dJ8_indexOf_20 : decode cJ8_indexOf 20 = .ok (.iconst (-1), 1) := dk_2 (dk_at dksJ8_indexOf_0 20 rfl rfl)
theorem dJ8_indexOf_21 : decode cJ8_indexOf 21 = .ok (.ireturn, 1) := dk_172 (dk_at dksJ8_indexOf_0 21 rfl rfl)
theorem dJ8_indexOf_22 : decode cJ8_indexOf 22 = .ok (.iload_n 1, 1) := dk_27 (dk_at dksJ8_indexOf_0 22 rfl rfl)
theorem dJ8_indexOf_23 : decode cJ8_indexOf 23 = .ok (.ldc 227, 2) := dk_18 227 (dk_at dksJ8_indexOf_1 0 rfl rfl)
theorem dJ8_indexOf_25 : decode cJ8_indexOf 25 = .ok (.if_icmp .ge 11, 3) := dk_162 0 11 (dk_at dksJ8_indexOf_1 2 rfl rfl)
theorem dJ8_indexOf_28 : decode cJ8_indexOf 28 = .ok (.aload_n 0, 1) := dk_42 (dk_at dksJ8_indexOf_1 5 rfl rfl)
theorem dJ8_indexOf_29 : decode cJ8_indexOf 29 = .ok (.iload_n 1, 1) := dk_27 (dk_at dksJ8_indexOf_1 6 rfl rfl)
theorem dJ8_indexOf_30 : decode cJ8_indexOf 30 = .ok (.iload_n 2, 1) := dk_28 (dk_at dksJ8_indexOf_1 7 rfl rfl)
theorem dJ8_indexOf_31 : decode cJ8_indexOf 31 = .ok (.iload_n 3, 1) := dk_29 (dk_at dksJ8_indexOf_1 8 rfl rfl)
theorem dJ8_indexOf_32 : decode cJ8_indexOf 32 = .ok (.invokestatic 228, 3) := dk_184 0 228 (dk_at dksJ8_indexOf_1 9 rfl rfl)
theorem dJ8_indexOf_35 : decode cJ8_indexOf 35 = .ok (.ireturn, 1) := dk_172 (dk_at dksJ8_indexOf_1 12 rfl rfl)
theorem dJ8_indexOf_36 : decode cJ8_indexOf 36 = .ok (.aload_n 0, 1) := dk_42 (dk_at dksJ8_indexOf_1 13 rfl rfl)
theorem dJ8_indexOf_37 : decode cJ8_indexOf 37 = .ok (.iload_n 1, 1) := dk_27 (dk_at dksJ8_indexOf_1 14 rfl rfl)
theorem dJ8_indexOf_38 : decode cJ8_indexOf 38 = .ok (.iload_n 2, 1) := dk_28 (dk_at dksJ8_indexOf_1 15 rfl rfl)
theorem dJ8_indexOf_39 : decode cJ8_indexOf 39 = .ok (.iload_n 3, 1) := dk_29 (dk_at dksJ8_indexOf_1 16 rfl rfl)
theorem dJ8_indexOf_40 : decode cJ8_indexOf 40 = .ok (.invokestatic 232, 3) := dk_184 0 232 (dk_at dksJ8_indexOf_1 17 rfl rfl)
theorem dJ8_indexOf_43 : decode cJ8_indexOf 43 = .ok (.ireturn, 1) := dk_172 (dk_at dksJ8_indexOf_1 20 rfl rfl)
abbrev cJ8_indexOfChar : ByteArray := prog_39_method_47_code
def yJ8_indexOfChar : MethodName := ⟨RJ8, "indexOfChar", "([BIII)I"⟩
def dkwJ8_indexOfChar_0 : List UInt8 := [28, 29, 42, 184, 0, 96, 42, 27, 28, 29, 184, 0, 244, 172]
abbrev dktJ8_indexOfChar_0 : List UInt8 := dkwJ8_indexOfChar_0 ++ []
theorem dksJ8_indexOfChar_0 : cJ8_indexOfChar.data.toList.drop 0 = dktJ8_indexOfChar_0 := by decide +kernel
theorem dJ8_indexOfChar_0 : decode cJ8_indexOfChar 0 = .ok (.iload_n 2, 1) := dk_28 (dk_at dksJ8_indexOfChar_0 0 rfl rfl)
theorem dJ8_indexOfChar_1 : decode cJ8_indexOfChar 1 = .ok (.iload_n 3, 1) := dk_29 (dk_at dksJ8_indexOfChar_0 1 rfl rfl)
theorem dJ8_indexOfChar_2 : decode cJ8_indexOfChar 2 = .ok (.aload_n 0, 1) := dk_42 (dk_at dksJ8_indexOfChar_0 2 rfl rfl)
theorem dJ8_indexOfChar_3 : decode cJ8_indexOfChar 3 = .ok (.invokestatic 96, 3) := dk_184 0 96 (dk_at dksJ8_indexOfChar_0 3 rfl rfl)
theorem dJ8_indexOfChar_6 : decode cJ8_indexOfChar 6 = .ok (.aload_n 0, 1) := dk_42 (dk_at dksJ8_indexOfChar_0 6 rfl rfl)
theorem dJ8_indexOfChar_7 : decode cJ8_indexOfChar 7 = .ok (.iload_n 1, 1) := dk_27 (dk_at dksJ8_indexOfChar_0 7 rfl rfl)
theorem dJ8_indexOfChar_8 : decode cJ8_indexOfChar 8 = .ok (.iload_n 2, 1) := dk_28 (dk_at dksJ8_indexOfChar_0 8 rfl rfl)
theorem dJ8_indexOfChar_9 : decode cJ8_indexOfChar 9 = .ok (.iload_n 3, 1) := dk_29 (dk_at dksJ8_indexOfChar_0 9 rfl rfl)
theorem dJ8_indexOfChar_10 : decode cJ8_indexOfChar 10 = .ok (.invokestatic 244, 3) := dk_184 0 244 (dk_at dksJ8_indexOfChar_0 10 rfl rfl)
theorem dJ8_indexOfChar_13 : decode cJ8_indexOfChar 13 = .ok (.ireturn, 1) := dk_172 (dk_at dksJ8_indexOfChar_0 13 rfl rfl)
abbrev cJ8_checkBoundsBeginEnd : ByteArray := prog_39_method_93_code
def yJ8_checkBoundsBeginEnd : MethodName := ⟨RJ8, "checkBoundsBeginEnd", "(II[B)V"⟩
def dkwJ8_checkBoundsBeginEnd_0 : List UInt8 := [26, 27, 44, 184, 0, 48, 184, 0, 241, 177]
abbrev dktJ8_checkBoundsBeginEnd_0 : List UInt8 := dkwJ8_checkBoundsBeginEnd_0 ++ []
theorem dksJ8_checkBoundsBeginEnd_0 : cJ8_checkBoundsBeginEnd.data.toList.drop 0 = dktJ8_checkBoundsBeginEnd_0 := by decide +kernel
theorem dJ8_checkBoundsBeginEnd_0 : decode cJ8_checkBoundsBeginEnd 0 = .ok (.iload_n 0, 1) := dk_26 (dk_at dksJ8_checkBoundsBeginEnd_0 0 rfl rfl)
theorem dJ8_checkBoundsBeginEnd_1 : decode cJ8_checkBoundsBeginEnd 1 = .ok (.iload_n 1, 1) := dk_27 (dk_at dksJ8_checkBoundsBeginEnd_0 1 rfl rfl)
theorem dJ8_checkBoundsBeginEnd_2 : decode cJ8_checkBoundsBeginEnd 2 = .ok (.aload_n 2, 1) := dk_44 (dk_at dksJ8_checkBoundsBeginEnd_0 2 rfl rfl)
theorem dJ8_checkBoundsBeginEnd_3 : decode cJ8_checkBoundsBeginEnd 3 = .ok (.invokestatic 48, 3) := dk_184 0 48 (dk_at dksJ8_checkBoundsBeginEnd_0 3 rfl rfl)
theorem dJ8_checkBoundsBeginEnd_6 : decode cJ8_checkBoundsBeginEnd 6 = .ok (.invokestatic 241, 3) := dk_184 0 241 (dk_at dksJ8_checkBoundsBeginEnd_0 6 rfl rfl)
theorem dJ8_checkBoundsBeginEnd_9 : decode cJ8_checkBoundsBeginEnd 9 = .ok (.return_, 1) := dk_177 (dk_at dksJ8_checkBoundsBeginEnd_0 9 rfl rfl)
abbrev cJ8_length : ByteArray := prog_39_method_6_code
def yJ8_length : MethodName := ⟨RJ8, "length", "([B)I"⟩
def dkwJ8_length_0 : List UInt8 := [42, 190, 4, 122, 172]
abbrev dktJ8_length_0 : List UInt8 := dkwJ8_length_0 ++ []
theorem dksJ8_length_0 : cJ8_length.data.toList.drop 0 = dktJ8_length_0 := by decide +kernel
theorem dJ8_length_0 : decode cJ8_length 0 = .ok (.aload_n 0, 1) := dk_42 (dk_at dksJ8_length_0 0 rfl rfl)
theorem dJ8_length_1 : decode cJ8_length 1 = .ok (.arraylength, 1) := dk_190 (dk_at dksJ8_length_0 1 rfl rfl)
theorem dJ8_length_2 : decode cJ8_length 2 = .ok (.iconst 1, 1) := dk_4 (dk_at dksJ8_length_0 2 rfl rfl)
theorem dJ8_length_3 : decode cJ8_length 3 = .ok (.ishr, 1) := dk_122 (dk_at dksJ8_length_0 3 rfl rfl)
theorem dJ8_length_4 : decode cJ8_length 4 = .ok (.ireturn, 1) := dk_172 (dk_at dksJ8_length_0 4 rfl rfl)
abbrev cJ8_indexOfCharUnsafe : ByteArray := prog_39_method_48_code
def yJ8_indexOfCharUnsafe : MethodName := ⟨RJ8, "indexOfCharUnsafe", "([BIII)I"⟩
def dkwJ8_indexOfCharUnsafe_1 : List UInt8 := [132, 4, 1, 167, 255, 234, 2, 172]
abbrev dktJ8_indexOfCharUnsafe_1 : List UInt8 := dkwJ8_indexOfCharUnsafe_1 ++ []
def dkwJ8_indexOfCharUnsafe_0 : List UInt8 := [28, 54, 4, 21, 4, 29, 162, 0, 22, 42, 21, 4, 184, 0, 71, 27, 160, 0, 6, 21, 4, 172]
abbrev dktJ8_indexOfCharUnsafe_0 : List UInt8 := dkwJ8_indexOfCharUnsafe_0 ++ dktJ8_indexOfCharUnsafe_1
theorem dksJ8_indexOfCharUnsafe_0 : cJ8_indexOfCharUnsafe.data.toList.drop 0 = dktJ8_indexOfCharUnsafe_0 := by decide +kernel
theorem dksJ8_indexOfCharUnsafe_1 : cJ8_indexOfCharUnsafe.data.toList.drop 22 = dktJ8_indexOfCharUnsafe_1 := dk_seg dksJ8_indexOfCharUnsafe_0 22 rfl rfl
theorem dJ8_indexOfCharUnsafe_0 : decode cJ8_indexOfCharUnsafe 0 = .ok (.iload_n 2, 1) := dk_28 (dk_at dksJ8_indexOfCharUnsafe_0 0 rfl rfl)
theorem dJ8_indexOfCharUnsafe_1 : decode cJ8_indexOfCharUnsafe 1 = .ok (.istore 4, 2) := dk_54 4 (dk_at dksJ8_indexOfCharUnsafe_0 1 rfl rfl)
theorem dJ8_indexOfCharUnsafe_3 : decode cJ8_indexOfCharUnsafe 3 = .ok (.iload 4, 2) := dk_21 4 (dk_at dksJ8_indexOfCharUnsafe_0 3 rfl rfl)
theorem dJ8_indexOfCharUnsafe_5 : decode cJ8_indexOfCharUnsafe 5 = .ok (.iload_n 3, 1) := dk_29 (dk_at dksJ8_indexOfCharUnsafe_0 5 rfl rfl)
theorem dJ8_indexOfCharUnsafe_6 : decode cJ8_indexOfCharUnsafe 6 = .ok (.if_icmp .ge 22, 3) := dk_162 0 22 (dk_at dksJ8_indexOfCharUnsafe_0 6 rfl rfl)
theorem dJ8_indexOfCharUnsafe_9 : decode cJ8_indexOfCharUnsafe 9 = .ok (.aload_n 0, 1) := dk_42 (dk_at dksJ8_indexOfCharUnsafe_0 9 rfl rfl)
theorem dJ8_indexOfCharUnsafe_10 : decode cJ8_indexOfCharUnsafe 10 = .ok (.iload 4, 2) := dk_21 4 (dk_at dksJ8_indexOfCharUnsafe_0 10 rfl rfl)
theorem dJ8_indexOfCharUnsafe_12 : decode cJ8_indexOfCharUnsafe 12 = .ok (.invokestatic 71, 3) := dk_184 0 71 (dk_at dksJ8_indexOfCharUnsafe_0 12 rfl rfl)
theorem dJ8_indexOfCharUnsafe_15 : decode cJ8_indexOfCharUnsafe 15 = .ok (.iload_n 1, 1) := dk_27 (dk_at dksJ8_indexOfCharUnsafe_0 15 rfl rfl)
theorem dJ8_indexOfCharUnsafe_16 : decode cJ8_indexOfCharUnsafe 16 = .ok (.if_icmp .ne 6, 3) := dk_160 0 6 (dk_at dksJ8_indexOfCharUnsafe_0 16 rfl rfl)
theorem dJ8_indexOfCharUnsafe_19 : decode cJ8_indexOfCharUnsafe 19 = .ok (.iload 4, 2) := dk_21 4 (dk_at dksJ8_indexOfCharUnsafe_0 19 rfl rfl)
theorem dJ8_indexOfCharUnsafe_21 : decode cJ8_indexOfCharUnsafe 21 = .ok (.ireturn, 1) := dk_172 (dk_at dksJ8_indexOfCharUnsafe_0 21 rfl rfl)
theorem dJ8_indexOfCharUnsafe_22 : decode cJ8_indexOfCharUnsafe 22 = .ok (.iinc 4 1, 3) := dk_132 4 1 (dk_at dksJ8_indexOfCharUnsafe_1 0 rfl rfl)
theorem dJ8_indexOfCharUnsafe_25 : decode cJ8_indexOfCharUnsafe 25 = .ok (.goto (-22), 3) := dk_167 255 234 (dk_at dksJ8_indexOfCharUnsafe_1 3 rfl rfl)
theorem dJ8_indexOfCharUnsafe_28 : decode cJ8_indexOfCharUnsafe 28 = .ok (.iconst (-1), 1) := dk_2 (dk_at dksJ8_indexOfCharUnsafe_1 6 rfl rfl)
theorem dJ8_indexOfCharUnsafe_29 : decode cJ8_indexOfCharUnsafe 29 = .ok (.ireturn, 1) := dk_172 (dk_at dksJ8_indexOfCharUnsafe_1 7 rfl rfl)
abbrev cJ8_getChar : ByteArray := prog_39_method_5_code
def yJ8_getChar : MethodName := ⟨RJ8, "getChar", "([BI)C"⟩
def dkwJ8_getChar_2 : List UInt8 := [51, 17, 0, 255, 126, 178, 0, 63, 120, 128, 146, 172]
abbrev dktJ8_getChar_2 : List UInt8 := dkwJ8_getChar_2 ++ []
def dkwJ8_getChar_1 : List UInt8 := [183, 0, 56, 191, 27, 4, 120, 60, 42, 27, 132, 1, 1, 51, 17, 0, 255, 126, 178, 0, 59, 120, 42, 27]
abbrev dktJ8_getChar_1 : List UInt8 := dkwJ8_getChar_1 ++ dktJ8_getChar_2
def dkwJ8_getChar_0 : List UInt8 := [178, 0, 44, 154, 0, 25, 27, 155, 0, 11, 27, 42, 184, 0, 48, 161, 0, 13, 187, 0, 52, 89, 18, 54]
abbrev dktJ8_getChar_0 : List UInt8 := dkwJ8_getChar_0 ++ dktJ8_getChar_1
theorem dksJ8_getChar_0 : cJ8_getChar.data.toList.drop 0 = dktJ8_getChar_0 := by decide +kernel
theorem dksJ8_getChar_1 : cJ8_getChar.data.toList.drop 24 = dktJ8_getChar_1 := dk_seg dksJ8_getChar_0 24 rfl rfl
theorem dksJ8_getChar_2 : cJ8_getChar.data.toList.drop 48 = dktJ8_getChar_2 := dk_seg dksJ8_getChar_1 24 rfl rfl
theorem dJ8_getChar_0 : decode cJ8_getChar 0 = .ok (.getstatic 44, 3) := dk_178 0 44 (dk_at dksJ8_getChar_0 0 rfl rfl)
theorem dJ8_getChar_3 : decode cJ8_getChar 3 = .ok (.ifCond .ne 25, 3) := dk_154 0 25 (dk_at dksJ8_getChar_0 3 rfl rfl)
theorem dJ8_getChar_6 : decode cJ8_getChar 6 = .ok (.iload_n 1, 1) := dk_27 (dk_at dksJ8_getChar_0 6 rfl rfl)
theorem dJ8_getChar_7 : decode cJ8_getChar 7 = .ok (.ifCond .lt 11, 3) := dk_155 0 11 (dk_at dksJ8_getChar_0 7 rfl rfl)
theorem dJ8_getChar_10 : decode cJ8_getChar 10 = .ok (.iload_n 1, 1) := dk_27 (dk_at dksJ8_getChar_0 10 rfl rfl)
theorem dJ8_getChar_11 : decode cJ8_getChar 11 = .ok (.aload_n 0, 1) := dk_42 (dk_at dksJ8_getChar_0 11 rfl rfl)
theorem dJ8_getChar_12 : decode cJ8_getChar 12 = .ok (.invokestatic 48, 3) := dk_184 0 48 (dk_at dksJ8_getChar_0 12 rfl rfl)
theorem dJ8_getChar_15 : decode cJ8_getChar 15 = .ok (.if_icmp .lt 13, 3) := dk_161 0 13 (dk_at dksJ8_getChar_0 15 rfl rfl)
theorem dJ8_getChar_18 : decode cJ8_getChar 18 = .ok (.new 52, 3) := dk_187 0 52 (dk_at dksJ8_getChar_0 18 rfl rfl)
theorem dJ8_getChar_21 : decode cJ8_getChar 21 = .ok (.dup, 1) := dk_89 (dk_at dksJ8_getChar_0 21 rfl rfl)
theorem dJ8_getChar_22 : decode cJ8_getChar 22 = .ok (.ldc 54, 2) := dk_18 54 (dk_at dksJ8_getChar_0 22 rfl rfl)
theorem dJ8_getChar_24 : decode cJ8_getChar 24 = .ok (.invokespecial 56, 3) := dk_183 0 56 (dk_at dksJ8_getChar_1 0 rfl rfl)
theorem dJ8_getChar_27 : decode cJ8_getChar 27 = .ok (.athrow, 1) := dk_191 (dk_at dksJ8_getChar_1 3 rfl rfl)
theorem dJ8_getChar_28 : decode cJ8_getChar 28 = .ok (.iload_n 1, 1) := dk_27 (dk_at dksJ8_getChar_1 4 rfl rfl)
theorem dJ8_getChar_29 : decode cJ8_getChar 29 = .ok (.iconst 1, 1) := dk_4 (dk_at dksJ8_getChar_1 5 rfl rfl)
theorem dJ8_getChar_30 : decode cJ8_getChar 30 = .ok (.ishl, 1) := dk_120 (dk_at dksJ8_getChar_1 6 rfl rfl)
theorem dJ8_getChar_31 : decode cJ8_getChar 31 = .ok (.istore_n 1, 1) := dk_60 (dk_at dksJ8_getChar_1 7 rfl rfl)
theorem dJ8_getChar_32 : decode cJ8_getChar 32 = .ok (.aload_n 0, 1) := dk_42 (dk_at dksJ8_getChar_1 8 rfl rfl)
theorem dJ8_getChar_33 : decode cJ8_getChar 33 = .ok (.iload_n 1, 1) := dk_27 (dk_at dksJ8_getChar_1 9 rfl rfl)
theorem dJ8_getChar_34 : decode cJ8_getChar 34 = .ok (.iinc 1 1, 3) := dk_132 1 1 (dk_at dksJ8_getChar_1 10 rfl rfl)
theorem dJ8_getChar_37 : decode cJ8_getChar 37 = .ok (.baload, 1) := dk_51 (dk_at dksJ8_getChar_1 13 rfl rfl)
theorem dJ8_getChar_38 : decode cJ8_getChar 38 = .ok (.sipush 255, 3) := dk_17 0 255 (dk_at dksJ8_getChar_1 14 rfl rfl)
theorem dJ8_getChar_41 : decode cJ8_getChar 41 = .ok (.iand, 1) := dk_126 (dk_at dksJ8_getChar_1 17 rfl rfl)
theorem dJ8_getChar_42 : decode cJ8_getChar 42 = .ok (.getstatic 59, 3) := dk_178 0 59 (dk_at dksJ8_getChar_1 18 rfl rfl)
theorem dJ8_getChar_45 : decode cJ8_getChar 45 = .ok (.ishl, 1) := dk_120 (dk_at dksJ8_getChar_1 21 rfl rfl)
theorem dJ8_getChar_46 : decode cJ8_getChar 46 = .ok (.aload_n 0, 1) := dk_42 (dk_at dksJ8_getChar_1 22 rfl rfl)
theorem dJ8_getChar_47 : decode cJ8_getChar 47 = .ok (.iload_n 1, 1) := dk_27 (dk_at dksJ8_getChar_1 23 rfl rfl)
theorem dJ8_getChar_48 : decode cJ8_getChar 48 = .ok (.baload, 1) := dk_51 (dk_at dksJ8_getChar_2 0 rfl rfl)
theorem dJ8_getChar_49 : decode cJ8_getChar 49 = .ok (.sipush 255, 3) := dk_17 0 255 (dk_at dksJ8_getChar_2 1 rfl rfl)
theorem dJ8_getChar_52 : decode cJ8_getChar 52 = .ok (.iand, 1) := dk_126 (dk_at dksJ8_getChar_2 4 rfl rfl)
theorem dJ8_getChar_53 : decode cJ8_getChar 53 = .ok (.getstatic 63, 3) := dk_178 0 63 (dk_at dksJ8_getChar_2 5 rfl rfl)
theorem dJ8_getChar_56 : decode cJ8_getChar 56 = .ok (.ishl, 1) := dk_120 (dk_at dksJ8_getChar_2 8 rfl rfl)
theorem dJ8_getChar_57 : decode cJ8_getChar 57 = .ok (.ior, 1) := dk_128 (dk_at dksJ8_getChar_2 9 rfl rfl)
theorem dJ8_getChar_58 : decode cJ8_getChar 58 = .ok (.i2c, 1) := dk_146 (dk_at dksJ8_getChar_2 10 rfl rfl)
theorem dJ8_getChar_59 : decode cJ8_getChar 59 = .ok (.ireturn, 1) := dk_172 (dk_at dksJ8_getChar_2 11 rfl rfl)
abbrev cJ8_indexOfSupplementary : ByteArray := prog_39_method_49_code
def yJ8_indexOfSupplementary : MethodName := ⟨RJ8, "indexOfSupplementary", "([BIII)I"⟩
def dkwJ8_indexOfSupplementary_3 : List UInt8 := [167, 255, 218, 2, 172]
abbrev dktJ8_indexOfSupplementary_3 : List UInt8 := dkwJ8_indexOfSupplementary_3 ++ []
def dkwJ8_indexOfSupplementary_2 : List UInt8 := [160, 0, 19, 42, 21, 6, 4, 96, 184, 0, 71, 21, 5, 160, 0, 6, 21, 6, 172, 132, 6, 1]
abbrev dktJ8_indexOfSupplementary_2 : List UInt8 := dkwJ8_indexOfSupplementary_2 ++ dktJ8_indexOfSupplementary_3
def dkwJ8_indexOfSupplementary_1 : List UInt8 := [184, 0, 96, 28, 54, 6, 21, 6, 29, 4, 100, 162, 0, 36, 42, 21, 6, 184, 0, 71, 21, 4]
abbrev dktJ8_indexOfSupplementary_1 : List UInt8 := dkwJ8_indexOfSupplementary_1 ++ dktJ8_indexOfSupplementary_2
def dkwJ8_indexOfSupplementary_0 : List UInt8 := [27, 184, 0, 164, 153, 0, 65, 27, 184, 0, 157, 54, 4, 27, 184, 0, 161, 54, 5, 28, 29, 42]
abbrev dktJ8_indexOfSupplementary_0 : List UInt8 := dkwJ8_indexOfSupplementary_0 ++ dktJ8_indexOfSupplementary_1
theorem dksJ8_indexOfSupplementary_0 : cJ8_indexOfSupplementary.data.toList.drop 0 = dktJ8_indexOfSupplementary_0 := by decide +kernel
theorem dksJ8_indexOfSupplementary_1 : cJ8_indexOfSupplementary.data.toList.drop 22 = dktJ8_indexOfSupplementary_1 := dk_seg dksJ8_indexOfSupplementary_0 22 rfl rfl
theorem dksJ8_indexOfSupplementary_2 : cJ8_indexOfSupplementary.data.toList.drop 44 = dktJ8_indexOfSupplementary_2 := dk_seg dksJ8_indexOfSupplementary_1 22 rfl rfl
theorem dksJ8_indexOfSupplementary_3 : cJ8_indexOfSupplementary.data.toList.drop 66 = dktJ8_indexOfSupplementary_3 := dk_seg dksJ8_indexOfSupplementary_2 22 rfl rfl
theorem dJ8_indexOfSupplementary_0 : decode cJ8_indexOfSupplementary 0 = .ok (.iload_n 1, 1) := dk_27 (dk_at dksJ8_indexOfSupplementary_0 0 rfl rfl)
theorem dJ8_indexOfSupplementary_1 : decode cJ8_indexOfSupplementary 1 = .ok (.invokestatic 164, 3) := dk_184 0 164 (dk_at dksJ8_indexOfSupplementary_0 1 rfl rfl)
theorem dJ8_indexOfSupplementary_4 : decode cJ8_indexOfSupplementary 4 = .ok (.ifCond .eq 65, 3) := dk_153 0 65 (dk_at dksJ8_indexOfSupplementary_0 4 rfl rfl)
theorem dJ8_indexOfSupplementary_7 : decode cJ8_indexOfSupplementary 7 = .ok (.iload_n 1, 1) := dk_27 (dk_at dksJ8_indexOfSupplementary_0 7 rfl rfl)
theorem dJ8_indexOfSupplementary_8 : decode cJ8_indexOfSupplementary 8 = .ok (.invokestatic 157, 3) := dk_184 0 157 (dk_at dksJ8_indexOfSupplementary_0 8 rfl rfl)
theorem dJ8_indexOfSupplementary_11 : decode cJ8_indexOfSupplementary 11 = .ok (.istore 4, 2) := dk_54 4 (dk_at dksJ8_indexOfSupplementary_0 11 rfl rfl)
theorem dJ8_indexOfSupplementary_13 : decode cJ8_indexOfSupplementary 13 = .ok (.iload_n 1, 1) := dk_27 (dk_at dksJ8_indexOfSupplementary_0 13 rfl rfl)
theorem dJ8_indexOfSupplementary_14 : decode cJ8_indexOfSupplementary 14 = .ok (.invokestatic 161, 3) := dk_184 0 161 (dk_at dksJ8_indexOfSupplementary_0 14 rfl rfl)
theorem dJ8_indexOfSupplementary_17 : decode cJ8_indexOfSupplementary 17 = .ok (.istore 5, 2) := dk_54 5 (dk_at dksJ8_indexOfSupplementary_0 17 rfl rfl)
theorem dJ8_indexOfSupplementary_19 : decode cJ8_indexOfSupplementary 19 = .ok (.iload_n 2, 1) := dk_28 (dk_at dksJ8_indexOfSupplementary_0 19 rfl rfl)
theorem dJ8_indexOfSupplementary_20 : decode cJ8_indexOfSupplementary 20 = .ok (.iload_n 3, 1) := dk_29 (dk_at dksJ8_indexOfSupplementary_0 20 rfl rfl)
theorem dJ8_indexOfSupplementary_21 : decode cJ8_indexOfSupplementary 21 = .ok (.aload_n 0, 1) := dk_42 (dk_at dksJ8_indexOfSupplementary_0 21 rfl rfl)
theorem dJ8_indexOfSupplementary_22 : decode cJ8_indexOfSupplementary 22 = .ok (.invokestatic 96, 3) := dk_184 0 96 (dk_at dksJ8_indexOfSupplementary_1 0 rfl rfl)
theorem dJ8_indexOfSupplementary_25 : decode cJ8_indexOfSupplementary 25 = .ok (.iload_n 2, 1) := dk_28 (dk_at dksJ8_indexOfSupplementary_1 3 rfl rfl)
theorem dJ8_indexOfSupplementary_26 : decode cJ8_indexOfSupplementary 26 = .ok (.istore 6, 2) := dk_54 6 (dk_at dksJ8_indexOfSupplementary_1 4 rfl rfl)
theorem dJ8_indexOfSupplementary_28 : decode cJ8_indexOfSupplementary 28 = .ok (.iload 6, 2) := dk_21 6 (dk_at dksJ8_indexOfSupplementary_1 6 rfl rfl)
theorem dJ8_indexOfSupplementary_30 : decode cJ8_indexOfSupplementary 30 = .ok (.iload_n 3, 1) := dk_29 (dk_at dksJ8_indexOfSupplementary_1 8 rfl rfl)
theorem dJ8_indexOfSupplementary_31 : decode cJ8_indexOfSupplementary 31 = .ok (.iconst 1, 1) := dk_4 (dk_at dksJ8_indexOfSupplementary_1 9 rfl rfl)
theorem dJ8_indexOfSupplementary_32 : decode cJ8_indexOfSupplementary 32 = .ok (.isub, 1) := dk_100 (dk_at dksJ8_indexOfSupplementary_1 10 rfl rfl)
theorem dJ8_indexOfSupplementary_33 : decode cJ8_indexOfSupplementary 33 = .ok (.if_icmp .ge 36, 3) := dk_162 0 36 (dk_at dksJ8_indexOfSupplementary_1 11 rfl rfl)
theorem dJ8_indexOfSupplementary_36 : decode cJ8_indexOfSupplementary 36 = .ok (.aload_n 0, 1) := dk_42 (dk_at dksJ8_indexOfSupplementary_1 14 rfl rfl)
theorem dJ8_indexOfSupplementary_37 : decode cJ8_indexOfSupplementary 37 = .ok (.iload 6, 2) := dk_21 6 (dk_at dksJ8_indexOfSupplementary_1 15 rfl rfl)
theorem dJ8_indexOfSupplementary_39 : decode cJ8_indexOfSupplementary 39 = .ok (.invokestatic 71, 3) := dk_184 0 71 (dk_at dksJ8_indexOfSupplementary_1 17 rfl rfl)
theorem dJ8_indexOfSupplementary_42 : decode cJ8_indexOfSupplementary 42 = .ok (.iload 4, 2) := dk_21 4 (dk_at dksJ8_indexOfSupplementary_1 20 rfl rfl)
theorem dJ8_indexOfSupplementary_44 : decode cJ8_indexOfSupplementary 44 = .ok (.if_icmp .ne 19, 3) := dk_160 0 19 (dk_at dksJ8_indexOfSupplementary_2 0 rfl rfl)
theorem dJ8_indexOfSupplementary_47 : decode cJ8_indexOfSupplementary 47 = .ok (.aload_n 0, 1) := dk_42 (dk_at dksJ8_indexOfSupplementary_2 3 rfl rfl)
theorem dJ8_indexOfSupplementary_48 : decode cJ8_indexOfSupplementary 48 = .ok (.iload 6, 2) := dk_21 6 (dk_at dksJ8_indexOfSupplementary_2 4 rfl rfl)
theorem dJ8_indexOfSupplementary_50 : decode cJ8_indexOfSupplementary 50 = .ok (.iconst 1, 1) := dk_4 (dk_at dksJ8_indexOfSupplementary_2 6 rfl rfl)
theorem dJ8_indexOfSupplementary_51 : decode cJ8_indexOfSupplementary 51 = .ok (.iadd, 1) := dk_96 (dk_at dksJ8_indexOfSupplementary_2 7 rfl rfl)
theorem dJ8_indexOfSupplementary_52 : decode cJ8_indexOfSupplementary 52 = .ok (.invokestatic 71, 3) := dk_184 0 71 (dk_at dksJ8_indexOfSupplementary_2 8 rfl rfl)
theorem dJ8_indexOfSupplementary_55 : decode cJ8_indexOfSupplementary 55 = .ok (.iload 5, 2) := dk_21 5 (dk_at dksJ8_indexOfSupplementary_2 11 rfl rfl)
theorem dJ8_indexOfSupplementary_57 : decode cJ8_indexOfSupplementary 57 = .ok (.if_icmp .ne 6, 3) := dk_160 0 6 (dk_at dksJ8_indexOfSupplementary_2 13 rfl rfl)
theorem dJ8_indexOfSupplementary_60 : decode cJ8_indexOfSupplementary 60 = .ok (.iload 6, 2) := dk_21 6 (dk_at dksJ8_indexOfSupplementary_2 16 rfl rfl)
theorem dJ8_indexOfSupplementary_62 : decode cJ8_indexOfSupplementary 62 = .ok (.ireturn, 1) := dk_172 (dk_at dksJ8_indexOfSupplementary_2 18 rfl rfl)
theorem dJ8_indexOfSupplementary_63 : decode cJ8_indexOfSupplementary 63 = .ok (.iinc 6 1, 3) := dk_132 6 1 (dk_at dksJ8_indexOfSupplementary_2 19 rfl rfl)
theorem dJ8_indexOfSupplementary_66 : decode cJ8_indexOfSupplementary 66 = .ok (.goto (-38), 3) := dk_167 255 218 (dk_at dksJ8_indexOfSupplementary_3 0 rfl rfl)
theorem dJ8_indexOfSupplementary_69 : decode cJ8_indexOfSupplementary 69 = .ok (.iconst (-1), 1) := dk_2 (dk_at dksJ8_indexOfSupplementary_3 3 rfl rfl)
theorem dJ8_indexOfSupplementary_70 : decode cJ8_indexOfSupplementary 70 = .ok (.ireturn, 1) := dk_172 (dk_at dksJ8_indexOfSupplementary_3 4 rfl rfl)
abbrev cJ8_charAt : ByteArray := prog_39_method_83_code
def yJ8_charAt : MethodName := ⟨RJ8, "charAt", "([BI)C"⟩
def dkwJ8_charAt_0 : List UInt8 := [27, 42, 184, 0, 67, 42, 27, 184, 0, 71, 172]
abbrev dktJ8_charAt_0 : List UInt8 := dkwJ8_charAt_0 ++ []
theorem dksJ8_charAt_0 : cJ8_charAt.data.toList.drop 0 = dktJ8_charAt_0 := by decide +kernel
theorem dJ8_charAt_0 : decode cJ8_charAt 0 = .ok (.iload_n 1, 1) := dk_27 (dk_at dksJ8_charAt_0 0 rfl rfl)
theorem dJ8_charAt_1 : decode cJ8_charAt 1 = .ok (.aload_n 0, 1) := dk_42 (dk_at dksJ8_charAt_0 1 rfl rfl)
theorem dJ8_charAt_2 : decode cJ8_charAt 2 = .ok (.invokestatic 67, 3) := dk_184 0 67 (dk_at dksJ8_charAt_0 2 rfl rfl)
theorem dJ8_charAt_5 : decode cJ8_charAt 5 = .ok (.aload_n 0, 1) := dk_42 (dk_at dksJ8_charAt_0 5 rfl rfl)
theorem dJ8_charAt_6 : decode cJ8_charAt 6 = .ok (.iload_n 1, 1) := dk_27 (dk_at dksJ8_charAt_0 6 rfl rfl)
theorem dJ8_charAt_7 : decode cJ8_charAt 7 = .ok (.invokestatic 71, 3) := dk_184 0 71 (dk_at dksJ8_charAt_0 7 rfl rfl)
theorem dJ8_charAt_10 : decode cJ8_charAt 10 = .ok (.ireturn, 1) := dk_172 (dk_at dksJ8_charAt_0 10 rfl rfl)
abbrev cJ8_checkIndex : ByteArray := prog_39_method_91_code
def yJ8_checkIndex : MethodName := ⟨RJ8, "checkIndex", "(I[B)V"⟩
def dkwJ8_checkIndex_0 : List UInt8 := [26, 43, 184, 0, 48, 184, 1, 158, 177]
abbrev dktJ8_checkIndex_0 : List UInt8 := dkwJ8_checkIndex_0 ++ []
theorem dksJ8_checkIndex_0 : cJ8_checkIndex.data.toList.drop 0 = dktJ8_checkIndex_0 := by decide +kernel
theorem dJ8_checkIndex_0 : decode cJ8_checkIndex 0 = .ok (.iload_n 0, 1) := dk_26 (dk_at dksJ8_checkIndex_0 0 rfl rfl)
theorem dJ8_checkIndex_1 : decode cJ8_checkIndex 1 = .ok (.aload_n 1, 1) := dk_43 (dk_at dksJ8_checkIndex_0 1 rfl rfl)
theorem dJ8_checkIndex_2 : decode cJ8_checkIndex 2 = .ok (.invokestatic 48, 3) := dk_184 0 48 (dk_at dksJ8_checkIndex_0 2 rfl rfl)
theorem dJ8_checkIndex_5 : decode cJ8_checkIndex 5 = .ok (.invokestatic 414, 3) := dk_184 1 158 (dk_at dksJ8_checkIndex_0 5 rfl rfl)
theorem dJ8_checkIndex_8 : decode cJ8_checkIndex 8 = .ok (.return_, 1) := dk_177 (dk_at dksJ8_checkIndex_0 8 rfl rfl)
abbrev cJ8_newBytesFor : ByteArray := prog_39_method_2_code
def yJ8_newBytesFor : MethodName := ⟨RJ8, "newBytesFor", "(I)[B"⟩
def dkwJ8_newBytesFor_0 : List UInt8 := [26, 184, 0, 11, 188, 8, 176]
abbrev dktJ8_newBytesFor_0 : List UInt8 := dkwJ8_newBytesFor_0 ++ []
theorem dksJ8_newBytesFor_0 : cJ8_newBytesFor.data.toList.drop 0 = dktJ8_newBytesFor_0 := by decide +kernel
theorem dJ8_newBytesFor_0 : decode cJ8_newBytesFor 0 = .ok (.iload_n 0, 1) := dk_26 (dk_at dksJ8_newBytesFor_0 0 rfl rfl)
theorem dJ8_newBytesFor_1 : decode cJ8_newBytesFor 1 = .ok (.invokestatic 11, 3) := dk_184 0 11 (dk_at dksJ8_newBytesFor_0 1 rfl rfl)
theorem dJ8_newBytesFor_4 : decode cJ8_newBytesFor 4 = .ok (.newarray .byte, 2) := dk_188_8 (dk_at dksJ8_newBytesFor_0 4 rfl rfl)
theorem dJ8_newBytesFor_6 : decode cJ8_newBytesFor 6 = .ok (.areturn, 1) := dk_176 (dk_at dksJ8_newBytesFor_0 6 rfl rfl)
abbrev cJ8_newBytesLength : ByteArray := prog_39_method_3_code
def yJ8_newBytesLength : MethodName := ⟨RJ8, "newBytesLength", "(I)I"⟩
def dkwJ8_newBytesLength_2 : List UInt8 := [182, 0, 32, 182, 0, 37, 183, 0, 41, 191, 26, 4, 120, 172]
abbrev dktJ8_newBytesLength_2 : List UInt8 := dkwJ8_newBytesLength_2 ++ []
def dkwJ8_newBytesLength_1 : List UInt8 := [187, 0, 23, 89, 183, 0, 25, 18, 26, 182, 0, 28, 26, 182, 0, 32, 18, 35, 182, 0, 28, 18, 20]
abbrev dktJ8_newBytesLength_1 : List UInt8 := dkwJ8_newBytesLength_1 ++ dktJ8_newBytesLength_2
def dkwJ8_newBytesLength_0 : List UInt8 := [26, 156, 0, 11, 187, 0, 17, 89, 183, 0, 19, 191, 26, 18, 20, 161, 0, 40, 187, 0, 21, 89]
abbrev dktJ8_newBytesLength_0 : List UInt8 := dkwJ8_newBytesLength_0 ++ dktJ8_newBytesLength_1
theorem dksJ8_newBytesLength_0 : cJ8_newBytesLength.data.toList.drop 0 = dktJ8_newBytesLength_0 := by decide +kernel
theorem dksJ8_newBytesLength_1 : cJ8_newBytesLength.data.toList.drop 22 = dktJ8_newBytesLength_1 := dk_seg dksJ8_newBytesLength_0 22 rfl rfl
theorem dksJ8_newBytesLength_2 : cJ8_newBytesLength.data.toList.drop 45 = dktJ8_newBytesLength_2 := dk_seg dksJ8_newBytesLength_1 23 rfl rfl
theorem dJ8_newBytesLength_0 : decode cJ8_newBytesLength 0 = .ok (.iload_n 0, 1) := dk_26 (dk_at dksJ8_newBytesLength_0 0 rfl rfl)
theorem dJ8_newBytesLength_1 : decode cJ8_newBytesLength 1 = .ok (.ifCond .ge 11, 3) := dk_156 0 11 (dk_at dksJ8_newBytesLength_0 1 rfl rfl)
theorem dJ8_newBytesLength_4 : decode cJ8_newBytesLength 4 = .ok (.new 17, 3) := dk_187 0 17 (dk_at dksJ8_newBytesLength_0 4 rfl rfl)
theorem dJ8_newBytesLength_7 : decode cJ8_newBytesLength 7 = .ok (.dup, 1) := dk_89 (dk_at dksJ8_newBytesLength_0 7 rfl rfl)
theorem dJ8_newBytesLength_8 : decode cJ8_newBytesLength 8 = .ok (.invokespecial 19, 3) := dk_183 0 19 (dk_at dksJ8_newBytesLength_0 8 rfl rfl)
theorem dJ8_newBytesLength_11 : decode cJ8_newBytesLength 11 = .ok (.athrow, 1) := dk_191 (dk_at dksJ8_newBytesLength_0 11 rfl rfl)
theorem dJ8_newBytesLength_12 : decode cJ8_newBytesLength 12 = .ok (.iload_n 0, 1) := dk_26 (dk_at dksJ8_newBytesLength_0 12 rfl rfl)
theorem dJ8_newBytesLength_13 : decode cJ8_newBytesLength 13 = .ok (.ldc 20, 2) := dk_18 20 (dk_at dksJ8_newBytesLength_0 13 rfl rfl)
theorem dJ8_newBytesLength_15 : decode cJ8_newBytesLength 15 = .ok (.if_icmp .lt 40, 3) := dk_161 0 40 (dk_at dksJ8_newBytesLength_0 15 rfl rfl)
theorem dJ8_newBytesLength_18 : decode cJ8_newBytesLength 18 = .ok (.new 21, 3) := dk_187 0 21 (dk_at dksJ8_newBytesLength_0 18 rfl rfl)
theorem dJ8_newBytesLength_21 : decode cJ8_newBytesLength 21 = .ok (.dup, 1) := dk_89 (dk_at dksJ8_newBytesLength_0 21 rfl rfl)
theorem dJ8_newBytesLength_22 : decode cJ8_newBytesLength 22 = .ok (.new 23, 3) := dk_187 0 23 (dk_at dksJ8_newBytesLength_1 0 rfl rfl)
theorem dJ8_newBytesLength_25 : decode cJ8_newBytesLength 25 = .ok (.dup, 1) := dk_89 (dk_at dksJ8_newBytesLength_1 3 rfl rfl)
theorem dJ8_newBytesLength_26 : decode cJ8_newBytesLength 26 = .ok (.invokespecial 25, 3) := dk_183 0 25 (dk_at dksJ8_newBytesLength_1 4 rfl rfl)
theorem dJ8_newBytesLength_29 : decode cJ8_newBytesLength 29 = .ok (.ldc 26, 2) := dk_18 26 (dk_at dksJ8_newBytesLength_1 7 rfl rfl)
theorem dJ8_newBytesLength_31 : decode cJ8_newBytesLength 31 = .ok (.invokevirtual 28, 3) := dk_182 0 28 (dk_at dksJ8_newBytesLength_1 9 rfl rfl)
theorem dJ8_newBytesLength_34 : decode cJ8_newBytesLength 34 = .ok (.iload_n 0, 1) := dk_26 (dk_at dksJ8_newBytesLength_1 12 rfl rfl)
theorem dJ8_newBytesLength_35 : decode cJ8_newBytesLength 35 = .ok (.invokevirtual 32, 3) := dk_182 0 32 (dk_at dksJ8_newBytesLength_1 13 rfl rfl)
theorem dJ8_newBytesLength_38 : decode cJ8_newBytesLength 38 = .ok (.ldc 35, 2) := dk_18 35 (dk_at dksJ8_newBytesLength_1 16 rfl rfl)
theorem dJ8_newBytesLength_40 : decode cJ8_newBytesLength 40 = .ok (.invokevirtual 28, 3) := dk_182 0 28 (dk_at dksJ8_newBytesLength_1 18 rfl rfl)
theorem dJ8_newBytesLength_43 : decode cJ8_newBytesLength 43 = .ok (.ldc 20, 2) := dk_18 20 (dk_at dksJ8_newBytesLength_1 21 rfl rfl)
theorem dJ8_newBytesLength_45 : decode cJ8_newBytesLength 45 = .ok (.invokevirtual 32, 3) := dk_182 0 32 (dk_at dksJ8_newBytesLength_2 0 rfl rfl)
theorem dJ8_newBytesLength_48 : decode cJ8_newBytesLength 48 = .ok (.invokevirtual 37, 3) := dk_182 0 37 (dk_at dksJ8_newBytesLength_2 3 rfl rfl)
theorem dJ8_newBytesLength_51 : decode cJ8_newBytesLength 51 = .ok (.invokespecial 41, 3) := dk_183 0 41 (dk_at dksJ8_newBytesLength_2 6 rfl rfl)
theorem dJ8_newBytesLength_54 : decode cJ8_newBytesLength 54 = .ok (.athrow, 1) := dk_191 (dk_at dksJ8_newBytesLength_2 9 rfl rfl)
theorem dJ8_newBytesLength_55 : decode cJ8_newBytesLength 55 = .ok (.iload_n 0, 1) := dk_26 (dk_at dksJ8_newBytesLength_2 10 rfl rfl)
theorem dJ8_newBytesLength_56 : decode cJ8_newBytesLength 56 = .ok (.iconst 1, 1) := dk_4 (dk_at dksJ8_newBytesLength_2 11 rfl rfl)
theorem dJ8_newBytesLength_57 : decode cJ8_newBytesLength 57 = .ok (.ishl, 1) := dk_120 (dk_at dksJ8_newBytesLength_2 12 rfl rfl)
theorem dJ8_newBytesLength_58 : decode cJ8_newBytesLength 58 = .ok (.ireturn, 1) := dk_172 (dk_at dksJ8_newBytesLength_2 13 rfl rfl)
abbrev cJ8_inflate : ByteArray := prog_39_method_86_code
def yJ8_inflate : MethodName := ⟨RJ8, "inflate", "([BI[BII)V"⟩
def dkwJ8_inflate_1 : List UInt8 := [132, 1, 1, 51, 17, 0, 255, 126, 184, 0, 111, 132, 5, 1, 167, 255, 228, 177]
abbrev dktJ8_inflate_1 : List UInt8 := dkwJ8_inflate_1 ++ []
def dkwJ8_inflate_0 : List UInt8 := [29, 21, 4, 44, 184, 0, 173, 3, 54, 5, 21, 5, 21, 4, 162, 0, 27, 44, 29, 132, 3, 1, 42, 27]
abbrev dktJ8_inflate_0 : List UInt8 := dkwJ8_inflate_0 ++ dktJ8_inflate_1
theorem dksJ8_inflate_0 : cJ8_inflate.data.toList.drop 0 = dktJ8_inflate_0 := by decide +kernel
theorem dksJ8_inflate_1 : cJ8_inflate.data.toList.drop 24 = dktJ8_inflate_1 := dk_seg dksJ8_inflate_0 24 rfl rfl
theorem dJ8_inflate_0 : decode cJ8_inflate 0 = .ok (.iload_n 3, 1) := dk_29 (dk_at dksJ8_inflate_0 0 rfl rfl)
theorem dJ8_inflate_1 : decode cJ8_inflate 1 = .ok (.iload 4, 2) := dk_21 4 (dk_at dksJ8_inflate_0 1 rfl rfl)
theorem dJ8_inflate_3 : decode cJ8_inflate 3 = .ok (.aload_n 2, 1) := dk_44 (dk_at dksJ8_inflate_0 3 rfl rfl)
theorem dJ8_inflate_4 : decode cJ8_inflate 4 = .ok (.invokestatic 173, 3) := dk_184 0 173 (dk_at dksJ8_inflate_0 4 rfl rfl)
theorem dJ8_inflate_7 : decode cJ8_inflate 7 = .ok (.iconst 0, 1) := dk_3 (dk_at dksJ8_inflate_0 7 rfl rfl)
theorem dJ8_inflate_8 : decode cJ8_inflate 8 = .ok (.istore 5, 2) := dk_54 5 (dk_at dksJ8_inflate_0 8 rfl rfl)
theorem dJ8_inflate_10 : decode cJ8_inflate 10 = .ok (.iload 5, 2) := dk_21 5 (dk_at dksJ8_inflate_0 10 rfl rfl)
theorem dJ8_inflate_12 : decode cJ8_inflate 12 = .ok (.iload 4, 2) := dk_21 4 (dk_at dksJ8_inflate_0 12 rfl rfl)
theorem dJ8_inflate_14 : decode cJ8_inflate 14 = .ok (.if_icmp .ge 27, 3) := dk_162 0 27 (dk_at dksJ8_inflate_0 14 rfl rfl)
theorem dJ8_inflate_17 : decode cJ8_inflate 17 = .ok (.aload_n 2, 1) := dk_44 (dk_at dksJ8_inflate_0 17 rfl rfl)
theorem dJ8_inflate_18 : decode cJ8_inflate 18 = .ok (.iload_n 3, 1) := dk_29 (dk_at dksJ8_inflate_0 18 rfl rfl)
theorem dJ8_inflate_19 : decode cJ8_inflate 19 = .ok (.iinc 3 1, 3) := dk_132 3 1 (dk_at dksJ8_inflate_0 19 rfl rfl)
theorem dJ8_inflate_22 : decode cJ8_inflate 22 = .ok (.aload_n 0, 1) := dk_42 (dk_at dksJ8_inflate_0 22 rfl rfl)
theorem dJ8_inflate_23 : decode cJ8_inflate 23 = .ok (.iload_n 1, 1) := dk_27 (dk_at dksJ8_inflate_0 23 rfl rfl)
theorem dJ8_inflate_24 : decode cJ8_inflate 24 = .ok (.iinc 1 1, 3) := dk_132 1 1 (dk_at dksJ8_inflate_1 0 rfl rfl)
theorem dJ8_inflate_27 : decode cJ8_inflate 27 = .ok (.baload, 1) := dk_51 (dk_at dksJ8_inflate_1 3 rfl rfl)
theorem dJ8_inflate_28 : decode cJ8_inflate 28 = .ok (.sipush 255, 3) := dk_17 0 255 (dk_at dksJ8_inflate_1 4 rfl rfl)
theorem dJ8_inflate_31 : decode cJ8_inflate 31 = .ok (.iand, 1) := dk_126 (dk_at dksJ8_inflate_1 7 rfl rfl)
theorem dJ8_inflate_32 : decode cJ8_inflate 32 = .ok (.invokestatic 111, 3) := dk_184 0 111 (dk_at dksJ8_inflate_1 8 rfl rfl)
theorem dJ8_inflate_35 : decode cJ8_inflate 35 = .ok (.iinc 5 1, 3) := dk_132 5 1 (dk_at dksJ8_inflate_1 11 rfl rfl)
theorem dJ8_inflate_38 : decode cJ8_inflate 38 = .ok (.goto (-28), 3) := dk_167 255 228 (dk_at dksJ8_inflate_1 14 rfl rfl)
theorem dJ8_inflate_41 : decode cJ8_inflate 41 = .ok (.return_, 1) := dk_177 (dk_at dksJ8_inflate_1 17 rfl rfl)
abbrev cJ8_checkBoundsOffCount : ByteArray := prog_39_method_94_code
def yJ8_checkBoundsOffCount : MethodName := ⟨RJ8, "checkBoundsOffCount", "(II[B)V"⟩
def dkwJ8_checkBoundsOffCount_0 : List UInt8 := [26, 27, 44, 184, 0, 48, 184, 1, 163, 87, 177]
abbrev dktJ8_checkBoundsOffCount_0 : List UInt8 := dkwJ8_checkBoundsOffCount_0 ++ []
theorem dksJ8_checkBoundsOffCount_0 : cJ8_checkBoundsOffCount.data.toList.drop 0 = dktJ8_checkBoundsOffCount_0 := by decide +kernel
theorem dJ8_checkBoundsOffCount_0 : decode cJ8_checkBoundsOffCount 0 = .ok (.iload_n 0, 1) := dk_26 (dk_at dksJ8_checkBoundsOffCount_0 0 rfl rfl)
theorem dJ8_checkBoundsOffCount_1 : decode cJ8_checkBoundsOffCount 1 = .ok (.iload_n 1, 1) := dk_27 (dk_at dksJ8_checkBoundsOffCount_0 1 rfl rfl)
theorem dJ8_checkBoundsOffCount_2 : decode cJ8_checkBoundsOffCount 2 = .ok (.aload_n 2, 1) := dk_44 (dk_at dksJ8_checkBoundsOffCount_0 2 rfl rfl)
theorem dJ8_checkBoundsOffCount_3 : decode cJ8_checkBoundsOffCount 3 = .ok (.invokestatic 48, 3) := dk_184 0 48 (dk_at dksJ8_checkBoundsOffCount_0 3 rfl rfl)
theorem dJ8_checkBoundsOffCount_6 : decode cJ8_checkBoundsOffCount 6 = .ok (.invokestatic 419, 3) := dk_184 1 163 (dk_at dksJ8_checkBoundsOffCount_0 6 rfl rfl)
theorem dJ8_checkBoundsOffCount_9 : decode cJ8_checkBoundsOffCount 9 = .ok (.pop, 1) := dk_87 (dk_at dksJ8_checkBoundsOffCount_0 9 rfl rfl)
theorem dJ8_checkBoundsOffCount_10 : decode cJ8_checkBoundsOffCount 10 = .ok (.return_, 1) := dk_177 (dk_at dksJ8_checkBoundsOffCount_0 10 rfl rfl)
abbrev cJ8_putChar : ByteArray := prog_39_method_4_code
def yJ8_putChar : MethodName := ⟨RJ8, "putChar", "([BII)V"⟩
def dkwJ8_putChar_2 : List UInt8 := [178, 0, 63, 122, 145, 84, 177]
abbrev dktJ8_putChar_2 : List UInt8 := dkwJ8_putChar_2 ++ []
def dkwJ8_putChar_1 : List UInt8 := [183, 0, 56, 191, 27, 4, 120, 60, 42, 27, 132, 1, 1, 28, 178, 0, 59, 122, 145, 84, 42, 27, 28]
abbrev dktJ8_putChar_1 : List UInt8 := dkwJ8_putChar_1 ++ dktJ8_putChar_2
def dkwJ8_putChar_0 : List UInt8 := [178, 0, 44, 154, 0, 25, 27, 155, 0, 11, 27, 42, 184, 0, 48, 161, 0, 13, 187, 0, 52, 89, 18, 54]
abbrev dktJ8_putChar_0 : List UInt8 := dkwJ8_putChar_0 ++ dktJ8_putChar_1
theorem dksJ8_putChar_0 : cJ8_putChar.data.toList.drop 0 = dktJ8_putChar_0 := by decide +kernel
theorem dksJ8_putChar_1 : cJ8_putChar.data.toList.drop 24 = dktJ8_putChar_1 := dk_seg dksJ8_putChar_0 24 rfl rfl
theorem dksJ8_putChar_2 : cJ8_putChar.data.toList.drop 47 = dktJ8_putChar_2 := dk_seg dksJ8_putChar_1 23 rfl rfl
theorem dJ8_putChar_0 : decode cJ8_putChar 0 = .ok (.getstatic 44, 3) := dk_178 0 44 (dk_at dksJ8_putChar_0 0 rfl rfl)
theorem dJ8_putChar_3 : decode cJ8_putChar 3 = .ok (.ifCond .ne 25, 3) := dk_154 0 25 (dk_at dksJ8_putChar_0 3 rfl rfl)
theorem dJ8_putChar_6 : decode cJ8_putChar 6 = .ok (.iload_n 1, 1) := dk_27 (dk_at dksJ8_putChar_0 6 rfl rfl)
theorem dJ8_putChar_7 : decode cJ8_putChar 7 = .ok (.ifCond .lt 11, 3) := dk_155 0 11 (dk_at dksJ8_putChar_0 7 rfl rfl)
theorem dJ8_putChar_10 : decode cJ8_putChar 10 = .ok (.iload_n 1, 1) := dk_27 (dk_at dksJ8_putChar_0 10 rfl rfl)
theorem dJ8_putChar_11 : decode cJ8_putChar 11 = .ok (.aload_n 0, 1) := dk_42 (dk_at dksJ8_putChar_0 11 rfl rfl)
theorem dJ8_putChar_12 : decode cJ8_putChar 12 = .ok (.invokestatic 48, 3) := dk_184 0 48 (dk_at dksJ8_putChar_0 12 rfl rfl)
theorem dJ8_putChar_15 : decode cJ8_putChar 15 = .ok (.if_icmp .lt 13, 3) := dk_161 0 13 (dk_at dksJ8_putChar_0 15 rfl rfl)
theorem dJ8_putChar_18 : decode cJ8_putChar 18 = .ok (.new 52, 3) := dk_187 0 52 (dk_at dksJ8_putChar_0 18 rfl rfl)
theorem dJ8_putChar_21 : decode cJ8_putChar 21 = .ok (.dup, 1) := dk_89 (dk_at dksJ8_putChar_0 21 rfl rfl)
theorem dJ8_putChar_22 : decode cJ8_putChar 22 = .ok (.ldc 54, 2) := dk_18 54 (dk_at dksJ8_putChar_0 22 rfl rfl)
theorem dJ8_putChar_24 : decode cJ8_putChar 24 = .ok (.invokespecial 56, 3) := dk_183 0 56 (dk_at dksJ8_putChar_1 0 rfl rfl)
theorem dJ8_putChar_27 : decode cJ8_putChar 27 = .ok (.athrow, 1) := dk_191 (dk_at dksJ8_putChar_1 3 rfl rfl)
theorem dJ8_putChar_28 : decode cJ8_putChar 28 = .ok (.iload_n 1, 1) := dk_27 (dk_at dksJ8_putChar_1 4 rfl rfl)
theorem dJ8_putChar_29 : decode cJ8_putChar 29 = .ok (.iconst 1, 1) := dk_4 (dk_at dksJ8_putChar_1 5 rfl rfl)
theorem dJ8_putChar_30 : decode cJ8_putChar 30 = .ok (.ishl, 1) := dk_120 (dk_at dksJ8_putChar_1 6 rfl rfl)
theorem dJ8_putChar_31 : decode cJ8_putChar 31 = .ok (.istore_n 1, 1) := dk_60 (dk_at dksJ8_putChar_1 7 rfl rfl)
theorem dJ8_putChar_32 : decode cJ8_putChar 32 = .ok (.aload_n 0, 1) := dk_42 (dk_at dksJ8_putChar_1 8 rfl rfl)
theorem dJ8_putChar_33 : decode cJ8_putChar 33 = .ok (.iload_n 1, 1) := dk_27 (dk_at dksJ8_putChar_1 9 rfl rfl)
theorem dJ8_putChar_34 : decode cJ8_putChar 34 = .ok (.iinc 1 1, 3) := dk_132 1 1 (dk_at dksJ8_putChar_1 10 rfl rfl)
theorem dJ8_putChar_37 : decode cJ8_putChar 37 = .ok (.iload_n 2, 1) := dk_28 (dk_at dksJ8_putChar_1 13 rfl rfl)
theorem dJ8_putChar_38 : decode cJ8_putChar 38 = .ok (.getstatic 59, 3) := dk_178 0 59 (dk_at dksJ8_putChar_1 14 rfl rfl)
theorem dJ8_putChar_41 : decode cJ8_putChar 41 = .ok (.ishr, 1) := dk_122 (dk_at dksJ8_putChar_1 17 rfl rfl)
theorem dJ8_putChar_42 : decode cJ8_putChar 42 = .ok (.i2b, 1) := dk_145 (dk_at dksJ8_putChar_1 18 rfl rfl)
theorem dJ8_putChar_43 : decode cJ8_putChar 43 = .ok (.bastore, 1) := dk_84 (dk_at dksJ8_putChar_1 19 rfl rfl)
theorem dJ8_putChar_44 : decode cJ8_putChar 44 = .ok (.aload_n 0, 1) := dk_42 (dk_at dksJ8_putChar_1 20 rfl rfl)
theorem dJ8_putChar_45 : decode cJ8_putChar 45 = .ok (.iload_n 1, 1) := dk_27 (dk_at dksJ8_putChar_1 21 rfl rfl)
theorem dJ8_putChar_46 : decode cJ8_putChar 46 = .ok (.iload_n 2, 1) := dk_28 (dk_at dksJ8_putChar_1 22 rfl rfl)
theorem dJ8_putChar_47 : decode cJ8_putChar 47 = .ok (.getstatic 63, 3) := dk_178 0 63 (dk_at dksJ8_putChar_2 0 rfl rfl)
theorem dJ8_putChar_50 : decode cJ8_putChar 50 = .ok (.ishr, 1) := dk_122 (dk_at dksJ8_putChar_2 3 rfl rfl)
theorem dJ8_putChar_51 : decode cJ8_putChar 51 = .ok (.i2b, 1) := dk_145 (dk_at dksJ8_putChar_2 4 rfl rfl)
theorem dJ8_putChar_52 : decode cJ8_putChar 52 = .ok (.bastore, 1) := dk_84 (dk_at dksJ8_putChar_2 5 rfl rfl)
theorem dJ8_putChar_53 : decode cJ8_putChar 53 = .ok (.return_, 1) := dk_177 (dk_at dksJ8_putChar_2 6 rfl rfl)
abbrev cJ8_putCharSB : ByteArray := prog_39_method_71_code
def yJ8_putCharSB : MethodName := ⟨RJ8, "putCharSB", "([BII)V"⟩
def dkwJ8_putCharSB_0 : List UInt8 := [27, 42, 184, 0, 67, 42, 27, 28, 184, 0, 111, 177]
abbrev dktJ8_putCharSB_0 : List UInt8 := dkwJ8_putCharSB_0 ++ []
theorem dksJ8_putCharSB_0 : cJ8_putCharSB.data.toList.drop 0 = dktJ8_putCharSB_0 := by decide +kernel
theorem dJ8_putCharSB_0 : decode cJ8_putCharSB 0 = .ok (.iload_n 1, 1) := dk_27 (dk_at dksJ8_putCharSB_0 0 rfl rfl)
theorem dJ8_putCharSB_1 : decode cJ8_putCharSB 1 = .ok (.aload_n 0, 1) := dk_42 (dk_at dksJ8_putCharSB_0 1 rfl rfl)
theorem dJ8_putCharSB_2 : decode cJ8_putCharSB 2 = .ok (.invokestatic 67, 3) := dk_184 0 67 (dk_at dksJ8_putCharSB_0 2 rfl rfl)
theorem dJ8_putCharSB_5 : decode cJ8_putCharSB 5 = .ok (.aload_n 0, 1) := dk_42 (dk_at dksJ8_putCharSB_0 5 rfl rfl)
theorem dJ8_putCharSB_6 : decode cJ8_putCharSB 6 = .ok (.iload_n 1, 1) := dk_27 (dk_at dksJ8_putCharSB_0 6 rfl rfl)
theorem dJ8_putCharSB_7 : decode cJ8_putCharSB 7 = .ok (.iload_n 2, 1) := dk_28 (dk_at dksJ8_putCharSB_0 7 rfl rfl)
theorem dJ8_putCharSB_8 : decode cJ8_putCharSB 8 = .ok (.invokestatic 111, 3) := dk_184 0 111 (dk_at dksJ8_putCharSB_0 8 rfl rfl)
theorem dJ8_putCharSB_11 : decode cJ8_putCharSB 11 = .ok (.return_, 1) := dk_177 (dk_at dksJ8_putCharSB_0 11 rfl rfl)
abbrev cJ8_compress : ByteArray := prog_39_method_17_code
def yJ8_compress : MethodName := ⟨RJ8, "compress", "([BII)[B"⟩
def dkwJ8_compress_2 : List UInt8 := [25, 5, 3, 45, 3, 28, 184, 0, 123, 28, 159, 0, 6, 25, 5, 176, 45, 176]
abbrev dktJ8_compress_2 : List UInt8 := dkwJ8_compress_2 ++ []
def dkwJ8_compress_1 : List UInt8 := [27, 28, 96, 184, 0, 11, 184, 0, 126, 58, 5, 25, 5, 21, 4, 184, 0, 71, 17, 0, 255, 163, 0, 16]
abbrev dktJ8_compress_1 : List UInt8 := dkwJ8_compress_1 ++ dktJ8_compress_2
def dkwJ8_compress_0 : List UInt8 := [28, 188, 8, 78, 42, 27, 45, 3, 28, 184, 0, 123, 54, 4, 21, 4, 28, 159, 0, 47, 42, 27, 4, 120]
abbrev dktJ8_compress_0 : List UInt8 := dkwJ8_compress_0 ++ dktJ8_compress_1
theorem dksJ8_compress_0 : cJ8_compress.data.toList.drop 0 = dktJ8_compress_0 := by decide +kernel
theorem dksJ8_compress_1 : cJ8_compress.data.toList.drop 24 = dktJ8_compress_1 := dk_seg dksJ8_compress_0 24 rfl rfl
theorem dksJ8_compress_2 : cJ8_compress.data.toList.drop 48 = dktJ8_compress_2 := dk_seg dksJ8_compress_1 24 rfl rfl
theorem dJ8_compress_0 : decode cJ8_compress 0 = .ok (.iload_n 2, 1) := dk_28 (dk_at dksJ8_compress_0 0 rfl rfl)
theorem dJ8_compress_1 : decode cJ8_compress 1 = .ok (.newarray .byte, 2) := dk_188_8 (dk_at dksJ8_compress_0 1 rfl rfl)
theorem dJ8_compress_3 : decode cJ8_compress 3 = .ok (.astore_n 3, 1) := dk_78 (dk_at dksJ8_compress_0 3 rfl rfl)
theorem dJ8_compress_4 : decode cJ8_compress 4 = .ok (.aload_n 0, 1) := dk_42 (dk_at dksJ8_compress_0 4 rfl rfl)
theorem dJ8_compress_5 : decode cJ8_compress 5 = .ok (.iload_n 1, 1) := dk_27 (dk_at dksJ8_compress_0 5 rfl rfl)
theorem dJ8_compress_6 : decode cJ8_compress 6 = .ok (.aload_n 3, 1) := dk_45 (dk_at dksJ8_compress_0 6 rfl rfl)
theorem dJ8_compress_7 : decode cJ8_compress 7 = .ok (.iconst 0, 1) := dk_3 (dk_at dksJ8_compress_0 7 rfl rfl)
theorem dJ8_compress_8 : decode cJ8_compress 8 = .ok (.iload_n 2, 1) := dk_28 (dk_at dksJ8_compress_0 8 rfl rfl)
theorem dJ8_compress_9 : decode cJ8_compress 9 = .ok (.invokestatic 123, 3) := dk_184 0 123 (dk_at dksJ8_compress_0 9 rfl rfl)
theorem dJ8_compress_12 : decode cJ8_compress 12 = .ok (.istore 4, 2) := dk_54 4 (dk_at dksJ8_compress_0 12 rfl rfl)
theorem dJ8_compress_14 : decode cJ8_compress 14 = .ok (.iload 4, 2) := dk_21 4 (dk_at dksJ8_compress_0 14 rfl rfl)
theorem dJ8_compress_16 : decode cJ8_compress 16 = .ok (.iload_n 2, 1) := dk_28 (dk_at dksJ8_compress_0 16 rfl rfl)
theorem dJ8_compress_17 : decode cJ8_compress 17 = .ok (.if_icmp .eq 47, 3) := dk_159 0 47 (dk_at dksJ8_compress_0 17 rfl rfl)
theorem dJ8_compress_20 : decode cJ8_compress 20 = .ok (.aload_n 0, 1) := dk_42 (dk_at dksJ8_compress_0 20 rfl rfl)
theorem dJ8_compress_21 : decode cJ8_compress 21 = .ok (.iload_n 1, 1) := dk_27 (dk_at dksJ8_compress_0 21 rfl rfl)
theorem dJ8_compress_22 : decode cJ8_compress 22 = .ok (.iconst 1, 1) := dk_4 (dk_at dksJ8_compress_0 22 rfl rfl)
theorem dJ8_compress_23 : decode cJ8_compress 23 = .ok (.ishl, 1) := dk_120 (dk_at dksJ8_compress_0 23 rfl rfl)
theorem dJ8_compress_24 : decode cJ8_compress 24 = .ok (.iload_n 1, 1) := dk_27 (dk_at dksJ8_compress_1 0 rfl rfl)
theorem dJ8_compress_25 : decode cJ8_compress 25 = .ok (.iload_n 2, 1) := dk_28 (dk_at dksJ8_compress_1 1 rfl rfl)
theorem dJ8_compress_26 : decode cJ8_compress 26 = .ok (.iadd, 1) := dk_96 (dk_at dksJ8_compress_1 2 rfl rfl)
theorem dJ8_compress_27 : decode cJ8_compress 27 = .ok (.invokestatic 11, 3) := dk_184 0 11 (dk_at dksJ8_compress_1 3 rfl rfl)
theorem dJ8_compress_30 : decode cJ8_compress 30 = .ok (.invokestatic 126, 3) := dk_184 0 126 (dk_at dksJ8_compress_1 6 rfl rfl)
theorem dJ8_compress_33 : decode cJ8_compress 33 = .ok (.astore 5, 2) := dk_58 5 (dk_at dksJ8_compress_1 9 rfl rfl)
theorem dJ8_compress_35 : decode cJ8_compress 35 = .ok (.aload 5, 2) := dk_25 5 (dk_at dksJ8_compress_1 11 rfl rfl)
theorem dJ8_compress_37 : decode cJ8_compress 37 = .ok (.iload 4, 2) := dk_21 4 (dk_at dksJ8_compress_1 13 rfl rfl)
theorem dJ8_compress_39 : decode cJ8_compress 39 = .ok (.invokestatic 71, 3) := dk_184 0 71 (dk_at dksJ8_compress_1 15 rfl rfl)
theorem dJ8_compress_42 : decode cJ8_compress 42 = .ok (.sipush 255, 3) := dk_17 0 255 (dk_at dksJ8_compress_1 18 rfl rfl)
theorem dJ8_compress_45 : decode cJ8_compress 45 = .ok (.if_icmp .gt 16, 3) := dk_163 0 16 (dk_at dksJ8_compress_1 21 rfl rfl)
theorem dJ8_compress_48 : decode cJ8_compress 48 = .ok (.aload 5, 2) := dk_25 5 (dk_at dksJ8_compress_2 0 rfl rfl)
theorem dJ8_compress_50 : decode cJ8_compress 50 = .ok (.iconst 0, 1) := dk_3 (dk_at dksJ8_compress_2 2 rfl rfl)
theorem dJ8_compress_51 : decode cJ8_compress 51 = .ok (.aload_n 3, 1) := dk_45 (dk_at dksJ8_compress_2 3 rfl rfl)
theorem dJ8_compress_52 : decode cJ8_compress 52 = .ok (.iconst 0, 1) := dk_3 (dk_at dksJ8_compress_2 4 rfl rfl)
theorem dJ8_compress_53 : decode cJ8_compress 53 = .ok (.iload_n 2, 1) := dk_28 (dk_at dksJ8_compress_2 5 rfl rfl)
theorem dJ8_compress_54 : decode cJ8_compress 54 = .ok (.invokestatic 123, 3) := dk_184 0 123 (dk_at dksJ8_compress_2 6 rfl rfl)
theorem dJ8_compress_57 : decode cJ8_compress 57 = .ok (.iload_n 2, 1) := dk_28 (dk_at dksJ8_compress_2 9 rfl rfl)
theorem dJ8_compress_58 : decode cJ8_compress 58 = .ok (.if_icmp .eq 6, 3) := dk_159 0 6 (dk_at dksJ8_compress_2 10 rfl rfl)
theorem dJ8_compress_61 : decode cJ8_compress 61 = .ok (.aload 5, 2) := dk_25 5 (dk_at dksJ8_compress_2 13 rfl rfl)
theorem dJ8_compress_63 : decode cJ8_compress 63 = .ok (.areturn, 1) := dk_176 (dk_at dksJ8_compress_2 15 rfl rfl)
theorem dJ8_compress_64 : decode cJ8_compress 64 = .ok (.aload_n 3, 1) := dk_45 (dk_at dksJ8_compress_2 16 rfl rfl)
theorem dJ8_compress_65 : decode cJ8_compress 65 = .ok (.areturn, 1) := dk_176 (dk_at dksJ8_compress_2 17 rfl rfl)
abbrev cJ8_compress_2 : ByteArray := prog_39_method_22_code
def yJ8_compress_2 : MethodName := ⟨RJ8, "compress", "([BI[BII)I"⟩
def dkwJ8_compress_2_2 : List UInt8 := [132, 5, 1, 167, 255, 216, 21, 4, 172]
abbrev dktJ8_compress_2_2 : List UInt8 := dkwJ8_compress_2_2 ++ []
def dkwJ8_compress_2_1 : List UInt8 := [21, 6, 17, 0, 255, 164, 0, 6, 21, 5, 172, 44, 29, 21, 6, 145, 84, 132, 1, 1, 132, 3, 1]
abbrev dktJ8_compress_2_1 : List UInt8 := dkwJ8_compress_2_1 ++ dktJ8_compress_2_2
def dkwJ8_compress_2_0 : List UInt8 := [27, 21, 4, 42, 184, 0, 173, 3, 54, 5, 21, 5, 21, 4, 162, 0, 39, 42, 27, 184, 0, 71, 54, 6]
abbrev dktJ8_compress_2_0 : List UInt8 := dkwJ8_compress_2_0 ++ dktJ8_compress_2_1
theorem dksJ8_compress_2_0 : cJ8_compress_2.data.toList.drop 0 = dktJ8_compress_2_0 := by decide +kernel
theorem dksJ8_compress_2_1 : cJ8_compress_2.data.toList.drop 24 = dktJ8_compress_2_1 := dk_seg dksJ8_compress_2_0 24 rfl rfl
theorem dksJ8_compress_2_2 : cJ8_compress_2.data.toList.drop 47 = dktJ8_compress_2_2 := dk_seg dksJ8_compress_2_1 23 rfl rfl
theorem dJ8_compress_2_0 : decode cJ8_compress_2 0 = .ok (.iload_n 1, 1) := dk_27 (dk_at dksJ8_compress_2_0 0 rfl rfl)
theorem dJ8_compress_2_1 : decode cJ8_compress_2 1 = .ok (.iload 4, 2) := dk_21 4 (dk_at dksJ8_compress_2_0 1 rfl rfl)
theorem dJ8_compress_2_3 : decode cJ8_compress_2 3 = .ok (.aload_n 0, 1) := dk_42 (dk_at dksJ8_compress_2_0 3 rfl rfl)
theorem dJ8_compress_2_4 : decode cJ8_compress_2 4 = .ok (.invokestatic 173, 3) := dk_184 0 173 (dk_at dksJ8_compress_2_0 4 rfl rfl)
theorem dJ8_compress_2_7 : decode cJ8_compress_2 7 = .ok (.iconst 0, 1) := dk_3 (dk_at dksJ8_compress_2_0 7 rfl rfl)
theorem dJ8_compress_2_8 : decode cJ8_compress_2 8 = .ok (.istore 5, 2) := dk_54 5 (dk_at dksJ8_compress_2_0 8 rfl rfl)
theorem dJ8_compress_2_10 : decode cJ8_compress_2 10 = .ok (.iload 5, 2) := dk_21 5 (dk_at dksJ8_compress_2_0 10 rfl rfl)
theorem dJ8_compress_2_12 : decode cJ8_compress_2 12 = .ok (.iload 4, 2) := dk_21 4 (dk_at dksJ8_compress_2_0 12 rfl rfl)
theorem dJ8_compress_2_14 : decode cJ8_compress_2 14 = .ok (.if_icmp .ge 39, 3) := dk_162 0 39 (dk_at dksJ8_compress_2_0 14 rfl rfl)
theorem dJ8_compress_2_17 : decode cJ8_compress_2 17 = .ok (.aload_n 0, 1) := dk_42 (dk_at dksJ8_compress_2_0 17 rfl rfl)
theorem dJ8_compress_2_18 : decode cJ8_compress_2 18 = .ok (.iload_n 1, 1) := dk_27 (dk_at dksJ8_compress_2_0 18 rfl rfl)
theorem dJ8_compress_2_19 : decode cJ8_compress_2 19 = .ok (.invokestatic 71, 3) := dk_184 0 71 (dk_at dksJ8_compress_2_0 19 rfl rfl)
theorem dJ8_compress_2_22 : decode cJ8_compress_2 22 = .ok (.istore 6, 2) := dk_54 6 (dk_at dksJ8_compress_2_0 22 rfl rfl)
theorem dJ8_compress_2_24 : decode cJ8_compress_2 24 = .ok (.iload 6, 2) := dk_21 6 (dk_at dksJ8_compress_2_1 0 rfl rfl)
theorem dJ8_compress_2_26 : decode cJ8_compress_2 26 = .ok (.sipush 255, 3) := dk_17 0 255 (dk_at dksJ8_compress_2_1 2 rfl rfl)
theorem dJ8_compress_2_29 : decode cJ8_compress_2 29 = .ok (.if_icmp .le 6, 3) := dk_164 0 6 (dk_at dksJ8_compress_2_1 5 rfl rfl)
theorem dJ8_compress_2_32 : decode cJ8_compress_2 32 = .ok (.iload 5, 2) := dk_21 5 (dk_at dksJ8_compress_2_1 8 rfl rfl)
theorem dJ8_compress_2_34 : decode cJ8_compress_2 34 = .ok (.ireturn, 1) := dk_172 (dk_at dksJ8_compress_2_1 10 rfl rfl)
theorem dJ8_compress_2_35 : decode cJ8_compress_2 35 = .ok (.aload_n 2, 1) := dk_44 (dk_at dksJ8_compress_2_1 11 rfl rfl)
theorem dJ8_compress_2_36 : decode cJ8_compress_2 36 = .ok (.iload_n 3, 1) := dk_29 (dk_at dksJ8_compress_2_1 12 rfl rfl)
theorem dJ8_compress_2_37 : decode cJ8_compress_2 37 = .ok (.iload 6, 2) := dk_21 6 (dk_at dksJ8_compress_2_1 13 rfl rfl)
theorem dJ8_compress_2_39 : decode cJ8_compress_2 39 = .ok (.i2b, 1) := dk_145 (dk_at dksJ8_compress_2_1 15 rfl rfl)
theorem dJ8_compress_2_40 : decode cJ8_compress_2 40 = .ok (.bastore, 1) := dk_84 (dk_at dksJ8_compress_2_1 16 rfl rfl)
theorem dJ8_compress_2_41 : decode cJ8_compress_2 41 = .ok (.iinc 1 1, 3) := dk_132 1 1 (dk_at dksJ8_compress_2_1 17 rfl rfl)
theorem dJ8_compress_2_44 : decode cJ8_compress_2 44 = .ok (.iinc 3 1, 3) := dk_132 3 1 (dk_at dksJ8_compress_2_1 20 rfl rfl)
theorem dJ8_compress_2_47 : decode cJ8_compress_2 47 = .ok (.iinc 5 1, 3) := dk_132 5 1 (dk_at dksJ8_compress_2_2 0 rfl rfl)
theorem dJ8_compress_2_50 : decode cJ8_compress_2 50 = .ok (.goto (-40), 3) := dk_167 255 216 (dk_at dksJ8_compress_2_2 3 rfl rfl)
theorem dJ8_compress_2_53 : decode cJ8_compress_2 53 = .ok (.iload 4, 2) := dk_21 4 (dk_at dksJ8_compress_2_2 6 rfl rfl)
theorem dJ8_compress_2_55 : decode cJ8_compress_2 55 = .ok (.ireturn, 1) := dk_172 (dk_at dksJ8_compress_2_2 8 rfl rfl)
abbrev cJ8_coderFromArrayLen : ByteArray := prog_39_method_15_code
def yJ8_coderFromArrayLen : MethodName := ⟨RJ8, "coderFromArrayLen", "([BI)B"⟩
def dkwJ8_coderFromArrayLen_0 : List UInt8 := [27, 42, 190, 100, 16, 31, 124, 145, 172]
abbrev dktJ8_coderFromArrayLen_0 : List UInt8 := dkwJ8_coderFromArrayLen_0 ++ []
theorem dksJ8_coderFromArrayLen_0 : cJ8_coderFromArrayLen.data.toList.drop 0 = dktJ8_coderFromArrayLen_0 := by decide +kernel
theorem dJ8_coderFromArrayLen_0 : decode cJ8_coderFromArrayLen 0 = .ok (.iload_n 1, 1) := dk_27 (dk_at dksJ8_coderFromArrayLen_0 0 rfl rfl)
theorem dJ8_coderFromArrayLen_1 : decode cJ8_coderFromArrayLen 1 = .ok (.aload_n 0, 1) := dk_42 (dk_at dksJ8_coderFromArrayLen_0 1 rfl rfl)
theorem dJ8_coderFromArrayLen_2 : decode cJ8_coderFromArrayLen 2 = .ok (.arraylength, 1) := dk_190 (dk_at dksJ8_coderFromArrayLen_0 2 rfl rfl)
theorem dJ8_coderFromArrayLen_3 : decode cJ8_coderFromArrayLen 3 = .ok (.isub, 1) := dk_100 (dk_at dksJ8_coderFromArrayLen_0 3 rfl rfl)
theorem dJ8_coderFromArrayLen_4 : decode cJ8_coderFromArrayLen 4 = .ok (.bipush 31, 2) := dk_16 31 (dk_at dksJ8_coderFromArrayLen_0 4 rfl rfl)
theorem dJ8_coderFromArrayLen_6 : decode cJ8_coderFromArrayLen 6 = .ok (.iushr, 1) := dk_124 (dk_at dksJ8_coderFromArrayLen_0 6 rfl rfl)
theorem dJ8_coderFromArrayLen_7 : decode cJ8_coderFromArrayLen 7 = .ok (.i2b, 1) := dk_145 (dk_at dksJ8_coderFromArrayLen_0 7 rfl rfl)
theorem dJ8_coderFromArrayLen_8 : decode cJ8_coderFromArrayLen 8 = .ok (.ireturn, 1) := dk_172 (dk_at dksJ8_coderFromArrayLen_0 8 rfl rfl)
theorem q125 : (Jvm.Cond.initialized "java/lang/StringUTF16") ∈ lw_all := lw_g (lw_at lw_m1 14 rfl) rfl
theorem q461 : (Jvm.Cond.static ({ cls := "java/lang/StringUTF16", name := "indexOf", desc := "([BIII)I" } : Jvm.MethodName)) ∈ lw_all := lw_g (lw_at lw_m2 110 rfl) rfl
theorem q462 : (Jvm.Cond.code ({ cls := "java/lang/StringUTF16", name := "indexOf", desc := "([BIII)I" } : Jvm.MethodName) prog_39_method_40_code (4 : Nat) (Option.some Jvm.ClassFile.FieldType.int)) ∈ lw_all := lw_g (lw_at lw_m2 111 rfl) rfl
theorem q463 : (Jvm.Cond.methodLink "java/lang/StringUTF16" (224 : Nat) ({ cls := "java/lang/Math", name := "max", desc := "(II)I" } : Jvm.MethodName)) ∈ lw_all := lw_g (lw_at lw_m2 112 rfl) rfl
theorem q464 : (Jvm.Cond.methodLink "java/lang/StringUTF16" (183 : Nat) ({ cls := "java/lang/Math", name := "min", desc := "(II)I" } : Jvm.MethodName)) ∈ lw_all := lw_g (lw_at lw_m2 113 rfl) rfl
theorem q465 : (Jvm.Cond.constant "java/lang/StringUTF16" (227 : Nat) (65536 : Int32)) ∈ lw_all := lw_g (lw_at lw_m2 114 rfl) rfl
theorem q466 : (Jvm.Cond.methodLink "java/lang/StringUTF16" (228 : Nat) ({ cls := "java/lang/StringUTF16", name := "indexOfChar", desc := "([BIII)I" } : Jvm.MethodName)) ∈ lw_all := lw_g (lw_at lw_m2 115 rfl) rfl
theorem q467 : (Jvm.Cond.static ({ cls := "java/lang/StringUTF16", name := "indexOfChar", desc := "([BIII)I" } : Jvm.MethodName)) ∈ lw_all := lw_g (lw_at lw_m2 116 rfl) rfl
theorem q468 : (Jvm.Cond.code ({ cls := "java/lang/StringUTF16", name := "indexOfChar", desc := "([BIII)I" } : Jvm.MethodName) prog_39_method_47_code (4 : Nat) (Option.some Jvm.ClassFile.FieldType.int)) ∈ lw_all := lw_g (lw_at lw_m2 117 rfl) rfl
theorem q469 : (Jvm.Cond.methodLink "java/lang/StringUTF16" (96 : Nat) ({ cls := "java/lang/StringUTF16", name := "checkBoundsBeginEnd", desc := "(II[B)V" } : Jvm.MethodName)) ∈ lw_all := lw_g (lw_at lw_m2 118 rfl) rfl
theorem q470 : (Jvm.Cond.static ({ cls := "java/lang/StringUTF16", name := "checkBoundsBeginEnd", desc := "(II[B)V" } : Jvm.MethodName)) ∈ lw_all := lw_g (lw_at lw_m2 119 rfl) rfl
theorem q471 : (Jvm.Cond.code ({ cls := "java/lang/StringUTF16", name := "checkBoundsBeginEnd", desc := "(II[B)V" } : Jvm.MethodName) prog_39_method_93_code (3 : Nat) (Option.none : Option Jvm.ClassFile.FieldType)) ∈ lw_all := lw_g (lw_at lw_m2 120 rfl) rfl
theorem q472 : (Jvm.Cond.methodLink "java/lang/StringUTF16" (48 : Nat) ({ cls := "java/lang/StringUTF16", name := "length", desc := "([B)I" } : Jvm.MethodName)) ∈ lw_all := lw_g (lw_at lw_m2 121 rfl) rfl
theorem q473 : (Jvm.Cond.static ({ cls := "java/lang/StringUTF16", name := "length", desc := "([B)I" } : Jvm.MethodName)) ∈ lw_all := lw_g (lw_at lw_m2 122 rfl) rfl
theorem q474 : (Jvm.Cond.code ({ cls := "java/lang/StringUTF16", name := "length", desc := "([B)I" } : Jvm.MethodName) prog_39_method_6_code (1 : Nat) (Option.some Jvm.ClassFile.FieldType.int)) ∈ lw_all := lw_g (lw_at lw_m2 123 rfl) rfl
theorem q475 : (Jvm.Cond.methodLink "java/lang/StringUTF16" (241 : Nat) ({ cls := "java/lang/String", name := "checkBoundsBeginEnd", desc := "(III)V" } : Jvm.MethodName)) ∈ lw_all := lw_g (lw_at lw_m2 124 rfl) rfl
theorem q483 : (Jvm.Cond.methodLink "java/lang/StringUTF16" (244 : Nat) ({ cls := "java/lang/StringUTF16", name := "indexOfCharUnsafe", desc := "([BIII)I" } : Jvm.MethodName)) ∈ lw_all := lw_g (lw_at lw_m2 132 rfl) rfl
theorem q484 : (Jvm.Cond.static ({ cls := "java/lang/StringUTF16", name := "indexOfCharUnsafe", desc := "([BIII)I" } : Jvm.MethodName)) ∈ lw_all := lw_g (lw_at lw_m2 133 rfl) rfl
theorem q485 : (Jvm.Cond.code ({ cls := "java/lang/StringUTF16", name := "indexOfCharUnsafe", desc := "([BIII)I" } : Jvm.MethodName) prog_39_method_48_code (5 : Nat) (Option.some Jvm.ClassFile.FieldType.int)) ∈ lw_all := lw_g (lw_at lw_m2 134 rfl) rfl
theorem q486 : (Jvm.Cond.methodLink "java/lang/StringUTF16" (71 : Nat) ({ cls := "java/lang/StringUTF16", name := "getChar", desc := "([BI)C" } : Jvm.MethodName)) ∈ lw_all := lw_g (lw_at lw_m2 135 rfl) rfl
theorem q487 : (Jvm.Cond.static ({ cls := "java/lang/StringUTF16", name := "getChar", desc := "([BI)C" } : Jvm.MethodName)) ∈ lw_all := lw_g (lw_at lw_m2 136 rfl) rfl
theorem q488 : (Jvm.Cond.code ({ cls := "java/lang/StringUTF16", name := "getChar", desc := "([BI)C" } : Jvm.MethodName) prog_39_method_5_code (2 : Nat) (Option.some Jvm.ClassFile.FieldType.char)) ∈ lw_all := lw_g (lw_at lw_m2 137 rfl) rfl
theorem q489 : (Jvm.Cond.fieldLink "java/lang/StringUTF16" (44 : Nat) "java/lang/StringUTF16" "$assertionsDisabled" "Z") ∈ lw_all := lw_g (lw_at lw_m2 138 rfl) rfl
theorem q490 : (Jvm.Cond.laysStatic "java/lang/StringUTF16" "$assertionsDisabled" "Z") ∈ lw_tbl := lw_at lw_m2 139 rfl
theorem q491 : (Jvm.Cond.fieldLink "java/lang/StringUTF16" (59 : Nat) "java/lang/StringUTF16" "HI_BYTE_SHIFT" "I") ∈ lw_all := lw_g (lw_at lw_m2 140 rfl) rfl
theorem q492 : (Jvm.Cond.laysStatic "java/lang/StringUTF16" "HI_BYTE_SHIFT" "I") ∈ lw_tbl := lw_at lw_m2 141 rfl
theorem q493 : (Jvm.Cond.fieldLink "java/lang/StringUTF16" (63 : Nat) "java/lang/StringUTF16" "LO_BYTE_SHIFT" "I") ∈ lw_all := lw_g (lw_at lw_m2 142 rfl) rfl
theorem q494 : (Jvm.Cond.laysStatic "java/lang/StringUTF16" "LO_BYTE_SHIFT" "I") ∈ lw_tbl := lw_at lw_m2 143 rfl
theorem q495 : (Jvm.Cond.methodLink "java/lang/StringUTF16" (232 : Nat) ({ cls := "java/lang/StringUTF16", name := "indexOfSupplementary", desc := "([BIII)I" } : Jvm.MethodName)) ∈ lw_all := lw_g (lw_at lw_m2 144 rfl) rfl
theorem q496 : (Jvm.Cond.static ({ cls := "java/lang/StringUTF16", name := "indexOfSupplementary", desc := "([BIII)I" } : Jvm.MethodName)) ∈ lw_all := lw_g (lw_at lw_m2 145 rfl) rfl
theorem q497 : (Jvm.Cond.code ({ cls := "java/lang/StringUTF16", name := "indexOfSupplementary", desc := "([BIII)I" } : Jvm.MethodName) prog_39_method_49_code (7 : Nat) (Option.some Jvm.ClassFile.FieldType.int)) ∈ lw_all := lw_g (lw_at lw_m2 146 rfl) rfl
theorem q498 : (Jvm.Cond.methodLink "java/lang/StringUTF16" (164 : Nat) ({ cls := "java/lang/Character", name := "isValidCodePoint", desc := "(I)Z" } : Jvm.MethodName)) ∈ lw_all := lw_g (lw_at lw_m2 147 rfl) rfl
theorem q501 : (Jvm.Cond.methodLink "java/lang/StringUTF16" (157 : Nat) ({ cls := "java/lang/Character", name := "highSurrogate", desc := "(I)C" } : Jvm.MethodName)) ∈ lw_all := lw_g (lw_at lw_m2 150 rfl) rfl
theorem q505 : (Jvm.Cond.methodLink "java/lang/StringUTF16" (161 : Nat) ({ cls := "java/lang/Character", name := "lowSurrogate", desc := "(I)C" } : Jvm.MethodName)) ∈ lw_all := lw_g (lw_at lw_m2 154 rfl) rfl
theorem q534 : (Jvm.Cond.static ({ cls := "java/lang/StringUTF16", name := "charAt", desc := "([BI)C" } : Jvm.MethodName)) ∈ lw_all := lw_g (lw_at lw_m2 183 rfl) rfl
theorem q535 : (Jvm.Cond.code ({ cls := "java/lang/StringUTF16", name := "charAt", desc := "([BI)C" } : Jvm.MethodName) prog_39_method_83_code (2 : Nat) (Option.some Jvm.ClassFile.FieldType.char)) ∈ lw_all := lw_g (lw_at lw_m2 184 rfl) rfl
theorem q536 : (Jvm.Cond.methodLink "java/lang/StringUTF16" (67 : Nat) ({ cls := "java/lang/StringUTF16", name := "checkIndex", desc := "(I[B)V" } : Jvm.MethodName)) ∈ lw_all := lw_g (lw_at lw_m2 185 rfl) rfl
theorem q537 : (Jvm.Cond.static ({ cls := "java/lang/StringUTF16", name := "checkIndex", desc := "(I[B)V" } : Jvm.MethodName)) ∈ lw_all := lw_g (lw_at lw_m2 186 rfl) rfl
theorem q538 : (Jvm.Cond.code ({ cls := "java/lang/StringUTF16", name := "checkIndex", desc := "(I[B)V" } : Jvm.MethodName) prog_39_method_91_code (2 : Nat) (Option.none : Option Jvm.ClassFile.FieldType)) ∈ lw_all := lw_g (lw_at lw_m2 187 rfl) rfl
theorem q539 : (Jvm.Cond.methodLink "java/lang/StringUTF16" (414 : Nat) ({ cls := "java/lang/String", name := "checkIndex", desc := "(II)V" } : Jvm.MethodName)) ∈ lw_all := lw_g (lw_at lw_m2 188 rfl) rfl
theorem q640 : (Jvm.Cond.static ({ cls := "java/lang/StringUTF16", name := "newBytesFor", desc := "(I)[B" } : Jvm.MethodName)) ∈ lw_all := lw_g (lw_at lw_m3 49 rfl) rfl
theorem q641 : (Jvm.Cond.code ({ cls := "java/lang/StringUTF16", name := "newBytesFor", desc := "(I)[B" } : Jvm.MethodName) prog_39_method_2_code (1 : Nat) (Option.some (Jvm.ClassFile.FieldType.array Jvm.ClassFile.FieldType.byte))) ∈ lw_all := lw_g (lw_at lw_m3 50 rfl) rfl
theorem q642 : (Jvm.Cond.methodLink "java/lang/StringUTF16" (11 : Nat) ({ cls := "java/lang/StringUTF16", name := "newBytesLength", desc := "(I)I" } : Jvm.MethodName)) ∈ lw_all := lw_g (lw_at lw_m3 51 rfl) rfl
theorem q643 : (Jvm.Cond.static ({ cls := "java/lang/StringUTF16", name := "newBytesLength", desc := "(I)I" } : Jvm.MethodName)) ∈ lw_all := lw_g (lw_at lw_m3 52 rfl) rfl
theorem q644 : (Jvm.Cond.code ({ cls := "java/lang/StringUTF16", name := "newBytesLength", desc := "(I)I" } : Jvm.MethodName) prog_39_method_3_code (1 : Nat) (Option.some Jvm.ClassFile.FieldType.int)) ∈ lw_all := lw_g (lw_at lw_m3 53 rfl) rfl
theorem q645 : (Jvm.Cond.constant "java/lang/StringUTF16" (20 : Nat) (1073741823 : Int32)) ∈ lw_all := lw_g (lw_at lw_m3 54 rfl) rfl
theorem q713 : (Jvm.Cond.static ({ cls := "java/lang/StringUTF16", name := "inflate", desc := "([BI[BII)V" } : Jvm.MethodName)) ∈ lw_all := lw_g (lw_at lw_m3 122 rfl) rfl
theorem q714 : (Jvm.Cond.code ({ cls := "java/lang/StringUTF16", name := "inflate", desc := "([BI[BII)V" } : Jvm.MethodName) prog_39_method_86_code (6 : Nat) (Option.none : Option Jvm.ClassFile.FieldType)) ∈ lw_all := lw_g (lw_at lw_m3 123 rfl) rfl
theorem q715 : (Jvm.Cond.methodLink "java/lang/StringUTF16" (173 : Nat) ({ cls := "java/lang/StringUTF16", name := "checkBoundsOffCount", desc := "(II[B)V" } : Jvm.MethodName)) ∈ lw_all := lw_g (lw_at lw_m3 124 rfl) rfl
theorem q716 : (Jvm.Cond.static ({ cls := "java/lang/StringUTF16", name := "checkBoundsOffCount", desc := "(II[B)V" } : Jvm.MethodName)) ∈ lw_all := lw_g (lw_at lw_m3 125 rfl) rfl
theorem q717 : (Jvm.Cond.code ({ cls := "java/lang/StringUTF16", name := "checkBoundsOffCount", desc := "(II[B)V" } : Jvm.MethodName) prog_39_method_94_code (3 : Nat) (Option.none : Option Jvm.ClassFile.FieldType)) ∈ lw_all := lw_g (lw_at lw_m3 126 rfl) rfl
theorem q718 : (Jvm.Cond.methodLink "java/lang/StringUTF16" (419 : Nat) ({ cls := "java/lang/String", name := "checkBoundsOffCount", desc := "(III)I" } : Jvm.MethodName)) ∈ lw_all := lw_g (lw_at lw_m3 127 rfl) rfl
theorem q724 : (Jvm.Cond.methodLink "java/lang/StringUTF16" (111 : Nat) ({ cls := "java/lang/StringUTF16", name := "putChar", desc := "([BII)V" } : Jvm.MethodName)) ∈ lw_all := lw_g (lw_at lw_m3 133 rfl) rfl
theorem q725 : (Jvm.Cond.static ({ cls := "java/lang/StringUTF16", name := "putChar", desc := "([BII)V" } : Jvm.MethodName)) ∈ lw_all := lw_g (lw_at lw_m3 134 rfl) rfl
theorem q726 : (Jvm.Cond.code ({ cls := "java/lang/StringUTF16", name := "putChar", desc := "([BII)V" } : Jvm.MethodName) prog_39_method_4_code (3 : Nat) (Option.none : Option Jvm.ClassFile.FieldType)) ∈ lw_all := lw_g (lw_at lw_m3 135 rfl) rfl
theorem q728 : (Jvm.Cond.static ({ cls := "java/lang/StringUTF16", name := "putCharSB", desc := "([BII)V" } : Jvm.MethodName)) ∈ lw_all := lw_g (lw_at lw_m3 137 rfl) rfl
theorem q729 : (Jvm.Cond.code ({ cls := "java/lang/StringUTF16", name := "putCharSB", desc := "([BII)V" } : Jvm.MethodName) prog_39_method_71_code (3 : Nat) (Option.none : Option Jvm.ClassFile.FieldType)) ∈ lw_all := lw_g (lw_at lw_m3 138 rfl) rfl
theorem q767 : (Jvm.Cond.static ({ cls := "java/lang/StringUTF16", name := "compress", desc := "([BII)[B" } : Jvm.MethodName)) ∈ lw_all := lw_g (lw_at lw_m3 176 rfl) rfl
theorem q768 : (Jvm.Cond.code ({ cls := "java/lang/StringUTF16", name := "compress", desc := "([BII)[B" } : Jvm.MethodName) prog_39_method_17_code (6 : Nat) (Option.some (Jvm.ClassFile.FieldType.array Jvm.ClassFile.FieldType.byte))) ∈ lw_all := lw_g (lw_at lw_m3 177 rfl) rfl
theorem q769 : (Jvm.Cond.methodLink "java/lang/StringUTF16" (123 : Nat) ({ cls := "java/lang/StringUTF16", name := "compress", desc := "([BI[BII)I" } : Jvm.MethodName)) ∈ lw_all := lw_g (lw_at lw_m3 178 rfl) rfl
theorem q770 : (Jvm.Cond.static ({ cls := "java/lang/StringUTF16", name := "compress", desc := "([BI[BII)I" } : Jvm.MethodName)) ∈ lw_all := lw_g (lw_at lw_m3 179 rfl) rfl
theorem q771 : (Jvm.Cond.code ({ cls := "java/lang/StringUTF16", name := "compress", desc := "([BI[BII)I" } : Jvm.MethodName) prog_39_method_22_code (7 : Nat) (Option.some Jvm.ClassFile.FieldType.int)) ∈ lw_all := lw_g (lw_at lw_m3 180 rfl) rfl
theorem q772 : (Jvm.Cond.methodLink "java/lang/StringUTF16" (126 : Nat) ({ cls := "java/util/Arrays", name := "copyOfRange", desc := "([BII)[B" } : Jvm.MethodName)) ∈ lw_all := lw_g (lw_at lw_m3 181 rfl) rfl
theorem q774 : (Jvm.Cond.static ({ cls := "java/lang/StringUTF16", name := "coderFromArrayLen", desc := "([BI)B" } : Jvm.MethodName)) ∈ lw_all := lw_g (lw_at lw_m3 183 rfl) rfl
theorem q775 : (Jvm.Cond.code ({ cls := "java/lang/StringUTF16", name := "coderFromArrayLen", desc := "([BI)B" } : Jvm.MethodName) prog_39_method_15_code (2 : Nat) (Option.some Jvm.ClassFile.FieldType.byte)) ∈ lw_all := lw_g (lw_at lw_m3 184 rfl) rfl
/-! java/lang/Character -/
set_option maxRecDepth 100000
def RJ9 : String := "java/lang/Character"
abbrev cJ9_isValidCodePoint : ByteArray := prog_28_method_11_code
def yJ9_isValidCodePoint : MethodName := ⟨RJ9, "isValidCodePoint", "(I)Z"⟩
def dkwJ9_isValidCodePoint_0 : List UInt8 := [26, 16, 16, 124, 60, 27, 16, 17, 162, 0, 7, 4, 167, 0, 4, 3, 172]
abbrev dktJ9_isValidCodePoint_0 : List UInt8 := dkwJ9_isValidCodePoint_0 ++ []
theorem dksJ9_isValidCodePoint_0 : cJ9_isValidCodePoint.data.toList.drop 0 = dktJ9_isValidCodePoint_0 := by decide +kernel
theorem dJ9_isValidCodePoint_0 : decode cJ9_isValidCodePoint 0 = .ok (.iload_n 0, 1) := dk_26 (dk_at dksJ9_isValidCodePoint_0 0 rfl rfl)
theorem dJ9_isValidCodePoint_1 : decode cJ9_isValidCodePoint 1 = .ok (.bipush 16, 2) := dk_16 16 (dk_at dksJ9_isValidCodePoint_0 1 rfl rfl)
theorem dJ9_isValidCodePoint_3 : decode cJ9_isValidCodePoint 3 = .ok (.iushr, 1) := dk_124 (dk_at dksJ9_isValidCodePoint_0 3 rfl rfl)
theorem dJ9_isValidCodePoint_4 : decode cJ9_isValidCodePoint 4 = .ok (.istore_n 1, 1) := dk_60 (dk_at dksJ9_isValidCodePoint_0 4 rfl rfl)
theorem dJ9_isValidCodePoint_5 : decode cJ9_isValidCodePoint 5 = .ok (.iload_n 1, 1) := dk_27 (dk_at dksJ9_isValidCodePoint_0 5 rfl rfl)
theorem dJ9_isValidCodePoint_6 : decode cJ9_isValidCodePoint 6 = .ok (.bipush 17, 2) := dk_16 17 (dk_at dksJ9_isValidCodePoint_0 6 rfl rfl)
theorem dJ9_isValidCodePoint_8 : decode cJ9_isValidCodePoint 8 = .ok (.if_icmp .ge 7, 3) := dk_162 0 7 (dk_at dksJ9_isValidCodePoint_0 8 rfl rfl)
theorem dJ9_isValidCodePoint_11 : decode cJ9_isValidCodePoint 11 = .ok (.iconst 1, 1) := dk_4 (dk_at dksJ9_isValidCodePoint_0 11 rfl rfl)
theorem dJ9_isValidCodePoint_12 : decode cJ9_isValidCodePoint 12 = .ok (.goto 4, 3) := dk_167 0 4 (dk_at dksJ9_isValidCodePoint_0 12 rfl rfl)
theorem dJ9_isValidCodePoint_15 : decode cJ9_isValidCodePoint 15 = .ok (.iconst 0, 1) := dk_3 (dk_at dksJ9_isValidCodePoint_0 15 rfl rfl)
theorem dJ9_isValidCodePoint_16 : decode cJ9_isValidCodePoint 16 = .ok (.ireturn, 1) := dk_172 (dk_at dksJ9_isValidCodePoint_0 16 rfl rfl)
abbrev cJ9_highSurrogate : ByteArray := prog_28_method_28_code
def yJ9_highSurrogate : MethodName := ⟨RJ9, "highSurrogate", "(I)C"⟩
def dkwJ9_highSurrogate_0 : List UInt8 := [26, 16, 10, 124, 18, 110, 96, 146, 172]
abbrev dktJ9_highSurrogate_0 : List UInt8 := dkwJ9_highSurrogate_0 ++ []
theorem dksJ9_highSurrogate_0 : cJ9_highSurrogate.data.toList.drop 0 = dktJ9_highSurrogate_0 := by decide +kernel
theorem dJ9_highSurrogate_0 : decode cJ9_highSurrogate 0 = .ok (.iload_n 0, 1) := dk_26 (dk_at dksJ9_highSurrogate_0 0 rfl rfl)
theorem dJ9_highSurrogate_1 : decode cJ9_highSurrogate 1 = .ok (.bipush 10, 2) := dk_16 10 (dk_at dksJ9_highSurrogate_0 1 rfl rfl)
theorem dJ9_highSurrogate_3 : decode cJ9_highSurrogate 3 = .ok (.iushr, 1) := dk_124 (dk_at dksJ9_highSurrogate_0 3 rfl rfl)
theorem dJ9_highSurrogate_4 : decode cJ9_highSurrogate 4 = .ok (.ldc 110, 2) := dk_18 110 (dk_at dksJ9_highSurrogate_0 4 rfl rfl)
theorem dJ9_highSurrogate_6 : decode cJ9_highSurrogate 6 = .ok (.iadd, 1) := dk_96 (dk_at dksJ9_highSurrogate_0 6 rfl rfl)
theorem dJ9_highSurrogate_7 : decode cJ9_highSurrogate 7 = .ok (.i2c, 1) := dk_146 (dk_at dksJ9_highSurrogate_0 7 rfl rfl)
theorem dJ9_highSurrogate_8 : decode cJ9_highSurrogate 8 = .ok (.ireturn, 1) := dk_172 (dk_at dksJ9_highSurrogate_0 8 rfl rfl)
abbrev cJ9_lowSurrogate : ByteArray := prog_28_method_29_code
def yJ9_lowSurrogate : MethodName := ⟨RJ9, "lowSurrogate", "(I)C"⟩
def dkwJ9_lowSurrogate_0 : List UInt8 := [26, 17, 3, 255, 126, 18, 76, 96, 146, 172]
abbrev dktJ9_lowSurrogate_0 : List UInt8 := dkwJ9_lowSurrogate_0 ++ []
theorem dksJ9_lowSurrogate_0 : cJ9_lowSurrogate.data.toList.drop 0 = dktJ9_lowSurrogate_0 := by decide +kernel
theorem dJ9_lowSurrogate_0 : decode cJ9_lowSurrogate 0 = .ok (.iload_n 0, 1) := dk_26 (dk_at dksJ9_lowSurrogate_0 0 rfl rfl)
theorem dJ9_lowSurrogate_1 : decode cJ9_lowSurrogate 1 = .ok (.sipush 1023, 3) := dk_17 3 255 (dk_at dksJ9_lowSurrogate_0 1 rfl rfl)
theorem dJ9_lowSurrogate_4 : decode cJ9_lowSurrogate 4 = .ok (.iand, 1) := dk_126 (dk_at dksJ9_lowSurrogate_0 4 rfl rfl)
theorem dJ9_lowSurrogate_5 : decode cJ9_lowSurrogate 5 = .ok (.ldc 76, 2) := dk_18 76 (dk_at dksJ9_lowSurrogate_0 5 rfl rfl)
theorem dJ9_lowSurrogate_7 : decode cJ9_lowSurrogate 7 = .ok (.iadd, 1) := dk_96 (dk_at dksJ9_lowSurrogate_0 7 rfl rfl)
theorem dJ9_lowSurrogate_8 : decode cJ9_lowSurrogate 8 = .ok (.i2c, 1) := dk_146 (dk_at dksJ9_lowSurrogate_0 8 rfl rfl)
theorem dJ9_lowSurrogate_9 : decode cJ9_lowSurrogate 9 = .ok (.ireturn, 1) := dk_172 (dk_at dksJ9_lowSurrogate_0 9 rfl rfl)
theorem q126 : (Jvm.Cond.initialized "java/lang/Character") ∈ lw_all := lw_g (lw_at lw_m1 15 rfl) rfl
theorem q499 : (Jvm.Cond.static ({ cls := "java/lang/Character", name := "isValidCodePoint", desc := "(I)Z" } : Jvm.MethodName)) ∈ lw_all := lw_g (lw_at lw_m2 148 rfl) rfl
theorem q500 : (Jvm.Cond.code ({ cls := "java/lang/Character", name := "isValidCodePoint", desc := "(I)Z" } : Jvm.MethodName) prog_28_method_11_code (2 : Nat) (Option.some Jvm.ClassFile.FieldType.boolean)) ∈ lw_all := lw_g (lw_at lw_m2 149 rfl) rfl
theorem q502 : (Jvm.Cond.static ({ cls := "java/lang/Character", name := "highSurrogate", desc := "(I)C" } : Jvm.MethodName)) ∈ lw_all := lw_g (lw_at lw_m2 151 rfl) rfl
theorem q503 : (Jvm.Cond.code ({ cls := "java/lang/Character", name := "highSurrogate", desc := "(I)C" } : Jvm.MethodName) prog_28_method_28_code (1 : Nat) (Option.some Jvm.ClassFile.FieldType.char)) ∈ lw_all := lw_g (lw_at lw_m2 152 rfl) rfl
theorem q504 : (Jvm.Cond.constant "java/lang/Character" (110 : Nat) (55232 : Int32)) ∈ lw_all := lw_g (lw_at lw_m2 153 rfl) rfl
theorem q506 : (Jvm.Cond.static ({ cls := "java/lang/Character", name := "lowSurrogate", desc := "(I)C" } : Jvm.MethodName)) ∈ lw_all := lw_g (lw_at lw_m2 155 rfl) rfl
theorem q507 : (Jvm.Cond.code ({ cls := "java/lang/Character", name := "lowSurrogate", desc := "(I)C" } : Jvm.MethodName) prog_28_method_29_code (1 : Nat) (Option.some Jvm.ClassFile.FieldType.char)) ∈ lw_all := lw_g (lw_at lw_m2 156 rfl) rfl
theorem q508 : (Jvm.Cond.constant "java/lang/Character" (76 : Nat) (56320 : Int32)) ∈ lw_all := lw_g (lw_at lw_m2 157 rfl) rfl
