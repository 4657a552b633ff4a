-- ===== PART A: goes FIRST, ahead of the names: the tables' words, and 'selects' of the private methods out of them =====
/-- a private method of a class that the tables say can be made, by its rows of tables_1 -/
def lw_okq (q : MethodName × Nat) : Prop := (q.1.cls ≠ "java/lang/invoke/MethodHandle" ∧ q.1.cls ≠ "java/lang/invoke/VarHandle") ∧ Cond.instantiable q.1.cls q.2 ∈ tables_1 ∧ Cond.privateMethod q.1 ∈ tables_1 ∧ Cond.instanceMethod q.1 ∈ tables_1
set_option maxRecDepth 100000
theorem lw_t1 {w : Cond} (h : w ∈ tables_1_1) : w ∈ tables_1 := List.mem_append_left _ h
theorem lw_t2 {w : Cond} (h : w ∈ tables_1_2) : w ∈ tables_1 := List.mem_append_right _ (List.mem_append_left _ h)
theorem lw_t3 {w : Cond} (h : w ∈ tables_1_3) : w ∈ tables_1 := List.mem_append_right _ (List.mem_append_right _ (List.mem_append_left _ h))
theorem lw_t4 {w : Cond} (h : w ∈ tables_1_4) : w ∈ tables_1 := List.mem_append_right _ (List.mem_append_right _ (List.mem_append_right _ (List.mem_append_left _ h)))
theorem lw_t5 {w : Cond} (h : w ∈ tables_1_5) : w ∈ tables_1 := List.mem_append_right _ (List.mem_append_right _ (List.mem_append_right _ (List.mem_append_right _ (List.mem_append_left _ h))))
theorem lw_t6 {w : Cond} (h : w ∈ tables_1_6) : w ∈ tables_1 := List.mem_append_right _ (List.mem_append_right _ (List.mem_append_right _ (List.mem_append_right _ (List.mem_append_right _ (List.mem_append_left _ h)))))
theorem lw_t7 {w : Cond} (h : w ∈ tables_1_7) : w ∈ tables_1 := List.mem_append_right _ (List.mem_append_right _ (List.mem_append_right _ (List.mem_append_right _ (List.mem_append_right _ (List.mem_append_right _ (List.mem_append_left _ h))))))
theorem lw_t8 {w : Cond} (h : w ∈ tables_1_8) : w ∈ tables_1 := List.mem_append_right _ (List.mem_append_right _ (List.mem_append_right _ (List.mem_append_right _ (List.mem_append_right _ (List.mem_append_right _ (List.mem_append_right _ (List.mem_append_left _ h)))))))
theorem lw_t9 {w : Cond} (h : w ∈ tables_1_9) : w ∈ tables_1 := List.mem_append_right _ (List.mem_append_right _ (List.mem_append_right _ (List.mem_append_right _ (List.mem_append_right _ (List.mem_append_right _ (List.mem_append_right _ (List.mem_append_right _ h)))))))
theorem lw_p0 : lw_okq (⟨"DateVale", "reads", "()V"⟩, 21) := ⟨⟨by decide +kernel, by decide +kernel⟩, lw_t1 (List.mem_of_getElem? (i := 44) rfl), lw_t2 (List.mem_of_getElem? (i := 50) rfl), lw_t2 (List.mem_of_getElem? (i := 51) rfl)⟩
theorem lw_p1 : lw_okq (⟨"DateVale$Reader", "next", "()V"⟩, 8) := ⟨⟨by decide +kernel, by decide +kernel⟩, lw_t1 (List.mem_of_getElem? (i := 52) rfl), lw_t2 (List.mem_of_getElem? (i := 58) rfl), lw_t2 (List.mem_of_getElem? (i := 59) rfl)⟩
theorem lw_p2 : lw_okq (⟨"DateVale$Reader", "at", "(I)I"⟩, 8) := ⟨⟨by decide +kernel, by decide +kernel⟩, lw_t1 (List.mem_of_getElem? (i := 52) rfl), lw_t2 (List.mem_of_getElem? (i := 62) rfl), lw_t2 (List.mem_of_getElem? (i := 63) rfl)⟩
theorem lw_p3 : lw_okq (⟨"DateVale$Reader", "which", "(Ljava/lang/String;)I"⟩, 8) := ⟨⟨by decide +kernel, by decide +kernel⟩, lw_t1 (List.mem_of_getElem? (i := 52) rfl), lw_t2 (List.mem_of_getElem? (i := 166) rfl), lw_t2 (List.mem_of_getElem? (i := 167) rfl)⟩
theorem lw_p4 : lw_okq (⟨"DateVale$Reader", "wrong", "(I)LDateVale$Wrong;"⟩, 8) := ⟨⟨by decide +kernel, by decide +kernel⟩, lw_t1 (List.mem_of_getElem? (i := 52) rfl), lw_t2 (List.mem_of_getElem? (i := 190) rfl), lw_t2 (List.mem_of_getElem? (i := 191) rfl)⟩
theorem lw_p5 : lw_okq (⟨"java/lang/Throwable", "fillInStackTrace", "(I)Ljava/lang/Throwable;"⟩, 6) := ⟨⟨by decide +kernel, by decide +kernel⟩, lw_t2 (List.mem_of_getElem? (i := 231) rfl), lw_t2 (List.mem_of_getElem? (i := 229) rfl), lw_t2 (List.mem_of_getElem? (i := 230) rfl)⟩
theorem lw_p6 : lw_okq (⟨"DateVale$Reader", "line", "(I)V"⟩, 8) := ⟨⟨by decide +kernel, by decide +kernel⟩, lw_t1 (List.mem_of_getElem? (i := 52) rfl), lw_t3 (List.mem_of_getElem? (i := 24) rfl), lw_t3 (List.mem_of_getElem? (i := 25) rfl)⟩
theorem lw_p7 : lw_okq (⟨"DateVale$Reader", "fresh", "()Ljava/lang/String;"⟩, 8) := ⟨⟨by decide +kernel, by decide +kernel⟩, lw_t1 (List.mem_of_getElem? (i := 52) rfl), lw_t3 (List.mem_of_getElem? (i := 30) rfl), lw_t3 (List.mem_of_getElem? (i := 31) rfl)⟩
theorem lw_p8 : lw_okq (⟨"DateVale$Reader", "name", "()Ljava/lang/String;"⟩, 8) := ⟨⟨by decide +kernel, by decide +kernel⟩, lw_t1 (List.mem_of_getElem? (i := 52) rfl), lw_t3 (List.mem_of_getElem? (i := 34) rfl), lw_t3 (List.mem_of_getElem? (i := 35) rfl)⟩
theorem lw_p9 : lw_okq (⟨"DateVale$Reader", "number", "(Ljava/lang/String;II)I"⟩, 8) := ⟨⟨by decide +kernel, by decide +kernel⟩, lw_t1 (List.mem_of_getElem? (i := 52) rfl), lw_t3 (List.mem_of_getElem? (i := 235) rfl), lw_t3 (List.mem_of_getElem? (i := 236) rfl)⟩
theorem lw_p10 : lw_okq (⟨"DateVale$Reader", "need", "(Ljava/lang/String;)V"⟩, 8) := ⟨⟨by decide +kernel, by decide +kernel⟩, lw_t1 (List.mem_of_getElem? (i := 52) rfl), lw_t3 (List.mem_of_getElem? (i := 239) rfl), lw_t4 (List.mem_of_getElem? (i := 0) rfl)⟩
theorem lw_p11 : lw_okq (⟨"DateVale$Reader", "number", "(II)I"⟩, 8) := ⟨⟨by decide +kernel, by decide +kernel⟩, lw_t1 (List.mem_of_getElem? (i := 52) rfl), lw_t4 (List.mem_of_getElem? (i := 3) rfl), lw_t4 (List.mem_of_getElem? (i := 4) rfl)⟩
theorem lw_p12 : lw_okq (⟨"java/util/ArrayList", "add", "(Ljava/lang/Object;[Ljava/lang/Object;I)V"⟩, 3) := ⟨⟨by decide +kernel, by decide +kernel⟩, lw_t1 (List.mem_of_getElem? (i := 90) rfl), lw_t4 (List.mem_of_getElem? (i := 11) rfl), lw_t4 (List.mem_of_getElem? (i := 12) rfl)⟩
theorem lw_p13 : lw_okq (⟨"java/util/ArrayList", "grow", "()[Ljava/lang/Object;"⟩, 3) := ⟨⟨by decide +kernel, by decide +kernel⟩, lw_t1 (List.mem_of_getElem? (i := 90) rfl), lw_t4 (List.mem_of_getElem? (i := 15) rfl), lw_t4 (List.mem_of_getElem? (i := 16) rfl)⟩
theorem lw_p14 : lw_okq (⟨"java/util/ArrayList", "grow", "(I)[Ljava/lang/Object;"⟩, 3) := ⟨⟨by decide +kernel, by decide +kernel⟩, lw_t1 (List.mem_of_getElem? (i := 90) rfl), lw_t4 (List.mem_of_getElem? (i := 19) rfl), lw_t4 (List.mem_of_getElem? (i := 20) rfl)⟩
theorem lw_p15 : lw_okq (⟨"DateVale$Reader", "passed", "(I)I"⟩, 8) := ⟨⟨by decide +kernel, by decide +kernel⟩, lw_t1 (List.mem_of_getElem? (i := 52) rfl), lw_t4 (List.mem_of_getElem? (i := 63) rfl), lw_t4 (List.mem_of_getElem? (i := 64) rfl)⟩
def lw_privs_1 : List (MethodName × Nat) := [(⟨"DateVale", "reads", "()V"⟩, 21), (⟨"DateVale$Reader", "next", "()V"⟩, 8), (⟨"DateVale$Reader", "at", "(I)I"⟩, 8), (⟨"DateVale$Reader", "which", "(Ljava/lang/String;)I"⟩, 8), (⟨"DateVale$Reader", "wrong", "(I)LDateVale$Wrong;"⟩, 8), (⟨"java/lang/Throwable", "fillInStackTrace", "(I)Ljava/lang/Throwable;"⟩, 6), (⟨"DateVale$Reader", "line", "(I)V"⟩, 8), (⟨"DateVale$Reader", "fresh", "()Ljava/lang/String;"⟩, 8), (⟨"DateVale$Reader", "name", "()Ljava/lang/String;"⟩, 8), (⟨"DateVale$Reader", "number", "(Ljava/lang/String;II)I"⟩, 8), (⟨"DateVale$Reader", "need", "(Ljava/lang/String;)V"⟩, 8), (⟨"DateVale$Reader", "number", "(II)I"⟩, 8), (⟨"java/util/ArrayList", "add", "(Ljava/lang/Object;[Ljava/lang/Object;I)V"⟩, 3), (⟨"java/util/ArrayList", "grow", "()[Ljava/lang/Object;"⟩, 3), (⟨"java/util/ArrayList", "grow", "(I)[Ljava/lang/Object;"⟩, 3), (⟨"DateVale$Reader", "passed", "(I)I"⟩, 8)]
theorem lw_r1 : ∀ q ∈ lw_privs_1, lw_okq q := List.forall_mem_cons.mpr ⟨lw_p0, List.forall_mem_cons.mpr ⟨lw_p1, List.forall_mem_cons.mpr ⟨lw_p2, List.forall_mem_cons.mpr ⟨lw_p3, List.forall_mem_cons.mpr ⟨lw_p4, List.forall_mem_cons.mpr ⟨lw_p5, List.forall_mem_cons.mpr ⟨lw_p6, List.forall_mem_cons.mpr ⟨lw_p7, List.forall_mem_cons.mpr ⟨lw_p8, List.forall_mem_cons.mpr ⟨lw_p9, List.forall_mem_cons.mpr ⟨lw_p10, List.forall_mem_cons.mpr ⟨lw_p11, List.forall_mem_cons.mpr ⟨lw_p12, List.forall_mem_cons.mpr ⟨lw_p13, List.forall_mem_cons.mpr ⟨lw_p14, List.forall_mem_cons.mpr ⟨lw_p15, fun _ h => absurd h List.not_mem_nil⟩⟩⟩⟩⟩⟩⟩⟩⟩⟩⟩⟩⟩⟩⟩⟩
theorem lw_p16 : lw_okq (⟨"DateVale$Reader", "told", "(I)I"⟩, 8) := ⟨⟨by decide +kernel, by decide +kernel⟩, lw_t1 (List.mem_of_getElem? (i := 52) rfl), lw_t4 (List.mem_of_getElem? (i := 67) rfl), lw_t4 (List.mem_of_getElem? (i := 68) rfl)⟩
theorem lw_p17 : lw_okq (⟨"DateVale$Reader", "guest", "()LDateVale$Guest;"⟩, 8) := ⟨⟨by decide +kernel, by decide +kernel⟩, lw_t1 (List.mem_of_getElem? (i := 52) rfl), lw_t4 (List.mem_of_getElem? (i := 75) rfl), lw_t4 (List.mem_of_getElem? (i := 76) rfl)⟩
theorem lw_p18 : lw_okq (⟨"DateVale$Reader", "one", "(Ljava/lang/String;)I"⟩, 8) := ⟨⟨by decide +kernel, by decide +kernel⟩, lw_t1 (List.mem_of_getElem? (i := 52) rfl), lw_t4 (List.mem_of_getElem? (i := 80) rfl), lw_t4 (List.mem_of_getElem? (i := 81) rfl)⟩
theorem lw_p19 : lw_okq (⟨"DateVale$Reader", "expression", "()LDateVale$Expression;"⟩, 8) := ⟨⟨by decide +kernel, by decide +kernel⟩, lw_t1 (List.mem_of_getElem? (i := 52) rfl), lw_t4 (List.mem_of_getElem? (i := 151) rfl), lw_t4 (List.mem_of_getElem? (i := 152) rfl)⟩
theorem lw_p20 : lw_okq (⟨"DateVale$Reader", "test", "()LDateVale$Expression;"⟩, 8) := ⟨⟨by decide +kernel, by decide +kernel⟩, lw_t1 (List.mem_of_getElem? (i := 52) rfl), lw_t4 (List.mem_of_getElem? (i := 155) rfl), lw_t4 (List.mem_of_getElem? (i := 156) rfl)⟩
theorem lw_p21 : lw_okq (⟨"DateVale$Reader", "sum", "()LDateVale$Expression;"⟩, 8) := ⟨⟨by decide +kernel, by decide +kernel⟩, lw_t1 (List.mem_of_getElem? (i := 52) rfl), lw_t4 (List.mem_of_getElem? (i := 159) rfl), lw_t4 (List.mem_of_getElem? (i := 160) rfl)⟩
theorem lw_p22 : lw_okq (⟨"DateVale$Reader", "product", "()LDateVale$Expression;"⟩, 8) := ⟨⟨by decide +kernel, by decide +kernel⟩, lw_t1 (List.mem_of_getElem? (i := 52) rfl), lw_t4 (List.mem_of_getElem? (i := 163) rfl), lw_t4 (List.mem_of_getElem? (i := 164) rfl)⟩
theorem lw_p23 : lw_okq (⟨"DateVale$Reader", "part", "()LDateVale$Expression;"⟩, 8) := ⟨⟨by decide +kernel, by decide +kernel⟩, lw_t1 (List.mem_of_getElem? (i := 52) rfl), lw_t4 (List.mem_of_getElem? (i := 167) rfl), lw_t4 (List.mem_of_getElem? (i := 168) rfl)⟩
theorem lw_p24 : lw_okq (⟨"DateVale$Reader", "isSign", "(C)Z"⟩, 8) := ⟨⟨by decide +kernel, by decide +kernel⟩, lw_t1 (List.mem_of_getElem? (i := 52) rfl), lw_t4 (List.mem_of_getElem? (i := 173) rfl), lw_t4 (List.mem_of_getElem? (i := 174) rfl)⟩
theorem lw_p25 : lw_okq (⟨"DateVale$Reader", "need", "(C)V"⟩, 8) := ⟨⟨by decide +kernel, by decide +kernel⟩, lw_t1 (List.mem_of_getElem? (i := 52) rfl), lw_t4 (List.mem_of_getElem? (i := 210) rfl), lw_t4 (List.mem_of_getElem? (i := 211) rfl)⟩
theorem lw_p26 : lw_okq (⟨"DateVale$Reader", "done", "(I)LDateVale$Line;"⟩, 8) := ⟨⟨by decide +kernel, by decide +kernel⟩, lw_t1 (List.mem_of_getElem? (i := 52) rfl), lw_t5 (List.mem_of_getElem? (i := 2) rfl), lw_t5 (List.mem_of_getElem? (i := 3) rfl)⟩
theorem lw_p27 : lw_okq (⟨"DateVale", "isHouse", "(I)Z"⟩, 21) := ⟨⟨by decide +kernel, by decide +kernel⟩, lw_t1 (List.mem_of_getElem? (i := 44) rfl), lw_t5 (List.mem_of_getElem? (i := 53) rfl), lw_t5 (List.mem_of_getElem? (i := 54) rfl)⟩
theorem lw_p28 : lw_okq (⟨"DateVale", "houses", "()I"⟩, 21) := ⟨⟨by decide +kernel, by decide +kernel⟩, lw_t1 (List.mem_of_getElem? (i := 44) rfl), lw_t5 (List.mem_of_getElem? (i := 57) rfl), lw_t5 (List.mem_of_getElem? (i := 58) rfl)⟩
theorem lw_p29 : lw_okq (⟨"DateVale", "freeIn", "(LDateVale$State;I)I"⟩, 21) := ⟨⟨by decide +kernel, by decide +kernel⟩, lw_t1 (List.mem_of_getElem? (i := 44) rfl), lw_t5 (List.mem_of_getElem? (i := 65) rfl), lw_t5 (List.mem_of_getElem? (i := 66) rfl)⟩
theorem lw_p30 : lw_okq (⟨"DateVale", "guests", "()I"⟩, 21) := ⟨⟨by decide +kernel, by decide +kernel⟩, lw_t1 (List.mem_of_getElem? (i := 44) rfl), lw_t5 (List.mem_of_getElem? (i := 69) rfl), lw_t5 (List.mem_of_getElem? (i := 70) rfl)⟩
theorem lw_p31 : lw_okq (⟨"DateVale", "guest", "(I)LDateVale$Guest;"⟩, 21) := ⟨⟨by decide +kernel, by decide +kernel⟩, lw_t1 (List.mem_of_getElem? (i := 44) rfl), lw_t5 (List.mem_of_getElem? (i := 73) rfl), lw_t5 (List.mem_of_getElem? (i := 74) rfl)⟩
def lw_privs_2 : List (MethodName × Nat) := [(⟨"DateVale$Reader", "told", "(I)I"⟩, 8), (⟨"DateVale$Reader", "guest", "()LDateVale$Guest;"⟩, 8), (⟨"DateVale$Reader", "one", "(Ljava/lang/String;)I"⟩, 8), (⟨"DateVale$Reader", "expression", "()LDateVale$Expression;"⟩, 8), (⟨"DateVale$Reader", "test", "()LDateVale$Expression;"⟩, 8), (⟨"DateVale$Reader", "sum", "()LDateVale$Expression;"⟩, 8), (⟨"DateVale$Reader", "product", "()LDateVale$Expression;"⟩, 8), (⟨"DateVale$Reader", "part", "()LDateVale$Expression;"⟩, 8), (⟨"DateVale$Reader", "isSign", "(C)Z"⟩, 8), (⟨"DateVale$Reader", "need", "(C)V"⟩, 8), (⟨"DateVale$Reader", "done", "(I)LDateVale$Line;"⟩, 8), (⟨"DateVale", "isHouse", "(I)Z"⟩, 21), (⟨"DateVale", "houses", "()I"⟩, 21), (⟨"DateVale", "freeIn", "(LDateVale$State;I)I"⟩, 21), (⟨"DateVale", "guests", "()I"⟩, 21), (⟨"DateVale", "guest", "(I)LDateVale$Guest;"⟩, 21)]
theorem lw_r2 : ∀ q ∈ lw_privs_2, lw_okq q := List.forall_mem_cons.mpr ⟨lw_p16, List.forall_mem_cons.mpr ⟨lw_p17, List.forall_mem_cons.mpr ⟨lw_p18, List.forall_mem_cons.mpr ⟨lw_p19, List.forall_mem_cons.mpr ⟨lw_p20, List.forall_mem_cons.mpr ⟨lw_p21, List.forall_mem_cons.mpr ⟨lw_p22, List.forall_mem_cons.mpr ⟨lw_p23, List.forall_mem_cons.mpr ⟨lw_p24, List.forall_mem_cons.mpr ⟨lw_p25, List.forall_mem_cons.mpr ⟨lw_p26, List.forall_mem_cons.mpr ⟨lw_p27, List.forall_mem_cons.mpr ⟨lw_p28, List.forall_mem_cons.mpr ⟨lw_p29, List.forall_mem_cons.mpr ⟨lw_p30, List.forall_mem_cons.mpr ⟨lw_p31, fun _ h => absurd h List.not_mem_nil⟩⟩⟩⟩⟩⟩⟩⟩⟩⟩⟩⟩⟩⟩⟩⟩
theorem lw_p32 : lw_okq (⟨"DateVale", "home", "(I)LDateVale$Home;"⟩, 21) := ⟨⟨by decide +kernel, by decide +kernel⟩, lw_t1 (List.mem_of_getElem? (i := 44) rfl), lw_t5 (List.mem_of_getElem? (i := 93) rfl), lw_t5 (List.mem_of_getElem? (i := 94) rfl)⟩
theorem lw_p33 : lw_okq (⟨"DateVale", "talk", "(I)I"⟩, 21) := ⟨⟨by decide +kernel, by decide +kernel⟩, lw_t1 (List.mem_of_getElem? (i := 44) rfl), lw_t5 (List.mem_of_getElem? (i := 98) rfl), lw_t5 (List.mem_of_getElem? (i := 99) rfl)⟩
theorem lw_p34 : lw_okq (⟨"DateVale", "isGuest", "(I)Z"⟩, 21) := ⟨⟨by decide +kernel, by decide +kernel⟩, lw_t1 (List.mem_of_getElem? (i := 44) rfl), lw_t5 (List.mem_of_getElem? (i := 106) rfl), lw_t5 (List.mem_of_getElem? (i := 107) rfl)⟩
theorem lw_p35 : lw_okq (⟨"DateVale", "keeps", "()V"⟩, 21) := ⟨⟨by decide +kernel, by decide +kernel⟩, lw_t1 (List.mem_of_getElem? (i := 44) rfl), lw_t5 (List.mem_of_getElem? (i := 128) rfl), lw_t5 (List.mem_of_getElem? (i := 129) rfl)⟩
theorem lw_p36 : lw_okq (⟨"DateVale", "passes", "(LDateVale$State;)I"⟩, 21) := ⟨⟨by decide +kernel, by decide +kernel⟩, lw_t1 (List.mem_of_getElem? (i := 44) rfl), lw_t5 (List.mem_of_getElem? (i := 139) rfl), lw_t5 (List.mem_of_getElem? (i := 140) rfl)⟩
theorem lw_p37 : lw_okq (⟨"DateVale", "taking", "(LDateVale$State;I)I"⟩, 21) := ⟨⟨by decide +kernel, by decide +kernel⟩, lw_t1 (List.mem_of_getElem? (i := 44) rfl), lw_t5 (List.mem_of_getElem? (i := 163) rfl), lw_t5 (List.mem_of_getElem? (i := 164) rfl)⟩
theorem lw_p38 : lw_okq (⟨"DateVale", "holds", "(LDateVale$State;II)Z"⟩, 21) := ⟨⟨by decide +kernel, by decide +kernel⟩, lw_t1 (List.mem_of_getElem? (i := 44) rfl), lw_t5 (List.mem_of_getElem? (i := 167) rfl), lw_t5 (List.mem_of_getElem? (i := 168) rfl)⟩
theorem lw_p39 : lw_okq (⟨"DateVale", "canMove", "(LDateVale$State;II)Z"⟩, 21) := ⟨⟨by decide +kernel, by decide +kernel⟩, lw_t1 (List.mem_of_getElem? (i := 44) rfl), lw_t5 (List.mem_of_getElem? (i := 204) rfl), lw_t5 (List.mem_of_getElem? (i := 205) rfl)⟩
theorem lw_p40 : lw_okq (⟨"DateVale", "goesOn", "(I)V"⟩, 21) := ⟨⟨by decide +kernel, by decide +kernel⟩, lw_t1 (List.mem_of_getElem? (i := 44) rfl), lw_t6 (List.mem_of_getElem? (i := 7) rfl), lw_t6 (List.mem_of_getElem? (i := 8) rfl)⟩
theorem lw_p41 : lw_okq (⟨"DateVale", "builds", "(III)V"⟩, 21) := ⟨⟨by decide +kernel, by decide +kernel⟩, lw_t1 (List.mem_of_getElem? (i := 44) rfl), lw_t6 (List.mem_of_getElem? (i := 43) rfl), lw_t6 (List.mem_of_getElem? (i := 44) rfl)⟩
theorem lw_p42 : lw_okq (⟨"DateVale", "isNoneRefused", "(I)Z"⟩, 21) := ⟨⟨by decide +kernel, by decide +kernel⟩, lw_t1 (List.mem_of_getElem? (i := 44) rfl), lw_t6 (List.mem_of_getElem? (i := 47) rfl), lw_t6 (List.mem_of_getElem? (i := 48) rfl)⟩
theorem lw_p43 : lw_okq (⟨"DateVale", "lays", "(I)I"⟩, 21) := ⟨⟨by decide +kernel, by decide +kernel⟩, lw_t1 (List.mem_of_getElem? (i := 44) rfl), lw_t6 (List.mem_of_getElem? (i := 60) rfl), lw_t6 (List.mem_of_getElem? (i := 61) rfl)⟩
theorem lw_p44 : lw_okq (⟨"DateVale", "isApart", "(II)Z"⟩, 21) := ⟨⟨by decide +kernel, by decide +kernel⟩, lw_t1 (List.mem_of_getElem? (i := 44) rfl), lw_t6 (List.mem_of_getElem? (i := 68) rfl), lw_t6 (List.mem_of_getElem? (i := 69) rfl)⟩
theorem lw_p45 : lw_okq (⟨"DateVale", "laysPlaces", "()V"⟩, 21) := ⟨⟨by decide +kernel, by decide +kernel⟩, lw_t1 (List.mem_of_getElem? (i := 44) rfl), lw_t6 (List.mem_of_getElem? (i := 84) rfl), lw_t6 (List.mem_of_getElem? (i := 85) rfl)⟩
theorem lw_p46 : lw_okq (⟨"DateVale", "befalls", "(LDateVale$State;)V"⟩, 21) := ⟨⟨by decide +kernel, by decide +kernel⟩, lw_t1 (List.mem_of_getElem? (i := 44) rfl), lw_t6 (List.mem_of_getElem? (i := 123) rfl), lw_t6 (List.mem_of_getElem? (i := 124) rfl)⟩
theorem lw_p47 : lw_okq (⟨"DateVale", "draws", "(I)I"⟩, 21) := ⟨⟨by decide +kernel, by decide +kernel⟩, lw_t1 (List.mem_of_getElem? (i := 44) rfl), lw_t6 (List.mem_of_getElem? (i := 127) rfl), lw_t6 (List.mem_of_getElem? (i := 128) rfl)⟩
def lw_privs_3 : List (MethodName × Nat) := [(⟨"DateVale", "home", "(I)LDateVale$Home;"⟩, 21), (⟨"DateVale", "talk", "(I)I"⟩, 21), (⟨"DateVale", "isGuest", "(I)Z"⟩, 21), (⟨"DateVale", "keeps", "()V"⟩, 21), (⟨"DateVale", "passes", "(LDateVale$State;)I"⟩, 21), (⟨"DateVale", "taking", "(LDateVale$State;I)I"⟩, 21), (⟨"DateVale", "holds", "(LDateVale$State;II)Z"⟩, 21), (⟨"DateVale", "canMove", "(LDateVale$State;II)Z"⟩, 21), (⟨"DateVale", "goesOn", "(I)V"⟩, 21), (⟨"DateVale", "builds", "(III)V"⟩, 21), (⟨"DateVale", "isNoneRefused", "(I)Z"⟩, 21), (⟨"DateVale", "lays", "(I)I"⟩, 21), (⟨"DateVale", "isApart", "(II)Z"⟩, 21), (⟨"DateVale", "laysPlaces", "()V"⟩, 21), (⟨"DateVale", "befalls", "(LDateVale$State;)V"⟩, 21), (⟨"DateVale", "draws", "(I)I"⟩, 21)]
theorem lw_r3 : ∀ q ∈ lw_privs_3, lw_okq q := List.forall_mem_cons.mpr ⟨lw_p32, List.forall_mem_cons.mpr ⟨lw_p33, List.forall_mem_cons.mpr ⟨lw_p34, List.forall_mem_cons.mpr ⟨lw_p35, List.forall_mem_cons.mpr ⟨lw_p36, List.forall_mem_cons.mpr ⟨lw_p37, List.forall_mem_cons.mpr ⟨lw_p38, List.forall_mem_cons.mpr ⟨lw_p39, List.forall_mem_cons.mpr ⟨lw_p40, List.forall_mem_cons.mpr ⟨lw_p41, List.forall_mem_cons.mpr ⟨lw_p42, List.forall_mem_cons.mpr ⟨lw_p43, List.forall_mem_cons.mpr ⟨lw_p44, List.forall_mem_cons.mpr ⟨lw_p45, List.forall_mem_cons.mpr ⟨lw_p46, List.forall_mem_cons.mpr ⟨lw_p47, fun _ h => absurd h List.not_mem_nil⟩⟩⟩⟩⟩⟩⟩⟩⟩⟩⟩⟩⟩⟩⟩⟩
theorem lw_p48 : lw_okq (⟨"DateVale", "faded", "()I"⟩, 21) := ⟨⟨by decide +kernel, by decide +kernel⟩, lw_t1 (List.mem_of_getElem? (i := 44) rfl), lw_t6 (List.mem_of_getElem? (i := 169) rfl), lw_t6 (List.mem_of_getElem? (i := 170) rfl)⟩
theorem lw_p49 : lw_okq (⟨"DateValeModel", "lay", "(J)V"⟩, 32) := ⟨⟨by decide +kernel, by decide +kernel⟩, lw_t6 (List.mem_of_getElem? (i := 218) rfl), lw_t6 (List.mem_of_getElem? (i := 216) rfl), lw_t6 (List.mem_of_getElem? (i := 217) rfl)⟩
theorem lw_p50 : lw_okq (⟨"DateValeModel", "standsAsAlways", "(I)V"⟩, 32) := ⟨⟨by decide +kernel, by decide +kernel⟩, lw_t6 (List.mem_of_getElem? (i := 218) rfl), lw_t7 (List.mem_of_getElem? (i := 11) rfl), lw_t7 (List.mem_of_getElem? (i := 12) rfl)⟩
theorem lw_p51 : lw_okq (⟨"DateValeModel", "begins", "()V"⟩, 32) := ⟨⟨by decide +kernel, by decide +kernel⟩, lw_t6 (List.mem_of_getElem? (i := 218) rfl), lw_t7 (List.mem_of_getElem? (i := 15) rfl), lw_t7 (List.mem_of_getElem? (i := 16) rfl)⟩
theorem lw_p52 : lw_okq (⟨"DateValeModel", "datesAsTold", "()V"⟩, 32) := ⟨⟨by decide +kernel, by decide +kernel⟩, lw_t6 (List.mem_of_getElem? (i := 218) rfl), lw_t7 (List.mem_of_getElem? (i := 19) rfl), lw_t7 (List.mem_of_getElem? (i := 20) rfl)⟩
theorem lw_p53 : lw_okq (⟨"DateValeModel", "days", "()I"⟩, 32) := ⟨⟨by decide +kernel, by decide +kernel⟩, lw_t6 (List.mem_of_getElem? (i := 218) rfl), lw_t7 (List.mem_of_getElem? (i := 23) rfl), lw_t7 (List.mem_of_getElem? (i := 24) rfl)⟩
theorem lw_p54 : lw_okq (⟨"DateValeModel", "dayOf", "(II)I"⟩, 32) := ⟨⟨by decide +kernel, by decide +kernel⟩, lw_t6 (List.mem_of_getElem? (i := 218) rfl), lw_t7 (List.mem_of_getElem? (i := 27) rfl), lw_t7 (List.mem_of_getElem? (i := 28) rfl)⟩
theorem lw_p55 : lw_okq (⟨"DateValeModel", "starts", "(I)V"⟩, 32) := ⟨⟨by decide +kernel, by decide +kernel⟩, lw_t6 (List.mem_of_getElem? (i := 218) rfl), lw_t7 (List.mem_of_getElem? (i := 31) rfl), lw_t7 (List.mem_of_getElem? (i := 32) rfl)⟩
theorem lw_p56 : lw_okq (⟨"DateValeModel", "houses", "()I"⟩, 32) := ⟨⟨by decide +kernel, by decide +kernel⟩, lw_t6 (List.mem_of_getElem? (i := 218) rfl), lw_t7 (List.mem_of_getElem? (i := 35) rfl), lw_t7 (List.mem_of_getElem? (i := 36) rfl)⟩
theorem lw_p57 : lw_okq (⟨"DateValeModel", "houseOf", "(II)I"⟩, 32) := ⟨⟨by decide +kernel, by decide +kernel⟩, lw_t6 (List.mem_of_getElem? (i := 218) rfl), lw_t7 (List.mem_of_getElem? (i := 39) rfl), lw_t7 (List.mem_of_getElem? (i := 40) rfl)⟩
theorem lw_p58 : lw_okq (⟨"DateValeModel", "cutAll", "()V"⟩, 32) := ⟨⟨by decide +kernel, by decide +kernel⟩, lw_t6 (List.mem_of_getElem? (i := 218) rfl), lw_t7 (List.mem_of_getElem? (i := 146) rfl), lw_t7 (List.mem_of_getElem? (i := 147) rfl)⟩
theorem lw_p59 : lw_okq (⟨"DateValeModel", "readLine", "()V"⟩, 32) := ⟨⟨by decide +kernel, by decide +kernel⟩, lw_t6 (List.mem_of_getElem? (i := 218) rfl), lw_t7 (List.mem_of_getElem? (i := 165) rfl), lw_t7 (List.mem_of_getElem? (i := 166) rfl)⟩
theorem lw_p60 : lw_okq (⟨"DateValeModel", "isWord", "(I)Z"⟩, 32) := ⟨⟨by decide +kernel, by decide +kernel⟩, lw_t6 (List.mem_of_getElem? (i := 218) rfl), lw_t7 (List.mem_of_getElem? (i := 169) rfl), lw_t7 (List.mem_of_getElem? (i := 170) rfl)⟩
theorem lw_p61 : lw_okq (⟨"DateValeModel", "readName", "(III)V"⟩, 32) := ⟨⟨by decide +kernel, by decide +kernel⟩, lw_t6 (List.mem_of_getElem? (i := 218) rfl), lw_t7 (List.mem_of_getElem? (i := 173) rfl), lw_t7 (List.mem_of_getElem? (i := 174) rfl)⟩
theorem lw_p62 : lw_okq (⟨"DateValeModel", "wrong", "(I)V"⟩, 32) := ⟨⟨by decide +kernel, by decide +kernel⟩, lw_t6 (List.mem_of_getElem? (i := 218) rfl), lw_t7 (List.mem_of_getElem? (i := 177) rfl), lw_t7 (List.mem_of_getElem? (i := 178) rfl)⟩
theorem lw_p63 : lw_okq (⟨"DateValeModel", "isName", "()Z"⟩, 32) := ⟨⟨by decide +kernel, by decide +kernel⟩, lw_t6 (List.mem_of_getElem? (i := 218) rfl), lw_t7 (List.mem_of_getElem? (i := 181) rfl), lw_t7 (List.mem_of_getElem? (i := 182) rfl)⟩
def lw_privs_4 : List (MethodName × Nat) := [(⟨"DateVale", "faded", "()I"⟩, 21), (⟨"DateValeModel", "lay", "(J)V"⟩, 32), (⟨"DateValeModel", "standsAsAlways", "(I)V"⟩, 32), (⟨"DateValeModel", "begins", "()V"⟩, 32), (⟨"DateValeModel", "datesAsTold", "()V"⟩, 32), (⟨"DateValeModel", "days", "()I"⟩, 32), (⟨"DateValeModel", "dayOf", "(II)I"⟩, 32), (⟨"DateValeModel", "starts", "(I)V"⟩, 32), (⟨"DateValeModel", "houses", "()I"⟩, 32), (⟨"DateValeModel", "houseOf", "(II)I"⟩, 32), (⟨"DateValeModel", "cutAll", "()V"⟩, 32), (⟨"DateValeModel", "readLine", "()V"⟩, 32), (⟨"DateValeModel", "isWord", "(I)Z"⟩, 32), (⟨"DateValeModel", "readName", "(III)V"⟩, 32), (⟨"DateValeModel", "wrong", "(I)V"⟩, 32), (⟨"DateValeModel", "isName", "()Z"⟩, 32)]
theorem lw_r4 : ∀ q ∈ lw_privs_4, lw_okq q := List.forall_mem_cons.mpr ⟨lw_p48, List.forall_mem_cons.mpr ⟨lw_p49, List.forall_mem_cons.mpr ⟨lw_p50, List.forall_mem_cons.mpr ⟨lw_p51, List.forall_mem_cons.mpr ⟨lw_p52, List.forall_mem_cons.mpr ⟨lw_p53, List.forall_mem_cons.mpr ⟨lw_p54, List.forall_mem_cons.mpr ⟨lw_p55, List.forall_mem_cons.mpr ⟨lw_p56, List.forall_mem_cons.mpr ⟨lw_p57, List.forall_mem_cons.mpr ⟨lw_p58, List.forall_mem_cons.mpr ⟨lw_p59, List.forall_mem_cons.mpr ⟨lw_p60, List.forall_mem_cons.mpr ⟨lw_p61, List.forall_mem_cons.mpr ⟨lw_p62, List.forall_mem_cons.mpr ⟨lw_p63, fun _ h => absurd h List.not_mem_nil⟩⟩⟩⟩⟩⟩⟩⟩⟩⟩⟩⟩⟩⟩⟩⟩
theorem lw_p64 : lw_okq (⟨"DateValeModel", "wordHere", "(II)I"⟩, 32) := ⟨⟨by decide +kernel, by decide +kernel⟩, lw_t6 (List.mem_of_getElem? (i := 218) rfl), lw_t7 (List.mem_of_getElem? (i := 185) rfl), lw_t7 (List.mem_of_getElem? (i := 186) rfl)⟩
theorem lw_p65 : lw_okq (⟨"DateValeModel", "nameAt", "(Z)I"⟩, 32) := ⟨⟨by decide +kernel, by decide +kernel⟩, lw_t6 (List.mem_of_getElem? (i := 218) rfl), lw_t7 (List.mem_of_getElem? (i := 189) rfl), lw_t7 (List.mem_of_getElem? (i := 190) rfl)⟩
theorem lw_p66 : lw_okq (⟨"DateValeModel", "takeAfter", "(III)I"⟩, 32) := ⟨⟨by decide +kernel, by decide +kernel⟩, lw_t6 (List.mem_of_getElem? (i := 218) rfl), lw_t7 (List.mem_of_getElem? (i := 193) rfl), lw_t7 (List.mem_of_getElem? (i := 194) rfl)⟩
theorem lw_p67 : lw_okq (⟨"DateValeModel", "takeWord", "(I)V"⟩, 32) := ⟨⟨by decide +kernel, by decide +kernel⟩, lw_t6 (List.mem_of_getElem? (i := 218) rfl), lw_t7 (List.mem_of_getElem? (i := 197) rfl), lw_t7 (List.mem_of_getElem? (i := 198) rfl)⟩
theorem lw_p68 : lw_okq (⟨"DateValeModel", "hasWord", "(I)Z"⟩, 32) := ⟨⟨by decide +kernel, by decide +kernel⟩, lw_t6 (List.mem_of_getElem? (i := 218) rfl), lw_t7 (List.mem_of_getElem? (i := 201) rfl), lw_t7 (List.mem_of_getElem? (i := 202) rfl)⟩
theorem lw_p69 : lw_okq (⟨"DateValeModel", "takeNumber", "(II)I"⟩, 32) := ⟨⟨by decide +kernel, by decide +kernel⟩, lw_t6 (List.mem_of_getElem? (i := 218) rfl), lw_t7 (List.mem_of_getElem? (i := 205) rfl), lw_t7 (List.mem_of_getElem? (i := 206) rfl)⟩
theorem lw_p70 : lw_okq (⟨"DateValeModel", "readDay", "()V"⟩, 32) := ⟨⟨by decide +kernel, by decide +kernel⟩, lw_t6 (List.mem_of_getElem? (i := 218) rfl), lw_t7 (List.mem_of_getElem? (i := 209) rfl), lw_t7 (List.mem_of_getElem? (i := 210) rfl)⟩
theorem lw_p71 : lw_okq (⟨"DateValeModel", "takeOne", "(II)I"⟩, 32) := ⟨⟨by decide +kernel, by decide +kernel⟩, lw_t6 (List.mem_of_getElem? (i := 218) rfl), lw_t7 (List.mem_of_getElem? (i := 213) rfl), lw_t7 (List.mem_of_getElem? (i := 214) rfl)⟩
theorem lw_p72 : lw_okq (⟨"DateValeModel", "takeTold", "(ZII)I"⟩, 32) := ⟨⟨by decide +kernel, by decide +kernel⟩, lw_t6 (List.mem_of_getElem? (i := 218) rfl), lw_t7 (List.mem_of_getElem? (i := 217) rfl), lw_t7 (List.mem_of_getElem? (i := 218) rfl)⟩
theorem lw_p73 : lw_okq (⟨"DateValeModel", "readPair", "(III)V"⟩, 32) := ⟨⟨by decide +kernel, by decide +kernel⟩, lw_t6 (List.mem_of_getElem? (i := 218) rfl), lw_t7 (List.mem_of_getElem? (i := 224) rfl), lw_t7 (List.mem_of_getElem? (i := 225) rfl)⟩
theorem lw_p74 : lw_okq (⟨"DateValeModel", "readOnce", "()V"⟩, 32) := ⟨⟨by decide +kernel, by decide +kernel⟩, lw_t6 (List.mem_of_getElem? (i := 218) rfl), lw_t7 (List.mem_of_getElem? (i := 228) rfl), lw_t7 (List.mem_of_getElem? (i := 229) rfl)⟩
theorem lw_p75 : lw_okq (⟨"DateValeModel", "whole", "(I)V"⟩, 32) := ⟨⟨by decide +kernel, by decide +kernel⟩, lw_t6 (List.mem_of_getElem? (i := 218) rfl), lw_t7 (List.mem_of_getElem? (i := 232) rfl), lw_t7 (List.mem_of_getElem? (i := 233) rfl)⟩
theorem lw_p76 : lw_okq (⟨"DateValeModel", "test", "(I)V"⟩, 32) := ⟨⟨by decide +kernel, by decide +kernel⟩, lw_t6 (List.mem_of_getElem? (i := 218) rfl), lw_t7 (List.mem_of_getElem? (i := 236) rfl), lw_t7 (List.mem_of_getElem? (i := 237) rfl)⟩
theorem lw_p77 : lw_okq (⟨"DateValeModel", "sums", "(I)V"⟩, 32) := ⟨⟨by decide +kernel, by decide +kernel⟩, lw_t6 (List.mem_of_getElem? (i := 218) rfl), lw_t8 (List.mem_of_getElem? (i := 0) rfl), lw_t8 (List.mem_of_getElem? (i := 1) rfl)⟩
theorem lw_p78 : lw_okq (⟨"DateValeModel", "products", "(I)V"⟩, 32) := ⟨⟨by decide +kernel, by decide +kernel⟩, lw_t6 (List.mem_of_getElem? (i := 218) rfl), lw_t8 (List.mem_of_getElem? (i := 4) rfl), lw_t8 (List.mem_of_getElem? (i := 5) rfl)⟩
theorem lw_p79 : lw_okq (⟨"DateValeModel", "takePart", "(I)V"⟩, 32) := ⟨⟨by decide +kernel, by decide +kernel⟩, lw_t6 (List.mem_of_getElem? (i := 218) rfl), lw_t8 (List.mem_of_getElem? (i := 8) rfl), lw_t8 (List.mem_of_getElem? (i := 9) rfl)⟩
def lw_privs_5 : List (MethodName × Nat) := [(⟨"DateValeModel", "wordHere", "(II)I"⟩, 32), (⟨"DateValeModel", "nameAt", "(Z)I"⟩, 32), (⟨"DateValeModel", "takeAfter", "(III)I"⟩, 32), (⟨"DateValeModel", "takeWord", "(I)V"⟩, 32), (⟨"DateValeModel", "hasWord", "(I)Z"⟩, 32), (⟨"DateValeModel", "takeNumber", "(II)I"⟩, 32), (⟨"DateValeModel", "readDay", "()V"⟩, 32), (⟨"DateValeModel", "takeOne", "(II)I"⟩, 32), (⟨"DateValeModel", "takeTold", "(ZII)I"⟩, 32), (⟨"DateValeModel", "readPair", "(III)V"⟩, 32), (⟨"DateValeModel", "readOnce", "()V"⟩, 32), (⟨"DateValeModel", "whole", "(I)V"⟩, 32), (⟨"DateValeModel", "test", "(I)V"⟩, 32), (⟨"DateValeModel", "sums", "(I)V"⟩, 32), (⟨"DateValeModel", "products", "(I)V"⟩, 32), (⟨"DateValeModel", "takePart", "(I)V"⟩, 32)]
theorem lw_r5 : ∀ q ∈ lw_privs_5, lw_okq q := List.forall_mem_cons.mpr ⟨lw_p64, List.forall_mem_cons.mpr ⟨lw_p65, List.forall_mem_cons.mpr ⟨lw_p66, List.forall_mem_cons.mpr ⟨lw_p67, List.forall_mem_cons.mpr ⟨lw_p68, List.forall_mem_cons.mpr ⟨lw_p69, List.forall_mem_cons.mpr ⟨lw_p70, List.forall_mem_cons.mpr ⟨lw_p71, List.forall_mem_cons.mpr ⟨lw_p72, List.forall_mem_cons.mpr ⟨lw_p73, List.forall_mem_cons.mpr ⟨lw_p74, List.forall_mem_cons.mpr ⟨lw_p75, List.forall_mem_cons.mpr ⟨lw_p76, List.forall_mem_cons.mpr ⟨lw_p77, List.forall_mem_cons.mpr ⟨lw_p78, List.forall_mem_cons.mpr ⟨lw_p79, fun _ h => absurd h List.not_mem_nil⟩⟩⟩⟩⟩⟩⟩⟩⟩⟩⟩⟩⟩⟩⟩⟩
theorem lw_p80 : lw_okq (⟨"DateValeModel", "isSign", "(I)Z"⟩, 32) := ⟨⟨by decide +kernel, by decide +kernel⟩, lw_t6 (List.mem_of_getElem? (i := 218) rfl), lw_t8 (List.mem_of_getElem? (i := 12) rfl), lw_t8 (List.mem_of_getElem? (i := 13) rfl)⟩
theorem lw_p81 : lw_okq (⟨"DateValeModel", "emit", "(II)V"⟩, 32) := ⟨⟨by decide +kernel, by decide +kernel⟩, lw_t6 (List.mem_of_getElem? (i := 218) rfl), lw_t8 (List.mem_of_getElem? (i := 16) rfl), lw_t8 (List.mem_of_getElem? (i := 17) rfl)⟩
theorem lw_p82 : lw_okq (⟨"DateValeModel", "hasSign", "(I)Z"⟩, 32) := ⟨⟨by decide +kernel, by decide +kernel⟩, lw_t6 (List.mem_of_getElem? (i := 218) rfl), lw_t8 (List.mem_of_getElem? (i := 20) rfl), lw_t8 (List.mem_of_getElem? (i := 21) rfl)⟩
theorem lw_p83 : lw_okq (⟨"DateValeModel", "takeSign", "(I)V"⟩, 32) := ⟨⟨by decide +kernel, by decide +kernel⟩, lw_t6 (List.mem_of_getElem? (i := 218) rfl), lw_t8 (List.mem_of_getElem? (i := 24) rfl), lw_t8 (List.mem_of_getElem? (i := 25) rfl)⟩
theorem lw_p84 : lw_okq (⟨"DateValeModel", "isHouse", "(I)Z"⟩, 32) := ⟨⟨by decide +kernel, by decide +kernel⟩, lw_t6 (List.mem_of_getElem? (i := 218) rfl), lw_t8 (List.mem_of_getElem? (i := 36) rfl), lw_t8 (List.mem_of_getElem? (i := 37) rfl)⟩
theorem lw_p85 : lw_okq (⟨"DateValeModel", "freeOf", "(II)I"⟩, 32) := ⟨⟨by decide +kernel, by decide +kernel⟩, lw_t6 (List.mem_of_getElem? (i := 218) rfl), lw_t8 (List.mem_of_getElem? (i := 40) rfl), lw_t8 (List.mem_of_getElem? (i := 41) rfl)⟩
theorem lw_p86 : lw_okq (⟨"DateValeModel", "widthOf", "(I)I"⟩, 32) := ⟨⟨by decide +kernel, by decide +kernel⟩, lw_t6 (List.mem_of_getElem? (i := 218) rfl), lw_t8 (List.mem_of_getElem? (i := 44) rfl), lw_t8 (List.mem_of_getElem? (i := 45) rfl)⟩
theorem lw_p87 : lw_okq (⟨"DateValeModel", "inHouse", "(II)I"⟩, 32) := ⟨⟨by decide +kernel, by decide +kernel⟩, lw_t6 (List.mem_of_getElem? (i := 218) rfl), lw_t8 (List.mem_of_getElem? (i := 48) rfl), lw_t8 (List.mem_of_getElem? (i := 49) rfl)⟩
theorem lw_p88 : lw_okq (⟨"DateValeModel", "talkIn", "(II)I"⟩, 32) := ⟨⟨by decide +kernel, by decide +kernel⟩, lw_t6 (List.mem_of_getElem? (i := 218) rfl), lw_t8 (List.mem_of_getElem? (i := 52) rfl), lw_t8 (List.mem_of_getElem? (i := 53) rfl)⟩
theorem lw_p89 : lw_okq (⟨"DateValeModel", "isDay", "(I)Z"⟩, 32) := ⟨⟨by decide +kernel, by decide +kernel⟩, lw_t6 (List.mem_of_getElem? (i := 218) rfl), lw_t8 (List.mem_of_getElem? (i := 60) rfl), lw_t8 (List.mem_of_getElem? (i := 61) rfl)⟩
theorem lw_p90 : lw_okq (⟨"DateValeModel", "keeps", "()V"⟩, 32) := ⟨⟨by decide +kernel, by decide +kernel⟩, lw_t6 (List.mem_of_getElem? (i := 218) rfl), lw_t8 (List.mem_of_getElem? (i := 68) rfl), lw_t8 (List.mem_of_getElem? (i := 69) rfl)⟩
theorem lw_p91 : lw_okq (⟨"DateValeModel", "copies", "(III)V"⟩, 32) := ⟨⟨by decide +kernel, by decide +kernel⟩, lw_t6 (List.mem_of_getElem? (i := 218) rfl), lw_t8 (List.mem_of_getElem? (i := 72) rfl), lw_t8 (List.mem_of_getElem? (i := 73) rfl)⟩
theorem lw_p92 : lw_okq (⟨"DateValeModel", "passes", "(I)V"⟩, 32) := ⟨⟨by decide +kernel, by decide +kernel⟩, lw_t6 (List.mem_of_getElem? (i := 218) rfl), lw_t8 (List.mem_of_getElem? (i := 76) rfl), lw_t8 (List.mem_of_getElem? (i := 77) rfl)⟩
theorem lw_p93 : lw_okq (⟨"DateValeModel", "leaves", "(II)V"⟩, 32) := ⟨⟨by decide +kernel, by decide +kernel⟩, lw_t6 (List.mem_of_getElem? (i := 218) rfl), lw_t8 (List.mem_of_getElem? (i := 80) rfl), lw_t8 (List.mem_of_getElem? (i := 81) rfl)⟩
theorem lw_p94 : lw_okq (⟨"DateValeModel", "isDate", "(II)Z"⟩, 32) := ⟨⟨by decide +kernel, by decide +kernel⟩, lw_t6 (List.mem_of_getElem? (i := 218) rfl), lw_t8 (List.mem_of_getElem? (i := 84) rfl), lw_t8 (List.mem_of_getElem? (i := 85) rfl)⟩
theorem lw_p95 : lw_okq (⟨"DateValeModel", "comes", "(II)V"⟩, 32) := ⟨⟨by decide +kernel, by decide +kernel⟩, lw_t6 (List.mem_of_getElem? (i := 218) rfl), lw_t8 (List.mem_of_getElem? (i := 88) rfl), lw_t8 (List.mem_of_getElem? (i := 89) rfl)⟩
def lw_privs_6 : List (MethodName × Nat) := [(⟨"DateValeModel", "isSign", "(I)Z"⟩, 32), (⟨"DateValeModel", "emit", "(II)V"⟩, 32), (⟨"DateValeModel", "hasSign", "(I)Z"⟩, 32), (⟨"DateValeModel", "takeSign", "(I)V"⟩, 32), (⟨"DateValeModel", "isHouse", "(I)Z"⟩, 32), (⟨"DateValeModel", "freeOf", "(II)I"⟩, 32), (⟨"DateValeModel", "widthOf", "(I)I"⟩, 32), (⟨"DateValeModel", "inHouse", "(II)I"⟩, 32), (⟨"DateValeModel", "talkIn", "(II)I"⟩, 32), (⟨"DateValeModel", "isDay", "(I)Z"⟩, 32), (⟨"DateValeModel", "keeps", "()V"⟩, 32), (⟨"DateValeModel", "copies", "(III)V"⟩, 32), (⟨"DateValeModel", "passes", "(I)V"⟩, 32), (⟨"DateValeModel", "leaves", "(II)V"⟩, 32), (⟨"DateValeModel", "isDate", "(II)Z"⟩, 32), (⟨"DateValeModel", "comes", "(II)V"⟩, 32)]
theorem lw_r6 : ∀ q ∈ lw_privs_6, lw_okq q := List.forall_mem_cons.mpr ⟨lw_p80, List.forall_mem_cons.mpr ⟨lw_p81, List.forall_mem_cons.mpr ⟨lw_p82, List.forall_mem_cons.mpr ⟨lw_p83, List.forall_mem_cons.mpr ⟨lw_p84, List.forall_mem_cons.mpr ⟨lw_p85, List.forall_mem_cons.mpr ⟨lw_p86, List.forall_mem_cons.mpr ⟨lw_p87, List.forall_mem_cons.mpr ⟨lw_p88, List.forall_mem_cons.mpr ⟨lw_p89, List.forall_mem_cons.mpr ⟨lw_p90, List.forall_mem_cons.mpr ⟨lw_p91, List.forall_mem_cons.mpr ⟨lw_p92, List.forall_mem_cons.mpr ⟨lw_p93, List.forall_mem_cons.mpr ⟨lw_p94, List.forall_mem_cons.mpr ⟨lw_p95, fun _ h => absurd h List.not_mem_nil⟩⟩⟩⟩⟩⟩⟩⟩⟩⟩⟩⟩⟩⟩⟩⟩
theorem lw_p96 : lw_okq (⟨"DateValeModel", "bedFor", "(II)I"⟩, 32) := ⟨⟨by decide +kernel, by decide +kernel⟩, lw_t6 (List.mem_of_getElem? (i := 218) rfl), lw_t8 (List.mem_of_getElem? (i := 92) rfl), lw_t8 (List.mem_of_getElem? (i := 93) rfl)⟩
theorem lw_p97 : lw_okq (⟨"DateValeModel", "doesHold", "(III)Z"⟩, 32) := ⟨⟨by decide +kernel, by decide +kernel⟩, lw_t6 (List.mem_of_getElem? (i := 218) rfl), lw_t8 (List.mem_of_getElem? (i := 96) rfl), lw_t8 (List.mem_of_getElem? (i := 97) rfl)⟩
theorem lw_p98 : lw_okq (⟨"DateValeModel", "worthAt", "(I)I"⟩, 32) := ⟨⟨by decide +kernel, by decide +kernel⟩, lw_t6 (List.mem_of_getElem? (i := 218) rfl), lw_t8 (List.mem_of_getElem? (i := 103) rfl), lw_t8 (List.mem_of_getElem? (i := 104) rfl)⟩
theorem lw_p99 : lw_okq (⟨"DateValeModel", "mayMove", "(III)Z"⟩, 32) := ⟨⟨by decide +kernel, by decide +kernel⟩, lw_t6 (List.mem_of_getElem? (i := 218) rfl), lw_t8 (List.mem_of_getElem? (i := 114) rfl), lw_t8 (List.mem_of_getElem? (i := 115) rfl)⟩
theorem lw_p100 : lw_okq (⟨"DateValeModel", "triesNow", "()V"⟩, 32) := ⟨⟨by decide +kernel, by decide +kernel⟩, lw_t6 (List.mem_of_getElem? (i := 218) rfl), lw_t8 (List.mem_of_getElem? (i := 138) rfl), lw_t8 (List.mem_of_getElem? (i := 139) rfl)⟩
theorem lw_p101 : lw_okq (⟨"DateValeModel", "somewhere", "(I)I"⟩, 32) := ⟨⟨by decide +kernel, by decide +kernel⟩, lw_t6 (List.mem_of_getElem? (i := 218) rfl), lw_t8 (List.mem_of_getElem? (i := 154) rfl), lw_t8 (List.mem_of_getElem? (i := 155) rfl)⟩
theorem lw_p102 : lw_okq (⟨"DateValeModel", "builtIn", "(II)I"⟩, 32) := ⟨⟨by decide +kernel, by decide +kernel⟩, lw_t6 (List.mem_of_getElem? (i := 218) rfl), lw_t8 (List.mem_of_getElem? (i := 170) rfl), lw_t8 (List.mem_of_getElem? (i := 171) rfl)⟩
theorem lw_p103 : lw_okq (⟨"DateValeModel", "isCalm", "(I)Z"⟩, 32) := ⟨⟨by decide +kernel, by decide +kernel⟩, lw_t6 (List.mem_of_getElem? (i := 218) rfl), lw_t8 (List.mem_of_getElem? (i := 174) rfl), lw_t8 (List.mem_of_getElem? (i := 175) rfl)⟩
theorem lw_p104 : lw_okq (⟨"DateValeModel", "laysFrom", "(I)I"⟩, 32) := ⟨⟨by decide +kernel, by decide +kernel⟩, lw_t6 (List.mem_of_getElem? (i := 218) rfl), lw_t8 (List.mem_of_getElem? (i := 182) rfl), lw_t8 (List.mem_of_getElem? (i := 183) rfl)⟩
theorem lw_p105 : lw_okq (⟨"DateValeModel", "isApart", "(II)Z"⟩, 32) := ⟨⟨by decide +kernel, by decide +kernel⟩, lw_t6 (List.mem_of_getElem? (i := 218) rfl), lw_t8 (List.mem_of_getElem? (i := 190) rfl), lw_t8 (List.mem_of_getElem? (i := 191) rfl)⟩
theorem lw_p106 : lw_okq (⟨"DateValeModel", "whoNow", "()I"⟩, 32) := ⟨⟨by decide +kernel, by decide +kernel⟩, lw_t6 (List.mem_of_getElem? (i := 218) rfl), lw_t8 (List.mem_of_getElem? (i := 210) rfl), lw_t8 (List.mem_of_getElem? (i := 211) rfl)⟩
theorem lw_p107 : lw_okq (⟨"DateValeModel", "drawsDeed", "()V"⟩, 32) := ⟨⟨by decide +kernel, by decide +kernel⟩, lw_t6 (List.mem_of_getElem? (i := 218) rfl), lw_t9 (List.mem_of_getElem? (i := 14) rfl), lw_t9 (List.mem_of_getElem? (i := 15) rfl)⟩
theorem lw_p108 : lw_okq (⟨"DateValeModel", "draw", "(I)I"⟩, 32) := ⟨⟨by decide +kernel, by decide +kernel⟩, lw_t6 (List.mem_of_getElem? (i := 218) rfl), lw_t9 (List.mem_of_getElem? (i := 18) rfl), lw_t9 (List.mem_of_getElem? (i := 19) rfl)⟩
theorem lw_p109 : lw_okq (⟨"DateValeModel", "bedsOfAll", "()I"⟩, 32) := ⟨⟨by decide +kernel, by decide +kernel⟩, lw_t6 (List.mem_of_getElem? (i := 218) rfl), lw_t9 (List.mem_of_getElem? (i := 34) rfl), lw_t9 (List.mem_of_getElem? (i := 35) rfl)⟩
theorem lw_p110 : lw_okq (⟨"DateValeModel", "fadedNow", "()I"⟩, 32) := ⟨⟨by decide +kernel, by decide +kernel⟩, lw_t6 (List.mem_of_getElem? (i := 218) rfl), lw_t9 (List.mem_of_getElem? (i := 38) rfl), lw_t9 (List.mem_of_getElem? (i := 39) rfl)⟩
def lw_privs_7 : List (MethodName × Nat) := [(⟨"DateValeModel", "bedFor", "(II)I"⟩, 32), (⟨"DateValeModel", "doesHold", "(III)Z"⟩, 32), (⟨"DateValeModel", "worthAt", "(I)I"⟩, 32), (⟨"DateValeModel", "mayMove", "(III)Z"⟩, 32), (⟨"DateValeModel", "triesNow", "()V"⟩, 32), (⟨"DateValeModel", "somewhere", "(I)I"⟩, 32), (⟨"DateValeModel", "builtIn", "(II)I"⟩, 32), (⟨"DateValeModel", "isCalm", "(I)Z"⟩, 32), (⟨"DateValeModel", "laysFrom", "(I)I"⟩, 32), (⟨"DateValeModel", "isApart", "(II)Z"⟩, 32), (⟨"DateValeModel", "whoNow", "()I"⟩, 32), (⟨"DateValeModel", "drawsDeed", "()V"⟩, 32), (⟨"DateValeModel", "draw", "(I)I"⟩, 32), (⟨"DateValeModel", "bedsOfAll", "()I"⟩, 32), (⟨"DateValeModel", "fadedNow", "()I"⟩, 32)]
theorem lw_r7 : ∀ q ∈ lw_privs_7, lw_okq q := List.forall_mem_cons.mpr ⟨lw_p96, List.forall_mem_cons.mpr ⟨lw_p97, List.forall_mem_cons.mpr ⟨lw_p98, List.forall_mem_cons.mpr ⟨lw_p99, List.forall_mem_cons.mpr ⟨lw_p100, List.forall_mem_cons.mpr ⟨lw_p101, List.forall_mem_cons.mpr ⟨lw_p102, List.forall_mem_cons.mpr ⟨lw_p103, List.forall_mem_cons.mpr ⟨lw_p104, List.forall_mem_cons.mpr ⟨lw_p105, List.forall_mem_cons.mpr ⟨lw_p106, List.forall_mem_cons.mpr ⟨lw_p107, List.forall_mem_cons.mpr ⟨lw_p108, List.forall_mem_cons.mpr ⟨lw_p109, List.forall_mem_cons.mpr ⟨lw_p110, fun _ h => absurd h List.not_mem_nil⟩⟩⟩⟩⟩⟩⟩⟩⟩⟩⟩⟩⟩⟩⟩
def lw_privs : List (MethodName × Nat) := lw_privs_1 ++ (lw_privs_2 ++ (lw_privs_3 ++ (lw_privs_4 ++ (lw_privs_5 ++ (lw_privs_6 ++ (lw_privs_7))))))
def lw_tbl : List Cond := k2_sels lw_privs ++ tables_1
theorem lw_privs_ok : ∀ q ∈ lw_privs, lw_okq q := by
  show ∀ q ∈ lw_privs_1 ++ (lw_privs_2 ++ (lw_privs_3 ++ (lw_privs_4 ++ (lw_privs_5 ++ (lw_privs_6 ++ (lw_privs_7)))))), lw_okq q
  exact List.forall_mem_append.mpr ⟨lw_r1, List.forall_mem_append.mpr ⟨lw_r2, List.forall_mem_append.mpr ⟨lw_r3, List.forall_mem_append.mpr ⟨lw_r4, List.forall_mem_append.mpr ⟨lw_r5, List.forall_mem_append.mpr ⟨lw_r6, lw_r7⟩⟩⟩⟩⟩⟩
-- ===== ONE list of words for every method: the tables' words that hold all through a run =====
def lw_all : List Cond := lw_tbl.filter goodWord
/-- a word of the tables by its place: claim/WORDS.tsv -/
theorem lw_w {w : Cond} (i : Nat) (h : lw_tbl[i]? = some w) (g : goodWord w = true) : w ∈ lw_all := List.mem_filter.mpr ⟨List.mem_of_getElem? h, g⟩
theorem lw_all_tbl {w : Cond} (h : w ∈ lw_all) : w ∈ lw_tbl := (List.mem_filter.mp h).1
theorem lw_self : GoodIn lw_all lw_all := fun w h => ⟨h, good_of_word (List.mem_filter.mp h).2⟩
/-- a class's field words, by their places -/
theorem lw_in (ws : List Cond) (ps : List Nat) (hp : ws = ps.filterMap (fun i => lw_tbl[i]?)) (hg : ws.all goodWord = true) : ∀ w ∈ ws, w ∈ lw_all := by
  intro w h
  have h1 := List.all_eq_true.mp hg w h
  rw [hp] at h
  obtain ⟨i, -, hi⟩ := List.mem_filterMap.mp h
  exact lw_w i hi h1
/-- the words of a contract for the method y with code b, L locals, answer r -/
abbrev ws_ (y : MethodName) (b : ByteArray) (L : Nat) (r : Option FieldType) : List Cond := Cond.code y b L r :: lw_all
theorem lw_meth {y : MethodName} {b : ByteArray} {L : Nat} {r : Option FieldType} (h : Cond.code y b L r ∈ lw_all) : GoodIn lw_all (ws_ y b L r) := by
  intro w hw
  rcases List.mem_cons.mp hw with e | e
  · rw [e]
    exact lw_self _ h
  · exact lw_self _ e
theorem lw_app {a c : List Cond} (ha : ∀ w ∈ a, w ∈ lw_all) (hc : GoodIn lw_all c) : GoodIn lw_all (a ++ c) := by
  intro w hw
  rcases List.mem_append.mp hw with e | e
  · exact lw_self w (ha w e)
  · exact hc w e
/-- what a call through an object asks: cwV n hts (lw_V ..) -/
theorem lw_V {own : String} {idx : Nat} {C : String} {y : MethodName} {b : ByteArray} {L : Nat} {r : Option FieldType} (h1 : Cond.methodLink own idx y ∈ lw_all) (h2 : Cond.instanceMethod y ∈ lw_all) (h3 : Cond.selects C y y ∈ lw_all) (h4 : Cond.initialized C ∈ lw_all) (h5 : Cond.code y b L r ∈ lw_all) : GoodIn lw_all (wsV own idx C y (ws_ y b L r)) := by
  refine lw_app ?_ (lw_meth h5)
  intro w hw
  simp only [List.mem_cons, List.not_mem_nil, or_false] at hw
  rcases hw with e | e | e | e
  · rw [e]; exact h1
  · rw [e]; exact h2
  · rw [e]; exact h3
  · rw [e]; exact h4
/-- what a static call asks: va_cwS n hts (lw_S ..) -/
theorem lw_S {own : String} {idx : Nat} {y : MethodName} {b : ByteArray} {L : Nat} {r : Option FieldType} (h1 : Cond.methodLink own idx y ∈ lw_all) (h2 : Cond.static y ∈ lw_all) (h3 : Cond.initialized y.cls ∈ lw_all) (h4 : Cond.code y b L r ∈ lw_all) : GoodIn lw_all (va_wsS own idx y (ws_ y b L r)) := by
  refine lw_app ?_ (lw_meth h4)
  intro w hw
  simp only [List.mem_cons, List.not_mem_nil, or_false] at hw
  rcases hw with e | e | e
  · rw [e]; exact h1
  · rw [e]; exact h2
  · rw [e]; exact h3
/-- the words of a contract for a method WITH HANDLERS (hh: its table) -/
abbrev wsW_ (y : MethodName) (b : ByteArray) (L : Nat) (r : Option FieldType) (hh : List (Nat × Nat × Nat × Nat)) : List Cond := Cond.codeWith y b L r hh :: lw_all
theorem lw_methW {y : MethodName} {b : ByteArray} {L : Nat} {r : Option FieldType} {hh : List (Nat × Nat × Nat × Nat)} (h : Cond.codeWith y b L r hh ∈ lw_all) : GoodIn lw_all (wsW_ y b L r hh) := by
  intro w hw
  rcases List.mem_cons.mp hw with e | e
  · rw [e]
    exact lw_self _ h
  · exact lw_self _ e
/-- any list of words by their places (lw_in), good -/
theorem lw_good {ws : List Cond} (h : ∀ w ∈ ws, w ∈ lw_all) : GoodIn lw_all ws := fun w hw => lw_self w (h w hw)
/-- what a call of a method with handlers asks: vx_cwVW n hts (lw_VW ..), vx_cwSW n hts (lw_SW ..) -/
theorem lw_VW {own : String} {idx : Nat} {C : String} {y : MethodName} {b : ByteArray} {L : Nat} {r : Option FieldType} {hh : List (Nat × Nat × Nat × Nat)} (h1 : Cond.methodLink own idx y ∈ lw_all) (h2 : Cond.instanceMethod y ∈ lw_all) (h3 : Cond.selects C y y ∈ lw_all) (h4 : Cond.initialized C ∈ lw_all) (h5 : Cond.codeWith y b L r hh ∈ lw_all) : GoodIn lw_all (wsV own idx C y (wsW_ y b L r hh)) := by
  refine lw_app ?_ (lw_methW h5)
  intro w hw
  simp only [List.mem_cons, List.not_mem_nil, or_false] at hw
  rcases hw with e | e | e | e
  · rw [e]; exact h1
  · rw [e]; exact h2
  · rw [e]; exact h3
  · rw [e]; exact h4
theorem lw_SW {own : String} {idx : Nat} {y : MethodName} {b : ByteArray} {L : Nat} {r : Option FieldType} {hh : List (Nat × Nat × Nat × Nat)} (h1 : Cond.methodLink own idx y ∈ lw_all) (h2 : Cond.static y ∈ lw_all) (h3 : Cond.initialized y.cls ∈ lw_all) (h4 : Cond.codeWith y b L r hh ∈ lw_all) : GoodIn lw_all (va_wsS own idx y (wsW_ y b L r hh)) := by
  refine lw_app ?_ (lw_methW h4)
  intro w hw
  simp only [List.mem_cons, List.not_mem_nil, or_false] at hw
  rcases hw with e | e | e
  · rw [e]; exact h1
  · rw [e]; exact h2
  · rw [e]; exact h3
/-- a word by its place in its run of the tables -/
theorem lw_at {r : List Cond} (hr : ∀ w ∈ r, w ∈ lw_tbl) {w : Cond} (i : Nat) (h : r[i]? = some w) : w ∈ lw_tbl := hr w (List.mem_of_getElem? h)
theorem lw_g {w : Cond} (h : w ∈ lw_tbl) (g : goodWord w = true) : w ∈ lw_all := List.mem_filter.mpr ⟨h, g⟩
theorem lw_ms : ∀ w ∈ k2_sels lw_privs, w ∈ lw_tbl := fun w h => show w ∈ k2_sels lw_privs ++ tables_1 from List.mem_append_left _ h
theorem lw_m1 : ∀ w ∈ tables_1_1, w ∈ lw_tbl := fun w h => show w ∈ k2_sels lw_privs ++ tables_1 from List.mem_append_right (k2_sels lw_privs) (show w ∈ tables_1 from List.mem_append_left _ h)
theorem lw_m2 : ∀ w ∈ tables_1_2, w ∈ lw_tbl := fun w h => show w ∈ k2_sels lw_privs ++ tables_1 from List.mem_append_right (k2_sels lw_privs) (show w ∈ tables_1 from List.mem_append_right _ (List.mem_append_left _ h))
theorem lw_m3 : ∀ w ∈ tables_1_3, w ∈ lw_tbl := fun w h => show w ∈ k2_sels lw_privs ++ tables_1 from List.mem_append_right (k2_sels lw_privs) (show w ∈ tables_1 from List.mem_append_right _ (List.mem_append_right _ (List.mem_append_left _ h)))
theorem lw_m4 : ∀ w ∈ tables_1_4, w ∈ lw_tbl := fun w h => show w ∈ k2_sels lw_privs ++ tables_1 from List.mem_append_right (k2_sels lw_privs) (show w ∈ tables_1 from List.mem_append_right _ (List.mem_append_right _ (List.mem_append_right _ (List.mem_append_left _ h))))
theorem lw_m5 : ∀ w ∈ tables_1_5, w ∈ lw_tbl := fun w h => show w ∈ k2_sels lw_privs ++ tables_1 from List.mem_append_right (k2_sels lw_privs) (show w ∈ tables_1 from List.mem_append_right _ (List.mem_append_right _ (List.mem_append_right _ (List.mem_append_right _ (List.mem_append_left _ h)))))
theorem lw_m6 : ∀ w ∈ tables_1_6, w ∈ lw_tbl := fun w h => show w ∈ k2_sels lw_privs ++ tables_1 from List.mem_append_right (k2_sels lw_privs) (show w ∈ tables_1 from List.mem_append_right _ (List.mem_append_right _ (List.mem_append_right _ (List.mem_append_right _ (List.mem_append_right _ (List.mem_append_left _ h))))))
theorem lw_m7 : ∀ w ∈ tables_1_7, w ∈ lw_tbl := fun w h => show w ∈ k2_sels lw_privs ++ tables_1 from List.mem_append_right (k2_sels lw_privs) (show w ∈ tables_1 from List.mem_append_right _ (List.mem_append_right _ (List.mem_append_right _ (List.mem_append_right _ (List.mem_append_right _ (List.mem_append_right _ (List.mem_append_left _ h)))))))
theorem lw_m8 : ∀ w ∈ tables_1_8, w ∈ lw_tbl := fun w h => show w ∈ k2_sels lw_privs ++ tables_1 from List.mem_append_right (k2_sels lw_privs) (show w ∈ tables_1 from List.mem_append_right _ (List.mem_append_right _ (List.mem_append_right _ (List.mem_append_right _ (List.mem_append_right _ (List.mem_append_right _ (List.mem_append_right _ (List.mem_append_left _ h))))))))
theorem lw_m9 : ∀ w ∈ tables_1_9, w ∈ lw_tbl := fun w h => show w ∈ k2_sels lw_privs ++ tables_1 from List.mem_append_right (k2_sels lw_privs) (show w ∈ tables_1 from List.mem_append_right _ (List.mem_append_right _ (List.mem_append_right _ (List.mem_append_right _ (List.mem_append_right _ (List.mem_append_right _ (List.mem_append_right _ (List.mem_append_right _ h))))))))
theorem qs0 : (Cond.selects "DateVale" ⟨"DateVale", "reads", "()V"⟩ ⟨"DateVale", "reads", "()V"⟩) ∈ lw_all := lw_g (lw_at lw_ms 0 rfl) rfl
theorem qs1 : (Cond.selects "DateVale$Reader" ⟨"DateVale$Reader", "next", "()V"⟩ ⟨"DateVale$Reader", "next", "()V"⟩) ∈ lw_all := lw_g (lw_at lw_ms 1 rfl) rfl
theorem qs2 : (Cond.selects "DateVale$Reader" ⟨"DateVale$Reader", "at", "(I)I"⟩ ⟨"DateVale$Reader", "at", "(I)I"⟩) ∈ lw_all := lw_g (lw_at lw_ms 2 rfl) rfl
theorem qs3 : (Cond.selects "DateVale$Reader" ⟨"DateVale$Reader", "which", "(Ljava/lang/String;)I"⟩ ⟨"DateVale$Reader", "which", "(Ljava/lang/String;)I"⟩) ∈ lw_all := lw_g (lw_at lw_ms 3 rfl) rfl
theorem qs4 : (Cond.selects "DateVale$Reader" ⟨"DateVale$Reader", "wrong", "(I)LDateVale$Wrong;"⟩ ⟨"DateVale$Reader", "wrong", "(I)LDateVale$Wrong;"⟩) ∈ lw_all := lw_g (lw_at lw_ms 4 rfl) rfl
theorem qs5 : (Cond.selects "java/lang/Throwable" ⟨"java/lang/Throwable", "fillInStackTrace", "(I)Ljava/lang/Throwable;"⟩ ⟨"java/lang/Throwable", "fillInStackTrace", "(I)Ljava/lang/Throwable;"⟩) ∈ lw_all := lw_g (lw_at lw_ms 5 rfl) rfl
theorem qs6 : (Cond.selects "DateVale$Reader" ⟨"DateVale$Reader", "line", "(I)V"⟩ ⟨"DateVale$Reader", "line", "(I)V"⟩) ∈ lw_all := lw_g (lw_at lw_ms 6 rfl) rfl
theorem qs7 : (Cond.selects "DateVale$Reader" ⟨"DateVale$Reader", "fresh", "()Ljava/lang/String;"⟩ ⟨"DateVale$Reader", "fresh", "()Ljava/lang/String;"⟩) ∈ lw_all := lw_g (lw_at lw_ms 7 rfl) rfl
theorem qs8 : (Cond.selects "DateVale$Reader" ⟨"DateVale$Reader", "name", "()Ljava/lang/String;"⟩ ⟨"DateVale$Reader", "name", "()Ljava/lang/String;"⟩) ∈ lw_all := lw_g (lw_at lw_ms 8 rfl) rfl
theorem qs9 : (Cond.selects "DateVale$Reader" ⟨"DateVale$Reader", "number", "(Ljava/lang/String;II)I"⟩ ⟨"DateVale$Reader", "number", "(Ljava/lang/String;II)I"⟩) ∈ lw_all := lw_g (lw_at lw_ms 9 rfl) rfl
theorem qs10 : (Cond.selects "DateVale$Reader" ⟨"DateVale$Reader", "need", "(Ljava/lang/String;)V"⟩ ⟨"DateVale$Reader", "need", "(Ljava/lang/String;)V"⟩) ∈ lw_all := lw_g (lw_at lw_ms 10 rfl) rfl
theorem qs11 : (Cond.selects "DateVale$Reader" ⟨"DateVale$Reader", "number", "(II)I"⟩ ⟨"DateVale$Reader", "number", "(II)I"⟩) ∈ lw_all := lw_g (lw_at lw_ms 11 rfl) rfl
theorem qs12 : (Cond.selects "java/util/ArrayList" ⟨"java/util/ArrayList", "add", "(Ljava/lang/Object;[Ljava/lang/Object;I)V"⟩ ⟨"java/util/ArrayList", "add", "(Ljava/lang/Object;[Ljava/lang/Object;I)V"⟩) ∈ lw_all := lw_g (lw_at lw_ms 12 rfl) rfl
theorem qs13 : (Cond.selects "java/util/ArrayList" ⟨"java/util/ArrayList", "grow", "()[Ljava/lang/Object;"⟩ ⟨"java/util/ArrayList", "grow", "()[Ljava/lang/Object;"⟩) ∈ lw_all := lw_g (lw_at lw_ms 13 rfl) rfl
theorem qs14 : (Cond.selects "java/util/ArrayList" ⟨"java/util/ArrayList", "grow", "(I)[Ljava/lang/Object;"⟩ ⟨"java/util/ArrayList", "grow", "(I)[Ljava/lang/Object;"⟩) ∈ lw_all := lw_g (lw_at lw_ms 14 rfl) rfl
theorem qs15 : (Cond.selects "DateVale$Reader" ⟨"DateVale$Reader", "passed", "(I)I"⟩ ⟨"DateVale$Reader", "passed", "(I)I"⟩) ∈ lw_all := lw_g (lw_at lw_ms 15 rfl) rfl
theorem qs16 : (Cond.selects "DateVale$Reader" ⟨"DateVale$Reader", "told", "(I)I"⟩ ⟨"DateVale$Reader", "told", "(I)I"⟩) ∈ lw_all := lw_g (lw_at lw_ms 16 rfl) rfl
theorem qs17 : (Cond.selects "DateVale$Reader" ⟨"DateVale$Reader", "guest", "()LDateVale$Guest;"⟩ ⟨"DateVale$Reader", "guest", "()LDateVale$Guest;"⟩) ∈ lw_all := lw_g (lw_at lw_ms 17 rfl) rfl
theorem qs18 : (Cond.selects "DateVale$Reader" ⟨"DateVale$Reader", "one", "(Ljava/lang/String;)I"⟩ ⟨"DateVale$Reader", "one", "(Ljava/lang/String;)I"⟩) ∈ lw_all := lw_g (lw_at lw_ms 18 rfl) rfl
theorem qs19 : (Cond.selects "DateVale$Reader" ⟨"DateVale$Reader", "expression", "()LDateVale$Expression;"⟩ ⟨"DateVale$Reader", "expression", "()LDateVale$Expression;"⟩) ∈ lw_all := lw_g (lw_at lw_ms 19 rfl) rfl
theorem qs20 : (Cond.selects "DateVale$Reader" ⟨"DateVale$Reader", "test", "()LDateVale$Expression;"⟩ ⟨"DateVale$Reader", "test", "()LDateVale$Expression;"⟩) ∈ lw_all := lw_g (lw_at lw_ms 20 rfl) rfl
theorem qs21 : (Cond.selects "DateVale$Reader" ⟨"DateVale$Reader", "sum", "()LDateVale$Expression;"⟩ ⟨"DateVale$Reader", "sum", "()LDateVale$Expression;"⟩) ∈ lw_all := lw_g (lw_at lw_ms 21 rfl) rfl
theorem qs22 : (Cond.selects "DateVale$Reader" ⟨"DateVale$Reader", "product", "()LDateVale$Expression;"⟩ ⟨"DateVale$Reader", "product", "()LDateVale$Expression;"⟩) ∈ lw_all := lw_g (lw_at lw_ms 22 rfl) rfl
theorem qs23 : (Cond.selects "DateVale$Reader" ⟨"DateVale$Reader", "part", "()LDateVale$Expression;"⟩ ⟨"DateVale$Reader", "part", "()LDateVale$Expression;"⟩) ∈ lw_all := lw_g (lw_at lw_ms 23 rfl) rfl
theorem qs24 : (Cond.selects "DateVale$Reader" ⟨"DateVale$Reader", "isSign", "(C)Z"⟩ ⟨"DateVale$Reader", "isSign", "(C)Z"⟩) ∈ lw_all := lw_g (lw_at lw_ms 24 rfl) rfl
theorem qs25 : (Cond.selects "DateVale$Reader" ⟨"DateVale$Reader", "need", "(C)V"⟩ ⟨"DateVale$Reader", "need", "(C)V"⟩) ∈ lw_all := lw_g (lw_at lw_ms 25 rfl) rfl
theorem qs26 : (Cond.selects "DateVale$Reader" ⟨"DateVale$Reader", "done", "(I)LDateVale$Line;"⟩ ⟨"DateVale$Reader", "done", "(I)LDateVale$Line;"⟩) ∈ lw_all := lw_g (lw_at lw_ms 26 rfl) rfl
theorem qs27 : (Cond.selects "DateVale" ⟨"DateVale", "isHouse", "(I)Z"⟩ ⟨"DateVale", "isHouse", "(I)Z"⟩) ∈ lw_all := lw_g (lw_at lw_ms 27 rfl) rfl
theorem qs28 : (Cond.selects "DateVale" ⟨"DateVale", "houses", "()I"⟩ ⟨"DateVale", "houses", "()I"⟩) ∈ lw_all := lw_g (lw_at lw_ms 28 rfl) rfl
theorem qs29 : (Cond.selects "DateVale" ⟨"DateVale", "freeIn", "(LDateVale$State;I)I"⟩ ⟨"DateVale", "freeIn", "(LDateVale$State;I)I"⟩) ∈ lw_all := lw_g (lw_at lw_ms 29 rfl) rfl
theorem qs30 : (Cond.selects "DateVale" ⟨"DateVale", "guests", "()I"⟩ ⟨"DateVale", "guests", "()I"⟩) ∈ lw_all := lw_g (lw_at lw_ms 30 rfl) rfl
theorem qs31 : (Cond.selects "DateVale" ⟨"DateVale", "guest", "(I)LDateVale$Guest;"⟩ ⟨"DateVale", "guest", "(I)LDateVale$Guest;"⟩) ∈ lw_all := lw_g (lw_at lw_ms 31 rfl) rfl
theorem qs32 : (Cond.selects "DateVale" ⟨"DateVale", "home", "(I)LDateVale$Home;"⟩ ⟨"DateVale", "home", "(I)LDateVale$Home;"⟩) ∈ lw_all := lw_g (lw_at lw_ms 32 rfl) rfl
theorem qs33 : (Cond.selects "DateVale" ⟨"DateVale", "talk", "(I)I"⟩ ⟨"DateVale", "talk", "(I)I"⟩) ∈ lw_all := lw_g (lw_at lw_ms 33 rfl) rfl
theorem qs34 : (Cond.selects "DateVale" ⟨"DateVale", "isGuest", "(I)Z"⟩ ⟨"DateVale", "isGuest", "(I)Z"⟩) ∈ lw_all := lw_g (lw_at lw_ms 34 rfl) rfl
theorem qs35 : (Cond.selects "DateVale" ⟨"DateVale", "keeps", "()V"⟩ ⟨"DateVale", "keeps", "()V"⟩) ∈ lw_all := lw_g (lw_at lw_ms 35 rfl) rfl
theorem qs36 : (Cond.selects "DateVale" ⟨"DateVale", "passes", "(LDateVale$State;)I"⟩ ⟨"DateVale", "passes", "(LDateVale$State;)I"⟩) ∈ lw_all := lw_g (lw_at lw_ms 36 rfl) rfl
theorem qs37 : (Cond.selects "DateVale" ⟨"DateVale", "taking", "(LDateVale$State;I)I"⟩ ⟨"DateVale", "taking", "(LDateVale$State;I)I"⟩) ∈ lw_all := lw_g (lw_at lw_ms 37 rfl) rfl
theorem qs38 : (Cond.selects "DateVale" ⟨"DateVale", "holds", "(LDateVale$State;II)Z"⟩ ⟨"DateVale", "holds", "(LDateVale$State;II)Z"⟩) ∈ lw_all := lw_g (lw_at lw_ms 38 rfl) rfl
theorem qs39 : (Cond.selects "DateVale" ⟨"DateVale", "canMove", "(LDateVale$State;II)Z"⟩ ⟨"DateVale", "canMove", "(LDateVale$State;II)Z"⟩) ∈ lw_all := lw_g (lw_at lw_ms 39 rfl) rfl
theorem qs40 : (Cond.selects "DateVale" ⟨"DateVale", "goesOn", "(I)V"⟩ ⟨"DateVale", "goesOn", "(I)V"⟩) ∈ lw_all := lw_g (lw_at lw_ms 40 rfl) rfl
theorem qs41 : (Cond.selects "DateVale" ⟨"DateVale", "builds", "(III)V"⟩ ⟨"DateVale", "builds", "(III)V"⟩) ∈ lw_all := lw_g (lw_at lw_ms 41 rfl) rfl
theorem qs42 : (Cond.selects "DateVale" ⟨"DateVale", "isNoneRefused", "(I)Z"⟩ ⟨"DateVale", "isNoneRefused", "(I)Z"⟩) ∈ lw_all := lw_g (lw_at lw_ms 42 rfl) rfl
theorem qs43 : (Cond.selects "DateVale" ⟨"DateVale", "lays", "(I)I"⟩ ⟨"DateVale", "lays", "(I)I"⟩) ∈ lw_all := lw_g (lw_at lw_ms 43 rfl) rfl
theorem qs44 : (Cond.selects "DateVale" ⟨"DateVale", "isApart", "(II)Z"⟩ ⟨"DateVale", "isApart", "(II)Z"⟩) ∈ lw_all := lw_g (lw_at lw_ms 44 rfl) rfl
theorem qs45 : (Cond.selects "DateVale" ⟨"DateVale", "laysPlaces", "()V"⟩ ⟨"DateVale", "laysPlaces", "()V"⟩) ∈ lw_all := lw_g (lw_at lw_ms 45 rfl) rfl
theorem qs46 : (Cond.selects "DateVale" ⟨"DateVale", "befalls", "(LDateVale$State;)V"⟩ ⟨"DateVale", "befalls", "(LDateVale$State;)V"⟩) ∈ lw_all := lw_g (lw_at lw_ms 46 rfl) rfl
theorem qs47 : (Cond.selects "DateVale" ⟨"DateVale", "draws", "(I)I"⟩ ⟨"DateVale", "draws", "(I)I"⟩) ∈ lw_all := lw_g (lw_at lw_ms 47 rfl) rfl
theorem qs48 : (Cond.selects "DateVale" ⟨"DateVale", "faded", "()I"⟩ ⟨"DateVale", "faded", "()I"⟩) ∈ lw_all := lw_g (lw_at lw_ms 48 rfl) rfl
theorem qs49 : (Cond.selects "DateValeModel" ⟨"DateValeModel", "lay", "(J)V"⟩ ⟨"DateValeModel", "lay", "(J)V"⟩) ∈ lw_all := lw_g (lw_at lw_ms 49 rfl) rfl
theorem qs50 : (Cond.selects "DateValeModel" ⟨"DateValeModel", "standsAsAlways", "(I)V"⟩ ⟨"DateValeModel", "standsAsAlways", "(I)V"⟩) ∈ lw_all := lw_g (lw_at lw_ms 50 rfl) rfl
theorem qs51 : (Cond.selects "DateValeModel" ⟨"DateValeModel", "begins", "()V"⟩ ⟨"DateValeModel", "begins", "()V"⟩) ∈ lw_all := lw_g (lw_at lw_ms 51 rfl) rfl
theorem qs52 : (Cond.selects "DateValeModel" ⟨"DateValeModel", "datesAsTold", "()V"⟩ ⟨"DateValeModel", "datesAsTold", "()V"⟩) ∈ lw_all := lw_g (lw_at lw_ms 52 rfl) rfl
theorem qs53 : (Cond.selects "DateValeModel" ⟨"DateValeModel", "days", "()I"⟩ ⟨"DateValeModel", "days", "()I"⟩) ∈ lw_all := lw_g (lw_at lw_ms 53 rfl) rfl
theorem qs54 : (Cond.selects "DateValeModel" ⟨"DateValeModel", "dayOf", "(II)I"⟩ ⟨"DateValeModel", "dayOf", "(II)I"⟩) ∈ lw_all := lw_g (lw_at lw_ms 54 rfl) rfl
theorem qs55 : (Cond.selects "DateValeModel" ⟨"DateValeModel", "starts", "(I)V"⟩ ⟨"DateValeModel", "starts", "(I)V"⟩) ∈ lw_all := lw_g (lw_at lw_ms 55 rfl) rfl
theorem qs56 : (Cond.selects "DateValeModel" ⟨"DateValeModel", "houses", "()I"⟩ ⟨"DateValeModel", "houses", "()I"⟩) ∈ lw_all := lw_g (lw_at lw_ms 56 rfl) rfl
theorem qs57 : (Cond.selects "DateValeModel" ⟨"DateValeModel", "houseOf", "(II)I"⟩ ⟨"DateValeModel", "houseOf", "(II)I"⟩) ∈ lw_all := lw_g (lw_at lw_ms 57 rfl) rfl
theorem qs58 : (Cond.selects "DateValeModel" ⟨"DateValeModel", "cutAll", "()V"⟩ ⟨"DateValeModel", "cutAll", "()V"⟩) ∈ lw_all := lw_g (lw_at lw_ms 58 rfl) rfl
theorem qs59 : (Cond.selects "DateValeModel" ⟨"DateValeModel", "readLine", "()V"⟩ ⟨"DateValeModel", "readLine", "()V"⟩) ∈ lw_all := lw_g (lw_at lw_ms 59 rfl) rfl
theorem qs60 : (Cond.selects "DateValeModel" ⟨"DateValeModel", "isWord", "(I)Z"⟩ ⟨"DateValeModel", "isWord", "(I)Z"⟩) ∈ lw_all := lw_g (lw_at lw_ms 60 rfl) rfl
theorem qs61 : (Cond.selects "DateValeModel" ⟨"DateValeModel", "readName", "(III)V"⟩ ⟨"DateValeModel", "readName", "(III)V"⟩) ∈ lw_all := lw_g (lw_at lw_ms 61 rfl) rfl
theorem qs62 : (Cond.selects "DateValeModel" ⟨"DateValeModel", "wrong", "(I)V"⟩ ⟨"DateValeModel", "wrong", "(I)V"⟩) ∈ lw_all := lw_g (lw_at lw_ms 62 rfl) rfl
theorem qs63 : (Cond.selects "DateValeModel" ⟨"DateValeModel", "isName", "()Z"⟩ ⟨"DateValeModel", "isName", "()Z"⟩) ∈ lw_all := lw_g (lw_at lw_ms 63 rfl) rfl
theorem qs64 : (Cond.selects "DateValeModel" ⟨"DateValeModel", "wordHere", "(II)I"⟩ ⟨"DateValeModel", "wordHere", "(II)I"⟩) ∈ lw_all := lw_g (lw_at lw_ms 64 rfl) rfl
theorem qs65 : (Cond.selects "DateValeModel" ⟨"DateValeModel", "nameAt", "(Z)I"⟩ ⟨"DateValeModel", "nameAt", "(Z)I"⟩) ∈ lw_all := lw_g (lw_at lw_ms 65 rfl) rfl
theorem qs66 : (Cond.selects "DateValeModel" ⟨"DateValeModel", "takeAfter", "(III)I"⟩ ⟨"DateValeModel", "takeAfter", "(III)I"⟩) ∈ lw_all := lw_g (lw_at lw_ms 66 rfl) rfl
theorem qs67 : (Cond.selects "DateValeModel" ⟨"DateValeModel", "takeWord", "(I)V"⟩ ⟨"DateValeModel", "takeWord", "(I)V"⟩) ∈ lw_all := lw_g (lw_at lw_ms 67 rfl) rfl
theorem qs68 : (Cond.selects "DateValeModel" ⟨"DateValeModel", "hasWord", "(I)Z"⟩ ⟨"DateValeModel", "hasWord", "(I)Z"⟩) ∈ lw_all := lw_g (lw_at lw_ms 68 rfl) rfl
theorem qs69 : (Cond.selects "DateValeModel" ⟨"DateValeModel", "takeNumber", "(II)I"⟩ ⟨"DateValeModel", "takeNumber", "(II)I"⟩) ∈ lw_all := lw_g (lw_at lw_ms 69 rfl) rfl
theorem qs70 : (Cond.selects "DateValeModel" ⟨"DateValeModel", "readDay", "()V"⟩ ⟨"DateValeModel", "readDay", "()V"⟩) ∈ lw_all := lw_g (lw_at lw_ms 70 rfl) rfl
theorem qs71 : (Cond.selects "DateValeModel" ⟨"DateValeModel", "takeOne", "(II)I"⟩ ⟨"DateValeModel", "takeOne", "(II)I"⟩) ∈ lw_all := lw_g (lw_at lw_ms 71 rfl) rfl
theorem qs72 : (Cond.selects "DateValeModel" ⟨"DateValeModel", "takeTold", "(ZII)I"⟩ ⟨"DateValeModel", "takeTold", "(ZII)I"⟩) ∈ lw_all := lw_g (lw_at lw_ms 72 rfl) rfl
theorem qs73 : (Cond.selects "DateValeModel" ⟨"DateValeModel", "readPair", "(III)V"⟩ ⟨"DateValeModel", "readPair", "(III)V"⟩) ∈ lw_all := lw_g (lw_at lw_ms 73 rfl) rfl
theorem qs74 : (Cond.selects "DateValeModel" ⟨"DateValeModel", "readOnce", "()V"⟩ ⟨"DateValeModel", "readOnce", "()V"⟩) ∈ lw_all := lw_g (lw_at lw_ms 74 rfl) rfl
theorem qs75 : (Cond.selects "DateValeModel" ⟨"DateValeModel", "whole", "(I)V"⟩ ⟨"DateValeModel", "whole", "(I)V"⟩) ∈ lw_all := lw_g (lw_at lw_ms 75 rfl) rfl
theorem qs76 : (Cond.selects "DateValeModel" ⟨"DateValeModel", "test", "(I)V"⟩ ⟨"DateValeModel", "test", "(I)V"⟩) ∈ lw_all := lw_g (lw_at lw_ms 76 rfl) rfl
theorem qs77 : (Cond.selects "DateValeModel" ⟨"DateValeModel", "sums", "(I)V"⟩ ⟨"DateValeModel", "sums", "(I)V"⟩) ∈ lw_all := lw_g (lw_at lw_ms 77 rfl) rfl
theorem qs78 : (Cond.selects "DateValeModel" ⟨"DateValeModel", "products", "(I)V"⟩ ⟨"DateValeModel", "products", "(I)V"⟩) ∈ lw_all := lw_g (lw_at lw_ms 78 rfl) rfl
theorem qs79 : (Cond.selects "DateValeModel" ⟨"DateValeModel", "takePart", "(I)V"⟩ ⟨"DateValeModel", "takePart", "(I)V"⟩) ∈ lw_all := lw_g (lw_at lw_ms 79 rfl) rfl
theorem qs80 : (Cond.selects "DateValeModel" ⟨"DateValeModel", "isSign", "(I)Z"⟩ ⟨"DateValeModel", "isSign", "(I)Z"⟩) ∈ lw_all := lw_g (lw_at lw_ms 80 rfl) rfl
theorem qs81 : (Cond.selects "DateValeModel" ⟨"DateValeModel", "emit", "(II)V"⟩ ⟨"DateValeModel", "emit", "(II)V"⟩) ∈ lw_all := lw_g (lw_at lw_ms 81 rfl) rfl
theorem qs82 : (Cond.selects "DateValeModel" ⟨"DateValeModel", "hasSign", "(I)Z"⟩ ⟨"DateValeModel", "hasSign", "(I)Z"⟩) ∈ lw_all := lw_g (lw_at lw_ms 82 rfl) rfl
theorem qs83 : (Cond.selects "DateValeModel" ⟨"DateValeModel", "takeSign", "(I)V"⟩ ⟨"DateValeModel", "takeSign", "(I)V"⟩) ∈ lw_all := lw_g (lw_at lw_ms 83 rfl) rfl
theorem qs84 : (Cond.selects "DateValeModel" ⟨"DateValeModel", "isHouse", "(I)Z"⟩ ⟨"DateValeModel", "isHouse", "(I)Z"⟩) ∈ lw_all := lw_g (lw_at lw_ms 84 rfl) rfl
theorem qs85 : (Cond.selects "DateValeModel" ⟨"DateValeModel", "freeOf", "(II)I"⟩ ⟨"DateValeModel", "freeOf", "(II)I"⟩) ∈ lw_all := lw_g (lw_at lw_ms 85 rfl) rfl
theorem qs86 : (Cond.selects "DateValeModel" ⟨"DateValeModel", "widthOf", "(I)I"⟩ ⟨"DateValeModel", "widthOf", "(I)I"⟩) ∈ lw_all := lw_g (lw_at lw_ms 86 rfl) rfl
theorem qs87 : (Cond.selects "DateValeModel" ⟨"DateValeModel", "inHouse", "(II)I"⟩ ⟨"DateValeModel", "inHouse", "(II)I"⟩) ∈ lw_all := lw_g (lw_at lw_ms 87 rfl) rfl
theorem qs88 : (Cond.selects "DateValeModel" ⟨"DateValeModel", "talkIn", "(II)I"⟩ ⟨"DateValeModel", "talkIn", "(II)I"⟩) ∈ lw_all := lw_g (lw_at lw_ms 88 rfl) rfl
theorem qs89 : (Cond.selects "DateValeModel" ⟨"DateValeModel", "isDay", "(I)Z"⟩ ⟨"DateValeModel", "isDay", "(I)Z"⟩) ∈ lw_all := lw_g (lw_at lw_ms 89 rfl) rfl
theorem qs90 : (Cond.selects "DateValeModel" ⟨"DateValeModel", "keeps", "()V"⟩ ⟨"DateValeModel", "keeps", "()V"⟩) ∈ lw_all := lw_g (lw_at lw_ms 90 rfl) rfl
theorem qs91 : (Cond.selects "DateValeModel" ⟨"DateValeModel", "copies", "(III)V"⟩ ⟨"DateValeModel", "copies", "(III)V"⟩) ∈ lw_all := lw_g (lw_at lw_ms 91 rfl) rfl
theorem qs92 : (Cond.selects "DateValeModel" ⟨"DateValeModel", "passes", "(I)V"⟩ ⟨"DateValeModel", "passes", "(I)V"⟩) ∈ lw_all := lw_g (lw_at lw_ms 92 rfl) rfl
theorem qs93 : (Cond.selects "DateValeModel" ⟨"DateValeModel", "leaves", "(II)V"⟩ ⟨"DateValeModel", "leaves", "(II)V"⟩) ∈ lw_all := lw_g (lw_at lw_ms 93 rfl) rfl
theorem qs94 : (Cond.selects "DateValeModel" ⟨"DateValeModel", "isDate", "(II)Z"⟩ ⟨"DateValeModel", "isDate", "(II)Z"⟩) ∈ lw_all := lw_g (lw_at lw_ms 94 rfl) rfl
theorem qs95 : (Cond.selects "DateValeModel" ⟨"DateValeModel", "comes", "(II)V"⟩ ⟨"DateValeModel", "comes", "(II)V"⟩) ∈ lw_all := lw_g (lw_at lw_ms 95 rfl) rfl
theorem qs96 : (Cond.selects "DateValeModel" ⟨"DateValeModel", "bedFor", "(II)I"⟩ ⟨"DateValeModel", "bedFor", "(II)I"⟩) ∈ lw_all := lw_g (lw_at lw_ms 96 rfl) rfl
theorem qs97 : (Cond.selects "DateValeModel" ⟨"DateValeModel", "doesHold", "(III)Z"⟩ ⟨"DateValeModel", "doesHold", "(III)Z"⟩) ∈ lw_all := lw_g (lw_at lw_ms 97 rfl) rfl
theorem qs98 : (Cond.selects "DateValeModel" ⟨"DateValeModel", "worthAt", "(I)I"⟩ ⟨"DateValeModel", "worthAt", "(I)I"⟩) ∈ lw_all := lw_g (lw_at lw_ms 98 rfl) rfl
theorem qs99 : (Cond.selects "DateValeModel" ⟨"DateValeModel", "mayMove", "(III)Z"⟩ ⟨"DateValeModel", "mayMove", "(III)Z"⟩) ∈ lw_all := lw_g (lw_at lw_ms 99 rfl) rfl
theorem qs100 : (Cond.selects "DateValeModel" ⟨"DateValeModel", "triesNow", "()V"⟩ ⟨"DateValeModel", "triesNow", "()V"⟩) ∈ lw_all := lw_g (lw_at lw_ms 100 rfl) rfl
theorem qs101 : (Cond.selects "DateValeModel" ⟨"DateValeModel", "somewhere", "(I)I"⟩ ⟨"DateValeModel", "somewhere", "(I)I"⟩) ∈ lw_all := lw_g (lw_at lw_ms 101 rfl) rfl
theorem qs102 : (Cond.selects "DateValeModel" ⟨"DateValeModel", "builtIn", "(II)I"⟩ ⟨"DateValeModel", "builtIn", "(II)I"⟩) ∈ lw_all := lw_g (lw_at lw_ms 102 rfl) rfl
theorem qs103 : (Cond.selects "DateValeModel" ⟨"DateValeModel", "isCalm", "(I)Z"⟩ ⟨"DateValeModel", "isCalm", "(I)Z"⟩) ∈ lw_all := lw_g (lw_at lw_ms 103 rfl) rfl
theorem qs104 : (Cond.selects "DateValeModel" ⟨"DateValeModel", "laysFrom", "(I)I"⟩ ⟨"DateValeModel", "laysFrom", "(I)I"⟩) ∈ lw_all := lw_g (lw_at lw_ms 104 rfl) rfl
theorem qs105 : (Cond.selects "DateValeModel" ⟨"DateValeModel", "isApart", "(II)Z"⟩ ⟨"DateValeModel", "isApart", "(II)Z"⟩) ∈ lw_all := lw_g (lw_at lw_ms 105 rfl) rfl
theorem qs106 : (Cond.selects "DateValeModel" ⟨"DateValeModel", "whoNow", "()I"⟩ ⟨"DateValeModel", "whoNow", "()I"⟩) ∈ lw_all := lw_g (lw_at lw_ms 106 rfl) rfl
theorem qs107 : (Cond.selects "DateValeModel" ⟨"DateValeModel", "drawsDeed", "()V"⟩ ⟨"DateValeModel", "drawsDeed", "()V"⟩) ∈ lw_all := lw_g (lw_at lw_ms 107 rfl) rfl
theorem qs108 : (Cond.selects "DateValeModel" ⟨"DateValeModel", "draw", "(I)I"⟩ ⟨"DateValeModel", "draw", "(I)I"⟩) ∈ lw_all := lw_g (lw_at lw_ms 108 rfl) rfl
theorem qs109 : (Cond.selects "DateValeModel" ⟨"DateValeModel", "bedsOfAll", "()I"⟩ ⟨"DateValeModel", "bedsOfAll", "()I"⟩) ∈ lw_all := lw_g (lw_at lw_ms 109 rfl) rfl
theorem qs110 : (Cond.selects "DateValeModel" ⟨"DateValeModel", "fadedNow", "()I"⟩ ⟨"DateValeModel", "fadedNow", "()I"⟩) ∈ lw_all := lw_g (lw_at lw_ms 110 rfl) rfl
-- ===== end of PART A; then your names; then what follows =====
