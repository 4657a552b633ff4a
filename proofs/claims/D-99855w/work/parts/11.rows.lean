/-! ROWS of the judgement zZ: printed by mkrows.py -/
set_option maxRecDepth 100000
section ZR
variable {g : zG} {M : zMth} {P : zPo} {k n : Nat} {X : zX} {pc : Nat} {lv : List (Nat × Value)} {st : List Value}
theorem z_iconst {i : Int} {v : Int32} (hd : decode M.2.1 pc = .ok (.iconst i, 1)) (hv : Int32.ofInt i = v) (kk : zZ g M P k n X (pc + 1) lv (.int v :: st)) : zZ g M P k n X pc lv (st) := by
  intro p e s m args below meth c H locs ls C I S L
  exact lv_iconst C.1 C.2.1 hd hv (kk p e s m args below meth c H locs ls C I S L)
theorem z_bipush {i : Int} {v : Int32} (hd : decode M.2.1 pc = .ok (.bipush i, 2)) (hv : (Int8.ofInt i).toInt32 = v) (kk : zZ g M P k n X (pc + 2) lv (.int v :: st)) : zZ g M P k n X pc lv (st) := by
  intro p e s m args below meth c H locs ls C I S L
  exact lv_bipush C.1 C.2.1 hd hv (kk p e s m args below meth c H locs ls C I S L)
theorem z_sipush {i : Int} {v : Int32} (hd : decode M.2.1 pc = .ok (.sipush i, 3)) (hv : (Int16.ofInt i).toInt32 = v) (kk : zZ g M P k n X (pc + 3) lv (.int v :: st)) : zZ g M P k n X pc lv (st) := by
  intro p e s m args below meth c H locs ls C I S L
  exact lv_sipush C.1 C.2.1 hd hv (kk p e s m args below meth c H locs ls C I S L)
theorem z_lconst {i : Fin 2} {v : Int64} (hd : decode M.2.1 pc = .ok (.lconst i, 1)) (hv : Int64.ofNat (i : Nat) = v) (kk : zZ g M P k n X (pc + 1) lv (.long v :: st)) : zZ g M P k n X pc lv (st) := by
  intro p e s m args below meth c H locs ls C I S L
  exact lv_lconst C.1 C.2.1 hd hv (kk p e s m args below meth c H locs ls C I S L)
theorem z_iload_n {i : Fin 4} {x : Int32} (q : Nat) (hd : decode M.2.1 pc = .ok (.iload_n i, 1)) (hl : lv[q]? = some ((i : Nat), .int x)) (kk : zZ g M P k n X (pc + 1) lv (.int x :: st)) : zZ g M P k n X pc lv (st) := by
  intro p e s m args below meth c H locs ls C I S L
  exact lv_iload_n C.1 C.2.1 hd rfl (lv_at L q hl) (kk p e s m args below meth c H locs ls C I S L)
theorem z_iload {i : Nat} {x : Int32} (q : Nat) (hd : decode M.2.1 pc = .ok (.iload i, 2)) (hl : lv[q]? = some (i, .int x)) (kk : zZ g M P k n X (pc + 2) lv (.int x :: st)) : zZ g M P k n X pc lv (st) := by
  intro p e s m args below meth c H locs ls C I S L
  exact lv_iload C.1 C.2.1 hd (lv_at L q hl) (kk p e s m args below meth c H locs ls C I S L)
theorem z_lload_n {i : Fin 4} {x : Int64} (q : Nat) (hd : decode M.2.1 pc = .ok (.lload_n i, 1)) (hl : lv[q]? = some ((i : Nat), .long x)) (kk : zZ g M P k n X (pc + 1) lv (.long x :: st)) : zZ g M P k n X pc lv (st) := by
  intro p e s m args below meth c H locs ls C I S L
  exact lv_lload_n C.1 C.2.1 hd rfl (lv_at L q hl) (kk p e s m args below meth c H locs ls C I S L)
theorem z_lload {i : Nat} {x : Int64} (q : Nat) (hd : decode M.2.1 pc = .ok (.lload i, 2)) (hl : lv[q]? = some (i, .long x)) (kk : zZ g M P k n X (pc + 2) lv (.long x :: st)) : zZ g M P k n X pc lv (st) := by
  intro p e s m args below meth c H locs ls C I S L
  exact lv_lload C.1 C.2.1 hd (lv_at L q hl) (kk p e s m args below meth c H locs ls C I S L)
theorem z_aload_n {i : Fin 4} {x : Nat} (q : Nat) (hd : decode M.2.1 pc = .ok (.aload_n i, 1)) (hl : lv[q]? = some ((i : Nat), .ref x)) (kk : zZ g M P k n X (pc + 1) lv (.ref x :: st)) : zZ g M P k n X pc lv (st) := by
  intro p e s m args below meth c H locs ls C I S L
  exact lv_aload_n C.1 C.2.1 hd rfl (lv_at L q hl) (kk p e s m args below meth c H locs ls C I S L)
theorem z_aload {i : Nat} {x : Nat} (q : Nat) (hd : decode M.2.1 pc = .ok (.aload i, 2)) (hl : lv[q]? = some (i, .ref x)) (kk : zZ g M P k n X (pc + 2) lv (.ref x :: st)) : zZ g M P k n X pc lv (st) := by
  intro p e s m args below meth c H locs ls C I S L
  exact lv_aload C.1 C.2.1 hd (lv_at L q hl) (kk p e s m args below meth c H locs ls C I S L)
theorem z_aload_nN {i : Fin 4} (q : Nat) (hd : decode M.2.1 pc = .ok (.aload_n i, 1)) (hl : lv[q]? = some ((i : Nat), .null)) (kk : zZ g M P k n X (pc + 1) lv (.null :: st)) : zZ g M P k n X pc lv (st) := by
  intro p e s m args below meth c H locs ls C I S L
  exact lv_aload_nN C.1 C.2.1 hd rfl (lv_at L q hl) (kk p e s m args below meth c H locs ls C I S L)
theorem z_aloadN {i : Nat} (q : Nat) (hd : decode M.2.1 pc = .ok (.aload i, 2)) (hl : lv[q]? = some (i, .null)) (kk : zZ g M P k n X (pc + 2) lv (.null :: st)) : zZ g M P k n X pc lv (st) := by
  intro p e s m args below meth c H locs ls C I S L
  exact lv_aloadN C.1 C.2.1 hd (lv_at L q hl) (kk p e s m args below meth c H locs ls C I S L)
theorem z_istore_n {j : Fin 4} {i : Nat} {x : Int32} {lv' : List (Nat × Value)} (hd : decode M.2.1 pc = .ok (.istore_n j, 1)) (hi : (j : Nat) = i) (hn : i < M.2.2.1) (hl : (i, Value.int x) :: lv.filter (fun q => !(q.1 == i) && !(q.1 + 1 == i && q.2.category == 2)) = lv') (kk : zZ g M P k n X (pc + 1) lv' st) : zZ g M P k n X pc lv (.int x :: st) := by
  intro p e s m args below meth c H locs ls C I S L
  exact lv_istore_n C.1 C.2.1 hd hi L hn hl (fun ls' L' => kk p e s m args below meth c H locs ls' C I S L')
theorem z_istore {i : Nat} {x : Int32} {lv' : List (Nat × Value)} (hd : decode M.2.1 pc = .ok (.istore i, 2)) (hn : i < M.2.2.1) (hl : (i, Value.int x) :: lv.filter (fun q => !(q.1 == i) && !(q.1 + 1 == i && q.2.category == 2)) = lv') (kk : zZ g M P k n X (pc + 2) lv' st) : zZ g M P k n X pc lv (.int x :: st) := by
  intro p e s m args below meth c H locs ls C I S L
  exact lv_istore C.1 C.2.1 hd L hn hl (fun ls' L' => kk p e s m args below meth c H locs ls' C I S L')
theorem z_lstore_n {j : Fin 4} {i : Nat} {x : Int64} {lv' : List (Nat × Value)} (hd : decode M.2.1 pc = .ok (.lstore_n j, 1)) (hi : (j : Nat) = i) (hn : i + 1 < M.2.2.1) (hl : (i, Value.long x) :: lv.filter (fun q => !(q.1 == i) && (!(q.1 == i + 1) && !(q.1 + 1 == i && q.2.category == 2))) = lv') (kk : zZ g M P k n X (pc + 1) lv' st) : zZ g M P k n X pc lv (.long x :: st) := by
  intro p e s m args below meth c H locs ls C I S L
  exact lv_lstore_n C.1 C.2.1 hd hi L hn hl (fun ls' L' => kk p e s m args below meth c H locs ls' C I S L')
theorem z_lstore {i : Nat} {x : Int64} {lv' : List (Nat × Value)} (hd : decode M.2.1 pc = .ok (.lstore i, 2)) (hn : i + 1 < M.2.2.1) (hl : (i, Value.long x) :: lv.filter (fun q => !(q.1 == i) && (!(q.1 == i + 1) && !(q.1 + 1 == i && q.2.category == 2))) = lv') (kk : zZ g M P k n X (pc + 2) lv' st) : zZ g M P k n X pc lv (.long x :: st) := by
  intro p e s m args below meth c H locs ls C I S L
  exact lv_lstore C.1 C.2.1 hd L hn hl (fun ls' L' => kk p e s m args below meth c H locs ls' C I S L')
theorem z_astore_n {j : Fin 4} {i : Nat} {x : Nat} {lv' : List (Nat × Value)} (hd : decode M.2.1 pc = .ok (.astore_n j, 1)) (hi : (j : Nat) = i) (hn : i < M.2.2.1) (hl : (i, Value.ref x) :: lv.filter (fun q => !(q.1 == i) && !(q.1 + 1 == i && q.2.category == 2)) = lv') (kk : zZ g M P k n X (pc + 1) lv' st) : zZ g M P k n X pc lv (.ref x :: st) := by
  intro p e s m args below meth c H locs ls C I S L
  exact lv_astore_n C.1 C.2.1 hd hi L hn hl (fun ls' L' => kk p e s m args below meth c H locs ls' C I S L')
theorem z_astore {i : Nat} {x : Nat} {lv' : List (Nat × Value)} (hd : decode M.2.1 pc = .ok (.astore i, 2)) (hn : i < M.2.2.1) (hl : (i, Value.ref x) :: lv.filter (fun q => !(q.1 == i) && !(q.1 + 1 == i && q.2.category == 2)) = lv') (kk : zZ g M P k n X (pc + 2) lv' st) : zZ g M P k n X pc lv (.ref x :: st) := by
  intro p e s m args below meth c H locs ls C I S L
  exact lv_astore C.1 C.2.1 hd L hn hl (fun ls' L' => kk p e s m args below meth c H locs ls' C I S L')
theorem z_astore_nN {j : Fin 4} {i : Nat}  {lv' : List (Nat × Value)} (hd : decode M.2.1 pc = .ok (.astore_n j, 1)) (hi : (j : Nat) = i) (hn : i < M.2.2.1) (hl : (i, Value.null) :: lv.filter (fun q => !(q.1 == i) && !(q.1 + 1 == i && q.2.category == 2)) = lv') (kk : zZ g M P k n X (pc + 1) lv' st) : zZ g M P k n X pc lv (.null :: st) := by
  intro p e s m args below meth c H locs ls C I S L
  exact lv_astore_nN C.1 C.2.1 hd hi L hn hl (fun ls' L' => kk p e s m args below meth c H locs ls' C I S L')
theorem z_astoreN {i : Nat}  {lv' : List (Nat × Value)} (hd : decode M.2.1 pc = .ok (.astore i, 2)) (hn : i < M.2.2.1) (hl : (i, Value.null) :: lv.filter (fun q => !(q.1 == i) && !(q.1 + 1 == i && q.2.category == 2)) = lv') (kk : zZ g M P k n X (pc + 2) lv' st) : zZ g M P k n X pc lv (.null :: st) := by
  intro p e s m args below meth c H locs ls C I S L
  exact lv_astoreN C.1 C.2.1 hd L hn hl (fun ls' L' => kk p e s m args below meth c H locs ls' C I S L')
theorem z_iinc {i : Nat} {d : Int} {x v : Int32} {lv' : List (Nat × Value)} (q : Nat) (hd : decode M.2.1 pc = .ok (.iinc i d, 3)) (hq : lv[q]? = some (i, .int x)) (hv : x + Int32.ofInt d = v) (hn : i < M.2.2.1) (hl : (i, Value.int v) :: lv.filter (fun q => !(q.1 == i) && !(q.1 + 1 == i && q.2.category == 2)) = lv') (kk : zZ g M P k n X (pc + 3) lv' st) : zZ g M P k n X pc lv st := by
  intro p e s m args below meth c H locs ls C I S L
  exact lv_iinc C.1 C.2.1 hd L hq hv hn hl (fun ls' L' => kk p e s m args below meth c H locs ls' C I S L')
theorem z_iadd {x y : Int32} (hd : decode M.2.1 pc = .ok (.iadd, 1))  (kk : zZ g M P k n X (pc + 1) lv (.int (x + y) :: st)) : zZ g M P k n X pc lv (.int y :: .int x :: st) := by
  intro p e s m args below meth c H locs ls C I S L
  exact lv_iadd C.1 C.2.1 hd  (kk p e s m args below meth c H locs ls C I S L)
theorem z_isub {x y : Int32} (hd : decode M.2.1 pc = .ok (.isub, 1))  (kk : zZ g M P k n X (pc + 1) lv (.int (x - y) :: st)) : zZ g M P k n X pc lv (.int y :: .int x :: st) := by
  intro p e s m args below meth c H locs ls C I S L
  exact lv_isub C.1 C.2.1 hd  (kk p e s m args below meth c H locs ls C I S L)
theorem z_imul {x y : Int32} (hd : decode M.2.1 pc = .ok (.imul, 1))  (kk : zZ g M P k n X (pc + 1) lv (.int (x * y) :: st)) : zZ g M P k n X pc lv (.int y :: .int x :: st) := by
  intro p e s m args below meth c H locs ls C I S L
  exact lv_imul C.1 C.2.1 hd  (kk p e s m args below meth c H locs ls C I S L)
theorem z_iand {x y : Int32} (hd : decode M.2.1 pc = .ok (.iand, 1))  (kk : zZ g M P k n X (pc + 1) lv (.int (x &&& y) :: st)) : zZ g M P k n X pc lv (.int y :: .int x :: st) := by
  intro p e s m args below meth c H locs ls C I S L
  exact lv_iand C.1 C.2.1 hd  (kk p e s m args below meth c H locs ls C I S L)
theorem z_ior {x y : Int32} (hd : decode M.2.1 pc = .ok (.ior, 1))  (kk : zZ g M P k n X (pc + 1) lv (.int (x ||| y) :: st)) : zZ g M P k n X pc lv (.int y :: .int x :: st) := by
  intro p e s m args below meth c H locs ls C I S L
  exact lv_ior C.1 C.2.1 hd  (kk p e s m args below meth c H locs ls C I S L)
theorem z_ixor {x y : Int32} (hd : decode M.2.1 pc = .ok (.ixor, 1))  (kk : zZ g M P k n X (pc + 1) lv (.int (x ^^^ y) :: st)) : zZ g M P k n X pc lv (.int y :: .int x :: st) := by
  intro p e s m args below meth c H locs ls C I S L
  exact lv_ixor C.1 C.2.1 hd  (kk p e s m args below meth c H locs ls C I S L)
theorem z_ishl {x y : Int32} (hd : decode M.2.1 pc = .ok (.ishl, 1))  (kk : zZ g M P k n X (pc + 1) lv (.int (x <<< (y &&& 31)) :: st)) : zZ g M P k n X pc lv (.int y :: .int x :: st) := by
  intro p e s m args below meth c H locs ls C I S L
  exact lv_ishl C.1 C.2.1 hd  (kk p e s m args below meth c H locs ls C I S L)
theorem z_ishr {x y : Int32} (hd : decode M.2.1 pc = .ok (.ishr, 1))  (kk : zZ g M P k n X (pc + 1) lv (.int (x >>> (y &&& 31)) :: st)) : zZ g M P k n X pc lv (.int y :: .int x :: st) := by
  intro p e s m args below meth c H locs ls C I S L
  exact lv_ishr C.1 C.2.1 hd  (kk p e s m args below meth c H locs ls C I S L)
theorem z_iushr {x y v : Int32} (hd : decode M.2.1 pc = .ok (.iushr, 1)) (hv : (x.toUInt32 >>> (y.toUInt32 &&& Int32.toUInt32 31)).toInt32 = v) (kk : zZ g M P k n X (pc + 1) lv (.int v :: st)) : zZ g M P k n X pc lv (.int y :: .int x :: st) := by
  intro p e s m args below meth c H locs ls C I S L
  exact lv_iushr C.1 C.2.1 hd hv (kk p e s m args below meth c H locs ls C I S L)
theorem z_idiv {x y : Int32} (hd : decode M.2.1 pc = .ok (.idiv, 1)) (h0 : ¬ y = 0) (kk : zZ g M P k n X (pc + 1) lv (.int (x / y) :: st)) : zZ g M P k n X pc lv (.int y :: .int x :: st) := by
  intro p e s m args below meth c H locs ls C I S L
  exact lv_idiv C.1 C.2.1 hd h0 (kk p e s m args below meth c H locs ls C I S L)
theorem z_irem {x y : Int32} (hd : decode M.2.1 pc = .ok (.irem, 1)) (h0 : ¬ y = 0) (kk : zZ g M P k n X (pc + 1) lv (.int (x - x / y * y) :: st)) : zZ g M P k n X pc lv (.int y :: .int x :: st) := by
  intro p e s m args below meth c H locs ls C I S L
  exact lv_irem C.1 C.2.1 hd h0 (kk p e s m args below meth c H locs ls C I S L)
theorem z_ineg {x : Int32} (hd : decode M.2.1 pc = .ok (.ineg, 1))  (kk : zZ g M P k n X (pc + 1) lv (.int (-x) :: st)) : zZ g M P k n X pc lv (.int x :: st) := by
  intro p e s m args below meth c H locs ls C I S L
  exact lv_ineg C.1 C.2.1 hd  (kk p e s m args below meth c H locs ls C I S L)
theorem z_ladd {x y : Int64} (hd : decode M.2.1 pc = .ok (.ladd, 1))  (kk : zZ g M P k n X (pc + 1) lv (.long (x + y) :: st)) : zZ g M P k n X pc lv (.long y :: .long x :: st) := by
  intro p e s m args below meth c H locs ls C I S L
  exact lv_ladd C.1 C.2.1 hd  (kk p e s m args below meth c H locs ls C I S L)
theorem z_lsub {x y : Int64} (hd : decode M.2.1 pc = .ok (.lsub, 1))  (kk : zZ g M P k n X (pc + 1) lv (.long (x - y) :: st)) : zZ g M P k n X pc lv (.long y :: .long x :: st) := by
  intro p e s m args below meth c H locs ls C I S L
  exact lv_lsub C.1 C.2.1 hd  (kk p e s m args below meth c H locs ls C I S L)
theorem z_lmul {x y : Int64} (hd : decode M.2.1 pc = .ok (.lmul, 1))  (kk : zZ g M P k n X (pc + 1) lv (.long (x * y) :: st)) : zZ g M P k n X pc lv (.long y :: .long x :: st) := by
  intro p e s m args below meth c H locs ls C I S L
  exact lv_lmul C.1 C.2.1 hd  (kk p e s m args below meth c H locs ls C I S L)
theorem z_land {x y : Int64} (hd : decode M.2.1 pc = .ok (.land, 1))  (kk : zZ g M P k n X (pc + 1) lv (.long (x &&& y) :: st)) : zZ g M P k n X pc lv (.long y :: .long x :: st) := by
  intro p e s m args below meth c H locs ls C I S L
  exact lv_land C.1 C.2.1 hd  (kk p e s m args below meth c H locs ls C I S L)
theorem z_lor {x y : Int64} (hd : decode M.2.1 pc = .ok (.lor, 1))  (kk : zZ g M P k n X (pc + 1) lv (.long (x ||| y) :: st)) : zZ g M P k n X pc lv (.long y :: .long x :: st) := by
  intro p e s m args below meth c H locs ls C I S L
  exact lv_lor C.1 C.2.1 hd  (kk p e s m args below meth c H locs ls C I S L)
theorem z_ldiv {x y : Int64} (hd : decode M.2.1 pc = .ok (.ldiv, 1)) (h0 : ¬ y = 0) (kk : zZ g M P k n X (pc + 1) lv (.long (x / y) :: st)) : zZ g M P k n X pc lv (.long y :: .long x :: st) := by
  intro p e s m args below meth c H locs ls C I S L
  exact lv_ldiv C.1 C.2.1 hd h0 (kk p e s m args below meth c H locs ls C I S L)
theorem z_lrem {x y : Int64} (hd : decode M.2.1 pc = .ok (.lrem, 1)) (h0 : ¬ y = 0) (kk : zZ g M P k n X (pc + 1) lv (.long (x - x / y * y) :: st)) : zZ g M P k n X pc lv (.long y :: .long x :: st) := by
  intro p e s m args below meth c H locs ls C I S L
  exact lv_lrem C.1 C.2.1 hd h0 (kk p e s m args below meth c H locs ls C I S L)
theorem z_lshl {x v : Int64} {y : Int32} (hd : decode M.2.1 pc = .ok (.lshl, 1)) (hv : x <<< (y.toInt64 &&& 63) = v) (kk : zZ g M P k n X (pc + 1) lv (.long v :: st)) : zZ g M P k n X pc lv (.int y :: .long x :: st) := by
  intro p e s m args below meth c H locs ls C I S L
  exact lv_lshl C.1 C.2.1 hd hv (kk p e s m args below meth c H locs ls C I S L)
theorem z_lshr {x v : Int64} {y : Int32} (hd : decode M.2.1 pc = .ok (.lshr, 1)) (hv : x >>> (y.toInt64 &&& 63) = v) (kk : zZ g M P k n X (pc + 1) lv (.long v :: st)) : zZ g M P k n X pc lv (.int y :: .long x :: st) := by
  intro p e s m args below meth c H locs ls C I S L
  exact lv_lshr C.1 C.2.1 hd hv (kk p e s m args below meth c H locs ls C I S L)
theorem z_lcmp {x y : Int64} (hd : decode M.2.1 pc = .ok (.lcmp, 1))  (kk : zZ g M P k n X (pc + 1) lv (.int (lg_cmp x y) :: st)) : zZ g M P k n X pc lv (.long y :: .long x :: st) := by
  intro p e s m args below meth c H locs ls C I S L
  exact W.lcmp C.1 C.2.1 hd  (kk p e s m args below meth c H locs ls C I S L)
theorem z_i2l {x : Int32} {v : Int64} (hd : decode M.2.1 pc = .ok (.i2l, 1)) (hv : x.toInt64 = v) (kk : zZ g M P k n X (pc + 1) lv (.long v :: st)) : zZ g M P k n X pc lv (.int x :: st) := by
  intro p e s m args below meth c H locs ls C I S L
  exact lv_i2l C.1 C.2.1 hd hv (kk p e s m args below meth c H locs ls C I S L)
theorem z_l2i {x : Int64} {v : Int32} (hd : decode M.2.1 pc = .ok (.l2i, 1)) (hv : x.toInt32 = v) (kk : zZ g M P k n X (pc + 1) lv (.int v :: st)) : zZ g M P k n X pc lv (.long x :: st) := by
  intro p e s m args below meth c H locs ls C I S L
  exact lv_l2i C.1 C.2.1 hd hv (kk p e s m args below meth c H locs ls C I S L)
theorem z_i2b {x : Int32} {v : Int32} (hd : decode M.2.1 pc = .ok (.i2b, 1)) (hv : x.toInt8.toInt32 = v) (kk : zZ g M P k n X (pc + 1) lv (.int v :: st)) : zZ g M P k n X pc lv (.int x :: st) := by
  intro p e s m args below meth c H locs ls C I S L
  exact lv_i2b C.1 C.2.1 hd hv (kk p e s m args below meth c H locs ls C I S L)
theorem z_i2c {x : Int32} {v : Int32} (hd : decode M.2.1 pc = .ok (.i2c, 1)) (hv : (x.toUInt32 % 65536).toInt32 = v) (kk : zZ g M P k n X (pc + 1) lv (.int v :: st)) : zZ g M P k n X pc lv (.int x :: st) := by
  intro p e s m args below meth c H locs ls C I S L
  exact lv_i2c C.1 C.2.1 hd hv (kk p e s m args below meth c H locs ls C I S L)
theorem z_dup {va : Value} (hd : decode M.2.1 pc = .ok (.dup, 1)) (ha : va.category = 1) (kk : zZ g M P k n X (pc + 1) lv (va :: va :: st)) : zZ g M P k n X pc lv (va :: st) := by
  intro p e s m args below meth c H locs ls C I S L
  exact lv_dup C.1 C.2.1 hd ha (kk p e s m args below meth c H locs ls C I S L)
theorem z_pop {va : Value} (hd : decode M.2.1 pc = .ok (.pop, 1)) (ha : va.category = 1) (kk : zZ g M P k n X (pc + 1) lv (st)) : zZ g M P k n X pc lv (va :: st) := by
  intro p e s m args below meth c H locs ls C I S L
  exact lv_pop C.1 C.2.1 hd ha (kk p e s m args below meth c H locs ls C I S L)
theorem z_dup_x1 {va vb : Value} (hd : decode M.2.1 pc = .ok (.dup_x1, 1)) (ha : va.category = 1) (hb : vb.category = 1) (kk : zZ g M P k n X (pc + 1) lv (va :: vb :: va :: st)) : zZ g M P k n X pc lv (va :: vb :: st) := by
  intro p e s m args below meth c H locs ls C I S L
  exact lv_dup_x1 C.1 C.2.1 hd ha hb (kk p e s m args below meth c H locs ls C I S L)
theorem z_dup_x2 {va vb vd : Value} (hd : decode M.2.1 pc = .ok (.dup_x2, 1)) (ha : va.category = 1) (hb : vb.category = 1) (hc : vd.category = 1) (kk : zZ g M P k n X (pc + 1) lv (va :: vb :: vd :: va :: st)) : zZ g M P k n X pc lv (va :: vb :: vd :: st) := by
  intro p e s m args below meth c H locs ls C I S L
  exact lv_dup_x2 C.1 C.2.1 hd ha hb hc (kk p e s m args below meth c H locs ls C I S L)
theorem z_dup2_11 {va vb : Value} (hd : decode M.2.1 pc = .ok (.dup2, 1)) (ha : va.category = 1) (hb : vb.category = 1) (kk : zZ g M P k n X (pc + 1) lv (va :: vb :: va :: vb :: st)) : zZ g M P k n X pc lv (va :: vb :: st) := by
  intro p e s m args below meth c H locs ls C I S L
  exact lv_dup2_11 C.1 C.2.1 hd ha hb (kk p e s m args below meth c H locs ls C I S L)
theorem z_null  (hd : decode M.2.1 pc = .ok (.aconst_null, 1))  (kk : zZ g M P k n X (pc + 1) lv (.null :: st)) : zZ g M P k n X pc lv (st) := by
  intro p e s m args below meth c H locs ls C I S L
  exact lv_null C.1 C.2.1 hd  (kk p e s m args below meth c H locs ls C I S L)
theorem z_if_eq {x : Int32} {off : Int} (tgt : Nat) (hd : decode M.2.1 pc = .ok (.ifCond .eq off, 3)) (ht : (pc : Int) + off = (tgt : Int)) (kt : x = 0 → zZ g M P k n X tgt lv st) (kf : ¬ x = 0 → zZ g M P k n X (pc + 3) lv st) : zZ g M P k n X pc lv (.int x :: st) := by
  intro p e s m args below meth c H locs ls C I S L
  exact lv_if_eq C.1 C.2.1 hd ht (fun h => kt h p e s m args below meth c H locs ls C I S L) (fun h => kf h p e s m args below meth c H locs ls C I S L)
theorem z_if_ne {x : Int32} {off : Int} (tgt : Nat) (hd : decode M.2.1 pc = .ok (.ifCond .ne off, 3)) (ht : (pc : Int) + off = (tgt : Int)) (kt : ¬ x = 0 → zZ g M P k n X tgt lv st) (kf : x = 0 → zZ g M P k n X (pc + 3) lv st) : zZ g M P k n X pc lv (.int x :: st) := by
  intro p e s m args below meth c H locs ls C I S L
  exact lv_if_ne C.1 C.2.1 hd ht (fun h => kt h p e s m args below meth c H locs ls C I S L) (fun h => kf h p e s m args below meth c H locs ls C I S L)
theorem z_if_lt {x : Int32} {off : Int} (tgt : Nat) (hd : decode M.2.1 pc = .ok (.ifCond .lt off, 3)) (ht : (pc : Int) + off = (tgt : Int)) (kt : x < 0 → zZ g M P k n X tgt lv st) (kf : ¬ x < 0 → zZ g M P k n X (pc + 3) lv st) : zZ g M P k n X pc lv (.int x :: st) := by
  intro p e s m args below meth c H locs ls C I S L
  exact lv_if_lt C.1 C.2.1 hd ht (fun h => kt h p e s m args below meth c H locs ls C I S L) (fun h => kf h p e s m args below meth c H locs ls C I S L)
theorem z_if_ge {x : Int32} {off : Int} (tgt : Nat) (hd : decode M.2.1 pc = .ok (.ifCond .ge off, 3)) (ht : (pc : Int) + off = (tgt : Int)) (kt : 0 ≤ x → zZ g M P k n X tgt lv st) (kf : ¬ 0 ≤ x → zZ g M P k n X (pc + 3) lv st) : zZ g M P k n X pc lv (.int x :: st) := by
  intro p e s m args below meth c H locs ls C I S L
  exact lv_if_ge C.1 C.2.1 hd ht (fun h => kt h p e s m args below meth c H locs ls C I S L) (fun h => kf h p e s m args below meth c H locs ls C I S L)
theorem z_if_gt {x : Int32} {off : Int} (tgt : Nat) (hd : decode M.2.1 pc = .ok (.ifCond .gt off, 3)) (ht : (pc : Int) + off = (tgt : Int)) (kt : 0 < x → zZ g M P k n X tgt lv st) (kf : ¬ 0 < x → zZ g M P k n X (pc + 3) lv st) : zZ g M P k n X pc lv (.int x :: st) := by
  intro p e s m args below meth c H locs ls C I S L
  exact lv_if_gt C.1 C.2.1 hd ht (fun h => kt h p e s m args below meth c H locs ls C I S L) (fun h => kf h p e s m args below meth c H locs ls C I S L)
theorem z_if_le {x : Int32} {off : Int} (tgt : Nat) (hd : decode M.2.1 pc = .ok (.ifCond .le off, 3)) (ht : (pc : Int) + off = (tgt : Int)) (kt : x ≤ 0 → zZ g M P k n X tgt lv st) (kf : ¬ x ≤ 0 → zZ g M P k n X (pc + 3) lv st) : zZ g M P k n X pc lv (.int x :: st) := by
  intro p e s m args below meth c H locs ls C I S L
  exact lv_if_le C.1 C.2.1 hd ht (fun h => kt h p e s m args below meth c H locs ls C I S L) (fun h => kf h p e s m args below meth c H locs ls C I S L)
theorem z_icmp_eq {x y : Int32} {off : Int} (tgt : Nat) (hd : decode M.2.1 pc = .ok (.if_icmp .eq off, 3)) (ht : (pc : Int) + off = (tgt : Int)) (kt : x = y → zZ g M P k n X tgt lv st) (kf : ¬ x = y → zZ g M P k n X (pc + 3) lv st) : zZ g M P k n X pc lv (.int y :: .int x :: st) := by
  intro p e s m args below meth c H locs ls C I S L
  exact lv_icmp_eq C.1 C.2.1 hd ht (fun h => kt h p e s m args below meth c H locs ls C I S L) (fun h => kf h p e s m args below meth c H locs ls C I S L)
theorem z_icmp_ne {x y : Int32} {off : Int} (tgt : Nat) (hd : decode M.2.1 pc = .ok (.if_icmp .ne off, 3)) (ht : (pc : Int) + off = (tgt : Int)) (kt : ¬ x = y → zZ g M P k n X tgt lv st) (kf : x = y → zZ g M P k n X (pc + 3) lv st) : zZ g M P k n X pc lv (.int y :: .int x :: st) := by
  intro p e s m args below meth c H locs ls C I S L
  exact lv_icmp_ne C.1 C.2.1 hd ht (fun h => kt h p e s m args below meth c H locs ls C I S L) (fun h => kf h p e s m args below meth c H locs ls C I S L)
theorem z_icmp_lt {x y : Int32} {off : Int} (tgt : Nat) (hd : decode M.2.1 pc = .ok (.if_icmp .lt off, 3)) (ht : (pc : Int) + off = (tgt : Int)) (kt : x < y → zZ g M P k n X tgt lv st) (kf : ¬ x < y → zZ g M P k n X (pc + 3) lv st) : zZ g M P k n X pc lv (.int y :: .int x :: st) := by
  intro p e s m args below meth c H locs ls C I S L
  exact lv_icmp_lt C.1 C.2.1 hd ht (fun h => kt h p e s m args below meth c H locs ls C I S L) (fun h => kf h p e s m args below meth c H locs ls C I S L)
theorem z_icmp_ge {x y : Int32} {off : Int} (tgt : Nat) (hd : decode M.2.1 pc = .ok (.if_icmp .ge off, 3)) (ht : (pc : Int) + off = (tgt : Int)) (kt : y ≤ x → zZ g M P k n X tgt lv st) (kf : ¬ y ≤ x → zZ g M P k n X (pc + 3) lv st) : zZ g M P k n X pc lv (.int y :: .int x :: st) := by
  intro p e s m args below meth c H locs ls C I S L
  exact lv_icmp_ge C.1 C.2.1 hd ht (fun h => kt h p e s m args below meth c H locs ls C I S L) (fun h => kf h p e s m args below meth c H locs ls C I S L)
theorem z_icmp_gt {x y : Int32} {off : Int} (tgt : Nat) (hd : decode M.2.1 pc = .ok (.if_icmp .gt off, 3)) (ht : (pc : Int) + off = (tgt : Int)) (kt : y < x → zZ g M P k n X tgt lv st) (kf : ¬ y < x → zZ g M P k n X (pc + 3) lv st) : zZ g M P k n X pc lv (.int y :: .int x :: st) := by
  intro p e s m args below meth c H locs ls C I S L
  exact lv_icmp_gt C.1 C.2.1 hd ht (fun h => kt h p e s m args below meth c H locs ls C I S L) (fun h => kf h p e s m args below meth c H locs ls C I S L)
theorem z_icmp_le {x y : Int32} {off : Int} (tgt : Nat) (hd : decode M.2.1 pc = .ok (.if_icmp .le off, 3)) (ht : (pc : Int) + off = (tgt : Int)) (kt : x ≤ y → zZ g M P k n X tgt lv st) (kf : ¬ x ≤ y → zZ g M P k n X (pc + 3) lv st) : zZ g M P k n X pc lv (.int y :: .int x :: st) := by
  intro p e s m args below meth c H locs ls C I S L
  exact lv_icmp_le C.1 C.2.1 hd ht (fun h => kt h p e s m args below meth c H locs ls C I S L) (fun h => kf h p e s m args below meth c H locs ls C I S L)
theorem z_acmp_eq {rx ry : Option Nat} {off : Int} (tgt : Nat) (hd : decode M.2.1 pc = .ok (.if_acmp .eq off, 3)) (ht : (pc : Int) + off = (tgt : Int)) (kt : rx = ry → zZ g M P k n X tgt lv st) (kf : ¬ rx = ry → zZ g M P k n X (pc + 3) lv st) : zZ g M P k n X pc lv (va_rf ry :: va_rf rx :: st) := by
  intro p e s m args below meth c H locs ls C I S L
  exact lv_acmp_eq C.1 C.2.1 hd ht (fun h => kt h p e s m args below meth c H locs ls C I S L) (fun h => kf h p e s m args below meth c H locs ls C I S L)
theorem z_acmp_ne {rx ry : Option Nat} {off : Int} (tgt : Nat) (hd : decode M.2.1 pc = .ok (.if_acmp .ne off, 3)) (ht : (pc : Int) + off = (tgt : Int)) (kt : ¬ rx = ry → zZ g M P k n X tgt lv st) (kf : rx = ry → zZ g M P k n X (pc + 3) lv st) : zZ g M P k n X pc lv (va_rf ry :: va_rf rx :: st) := by
  intro p e s m args below meth c H locs ls C I S L
  exact lv_acmp_ne C.1 C.2.1 hd ht (fun h => kt h p e s m args below meth c H locs ls C I S L) (fun h => kf h p e s m args below meth c H locs ls C I S L)
theorem z_goto {off : Int} (tgt : Nat) (hd : decode M.2.1 pc = .ok (.goto off, 3)) (ht : (pc : Int) + off = (tgt : Int)) (kk : zZ g M P k n X tgt lv st) : zZ g M P k n X pc lv (st) := by
  intro p e s m args below meth c H locs ls C I S L
  exact lv_goto C.1 C.2.1 hd ht (kk p e s m args below meth c H locs ls C I S L)
theorem z_ifnonnull {x : Nat} {off : Int} (tgt : Nat) (hd : decode M.2.1 pc = .ok (.ifnonnull off, 3)) (ht : (pc : Int) + off = (tgt : Int)) (kk : zZ g M P k n X tgt lv st) : zZ g M P k n X pc lv (.ref x :: st) := by
  intro p e s m args below meth c H locs ls C I S L
  exact lv_ifnonnull C.1 C.2.1 hd ht (kk p e s m args below meth c H locs ls C I S L)
theorem z_ifnull {x : Nat} {off : Int} (hd : decode M.2.1 pc = .ok (.ifnull off, 3))  (kk : zZ g M P k n X (pc + 3) lv st) : zZ g M P k n X pc lv (.ref x :: st) := by
  intro p e s m args below meth c H locs ls C I S L
  exact lv_ifnull C.1 C.2.1 hd  (kk p e s m args below meth c H locs ls C I S L)
theorem z_ifnullN {off : Int} (tgt : Nat) (hd : decode M.2.1 pc = .ok (.ifnull off, 3)) (ht : (pc : Int) + off = (tgt : Int)) (kk : zZ g M P k n X tgt lv st) : zZ g M P k n X pc lv (.null :: st) := by
  intro p e s m args below meth c H locs ls C I S L
  exact lv_ifnullN C.1 C.2.1 hd ht (kk p e s m args below meth c H locs ls C I S L)
theorem z_ifnonnullN {off : Int} (hd : decode M.2.1 pc = .ok (.ifnonnull off, 3))  (kk : zZ g M P k n X (pc + 3) lv st) : zZ g M P k n X pc lv (.null :: st) := by
  intro p e s m args below meth c H locs ls C I S L
  exact lv_ifnonnullN C.1 C.2.1 hd  (kk p e s m args below meth c H locs ls C I S L)
theorem z_lookup {dflt : Int} {ps : Array (Int × Int)} {len : Nat} {x : Int32} {off : Int} (tgt : Nat) (hd : decode M.2.1 pc = .ok (.lookupswitch dflt ps, len)) (hp : (ps.toList.zip (ps.toList.drop 1)).all (fun (a, next) => a.1 < next.1) = true) (ho : Op.lookupswitch.offset ps.toList dflt x.toInt = off) (ht : (pc : Int) + off = (tgt : Int)) (kk : zZ g M P k n X tgt lv st) : zZ g M P k n X pc lv (.int x :: st) := by
  intro p e s m args below meth c H locs ls C I S L
  exact lv_lookup C.1 C.2.1 hd hp ho ht (kk p e s m args below meth c H locs ls C I S L)
theorem z_tableOut {dflt lo hi : Int} {offs : Array Int} {len : Nat} {x : Int32} (tgt : Nat) (hd : decode M.2.1 pc = .ok (.tableswitch dflt lo hi offs, len)) (h : x.toInt < lo ∨ hi < x.toInt) (ht : (pc : Int) + dflt = (tgt : Int)) (kk : zZ g M P k n X tgt lv st) : zZ g M P k n X pc lv (.int x :: st) := by
  intro p e s m args below meth c H locs ls C I S L
  exact lv_tableOut C.1 C.2.1 hd h ht (kk p e s m args below meth c H locs ls C I S L)
theorem z_tableIn {dflt lo hi : Int} {offs : Array Int} {len : Nat} {x : Int32} {off : Int} (tgt : Nat) (hd : decode M.2.1 pc = .ok (.tableswitch dflt lo hi offs, len)) (h1 : ¬ x.toInt < lo) (h2 : ¬ hi < x.toInt) (ho : offs[(x.toInt - lo).toNat]? = some off) (ht : (pc : Int) + off = (tgt : Int)) (kk : zZ g M P k n X tgt lv st) : zZ g M P k n X pc lv (.int x :: st) := by
  intro p e s m args below meth c H locs ls C I S L
  exact lv_tableIn C.1 C.2.1 hd h1 h2 ho ht (kk p e s m args below meth c H locs ls C I S L)
/-- the locals in another order, or fewer -/
theorem z_lv {lv' : List (Nat × Value)} (is : List Nat) (h : lv_pick lv is = lv') (kk : zZ g M P k n X pc lv' st) : zZ g M P k n X pc lv st := by
  intro p e s m args below meth c H locs ls C I S L
  exact kk p e s m args below meth c H locs ls C I S (lv_sub L is h)
/-- the counts rounded up -/
theorem z_widen {k' n' : Nat} (h1 : k ≤ k') (h2 : n ≤ n') (kk : zZ g M P k' n' X pc lv st) : zZ g M P k n X pc lv st := by
  intro p e s m args below meth c H locs ls C I S L
  exact W.widen h1 h2 (kk p e s m args below meth c H locs ls C I S L)
/-- another name for the same world -/
theorem z_X {X' : zX} (h : X = X') (kk : zZ g M P k n X' pc lv st) : zZ g M P k n X pc lv st := by subst h; exact kk
theorem z_ldc {i : Nat} {v : Int32} (hc : Cond.constant M.1.cls i v ∈ lw_all) (hd : decode M.2.1 pc = .ok (.ldc i, 2)) (kk : zZ g M P k n X (pc + 2) lv (.int v :: st)) : zZ g M P k n X pc lv st := by
  intro p e s m args below meth c H locs ls C I S L
  exact lv_ldc C.1 C.2.1 C.2.2.2.2.2.1 (C.2.2.2.2.2.2.1 _ hc) hd (kk p e s m args below meth c H locs ls C I S L)
theorem z_ldcw {i : Nat} {v : Int32} (hc : Cond.constant M.1.cls i v ∈ lw_all) (hd : decode M.2.1 pc = .ok (.ldc_w i, 3)) (kk : zZ g M P k n X (pc + 3) lv (.int v :: st)) : zZ g M P k n X pc lv st := by
  intro p e s m args below meth c H locs ls C I S L
  exact lv_ldcw C.1 C.2.1 C.2.2.2.2.2.1 (C.2.2.2.2.2.2.1 _ hc) hd (kk p e s m args below meth c H locs ls C I S L)
theorem z_ldc2 {i : Nat} {v : Int64} (hc : Cond.constantLong M.1.cls i v ∈ lw_all) (hd : decode M.2.1 pc = .ok (.ldc2_w i, 3)) (kk : zZ g M P k n X (pc + 3) lv (.long v :: st)) : zZ g M P k n X pc lv st := by
  intro p e s m args below meth c H locs ls C I S L
  exact lv_ldc2 C.1 C.2.1 C.2.2.2.2.2.1 (C.2.2.2.2.2.2.1 _ hc) hd (kk p e s m args below meth c H locs ls C I S L)
theorem z_iret {v : Int32} (hd : decode M.2.1 pc = .ok (.ireturn, 1)) (hr : M.2.2.2.1 = some .int) (hk : k ≤ P.2.2.cells) (hn : n ≤ P.2.2.slots) (h : P.1 (some (.int v)) X) : zZ g M P k n X pc lv ([.int v]) := by
  intro p e s m args below meth c H locs ls C I S L
  exact yx_ret (W.widen hk hn (W.iret (Qc := zPos g P.1) C.1 C.2.1 (C.2.2.1.trans hr) (fun t ht hW => ⟨⟨_, X, rfl, h, by rw [ht]; exact I⟩, S.F ht⟩) S.2.2 hd C.2.2.2.1))
theorem z_zret {v : Int32} {ty : FieldType} (hd : decode M.2.1 pc = .ok (.ireturn, 1)) (hr : M.2.2.2.1 = some ty) (hw : narrow ty (.int v) = .int v) (hk : k ≤ P.2.2.cells) (hn : n ≤ P.2.2.slots) (h : P.1 (some (.int v)) X) : zZ g M P k n X pc lv ([.int v]) := by
  intro p e s m args below meth c H locs ls C I S L
  exact yx_ret (W.widen hk hn (W.zret (Qc := zPos g P.1) C.1 C.2.1 (C.2.2.1.trans hr) hw (fun t ht hW => ⟨⟨_, X, rfl, h, by rw [ht]; exact I⟩, S.F ht⟩) S.2.2 hd C.2.2.2.1))
theorem z_lret {v : Int64} (hd : decode M.2.1 pc = .ok (.lreturn, 1)) (hr : M.2.2.2.1 = some .long) (hk : k ≤ P.2.2.cells) (hn : n ≤ P.2.2.slots) (h : P.1 (some (.long v)) X) : zZ g M P k n X pc lv ([.long v]) := by
  intro p e s m args below meth c H locs ls C I S L
  exact yx_ret (W.widen hk hn (W.lret (Qc := zPos g P.1) C.1 C.2.1 (C.2.2.1.trans hr) (fun t ht hW => ⟨⟨_, X, rfl, h, by rw [ht]; exact I⟩, S.F ht⟩) S.2.2 hd C.2.2.2.1))
theorem z_vret  (hd : decode M.2.1 pc = .ok (.return_, 1)) (hr : M.2.2.2.1 = none) (hk : k ≤ P.2.2.cells) (hn : n ≤ P.2.2.slots) (h : P.1 (none) X) : zZ g M P k n X pc lv ([]) := by
  intro p e s m args below meth c H locs ls C I S L
  exact yx_ret (W.widen hk hn (W.vret (Qc := zPos g P.1) C.1 C.2.1 (C.2.2.1.trans hr) (fun t ht hW => ⟨⟨_, X, rfl, h, by rw [ht]; exact I⟩, S.F ht⟩) S.2.2 hd C.2.2.2.1))
theorem z_aret {v : Value} {rt : FieldType} (hd : decode M.2.1 pc = .ok (.areturn, 1)) (hr : M.2.2.2.1 = some rt) (hrt : (∃ n, rt = .object n) ∨ ∃ t, rt = .array t) (hv : v = .null ∨ ∃ a, v = .ref a) (hk : k ≤ P.2.2.cells) (hn : n ≤ P.2.2.slots) (h : P.1 (some v) X) : zZ g M P k n X pc lv ([v]) := by
  intro p e s m args below meth c H locs ls C I S L
  exact yx_ret (W.widen hk hn (W.aret (Qc := zPos g P.1) C.1 C.2.1 (C.2.2.1.trans hr) hrt hv (fun t ht hW => ⟨⟨_, X, rfl, h, by rw [ht]; exact I⟩, S.F ht⟩) S.2.2 hd C.2.2.2.1))
end ZR
