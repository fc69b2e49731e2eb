set_option maxRecDepth 100000
/-! one row an instruction (printed by gen/rows.py) -/
theorem r_iadd {J : Jb} {ce sl pc : Nat} {lv : List (Option Value)} {st : List Value} {h : AHp} {x y : Int32} (hd : decode J.1.2.1 pc = .ok (.iadd, 1))  (k : Rch J ce sl (pc + 1) lv (.int (x + y) :: st) h) : Rch J ce sl pc lv (.int y :: .int x :: st) h :=
  fun l G sg R p e s m args below meth c H locs ls hR C hl hH hS => lv_iadd C.1 C.2.1 hd  (k l G sg R p e s m args below meth c H locs ls hR C hl hH hS)
theorem r_isub {J : Jb} {ce sl pc : Nat} {lv : List (Option Value)} {st : List Value} {h : AHp} {x y : Int32} (hd : decode J.1.2.1 pc = .ok (.isub, 1))  (k : Rch J ce sl (pc + 1) lv (.int (x - y) :: st) h) : Rch J ce sl pc lv (.int y :: .int x :: st) h :=
  fun l G sg R p e s m args below meth c H locs ls hR C hl hH hS => lv_isub C.1 C.2.1 hd  (k l G sg R p e s m args below meth c H locs ls hR C hl hH hS)
theorem r_imul {J : Jb} {ce sl pc : Nat} {lv : List (Option Value)} {st : List Value} {h : AHp} {x y : Int32} (hd : decode J.1.2.1 pc = .ok (.imul, 1))  (k : Rch J ce sl (pc + 1) lv (.int (x * y) :: st) h) : Rch J ce sl pc lv (.int y :: .int x :: st) h :=
  fun l G sg R p e s m args below meth c H locs ls hR C hl hH hS => lv_imul C.1 C.2.1 hd  (k l G sg R p e s m args below meth c H locs ls hR C hl hH hS)
theorem r_iand {J : Jb} {ce sl pc : Nat} {lv : List (Option Value)} {st : List Value} {h : AHp} {x y : Int32} (hd : decode J.1.2.1 pc = .ok (.iand, 1))  (k : Rch J ce sl (pc + 1) lv (.int (x &&& y) :: st) h) : Rch J ce sl pc lv (.int y :: .int x :: st) h :=
  fun l G sg R p e s m args below meth c H locs ls hR C hl hH hS => lv_iand C.1 C.2.1 hd  (k l G sg R p e s m args below meth c H locs ls hR C hl hH hS)
theorem r_ior {J : Jb} {ce sl pc : Nat} {lv : List (Option Value)} {st : List Value} {h : AHp} {x y : Int32} (hd : decode J.1.2.1 pc = .ok (.ior, 1))  (k : Rch J ce sl (pc + 1) lv (.int (x ||| y) :: st) h) : Rch J ce sl pc lv (.int y :: .int x :: st) h :=
  fun l G sg R p e s m args below meth c H locs ls hR C hl hH hS => lv_ior C.1 C.2.1 hd  (k l G sg R p e s m args below meth c H locs ls hR C hl hH hS)
theorem r_ixor {J : Jb} {ce sl pc : Nat} {lv : List (Option Value)} {st : List Value} {h : AHp} {x y : Int32} (hd : decode J.1.2.1 pc = .ok (.ixor, 1))  (k : Rch J ce sl (pc + 1) lv (.int (x ^^^ y) :: st) h) : Rch J ce sl pc lv (.int y :: .int x :: st) h :=
  fun l G sg R p e s m args below meth c H locs ls hR C hl hH hS => lv_ixor C.1 C.2.1 hd  (k l G sg R p e s m args below meth c H locs ls hR C hl hH hS)
theorem r_idiv {J : Jb} {ce sl pc : Nat} {lv : List (Option Value)} {st : List Value} {h : AHp} {x y : Int32} (hd : decode J.1.2.1 pc = .ok (.idiv, 1)) (hne : ¬ y = 0) (k : Rch J ce sl (pc + 1) lv (.int (x / y) :: st) h) : Rch J ce sl pc lv (.int y :: .int x :: st) h :=
  fun l G sg R p e s m args below meth c H locs ls hR C hl hH hS => lv_idiv C.1 C.2.1 hd hne (k l G sg R p e s m args below meth c H locs ls hR C hl hH hS)
theorem r_irem {J : Jb} {ce sl pc : Nat} {lv : List (Option Value)} {st : List Value} {h : AHp} {x y : Int32} (hd : decode J.1.2.1 pc = .ok (.irem, 1)) (hne : ¬ y = 0) (k : Rch J ce sl (pc + 1) lv (.int (x - x / y * y) :: st) h) : Rch J ce sl pc lv (.int y :: .int x :: st) h :=
  fun l G sg R p e s m args below meth c H locs ls hR C hl hH hS => lv_irem C.1 C.2.1 hd hne (k l G sg R p e s m args below meth c H locs ls hR C hl hH hS)
theorem r_ineg {J : Jb} {ce sl pc : Nat} {lv : List (Option Value)} {st : List Value} {h : AHp} {x : Int32} (hd : decode J.1.2.1 pc = .ok (.ineg, 1))  (k : Rch J ce sl (pc + 1) lv (.int (-x) :: st) h) : Rch J ce sl pc lv (.int x :: st) h :=
  fun l G sg R p e s m args below meth c H locs ls hR C hl hH hS => lv_ineg C.1 C.2.1 hd  (k l G sg R p e s m args below meth c H locs ls hR C hl hH hS)
theorem r_ishl {J : Jb} {ce sl pc : Nat} {lv : List (Option Value)} {st : List Value} {h : AHp} {x y : Int32} (hd : decode J.1.2.1 pc = .ok (.ishl, 1))  (k : Rch J ce sl (pc + 1) lv (.int (x <<< (y &&& 31)) :: st) h) : Rch J ce sl pc lv (.int y :: .int x :: st) h :=
  fun l G sg R p e s m args below meth c H locs ls hR C hl hH hS => lv_ishl C.1 C.2.1 hd  (k l G sg R p e s m args below meth c H locs ls hR C hl hH hS)
theorem r_ishr {J : Jb} {ce sl pc : Nat} {lv : List (Option Value)} {st : List Value} {h : AHp} {x y : Int32} (hd : decode J.1.2.1 pc = .ok (.ishr, 1))  (k : Rch J ce sl (pc + 1) lv (.int (x >>> (y &&& 31)) :: st) h) : Rch J ce sl pc lv (.int y :: .int x :: st) h :=
  fun l G sg R p e s m args below meth c H locs ls hR C hl hH hS => lv_ishr C.1 C.2.1 hd  (k l G sg R p e s m args below meth c H locs ls hR C hl hH hS)
theorem r_iushr {J : Jb} {ce sl pc : Nat} {lv : List (Option Value)} {st : List Value} {h : AHp} {x y : Int32} (hd : decode J.1.2.1 pc = .ok (.iushr, 1))  (k : Rch J ce sl (pc + 1) lv (.int ((x.toUInt32 >>> (y.toUInt32 &&& Int32.toUInt32 31)).toInt32) :: st) h) : Rch J ce sl pc lv (.int y :: .int x :: st) h :=
  fun l G sg R p e s m args below meth c H locs ls hR C hl hH hS => lv_iushr C.1 C.2.1 hd rfl (k l G sg R p e s m args below meth c H locs ls hR C hl hH hS)
theorem r_ladd {J : Jb} {ce sl pc : Nat} {lv : List (Option Value)} {st : List Value} {h : AHp} {x y : Int64} (hd : decode J.1.2.1 pc = .ok (.ladd, 1))  (k : Rch J ce sl (pc + 1) lv (.long (x + y) :: st) h) : Rch J ce sl pc lv (.long y :: .long x :: st) h :=
  fun l G sg R p e s m args below meth c H locs ls hR C hl hH hS => lv_ladd C.1 C.2.1 hd  (k l G sg R p e s m args below meth c H locs ls hR C hl hH hS)
theorem r_lsub {J : Jb} {ce sl pc : Nat} {lv : List (Option Value)} {st : List Value} {h : AHp} {x y : Int64} (hd : decode J.1.2.1 pc = .ok (.lsub, 1))  (k : Rch J ce sl (pc + 1) lv (.long (x - y) :: st) h) : Rch J ce sl pc lv (.long y :: .long x :: st) h :=
  fun l G sg R p e s m args below meth c H locs ls hR C hl hH hS => lv_lsub C.1 C.2.1 hd  (k l G sg R p e s m args below meth c H locs ls hR C hl hH hS)
theorem r_lmul {J : Jb} {ce sl pc : Nat} {lv : List (Option Value)} {st : List Value} {h : AHp} {x y : Int64} (hd : decode J.1.2.1 pc = .ok (.lmul, 1))  (k : Rch J ce sl (pc + 1) lv (.long (x * y) :: st) h) : Rch J ce sl pc lv (.long y :: .long x :: st) h :=
  fun l G sg R p e s m args below meth c H locs ls hR C hl hH hS => lv_lmul C.1 C.2.1 hd  (k l G sg R p e s m args below meth c H locs ls hR C hl hH hS)
theorem r_land {J : Jb} {ce sl pc : Nat} {lv : List (Option Value)} {st : List Value} {h : AHp} {x y : Int64} (hd : decode J.1.2.1 pc = .ok (.land, 1))  (k : Rch J ce sl (pc + 1) lv (.long (x &&& y) :: st) h) : Rch J ce sl pc lv (.long y :: .long x :: st) h :=
  fun l G sg R p e s m args below meth c H locs ls hR C hl hH hS => lv_land C.1 C.2.1 hd  (k l G sg R p e s m args below meth c H locs ls hR C hl hH hS)
theorem r_lor {J : Jb} {ce sl pc : Nat} {lv : List (Option Value)} {st : List Value} {h : AHp} {x y : Int64} (hd : decode J.1.2.1 pc = .ok (.lor, 1))  (k : Rch J ce sl (pc + 1) lv (.long (x ||| y) :: st) h) : Rch J ce sl pc lv (.long y :: .long x :: st) h :=
  fun l G sg R p e s m args below meth c H locs ls hR C hl hH hS => lv_lor C.1 C.2.1 hd  (k l G sg R p e s m args below meth c H locs ls hR C hl hH hS)
theorem r_lxor {J : Jb} {ce sl pc : Nat} {lv : List (Option Value)} {st : List Value} {h : AHp} {x y : Int64} (hd : decode J.1.2.1 pc = .ok (.lxor, 1))  (k : Rch J ce sl (pc + 1) lv (.long (x ^^^ y) :: st) h) : Rch J ce sl pc lv (.long y :: .long x :: st) h :=
  fun l G sg R p e s m args below meth c H locs ls hR C hl hH hS => lv_lxor C.1 C.2.1 hd  (k l G sg R p e s m args below meth c H locs ls hR C hl hH hS)
theorem r_ldiv {J : Jb} {ce sl pc : Nat} {lv : List (Option Value)} {st : List Value} {h : AHp} {x y : Int64} (hd : decode J.1.2.1 pc = .ok (.ldiv, 1)) (hne : ¬ y = 0) (k : Rch J ce sl (pc + 1) lv (.long (x / y) :: st) h) : Rch J ce sl pc lv (.long y :: .long x :: st) h :=
  fun l G sg R p e s m args below meth c H locs ls hR C hl hH hS => lv_ldiv C.1 C.2.1 hd hne (k l G sg R p e s m args below meth c H locs ls hR C hl hH hS)
theorem r_lshl {J : Jb} {ce sl pc : Nat} {lv : List (Option Value)} {st : List Value} {h : AHp} {x : Int64} {y : Int32} (hd : decode J.1.2.1 pc = .ok (.lshl, 1))  (k : Rch J ce sl (pc + 1) lv (.long (x <<< (y.toInt64 &&& 63)) :: st) h) : Rch J ce sl pc lv (.int y :: .long x :: st) h :=
  fun l G sg R p e s m args below meth c H locs ls hR C hl hH hS => lv_lshl C.1 C.2.1 hd rfl (k l G sg R p e s m args below meth c H locs ls hR C hl hH hS)
theorem r_i2l {J : Jb} {ce sl pc : Nat} {lv : List (Option Value)} {st : List Value} {h : AHp} {x : Int32} (hd : decode J.1.2.1 pc = .ok (.i2l, 1))  (k : Rch J ce sl (pc + 1) lv (.long x.toInt64 :: st) h) : Rch J ce sl pc lv (.int x :: st) h :=
  fun l G sg R p e s m args below meth c H locs ls hR C hl hH hS => lv_i2l C.1 C.2.1 hd rfl (k l G sg R p e s m args below meth c H locs ls hR C hl hH hS)
theorem r_l2i {J : Jb} {ce sl pc : Nat} {lv : List (Option Value)} {st : List Value} {h : AHp} {x : Int64} (hd : decode J.1.2.1 pc = .ok (.l2i, 1))  (k : Rch J ce sl (pc + 1) lv (.int x.toInt32 :: st) h) : Rch J ce sl pc lv (.long x :: st) h :=
  fun l G sg R p e s m args below meth c H locs ls hR C hl hH hS => lv_l2i C.1 C.2.1 hd rfl (k l G sg R p e s m args below meth c H locs ls hR C hl hH hS)
theorem r_i2b {J : Jb} {ce sl pc : Nat} {lv : List (Option Value)} {st : List Value} {h : AHp} {x : Int32} (hd : decode J.1.2.1 pc = .ok (.i2b, 1))  (k : Rch J ce sl (pc + 1) lv (.int x.toInt8.toInt32 :: st) h) : Rch J ce sl pc lv (.int x :: st) h :=
  fun l G sg R p e s m args below meth c H locs ls hR C hl hH hS => lv_i2b C.1 C.2.1 hd rfl (k l G sg R p e s m args below meth c H locs ls hR C hl hH hS)
theorem r_i2s {J : Jb} {ce sl pc : Nat} {lv : List (Option Value)} {st : List Value} {h : AHp} {x : Int32} (hd : decode J.1.2.1 pc = .ok (.i2s, 1))  (k : Rch J ce sl (pc + 1) lv (.int x.toInt16.toInt32 :: st) h) : Rch J ce sl pc lv (.int x :: st) h :=
  fun l G sg R p e s m args below meth c H locs ls hR C hl hH hS => lv_i2s C.1 C.2.1 hd rfl (k l G sg R p e s m args below meth c H locs ls hR C hl hH hS)
theorem r_i2c {J : Jb} {ce sl pc : Nat} {lv : List (Option Value)} {st : List Value} {h : AHp} {x : Int32} (hd : decode J.1.2.1 pc = .ok (.i2c, 1))  (k : Rch J ce sl (pc + 1) lv (.int (x.toUInt32 % 65536).toInt32 :: st) h) : Rch J ce sl pc lv (.int x :: st) h :=
  fun l G sg R p e s m args below meth c H locs ls hR C hl hH hS => lv_i2c C.1 C.2.1 hd rfl (k l G sg R p e s m args below meth c H locs ls hR C hl hH hS)
theorem r_iconst {J : Jb} {ce sl pc : Nat} {lv : List (Option Value)} {st : List Value} {h : AHp} {n : Int} (v : Int32) (hd : decode J.1.2.1 pc = .ok (.iconst n, 1)) (hv : Int32.ofInt n = v) (k : Rch J ce sl (pc + 1) lv (.int v :: st) h) : Rch J ce sl pc lv (st) h :=
  fun l G sg R p e s m args below meth c H locs ls hR C hl hH hS => lv_iconst C.1 C.2.1 hd hv (k l G sg R p e s m args below meth c H locs ls hR C hl hH hS)
theorem r_bipush {J : Jb} {ce sl pc : Nat} {lv : List (Option Value)} {st : List Value} {h : AHp} {n : Int} (v : Int32) (hd : decode J.1.2.1 pc = .ok (.bipush n, 2)) (hv : (Int8.ofInt n).toInt32 = v) (k : Rch J ce sl (pc + 2) lv (.int v :: st) h) : Rch J ce sl pc lv (st) h :=
  fun l G sg R p e s m args below meth c H locs ls hR C hl hH hS => lv_bipush C.1 C.2.1 hd hv (k l G sg R p e s m args below meth c H locs ls hR C hl hH hS)
theorem r_sipush {J : Jb} {ce sl pc : Nat} {lv : List (Option Value)} {st : List Value} {h : AHp} {n : Int} (v : Int32) (hd : decode J.1.2.1 pc = .ok (.sipush n, 3)) (hv : (Int16.ofInt n).toInt32 = v) (k : Rch J ce sl (pc + 3) lv (.int v :: st) h) : Rch J ce sl pc lv (st) h :=
  fun l G sg R p e s m args below meth c H locs ls hR C hl hH hS => lv_sipush C.1 C.2.1 hd hv (k l G sg R p e s m args below meth c H locs ls hR C hl hH hS)
theorem r_lconst {J : Jb} {ce sl pc : Nat} {lv : List (Option Value)} {st : List Value} {h : AHp} {n : Fin 2} (v : Int64) (hd : decode J.1.2.1 pc = .ok (.lconst n, 1)) (hv : Int64.ofNat (n : Nat) = v) (k : Rch J ce sl (pc + 1) lv (.long v :: st) h) : Rch J ce sl pc lv (st) h :=
  fun l G sg R p e s m args below meth c H locs ls hR C hl hH hS => lv_lconst C.1 C.2.1 hd hv (k l G sg R p e s m args below meth c H locs ls hR C hl hH hS)
theorem r_null {J : Jb} {ce sl pc : Nat} {lv : List (Option Value)} {st : List Value} {h : AHp}  (hd : decode J.1.2.1 pc = .ok (.aconst_null, 1))  (k : Rch J ce sl (pc + 1) lv (.null :: st) h) : Rch J ce sl pc lv (st) h :=
  fun l G sg R p e s m args below meth c H locs ls hR C hl hH hS => lv_null C.1 C.2.1 hd  (k l G sg R p e s m args below meth c H locs ls hR C hl hH hS)
theorem rv_cat (sg : Nat → Nat) (v : Value) : (rv sg v).category = v.category := by cases v <;> rfl
theorem r_dup {J : Jb} {ce sl pc : Nat} {lv : List (Option Value)} {st : List Value} {h : AHp} {a : Value} (hd : decode J.1.2.1 pc = .ok (.dup, 1)) (ha : a.category = 1) (k : Rch J ce sl (pc + 1) lv (a :: a :: st) h) : Rch J ce sl pc lv (a :: st) h :=
  fun l G sg R p e s m args below meth c H locs ls hR C hl hH hS => lv_dup C.1 C.2.1 hd ((rv_cat sg a).trans ha) (k l G sg R p e s m args below meth c H locs ls hR C hl hH hS)
theorem r_pop {J : Jb} {ce sl pc : Nat} {lv : List (Option Value)} {st : List Value} {h : AHp} {a : Value} (hd : decode J.1.2.1 pc = .ok (.pop, 1)) (ha : a.category = 1) (k : Rch J ce sl (pc + 1) lv (st) h) : Rch J ce sl pc lv (a :: st) h :=
  fun l G sg R p e s m args below meth c H locs ls hR C hl hH hS => lv_pop C.1 C.2.1 hd ((rv_cat sg a).trans ha) (k l G sg R p e s m args below meth c H locs ls hR C hl hH hS)
theorem r_dup_x1 {J : Jb} {ce sl pc : Nat} {lv : List (Option Value)} {st : List Value} {h : AHp} {a b : Value} (hd : decode J.1.2.1 pc = .ok (.dup_x1, 1)) (ha : a.category = 1) (hb : b.category = 1) (k : Rch J ce sl (pc + 1) lv (a :: b :: a :: st) h) : Rch J ce sl pc lv (a :: b :: st) h :=
  fun l G sg R p e s m args below meth c H locs ls hR C hl hH hS => lv_dup_x1 C.1 C.2.1 hd ((rv_cat sg a).trans ha) ((rv_cat sg b).trans hb) (k l G sg R p e s m args below meth c H locs ls hR C hl hH hS)
theorem r_dup2 {J : Jb} {ce sl pc : Nat} {lv : List (Option Value)} {st : List Value} {h : AHp} {a b : Value} (hd : decode J.1.2.1 pc = .ok (.dup2, 1)) (ha : a.category = 1) (hb : b.category = 1) (k : Rch J ce sl (pc + 1) lv (a :: b :: a :: b :: st) h) : Rch J ce sl pc lv (a :: b :: st) h :=
  fun l G sg R p e s m args below meth c H locs ls hR C hl hH hS => lv_dup2_11 C.1 C.2.1 hd ((rv_cat sg a).trans ha) ((rv_cat sg b).trans hb) (k l G sg R p e s m args below meth c H locs ls hR C hl hH hS)
theorem r_iload_n {J : Jb} {ce sl pc : Nat} {lv : List (Option Value)} {st : List Value} {h : AHp} {n : Fin 4} {x : Int32} (hd : decode J.1.2.1 pc = .ok (.iload_n n, 1)) (hv : lv[(n : Nat)]? = some (some (.int x))) (k : Rch J ce sl (pc + 1) lv (.int x :: st) h) : Rch J ce sl pc lv (st) h :=
  fun l G sg R p e s m args below meth c H locs ls hR C hl hH hS => lv_iload_n C.1 C.2.1 hd rfl (hl.2.2 _ _ hv) (k l G sg R p e s m args below meth c H locs ls hR C hl hH hS)
theorem r_iload {J : Jb} {ce sl pc : Nat} {lv : List (Option Value)} {st : List Value} {h : AHp} {n : Nat} {x : Int32} (hd : decode J.1.2.1 pc = .ok (.iload n, 2)) (hv : lv[n]? = some (some (.int x))) (k : Rch J ce sl (pc + 2) lv (.int x :: st) h) : Rch J ce sl pc lv (st) h :=
  fun l G sg R p e s m args below meth c H locs ls hR C hl hH hS => lv_iload C.1 C.2.1 hd (hl.2.2 _ _ hv) (k l G sg R p e s m args below meth c H locs ls hR C hl hH hS)
theorem r_lload_n {J : Jb} {ce sl pc : Nat} {lv : List (Option Value)} {st : List Value} {h : AHp} {n : Fin 4} {x : Int64} (hd : decode J.1.2.1 pc = .ok (.lload_n n, 1)) (hv : lv[(n : Nat)]? = some (some (.long x))) (k : Rch J ce sl (pc + 1) lv (.long x :: st) h) : Rch J ce sl pc lv (st) h :=
  fun l G sg R p e s m args below meth c H locs ls hR C hl hH hS => lv_lload_n C.1 C.2.1 hd rfl (hl.2.2 _ _ hv) (k l G sg R p e s m args below meth c H locs ls hR C hl hH hS)
theorem r_lload {J : Jb} {ce sl pc : Nat} {lv : List (Option Value)} {st : List Value} {h : AHp} {n : Nat} {x : Int64} (hd : decode J.1.2.1 pc = .ok (.lload n, 2)) (hv : lv[n]? = some (some (.long x))) (k : Rch J ce sl (pc + 2) lv (.long x :: st) h) : Rch J ce sl pc lv (st) h :=
  fun l G sg R p e s m args below meth c H locs ls hR C hl hH hS => lv_lload C.1 C.2.1 hd (hl.2.2 _ _ hv) (k l G sg R p e s m args below meth c H locs ls hR C hl hH hS)
theorem r_aload_n {J : Jb} {ce sl pc : Nat} {lv : List (Option Value)} {st : List Value} {h : AHp} {n : Fin 4} {x : Nat} (hd : decode J.1.2.1 pc = .ok (.aload_n n, 1)) (hv : lv[(n : Nat)]? = some (some (.ref x))) (k : Rch J ce sl (pc + 1) lv (.ref x :: st) h) : Rch J ce sl pc lv (st) h :=
  fun l G sg R p e s m args below meth c H locs ls hR C hl hH hS => lv_aload_n C.1 C.2.1 hd rfl (hl.2.2 _ _ hv) (k l G sg R p e s m args below meth c H locs ls hR C hl hH hS)
theorem r_aload {J : Jb} {ce sl pc : Nat} {lv : List (Option Value)} {st : List Value} {h : AHp} {n : Nat} {x : Nat} (hd : decode J.1.2.1 pc = .ok (.aload n, 2)) (hv : lv[n]? = some (some (.ref x))) (k : Rch J ce sl (pc + 2) lv (.ref x :: st) h) : Rch J ce sl pc lv (st) h :=
  fun l G sg R p e s m args below meth c H locs ls hR C hl hH hS => lv_aload C.1 C.2.1 hd (hl.2.2 _ _ hv) (k l G sg R p e s m args below meth c H locs ls hR C hl hH hS)
theorem r_icmp_eq {J : Jb} {ce sl pc : Nat} {lv : List (Option Value)} {st : List Value} {h : AHp} {x y : Int32} {off : Int} (tgt : Nat) (hd : decode J.1.2.1 pc = .ok (.if_icmp .eq off, 3)) (ht : (pc : Int) + off = (tgt : Int)) (kt : x = y → Rch J ce sl tgt lv st h) (kf : ¬ x = y → Rch J ce sl (pc + 3) lv st h) : Rch J ce sl pc lv (.int y :: .int x :: st) h :=
  fun l G sg R p e s m args below meth c H locs ls hR C hl hH hS => lv_icmp_eq C.1 C.2.1 hd ht (fun c_ => kt c_ l G sg R p e s m args below meth c H locs ls hR C hl hH hS) (fun c_ => kf c_ l G sg R p e s m args below meth c H locs ls hR C hl hH hS)
theorem r_if_eq {J : Jb} {ce sl pc : Nat} {lv : List (Option Value)} {st : List Value} {h : AHp} {x : Int32} {off : Int} (tgt : Nat) (hd : decode J.1.2.1 pc = .ok (.ifCond .eq off, 3)) (ht : (pc : Int) + off = (tgt : Int)) (kt : x = 0 → Rch J ce sl tgt lv st h) (kf : ¬ x = 0 → Rch J ce sl (pc + 3) lv st h) : Rch J ce sl pc lv (.int x :: st) h :=
  fun l G sg R p e s m args below meth c H locs ls hR C hl hH hS => lv_if_eq C.1 C.2.1 hd ht (fun c_ => kt c_ l G sg R p e s m args below meth c H locs ls hR C hl hH hS) (fun c_ => kf c_ l G sg R p e s m args below meth c H locs ls hR C hl hH hS)
theorem r_icmp_ne {J : Jb} {ce sl pc : Nat} {lv : List (Option Value)} {st : List Value} {h : AHp} {x y : Int32} {off : Int} (tgt : Nat) (hd : decode J.1.2.1 pc = .ok (.if_icmp .ne off, 3)) (ht : (pc : Int) + off = (tgt : Int)) (kt : ¬ x = y → Rch J ce sl tgt lv st h) (kf : x = y → Rch J ce sl (pc + 3) lv st h) : Rch J ce sl pc lv (.int y :: .int x :: st) h :=
  fun l G sg R p e s m args below meth c H locs ls hR C hl hH hS => lv_icmp_ne C.1 C.2.1 hd ht (fun c_ => kt c_ l G sg R p e s m args below meth c H locs ls hR C hl hH hS) (fun c_ => kf c_ l G sg R p e s m args below meth c H locs ls hR C hl hH hS)
theorem r_if_ne {J : Jb} {ce sl pc : Nat} {lv : List (Option Value)} {st : List Value} {h : AHp} {x : Int32} {off : Int} (tgt : Nat) (hd : decode J.1.2.1 pc = .ok (.ifCond .ne off, 3)) (ht : (pc : Int) + off = (tgt : Int)) (kt : ¬ x = 0 → Rch J ce sl tgt lv st h) (kf : x = 0 → Rch J ce sl (pc + 3) lv st h) : Rch J ce sl pc lv (.int x :: st) h :=
  fun l G sg R p e s m args below meth c H locs ls hR C hl hH hS => lv_if_ne C.1 C.2.1 hd ht (fun c_ => kt c_ l G sg R p e s m args below meth c H locs ls hR C hl hH hS) (fun c_ => kf c_ l G sg R p e s m args below meth c H locs ls hR C hl hH hS)
theorem r_icmp_lt {J : Jb} {ce sl pc : Nat} {lv : List (Option Value)} {st : List Value} {h : AHp} {x y : Int32} {off : Int} (tgt : Nat) (hd : decode J.1.2.1 pc = .ok (.if_icmp .lt off, 3)) (ht : (pc : Int) + off = (tgt : Int)) (kt : x < y → Rch J ce sl tgt lv st h) (kf : ¬ x < y → Rch J ce sl (pc + 3) lv st h) : Rch J ce sl pc lv (.int y :: .int x :: st) h :=
  fun l G sg R p e s m args below meth c H locs ls hR C hl hH hS => lv_icmp_lt C.1 C.2.1 hd ht (fun c_ => kt c_ l G sg R p e s m args below meth c H locs ls hR C hl hH hS) (fun c_ => kf c_ l G sg R p e s m args below meth c H locs ls hR C hl hH hS)
theorem r_if_lt {J : Jb} {ce sl pc : Nat} {lv : List (Option Value)} {st : List Value} {h : AHp} {x : Int32} {off : Int} (tgt : Nat) (hd : decode J.1.2.1 pc = .ok (.ifCond .lt off, 3)) (ht : (pc : Int) + off = (tgt : Int)) (kt : x < 0 → Rch J ce sl tgt lv st h) (kf : ¬ x < 0 → Rch J ce sl (pc + 3) lv st h) : Rch J ce sl pc lv (.int x :: st) h :=
  fun l G sg R p e s m args below meth c H locs ls hR C hl hH hS => lv_if_lt C.1 C.2.1 hd ht (fun c_ => kt c_ l G sg R p e s m args below meth c H locs ls hR C hl hH hS) (fun c_ => kf c_ l G sg R p e s m args below meth c H locs ls hR C hl hH hS)
theorem r_icmp_ge {J : Jb} {ce sl pc : Nat} {lv : List (Option Value)} {st : List Value} {h : AHp} {x y : Int32} {off : Int} (tgt : Nat) (hd : decode J.1.2.1 pc = .ok (.if_icmp .ge off, 3)) (ht : (pc : Int) + off = (tgt : Int)) (kt : y ≤ x → Rch J ce sl tgt lv st h) (kf : ¬ y ≤ x → Rch J ce sl (pc + 3) lv st h) : Rch J ce sl pc lv (.int y :: .int x :: st) h :=
  fun l G sg R p e s m args below meth c H locs ls hR C hl hH hS => lv_icmp_ge C.1 C.2.1 hd ht (fun c_ => kt c_ l G sg R p e s m args below meth c H locs ls hR C hl hH hS) (fun c_ => kf c_ l G sg R p e s m args below meth c H locs ls hR C hl hH hS)
theorem r_if_ge {J : Jb} {ce sl pc : Nat} {lv : List (Option Value)} {st : List Value} {h : AHp} {x : Int32} {off : Int} (tgt : Nat) (hd : decode J.1.2.1 pc = .ok (.ifCond .ge off, 3)) (ht : (pc : Int) + off = (tgt : Int)) (kt : 0 ≤ x → Rch J ce sl tgt lv st h) (kf : ¬ 0 ≤ x → Rch J ce sl (pc + 3) lv st h) : Rch J ce sl pc lv (.int x :: st) h :=
  fun l G sg R p e s m args below meth c H locs ls hR C hl hH hS => lv_if_ge C.1 C.2.1 hd ht (fun c_ => kt c_ l G sg R p e s m args below meth c H locs ls hR C hl hH hS) (fun c_ => kf c_ l G sg R p e s m args below meth c H locs ls hR C hl hH hS)
theorem r_icmp_gt {J : Jb} {ce sl pc : Nat} {lv : List (Option Value)} {st : List Value} {h : AHp} {x y : Int32} {off : Int} (tgt : Nat) (hd : decode J.1.2.1 pc = .ok (.if_icmp .gt off, 3)) (ht : (pc : Int) + off = (tgt : Int)) (kt : y < x → Rch J ce sl tgt lv st h) (kf : ¬ y < x → Rch J ce sl (pc + 3) lv st h) : Rch J ce sl pc lv (.int y :: .int x :: st) h :=
  fun l G sg R p e s m args below meth c H locs ls hR C hl hH hS => lv_icmp_gt C.1 C.2.1 hd ht (fun c_ => kt c_ l G sg R p e s m args below meth c H locs ls hR C hl hH hS) (fun c_ => kf c_ l G sg R p e s m args below meth c H locs ls hR C hl hH hS)
theorem r_if_gt {J : Jb} {ce sl pc : Nat} {lv : List (Option Value)} {st : List Value} {h : AHp} {x : Int32} {off : Int} (tgt : Nat) (hd : decode J.1.2.1 pc = .ok (.ifCond .gt off, 3)) (ht : (pc : Int) + off = (tgt : Int)) (kt : 0 < x → Rch J ce sl tgt lv st h) (kf : ¬ 0 < x → Rch J ce sl (pc + 3) lv st h) : Rch J ce sl pc lv (.int x :: st) h :=
  fun l G sg R p e s m args below meth c H locs ls hR C hl hH hS => lv_if_gt C.1 C.2.1 hd ht (fun c_ => kt c_ l G sg R p e s m args below meth c H locs ls hR C hl hH hS) (fun c_ => kf c_ l G sg R p e s m args below meth c H locs ls hR C hl hH hS)
theorem r_icmp_le {J : Jb} {ce sl pc : Nat} {lv : List (Option Value)} {st : List Value} {h : AHp} {x y : Int32} {off : Int} (tgt : Nat) (hd : decode J.1.2.1 pc = .ok (.if_icmp .le off, 3)) (ht : (pc : Int) + off = (tgt : Int)) (kt : x ≤ y → Rch J ce sl tgt lv st h) (kf : ¬ x ≤ y → Rch J ce sl (pc + 3) lv st h) : Rch J ce sl pc lv (.int y :: .int x :: st) h :=
  fun l G sg R p e s m args below meth c H locs ls hR C hl hH hS => lv_icmp_le C.1 C.2.1 hd ht (fun c_ => kt c_ l G sg R p e s m args below meth c H locs ls hR C hl hH hS) (fun c_ => kf c_ l G sg R p e s m args below meth c H locs ls hR C hl hH hS)
theorem r_if_le {J : Jb} {ce sl pc : Nat} {lv : List (Option Value)} {st : List Value} {h : AHp} {x : Int32} {off : Int} (tgt : Nat) (hd : decode J.1.2.1 pc = .ok (.ifCond .le off, 3)) (ht : (pc : Int) + off = (tgt : Int)) (kt : x ≤ 0 → Rch J ce sl tgt lv st h) (kf : ¬ x ≤ 0 → Rch J ce sl (pc + 3) lv st h) : Rch J ce sl pc lv (.int x :: st) h :=
  fun l G sg R p e s m args below meth c H locs ls hR C hl hH hS => lv_if_le C.1 C.2.1 hd ht (fun c_ => kt c_ l G sg R p e s m args below meth c H locs ls hR C hl hH hS) (fun c_ => kf c_ l G sg R p e s m args below meth c H locs ls hR C hl hH hS)
theorem r_goto {J : Jb} {ce sl pc : Nat} {lv : List (Option Value)} {st : List Value} {h : AHp} {off : Int} (tgt : Nat) (hd : decode J.1.2.1 pc = .ok (.goto off, 3)) (ht : (pc : Int) + off = (tgt : Int)) (k : Rch J ce sl tgt lv st h) : Rch J ce sl pc lv st h :=
  fun l G sg R p e s m args below meth c H locs ls hR C hl hH hS => lv_goto C.1 C.2.1 hd ht (k l G sg R p e s m args below meth c H locs ls hR C hl hH hS)
theorem r_lcmp {J : Jb} {ce sl pc : Nat} {lv : List (Option Value)} {st : List Value} {h : AHp} {x y : Int64} (hd : decode J.1.2.1 pc = .ok (.lcmp, 1)) (k : Rch J ce sl (pc + 1) lv (.int (lg_cmp x y) :: st) h) : Rch J ce sl pc lv (.long y :: .long x :: st) h :=
  fun l G sg R p e s m args below meth c H locs ls hR C hl hH hS => W.lcmp C.1 C.2.1 hd (k l G sg R p e s m args below meth c H locs ls hR C hl hH hS)
theorem r_ifnull {J : Jb} {ce sl pc : Nat} {lv : List (Option Value)} {st : List Value} {h : AHp} {x : Nat} {off : Int} (hd : decode J.1.2.1 pc = .ok (.ifnull off, 3)) (k : Rch J ce sl (pc + 3) lv st h) : Rch J ce sl pc lv (.ref x :: st) h :=
  fun l G sg R p e s m args below meth c H locs ls hR C hl hH hS => lv_ifnull C.1 C.2.1 hd (k l G sg R p e s m args below meth c H locs ls hR C hl hH hS)
theorem r_ifnullN {J : Jb} {ce sl pc : Nat} {lv : List (Option Value)} {st : List Value} {h : AHp} {off : Int} (tgt : Nat) (hd : decode J.1.2.1 pc = .ok (.ifnull off, 3)) (ht : (pc : Int) + off = (tgt : Int)) (k : Rch J ce sl tgt lv st h) : Rch J ce sl pc lv (.null :: st) h :=
  fun l G sg R p e s m args below meth c H locs ls hR C hl hH hS => lv_ifnullN C.1 C.2.1 hd ht (k l G sg R p e s m args below meth c H locs ls hR C hl hH hS)
theorem r_ifnonnull {J : Jb} {ce sl pc : Nat} {lv : List (Option Value)} {st : List Value} {h : AHp} {x : Nat} {off : Int} (tgt : Nat) (hd : decode J.1.2.1 pc = .ok (.ifnonnull off, 3)) (ht : (pc : Int) + off = (tgt : Int)) (k : Rch J ce sl tgt lv st h) : Rch J ce sl pc lv (.ref x :: st) h :=
  fun l G sg R p e s m args below meth c H locs ls hR C hl hH hS => lv_ifnonnull C.1 C.2.1 hd ht (k l G sg R p e s m args below meth c H locs ls hR C hl hH hS)
theorem r_ifnonnullN {J : Jb} {ce sl pc : Nat} {lv : List (Option Value)} {st : List Value} {h : AHp} {off : Int} (hd : decode J.1.2.1 pc = .ok (.ifnonnull off, 3)) (k : Rch J ce sl (pc + 3) lv st h) : Rch J ce sl pc lv (.null :: st) h :=
  fun l G sg R p e s m args below meth c H locs ls hR C hl hH hS => lv_ifnonnullN C.1 C.2.1 hd (k l G sg R p e s m args below meth c H locs ls hR C hl hH hS)
theorem r_aload_nN {J : Jb} {ce sl pc : Nat} {lv : List (Option Value)} {st : List Value} {h : AHp} {n : Fin 4} (hd : decode J.1.2.1 pc = .ok (.aload_n n, 1)) (hv : lv[(n : Nat)]? = some (some .null)) (k : Rch J ce sl (pc + 1) lv (.null :: st) h) : Rch J ce sl pc lv st h :=
  fun l G sg R p e s m args below meth c H locs ls hR C hl hH hS => lv_aload_nN C.1 C.2.1 hd rfl (hl.2.2 _ _ hv) (k l G sg R p e s m args below meth c H locs ls hR C hl hH hS)
theorem r_ldc {J : Jb} {ce sl pc : Nat} {lv : List (Option Value)} {st : List Value} {h : AHp} {i : Nat} {v : Int32} (hq : Cond.constant J.1.1.cls i v ∈ lw_all) (hd : decode J.1.2.1 pc = .ok (.ldc i, 2)) (k : Rch J ce sl (pc + 2) lv (.int v :: st) h) : Rch J ce sl pc lv st h :=
  fun l G sg R p e s m args below meth c H locs ls hR C hl hH hS => lv_ldc C.1 C.2.1 C.2.2.2.2.1 (C.2.2.2.2.2.1 _ hq) hd (k l G sg R p e s m args below meth c H locs ls hR C hl hH hS)
theorem r_ldc2 {J : Jb} {ce sl pc : Nat} {lv : List (Option Value)} {st : List Value} {h : AHp} {i : Nat} {v : Int64} (hq : Cond.constantLong J.1.1.cls i v ∈ lw_all) (hd : decode J.1.2.1 pc = .ok (.ldc2_w i, 3)) (k : Rch J ce sl (pc + 3) lv (.long v :: st) h) : Rch J ce sl pc lv st h :=
  fun l G sg R p e s m args below meth c H locs ls hR C hl hH hS => lv_ldc2 C.1 C.2.1 C.2.2.2.2.1 (C.2.2.2.2.2.1 _ hq) hd (k l G sg R p e s m args below meth c H locs ls hR C hl hH hS)
theorem r_tableOut {J : Jb} {ce sl pc : Nat} {lv : List (Option Value)} {st : List Value} {h : AHp} {dflt lo hi : Int} {offs : Array Int} {len : Nat} {x : Int32} (tgt : Nat) (hd : decode J.1.2.1 pc = .ok (.tableswitch dflt lo hi offs, len)) (hx : x.toInt < lo ∨ hi < x.toInt) (ht : (pc : Int) + dflt = (tgt : Int)) (k : Rch J ce sl tgt lv st h) : Rch J ce sl pc lv (.int x :: st) h :=
  fun l G sg R p e s m args below meth c H locs ls hR C hl hH hS => lv_tableOut C.1 C.2.1 hd hx ht (k l G sg R p e s m args below meth c H locs ls hR C hl hH hS)
theorem r_tableIn {J : Jb} {ce sl pc : Nat} {lv : List (Option Value)} {st : List Value} {h : AHp} {dflt lo hi off : Int} {offs : Array Int} {len : Nat} {x : Int32} (tgt : Nat) (hd : decode J.1.2.1 pc = .ok (.tableswitch dflt lo hi offs, len)) (h1 : ¬ x.toInt < lo) (h2 : ¬ hi < x.toInt) (ho : offs[(x.toInt - lo).toNat]? = some off) (ht : (pc : Int) + off = (tgt : Int)) (k : Rch J ce sl tgt lv st h) : Rch J ce sl pc lv (.int x :: st) h :=
  fun l G sg R p e s m args below meth c H locs ls hR C hl hH hS => lv_tableIn C.1 C.2.1 hd h1 h2 ho ht (k l G sg R p e s m args below meth c H locs ls hR C hl hH hS)
theorem r_lookup {J : Jb} {ce sl pc : Nat} {lv : List (Option Value)} {st : List Value} {h : AHp} {dflt off : Int} {ps : Array (Int × Int)} {len : Nat} {x : Int32} (tgt : Nat) (hd : decode J.1.2.1 pc = .ok (.lookupswitch dflt ps, len)) (hp : (ps.toList.zip (ps.toList.drop 1)).all (fun (a, next) => a.1 < next.1) = true) (ho : Op.lookupswitch.offset ps.toList dflt x.toInt = off) (ht : (pc : Int) + off = (tgt : Int)) (k : Rch J ce sl tgt lv st h) : Rch J ce sl pc lv (.int x :: st) h :=
  fun l G sg R p e s m args below meth c H locs ls hR C hl hH hS => lv_lookup C.1 C.2.1 hd hp ho ht (k l G sg R p e s m args below meth c H locs ls hR C hl hH hS)
def lvClr (lv : List (Option Value)) (i : Nat) : List (Option Value) := match i with
  | 0 => lv
  | j + 1 => match lv[j]? with
    | some (some w) => if w.category = 2 then lv.set j none else lv
    | _ => lv
def lvS1 (lv : List (Option Value)) (i : Nat) (v : Value) : List (Option Value) := (lvClr lv i).set i (some v)
def lvS2 (lv : List (Option Value)) (i : Nat) (v : Value) : List (Option Value) := ((lvClr lv i).set (i + 1) none).set i (some v)
def lvl (sg : Nat → Nat) (lv : List (Option Value)) : List (Nat × Value) := (List.range lv.length).filterMap (fun i => match lv[i]? with
  | some (some v) => some (i, rv sg v)
  | _ => none)
theorem lvl_mem {sg : Nat → Nat} {lv : List (Option Value)} {i : Nat} {v : Value} (h : lv[i]? = some (some v)) : (i, rv sg v) ∈ lvl sg lv := by
  refine List.mem_filterMap.mpr ⟨i, List.mem_range.mpr (List.getElem?_eq_some_iff.mp h).1, ?_⟩
  simp [h]
theorem LvH.has {sg : Nat → Nat} {ls : Array Slot} {nL : Nat} {lv : List (Option Value)} (h : LvH sg ls nL lv) : lv_has ls nL (lvl sg lv) := by
  refine ⟨h.1, h.2.1, fun q hq => ?_⟩
  obtain ⟨i, -, hi⟩ := List.mem_filterMap.mp hq
  split at hi
  · rename_i v hv
    cases hi
    exact h.2.2 i v hv
  · cases hi
theorem lvClr_get {lv : List (Option Value)} {i j : Nat} {w : Value} (h : (lvClr lv i)[j]? = some (some w)) : lv[j]? = some (some w) ∧ ¬ (j + 1 = i ∧ w.category = 2) := by
  unfold lvClr at h
  split at h
  · exact ⟨h, fun q => by omega⟩
  · rename_i k
    split at h
    · rename_i u hu
      split at h
      · rename_i hc
        by_cases hj : j = k
        · subst hj
          rw [List.getElem?_set_self (List.getElem?_eq_some_iff.mp hu).1] at h
          cases h
        · rw [List.getElem?_set_ne (Ne.symm hj)] at h
          exact ⟨h, fun q => hj (by omega)⟩
      · rename_i hc
        refine ⟨h, fun q => ?_⟩
        have : j = k := by omega
        subst this
        rw [hu] at h
        cases h
        exact hc q.2
    · rename_i hn
      refine ⟨h, fun q => ?_⟩
      have : j = k := by omega
      subst this
      exact hn w h
theorem LvH.store1 {sg : Nat → Nat} {ls : Array Slot} {nL i : Nat} {lv : List (Option Value)} {v : Value} (h : lv_has ls nL ((i, rv sg v) :: (lvl sg lv).filter (fun q => !(q.1 == i) && !(q.1 + 1 == i && q.2.category == 2)))) : LvH sg ls nL (lvS1 lv i v) := by
  refine ⟨h.1, h.2.1, fun j w hw => ?_⟩
  unfold lvS1 at hw
  by_cases hj : j = i
  · subst hj
    have hlt := (List.getElem?_eq_some_iff.mp hw).1
    rw [List.length_set] at hlt
    rw [List.getElem?_set_self hlt] at hw
    cases hw
    exact h.2.2 _ List.mem_cons_self
  · rw [List.getElem?_set_ne (Ne.symm hj)] at hw
    obtain ⟨h1, h2⟩ := lvClr_get hw
    refine h.2.2 (j, rv sg w) (List.mem_cons_of_mem _ (List.mem_filter.mpr ⟨lvl_mem h1, ?_⟩))
    have h3 : ¬ (j + 1 = i ∧ (rv sg w).category = 2) := by rw [rv_cat]; exact h2
    simp only [Bool.and_eq_true, Bool.not_eq_true', beq_eq_false_iff_ne, ne_eq, Bool.and_eq_false_iff]
    refine ⟨hj, ?_⟩
    by_cases h4 : j + 1 = i
    · right
      exact fun q => h3 ⟨h4, q⟩
    · left
      exact h4
theorem LvH.store2 {sg : Nat → Nat} {ls : Array Slot} {nL i : Nat} {lv : List (Option Value)} {v : Value} (h : lv_has ls nL ((i, rv sg v) :: (lvl sg lv).filter (fun q => !(q.1 == i) && (!(q.1 == i + 1) && !(q.1 + 1 == i && q.2.category == 2))))) : LvH sg ls nL (lvS2 lv i v) := by
  refine ⟨h.1, h.2.1, fun j w hw => ?_⟩
  unfold lvS2 at hw
  by_cases hj : j = i
  · subst hj
    have hlt := (List.getElem?_eq_some_iff.mp hw).1
    rw [List.length_set] at hlt
    rw [List.getElem?_set_self hlt] at hw
    cases hw
    exact h.2.2 _ List.mem_cons_self
  · rw [List.getElem?_set_ne (Ne.symm hj)] at hw
    by_cases hj2 : j = i + 1
    · subst hj2
      have hlt := (List.getElem?_eq_some_iff.mp hw).1
      rw [List.length_set] at hlt
      rw [List.getElem?_set_self hlt] at hw
      cases hw
    · rw [List.getElem?_set_ne (Ne.symm hj2)] at hw
      obtain ⟨h1, h2⟩ := lvClr_get hw
      refine h.2.2 (j, rv sg w) (List.mem_cons_of_mem _ (List.mem_filter.mpr ⟨lvl_mem h1, ?_⟩))
      have h3 : ¬ (j + 1 = i ∧ (rv sg w).category = 2) := by rw [rv_cat]; exact h2
      simp only [Bool.and_eq_true, Bool.not_eq_true', beq_eq_false_iff_ne, ne_eq, Bool.and_eq_false_iff]
      refine ⟨hj, hj2, ?_⟩
      by_cases h4 : j + 1 = i
      · right
        exact fun q => h3 ⟨h4, q⟩
      · left
        exact h4
theorem r_istore_n {J : Jb} {ce sl pc : Nat} {lv : List (Option Value)} {st : List Value} {h : AHp} {n : Fin 4} {x : Int32} (hd : decode J.1.2.1 pc = .ok (.istore_n n, 1)) (hn : (n : Nat) < J.1.2.2.1) (k : Rch J ce sl (pc + 1) (lvS1 lv n (.int x)) st h) : Rch J ce sl pc lv (.int x :: st) h :=
  fun l G sg R p e s m args below meth c H locs ls hR C hl hH hS => lv_istore_n C.1 C.2.1 hd rfl hl.has hn rfl (fun ls2 hl2 => k l G sg R p e s m args below meth c H locs ls2 hR C (LvH.store1 hl2) hH hS)
theorem r_istore {J : Jb} {ce sl pc : Nat} {lv : List (Option Value)} {st : List Value} {h : AHp} {n : Nat} {x : Int32} (hd : decode J.1.2.1 pc = .ok (.istore n, 2)) (hn : n < J.1.2.2.1) (k : Rch J ce sl (pc + 2) (lvS1 lv n (.int x)) st h) : Rch J ce sl pc lv (.int x :: st) h :=
  fun l G sg R p e s m args below meth c H locs ls hR C hl hH hS => lv_istore C.1 C.2.1 hd hl.has hn rfl (fun ls2 hl2 => k l G sg R p e s m args below meth c H locs ls2 hR C (LvH.store1 hl2) hH hS)
theorem r_lstore_n {J : Jb} {ce sl pc : Nat} {lv : List (Option Value)} {st : List Value} {h : AHp} {n : Fin 4} {x : Int64} (hd : decode J.1.2.1 pc = .ok (.lstore_n n, 1)) (hn : (n : Nat) + 1 < J.1.2.2.1) (k : Rch J ce sl (pc + 1) (lvS2 lv n (.long x)) st h) : Rch J ce sl pc lv (.long x :: st) h :=
  fun l G sg R p e s m args below meth c H locs ls hR C hl hH hS => lv_lstore_n C.1 C.2.1 hd rfl hl.has hn rfl (fun ls2 hl2 => k l G sg R p e s m args below meth c H locs ls2 hR C (LvH.store2 hl2) hH hS)
theorem r_lstore {J : Jb} {ce sl pc : Nat} {lv : List (Option Value)} {st : List Value} {h : AHp} {n : Nat} {x : Int64} (hd : decode J.1.2.1 pc = .ok (.lstore n, 2)) (hn : n + 1 < J.1.2.2.1) (k : Rch J ce sl (pc + 2) (lvS2 lv n (.long x)) st h) : Rch J ce sl pc lv (.long x :: st) h :=
  fun l G sg R p e s m args below meth c H locs ls hR C hl hH hS => lv_lstore C.1 C.2.1 hd hl.has hn rfl (fun ls2 hl2 => k l G sg R p e s m args below meth c H locs ls2 hR C (LvH.store2 hl2) hH hS)
theorem r_astore_n {J : Jb} {ce sl pc : Nat} {lv : List (Option Value)} {st : List Value} {h : AHp} {n : Fin 4} {x : Nat} (hd : decode J.1.2.1 pc = .ok (.astore_n n, 1)) (hn : (n : Nat) < J.1.2.2.1) (k : Rch J ce sl (pc + 1) (lvS1 lv n (.ref x)) st h) : Rch J ce sl pc lv (.ref x :: st) h :=
  fun l G sg R p e s m args below meth c H locs ls hR C hl hH hS => lv_astore_n C.1 C.2.1 hd rfl hl.has hn rfl (fun ls2 hl2 => k l G sg R p e s m args below meth c H locs ls2 hR C (LvH.store1 hl2) hH hS)
theorem r_astore {J : Jb} {ce sl pc : Nat} {lv : List (Option Value)} {st : List Value} {h : AHp} {n : Nat} {x : Nat} (hd : decode J.1.2.1 pc = .ok (.astore n, 2)) (hn : n < J.1.2.2.1) (k : Rch J ce sl (pc + 2) (lvS1 lv n (.ref x)) st h) : Rch J ce sl pc lv (.ref x :: st) h :=
  fun l G sg R p e s m args below meth c H locs ls hR C hl hH hS => lv_astore C.1 C.2.1 hd hl.has hn rfl (fun ls2 hl2 => k l G sg R p e s m args below meth c H locs ls2 hR C (LvH.store1 hl2) hH hS)
theorem r_iinc {J : Jb} {ce sl pc : Nat} {lv : List (Option Value)} {st : List Value} {h : AHp} {i : Nat} {n : Int} {x : Int32} (hd : decode J.1.2.1 pc = .ok (.iinc i n, 3)) (hv : lv[i]? = some (some (.int x))) (hn : i < J.1.2.2.1) (k : Rch J ce sl (pc + 3) (lvS1 lv i (.int (x + Int32.ofInt n))) st h) : Rch J ce sl pc lv st h := by
  intro l G sg R p e s m args below meth c H locs ls hR C hl hH hS
  obtain ⟨q, hq⟩ := List.getElem?_of_mem (lvl_mem (sg := sg) hv)
  exact lv_iinc C.1 C.2.1 hd hl.has hq rfl hn rfl (fun ls2 hl2 => k l G sg R p e s m args below meth c H locs ls2 hR C (LvH.store1 (v := .int (x + Int32.ofInt n)) hl2) hH hS)
