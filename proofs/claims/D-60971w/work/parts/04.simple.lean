section XS
variable {G : xG} {Y : xY} {fr lo pc : Nat} {lv : List (Nat × Value)} {st : List Value} {h : xH} {Q : Outcome → xH → Prop}
theorem x_iconst {i : Int} {v : Int32} (d : decode (yC Y) pc = .ok (.iconst i, 1)) (hv : Int32.ofInt i = v) (kk : xP G Y fr lo (pc + 1) lv (.int v :: st) h Q) : xP G Y fr lo pc lv (st) h Q :=
  xP.step (fun p l e R s m args below meth c u0 Z H locs ls k n C hR hl kk => lv_iconst C.1 C.2.1 d hv (kk ls hl)) kk
theorem x_bipush {i : Int} {v : Int32} (d : decode (yC Y) pc = .ok (.bipush i, 2)) (hv : (Int8.ofInt i).toInt32 = v) (kk : xP G Y fr lo (pc + 2) lv (.int v :: st) h Q) : xP G Y fr lo pc lv (st) h Q :=
  xP.step (fun p l e R s m args below meth c u0 Z H locs ls k n C hR hl kk => lv_bipush C.1 C.2.1 d hv (kk ls hl)) kk
theorem x_sipush {i : Int} {v : Int32} (d : decode (yC Y) pc = .ok (.sipush i, 3)) (hv : (Int16.ofInt i).toInt32 = v) (kk : xP G Y fr lo (pc + 3) lv (.int v :: st) h Q) : xP G Y fr lo pc lv (st) h Q :=
  xP.step (fun p l e R s m args below meth c u0 Z H locs ls k n C hR hl kk => lv_sipush C.1 C.2.1 d hv (kk ls hl)) kk
theorem x_lconst {i : Fin 2} {v : Int64} (d : decode (yC Y) pc = .ok (.lconst i, 1)) (hv : Int64.ofNat (i : Nat) = v) (kk : xP G Y fr lo (pc + 1) lv (.long v :: st) h Q) : xP G Y fr lo pc lv (st) h Q :=
  xP.step (fun p l e R s m args below meth c u0 Z H locs ls k n C hR hl kk => lv_lconst C.1 C.2.1 d hv (kk ls hl)) kk
theorem x_dconst0 (d : decode (yC Y) pc = .ok (.dconst 0, 1)) (kk : xP G Y fr lo (pc + 1) lv (.double FP.dconst0 :: st) h Q) : xP G Y fr lo pc lv (st) h Q :=
  xP.step (fun p l e R s m args below meth c u0 Z H locs ls k n C hR hl kk => lv_dconst0 C.1 C.2.1 d (kk ls hl)) kk
theorem x_dconst1 (d : decode (yC Y) pc = .ok (.dconst 1, 1)) (kk : xP G Y fr lo (pc + 1) lv (.double FP.dconst1 :: st) h Q) : xP G Y fr lo pc lv (st) h Q :=
  xP.step (fun p l e R s m args below meth c u0 Z H locs ls k n C hR hl kk => lv_dconst1 C.1 C.2.1 d (kk ls hl)) kk
theorem x_null (d : decode (yC Y) pc = .ok (.aconst_null, 1)) (kk : xP G Y fr lo (pc + 1) lv (rv 0 :: st) h Q) : xP G Y fr lo pc lv (st) h Q :=
  xP.step (fun p l e R s m args below meth c u0 Z H locs ls k n C hR hl kk => lv_null C.1 C.2.1 d (kk ls hl)) kk
theorem x_iload_n {i : Fin 4} {x : Int32} (j : Nat) (d : decode (yC Y) pc = .ok (.iload_n i, 1)) (hj : lv[j]? = some ((i : Nat), .int x)) (kk : xP G Y fr lo (pc + 1) lv (.int x :: st) h Q) : xP G Y fr lo pc lv (st) h Q :=
  xP.step (fun p l e R s m args below meth c u0 Z H locs ls k n C hR hl kk => lv_iload_n C.1 C.2.1 d rfl (lv_at hl j hj) (kk ls hl)) kk
theorem x_iload {i : Nat} {x : Int32} (j : Nat) (d : decode (yC Y) pc = .ok (.iload i, 2)) (hj : lv[j]? = some (i, .int x)) (kk : xP G Y fr lo (pc + 2) lv (.int x :: st) h Q) : xP G Y fr lo pc lv (st) h Q :=
  xP.step (fun p l e R s m args below meth c u0 Z H locs ls k n C hR hl kk => lv_iload C.1 C.2.1 d (lv_at hl j hj) (kk ls hl)) kk
theorem x_lload_n {i : Fin 4} {x : Int64} (j : Nat) (d : decode (yC Y) pc = .ok (.lload_n i, 1)) (hj : lv[j]? = some ((i : Nat), .long x)) (kk : xP G Y fr lo (pc + 1) lv (.long x :: st) h Q) : xP G Y fr lo pc lv (st) h Q :=
  xP.step (fun p l e R s m args below meth c u0 Z H locs ls k n C hR hl kk => lv_lload_n C.1 C.2.1 d rfl (lv_at hl j hj) (kk ls hl)) kk
theorem x_lload {i : Nat} {x : Int64} (j : Nat) (d : decode (yC Y) pc = .ok (.lload i, 2)) (hj : lv[j]? = some (i, .long x)) (kk : xP G Y fr lo (pc + 2) lv (.long x :: st) h Q) : xP G Y fr lo pc lv (st) h Q :=
  xP.step (fun p l e R s m args below meth c u0 Z H locs ls k n C hR hl kk => lv_lload C.1 C.2.1 d (lv_at hl j hj) (kk ls hl)) kk
theorem x_dload_n {i : Fin 4} {x : UInt64} (j : Nat) (d : decode (yC Y) pc = .ok (.dload_n i, 1)) (hj : lv[j]? = some ((i : Nat), .double x)) (kk : xP G Y fr lo (pc + 1) lv (.double x :: st) h Q) : xP G Y fr lo pc lv (st) h Q :=
  xP.step (fun p l e R s m args below meth c u0 Z H locs ls k n C hR hl kk => lv_dload_n C.1 C.2.1 d rfl (lv_at hl j hj) (kk ls hl)) kk
theorem x_dload {i : Nat} {x : UInt64} (j : Nat) (d : decode (yC Y) pc = .ok (.dload i, 2)) (hj : lv[j]? = some (i, .double x)) (kk : xP G Y fr lo (pc + 2) lv (.double x :: st) h Q) : xP G Y fr lo pc lv (st) h Q :=
  xP.step (fun p l e R s m args below meth c u0 Z H locs ls k n C hR hl kk => lv_dload C.1 C.2.1 d (lv_at hl j hj) (kk ls hl)) kk
theorem x_iadd {x y : Int32} (d : decode (yC Y) pc = .ok (.iadd, 1)) (kk : xP G Y fr lo (pc + 1) lv (.int (x + y) :: st) h Q) : xP G Y fr lo pc lv (.int y :: .int x :: st) h Q :=
  xP.step (fun p l e R s m args below meth c u0 Z H locs ls k n C hR hl kk => lv_iadd C.1 C.2.1 d (kk ls hl)) kk
theorem x_isub {x y : Int32} (d : decode (yC Y) pc = .ok (.isub, 1)) (kk : xP G Y fr lo (pc + 1) lv (.int (x - y) :: st) h Q) : xP G Y fr lo pc lv (.int y :: .int x :: st) h Q :=
  xP.step (fun p l e R s m args below meth c u0 Z H locs ls k n C hR hl kk => lv_isub C.1 C.2.1 d (kk ls hl)) kk
theorem x_imul {x y : Int32} (d : decode (yC Y) pc = .ok (.imul, 1)) (kk : xP G Y fr lo (pc + 1) lv (.int (x * y) :: st) h Q) : xP G Y fr lo pc lv (.int y :: .int x :: st) h Q :=
  xP.step (fun p l e R s m args below meth c u0 Z H locs ls k n C hR hl kk => lv_imul C.1 C.2.1 d (kk ls hl)) kk
theorem x_iand {x y : Int32} (d : decode (yC Y) pc = .ok (.iand, 1)) (kk : xP G Y fr lo (pc + 1) lv (.int (x &&& y) :: st) h Q) : xP G Y fr lo pc lv (.int y :: .int x :: st) h Q :=
  xP.step (fun p l e R s m args below meth c u0 Z H locs ls k n C hR hl kk => lv_iand C.1 C.2.1 d (kk ls hl)) kk
theorem x_ior {x y : Int32} (d : decode (yC Y) pc = .ok (.ior, 1)) (kk : xP G Y fr lo (pc + 1) lv (.int (x ||| y) :: st) h Q) : xP G Y fr lo pc lv (.int y :: .int x :: st) h Q :=
  xP.step (fun p l e R s m args below meth c u0 Z H locs ls k n C hR hl kk => lv_ior C.1 C.2.1 d (kk ls hl)) kk
theorem x_ixor {x y : Int32} (d : decode (yC Y) pc = .ok (.ixor, 1)) (kk : xP G Y fr lo (pc + 1) lv (.int (x ^^^ y) :: st) h Q) : xP G Y fr lo pc lv (.int y :: .int x :: st) h Q :=
  xP.step (fun p l e R s m args below meth c u0 Z H locs ls k n C hR hl kk => lv_ixor C.1 C.2.1 d (kk ls hl)) kk
theorem x_ladd {x y : Int64} (d : decode (yC Y) pc = .ok (.ladd, 1)) (kk : xP G Y fr lo (pc + 1) lv (.long (x + y) :: st) h Q) : xP G Y fr lo pc lv (.long y :: .long x :: st) h Q :=
  xP.step (fun p l e R s m args below meth c u0 Z H locs ls k n C hR hl kk => lv_ladd C.1 C.2.1 d (kk ls hl)) kk
theorem x_lsub {x y : Int64} (d : decode (yC Y) pc = .ok (.lsub, 1)) (kk : xP G Y fr lo (pc + 1) lv (.long (x - y) :: st) h Q) : xP G Y fr lo pc lv (.long y :: .long x :: st) h Q :=
  xP.step (fun p l e R s m args below meth c u0 Z H locs ls k n C hR hl kk => lv_lsub C.1 C.2.1 d (kk ls hl)) kk
theorem x_lmul {x y : Int64} (d : decode (yC Y) pc = .ok (.lmul, 1)) (kk : xP G Y fr lo (pc + 1) lv (.long (x * y) :: st) h Q) : xP G Y fr lo pc lv (.long y :: .long x :: st) h Q :=
  xP.step (fun p l e R s m args below meth c u0 Z H locs ls k n C hR hl kk => lv_lmul C.1 C.2.1 d (kk ls hl)) kk
theorem x_land {x y : Int64} (d : decode (yC Y) pc = .ok (.land, 1)) (kk : xP G Y fr lo (pc + 1) lv (.long (x &&& y) :: st) h Q) : xP G Y fr lo pc lv (.long y :: .long x :: st) h Q :=
  xP.step (fun p l e R s m args below meth c u0 Z H locs ls k n C hR hl kk => lv_land C.1 C.2.1 d (kk ls hl)) kk
theorem x_lor {x y : Int64} (d : decode (yC Y) pc = .ok (.lor, 1)) (kk : xP G Y fr lo (pc + 1) lv (.long (x ||| y) :: st) h Q) : xP G Y fr lo pc lv (.long y :: .long x :: st) h Q :=
  xP.step (fun p l e R s m args below meth c u0 Z H locs ls k n C hR hl kk => lv_lor C.1 C.2.1 d (kk ls hl)) kk
theorem x_lxor {x y : Int64} (d : decode (yC Y) pc = .ok (.lxor, 1)) (kk : xP G Y fr lo (pc + 1) lv (.long (x ^^^ y) :: st) h Q) : xP G Y fr lo pc lv (.long y :: .long x :: st) h Q :=
  xP.step (fun p l e R s m args below meth c u0 Z H locs ls k n C hR hl kk => lv_lxor C.1 C.2.1 d (kk ls hl)) kk
theorem x_idiv {x y : Int32} (d : decode (yC Y) pc = .ok (.idiv, 1)) (hz : ¬ y = 0) (kk : xP G Y fr lo (pc + 1) lv (.int (x / y) :: st) h Q) : xP G Y fr lo pc lv (.int y :: .int x :: st) h Q :=
  xP.step (fun p l e R s m args below meth c u0 Z H locs ls k n C hR hl kk => lv_idiv C.1 C.2.1 d hz (kk ls hl)) kk
theorem x_irem {x y : Int32} (d : decode (yC Y) pc = .ok (.irem, 1)) (hz : ¬ y = 0) (kk : xP G Y fr lo (pc + 1) lv (.int (x - x / y * y) :: st) h Q) : xP G Y fr lo pc lv (.int y :: .int x :: st) h Q :=
  xP.step (fun p l e R s m args below meth c u0 Z H locs ls k n C hR hl kk => lv_irem C.1 C.2.1 d hz (kk ls hl)) kk
theorem x_ldiv {x y : Int64} (d : decode (yC Y) pc = .ok (.ldiv, 1)) (hz : ¬ y = 0) (kk : xP G Y fr lo (pc + 1) lv (.long (x / y) :: st) h Q) : xP G Y fr lo pc lv (.long y :: .long x :: st) h Q :=
  xP.step (fun p l e R s m args below meth c u0 Z H locs ls k n C hR hl kk => lv_ldiv C.1 C.2.1 d hz (kk ls hl)) kk
theorem x_lrem {x y : Int64} (d : decode (yC Y) pc = .ok (.lrem, 1)) (hz : ¬ y = 0) (kk : xP G Y fr lo (pc + 1) lv (.long (x - x / y * y) :: st) h Q) : xP G Y fr lo pc lv (.long y :: .long x :: st) h Q :=
  xP.step (fun p l e R s m args below meth c u0 Z H locs ls k n C hR hl kk => lv_lrem C.1 C.2.1 d hz (kk ls hl)) kk
theorem x_ineg {x : Int32} (d : decode (yC Y) pc = .ok (.ineg, 1)) (kk : xP G Y fr lo (pc + 1) lv (.int (-x) :: st) h Q) : xP G Y fr lo pc lv (.int x :: st) h Q :=
  xP.step (fun p l e R s m args below meth c u0 Z H locs ls k n C hR hl kk => lv_ineg C.1 C.2.1 d (kk ls hl)) kk
theorem x_lneg {x : Int64} (d : decode (yC Y) pc = .ok (.lneg, 1)) (kk : xP G Y fr lo (pc + 1) lv (.long (-x) :: st) h Q) : xP G Y fr lo pc lv (.long x :: st) h Q :=
  xP.step (fun p l e R s m args below meth c u0 Z H locs ls k n C hR hl kk => lv_lneg C.1 C.2.1 d (kk ls hl)) kk
theorem x_ishl {x y : Int32} (d : decode (yC Y) pc = .ok (.ishl, 1)) (kk : xP G Y fr lo (pc + 1) lv (.int (x <<< (y &&& 31)) :: st) h Q) : xP G Y fr lo pc lv (.int y :: .int x :: st) h Q :=
  xP.step (fun p l e R s m args below meth c u0 Z H locs ls k n C hR hl kk => lv_ishl C.1 C.2.1 d (kk ls hl)) kk
theorem x_ishr {x y : Int32} (d : decode (yC Y) pc = .ok (.ishr, 1)) (kk : xP G Y fr lo (pc + 1) lv (.int (x >>> (y &&& 31)) :: st) h Q) : xP G Y fr lo pc lv (.int y :: .int x :: st) h Q :=
  xP.step (fun p l e R s m args below meth c u0 Z H locs ls k n C hR hl kk => lv_ishr C.1 C.2.1 d (kk ls hl)) kk
theorem x_iushr {x y : Int32} (d : decode (yC Y) pc = .ok (.iushr, 1)) (kk : xP G Y fr lo (pc + 1) lv (.int ((x.toUInt32 >>> (y.toUInt32 &&& Int32.toUInt32 31)).toInt32) :: st) h Q) : xP G Y fr lo pc lv (.int y :: .int x :: st) h Q :=
  xP.step (fun p l e R s m args below meth c u0 Z H locs ls k n C hR hl kk => lv_iushr C.1 C.2.1 d rfl (kk ls hl)) kk
theorem x_lshl {x : Int64} {y : Int32} (d : decode (yC Y) pc = .ok (.lshl, 1)) (kk : xP G Y fr lo (pc + 1) lv (.long (x <<< (y.toInt64 &&& 63)) :: st) h Q) : xP G Y fr lo pc lv (.int y :: .long x :: st) h Q :=
  xP.step (fun p l e R s m args below meth c u0 Z H locs ls k n C hR hl kk => lv_lshl C.1 C.2.1 d rfl (kk ls hl)) kk
theorem x_lshr {x : Int64} {y : Int32} (d : decode (yC Y) pc = .ok (.lshr, 1)) (kk : xP G Y fr lo (pc + 1) lv (.long (x >>> (y.toInt64 &&& 63)) :: st) h Q) : xP G Y fr lo pc lv (.int y :: .long x :: st) h Q :=
  xP.step (fun p l e R s m args below meth c u0 Z H locs ls k n C hR hl kk => lv_lshr C.1 C.2.1 d rfl (kk ls hl)) kk
theorem x_lushr {x : Int64} {y : Int32} (d : decode (yC Y) pc = .ok (.lushr, 1)) (kk : xP G Y fr lo (pc + 1) lv (.long ((x.toUInt64 >>> (y.toInt64.toUInt64 &&& Int64.toUInt64 63)).toInt64) :: st) h Q) : xP G Y fr lo pc lv (.int y :: .long x :: st) h Q :=
  xP.step (fun p l e R s m args below meth c u0 Z H locs ls k n C hR hl kk => lv_lushr C.1 C.2.1 d rfl (kk ls hl)) kk
theorem x_i2l {x : Int32} (d : decode (yC Y) pc = .ok (.i2l, 1)) (kk : xP G Y fr lo (pc + 1) lv (.long x.toInt64 :: st) h Q) : xP G Y fr lo pc lv (.int x :: st) h Q :=
  xP.step (fun p l e R s m args below meth c u0 Z H locs ls k n C hR hl kk => lv_i2l C.1 C.2.1 d rfl (kk ls hl)) kk
theorem x_l2i {x : Int64} (d : decode (yC Y) pc = .ok (.l2i, 1)) (kk : xP G Y fr lo (pc + 1) lv (.int x.toInt32 :: st) h Q) : xP G Y fr lo pc lv (.long x :: st) h Q :=
  xP.step (fun p l e R s m args below meth c u0 Z H locs ls k n C hR hl kk => lv_l2i C.1 C.2.1 d rfl (kk ls hl)) kk
theorem x_i2b {x : Int32} (d : decode (yC Y) pc = .ok (.i2b, 1)) (kk : xP G Y fr lo (pc + 1) lv (.int x.toInt8.toInt32 :: st) h Q) : xP G Y fr lo pc lv (.int x :: st) h Q :=
  xP.step (fun p l e R s m args below meth c u0 Z H locs ls k n C hR hl kk => lv_i2b C.1 C.2.1 d rfl (kk ls hl)) kk
theorem x_i2c {x : Int32} (d : decode (yC Y) pc = .ok (.i2c, 1)) (kk : xP G Y fr lo (pc + 1) lv (.int (x.toUInt32 % 65536).toInt32 :: st) h Q) : xP G Y fr lo pc lv (.int x :: st) h Q :=
  xP.step (fun p l e R s m args below meth c u0 Z H locs ls k n C hR hl kk => lv_i2c C.1 C.2.1 d rfl (kk ls hl)) kk
theorem x_l2d {x : Int64} (d : decode (yC Y) pc = .ok (.l2d, 1)) (kk : xP G Y fr lo (pc + 1) lv (.double (FP.l2d x) :: st) h Q) : xP G Y fr lo pc lv (.long x :: st) h Q :=
  xP.step (fun p l e R s m args below meth c u0 Z H locs ls k n C hR hl kk => lv_l2d C.1 C.2.1 d (kk ls hl)) kk
theorem x_i2d {x : Int32} (d : decode (yC Y) pc = .ok (.i2d, 1)) (kk : xP G Y fr lo (pc + 1) lv (.double (FP.i2d x) :: st) h Q) : xP G Y fr lo pc lv (.int x :: st) h Q :=
  xP.step (fun p l e R s m args below meth c u0 Z H locs ls k n C hR hl kk => lv_i2d C.1 C.2.1 d (kk ls hl)) kk
theorem x_d2l {x : UInt64} (d : decode (yC Y) pc = .ok (.d2l, 1)) (kk : xP G Y fr lo (pc + 1) lv (.long (FP.d2l x) :: st) h Q) : xP G Y fr lo pc lv (.double x :: st) h Q :=
  xP.step (fun p l e R s m args below meth c u0 Z H locs ls k n C hR hl kk => lv_d2l C.1 C.2.1 d (kk ls hl)) kk
theorem x_dadd {x y : UInt64} (d : decode (yC Y) pc = .ok (.dadd, 1)) (hz : vf_n64 (FP.dadd x y)) (kk : xP G Y fr lo (pc + 1) lv (.double (FP.dadd x y) :: st) h Q) : xP G Y fr lo pc lv (.double y :: .double x :: st) h Q :=
  xP.step (fun p l e R s m args below meth c u0 Z H locs ls k n C hR hl kk => lv_dadd C.1 C.2.1 d hz (kk ls hl)) kk
theorem x_dsub {x y : UInt64} (d : decode (yC Y) pc = .ok (.dsub, 1)) (hz : vf_n64 (FP.dsub x y)) (kk : xP G Y fr lo (pc + 1) lv (.double (FP.dsub x y) :: st) h Q) : xP G Y fr lo pc lv (.double y :: .double x :: st) h Q :=
  xP.step (fun p l e R s m args below meth c u0 Z H locs ls k n C hR hl kk => lv_dsub C.1 C.2.1 d hz (kk ls hl)) kk
theorem x_dmul {x y : UInt64} (d : decode (yC Y) pc = .ok (.dmul, 1)) (hz : vf_n64 (FP.dmul x y)) (kk : xP G Y fr lo (pc + 1) lv (.double (FP.dmul x y) :: st) h Q) : xP G Y fr lo pc lv (.double y :: .double x :: st) h Q :=
  xP.step (fun p l e R s m args below meth c u0 Z H locs ls k n C hR hl kk => lv_dmul C.1 C.2.1 d hz (kk ls hl)) kk
theorem x_ddiv {x y : UInt64} (d : decode (yC Y) pc = .ok (.ddiv, 1)) (hz : vf_n64 (FP.ddiv x y)) (kk : xP G Y fr lo (pc + 1) lv (.double (FP.ddiv x y) :: st) h Q) : xP G Y fr lo pc lv (.double y :: .double x :: st) h Q :=
  xP.step (fun p l e R s m args below meth c u0 Z H locs ls k n C hR hl kk => lv_ddiv C.1 C.2.1 d hz (kk ls hl)) kk
theorem x_dneg {x : UInt64} (d : decode (yC Y) pc = .ok (.dneg, 1)) (kk : xP G Y fr lo (pc + 1) lv (.double (FP.dneg x) :: st) h Q) : xP G Y fr lo pc lv (.double x :: st) h Q :=
  xP.step (fun p l e R s m args below meth c u0 Z H locs ls k n C hR hl kk => lv_dneg C.1 C.2.1 d (kk ls hl)) kk
theorem x_dcmp {x y : UInt64} {op : CmpOp} (d : decode (yC Y) pc = .ok (.dcmp op, 1)) (kk : xP G Y fr lo (pc + 1) lv (.int (Op.cmpValue (FP.dcmp x y) op) :: st) h Q) : xP G Y fr lo pc lv (.double y :: .double x :: st) h Q :=
  xP.step (fun p l e R s m args below meth c u0 Z H locs ls k n C hR hl kk => lv_dcmp C.1 C.2.1 d (kk ls hl)) kk
theorem x_dup {v : Value} (d : decode (yC Y) pc = .ok (.dup, 1)) (hv : v.category = 1) (kk : xP G Y fr lo (pc + 1) lv (v :: v :: st) h Q) : xP G Y fr lo pc lv (v :: st) h Q :=
  xP.step (fun p l e R s m args below meth c u0 Z H locs ls k n C hR hl kk => lv_dup C.1 C.2.1 d hv (kk ls hl)) kk
theorem x_pop {v : Value} (d : decode (yC Y) pc = .ok (.pop, 1)) (hv : v.category = 1) (kk : xP G Y fr lo (pc + 1) lv (st) h Q) : xP G Y fr lo pc lv (v :: st) h Q :=
  xP.step (fun p l e R s m args below meth c u0 Z H locs ls k n C hR hl kk => lv_pop C.1 C.2.1 d hv (kk ls hl)) kk
theorem x_dup_x1 {v w : Value} (d : decode (yC Y) pc = .ok (.dup_x1, 1)) (hv : v.category = 1) (hw : w.category = 1) (kk : xP G Y fr lo (pc + 1) lv (v :: w :: v :: st) h Q) : xP G Y fr lo pc lv (v :: w :: st) h Q :=
  xP.step (fun p l e R s m args below meth c u0 Z H locs ls k n C hR hl kk => lv_dup_x1 C.1 C.2.1 d hv hw (kk ls hl)) kk
theorem x_dup2 {v w : Value} (d : decode (yC Y) pc = .ok (.dup2, 1)) (hv : v.category = 1) (hw : w.category = 1) (kk : xP G Y fr lo (pc + 1) lv (v :: w :: v :: w :: st) h Q) : xP G Y fr lo pc lv (v :: w :: st) h Q :=
  xP.step (fun p l e R s m args below meth c u0 Z H locs ls k n C hR hl kk => lv_dup2_11 C.1 C.2.1 d hv hw (kk ls hl)) kk
theorem rv_cat (r : Nat) : (rv r).category = 1 := by cases r <;> rfl
theorem x_aload_n {i : Fin 4} {x : Nat} (j : Nat) (d : decode (yC Y) pc = .ok (.aload_n i, 1)) (hj : lv[j]? = some ((i : Nat), rv x)) (kk : xP G Y fr lo (pc + 1) lv (rv x :: st) h Q) : xP G Y fr lo pc lv st h Q := by
  cases x with
  | zero => exact xP.step (fun p l e R s m args below meth c u0 Z H locs ls k n C hR hl kk => lv_aload_nN C.1 C.2.1 d rfl (lv_at hl j hj) (kk ls hl)) kk
  | succ x => exact xP.step (fun p l e R s m args below meth c u0 Z H locs ls k n C hR hl kk => lv_aload_n C.1 C.2.1 d rfl (lv_at hl j hj) (kk ls hl)) kk
theorem x_aload {i : Nat} {x : Nat} (j : Nat) (d : decode (yC Y) pc = .ok (.aload i, 2)) (hj : lv[j]? = some (i, rv x)) (kk : xP G Y fr lo (pc + 2) lv (rv x :: st) h Q) : xP G Y fr lo pc lv st h Q := by
  cases x with
  | zero => exact xP.step (fun p l e R s m args below meth c u0 Z H locs ls k n C hR hl kk => lv_aloadN C.1 C.2.1 d (lv_at hl j hj) (kk ls hl)) kk
  | succ x => exact xP.step (fun p l e R s m args below meth c u0 Z H locs ls k n C hR hl kk => lv_aload C.1 C.2.1 d (lv_at hl j hj) (kk ls hl)) kk
theorem x_istore_n {i : Fin 4} {x : Int32} {lv' : List (Nat × Value)} (d : decode (yC Y) pc = .ok (.istore_n i, 1)) (hn : (i : Nat) < yL Y) (hl : ((i : Nat), Value.int x) :: lv.filter (fun q => !(q.1 == (i : Nat)) && !(q.1 + 1 == (i : Nat) && q.2.category == 2)) = lv') (kk : xP G Y fr lo (pc + 1) lv' st h Q) : xP G Y fr lo pc lv (.int x :: st) h Q :=
  xP.step (fun p l e R s m args below meth c u0 Z H locs ls k n C hR hv kk => lv_istore_n C.1 C.2.1 d rfl hv hn hl kk) kk
theorem x_istore {i : Nat} {x : Int32} {lv' : List (Nat × Value)} (d : decode (yC Y) pc = .ok (.istore i, 2)) (hn : i < yL Y) (hl : (i, Value.int x) :: lv.filter (fun q => !(q.1 == i) && !(q.1 + 1 == i && q.2.category == 2)) = lv') (kk : xP G Y fr lo (pc + 2) lv' st h Q) : xP G Y fr lo pc lv (.int x :: st) h Q :=
  xP.step (fun p l e R s m args below meth c u0 Z H locs ls k n C hR hv kk => lv_istore C.1 C.2.1 d hv hn hl kk) kk
theorem x_lstore_n {i : Fin 4} {x : Int64} {lv' : List (Nat × Value)} (d : decode (yC Y) pc = .ok (.lstore_n i, 1)) (hn : (i : Nat) + 1 < yL Y) (hl : ((i : Nat), Value.long x) :: lv.filter (fun q => !(q.1 == (i : Nat)) && (!(q.1 == (i : Nat) + 1) && !(q.1 + 1 == (i : Nat) && q.2.category == 2))) = lv') (kk : xP G Y fr lo (pc + 1) lv' st h Q) : xP G Y fr lo pc lv (.long x :: st) h Q :=
  xP.step (fun p l e R s m args below meth c u0 Z H locs ls k n C hR hv kk => lv_lstore_n C.1 C.2.1 d rfl hv hn hl kk) kk
theorem x_lstore {i : Nat} {x : Int64} {lv' : List (Nat × Value)} (d : decode (yC Y) pc = .ok (.lstore i, 2)) (hn : i + 1 < yL Y) (hl : (i, Value.long x) :: lv.filter (fun q => !(q.1 == i) && (!(q.1 == i + 1) && !(q.1 + 1 == i && q.2.category == 2))) = lv') (kk : xP G Y fr lo (pc + 2) lv' st h Q) : xP G Y fr lo pc lv (.long x :: st) h Q :=
  xP.step (fun p l e R s m args below meth c u0 Z H locs ls k n C hR hv kk => lv_lstore C.1 C.2.1 d hv hn hl kk) kk
theorem x_dstore_n {i : Fin 4} {x : UInt64} {lv' : List (Nat × Value)} (d : decode (yC Y) pc = .ok (.dstore_n i, 1)) (hn : (i : Nat) + 1 < yL Y) (hl : ((i : Nat), Value.double x) :: lv.filter (fun q => !(q.1 == (i : Nat)) && (!(q.1 == (i : Nat) + 1) && !(q.1 + 1 == (i : Nat) && q.2.category == 2))) = lv') (kk : xP G Y fr lo (pc + 1) lv' st h Q) : xP G Y fr lo pc lv (.double x :: st) h Q :=
  xP.step (fun p l e R s m args below meth c u0 Z H locs ls k n C hR hv kk => lv_dstore_n C.1 C.2.1 d rfl hv hn hl kk) kk
theorem x_dstore {i : Nat} {x : UInt64} {lv' : List (Nat × Value)} (d : decode (yC Y) pc = .ok (.dstore i, 2)) (hn : i + 1 < yL Y) (hl : (i, Value.double x) :: lv.filter (fun q => !(q.1 == i) && (!(q.1 == i + 1) && !(q.1 + 1 == i && q.2.category == 2))) = lv') (kk : xP G Y fr lo (pc + 2) lv' st h Q) : xP G Y fr lo pc lv (.double x :: st) h Q :=
  xP.step (fun p l e R s m args below meth c u0 Z H locs ls k n C hR hv kk => lv_dstore C.1 C.2.1 d hv hn hl kk) kk
theorem x_astore_n {i : Fin 4} {x : Nat} {lv' : List (Nat × Value)} (d : decode (yC Y) pc = .ok (.astore_n i, 1)) (hn : (i : Nat) < yL Y) (hl : ((i : Nat), rv x) :: lv.filter (fun q => !(q.1 == (i : Nat)) && !(q.1 + 1 == (i : Nat) && q.2.category == 2)) = lv') (kk : xP G Y fr lo (pc + 1) lv' st h Q) : xP G Y fr lo pc lv (rv x :: st) h Q := by
  cases x with
  | zero => exact xP.step (fun p l e R s m args below meth c u0 Z H locs ls k n C hR hv kk => lv_astore_nN C.1 C.2.1 d rfl hv hn hl kk) kk
  | succ x => exact xP.step (fun p l e R s m args below meth c u0 Z H locs ls k n C hR hv kk => lv_astore_n C.1 C.2.1 d rfl hv hn hl kk) kk
theorem x_astore {i : Nat} {x : Nat} {lv' : List (Nat × Value)} (d : decode (yC Y) pc = .ok (.astore i, 2)) (hn : i < yL Y) (hl : (i, rv x) :: lv.filter (fun q => !(q.1 == i) && !(q.1 + 1 == i && q.2.category == 2)) = lv') (kk : xP G Y fr lo (pc + 2) lv' st h Q) : xP G Y fr lo pc lv (rv x :: st) h Q := by
  cases x with
  | zero => exact xP.step (fun p l e R s m args below meth c u0 Z H locs ls k n C hR hv kk => lv_astoreN C.1 C.2.1 d hv hn hl kk) kk
  | succ x => exact xP.step (fun p l e R s m args below meth c u0 Z H locs ls k n C hR hv kk => lv_astore C.1 C.2.1 d hv hn hl kk) kk
theorem x_iinc {i : Nat} {z : Int} {x : Int32} {lv' : List (Nat × Value)} (j : Nat) (d : decode (yC Y) pc = .ok (.iinc i z, 3)) (hj : lv[j]? = some (i, .int x)) (hn : i < yL Y) (hl : (i, Value.int (x + Int32.ofInt z)) :: lv.filter (fun q => !(q.1 == i) && !(q.1 + 1 == i && q.2.category == 2)) = lv') (kk : xP G Y fr lo (pc + 3) lv' st h Q) : xP G Y fr lo pc lv st h Q :=
  xP.step (fun p l e R s m args below meth c u0 Z H locs ls k n C hR hv kk => lv_iinc C.1 C.2.1 d hv hj rfl hn hl kk) kk
end XS
