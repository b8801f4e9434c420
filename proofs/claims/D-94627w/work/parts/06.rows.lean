set_option maxRecDepth 100000
section Rows
variable {E : zE} {cc : ByteArray} {F : zF} {pc q : Nat} {lv : List (Option Value)} {r : List Value} {M : zM} {c s : Nat}
theorem g_iadd {x y : Int32} (hd : decode cc pc = .ok (.iadd, 1)) (hq : pc + 1 = q) (kk : Go E cc F q lv (.int (x + y) :: r) M c s) : Go E cc F pc lv (.int y :: .int x :: r) M c s := by
  subst hq
  intro p e S m args below meth cd H locs ls fx hp hl hv
  exact lv_iadd fx.2.2.1 fx.2.2.2.1 hd (kk p e S m args below meth cd H locs ls fx hp hl hv)
theorem g_isub {x y : Int32} (hd : decode cc pc = .ok (.isub, 1)) (hq : pc + 1 = q) (kk : Go E cc F q lv (.int (x - y) :: r) M c s) : Go E cc F pc lv (.int y :: .int x :: r) M c s := by
  subst hq
  intro p e S m args below meth cd H locs ls fx hp hl hv
  exact lv_isub fx.2.2.1 fx.2.2.2.1 hd (kk p e S m args below meth cd H locs ls fx hp hl hv)
theorem g_imul {x y : Int32} (hd : decode cc pc = .ok (.imul, 1)) (hq : pc + 1 = q) (kk : Go E cc F q lv (.int (x * y) :: r) M c s) : Go E cc F pc lv (.int y :: .int x :: r) M c s := by
  subst hq
  intro p e S m args below meth cd H locs ls fx hp hl hv
  exact lv_imul fx.2.2.1 fx.2.2.2.1 hd (kk p e S m args below meth cd H locs ls fx hp hl hv)
theorem g_iand {x y : Int32} (hd : decode cc pc = .ok (.iand, 1)) (hq : pc + 1 = q) (kk : Go E cc F q lv (.int (x &&& y) :: r) M c s) : Go E cc F pc lv (.int y :: .int x :: r) M c s := by
  subst hq
  intro p e S m args below meth cd H locs ls fx hp hl hv
  exact lv_iand fx.2.2.1 fx.2.2.2.1 hd (kk p e S m args below meth cd H locs ls fx hp hl hv)
theorem g_ior {x y : Int32} (hd : decode cc pc = .ok (.ior, 1)) (hq : pc + 1 = q) (kk : Go E cc F q lv (.int (x ||| y) :: r) M c s) : Go E cc F pc lv (.int y :: .int x :: r) M c s := by
  subst hq
  intro p e S m args below meth cd H locs ls fx hp hl hv
  exact lv_ior fx.2.2.1 fx.2.2.2.1 hd (kk p e S m args below meth cd H locs ls fx hp hl hv)
theorem g_ixor {x y : Int32} (hd : decode cc pc = .ok (.ixor, 1)) (hq : pc + 1 = q) (kk : Go E cc F q lv (.int (x ^^^ y) :: r) M c s) : Go E cc F pc lv (.int y :: .int x :: r) M c s := by
  subst hq
  intro p e S m args below meth cd H locs ls fx hp hl hv
  exact lv_ixor fx.2.2.1 fx.2.2.2.1 hd (kk p e S m args below meth cd H locs ls fx hp hl hv)
theorem g_ladd {x y : Int64} (hd : decode cc pc = .ok (.ladd, 1)) (hq : pc + 1 = q) (kk : Go E cc F q lv (.long (x + y) :: r) M c s) : Go E cc F pc lv (.long y :: .long x :: r) M c s := by
  subst hq
  intro p e S m args below meth cd H locs ls fx hp hl hv
  exact lv_ladd fx.2.2.1 fx.2.2.2.1 hd (kk p e S m args below meth cd H locs ls fx hp hl hv)
theorem g_lsub {x y : Int64} (hd : decode cc pc = .ok (.lsub, 1)) (hq : pc + 1 = q) (kk : Go E cc F q lv (.long (x - y) :: r) M c s) : Go E cc F pc lv (.long y :: .long x :: r) M c s := by
  subst hq
  intro p e S m args below meth cd H locs ls fx hp hl hv
  exact lv_lsub fx.2.2.1 fx.2.2.2.1 hd (kk p e S m args below meth cd H locs ls fx hp hl hv)
theorem g_lmul {x y : Int64} (hd : decode cc pc = .ok (.lmul, 1)) (hq : pc + 1 = q) (kk : Go E cc F q lv (.long (x * y) :: r) M c s) : Go E cc F pc lv (.long y :: .long x :: r) M c s := by
  subst hq
  intro p e S m args below meth cd H locs ls fx hp hl hv
  exact lv_lmul fx.2.2.1 fx.2.2.2.1 hd (kk p e S m args below meth cd H locs ls fx hp hl hv)
theorem g_land {x y : Int64} (hd : decode cc pc = .ok (.land, 1)) (hq : pc + 1 = q) (kk : Go E cc F q lv (.long (x &&& y) :: r) M c s) : Go E cc F pc lv (.long y :: .long x :: r) M c s := by
  subst hq
  intro p e S m args below meth cd H locs ls fx hp hl hv
  exact lv_land fx.2.2.1 fx.2.2.2.1 hd (kk p e S m args below meth cd H locs ls fx hp hl hv)
theorem g_lor {x y : Int64} (hd : decode cc pc = .ok (.lor, 1)) (hq : pc + 1 = q) (kk : Go E cc F q lv (.long (x ||| y) :: r) M c s) : Go E cc F pc lv (.long y :: .long x :: r) M c s := by
  subst hq
  intro p e S m args below meth cd H locs ls fx hp hl hv
  exact lv_lor fx.2.2.1 fx.2.2.2.1 hd (kk p e S m args below meth cd H locs ls fx hp hl hv)
theorem g_lxor {x y : Int64} (hd : decode cc pc = .ok (.lxor, 1)) (hq : pc + 1 = q) (kk : Go E cc F q lv (.long (x ^^^ y) :: r) M c s) : Go E cc F pc lv (.long y :: .long x :: r) M c s := by
  subst hq
  intro p e S m args below meth cd H locs ls fx hp hl hv
  exact lv_lxor fx.2.2.1 fx.2.2.2.1 hd (kk p e S m args below meth cd H locs ls fx hp hl hv)
theorem g_idiv {x y : Int32} (hd : decode cc pc = .ok (.idiv, 1)) (hne : ¬ y = 0) (hq : pc + 1 = q) (kk : Go E cc F q lv (.int (x / y) :: r) M c s) : Go E cc F pc lv (.int y :: .int x :: r) M c s := by
  subst hq
  intro p e S m args below meth cd H locs ls fx hp hl hv
  exact lv_idiv fx.2.2.1 fx.2.2.2.1 hd hne (kk p e S m args below meth cd H locs ls fx hp hl hv)
theorem g_irem {x y : Int32} (hd : decode cc pc = .ok (.irem, 1)) (hne : ¬ y = 0) (hq : pc + 1 = q) (kk : Go E cc F q lv (.int (x - x / y * y) :: r) M c s) : Go E cc F pc lv (.int y :: .int x :: r) M c s := by
  subst hq
  intro p e S m args below meth cd H locs ls fx hp hl hv
  exact lv_irem fx.2.2.1 fx.2.2.2.1 hd hne (kk p e S m args below meth cd H locs ls fx hp hl hv)
theorem g_ldiv {x y : Int64} (hd : decode cc pc = .ok (.ldiv, 1)) (hne : ¬ y = 0) (hq : pc + 1 = q) (kk : Go E cc F q lv (.long (x / y) :: r) M c s) : Go E cc F pc lv (.long y :: .long x :: r) M c s := by
  subst hq
  intro p e S m args below meth cd H locs ls fx hp hl hv
  exact lv_ldiv fx.2.2.1 fx.2.2.2.1 hd hne (kk p e S m args below meth cd H locs ls fx hp hl hv)
theorem g_lrem {x y : Int64} (hd : decode cc pc = .ok (.lrem, 1)) (hne : ¬ y = 0) (hq : pc + 1 = q) (kk : Go E cc F q lv (.long (x - x / y * y) :: r) M c s) : Go E cc F pc lv (.long y :: .long x :: r) M c s := by
  subst hq
  intro p e S m args below meth cd H locs ls fx hp hl hv
  exact lv_lrem fx.2.2.1 fx.2.2.2.1 hd hne (kk p e S m args below meth cd H locs ls fx hp hl hv)
theorem g_ineg {x : Int32} (hd : decode cc pc = .ok (.ineg, 1)) (hq : pc + 1 = q) (kk : Go E cc F q lv (.int (-x) :: r) M c s) : Go E cc F pc lv (.int x :: r) M c s := by
  subst hq
  intro p e S m args below meth cd H locs ls fx hp hl hv
  exact lv_ineg fx.2.2.1 fx.2.2.2.1 hd (kk p e S m args below meth cd H locs ls fx hp hl hv)
theorem g_ishl {x y : Int32} (hd : decode cc pc = .ok (.ishl, 1)) (hq : pc + 1 = q) (kk : Go E cc F q lv (.int (x <<< (y &&& 31)) :: r) M c s) : Go E cc F pc lv (.int y :: .int x :: r) M c s := by
  subst hq
  intro p e S m args below meth cd H locs ls fx hp hl hv
  exact lv_ishl fx.2.2.1 fx.2.2.2.1 hd (kk p e S m args below meth cd H locs ls fx hp hl hv)
theorem g_ishr {x y : Int32} (hd : decode cc pc = .ok (.ishr, 1)) (hq : pc + 1 = q) (kk : Go E cc F q lv (.int (x >>> (y &&& 31)) :: r) M c s) : Go E cc F pc lv (.int y :: .int x :: r) M c s := by
  subst hq
  intro p e S m args below meth cd H locs ls fx hp hl hv
  exact lv_ishr fx.2.2.1 fx.2.2.2.1 hd (kk p e S m args below meth cd H locs ls fx hp hl hv)
theorem g_i2l {x : Int32} (hd : decode cc pc = .ok (.i2l, 1)) (hq : pc + 1 = q) (kk : Go E cc F q lv (.long x.toInt64 :: r) M c s) : Go E cc F pc lv (.int x :: r) M c s := by
  subst hq
  intro p e S m args below meth cd H locs ls fx hp hl hv
  exact lv_i2l fx.2.2.1 fx.2.2.2.1 hd rfl (kk p e S m args below meth cd H locs ls fx hp hl hv)
theorem g_l2i {x : Int64} (hd : decode cc pc = .ok (.l2i, 1)) (hq : pc + 1 = q) (kk : Go E cc F q lv (.int x.toInt32 :: r) M c s) : Go E cc F pc lv (.long x :: r) M c s := by
  subst hq
  intro p e S m args below meth cd H locs ls fx hp hl hv
  exact lv_l2i fx.2.2.1 fx.2.2.2.1 hd rfl (kk p e S m args below meth cd H locs ls fx hp hl hv)
theorem g_i2b {x : Int32} (hd : decode cc pc = .ok (.i2b, 1)) (hq : pc + 1 = q) (kk : Go E cc F q lv (.int x.toInt8.toInt32 :: r) M c s) : Go E cc F pc lv (.int x :: r) M c s := by
  subst hq
  intro p e S m args below meth cd H locs ls fx hp hl hv
  exact lv_i2b fx.2.2.1 fx.2.2.2.1 hd rfl (kk p e S m args below meth cd H locs ls fx hp hl hv)
theorem g_i2c {x : Int32} (hd : decode cc pc = .ok (.i2c, 1)) (hq : pc + 1 = q) (kk : Go E cc F q lv (.int (x.toUInt32 % 65536).toInt32 :: r) M c s) : Go E cc F pc lv (.int x :: r) M c s := by
  subst hq
  intro p e S m args below meth cd H locs ls fx hp hl hv
  exact lv_i2c fx.2.2.1 fx.2.2.2.1 hd rfl (kk p e S m args below meth cd H locs ls fx hp hl hv)
theorem g_iushr {x y : Int32} (hd : decode cc pc = .ok (.iushr, 1)) (hq : pc + 1 = q) (kk : Go E cc F q lv (.int (x.toUInt32 >>> (y.toUInt32 &&& Int32.toUInt32 31)).toInt32 :: r) M c s) : Go E cc F pc lv (.int y :: .int x :: r) M c s := by
  subst hq
  intro p e S m args below meth cd H locs ls fx hp hl hv
  exact lv_iushr fx.2.2.1 fx.2.2.2.1 hd rfl (kk p e S m args below meth cd H locs ls fx hp hl hv)
theorem g_lushr {x : Int64} {y : Int32} (hd : decode cc pc = .ok (.lushr, 1)) (hq : pc + 1 = q) (kk : Go E cc F q lv (.long (x.toUInt64 >>> (y.toInt64.toUInt64 &&& Int64.toUInt64 63)).toInt64 :: r) M c s) : Go E cc F pc lv (.int y :: .long x :: r) M c s := by
  subst hq
  intro p e S m args below meth cd H locs ls fx hp hl hv
  exact lv_lushr fx.2.2.1 fx.2.2.2.1 hd rfl (kk p e S m args below meth cd H locs ls fx hp hl hv)
theorem g_lshl {x : Int64} {y : Int32} (hd : decode cc pc = .ok (.lshl, 1)) (hq : pc + 1 = q) (kk : Go E cc F q lv (.long (x <<< (y.toInt64 &&& 63)) :: r) M c s) : Go E cc F pc lv (.int y :: .long x :: r) M c s := by
  subst hq
  intro p e S m args below meth cd H locs ls fx hp hl hv
  exact lv_lshl fx.2.2.1 fx.2.2.2.1 hd rfl (kk p e S m args below meth cd H locs ls fx hp hl hv)
theorem g_lshr {x : Int64} {y : Int32} (hd : decode cc pc = .ok (.lshr, 1)) (hq : pc + 1 = q) (kk : Go E cc F q lv (.long (x >>> (y.toInt64 &&& 63)) :: r) M c s) : Go E cc F pc lv (.int y :: .long x :: r) M c s := by
  subst hq
  intro p e S m args below meth cd H locs ls fx hp hl hv
  exact lv_lshr fx.2.2.1 fx.2.2.2.1 hd rfl (kk p e S m args below meth cd H locs ls fx hp hl hv)
theorem g_iconst {n : Int} {v : Int32} (hd : decode cc pc = .ok (.iconst n, 1)) (hv : Int32.ofInt n = v) (hq : pc + 1 = q) (kk : Go E cc F q lv (.int v :: r) M c s) : Go E cc F pc lv r M c s := by
  subst hq
  intro p e S m args below meth cd H locs ls fx hp hl hv'
  exact lv_iconst fx.2.2.1 fx.2.2.2.1 hd hv (kk p e S m args below meth cd H locs ls fx hp hl hv')
theorem g_bipush {n : Int} {v : Int32} (hd : decode cc pc = .ok (.bipush n, 2)) (hv : (Int8.ofInt n).toInt32 = v) (hq : pc + 2 = q) (kk : Go E cc F q lv (.int v :: r) M c s) : Go E cc F pc lv r M c s := by
  subst hq
  intro p e S m args below meth cd H locs ls fx hp hl hv'
  exact lv_bipush fx.2.2.1 fx.2.2.2.1 hd hv (kk p e S m args below meth cd H locs ls fx hp hl hv')
theorem g_sipush {n : Int} {v : Int32} (hd : decode cc pc = .ok (.sipush n, 3)) (hv : (Int16.ofInt n).toInt32 = v) (hq : pc + 3 = q) (kk : Go E cc F q lv (.int v :: r) M c s) : Go E cc F pc lv r M c s := by
  subst hq
  intro p e S m args below meth cd H locs ls fx hp hl hv'
  exact lv_sipush fx.2.2.1 fx.2.2.2.1 hd hv (kk p e S m args below meth cd H locs ls fx hp hl hv')
theorem g_lconst {n : Fin 2} {v : Int64} (hd : decode cc pc = .ok (.lconst n, 1)) (hv : Int64.ofNat (n : Nat) = v) (hq : pc + 1 = q) (kk : Go E cc F q lv (.long v :: r) M c s) : Go E cc F pc lv r M c s := by
  subst hq
  intro p e S m args below meth cd H locs ls fx hp hl hv'
  exact lv_lconst fx.2.2.1 fx.2.2.2.1 hd hv (kk p e S m args below meth cd H locs ls fx hp hl hv')
theorem g_lcmp {x y : Int64} (hd : decode cc pc = .ok (.lcmp, 1)) (hq : pc + 1 = q) (kk : Go E cc F q lv (.int (lg_cmp x y) :: r) M c s) : Go E cc F pc lv (.long y :: .long x :: r) M c s := by
  subst hq
  intro p e S m args below meth cd H locs ls fx hp hl hv
  exact W.lcmp fx.2.2.1 fx.2.2.2.1 hd (kk p e S m args below meth cd H locs ls fx hp hl hv)
theorem g_ldc {ix : Nat} {v : Int32} (hw : Cond.constant F.1.cls ix v ∈ lw_all) (hd : decode cc pc = .ok (.ldc ix, 2)) (hq : pc + 2 = q) (kk : Go E cc F q lv (.int v :: r) M c s) : Go E cc F pc lv r M c s := by
  subst hq
  intro p e S m args below meth cd H locs ls fx hp hl hv
  exact lv_ldc fx.2.2.1 fx.2.2.2.1 fx.2.2.2.2.2.2.2.1 (fx.2.2.2.2.2.2.2.2.1 _ hw) hd (kk p e S m args below meth cd H locs ls fx hp hl hv)
theorem g_ldcw {ix : Nat} {v : Int32} (hw : Cond.constant F.1.cls ix v ∈ lw_all) (hd : decode cc pc = .ok (.ldc_w ix, 3)) (hq : pc + 3 = q) (kk : Go E cc F q lv (.int v :: r) M c s) : Go E cc F pc lv r M c s := by
  subst hq
  intro p e S m args below meth cd H locs ls fx hp hl hv
  exact lv_ldcw fx.2.2.1 fx.2.2.2.1 fx.2.2.2.2.2.2.2.1 (fx.2.2.2.2.2.2.2.2.1 _ hw) hd (kk p e S m args below meth cd H locs ls fx hp hl hv)
theorem g_ldc2 {ix : Nat} {v : Int64} (hw : Cond.constantLong F.1.cls ix v ∈ lw_all) (hd : decode cc pc = .ok (.ldc2_w ix, 3)) (hq : pc + 3 = q) (kk : Go E cc F q lv (.long v :: r) M c s) : Go E cc F pc lv r M c s := by
  subst hq
  intro p e S m args below meth cd H locs ls fx hp hl hv
  exact lv_ldc2 fx.2.2.1 fx.2.2.2.1 fx.2.2.2.2.2.2.2.1 (fx.2.2.2.2.2.2.2.2.1 _ hw) hd (kk p e S m args below meth cd H locs ls fx hp hl hv)
theorem g_null (hd : decode cc pc = .ok (.aconst_null, 1)) (hq : pc + 1 = q) (kk : Go E cc F q lv (.null :: r) M c s) : Go E cc F pc lv r M c s := by
  subst hq
  intro p e S m args below meth cd H locs ls fx hp hl hv
  exact lv_null fx.2.2.1 fx.2.2.2.1 hd (kk p e S m args below meth cd H locs ls fx hp hl hv)
theorem g_dup {va : Value} (hd : decode cc pc = .ok (.dup, 1)) (hva : va.category = 1) (hq : pc + 1 = q) (kk : Go E cc F q lv (va :: va :: r) M c s) : Go E cc F pc lv (va :: r) M c s := by
  subst hq
  intro p e S m args below meth cd H locs ls fx hp hl hv
  exact lv_dup fx.2.2.1 fx.2.2.2.1 hd hva (kk p e S m args below meth cd H locs ls fx hp hl hv)
theorem g_pop {va : Value} (hd : decode cc pc = .ok (.pop, 1)) (hva : va.category = 1) (hq : pc + 1 = q) (kk : Go E cc F q lv r M c s) : Go E cc F pc lv (va :: r) M c s := by
  subst hq
  intro p e S m args below meth cd H locs ls fx hp hl hv
  exact lv_pop fx.2.2.1 fx.2.2.2.1 hd hva (kk p e S m args below meth cd H locs ls fx hp hl hv)
theorem g_dup_x1 {va vb : Value} (hd : decode cc pc = .ok (.dup_x1, 1)) (hva : va.category = 1) (hvb : vb.category = 1) (hq : pc + 1 = q) (kk : Go E cc F q lv (va :: vb :: va :: r) M c s) : Go E cc F pc lv (va :: vb :: r) M c s := by
  subst hq
  intro p e S m args below meth cd H locs ls fx hp hl hv
  exact lv_dup_x1 fx.2.2.1 fx.2.2.2.1 hd hva  hvb (kk p e S m args below meth cd H locs ls fx hp hl hv)
theorem g_dup2 {va vb : Value} (hd : decode cc pc = .ok (.dup2, 1)) (hva : va.category = 1) (hvb : vb.category = 1) (hq : pc + 1 = q) (kk : Go E cc F q lv (va :: vb :: va :: vb :: r) M c s) : Go E cc F pc lv (va :: vb :: r) M c s := by
  subst hq
  intro p e S m args below meth cd H locs ls fx hp hl hv
  exact lv_dup2_11 fx.2.2.1 fx.2.2.2.1 hd hva  hvb (kk p e S m args below meth cd H locs ls fx hp hl hv)
theorem g_dup2L {va : Value} (hd : decode cc pc = .ok (.dup2, 1)) (hva : va.category = 2) (hq : pc + 1 = q) (kk : Go E cc F q lv (va :: va :: r) M c s) : Go E cc F pc lv (va :: r) M c s := by
  subst hq
  intro p e S m args below meth cd H locs ls fx hp hl hv
  exact lv_dup2_2 fx.2.2.1 fx.2.2.2.1 hd hva (kk p e S m args below meth cd H locs ls fx hp hl hv)
theorem g_if_eq {x : Int32} {off : Int} {t : Nat} (hd : decode cc pc = .ok (.ifCond .eq off, 3)) (ht : (pc : Int) + off = (t : Int)) (hq : pc + 3 = q) (kt : x = 0 → Go E cc F t lv r M c s) (kf : ¬ x = 0 → Go E cc F q lv r M c s) : Go E cc F pc lv (.int x :: r) M c s := by
  subst hq
  intro p e S m args below meth cd H locs ls fx hp hl hv
  exact lv_if_eq fx.2.2.1 fx.2.2.2.1 hd ht (fun h => kt h p e S m args below meth cd H locs ls fx hp hl hv) (fun h => kf h p e S m args below meth cd H locs ls fx hp hl hv)
theorem g_ic_eq {x y : Int32} {off : Int} {t : Nat} (hd : decode cc pc = .ok (.if_icmp .eq off, 3)) (ht : (pc : Int) + off = (t : Int)) (hq : pc + 3 = q) (kt : x = y → Go E cc F t lv r M c s) (kf : ¬ x = y → Go E cc F q lv r M c s) : Go E cc F pc lv (.int y :: .int x :: r) M c s := by
  subst hq
  intro p e S m args below meth cd H locs ls fx hp hl hv
  exact lv_icmp_eq fx.2.2.1 fx.2.2.2.1 hd ht (fun h => kt h p e S m args below meth cd H locs ls fx hp hl hv) (fun h => kf h p e S m args below meth cd H locs ls fx hp hl hv)
theorem g_if_ne {x : Int32} {off : Int} {t : Nat} (hd : decode cc pc = .ok (.ifCond .ne off, 3)) (ht : (pc : Int) + off = (t : Int)) (hq : pc + 3 = q) (kt : ¬ x = 0 → Go E cc F t lv r M c s) (kf : x = 0 → Go E cc F q lv r M c s) : Go E cc F pc lv (.int x :: r) M c s := by
  subst hq
  intro p e S m args below meth cd H locs ls fx hp hl hv
  exact lv_if_ne fx.2.2.1 fx.2.2.2.1 hd ht (fun h => kt h p e S m args below meth cd H locs ls fx hp hl hv) (fun h => kf h p e S m args below meth cd H locs ls fx hp hl hv)
theorem g_ic_ne {x y : Int32} {off : Int} {t : Nat} (hd : decode cc pc = .ok (.if_icmp .ne off, 3)) (ht : (pc : Int) + off = (t : Int)) (hq : pc + 3 = q) (kt : ¬ x = y → Go E cc F t lv r M c s) (kf : x = y → Go E cc F q lv r M c s) : Go E cc F pc lv (.int y :: .int x :: r) M c s := by
  subst hq
  intro p e S m args below meth cd H locs ls fx hp hl hv
  exact lv_icmp_ne fx.2.2.1 fx.2.2.2.1 hd ht (fun h => kt h p e S m args below meth cd H locs ls fx hp hl hv) (fun h => kf h p e S m args below meth cd H locs ls fx hp hl hv)
theorem g_if_lt {x : Int32} {off : Int} {t : Nat} (hd : decode cc pc = .ok (.ifCond .lt off, 3)) (ht : (pc : Int) + off = (t : Int)) (hq : pc + 3 = q) (kt : x < 0 → Go E cc F t lv r M c s) (kf : ¬ x < 0 → Go E cc F q lv r M c s) : Go E cc F pc lv (.int x :: r) M c s := by
  subst hq
  intro p e S m args below meth cd H locs ls fx hp hl hv
  exact lv_if_lt fx.2.2.1 fx.2.2.2.1 hd ht (fun h => kt h p e S m args below meth cd H locs ls fx hp hl hv) (fun h => kf h p e S m args below meth cd H locs ls fx hp hl hv)
theorem g_ic_lt {x y : Int32} {off : Int} {t : Nat} (hd : decode cc pc = .ok (.if_icmp .lt off, 3)) (ht : (pc : Int) + off = (t : Int)) (hq : pc + 3 = q) (kt : x < y → Go E cc F t lv r M c s) (kf : ¬ x < y → Go E cc F q lv r M c s) : Go E cc F pc lv (.int y :: .int x :: r) M c s := by
  subst hq
  intro p e S m args below meth cd H locs ls fx hp hl hv
  exact lv_icmp_lt fx.2.2.1 fx.2.2.2.1 hd ht (fun h => kt h p e S m args below meth cd H locs ls fx hp hl hv) (fun h => kf h p e S m args below meth cd H locs ls fx hp hl hv)
theorem g_if_ge {x : Int32} {off : Int} {t : Nat} (hd : decode cc pc = .ok (.ifCond .ge off, 3)) (ht : (pc : Int) + off = (t : Int)) (hq : pc + 3 = q) (kt : 0 ≤ x → Go E cc F t lv r M c s) (kf : ¬ 0 ≤ x → Go E cc F q lv r M c s) : Go E cc F pc lv (.int x :: r) M c s := by
  subst hq
  intro p e S m args below meth cd H locs ls fx hp hl hv
  exact lv_if_ge fx.2.2.1 fx.2.2.2.1 hd ht (fun h => kt h p e S m args below meth cd H locs ls fx hp hl hv) (fun h => kf h p e S m args below meth cd H locs ls fx hp hl hv)
theorem g_ic_ge {x y : Int32} {off : Int} {t : Nat} (hd : decode cc pc = .ok (.if_icmp .ge off, 3)) (ht : (pc : Int) + off = (t : Int)) (hq : pc + 3 = q) (kt : y ≤ x → Go E cc F t lv r M c s) (kf : ¬ y ≤ x → Go E cc F q lv r M c s) : Go E cc F pc lv (.int y :: .int x :: r) M c s := by
  subst hq
  intro p e S m args below meth cd H locs ls fx hp hl hv
  exact lv_icmp_ge fx.2.2.1 fx.2.2.2.1 hd ht (fun h => kt h p e S m args below meth cd H locs ls fx hp hl hv) (fun h => kf h p e S m args below meth cd H locs ls fx hp hl hv)
theorem g_if_gt {x : Int32} {off : Int} {t : Nat} (hd : decode cc pc = .ok (.ifCond .gt off, 3)) (ht : (pc : Int) + off = (t : Int)) (hq : pc + 3 = q) (kt : 0 < x → Go E cc F t lv r M c s) (kf : ¬ 0 < x → Go E cc F q lv r M c s) : Go E cc F pc lv (.int x :: r) M c s := by
  subst hq
  intro p e S m args below meth cd H locs ls fx hp hl hv
  exact lv_if_gt fx.2.2.1 fx.2.2.2.1 hd ht (fun h => kt h p e S m args below meth cd H locs ls fx hp hl hv) (fun h => kf h p e S m args below meth cd H locs ls fx hp hl hv)
theorem g_ic_gt {x y : Int32} {off : Int} {t : Nat} (hd : decode cc pc = .ok (.if_icmp .gt off, 3)) (ht : (pc : Int) + off = (t : Int)) (hq : pc + 3 = q) (kt : y < x → Go E cc F t lv r M c s) (kf : ¬ y < x → Go E cc F q lv r M c s) : Go E cc F pc lv (.int y :: .int x :: r) M c s := by
  subst hq
  intro p e S m args below meth cd H locs ls fx hp hl hv
  exact lv_icmp_gt fx.2.2.1 fx.2.2.2.1 hd ht (fun h => kt h p e S m args below meth cd H locs ls fx hp hl hv) (fun h => kf h p e S m args below meth cd H locs ls fx hp hl hv)
theorem g_if_le {x : Int32} {off : Int} {t : Nat} (hd : decode cc pc = .ok (.ifCond .le off, 3)) (ht : (pc : Int) + off = (t : Int)) (hq : pc + 3 = q) (kt : x ≤ 0 → Go E cc F t lv r M c s) (kf : ¬ x ≤ 0 → Go E cc F q lv r M c s) : Go E cc F pc lv (.int x :: r) M c s := by
  subst hq
  intro p e S m args below meth cd H locs ls fx hp hl hv
  exact lv_if_le fx.2.2.1 fx.2.2.2.1 hd ht (fun h => kt h p e S m args below meth cd H locs ls fx hp hl hv) (fun h => kf h p e S m args below meth cd H locs ls fx hp hl hv)
theorem g_ic_le {x y : Int32} {off : Int} {t : Nat} (hd : decode cc pc = .ok (.if_icmp .le off, 3)) (ht : (pc : Int) + off = (t : Int)) (hq : pc + 3 = q) (kt : x ≤ y → Go E cc F t lv r M c s) (kf : ¬ x ≤ y → Go E cc F q lv r M c s) : Go E cc F pc lv (.int y :: .int x :: r) M c s := by
  subst hq
  intro p e S m args below meth cd H locs ls fx hp hl hv
  exact lv_icmp_le fx.2.2.1 fx.2.2.2.1 hd ht (fun h => kt h p e S m args below meth cd H locs ls fx hp hl hv) (fun h => kf h p e S m args below meth cd H locs ls fx hp hl hv)
theorem g_icN_eq {a b : Nat} {off : Int} {t : Nat} (hd : decode cc pc = .ok (.if_icmp .eq off, 3)) (ht : (pc : Int) + off = (t : Int)) (hq : pc + 3 = q) (ha : a < 2 ^ 31) (hb : b < 2 ^ 31) (kt : a = b → Go E cc F t lv r M c s) (kf : a ≠ b → Go E cc F q lv r M c s) : Go E cc F pc lv (.int (nI b) :: .int (nI a) :: r) M c s := by
  exact g_ic_eq hd ht hq (fun h => kt ((nI_eq ha hb).mp h)) (fun h => kf (fun e => h ((nI_eq ha hb).mpr e)))
theorem g_icN_ne {a b : Nat} {off : Int} {t : Nat} (hd : decode cc pc = .ok (.if_icmp .ne off, 3)) (ht : (pc : Int) + off = (t : Int)) (hq : pc + 3 = q) (ha : a < 2 ^ 31) (hb : b < 2 ^ 31) (kt : a ≠ b → Go E cc F t lv r M c s) (kf : a = b → Go E cc F q lv r M c s) : Go E cc F pc lv (.int (nI b) :: .int (nI a) :: r) M c s := by
  exact g_ic_ne hd ht hq (fun h => kt (fun e => h ((nI_eq ha hb).mpr e))) (fun h => kf ((nI_eq ha hb).mp h))
theorem g_icN_lt {a b : Nat} {off : Int} {t : Nat} (hd : decode cc pc = .ok (.if_icmp .lt off, 3)) (ht : (pc : Int) + off = (t : Int)) (hq : pc + 3 = q) (ha : a < 2 ^ 31) (hb : b < 2 ^ 31) (kt : a < b → Go E cc F t lv r M c s) (kf : b ≤ a → Go E cc F q lv r M c s) : Go E cc F pc lv (.int (nI b) :: .int (nI a) :: r) M c s := by
  exact g_ic_lt hd ht hq (fun h => kt ((nI_ltI ha hb).mp h)) (fun h => kf (by have h2 := mt (nI_ltI ha hb).mpr h; omega))
theorem g_icN_ge {a b : Nat} {off : Int} {t : Nat} (hd : decode cc pc = .ok (.if_icmp .ge off, 3)) (ht : (pc : Int) + off = (t : Int)) (hq : pc + 3 = q) (ha : a < 2 ^ 31) (hb : b < 2 ^ 31) (kt : b ≤ a → Go E cc F t lv r M c s) (kf : a < b → Go E cc F q lv r M c s) : Go E cc F pc lv (.int (nI b) :: .int (nI a) :: r) M c s := by
  exact g_ic_ge hd ht hq (fun h => kt ((nI_leI hb ha).mp h)) (fun h => kf (by have h2 := mt (nI_leI hb ha).mpr h; omega))
theorem g_icN_gt {a b : Nat} {off : Int} {t : Nat} (hd : decode cc pc = .ok (.if_icmp .gt off, 3)) (ht : (pc : Int) + off = (t : Int)) (hq : pc + 3 = q) (ha : a < 2 ^ 31) (hb : b < 2 ^ 31) (kt : b < a → Go E cc F t lv r M c s) (kf : a ≤ b → Go E cc F q lv r M c s) : Go E cc F pc lv (.int (nI b) :: .int (nI a) :: r) M c s := by
  exact g_ic_gt hd ht hq (fun h => kt ((nI_ltI hb ha).mp h)) (fun h => kf (by have h2 := mt (nI_ltI hb ha).mpr h; omega))
theorem g_icN_le {a b : Nat} {off : Int} {t : Nat} (hd : decode cc pc = .ok (.if_icmp .le off, 3)) (ht : (pc : Int) + off = (t : Int)) (hq : pc + 3 = q) (ha : a < 2 ^ 31) (hb : b < 2 ^ 31) (kt : a ≤ b → Go E cc F t lv r M c s) (kf : b < a → Go E cc F q lv r M c s) : Go E cc F pc lv (.int (nI b) :: .int (nI a) :: r) M c s := by
  exact g_ic_le hd ht hq (fun h => kt ((nI_leI ha hb).mp h)) (fun h => kf (by have h2 := mt (nI_leI ha hb).mpr h; omega))
theorem g_goto {off : Int} {t : Nat} (hd : decode cc pc = .ok (.goto off, 3)) (ht : (pc : Int) + off = (t : Int)) (kk : Go E cc F t lv r M c s) : Go E cc F pc lv r M c s := by
  intro p e S m args below meth cd H locs ls fx hp hl hv
  exact lv_goto fx.2.2.1 fx.2.2.2.1 hd ht (kk p e S m args below meth cd H locs ls fx hp hl hv)
theorem g_ac_eq {rx ry : Option Nat} {off : Int} {t : Nat} (hd : decode cc pc = .ok (.if_acmp .eq off, 3)) (ht : (pc : Int) + off = (t : Int)) (hq : pc + 3 = q) (kt : rx = ry → Go E cc F t lv r M c s) (kf : ¬ rx = ry → Go E cc F q lv r M c s) : Go E cc F pc lv (va_rf ry :: va_rf rx :: r) M c s := by
  subst hq
  intro p e S m args below meth cd H locs ls fx hp hl hv
  exact lv_acmp_eq fx.2.2.1 fx.2.2.2.1 hd ht (fun h => kt h p e S m args below meth cd H locs ls fx hp hl hv) (fun h => kf h p e S m args below meth cd H locs ls fx hp hl hv)
theorem g_ac_ne {rx ry : Option Nat} {off : Int} {t : Nat} (hd : decode cc pc = .ok (.if_acmp .ne off, 3)) (ht : (pc : Int) + off = (t : Int)) (hq : pc + 3 = q) (kt : ¬ rx = ry → Go E cc F t lv r M c s) (kf : rx = ry → Go E cc F q lv r M c s) : Go E cc F pc lv (va_rf ry :: va_rf rx :: r) M c s := by
  subst hq
  intro p e S m args below meth cd H locs ls fx hp hl hv
  exact lv_acmp_ne fx.2.2.1 fx.2.2.2.1 hd ht (fun h => kt h p e S m args below meth cd H locs ls fx hp hl hv) (fun h => kf h p e S m args below meth cd H locs ls fx hp hl hv)
theorem g_ifnull {rx : Option Nat} {off : Int} {t : Nat} (hd : decode cc pc = .ok (.ifnull off, 3)) (ht : (pc : Int) + off = (t : Int)) (hq : pc + 3 = q) (kt : rx = none → Go E cc F t lv r M c s) (kf : ∀ a, rx = some a → Go E cc F q lv r M c s) : Go E cc F pc lv (va_rf rx :: r) M c s := by
  subst hq
  intro p e S m args below meth cd H locs ls fx hp hl hv
  cases rx with
  | none => exact lv_ifnullN fx.2.2.1 fx.2.2.2.1 hd ht (kt rfl p e S m args below meth cd H locs ls fx hp hl hv)
  | some a => exact lv_ifnull fx.2.2.1 fx.2.2.2.1 hd (kf a rfl p e S m args below meth cd H locs ls fx hp hl hv)
theorem g_ifnonnull {rx : Option Nat} {off : Int} {t : Nat} (hd : decode cc pc = .ok (.ifnonnull off, 3)) (ht : (pc : Int) + off = (t : Int)) (hq : pc + 3 = q) (kt : ∀ a, rx = some a → Go E cc F t lv r M c s) (kf : rx = none → Go E cc F q lv r M c s) : Go E cc F pc lv (va_rf rx :: r) M c s := by
  subst hq
  intro p e S m args below meth cd H locs ls fx hp hl hv
  cases rx with
  | none => exact lv_ifnonnullN fx.2.2.1 fx.2.2.2.1 hd (kf rfl p e S m args below meth cd H locs ls fx hp hl hv)
  | some a => exact lv_ifnonnull fx.2.2.1 fx.2.2.2.1 hd ht (kt a rfl p e S m args below meth cd H locs ls fx hp hl hv)
theorem g_tsw {dflt lo hi : Int} {offs : Array Int} {len : Nat} {x : Int32} {off : Int} {t : Nat} (hd : decode cc pc = .ok (.tableswitch dflt lo hi offs, len)) (h1 : ¬ x.toInt < lo) (h2 : ¬ hi < x.toInt) (ho : offs[(x.toInt - lo).toNat]? = some off) (ht : (pc : Int) + off = (t : Int)) (kk : Go E cc F t lv r M c s) : Go E cc F pc lv (.int x :: r) M c s := by
  intro p e S m args below meth cd H locs ls fx hp hl hv
  exact lv_tableIn fx.2.2.1 fx.2.2.2.1 hd h1 h2 ho ht (kk p e S m args below meth cd H locs ls fx hp hl hv)
theorem g_tswD {dflt lo hi : Int} {offs : Array Int} {len : Nat} {x : Int32} {t : Nat} (hd : decode cc pc = .ok (.tableswitch dflt lo hi offs, len)) (h : x.toInt < lo ∨ hi < x.toInt) (ht : (pc : Int) + dflt = (t : Int)) (kk : Go E cc F t lv r M c s) : Go E cc F pc lv (.int x :: r) M c s := by
  intro p e S m args below meth cd H locs ls fx hp hl hv
  exact lv_tableOut fx.2.2.1 fx.2.2.2.1 hd h ht (kk p e S m args below meth cd H locs ls fx hp hl hv)
theorem g_lsw {dflt : Int} {ps : Array (Int × Int)} {len : Nat} {x : Int32} {off : Int} {t : Nat} (hd : decode cc pc = .ok (.lookupswitch dflt ps, len)) (hs : (ps.toList.zip (ps.toList.drop 1)).all (fun (a, next) => a.1 < next.1) = true) (ho : Op.lookupswitch.offset ps.toList dflt x.toInt = off) (ht : (pc : Int) + off = (t : Int)) (kk : Go E cc F t lv r M c s) : Go E cc F pc lv (.int x :: r) M c s := by
  intro p e S m args below meth cd H locs ls fx hp hl hv
  exact lv_lookup fx.2.2.1 fx.2.2.2.1 hd hs ho ht (kk p e S m args below meth cd H locs ls fx hp hl hv)
theorem g_ild0 {l : List (Option Value)} {v : Int32} (hd : decode cc pc = .ok (.iload_n 0, 1)) (hq : pc + 1 = q) (kk : Go E cc F q (some (.int v) :: l) (.int v :: r) M c s) : Go E cc F pc (some (.int v) :: l) r M c s := by
  subst hq
  intro p e S m args below meth cd H locs ls fx hp hl hv
  exact lv_iload_n fx.2.2.1 fx.2.2.2.1 hd rfl (hv.2.2.2 0 _ rfl) (kk p e S m args below meth cd H locs ls fx hp hl hv)
theorem g_lld0 {l : List (Option Value)} {v : Int64} (hd : decode cc pc = .ok (.lload_n 0, 1)) (hq : pc + 1 = q) (kk : Go E cc F q (some (.long v) :: l) (.long v :: r) M c s) : Go E cc F pc (some (.long v) :: l) r M c s := by
  subst hq
  intro p e S m args below meth cd H locs ls fx hp hl hv
  exact lv_lload_n fx.2.2.1 fx.2.2.2.1 hd rfl (hv.2.2.2 0 _ rfl) (kk p e S m args below meth cd H locs ls fx hp hl hv)
theorem g_ald0 {l : List (Option Value)} {v : Nat} (hd : decode cc pc = .ok (.aload_n 0, 1)) (hq : pc + 1 = q) (kk : Go E cc F q (some (.ref v) :: l) (.ref v :: r) M c s) : Go E cc F pc (some (.ref v) :: l) r M c s := by
  subst hq
  intro p e S m args below meth cd H locs ls fx hp hl hv
  exact lv_aload_n fx.2.2.1 fx.2.2.2.1 hd rfl (hv.2.2.2 0 _ rfl) (kk p e S m args below meth cd H locs ls fx hp hl hv)
theorem g_qld0 {l : List (Option Value)} {v : Option Nat} (hd : decode cc pc = .ok (.aload_n 0, 1)) (hq : pc + 1 = q) (kk : Go E cc F q (some (va_rf v) :: l) (va_rf v :: r) M c s) : Go E cc F pc (some (va_rf v) :: l) r M c s := by
  subst hq
  intro p e S m args below meth cd H locs ls fx hp hl hv
  cases v with
  | none => exact lv_aload_nN fx.2.2.1 fx.2.2.2.1 hd rfl (hv.2.2.2 0 _ rfl) (kk p e S m args below meth cd H locs ls fx hp hl hv)
  | some a => exact lv_aload_n fx.2.2.1 fx.2.2.2.1 hd rfl (hv.2.2.2 0 _ rfl) (kk p e S m args below meth cd H locs ls fx hp hl hv)
theorem g_ist0 {z : Option Value} {l : List (Option Value)} {v : Int32} (hd : decode cc pc = .ok (.istore_n 0, 1)) (hq : pc + 1 = q) (kk : Go E cc F q (some (.int v) :: l) r M c s) : Go E cc F pc (z :: l) (.int v :: r) M c s := by
  subst hq
  intro p e S m args below meth cd H locs ls fx hp hl hv
  exact lv_istore_n (i := 0) fx.2.2.1 fx.2.2.2.1 hd rfl (lvh_has hv) (Nat.lt_of_lt_of_le (by simp) hv.2.2.1) rfl (fun ls' h' => kk p e S m args below meth cd H locs ls' fx hp hl (lvh_st1 hv.2.2.1 (by simp) (Or.inl rfl) h'))
theorem g_ast0 {z : Option Value} {l : List (Option Value)} {v : Nat} (hd : decode cc pc = .ok (.astore_n 0, 1)) (hq : pc + 1 = q) (kk : Go E cc F q (some (.ref v) :: l) r M c s) : Go E cc F pc (z :: l) (.ref v :: r) M c s := by
  subst hq
  intro p e S m args below meth cd H locs ls fx hp hl hv
  exact lv_astore_n (i := 0) fx.2.2.1 fx.2.2.2.1 hd rfl (lvh_has hv) (Nat.lt_of_lt_of_le (by simp) hv.2.2.1) rfl (fun ls' h' => kk p e S m args below meth cd H locs ls' fx hp hl (lvh_st1 hv.2.2.1 (by simp) (Or.inl rfl) h'))
theorem g_qst0 {z : Option Value} {l : List (Option Value)} {v : Option Nat} (hd : decode cc pc = .ok (.astore_n 0, 1)) (hq : pc + 1 = q) (kk : Go E cc F q (some (va_rf v) :: l) r M c s) : Go E cc F pc (z :: l) (va_rf v :: r) M c s := by
  subst hq
  intro p e S m args below meth cd H locs ls fx hp hl hv
  cases v with
  | none => exact lv_astore_nN (i := 0) fx.2.2.1 fx.2.2.2.1 hd rfl (lvh_has hv) (Nat.lt_of_lt_of_le (by simp) hv.2.2.1) rfl (fun ls' h' => kk p e S m args below meth cd H locs ls' fx hp hl (lvh_st1 hv.2.2.1 (by simp) (Or.inl rfl) h'))
  | some a => exact lv_astore_n (i := 0) fx.2.2.1 fx.2.2.2.1 hd rfl (lvh_has hv) (Nat.lt_of_lt_of_le (by simp) hv.2.2.1) rfl (fun ls' h' => kk p e S m args below meth cd H locs ls' fx hp hl (lvh_st1 hv.2.2.1 (by simp) (Or.inl rfl) h'))
theorem g_lst0 {z z2 : Option Value} {l : List (Option Value)} {v : Int64} (hd : decode cc pc = .ok (.lstore_n 0, 1)) (hq : pc + 1 = q) (kk : Go E cc F q (some (.long v) :: none :: l) r M c s) : Go E cc F pc (z :: z2 :: l) (.long v :: r) M c s := by
  subst hq
  intro p e S m args below meth cd H locs ls fx hp hl hv
  exact lv_lstore_n (i := 0) fx.2.2.1 fx.2.2.2.1 hd rfl (lvh_has hv) (Nat.lt_of_lt_of_le (by simp) hv.2.2.1) rfl (fun ls' h' => kk p e S m args below meth cd H locs ls' fx hp hl (lvh_st2 hv.2.2.1 (by simp) (Or.inl rfl) h'))
theorem g_inc0 {l : List (Option Value)} {v w : Int32} {n : Int} (hd : decode cc pc = .ok (.iinc 0 n, 3)) (hw : v + Int32.ofInt n = w) (hq : pc + 3 = q) (kk : Go E cc F q (some (.int w) :: l) r M c s) : Go E cc F pc (some (.int v) :: l) r M c s := by
  subst hq
  intro p e S m args below meth cd H locs ls fx hp hl hv
  obtain ⟨j, hj⟩ := List.getElem?_of_mem ((lvl_mem (some (.int v) :: l) 0 (0, .int v)).mpr ⟨0, rfl, rfl⟩)
  exact lv_iinc fx.2.2.1 fx.2.2.2.1 hd (lvh_has hv) hj hw (Nat.lt_of_lt_of_le (by simp) hv.2.2.1) rfl (fun ls' h' => kk p e S m args below meth cd H locs ls' fx hp hl (lvh_st1 hv.2.2.1 (by simp) (Or.inl rfl) h'))
theorem g_ild1 {x0 : Option Value} {l : List (Option Value)} {v : Int32} (hd : decode cc pc = .ok (.iload_n 1, 1)) (hq : pc + 1 = q) (kk : Go E cc F q (x0 :: some (.int v) :: l) (.int v :: r) M c s) : Go E cc F pc (x0 :: some (.int v) :: l) r M c s := by
  subst hq
  intro p e S m args below meth cd H locs ls fx hp hl hv
  exact lv_iload_n fx.2.2.1 fx.2.2.2.1 hd rfl (hv.2.2.2 1 _ rfl) (kk p e S m args below meth cd H locs ls fx hp hl hv)
theorem g_lld1 {x0 : Option Value} {l : List (Option Value)} {v : Int64} (hd : decode cc pc = .ok (.lload_n 1, 1)) (hq : pc + 1 = q) (kk : Go E cc F q (x0 :: some (.long v) :: l) (.long v :: r) M c s) : Go E cc F pc (x0 :: some (.long v) :: l) r M c s := by
  subst hq
  intro p e S m args below meth cd H locs ls fx hp hl hv
  exact lv_lload_n fx.2.2.1 fx.2.2.2.1 hd rfl (hv.2.2.2 1 _ rfl) (kk p e S m args below meth cd H locs ls fx hp hl hv)
theorem g_ald1 {x0 : Option Value} {l : List (Option Value)} {v : Nat} (hd : decode cc pc = .ok (.aload_n 1, 1)) (hq : pc + 1 = q) (kk : Go E cc F q (x0 :: some (.ref v) :: l) (.ref v :: r) M c s) : Go E cc F pc (x0 :: some (.ref v) :: l) r M c s := by
  subst hq
  intro p e S m args below meth cd H locs ls fx hp hl hv
  exact lv_aload_n fx.2.2.1 fx.2.2.2.1 hd rfl (hv.2.2.2 1 _ rfl) (kk p e S m args below meth cd H locs ls fx hp hl hv)
theorem g_qld1 {x0 : Option Value} {l : List (Option Value)} {v : Option Nat} (hd : decode cc pc = .ok (.aload_n 1, 1)) (hq : pc + 1 = q) (kk : Go E cc F q (x0 :: some (va_rf v) :: l) (va_rf v :: r) M c s) : Go E cc F pc (x0 :: some (va_rf v) :: l) r M c s := by
  subst hq
  intro p e S m args below meth cd H locs ls fx hp hl hv
  cases v with
  | none => exact lv_aload_nN fx.2.2.1 fx.2.2.2.1 hd rfl (hv.2.2.2 1 _ rfl) (kk p e S m args below meth cd H locs ls fx hp hl hv)
  | some a => exact lv_aload_n fx.2.2.1 fx.2.2.2.1 hd rfl (hv.2.2.2 1 _ rfl) (kk p e S m args below meth cd H locs ls fx hp hl hv)
theorem g_ist1 {x0 : Option Value} {z : Option Value} {l : List (Option Value)} {v : Int32} (hd : decode cc pc = .ok (.istore_n 1, 1)) (hc : lc1 x0 = true) (hq : pc + 1 = q) (kk : Go E cc F q (x0 :: some (.int v) :: l) r M c s) : Go E cc F pc (x0 :: z :: l) (.int v :: r) M c s := by
  subst hq
  intro p e S m args below meth cd H locs ls fx hp hl hv
  exact lv_istore_n (i := 1) fx.2.2.1 fx.2.2.2.1 hd rfl (lvh_has hv) (Nat.lt_of_lt_of_le (by simp) hv.2.2.1) rfl (fun ls' h' => kk p e S m args below meth cd H locs ls' fx hp hl (lvh_st1 hv.2.2.1 (by simp) (Or.inr fun x h => by cases h; exact hc) h'))
theorem g_ast1 {x0 : Option Value} {z : Option Value} {l : List (Option Value)} {v : Nat} (hd : decode cc pc = .ok (.astore_n 1, 1)) (hc : lc1 x0 = true) (hq : pc + 1 = q) (kk : Go E cc F q (x0 :: some (.ref v) :: l) r M c s) : Go E cc F pc (x0 :: z :: l) (.ref v :: r) M c s := by
  subst hq
  intro p e S m args below meth cd H locs ls fx hp hl hv
  exact lv_astore_n (i := 1) fx.2.2.1 fx.2.2.2.1 hd rfl (lvh_has hv) (Nat.lt_of_lt_of_le (by simp) hv.2.2.1) rfl (fun ls' h' => kk p e S m args below meth cd H locs ls' fx hp hl (lvh_st1 hv.2.2.1 (by simp) (Or.inr fun x h => by cases h; exact hc) h'))
theorem g_qst1 {x0 : Option Value} {z : Option Value} {l : List (Option Value)} {v : Option Nat} (hd : decode cc pc = .ok (.astore_n 1, 1)) (hc : lc1 x0 = true) (hq : pc + 1 = q) (kk : Go E cc F q (x0 :: some (va_rf v) :: l) r M c s) : Go E cc F pc (x0 :: z :: l) (va_rf v :: r) M c s := by
  subst hq
  intro p e S m args below meth cd H locs ls fx hp hl hv
  cases v with
  | none => exact lv_astore_nN (i := 1) fx.2.2.1 fx.2.2.2.1 hd rfl (lvh_has hv) (Nat.lt_of_lt_of_le (by simp) hv.2.2.1) rfl (fun ls' h' => kk p e S m args below meth cd H locs ls' fx hp hl (lvh_st1 hv.2.2.1 (by simp) (Or.inr fun x h => by cases h; exact hc) h'))
  | some a => exact lv_astore_n (i := 1) fx.2.2.1 fx.2.2.2.1 hd rfl (lvh_has hv) (Nat.lt_of_lt_of_le (by simp) hv.2.2.1) rfl (fun ls' h' => kk p e S m args below meth cd H locs ls' fx hp hl (lvh_st1 hv.2.2.1 (by simp) (Or.inr fun x h => by cases h; exact hc) h'))
theorem g_lst1 {x0 : Option Value} {z z2 : Option Value} {l : List (Option Value)} {v : Int64} (hd : decode cc pc = .ok (.lstore_n 1, 1)) (hc : lc1 x0 = true) (hq : pc + 1 = q) (kk : Go E cc F q (x0 :: some (.long v) :: none :: l) r M c s) : Go E cc F pc (x0 :: z :: z2 :: l) (.long v :: r) M c s := by
  subst hq
  intro p e S m args below meth cd H locs ls fx hp hl hv
  exact lv_lstore_n (i := 1) fx.2.2.1 fx.2.2.2.1 hd rfl (lvh_has hv) (Nat.lt_of_lt_of_le (by simp) hv.2.2.1) rfl (fun ls' h' => kk p e S m args below meth cd H locs ls' fx hp hl (lvh_st2 hv.2.2.1 (by simp) (Or.inr fun x h => by cases h; exact hc) h'))
theorem g_inc1 {x0 : Option Value} {l : List (Option Value)} {v w : Int32} {n : Int} (hd : decode cc pc = .ok (.iinc 1 n, 3)) (hc : lc1 x0 = true) (hw : v + Int32.ofInt n = w) (hq : pc + 3 = q) (kk : Go E cc F q (x0 :: some (.int w) :: l) r M c s) : Go E cc F pc (x0 :: some (.int v) :: l) r M c s := by
  subst hq
  intro p e S m args below meth cd H locs ls fx hp hl hv
  obtain ⟨j, hj⟩ := List.getElem?_of_mem ((lvl_mem (x0 :: some (.int v) :: l) 0 (1, .int v)).mpr ⟨1, rfl, rfl⟩)
  exact lv_iinc fx.2.2.1 fx.2.2.2.1 hd (lvh_has hv) hj hw (Nat.lt_of_lt_of_le (by simp) hv.2.2.1) rfl (fun ls' h' => kk p e S m args below meth cd H locs ls' fx hp hl (lvh_st1 hv.2.2.1 (by simp) (Or.inr fun x h => by cases h; exact hc) h'))
theorem g_ild2 {x0 x1 : Option Value} {l : List (Option Value)} {v : Int32} (hd : decode cc pc = .ok (.iload_n 2, 1)) (hq : pc + 1 = q) (kk : Go E cc F q (x0 :: x1 :: some (.int v) :: l) (.int v :: r) M c s) : Go E cc F pc (x0 :: x1 :: some (.int v) :: l) r M c s := by
  subst hq
  intro p e S m args below meth cd H locs ls fx hp hl hv
  exact lv_iload_n fx.2.2.1 fx.2.2.2.1 hd rfl (hv.2.2.2 2 _ rfl) (kk p e S m args below meth cd H locs ls fx hp hl hv)
theorem g_lld2 {x0 x1 : Option Value} {l : List (Option Value)} {v : Int64} (hd : decode cc pc = .ok (.lload_n 2, 1)) (hq : pc + 1 = q) (kk : Go E cc F q (x0 :: x1 :: some (.long v) :: l) (.long v :: r) M c s) : Go E cc F pc (x0 :: x1 :: some (.long v) :: l) r M c s := by
  subst hq
  intro p e S m args below meth cd H locs ls fx hp hl hv
  exact lv_lload_n fx.2.2.1 fx.2.2.2.1 hd rfl (hv.2.2.2 2 _ rfl) (kk p e S m args below meth cd H locs ls fx hp hl hv)
theorem g_ald2 {x0 x1 : Option Value} {l : List (Option Value)} {v : Nat} (hd : decode cc pc = .ok (.aload_n 2, 1)) (hq : pc + 1 = q) (kk : Go E cc F q (x0 :: x1 :: some (.ref v) :: l) (.ref v :: r) M c s) : Go E cc F pc (x0 :: x1 :: some (.ref v) :: l) r M c s := by
  subst hq
  intro p e S m args below meth cd H locs ls fx hp hl hv
  exact lv_aload_n fx.2.2.1 fx.2.2.2.1 hd rfl (hv.2.2.2 2 _ rfl) (kk p e S m args below meth cd H locs ls fx hp hl hv)
theorem g_qld2 {x0 x1 : Option Value} {l : List (Option Value)} {v : Option Nat} (hd : decode cc pc = .ok (.aload_n 2, 1)) (hq : pc + 1 = q) (kk : Go E cc F q (x0 :: x1 :: some (va_rf v) :: l) (va_rf v :: r) M c s) : Go E cc F pc (x0 :: x1 :: some (va_rf v) :: l) r M c s := by
  subst hq
  intro p e S m args below meth cd H locs ls fx hp hl hv
  cases v with
  | none => exact lv_aload_nN fx.2.2.1 fx.2.2.2.1 hd rfl (hv.2.2.2 2 _ rfl) (kk p e S m args below meth cd H locs ls fx hp hl hv)
  | some a => exact lv_aload_n fx.2.2.1 fx.2.2.2.1 hd rfl (hv.2.2.2 2 _ rfl) (kk p e S m args below meth cd H locs ls fx hp hl hv)
theorem g_ist2 {x0 x1 : Option Value} {z : Option Value} {l : List (Option Value)} {v : Int32} (hd : decode cc pc = .ok (.istore_n 2, 1)) (hc : lc1 x1 = true) (hq : pc + 1 = q) (kk : Go E cc F q (x0 :: x1 :: some (.int v) :: l) r M c s) : Go E cc F pc (x0 :: x1 :: z :: l) (.int v :: r) M c s := by
  subst hq
  intro p e S m args below meth cd H locs ls fx hp hl hv
  exact lv_istore_n (i := 2) fx.2.2.1 fx.2.2.2.1 hd rfl (lvh_has hv) (Nat.lt_of_lt_of_le (by simp) hv.2.2.1) rfl (fun ls' h' => kk p e S m args below meth cd H locs ls' fx hp hl (lvh_st1 hv.2.2.1 (by simp) (Or.inr fun x h => by cases h; exact hc) h'))
theorem g_ast2 {x0 x1 : Option Value} {z : Option Value} {l : List (Option Value)} {v : Nat} (hd : decode cc pc = .ok (.astore_n 2, 1)) (hc : lc1 x1 = true) (hq : pc + 1 = q) (kk : Go E cc F q (x0 :: x1 :: some (.ref v) :: l) r M c s) : Go E cc F pc (x0 :: x1 :: z :: l) (.ref v :: r) M c s := by
  subst hq
  intro p e S m args below meth cd H locs ls fx hp hl hv
  exact lv_astore_n (i := 2) fx.2.2.1 fx.2.2.2.1 hd rfl (lvh_has hv) (Nat.lt_of_lt_of_le (by simp) hv.2.2.1) rfl (fun ls' h' => kk p e S m args below meth cd H locs ls' fx hp hl (lvh_st1 hv.2.2.1 (by simp) (Or.inr fun x h => by cases h; exact hc) h'))
theorem g_qst2 {x0 x1 : Option Value} {z : Option Value} {l : List (Option Value)} {v : Option Nat} (hd : decode cc pc = .ok (.astore_n 2, 1)) (hc : lc1 x1 = true) (hq : pc + 1 = q) (kk : Go E cc F q (x0 :: x1 :: some (va_rf v) :: l) r M c s) : Go E cc F pc (x0 :: x1 :: z :: l) (va_rf v :: r) M c s := by
  subst hq
  intro p e S m args below meth cd H locs ls fx hp hl hv
  cases v with
  | none => exact lv_astore_nN (i := 2) fx.2.2.1 fx.2.2.2.1 hd rfl (lvh_has hv) (Nat.lt_of_lt_of_le (by simp) hv.2.2.1) rfl (fun ls' h' => kk p e S m args below meth cd H locs ls' fx hp hl (lvh_st1 hv.2.2.1 (by simp) (Or.inr fun x h => by cases h; exact hc) h'))
  | some a => exact lv_astore_n (i := 2) fx.2.2.1 fx.2.2.2.1 hd rfl (lvh_has hv) (Nat.lt_of_lt_of_le (by simp) hv.2.2.1) rfl (fun ls' h' => kk p e S m args below meth cd H locs ls' fx hp hl (lvh_st1 hv.2.2.1 (by simp) (Or.inr fun x h => by cases h; exact hc) h'))
theorem g_lst2 {x0 x1 : Option Value} {z z2 : Option Value} {l : List (Option Value)} {v : Int64} (hd : decode cc pc = .ok (.lstore_n 2, 1)) (hc : lc1 x1 = true) (hq : pc + 1 = q) (kk : Go E cc F q (x0 :: x1 :: some (.long v) :: none :: l) r M c s) : Go E cc F pc (x0 :: x1 :: z :: z2 :: l) (.long v :: r) M c s := by
  subst hq
  intro p e S m args below meth cd H locs ls fx hp hl hv
  exact lv_lstore_n (i := 2) fx.2.2.1 fx.2.2.2.1 hd rfl (lvh_has hv) (Nat.lt_of_lt_of_le (by simp) hv.2.2.1) rfl (fun ls' h' => kk p e S m args below meth cd H locs ls' fx hp hl (lvh_st2 hv.2.2.1 (by simp) (Or.inr fun x h => by cases h; exact hc) h'))
theorem g_inc2 {x0 x1 : Option Value} {l : List (Option Value)} {v w : Int32} {n : Int} (hd : decode cc pc = .ok (.iinc 2 n, 3)) (hc : lc1 x1 = true) (hw : v + Int32.ofInt n = w) (hq : pc + 3 = q) (kk : Go E cc F q (x0 :: x1 :: some (.int w) :: l) r M c s) : Go E cc F pc (x0 :: x1 :: some (.int v) :: l) r M c s := by
  subst hq
  intro p e S m args below meth cd H locs ls fx hp hl hv
  obtain ⟨j, hj⟩ := List.getElem?_of_mem ((lvl_mem (x0 :: x1 :: some (.int v) :: l) 0 (2, .int v)).mpr ⟨2, rfl, rfl⟩)
  exact lv_iinc fx.2.2.1 fx.2.2.2.1 hd (lvh_has hv) hj hw (Nat.lt_of_lt_of_le (by simp) hv.2.2.1) rfl (fun ls' h' => kk p e S m args below meth cd H locs ls' fx hp hl (lvh_st1 hv.2.2.1 (by simp) (Or.inr fun x h => by cases h; exact hc) h'))
theorem g_ild3 {x0 x1 x2 : Option Value} {l : List (Option Value)} {v : Int32} (hd : decode cc pc = .ok (.iload_n 3, 1)) (hq : pc + 1 = q) (kk : Go E cc F q (x0 :: x1 :: x2 :: some (.int v) :: l) (.int v :: r) M c s) : Go E cc F pc (x0 :: x1 :: x2 :: some (.int v) :: l) r M c s := by
  subst hq
  intro p e S m args below meth cd H locs ls fx hp hl hv
  exact lv_iload_n fx.2.2.1 fx.2.2.2.1 hd rfl (hv.2.2.2 3 _ rfl) (kk p e S m args below meth cd H locs ls fx hp hl hv)
theorem g_lld3 {x0 x1 x2 : Option Value} {l : List (Option Value)} {v : Int64} (hd : decode cc pc = .ok (.lload_n 3, 1)) (hq : pc + 1 = q) (kk : Go E cc F q (x0 :: x1 :: x2 :: some (.long v) :: l) (.long v :: r) M c s) : Go E cc F pc (x0 :: x1 :: x2 :: some (.long v) :: l) r M c s := by
  subst hq
  intro p e S m args below meth cd H locs ls fx hp hl hv
  exact lv_lload_n fx.2.2.1 fx.2.2.2.1 hd rfl (hv.2.2.2 3 _ rfl) (kk p e S m args below meth cd H locs ls fx hp hl hv)
theorem g_ald3 {x0 x1 x2 : Option Value} {l : List (Option Value)} {v : Nat} (hd : decode cc pc = .ok (.aload_n 3, 1)) (hq : pc + 1 = q) (kk : Go E cc F q (x0 :: x1 :: x2 :: some (.ref v) :: l) (.ref v :: r) M c s) : Go E cc F pc (x0 :: x1 :: x2 :: some (.ref v) :: l) r M c s := by
  subst hq
  intro p e S m args below meth cd H locs ls fx hp hl hv
  exact lv_aload_n fx.2.2.1 fx.2.2.2.1 hd rfl (hv.2.2.2 3 _ rfl) (kk p e S m args below meth cd H locs ls fx hp hl hv)
theorem g_qld3 {x0 x1 x2 : Option Value} {l : List (Option Value)} {v : Option Nat} (hd : decode cc pc = .ok (.aload_n 3, 1)) (hq : pc + 1 = q) (kk : Go E cc F q (x0 :: x1 :: x2 :: some (va_rf v) :: l) (va_rf v :: r) M c s) : Go E cc F pc (x0 :: x1 :: x2 :: some (va_rf v) :: l) r M c s := by
  subst hq
  intro p e S m args below meth cd H locs ls fx hp hl hv
  cases v with
  | none => exact lv_aload_nN fx.2.2.1 fx.2.2.2.1 hd rfl (hv.2.2.2 3 _ rfl) (kk p e S m args below meth cd H locs ls fx hp hl hv)
  | some a => exact lv_aload_n fx.2.2.1 fx.2.2.2.1 hd rfl (hv.2.2.2 3 _ rfl) (kk p e S m args below meth cd H locs ls fx hp hl hv)
theorem g_ist3 {x0 x1 x2 : Option Value} {z : Option Value} {l : List (Option Value)} {v : Int32} (hd : decode cc pc = .ok (.istore_n 3, 1)) (hc : lc1 x2 = true) (hq : pc + 1 = q) (kk : Go E cc F q (x0 :: x1 :: x2 :: some (.int v) :: l) r M c s) : Go E cc F pc (x0 :: x1 :: x2 :: z :: l) (.int v :: r) M c s := by
  subst hq
  intro p e S m args below meth cd H locs ls fx hp hl hv
  exact lv_istore_n (i := 3) fx.2.2.1 fx.2.2.2.1 hd rfl (lvh_has hv) (Nat.lt_of_lt_of_le (by simp) hv.2.2.1) rfl (fun ls' h' => kk p e S m args below meth cd H locs ls' fx hp hl (lvh_st1 hv.2.2.1 (by simp) (Or.inr fun x h => by cases h; exact hc) h'))
theorem g_ast3 {x0 x1 x2 : Option Value} {z : Option Value} {l : List (Option Value)} {v : Nat} (hd : decode cc pc = .ok (.astore_n 3, 1)) (hc : lc1 x2 = true) (hq : pc + 1 = q) (kk : Go E cc F q (x0 :: x1 :: x2 :: some (.ref v) :: l) r M c s) : Go E cc F pc (x0 :: x1 :: x2 :: z :: l) (.ref v :: r) M c s := by
  subst hq
  intro p e S m args below meth cd H locs ls fx hp hl hv
  exact lv_astore_n (i := 3) fx.2.2.1 fx.2.2.2.1 hd rfl (lvh_has hv) (Nat.lt_of_lt_of_le (by simp) hv.2.2.1) rfl (fun ls' h' => kk p e S m args below meth cd H locs ls' fx hp hl (lvh_st1 hv.2.2.1 (by simp) (Or.inr fun x h => by cases h; exact hc) h'))
theorem g_qst3 {x0 x1 x2 : Option Value} {z : Option Value} {l : List (Option Value)} {v : Option Nat} (hd : decode cc pc = .ok (.astore_n 3, 1)) (hc : lc1 x2 = true) (hq : pc + 1 = q) (kk : Go E cc F q (x0 :: x1 :: x2 :: some (va_rf v) :: l) r M c s) : Go E cc F pc (x0 :: x1 :: x2 :: z :: l) (va_rf v :: r) M c s := by
  subst hq
  intro p e S m args below meth cd H locs ls fx hp hl hv
  cases v with
  | none => exact lv_astore_nN (i := 3) fx.2.2.1 fx.2.2.2.1 hd rfl (lvh_has hv) (Nat.lt_of_lt_of_le (by simp) hv.2.2.1) rfl (fun ls' h' => kk p e S m args below meth cd H locs ls' fx hp hl (lvh_st1 hv.2.2.1 (by simp) (Or.inr fun x h => by cases h; exact hc) h'))
  | some a => exact lv_astore_n (i := 3) fx.2.2.1 fx.2.2.2.1 hd rfl (lvh_has hv) (Nat.lt_of_lt_of_le (by simp) hv.2.2.1) rfl (fun ls' h' => kk p e S m args below meth cd H locs ls' fx hp hl (lvh_st1 hv.2.2.1 (by simp) (Or.inr fun x h => by cases h; exact hc) h'))
theorem g_lst3 {x0 x1 x2 : Option Value} {z z2 : Option Value} {l : List (Option Value)} {v : Int64} (hd : decode cc pc = .ok (.lstore_n 3, 1)) (hc : lc1 x2 = true) (hq : pc + 1 = q) (kk : Go E cc F q (x0 :: x1 :: x2 :: some (.long v) :: none :: l) r M c s) : Go E cc F pc (x0 :: x1 :: x2 :: z :: z2 :: l) (.long v :: r) M c s := by
  subst hq
  intro p e S m args below meth cd H locs ls fx hp hl hv
  exact lv_lstore_n (i := 3) fx.2.2.1 fx.2.2.2.1 hd rfl (lvh_has hv) (Nat.lt_of_lt_of_le (by simp) hv.2.2.1) rfl (fun ls' h' => kk p e S m args below meth cd H locs ls' fx hp hl (lvh_st2 hv.2.2.1 (by simp) (Or.inr fun x h => by cases h; exact hc) h'))
theorem g_inc3 {x0 x1 x2 : Option Value} {l : List (Option Value)} {v w : Int32} {n : Int} (hd : decode cc pc = .ok (.iinc 3 n, 3)) (hc : lc1 x2 = true) (hw : v + Int32.ofInt n = w) (hq : pc + 3 = q) (kk : Go E cc F q (x0 :: x1 :: x2 :: some (.int w) :: l) r M c s) : Go E cc F pc (x0 :: x1 :: x2 :: some (.int v) :: l) r M c s := by
  subst hq
  intro p e S m args below meth cd H locs ls fx hp hl hv
  obtain ⟨j, hj⟩ := List.getElem?_of_mem ((lvl_mem (x0 :: x1 :: x2 :: some (.int v) :: l) 0 (3, .int v)).mpr ⟨3, rfl, rfl⟩)
  exact lv_iinc fx.2.2.1 fx.2.2.2.1 hd (lvh_has hv) hj hw (Nat.lt_of_lt_of_le (by simp) hv.2.2.1) rfl (fun ls' h' => kk p e S m args below meth cd H locs ls' fx hp hl (lvh_st1 hv.2.2.1 (by simp) (Or.inr fun x h => by cases h; exact hc) h'))
theorem g_ild4 {x0 x1 x2 x3 : Option Value} {l : List (Option Value)} {v : Int32} (hd : decode cc pc = .ok (.iload 4, 2)) (hq : pc + 2 = q) (kk : Go E cc F q (x0 :: x1 :: x2 :: x3 :: some (.int v) :: l) (.int v :: r) M c s) : Go E cc F pc (x0 :: x1 :: x2 :: x3 :: some (.int v) :: l) r M c s := by
  subst hq
  intro p e S m args below meth cd H locs ls fx hp hl hv
  exact lv_iload fx.2.2.1 fx.2.2.2.1 hd (hv.2.2.2 4 _ rfl) (kk p e S m args below meth cd H locs ls fx hp hl hv)
theorem g_lld4 {x0 x1 x2 x3 : Option Value} {l : List (Option Value)} {v : Int64} (hd : decode cc pc = .ok (.lload 4, 2)) (hq : pc + 2 = q) (kk : Go E cc F q (x0 :: x1 :: x2 :: x3 :: some (.long v) :: l) (.long v :: r) M c s) : Go E cc F pc (x0 :: x1 :: x2 :: x3 :: some (.long v) :: l) r M c s := by
  subst hq
  intro p e S m args below meth cd H locs ls fx hp hl hv
  exact lv_lload fx.2.2.1 fx.2.2.2.1 hd (hv.2.2.2 4 _ rfl) (kk p e S m args below meth cd H locs ls fx hp hl hv)
theorem g_ald4 {x0 x1 x2 x3 : Option Value} {l : List (Option Value)} {v : Nat} (hd : decode cc pc = .ok (.aload 4, 2)) (hq : pc + 2 = q) (kk : Go E cc F q (x0 :: x1 :: x2 :: x3 :: some (.ref v) :: l) (.ref v :: r) M c s) : Go E cc F pc (x0 :: x1 :: x2 :: x3 :: some (.ref v) :: l) r M c s := by
  subst hq
  intro p e S m args below meth cd H locs ls fx hp hl hv
  exact lv_aload fx.2.2.1 fx.2.2.2.1 hd (hv.2.2.2 4 _ rfl) (kk p e S m args below meth cd H locs ls fx hp hl hv)
theorem g_qld4 {x0 x1 x2 x3 : Option Value} {l : List (Option Value)} {v : Option Nat} (hd : decode cc pc = .ok (.aload 4, 2)) (hq : pc + 2 = q) (kk : Go E cc F q (x0 :: x1 :: x2 :: x3 :: some (va_rf v) :: l) (va_rf v :: r) M c s) : Go E cc F pc (x0 :: x1 :: x2 :: x3 :: some (va_rf v) :: l) r M c s := by
  subst hq
  intro p e S m args below meth cd H locs ls fx hp hl hv
  cases v with
  | none => exact lv_aloadN fx.2.2.1 fx.2.2.2.1 hd (hv.2.2.2 4 _ rfl) (kk p e S m args below meth cd H locs ls fx hp hl hv)
  | some a => exact lv_aload fx.2.2.1 fx.2.2.2.1 hd (hv.2.2.2 4 _ rfl) (kk p e S m args below meth cd H locs ls fx hp hl hv)
theorem g_ist4 {x0 x1 x2 x3 : Option Value} {z : Option Value} {l : List (Option Value)} {v : Int32} (hd : decode cc pc = .ok (.istore 4, 2)) (hc : lc1 x3 = true) (hq : pc + 2 = q) (kk : Go E cc F q (x0 :: x1 :: x2 :: x3 :: some (.int v) :: l) r M c s) : Go E cc F pc (x0 :: x1 :: x2 :: x3 :: z :: l) (.int v :: r) M c s := by
  subst hq
  intro p e S m args below meth cd H locs ls fx hp hl hv
  exact lv_istore (i := 4) fx.2.2.1 fx.2.2.2.1 hd (lvh_has hv) (Nat.lt_of_lt_of_le (by simp) hv.2.2.1) rfl (fun ls' h' => kk p e S m args below meth cd H locs ls' fx hp hl (lvh_st1 hv.2.2.1 (by simp) (Or.inr fun x h => by cases h; exact hc) h'))
theorem g_ast4 {x0 x1 x2 x3 : Option Value} {z : Option Value} {l : List (Option Value)} {v : Nat} (hd : decode cc pc = .ok (.astore 4, 2)) (hc : lc1 x3 = true) (hq : pc + 2 = q) (kk : Go E cc F q (x0 :: x1 :: x2 :: x3 :: some (.ref v) :: l) r M c s) : Go E cc F pc (x0 :: x1 :: x2 :: x3 :: z :: l) (.ref v :: r) M c s := by
  subst hq
  intro p e S m args below meth cd H locs ls fx hp hl hv
  exact lv_astore (i := 4) fx.2.2.1 fx.2.2.2.1 hd (lvh_has hv) (Nat.lt_of_lt_of_le (by simp) hv.2.2.1) rfl (fun ls' h' => kk p e S m args below meth cd H locs ls' fx hp hl (lvh_st1 hv.2.2.1 (by simp) (Or.inr fun x h => by cases h; exact hc) h'))
theorem g_qst4 {x0 x1 x2 x3 : Option Value} {z : Option Value} {l : List (Option Value)} {v : Option Nat} (hd : decode cc pc = .ok (.astore 4, 2)) (hc : lc1 x3 = true) (hq : pc + 2 = q) (kk : Go E cc F q (x0 :: x1 :: x2 :: x3 :: some (va_rf v) :: l) r M c s) : Go E cc F pc (x0 :: x1 :: x2 :: x3 :: z :: l) (va_rf v :: r) M c s := by
  subst hq
  intro p e S m args below meth cd H locs ls fx hp hl hv
  cases v with
  | none => exact lv_astoreN (i := 4) fx.2.2.1 fx.2.2.2.1 hd (lvh_has hv) (Nat.lt_of_lt_of_le (by simp) hv.2.2.1) rfl (fun ls' h' => kk p e S m args below meth cd H locs ls' fx hp hl (lvh_st1 hv.2.2.1 (by simp) (Or.inr fun x h => by cases h; exact hc) h'))
  | some a => exact lv_astore (i := 4) fx.2.2.1 fx.2.2.2.1 hd (lvh_has hv) (Nat.lt_of_lt_of_le (by simp) hv.2.2.1) rfl (fun ls' h' => kk p e S m args below meth cd H locs ls' fx hp hl (lvh_st1 hv.2.2.1 (by simp) (Or.inr fun x h => by cases h; exact hc) h'))
theorem g_lst4 {x0 x1 x2 x3 : Option Value} {z z2 : Option Value} {l : List (Option Value)} {v : Int64} (hd : decode cc pc = .ok (.lstore 4, 2)) (hc : lc1 x3 = true) (hq : pc + 2 = q) (kk : Go E cc F q (x0 :: x1 :: x2 :: x3 :: some (.long v) :: none :: l) r M c s) : Go E cc F pc (x0 :: x1 :: x2 :: x3 :: z :: z2 :: l) (.long v :: r) M c s := by
  subst hq
  intro p e S m args below meth cd H locs ls fx hp hl hv
  exact lv_lstore (i := 4) fx.2.2.1 fx.2.2.2.1 hd (lvh_has hv) (Nat.lt_of_lt_of_le (by simp) hv.2.2.1) rfl (fun ls' h' => kk p e S m args below meth cd H locs ls' fx hp hl (lvh_st2 hv.2.2.1 (by simp) (Or.inr fun x h => by cases h; exact hc) h'))
theorem g_inc4 {x0 x1 x2 x3 : Option Value} {l : List (Option Value)} {v w : Int32} {n : Int} (hd : decode cc pc = .ok (.iinc 4 n, 3)) (hc : lc1 x3 = true) (hw : v + Int32.ofInt n = w) (hq : pc + 3 = q) (kk : Go E cc F q (x0 :: x1 :: x2 :: x3 :: some (.int w) :: l) r M c s) : Go E cc F pc (x0 :: x1 :: x2 :: x3 :: some (.int v) :: l) r M c s := by
  subst hq
  intro p e S m args below meth cd H locs ls fx hp hl hv
  obtain ⟨j, hj⟩ := List.getElem?_of_mem ((lvl_mem (x0 :: x1 :: x2 :: x3 :: some (.int v) :: l) 0 (4, .int v)).mpr ⟨4, rfl, rfl⟩)
  exact lv_iinc fx.2.2.1 fx.2.2.2.1 hd (lvh_has hv) hj hw (Nat.lt_of_lt_of_le (by simp) hv.2.2.1) rfl (fun ls' h' => kk p e S m args below meth cd H locs ls' fx hp hl (lvh_st1 hv.2.2.1 (by simp) (Or.inr fun x h => by cases h; exact hc) h'))
theorem g_ild5 {x0 x1 x2 x3 x4 : Option Value} {l : List (Option Value)} {v : Int32} (hd : decode cc pc = .ok (.iload 5, 2)) (hq : pc + 2 = q) (kk : Go E cc F q (x0 :: x1 :: x2 :: x3 :: x4 :: some (.int v) :: l) (.int v :: r) M c s) : Go E cc F pc (x0 :: x1 :: x2 :: x3 :: x4 :: some (.int v) :: l) r M c s := by
  subst hq
  intro p e S m args below meth cd H locs ls fx hp hl hv
  exact lv_iload fx.2.2.1 fx.2.2.2.1 hd (hv.2.2.2 5 _ rfl) (kk p e S m args below meth cd H locs ls fx hp hl hv)
theorem g_lld5 {x0 x1 x2 x3 x4 : Option Value} {l : List (Option Value)} {v : Int64} (hd : decode cc pc = .ok (.lload 5, 2)) (hq : pc + 2 = q) (kk : Go E cc F q (x0 :: x1 :: x2 :: x3 :: x4 :: some (.long v) :: l) (.long v :: r) M c s) : Go E cc F pc (x0 :: x1 :: x2 :: x3 :: x4 :: some (.long v) :: l) r M c s := by
  subst hq
  intro p e S m args below meth cd H locs ls fx hp hl hv
  exact lv_lload fx.2.2.1 fx.2.2.2.1 hd (hv.2.2.2 5 _ rfl) (kk p e S m args below meth cd H locs ls fx hp hl hv)
theorem g_ald5 {x0 x1 x2 x3 x4 : Option Value} {l : List (Option Value)} {v : Nat} (hd : decode cc pc = .ok (.aload 5, 2)) (hq : pc + 2 = q) (kk : Go E cc F q (x0 :: x1 :: x2 :: x3 :: x4 :: some (.ref v) :: l) (.ref v :: r) M c s) : Go E cc F pc (x0 :: x1 :: x2 :: x3 :: x4 :: some (.ref v) :: l) r M c s := by
  subst hq
  intro p e S m args below meth cd H locs ls fx hp hl hv
  exact lv_aload fx.2.2.1 fx.2.2.2.1 hd (hv.2.2.2 5 _ rfl) (kk p e S m args below meth cd H locs ls fx hp hl hv)
theorem g_qld5 {x0 x1 x2 x3 x4 : Option Value} {l : List (Option Value)} {v : Option Nat} (hd : decode cc pc = .ok (.aload 5, 2)) (hq : pc + 2 = q) (kk : Go E cc F q (x0 :: x1 :: x2 :: x3 :: x4 :: some (va_rf v) :: l) (va_rf v :: r) M c s) : Go E cc F pc (x0 :: x1 :: x2 :: x3 :: x4 :: some (va_rf v) :: l) r M c s := by
  subst hq
  intro p e S m args below meth cd H locs ls fx hp hl hv
  cases v with
  | none => exact lv_aloadN fx.2.2.1 fx.2.2.2.1 hd (hv.2.2.2 5 _ rfl) (kk p e S m args below meth cd H locs ls fx hp hl hv)
  | some a => exact lv_aload fx.2.2.1 fx.2.2.2.1 hd (hv.2.2.2 5 _ rfl) (kk p e S m args below meth cd H locs ls fx hp hl hv)
theorem g_ist5 {x0 x1 x2 x3 x4 : Option Value} {z : Option Value} {l : List (Option Value)} {v : Int32} (hd : decode cc pc = .ok (.istore 5, 2)) (hc : lc1 x4 = true) (hq : pc + 2 = q) (kk : Go E cc F q (x0 :: x1 :: x2 :: x3 :: x4 :: some (.int v) :: l) r M c s) : Go E cc F pc (x0 :: x1 :: x2 :: x3 :: x4 :: z :: l) (.int v :: r) M c s := by
  subst hq
  intro p e S m args below meth cd H locs ls fx hp hl hv
  exact lv_istore (i := 5) fx.2.2.1 fx.2.2.2.1 hd (lvh_has hv) (Nat.lt_of_lt_of_le (by simp) hv.2.2.1) rfl (fun ls' h' => kk p e S m args below meth cd H locs ls' fx hp hl (lvh_st1 hv.2.2.1 (by simp) (Or.inr fun x h => by cases h; exact hc) h'))
theorem g_ast5 {x0 x1 x2 x3 x4 : Option Value} {z : Option Value} {l : List (Option Value)} {v : Nat} (hd : decode cc pc = .ok (.astore 5, 2)) (hc : lc1 x4 = true) (hq : pc + 2 = q) (kk : Go E cc F q (x0 :: x1 :: x2 :: x3 :: x4 :: some (.ref v) :: l) r M c s) : Go E cc F pc (x0 :: x1 :: x2 :: x3 :: x4 :: z :: l) (.ref v :: r) M c s := by
  subst hq
  intro p e S m args below meth cd H locs ls fx hp hl hv
  exact lv_astore (i := 5) fx.2.2.1 fx.2.2.2.1 hd (lvh_has hv) (Nat.lt_of_lt_of_le (by simp) hv.2.2.1) rfl (fun ls' h' => kk p e S m args below meth cd H locs ls' fx hp hl (lvh_st1 hv.2.2.1 (by simp) (Or.inr fun x h => by cases h; exact hc) h'))
theorem g_qst5 {x0 x1 x2 x3 x4 : Option Value} {z : Option Value} {l : List (Option Value)} {v : Option Nat} (hd : decode cc pc = .ok (.astore 5, 2)) (hc : lc1 x4 = true) (hq : pc + 2 = q) (kk : Go E cc F q (x0 :: x1 :: x2 :: x3 :: x4 :: some (va_rf v) :: l) r M c s) : Go E cc F pc (x0 :: x1 :: x2 :: x3 :: x4 :: z :: l) (va_rf v :: r) M c s := by
  subst hq
  intro p e S m args below meth cd H locs ls fx hp hl hv
  cases v with
  | none => exact lv_astoreN (i := 5) fx.2.2.1 fx.2.2.2.1 hd (lvh_has hv) (Nat.lt_of_lt_of_le (by simp) hv.2.2.1) rfl (fun ls' h' => kk p e S m args below meth cd H locs ls' fx hp hl (lvh_st1 hv.2.2.1 (by simp) (Or.inr fun x h => by cases h; exact hc) h'))
  | some a => exact lv_astore (i := 5) fx.2.2.1 fx.2.2.2.1 hd (lvh_has hv) (Nat.lt_of_lt_of_le (by simp) hv.2.2.1) rfl (fun ls' h' => kk p e S m args below meth cd H locs ls' fx hp hl (lvh_st1 hv.2.2.1 (by simp) (Or.inr fun x h => by cases h; exact hc) h'))
theorem g_lst5 {x0 x1 x2 x3 x4 : Option Value} {z z2 : Option Value} {l : List (Option Value)} {v : Int64} (hd : decode cc pc = .ok (.lstore 5, 2)) (hc : lc1 x4 = true) (hq : pc + 2 = q) (kk : Go E cc F q (x0 :: x1 :: x2 :: x3 :: x4 :: some (.long v) :: none :: l) r M c s) : Go E cc F pc (x0 :: x1 :: x2 :: x3 :: x4 :: z :: z2 :: l) (.long v :: r) M c s := by
  subst hq
  intro p e S m args below meth cd H locs ls fx hp hl hv
  exact lv_lstore (i := 5) fx.2.2.1 fx.2.2.2.1 hd (lvh_has hv) (Nat.lt_of_lt_of_le (by simp) hv.2.2.1) rfl (fun ls' h' => kk p e S m args below meth cd H locs ls' fx hp hl (lvh_st2 hv.2.2.1 (by simp) (Or.inr fun x h => by cases h; exact hc) h'))
theorem g_inc5 {x0 x1 x2 x3 x4 : Option Value} {l : List (Option Value)} {v w : Int32} {n : Int} (hd : decode cc pc = .ok (.iinc 5 n, 3)) (hc : lc1 x4 = true) (hw : v + Int32.ofInt n = w) (hq : pc + 3 = q) (kk : Go E cc F q (x0 :: x1 :: x2 :: x3 :: x4 :: some (.int w) :: l) r M c s) : Go E cc F pc (x0 :: x1 :: x2 :: x3 :: x4 :: some (.int v) :: l) r M c s := by
  subst hq
  intro p e S m args below meth cd H locs ls fx hp hl hv
  obtain ⟨j, hj⟩ := List.getElem?_of_mem ((lvl_mem (x0 :: x1 :: x2 :: x3 :: x4 :: some (.int v) :: l) 0 (5, .int v)).mpr ⟨5, rfl, rfl⟩)
  exact lv_iinc fx.2.2.1 fx.2.2.2.1 hd (lvh_has hv) hj hw (Nat.lt_of_lt_of_le (by simp) hv.2.2.1) rfl (fun ls' h' => kk p e S m args below meth cd H locs ls' fx hp hl (lvh_st1 hv.2.2.1 (by simp) (Or.inr fun x h => by cases h; exact hc) h'))
theorem g_ild6 {x0 x1 x2 x3 x4 x5 : Option Value} {l : List (Option Value)} {v : Int32} (hd : decode cc pc = .ok (.iload 6, 2)) (hq : pc + 2 = q) (kk : Go E cc F q (x0 :: x1 :: x2 :: x3 :: x4 :: x5 :: some (.int v) :: l) (.int v :: r) M c s) : Go E cc F pc (x0 :: x1 :: x2 :: x3 :: x4 :: x5 :: some (.int v) :: l) r M c s := by
  subst hq
  intro p e S m args below meth cd H locs ls fx hp hl hv
  exact lv_iload fx.2.2.1 fx.2.2.2.1 hd (hv.2.2.2 6 _ rfl) (kk p e S m args below meth cd H locs ls fx hp hl hv)
theorem g_lld6 {x0 x1 x2 x3 x4 x5 : Option Value} {l : List (Option Value)} {v : Int64} (hd : decode cc pc = .ok (.lload 6, 2)) (hq : pc + 2 = q) (kk : Go E cc F q (x0 :: x1 :: x2 :: x3 :: x4 :: x5 :: some (.long v) :: l) (.long v :: r) M c s) : Go E cc F pc (x0 :: x1 :: x2 :: x3 :: x4 :: x5 :: some (.long v) :: l) r M c s := by
  subst hq
  intro p e S m args below meth cd H locs ls fx hp hl hv
  exact lv_lload fx.2.2.1 fx.2.2.2.1 hd (hv.2.2.2 6 _ rfl) (kk p e S m args below meth cd H locs ls fx hp hl hv)
theorem g_ald6 {x0 x1 x2 x3 x4 x5 : Option Value} {l : List (Option Value)} {v : Nat} (hd : decode cc pc = .ok (.aload 6, 2)) (hq : pc + 2 = q) (kk : Go E cc F q (x0 :: x1 :: x2 :: x3 :: x4 :: x5 :: some (.ref v) :: l) (.ref v :: r) M c s) : Go E cc F pc (x0 :: x1 :: x2 :: x3 :: x4 :: x5 :: some (.ref v) :: l) r M c s := by
  subst hq
  intro p e S m args below meth cd H locs ls fx hp hl hv
  exact lv_aload fx.2.2.1 fx.2.2.2.1 hd (hv.2.2.2 6 _ rfl) (kk p e S m args below meth cd H locs ls fx hp hl hv)
theorem g_qld6 {x0 x1 x2 x3 x4 x5 : Option Value} {l : List (Option Value)} {v : Option Nat} (hd : decode cc pc = .ok (.aload 6, 2)) (hq : pc + 2 = q) (kk : Go E cc F q (x0 :: x1 :: x2 :: x3 :: x4 :: x5 :: some (va_rf v) :: l) (va_rf v :: r) M c s) : Go E cc F pc (x0 :: x1 :: x2 :: x3 :: x4 :: x5 :: some (va_rf v) :: l) r M c s := by
  subst hq
  intro p e S m args below meth cd H locs ls fx hp hl hv
  cases v with
  | none => exact lv_aloadN fx.2.2.1 fx.2.2.2.1 hd (hv.2.2.2 6 _ rfl) (kk p e S m args below meth cd H locs ls fx hp hl hv)
  | some a => exact lv_aload fx.2.2.1 fx.2.2.2.1 hd (hv.2.2.2 6 _ rfl) (kk p e S m args below meth cd H locs ls fx hp hl hv)
theorem g_ist6 {x0 x1 x2 x3 x4 x5 : Option Value} {z : Option Value} {l : List (Option Value)} {v : Int32} (hd : decode cc pc = .ok (.istore 6, 2)) (hc : lc1 x5 = true) (hq : pc + 2 = q) (kk : Go E cc F q (x0 :: x1 :: x2 :: x3 :: x4 :: x5 :: some (.int v) :: l) r M c s) : Go E cc F pc (x0 :: x1 :: x2 :: x3 :: x4 :: x5 :: z :: l) (.int v :: r) M c s := by
  subst hq
  intro p e S m args below meth cd H locs ls fx hp hl hv
  exact lv_istore (i := 6) fx.2.2.1 fx.2.2.2.1 hd (lvh_has hv) (Nat.lt_of_lt_of_le (by simp) hv.2.2.1) rfl (fun ls' h' => kk p e S m args below meth cd H locs ls' fx hp hl (lvh_st1 hv.2.2.1 (by simp) (Or.inr fun x h => by cases h; exact hc) h'))
theorem g_ast6 {x0 x1 x2 x3 x4 x5 : Option Value} {z : Option Value} {l : List (Option Value)} {v : Nat} (hd : decode cc pc = .ok (.astore 6, 2)) (hc : lc1 x5 = true) (hq : pc + 2 = q) (kk : Go E cc F q (x0 :: x1 :: x2 :: x3 :: x4 :: x5 :: some (.ref v) :: l) r M c s) : Go E cc F pc (x0 :: x1 :: x2 :: x3 :: x4 :: x5 :: z :: l) (.ref v :: r) M c s := by
  subst hq
  intro p e S m args below meth cd H locs ls fx hp hl hv
  exact lv_astore (i := 6) fx.2.2.1 fx.2.2.2.1 hd (lvh_has hv) (Nat.lt_of_lt_of_le (by simp) hv.2.2.1) rfl (fun ls' h' => kk p e S m args below meth cd H locs ls' fx hp hl (lvh_st1 hv.2.2.1 (by simp) (Or.inr fun x h => by cases h; exact hc) h'))
theorem g_qst6 {x0 x1 x2 x3 x4 x5 : Option Value} {z : Option Value} {l : List (Option Value)} {v : Option Nat} (hd : decode cc pc = .ok (.astore 6, 2)) (hc : lc1 x5 = true) (hq : pc + 2 = q) (kk : Go E cc F q (x0 :: x1 :: x2 :: x3 :: x4 :: x5 :: some (va_rf v) :: l) r M c s) : Go E cc F pc (x0 :: x1 :: x2 :: x3 :: x4 :: x5 :: z :: l) (va_rf v :: r) M c s := by
  subst hq
  intro p e S m args below meth cd H locs ls fx hp hl hv
  cases v with
  | none => exact lv_astoreN (i := 6) fx.2.2.1 fx.2.2.2.1 hd (lvh_has hv) (Nat.lt_of_lt_of_le (by simp) hv.2.2.1) rfl (fun ls' h' => kk p e S m args below meth cd H locs ls' fx hp hl (lvh_st1 hv.2.2.1 (by simp) (Or.inr fun x h => by cases h; exact hc) h'))
  | some a => exact lv_astore (i := 6) fx.2.2.1 fx.2.2.2.1 hd (lvh_has hv) (Nat.lt_of_lt_of_le (by simp) hv.2.2.1) rfl (fun ls' h' => kk p e S m args below meth cd H locs ls' fx hp hl (lvh_st1 hv.2.2.1 (by simp) (Or.inr fun x h => by cases h; exact hc) h'))
theorem g_lst6 {x0 x1 x2 x3 x4 x5 : Option Value} {z z2 : Option Value} {l : List (Option Value)} {v : Int64} (hd : decode cc pc = .ok (.lstore 6, 2)) (hc : lc1 x5 = true) (hq : pc + 2 = q) (kk : Go E cc F q (x0 :: x1 :: x2 :: x3 :: x4 :: x5 :: some (.long v) :: none :: l) r M c s) : Go E cc F pc (x0 :: x1 :: x2 :: x3 :: x4 :: x5 :: z :: z2 :: l) (.long v :: r) M c s := by
  subst hq
  intro p e S m args below meth cd H locs ls fx hp hl hv
  exact lv_lstore (i := 6) fx.2.2.1 fx.2.2.2.1 hd (lvh_has hv) (Nat.lt_of_lt_of_le (by simp) hv.2.2.1) rfl (fun ls' h' => kk p e S m args below meth cd H locs ls' fx hp hl (lvh_st2 hv.2.2.1 (by simp) (Or.inr fun x h => by cases h; exact hc) h'))
theorem g_inc6 {x0 x1 x2 x3 x4 x5 : Option Value} {l : List (Option Value)} {v w : Int32} {n : Int} (hd : decode cc pc = .ok (.iinc 6 n, 3)) (hc : lc1 x5 = true) (hw : v + Int32.ofInt n = w) (hq : pc + 3 = q) (kk : Go E cc F q (x0 :: x1 :: x2 :: x3 :: x4 :: x5 :: some (.int w) :: l) r M c s) : Go E cc F pc (x0 :: x1 :: x2 :: x3 :: x4 :: x5 :: some (.int v) :: l) r M c s := by
  subst hq
  intro p e S m args below meth cd H locs ls fx hp hl hv
  obtain ⟨j, hj⟩ := List.getElem?_of_mem ((lvl_mem (x0 :: x1 :: x2 :: x3 :: x4 :: x5 :: some (.int v) :: l) 0 (6, .int v)).mpr ⟨6, rfl, rfl⟩)
  exact lv_iinc fx.2.2.1 fx.2.2.2.1 hd (lvh_has hv) hj hw (Nat.lt_of_lt_of_le (by simp) hv.2.2.1) rfl (fun ls' h' => kk p e S m args below meth cd H locs ls' fx hp hl (lvh_st1 hv.2.2.1 (by simp) (Or.inr fun x h => by cases h; exact hc) h'))
theorem g_ild7 {x0 x1 x2 x3 x4 x5 x6 : Option Value} {l : List (Option Value)} {v : Int32} (hd : decode cc pc = .ok (.iload 7, 2)) (hq : pc + 2 = q) (kk : Go E cc F q (x0 :: x1 :: x2 :: x3 :: x4 :: x5 :: x6 :: some (.int v) :: l) (.int v :: r) M c s) : Go E cc F pc (x0 :: x1 :: x2 :: x3 :: x4 :: x5 :: x6 :: some (.int v) :: l) r M c s := by
  subst hq
  intro p e S m args below meth cd H locs ls fx hp hl hv
  exact lv_iload fx.2.2.1 fx.2.2.2.1 hd (hv.2.2.2 7 _ rfl) (kk p e S m args below meth cd H locs ls fx hp hl hv)
theorem g_lld7 {x0 x1 x2 x3 x4 x5 x6 : Option Value} {l : List (Option Value)} {v : Int64} (hd : decode cc pc = .ok (.lload 7, 2)) (hq : pc + 2 = q) (kk : Go E cc F q (x0 :: x1 :: x2 :: x3 :: x4 :: x5 :: x6 :: some (.long v) :: l) (.long v :: r) M c s) : Go E cc F pc (x0 :: x1 :: x2 :: x3 :: x4 :: x5 :: x6 :: some (.long v) :: l) r M c s := by
  subst hq
  intro p e S m args below meth cd H locs ls fx hp hl hv
  exact lv_lload fx.2.2.1 fx.2.2.2.1 hd (hv.2.2.2 7 _ rfl) (kk p e S m args below meth cd H locs ls fx hp hl hv)
theorem g_ald7 {x0 x1 x2 x3 x4 x5 x6 : Option Value} {l : List (Option Value)} {v : Nat} (hd : decode cc pc = .ok (.aload 7, 2)) (hq : pc + 2 = q) (kk : Go E cc F q (x0 :: x1 :: x2 :: x3 :: x4 :: x5 :: x6 :: some (.ref v) :: l) (.ref v :: r) M c s) : Go E cc F pc (x0 :: x1 :: x2 :: x3 :: x4 :: x5 :: x6 :: some (.ref v) :: l) r M c s := by
  subst hq
  intro p e S m args below meth cd H locs ls fx hp hl hv
  exact lv_aload fx.2.2.1 fx.2.2.2.1 hd (hv.2.2.2 7 _ rfl) (kk p e S m args below meth cd H locs ls fx hp hl hv)
theorem g_qld7 {x0 x1 x2 x3 x4 x5 x6 : Option Value} {l : List (Option Value)} {v : Option Nat} (hd : decode cc pc = .ok (.aload 7, 2)) (hq : pc + 2 = q) (kk : Go E cc F q (x0 :: x1 :: x2 :: x3 :: x4 :: x5 :: x6 :: some (va_rf v) :: l) (va_rf v :: r) M c s) : Go E cc F pc (x0 :: x1 :: x2 :: x3 :: x4 :: x5 :: x6 :: some (va_rf v) :: l) r M c s := by
  subst hq
  intro p e S m args below meth cd H locs ls fx hp hl hv
  cases v with
  | none => exact lv_aloadN fx.2.2.1 fx.2.2.2.1 hd (hv.2.2.2 7 _ rfl) (kk p e S m args below meth cd H locs ls fx hp hl hv)
  | some a => exact lv_aload fx.2.2.1 fx.2.2.2.1 hd (hv.2.2.2 7 _ rfl) (kk p e S m args below meth cd H locs ls fx hp hl hv)
theorem g_ist7 {x0 x1 x2 x3 x4 x5 x6 : Option Value} {z : Option Value} {l : List (Option Value)} {v : Int32} (hd : decode cc pc = .ok (.istore 7, 2)) (hc : lc1 x6 = true) (hq : pc + 2 = q) (kk : Go E cc F q (x0 :: x1 :: x2 :: x3 :: x4 :: x5 :: x6 :: some (.int v) :: l) r M c s) : Go E cc F pc (x0 :: x1 :: x2 :: x3 :: x4 :: x5 :: x6 :: z :: l) (.int v :: r) M c s := by
  subst hq
  intro p e S m args below meth cd H locs ls fx hp hl hv
  exact lv_istore (i := 7) fx.2.2.1 fx.2.2.2.1 hd (lvh_has hv) (Nat.lt_of_lt_of_le (by simp) hv.2.2.1) rfl (fun ls' h' => kk p e S m args below meth cd H locs ls' fx hp hl (lvh_st1 hv.2.2.1 (by simp) (Or.inr fun x h => by cases h; exact hc) h'))
theorem g_ast7 {x0 x1 x2 x3 x4 x5 x6 : Option Value} {z : Option Value} {l : List (Option Value)} {v : Nat} (hd : decode cc pc = .ok (.astore 7, 2)) (hc : lc1 x6 = true) (hq : pc + 2 = q) (kk : Go E cc F q (x0 :: x1 :: x2 :: x3 :: x4 :: x5 :: x6 :: some (.ref v) :: l) r M c s) : Go E cc F pc (x0 :: x1 :: x2 :: x3 :: x4 :: x5 :: x6 :: z :: l) (.ref v :: r) M c s := by
  subst hq
  intro p e S m args below meth cd H locs ls fx hp hl hv
  exact lv_astore (i := 7) fx.2.2.1 fx.2.2.2.1 hd (lvh_has hv) (Nat.lt_of_lt_of_le (by simp) hv.2.2.1) rfl (fun ls' h' => kk p e S m args below meth cd H locs ls' fx hp hl (lvh_st1 hv.2.2.1 (by simp) (Or.inr fun x h => by cases h; exact hc) h'))
theorem g_qst7 {x0 x1 x2 x3 x4 x5 x6 : Option Value} {z : Option Value} {l : List (Option Value)} {v : Option Nat} (hd : decode cc pc = .ok (.astore 7, 2)) (hc : lc1 x6 = true) (hq : pc + 2 = q) (kk : Go E cc F q (x0 :: x1 :: x2 :: x3 :: x4 :: x5 :: x6 :: some (va_rf v) :: l) r M c s) : Go E cc F pc (x0 :: x1 :: x2 :: x3 :: x4 :: x5 :: x6 :: z :: l) (va_rf v :: r) M c s := by
  subst hq
  intro p e S m args below meth cd H locs ls fx hp hl hv
  cases v with
  | none => exact lv_astoreN (i := 7) fx.2.2.1 fx.2.2.2.1 hd (lvh_has hv) (Nat.lt_of_lt_of_le (by simp) hv.2.2.1) rfl (fun ls' h' => kk p e S m args below meth cd H locs ls' fx hp hl (lvh_st1 hv.2.2.1 (by simp) (Or.inr fun x h => by cases h; exact hc) h'))
  | some a => exact lv_astore (i := 7) fx.2.2.1 fx.2.2.2.1 hd (lvh_has hv) (Nat.lt_of_lt_of_le (by simp) hv.2.2.1) rfl (fun ls' h' => kk p e S m args below meth cd H locs ls' fx hp hl (lvh_st1 hv.2.2.1 (by simp) (Or.inr fun x h => by cases h; exact hc) h'))
theorem g_lst7 {x0 x1 x2 x3 x4 x5 x6 : Option Value} {z z2 : Option Value} {l : List (Option Value)} {v : Int64} (hd : decode cc pc = .ok (.lstore 7, 2)) (hc : lc1 x6 = true) (hq : pc + 2 = q) (kk : Go E cc F q (x0 :: x1 :: x2 :: x3 :: x4 :: x5 :: x6 :: some (.long v) :: none :: l) r M c s) : Go E cc F pc (x0 :: x1 :: x2 :: x3 :: x4 :: x5 :: x6 :: z :: z2 :: l) (.long v :: r) M c s := by
  subst hq
  intro p e S m args below meth cd H locs ls fx hp hl hv
  exact lv_lstore (i := 7) fx.2.2.1 fx.2.2.2.1 hd (lvh_has hv) (Nat.lt_of_lt_of_le (by simp) hv.2.2.1) rfl (fun ls' h' => kk p e S m args below meth cd H locs ls' fx hp hl (lvh_st2 hv.2.2.1 (by simp) (Or.inr fun x h => by cases h; exact hc) h'))
theorem g_inc7 {x0 x1 x2 x3 x4 x5 x6 : Option Value} {l : List (Option Value)} {v w : Int32} {n : Int} (hd : decode cc pc = .ok (.iinc 7 n, 3)) (hc : lc1 x6 = true) (hw : v + Int32.ofInt n = w) (hq : pc + 3 = q) (kk : Go E cc F q (x0 :: x1 :: x2 :: x3 :: x4 :: x5 :: x6 :: some (.int w) :: l) r M c s) : Go E cc F pc (x0 :: x1 :: x2 :: x3 :: x4 :: x5 :: x6 :: some (.int v) :: l) r M c s := by
  subst hq
  intro p e S m args below meth cd H locs ls fx hp hl hv
  obtain ⟨j, hj⟩ := List.getElem?_of_mem ((lvl_mem (x0 :: x1 :: x2 :: x3 :: x4 :: x5 :: x6 :: some (.int v) :: l) 0 (7, .int v)).mpr ⟨7, rfl, rfl⟩)
  exact lv_iinc fx.2.2.1 fx.2.2.2.1 hd (lvh_has hv) hj hw (Nat.lt_of_lt_of_le (by simp) hv.2.2.1) rfl (fun ls' h' => kk p e S m args below meth cd H locs ls' fx hp hl (lvh_st1 hv.2.2.1 (by simp) (Or.inr fun x h => by cases h; exact hc) h'))
theorem g_ild8 {x0 x1 x2 x3 x4 x5 x6 x7 : Option Value} {l : List (Option Value)} {v : Int32} (hd : decode cc pc = .ok (.iload 8, 2)) (hq : pc + 2 = q) (kk : Go E cc F q (x0 :: x1 :: x2 :: x3 :: x4 :: x5 :: x6 :: x7 :: some (.int v) :: l) (.int v :: r) M c s) : Go E cc F pc (x0 :: x1 :: x2 :: x3 :: x4 :: x5 :: x6 :: x7 :: some (.int v) :: l) r M c s := by
  subst hq
  intro p e S m args below meth cd H locs ls fx hp hl hv
  exact lv_iload fx.2.2.1 fx.2.2.2.1 hd (hv.2.2.2 8 _ rfl) (kk p e S m args below meth cd H locs ls fx hp hl hv)
theorem g_lld8 {x0 x1 x2 x3 x4 x5 x6 x7 : Option Value} {l : List (Option Value)} {v : Int64} (hd : decode cc pc = .ok (.lload 8, 2)) (hq : pc + 2 = q) (kk : Go E cc F q (x0 :: x1 :: x2 :: x3 :: x4 :: x5 :: x6 :: x7 :: some (.long v) :: l) (.long v :: r) M c s) : Go E cc F pc (x0 :: x1 :: x2 :: x3 :: x4 :: x5 :: x6 :: x7 :: some (.long v) :: l) r M c s := by
  subst hq
  intro p e S m args below meth cd H locs ls fx hp hl hv
  exact lv_lload fx.2.2.1 fx.2.2.2.1 hd (hv.2.2.2 8 _ rfl) (kk p e S m args below meth cd H locs ls fx hp hl hv)
theorem g_ald8 {x0 x1 x2 x3 x4 x5 x6 x7 : Option Value} {l : List (Option Value)} {v : Nat} (hd : decode cc pc = .ok (.aload 8, 2)) (hq : pc + 2 = q) (kk : Go E cc F q (x0 :: x1 :: x2 :: x3 :: x4 :: x5 :: x6 :: x7 :: some (.ref v) :: l) (.ref v :: r) M c s) : Go E cc F pc (x0 :: x1 :: x2 :: x3 :: x4 :: x5 :: x6 :: x7 :: some (.ref v) :: l) r M c s := by
  subst hq
  intro p e S m args below meth cd H locs ls fx hp hl hv
  exact lv_aload fx.2.2.1 fx.2.2.2.1 hd (hv.2.2.2 8 _ rfl) (kk p e S m args below meth cd H locs ls fx hp hl hv)
theorem g_qld8 {x0 x1 x2 x3 x4 x5 x6 x7 : Option Value} {l : List (Option Value)} {v : Option Nat} (hd : decode cc pc = .ok (.aload 8, 2)) (hq : pc + 2 = q) (kk : Go E cc F q (x0 :: x1 :: x2 :: x3 :: x4 :: x5 :: x6 :: x7 :: some (va_rf v) :: l) (va_rf v :: r) M c s) : Go E cc F pc (x0 :: x1 :: x2 :: x3 :: x4 :: x5 :: x6 :: x7 :: some (va_rf v) :: l) r M c s := by
  subst hq
  intro p e S m args below meth cd H locs ls fx hp hl hv
  cases v with
  | none => exact lv_aloadN fx.2.2.1 fx.2.2.2.1 hd (hv.2.2.2 8 _ rfl) (kk p e S m args below meth cd H locs ls fx hp hl hv)
  | some a => exact lv_aload fx.2.2.1 fx.2.2.2.1 hd (hv.2.2.2 8 _ rfl) (kk p e S m args below meth cd H locs ls fx hp hl hv)
theorem g_ist8 {x0 x1 x2 x3 x4 x5 x6 x7 : Option Value} {z : Option Value} {l : List (Option Value)} {v : Int32} (hd : decode cc pc = .ok (.istore 8, 2)) (hc : lc1 x7 = true) (hq : pc + 2 = q) (kk : Go E cc F q (x0 :: x1 :: x2 :: x3 :: x4 :: x5 :: x6 :: x7 :: some (.int v) :: l) r M c s) : Go E cc F pc (x0 :: x1 :: x2 :: x3 :: x4 :: x5 :: x6 :: x7 :: z :: l) (.int v :: r) M c s := by
  subst hq
  intro p e S m args below meth cd H locs ls fx hp hl hv
  exact lv_istore (i := 8) fx.2.2.1 fx.2.2.2.1 hd (lvh_has hv) (Nat.lt_of_lt_of_le (by simp) hv.2.2.1) rfl (fun ls' h' => kk p e S m args below meth cd H locs ls' fx hp hl (lvh_st1 hv.2.2.1 (by simp) (Or.inr fun x h => by cases h; exact hc) h'))
theorem g_ast8 {x0 x1 x2 x3 x4 x5 x6 x7 : Option Value} {z : Option Value} {l : List (Option Value)} {v : Nat} (hd : decode cc pc = .ok (.astore 8, 2)) (hc : lc1 x7 = true) (hq : pc + 2 = q) (kk : Go E cc F q (x0 :: x1 :: x2 :: x3 :: x4 :: x5 :: x6 :: x7 :: some (.ref v) :: l) r M c s) : Go E cc F pc (x0 :: x1 :: x2 :: x3 :: x4 :: x5 :: x6 :: x7 :: z :: l) (.ref v :: r) M c s := by
  subst hq
  intro p e S m args below meth cd H locs ls fx hp hl hv
  exact lv_astore (i := 8) fx.2.2.1 fx.2.2.2.1 hd (lvh_has hv) (Nat.lt_of_lt_of_le (by simp) hv.2.2.1) rfl (fun ls' h' => kk p e S m args below meth cd H locs ls' fx hp hl (lvh_st1 hv.2.2.1 (by simp) (Or.inr fun x h => by cases h; exact hc) h'))
theorem g_qst8 {x0 x1 x2 x3 x4 x5 x6 x7 : Option Value} {z : Option Value} {l : List (Option Value)} {v : Option Nat} (hd : decode cc pc = .ok (.astore 8, 2)) (hc : lc1 x7 = true) (hq : pc + 2 = q) (kk : Go E cc F q (x0 :: x1 :: x2 :: x3 :: x4 :: x5 :: x6 :: x7 :: some (va_rf v) :: l) r M c s) : Go E cc F pc (x0 :: x1 :: x2 :: x3 :: x4 :: x5 :: x6 :: x7 :: z :: l) (va_rf v :: r) M c s := by
  subst hq
  intro p e S m args below meth cd H locs ls fx hp hl hv
  cases v with
  | none => exact lv_astoreN (i := 8) fx.2.2.1 fx.2.2.2.1 hd (lvh_has hv) (Nat.lt_of_lt_of_le (by simp) hv.2.2.1) rfl (fun ls' h' => kk p e S m args below meth cd H locs ls' fx hp hl (lvh_st1 hv.2.2.1 (by simp) (Or.inr fun x h => by cases h; exact hc) h'))
  | some a => exact lv_astore (i := 8) fx.2.2.1 fx.2.2.2.1 hd (lvh_has hv) (Nat.lt_of_lt_of_le (by simp) hv.2.2.1) rfl (fun ls' h' => kk p e S m args below meth cd H locs ls' fx hp hl (lvh_st1 hv.2.2.1 (by simp) (Or.inr fun x h => by cases h; exact hc) h'))
theorem g_lst8 {x0 x1 x2 x3 x4 x5 x6 x7 : Option Value} {z z2 : Option Value} {l : List (Option Value)} {v : Int64} (hd : decode cc pc = .ok (.lstore 8, 2)) (hc : lc1 x7 = true) (hq : pc + 2 = q) (kk : Go E cc F q (x0 :: x1 :: x2 :: x3 :: x4 :: x5 :: x6 :: x7 :: some (.long v) :: none :: l) r M c s) : Go E cc F pc (x0 :: x1 :: x2 :: x3 :: x4 :: x5 :: x6 :: x7 :: z :: z2 :: l) (.long v :: r) M c s := by
  subst hq
  intro p e S m args below meth cd H locs ls fx hp hl hv
  exact lv_lstore (i := 8) fx.2.2.1 fx.2.2.2.1 hd (lvh_has hv) (Nat.lt_of_lt_of_le (by simp) hv.2.2.1) rfl (fun ls' h' => kk p e S m args below meth cd H locs ls' fx hp hl (lvh_st2 hv.2.2.1 (by simp) (Or.inr fun x h => by cases h; exact hc) h'))
theorem g_inc8 {x0 x1 x2 x3 x4 x5 x6 x7 : Option Value} {l : List (Option Value)} {v w : Int32} {n : Int} (hd : decode cc pc = .ok (.iinc 8 n, 3)) (hc : lc1 x7 = true) (hw : v + Int32.ofInt n = w) (hq : pc + 3 = q) (kk : Go E cc F q (x0 :: x1 :: x2 :: x3 :: x4 :: x5 :: x6 :: x7 :: some (.int w) :: l) r M c s) : Go E cc F pc (x0 :: x1 :: x2 :: x3 :: x4 :: x5 :: x6 :: x7 :: some (.int v) :: l) r M c s := by
  subst hq
  intro p e S m args below meth cd H locs ls fx hp hl hv
  obtain ⟨j, hj⟩ := List.getElem?_of_mem ((lvl_mem (x0 :: x1 :: x2 :: x3 :: x4 :: x5 :: x6 :: x7 :: some (.int v) :: l) 0 (8, .int v)).mpr ⟨8, rfl, rfl⟩)
  exact lv_iinc fx.2.2.1 fx.2.2.2.1 hd (lvh_has hv) hj hw (Nat.lt_of_lt_of_le (by simp) hv.2.2.1) rfl (fun ls' h' => kk p e S m args below meth cd H locs ls' fx hp hl (lvh_st1 hv.2.2.1 (by simp) (Or.inr fun x h => by cases h; exact hc) h'))
theorem g_ild9 {x0 x1 x2 x3 x4 x5 x6 x7 x8 : Option Value} {l : List (Option Value)} {v : Int32} (hd : decode cc pc = .ok (.iload 9, 2)) (hq : pc + 2 = q) (kk : Go E cc F q (x0 :: x1 :: x2 :: x3 :: x4 :: x5 :: x6 :: x7 :: x8 :: some (.int v) :: l) (.int v :: r) M c s) : Go E cc F pc (x0 :: x1 :: x2 :: x3 :: x4 :: x5 :: x6 :: x7 :: x8 :: some (.int v) :: l) r M c s := by
  subst hq
  intro p e S m args below meth cd H locs ls fx hp hl hv
  exact lv_iload fx.2.2.1 fx.2.2.2.1 hd (hv.2.2.2 9 _ rfl) (kk p e S m args below meth cd H locs ls fx hp hl hv)
theorem g_lld9 {x0 x1 x2 x3 x4 x5 x6 x7 x8 : Option Value} {l : List (Option Value)} {v : Int64} (hd : decode cc pc = .ok (.lload 9, 2)) (hq : pc + 2 = q) (kk : Go E cc F q (x0 :: x1 :: x2 :: x3 :: x4 :: x5 :: x6 :: x7 :: x8 :: some (.long v) :: l) (.long v :: r) M c s) : Go E cc F pc (x0 :: x1 :: x2 :: x3 :: x4 :: x5 :: x6 :: x7 :: x8 :: some (.long v) :: l) r M c s := by
  subst hq
  intro p e S m args below meth cd H locs ls fx hp hl hv
  exact lv_lload fx.2.2.1 fx.2.2.2.1 hd (hv.2.2.2 9 _ rfl) (kk p e S m args below meth cd H locs ls fx hp hl hv)
theorem g_ald9 {x0 x1 x2 x3 x4 x5 x6 x7 x8 : Option Value} {l : List (Option Value)} {v : Nat} (hd : decode cc pc = .ok (.aload 9, 2)) (hq : pc + 2 = q) (kk : Go E cc F q (x0 :: x1 :: x2 :: x3 :: x4 :: x5 :: x6 :: x7 :: x8 :: some (.ref v) :: l) (.ref v :: r) M c s) : Go E cc F pc (x0 :: x1 :: x2 :: x3 :: x4 :: x5 :: x6 :: x7 :: x8 :: some (.ref v) :: l) r M c s := by
  subst hq
  intro p e S m args below meth cd H locs ls fx hp hl hv
  exact lv_aload fx.2.2.1 fx.2.2.2.1 hd (hv.2.2.2 9 _ rfl) (kk p e S m args below meth cd H locs ls fx hp hl hv)
theorem g_qld9 {x0 x1 x2 x3 x4 x5 x6 x7 x8 : Option Value} {l : List (Option Value)} {v : Option Nat} (hd : decode cc pc = .ok (.aload 9, 2)) (hq : pc + 2 = q) (kk : Go E cc F q (x0 :: x1 :: x2 :: x3 :: x4 :: x5 :: x6 :: x7 :: x8 :: some (va_rf v) :: l) (va_rf v :: r) M c s) : Go E cc F pc (x0 :: x1 :: x2 :: x3 :: x4 :: x5 :: x6 :: x7 :: x8 :: some (va_rf v) :: l) r M c s := by
  subst hq
  intro p e S m args below meth cd H locs ls fx hp hl hv
  cases v with
  | none => exact lv_aloadN fx.2.2.1 fx.2.2.2.1 hd (hv.2.2.2 9 _ rfl) (kk p e S m args below meth cd H locs ls fx hp hl hv)
  | some a => exact lv_aload fx.2.2.1 fx.2.2.2.1 hd (hv.2.2.2 9 _ rfl) (kk p e S m args below meth cd H locs ls fx hp hl hv)
theorem g_ist9 {x0 x1 x2 x3 x4 x5 x6 x7 x8 : Option Value} {z : Option Value} {l : List (Option Value)} {v : Int32} (hd : decode cc pc = .ok (.istore 9, 2)) (hc : lc1 x8 = true) (hq : pc + 2 = q) (kk : Go E cc F q (x0 :: x1 :: x2 :: x3 :: x4 :: x5 :: x6 :: x7 :: x8 :: some (.int v) :: l) r M c s) : Go E cc F pc (x0 :: x1 :: x2 :: x3 :: x4 :: x5 :: x6 :: x7 :: x8 :: z :: l) (.int v :: r) M c s := by
  subst hq
  intro p e S m args below meth cd H locs ls fx hp hl hv
  exact lv_istore (i := 9) fx.2.2.1 fx.2.2.2.1 hd (lvh_has hv) (Nat.lt_of_lt_of_le (by simp) hv.2.2.1) rfl (fun ls' h' => kk p e S m args below meth cd H locs ls' fx hp hl (lvh_st1 hv.2.2.1 (by simp) (Or.inr fun x h => by cases h; exact hc) h'))
theorem g_ast9 {x0 x1 x2 x3 x4 x5 x6 x7 x8 : Option Value} {z : Option Value} {l : List (Option Value)} {v : Nat} (hd : decode cc pc = .ok (.astore 9, 2)) (hc : lc1 x8 = true) (hq : pc + 2 = q) (kk : Go E cc F q (x0 :: x1 :: x2 :: x3 :: x4 :: x5 :: x6 :: x7 :: x8 :: some (.ref v) :: l) r M c s) : Go E cc F pc (x0 :: x1 :: x2 :: x3 :: x4 :: x5 :: x6 :: x7 :: x8 :: z :: l) (.ref v :: r) M c s := by
  subst hq
  intro p e S m args below meth cd H locs ls fx hp hl hv
  exact lv_astore (i := 9) fx.2.2.1 fx.2.2.2.1 hd (lvh_has hv) (Nat.lt_of_lt_of_le (by simp) hv.2.2.1) rfl (fun ls' h' => kk p e S m args below meth cd H locs ls' fx hp hl (lvh_st1 hv.2.2.1 (by simp) (Or.inr fun x h => by cases h; exact hc) h'))
theorem g_qst9 {x0 x1 x2 x3 x4 x5 x6 x7 x8 : Option Value} {z : Option Value} {l : List (Option Value)} {v : Option Nat} (hd : decode cc pc = .ok (.astore 9, 2)) (hc : lc1 x8 = true) (hq : pc + 2 = q) (kk : Go E cc F q (x0 :: x1 :: x2 :: x3 :: x4 :: x5 :: x6 :: x7 :: x8 :: some (va_rf v) :: l) r M c s) : Go E cc F pc (x0 :: x1 :: x2 :: x3 :: x4 :: x5 :: x6 :: x7 :: x8 :: z :: l) (va_rf v :: r) M c s := by
  subst hq
  intro p e S m args below meth cd H locs ls fx hp hl hv
  cases v with
  | none => exact lv_astoreN (i := 9) fx.2.2.1 fx.2.2.2.1 hd (lvh_has hv) (Nat.lt_of_lt_of_le (by simp) hv.2.2.1) rfl (fun ls' h' => kk p e S m args below meth cd H locs ls' fx hp hl (lvh_st1 hv.2.2.1 (by simp) (Or.inr fun x h => by cases h; exact hc) h'))
  | some a => exact lv_astore (i := 9) fx.2.2.1 fx.2.2.2.1 hd (lvh_has hv) (Nat.lt_of_lt_of_le (by simp) hv.2.2.1) rfl (fun ls' h' => kk p e S m args below meth cd H locs ls' fx hp hl (lvh_st1 hv.2.2.1 (by simp) (Or.inr fun x h => by cases h; exact hc) h'))
theorem g_lst9 {x0 x1 x2 x3 x4 x5 x6 x7 x8 : Option Value} {z z2 : Option Value} {l : List (Option Value)} {v : Int64} (hd : decode cc pc = .ok (.lstore 9, 2)) (hc : lc1 x8 = true) (hq : pc + 2 = q) (kk : Go E cc F q (x0 :: x1 :: x2 :: x3 :: x4 :: x5 :: x6 :: x7 :: x8 :: some (.long v) :: none :: l) r M c s) : Go E cc F pc (x0 :: x1 :: x2 :: x3 :: x4 :: x5 :: x6 :: x7 :: x8 :: z :: z2 :: l) (.long v :: r) M c s := by
  subst hq
  intro p e S m args below meth cd H locs ls fx hp hl hv
  exact lv_lstore (i := 9) fx.2.2.1 fx.2.2.2.1 hd (lvh_has hv) (Nat.lt_of_lt_of_le (by simp) hv.2.2.1) rfl (fun ls' h' => kk p e S m args below meth cd H locs ls' fx hp hl (lvh_st2 hv.2.2.1 (by simp) (Or.inr fun x h => by cases h; exact hc) h'))
theorem g_inc9 {x0 x1 x2 x3 x4 x5 x6 x7 x8 : Option Value} {l : List (Option Value)} {v w : Int32} {n : Int} (hd : decode cc pc = .ok (.iinc 9 n, 3)) (hc : lc1 x8 = true) (hw : v + Int32.ofInt n = w) (hq : pc + 3 = q) (kk : Go E cc F q (x0 :: x1 :: x2 :: x3 :: x4 :: x5 :: x6 :: x7 :: x8 :: some (.int w) :: l) r M c s) : Go E cc F pc (x0 :: x1 :: x2 :: x3 :: x4 :: x5 :: x6 :: x7 :: x8 :: some (.int v) :: l) r M c s := by
  subst hq
  intro p e S m args below meth cd H locs ls fx hp hl hv
  obtain ⟨j, hj⟩ := List.getElem?_of_mem ((lvl_mem (x0 :: x1 :: x2 :: x3 :: x4 :: x5 :: x6 :: x7 :: x8 :: some (.int v) :: l) 0 (9, .int v)).mpr ⟨9, rfl, rfl⟩)
  exact lv_iinc fx.2.2.1 fx.2.2.2.1 hd (lvh_has hv) hj hw (Nat.lt_of_lt_of_le (by simp) hv.2.2.1) rfl (fun ls' h' => kk p e S m args below meth cd H locs ls' fx hp hl (lvh_st1 hv.2.2.1 (by simp) (Or.inr fun x h => by cases h; exact hc) h'))
theorem g_ild10 {x0 x1 x2 x3 x4 x5 x6 x7 x8 x9 : Option Value} {l : List (Option Value)} {v : Int32} (hd : decode cc pc = .ok (.iload 10, 2)) (hq : pc + 2 = q) (kk : Go E cc F q (x0 :: x1 :: x2 :: x3 :: x4 :: x5 :: x6 :: x7 :: x8 :: x9 :: some (.int v) :: l) (.int v :: r) M c s) : Go E cc F pc (x0 :: x1 :: x2 :: x3 :: x4 :: x5 :: x6 :: x7 :: x8 :: x9 :: some (.int v) :: l) r M c s := by
  subst hq
  intro p e S m args below meth cd H locs ls fx hp hl hv
  exact lv_iload fx.2.2.1 fx.2.2.2.1 hd (hv.2.2.2 10 _ rfl) (kk p e S m args below meth cd H locs ls fx hp hl hv)
theorem g_lld10 {x0 x1 x2 x3 x4 x5 x6 x7 x8 x9 : Option Value} {l : List (Option Value)} {v : Int64} (hd : decode cc pc = .ok (.lload 10, 2)) (hq : pc + 2 = q) (kk : Go E cc F q (x0 :: x1 :: x2 :: x3 :: x4 :: x5 :: x6 :: x7 :: x8 :: x9 :: some (.long v) :: l) (.long v :: r) M c s) : Go E cc F pc (x0 :: x1 :: x2 :: x3 :: x4 :: x5 :: x6 :: x7 :: x8 :: x9 :: some (.long v) :: l) r M c s := by
  subst hq
  intro p e S m args below meth cd H locs ls fx hp hl hv
  exact lv_lload fx.2.2.1 fx.2.2.2.1 hd (hv.2.2.2 10 _ rfl) (kk p e S m args below meth cd H locs ls fx hp hl hv)
theorem g_ald10 {x0 x1 x2 x3 x4 x5 x6 x7 x8 x9 : Option Value} {l : List (Option Value)} {v : Nat} (hd : decode cc pc = .ok (.aload 10, 2)) (hq : pc + 2 = q) (kk : Go E cc F q (x0 :: x1 :: x2 :: x3 :: x4 :: x5 :: x6 :: x7 :: x8 :: x9 :: some (.ref v) :: l) (.ref v :: r) M c s) : Go E cc F pc (x0 :: x1 :: x2 :: x3 :: x4 :: x5 :: x6 :: x7 :: x8 :: x9 :: some (.ref v) :: l) r M c s := by
  subst hq
  intro p e S m args below meth cd H locs ls fx hp hl hv
  exact lv_aload fx.2.2.1 fx.2.2.2.1 hd (hv.2.2.2 10 _ rfl) (kk p e S m args below meth cd H locs ls fx hp hl hv)
theorem g_qld10 {x0 x1 x2 x3 x4 x5 x6 x7 x8 x9 : Option Value} {l : List (Option Value)} {v : Option Nat} (hd : decode cc pc = .ok (.aload 10, 2)) (hq : pc + 2 = q) (kk : Go E cc F q (x0 :: x1 :: x2 :: x3 :: x4 :: x5 :: x6 :: x7 :: x8 :: x9 :: some (va_rf v) :: l) (va_rf v :: r) M c s) : Go E cc F pc (x0 :: x1 :: x2 :: x3 :: x4 :: x5 :: x6 :: x7 :: x8 :: x9 :: some (va_rf v) :: l) r M c s := by
  subst hq
  intro p e S m args below meth cd H locs ls fx hp hl hv
  cases v with
  | none => exact lv_aloadN fx.2.2.1 fx.2.2.2.1 hd (hv.2.2.2 10 _ rfl) (kk p e S m args below meth cd H locs ls fx hp hl hv)
  | some a => exact lv_aload fx.2.2.1 fx.2.2.2.1 hd (hv.2.2.2 10 _ rfl) (kk p e S m args below meth cd H locs ls fx hp hl hv)
theorem g_ist10 {x0 x1 x2 x3 x4 x5 x6 x7 x8 x9 : Option Value} {z : Option Value} {l : List (Option Value)} {v : Int32} (hd : decode cc pc = .ok (.istore 10, 2)) (hc : lc1 x9 = true) (hq : pc + 2 = q) (kk : Go E cc F q (x0 :: x1 :: x2 :: x3 :: x4 :: x5 :: x6 :: x7 :: x8 :: x9 :: some (.int v) :: l) r M c s) : Go E cc F pc (x0 :: x1 :: x2 :: x3 :: x4 :: x5 :: x6 :: x7 :: x8 :: x9 :: z :: l) (.int v :: r) M c s := by
  subst hq
  intro p e S m args below meth cd H locs ls fx hp hl hv
  exact lv_istore (i := 10) fx.2.2.1 fx.2.2.2.1 hd (lvh_has hv) (Nat.lt_of_lt_of_le (by simp) hv.2.2.1) rfl (fun ls' h' => kk p e S m args below meth cd H locs ls' fx hp hl (lvh_st1 hv.2.2.1 (by simp) (Or.inr fun x h => by cases h; exact hc) h'))
theorem g_ast10 {x0 x1 x2 x3 x4 x5 x6 x7 x8 x9 : Option Value} {z : Option Value} {l : List (Option Value)} {v : Nat} (hd : decode cc pc = .ok (.astore 10, 2)) (hc : lc1 x9 = true) (hq : pc + 2 = q) (kk : Go E cc F q (x0 :: x1 :: x2 :: x3 :: x4 :: x5 :: x6 :: x7 :: x8 :: x9 :: some (.ref v) :: l) r M c s) : Go E cc F pc (x0 :: x1 :: x2 :: x3 :: x4 :: x5 :: x6 :: x7 :: x8 :: x9 :: z :: l) (.ref v :: r) M c s := by
  subst hq
  intro p e S m args below meth cd H locs ls fx hp hl hv
  exact lv_astore (i := 10) fx.2.2.1 fx.2.2.2.1 hd (lvh_has hv) (Nat.lt_of_lt_of_le (by simp) hv.2.2.1) rfl (fun ls' h' => kk p e S m args below meth cd H locs ls' fx hp hl (lvh_st1 hv.2.2.1 (by simp) (Or.inr fun x h => by cases h; exact hc) h'))
theorem g_qst10 {x0 x1 x2 x3 x4 x5 x6 x7 x8 x9 : Option Value} {z : Option Value} {l : List (Option Value)} {v : Option Nat} (hd : decode cc pc = .ok (.astore 10, 2)) (hc : lc1 x9 = true) (hq : pc + 2 = q) (kk : Go E cc F q (x0 :: x1 :: x2 :: x3 :: x4 :: x5 :: x6 :: x7 :: x8 :: x9 :: some (va_rf v) :: l) r M c s) : Go E cc F pc (x0 :: x1 :: x2 :: x3 :: x4 :: x5 :: x6 :: x7 :: x8 :: x9 :: z :: l) (va_rf v :: r) M c s := by
  subst hq
  intro p e S m args below meth cd H locs ls fx hp hl hv
  cases v with
  | none => exact lv_astoreN (i := 10) fx.2.2.1 fx.2.2.2.1 hd (lvh_has hv) (Nat.lt_of_lt_of_le (by simp) hv.2.2.1) rfl (fun ls' h' => kk p e S m args below meth cd H locs ls' fx hp hl (lvh_st1 hv.2.2.1 (by simp) (Or.inr fun x h => by cases h; exact hc) h'))
  | some a => exact lv_astore (i := 10) fx.2.2.1 fx.2.2.2.1 hd (lvh_has hv) (Nat.lt_of_lt_of_le (by simp) hv.2.2.1) rfl (fun ls' h' => kk p e S m args below meth cd H locs ls' fx hp hl (lvh_st1 hv.2.2.1 (by simp) (Or.inr fun x h => by cases h; exact hc) h'))
theorem g_lst10 {x0 x1 x2 x3 x4 x5 x6 x7 x8 x9 : Option Value} {z z2 : Option Value} {l : List (Option Value)} {v : Int64} (hd : decode cc pc = .ok (.lstore 10, 2)) (hc : lc1 x9 = true) (hq : pc + 2 = q) (kk : Go E cc F q (x0 :: x1 :: x2 :: x3 :: x4 :: x5 :: x6 :: x7 :: x8 :: x9 :: some (.long v) :: none :: l) r M c s) : Go E cc F pc (x0 :: x1 :: x2 :: x3 :: x4 :: x5 :: x6 :: x7 :: x8 :: x9 :: z :: z2 :: l) (.long v :: r) M c s := by
  subst hq
  intro p e S m args below meth cd H locs ls fx hp hl hv
  exact lv_lstore (i := 10) fx.2.2.1 fx.2.2.2.1 hd (lvh_has hv) (Nat.lt_of_lt_of_le (by simp) hv.2.2.1) rfl (fun ls' h' => kk p e S m args below meth cd H locs ls' fx hp hl (lvh_st2 hv.2.2.1 (by simp) (Or.inr fun x h => by cases h; exact hc) h'))
theorem g_inc10 {x0 x1 x2 x3 x4 x5 x6 x7 x8 x9 : Option Value} {l : List (Option Value)} {v w : Int32} {n : Int} (hd : decode cc pc = .ok (.iinc 10 n, 3)) (hc : lc1 x9 = true) (hw : v + Int32.ofInt n = w) (hq : pc + 3 = q) (kk : Go E cc F q (x0 :: x1 :: x2 :: x3 :: x4 :: x5 :: x6 :: x7 :: x8 :: x9 :: some (.int w) :: l) r M c s) : Go E cc F pc (x0 :: x1 :: x2 :: x3 :: x4 :: x5 :: x6 :: x7 :: x8 :: x9 :: some (.int v) :: l) r M c s := by
  subst hq
  intro p e S m args below meth cd H locs ls fx hp hl hv
  obtain ⟨j, hj⟩ := List.getElem?_of_mem ((lvl_mem (x0 :: x1 :: x2 :: x3 :: x4 :: x5 :: x6 :: x7 :: x8 :: x9 :: some (.int v) :: l) 0 (10, .int v)).mpr ⟨10, rfl, rfl⟩)
  exact lv_iinc fx.2.2.1 fx.2.2.2.1 hd (lvh_has hv) hj hw (Nat.lt_of_lt_of_le (by simp) hv.2.2.1) rfl (fun ls' h' => kk p e S m args below meth cd H locs ls' fx hp hl (lvh_st1 hv.2.2.1 (by simp) (Or.inr fun x h => by cases h; exact hc) h'))
theorem g_ild11 {x0 x1 x2 x3 x4 x5 x6 x7 x8 x9 x10 : Option Value} {l : List (Option Value)} {v : Int32} (hd : decode cc pc = .ok (.iload 11, 2)) (hq : pc + 2 = q) (kk : Go E cc F q (x0 :: x1 :: x2 :: x3 :: x4 :: x5 :: x6 :: x7 :: x8 :: x9 :: x10 :: some (.int v) :: l) (.int v :: r) M c s) : Go E cc F pc (x0 :: x1 :: x2 :: x3 :: x4 :: x5 :: x6 :: x7 :: x8 :: x9 :: x10 :: some (.int v) :: l) r M c s := by
  subst hq
  intro p e S m args below meth cd H locs ls fx hp hl hv
  exact lv_iload fx.2.2.1 fx.2.2.2.1 hd (hv.2.2.2 11 _ rfl) (kk p e S m args below meth cd H locs ls fx hp hl hv)
theorem g_lld11 {x0 x1 x2 x3 x4 x5 x6 x7 x8 x9 x10 : Option Value} {l : List (Option Value)} {v : Int64} (hd : decode cc pc = .ok (.lload 11, 2)) (hq : pc + 2 = q) (kk : Go E cc F q (x0 :: x1 :: x2 :: x3 :: x4 :: x5 :: x6 :: x7 :: x8 :: x9 :: x10 :: some (.long v) :: l) (.long v :: r) M c s) : Go E cc F pc (x0 :: x1 :: x2 :: x3 :: x4 :: x5 :: x6 :: x7 :: x8 :: x9 :: x10 :: some (.long v) :: l) r M c s := by
  subst hq
  intro p e S m args below meth cd H locs ls fx hp hl hv
  exact lv_lload fx.2.2.1 fx.2.2.2.1 hd (hv.2.2.2 11 _ rfl) (kk p e S m args below meth cd H locs ls fx hp hl hv)
theorem g_ald11 {x0 x1 x2 x3 x4 x5 x6 x7 x8 x9 x10 : Option Value} {l : List (Option Value)} {v : Nat} (hd : decode cc pc = .ok (.aload 11, 2)) (hq : pc + 2 = q) (kk : Go E cc F q (x0 :: x1 :: x2 :: x3 :: x4 :: x5 :: x6 :: x7 :: x8 :: x9 :: x10 :: some (.ref v) :: l) (.ref v :: r) M c s) : Go E cc F pc (x0 :: x1 :: x2 :: x3 :: x4 :: x5 :: x6 :: x7 :: x8 :: x9 :: x10 :: some (.ref v) :: l) r M c s := by
  subst hq
  intro p e S m args below meth cd H locs ls fx hp hl hv
  exact lv_aload fx.2.2.1 fx.2.2.2.1 hd (hv.2.2.2 11 _ rfl) (kk p e S m args below meth cd H locs ls fx hp hl hv)
theorem g_qld11 {x0 x1 x2 x3 x4 x5 x6 x7 x8 x9 x10 : Option Value} {l : List (Option Value)} {v : Option Nat} (hd : decode cc pc = .ok (.aload 11, 2)) (hq : pc + 2 = q) (kk : Go E cc F q (x0 :: x1 :: x2 :: x3 :: x4 :: x5 :: x6 :: x7 :: x8 :: x9 :: x10 :: some (va_rf v) :: l) (va_rf v :: r) M c s) : Go E cc F pc (x0 :: x1 :: x2 :: x3 :: x4 :: x5 :: x6 :: x7 :: x8 :: x9 :: x10 :: some (va_rf v) :: l) r M c s := by
  subst hq
  intro p e S m args below meth cd H locs ls fx hp hl hv
  cases v with
  | none => exact lv_aloadN fx.2.2.1 fx.2.2.2.1 hd (hv.2.2.2 11 _ rfl) (kk p e S m args below meth cd H locs ls fx hp hl hv)
  | some a => exact lv_aload fx.2.2.1 fx.2.2.2.1 hd (hv.2.2.2 11 _ rfl) (kk p e S m args below meth cd H locs ls fx hp hl hv)
theorem g_ist11 {x0 x1 x2 x3 x4 x5 x6 x7 x8 x9 x10 : Option Value} {z : Option Value} {l : List (Option Value)} {v : Int32} (hd : decode cc pc = .ok (.istore 11, 2)) (hc : lc1 x10 = true) (hq : pc + 2 = q) (kk : Go E cc F q (x0 :: x1 :: x2 :: x3 :: x4 :: x5 :: x6 :: x7 :: x8 :: x9 :: x10 :: some (.int v) :: l) r M c s) : Go E cc F pc (x0 :: x1 :: x2 :: x3 :: x4 :: x5 :: x6 :: x7 :: x8 :: x9 :: x10 :: z :: l) (.int v :: r) M c s := by
  subst hq
  intro p e S m args below meth cd H locs ls fx hp hl hv
  exact lv_istore (i := 11) fx.2.2.1 fx.2.2.2.1 hd (lvh_has hv) (Nat.lt_of_lt_of_le (by simp) hv.2.2.1) rfl (fun ls' h' => kk p e S m args below meth cd H locs ls' fx hp hl (lvh_st1 hv.2.2.1 (by simp) (Or.inr fun x h => by cases h; exact hc) h'))
theorem g_ast11 {x0 x1 x2 x3 x4 x5 x6 x7 x8 x9 x10 : Option Value} {z : Option Value} {l : List (Option Value)} {v : Nat} (hd : decode cc pc = .ok (.astore 11, 2)) (hc : lc1 x10 = true) (hq : pc + 2 = q) (kk : Go E cc F q (x0 :: x1 :: x2 :: x3 :: x4 :: x5 :: x6 :: x7 :: x8 :: x9 :: x10 :: some (.ref v) :: l) r M c s) : Go E cc F pc (x0 :: x1 :: x2 :: x3 :: x4 :: x5 :: x6 :: x7 :: x8 :: x9 :: x10 :: z :: l) (.ref v :: r) M c s := by
  subst hq
  intro p e S m args below meth cd H locs ls fx hp hl hv
  exact lv_astore (i := 11) fx.2.2.1 fx.2.2.2.1 hd (lvh_has hv) (Nat.lt_of_lt_of_le (by simp) hv.2.2.1) rfl (fun ls' h' => kk p e S m args below meth cd H locs ls' fx hp hl (lvh_st1 hv.2.2.1 (by simp) (Or.inr fun x h => by cases h; exact hc) h'))
theorem g_qst11 {x0 x1 x2 x3 x4 x5 x6 x7 x8 x9 x10 : Option Value} {z : Option Value} {l : List (Option Value)} {v : Option Nat} (hd : decode cc pc = .ok (.astore 11, 2)) (hc : lc1 x10 = true) (hq : pc + 2 = q) (kk : Go E cc F q (x0 :: x1 :: x2 :: x3 :: x4 :: x5 :: x6 :: x7 :: x8 :: x9 :: x10 :: some (va_rf v) :: l) r M c s) : Go E cc F pc (x0 :: x1 :: x2 :: x3 :: x4 :: x5 :: x6 :: x7 :: x8 :: x9 :: x10 :: z :: l) (va_rf v :: r) M c s := by
  subst hq
  intro p e S m args below meth cd H locs ls fx hp hl hv
  cases v with
  | none => exact lv_astoreN (i := 11) fx.2.2.1 fx.2.2.2.1 hd (lvh_has hv) (Nat.lt_of_lt_of_le (by simp) hv.2.2.1) rfl (fun ls' h' => kk p e S m args below meth cd H locs ls' fx hp hl (lvh_st1 hv.2.2.1 (by simp) (Or.inr fun x h => by cases h; exact hc) h'))
  | some a => exact lv_astore (i := 11) fx.2.2.1 fx.2.2.2.1 hd (lvh_has hv) (Nat.lt_of_lt_of_le (by simp) hv.2.2.1) rfl (fun ls' h' => kk p e S m args below meth cd H locs ls' fx hp hl (lvh_st1 hv.2.2.1 (by simp) (Or.inr fun x h => by cases h; exact hc) h'))
theorem g_lst11 {x0 x1 x2 x3 x4 x5 x6 x7 x8 x9 x10 : Option Value} {z z2 : Option Value} {l : List (Option Value)} {v : Int64} (hd : decode cc pc = .ok (.lstore 11, 2)) (hc : lc1 x10 = true) (hq : pc + 2 = q) (kk : Go E cc F q (x0 :: x1 :: x2 :: x3 :: x4 :: x5 :: x6 :: x7 :: x8 :: x9 :: x10 :: some (.long v) :: none :: l) r M c s) : Go E cc F pc (x0 :: x1 :: x2 :: x3 :: x4 :: x5 :: x6 :: x7 :: x8 :: x9 :: x10 :: z :: z2 :: l) (.long v :: r) M c s := by
  subst hq
  intro p e S m args below meth cd H locs ls fx hp hl hv
  exact lv_lstore (i := 11) fx.2.2.1 fx.2.2.2.1 hd (lvh_has hv) (Nat.lt_of_lt_of_le (by simp) hv.2.2.1) rfl (fun ls' h' => kk p e S m args below meth cd H locs ls' fx hp hl (lvh_st2 hv.2.2.1 (by simp) (Or.inr fun x h => by cases h; exact hc) h'))
theorem g_inc11 {x0 x1 x2 x3 x4 x5 x6 x7 x8 x9 x10 : Option Value} {l : List (Option Value)} {v w : Int32} {n : Int} (hd : decode cc pc = .ok (.iinc 11 n, 3)) (hc : lc1 x10 = true) (hw : v + Int32.ofInt n = w) (hq : pc + 3 = q) (kk : Go E cc F q (x0 :: x1 :: x2 :: x3 :: x4 :: x5 :: x6 :: x7 :: x8 :: x9 :: x10 :: some (.int w) :: l) r M c s) : Go E cc F pc (x0 :: x1 :: x2 :: x3 :: x4 :: x5 :: x6 :: x7 :: x8 :: x9 :: x10 :: some (.int v) :: l) r M c s := by
  subst hq
  intro p e S m args below meth cd H locs ls fx hp hl hv
  obtain ⟨j, hj⟩ := List.getElem?_of_mem ((lvl_mem (x0 :: x1 :: x2 :: x3 :: x4 :: x5 :: x6 :: x7 :: x8 :: x9 :: x10 :: some (.int v) :: l) 0 (11, .int v)).mpr ⟨11, rfl, rfl⟩)
  exact lv_iinc fx.2.2.1 fx.2.2.2.1 hd (lvh_has hv) hj hw (Nat.lt_of_lt_of_le (by simp) hv.2.2.1) rfl (fun ls' h' => kk p e S m args below meth cd H locs ls' fx hp hl (lvh_st1 hv.2.2.1 (by simp) (Or.inr fun x h => by cases h; exact hc) h'))
theorem g_ild12 {x0 x1 x2 x3 x4 x5 x6 x7 x8 x9 x10 x11 : Option Value} {l : List (Option Value)} {v : Int32} (hd : decode cc pc = .ok (.iload 12, 2)) (hq : pc + 2 = q) (kk : Go E cc F q (x0 :: x1 :: x2 :: x3 :: x4 :: x5 :: x6 :: x7 :: x8 :: x9 :: x10 :: x11 :: some (.int v) :: l) (.int v :: r) M c s) : Go E cc F pc (x0 :: x1 :: x2 :: x3 :: x4 :: x5 :: x6 :: x7 :: x8 :: x9 :: x10 :: x11 :: some (.int v) :: l) r M c s := by
  subst hq
  intro p e S m args below meth cd H locs ls fx hp hl hv
  exact lv_iload fx.2.2.1 fx.2.2.2.1 hd (hv.2.2.2 12 _ rfl) (kk p e S m args below meth cd H locs ls fx hp hl hv)
theorem g_lld12 {x0 x1 x2 x3 x4 x5 x6 x7 x8 x9 x10 x11 : Option Value} {l : List (Option Value)} {v : Int64} (hd : decode cc pc = .ok (.lload 12, 2)) (hq : pc + 2 = q) (kk : Go E cc F q (x0 :: x1 :: x2 :: x3 :: x4 :: x5 :: x6 :: x7 :: x8 :: x9 :: x10 :: x11 :: some (.long v) :: l) (.long v :: r) M c s) : Go E cc F pc (x0 :: x1 :: x2 :: x3 :: x4 :: x5 :: x6 :: x7 :: x8 :: x9 :: x10 :: x11 :: some (.long v) :: l) r M c s := by
  subst hq
  intro p e S m args below meth cd H locs ls fx hp hl hv
  exact lv_lload fx.2.2.1 fx.2.2.2.1 hd (hv.2.2.2 12 _ rfl) (kk p e S m args below meth cd H locs ls fx hp hl hv)
theorem g_ald12 {x0 x1 x2 x3 x4 x5 x6 x7 x8 x9 x10 x11 : Option Value} {l : List (Option Value)} {v : Nat} (hd : decode cc pc = .ok (.aload 12, 2)) (hq : pc + 2 = q) (kk : Go E cc F q (x0 :: x1 :: x2 :: x3 :: x4 :: x5 :: x6 :: x7 :: x8 :: x9 :: x10 :: x11 :: some (.ref v) :: l) (.ref v :: r) M c s) : Go E cc F pc (x0 :: x1 :: x2 :: x3 :: x4 :: x5 :: x6 :: x7 :: x8 :: x9 :: x10 :: x11 :: some (.ref v) :: l) r M c s := by
  subst hq
  intro p e S m args below meth cd H locs ls fx hp hl hv
  exact lv_aload fx.2.2.1 fx.2.2.2.1 hd (hv.2.2.2 12 _ rfl) (kk p e S m args below meth cd H locs ls fx hp hl hv)
theorem g_qld12 {x0 x1 x2 x3 x4 x5 x6 x7 x8 x9 x10 x11 : Option Value} {l : List (Option Value)} {v : Option Nat} (hd : decode cc pc = .ok (.aload 12, 2)) (hq : pc + 2 = q) (kk : Go E cc F q (x0 :: x1 :: x2 :: x3 :: x4 :: x5 :: x6 :: x7 :: x8 :: x9 :: x10 :: x11 :: some (va_rf v) :: l) (va_rf v :: r) M c s) : Go E cc F pc (x0 :: x1 :: x2 :: x3 :: x4 :: x5 :: x6 :: x7 :: x8 :: x9 :: x10 :: x11 :: some (va_rf v) :: l) r M c s := by
  subst hq
  intro p e S m args below meth cd H locs ls fx hp hl hv
  cases v with
  | none => exact lv_aloadN fx.2.2.1 fx.2.2.2.1 hd (hv.2.2.2 12 _ rfl) (kk p e S m args below meth cd H locs ls fx hp hl hv)
  | some a => exact lv_aload fx.2.2.1 fx.2.2.2.1 hd (hv.2.2.2 12 _ rfl) (kk p e S m args below meth cd H locs ls fx hp hl hv)
theorem g_ist12 {x0 x1 x2 x3 x4 x5 x6 x7 x8 x9 x10 x11 : Option Value} {z : Option Value} {l : List (Option Value)} {v : Int32} (hd : decode cc pc = .ok (.istore 12, 2)) (hc : lc1 x11 = true) (hq : pc + 2 = q) (kk : Go E cc F q (x0 :: x1 :: x2 :: x3 :: x4 :: x5 :: x6 :: x7 :: x8 :: x9 :: x10 :: x11 :: some (.int v) :: l) r M c s) : Go E cc F pc (x0 :: x1 :: x2 :: x3 :: x4 :: x5 :: x6 :: x7 :: x8 :: x9 :: x10 :: x11 :: z :: l) (.int v :: r) M c s := by
  subst hq
  intro p e S m args below meth cd H locs ls fx hp hl hv
  exact lv_istore (i := 12) fx.2.2.1 fx.2.2.2.1 hd (lvh_has hv) (Nat.lt_of_lt_of_le (by simp) hv.2.2.1) rfl (fun ls' h' => kk p e S m args below meth cd H locs ls' fx hp hl (lvh_st1 hv.2.2.1 (by simp) (Or.inr fun x h => by cases h; exact hc) h'))
theorem g_ast12 {x0 x1 x2 x3 x4 x5 x6 x7 x8 x9 x10 x11 : Option Value} {z : Option Value} {l : List (Option Value)} {v : Nat} (hd : decode cc pc = .ok (.astore 12, 2)) (hc : lc1 x11 = true) (hq : pc + 2 = q) (kk : Go E cc F q (x0 :: x1 :: x2 :: x3 :: x4 :: x5 :: x6 :: x7 :: x8 :: x9 :: x10 :: x11 :: some (.ref v) :: l) r M c s) : Go E cc F pc (x0 :: x1 :: x2 :: x3 :: x4 :: x5 :: x6 :: x7 :: x8 :: x9 :: x10 :: x11 :: z :: l) (.ref v :: r) M c s := by
  subst hq
  intro p e S m args below meth cd H locs ls fx hp hl hv
  exact lv_astore (i := 12) fx.2.2.1 fx.2.2.2.1 hd (lvh_has hv) (Nat.lt_of_lt_of_le (by simp) hv.2.2.1) rfl (fun ls' h' => kk p e S m args below meth cd H locs ls' fx hp hl (lvh_st1 hv.2.2.1 (by simp) (Or.inr fun x h => by cases h; exact hc) h'))
theorem g_qst12 {x0 x1 x2 x3 x4 x5 x6 x7 x8 x9 x10 x11 : Option Value} {z : Option Value} {l : List (Option Value)} {v : Option Nat} (hd : decode cc pc = .ok (.astore 12, 2)) (hc : lc1 x11 = true) (hq : pc + 2 = q) (kk : Go E cc F q (x0 :: x1 :: x2 :: x3 :: x4 :: x5 :: x6 :: x7 :: x8 :: x9 :: x10 :: x11 :: some (va_rf v) :: l) r M c s) : Go E cc F pc (x0 :: x1 :: x2 :: x3 :: x4 :: x5 :: x6 :: x7 :: x8 :: x9 :: x10 :: x11 :: z :: l) (va_rf v :: r) M c s := by
  subst hq
  intro p e S m args below meth cd H locs ls fx hp hl hv
  cases v with
  | none => exact lv_astoreN (i := 12) fx.2.2.1 fx.2.2.2.1 hd (lvh_has hv) (Nat.lt_of_lt_of_le (by simp) hv.2.2.1) rfl (fun ls' h' => kk p e S m args below meth cd H locs ls' fx hp hl (lvh_st1 hv.2.2.1 (by simp) (Or.inr fun x h => by cases h; exact hc) h'))
  | some a => exact lv_astore (i := 12) fx.2.2.1 fx.2.2.2.1 hd (lvh_has hv) (Nat.lt_of_lt_of_le (by simp) hv.2.2.1) rfl (fun ls' h' => kk p e S m args below meth cd H locs ls' fx hp hl (lvh_st1 hv.2.2.1 (by simp) (Or.inr fun x h => by cases h; exact hc) h'))
theorem g_lst12 {x0 x1 x2 x3 x4 x5 x6 x7 x8 x9 x10 x11 : Option Value} {z z2 : Option Value} {l : List (Option Value)} {v : Int64} (hd : decode cc pc = .ok (.lstore 12, 2)) (hc : lc1 x11 = true) (hq : pc + 2 = q) (kk : Go E cc F q (x0 :: x1 :: x2 :: x3 :: x4 :: x5 :: x6 :: x7 :: x8 :: x9 :: x10 :: x11 :: some (.long v) :: none :: l) r M c s) : Go E cc F pc (x0 :: x1 :: x2 :: x3 :: x4 :: x5 :: x6 :: x7 :: x8 :: x9 :: x10 :: x11 :: z :: z2 :: l) (.long v :: r) M c s := by
  subst hq
  intro p e S m args below meth cd H locs ls fx hp hl hv
  exact lv_lstore (i := 12) fx.2.2.1 fx.2.2.2.1 hd (lvh_has hv) (Nat.lt_of_lt_of_le (by simp) hv.2.2.1) rfl (fun ls' h' => kk p e S m args below meth cd H locs ls' fx hp hl (lvh_st2 hv.2.2.1 (by simp) (Or.inr fun x h => by cases h; exact hc) h'))
theorem g_inc12 {x0 x1 x2 x3 x4 x5 x6 x7 x8 x9 x10 x11 : Option Value} {l : List (Option Value)} {v w : Int32} {n : Int} (hd : decode cc pc = .ok (.iinc 12 n, 3)) (hc : lc1 x11 = true) (hw : v + Int32.ofInt n = w) (hq : pc + 3 = q) (kk : Go E cc F q (x0 :: x1 :: x2 :: x3 :: x4 :: x5 :: x6 :: x7 :: x8 :: x9 :: x10 :: x11 :: some (.int w) :: l) r M c s) : Go E cc F pc (x0 :: x1 :: x2 :: x3 :: x4 :: x5 :: x6 :: x7 :: x8 :: x9 :: x10 :: x11 :: some (.int v) :: l) r M c s := by
  subst hq
  intro p e S m args below meth cd H locs ls fx hp hl hv
  obtain ⟨j, hj⟩ := List.getElem?_of_mem ((lvl_mem (x0 :: x1 :: x2 :: x3 :: x4 :: x5 :: x6 :: x7 :: x8 :: x9 :: x10 :: x11 :: some (.int v) :: l) 0 (12, .int v)).mpr ⟨12, rfl, rfl⟩)
  exact lv_iinc fx.2.2.1 fx.2.2.2.1 hd (lvh_has hv) hj hw (Nat.lt_of_lt_of_le (by simp) hv.2.2.1) rfl (fun ls' h' => kk p e S m args below meth cd H locs ls' fx hp hl (lvh_st1 hv.2.2.1 (by simp) (Or.inr fun x h => by cases h; exact hc) h'))
theorem g_ild13 {x0 x1 x2 x3 x4 x5 x6 x7 x8 x9 x10 x11 x12 : Option Value} {l : List (Option Value)} {v : Int32} (hd : decode cc pc = .ok (.iload 13, 2)) (hq : pc + 2 = q) (kk : Go E cc F q (x0 :: x1 :: x2 :: x3 :: x4 :: x5 :: x6 :: x7 :: x8 :: x9 :: x10 :: x11 :: x12 :: some (.int v) :: l) (.int v :: r) M c s) : Go E cc F pc (x0 :: x1 :: x2 :: x3 :: x4 :: x5 :: x6 :: x7 :: x8 :: x9 :: x10 :: x11 :: x12 :: some (.int v) :: l) r M c s := by
  subst hq
  intro p e S m args below meth cd H locs ls fx hp hl hv
  exact lv_iload fx.2.2.1 fx.2.2.2.1 hd (hv.2.2.2 13 _ rfl) (kk p e S m args below meth cd H locs ls fx hp hl hv)
theorem g_lld13 {x0 x1 x2 x3 x4 x5 x6 x7 x8 x9 x10 x11 x12 : Option Value} {l : List (Option Value)} {v : Int64} (hd : decode cc pc = .ok (.lload 13, 2)) (hq : pc + 2 = q) (kk : Go E cc F q (x0 :: x1 :: x2 :: x3 :: x4 :: x5 :: x6 :: x7 :: x8 :: x9 :: x10 :: x11 :: x12 :: some (.long v) :: l) (.long v :: r) M c s) : Go E cc F pc (x0 :: x1 :: x2 :: x3 :: x4 :: x5 :: x6 :: x7 :: x8 :: x9 :: x10 :: x11 :: x12 :: some (.long v) :: l) r M c s := by
  subst hq
  intro p e S m args below meth cd H locs ls fx hp hl hv
  exact lv_lload fx.2.2.1 fx.2.2.2.1 hd (hv.2.2.2 13 _ rfl) (kk p e S m args below meth cd H locs ls fx hp hl hv)
theorem g_ald13 {x0 x1 x2 x3 x4 x5 x6 x7 x8 x9 x10 x11 x12 : Option Value} {l : List (Option Value)} {v : Nat} (hd : decode cc pc = .ok (.aload 13, 2)) (hq : pc + 2 = q) (kk : Go E cc F q (x0 :: x1 :: x2 :: x3 :: x4 :: x5 :: x6 :: x7 :: x8 :: x9 :: x10 :: x11 :: x12 :: some (.ref v) :: l) (.ref v :: r) M c s) : Go E cc F pc (x0 :: x1 :: x2 :: x3 :: x4 :: x5 :: x6 :: x7 :: x8 :: x9 :: x10 :: x11 :: x12 :: some (.ref v) :: l) r M c s := by
  subst hq
  intro p e S m args below meth cd H locs ls fx hp hl hv
  exact lv_aload fx.2.2.1 fx.2.2.2.1 hd (hv.2.2.2 13 _ rfl) (kk p e S m args below meth cd H locs ls fx hp hl hv)
theorem g_qld13 {x0 x1 x2 x3 x4 x5 x6 x7 x8 x9 x10 x11 x12 : Option Value} {l : List (Option Value)} {v : Option Nat} (hd : decode cc pc = .ok (.aload 13, 2)) (hq : pc + 2 = q) (kk : Go E cc F q (x0 :: x1 :: x2 :: x3 :: x4 :: x5 :: x6 :: x7 :: x8 :: x9 :: x10 :: x11 :: x12 :: some (va_rf v) :: l) (va_rf v :: r) M c s) : Go E cc F pc (x0 :: x1 :: x2 :: x3 :: x4 :: x5 :: x6 :: x7 :: x8 :: x9 :: x10 :: x11 :: x12 :: some (va_rf v) :: l) r M c s := by
  subst hq
  intro p e S m args below meth cd H locs ls fx hp hl hv
  cases v with
  | none => exact lv_aloadN fx.2.2.1 fx.2.2.2.1 hd (hv.2.2.2 13 _ rfl) (kk p e S m args below meth cd H locs ls fx hp hl hv)
  | some a => exact lv_aload fx.2.2.1 fx.2.2.2.1 hd (hv.2.2.2 13 _ rfl) (kk p e S m args below meth cd H locs ls fx hp hl hv)
theorem g_ist13 {x0 x1 x2 x3 x4 x5 x6 x7 x8 x9 x10 x11 x12 : Option Value} {z : Option Value} {l : List (Option Value)} {v : Int32} (hd : decode cc pc = .ok (.istore 13, 2)) (hc : lc1 x12 = true) (hq : pc + 2 = q) (kk : Go E cc F q (x0 :: x1 :: x2 :: x3 :: x4 :: x5 :: x6 :: x7 :: x8 :: x9 :: x10 :: x11 :: x12 :: some (.int v) :: l) r M c s) : Go E cc F pc (x0 :: x1 :: x2 :: x3 :: x4 :: x5 :: x6 :: x7 :: x8 :: x9 :: x10 :: x11 :: x12 :: z :: l) (.int v :: r) M c s := by
  subst hq
  intro p e S m args below meth cd H locs ls fx hp hl hv
  exact lv_istore (i := 13) fx.2.2.1 fx.2.2.2.1 hd (lvh_has hv) (Nat.lt_of_lt_of_le (by simp) hv.2.2.1) rfl (fun ls' h' => kk p e S m args below meth cd H locs ls' fx hp hl (lvh_st1 hv.2.2.1 (by simp) (Or.inr fun x h => by cases h; exact hc) h'))
theorem g_ast13 {x0 x1 x2 x3 x4 x5 x6 x7 x8 x9 x10 x11 x12 : Option Value} {z : Option Value} {l : List (Option Value)} {v : Nat} (hd : decode cc pc = .ok (.astore 13, 2)) (hc : lc1 x12 = true) (hq : pc + 2 = q) (kk : Go E cc F q (x0 :: x1 :: x2 :: x3 :: x4 :: x5 :: x6 :: x7 :: x8 :: x9 :: x10 :: x11 :: x12 :: some (.ref v) :: l) r M c s) : Go E cc F pc (x0 :: x1 :: x2 :: x3 :: x4 :: x5 :: x6 :: x7 :: x8 :: x9 :: x10 :: x11 :: x12 :: z :: l) (.ref v :: r) M c s := by
  subst hq
  intro p e S m args below meth cd H locs ls fx hp hl hv
  exact lv_astore (i := 13) fx.2.2.1 fx.2.2.2.1 hd (lvh_has hv) (Nat.lt_of_lt_of_le (by simp) hv.2.2.1) rfl (fun ls' h' => kk p e S m args below meth cd H locs ls' fx hp hl (lvh_st1 hv.2.2.1 (by simp) (Or.inr fun x h => by cases h; exact hc) h'))
theorem g_qst13 {x0 x1 x2 x3 x4 x5 x6 x7 x8 x9 x10 x11 x12 : Option Value} {z : Option Value} {l : List (Option Value)} {v : Option Nat} (hd : decode cc pc = .ok (.astore 13, 2)) (hc : lc1 x12 = true) (hq : pc + 2 = q) (kk : Go E cc F q (x0 :: x1 :: x2 :: x3 :: x4 :: x5 :: x6 :: x7 :: x8 :: x9 :: x10 :: x11 :: x12 :: some (va_rf v) :: l) r M c s) : Go E cc F pc (x0 :: x1 :: x2 :: x3 :: x4 :: x5 :: x6 :: x7 :: x8 :: x9 :: x10 :: x11 :: x12 :: z :: l) (va_rf v :: r) M c s := by
  subst hq
  intro p e S m args below meth cd H locs ls fx hp hl hv
  cases v with
  | none => exact lv_astoreN (i := 13) fx.2.2.1 fx.2.2.2.1 hd (lvh_has hv) (Nat.lt_of_lt_of_le (by simp) hv.2.2.1) rfl (fun ls' h' => kk p e S m args below meth cd H locs ls' fx hp hl (lvh_st1 hv.2.2.1 (by simp) (Or.inr fun x h => by cases h; exact hc) h'))
  | some a => exact lv_astore (i := 13) fx.2.2.1 fx.2.2.2.1 hd (lvh_has hv) (Nat.lt_of_lt_of_le (by simp) hv.2.2.1) rfl (fun ls' h' => kk p e S m args below meth cd H locs ls' fx hp hl (lvh_st1 hv.2.2.1 (by simp) (Or.inr fun x h => by cases h; exact hc) h'))
theorem g_lst13 {x0 x1 x2 x3 x4 x5 x6 x7 x8 x9 x10 x11 x12 : Option Value} {z z2 : Option Value} {l : List (Option Value)} {v : Int64} (hd : decode cc pc = .ok (.lstore 13, 2)) (hc : lc1 x12 = true) (hq : pc + 2 = q) (kk : Go E cc F q (x0 :: x1 :: x2 :: x3 :: x4 :: x5 :: x6 :: x7 :: x8 :: x9 :: x10 :: x11 :: x12 :: some (.long v) :: none :: l) r M c s) : Go E cc F pc (x0 :: x1 :: x2 :: x3 :: x4 :: x5 :: x6 :: x7 :: x8 :: x9 :: x10 :: x11 :: x12 :: z :: z2 :: l) (.long v :: r) M c s := by
  subst hq
  intro p e S m args below meth cd H locs ls fx hp hl hv
  exact lv_lstore (i := 13) fx.2.2.1 fx.2.2.2.1 hd (lvh_has hv) (Nat.lt_of_lt_of_le (by simp) hv.2.2.1) rfl (fun ls' h' => kk p e S m args below meth cd H locs ls' fx hp hl (lvh_st2 hv.2.2.1 (by simp) (Or.inr fun x h => by cases h; exact hc) h'))
theorem g_inc13 {x0 x1 x2 x3 x4 x5 x6 x7 x8 x9 x10 x11 x12 : Option Value} {l : List (Option Value)} {v w : Int32} {n : Int} (hd : decode cc pc = .ok (.iinc 13 n, 3)) (hc : lc1 x12 = true) (hw : v + Int32.ofInt n = w) (hq : pc + 3 = q) (kk : Go E cc F q (x0 :: x1 :: x2 :: x3 :: x4 :: x5 :: x6 :: x7 :: x8 :: x9 :: x10 :: x11 :: x12 :: some (.int w) :: l) r M c s) : Go E cc F pc (x0 :: x1 :: x2 :: x3 :: x4 :: x5 :: x6 :: x7 :: x8 :: x9 :: x10 :: x11 :: x12 :: some (.int v) :: l) r M c s := by
  subst hq
  intro p e S m args below meth cd H locs ls fx hp hl hv
  obtain ⟨j, hj⟩ := List.getElem?_of_mem ((lvl_mem (x0 :: x1 :: x2 :: x3 :: x4 :: x5 :: x6 :: x7 :: x8 :: x9 :: x10 :: x11 :: x12 :: some (.int v) :: l) 0 (13, .int v)).mpr ⟨13, rfl, rfl⟩)
  exact lv_iinc fx.2.2.1 fx.2.2.2.1 hd (lvh_has hv) hj hw (Nat.lt_of_lt_of_le (by simp) hv.2.2.1) rfl (fun ls' h' => kk p e S m args below meth cd H locs ls' fx hp hl (lvh_st1 hv.2.2.1 (by simp) (Or.inr fun x h => by cases h; exact hc) h'))
theorem g_ild14 {x0 x1 x2 x3 x4 x5 x6 x7 x8 x9 x10 x11 x12 x13 : Option Value} {l : List (Option Value)} {v : Int32} (hd : decode cc pc = .ok (.iload 14, 2)) (hq : pc + 2 = q) (kk : Go E cc F q (x0 :: x1 :: x2 :: x3 :: x4 :: x5 :: x6 :: x7 :: x8 :: x9 :: x10 :: x11 :: x12 :: x13 :: some (.int v) :: l) (.int v :: r) M c s) : Go E cc F pc (x0 :: x1 :: x2 :: x3 :: x4 :: x5 :: x6 :: x7 :: x8 :: x9 :: x10 :: x11 :: x12 :: x13 :: some (.int v) :: l) r M c s := by
  subst hq
  intro p e S m args below meth cd H locs ls fx hp hl hv
  exact lv_iload fx.2.2.1 fx.2.2.2.1 hd (hv.2.2.2 14 _ rfl) (kk p e S m args below meth cd H locs ls fx hp hl hv)
theorem g_lld14 {x0 x1 x2 x3 x4 x5 x6 x7 x8 x9 x10 x11 x12 x13 : Option Value} {l : List (Option Value)} {v : Int64} (hd : decode cc pc = .ok (.lload 14, 2)) (hq : pc + 2 = q) (kk : Go E cc F q (x0 :: x1 :: x2 :: x3 :: x4 :: x5 :: x6 :: x7 :: x8 :: x9 :: x10 :: x11 :: x12 :: x13 :: some (.long v) :: l) (.long v :: r) M c s) : Go E cc F pc (x0 :: x1 :: x2 :: x3 :: x4 :: x5 :: x6 :: x7 :: x8 :: x9 :: x10 :: x11 :: x12 :: x13 :: some (.long v) :: l) r M c s := by
  subst hq
  intro p e S m args below meth cd H locs ls fx hp hl hv
  exact lv_lload fx.2.2.1 fx.2.2.2.1 hd (hv.2.2.2 14 _ rfl) (kk p e S m args below meth cd H locs ls fx hp hl hv)
theorem g_ald14 {x0 x1 x2 x3 x4 x5 x6 x7 x8 x9 x10 x11 x12 x13 : Option Value} {l : List (Option Value)} {v : Nat} (hd : decode cc pc = .ok (.aload 14, 2)) (hq : pc + 2 = q) (kk : Go E cc F q (x0 :: x1 :: x2 :: x3 :: x4 :: x5 :: x6 :: x7 :: x8 :: x9 :: x10 :: x11 :: x12 :: x13 :: some (.ref v) :: l) (.ref v :: r) M c s) : Go E cc F pc (x0 :: x1 :: x2 :: x3 :: x4 :: x5 :: x6 :: x7 :: x8 :: x9 :: x10 :: x11 :: x12 :: x13 :: some (.ref v) :: l) r M c s := by
  subst hq
  intro p e S m args below meth cd H locs ls fx hp hl hv
  exact lv_aload fx.2.2.1 fx.2.2.2.1 hd (hv.2.2.2 14 _ rfl) (kk p e S m args below meth cd H locs ls fx hp hl hv)
theorem g_qld14 {x0 x1 x2 x3 x4 x5 x6 x7 x8 x9 x10 x11 x12 x13 : Option Value} {l : List (Option Value)} {v : Option Nat} (hd : decode cc pc = .ok (.aload 14, 2)) (hq : pc + 2 = q) (kk : Go E cc F q (x0 :: x1 :: x2 :: x3 :: x4 :: x5 :: x6 :: x7 :: x8 :: x9 :: x10 :: x11 :: x12 :: x13 :: some (va_rf v) :: l) (va_rf v :: r) M c s) : Go E cc F pc (x0 :: x1 :: x2 :: x3 :: x4 :: x5 :: x6 :: x7 :: x8 :: x9 :: x10 :: x11 :: x12 :: x13 :: some (va_rf v) :: l) r M c s := by
  subst hq
  intro p e S m args below meth cd H locs ls fx hp hl hv
  cases v with
  | none => exact lv_aloadN fx.2.2.1 fx.2.2.2.1 hd (hv.2.2.2 14 _ rfl) (kk p e S m args below meth cd H locs ls fx hp hl hv)
  | some a => exact lv_aload fx.2.2.1 fx.2.2.2.1 hd (hv.2.2.2 14 _ rfl) (kk p e S m args below meth cd H locs ls fx hp hl hv)
theorem g_ist14 {x0 x1 x2 x3 x4 x5 x6 x7 x8 x9 x10 x11 x12 x13 : Option Value} {z : Option Value} {l : List (Option Value)} {v : Int32} (hd : decode cc pc = .ok (.istore 14, 2)) (hc : lc1 x13 = true) (hq : pc + 2 = q) (kk : Go E cc F q (x0 :: x1 :: x2 :: x3 :: x4 :: x5 :: x6 :: x7 :: x8 :: x9 :: x10 :: x11 :: x12 :: x13 :: some (.int v) :: l) r M c s) : Go E cc F pc (x0 :: x1 :: x2 :: x3 :: x4 :: x5 :: x6 :: x7 :: x8 :: x9 :: x10 :: x11 :: x12 :: x13 :: z :: l) (.int v :: r) M c s := by
  subst hq
  intro p e S m args below meth cd H locs ls fx hp hl hv
  exact lv_istore (i := 14) fx.2.2.1 fx.2.2.2.1 hd (lvh_has hv) (Nat.lt_of_lt_of_le (by simp) hv.2.2.1) rfl (fun ls' h' => kk p e S m args below meth cd H locs ls' fx hp hl (lvh_st1 hv.2.2.1 (by simp) (Or.inr fun x h => by cases h; exact hc) h'))
theorem g_ast14 {x0 x1 x2 x3 x4 x5 x6 x7 x8 x9 x10 x11 x12 x13 : Option Value} {z : Option Value} {l : List (Option Value)} {v : Nat} (hd : decode cc pc = .ok (.astore 14, 2)) (hc : lc1 x13 = true) (hq : pc + 2 = q) (kk : Go E cc F q (x0 :: x1 :: x2 :: x3 :: x4 :: x5 :: x6 :: x7 :: x8 :: x9 :: x10 :: x11 :: x12 :: x13 :: some (.ref v) :: l) r M c s) : Go E cc F pc (x0 :: x1 :: x2 :: x3 :: x4 :: x5 :: x6 :: x7 :: x8 :: x9 :: x10 :: x11 :: x12 :: x13 :: z :: l) (.ref v :: r) M c s := by
  subst hq
  intro p e S m args below meth cd H locs ls fx hp hl hv
  exact lv_astore (i := 14) fx.2.2.1 fx.2.2.2.1 hd (lvh_has hv) (Nat.lt_of_lt_of_le (by simp) hv.2.2.1) rfl (fun ls' h' => kk p e S m args below meth cd H locs ls' fx hp hl (lvh_st1 hv.2.2.1 (by simp) (Or.inr fun x h => by cases h; exact hc) h'))
theorem g_qst14 {x0 x1 x2 x3 x4 x5 x6 x7 x8 x9 x10 x11 x12 x13 : Option Value} {z : Option Value} {l : List (Option Value)} {v : Option Nat} (hd : decode cc pc = .ok (.astore 14, 2)) (hc : lc1 x13 = true) (hq : pc + 2 = q) (kk : Go E cc F q (x0 :: x1 :: x2 :: x3 :: x4 :: x5 :: x6 :: x7 :: x8 :: x9 :: x10 :: x11 :: x12 :: x13 :: some (va_rf v) :: l) r M c s) : Go E cc F pc (x0 :: x1 :: x2 :: x3 :: x4 :: x5 :: x6 :: x7 :: x8 :: x9 :: x10 :: x11 :: x12 :: x13 :: z :: l) (va_rf v :: r) M c s := by
  subst hq
  intro p e S m args below meth cd H locs ls fx hp hl hv
  cases v with
  | none => exact lv_astoreN (i := 14) fx.2.2.1 fx.2.2.2.1 hd (lvh_has hv) (Nat.lt_of_lt_of_le (by simp) hv.2.2.1) rfl (fun ls' h' => kk p e S m args below meth cd H locs ls' fx hp hl (lvh_st1 hv.2.2.1 (by simp) (Or.inr fun x h => by cases h; exact hc) h'))
  | some a => exact lv_astore (i := 14) fx.2.2.1 fx.2.2.2.1 hd (lvh_has hv) (Nat.lt_of_lt_of_le (by simp) hv.2.2.1) rfl (fun ls' h' => kk p e S m args below meth cd H locs ls' fx hp hl (lvh_st1 hv.2.2.1 (by simp) (Or.inr fun x h => by cases h; exact hc) h'))
theorem g_lst14 {x0 x1 x2 x3 x4 x5 x6 x7 x8 x9 x10 x11 x12 x13 : Option Value} {z z2 : Option Value} {l : List (Option Value)} {v : Int64} (hd : decode cc pc = .ok (.lstore 14, 2)) (hc : lc1 x13 = true) (hq : pc + 2 = q) (kk : Go E cc F q (x0 :: x1 :: x2 :: x3 :: x4 :: x5 :: x6 :: x7 :: x8 :: x9 :: x10 :: x11 :: x12 :: x13 :: some (.long v) :: none :: l) r M c s) : Go E cc F pc (x0 :: x1 :: x2 :: x3 :: x4 :: x5 :: x6 :: x7 :: x8 :: x9 :: x10 :: x11 :: x12 :: x13 :: z :: z2 :: l) (.long v :: r) M c s := by
  subst hq
  intro p e S m args below meth cd H locs ls fx hp hl hv
  exact lv_lstore (i := 14) fx.2.2.1 fx.2.2.2.1 hd (lvh_has hv) (Nat.lt_of_lt_of_le (by simp) hv.2.2.1) rfl (fun ls' h' => kk p e S m args below meth cd H locs ls' fx hp hl (lvh_st2 hv.2.2.1 (by simp) (Or.inr fun x h => by cases h; exact hc) h'))
theorem g_inc14 {x0 x1 x2 x3 x4 x5 x6 x7 x8 x9 x10 x11 x12 x13 : Option Value} {l : List (Option Value)} {v w : Int32} {n : Int} (hd : decode cc pc = .ok (.iinc 14 n, 3)) (hc : lc1 x13 = true) (hw : v + Int32.ofInt n = w) (hq : pc + 3 = q) (kk : Go E cc F q (x0 :: x1 :: x2 :: x3 :: x4 :: x5 :: x6 :: x7 :: x8 :: x9 :: x10 :: x11 :: x12 :: x13 :: some (.int w) :: l) r M c s) : Go E cc F pc (x0 :: x1 :: x2 :: x3 :: x4 :: x5 :: x6 :: x7 :: x8 :: x9 :: x10 :: x11 :: x12 :: x13 :: some (.int v) :: l) r M c s := by
  subst hq
  intro p e S m args below meth cd H locs ls fx hp hl hv
  obtain ⟨j, hj⟩ := List.getElem?_of_mem ((lvl_mem (x0 :: x1 :: x2 :: x3 :: x4 :: x5 :: x6 :: x7 :: x8 :: x9 :: x10 :: x11 :: x12 :: x13 :: some (.int v) :: l) 0 (14, .int v)).mpr ⟨14, rfl, rfl⟩)
  exact lv_iinc fx.2.2.1 fx.2.2.2.1 hd (lvh_has hv) hj hw (Nat.lt_of_lt_of_le (by simp) hv.2.2.1) rfl (fun ls' h' => kk p e S m args below meth cd H locs ls' fx hp hl (lvh_st1 hv.2.2.1 (by simp) (Or.inr fun x h => by cases h; exact hc) h'))
theorem g_ild15 {x0 x1 x2 x3 x4 x5 x6 x7 x8 x9 x10 x11 x12 x13 x14 : Option Value} {l : List (Option Value)} {v : Int32} (hd : decode cc pc = .ok (.iload 15, 2)) (hq : pc + 2 = q) (kk : Go E cc F q (x0 :: x1 :: x2 :: x3 :: x4 :: x5 :: x6 :: x7 :: x8 :: x9 :: x10 :: x11 :: x12 :: x13 :: x14 :: some (.int v) :: l) (.int v :: r) M c s) : Go E cc F pc (x0 :: x1 :: x2 :: x3 :: x4 :: x5 :: x6 :: x7 :: x8 :: x9 :: x10 :: x11 :: x12 :: x13 :: x14 :: some (.int v) :: l) r M c s := by
  subst hq
  intro p e S m args below meth cd H locs ls fx hp hl hv
  exact lv_iload fx.2.2.1 fx.2.2.2.1 hd (hv.2.2.2 15 _ rfl) (kk p e S m args below meth cd H locs ls fx hp hl hv)
theorem g_lld15 {x0 x1 x2 x3 x4 x5 x6 x7 x8 x9 x10 x11 x12 x13 x14 : Option Value} {l : List (Option Value)} {v : Int64} (hd : decode cc pc = .ok (.lload 15, 2)) (hq : pc + 2 = q) (kk : Go E cc F q (x0 :: x1 :: x2 :: x3 :: x4 :: x5 :: x6 :: x7 :: x8 :: x9 :: x10 :: x11 :: x12 :: x13 :: x14 :: some (.long v) :: l) (.long v :: r) M c s) : Go E cc F pc (x0 :: x1 :: x2 :: x3 :: x4 :: x5 :: x6 :: x7 :: x8 :: x9 :: x10 :: x11 :: x12 :: x13 :: x14 :: some (.long v) :: l) r M c s := by
  subst hq
  intro p e S m args below meth cd H locs ls fx hp hl hv
  exact lv_lload fx.2.2.1 fx.2.2.2.1 hd (hv.2.2.2 15 _ rfl) (kk p e S m args below meth cd H locs ls fx hp hl hv)
theorem g_ald15 {x0 x1 x2 x3 x4 x5 x6 x7 x8 x9 x10 x11 x12 x13 x14 : Option Value} {l : List (Option Value)} {v : Nat} (hd : decode cc pc = .ok (.aload 15, 2)) (hq : pc + 2 = q) (kk : Go E cc F q (x0 :: x1 :: x2 :: x3 :: x4 :: x5 :: x6 :: x7 :: x8 :: x9 :: x10 :: x11 :: x12 :: x13 :: x14 :: some (.ref v) :: l) (.ref v :: r) M c s) : Go E cc F pc (x0 :: x1 :: x2 :: x3 :: x4 :: x5 :: x6 :: x7 :: x8 :: x9 :: x10 :: x11 :: x12 :: x13 :: x14 :: some (.ref v) :: l) r M c s := by
  subst hq
  intro p e S m args below meth cd H locs ls fx hp hl hv
  exact lv_aload fx.2.2.1 fx.2.2.2.1 hd (hv.2.2.2 15 _ rfl) (kk p e S m args below meth cd H locs ls fx hp hl hv)
theorem g_qld15 {x0 x1 x2 x3 x4 x5 x6 x7 x8 x9 x10 x11 x12 x13 x14 : Option Value} {l : List (Option Value)} {v : Option Nat} (hd : decode cc pc = .ok (.aload 15, 2)) (hq : pc + 2 = q) (kk : Go E cc F q (x0 :: x1 :: x2 :: x3 :: x4 :: x5 :: x6 :: x7 :: x8 :: x9 :: x10 :: x11 :: x12 :: x13 :: x14 :: some (va_rf v) :: l) (va_rf v :: r) M c s) : Go E cc F pc (x0 :: x1 :: x2 :: x3 :: x4 :: x5 :: x6 :: x7 :: x8 :: x9 :: x10 :: x11 :: x12 :: x13 :: x14 :: some (va_rf v) :: l) r M c s := by
  subst hq
  intro p e S m args below meth cd H locs ls fx hp hl hv
  cases v with
  | none => exact lv_aloadN fx.2.2.1 fx.2.2.2.1 hd (hv.2.2.2 15 _ rfl) (kk p e S m args below meth cd H locs ls fx hp hl hv)
  | some a => exact lv_aload fx.2.2.1 fx.2.2.2.1 hd (hv.2.2.2 15 _ rfl) (kk p e S m args below meth cd H locs ls fx hp hl hv)
theorem g_ist15 {x0 x1 x2 x3 x4 x5 x6 x7 x8 x9 x10 x11 x12 x13 x14 : Option Value} {z : Option Value} {l : List (Option Value)} {v : Int32} (hd : decode cc pc = .ok (.istore 15, 2)) (hc : lc1 x14 = true) (hq : pc + 2 = q) (kk : Go E cc F q (x0 :: x1 :: x2 :: x3 :: x4 :: x5 :: x6 :: x7 :: x8 :: x9 :: x10 :: x11 :: x12 :: x13 :: x14 :: some (.int v) :: l) r M c s) : Go E cc F pc (x0 :: x1 :: x2 :: x3 :: x4 :: x5 :: x6 :: x7 :: x8 :: x9 :: x10 :: x11 :: x12 :: x13 :: x14 :: z :: l) (.int v :: r) M c s := by
  subst hq
  intro p e S m args below meth cd H locs ls fx hp hl hv
  exact lv_istore (i := 15) fx.2.2.1 fx.2.2.2.1 hd (lvh_has hv) (Nat.lt_of_lt_of_le (by simp) hv.2.2.1) rfl (fun ls' h' => kk p e S m args below meth cd H locs ls' fx hp hl (lvh_st1 hv.2.2.1 (by simp) (Or.inr fun x h => by cases h; exact hc) h'))
theorem g_ast15 {x0 x1 x2 x3 x4 x5 x6 x7 x8 x9 x10 x11 x12 x13 x14 : Option Value} {z : Option Value} {l : List (Option Value)} {v : Nat} (hd : decode cc pc = .ok (.astore 15, 2)) (hc : lc1 x14 = true) (hq : pc + 2 = q) (kk : Go E cc F q (x0 :: x1 :: x2 :: x3 :: x4 :: x5 :: x6 :: x7 :: x8 :: x9 :: x10 :: x11 :: x12 :: x13 :: x14 :: some (.ref v) :: l) r M c s) : Go E cc F pc (x0 :: x1 :: x2 :: x3 :: x4 :: x5 :: x6 :: x7 :: x8 :: x9 :: x10 :: x11 :: x12 :: x13 :: x14 :: z :: l) (.ref v :: r) M c s := by
  subst hq
  intro p e S m args below meth cd H locs ls fx hp hl hv
  exact lv_astore (i := 15) fx.2.2.1 fx.2.2.2.1 hd (lvh_has hv) (Nat.lt_of_lt_of_le (by simp) hv.2.2.1) rfl (fun ls' h' => kk p e S m args below meth cd H locs ls' fx hp hl (lvh_st1 hv.2.2.1 (by simp) (Or.inr fun x h => by cases h; exact hc) h'))
theorem g_qst15 {x0 x1 x2 x3 x4 x5 x6 x7 x8 x9 x10 x11 x12 x13 x14 : Option Value} {z : Option Value} {l : List (Option Value)} {v : Option Nat} (hd : decode cc pc = .ok (.astore 15, 2)) (hc : lc1 x14 = true) (hq : pc + 2 = q) (kk : Go E cc F q (x0 :: x1 :: x2 :: x3 :: x4 :: x5 :: x6 :: x7 :: x8 :: x9 :: x10 :: x11 :: x12 :: x13 :: x14 :: some (va_rf v) :: l) r M c s) : Go E cc F pc (x0 :: x1 :: x2 :: x3 :: x4 :: x5 :: x6 :: x7 :: x8 :: x9 :: x10 :: x11 :: x12 :: x13 :: x14 :: z :: l) (va_rf v :: r) M c s := by
  subst hq
  intro p e S m args below meth cd H locs ls fx hp hl hv
  cases v with
  | none => exact lv_astoreN (i := 15) fx.2.2.1 fx.2.2.2.1 hd (lvh_has hv) (Nat.lt_of_lt_of_le (by simp) hv.2.2.1) rfl (fun ls' h' => kk p e S m args below meth cd H locs ls' fx hp hl (lvh_st1 hv.2.2.1 (by simp) (Or.inr fun x h => by cases h; exact hc) h'))
  | some a => exact lv_astore (i := 15) fx.2.2.1 fx.2.2.2.1 hd (lvh_has hv) (Nat.lt_of_lt_of_le (by simp) hv.2.2.1) rfl (fun ls' h' => kk p e S m args below meth cd H locs ls' fx hp hl (lvh_st1 hv.2.2.1 (by simp) (Or.inr fun x h => by cases h; exact hc) h'))
theorem g_lst15 {x0 x1 x2 x3 x4 x5 x6 x7 x8 x9 x10 x11 x12 x13 x14 : Option Value} {z z2 : Option Value} {l : List (Option Value)} {v : Int64} (hd : decode cc pc = .ok (.lstore 15, 2)) (hc : lc1 x14 = true) (hq : pc + 2 = q) (kk : Go E cc F q (x0 :: x1 :: x2 :: x3 :: x4 :: x5 :: x6 :: x7 :: x8 :: x9 :: x10 :: x11 :: x12 :: x13 :: x14 :: some (.long v) :: none :: l) r M c s) : Go E cc F pc (x0 :: x1 :: x2 :: x3 :: x4 :: x5 :: x6 :: x7 :: x8 :: x9 :: x10 :: x11 :: x12 :: x13 :: x14 :: z :: z2 :: l) (.long v :: r) M c s := by
  subst hq
  intro p e S m args below meth cd H locs ls fx hp hl hv
  exact lv_lstore (i := 15) fx.2.2.1 fx.2.2.2.1 hd (lvh_has hv) (Nat.lt_of_lt_of_le (by simp) hv.2.2.1) rfl (fun ls' h' => kk p e S m args below meth cd H locs ls' fx hp hl (lvh_st2 hv.2.2.1 (by simp) (Or.inr fun x h => by cases h; exact hc) h'))
theorem g_inc15 {x0 x1 x2 x3 x4 x5 x6 x7 x8 x9 x10 x11 x12 x13 x14 : Option Value} {l : List (Option Value)} {v w : Int32} {n : Int} (hd : decode cc pc = .ok (.iinc 15 n, 3)) (hc : lc1 x14 = true) (hw : v + Int32.ofInt n = w) (hq : pc + 3 = q) (kk : Go E cc F q (x0 :: x1 :: x2 :: x3 :: x4 :: x5 :: x6 :: x7 :: x8 :: x9 :: x10 :: x11 :: x12 :: x13 :: x14 :: some (.int w) :: l) r M c s) : Go E cc F pc (x0 :: x1 :: x2 :: x3 :: x4 :: x5 :: x6 :: x7 :: x8 :: x9 :: x10 :: x11 :: x12 :: x13 :: x14 :: some (.int v) :: l) r M c s := by
  subst hq
  intro p e S m args below meth cd H locs ls fx hp hl hv
  obtain ⟨j, hj⟩ := List.getElem?_of_mem ((lvl_mem (x0 :: x1 :: x2 :: x3 :: x4 :: x5 :: x6 :: x7 :: x8 :: x9 :: x10 :: x11 :: x12 :: x13 :: x14 :: some (.int v) :: l) 0 (15, .int v)).mpr ⟨15, rfl, rfl⟩)
  exact lv_iinc fx.2.2.1 fx.2.2.2.1 hd (lvh_has hv) hj hw (Nat.lt_of_lt_of_le (by simp) hv.2.2.1) rfl (fun ls' h' => kk p e S m args below meth cd H locs ls' fx hp hl (lvh_st1 hv.2.2.1 (by simp) (Or.inr fun x h => by cases h; exact hc) h'))
theorem g_ild16 {x0 x1 x2 x3 x4 x5 x6 x7 x8 x9 x10 x11 x12 x13 x14 x15 : Option Value} {l : List (Option Value)} {v : Int32} (hd : decode cc pc = .ok (.iload 16, 2)) (hq : pc + 2 = q) (kk : Go E cc F q (x0 :: x1 :: x2 :: x3 :: x4 :: x5 :: x6 :: x7 :: x8 :: x9 :: x10 :: x11 :: x12 :: x13 :: x14 :: x15 :: some (.int v) :: l) (.int v :: r) M c s) : Go E cc F pc (x0 :: x1 :: x2 :: x3 :: x4 :: x5 :: x6 :: x7 :: x8 :: x9 :: x10 :: x11 :: x12 :: x13 :: x14 :: x15 :: some (.int v) :: l) r M c s := by
  subst hq
  intro p e S m args below meth cd H locs ls fx hp hl hv
  exact lv_iload fx.2.2.1 fx.2.2.2.1 hd (hv.2.2.2 16 _ rfl) (kk p e S m args below meth cd H locs ls fx hp hl hv)
theorem g_lld16 {x0 x1 x2 x3 x4 x5 x6 x7 x8 x9 x10 x11 x12 x13 x14 x15 : Option Value} {l : List (Option Value)} {v : Int64} (hd : decode cc pc = .ok (.lload 16, 2)) (hq : pc + 2 = q) (kk : Go E cc F q (x0 :: x1 :: x2 :: x3 :: x4 :: x5 :: x6 :: x7 :: x8 :: x9 :: x10 :: x11 :: x12 :: x13 :: x14 :: x15 :: some (.long v) :: l) (.long v :: r) M c s) : Go E cc F pc (x0 :: x1 :: x2 :: x3 :: x4 :: x5 :: x6 :: x7 :: x8 :: x9 :: x10 :: x11 :: x12 :: x13 :: x14 :: x15 :: some (.long v) :: l) r M c s := by
  subst hq
  intro p e S m args below meth cd H locs ls fx hp hl hv
  exact lv_lload fx.2.2.1 fx.2.2.2.1 hd (hv.2.2.2 16 _ rfl) (kk p e S m args below meth cd H locs ls fx hp hl hv)
theorem g_ald16 {x0 x1 x2 x3 x4 x5 x6 x7 x8 x9 x10 x11 x12 x13 x14 x15 : Option Value} {l : List (Option Value)} {v : Nat} (hd : decode cc pc = .ok (.aload 16, 2)) (hq : pc + 2 = q) (kk : Go E cc F q (x0 :: x1 :: x2 :: x3 :: x4 :: x5 :: x6 :: x7 :: x8 :: x9 :: x10 :: x11 :: x12 :: x13 :: x14 :: x15 :: some (.ref v) :: l) (.ref v :: r) M c s) : Go E cc F pc (x0 :: x1 :: x2 :: x3 :: x4 :: x5 :: x6 :: x7 :: x8 :: x9 :: x10 :: x11 :: x12 :: x13 :: x14 :: x15 :: some (.ref v) :: l) r M c s := by
  subst hq
  intro p e S m args below meth cd H locs ls fx hp hl hv
  exact lv_aload fx.2.2.1 fx.2.2.2.1 hd (hv.2.2.2 16 _ rfl) (kk p e S m args below meth cd H locs ls fx hp hl hv)
theorem g_qld16 {x0 x1 x2 x3 x4 x5 x6 x7 x8 x9 x10 x11 x12 x13 x14 x15 : Option Value} {l : List (Option Value)} {v : Option Nat} (hd : decode cc pc = .ok (.aload 16, 2)) (hq : pc + 2 = q) (kk : Go E cc F q (x0 :: x1 :: x2 :: x3 :: x4 :: x5 :: x6 :: x7 :: x8 :: x9 :: x10 :: x11 :: x12 :: x13 :: x14 :: x15 :: some (va_rf v) :: l) (va_rf v :: r) M c s) : Go E cc F pc (x0 :: x1 :: x2 :: x3 :: x4 :: x5 :: x6 :: x7 :: x8 :: x9 :: x10 :: x11 :: x12 :: x13 :: x14 :: x15 :: some (va_rf v) :: l) r M c s := by
  subst hq
  intro p e S m args below meth cd H locs ls fx hp hl hv
  cases v with
  | none => exact lv_aloadN fx.2.2.1 fx.2.2.2.1 hd (hv.2.2.2 16 _ rfl) (kk p e S m args below meth cd H locs ls fx hp hl hv)
  | some a => exact lv_aload fx.2.2.1 fx.2.2.2.1 hd (hv.2.2.2 16 _ rfl) (kk p e S m args below meth cd H locs ls fx hp hl hv)
theorem g_ist16 {x0 x1 x2 x3 x4 x5 x6 x7 x8 x9 x10 x11 x12 x13 x14 x15 : Option Value} {z : Option Value} {l : List (Option Value)} {v : Int32} (hd : decode cc pc = .ok (.istore 16, 2)) (hc : lc1 x15 = true) (hq : pc + 2 = q) (kk : Go E cc F q (x0 :: x1 :: x2 :: x3 :: x4 :: x5 :: x6 :: x7 :: x8 :: x9 :: x10 :: x11 :: x12 :: x13 :: x14 :: x15 :: some (.int v) :: l) r M c s) : Go E cc F pc (x0 :: x1 :: x2 :: x3 :: x4 :: x5 :: x6 :: x7 :: x8 :: x9 :: x10 :: x11 :: x12 :: x13 :: x14 :: x15 :: z :: l) (.int v :: r) M c s := by
  subst hq
  intro p e S m args below meth cd H locs ls fx hp hl hv
  exact lv_istore (i := 16) fx.2.2.1 fx.2.2.2.1 hd (lvh_has hv) (Nat.lt_of_lt_of_le (by simp) hv.2.2.1) rfl (fun ls' h' => kk p e S m args below meth cd H locs ls' fx hp hl (lvh_st1 hv.2.2.1 (by simp) (Or.inr fun x h => by cases h; exact hc) h'))
theorem g_ast16 {x0 x1 x2 x3 x4 x5 x6 x7 x8 x9 x10 x11 x12 x13 x14 x15 : Option Value} {z : Option Value} {l : List (Option Value)} {v : Nat} (hd : decode cc pc = .ok (.astore 16, 2)) (hc : lc1 x15 = true) (hq : pc + 2 = q) (kk : Go E cc F q (x0 :: x1 :: x2 :: x3 :: x4 :: x5 :: x6 :: x7 :: x8 :: x9 :: x10 :: x11 :: x12 :: x13 :: x14 :: x15 :: some (.ref v) :: l) r M c s) : Go E cc F pc (x0 :: x1 :: x2 :: x3 :: x4 :: x5 :: x6 :: x7 :: x8 :: x9 :: x10 :: x11 :: x12 :: x13 :: x14 :: x15 :: z :: l) (.ref v :: r) M c s := by
  subst hq
  intro p e S m args below meth cd H locs ls fx hp hl hv
  exact lv_astore (i := 16) fx.2.2.1 fx.2.2.2.1 hd (lvh_has hv) (Nat.lt_of_lt_of_le (by simp) hv.2.2.1) rfl (fun ls' h' => kk p e S m args below meth cd H locs ls' fx hp hl (lvh_st1 hv.2.2.1 (by simp) (Or.inr fun x h => by cases h; exact hc) h'))
theorem g_qst16 {x0 x1 x2 x3 x4 x5 x6 x7 x8 x9 x10 x11 x12 x13 x14 x15 : Option Value} {z : Option Value} {l : List (Option Value)} {v : Option Nat} (hd : decode cc pc = .ok (.astore 16, 2)) (hc : lc1 x15 = true) (hq : pc + 2 = q) (kk : Go E cc F q (x0 :: x1 :: x2 :: x3 :: x4 :: x5 :: x6 :: x7 :: x8 :: x9 :: x10 :: x11 :: x12 :: x13 :: x14 :: x15 :: some (va_rf v) :: l) r M c s) : Go E cc F pc (x0 :: x1 :: x2 :: x3 :: x4 :: x5 :: x6 :: x7 :: x8 :: x9 :: x10 :: x11 :: x12 :: x13 :: x14 :: x15 :: z :: l) (va_rf v :: r) M c s := by
  subst hq
  intro p e S m args below meth cd H locs ls fx hp hl hv
  cases v with
  | none => exact lv_astoreN (i := 16) fx.2.2.1 fx.2.2.2.1 hd (lvh_has hv) (Nat.lt_of_lt_of_le (by simp) hv.2.2.1) rfl (fun ls' h' => kk p e S m args below meth cd H locs ls' fx hp hl (lvh_st1 hv.2.2.1 (by simp) (Or.inr fun x h => by cases h; exact hc) h'))
  | some a => exact lv_astore (i := 16) fx.2.2.1 fx.2.2.2.1 hd (lvh_has hv) (Nat.lt_of_lt_of_le (by simp) hv.2.2.1) rfl (fun ls' h' => kk p e S m args below meth cd H locs ls' fx hp hl (lvh_st1 hv.2.2.1 (by simp) (Or.inr fun x h => by cases h; exact hc) h'))
theorem g_lst16 {x0 x1 x2 x3 x4 x5 x6 x7 x8 x9 x10 x11 x12 x13 x14 x15 : Option Value} {z z2 : Option Value} {l : List (Option Value)} {v : Int64} (hd : decode cc pc = .ok (.lstore 16, 2)) (hc : lc1 x15 = true) (hq : pc + 2 = q) (kk : Go E cc F q (x0 :: x1 :: x2 :: x3 :: x4 :: x5 :: x6 :: x7 :: x8 :: x9 :: x10 :: x11 :: x12 :: x13 :: x14 :: x15 :: some (.long v) :: none :: l) r M c s) : Go E cc F pc (x0 :: x1 :: x2 :: x3 :: x4 :: x5 :: x6 :: x7 :: x8 :: x9 :: x10 :: x11 :: x12 :: x13 :: x14 :: x15 :: z :: z2 :: l) (.long v :: r) M c s := by
  subst hq
  intro p e S m args below meth cd H locs ls fx hp hl hv
  exact lv_lstore (i := 16) fx.2.2.1 fx.2.2.2.1 hd (lvh_has hv) (Nat.lt_of_lt_of_le (by simp) hv.2.2.1) rfl (fun ls' h' => kk p e S m args below meth cd H locs ls' fx hp hl (lvh_st2 hv.2.2.1 (by simp) (Or.inr fun x h => by cases h; exact hc) h'))
theorem g_inc16 {x0 x1 x2 x3 x4 x5 x6 x7 x8 x9 x10 x11 x12 x13 x14 x15 : Option Value} {l : List (Option Value)} {v w : Int32} {n : Int} (hd : decode cc pc = .ok (.iinc 16 n, 3)) (hc : lc1 x15 = true) (hw : v + Int32.ofInt n = w) (hq : pc + 3 = q) (kk : Go E cc F q (x0 :: x1 :: x2 :: x3 :: x4 :: x5 :: x6 :: x7 :: x8 :: x9 :: x10 :: x11 :: x12 :: x13 :: x14 :: x15 :: some (.int w) :: l) r M c s) : Go E cc F pc (x0 :: x1 :: x2 :: x3 :: x4 :: x5 :: x6 :: x7 :: x8 :: x9 :: x10 :: x11 :: x12 :: x13 :: x14 :: x15 :: some (.int v) :: l) r M c s := by
  subst hq
  intro p e S m args below meth cd H locs ls fx hp hl hv
  obtain ⟨j, hj⟩ := List.getElem?_of_mem ((lvl_mem (x0 :: x1 :: x2 :: x3 :: x4 :: x5 :: x6 :: x7 :: x8 :: x9 :: x10 :: x11 :: x12 :: x13 :: x14 :: x15 :: some (.int v) :: l) 0 (16, .int v)).mpr ⟨16, rfl, rfl⟩)
  exact lv_iinc fx.2.2.1 fx.2.2.2.1 hd (lvh_has hv) hj hw (Nat.lt_of_lt_of_le (by simp) hv.2.2.1) rfl (fun ls' h' => kk p e S m args below meth cd H locs ls' fx hp hl (lvh_st1 hv.2.2.1 (by simp) (Or.inr fun x h => by cases h; exact hc) h'))
theorem g_ild17 {x0 x1 x2 x3 x4 x5 x6 x7 x8 x9 x10 x11 x12 x13 x14 x15 x16 : Option Value} {l : List (Option Value)} {v : Int32} (hd : decode cc pc = .ok (.iload 17, 2)) (hq : pc + 2 = q) (kk : Go E cc F q (x0 :: x1 :: x2 :: x3 :: x4 :: x5 :: x6 :: x7 :: x8 :: x9 :: x10 :: x11 :: x12 :: x13 :: x14 :: x15 :: x16 :: some (.int v) :: l) (.int v :: r) M c s) : Go E cc F pc (x0 :: x1 :: x2 :: x3 :: x4 :: x5 :: x6 :: x7 :: x8 :: x9 :: x10 :: x11 :: x12 :: x13 :: x14 :: x15 :: x16 :: some (.int v) :: l) r M c s := by
  subst hq
  intro p e S m args below meth cd H locs ls fx hp hl hv
  exact lv_iload fx.2.2.1 fx.2.2.2.1 hd (hv.2.2.2 17 _ rfl) (kk p e S m args below meth cd H locs ls fx hp hl hv)
theorem g_lld17 {x0 x1 x2 x3 x4 x5 x6 x7 x8 x9 x10 x11 x12 x13 x14 x15 x16 : Option Value} {l : List (Option Value)} {v : Int64} (hd : decode cc pc = .ok (.lload 17, 2)) (hq : pc + 2 = q) (kk : Go E cc F q (x0 :: x1 :: x2 :: x3 :: x4 :: x5 :: x6 :: x7 :: x8 :: x9 :: x10 :: x11 :: x12 :: x13 :: x14 :: x15 :: x16 :: some (.long v) :: l) (.long v :: r) M c s) : Go E cc F pc (x0 :: x1 :: x2 :: x3 :: x4 :: x5 :: x6 :: x7 :: x8 :: x9 :: x10 :: x11 :: x12 :: x13 :: x14 :: x15 :: x16 :: some (.long v) :: l) r M c s := by
  subst hq
  intro p e S m args below meth cd H locs ls fx hp hl hv
  exact lv_lload fx.2.2.1 fx.2.2.2.1 hd (hv.2.2.2 17 _ rfl) (kk p e S m args below meth cd H locs ls fx hp hl hv)
theorem g_ald17 {x0 x1 x2 x3 x4 x5 x6 x7 x8 x9 x10 x11 x12 x13 x14 x15 x16 : Option Value} {l : List (Option Value)} {v : Nat} (hd : decode cc pc = .ok (.aload 17, 2)) (hq : pc + 2 = q) (kk : Go E cc F q (x0 :: x1 :: x2 :: x3 :: x4 :: x5 :: x6 :: x7 :: x8 :: x9 :: x10 :: x11 :: x12 :: x13 :: x14 :: x15 :: x16 :: some (.ref v) :: l) (.ref v :: r) M c s) : Go E cc F pc (x0 :: x1 :: x2 :: x3 :: x4 :: x5 :: x6 :: x7 :: x8 :: x9 :: x10 :: x11 :: x12 :: x13 :: x14 :: x15 :: x16 :: some (.ref v) :: l) r M c s := by
  subst hq
  intro p e S m args below meth cd H locs ls fx hp hl hv
  exact lv_aload fx.2.2.1 fx.2.2.2.1 hd (hv.2.2.2 17 _ rfl) (kk p e S m args below meth cd H locs ls fx hp hl hv)
theorem g_qld17 {x0 x1 x2 x3 x4 x5 x6 x7 x8 x9 x10 x11 x12 x13 x14 x15 x16 : Option Value} {l : List (Option Value)} {v : Option Nat} (hd : decode cc pc = .ok (.aload 17, 2)) (hq : pc + 2 = q) (kk : Go E cc F q (x0 :: x1 :: x2 :: x3 :: x4 :: x5 :: x6 :: x7 :: x8 :: x9 :: x10 :: x11 :: x12 :: x13 :: x14 :: x15 :: x16 :: some (va_rf v) :: l) (va_rf v :: r) M c s) : Go E cc F pc (x0 :: x1 :: x2 :: x3 :: x4 :: x5 :: x6 :: x7 :: x8 :: x9 :: x10 :: x11 :: x12 :: x13 :: x14 :: x15 :: x16 :: some (va_rf v) :: l) r M c s := by
  subst hq
  intro p e S m args below meth cd H locs ls fx hp hl hv
  cases v with
  | none => exact lv_aloadN fx.2.2.1 fx.2.2.2.1 hd (hv.2.2.2 17 _ rfl) (kk p e S m args below meth cd H locs ls fx hp hl hv)
  | some a => exact lv_aload fx.2.2.1 fx.2.2.2.1 hd (hv.2.2.2 17 _ rfl) (kk p e S m args below meth cd H locs ls fx hp hl hv)
theorem g_ist17 {x0 x1 x2 x3 x4 x5 x6 x7 x8 x9 x10 x11 x12 x13 x14 x15 x16 : Option Value} {z : Option Value} {l : List (Option Value)} {v : Int32} (hd : decode cc pc = .ok (.istore 17, 2)) (hc : lc1 x16 = true) (hq : pc + 2 = q) (kk : Go E cc F q (x0 :: x1 :: x2 :: x3 :: x4 :: x5 :: x6 :: x7 :: x8 :: x9 :: x10 :: x11 :: x12 :: x13 :: x14 :: x15 :: x16 :: some (.int v) :: l) r M c s) : Go E cc F pc (x0 :: x1 :: x2 :: x3 :: x4 :: x5 :: x6 :: x7 :: x8 :: x9 :: x10 :: x11 :: x12 :: x13 :: x14 :: x15 :: x16 :: z :: l) (.int v :: r) M c s := by
  subst hq
  intro p e S m args below meth cd H locs ls fx hp hl hv
  exact lv_istore (i := 17) fx.2.2.1 fx.2.2.2.1 hd (lvh_has hv) (Nat.lt_of_lt_of_le (by simp) hv.2.2.1) rfl (fun ls' h' => kk p e S m args below meth cd H locs ls' fx hp hl (lvh_st1 hv.2.2.1 (by simp) (Or.inr fun x h => by cases h; exact hc) h'))
theorem g_ast17 {x0 x1 x2 x3 x4 x5 x6 x7 x8 x9 x10 x11 x12 x13 x14 x15 x16 : Option Value} {z : Option Value} {l : List (Option Value)} {v : Nat} (hd : decode cc pc = .ok (.astore 17, 2)) (hc : lc1 x16 = true) (hq : pc + 2 = q) (kk : Go E cc F q (x0 :: x1 :: x2 :: x3 :: x4 :: x5 :: x6 :: x7 :: x8 :: x9 :: x10 :: x11 :: x12 :: x13 :: x14 :: x15 :: x16 :: some (.ref v) :: l) r M c s) : Go E cc F pc (x0 :: x1 :: x2 :: x3 :: x4 :: x5 :: x6 :: x7 :: x8 :: x9 :: x10 :: x11 :: x12 :: x13 :: x14 :: x15 :: x16 :: z :: l) (.ref v :: r) M c s := by
  subst hq
  intro p e S m args below meth cd H locs ls fx hp hl hv
  exact lv_astore (i := 17) fx.2.2.1 fx.2.2.2.1 hd (lvh_has hv) (Nat.lt_of_lt_of_le (by simp) hv.2.2.1) rfl (fun ls' h' => kk p e S m args below meth cd H locs ls' fx hp hl (lvh_st1 hv.2.2.1 (by simp) (Or.inr fun x h => by cases h; exact hc) h'))
theorem g_qst17 {x0 x1 x2 x3 x4 x5 x6 x7 x8 x9 x10 x11 x12 x13 x14 x15 x16 : Option Value} {z : Option Value} {l : List (Option Value)} {v : Option Nat} (hd : decode cc pc = .ok (.astore 17, 2)) (hc : lc1 x16 = true) (hq : pc + 2 = q) (kk : Go E cc F q (x0 :: x1 :: x2 :: x3 :: x4 :: x5 :: x6 :: x7 :: x8 :: x9 :: x10 :: x11 :: x12 :: x13 :: x14 :: x15 :: x16 :: some (va_rf v) :: l) r M c s) : Go E cc F pc (x0 :: x1 :: x2 :: x3 :: x4 :: x5 :: x6 :: x7 :: x8 :: x9 :: x10 :: x11 :: x12 :: x13 :: x14 :: x15 :: x16 :: z :: l) (va_rf v :: r) M c s := by
  subst hq
  intro p e S m args below meth cd H locs ls fx hp hl hv
  cases v with
  | none => exact lv_astoreN (i := 17) fx.2.2.1 fx.2.2.2.1 hd (lvh_has hv) (Nat.lt_of_lt_of_le (by simp) hv.2.2.1) rfl (fun ls' h' => kk p e S m args below meth cd H locs ls' fx hp hl (lvh_st1 hv.2.2.1 (by simp) (Or.inr fun x h => by cases h; exact hc) h'))
  | some a => exact lv_astore (i := 17) fx.2.2.1 fx.2.2.2.1 hd (lvh_has hv) (Nat.lt_of_lt_of_le (by simp) hv.2.2.1) rfl (fun ls' h' => kk p e S m args below meth cd H locs ls' fx hp hl (lvh_st1 hv.2.2.1 (by simp) (Or.inr fun x h => by cases h; exact hc) h'))
theorem g_lst17 {x0 x1 x2 x3 x4 x5 x6 x7 x8 x9 x10 x11 x12 x13 x14 x15 x16 : Option Value} {z z2 : Option Value} {l : List (Option Value)} {v : Int64} (hd : decode cc pc = .ok (.lstore 17, 2)) (hc : lc1 x16 = true) (hq : pc + 2 = q) (kk : Go E cc F q (x0 :: x1 :: x2 :: x3 :: x4 :: x5 :: x6 :: x7 :: x8 :: x9 :: x10 :: x11 :: x12 :: x13 :: x14 :: x15 :: x16 :: some (.long v) :: none :: l) r M c s) : Go E cc F pc (x0 :: x1 :: x2 :: x3 :: x4 :: x5 :: x6 :: x7 :: x8 :: x9 :: x10 :: x11 :: x12 :: x13 :: x14 :: x15 :: x16 :: z :: z2 :: l) (.long v :: r) M c s := by
  subst hq
  intro p e S m args below meth cd H locs ls fx hp hl hv
  exact lv_lstore (i := 17) fx.2.2.1 fx.2.2.2.1 hd (lvh_has hv) (Nat.lt_of_lt_of_le (by simp) hv.2.2.1) rfl (fun ls' h' => kk p e S m args below meth cd H locs ls' fx hp hl (lvh_st2 hv.2.2.1 (by simp) (Or.inr fun x h => by cases h; exact hc) h'))
theorem g_inc17 {x0 x1 x2 x3 x4 x5 x6 x7 x8 x9 x10 x11 x12 x13 x14 x15 x16 : Option Value} {l : List (Option Value)} {v w : Int32} {n : Int} (hd : decode cc pc = .ok (.iinc 17 n, 3)) (hc : lc1 x16 = true) (hw : v + Int32.ofInt n = w) (hq : pc + 3 = q) (kk : Go E cc F q (x0 :: x1 :: x2 :: x3 :: x4 :: x5 :: x6 :: x7 :: x8 :: x9 :: x10 :: x11 :: x12 :: x13 :: x14 :: x15 :: x16 :: some (.int w) :: l) r M c s) : Go E cc F pc (x0 :: x1 :: x2 :: x3 :: x4 :: x5 :: x6 :: x7 :: x8 :: x9 :: x10 :: x11 :: x12 :: x13 :: x14 :: x15 :: x16 :: some (.int v) :: l) r M c s := by
  subst hq
  intro p e S m args below meth cd H locs ls fx hp hl hv
  obtain ⟨j, hj⟩ := List.getElem?_of_mem ((lvl_mem (x0 :: x1 :: x2 :: x3 :: x4 :: x5 :: x6 :: x7 :: x8 :: x9 :: x10 :: x11 :: x12 :: x13 :: x14 :: x15 :: x16 :: some (.int v) :: l) 0 (17, .int v)).mpr ⟨17, rfl, rfl⟩)
  exact lv_iinc fx.2.2.1 fx.2.2.2.1 hd (lvh_has hv) hj hw (Nat.lt_of_lt_of_le (by simp) hv.2.2.1) rfl (fun ls' h' => kk p e S m args below meth cd H locs ls' fx hp hl (lvh_st1 hv.2.2.1 (by simp) (Or.inr fun x h => by cases h; exact hc) h'))
theorem g_ild18 {x0 x1 x2 x3 x4 x5 x6 x7 x8 x9 x10 x11 x12 x13 x14 x15 x16 x17 : Option Value} {l : List (Option Value)} {v : Int32} (hd : decode cc pc = .ok (.iload 18, 2)) (hq : pc + 2 = q) (kk : Go E cc F q (x0 :: x1 :: x2 :: x3 :: x4 :: x5 :: x6 :: x7 :: x8 :: x9 :: x10 :: x11 :: x12 :: x13 :: x14 :: x15 :: x16 :: x17 :: some (.int v) :: l) (.int v :: r) M c s) : Go E cc F pc (x0 :: x1 :: x2 :: x3 :: x4 :: x5 :: x6 :: x7 :: x8 :: x9 :: x10 :: x11 :: x12 :: x13 :: x14 :: x15 :: x16 :: x17 :: some (.int v) :: l) r M c s := by
  subst hq
  intro p e S m args below meth cd H locs ls fx hp hl hv
  exact lv_iload fx.2.2.1 fx.2.2.2.1 hd (hv.2.2.2 18 _ rfl) (kk p e S m args below meth cd H locs ls fx hp hl hv)
theorem g_lld18 {x0 x1 x2 x3 x4 x5 x6 x7 x8 x9 x10 x11 x12 x13 x14 x15 x16 x17 : Option Value} {l : List (Option Value)} {v : Int64} (hd : decode cc pc = .ok (.lload 18, 2)) (hq : pc + 2 = q) (kk : Go E cc F q (x0 :: x1 :: x2 :: x3 :: x4 :: x5 :: x6 :: x7 :: x8 :: x9 :: x10 :: x11 :: x12 :: x13 :: x14 :: x15 :: x16 :: x17 :: some (.long v) :: l) (.long v :: r) M c s) : Go E cc F pc (x0 :: x1 :: x2 :: x3 :: x4 :: x5 :: x6 :: x7 :: x8 :: x9 :: x10 :: x11 :: x12 :: x13 :: x14 :: x15 :: x16 :: x17 :: some (.long v) :: l) r M c s := by
  subst hq
  intro p e S m args below meth cd H locs ls fx hp hl hv
  exact lv_lload fx.2.2.1 fx.2.2.2.1 hd (hv.2.2.2 18 _ rfl) (kk p e S m args below meth cd H locs ls fx hp hl hv)
theorem g_ald18 {x0 x1 x2 x3 x4 x5 x6 x7 x8 x9 x10 x11 x12 x13 x14 x15 x16 x17 : Option Value} {l : List (Option Value)} {v : Nat} (hd : decode cc pc = .ok (.aload 18, 2)) (hq : pc + 2 = q) (kk : Go E cc F q (x0 :: x1 :: x2 :: x3 :: x4 :: x5 :: x6 :: x7 :: x8 :: x9 :: x10 :: x11 :: x12 :: x13 :: x14 :: x15 :: x16 :: x17 :: some (.ref v) :: l) (.ref v :: r) M c s) : Go E cc F pc (x0 :: x1 :: x2 :: x3 :: x4 :: x5 :: x6 :: x7 :: x8 :: x9 :: x10 :: x11 :: x12 :: x13 :: x14 :: x15 :: x16 :: x17 :: some (.ref v) :: l) r M c s := by
  subst hq
  intro p e S m args below meth cd H locs ls fx hp hl hv
  exact lv_aload fx.2.2.1 fx.2.2.2.1 hd (hv.2.2.2 18 _ rfl) (kk p e S m args below meth cd H locs ls fx hp hl hv)
theorem g_qld18 {x0 x1 x2 x3 x4 x5 x6 x7 x8 x9 x10 x11 x12 x13 x14 x15 x16 x17 : Option Value} {l : List (Option Value)} {v : Option Nat} (hd : decode cc pc = .ok (.aload 18, 2)) (hq : pc + 2 = q) (kk : Go E cc F q (x0 :: x1 :: x2 :: x3 :: x4 :: x5 :: x6 :: x7 :: x8 :: x9 :: x10 :: x11 :: x12 :: x13 :: x14 :: x15 :: x16 :: x17 :: some (va_rf v) :: l) (va_rf v :: r) M c s) : Go E cc F pc (x0 :: x1 :: x2 :: x3 :: x4 :: x5 :: x6 :: x7 :: x8 :: x9 :: x10 :: x11 :: x12 :: x13 :: x14 :: x15 :: x16 :: x17 :: some (va_rf v) :: l) r M c s := by
  subst hq
  intro p e S m args below meth cd H locs ls fx hp hl hv
  cases v with
  | none => exact lv_aloadN fx.2.2.1 fx.2.2.2.1 hd (hv.2.2.2 18 _ rfl) (kk p e S m args below meth cd H locs ls fx hp hl hv)
  | some a => exact lv_aload fx.2.2.1 fx.2.2.2.1 hd (hv.2.2.2 18 _ rfl) (kk p e S m args below meth cd H locs ls fx hp hl hv)
theorem g_ist18 {x0 x1 x2 x3 x4 x5 x6 x7 x8 x9 x10 x11 x12 x13 x14 x15 x16 x17 : Option Value} {z : Option Value} {l : List (Option Value)} {v : Int32} (hd : decode cc pc = .ok (.istore 18, 2)) (hc : lc1 x17 = true) (hq : pc + 2 = q) (kk : Go E cc F q (x0 :: x1 :: x2 :: x3 :: x4 :: x5 :: x6 :: x7 :: x8 :: x9 :: x10 :: x11 :: x12 :: x13 :: x14 :: x15 :: x16 :: x17 :: some (.int v) :: l) r M c s) : Go E cc F pc (x0 :: x1 :: x2 :: x3 :: x4 :: x5 :: x6 :: x7 :: x8 :: x9 :: x10 :: x11 :: x12 :: x13 :: x14 :: x15 :: x16 :: x17 :: z :: l) (.int v :: r) M c s := by
  subst hq
  intro p e S m args below meth cd H locs ls fx hp hl hv
  exact lv_istore (i := 18) fx.2.2.1 fx.2.2.2.1 hd (lvh_has hv) (Nat.lt_of_lt_of_le (by simp) hv.2.2.1) rfl (fun ls' h' => kk p e S m args below meth cd H locs ls' fx hp hl (lvh_st1 hv.2.2.1 (by simp) (Or.inr fun x h => by cases h; exact hc) h'))
theorem g_ast18 {x0 x1 x2 x3 x4 x5 x6 x7 x8 x9 x10 x11 x12 x13 x14 x15 x16 x17 : Option Value} {z : Option Value} {l : List (Option Value)} {v : Nat} (hd : decode cc pc = .ok (.astore 18, 2)) (hc : lc1 x17 = true) (hq : pc + 2 = q) (kk : Go E cc F q (x0 :: x1 :: x2 :: x3 :: x4 :: x5 :: x6 :: x7 :: x8 :: x9 :: x10 :: x11 :: x12 :: x13 :: x14 :: x15 :: x16 :: x17 :: some (.ref v) :: l) r M c s) : Go E cc F pc (x0 :: x1 :: x2 :: x3 :: x4 :: x5 :: x6 :: x7 :: x8 :: x9 :: x10 :: x11 :: x12 :: x13 :: x14 :: x15 :: x16 :: x17 :: z :: l) (.ref v :: r) M c s := by
  subst hq
  intro p e S m args below meth cd H locs ls fx hp hl hv
  exact lv_astore (i := 18) fx.2.2.1 fx.2.2.2.1 hd (lvh_has hv) (Nat.lt_of_lt_of_le (by simp) hv.2.2.1) rfl (fun ls' h' => kk p e S m args below meth cd H locs ls' fx hp hl (lvh_st1 hv.2.2.1 (by simp) (Or.inr fun x h => by cases h; exact hc) h'))
theorem g_qst18 {x0 x1 x2 x3 x4 x5 x6 x7 x8 x9 x10 x11 x12 x13 x14 x15 x16 x17 : Option Value} {z : Option Value} {l : List (Option Value)} {v : Option Nat} (hd : decode cc pc = .ok (.astore 18, 2)) (hc : lc1 x17 = true) (hq : pc + 2 = q) (kk : Go E cc F q (x0 :: x1 :: x2 :: x3 :: x4 :: x5 :: x6 :: x7 :: x8 :: x9 :: x10 :: x11 :: x12 :: x13 :: x14 :: x15 :: x16 :: x17 :: some (va_rf v) :: l) r M c s) : Go E cc F pc (x0 :: x1 :: x2 :: x3 :: x4 :: x5 :: x6 :: x7 :: x8 :: x9 :: x10 :: x11 :: x12 :: x13 :: x14 :: x15 :: x16 :: x17 :: z :: l) (va_rf v :: r) M c s := by
  subst hq
  intro p e S m args below meth cd H locs ls fx hp hl hv
  cases v with
  | none => exact lv_astoreN (i := 18) fx.2.2.1 fx.2.2.2.1 hd (lvh_has hv) (Nat.lt_of_lt_of_le (by simp) hv.2.2.1) rfl (fun ls' h' => kk p e S m args below meth cd H locs ls' fx hp hl (lvh_st1 hv.2.2.1 (by simp) (Or.inr fun x h => by cases h; exact hc) h'))
  | some a => exact lv_astore (i := 18) fx.2.2.1 fx.2.2.2.1 hd (lvh_has hv) (Nat.lt_of_lt_of_le (by simp) hv.2.2.1) rfl (fun ls' h' => kk p e S m args below meth cd H locs ls' fx hp hl (lvh_st1 hv.2.2.1 (by simp) (Or.inr fun x h => by cases h; exact hc) h'))
theorem g_lst18 {x0 x1 x2 x3 x4 x5 x6 x7 x8 x9 x10 x11 x12 x13 x14 x15 x16 x17 : Option Value} {z z2 : Option Value} {l : List (Option Value)} {v : Int64} (hd : decode cc pc = .ok (.lstore 18, 2)) (hc : lc1 x17 = true) (hq : pc + 2 = q) (kk : Go E cc F q (x0 :: x1 :: x2 :: x3 :: x4 :: x5 :: x6 :: x7 :: x8 :: x9 :: x10 :: x11 :: x12 :: x13 :: x14 :: x15 :: x16 :: x17 :: some (.long v) :: none :: l) r M c s) : Go E cc F pc (x0 :: x1 :: x2 :: x3 :: x4 :: x5 :: x6 :: x7 :: x8 :: x9 :: x10 :: x11 :: x12 :: x13 :: x14 :: x15 :: x16 :: x17 :: z :: z2 :: l) (.long v :: r) M c s := by
  subst hq
  intro p e S m args below meth cd H locs ls fx hp hl hv
  exact lv_lstore (i := 18) fx.2.2.1 fx.2.2.2.1 hd (lvh_has hv) (Nat.lt_of_lt_of_le (by simp) hv.2.2.1) rfl (fun ls' h' => kk p e S m args below meth cd H locs ls' fx hp hl (lvh_st2 hv.2.2.1 (by simp) (Or.inr fun x h => by cases h; exact hc) h'))
theorem g_inc18 {x0 x1 x2 x3 x4 x5 x6 x7 x8 x9 x10 x11 x12 x13 x14 x15 x16 x17 : Option Value} {l : List (Option Value)} {v w : Int32} {n : Int} (hd : decode cc pc = .ok (.iinc 18 n, 3)) (hc : lc1 x17 = true) (hw : v + Int32.ofInt n = w) (hq : pc + 3 = q) (kk : Go E cc F q (x0 :: x1 :: x2 :: x3 :: x4 :: x5 :: x6 :: x7 :: x8 :: x9 :: x10 :: x11 :: x12 :: x13 :: x14 :: x15 :: x16 :: x17 :: some (.int w) :: l) r M c s) : Go E cc F pc (x0 :: x1 :: x2 :: x3 :: x4 :: x5 :: x6 :: x7 :: x8 :: x9 :: x10 :: x11 :: x12 :: x13 :: x14 :: x15 :: x16 :: x17 :: some (.int v) :: l) r M c s := by
  subst hq
  intro p e S m args below meth cd H locs ls fx hp hl hv
  obtain ⟨j, hj⟩ := List.getElem?_of_mem ((lvl_mem (x0 :: x1 :: x2 :: x3 :: x4 :: x5 :: x6 :: x7 :: x8 :: x9 :: x10 :: x11 :: x12 :: x13 :: x14 :: x15 :: x16 :: x17 :: some (.int v) :: l) 0 (18, .int v)).mpr ⟨18, rfl, rfl⟩)
  exact lv_iinc fx.2.2.1 fx.2.2.2.1 hd (lvh_has hv) hj hw (Nat.lt_of_lt_of_le (by simp) hv.2.2.1) rfl (fun ls' h' => kk p e S m args below meth cd H locs ls' fx hp hl (lvh_st1 hv.2.2.1 (by simp) (Or.inr fun x h => by cases h; exact hc) h'))
theorem g_ild19 {x0 x1 x2 x3 x4 x5 x6 x7 x8 x9 x10 x11 x12 x13 x14 x15 x16 x17 x18 : Option Value} {l : List (Option Value)} {v : Int32} (hd : decode cc pc = .ok (.iload 19, 2)) (hq : pc + 2 = q) (kk : Go E cc F q (x0 :: x1 :: x2 :: x3 :: x4 :: x5 :: x6 :: x7 :: x8 :: x9 :: x10 :: x11 :: x12 :: x13 :: x14 :: x15 :: x16 :: x17 :: x18 :: some (.int v) :: l) (.int v :: r) M c s) : Go E cc F pc (x0 :: x1 :: x2 :: x3 :: x4 :: x5 :: x6 :: x7 :: x8 :: x9 :: x10 :: x11 :: x12 :: x13 :: x14 :: x15 :: x16 :: x17 :: x18 :: some (.int v) :: l) r M c s := by
  subst hq
  intro p e S m args below meth cd H locs ls fx hp hl hv
  exact lv_iload fx.2.2.1 fx.2.2.2.1 hd (hv.2.2.2 19 _ rfl) (kk p e S m args below meth cd H locs ls fx hp hl hv)
theorem g_lld19 {x0 x1 x2 x3 x4 x5 x6 x7 x8 x9 x10 x11 x12 x13 x14 x15 x16 x17 x18 : Option Value} {l : List (Option Value)} {v : Int64} (hd : decode cc pc = .ok (.lload 19, 2)) (hq : pc + 2 = q) (kk : Go E cc F q (x0 :: x1 :: x2 :: x3 :: x4 :: x5 :: x6 :: x7 :: x8 :: x9 :: x10 :: x11 :: x12 :: x13 :: x14 :: x15 :: x16 :: x17 :: x18 :: some (.long v) :: l) (.long v :: r) M c s) : Go E cc F pc (x0 :: x1 :: x2 :: x3 :: x4 :: x5 :: x6 :: x7 :: x8 :: x9 :: x10 :: x11 :: x12 :: x13 :: x14 :: x15 :: x16 :: x17 :: x18 :: some (.long v) :: l) r M c s := by
  subst hq
  intro p e S m args below meth cd H locs ls fx hp hl hv
  exact lv_lload fx.2.2.1 fx.2.2.2.1 hd (hv.2.2.2 19 _ rfl) (kk p e S m args below meth cd H locs ls fx hp hl hv)
theorem g_ald19 {x0 x1 x2 x3 x4 x5 x6 x7 x8 x9 x10 x11 x12 x13 x14 x15 x16 x17 x18 : Option Value} {l : List (Option Value)} {v : Nat} (hd : decode cc pc = .ok (.aload 19, 2)) (hq : pc + 2 = q) (kk : Go E cc F q (x0 :: x1 :: x2 :: x3 :: x4 :: x5 :: x6 :: x7 :: x8 :: x9 :: x10 :: x11 :: x12 :: x13 :: x14 :: x15 :: x16 :: x17 :: x18 :: some (.ref v) :: l) (.ref v :: r) M c s) : Go E cc F pc (x0 :: x1 :: x2 :: x3 :: x4 :: x5 :: x6 :: x7 :: x8 :: x9 :: x10 :: x11 :: x12 :: x13 :: x14 :: x15 :: x16 :: x17 :: x18 :: some (.ref v) :: l) r M c s := by
  subst hq
  intro p e S m args below meth cd H locs ls fx hp hl hv
  exact lv_aload fx.2.2.1 fx.2.2.2.1 hd (hv.2.2.2 19 _ rfl) (kk p e S m args below meth cd H locs ls fx hp hl hv)
theorem g_qld19 {x0 x1 x2 x3 x4 x5 x6 x7 x8 x9 x10 x11 x12 x13 x14 x15 x16 x17 x18 : Option Value} {l : List (Option Value)} {v : Option Nat} (hd : decode cc pc = .ok (.aload 19, 2)) (hq : pc + 2 = q) (kk : Go E cc F q (x0 :: x1 :: x2 :: x3 :: x4 :: x5 :: x6 :: x7 :: x8 :: x9 :: x10 :: x11 :: x12 :: x13 :: x14 :: x15 :: x16 :: x17 :: x18 :: some (va_rf v) :: l) (va_rf v :: r) M c s) : Go E cc F pc (x0 :: x1 :: x2 :: x3 :: x4 :: x5 :: x6 :: x7 :: x8 :: x9 :: x10 :: x11 :: x12 :: x13 :: x14 :: x15 :: x16 :: x17 :: x18 :: some (va_rf v) :: l) r M c s := by
  subst hq
  intro p e S m args below meth cd H locs ls fx hp hl hv
  cases v with
  | none => exact lv_aloadN fx.2.2.1 fx.2.2.2.1 hd (hv.2.2.2 19 _ rfl) (kk p e S m args below meth cd H locs ls fx hp hl hv)
  | some a => exact lv_aload fx.2.2.1 fx.2.2.2.1 hd (hv.2.2.2 19 _ rfl) (kk p e S m args below meth cd H locs ls fx hp hl hv)
theorem g_ist19 {x0 x1 x2 x3 x4 x5 x6 x7 x8 x9 x10 x11 x12 x13 x14 x15 x16 x17 x18 : Option Value} {z : Option Value} {l : List (Option Value)} {v : Int32} (hd : decode cc pc = .ok (.istore 19, 2)) (hc : lc1 x18 = true) (hq : pc + 2 = q) (kk : Go E cc F q (x0 :: x1 :: x2 :: x3 :: x4 :: x5 :: x6 :: x7 :: x8 :: x9 :: x10 :: x11 :: x12 :: x13 :: x14 :: x15 :: x16 :: x17 :: x18 :: some (.int v) :: l) r M c s) : Go E cc F pc (x0 :: x1 :: x2 :: x3 :: x4 :: x5 :: x6 :: x7 :: x8 :: x9 :: x10 :: x11 :: x12 :: x13 :: x14 :: x15 :: x16 :: x17 :: x18 :: z :: l) (.int v :: r) M c s := by
  subst hq
  intro p e S m args below meth cd H locs ls fx hp hl hv
  exact lv_istore (i := 19) fx.2.2.1 fx.2.2.2.1 hd (lvh_has hv) (Nat.lt_of_lt_of_le (by simp) hv.2.2.1) rfl (fun ls' h' => kk p e S m args below meth cd H locs ls' fx hp hl (lvh_st1 hv.2.2.1 (by simp) (Or.inr fun x h => by cases h; exact hc) h'))
theorem g_ast19 {x0 x1 x2 x3 x4 x5 x6 x7 x8 x9 x10 x11 x12 x13 x14 x15 x16 x17 x18 : Option Value} {z : Option Value} {l : List (Option Value)} {v : Nat} (hd : decode cc pc = .ok (.astore 19, 2)) (hc : lc1 x18 = true) (hq : pc + 2 = q) (kk : Go E cc F q (x0 :: x1 :: x2 :: x3 :: x4 :: x5 :: x6 :: x7 :: x8 :: x9 :: x10 :: x11 :: x12 :: x13 :: x14 :: x15 :: x16 :: x17 :: x18 :: some (.ref v) :: l) r M c s) : Go E cc F pc (x0 :: x1 :: x2 :: x3 :: x4 :: x5 :: x6 :: x7 :: x8 :: x9 :: x10 :: x11 :: x12 :: x13 :: x14 :: x15 :: x16 :: x17 :: x18 :: z :: l) (.ref v :: r) M c s := by
  subst hq
  intro p e S m args below meth cd H locs ls fx hp hl hv
  exact lv_astore (i := 19) fx.2.2.1 fx.2.2.2.1 hd (lvh_has hv) (Nat.lt_of_lt_of_le (by simp) hv.2.2.1) rfl (fun ls' h' => kk p e S m args below meth cd H locs ls' fx hp hl (lvh_st1 hv.2.2.1 (by simp) (Or.inr fun x h => by cases h; exact hc) h'))
theorem g_qst19 {x0 x1 x2 x3 x4 x5 x6 x7 x8 x9 x10 x11 x12 x13 x14 x15 x16 x17 x18 : Option Value} {z : Option Value} {l : List (Option Value)} {v : Option Nat} (hd : decode cc pc = .ok (.astore 19, 2)) (hc : lc1 x18 = true) (hq : pc + 2 = q) (kk : Go E cc F q (x0 :: x1 :: x2 :: x3 :: x4 :: x5 :: x6 :: x7 :: x8 :: x9 :: x10 :: x11 :: x12 :: x13 :: x14 :: x15 :: x16 :: x17 :: x18 :: some (va_rf v) :: l) r M c s) : Go E cc F pc (x0 :: x1 :: x2 :: x3 :: x4 :: x5 :: x6 :: x7 :: x8 :: x9 :: x10 :: x11 :: x12 :: x13 :: x14 :: x15 :: x16 :: x17 :: x18 :: z :: l) (va_rf v :: r) M c s := by
  subst hq
  intro p e S m args below meth cd H locs ls fx hp hl hv
  cases v with
  | none => exact lv_astoreN (i := 19) fx.2.2.1 fx.2.2.2.1 hd (lvh_has hv) (Nat.lt_of_lt_of_le (by simp) hv.2.2.1) rfl (fun ls' h' => kk p e S m args below meth cd H locs ls' fx hp hl (lvh_st1 hv.2.2.1 (by simp) (Or.inr fun x h => by cases h; exact hc) h'))
  | some a => exact lv_astore (i := 19) fx.2.2.1 fx.2.2.2.1 hd (lvh_has hv) (Nat.lt_of_lt_of_le (by simp) hv.2.2.1) rfl (fun ls' h' => kk p e S m args below meth cd H locs ls' fx hp hl (lvh_st1 hv.2.2.1 (by simp) (Or.inr fun x h => by cases h; exact hc) h'))
theorem g_lst19 {x0 x1 x2 x3 x4 x5 x6 x7 x8 x9 x10 x11 x12 x13 x14 x15 x16 x17 x18 : Option Value} {z z2 : Option Value} {l : List (Option Value)} {v : Int64} (hd : decode cc pc = .ok (.lstore 19, 2)) (hc : lc1 x18 = true) (hq : pc + 2 = q) (kk : Go E cc F q (x0 :: x1 :: x2 :: x3 :: x4 :: x5 :: x6 :: x7 :: x8 :: x9 :: x10 :: x11 :: x12 :: x13 :: x14 :: x15 :: x16 :: x17 :: x18 :: some (.long v) :: none :: l) r M c s) : Go E cc F pc (x0 :: x1 :: x2 :: x3 :: x4 :: x5 :: x6 :: x7 :: x8 :: x9 :: x10 :: x11 :: x12 :: x13 :: x14 :: x15 :: x16 :: x17 :: x18 :: z :: z2 :: l) (.long v :: r) M c s := by
  subst hq
  intro p e S m args below meth cd H locs ls fx hp hl hv
  exact lv_lstore (i := 19) fx.2.2.1 fx.2.2.2.1 hd (lvh_has hv) (Nat.lt_of_lt_of_le (by simp) hv.2.2.1) rfl (fun ls' h' => kk p e S m args below meth cd H locs ls' fx hp hl (lvh_st2 hv.2.2.1 (by simp) (Or.inr fun x h => by cases h; exact hc) h'))
theorem g_inc19 {x0 x1 x2 x3 x4 x5 x6 x7 x8 x9 x10 x11 x12 x13 x14 x15 x16 x17 x18 : Option Value} {l : List (Option Value)} {v w : Int32} {n : Int} (hd : decode cc pc = .ok (.iinc 19 n, 3)) (hc : lc1 x18 = true) (hw : v + Int32.ofInt n = w) (hq : pc + 3 = q) (kk : Go E cc F q (x0 :: x1 :: x2 :: x3 :: x4 :: x5 :: x6 :: x7 :: x8 :: x9 :: x10 :: x11 :: x12 :: x13 :: x14 :: x15 :: x16 :: x17 :: x18 :: some (.int w) :: l) r M c s) : Go E cc F pc (x0 :: x1 :: x2 :: x3 :: x4 :: x5 :: x6 :: x7 :: x8 :: x9 :: x10 :: x11 :: x12 :: x13 :: x14 :: x15 :: x16 :: x17 :: x18 :: some (.int v) :: l) r M c s := by
  subst hq
  intro p e S m args below meth cd H locs ls fx hp hl hv
  obtain ⟨j, hj⟩ := List.getElem?_of_mem ((lvl_mem (x0 :: x1 :: x2 :: x3 :: x4 :: x5 :: x6 :: x7 :: x8 :: x9 :: x10 :: x11 :: x12 :: x13 :: x14 :: x15 :: x16 :: x17 :: x18 :: some (.int v) :: l) 0 (19, .int v)).mpr ⟨19, rfl, rfl⟩)
  exact lv_iinc fx.2.2.1 fx.2.2.2.1 hd (lvh_has hv) hj hw (Nat.lt_of_lt_of_le (by simp) hv.2.2.1) rfl (fun ls' h' => kk p e S m args below meth cd H locs ls' fx hp hl (lvh_st1 hv.2.2.1 (by simp) (Or.inr fun x h => by cases h; exact hc) h'))
theorem g_ild20 {x0 x1 x2 x3 x4 x5 x6 x7 x8 x9 x10 x11 x12 x13 x14 x15 x16 x17 x18 x19 : Option Value} {l : List (Option Value)} {v : Int32} (hd : decode cc pc = .ok (.iload 20, 2)) (hq : pc + 2 = q) (kk : Go E cc F q (x0 :: x1 :: x2 :: x3 :: x4 :: x5 :: x6 :: x7 :: x8 :: x9 :: x10 :: x11 :: x12 :: x13 :: x14 :: x15 :: x16 :: x17 :: x18 :: x19 :: some (.int v) :: l) (.int v :: r) M c s) : Go E cc F pc (x0 :: x1 :: x2 :: x3 :: x4 :: x5 :: x6 :: x7 :: x8 :: x9 :: x10 :: x11 :: x12 :: x13 :: x14 :: x15 :: x16 :: x17 :: x18 :: x19 :: some (.int v) :: l) r M c s := by
  subst hq
  intro p e S m args below meth cd H locs ls fx hp hl hv
  exact lv_iload fx.2.2.1 fx.2.2.2.1 hd (hv.2.2.2 20 _ rfl) (kk p e S m args below meth cd H locs ls fx hp hl hv)
theorem g_lld20 {x0 x1 x2 x3 x4 x5 x6 x7 x8 x9 x10 x11 x12 x13 x14 x15 x16 x17 x18 x19 : Option Value} {l : List (Option Value)} {v : Int64} (hd : decode cc pc = .ok (.lload 20, 2)) (hq : pc + 2 = q) (kk : Go E cc F q (x0 :: x1 :: x2 :: x3 :: x4 :: x5 :: x6 :: x7 :: x8 :: x9 :: x10 :: x11 :: x12 :: x13 :: x14 :: x15 :: x16 :: x17 :: x18 :: x19 :: some (.long v) :: l) (.long v :: r) M c s) : Go E cc F pc (x0 :: x1 :: x2 :: x3 :: x4 :: x5 :: x6 :: x7 :: x8 :: x9 :: x10 :: x11 :: x12 :: x13 :: x14 :: x15 :: x16 :: x17 :: x18 :: x19 :: some (.long v) :: l) r M c s := by
  subst hq
  intro p e S m args below meth cd H locs ls fx hp hl hv
  exact lv_lload fx.2.2.1 fx.2.2.2.1 hd (hv.2.2.2 20 _ rfl) (kk p e S m args below meth cd H locs ls fx hp hl hv)
theorem g_ald20 {x0 x1 x2 x3 x4 x5 x6 x7 x8 x9 x10 x11 x12 x13 x14 x15 x16 x17 x18 x19 : Option Value} {l : List (Option Value)} {v : Nat} (hd : decode cc pc = .ok (.aload 20, 2)) (hq : pc + 2 = q) (kk : Go E cc F q (x0 :: x1 :: x2 :: x3 :: x4 :: x5 :: x6 :: x7 :: x8 :: x9 :: x10 :: x11 :: x12 :: x13 :: x14 :: x15 :: x16 :: x17 :: x18 :: x19 :: some (.ref v) :: l) (.ref v :: r) M c s) : Go E cc F pc (x0 :: x1 :: x2 :: x3 :: x4 :: x5 :: x6 :: x7 :: x8 :: x9 :: x10 :: x11 :: x12 :: x13 :: x14 :: x15 :: x16 :: x17 :: x18 :: x19 :: some (.ref v) :: l) r M c s := by
  subst hq
  intro p e S m args below meth cd H locs ls fx hp hl hv
  exact lv_aload fx.2.2.1 fx.2.2.2.1 hd (hv.2.2.2 20 _ rfl) (kk p e S m args below meth cd H locs ls fx hp hl hv)
theorem g_qld20 {x0 x1 x2 x3 x4 x5 x6 x7 x8 x9 x10 x11 x12 x13 x14 x15 x16 x17 x18 x19 : Option Value} {l : List (Option Value)} {v : Option Nat} (hd : decode cc pc = .ok (.aload 20, 2)) (hq : pc + 2 = q) (kk : Go E cc F q (x0 :: x1 :: x2 :: x3 :: x4 :: x5 :: x6 :: x7 :: x8 :: x9 :: x10 :: x11 :: x12 :: x13 :: x14 :: x15 :: x16 :: x17 :: x18 :: x19 :: some (va_rf v) :: l) (va_rf v :: r) M c s) : Go E cc F pc (x0 :: x1 :: x2 :: x3 :: x4 :: x5 :: x6 :: x7 :: x8 :: x9 :: x10 :: x11 :: x12 :: x13 :: x14 :: x15 :: x16 :: x17 :: x18 :: x19 :: some (va_rf v) :: l) r M c s := by
  subst hq
  intro p e S m args below meth cd H locs ls fx hp hl hv
  cases v with
  | none => exact lv_aloadN fx.2.2.1 fx.2.2.2.1 hd (hv.2.2.2 20 _ rfl) (kk p e S m args below meth cd H locs ls fx hp hl hv)
  | some a => exact lv_aload fx.2.2.1 fx.2.2.2.1 hd (hv.2.2.2 20 _ rfl) (kk p e S m args below meth cd H locs ls fx hp hl hv)
theorem g_ist20 {x0 x1 x2 x3 x4 x5 x6 x7 x8 x9 x10 x11 x12 x13 x14 x15 x16 x17 x18 x19 : Option Value} {z : Option Value} {l : List (Option Value)} {v : Int32} (hd : decode cc pc = .ok (.istore 20, 2)) (hc : lc1 x19 = true) (hq : pc + 2 = q) (kk : Go E cc F q (x0 :: x1 :: x2 :: x3 :: x4 :: x5 :: x6 :: x7 :: x8 :: x9 :: x10 :: x11 :: x12 :: x13 :: x14 :: x15 :: x16 :: x17 :: x18 :: x19 :: some (.int v) :: l) r M c s) : Go E cc F pc (x0 :: x1 :: x2 :: x3 :: x4 :: x5 :: x6 :: x7 :: x8 :: x9 :: x10 :: x11 :: x12 :: x13 :: x14 :: x15 :: x16 :: x17 :: x18 :: x19 :: z :: l) (.int v :: r) M c s := by
  subst hq
  intro p e S m args below meth cd H locs ls fx hp hl hv
  exact lv_istore (i := 20) fx.2.2.1 fx.2.2.2.1 hd (lvh_has hv) (Nat.lt_of_lt_of_le (by simp) hv.2.2.1) rfl (fun ls' h' => kk p e S m args below meth cd H locs ls' fx hp hl (lvh_st1 hv.2.2.1 (by simp) (Or.inr fun x h => by cases h; exact hc) h'))
theorem g_ast20 {x0 x1 x2 x3 x4 x5 x6 x7 x8 x9 x10 x11 x12 x13 x14 x15 x16 x17 x18 x19 : Option Value} {z : Option Value} {l : List (Option Value)} {v : Nat} (hd : decode cc pc = .ok (.astore 20, 2)) (hc : lc1 x19 = true) (hq : pc + 2 = q) (kk : Go E cc F q (x0 :: x1 :: x2 :: x3 :: x4 :: x5 :: x6 :: x7 :: x8 :: x9 :: x10 :: x11 :: x12 :: x13 :: x14 :: x15 :: x16 :: x17 :: x18 :: x19 :: some (.ref v) :: l) r M c s) : Go E cc F pc (x0 :: x1 :: x2 :: x3 :: x4 :: x5 :: x6 :: x7 :: x8 :: x9 :: x10 :: x11 :: x12 :: x13 :: x14 :: x15 :: x16 :: x17 :: x18 :: x19 :: z :: l) (.ref v :: r) M c s := by
  subst hq
  intro p e S m args below meth cd H locs ls fx hp hl hv
  exact lv_astore (i := 20) fx.2.2.1 fx.2.2.2.1 hd (lvh_has hv) (Nat.lt_of_lt_of_le (by simp) hv.2.2.1) rfl (fun ls' h' => kk p e S m args below meth cd H locs ls' fx hp hl (lvh_st1 hv.2.2.1 (by simp) (Or.inr fun x h => by cases h; exact hc) h'))
theorem g_qst20 {x0 x1 x2 x3 x4 x5 x6 x7 x8 x9 x10 x11 x12 x13 x14 x15 x16 x17 x18 x19 : Option Value} {z : Option Value} {l : List (Option Value)} {v : Option Nat} (hd : decode cc pc = .ok (.astore 20, 2)) (hc : lc1 x19 = true) (hq : pc + 2 = q) (kk : Go E cc F q (x0 :: x1 :: x2 :: x3 :: x4 :: x5 :: x6 :: x7 :: x8 :: x9 :: x10 :: x11 :: x12 :: x13 :: x14 :: x15 :: x16 :: x17 :: x18 :: x19 :: some (va_rf v) :: l) r M c s) : Go E cc F pc (x0 :: x1 :: x2 :: x3 :: x4 :: x5 :: x6 :: x7 :: x8 :: x9 :: x10 :: x11 :: x12 :: x13 :: x14 :: x15 :: x16 :: x17 :: x18 :: x19 :: z :: l) (va_rf v :: r) M c s := by
  subst hq
  intro p e S m args below meth cd H locs ls fx hp hl hv
  cases v with
  | none => exact lv_astoreN (i := 20) fx.2.2.1 fx.2.2.2.1 hd (lvh_has hv) (Nat.lt_of_lt_of_le (by simp) hv.2.2.1) rfl (fun ls' h' => kk p e S m args below meth cd H locs ls' fx hp hl (lvh_st1 hv.2.2.1 (by simp) (Or.inr fun x h => by cases h; exact hc) h'))
  | some a => exact lv_astore (i := 20) fx.2.2.1 fx.2.2.2.1 hd (lvh_has hv) (Nat.lt_of_lt_of_le (by simp) hv.2.2.1) rfl (fun ls' h' => kk p e S m args below meth cd H locs ls' fx hp hl (lvh_st1 hv.2.2.1 (by simp) (Or.inr fun x h => by cases h; exact hc) h'))
theorem g_lst20 {x0 x1 x2 x3 x4 x5 x6 x7 x8 x9 x10 x11 x12 x13 x14 x15 x16 x17 x18 x19 : Option Value} {z z2 : Option Value} {l : List (Option Value)} {v : Int64} (hd : decode cc pc = .ok (.lstore 20, 2)) (hc : lc1 x19 = true) (hq : pc + 2 = q) (kk : Go E cc F q (x0 :: x1 :: x2 :: x3 :: x4 :: x5 :: x6 :: x7 :: x8 :: x9 :: x10 :: x11 :: x12 :: x13 :: x14 :: x15 :: x16 :: x17 :: x18 :: x19 :: some (.long v) :: none :: l) r M c s) : Go E cc F pc (x0 :: x1 :: x2 :: x3 :: x4 :: x5 :: x6 :: x7 :: x8 :: x9 :: x10 :: x11 :: x12 :: x13 :: x14 :: x15 :: x16 :: x17 :: x18 :: x19 :: z :: z2 :: l) (.long v :: r) M c s := by
  subst hq
  intro p e S m args below meth cd H locs ls fx hp hl hv
  exact lv_lstore (i := 20) fx.2.2.1 fx.2.2.2.1 hd (lvh_has hv) (Nat.lt_of_lt_of_le (by simp) hv.2.2.1) rfl (fun ls' h' => kk p e S m args below meth cd H locs ls' fx hp hl (lvh_st2 hv.2.2.1 (by simp) (Or.inr fun x h => by cases h; exact hc) h'))
theorem g_inc20 {x0 x1 x2 x3 x4 x5 x6 x7 x8 x9 x10 x11 x12 x13 x14 x15 x16 x17 x18 x19 : Option Value} {l : List (Option Value)} {v w : Int32} {n : Int} (hd : decode cc pc = .ok (.iinc 20 n, 3)) (hc : lc1 x19 = true) (hw : v + Int32.ofInt n = w) (hq : pc + 3 = q) (kk : Go E cc F q (x0 :: x1 :: x2 :: x3 :: x4 :: x5 :: x6 :: x7 :: x8 :: x9 :: x10 :: x11 :: x12 :: x13 :: x14 :: x15 :: x16 :: x17 :: x18 :: x19 :: some (.int w) :: l) r M c s) : Go E cc F pc (x0 :: x1 :: x2 :: x3 :: x4 :: x5 :: x6 :: x7 :: x8 :: x9 :: x10 :: x11 :: x12 :: x13 :: x14 :: x15 :: x16 :: x17 :: x18 :: x19 :: some (.int v) :: l) r M c s := by
  subst hq
  intro p e S m args below meth cd H locs ls fx hp hl hv
  obtain ⟨j, hj⟩ := List.getElem?_of_mem ((lvl_mem (x0 :: x1 :: x2 :: x3 :: x4 :: x5 :: x6 :: x7 :: x8 :: x9 :: x10 :: x11 :: x12 :: x13 :: x14 :: x15 :: x16 :: x17 :: x18 :: x19 :: some (.int v) :: l) 0 (20, .int v)).mpr ⟨20, rfl, rfl⟩)
  exact lv_iinc fx.2.2.1 fx.2.2.2.1 hd (lvh_has hv) hj hw (Nat.lt_of_lt_of_le (by simp) hv.2.2.1) rfl (fun ls' h' => kk p e S m args below meth cd H locs ls' fx hp hl (lvh_st1 hv.2.2.1 (by simp) (Or.inr fun x h => by cases h; exact hc) h'))
theorem g_ild21 {x0 x1 x2 x3 x4 x5 x6 x7 x8 x9 x10 x11 x12 x13 x14 x15 x16 x17 x18 x19 x20 : Option Value} {l : List (Option Value)} {v : Int32} (hd : decode cc pc = .ok (.iload 21, 2)) (hq : pc + 2 = q) (kk : Go E cc F q (x0 :: x1 :: x2 :: x3 :: x4 :: x5 :: x6 :: x7 :: x8 :: x9 :: x10 :: x11 :: x12 :: x13 :: x14 :: x15 :: x16 :: x17 :: x18 :: x19 :: x20 :: some (.int v) :: l) (.int v :: r) M c s) : Go E cc F pc (x0 :: x1 :: x2 :: x3 :: x4 :: x5 :: x6 :: x7 :: x8 :: x9 :: x10 :: x11 :: x12 :: x13 :: x14 :: x15 :: x16 :: x17 :: x18 :: x19 :: x20 :: some (.int v) :: l) r M c s := by
  subst hq
  intro p e S m args below meth cd H locs ls fx hp hl hv
  exact lv_iload fx.2.2.1 fx.2.2.2.1 hd (hv.2.2.2 21 _ rfl) (kk p e S m args below meth cd H locs ls fx hp hl hv)
theorem g_lld21 {x0 x1 x2 x3 x4 x5 x6 x7 x8 x9 x10 x11 x12 x13 x14 x15 x16 x17 x18 x19 x20 : Option Value} {l : List (Option Value)} {v : Int64} (hd : decode cc pc = .ok (.lload 21, 2)) (hq : pc + 2 = q) (kk : Go E cc F q (x0 :: x1 :: x2 :: x3 :: x4 :: x5 :: x6 :: x7 :: x8 :: x9 :: x10 :: x11 :: x12 :: x13 :: x14 :: x15 :: x16 :: x17 :: x18 :: x19 :: x20 :: some (.long v) :: l) (.long v :: r) M c s) : Go E cc F pc (x0 :: x1 :: x2 :: x3 :: x4 :: x5 :: x6 :: x7 :: x8 :: x9 :: x10 :: x11 :: x12 :: x13 :: x14 :: x15 :: x16 :: x17 :: x18 :: x19 :: x20 :: some (.long v) :: l) r M c s := by
  subst hq
  intro p e S m args below meth cd H locs ls fx hp hl hv
  exact lv_lload fx.2.2.1 fx.2.2.2.1 hd (hv.2.2.2 21 _ rfl) (kk p e S m args below meth cd H locs ls fx hp hl hv)
theorem g_ald21 {x0 x1 x2 x3 x4 x5 x6 x7 x8 x9 x10 x11 x12 x13 x14 x15 x16 x17 x18 x19 x20 : Option Value} {l : List (Option Value)} {v : Nat} (hd : decode cc pc = .ok (.aload 21, 2)) (hq : pc + 2 = q) (kk : Go E cc F q (x0 :: x1 :: x2 :: x3 :: x4 :: x5 :: x6 :: x7 :: x8 :: x9 :: x10 :: x11 :: x12 :: x13 :: x14 :: x15 :: x16 :: x17 :: x18 :: x19 :: x20 :: some (.ref v) :: l) (.ref v :: r) M c s) : Go E cc F pc (x0 :: x1 :: x2 :: x3 :: x4 :: x5 :: x6 :: x7 :: x8 :: x9 :: x10 :: x11 :: x12 :: x13 :: x14 :: x15 :: x16 :: x17 :: x18 :: x19 :: x20 :: some (.ref v) :: l) r M c s := by
  subst hq
  intro p e S m args below meth cd H locs ls fx hp hl hv
  exact lv_aload fx.2.2.1 fx.2.2.2.1 hd (hv.2.2.2 21 _ rfl) (kk p e S m args below meth cd H locs ls fx hp hl hv)
theorem g_qld21 {x0 x1 x2 x3 x4 x5 x6 x7 x8 x9 x10 x11 x12 x13 x14 x15 x16 x17 x18 x19 x20 : Option Value} {l : List (Option Value)} {v : Option Nat} (hd : decode cc pc = .ok (.aload 21, 2)) (hq : pc + 2 = q) (kk : Go E cc F q (x0 :: x1 :: x2 :: x3 :: x4 :: x5 :: x6 :: x7 :: x8 :: x9 :: x10 :: x11 :: x12 :: x13 :: x14 :: x15 :: x16 :: x17 :: x18 :: x19 :: x20 :: some (va_rf v) :: l) (va_rf v :: r) M c s) : Go E cc F pc (x0 :: x1 :: x2 :: x3 :: x4 :: x5 :: x6 :: x7 :: x8 :: x9 :: x10 :: x11 :: x12 :: x13 :: x14 :: x15 :: x16 :: x17 :: x18 :: x19 :: x20 :: some (va_rf v) :: l) r M c s := by
  subst hq
  intro p e S m args below meth cd H locs ls fx hp hl hv
  cases v with
  | none => exact lv_aloadN fx.2.2.1 fx.2.2.2.1 hd (hv.2.2.2 21 _ rfl) (kk p e S m args below meth cd H locs ls fx hp hl hv)
  | some a => exact lv_aload fx.2.2.1 fx.2.2.2.1 hd (hv.2.2.2 21 _ rfl) (kk p e S m args below meth cd H locs ls fx hp hl hv)
theorem g_ist21 {x0 x1 x2 x3 x4 x5 x6 x7 x8 x9 x10 x11 x12 x13 x14 x15 x16 x17 x18 x19 x20 : Option Value} {z : Option Value} {l : List (Option Value)} {v : Int32} (hd : decode cc pc = .ok (.istore 21, 2)) (hc : lc1 x20 = true) (hq : pc + 2 = q) (kk : Go E cc F q (x0 :: x1 :: x2 :: x3 :: x4 :: x5 :: x6 :: x7 :: x8 :: x9 :: x10 :: x11 :: x12 :: x13 :: x14 :: x15 :: x16 :: x17 :: x18 :: x19 :: x20 :: some (.int v) :: l) r M c s) : Go E cc F pc (x0 :: x1 :: x2 :: x3 :: x4 :: x5 :: x6 :: x7 :: x8 :: x9 :: x10 :: x11 :: x12 :: x13 :: x14 :: x15 :: x16 :: x17 :: x18 :: x19 :: x20 :: z :: l) (.int v :: r) M c s := by
  subst hq
  intro p e S m args below meth cd H locs ls fx hp hl hv
  exact lv_istore (i := 21) fx.2.2.1 fx.2.2.2.1 hd (lvh_has hv) (Nat.lt_of_lt_of_le (by simp) hv.2.2.1) rfl (fun ls' h' => kk p e S m args below meth cd H locs ls' fx hp hl (lvh_st1 hv.2.2.1 (by simp) (Or.inr fun x h => by cases h; exact hc) h'))
theorem g_ast21 {x0 x1 x2 x3 x4 x5 x6 x7 x8 x9 x10 x11 x12 x13 x14 x15 x16 x17 x18 x19 x20 : Option Value} {z : Option Value} {l : List (Option Value)} {v : Nat} (hd : decode cc pc = .ok (.astore 21, 2)) (hc : lc1 x20 = true) (hq : pc + 2 = q) (kk : Go E cc F q (x0 :: x1 :: x2 :: x3 :: x4 :: x5 :: x6 :: x7 :: x8 :: x9 :: x10 :: x11 :: x12 :: x13 :: x14 :: x15 :: x16 :: x17 :: x18 :: x19 :: x20 :: some (.ref v) :: l) r M c s) : Go E cc F pc (x0 :: x1 :: x2 :: x3 :: x4 :: x5 :: x6 :: x7 :: x8 :: x9 :: x10 :: x11 :: x12 :: x13 :: x14 :: x15 :: x16 :: x17 :: x18 :: x19 :: x20 :: z :: l) (.ref v :: r) M c s := by
  subst hq
  intro p e S m args below meth cd H locs ls fx hp hl hv
  exact lv_astore (i := 21) fx.2.2.1 fx.2.2.2.1 hd (lvh_has hv) (Nat.lt_of_lt_of_le (by simp) hv.2.2.1) rfl (fun ls' h' => kk p e S m args below meth cd H locs ls' fx hp hl (lvh_st1 hv.2.2.1 (by simp) (Or.inr fun x h => by cases h; exact hc) h'))
theorem g_qst21 {x0 x1 x2 x3 x4 x5 x6 x7 x8 x9 x10 x11 x12 x13 x14 x15 x16 x17 x18 x19 x20 : Option Value} {z : Option Value} {l : List (Option Value)} {v : Option Nat} (hd : decode cc pc = .ok (.astore 21, 2)) (hc : lc1 x20 = true) (hq : pc + 2 = q) (kk : Go E cc F q (x0 :: x1 :: x2 :: x3 :: x4 :: x5 :: x6 :: x7 :: x8 :: x9 :: x10 :: x11 :: x12 :: x13 :: x14 :: x15 :: x16 :: x17 :: x18 :: x19 :: x20 :: some (va_rf v) :: l) r M c s) : Go E cc F pc (x0 :: x1 :: x2 :: x3 :: x4 :: x5 :: x6 :: x7 :: x8 :: x9 :: x10 :: x11 :: x12 :: x13 :: x14 :: x15 :: x16 :: x17 :: x18 :: x19 :: x20 :: z :: l) (va_rf v :: r) M c s := by
  subst hq
  intro p e S m args below meth cd H locs ls fx hp hl hv
  cases v with
  | none => exact lv_astoreN (i := 21) fx.2.2.1 fx.2.2.2.1 hd (lvh_has hv) (Nat.lt_of_lt_of_le (by simp) hv.2.2.1) rfl (fun ls' h' => kk p e S m args below meth cd H locs ls' fx hp hl (lvh_st1 hv.2.2.1 (by simp) (Or.inr fun x h => by cases h; exact hc) h'))
  | some a => exact lv_astore (i := 21) fx.2.2.1 fx.2.2.2.1 hd (lvh_has hv) (Nat.lt_of_lt_of_le (by simp) hv.2.2.1) rfl (fun ls' h' => kk p e S m args below meth cd H locs ls' fx hp hl (lvh_st1 hv.2.2.1 (by simp) (Or.inr fun x h => by cases h; exact hc) h'))
theorem g_lst21 {x0 x1 x2 x3 x4 x5 x6 x7 x8 x9 x10 x11 x12 x13 x14 x15 x16 x17 x18 x19 x20 : Option Value} {z z2 : Option Value} {l : List (Option Value)} {v : Int64} (hd : decode cc pc = .ok (.lstore 21, 2)) (hc : lc1 x20 = true) (hq : pc + 2 = q) (kk : Go E cc F q (x0 :: x1 :: x2 :: x3 :: x4 :: x5 :: x6 :: x7 :: x8 :: x9 :: x10 :: x11 :: x12 :: x13 :: x14 :: x15 :: x16 :: x17 :: x18 :: x19 :: x20 :: some (.long v) :: none :: l) r M c s) : Go E cc F pc (x0 :: x1 :: x2 :: x3 :: x4 :: x5 :: x6 :: x7 :: x8 :: x9 :: x10 :: x11 :: x12 :: x13 :: x14 :: x15 :: x16 :: x17 :: x18 :: x19 :: x20 :: z :: z2 :: l) (.long v :: r) M c s := by
  subst hq
  intro p e S m args below meth cd H locs ls fx hp hl hv
  exact lv_lstore (i := 21) fx.2.2.1 fx.2.2.2.1 hd (lvh_has hv) (Nat.lt_of_lt_of_le (by simp) hv.2.2.1) rfl (fun ls' h' => kk p e S m args below meth cd H locs ls' fx hp hl (lvh_st2 hv.2.2.1 (by simp) (Or.inr fun x h => by cases h; exact hc) h'))
theorem g_inc21 {x0 x1 x2 x3 x4 x5 x6 x7 x8 x9 x10 x11 x12 x13 x14 x15 x16 x17 x18 x19 x20 : Option Value} {l : List (Option Value)} {v w : Int32} {n : Int} (hd : decode cc pc = .ok (.iinc 21 n, 3)) (hc : lc1 x20 = true) (hw : v + Int32.ofInt n = w) (hq : pc + 3 = q) (kk : Go E cc F q (x0 :: x1 :: x2 :: x3 :: x4 :: x5 :: x6 :: x7 :: x8 :: x9 :: x10 :: x11 :: x12 :: x13 :: x14 :: x15 :: x16 :: x17 :: x18 :: x19 :: x20 :: some (.int w) :: l) r M c s) : Go E cc F pc (x0 :: x1 :: x2 :: x3 :: x4 :: x5 :: x6 :: x7 :: x8 :: x9 :: x10 :: x11 :: x12 :: x13 :: x14 :: x15 :: x16 :: x17 :: x18 :: x19 :: x20 :: some (.int v) :: l) r M c s := by
  subst hq
  intro p e S m args below meth cd H locs ls fx hp hl hv
  obtain ⟨j, hj⟩ := List.getElem?_of_mem ((lvl_mem (x0 :: x1 :: x2 :: x3 :: x4 :: x5 :: x6 :: x7 :: x8 :: x9 :: x10 :: x11 :: x12 :: x13 :: x14 :: x15 :: x16 :: x17 :: x18 :: x19 :: x20 :: some (.int v) :: l) 0 (21, .int v)).mpr ⟨21, rfl, rfl⟩)
  exact lv_iinc fx.2.2.1 fx.2.2.2.1 hd (lvh_has hv) hj hw (Nat.lt_of_lt_of_le (by simp) hv.2.2.1) rfl (fun ls' h' => kk p e S m args below meth cd H locs ls' fx hp hl (lvh_st1 hv.2.2.1 (by simp) (Or.inr fun x h => by cases h; exact hc) h'))
theorem g_ild22 {x0 x1 x2 x3 x4 x5 x6 x7 x8 x9 x10 x11 x12 x13 x14 x15 x16 x17 x18 x19 x20 x21 : Option Value} {l : List (Option Value)} {v : Int32} (hd : decode cc pc = .ok (.iload 22, 2)) (hq : pc + 2 = q) (kk : Go E cc F q (x0 :: x1 :: x2 :: x3 :: x4 :: x5 :: x6 :: x7 :: x8 :: x9 :: x10 :: x11 :: x12 :: x13 :: x14 :: x15 :: x16 :: x17 :: x18 :: x19 :: x20 :: x21 :: some (.int v) :: l) (.int v :: r) M c s) : Go E cc F pc (x0 :: x1 :: x2 :: x3 :: x4 :: x5 :: x6 :: x7 :: x8 :: x9 :: x10 :: x11 :: x12 :: x13 :: x14 :: x15 :: x16 :: x17 :: x18 :: x19 :: x20 :: x21 :: some (.int v) :: l) r M c s := by
  subst hq
  intro p e S m args below meth cd H locs ls fx hp hl hv
  exact lv_iload fx.2.2.1 fx.2.2.2.1 hd (hv.2.2.2 22 _ rfl) (kk p e S m args below meth cd H locs ls fx hp hl hv)
theorem g_lld22 {x0 x1 x2 x3 x4 x5 x6 x7 x8 x9 x10 x11 x12 x13 x14 x15 x16 x17 x18 x19 x20 x21 : Option Value} {l : List (Option Value)} {v : Int64} (hd : decode cc pc = .ok (.lload 22, 2)) (hq : pc + 2 = q) (kk : Go E cc F q (x0 :: x1 :: x2 :: x3 :: x4 :: x5 :: x6 :: x7 :: x8 :: x9 :: x10 :: x11 :: x12 :: x13 :: x14 :: x15 :: x16 :: x17 :: x18 :: x19 :: x20 :: x21 :: some (.long v) :: l) (.long v :: r) M c s) : Go E cc F pc (x0 :: x1 :: x2 :: x3 :: x4 :: x5 :: x6 :: x7 :: x8 :: x9 :: x10 :: x11 :: x12 :: x13 :: x14 :: x15 :: x16 :: x17 :: x18 :: x19 :: x20 :: x21 :: some (.long v) :: l) r M c s := by
  subst hq
  intro p e S m args below meth cd H locs ls fx hp hl hv
  exact lv_lload fx.2.2.1 fx.2.2.2.1 hd (hv.2.2.2 22 _ rfl) (kk p e S m args below meth cd H locs ls fx hp hl hv)
theorem g_ald22 {x0 x1 x2 x3 x4 x5 x6 x7 x8 x9 x10 x11 x12 x13 x14 x15 x16 x17 x18 x19 x20 x21 : Option Value} {l : List (Option Value)} {v : Nat} (hd : decode cc pc = .ok (.aload 22, 2)) (hq : pc + 2 = q) (kk : Go E cc F q (x0 :: x1 :: x2 :: x3 :: x4 :: x5 :: x6 :: x7 :: x8 :: x9 :: x10 :: x11 :: x12 :: x13 :: x14 :: x15 :: x16 :: x17 :: x18 :: x19 :: x20 :: x21 :: some (.ref v) :: l) (.ref v :: r) M c s) : Go E cc F pc (x0 :: x1 :: x2 :: x3 :: x4 :: x5 :: x6 :: x7 :: x8 :: x9 :: x10 :: x11 :: x12 :: x13 :: x14 :: x15 :: x16 :: x17 :: x18 :: x19 :: x20 :: x21 :: some (.ref v) :: l) r M c s := by
  subst hq
  intro p e S m args below meth cd H locs ls fx hp hl hv
  exact lv_aload fx.2.2.1 fx.2.2.2.1 hd (hv.2.2.2 22 _ rfl) (kk p e S m args below meth cd H locs ls fx hp hl hv)
theorem g_qld22 {x0 x1 x2 x3 x4 x5 x6 x7 x8 x9 x10 x11 x12 x13 x14 x15 x16 x17 x18 x19 x20 x21 : Option Value} {l : List (Option Value)} {v : Option Nat} (hd : decode cc pc = .ok (.aload 22, 2)) (hq : pc + 2 = q) (kk : Go E cc F q (x0 :: x1 :: x2 :: x3 :: x4 :: x5 :: x6 :: x7 :: x8 :: x9 :: x10 :: x11 :: x12 :: x13 :: x14 :: x15 :: x16 :: x17 :: x18 :: x19 :: x20 :: x21 :: some (va_rf v) :: l) (va_rf v :: r) M c s) : Go E cc F pc (x0 :: x1 :: x2 :: x3 :: x4 :: x5 :: x6 :: x7 :: x8 :: x9 :: x10 :: x11 :: x12 :: x13 :: x14 :: x15 :: x16 :: x17 :: x18 :: x19 :: x20 :: x21 :: some (va_rf v) :: l) r M c s := by
  subst hq
  intro p e S m args below meth cd H locs ls fx hp hl hv
  cases v with
  | none => exact lv_aloadN fx.2.2.1 fx.2.2.2.1 hd (hv.2.2.2 22 _ rfl) (kk p e S m args below meth cd H locs ls fx hp hl hv)
  | some a => exact lv_aload fx.2.2.1 fx.2.2.2.1 hd (hv.2.2.2 22 _ rfl) (kk p e S m args below meth cd H locs ls fx hp hl hv)
theorem g_ist22 {x0 x1 x2 x3 x4 x5 x6 x7 x8 x9 x10 x11 x12 x13 x14 x15 x16 x17 x18 x19 x20 x21 : Option Value} {z : Option Value} {l : List (Option Value)} {v : Int32} (hd : decode cc pc = .ok (.istore 22, 2)) (hc : lc1 x21 = true) (hq : pc + 2 = q) (kk : Go E cc F q (x0 :: x1 :: x2 :: x3 :: x4 :: x5 :: x6 :: x7 :: x8 :: x9 :: x10 :: x11 :: x12 :: x13 :: x14 :: x15 :: x16 :: x17 :: x18 :: x19 :: x20 :: x21 :: some (.int v) :: l) r M c s) : Go E cc F pc (x0 :: x1 :: x2 :: x3 :: x4 :: x5 :: x6 :: x7 :: x8 :: x9 :: x10 :: x11 :: x12 :: x13 :: x14 :: x15 :: x16 :: x17 :: x18 :: x19 :: x20 :: x21 :: z :: l) (.int v :: r) M c s := by
  subst hq
  intro p e S m args below meth cd H locs ls fx hp hl hv
  exact lv_istore (i := 22) fx.2.2.1 fx.2.2.2.1 hd (lvh_has hv) (Nat.lt_of_lt_of_le (by simp) hv.2.2.1) rfl (fun ls' h' => kk p e S m args below meth cd H locs ls' fx hp hl (lvh_st1 hv.2.2.1 (by simp) (Or.inr fun x h => by cases h; exact hc) h'))
theorem g_ast22 {x0 x1 x2 x3 x4 x5 x6 x7 x8 x9 x10 x11 x12 x13 x14 x15 x16 x17 x18 x19 x20 x21 : Option Value} {z : Option Value} {l : List (Option Value)} {v : Nat} (hd : decode cc pc = .ok (.astore 22, 2)) (hc : lc1 x21 = true) (hq : pc + 2 = q) (kk : Go E cc F q (x0 :: x1 :: x2 :: x3 :: x4 :: x5 :: x6 :: x7 :: x8 :: x9 :: x10 :: x11 :: x12 :: x13 :: x14 :: x15 :: x16 :: x17 :: x18 :: x19 :: x20 :: x21 :: some (.ref v) :: l) r M c s) : Go E cc F pc (x0 :: x1 :: x2 :: x3 :: x4 :: x5 :: x6 :: x7 :: x8 :: x9 :: x10 :: x11 :: x12 :: x13 :: x14 :: x15 :: x16 :: x17 :: x18 :: x19 :: x20 :: x21 :: z :: l) (.ref v :: r) M c s := by
  subst hq
  intro p e S m args below meth cd H locs ls fx hp hl hv
  exact lv_astore (i := 22) fx.2.2.1 fx.2.2.2.1 hd (lvh_has hv) (Nat.lt_of_lt_of_le (by simp) hv.2.2.1) rfl (fun ls' h' => kk p e S m args below meth cd H locs ls' fx hp hl (lvh_st1 hv.2.2.1 (by simp) (Or.inr fun x h => by cases h; exact hc) h'))
theorem g_qst22 {x0 x1 x2 x3 x4 x5 x6 x7 x8 x9 x10 x11 x12 x13 x14 x15 x16 x17 x18 x19 x20 x21 : Option Value} {z : Option Value} {l : List (Option Value)} {v : Option Nat} (hd : decode cc pc = .ok (.astore 22, 2)) (hc : lc1 x21 = true) (hq : pc + 2 = q) (kk : Go E cc F q (x0 :: x1 :: x2 :: x3 :: x4 :: x5 :: x6 :: x7 :: x8 :: x9 :: x10 :: x11 :: x12 :: x13 :: x14 :: x15 :: x16 :: x17 :: x18 :: x19 :: x20 :: x21 :: some (va_rf v) :: l) r M c s) : Go E cc F pc (x0 :: x1 :: x2 :: x3 :: x4 :: x5 :: x6 :: x7 :: x8 :: x9 :: x10 :: x11 :: x12 :: x13 :: x14 :: x15 :: x16 :: x17 :: x18 :: x19 :: x20 :: x21 :: z :: l) (va_rf v :: r) M c s := by
  subst hq
  intro p e S m args below meth cd H locs ls fx hp hl hv
  cases v with
  | none => exact lv_astoreN (i := 22) fx.2.2.1 fx.2.2.2.1 hd (lvh_has hv) (Nat.lt_of_lt_of_le (by simp) hv.2.2.1) rfl (fun ls' h' => kk p e S m args below meth cd H locs ls' fx hp hl (lvh_st1 hv.2.2.1 (by simp) (Or.inr fun x h => by cases h; exact hc) h'))
  | some a => exact lv_astore (i := 22) fx.2.2.1 fx.2.2.2.1 hd (lvh_has hv) (Nat.lt_of_lt_of_le (by simp) hv.2.2.1) rfl (fun ls' h' => kk p e S m args below meth cd H locs ls' fx hp hl (lvh_st1 hv.2.2.1 (by simp) (Or.inr fun x h => by cases h; exact hc) h'))
theorem g_lst22 {x0 x1 x2 x3 x4 x5 x6 x7 x8 x9 x10 x11 x12 x13 x14 x15 x16 x17 x18 x19 x20 x21 : Option Value} {z z2 : Option Value} {l : List (Option Value)} {v : Int64} (hd : decode cc pc = .ok (.lstore 22, 2)) (hc : lc1 x21 = true) (hq : pc + 2 = q) (kk : Go E cc F q (x0 :: x1 :: x2 :: x3 :: x4 :: x5 :: x6 :: x7 :: x8 :: x9 :: x10 :: x11 :: x12 :: x13 :: x14 :: x15 :: x16 :: x17 :: x18 :: x19 :: x20 :: x21 :: some (.long v) :: none :: l) r M c s) : Go E cc F pc (x0 :: x1 :: x2 :: x3 :: x4 :: x5 :: x6 :: x7 :: x8 :: x9 :: x10 :: x11 :: x12 :: x13 :: x14 :: x15 :: x16 :: x17 :: x18 :: x19 :: x20 :: x21 :: z :: z2 :: l) (.long v :: r) M c s := by
  subst hq
  intro p e S m args below meth cd H locs ls fx hp hl hv
  exact lv_lstore (i := 22) fx.2.2.1 fx.2.2.2.1 hd (lvh_has hv) (Nat.lt_of_lt_of_le (by simp) hv.2.2.1) rfl (fun ls' h' => kk p e S m args below meth cd H locs ls' fx hp hl (lvh_st2 hv.2.2.1 (by simp) (Or.inr fun x h => by cases h; exact hc) h'))
theorem g_inc22 {x0 x1 x2 x3 x4 x5 x6 x7 x8 x9 x10 x11 x12 x13 x14 x15 x16 x17 x18 x19 x20 x21 : Option Value} {l : List (Option Value)} {v w : Int32} {n : Int} (hd : decode cc pc = .ok (.iinc 22 n, 3)) (hc : lc1 x21 = true) (hw : v + Int32.ofInt n = w) (hq : pc + 3 = q) (kk : Go E cc F q (x0 :: x1 :: x2 :: x3 :: x4 :: x5 :: x6 :: x7 :: x8 :: x9 :: x10 :: x11 :: x12 :: x13 :: x14 :: x15 :: x16 :: x17 :: x18 :: x19 :: x20 :: x21 :: some (.int w) :: l) r M c s) : Go E cc F pc (x0 :: x1 :: x2 :: x3 :: x4 :: x5 :: x6 :: x7 :: x8 :: x9 :: x10 :: x11 :: x12 :: x13 :: x14 :: x15 :: x16 :: x17 :: x18 :: x19 :: x20 :: x21 :: some (.int v) :: l) r M c s := by
  subst hq
  intro p e S m args below meth cd H locs ls fx hp hl hv
  obtain ⟨j, hj⟩ := List.getElem?_of_mem ((lvl_mem (x0 :: x1 :: x2 :: x3 :: x4 :: x5 :: x6 :: x7 :: x8 :: x9 :: x10 :: x11 :: x12 :: x13 :: x14 :: x15 :: x16 :: x17 :: x18 :: x19 :: x20 :: x21 :: some (.int v) :: l) 0 (22, .int v)).mpr ⟨22, rfl, rfl⟩)
  exact lv_iinc fx.2.2.1 fx.2.2.2.1 hd (lvh_has hv) hj hw (Nat.lt_of_lt_of_le (by simp) hv.2.2.1) rfl (fun ls' h' => kk p e S m args below meth cd H locs ls' fx hp hl (lvh_st1 hv.2.2.1 (by simp) (Or.inr fun x h => by cases h; exact hc) h'))
theorem g_ild23 {x0 x1 x2 x3 x4 x5 x6 x7 x8 x9 x10 x11 x12 x13 x14 x15 x16 x17 x18 x19 x20 x21 x22 : Option Value} {l : List (Option Value)} {v : Int32} (hd : decode cc pc = .ok (.iload 23, 2)) (hq : pc + 2 = q) (kk : Go E cc F q (x0 :: x1 :: x2 :: x3 :: x4 :: x5 :: x6 :: x7 :: x8 :: x9 :: x10 :: x11 :: x12 :: x13 :: x14 :: x15 :: x16 :: x17 :: x18 :: x19 :: x20 :: x21 :: x22 :: some (.int v) :: l) (.int v :: r) M c s) : Go E cc F pc (x0 :: x1 :: x2 :: x3 :: x4 :: x5 :: x6 :: x7 :: x8 :: x9 :: x10 :: x11 :: x12 :: x13 :: x14 :: x15 :: x16 :: x17 :: x18 :: x19 :: x20 :: x21 :: x22 :: some (.int v) :: l) r M c s := by
  subst hq
  intro p e S m args below meth cd H locs ls fx hp hl hv
  exact lv_iload fx.2.2.1 fx.2.2.2.1 hd (hv.2.2.2 23 _ rfl) (kk p e S m args below meth cd H locs ls fx hp hl hv)
theorem g_lld23 {x0 x1 x2 x3 x4 x5 x6 x7 x8 x9 x10 x11 x12 x13 x14 x15 x16 x17 x18 x19 x20 x21 x22 : Option Value} {l : List (Option Value)} {v : Int64} (hd : decode cc pc = .ok (.lload 23, 2)) (hq : pc + 2 = q) (kk : Go E cc F q (x0 :: x1 :: x2 :: x3 :: x4 :: x5 :: x6 :: x7 :: x8 :: x9 :: x10 :: x11 :: x12 :: x13 :: x14 :: x15 :: x16 :: x17 :: x18 :: x19 :: x20 :: x21 :: x22 :: some (.long v) :: l) (.long v :: r) M c s) : Go E cc F pc (x0 :: x1 :: x2 :: x3 :: x4 :: x5 :: x6 :: x7 :: x8 :: x9 :: x10 :: x11 :: x12 :: x13 :: x14 :: x15 :: x16 :: x17 :: x18 :: x19 :: x20 :: x21 :: x22 :: some (.long v) :: l) r M c s := by
  subst hq
  intro p e S m args below meth cd H locs ls fx hp hl hv
  exact lv_lload fx.2.2.1 fx.2.2.2.1 hd (hv.2.2.2 23 _ rfl) (kk p e S m args below meth cd H locs ls fx hp hl hv)
theorem g_ald23 {x0 x1 x2 x3 x4 x5 x6 x7 x8 x9 x10 x11 x12 x13 x14 x15 x16 x17 x18 x19 x20 x21 x22 : Option Value} {l : List (Option Value)} {v : Nat} (hd : decode cc pc = .ok (.aload 23, 2)) (hq : pc + 2 = q) (kk : Go E cc F q (x0 :: x1 :: x2 :: x3 :: x4 :: x5 :: x6 :: x7 :: x8 :: x9 :: x10 :: x11 :: x12 :: x13 :: x14 :: x15 :: x16 :: x17 :: x18 :: x19 :: x20 :: x21 :: x22 :: some (.ref v) :: l) (.ref v :: r) M c s) : Go E cc F pc (x0 :: x1 :: x2 :: x3 :: x4 :: x5 :: x6 :: x7 :: x8 :: x9 :: x10 :: x11 :: x12 :: x13 :: x14 :: x15 :: x16 :: x17 :: x18 :: x19 :: x20 :: x21 :: x22 :: some (.ref v) :: l) r M c s := by
  subst hq
  intro p e S m args below meth cd H locs ls fx hp hl hv
  exact lv_aload fx.2.2.1 fx.2.2.2.1 hd (hv.2.2.2 23 _ rfl) (kk p e S m args below meth cd H locs ls fx hp hl hv)
theorem g_qld23 {x0 x1 x2 x3 x4 x5 x6 x7 x8 x9 x10 x11 x12 x13 x14 x15 x16 x17 x18 x19 x20 x21 x22 : Option Value} {l : List (Option Value)} {v : Option Nat} (hd : decode cc pc = .ok (.aload 23, 2)) (hq : pc + 2 = q) (kk : Go E cc F q (x0 :: x1 :: x2 :: x3 :: x4 :: x5 :: x6 :: x7 :: x8 :: x9 :: x10 :: x11 :: x12 :: x13 :: x14 :: x15 :: x16 :: x17 :: x18 :: x19 :: x20 :: x21 :: x22 :: some (va_rf v) :: l) (va_rf v :: r) M c s) : Go E cc F pc (x0 :: x1 :: x2 :: x3 :: x4 :: x5 :: x6 :: x7 :: x8 :: x9 :: x10 :: x11 :: x12 :: x13 :: x14 :: x15 :: x16 :: x17 :: x18 :: x19 :: x20 :: x21 :: x22 :: some (va_rf v) :: l) r M c s := by
  subst hq
  intro p e S m args below meth cd H locs ls fx hp hl hv
  cases v with
  | none => exact lv_aloadN fx.2.2.1 fx.2.2.2.1 hd (hv.2.2.2 23 _ rfl) (kk p e S m args below meth cd H locs ls fx hp hl hv)
  | some a => exact lv_aload fx.2.2.1 fx.2.2.2.1 hd (hv.2.2.2 23 _ rfl) (kk p e S m args below meth cd H locs ls fx hp hl hv)
theorem g_ist23 {x0 x1 x2 x3 x4 x5 x6 x7 x8 x9 x10 x11 x12 x13 x14 x15 x16 x17 x18 x19 x20 x21 x22 : Option Value} {z : Option Value} {l : List (Option Value)} {v : Int32} (hd : decode cc pc = .ok (.istore 23, 2)) (hc : lc1 x22 = true) (hq : pc + 2 = q) (kk : Go E cc F q (x0 :: x1 :: x2 :: x3 :: x4 :: x5 :: x6 :: x7 :: x8 :: x9 :: x10 :: x11 :: x12 :: x13 :: x14 :: x15 :: x16 :: x17 :: x18 :: x19 :: x20 :: x21 :: x22 :: some (.int v) :: l) r M c s) : Go E cc F pc (x0 :: x1 :: x2 :: x3 :: x4 :: x5 :: x6 :: x7 :: x8 :: x9 :: x10 :: x11 :: x12 :: x13 :: x14 :: x15 :: x16 :: x17 :: x18 :: x19 :: x20 :: x21 :: x22 :: z :: l) (.int v :: r) M c s := by
  subst hq
  intro p e S m args below meth cd H locs ls fx hp hl hv
  exact lv_istore (i := 23) fx.2.2.1 fx.2.2.2.1 hd (lvh_has hv) (Nat.lt_of_lt_of_le (by simp) hv.2.2.1) rfl (fun ls' h' => kk p e S m args below meth cd H locs ls' fx hp hl (lvh_st1 hv.2.2.1 (by simp) (Or.inr fun x h => by cases h; exact hc) h'))
theorem g_ast23 {x0 x1 x2 x3 x4 x5 x6 x7 x8 x9 x10 x11 x12 x13 x14 x15 x16 x17 x18 x19 x20 x21 x22 : Option Value} {z : Option Value} {l : List (Option Value)} {v : Nat} (hd : decode cc pc = .ok (.astore 23, 2)) (hc : lc1 x22 = true) (hq : pc + 2 = q) (kk : Go E cc F q (x0 :: x1 :: x2 :: x3 :: x4 :: x5 :: x6 :: x7 :: x8 :: x9 :: x10 :: x11 :: x12 :: x13 :: x14 :: x15 :: x16 :: x17 :: x18 :: x19 :: x20 :: x21 :: x22 :: some (.ref v) :: l) r M c s) : Go E cc F pc (x0 :: x1 :: x2 :: x3 :: x4 :: x5 :: x6 :: x7 :: x8 :: x9 :: x10 :: x11 :: x12 :: x13 :: x14 :: x15 :: x16 :: x17 :: x18 :: x19 :: x20 :: x21 :: x22 :: z :: l) (.ref v :: r) M c s := by
  subst hq
  intro p e S m args below meth cd H locs ls fx hp hl hv
  exact lv_astore (i := 23) fx.2.2.1 fx.2.2.2.1 hd (lvh_has hv) (Nat.lt_of_lt_of_le (by simp) hv.2.2.1) rfl (fun ls' h' => kk p e S m args below meth cd H locs ls' fx hp hl (lvh_st1 hv.2.2.1 (by simp) (Or.inr fun x h => by cases h; exact hc) h'))
theorem g_qst23 {x0 x1 x2 x3 x4 x5 x6 x7 x8 x9 x10 x11 x12 x13 x14 x15 x16 x17 x18 x19 x20 x21 x22 : Option Value} {z : Option Value} {l : List (Option Value)} {v : Option Nat} (hd : decode cc pc = .ok (.astore 23, 2)) (hc : lc1 x22 = true) (hq : pc + 2 = q) (kk : Go E cc F q (x0 :: x1 :: x2 :: x3 :: x4 :: x5 :: x6 :: x7 :: x8 :: x9 :: x10 :: x11 :: x12 :: x13 :: x14 :: x15 :: x16 :: x17 :: x18 :: x19 :: x20 :: x21 :: x22 :: some (va_rf v) :: l) r M c s) : Go E cc F pc (x0 :: x1 :: x2 :: x3 :: x4 :: x5 :: x6 :: x7 :: x8 :: x9 :: x10 :: x11 :: x12 :: x13 :: x14 :: x15 :: x16 :: x17 :: x18 :: x19 :: x20 :: x21 :: x22 :: z :: l) (va_rf v :: r) M c s := by
  subst hq
  intro p e S m args below meth cd H locs ls fx hp hl hv
  cases v with
  | none => exact lv_astoreN (i := 23) fx.2.2.1 fx.2.2.2.1 hd (lvh_has hv) (Nat.lt_of_lt_of_le (by simp) hv.2.2.1) rfl (fun ls' h' => kk p e S m args below meth cd H locs ls' fx hp hl (lvh_st1 hv.2.2.1 (by simp) (Or.inr fun x h => by cases h; exact hc) h'))
  | some a => exact lv_astore (i := 23) fx.2.2.1 fx.2.2.2.1 hd (lvh_has hv) (Nat.lt_of_lt_of_le (by simp) hv.2.2.1) rfl (fun ls' h' => kk p e S m args below meth cd H locs ls' fx hp hl (lvh_st1 hv.2.2.1 (by simp) (Or.inr fun x h => by cases h; exact hc) h'))
theorem g_lst23 {x0 x1 x2 x3 x4 x5 x6 x7 x8 x9 x10 x11 x12 x13 x14 x15 x16 x17 x18 x19 x20 x21 x22 : Option Value} {z z2 : Option Value} {l : List (Option Value)} {v : Int64} (hd : decode cc pc = .ok (.lstore 23, 2)) (hc : lc1 x22 = true) (hq : pc + 2 = q) (kk : Go E cc F q (x0 :: x1 :: x2 :: x3 :: x4 :: x5 :: x6 :: x7 :: x8 :: x9 :: x10 :: x11 :: x12 :: x13 :: x14 :: x15 :: x16 :: x17 :: x18 :: x19 :: x20 :: x21 :: x22 :: some (.long v) :: none :: l) r M c s) : Go E cc F pc (x0 :: x1 :: x2 :: x3 :: x4 :: x5 :: x6 :: x7 :: x8 :: x9 :: x10 :: x11 :: x12 :: x13 :: x14 :: x15 :: x16 :: x17 :: x18 :: x19 :: x20 :: x21 :: x22 :: z :: z2 :: l) (.long v :: r) M c s := by
  subst hq
  intro p e S m args below meth cd H locs ls fx hp hl hv
  exact lv_lstore (i := 23) fx.2.2.1 fx.2.2.2.1 hd (lvh_has hv) (Nat.lt_of_lt_of_le (by simp) hv.2.2.1) rfl (fun ls' h' => kk p e S m args below meth cd H locs ls' fx hp hl (lvh_st2 hv.2.2.1 (by simp) (Or.inr fun x h => by cases h; exact hc) h'))
theorem g_inc23 {x0 x1 x2 x3 x4 x5 x6 x7 x8 x9 x10 x11 x12 x13 x14 x15 x16 x17 x18 x19 x20 x21 x22 : Option Value} {l : List (Option Value)} {v w : Int32} {n : Int} (hd : decode cc pc = .ok (.iinc 23 n, 3)) (hc : lc1 x22 = true) (hw : v + Int32.ofInt n = w) (hq : pc + 3 = q) (kk : Go E cc F q (x0 :: x1 :: x2 :: x3 :: x4 :: x5 :: x6 :: x7 :: x8 :: x9 :: x10 :: x11 :: x12 :: x13 :: x14 :: x15 :: x16 :: x17 :: x18 :: x19 :: x20 :: x21 :: x22 :: some (.int w) :: l) r M c s) : Go E cc F pc (x0 :: x1 :: x2 :: x3 :: x4 :: x5 :: x6 :: x7 :: x8 :: x9 :: x10 :: x11 :: x12 :: x13 :: x14 :: x15 :: x16 :: x17 :: x18 :: x19 :: x20 :: x21 :: x22 :: some (.int v) :: l) r M c s := by
  subst hq
  intro p e S m args below meth cd H locs ls fx hp hl hv
  obtain ⟨j, hj⟩ := List.getElem?_of_mem ((lvl_mem (x0 :: x1 :: x2 :: x3 :: x4 :: x5 :: x6 :: x7 :: x8 :: x9 :: x10 :: x11 :: x12 :: x13 :: x14 :: x15 :: x16 :: x17 :: x18 :: x19 :: x20 :: x21 :: x22 :: some (.int v) :: l) 0 (23, .int v)).mpr ⟨23, rfl, rfl⟩)
  exact lv_iinc fx.2.2.1 fx.2.2.2.1 hd (lvh_has hv) hj hw (Nat.lt_of_lt_of_le (by simp) hv.2.2.1) rfl (fun ls' h' => kk p e S m args below meth cd H locs ls' fx hp hl (lvh_st1 hv.2.2.1 (by simp) (Or.inr fun x h => by cases h; exact hc) h'))
theorem g_ild24 {x0 x1 x2 x3 x4 x5 x6 x7 x8 x9 x10 x11 x12 x13 x14 x15 x16 x17 x18 x19 x20 x21 x22 x23 : Option Value} {l : List (Option Value)} {v : Int32} (hd : decode cc pc = .ok (.iload 24, 2)) (hq : pc + 2 = q) (kk : Go E cc F q (x0 :: x1 :: x2 :: x3 :: x4 :: x5 :: x6 :: x7 :: x8 :: x9 :: x10 :: x11 :: x12 :: x13 :: x14 :: x15 :: x16 :: x17 :: x18 :: x19 :: x20 :: x21 :: x22 :: x23 :: some (.int v) :: l) (.int v :: r) M c s) : Go E cc F pc (x0 :: x1 :: x2 :: x3 :: x4 :: x5 :: x6 :: x7 :: x8 :: x9 :: x10 :: x11 :: x12 :: x13 :: x14 :: x15 :: x16 :: x17 :: x18 :: x19 :: x20 :: x21 :: x22 :: x23 :: some (.int v) :: l) r M c s := by
  subst hq
  intro p e S m args below meth cd H locs ls fx hp hl hv
  exact lv_iload fx.2.2.1 fx.2.2.2.1 hd (hv.2.2.2 24 _ rfl) (kk p e S m args below meth cd H locs ls fx hp hl hv)
theorem g_lld24 {x0 x1 x2 x3 x4 x5 x6 x7 x8 x9 x10 x11 x12 x13 x14 x15 x16 x17 x18 x19 x20 x21 x22 x23 : Option Value} {l : List (Option Value)} {v : Int64} (hd : decode cc pc = .ok (.lload 24, 2)) (hq : pc + 2 = q) (kk : Go E cc F q (x0 :: x1 :: x2 :: x3 :: x4 :: x5 :: x6 :: x7 :: x8 :: x9 :: x10 :: x11 :: x12 :: x13 :: x14 :: x15 :: x16 :: x17 :: x18 :: x19 :: x20 :: x21 :: x22 :: x23 :: some (.long v) :: l) (.long v :: r) M c s) : Go E cc F pc (x0 :: x1 :: x2 :: x3 :: x4 :: x5 :: x6 :: x7 :: x8 :: x9 :: x10 :: x11 :: x12 :: x13 :: x14 :: x15 :: x16 :: x17 :: x18 :: x19 :: x20 :: x21 :: x22 :: x23 :: some (.long v) :: l) r M c s := by
  subst hq
  intro p e S m args below meth cd H locs ls fx hp hl hv
  exact lv_lload fx.2.2.1 fx.2.2.2.1 hd (hv.2.2.2 24 _ rfl) (kk p e S m args below meth cd H locs ls fx hp hl hv)
theorem g_ald24 {x0 x1 x2 x3 x4 x5 x6 x7 x8 x9 x10 x11 x12 x13 x14 x15 x16 x17 x18 x19 x20 x21 x22 x23 : Option Value} {l : List (Option Value)} {v : Nat} (hd : decode cc pc = .ok (.aload 24, 2)) (hq : pc + 2 = q) (kk : Go E cc F q (x0 :: x1 :: x2 :: x3 :: x4 :: x5 :: x6 :: x7 :: x8 :: x9 :: x10 :: x11 :: x12 :: x13 :: x14 :: x15 :: x16 :: x17 :: x18 :: x19 :: x20 :: x21 :: x22 :: x23 :: some (.ref v) :: l) (.ref v :: r) M c s) : Go E cc F pc (x0 :: x1 :: x2 :: x3 :: x4 :: x5 :: x6 :: x7 :: x8 :: x9 :: x10 :: x11 :: x12 :: x13 :: x14 :: x15 :: x16 :: x17 :: x18 :: x19 :: x20 :: x21 :: x22 :: x23 :: some (.ref v) :: l) r M c s := by
  subst hq
  intro p e S m args below meth cd H locs ls fx hp hl hv
  exact lv_aload fx.2.2.1 fx.2.2.2.1 hd (hv.2.2.2 24 _ rfl) (kk p e S m args below meth cd H locs ls fx hp hl hv)
theorem g_qld24 {x0 x1 x2 x3 x4 x5 x6 x7 x8 x9 x10 x11 x12 x13 x14 x15 x16 x17 x18 x19 x20 x21 x22 x23 : Option Value} {l : List (Option Value)} {v : Option Nat} (hd : decode cc pc = .ok (.aload 24, 2)) (hq : pc + 2 = q) (kk : Go E cc F q (x0 :: x1 :: x2 :: x3 :: x4 :: x5 :: x6 :: x7 :: x8 :: x9 :: x10 :: x11 :: x12 :: x13 :: x14 :: x15 :: x16 :: x17 :: x18 :: x19 :: x20 :: x21 :: x22 :: x23 :: some (va_rf v) :: l) (va_rf v :: r) M c s) : Go E cc F pc (x0 :: x1 :: x2 :: x3 :: x4 :: x5 :: x6 :: x7 :: x8 :: x9 :: x10 :: x11 :: x12 :: x13 :: x14 :: x15 :: x16 :: x17 :: x18 :: x19 :: x20 :: x21 :: x22 :: x23 :: some (va_rf v) :: l) r M c s := by
  subst hq
  intro p e S m args below meth cd H locs ls fx hp hl hv
  cases v with
  | none => exact lv_aloadN fx.2.2.1 fx.2.2.2.1 hd (hv.2.2.2 24 _ rfl) (kk p e S m args below meth cd H locs ls fx hp hl hv)
  | some a => exact lv_aload fx.2.2.1 fx.2.2.2.1 hd (hv.2.2.2 24 _ rfl) (kk p e S m args below meth cd H locs ls fx hp hl hv)
theorem g_ist24 {x0 x1 x2 x3 x4 x5 x6 x7 x8 x9 x10 x11 x12 x13 x14 x15 x16 x17 x18 x19 x20 x21 x22 x23 : Option Value} {z : Option Value} {l : List (Option Value)} {v : Int32} (hd : decode cc pc = .ok (.istore 24, 2)) (hc : lc1 x23 = true) (hq : pc + 2 = q) (kk : Go E cc F q (x0 :: x1 :: x2 :: x3 :: x4 :: x5 :: x6 :: x7 :: x8 :: x9 :: x10 :: x11 :: x12 :: x13 :: x14 :: x15 :: x16 :: x17 :: x18 :: x19 :: x20 :: x21 :: x22 :: x23 :: some (.int v) :: l) r M c s) : Go E cc F pc (x0 :: x1 :: x2 :: x3 :: x4 :: x5 :: x6 :: x7 :: x8 :: x9 :: x10 :: x11 :: x12 :: x13 :: x14 :: x15 :: x16 :: x17 :: x18 :: x19 :: x20 :: x21 :: x22 :: x23 :: z :: l) (.int v :: r) M c s := by
  subst hq
  intro p e S m args below meth cd H locs ls fx hp hl hv
  exact lv_istore (i := 24) fx.2.2.1 fx.2.2.2.1 hd (lvh_has hv) (Nat.lt_of_lt_of_le (by simp) hv.2.2.1) rfl (fun ls' h' => kk p e S m args below meth cd H locs ls' fx hp hl (lvh_st1 hv.2.2.1 (by simp) (Or.inr fun x h => by cases h; exact hc) h'))
theorem g_ast24 {x0 x1 x2 x3 x4 x5 x6 x7 x8 x9 x10 x11 x12 x13 x14 x15 x16 x17 x18 x19 x20 x21 x22 x23 : Option Value} {z : Option Value} {l : List (Option Value)} {v : Nat} (hd : decode cc pc = .ok (.astore 24, 2)) (hc : lc1 x23 = true) (hq : pc + 2 = q) (kk : Go E cc F q (x0 :: x1 :: x2 :: x3 :: x4 :: x5 :: x6 :: x7 :: x8 :: x9 :: x10 :: x11 :: x12 :: x13 :: x14 :: x15 :: x16 :: x17 :: x18 :: x19 :: x20 :: x21 :: x22 :: x23 :: some (.ref v) :: l) r M c s) : Go E cc F pc (x0 :: x1 :: x2 :: x3 :: x4 :: x5 :: x6 :: x7 :: x8 :: x9 :: x10 :: x11 :: x12 :: x13 :: x14 :: x15 :: x16 :: x17 :: x18 :: x19 :: x20 :: x21 :: x22 :: x23 :: z :: l) (.ref v :: r) M c s := by
  subst hq
  intro p e S m args below meth cd H locs ls fx hp hl hv
  exact lv_astore (i := 24) fx.2.2.1 fx.2.2.2.1 hd (lvh_has hv) (Nat.lt_of_lt_of_le (by simp) hv.2.2.1) rfl (fun ls' h' => kk p e S m args below meth cd H locs ls' fx hp hl (lvh_st1 hv.2.2.1 (by simp) (Or.inr fun x h => by cases h; exact hc) h'))
theorem g_qst24 {x0 x1 x2 x3 x4 x5 x6 x7 x8 x9 x10 x11 x12 x13 x14 x15 x16 x17 x18 x19 x20 x21 x22 x23 : Option Value} {z : Option Value} {l : List (Option Value)} {v : Option Nat} (hd : decode cc pc = .ok (.astore 24, 2)) (hc : lc1 x23 = true) (hq : pc + 2 = q) (kk : Go E cc F q (x0 :: x1 :: x2 :: x3 :: x4 :: x5 :: x6 :: x7 :: x8 :: x9 :: x10 :: x11 :: x12 :: x13 :: x14 :: x15 :: x16 :: x17 :: x18 :: x19 :: x20 :: x21 :: x22 :: x23 :: some (va_rf v) :: l) r M c s) : Go E cc F pc (x0 :: x1 :: x2 :: x3 :: x4 :: x5 :: x6 :: x7 :: x8 :: x9 :: x10 :: x11 :: x12 :: x13 :: x14 :: x15 :: x16 :: x17 :: x18 :: x19 :: x20 :: x21 :: x22 :: x23 :: z :: l) (va_rf v :: r) M c s := by
  subst hq
  intro p e S m args below meth cd H locs ls fx hp hl hv
  cases v with
  | none => exact lv_astoreN (i := 24) fx.2.2.1 fx.2.2.2.1 hd (lvh_has hv) (Nat.lt_of_lt_of_le (by simp) hv.2.2.1) rfl (fun ls' h' => kk p e S m args below meth cd H locs ls' fx hp hl (lvh_st1 hv.2.2.1 (by simp) (Or.inr fun x h => by cases h; exact hc) h'))
  | some a => exact lv_astore (i := 24) fx.2.2.1 fx.2.2.2.1 hd (lvh_has hv) (Nat.lt_of_lt_of_le (by simp) hv.2.2.1) rfl (fun ls' h' => kk p e S m args below meth cd H locs ls' fx hp hl (lvh_st1 hv.2.2.1 (by simp) (Or.inr fun x h => by cases h; exact hc) h'))
theorem g_lst24 {x0 x1 x2 x3 x4 x5 x6 x7 x8 x9 x10 x11 x12 x13 x14 x15 x16 x17 x18 x19 x20 x21 x22 x23 : Option Value} {z z2 : Option Value} {l : List (Option Value)} {v : Int64} (hd : decode cc pc = .ok (.lstore 24, 2)) (hc : lc1 x23 = true) (hq : pc + 2 = q) (kk : Go E cc F q (x0 :: x1 :: x2 :: x3 :: x4 :: x5 :: x6 :: x7 :: x8 :: x9 :: x10 :: x11 :: x12 :: x13 :: x14 :: x15 :: x16 :: x17 :: x18 :: x19 :: x20 :: x21 :: x22 :: x23 :: some (.long v) :: none :: l) r M c s) : Go E cc F pc (x0 :: x1 :: x2 :: x3 :: x4 :: x5 :: x6 :: x7 :: x8 :: x9 :: x10 :: x11 :: x12 :: x13 :: x14 :: x15 :: x16 :: x17 :: x18 :: x19 :: x20 :: x21 :: x22 :: x23 :: z :: z2 :: l) (.long v :: r) M c s := by
  subst hq
  intro p e S m args below meth cd H locs ls fx hp hl hv
  exact lv_lstore (i := 24) fx.2.2.1 fx.2.2.2.1 hd (lvh_has hv) (Nat.lt_of_lt_of_le (by simp) hv.2.2.1) rfl (fun ls' h' => kk p e S m args below meth cd H locs ls' fx hp hl (lvh_st2 hv.2.2.1 (by simp) (Or.inr fun x h => by cases h; exact hc) h'))
theorem g_inc24 {x0 x1 x2 x3 x4 x5 x6 x7 x8 x9 x10 x11 x12 x13 x14 x15 x16 x17 x18 x19 x20 x21 x22 x23 : Option Value} {l : List (Option Value)} {v w : Int32} {n : Int} (hd : decode cc pc = .ok (.iinc 24 n, 3)) (hc : lc1 x23 = true) (hw : v + Int32.ofInt n = w) (hq : pc + 3 = q) (kk : Go E cc F q (x0 :: x1 :: x2 :: x3 :: x4 :: x5 :: x6 :: x7 :: x8 :: x9 :: x10 :: x11 :: x12 :: x13 :: x14 :: x15 :: x16 :: x17 :: x18 :: x19 :: x20 :: x21 :: x22 :: x23 :: some (.int w) :: l) r M c s) : Go E cc F pc (x0 :: x1 :: x2 :: x3 :: x4 :: x5 :: x6 :: x7 :: x8 :: x9 :: x10 :: x11 :: x12 :: x13 :: x14 :: x15 :: x16 :: x17 :: x18 :: x19 :: x20 :: x21 :: x22 :: x23 :: some (.int v) :: l) r M c s := by
  subst hq
  intro p e S m args below meth cd H locs ls fx hp hl hv
  obtain ⟨j, hj⟩ := List.getElem?_of_mem ((lvl_mem (x0 :: x1 :: x2 :: x3 :: x4 :: x5 :: x6 :: x7 :: x8 :: x9 :: x10 :: x11 :: x12 :: x13 :: x14 :: x15 :: x16 :: x17 :: x18 :: x19 :: x20 :: x21 :: x22 :: x23 :: some (.int v) :: l) 0 (24, .int v)).mpr ⟨24, rfl, rfl⟩)
  exact lv_iinc fx.2.2.1 fx.2.2.2.1 hd (lvh_has hv) hj hw (Nat.lt_of_lt_of_le (by simp) hv.2.2.1) rfl (fun ls' h' => kk p e S m args below meth cd H locs ls' fx hp hl (lvh_st1 hv.2.2.1 (by simp) (Or.inr fun x h => by cases h; exact hc) h'))
theorem g_ild25 {x0 x1 x2 x3 x4 x5 x6 x7 x8 x9 x10 x11 x12 x13 x14 x15 x16 x17 x18 x19 x20 x21 x22 x23 x24 : Option Value} {l : List (Option Value)} {v : Int32} (hd : decode cc pc = .ok (.iload 25, 2)) (hq : pc + 2 = q) (kk : Go E cc F q (x0 :: x1 :: x2 :: x3 :: x4 :: x5 :: x6 :: x7 :: x8 :: x9 :: x10 :: x11 :: x12 :: x13 :: x14 :: x15 :: x16 :: x17 :: x18 :: x19 :: x20 :: x21 :: x22 :: x23 :: x24 :: some (.int v) :: l) (.int v :: r) M c s) : Go E cc F pc (x0 :: x1 :: x2 :: x3 :: x4 :: x5 :: x6 :: x7 :: x8 :: x9 :: x10 :: x11 :: x12 :: x13 :: x14 :: x15 :: x16 :: x17 :: x18 :: x19 :: x20 :: x21 :: x22 :: x23 :: x24 :: some (.int v) :: l) r M c s := by
  subst hq
  intro p e S m args below meth cd H locs ls fx hp hl hv
  exact lv_iload fx.2.2.1 fx.2.2.2.1 hd (hv.2.2.2 25 _ rfl) (kk p e S m args below meth cd H locs ls fx hp hl hv)
theorem g_lld25 {x0 x1 x2 x3 x4 x5 x6 x7 x8 x9 x10 x11 x12 x13 x14 x15 x16 x17 x18 x19 x20 x21 x22 x23 x24 : Option Value} {l : List (Option Value)} {v : Int64} (hd : decode cc pc = .ok (.lload 25, 2)) (hq : pc + 2 = q) (kk : Go E cc F q (x0 :: x1 :: x2 :: x3 :: x4 :: x5 :: x6 :: x7 :: x8 :: x9 :: x10 :: x11 :: x12 :: x13 :: x14 :: x15 :: x16 :: x17 :: x18 :: x19 :: x20 :: x21 :: x22 :: x23 :: x24 :: some (.long v) :: l) (.long v :: r) M c s) : Go E cc F pc (x0 :: x1 :: x2 :: x3 :: x4 :: x5 :: x6 :: x7 :: x8 :: x9 :: x10 :: x11 :: x12 :: x13 :: x14 :: x15 :: x16 :: x17 :: x18 :: x19 :: x20 :: x21 :: x22 :: x23 :: x24 :: some (.long v) :: l) r M c s := by
  subst hq
  intro p e S m args below meth cd H locs ls fx hp hl hv
  exact lv_lload fx.2.2.1 fx.2.2.2.1 hd (hv.2.2.2 25 _ rfl) (kk p e S m args below meth cd H locs ls fx hp hl hv)
theorem g_ald25 {x0 x1 x2 x3 x4 x5 x6 x7 x8 x9 x10 x11 x12 x13 x14 x15 x16 x17 x18 x19 x20 x21 x22 x23 x24 : Option Value} {l : List (Option Value)} {v : Nat} (hd : decode cc pc = .ok (.aload 25, 2)) (hq : pc + 2 = q) (kk : Go E cc F q (x0 :: x1 :: x2 :: x3 :: x4 :: x5 :: x6 :: x7 :: x8 :: x9 :: x10 :: x11 :: x12 :: x13 :: x14 :: x15 :: x16 :: x17 :: x18 :: x19 :: x20 :: x21 :: x22 :: x23 :: x24 :: some (.ref v) :: l) (.ref v :: r) M c s) : Go E cc F pc (x0 :: x1 :: x2 :: x3 :: x4 :: x5 :: x6 :: x7 :: x8 :: x9 :: x10 :: x11 :: x12 :: x13 :: x14 :: x15 :: x16 :: x17 :: x18 :: x19 :: x20 :: x21 :: x22 :: x23 :: x24 :: some (.ref v) :: l) r M c s := by
  subst hq
  intro p e S m args below meth cd H locs ls fx hp hl hv
  exact lv_aload fx.2.2.1 fx.2.2.2.1 hd (hv.2.2.2 25 _ rfl) (kk p e S m args below meth cd H locs ls fx hp hl hv)
theorem g_qld25 {x0 x1 x2 x3 x4 x5 x6 x7 x8 x9 x10 x11 x12 x13 x14 x15 x16 x17 x18 x19 x20 x21 x22 x23 x24 : Option Value} {l : List (Option Value)} {v : Option Nat} (hd : decode cc pc = .ok (.aload 25, 2)) (hq : pc + 2 = q) (kk : Go E cc F q (x0 :: x1 :: x2 :: x3 :: x4 :: x5 :: x6 :: x7 :: x8 :: x9 :: x10 :: x11 :: x12 :: x13 :: x14 :: x15 :: x16 :: x17 :: x18 :: x19 :: x20 :: x21 :: x22 :: x23 :: x24 :: some (va_rf v) :: l) (va_rf v :: r) M c s) : Go E cc F pc (x0 :: x1 :: x2 :: x3 :: x4 :: x5 :: x6 :: x7 :: x8 :: x9 :: x10 :: x11 :: x12 :: x13 :: x14 :: x15 :: x16 :: x17 :: x18 :: x19 :: x20 :: x21 :: x22 :: x23 :: x24 :: some (va_rf v) :: l) r M c s := by
  subst hq
  intro p e S m args below meth cd H locs ls fx hp hl hv
  cases v with
  | none => exact lv_aloadN fx.2.2.1 fx.2.2.2.1 hd (hv.2.2.2 25 _ rfl) (kk p e S m args below meth cd H locs ls fx hp hl hv)
  | some a => exact lv_aload fx.2.2.1 fx.2.2.2.1 hd (hv.2.2.2 25 _ rfl) (kk p e S m args below meth cd H locs ls fx hp hl hv)
theorem g_ist25 {x0 x1 x2 x3 x4 x5 x6 x7 x8 x9 x10 x11 x12 x13 x14 x15 x16 x17 x18 x19 x20 x21 x22 x23 x24 : Option Value} {z : Option Value} {l : List (Option Value)} {v : Int32} (hd : decode cc pc = .ok (.istore 25, 2)) (hc : lc1 x24 = true) (hq : pc + 2 = q) (kk : Go E cc F q (x0 :: x1 :: x2 :: x3 :: x4 :: x5 :: x6 :: x7 :: x8 :: x9 :: x10 :: x11 :: x12 :: x13 :: x14 :: x15 :: x16 :: x17 :: x18 :: x19 :: x20 :: x21 :: x22 :: x23 :: x24 :: some (.int v) :: l) r M c s) : Go E cc F pc (x0 :: x1 :: x2 :: x3 :: x4 :: x5 :: x6 :: x7 :: x8 :: x9 :: x10 :: x11 :: x12 :: x13 :: x14 :: x15 :: x16 :: x17 :: x18 :: x19 :: x20 :: x21 :: x22 :: x23 :: x24 :: z :: l) (.int v :: r) M c s := by
  subst hq
  intro p e S m args below meth cd H locs ls fx hp hl hv
  exact lv_istore (i := 25) fx.2.2.1 fx.2.2.2.1 hd (lvh_has hv) (Nat.lt_of_lt_of_le (by simp) hv.2.2.1) rfl (fun ls' h' => kk p e S m args below meth cd H locs ls' fx hp hl (lvh_st1 hv.2.2.1 (by simp) (Or.inr fun x h => by cases h; exact hc) h'))
theorem g_ast25 {x0 x1 x2 x3 x4 x5 x6 x7 x8 x9 x10 x11 x12 x13 x14 x15 x16 x17 x18 x19 x20 x21 x22 x23 x24 : Option Value} {z : Option Value} {l : List (Option Value)} {v : Nat} (hd : decode cc pc = .ok (.astore 25, 2)) (hc : lc1 x24 = true) (hq : pc + 2 = q) (kk : Go E cc F q (x0 :: x1 :: x2 :: x3 :: x4 :: x5 :: x6 :: x7 :: x8 :: x9 :: x10 :: x11 :: x12 :: x13 :: x14 :: x15 :: x16 :: x17 :: x18 :: x19 :: x20 :: x21 :: x22 :: x23 :: x24 :: some (.ref v) :: l) r M c s) : Go E cc F pc (x0 :: x1 :: x2 :: x3 :: x4 :: x5 :: x6 :: x7 :: x8 :: x9 :: x10 :: x11 :: x12 :: x13 :: x14 :: x15 :: x16 :: x17 :: x18 :: x19 :: x20 :: x21 :: x22 :: x23 :: x24 :: z :: l) (.ref v :: r) M c s := by
  subst hq
  intro p e S m args below meth cd H locs ls fx hp hl hv
  exact lv_astore (i := 25) fx.2.2.1 fx.2.2.2.1 hd (lvh_has hv) (Nat.lt_of_lt_of_le (by simp) hv.2.2.1) rfl (fun ls' h' => kk p e S m args below meth cd H locs ls' fx hp hl (lvh_st1 hv.2.2.1 (by simp) (Or.inr fun x h => by cases h; exact hc) h'))
theorem g_qst25 {x0 x1 x2 x3 x4 x5 x6 x7 x8 x9 x10 x11 x12 x13 x14 x15 x16 x17 x18 x19 x20 x21 x22 x23 x24 : Option Value} {z : Option Value} {l : List (Option Value)} {v : Option Nat} (hd : decode cc pc = .ok (.astore 25, 2)) (hc : lc1 x24 = true) (hq : pc + 2 = q) (kk : Go E cc F q (x0 :: x1 :: x2 :: x3 :: x4 :: x5 :: x6 :: x7 :: x8 :: x9 :: x10 :: x11 :: x12 :: x13 :: x14 :: x15 :: x16 :: x17 :: x18 :: x19 :: x20 :: x21 :: x22 :: x23 :: x24 :: some (va_rf v) :: l) r M c s) : Go E cc F pc (x0 :: x1 :: x2 :: x3 :: x4 :: x5 :: x6 :: x7 :: x8 :: x9 :: x10 :: x11 :: x12 :: x13 :: x14 :: x15 :: x16 :: x17 :: x18 :: x19 :: x20 :: x21 :: x22 :: x23 :: x24 :: z :: l) (va_rf v :: r) M c s := by
  subst hq
  intro p e S m args below meth cd H locs ls fx hp hl hv
  cases v with
  | none => exact lv_astoreN (i := 25) fx.2.2.1 fx.2.2.2.1 hd (lvh_has hv) (Nat.lt_of_lt_of_le (by simp) hv.2.2.1) rfl (fun ls' h' => kk p e S m args below meth cd H locs ls' fx hp hl (lvh_st1 hv.2.2.1 (by simp) (Or.inr fun x h => by cases h; exact hc) h'))
  | some a => exact lv_astore (i := 25) fx.2.2.1 fx.2.2.2.1 hd (lvh_has hv) (Nat.lt_of_lt_of_le (by simp) hv.2.2.1) rfl (fun ls' h' => kk p e S m args below meth cd H locs ls' fx hp hl (lvh_st1 hv.2.2.1 (by simp) (Or.inr fun x h => by cases h; exact hc) h'))
theorem g_inc25 {x0 x1 x2 x3 x4 x5 x6 x7 x8 x9 x10 x11 x12 x13 x14 x15 x16 x17 x18 x19 x20 x21 x22 x23 x24 : Option Value} {l : List (Option Value)} {v w : Int32} {n : Int} (hd : decode cc pc = .ok (.iinc 25 n, 3)) (hc : lc1 x24 = true) (hw : v + Int32.ofInt n = w) (hq : pc + 3 = q) (kk : Go E cc F q (x0 :: x1 :: x2 :: x3 :: x4 :: x5 :: x6 :: x7 :: x8 :: x9 :: x10 :: x11 :: x12 :: x13 :: x14 :: x15 :: x16 :: x17 :: x18 :: x19 :: x20 :: x21 :: x22 :: x23 :: x24 :: some (.int w) :: l) r M c s) : Go E cc F pc (x0 :: x1 :: x2 :: x3 :: x4 :: x5 :: x6 :: x7 :: x8 :: x9 :: x10 :: x11 :: x12 :: x13 :: x14 :: x15 :: x16 :: x17 :: x18 :: x19 :: x20 :: x21 :: x22 :: x23 :: x24 :: some (.int v) :: l) r M c s := by
  subst hq
  intro p e S m args below meth cd H locs ls fx hp hl hv
  obtain ⟨j, hj⟩ := List.getElem?_of_mem ((lvl_mem (x0 :: x1 :: x2 :: x3 :: x4 :: x5 :: x6 :: x7 :: x8 :: x9 :: x10 :: x11 :: x12 :: x13 :: x14 :: x15 :: x16 :: x17 :: x18 :: x19 :: x20 :: x21 :: x22 :: x23 :: x24 :: some (.int v) :: l) 0 (25, .int v)).mpr ⟨25, rfl, rfl⟩)
  exact lv_iinc fx.2.2.1 fx.2.2.2.1 hd (lvh_has hv) hj hw (Nat.lt_of_lt_of_le (by simp) hv.2.2.1) rfl (fun ls' h' => kk p e S m args below meth cd H locs ls' fx hp hl (lvh_st1 hv.2.2.1 (by simp) (Or.inr fun x h => by cases h; exact hc) h'))
end Rows
