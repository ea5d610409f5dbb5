theorem xl_get {ad : Nat → Nat} {ls : List (Option Value)} {lsA : Array Slot} {nL i : Nat} {v : Value} (h : lv_has lsA nL (xl ad ls)) (hl : ls[i]? = some (some v)) : lsA[i]? = some (.val (xv ad v)) := h.2.2 (i, xv ad v) (xl_mem.mpr ⟨v, hl, rfl⟩)
section V1
variable {l : Launch} {M : xM} {S : xS} {pc : Nat} {ls : List (Option Value)} {st : List Value} {w : xW} {k n : Nat}

theorem V_iconst {i : Int} {v : Int32} (hd : decode M.2.1 pc = .ok (.iconst i, 1)) (hv : Int32.ofInt i = v) (kk : V l M S (pc + 1) ls (.int v :: st) w k n) : V l M S pc ls (st) w k n := by
  intro p e s m args below meth c H locs lsA D ad0 ad A cells slots hC hN hL hk hn
  exact lv_iconst hC.1 hC.2.1 hd hv (kk p e s m args below meth c H locs lsA D ad0 ad A cells slots hC hN hL hk hn)
theorem V_bipush {i : Int} {v : Int32} (hd : decode M.2.1 pc = .ok (.bipush i, 2)) (hv : (Int8.ofInt i).toInt32 = v) (kk : V l M S (pc + 2) ls (.int v :: st) w k n) : V l M S pc ls (st) w k n := by
  intro p e s m args below meth c H locs lsA D ad0 ad A cells slots hC hN hL hk hn
  exact lv_bipush hC.1 hC.2.1 hd hv (kk p e s m args below meth c H locs lsA D ad0 ad A cells slots hC hN hL hk hn)
theorem V_sipush {i : Int} {v : Int32} (hd : decode M.2.1 pc = .ok (.sipush i, 3)) (hv : (Int16.ofInt i).toInt32 = v) (kk : V l M S (pc + 3) ls (.int v :: st) w k n) : V l M S pc ls (st) w k n := by
  intro p e s m args below meth c H locs lsA D ad0 ad A cells slots hC hN hL hk hn
  exact lv_sipush hC.1 hC.2.1 hd hv (kk p e s m args below meth c H locs lsA D ad0 ad A cells slots hC hN hL hk hn)
theorem V_lconst {i : Fin 2} {v : Int64} (hd : decode M.2.1 pc = .ok (.lconst i, 1)) (hv : Int64.ofNat (i : Nat) = v) (kk : V l M S (pc + 1) ls (.long v :: st) w k n) : V l M S pc ls (st) w k n := by
  intro p e s m args below meth c H locs lsA D ad0 ad A cells slots hC hN hL hk hn
  exact lv_lconst hC.1 hC.2.1 hd hv (kk p e s m args below meth c H locs lsA D ad0 ad A cells slots hC hN hL hk hn)
theorem V_null  (hd : decode M.2.1 pc = .ok (.aconst_null, 1))  (kk : V l M S (pc + 1) ls (.null :: st) w k n) : V l M S pc ls (st) w k n := by
  intro p e s m args below meth c H locs lsA D ad0 ad A cells slots hC hN hL hk hn
  exact lv_null hC.1 hC.2.1 hd (kk p e s m args below meth c H locs lsA D ad0 ad A cells slots hC hN hL hk hn)
theorem V_iadd {x y : Int32} (hd : decode M.2.1 pc = .ok (.iadd, 1))  (kk : V l M S (pc + 1) ls (.int (x + y) :: st) w k n) : V l M S pc ls (.int y :: .int x :: st) w k n := by
  intro p e s m args below meth c H locs lsA D ad0 ad A cells slots hC hN hL hk hn
  exact lv_iadd hC.1 hC.2.1 hd (kk p e s m args below meth c H locs lsA D ad0 ad A cells slots hC hN hL hk hn)
theorem V_isub {x y : Int32} (hd : decode M.2.1 pc = .ok (.isub, 1))  (kk : V l M S (pc + 1) ls (.int (x - y) :: st) w k n) : V l M S pc ls (.int y :: .int x :: st) w k n := by
  intro p e s m args below meth c H locs lsA D ad0 ad A cells slots hC hN hL hk hn
  exact lv_isub hC.1 hC.2.1 hd (kk p e s m args below meth c H locs lsA D ad0 ad A cells slots hC hN hL hk hn)
theorem V_imul {x y : Int32} (hd : decode M.2.1 pc = .ok (.imul, 1))  (kk : V l M S (pc + 1) ls (.int (x * y) :: st) w k n) : V l M S pc ls (.int y :: .int x :: st) w k n := by
  intro p e s m args below meth c H locs lsA D ad0 ad A cells slots hC hN hL hk hn
  exact lv_imul hC.1 hC.2.1 hd (kk p e s m args below meth c H locs lsA D ad0 ad A cells slots hC hN hL hk hn)
theorem V_iand {x y : Int32} (hd : decode M.2.1 pc = .ok (.iand, 1))  (kk : V l M S (pc + 1) ls (.int (x &&& y) :: st) w k n) : V l M S pc ls (.int y :: .int x :: st) w k n := by
  intro p e s m args below meth c H locs lsA D ad0 ad A cells slots hC hN hL hk hn
  exact lv_iand hC.1 hC.2.1 hd (kk p e s m args below meth c H locs lsA D ad0 ad A cells slots hC hN hL hk hn)
theorem V_ior {x y : Int32} (hd : decode M.2.1 pc = .ok (.ior, 1))  (kk : V l M S (pc + 1) ls (.int (x ||| y) :: st) w k n) : V l M S pc ls (.int y :: .int x :: st) w k n := by
  intro p e s m args below meth c H locs lsA D ad0 ad A cells slots hC hN hL hk hn
  exact lv_ior hC.1 hC.2.1 hd (kk p e s m args below meth c H locs lsA D ad0 ad A cells slots hC hN hL hk hn)
theorem V_ixor {x y : Int32} (hd : decode M.2.1 pc = .ok (.ixor, 1))  (kk : V l M S (pc + 1) ls (.int (x ^^^ y) :: st) w k n) : V l M S pc ls (.int y :: .int x :: st) w k n := by
  intro p e s m args below meth c H locs lsA D ad0 ad A cells slots hC hN hL hk hn
  exact lv_ixor hC.1 hC.2.1 hd (kk p e s m args below meth c H locs lsA D ad0 ad A cells slots hC hN hL hk hn)
theorem V_ishl {x y : Int32} (hd : decode M.2.1 pc = .ok (.ishl, 1))  (kk : V l M S (pc + 1) ls (.int (x <<< (y &&& 31)) :: st) w k n) : V l M S pc ls (.int y :: .int x :: st) w k n := by
  intro p e s m args below meth c H locs lsA D ad0 ad A cells slots hC hN hL hk hn
  exact lv_ishl hC.1 hC.2.1 hd (kk p e s m args below meth c H locs lsA D ad0 ad A cells slots hC hN hL hk hn)
theorem V_ishr {x y : Int32} (hd : decode M.2.1 pc = .ok (.ishr, 1))  (kk : V l M S (pc + 1) ls (.int (x >>> (y &&& 31)) :: st) w k n) : V l M S pc ls (.int y :: .int x :: st) w k n := by
  intro p e s m args below meth c H locs lsA D ad0 ad A cells slots hC hN hL hk hn
  exact lv_ishr hC.1 hC.2.1 hd (kk p e s m args below meth c H locs lsA D ad0 ad A cells slots hC hN hL hk hn)
theorem V_idiv {x y : Int32} (hd : decode M.2.1 pc = .ok (.idiv, 1)) (hne : ¬ y = 0) (kk : V l M S (pc + 1) ls (.int (x / y) :: st) w k n) : V l M S pc ls (.int y :: .int x :: st) w k n := by
  intro p e s m args below meth c H locs lsA D ad0 ad A cells slots hC hN hL hk hn
  exact lv_idiv hC.1 hC.2.1 hd hne (kk p e s m args below meth c H locs lsA D ad0 ad A cells slots hC hN hL hk hn)
theorem V_irem {x y : Int32} (hd : decode M.2.1 pc = .ok (.irem, 1)) (hne : ¬ y = 0) (kk : V l M S (pc + 1) ls (.int (x - x / y * y) :: st) w k n) : V l M S pc ls (.int y :: .int x :: st) w k n := by
  intro p e s m args below meth c H locs lsA D ad0 ad A cells slots hC hN hL hk hn
  exact lv_irem hC.1 hC.2.1 hd hne (kk p e s m args below meth c H locs lsA D ad0 ad A cells slots hC hN hL hk hn)
theorem V_ladd {x y : Int64} (hd : decode M.2.1 pc = .ok (.ladd, 1))  (kk : V l M S (pc + 1) ls (.long (x + y) :: st) w k n) : V l M S pc ls (.long y :: .long x :: st) w k n := by
  intro p e s m args below meth c H locs lsA D ad0 ad A cells slots hC hN hL hk hn
  exact lv_ladd hC.1 hC.2.1 hd (kk p e s m args below meth c H locs lsA D ad0 ad A cells slots hC hN hL hk hn)
theorem V_lsub {x y : Int64} (hd : decode M.2.1 pc = .ok (.lsub, 1))  (kk : V l M S (pc + 1) ls (.long (x - y) :: st) w k n) : V l M S pc ls (.long y :: .long x :: st) w k n := by
  intro p e s m args below meth c H locs lsA D ad0 ad A cells slots hC hN hL hk hn
  exact lv_lsub hC.1 hC.2.1 hd (kk p e s m args below meth c H locs lsA D ad0 ad A cells slots hC hN hL hk hn)
theorem V_lmul {x y : Int64} (hd : decode M.2.1 pc = .ok (.lmul, 1))  (kk : V l M S (pc + 1) ls (.long (x * y) :: st) w k n) : V l M S pc ls (.long y :: .long x :: st) w k n := by
  intro p e s m args below meth c H locs lsA D ad0 ad A cells slots hC hN hL hk hn
  exact lv_lmul hC.1 hC.2.1 hd (kk p e s m args below meth c H locs lsA D ad0 ad A cells slots hC hN hL hk hn)
theorem V_ldiv {x y : Int64} (hd : decode M.2.1 pc = .ok (.ldiv, 1)) (hne : ¬ y = 0) (kk : V l M S (pc + 1) ls (.long (x / y) :: st) w k n) : V l M S pc ls (.long y :: .long x :: st) w k n := by
  intro p e s m args below meth c H locs lsA D ad0 ad A cells slots hC hN hL hk hn
  exact lv_ldiv hC.1 hC.2.1 hd hne (kk p e s m args below meth c H locs lsA D ad0 ad A cells slots hC hN hL hk hn)
theorem V_lrem {x y : Int64} (hd : decode M.2.1 pc = .ok (.lrem, 1)) (hne : ¬ y = 0) (kk : V l M S (pc + 1) ls (.long (x - x / y * y) :: st) w k n) : V l M S pc ls (.long y :: .long x :: st) w k n := by
  intro p e s m args below meth c H locs lsA D ad0 ad A cells slots hC hN hL hk hn
  exact lv_lrem hC.1 hC.2.1 hd hne (kk p e s m args below meth c H locs lsA D ad0 ad A cells slots hC hN hL hk hn)
theorem V_ineg {x : Int32} (hd : decode M.2.1 pc = .ok (.ineg, 1))  (kk : V l M S (pc + 1) ls (.int (-x) :: st) w k n) : V l M S pc ls (.int x :: st) w k n := by
  intro p e s m args below meth c H locs lsA D ad0 ad A cells slots hC hN hL hk hn
  exact lv_ineg hC.1 hC.2.1 hd (kk p e s m args below meth c H locs lsA D ad0 ad A cells slots hC hN hL hk hn)
theorem V_iushr {x y v : Int32} (hd : decode M.2.1 pc = .ok (.iushr, 1)) (hv : (x.toUInt32 >>> (y.toUInt32 &&& Int32.toUInt32 31)).toInt32 = v) (kk : V l M S (pc + 1) ls (.int v :: st) w k n) : V l M S pc ls (.int y :: .int x :: st) w k n := by
  intro p e s m args below meth c H locs lsA D ad0 ad A cells slots hC hN hL hk hn
  exact lv_iushr hC.1 hC.2.1 hd hv (kk p e s m args below meth c H locs lsA D ad0 ad A cells slots hC hN hL hk hn)
theorem V_i2l {x : Int32} {v : Int64} (hd : decode M.2.1 pc = .ok (.i2l, 1)) (hv : x.toInt64 = v) (kk : V l M S (pc + 1) ls (.long v :: st) w k n) : V l M S pc ls (.int x :: st) w k n := by
  intro p e s m args below meth c H locs lsA D ad0 ad A cells slots hC hN hL hk hn
  exact lv_i2l hC.1 hC.2.1 hd hv (kk p e s m args below meth c H locs lsA D ad0 ad A cells slots hC hN hL hk hn)
theorem V_l2i {x : Int64} {v : Int32} (hd : decode M.2.1 pc = .ok (.l2i, 1)) (hv : x.toInt32 = v) (kk : V l M S (pc + 1) ls (.int v :: st) w k n) : V l M S pc ls (.long x :: st) w k n := by
  intro p e s m args below meth c H locs lsA D ad0 ad A cells slots hC hN hL hk hn
  exact lv_l2i hC.1 hC.2.1 hd hv (kk p e s m args below meth c H locs lsA D ad0 ad A cells slots hC hN hL hk hn)
theorem V_i2b {x v : Int32} (hd : decode M.2.1 pc = .ok (.i2b, 1)) (hv : x.toInt8.toInt32 = v) (kk : V l M S (pc + 1) ls (.int v :: st) w k n) : V l M S pc ls (.int x :: st) w k n := by
  intro p e s m args below meth c H locs lsA D ad0 ad A cells slots hC hN hL hk hn
  exact lv_i2b hC.1 hC.2.1 hd hv (kk p e s m args below meth c H locs lsA D ad0 ad A cells slots hC hN hL hk hn)
theorem V_i2s {x v : Int32} (hd : decode M.2.1 pc = .ok (.i2s, 1)) (hv : x.toInt16.toInt32 = v) (kk : V l M S (pc + 1) ls (.int v :: st) w k n) : V l M S pc ls (.int x :: st) w k n := by
  intro p e s m args below meth c H locs lsA D ad0 ad A cells slots hC hN hL hk hn
  exact lv_i2s hC.1 hC.2.1 hd hv (kk p e s m args below meth c H locs lsA D ad0 ad A cells slots hC hN hL hk hn)
theorem V_i2c {x v : Int32} (hd : decode M.2.1 pc = .ok (.i2c, 1)) (hv : (x.toUInt32 % 65536).toInt32 = v) (kk : V l M S (pc + 1) ls (.int v :: st) w k n) : V l M S pc ls (.int x :: st) w k n := by
  intro p e s m args below meth c H locs lsA D ad0 ad A cells slots hC hN hL hk hn
  exact lv_i2c hC.1 hC.2.1 hd hv (kk p e s m args below meth c H locs lsA D ad0 ad A cells slots hC hN hL hk hn)
theorem V_lshl {x v : Int64} {y : Int32} (hd : decode M.2.1 pc = .ok (.lshl, 1)) (hv : x <<< (y.toInt64 &&& 63) = v) (kk : V l M S (pc + 1) ls (.long v :: st) w k n) : V l M S pc ls (.int y :: .long x :: st) w k n := by
  intro p e s m args below meth c H locs lsA D ad0 ad A cells slots hC hN hL hk hn
  exact lv_lshl hC.1 hC.2.1 hd hv (kk p e s m args below meth c H locs lsA D ad0 ad A cells slots hC hN hL hk hn)
theorem V_lcmp {x y : Int64} (hd : decode M.2.1 pc = .ok (.lcmp, 1))  (kk : V l M S (pc + 1) ls (.int (lg_cmp x y) :: st) w k n) : V l M S pc ls (.long y :: .long x :: st) w k n := by
  intro p e s m args below meth c H locs lsA D ad0 ad A cells slots hC hN hL hk hn
  exact W.lcmp hC.1 hC.2.1 hd (kk p e s m args below meth c H locs lsA D ad0 ad A cells slots hC hN hL hk hn)
theorem V_dup {a : Value} (hd : decode M.2.1 pc = .ok (.dup, 1)) (h1 : a.category = 1) (kk : V l M S (pc + 1) ls (a :: a :: st) w k n) : V l M S pc ls (a :: st) w k n := by
  intro p e s m args below meth c H locs lsA D ad0 ad A cells slots hC hN hL hk hn
  exact lv_dup hC.1 hC.2.1 hd (by rw [xv_cat]; exact h1) (kk p e s m args below meth c H locs lsA D ad0 ad A cells slots hC hN hL hk hn)
theorem V_pop {a : Value} (hd : decode M.2.1 pc = .ok (.pop, 1)) (h1 : a.category = 1) (kk : V l M S (pc + 1) ls (st) w k n) : V l M S pc ls (a :: st) w k n := by
  intro p e s m args below meth c H locs lsA D ad0 ad A cells slots hC hN hL hk hn
  exact lv_pop hC.1 hC.2.1 hd (by rw [xv_cat]; exact h1) (kk p e s m args below meth c H locs lsA D ad0 ad A cells slots hC hN hL hk hn)
theorem V_dup_x1 {a b : Value} (hd : decode M.2.1 pc = .ok (.dup_x1, 1)) (h1 : a.category = 1) (h2 : b.category = 1) (kk : V l M S (pc + 1) ls (a :: b :: a :: st) w k n) : V l M S pc ls (a :: b :: st) w k n := by
  intro p e s m args below meth c H locs lsA D ad0 ad A cells slots hC hN hL hk hn
  exact lv_dup_x1 hC.1 hC.2.1 hd (by rw [xv_cat]; exact h1) (by rw [xv_cat]; exact h2) (kk p e s m args below meth c H locs lsA D ad0 ad A cells slots hC hN hL hk hn)
theorem V_dup2 {a b : Value} (hd : decode M.2.1 pc = .ok (.dup2, 1)) (h1 : a.category = 1) (h2 : b.category = 1) (kk : V l M S (pc + 1) ls (a :: b :: a :: b :: st) w k n) : V l M S pc ls (a :: b :: st) w k n := by
  intro p e s m args below meth c H locs lsA D ad0 ad A cells slots hC hN hL hk hn
  exact lv_dup2_11 hC.1 hC.2.1 hd (by rw [xv_cat]; exact h1) (by rw [xv_cat]; exact h2) (kk p e s m args below meth c H locs lsA D ad0 ad A cells slots hC hN hL hk hn)
theorem V_pop2 {a : Value} (hd : decode M.2.1 pc = .ok (.pop2, 1)) (h1 : a.category = 2) (kk : V l M S (pc + 1) ls (st) w k n) : V l M S pc ls (a :: st) w k n := by
  intro p e s m args below meth c H locs lsA D ad0 ad A cells slots hC hN hL hk hn
  exact lv_pop2_2 hC.1 hC.2.1 hd (by rw [xv_cat]; exact h1) (kk p e s m args below meth c H locs lsA D ad0 ad A cells slots hC hN hL hk hn)
theorem V_ldc {i : Nat} {v : Int32} (hd : decode M.2.1 pc = .ok (.ldc i, 2)) (hc : Cond.constant M.1 i v ∈ lw_all) (kk : V l M S (pc + 2) ls (.int v :: st) w k n) : V l M S pc ls (st) w k n := by
  intro p e s m args below meth c H locs lsA D ad0 ad A cells slots hC hN hL hk hn
  exact lv_ldc hC.1 hC.2.1 hC.2.2.2.2.2.1 (hC.2.2.2.2.2.2.1 _ hc) hd (kk p e s m args below meth c H locs lsA D ad0 ad A cells slots hC hN hL hk hn)
theorem V_ldcw {i : Nat} {v : Int32} (hd : decode M.2.1 pc = .ok (.ldc_w i, 3)) (hc : Cond.constant M.1 i v ∈ lw_all) (kk : V l M S (pc + 3) ls (.int v :: st) w k n) : V l M S pc ls (st) w k n := by
  intro p e s m args below meth c H locs lsA D ad0 ad A cells slots hC hN hL hk hn
  exact lv_ldcw hC.1 hC.2.1 hC.2.2.2.2.2.1 (hC.2.2.2.2.2.2.1 _ hc) hd (kk p e s m args below meth c H locs lsA D ad0 ad A cells slots hC hN hL hk hn)
theorem V_ldc2 {i : Nat} {v : Int64} (hd : decode M.2.1 pc = .ok (.ldc2_w i, 3)) (hc : Cond.constantLong M.1 i v ∈ lw_all) (kk : V l M S (pc + 3) ls (.long v :: st) w k n) : V l M S pc ls (st) w k n := by
  intro p e s m args below meth c H locs lsA D ad0 ad A cells slots hC hN hL hk hn
  exact lv_ldc2 hC.1 hC.2.1 hC.2.2.2.2.2.1 (hC.2.2.2.2.2.2.1 _ hc) hd (kk p e s m args below meth c H locs lsA D ad0 ad A cells slots hC hN hL hk hn)
theorem V_iload_n {i : Fin 4} {x : Int32} (hd : decode M.2.1 pc = .ok (.iload_n i, 1)) (hl : ls[(i : Nat)]? = some (some (.int x))) (kk : V l M S (pc + 1) ls (.int x :: st) w k n) : V l M S pc ls (st) w k n := by
  intro p e s m args below meth c H locs lsA D ad0 ad A cells slots hC hN hL hk hn
  exact lv_iload_n hC.1 hC.2.1 hd rfl (xl_get hL hl) (kk p e s m args below meth c H locs lsA D ad0 ad A cells slots hC hN hL hk hn)
theorem V_iload {i : Nat} {x : Int32} (hd : decode M.2.1 pc = .ok (.iload i, 2)) (hl : ls[i]? = some (some (.int x))) (kk : V l M S (pc + 2) ls (.int x :: st) w k n) : V l M S pc ls (st) w k n := by
  intro p e s m args below meth c H locs lsA D ad0 ad A cells slots hC hN hL hk hn
  exact lv_iload hC.1 hC.2.1 hd (xl_get hL hl) (kk p e s m args below meth c H locs lsA D ad0 ad A cells slots hC hN hL hk hn)
theorem V_lload_n {i : Fin 4} {x : Int64} (hd : decode M.2.1 pc = .ok (.lload_n i, 1)) (hl : ls[(i : Nat)]? = some (some (.long x))) (kk : V l M S (pc + 1) ls (.long x :: st) w k n) : V l M S pc ls (st) w k n := by
  intro p e s m args below meth c H locs lsA D ad0 ad A cells slots hC hN hL hk hn
  exact lv_lload_n hC.1 hC.2.1 hd rfl (xl_get hL hl) (kk p e s m args below meth c H locs lsA D ad0 ad A cells slots hC hN hL hk hn)
theorem V_lload {i : Nat} {x : Int64} (hd : decode M.2.1 pc = .ok (.lload i, 2)) (hl : ls[i]? = some (some (.long x))) (kk : V l M S (pc + 2) ls (.long x :: st) w k n) : V l M S pc ls (st) w k n := by
  intro p e s m args below meth c H locs lsA D ad0 ad A cells slots hC hN hL hk hn
  exact lv_lload hC.1 hC.2.1 hd (xl_get hL hl) (kk p e s m args below meth c H locs lsA D ad0 ad A cells slots hC hN hL hk hn)
theorem V_aload_n {i : Fin 4} {x : Nat} (hd : decode M.2.1 pc = .ok (.aload_n i, 1)) (hl : ls[(i : Nat)]? = some (some (.ref x))) (kk : V l M S (pc + 1) ls (.ref x :: st) w k n) : V l M S pc ls (st) w k n := by
  intro p e s m args below meth c H locs lsA D ad0 ad A cells slots hC hN hL hk hn
  exact lv_aload_n hC.1 hC.2.1 hd rfl (xl_get hL hl) (kk p e s m args below meth c H locs lsA D ad0 ad A cells slots hC hN hL hk hn)
theorem V_aload {i : Nat} {x : Nat} (hd : decode M.2.1 pc = .ok (.aload i, 2)) (hl : ls[i]? = some (some (.ref x))) (kk : V l M S (pc + 2) ls (.ref x :: st) w k n) : V l M S pc ls (st) w k n := by
  intro p e s m args below meth c H locs lsA D ad0 ad A cells slots hC hN hL hk hn
  exact lv_aload hC.1 hC.2.1 hd (xl_get hL hl) (kk p e s m args below meth c H locs lsA D ad0 ad A cells slots hC hN hL hk hn)
theorem V_aload_nN {i : Fin 4} (hd : decode M.2.1 pc = .ok (.aload_n i, 1)) (hl : ls[(i : Nat)]? = some (some .null)) (kk : V l M S (pc + 1) ls (.null :: st) w k n) : V l M S pc ls (st) w k n := by
  intro p e s m args below meth c H locs lsA D ad0 ad A cells slots hC hN hL hk hn
  exact lv_aload_nN hC.1 hC.2.1 hd rfl (xl_get hL hl) (kk p e s m args below meth c H locs lsA D ad0 ad A cells slots hC hN hL hk hn)
theorem V_aloadN {i : Nat} (hd : decode M.2.1 pc = .ok (.aload i, 2)) (hl : ls[i]? = some (some .null)) (kk : V l M S (pc + 2) ls (.null :: st) w k n) : V l M S pc ls (st) w k n := by
  intro p e s m args below meth c H locs lsA D ad0 ad A cells slots hC hN hL hk hn
  exact lv_aloadN hC.1 hC.2.1 hd (xl_get hL hl) (kk p e s m args below meth c H locs lsA D ad0 ad A cells slots hC hN hL hk hn)
theorem V_istore_n {i : Fin 4} {x : Int32} (hd : decode M.2.1 pc = .ok (.istore_n i, 1)) (hnl : xnl ls (i : Nat) = true) (hi : (i : Nat) < ls.length) (hlen : ls.length ≤ M.2.2.1) (kk : V l M S (pc + 1) (ls.set (i : Nat) (some (.int x))) st w k n) : V l M S pc ls (.int x :: st) w k n := by
  intro p e s m args below meth c H locs lsA D ad0 ad A cells slots hC hN hL hk hn
  exact lv_istore_n hC.1 hC.2.1 hd rfl hL (Nat.lt_of_lt_of_le hi hlen) rfl (fun ls9 h9 => kk p e s m args below meth c H locs ls9 D ad0 ad A cells slots hC hN (xl_has h9 (xl_set1 hnl hi)) hk hn)
theorem V_istore {i : Nat} {x : Int32} (hd : decode M.2.1 pc = .ok (.istore i, 2)) (hnl : xnl ls i = true) (hi : i < ls.length) (hlen : ls.length ≤ M.2.2.1) (kk : V l M S (pc + 2) (ls.set i (some (.int x))) st w k n) : V l M S pc ls (.int x :: st) w k n := by
  intro p e s m args below meth c H locs lsA D ad0 ad A cells slots hC hN hL hk hn
  exact lv_istore hC.1 hC.2.1 hd hL (Nat.lt_of_lt_of_le hi hlen) rfl (fun ls9 h9 => kk p e s m args below meth c H locs ls9 D ad0 ad A cells slots hC hN (xl_has h9 (xl_set1 hnl hi)) hk hn)
theorem V_lstore_n {i : Fin 4} {x : Int64} (hd : decode M.2.1 pc = .ok (.lstore_n i, 1)) (hnl : xnl ls (i : Nat) = true) (hi : (i : Nat) + 1 < ls.length) (hlen : ls.length ≤ M.2.2.1) (kk : V l M S (pc + 1) ((ls.set (i : Nat) (some (.long x))).set ((i : Nat) + 1) none) st w k n) : V l M S pc ls (.long x :: st) w k n := by
  intro p e s m args below meth c H locs lsA D ad0 ad A cells slots hC hN hL hk hn
  exact lv_lstore_n hC.1 hC.2.1 hd rfl hL (Nat.lt_of_lt_of_le hi hlen) rfl (fun ls9 h9 => kk p e s m args below meth c H locs ls9 D ad0 ad A cells slots hC hN (xl_has h9 (xl_set2 hnl hi)) hk hn)
theorem V_lstore {i : Nat} {x : Int64} (hd : decode M.2.1 pc = .ok (.lstore i, 2)) (hnl : xnl ls i = true) (hi : i + 1 < ls.length) (hlen : ls.length ≤ M.2.2.1) (kk : V l M S (pc + 2) ((ls.set i (some (.long x))).set (i + 1) none) st w k n) : V l M S pc ls (.long x :: st) w k n := by
  intro p e s m args below meth c H locs lsA D ad0 ad A cells slots hC hN hL hk hn
  exact lv_lstore hC.1 hC.2.1 hd hL (Nat.lt_of_lt_of_le hi hlen) rfl (fun ls9 h9 => kk p e s m args below meth c H locs ls9 D ad0 ad A cells slots hC hN (xl_has h9 (xl_set2 hnl hi)) hk hn)
theorem V_astore_n {i : Fin 4} {x : Nat} (hd : decode M.2.1 pc = .ok (.astore_n i, 1)) (hnl : xnl ls (i : Nat) = true) (hi : (i : Nat) < ls.length) (hlen : ls.length ≤ M.2.2.1) (kk : V l M S (pc + 1) (ls.set (i : Nat) (some (.ref x))) st w k n) : V l M S pc ls (.ref x :: st) w k n := by
  intro p e s m args below meth c H locs lsA D ad0 ad A cells slots hC hN hL hk hn
  exact lv_astore_n hC.1 hC.2.1 hd rfl hL (Nat.lt_of_lt_of_le hi hlen) rfl (fun ls9 h9 => kk p e s m args below meth c H locs ls9 D ad0 ad A cells slots hC hN (xl_has h9 (xl_set1 hnl hi)) hk hn)
theorem V_astore {i : Nat} {x : Nat} (hd : decode M.2.1 pc = .ok (.astore i, 2)) (hnl : xnl ls i = true) (hi : i < ls.length) (hlen : ls.length ≤ M.2.2.1) (kk : V l M S (pc + 2) (ls.set i (some (.ref x))) st w k n) : V l M S pc ls (.ref x :: st) w k n := by
  intro p e s m args below meth c H locs lsA D ad0 ad A cells slots hC hN hL hk hn
  exact lv_astore hC.1 hC.2.1 hd hL (Nat.lt_of_lt_of_le hi hlen) rfl (fun ls9 h9 => kk p e s m args below meth c H locs ls9 D ad0 ad A cells slots hC hN (xl_has h9 (xl_set1 hnl hi)) hk hn)
theorem V_astore_nN {i : Fin 4} (hd : decode M.2.1 pc = .ok (.astore_n i, 1)) (hnl : xnl ls (i : Nat) = true) (hi : (i : Nat) < ls.length) (hlen : ls.length ≤ M.2.2.1) (kk : V l M S (pc + 1) (ls.set (i : Nat) (some (.null))) st w k n) : V l M S pc ls (.null :: st) w k n := by
  intro p e s m args below meth c H locs lsA D ad0 ad A cells slots hC hN hL hk hn
  exact lv_astore_nN hC.1 hC.2.1 hd rfl hL (Nat.lt_of_lt_of_le hi hlen) rfl (fun ls9 h9 => kk p e s m args below meth c H locs ls9 D ad0 ad A cells slots hC hN (xl_has h9 (xl_set1 hnl hi)) hk hn)
theorem V_astoreN {i : Nat} (hd : decode M.2.1 pc = .ok (.astore i, 2)) (hnl : xnl ls i = true) (hi : i < ls.length) (hlen : ls.length ≤ M.2.2.1) (kk : V l M S (pc + 2) (ls.set i (some (.null))) st w k n) : V l M S pc ls (.null :: st) w k n := by
  intro p e s m args below meth c H locs lsA D ad0 ad A cells slots hC hN hL hk hn
  exact lv_astoreN hC.1 hC.2.1 hd hL (Nat.lt_of_lt_of_le hi hlen) rfl (fun ls9 h9 => kk p e s m args below meth c H locs ls9 D ad0 ad A cells slots hC hN (xl_has h9 (xl_set1 hnl hi)) hk hn)
theorem V_iinc {i : Nat} {d : Int} {x v : Int32} (hd : decode M.2.1 pc = .ok (.iinc i d, 3)) (hx : ls[i]? = some (some (.int x))) (hv : x + Int32.ofInt d = v) (hnl : xnl ls i = true) (hlen : ls.length ≤ M.2.2.1) (kk : V l M S (pc + 3) (ls.set i (some (.int v))) st w k n) : V l M S pc ls st w k n := by
  intro p e s m args below meth c H locs lsA D ad0 ad A cells slots hC hN hL hk hn
  obtain ⟨j, hj⟩ := List.getElem?_of_mem (xl_mem.mpr ⟨.int x, hx, rfl⟩ : ((i, xv ad (.int x)) : Nat × Value) ∈ xl ad ls)
  have hi : i < ls.length := (List.getElem?_eq_some_iff.mp hx).1
  exact lv_iinc hC.1 hC.2.1 hd hL hj hv (Nat.lt_of_lt_of_le hi hlen) rfl (fun ls9 h9 => kk p e s m args below meth c H locs ls9 D ad0 ad A cells slots hC hN (xl_has h9 (xl_set1 hnl hi)) hk hn)
theorem V_if_eq {x : Int32} {off : Int} {tgt : Nat} (hd : decode M.2.1 pc = .ok (.ifCond .eq off, 3)) (ht : (pc : Int) + off = (tgt : Int)) (kt : x = 0 → V l M S tgt ls st w k n) (kf : ¬ x = 0 → V l M S (pc + 3) ls st w k n) : V l M S pc ls (.int x :: st) w k n := by
  intro p e s m args below meth c H locs lsA D ad0 ad A cells slots hC hN hL hk hn
  exact lv_if_eq hC.1 hC.2.1 hd ht (fun z => kt z p e s m args below meth c H locs lsA D ad0 ad A cells slots hC hN hL hk hn) (fun z => kf z p e s m args below meth c H locs lsA D ad0 ad A cells slots hC hN hL hk hn)
theorem V_if_ne {x : Int32} {off : Int} {tgt : Nat} (hd : decode M.2.1 pc = .ok (.ifCond .ne off, 3)) (ht : (pc : Int) + off = (tgt : Int)) (kt : ¬ x = 0 → V l M S tgt ls st w k n) (kf : x = 0 → V l M S (pc + 3) ls st w k n) : V l M S pc ls (.int x :: st) w k n := by
  intro p e s m args below meth c H locs lsA D ad0 ad A cells slots hC hN hL hk hn
  exact lv_if_ne hC.1 hC.2.1 hd ht (fun z => kt z p e s m args below meth c H locs lsA D ad0 ad A cells slots hC hN hL hk hn) (fun z => kf z p e s m args below meth c H locs lsA D ad0 ad A cells slots hC hN hL hk hn)
theorem V_if_lt {x : Int32} {off : Int} {tgt : Nat} (hd : decode M.2.1 pc = .ok (.ifCond .lt off, 3)) (ht : (pc : Int) + off = (tgt : Int)) (kt : x < 0 → V l M S tgt ls st w k n) (kf : ¬ x < 0 → V l M S (pc + 3) ls st w k n) : V l M S pc ls (.int x :: st) w k n := by
  intro p e s m args below meth c H locs lsA D ad0 ad A cells slots hC hN hL hk hn
  exact lv_if_lt hC.1 hC.2.1 hd ht (fun z => kt z p e s m args below meth c H locs lsA D ad0 ad A cells slots hC hN hL hk hn) (fun z => kf z p e s m args below meth c H locs lsA D ad0 ad A cells slots hC hN hL hk hn)
theorem V_if_ge {x : Int32} {off : Int} {tgt : Nat} (hd : decode M.2.1 pc = .ok (.ifCond .ge off, 3)) (ht : (pc : Int) + off = (tgt : Int)) (kt : 0 ≤ x → V l M S tgt ls st w k n) (kf : ¬ 0 ≤ x → V l M S (pc + 3) ls st w k n) : V l M S pc ls (.int x :: st) w k n := by
  intro p e s m args below meth c H locs lsA D ad0 ad A cells slots hC hN hL hk hn
  exact lv_if_ge hC.1 hC.2.1 hd ht (fun z => kt z p e s m args below meth c H locs lsA D ad0 ad A cells slots hC hN hL hk hn) (fun z => kf z p e s m args below meth c H locs lsA D ad0 ad A cells slots hC hN hL hk hn)
theorem V_if_gt {x : Int32} {off : Int} {tgt : Nat} (hd : decode M.2.1 pc = .ok (.ifCond .gt off, 3)) (ht : (pc : Int) + off = (tgt : Int)) (kt : 0 < x → V l M S tgt ls st w k n) (kf : ¬ 0 < x → V l M S (pc + 3) ls st w k n) : V l M S pc ls (.int x :: st) w k n := by
  intro p e s m args below meth c H locs lsA D ad0 ad A cells slots hC hN hL hk hn
  exact lv_if_gt hC.1 hC.2.1 hd ht (fun z => kt z p e s m args below meth c H locs lsA D ad0 ad A cells slots hC hN hL hk hn) (fun z => kf z p e s m args below meth c H locs lsA D ad0 ad A cells slots hC hN hL hk hn)
theorem V_if_le {x : Int32} {off : Int} {tgt : Nat} (hd : decode M.2.1 pc = .ok (.ifCond .le off, 3)) (ht : (pc : Int) + off = (tgt : Int)) (kt : x ≤ 0 → V l M S tgt ls st w k n) (kf : ¬ x ≤ 0 → V l M S (pc + 3) ls st w k n) : V l M S pc ls (.int x :: st) w k n := by
  intro p e s m args below meth c H locs lsA D ad0 ad A cells slots hC hN hL hk hn
  exact lv_if_le hC.1 hC.2.1 hd ht (fun z => kt z p e s m args below meth c H locs lsA D ad0 ad A cells slots hC hN hL hk hn) (fun z => kf z p e s m args below meth c H locs lsA D ad0 ad A cells slots hC hN hL hk hn)
theorem V_icmp_eq {x y : Int32} {off : Int} {tgt : Nat} (hd : decode M.2.1 pc = .ok (.if_icmp .eq off, 3)) (ht : (pc : Int) + off = (tgt : Int)) (kt : x = y → V l M S tgt ls st w k n) (kf : ¬ x = y → V l M S (pc + 3) ls st w k n) : V l M S pc ls (.int y :: .int x :: st) w k n := by
  intro p e s m args below meth c H locs lsA D ad0 ad A cells slots hC hN hL hk hn
  exact lv_icmp_eq hC.1 hC.2.1 hd ht (fun z => kt z p e s m args below meth c H locs lsA D ad0 ad A cells slots hC hN hL hk hn) (fun z => kf z p e s m args below meth c H locs lsA D ad0 ad A cells slots hC hN hL hk hn)
theorem V_icmp_ne {x y : Int32} {off : Int} {tgt : Nat} (hd : decode M.2.1 pc = .ok (.if_icmp .ne off, 3)) (ht : (pc : Int) + off = (tgt : Int)) (kt : ¬ x = y → V l M S tgt ls st w k n) (kf : x = y → V l M S (pc + 3) ls st w k n) : V l M S pc ls (.int y :: .int x :: st) w k n := by
  intro p e s m args below meth c H locs lsA D ad0 ad A cells slots hC hN hL hk hn
  exact lv_icmp_ne hC.1 hC.2.1 hd ht (fun z => kt z p e s m args below meth c H locs lsA D ad0 ad A cells slots hC hN hL hk hn) (fun z => kf z p e s m args below meth c H locs lsA D ad0 ad A cells slots hC hN hL hk hn)
theorem V_icmp_lt {x y : Int32} {off : Int} {tgt : Nat} (hd : decode M.2.1 pc = .ok (.if_icmp .lt off, 3)) (ht : (pc : Int) + off = (tgt : Int)) (kt : x < y → V l M S tgt ls st w k n) (kf : ¬ x < y → V l M S (pc + 3) ls st w k n) : V l M S pc ls (.int y :: .int x :: st) w k n := by
  intro p e s m args below meth c H locs lsA D ad0 ad A cells slots hC hN hL hk hn
  exact lv_icmp_lt hC.1 hC.2.1 hd ht (fun z => kt z p e s m args below meth c H locs lsA D ad0 ad A cells slots hC hN hL hk hn) (fun z => kf z p e s m args below meth c H locs lsA D ad0 ad A cells slots hC hN hL hk hn)
theorem V_icmp_ge {x y : Int32} {off : Int} {tgt : Nat} (hd : decode M.2.1 pc = .ok (.if_icmp .ge off, 3)) (ht : (pc : Int) + off = (tgt : Int)) (kt : y ≤ x → V l M S tgt ls st w k n) (kf : ¬ y ≤ x → V l M S (pc + 3) ls st w k n) : V l M S pc ls (.int y :: .int x :: st) w k n := by
  intro p e s m args below meth c H locs lsA D ad0 ad A cells slots hC hN hL hk hn
  exact lv_icmp_ge hC.1 hC.2.1 hd ht (fun z => kt z p e s m args below meth c H locs lsA D ad0 ad A cells slots hC hN hL hk hn) (fun z => kf z p e s m args below meth c H locs lsA D ad0 ad A cells slots hC hN hL hk hn)
theorem V_icmp_gt {x y : Int32} {off : Int} {tgt : Nat} (hd : decode M.2.1 pc = .ok (.if_icmp .gt off, 3)) (ht : (pc : Int) + off = (tgt : Int)) (kt : y < x → V l M S tgt ls st w k n) (kf : ¬ y < x → V l M S (pc + 3) ls st w k n) : V l M S pc ls (.int y :: .int x :: st) w k n := by
  intro p e s m args below meth c H locs lsA D ad0 ad A cells slots hC hN hL hk hn
  exact lv_icmp_gt hC.1 hC.2.1 hd ht (fun z => kt z p e s m args below meth c H locs lsA D ad0 ad A cells slots hC hN hL hk hn) (fun z => kf z p e s m args below meth c H locs lsA D ad0 ad A cells slots hC hN hL hk hn)
theorem V_icmp_le {x y : Int32} {off : Int} {tgt : Nat} (hd : decode M.2.1 pc = .ok (.if_icmp .le off, 3)) (ht : (pc : Int) + off = (tgt : Int)) (kt : x ≤ y → V l M S tgt ls st w k n) (kf : ¬ x ≤ y → V l M S (pc + 3) ls st w k n) : V l M S pc ls (.int y :: .int x :: st) w k n := by
  intro p e s m args below meth c H locs lsA D ad0 ad A cells slots hC hN hL hk hn
  exact lv_icmp_le hC.1 hC.2.1 hd ht (fun z => kt z p e s m args below meth c H locs lsA D ad0 ad A cells slots hC hN hL hk hn) (fun z => kf z p e s m args below meth c H locs lsA D ad0 ad A cells slots hC hN hL hk hn)
theorem V_goto {off : Int} {tgt : Nat} (hd : decode M.2.1 pc = .ok (.goto off, 3)) (ht : (pc : Int) + off = (tgt : Int)) (kk : V l M S tgt ls st w k n) : V l M S pc ls st w k n := by
  intro p e s m args below meth c H locs lsA D ad0 ad A cells slots hC hN hL hk hn
  exact lv_goto hC.1 hC.2.1 hd ht (kk p e s m args below meth c H locs lsA D ad0 ad A cells slots hC hN hL hk hn)
theorem V_ifnonnull {x : Nat} {off : Int} {tgt : Nat} (hd : decode M.2.1 pc = .ok (.ifnonnull off, 3)) (ht : (pc : Int) + off = (tgt : Int)) (kk : V l M S tgt ls st w k n) : V l M S pc ls (.ref x :: st) w k n := by
  intro p e s m args below meth c H locs lsA D ad0 ad A cells slots hC hN hL hk hn
  exact lv_ifnonnull hC.1 hC.2.1 hd ht (kk p e s m args below meth c H locs lsA D ad0 ad A cells slots hC hN hL hk hn)
theorem V_ifnull {x : Nat} {off : Int} (hd : decode M.2.1 pc = .ok (.ifnull off, 3)) (kk : V l M S (pc + 3) ls st w k n) : V l M S pc ls (.ref x :: st) w k n := by
  intro p e s m args below meth c H locs lsA D ad0 ad A cells slots hC hN hL hk hn
  exact lv_ifnull hC.1 hC.2.1 hd (kk p e s m args below meth c H locs lsA D ad0 ad A cells slots hC hN hL hk hn)
theorem V_ifnullN {off : Int} {tgt : Nat} (hd : decode M.2.1 pc = .ok (.ifnull off, 3)) (ht : (pc : Int) + off = (tgt : Int)) (kk : V l M S tgt ls st w k n) : V l M S pc ls (.null :: st) w k n := by
  intro p e s m args below meth c H locs lsA D ad0 ad A cells slots hC hN hL hk hn
  exact lv_ifnullN hC.1 hC.2.1 hd ht (kk p e s m args below meth c H locs lsA D ad0 ad A cells slots hC hN hL hk hn)
theorem V_ifnonnullN {off : Int} (hd : decode M.2.1 pc = .ok (.ifnonnull off, 3)) (kk : V l M S (pc + 3) ls st w k n) : V l M S pc ls (.null :: st) w k n := by
  intro p e s m args below meth c H locs lsA D ad0 ad A cells slots hC hN hL hk hn
  exact lv_ifnonnullN hC.1 hC.2.1 hd (kk p e s m args below meth c H locs lsA D ad0 ad A cells slots hC hN hL hk hn)
theorem V_castN {i : Nat} (hd : decode M.2.1 pc = .ok (.checkcast i, 3)) (kk : V l M S (pc + 3) ls (.null :: st) w k n) : V l M S pc ls (.null :: st) w k n := by
  intro p e s m args below meth c H locs lsA D ad0 ad A cells slots hC hN hL hk hn
  exact lv_castN hC.1 hC.2.1 hd (kk p e s m args below meth c H locs lsA D ad0 ad A cells slots hC hN hL hk hn)
theorem V_lookup {dflt : Int} {ps : Array (Int × Int)} {len : Nat} {x : Int32} {off : Int} {tgt : Nat} (hd : decode M.2.1 pc = .ok (.lookupswitch dflt ps, len)) (hp : (ps.toList.zip (ps.toList.drop 1)).all (fun (a, next) => a.1 < next.1) = true) (ho : Op.lookupswitch.offset ps.toList dflt x.toInt = off) (ht : (pc : Int) + off = (tgt : Int)) (kk : V l M S tgt ls st w k n) : V l M S pc ls (.int x :: st) w k n := by
  intro p e s m args below meth c H locs lsA D ad0 ad A cells slots hC hN hL hk hn
  exact lv_lookup hC.1 hC.2.1 hd hp ho ht (kk p e s m args below meth c H locs lsA D ad0 ad A cells slots hC hN hL hk hn)
theorem V_tableOut {dflt lo hi : Int} {offs : Array Int} {len : Nat} {x : Int32} {tgt : Nat} (hd : decode M.2.1 pc = .ok (.tableswitch dflt lo hi offs, len)) (h : x.toInt < lo ∨ hi < x.toInt) (ht : (pc : Int) + dflt = (tgt : Int)) (kk : V l M S tgt ls st w k n) : V l M S pc ls (.int x :: st) w k n := by
  intro p e s m args below meth c H locs lsA D ad0 ad A cells slots hC hN hL hk hn
  exact lv_tableOut hC.1 hC.2.1 hd h ht (kk p e s m args below meth c H locs lsA D ad0 ad A cells slots hC hN hL hk hn)
theorem V_tableIn {dflt lo hi : Int} {offs : Array Int} {len : Nat} {x : Int32} {off : Int} {tgt : Nat} (hd : decode M.2.1 pc = .ok (.tableswitch dflt lo hi offs, len)) (h1 : ¬ x.toInt < lo) (h2 : ¬ hi < x.toInt) (ho : offs[(x.toInt - lo).toNat]? = some off) (ht : (pc : Int) + off = (tgt : Int)) (kk : V l M S tgt ls st w k n) : V l M S pc ls (.int x :: st) w k n := by
  intro p e s m args below meth c H locs lsA D ad0 ad A cells slots hC hN hL hk hn
  exact lv_tableIn hC.1 hC.2.1 hd h1 h2 ho ht (kk p e s m args below meth c H locs lsA D ad0 ad A cells slots hC hN hL hk hn)
theorem V_ireturn {v : Int32} (hd : decode M.2.1 pc = .ok (.ireturn, 1)) (hr : M.2.2.2.1 = some .int) (hq : S.2.2.1 (some (.int v)) w) : V l M S pc ls ([.int v]) w k n := by
  intro p e s m args below meth c H locs lsA D ad0 ad A cells slots hC hN hL hk hn
  refine W.widen (k := S.1.cells) (n := S.1.slots) (Nat.le_trans (Nat.le_add_right _ _) hk) (Nat.le_trans (Nat.le_add_right _ _) hn) (vx_ret ?_)
  exact W.iret hC.1 hC.2.1 (by rw [hC.2.2.2.1]; exact hr) (fun t ht hW => ⟨⟨some (.int v), w, ad, rfl, hq, hN.2.2, by rw [ht]; exact hN.1.moved hW.alike⟩, hN.2.1.F ht⟩) hN.2.1.2.2 hd (hlocks := hC.2.2.2.2.1)
theorem V_zreturn {v : Int32} {ty : FieldType} (hd : decode M.2.1 pc = .ok (.ireturn, 1)) (hr : M.2.2.2.1 = some ty) (hnr : narrow ty (.int v) = .int v) (hq : S.2.2.1 (some (.int v)) w) : V l M S pc ls ([.int v]) w k n := by
  intro p e s m args below meth c H locs lsA D ad0 ad A cells slots hC hN hL hk hn
  refine W.widen (k := S.1.cells) (n := S.1.slots) (Nat.le_trans (Nat.le_add_right _ _) hk) (Nat.le_trans (Nat.le_add_right _ _) hn) (vx_ret ?_)
  exact W.zret hC.1 hC.2.1 (by rw [hC.2.2.2.1]; exact hr) hnr (fun t ht hW => ⟨⟨some (.int v), w, ad, rfl, hq, hN.2.2, by rw [ht]; exact hN.1.moved hW.alike⟩, hN.2.1.F ht⟩) hN.2.1.2.2 hd (hlocks := hC.2.2.2.2.1)
theorem V_lreturn {v : Int64} (hd : decode M.2.1 pc = .ok (.lreturn, 1)) (hr : M.2.2.2.1 = some .long) (hq : S.2.2.1 (some (.long v)) w) : V l M S pc ls ([.long v]) w k n := by
  intro p e s m args below meth c H locs lsA D ad0 ad A cells slots hC hN hL hk hn
  refine W.widen (k := S.1.cells) (n := S.1.slots) (Nat.le_trans (Nat.le_add_right _ _) hk) (Nat.le_trans (Nat.le_add_right _ _) hn) (vx_ret ?_)
  exact W.lret hC.1 hC.2.1 (by rw [hC.2.2.2.1]; exact hr) (fun t ht hW => ⟨⟨some (.long v), w, ad, rfl, hq, hN.2.2, by rw [ht]; exact hN.1.moved hW.alike⟩, hN.2.1.F ht⟩) hN.2.1.2.2 hd (hlocks := hC.2.2.2.2.1)
theorem V_vreturn  (hd : decode M.2.1 pc = .ok (.return_, 1)) (hr : M.2.2.2.1 = none) (hq : S.2.2.1 (none) w) : V l M S pc ls ([]) w k n := by
  intro p e s m args below meth c H locs lsA D ad0 ad A cells slots hC hN hL hk hn
  refine W.widen (k := S.1.cells) (n := S.1.slots) (Nat.le_trans (Nat.le_add_right _ _) hk) (Nat.le_trans (Nat.le_add_right _ _) hn) (vx_ret ?_)
  exact W.vret hC.1 hC.2.1 (by rw [hC.2.2.2.1]; exact hr) (fun t ht hW => ⟨⟨none, w, ad, rfl, hq, hN.2.2, by rw [ht]; exact hN.1.moved hW.alike⟩, hN.2.1.F ht⟩) hN.2.1.2.2 hd (hlocks := hC.2.2.2.2.1)
theorem V_areturn {v : Value} {rt : FieldType} (hd : decode M.2.1 pc = .ok (.areturn, 1)) (hr : M.2.2.2.1 = some rt) (hrt : (∃ n, rt = .object n) ∨ ∃ t, rt = .array t) (hv : v = .null ∨ ∃ a, v = .ref a) (hq : S.2.2.1 (some v) w) : V l M S pc ls ([v]) w k n := by
  intro p e s m args below meth c H locs lsA D ad0 ad A cells slots hC hN hL hk hn
  refine W.widen (k := S.1.cells) (n := S.1.slots) (Nat.le_trans (Nat.le_add_right _ _) hk) (Nat.le_trans (Nat.le_add_right _ _) hn) (vx_ret ?_)
  exact W.aret hC.1 hC.2.1 (by rw [hC.2.2.2.1]; exact hr) hrt (by rcases hv with rfl | ⟨a, rfl⟩; exact Or.inl rfl; exact Or.inr ⟨_, rfl⟩) (fun t ht hW => ⟨⟨some v, w, ad, rfl, hq, hN.2.2, by rw [ht]; exact hN.1.moved hW.alike⟩, hN.2.1.F ht⟩) hN.2.1.2.2 hd (hlocks := hC.2.2.2.2.1)
theorem V_w {w2 : xW} (h : w = w2) (kk : V l M S pc ls st w2 k n) : V l M S pc ls st w k n := by subst h; exact kk
theorem V_ls {ls2 : List (Option Value)} (h : ls = ls2) (kk : V l M S pc ls2 st w k n) : V l M S pc ls st w k n := by subst h; exact kk
theorem xl_fg {ad : Nat → Nat} {ls : List (Option Value)} (i : Nat) : ∀ q ∈ xl ad (ls.set i none), q ∈ xl ad ls := by
  intro q hq
  obtain ⟨v, h1, h2⟩ := xl_mem.mp hq
  refine xl_mem.mpr ⟨v, ?_, h2⟩
  by_cases e : i = q.1
  · rw [List.getElem?_set] at h1
    rw [if_pos e] at h1
    split at h1 <;> cases h1
  · rw [List.getElem?_set_ne e] at h1
    exact h1
theorem V_forget (i : Nat) (kk : V l M S pc (ls.set i none) st w k n) : V l M S pc ls st w k n := by
  intro p e s m args below meth c H locs lsA D ad0 ad A cells slots hC hN hL hk hn
  exact kk p e s m args below meth c H locs lsA D ad0 ad A cells slots hC hN (xl_has hL (xl_fg i)) hk hn
theorem V_topi {x y : Int32} (h : x = y) (kk : V l M S pc ls (.int y :: st) w k n) : V l M S pc ls (.int x :: st) w k n := by subst h; exact kk
theorem V_topl {x y : Int64} (h : x = y) (kk : V l M S pc ls (.long y :: st) w k n) : V l M S pc ls (.long x :: st) w k n := by subst h; exact kk
theorem V_room {k2 n2 : Nat} (h1 : k2 ≤ k) (h2 : n2 ≤ n) (kk : V l M S pc ls st w k2 n2) : V l M S pc ls st w k n := by
  intro p e s m args below meth c H locs lsA D ad0 ad A cells slots hC hN hL hk hn
  exact kk p e s m args below meth c H locs lsA D ad0 ad A cells slots hC hN hL (by omega) (by omega)
end V1
