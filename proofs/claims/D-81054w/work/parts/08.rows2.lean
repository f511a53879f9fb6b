section WSQ
variable {p : Program} {l : Launch} {e : Env} {R : Room} {s : State} {m : MethodId} {args : Array Value} {below : List Frame} {meth : Method} {c : Code} {G : Gl} {own : String} {cc : ByteArray} {nL d : Nat} {ret : Option FieldType} {Q : Outcome → Sg → Prop} {pc : Nat} {lv lv' : List (Nat × Value)} {st : List Value} {σ : Sg}
theorem vrf_cat (r : Option Nat) : (va_rf r).category = 1 := sorry
theorem ws_lv (ks : List Nat) (h : lv_pick lv ks = lv') (kk : WS p l e R s m args below meth c G nL Q pc lv' st σ) : WS p l e R s m args below meth c G nL Q pc lv st σ := sorry
theorem ws_st {st' : List Value} (h : st = st') (kk : WS p l e R s m args below meth c G nL Q pc lv st' σ) : WS p l e R s m args below meth c G nL Q pc lv st σ := sorry
theorem ws_valid (kk : (∀ c i j k, σ.R c i j = some k → k < cnt (tgt c)) → WS p l e R s m args below meth c G nL Q pc lv st σ) : WS p l e R s m args below meth c G nL Q pc lv st σ := sorry
theorem ws_iconst (C : Cx p l R s m args meth c G own cc nL ret d) {n : Int} {v : Int32} (hd : decode cc pc = .ok (.iconst n, 1)) (hv : Int32.ofInt n = v)
    (kk : WS p l e R s m args below meth c G nL Q (pc + 1) lv (.int v :: st) σ) : WS p l e R s m args below meth c G nL Q pc lv st σ := sorry
theorem ws_bipush (C : Cx p l R s m args meth c G own cc nL ret d) {n : Int} {v : Int32} (hd : decode cc pc = .ok (.bipush n, 2)) (hv : (Int8.ofInt n).toInt32 = v)
    (kk : WS p l e R s m args below meth c G nL Q (pc + 2) lv (.int v :: st) σ) : WS p l e R s m args below meth c G nL Q pc lv st σ := sorry
theorem ws_sipush (C : Cx p l R s m args meth c G own cc nL ret d) {n : Int} {v : Int32} (hd : decode cc pc = .ok (.sipush n, 3)) (hv : (Int16.ofInt n).toInt32 = v)
    (kk : WS p l e R s m args below meth c G nL Q (pc + 3) lv (.int v :: st) σ) : WS p l e R s m args below meth c G nL Q pc lv st σ := sorry
theorem ws_lconst (C : Cx p l R s m args meth c G own cc nL ret d) {n : Fin 2} {v : Int64} (hd : decode cc pc = .ok (.lconst n, 1)) (hv : Int64.ofNat (n : Nat) = v)
    (kk : WS p l e R s m args below meth c G nL Q (pc + 1) lv (.long v :: st) σ) : WS p l e R s m args below meth c G nL Q pc lv st σ := sorry
theorem ws_null (C : Cx p l R s m args meth c G own cc nL ret d)  (hd : decode cc pc = .ok (.aconst_null, 1))
    (kk : WS p l e R s m args below meth c G nL Q (pc + 1) lv (.null :: st) σ) : WS p l e R s m args below meth c G nL Q pc lv st σ := sorry
theorem ws_iadd (C : Cx p l R s m args meth c G own cc nL ret d) {x y : Int32} (hd : decode cc pc = .ok (.iadd, 1))
    (kk : WS p l e R s m args below meth c G nL Q (pc + 1) lv (.int (x + y) :: st) σ) : WS p l e R s m args below meth c G nL Q pc lv (.int y :: .int x :: st) σ := sorry
theorem ws_isub (C : Cx p l R s m args meth c G own cc nL ret d) {x y : Int32} (hd : decode cc pc = .ok (.isub, 1))
    (kk : WS p l e R s m args below meth c G nL Q (pc + 1) lv (.int (x - y) :: st) σ) : WS p l e R s m args below meth c G nL Q pc lv (.int y :: .int x :: st) σ := sorry
theorem ws_imul (C : Cx p l R s m args meth c G own cc nL ret d) {x y : Int32} (hd : decode cc pc = .ok (.imul, 1))
    (kk : WS p l e R s m args below meth c G nL Q (pc + 1) lv (.int (x * y) :: st) σ) : WS p l e R s m args below meth c G nL Q pc lv (.int y :: .int x :: st) σ := sorry
theorem ws_iand (C : Cx p l R s m args meth c G own cc nL ret d) {x y : Int32} (hd : decode cc pc = .ok (.iand, 1))
    (kk : WS p l e R s m args below meth c G nL Q (pc + 1) lv (.int (x &&& y) :: st) σ) : WS p l e R s m args below meth c G nL Q pc lv (.int y :: .int x :: st) σ := sorry
theorem ws_ior (C : Cx p l R s m args meth c G own cc nL ret d) {x y : Int32} (hd : decode cc pc = .ok (.ior, 1))
    (kk : WS p l e R s m args below meth c G nL Q (pc + 1) lv (.int (x ||| y) :: st) σ) : WS p l e R s m args below meth c G nL Q pc lv (.int y :: .int x :: st) σ := sorry
theorem ws_ixor (C : Cx p l R s m args meth c G own cc nL ret d) {x y : Int32} (hd : decode cc pc = .ok (.ixor, 1))
    (kk : WS p l e R s m args below meth c G nL Q (pc + 1) lv (.int (x ^^^ y) :: st) σ) : WS p l e R s m args below meth c G nL Q pc lv (.int y :: .int x :: st) σ := sorry
theorem ws_ladd (C : Cx p l R s m args meth c G own cc nL ret d) {x y : Int64} (hd : decode cc pc = .ok (.ladd, 1))
    (kk : WS p l e R s m args below meth c G nL Q (pc + 1) lv (.long (x + y) :: st) σ) : WS p l e R s m args below meth c G nL Q pc lv (.long y :: .long x :: st) σ := sorry
theorem ws_lsub (C : Cx p l R s m args meth c G own cc nL ret d) {x y : Int64} (hd : decode cc pc = .ok (.lsub, 1))
    (kk : WS p l e R s m args below meth c G nL Q (pc + 1) lv (.long (x - y) :: st) σ) : WS p l e R s m args below meth c G nL Q pc lv (.long y :: .long x :: st) σ := sorry
theorem ws_lmul (C : Cx p l R s m args meth c G own cc nL ret d) {x y : Int64} (hd : decode cc pc = .ok (.lmul, 1))
    (kk : WS p l e R s m args below meth c G nL Q (pc + 1) lv (.long (x * y) :: st) σ) : WS p l e R s m args below meth c G nL Q pc lv (.long y :: .long x :: st) σ := sorry
theorem ws_land (C : Cx p l R s m args meth c G own cc nL ret d) {x y : Int64} (hd : decode cc pc = .ok (.land, 1))
    (kk : WS p l e R s m args below meth c G nL Q (pc + 1) lv (.long (x &&& y) :: st) σ) : WS p l e R s m args below meth c G nL Q pc lv (.long y :: .long x :: st) σ := sorry
theorem ws_lor (C : Cx p l R s m args meth c G own cc nL ret d) {x y : Int64} (hd : decode cc pc = .ok (.lor, 1))
    (kk : WS p l e R s m args below meth c G nL Q (pc + 1) lv (.long (x ||| y) :: st) σ) : WS p l e R s m args below meth c G nL Q pc lv (.long y :: .long x :: st) σ := sorry
theorem ws_ineg (C : Cx p l R s m args meth c G own cc nL ret d) {x : Int32} (hd : decode cc pc = .ok (.ineg, 1))
    (kk : WS p l e R s m args below meth c G nL Q (pc + 1) lv (.int (-x) :: st) σ) : WS p l e R s m args below meth c G nL Q pc lv (.int x :: st) σ := sorry
theorem ws_lneg (C : Cx p l R s m args meth c G own cc nL ret d) {x : Int64} (hd : decode cc pc = .ok (.lneg, 1))
    (kk : WS p l e R s m args below meth c G nL Q (pc + 1) lv (.long (-x) :: st) σ) : WS p l e R s m args below meth c G nL Q pc lv (.long x :: st) σ := sorry
theorem ws_idiv (C : Cx p l R s m args meth c G own cc nL ret d) {x y : Int32} (hd : decode cc pc = .ok (.idiv, 1)) (hne : ¬ y = 0)
    (kk : WS p l e R s m args below meth c G nL Q (pc + 1) lv (.int (x / y) :: st) σ) : WS p l e R s m args below meth c G nL Q pc lv (.int y :: .int x :: st) σ := sorry
theorem ws_irem (C : Cx p l R s m args meth c G own cc nL ret d) {x y : Int32} (hd : decode cc pc = .ok (.irem, 1)) (hne : ¬ y = 0)
    (kk : WS p l e R s m args below meth c G nL Q (pc + 1) lv (.int (x - x / y * y) :: st) σ) : WS p l e R s m args below meth c G nL Q pc lv (.int y :: .int x :: st) σ := sorry
theorem ws_ldiv (C : Cx p l R s m args meth c G own cc nL ret d) {x y : Int64} (hd : decode cc pc = .ok (.ldiv, 1)) (hne : ¬ y = 0)
    (kk : WS p l e R s m args below meth c G nL Q (pc + 1) lv (.long (x / y) :: st) σ) : WS p l e R s m args below meth c G nL Q pc lv (.long y :: .long x :: st) σ := sorry
theorem ws_lrem (C : Cx p l R s m args meth c G own cc nL ret d) {x y : Int64} (hd : decode cc pc = .ok (.lrem, 1)) (hne : ¬ y = 0)
    (kk : WS p l e R s m args below meth c G nL Q (pc + 1) lv (.long (x - x / y * y) :: st) σ) : WS p l e R s m args below meth c G nL Q pc lv (.long y :: .long x :: st) σ := sorry
theorem ws_ishr (C : Cx p l R s m args meth c G own cc nL ret d) {x y : Int32} (hd : decode cc pc = .ok (.ishr, 1))
    (kk : WS p l e R s m args below meth c G nL Q (pc + 1) lv (.int (x >>> (y &&& 31)) :: st) σ) : WS p l e R s m args below meth c G nL Q pc lv (.int y :: .int x :: st) σ := sorry
theorem ws_i2l (C : Cx p l R s m args meth c G own cc nL ret d) {x : Int32} (hd : decode cc pc = .ok (.i2l, 1))
    (kk : WS p l e R s m args below meth c G nL Q (pc + 1) lv (.long x.toInt64 :: st) σ) : WS p l e R s m args below meth c G nL Q pc lv (.int x :: st) σ := sorry
theorem ws_l2i (C : Cx p l R s m args meth c G own cc nL ret d) {x : Int64} (hd : decode cc pc = .ok (.l2i, 1))
    (kk : WS p l e R s m args below meth c G nL Q (pc + 1) lv (.int x.toInt32 :: st) σ) : WS p l e R s m args below meth c G nL Q pc lv (.long x :: st) σ := sorry
theorem ws_i2b (C : Cx p l R s m args meth c G own cc nL ret d) {x : Int32} (hd : decode cc pc = .ok (.i2b, 1))
    (kk : WS p l e R s m args below meth c G nL Q (pc + 1) lv (.int x.toInt8.toInt32 :: st) σ) : WS p l e R s m args below meth c G nL Q pc lv (.int x :: st) σ := sorry
theorem ws_iushr (C : Cx p l R s m args meth c G own cc nL ret d) {x y : Int32} (hd : decode cc pc = .ok (.iushr, 1))
    (kk : WS p l e R s m args below meth c G nL Q (pc + 1) lv (.int (x.toUInt32 >>> (y.toUInt32 &&& Int32.toUInt32 31)).toInt32 :: st) σ) : WS p l e R s m args below meth c G nL Q pc lv (.int y :: .int x :: st) σ := sorry
theorem ws_lushr (C : Cx p l R s m args meth c G own cc nL ret d) {x : Int64} {y : Int32} (hd : decode cc pc = .ok (.lushr, 1))
    (kk : WS p l e R s m args below meth c G nL Q (pc + 1) lv (.long (x.toUInt64 >>> (y.toInt64.toUInt64 &&& Int64.toUInt64 63)).toInt64 :: st) σ) : WS p l e R s m args below meth c G nL Q pc lv (.int y :: .long x :: st) σ := sorry
theorem ws_lshl (C : Cx p l R s m args meth c G own cc nL ret d) {x : Int64} {y : Int32} (hd : decode cc pc = .ok (.lshl, 1))
    (kk : WS p l e R s m args below meth c G nL Q (pc + 1) lv (.long (x <<< (y.toInt64 &&& 63)) :: st) σ) : WS p l e R s m args below meth c G nL Q pc lv (.int y :: .long x :: st) σ := sorry
theorem ws_lshr (C : Cx p l R s m args meth c G own cc nL ret d) {x : Int64} {y : Int32} (hd : decode cc pc = .ok (.lshr, 1))
    (kk : WS p l e R s m args below meth c G nL Q (pc + 1) lv (.long (x >>> (y.toInt64 &&& 63)) :: st) σ) : WS p l e R s m args below meth c G nL Q pc lv (.int y :: .long x :: st) σ := sorry
theorem ws_lcmp (C : Cx p l R s m args meth c G own cc nL ret d) {x y : Int64} (hd : decode cc pc = .ok (.lcmp, 1))
    (kk : WS p l e R s m args below meth c G nL Q (pc + 1) lv (.int (lg_cmp x y) :: st) σ) : WS p l e R s m args below meth c G nL Q pc lv (.long y :: .long x :: st) σ := sorry
theorem ws_dup (C : Cx p l R s m args meth c G own cc nL ret d) {v : Value} (hd : decode cc pc = .ok (.dup, 1)) (h1 : v.category = 1)
    (kk : WS p l e R s m args below meth c G nL Q (pc + 1) lv (v :: v :: st) σ) : WS p l e R s m args below meth c G nL Q pc lv (v :: st) σ := sorry
theorem ws_pop (C : Cx p l R s m args meth c G own cc nL ret d) {v : Value} (hd : decode cc pc = .ok (.pop, 1)) (h1 : v.category = 1)
    (kk : WS p l e R s m args below meth c G nL Q (pc + 1) lv st σ) : WS p l e R s m args below meth c G nL Q pc lv (v :: st) σ := sorry
theorem ws_dup_x1 (C : Cx p l R s m args meth c G own cc nL ret d) {v w : Value} (hd : decode cc pc = .ok (.dup_x1, 1)) (h1 : v.category = 1) (h2 : w.category = 1)
    (kk : WS p l e R s m args below meth c G nL Q (pc + 1) lv (v :: w :: v :: st) σ) : WS p l e R s m args below meth c G nL Q pc lv (v :: w :: st) σ := sorry
theorem ws_dup2 (C : Cx p l R s m args meth c G own cc nL ret d) {v w : Value} (hd : decode cc pc = .ok (.dup2, 1)) (h1 : v.category = 1) (h2 : w.category = 1)
    (kk : WS p l e R s m args below meth c G nL Q (pc + 1) lv (v :: w :: v :: w :: st) σ) : WS p l e R s m args below meth c G nL Q pc lv (v :: w :: st) σ := sorry
theorem ws_dup2L (C : Cx p l R s m args meth c G own cc nL ret d) {v : Value} (hd : decode cc pc = .ok (.dup2, 1)) (h1 : v.category = 2)
    (kk : WS p l e R s m args below meth c G nL Q (pc + 1) lv (v :: v :: st) σ) : WS p l e R s m args below meth c G nL Q pc lv (v :: st) σ := sorry
theorem ws_pop2L (C : Cx p l R s m args meth c G own cc nL ret d) {v : Value} (hd : decode cc pc = .ok (.pop2, 1)) (h1 : v.category = 2)
    (kk : WS p l e R s m args below meth c G nL Q (pc + 1) lv st σ) : WS p l e R s m args below meth c G nL Q pc lv (v :: st) σ := sorry
theorem ws_iload_n (C : Cx p l R s m args meth c G own cc nL ret d) {n : Fin 4} {i : Nat} {x : Int32} (k : Nat) (hk : lv[k]? = some (i, .int x)) (hd : decode cc pc = .ok (.iload_n n, 1)) (hn : (n : Nat) = i)
    (kk : WS p l e R s m args below meth c G nL Q (pc + 1) lv (.int x :: st) σ) : WS p l e R s m args below meth c G nL Q pc lv st σ := sorry
theorem ws_iload (C : Cx p l R s m args meth c G own cc nL ret d) {i : Nat} {x : Int32} (k : Nat) (hk : lv[k]? = some (i, .int x)) (hd : decode cc pc = .ok (.iload i, 2))
    (kk : WS p l e R s m args below meth c G nL Q (pc + 2) lv (.int x :: st) σ) : WS p l e R s m args below meth c G nL Q pc lv st σ := sorry
theorem ws_lload_n (C : Cx p l R s m args meth c G own cc nL ret d) {n : Fin 4} {i : Nat} {x : Int64} (k : Nat) (hk : lv[k]? = some (i, .long x)) (hd : decode cc pc = .ok (.lload_n n, 1)) (hn : (n : Nat) = i)
    (kk : WS p l e R s m args below meth c G nL Q (pc + 1) lv (.long x :: st) σ) : WS p l e R s m args below meth c G nL Q pc lv st σ := sorry
theorem ws_lload (C : Cx p l R s m args meth c G own cc nL ret d) {i : Nat} {x : Int64} (k : Nat) (hk : lv[k]? = some (i, .long x)) (hd : decode cc pc = .ok (.lload i, 2))
    (kk : WS p l e R s m args below meth c G nL Q (pc + 2) lv (.long x :: st) σ) : WS p l e R s m args below meth c G nL Q pc lv st σ := sorry
theorem ws_aload_n (C : Cx p l R s m args meth c G own cc nL ret d) {n : Fin 4} {i : Nat} {x : Nat} (k : Nat) (hk : lv[k]? = some (i, .ref x)) (hd : decode cc pc = .ok (.aload_n n, 1)) (hn : (n : Nat) = i)
    (kk : WS p l e R s m args below meth c G nL Q (pc + 1) lv (.ref x :: st) σ) : WS p l e R s m args below meth c G nL Q pc lv st σ := sorry
theorem ws_aload (C : Cx p l R s m args meth c G own cc nL ret d) {i : Nat} {x : Nat} (k : Nat) (hk : lv[k]? = some (i, .ref x)) (hd : decode cc pc = .ok (.aload i, 2))
    (kk : WS p l e R s m args below meth c G nL Q (pc + 2) lv (.ref x :: st) σ) : WS p l e R s m args below meth c G nL Q pc lv st σ := sorry
theorem ws_aload_nR (C : Cx p l R s m args meth c G own cc nL ret d) {n : Fin 4} {i : Nat} {r : Option Nat} (k : Nat) (hk : lv[k]? = some (i, va_rf r)) (hd : decode cc pc = .ok (.aload_n n, 1)) (hn : (n : Nat) = i)
    (kk : WS p l e R s m args below meth c G nL Q (pc + 1) lv (va_rf r :: st) σ) : WS p l e R s m args below meth c G nL Q pc lv st σ := sorry
theorem ws_aloadR (C : Cx p l R s m args meth c G own cc nL ret d) {i : Nat} {r : Option Nat} (k : Nat) (hk : lv[k]? = some (i, va_rf r)) (hd : decode cc pc = .ok (.aload i, 2))
    (kk : WS p l e R s m args below meth c G nL Q (pc + 2) lv (va_rf r :: st) σ) : WS p l e R s m args below meth c G nL Q pc lv st σ := sorry
theorem ws_istore_n (C : Cx p l R s m args meth c G own cc nL ret d) {n : Fin 4} {i : Nat} {x : Int32} (hl : (i, Value.int x) :: lv.filter (fun q => !(q.1 == i) && !(q.1 + 1 == i && q.2.category == 2)) = lv') (hd : decode cc pc = .ok (.istore_n n, 1)) (hn : (n : Nat) = i) (hi : i < nL)
    (kk : WS p l e R s m args below meth c G nL Q (pc + 1) lv' st σ) : WS p l e R s m args below meth c G nL Q pc lv (.int x :: st) σ := sorry
theorem ws_istore (C : Cx p l R s m args meth c G own cc nL ret d) {i : Nat} {x : Int32} (hl : (i, Value.int x) :: lv.filter (fun q => !(q.1 == i) && !(q.1 + 1 == i && q.2.category == 2)) = lv') (hd : decode cc pc = .ok (.istore i, 2)) (hi : i < nL)
    (kk : WS p l e R s m args below meth c G nL Q (pc + 2) lv' st σ) : WS p l e R s m args below meth c G nL Q pc lv (.int x :: st) σ := sorry
theorem ws_lstore_n (C : Cx p l R s m args meth c G own cc nL ret d) {n : Fin 4} {i : Nat} {x : Int64} (hl : (i, Value.long x) :: lv.filter (fun q => !(q.1 == i) && (!(q.1 == i + 1) && !(q.1 + 1 == i && q.2.category == 2))) = lv') (hd : decode cc pc = .ok (.lstore_n n, 1)) (hn : (n : Nat) = i) (hi : i + 1 < nL)
    (kk : WS p l e R s m args below meth c G nL Q (pc + 1) lv' st σ) : WS p l e R s m args below meth c G nL Q pc lv (.long x :: st) σ := sorry
theorem ws_lstore (C : Cx p l R s m args meth c G own cc nL ret d) {i : Nat} {x : Int64} (hl : (i, Value.long x) :: lv.filter (fun q => !(q.1 == i) && (!(q.1 == i + 1) && !(q.1 + 1 == i && q.2.category == 2))) = lv') (hd : decode cc pc = .ok (.lstore i, 2)) (hi : i + 1 < nL)
    (kk : WS p l e R s m args below meth c G nL Q (pc + 2) lv' st σ) : WS p l e R s m args below meth c G nL Q pc lv (.long x :: st) σ := sorry
theorem ws_astore_n (C : Cx p l R s m args meth c G own cc nL ret d) {n : Fin 4} {i : Nat} {x : Nat} (hl : (i, Value.ref x) :: lv.filter (fun q => !(q.1 == i) && !(q.1 + 1 == i && q.2.category == 2)) = lv') (hd : decode cc pc = .ok (.astore_n n, 1)) (hn : (n : Nat) = i) (hi : i < nL)
    (kk : WS p l e R s m args below meth c G nL Q (pc + 1) lv' st σ) : WS p l e R s m args below meth c G nL Q pc lv (.ref x :: st) σ := sorry
theorem ws_astore (C : Cx p l R s m args meth c G own cc nL ret d) {i : Nat} {x : Nat} (hl : (i, Value.ref x) :: lv.filter (fun q => !(q.1 == i) && !(q.1 + 1 == i && q.2.category == 2)) = lv') (hd : decode cc pc = .ok (.astore i, 2)) (hi : i < nL)
    (kk : WS p l e R s m args below meth c G nL Q (pc + 2) lv' st σ) : WS p l e R s m args below meth c G nL Q pc lv (.ref x :: st) σ := sorry
theorem ws_astore_nR (C : Cx p l R s m args meth c G own cc nL ret d) {n : Fin 4} {i : Nat} {r : Option Nat} (hl : (i, va_rf r) :: lv.filter (fun q => !(q.1 == i) && !(q.1 + 1 == i && q.2.category == 2)) = lv') (hd : decode cc pc = .ok (.astore_n n, 1)) (hn : (n : Nat) = i) (hi : i < nL)
    (kk : WS p l e R s m args below meth c G nL Q (pc + 1) lv' st σ) : WS p l e R s m args below meth c G nL Q pc lv (va_rf r :: st) σ := sorry
theorem ws_astoreR (C : Cx p l R s m args meth c G own cc nL ret d) {i : Nat} {r : Option Nat} (hl : (i, va_rf r) :: lv.filter (fun q => !(q.1 == i) && !(q.1 + 1 == i && q.2.category == 2)) = lv') (hd : decode cc pc = .ok (.astore i, 2)) (hi : i < nL)
    (kk : WS p l e R s m args below meth c G nL Q (pc + 2) lv' st σ) : WS p l e R s m args below meth c G nL Q pc lv (va_rf r :: st) σ := sorry
theorem ws_iinc (C : Cx p l R s m args meth c G own cc nL ret d) {i : Nat} {n : Int} {x v : Int32} (k : Nat) (hk : lv[k]? = some (i, .int x)) (hv : x + Int32.ofInt n = v) (hl : (i, Value.int v) :: lv.filter (fun q => !(q.1 == i) && !(q.1 + 1 == i && q.2.category == 2)) = lv') (hd : decode cc pc = .ok (.iinc i n, 3)) (hi : i < nL)
    (kk : WS p l e R s m args below meth c G nL Q (pc + 3) lv' st σ) : WS p l e R s m args below meth c G nL Q pc lv st σ := sorry
theorem ws_if_eq (C : Cx p l R s m args meth c G own cc nL ret d) {x : Int32} {off : Int} {tgt : Nat} (hd : decode cc pc = .ok (.ifCond .eq off, 3)) (ht : (pc : Int) + off = (tgt : Int))
    (kt : x = 0 → WS p l e R s m args below meth c G nL Q tgt lv st σ) (kf : ¬ x = 0 → WS p l e R s m args below meth c G nL Q (pc + 3) lv st σ) : WS p l e R s m args below meth c G nL Q pc lv (.int x :: st) σ := sorry
theorem ws_if_ne (C : Cx p l R s m args meth c G own cc nL ret d) {x : Int32} {off : Int} {tgt : Nat} (hd : decode cc pc = .ok (.ifCond .ne off, 3)) (ht : (pc : Int) + off = (tgt : Int))
    (kt : ¬ x = 0 → WS p l e R s m args below meth c G nL Q tgt lv st σ) (kf : x = 0 → WS p l e R s m args below meth c G nL Q (pc + 3) lv st σ) : WS p l e R s m args below meth c G nL Q pc lv (.int x :: st) σ := sorry
theorem ws_if_lt (C : Cx p l R s m args meth c G own cc nL ret d) {x : Int32} {off : Int} {tgt : Nat} (hd : decode cc pc = .ok (.ifCond .lt off, 3)) (ht : (pc : Int) + off = (tgt : Int))
    (kt : x < 0 → WS p l e R s m args below meth c G nL Q tgt lv st σ) (kf : ¬ x < 0 → WS p l e R s m args below meth c G nL Q (pc + 3) lv st σ) : WS p l e R s m args below meth c G nL Q pc lv (.int x :: st) σ := sorry
theorem ws_if_ge (C : Cx p l R s m args meth c G own cc nL ret d) {x : Int32} {off : Int} {tgt : Nat} (hd : decode cc pc = .ok (.ifCond .ge off, 3)) (ht : (pc : Int) + off = (tgt : Int))
    (kt : 0 ≤ x → WS p l e R s m args below meth c G nL Q tgt lv st σ) (kf : ¬ 0 ≤ x → WS p l e R s m args below meth c G nL Q (pc + 3) lv st σ) : WS p l e R s m args below meth c G nL Q pc lv (.int x :: st) σ := sorry
theorem ws_if_gt (C : Cx p l R s m args meth c G own cc nL ret d) {x : Int32} {off : Int} {tgt : Nat} (hd : decode cc pc = .ok (.ifCond .gt off, 3)) (ht : (pc : Int) + off = (tgt : Int))
    (kt : 0 < x → WS p l e R s m args below meth c G nL Q tgt lv st σ) (kf : ¬ 0 < x → WS p l e R s m args below meth c G nL Q (pc + 3) lv st σ) : WS p l e R s m args below meth c G nL Q pc lv (.int x :: st) σ := sorry
theorem ws_if_le (C : Cx p l R s m args meth c G own cc nL ret d) {x : Int32} {off : Int} {tgt : Nat} (hd : decode cc pc = .ok (.ifCond .le off, 3)) (ht : (pc : Int) + off = (tgt : Int))
    (kt : x ≤ 0 → WS p l e R s m args below meth c G nL Q tgt lv st σ) (kf : ¬ x ≤ 0 → WS p l e R s m args below meth c G nL Q (pc + 3) lv st σ) : WS p l e R s m args below meth c G nL Q pc lv (.int x :: st) σ := sorry
theorem ws_icmp_eq (C : Cx p l R s m args meth c G own cc nL ret d) {x y : Int32} {off : Int} {tgt : Nat} (hd : decode cc pc = .ok (.if_icmp .eq off, 3)) (ht : (pc : Int) + off = (tgt : Int))
    (kt : x = y → WS p l e R s m args below meth c G nL Q tgt lv st σ) (kf : ¬ x = y → WS p l e R s m args below meth c G nL Q (pc + 3) lv st σ) : WS p l e R s m args below meth c G nL Q pc lv (.int y :: .int x :: st) σ := sorry
theorem ws_icmp_ne (C : Cx p l R s m args meth c G own cc nL ret d) {x y : Int32} {off : Int} {tgt : Nat} (hd : decode cc pc = .ok (.if_icmp .ne off, 3)) (ht : (pc : Int) + off = (tgt : Int))
    (kt : ¬ x = y → WS p l e R s m args below meth c G nL Q tgt lv st σ) (kf : x = y → WS p l e R s m args below meth c G nL Q (pc + 3) lv st σ) : WS p l e R s m args below meth c G nL Q pc lv (.int y :: .int x :: st) σ := sorry
theorem ws_icmp_lt (C : Cx p l R s m args meth c G own cc nL ret d) {x y : Int32} {off : Int} {tgt : Nat} (hd : decode cc pc = .ok (.if_icmp .lt off, 3)) (ht : (pc : Int) + off = (tgt : Int))
    (kt : x < y → WS p l e R s m args below meth c G nL Q tgt lv st σ) (kf : ¬ x < y → WS p l e R s m args below meth c G nL Q (pc + 3) lv st σ) : WS p l e R s m args below meth c G nL Q pc lv (.int y :: .int x :: st) σ := sorry
theorem ws_icmp_ge (C : Cx p l R s m args meth c G own cc nL ret d) {x y : Int32} {off : Int} {tgt : Nat} (hd : decode cc pc = .ok (.if_icmp .ge off, 3)) (ht : (pc : Int) + off = (tgt : Int))
    (kt : y ≤ x → WS p l e R s m args below meth c G nL Q tgt lv st σ) (kf : ¬ y ≤ x → WS p l e R s m args below meth c G nL Q (pc + 3) lv st σ) : WS p l e R s m args below meth c G nL Q pc lv (.int y :: .int x :: st) σ := sorry
theorem ws_icmp_gt (C : Cx p l R s m args meth c G own cc nL ret d) {x y : Int32} {off : Int} {tgt : Nat} (hd : decode cc pc = .ok (.if_icmp .gt off, 3)) (ht : (pc : Int) + off = (tgt : Int))
    (kt : y < x → WS p l e R s m args below meth c G nL Q tgt lv st σ) (kf : ¬ y < x → WS p l e R s m args below meth c G nL Q (pc + 3) lv st σ) : WS p l e R s m args below meth c G nL Q pc lv (.int y :: .int x :: st) σ := sorry
theorem ws_icmp_le (C : Cx p l R s m args meth c G own cc nL ret d) {x y : Int32} {off : Int} {tgt : Nat} (hd : decode cc pc = .ok (.if_icmp .le off, 3)) (ht : (pc : Int) + off = (tgt : Int))
    (kt : x ≤ y → WS p l e R s m args below meth c G nL Q tgt lv st σ) (kf : ¬ x ≤ y → WS p l e R s m args below meth c G nL Q (pc + 3) lv st σ) : WS p l e R s m args below meth c G nL Q pc lv (.int y :: .int x :: st) σ := sorry
theorem ws_goto (C : Cx p l R s m args meth c G own cc nL ret d) {off : Int} {tgt : Nat} (hd : decode cc pc = .ok (.goto off, 3)) (ht : (pc : Int) + off = (tgt : Int)) (kk : WS p l e R s m args below meth c G nL Q tgt lv st σ) : WS p l e R s m args below meth c G nL Q pc lv st σ := sorry
theorem ws_ifnull (C : Cx p l R s m args meth c G own cc nL ret d) {fam : Nat} {r : Option Nat} {off : Int} {tgt : Nat} (hd : decode cc pc = .ok (.ifnull off, 3)) (ht : (pc : Int) + off = (tgt : Int)) (kt : r = none → WS p l e R s m args below meth c G nL Q tgt lv st σ) (kf : r ≠ none → WS p l e R s m args below meth c G nL Q (pc + 3) lv st σ) : WS p l e R s m args below meth c G nL Q pc lv (rv G fam r :: st) σ := sorry
theorem ws_ifnonnull (C : Cx p l R s m args meth c G own cc nL ret d) {fam : Nat} {r : Option Nat} {off : Int} {tgt : Nat} (hd : decode cc pc = .ok (.ifnonnull off, 3)) (ht : (pc : Int) + off = (tgt : Int)) (kt : r ≠ none → WS p l e R s m args below meth c G nL Q tgt lv st σ) (kf : r = none → WS p l e R s m args below meth c G nL Q (pc + 3) lv st σ) : WS p l e R s m args below meth c G nL Q pc lv (rv G fam r :: st) σ := sorry
theorem rv_inj (hG : GOK G) {fam : Nat} {a b : Option Nat} (ha : ∀ k, a = some k → k < cnt fam) (hb : ∀ k, b = some k → k < cnt fam) : a.map (G.adr fam) = b.map (G.adr fam) ↔ a = b := sorry
theorem ws_acmp_eq (C : Cx p l R s m args meth c G own cc nL ret d) {fam : Nat} {a b : Option Nat} (ha : ∀ k, a = some k → k < cnt fam) (hb : ∀ k, b = some k → k < cnt fam) {off : Int} {tgt : Nat} (hd : decode cc pc = .ok (.if_acmp .eq off, 3)) (ht : (pc : Int) + off = (tgt : Int))
    (kt : a = b → WS p l e R s m args below meth c G nL Q tgt lv st σ) (kf : ¬ a = b → WS p l e R s m args below meth c G nL Q (pc + 3) lv st σ) : WS p l e R s m args below meth c G nL Q pc lv (rv G fam b :: rv G fam a :: st) σ := sorry
theorem ws_acmp_ne (C : Cx p l R s m args meth c G own cc nL ret d) {fam : Nat} {a b : Option Nat} (ha : ∀ k, a = some k → k < cnt fam) (hb : ∀ k, b = some k → k < cnt fam) {off : Int} {tgt : Nat} (hd : decode cc pc = .ok (.if_acmp .ne off, 3)) (ht : (pc : Int) + off = (tgt : Int))
    (kt : ¬ a = b → WS p l e R s m args below meth c G nL Q tgt lv st σ) (kf : a = b → WS p l e R s m args below meth c G nL Q (pc + 3) lv st σ) : WS p l e R s m args below meth c G nL Q pc lv (rv G fam b :: rv G fam a :: st) σ := sorry
theorem ws_tsw (C : Cx p l R s m args meth c G own cc nL ret d) {dflt lo hi : Int} {offs : Array Int} {len : Nat} {x : Int32} {tgt : Nat} (hd : decode cc pc = .ok (.tableswitch dflt lo hi offs, len)) (ht : (pc : Int) + dflt = (tgt : Int)) (hsz : hi = lo + (offs.size : Int) - 1)
    (kin : ∀ (k : Nat) (off : Int), offs[k]? = some off → x.toInt = lo + k → ∃ t : Nat, (pc : Int) + off = (t : Int) ∧ WS p l e R s m args below meth c G nL Q t lv st σ) (kout : (x.toInt < lo ∨ hi < x.toInt) → WS p l e R s m args below meth c G nL Q tgt lv st σ) : WS p l e R s m args below meth c G nL Q pc lv (.int x :: st) σ := sorry
theorem ws_lsw (C : Cx p l R s m args meth c G own cc nL ret d) {dflt : Int} {ps : Array (Int × Int)} {len : Nat} {x : Int32} {off : Int} {tgt : Nat} (hd : decode cc pc = .ok (.lookupswitch dflt ps, len)) (hp : (ps.toList.zip (ps.toList.drop 1)).all (fun (a, next) => a.1 < next.1) = true) (ho : Op.lookupswitch.offset ps.toList dflt x.toInt = off) (ht : (pc : Int) + off = (tgt : Int))
    (kk : WS p l e R s m args below meth c G nL Q tgt lv st σ) : WS p l e R s m args below meth c G nL Q pc lv (.int x :: st) σ := sorry
theorem ws_ldc (C : Cx p l R s m args meth c G own cc nL ret d) {index : Nat} {v : Int32} (hw : Cond.constant own index v ∈ lw_all) (hd : decode cc pc = .ok (.ldc index, 2)) (kk : WS p l e R s m args below meth c G nL Q (pc + 2) lv (.int v :: st) σ) : WS p l e R s m args below meth c G nL Q pc lv st σ := sorry
theorem ws_ldc2 (C : Cx p l R s m args meth c G own cc nL ret d) {index : Nat} {v : Int64} (hw : Cond.constantLong own index v ∈ lw_all) (hd : decode cc pc = .ok (.ldc2_w index, 3)) (kk : WS p l e R s m args below meth c G nL Q (pc + 3) lv (.long v :: st) σ) : WS p l e R s m args below meth c G nL Q pc lv st σ := sorry
theorem ws_iret (C : Cx p l R s m args meth c G own cc nL ret d) {x : Int32} (hr : ret = some .int) (hd : decode cc pc = .ok (.ireturn, 1)) (hq : Q (.returned (some (.int x))) σ) : WS p l e R s m args below meth c G nL Q pc lv [.int x] σ := sorry
theorem ws_zret (C : Cx p l R s m args meth c G own cc nL ret d) {b : Bool} (hr : ret = some .boolean) (hd : decode cc pc = .ok (.ireturn, 1)) (hq : Q (.returned (some (.int (bI b)))) σ) : WS p l e R s m args below meth c G nL Q pc lv [.int (bI b)] σ := sorry
theorem ws_lret (C : Cx p l R s m args meth c G own cc nL ret d) {x : Int64} (hr : ret = some .long) (hd : decode cc pc = .ok (.lreturn, 1)) (hq : Q (.returned (some (.long x))) σ) : WS p l e R s m args below meth c G nL Q pc lv [.long x] σ := sorry
theorem ws_vret (C : Cx p l R s m args meth c G own cc nL ret d) (hr : ret = none) (hd : decode cc pc = .ok (.return_, 1)) (hq : Q (.returned none) σ) : WS p l e R s m args below meth c G nL Q pc lv [] σ := sorry
theorem ws_aret (C : Cx p l R s m args meth c G own cc nL ret d) {n : String} {r : Option Nat} (hr : ret = some (.object n)) (hd : decode cc pc = .ok (.areturn, 1)) (hq : Q (.returned (some (va_rf r))) σ) : WS p l e R s m args below meth c G nL Q pc lv [va_rf r] σ := sorry
theorem ws_athrow (C : Cx p l R s m args meth c G own cc nL ret d) {x : Nat} (hd : decode cc pc = .ok (.athrow, 1)) (hq : Q (.threw x) σ) : WS p l e R s m args below meth c G nL Q pc lv (.ref x :: st) σ := sorry
theorem RepU.blind {G : Gl} {σ : Sg} (av : List Value) : FrameBlind (va_Pc av (fun U => RepU G σ U)) := sorry
theorem Cx.recv (C : Cx p l R s m args meth c G own cc nL ret d) {H : Heap} {locs : List Loc} (hR : RepH G σ H locs) {f i : Nat} (hi : i < cnt f) {ci N : Nat} {fs : List Value} {Cn : String} {T : u_T} (he : en G σ f i = .inr (ci, fs)) (hc : kcl[ci]? = some (Cn, T, N)) : ∃ cellB : Cell, H[G.adr f i]? = some cellB ∧ cellB.vm.isStatics = false ∧ s.vm.findClass Cn = some cellB.cls := sorry
theorem ws_callV (C : Cx p l R s m args meth c G own cc nL ret d) {y : MethodName} {bytes : ByteArray} {maxL index n dc : Nat} {ret2 : Option FieldType} {As rest : List Value} {Qc : Outcome → Sg → Prop} {f i ci N : Nat} {fs : List Value} {Cn : String} {T : u_T} (hi : i < cnt f) (he : en G σ f i = .inr (ci, fs)) (hc : kcl[ci]? = some (Cn, T, N)) (hT : GoodIn lw_all (wsV own index Cn y (ws_ y bytes maxL ret2))) (hy : y.cls = Cn ∧ y.cls ≠ "java/lang/invoke/MethodHandle" ∧ y.cls ≠ "java/lang/invoke/VarHandle" ∧ (parseMethodDescriptor y.desc).map (fun d => d.parameters.length) = some n) (hM : CT l G y (ws_ y bytes maxL ret2) dc (.ref (G.adr f i) :: As) σ Qc) (hdp : dc + 1 ≤ d) (hml : maxL ≤ 21) (hn : As.length = n) (hrest : (rest.map fun v => v.category).sum ≤ 8) (hd : decode cc pc = .ok (.invokevirtual index, 3))
    (kr : ∀ (v : Option Value) (σ' : Sg), Qc (.returned v) σ' → WS p l e R s m args below meth c G nL Q (pc + 3) lv (v.toList ++ rest) σ') (kt : ∀ (x : Nat) (σ' : Sg), Qc (.threw x) σ' → Q (.threw x) σ') : WS p l e R s m args below meth c G nL Q pc lv (As.reverse ++ .ref (G.adr f i) :: rest) σ := sorry
theorem ws_callS (C : Cx p l R s m args meth c G own cc nL ret d) {y : MethodName} {bytes : ByteArray} {maxL index n dc : Nat} {ret2 : Option FieldType} {As rest : List Value} {Qc : Outcome → Sg → Prop} (hT : GoodIn lw_all (va_wsS own index y (ws_ y bytes maxL ret2))) (hy : y.cls ≠ "java/lang/invoke/MethodHandle" ∧ y.cls ≠ "java/lang/invoke/VarHandle" ∧ (parseMethodDescriptor y.desc).map (fun d => d.parameters.length) = some n) (hM : CT l G y (ws_ y bytes maxL ret2) dc As σ Qc) (hdp : dc + 1 ≤ d) (hml : maxL ≤ 21) (hn : As.length = n) (hrest : (rest.map fun v => v.category).sum ≤ 8) (hd : decode cc pc = .ok (.invokestatic index, 3))
    (kr : ∀ (v : Option Value) (σ' : Sg), Qc (.returned v) σ' → WS p l e R s m args below meth c G nL Q (pc + 3) lv (v.toList ++ rest) σ') (kt : ∀ (x : Nat) (σ' : Sg), Qc (.threw x) σ' → Q (.threw x) σ') : WS p l e R s m args below meth c G nL Q pc lv (As.reverse ++ rest) σ := sorry
theorem ws_callSN (C : Cx p l R s m args meth c G own cc nL ret d) {y : MethodName} {bytes : ByteArray} {maxL index n dc : Nat} {ret2 : Option FieldType} {As rest : List Value} {Qc : Outcome → Sg → Prop} {host : String} (hlw : Cond.methodLinkNest own index y host ∈ lw_tbl) (hst : Cond.static y ∈ lw_all) (hini : Cond.initialized y.cls ∈ lw_all) (hT : GoodIn lw_all (ws_ y bytes maxL ret2)) (hy : y.cls ≠ "java/lang/invoke/MethodHandle" ∧ y.cls ≠ "java/lang/invoke/VarHandle" ∧ (parseMethodDescriptor y.desc).map (fun d => d.parameters.length) = some n) (hM : CT l G y (ws_ y bytes maxL ret2) dc As σ Qc) (hdp : dc + 1 ≤ d) (hml : maxL ≤ 21) (hn : As.length = n) (hrest : (rest.map fun v => v.category).sum ≤ 8) (hd : decode cc pc = .ok (.invokestatic index, 3))
    (kr : ∀ (v : Option Value) (σ' : Sg), Qc (.returned v) σ' → WS p l e R s m args below meth c G nL Q (pc + 3) lv (v.toList ++ rest) σ') (kt : ∀ (x : Nat) (σ' : Sg), Qc (.threw x) σ' → Q (.threw x) σ') : WS p l e R s m args below meth c G nL Q pc lv (As.reverse ++ rest) σ := sorry
/-- a contract out of a walk -/
theorem CT.of (hG : GOK G) {y : MethodName} {av : List Value} (hy : plainName y.cls = true) (hown : y.cls = own) (hlen : (lg_sl av).length ≤ nL)
    (h : ∀ (p : Program) (e : Env) (R : Room) (s : State) (m : MethodId) (args : Array Value) (below : List Frame) (meth : Method) (c : Code), Cx p l R s m args meth c G own cc nL ret d → WS p l e R s m args below meth c G nL Q 0 (lv_args 0 av) [] σ) : CT l G y (ws_ y cc nL ret) d av σ Q := sorry
/-- the outcomes of a call, by its answer's kind -/
def oV (K : Sg → Prop) (T : Nat → Sg → Prop) (o : Outcome) (σ : Sg) : Prop := match o with
  | .returned none => K σ
  | .threw x => T x σ
  | _ => False
def oI (K : Int32 → Sg → Prop) (T : Nat → Sg → Prop) (o : Outcome) (σ : Sg) : Prop := match o with
  | .returned (some (.int r)) => K r σ
  | .threw x => T x σ
  | _ => False
def oL (K : Int64 → Sg → Prop) (T : Nat → Sg → Prop) (o : Outcome) (σ : Sg) : Prop := match o with
  | .returned (some (.long r)) => K r σ
  | .threw x => T x σ
  | _ => False
def oZ (K : Bool → Sg → Prop) (T : Nat → Sg → Prop) (o : Outcome) (σ : Sg) : Prop := match o with
  | .returned (some v) => ∃ b : Bool, v = .int (bI b) ∧ K b σ
  | .threw x => T x σ
  | _ => False
def oR (G : Gl) (fam : Nat) (K : Option Nat → Sg → Prop) (T : Nat → Sg → Prop) (o : Outcome) (σ : Sg) : Prop := match o with
  | .returned (some v) => ∃ r : Option Nat, v = rv G fam r ∧ (∀ k, r = some k → k < cnt fam) ∧ K r σ
  | .threw x => T x σ
  | _ => False
theorem CT.mono {l : Launch} {G : Gl} {y : MethodName} {ws : List Cond} {d : Nat} {av : List Value} {σ : Sg} {Q Q' : Outcome → Sg → Prop} (h : CT l G y ws d av σ Q) (hq : ∀ o σ', Q o σ' → Q' o σ') : CT l G y ws d av σ Q' := sorry
end WSQ
