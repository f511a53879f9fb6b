
/-- a call under way: it comes back at T', behind the call or with the note of what was thrown -/
def tx_Run (p : Program) (l : Launch) (e : Env) (R : Room) (s : State) (m : MethodId) (args : Array Value) (below : List Frame) (meth : Method) (c : Code) (H : Heap) (locs : List Loc) (cells slots mc ms : Nat) (g : JFrame) (rest : List Value) (Qa : State → Outcome → State → Prop) (free : Addr → Prop) : Prop :=
  ∀ T : State, T.heap = H → Stand p l e R s m args below meth c T locs cells slots → ∃ (o : Outcome) (st₀ t T' : State) (L : List Loc), st₀.heap = H ∧ Stand p l e R s m args below meth c T' (locs ++ L) (cells + mc) (slots + ms) ∧ (∀ q ∈ L, free q.base) ∧ T'.heap = t.heap ∧ T'.vm = t.vm ∧ Qa st₀ o t ∧
    ∀ target, Steps p.tables e below (tx_at T' { g with stack := rest } 3 o) target → Steps p.tables e below (T.setTop g) target
/-- a throw under way: the note lies over the method's own frame g -/
def WT (p : Program) (l : Launch) (e : Env) (R : Room) (s : State) (m : MethodId) (args : Array Value) (below : List Frame) (meth : Method) (c : Code) (H : Heap) (locs : List Loc) (cells slots : Nat) (Q : State → Prop) (x : Addr) (g : JFrame) : Prop :=
  ∀ T : State, T.heap = H → Stand p l e R s m args below meth c T locs cells slots → ∃ t, Steps p.tables e below ((T.setTop g).pushFrame (.throwing x)) t ∧ Q t
section TXR
variable {p : Program} {l : Launch} {e : Env} {R : Room} {s : State} {m : MethodId} {args : Array Value} {below : List Frame} {meth : Method} {c : Code} {H : Heap} {locs : List Loc} {cells slots : Nat} {Q : State → Prop}
theorem W.mono {Q' : State → Prop} {g : JFrame} (h : ∀ t, Q t → Q' t) (k : W p l e R s m args below meth c H locs cells slots Q g) : W p l e R s m args below meth c H locs cells slots Q' g := sorry
/-- the method throws: no handler of its own -/
theorem tx_leave {Qc : Array Value → State → Outcome → State → Prop} {free : Addr → Prop} {x : Addr} {pc : Nat} {ls : Array Slot} {st : List Value} (hout : ∀ z ∈ c.exceptionTable.toList, covers z pc = false)
    (hq : ∀ t : State, t.heap = H → s.WarmedH t.vm → Qc args s (.threw x) t) (hf : ∀ q ∈ locs, free q.base) (hlocks : meth.locks = false) : WT p l e R s m args below meth c H locs cells slots (MQT below Qc args s cells slots free) x (F0 m pc ls st) := sorry
/-- athrow -/
theorem tx_athrow {cc : ByteArray} (hexec : p.tables.exec = Jvm.exec) (hb : c.code = cc) {x : Addr} {pc : Nat} {ls : Array Slot} {rest : List Value} (hdg : decode cc pc = .ok (.athrow, 1))
    (k : WT p l e R s m args below meth c H locs cells slots Q x (F0 m pc ls rest)) : W p l e R s m args below meth c H locs cells slots Q (F0 m pc ls (.ref x :: rest)) := sorry
/-- a call, both ways: it returns, or what it threw goes on -/
theorem tx_call {mc ms : Nat} {pc : Nat} {ls : Array Slot} {st rest : List Value} {Qa : State → Outcome → State → Prop} {free : Addr → Prop} (hr : tx_Run p l e R s m args below meth c H locs cells slots mc ms (F0 m pc ls st) rest Qa free)
    (kr : ∀ (v : Option Value) (st₀ t : State) (L : List Loc), st₀.heap = H → (∀ q ∈ L, free q.base) → s.WarmedH t.vm → Qa st₀ (.returned v) t → W p l e R s m args below meth c t.heap (locs ++ L) (cells + mc) (slots + ms) Q (F0 m (pc + 3) ls (v.toList ++ rest)))
    (kt : ∀ (x : Addr) (st₀ t : State) (L : List Loc), st₀.heap = H → (∀ q ∈ L, free q.base) → s.WarmedH t.vm → Qa st₀ (.threw x) t → WT p l e R s m args below meth c t.heap (locs ++ L) (cells + mc) (slots + ms) Q x (F0 m pc ls rest)) :
    W p l e R s m args below meth c H locs cells slots Q (F0 m pc ls st) := sorry
/-- the words behind 'code' say how many locals -/
theorem tx_codeL {y : MethodName} {bytes : ByteArray} {maxL : Nat} {ret : Option FieldType} {ws : List Cond} (hws : ∀ w ∈ ws, ∀ (a' : Array Value) (U : State), s.WarmedH U.vm → w.before a' U = true) (hc : Cond.code y bytes maxL ret ∈ ws) :
    ∀ (a' : Array Value) (U : State) (mk : MethodId), s.WarmedH U.vm → U.methodNamed? y = some mk → ∃ (methY : Method) (cY : Code), U.vm.method? mk = some methY ∧ methY.code = some cY ∧ cY.maxLocals = maxL := sorry
theorem tx_codeWL {y : MethodName} {bytes : ByteArray} {maxL : Nat} {ret : Option FieldType} {hh : List (Nat × Nat × Nat × Nat)} {ws : List Cond} (hws : ∀ w ∈ ws, ∀ (a' : Array Value) (U : State), s.WarmedH U.vm → w.before a' U = true) (hc : Cond.codeWith y bytes maxL ret hh ∈ ws) :
    ∀ (a' : Array Value) (U : State) (mk : MethodId), s.WarmedH U.vm → U.methodNamed? y = some mk → ∃ (methY : Method) (cY : Code), U.vm.method? mk = some methY ∧ methY.code = some cY ∧ cY.maxLocals = maxL := sorry
variable {y : MethodName} {bytes cc : ByteArray} {maxL nL mc ms n index : Nat} {ret : Option FieldType} {ws : List Cond} {rm : Room} {Pc : Array Value → State → Prop} {Qc : Array Value → State → Outcome → State → Prop} {free : Addr → Prop} {Ts : List Cond} {own C host : String} {b : Addr} {As rest : List Value} {g : JFrame}
theorem tx_runV (S : CallFix p m c cc nL s args Ts own) (hM : MetT l y ws rm Pc Qc mc ms free) (cw : CallW R s args own C index y bytes maxL ret ws rm mc ms n) (hp : PreV s H C b Pc As)
    (hg : g.method = m) (hn : As.length = n) (hsize : g.locals.size = nL) (hstack : g.stack = As.reverse ++ .ref b :: rest) (hW : 2 * g.monitorRoom + (rest.map fun v => v.category).sum ≤ 8) (hdg : decode cc g.pc = .ok (.invokevirtual index, 3)) (hf : cells + mc ≤ R.cells ∧ slots + ms ≤ R.slots) :
    tx_Run p l e R s m args below meth c H locs cells slots mc ms g rest (Qc (Value.ref b :: As).toArray) free := sorry
theorem tx_runS (S : CallFix p m c cc nL s args Ts own) (hM : MetT l y ws rm Pc Qc mc ms free) (cw : CallB R s args own index y bytes maxL ret ws rm mc ms n ∧ (Cond.static y).before args s = true) (hp : PreS s H Pc As)
    (hg : g.method = m) (hn : As.length = n) (hsize : g.locals.size = nL) (hstack : g.stack = As.reverse ++ rest) (hW : 2 * g.monitorRoom + (rest.map fun v => v.category).sum ≤ 8) (hdg : decode cc g.pc = .ok (.invokestatic index, 3)) (hf : cells + mc ≤ R.cells ∧ slots + ms ≤ R.slots) :
    tx_Run p l e R s m args below meth c H locs cells slots mc ms g rest (Qc As.toArray) free := sorry
theorem tx_runSN (S : CallFix p m c cc nL s args Ts own) (hM : MetT l y ws rm Pc Qc mc ms free) (cw : va_CN R s args own index y host bytes maxL ret ws rm mc ms n ∧ (Cond.static y).before args s = true ∧ True) (hp : PreS s H Pc As)
    (hg : g.method = m) (hn : As.length = n) (hsize : g.locals.size = nL) (hstack : g.stack = As.reverse ++ rest) (hW : 2 * g.monitorRoom + (rest.map fun v => v.category).sum ≤ 8) (hdg : decode cc g.pc = .ok (.invokestatic index, 3)) (hf : cells + mc ≤ R.cells ∧ slots + ms ≤ R.slots) :
    tx_Run p l e R s m args below meth c H locs cells slots mc ms g rest (Qc As.toArray) free := sorry
theorem tx_runI (S : CallFix p m c cc nL s args Ts own) (hM : MetT l y ws rm Pc Qc mc ms free) (cw : CallB R s args own index y bytes maxL none ws rm mc ms n ∧ y.name = "<init>" ∧ (Cond.instanceMethod y).before args s = true) (hp : PreS s H Pc (.ref b :: As))
    (hg : g.method = m) (hn : As.length = n) (hsize : g.locals.size = nL) (hstack : g.stack = As.reverse ++ .ref b :: rest) (hW : 2 * g.monitorRoom + (rest.map fun v => v.category).sum ≤ 8) (hdg : decode cc g.pc = .ok (.invokespecial index, 3)) (hf : cells + mc ≤ R.cells ∧ slots + ms ≤ R.slots) :
    tx_Run p l e R s m args below meth c H locs cells slots mc ms g rest (Qc (Value.ref b :: As).toArray) free := sorry
theorem tx_runIN (S : CallFix p m c cc nL s args Ts own) (hM : MetT l y ws rm Pc Qc mc ms free) (cw : va_CN R s args own index y host bytes maxL none ws rm mc ms n ∧ y.name = "<init>" ∧ (Cond.instanceMethod y).before args s = true) (hp : PreS s H Pc (.ref b :: As))
    (hg : g.method = m) (hn : As.length = n) (hsize : g.locals.size = nL) (hstack : g.stack = As.reverse ++ .ref b :: rest) (hW : 2 * g.monitorRoom + (rest.map fun v => v.category).sum ≤ 8) (hdg : decode cc g.pc = .ok (.invokespecial index, 3)) (hf : cells + mc ≤ R.cells ∧ slots + ms ≤ R.slots) :
    tx_Run p l e R s m args below meth c H locs cells slots mc ms g rest (Qc (Value.ref b :: As).toArray) free := sorry
theorem MetT.ofW {l : Launch} {y : MethodName} {ws ws' : List Cond} {rm : Room} {Pc : Array Value → State → Prop} {Qc : Array Value → State → Outcome → State → Prop} {mc ms : Nat} {free : Addr → Prop} {cc : ByteArray} {maxL : Nat} {ret : Option FieldType}
    (hy : plainName y.cls = true) (hw : ws = Cond.code y cc maxL ret :: ws')
    (body : ∀ p e s m args below meth c s₁, BodyLoose p l y (headSpec ws rm) cc maxL ret e s m args below meth c s₁ → c.maxLocals = maxL → c.exceptionTable.toList = [] → Pc args s →
      W p l e (headSpec ws rm).room s m args below meth c s.heap [] 0 0 (MQT below Qc args s mc ms free) (entryFrame m args maxL)) : MetT l y ws rm Pc Qc mc ms free := sorry
end TXR
