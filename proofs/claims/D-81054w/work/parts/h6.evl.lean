/-! THE MODEL's MACHINE: the loop that reckons an E. -/
/-- a task: node, state, value, where its arguments begin, the next one -/
abbrev Tsk : Type := Int32 × Int32 × Option Int32 × Int32 × Option Int32
/-- tasks (the last first) from place bt on -/
def TskR (bt : Nat) (s : Sg) : List Tsk → Prop
  | [] => True
  | t :: T => (s.I 2256 0 (bt + T.length) = t.1 ∧ s.I 2257 0 (bt + T.length) = t.2.1 ∧ (∀ w, t.2.2.1 = some w → s.I 2258 0 (bt + T.length) = w) ∧ s.I 2259 0 (bt + T.length) = t.2.2.2.1 ∧ ∀ w, t.2.2.2.2 = some w → s.I 2260 0 (bt + T.length) = w) ∧ TskR bt s T
/-- cells from place cb on -/
def ClR (cb : Nat) (s : Sg) (A : List Int32) : Prop := ∀ (j : Nat) (w : Int32), A[j]? = some w → s.I 2254 0 (cb + j) = w
/-- a state of the loop that began in g -/
def EvP (τ σ g : Sg) (a cb bt ft : Nat) (M : MSt) (st : Int32) (T : List Tsk) (A : List Int32) (s : Sg) : Prop := MQst τ σ M a st (cb + A.length) (bt + T.length) ft s ∧ Kp cb bt ft g s ∧ TskR bt s T ∧ ClR cb s A
/-- the loop ends well from here, v being what came last -/
def EvLp (l : Launch) (G : Gl) (d : Nat) (τ σ g : Sg) (a cb bt ft : Nat) (x1 x2 x3 x4 : Int32) (Q : Outcome → Sg → Prop) (M : MSt) (T : List Tsk) (A : List Int32) (v : Int32) : Prop := ∃ fu, ∀ s, EvP τ σ g a cb bt ft M 0 T A s → wq_X11_eval_14 l G d 0 x1 x2 x3 x4 Q fu (nI bt) v s
/-- .. when it was stopped -/
def EvLe (l : Launch) (G : Gl) (d : Nat) (τ σ g : Sg) (a cb bt ft : Nat) (x1 x2 x3 x4 : Int32) (Q : Outcome → Sg → Prop) (M : MSt) (T : List Tsk) (A : List Int32) (e : Er) : Prop := ∃ fu, ∀ s v, EvP τ σ g a cb bt ft M (if e.1 = true then 2 else 3) T A s → (e.1 = true → s.I 2266 0 0 = e.2) → (e.1 = false → s.I 2265 0 0 = e.2) → wq_X11_eval_14 l G d 0 x1 x2 x3 x4 Q fu (nI bt) v s
section EVL
variable {l : Launch} {G : Gl} {d : Nat} {τ σ g s t : Sg} {a cb bt ft : Nat} {x1 x2 x3 x4 : Int32} {Q : Outcome → Sg → Prop} {M : MSt} {T : List Tsk} {A : List Int32} {tk : Tsk} {v : Int32}
theorem TskR.eq : ∀ {T : List Tsk}, TskR bt s T → (∀ c j, 2255 < c → c ≤ 2260 → j < bt + T.length → t.I c 0 j = s.I c 0 j) → TskR bt t T := sorry
theorem ClR.eq (h : ClR cb s A) (k : ∀ j, j < cb + A.length → t.I 2254 0 j = s.I 2254 0 j) : ClR cb t A := sorry
theorem ClR.cut {X : List Int32} (h : ClR cb s (A ++ X)) : ClR cb s A := sorry
/-- behind what keeps all that lies below -/
theorem EvP.of {α : Type} {r : Rz α} {s' : Sg} (h : EvP τ σ g a cb bt ft M 0 T A s') (hr : RQm τ σ r a (cb + A.length) (bt + T.length) ft t) (hk : Kp (cb + A.length) (bt + T.length) ft s' t) : EvP τ σ g a cb bt ft r.1 (stc r) T A t := sorry
/-- a task goes -/
theorem EvP.pop {st x : Int32} (h : EvP τ σ g a cb bt ft M st (tk :: T) A s) (hx : x = nI (bt + T.length)) : EvP τ σ g a cb bt ft M st T A (sI s 2261 0 0 x) := sorry
theorem EvP.tp {st : Int32} (h : EvP τ σ g a cb bt ft M st (tk :: T) A s) : s.I 2261 0 0 = nI (bt + T.length + 1) ∧ s.I 2261 0 0 - 1 = nI (bt + T.length) := sorry
theorem EvP.tsk {st : Int32} (h : EvP τ σ g a cb bt ft M st (tk :: T) A s) : s.I 2256 0 (bt + T.length) = tk.1 ∧ s.I 2257 0 (bt + T.length) = tk.2.1 ∧ (∀ w, tk.2.2.1 = some w → s.I 2258 0 (bt + T.length) = w) ∧ s.I 2259 0 (bt + T.length) = tk.2.2.2.1 ∧ ∀ w, tk.2.2.2.2 = some w → s.I 2260 0 (bt + T.length) = w := sorry
/-- cells are given back -/
theorem EvP.cut {st x : Int32} {X : List Int32} (h : EvP τ σ g a cb bt ft M st T (A ++ X) s) (hx : x = nI (cb + A.length)) : EvP τ σ g a cb bt ft M st T A (sI s 2255 0 0 x) := sorry
/-- when it was stopped, tasks go one by one -/
theorem EvLe.pop {e : Er} {n st : Int32} {vo ao : Option Int32} (hb : bt + T.length + 1 < 17280) (h : EvLe l G d τ σ g a cb bt ft x1 x2 x3 x4 Q M T A e) : EvLe l G d τ σ g a cb bt ft x1 x2 x3 x4 Q M ((n, st, vo, -2, ao) :: T) A e := sorry
theorem EvLe.popA {e : Er} {n st to : Int32} {vo ao : Option Int32} {X : List Int32} (hb : bt + T.length + 1 < 17280) (hc : cb + A.length < 2 ^ 31) (hto : to = nI (cb + A.length)) (h : EvLe l G d τ σ g a cb bt ft x1 x2 x3 x4 Q M T A e) : EvLe l G d τ σ g a cb bt ft x1 x2 x3 x4 Q M ((n, st, vo, to, ao) :: T) (A ++ X) e := sorry
/-- a node goes on -/
theorem EvLp.node (hb : bt + T.length + 1 < 17280) (H : ∃ fu, ∀ s, EvP τ σ g a cb bt ft M 0 (tk :: T) A s → CT l G yX11_evalNode (ws_ yX11_evalNode cX11_evalNode 8 (some .int)) d [.ref (G.adr 11 0), .int (nI (bt + T.length)), .int tk.1, .int v, .int x2, .int x3, .int x4] s (oI (fun v u => wq_X11_eval_14 l G d 0 x1 x2 x3 x4 Q fu (nI bt) v u) (fun x σ => Q (.threw x) σ))) : EvLp l G d τ σ g a cb bt ft x1 x2 x3 x4 Q M (tk :: T) A v := sorry
/-- a node that comes to a result -/
def RZe (τ σ g : Sg) (a cb bt ft : Nat) (r : Rz Int32) (T : List Tsk) (A : List Int32) (o : Outcome) (u : Sg) : Prop := ∃ v, o = .returned (some (.int v)) ∧ (∀ w, r.2 = .ok w → v = w) ∧ EvP τ σ g a cb bt ft r.1 (stc r) T A u ∧ ∀ x, r.2 = .error x → (x.1 = true → u.I 2266 0 0 = x.2) ∧ (x.1 = false → u.I 2265 0 0 = x.2)
theorem EvLp.res {r : Rz Int32} {A' : List Int32} (hb : bt + T.length + 1 < 17280) (H : ∀ s, EvP τ σ g a cb bt ft M 0 (tk :: T) A s → CT l G yX11_evalNode (ws_ yX11_evalNode cX11_evalNode 8 (some .int)) d [.ref (G.adr 11 0), .int (nI (bt + T.length)), .int tk.1, .int v, .int x2, .int x3, .int x4] s (RZe τ σ g a cb bt ft r T A')) (hR : KO r (fun M' w => EvLp l G d τ σ g a cb bt ft x1 x2 x3 x4 Q M' T A' w) (fun M' f => EvLe l G d τ σ g a cb bt ft x1 x2 x3 x4 Q M' T A' (true, f)) (fun M' f => EvLe l G d τ σ g a cb bt ft x1 x2 x3 x4 Q M' T A' (false, f))) : EvLp l G d τ σ g a cb bt ft x1 x2 x3 x4 Q M (tk :: T) A v := sorry
/-- a node goes to another state of the loop -/
theorem EvLp.on {T' : List Tsk} {A' : List Int32} {v' : Int32} (hb : bt + T.length + 1 < 17280) (H : ∀ s, EvP τ σ g a cb bt ft M 0 (tk :: T) A s → CT l G yX11_evalNode (ws_ yX11_evalNode cX11_evalNode 8 (some .int)) d [.ref (G.adr 11 0), .int (nI (bt + T.length)), .int tk.1, .int v, .int x2, .int x3, .int x4] s (rI v' (fun u => EvP τ σ g a cb bt ft M 0 T' A' u))) (hR : EvLp l G d τ σ g a cb bt ft x1 x2 x3 x4 Q M T' A' v') : EvLp l G d τ σ g a cb bt ft x1 x2 x3 x4 Q M (tk :: T) A v := sorry
/-- a task's columns change -/
theorem EvP.set {st : Int32} {n s0 to : Int32} {vo ao : Option Int32} {c : Nat} {x : Int32} {tk' : Tsk} (h : EvP τ σ g a cb bt ft M st ((n, s0, vo, to, ao) :: T) A s) (hc : (c = 2256 ∧ tk' = (x, s0, vo, to, ao)) ∨ (c = 2257 ∧ tk' = (n, x, vo, to, ao)) ∨ (c = 2258 ∧ tk' = (n, s0, some x, to, ao)) ∨ (c = 2259 ∧ tk' = (n, s0, vo, x, ao)) ∨ (c = 2260 ∧ tk' = (n, s0, vo, to, some x))) : EvP τ σ g a cb bt ft M st (tk' :: T) A (sI s c 0 (bt + T.length) x) := sorry
/-- a node is pushed -/
theorem sp_push (hG : GOK G) (hd : 1 ≤ d) {st n : Int32} (hb : bt + T.length < 17280) (h : EvP τ σ g a cb bt ft M st T A s) : CT l G yX11_push (ws_ yX11_push cX11_push 2 none) d [.ref (G.adr 11 0), .int n] s (rV (fun t => EvP τ σ g a cb bt ft M st ((n, 0, none, -2, none) :: T) A t)) := sorry
end EVL
