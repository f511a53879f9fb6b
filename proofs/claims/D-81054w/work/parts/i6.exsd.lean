/-! THE MODEL's MACHINE: S's, what is known and what is left. -/
/-- an E in an S: its locals, cells, tasks -/
def scX (nL : Nat) (Ls : List Nat) (x : RT) : Prop := scE Ls x ∧ nL + rAg x ≤ 260 ∧ rTk x < 720
/-- the local that an S adds -/
def letS : RT → List Nat
  | .leaf => []
  | .inner _ b _ _ _ => if b.op = 31 then [b.sl] else []
/-- the locals of an S lie as they must; it does not call the maker above -/
def scS (nL : Nat) (Ls : List Nat) : RT → Prop
  | .leaf => True
  | .inner _ b _ x y => ¬ b.op = 38 ∧ (b.op = 0 → scS nL Ls x ∧ scS nL (Ls ++ letS x) y) ∧ (b.op = 41 → scS nL Ls x ∧ scS nL Ls y) ∧ (b.op = 30 → scS nL Ls x) ∧
    (b.op = 31 → scX nL Ls x ∧ b.pl = Ls.length ∧ b.pl < nL ∧ ¬ b.sl ∈ Ls) ∧ (b.op = 32 ∨ b.op = 33 → scX nL Ls x ∧ scS nL Ls y) ∧
    (b.op = 34 ∨ b.op = 35 ∨ b.op = 37 ∨ b.op = 39 → scX nL Ls x) ∧ (b.op = 36 → scS nL Ls x ∧ scS nL (Ls ++ [b.sl]) y ∧ b.pl = Ls.length ∧ b.pl < nL ∧ ¬ b.sl ∈ Ls) ∧
    (b.op = 40 → scX nL Ls y ∧ Ls[b.pl]? = some b.sl ∧ ∀ i, Ls[i]? = some b.sl → i = b.pl) ∧ (b.op = 42 ∨ b.op = 43 → scX nL Ls y) ∧ (b.op = 44 → scX nL Ls x ∧ scX nL Ls y)
/-- how deep S's hang -/
def hgS : RT → Nat
  | .leaf => 0
  | .inner _ b _ x y => if b.op = 0 ∨ b.op = 41 then max (hgS x) (hgS y) else if b.op = 30 then 1 + hgS x else if b.op = 32 ∨ b.op = 33 then 1 + hgS y else if b.op = 36 then 1 + max (hgS x) (hgS y) else 0
/-- stop, behind an S -/
def stQ (r : Zs) : Int32 := match r.2 with
  | .ok none => 0
  | .ok (some _) => 1
  | .error x => if x.1 = true then 2 else 3
/-- the state behind an S -/
def ZQ (τ σ : Sg) (r : Zs) (a fr ct tt ft : Nat) (Ls : List Nat) (st : Bool) (self : Int32) (s t : Sg) : Prop := (MQst τ σ r.1.1 a (stQ r) ct tt ft t ∧ (∀ v, r.2 = .ok (some v) → t.I 2266 0 0 = v) ∧ ∀ x, r.2 = .error x → (x.1 = true → t.I 2266 0 0 = x.2) ∧ (x.1 = false → t.I 2265 0 0 = x.2)) ∧ Kp fr tt ft s t ∧ EnQ t fr ct Ls r.1.2 st self
/-- .. and of the local that it adds -/
def oQs (τ σ : Sg) (r : Zs) (a fr ct tt ft : Nat) (Ls Lt : List Nat) (st : Bool) (self : Int32) (s : Sg) (o : Outcome) (t : Sg) : Prop := o = .returned none ∧ ZQ τ σ r a fr ct tt ft Ls st self s t ∧ (r.2 = .ok none → EnQ t fr ct (Ls ++ Lt) r.1.2 st self)
/-- cells, tasks, faces at a level -/
def LvB (a fr nL tt ft : Nat) : Prop := nL ≤ 260 ∧ 1 ≤ a ∧ a ≤ 24 ∧ fr + 260 ≤ 260 * a ∧ tt + 720 ≤ 720 * a ∧ ft ≤ 320 * a
/-- what is known of a member that runs -/
def SkN (l : Launch) (G : Gl) (D : Nat) (τ σ : Sg) (P : Pg) (C : CalF) (S : StaF) (a fr nL tt ft k b n0 : Nat) : Prop := (∀ d, D ≤ d → EvK l G d τ σ P C S a k) ∧ b < 17 ∧ kB τ k = b ∧ (τ.I 1119 k 0).toNatClampNeg = n0 ∧ LvB a fr nL tt ft
section XSD
variable {l : Launch} {G : Gl} {d D : Nat} {τ σ s t u : Sg} {P : Pg} {C : CalF} {S : StaF} {a fr nL ct tt ft k b n0 : Nat} {M : MSt} {Ls Lt : List Nat} {e : Env} {st : Bool} {self : Int32} {Γ : Nat → Int64} {nl : Nat} {r : Zs}
theorem EnQ.kp (h : EnQ s fr ct Ls e st self) (hk : Kp ct tt ft s t) : EnQ t fr ct Ls e st self := sorry
theorem EnQ.ot {c j : Nat} {v : Int32} (h : EnQ s fr ct Ls e st self) (hc : c ≠ 2254) : EnQ (sI s c 0 j v) fr ct Ls e st self := sorry
theorem EnQ.cut (h : EnQ s fr ct (Ls ++ Lt) e st self) : EnQ s fr ct Ls e st self := sorry
/-- a new local -/
theorem EnQ.new {v : Int32} {sl pl : Nat} (h : EnQ s fr ct Ls e st self) (hp : pl = Ls.length) (hl : fr + pl < ct) (hs : ¬ sl ∈ Ls) (h0 : st = false → ¬ sl = 0) : EnQ (sI s 2254 0 (fr + pl) v) fr ct (Ls ++ [sl]) (setN e sl v) st self := sorry
/-- a local is put -/
theorem EnQ.set {v : Int32} {sl pl : Nat} (h : EnQ s fr ct Ls e st self) (hp : Ls[pl]? = some sl) (hq : ∀ i, Ls[i]? = some sl → i = pl) (h0 : st = false → ¬ sl = 0) : EnQ (sI s 2254 0 (fr + pl) v) fr ct Ls (setN e sl v) st self := sorry
/-- behind what stopped -/
theorem ZQ.er {α : Type} {M3 : MSt} {x : Er} (h : RQm τ σ ((M3, .error x) : Rz α) a ct tt ft t) (hk : Kp fr tt ft s t) (he : EnQ t fr ct Ls e st self) : ZQ τ σ ((M3, e), .error x) a fr ct tt ft Ls st self s t := sorry
theorem ZQ.g (h : MQst τ σ M a 0 ct tt ft t) (hk : Kp fr tt ft s t) (he : EnQ t fr ct Ls e st self) : ZQ τ σ (zsk M e) a fr ct tt ft Ls st self s t := sorry
theorem ZQ.pre (h : ZQ τ σ r a fr ct tt ft Ls st self s t) (hk : Kp fr tt ft u s) : ZQ τ σ r a fr ct tt ft Ls st self u t := sorry
theorem oQs.pre {o : Outcome} (h : oQs τ σ r a fr ct tt ft Ls Lt st self s o t) (hk : Kp fr tt ft u s) : oQs τ σ r a fr ct tt ft Ls Lt st self u o t := sorry
theorem oQs.er {α : Type} {M3 : MSt} {x : Er} (h : RQm τ σ ((M3, .error x) : Rz α) a ct tt ft t) (hk : Kp fr tt ft s t) (he : EnQ t fr ct Ls e st self) : oQs τ σ ((M3, e), .error x) a fr ct tt ft Ls Lt st self s (.returned none) t := sorry
theorem oQs.g (h : MQst τ σ M a 0 ct tt ft t) (hk : Kp fr tt ft s t) (he : EnQ t fr ct Ls e st self) : oQs τ σ (zsk M e) a fr ct tt ft Ls [] st self s (.returned none) t := sorry
theorem stQ_n (h : ¬ r.2 = .ok none) : ¬ stQ r = 0 := sorry
theorem CT.useS {y : MethodName} {ws : List Cond} {av : List Value} {T : Nat → Sg → Prop} {K : Sg → Prop} (h : CT l G y ws d av s (oQs τ σ r a fr ct tt ft Ls Lt st self s)) (hk : ∀ t, ZQ τ σ r a fr ct tt ft Ls st self s t → (r.2 = .ok none → EnQ t fr ct (Ls ++ Lt) r.1.2 st self) → K t) : CT l G y ws d av s (oV K T) := sorry
/-- an E in an S -/
theorem sp_evS (K : SkN l G D τ σ P C S a fr nL tt ft k b n0) (hd : D + 1 ≤ d) (hE : EnQ s fr (fr + nL) Ls e st self) {x : RT} (h1 : isE1 x) {nv : Int32} (hw : wtE τ k Γ st nl x) (hc : EvC τ M k Γ st nl e) (hI : MInv τ M) (hx : RMx σ b n0 x nv) (hsc : scX nL Ls x) (h : MQst τ σ M a 0 (fr + nL) tt ft s) : CT l G yX11_eval (ws_ yX11_eval cX11_eval 8 (some .int)) d [.ref (G.adr 11 0), .int nv, .int (nI (cM k)), .int self, .int (nI fr)] s (oQe τ σ (evX τ C S k e x M) a (fr + nL) tt ft s) := sorry
end XSD
