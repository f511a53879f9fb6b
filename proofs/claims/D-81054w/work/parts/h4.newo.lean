/-! THE MODEL's MACHINE: an object is made; what calls are. -/
/-- an object of class c is made -/
noncomputable def nwO (τ : Sg) (c : Nat) (M : MSt) : Rz Int32 := if M.ob.length = 200 ∨ 2000 < M.us + fdN τ c then rzf M 16 else rzk (M.wOb (M.ob ++ [(c, M.us)]) (zeF M.ce M.us (fdN τ c)) (M.us + fdN τ c)) (nI (M.ob.length + 1))
/-- what a method is given lies in the cells -/
def ArQ (τ : Sg) (m : Nat) (as : List Int32) (self : Int32) (fr : Nat) (s : Sg) : Prop := (τ.B 1203 m 0 = true → ∀ (i : Nat) (v : Int32), as[i]? = some v → s.I 2254 0 (fr + i) = v) ∧ (τ.B 1203 m 0 = false → self = hd1 as ∧ ∀ (i : Nat) (v : Int32), as.tail[i]? = some v → s.I 2254 0 (fr + i) = v)
/-- a method that gives a value; cells below kc are kept -/
def oQf (τ σ : Sg) (r : Rz Int32) (a ct tt ft kc : Nat) (s : Sg) (o : Outcome) (t : Sg) : Prop := ∃ v, o = .returned (some (.int v)) ∧ (∀ w, r.2 = .ok w → v = w) ∧ RQm τ σ r a ct tt ft t ∧ Kp kc tt ft s t
/-- calls are as C says -/
def CalM (l : Launch) (G : Gl) (d : Nat) (τ σ : Sg) (C : CalF) (a : Nat) : Prop := ∀ (m : Nat) (as : List Int32) (M : MSt) (self : Int32) (fr ct tt ft : Nat) (s : Sg), CaH τ M m as → MInv τ M → MQst τ σ M a 0 ct tt ft s → ArQ τ m as self fr s → BdQ a fr tt ft → CT l G yX11_invoke (ws_ yX11_invoke cX11_invoke 7 (some .int)) d [.ref (G.adr 11 0), .int (nI (mM m)), .int self, .int (nI fr)] s (oQf τ σ (C m as M) a ct tt ft fr s)
section NWO
variable {l : Launch} {G : Gl} {d : Nat} {τ σ s t : Sg} {P : Pg} {M : MSt} {a ct tt ft k u : Nat} {S : StaF} {C : CalF}
theorem CT.useF {y : MethodName} {ws : List Cond} {av : List Value} {r : Rz Int32} {kc : Nat} {T : Nat → Sg → Prop} {K : Int32 → Sg → Prop} (h : CT l G y ws d av s (oQf τ σ r a ct tt ft kc s)) (hk : ∀ v t, (∀ w, r.2 = .ok w → v = w) → RQm τ σ r a ct tt ft t → Kp kc tt ft s t → K v t) : CT l G y ws d av s (oI K T) := sorry
/-- cells are laid -/
theorem no_70 {x1 : Int32} {Q : Outcome → Sg → Prop} {n N0 : Nat} (hN : N0 + n ≤ 2000) (e53 : s.I 2253 0 0 = nI N0) {nb : Nat} (e51 : s.I 2251 0 0 = nI nb) (hnb : nb ≤ 200) (hQ : ∀ t, Fl (fun c _ => Nat.beq c 2252) s t → (∀ j, ¬ (N0 ≤ j ∧ j < N0 + n) → t.I 2252 0 j = s.I 2252 0 j) → (∀ j, N0 ≤ j → j < N0 + n → t.I 2252 0 j = 0) → Q (.returned (some (.int (nI nb)))) (sI (sI t 2253 0 0 (nI (N0 + n))) 2250 0 (nb + 1) (nI (N0 + n)))) : ∀ (m j : Nat) (t : Sg), j + m = n → Fl (fun c _ => Nat.beq c 2252) s t → (∀ i, ¬ (N0 ≤ i ∧ i < N0 + j) → t.I 2252 0 i = s.I 2252 0 i) → (∀ i, N0 ≤ i → i < N0 + j → t.I 2252 0 i = 0) → wq_X11_newObject_70 l G d 0 x1 Q (m + 1) (nI n) (nI j) t := sorry
theorem sp_newObject (hG : GOK G) (hd : 5 ≤ d) (hW : WQ τ σ P) (hFd : FdQ τ) (hI : MInv τ M) (hk : Ldd τ M.ls k) (h : MQst τ σ M a 0 ct tt ft s) : CT l G yX11_newObject (ws_ yX11_newObject cX11_newObject 4 (some .int)) d [.ref (G.adr 11 0), .int (nI (cM k))] s (oQ τ σ (nwO τ k M) a ct tt ft s) := sorry
end NWO
