/-! THE MODEL's MACHINE: puts. -/
section XPT
variable {l : Launch} {G : Gl} {d D : Nat} {τ σ s t : Sg} {P : Pg} {C : CalF} {S : StaF} {a fr nL ct tt ft k b n0 u : Nat} {M : MSt} {Ls : List Nat} {e : Env} {st : Bool} {self : Int32} {Γ : Nat → Int64} {nl : Nat} {Q : Outcome → Sg → Prop} {x2 x3 x4 : Int32}
theorem oQs.rz {r : Rz Unit} (h : RQm τ σ r a ct tt ft t) (hk : Kp fr tt ft s t) (he : EnQ t fr ct Ls e st self) : oQs τ σ (zse e r fun t _ => zsk t e) a fr ct tt ft Ls [] st self s (.returned none) t := sorry
/-- a field of an object -/
theorem ep_ob (hG : GOK G) (hd : 146 ≤ d) (hW : WQ τ σ P) (hFd : FdQ τ) (hI : MInv τ M) {n n5 : Nat} {o v : Int32} (hn : n < 30600) (hn5 : n5 < 30600) (e82 : σ.I 2182 0 n5 = -12) (e87 : σ.I 2187 0 n = nI (muA τ k u)) (hk : KHw τ M k) (hu : u < nUk τ k) (h3 : uSo τ k u = 4) (ho : vOk τ M (uTi τ k u) o) (h1 : ¬ uTi τ k u = 1) (h : MQst τ σ M a 0 ct tt ft s) (hQ : ∀ t, RQm τ σ (rzP τ k u o v M) a ct tt ft t → Kp ct tt ft s t → Q (.returned none) t) : wq_X11_execPut_66 l G d 0 (nI n) x2 x3 x4 Q (nI n5) o v s := sorry
/-- a static field -/
theorem ep_st (hG : GOK G) (hd : 146 ≤ d) (hW : WQ τ σ P) (hI : MInv τ M) (hS : StK τ S) (hSt : StM l G d τ σ S a) {n n5 : Nat} {o v : Int32} (hn : n < 30600) (hn5 : n5 < 30600) (e82 : σ.I 2182 0 n5 = -11 ∨ σ.I 2182 0 n5 = -10) (e87 : σ.I 2187 0 n = nI (muA τ k u)) (hk : KHw τ M k) (hu : u < nUk τ k) (h3 : uSo τ k u = 6) (h : MQst τ σ M a 0 ct tt ft s) (hb : BdQ a ct tt ft) (hQ : ∀ t, RQm τ σ (rzPs τ S k u v M) a ct tt ft t → Kp ct tt ft s t → Q (.returned none) t) : wq_X11_execPut_66 l G d 0 (nI n) x2 x3 x4 Q (nI n5) o v s := sorry
/-- a stopped one does nothing -/
theorem ep_no {n : Nat} {n5 o v st' : Int32} (h : MQst τ σ M a st' ct tt ft s) (hn : ¬ st' = 0) (hQ : Q (.returned none) s) : wq_X11_execPut_66 l G d 0 (nI n) x2 x3 x4 Q n5 o v s := sorry
theorem stc_er {α : Type} {M3 : MSt} {x : Er} : ¬ stc ((M3, .error x) : Rz α) = 0 := sorry
/-- the value, then -/
theorem ep_39 (K : SkN l G D τ σ P C S a fr nL tt ft k b n0) (hd : D + 1 ≤ d) (hE : EnQ s fr (fr + nL) Ls e st self) {y : RT} (h1 : isEx y) {n : Nat} (hn : n < 30600) (hw : wtE τ k Γ st nl y) (hc : EvC τ M k Γ st nl e) (hI : MInv τ M) (hx : RMx σ b n0 y (σ.I 2178 0 n)) (hsc : scX nL Ls y) (h : MQst τ σ M a 0 (fr + nL) tt ft s) {n5 o : Int32} {kk : MSt → List Int32 → Zs} {g : Sg} (hg : Kp fr tt ft g s) (H : ∀ M2 va t, MInv τ M2 → Ext M M2 → vOk τ M2 (rTy y) (hd1 va) → MQst τ σ M2 a 0 (fr + nL) tt ft t → Kp (fr + nL) tt ft s t → wq_X11_execPut_66 l G d 0 (nI n) (nI (cM k)) self (nI fr) (oQs τ σ (kk M2 va) a fr (fr + nL) tt ft Ls [] st self g) n5 o (hd1 va) t) : wq_X11_execPut_39 l G d 0 (nI n) (nI (cM k)) self (nI fr) (oQs τ σ (zse e (evX τ C S k e y M) kk) a fr (fr + nL) tt ft Ls [] st self g) n5 o s := sorry
end XPT
