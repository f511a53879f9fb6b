/-! THE MODEL's MACHINE: an E by itself; S's: what is known, what is left. -/
section EVD
variable {l : Launch} {G : Gl} {d : Nat} {τ σ s : Sg} {P : Pg} {C : CalF} {S : StaF} {a ct tt ft k b n0 : Nat} {self : Int32} {fr : Nat} {Ls : List Nat} {e : Env} {st : Bool} {Γ : Nat → Int64} {nl : Nat} {M : MSt}
/-- what an E leaves: its value, all that lies below -/
def oQe (τ σ : Sg) (r : Rz (List Int32)) (a ct tt ft : Nat) (s : Sg) (o : Outcome) (t : Sg) : Prop := ∃ v, o = .returned (some (.int v)) ∧ (∀ w, r.2 = .ok w → v = hd1 w) ∧ RQm τ σ r a ct tt ft t ∧ Kp ct tt ft s t
theorem CT.useE {y : MethodName} {ws : List Cond} {av : List Value} {r : Rz (List Int32)} {T : Nat → Sg → Prop} {K : Int32 → Sg → Prop} (h : CT l G y ws d av s (oQe τ σ r a ct tt ft s)) (hk : ∀ v t, (∀ w, r.2 = .ok w → v = hd1 w) → RQm τ σ r a ct tt ft t → Kp ct tt ft s t → K v t) : CT l G y ws d av s (oI K T) := sorry
/-- an E -/
theorem sp_eval (K : EvK l G (d - 1) τ σ P C S a k) (hd : 2 ≤ d) (hb : b < 17) (hkb : kB τ k = b) (hn0 : (τ.I 1119 k 0).toNatClampNeg = n0) (hE : EnQ s fr ct Ls e st self) (hbd : BdQ a ct tt ft) {x : RT} (h1 : isE1 x) {nv : Int32} (hw : wtE τ k Γ st nl x) (hc : EvC τ M k Γ st nl e) (hI : MInv τ M) (hx : RMx σ b n0 x nv) (hsc : scE Ls x) (hA : ct + rAg x ≤ 260 * a) (hT : tt + rTk x < 720 * a) (h : MQst τ σ M a 0 ct tt ft s) : CT l G yX11_eval (ws_ yX11_eval cX11_eval 8 (some .int)) d [.ref (G.adr 11 0), .int nv, .int (nI (cM k)), .int self, .int (nI fr)] s (oQe τ σ (evX τ C S k e x M) a ct tt ft s) := sorry
end EVD
