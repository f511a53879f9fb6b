/-! THE MODEL's MACHINE: a maker, whole. -/
/-- a use is asked, the maker is called; the top of the cells is kept -/
def AkJ (l : Launch) (G : Gl) (d : Nat) (τ σ : Sg) (r : Rz Int32) (a ct tt ft fr k u : Nat) (self : Int32) (s : Sg) : Prop := CT l G yX11_asks (ws_ yX11_asks cX11_asks 3 (some .boolean)) d [.ref (G.adr 11 0), .int (nI (muA τ k u))] s (fun o t => (o = .returned (some (.int (bI false))) ∧ RQm τ σ r a ct tt ft t ∧ Kp fr tt ft s t ∧ ∀ w, ¬ r.2 = .ok w) ∨ (o = .returned (some (.int (bI true))) ∧ t.I 2255 0 0 = s.I 2255 0 0 ∧ CT l G yX11_invoke (ws_ yX11_invoke cX11_invoke 7 (some .int)) d [.ref (G.adr 11 0), .int (t.I 2240 0 0), .int self, .int (nI fr)] t (oQf τ σ r a ct tt ft fr s)))
section AKJ
variable {l : Launch} {G : Gl} {d : Nat} {τ σ s t : Sg} {P : Pg} {M : MSt} {a fr ct tt ft k u : Nat} {S : StaF} {C : CalF} {as : List Int32}
theorem sp_makerJ (hG : GOK G) (hd : 150 ≤ d) (hW : WQ τ σ P) (hI : MInv τ M) (hCs : CalM l G d τ σ C a) (hk : KHw τ M k) (hu : u < nUk τ k) (h3 : uSo τ k u = 2) {v : Int32} (ho : vOk τ M (uTi τ k u) v) (hn : ¬ uTi τ k u = 1) (h0 : ¬ v = 0) (ha : vOkL τ M (uPm τ k u) as) (hb : BdQ a fr tt ft) (hcl : ∀ (i : Nat) (w : Int32), as[i]? = some w → s.I 2254 0 (fr + i) = w) (h : MQst τ σ M a 0 ct tt ft s) : AkJ l G d τ σ (rzM τ C k u v as M) a ct tt ft fr k u v s := sorry
end AKJ

section RMQ
variable {l : Launch} {G : Gl} {d D : Nat} {τ σ s t g : Sg} {P : Pg} {C : CalF} {S : StaF} {a fr nL tt ft k b n0 : Nat} {M : MSt} {Ls : List Nat} {e : Env} {st : Bool} {self : Int32} {Γ : Nat → Int64} {nl : Nat} {mt : Int64} {n j : Nat} {Q : Outcome → Sg → Prop} {x : RT} {nv : Int32}
/-- stopped before the fields -/
theorem rm_115n (hM : WMa τ P) (hk : k ∈ wKs τ 0) {ct : Nat} {st' x1 x5 : Int32} (h : MQst τ σ M a st' ct tt ft s) (hn : ¬ st' = 0) (hQ : Q (.returned none) s) : wq_X11_runMaker_115 l G d 0 x1 self (nI fr) Q (nI (cM k)) x5 s := sorry
/-- the maker above that is not told, fields, the row -/
theorem rm_77 (K : SkN l G D τ σ P C S a fr nL tt ft k b n0) (hd : D + 2 ≤ d) (hj : j < nMe τ k) (hF : FdX τ σ P nL k b n0) (hst : st = false) (hc : EvC τ M k Γ st nl e) (hI : MInv τ M) (h : MQst τ σ M a 0 (fr + nL) tt ft s) (hE : EnQ s fr (fr + nL) Ls e st self) (hg : Kp fr tt ft g s) (hro : rLf x = true ∨ rOp x = 0) (hdx : D + 6 + 2 * hgS x ≤ d) (sc : scS nL Ls x) (hw : wtS τ k Γ st nl mt x) (hx : RMs σ b n0 x nv) (pu : Nat) (e67 : (pu = 0 ∧ σ.I 2167 0 (34 * cM k + j) = -2) ∨ (¬ pu = 0 ∧ σ.I 2167 0 (34 * cM k + j) = nI (muA τ k (pu - 1)) ∧ pu - 1 < nUk τ k ∧ uSo τ k (pu - 1) = 2 ∧ uTi τ k (pu - 1) = τ.L 1107 k 0 ∧ τ.B 1102 k 0 = false ∧ uPm τ k (pu - 1) = [])) (hQ : ∀ t, ZQ τ σ (zse e (if pu = 0 then rzk M 0 else rzM τ C k (pu - 1) (e 0) [] M) fun t _ => zse e (ffA τ P C S k e t) fun t _ => exS τ C S k (ffA τ P C S k) x (t, e)) a fr (fr + nL) tt ft Ls st self g t → Q (.returned none) t) : wq_X11_runMaker_77 l G d 0 (nI (34 * cM k + j)) self (nI fr) Q (nI (cM k)) nv s := sorry
end RMQ
