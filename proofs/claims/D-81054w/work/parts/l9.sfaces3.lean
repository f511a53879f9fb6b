/-! THE MODEL's MACHINE: startFaces, with a stamp that is left. -/
/-- the state that frames are told against, with another bound on stamps -/
abbrev ghS (σ : Sg) (b : Nat) : Sg := sI σ 2271 0 1 (nI b)
section GHO
variable {l : Launch} {G : Gl} {d : Nat} {τ σ s t : Sg} {P : Pg} {S : StaF} {M N : MSt} {a ct tt ft k b : Nat} {st : Int32}
theorem gh_fl : FQm (ghS σ b) σ := sorry
theorem gh_f (h : FQm (ghS σ b) s) : FQm σ s := sorry
theorem gh_g (h : FQm σ s) : FQm (ghS σ b) s := sorry
theorem gh_b (hb : b < 2 ^ 30) : ((ghS σ b).I 2271 0 1).toNatClampNeg = b := sorry
/-- a stamp is left -/
theorem MQst.gh (h : MQst τ σ M a st ct tt ft t) (h' : MQst τ σ N a st ct tt ft s) (hK : KpA s t) (hz : (zl M.sr).length < (zl N.sr).length) (hb : (σ.I 2271 0 1).toNatClampNeg = b + 1) (hb2 : b < 2 ^ 30) : MQst τ (ghS σ b) M a st ct tt ft t := sorry
/-- .. and not used -/
theorem RQm.gu {α : Type} {r : Rz α} (h : RQm τ (ghS σ b) r a ct tt ft t) (hb : (σ.I 2271 0 1).toNatClampNeg = b + 1) (hb2 : b < 2 ^ 30) : RQm τ σ r a ct tt ft t := sorry
theorem sp_startFaces (hG : GOK G) (hd : 4 ≤ d) (hW : WQ τ σ P) (hK : StK τ S) (hS : StD τ S) (hSt : StM l G (d - 1) τ σ S a) (hB : ct ≤ 260 * a ∧ tt ≤ 720 * a ∧ a ≤ 24) {r : Rz Unit} (hI : MInv τ r.1) (hk : Ldd τ r.1.ls k) (hb : ft + 320 ≤ 320 * a) (hgb : (σ.I 2271 0 1).toNatClampNeg = b + 1) (hb2 : b < 2 ^ 30) (h : RQm τ (ghS σ b) r a ct tt ft s) : CT l G yX11_startFaces (ws_ yX11_startFaces cX11_startFaces 6 none) d [.ref (G.adr 11 0), .int (nI (cM k))] s (rV (fun t => RQm τ σ (rzb r fun M _ => visR (vis τ S 64) (fcOf τ k) M) a ct tt ft t ∧ Kp ct tt ft s t)) := sorry
end GHO
