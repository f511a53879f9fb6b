/-! LINKHOUSE's MACHINE: all kinds of calls. -/
section CLS
variable {l : Launch} {G : Gl} {d : Nat} {σ s : Sg} {P : Pg}
variable {M : MSt} {a : Nat} {S0 : Bw} {m p k b u : Nat} {ic : Bool} {e : Env} {o as : List Int32} {fs : List Fr}
/-- what a call's function f makes of state M: in state M' the decision D -/
def ClP (σ : Sg) (f : CalF → Rz Int32) (M : MSt) (ty : Int64) (M' : MSt) (D : Dcs) : Prop := (∀ C, f C = dcR C M' D) ∧ CaT σ M' D ty ∧ MInv σ M' ∧ Ext M M'
theorem rs_flt (hM : WMa σ P) {v : Nat} (hI : MInv σ M) (hk : k ∈ wKs σ 0) (hv : v ≤ 15) (ev : uSo σ k u = nI v) (z : ¬ (rsR σ (uAt σ k u) k M.ls).1 ≤ 0) : FlE (rsR σ (uAt σ k u) k M.ls).1 ∧ MInv σ (M.wLs (rsR σ (uAt σ k u) k M.ls).2.1) ∧ Ext M (M.wLs (rsR σ (uAt σ k u) k M.ls).2.1) := sorry
theorem br_17 (hG : GOK G) (hu16 : uAt σ k u < 16000) {v : Int32} {R : Sg → Prop} (H : wq_X9_byRow_28 l G d 0 17 (some (uAt σ k u)) (rI v R) s) : CT l G yX9_byRow (ws_ yX9_byRow cX9_byRow 6 (some .int)) (d + 1) [.ref (G.adr 9 0), .int 17, rv G 7 (some (uAt σ k u))] s (rI v R) := sorry
/-- of an object -/
theorem br_callV (hG : GOK G) (hd : 140 ≤ d) (hM : WMa σ P) (hE : MeE σ) (hI : MInv σ M) {v : Int32} (hk : KHw σ M k) (hu : u < nUk σ k) (h3 : uSo σ k u = 7 ∨ uSo σ k u = 8) (ho : vOk σ M (uTi σ k u) v) (hn : ¬ uTi σ k u = 1) (ha : vOkL σ M (uPm σ k u) as) : ∃ M' D, ClP σ (fun C => rzV σ C k u v as M) M (uTy σ k u) M' D ∧ ∀ s a S0 m p ic e o fs, MRl σ (M, a, S0, (m, p, ic, e, (v :: as).reverse ++ o) :: fs) s → Frb σ S0 m ((v :: as).reverse ++ o) fs → Rmx σ a S0 ((m, p, ic, e, o) :: fs) → CT l G yX9_byRow (ws_ yX9_byRow cX9_byRow 6 (some .int)) d [.ref (G.adr 9 0), .int 17, rv G 7 (some (uAt σ k u))] s (rI (caV M' a D) (CaO σ M' a S0 D m p ic e o fs)) := sorry
end CLS
