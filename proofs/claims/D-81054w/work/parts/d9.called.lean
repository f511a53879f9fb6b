/-! LINKHOUSE's MACHINE: calls. -/
/-- where a member's code lies -/
def cdAt (σ : Sg) (m : Nat) : Nat := (σ.I 1219 m 0).toNatClampNeg
/-- members that run have code, room for what they are given -/
def MeE (σ : Sg) : Prop := ∀ k, k ∈ wKs σ 0 → ¬ σ.I 1101 k 0 = 26 → ∀ j, j < nMe σ k → ((σ.I 1200 (33 * k + j) 0 = 1 ∧ σ.B 1205 (33 * k + j) 0 = false) ∨ σ.I 1200 (33 * k + j) 0 = 2) → Enk σ (33 * k + j) (cdAt σ (33 * k + j)) ∧ (if σ.B 1203 (33 * k + j) 0 = true then 0 else 1) + nPa σ (33 * k + j) ≤ nLo σ (33 * k + j) ∧ nLo σ (33 * k + j) ≤ 310
section CLD
variable {l : Launch} {G : Gl} {d : Nat} {σ s : Sg} {P : Pg}
variable {M : MSt} {a : Nat} {S0 : Bw} {m p k b u : Nat} {ic : Bool} {e : Env} {o as : List Int32} {fs : List Fr}
/-- what a call's code leaves -/
def CaO (σ : Sg) (M : MSt) (a : Nat) (S0 : Bw) (D : Dcs) (m p : Nat) (ic : Bool) (e : Env) (o : List Int32) (fs : List Fr) (t : Sg) : Prop := match D with
  | .error _ => ∃ o', MRl σ (M, a, S0, (m, p, ic, e, o') :: fs) t
  | .ok x => (enV M a = 0 → MRl σ (M.wSp (M.sp + 1), a + 1, S0, (x.1, cdAt σ x.1, true, envA x.2, []) :: (m, p, ic, e, o) :: fs) t) ∧ (¬ enV M a = 0 → ∃ o', MRl σ (M, a, S0, (m, p, ic, e, o') :: fs) t)
/-- what it answers -/
def caV (M : MSt) (a : Nat) (D : Dcs) : Int32 := match D with
  | .error f => f
  | .ok _ => enV M a
/-- how many a member is given -/
theorem CaH.len (h : CaH σ M m as) : as.length = (if σ.B 1203 m 0 = true then 0 else 1) + nPa σ m := sorry
/-- a member that can be called is entered -/
theorem sp_call (hG : GOK G) (hd : 2 ≤ d) (hM : WMa σ P) (hE : MeE σ) (hI : MInv σ M) {x : Nat} (hc : CaH σ M x as) (h : MRl σ (M, a, S0, (m, p, ic, e, as.reverse ++ o) :: fs) s) (hr : Rmx σ a S0 ((m, p, ic, e, o) :: fs)) : CT l G yX9_enter (ws_ yX9_enter cX9_enter 4 (some .int)) d [.ref (G.adr 9 0), rv G 2 (some x), .int (nI as.length), .int (bI true)] s (rI (enV M a) (fun t => CaO σ M a S0 (.ok (x, as)) m p ic e o fs t)) := sorry
theorem I1208_se (h : stat s = stat σ) {k : Nat} : s.I 1208 k 0 = σ.I 1208 k 0 ∧ s.I 1202 k 0 = σ.I 1202 k 0 := sorry
theorem wSel_se (h : stat s = stat σ) {w m r : Nat} : wSel s w m r = wSel σ w m r ∧ wSelc s w m r = wSelc σ w m r := sorry
/-- an object's method is called -/
theorem cd_V (hG : GOK G) (hd : 72 ≤ d) (hM : WMa σ P) (hE : MeE σ) (hI : MInv σ M) {v0 : Nat} {v : Int32} {c : Nat} {r : MT} (hv : v0 = 7 ∨ v0 = 8) (h3' : uSo σ k u = nI v0) (hk : k ∈ wKs σ 0) (nb : ¬ σ.I 1101 k 0 = 26) (hu : u < nUk σ k) (lct : Ldd σ M.ls c) (hq : RsOk σ (uAt σ k u) k c r) (ho : vOk σ M (uTi σ k u) v) (hn : ¬ uTi σ k u = 1) (ha : vOkL σ M (uPm σ k u) as) {m' : Nat} (em : r.2.2.1 = some m') (hpa : nPa σ m' = as.length) (hlv : ∃ d1 jm, m' = 33 * d1 + jm ∧ d1 ∈ wKs σ 0 ∧ jm < nMe σ d1 ∧ kMet σ d1 m' = some m') (h : MRl σ (M, a, S0, (m, p, ic, e, (v :: as).reverse ++ o) :: fs) s) (hb : Frb σ S0 m ((v :: as).reverse ++ o) fs) (hr : Rmx σ a S0 ((m, p, ic, e, o) :: fs)) : CT l G yX9_called (ws_ yX9_called cX9_called 8 (some .int)) d [.ref (G.adr 9 0), rv G 7 (some (uAt σ k u)), rv G 2 (some m')] s (rI (caV M a (dcV σ k u v as M r)) (CaO σ M a S0 (dcV σ k u v as M r) m p ic e o fs)) := sorry
end CLD
