/-! LINKHOUSE's MACHINE: fields of objects, asks, casts. -/
section GP
variable {l : Launch} {G : Gl} {d : Nat} {σ s : Sg} {P : Pg}
variable {M : MSt} {a : Nat} {S0 : Bw} {m p k b u : Nat} {ic : Bool} {e : Env} {o as : List Int32} {fs : List Fr}
/-- what a code answers -/
def rzc {α : Type} (r : Rz α) : Int32 := match r.2 with
  | .ok _ => 0
  | .error x => x.2
/-- the outcome of a code: operands behind it -/
def RzS (σ : Sg) {α : Type} (r : Rz α) (a : Nat) (S0 : Bw) (m p : Nat) (ic : Bool) (e : Env) (K : α → List Int32) (fs : List Fr) (t : Sg) : Prop := ∃ o', MRl σ (r.1, a, S0, (m, p, ic, e, o') :: fs) t ∧ ∀ w, r.2 = .ok w → o' = K w
theorem rs_bad (hM : WMa σ P) {v : Nat} (hI : MInv σ M) (hk : k ∈ wKs σ 0) (hv : v ≤ 15) (ev : uSo σ k u = nI v) (z : ¬ (rsR σ (uAt σ k u) k M.ls).1 ≤ 0) : rzR σ k u M = rzf (M.wLs (rsR σ (uAt σ k u) k M.ls).2.1) (rsR σ (uAt σ k u) k M.ls).1 := sorry
theorem rs_good (z : (rsR σ (uAt σ k u) k M.ls).1 ≤ 0) : rzR σ k u M = rzk (M.wLs (rsR σ (uAt σ k u) k M.ls).2.1) (rsR σ (uAt σ k u) k M.ls) := sorry
/-- what is known when a use is met -/
theorem rs_ok (hM : WMa σ P) {v : Nat} (hI : MInv σ M) (hk : k ∈ wKs σ 0) (hv : v ≤ 15) (ev : uSo σ k u = nI v) (z : (rsR σ (uAt σ k u) k M.ls).1 ≤ 0) : MInv σ (M.wLs (rsR σ (uAt σ k u) k M.ls).2.1) ∧ Ext M (M.wLs (rsR σ (uAt σ k u) k M.ls).2.1) ∧ ∃ c, RsOk σ (uAt σ k u) k c (rsR σ (uAt σ k u) k M.ls) := sorry
/-- an object's field is asked -/
theorem br_get (hG : GOK G) (hd : 139 ≤ d) (hM : WMa σ P) (hI : MInv σ M) {v : Int32} (hk : KHw σ M k) (hu : u < nUk σ k) (h3 : uSo σ k u = 3) (hv : vOk σ M (uTi σ k u) v) (hn : ¬ uTi σ k u = 1) (h : MRl σ (M, a, S0, (m, p, ic, e, v :: o) :: fs) s) (hb : Frb σ S0 m (v :: o) fs) : CT l G yX9_byRow (ws_ yX9_byRow cX9_byRow 6 (some .int)) d [.ref (G.adr 9 0), .int 13, rv G 7 (some (uAt σ k u))] s (rI (rzc (rzG σ k u v M)) (RzS σ (rzG σ k u v M) a S0 m p ic e (fun w => w :: o) fs)) := sorry
/-- an object's field is put to -/
theorem br_put (hG : GOK G) (hd : 139 ≤ d) (hM : WMa σ P) (hI : MInv σ M) {v x : Int32} (hk : KHw σ M k) (hu : u < nUk σ k) (h3 : uSo σ k u = 4) (hv : vOk σ M (uTi σ k u) v) (hn : ¬ uTi σ k u = 1) (h : MRl σ (M, a, S0, (m, p, ic, e, x :: v :: o) :: fs) s) (hb : Frb σ S0 m (x :: v :: o) fs) : CT l G yX9_byRow (ws_ yX9_byRow cX9_byRow 6 (some .int)) d [.ref (G.adr 9 0), .int 14, rv G 7 (some (uAt σ k u))] s (rI (rzc (rzP σ k u v x M)) (RzS σ (rzP σ k u v x M) a S0 m p ic e (fun _ => o) fs)) := sorry
end GP
