/-! LINKHOUSE's MACHINE: asks, casts. -/
section CST
variable {l : Launch} {G : Gl} {d : Nat} {σ s : Sg} {P : Pg}
variable {M : MSt} {a : Nat} {S0 : Bw} {m p k b u : Nat} {ic : Bool} {e : Env} {o as : List Int32} {fs : List Fr}
theorem br_cast (hG : GOK G) (hd : 139 ≤ d) (hM : WMa σ P) (hI : MInv σ M) {v : Int32} {ty : Int64} (hk : KHw σ M k) (hu : u < nUk σ k) (h3 : uSo σ k u = 13) (hv : vOk σ M ty v) (hn : ¬ ty = 1) (h : MRl σ (M, a, S0, (m, p, ic, e, v :: o) :: fs) s) (hb : Frb σ S0 m (v :: o) fs) : CT l G yX9_byRow (ws_ yX9_byRow cX9_byRow 6 (some .int)) d [.ref (G.adr 9 0), .int 20, rv G 7 (some (uAt σ k u))] s (rI (rzc (rzC σ k u v M)) (RzS σ (rzC σ k u v M) a S0 m p ic e (fun w => w :: o) fs)) := sorry
theorem br_ask (hG : GOK G) (hd : 139 ≤ d) (hM : WMa σ P) (hI : MInv σ M) {v : Int32} {ty : Int64} (hk : KHw σ M k) (hu : u < nUk σ k) (h3 : uSo σ k u = 14) (hv : vOk σ M ty v) (hn : ¬ ty = 1) (h : MRl σ (M, a, S0, (m, p, ic, e, v :: o) :: fs) s) (hb : Frb σ S0 m (v :: o) fs) : CT l G yX9_byRow (ws_ yX9_byRow cX9_byRow 6 (some .int)) d [.ref (G.adr 9 0), .int 21, rv G 7 (some (uAt σ k u))] s (rI (rzc (rzA σ k u v M)) (RzS σ (rzA σ k u v M) a S0 m p ic e (fun w => w :: o) fs)) := sorry
end CST
