/-! LINKHOUSE's MACHINE: static fields, new objects. -/
/-- room for all that comes -/
def Rmx (σ : Sg) (a : Nat) (S0 : Bw) (fs : List Fr) : Prop := fs.length ≤ 2 * a ∧ a ≤ 24 ∧ (skF σ S0 fs).length ≤ 320 * fs.length ∧ S0.2.1 ≤ a
/-- classes start, as S says -/
def StC (l : Launch) (G : Gl) (d : Nat) (σ : Sg) (S : StaF) (a : Nat) : Prop := ∀ (k : Nat) (M : MSt) (S0 : Bw) (fs : List Fr) (s : Sg), k ∈ wKs σ 0 → MInv σ M → MRl σ (M, a, S0, fs) s → Rmx σ a S0 fs → CT l G yX9_start (ws_ yX9_start cX9_start 4 (some .int)) d [.ref (G.adr 9 0), rv G 1 (some k)] s (rI (rzc (S k M)) (fun t => MRl σ ((S k M).1, a, S0, fs) t))
section STA
variable {l : Launch} {G : Gl} {d : Nat} {σ s : Sg} {P : Pg}
variable {M : MSt} {a : Nat} {S0 : Bw} {m p k b u : Nat} {ic : Bool} {e : Env} {o as : List Int32} {fs : List Fr}
theorem rzc_b {α β : Type} {r : Rz α} {k : MSt → α → Rz β} (h : ¬ rzc r = 0) : rzb r k = (r.1, match r.2 with | .ok _ => .error (false, 0) | .error x => .error x) ∧ rzc (rzb r k) = rzc r := sorry
/-- a good result that answers 0 is one -/
theorem rz_ok0 {α : Type} {M : MSt} {r : Rz α} {Q : MSt → α → Prop} (h : RzOk σ M r Q) (hn : RzN r) (h0 : rzc r = 0) : ∃ x, r = (r.1, .ok x) := sorry
theorem rz_er {α : Type} {r : Rz α} (h0 : ¬ rzc r = 0) : ∃ x, r = (r.1, .error x) := sorry
theorem RzS.er {α β : Type} {r : Rz α} {kk : MSt → α → Rz β} {K : β → List Int32} {o' : List Int32} {t : Sg} (q : ¬ rzc r = 0) (h : MRl σ (r.1, a, S0, (m, p, ic, e, o') :: fs) t) : rI (rzc (rzb r kk)) (RzS σ (rzb r kk) a S0 m p ic e K fs) (.returned (some (.int (rzc r)))) t := sorry
theorem br_gets (hG : GOK G) (hd : 139 ≤ d) (hM : WMa σ P) (hI : MInv σ M) {S : StaF} (hS : StK σ S) (hSt : StC l G (d - 1) σ S a) (hk : KHw σ M k) (hu : u < nUk σ k) (h3 : uSo σ k u = 5) (h : MRl σ (M, a, S0, (m, p, ic, e, o) :: fs) s) (hb : Frb σ S0 m o fs) (hr : Rmx σ a S0 ((m, p, ic, e, o) :: fs)) : CT l G yX9_byRow (ws_ yX9_byRow cX9_byRow 6 (some .int)) d [.ref (G.adr 9 0), .int 15, rv G 7 (some (uAt σ k u))] s (rI (rzc (rzGs σ S k u M)) (RzS σ (rzGs σ S k u M) a S0 m p ic e (fun w => w :: o) fs)) := sorry
theorem br_puts (hG : GOK G) (hd : 139 ≤ d) (hM : WMa σ P) (hI : MInv σ M) {S : StaF} (hS : StK σ S) (hSt : StC l G (d - 1) σ S a) {v : Int32} (hk : KHw σ M k) (hu : u < nUk σ k) (h3 : uSo σ k u = 6) (h : MRl σ (M, a, S0, (m, p, ic, e, v :: o) :: fs) s) (hb : Frb σ S0 m (v :: o) fs) (hr : Rmx σ a S0 ((m, p, ic, e, v :: o) :: fs)) : CT l G yX9_byRow (ws_ yX9_byRow cX9_byRow 6 (some .int)) d [.ref (G.adr 9 0), .int 16, rv G 7 (some (uAt σ k u))] s (rI (rzc (rzPs σ S k u v M)) (RzS σ (rzPs σ S k u v M) a S0 m p ic e (fun _ => o) fs)) := sorry
end STA
