/-! LINKHOUSE's MACHINE: codes without a use. -/
section PLN
variable {l : Launch} {G : Gl} {d : Nat} {σ s : Sg} {P : Pg}
variable {M : MSt} {a : Nat} {S0 : Bw} {m p k b : Nat} {ic : Bool} {e : Env} {o as : List Int32} {fs : List Fr} {ar : Int32}
/-- of two -/
theorem sm_op2 (hG : GOK G) (hd : 1 ≤ d) {w : Nat} {x y : Int32} (hw : 12 ≤ w ∧ w ≤ 16) (h : MRl σ (M, a, S0, (m, p, ic, e, y :: x :: o) :: fs) s) (hb : Frb σ S0 m (y :: x :: o) fs) : CT l G yX9_simple (ws_ yX9_simple cX9_simple 6 (some .int)) d [.ref (G.adr 9 0), .int (opC w), .int ar] s (rI 0 (fun t => MRl σ (M, a, S0, (m, p, ic, e, op2 w x y :: o) :: fs) t)) := sorry
end PLN
