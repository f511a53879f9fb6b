/-! Judging, the model: the maker that is meant. -/
/-- makers of class x are nameless, no bridges, of objects -/
def MkP (τ : Sg) (x : Nat) : Prop := ∀ j, j < nMe τ x → τ.I 1200 (33 * x + j) 0 = 2 → τ.L 1201 (33 * x + j) 0 = 0 ∧ τ.B 1206 (33 * x + j) 0 = false ∧ τ.B 1203 (33 * x + j) 0 = false
theorem jCdBs_mk {τ : Sg} {k x j : Nat} {ts : List Int64} (h : MkP τ x) (hj : j < nMe τ x) : jCdBs τ 2 k x 0 ts x (33 * x + j) = jMkB τ k x ts (33 * x + j) := sorry
theorem jMkB_n {τ : Sg} {k x m : Nat} {ts : List Int64} (h : jMkB τ k x ts m = true) : nPa τ m = ts.length := sorry
theorem jMkA_dbl {τ : Sg} {k x : Nat} {ts : List Int64} (h : MkP τ x) : ∀ (p j : Nat) (A B : List Nat), j + p = nMe τ x → Dbl τ ts.length A B → Dbl τ ts.length (jMkA τ k x ts p j A) (jCdAs τ 2 k x 0 ts x p j B) := sorry
theorem jCdAs_le {τ : Sg} {sr : Int32} {c x k : Nat} {nm : Int64} {ts : List Int64} : ∀ (p j : Nat) (A : List Nat), (jCdAs τ sr c x nm ts k p j A).length ≤ A.length + p := sorry
section SPX
variable {l : Launch} {G : Gl} {d : Nat}
theorem sp_X11_meantMaker (hG : GOK G) {τ σ : Sg} {k x : Nat} {ts : List Int64} {v : Int32} (hd : 10 ≤ d) (hU : JgU τ σ k) (h09 : σ.I 2209 0 0 = nI (cM k)) (hP : PmA τ) (hs : SIv σ) (hx : x ∈ wKs τ 1) (hK : MkP τ x) (hA : MAr σ ts v) {x1 : Int32} (e1 : x1 = nI (cM x)) : CT l G yX11_meantMaker (ws_ yX11_meantMaker cX11_meantMaker 3 (some .int)) d [.ref (G.adr 11 0), .int x1, .int v] σ (rI (oN ((jMkr τ k x ts).map mM)) (fun s => FJ pMd σ s ∧ SIv s)) := sorry
end SPX
