/-! Judging, the model: the method or maker that is meant. -/
def pMe (c _j : Nat) : Bool := rg 2192 2196 c || rg 2214 2217 c
theorem pMe_iff {c j : Nat} : pMe c j = true ↔ (2192 < c ∧ c ≤ 2196) ∨ (2214 < c ∧ c ≤ 2217) := sorry
theorem pMe_no {c j : Nat} (h : c ≤ 2192 ∨ (2196 < c ∧ c ≤ 2214) ∨ 2217 < c) : pMe c j = false := sorry
theorem pMd_pMe : ∀ c j, pMd c j = true → pMe c j = true := sorry
theorem stJ_me {σ s : Sg} (h : FJ pMe σ s) : stJ s = stJ σ := sorry
theorem pRo_pMe : ∀ c i j, pMe c j = false → pRo 2217 c i = false := sorry
theorem pNF_pMe : ∀ c i j, pMe c j = false → pNF 2217 c i = false := sorry
theorem jPs_wKs {τ : Sg} {x : Nat} (hW : WOK τ 1) (hx : x ∈ wKs τ 1) : ∀ y, y ∈ jPs τ 1 x → y ∈ wKs τ 1 := sorry
section SPX
variable {l : Launch} {G : Gl} {d : Nat}
theorem sp_X11_meant (hG : GOK G) {τ σ : Sg} {k x : Nat} {nm : Int64} {ts : List Int64} {v : Int32} (hd : 10 ≤ d) (hU : JgU τ σ k) (h09 : σ.I 2209 0 0 = nI (cM k)) (hP : PmA τ) (hs : SIv σ) (hx : x ∈ wKs τ 1) (hA : MAr σ ts v) (hnm : ¬ nm = 0) (hl : (jCds τ k x nm ts).length ≤ 432) {x1 : Int32} (e1 : x1 = nI (cM x)) : CT l G yX11_meant (ws_ yX11_meant cX11_meant 8 (some .int)) d [.ref (G.adr 11 0), .int x1, .long nm, .int v] σ (rI (oN ((jMth τ k x nm ts).map mM)) (fun s => FJ pMe σ s ∧ SIv s)) := sorry
end SPX
