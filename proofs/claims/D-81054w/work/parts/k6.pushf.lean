/-! THE MODEL's MACHINE: faces are piled. -/
section PSF
variable {l : Launch} {G : Gl} {d : Nat} {τ σ s g : Sg} {P : Pg} {a ct tt k : Nat} {M : MSt} {st : Int32} {F : Nat → Nat}
/-- a class in the model's tables -/
theorem WQ.k1 (hW : WQ τ σ P) (h : FQm σ s) (hk : k ∈ wKs τ 0) : s.I 2132 0 (cM k) = nI (nFc τ k) ∧ nFc τ k ≤ 4 ∧ ∀ j, j < nFc τ k → TyC (τ.L 1108 k j) ∧ s.L 2130 0 (4 * cM k + j) = tM (τ.L 1108 k j) := sorry
theorem nI_s1 (j : Nat) : nI j + (-1) = nI j - 1 := sorry
theorem pf_9 (hG : GOK G) (hd : 2 ≤ d) (hW : WQ τ σ P) (hk : k ∈ wKs τ 0) {ft : Nat} (hft : ft + nFc τ k ≤ 8000) (hF : ∀ j, j < nFc τ k → wFind τ 0 (τ.L 1108 k j) = some (F j)) : ∀ (j : Nat) (s : Sg), j ≤ nFc τ k → MQst τ σ M a st ct tt (ft + (nFc τ k - j)) s → Kp ct tt ft g s → (∀ c i, c ≠ 2272 → c ≠ 2273 → s.I c 0 i = g.I c 0 i) → (∀ i, i < nFc τ k - j → s.I 2272 0 (ft + i) = nI (2 * cM (F (nFc τ k - 1 - i)))) → wq_X11_pushFaces_9 l G d 0 (nI (cM k)) (rV (fun t => MQst τ σ M a st ct tt (ft + nFc τ k) t ∧ Kp ct tt ft g t ∧ (∀ c i, c ≠ 2272 → c ≠ 2273 → t.I c 0 i = g.I c 0 i) ∧ ∀ i, i < nFc τ k → t.I 2272 0 (ft + i) = nI (2 * cM (F (nFc τ k - 1 - i))))) (j + 1) (nI j - 1) s := sorry
theorem sp_pushFaces (hG : GOK G) (hd : 3 ≤ d) (hW : WQ τ σ P) (hk : k ∈ wKs τ 0) {ft : Nat} (hft : ft + nFc τ k ≤ 8000) (hF : ∀ j, j < nFc τ k → wFind τ 0 (τ.L 1108 k j) = some (F j)) (h : MQst τ σ M a st ct tt ft s) : CT l G yX11_pushFaces (ws_ yX11_pushFaces cX11_pushFaces 3 none) d [.ref (G.adr 11 0), .int (nI (cM k))] s (rV (fun t => MQst τ σ M a st ct tt (ft + nFc τ k) t ∧ Kp ct tt ft s t ∧ (∀ c i, c ≠ 2272 → c ≠ 2273 → t.I c 0 i = s.I c 0 i) ∧ ∀ i, i < nFc τ k → t.I 2272 0 (ft + i) = nI (2 * cM (F (nFc τ k - 1 - i))))) := sorry
end PSF
