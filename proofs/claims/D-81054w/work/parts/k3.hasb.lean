/-! THE MODEL's MACHINE: what a class that starts is asked; constants are laid. -/
section HSB
variable {l : Launch} {G : Gl} {d : Nat} {τ σ s t g : Sg} {P : Pg} {a ct tt ft k : Nat} {M : MSt} {Q : Outcome → Sg → Prop}
/-- a member in the model's tables -/
theorem WQ.mm (hW : WQ τ σ P) (h : FQm σ s) (hk : k ∈ wKs τ 0) {j : Nat} (hj : j < nMe τ k) : s.I 2142 0 (34 * cM k + j) = τ.I 1200 (33 * k + j) 0 ∧ s.B 2145 0 (34 * cM k + j) = τ.B 1203 (33 * k + j) 0 ∧ s.B 2147 0 (34 * cM k + j) = τ.B 1205 (33 * k + j) 0 ∧ s.B 2164 0 (34 * cM k + j) = τ.B 1212 (33 * k + j) 0 ∧ s.I 2165 0 (34 * cM k + j) = τ.I 1213 (33 * k + j) 0 := sorry
theorem hb_2 (hW : WQ τ σ P) (h : FQm σ s) (hk : k ∈ wKs τ 0) : ∀ (n j : Nat), j + n = nMe τ k → wq_X11_hasBody_2 l G d 0 (nI (cM k)) (rZ (fany (fun j => decide (τ.I 1200 (33 * k + j) 0 = 1) && (!τ.B 1205 (33 * k + j) 0 && !τ.B 1203 (33 * k + j) 0)) n j) (fun t => t = s)) (n + 1) (nI j) s := sorry
/-- it has a method of objects that is not bare -/
theorem sp_hasBody (hG : GOK G) (hd : 1 ≤ d) (hW : WQ τ σ P) (h : FQm σ s) (hk : k ∈ wKs τ 0) : CT l G yX11_hasBody (ws_ yX11_hasBody cX11_hasBody 4 (some .boolean)) d [.ref (G.adr 11 0), .int (nI (cM k))] s (rZ (kWh τ k) (fun t => t = s)) := sorry
/-- constants -/
theorem ss_2 (hW : WQ τ σ P) (hk : k ∈ wKs τ 0) : ∀ (n j : Nat) (M : MSt) (s : Sg), j + n = nMe τ k → MQst τ σ M a 0 ct tt ft s → Kp ct tt ft g s → (∀ t, MQst τ σ (stCs τ k n j M) a 0 ct tt ft t → Kp ct tt ft g t → ∃ fu, wq_X11_startSelf_57 l G d 0 (nI (cM k)) Q fu 0 t) → wq_X11_startSelf_2 l G d 0 (nI (cM k)) Q (n + 1) (nI j) s := sorry
end HSB
