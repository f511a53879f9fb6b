/-! THE MODEL's MACHINE: static fields and starts of a class. -/
/-- static fields, starts hang where they must -/
def StX (τ σ : Sg) (P : Pg) (k b n0 : Nat) : Prop := ∀ j, j < nMe τ k → (τ.I 1200 (33 * k + j) 0 = 0 → τ.B 1203 (33 * k + j) 0 = true → τ.B 1212 (33 * k + j) 0 = false → (RMx σ b n0 (P.1 (33 * k + j)) (σ.I 2160 0 (34 * cM k + j)) ∧ scX (mLo σ (34 * cM k + j)) [] (P.1 (33 * k + j))) ∧ σ.I 2168 0 (34 * cM k + j) = nI (mLo σ (34 * cM k + j)) ∧ mLo σ (34 * cM k + j) ≤ 260) ∧
  (τ.I 1200 (33 * k + j) 0 = 3 → (RMs σ b n0 (P.1 (33 * k + j)) (σ.I 2161 0 (34 * cM k + j)) ∧ scS (mLo σ (34 * cM k + j)) [] (P.1 (33 * k + j)) ∧ rOp (P.1 (33 * k + j)) = 30 ∧ hgS (P.1 (33 * k + j)) ≤ 13) ∧ σ.I 2168 0 (34 * cM k + j) = nI (mLo σ (34 * cM k + j)) ∧ mLo σ (34 * cM k + j) ≤ 260)
/-- what starting leaves; what is thrown is not yet told as 8 -/
def SsR (τ σ : Sg) (r : Rz Unit) (a ct tt ft : Nat) (t : Sg) : Prop := ∃ st, MQst τ σ r.1 a st ct tt ft t ∧ match r.2 with
  | .ok _ => st = 0
  | .error x => x.1 = false ∧ ((st = 3 ∧ t.I 2265 0 0 = x.2) ∨ (st = 2 ∧ x.2 = 8))
section SSF
variable {l : Launch} {G : Gl} {d D : Nat} {τ σ s t g : Sg} {P : Pg} {C : CalF} {S : StaF} {a ct tt ft k b n0 : Nat} {M : MSt} {Q : Outcome → Sg → Prop}
/-- a stopped one ends -/
theorem ss_no (hM : WMa τ P) (hk : k ∈ wKs τ 0) {st' x2 : Int32} {m : Nat} (h : MQst τ σ M a st' ct tt ft s) (hn : ¬ st' = 0) (hQ : Q (.returned none) s) : wq_X11_startSelf_57 l G d 0 (nI (cM k)) Q (m + 1) x2 s := sorry
/-- behind what was thrown or failed -/
theorem ss_er {α β : Type} {r : Rz α} {x : Er} {kk : MSt → β → Rz Unit} {M2 : MSt} (h : RQm τ σ ((M2, .error x) : Rz α) a ct tt ft t) : SsR τ σ (rzb (t8 ((M2, .error x) : Rz β)) kk) a ct tt ft t := sorry
theorem ss_57 (hG : GOK G) (hD : D + 36 ≤ d) (KS : ∀ nL, nL ≤ 260 → SkN l G D τ σ P C S a ct nL tt ft k b n0) (hX : StX τ σ P k b n0) : ∀ (n j : Nat) (M : MSt) (s : Sg), j + n = nMe τ k → KHw τ M k → MInv τ M → MQst τ σ M a 0 ct tt ft s → Kp ct tt ft g s → (∀ t, SsR τ σ (stMs τ P C S k n j M) a ct tt ft t → Kp ct tt ft g t → Q (.returned none) t) → wq_X11_startSelf_57 l G d 0 (nI (cM k)) Q (n + 1) (nI j) s := sorry
end SSF
