/-! The model: parents, heirs -/
/-- the head of class c of LinkHouse (tables τ) is that of the model (tables σ) -/
def MK1 (τ σ : Sg) (c : Nat) : Prop := TyC (τ.L 1100 c 0) ∧ σ.L 2124 0 (cM c) = tM (τ.L 1100 c 0) ∧ σ.B 2126 0 (cM c) = τ.B 1103 c 0 ∧ σ.I 2127 0 (cM c) = (if τ.B 1102 c 0 = true then 3 else if τ.B 1104 c 0 = true then 1 else if τ.B 1105 c 0 = true then 2 else 0) ∧ ((σ.L 2128 0 (cM c) = 0 ∧ τ.L 1107 c 0 = 6927257) ∨ (σ.L 2128 0 (cM c) = tM (τ.L 1107 c 0) ∧ TyC (τ.L 1107 c 0)) ∨ c = 192) ∧ σ.I 2132 0 (cM c) = τ.I 1109 c 0 ∧ ∀ j, j < nFc τ c → TyC (τ.L 1108 c j) ∧ σ.L 2130 0 (4 * cM c + j) = tM (τ.L 1108 c j)
/-- the model finds as the world w does -/
def MFd (τ σ : Sg) (w : Nat) : Prop := (∀ nm, TyC nm → mFnd σ (tM nm) = (wFind τ w nm).map cM) ∧ wFind τ w 6927257 = some 192 ∧ ∀ c, c ∈ wKs τ w → τ.L 1100 c 0 = 6927257 → c = 192
theorem TyC.any : TyC 6927257 := sorry
theorem TyC.nz {t : Int64} (h : TyC t) : ¬ tM t = 0 := sorry
theorem oN_cM {c : Nat} (h : c < cnt 1) : ¬ nI (cM c) = (-2) := sorry
/-- marks, the pile -/
def pN (c _i : Nat) : Bool := rg 2192 2196 c
/-- marks are at most the stamp -/
def SIv (σ : Sg) : Prop := ∃ s, s < 2 ^ 31 ∧ σ.I 2195 0 0 = nI s ∧ ∀ c, c < 216 → (∃ a, a ≤ s ∧ σ.I 2193 0 c = nI a) ∧ ∃ a, a ≤ s ∧ σ.I 2194 0 c = nI a
/-- a new stamp: no mark is it -/
def SNw (σ : Sg) (s : Nat) : Prop := s < 2 ^ 31 ∧ σ.I 2195 0 0 = nI s ∧ ∀ c, c < 216 → (∃ a, a < s ∧ σ.I 2193 0 c = nI a) ∧ ∃ a, a < s ∧ σ.I 2194 0 c = nI a
section SPMH
variable {l : Launch} {G : Gl} {τ σ : Sg}
theorem sp_X11_newStamp (hG : GOK G) {d : Nat} (hd : 1 ≤ d) (h : SIv σ) : CT l G yX11_newStamp (ws_ yX11_newStamp cX11_newStamp 2 none) d [.ref (G.adr 11 0)] σ (rV (fun s => ∃ ρ n, s = mix pN σ ρ ∧ SNw ρ n)) := sorry
theorem sp_X11_isFace (hG : GOK G) {d : Nat} (hd : 1 ≤ d) {c : Nat} (hc : c < cnt 1) (hK : MK1 τ σ c) {x : Int32} (hx : x = nI (cM c)) : CT l G yX11_isFace (ws_ yX11_isFace cX11_isFace 2 (some .boolean)) d [.ref (G.adr 11 0), .int x] σ (rZ (τ.B 1102 c 0) (fun s => s = σ)) := sorry
theorem sp_X11_parent (hG : GOK G) {d : Nat} (hd : 3 ≤ d) (hM : MWO σ) {w c : Nat} (hF : MFd τ σ w) (hc : c < cnt 1) (hK : MK1 τ σ c) (ha : τ.L 1100 c 0 = 6927257 ↔ c = 192) {x : Int32} (hx : x = nI (cM c)) : CT l G yX11_parent (ws_ yX11_parent cX11_parent 2 (some .int)) d [.ref (G.adr 11 0), .int x] σ (rI (oN ((wPar τ w c).map cM)) (fun s => s = σ)) := sorry
end SPMH
