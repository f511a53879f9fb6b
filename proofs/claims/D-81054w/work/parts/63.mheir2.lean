/-! The model: isHeir, fits -/
/-- a pile of classes -/
def PRow (ρ : Sg) (P : List Nat) : Prop := ∀ j, j < P.length → (P[j]?).map (fun c => nI (cM c)) = some (ρ.I 2196 0 j)
theorem PRow.push {ρ : Sg} {P : List Nat} (h : PRow ρ P) (k : Nat) : PRow (sI ρ 2196 0 P.length (nI (cM k))) (P ++ [k]) := sorry
theorem PRow.pop {ρ : Sg} {Q : List Nat} {x : Nat} (h : PRow ρ (Q ++ [x])) : PRow ρ Q ∧ ρ.I 2196 0 Q.length = nI (cM x) := sorry
/-- the classes that bear the stamp as opened -/
def HS (ρ : Sg) (s : Nat) (O : List Nat) : Prop := s < 2 ^ 31 ∧ ρ.I 2195 0 0 = nI s ∧ (∀ c, c < 216 → (∃ a, a ≤ s ∧ ρ.I 2193 0 c = nI a) ∧ ∃ a, a ≤ s ∧ ρ.I 2194 0 c = nI a) ∧ ∀ c, c < cnt 1 → (ρ.I 2194 0 (cM c) = nI s ↔ c ∈ O)
theorem HS.iv {ρ : Sg} {s : Nat} {O : List Nat} (h : HS ρ s O) : SIv ρ := sorry
theorem SNw.hs {ρ : Sg} {s : Nat} (h : SNw ρ s) : HS ρ s [] := sorry
theorem HS.opn {ρ : Sg} {s : Nat} {O : List Nat} (h : HS ρ s O) {x : Nat} (hx : x < cnt 1) : HS (sI ρ 2194 0 (cM x) (nI s)) s (O ++ [x]) := sorry
theorem HS.pile {ρ : Sg} {s : Nat} {O : List Nat} (h : HS ρ s O) (j : Nat) (v : Int32) : HS (sI ρ 2196 0 j v) s O := sorry
theorem PRow.mark {ρ : Sg} {P : List Nat} (h : PRow ρ P) {c j : Nat} {v : Int32} (hc : c ≠ 2196) : PRow (sI ρ c 0 j v) P := sorry
/-- what the model's isHeir has come to: opened O, to be opened P -/
def mInv (τ : Sg) (w a b : Nat) (O P : List Nat) : Prop := O.Nodup ∧ (∀ x, x ∈ O → x ∈ a :: wKs τ w) ∧ (∀ x, x ∈ P → x ∈ a :: wKs τ w) ∧ (a ∈ O ∨ a ∈ P) ∧ (∀ x, x ∈ O → x = a ∨ wHr τ w a x) ∧ (∀ x, x ∈ P → x = a ∨ wHr τ w a x) ∧ (∀ x, x ∈ O → ∀ y, wSt τ w x y → y ≠ b ∧ (y ∈ O ∨ y ∈ P)) ∧ P.length ≤ 5 * O.length + 1
/-- all that the model needs to know of world w -/
def MWd (τ σ : Sg) (w : Nat) (U : List Nat) : Prop := MWO σ ∧ MFd τ σ w ∧ WOK τ w ∧ Shp τ ∧ ∀ c, c ∈ U → c < cnt 1 ∧ MK1 τ σ c ∧ (τ.L 1100 c 0 = 6927257 ↔ c = 192)
section SPMI
variable {l : Launch} {G : Gl} {τ σ : Sg}
theorem sp_X11_isHeir (hG : GOK G) {d : Nat} (hd : 4 ≤ d) {w a b : Nat} (hU : MWd τ σ w (a :: wKs τ w)) (hb : b < cnt 1) (hs : SIv σ) {x1 x2 : Int32} (e1 : x1 = nI (cM a)) (e2 : x2 = nI (cM b)) : CT l G yX11_isHeir (ws_ yX11_isHeir cX11_isHeir 9 (some .boolean)) d [.ref (G.adr 11 0), .int x1, .int x2] σ (rZ (wHb τ w a b) (fun s => ∃ ρ, s = mix pN σ ρ ∧ SIv ρ)) := sorry
end SPMI
