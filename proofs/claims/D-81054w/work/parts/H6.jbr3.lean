/-! Judging, LinkHouse: all bridges of a class. -/
/-- what the bridges of a class leave as it is, of classes and the world -/
def sx (c : Nat) : Bool := rg 1099 1116 c || (rg 1118 1199 c || rg 1222 1303 c)
theorem sx_iff {c : Nat} (h : sx c = true) : (1099 < c ∧ c ≤ 1116) ∨ (1118 < c ∧ c ≤ 1199) ∨ (1222 < c ∧ c ≤ 1303) := sorry
theorem wPar_sx {σ : Sg} {w k : Nat} : wPar (stP sx σ) w k = wPar σ w k := sorry
theorem wFsF_sx {σ : Sg} {w k : Nat} : ∀ n j, wFsF (stP sx σ) w k n j = wFsF σ w k n j := sorry
theorem wFs_sx {σ : Sg} {w k : Nat} : wFs (stP sx σ) w k = wFs σ w k := sorry
theorem fcs_sx {σ : Sg} {w : Nat} : ∀ n, fcs (stP sx σ) w n = fcs σ w n := sorry
theorem wAF_sx {σ : Sg} {w k : Nat} : wAF (stP sx σ) w k = wAF σ w k := sorry
theorem BI.sx {τ σ : Sg} {k T : Nat} {Bs : BrL} (h : BI τ σ k T Bs) : stP sx σ = stP sx τ := sorry
theorem BI.par {τ σ : Sg} {k T : Nat} {Bs : BrL} (h : BI τ σ k T Bs) {c : Nat} : wPar σ 1 c = wPar τ 1 c := sorry
theorem BI.af {τ σ : Sg} {k T : Nat} {Bs : BrL} (h : BI τ σ k T Bs) {c : Nat} : wAF σ 1 c = wAF τ 1 c := sorry
/-- the bridges from one method -/
def brM (τ : Sg) (k m : Nat) (Bs : BrL) : PR BrL := brF τ k m ((jUps τ 1 62 (wPar τ 1 k)).flatMap (abC τ k m) ++ (wAF τ 1 k).flatMap (abC τ k m)) Bs
def brQ (τ : Sg) (m : Nat) : Bool := decide (τ.I 1200 m 0 = 1) && (!τ.B 1203 m 0 && (!decide (τ.I 1202 m 0 = 0) && !τ.B 1205 m 0))
def brN (τ : Sg) (k m : Nat) (Bs : BrL) : PR BrL := if brQ τ m = true then brM τ k m Bs else .ok Bs
def brA (τ : Sg) (k : Nat) : Nat → Nat → BrL → PR BrL
  | 0, _, Bs => .ok Bs
  | n + 1, j, Bs => bnd (brN τ k (33 * k + j) Bs) fun Bs' => brA τ k n (j + 1) Bs'
section SPX
variable {l : Launch} {G : Gl} {d : Nat}
theorem sp_X6_bridges (hG : GOK G) {τ : Sg} {b n r k T : Nat} {B : Nat → Nat} (hd : 70 ≤ d) (hL : LRd τ b B n r) (hr : r ≤ 702) (hK : BK τ k T) (hkb : 12 * b ≤ k ∧ k < 12 * b + 12) (h603 : τ.R 1603 0 0 = some k) (h18 : τ.I 1118 k 0 = 0) (hne : ¬ wHr τ 1 k k) (hof : ∀ c, c ∈ wKs τ 1 → OfK τ c) (hT : TkB (τ.I 1124 k 0) r) : CT l G yX6_bridges (ws_ yX6_bridges cX6_bridges 7 none) d [.ref (G.adr 6 0)] τ (oJ G b (yTok B n) τ (brA τ k T 0 []) (fun Bs o s => o = .returned none ∧ BI τ s k T Bs ∧ s.R 1603 0 0 = some k)) := sorry
end SPX
