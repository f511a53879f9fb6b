/-! LinkHouse writes a bridge. -/
/-- the last of n places from j on -/
def lstB (P : Nat → Bool) : Nat → Nat → Option Nat → Option Nat
  | 0, _, o => o
  | n + 1, j, o => lstB P n (j + 1) (if P j = true then some j else o)
/-- what a bridge m of class k calls -/
def brT (τ : Sg) (k m : Nat) : Option Nat := lstB (fun j => mAlk τ (33 * k + j) m && !τ.B 1206 (33 * k + j) 0) (nMe τ k) 0 none
/-- params are loaded: n of them, from slot f on -/
def ldP : Nat → Nat → List Int32
  | 0, _ => []
  | n + 1, f => [3, nI f] ++ ldP n (f + 1)
theorem ldP_len : ∀ (n f : Nat), (ldP n f).length = 2 * n := sorry
/-- a bridge's code -/
def cdB (τ : Sg) (k m t : Nat) (ix : Us → Int32) : List Int32 := (if τ.B 1203 m 0 = true then [] else [3, 0]) ++ (ldP (nPa τ m) (if τ.B 1203 m 0 = true then 0 else 1) ++ ([17, ix (uL τ k (brV τ k m) (τ.L 1100 k 0) t)] ++ [25, 0]))
/-- the columns of a bridge's beginning -/
def pBq (w m c i : Nat) : Bool := pL1 (16000 + w) c i || decide (((c = 1602 ∨ c = 1603) ∧ i = w) ∨ ((c = 1219 ∨ c = 1220) ∧ i = m))
theorem pBq_iff {w m c i : Nat} : pBq w m c i = true ↔ pL1 (16000 + w) c i = true ∨ (((c = 1602 ∨ c = 1603) ∧ i = w) ∨ ((c = 1219 ∨ c = 1220) ∧ i = m)) := sorry
theorem pBq_no {w m c i : Nat} (h : ¬ (((1699 < c ∧ c ≤ 1704 ∧ i = 16000 + w) ∨ (1199 < c ∧ c ≤ 1222 ∧ i = 6402 + (16000 + w))) ∨ ((c = 1602 ∨ c = 1603) ∧ i = w) ∨ ((c = 1219 ∨ c = 1220) ∧ i = m))) : pBq w m c i = false := sorry
section SPX
variable {l : Launch} {G : Gl} {d : Nat} {τ σ : Sg} {w b k m t n0 p : Nat} {U : List Us}
theorem sp_callOf (hG : GOK G) {c : Nat} (hd : 1 ≤ d) (hw : w < 2) (hc : c < 194) : CT l G yX6_callOf (ws_ yX6_callOf cX6_callOf 2 (some .int)) d [.ref (G.adr 6 w), rv G 1 (some c)] σ (rI (nI (if σ.B 1102 c 0 = true then 8 else 7)) (fun s => s = σ)) := sorry
theorem wr_em2 (hG : GOK G) {x1 x2 : Int32} (hd : 1 ≤ d) (hW : WW τ σ w b k n0 p U) (hp : p + 2 ≤ 6000) : CT l G yX6_emit (ws_ yX6_emit cX6_emit 3 none) d [.ref (G.adr 6 w), .int x1, .int x2] σ (rV (fun s => RW σ s w b k n0 p U [] (fun _ => [x1, x2]) ∧ Fl (pEm b) σ s)) := sorry
theorem sp_X6_writeBridge (hG : GOK G) {j0 : Nat} (hd : 10 ≤ d) (hw : w < 2) (hb : b < 16) (hk : k < 194) (hU : LUt σ b U) (hN : UNd U) (h19 : σ.I 1119 k 0 = nI n0 ∧ n0 ≤ U.length ∧ ∀ i q, U[i]? = some q → (q.1 = k ↔ n0 ≤ i)) (hS : Shp σ) (h11 : σ.I 2011 b 0 = nI p) (hJ : SmJ τ σ) (hO : OkW τ) (hSt : Shp τ) (hkW : k ∈ wKs τ 1) (hmL : LivU τ (wKs τ 1) m) (hbT : brT τ k m = some j0) (ht : t = 33 * k + j0) (htL : LivU τ (wKs τ 1) t) (h1t : τ.I 1200 t 0 = 1) (hf : τ.L 1207 t 0 = τ.L 1207 m 0 ∨ τ.L 1207 t 0 = 2 ∨ (TyC (τ.L 1207 t 0) ∧ TyC (τ.L 1207 m 0))) (hL : (addL U (brU τ k m t)).length ≤ 1000) (hp : p + (cdB τ k m t fun _ => 0).length ≤ 6000) : CT l G yX6_writeBridge (ws_ yX6_writeBridge cX6_writeBridge 7 none) d [.ref (G.adr 6 w), rv G 10 (some b), rv G 1 (some k), rv G 2 (some m)] σ (rV (fun s => ∃ s2, Fl (pBq w m) σ s2 ∧ (s2.I 1219 m 0 = nI p ∧ s2.I 1220 m 0 = nI (nPa τ m + 1)) ∧ RW s2 s w b k n0 p U (brU τ k m t) (fun ix => cdB τ k m t ix))) := sorry
end SPX
