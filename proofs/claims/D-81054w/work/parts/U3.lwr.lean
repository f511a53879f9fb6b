/-! LinkHouse writes: what writing leaves. -/
/-- the columns that writing an E may change -/
def pWe (b w c i : Nat) : Bool := pLv b w c i || pEm b c i
theorem pWe_iff {b w c i : Nat} : pWe b w c i = true ↔ ((1699 < c ∧ c ≤ 1704 ∧ ((1000 * b ≤ i ∧ i < 1000 * b + 1000) ∨ i = 16000 + w)) ∨ (1199 < c ∧ c ≤ 1222 ∧ ((6402 + 1000 * b ≤ i ∧ i < 6402 + (1000 * b + 1000)) ∨ i = 6402 + (16000 + w))) ∨ (c = 2009 ∧ i = b)) ∨ ((c = 2010 ∨ c = 2011) ∧ i = b) := sorry
theorem pWe_no {b w c i : Nat} (h : ¬ ((1699 < c ∧ c ≤ 1704) ∨ (1199 < c ∧ c ≤ 1222 ∧ 6402 ≤ i) ∨ (2008 < c ∧ c ≤ 2011))) : pWe b w c i = false := sorry
theorem pLv_pWe {b w : Nat} : ∀ c i, pLv b w c i = true → pWe b w c i = true := sorry
theorem pEm_pWe {b w : Nat} : ∀ c i, pEm b c i = true → pWe b w c i = true := sorry
theorem sk_iff {c : Nat} (h : sk c = true) : (1099 < c ∧ c ≤ 1199) ∨ (1299 < c ∧ c ≤ 1303) := sorry
theorem SmJ.we {τ σ s : Sg} {b w : Nat} (h : SmJ τ σ) (hF : Fl (pWe b w) σ s) : SmJ τ s := sorry
theorem SmJ.pml {τ s : Sg} (h : SmJ τ s) {m : Nat} (hm : m < 6402) : pmL s m = pmL τ m := sorry
/-- the number of a use, as the code holds it -/
def ixF (UF : List Us) (n0 : Nat) (r : Us) : Int32 := nI (uIx UF r - n0)
theorem ixF_pre {U UF : List Us} {n0 : Nat} {r : Us} (h : Pre U UF) (hr : r ∈ U) : ixF UF n0 r = nI (uIx U r - n0) := sorry
/-- the code C lies from p on -/
def CdA (s : Sg) (b p : Nat) (C : List Int32) : Prop := ∀ (j : Nat) (c : Int32), C[j]? = some c → s.I 2010 b (p + j) = c
theorem CdA.app {s : Sg} {b p : Nat} {C D : List Int32} (h1 : CdA s b p C) (h2 : CdA s b (p + C.length) D) : CdA s b p (C ++ D) := sorry
theorem CdA.keep {σ s : Sg} {b p q : Nat} {C : List Int32} (h : CdA σ b p C) (hk : ∀ j, j < q → s.I 2010 b j = σ.I 2010 b j) (hq : p + C.length ≤ q) : CdA s b p C := sorry
theorem CdA.two {s : Sg} {b p : Nat} {x y : Int32} (h1 : s.I 2010 b p = x) (h2 : s.I 2010 b (p + 1) = y) : CdA s b p [x, y] := sorry
/-- what writing leaves: uses R, code C -/
def RW (σ s : Sg) (w b k n0 p : Nat) (U R : List Us) (C : (Us → Int32) → List Int32) : Prop := Fl (pWe b w) σ s ∧ LW s w b k (addL U R) n0 ∧ (∀ ix, (C ix).length = (C fun _ => 0).length) ∧ s.I 2011 b 0 = nI (p + (C fun _ => 0).length) ∧ (∀ j, j < p → s.I 2010 b j = σ.I 2010 b j) ∧ ∀ UF, Pre (addL U R) UF → CdA s b p (C (ixF UF n0))
theorem pre_app {U R S : List Us} : Pre (addL U R) (addL U (R ++ S)) := sorry
theorem RW.trans {σ s u : Sg} {w b k n0 p : Nat} {U R S : List Us} {C D : (Us → Int32) → List Int32} (h : RW σ s w b k n0 p U R C) (g : RW s u w b k n0 (p + (C fun _ => 0).length) (addL U R) S D) : RW σ u w b k n0 p U (R ++ S) (fun ix => C ix ++ D ix) := sorry
theorem RW.eq {σ s : Sg} {w b k n0 p : Nat} {U R R' : List Us} {C C' : (Us → Int32) → List Int32} (h : RW σ s w b k n0 p U R C) (hR : R = R') (hC : ∀ ix, C ix = C' ix) : RW σ s w b k n0 p U R' C' := sorry
/-- classes and members that can be named -/
def OkW (τ : Sg) : Prop := (∀ c, c ∈ wKs τ 1 → c < 194 ∧ TyC (τ.L 1100 c 0)) ∧ ∀ m, LivU τ (wKs τ 1) m → (TyOK (τ.L 1207 m 0) ∧ ¬ τ.L 1207 m 0 = 2) ∧ nPa τ m ≤ 4 ∧ ∀ t, t ∈ pmL τ m → TyOK t ∧ ¬ t = 2
theorem OkW.lt {τ : Sg} (h : OkW τ) {m : Nat} (hm : LivU τ (wKs τ 1) m) (hS : Shp τ) : m < 6402 := sorry
/-- while class k is written -/
def WW (τ σ : Sg) (w b k n0 p : Nat) (U : List Us) : Prop := LW σ w b k U n0 ∧ σ.I 2011 b 0 = nI p ∧ SmJ τ σ ∧ OkW τ ∧ Shp τ
theorem RW.ww {τ σ s : Sg} {w b k n0 p : Nat} {U R : List Us} {C : (Us → Int32) → List Int32} (h : RW σ s w b k n0 p U R C) (hW : WW τ σ w b k n0 p U) : WW τ s w b k n0 (p + (C fun _ => 0).length) (addL U R) := sorry
theorem RW.refl {σ : Sg} {τ : Sg} {w b k n0 p : Nat} {U : List Us} (hW : WW τ σ w b k n0 p U) : RW σ σ w b k n0 p U [] (fun _ => []) := sorry
theorem LW.em {σ s : Sg} {w b k n0 : Nat} {U : List Us} (h : LW σ w b k U n0) (hF : Fl (pEm b) σ s) : LW s w b k U n0 := sorry
/-- only uses were laid -/
theorem RW.nd {τ σ s : Sg} {w b k n0 p : Nat} {U R : List Us} (hW : WW τ σ w b k n0 p U) (h : Fl (pLv b w) σ s ∧ LW s w b k (addL U R) n0) : RW σ s w b k n0 p U R (fun _ => []) := sorry
section SPX
variable {l : Launch} {G : Gl} {d : Nat} {τ σ : Sg} {w b k n0 p : Nat} {U : List Us}
theorem wr_e (hG : GOK G) {x1 x2 : Int32} {f : (Us → Int32) → Int32} (hd : 1 ≤ d) (hW : WW τ σ w b k n0 p U) (hp : p + 2 ≤ 6000) (hf : ∀ UF, Pre U UF → f (ixF UF n0) = x2) : CT l G yX6_emit (ws_ yX6_emit cX6_emit 3 none) d [.ref (G.adr 6 w), .int x1, .int x2] σ (rV (fun s => RW σ s w b k n0 p U [] (fun ix => [x1, f ix]))) := sorry
theorem wr_em (hG : GOK G) {x1 x2 : Int32} (hd : 1 ≤ d) (hW : WW τ σ w b k n0 p U) (hp : p + 2 ≤ 6000) : CT l G yX6_emit (ws_ yX6_emit cX6_emit 3 none) d [.ref (G.adr 6 w), .int x1, .int x2] σ (rV (fun s => RW σ s w b k n0 p U [] (fun _ => [x1, x2]))) := sorry
theorem wr_ix (hG : GOK G) {x1 x2 : Int32} {r : Us} (hd : 1 ≤ d) (hW : WW τ σ w b k n0 p U) (hp : p + 2 ≤ 6000) (hr : r ∈ U) (e2 : x2 = nI (uIx U r - n0)) : CT l G yX6_emit (ws_ yX6_emit cX6_emit 3 none) d [.ref (G.adr 6 w), .int x1, .int x2] σ (rV (fun s => RW σ s w b k n0 p U [] (fun ix => [x1, ix r]))) := sorry
/-- a field is named -/
theorem wr_F (hG : GOK G) {v f : Nat} {c : Int64} {x1 : Int32} {l2 : Int64} (hd : 6 ≤ d) (hW : WW τ σ w b k n0 p U) (hf : LivU τ (wKs τ 1) f) (hc : TyC c) (hv : 3 ≤ v ∧ v ≤ 6) (hL : (addU U (uF τ k v c f)).length ≤ 1000) (e1 : x1 = nI v) (e2 : l2 = c) : CT l G yX6_needs_2 (ws_ yX6_needs_2 cX6_needs_2 7 (some .int)) d [.ref (G.adr 6 w), .int x1, .long l2, .long 0, rv G 2 (some f)] σ (rI (nI (uIx (addU U (uF τ k v c f)) (uF τ k v c f) - n0)) (fun s => RW σ s w b k n0 p U [uF τ k v c f] (fun _ => []))) := sorry
/-- a constant is copied -/
theorem wr_Y (hG : GOK G) {f : Nat} {c : Int64} {l2 : Int64} (hd : 6 ≤ d) (hW : WW τ σ w b k n0 p U) (hf : LivU τ (wKs τ 1) f) (hc : TyC c) (hL : (addU U (uY τ k c f)).length ≤ 1000) (e2 : l2 = c) : CT l G yX6_needs_2 (ws_ yX6_needs_2 cX6_needs_2 7 (some .int)) d [.ref (G.adr 6 w), .int 16, .long l2, .long 0, rv G 2 (some f)] σ (rI (nI (uIx (addU U (uY τ k c f)) (uY τ k c f) - n0)) (fun s => RW σ s w b k n0 p U [uY τ k c f] (fun _ => []))) := sorry
/-- a method is named -/
theorem wr_L (hG : GOK G) {v m : Nat} {c : Int64} {x1 : Int32} {l2 : Int64} (hd : 6 ≤ d) (hW : WW τ σ w b k n0 p U) (hf : LivU τ (wKs τ 1) m) (h1 : τ.I 1200 m 0 = 1) (hc : TyC c) (hv : 7 ≤ v ∧ v ≤ 12) (hL : (addU U (uL τ k v c m)).length ≤ 1000) (e1 : x1 = nI v) (e2 : l2 = c) : CT l G yX6_needs_2 (ws_ yX6_needs_2 cX6_needs_2 7 (some .int)) d [.ref (G.adr 6 w), .int x1, .long l2, .long 0, rv G 2 (some m)] σ (rI (nI (uIx (addU U (uL τ k v c m)) (uL τ k v c m) - n0)) (fun s => RW σ s w b k n0 p U [uL τ k v c m] (fun _ => []))) := sorry
/-- a maker is named -/
theorem wr_M (hG : GOK G) {m : Nat} {c : Int64} {l2 : Int64} (hd : 6 ≤ d) (hW : WW τ σ w b k n0 p U) (hf : LivU τ (wKs τ 1) m) (hc : TyC c) (hL : (addU U (uM τ k c m)).length ≤ 1000) (e2 : l2 = c) : CT l G yX6_needs_2 (ws_ yX6_needs_2 cX6_needs_2 7 (some .int)) d [.ref (G.adr 6 w), .int 2, .long l2, .long 0, rv G 2 (some m)] σ (rI (nI (uIx (addU U (uM τ k c m)) (uM τ k c m) - n0)) (fun s => RW σ s w b k n0 p U [uM τ k c m] (fun _ => []))) := sorry
/-- a class is named -/
theorem wr_C (hG : GOK G) {v : Nat} {c : Int64} {x1 : Int32} {l2 : Int64} (hd : 7 ≤ d) (hW : WW τ σ w b k n0 p U) (hv : v = 1 ∨ (13 ≤ v ∧ v ≤ 15) ∨ (18 ≤ v ∧ v ≤ 19)) (hc : TyC c) (hL : (addU U (uC k v c)).length ≤ 1000) (e1 : x1 = nI v) (e2 : l2 = c) : CT l G yX6_needs (ws_ yX6_needs cX6_needs 4 (some .int)) d [.ref (G.adr 6 w), .int x1, .long l2] σ (rI (nI (uIx (addU U (uC k v c)) (uC k v c) - n0)) (fun s => RW σ s w b k n0 p U [uC k v c] (fun _ => []))) := sorry
/-- what is given where a type is wanted -/
theorem wr_fit (hG : GOK G) {t v : Int64} {l1 l3 : Int64} (hd : 7 ≤ d) (hW : WW τ σ w b k n0 p U) (hf : t = v ∨ t = 2 ∨ (TyC t ∧ TyC v)) (hL : (addL U (fitU k t v)).length ≤ 1000) (e1 : l1 = t) (e3 : l3 = v) : CT l G yX6_fit (ws_ yX6_fit cX6_fit 5 none) d [.ref (G.adr 6 w), .long l1, .long l3] σ (rV (fun s => RW σ s w b k n0 p U (fitU k t v) (fun _ => []))) := sorry
end SPX
