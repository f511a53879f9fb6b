/-! Judging, LinkHouse: numbers one behind the other; arguments; every E. -/
theorem bnd_id {α : Type} {r : PR α} : bnd r .ok = r := sorry
def chn (k : Nat) : Prop := k = 12 ∨ k = 14 ∨ k = 15 ∨ k = 16
/-- v is the c-th on the left below x1 -/
def Pth (σ : Sg) (x1 : Int32) (c : Nat) (v : Int32) : Prop := ∃ f : Nat → Nat, x1 = nI (f 0) ∧ v = nI (f c) ∧ (∀ i, i ≤ c → f i < 1410) ∧ ∀ i, i < c → σ.I 1511 0 (f i) = nI (f (i + 1))
theorem Pth.nx {σ : Sg} {x1 : Int32} {c N m : Nat} (h : Pth σ x1 c (nI N)) (hN : N < 1410) (h1 : σ.I 1511 0 N = nI m) (hm : m < 1410) : Pth σ x1 (c + 1) (nI m) := sorry
theorem Pth.ck {σ s : Sg} {x1 v : Int32} {c : Nat} (h : Pth σ x1 c v) (hF : Fl pCk σ s) : Pth s x1 c v := sorry
def rl : Tr → Nat
  | .leaf => 0
  | .inner _ _ _ _ y => rl y + 1
section SPX
variable {l : Launch} {G : Gl} {d : Nat} {b n r k : Nat} {B : Nat → Nat} {st : Bool} {Lc : List (Int64 × Int64 × Nat)}
def SpC (l : Launch) (G : Gl) (D b : Nat) (B : Nat → Nat) (n r k : Nat) (st : Bool) (Lc : List (Int64 × Int64 × Nat)) (L : Nat) (x : Tr) : Prop := ∀ (σ σ0 : Sg) (lo hi w a e c0 M0 : Nat) (v x1 : Int32) (kk : Tr → PR Tr) (K0 : Tr → Outcome → Sg → Prop) (Q : Outcome → Sg → Prop), JE σ b B n r k st Lc → LTr σ (yTok B n) L x lo hi v → wt x 0 w a e → Fl (pJ b) σ0 σ → Pth σ x1 c0 v → c0 + ht x ≤ 3000 → oJ G b (yTok B n) σ0 (bnd (ckE σ k st Lc x) kk) K0 = Q → (∀ x' s', ckE σ k st Lc x = .ok x' → oJ G b (yTok B n) σ0 (kk x') K0 = Q → FrK σ s' a e lo hi → LAn s' a e x' lo hi v → wq_X6_checkChain_72 l G D 0 x1 Q M0 (nI c0 - 1) s') → ∃ M, wq_X6_checkChain_4 l G D 0 x1 Q M (nI c0) v σ
def SpR (l : Launch) (G : Gl) (D b : Nat) (B : Nat → Nat) (n r k : Nat) (st : Bool) (Lc : List (Int64 × Int64 × Nat)) (L : Nat) (x : Tr) : Prop := ∀ (σ σ0 : Sg) (lo hi w a e : Nat) (v x1 : Int32) (kk : Tr → PR Tr) (K0 : Tr → Outcome → Sg → Prop) (Q : Outcome → Sg → Prop), JE σ b B n r k st Lc → LTr σ (yTok B n) L x lo hi v → wt x 1 w a e → Fl (pJ b) σ0 σ → oJ G b (yTok B n) σ0 (bnd (ckE σ k st Lc x) kk) K0 = Q → (∀ x' s', ckE σ k st Lc x = .ok x' → oJ G b (yTok B n) σ0 (kk x') K0 = Q → FrK σ s' a e lo hi → LAn s' a e x' lo hi v → Q (.returned none) s') → wq_X6_checkArgs_2 l G D 0 x1 Q (rl x + 1) v σ
theorem SpR.A (hG : GOK G) {L : Nat} {x : Tr} (h : SpR l G d b B n r k st Lc L x) : SpA l G (d + 1) b B n r k st Lc L x := sorry
theorem ck_R0 {L D : Nat} : SpR l G D b B n r k st Lc L .leaf := sorry
theorem ck_R {L D sz : Nat} {bb : Lb} {u : Unit} {x y : Tr} (hx : bb.1 = 0 → SpE l G D b B n r k st Lc L x) (hy : bb.1 = 0 → SpR l G D b B n r k st Lc L y) : SpR l G D b B n r k st Lc L (.inner sz bb u x y) := sorry
theorem ck_C (hG : GOK G) {L D sz : Nat} {bb : Lb} {u : Unit} {x y : Tr} (hL : L ≤ r) (hD : 5 ≤ D) (hE : ¬ chn bb.1 → SpE l G D b B n r k st Lc L (.inner sz bb u x y)) (hx : chn bb.1 → SpC l G D b B n r k st Lc L x) (hy : chn bb.1 → SpE l G D b B n r k st Lc L y) : SpC l G D b B n r k st Lc L (.inner sz bb u x y) := sorry
end SPX
