/-! Judging, LinkHouse: whether something is left bare. -/
/-- nothing of c is left bare in k -/
noncomputable def jDnM (σ : Sg) (k m : Nat) : Bool := !(mObj σ m && !σ.B 1206 m 0) || (wSel σ 1 m k).isSome
noncomputable def jDn (σ : Sg) (k c : Nat) : Bool := fall (fun j => jDnM σ k (33 * c + j)) (nMe σ c) 0
noncomputable def jLf (σ : Sg) (k : Nat) : PR Unit := if σ.B 1102 k 0 = true then .ok () else if σ.B 1105 k 0 = true then .ok () else ckP ((jUps σ 1 62 (wPar σ 1 k)).all (jDn σ k) && (wAF σ 1 k).all (jDn σ k)) 10 (tkN (σ.I 1124 k 0))
/-- told methods of a class are the first of their kind -/
def KSf (σ : Sg) (c : Nat) : Prop := ∀ j, j < nMe σ c → σ.I 1200 (33 * c + j) 0 = 1 → σ.B 1206 (33 * c + j) 0 = false → kMet σ c (33 * c + j) = some (33 * c + j)
theorem jDn_st {σ : Sg} {k c : Nat} : jDn (stat σ) k c = jDn σ k c := sorry
theorem jDn_e {σ s : Sg} {k c : Nat} (h : stat s = stat σ) : jDn s k c = jDn σ k c := sorry
theorem KSf_e {σ s : Sg} {c : Nat} (h : stat s = stat σ) (q : KSf σ c) : KSf s c := sorry
theorem MOK_e {σ s : Sg} (h : stat s = stat σ) (q : MOK σ) : MOK s := sorry
/-- the columns of left -/
def pLf (c _i : Nat) : Bool := rg 1303 1313 c || Nat.beq c 1617
theorem pLf_iff {c i : Nat} : pLf c i = true ↔ (1303 < c ∧ c ≤ 1313) ∨ c = 1617 := sorry
theorem sta_Lf (c i : Nat) (h : sc c = true) : pLf c i = false := sorry
theorem pLf_pJ {b : Nat} : ∀ c i, pLf c i = true → pJ b c i = true := sorry
theorem pW_pLf : ∀ c i, pW c i = true → pLf c i = true := sorry
theorem all_cons {α : Type} {p : α → Bool} {x : α} {xs : List α} : (x :: xs).all p = (p x && xs.all p) := sorry
theorem ckP_and {a b : Bool} {f t : Nat} : ckP (a && b) f t = bnd (ckP a f t) fun _ => ckP b f t := sorry
section SPX
variable {l : Launch} {G : Gl} {d : Nat} {σ : Sg} {β : Type}
theorem sp_X6_isDone (hG : GOK G) {b n r k c : Nat} {B : Nat → Nat} (hd : 72 ≤ d) (hL : LRd σ b B n r) (hr : r ≤ 702) (hW : WOK σ 1) (hS : Shp σ) (hM : MOK σ) (h603 : σ.R 1603 0 0 = some k) (hk : k < cnt 1) (hc : c < cnt 1) (hK : KSf σ c) (hT : TkB (σ.I 1124 k 0) r) : CT l G yX6_isDone (ws_ yX6_isDone cX6_isDone 4 none) d [.ref (G.adr 6 0), rv G 1 (some c)] σ (oJ G b (yTok B n) σ (ckP (jDn σ k c) 10 (tkN (σ.I 1124 k 0))) (fun _ o s => o = .returned none ∧ ∃ ρ, s = mix pW σ ρ)) := sorry
theorem sp_X6_left (hG : GOK G) {b n r k : Nat} {B : Nat → Nat} (hd : 73 ≤ d) (hL : LRd σ b B n r) (hr : r ≤ 702) (hW : WOK σ 1) (hS : Shp σ) (hM : MOK σ) (h603 : σ.R 1603 0 0 = some k) (hk : k < cnt 1) (hK : ∀ c, c ∈ k :: wKs σ 1 → KSf σ c) (hT : TkB (σ.I 1124 k 0) r) : CT l G yX6_left (ws_ yX6_left cX6_left 4 none) d [.ref (G.adr 6 0)] σ (oJ G b (yTok B n) σ (jLf σ k) (fun _ o s => o = .returned none ∧ ∃ ρ, s = mix pLf σ ρ)) := sorry
theorem jLf_st {σ : Sg} {k : Nat} : jLf (stat σ) k = jLf σ k := sorry
theorem jLf_e {σ s : Sg} {k : Nat} (h : stat s = stat σ) : jLf s k = jLf σ k := sorry
/-- class by class -/
theorem ja_273 (hG : GOK G) {τ0 τ : Sg} {b n r nk : Nat} {B : Nat → Nat} {r1 : Option Nat} {K0 : β → Outcome → Sg → Prop} {Q : Outcome → Sg → Prop} {rest : Unit → PR β} (hd : 73 ≤ d) (hM : MOK τ) (hT : ∀ k, k < nk → TkB (τ.I 1124 (12 * b + k) 0) r) (hK : ∀ k, k < nk → ∀ c, c ∈ (12 * b + k) :: wKs τ 1 → KSf τ c) (hN : ∀ s, JL τ0 s b B n r nk → stat s = stat τ → oJ G b (yTok B n) τ0 (rest ()) K0 = Q → ∃ m, wq_X6_all_309 l G d 0 r1 Q m 0 s) : ∀ (m i : Nat) (σ1 : Sg), i + m = nk → JL τ0 σ1 b B n r nk → stat σ1 = stat τ → oJ G b (yTok B n) τ0 (bnd (jFor (fun kk => jLf τ (12 * b + kk)) m i) rest) K0 = Q → wq_X6_all_273 l G d 0 r1 Q (m + 1) (nI i) σ1 := sorry
end SPX
