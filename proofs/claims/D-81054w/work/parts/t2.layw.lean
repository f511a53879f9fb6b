/-! THE HOUSE lays THE WORLD. -/
def wLy (σ : Sg) : List Nat := wAd σ [192, 193] ((List.range 5).flatMap (pkL σ))
def p28 (c _i : Nat) : Bool := decide (c = 1128)
def pLw (c i : Nat) : Bool := decide (c = 1128) || pWl 0 c i
theorem p28_no {c i : Nat} (h : ¬ c = 1128) : p28 c i = false := sorry
theorem pLw_no {c i : Nat} (h : ¬ c = 1128 ∧ (c ≤ 1301 ∨ 1303 < c ∨ ¬ i = 0)) : pLw c i = false := sorry
theorem Fl.up {p q : Nat → Nat → Bool} {σ s : Sg} (h : Fl p σ s) (hp : ∀ c i, q c i = false → p c i = false) : Fl q σ s := sorry
theorem p28_up {c i : Nat} (h : pLw c i = false) : p28 c i = false := sorry
theorem pWl_up {c i : Nat} (h : pLw c i = false) : pWl 0 c i = false := sorry
theorem sI_i {σ : Sg} {c i i' j j' : Nat} {v : Int32} (h : i' ≠ i) : (sI σ c i j v).I c i' j' = σ.I c i' j' := sorry
/-- no title twice -/
def TtU (σ : Sg) (K : List Nat) : Prop := ∀ (i j a c : Nat), K[i]? = some a → K[j]? = some c → σ.L 1100 a 0 = σ.L 1100 c 0 → i = j
section TTU
variable {σ : Sg} {K : List Nat}
theorem TtU.snoc (h : TtU σ K) {k : Nat} (hk : hTt σ K (σ.L 1100 k 0) = none) : TtU σ (K ++ [k]) := sorry
theorem TtU.add (h : TtU σ K) {k : Nat} : TtU σ (wA1 σ K k) := sorry
theorem TtU.all : ∀ (ks K : List Nat), TtU σ K → TtU σ (wAd σ K ks) := sorry
theorem TtU.find (h : TtU σ K) {j k : Nat} (e : K[j]? = some k) : hTt σ K (σ.L 1100 k 0) = some k := sorry
theorem TtU.two (h : ¬ σ.L 1100 192 0 = σ.L 1100 193 0) : TtU σ [192, 193] := sorry
end TTU
section LYW
variable {l : Launch} {G : Gl} {d : Nat} {σ s : Sg}
theorem wLy_len (hH : HOK σ) : ∀ (k : Nat), k ≤ 5 → (wAd σ [192, 193] ((List.range k).flatMap (pkL σ))).length ≤ 2 + 12 * k := sorry
theorem wLy_in (hH : HOK σ) {k x : Nat} (hk : k ≤ 5) (hx : x ∈ wAd σ [192, 193] ((List.range k).flatMap (pkL σ))) : x = 192 ∨ x = 193 ∨ ∃ lib, lib < 5 ∧ x ∈ pkL σ lib := sorry
theorem wLy_lt (hH : HOK σ) {k x : Nat} (hk : k ≤ 5) (hx : x ∈ wAd σ [192, 193] ((List.range k).flatMap (pkL σ))) : x < 194 := sorry
/-- what is left when THE WORLD is laid -/
def LyD (σ s : Sg) : Prop := Fl pLw σ s ∧ WLs s 0 (wLy σ) ∧ (∀ (j k : Nat), (wLy σ)[j]? = some k → s.I 1128 k 0 = nI j) ∧ ∀ b i, b < hN σ → i < hKs σ b → ¬ (12 * b + i) ∈ wLy σ → s.I 1128 (12 * b + i) 0 = -2
theorem sp_X0_layWorld (hG : GOK G) (hd : 3 ≤ d) (hH : HOK σ) (h93 : ¬ σ.L 1100 192 0 = σ.L 1100 193 0) : CT l G yX0_layWorld (ws_ yX0_layWorld cX0_layWorld 3 none) d [.ref (G.adr 0 0)] σ (rV (LyD σ)) := sorry
end LYW
