/-! The model settles: its world is numbered, nothing is loaded. -/
def NwK (s : Sg) (W : List Nat) : Prop := s.I 2229 0 0 = nI W.length ∧ (∀ (j k : Nat), W[j]? = some k → s.I 2230 0 j = nI (cM k) ∧ s.I 2231 0 (cM k) = nI j) ∧ ∀ c, c < 216 → (∀ k, k ∈ W → ¬ cM k = c) → s.I 2231 0 c = -2
def pSe (c _i : Nat) : Bool := rg 2228 2236 c || (decide (c = 2245) || (decide (c = 2248) || (decide (c = 2251) || decide (c = 2253))))
theorem pSe_no {c i : Nat} (h : (c ≤ 2228 ∨ 2236 < c) ∧ ¬ c = 2245 ∧ ¬ c = 2248 ∧ ¬ c = 2251 ∧ ¬ c = 2253) : pSe c i = false := sorry
theorem pSe_y {c i : Nat} (h : (2228 < c ∧ c ≤ 2236) ∨ c = 2245 ∨ c = 2248 ∨ c = 2251 ∨ c = 2253) : pSe c i = true := sorry
theorem pSe_up {p : Nat → Nat → Bool} (hp : ∀ c i, p c i = true → 2228 < c ∧ c ≤ 2236) (c i : Nat) (h : pSe c i = false) : p c i = false := sorry
/-- what is left when the model has settled -/
def SeD (σ s : Sg) (W : List Nat) : Prop := Fl pSe σ s ∧ NwK s W ∧ s.I 2245 0 0 = 0 ∧ (∀ n, n < 64 → s.I 2232 0 n = (if n < 2 then 4 else 0) ∧ s.I 2233 0 n = 0) ∧ s.I 2234 0 0 = σ.I 2234 0 0 ∧ s.I 2236 0 0 = 0 ∧ s.I 2251 0 0 = 0 ∧ s.I 2253 0 0 = 0 ∧ ∀ j, j < 7344 → s.I 2248 0 j = 0
section STL
variable {l : Launch} {G : Gl} {d : Nat} {τ σ s : Sg} {F : Nat → List Nat} {M : MSt}
theorem NwK.fl {p : Nat → Nat → Bool} {t : Sg} {W : List Nat} (h : NwK s W) (hF : Fl p s t) (hp : ∀ c, 2228 < c → c ≤ 2231 → p c 0 = false) : NwK t W := sorry
theorem sp_X11_settle (hG : GOK G) (hd : 4 ≤ d) (hM : MWO σ) (hL : FLb τ σ F) (hf : ∀ nm, TyC nm → mFnd σ (tM nm) = (hTt τ ([192, 193] ++ (List.range 5).flatMap F) nm).map cM) : CT l G yX11_settle (ws_ yX11_settle cX11_settle 2 none) d [.ref (G.adr 11 0)] σ (rV (fun s => SeD σ s (wAd τ [192, 193] ((List.range 5).flatMap F)))) := sorry
/-- the model's machine has begun anew -/
theorem MMm.beg {W : List Nat} {τ' : Sg} (h : MMm τ σ M) (hs : SeD σ s W) (h8 : ∀ k, k ∈ wKs τ' 0 → ∀ j, j < nMe τ' k → 34 * cM k + j < 7344) : MMm τ' s (frM M) := sorry
end STL
