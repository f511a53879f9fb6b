/-! The model reads all tokens of a text. -/
/-- token j of slot s is in the model's tables -/
def TkM (σ : Sg) (s : Nat) (T : Nat → Tk) (j : Nat) : Prop := σ.I 2111 0 (s * 702 + j) = nI (mKd (T j).1) ∧ σ.I 2112 0 (s * 702 + j) = nI (T j).2.2.1 ∧ σ.I 2113 0 (s * 702 + j) = nI (T j).2.2.2 ∧ ((T j).1 = 2 → σ.L 2114 0 (s * 702 + j) = lN ((T j).2.1 + 2305843009213693952)) ∧ (((T j).1 = 1 ∨ 200 ≤ (T j).1 ∧ (T j).1 < 999) → σ.L 2114 0 (s * 702 + j) = lN (T j).2.1) ∧ ((T j).1 = 3 → σ.I 2115 0 (s * 702 + j) = nI (T j).2.1) ∧ (mKd (T j).1 = 5 → σ.I 2115 0 (s * 702 + j) = nI (mSv (T j).1))
/-- no end, no bad one before token j -/
def LvT (T : Nat → Tk) (j : Nat) : Prop := ∀ i, i < j → ¬ (T i).1 = 0 ∧ ¬ (T i).1 = 999
def TT (σ : Sg) (s : Nat) (T : Nat → Tk) : Prop := ∀ j, j ≤ 700 → LvT T j → TkM σ s T j
theorem TkM.fj {σ st : Sg} {s j : Nat} {T : Nat → Tk} {p : Nat → Nat → Bool} (hF : FJ p σ st) (hp : ∀ c, 2110 < c → c ≤ 2115 → p c (s * 702 + j) = false) (h : TkM σ s T j) : TkM st s T j := sorry
theorem TT.fj {σ st : Sg} {s : Nat} {T : Nat → Tk} {p : Nat → Nat → Bool} (hF : FJ p σ st) (hp : ∀ c j, 2110 < c → c ≤ 2115 → p c j = false) (h : TT σ s T) : TT st s T := sorry
/-- the places of slot s among the tokens -/
def pZ (s c j : Nat) : Bool := (rg 2110 2115 c && (Nat.ble (s * 702) j && Nat.ble (j + 1) (s * 702 + 702))) || (Nat.beq c 2116 && Nat.beq j s)
theorem pZ_iff {s c j : Nat} : pZ s c j = true ↔ (2110 < c ∧ c ≤ 2115 ∧ s * 702 ≤ j ∧ j < s * 702 + 702) ∨ (c = 2116 ∧ j = s) := sorry
def pX (x c j : Nat) : Bool := rg 2110 2115 c && Nat.beq j x
theorem pX_iff {x c j : Nat} : pX x c j = true ↔ (2110 < c ∧ c ≤ 2115 ∧ j = x) := sorry
theorem pX_pZ {s j : Nat} (h : j < 702) : ∀ c i, pX (s * 702 + j) c i = true → pZ s c i = true := sorry
theorem pZ_no {s : Nat} : ∀ c j, c = 2105 ∨ c = 2106 ∨ c = 2117 ∨ c = 2118 ∨ c = 2119 → pZ s c j = false := sorry
theorem pX_no {x c j : Nat} (h : j ≠ x) : pX x c j = false := sorry
section SPX
variable {l : Launch} {G : Gl} {d : Nat} {σ : Sg}
theorem sp_X11_tokenize (hG : GOK G) (hd : 5 ≤ d) {s n : Nat} {B : Nat → Nat} (hX : TmX σ s B n) : CT l G yX11_tokenize (ws_ yX11_tokenize cX11_tokenize 6 none) d [.ref (G.adr 11 0)] σ (fun o st => o = .returned none ∧ FJ (pZ s) σ st ∧ TT st s (yTok B n)) := sorry
end SPX
