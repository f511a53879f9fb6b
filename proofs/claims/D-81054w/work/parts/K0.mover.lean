/-! The model: overrides. -/
theorem mM_inj {a b i j : Nat} (hi : i < 33) (hj : j < 33) (ha : a < 194) (hb : b < 194) (h : mM (33 * a + i) = mM (33 * b + j)) : 33 * a + i = 33 * b + j := sorry
theorem mOne_iff {τ : Sg} {a b : Nat} : mOne τ a b = true ↔ τ.I 1200 a 0 = 1 ∧ τ.I 1200 b 0 = 1 ∧ τ.L 1201 a 0 = τ.L 1201 b 0 ∧ mPar τ a b = true ∧ τ.L 1207 a 0 = τ.L 1207 b 0 := sorry
theorem mOne_eqv {τ : Sg} {q m x : Nat} (h : mOne τ q m = true) : mOne τ x q = mOne τ x m := sorry
theorem kMet_one {τ : Sg} {c m q : Nat} (h : kMet τ c m = some q) : mOne τ q m = true := sorry
theorem kMet_eqv {τ : Sg} {q m : Nat} (h : mOne τ q m = true) (c : Nat) : kMet τ c q = kMet τ c m := sorry
theorem kMet_self {τ : Sg} {c m q : Nat} (h : kMet τ c m = some q) : kMet τ c q = some q := sorry
/-- the packages of the classes of R, as bits -/
def PkR (τ : Sg) (N : Nat) (R : List Nat) : Prop := N < 2 ^ 64 ∧ ∀ p, p < 64 → (N / 2 ^ p % 2 = 1 ↔ R.any (fun c => decide (τ.I 1101 c 0 = nI p)) = true)
theorem pkg_lt {n : Nat} (h : n < 2 ^ 60) : pkg n < 64 := sorry
theorem nI_inj64 {p q : Nat} (hp : p < 64) (hq : q < 64) : nI p = nI q ↔ p = q := sorry
theorem bit_or {N q p : Nat} : (N ||| 2 ^ q) / 2 ^ p % 2 = 1 ↔ N / 2 ^ p % 2 = 1 ∨ q = p := sorry
theorem PkR.add {τ : Sg} {N q c : Nat} {R : List Nat} (h : PkR τ N R) (hq : q < 64) (hc : τ.I 1101 c 0 = nI q) : PkR τ (N ||| 2 ^ q) (c :: R) := sorry
theorem PkR.one {τ : Sg} {q c : Nat} (hq : q < 64) (hc : τ.I 1101 c 0 = nI q) : PkR τ (2 ^ q) [c] := sorry
/-- what is known of the classes of a world -/
def OvU (τ σ : Sg) (w : Nat) : Prop := MWm τ σ w (wKs τ w) ∧ ∀ c, c ∈ wKs τ w → KPk τ c ∧ OfK τ c ∧ ∀ j, j < nMe τ c → ∃ a, a < 4 ∧ τ.I 1202 (33 * c + j) 0 = nI a
theorem OvU.mm {τ σ : Sg} {w m : Nat} (h : OvU τ σ w) (hm : LivU τ (wKs τ w) m) : mOf τ m ∈ wKs τ w ∧ MM τ σ m (mM m) ∧ mM m / 34 = cM (mOf τ m) ∧ mM m < 7344 ∧ ∃ a, a < 4 ∧ τ.I 1202 m 0 = nI a := sorry
theorem OvU.met {τ σ : Sg} {w c m q : Nat} (h : OvU τ σ w) (hc : c ∈ wKs τ w) (hq : kMet τ c m = some q) : LivU τ (wKs τ w) q ∧ mOf τ q = c := sorry
theorem OvU.hV {τ σ : Sg} {w m : Nat} (h : OvU τ σ w) (hm : LivU τ (wKs τ w) m) : OvH τ m (mOf τ m :: wKs τ w) := sorry
section SPX
variable {l : Launch} {G : Gl} {d : Nat}
theorem sp_pack (hG : GOK G) {τ σ : Sg} {c : Nat} (hd : 2 ≤ d) (hK : MK1 τ σ c) (hP : KPk τ c) {y : Int64} (hy : y = σ.L 2124 0 (cM c)) : ∃ p, p < 64 ∧ τ.I 1101 c 0 = nI p ∧ CT l G yX11_pack (ws_ yX11_pack cX11_pack 2 (some .int)) d [.long y] σ (rI (nI p) (fun s => s = σ)) := sorry
theorem sp_X11_overrides (hG : GOK G) {τ σ : Sg} {w n m : Nat} (hd : 4 ≤ d) (hU : OvU τ σ w) (hn : LivU τ (wKs τ w) n) (hm : LivU τ (wKs τ w) m) (hn1 : τ.I 1200 n 0 = 1) (hm1 : τ.I 1200 m 0 = 1) {x1 x2 : Int32} (e1 : x1 = nI (mM n)) (e2 : x2 = nI (mM m)) : CT l G yX11_overrides (ws_ yX11_overrides cX11_overrides 9 (some .boolean)) d [.ref (G.adr 11 0), .int x1, .int x2] σ (rZ (mObj τ n && (mObj τ m && (mSgn τ n m && mOv τ w m 80 [mOf τ n] (wPar τ w (mOf τ n))))) (fun s => s = σ)) := sorry
end SPX
