/-! Judging, the model: whether an S's end can be come to. -/
section SPX
variable {l : Launch} {G : Gl}
def SpDm (l : Launch) (G : Gl) (d : Nat) (σ : Sg) (s : Nat) (N : Lb → Nat → Prop) (x : Tr) : Prop := ∀ (lo hi w a e : Nat) (v : Int32), MTg σ s N x lo hi v → wt x 2 w a e → CT l G yX11_canEnd (ws_ yX11_canEnd cX11_canEnd 3 (some .boolean)) d [.ref (G.adr 11 0), .int v] σ (rZ (ckD x) (fun s' => s' = σ))
def LpDm (l : Launch) (G : Gl) (d : Nat) (σ : Sg) (s : Nat) (N : Lb → Nat → Prop) (x : Tr) : Prop := ∀ (lo hi w a e : Nat) (v x1 : Int32) (Q : Outcome → Sg → Prop), MTg σ s N x lo hi v → wt x 3 w a e → Q (.returned (some (.int (bI (ckD x))))) σ → wq_X11_canEnd_57 l G d 0 x1 Q ((tyL x).length + 1) v σ
theorem ce_all (hG : GOK G) {σ : Sg} {s : Nat} {N : Lb → Nat → Prop} (hs : s < 16) (hN : ∀ b X, N b X → σ.I 2170 0 X = nI (mNk b.1)) : ∀ (x : Tr), (∀ d, ht x + 1 ≤ d → SpDm l G d σ s N x) ∧ (∀ d, ht x + 1 ≤ d → LpDm l G d σ s N x) ∧ (∀ d, ht x + 1 ≤ d → ∀ sz' b' u' xs ys, x = .inner sz' b' u' xs ys → b'.1 = 41 → SpDm l G d σ s N xs ∧ SpDm l G d σ s N ys) := sorry
end SPX
/-- judging does not change whether an end can be come to -/
theorem ckS_D {τ : Sg} {k : Nat} {st : Bool} {ms : Int32} {mt : Int64} : ∀ (x : Tr) {m w a e f sn : Nat} {Lc : Lcs} {p : Tr × Lcs × Nat}, wt x m w a e → m = 2 ∨ m = 3 ∨ m = 4 ∨ m = 6 → ckS τ k st ms mt x f Lc sn = .ok p → ckD p.1 = ckD x ∧ isLf p.1 = isLf x := sorry
