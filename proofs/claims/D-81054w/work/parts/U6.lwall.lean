/-! LinkHouse writes an E: arguments, chains, every E. -/
theorem Pth.we {σ s : Sg} {x1 v : Int32} {c b w : Nat} (h : Pth σ x1 c v) (hF : Fl (pWe b w) σ s) : Pth s x1 c v := sorry
theorem LWt_nd {σ : Sg} {T : Nat → Tk} {r w a e : Nat} {x : Tr} {v : Int32} (hw : wt x 0 w a e) (h : LWt σ T r x v) : ∃ n1, v = nI n1 ∧ n1 < 1410 ∧ σ.L 1606 0 n1 = tyO x := sorry
theorem okT_ty {k w a e : Nat} {x : Tr} (hw : wt x 0 w a e) (h : okT k x) : TyOK (tyO x) := sorry
section SPX
variable {l : Launch} {G : Gl} {d : Nat} {τ : Sg} {b k n0 n r : Nat} {B : Nat → Nat}
/-- the loop over arguments -/
def SpWr (l : Launch) (G : Gl) (D : Nat) (τ : Sg) (b k n0 : Nat) (B : Nat → Nat) (n r : Nat) (x : Tr) : Prop := ∀ (σ : Sg) (U : List Us) (p w a e m i : Nat) (ps : List Int64) (v x1 : Int32) (Q : Outcome → Sg → Prop), WX τ σ b k n0 p U B n r → LWt σ (yTok B n) r x v → wt x 1 w a e → gdE τ x → okT k x → LivU τ (wKs τ 1) m → i + ps.length ≤ 4 → (∀ (j : Nat) (t : Int64), ps[j]? = some t → τ.L 1209 m (i + j) = t ∧ TyOK t ∧ ¬ t = 2) → ftL τ (tyL x) ps → (addL U (ndE τ k x ps)).length ≤ 1000 → p + (cdE τ k (fun _ => 0) x).length ≤ 6000 → (∀ s, RW σ s 0 b k n0 p U (ndE τ k x ps) (fun ix => cdE τ k ix x) → Q (.returned none) s) → wq_X6_writeArgs_5 l G D 0 x1 (some m) Q (rl x + 1) (nI i) v σ
theorem wr_R0 {D : Nat} : SpWr l G D τ b k n0 B n r .leaf := sorry
theorem wr_R (hG : GOK G) {D sz : Nat} {bb : Lb} {u : Unit} {x y : Tr} (hD : 7 ≤ D) (hx : bb.1 = 0 → SpW l G D τ b k n0 B n r x) (hy : bb.1 = 0 → SpWr l G D τ b k n0 B n r y) : SpWr l G D τ b k n0 B n r (.inner sz bb u x y) := sorry
theorem SpWr.A (hG : GOK G) {D : Nat} {x : Tr} (h : SpWr l G D τ b k n0 B n r x) : SpWa l G (D + 1) τ b k n0 B n r x := sorry
/-- numbers one behind the other -/
def SpWc (l : Launch) (G : Gl) (D : Nat) (τ : Sg) (b k n0 : Nat) (B : Nat → Nat) (n r : Nat) (x : Tr) : Prop := ∀ (σ : Sg) (U : List Us) (p w a e c0 M0 : Nat) (v x1 : Int32) (Q : Outcome → Sg → Prop), WX τ σ b k n0 p U B n r → LWt σ (yTok B n) r x v → wt x 0 w a e → gdE τ x → okT k x → Pth σ x1 c0 v → c0 + ht x ≤ 3000 → (addL U (ndE τ k x [])).length ≤ 1000 → p + (cdE τ k (fun _ => 0) x).length ≤ 6000 → (∀ s, RW σ s 0 b k n0 p U (ndE τ k x []) (fun ix => cdE τ k ix x) → wq_X6_writeChain_72 l G D 0 x1 Q M0 (nI c0 - 1) s) → ∃ M, wq_X6_writeChain_4 l G D 0 x1 Q M (nI c0) v σ
theorem wr_Cc (hG : GOK G) {D sz : Nat} {bb : Lb} {u : Unit} {x y : Tr} (hD : 1 ≤ D) (hE : ¬ chn bb.1 → SpW l G D τ b k n0 B n r (.inner sz bb u x y)) (hx : chn bb.1 → SpWc l G D τ b k n0 B n r x) (hy : chn bb.1 → SpW l G D τ b k n0 B n r y) : SpWc l G D τ b k n0 B n r (.inner sz bb u x y) := sorry
theorem wr_Ec (hG : GOK G) {sz : Nat} {bb : Lb} {u : Unit} {x y : Tr} (hc : chn bb.1) (hht : ht (Std.DTreeMap.Internal.Impl.inner sz bb u x y) ≤ 3000) (hC : SpWc l G d τ b k n0 B n r (.inner sz bb u x y)) : SpW l G (d + 1 + 1) τ b k n0 B n r (.inner sz bb u x y) := sorry
/-- LINKHOUSE WRITES EVERY E as cdE and ndE say -/
theorem wr_all (hG : GOK G) : ∀ (x : Tr), ht x ≤ 2000 → (∀ d, 3 * ht x + 12 ≤ d → SpW l G d τ b k n0 B n r x) ∧ (∀ D, (chn (kdO x) → 3 * ht x + 10 ≤ D) → (¬ chn (kdO x) → 3 * ht x + 12 ≤ D) → SpWc l G D τ b k n0 B n r x) ∧ (∀ D, 3 * ht x + 12 ≤ D → SpWr l G D τ b k n0 B n r x) := sorry
end SPX
