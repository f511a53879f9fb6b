/-! LinkHouse writes an E: all kinds but chains. -/
section SPX
variable {l : Launch} {G : Gl} {d : Nat} {τ : Sg} {b k n0 n r : Nat} {B : Nat → Nat}
def SpW (l : Launch) (G : Gl) (d : Nat) (τ : Sg) (b k n0 : Nat) (B : Nat → Nat) (n r : Nat) (x : Tr) : Prop := ∀ (σ : Sg) (U : List Us) (p w a e : Nat) (v : Int32), WX τ σ b k n0 p U B n r → LWt σ (yTok B n) r x v → wt x 0 w a e → gdE τ x → okT k x → (addL U (ndE τ k x [])).length ≤ 1000 → p + (cdE τ k (fun _ => 0) x).length ≤ 6000 → CT l G yX6_write (ws_ yX6_write cX6_write 6 none) d [.ref (G.adr 6 0), .int v] σ (rV (fun s => RW σ s 0 b k n0 p U (ndE τ k x []) (fun ix => cdE τ k ix x)))
def SpWa (l : Launch) (G : Gl) (d : Nat) (τ : Sg) (b k n0 : Nat) (B : Nat → Nat) (n r : Nat) (x : Tr) : Prop := ∀ (σ : Sg) (U : List Us) (p w a e m : Nat) (v : Int32), WX τ σ b k n0 p U B n r → LWt σ (yTok B n) r x v → wt x 1 w a e → gdE τ x → okT k x → LivU τ (wKs τ 1) m → ftL τ (tyL x) (pmL τ m) → (addL U (ndE τ k x (pmL τ m))).length ≤ 1000 → p + (cdE τ k (fun _ => 0) x).length ≤ 6000 → CT l G yX6_writeArgs (ws_ yX6_writeArgs cX6_writeArgs 5 none) d [.ref (G.adr 6 0), .int v, rv G 2 (some m)] σ (rV (fun s => RW σ s 0 b k n0 p U (ndE τ k x (pmL τ m)) (fun ix => cdE τ k ix x)))
theorem in_app {U R : List Us} {r : Us} : r ∈ addL U (R ++ [r]) := sorry
theorem ix_app {U R : List Us} {r : Us} {n0 : Nat} : nI (uIx (addU (addL U R) r) r - n0) = nI (uIx (addL U (R ++ [r])) r - n0) := sorry
theorem lN_I32 {v : Nat} : (lN v).toInt32 = nI v := sorry
theorem wr_E (hG : GOK G) {sz : Nat} {bb : Lb} {u : Unit} {x y : Tr} (hd : 8 ≤ d) (hx : 11 ≤ bb.1 → SpW l G d τ b k n0 B n r x) (hy : twy bb.1 = true → SpW l G d τ b k n0 B n r y) (hA : thy bb.1 = true → SpWa l G d τ b k n0 B n r y) (hnc : ¬ chn bb.1) : SpW l G (d + 1) τ b k n0 B n r (.inner sz bb u x y) := sorry
end SPX
