/-! LINKHOUSE's MACHINE: a class's faces in a row. -/
theorem ka1999 : KA 1999 64 := sorry
theorem sR_i {σ : Sg} {c i i' j j' : Nat} {v : Option Nat} (h : i' ≠ i) : (sR σ c i j v).R c i' j' = σ.R c i' j' := sorry
section LYU
variable {l : Launch} {G : Gl} {d : Nat} {σ s : Sg} {P : Pg} {k i : Nat} {F : FSt} {st : LSt}
theorem FrA.row {S0 : Bw} {j : Nat} {v : Option Nat} (hi : S0.2.1 < i) : ∀ {fs : List Fr}, FrA σ S0 s fs → FrA σ S0 (sR s 1999 i j v) fs := sorry
/-- a row above those told changes -/
theorem MRl.row {j : Nat} {v : Option Nat} (h : MRl σ F s) (hi : F.2.2.1.2.1 < i) : MRl σ F (sR s 1999 i j v) := sorry
/-- what is laid is in the row, or stands above -/
theorem lyF_in (hB : BIK σ) (hC : LCL σ st) {g : Nat → List Nat → List Nat} (hg : ∀ e L, Ldd σ st e → (∀ x, x ∈ g e L → x ∈ L ∨ wHr σ 0 e x) ∧ ∀ x, x ∈ L → x ∈ g e L) (hk : Ldd σ st k) : ∀ (n j : Nat) (L : List Nat), j + n = nFc σ k → (∀ x, x ∈ lyF σ g k n j L → x ∈ L ∨ wHr σ 0 k x) ∧ ∀ x, x ∈ L → x ∈ lyF σ g k n j L := sorry
theorem lyU_in (hB : BIK σ) (hC : LCL σ st) : ∀ (n k : Nat) (L : List Nat), Ldd σ st k → (∀ x, x ∈ lyU σ n k L → x ∈ L ∨ wHr σ 0 k x) ∧ ∀ x, x ∈ L → x ∈ lyU σ n k L := sorry
/-- the row's members are classes of the world, each once -/
def LyN (σ : Sg) (L : List Nat) : Prop := L.Nodup ∧ ∀ x, x ∈ L → x ∈ wKs σ 0
theorem LyN.le (hW : WOK σ 0) {L : List Nat} (h : LyN σ L) : L.length ≤ 62 := sorry
/-- layUpwards at a height below n is as lyU says -/
def LyC (l : Launch) (G : Gl) (d : Nat) (σ : Sg) (st : LSt) (F : FSt) (i n : Nat) : Prop := ∀ (e : Nat) (L : List Nat) (s : Sg), hts σ e < n → Ldd σ st e → LyN σ L → Row s 1999 i L → MRl σ F s → CT l G yX9_layUpwards (ws_ yX9_layUpwards cX9_layUpwards 7 (some .int)) d [.ref (G.adr 9 0), .ref (G.adr 1999 i), .int (nI L.length), rv G 1 (some e)] s (rI (nI (lyU σ n e L).length) (fun t => MRl σ F t ∧ Row t 1999 i (lyU σ n e L) ∧ LyN σ (lyU σ n e L)))
theorem ly_6 (hG : GOK G) (hd : 1 ≤ d) (hM : WMa σ P) (hC : LCL σ st) (hi : i < 26) (hF : F.2.2.1.2.1 < i) {N : Nat} (hg : LyC l G d σ st F i N) (hk : Ldd σ st k) (hN : hts σ k ≤ N) {x2 : Int32} {Q : Outcome → Sg → Prop} : ∀ (n j : Nat) (L : List Nat) (s : Sg), j + n = nFc σ k → LyN σ L → Row s 1999 i L → MRl σ F s → (∀ t, MRl σ F t → Row t 1999 i (lyF σ (lyU σ N) k n j L) → LyN σ (lyF σ (lyU σ N) k n j L) → Q (.returned (some (.int (nI (lyF σ (lyU σ N) k n j L).length)))) t) → wq_X9_layUpwards_6 l G d 0 1999 64 i x2 (some k) Q (n + 1) (nI L.length) (nI j) s := sorry
theorem ly_all (hG : GOK G) (hM : WMa σ P) (hC : LCL σ st) (hi : i < 26) (hF : F.2.2.1.2.1 < i) : ∀ (n d : Nat), n + 2 ≤ d → LyC l G d σ st F i n := sorry
end LYU
