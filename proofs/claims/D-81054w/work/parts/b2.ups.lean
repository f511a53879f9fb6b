/-! The row of parents of a loaded class; fields' places. -/
/-- induction from the first step on -/
theorem wHr_hd {σ : Sg} {a b : Nat} (h : wHr σ 0 a b) : ∀ {Q : Nat → Prop}, (∀ x, wSt σ 0 x b → Q x) → (∀ x y, wSt σ 0 x y → wHr σ 0 y b → Q y → Q x) → Q a := sorry
section UP
variable {σ : Sg} {st : LSt}
theorem Ldd.cls (hB : BIK σ) (hC : LCL σ st) {k p : Nat} (hk : Ldd σ st k) (hp : wPar σ 0 k = some p) : Ldd σ st p ∧ σ.B 1102 p 0 = false ∧ σ.B 1102 k 0 = false := sorry
theorem Ldd.fc (hB : BIK σ) (hC : LCL σ st) {k f j : Nat} (hk : Ldd σ st k) (hj : j < nFc σ k) (hf : wFind σ 0 (σ.L 1108 k j) = some f) : Ldd σ st f ∧ σ.B 1102 f 0 = true := sorry
/-- a row of parents: its first, and the rest -/
theorem ups_cons (hW : WOK σ 0) (hB : BIK σ) (hC : LCL σ st) {k : Nat} (hk : Ldd σ st k) : wUps σ k = k :: (match wPar σ 0 k with | none => [] | some p => wUps σ p) := sorry
theorem ups_some (hW : WOK σ 0) (hB : BIK σ) (hC : LCL σ st) {k p : Nat} (hk : Ldd σ st k) (hp : wPar σ 0 k = some p) : wUps σ k = k :: wUps σ p := sorry
/-- of those above -/
theorem ups_mem (hW : WOK σ 0) (hB : BIK σ) (hC : LCL σ st) : ∀ (n k : Nat), (wUps σ k).length ≤ n → Ldd σ st k → ∀ d, d ∈ wUps σ k → Ldd σ st d ∧ (σ.B 1102 k 0 = false → σ.B 1102 d 0 = false) ∧ (d = k ∨ wHr σ 0 k d) ∧ ∃ pre, wUps σ k = pre ++ wUps σ d := sorry
theorem ups_in (hW : WOK σ 0) (hB : BIK σ) (hC : LCL σ st) {k d : Nat} (hk : Ldd σ st k) (hd : d ∈ wUps σ k) : Ldd σ st d ∧ (σ.B 1102 k 0 = false → σ.B 1102 d 0 = false) ∧ (d = k ∨ wHr σ 0 k d) ∧ ∃ pre, wUps σ k = pre ++ wUps σ d := sorry
theorem ups_self (hW : WOK σ 0) (hB : BIK σ) (hC : LCL σ st) {k : Nat} (hk : Ldd σ st k) : k ∈ wUps σ k := sorry
/-- the first class stands above every class that is no face -/
theorem ups_any (hW : WOK σ 0) (hB : BIK σ) (hT : ∀ k, k ∈ wKs σ 0 → σ.L 1100 k 0 = 6927257 → k = 192) (hC : LCL σ st) : ∀ (n k : Nat), (wUps σ k).length ≤ n → Ldd σ st k → σ.B 1102 k 0 = false → 192 ∈ wUps σ k := sorry
/-- what stands above a class, and is no face, stands in its row -/
theorem heir_ups (hW : WOK σ 0) (hB : BIK σ) (hC : LCL σ st) {k d : Nat} (h : wHr σ 0 k d) (hd : σ.B 1102 d 0 = false) (hk : Ldd σ st k) : σ.B 1102 k 0 = false ∧ d ∈ wUps σ k := sorry
theorem heir_ldd (hB : BIK σ) (hC : LCL σ st) {k d : Nat} (h : wHr σ 0 k d) (hk : Ldd σ st k) : Ldd σ st d := sorry
theorem fdS_app : ∀ (L M : List Nat), fdS σ (L ++ M) = fdS σ L + fdS σ M := sorry
/-- a field's place among those of an object -/
theorem slA_lt (hW : WOK σ 0) (hB : BIK σ) (hC : LCL σ st) {c d m : Nat} (hc : Ldd σ st c) (hd : d ∈ wUps σ c) (hm : mOf σ m = d) (hs : (σ.I 1221 m 0).toNatClampNeg < (σ.I 1123 d 0).toNatClampNeg) : slA σ m < fdS σ (wUps σ d) ∧ fdS σ (wUps σ d) ≤ fdN σ c := sorry
theorem slA_ge {d m : Nat} (hm : mOf σ m = d) : fdS σ (wUps σ d).tail ≤ slA σ m := sorry
/-- two fields of an object lie apart -/
theorem slA_ne (hW : WOK σ 0) (hB : BIK σ) (hC : LCL σ st) {c d d' m m' : Nat} (hc : Ldd σ st c) (hd : d ∈ wUps σ c) (hd' : d' ∈ wUps σ c) (hm : mOf σ m = d) (hm' : mOf σ m' = d') (hs : (σ.I 1221 m 0).toNatClampNeg < (σ.I 1123 d 0).toNatClampNeg) (hs' : (σ.I 1221 m' 0).toNatClampNeg < (σ.I 1123 d' 0).toNatClampNeg) (hne : d ≠ d') : slA σ m ≠ slA σ m' := sorry
end UP
