/-! The table of uses of a build, class by class. -/
/-- class k's uses lie from n0 to n1 -/
def TbK (U : List Us) (k n0 n1 : Nat) : Prop := (n0 ≤ n1 ∧ n1 ≤ U.length) ∧ ∀ (i : Nat) (r : Us), U[i]? = some r → (r.1 = k ↔ n0 ≤ i ∧ i < n1)
/-- what a use of class k has to do with its class -/
def UrK (s : Sg) (k : Nat) (r : Us) : Prop := (r.2.1 = 18 → r.2.2.1 = s.L 1107 k 0 ∧ s.B 1102 k 0 = false) ∧ (r.2.1 = 19 → ∃ j, j < nFc s k ∧ r.2.2.1 = s.L 1108 k j) ∧ (r.2.1 = 11 → s.B 1102 k 0 = false ∧ ¬ s.L 1100 k 0 = 6927257) ∧ (r.2.1 = 12 → ∃ j, j < nFc s k ∧ s.L 1108 k j = r.2.2.1)
/-- the uses of class k of build b -/
def UtK (s : Sg) (b k n0 n1 : Nat) (U : List Us) : Prop := (LUt s b U ∧ UNd U ∧ U.length ≤ 1000) ∧ TbK U k n0 n1 ∧ (s.I 1119 k 0 = nI n0 ∧ s.I 1120 k 0 = nI n1) ∧ s.R 1126 k 0 = some b
section TBK
variable {τ s σ : Sg} {b k n0 n1 nk : Nat} {U : List Us} {tg : Nat → Nat → Nat} {tr : Nat → Nat → Tr}
theorem usA_lo : ∀ (n : Nat) (r : Us) (i : Nat), r ∈ usA τ b tg tr n → r.1 = 12 * b + i → r ∈ usA τ b tg tr (i + 1) := sorry
theorem uA_pre (n i : Nat) : ∃ V, uA τ b tg tr (i + n) = uA τ b tg tr i ++ V := sorry
theorem uA_nd (i : Nat) : UNd (uA τ b tg tr i) := sorry
theorem uA_mem {i : Nat} {r : Us} : r ∈ uA τ b tg tr i ↔ r ∈ usA τ b tg tr i := sorry
theorem TbK_uA {i : Nat} (hi : i < nk) : TbK (uA τ b tg tr nk) (12 * b + i) (uA τ b tg tr i).length (uA τ b tg tr (i + 1)).length := sorry
theorem UtK.cl (h : UtK s b k n0 n1 U) : (s.I 1119 k 0).toNatClampNeg = n0 ∧ (s.I 1120 k 0).toNatClampNeg = n1 ∧ n0 ≤ n1 ∧ n1 ≤ U.length ∧ n1 ≤ 1000 ∧ nUk s k = n1 - n0 ∧ kB s k = b := sorry
theorem UtK.at (h : UtK s b k n0 n1 U) {u : Nat} (hu : u < nUk s k) : ∃ r, U[n0 + u]? = some r ∧ r ∈ U ∧ r.1 = k ∧ uAt s k u = 1000 * b + (n0 + u) ∧ UOK r ∧ UCn r ∧ LUr s (uAt s k u) r := sorry
/-- A USE OF THE TABLE, AS THE MACHINE READS IT -/
theorem UtK.use (h : UtK s b k n0 n1 U) {r : Us} (hr : r ∈ U) (hk : r.1 = k) : UseAt s k (uIx U r - n0) r := sorry
theorem UtK.mux (h : UtK s b k n0 n1 U) (hS : Shp s) (hb : b < 16) (hM : MUt σ b U) (hR : ∀ r, r ∈ U → r.1 = k → UrK s k r) (nb : ¬ s.I 1101 k 0 = 26) {u : Nat} (hu : u < nUk s k) : ∃ v, MUx s σ (uAt s k u) (muA s k u) k v := sorry
end TBK
