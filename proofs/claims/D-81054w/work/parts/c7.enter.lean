/-! LINKHOUSE's MACHINE: fields, objects, frames. -/
section ENT
variable {l : Launch} {G : Gl} {d : Nat} {σ s : Sg} {P : Pg}
theorem IsUp.st (h : stat s = stat σ) : ∀ {c : Option Nat} {L : List Nat}, IsUp σ c L → IsUp s c L := sorry
theorem I1123_se (h : stat s = stat σ) {k : Nat} : s.I 1123 k 0 = σ.I 1123 k 0 := sorry
theorem fdS_se (h : stat s = stat σ) : ∀ (L : List Nat), fdS s L = fdS σ L := sorry
theorem ups_n (hM : WMa σ P) {st : LSt} (hC : LCL σ st) {k : Nat} (hk : Ldd σ st k) (h : stat s = stat σ) : ∀ c, c ∈ wUps σ k → c < 194 ∧ ∃ n, s.I 1123 c 0 = nI n ∧ n < 2 ^ 31 := sorry
theorem sp_X9_fieldsOf (hG : GOK G) (hd : 3 ≤ d) (hM : WMa σ P) {st : LSt} (hC : LCL σ st) {k : Nat} (hk : Ldd σ st k) (h : stat s = stat σ) : CT l G yX9_fieldsOf (ws_ yX9_fieldsOf cX9_fieldsOf 4 (some .int)) d [.ref (G.adr 9 0), rv G 1 (some k)] s (rI (nI (fdN σ k)) (fun t => t = s)) := sorry
theorem ups_tail (hM : WMa σ P) {st : LSt} (hC : LCL σ st) {k : Nat} (hk : Ldd σ st k) : IsUp σ (wPar σ 0 k) (wUps σ k).tail := sorry
theorem I1221_se (h : stat s = stat σ) {k : Nat} : s.I 1221 k 0 = σ.I 1221 k 0 := sorry
theorem R1222_se (h : stat s = stat σ) {k : Nat} : s.R 1222 k 0 = σ.R 1222 k 0 := sorry
theorem sp_X9_slotOf (hG : GOK G) (hd : 3 ≤ d) (hM : WMa σ P) {st : LSt} (hC : LCL σ st) {k j : Nat} (hk : Ldd σ st k) (hj : j < nMe σ k) (hf : σ.I 1200 (33 * k + j) 0 = 0) (h : stat s = stat σ) : CT l G yX9_slotOf (ws_ yX9_slotOf cX9_slotOf 4 (some .int)) d [.ref (G.adr 9 0), rv G 2 (some (33 * k + j))] s (rI (nI (slA σ (33 * k + j))) (fun t => t = s)) := sorry
/-- whether an object is of a class -/
theorem sp_X9_isOf (hG : GOK G) (hd : 4 ≤ d) (hM : WMa σ P) {F : FSt} (h : MRl σ F s) {i c a k : Nat} {v : Int32} (ev : v = nI (i + 1)) (hi : i < 200) (eo : F.1.ob[i]? = some (c, a)) (hc : c < 194) (hk : k < 194) : CT l G yX9_isOf (ws_ yX9_isOf cX9_isOf 3 (some .boolean)) d [.ref (G.adr 9 0), .int v, rv G 1 (some k)] s (rZ (isOfB σ F.1 v k) (fun t => MRl σ F t ∧ t.I 1914 0 0 = s.I 1914 0 0)) := sorry
end ENT
