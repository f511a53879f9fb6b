/-! Linker.load -/
theorem sI_c {σ : Sg} {c c' i i' j j' : Nat} {v : Int32} (h : c' ≠ c) : (sI σ c i j v).I c' i' j' = σ.I c' i' j' := sorry
theorem sI_s {σ : Sg} {c i j : Nat} {v : Int32} : (sI σ c i j v).I c i j = v := sorry
theorem sI_j {σ : Sg} {c i j j' : Nat} {v : Int32} (h : j' ≠ j) : (sI σ c i j v).I c i j' = σ.I c i j' := sorry
theorem sR_c {σ : Sg} {c c' i i' j j' : Nat} {v : Option Nat} (h : c' ≠ c) : (sR σ c i j v).R c' i' j' = σ.R c' i' j' := sorry
theorem sR_s {σ : Sg} {c i j : Nat} {v : Option Nat} : (sR σ c i j v).R c i j = v := sorry
theorem sR_j {σ : Sg} {c i j j' : Nat} {v : Option Nat} (h : j' ≠ j) : (sR σ c i j v).R c i j' = σ.R c i j' := sorry
/-- what is loaded, by numbers of the world; what was told of it -/
abbrev LSt : Type := (Nat → Int32) × List Int32
def setN (f : Nat → Int32) (n : Nat) (v : Int32) : Nat → Int32 := fun j => if j = n then v else f j
def nW (σ : Sg) (k : Nat) : Nat := (σ.I 1128 k 0).toNatClampNeg
/-- the world's kinds know their numbers -/
def WNO (σ : Sg) : Prop := ∀ j, j < nWd σ 0 → σ.I 1128 (wK σ 0 j) 0 = nI j
theorem WNO.n {σ : Sg} (h : WNO σ) (hW : WOK σ 0) {k : Nat} (hk : k ∈ wKs σ 0) : nW σ k < 62 ∧ σ.I 1128 k 0 = nI (nW σ k) ∧ wK σ 0 (nW σ k) = k ∧ nW σ k < nWd σ 0 := sorry
def evt (σ : Sg) (st : LSt) (k : Nat) (v : Int32) : LSt := if st.2.length < 268 then (st.1, st.2 ++ [100 * σ.I 1128 k 0 + v]) else st
def ldC1 (σ : Sg) (k p : Nat) (f : Int32) : Int32 := if f ≤ 0 then (if σ.B 1102 p 0 = true then 3 else if kOpn σ p k = false then 2 else if σ.B 1104 p 0 = true ∨ kLet σ p (σ.L 1100 k 0) = false then 3 else 0) else f
def ldC2 (σ : Sg) (k p : Nat) (f : Int32) : Int32 := if f ≤ 0 then (if σ.B 1102 p 0 = false then 3 else if kOpn σ p k = false then 2 else if kLet σ p (σ.L 1100 k 0) = false then 3 else 0) else f
def ldFs (σ : Sg) (g : Nat → LSt → Option (Int32 × LSt)) (k : Nat) : Nat → Nat → LSt → Option (Int32 × LSt)
  | 0, _, st => some (0, st)
  | n + 1, j, st => match wFind σ 0 (σ.L 1108 k j) with
    | none => some (1, st)
    | some e => (g e st).bind (fun r => if ldC2 σ k e r.1 ≤ 0 then ldFs σ g k n (j + 1) r.2 else some (ldC2 σ k e r.1, r.2))
def ldH (σ : Sg) (g : Nat → LSt → Option (Int32 × LSt)) (k : Nat) (st : LSt) : Option (Int32 × LSt) := if σ.B 1102 k 0 = true then ldFs σ g k (nFc σ k) 0 st else match wFind σ 0 (σ.L 1107 k 0) with
  | none => some (1, st)
  | some p => (g p st).bind (fun r => if ldC1 σ k p r.1 ≤ 0 then ldFs σ g k (nFc σ k) 0 r.2 else some (ldC1 σ k p r.1, r.2))
def ldE (σ : Sg) (k : Nat) (r : Int32 × LSt) : Int32 × LSt := (r.1, evt σ (setN r.2.1 (nW σ k) (if r.1 = 0 then 1 else 100 + r.1), r.2.2) k (if r.1 = 0 then 1 else 5))
def ldA (s : Int32) : Int32 := if s = 1 then 0 else if s = 2 then 10 else s - 100
def ld (σ : Sg) : Nat → Nat → LSt → Option (Int32 × LSt)
  | 0, _, _ => none
  | n + 1, k, st => if σ.I 1101 k 0 = 26 then some (0, st) else if st.1 (nW σ k) = 0 then (ldH σ (ld σ n) k (setN st.1 (nW σ k) 2, st.2)).map (ldE σ k) else some (ldA (st.1 (nW σ k)), st)
/-- the rows of linker i hold st -/
def LSR (ρ : Sg) (i : Nat) (st : LSt) : Prop := (∀ j, j < 64 → ρ.I 1801 i j = st.1 j) ∧ ρ.I 1803 i 0 = nI st.2.length ∧ st.2.length ≤ 268 ∧ ∀ j, j < st.2.length → st.2[j]? = some (ρ.I 1802 i j)
def pK (i c i' : Nat) : Bool := rg 1800 1803 c && Nat.beq i' i
theorem pK_1 {i : Nat} : pK i 1801 i = true := sorry
theorem pK_2 {i : Nat} : pK i 1802 i = true := sorry
theorem pK_3 {i : Nat} : pK i 1803 i = true := sorry
theorem mixK_I {i c j : Nat} {σ ρ : Sg} (h : pK i c i = true) : (mix (pK i) σ ρ).I c i j = ρ.I c i j := sorry
theorem LSR.set {ρ : Sg} {i : Nat} {st : LSt} (h : LSR ρ i st) (n : Nat) (v : Int32) : LSR (sI ρ 1801 i n v) i (setN st.1 n v, st.2) := sorry
section SPL
variable {l : Launch} {G : Gl} {σ : Sg}
theorem sp_X8_isBuiltIn (hG : GOK G) {d : Nat} (hd : 1 ≤ d) {k : Nat} (hk : k < cnt 1) : CT l G yX8_isBuiltIn (ws_ yX8_isBuiltIn cX8_isBuiltIn 1 (some .boolean)) d [rv G 1 (some k)] σ (rZ (decide (σ.I 1101 k 0 = 26)) (fun s => s = σ)) := sorry
theorem sp_X8_tellEvent (hG : GOK G) {d : Nat} (hd : 1 ≤ d) {i k : Nat} (hi : i < cnt 8) (hk : k < cnt 1) (v : Int32) {st : LSt} {ρ : Sg} (h : LSR ρ i st) : CT l G yX8_tellEvent (ws_ yX8_tellEvent cX8_tellEvent 3 none) d [.ref (G.adr 8 i), rv G 1 (some k), .int v] (mix (pK i) σ ρ) (rV (fun s => ∃ ρ', s = mix (pK i) σ ρ' ∧ LSR ρ' i (evt σ st k v))) := sorry
theorem sp_X8_load (hG : GOK G) {i : Nat} (hi : i < cnt 8) (hW : WOK σ 0) (hS : Shp σ) (hN : WNO σ) : ∀ (n d k : Nat) (st : LSt) (r : Int32 × LSt) (ρ : Sg), 2 * n + 3 ≤ d → k ∈ wKs σ 0 → ld σ n k st = some r → LSR ρ i st → CT l G yX8_load (ws_ yX8_load cX8_load 4 (some .int)) d [.ref (G.adr 8 i), rv G 1 (some k)] (mix (pK i) σ ρ) (rI r.1 (fun s => ∃ ρ', s = mix (pK i) σ ρ' ∧ LSR ρ' i r.2)) := sorry
end SPL
