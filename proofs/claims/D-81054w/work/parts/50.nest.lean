/-! nestOf and lets with a linker; isIll, fitted, canBeCaught, copied -/
def pM (i c i' : Nat) : Bool := pW c i' || (rg 1800 1807 c && Nat.beq i' i)
theorem sub_KM {i : Nat} (c i' : Nat) (h : pK i c i' = true) : pM i c i' = true := sorry
theorem sub_WM {i : Nat} (c i' : Nat) (h : pW c i' = true) : pM i c i' = true := sorry
theorem sub_HM {i : Nat} (c i' : Nat) (h : pH c i' = true) : pM i c i' = true := sorry
theorem sub_FW (c i' : Nat) (h : pF c i' = true) : pW c i' = true := sorry
theorem sub_LW (c i' : Nat) (h : pL c i' = true) : pW c i' = true := sorry
theorem sta_K {i : Nat} (c i' : Nat) (h : sc c = true) : pK i c i' = false := sorry
theorem sta_M {i : Nat} (c i' : Nat) (h : sc c = true) : pM i c i' = false := sorry
theorem pM_t {i c : Nat} (h1 : 1801 ≤ c) (h2 : c ≤ 1807) : pM i c i = true := sorry
theorem LSR.mixK {ρ τ : Sg} {i : Nat} {st : LSt} (h : LSR τ i st) : LSR (mix (pK i) ρ τ) i st := sorry
section SPN
variable {l : Launch} {G : Gl} {τ : Sg}
/-- load, at any tables -/
theorem sr_X8_load (hG : GOK G) {d i k : Nat} (hd : 133 ≤ d) (hi : i < cnt 8) (hW : WOK τ 0) (hS : Shp τ) (hN : WNO τ) (hk : k ∈ wKs τ 0) {st : LSt} (hL : LOK st) (hC : LCL τ st) (hf : LSR τ i st) : CT l G yX8_load (ws_ yX8_load cX8_load 4 (some .int)) d [.ref (G.adr 8 i), rv G 1 (some k)] τ (rI (wLd τ k st).1 (fun s => ∃ ρ', s = mix (pK i) τ ρ' ∧ LSR ρ' i (wLd τ k st).2)) := sorry
theorem sr_X8_loadNamed (hG : GOK G) {d i : Nat} (hd : 134 ≤ d) (hi : i < cnt 8) (hW : WOK τ 0) (hS : Shp τ) (hN : WNO τ) (nm : Int64) {st : LSt} (hL : LOK st) (hC : LCL τ st) (hf : LSR τ i st) : CT l G yX8_loadNamed (ws_ yX8_loadNamed cX8_loadNamed 4 (some .int)) d [.ref (G.adr 8 i), .long nm] τ (rI (wLn τ nm st).1 (fun s => ∃ ρ', s = mix (pK i) τ ρ' ∧ LSR ρ' i (wLn τ nm st).2)) := sorry
/-- the nest of a class, with a linker -/
def wNsL (σ : Sg) (k : Nat) (st : LSt) : Nat × LSt := if σ.L 1110 k 0 = 0 then (k, st) else match wFind σ 0 (σ.L 1110 k 0) with
  | none => (k, st)
  | some h => if 0 < (wLd σ h st).1 then (k, (wLd σ h st).2) else (if σ.I 1101 h 0 = σ.I 1101 k 0 ∧ kWit σ h (σ.L 1100 k 0) = true then h else k, (wLd σ h st).2)
theorem sl_X3_nestOf (hG : GOK G) {d i : Nat} (hd : 134 ≤ d) (hi : i < cnt 8) (hW : WOK τ 0) (hS : Shp τ) (hN : WNO τ) {k : Nat} (hk : k < cnt 1) {st : LSt} (hL : LOK st) (hC : LCL τ st) (hf : LSR τ i st) : CT l G yX3_nestOf (ws_ yX3_nestOf cX3_nestOf 4 (some (.object "LinkHouse$Kind"))) d [.ref (G.adr 3 0), rv G 1 (some k), rv G 8 (some i)] τ (rR G 1 (some (wNsL τ k st).1) (fun s => ∃ ρ', s = mix (pK i) τ ρ' ∧ LSR ρ' i (wNsL τ k st).2)) := sorry
/-- lets with a linker -/
noncomputable def lLts (σ : Sg) (a c m x : Nat) (st : LSt) : Bool × LSt := if 1 ≤ (σ.I 1202 m 0).toInt ∧ (σ.I 1202 m 0).toInt ≤ 3 then (mLts σ 0 a c m x 0 0, st) else if a = c then (true, st) else (decide ((wNsL σ a st).1 = (wNsL σ c (wNsL σ a st).2).1), (wNsL σ c (wNsL σ a st).2).2)
def pKH (i c i' : Nat) : Bool := pK i c i' || pH c i'
theorem sub_KKH {i : Nat} (c i' : Nat) (h : pK i c i' = true) : pKH i c i' = true := sorry
theorem sub_HKH {i : Nat} (c i' : Nat) (h : pH c i' = true) : pKH i c i' = true := sorry
theorem sub_KHM {i : Nat} (c i' : Nat) (h : pKH i c i' = true) : pM i c i' = true := sorry
/-- a smaller change is a greater one -/
theorem mix_up {p q : Nat → Nat → Bool} {σ ρ : Sg} (h : ∀ c i, q c i = true → p c i = true) : mix q σ ρ = mix p σ (mix q σ ρ) := sorry
theorem LSR.mixH {ρ τ : Sg} {i : Nat} {st : LSt} (h : LSR ρ i st) : LSR (mix pH ρ τ) i st := sorry
theorem wNsL_in {σ : Sg} (hW : WOK σ 0) (hN : WNO σ) {k : Nat} {st : LSt} (hL : LOK st) (hC : LCL σ st) : LOK (wNsL σ k st).2 ∧ LCL σ (wNsL σ k st).2 ∧ (∀ j, st.1 j ≠ 0 → (wNsL σ k st).2.1 j = st.1 j) := sorry
theorem sl_X3_lets (hG : GOK G) {d i : Nat} (hd : 135 ≤ d) (hi : i < cnt 8) (hW : WOK τ 0) (hS : Shp τ) (hN : WNO τ) {a c m x : Nat} (ha : a < cnt 1) (hc : c < cnt 1) (hm : m < cnt 2) (hx : x < cnt 1) {st : LSt} (hL : LOK st) (hC : LCL τ st) (hf : LSR τ i st) : CT l G yX3_lets (ws_ yX3_lets cX3_lets 6 (some .boolean)) d [.ref (G.adr 3 0), rv G 1 (some a), rv G 1 (some c), rv G 2 (some m), rv G 1 (some x), rv G 8 (some i)] τ (rZ (lLts τ a c m x st).1 (fun s => ∃ ρ, s = mix (pKH i) τ ρ ∧ LSR ρ i (lLts τ a c m x st).2)) := sorry
end SPN
