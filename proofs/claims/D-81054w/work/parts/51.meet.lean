/-! Linker: isIll, fitted, canBeCaught, copied, maker, fieldOf, above -/
theorem wLn_p {σ : Sg} (hW : WOK σ 0) (hN : WNO σ) {nm : Int64} {st : LSt} (hL : LOK st) (hC : LCL σ st) : LOK (wLn σ nm st).2 ∧ LCL σ (wLn σ nm st).2 ∧ FOK (wLn σ nm st).1 ∧ (∀ j, st.1 j ≠ 0 → (wLn σ nm st).2.1 j = st.1 j) ∧ ((wLn σ nm st).1 ≤ 0 → ∃ k, wFind σ 0 nm = some k ∧ Ldd σ (wLn σ nm st).2 k) := sorry
theorem LSR.mixKH {ρ τ : Sg} {i : Nat} {st : LSt} (h : LSR τ i st) : LSR (mix (pKH i) ρ τ) i st := sorry
/-- the linker's rows: loads, found, target, looked -/
def MR (ρ : Sg) (i : Nat) (st : LSt) (f t : Option Nat) (lk : List Nat) : Prop := LSR ρ i st ∧ ρ.R 1804 i 0 = f ∧ ρ.R 1805 i 0 = t ∧ ρ.I 1807 i 0 = nI lk.length ∧ Row ρ 1806 i lk
theorem mixM_R {i c j : Nat} {σ ρ : Sg} (h1 : 1801 ≤ c) (h2 : c ≤ 1807) : (mix (pM i) σ ρ).R c i j = ρ.R c i j := sorry
theorem mixM_I {i c j : Nat} {σ ρ : Sg} (h1 : 1801 ≤ c) (h2 : c ≤ 1807) : (mix (pM i) σ ρ).I c i j = ρ.I c i j := sorry
theorem LSR.mixM {ρ σ : Sg} {i : Nat} {st : LSt} (h : LSR ρ i st) : LSR (mix (pM i) σ ρ) i st := sorry
theorem LSR.sR {ρ : Sg} {i c i' j : Nat} {v : Option Nat} {st : LSt} (h : LSR ρ i st) : LSR (sR ρ c i' j v) i st := sorry
theorem LSR.sI {ρ : Sg} {i c i' j : Nat} {v : Int32} {st : LSt} (hc : 1803 < c) (h : LSR ρ i st) : LSR (sI ρ c i' j v) i st := sorry
theorem MR.look {ρ : Sg} {i : Nat} {st : LSt} {f t : Option Nat} {lk : List Nat} (h : MR ρ i st f t lk) (k : Nat) : MR (sR (sI ρ 1807 i 0 (nI (lk.length + 1))) 1806 i lk.length (some k)) i st f t (lk ++ [k]) := sorry
theorem MR.found {ρ : Sg} {i : Nat} {st : LSt} {f t : Option Nat} {lk : List Nat} (h : MR ρ i st f t lk) (f' : Option Nat) : MR (sR ρ 1804 i 0 f') i st f' t lk := sorry
theorem MR.targ {ρ : Sg} {i : Nat} {st : LSt} {f t : Option Nat} {lk : List Nat} (h : MR ρ i st f t lk) (t' : Option Nat) : MR (sR ρ 1805 i 0 t') i st f t' lk := sorry
theorem MR.lets {ρ τ : Sg} {i : Nat} {st st' : LSt} {f t : Option Nat} {lk : List Nat} (h : MR ρ i st f t lk) (h' : LSR τ i st') : MR (mix (pKH i) ρ τ) i st' f t lk := sorry
theorem MR.load {ρ τ : Sg} {i : Nat} {st st' : LSt} {f t : Option Nat} {lk : List Nat} (h : MR ρ i st f t lk) (h' : LSR τ i st') : MR (mix (pK i) ρ τ) i st' f t lk := sorry
theorem MR.world {ρ τ : Sg} {i : Nat} {st : LSt} {f t : Option Nat} {lk : List Nat} (h : MR ρ i st f t lk) : MR (mix pW ρ τ) i st f t lk := sorry
theorem wNsL_st {σ : Sg} {k : Nat} {st : LSt} : wNsL (stat σ) k st = wNsL σ k st := sorry
theorem mLts_st {σ : Sg} {w a c m x na nc : Nat} : mLts (stat σ) w a c m x na nc = mLts σ w a c m x na nc := sorry
theorem lLts_st {σ : Sg} {a c m x : Nat} {st : LSt} : lLts (stat σ) a c m x st = lLts σ a c m x st := sorry
theorem lLts_mix {p : Nat → Nat → Bool} {σ ρ : Sg} (h : ∀ c i, sc c = true → p c i = false) {a c m x : Nat} {st : LSt} : lLts (mix p σ ρ) a c m x st = lLts σ a c m x st := sorry
theorem lLts_p {σ : Sg} (hW : WOK σ 0) (hN : WNO σ) {a c m x : Nat} {st : LSt} (hL : LOK st) (hC : LCL σ st) : LOK (lLts σ a c m x st).2 ∧ LCL σ (lLts σ a c m x st).2 ∧ ∀ j, st.1 j ≠ 0 → (lLts σ a c m x st).2.1 j = st.1 j := sorry
noncomputable def wIll (σ : Sg) (k : Nat) : Bool := decide (k = 193) || wHb σ 0 k 193
noncomputable def ftd2 (σ : Sg) (u t : Nat) (r : Int32 × LSt) : Int32 × LSt := if r.1 ≤ 0 then (match wFind σ 0 (σ.L 1702 u 0) with
  | none => (0, r.2)
  | some s => (if s = t ∨ wHb σ 0 s t = true then 0 else 11, r.2)) else r
noncomputable def ftd1 (σ : Sg) (u : Nat) (r : Int32 × LSt) : Int32 × LSt := if r.1 ≤ 0 then (match wFind σ 0 (σ.L 1703 u 0) with
  | none => (0, r.2)
  | some t => if σ.B 1102 t 0 = true then (0, r.2) else ftd2 σ u t (wLn σ (σ.L 1702 u 0) r.2)) else r
/-- what a fit comes to -/
noncomputable def ftd (σ : Sg) (u : Nat) (st : LSt) : Int32 × LSt := ftd1 σ u (wLn σ (σ.L 1703 u 0) st)
noncomputable def cbc1 (σ : Sg) (u : Nat) (r : Int32 × LSt) : Int32 × LSt := if r.1 ≤ 0 then (match wFind σ 0 (σ.L 1702 u 0) with
  | none => (0, r.2)
  | some s => (if wIll σ s = true then 0 else 11, r.2)) else r
noncomputable def cbc (σ : Sg) (u : Nat) (st : LSt) : Int32 × LSt := cbc1 σ u (wLn σ (σ.L 1702 u 0) st)
def cpd1 (σ : Sg) (u : Nat) (m : Option Nat) : Int32 := match m with
  | none => 17
  | some m => if σ.B 1212 m 0 = true ∧ σ.I 1213 m 0 = σ.I 1213 (6402 + u) 0 then 0 else 17
def cpd (σ : Sg) (u : Nat) : Int32 := match wFind σ 0 (σ.L 1702 u 0) with
  | none => 17
  | some c => cpd1 σ u (wFld σ 0 c (σ.L 1201 (6402 + u) 0) 1)
theorem lt7 {u : Nat} (h : u < cnt 7) : 6402 + u < cnt 2 := sorry
section SPQ
variable {l : Launch} {G : Gl} {τ : Sg}
theorem sp_X8_isIll (hG : GOK G) {d i k : Nat} (hd : 4 ≤ d) (hi : i < cnt 8) (hW : WOK τ 0) (hS : Shp τ) (hk : k < cnt 1) : CT l G yX8_isIll (ws_ yX8_isIll cX8_isIll 2 (some .boolean)) d [.ref (G.adr 8 i), rv G 1 (some k)] τ (rZ (wIll τ k) (fun s => ∃ ρ, s = mix pH τ ρ)) := sorry
theorem sp_X8_fitted (hG : GOK G) {d i u : Nat} (hd : 135 ≤ d) (hi : i < cnt 8) (hW : WOK τ 0) (hS : Shp τ) (hN : WNO τ) (hu : u < cnt 7) {st : LSt} (hL : LOK st) (hC : LCL τ st) (hf : LSR τ i st) : CT l G yX8_fitted (ws_ yX8_fitted cX8_fitted 5 (some .int)) d [.ref (G.adr 8 i), rv G 7 (some u)] τ (rI (ftd τ u st).1 (fun s => ∃ ρ, s = mix (pKH i) τ ρ ∧ LSR ρ i (ftd τ u st).2)) := sorry
theorem sp_X8_canBeCaught (hG : GOK G) {d i u : Nat} (hd : 135 ≤ d) (hi : i < cnt 8) (hW : WOK τ 0) (hS : Shp τ) (hN : WNO τ) (hu : u < cnt 7) {st : LSt} (hL : LOK st) (hC : LCL τ st) (hf : LSR τ i st) : CT l G yX8_canBeCaught (ws_ yX8_canBeCaught cX8_canBeCaught 3 (some .int)) d [.ref (G.adr 8 i), rv G 7 (some u)] τ (rI (cbc τ u st).1 (fun s => ∃ ρ, s = mix (pKH i) τ ρ ∧ LSR ρ i (cbc τ u st).2)) := sorry
theorem sp_X8_copied (hG : GOK G) {d i u : Nat} (hd : 69 ≤ d) (hi : i < cnt 8) (hW : WOK τ 0) (hS : Shp τ) (hu : u < cnt 7) : CT l G yX8_copied (ws_ yX8_copied cX8_copied 4 (some .int)) d [.ref (G.adr 8 i), rv G 7 (some u)] τ (rI (cpd τ u) (fun s => ∃ ρ, s = mix pL τ ρ)) := sorry
end SPQ
