/-! Linker: maker, fieldOf, above, called, resolve -/
theorem kFld_in {σ : Sg} {q : Nat} {nm ty : Int64} {x : Nat} (h : kFld σ q nm ty = some x) : ∃ j, j < nMe σ q ∧ x = 33 * q + j := sorry
theorem kMak_in {σ : Sg} {q m x : Nat} (h : kMak σ q m = some x) : ∃ j, j < nMe σ q ∧ x = 33 * q + j := sorry
theorem fds_liv {σ : Sg} {w : Nat} (hW : WOK σ w) {nm ty : Int64} : ∀ (n k : Nat) (K : List Nat) (st : FD), k < cnt 1 → fds σ w nm ty n k K = some st → ∀ m, st.2 = some m → Liv σ m := sorry
theorem wFld_liv {σ : Sg} {w : Nat} (hW : WOK σ w) {k : Nat} (hk : k < cnt 1) {nm ty : Int64} {m : Nat} (h : wFld σ w k nm ty = some m) : Liv σ m := sorry
theorem Liv.lt {σ : Sg} (hS : Shp σ) {m : Nat} (h : Liv σ m) : m < cnt 2 := sorry
/-- code, loads, found, target, looked -/
abbrev MT : Type := Int32 × LSt × Option Nat × Option Nat × List Nat
def MRt (ρ : Sg) (i : Nat) (r : MT) : Prop := MR ρ i r.2.1 r.2.2.1 r.2.2.2.1 r.2.2.2.2
noncomputable def mkR (σ : Sg) (u b c : Nat) (st : LSt) (f t : Option Nat) (lk : List Nat) : MT := if σ.B 1102 c 0 = true then (3, st, f, t, lk) else match kMak σ c (6402 + u) with
  | none => (5, st, none, t, lk ++ [c])
  | some m => (if (lLts σ b c m c st).1 = true then 0 else 2, (lLts σ b c m c st).2, some m, t, lk ++ [c])
noncomputable def flC (σ : Sg) (u b m : Nat) : Int32 := if σ.B 1203 m 0 = decide (¬ σ.I 1700 u 0 < 5) then (if (σ.I 1700 u 0 = 4 ∨ σ.I 1700 u 0 = 6) ∧ σ.B 1204 m 0 = true ∧ ¬ mOf σ m = b then 2 else 0) else 3
noncomputable def flR (σ : Sg) (u b c : Nat) (st : LSt) (t : Option Nat) : MT := match wFld σ 0 c (σ.L 1201 (6402 + u) 0) (σ.L 1207 (6402 + u) 0) with
  | none => (4, st, none, t, wFlk σ 0 c (σ.L 1201 (6402 + u) 0) (σ.L 1207 (6402 + u) 0))
  | some m => (if (lLts σ b (mOf σ m) m c st).1 = true then flC σ u b m else 2, (lLts σ b (mOf σ m) m c st).2, some m, t, wFlk σ 0 c (σ.L 1201 (6402 + u) 0) (σ.L 1207 (6402 + u) 0))
/-- the first method of a row of parents that is not static -/
def abL (σ : Sg) (as : Nat) : List Nat → Option Nat
  | [] => none
  | c :: cs => match kMet σ c as with
    | none => abL σ as cs
    | some m => if σ.B 1203 m 0 = true then abL σ as cs else some m
/-- what a call by super comes to: code, target -/
noncomputable def abR (σ : Sg) (as k : Nat) : Int32 × Option Nat := match abL σ as (wUps σ k) with
  | some m => if σ.B 1205 m 0 = true then (6, none) else (0, some m)
  | none => match wMSr σ 0 k as with
    | none => (wMSc σ 0 k as, none)
    | some m => (0, some m)
theorem mix_cpR {p : Nat → Nat → Bool} {σ ρ : Sg} {ca ia sp cb ib dp : Nat} (h1 : p ca ia = true) (h2 : p cb ib = true) : ∀ n, cpR (mix p σ ρ) ca ia sp cb ib dp n = mix p σ (cpR ρ ca ia sp cb ib dp n) := sorry
section SPR
variable {l : Launch} {G : Gl} {σ : Sg}
theorem sp_X8_maker (hG : GOK G) {d i u b c : Nat} (hd : 136 ≤ d) (hi : i < cnt 8) (hW : WOK σ 0) (hS : Shp σ) (hN : WNO σ) (hu : u < cnt 7) (hc : c < cnt 1) (hb : b < cnt 1) (hub : σ.R 1701 u 0 = some b) {st : LSt} {f t : Option Nat} {lk : List Nat} (hL : LOK st) (hC : LCL σ st) {ρ : Sg} (hr : MR ρ i st f t lk) (hlk : lk.length < 132) : CT l G yX8_maker (ws_ yX8_maker cX8_maker 3 (some .int)) d [.ref (G.adr 8 i), rv G 7 (some u), rv G 1 (some c)] (mix (pM i) σ ρ) (rI (mkR σ u b c st f t lk).1 (fun s => ∃ ρ', s = mix (pM i) σ ρ' ∧ MRt ρ' i (mkR σ u b c st f t lk))) := sorry
theorem sp_X8_above (hG : GOK G) {d i u k : Nat} (hd : 70 ≤ d) (hi : i < cnt 8) (hW : WOK σ 0) (hS : Shp σ) (hB : BIK σ) (hu : u < cnt 7) {st : LSt} {f t : Option Nat} {lk : List Nat} (hC : LCL σ st) (hk : Ldd σ st k) {ρ : Sg} (hr : MR ρ i st f t lk) : CT l G yX8_above (ws_ yX8_above cX8_above 5 (some .int)) d [.ref (G.adr 8 i), rv G 7 (some u), rv G 1 (some k)] (mix (pM i) σ ρ) (rI (abR σ (6402 + u) k).1 (fun s => ∃ ρ', s = mix (pM i) σ ρ' ∧ MR ρ' i st f (abR σ (6402 + u) k).2 lk)) := sorry
theorem MR.copy {ρ : Sg} {i : Nat} {st : LSt} {f t : Option Nat} {lk K : List Nat} (h : MR ρ i st f t lk) (hK : Row ρ 1312 0 K) (v : Option Nat) : MR (cpR (sI (sR ρ 1804 i 0 v) 1807 i 0 (nI K.length)) 1312 0 0 1806 i 0 K.length) i st v t K := sorry
end SPR
