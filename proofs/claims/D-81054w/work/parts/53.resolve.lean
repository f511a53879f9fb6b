/-! Linker: fieldOf, called, resolve -/
theorem bI_in2 {a b : Bool} (h : bI a = bI b) : a = b := sorry
theorem sub_LM {i : Nat} (c i' : Nat) (h : pL c i' = true) : pM i c i' = true := sorry
theorem sub_FM {i : Nat} (c i' : Nat) (h : pF c i' = true) : pM i c i' = true := sorry
theorem cl0 : (0 : Int32).toNatClampNeg = 0 := sorry
/-- looking upwards for a method: where, what -/
def lkU (σ : Sg) (as : Nat) : List Nat → List Nat × Option Nat
  | [] => ([], none)
  | c :: cs => match kMet σ c as with
    | some m => ([c], some m)
    | none => (c :: (lkU σ as cs).1, (lkU σ as cs).2)
/-- the first method of objects of a row of faces, if there is none yet -/
def fsO (σ : Sg) (as : Nat) : List Nat → Option Nat → Option Nat
  | [], f => f
  | x :: xs, some m => fsO σ as xs (some m)
  | x :: xs, none => match kMet σ x as with
    | none => fsO σ as xs none
    | some m => if mObj σ m = true then fsO σ as xs (some m) else fsO σ as xs none
/-- the method that is found, where it was looked for -/
noncomputable def clF (σ : Sg) (as c : Nat) : Option Nat × List Nat := match (lkU σ as (wUps σ c)).2 with
  | some m => (some m, (lkU σ as (wUps σ c)).1)
  | none => (fsO σ as (wAF σ 0 c) (wMSr σ 0 c as), (lkU σ as (wUps σ c)).1 ++ wAF σ 0 c)
noncomputable def clC (σ : Sg) (u b c m : Nat) (t : Option Nat) : Int32 × Option Nat := if σ.B 1203 m 0 = decide (σ.I 1700 u 0 = 9 ∨ σ.I 1700 u 0 = 10) then (if σ.I 1700 u 0 = 11 then (match wPar σ 0 b with
  | some p => abR σ (6402 + u) p
  | none => (0, t)) else if σ.I 1700 u 0 = 12 then abR σ (6402 + u) c else (0, t)) else (3, t)
noncomputable def clR (σ : Sg) (u b c : Nat) (st : LSt) (t : Option Nat) : MT := if σ.B 1102 c 0 = decide (σ.I 1700 u 0 = 8 ∨ σ.I 1700 u 0 = 10 ∨ σ.I 1700 u 0 = 12) then (match (clF σ (6402 + u) c).1 with
  | none => (5, st, none, t, (clF σ (6402 + u) c).2)
  | some m => if (lLts σ b (mOf σ m) m c st).1 = true then ((clC σ u b c m t).1, (lLts σ b (mOf σ m) m c st).2, some m, (clC σ u b c m t).2, (clF σ (6402 + u) c).2) else (2, (lLts σ b (mOf σ m) m c st).2, some m, t, (clF σ (6402 + u) c).2)) else (3, st, none, t, [])
theorem lkU_len {σ : Sg} {as : Nat} : ∀ L : List Nat, (lkU σ as L).1.length ≤ L.length := sorry
theorem lkU_liv {σ : Sg} {as : Nat} : ∀ (L : List Nat) (m : Nat), (∀ x, x ∈ L → x < cnt 1) → (lkU σ as L).2 = some m → Liv σ m := sorry
theorem fsO_liv {σ : Sg} {as : Nat} : ∀ (L : List Nat) (f : Option Nat) (m : Nat), (∀ x, x ∈ L → x < cnt 1) → (∀ q, f = some q → Liv σ q) → fsO σ as L f = some m → Liv σ m := sorry
theorem wMSr_liv {σ : Sg} {w : Nat} (hW : WOK σ w) {k as m : Nat} (hk : k < cnt 1) (h : wMSr σ w k as = some m) : Liv σ m := sorry
theorem clF_liv {σ : Sg} (hW : WOK σ 0) {as c m : Nat} (hc : c < cnt 1) (hu : ∀ x, x ∈ wUps σ c → x < cnt 1) (h : (clF σ as c).1 = some m) : Liv σ m := sorry
/-- by the sort of a use -/
noncomputable def rs3 (σ : Sg) (u b c : Nat) (st : LSt) : MT := if (σ.I 1700 u 0).toInt = 1 then (if σ.B 1102 c 0 = true ∨ σ.B 1105 c 0 = true then 7 else 0, st, none, none, []) else if (σ.I 1700 u 0).toInt = 2 then mkR σ u b c st none none [] else if 3 ≤ (σ.I 1700 u 0).toInt ∧ (σ.I 1700 u 0).toInt ≤ 6 then flR σ u b c st none else if 13 ≤ (σ.I 1700 u 0).toInt ∧ (σ.I 1700 u 0).toInt ≤ 15 then (0, st, none, none, []) else clR σ u b c st none
noncomputable def rs2 (σ : Sg) (u b : Nat) (r : Int32 × LSt) : MT := if r.1 ≤ 0 then (match wFind σ 0 (σ.L 1702 u 0) with
  | none => (0, r.2, none, none, [])
  | some c => if σ.I 1700 u 0 = 15 ∧ wIll σ c = false then (11, r.2, none, none, []) else if kOpn σ c b = true then rs3 σ u b c r.2 else (2, r.2, none, none, [])) else (r.1, r.2, none, none, [])
noncomputable def rs1 (σ : Sg) (u b : Nat) (r : Int32 × LSt) : MT := if 0 < r.1 then (r.1, r.2, none, none, []) else if σ.I 1700 u 0 < 18 then (if σ.I 1700 u 0 = 17 then ((ftd σ u r.2).1, (ftd σ u r.2).2, none, none, []) else rs2 σ u b (wLn σ (σ.L 1702 u 0) r.2)) else (r.1, r.2, none, none, [])
/-- what a use meets -/
noncomputable def rsR (σ : Sg) (u b : Nat) (st : LSt) : MT := if σ.I 1700 u 0 = 16 then (cpd σ u, st, none, none, []) else rs1 σ u b (wLd σ b st)
section SPT
variable {l : Launch} {G : Gl} {σ : Sg}
theorem sp_X8_fieldOf (hG : GOK G) {d i u b c : Nat} (hd : 136 ≤ d) (hi : i < cnt 8) (hW : WOK σ 0) (hS : Shp σ) (hN : WNO σ) (hM : MOK σ) (hu : u < cnt 7) (hc : c < cnt 1) (hb : b < cnt 1) (hub : σ.R 1701 u 0 = some b) {st : LSt} {f t : Option Nat} {lk : List Nat} (hL : LOK st) (hC : LCL σ st) {ρ : Sg} (hr : MR ρ i st f t lk) : CT l G yX8_fieldOf (ws_ yX8_fieldOf cX8_fieldOf 4 (some .int)) d [.ref (G.adr 8 i), rv G 7 (some u), rv G 1 (some c)] (mix (pM i) σ ρ) (rI (flR σ u b c st t).1 (fun s => ∃ ρ', s = mix (pM i) σ ρ' ∧ MRt ρ' i (flR σ u b c st t))) := sorry
end SPT
