/-! LinkHouse: meet, broken, stale -/
/-- uses by a class of the world -/
def UWI (σ : Sg) : Prop := ∀ b, b < hN σ → ∀ v, v < hUs σ b → ¬ σ.I 1128 (uBy σ (1000 * b + v)) 0 = (-2) → uBy σ (1000 * b + v) ∈ wKs σ 0 ∧ (σ.I 1700 (1000 * b + v) 0 = 11 → σ.B 1102 (uBy σ (1000 * b + v)) 0 = false ∧ ¬ σ.L 1100 (uBy σ (1000 * b + v)) 0 = 6927257 ∧ ¬ σ.I 1101 (uBy σ (1000 * b + v)) 0 = 26)
/-- what holds of the world and the builds -/
def WI (σ : Sg) : Prop := WOK σ 0 ∧ Shp σ ∧ WNO σ ∧ MOK σ ∧ BIK σ ∧ HOK σ ∧ UBY σ ∧ UWI σ
/-- a use is met, nothing being loaded -/
noncomputable def hRs (σ : Sg) (u : Nat) : MT := rsR σ u (uBy σ u) LS0
def pQ (c i : Nat) : Bool := pM 0 c i || rg 1020 1024 c
theorem sub_MQ (c i : Nat) (h : pM 0 c i = true) : pQ c i = true := sorry
theorem mixQ_M {σ ρ : Sg} : mix (pM 0) σ ρ = mix pQ σ (mix (pM 0) σ ρ) := sorry
theorem ftd_st {σ : Sg} {u : Nat} {st : LSt} : ftd (stat σ) u st = ftd σ u st := sorry
theorem wFld_st {σ : Sg} {w k : Nat} {nm ty : Int64} : wFld (stat σ) w k nm ty = wFld σ w k nm ty := sorry
theorem wFlk_st {σ : Sg} {w k : Nat} {nm ty : Int64} : wFlk (stat σ) w k nm ty = wFlk σ w k nm ty := sorry
theorem cpd_st {σ : Sg} {u : Nat} : cpd (stat σ) u = cpd σ u := sorry
theorem mkR_st {σ : Sg} {u b c : Nat} {st : LSt} {f t : Option Nat} {lk : List Nat} : mkR (stat σ) u b c st f t lk = mkR σ u b c st f t lk := sorry
theorem flR_st {σ : Sg} {u b c : Nat} {st : LSt} {t : Option Nat} : flR (stat σ) u b c st t = flR σ u b c st t := sorry
theorem wUps_st {σ : Sg} {k : Nat} : wUps (stat σ) k = wUps σ k := sorry
theorem abL_st {σ : Sg} {as : Nat} : ∀ L, abL (stat σ) as L = abL σ as L := sorry
theorem abR_st {σ : Sg} {as k : Nat} : abR (stat σ) as k = abR σ as k := sorry
theorem lkU_st {σ : Sg} {as : Nat} : ∀ L, lkU (stat σ) as L = lkU σ as L := sorry
theorem fsO_st {σ : Sg} {as : Nat} : ∀ L f, fsO (stat σ) as L f = fsO σ as L f := sorry
theorem clF_st {σ : Sg} {as c : Nat} : clF (stat σ) as c = clF σ as c := sorry
theorem clC_st {σ : Sg} {u b c m : Nat} {t : Option Nat} : clC (stat σ) u b c m t = clC σ u b c m t := sorry
theorem clR_st {σ : Sg} {u b c : Nat} {st : LSt} {t : Option Nat} : clR (stat σ) u b c st t = clR σ u b c st t := sorry
theorem rs3_st {σ : Sg} {u b c : Nat} {st : LSt} : rs3 (stat σ) u b c st = rs3 σ u b c st := sorry
theorem rs2_st {σ : Sg} {u b : Nat} {r : Int32 × LSt} : rs2 (stat σ) u b r = rs2 σ u b r := sorry
theorem rs1_st {σ : Sg} {u b : Nat} {r : Int32 × LSt} : rs1 (stat σ) u b r = rs1 σ u b r := sorry
theorem rsR_st {σ : Sg} {u b : Nat} {st : LSt} : rsR (stat σ) u b st = rsR σ u b st := sorry
theorem rsR_mix {p : Nat → Nat → Bool} {σ ρ : Sg} (h : ∀ c i, sc c = true → p c i = false) {u b : Nat} {st : LSt} : rsR (mix p σ ρ) u b st = rsR σ u b st := sorry
theorem sc_u {c : Nat} (h : sc c = true) : c ≤ 1303 ∨ c ≤ 1704 := sorry
theorem mix_KM {σ ρ τ : Sg} : mix (pM 0) (mix (pK 0) σ ρ) τ = mix (pM 0) σ τ := sorry
theorem mix_MQ {σ ρ τ : Sg} : mix (pM 0) (mix pQ σ ρ) τ = mix pQ σ (mix (pM 0) ρ τ) := sorry
section SPZ
variable {l : Launch} {G : Gl} {σ : Sg}
/-- begin, then resolve -/
theorem sp_br (hG : GOK G) {d b v : Nat} (hd : 138 ≤ d) (hI : WI σ) (hb : b < hN σ) (hv : v < hUs σ b) (hin : ¬ σ.I 1128 (uBy σ (1000 * b + v)) 0 = (-2)) {ρ : Sg} (hf : LSR ρ 0 LS0) : CT l G yX8_resolve (ws_ yX8_resolve cX8_resolve 5 (some .int)) d [.ref (G.adr 8 0), rv G 7 (some (1000 * b + v))] (mix (pK 0) σ ρ) (rI (hRs σ (1000 * b + v)).1 (fun s => ∃ ρ', s = mix (pM 0) σ ρ' ∧ MRt ρ' 0 (hRs σ (1000 * b + v)))) := sorry
/-- what meet gives -/
noncomputable def a_meet (σ : Sg) (x1 x2 x3 : Int32) : Int32 := if 0 ≤ hMt σ x1 x2 x3 then (match hU σ x1 x2 x3 with
  | none => 0
  | some u => (hRs σ u).1) else hMt σ x1 x2 x3
/-- what meet leaves: the member found, the sort, where it was looked -/
def MtS (σ ρ : Sg) (u : Nat) (r : MT) : Prop := ρ.R 1021 0 0 = (if σ.I 1700 u 0 = 11 ∨ σ.I 1700 u 0 = 12 then r.2.2.2.1 else r.2.2.1) ∧ ρ.I 1022 0 0 = σ.I 1700 u 0 ∧ ρ.I 1024 0 0 = nI r.2.2.2.2.length ∧ ∀ j, j < r.2.2.2.2.length → some (ρ.I 1023 0 j) = (r.2.2.2.2[j]?).map (fun k => σ.I 1128 k 0)
end SPZ
