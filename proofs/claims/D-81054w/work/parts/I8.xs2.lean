/-! The formal snapshot: its members, shapes, bridges. -/
section XS
variable {τ : Sg} {b nk : Nat} {Bf : Nat → BrL} {c j : Nat}
/-- the bridges of Bf are from told methods -/
def BfK (τ : Sg) (b nk : Nat) (Bf : Nat → BrL) : Prop := ∀ c, (Bf c).length ≤ 12 ∧ (12 * b ≤ c ∧ c < 12 * b + nk → ∀ p, p ∈ Bf c → ∃ j, j < nMe τ c ∧ p.1 = 33 * c + j ∧ τ.I 1200 p.1 0 = 1)
theorem xS_mk (hc : 12 * b ≤ c ∧ c < 12 * b + nk) (h20 : nMe τ c ≤ 20) (nd : needM τ c = true) : MB (xS τ b nk Bf) (33 * c + nMe τ c) c (nwI 2 (if τ.B 1103 c 0 = true then 3 else 1) 0) (nwB false false) (nwL 0 0) (-2) (-2) (-2) := sorry
theorem xS_br (hc : 12 * b ≤ c ∧ c < 12 * b + nk) (h20 : nMe τ c ≤ 20) (hB : (Bf c).length ≤ 12) {i : Nat} {p : Nat × Int64} (hp : (Bf c)[i]? = some p) : NBf τ (xS τ b nk Bf) c (33 * c + (tmT τ c + i)) p.1 p.2 := sorry
theorem xS_shp (hS : Shp τ) (hb : b < 16) (hnk : nk ≤ 12) (h20 : ∀ c, 12 * b ≤ c ∧ c < 12 * b + nk → nMe τ c ≤ 20) (hK : BfK τ b nk Bf) : Shp (xS τ b nk Bf) := sorry
theorem xS_wok (hW : WOK τ 1) : WOK (xS τ b nk Bf) 1 := sorry
theorem xS_of (hS : Shp τ) (h20 : ∀ c, 12 * b ≤ c ∧ c < 12 * b + nk → nMe τ c ≤ 20) (hB : ∀ c, (Bf c).length ≤ 12) (hc : c < 194) (ho : OfK τ c) : OfK (xS τ b nk Bf) c := sorry
/-- a class whose bridges did not come yet -/
theorem xS_lmk (hc : 12 * b ≤ c ∧ c < 12 * b + nk) (h20 : nMe τ c ≤ 20) (hE : Bf c = []) : LMk τ (xS τ b nk Bf) c := sorry
end XS
