/-! A given maker and a bridge: LinkHouse's snapshot and the model's tables agree. -/
section XS
variable {τ s : Sg} {b nk : Nat} {Bf : Nat → BrL} {c : Nat}
theorem MM_mk (hc : 12 * b ≤ c ∧ c < 12 * b + nk) (hb : b < 16) (hnk : nk ≤ 12) (h20 : nMe τ c ≤ 20) (nd : needM τ c = true) (h : MKk τ s c) : MM (xS τ b nk Bf) s (33 * c + nMe τ c) (34 * cM c + nMe τ c) := sorry
theorem MM_br {i : Nat} {p : Nat × Int64} (hc : 12 * b ≤ c ∧ c < 12 * b + nk) (hb : b < 16) (hnk : nk ≤ 12) (hS : Shp τ) (h20 : nMe τ c ≤ 20) (hB : (Bf c).length ≤ 12) (hp : (Bf c)[i]? = some p) (h : NMq τ s (34 * cM c + (tmT τ c + i)) p.1 p.2) (hpt : ∃ j, j < nMe τ c ∧ p.1 = 33 * c + j ∧ τ.I 1200 p.1 0 = 1) : MM (xS τ b nk Bf) s (33 * c + (tmT τ c + i)) (34 * cM c + (tmT τ c + i)) := sorry
end XS
