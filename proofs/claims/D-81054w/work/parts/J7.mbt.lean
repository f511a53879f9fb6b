/-! Judging, the model: the bridges of all classes, tools. -/
theorem brO_P {τ : Sg} {k m o : Nat} {Bs Bs' : BrL} {P : Int64 → Prop} (h : brO τ k m Bs o = .ok Bs') (hB : ∀ p, p ∈ Bs → P p.2) (ho : P (τ.L 1207 o 0)) : ∀ p, p ∈ Bs' → P p.2 := sorry
theorem brF_P {τ : Sg} {k m : Nat} {P : Int64 → Prop} : ∀ (xs : List Nat) (Bs Bs' : BrL), brF τ k m xs Bs = .ok Bs' → (∀ p, p ∈ Bs → P p.2) → (∀ o, o ∈ xs → P (τ.L 1207 o 0)) → ∀ p, p ∈ Bs' → P p.2 := sorry
theorem brAm_P {τ : Sg} {k : Nat} {P : Int64 → Prop} (ho : ∀ m o, o ∈ AbL τ k m → P (τ.L 1207 o 0)) : ∀ (n j : Nat) (Bs Bs' : BrL), brAm τ k n j Bs = .ok Bs' → (∀ p, p ∈ Bs → P p.2) → ∀ p, p ∈ Bs' → P p.2 := sorry
/-- the maker's columns of class c in the model -/
def MKx (τ s : Sg) (c : Nat) : Prop := needM τ c = true → (s.I 2142 0 (34 * cM c + nMe τ c) = 2 ∧ s.I 2143 0 (34 * cM c + nMe τ c) = 0 ∧ s.I 2144 0 (34 * cM c + nMe τ c) = (if τ.B 1103 c 0 = true then 3 else 1) ∧ s.I 2155 0 (34 * cM c + nMe τ c) = 0 ∧ s.I 2160 0 (34 * cM c + nMe τ c) = (-2) ∧ s.I 2161 0 (34 * cM c + nMe τ c) = (-2) ∧ s.I 2165 0 (34 * cM c + nMe τ c) = 0 ∧ s.I 2152 0 (34 * cM c + nMe τ c) = s.I 2125 0 (cM c)) ∧ (s.B 2145 0 (34 * cM c + nMe τ c) = false ∧ s.B 2146 0 (34 * cM c + nMe τ c) = false ∧ s.B 2147 0 (34 * cM c + nMe τ c) = false ∧ s.B 2148 0 (34 * cM c + nMe τ c) = false ∧ s.B 2149 0 (34 * cM c + nMe τ c) = false ∧ s.B 2150 0 (34 * cM c + nMe τ c) = true ∧ s.B 2164 0 (34 * cM c + nMe τ c) = false) ∧ s.L 2151 0 (34 * cM c + nMe τ c) = 0 ∧ s.L 2153 0 (34 * cM c + nMe τ c) = 1 ∧ s.I 2168 0 (34 * cM c + nMe τ c) = 0
theorem MKx.fj {τ s u : Sg} {c : Nat} {p : Nat → Nat → Bool} (h : MKx τ s c) (hF : FJ p s u) (h25 : p 2125 (cM c) = false) (hp : needM τ c = true → ∀ x, 2141 < x → x ≤ 2168 → ¬ (2155 < x ∧ x ≤ 2159) → p x (34 * cM c + nMe τ c) = false) : MKx τ u c := sorry
section XS
variable {τ s : Sg} {b nk : Nat} {Bf : Nat → BrL} {c : Nat}
theorem MM_mk2 (hc : 12 * b ≤ c ∧ c < 12 * b + nk) (hb : b < 16) (hnk : nk ≤ 12) (h20 : nMe τ c ≤ 20) (nd : needM τ c = true) (h : MKx τ s c) : MM (xS τ b nk Bf) s (33 * c + nMe τ c) (34 * cM c + nMe τ c) := sorry
end XS
/-- class c of the model with its maker and its bridges -/
def MK7 (τ s : Sg) (c : Nat) (Bs : BrL) : Prop := s.I 2141 0 (cM c) = nI (tmT τ c + Bs.length) ∧ MKx τ s c ∧ ∀ i p, Bs[i]? = some p → NMq τ s (34 * cM c + (tmT τ c + i)) p.1 p.2
theorem MK7.fj {τ s u : Sg} {c : Nat} {Bs : BrL} {p : Nat → Nat → Bool} (h : MK7 τ s c Bs) (hF : FJ p s u) (hT : nMe τ c ≤ 33 ∧ tmT τ c + Bs.length ≤ 34) (h41 : p 2141 (cM c) = false) (h25 : p 2125 (cM c) = false) (hp : ∀ x j, 2141 < x → x ≤ 2168 → ¬ (2155 < x ∧ x ≤ 2159) → j < 34 → p x (34 * cM c + j) = false) (hp2 : ∀ j, j < 136 → p 2156 (4 * (34 * cM c) + j) = false) : MK7 τ u c Bs := sorry
/-- a bridge from a told method -/
theorem NMq_told {τ σ s : Sg} {c j q : Nat} {t : Int64} (hE : ExM τ σ) (hc : c < 194) (hj : j < nMe τ c) (h : NMq σ s q (33 * c + j) t) : NMq τ s q (33 * c + j) t := sorry
/-- faults, marks, rows; members that are not told, of the classes of b -/
def pQb (τ : Sg) (b nk x j : Nat) : Bool := pAg x j || pMq τ b nk x j
theorem pQb_iff {τ : Sg} {b nk x j : Nat} : pQb τ b nk x j = true ↔ pAg x j = true ∨ pMq τ b nk x j = true := sorry
theorem pQb_no {τ : Sg} {b nk x j : Nat} (h : x ≤ 2119 ∨ (2121 < x ∧ x ≤ 2140) ∨ (2168 < x ∧ x ≤ 2192) ∨ (2196 < x ∧ x ≤ 2202) ∨ 2205 < x) : pQb τ b nk x j = false := sorry
theorem pQb_t {τ : Sg} {b nk c x j : Nat} (hj : j < nMe τ c) (h33 : nMe τ c ≤ 33) (hx : 2141 < x ∧ x ≤ 2168) (hx3 : ¬ (2155 < x ∧ x ≤ 2159)) : pQb τ b nk x (34 * c + j) = false := sorry
theorem pQb_t4 {τ : Sg} {b nk c j z : Nat} (hj : j < nMe τ c) (h33 : nMe τ c ≤ 33) (hz : z < 4) : pQb τ b nk 2156 (4 * (34 * c + j) + z) = false := sorry
/-- a class of another build -/
theorem pQb_o {τ : Sg} {b nk C x j : Nat} (hC : ¬ (12 * b ≤ C ∧ C < 12 * b + nk)) (hx : 2141 < x ∧ x ≤ 2168) (hx3 : ¬ (2155 < x ∧ x ≤ 2159)) (hj : j < 34) : pQb τ b nk x (34 * C + j) = false := sorry
theorem pQb_o4 {τ : Sg} {b nk C j z : Nat} (hC : ¬ (12 * b ≤ C ∧ C < 12 * b + nk)) (hj : j < 34) (hz : z < 4) : pQb τ b nk 2156 (4 * (34 * C + j) + z) = false := sorry
theorem pQb_o1 {τ : Sg} {b nk C : Nat} (hC : ¬ (12 * b ≤ C ∧ C < 12 * b + nk)) : pQb τ b nk 2141 C = false := sorry
theorem pBm_pQb {τ : Sg} {b nk c T : Nat} (hc : 12 * b ≤ c ∧ c < 12 * b + nk) (hT : nMe τ c ≤ T ∧ T + 12 ≤ 34) : ∀ x j, pBm c T 12 x j = true → pQb τ b nk x j = true := sorry
