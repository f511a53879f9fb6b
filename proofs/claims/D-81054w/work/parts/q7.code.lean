/-! A made build in LinkHouse: the code of its members is that of their trees. -/
section QCD
variable {τ τ0 τ1 τ2 s u : Sg} {B : Nat → Nat} {n L r b i j k m : Nat} {cs : List CRc} {P : Pg} {z : Tr × Lcs × Nat} {x0 : Tr}
/-- the maker above has no params -/
theorem md_pm (hz : bdJ τ k m x0 = .ok z) (h2 : τ.I 1200 m 0 = 2) (ht : tlS x0 = false) : pmL τ (mdM τ k) = [] := sorry
theorem mkCd_ln {X : Tr} {ix ix' : Us → Int32} : (mkCd τ k m X ix).length = (mkCd τ k m X ix').length := sorry
/-- a tree that is none is read as -2 -/
theorem LTr_lf {T : Nat → Tk} {lo hi : Nat} {v : Int32} : ∀ {x : Tr}, LTr τ T L x lo hi v → (isLf x = true ↔ v = -2) := sorry
/-- the fields that are laid first -/
theorem Mde.isf (h : Mde τ0 τ1 τ2 s u B n L r b cs) (hP : PgB τ2 b cs P) (hi : i < cs.length) (hj : j < nMe (t3 τ2 b cs) (12 * b + i)) : (s.I 1200 (33 * (12 * b + i) + j) 0 = 0 ∧ s.B 1203 (33 * (12 * b + i) + j) 0 = false ∧ rLf (P.1 (33 * (12 * b + i) + j)) = false) ↔ isFs (t3 τ2 b cs) (33 * (12 * b + i) + j) = true := sorry
theorem Mde.fsr (h : Mde τ0 τ1 τ2 s u B n L r b cs) (hP : PgB τ2 b cs P) (hi : i < cs.length) : fsR s P (12 * b + i) (nMe s (12 * b + i)) 0 = fsW (t3 τ2 b cs) (12 * b + i) := sorry
end QCD
