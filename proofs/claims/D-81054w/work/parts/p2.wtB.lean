/-! Bridges are well typed. -/
section WTB
variable {s : Sg} {P : Pg} {k m u v : Nat} {UF : List Us}
theorem wtFt_br (H : ∀ r, r ∈ UF → r.1 = k → ∃ u, UseAt s k u r) {t w : Int64} (hf : ∀ r, r ∈ fitU k t w → r ∈ UF) (h : t = w ∨ t = 2 ∨ (TyC t ∧ TyC w)) : wtFt s k t w := sorry
theorem wtB_of {nm ty : Int64} (hr : UseAt s k u (k, v, s.L 1100 k 0, 0, nm, ty, pmL s m, 0)) (hv : v = (if s.B 1102 k 0 = true then 8 else 7) + (if s.B 1203 m 0 = true then 2 else 0)) (h1 : s.I 1200 m 0 = 1) (h5 : s.B 1205 m 0 = false) (hbr : s.B 1206 m 0 = true) (hP : P.2 m = u + 1) (hf : wtFt s k ty (s.L 1207 m 0)) (h0 : ¬ s.L 1207 m 0 = 0) (ht : ¬ ty = 0) : wtM s P k m := sorry
end WTB
