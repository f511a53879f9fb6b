/-! A formal snapshot: makers laid, and bridges as Bf says. -/
def xP (τ : Sg) (Bf : Nat → BrL) (c j : Nat) : Option (Nat × Int64) := if tmT τ c ≤ j then (Bf c)[j - tmT τ c]? else none
/-- the members that are not told, of the classes of b -/
def xIn (τ : Sg) (b nk x y : Nat) : Bool := decide (1199 < x ∧ x ≤ 1222 ∧ 12 * b ≤ y / 33 ∧ y / 33 < 12 * b + nk ∧ nMe τ (y / 33) ≤ y % 33)
def xCl (b nk x y : Nat) : Bool := decide ((x = 1117 ∨ x = 1118) ∧ 12 * b ≤ y ∧ y < 12 * b + nk)
def xS (τ : Sg) (b nk : Nat) (Bf : Nat → BrL) : Sg := (fun x y z => if xCl b nk x y = true then (if x = 1117 then nI (tmT τ y + (Bf y).length) else nI (Bf y).length) else if xIn τ b nk x y = true then (match xP τ Bf (y / 33) (y % 33) with
    | some p => nwI 1 (τ.I 1202 p.1 0) (τ.I 1208 p.1 0) x
    | none => nwI 2 (if τ.B 1103 (y / 33) 0 = true then 3 else 1) 0 x) else τ.1 x y z,
  fun x y z => if xIn τ b nk x y = true then (match xP τ Bf (y / 33) (y % 33) with
    | some p => nwB (τ.B 1203 p.1 0) true x
    | none => nwB false false x) else τ.2.1 x y z,
  fun x y z => if xIn τ b nk x y = true then (match xP τ Bf (y / 33) (y % 33) with
    | some p => if x = 1209 then τ.L 1209 p.1 z else nwL (τ.L 1201 p.1 0) p.2 x
    | none => nwL 0 0 x) else τ.2.2.1 x y z,
  fun x y z => if xIn τ b nk x y = true then some (y / 33) else τ.2.2.2 x y z)
section XS
variable {τ : Sg} {b nk : Nat} {Bf : Nat → BrL} {c j x y z : Nat}
theorem xS_out (h1 : xCl b nk x y = false) (h2 : xIn τ b nk x y = false) : (xS τ b nk Bf).I x y z = τ.I x y z ∧ (xS τ b nk Bf).B x y z = τ.B x y z ∧ (xS τ b nk Bf).L x y z = τ.L x y z ∧ (xS τ b nk Bf).R x y z = τ.R x y z := sorry
theorem xIn_no (h : ¬ (1199 < x ∧ x ≤ 1222)) : xIn τ b nk x y = false := sorry
theorem xCl_no (h : ¬ (x = 1117 ∨ x = 1118)) : xCl b nk x y = false := sorry
theorem xIn_t (hj : j < nMe τ c) (h33 : nMe τ c ≤ 33) : xIn τ b nk x (33 * c + j) = false := sorry
theorem xIn_y (hc : 12 * b ≤ c ∧ c < 12 * b + nk) (hj : nMe τ c ≤ j ∧ j < 33) (hx : 1199 < x ∧ x ≤ 1222) : xIn τ b nk x (33 * c + j) = true := sorry
theorem xS_sx : stP sx (xS τ b nk Bf) = stP sx τ := sorry
theorem xS_17 (hc : 12 * b ≤ c ∧ c < 12 * b + nk) : (xS τ b nk Bf).I 1117 c 0 = nI (tmT τ c + (Bf c).length) ∧ (xS τ b nk Bf).I 1118 c 0 = nI (Bf c).length := sorry
theorem xS_17n (hc : ¬ (12 * b ≤ c ∧ c < 12 * b + nk)) : (xS τ b nk Bf).I 1117 c 0 = τ.I 1117 c 0 := sorry
/-- a column of a member that is not told -/
theorem xS_mI (hc : 12 * b ≤ c ∧ c < 12 * b + nk) (hj : nMe τ c ≤ j ∧ j < 33) (hx : 1199 < x ∧ x ≤ 1222) : (xS τ b nk Bf).I x (33 * c + j) z = (match xP τ Bf c j with
    | some p => nwI 1 (τ.I 1202 p.1 0) (τ.I 1208 p.1 0) x
    | none => nwI 2 (if τ.B 1103 c 0 = true then 3 else 1) 0 x) := sorry
theorem xS_mB (hc : 12 * b ≤ c ∧ c < 12 * b + nk) (hj : nMe τ c ≤ j ∧ j < 33) (hx : 1199 < x ∧ x ≤ 1222) : (xS τ b nk Bf).B x (33 * c + j) z = (match xP τ Bf c j with
    | some p => nwB (τ.B 1203 p.1 0) true x
    | none => nwB false false x) := sorry
theorem xS_mL (hc : 12 * b ≤ c ∧ c < 12 * b + nk) (hj : nMe τ c ≤ j ∧ j < 33) (hx : 1199 < x ∧ x ≤ 1222) : (xS τ b nk Bf).L x (33 * c + j) z = (match xP τ Bf c j with
    | some p => if x = 1209 then τ.L 1209 p.1 z else nwL (τ.L 1201 p.1 0) p.2 x
    | none => nwL 0 0 x) := sorry
theorem xS_mR (hc : 12 * b ≤ c ∧ c < 12 * b + nk) (hj : nMe τ c ≤ j ∧ j < 33) : (xS τ b nk Bf).R 1222 (33 * c + j) z = some c := sorry
theorem xS_nMe (hc : 12 * b ≤ c ∧ c < 12 * b + nk) (h20 : nMe τ c ≤ 20) (hB : (Bf c).length ≤ 12) : nMe (xS τ b nk Bf) c = tmT τ c + (Bf c).length := sorry
theorem xS_ex (hS : Shp τ) (h20 : ∀ c, 12 * b ≤ c ∧ c < 12 * b + nk → nMe τ c ≤ 20) (hB : ∀ c, (Bf c).length ≤ 12) : ExM τ (xS τ b nk Bf) := sorry
end XS
