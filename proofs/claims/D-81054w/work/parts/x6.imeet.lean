/-! THE HOUSE: meet keeps the invariant. -/
def pQe (c i : Nat) : Bool := pQc c i || (decide (c = 2151) || (decide (c = 2153) || (decide (c = 2155) || (decide (c = 2156) || decide (c = 2192)))))
theorem pQe_no {c i : Nat} (h : (c ≤ 2192 ∨ (2202 < c ∧ c ≤ 2231) ∨ (2236 < c ∧ c ≤ 2239) ∨ (2243 < c ∧ c ≤ 2247) ∨ 2273 < c) ∧ ¬ c = 2151 ∧ ¬ c = 2153 ∧ ¬ c = 2155 ∧ ¬ c = 2156 ∧ ¬ c = 2192) : pQe c i = false := sorry
theorem FQm.fe {s t : Sg} (h : FQm s t) : Fl pQe s t := sorry
section IMT
variable {l : Launch} {G : Gl} {d n : Nat} {s t u : Sg} {P : Pg} {M : MSt} {τ : Sg}
theorem MMm.cg (h : MMm τ s M) (e32 : ∀ j, j < 64 → t.I 2232 0 j = s.I 2232 0 j ∧ t.I 2233 0 j = s.I 2233 0 j) (e34 : t.I 2234 0 0 = s.I 2234 0 0) (e35 : ∀ j, t.I 2235 0 j = s.I 2235 0 j) (e36 : t.I 2236 0 0 = s.I 2236 0 0) (e92 : t.B 2192 0 0 = s.B 2192 0 0) (eC : ∀ c j, 2247 < c → c ≤ 2273 → t.I c 0 j = s.I c 0 j) : MMm τ t M := sorry
theorem pMt_b (c i : Nat) (h : bKc c = true) : pMt c i = false := sorry
theorem pMt_wr : wrC pMt := sorry
theorem sc_r {c : Nat} (h : sc c = true) : (1099 < c ∧ c ≤ 1303) ∨ (1699 < c ∧ c ≤ 1704) := sorry
theorem pMt_ma : maC pMt := sorry
/-- where the last answers lie -/
def p37 (c _i : Nat) : Bool := rg 2236 2239 c
theorem p37_no {c i : Nat} (h : c ≤ 2236 ∨ 2239 < c) : p37 c i = false := sorry
theorem p37_wr : wrC p37 := sorry
/-- what was met, told in both -/
theorem FoI_of (h : WrI u P) {v m0 : Nat} {f : Option Nat} (hf : ∀ m, f = some m → MfK u v m) (hv : v ≤ 19) (e21 : u.R 1021 0 0 = f) (e22 : u.I 1022 0 0 = nI v) (e37 : u.I 2237 0 0 = oN (f.map mM)) : FoI u := sorry
theorem inv_meet (hG : GOK G) (hd : 147 ≤ d) (h : INV s n) (x1 x2 x3 : Int32) : Two l G d yX0_meet (ws_ yX0_meet cX0_meet 8 (some .int)) yX11_meet (ws_ yX11_meet cX11_meet 7 (some .int)) [.int x1, .int x2, .int x3] s (fun u => INV u (n + 1)) := sorry
end IMT
