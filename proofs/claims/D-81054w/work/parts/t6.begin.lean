/-! The machines begin anew. -/
/-- nothing is loaded -/
def frM (M : MSt) : MSt := (LS0, fun _ => 0, fun _ => 0, fun _ => 0, [], M.ce, 0, M.ou, M.sp)
def pBg (c i : Nat) : Bool := pK 1 c i || (rg 1901 1904 c || decide (c = 1907) || decide (c = 1909))
section BEG
variable {l : Launch} {G : Gl} {d : Nat} {σ s τ : Sg} {M : MSt}
theorem pBg_k {c i : Nat} (h : pBg c i = false) : pK 1 c i = false := sorry
theorem pBg_y {c i : Nat} (h : (1901 < c ∧ c ≤ 1904) ∨ c = 1907 ∨ c = 1909) : pBg c i = true := sorry
theorem MRm.beg (h : MRm σ M) (hF : Fl pBg σ s) (h1 : LSR s 1 LS0) (h2 : ∀ j, j < 64 → s.I 1902 0 j = 0 ∧ s.I 1903 0 j = 0) (h4 : ∀ j, j < 1280 → s.I 1904 0 j = 0) (h7 : s.I 1907 0 0 = 0) (h9 : s.I 1909 0 0 = 0) : MRm s (frM M) := sorry
theorem sp_X9_begin (hG : GOK G) (hd : 2 ≤ d) (hM : MRm σ M) : CT l G yX9_begin (ws_ yX9_begin cX9_begin 2 none) d [.ref (G.adr 9 0)] σ (rV (fun s => Fl pBg σ s ∧ MRm s (frM M))) := sorry
/-- a machine that begins is in order -/
theorem MInv.beg (h1 : M.ou.length ≤ 100) (h2 : M.sp ≤ 20000) : MInv τ (frM M) := sorry
end BEG
