/-! THE HOUSE: fresh; members. -/
/-- how many classes are loaded: of places 2 to 2 + n -/
def cnL (M : MSt) : Nat → Nat
  | 0 => 0
  | n + 1 => cnL M n + if M.ls.1 (2 + n) = 1 then 1 else 0
theorem pRn_bg {c i : Nat} (h : pRn c i = false) : pBg c i = false := sorry
/-- columns that fresh changes -/
def pFs (c i : Nat) : Bool := pBg c i || pSe c i
theorem pFs_no {c i : Nat} (h1 : c ≤ 1800 ∨ (1803 < c ∧ c ≤ 1901) ∨ (1909 < c) ∨ c = 1905 ∨ c = 1906 ∨ c = 1908) (h2 : (c ≤ 2228 ∨ 2236 < c) ∧ ¬ c = 2245 ∧ ¬ c = 2248 ∧ ¬ c = 2251 ∧ ¬ c = 2253) : pFs c i = false := sorry
section FRS
variable {l : Launch} {G : Gl} {d n k b : Nat} {s t u : Sg} {P : Pg} {M : MSt}
theorem cnL_le : ∀ n, cnL M n ≤ n := sorry
theorem sp_X0_fresh (hG : GOK G) (hd : 3 ≤ d) (hW : WrI s P) (m1 : MRm s M) : CT l G yX0_fresh (ws_ yX0_fresh cX0_fresh 3 (some .int)) d [.ref (G.adr 0 0)] s (rI (nI (cnL M ((wLy s).length - 2))) (fun t => Fl pBg s t ∧ MRm t (frM M))) := sorry
theorem sp_X11_fresh (hG : GOK G) (hd : 5 ≤ d) (hW : WrI s P) (m2 : MMm u s M) (m3 : ∀ j, M.ls.1 j ≠ 2) (m4 : LOK M.ls) : CT l G yX11_fresh (ws_ yX11_fresh cX11_fresh 4 (some .int)) d [.ref (G.adr 11 0)] s (rI (nI (cnL M ((wLy s).length - 2))) (fun t => ∃ t', SeD s t' (wLy s) ∧ t = sI t' 2245 0 0 (s.I 2245 0 0))) := sorry
/-- FRESH -/
theorem inv_fresh (hG : GOK G) (hd : 6 ≤ d) (h : INV s n) : Two l G d yX0_fresh (ws_ yX0_fresh cX0_fresh 3 (some .int)) yX11_fresh (ws_ yX11_fresh cX11_fresh 4 (some .int)) [] s (fun u => INV u (n + 1)) := sorry
end FRS
