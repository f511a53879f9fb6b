/-! Judging, the model: whether something is left bare. -/
def pLo (c j : Nat) : Bool := pFt c j || rg 2192 2202 c
theorem pLo_iff {c j : Nat} : pLo c j = true ↔ pFt c j = true ∨ (2192 < c ∧ c ≤ 2202) := sorry
theorem pLo_no {c j : Nat} (h : c ≤ 2119 ∨ (2121 < c ∧ c ≤ 2192) ∨ 2202 < c) : pLo c j = false := sorry
theorem pFt_pLo : ∀ c j, pFt c j = true → pLo c j = true := sorry
theorem stJ_lo {σ s : Sg} (h : FJ pLo σ s) : stJ s = stJ σ := sorry
theorem OvU_J {τ σ s : Sg} {w : Nat} (e : stJ s = stJ σ) (h : OvU τ σ w) : OvU τ s w := sorry
theorem SIv.lm {σ s : Sg} (h : SIv σ) (hF : FJ pFt σ s) : SIv s := sorry
theorem pS_pLo : ∀ c i j, pLo c j = false → pS c i = false := sorry
theorem SIv.mixS {σ ρ : Sg} (h : SIv ρ) : SIv (mix pS σ ρ) := sorry
theorem ckP_ff {r : PR Unit} {b : Bool} {f t : Nat} : bnd (bnd r fun _ => ckP false f t) (fun _ => ckP b f t) = bnd r fun _ => ckP (false && b) f t := sorry
/-- what is selected stands in a class of the world -/
theorem wSelW_in {τ σ : Sg} {w m : Nat} (hU : OvU τ σ w) : ∀ (n : Nat) (c : Option Nat) (q : Nat), (∀ y, c = some y → y ∈ wKs τ w) → wSelW τ w m n c = some q → LivU τ (wKs τ w) q := sorry
theorem wSel_liv {τ σ : Sg} {w m r q : Nat} (hU : OvU τ σ w) (hm : LivU τ (wKs τ w) m) (hr : r ∈ wKs τ w) (h : wSel τ w m r = some q) : LivU τ (wKs τ w) q := sorry
theorem wSel_lt {τ σ : Sg} {w m r q : Nat} (hU : OvU τ σ w) (hm : LivU τ (wKs τ w) m) (hr : r ∈ wKs τ w) (h : wSel τ w m r = some q) : mM q < 7344 := sorry
section SPX
variable {l : Launch} {G : Gl} {d : Nat}
theorem sp_X11_lackingOf (hG : GOK G) {τ σ : Sg} {k x : Nat} {T : Nat → Tk} {r : PR Unit} (hd : 7 ≤ d) (hU : OvU τ σ 1) (hK : KSf τ x) (hk : k ∈ wKs τ 1) (hx : x ∈ wKs τ 1) (hn : ¬ wHr τ 1 k k) (hs : SIv σ) (hq : FLq σ T r) (hat : σ.I 2125 0 (cM k) = nI (T (tkN (τ.I 1124 k 0))).2.2.1) {x1 x2 : Int32} (e1 : x1 = nI (cM x)) (e2 : x2 = nI (cM k)) : CT l G yX11_lackingOf (ws_ yX11_lackingOf cX11_lackingOf 5 none) d [.ref (G.adr 11 0), .int x1, .int x2] σ (rV (fun u => FJ pLo σ u ∧ SIv u ∧ FLq u T (bnd r fun _ => ckP (jDn τ k x) 10 (tkN (τ.I 1124 k 0))))) := sorry
end SPX
