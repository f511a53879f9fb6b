/-! THE MODEL's MACHINE: linkWith, link. -/
section LKR
variable {l : Launch} {G : Gl} {d : Nat} {τ σ s t g0 : Sg} {P : Pg} {k N : Nat} {M : MSt} {a ct tt ft : Nat} {st : Int32} {g : Nat → LkS → Int32 × LkS} {Q : Outcome → Sg → Prop} {D : Nat → Prop}
theorem lw_80n {b : Nat} (hb : b < 16) (hc : cM k / 12 = b) (hc2 : cM k < 216) {x : Int32} (hx : ¬ x = 0) (H : Q (.returned (some (.int x))) s) : wq_X11_linkWith_80 l G d 0 (nI (cM k)) Q x s := sorry
theorem sp_linkWith (hG : GOK G) (hd : 144 ≤ d) (hW : WQ τ σ P) (hQ : UqO τ) (hS : UsQ τ σ) (hg : LnM l G (d - 1) τ σ N g) (hgo : ∀ c s, hts τ c < N → c ∈ wKs τ 0 → LkI τ s → LnR τ c s (g c s)) (hN : hts τ k ≤ N) {r : LkS} (hk : Ldd τ r.1 k) (nb : ¬ τ.I 1101 k 0 = 26) (hI : MInv τ M) (hr : LkG τ (AbP τ k) (M.ls, M.lk) r) (h : MQst τ σ (lkM M r) a st ct tt ft s) : CT l G yX11_linkWith (ws_ yX11_linkWith cX11_linkWith 6 (some .int)) d [.ref (G.adr 11 0), .int (nI (cM k))] s (oLk τ σ M (lkH τ g k r) a st ct tt ft s) := sorry
theorem stE_11 (x : Int32) : stE 1 1 x = 2 ∨ stE 1 1 x = 3 ∨ stE 1 1 x = 4 ∨ stE 1 1 x = 7 := sorry
theorem stE_1f {f : Nat} (h : 0 < f ∧ f ≤ 16) (x : Int32) : stE 1 (nI (100 + f)) x = 6 := sorry
theorem zl_pos {f : Nat → Int32} {n : Nat} (hn : n < 64) (h : f n = 0) : 0 < (zl f).length := sorry
/-- THE MODEL LINKS CLASSES AS lnk SAYS -/
theorem lq_all (hG : GOK G) (hW : WQ τ σ P) (hQ : UqO τ) (hS : UsQ τ σ) : ∀ (n d : Nat), 144 + 2 * n ≤ d → LnM l G d τ σ n (lnk τ n) := sorry
end LKR
