/-! The model numbers THE WORLD: the loops. -/
section NUM2
variable {l : Launch} {G : Gl} {d : Nat} {τ σ s : Sg} {F : Nat → List Nat}
theorem kdL_at {b nk j x : Nat} (e : (kdL b nk)[j]? = some x) : x = 12 * b + j ∧ j < nk := sorry
theorem FLb.new (h : FLb τ σ F) {k j x : Nat} (hk : k < 5) (e : (F k)[j]? = some x) : ¬ x ∈ prF F k j := sorry
theorem prF_s {k j x : Nat} (e : (F k)[j]? = some x) : prF F k (j + 1) = prF F k j ++ [x] := sorry
theorem prF_e {k : Nat} : prF F k (F k).length = prF F (k + 1) 0 := sorry
theorem prF_n (h : FLb τ σ F) {k j : Nat} (hk : k < 5) (hj : j ≤ (F k).length) : (prF F k j).length ≤ 12 * k + j := sorry
theorem sp_X11_numberWorld (hG : GOK G) (hd : 3 ≤ d) (hM : MWO σ) (hL : FLb τ σ F) (hf : ∀ nm, TyC nm → mFnd σ (tM nm) = (hTt τ ([192, 193] ++ (List.range 5).flatMap F) nm).map cM) : CT l G yX11_numberWorld (ws_ yX11_numberWorld cX11_numberWorld 4 none) d [.ref (G.adr 11 0)] σ (rV (fun s => NwI σ s (wAd τ [192, 193] ((List.range 5).flatMap F)))) := sorry
end NUM2
