/-! The model's uses of a build. -/
theorem fitU_k {k : Nat} {t w : Int64} {r : Us} (h : r ∈ fitU k t w) : r.1 = k := sorry
theorem gtU_k {τ : Sg} {k : Nat} {b : Lb} : (gtU τ k b).1 = k := sorry
theorem ndE_k {τ : Sg} {k : Nat} : ∀ (x : Tr) (ps : List Int64) (r : Us), r ∈ ndE τ k x ps → r.1 = k := sorry
theorem prU_k {τ : Sg} {k m : Nat} {R : List Us} {r : Us} (hR : ∀ q, q ∈ R → q.1 = k) (h : r ∈ prU τ k m R) : r.1 = k := sorry
theorem ndS_k {τ : Sg} {k : Nat} {mt : Int64} : ∀ (x : Tr) (r : Us), r ∈ ndS τ k mt x → r.1 = k := sorry
theorem ndM_k {τ : Sg} {k m t : Nat} {x : Tr} {r : Us} (h : r ∈ ndM τ k m t x) : r.1 = k := sorry
theorem ndMs_k {τ : Sg} {k : Nat} {tg : Nat → Nat} {tr : Nat → Tr} {r : Us} : ∀ (p j : Nat), r ∈ ndMs τ k tg tr p j → r.1 = k := sorry
theorem ndFc_k {τ : Sg} {k : Nat} {r : Us} : ∀ (p j : Nat), r ∈ ndFc τ k p j → r.1 = k := sorry
theorem ndK_k {τ : Sg} {k : Nat} {tg : Nat → Nat} {tr : Nat → Tr} {r : Us} (h : r ∈ ndK τ k tg tr) : r.1 = k := sorry
/-- the uses of the classes of build b from the i-th on -/
noncomputable def ndAl (τ : Sg) (b : Nat) (tg : Nat → Nat → Nat) (tr : Nat → Nat → Tr) : Nat → Nat → List Us
  | 0, _ => []
  | p + 1, i => ndK τ (12 * b + i) (tg i) (tr i) ++ ndAl τ b tg tr p (i + 1)
section SPX
variable {l : Launch} {G : Gl} {d : Nat} {τ u0 : Sg} {b nk n L : Nat} {B : Nat → Nat} {tg : Nat → Nat → Nat} {tr : Nat → Nat → Tr} {A E : Nat → Nat → Nat}
/-- THE USES OF A BUILD IN THE MODEL -/
theorem sp_X11_usesOfAll (hG : GOK G) (hB : BOK B n) (hNE : NEt (yTok B n) L) (hH : UsH τ) (hd : 1514 ≤ d) (hL2 : L ≤ 702) (hnk : nk ≤ 12) (hS : Shp τ) (hdis : ∀ i j i' j', ¬ (i = i' ∧ j = j') → i < nk → i' < nk → j < nMe τ (12 * b + i) → j' < nMe τ (12 * b + i') → E i j ≤ A i' j' ∨ E i' j' ≤ A i j) (hb : b < 16) (h19 : u0.I 2119 0 0 = nI b) (h23 : u0.I 2123 0 b = nI nk) (hU : ∀ i, i < nk → JgU τ u0 (12 * b + i)) (hSm : ∀ i, i < nk → JMs τ (12 * b + i)) (hkk : ∀ i, i < nk → wFind τ 1 (τ.L 1100 (12 * b + i) 0) = some (12 * b + i)) (hpr : ∀ i, i < nk → (τ.B 1106 (12 * b + i) 0 = false → u0.L 2128 0 (cM (12 * b + i)) = 0) ∧ (τ.B 1106 (12 * b + i) 0 = true → ¬ u0.L 2128 0 (cM (12 * b + i)) = 0 ∧ u0.L 2128 0 (cM (12 * b + i)) = tM (τ.L 1107 (12 * b + i) 0) ∧ TyC (τ.L 1107 (12 * b + i) 0))) (hV : ∀ i' j', i' < nk → j' < nMe τ (12 * b + i') → UmH τ u0 (yTok B n) L b (12 * b + i') (33 * (12 * b + i') + j') (tg i' j') (tr i' j') (A i' j') (E i' j')) (hL : (addL [] (ndAl τ b tg tr nk 0)).length < 1800) : CT l G yX11_usesOfAll (ws_ yX11_usesOfAll cX11_usesOfAll 2 none) d [.ref (G.adr 11 0)] u0 (rV (fun s => FZ b u0 s ∧ MUt s b (addL [] (ndAl τ b tg tr nk 0)) ∧ UNd (addL [] (ndAl τ b tg tr nk 0)) ∧ ∀ i' j', i' < nk → j' < nMe τ (12 * b + i') → UmD τ s (yTok B n) b (12 * b + i') (33 * (12 * b + i') + j') (tg i' j') (tr i' j') (addL [] (ndAl τ b tg tr nk 0)))) := sorry
end SPX
