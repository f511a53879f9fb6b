/-! THE MODEL's MACHINE: whether a class overrides a final method. -/
/-- a class has no method twice -/
def UqO (τ : Sg) : Prop := ∀ k, k ∈ wKs τ 0 → ∀ j, j < nMe τ k → mObj τ (33 * k + j) = true → kMet τ k (33 * k + j) = some (33 * k + j)
theorem mOne_sym {τ : Sg} {a b : Nat} (h : mOne τ a b = true) : mOne τ b a = true := sorry
theorem mObj_1 {τ : Sg} {m : Nat} (h : mObj τ m = true) : τ.I 1200 m 0 = 1 := sorry
section OFN
variable {l : Launch} {G : Gl} {d : Nat} {τ σ s t : Sg} {P : Pg} {k : Nat} {Q : Outcome → Sg → Prop}
/-- overrides, where it is asked -/
theorem sp_ovr (hG : GOK G) (hd : 4 ≤ d) (hW : WQ τ σ P) (hF : FQm σ s) {m o x : Nat} (hm : LivU τ (wKs τ 0) m) (hom : mObj τ m = true) (hself : kMet τ (mOf τ m) m = some m) (hx : x ∈ wKs τ 0) (hxf : τ.B 1102 x 0 = false) (hne : ¬ mOf τ m = x) (ho : kMet τ x m = some o) (h4 : τ.B 1204 o 0 = true) : CT l G yX11_overrides (ws_ yX11_overrides cX11_overrides 9 (some .boolean)) d [.ref (G.adr 11 0), .int (nI (mM m)), .int (nI (mM o))] s (rZ (brK τ m x) (fun t => t = s)) := sorry
/-- the classes above -/
theorem of_54 (hG : GOK G) (hd : 4 ≤ d) (hW : WQ τ σ P) (hF : FQm σ s) {m : Nat} (hm : LivU τ (wKs τ 0) m) (hom : mObj τ m = true) (hself : kMet τ (mOf τ m) m = some m) {x1 x3 : Int32} {K4 : Bool → Int32 → Sg → Prop} : ∀ (L : List Nat) (c : Option Nat) (b : Bool), IsUp τ c L → (∀ x, x ∈ L → x ∈ wKs τ 0 ∧ τ.B 1102 x 0 = false ∧ ¬ mOf τ m = x) → K4 (b || L.any (brK τ m)) (x3 + 1) s → wq_X11_overridesFinal_54 l G d 0 x1 Q K4 (L.length + 1) b x3 (nI (mM m)) (oN (c.map cM)) s := sorry
/-- the members -/
theorem of_4 (hG : GOK G) (hd : 4 ≤ d) (hW : WQ τ σ P) (hF : FQm σ s) (hQ : UqO τ) {st : LSt} (hC : LCL τ st) (hk : Ldd τ st k) : ∀ (n j : Nat) (b : Bool), j + n = nMe τ k → Q (.returned (some (.int (bI (b || fany (fun j => mObj τ (33 * k + j) && (wUps τ k).tail.any (brK τ (33 * k + j))) n j))))) s → wq_X11_overridesFinal_4 l G d 0 (nI (cM k)) Q (n + 1) b (nI j) s := sorry
theorem sp_ofin (hG : GOK G) (hd : 5 ≤ d) (hW : WQ τ σ P) (hF : FQm σ s) (hQ : UqO τ) {st : LSt} (hC : LCL τ st) (hk : Ldd τ st k) : CT l G yX11_overridesFinal (ws_ yX11_overridesFinal cX11_overridesFinal 7 (some .boolean)) d [.ref (G.adr 11 0), .int (nI (cM k))] s (rZ (kBar τ k) (fun t => t = s)) := sorry
end OFN
