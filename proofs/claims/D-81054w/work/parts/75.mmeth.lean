/-! The model: methodOf, askCalled, askSuper, askFaceSuper, askMethod -/
variable {φ : Sg}
theorem kMet_1 {σ : Sg} {q m x : Nat} (h : kMet σ q m = some x) : σ.I 1200 x 0 = 1 := sorry
theorem lkU_none {σ : Sg} {as : Nat} : ∀ (L : List Nat), (lkU σ as L).2 = none → (lkU σ as L).1 = L := sorry
theorem fsO_some {σ : Sg} {as m : Nat} : ∀ L, fsO σ as L (some m) = some m := sorry
theorem MSg_A {τ σ ρ : Sg} {m q : Nat} (h : MSg τ σ m q) : MSg τ (mix pA σ ρ) m q := sorry
section SPMT
variable {l : Launch} {G : Gl} {τ σ : Sg}
/-- the model's methodOf -/
theorem sp_X11_methodOf (hG : GOK G) (hM : MLk τ σ) {B d as c : Nat} (hd : 8 ≤ d) (hsg : MSg τ σ as 7343) (h1 : τ.I 1200 as 0 = 1) {st : LSt} (hC : LCL τ st) (hc : Ldd τ st c) {ρ : Sg} (hf : MA φ ρ B st none []) {x : Int32} (hx : x = nI (cM c)) : CT l G yX11_methodOf (ws_ yX11_methodOf cX11_methodOf 7 (some .int)) d [.ref (G.adr 11 0), .int x] (mix pA σ ρ) (aA φ σ B (oN ((clF τ as c).1.map mM)) st none (clF τ as c).2) := sorry
end SPMT
