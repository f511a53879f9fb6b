/-! The model: askCalled, askSuper, askFaceSuper, askMethod -/
variable {φ : Sg}
noncomputable def cdR (σ : Sg) (as k : Nat) (o : Option Nat) : Int32 × Option Nat := match o with
  | some m => if σ.B 1205 m 0 = true then (6, none) else (0, some m)
  | none => match wMSr σ 0 k as with
    | none => (wMSc σ 0 k as, none)
    | some m => (0, some m)
theorem abR_cd {σ : Sg} {as k : Nat} : abR σ as k = cdR σ as k (abL σ as (wUps σ k)) := sorry
theorem wMSr_bare {σ : Sg} {w k as m : Nat} (h : wMSr σ w k as = some m) : σ.B 1205 m 0 = false := sorry
theorem abL_lu {σ : Sg} {U : List Nat} {as : Nat} : ∀ (L : List Nat) (m : Nat), (∀ x, x ∈ L → x ∈ U) → abL σ as L = some m → LivU σ U m := sorry
section SPMT
variable {l : Launch} {G : Gl} {τ σ : Sg}
theorem sp_X11_askCalled (hG : GOK G) (hM : MLk τ σ) {B d as k : Nat} (hd : 6 ≤ d) (hsg : MSg τ σ as 7343) (h1 : τ.I 1200 as 0 = 1) {st : LSt} (hC : LCL τ st) (hk : Ldd τ st k) {o : Option Nat} (ho : ∀ m, o = some m → LivU τ (wKs τ 0) m) {lk : List Nat} {ρ : Sg} (hf : MA φ ρ B st none lk) {x y : Int32} (hx : x = oN (o.map mM)) (hy : y = nI (cM k)) : CT l G yX11_askCalled (ws_ yX11_askCalled cX11_askCalled 5 (some .int)) d [.ref (G.adr 11 0), .int x, .int y] (mix pA σ ρ) (aA φ σ B (cdR τ as k o).1 st (cdR τ as k o).2 lk) := sorry
theorem sp_X11_askSuper (hG : GOK G) (hM : MLk τ σ) {B d as k : Nat} (hd : 7 ≤ d) (hsg : MSg τ σ as 7343) (h1 : τ.I 1200 as 0 = 1) {st : LSt} (hC : LCL τ st) (hk : Ldd τ st k) {lk : List Nat} {ρ : Sg} (hf : MA φ ρ B st none lk) {y : Int32} (hy : y = nI (cM k)) : CT l G yX11_askSuper (ws_ yX11_askSuper cX11_askSuper 5 (some .int)) d [.ref (G.adr 11 0), .int y] (mix pA σ ρ) (aA φ σ B (abR τ as k).1 st (abR τ as k).2 lk) := sorry
theorem sp_X11_askFaceSuper (hG : GOK G) (hM : MLk τ σ) {B d as k : Nat} (hd : 7 ≤ d) (hsg : MSg τ σ as 7343) (h1 : τ.I 1200 as 0 = 1) {st : LSt} (hC : LCL τ st) (hk : Ldd τ st k) (hfc : τ.B 1102 k 0 = true) {lk : List Nat} {ρ : Sg} (hf : MA φ ρ B st none lk) {y : Int32} (hy : y = nI (cM k)) : CT l G yX11_askFaceSuper (ws_ yX11_askFaceSuper cX11_askFaceSuper 3 (some .int)) d [.ref (G.adr 11 0), .int y] (mix pA σ ρ) (aA φ σ B (abR τ as k).1 st (abR τ as k).2 lk) := sorry
end SPMT
