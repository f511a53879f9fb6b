/-! Judging, the model: which method or maker is meant. -/
/-- a row of arguments, judged, in the model: their types -/
def MAr (σ : Sg) : List Int64 → Int32 → Prop
  | [], v => v = -2
  | t :: ts, v => ∃ X, v = nI X ∧ X < 30600 ∧ TyOK t ∧ σ.L 2176 0 X = tM t ∧ MAr σ ts (σ.I 2180 0 X)
/-- the params of m are no null -/
def PmN (τ : Sg) (m : Nat) : Prop := ∀ j, j < nPa τ m → ¬ τ.L 1209 m j = 2
theorem pN_sM (c i : Nat) (h : scM c = true) : pN c i = false := sorry
theorem MWd_N {τ σ ρ : Sg} {w : Nat} {U : List Nat} (h : MWd τ σ w U) : MWd τ (mix pN σ ρ) w U := sorry
section SPX
variable {l : Launch} {G : Gl} {d : Nat}
theorem sp_X11_takesArgs (hG : GOK G) {τ σ : Sg} {m q : Nat} {ts : List Int64} {v : Int32} (hd : 6 ≤ d) (hU : MWd τ σ 1 (wKs τ 1)) (hs : SIv σ) (hm : MSg τ σ m q) (h2 : PmN τ m) (hA : MAr σ ts v) {x : Int32} (hx : x = nI q) : CT l G yX11_takesArgs (ws_ yX11_takesArgs cX11_takesArgs 6 (some .boolean)) d [.ref (G.adr 11 0), .int x, .int v] σ (rZ (jTk τ m ts) (fun s => ∃ ρ, s = mix pN σ ρ ∧ SIv ρ)) := sorry
end SPX
