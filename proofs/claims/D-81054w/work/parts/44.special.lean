/-! World.hasHeir, mostSpecial -/
theorem wAF_good {σ : Sg} {w k : Nat} (hW : WOK σ w) : (wAF σ w k).Nodup ∧ ∀ x, x ∈ wAF σ w k → x ∈ k :: wKs σ w := sorry
/-- y has such a method, too, and is below x -/
noncomputable def spq (σ : Sg) (w as y x : Nat) : Bool := match kMet σ y as with
  | some m => mObj σ m && wHb σ w y x
  | none => false
noncomputable def wSH (σ : Sg) (w as : Nat) (T : List Nat) (x : Nat) : Bool := T.any (fun y => !decide (y = x) && spq σ w as y x)
/-- the faces that are asked for the most special -/
def wST (σ : Sg) (w k : Nat) : List Nat := if σ.B 1102 k 0 = true ∧ k ∉ wAF σ w k then wAF σ w k ++ [k] else wAF σ w k
noncomputable def fSp (σ : Sg) (w as : Nat) (T : List Nat) (x : Nat) : Option Nat := match kMet σ x as with
  | some m => if mObj σ m = true ∧ σ.B 1205 m 0 = false ∧ wSH σ w as T x = false then some m else none
  | none => none
noncomputable def wMS (σ : Sg) (w k as : Nat) : List Nat := (wST σ w k).filterMap (fSp σ w as (wST σ w k))
noncomputable def wMSr (σ : Sg) (w k as : Nat) : Option Nat := if (wMS σ w k as).length = 1 then (wMS σ w k as).getLast? else none
noncomputable def wMSc (σ : Sg) (w k as : Nat) : Int32 := if (wMS σ w k as).length ≤ 1 then 6 else 3
theorem wST_good {σ : Sg} {w k : Nat} (hW : WOK σ w) : (wST σ w k).Nodup ∧ (∀ x, x ∈ wST σ w k → x ∈ k :: wKs σ w) ∧ (wST σ w k).length ≤ 63 := sorry
theorem wST_st {σ : Sg} {w k : Nat} : wST (stat σ) w k = wST σ w k := sorry
theorem fSp_st {σ : Sg} {w as : Nat} {T : List Nat} : fSp (stat σ) w as T = fSp σ w as T := sorry
theorem wMS_st {σ : Sg} {w k as : Nat} : wMS (stat σ) w k as = wMS σ w k as := sorry
theorem wMSr_st {σ : Sg} {w k as : Nat} : wMSr (stat σ) w k as = wMSr σ w k as := sorry
theorem wMSc_st {σ : Sg} {w k as : Nat} : wMSc (stat σ) w k as = wMSc σ w k as := sorry
theorem wMSr_mix {p : Nat → Nat → Bool} {σ ρ : Sg} (h : ∀ c i, sc c = true → p c i = false) {w k as : Nat} : wMSr (mix p σ ρ) w k as = wMSr σ w k as := sorry
theorem wMSc_mix {p : Nat → Nat → Bool} {σ ρ : Sg} (h : ∀ c i, sc c = true → p c i = false) {w k as : Nat} : wMSc (mix p σ ρ) w k as = wMSc σ w k as := sorry
section SPS
variable {l : Launch} {G : Gl} {d : Nat} {σ : Sg}
theorem sp_X3_hasHeir (hG : GOK G) (hd : 5 ≤ d) {w : Nat} (hw : w < cnt 3) (hW : WOK σ w) (hS : Shp σ) {T : List Nat} (hT : T.Nodup) (hT1 : ∀ x, x ∈ T → x < cnt 1) (hTl : T.length ≤ 63) (r1 : σ.I 1305 w 0 = nI T.length) (r2 : Row σ 1304 w T) {i x as : Nat} (hx : T[i]? = some x) (ha : as < cnt 2) : CT l G yX3_hasHeir (ws_ yX3_hasHeir cX3_hasHeir 5 (some .boolean)) d [.ref (G.adr 3 w), .int (nI i), rv G 2 (some as)] σ (rZ (wSH σ w as T x) (fun s => ∃ ρ, s = mix pH σ ρ)) := sorry
theorem sp_X3_mostSpecial (hG : GOK G) (hd : 69 ≤ d) {w : Nat} (hw : w < cnt 3) (hW : WOK σ w) (hS : Shp σ) {k as : Nat} (hk : k < cnt 1) (ha : as < cnt 2) : CT l G yX3_mostSpecial (ws_ yX3_mostSpecial cX3_mostSpecial 7 (some (.object "LinkHouse$Member"))) d [.ref (G.adr 3 w), rv G 1 (some k), rv G 2 (some as)] σ (rR G 2 (wMSr σ w k as) (fun s => ∃ ρ, s = mix pW σ ρ ∧ ρ.I 1310 w 0 = wMSc σ w k as)) := sorry
end SPS
