/-! Judging, LinkHouse: what stands above a method. -/
/-- o stands above m, in class k -/
def jAb (σ : Sg) (k o m : Nat) : Bool := mAlk σ o m && (!decide (σ.I 1202 o 0 = 0) && (mMnt σ o k && (!σ.B 1206 o 0 && !(σ.B 1203 o 0 && σ.B 1102 (mOf σ o) 0))))
/-- m is against o -/
noncomputable def jCf (σ : Sg) (m o : Nat) : Bool := !(σ.B 1203 o 0 == σ.B 1203 m 0) || (!σ.B 1203 m 0 && (σ.B 1204 o 0 || (decide (σ.I 1202 m 0 < σ.I 1202 o 0) || (!decide (σ.L 1207 o 0 = σ.L 1207 m 0) && (decide (σ.L 1207 o 0 = 0) || (decide (σ.L 1207 o 0 = 1) || (decide (σ.L 1207 m 0 = 0) || !wFits σ 1 (σ.L 1207 m 0) (σ.L 1207 o 0))))))))
/-- m, of class k, is against something of class c -/
noncomputable def jAg (σ : Sg) (k m c : Nat) : Bool := fany (fun j => jAb σ k (33 * c + j) m && jCf σ m (33 * c + j)) (nMe σ c) 0
/-- parents from c on -/
def jUps (σ : Sg) (w : Nat) : Nat → Option Nat → List Nat
  | 0, _ => []
  | _ + 1, none => []
  | n + 1, some c => c :: jUps σ w n (wPar σ w c)
/-- a method is judged against what stands above it -/
noncomputable def jAv (σ : Sg) (k m : Nat) : PR Unit := if σ.I 1200 m 0 = 1 then ckP (!((jUps σ 1 62 (wPar σ 1 k)).any (jAg σ k m) || (wAF σ 1 k).any (jAg σ k m))) 9 (tkN (σ.I 1214 m 0)) else .ok ()
theorem wFits_st {σ : Sg} {w : Nat} {h t : Int64} : wFits (stat σ) w h t = wFits σ w h t := sorry
theorem jAg_st {σ : Sg} {k m c : Nat} : jAg (stat σ) k m c = jAg σ k m c := sorry
theorem jUps_st {σ : Sg} {w : Nat} : ∀ n o, jUps (stat σ) w n o = jUps σ w n o := sorry
theorem jAv_st {σ : Sg} {k m : Nat} : jAv (stat σ) k m = jAv σ k m := sorry
theorem jAv_e {σ s : Sg} {k m : Nat} (h : stat s = stat σ) : jAv s k m = jAv σ k m := sorry
theorem jAg_e {σ s : Sg} {k m c : Nat} (h : stat s = stat σ) : jAg s k m c = jAg σ k m c := sorry
theorem wAF_e {σ s : Sg} {w k : Nat} (h : stat s = stat σ) : wAF s w k = wAF σ w k := sorry
theorem wPar_e {σ s : Sg} {w k : Nat} (h : stat s = stat σ) : wPar s w k = wPar σ w k := sorry
theorem pF_pJ {b : Nat} : ∀ c i, pF c i = true → pJ b c i = true := sorry
theorem pWst (c i : Nat) (h : sc c = true) : pW c i = false := sorry
theorem len64 {σ : Sg} {w k : Nat} (hW : WOK σ w) : (wAF σ w k).length ≤ 63 := sorry
/-- the members of class c know their class -/
def OfK (σ : Sg) (c : Nat) : Prop := ∀ j, j < nMe σ c → σ.R 1222 (33 * c + j) 0 = some c
section SPX
variable {l : Launch} {G : Gl} {d : Nat} {σ : Sg}
theorem sp_X6_isAbove (hG : GOK G) {k o m c : Nat} (hd : 3 ≤ d) (hS : Shp σ) (h603 : σ.R 1603 0 0 = some k) (hk : k < cnt 1) (ho : o < cnt 2) (hm : m < cnt 2) (hc : c < cnt 1) (hoc : σ.R 1222 o 0 = some c) : CT l G yX6_isAbove (ws_ yX6_isAbove cX6_isAbove 3 (some .boolean)) d [.ref (G.adr 6 0), rv G 2 (some o), rv G 2 (some m)] σ (rZ (jAb σ k o m) (fun s => s = σ)) := sorry
theorem sp_X6_against (hG : GOK G) {b n r k m c : Nat} {B : Nat → Nat} (hd : 6 ≤ d) (hL : LRd σ b B n r) (hr : r ≤ 702) (hW : WOK σ 1) (hS : Shp σ) (h603 : σ.R 1603 0 0 = some k) (hk : k < cnt 1) (hm : m < cnt 2) (hc : c < cnt 1) (hof : OfK σ c) (hT : TkB (σ.I 1214 m 0) r) : CT l G yX6_against (ws_ yX6_against cX6_against 5 none) d [.ref (G.adr 6 0), rv G 2 (some m), rv G 1 (some c)] σ (oJ G b (yTok B n) σ (ckP (!jAg σ k m c) 9 (tkN (σ.I 1214 m 0))) (fun _ o s => o = .returned none ∧ ∃ ρ, s = mix pH σ ρ)) := sorry
theorem any_cons {α : Type} {p : α → Bool} {x : α} {xs : List α} : (x :: xs).any p = (p x || xs.any p) := sorry
theorem sp_X6_above (hG : GOK G) {b n r k m : Nat} {B : Nat → Nat} (hd : 70 ≤ d) (hL : LRd σ b B n r) (hr : r ≤ 702) (hW : WOK σ 1) (hS : Shp σ) (h603 : σ.R 1603 0 0 = some k) (hk : k < cnt 1) (hm : m < cnt 2) (hof : ∀ c, c ∈ k :: wKs σ 1 → OfK σ c) (hT : TkB (σ.I 1214 m 0) r) : CT l G yX6_above (ws_ yX6_above cX6_above 5 none) d [.ref (G.adr 6 0), rv G 2 (some m)] σ (oJ G b (yTok B n) σ (jAv σ k m) (fun _ o s => o = .returned none ∧ ∃ ρ, s = mix pW σ ρ)) := sorry
end SPX
