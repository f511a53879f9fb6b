/-! Judging, LinkHouse: the method that is meant. -/
noncomputable def jMtO (σ : Sg) (c : Nat) (xo : Option Nat) (nm : Int64) (ts : List Int64) : Option Nat := match xo with
  | none => none
  | some x => jMth σ c x nm ts
theorem jCdL_app {σ : Sg} {c x : Nat} {nm : Int64} {ts : List Int64} : ∀ (ks hs A : List Nat), jCdL σ c x nm ts (ks ++ hs) A = jCdL σ c x nm ts hs (jCdL σ c x nm ts ks A) := sorry
theorem CdS_nil {s : Sg} : CdS (sI s 1616 0 0 0) [] := sorry
section SPX
variable {l : Launch} {G : Gl} {d : Nat} {σ : Sg}
theorem sp_X6_method (hG : GOK G) {c : Nat} {xo : Option Nat} {nm : Int64} {ts : List Int64} {v : Int32} (hd : 69 ≤ d) (hW : WOK σ 1) (hS : Shp σ) (h603 : σ.R 1603 0 0 = some c) (hc : c < cnt 1) (hx : ∀ x, xo = some x → x < cnt 1) (hA : LAr σ ts v) (hl : ∀ x, xo = some x → (jCds σ c x nm ts).length ≤ 1344) : CT l G yX6_method (ws_ yX6_method cX6_method 8 (some (.object "LinkHouse$Member"))) d [.ref (G.adr 6 0), rv G 1 xo, .long nm, .int v] σ (rR G 2 (jMtO σ c xo nm ts) (fun s => Fl pCd σ s)) := sorry
end SPX
