/-! Judging, LinkHouse: candidates. -/
def pCo (c _i : Nat) : Bool := rg 1303 1313 c || rg 1614 1616 c
def pCd (c _i : Nat) : Bool := rg 1303 1313 c || rg 1614 1617 c
theorem pCo_iff {c i : Nat} : pCo c i = true ↔ (1303 < c ∧ c ≤ 1313) ∨ (1614 < c ∧ c ≤ 1616) := sorry
theorem pCd_iff {c i : Nat} : pCd c i = true ↔ (1303 < c ∧ c ≤ 1313) ∨ (1614 < c ∧ c ≤ 1617) := sorry
theorem pCo_no {c i : Nat} (h : c ≤ 1303 ∨ (1313 < c ∧ c ≤ 1614) ∨ 1616 < c) : pCo c i = false := sorry
theorem pCd_no {c i : Nat} (h : c ≤ 1303 ∨ (1313 < c ∧ c ≤ 1614) ∨ 1617 < c) : pCd c i = false := sorry
theorem pCo_pCd : ∀ c i, pCo c i = true → pCd c i = true := sorry
theorem pH_pCo : ∀ c i, pH c i = true → pCo c i = true := sorry
theorem pF_pCd : ∀ c i, pF c i = true → pCd c i = true := sorry
theorem stat_co {σ s : Sg} (hF : Fl pCo σ s) : stat s = stat σ := sorry
theorem stat_cd {σ s : Sg} (hF : Fl pCd σ s) : stat s = stat σ := sorry
theorem LAr_fl {σ s : Sg} {p : Nat → Nat → Bool} (hF : Fl p σ s) (h1 : p 1606 0 = false) (h2 : p 1514 0 = false) : ∀ (ts : List Int64) (v : Int32), LAr σ ts v → LAr s ts v := sorry
theorem CdS_fl {σ s : Sg} {p : Nat → Nat → Bool} {A : List Nat} (hF : Fl p σ s) (h1 : p 1615 0 = false) (h2 : p 1616 0 = false) (h : CdS σ A) : CdS s A := sorry
theorem getD_app {A : List Nat} {m j : Nat} (h : j < A.length) : (A ++ [m]).getD j 0 = A.getD j 0 := sorry
theorem getD_last {A : List Nat} {m : Nat} : (A ++ [m]).getD A.length 0 = m := sorry
theorem CdS_add {s : Sg} {A : List Nat} {m : Nat} (h : CdS s A) (hm : m < 22404) : CdS (sR (sI s 1616 0 0 (nI A.length + 1)) 1615 0 A.length (some m)) (A ++ [m]) := sorry
theorem jMkA_len {σ : Sg} {c x : Nat} {ts : List Int64} : ∀ (p j : Nat) (A : List Nat), (jMkA σ c x ts p j A).length ≤ A.length + p := sorry
theorem jCdA_len {σ : Sg} {c x k : Nat} {nm : Int64} {ts : List Int64} : ∀ (p j : Nat) (A : List Nat), A.length ≤ (jCdA σ c x nm ts k p j A).length := sorry
theorem jCdL_len {σ : Sg} {c x : Nat} {nm : Int64} {ts : List Int64} : ∀ (ks A : List Nat), A.length ≤ (jCdL σ c x nm ts ks A).length := sorry
section SPX
variable {l : Launch} {G : Gl} {d : Nat} {σ : Sg}
/-- lets, at a state like σ -/
theorem sp_let {σ s : Sg} (hG : GOK G) (hst : stat s = stat σ) (hd : 4 ≤ d) (hW : WOK σ 1) (hS : Shp σ) {a c m x : Nat} (ha : a < cnt 1) (hc : c < cnt 1) (hm : m < cnt 2) (hx : x < cnt 1) : CT l G yX3_lets (ws_ yX3_lets cX3_lets 6 (some .boolean)) d [.ref (G.adr 3 1), rv G 1 (some a), rv G 1 (some c), rv G 2 (some m), rv G 1 (some x), rv G 8 none] s (rZ (mLts σ 1 a c m x (wNst σ 1 a) (wNst σ 1 c)) (fun s' => ∃ ρ, s' = mix pH s ρ)) := sorry
theorem sp_X6_maker (hG : GOK G) {c x : Nat} {ts : List Int64} {v : Int32} (hd : 6 ≤ d) (hW : WOK σ 1) (hS : Shp σ) (h603 : σ.R 1603 0 0 = some c) (hc : c < cnt 1) (hx : x < cnt 1) (hA : LAr σ ts v) : CT l G yX6_maker (ws_ yX6_maker cX6_maker 5 (some (.object "LinkHouse$Member"))) d [.ref (G.adr 6 0), rv G 1 (some x), .int v] σ (rR G 2 (jMkr σ c x ts) (fun s => Fl pCo σ s)) := sorry
theorem sp_X6_candidatesOf (hG : GOK G) {c x k : Nat} {nm : Int64} {ts : List Int64} {v : Int32} {A : List Nat} (hd : 6 ≤ d) (hW : WOK σ 1) (hS : Shp σ) (h603 : σ.R 1603 0 0 = some c) (hc : c < cnt 1) (hx : x < cnt 1) (hk : k < cnt 1) (hA : LAr σ ts v) (hC0 : CdS σ A) (hl : (jCdA σ c x nm ts k (nMe σ k) 0 A).length ≤ 1344) : CT l G yX6_candidatesOf (ws_ yX6_candidatesOf cX6_candidatesOf 10 none) d [.ref (G.adr 6 0), rv G 1 (some k), rv G 1 (some x), .long nm, .int v] σ (rV (fun s => Fl pCo σ s ∧ CdS s (jCdA σ c x nm ts k (nMe σ k) 0 A))) := sorry
end SPX
