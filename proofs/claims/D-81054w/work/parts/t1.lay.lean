/-! THE HOUSE lays a world for the judge, for weaving. -/
/-- the classes of the build that is picked -/
def pkL (σ : Sg) (lib : Nat) : List Nat := if σ.I 1008 0 lib = -2 then [] else kdL (hSt σ lib (σ.I 1008 0 lib).toNatClampNeg) (hKs σ (hSt σ lib (σ.I 1008 0 lib).toNatClampNeg))
def oLb (σ : Sg) (lib b nk k : Nat) : List Nat := if k = lib then kdL b nk else pkL σ k
def oW0 (σ : Sg) (w b nk : Nat) : List Nat := (if w = 1 then wAd σ [] (kdL b nk) else []) ++ [192, 193]
def oWl (σ : Sg) (w lib b nk : Nat) : List Nat := wAd σ (oW0 σ w b nk) ((List.range 5).flatMap (oLb σ lib b nk))
theorem nI_ij {a c : Nat} (ha : a < 1000) (hc : c < 1000) (h : nI a = nI c) : a = c := sorry
section LAY
variable {l : Launch} {G : Gl} {d : Nat} {σ s : Sg} {w b nk lib : Nat} {K : List Nat}
theorem HOK.fl {p : Nat → Nat → Bool} (h : HOK σ) (hF : Fl p σ s) (h0 : ∀ c, 1004 < c → c ≤ 1008 → p c 0 = false) (h1 : ∀ x, p 2007 x = false ∧ p 2009 x = false) : HOK s := sorry
theorem HOK.pk (h : HOK σ) (hl : lib < 5) (hn : ¬ σ.I 1008 0 lib = -2) : ∃ k, k < hMy σ lib ∧ σ.I 1008 0 lib = nI k ∧ hSt σ lib k < hN σ ∧ hN σ ≤ 16 ∧ hMy σ lib ≤ 8 ∧ (∃ m, m ≤ 12 ∧ σ.I 2007 (hSt σ lib k) 0 = nI m ∧ pkL σ lib = kdL (hSt σ lib k) m) := sorry
theorem HOK.pl (h : HOK σ) (hl : lib < 5) : (pkL σ lib).length ≤ 12 ∧ ∀ k, k ∈ pkL σ lib → k < 192 := sorry
theorem pkL_fl {p : Nat → Nat → Bool} (hF : Fl p σ s) (h0 : ∀ c, 1004 < c → c ≤ 1008 → p c 0 = false) (h1 : ∀ x, p 2007 x = false ∧ p 2009 x = false) : pkL s lib = pkL σ lib := sorry
/-- the length of the judge's world -/
def oCt (w lib : Nat) : Nat → Nat
  | 0 => 0
  | k + 1 => oCt w lib k + (if w = 1 ∧ k = lib then 0 else 12)
theorem oCt_m {w lib k : Nat} : ∀ m, oCt w lib k ≤ oCt w lib (k + m) := sorry
theorem oCt_w {w lib : Nat} (hlib : lib < 5) : oCt w lib 5 ≤ (if w = 1 then 48 else 60) := sorry
theorem oW0_len (hnk : nk ≤ 12) : (oW0 σ w b nk).length ≤ (if w = 1 then 14 else 2) := sorry
theorem oWl_len (hH : HOK σ) (hlib : lib < 5) (hnk : nk ≤ 12) : ∀ (k : Nat), k ≤ 5 → (wAd σ (oW0 σ w b nk) ((List.range k).flatMap (oLb σ lib b nk))).length ≤ (if w = 1 then 14 else 2) + oCt w lib k := sorry
theorem oWl_mem (hH : HOK σ) (hb : b < 16) (hnk : nk ≤ 12) {k x : Nat} (hk : k ≤ 5) (hx : x ∈ wAd σ (oW0 σ w b nk) ((List.range k).flatMap (oLb σ lib b nk))) : x < 194 := sorry
theorem sp_X0_layOther (hG : GOK G) (hd : 3 ≤ d) (hH : HOK σ) (hw : w = 1 ∨ w = 2) (hlib : lib < 5) (hb : b < 16) (hn : σ.I 2007 b 0 = nI nk) (hnk : nk ≤ 12) {x2 : Int32} (hx : x2 = nI lib) : CT l G yX0_layOther (ws_ yX0_layOther cX0_layOther 5 none) d [.ref (G.adr 0 0), rv G 3 (some w), .int x2, rv G 10 (some b)] σ (rV (fun s => Fl (pWl w) σ s ∧ WLs s w (oWl σ w lib b nk))) := sorry
end LAY
