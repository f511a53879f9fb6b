/-! WORLDS: classes are added. -/
/-- the list of a world's classes -/
def WLs (s : Sg) (w : Nat) (K : List Nat) : Prop := s.I 1303 w 0 = nI K.length ∧ Row s 1302 w K
/-- the first class of a title -/
def hTt (σ : Sg) (K : List Nat) (nm : Int64) : Option Nat := K.find? fun k => decide (σ.L 1100 k 0 = nm)
def wA1 (σ : Sg) (K : List Nat) (k : Nat) : List Nat := if hTt σ K (σ.L 1100 k 0) = none then K ++ [k] else K
def wAd (σ : Sg) (K ks : List Nat) : List Nat := ks.foldl (wA1 σ) K
/-- the classes of a build -/
def kdL (b nk : Nat) : List Nat := (List.range nk).map fun i => 12 * b + i
def pWl (w c i : Nat) : Bool := rg 1301 1303 c && decide (i = w)
theorem pWl_w {w c : Nat} (h : 1301 < c ∧ c ≤ 1303) : pWl w c w = true := sorry
theorem pWl_c {w c i : Nat} (h : c ≤ 1301 ∨ 1303 < c) : pWl w c i = false := sorry
theorem pWl_i {w c i : Nat} (h : ¬ i = w) : pWl w c i = false := sorry
section WLS
variable {s σ : Sg} {w : Nat} {K ks : List Nat} {nm : Int64}
theorem WLs.n (h : WLs s w K) (hl : K.length ≤ 64) : nWd s w = K.length := sorry
theorem WLs.k (h : WLs s w K) {j k : Nat} (e : K[j]? = some k) : wK s w j = k ∧ s.R 1302 w j = some k := sorry
theorem WLs.ok (h : WLs s w K) (hl : K.length ≤ 62) (hk : ∀ k, k ∈ K → k < 194) : WOK s w := sorry
theorem WLs.kl (h : WLs s w K) (hl : K.length ≤ 64) : wKs s w = K := sorry
theorem WLs.find (h : WLs s w K) (hl : K.length ≤ 64) : wFind s w nm = hTt s K nm := sorry
theorem WLs.snoc (h : WLs s w K) (hl : K.length < 64) {k : Nat} {x y : Int32} (hx : x = s.I 1303 w 0 + 1) (hy : y = s.I 1303 w 0) : WLs (sR (sI s 1303 w 0 x) 1302 w y.toNatClampNeg (some k)) w (K ++ [k]) := sorry
theorem WLs.fl {t : Sg} {p : Nat → Nat → Bool} (h : WLs s w K) (hF : Fl p s t) (h1 : p 1302 w = false) (h2 : p 1303 w = false) : WLs t w K := sorry
theorem hTt_fl (e : ∀ k, s.L 1100 k 0 = σ.L 1100 k 0) : hTt s K nm = hTt σ K nm := sorry
theorem wA1_len {k : Nat} : (wA1 σ K k).length ≤ K.length + 1 := sorry
theorem wAd_len : ∀ (ks K : List Nat), (wAd σ K ks).length ≤ K.length + ks.length := sorry
theorem wAd_ge : ∀ (ks K : List Nat), K.length ≤ (wAd σ K ks).length := sorry
theorem wA1_mem {k x : Nat} (h : x ∈ wA1 σ K k) : x ∈ K ∨ x = k := sorry
theorem wAd_mem : ∀ (ks K : List Nat) {x : Nat}, x ∈ wAd σ K ks → x ∈ K ∨ x ∈ ks := sorry
theorem wAd_app {a c : List Nat} : wAd σ K (a ++ c) = wAd σ (wAd σ K a) c := sorry
theorem kdL_len {b nk : Nat} : (kdL b nk).length = nk := sorry
theorem kdL_mem {b nk k : Nat} : k ∈ kdL b nk ↔ ∃ i, i < nk ∧ k = 12 * b + i := sorry
theorem kdL_succ {b n : Nat} : kdL b (n + 1) = kdL b n ++ [12 * b + n] := sorry
theorem kdL_sp {b j : Nat} : ∀ (m : Nat), ∃ r, kdL b (j + m) = kdL b j ++ r := sorry
/-- a class that is there stays there -/
theorem wA1_in {k : Nat} (h : ¬ hTt σ K nm = none) : ¬ hTt σ (wA1 σ K k) nm = none := sorry
theorem wAd_in : ∀ (ks K : List Nat), ¬ hTt σ K nm = none → ¬ hTt σ (wAd σ K ks) nm = none := sorry
theorem wA1_own {k : Nat} : ¬ hTt σ (wA1 σ K k) (σ.L 1100 k 0) = none := sorry
theorem wAd_own : ∀ (ks K : List Nat) {k : Nat}, k ∈ ks → ¬ hTt σ (wAd σ K ks) (σ.L 1100 k 0) = none := sorry
/-- classes that are there are not added -/
theorem wAd_no : ∀ (ks K : List Nat), (∀ k, k ∈ ks → ¬ hTt σ K (σ.L 1100 k 0) = none) → wAd σ K ks = K := sorry
theorem wAd_cg (e : ∀ k, s.L 1100 k 0 = σ.L 1100 k 0) : ∀ (ks K : List Nat), wAd s K ks = wAd σ K ks := sorry
end WLS
section ADD
variable {l : Launch} {G : Gl} {d : Nat} {σ : Sg} {w b nk : Nat} {K : List Nat}
theorem sp_X3_add (hG : GOK G) (hd : 2 ≤ d) (hw : w < cnt 3) (hb : b < 16) (hn : σ.I 2007 b 0 = nI nk) (hnk : nk ≤ 12) (hK : WLs σ w K) (hk : ∀ k, k ∈ K → k < 194) (hl : (wAd σ K (kdL b nk)).length ≤ 62) : CT l G yX3_add (ws_ yX3_add cX3_add 3 none) d [.ref (G.adr 3 w), rv G 10 (some b)] σ (rV (fun s => Fl (pWl w) σ s ∧ WLs s w (wAd σ K (kdL b nk)))) := sorry
theorem sp_X0_addBuiltIns (hG : GOK G) (hd : 1 ≤ d) (hw : w < cnt 3) (hK : WLs σ w K) (hl : K.length + 2 ≤ 62) : CT l G yX0_addBuiltIns (ws_ yX0_addBuiltIns cX0_addBuiltIns 3 none) d [rv G 3 (some w), rv G 1 (some 192), rv G 1 (some 193)] σ (rV (fun s => Fl (pWl w) σ s ∧ WLs s w (K ++ [192, 193]))) := sorry
end ADD
