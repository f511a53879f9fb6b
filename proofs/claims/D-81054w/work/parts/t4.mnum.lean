/-! The model numbers THE WORLD. -/
def pNw (c _i : Nat) : Bool := rg 2228 2231 c
theorem pNw_no {c i : Nat} (h : c ≤ 2228 ∨ 2231 < c) : pNw c i = false := sorry
theorem pNw_y {c i : Nat} (h : 2228 < c ∧ c ≤ 2231) : pNw c i = true := sorry
/-- the numbers of the classes W -/
def NwI (σ s : Sg) (W : List Nat) : Prop := Fl pNw σ s ∧ s.I 2229 0 0 = nI W.length ∧ (∀ (j k : Nat), W[j]? = some k → s.I 2230 0 j = nI (cM k) ∧ s.I 2231 0 (cM k) = nI j) ∧ ∀ c, c < 216 → (∀ k, k ∈ W → ¬ cM k = c) → s.I 2231 0 c = -2
/-- the classes of the libraries, each once -/
def FLb (τ σ : Sg) (F : Nat → List Nat) : Prop := (∀ k, k < 5 → (σ.I 2190 0 k = -2 ∧ F k = []) ∨ ∃ b nk, b < 16 ∧ σ.I 2190 0 k = nI b ∧ NmE τ σ b nk ∧ F k = kdL b nk) ∧ ∀ k k' x, k < 5 → k' < 5 → x ∈ F k → x ∈ F k' → k = k'
section NUM
variable {l : Launch} {G : Gl} {d : Nat} {τ σ s : Sg} {W : List Nat} {F : Nat → List Nat}
theorem sp_X11_intoWorld (hG : GOK G) (hd : 1 ≤ d) {n c : Nat} (hn : σ.I 2229 0 0 = nI n) (h6 : n < 64) (hc : c < 216) {x : Int32} (hx : x = nI c) : CT l G yX11_intoWorld (ws_ yX11_intoWorld cX11_intoWorld 2 none) d [.ref (G.adr 11 0), .int x] σ (rV (fun s => s = sI (sI (sI σ 2230 0 n (nI c)) 2231 0 c (nI n)) 2229 0 0 (nI (n + 1)))) := sorry
theorem NwI.add (h : NwI σ s W) {k : Nat} (hk : k < 194) (hW : ∀ x, x ∈ W → x < 194) (hn : ¬ k ∈ W) : NwI σ (sI (sI (sI s 2230 0 W.length (nI (cM k))) 2231 0 (cM k) (nI W.length)) 2229 0 0 (nI (W.length + 1))) (W ++ [k]) := sorry
theorem mFnd_fl {p : Nat → Nat → Bool} (hF : Fl p σ s) (h : ∀ c, c = 2107 ∨ c = 2123 ∨ c = 2124 ∨ c = 2190 ∨ c = 2191 → p c 0 = false) {nm : Int64} : mFnd s nm = mFnd σ nm := sorry
theorem MWO.fl {p : Nat → Nat → Bool} (hF : Fl p σ s) (h : ∀ c, c = 2123 ∨ c = 2190 ∨ c = 2191 → p c 0 = false) (hM : MWO σ) : MWO s := sorry
/-- one class more -/
def prF (F : Nat → List Nat) (k j : Nat) : List Nat := (List.range k).flatMap F ++ (F k).take j
theorem FLb.lt (h : FLb τ σ F) {k x : Nat} (hk : k < 5) (hx : x ∈ F k) : x < 192 := sorry
theorem FLb.le (h : FLb τ σ F) {k : Nat} (hk : k < 5) : (F k).length ≤ 12 := sorry
theorem FLb.ln (h : FLb τ σ F) : ∀ (k : Nat), k ≤ 5 → ((List.range k).flatMap F).length ≤ 12 * k := sorry
theorem FLb.mem (h : FLb τ σ F) {k j x : Nat} (hk : k < 5) (hx : x ∈ prF F k j) : (∃ k', k' < k ∧ x ∈ F k') ∨ x ∈ (F k).take j := sorry
/-- the full row is what came, this class, the rest -/
theorem FLb.spl {k j x : Nat} (hk : k < 5) (e : (F k)[j]? = some x) : ∃ r, (List.range 5).flatMap F = prF F k j ++ (x :: r) := sorry
end NUM
