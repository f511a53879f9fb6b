/-! TOOLS: frames by columns, numbers; LinkHouse reads tokens. -/
/-- but for the columns of p, s is as σ -/
def Fl (p : Nat → Nat → Bool) (σ s : Sg) : Prop := ∀ c i, p c i = false → ∀ j, s.I c i j = σ.I c i j ∧ s.B c i j = σ.B c i j ∧ s.L c i j = σ.L c i j ∧ s.R c i j = σ.R c i j
theorem Fl.refl {p : Nat → Nat → Bool} {σ : Sg} : Fl p σ σ := sorry
theorem Fl.trans {p : Nat → Nat → Bool} {a b c : Sg} (h : Fl p a b) (k : Fl p b c) : Fl p a c := sorry
theorem Fl.mono {p q : Nat → Nat → Bool} {a b : Sg} (hpq : ∀ c i, p c i = true → q c i = true) (h : Fl p a b) : Fl q a b := sorry
theorem Fl.sI {p : Nat → Nat → Bool} {σ s : Sg} {c i j : Nat} {v : Int32} (h : Fl p σ s) (hp : p c i = true) : Fl p σ (sI s c i j v) := sorry
theorem Fl.sB {p : Nat → Nat → Bool} {σ s : Sg} {c i j : Nat} {v : Bool} (h : Fl p σ s) (hp : p c i = true) : Fl p σ (sB s c i j v) := sorry
theorem Fl.sL {p : Nat → Nat → Bool} {σ s : Sg} {c i j : Nat} {v : Int64} (h : Fl p σ s) (hp : p c i = true) : Fl p σ (sL s c i j v) := sorry
theorem Fl.sR {p : Nat → Nat → Bool} {σ s : Sg} {c i j : Nat} {v : Option Nat} (h : Fl p σ s) (hp : p c i = true) : Fl p σ (sR s c i j v) := sorry
theorem u3_u3 {α : Type} {f : Nat → Nat → Nat → α} {c i j : Nat} {v w : α} : u3 (u3 f c i j v) c i j w = u3 f c i j w := sorry
theorem u3_id {α : Type} {f : Nat → Nat → Nat → α} {c i j : Nat} : u3 f c i j (f c i j) = f := sorry
theorem sI_sI {σ : Sg} {c i j : Nat} {v w : Int32} : sI (sI σ c i j v) c i j w = sI σ c i j w := sorry
theorem sI_id {σ : Sg} {c i j : Nat} {v : Int32} (h : σ.I c i j = v) : sI σ c i j v = σ := sorry
theorem sL_id {σ : Sg} {c i j : Nat} : sL σ c i j (σ.L c i j) = σ := sorry
theorem sL_s {σ : Sg} {c i j : Nat} {v : Int64} : (sL σ c i j v).L c i j = v := sorry
theorem sL_j {σ : Sg} {c i j j' : Nat} {v : Int64} (h : j' ≠ j) : (sL σ c i j v).L c i j' = σ.L c i j' := sorry
theorem sL_c {σ : Sg} {c c' i i' j j' : Nat} {v : Int64} (h : c' ≠ c) : (sL σ c i j v).L c' i' j' = σ.L c' i' j' := sorry
theorem sB_j {σ : Sg} {c i j j' : Nat} {v : Bool} (h : j' ≠ j) : (sB σ c i j v).B c i j' = σ.B c i j' := sorry
theorem sB_c {σ : Sg} {c c' i i' j j' : Nat} {v : Bool} (h : c' ≠ c) : (sB σ c i j v).B c' i' j' = σ.B c' i' j' := sorry
theorem nI_eqL {a b : Nat} (ha : a < 2 ^ 31) (hb : b < 2 ^ 31) : (nI a = @OfNat.ofNat Int32 b _) ↔ a = b := sorry
theorem nI_leL {a b : Nat} (ha : a < 2 ^ 31) (hb : b < 2 ^ 31) : (nI a ≤ @OfNat.ofNat Int32 b _) ↔ a ≤ b := sorry
theorem nI_leR {a b : Nat} (ha : a < 2 ^ 31) (hb : b < 2 ^ 31) : (@OfNat.ofNat Int32 a _ ≤ nI b) ↔ a ≤ b := sorry
theorem nI_ltL {a b : Nat} (ha : a < 2 ^ 31) (hb : b < 2 ^ 31) : (nI a < @OfNat.ofNat Int32 b _) ↔ a < b := sorry
theorem nI_ltR {a b : Nat} (ha : a < 2 ^ 31) (hb : b < 2 ^ 31) : (@OfNat.ofNat Int32 a _ < nI b) ↔ a < b := sorry
theorem nI_neg2 {a : Nat} (ha : a < 2 ^ 31) : ¬ nI a = -2 := sorry
/-- the columns in which a text is read: Refusal, Tree, the tokens of build b -/
def pT (b c i : Nat) : Bool := rg 1405 1407 c || (rg 1502 1517 c || (rg 2002 2005 c && Nat.beq i b))
theorem pT_b3 {b : Nat} : pT b 2003 b = true := sorry
theorem pT_b4 {b : Nat} : pT b 2004 b = true := sorry
theorem pT_b5 {b : Nat} : pT b 2005 b = true := sorry
/-- the text at hand, in build b -/
def LX (σ : Sg) (b : Nat) (B : Nat → Nat) (n : Nat) : Prop := σ.R 1502 0 0 = some b ∧ b < 16 ∧ BOK B n ∧ σ.I 2002 b 0 = nI n ∧ (∀ k, k < n → σ.I 2001 b k &&& 255 = nI (B k)) ∧ ∀ k, k < 30 → σ.L 1501 0 k = lN (yWs.getD k 0)
theorem LX.fl {σ s : Sg} {b n : Nat} {B : Nat → Nat} (h : Fl (pT b) σ s) (hX : LX σ b B n) : LX s b B n := sorry
section SPX
variable {l : Launch} {G : Gl} {d : Nat} {σ : Sg}
theorem sp_X5_byteAt (hG : GOK G) (hd : 1 ≤ d) {b n : Nat} {B : Nat → Nat} (hX : LX σ b B n) {k : Nat} (hk : k < 5000) {x : Int32} (hx : x = nI k) : CT l G yX5_byteAt (ws_ yX5_byteAt cX5_byteAt 2 (some .int)) d [.ref (G.adr 5 0), .int x] σ (rI (nI (B k)) (fun s => s = σ)) := sorry
theorem sp_X5_within (hG : GOK G) (hd : 1 ≤ d) {x lo hi : Nat} (h1 : x < 2 ^ 31) (h2 : lo < 2 ^ 31) (h3 : hi < 2 ^ 31) : CT l G yX5_within (ws_ yX5_within cX5_within 3 (some .boolean)) d [.int (nI x), .int (nI lo), .int (nI hi)] σ (rZ (decide (lo ≤ x ∧ x ≤ hi)) (fun s => s = σ)) := sorry
theorem sp_X0_within2 (hG : GOK G) (hd : 1 ≤ d) {x lo hi : Nat} (h1 : x < 2 ^ 31) (h2 : lo < 2 ^ 31) (h3 : hi < 2 ^ 31) : CT l G yX0_within (ws_ yX0_within cX0_within 3 (some .boolean)) d [.int (nI x), .int (nI lo), .int (nI hi)] σ (rZ (decide (lo ≤ x ∧ x ≤ hi)) (fun s => s = σ)) := sorry
theorem sp_X5_isGreat (hG : GOK G) (hd : 2 ≤ d) {b n : Nat} {B : Nat → Nat} (hX : LX σ b B n) {k : Nat} (hk : k < 5000) {x : Int32} (hx : x = nI k) : CT l G yX5_isGreat (ws_ yX5_isGreat cX5_isGreat 2 (some .boolean)) d [.ref (G.adr 5 0), .int x] σ (rZ (decide (65 ≤ B k ∧ B k ≤ 90)) (fun s => s = σ)) := sorry
theorem sp_X0_lettered (hG : GOK G) (hd : 2 ≤ d) {c : Nat} (hc : c < 256) {x : Int32} (hx : x = nI c) : CT l G yX0_lettered (ws_ yX0_lettered cX0_lettered 1 (some .int)) d [.int x] σ (rI (nI (yLt c)) (fun s => s = σ)) := sorry
/-- what a reader of a token k leaves, its number being r -/
def oLx (G : Gl) (σ : Sg) (r : Nat) (k : Tk) (o : Outcome) (st : Sg) : Prop := (k.1 = 999 ∧ o = .threw (G.adr 4 0) ∧ ∃ v, st = sI (sI (sI σ 1506 0 0 v) 1406 0 0 1) 1407 0 0 (nI k.2.2.1)) ∨ (¬ k.1 = 999 ∧ o = .returned none ∧ ∃ v, st = sL (sI (sI σ 1506 0 0 (nI k.2.2.2)) 1503 0 r (nI k.1)) 1504 0 r v ∧ ((k.1 = 1 ∨ k.1 = 2 ∨ k.1 = 3 ∨ 200 ≤ k.1) → v = lN k.2.1))
theorem sp_X4_of (hG : GOK G) (hd : 1 ≤ d) {x y : Int32} : CT l G yX4_of (ws_ yX4_of cX4_of 3 (some (.object "LinkHouse$Refusal"))) d [.ref (G.adr 4 0), .int x, .int y] σ (rR G 4 (some 0) (fun s => s = sI (sI σ 1406 0 0 x) 1407 0 0 y)) := sorry
theorem shl6 {v y : Nat} (hv : v < 2 ^ 54) (hy : y < 64) : (lN v <<< (((6 : Int32)).toInt64 &&& 63)) ||| ((nI y).toInt64) = lN (64 * v + y) := sorry
theorem sp_X5_sign (hG : GOK G) (hd : 2 ≤ d) {b n : Nat} {B : Nat → Nat} (hX : LX σ b B n) {s r : Nat} (hs : s < n) (hr : r < 702) (h5 : σ.I 1505 0 0 = nI r) (h6 : σ.I 1506 0 0 = nI s) {x : Int32} (hx : x = nI (B s)) : CT l G yX5_sign (ws_ yX5_sign cX5_sign 3 none) d [.ref (G.adr 5 0), .int x] σ (oLx G σ r (if ySg (B s) = true then (if B s = 61 ∧ B (s + 1) = 61 then (4, 0, s, s + 2) else (B s, 0, s, s + 1)) else (999, 0, s, s + 1))) := sorry
theorem sp_X5_digits (hG : GOK G) (hd : 2 ≤ d) {b n : Nat} {B : Nat → Nat} (hX : LX σ b B n) {s r : Nat} (hs : s < n) (hr : r < 702) (h5 : σ.I 1505 0 0 = nI r) (h6 : σ.I 1506 0 0 = nI s) : CT l G yX5_digits (ws_ yX5_digits cX5_digits 4 none) d [.ref (G.adr 5 0)] σ (oLx G σ r (yTn B s (yDe B n s))) := sorry
end SPX
