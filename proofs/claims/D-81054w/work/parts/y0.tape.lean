/-! THE HOUSE: tapes: feed, cut. -/
/-- columns of the tapes and of OUT's side of text -/
def pTp (c i : Nat) : Bool := (c == 1000 || c == 1001 || c == 2100 || c == 2101 || c == 1029 || c == 2104) && i == 0
theorem pTp_no {c i : Nat} (h : c ≠ 1000 ∧ c ≠ 1001 ∧ c ≠ 2100 ∧ c ≠ 2101 ∧ c ≠ 1029 ∧ c ≠ 2104) : pTp c i = false := sorry
/-- LinkHouse's tape holds the n bytes B -/
def LTp (s : Sg) (B : Nat → Nat) (n : Nat) : Prop := s.I 1001 0 0 = nI n ∧ ∀ k, k < n → s.I 1000 0 k = (nI (B k)).toInt8.toInt32
/-- the model's tape -/
def MTp (s : Sg) (B : Nat → Nat) (n : Nat) : Prop := s.I 2101 0 0 = nI n ∧ ∀ k, k < n → s.I 2100 0 k = nI (B k)
section TAP
variable {l : Launch} {G : Gl} {d n : Nat} {s t u : Sg} {B B' : Nat → Nat}
theorem bKc_h {c : Nat} (h : bKc c = true) : (1099 < c ∧ c ≤ 1127) ∨ (1199 < c ∧ c ≤ 1222) ∨ (1699 < c ∧ c ≤ 1704) ∨ (2000 < c ∧ c ≤ 2013) ∨ (2104 < c ∧ c ≤ 2106) ∨ (2110 < c ∧ c ≤ 2116) ∨ (2122 < c ∧ c ≤ 2188) ∨ (2217 < c ∧ c ≤ 2227) := sorry
theorem TpI.of (h : TpI s) : ∃ B n, n ≤ 4000 ∧ (∀ k, k < n → B k < 256) ∧ LTp s B n ∧ MTp s B n := sorry
theorem TpI.mk (hn : n ≤ 4000) (hB : ∀ k, k < n → B k < 256) (h1 : LTp s B n) (h2 : MTp s B n) : TpI s := sorry
/-- the tapes alone have changed -/
theorem INV.tape (h : INV s n) (hF : Fl pTp s t) (hT : TpI t) : INV t (n + 1) := sorry
/-- a byte of an int -/
def bT (v x : Int32) : Nat := ((v.toUInt32 >>> (x.toUInt32 &&& Int32.toUInt32 31)).toInt32 &&& 255).toNatClampNeg
theorem a255 (w : Int32) : (w &&& 255).toNatClampNeg < 256 ∧ w &&& 255 = nI (w &&& 255).toNatClampNeg := sorry
theorem bT_m (v x : Int32) : (v.toUInt32 >>> (x.toUInt32 &&& Int32.toUInt32 31)).toInt32 &&& 255 = nI (bT v x) := sorry
theorem bT_lt (v x : Int32) : bT v x < 256 := sorry
theorem bv_sh (w : BitVec 32) {k : Nat} (hk : k ≤ 24) : w.sshiftRight k &&& 255#32 = (w >>> k) &&& 255#32 := sorry
theorem sh_eq (v x : Int32) (hx : x = 24 ∨ x = 16 ∨ x = 8 ∨ x = 0) : (v >>> (x &&& 31)) &&& 255 = (v.toUInt32 >>> (x.toUInt32 &&& Int32.toUInt32 31)).toInt32 &&& 255 := sorry
theorem i8_255 (x : Int32) : x.toInt8.toInt32 &&& 255 = x &&& 255 := sorry
theorem bT_l (v x : Int32) (hx : x = 24 ∨ x = 16 ∨ x = 8 ∨ x = 0) : (v >>> (x &&& 31)).toInt8.toInt32 = (nI (bT v x)).toInt8.toInt32 := sorry
/-- four bytes more -/
def apB (B : Nat → Nat) (n : Nat) (v : Int32) (k : Nat) : Nat := if k < n then B k else if k = n then bT v 24 else if k = n + 1 then bT v 16 else if k = n + 2 then bT v 8 else bT v 0
theorem apB_lt (h : ∀ k, k < n → B k < 256) (v : Int32) (k : Nat) : apB B n v k < 256 := sorry
theorem LTp.cg (h : LTp s B n) (e : ∀ k, k < n → B' k = B k) : LTp s B' n := sorry
theorem MTp.cg (h : MTp s B n) (e : ∀ k, k < n → B' k = B k) : MTp s B' n := sorry
theorem sI_u {c i j c' i' j' : Nat} {v : Int32} : (sI s c i j v).I c' i' j' = if c' = c ∧ i' = i ∧ j' = j then v else s.I c' i' j' := sorry
theorem LTp.lay {v x : Int32} (h : LTp s B n) (hn : n < 4000) (hx : x = 24 ∨ x = 16 ∨ x = 8 ∨ x = 0) (e : B n = bT v x) : LTp (layS s v x) B (n + 1) := sorry
theorem LTp.lay4 {v : Int32} (h : LTp s B n) (hn : n + 4 ≤ 4000) : LTp (lay4 s v) (apB B n v) (n + 4) := sorry
theorem layS_f {v x : Int32} : Fl pTp s (layS s v x) := sorry
theorem lay4_f {v : Int32} : Fl pTp s (lay4 s v) := sorry
/-- the model lays a byte -/
def laM (s : Sg) (v x : Int32) : Sg := sI (sI s 2100 0 (s.I 2101 0 0).toNatClampNeg ((v.toUInt32 >>> (x.toUInt32 &&& Int32.toUInt32 31)).toInt32 &&& 255)) 2101 0 0 (s.I 2101 0 0 + 1)
def laM4 (s : Sg) (v : Int32) : Sg := laM (laM (laM (laM s v 24) v 16) v 8) v 0
theorem laM_f {v x : Int32} : Fl pTp s (laM s v x) := sorry
theorem laM4_f {v : Int32} : Fl pTp s (laM4 s v) := sorry
theorem MTp.lay {v x : Int32} (h : MTp s B n) (hn : n < 4000) (e : B n = bT v x) : MTp (laM s v x) B (n + 1) := sorry
theorem MTp.lay4 {v : Int32} (h : MTp s B n) (hn : n + 4 ≤ 4000) : MTp (laM4 s v) (apB B n v) (n + 4) := sorry
theorem sp_X11_four (hG : GOK G) (hd : 1 ≤ d) (hn : n + 4 ≤ 4000) (h : MTp s B n) (v : Int32) : CT l G yX11_four (ws_ yX11_four cX11_four 3 none) d [.ref (G.adr 11 0), .int v] s (rV (fun t => t = laM4 s v)) := sorry
/-- twenty bytes more -/
def fdB (B : Nat → Nat) (n : Nat) (a b c e f : Int32) : Nat → Nat := apB (apB (apB (apB (apB B n a) (n + 4) b) (n + 8) c) (n + 12) e) (n + 16) f
theorem fdB_lt (h : ∀ k, k < n → B k < 256) (a b c e f : Int32) (k : Nat) : fdB B n a b c e f k < 256 := sorry
theorem LTp.feed {a b c e f : Int32} (h : LTp s B n) (hn : n + 20 ≤ 4000) : LTp (feedS s a b c e f) (fdB B n a b c e f) (n + 20) ∧ Fl pTp s (feedS s a b c e f) := sorry
theorem sp_X11_feed (hG : GOK G) (hd : 2 ≤ d) (hn : n ≤ 4000) (h : MTp s B n) (a b c e f : Int32) : CT l G yX11_feed (ws_ yX11_feed cX11_feed 6 (some .int)) d [.ref (G.adr 11 0), .int a, .int b, .int c, .int e, .int f] s (rI (if n + 20 ≤ 4000 then nI (n + 20) else -3) (fun t => if n + 20 ≤ 4000 then MTp t (fdB B n a b c e f) (n + 20) ∧ Fl pTp s t ∧ (∀ c j, c < 2100 → t.I c 0 j = s.I c 0 j) else t = s)) := sorry
/-- FEED -/
theorem inv_feed (hG : GOK G) (hd : 3 ≤ d) (h : INV s n) (a b c e f : Int32) : Two l G d yX0_feed (ws_ yX0_feed cX0_feed 6 (some .int)) yX11_feed (ws_ yX11_feed cX11_feed 6 (some .int)) [.int a, .int b, .int c, .int e, .int f] s (fun u => INV u (n + 1)) := sorry
/-- CUT -/
theorem inv_cut (hG : GOK G) (hd : 3 ≤ d) (h : INV s n) (x : Int32) : Two l G d yX0_cut (ws_ yX0_cut cX0_cut 2 (some .int)) yX11_cut (ws_ yX11_cut cX11_cut 2 (some .int)) [.int x] s (fun u => INV u (n + 1)) := sorry
end TAP
