/-! LinkHouse: the calls that only ask -/
/-- a count within an array -/
def Cnt (x : Int32) (N : Nat) : Prop := ∃ n, n ≤ N ∧ x = nI n
theorem Cnt.n {x : Int32} {N : Nat} (h : Cnt x N) (hN : N < 2 ^ 31) : x.toNatClampNeg ≤ N ∧ x = nI x.toNatClampNeg := sorry
section SPY
variable {l : Launch} {G : Gl} {σ : Sg}
def a_octet (σ : Sg) (x : Int32) : Int32 := if inN (σ.I 1003 0 0).toNatClampNeg x = true then (σ.I 1002 0 x.toNatClampNeg) &&& 255 else -1
theorem sp_X0_octet (hG : GOK G) {d : Nat} (hd : 2 ≤ d) (hc : Cnt (σ.I 1003 0 0) 1000) (x : Int32) : CT l G yX0_octet (ws_ yX0_octet cX0_octet 2 (some .int)) d [.ref (G.adr 0 0), .int x] σ (rI (a_octet σ x) (fun s => s = σ)) := sorry
def a_builds (σ : Sg) (x : Int32) : Int32 := if inN 5 x = true then σ.I 1007 0 x.toNatClampNeg else -1
theorem sp_X0_builds (hG : GOK G) {d : Nat} (hd : 2 ≤ d) (x : Int32) : CT l G yX0_builds (ws_ yX0_builds cX0_builds 2 (some .int)) d [.ref (G.adr 0 0), .int x] σ (rI (a_builds σ x) (fun s => s = σ)) := sorry
def a_picked (σ : Sg) (x : Int32) : Int32 := if inN 5 x = true then σ.I 1008 0 x.toNatClampNeg else -1
theorem sp_X0_picked (hG : GOK G) {d : Nat} (hd : 2 ≤ d) (x : Int32) : CT l G yX0_picked (ws_ yX0_picked cX0_picked 2 (some .int)) d [.ref (G.adr 0 0), .int x] σ (rI (a_picked σ x) (fun s => s = σ)) := sorry
def a_number (σ : Sg) (x : Int32) : Int32 := if inN (σ.I 1911 0 0).toNatClampNeg x = true then σ.I 1910 0 x.toNatClampNeg else 0
theorem sp_X0_number (hG : GOK G) {d : Nat} (hd : 2 ≤ d) (hc : Cnt (σ.I 1911 0 0) 100) (x : Int32) : CT l G yX0_number (ws_ yX0_number cX0_number 2 (some .int)) d [.ref (G.adr 0 0), .int x] σ (rI (a_number σ x) (fun s => s = σ)) := sorry
def a_event (σ : Sg) (x : Int32) : Int32 := if inN (σ.I 1803 1 0).toNatClampNeg x = true then σ.I 1802 1 x.toNatClampNeg else -1
theorem sp_X0_event (hG : GOK G) {d : Nat} (hd : 2 ≤ d) (hc : Cnt (σ.I 1803 1 0) 268) (x : Int32) : CT l G yX0_event (ws_ yX0_event cX0_event 2 (some .int)) d [.ref (G.adr 0 0), .int x] σ (rI (a_event σ x) (fun s => s = σ)) := sorry
def a_looked (σ : Sg) (x : Int32) : Int32 := if inN (σ.I 1024 0 0).toNatClampNeg x = true then σ.I 1023 0 x.toNatClampNeg else -1
theorem sp_X0_looked (hG : GOK G) {d : Nat} (hd : 2 ≤ d) (hc : Cnt (σ.I 1024 0 0) 132) (x : Int32) : CT l G yX0_looked (ws_ yX0_looked cX0_looked 2 (some .int)) d [.ref (G.adr 0 0), .int x] σ (rI (a_looked σ x) (fun s => s = σ)) := sorry
theorem sp_X0_size (hG : GOK G) {d : Nat} (hd : 1 ≤ d) : CT l G yX0_size (ws_ yX0_size cX0_size 1 (some .int)) d [.ref (G.adr 0 0)] σ (rI (σ.I 1003 0 0) (fun s => s = σ)) := sorry
theorem sp_X0_place (hG : GOK G) {d : Nat} (hd : 1 ≤ d) : CT l G yX0_place (ws_ yX0_place cX0_place 1 (some .int)) d [.ref (G.adr 0 0)] σ (rI (σ.I 1020 0 0) (fun s => s = σ)) := sorry
theorem sp_X0_value (hG : GOK G) {d : Nat} (hd : 1 ≤ d) : CT l G yX0_value (ws_ yX0_value cX0_value 1 (some .int)) d [.ref (G.adr 0 0)] σ (rI (σ.I 1914 0 0) (fun s => s = σ)) := sorry
def a_brokenAt (σ : Sg) (x y : Int32) : Int32 := if inN (σ.I 1026 0 0).toNatClampNeg x = true ∧ inN 3 y = true then σ.I 1025 0 (3 * x + y).toNatClampNeg else -1
theorem sp_X0_brokenAt (hG : GOK G) {d : Nat} (hd : 2 ≤ d) (hc : Cnt (σ.I 1026 0 0) 5000) (x y : Int32) : CT l G yX0_brokenAt (ws_ yX0_brokenAt cX0_brokenAt 3 (some .int)) d [.ref (G.adr 0 0), .int x, .int y] σ (rI (a_brokenAt σ x y) (fun s => s = σ)) := sorry
def a_change (σ : Sg) (x y : Int32) : Int32 := if inN (σ.I 1028 0 0).toNatClampNeg x = true ∧ inN 5 y = true then σ.I 1027 0 (5 * x + y).toNatClampNeg else -1
theorem sp_X0_change (hG : GOK G) {d : Nat} (hd : 2 ≤ d) (hc : Cnt (σ.I 1028 0 0) 4000) (x y : Int32) : CT l G yX0_change (ws_ yX0_change cX0_change 3 (some .int)) d [.ref (G.adr 0 0), .int x, .int y] σ (rI (a_change σ x y) (fun s => s = σ)) := sorry
def a_told (σ : Sg) (x : Int32) : Int32 := if x = 0 then σ.I 1912 0 0 else if x = 1 then σ.I 1911 0 0 else if x = 2 then σ.I 1907 0 0 else if x = 3 then σ.I 1909 0 0 else if x = 4 then σ.I 1803 1 0 else if x = 5 then σ.I 1303 0 0 else if x = 6 then σ.I 1001 0 0 else if x = 7 then σ.I 1005 0 0 else -1
theorem toInt_eq {x : Int32} {n : Int32} (h : x.toInt = n.toInt) : x = n := sorry
theorem sp_X0_told (hG : GOK G) {d : Nat} (hd : 1 ≤ d) (x : Int32) : CT l G yX0_told (ws_ yX0_told cX0_told 2 (some .int)) d [.ref (G.adr 0 0), .int x] σ (rI (a_told σ x) (fun s => s = σ)) := sorry
def a_classes (σ : Sg) (x y : Int32) : Int32 := match hB σ x y with
  | none => -1
  | some b => σ.I 2007 b 0
theorem sp_X0_classes (hG : GOK G) {d : Nat} (hd : 3 ≤ d) (hH : HOK σ) (x y : Int32) : CT l G yX0_classes (ws_ yX0_classes cX0_classes 3 (some .int)) d [.ref (G.adr 0 0), .int x, .int y] σ (rI (a_classes σ x y) (fun s => s = σ)) := sorry
def a_uses (σ : Sg) (x y : Int32) : Int32 := match hB σ x y with
  | none => -1
  | some b => σ.I 2009 b 0
theorem sp_X0_uses (hG : GOK G) {d : Nat} (hd : 3 ≤ d) (hH : HOK σ) (x y : Int32) : CT l G yX0_uses (ws_ yX0_uses cX0_uses 3 (some .int)) d [.ref (G.adr 0 0), .int x, .int y] σ (rI (a_uses σ x y) (fun s => s = σ)) := sorry
def a_use (σ : Sg) (x1 x2 x3 x4 : Int32) : Int32 := match hU σ x1 x2 x3 with
  | none => -1
  | some u => if inN 2 x4 = true then (if x4 = 0 then σ.I 1700 u 0 else σ.I 1127 (uBy σ u) 0) else -1
theorem sp_X0_use (hG : GOK G) {d : Nat} (hd : 4 ≤ d) (hH : HOK σ) (hU1 : UBY σ) (x1 x2 x3 x4 : Int32) : CT l G yX0_use (ws_ yX0_use cX0_use 6 (some .int)) d [.ref (G.adr 0 0), .int x1, .int x2, .int x3, .int x4] σ (rI (a_use σ x1 x2 x3 x4) (fun s => s = σ)) := sorry
def layS (σ : Sg) (v x : Int32) : Sg := sI (sI σ 1001 0 0 (σ.I 1001 0 0 + 1)) 1000 0 (σ.I 1001 0 0).toNatClampNeg (vp_nar .byte ((v >>> (x &&& 31)).toInt8.toInt32))
def lay4 (σ : Sg) (v : Int32) : Sg := layS (layS (layS (layS σ v 24) v 16) v 8) v 0
theorem layS_n {σ : Sg} {v x : Int32} {n : Nat} (h : σ.I 1001 0 0 = nI n) : (layS σ v x).I 1001 0 0 = nI (n + 1) := sorry
theorem lay4_n {σ : Sg} {v : Int32} {n : Nat} (h : σ.I 1001 0 0 = nI n) : (lay4 σ v).I 1001 0 0 = nI (n + 4) := sorry
theorem sp_X0_lay (hG : GOK G) {d : Nat} (hd : 1 ≤ d) {n : Nat} (hn : n + 4 ≤ 4000) (h : σ.I 1001 0 0 = nI n) (v : Int32) : CT l G yX0_lay (ws_ yX0_lay cX0_lay 3 none) d [.ref (G.adr 0 0), .int v] σ (rV (fun s => s = lay4 σ v)) := sorry
def feedS (σ : Sg) (a b c d e : Int32) : Sg := lay4 (lay4 (lay4 (lay4 (lay4 σ a) b) c) d) e
theorem sp_X0_feed (hG : GOK G) {d : Nat} (hd : 2 ≤ d) {n : Nat} (hn : n ≤ 4000) (h : σ.I 1001 0 0 = nI n) (a b c e f : Int32) : CT l G yX0_feed (ws_ yX0_feed cX0_feed 6 (some .int)) d [.ref (G.adr 0 0), .int a, .int b, .int c, .int e, .int f] σ (rI (if n + 20 ≤ 4000 then nI (n + 20) else -3) (fun s => s = if n + 20 ≤ 4000 then feedS σ a b c e f else σ)) := sorry
theorem sp_X0_cut (hG : GOK G) {d : Nat} (hd : 1 ≤ d) {n : Nat} (hn : n ≤ 4000) (h : σ.I 1001 0 0 = nI n) (x : Int32) : CT l G yX0_cut (ws_ yX0_cut cX0_cut 2 (some .int)) d [.ref (G.adr 0 0), .int x] σ (rI (if inN (n + 1) x = true then nI (n - x.toNatClampNeg) else -1) (fun s => s = if inN (n + 1) x = true then sI σ 1001 0 0 (nI (n - x.toNatClampNeg)) else σ)) := sorry
end SPY
