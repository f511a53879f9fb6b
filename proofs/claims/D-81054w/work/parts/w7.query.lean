/-! THE HOUSE: what is asked and changes nothing. -/
section QRY
variable {l : Launch} {G : Gl} {d n : Nat} {s : Sg} {Q : Sg → Prop}
theorem Two.q {y1 y2 : MethodName} {w1 w2 : List Cond} {av : List Value} {v : Int32} (h1 : CT l G y1 w1 d (.ref (G.adr 0 0) :: av) s (rI v (fun t => t = s))) (h2 : CT l G y2 w2 d (.ref (G.adr 11 0) :: av) s (rI v (fun t => t = s))) (hQ : Q s) : Two l G d y1 w1 y2 w2 av s Q := sorry
theorem INV.up (h : INV s n) : INV s (n + 1) := sorry
theorem TdI.cnt {c1 c2 c3 c4 w N : Nat} (h : TdI s c1 c2 c3 c4 w N) (hN' : N < 2 ^ 31) : Cnt (s.I c1 0 0) N ∧ ∃ n, n ≤ N ∧ (s.I c1 0 0).toNatClampNeg = n ∧ s.I c2 0 0 = nI n ∧ ∀ k, k < w * n → s.I c3 0 k = s.I c4 0 k := sorry
theorem inv_size (hG : GOK G) (hd : 3 ≤ d) (h : INV s n) : Two l G d yX0_size (ws_ yX0_size cX0_size 1 (some .int)) yX11_size (ws_ yX11_size cX11_size 1 (some .int)) [] s (fun u => INV u (n + 1)) := sorry
theorem inv_octet (hG : GOK G) (hd : 3 ≤ d) (h : INV s n) (x : Int32) : Two l G d yX0_octet (ws_ yX0_octet cX0_octet 2 (some .int)) yX11_octet (ws_ yX11_octet cX11_octet 2 (some .int)) [.int x] s (fun u => INV u (n + 1)) := sorry
theorem inv_place (hG : GOK G) (hd : 3 ≤ d) (h : INV s n) : Two l G d yX0_place (ws_ yX0_place cX0_place 1 (some .int)) yX11_place (ws_ yX11_place cX11_place 1 (some .int)) [] s (fun u => INV u (n + 1)) := sorry
theorem inv_value (hG : GOK G) (hd : 3 ≤ d) (h : INV s n) : Two l G d yX0_value (ws_ yX0_value cX0_value 1 (some .int)) yX11_value (ws_ yX11_value cX11_value 1 (some .int)) [] s (fun u => INV u (n + 1)) := sorry
theorem inv_builds (hG : GOK G) (hd : 3 ≤ d) (h : INV s n) (x : Int32) : Two l G d yX0_builds (ws_ yX0_builds cX0_builds 2 (some .int)) yX11_builds (ws_ yX11_builds cX11_builds 2 (some .int)) [.int x] s (fun u => INV u (n + 1)) := sorry
theorem inv_picked (hG : GOK G) (hd : 3 ≤ d) (h : INV s n) (x : Int32) : Two l G d yX0_picked (ws_ yX0_picked cX0_picked 2 (some .int)) yX11_picked (ws_ yX11_picked cX11_picked 2 (some .int)) [.int x] s (fun u => INV u (n + 1)) := sorry
theorem inv_classes (hG : GOK G) (hd : 4 ≤ d) (h : INV s n) (x y : Int32) : Two l G d yX0_classes (ws_ yX0_classes cX0_classes 3 (some .int)) yX11_classes (ws_ yX11_classes cX11_classes 4 (some .int)) [.int x, .int y] s (fun u => INV u (n + 1)) := sorry
theorem inv_uses (hG : GOK G) (hd : 4 ≤ d) (h : INV s n) (x y : Int32) : Two l G d yX0_uses (ws_ yX0_uses cX0_uses 3 (some .int)) yX11_uses (ws_ yX11_uses cX11_uses 4 (some .int)) [.int x, .int y] s (fun u => INV u (n + 1)) := sorry
theorem inv_looked (hG : GOK G) (hd : 3 ≤ d) (h : INV s n) (x : Int32) : Two l G d yX0_looked (ws_ yX0_looked cX0_looked 2 (some .int)) yX11_looked (ws_ yX11_looked cX11_looked 2 (some .int)) [.int x] s (fun u => INV u (n + 1)) := sorry
theorem inv_brokenAt (hG : GOK G) (hd : 3 ≤ d) (h : INV s n) (x y : Int32) : Two l G d yX0_brokenAt (ws_ yX0_brokenAt cX0_brokenAt 3 (some .int)) yX11_brokenAt (ws_ yX11_brokenAt cX11_brokenAt 3 (some .int)) [.int x, .int y] s (fun u => INV u (n + 1)) := sorry
theorem inv_change (hG : GOK G) (hd : 3 ≤ d) (h : INV s n) (x y : Int32) : Two l G d yX0_change (ws_ yX0_change cX0_change 3 (some .int)) yX11_change (ws_ yX11_change cX11_change 3 (some .int)) [.int x, .int y] s (fun u => INV u (n + 1)) := sorry
theorem inv_number (hG : GOK G) (hd : 3 ≤ d) (h : INV s n) (x : Int32) : Two l G d yX0_number (ws_ yX0_number cX0_number 2 (some .int)) yX11_number (ws_ yX11_number cX11_number 2 (some .int)) [.int x] s (fun u => INV u (n + 1)) := sorry
theorem inv_event (hG : GOK G) (hd : 3 ≤ d) (h : INV s n) (x : Int32) : Two l G d yX0_event (ws_ yX0_event cX0_event 2 (some .int)) yX11_event_2 (ws_ yX11_event_2 cX11_event_2 2 (some .int)) [.int x] s (fun u => INV u (n + 1)) := sorry
theorem inv_told (hG : GOK G) (hd : 3 ≤ d) (h : INV s n) (x : Int32) : Two l G d yX0_told (ws_ yX0_told cX0_told 2 (some .int)) yX11_told (ws_ yX11_told cX11_told 2 (some .int)) [.int x] s (fun u => INV u (n + 1)) := sorry
end QRY
