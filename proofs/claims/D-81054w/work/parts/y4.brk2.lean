/-! THE HOUSE: broken (the model), both. -/
/-- columns that the model's counting changes -/
def pBv (c i : Nat) : Bool := pQe c i || rg 2243 2245 c
theorem pBv_no {c i : Nat} (h : (c ≤ 2191 ∨ (2202 < c ∧ c ≤ 2231) ∨ (2245 < c ∧ c ≤ 2247) ∨ 2273 < c) ∧ ¬ c = 2151 ∧ ¬ c = 2153 ∧ ¬ c = 2155 ∧ ¬ c = 2156) : pBv c i = false := sorry
theorem pBv_e {c i : Nat} (h : pBv c i = false) : pQe c i = false := sorry
theorem pBv_y {c i : Nat} (h : 2243 < c ∧ c ≤ 2245) : pBv c i = true := sorry
theorem pBv_sc (c i : Nat) (h : sc c = true) : pBv c i = false := sorry
section BR2
variable {l : Launch} {G : Gl} {d n b v lib k : Nat} {s t u : Sg} {P : Pg} {M : MSt} {p : Nat → Nat → Bool} {L : List (Nat × Nat × Int32)}
/-- the model while it counts -/
def MBk (p : Nat → Nat → Bool) (P : Pg) (s t : Sg) : Prop := WrI t P ∧ SIv t ∧ Fl p s t ∧ MKp s t ∧ (FoI s → FoI t)
/-- what such a frame must be -/
def MBp (p : Nat → Nat → Bool) : Prop := (∀ c i, ((c ≤ 2191 ∨ (2202 < c ∧ c ≤ 2231) ∨ (2245 < c ∧ c ≤ 2247) ∨ 2273 < c) ∧ ¬ c = 2151 ∧ ¬ c = 2153 ∧ ¬ c = 2155 ∧ ¬ c = 2156) → p c i = false) ∧ ∀ c i, p c i = false → pQe c i = false
theorem MBp_v : MBp pBv := sorry
theorem MBp_e : MBp pQe := sorry
theorem MBk.ask (hp : MBp p) (h : MBk p P s t) (k : WrI u P ∧ SIv u ∧ Fl pQe t u ∧ MKp t u ∧ (FoI t → FoI u)) : MBk p P s u := sorry
/-- another column of it changes -/
theorem MBk.put (h : MBk pBv P s t) (hF : Fl (fun c _ => rg 2243 2245 c) t u) : MBk pBv P s u := sorry
/-- what is asked of a use stays -/
theorem MBk.same (hp : MBp p) (h : MBk p P s t) (hW : WrI s P) : hN t = hN s ∧ (∀ b, hUs t b = hUs s b) ∧ (∀ b, hKs t b = hKs s b) ∧ (∀ lib, hMy t lib = hMy s lib) ∧ (∀ lib k, hSt t lib k = hSt s lib k) ∧ (∀ x, hRs t x = hRs s x ∧ uBy t x = uBy s x) ∧ (∀ x, t.I 1128 x 0 = s.I 1128 x 0) ∧ (∀ x, t.I 1700 x 0 = s.I 1700 x 0) ∧ (∀ j, t.I 2190 0 j = s.I 2190 0 j) ∧ wLy t = wLy s := sorry
theorem mb_21 {K7 : Int32 → Sg → Prop} {Q : Outcome → Sg → Prop} (hG : GOK G) (hd : 145 ≤ d) (hW : WrI s P) (hl : lib < 5) (hk : k < hMy s lib) (hb : hSt s lib k = b) (h0 : L.length ≤ 1000 * lib) (hK : ∀ t, MBk pBv P s t → RwT t 2245 2244 (L ++ bkB s lib b (hUs s b)) → K7 (nI lib + 1) t) : ∀ (r j : Nat) (t : Sg), j + r = hUs s b → MBk pBv P s t → RwT t 2245 2244 (L ++ bkB s lib b j) → wq_X11_broken_21 l G d 0 Q K7 (r + 1) (nI lib) (nI b) (nI j) t := sorry
theorem mb_7 {Q : Outcome → Sg → Prop} (hG : GOK G) (hd : 145 ≤ d) (hW : WrI s P) (hQ : ∀ t, MBk pBv P s t → RwT t 2245 2244 (bkR s 5) → Q (.returned (some (.int (nI (bkR s 5).length)))) t) : ∀ (r lib : Nat) (t : Sg), lib + r = 5 → MBk pBv P s t → RwT t 2245 2244 (bkR s lib) → wq_X11_broken_7 l G d 0 Q (r + 1) (nI lib) t := sorry
/-- THE MODEL counts what breaks -/
theorem sp_X11_broken (hG : GOK G) (hd : 146 ≤ d) (hW : WrI s P) (hS : SIv s) : CT l G yX11_broken (ws_ yX11_broken cX11_broken 6 (some .int)) d [.ref (G.adr 11 0)] s (rI (nI (bkR s 5).length) (fun t => MBk pBv P s t ∧ RwT t 2245 2244 (bkR s 5))) := sorry
/-- both tell the same row -/
theorem RwT.td (h1 : RwT s 1026 1025 L) (h2 : RwT s 2245 2244 L) (hL : L.length ≤ 5000) : TdI s 1026 2245 1025 2244 3 5000 := sorry
/-- BROKEN -/
theorem inv_broken (hG : GOK G) (hd : 147 ≤ d) (h : INV s n) : Two l G d yX0_broken (ws_ yX0_broken cX0_broken 1 (some .int)) yX11_broken (ws_ yX11_broken cX11_broken 6 (some .int)) [] s (fun u => INV u (n + 1)) := sorry
end BR2
