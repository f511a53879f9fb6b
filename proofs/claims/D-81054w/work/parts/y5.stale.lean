/-! THE HOUSE: stale. -/
noncomputable def slU (s : Sg) (b v : Nat) : Nat := if s.I 1700 (1000 * b + v) 0 = 16 ∧ ¬ s.I 1128 (uBy s (1000 * b + v)) 0 = -2 ∧ ¬ (hRs s (1000 * b + v)).1 ≤ 0 then 1 else 0
noncomputable def slB (s : Sg) (b : Nat) : Nat → Nat
  | 0 => 0
  | n + 1 => slB s b n + slU s b n
noncomputable def slL (s : Sg) (lib : Nat) : Nat := if s.I 1008 0 lib = -2 then 0 else slB s (hSt s lib (s.I 1008 0 lib).toNatClampNeg) (hUs s (hSt s lib (s.I 1008 0 lib).toNatClampNeg))
noncomputable def slR (s : Sg) : Nat → Nat
  | 0 => 0
  | n + 1 => slR s n + slL s n
theorem pM0_wr : wrC (pM 0) := sorry
theorem pM0_sc (c i : Nat) (h : sc c = true) : pM 0 c i = false := sorry
theorem pM0_no {c i : Nat} (h : (c ≤ 1303 ∨ 1313 < c) ∧ (c ≤ 1800 ∨ 1807 < c ∨ ¬ i = 0)) : pM 0 c i = false := sorry
section STA
variable {l : Launch} {G : Gl} {d n b v lib k N : Nat} {s t u : Sg} {P : Pg} {M : MSt} {p : Nat → Nat → Bool}
theorem slU_le : slU s b v ≤ 1 := sorry
theorem slB_le : ∀ n, slB s b n ≤ n := sorry
theorem slL_le (hH : HOK s) (hl : lib < 5) : slL s lib ≤ 1000 := sorry
theorem slR_le (hH : HOK s) : ∀ n, n ≤ 5 → slR s n ≤ 1000 * n := sorry
theorem slR_fl (hF : Fl p s t) (hp : ∀ c i, sc c = true → p c i = false) (hw : wrC p) : ∀ n, slR t n = slR s n := sorry
theorem ls_39 {K4 : Int32 → Int32 → Sg → Prop} {Q : Outcome → Sg → Prop} (hG : GOK G) (hd : 140 ≤ d) (hW : WrI s P) (hl : lib < 5) (hb : b < hN s) (h0 : N ≤ 1000 * lib) (hK : ∀ t, Fl (pM 0) s t → K4 (nI (N + slB s b (hUs s b))) (nI lib + 1) t) : ∀ (r j : Nat) (t : Sg), j + r = hUs s b → Fl (pM 0) s t → wq_X0_stale_39 l G d 0 Q K4 (r + 1) (nI (N + slB s b j)) (nI lib) (some b) (nI j) t := sorry
theorem ls_4 {Q : Outcome → Sg → Prop} (hG : GOK G) (hd : 140 ≤ d) (hW : WrI s P) (hQ : ∀ t, Fl (pM 0) s t → Q (.returned (some (.int (nI (slR s 5))))) t) : ∀ (r lib : Nat) (t : Sg), lib + r = 5 → Fl (pM 0) s t → wq_X0_stale_4 l G d 0 Q (r + 1) (nI (slR s lib)) (nI lib) t := sorry
theorem sp_X0_stale (hG : GOK G) (hd : 142 ≤ d) (hW : WrI s P) : CT l G yX0_stale (ws_ yX0_stale cX0_stale 5 (some .int)) d [.ref (G.adr 0 0)] s (rI (nI (slR s 5)) (fun t => Fl (pM 0) s t)) := sorry
theorem ms_19 {K4 : Int32 → Int32 → Sg → Prop} {Q : Outcome → Sg → Prop} (hG : GOK G) (hd : 145 ≤ d) (hW : WrI s P) (hl : lib < 5) (hk : k < hMy s lib) (hb : hSt s lib k = b) (h0 : N ≤ 1000 * lib) (hK : ∀ t, MBk pQe P s t → K4 (nI (N + slB s b (hUs s b))) (nI lib + 1) t) : ∀ (r j : Nat) (t : Sg), j + r = hUs s b → MBk pQe P s t → wq_X11_stale_19 l G d 0 Q K4 (r + 1) (nI (N + slB s b j)) (nI lib) (nI b) (nI j) t := sorry
theorem ms_4 {Q : Outcome → Sg → Prop} (hG : GOK G) (hd : 145 ≤ d) (hW : WrI s P) (hQ : ∀ t, MBk pQe P s t → Q (.returned (some (.int (nI (slR s 5))))) t) : ∀ (r lib : Nat) (t : Sg), lib + r = 5 → MBk pQe P s t → wq_X11_stale_4 l G d 0 Q (r + 1) (nI (slR s lib)) (nI lib) t := sorry
theorem sp_X11_stale (hG : GOK G) (hd : 146 ≤ d) (hW : WrI s P) (hS : SIv s) : CT l G yX11_stale (ws_ yX11_stale cX11_stale 6 (some .int)) d [.ref (G.adr 11 0)] s (rI (nI (slR s 5)) (fun t => MBk pQe P s t)) := sorry
/-- STALE -/
theorem inv_stale (hG : GOK G) (hd : 147 ≤ d) (h : INV s n) : Two l G d yX0_stale (ws_ yX0_stale cX0_stale 5 (some .int)) yX11_stale (ws_ yX11_stale cX11_stale 6 (some .int)) [] s (fun u => INV u (n + 1)) := sorry
end STA
