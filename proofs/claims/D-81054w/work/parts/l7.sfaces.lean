/-! THE MODEL's MACHINE: the faces of a class are started. -/
/-- what is known of the faces that were seen -/
def MkV (τ : Sg) (r : Rz Unit) (A : List Nat) (mn : Nat) (s : Sg) : Prop := nI mn ≤ s.I 2271 0 0 ∧ ∀ M, r = (M, .ok ()) → ∀ g, g ∈ wKs τ 0 → s.I 2270 0 (cM g) = nI mn → ADn τ g M ∨ g ∈ A
section SFC
variable {l : Launch} {G : Gl} {d : Nat} {τ σ s t g0 : Sg} {P : Pg} {S : StaF} {a ct tt ft0 mn : Nat} {Q : Outcome → Sg → Prop} {x1 : Int32}
theorem RQm.ft' {α : Type} {r : Rz α} {ft ft' : Nat} {x : Int32} (h : RQm τ σ r a ct tt ft s) (hx : x = nI ft') : RQm τ σ r a ct tt ft' (sI s 2273 0 0 x) := sorry
theorem RQm.pl {α : Type} {r : Rz α} {ft j : Nat} {x : Int32} (h : RQm τ σ r a ct tt ft s) : RQm τ σ r a ct tt ft (sI s 2272 0 j x) := sorry
/-- a face is seen -/
theorem RQm.mk {α : Type} {r : Rz α} {ft j : Nat} (h : RQm τ σ r a ct tt ft s) (hm : mn < 2 ^ 31) (hn : (σ.I 2271 0 1).toNatClampNeg < 2 ^ 30) (hl : nI mn ≤ s.I 2271 0 0) : RQm τ σ r a ct tt ft (sI s 2270 0 j (nI mn)) := sorry
theorem MkV.eq {r : Rz Unit} {A : List Nat} (h : MkV τ r A mn s) (h1 : t.I 2271 0 0 = s.I 2271 0 0) (h0 : ∀ f, t.I 2270 0 f = s.I 2270 0 f) : MkV τ r A mn t := sorry
/-- a result, gone on with -/
theorem rzb_inv {r : Rz Unit} {k : MSt → Unit → Rz Unit} {R : MSt → Unit → Prop} (hI : MInv τ r.1) (hk : ∀ M, r = (M, .ok ()) → RzOk τ M (k M ()) R) : MInv τ (rzb r k).1 ∧ Ext r.1 (rzb r k).1 := sorry
/-- the faces f is above of, when r was come to -/
def FcK (τ : Sg) (r : Rz Unit) (A : List Nat) (f : Nat) : Prop := Ldd τ r.1.ls f ∧ τ.B 1102 f 0 = true ∧ ∀ g, g ∈ A → wHr τ 0 g f
/-- a state of the loop: the pile holds pl -/
def PsV (τ σ g0 : Sg) (a ct tt ft0 mn : Nat) (pl : Nat → Int32) (r : Rz Unit) (A : List Nat) (ft : Nat) (s : Sg) : Prop := RQm τ σ r a ct tt ft s ∧ (∀ j, j < ft → s.I 2272 0 j = pl j) ∧ MkV τ r A mn s ∧ Kp ct tt ft0 g0 s
/-- more fuel does no harm -/
theorem oV_mo {K K' : Sg → Prop} {T : Nat → Sg → Prop} (h : ∀ t, K t → K' t) : ∀ (o : Outcome) (t : Sg), oV K T o t → oV K' T o t := sorry
theorem oZ_mo {K K' : Bool → Sg → Prop} {T : Nat → Sg → Prop} (h : ∀ v t, K v t → K' v t) : ∀ (o : Outcome) (t : Sg), oZ K T o t → oZ K' T o t := sorry
theorem sf_more : ∀ (fu : Nat) (x2 x3 : Int32) (s : Sg), wq_X11_startFaces_25 l G d 0 x1 Q fu x2 x3 s → wq_X11_startFaces_25 l G d 0 x1 Q (fu + 1) x2 x3 s := sorry
theorem sf_le {x2 x3 : Int32} {n m : Nat} (hnm : n ≤ m) (h : wq_X11_startFaces_25 l G d 0 x1 Q n x2 x3 s) : wq_X11_startFaces_25 l G d 0 x1 Q m x2 x3 s := sorry
/-- a face lies on the pile -/
def SpV (l : Launch) (G : Gl) (d : Nat) (τ σ : Sg) (S : StaF) (a ct tt ft0 mn : Nat) (g0 : Sg) (Q : Outcome → Sg → Prop) (x1 : Int32) (h : Nat) : Prop := ∀ (f : Nat) (r : Rz Unit) (A : List Nat) (ft : Nat) (pl : Nat → Int32), hts τ f < h → MInv τ r.1 → FcK τ r A f → pl ft = nI (2 * cM f) → ft0 ≤ ft → ft + 5 * hts τ f + 5 ≤ 320 * a → (∃ fu, ∀ t, PsV τ σ g0 a ct tt ft0 mn pl (rzb r fun M _ => vis τ S h f M) A ft t → wq_X11_startFaces_25 l G d 0 x1 Q fu (nI ft0) (nI mn) t) → ∃ fu, ∀ s, PsV τ σ g0 a ct tt ft0 mn pl r A (ft + 1) s → wq_X11_startFaces_25 l G d 0 x1 Q fu (nI ft0) (nI mn) s
/-- a row of faces -/
theorem sf_row (hM : WMa τ P) (hK : StK τ S) (hS : StD τ S) {h : Nat} (ih : SpV l G d τ σ S a ct tt ft0 mn g0 Q x1 h) {A : List Nat} {H : Nat} (hH : H ≤ h) {pl : Nat → Int32} : ∀ (L : List Nat) (r : Rz Unit) (ft : Nat), (∀ x, x ∈ L → hts τ x < H ∧ FcK τ r A x) → MInv τ r.1 → (∀ i x, L[i]? = some x → pl (ft + (L.length - 1 - i)) = nI (2 * cM x)) → ft0 ≤ ft → ft + L.length + 5 * H ≤ 320 * a + 1 → (∃ fu, ∀ t, PsV τ σ g0 a ct tt ft0 mn pl (rzb r fun M _ => visR (vis τ S h) L M) A ft t → wq_X11_startFaces_25 l G d 0 x1 Q fu (nI ft0) (nI mn) t) → ∃ fu, ∀ s, PsV τ σ g0 a ct tt ft0 mn pl r A (ft + L.length) s → wq_X11_startFaces_25 l G d 0 x1 Q fu (nI ft0) (nI mn) s := sorry
theorem nI_half (c : Nat) (h : c < 2 ^ 29) : nI (2 * c) / 2 = nI c ∧ nI (2 * c) - nI c * 2 = 0 ∧ nI (2 * c + 1) / 2 = nI c ∧ nI (2 * c + 1) - nI c * 2 = 1 := sorry
end SFC
