/-! The model reads a class: the whole. -/
section SPX
variable {l : Launch} {G : Gl}
theorem KZ.new {σ st : Sg} {s n e c : Nat} {B : Nat → Nat} {kx : Int32} {r : PR Nat} (hF : FJ (pKv s e c) σ st) (hp : PS st s B n 0 e r) (hr : ∀ t, r = .ok t → e ≤ t) (he9 : e ≤ 900) (hc : c < 216) (h23 : st.I 2123 0 s = kx) : KZ σ (sI st 2141 0 c 0) s B n e c kx r (fun x => st.I x 0 c) (fun x => st.B x 0 c) (fun x => st.L x 0 c) := sorry
theorem mk_159 (hG : GOK G) (hZ : SOK G) {B : Nat → Nat} {n f d : Nat} {σ st : Sg} {s e c k t1 so : Nat} {o : Bool} {r : PR Nat} {Q : Outcome → Sg → Prop} (hd : 167 ≤ d) (hf : 12 * 701 + 7 ≤ f) (hk : k < 12) (hso : so < 4) (hF : FJ (pKv s e c) σ st) (hp : PS st s B n 0 e r) (hr : ∀ t, r = .ok t → e ≤ t) (he9 : e ≤ 900) (hc : c < 216) (h23 : st.I 2123 0 s = nI (k + 1)) (hfac : ∀ t, r = .ok t → st.L 2124 0 c = lN ((yTok B n t1).2.1 + 2305843009213693952) ∧ st.I 2125 0 c = nI (yTok B n t1).2.2.1) (hQ : oKl σ s B n e c k (bnd r (pKh (yTok B n) f o so t1)) = Q) : wq_X11_klass_159 l G d 0 Q o (nI so) (nI c) st := sorry
theorem pKl_1 {T : Nat → Tk} {f k t1 : Nat} {o : Bool} {so : Nat} : (bnd (pPk T t1) fun y => if y = 2 ∧ k = 12 then .error (3, t1) else bnd (pWa T 2 t1) fun t2 => pKh T f o so t1 t2) = bnd (pWn T (decide (k = 12)) 2 t1) (pKh T f o so t1) := sorry
/-- what reading class k of slot s leaves; at k = 12 no class is touched -/
def oKk (σ : Sg) (s : Nat) (B : Nat → Nat) (n e k : Nat) (R : PR (CRc × Nat)) (o : Outcome) (u : Sg) : Prop := oKl σ s B n e (s * 12 + k) k R o u ∧ (12 ≤ k → FJ pG σ u)
theorem mx_kl (hG : GOK G) (hZ : SOK G) {B : Nat → Nat} {n f d : Nat} {σ : Sg} {s e k : Nat} {r : PR Nat} (hd : 168 ≤ d) (hf : 12 * 701 + 7 ≤ f) (h : PS σ s B n 0 e r) (he9 : e ≤ 900) (ho : ∀ t, r = .ok t → e ≤ t ∧ σ.I 2123 0 s = nI k ∧ k ≤ 12) : CT l G yX11_klass (ws_ yX11_klass cX11_klass 5 none) d [.ref (G.adr 11 0)] σ (oKk σ s B n e k (bnd r (pKl (yTok B n) f k))) := sorry
end SPX
