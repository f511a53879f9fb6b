/-! The model: theField -/
def XRow (ρ : Sg) (P : List Nat) : Prop := PRow ρ P.reverse
theorem XRow.push {ρ : Sg} {P : List Nat} (h : XRow ρ P) (k : Nat) : XRow (sI ρ 2196 0 P.length (nI (cM k))) (k :: P) := sorry
theorem XRow.pop {ρ : Sg} {P : List Nat} {x : Nat} (h : XRow ρ (x :: P)) : XRow ρ P ∧ ρ.I 2196 0 P.length = nI (cM x) := sorry
theorem XRow.mark {ρ : Sg} {P : List Nat} (h : XRow ρ P) {c j : Nat} {v : Int32} (hc : c ≠ 2196) : XRow (sI ρ c 0 j v) P := sorry
theorem HS.other {ρ : Sg} {s : Nat} {O : List Nat} (h : HS ρ s O) {c j : Nat} {v : Int32} (hc : 2195 < c) : HS (sI ρ c 0 j v) s O := sorry
def pFL (c _i : Nat) : Bool := rg 2192 2198 c
theorem pFL_s (c i : Nat) (h : scM c = true) : pFL c i = false := sorry
theorem MWm_FL {τ σ ρ : Sg} {w : Nat} {U : List Nat} (h : MWm τ σ w U) : MWm τ (mix pFL σ ρ) w U := sorry
theorem sub_NFL (c i : Nat) (h : pN c i = true) : pFL c i = true := sorry
section SPMS
variable {l : Launch} {G : Gl} {τ σ : Sg}
def FR2 (U : List Nat) (s : Nat) (ρ : Sg) (P : List Nat) (st : FD) : Prop := HS ρ s st.1 ∧ XRow ρ P ∧ CRow ρ 2197 st.1 ∧ ρ.I 2198 0 0 = nI st.1.length ∧ LGood U st.1 ∧ (∀ t, t ∈ P → t ∈ U) ∧ P.length ≤ 5 * st.1.length + 1 ∧ ∀ q, st.2 = some q → mM q < 2 ^ 31
def FGo (l : Launch) (G : Gl) (d : Nat) (x1 : Int32) (nm ty : Int64) (U : List Nat) (s : Nat) (σ : Sg) (Q : Outcome → Sg → Prop) (N : Nat) (P : List Nat) (st : FD) : Prop := ∀ ρ, FR2 U s ρ P st → wq_X11_theField_27 l G d 0 x1 nm ty Q N (nI P.length) (oN (st.2.map mM)) (mix pFL σ ρ)
theorem sp_X11_theField (hG : GOK G) {d : Nat} (hd : 4 ≤ d) {w c : Nat} (hU0 : MWm τ σ w (c :: wKs τ w)) (hs : SIv σ) (nm : Int64) {ty : Int64} (hty : TyOK ty) {x1 : Int32} (e1 : x1 = nI (cM c)) : CT l G yX11_theField (ws_ yX11_theField cX11_theField 12 (some .int)) d [.ref (G.adr 11 0), .int x1, .long nm, .long (tyF ty)] σ (rI (oN ((wFld τ w c nm ty).map mM)) (fun s => ∃ ρ, s = mix pFL σ ρ ∧ SIv ρ ∧ CRow ρ 2197 (wFlk τ w c nm ty) ∧ ρ.I 2198 0 0 = nI (wFlk τ w c nm ty).length ∧ LGood (c :: wKs τ w) (wFlk τ w c nm ty))) := sorry
end SPMS
