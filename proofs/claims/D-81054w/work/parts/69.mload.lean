/-! The model: load -/
variable {φ : Sg}
def EVb (st : LSt) (r : Int32 × LSt) : Prop := r.2.2.length + (zs r.2).length ≤ st.2.length + (zs st).length
theorem evt_len {σ : Sg} {st : LSt} {k : Nat} {v : Int32} : (evt σ st k v).2.length ≤ st.2.length + 1 := sorry
theorem zs_evt {σ : Sg} {st : LSt} {k : Nat} {v : Int32} : zs (evt σ st k v) = zs st := sorry
/-- loading: what is told and what is not loaded yet grow no more together -/
theorem ld_ev {σ : Sg} (hW : WOK σ 0) (hN : WNO σ) : ∀ (n k : Nat) (st : LSt) (r : Int32 × LSt), k ∈ wKs σ 0 → LOK st → LCL σ st → (zs st).length < n → ld σ n k st = some r → EVb st r := sorry
theorem ldH_ev {σ : Sg} (hW : WOK σ 0) (hN : WNO σ) {n k : Nat} {st1 : LSt} (hL2 : LOK st1) (hC2 : LCL σ st1) (hz2 : (zs st1).length < n) {r1 : Int32 × LSt} (he : ldH σ (ld σ n) k st1 = some r1) : EVb st1 r1 ∧ ∀ j, st1.1 j ≠ 0 → r1.2.1 j = st1.1 j := sorry
/-- all that loading asks of the model -/
def MLd (τ σ : Sg) : Prop := MWd τ σ 0 (wKs τ 0) ∧ (∀ c, c ∈ wKs τ 0 → MK2 τ σ c ∧ σ.I 2231 0 (cM c) = τ.I 1128 c 0) ∧ WNO τ ∧ BIK τ
theorem nW_2 {τ : Sg} (hW : WOK τ 0) (hN : WNO τ) (hB : BIK τ) {k : Nat} (hk : k ∈ wKs τ 0) (hb : ¬ τ.I 1101 k 0 = 26) : 2 ≤ nW τ k := sorry
theorem nW_b {τ : Sg} (hW : WOK τ 0) (hN : WNO τ) (hB : BIK τ) {k : Nat} (hk : k ∈ wKs τ 0) (hb : τ.I 1101 k 0 = 26) : nW τ k < 2 := sorry
section SPMR
variable {l : Launch} {G : Gl} {τ σ : Sg}
theorem sp_X11_load (hG : GOK G) (hM : MLd τ σ) {B : Nat} : ∀ (n d k : Nat) (st : LSt) (r : Int32 × LSt) (ρ : Sg), 2 * n + 7 ≤ d → k ∈ wKs τ 0 → LOK st → LCL τ st → (zs st).length < n → ld τ n k st = some r → (B = 0 → st.2.length + (zs st).length ≤ 268) → LSM φ ρ B st → CT l G yX11_load (ws_ yX11_load cX11_load 4 (some .int)) d [.ref (G.adr 11 0), .int (nI (cM k))] (mix pB σ ρ) (rI r.1 (fun s => ∃ ρ', s = mix pB σ ρ' ∧ LSM φ ρ' B r.2)) := sorry
end SPMR
