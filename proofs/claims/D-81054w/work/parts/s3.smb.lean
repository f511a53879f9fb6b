/-! THE ROWS OF ONE BUILD: two states have the same. -/
/-- how many cells of a column of the model a build has -/
def bsz (c : Nat) : Nat := if c = 2105 then 4000 else if c = 2106 then 1 else if 2110 < c ∧ c < 2116 then 702 else if c = 2116 ∨ c = 2123 ∨ c = 2169 ∨ c = 2218 then 1 else if c = 2130 then 48 else if c = 2135 ∨ c = 2138 then 96 else if 2123 < c ∧ c < 2142 then 12 else if c = 2156 then 1632 else if 2141 < c ∧ c < 2169 then 408 else if 2169 < c ∧ c < 2189 then 1700 else if c = 2225 then 7200 else if 2218 < c ∧ c < 2228 then 1800 else 0
/-- LinkHouse's rows -/
def SmL (b : Nat) (s t : Sg) : Prop :=
  (∀ c i j, 1099 < c → c < 1128 → 12 * b ≤ i → i < 12 * b + 12 → t.I c i j = s.I c i j ∧ t.B c i j = s.B c i j ∧ t.L c i j = s.L c i j ∧ t.R c i j = s.R c i j) ∧
  (∀ c i j, 1199 < c → c < 1223 → 396 * b ≤ i → i < 396 * b + 396 → t.I c i j = s.I c i j ∧ t.B c i j = s.B c i j ∧ t.L c i j = s.L c i j ∧ t.R c i j = s.R c i j) ∧
  (∀ c i j, 1699 < c → c < 1705 → 1000 * b ≤ i → i < 1000 * b + 1000 → t.I c i j = s.I c i j ∧ t.L c i j = s.L c i j ∧ t.R c i j = s.R c i j) ∧
  (∀ c i j, 1199 < c → c < 1223 → 6402 + 1000 * b ≤ i → i < 6402 + 1000 * b + 1000 → t.I c i j = s.I c i j ∧ t.B c i j = s.B c i j ∧ t.L c i j = s.L c i j) ∧
  ∀ c j, 2000 < c → c < 2014 → t.I c b j = s.I c b j
/-- the model's rows -/
def SmM (b : Nat) (s t : Sg) : Prop := ∀ c j, bsz c * b ≤ j → j < bsz c * b + bsz c → t.I c 0 j = s.I c 0 j ∧ t.B c 0 j = s.B c 0 j ∧ t.L c 0 j = s.L c 0 j
def SmB (b : Nat) (s t : Sg) : Prop := SmL b s t ∧ SmM b s t
theorem SmL.refl {b : Nat} {s : Sg} : SmL b s s := sorry
theorem SmM.refl {b : Nat} {s : Sg} : SmM b s s := sorry
theorem SmB.refl {b : Nat} {s : Sg} : SmB b s s := sorry
theorem SmL.trans {b : Nat} {s t u : Sg} (h : SmL b s t) (k : SmL b t u) : SmL b s u := sorry
theorem SmM.trans {b : Nat} {s t u : Sg} (h : SmM b s t) (k : SmM b t u) : SmM b s u := sorry
theorem SmB.trans {b : Nat} {s t u : Sg} (h : SmB b s t) (k : SmB b t u) : SmB b s u := sorry
section SMB
variable {s t : Sg} {b i j : Nat}
theorem SmL.hev (h : SmL b s t) (hi : i < 12) : HEv s t (12 * b + i) (12 * b + i) := sorry
theorem SmL.mev (h : SmL b s t) (hi : i < 12) (hj : j < 33) : MEv s t (33 * (12 * b + i) + j) (33 * (12 * b + i) + j) := sorry
theorem SmL.me (h : SmL b s t) (hi : i < 12) : nMe t (12 * b + i) = nMe s (12 * b + i) := sorry
theorem SmL.r22 (h : SmL b s t) (hi : i < 12) (hj : j < 33) : t.R 1222 (33 * (12 * b + i) + j) 0 = s.R 1222 (33 * (12 * b + i) + j) 0 := sorry
theorem SmL.r26 (h : SmL b s t) (hi : i < 12) : t.R 1126 (12 * b + i) 0 = s.R 1126 (12 * b + i) 0 := sorry
theorem SmL.i19 (h : SmL b s t) (hi : i < 12) : t.I 1119 (12 * b + i) 0 = s.I 1119 (12 * b + i) 0 ∧ t.I 1120 (12 * b + i) 0 = s.I 1120 (12 * b + i) 0 := sorry
theorem SmL.nuk (h : SmL b s t) (hi : i < 12) : nUk t (12 * b + i) = nUk s (12 * b + i) := sorry
theorem SmL.uat (h : SmL b s t) (hi : i < 12) {u : Nat} : uAt t (12 * b + i) u = uAt s (12 * b + i) u ∧ muA t (12 * b + i) u = muA s (12 * b + i) u ∧ kB t (12 * b + i) = kB s (12 * b + i) := sorry
theorem SmL.uev (h : SmL b s t) (hi : i < 12) (h26 : s.R 1126 (12 * b + i) 0 = some b) (hn : (s.I 1120 (12 * b + i) 0).toNatClampNeg ≤ 1000) : UEv s t (12 * b + i) (12 * b + i) := sorry
/-- the model's side -/
theorem SmM.mo (h : SmM b s t) {c n x : Nat} (hc : bsz c = n) (hx : n * b ≤ x) (hy : x < n * b + n) : t.I c 0 x = s.I c 0 x ∧ t.B c 0 x = s.B c 0 x ∧ t.L c 0 x = s.L c 0 x := sorry
theorem SmM.qev (h : SmM b s t) (hi : i < 12) (hj : j < 34) : QEv s t (34 * (12 * b + i) + j) (34 * (12 * b + i) + j) := sorry
theorem SmM.q1 (h : SmM b s t) (hi : i < 12) (hj : j < 34) {c : Nat} (hc : bsz c = 408) : t.I c 0 (34 * (12 * b + i) + j) = s.I c 0 (34 * (12 * b + i) + j) := sorry
theorem SmM.zev (h : SmM b s t) (hi : i < 12) : ZEv s t (12 * b + i) (12 * b + i) := sorry
theorem SmM.nd (h : SmM b s t) : NdSm b s t := sorry
theorem SmL.bu (h : SmL b s t) {c x : Nat} (h1 : 2000 < c) (h2 : c < 2014) : t.I c b x = s.I c b x := sorry
end SMB
