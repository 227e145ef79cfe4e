set_option maxRecDepth 100000
/-! WHERE THE SYSTEM's CELLS LIE. The system at b: b+1 its moment; lands at b+2, b+53, b+104 (each: itself a, a+1 people, a+2 pieces, a+3+4i a person, a+4+4i its towns, a+5+4i a piece, a+6+4i its heights); b+155 tape; b+156..159 the first text; b+160 best (161+i); b+174 gains (175+i); b+187 keeps; b+188 asked; b+189 liking (190+i); b+202 order; b+203 bestOrder; b+204 works (205+62i, its rows 206+62i+j); b+763 sanded, b+764 its heights -/
/-- a land of the system at b stands at a -/
def LK (b a : Nat) (σ : St) : Prop := b + 2 ≤ a ∧ stK σ a = some (3, 0) ∧ stK σ (a + 1) = some (102, 12) ∧ stK σ (a + 2) = some (103, 12) ∧ stR σ a 0 = some (a + 1) ∧ stR σ a 1 = some (a + 2) ∧ stR σ a 7 = some b ∧
  ∀ i, i < 12 → stK σ (a + 3 + 4 * i) = some (4, 0) ∧ stK σ (a + 4 + 4 * i) = some (100, 144) ∧ stK σ (a + 5 + 4 * i) = some (5, 0) ∧ stK σ (a + 6 + 4 * i) = some (100, 8) ∧
    stR σ (a + 1) i = some (a + 3 + 4 * i) ∧ stR σ (a + 2) i = some (a + 5 + 4 * i) ∧ stR σ (a + 3 + 4 * i) 0 = some (a + 4 + 4 * i) ∧ stR σ (a + 5 + 4 * i) 0 = some (a + 6 + 4 * i)
/-- the system's own cells; of its law's text only that the field is there -/
def CK (b : Nat) (σ : St) : Prop := (LK b (b + 2) σ ∧ LK b (b + 53) σ ∧ LK b (b + 104) σ) ∧
  (stK σ b = some (0, 0) ∧ stK σ (b + 1) = some (2, 0) ∧ stK σ (b + 155) = some (101, 260) ∧ stK σ (b + 187) = some (100, 12) ∧ stK σ (b + 188) = some (100, 12) ∧ stK σ (b + 202) = some (100, 6) ∧ stK σ (b + 203) = some (100, 6) ∧ stK σ (b + 763) = some (5, 0) ∧ stK σ (b + 764) = some (100, 8) ∧
    stK σ (b + 160) = some (106, 13) ∧ stK σ (b + 174) = some (106, 12) ∧ stK σ (b + 189) = some (106, 12) ∧ stK σ (b + 204) = some (107, 9)) ∧
  (stR σ b 0 = some (b + 1) ∧ stR σ b 1 = some (b + 2) ∧ stR σ b 2 = some (b + 53) ∧ stR σ b 3 = some (b + 104) ∧ stR σ b 4 = some (b + 155) ∧ stR σ b 8 = some (b + 160) ∧ stR σ b 9 = some (b + 174) ∧ stR σ b 10 = some (b + 187) ∧ stR σ b 11 = some (b + 188) ∧ stR σ b 12 = some (b + 189) ∧ stR σ b 13 = some (b + 202) ∧ stR σ b 14 = some (b + 203) ∧ stR σ b 16 = some (b + 204) ∧ stR σ b 17 = some (b + 763) ∧ stR σ (b + 1) 5 = some b ∧ stR σ (b + 763) 0 = some (b + 764)) ∧
  (∀ i, i < 13 → stR σ (b + 160) i = some (b + 161 + i) ∧ stK σ (b + 161 + i) = some (100, 4096)) ∧
  (∀ i, i < 12 → stR σ (b + 174) i = some (b + 175 + i) ∧ stK σ (b + 175 + i) = some (100, 12) ∧ stR σ (b + 189) i = some (b + 190 + i) ∧ stK σ (b + 190 + i) = some (100, 12)) ∧
  (∀ i, i < 9 → stR σ (b + 204) i = some (b + 205 + 62 * i) ∧ stK σ (b + 205 + 62 * i) = some (106, 61) ∧ ∀ j, j < 61 → stR σ (b + 205 + 62 * i) j = some (b + 206 + 62 * i + j) ∧ stK σ (b + 206 + 62 * i + j) = some (100, 61))
section
variable {b a i j : Nat} {σ : St}
theorem LK.ge (h : LK b a σ) : b + 2 ≤ a := h.1
theorem LK.k0 (h : LK b a σ) : stK σ a = some (3, 0) := h.2.1
theorem LK.k1 (h : LK b a σ) : stK σ (a + 1) = some (102, 12) := h.2.2.1
theorem LK.k2 (h : LK b a σ) : stK σ (a + 2) = some (103, 12) := h.2.2.2.1
theorem LK.r0 (h : LK b a σ) : stR σ a 0 = some (a + 1) := h.2.2.2.2.1
theorem LK.r1 (h : LK b a σ) : stR σ a 1 = some (a + 2) := h.2.2.2.2.2.1
theorem LK.r7 (h : LK b a σ) : stR σ a 7 = some b := h.2.2.2.2.2.2.1
theorem LK.kP (h : LK b a σ) (hi : i < 12) : stK σ (a + 3 + 4 * i) = some (4, 0) := (h.2.2.2.2.2.2.2 i hi).1
theorem LK.kT (h : LK b a σ) (hi : i < 12) : stK σ (a + 4 + 4 * i) = some (100, 144) := (h.2.2.2.2.2.2.2 i hi).2.1
theorem LK.kE (h : LK b a σ) (hi : i < 12) : stK σ (a + 5 + 4 * i) = some (5, 0) := (h.2.2.2.2.2.2.2 i hi).2.2.1
theorem LK.kH (h : LK b a σ) (hi : i < 12) : stK σ (a + 6 + 4 * i) = some (100, 8) := (h.2.2.2.2.2.2.2 i hi).2.2.2.1
theorem LK.rP (h : LK b a σ) (hi : i < 12) : stR σ (a + 1) i = some (a + 3 + 4 * i) := (h.2.2.2.2.2.2.2 i hi).2.2.2.2.1
theorem LK.rE (h : LK b a σ) (hi : i < 12) : stR σ (a + 2) i = some (a + 5 + 4 * i) := (h.2.2.2.2.2.2.2 i hi).2.2.2.2.2.1
theorem LK.rT (h : LK b a σ) (hi : i < 12) : stR σ (a + 3 + 4 * i) 0 = some (a + 4 + 4 * i) := (h.2.2.2.2.2.2.2 i hi).2.2.2.2.2.2.1
theorem LK.rH (h : LK b a σ) (hi : i < 12) : stR σ (a + 5 + 4 * i) 0 = some (a + 6 + 4 * i) := (h.2.2.2.2.2.2.2 i hi).2.2.2.2.2.2.2
theorem CK.l0 (h : CK b σ) : LK b (b + 2) σ := h.1.1
theorem CK.l1 (h : CK b σ) : LK b (b + 53) σ := h.1.2.1
theorem CK.l2 (h : CK b σ) : LK b (b + 104) σ := h.1.2.2
theorem CK.k0 (h : CK b σ) : stK σ b = some (0, 0) := h.2.1.1
theorem CK.k1 (h : CK b σ) : stK σ (b + 1) = some (2, 0) := h.2.1.2.1
theorem CK.k155 (h : CK b σ) : stK σ (b + 155) = some (101, 260) := h.2.1.2.2.1
theorem CK.k187 (h : CK b σ) : stK σ (b + 187) = some (100, 12) := h.2.1.2.2.2.1
theorem CK.k188 (h : CK b σ) : stK σ (b + 188) = some (100, 12) := h.2.1.2.2.2.2.1
theorem CK.k202 (h : CK b σ) : stK σ (b + 202) = some (100, 6) := h.2.1.2.2.2.2.2.1
theorem CK.k203 (h : CK b σ) : stK σ (b + 203) = some (100, 6) := h.2.1.2.2.2.2.2.2.1
theorem CK.k763 (h : CK b σ) : stK σ (b + 763) = some (5, 0) := h.2.1.2.2.2.2.2.2.2.1
theorem CK.k764 (h : CK b σ) : stK σ (b + 764) = some (100, 8) := h.2.1.2.2.2.2.2.2.2.2.1
theorem CK.k160 (h : CK b σ) : stK σ (b + 160) = some (106, 13) := h.2.1.2.2.2.2.2.2.2.2.2.1
theorem CK.k174 (h : CK b σ) : stK σ (b + 174) = some (106, 12) := h.2.1.2.2.2.2.2.2.2.2.2.2.1
theorem CK.k189 (h : CK b σ) : stK σ (b + 189) = some (106, 12) := h.2.1.2.2.2.2.2.2.2.2.2.2.2.1
theorem CK.k204 (h : CK b σ) : stK σ (b + 204) = some (107, 9) := h.2.1.2.2.2.2.2.2.2.2.2.2.2.2
theorem CK.r0 (h : CK b σ) : stR σ b 0 = some (b + 1) := h.2.2.1.1
theorem CK.r1 (h : CK b σ) : stR σ b 1 = some (b + 2) := h.2.2.1.2.1
theorem CK.r2 (h : CK b σ) : stR σ b 2 = some (b + 53) := h.2.2.1.2.2.1
theorem CK.r3 (h : CK b σ) : stR σ b 3 = some (b + 104) := h.2.2.1.2.2.2.1
theorem CK.r4 (h : CK b σ) : stR σ b 4 = some (b + 155) := h.2.2.1.2.2.2.2.1
theorem CK.r8 (h : CK b σ) : stR σ b 8 = some (b + 160) := h.2.2.1.2.2.2.2.2.1
theorem CK.r9 (h : CK b σ) : stR σ b 9 = some (b + 174) := h.2.2.1.2.2.2.2.2.2.1
theorem CK.r10 (h : CK b σ) : stR σ b 10 = some (b + 187) := h.2.2.1.2.2.2.2.2.2.2.1
theorem CK.r11 (h : CK b σ) : stR σ b 11 = some (b + 188) := h.2.2.1.2.2.2.2.2.2.2.2.1
theorem CK.r12 (h : CK b σ) : stR σ b 12 = some (b + 189) := h.2.2.1.2.2.2.2.2.2.2.2.2.1
theorem CK.r13 (h : CK b σ) : stR σ b 13 = some (b + 202) := h.2.2.1.2.2.2.2.2.2.2.2.2.2.1
theorem CK.r14 (h : CK b σ) : stR σ b 14 = some (b + 203) := h.2.2.1.2.2.2.2.2.2.2.2.2.2.2.1
theorem CK.r16 (h : CK b σ) : stR σ b 16 = some (b + 204) := h.2.2.1.2.2.2.2.2.2.2.2.2.2.2.2.1
theorem CK.r17 (h : CK b σ) : stR σ b 17 = some (b + 763) := h.2.2.1.2.2.2.2.2.2.2.2.2.2.2.2.2.1
theorem CK.rM (h : CK b σ) : stR σ (b + 1) 5 = some b := h.2.2.1.2.2.2.2.2.2.2.2.2.2.2.2.2.2.1
theorem CK.rS (h : CK b σ) : stR σ (b + 763) 0 = some (b + 764) := h.2.2.1.2.2.2.2.2.2.2.2.2.2.2.2.2.2.2
theorem CK.rB (h : CK b σ) (hi : i < 13) : stR σ (b + 160) i = some (b + 161 + i) := (h.2.2.2.1 i hi).1
theorem CK.kB (h : CK b σ) (hi : i < 13) : stK σ (b + 161 + i) = some (100, 4096) := (h.2.2.2.1 i hi).2
theorem CK.rG (h : CK b σ) (hi : i < 12) : stR σ (b + 174) i = some (b + 175 + i) := (h.2.2.2.2.1 i hi).1
theorem CK.kG (h : CK b σ) (hi : i < 12) : stK σ (b + 175 + i) = some (100, 12) := (h.2.2.2.2.1 i hi).2.1
theorem CK.rL (h : CK b σ) (hi : i < 12) : stR σ (b + 189) i = some (b + 190 + i) := (h.2.2.2.2.1 i hi).2.2.1
theorem CK.kL (h : CK b σ) (hi : i < 12) : stK σ (b + 190 + i) = some (100, 12) := (h.2.2.2.2.1 i hi).2.2.2
theorem CK.rW (h : CK b σ) (hi : i < 9) : stR σ (b + 204) i = some (b + 205 + 62 * i) := (h.2.2.2.2.2 i hi).1
theorem CK.kW (h : CK b σ) (hi : i < 9) : stK σ (b + 205 + 62 * i) = some (106, 61) := (h.2.2.2.2.2 i hi).2.1
theorem CK.rV (h : CK b σ) (hi : i < 9) (hj : j < 61) : stR σ (b + 205 + 62 * i) j = some (b + 206 + 62 * i + j) := ((h.2.2.2.2.2 i hi).2.2 j hj).1
theorem CK.kV (h : CK b σ) (hi : i < 9) (hj : j < 61) : stK σ (b + 206 + 62 * i + j) = some (100, 61) := ((h.2.2.2.2.2 i hi).2.2 j hj).2
end
/-- kinds and references stay, but for the moment's land -/
def KR (b : Nat) (σ τ : St) : Prop := (∀ c, stK τ c = stK σ c) ∧ (∀ c k, ¬ (c = b + 1 ∧ k = 1) → stR τ c k = stR σ c k) ∧ stN τ = stN σ
theorem KR.rf {b : Nat} {σ : St} : KR b σ σ := ⟨fun _ => rfl, fun _ _ _ => rfl, rfl⟩
theorem KR.trans {b : Nat} {σ τ ρ : St} (h1 : KR b σ τ) (h2 : KR b τ ρ) : KR b σ ρ := ⟨fun c => (h2.1 c).trans (h1.1 c), fun c k h => (h2.2.1 c k h).trans (h1.2.1 c k h), h2.2.2.trans h1.2.2⟩
theorem KR.setI {b : Nat} {σ τ : St} (h : KR b σ τ) (c k : Nat) (x : Int32) : KR b σ (setI τ c k x) := h
theorem LK.kr {b a : Nat} {σ τ : St} (h : LK b a σ) (hk : KR b σ τ) : LK b a τ := by
  obtain ⟨h0, h1, h2, h3, h4, h5, h6, h7⟩ := h
  refine ⟨h0, by rw [hk.1]; exact h1, by rw [hk.1]; exact h2, by rw [hk.1]; exact h3, by rw [hk.2.1 _ _ (by omega)]; exact h4, by rw [hk.2.1 _ _ (by omega)]; exact h5, by rw [hk.2.1 _ _ (by omega)]; exact h6, fun i hi => ?_⟩
  obtain ⟨q1, q2, q3, q4, q5, q6, q7, q8⟩ := h7 i hi
  refine ⟨by rw [hk.1]; exact q1, by rw [hk.1]; exact q2, by rw [hk.1]; exact q3, by rw [hk.1]; exact q4, by rw [hk.2.1 _ _ (by omega)]; exact q5, by rw [hk.2.1 _ _ (by omega)]; exact q6, by rw [hk.2.1 _ _ (by omega)]; exact q7, by rw [hk.2.1 _ _ (by omega)]; exact q8⟩
theorem CK.kr {b : Nat} {σ τ : St} (h : CK b σ) (hk : KR b σ τ) : CK b τ := by
  obtain ⟨⟨l0, l1, l2⟩, hK, hR, hB, hG, hW⟩ := h
  refine ⟨⟨l0.kr hk, l1.kr hk, l2.kr hk⟩, ?_, ?_, fun i hi => ?_, fun i hi => ?_, fun i hi => ?_⟩
  · simp only [hk.1]; exact hK
  · obtain ⟨r0, r1, r2, r3, r4, r8, r9, r10, r11, r12, r13, r14, r16, r17, rM, rS⟩ := hR
    refine ⟨?_, ?_, ?_, ?_, ?_, ?_, ?_, ?_, ?_, ?_, ?_, ?_, ?_, ?_, ?_, ?_⟩ <;> (rw [hk.2.1 _ _ (by omega)]; assumption)
  · rw [hk.1, hk.2.1 _ _ (by omega)]; exact hB i hi
  · rw [hk.1, hk.1, hk.2.1 _ _ (by omega), hk.2.1 _ _ (by omega)]; exact hG i hi
  · obtain ⟨w1, w2, w3⟩ := hW i hi
    refine ⟨by rw [hk.2.1 _ _ (by omega)]; exact w1, by rw [hk.1]; exact w2, fun j hj => ?_⟩
    rw [hk.1, hk.2.1 _ _ (by omega)]; exact w3 j hj
/-! WHAT A LAND HOLDS, as numbers by field and place: 1 side, 2 town, 3 wed, 4 creaks, 5 tried, 6 next, 7 days, 8 told, 9 dead (of person i); 11 wear, 12 holder, 20+h heights (of piece i); 30: the land's own (2 day, 3 x, 4 weddings, 5 tries, 6 partings); 100+k the k-th town of person i -/
abbrev Gd : Type := Nat → Nat → Int32
def LGa (a f i : Nat) : Nat := if f < 10 then a + 3 + 4 * i else if f < 20 then a + 5 + 4 * i else if f < 30 then a + 6 + 4 * i else if f < 100 then a else a + 4 + 4 * i
def LGk (f i : Nat) : Nat := if f < 10 then f else if f < 20 then f - 10 else if f < 30 then f - 20 else if f < 100 then i else f - 100
def LG (σ : St) (a : Nat) : Gd := fun f i => if i < 12 then stI σ (LGa a f i) (LGk f i) else 0
def gset (G : Gd) (f i : Nat) (x : Int32) : Gd := fun f' i' => if f' = f ∧ i' = i then x else G f' i'
theorem LG_p {σ : St} {a i : Nat} (f : Nat) (hf : f < 10) (hi : i < 12) : stI σ (a + 3 + 4 * i) f = LG σ a f i := by simp [LG, LGa, LGk, hf, hi]
theorem LG_e {σ : St} {a i : Nat} (f : Nat) (hf : f < 10) (hi : i < 12) : stI σ (a + 5 + 4 * i) f = LG σ a (f + 10) i := by
  simp [LG, LGa, LGk, hi, show ¬ (f + 10 < 10) by omega, show f + 10 < 20 by omega]
theorem LG_h {σ : St} {a i : Nat} (h : Nat) (hf : h < 10) (hi : i < 12) : stI σ (a + 6 + 4 * i) h = LG σ a (h + 20) i := by
  simp [LG, LGa, LGk, hi, show ¬ (h + 20 < 10) by omega, show ¬ (h + 20 < 20) by omega, show h + 20 < 30 by omega]
theorem LG_s {σ : St} {a k : Nat} (hk : k < 12) : stI σ a k = LG σ a 30 k := by simp [LG, LGa, LGk, hk]
theorem LG_t {σ : St} {a i : Nat} (k : Nat) (hi : i < 12) : stI σ (a + 4 + 4 * i) k = LG σ a (k + 100) i := by
  simp [LG, LGa, LGk, hi, show ¬ (k + 100 < 10) by omega, show ¬ (k + 100 < 20) by omega, show ¬ (k + 100 < 30) by omega, show ¬ (k + 100 < 100) by omega]
theorem LG_set {σ : St} {a c k f i : Nat} {x : Int32} (h : ∀ f' i', i' < 12 → ((LGa a f' i' = c ∧ LGk f' i' = k) ↔ (f' = f ∧ i' = i))) (hi : i < 12) : LG (setI σ c k x) a = gset (LG σ a) f i x := by
  funext f' i'
  simp only [LG, gset, stI_setI]
  by_cases h1 : i' < 12
  · rw [if_pos h1, if_pos h1]
    by_cases h2 : f' = f ∧ i' = i
    · rw [if_pos h2, if_pos ((h f' i' h1).mpr h2)]
    · rw [if_neg h2, if_neg (fun q => h2 ((h f' i' h1).mp q))]
  · rw [if_neg h1, if_neg h1, if_neg (by omega)]
theorem LG_setp {σ : St} {a i f : Nat} {x : Int32} (hf : f < 10) (hi : i < 12) : LG (setI σ (a + 3 + 4 * i) f x) a = gset (LG σ a) f i x :=
  LG_set (fun f' i' h1 => by unfold LGa LGk; (repeat' split) <;> omega) hi
theorem LG_sete {σ : St} {a i f : Nat} {x : Int32} (hf : f < 10) (hi : i < 12) : LG (setI σ (a + 5 + 4 * i) f x) a = gset (LG σ a) (f + 10) i x :=
  LG_set (fun f' i' h1 => by unfold LGa LGk; (repeat' split) <;> omega) hi
theorem LG_seth {σ : St} {a i h : Nat} {x : Int32} (hf : h < 10) (hi : i < 12) : LG (setI σ (a + 6 + 4 * i) h x) a = gset (LG σ a) (h + 20) i x :=
  LG_set (fun f' i' h1 => by unfold LGa LGk; (repeat' split) <;> omega) hi
theorem LG_sett {σ : St} {a i k : Nat} {x : Int32} (hi : i < 12) : LG (setI σ (a + 4 + 4 * i) k x) a = gset (LG σ a) (k + 100) i x :=
  LG_set (fun f' i' h1 => by unfold LGa LGk; (repeat' split) <;> omega) hi
/-- the land's own numbers -/
def sset (G : Gd) (k : Nat) (x : Int32) : Gd := fun f i => if (30 ≤ f ∧ f < 100) ∧ i = k then x else G f i
theorem LG_sets {σ : St} {a k : Nat} {x : Int32} (hk : k < 12) : LG (setI σ a k x) a = sset (LG σ a) k x := by
  funext f' i'
  simp only [LG, sset, stI_setI]
  by_cases h1 : i' < 12
  · rw [if_pos h1, if_pos h1]
    have h : (LGa a f' i' = a ∧ LGk f' i' = k) ↔ ((30 ≤ f' ∧ f' < 100) ∧ i' = k) := by unfold LGa LGk; (repeat' split) <;> omega
    by_cases h2 : (30 ≤ f' ∧ f' < 100) ∧ i' = k
    · rw [if_pos h2, if_pos (h.mpr h2)]
    · rw [if_neg h2, if_neg (fun q => h2 (h.mp q))]
  · rw [if_neg h1, if_neg h1, if_neg (by omega)]
/-- a write elsewhere -/
theorem LG_congr {σ τ : St} {a : Nat} (h : ∀ c k, a ≤ c → c < a + 51 → stI τ c k = stI σ c k) : LG τ a = LG σ a := by
  funext f' i'
  simp only [LG]
  by_cases h1 : i' < 12
  · rw [if_pos h1, if_pos h1]
    exact h _ _ (by unfold LGa; (repeat' split) <;> omega) (by unfold LGa; (repeat' split) <;> omega)
  · rw [if_neg h1, if_neg h1]
theorem LG_other {σ : St} {a c k : Nat} {x : Int32} (h : c < a ∨ a + 51 ≤ c) : LG (setI σ c k x) a = LG σ a :=
  LG_congr (fun c' k' h1 h2 => by rw [stI_setI, if_neg (by omega)])
theorem LG_setR {σ : St} {a c k : Nat} {x : Option Nat} : LG (setR σ c k x) a = LG σ a := rfl
