set_option maxRecDepth 100000
theorem stI_setI (σ : St) (a k : Nat) (x : Int32) (b j : Nat) : stI (setI σ a k x) b j = if b = a ∧ j = k then x else stI σ b j := rfl
theorem stR_setI (σ : St) (a k : Nat) (x : Int32) (b j : Nat) : stR (setI σ a k x) b j = stR σ b j := rfl
theorem stK_setI (σ : St) (a k : Nat) (x : Int32) (b : Nat) : stK (setI σ a k x) b = stK σ b := rfl
theorem stN_setI (σ : St) (a k : Nat) (x : Int32) : stN (setI σ a k x) = stN σ := rfl
theorem stR_setR (σ : St) (a k : Nat) (x : Option Nat) (b j : Nat) : stR (setR σ a k x) b j = if b = a ∧ j = k then x else stR σ b j := rfl
theorem stI_setR (σ : St) (a k : Nat) (x : Option Nat) (b j : Nat) : stI (setR σ a k x) b j = stI σ b j := rfl
theorem stK_setR (σ : St) (a k : Nat) (x : Option Nat) (b : Nat) : stK (setR σ a k x) b = stK σ b := rfl
theorem stN_setR (σ : St) (a k : Nat) (x : Option Nat) : stN (setR σ a k x) = stN σ := rfl
theorem stI_new (σ : St) (c n b j : Nat) : stI (stNew σ c n) b j = if b = stN σ then 0 else stI σ b j := rfl
theorem stR_new (σ : St) (c n b j : Nat) : stR (stNew σ c n) b j = if b = stN σ then none else stR σ b j := rfl
theorem stK_new (σ : St) (c n b : Nat) : stK (stNew σ c n) b = if b = stN σ then some (c, n) else stK σ b := rfl
theorem stN_new (σ : St) (c n : Nat) : stN (stNew σ c n) = stN σ + 1 := rfl
section RULES
variable {Γ : Gm} {μ : Mth} {d c n pc : Nat} {L : List (Option Value)} {st : List Value} {σ : St} {Q : Option Value → St → Prop}
/-- which fields a method may write: not final, or final in its own constructor -/
def PutAt (own : String) (nm : String) (i q k : Nat) : Prop := (gT q k).2.2.2 = false ∨ ((gT q k).2.2.2 = true ∧ nm = "<init>" ∧ (gT q k).1 = own ∧ Cond.fieldLink own i (gT q k).1 (gT q k).2.1 (gT q k).2.2.1 ∈ lw_all)
theorem wp_putI {i a q z k : Nat} {x : Int32} (hd : decode (mcode μ) pc = .ok (.putfield i, 3)) (hf : FieldAt (mown μ) i q k) (hp : PutAt (mown μ) μ.1.name i q k) (ht : gRef q k = false) (hv : fitF q k (.int x)) (hK : stK σ a = some (q, z)) (kk : WP Γ μ d c n (pc + 3) L st (setI σ a k x) Q) : WP Γ μ d c n pc L (.int x :: .ref a :: st) σ Q := by
  refine wp_putG (setI σ a k x) hd hf hp hv hK (fun _ => rfl) rfl (fun b j h => ⟨?_, rfl⟩) ?_ kk
  · rw [stI_setI, if_neg (by rintro ⟨r1, r2⟩; rcases h with h | h; exact h r1; exact h r2)]
  · rw [fv, if_neg (by rw [ht]; decide), stI_setI, if_pos ⟨rfl, rfl⟩]
theorem wp_putR {i a b q z k : Nat} (hd : decode (mcode μ) pc = .ok (.putfield i, 3)) (hf : FieldAt (mown μ) i q k) (hp : PutAt (mown μ) μ.1.name i q k) (ht : gRef q k = true) (hv : fitF q k (.ref b)) (hK : stK σ a = some (q, z)) (kk : WP Γ μ d c n (pc + 3) L st (setR σ a k (some b)) Q) : WP Γ μ d c n pc L (.ref b :: .ref a :: st) σ Q := by
  refine wp_putG (setR σ a k (some b)) hd hf hp hv hK (fun _ => rfl) rfl (fun b j h => ⟨rfl, ?_⟩) ?_ kk
  · rw [stR_setR, if_neg (by rintro ⟨r1, r2⟩; rcases h with h | h; exact h r1; exact h r2)]
  · rw [fv, if_pos ht, stR_setR, if_pos ⟨rfl, rfl⟩]; rfl
theorem wp_putN {i a q z k : Nat} (hd : decode (mcode μ) pc = .ok (.putfield i, 3)) (hf : FieldAt (mown μ) i q k) (hp : PutAt (mown μ) μ.1.name i q k) (ht : gRef q k = true) (hv : fitF q k .null) (hK : stK σ a = some (q, z)) (kk : WP Γ μ d c n (pc + 3) L st (setR σ a k none) Q) : WP Γ μ d c n pc L (.null :: .ref a :: st) σ Q := by
  refine wp_putG (setR σ a k none) hd hf hp hv hK (fun _ => rfl) rfl (fun b j h => ⟨rfl, ?_⟩) ?_ kk
  · rw [stR_setR, if_neg (by rintro ⟨r1, r2⟩; rcases h with h | h; exact h r1; exact h r2)]
  · rw [fv, if_pos ht, stR_setR, if_pos ⟨rfl, rfl⟩]; rfl
/-! arrays -/
theorem av_i {q : Nat} (h : kRef q = false) (x : Int32) (r : Option Nat) : av q x r = .int x := by rw [av, if_neg (by rw [h]; decide)]
theorem av_r {q : Nat} (h : kRef q = true) (x : Int32) (r : Option Nat) : av q x r = va_rf r := by rw [av, if_pos h]
theorem wp_ialdV {a q z : Nat} {j : Int32} (hd : decode (mcode μ) pc = .ok (.iaload, 1)) (hq : q = 100 ∨ q = 120) (hK : stK σ a = some (q, z)) (hin : vp_in j z) (kk : WP Γ μ d c n (pc + 1) L (.int (stI σ a j.toNatClampNeg) :: st) σ Q) : WP Γ μ d c n pc L (.int j :: .ref a :: st) σ Q := by
  intro p e s m args below meth cd mc ms H locs cells slots ls hC hR hS hc hn hl
  have kk := kk p e s m args below meth cd mc ms H locs cells slots ls hC hR hS hc hn hl
  obtain ⟨cell, c1, c2, c3, c4, c5⟩ := cell_arr hR hK (by omega)
  have hty : kty q = .int := by rcases hq with rfl | rfl <;> rfl
  have hk : kRef q = false := by rcases hq with rfl | rfl <;> rfl
  rw [hty] at c2
  exact W.iald (v := .int (stI σ a j.toNatClampNeg)) hC.1 hC.2.1 c1 c2 c3 (by rw [c4]; exact hin) (by rw [c5 _ (Nat.not_le.mp fun r => hin (Or.inr r))]; show some (av q _ _) = _; rw [av_i hk]) rfl rfl hd kk
theorem wp_iald {a z : Nat} {j : Int32} (hd : decode (mcode μ) pc = .ok (.iaload, 1)) (hK : stK σ a = some (100, z)) (k : Nat) (hj : j = nI k) (hk : k < z) (hz : z < 2147483648) (kk : WP Γ μ d c n (pc + 1) L (.int (stI σ a k) :: st) σ Q) : WP Γ μ d c n pc L (.int j :: .ref a :: st) σ Q := by
  subst hj
  refine wp_ialdV hd (Or.inl rfl) hK (vp_in_nI hk hz) ?_
  rw [nI_clamp (by omega)]
  exact kk
theorem wp_baldV {a z : Nat} {j : Int32} (hd : decode (mcode μ) pc = .ok (.baload, 1)) (hK : stK σ a = some (101, z)) (hin : vp_in j z) (kk : WP Γ μ d c n (pc + 1) L (.int (stI σ a j.toNatClampNeg) :: st) σ Q) : WP Γ μ d c n pc L (.int j :: .ref a :: st) σ Q := by
  intro p e s m args below meth cd mc ms H locs cells slots ls hC hR hS hc hn hl
  have kk := kk p e s m args below meth cd mc ms H locs cells slots ls hC hR hS hc hn hl
  obtain ⟨cell, c1, c2, c3, c4, c5⟩ := cell_arr hR hK (by omega)
  exact W.bald (v := .int (stI σ a j.toNatClampNeg)) hC.1 hC.2.1 c1 c2 c3 (by rw [c4]; exact hin) (by rw [c5 _ (Nat.not_le.mp fun r => hin (Or.inr r))]; show some (av 101 _ _) = _; rw [av_i rfl]) rfl rfl hd kk
theorem wp_bald {a z : Nat} {j : Int32} (hd : decode (mcode μ) pc = .ok (.baload, 1)) (hK : stK σ a = some (101, z)) (k : Nat) (hj : j = nI k) (hk : k < z) (hz : z < 2147483648) (kk : WP Γ μ d c n (pc + 1) L (.int (stI σ a k) :: st) σ Q) : WP Γ μ d c n pc L (.int j :: .ref a :: st) σ Q := by
  subst hj
  refine wp_baldV hd hK (vp_in_nI hk hz) ?_
  rw [nI_clamp (by omega)]
  exact kk
theorem wp_aald {a q z : Nat} {j : Int32} (hd : decode (mcode μ) pc = .ok (.aaload, 1)) (hK : stK σ a = some (q, z)) (hq : (Nat.ble 100 q && (kRef q && (kty q).isReference)) = true) (k : Nat) (hj : j = nI k) (hk : k < z) (hz : z < 2147483648) {b : Nat} (hr : stR σ a k = some b) (kk : WP Γ μ d c n (pc + 1) L (.ref b :: st) σ Q) : WP Γ μ d c n pc L (.int j :: .ref a :: st) σ Q := by
  subst hj
  simp only [Bool.and_eq_true] at hq
  intro p e s m args below meth cd mc ms H locs cells slots ls hC hR hS hc hn hl
  have kk := kk p e s m args below meth cd mc ms H locs cells slots ls hC hR hS hc hn hl
  obtain ⟨cell, c1, c2, c3, c4, c5⟩ := cell_arr hR hK (Nat.le_of_ble_eq_true hq.1)
  exact W.aald (v := .ref b) hC.1 hC.2.1 c1 c2 hq.2.2 c3 (by rw [c4]; exact vp_in_nI hk hz) (by rw [nI_clamp (by omega), c5 _ hk]; show some (av q _ _) = _; rw [av_r hq.2.1, hr]; rfl) rfl rfl hd kk
theorem wp_alen {a q z : Nat} (hd : decode (mcode μ) pc = .ok (.arraylength, 1)) (hK : stK σ a = some (q, z)) (hq : Nat.ble 100 q = true) (kk : WP Γ μ d c n (pc + 1) L (.int (nI z) :: st) σ Q) : WP Γ μ d c n pc L (.ref a :: st) σ Q := by
  intro p e s m args below meth cd mc ms H locs cells slots ls hC hR hS hc hn hl
  have kk := kk p e s m args below meth cd mc ms H locs cells slots ls hC hR hS hc hn hl
  obtain ⟨cell, c1, c2, c3, c4, c5⟩ := cell_arr hR hK (Nat.le_of_ble_eq_true hq)
  exact W.alen hC.1 hC.2.1 c1 c2 (by rw [c4]; rfl) rfl rfl hd kk
/-- the picture behind a write of one place of one array -/
theorem RepS.store {s : State} {H H' : Heap} {τ : St} {a q z k : Nat} {cell : Cell} {v : Value} (hR : RepS Γ σ s H) (hK : stK σ a = some (q, z)) (hq : 100 ≤ q) (hk : k < z)
    (c2 : s.isArrayOf cell (kty q)) (c3 : cell.vm ≠ .unknown) (c4 : cell.slots.size = z) (c5 : ∀ j : Nat, j < z → cell.slots[j]? = some (av q (stI σ a j) (stR σ a j)))
    (e1 : H'[a]? = some (cell.setSlot k v)) (e2 : H'.size = H.size) (e3 : ∀ b, b ≠ a → H'[b]? = H[b]?)
    (t1 : ∀ b, stK τ b = stK σ b) (t2 : stN τ = stN σ) (t3 : ∀ b j, b ≠ a ∨ j ≠ k → stI τ b j = stI σ b j ∧ stR τ b j = stR σ b j) (t4 : av q (stI τ a k) (stR τ a k) = v) : RepS Γ τ s H' := by
  refine ⟨by rw [e2, t2]; exact hR.1, by rw [t2]; exact hR.2.1, fun b q' z' hb => ?_⟩
  rw [t1] at hb
  obtain ⟨g1, g2⟩ := hR.2.2 b q' z' hb
  refine ⟨g1, ?_⟩
  unfold CellOK at g2 ⊢
  by_cases hba : b = a
  · subst hba
    cases hK.symm.trans hb
    rw [if_neg (by omega)] at g2 ⊢
    refine ⟨cell.setSlot k v, e1, c2, c3, by rw [← c4]; simp [Cell.setSlot], fun j hj => ?_⟩
    show (cell.setSlot k v).slots[j]? = some (av q (stI τ b j) (stR τ b j))
    by_cases hjk : j = k
    · subst hjk
      rw [Cell.slots_setSlot_self _ (by omega), t4]
    · obtain ⟨r1, r2⟩ := t3 b j (Or.inr hjk)
      rw [slot_ne _ _ (fun h => hjk h.symm), c5 j hj, r1, r2]
  · have r : ∀ j, stI τ b j = stI σ b j ∧ stR τ b j = stR σ b j := fun j => t3 b j (Or.inl hba)
    by_cases hq : q' < 100
    · rw [if_pos hq] at g2 ⊢
      refine ⟨g2.1, (g2.2.kept (e3 b hba)).to (fun j _ => ?_)⟩
      rw [(r j).1, (r j).2]
    · rw [if_neg hq] at g2 ⊢
      obtain ⟨cl, c1, c2, c3, c4, c5⟩ := g2
      refine ⟨cl, by rw [e3 b hba]; exact c1, c2, c3, c4, fun j hj => ?_⟩
      show cl.slots[j]? = some (av q' (stI τ b j) (stR τ b j))
      rw [(r j).1, (r j).2]
      exact c5 j hj
theorem wp_iast {a z : Nat} {j x : Int32} (hd : decode (mcode μ) pc = .ok (.iastore, 1)) (hK : stK σ a = some (100, z)) (k : Nat) (hj : j = nI k) (hk : k < z) (hz : z < 2147483648) (kk : WP Γ μ d c n (pc + 1) L st (setI σ a k x) Q) : WP Γ μ d c n pc L (.int x :: .int j :: .ref a :: st) σ Q := by
  subst hj
  intro p e s m args below meth cd mc ms H locs cells slots ls hC hR hS hc hn hl
  obtain ⟨cell, c1, c2, c3, c4, c5⟩ := cell_arr hR hK (by omega)
  have hba : gA Γ a := (hR.2.2 a _ z hK).1 (by omega)
  refine W.iast hC.1 hC.2.1 c1 c2 c3 (by rw [c4]; exact vp_in_nI hk hz) rfl rfl hd fun H' e1 e2 e3 => ?_
  rw [nI_clamp (by omega)] at e1
  refine kk p e s m args below meth cd mc ms H' _ cells slots ls hC (hR.store hK (by omega) hk c2 c3 c4 c5 e1 e2 e3 (fun _ => rfl) rfl (fun b i h => ⟨?_, rfl⟩) ?_) (hS.put e2 e3 hba) hc hn hl
  · rw [stI_setI, if_neg (by rintro ⟨r1, r2⟩; rcases h with h | h; exact h r1; exact h r2)]
  · rw [av_i rfl, stI_setI, if_pos ⟨rfl, rfl⟩]
theorem wp_bast {a z : Nat} {j x : Int32} (hd : decode (mcode μ) pc = .ok (.bastore, 1)) (hK : stK σ a = some (101, z)) (k : Nat) (hj : j = nI k) (hk : k < z) (hz : z < 2147483648) (kk : WP Γ μ d c n (pc + 1) L st (setI σ a k x.toInt8.toInt32) Q) : WP Γ μ d c n pc L (.int x :: .int j :: .ref a :: st) σ Q := by
  subst hj
  intro p e s m args below meth cd mc ms H locs cells slots ls hC hR hS hc hn hl
  obtain ⟨cell, c1, c2, c3, c4, c5⟩ := cell_arr hR hK (by omega)
  have hba : gA Γ a := (hR.2.2 a _ z hK).1 (by omega)
  refine W.bast hC.1 hC.2.1 c1 c2 c3 (by rw [c4]; exact vp_in_nI hk hz) rfl rfl hd fun H' e1 e2 e3 => ?_
  rw [nI_clamp (by omega)] at e1
  refine kk p e s m args below meth cd mc ms H' _ cells slots ls hC (hR.store hK (by omega) hk c2 c3 c4 c5 e1 e2 e3 (fun _ => rfl) rfl (fun b i h => ⟨?_, rfl⟩) ?_) (hS.put e2 e3 hba) hc hn hl
  · rw [stI_setI, if_neg (by rintro ⟨r1, r2⟩; rcases h with h | h; exact h r1; exact h r2)]
  · rw [av_i rfl, stI_setI, if_pos ⟨rfl, rfl⟩]; rfl
/-! new cells -/
theorem RepS.new {s : State} {H H' : Heap} {q z : Nat} (hR : RepS Γ σ s H) (e2 : H'.size = H.size + 1) (e3 : ∀ b, b < H.size → H'[b]? = H[b]?) (hnew : CellOK Γ (stNew σ q z) s H' (stN σ) q z) : RepS Γ (stNew σ q z) s H' := by
  have hz := hR.1
  refine ⟨by rw [e2, stN_new, hz], by rw [stN_new]; exact Nat.le_succ_of_le hR.2.1, fun b q' z' hb => ?_⟩
  rw [stK_new] at hb
  by_cases hbn : b = stN σ
  · rw [if_pos hbn] at hb
    cases hb
    subst hbn
    exact ⟨fun _ => hR.2.1, hnew⟩
  · rw [if_neg hbn] at hb
    obtain ⟨g1, g2⟩ := hR.2.2 b q' z' hb
    refine ⟨g1, ?_⟩
    have r1 : ∀ j, stI (stNew σ q z) b j = stI σ b j := fun j => by rw [stI_new, if_neg hbn]
    have r2 : ∀ j, stR (stNew σ q z) b j = stR σ b j := fun j => by rw [stR_new, if_neg hbn]
    unfold CellOK at g2 ⊢
    by_cases hq : q' < 100
    · rw [if_pos hq] at g2 ⊢
      obtain ⟨g2, g3⟩ := g2
      have hlt : b < H.size := by
        obtain ⟨cell, q1, -⟩ := g3
        exact (Array.getElem?_eq_some_iff.mp q1).1
      refine ⟨g2, (g3.kept (e3 b hlt)).to (fun j _ => ?_)⟩
      rw [r1, r2]
    · rw [if_neg hq] at g2 ⊢
      obtain ⟨cl, c1, c2, c3, c4, c5⟩ := g2
      have hlt : b < H.size := (Array.getElem?_eq_some_iff.mp c1).1
      refine ⟨cl, by rw [e3 b hlt]; exact c1, c2, c3, c4, fun j hj => ?_⟩
      show cl.slots[j]? = some (av q' (stI (stNew σ q z) b j) (stR (stNew σ q z) b j))
      rw [r1, r2]
      exact c5 j hj
theorem va_S.grow {A : Nat → Prop} {H0 H H' : Heap} {locs : List Loc} (hS : va_S A H0 H locs) (e2 : H'.size = H.size + 1) (e3 : ∀ b, b < H.size → H'[b]? = H[b]?) : va_S A H0 H' locs :=
  ⟨by have := hS.1; omega, fun x h1 h2 => (e3 x (Nat.lt_of_lt_of_le h1 hS.1)).trans (hS.2.1 x h1 h2), hS.2.2⟩
def NewAt (own : String) (i q z : Nat) : Prop := GoodCl q ∧ Cond.classLink own i (gN q) ∈ lw_all ∧ Cond.instantiable (gN q) z ∈ lw_all ∧ Cond.initialized (gN q) ∈ lw_all ∧ ∀ j, j < gF q → defaultValue (gTy q j) = fv q j 0 none
theorem wp_new {i q z : Nat} (hd : decode (mcode μ) pc = .ok (.new i, 3)) (hn' : NewAt (mown μ) i q z) (h1 : 1 ≤ c) (h2 : z ≤ n) (kk : WP Γ μ d (c - 1) (n - z) (pc + 3) L (.ref (stN σ) :: st) (stNew σ q 0) Q) : WP Γ μ d c n pc L st σ Q := by
  intro p e s m args below meth cd mc ms H locs cells slots ls hC hR hS hc hn hl
  have hC0 := hC
  obtain ⟨hx, hb, hret, hml, hlo, hnm, hts, hown, hE⟩ := hC
  obtain ⟨hg, w1, w2, w3, w4⟩ := hn'
  have hKn := hE.1.1 q _ hg.2.1
  refine W.newcK hx hb hown (hts _ w1) (hts _ w2) (hts _ w3) rfl hd (by show cells + 1 ≤ mc; omega) (by show slots + z ≤ ms; omega) hKn.2.1 rfl fun H1 kC hkC e1 z1 o1 => ?_
  have hz := hR.1
  rw [hz] at e1
  have := kk p e s m args below meth cd mc ms H1 locs (cells + 1) (slots + z) ls hC0 (hR.new (q := q) (z := 0) z1 o1 ?_) (hS.grow z1 o1) (by omega) (by omega) hl
  · rw [hz]; exact this
  · unfold CellOK
    have := hg.1
    rw [if_pos (by omega)]
    refine ⟨hg, (u_born (gTy q) hts hg.2.2.1 hKn hkC e1 hg.2.2.2.1).to (fun j hj => ?_)⟩
    rw [w4 j hj, stI_new, stR_new, if_pos rfl, if_pos rfl]
theorem arr_new {s : State} {H' : Heap} {q z a : Nat} {cA : ClassId} {τ : St} (hq : 100 ≤ q) (hdv : defaultValue (kty q) = av q 0 none) (hA : ArrOfT s cA (kty q)) (e1 : H'[a]? = some (arrV cA z (fun _ => defaultValue (kty q)))) (h1 : ∀ j, stI τ a j = 0) (h2 : ∀ j, stR τ a j = none) : CellOK Γ τ s H' a q z := by
  unfold CellOK
  rw [if_neg (by omega)]
  refine ⟨_, e1, hA _ _, (fun h => by cases h), arrV_size _ _ _, fun j hj => ?_⟩
  rw [arrV_read _ _ hj]
  show _ = some (av q (stI τ a j) (stR τ a j))
  rw [h1, h2, hdv]
theorem wp_newai {x : Int32} (hd : decode (mcode μ) pc = .ok (.newarray .int, 2)) (z : Nat) (hx : x = nI z) (hz : z < 100000) (h1 : 1 ≤ c) (h2 : z ≤ n) (hw : Cond.arrayClass .int ∈ lw_all) (kk : WP Γ μ d (c - 1) (n - z) (pc + 2) L (.ref (stN σ) :: st) (stNew σ 100 z) Q) : WP Γ μ d c n pc L (.int x :: st) σ Q := by
  subst hx
  intro p e s m args below meth cd mc ms H locs cells slots ls hC hR hS hc hn hl
  have hh := hR.1
  refine va_newaK (atype := .int) hC.1 hC.2.1 (hC.2.2.2.2.2.2.1 _ hw) rfl hd rfl (nI_pos (by omega)) (nI_clamp (by omega)) (by show z * 4 ≤ _; omega) (by show cells + 1 ≤ mc; omega) (by show slots + z ≤ ms; omega) rfl fun H1 cA e1 z1 o1 hA hNm => ?_
  rw [hh] at e1
  have := kk p e s m args below meth cd mc ms H1 locs (cells + 1) (slots + z) ls hC (hR.new (q := 100) (z := z) z1 o1 (arr_new (by omega) rfl hA e1 (fun j => by rw [stI_new, if_pos rfl]) (fun j => by rw [stR_new, if_pos rfl]))) (hS.grow z1 o1) (by omega) (by omega) hl
  rw [hh]; exact this
theorem wp_newab {x : Int32} (hd : decode (mcode μ) pc = .ok (.newarray .byte, 2)) (z : Nat) (hx : x = nI z) (hz : z < 100000) (h1 : 1 ≤ c) (h2 : z ≤ n) (hw : Cond.arrayClass .byte ∈ lw_all) (kk : WP Γ μ d (c - 1) (n - z) (pc + 2) L (.ref (stN σ) :: st) (stNew σ 101 z) Q) : WP Γ μ d c n pc L (.int x :: st) σ Q := by
  subst hx
  intro p e s m args below meth cd mc ms H locs cells slots ls hC hR hS hc hn hl
  have hh := hR.1
  refine va_newaK (atype := .byte) hC.1 hC.2.1 (hC.2.2.2.2.2.2.1 _ hw) rfl hd rfl (nI_pos (by omega)) (nI_clamp (by omega)) (by show z * 1 ≤ _; omega) (by show cells + 1 ≤ mc; omega) (by show slots + z ≤ ms; omega) rfl fun H1 cA e1 z1 o1 hA hNm => ?_
  rw [hh] at e1
  have := kk p e s m args below meth cd mc ms H1 locs (cells + 1) (slots + z) ls hC (hR.new (q := 101) (z := z) z1 o1 (arr_new (by omega) rfl hA e1 (fun j => by rw [stI_new, if_pos rfl]) (fun j => by rw [stR_new, if_pos rfl]))) (hS.grow z1 o1) (by omega) (by omega) hl
  rw [hh]; exact this
end RULES
