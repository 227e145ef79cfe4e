set_option maxRecDepth 100000
def ix (x : Int32) : Nat := x.toNatClampNeg
theorem ix_nI {n : Nat} (h : n < 2147483648) : ix (nI n) = n := nI_clamp h
def travB (G : Gd) (i : Nat) : Bool := freeB G i && !decide (G 6 i = G 7 i)
def travG (G : Gd) (i : Nat) : Gd := if travB G i = true then gset (gset G 2 i (G (ix (G 6 i) + 100) i)) 6 i (G 6 i + 1) else G
def candB (G : Gd) (t : Int32) (i j : Nat) : Bool := ((freeB G j && decide (G 1 j = 1)) && decide (G 2 j = t)) && !hasB (G 5 i) (nI j)
def meetsG (Lw : Lws) (G : Gd) (t : Int32) (i : Nat) : Gd := match (List.range 12).find? (fun j => candB G t i j) with
  | none => G
  | some j => triesG Lw G i j
def creakW (Lw : Lws) (G : Gd) (i j : Nat) : Int32 := bI (decide (drawV G < askF Lw (drawG G) i j (slackL G (nI i) (nI j)) 99 10))
def creakG2 (Lw : Lws) (G : Gd) (i j : Nat) : Gd := gset (drawG G) 4 i (imin 99 (drawG G 4 i + creakW Lw G i j))
def creakG3 (Lw : Lws) (G : Gd) (i j : Nat) : Gd := gset (creakG2 Lw G i j) 4 j (imin 99 (creakG2 Lw G i j 4 j + creakW Lw G i j))
def creakG4 (Lw : Lws) (G : Gd) (i j : Nat) : Gd := triedG (partG (creakG3 Lw G i j) i j) i j
def creakG (Lw : Lws) (G : Gd) (i j : Nat) : Gd := if creakG3 Lw G i j 4 i ≤ askF Lw (creakG3 Lw G i j) i j (slackL G (nI i) (nI j)) 98 99 then creakG3 Lw G i j else sset (creakG4 Lw G i j) 6 (creakG4 Lw G i j 30 6 + 1)
def travN (G : Gd) : Nat → Gd
  | 0 => G
  | n + 1 => travG (travN G n) n
def meetB (G : Gd) (t : Int32) (i : Nat) : Bool := (freeB G i && decide (G 1 i = 0)) && decide (G 2 i = t)
def meetN (Lw : Lws) (G : Gd) (t : Int32) : Nat → Gd
  | 0 => G
  | n + 1 => if meetB (meetN Lw G t n) t n = true then meetsG Lw (meetN Lw G t n) t n else meetN Lw G t n
def townN (Lw : Lws) (G : Gd) : Nat → Gd
  | 0 => G
  | t + 1 => meetN Lw (townN Lw G t) (nI t) 12
def crkB (G : Gd) (i : Nat) : Bool := livesB G i && decide (nI i < G 3 i)
def creakN (Lw : Lws) (G : Gd) : Nat → Gd
  | 0 => G
  | n + 1 => if crkB (creakN Lw G n) n = true then creakG Lw (creakN Lw G n) n (ix (creakN Lw G n 3 n)) else creakN Lw G n
def dayG3 (Lw : Lws) (G : Gd) : Gd := creakN Lw (townN Lw (travN G 12) 6) 12
def dayG (Lw : Lws) (G : Gd) : Gd := sset (dayG3 Lw G) 2 (dayG3 Lw G 30 2 + 1)
def goN (Lw : Lws) (G : Gd) : Nat → Gd
  | 0 => G
  | n + 1 => if goN Lw G n 30 2 < 9999 then dayG Lw (goN Lw G n) else goN Lw G n
def zeroG (G : Gd) : Gd := sset (sset (sset G 4 0) 5 0) 6 0
def goesG (Lw : Lws) (G : Gd) (n : Nat) : Gd := goN Lw (zeroG G) n
theorem goN_stop {Lw : Lws} {G : Gd} {k : Nat} (h : ¬ goN Lw G k 30 2 < 9999) : ∀ m, goN Lw G (k + m) = goN Lw G k
  | 0 => rfl
  | m + 1 => by
    rw [show k + (m + 1) = (k + m) + 1 by omega, goN, goN_stop h m, if_neg h]
/-! what a walk of a day wants of a land -/
def GI1 (G : Gd) (i : Nat) : Prop := ∃ n d : Nat, G 6 i = nI n ∧ G 7 i = nI d ∧ n ≤ d ∧ d ≤ 144
def GI3 (G : Gd) (i : Nat) : Prop := G 3 i = -1 ∨ ∃ j, j < 12 ∧ G 3 i = nI j
def GI (G : Gd) : Prop := ∀ i, i < 12 → GI1 G i ∧ GI3 G i
theorem GI.congr {G G' : Gd} (h : GI G) (e6 : ∀ i, G' 6 i = G 6 i) (e7 : ∀ i, G' 7 i = G 7 i) (e3 : ∀ i, G' 3 i = G 3 i) : GI G' := by
  intro i hi
  obtain ⟨h1, h2⟩ := h i hi
  unfold GI1 GI3 at *
  rw [e6, e7, e3]
  exact ⟨h1, h2⟩
theorem gset_ne {G : Gd} {f i f' i' : Nat} {x : Int32} (h : f' ≠ f ∨ i' ≠ i) : gset G f i x f' i' = G f' i' := by
  rw [gset, if_neg (by omega)]
theorem gset_eq {G : Gd} {f i : Nat} {x : Int32} : gset G f i x f i = x := by rw [gset, if_pos ⟨rfl, rfl⟩]
theorem sset_lo {G : Gd} {k f i : Nat} {x : Int32} (h : f < 30) : sset G k x f i = G f i := by rw [sset, if_neg (by omega)]
theorem GI.st {G : Gd} (h : GI G) {f i : Nat} {x : Int32} (hf : f ≠ 6 ∧ f ≠ 7 ∧ f ≠ 3) : GI (gset G f i x) :=
  h.congr (fun _ => gset_ne (by omega)) (fun _ => gset_ne (by omega)) (fun _ => gset_ne (by omega))
theorem GI.ss {G : Gd} (h : GI G) {k : Nat} {x : Int32} : GI (sset G k x) := h.congr (fun _ => sset_lo (by omega)) (fun _ => sset_lo (by omega)) (fun _ => sset_lo (by omega))
theorem GI.st3 {G : Gd} (h : GI G) {i : Nat} {x : Int32} (hx : x = -1 ∨ ∃ j, j < 12 ∧ x = nI j) : GI (gset G 3 i x) := by
  intro k hk
  obtain ⟨h1, h2⟩ := h k hk
  unfold GI1 GI3 at *
  refine ⟨by rw [gset_ne (by omega), gset_ne (by omega)]; exact h1, ?_⟩
  by_cases e : k = i
  · subst e; rw [gset_eq]; exact hx
  · rw [gset_ne (Or.inr e)]; exact h2
theorem GI.wed {G : Gd} (h : GI G) {i j : Nat} (hi : i < 12) (hj : j < 12) : GI (wedG G i j) := (((h.st3 (Or.inr ⟨j, hj, rfl⟩)).st3 (Or.inr ⟨i, hi, rfl⟩)).st (by omega)).st (by omega)
theorem GI.part {G : Gd} (h : GI G) {i j : Nat} : GI (partG G i j) := (h.st3 (Or.inl rfl)).st3 (Or.inl rfl)
theorem GI.tried {G : Gd} (h : GI G) {i j : Nat} : GI (triedG G i j) := (h.st (by omega)).st (by omega)
theorem GI.draw {G : Gd} (h : GI G) : GI (drawG G) := h.ss
theorem GI.wear {G : Gd} (h : GI G) {i j w : Int32} : ∀ n, GI (wearG G i j w n)
  | 0 => h
  | n + 1 => by
    rw [wearG]
    split
    · exact (GI.wear h n).st (by omega)
    · exact GI.wear h n
theorem GI.tries {Lw : Lws} {G : Gd} (h : GI G) {i j : Nat} (hi : i < 12) (hj : j < 12) : GI (triesG Lw G i j) := by
  unfold triesG
  split
  · exact (h.ss.tried.wed hi hj).ss
  · exact h.ss.tried.wear 12
theorem find_lt {p : Nat → Bool} {n j : Nat} (h : (List.range n).find? p = some j) : j < n ∧ p j = true := ⟨List.mem_range.mp (List.mem_of_find?_eq_some h), List.find?_some h⟩
theorem find_none {p : Nat → Bool} {n : Nat} (h : ∀ j, j < n → p j = false) : (List.range n).find? p = none := List.find?_eq_none.mpr (fun j hj => by rw [h j (List.mem_range.mp hj)]; decide)
theorem find_some {p : Nat → Bool} {n k : Nat} (hk : k < n) (h : ∀ j, j < k → p j = false) (hp : p k = true) : (List.range n).find? p = some k := by
  cases hf : (List.range n).find? p with
  | none => exact absurd hp (List.find?_eq_none.mp hf k (List.mem_range.mpr hk))
  | some j =>
    obtain ⟨h1, h2⟩ := find_lt hf
    obtain ⟨as, bs, e, h3⟩ := List.find?_eq_some_iff_append.mp hf |>.2
    rcases Nat.lt_trichotomy j k with hl | rfl | hl
    · rw [h j hl] at h2; cases h2
    · rfl
    · exfalso
      have hm : k ∈ as := by
        have hs : (List.range n).Pairwise (· < ·) := List.pairwise_lt_range
        rw [e] at hs
        have hk' : k ∈ as ++ j :: bs := by rw [← e]; exact List.mem_range.mpr hk
        rcases List.mem_append.mp hk' with q | q
        · exact q
        · rcases List.mem_cons.mp q with q | q
          · omega
          · have := List.rel_of_pairwise_cons (List.pairwise_append.mp hs).2.1 q
            omega
      have := h3 k hm
      rw [hp] at this
      cases this
theorem GI.meets {Lw : Lws} {G : Gd} (h : GI G) {t : Int32} {i : Nat} (hi : i < 12) : GI (meetsG Lw G t i) := by
  unfold meetsG
  cases hf : (List.range 12).find? (fun j => candB G t i j) with
  | none => exact h
  | some j => exact h.tries hi (find_lt hf).1
theorem GI.creak {Lw : Lws} {G : Gd} (h : GI G) {i j : Nat} : GI (creakG Lw G i j) := by
  have h3 : GI (creakG3 Lw G i j) := (h.draw.st (by omega)).st (by omega)
  unfold creakG
  split
  · exact h3
  · exact h3.part.tried.ss
theorem GI.mtN {Lw : Lws} {G : Gd} (h : GI G) {t : Int32} : ∀ n, n ≤ 12 → GI (meetN Lw G t n)
  | 0, _ => h
  | n + 1, hn => by
    rw [meetN]
    split
    · exact (GI.mtN h n (by omega)).meets (by omega)
    · exact GI.mtN h n (by omega)
theorem GI.twN {Lw : Lws} {G : Gd} (h : GI G) : ∀ n, GI (townN Lw G n)
  | 0 => h
  | n + 1 => (GI.twN h n).mtN 12 (Nat.le_refl _)
theorem GI.ckN {Lw : Lws} {G : Gd} (h : GI G) : ∀ n, GI (creakN Lw G n)
  | 0 => h
  | n + 1 => by
    rw [creakN]
    split
    · exact (GI.ckN h n).creak
    · exact GI.ckN h n
theorem GI.trav {G : Gd} (h : GI G) {i : Nat} : GI (travG G i) := by
  unfold travG
  split
  · intro k hk
    obtain ⟨⟨n, d, h1, h2, h3, h4⟩, h5⟩ := h k hk
    unfold GI1 GI3 at *
    by_cases e : k = i
    · subst e
      refine ⟨⟨n + 1, d, by rw [gset_eq, h1, nI_1], by rw [gset_ne (by omega), gset_ne (by omega)]; exact h2, ?_, h4⟩, by rw [gset_ne (by omega), gset_ne (by omega)]; exact h5⟩
      rename_i ht
      rw [travB, Bool.and_eq_true] at ht
      have : G 6 k ≠ G 7 k := by simpa using ht.2
      rw [h1, h2] at this
      have : n ≠ d := fun e => this (by rw [e])
      omega
    · refine ⟨⟨n, d, by rw [gset_ne (by omega), gset_ne (by omega)]; exact h1, by rw [gset_ne (by omega), gset_ne (by omega)]; exact h2, h3, h4⟩, by rw [gset_ne (by omega), gset_ne (by omega)]; exact h5⟩
  · exact h
theorem GI.tvN {G : Gd} (h : GI G) : ∀ n, GI (travN G n)
  | 0 => h
  | n + 1 => (GI.tvN h n).trav
theorem GI.day {Lw : Lws} {G : Gd} (h : GI G) : GI (dayG Lw G) := (((h.tvN 12).twN 6).ckN 12).ss
theorem GI.go {Lw : Lws} {G : Gd} (h : GI G) : ∀ n, GI (goN Lw G n)
  | 0 => h
  | n + 1 => by
    rw [goN]
    split
    · exact (GI.go h n).day
    · exact GI.go h n
theorem GI.zero {G : Gd} (h : GI G) : GI (zeroG G) := h.ss.ss.ss
