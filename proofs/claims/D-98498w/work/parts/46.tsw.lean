set_option maxRecDepth 100000
/-- a table of a switch, read off: every place goes where the list says, or to the default -/
def tswOK (pc : Nat) (dflt lo hi : Int) (offs : Array Int) (T : List (Int32 × Nat)) (df : Nat) : Bool :=
  decide ((pc : Int) + dflt = df) && (decide (hi + 1 = lo + offs.size) && (decide (-2147483648 ≤ lo ∧ hi ≤ 2147483647) && (T.all (fun q => decide (lo ≤ q.1.toInt ∧ q.1.toInt ≤ hi)) &&
    (List.range offs.size).all (fun i => match T.lookup (Int32.ofInt (lo + i)), offs[i]? with
      | some t, some o => decide ((pc : Int) + o = t)
      | none, some o => decide ((pc : Int) + o = df)
      | _, _ => false))))
theorem lookup_mem {x : Int32} {t : Nat} : ∀ {T : List (Int32 × Nat)}, T.lookup x = some t → (x, t) ∈ T
  | [], h => by cases h
  | (y, u) :: T, h => by
    rw [List.lookup_cons] at h
    by_cases hxy : (x == y) = true
    · rw [hxy] at h
      cases h
      rw [show x = y by simpa using hxy]
      exact List.mem_cons_self
    · rw [Bool.not_eq_true] at hxy
      rw [hxy] at h
      exact List.mem_cons_of_mem _ (lookup_mem h)
theorem lookup_none {x : Int32} : ∀ {T : List (Int32 × Nat)}, T.lookup x = none → ∀ q ∈ T, x ≠ q.1
  | [], _, q, hq => by cases hq
  | (y, u) :: T, h, q, hq => by
    rw [List.lookup_cons] at h
    by_cases hxy : (x == y) = true
    · rw [hxy] at h; cases h
    · rw [Bool.not_eq_true] at hxy
      rw [hxy] at h
      rcases List.mem_cons.mp hq with rfl | hq
      · simpa using hxy
      · exact lookup_none h q hq
theorem wp_tsw {Γ : Gm} {μ : Mth} {d c n pc : Nat} {L : List (Option Value)} {st : List Value} {σ : St} {Q : Option Value → St → Prop} {dflt lo hi : Int} {offs : Array Int} {len : Nat} {x : Int32} (hd : decode (mcode μ) pc = .ok (.tableswitch dflt lo hi offs, len)) (T : List (Int32 × Nat)) (df : Nat) (hT : tswOK pc dflt lo hi offs T df = true)
    (k : ∀ q ∈ T, x = q.1 → WP Γ μ d c n q.2 L st σ Q) (kd : (∀ q ∈ T, x ≠ q.1) → WP Γ μ d c n df L st σ Q) : WP Γ μ d c n pc L (.int x :: st) σ Q := by
  unfold tswOK at hT
  rw [Bool.and_eq_true, Bool.and_eq_true, Bool.and_eq_true, Bool.and_eq_true, decide_eq_true_eq, decide_eq_true_eq, decide_eq_true_eq] at hT
  obtain ⟨h1, h2, h3, h4, h5⟩ := hT
  by_cases ho : x.toInt < lo ∨ hi < x.toInt
  · refine wp_tableOut hd ho df h1 (kd (fun q hq e => ?_))
    have := List.all_eq_true.mp h4 q hq
    rw [decide_eq_true_eq] at this
    rw [e] at ho
    omega
  · have hlt : (x.toInt - lo).toNat < offs.size := by omega
    have h6 := List.all_eq_true.mp h5 _ (List.mem_range.mpr hlt)
    have hx : Int32.ofInt (lo + ((x.toInt - lo).toNat : Nat)) = x := by
      rw [show lo + (((x.toInt - lo).toNat : Nat) : Int) = x.toInt by omega, Int32.ofInt_toInt]
    rw [hx] at h6
    obtain ⟨o, ho'⟩ : ∃ o, offs[(x.toInt - lo).toNat]? = some o := ⟨_, Array.getElem?_eq_getElem hlt⟩
    rw [ho'] at h6
    cases hl : T.lookup x with
    | none =>
      rw [hl] at h6
      simp only [decide_eq_true_eq] at h6
      exact wp_tableIn hd (by omega) (by omega) ho' df h6 (kd (fun q hq => lookup_none hl q hq))
    | some t =>
      rw [hl] at h6
      simp only [decide_eq_true_eq] at h6
      exact wp_tableIn hd (by omega) (by omega) ho' t h6 (k (x, t) (lookup_mem hl) rfl)
theorem wp_astoreV_n {Γ : Gm} {μ : Mth} {d c n pc : Nat} {L : List (Option Value)} {st : List Value} {σ : St} {Q : Option Value → St → Prop} {i : Fin 4} {r : Option Nat} (hd : decode (mcode μ) pc = .ok (.astore_n i, 1)) (hi : Nat.blt (i : Nat) μ.2.2.1 = true) (k : WP Γ μ d c n (pc + 1) (L.set (i : Nat) (some (va_rf r))) st σ Q) : WP Γ μ d c n pc L (va_rf r :: st) σ Q := by
  cases r
  · exact wp_astore_nN hd hi k
  · exact wp_astore_n hd hi k
theorem wp_astoreV {Γ : Gm} {μ : Mth} {d c n pc : Nat} {L : List (Option Value)} {st : List Value} {σ : St} {Q : Option Value → St → Prop} {i : Nat} {r : Option Nat} (hd : decode (mcode μ) pc = .ok (.astore i, 2)) (hi : Nat.blt i μ.2.2.1 = true) (k : WP Γ μ d c n (pc + 2) (L.set i (some (va_rf r))) st σ Q) : WP Γ μ d c n pc L (va_rf r :: st) σ Q := by
  cases r
  · exact wp_astoreN hd hi k
  · exact wp_astore hd hi k
theorem wp_getV {Γ : Gm} {μ : Mth} {d c n pc : Nat} {L : List (Option Value)} {st : List Value} {σ : St} {Q : Option Value → St → Prop} {i a q z k : Nat} {r : Option Nat} (hd : decode (mcode μ) pc = .ok (.getfield i, 3)) (hf : FieldAt (mown μ) i q k) (ht : gRef q k = true) (hK : stK σ a = some (q, z)) (hr : stR σ a k = r) (kk : WP Γ μ d c n (pc + 3) L (va_rf r :: st) σ Q) : WP Γ μ d c n pc L (.ref a :: st) σ Q := by
  refine wp_get hd hf hK ?_
  rw [fv, if_pos ht, hr]
  exact kk
