set_option maxRecDepth 100000
def folN {S : Type} (f : Nat → S → S) (s : S) : Nat → S
  | 0 => s
  | n + 1 => f n (folN f s n)
theorem folN_id {S : Type} {f : Nat → S → S} {s : S} : ∀ n, (∀ k, k < n → f k s = s) → folN f s n = s
  | 0, _ => rfl
  | n + 1, h => by rw [folN, folN_id n (fun k hk => h k (by omega)), h n (by omega)]
theorem folN_stop {S : Type} {f : Nat → S → S} {s : S} {c : Nat} : ∀ n, c ≤ n → (∀ k, c ≤ k → k < n → ∀ s, f k s = s) → folN f s n = folN f s c
  | 0, h, _ => by obtain rfl : c = 0 := by omega
                  rfl
  | n + 1, h, h2 => by
    by_cases e : c = n + 1
    · rw [e]
    · rw [folN, h2 n (by omega) (by omega), folN_stop n (by omega) (fun k h3 h4 => h2 k h3 (by omega))]
abbrev Pk : Type := Int32 × Option Nat
def pick (p : Bool) (e : Nat) (s : Pk) : Pk := if p = true then (s.1 + 1, if s.1 = 0 then some e else s.2) else s
theorem pick_f {p : Bool} {e : Nat} {s : Pk} (h : p = false) : pick p e s = s := by rw [pick, h]; rfl
theorem pick_t {p : Bool} {e : Nat} {s : Pk} (h : p = true) : pick p e s = (s.1 + 1, if s.1 = 0 then some e else s.2) := by rw [pick, h]; rfl
def oneV (f : Nat → Int32) : Option Nat → Int32
  | none => -2
  | some e => f e
def lockP (Lw : Lws) (G : Gd) (a b c : Nat) : Bool := (decide (a < b) && decide (b < c)) && ((areFitB Lw G a b && areFitB Lw G a c) && areFitB Lw G b c)
def lockC (Lw : Lws) (G : Gd) (a b : Nat) (s : Pk) (n : Nat) : Pk := folN (fun c s => pick (lockP Lw G a b c) (144 * a + (12 * b + c)) s) s n
def lockB (Lw : Lws) (G : Gd) (a : Nat) (s : Pk) (n : Nat) : Pk := folN (fun b s => lockC Lw G a b s 12) s n
def lockA (Lw : Lws) (G : Gd) (n : Nat) : Pk := folN (fun a s => lockB Lw G a s 12) (0, none) n
def lockS (w : Int32) (e : Nat) : Int32 := if w = 1 then nI (e / 144) else if w = 2 then nI (e / 12 % 12) else nI (e % 12)
def locksV (Lw : Lws) (G : Gd) (w : Int32) : Int32 := if wiB w 0 3 = true then (if w = 0 then (lockA Lw G 12).1 else oneV (lockS w) (lockA Lw G 12).2) else -1
theorem pick1 {e : Nat} {s : Pk} : (pick true e s).1 = s.1 + 1 := rfl
theorem pick_no {e : Nat} {s : Pk} (h : ¬ s.1 = 0) : (pick true e s).2 = s.2 := if_neg h
theorem oneV_go {f : Nat → Int32} {e : Nat} {s : Pk} {x : Int32} (h : s.1 = 0) (hx : f e = x) : oneV f (pick true e s).2 = x := by
  rw [show (pick true e s).2 = some e from if_pos h]; exact hx
section
variable {Γ : Gm} {σ : St} {b hi : Nat} {Lw : Lws}
theorem ct_locks (w : Int32) (hS : Sy b hi Lw σ) : Ct Γ 52 0 0 m_X0_locks [.ref b, .int w] σ (fun r τ => ∃ y, r = some (.int y) ∧ (y = locksV Lw (LG σ (b + 2)) w ∧ Fr (isM b) b σ τ)) := by
  refine Ct.ofWP pf_X0_locks rfl rfl ?_
  have loopC : ∀ (Q : Option Value → St → Prop) (i j : Nat) (s : Pk), i < 12 → j < 12 → i < j → (∀ ρ o6, Fr (isM b) b σ ρ → WP Γ m_X0_locks 52 0 0 124 [some (.ref b), some (.int w), some (.int (lockC Lw (LG σ (b + 2)) i j s 12).1), some (.int (oneV (lockS w) (lockC Lw (LG σ (b + 2)) i j s 12).2)), some (.int (nI i)), some (.int (nI j)), o6] [] ρ Q) → ∀ n k ρ, j < k → k ≤ 12 → 12 - k < n → Fr (isM b) b σ ρ → WP Γ m_X0_locks 52 0 0 45 [some (.ref b), some (.int w), some (.int (lockC Lw (LG σ (b + 2)) i j s k).1), some (.int (oneV (lockS w) (lockC Lw (LG σ (b + 2)) i j s k).2)), some (.int (nI i)), some (.int (nI j)), some (.int (nI k))] [] ρ Q := by
    intro Q i j s hi' hj hij hQ n
    induction n with
    | zero => intro k ρ h0 h1 h2; omega
    | succ n ih =>
      intro k ρ h0 h1 h2 hf
      have hS1 := hS.fr hf isM_law
      have hC := hS1.1
      have eG := LGM0 hf
      have st : ∀ p, lockP Lw (LG σ (b + 2)) i j k = p → lockC Lw (LG σ (b + 2)) i j s (k + 1) = pick p (144 * i + (12 * j + k)) (lockC Lw (LG σ (b + 2)) i j s k) := fun p e => by rw [lockC, folN, e]; rfl
      generalize hs : lockC Lw (LG σ (b + 2)) i j s k = s1 at *
      refine wp_iload dX0_locks_45 rfl ?_
      refine wp_bipush dX0_locks_47 12 rfl ?_
      refine wp_icmp_geN dX0_locks_49 124 (by decide) k 12 rfl rfl (by omega) (by omega) (fun c49 => ?_) (fun c49 => ?_)
      · by_cases hk : k = 12
        · subst hk
          rw [← hs]
          first | exact hQ _ _ hf | exact hQ _ _ hf1
        have e : lockC Lw (LG σ (b + 2)) i j s 12 = s1 := by
          first | (rw [← hs]; exact folN_stop 12 (by omega) (fun q h3 h4 s' => pick_f (by rw [lockP, bI_0.mp c60]; simp))) | omega
        first | (have h := hQ _ (some (.int (nI k))) hf1; rw [e] at h; exact h) | omega
      · refine wp_aload_n dX0_locks_52 rfl ?_
        refine wp_iload dX0_locks_53 rfl ?_
        refine wp_iload dX0_locks_55 rfl ?_
        refine wp_cIx (gcV dX0_locks_57 gva_X0_240_0 (ct_areFit hi' hj hS1) hC.k0 rfl rfl (by omega) (by omega) (by omega) (Nat.le_of_ble_eq_true rfl) rfl) (fun y τ hy => ?_)
        obtain ⟨rfl, hf1⟩ := hy
        rw [eG]
        replace hf1 := hf.trans hf1
        have hS2 := hS.fr hf1 isM_law
        have hC := hS2.1
        refine wp_if_eq dX0_locks_60 124 (by decide) (fun c60 => ?_) (fun c60 => ?_)
        · by_cases hk : k = 12
          · subst hk
            rw [← hs]
            first | exact hQ _ _ hf | exact hQ _ _ hf1
          have e : lockC Lw (LG σ (b + 2)) i j s 12 = s1 := by
            first | (rw [← hs]; exact folN_stop 12 (by omega) (fun q h3 h4 s' => pick_f (by rw [lockP, bI_0.mp c60]; simp))) | omega
          first | (have h := hQ _ (some (.int (nI k))) hf1; rw [e] at h; exact h) | omega
        · refine wp_aload_n dX0_locks_63 rfl ?_
          refine wp_iload dX0_locks_64 rfl ?_
          refine wp_iload dX0_locks_66 rfl ?_
          refine wp_cIx (gcV dX0_locks_68 gva_X0_240_0 (ct_areFit hi' c49 hS2) hC.k0 rfl rfl (by omega) (by omega) (by omega) (Nat.le_of_ble_eq_true rfl) rfl) (fun y τ hy => ?_)
          obtain ⟨rfl, hf2⟩ := hy
          rw [LGM0 hf1]
          replace hf2 := hf1.trans hf2
          have hS3 := hS.fr hf2 isM_law
          have hC := hS3.1
          refine wp_if_eq dX0_locks_71 118 (by decide) (fun c71 => ?_) (fun c71 => ?_)
          · refine wp_iinc dX0_locks_118 rfl rfl (nI (k + 1)) (nI_add k 1) ?_
            refine wp_goto dX0_locks_121 45 (by decide) ?_
            first | refine WP.cast ?_ (ih (k + 1) _ (by omega) (by omega) (by omega) hf3) | refine WP.cast ?_ (ih (k + 1) _ (by omega) (by omega) (by omega) hf2)
            first | (rw [st false (by rw [lockP, bI_0.mp c71]; simp)]; rfl) | (rw [st false (by rw [lockP, bI_0.mp c82]; simp)]; rfl) | (have ht : lockP Lw (LG σ (b + 2)) i j k = true := (by rw [lockP, bI_1.mp c60, bI_1.mp c71, bI_1.mp c82]; simp [hij, h0]); rw [st true ht, pick1]; first | (rw [pick_no c89]; rfl) | (rw [oneV_go (x := nI i) c89 (by rw [lockS, if_pos c94]; congr 1; omega)]; rfl) | (rw [oneV_go (x := nI j) c89 (by rw [lockS, if_neg c94, if_pos c104]; congr 1; omega)]; rfl) | (rw [oneV_go (x := nI k) c89 (by rw [lockS, if_neg c94, if_neg c104]; congr 1; omega)]; rfl))
          · refine wp_aload_n dX0_locks_74 rfl ?_
            refine wp_iload dX0_locks_75 rfl ?_
            refine wp_iload dX0_locks_77 rfl ?_
            refine wp_cIx (gcV dX0_locks_79 gva_X0_240_0 (ct_areFit hj c49 hS3) hC.k0 rfl rfl (by omega) (by omega) (by omega) (Nat.le_of_ble_eq_true rfl) rfl) (fun y τ hy => ?_)
            obtain ⟨rfl, hf3⟩ := hy
            rw [LGM0 hf2]
            replace hf3 := hf2.trans hf3
            refine wp_if_ne dX0_locks_82 88 (by decide) (fun c82 => ?_) (fun c82 => ?_)
            · refine wp_iload_n dX0_locks_88 rfl ?_
              refine wp_if_ne dX0_locks_89 115 (by decide) (fun c89 => ?_) (fun c89 => ?_)
              · refine wp_iinc dX0_locks_115 rfl rfl _ rfl ?_
                refine wp_iinc dX0_locks_118 rfl rfl (nI (k + 1)) (nI_add k 1) ?_
                refine wp_goto dX0_locks_121 45 (by decide) ?_
                first | refine WP.cast ?_ (ih (k + 1) _ (by omega) (by omega) (by omega) hf3) | refine WP.cast ?_ (ih (k + 1) _ (by omega) (by omega) (by omega) hf2)
                first | (rw [st false (by rw [lockP, bI_0.mp c71]; simp)]; rfl) | (rw [st false (by rw [lockP, bI_0.mp c82]; simp)]; rfl) | (have ht : lockP Lw (LG σ (b + 2)) i j k = true := (by rw [lockP, bI_1.mp c60, bI_1.mp c71, bI_1.mp c82]; simp [hij, h0]); rw [st true ht, pick1]; first | (rw [pick_no c89]; rfl) | (rw [oneV_go (x := nI i) c89 (by rw [lockS, if_pos c94]; congr 1; omega)]; rfl) | (rw [oneV_go (x := nI j) c89 (by rw [lockS, if_neg c94, if_pos c104]; congr 1; omega)]; rfl) | (rw [oneV_go (x := nI k) c89 (by rw [lockS, if_neg c94, if_neg c104]; congr 1; omega)]; rfl))
              · refine wp_iload_n dX0_locks_92 rfl ?_
                refine wp_iconst dX0_locks_93 1 rfl ?_
                refine wp_icmp_ne dX0_locks_94 102 (by decide) (fun c94 => ?_) (fun c94 => ?_)
                · refine wp_iload_n dX0_locks_102 rfl ?_
                  refine wp_iconst dX0_locks_103 2 rfl ?_
                  refine wp_icmp_ne dX0_locks_104 112 (by decide) (fun c104 => ?_) (fun c104 => ?_)
                  · refine wp_iload dX0_locks_112 rfl ?_
                    refine wp_istore_n dX0_locks_114 rfl ?_
                    refine wp_iinc dX0_locks_115 rfl rfl _ rfl ?_
                    refine wp_iinc dX0_locks_118 rfl rfl (nI (k + 1)) (nI_add k 1) ?_
                    refine wp_goto dX0_locks_121 45 (by decide) ?_
                    first | refine WP.cast ?_ (ih (k + 1) _ (by omega) (by omega) (by omega) hf3) | refine WP.cast ?_ (ih (k + 1) _ (by omega) (by omega) (by omega) hf2)
                    first | (rw [st false (by rw [lockP, bI_0.mp c71]; simp)]; rfl) | (rw [st false (by rw [lockP, bI_0.mp c82]; simp)]; rfl) | (have ht : lockP Lw (LG σ (b + 2)) i j k = true := (by rw [lockP, bI_1.mp c60, bI_1.mp c71, bI_1.mp c82]; simp [hij, h0]); rw [st true ht, pick1]; first | (rw [pick_no c89]; rfl) | (rw [oneV_go (x := nI i) c89 (by rw [lockS, if_pos c94]; congr 1; omega)]; rfl) | (rw [oneV_go (x := nI j) c89 (by rw [lockS, if_neg c94, if_pos c104]; congr 1; omega)]; rfl) | (rw [oneV_go (x := nI k) c89 (by rw [lockS, if_neg c94, if_neg c104]; congr 1; omega)]; rfl))
                  · refine wp_iload dX0_locks_107 rfl ?_
                    refine wp_goto dX0_locks_109 114 (by decide) ?_
                    refine wp_istore_n dX0_locks_114 rfl ?_
                    refine wp_iinc dX0_locks_115 rfl rfl _ rfl ?_
                    refine wp_iinc dX0_locks_118 rfl rfl (nI (k + 1)) (nI_add k 1) ?_
                    refine wp_goto dX0_locks_121 45 (by decide) ?_
                    first | refine WP.cast ?_ (ih (k + 1) _ (by omega) (by omega) (by omega) hf3) | refine WP.cast ?_ (ih (k + 1) _ (by omega) (by omega) (by omega) hf2)
                    first | (rw [st false (by rw [lockP, bI_0.mp c71]; simp)]; rfl) | (rw [st false (by rw [lockP, bI_0.mp c82]; simp)]; rfl) | (have ht : lockP Lw (LG σ (b + 2)) i j k = true := (by rw [lockP, bI_1.mp c60, bI_1.mp c71, bI_1.mp c82]; simp [hij, h0]); rw [st true ht, pick1]; first | (rw [pick_no c89]; rfl) | (rw [oneV_go (x := nI i) c89 (by rw [lockS, if_pos c94]; congr 1; omega)]; rfl) | (rw [oneV_go (x := nI j) c89 (by rw [lockS, if_neg c94, if_pos c104]; congr 1; omega)]; rfl) | (rw [oneV_go (x := nI k) c89 (by rw [lockS, if_neg c94, if_neg c104]; congr 1; omega)]; rfl))
                · refine wp_iload dX0_locks_97 rfl ?_
                  refine wp_goto dX0_locks_99 114 (by decide) ?_
                  refine wp_istore_n dX0_locks_114 rfl ?_
                  refine wp_iinc dX0_locks_115 rfl rfl _ rfl ?_
                  refine wp_iinc dX0_locks_118 rfl rfl (nI (k + 1)) (nI_add k 1) ?_
                  refine wp_goto dX0_locks_121 45 (by decide) ?_
                  first | refine WP.cast ?_ (ih (k + 1) _ (by omega) (by omega) (by omega) hf3) | refine WP.cast ?_ (ih (k + 1) _ (by omega) (by omega) (by omega) hf2)
                  first | (rw [st false (by rw [lockP, bI_0.mp c71]; simp)]; rfl) | (rw [st false (by rw [lockP, bI_0.mp c82]; simp)]; rfl) | (have ht : lockP Lw (LG σ (b + 2)) i j k = true := (by rw [lockP, bI_1.mp c60, bI_1.mp c71, bI_1.mp c82]; simp [hij, h0]); rw [st true ht, pick1]; first | (rw [pick_no c89]; rfl) | (rw [oneV_go (x := nI i) c89 (by rw [lockS, if_pos c94]; congr 1; omega)]; rfl) | (rw [oneV_go (x := nI j) c89 (by rw [lockS, if_neg c94, if_pos c104]; congr 1; omega)]; rfl) | (rw [oneV_go (x := nI k) c89 (by rw [lockS, if_neg c94, if_neg c104]; congr 1; omega)]; rfl))
            · refine wp_goto dX0_locks_85 118 (by decide) ?_
              refine wp_iinc dX0_locks_118 rfl rfl (nI (k + 1)) (nI_add k 1) ?_
              refine wp_goto dX0_locks_121 45 (by decide) ?_
              first | refine WP.cast ?_ (ih (k + 1) _ (by omega) (by omega) (by omega) hf3) | refine WP.cast ?_ (ih (k + 1) _ (by omega) (by omega) (by omega) hf2)
              first | (rw [st false (by rw [lockP, bI_0.mp c71]; simp)]; rfl) | (rw [st false (by rw [lockP, bI_0.mp c82]; simp)]; rfl) | (have ht : lockP Lw (LG σ (b + 2)) i j k = true := (by rw [lockP, bI_1.mp c60, bI_1.mp c71, bI_1.mp c82]; simp [hij, h0]); rw [st true ht, pick1]; first | (rw [pick_no c89]; rfl) | (rw [oneV_go (x := nI i) c89 (by rw [lockS, if_pos c94]; congr 1; omega)]; rfl) | (rw [oneV_go (x := nI j) c89 (by rw [lockS, if_neg c94, if_pos c104]; congr 1; omega)]; rfl) | (rw [oneV_go (x := nI k) c89 (by rw [lockS, if_neg c94, if_neg c104]; congr 1; omega)]; rfl))
  have loopB : ∀ (Q : Option Value → St → Prop) (i : Nat) (s : Pk), i < 12 → (∀ ρ o5 o6, Fr (isM b) b σ ρ → WP Γ m_X0_locks 52 0 0 130 [some (.ref b), some (.int w), some (.int (lockB Lw (LG σ (b + 2)) i s 12).1), some (.int (oneV (lockS w) (lockB Lw (LG σ (b + 2)) i s 12).2)), some (.int (nI i)), o5, o6] [] ρ Q) → ∀ n k ρ o6, i < k → k ≤ 12 → 12 - k < n → Fr (isM b) b σ ρ → WP Γ m_X0_locks 52 0 0 32 [some (.ref b), some (.int w), some (.int (lockB Lw (LG σ (b + 2)) i s k).1), some (.int (oneV (lockS w) (lockB Lw (LG σ (b + 2)) i s k).2)), some (.int (nI i)), some (.int (nI k)), o6] [] ρ Q := by
    intro Q i s hi' hQ n
    induction n with
    | zero => intro k ρ o6 h0 h1 h2; omega
    | succ n ih =>
      intro k ρ o6 h0 h1 h2 hf
      have hC := (hS.fr hf isM_law).1
      have back : k < 12 → ∀ ρ o6, Fr (isM b) b σ ρ → WP Γ m_X0_locks 52 0 0 124 [some (.ref b), some (.int w), some (.int (lockB Lw (LG σ (b + 2)) i s (k + 1)).1), some (.int (oneV (lockS w) (lockB Lw (LG σ (b + 2)) i s (k + 1)).2)), some (.int (nI i)), some (.int (nI k)), o6] [] ρ Q := by
        intro hk ρ o6 hf
        have hC := (hS.fr hf isM_law).1
        refine wp_iinc dX0_locks_124 rfl rfl (nI (k + 1)) (nI_add k 1) ?_
        refine wp_goto dX0_locks_127 32 (by decide) ?_
        exact ih (k + 1) _ _ (by omega) (by omega) (by omega) hf
      refine wp_iload dX0_locks_32 rfl ?_
      refine wp_bipush dX0_locks_34 12 rfl ?_
      refine wp_icmp_geN dX0_locks_36 130 (by decide) k 12 rfl rfl (by omega) (by omega) (fun c36 => ?_) (fun c36 => ?_)
      · obtain rfl : k = 12 := by omega
        exact hQ _ _ _ hf
      · refine wp_iload dX0_locks_39 rfl ?_
        refine wp_iconst dX0_locks_41 1 rfl ?_
        refine wp_iadd dX0_locks_42 ?_
        refine wp_top (y := nI (k + 1)) (nI_add k 1) ?_
        refine wp_istore dX0_locks_43 rfl ?_
        have e : lockC Lw (LG σ (b + 2)) i k (lockB Lw (LG σ (b + 2)) i s k) (k + 1) = lockB Lw (LG σ (b + 2)) i s k := folN_id _ (fun q hq => pick_f (by rw [lockP, decide_eq_false (p := k < q) (by omega)]; simp))
        have h := loopC Q i k (lockB Lw (LG σ (b + 2)) i s k) hi' (by omega) h0 (back c36) 13 (k + 1) ρ (by omega) (by omega) (by omega) hf
        rw [e] at h
        exact h
  have loopA : ∀ n k ρ o5 o6, k ≤ 12 → 12 - k < n → Fr (isM b) b σ ρ → wiB w 0 3 = true → WP Γ m_X0_locks 52 0 0 19 [some (.ref b), some (.int w), some (.int (lockA Lw (LG σ (b + 2)) k).1), some (.int (oneV (lockS w) (lockA Lw (LG σ (b + 2)) k).2)), some (.int (nI k)), o5, o6] [] ρ (fun r τ => ∃ y, r = some (.int y) ∧ (y = locksV Lw (LG σ (b + 2)) w ∧ Fr (isM b) b σ τ)) := by
    intro n
    induction n with
    | zero => intro k ρ o5 o6 h1 h2; omega
    | succ n ih =>
      intro k ρ o5 o6 h1 h2 hf hw
      have hC := (hS.fr hf isM_law).1
      have back : k < 12 → ∀ ρ o5 o6, Fr (isM b) b σ ρ → WP Γ m_X0_locks 52 0 0 130 [some (.ref b), some (.int w), some (.int (lockA Lw (LG σ (b + 2)) (k + 1)).1), some (.int (oneV (lockS w) (lockA Lw (LG σ (b + 2)) (k + 1)).2)), some (.int (nI k)), o5, o6] [] ρ (fun r τ => ∃ y, r = some (.int y) ∧ (y = locksV Lw (LG σ (b + 2)) w ∧ Fr (isM b) b σ τ)) := by
        intro hk ρ o5 o6 hf
        have hC := (hS.fr hf isM_law).1
        refine wp_iinc dX0_locks_130 rfl rfl (nI (k + 1)) (nI_add k 1) ?_
        refine wp_goto dX0_locks_133 19 (by decide) ?_
        exact ih (k + 1) _ _ _ (by omega) (by omega) hf hw
      refine wp_iload dX0_locks_19 rfl ?_
      refine wp_bipush dX0_locks_21 12 rfl ?_
      refine wp_icmp_geN dX0_locks_23 136 (by decide) k 12 rfl rfl (by omega) (by omega) (fun c23 => ?_) (fun c23 => ?_)
      · refine wp_iload_n dX0_locks_136 rfl ?_
        refine wp_if_ne dX0_locks_137 144 (by decide) (fun c137 => ?_) (fun c137 => ?_)
        · refine wp_iload_n dX0_locks_144 rfl ?_
          refine wp_iret dX0_locks_145 rfl ?_
          obtain rfl : k = 12 := by omega
          refine ⟨_, rfl, ?_, hf⟩
          first | (rw [locksV, if_pos hw, if_pos c137]; done) | (rw [locksV, if_pos hw, if_neg c137])
        · refine wp_iload_n dX0_locks_140 rfl ?_
          refine wp_goto dX0_locks_141 145 (by decide) ?_
          refine wp_iret dX0_locks_145 rfl ?_
          obtain rfl : k = 12 := by omega
          refine ⟨_, rfl, ?_, hf⟩
          first | (rw [locksV, if_pos hw, if_pos c137]; done) | (rw [locksV, if_pos hw, if_neg c137])
      · refine wp_iload dX0_locks_26 rfl ?_
        refine wp_iconst dX0_locks_28 1 rfl ?_
        refine wp_iadd dX0_locks_29 ?_
        refine wp_top (y := nI (k + 1)) (nI_add k 1) ?_
        refine wp_istore dX0_locks_30 rfl ?_
        have e : lockB Lw (LG σ (b + 2)) k (lockA Lw (LG σ (b + 2)) k) (k + 1) = lockA Lw (LG σ (b + 2)) k := folN_id _ (fun q hq => folN_id 12 (fun q' hq' => pick_f (by rw [lockP, decide_eq_false (p := k < q) (by omega)]; rfl)))
        have h := loopB _ k (lockA Lw (LG σ (b + 2)) k) c23 (back c23) 13 (k + 1) ρ o6 (by omega) (by omega) (by omega) hf
        rw [e] at h
        exact h
  refine wp_iload_n dX0_locks_0 rfl ?_
  refine wp_iconst dX0_locks_1 0 rfl ?_
  refine wp_iconst dX0_locks_2 3 rfl ?_
  refine wp_cI (gcS dX0_locks_3 gsa_X0_128 (ct_within _ _ _) rfl rfl (by omega) (by omega) (by omega) (Nat.le_of_ble_eq_true rfl) rfl) ?_
  refine wp_if_ne dX0_locks_6 11 (by decide) (fun c6 => ?_) (fun c6 => ?_)
  · refine wp_iconst dX0_locks_11 0 rfl ?_
    refine wp_istore_n dX0_locks_12 rfl ?_
    refine wp_bipush dX0_locks_13 (-2) rfl ?_
    refine wp_istore_n dX0_locks_15 rfl ?_
    refine wp_iconst dX0_locks_16 0 rfl ?_
    refine wp_istore dX0_locks_17 rfl ?_
    exact loopA 13 0 _ _ _ (by omega) (by omega) Fr.rf (bI_1.mp c6)
  · refine wp_iconst dX0_locks_9 (-1) rfl ?_
    refine wp_iret dX0_locks_10 rfl ?_
    exact ⟨_, rfl, by rw [locksV, bI_0.mp c6]; rfl, Fr.rf⟩
end
