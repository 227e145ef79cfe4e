set_option maxRecDepth 100000
def lwedF (Lw : Lws) (G : Gd) (i : Nat) : Int32 := if G 3 i = -1 then 0 else likeF' Lw G i (ix (G 3 i))
def wouldB (Lw : Lws) (G : Gd) (i j : Nat) : Bool := decide (lwedF Lw G i < likeF' Lw G i j)
def unrP (Lw : Lws) (G : Gd) (i j : Nat) : Bool := askerV G (nI i) && (((livesB G j && decide (G 1 j = 1)) && !decide (G 3 i = nI j)) && ((fitB Lw G i j && wouldB Lw G i j) && wouldB Lw G j i))
def unrB (Lw : Lws) (G : Gd) (i : Nat) (s : Pk) (n : Nat) : Pk := folN (fun j s => pick (unrP Lw G i j) (12 * i + j) s) s n
def unrA (Lw : Lws) (G : Gd) (n : Nat) : Pk := folN (fun i s => unrB Lw G i s 12) (0, none) n
def unrS (w : Int32) (e : Nat) : Int32 := if w = 1 then nI (e / 12) else nI (e % 12)
def unrestV (Lw : Lws) (G : Gd) (w : Int32) : Int32 := if inB w 3 = true then (if w = 0 then (unrA Lw G 12).1 else oneV (unrS w) (unrA Lw G 12).2) else -1
def sameB (G : Gd) (i j : Nat) : Bool := likeF (fun h => G (h + 20) i) (fun h => G (h + 20) j) 8
def copyP (G : Gd) (i j : Nat) : Bool := decide (i < j) && ((toldB G i && toldB G j) && sameB G i j)
def copyB (G : Gd) (i : Nat) (s : Pk) (n : Nat) : Pk := folN (fun j s => pick (copyP G i j) (12 * i + j) s) s n
def copyA (G : Gd) (n : Nat) : Pk := folN (fun i s => copyB G i s 12) (0, none) n
def copyS (G : Gd) (w : Int32) (e : Nat) : Int32 := if w = 1 then nI (e / 12) else if w = 2 then nI (e % 12) else if G 11 (e / 12) < G 11 (e % 12) then nI (e / 12) else nI (e % 12)
def copiesV (G : Gd) (w : Int32) : Int32 := if wiB w 0 3 = true then (if w = 0 then (copyA G 12).1 else oneV (copyS G w) (copyA G 12).2) else -1
theorem like_n {σ : St} {a i j : Nat} (hi : i < 12) (hj : j < 12) : likeF (stI σ (a + 6 + 4 * i)) (stI σ (a + 6 + 4 * j)) 8 = sameB (LG σ a) i j := by
  rw [sameB, show stI σ (a + 6 + 4 * i) = (fun h => stI σ (a + 6 + 4 * i) h) from rfl]
  rw [likeF, likeF]
  refine decide_eq_decide.mpr ⟨fun h k hk => ?_, fun h k hk => ?_⟩
  · show LG σ a (k + 20) i = LG σ a (k + 20) j
    rw [← LG_h k (by omega) hi, ← LG_h k (by omega) hj]; exact h k hk
  · show stI σ (a + 6 + 4 * i) k = _
    rw [LG_h k (by omega) hi, LG_h k (by omega) hj]; exact h k hk
theorem d12 {i j : Nat} (hj : j < 12) : (12 * i + j) / 12 = i := by omega
theorem m12 {i j : Nat} (hj : j < 12) : (12 * i + j) % 12 = j := by omega
section
variable {Γ : Gm} {σ : St} {b hi : Nat} {Lw : Lws}
theorem ct_wouldLeave {i j : Nat} (hi' : i < 12) (hj : j < 12) (hS : Sy b hi Lw σ) (hG : GI3 (LG σ (b + 2)) i) : Ct Γ 51 0 0 m_X0_wouldLeave [.ref b, .int (nI i), .int (nI j)] σ (fun r τ => ∃ y, r = some (.int y) ∧ (y = bI (wouldB Lw (LG σ (b + 2)) i j) ∧ Fr (isM b) b σ τ)) := by
  refine Ct.ofWP pf_X0_wouldLeave rfl rfl ?_
  have hC := hS.1
  rcases hG with hG | ⟨k, hk, hG⟩
  · skip
    refine wp_aload_n dX0_wouldLeave_0 rfl ?_
    refine wp_getR dX0_wouldLeave_1 gfa_X0_33_0 rfl hC.k0 hC.r1 ?_
    refine wp_getR dX0_wouldLeave_4 gfa_X0_94_3 rfl hC.l0.k0 hC.l0.r0 ?_
    refine wp_iload_n dX0_wouldLeave_7 rfl ?_
    refine wp_aald dX0_wouldLeave_8 hC.l0.k1 rfl i rfl (by omega) (by omega) (hC.l0.rP (by omega)) ?_
    refine wp_getI dX0_wouldLeave_9 gfa_X0_98_4 rfl (hC.l0.kP (by omega)) ?_
    rw [LG_p 3 (by omega) hi']
    refine wp_istore_n dX0_wouldLeave_12 rfl ?_
    refine wp_aload_n dX0_wouldLeave_13 rfl ?_
    refine wp_getR dX0_wouldLeave_14 gfa_X0_33_0 rfl hC.k0 hC.r1 ?_
    refine wp_iload_n dX0_wouldLeave_17 rfl ?_
    refine wp_iload_n dX0_wouldLeave_18 rfl ?_
    refine wp_cIx (gcV dX0_wouldLeave_19 gva_X0_237_3 (ct_likes hi' hj hC.l0 hS) hC.l0.k0 rfl rfl (by omega) (by omega) (by omega) (Nat.le_of_ble_eq_true rfl) rfl) (fun y τ hy => ?_)
    obtain ⟨rfl, hf⟩ := hy
    refine wp_iload_n dX0_wouldLeave_22 rfl ?_
    refine wp_iconst dX0_wouldLeave_23 (-1) rfl ?_
    refine wp_icmp_ne dX0_wouldLeave_24 31 (by decide) (fun c24 => absurd c24 (fun h => h hG)) (fun c24 => ?_)
    refine wp_iconst dX0_wouldLeave_27 0 rfl ?_
    refine wp_goto dX0_wouldLeave_28 40 (by decide) ?_
    refine wp_icmp_le dX0_wouldLeave_40 47 (by decide) (fun c40 => ?_) (fun c40 => ?_)
    · refine wp_iconst dX0_wouldLeave_47 0 rfl ?_
      refine wp_zret dX0_wouldLeave_48 rfl (Or.inl rfl) ?_
      refine ⟨_, rfl, ?_, hf⟩
      rw [wouldB, show lwedF Lw (LG σ (b + 2)) i = 0 from if_pos hG]
      first | (rw [decide_eq_false c40]; rfl) | (rw [decide_eq_true c40]; rfl) | (rw [decide_eq_false (Int32.not_lt.mpr c40)]; rfl) | (rw [decide_eq_true (Int32.not_le.mp c40)]; rfl)
    · refine wp_iconst dX0_wouldLeave_43 1 rfl ?_
      refine wp_goto dX0_wouldLeave_44 48 (by decide) ?_
      refine wp_zret dX0_wouldLeave_48 rfl (Or.inr rfl) ?_
      refine ⟨_, rfl, ?_, hf⟩
      rw [wouldB, show lwedF Lw (LG σ (b + 2)) i = 0 from if_pos hG]
      first | (rw [decide_eq_false c40]; rfl) | (rw [decide_eq_true c40]; rfl) | (rw [decide_eq_false (Int32.not_lt.mpr c40)]; rfl) | (rw [decide_eq_true (Int32.not_le.mp c40)]; rfl)
  · have e : lwedF Lw (LG σ (b + 2)) i = likeF' Lw (LG σ (b + 2)) i k := by rw [lwedF, hG, if_neg (nI_nm1 (by omega)), ix_nI (by omega)]
    refine wp_aload_n dX0_wouldLeave_0 rfl ?_
    refine wp_getR dX0_wouldLeave_1 gfa_X0_33_0 rfl hC.k0 hC.r1 ?_
    refine wp_getR dX0_wouldLeave_4 gfa_X0_94_3 rfl hC.l0.k0 hC.l0.r0 ?_
    refine wp_iload_n dX0_wouldLeave_7 rfl ?_
    refine wp_aald dX0_wouldLeave_8 hC.l0.k1 rfl i rfl (by omega) (by omega) (hC.l0.rP (by omega)) ?_
    refine wp_getI dX0_wouldLeave_9 gfa_X0_98_4 rfl (hC.l0.kP (by omega)) ?_
    rw [LG_p 3 (by omega) hi']
    rw [hG]
    refine wp_istore_n dX0_wouldLeave_12 rfl ?_
    refine wp_aload_n dX0_wouldLeave_13 rfl ?_
    refine wp_getR dX0_wouldLeave_14 gfa_X0_33_0 rfl hC.k0 hC.r1 ?_
    refine wp_iload_n dX0_wouldLeave_17 rfl ?_
    refine wp_iload_n dX0_wouldLeave_18 rfl ?_
    refine wp_cIx (gcV dX0_wouldLeave_19 gva_X0_237_3 (ct_likes hi' hj hC.l0 hS) hC.l0.k0 rfl rfl (by omega) (by omega) (by omega) (Nat.le_of_ble_eq_true rfl) rfl) (fun y τ hy => ?_)
    obtain ⟨rfl, hf⟩ := hy
    have hS1 := hS.fr hf isM_law
    have hC := hS1.1
    refine wp_iload_n dX0_wouldLeave_22 rfl ?_
    refine wp_iconst dX0_wouldLeave_23 (-1) rfl ?_
    refine wp_icmp_ne dX0_wouldLeave_24 31 (by decide) (fun c24 => ?_) (fun c24 => ?_)
    · refine wp_aload_n dX0_wouldLeave_31 rfl ?_
      refine wp_getR dX0_wouldLeave_32 gfa_X0_33_0 rfl hC.k0 hC.r1 ?_
      refine wp_iload_n dX0_wouldLeave_35 rfl ?_
      refine wp_iload_n dX0_wouldLeave_36 rfl ?_
      refine wp_cIx (gcV dX0_wouldLeave_37 gva_X0_237_3 (ct_likes hi' hk hC.l0 hS1) hC.l0.k0 rfl rfl (by omega) (by omega) (by omega) (Nat.le_of_ble_eq_true rfl) rfl) (fun y τ hy => ?_)
      obtain ⟨rfl, hf1⟩ := hy
      rw [LGM0 hf]
      replace hf1 := hf.trans hf1
      refine wp_icmp_le dX0_wouldLeave_40 47 (by decide) (fun c40 => ?_) (fun c40 => ?_)
      · refine wp_iconst dX0_wouldLeave_47 0 rfl ?_
        refine wp_zret dX0_wouldLeave_48 rfl (Or.inl rfl) ?_
        refine ⟨_, rfl, ?_, hf1⟩
        rw [wouldB, e]
        first | (rw [decide_eq_false c40]; rfl) | (rw [decide_eq_true c40]; rfl) | (rw [decide_eq_false (Int32.not_lt.mpr c40)]; rfl) | (rw [decide_eq_true (Int32.not_le.mp c40)]; rfl)
      · refine wp_iconst dX0_wouldLeave_43 1 rfl ?_
        refine wp_goto dX0_wouldLeave_44 48 (by decide) ?_
        refine wp_zret dX0_wouldLeave_48 rfl (Or.inr rfl) ?_
        refine ⟨_, rfl, ?_, hf1⟩
        rw [wouldB, e]
        first | (rw [decide_eq_false c40]; rfl) | (rw [decide_eq_true c40]; rfl) | (rw [decide_eq_false (Int32.not_lt.mpr c40)]; rfl) | (rw [decide_eq_true (Int32.not_le.mp c40)]; rfl)
    · exact absurd c24 (nI_nm1 (by omega))
theorem askerV_n {G : Gd} {j : Nat} (h : j < 12) : askerV G (nI j) = (livesB G j && decide (G 1 j = 0)) := by rw [askerV, livesV_n h, ix_nI (by omega)]
theorem ct_unrest (w : Int32) (hS : Sy b hi Lw σ) (hG : GI (LG σ (b + 2))) : Ct Γ 52 0 0 m_X0_unrest [.ref b, .int w] σ (fun r τ => ∃ y, r = some (.int y) ∧ (y = unrestV Lw (LG σ (b + 2)) w ∧ Fr (isM b) b σ τ)) := by
  refine Ct.ofWP pf_X0_unrest rfl rfl ?_
  have loopB : ∀ (Q : Option Value → St → Prop) (i : Nat) (s : Pk), i < 12 → (∀ ρ o5, Fr (isM b) b σ ρ → WP Γ m_X0_unrest 52 0 0 156 [some (.ref b), some (.int w), some (.int (unrB Lw (LG σ (b + 2)) i s 12).1), some (.int (oneV (unrS w) (unrB Lw (LG σ (b + 2)) i s 12).2)), some (.int (nI i)), o5] [] ρ Q) → ∀ n k ρ, k ≤ 12 → 12 - k < n → Fr (isM b) b σ ρ → WP Γ m_X0_unrest 52 0 0 28 [some (.ref b), some (.int w), some (.int (unrB Lw (LG σ (b + 2)) i s k).1), some (.int (oneV (unrS w) (unrB Lw (LG σ (b + 2)) i s k).2)), some (.int (nI i)), some (.int (nI k))] [] ρ Q := by
    intro Q i s hi' hQ n
    induction n with
    | zero => intro k ρ h1 h2; omega
    | succ n ih =>
      intro k ρ h1 h2 hf
      have hS1 := hS.fr hf isM_law
      have hC := hS1.1
      have eG := LGM0 hf
      have st : ∀ p, unrP Lw (LG σ (b + 2)) i k = p → unrB Lw (LG σ (b + 2)) i s (k + 1) = pick p (12 * i + k) (unrB Lw (LG σ (b + 2)) i s k) := fun p e => by rw [unrB, folN, e]; rfl
      generalize hs : unrB Lw (LG σ (b + 2)) i s k = s1 at *
      refine wp_iload dX0_unrest_28 rfl ?_
      refine wp_bipush dX0_unrest_30 12 rfl ?_
      refine wp_icmp_geN dX0_unrest_32 156 (by decide) k 12 rfl rfl (by omega) (by omega) (fun c32 => ?_) (fun c32 => ?_)
      · by_cases hk : k = 12
        · subst hk
          rw [← hs]
          exact hQ _ _ hf
        have e : unrB Lw (LG σ (b + 2)) i s 12 = s1 := by
          first | (rw [← hs]; exact folN_stop 12 (by omega) (fun q h3 h4 s' => pick_f (by rw [unrP, bI_0.mp c41]; rfl))) | omega
        first | (have h := hQ _ (some (.int (nI k))) hf; rw [e] at h; exact h) | omega
      · refine wp_aload_n dX0_unrest_35 rfl ?_
        refine wp_iload dX0_unrest_36 rfl ?_
        refine wp_cI (gcV dX0_unrest_38 gva_X0_243_0 (ct_isAsker _ hC) hC.k0 rfl rfl (by omega) (by omega) (by omega) (Nat.le_of_ble_eq_true rfl) rfl) ?_
        rw [eG]
        refine wp_if_eq dX0_unrest_41 156 (by decide) (fun c41 => ?_) (fun c41 => ?_)
        · by_cases hk : k = 12
          · subst hk
            rw [← hs]
            exact hQ _ _ hf
          have e : unrB Lw (LG σ (b + 2)) i s 12 = s1 := by
            first | (rw [← hs]; exact folN_stop 12 (by omega) (fun q h3 h4 s' => pick_f (by rw [unrP, bI_0.mp c41]; rfl))) | omega
          first | (have h := hQ _ (some (.int (nI k))) hf; rw [e] at h; exact h) | omega
        · refine wp_aload_n dX0_unrest_44 rfl ?_
          refine wp_getR dX0_unrest_45 gfa_X0_33_0 rfl hC.k0 hC.r1 ?_
          refine wp_iload dX0_unrest_48 rfl ?_
          refine wp_cI (gcV dX0_unrest_50 gva_X0_135_3 (ct_lives _ hC.l0) hC.l0.k0 rfl rfl (by omega) (by omega) (by omega) (Nat.le_of_ble_eq_true rfl) rfl) ?_
          rw [livesV_n c32, eG]
          refine wp_if_eq dX0_unrest_53 150 (by decide) (fun c53 => ?_) (fun c53 => ?_)
          · refine wp_iinc dX0_unrest_150 rfl rfl (nI (k + 1)) (nI_add k 1) ?_
            refine wp_goto dX0_unrest_153 28 (by decide) ?_
            first | refine WP.cast ?_ (ih (k + 1) _ (by omega) (by omega) hf3) | refine WP.cast ?_ (ih (k + 1) _ (by omega) (by omega) hf2) | refine WP.cast ?_ (ih (k + 1) _ (by omega) (by omega) hf1) | refine WP.cast ?_ (ih (k + 1) _ (by omega) (by omega) hf)
            first | (rw [st false (by rw [unrP, bI_0.mp c53]; simp)]; rfl) | (rw [st false (by rw [unrP, decide_eq_false c70]; simp)]; rfl) | (rw [st false (by rw [unrP, decide_eq_true c88]; simp)]; rfl) | (rw [st false (by rw [unrP, bI_0.mp c102]; simp)]; rfl) | (rw [st false (by rw [unrP, bI_0.mp c113]; simp)]; rfl) | (rw [st false (by rw [unrP, bI_0.mp c124]; simp)]; rfl) | (have ht : unrP Lw (LG σ (b + 2)) i k = true := (by rw [unrP, bI_1.mp c41, bI_1.mp c53, bI_1.mp c102, bI_1.mp c113, bI_1.mp c124]; simp [c70, c88]); rw [st true ht, pick1]; first | (rw [pick_no c131]; rfl) | (rw [oneV_go (x := nI i) c131 (by rw [unrS, if_pos c136, d12 c32])]; rfl) | (rw [oneV_go (x := nI k) c131 (by rw [unrS, if_neg c136, m12 c32])]; rfl))
          · refine wp_aload_n dX0_unrest_56 rfl ?_
            refine wp_getR dX0_unrest_57 gfa_X0_33_0 rfl hC.k0 hC.r1 ?_
            refine wp_getR dX0_unrest_60 gfa_X0_94_3 rfl hC.l0.k0 hC.l0.r0 ?_
            refine wp_iload dX0_unrest_63 rfl ?_
            refine wp_aald dX0_unrest_65 hC.l0.k1 rfl k rfl (by omega) (by omega) (hC.l0.rP (by omega)) ?_
            refine wp_getI dX0_unrest_66 gfa_X0_111_4 rfl (hC.l0.kP (by omega)) ?_
            rw [LG_p 1 (by omega) c32, eG]
            refine wp_iconst dX0_unrest_69 1 rfl ?_
            refine wp_icmp_ne dX0_unrest_70 150 (by decide) (fun c70 => ?_) (fun c70 => ?_)
            · refine wp_iinc dX0_unrest_150 rfl rfl (nI (k + 1)) (nI_add k 1) ?_
              refine wp_goto dX0_unrest_153 28 (by decide) ?_
              first | refine WP.cast ?_ (ih (k + 1) _ (by omega) (by omega) hf3) | refine WP.cast ?_ (ih (k + 1) _ (by omega) (by omega) hf2) | refine WP.cast ?_ (ih (k + 1) _ (by omega) (by omega) hf1) | refine WP.cast ?_ (ih (k + 1) _ (by omega) (by omega) hf)
              first | (rw [st false (by rw [unrP, bI_0.mp c53]; simp)]; rfl) | (rw [st false (by rw [unrP, decide_eq_false c70]; simp)]; rfl) | (rw [st false (by rw [unrP, decide_eq_true c88]; simp)]; rfl) | (rw [st false (by rw [unrP, bI_0.mp c102]; simp)]; rfl) | (rw [st false (by rw [unrP, bI_0.mp c113]; simp)]; rfl) | (rw [st false (by rw [unrP, bI_0.mp c124]; simp)]; rfl) | (have ht : unrP Lw (LG σ (b + 2)) i k = true := (by rw [unrP, bI_1.mp c41, bI_1.mp c53, bI_1.mp c102, bI_1.mp c113, bI_1.mp c124]; simp [c70, c88]); rw [st true ht, pick1]; first | (rw [pick_no c131]; rfl) | (rw [oneV_go (x := nI i) c131 (by rw [unrS, if_pos c136, d12 c32])]; rfl) | (rw [oneV_go (x := nI k) c131 (by rw [unrS, if_neg c136, m12 c32])]; rfl))
            · refine wp_aload_n dX0_unrest_73 rfl ?_
              refine wp_getR dX0_unrest_74 gfa_X0_33_0 rfl hC.k0 hC.r1 ?_
              refine wp_getR dX0_unrest_77 gfa_X0_94_3 rfl hC.l0.k0 hC.l0.r0 ?_
              refine wp_iload dX0_unrest_80 rfl ?_
              refine wp_aald dX0_unrest_82 hC.l0.k1 rfl i rfl (by omega) (by omega) (hC.l0.rP (by omega)) ?_
              refine wp_getI dX0_unrest_83 gfa_X0_98_4 rfl (hC.l0.kP (by omega)) ?_
              rw [LG_p 3 (by omega) hi', eG]
              refine wp_iload dX0_unrest_86 rfl ?_
              refine wp_icmp_eq dX0_unrest_88 150 (by decide) (fun c88 => ?_) (fun c88 => ?_)
              · refine wp_iinc dX0_unrest_150 rfl rfl (nI (k + 1)) (nI_add k 1) ?_
                refine wp_goto dX0_unrest_153 28 (by decide) ?_
                first | refine WP.cast ?_ (ih (k + 1) _ (by omega) (by omega) hf3) | refine WP.cast ?_ (ih (k + 1) _ (by omega) (by omega) hf2) | refine WP.cast ?_ (ih (k + 1) _ (by omega) (by omega) hf1) | refine WP.cast ?_ (ih (k + 1) _ (by omega) (by omega) hf)
                first | (rw [st false (by rw [unrP, bI_0.mp c53]; simp)]; rfl) | (rw [st false (by rw [unrP, decide_eq_false c70]; simp)]; rfl) | (rw [st false (by rw [unrP, decide_eq_true c88]; simp)]; rfl) | (rw [st false (by rw [unrP, bI_0.mp c102]; simp)]; rfl) | (rw [st false (by rw [unrP, bI_0.mp c113]; simp)]; rfl) | (rw [st false (by rw [unrP, bI_0.mp c124]; simp)]; rfl) | (have ht : unrP Lw (LG σ (b + 2)) i k = true := (by rw [unrP, bI_1.mp c41, bI_1.mp c53, bI_1.mp c102, bI_1.mp c113, bI_1.mp c124]; simp [c70, c88]); rw [st true ht, pick1]; first | (rw [pick_no c131]; rfl) | (rw [oneV_go (x := nI i) c131 (by rw [unrS, if_pos c136, d12 c32])]; rfl) | (rw [oneV_go (x := nI k) c131 (by rw [unrS, if_neg c136, m12 c32])]; rfl))
              · refine wp_aload_n dX0_unrest_91 rfl ?_
                refine wp_getR dX0_unrest_92 gfa_X0_33_0 rfl hC.k0 hC.r1 ?_
                refine wp_iload dX0_unrest_95 rfl ?_
                refine wp_iload dX0_unrest_97 rfl ?_
                refine wp_cIx (gcV dX0_unrest_99 gva_X0_216_3 (ct_fit hi' c32 hC.l0 hS1) hC.l0.k0 rfl rfl (by omega) (by omega) (by omega) (Nat.le_of_ble_eq_true rfl) rfl) (fun y τ hy => ?_)
                obtain ⟨rfl, hf1⟩ := hy
                rw [eG]
                replace hf1 := hf.trans hf1
                have hS2 := hS.fr hf1 isM_law
                have hC := hS2.1
                refine wp_if_eq dX0_unrest_102 150 (by decide) (fun c102 => ?_) (fun c102 => ?_)
                · refine wp_iinc dX0_unrest_150 rfl rfl (nI (k + 1)) (nI_add k 1) ?_
                  refine wp_goto dX0_unrest_153 28 (by decide) ?_
                  first | refine WP.cast ?_ (ih (k + 1) _ (by omega) (by omega) hf3) | refine WP.cast ?_ (ih (k + 1) _ (by omega) (by omega) hf2) | refine WP.cast ?_ (ih (k + 1) _ (by omega) (by omega) hf1) | refine WP.cast ?_ (ih (k + 1) _ (by omega) (by omega) hf)
                  first | (rw [st false (by rw [unrP, bI_0.mp c53]; simp)]; rfl) | (rw [st false (by rw [unrP, decide_eq_false c70]; simp)]; rfl) | (rw [st false (by rw [unrP, decide_eq_true c88]; simp)]; rfl) | (rw [st false (by rw [unrP, bI_0.mp c102]; simp)]; rfl) | (rw [st false (by rw [unrP, bI_0.mp c113]; simp)]; rfl) | (rw [st false (by rw [unrP, bI_0.mp c124]; simp)]; rfl) | (have ht : unrP Lw (LG σ (b + 2)) i k = true := (by rw [unrP, bI_1.mp c41, bI_1.mp c53, bI_1.mp c102, bI_1.mp c113, bI_1.mp c124]; simp [c70, c88]); rw [st true ht, pick1]; first | (rw [pick_no c131]; rfl) | (rw [oneV_go (x := nI i) c131 (by rw [unrS, if_pos c136, d12 c32])]; rfl) | (rw [oneV_go (x := nI k) c131 (by rw [unrS, if_neg c136, m12 c32])]; rfl))
                · refine wp_aload_n dX0_unrest_105 rfl ?_
                  refine wp_iload dX0_unrest_106 rfl ?_
                  refine wp_iload dX0_unrest_108 rfl ?_
                  refine wp_cIx (gcV dX0_unrest_110 gva_X0_265_0 (ct_wouldLeave hi' c32 hS2 (by rw [LGM0 hf1]; exact (hG i hi').2)) hC.k0 rfl rfl (by omega) (by omega) (by omega) (Nat.le_of_ble_eq_true rfl) rfl) (fun y τ hy => ?_)
                  obtain ⟨rfl, hf2⟩ := hy
                  rw [LGM0 hf1]
                  replace hf2 := hf1.trans hf2
                  have hS3 := hS.fr hf2 isM_law
                  have hC := hS3.1
                  refine wp_if_eq dX0_unrest_113 150 (by decide) (fun c113 => ?_) (fun c113 => ?_)
                  · refine wp_iinc dX0_unrest_150 rfl rfl (nI (k + 1)) (nI_add k 1) ?_
                    refine wp_goto dX0_unrest_153 28 (by decide) ?_
                    first | refine WP.cast ?_ (ih (k + 1) _ (by omega) (by omega) hf3) | refine WP.cast ?_ (ih (k + 1) _ (by omega) (by omega) hf2) | refine WP.cast ?_ (ih (k + 1) _ (by omega) (by omega) hf1) | refine WP.cast ?_ (ih (k + 1) _ (by omega) (by omega) hf)
                    first | (rw [st false (by rw [unrP, bI_0.mp c53]; simp)]; rfl) | (rw [st false (by rw [unrP, decide_eq_false c70]; simp)]; rfl) | (rw [st false (by rw [unrP, decide_eq_true c88]; simp)]; rfl) | (rw [st false (by rw [unrP, bI_0.mp c102]; simp)]; rfl) | (rw [st false (by rw [unrP, bI_0.mp c113]; simp)]; rfl) | (rw [st false (by rw [unrP, bI_0.mp c124]; simp)]; rfl) | (have ht : unrP Lw (LG σ (b + 2)) i k = true := (by rw [unrP, bI_1.mp c41, bI_1.mp c53, bI_1.mp c102, bI_1.mp c113, bI_1.mp c124]; simp [c70, c88]); rw [st true ht, pick1]; first | (rw [pick_no c131]; rfl) | (rw [oneV_go (x := nI i) c131 (by rw [unrS, if_pos c136, d12 c32])]; rfl) | (rw [oneV_go (x := nI k) c131 (by rw [unrS, if_neg c136, m12 c32])]; rfl))
                  · refine wp_aload_n dX0_unrest_116 rfl ?_
                    refine wp_iload dX0_unrest_117 rfl ?_
                    refine wp_iload dX0_unrest_119 rfl ?_
                    refine wp_cIx (gcV dX0_unrest_121 gva_X0_265_0 (ct_wouldLeave c32 hi' hS3 (by rw [LGM0 hf2]; exact (hG k c32).2)) hC.k0 rfl rfl (by omega) (by omega) (by omega) (Nat.le_of_ble_eq_true rfl) rfl) (fun y τ hy => ?_)
                    obtain ⟨rfl, hf3⟩ := hy
                    rw [LGM0 hf2]
                    replace hf3 := hf2.trans hf3
                    refine wp_if_ne dX0_unrest_124 130 (by decide) (fun c124 => ?_) (fun c124 => ?_)
                    · refine wp_iload_n dX0_unrest_130 rfl ?_
                      refine wp_if_ne dX0_unrest_131 147 (by decide) (fun c131 => ?_) (fun c131 => ?_)
                      · refine wp_iinc dX0_unrest_147 rfl rfl _ rfl ?_
                        refine wp_iinc dX0_unrest_150 rfl rfl (nI (k + 1)) (nI_add k 1) ?_
                        refine wp_goto dX0_unrest_153 28 (by decide) ?_
                        first | refine WP.cast ?_ (ih (k + 1) _ (by omega) (by omega) hf3) | refine WP.cast ?_ (ih (k + 1) _ (by omega) (by omega) hf2) | refine WP.cast ?_ (ih (k + 1) _ (by omega) (by omega) hf1) | refine WP.cast ?_ (ih (k + 1) _ (by omega) (by omega) hf)
                        first | (rw [st false (by rw [unrP, bI_0.mp c53]; simp)]; rfl) | (rw [st false (by rw [unrP, decide_eq_false c70]; simp)]; rfl) | (rw [st false (by rw [unrP, decide_eq_true c88]; simp)]; rfl) | (rw [st false (by rw [unrP, bI_0.mp c102]; simp)]; rfl) | (rw [st false (by rw [unrP, bI_0.mp c113]; simp)]; rfl) | (rw [st false (by rw [unrP, bI_0.mp c124]; simp)]; rfl) | (have ht : unrP Lw (LG σ (b + 2)) i k = true := (by rw [unrP, bI_1.mp c41, bI_1.mp c53, bI_1.mp c102, bI_1.mp c113, bI_1.mp c124]; simp [c70, c88]); rw [st true ht, pick1]; first | (rw [pick_no c131]; rfl) | (rw [oneV_go (x := nI i) c131 (by rw [unrS, if_pos c136, d12 c32])]; rfl) | (rw [oneV_go (x := nI k) c131 (by rw [unrS, if_neg c136, m12 c32])]; rfl))
                      · refine wp_iload_n dX0_unrest_134 rfl ?_
                        refine wp_iconst dX0_unrest_135 1 rfl ?_
                        refine wp_icmp_ne dX0_unrest_136 144 (by decide) (fun c136 => ?_) (fun c136 => ?_)
                        · refine wp_iload dX0_unrest_144 rfl ?_
                          refine wp_istore_n dX0_unrest_146 rfl ?_
                          refine wp_iinc dX0_unrest_147 rfl rfl _ rfl ?_
                          refine wp_iinc dX0_unrest_150 rfl rfl (nI (k + 1)) (nI_add k 1) ?_
                          refine wp_goto dX0_unrest_153 28 (by decide) ?_
                          first | refine WP.cast ?_ (ih (k + 1) _ (by omega) (by omega) hf3) | refine WP.cast ?_ (ih (k + 1) _ (by omega) (by omega) hf2) | refine WP.cast ?_ (ih (k + 1) _ (by omega) (by omega) hf1) | refine WP.cast ?_ (ih (k + 1) _ (by omega) (by omega) hf)
                          first | (rw [st false (by rw [unrP, bI_0.mp c53]; simp)]; rfl) | (rw [st false (by rw [unrP, decide_eq_false c70]; simp)]; rfl) | (rw [st false (by rw [unrP, decide_eq_true c88]; simp)]; rfl) | (rw [st false (by rw [unrP, bI_0.mp c102]; simp)]; rfl) | (rw [st false (by rw [unrP, bI_0.mp c113]; simp)]; rfl) | (rw [st false (by rw [unrP, bI_0.mp c124]; simp)]; rfl) | (have ht : unrP Lw (LG σ (b + 2)) i k = true := (by rw [unrP, bI_1.mp c41, bI_1.mp c53, bI_1.mp c102, bI_1.mp c113, bI_1.mp c124]; simp [c70, c88]); rw [st true ht, pick1]; first | (rw [pick_no c131]; rfl) | (rw [oneV_go (x := nI i) c131 (by rw [unrS, if_pos c136, d12 c32])]; rfl) | (rw [oneV_go (x := nI k) c131 (by rw [unrS, if_neg c136, m12 c32])]; rfl))
                        · refine wp_iload dX0_unrest_139 rfl ?_
                          refine wp_goto dX0_unrest_141 146 (by decide) ?_
                          refine wp_istore_n dX0_unrest_146 rfl ?_
                          refine wp_iinc dX0_unrest_147 rfl rfl _ rfl ?_
                          refine wp_iinc dX0_unrest_150 rfl rfl (nI (k + 1)) (nI_add k 1) ?_
                          refine wp_goto dX0_unrest_153 28 (by decide) ?_
                          first | refine WP.cast ?_ (ih (k + 1) _ (by omega) (by omega) hf3) | refine WP.cast ?_ (ih (k + 1) _ (by omega) (by omega) hf2) | refine WP.cast ?_ (ih (k + 1) _ (by omega) (by omega) hf1) | refine WP.cast ?_ (ih (k + 1) _ (by omega) (by omega) hf)
                          first | (rw [st false (by rw [unrP, bI_0.mp c53]; simp)]; rfl) | (rw [st false (by rw [unrP, decide_eq_false c70]; simp)]; rfl) | (rw [st false (by rw [unrP, decide_eq_true c88]; simp)]; rfl) | (rw [st false (by rw [unrP, bI_0.mp c102]; simp)]; rfl) | (rw [st false (by rw [unrP, bI_0.mp c113]; simp)]; rfl) | (rw [st false (by rw [unrP, bI_0.mp c124]; simp)]; rfl) | (have ht : unrP Lw (LG σ (b + 2)) i k = true := (by rw [unrP, bI_1.mp c41, bI_1.mp c53, bI_1.mp c102, bI_1.mp c113, bI_1.mp c124]; simp [c70, c88]); rw [st true ht, pick1]; first | (rw [pick_no c131]; rfl) | (rw [oneV_go (x := nI i) c131 (by rw [unrS, if_pos c136, d12 c32])]; rfl) | (rw [oneV_go (x := nI k) c131 (by rw [unrS, if_neg c136, m12 c32])]; rfl))
                    · refine wp_goto dX0_unrest_127 150 (by decide) ?_
                      refine wp_iinc dX0_unrest_150 rfl rfl (nI (k + 1)) (nI_add k 1) ?_
                      refine wp_goto dX0_unrest_153 28 (by decide) ?_
                      first | refine WP.cast ?_ (ih (k + 1) _ (by omega) (by omega) hf3) | refine WP.cast ?_ (ih (k + 1) _ (by omega) (by omega) hf2) | refine WP.cast ?_ (ih (k + 1) _ (by omega) (by omega) hf1) | refine WP.cast ?_ (ih (k + 1) _ (by omega) (by omega) hf)
                      first | (rw [st false (by rw [unrP, bI_0.mp c53]; simp)]; rfl) | (rw [st false (by rw [unrP, decide_eq_false c70]; simp)]; rfl) | (rw [st false (by rw [unrP, decide_eq_true c88]; simp)]; rfl) | (rw [st false (by rw [unrP, bI_0.mp c102]; simp)]; rfl) | (rw [st false (by rw [unrP, bI_0.mp c113]; simp)]; rfl) | (rw [st false (by rw [unrP, bI_0.mp c124]; simp)]; rfl) | (have ht : unrP Lw (LG σ (b + 2)) i k = true := (by rw [unrP, bI_1.mp c41, bI_1.mp c53, bI_1.mp c102, bI_1.mp c113, bI_1.mp c124]; simp [c70, c88]); rw [st true ht, pick1]; first | (rw [pick_no c131]; rfl) | (rw [oneV_go (x := nI i) c131 (by rw [unrS, if_pos c136, d12 c32])]; rfl) | (rw [oneV_go (x := nI k) c131 (by rw [unrS, if_neg c136, m12 c32])]; rfl))
  have loopA : ∀ n k ρ o5, k ≤ 12 → 12 - k < n → Fr (isM b) b σ ρ → inB w 3 = true → WP Γ m_X0_unrest 52 0 0 18 [some (.ref b), some (.int w), some (.int (unrA Lw (LG σ (b + 2)) k).1), some (.int (oneV (unrS w) (unrA Lw (LG σ (b + 2)) k).2)), some (.int (nI k)), o5] [] ρ (fun r τ => ∃ y, r = some (.int y) ∧ (y = unrestV Lw (LG σ (b + 2)) w ∧ Fr (isM b) b σ τ)) := by
    intro n
    induction n with
    | zero => intro k ρ o5 h1 h2; omega
    | succ n ih =>
      intro k ρ o5 h1 h2 hf hw
      have hC := (hS.fr hf isM_law).1
      have back : k < 12 → ∀ ρ o5, Fr (isM b) b σ ρ → WP Γ m_X0_unrest 52 0 0 156 [some (.ref b), some (.int w), some (.int (unrA Lw (LG σ (b + 2)) (k + 1)).1), some (.int (oneV (unrS w) (unrA Lw (LG σ (b + 2)) (k + 1)).2)), some (.int (nI k)), o5] [] ρ (fun r τ => ∃ y, r = some (.int y) ∧ (y = unrestV Lw (LG σ (b + 2)) w ∧ Fr (isM b) b σ τ)) := by
        intro hk ρ o5 hf
        have hC := (hS.fr hf isM_law).1
        refine wp_iinc dX0_unrest_156 rfl rfl (nI (k + 1)) (nI_add k 1) ?_
        refine wp_goto dX0_unrest_159 18 (by decide) ?_
        exact ih (k + 1) _ _ (by omega) (by omega) hf hw
      refine wp_iload dX0_unrest_18 rfl ?_
      refine wp_bipush dX0_unrest_20 12 rfl ?_
      refine wp_icmp_geN dX0_unrest_22 162 (by decide) k 12 rfl rfl (by omega) (by omega) (fun c22 => ?_) (fun c22 => ?_)
      · refine wp_iload_n dX0_unrest_162 rfl ?_
        refine wp_if_ne dX0_unrest_163 170 (by decide) (fun c163 => ?_) (fun c163 => ?_)
        · refine wp_iload_n dX0_unrest_170 rfl ?_
          refine wp_iret dX0_unrest_171 rfl ?_
          obtain rfl : k = 12 := by omega
          refine ⟨_, rfl, ?_, hf⟩
          first | (rw [unrestV, if_pos hw, if_pos c163]; done) | (rw [unrestV, if_pos hw, if_neg c163])
        · refine wp_iload_n dX0_unrest_166 rfl ?_
          refine wp_goto dX0_unrest_167 171 (by decide) ?_
          refine wp_iret dX0_unrest_171 rfl ?_
          obtain rfl : k = 12 := by omega
          refine ⟨_, rfl, ?_, hf⟩
          first | (rw [unrestV, if_pos hw, if_pos c163]; done) | (rw [unrestV, if_pos hw, if_neg c163])
      · refine wp_iconst dX0_unrest_25 0 rfl ?_
        refine wp_istore dX0_unrest_26 rfl ?_
        exact loopB _ k (unrA Lw (LG σ (b + 2)) k) c22 (back c22) 13 0 ρ (by omega) (by omega) hf
  refine wp_iload_n dX0_unrest_0 rfl ?_
  refine wp_iconst dX0_unrest_1 3 rfl ?_
  refine wp_cI (gcS dX0_unrest_2 gsa_X0_103 (ct_in _ _) rfl rfl (by omega) (by omega) (by omega) (Nat.le_of_ble_eq_true rfl) rfl) ?_
  refine wp_if_ne dX0_unrest_5 10 (by decide) (fun c5 => ?_) (fun c5 => ?_)
  · refine wp_iconst dX0_unrest_10 0 rfl ?_
    refine wp_istore_n dX0_unrest_11 rfl ?_
    refine wp_bipush dX0_unrest_12 (-2) rfl ?_
    refine wp_istore_n dX0_unrest_14 rfl ?_
    refine wp_iconst dX0_unrest_15 0 rfl ?_
    refine wp_istore dX0_unrest_16 rfl ?_
    exact loopA 13 0 _ _ (by omega) (by omega) Fr.rf (bI_1.mp c5)
  · refine wp_iconst dX0_unrest_8 (-1) rfl ?_
    refine wp_iret dX0_unrest_9 rfl ?_
    exact ⟨_, rfl, by rw [unrestV, bI_0.mp c5]; rfl, Fr.rf⟩
theorem ct_copies (w : Int32) (hC : CK b σ) : Ct Γ 2 0 0 m_X0_copies [.ref b, .int w] σ (fun r τ => r = some (.int (copiesV (LG σ (b + 2)) w)) ∧ τ = σ) := by
  refine Ct.ofWP pf_X0_copies rfl rfl ?_
  have loopB : ∀ (Q : Option Value → St → Prop) (i : Nat) (s : Pk), wiB w 0 3 = true → i < 12 → (∀ o5 o6 o7, WP Γ m_X0_copies 2 0 0 143 [some (.ref b), some (.int w), some (.int (copyB (LG σ (b + 2)) i s 12).1), some (.int (oneV (copyS (LG σ (b + 2)) w) (copyB (LG σ (b + 2)) i s 12).2)), some (.int (nI i)), o5, o6, o7] [] σ Q) → ∀ n k o6 o7, i < k → k ≤ 12 → 12 - k < n → WP Γ m_X0_copies 2 0 0 32 [some (.ref b), some (.int w), some (.int (copyB (LG σ (b + 2)) i s k).1), some (.int (oneV (copyS (LG σ (b + 2)) w) (copyB (LG σ (b + 2)) i s k).2)), some (.int (nI i)), some (.int (nI k)), o6, o7] [] σ Q := by
    intro Q i s hw hi' hQ n
    induction n with
    | zero => intro k o6 o7 h0 h1 h2; omega
    | succ n ih =>
      intro k o6 o7 h0 h1 h2
      have st : ∀ p, copyP (LG σ (b + 2)) i k = p → copyB (LG σ (b + 2)) i s (k + 1) = pick p (12 * i + k) (copyB (LG σ (b + 2)) i s k) := fun p e => by rw [copyB, folN, e]; rfl
      generalize hs : copyB (LG σ (b + 2)) i s k = s1 at *
      refine wp_iload dX0_copies_32 rfl ?_
      refine wp_bipush dX0_copies_34 12 rfl ?_
      refine wp_icmp_geN dX0_copies_36 143 (by decide) k 12 rfl rfl (by omega) (by omega) (fun c36 => ?_) (fun c36 => ?_)
      · obtain rfl : k = 12 := by omega
        rw [← hs]
        exact hQ _ _ _
      · refine wp_aload_n dX0_copies_39 rfl ?_
        refine wp_getR dX0_copies_40 gfa_X0_33_0 rfl hC.k0 hC.r1 ?_
        refine wp_getR dX0_copies_43 gfa_X0_117_3 rfl hC.l0.k0 hC.l0.r1 ?_
        refine wp_iload dX0_copies_46 rfl ?_
        refine wp_aald dX0_copies_48 hC.l0.k2 rfl i rfl (by omega) (by omega) (hC.l0.rE (by omega)) ?_
        refine wp_astore dX0_copies_49 rfl ?_
        refine wp_aload_n dX0_copies_51 rfl ?_
        refine wp_getR dX0_copies_52 gfa_X0_33_0 rfl hC.k0 hC.r1 ?_
        refine wp_getR dX0_copies_55 gfa_X0_117_3 rfl hC.l0.k0 hC.l0.r1 ?_
        refine wp_iload dX0_copies_58 rfl ?_
        refine wp_aald dX0_copies_60 hC.l0.k2 rfl k rfl (by omega) (by omega) (hC.l0.rE (by omega)) ?_
        refine wp_astore dX0_copies_61 rfl ?_
        refine wp_aload_n dX0_copies_63 rfl ?_
        refine wp_iload dX0_copies_64 rfl ?_
        refine wp_cI (gcV dX0_copies_66 gva_X0_175_0 (ct_isPerson _ hC) hC.k0 rfl rfl (by omega) (by omega) (by omega) (Nat.le_of_ble_eq_true rfl) rfl) ?_
        rw [prsV_n hi']
        refine wp_if_eq dX0_copies_69 137 (by decide) (fun c69 => ?_) (fun c69 => ?_)
        · refine wp_iinc dX0_copies_137 rfl rfl (nI (k + 1)) (nI_add k 1) ?_
          refine wp_goto dX0_copies_140 32 (by decide) ?_
          refine WP.cast ?_ (ih (k + 1) (some (.ref (b + 2 + 5 + 4 * i))) (some (.ref (b + 2 + 5 + 4 * k))) (by omega) (by omega) (by omega))
          first | (rw [st false (by rw [copyP, bI_0.mp c69]; simp)]; rfl) | (rw [st false (by rw [copyP, bI_0.mp c78]; simp)]; rfl) | (rw [st false (by rw [copyP, bI_0.mp c88]; simp)]; rfl) | (have ht : copyP (LG σ (b + 2)) i k = true := (by rw [copyP, bI_1.mp c69, bI_1.mp c78, bI_1.mp c88]; simp [h0]); rw [st true ht, pick1]; first | (rw [pick_no c95]; rfl) | (rw [oneV_go (x := nI i) c95 (by rw [copyS, d12 c36, if_pos c100])]; rfl) | (rw [oneV_go (x := nI k) c95 (by rw [copyS, m12 c36, if_neg c100, if_pos c110])]; rfl) | (rw [oneV_go (x := nI i) c95 (by rw [copyS, d12 c36, m12 c36, if_neg c100, if_neg c110, if_pos c123])]; rfl) | (rw [oneV_go (x := nI k) c95 (by rw [copyS, d12 c36, m12 c36, if_neg c100, if_neg c110, if_neg c123])]; rfl))
        · refine wp_aload_n dX0_copies_72 rfl ?_
          refine wp_iload dX0_copies_73 rfl ?_
          refine wp_cI (gcV dX0_copies_75 gva_X0_175_0 (ct_isPerson _ hC) hC.k0 rfl rfl (by omega) (by omega) (by omega) (Nat.le_of_ble_eq_true rfl) rfl) ?_
          rw [prsV_n c36]
          refine wp_if_eq dX0_copies_78 137 (by decide) (fun c78 => ?_) (fun c78 => ?_)
          · refine wp_iinc dX0_copies_137 rfl rfl (nI (k + 1)) (nI_add k 1) ?_
            refine wp_goto dX0_copies_140 32 (by decide) ?_
            refine WP.cast ?_ (ih (k + 1) (some (.ref (b + 2 + 5 + 4 * i))) (some (.ref (b + 2 + 5 + 4 * k))) (by omega) (by omega) (by omega))
            first | (rw [st false (by rw [copyP, bI_0.mp c69]; simp)]; rfl) | (rw [st false (by rw [copyP, bI_0.mp c78]; simp)]; rfl) | (rw [st false (by rw [copyP, bI_0.mp c88]; simp)]; rfl) | (have ht : copyP (LG σ (b + 2)) i k = true := (by rw [copyP, bI_1.mp c69, bI_1.mp c78, bI_1.mp c88]; simp [h0]); rw [st true ht, pick1]; first | (rw [pick_no c95]; rfl) | (rw [oneV_go (x := nI i) c95 (by rw [copyS, d12 c36, if_pos c100])]; rfl) | (rw [oneV_go (x := nI k) c95 (by rw [copyS, m12 c36, if_neg c100, if_pos c110])]; rfl) | (rw [oneV_go (x := nI i) c95 (by rw [copyS, d12 c36, m12 c36, if_neg c100, if_neg c110, if_pos c123])]; rfl) | (rw [oneV_go (x := nI k) c95 (by rw [copyS, d12 c36, m12 c36, if_neg c100, if_neg c110, if_neg c123])]; rfl))
          · refine wp_aload dX0_copies_81 rfl ?_
            refine wp_aload dX0_copies_83 rfl ?_
            refine wp_cI (gcV dX0_copies_85 gva_X0_321_5 (ct_isLike (hC.l0.pc (by omega)) (hC.l0.pc (by omega))) (hC.l0.kE (by omega)) rfl rfl (by omega) (by omega) (by omega) (Nat.le_of_ble_eq_true rfl) rfl) ?_
            rw [like_n hi' c36]
            refine wp_if_ne dX0_copies_88 94 (by decide) (fun c88 => ?_) (fun c88 => ?_)
            · refine wp_iload_n dX0_copies_94 rfl ?_
              refine wp_if_ne dX0_copies_95 134 (by decide) (fun c95 => ?_) (fun c95 => ?_)
              · refine wp_iinc dX0_copies_134 rfl rfl _ rfl ?_
                refine wp_iinc dX0_copies_137 rfl rfl (nI (k + 1)) (nI_add k 1) ?_
                refine wp_goto dX0_copies_140 32 (by decide) ?_
                refine WP.cast ?_ (ih (k + 1) (some (.ref (b + 2 + 5 + 4 * i))) (some (.ref (b + 2 + 5 + 4 * k))) (by omega) (by omega) (by omega))
                first | (rw [st false (by rw [copyP, bI_0.mp c69]; simp)]; rfl) | (rw [st false (by rw [copyP, bI_0.mp c78]; simp)]; rfl) | (rw [st false (by rw [copyP, bI_0.mp c88]; simp)]; rfl) | (have ht : copyP (LG σ (b + 2)) i k = true := (by rw [copyP, bI_1.mp c69, bI_1.mp c78, bI_1.mp c88]; simp [h0]); rw [st true ht, pick1]; first | (rw [pick_no c95]; rfl) | (rw [oneV_go (x := nI i) c95 (by rw [copyS, d12 c36, if_pos c100])]; rfl) | (rw [oneV_go (x := nI k) c95 (by rw [copyS, m12 c36, if_neg c100, if_pos c110])]; rfl) | (rw [oneV_go (x := nI i) c95 (by rw [copyS, d12 c36, m12 c36, if_neg c100, if_neg c110, if_pos c123])]; rfl) | (rw [oneV_go (x := nI k) c95 (by rw [copyS, d12 c36, m12 c36, if_neg c100, if_neg c110, if_neg c123])]; rfl))
              · refine wp_iload_n dX0_copies_98 rfl ?_
                refine wp_iconst dX0_copies_99 1 rfl ?_
                refine wp_icmp_ne dX0_copies_100 108 (by decide) (fun c100 => ?_) (fun c100 => ?_)
                · refine wp_iload_n dX0_copies_108 rfl ?_
                  refine wp_iconst dX0_copies_109 2 rfl ?_
                  refine wp_icmp_eq dX0_copies_110 126 (by decide) (fun c110 => ?_) (fun c110 => ?_)
                  · refine wp_iload dX0_copies_126 rfl ?_
                    refine wp_goto dX0_copies_128 133 (by decide) ?_
                    refine wp_istore_n dX0_copies_133 rfl ?_
                    refine wp_iinc dX0_copies_134 rfl rfl _ rfl ?_
                    refine wp_iinc dX0_copies_137 rfl rfl (nI (k + 1)) (nI_add k 1) ?_
                    refine wp_goto dX0_copies_140 32 (by decide) ?_
                    refine WP.cast ?_ (ih (k + 1) (some (.ref (b + 2 + 5 + 4 * i))) (some (.ref (b + 2 + 5 + 4 * k))) (by omega) (by omega) (by omega))
                    first | (rw [st false (by rw [copyP, bI_0.mp c69]; simp)]; rfl) | (rw [st false (by rw [copyP, bI_0.mp c78]; simp)]; rfl) | (rw [st false (by rw [copyP, bI_0.mp c88]; simp)]; rfl) | (have ht : copyP (LG σ (b + 2)) i k = true := (by rw [copyP, bI_1.mp c69, bI_1.mp c78, bI_1.mp c88]; simp [h0]); rw [st true ht, pick1]; first | (rw [pick_no c95]; rfl) | (rw [oneV_go (x := nI i) c95 (by rw [copyS, d12 c36, if_pos c100])]; rfl) | (rw [oneV_go (x := nI k) c95 (by rw [copyS, m12 c36, if_neg c100, if_pos c110])]; rfl) | (rw [oneV_go (x := nI i) c95 (by rw [copyS, d12 c36, m12 c36, if_neg c100, if_neg c110, if_pos c123])]; rfl) | (rw [oneV_go (x := nI k) c95 (by rw [copyS, d12 c36, m12 c36, if_neg c100, if_neg c110, if_neg c123])]; rfl))
                  · refine wp_aload dX0_copies_113 rfl ?_
                    refine wp_getI dX0_copies_115 gfa_X0_132_5 rfl (hC.l0.kE (by omega)) ?_
                    rw [LG_e1 c36]
                    refine wp_aload dX0_copies_118 rfl ?_
                    refine wp_getI dX0_copies_120 gfa_X0_132_5 rfl (hC.l0.kE (by omega)) ?_
                    rw [LG_e1 hi']
                    refine wp_icmp_gt dX0_copies_123 131 (by decide) (fun c123 => ?_) (fun c123 => ?_)
                    · refine wp_iload dX0_copies_131 rfl ?_
                      refine wp_istore_n dX0_copies_133 rfl ?_
                      refine wp_iinc dX0_copies_134 rfl rfl _ rfl ?_
                      refine wp_iinc dX0_copies_137 rfl rfl (nI (k + 1)) (nI_add k 1) ?_
                      refine wp_goto dX0_copies_140 32 (by decide) ?_
                      refine WP.cast ?_ (ih (k + 1) (some (.ref (b + 2 + 5 + 4 * i))) (some (.ref (b + 2 + 5 + 4 * k))) (by omega) (by omega) (by omega))
                      first | (rw [st false (by rw [copyP, bI_0.mp c69]; simp)]; rfl) | (rw [st false (by rw [copyP, bI_0.mp c78]; simp)]; rfl) | (rw [st false (by rw [copyP, bI_0.mp c88]; simp)]; rfl) | (have ht : copyP (LG σ (b + 2)) i k = true := (by rw [copyP, bI_1.mp c69, bI_1.mp c78, bI_1.mp c88]; simp [h0]); rw [st true ht, pick1]; first | (rw [pick_no c95]; rfl) | (rw [oneV_go (x := nI i) c95 (by rw [copyS, d12 c36, if_pos c100])]; rfl) | (rw [oneV_go (x := nI k) c95 (by rw [copyS, m12 c36, if_neg c100, if_pos c110])]; rfl) | (rw [oneV_go (x := nI i) c95 (by rw [copyS, d12 c36, m12 c36, if_neg c100, if_neg c110, if_pos c123])]; rfl) | (rw [oneV_go (x := nI k) c95 (by rw [copyS, d12 c36, m12 c36, if_neg c100, if_neg c110, if_neg c123])]; rfl))
                    · refine wp_iload dX0_copies_126 rfl ?_
                      refine wp_goto dX0_copies_128 133 (by decide) ?_
                      refine wp_istore_n dX0_copies_133 rfl ?_
                      refine wp_iinc dX0_copies_134 rfl rfl _ rfl ?_
                      refine wp_iinc dX0_copies_137 rfl rfl (nI (k + 1)) (nI_add k 1) ?_
                      refine wp_goto dX0_copies_140 32 (by decide) ?_
                      refine WP.cast ?_ (ih (k + 1) (some (.ref (b + 2 + 5 + 4 * i))) (some (.ref (b + 2 + 5 + 4 * k))) (by omega) (by omega) (by omega))
                      first | (rw [st false (by rw [copyP, bI_0.mp c69]; simp)]; rfl) | (rw [st false (by rw [copyP, bI_0.mp c78]; simp)]; rfl) | (rw [st false (by rw [copyP, bI_0.mp c88]; simp)]; rfl) | (have ht : copyP (LG σ (b + 2)) i k = true := (by rw [copyP, bI_1.mp c69, bI_1.mp c78, bI_1.mp c88]; simp [h0]); rw [st true ht, pick1]; first | (rw [pick_no c95]; rfl) | (rw [oneV_go (x := nI i) c95 (by rw [copyS, d12 c36, if_pos c100])]; rfl) | (rw [oneV_go (x := nI k) c95 (by rw [copyS, m12 c36, if_neg c100, if_pos c110])]; rfl) | (rw [oneV_go (x := nI i) c95 (by rw [copyS, d12 c36, m12 c36, if_neg c100, if_neg c110, if_pos c123])]; rfl) | (rw [oneV_go (x := nI k) c95 (by rw [copyS, d12 c36, m12 c36, if_neg c100, if_neg c110, if_neg c123])]; rfl))
                · refine wp_iload dX0_copies_103 rfl ?_
                  refine wp_goto dX0_copies_105 133 (by decide) ?_
                  refine wp_istore_n dX0_copies_133 rfl ?_
                  refine wp_iinc dX0_copies_134 rfl rfl _ rfl ?_
                  refine wp_iinc dX0_copies_137 rfl rfl (nI (k + 1)) (nI_add k 1) ?_
                  refine wp_goto dX0_copies_140 32 (by decide) ?_
                  refine WP.cast ?_ (ih (k + 1) (some (.ref (b + 2 + 5 + 4 * i))) (some (.ref (b + 2 + 5 + 4 * k))) (by omega) (by omega) (by omega))
                  first | (rw [st false (by rw [copyP, bI_0.mp c69]; simp)]; rfl) | (rw [st false (by rw [copyP, bI_0.mp c78]; simp)]; rfl) | (rw [st false (by rw [copyP, bI_0.mp c88]; simp)]; rfl) | (have ht : copyP (LG σ (b + 2)) i k = true := (by rw [copyP, bI_1.mp c69, bI_1.mp c78, bI_1.mp c88]; simp [h0]); rw [st true ht, pick1]; first | (rw [pick_no c95]; rfl) | (rw [oneV_go (x := nI i) c95 (by rw [copyS, d12 c36, if_pos c100])]; rfl) | (rw [oneV_go (x := nI k) c95 (by rw [copyS, m12 c36, if_neg c100, if_pos c110])]; rfl) | (rw [oneV_go (x := nI i) c95 (by rw [copyS, d12 c36, m12 c36, if_neg c100, if_neg c110, if_pos c123])]; rfl) | (rw [oneV_go (x := nI k) c95 (by rw [copyS, d12 c36, m12 c36, if_neg c100, if_neg c110, if_neg c123])]; rfl))
            · refine wp_goto dX0_copies_91 137 (by decide) ?_
              refine wp_iinc dX0_copies_137 rfl rfl (nI (k + 1)) (nI_add k 1) ?_
              refine wp_goto dX0_copies_140 32 (by decide) ?_
              refine WP.cast ?_ (ih (k + 1) (some (.ref (b + 2 + 5 + 4 * i))) (some (.ref (b + 2 + 5 + 4 * k))) (by omega) (by omega) (by omega))
              first | (rw [st false (by rw [copyP, bI_0.mp c69]; simp)]; rfl) | (rw [st false (by rw [copyP, bI_0.mp c78]; simp)]; rfl) | (rw [st false (by rw [copyP, bI_0.mp c88]; simp)]; rfl) | (have ht : copyP (LG σ (b + 2)) i k = true := (by rw [copyP, bI_1.mp c69, bI_1.mp c78, bI_1.mp c88]; simp [h0]); rw [st true ht, pick1]; first | (rw [pick_no c95]; rfl) | (rw [oneV_go (x := nI i) c95 (by rw [copyS, d12 c36, if_pos c100])]; rfl) | (rw [oneV_go (x := nI k) c95 (by rw [copyS, m12 c36, if_neg c100, if_pos c110])]; rfl) | (rw [oneV_go (x := nI i) c95 (by rw [copyS, d12 c36, m12 c36, if_neg c100, if_neg c110, if_pos c123])]; rfl) | (rw [oneV_go (x := nI k) c95 (by rw [copyS, d12 c36, m12 c36, if_neg c100, if_neg c110, if_neg c123])]; rfl))
  have loopA : ∀ n k o5 o6 o7, k ≤ 12 → 12 - k < n → wiB w 0 3 = true → WP Γ m_X0_copies 2 0 0 19 [some (.ref b), some (.int w), some (.int (copyA (LG σ (b + 2)) k).1), some (.int (oneV (copyS (LG σ (b + 2)) w) (copyA (LG σ (b + 2)) k).2)), some (.int (nI k)), o5, o6, o7] [] σ (fun r τ => r = some (.int (copiesV (LG σ (b + 2)) w)) ∧ τ = σ) := by
    intro n
    induction n with
    | zero => intro k o5 o6 o7 h1 h2; omega
    | succ n ih =>
      intro k o5 o6 o7 h1 h2 hw
      have back : k < 12 → ∀ o5 o6 o7, WP Γ m_X0_copies 2 0 0 143 [some (.ref b), some (.int w), some (.int (copyA (LG σ (b + 2)) (k + 1)).1), some (.int (oneV (copyS (LG σ (b + 2)) w) (copyA (LG σ (b + 2)) (k + 1)).2)), some (.int (nI k)), o5, o6, o7] [] σ (fun r τ => r = some (.int (copiesV (LG σ (b + 2)) w)) ∧ τ = σ) := by
        intro hk o5 o6 o7
        refine wp_iinc dX0_copies_143 rfl rfl (nI (k + 1)) (nI_add k 1) ?_
        refine wp_goto dX0_copies_146 19 (by decide) ?_
        exact ih (k + 1) _ _ _ (by omega) (by omega) hw
      refine wp_iload dX0_copies_19 rfl ?_
      refine wp_bipush dX0_copies_21 12 rfl ?_
      refine wp_icmp_geN dX0_copies_23 149 (by decide) k 12 rfl rfl (by omega) (by omega) (fun c23 => ?_) (fun c23 => ?_)
      · refine wp_iload_n dX0_copies_149 rfl ?_
        refine wp_if_ne dX0_copies_150 157 (by decide) (fun c150 => ?_) (fun c150 => ?_)
        · refine wp_iload_n dX0_copies_157 rfl ?_
          refine wp_iret dX0_copies_158 rfl ?_
          obtain rfl : k = 12 := by omega
          refine ⟨?_, rfl⟩
          first | (rw [copiesV, if_pos hw, if_pos c150]; done) | (rw [copiesV, if_pos hw, if_neg c150])
        · refine wp_iload_n dX0_copies_153 rfl ?_
          refine wp_goto dX0_copies_154 158 (by decide) ?_
          refine wp_iret dX0_copies_158 rfl ?_
          obtain rfl : k = 12 := by omega
          refine ⟨?_, rfl⟩
          first | (rw [copiesV, if_pos hw, if_pos c150]; done) | (rw [copiesV, if_pos hw, if_neg c150])
      · refine wp_iload dX0_copies_26 rfl ?_
        refine wp_iconst dX0_copies_28 1 rfl ?_
        refine wp_iadd dX0_copies_29 ?_
        refine wp_top (y := nI (k + 1)) (nI_add k 1) ?_
        refine wp_istore dX0_copies_30 rfl ?_
        have e : copyB (LG σ (b + 2)) k (copyA (LG σ (b + 2)) k) (k + 1) = copyA (LG σ (b + 2)) k := folN_id _ (fun q hq => pick_f (by rw [copyP, decide_eq_false (p := k < q) (by omega)]; rfl))
        have h := loopB _ k (copyA (LG σ (b + 2)) k) hw c23 (back c23) 13 (k + 1) o6 o7 (by omega) (by omega) (by omega)
        rw [e] at h
        exact h
  refine wp_iload_n dX0_copies_0 rfl ?_
  refine wp_iconst dX0_copies_1 0 rfl ?_
  refine wp_iconst dX0_copies_2 3 rfl ?_
  refine wp_cI (gcS dX0_copies_3 gsa_X0_128 (ct_within _ _ _) rfl rfl (by omega) (by omega) (by omega) (Nat.le_of_ble_eq_true rfl) rfl) ?_
  refine wp_if_ne dX0_copies_6 11 (by decide) (fun c6 => ?_) (fun c6 => ?_)
  · refine wp_iconst dX0_copies_11 0 rfl ?_
    refine wp_istore_n dX0_copies_12 rfl ?_
    refine wp_bipush dX0_copies_13 (-2) rfl ?_
    refine wp_istore_n dX0_copies_15 rfl ?_
    refine wp_iconst dX0_copies_16 0 rfl ?_
    refine wp_istore dX0_copies_17 rfl ?_
    exact loopA 13 0 _ _ _ (by omega) (by omega) (bI_1.mp c6)
  · refine wp_iconst dX0_copies_9 (-1) rfl ?_
    refine wp_iret dX0_copies_10 rfl ?_
    exact ⟨by rw [copiesV, bI_0.mp c6]; rfl, rfl⟩
end
