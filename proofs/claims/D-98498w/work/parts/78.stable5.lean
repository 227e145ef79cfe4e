set_option maxRecDepth 100000
section
variable {Γ : Gm} {σ : St} {b hi : Nat} {Lw : Lws}
theorem stbS_KO_okI (o : Option Nat) (h : ∀ k, o = some k → k < 12) : okI o = -1 ↔ o = none := okI_n o h
theorem round_KO {L : Nat → Nat → Int32} {ask : Nat → Bool} {S : Sts} (h : KO S) : ∀ n, n ≤ 12 → KO (roundS L ask S n).1
  | 0, _ => h
  | n + 1, hn => by
    have e := round_KO (L := L) (ask := ask) h n (by omega)
    rw [show roundS L ask S (n + 1) = stepS L ask n (roundS L ask S n) from rfl]
    generalize roundS L ask S n = s at *
    rw [stepS]
    split
    · exact e
    · rename_i j hj
      exact e.step (by omega) (nextS_some hj).1
theorem run_KO {L : Nat → Nat → Int32} {ask : Nat → Bool} : ∀ f S, KO S → KO (runS L ask f S)
  | 0, _, h => h
  | f + 1, S, h => by
    rw [runS]
    split
    · exact run_KO f _ (round_KO h 12 (Nat.le_refl _))
    · exact round_KO h 12 (Nat.le_refl _)
theorem stbS_KO (Lw : Lws) (G : Gd) : KO (stbS Lw G) := run_KO 145 S00 (fun i k h => by cases h)
theorem ct_stable (w : Int32) (hS : Sy b hi Lw σ) : Ct Γ 53 0 0 m_X0_stable [.ref b, .int w] σ (fun r τ => ∃ y, r = some (.int y) ∧ (y = stableV Lw (LG σ (b + 2)) w ∧ Fr (sW b) b σ τ)) := by
  refine Ct.ofWP pf_X0_stable rfl rfl ?_
  have hC := hS.1
  have count : ∀ ρ, Fr (sW b) b σ ρ → SR b (stbS Lw (LG σ (b + 2))) ρ → w = 20 → ∀ f k, k + f = 12 → WP Γ m_X0_stable 53 0 0 43 [some (.ref b), some (.int w), some (.int (stbN (stbS Lw (LG σ (b + 2))) (LG σ (b + 2)) k)), some (.int (nI k))] [] ρ (fun r τ => ∃ y, r = some (.int y) ∧ (y = stableV Lw (LG σ (b + 2)) w ∧ Fr (sW b) b σ τ)) := by
    intro ρ hf hR hw f
    have hC := hC.kr hf.1
    have eG := LGs hf
    induction f with
    | zero =>
      intro k hk
      obtain rfl : k = 12 := by omega
      refine wp_iload_n dX0_stable_43 rfl ?_
      refine wp_bipush dX0_stable_44 12 rfl ?_
      refine wp_icmp_geN dX0_stable_46 81 (by decide) 12 12 rfl rfl (by omega) (by omega) (fun c46 => ?_) (fun c46 => ?_)
      · refine wp_iload_n dX0_stable_81 rfl ?_
        refine wp_iret dX0_stable_82 rfl ?_
        exact ⟨_, rfl, by rw [stableV, if_pos hw], hf⟩
      · omega
    | succ f ih =>
      intro k hk
      have hv := fun h : k < 12 => (hR k h).1
      have hO := okI_n _ (fun q => stbS_KO Lw (LG σ (b + 2)) k q)
      refine wp_iload_n dX0_stable_43 rfl ?_
      refine wp_bipush dX0_stable_44 12 rfl ?_
      refine wp_icmp_geN dX0_stable_46 81 (by decide) k 12 rfl rfl (by omega) (by omega) (fun c46 => ?_) (fun c46 => ?_)
      · omega
      · refine wp_iload_n dX0_stable_49 rfl ?_
        refine wp_aload_n dX0_stable_50 rfl ?_
        refine wp_iload_n dX0_stable_51 rfl ?_
        refine wp_cI (gcV dX0_stable_52 gva_X0_243_0 (ct_isAsker _ hC) hC.k0 rfl rfl (by omega) (by omega) (by omega) (Nat.le_of_ble_eq_true rfl) rfl) ?_
        rw [eG]
        refine wp_if_eq dX0_stable_55 72 (by decide) (fun c55 => ?_) (fun c55 => ?_)
        · refine wp_iconst dX0_stable_72 0 rfl ?_
          refine wp_iadd dX0_stable_73 ?_
          refine wp_istore_n dX0_stable_74 rfl ?_
          refine wp_iinc dX0_stable_75 rfl rfl (nI (k + 1)) (nI_add k 1) ?_
          refine wp_goto dX0_stable_78 43 (by decide) ?_
          refine WP.cast ?_ (ih (k + 1) (by omega))
          rw [stbN]
          first | (rw [if_neg (fun h => absurd h.1 (by rw [bI_0.mp c55]; decide))]; rfl) | (rw [if_neg (fun h => h.2 (hO.mp c65))]; rfl) | (rw [if_pos ⟨bI_1.mp c55, fun h => c65 (hO.mpr h)⟩]; rfl)
        · refine wp_aload_n dX0_stable_58 rfl ?_
          refine wp_getR dX0_stable_59 gfa_X0_62_0 rfl hC.k0 hC.r10 ?_
          refine wp_iload_n dX0_stable_62 rfl ?_
          refine wp_iald dX0_stable_63 hC.k187 k rfl (by omega) (by omega) ?_
          rw [hv c46]
          refine wp_iconst dX0_stable_64 (-1) rfl ?_
          refine wp_icmp_eq dX0_stable_65 72 (by decide) (fun c65 => ?_) (fun c65 => ?_)
          · refine wp_iconst dX0_stable_72 0 rfl ?_
            refine wp_iadd dX0_stable_73 ?_
            refine wp_istore_n dX0_stable_74 rfl ?_
            refine wp_iinc dX0_stable_75 rfl rfl (nI (k + 1)) (nI_add k 1) ?_
            refine wp_goto dX0_stable_78 43 (by decide) ?_
            refine WP.cast ?_ (ih (k + 1) (by omega))
            rw [stbN]
            first | (rw [if_neg (fun h => absurd h.1 (by rw [bI_0.mp c55]; decide))]; rfl) | (rw [if_neg (fun h => h.2 (hO.mp c65))]; rfl) | (rw [if_pos ⟨bI_1.mp c55, fun h => c65 (hO.mpr h)⟩]; rfl)
          · refine wp_iconst dX0_stable_68 1 rfl ?_
            refine wp_goto dX0_stable_69 73 (by decide) ?_
            refine wp_iadd dX0_stable_73 ?_
            refine wp_istore_n dX0_stable_74 rfl ?_
            refine wp_iinc dX0_stable_75 rfl rfl (nI (k + 1)) (nI_add k 1) ?_
            refine wp_goto dX0_stable_78 43 (by decide) ?_
            refine WP.cast ?_ (ih (k + 1) (by omega))
            rw [stbN]
            first | (rw [if_neg (fun h => absurd h.1 (by rw [bI_0.mp c55]; decide))]; rfl) | (rw [if_neg (fun h => h.2 (hO.mp c65))]; rfl) | (rw [if_pos ⟨bI_1.mp c55, fun h => c65 (hO.mpr h)⟩]; rfl)
  have go : (w = 20 ∨ livesV (LG σ (b + 2)) w = true) → WP Γ m_X0_stable 53 0 0 19 [some (.ref b), some (.int w), none, none] [] σ (fun r τ => ∃ y, r = some (.int y) ∧ (y = stableV Lw (LG σ (b + 2)) w ∧ Fr (sW b) b σ τ)) := by
    intro hw
    rcases hw with hw | hw
    · skip
      refine wp_aload_n dX0_stable_19 rfl ?_
      refine wp_cVx (gcV dX0_stable_20 gva_X0_262_0 (ct_laysStable hS) hC.k0 rfl rfl (by omega) (by omega) (by omega) (Nat.le_of_ble_eq_true rfl) rfl) (fun τ hy => ?_)
      obtain ⟨hf, hR⟩ := hy
      have hC := hC.kr hf.1
      refine wp_iload_n dX0_stable_23 rfl ?_
      refine wp_bipush dX0_stable_24 20 rfl ?_
      refine wp_icmp_ge dX0_stable_26 39 (by decide) (fun c26 => ?_) (fun c26 => absurd (by rw [hw]; decide) c26)
      refine wp_iconst dX0_stable_39 0 rfl ?_
      refine wp_istore_n dX0_stable_40 rfl ?_
      refine wp_iconst dX0_stable_41 0 rfl ?_
      refine wp_istore_n dX0_stable_42 rfl ?_
      exact count _ hf hR hw 12 0 (by omega)
    · obtain ⟨i, hi', e, hl⟩ := livesV_t hw
      subst e
      refine wp_aload_n dX0_stable_19 rfl ?_
      refine wp_cVx (gcV dX0_stable_20 gva_X0_262_0 (ct_laysStable hS) hC.k0 rfl rfl (by omega) (by omega) (by omega) (Nat.le_of_ble_eq_true rfl) rfl) (fun τ hy => ?_)
      obtain ⟨hf, hR⟩ := hy
      have hC := hC.kr hf.1
      refine wp_iload_n dX0_stable_23 rfl ?_
      refine wp_bipush dX0_stable_24 20 rfl ?_
      refine wp_icmp_geN dX0_stable_26 39 (by decide) i 20 rfl rfl (by omega) (by omega) (fun c26 => ?_) (fun c26 => ?_)
      · omega
      · refine wp_aload_n dX0_stable_29 rfl ?_
        refine wp_getR dX0_stable_30 gfa_X0_62_0 rfl hC.k0 hC.r10 ?_
        refine wp_iload_n dX0_stable_33 rfl ?_
        refine wp_iald dX0_stable_34 hC.k187 i rfl (by omega) (by omega) ?_
        rw [(hR i hi').1]
        refine wp_cI (gcS dX0_stable_35 gsa_X0_212 (ct_orNone _) rfl rfl (by omega) (by omega) (by omega) (Nat.le_of_ble_eq_true rfl) rfl) ?_
        refine wp_iret dX0_stable_38 rfl ?_
        exact ⟨_, rfl, by rw [stableV, if_neg (show ¬ nI i = 20 from fun h => absurd ((nI_eq (b := 20) (by omega) (by omega)).mp h) (by omega)), if_pos hw, ix_nI (by omega)], hf⟩
  refine wp_iload_n dX0_stable_0 rfl ?_
  refine wp_bipush dX0_stable_1 20 rfl ?_
  refine wp_icmp_eq dX0_stable_3 19 (by decide) (fun c3 => ?_) (fun c3 => ?_)
  · first | exact go (Or.inl c3) | exact go (Or.inr (bI_1.mp c14))
  · refine wp_aload_n dX0_stable_6 rfl ?_
    refine wp_getR dX0_stable_7 gfa_X0_33_0 rfl hC.k0 hC.r1 ?_
    refine wp_iload_n dX0_stable_10 rfl ?_
    refine wp_cI (gcV dX0_stable_11 gva_X0_135_3 (ct_lives _ hC.l0) hC.l0.k0 rfl rfl (by omega) (by omega) (by omega) (Nat.le_of_ble_eq_true rfl) rfl) ?_
    refine wp_if_ne dX0_stable_14 19 (by decide) (fun c14 => ?_) (fun c14 => ?_)
    · first | exact go (Or.inl c3) | exact go (Or.inr (bI_1.mp c14))
    · refine wp_iconst dX0_stable_17 (-1) rfl ?_
      refine wp_iret dX0_stable_18 rfl ?_
      exact ⟨_, rfl, by rw [stableV, if_neg c3, bI_0.mp c14]; rfl, Fr.rf⟩
end
