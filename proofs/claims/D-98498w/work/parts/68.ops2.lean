set_option maxRecDepth 100000
theorem LGM {b a : Nat} {σ τ : St} (hf : Fr (isM b) b σ τ) (h : b + 2 ≤ a) : LG τ a = LG σ a := LG_fr hf (isM_land h)
theorem LGM0 {b : Nat} {σ τ : St} (hf : Fr (isM b) b σ τ) : LG τ (b + 2) = LG σ (b + 2) := LGM hf (Nat.le_refl _)
def fittB (Lw : Lws) (G : Gd) (i j : Nat) : Bool := !decide (j = i) && (livesB G j && fitB Lw G i j)
def inTB (G : Gd) (t : Int32) (i : Nat) : Bool := livesB G i && decide (G 2 i = t)
def tldB (G : Gd) (x : Int32) (i : Nat) : Bool := if x = 0 then toldB G i else livesB G i
def perIsV (Lw : Lws) (G : Gd) (v w : Int32) : Int32 :=
  if prsV G v = true then (if w = 0 then G 1 (ix v) else if w = 1 then G 2 (ix v) else if w = 2 then orNone (G 3 (ix v)) else if w = 3 then G 4 (ix v) else if w = 4 then (if G 9 (ix v) = 0 then 1 else 0) else if w = 5 then holdsF G v 12 else if w = 6 then bitF (fittB Lw G (ix v)) 12 else if w = 7 then G 7 (ix v) - G 6 (ix v) else if w = 8 then G 5 (ix v) else -1) else -1
def slkOpV (Lw : Lws) (G : Gd) (v w x : Int32) : Int32 :=
  if ((prsV G v && prsV G w) && (!decide (v = w) && inB x 3)) = true then (if slackL G v w = -1 then -1 else if x = 0 then slackL G v w else if x = 1 then bI (fitB Lw G (ix v) (ix w)) else likeF' Lw G (ix v) (ix w)) else -1
theorem prsV_t {G : Gd} {v : Int32} (h : prsV G v = true) : ∃ j : Nat, j < 12 ∧ v = nI j := by
  rw [prsV, Bool.and_eq_true] at h
  obtain ⟨j, hj, rfl⟩ := inB_12 h.1
  exact ⟨j, hj, rfl⟩
theorem bitF_t {p : Nat → Bool} {n : Nat} (h : p n = true) : bitF p (n + 1) = bitF p n ||| 1 <<< (nI n &&& 31) := by rw [bitF, if_pos h]
theorem bitF_f {p : Nat → Bool} {n : Nat} (h : p n = false) : bitF p (n + 1) = bitF p n ||| 0 := by rw [bitF, if_neg (by rw [h]; decide)]
section
variable {Γ : Gm} {σ : St} {b hi : Nat} {Lw : Lws}
theorem ct_fitting {i : Nat} (hi' : i < 12) (hS : Sy b hi Lw σ) : Ct Γ 51 0 0 m_X0_fitting [.ref b, .int (nI i)] σ (fun v τ => ∃ y, v = some (.int y) ∧ (y = bitF (fittB Lw (LG σ (b + 2)) i) 12 ∧ Fr (isM b) b σ τ)) := by
  refine Ct.ofWP pf_X0_fitting rfl rfl ?_
  have loop : ∀ n k ρ, k ≤ 12 → 12 - k < n → Fr (isM b) b σ ρ → WP Γ m_X0_fitting 51 0 0 4 [some (.ref b), some (.int (nI i)), some (.int (bitF (fittB Lw (LG σ (b + 2)) i) k)), some (.int (nI k))] [] ρ (fun v τ => ∃ y, v = some (.int y) ∧ (y = bitF (fittB Lw (LG σ (b + 2)) i) 12 ∧ Fr (isM b) b σ τ)) := by
    intro n
    induction n with
    | zero => intro k ρ h1 h2; omega
    | succ n ih =>
      intro k ρ h1 h2 hf
      have hS1 := hS.fr hf isM_law
      have hC := hS1.1
      have eG := LGM0 hf
      refine wp_iload_n dX0_fitting_4 rfl ?_
      refine wp_bipush dX0_fitting_5 12 rfl ?_
      refine wp_icmp_geN dX0_fitting_7 54 (by decide) k 12 rfl rfl (by omega) (by omega) (fun c7 => ?_) (fun c7 => ?_)
      · refine wp_iload_n dX0_fitting_54 rfl ?_
        refine wp_iret dX0_fitting_55 rfl ?_
        obtain rfl : k = 12 := by omega
        exact ⟨_, rfl, rfl, hf⟩
      · refine wp_iload_n dX0_fitting_10 rfl ?_
        refine wp_iload_n dX0_fitting_11 rfl ?_
        refine wp_iload_n dX0_fitting_12 rfl ?_
        refine wp_icmp_eqN dX0_fitting_13 45 (by decide) k i rfl rfl (by omega) (by omega) (fun c13 => ?_) (fun c13 => ?_)
        · refine wp_iconst dX0_fitting_45 0 rfl ?_
          refine wp_ior dX0_fitting_46 ?_
          refine wp_istore_n dX0_fitting_47 rfl ?_
          refine wp_iinc dX0_fitting_48 rfl rfl (nI (k + 1)) (nI_add k 1) ?_
          refine wp_goto dX0_fitting_51 4 (by decide) ?_
          first | refine WP.cast ?_ (ih (k + 1) _ (by omega) (by omega) hf3) | refine WP.cast ?_ (ih (k + 1) _ (by omega) (by omega) hf)
          first | (rw [bitF_f (by rw [fittB, decide_eq_true c13]; rfl)]; rfl) | (rw [bitF_f (by rw [fittB, bI_0.mp c24]; simp)]; rfl) | (rw [bitF_f (by rw [fittB, bI_0.mp c36]; simp)]; rfl) | (rw [bitF_t (by rw [fittB, bI_1.mp c24, bI_1.mp c36, decide_eq_false c13]; rfl)]; rfl)
        · refine wp_aload_n dX0_fitting_16 rfl ?_
          refine wp_getR dX0_fitting_17 gfa_X0_33_0 rfl hC.k0 hC.r1 ?_
          refine wp_iload_n dX0_fitting_20 rfl ?_
          refine wp_cI (gcV dX0_fitting_21 gva_X0_135_3 (ct_lives _ hC.l0) hC.l0.k0 rfl rfl (by omega) (by omega) (by omega) (Nat.le_of_ble_eq_true rfl) rfl) ?_
          rw [livesV_n c7, eG]
          refine wp_if_eq dX0_fitting_24 45 (by decide) (fun c24 => ?_) (fun c24 => ?_)
          · refine wp_iconst dX0_fitting_45 0 rfl ?_
            refine wp_ior dX0_fitting_46 ?_
            refine wp_istore_n dX0_fitting_47 rfl ?_
            refine wp_iinc dX0_fitting_48 rfl rfl (nI (k + 1)) (nI_add k 1) ?_
            refine wp_goto dX0_fitting_51 4 (by decide) ?_
            first | refine WP.cast ?_ (ih (k + 1) _ (by omega) (by omega) hf3) | refine WP.cast ?_ (ih (k + 1) _ (by omega) (by omega) hf)
            first | (rw [bitF_f (by rw [fittB, decide_eq_true c13]; rfl)]; rfl) | (rw [bitF_f (by rw [fittB, bI_0.mp c24]; simp)]; rfl) | (rw [bitF_f (by rw [fittB, bI_0.mp c36]; simp)]; rfl) | (rw [bitF_t (by rw [fittB, bI_1.mp c24, bI_1.mp c36, decide_eq_false c13]; rfl)]; rfl)
          · refine wp_aload_n dX0_fitting_27 rfl ?_
            refine wp_getR dX0_fitting_28 gfa_X0_33_0 rfl hC.k0 hC.r1 ?_
            refine wp_iload_n dX0_fitting_31 rfl ?_
            refine wp_iload_n dX0_fitting_32 rfl ?_
            refine wp_cIx (gcV dX0_fitting_33 gva_X0_216_3 (ct_fit hi' c7 hC.l0 hS1) hC.l0.k0 rfl rfl (by omega) (by omega) (by omega) (Nat.le_of_ble_eq_true rfl) rfl) (fun y τ hy => ?_)
            obtain ⟨rfl, hf2⟩ := hy
            have hf3 := hf.trans hf2
            rw [eG]
            refine wp_if_eq dX0_fitting_36 45 (by decide) (fun c36 => ?_) (fun c36 => ?_)
            · refine wp_iconst dX0_fitting_45 0 rfl ?_
              refine wp_ior dX0_fitting_46 ?_
              refine wp_istore_n dX0_fitting_47 rfl ?_
              refine wp_iinc dX0_fitting_48 rfl rfl (nI (k + 1)) (nI_add k 1) ?_
              refine wp_goto dX0_fitting_51 4 (by decide) ?_
              first | refine WP.cast ?_ (ih (k + 1) _ (by omega) (by omega) hf3) | refine WP.cast ?_ (ih (k + 1) _ (by omega) (by omega) hf)
              first | (rw [bitF_f (by rw [fittB, decide_eq_true c13]; rfl)]; rfl) | (rw [bitF_f (by rw [fittB, bI_0.mp c24]; simp)]; rfl) | (rw [bitF_f (by rw [fittB, bI_0.mp c36]; simp)]; rfl) | (rw [bitF_t (by rw [fittB, bI_1.mp c24, bI_1.mp c36, decide_eq_false c13]; rfl)]; rfl)
            · refine wp_iconst dX0_fitting_39 1 rfl ?_
              refine wp_iload_n dX0_fitting_40 rfl ?_
              refine wp_ishl dX0_fitting_41 ?_
              refine wp_goto dX0_fitting_42 46 (by decide) ?_
              refine wp_ior dX0_fitting_46 ?_
              refine wp_istore_n dX0_fitting_47 rfl ?_
              refine wp_iinc dX0_fitting_48 rfl rfl (nI (k + 1)) (nI_add k 1) ?_
              refine wp_goto dX0_fitting_51 4 (by decide) ?_
              first | refine WP.cast ?_ (ih (k + 1) _ (by omega) (by omega) hf3) | refine WP.cast ?_ (ih (k + 1) _ (by omega) (by omega) hf)
              first | (rw [bitF_f (by rw [fittB, decide_eq_true c13]; rfl)]; rfl) | (rw [bitF_f (by rw [fittB, bI_0.mp c24]; simp)]; rfl) | (rw [bitF_f (by rw [fittB, bI_0.mp c36]; simp)]; rfl) | (rw [bitF_t (by rw [fittB, bI_1.mp c24, bI_1.mp c36, decide_eq_false c13]; rfl)]; rfl)
  refine wp_iconst dX0_fitting_0 0 rfl ?_
  refine wp_istore_n dX0_fitting_1 rfl ?_
  refine wp_iconst dX0_fitting_2 0 rfl ?_
  refine wp_istore_n dX0_fitting_3 rfl ?_
  exact loop 13 0 _ (by omega) (by omega) Fr.rf
theorem ct_inTown (t : Int32) (hC : CK b σ) : Ct Γ 3 0 0 m_X0_inTown [.ref b, .int t] σ (fun v τ => v = some (.int (bitF (inTB (LG σ (b + 2)) t) 12)) ∧ τ = σ) := by
  refine Ct.ofWP pf_X0_inTown rfl rfl ?_
  have loop : ∀ n k, k ≤ 12 → 12 - k < n → WP Γ m_X0_inTown 3 0 0 4 [some (.ref b), some (.int t), some (.int (bitF (inTB (LG σ (b + 2)) t) k)), some (.int (nI k))] [] σ (fun v τ => v = some (.int (bitF (inTB (LG σ (b + 2)) t) 12)) ∧ τ = σ) := by
    intro n
    induction n with
    | zero => intro k h1 h2; omega
    | succ n ih =>
      intro k h1 h2
      refine wp_iload_n dX0_inTown_4 rfl ?_
      refine wp_bipush dX0_inTown_5 12 rfl ?_
      refine wp_icmp_geN dX0_inTown_7 53 (by decide) k 12 rfl rfl (by omega) (by omega) (fun c7 => ?_) (fun c7 => ?_)
      · refine wp_iload_n dX0_inTown_53 rfl ?_
        refine wp_iret dX0_inTown_54 rfl ?_
        obtain rfl : k = 12 := by omega
        exact ⟨rfl, rfl⟩
      · refine wp_iload_n dX0_inTown_10 rfl ?_
        refine wp_aload_n dX0_inTown_11 rfl ?_
        refine wp_getR dX0_inTown_12 gfa_X0_33_0 rfl hC.k0 hC.r1 ?_
        refine wp_iload_n dX0_inTown_15 rfl ?_
        refine wp_cI (gcV dX0_inTown_16 gva_X0_135_3 (ct_lives _ hC.l0) hC.l0.k0 rfl rfl (by omega) (by omega) (by omega) (Nat.le_of_ble_eq_true rfl) rfl) ?_
        rw [livesV_n c7]
        refine wp_if_eq dX0_inTown_19 44 (by decide) (fun c19 => ?_) (fun c19 => ?_)
        · refine wp_iconst dX0_inTown_44 0 rfl ?_
          refine wp_ior dX0_inTown_45 ?_
          refine wp_istore_n dX0_inTown_46 rfl ?_
          refine wp_iinc dX0_inTown_47 rfl rfl (nI (k + 1)) (nI_add k 1) ?_
          refine wp_goto dX0_inTown_50 4 (by decide) ?_
          refine WP.cast ?_ (ih (k + 1) (by omega) (by omega))
          first | (rw [bitF_f (by rw [inTB, bI_0.mp c19]; rfl)]; rfl) | (rw [bitF_f (by rw [inTB, decide_eq_false c35]; simp)]; rfl) | (rw [bitF_t (by rw [inTB, bI_1.mp c19, decide_eq_true c35]; rfl)]; rfl)
        · refine wp_aload_n dX0_inTown_22 rfl ?_
          refine wp_getR dX0_inTown_23 gfa_X0_33_0 rfl hC.k0 hC.r1 ?_
          refine wp_getR dX0_inTown_26 gfa_X0_94_3 rfl hC.l0.k0 hC.l0.r0 ?_
          refine wp_iload_n dX0_inTown_29 rfl ?_
          refine wp_aald dX0_inTown_30 hC.l0.k1 rfl k rfl (by omega) (by omega) (hC.l0.rP (by omega)) ?_
          refine wp_getI dX0_inTown_31 gfa_X0_114_4 rfl (hC.l0.kP (by omega)) ?_
          rw [LG_p 2 (by omega) c7]
          refine wp_iload_n dX0_inTown_34 rfl ?_
          refine wp_icmp_ne dX0_inTown_35 44 (by decide) (fun c35 => ?_) (fun c35 => ?_)
          · refine wp_iconst dX0_inTown_44 0 rfl ?_
            refine wp_ior dX0_inTown_45 ?_
            refine wp_istore_n dX0_inTown_46 rfl ?_
            refine wp_iinc dX0_inTown_47 rfl rfl (nI (k + 1)) (nI_add k 1) ?_
            refine wp_goto dX0_inTown_50 4 (by decide) ?_
            refine WP.cast ?_ (ih (k + 1) (by omega) (by omega))
            first | (rw [bitF_f (by rw [inTB, bI_0.mp c19]; rfl)]; rfl) | (rw [bitF_f (by rw [inTB, decide_eq_false c35]; simp)]; rfl) | (rw [bitF_t (by rw [inTB, bI_1.mp c19, decide_eq_true c35]; rfl)]; rfl)
          · refine wp_iconst dX0_inTown_38 1 rfl ?_
            refine wp_iload_n dX0_inTown_39 rfl ?_
            refine wp_ishl dX0_inTown_40 ?_
            refine wp_goto dX0_inTown_41 45 (by decide) ?_
            refine wp_ior dX0_inTown_45 ?_
            refine wp_istore_n dX0_inTown_46 rfl ?_
            refine wp_iinc dX0_inTown_47 rfl rfl (nI (k + 1)) (nI_add k 1) ?_
            refine wp_goto dX0_inTown_50 4 (by decide) ?_
            refine WP.cast ?_ (ih (k + 1) (by omega) (by omega))
            first | (rw [bitF_f (by rw [inTB, bI_0.mp c19]; rfl)]; rfl) | (rw [bitF_f (by rw [inTB, decide_eq_false c35]; simp)]; rfl) | (rw [bitF_t (by rw [inTB, bI_1.mp c19, decide_eq_true c35]; rfl)]; rfl)
  refine wp_iconst dX0_inTown_0 0 rfl ?_
  refine wp_istore_n dX0_inTown_1 rfl ?_
  refine wp_iconst dX0_inTown_2 0 rfl ?_
  refine wp_istore_n dX0_inTown_3 rfl ?_
  exact loop 13 0 (by omega) (by omega)
theorem prsV_n {G : Gd} {j : Nat} (h : j < 12) : prsV G (nI j) = toldB G j := by rw [prsV, inB_12n h, ix_nI (by omega)]; rfl
theorem ct_told2 (x : Int32) (hC : CK b σ) : Ct Γ 3 0 0 m_X0_told [.ref b, .int x] σ (fun v τ => v = some (.int (bitF (tldB (LG σ (b + 2)) x) 12)) ∧ τ = σ) := by
  refine Ct.ofWP pf_X0_told rfl rfl ?_
  have loop : ∀ n k, k ≤ 12 → 12 - k < n → WP Γ m_X0_told 3 0 0 4 [some (.ref b), some (.int x), some (.int (bitF (tldB (LG σ (b + 2)) x) k)), some (.int (nI k))] [] σ (fun v τ => v = some (.int (bitF (tldB (LG σ (b + 2)) x) 12)) ∧ τ = σ) := by
    intro n
    induction n with
    | zero => intro k h1 h2; omega
    | succ n ih =>
      intro k h1 h2
      refine wp_iload_n dX0_told_4 rfl ?_
      refine wp_bipush dX0_told_5 12 rfl ?_
      refine wp_icmp_geN dX0_told_7 52 (by decide) k 12 rfl rfl (by omega) (by omega) (fun c7 => ?_) (fun c7 => ?_)
      · refine wp_iload_n dX0_told_52 rfl ?_
        refine wp_iret dX0_told_53 rfl ?_
        obtain rfl : k = 12 := by omega
        exact ⟨rfl, rfl⟩
      · refine wp_iload_n dX0_told_10 rfl ?_
        refine wp_iload_n dX0_told_11 rfl ?_
        refine wp_if_eq dX0_told_12 29 (by decide) (fun c12 => ?_) (fun c12 => ?_)
        · refine wp_aload_n dX0_told_29 rfl ?_
          refine wp_iload_n dX0_told_30 rfl ?_
          refine wp_cI (gcV dX0_told_31 gva_X0_175_0 (ct_isPerson _ hC) hC.k0 rfl rfl (by omega) (by omega) (by omega) (Nat.le_of_ble_eq_true rfl) rfl) ?_
          rw [prsV_n c7]
          refine wp_if_eq dX0_told_34 43 (by decide) (fun c34 => ?_) (fun c34 => ?_)
          · refine wp_iconst dX0_told_43 0 rfl ?_
            refine wp_ior dX0_told_44 ?_
            refine wp_istore_n dX0_told_45 rfl ?_
            refine wp_iinc dX0_told_46 rfl rfl (nI (k + 1)) (nI_add k 1) ?_
            refine wp_goto dX0_told_49 4 (by decide) ?_
            refine WP.cast ?_ (ih (k + 1) (by omega) (by omega))
            first | (rw [bitF_f (by rw [tldB, if_pos c12, bI_0.mp c34])]; rfl) | (rw [bitF_f (by rw [tldB, if_neg c12, bI_0.mp c23])]; rfl) | (rw [bitF_t (by rw [tldB, if_pos c12, bI_1.mp c34])]; rfl) | (rw [bitF_t (by rw [tldB, if_neg c12, bI_1.mp c23])]; rfl)
          · refine wp_iconst dX0_told_37 1 rfl ?_
            refine wp_iload_n dX0_told_38 rfl ?_
            refine wp_ishl dX0_told_39 ?_
            refine wp_goto dX0_told_40 44 (by decide) ?_
            refine wp_ior dX0_told_44 ?_
            refine wp_istore_n dX0_told_45 rfl ?_
            refine wp_iinc dX0_told_46 rfl rfl (nI (k + 1)) (nI_add k 1) ?_
            refine wp_goto dX0_told_49 4 (by decide) ?_
            refine WP.cast ?_ (ih (k + 1) (by omega) (by omega))
            first | (rw [bitF_f (by rw [tldB, if_pos c12, bI_0.mp c34])]; rfl) | (rw [bitF_f (by rw [tldB, if_neg c12, bI_0.mp c23])]; rfl) | (rw [bitF_t (by rw [tldB, if_pos c12, bI_1.mp c34])]; rfl) | (rw [bitF_t (by rw [tldB, if_neg c12, bI_1.mp c23])]; rfl)
        · refine wp_aload_n dX0_told_15 rfl ?_
          refine wp_getR dX0_told_16 gfa_X0_33_0 rfl hC.k0 hC.r1 ?_
          refine wp_iload_n dX0_told_19 rfl ?_
          refine wp_cI (gcV dX0_told_20 gva_X0_135_3 (ct_lives _ hC.l0) hC.l0.k0 rfl rfl (by omega) (by omega) (by omega) (Nat.le_of_ble_eq_true rfl) rfl) ?_
          rw [livesV_n c7]
          refine wp_if_eq dX0_told_23 43 (by decide) (fun c23 => ?_) (fun c23 => ?_)
          · refine wp_iconst dX0_told_43 0 rfl ?_
            refine wp_ior dX0_told_44 ?_
            refine wp_istore_n dX0_told_45 rfl ?_
            refine wp_iinc dX0_told_46 rfl rfl (nI (k + 1)) (nI_add k 1) ?_
            refine wp_goto dX0_told_49 4 (by decide) ?_
            refine WP.cast ?_ (ih (k + 1) (by omega) (by omega))
            first | (rw [bitF_f (by rw [tldB, if_pos c12, bI_0.mp c34])]; rfl) | (rw [bitF_f (by rw [tldB, if_neg c12, bI_0.mp c23])]; rfl) | (rw [bitF_t (by rw [tldB, if_pos c12, bI_1.mp c34])]; rfl) | (rw [bitF_t (by rw [tldB, if_neg c12, bI_1.mp c23])]; rfl)
          · refine wp_goto dX0_told_26 37 (by decide) ?_
            refine wp_iconst dX0_told_37 1 rfl ?_
            refine wp_iload_n dX0_told_38 rfl ?_
            refine wp_ishl dX0_told_39 ?_
            refine wp_goto dX0_told_40 44 (by decide) ?_
            refine wp_ior dX0_told_44 ?_
            refine wp_istore_n dX0_told_45 rfl ?_
            refine wp_iinc dX0_told_46 rfl rfl (nI (k + 1)) (nI_add k 1) ?_
            refine wp_goto dX0_told_49 4 (by decide) ?_
            refine WP.cast ?_ (ih (k + 1) (by omega) (by omega))
            first | (rw [bitF_f (by rw [tldB, if_pos c12, bI_0.mp c34])]; rfl) | (rw [bitF_f (by rw [tldB, if_neg c12, bI_0.mp c23])]; rfl) | (rw [bitF_t (by rw [tldB, if_pos c12, bI_1.mp c34])]; rfl) | (rw [bitF_t (by rw [tldB, if_neg c12, bI_1.mp c23])]; rfl)
  refine wp_iconst dX0_told_0 0 rfl ?_
  refine wp_istore_n dX0_told_1 rfl ?_
  refine wp_iconst dX0_told_2 0 rfl ?_
  refine wp_istore_n dX0_told_3 rfl ?_
  exact loop 13 0 (by omega) (by omega)
theorem ct_personIs (v w : Int32) (hS : Sy b hi Lw σ) : Ct Γ 52 0 0 m_X0_personIs [.ref b, .int v, .int w] σ (fun r τ => ∃ y, r = some (.int y) ∧ (y = perIsV Lw (LG σ (b + 2)) v w ∧ Fr (isM b) b σ τ)) := by
  refine Ct.ofWP pf_X0_personIs rfl rfl ?_
  have hC := hS.1
  refine wp_aload_n dX0_personIs_0 rfl ?_
  refine wp_iload_n dX0_personIs_1 rfl ?_
  refine wp_cI (gcV dX0_personIs_2 gva_X0_175_0 (ct_isPerson _ hC) hC.k0 rfl rfl (by omega) (by omega) (by omega) (Nat.le_of_ble_eq_true rfl) rfl) ?_
  refine wp_if_ne dX0_personIs_5 10 (by decide) (fun c5 => ?_) (fun c5 => ?_)
  · obtain ⟨j, hj, rfl⟩ := prsV_t (bI_1.mp c5)
    have hp := bI_1.mp c5
    refine wp_aload_n dX0_personIs_10 rfl ?_
    refine wp_getR dX0_personIs_11 gfa_X0_33_0 rfl hC.k0 hC.r1 ?_
    refine wp_getR dX0_personIs_14 gfa_X0_94_3 rfl hC.l0.k0 hC.l0.r0 ?_
    refine wp_iload_n dX0_personIs_17 rfl ?_
    refine wp_aald dX0_personIs_18 hC.l0.k1 rfl j rfl (by omega) (by omega) (hC.l0.rP (by omega)) ?_
    refine wp_astore_n dX0_personIs_19 rfl ?_
    refine wp_iload_n dX0_personIs_20 rfl ?_
    refine wp_tsw dX0_personIs_21 [(0, 72), (1, 77), (2, 82), (3, 90), (4, 95), (5, 108), (6, 117), (7, 123), (8, 133)] 138 (by decide) (List.forall_mem_cons.mpr ⟨fun c21 => ?_, (List.forall_mem_cons.mpr ⟨fun c21 => ?_, (List.forall_mem_cons.mpr ⟨fun c21 => ?_, (List.forall_mem_cons.mpr ⟨fun c21 => ?_, (List.forall_mem_cons.mpr ⟨fun c21 => ?_, (List.forall_mem_cons.mpr ⟨fun c21 => ?_, (List.forall_mem_cons.mpr ⟨fun c21 => ?_, (List.forall_mem_cons.mpr ⟨fun c21 => ?_, (List.forall_mem_cons.mpr ⟨fun c21 => ?_, List.forall_mem_nil _⟩)⟩)⟩)⟩)⟩)⟩)⟩)⟩)⟩) (fun c21 => ?_)
    · have c21 : _ = (0 : Int32) := c21
      refine wp_aload_n dX0_personIs_72 rfl ?_
      refine wp_getI dX0_personIs_73 gfa_X0_111_4 rfl (hC.l0.kP (by omega)) ?_
      rw [LG_p 1 (by omega) hj]
      refine wp_iret dX0_personIs_76 rfl ?_
      subst c21; exact ⟨_, rfl, by rw [perIsV, if_pos hp, ix_nI (by omega)]; rfl, Fr.rf⟩
    · have c21 : _ = (1 : Int32) := c21
      refine wp_aload_n dX0_personIs_77 rfl ?_
      refine wp_getI dX0_personIs_78 gfa_X0_114_4 rfl (hC.l0.kP (by omega)) ?_
      rw [LG_p 2 (by omega) hj]
      refine wp_iret dX0_personIs_81 rfl ?_
      subst c21; exact ⟨_, rfl, by rw [perIsV, if_pos hp, ix_nI (by omega)]; rfl, Fr.rf⟩
    · have c21 : _ = (2 : Int32) := c21
      refine wp_aload_n dX0_personIs_82 rfl ?_
      refine wp_getI dX0_personIs_83 gfa_X0_98_4 rfl (hC.l0.kP (by omega)) ?_
      rw [LG_p 3 (by omega) hj]
      refine wp_cI (gcS dX0_personIs_86 gsa_X0_212 (ct_orNone _) rfl rfl (by omega) (by omega) (by omega) (Nat.le_of_ble_eq_true rfl) rfl) ?_
      refine wp_iret dX0_personIs_89 rfl ?_
      subst c21; exact ⟨_, rfl, by rw [perIsV, if_pos hp, ix_nI (by omega)]; rfl, Fr.rf⟩
    · have c21 : _ = (3 : Int32) := c21
      refine wp_aload_n dX0_personIs_90 rfl ?_
      refine wp_getI dX0_personIs_91 gfa_X0_219_4 rfl (hC.l0.kP (by omega)) ?_
      rw [LG_p 4 (by omega) hj]
      refine wp_iret dX0_personIs_94 rfl ?_
      subst c21; exact ⟨_, rfl, by rw [perIsV, if_pos hp, ix_nI (by omega)]; rfl, Fr.rf⟩
    · have c21 : _ = (4 : Int32) := c21
      refine wp_aload_n dX0_personIs_95 rfl ?_
      refine wp_getI dX0_personIs_96 gfa_X0_222_4 rfl (hC.l0.kP (by omega)) ?_
      rw [LG_p 9 (by omega) hj]
      refine wp_if_eq dX0_personIs_99 106 (by decide) (fun c99 => ?_) (fun c99 => ?_)
      · refine wp_iconst dX0_personIs_106 1 rfl ?_
        refine wp_iret dX0_personIs_107 rfl ?_
        subst c21; exact ⟨_, rfl, by rw [perIsV, if_pos hp, ix_nI (by omega)]; simp [c99], Fr.rf⟩
      · refine wp_iconst dX0_personIs_102 0 rfl ?_
        refine wp_goto dX0_personIs_103 107 (by decide) ?_
        refine wp_iret dX0_personIs_107 rfl ?_
        subst c21; exact ⟨_, rfl, by rw [perIsV, if_pos hp, ix_nI (by omega)]; simp [c99], Fr.rf⟩
    · have c21 : _ = (5 : Int32) := c21
      refine wp_aload_n dX0_personIs_108 rfl ?_
      refine wp_getR dX0_personIs_109 gfa_X0_33_0 rfl hC.k0 hC.r1 ?_
      refine wp_iload_n dX0_personIs_112 rfl ?_
      refine wp_cI (gcV dX0_personIs_113 gva_X0_225_3 (ct_holds _ hC.l0) hC.l0.k0 rfl rfl (by omega) (by omega) (by omega) (Nat.le_of_ble_eq_true rfl) rfl) ?_
      refine wp_iret dX0_personIs_116 rfl ?_
      subst c21; exact ⟨_, rfl, by rw [perIsV, if_pos hp, ix_nI (by omega)]; rfl, Fr.rf⟩
    · have c21 : _ = (6 : Int32) := c21
      refine wp_aload_n dX0_personIs_117 rfl ?_
      refine wp_iload_n dX0_personIs_118 rfl ?_
      refine wp_cIx (gcV dX0_personIs_119 gva_X0_228_0 (ct_fitting hj hS) hC.k0 rfl rfl (by omega) (by omega) (by omega) (Nat.le_of_ble_eq_true rfl) rfl) (fun y τ hy => ?_)
      obtain ⟨rfl, hf⟩ := hy
      refine wp_iret dX0_personIs_122 rfl ?_
      subst c21; exact ⟨_, rfl, by rw [perIsV, if_pos hp, ix_nI (by omega)]; rfl, hf⟩
    · have c21 : _ = (7 : Int32) := c21
      refine wp_aload_n dX0_personIs_123 rfl ?_
      refine wp_getI dX0_personIs_124 gfa_X0_186_4 rfl (hC.l0.kP (by omega)) ?_
      refine wp_aload_n dX0_personIs_127 rfl ?_
      refine wp_getI dX0_personIs_128 gfa_X0_189_4 rfl (hC.l0.kP (by omega)) ?_
      rw [LG_p 6 (by omega) hj, LG_p 7 (by omega) hj]
      refine wp_isub dX0_personIs_131 ?_
      refine wp_iret dX0_personIs_132 rfl ?_
      subst c21; exact ⟨_, rfl, by rw [perIsV, if_pos hp, ix_nI (by omega)]; rfl, Fr.rf⟩
    · have c21 : _ = (8 : Int32) := c21
      refine wp_aload_n dX0_personIs_133 rfl ?_
      refine wp_getI dX0_personIs_134 gfa_X0_231_4 rfl (hC.l0.kP (by omega)) ?_
      rw [LG_p 5 (by omega) hj]
      refine wp_iret dX0_personIs_137 rfl ?_
      subst c21; exact ⟨_, rfl, by rw [perIsV, if_pos hp, ix_nI (by omega)]; rfl, Fr.rf⟩
    · skip
      refine wp_iconst dX0_personIs_138 (-1) rfl ?_
      refine wp_iret dX0_personIs_139 rfl ?_
      simp only [List.mem_cons, List.not_mem_nil, or_false, forall_eq_or_imp, forall_eq] at c21
      obtain ⟨e0, e1, e2, e3, e4, e5, e6, e7, e8⟩ := c21
      exact ⟨_, rfl, by rw [perIsV, if_pos hp, if_neg e0, if_neg e1, if_neg e2, if_neg e3, if_neg e4, if_neg e5, if_neg e6, if_neg e7, if_neg e8], Fr.rf⟩
  · refine wp_iconst dX0_personIs_8 (-1) rfl ?_
    refine wp_iret dX0_personIs_9 rfl ?_
    exact ⟨_, rfl, by rw [perIsV, bI_0.mp c5]; rfl, Fr.rf⟩
theorem ct_slackOp (v w x : Int32) (hS : Sy b hi Lw σ) : Ct Γ 52 0 0 m_X0_slack [.ref b, .int v, .int w, .int x] σ (fun r τ => ∃ y, r = some (.int y) ∧ (y = slkOpV Lw (LG σ (b + 2)) v w x ∧ Fr (isM b) b σ τ)) := by
  refine Ct.ofWP pf_X0_slack rfl rfl ?_
  have hC := hS.1
  refine wp_aload_n dX0_slack_0 rfl ?_
  refine wp_iload_n dX0_slack_1 rfl ?_
  refine wp_cI (gcV dX0_slack_2 gva_X0_175_0 (ct_isPerson _ hC) hC.k0 rfl rfl (by omega) (by omega) (by omega) (Nat.le_of_ble_eq_true rfl) rfl) ?_
  refine wp_if_eq dX0_slack_5 42 (by decide) (fun c5 => ?_) (fun c5 => ?_)
  · refine wp_iconst dX0_slack_42 (-1) rfl ?_
    refine wp_iret dX0_slack_43 rfl ?_
    refine ⟨_, rfl, ?_, Fr.rf⟩
    rw [slkOpV]
    split
    · rename_i h
      simp only [Bool.and_eq_true, Bool.not_eq_true', decide_eq_false_iff_not] at h
      first | (exact absurd h.1.1 (by rw [bI_0.mp c5]; decide)) | (exact absurd h.1.2 (by rw [bI_0.mp c13]; decide)) | (exact absurd c18 h.2.1) | (exact absurd h.2.2 (by rw [bI_0.mp c26]; decide)) | (simp [c39]; done) | rfl
    · rfl
  · refine wp_aload_n dX0_slack_8 rfl ?_
    refine wp_iload_n dX0_slack_9 rfl ?_
    refine wp_cI (gcV dX0_slack_10 gva_X0_175_0 (ct_isPerson _ hC) hC.k0 rfl rfl (by omega) (by omega) (by omega) (Nat.le_of_ble_eq_true rfl) rfl) ?_
    refine wp_if_eq dX0_slack_13 42 (by decide) (fun c13 => ?_) (fun c13 => ?_)
    · refine wp_iconst dX0_slack_42 (-1) rfl ?_
      refine wp_iret dX0_slack_43 rfl ?_
      refine ⟨_, rfl, ?_, Fr.rf⟩
      rw [slkOpV]
      split
      · rename_i h
        simp only [Bool.and_eq_true, Bool.not_eq_true', decide_eq_false_iff_not] at h
        first | (exact absurd h.1.1 (by rw [bI_0.mp c5]; decide)) | (exact absurd h.1.2 (by rw [bI_0.mp c13]; decide)) | (exact absurd c18 h.2.1) | (exact absurd h.2.2 (by rw [bI_0.mp c26]; decide)) | (simp [c39]; done) | rfl
      · rfl
    · refine wp_iload_n dX0_slack_16 rfl ?_
      refine wp_iload_n dX0_slack_17 rfl ?_
      refine wp_icmp_eq dX0_slack_18 42 (by decide) (fun c18 => ?_) (fun c18 => ?_)
      · refine wp_iconst dX0_slack_42 (-1) rfl ?_
        refine wp_iret dX0_slack_43 rfl ?_
        refine ⟨_, rfl, ?_, Fr.rf⟩
        rw [slkOpV]
        split
        · rename_i h
          simp only [Bool.and_eq_true, Bool.not_eq_true', decide_eq_false_iff_not] at h
          first | (exact absurd h.1.1 (by rw [bI_0.mp c5]; decide)) | (exact absurd h.1.2 (by rw [bI_0.mp c13]; decide)) | (exact absurd c18 h.2.1) | (exact absurd h.2.2 (by rw [bI_0.mp c26]; decide)) | (simp [c39]; done) | rfl
        · rfl
      · refine wp_iload_n dX0_slack_21 rfl ?_
        refine wp_iconst dX0_slack_22 3 rfl ?_
        refine wp_cI (gcS dX0_slack_23 gsa_X0_103 (ct_in _ _) rfl rfl (by omega) (by omega) (by omega) (Nat.le_of_ble_eq_true rfl) rfl) ?_
        refine wp_if_eq dX0_slack_26 42 (by decide) (fun c26 => ?_) (fun c26 => ?_)
        · refine wp_iconst dX0_slack_42 (-1) rfl ?_
          refine wp_iret dX0_slack_43 rfl ?_
          refine ⟨_, rfl, ?_, Fr.rf⟩
          rw [slkOpV]
          split
          · rename_i h
            simp only [Bool.and_eq_true, Bool.not_eq_true', decide_eq_false_iff_not] at h
            first | (exact absurd h.1.1 (by rw [bI_0.mp c5]; decide)) | (exact absurd h.1.2 (by rw [bI_0.mp c13]; decide)) | (exact absurd c18 h.2.1) | (exact absurd h.2.2 (by rw [bI_0.mp c26]; decide)) | (simp [c39]; done) | rfl
          · rfl
        · refine wp_aload_n dX0_slack_29 rfl ?_
          refine wp_getR dX0_slack_30 gfa_X0_33_0 rfl hC.k0 hC.r1 ?_
          refine wp_iload_n dX0_slack_33 rfl ?_
          refine wp_iload_n dX0_slack_34 rfl ?_
          refine wp_cI (gcV dX0_slack_35 gva_X0_234_3 (ct_slackL _ _ hC.l0) hC.l0.k0 rfl rfl (by omega) (by omega) (by omega) (Nat.le_of_ble_eq_true rfl) rfl) ?_
          refine wp_iconst dX0_slack_38 (-1) rfl ?_
          refine wp_icmp_ne dX0_slack_39 44 (by decide) (fun c39 => ?_) (fun c39 => ?_)
          · have hp : ((prsV (LG σ (b + 2)) v && prsV (LG σ (b + 2)) w) && (!decide (v = w) && inB x 3)) = true := by rw [bI_1.mp c5, bI_1.mp c13, bI_1.mp c26, decide_eq_false c18]; rfl
            obtain ⟨i, hi', rfl⟩ := prsV_t (bI_1.mp c5)
            obtain ⟨j, hj, rfl⟩ := prsV_t (bI_1.mp c13)
            refine wp_iload_n dX0_slack_44 rfl ?_
            refine wp_if_ne dX0_slack_45 60 (by decide) (fun c45 => ?_) (fun c45 => ?_)
            · refine wp_iload_n dX0_slack_60 rfl ?_
              refine wp_iconst dX0_slack_61 1 rfl ?_
              refine wp_icmp_ne dX0_slack_62 85 (by decide) (fun c62 => ?_) (fun c62 => ?_)
              · refine wp_aload_n dX0_slack_85 rfl ?_
                refine wp_getR dX0_slack_86 gfa_X0_33_0 rfl hC.k0 hC.r1 ?_
                refine wp_iload_n dX0_slack_89 rfl ?_
                refine wp_iload_n dX0_slack_90 rfl ?_
                refine wp_cIx (gcV dX0_slack_91 gva_X0_237_3 (ct_likes (Lw := Lw) (hi := hi) hi' hj hC.l0 hS) hC.l0.k0 rfl rfl (by omega) (by omega) (by omega) (Nat.le_of_ble_eq_true rfl) rfl) (fun y τ hy => ?_)
                obtain ⟨rfl, hf⟩ := hy
                refine wp_iret dX0_slack_94 rfl ?_
                first | refine ⟨_, rfl, ?_, hf⟩ | refine ⟨_, rfl, ?_, Fr.rf⟩
                rw [slkOpV, if_pos hp, if_neg c39]
                first | (rw [if_pos c45]; done) | (rw [if_neg c45, if_pos c62, ix_nI (by omega), ix_nI (by omega), bI_0.mp c74]; rfl) | (rw [if_neg c45, if_pos c62, ix_nI (by omega), ix_nI (by omega), bI_1.mp c74]; rfl) | (rw [if_neg c45, if_neg c62, ix_nI (by omega), ix_nI (by omega)]; done)
              · refine wp_aload_n dX0_slack_65 rfl ?_
                refine wp_getR dX0_slack_66 gfa_X0_33_0 rfl hC.k0 hC.r1 ?_
                refine wp_iload_n dX0_slack_69 rfl ?_
                refine wp_iload_n dX0_slack_70 rfl ?_
                refine wp_cIx (gcV dX0_slack_71 gva_X0_216_3 (ct_fit (Lw := Lw) (hi := hi) hi' hj hC.l0 hS) hC.l0.k0 rfl rfl (by omega) (by omega) (by omega) (Nat.le_of_ble_eq_true rfl) rfl) (fun y τ hy => ?_)
                obtain ⟨rfl, hf⟩ := hy
                refine wp_if_eq dX0_slack_74 81 (by decide) (fun c74 => ?_) (fun c74 => ?_)
                · refine wp_iconst dX0_slack_81 0 rfl ?_
                  refine wp_goto dX0_slack_82 94 (by decide) ?_
                  refine wp_iret dX0_slack_94 rfl ?_
                  first | refine ⟨_, rfl, ?_, hf⟩ | refine ⟨_, rfl, ?_, Fr.rf⟩
                  rw [slkOpV, if_pos hp, if_neg c39]
                  first | (rw [if_pos c45]; done) | (rw [if_neg c45, if_pos c62, ix_nI (by omega), ix_nI (by omega), bI_0.mp c74]; rfl) | (rw [if_neg c45, if_pos c62, ix_nI (by omega), ix_nI (by omega), bI_1.mp c74]; rfl) | (rw [if_neg c45, if_neg c62, ix_nI (by omega), ix_nI (by omega)]; done)
                · refine wp_iconst dX0_slack_77 1 rfl ?_
                  refine wp_goto dX0_slack_78 94 (by decide) ?_
                  refine wp_iret dX0_slack_94 rfl ?_
                  first | refine ⟨_, rfl, ?_, hf⟩ | refine ⟨_, rfl, ?_, Fr.rf⟩
                  rw [slkOpV, if_pos hp, if_neg c39]
                  first | (rw [if_pos c45]; done) | (rw [if_neg c45, if_pos c62, ix_nI (by omega), ix_nI (by omega), bI_0.mp c74]; rfl) | (rw [if_neg c45, if_pos c62, ix_nI (by omega), ix_nI (by omega), bI_1.mp c74]; rfl) | (rw [if_neg c45, if_neg c62, ix_nI (by omega), ix_nI (by omega)]; done)
            · refine wp_aload_n dX0_slack_48 rfl ?_
              refine wp_getR dX0_slack_49 gfa_X0_33_0 rfl hC.k0 hC.r1 ?_
              refine wp_iload_n dX0_slack_52 rfl ?_
              refine wp_iload_n dX0_slack_53 rfl ?_
              refine wp_cI (gcV dX0_slack_54 gva_X0_234_3 (ct_slackL _ _ hC.l0) hC.l0.k0 rfl rfl (by omega) (by omega) (by omega) (Nat.le_of_ble_eq_true rfl) rfl) ?_
              refine wp_goto dX0_slack_57 94 (by decide) ?_
              refine wp_iret dX0_slack_94 rfl ?_
              first | refine ⟨_, rfl, ?_, hf⟩ | refine ⟨_, rfl, ?_, Fr.rf⟩
              rw [slkOpV, if_pos hp, if_neg c39]
              first | (rw [if_pos c45]; done) | (rw [if_neg c45, if_pos c62, ix_nI (by omega), ix_nI (by omega), bI_0.mp c74]; rfl) | (rw [if_neg c45, if_pos c62, ix_nI (by omega), ix_nI (by omega), bI_1.mp c74]; rfl) | (rw [if_neg c45, if_neg c62, ix_nI (by omega), ix_nI (by omega)]; done)
          · refine wp_iconst dX0_slack_42 (-1) rfl ?_
            refine wp_iret dX0_slack_43 rfl ?_
            refine ⟨_, rfl, ?_, Fr.rf⟩
            rw [slkOpV]
            split
            · rename_i h
              simp only [Bool.and_eq_true, Bool.not_eq_true', decide_eq_false_iff_not] at h
              first | (exact absurd h.1.1 (by rw [bI_0.mp c5]; decide)) | (exact absurd h.1.2 (by rw [bI_0.mp c13]; decide)) | (exact absurd c18 h.2.1) | (exact absurd h.2.2 (by rw [bI_0.mp c26]; decide)) | (simp [c39]; done) | rfl
            · rfl
end
