set_option maxRecDepth 100000
section
variable {Γ : Gm} {σ : St} {b a hi : Nat} {Lw : Lws}
theorem ct_livesL {i : Nat} (hL : LK b a σ) (hi : i < 12) : Ct Γ 0 0 0 m_X4_lives [.ref (a + 3 + 4 * i)] σ (fun v τ => v = some (.int (bI (livesB (LG σ a) i))) ∧ τ = σ) := by
  have h := ct_livesP (Γ := Γ) (hL.kP hi)
  rw [LG_p 8 (by omega) hi, LG_p 9 (by omega) hi] at h
  exact h
theorem ct_isFreeL {i : Nat} (hL : LK b a σ) (hi : i < 12) : Ct Γ 1 0 0 m_X4_isFree [.ref (a + 3 + 4 * i)] σ (fun v τ => v = some (.int (bI (freeB (LG σ a) i))) ∧ τ = σ) := by
  have h := ct_isFreeP (Γ := Γ) (hL.kP hi)
  rw [LG_p 8 (by omega) hi, LG_p 9 (by omega) hi, LG_p 3 (by omega) hi] at h
  exact h
theorem ct_travels {i : Nat} (hi : i < 12) (hL : LK b a σ) (hG : GI1 (LG σ a) i) : Ct Γ 2 0 0 m_X3_travels [.ref a, .ref (a + 3 + 4 * i)] σ (fun v τ => v = none ∧ LPo b a σ (travG (LG σ a) i) τ) := by
  refine Ct.ofWP pf_X3_travels rfl rfl ?_
  obtain ⟨n, d, e6, e7, h1, h2⟩ := hG
  have en : ix (LG σ a 6 i) = n := by rw [e6]; exact ix_nI (by omega)
  refine wp_aload_n dX3_travels_0 rfl ?_
  refine wp_cI (gcV dX3_travels_1 gva_X3_115_4 (ct_isFreeL hL (by omega)) (hL.kP (by omega)) rfl rfl (by omega) (by omega) (by omega) (Nat.le_of_ble_eq_true rfl) rfl) ?_
  refine wp_if_eq dX3_travels_4 18 (by decide) (fun c4 => ?_) (fun c4 => ?_)
  · refine wp_vret dX3_travels_18 rfl ?_
    refine ⟨rfl, ?_⟩
    have : travB (LG σ a) i = false := by first | (rw [travB, bI_0.mp c4]; rfl) | (rw [travB, show (decide (LG σ a 6 i = LG σ a 7 i)) = true from by simpa using c15]; simp)
    rw [travG, this]
    exact LPo.rf
  · refine wp_aload_n dX3_travels_7 rfl ?_
    refine wp_getI dX3_travels_8 gfa_X3_118_4 rfl (hL.kP (by omega)) ?_
    refine wp_aload_n dX3_travels_11 rfl ?_
    refine wp_getI dX3_travels_12 gfa_X3_121_4 rfl (hL.kP (by omega)) ?_
    rw [LG_p 6 (by omega) hi, LG_p 7 (by omega) hi]
    refine wp_icmp_ne dX3_travels_15 19 (by decide) (fun c15 => ?_) (fun c15 => ?_)
    · refine wp_aload_n dX3_travels_19 rfl ?_
      refine wp_aload_n dX3_travels_20 rfl ?_
      refine wp_getR dX3_travels_21 gfa_X3_124_4 rfl (hL.kP (by omega)) (hL.rT (by omega)) ?_
      refine wp_aload_n dX3_travels_24 rfl ?_
      refine wp_getI dX3_travels_25 gfa_X3_118_4 rfl (hL.kP (by omega)) ?_
      rw [LG_p 6 (by omega) hi, e6]
      refine wp_iald dX3_travels_28 (hL.kT (by omega)) n rfl (by have : ¬ n = d := fun e => c15 (by rw [e6, e7, e]); omega) (by omega) ?_
      rw [LG_t n hi]
      refine wp_putI dX3_travels_29 gfa_X3_128_4 (Or.inl rfl) rfl ⟨rfl, rfl⟩ (hL.kP (by omega)) ?_
      refine wp_aload_n dX3_travels_32 rfl ?_
      refine wp_dup dX3_travels_33 rfl ?_
      refine wp_getI dX3_travels_34 gfa_X3_118_4 rfl (hL.kP (by omega)) ?_
      refine wp_iconst dX3_travels_37 1 rfl ?_
      refine wp_iadd dX3_travels_38 ?_
      rw [stI_setI, if_neg (by omega), LG_p 6 (by omega) hi]
      refine wp_putI dX3_travels_39 gfa_X3_118_4 (Or.inl rfl) rfl ⟨rfl, rfl⟩ (hL.kP (by omega)) ?_
      refine wp_vret dX3_travels_42 rfl ?_
      refine ⟨rfl, ?_⟩
      have : travB (LG σ a) i = true := by rw [travB, bI_1.mp c4]; simpa using c15
      rw [travG, if_pos this, en]
      exact (LPo.rf.setp (by omega) hi).setp (by omega) hi
    · refine wp_vret dX3_travels_18 rfl ?_
      refine ⟨rfl, ?_⟩
      have : travB (LG σ a) i = false := by first | (rw [travB, bI_0.mp c4]; rfl) | (rw [travB, show (decide (LG σ a 6 i = LG σ a 7 i)) = true from by simpa using c15]; simp)
      rw [travG, this]
      exact LPo.rf
theorem ct_meets {i : Nat} (t : Int32) (hi' : i < 12) (hL : LK b a σ) (ha : a + 51 ≤ b + 156) (hS : Sy b hi Lw σ) : Ct Γ 53 0 0 m_X3_meets [.ref a, .int t, .int (nI i)] σ (fun v τ => v = none ∧ LPo b a σ (meetsG Lw (LG σ a) t i) τ) := by
  refine Ct.ofWP pf_X3_meets rfl rfl ?_
  have loop : ∀ n k, k ≤ 12 → 12 - k < n → (∀ j, j < k → candB (LG σ a) t i j = false) → WP Γ m_X3_meets 53 0 0 2 [some (.ref a), some (.int t), some (.int (nI i)), some (.int (nI k))] [] σ (fun v τ => v = none ∧ LPo b a σ (meetsG Lw (LG σ a) t i) τ) := by
    intro n
    induction n with
    | zero => intro k h1 h2; omega
    | succ n ih =>
      intro k h1 h2 h3
      refine wp_iload_n dX3_meets_2 rfl ?_
      refine wp_bipush dX3_meets_3 12 rfl ?_
      refine wp_icmp_geN dX3_meets_5 78 (by decide) k 12 rfl rfl (by omega) (by omega) (fun c5 => ?_) (fun c5 => ?_)
      · refine wp_vret dX3_meets_78 rfl ?_
        refine ⟨rfl, ?_⟩
        rw [meetsG, find_none (fun j hj => h3 j (by omega))]
        exact LPo.rf
      · refine wp_aload_n dX3_meets_8 rfl ?_
        refine wp_getR dX3_meets_9 gfa_X3_17_3 rfl hL.k0 hL.r0 ?_
        refine wp_iload_n dX3_meets_12 rfl ?_
        refine wp_aald dX3_meets_13 hL.k1 rfl k rfl (by omega) (by omega) (hL.rP (by omega)) ?_
        refine wp_cI (gcV dX3_meets_14 gva_X3_115_4 (ct_isFreeL hL (by omega)) (hL.kP (by omega)) rfl rfl (by omega) (by omega) (by omega) (Nat.le_of_ble_eq_true rfl) rfl) ?_
        refine wp_if_eq dX3_meets_17 72 (by decide) (fun c17 => ?_) (fun c17 => ?_)
        · refine wp_iinc dX3_meets_72 rfl rfl (nI (k + 1)) (nI_add k 1) ?_
          refine wp_goto dX3_meets_75 2 (by decide) ?_
          refine ih (k + 1) (by omega) (by omega) (lt_s h3 ?_)
          first | (rw [candB, bI_0.mp c17]; rfl) | (rw [candB, decide_eq_false c30]; simp) | (rw [candB, decide_eq_false c43]; simp) | (rw [candB, bI_1.mp c59]; simp)
        · refine wp_aload_n dX3_meets_20 rfl ?_
          refine wp_getR dX3_meets_21 gfa_X3_17_3 rfl hL.k0 hL.r0 ?_
          refine wp_iload_n dX3_meets_24 rfl ?_
          refine wp_aald dX3_meets_25 hL.k1 rfl k rfl (by omega) (by omega) (hL.rP (by omega)) ?_
          refine wp_getI dX3_meets_26 gfa_X3_65_4 rfl (hL.kP (by omega)) ?_
          rw [LG_p 1 (by omega) (by omega)]
          refine wp_iconst dX3_meets_29 1 rfl ?_
          refine wp_icmp_ne dX3_meets_30 72 (by decide) (fun c30 => ?_) (fun c30 => ?_)
          · refine wp_iinc dX3_meets_72 rfl rfl (nI (k + 1)) (nI_add k 1) ?_
            refine wp_goto dX3_meets_75 2 (by decide) ?_
            refine ih (k + 1) (by omega) (by omega) (lt_s h3 ?_)
            first | (rw [candB, bI_0.mp c17]; rfl) | (rw [candB, decide_eq_false c30]; simp) | (rw [candB, decide_eq_false c43]; simp) | (rw [candB, bI_1.mp c59]; simp)
          · refine wp_aload_n dX3_meets_33 rfl ?_
            refine wp_getR dX3_meets_34 gfa_X3_17_3 rfl hL.k0 hL.r0 ?_
            refine wp_iload_n dX3_meets_37 rfl ?_
            refine wp_aald dX3_meets_38 hL.k1 rfl k rfl (by omega) (by omega) (hL.rP (by omega)) ?_
            refine wp_getI dX3_meets_39 gfa_X3_128_4 rfl (hL.kP (by omega)) ?_
            rw [LG_p 2 (by omega) (by omega)]
            refine wp_iload_n dX3_meets_42 rfl ?_
            refine wp_icmp_ne dX3_meets_43 72 (by decide) (fun c43 => ?_) (fun c43 => ?_)
            · refine wp_iinc dX3_meets_72 rfl rfl (nI (k + 1)) (nI_add k 1) ?_
              refine wp_goto dX3_meets_75 2 (by decide) ?_
              refine ih (k + 1) (by omega) (by omega) (lt_s h3 ?_)
              first | (rw [candB, bI_0.mp c17]; rfl) | (rw [candB, decide_eq_false c30]; simp) | (rw [candB, decide_eq_false c43]; simp) | (rw [candB, bI_1.mp c59]; simp)
            · refine wp_aload_n dX3_meets_46 rfl ?_
              refine wp_getR dX3_meets_47 gfa_X3_17_3 rfl hL.k0 hL.r0 ?_
              refine wp_iload_n dX3_meets_50 rfl ?_
              refine wp_aald dX3_meets_51 hL.k1 rfl i rfl (by omega) (by omega) (hL.rP (by omega)) ?_
              refine wp_getI dX3_meets_52 gfa_X3_92_4 rfl (hL.kP (by omega)) ?_
              rw [LG_p 5 (by omega) (by omega)]
              refine wp_iload_n dX3_meets_55 rfl ?_
              refine wp_cI (gcSN dX3_meets_56 gsa_X3_131 (ct_has _ _) rfl rfl (by omega) (by omega) (by omega) (Nat.le_of_ble_eq_true rfl) rfl) ?_
              refine wp_if_eq dX3_meets_59 65 (by decide) (fun c59 => ?_) (fun c59 => ?_)
              · refine wp_aload_n dX3_meets_65 rfl ?_
                refine wp_iload_n dX3_meets_66 rfl ?_
                refine wp_iload_n dX3_meets_67 rfl ?_
                refine wp_cVx (gcV dX3_meets_68 gva_X3_134_3 (ct_tries hi' (by omega) hL ha hS) hL.k0 rfl rfl (by omega) (by omega) (by omega) (Nat.le_of_ble_eq_true rfl) rfl) (fun τ hP => ?_)
                refine wp_vret dX3_meets_71 rfl ?_
                refine ⟨rfl, ?_⟩
                have hc : candB (LG σ a) t i k = true := by rw [candB, bI_1.mp c17, bI_0.mp c59]; simp [c30, c43]
                rw [meetsG, find_some c5 h3 hc]
                exact hP
              · refine wp_goto dX3_meets_62 72 (by decide) ?_
                refine wp_iinc dX3_meets_72 rfl rfl (nI (k + 1)) (nI_add k 1) ?_
                refine wp_goto dX3_meets_75 2 (by decide) ?_
                refine ih (k + 1) (by omega) (by omega) (lt_s h3 ?_)
                first | (rw [candB, bI_0.mp c17]; rfl) | (rw [candB, decide_eq_false c30]; simp) | (rw [candB, decide_eq_false c43]; simp) | (rw [candB, bI_1.mp c59]; simp)
  refine wp_iconst dX3_meets_0 0 rfl ?_
  refine wp_istore_n dX3_meets_1 rfl ?_
  exact loop 13 0 (by omega) (by omega) (fun j hj => absurd hj (by omega))
theorem ct_creaks {i j : Nat} (hi' : i < 12) (hj : j < 12) (hL : LK b a σ) (ha : a + 51 ≤ b + 156) (hS : Sy b hi Lw σ) : Ct Γ 50 0 0 m_X3_creaks [.ref a, .int (nI i), .int (nI j)] σ (fun v τ => v = none ∧ LPo b a σ (creakG Lw (LG σ a) i j) τ) := by
  refine Ct.ofWP pf_X3_creaks rfl rfl ?_
  have at76 : ∀ (τ : St) (w : Bool), creakW Lw (LG σ a) i j = bI w → LPo b a σ (creakG2 Lw (LG σ a) i j) τ → WP Γ m_X3_creaks 50 0 0 76 [some (.ref a), some (.int (nI i)), some (.int (nI j)), some (.int (slackL (LG σ a) (nI i) (nI j))), some (.int (bI w))] [] τ (fun v τ => v = none ∧ LPo b a σ (creakG Lw (LG σ a) i j) τ) := by
    intro τ w hw hP
    have hL1 := hP.L hL
    have at104 : ∀ x, x = creakW Lw (LG σ a) i j → WP Γ m_X3_creaks 50 0 0 103 [some (.ref a), some (.int (nI i)), some (.int (nI j)), some (.int (slackL (LG σ a) (nI i) (nI j))), some (.int (bI w))] [.int x, .int (stI τ (a + 3 + 4 * j) 4), .int 99, .ref (a + 3 + 4 * j)] τ (fun v τ => v = none ∧ LPo b a σ (creakG Lw (LG σ a) i j) τ) := by
      intro x hx
      subst hx
      rw [hP.p 4 (by omega) hj]
      have hP3 : LPo b a σ (creakG3 Lw (LG σ a) i j) (setI τ (a + 3 + 4 * j) 4 (imin 99 (creakG2 Lw (LG σ a) i j 4 j + creakW Lw (LG σ a) i j))) := hP.setp (by omega) hj
      have hL3 := hP3.L hL
      have hS3 := hP3.S hL ha hS
      refine wp_iadd dX3_creaks_103 ?_
      refine wp_cI (gcS dX3_creaks_104 gsa_X3_59 (ct_min _ _) rfl rfl (by omega) (by omega) (by omega) (Nat.le_of_ble_eq_true rfl) rfl) ?_
      refine wp_putI dX3_creaks_107 gfa_X3_89_4 (Or.inl rfl) rfl ⟨rfl, rfl⟩ (hL1.kP (by omega)) ?_
      refine wp_aload_n dX3_creaks_110 rfl ?_
      refine wp_getR dX3_creaks_111 gfa_X3_17_3 rfl hL3.k0 hL3.r0 ?_
      refine wp_iload_n dX3_creaks_114 rfl ?_
      refine wp_aald dX3_creaks_115 hL3.k1 rfl i rfl (by omega) (by omega) (hL3.rP (by omega)) ?_
      refine wp_getI dX3_creaks_116 gfa_X3_89_4 rfl (hL3.kP (by omega)) ?_
      rw [hP3.p 4 (by omega) hi']
      refine wp_aload_n dX3_creaks_119 rfl ?_
      refine wp_getR dX3_creaks_120 gfa_X3_3_3 rfl hL3.k0 hL3.r7 ?_
      refine wp_getR dX3_creaks_123 gfa_X3_73_0 rfl hS3.1.k0 hS3.1.r0 ?_
      refine wp_aload_n dX3_creaks_126 rfl ?_
      refine wp_iload_n dX3_creaks_127 rfl ?_
      refine wp_iload_n dX3_creaks_128 rfl ?_
      refine wp_iload_n dX3_creaks_129 rfl ?_
      refine wp_cR (gcV dX3_creaks_130 gva_X3_77_2 (ct_of _ _ _ hS3.1.k1) hS3.1.k1 rfl rfl (by omega) (by omega) (by omega) (Nat.le_of_ble_eq_true rfl) rfl) ?_
      refine wp_bipush dX3_creaks_133 98 rfl ?_
      refine wp_bipush dX3_creaks_135 99 rfl ?_
      refine wp_cIx (gcV dX3_creaks_137 gva_X3_83_2 (ct_tellsM 98 99 (ofx hL3 hS3.1.k1 hi' hj) (hS3.fr ofS_fr isM_law)) hS3.1.k1 rfl rfl (by omega) (by omega) (by omega) (Nat.le_of_ble_eq_true rfl) rfl) (fun y ρ hy => ?_)
      obtain ⟨rfl, hf2⟩ := hy
      have eG := (LG_fr (ofS_fr (σ := setI τ (a + 3 + 4 * j) 4 (imin 99 (creakG2 Lw (LG σ a) i j 4 j + creakW Lw (LG σ a) i j))) (b := b) (a := a) (i := nI i) (j := nI j) (s := slackL (LG σ a) (nI i) (nI j))) (isM_land hL3.ge)).trans hP3.2
      have hP4 := (hP3.of ofS_fr hL).of hf2 hL
      have hL4 := hP4.L hL
      have hS4 := hP4.S hL ha hS
      rw [show LG (ofS (setI τ (a + 3 + 4 * j) 4 (imin 99 (creakG2 Lw (LG σ a) i j 4 j + creakW Lw (LG σ a) i j))) b a (nI i) (nI j) (slackL (LG σ a) (nI i) (nI j))) a = creakG3 Lw (LG σ a) i j from eG]
      refine wp_icmp_gt dX3_creaks_140 144 (by decide) (fun c140 => ?_) (fun c140 => ?_)
      · refine wp_aload_n dX3_creaks_144 rfl ?_
        refine wp_iload_n dX3_creaks_145 rfl ?_
        refine wp_iload_n dX3_creaks_146 rfl ?_
        refine wp_cVx (gcV dX3_creaks_147 gva_X3_140_3 (ct_part hi' hj hL4) hL4.k0 rfl rfl (by omega) (by omega) (by omega) (Nat.le_of_ble_eq_true rfl) rfl) (fun τ5 hP5 => ?_)
        rw [hP4.2] at hP5
        replace hP5 := hP4.trans hP5
        have hL5 := hP5.L hL
        refine wp_aload_n dX3_creaks_150 rfl ?_
        refine wp_iload_n dX3_creaks_151 rfl ?_
        refine wp_iload_n dX3_creaks_152 rfl ?_
        refine wp_cVx (gcV dX3_creaks_153 gva_X3_98_3 (ct_haveTried hi' hj hL5) hL5.k0 rfl rfl (by omega) (by omega) (by omega) (Nat.le_of_ble_eq_true rfl) rfl) (fun τ6 hP6 => ?_)
        rw [hP5.2] at hP6
        replace hP6 := hP5.trans hP6
        have hL6 := hP6.L hL
        refine wp_aload_n dX3_creaks_156 rfl ?_
        refine wp_dup dX3_creaks_157 rfl ?_
        refine wp_getI dX3_creaks_158 gfa_X3_143_3 rfl hL6.k0 ?_
        rw [hP6.s (by omega)]
        refine wp_iconst dX3_creaks_161 1 rfl ?_
        refine wp_iadd dX3_creaks_162 ?_
        refine wp_putI dX3_creaks_163 gfa_X3_143_3 (Or.inl rfl) rfl ⟨rfl, rfl⟩ hL6.k0 ?_
        refine wp_vret dX3_creaks_166 rfl ?_
        refine ⟨rfl, ?_⟩
        rw [creakG, if_neg (by rw [← Int32.not_lt]; exact fun h => h c140)]
        exact hP6.sets (by omega)
      · refine wp_vret dX3_creaks_143 rfl ?_
        refine ⟨rfl, ?_⟩
        rw [creakG, if_pos (by rw [← Int32.not_lt]; exact c140)]
        exact hP4
    refine wp_aload_n dX3_creaks_76 rfl ?_
    refine wp_getR dX3_creaks_77 gfa_X3_17_3 rfl hL1.k0 hL1.r0 ?_
    refine wp_iload_n dX3_creaks_80 rfl ?_
    refine wp_aald dX3_creaks_81 hL1.k1 rfl j rfl (by omega) (by omega) (hL1.rP (by omega)) ?_
    refine wp_bipush dX3_creaks_82 99 rfl ?_
    refine wp_aload_n dX3_creaks_84 rfl ?_
    refine wp_getR dX3_creaks_85 gfa_X3_17_3 rfl hL1.k0 hL1.r0 ?_
    refine wp_iload_n dX3_creaks_88 rfl ?_
    refine wp_aald dX3_creaks_89 hL1.k1 rfl j rfl (by omega) (by omega) (hL1.rP (by omega)) ?_
    refine wp_getI dX3_creaks_90 gfa_X3_89_4 rfl (hL1.kP (by omega)) ?_
    refine wp_iload dX3_creaks_93 rfl ?_
    refine wp_if_eq dX3_creaks_95 102 (by decide) (fun c95 => ?_) (fun c95 => ?_)
    · refine wp_iconst dX3_creaks_102 0 rfl ?_
      exact at104 _ (by rw [hw]; first | (rw [bI_0.mp c95]; rfl) | (rw [bI_1.mp c95]; rfl))
    · refine wp_iconst dX3_creaks_98 1 rfl ?_
      refine wp_goto dX3_creaks_99 103 (by decide) ?_
      exact at104 _ (by rw [hw]; first | (rw [bI_0.mp c95]; rfl) | (rw [bI_1.mp c95]; rfl))
  have at42 : ∀ (τ : St) (x : Int32), x = creakW Lw (LG σ a) i j → LPo b a σ (drawG (LG σ a)) τ → WP Γ m_X3_creaks 50 0 0 40 [some (.ref a), some (.int (nI i)), some (.int (nI j)), some (.int (slackL (LG σ a) (nI i) (nI j))), none] [.int x] τ (fun v τ => v = none ∧ LPo b a σ (creakG Lw (LG σ a) i j) τ) := by
    intro τ x hx hP
    obtain ⟨w, hw⟩ : ∃ w : Bool, creakW Lw (LG σ a) i j = bI w := ⟨_, rfl⟩
    rw [hw] at hx
    subst hx
    have hL1 := hP.L hL
    have at70 : ∀ x, x = bI w → WP Γ m_X3_creaks 50 0 0 69 [some (.ref a), some (.int (nI i)), some (.int (nI j)), some (.int (slackL (LG σ a) (nI i) (nI j))), some (.int (bI w))] [.int x, .int (stI τ (a + 3 + 4 * i) 4), .int 99, .ref (a + 3 + 4 * i)] τ (fun v τ => v = none ∧ LPo b a σ (creakG Lw (LG σ a) i j) τ) := by
      intro x hx
      subst hx
      rw [hP.p 4 (by omega) hi']
      have hP2 : LPo b a σ (creakG2 Lw (LG σ a) i j) (setI τ (a + 3 + 4 * i) 4 (imin 99 (drawG (LG σ a) 4 i + bI w))) := by
        rw [← hw]
        exact hP.setp (by omega) hi'
      refine wp_iadd dX3_creaks_69 ?_
      refine wp_cI (gcS dX3_creaks_70 gsa_X3_59 (ct_min _ _) rfl rfl (by omega) (by omega) (by omega) (Nat.le_of_ble_eq_true rfl) rfl) ?_
      refine wp_putI dX3_creaks_73 gfa_X3_89_4 (Or.inl rfl) rfl ⟨rfl, rfl⟩ (hL1.kP (by omega)) ?_
      exact at76 _ w hw hP2
    refine wp_istore dX3_creaks_40 rfl ?_
    refine wp_aload_n dX3_creaks_42 rfl ?_
    refine wp_getR dX3_creaks_43 gfa_X3_17_3 rfl hL1.k0 hL1.r0 ?_
    refine wp_iload_n dX3_creaks_46 rfl ?_
    refine wp_aald dX3_creaks_47 hL1.k1 rfl i rfl (by omega) (by omega) (hL1.rP (by omega)) ?_
    refine wp_bipush dX3_creaks_48 99 rfl ?_
    refine wp_aload_n dX3_creaks_50 rfl ?_
    refine wp_getR dX3_creaks_51 gfa_X3_17_3 rfl hL1.k0 hL1.r0 ?_
    refine wp_iload_n dX3_creaks_54 rfl ?_
    refine wp_aald dX3_creaks_55 hL1.k1 rfl i rfl (by omega) (by omega) (hL1.rP (by omega)) ?_
    refine wp_getI dX3_creaks_56 gfa_X3_89_4 rfl (hL1.kP (by omega)) ?_
    refine wp_iload dX3_creaks_59 rfl ?_
    refine wp_if_eq dX3_creaks_61 68 (by decide) (fun c61 => ?_) (fun c61 => ?_)
    · refine wp_iconst dX3_creaks_68 0 rfl ?_
      exact at70 _ (by first | (rw [bI_0.mp c61]; rfl) | (rw [bI_1.mp c61]; rfl))
    · refine wp_iconst dX3_creaks_64 1 rfl ?_
      refine wp_goto dX3_creaks_65 69 (by decide) ?_
      exact at70 _ (by first | (rw [bI_0.mp c61]; rfl) | (rw [bI_1.mp c61]; rfl))
  refine wp_aload_n dX3_creaks_0 rfl ?_
  refine wp_iload_n dX3_creaks_1 rfl ?_
  refine wp_iload_n dX3_creaks_2 rfl ?_
  refine wp_cI (gcV dX3_creaks_3 gva_X3_68_3 (ct_slackL _ _ hL) hL.k0 rfl rfl (by omega) (by omega) (by omega) (Nat.le_of_ble_eq_true rfl) rfl) ?_
  refine wp_istore_n dX3_creaks_6 rfl ?_
  refine wp_aload_n dX3_creaks_7 rfl ?_
  refine wp_cIx (gcV dX3_creaks_8 gva_X3_136_3 (ct_draw hL) hL.k0 rfl rfl (by omega) (by omega) (by omega) (Nat.le_of_ble_eq_true rfl) rfl) (fun y τ hy => ?_)
  obtain ⟨rfl, hP⟩ := hy
  have hL1 := hP.L hL
  have hS1 := hP.S hL ha hS
  refine wp_aload_n dX3_creaks_11 rfl ?_
  refine wp_getR dX3_creaks_12 gfa_X3_3_3 rfl hL1.k0 hL1.r7 ?_
  refine wp_getR dX3_creaks_15 gfa_X3_73_0 rfl hS1.1.k0 hS1.1.r0 ?_
  refine wp_aload_n dX3_creaks_18 rfl ?_
  refine wp_iload_n dX3_creaks_19 rfl ?_
  refine wp_iload_n dX3_creaks_20 rfl ?_
  refine wp_iload_n dX3_creaks_21 rfl ?_
  refine wp_cR (gcV dX3_creaks_22 gva_X3_77_2 (ct_of _ _ _ hS1.1.k1) hS1.1.k1 rfl rfl (by omega) (by omega) (by omega) (Nat.le_of_ble_eq_true rfl) rfl) ?_
  refine wp_bipush dX3_creaks_25 99 rfl ?_
  refine wp_bipush dX3_creaks_27 10 rfl ?_
  refine wp_cIx (gcV dX3_creaks_29 gva_X3_83_2 (ct_tellsM 99 10 (ofx hL1 hS1.1.k1 hi' hj) (hS1.fr ofS_fr isM_law)) hS1.1.k1 rfl rfl (by omega) (by omega) (by omega) (Nat.le_of_ble_eq_true rfl) rfl) (fun y ρ hy => ?_)
  obtain ⟨rfl, hf2⟩ := hy
  have eG := (LG_fr (ofS_fr (σ := τ) (b := b) (a := a) (i := nI i) (j := nI j) (s := slackL (LG σ a) (nI i) (nI j))) (isM_land hL1.ge)).trans hP.2
  have hP2 := (hP.of ofS_fr hL).of hf2 hL
  have hL2 := hP2.L hL
  have hS2 := hP2.S hL ha hS
  rw [show LG (ofS τ b a (nI i) (nI j) (slackL (LG σ a) (nI i) (nI j))) a = drawG (LG σ a) from eG]
  refine wp_icmp_ge dX3_creaks_32 39 (by decide) (fun c32 => ?_) (fun c32 => ?_)
  · refine wp_iconst dX3_creaks_39 0 rfl ?_
    refine at42 ρ _ ?_ hP2
    rw [creakW]
    first | (rw [decide_eq_false (by rw [Int32.not_lt]; exact c32)]; rfl) | (rw [decide_eq_true (by rw [← Int32.not_le]; exact c32)]; rfl)
  · refine wp_iconst dX3_creaks_35 1 rfl ?_
    refine wp_goto dX3_creaks_36 40 (by decide) ?_
    refine at42 ρ _ ?_ hP2
    rw [creakW]
    first | (rw [decide_eq_false (by rw [Int32.not_lt]; exact c32)]; rfl) | (rw [decide_eq_true (by rw [← Int32.not_le]; exact c32)]; rfl)
end
