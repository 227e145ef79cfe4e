set_option maxRecDepth 100000
theorem wed_gt {G : Gd} {k : Nat} (hg : GI3 G k) (hlt : nI k < G 3 k) (hk : k < 12) : ∃ j, j < 12 ∧ G 3 k = nI j := by
  rcases hg with hg | hg
  · rw [hg, Int32.lt_iff_toInt_lt, nI_toInt (by omega), show (-1 : Int32).toInt = -1 by decide] at hlt
    omega
  · exact hg
section
variable {Γ : Gm} {σ : St} {b a hi : Nat} {Lw : Lws}
theorem ct_dayGoes (hL : LK b a σ) (ha : a + 51 ≤ b + 156) (hS : Sy b hi Lw σ) (hG : GI (LG σ a)) : Ct Γ 54 0 0 m_X3_dayGoes [.ref a] σ (fun v τ => v = none ∧ LPo b a σ (dayG Lw (LG σ a)) τ) := by
  refine Ct.ofWP pf_X3_dayGoes rfl rfl ?_
  have creaks : ∀ (n k : Nat) (ρ : St) (o2 o3 o4 : Option Value), k ≤ 12 → 12 - k < n → LPo b a σ (creakN Lw (townN Lw (travN (LG σ a) 12) 6) k) ρ → WP Γ m_X3_dayGoes 54 0 0 105 [some (.ref a), some (.int (nI k)), o2, o3, o4] [] ρ (fun v τ => v = none ∧ LPo b a σ (dayG Lw (LG σ a)) τ) := by
    intro n
    induction n with
    | zero => intro k ρ o2 o3 o4 h1 h2; omega
    | succ n ih =>
      intro k ρ o2 o3 o4 h1 h2 hP
      have hL1 := hP.L hL
      have hS1 := hP.S hL ha hS
      have hG1 : GI (creakN Lw (townN Lw (travN (LG σ a) 12) 6) k) := ((hG.tvN 12).twN 6).ckN k
      refine wp_iload_n dX3_dayGoes_105 rfl ?_
      refine wp_bipush dX3_dayGoes_106 12 rfl ?_
      refine wp_icmp_geN dX3_dayGoes_108 156 (by decide) k 12 rfl rfl (by omega) (by omega) (fun c108 => ?_) (fun c108 => ?_)
      · obtain rfl : k = 12 := by omega
        refine wp_aload_n dX3_dayGoes_156 rfl ?_
        refine wp_dup dX3_dayGoes_157 rfl ?_
        refine wp_getI dX3_dayGoes_158 gfa_X3_40_3 rfl hL1.k0 ?_
        rw [hP.s (by omega)]
        refine wp_iconst dX3_dayGoes_161 1 rfl ?_
        refine wp_iadd dX3_dayGoes_162 ?_
        refine wp_putI dX3_dayGoes_163 gfa_X3_40_3 (Or.inl rfl) rfl ⟨rfl, rfl⟩ hL1.k0 ?_
        refine wp_vret dX3_dayGoes_166 rfl ?_
        exact ⟨rfl, hP.sets (by omega)⟩
      · refine wp_aload_n dX3_dayGoes_111 rfl ?_
        refine wp_getR dX3_dayGoes_112 gfa_X3_17_3 rfl hL1.k0 hL1.r0 ?_
        refine wp_iload_n dX3_dayGoes_115 rfl ?_
        refine wp_aald dX3_dayGoes_116 hL1.k1 rfl k rfl (by omega) (by omega) (hL1.rP (by omega)) ?_
        refine wp_cI (gcV dX3_dayGoes_117 gva_X3_50_4 (ct_livesL hL1 (by omega)) (hL1.kP (by omega)) rfl rfl (by omega) (by omega) (by omega) (Nat.le_of_ble_eq_true rfl) rfl) ?_
        rw [hP.2]
        refine wp_if_eq dX3_dayGoes_120 150 (by decide) (fun c120 => ?_) (fun c120 => ?_)
        · refine wp_iinc dX3_dayGoes_150 rfl rfl (nI (k + 1)) (nI_add k 1) ?_
          refine wp_goto dX3_dayGoes_153 105 (by decide) ?_
          refine ih (k + 1) _ _ _ _ (by omega) (by omega) ?_
          rw [creakN]
          first | (rw [if_pos hb, ej, ix_nI (by omega)]; exact hP1) | (rw [if_neg (by rw [crkB, bI_0.mp c120]; simp)]; exact hP) | (rw [if_neg (by rw [crkB, decide_eq_false (by rw [Int32.not_lt]; exact c133)]; simp)]; exact hP)
        · refine wp_aload_n dX3_dayGoes_123 rfl ?_
          refine wp_getR dX3_dayGoes_124 gfa_X3_17_3 rfl hL1.k0 hL1.r0 ?_
          refine wp_iload_n dX3_dayGoes_127 rfl ?_
          refine wp_aald dX3_dayGoes_128 hL1.k1 rfl k rfl (by omega) (by omega) (hL1.rP (by omega)) ?_
          refine wp_getI dX3_dayGoes_129 gfa_X3_86_4 rfl (hL1.kP (by omega)) ?_
          rw [hP.p 3 (by omega) (by omega)]
          refine wp_iload_n dX3_dayGoes_132 rfl ?_
          refine wp_icmp_le dX3_dayGoes_133 150 (by decide) (fun c133 => ?_) (fun c133 => ?_)
          · refine wp_iinc dX3_dayGoes_150 rfl rfl (nI (k + 1)) (nI_add k 1) ?_
            refine wp_goto dX3_dayGoes_153 105 (by decide) ?_
            refine ih (k + 1) _ _ _ _ (by omega) (by omega) ?_
            rw [creakN]
            first | (rw [if_pos hb, ej, ix_nI (by omega)]; exact hP1) | (rw [if_neg (by rw [crkB, bI_0.mp c120]; simp)]; exact hP) | (rw [if_neg (by rw [crkB, decide_eq_false (by rw [Int32.not_lt]; exact c133)]; simp)]; exact hP)
          · have hg := (hG1 k (by omega)).2
            have hlt : nI k < creakN Lw (townN Lw (travN (LG σ a) 12) 6) k 3 k := by rw [← Int32.not_le]; exact c133
            have hb : crkB (creakN Lw (townN Lw (travN (LG σ a) 12) 6) k) k = true := by rw [crkB, bI_1.mp c120, decide_eq_true hlt]; rfl
            obtain ⟨j, hj, ej⟩ := wed_gt hg hlt (by omega)
            refine wp_aload_n dX3_dayGoes_136 rfl ?_
            refine wp_iload_n dX3_dayGoes_137 rfl ?_
            refine wp_aload_n dX3_dayGoes_138 rfl ?_
            refine wp_getR dX3_dayGoes_139 gfa_X3_17_3 rfl hL1.k0 hL1.r0 ?_
            refine wp_iload_n dX3_dayGoes_142 rfl ?_
            refine wp_aald dX3_dayGoes_143 hL1.k1 rfl k rfl (by omega) (by omega) (hL1.rP (by omega)) ?_
            refine wp_getI dX3_dayGoes_144 gfa_X3_86_4 rfl (hL1.kP (by omega)) ?_
            rw [hP.p 3 (by omega) (by omega), ej]
            refine wp_cVx (gcV dX3_dayGoes_147 gva_X3_152_3 (ct_creaks (by omega) hj hL1 ha hS1) hL1.k0 rfl rfl (by omega) (by omega) (by omega) (Nat.le_of_ble_eq_true rfl) rfl) (fun τ hP1 => ?_)
            rw [hP.2] at hP1
            replace hP1 := hP.trans hP1
            refine wp_iinc dX3_dayGoes_150 rfl rfl (nI (k + 1)) (nI_add k 1) ?_
            refine wp_goto dX3_dayGoes_153 105 (by decide) ?_
            refine ih (k + 1) _ _ _ _ (by omega) (by omega) ?_
            rw [creakN]
            first | (rw [if_pos hb, ej, ix_nI (by omega)]; exact hP1) | (rw [if_neg (by rw [crkB, bI_0.mp c120]; simp)]; exact hP) | (rw [if_neg (by rw [crkB, decide_eq_false (by rw [Int32.not_lt]; exact c133)]; simp)]; exact hP)
  have meets : ∀ (t : Nat) (Q : Option Value → St → Prop), t < 6 → (∀ ρ o2 o3 o4, LPo b a σ (townN Lw (travN (LG σ a) 12) (t + 1)) ρ → WP Γ m_X3_dayGoes 54 0 0 97 [some (.ref a), some (.int (nI t)), o2, o3, o4] [] ρ Q) → ∀ (n k : Nat) (ρ : St) (o3 o4 : Option Value), k ≤ 12 → 12 - k < n → LPo b a σ (meetN Lw (townN Lw (travN (LG σ a) 12) t) (nI t) k) ρ → WP Γ m_X3_dayGoes 54 0 0 42 [some (.ref a), some (.int (nI t)), some (.int (nI k)), o3, o4] [] ρ Q := by
    intro t Q ht hX n
    induction n with
    | zero => intro k ρ o3 o4 h1 h2; omega
    | succ n ih =>
      intro k ρ o3 o4 h1 h2 hP
      have hL1 := hP.L hL
      have hS1 := hP.S hL ha hS
      refine wp_iload_n dX3_dayGoes_42 rfl ?_
      refine wp_bipush dX3_dayGoes_43 12 rfl ?_
      refine wp_icmp_geN dX3_dayGoes_45 97 (by decide) k 12 rfl rfl (by omega) (by omega) (fun c45 => ?_) (fun c45 => ?_)
      · obtain rfl : k = 12 := by omega
        exact hX _ _ _ _ hP
      · refine wp_aload_n dX3_dayGoes_48 rfl ?_
        refine wp_getR dX3_dayGoes_49 gfa_X3_17_3 rfl hL1.k0 hL1.r0 ?_
        refine wp_iload_n dX3_dayGoes_52 rfl ?_
        refine wp_aald dX3_dayGoes_53 hL1.k1 rfl k rfl (by omega) (by omega) (hL1.rP (by omega)) ?_
        refine wp_cI (gcV dX3_dayGoes_54 gva_X3_115_4 (ct_isFreeL hL1 (by omega)) (hL1.kP (by omega)) rfl rfl (by omega) (by omega) (by omega) (Nat.le_of_ble_eq_true rfl) rfl) ?_
        rw [hP.2]
        refine wp_if_eq dX3_dayGoes_57 91 (by decide) (fun c57 => ?_) (fun c57 => ?_)
        · refine wp_iinc dX3_dayGoes_91 rfl rfl (nI (k + 1)) (nI_add k 1) ?_
          refine wp_goto dX3_dayGoes_94 42 (by decide) ?_
          refine ih (k + 1) _ _ _ (by omega) (by omega) ?_
          rw [meetN]
          first | (rw [if_pos (by rw [meetB, bI_1.mp c57, c69, c82]; simp)]; exact hP1) | (rw [if_neg (by rw [meetB, bI_0.mp c57]; simp)]; exact hP) | (rw [if_neg (by rw [meetB, decide_eq_false c69]; simp)]; exact hP) | (rw [if_neg (by rw [meetB, decide_eq_false c82]; simp)]; exact hP)
        · refine wp_aload_n dX3_dayGoes_60 rfl ?_
          refine wp_getR dX3_dayGoes_61 gfa_X3_17_3 rfl hL1.k0 hL1.r0 ?_
          refine wp_iload_n dX3_dayGoes_64 rfl ?_
          refine wp_aald dX3_dayGoes_65 hL1.k1 rfl k rfl (by omega) (by omega) (hL1.rP (by omega)) ?_
          refine wp_getI dX3_dayGoes_66 gfa_X3_65_4 rfl (hL1.kP (by omega)) ?_
          rw [hP.p 1 (by omega) (by omega)]
          refine wp_if_ne dX3_dayGoes_69 91 (by decide) (fun c69 => ?_) (fun c69 => ?_)
          · refine wp_iinc dX3_dayGoes_91 rfl rfl (nI (k + 1)) (nI_add k 1) ?_
            refine wp_goto dX3_dayGoes_94 42 (by decide) ?_
            refine ih (k + 1) _ _ _ (by omega) (by omega) ?_
            rw [meetN]
            first | (rw [if_pos (by rw [meetB, bI_1.mp c57, c69, c82]; simp)]; exact hP1) | (rw [if_neg (by rw [meetB, bI_0.mp c57]; simp)]; exact hP) | (rw [if_neg (by rw [meetB, decide_eq_false c69]; simp)]; exact hP) | (rw [if_neg (by rw [meetB, decide_eq_false c82]; simp)]; exact hP)
          · refine wp_aload_n dX3_dayGoes_72 rfl ?_
            refine wp_getR dX3_dayGoes_73 gfa_X3_17_3 rfl hL1.k0 hL1.r0 ?_
            refine wp_iload_n dX3_dayGoes_76 rfl ?_
            refine wp_aald dX3_dayGoes_77 hL1.k1 rfl k rfl (by omega) (by omega) (hL1.rP (by omega)) ?_
            refine wp_getI dX3_dayGoes_78 gfa_X3_128_4 rfl (hL1.kP (by omega)) ?_
            rw [hP.p 2 (by omega) (by omega)]
            refine wp_iload_n dX3_dayGoes_81 rfl ?_
            refine wp_icmp_ne dX3_dayGoes_82 91 (by decide) (fun c82 => ?_) (fun c82 => ?_)
            · refine wp_iinc dX3_dayGoes_91 rfl rfl (nI (k + 1)) (nI_add k 1) ?_
              refine wp_goto dX3_dayGoes_94 42 (by decide) ?_
              refine ih (k + 1) _ _ _ (by omega) (by omega) ?_
              rw [meetN]
              first | (rw [if_pos (by rw [meetB, bI_1.mp c57, c69, c82]; simp)]; exact hP1) | (rw [if_neg (by rw [meetB, bI_0.mp c57]; simp)]; exact hP) | (rw [if_neg (by rw [meetB, decide_eq_false c69]; simp)]; exact hP) | (rw [if_neg (by rw [meetB, decide_eq_false c82]; simp)]; exact hP)
            · refine wp_aload_n dX3_dayGoes_85 rfl ?_
              refine wp_iload_n dX3_dayGoes_86 rfl ?_
              refine wp_iload_n dX3_dayGoes_87 rfl ?_
              refine wp_cVx (gcV dX3_dayGoes_88 gva_X3_149_3 (ct_meets _ (by omega) hL1 ha hS1) hL1.k0 rfl rfl (by omega) (by omega) (by omega) (Nat.le_of_ble_eq_true rfl) rfl) (fun τ hP1 => ?_)
              rw [hP.2] at hP1
              replace hP1 := hP.trans hP1
              refine wp_iinc dX3_dayGoes_91 rfl rfl (nI (k + 1)) (nI_add k 1) ?_
              refine wp_goto dX3_dayGoes_94 42 (by decide) ?_
              refine ih (k + 1) _ _ _ (by omega) (by omega) ?_
              rw [meetN]
              first | (rw [if_pos (by rw [meetB, bI_1.mp c57, c69, c82]; simp)]; exact hP1) | (rw [if_neg (by rw [meetB, bI_0.mp c57]; simp)]; exact hP) | (rw [if_neg (by rw [meetB, decide_eq_false c69]; simp)]; exact hP) | (rw [if_neg (by rw [meetB, decide_eq_false c82]; simp)]; exact hP)
  have towns : ∀ (n t : Nat) (ρ : St) (o2 o3 o4 : Option Value), t ≤ 6 → 6 - t < n → LPo b a σ (townN Lw (travN (LG σ a) 12) t) ρ → WP Γ m_X3_dayGoes 54 0 0 34 [some (.ref a), some (.int (nI t)), o2, o3, o4] [] ρ (fun v τ => v = none ∧ LPo b a σ (dayG Lw (LG σ a)) τ) := by
    intro n
    induction n with
    | zero => intro t ρ o2 o3 o4 h1 h2; omega
    | succ n ih =>
      intro t ρ o2 o3 o4 h1 h2 hP
      have hL1 := hP.L hL
      refine wp_iload_n dX3_dayGoes_34 rfl ?_
      refine wp_bipush dX3_dayGoes_35 6 rfl ?_
      refine wp_icmp_geN dX3_dayGoes_37 103 (by decide) t 6 rfl rfl (by omega) (by omega) (fun c37 => ?_) (fun c37 => ?_)
      · refine wp_iconst dX3_dayGoes_103 0 rfl ?_
        refine wp_istore_n dX3_dayGoes_104 rfl ?_
        obtain rfl : t = 6 := by omega
        exact creaks 13 0 _ _ _ _ (by omega) (by omega) hP
      · refine wp_iconst dX3_dayGoes_40 0 rfl ?_
        refine wp_istore_n dX3_dayGoes_41 rfl ?_
        refine meets t _ (by omega) (fun ρ o2 o3 o4 hP => ?_) 13 0 _ _ _ (by omega) (by omega) hP
        refine wp_iinc dX3_dayGoes_97 rfl rfl (nI (t + 1)) (nI_add t 1) ?_
        refine wp_goto dX3_dayGoes_100 34 (by decide) ?_
        exact ih (t + 1) _ _ _ _ (by omega) (by omega) hP
  have travs : ∀ (n k : Nat) (ρ : St) (o4 : Option Value), k ≤ 12 → 12 - k < n → LPo b a σ (travN (LG σ a) k) ρ → WP Γ m_X3_dayGoes 54 0 0 10 [some (.ref a), some (.ref (a + 1)), some (.int (nI 12)), some (.int (nI k)), o4] [] ρ (fun v τ => v = none ∧ LPo b a σ (dayG Lw (LG σ a)) τ) := by
    intro n
    induction n with
    | zero => intro k ρ o4 h1 h2; omega
    | succ n ih =>
      intro k ρ o4 h1 h2 hP
      have hL1 := hP.L hL
      refine wp_iload_n dX3_dayGoes_10 rfl ?_
      refine wp_iload_n dX3_dayGoes_11 rfl ?_
      refine wp_icmp_geN dX3_dayGoes_12 32 (by decide) k 12 rfl rfl (by omega) (by omega) (fun c12 => ?_) (fun c12 => ?_)
      · refine wp_iconst dX3_dayGoes_32 0 rfl ?_
        refine wp_istore_n dX3_dayGoes_33 rfl ?_
        obtain rfl : k = 12 := by omega
        exact towns 7 0 _ _ _ _ (by omega) (by omega) hP
      · refine wp_aload_n dX3_dayGoes_15 rfl ?_
        refine wp_iload_n dX3_dayGoes_16 rfl ?_
        refine wp_aald dX3_dayGoes_17 hL1.k1 rfl k rfl (by omega) (by omega) (hL1.rP (by omega)) ?_
        refine wp_astore dX3_dayGoes_18 rfl ?_
        refine wp_aload_n dX3_dayGoes_20 rfl ?_
        refine wp_aload dX3_dayGoes_21 rfl ?_
        refine wp_cVx (gcV dX3_dayGoes_23 gva_X3_146_3 (ct_travels (by omega) hL1 (by rw [hP.2]; exact ((hG.tvN k) k (by omega)).1)) hL1.k0 rfl rfl (by omega) (by omega) (by omega) (Nat.le_of_ble_eq_true rfl) rfl) (fun τ hP1 => ?_)
        rw [hP.2] at hP1
        replace hP1 := hP.trans hP1
        refine wp_iinc dX3_dayGoes_26 rfl rfl (nI (k + 1)) (nI_add k 1) ?_
        refine wp_goto dX3_dayGoes_29 10 (by decide) ?_
        exact ih (k + 1) _ _ (by omega) (by omega) hP1
  refine wp_aload_n dX3_dayGoes_0 rfl ?_
  refine wp_getR dX3_dayGoes_1 gfa_X3_17_3 rfl hL.k0 hL.r0 ?_
  refine wp_astore_n dX3_dayGoes_4 rfl ?_
  refine wp_aload_n dX3_dayGoes_5 rfl ?_
  refine wp_alen dX3_dayGoes_6 hL.k1 rfl ?_
  refine wp_istore_n dX3_dayGoes_7 rfl ?_
  refine wp_iconst dX3_dayGoes_8 0 rfl ?_
  refine wp_istore_n dX3_dayGoes_9 rfl ?_
  exact travs 13 0 _ _ (by omega) (by omega) LPo.rf
theorem ct_goes {m : Nat} (hm : m < 1000) (hL : LK b a σ) (ha : a + 51 ≤ b + 156) (hS : Sy b hi Lw σ) (hG : GI (LG σ a)) : Ct Γ 55 0 0 m_X3_goes [.ref a, .int (nI m)] σ (fun v τ => ∃ r, v = some (.ref r) ∧ (r = a ∧ LPo b a σ (goesG Lw (LG σ a) m) τ)) := by
  refine Ct.ofWP pf_X3_goes rfl rfl ?_
  have loop : ∀ (n k : Nat) (ρ : St), k ≤ m → m - k < n → LPo b a σ (goN Lw (zeroG (LG σ a)) k) ρ → WP Γ m_X3_goes 55 0 0 17 [some (.ref a), some (.int (nI m)), some (.int (nI k))] [] ρ (fun v τ => ∃ r, v = some (.ref r) ∧ (r = a ∧ LPo b a σ (goesG Lw (LG σ a) m) τ)) := by
    intro n
    induction n with
    | zero => intro k ρ h1 h2; omega
    | succ n ih =>
      intro k ρ h1 h2 hP
      have hL1 := hP.L hL
      have hS1 := hP.S hL ha hS
      have hG1 := (GI.zero hG).go (Lw := Lw) k
      refine wp_iload_n dX3_goes_17 rfl ?_
      refine wp_iload_n dX3_goes_18 rfl ?_
      refine wp_icmp_geN dX3_goes_19 42 (by decide) k m rfl rfl (by omega) (by omega) (fun c19 => ?_) (fun c19 => ?_)
      · refine wp_aload_n dX3_goes_42 rfl ?_
        refine wp_aret dX3_goes_43 rfl (Or.inl ⟨_, rfl⟩) (Or.inr ⟨_, rfl⟩) ?_
        refine ⟨_, rfl, rfl, ?_⟩
        have e : goN Lw (zeroG (LG σ a)) m = goN Lw (zeroG (LG σ a)) k := by
          first | (rw [show m = k by omega]) | (rw [show m = k + (m - k) by omega]; exact goN_stop (by rw [Int32.not_lt]; exact c29) _)
        rw [goesG, e]
        exact hP
      · refine wp_aload_n dX3_goes_22 rfl ?_
        refine wp_getI dX3_goes_23 gfa_X3_40_3 rfl hL1.k0 ?_
        refine wp_sipush dX3_goes_26 9999 rfl ?_
        rw [hP.s (by omega)]
        refine wp_icmp_ge dX3_goes_29 42 (by decide) (fun c29 => ?_) (fun c29 => ?_)
        · refine wp_aload_n dX3_goes_42 rfl ?_
          refine wp_aret dX3_goes_43 rfl (Or.inl ⟨_, rfl⟩) (Or.inr ⟨_, rfl⟩) ?_
          refine ⟨_, rfl, rfl, ?_⟩
          have e : goN Lw (zeroG (LG σ a)) m = goN Lw (zeroG (LG σ a)) k := by
            first | (rw [show m = k by omega]) | (rw [show m = k + (m - k) by omega]; exact goN_stop (by rw [Int32.not_lt]; exact c29) _)
          rw [goesG, e]
          exact hP
        · refine wp_aload_n dX3_goes_32 rfl ?_
          refine wp_cVx (gcV dX3_goes_33 gva_X3_154_3 (ct_dayGoes hL1 ha hS1 (by rw [hP.2]; exact hG1)) hL1.k0 rfl rfl (by omega) (by omega) (by omega) (Nat.le_of_ble_eq_true rfl) rfl) (fun τ hP1 => ?_)
          rw [hP.2] at hP1
          replace hP1 := hP.trans hP1
          refine wp_iinc dX3_goes_36 rfl rfl (nI (k + 1)) (nI_add k 1) ?_
          refine wp_goto dX3_goes_39 17 (by decide) ?_
          refine ih (k + 1) _ (by omega) (by omega) ?_
          rw [goN, if_pos (by rw [← Int32.not_le]; exact c29)]
          exact hP1
  refine wp_aload_n dX3_goes_0 rfl ?_
  refine wp_iconst dX3_goes_1 0 rfl ?_
  refine wp_putI dX3_goes_2 gfa_X3_107_3 (Or.inl rfl) rfl ⟨rfl, rfl⟩ hL.k0 ?_
  refine wp_aload_n dX3_goes_5 rfl ?_
  refine wp_iconst dX3_goes_6 0 rfl ?_
  refine wp_putI dX3_goes_7 gfa_X3_95_3 (Or.inl rfl) rfl ⟨rfl, rfl⟩ hL.k0 ?_
  refine wp_aload_n dX3_goes_10 rfl ?_
  refine wp_iconst dX3_goes_11 0 rfl ?_
  refine wp_putI dX3_goes_12 gfa_X3_143_3 (Or.inl rfl) rfl ⟨rfl, rfl⟩ hL.k0 ?_
  refine wp_iconst dX3_goes_15 0 rfl ?_
  refine wp_istore_n dX3_goes_16 rfl ?_
  exact loop (m + 1) 0 _ (by omega) (by omega) (((LPo.rf.sets (by omega)).sets (by omega)).sets (by omega))
end
