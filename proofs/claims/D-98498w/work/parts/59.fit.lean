set_option maxRecDepth 100000
def askF (Lw : Lws) (G : Gd) (i j : Nat) (s c most : Int32) : Int32 := heldI (tellsV (momV G i j s) c Lw) most
def allowF (Lw : Lws) (G : Gd) (i j : Nat) : Int32 := if firstB G i j = true then askF Lw G i j 0 102 99 else askF Lw G j i 0 102 99
def fitB (Lw : Lws) (G : Gd) (i j : Nat) : Bool := !decide (slackL G (nI i) (nI j) = -1) && decide (slackL G (nI i) (nI j) ≤ allowF Lw G i j)
def likeF' (Lw : Lws) (G : Gd) (i j : Nat) : Int32 := askF Lw G i j (slackL G (nI i) (nI j)) 108 99
def ofS (σ : St) (b a : Nat) (i j s : Int32) : St := setI (setI (setI (setR σ (b + 1) 1 (some a)) (b + 1) 2 i) (b + 1) 3 j) (b + 1) 4 s
theorem ofS_fr {σ : St} {b a : Nat} {i j s : Int32} : Fr (isM b) b σ (ofS σ b a i j s) := Fr.setI (W := isM b) (Fr.setI (W := isM b) (Fr.setI (W := isM b) (Fr.setM Fr.rf) rfl) rfl) rfl
theorem isM_law {b : Nat} : ∀ c, isM b c → c < b + 156 ∨ (b + 160 ≤ c ∧ c < b + 794) := fun c h => by have h : c = b + 1 := h; omega
theorem isM_land {b a : Nat} (h : b + 2 ≤ a) : ∀ c, isM b c → c < a ∨ a + 51 ≤ c := fun c h => by have h : c = b + 1 := h; omega
section
variable {Γ : Gm} {σ : St} {b a hi : Nat} {Lw : Lws}
theorem ct_of (i j s : Int32) (hm : stK σ (b + 1) = some (2, 0)) : Ct Γ 0 0 0 m_X2_of [.ref (b + 1), .ref a, .int i, .int j, .int s] σ (fun v τ => v = some (.ref (b + 1)) ∧ τ = ofS σ b a i j s) := by
  refine Ct.ofWP pf_X2_of rfl rfl ?_
  refine wp_aload_n dX2_of_0 rfl ?_
  refine wp_aload_n dX2_of_1 rfl ?_
  refine wp_putR dX2_of_2 gfa_X2_13_2 (Or.inl rfl) rfl ⟨rfl, rfl⟩ hm ?_
  refine wp_aload_n dX2_of_5 rfl ?_
  refine wp_iload_n dX2_of_6 rfl ?_
  refine wp_putI dX2_of_7 gfa_X2_17_2 (Or.inl rfl) rfl ⟨rfl, rfl⟩ hm ?_
  refine wp_aload_n dX2_of_10 rfl ?_
  refine wp_iload_n dX2_of_11 rfl ?_
  refine wp_putI dX2_of_12 gfa_X2_21_2 (Or.inl rfl) rfl ⟨rfl, rfl⟩ hm ?_
  refine wp_aload_n dX2_of_15 rfl ?_
  refine wp_iload dX2_of_16 rfl ?_
  refine wp_putI dX2_of_18 gfa_X2_24_2 (Or.inl rfl) rfl ⟨rfl, rfl⟩ hm ?_
  refine wp_aload_n dX2_of_21 rfl ?_
  refine wp_aret dX2_of_22 rfl (Or.inl ⟨_, rfl⟩) (Or.inr ⟨_, rfl⟩) ?_
  exact ⟨rfl, rfl⟩
theorem ct_tellsM {i j : Nat} {s : Int32} (c most : Int32) (hM : MomOK b a i j s σ) (hS : Sy b hi Lw σ) : Ct Γ 48 0 0 m_X2_tells [.ref (b + 1), .int c, .int most] σ (fun v τ => ∃ y, v = some (.int y) ∧ (y = askF Lw (LG σ a) i j s c most ∧ Fr (isM b) b σ τ)) := by
  refine Ct.ofWP pf_X2_tells rfl rfl ?_
  obtain ⟨hC, t, ht, hT⟩ := hS
  refine wp_aload_n dX2_tells_0 rfl ?_
  refine wp_getR dX2_tells_1 gfa_X2_1_2 rfl hC.k1 hC.rM ?_
  refine wp_getR dX2_tells_4 gfa_X2_56_0 rfl hC.k0 ht ?_
  refine wp_iload_n dX2_tells_7 rfl ?_
  refine wp_aload_n dX2_tells_8 rfl ?_
  refine wp_cIx (gcV dX2_tells_9 gva_X2_62_6 (ct_tellsT _ hT hM.val) hT.1 rfl rfl (by omega) (by omega) (by omega) (Nat.le_of_ble_eq_true rfl) rfl) (fun y τ hy => ?_)
  obtain ⟨rfl, x, rfl⟩ := hy
  refine wp_iload_n dX2_tells_12 rfl ?_
  refine wp_cI (gcSN dX2_tells_13 gsa_X2_68 (ct_held _ _) rfl rfl (by omega) (by omega) (by omega) (Nat.le_of_ble_eq_true rfl) rfl) ?_
  refine wp_iret dX2_tells_16 rfl ?_
  exact ⟨_, rfl, rfl, Fr.rf.setI rfl⟩
theorem ct_fit {i j : Nat} (hi' : i < 12) (hj : j < 12) (hL : LK b a σ) (hS : Sy b hi Lw σ) : Ct Γ 50 0 0 m_X3_fit [.ref a, .int (nI i), .int (nI j)] σ (fun v τ => ∃ y, v = some (.int y) ∧ (y = bI (fitB Lw (LG σ a) i j) ∧ Fr (isM b) b σ τ)) := by
  refine Ct.ofWP pf_X3_fit rfl rfl ?_
  have hC := hS.1
  have fin : ∀ (p q : Nat) (d : Option Value), p < 12 → q < 12 → (allowF Lw (LG σ a) i j = askF Lw (LG σ a) p q 0 102 99) → ¬ slackL (LG σ a) (nI i) (nI j) = -1 → WP Γ m_X3_fit 50 0 0 55 [some (.ref a), some (.int (nI i)), some (.int (nI j)), d] [.ref (b + 1), .int (slackL (LG σ a) (nI i) (nI j))] (ofS σ b a (nI p) (nI q) 0) (fun v τ => ∃ y, v = some (.int y) ∧ (y = bI (fitB Lw (LG σ a) i j) ∧ Fr (isM b) b σ τ)) := by
    intro p q d hp hq he hn
    have hM : MomOK b a p q 0 (ofS σ b a (nI p) (nI q) 0) := ofx hL hC.k1 hp hq
    have hS' : Sy b hi Lw (ofS σ b a (nI p) (nI q) 0) := hS.fr ofS_fr isM_law
    have eG : LG (ofS σ b a (nI p) (nI q) 0) a = LG σ a := LG_fr ofS_fr (isM_land hL.ge)
    have hT := ct_tellsM (Γ := Γ) 102 99 hM hS'
    rw [eG, ← he] at hT
    refine wp_bipush dX3_fit_55 102 rfl ?_
    refine wp_bipush dX3_fit_57 99 rfl ?_
    refine wp_cIx (gcV dX3_fit_59 gva_X3_83_2 (hT) hC.k1 rfl rfl (by omega) (by omega) (by omega) (Nat.le_of_ble_eq_true rfl) rfl) (fun y τ hy => ?_)
    obtain ⟨rfl, hf⟩ := hy
    refine wp_icmp_gt dX3_fit_62 69 (by decide) (fun c62 => ?_) (fun c62 => ?_)
    · refine wp_iconst dX3_fit_69 0 rfl ?_
      refine wp_zret dX3_fit_70 rfl (Or.inl rfl) ?_
      exact ⟨_, rfl, by simp [fitB, hn, c62, bI, ← Int32.not_lt], ofS_fr.trans hf⟩
    · refine wp_iconst dX3_fit_65 1 rfl ?_
      refine wp_goto dX3_fit_66 70 (by decide) ?_
      refine wp_zret dX3_fit_70 rfl (Or.inr rfl) ?_
      exact ⟨_, rfl, by simp [fitB, hn, c62, bI, ← Int32.not_lt], ofS_fr.trans hf⟩
  refine wp_aload_n dX3_fit_0 rfl ?_
  refine wp_iload_n dX3_fit_1 rfl ?_
  refine wp_iload_n dX3_fit_2 rfl ?_
  refine wp_cI (gcV dX3_fit_3 gva_X3_68_3 (ct_slackL _ _ hL) hL.k0 rfl rfl (by omega) (by omega) (by omega) (Nat.le_of_ble_eq_true rfl) rfl) ?_
  refine wp_istore_n dX3_fit_6 rfl ?_
  refine wp_iload_n dX3_fit_7 rfl ?_
  refine wp_iconst dX3_fit_8 (-1) rfl ?_
  refine wp_icmp_ne dX3_fit_9 14 (by decide) (fun c9 => ?_) (fun c9 => ?_)
  · refine wp_iload_n dX3_fit_14 rfl ?_
    refine wp_aload_n dX3_fit_15 rfl ?_
    refine wp_iload_n dX3_fit_16 rfl ?_
    refine wp_iload_n dX3_fit_17 rfl ?_
    refine wp_cI (gcV dX3_fit_18 gva_X3_70_3 (ct_isFirst (by omega) (by omega) hL) hL.k0 rfl rfl (by omega) (by omega) (by omega) (Nat.le_of_ble_eq_true rfl) rfl) ?_
    refine wp_if_eq dX3_fit_21 41 (by decide) (fun c21 => ?_) (fun c21 => ?_)
    · refine wp_aload_n dX3_fit_41 rfl ?_
      refine wp_getR dX3_fit_42 gfa_X3_3_3 rfl hL.k0 hL.r7 ?_
      refine wp_getR dX3_fit_45 gfa_X3_73_0 rfl hC.k0 hC.r0 ?_
      refine wp_aload_n dX3_fit_48 rfl ?_
      refine wp_iload_n dX3_fit_49 rfl ?_
      refine wp_iload_n dX3_fit_50 rfl ?_
      refine wp_iconst dX3_fit_51 0 rfl ?_
      refine wp_cR (gcV dX3_fit_52 gva_X3_77_2 (ct_of _ _ _ hC.k1) hC.k1 rfl rfl (by omega) (by omega) (by omega) (Nat.le_of_ble_eq_true rfl) rfl) ?_
      refine fin _ _ _ ?_ ?_ ?_ ?_
      · assumption
      · assumption
      · first | rw [allowF, if_neg (by rw [bI_0.mp c21]; decide)] | rw [allowF, if_pos (bI_1.mp c21)]
      · exact c9
    · refine wp_aload_n dX3_fit_24 rfl ?_
      refine wp_getR dX3_fit_25 gfa_X3_3_3 rfl hL.k0 hL.r7 ?_
      refine wp_getR dX3_fit_28 gfa_X3_73_0 rfl hC.k0 hC.r0 ?_
      refine wp_aload_n dX3_fit_31 rfl ?_
      refine wp_iload_n dX3_fit_32 rfl ?_
      refine wp_iload_n dX3_fit_33 rfl ?_
      refine wp_iconst dX3_fit_34 0 rfl ?_
      refine wp_cR (gcV dX3_fit_35 gva_X3_77_2 (ct_of _ _ _ hC.k1) hC.k1 rfl rfl (by omega) (by omega) (by omega) (Nat.le_of_ble_eq_true rfl) rfl) ?_
      refine wp_goto dX3_fit_38 55 (by decide) ?_
      refine fin _ _ _ ?_ ?_ ?_ ?_
      · assumption
      · assumption
      · first | rw [allowF, if_neg (by rw [bI_0.mp c21]; decide)] | rw [allowF, if_pos (bI_1.mp c21)]
      · exact c9
  · refine wp_iconst dX3_fit_12 0 rfl ?_
    refine wp_zret dX3_fit_13 rfl (Or.inl rfl) ?_
    exact ⟨_, rfl, by rw [fitB, show slackL (LG σ a) (nI i) (nI j) = -1 from by simpa using c9]; rfl, Fr.rf⟩
theorem ct_likes {i j : Nat} (hi' : i < 12) (hj : j < 12) (hL : LK b a σ) (hS : Sy b hi Lw σ) : Ct Γ 50 0 0 m_X3_likes [.ref a, .int (nI i), .int (nI j)] σ (fun v τ => ∃ y, v = some (.int y) ∧ (y = likeF' Lw (LG σ a) i j ∧ Fr (isM b) b σ τ)) := by
  refine Ct.ofWP pf_X3_likes rfl rfl ?_
  have hC := hS.1
  have hM : MomOK b a i j (slackL (LG σ a) (nI i) (nI j)) (ofS σ b a (nI i) (nI j) (slackL (LG σ a) (nI i) (nI j))) := ofx hL hC.k1 hi' hj
  have hS' : Sy b hi Lw (ofS σ b a (nI i) (nI j) (slackL (LG σ a) (nI i) (nI j))) := hS.fr ofS_fr isM_law
  have eG : LG (ofS σ b a (nI i) (nI j) (slackL (LG σ a) (nI i) (nI j))) a = LG σ a := LG_fr ofS_fr (isM_land hL.ge)
  have hT := ct_tellsM (Γ := Γ) 108 99 hM hS'
  rw [eG] at hT
  refine wp_aload_n dX3_likes_0 rfl ?_
  refine wp_getR dX3_likes_1 gfa_X3_3_3 rfl hL.k0 hL.r7 ?_
  refine wp_getR dX3_likes_4 gfa_X3_73_0 rfl hC.k0 hC.r0 ?_
  refine wp_aload_n dX3_likes_7 rfl ?_
  refine wp_iload_n dX3_likes_8 rfl ?_
  refine wp_iload_n dX3_likes_9 rfl ?_
  refine wp_aload_n dX3_likes_10 rfl ?_
  refine wp_iload_n dX3_likes_11 rfl ?_
  refine wp_iload_n dX3_likes_12 rfl ?_
  refine wp_cI (gcV dX3_likes_13 gva_X3_68_3 (ct_slackL _ _ hL) hL.k0 rfl rfl (by omega) (by omega) (by omega) (Nat.le_of_ble_eq_true rfl) rfl) ?_
  refine wp_cR (gcV dX3_likes_16 gva_X3_77_2 (ct_of _ _ _ hC.k1) hC.k1 rfl rfl (by omega) (by omega) (by omega) (Nat.le_of_ble_eq_true rfl) rfl) ?_
  refine wp_bipush dX3_likes_19 108 rfl ?_
  refine wp_bipush dX3_likes_21 99 rfl ?_
  refine wp_cIx (gcV dX3_likes_23 gva_X3_83_2 (hT) hC.k1 rfl rfl (by omega) (by omega) (by omega) (Nat.le_of_ble_eq_true rfl) rfl) (fun y τ hy => ?_)
  obtain ⟨rfl, hf⟩ := hy
  refine wp_iret dX3_likes_26 rfl ?_
  exact ⟨_, rfl, rfl, ofS_fr.trans hf⟩
end
