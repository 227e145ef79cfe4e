set_option maxRecDepth 100000
def holdTo (G : Gd) (i x : Int32) : Nat → Gd
  | 0 => G
  | n + 1 => if G 12 n = i then gset (holdTo G i x n) 12 n x else holdTo G i x n
def diesG1 (G : Gd) (i : Nat) : Gd := holdTo (gset G 9 i 1) (nI i) (G 3 i) 12
def diesG (G : Gd) (i : Nat) : Gd := if G 3 i = -1 then diesG1 G i else partG (diesG1 G i) i (ix (G 3 i))
theorem holdTo_ge {G : Gd} {i x : Int32} {f k : Nat} : ∀ n, f ≠ 12 ∨ n ≤ k → holdTo G i x n f k = G f k
  | 0, _ => rfl
  | n + 1, h => by
    rw [holdTo]
    split
    · rw [gset_ne (by omega), holdTo_ge n (by omega)]
    · exact holdTo_ge n (by omega)
def cplN (G : Gd) : Nat → Int32
  | 0 => 0
  | n + 1 => cplN G n + bI (crkB G n)
theorem nI_nm1 {n : Nat} (h : n < 2147483648) : ¬ nI n = -1 := by
  intro e
  have h1 := nI_toInt h
  rw [e] at h1
  have h2 : (-1 : Int32).toInt = -1 := by decide
  omega
section
variable {Γ : Gm} {σ : St} {b a hi : Nat} {Lw : Lws}
theorem ct_couples (hL : LK b a σ) : Ct Γ 1 0 0 m_X3_couples [.ref a] σ (fun v τ => v = some (.int (cplN (LG σ a) 12)) ∧ τ = σ) := by
  refine Ct.ofWP pf_X3_couples rfl rfl ?_
  have loop : ∀ Q : Option Value → St → Prop, Q (some (.int (cplN (LG σ a) 12))) σ → ∀ n k, k ≤ 12 → 12 - k < n → WP Γ m_X3_couples 1 0 0 4 [some (.ref a), some (.int (cplN (LG σ a) k)), some (.int (nI k))] [] σ Q := by
    intro Q hQ n
    induction n with
    | zero => intro k h1 h2; omega
    | succ n ih =>
      intro k h1 h2
      refine wp_iload_n dX3_couples_4 rfl ?_
      refine wp_bipush dX3_couples_5 12 rfl ?_
      refine wp_icmp_geN dX3_couples_7 49 (by decide) k 12 rfl rfl (by omega) (by omega) (fun c7 => ?_) (fun c7 => ?_)
      · refine wp_iload_n dX3_couples_49 rfl ?_
        refine wp_iret dX3_couples_50 rfl ?_
        obtain rfl : k = 12 := by omega
        exact hQ
      · refine wp_iload_n dX3_couples_10 rfl ?_
        refine wp_aload_n dX3_couples_11 rfl ?_
        refine wp_getR dX3_couples_12 gfa_X3_17_3 rfl hL.k0 hL.r0 ?_
        refine wp_iload_n dX3_couples_15 rfl ?_
        refine wp_aald dX3_couples_16 hL.k1 rfl k rfl (by omega) (by omega) (hL.rP (by omega)) ?_
        refine wp_cI (gcV dX3_couples_17 gva_X3_50_4 (ct_livesL hL (by omega)) (hL.kP (by omega)) rfl rfl (by omega) (by omega) (by omega) (Nat.le_of_ble_eq_true rfl) rfl) ?_
        refine wp_if_eq dX3_couples_20 40 (by decide) (fun c20 => ?_) (fun c20 => ?_)
        · refine wp_iconst dX3_couples_40 0 rfl ?_
          refine wp_iadd dX3_couples_41 ?_
          refine wp_istore_n dX3_couples_42 rfl ?_
          refine wp_iinc dX3_couples_43 rfl rfl (nI (k + 1)) (nI_add k 1) ?_
          refine wp_goto dX3_couples_46 4 (by decide) ?_
          refine WP.cast ?_ (ih (k + 1) (by omega) (by omega))
          simp only [cplN]
          first | (rw [show crkB (LG σ a) k = false by rw [crkB, bI_0.mp c20]; rfl]; rfl) | (rw [show crkB (LG σ a) k = false by rw [crkB, decide_eq_false (by rw [Int32.not_lt]; exact c33)]; simp]; rfl) | (rw [show crkB (LG σ a) k = true by rw [crkB, bI_1.mp c20, decide_eq_true (by rw [← Int32.not_le]; exact c33)]; rfl]; rfl)
        · refine wp_aload_n dX3_couples_23 rfl ?_
          refine wp_getR dX3_couples_24 gfa_X3_17_3 rfl hL.k0 hL.r0 ?_
          refine wp_iload_n dX3_couples_27 rfl ?_
          refine wp_aald dX3_couples_28 hL.k1 rfl k rfl (by omega) (by omega) (hL.rP (by omega)) ?_
          refine wp_getI dX3_couples_29 gfa_X3_86_4 rfl (hL.kP (by omega)) ?_
          rw [LG_p 3 (by omega) (by omega)]
          refine wp_iload_n dX3_couples_32 rfl ?_
          refine wp_icmp_le dX3_couples_33 40 (by decide) (fun c33 => ?_) (fun c33 => ?_)
          · refine wp_iconst dX3_couples_40 0 rfl ?_
            refine wp_iadd dX3_couples_41 ?_
            refine wp_istore_n dX3_couples_42 rfl ?_
            refine wp_iinc dX3_couples_43 rfl rfl (nI (k + 1)) (nI_add k 1) ?_
            refine wp_goto dX3_couples_46 4 (by decide) ?_
            refine WP.cast ?_ (ih (k + 1) (by omega) (by omega))
            simp only [cplN]
            first | (rw [show crkB (LG σ a) k = false by rw [crkB, bI_0.mp c20]; rfl]; rfl) | (rw [show crkB (LG σ a) k = false by rw [crkB, decide_eq_false (by rw [Int32.not_lt]; exact c33)]; simp]; rfl) | (rw [show crkB (LG σ a) k = true by rw [crkB, bI_1.mp c20, decide_eq_true (by rw [← Int32.not_le]; exact c33)]; rfl]; rfl)
          · refine wp_iconst dX3_couples_36 1 rfl ?_
            refine wp_goto dX3_couples_37 41 (by decide) ?_
            refine wp_iadd dX3_couples_41 ?_
            refine wp_istore_n dX3_couples_42 rfl ?_
            refine wp_iinc dX3_couples_43 rfl rfl (nI (k + 1)) (nI_add k 1) ?_
            refine wp_goto dX3_couples_46 4 (by decide) ?_
            refine WP.cast ?_ (ih (k + 1) (by omega) (by omega))
            simp only [cplN]
            first | (rw [show crkB (LG σ a) k = false by rw [crkB, bI_0.mp c20]; rfl]; rfl) | (rw [show crkB (LG σ a) k = false by rw [crkB, decide_eq_false (by rw [Int32.not_lt]; exact c33)]; simp]; rfl) | (rw [show crkB (LG σ a) k = true by rw [crkB, bI_1.mp c20, decide_eq_true (by rw [← Int32.not_le]; exact c33)]; rfl]; rfl)
  refine wp_iconst dX3_couples_0 0 rfl ?_
  refine wp_istore_n dX3_couples_1 rfl ?_
  refine wp_iconst dX3_couples_2 0 rfl ?_
  refine wp_istore_n dX3_couples_3 rfl ?_
  exact loop _ ⟨rfl, rfl⟩ 13 0 (by omega) (by omega)
theorem ct_diesL {i : Nat} (hi : i < 12) (hL : LK b a σ) (hG : GI3 (LG σ a) i) : Ct Γ 1 0 0 m_X3_dies [.ref a, .int (nI i)] σ (fun v τ => v = none ∧ LPo b a σ (diesG (LG σ a) i) τ) := by
  refine Ct.ofWP pf_X3_dies rfl rfl ?_
  have loop : ∀ (Q : Option Value → St → Prop) (n k : Nat) (ρ : St) (o6 : Option Value), k ≤ 12 → 12 - k < n → LPo b a σ (holdTo (gset (LG σ a) 9 i 1) (nI i) (LG σ a 3 i) k) ρ → (∀ ρ o5 o6, LPo b a σ (diesG1 (LG σ a) i) ρ → WP Γ m_X3_dies 1 0 0 66 [some (.ref a), some (.int (nI i)), some (.int (LG σ a 3 i)), some (.ref (a + 2)), some (.int (nI 12)), o5, o6] [] ρ Q) → WP Γ m_X3_dies 1 0 0 32 [some (.ref a), some (.int (nI i)), some (.int (LG σ a 3 i)), some (.ref (a + 2)), some (.int (nI 12)), some (.int (nI k)), o6] [] ρ Q := by
    intro Q n
    induction n with
    | zero => intro k ρ o6 h1 h2; omega
    | succ n ih =>
      intro k ρ o6 h1 h2 hP hQ
      have hL1 := hP.L hL
      refine wp_iload dX3_dies_32 rfl ?_
      refine wp_iload dX3_dies_34 rfl ?_
      refine wp_icmp_geN dX3_dies_36 66 (by decide) k 12 rfl rfl (by omega) (by omega) (fun c36 => ?_) (fun c36 => ?_)
      · obtain rfl : k = 12 := by omega
        exact hQ _ _ _ hP
      · refine wp_aload_n dX3_dies_39 rfl ?_
        refine wp_iload dX3_dies_40 rfl ?_
        refine wp_aald dX3_dies_42 hL1.k2 rfl k rfl (by omega) (by omega) (hL1.rE (by omega)) ?_
        refine wp_astore dX3_dies_43 rfl ?_
        refine wp_aload dX3_dies_45 rfl ?_
        refine wp_getI dX3_dies_47 gfa_X3_29_5 rfl (hL1.kE (by omega)) ?_
        rw [hP.e2 (by omega), holdTo_ge k (Or.inr (Nat.le_refl k)), gset_ne (by omega)]
        refine wp_iload_n dX3_dies_50 rfl ?_
        refine wp_icmp_ne dX3_dies_51 60 (by decide) (fun c51 => ?_) (fun c51 => ?_)
        · refine wp_iinc dX3_dies_60 rfl rfl (nI (k + 1)) (nI_add k 1) ?_
          refine wp_goto dX3_dies_63 32 (by decide) ?_
          refine ih (k + 1) _ _ (by omega) (by omega) ?_ hQ
          rw [holdTo, gset_ne (by omega)]
          first | (rw [if_pos c51]; exact hP.sete (by omega) (by omega)) | (rw [if_neg c51]; exact hP)
        · refine wp_aload dX3_dies_54 rfl ?_
          refine wp_iload_n dX3_dies_56 rfl ?_
          refine wp_putI dX3_dies_57 gfa_X3_29_5 (Or.inl rfl) rfl ⟨rfl, rfl⟩ (hL1.kE (by omega)) ?_
          refine wp_iinc dX3_dies_60 rfl rfl (nI (k + 1)) (nI_add k 1) ?_
          refine wp_goto dX3_dies_63 32 (by decide) ?_
          refine ih (k + 1) _ _ (by omega) (by omega) ?_ hQ
          rw [holdTo, gset_ne (by omega)]
          first | (rw [if_pos c51]; exact hP.sete (by omega) (by omega)) | (rw [if_neg c51]; exact hP)
  have at66 : ∀ ρ o5 o6, LPo b a σ (diesG1 (LG σ a) i) ρ → WP Γ m_X3_dies 1 0 0 66 [some (.ref a), some (.int (nI i)), some (.int (LG σ a 3 i)), some (.ref (a + 2)), some (.int (nI 12)), o5, o6] [] ρ (fun v τ => v = none ∧ LPo b a σ (diesG (LG σ a) i) τ) := by
    intro ρ o5 o6 hP
    have hL1 := hP.L hL
    rcases hG with hG | ⟨j, hj, hG⟩
    · skip
      refine wp_iload_n dX3_dies_66 rfl ?_
      refine wp_iconst dX3_dies_67 (-1) rfl ?_
      refine wp_icmp_eq dX3_dies_68 77 (by decide) (fun c68 => ?_) (fun c68 => absurd hG c68)
      refine wp_vret dX3_dies_77 rfl ?_
      refine ⟨rfl, ?_⟩
      rw [diesG, if_pos hG]
      exact hP
    · rw [hG]
      refine wp_iload_n dX3_dies_66 rfl ?_
      refine wp_iconst dX3_dies_67 (-1) rfl ?_
      refine wp_icmp_eq dX3_dies_68 77 (by decide) (fun c68 => absurd c68 (nI_nm1 (by omega))) (fun c68 => ?_)
      refine wp_aload_n dX3_dies_71 rfl ?_
      refine wp_iload_n dX3_dies_72 rfl ?_
      refine wp_iload_n dX3_dies_73 rfl ?_
      refine wp_cVx (gcV dX3_dies_74 gva_X3_140_3 (ct_part hi hj hL1) hL1.k0 rfl rfl (by omega) (by omega) (by omega) (Nat.le_of_ble_eq_true rfl) rfl) (fun τ hP1 => ?_)
      refine wp_vret dX3_dies_77 rfl ?_
      refine ⟨rfl, ?_⟩
      rw [diesG, if_neg (by rw [hG]; exact nI_nm1 (by omega)), hG, ix_nI (by omega)]
      rw [hP.2] at hP1
      exact hP.trans hP1
  refine wp_aload_n dX3_dies_0 rfl ?_
  refine wp_getR dX3_dies_1 gfa_X3_17_3 rfl hL.k0 hL.r0 ?_
  refine wp_iload_n dX3_dies_4 rfl ?_
  refine wp_aald dX3_dies_5 hL.k1 rfl i rfl (by omega) (by omega) (hL.rP (by omega)) ?_
  refine wp_getI dX3_dies_6 gfa_X3_86_4 rfl (hL.kP (by omega)) ?_
  rw [LG_p 3 (by omega) hi]
  refine wp_istore_n dX3_dies_9 rfl ?_
  refine wp_aload_n dX3_dies_10 rfl ?_
  refine wp_getR dX3_dies_11 gfa_X3_17_3 rfl hL.k0 hL.r0 ?_
  refine wp_iload_n dX3_dies_14 rfl ?_
  refine wp_aald dX3_dies_15 hL.k1 rfl i rfl (by omega) (by omega) (hL.rP (by omega)) ?_
  refine wp_iconst dX3_dies_16 1 rfl ?_
  refine wp_putI dX3_dies_17 gfa_X3_157_4 (Or.inl rfl) rfl ⟨rfl, rfl⟩ (hL.kP (by omega)) ?_
  refine wp_aload_n dX3_dies_20 rfl ?_
  refine wp_getR dX3_dies_21 gfa_X3_23_3 rfl hL.k0 hL.r1 ?_
  refine wp_astore_n dX3_dies_24 rfl ?_
  refine wp_aload_n dX3_dies_25 rfl ?_
  refine wp_alen dX3_dies_26 hL.k2 rfl ?_
  refine wp_istore dX3_dies_27 rfl ?_
  refine wp_iconst dX3_dies_29 0 rfl ?_
  refine wp_istore dX3_dies_30 rfl ?_
  refine loop _ 13 0 _ _ (by omega) (by omega) (LPo.rf.setp (by omega) hi) at66
end
