set_option maxRecDepth 100000
def S00 : Sts := (fun _ => none, fun _ => 0)
def GA2 (b : Nat) (g : Nat → Nat → Int32) (i j : Nat) (ρ : St) : Prop := ∀ i' j', i' < 12 → j' < 12 → (i' < i ∨ i' = i ∧ j' < j) → stI ρ (b + 190 + i') j' = g i' j'
def KZ (b i : Nat) (ρ : St) : Prop := ∀ k, k < i → stI ρ (b + 187) k = -1 ∧ stI ρ (b + 188) k = 0
def askF2 (G : Gd) : Nat → Bool := fun i => askerV G (nI i)
def stbS (Lw : Lws) (G : Gd) : Sts := runS (likeG Lw G) (askF2 G) 145 S00
def stbN (S : Sts) (G : Gd) : Nat → Int32
  | 0 => 0
  | n + 1 => stbN S G n + (if askerV G (nI n) = true ∧ ¬ S.1 n = none then 1 else 0)
def stableV (Lw : Lws) (G : Gd) (w : Int32) : Int32 := if w = 20 then stbN (stbS Lw G) G 12 else if livesV G w = true then orNone (okI ((stbS Lw G).1 (ix w))) else -1
section
variable {Γ : Gm} {σ : St} {b hi : Nat} {Lw : Lws}
theorem stable_run (hC0 : CK b σ) {L : Nat → Nat → Int32} (R : Sts) : ∀ f S ρ o2 o3, offS S.2 12 < f → runS L (fun i => askerV (LG σ (b + 2)) (nI i)) f S = R → KO R ∨ True → Fr (sW b) b σ ρ → LkA b L ρ → SR b S ρ → KO S → WP Γ m_X0_laysStable 52 0 0 126 [some (.ref b), some (.int (bI true)), o2, o3] [] ρ (fun r τ => r = none ∧ (Fr (sW b) b σ τ ∧ (LkA b L τ ∧ SR b R τ))) := by
  intro f
  induction f with
  | zero => intro S ρ o2 o3 h; omega
  | succ f ih =>
    intro S ρ o2 o3 hM hR _ hf hL hS hK
    have hC := hC0.kr hf.1
    have hO := round_off (L := L) (ask := fun i => askerV (LG σ (b + 2)) (nI i)) (S := S) 12 (Nat.le_refl _)
    have back : ∀ ρ o2 o3, Fr (sW b) b σ ρ → LkA b L ρ → SR b (roundS L (fun i => askerV (LG σ (b + 2)) (nI i)) S 12).1 ρ → KO (roundS L (fun i => askerV (LG σ (b + 2)) (nI i)) S 12).1 → WP Γ m_X0_laysStable 52 0 0 250 [some (.ref b), some (.int (bI (roundS L (fun i => askerV (LG σ (b + 2)) (nI i)) S 12).2)), o2, o3] [] ρ (fun r τ => r = none ∧ (Fr (sW b) b σ τ ∧ (LkA b L τ ∧ SR b R τ))) := by
      intro ρ o2 o3 hf hL hS hK
      rw [runS] at hR
      refine wp_goto dX0_laysStable_250 126 (by decide) ?_
      cases hb : (roundS L (fun i => askerV (LG σ (b + 2)) (nI i)) S 12).2
      · rw [hb, if_neg (by decide)] at hR
        rw [hR] at hS
        refine wp_iload_n dX0_laysStable_126 rfl ?_
        refine wp_if_eq dX0_laysStable_127 253 (by decide) (fun c => ?_) (fun c => absurd rfl c)
        exact wp_vret dX0_laysStable_253 rfl ⟨rfl, hf, hL, hS⟩
      · rw [hb, if_pos rfl] at hR hO
        exact ih _ ρ o2 o3 (by omega) hR (Or.inr trivial) hf hL hS hK
    refine wp_iload_n dX0_laysStable_126 rfl ?_
    refine wp_if_eq dX0_laysStable_127 253 (by decide) (fun c127 => absurd c127 (by decide)) (fun c127 => ?_)
    refine wp_iconst dX0_laysStable_130 0 rfl ?_
    refine wp_istore_n dX0_laysStable_131 rfl ?_
    refine wp_iconst dX0_laysStable_132 0 rfl ?_
    refine wp_istore_n dX0_laysStable_133 rfl ?_
    exact stable_round hC0 S back 12 0 _ _ (by omega) hf hL hS hK
theorem ct_laysStable (hS : Sy b hi Lw σ) : Ct Γ 52 0 0 m_X0_laysStable [.ref b] σ (fun r τ => r = none ∧ (Fr (sW b) b σ τ ∧ SR b (stbS Lw (LG σ (b + 2))) τ)) := by
  refine Ct.ofWP pf_X0_laysStable rfl rfl ?_
  have hC0 := hS.1
  have inner : ∀ (Q : Option Value → St → Prop) i, i < 12 → (∀ ρ o2 o3, Fr (sW b) b σ ρ → GA2 b (likeG Lw (LG σ (b + 2))) (i + 1) 0 ρ → KZ b (i + 1) ρ → WP Γ m_X0_laysStable 52 0 0 118 [some (.ref b), some (.int (nI i)), o2, o3] [] ρ Q) → ∀ f k ρ o3, k + f = 12 → Fr (sW b) b σ ρ → GA2 b (likeG Lw (LG σ (b + 2))) i k ρ → KZ b (i + 1) ρ → WP Γ m_X0_laysStable 52 0 0 24 [some (.ref b), some (.int (nI i)), some (.int (nI k)), o3] [] ρ Q := by
    intro Q i hi' hQ f
    induction f with
    | zero =>
      intro k ρ o3 hk hf hG hZ
      obtain rfl : k = 12 := by omega
      refine wp_iload_n dX0_laysStable_24 rfl ?_
      refine wp_bipush dX0_laysStable_25 12 rfl ?_
      refine wp_icmp_geN dX0_laysStable_27 118 (by decide) 12 12 rfl rfl (by omega) (by omega) (fun c27 => ?_) (fun c27 => ?_)
      · exact hQ _ _ _ hf (fun i' j' h1 h2 h3 => hG i' j' h1 h2 (by omega)) hZ
      · omega
    | succ f ih =>
      intro k ρ o3 hk hf hG hZ
      have hS1 := hS.fr hf sW_law
      have hC := hS1.1
      have eG := LGs hf
      have fin : ∀ τ (x : Int32), Fr (isM b) b ρ τ → x = (likeG Lw (LG σ (b + 2))) i k → WP Γ m_X0_laysStable 52 0 0 24 [some (.ref b), some (.int (nI i)), some (.int (nI (k + 1))), o3] [] (setI τ (b + 190 + i) k x) Q := by
        intro τ x hf1 hx
        have hf2 := hf.trans (hf1.mono (fun c h => Or.inl h))
        refine ih (k + 1) _ _ (by omega) (hf2.setI (Or.inr (by omega))) ?_ ?_
        · intro i' j' h1 h2 h3
          rw [stI_setI]
          by_cases e : b + 190 + i' = b + 190 + i ∧ j' = k
          · obtain ⟨e1, rfl⟩ := e
            obtain rfl : i' = i := by omega
            rw [if_pos ⟨rfl, rfl⟩, hx]
          · rw [if_neg e, hf1.2 _ (show ¬ (b + 190 + i' = b + 1) by omega)]; exact hG i' j' h1 h2 (by omega)
        · intro q hq
          rw [stI_setI, stI_setI, if_neg (by omega), if_neg (by omega), hf1.2 _ (show ¬ (b + 187 = b + 1) by omega), hf1.2 _ (show ¬ (b + 188 = b + 1) by omega)]
          exact hZ q hq
      refine wp_iload_n dX0_laysStable_24 rfl ?_
      refine wp_bipush dX0_laysStable_25 12 rfl ?_
      refine wp_icmp_geN dX0_laysStable_27 118 (by decide) k 12 rfl rfl (by omega) (by omega) (fun c27 => ?_) (fun c27 => ?_)
      · omega
      · refine wp_aload_n dX0_laysStable_30 rfl ?_
        refine wp_getR dX0_laysStable_31 gfa_X0_69_0 rfl hC.k0 hC.r12 ?_
        refine wp_iload_n dX0_laysStable_34 rfl ?_
        refine wp_aald dX0_laysStable_35 hC.k189 rfl i rfl (by omega) (by omega) (hC.rL (by omega)) ?_
        refine wp_iload_n dX0_laysStable_36 rfl ?_
        refine wp_aload_n dX0_laysStable_37 rfl ?_
        refine wp_getR dX0_laysStable_38 gfa_X0_33_0 rfl hC.k0 hC.r1 ?_
        refine wp_iload_n dX0_laysStable_41 rfl ?_
        refine wp_cI (gcV dX0_laysStable_42 gva_X0_135_3 (ct_lives _ hC.l0) hC.l0.k0 rfl rfl (by omega) (by omega) (by omega) (Nat.le_of_ble_eq_true rfl) rfl) ?_
        rw [livesV_n hi', eG]
        refine wp_if_eq dX0_laysStable_45 110 (by decide) (fun c45 => ?_) (fun c45 => ?_)
        · refine wp_iconst dX0_laysStable_110 0 rfl ?_
          refine wp_iast dX0_laysStable_111 (hC.kL (by omega)) k rfl (by omega) (by omega) ?_
          refine wp_iinc dX0_laysStable_112 rfl rfl (nI (k + 1)) (nI_add k 1) ?_
          refine wp_goto dX0_laysStable_115 24 (by decide) ?_
          first | refine fin _ _ hf1 ?_ | refine fin _ _ Fr.rf ?_
          rw [likeG]
          first | (rw [bI_0.mp c45]; rfl) | (rw [bI_0.mp c56, Bool.and_false]; rfl) | (rw [decide_eq_true c83, Bool.not_true, Bool.and_false]; rfl) | (rw [bI_0.mp c95, Bool.and_false]; rfl) | (rw [bI_1.mp c45, bI_1.mp c56, decide_eq_false c83, bI_1.mp c95]; rfl)
        · refine wp_aload_n dX0_laysStable_48 rfl ?_
          refine wp_getR dX0_laysStable_49 gfa_X0_33_0 rfl hC.k0 hC.r1 ?_
          refine wp_iload_n dX0_laysStable_52 rfl ?_
          refine wp_cI (gcV dX0_laysStable_53 gva_X0_135_3 (ct_lives _ hC.l0) hC.l0.k0 rfl rfl (by omega) (by omega) (by omega) (Nat.le_of_ble_eq_true rfl) rfl) ?_
          rw [livesV_n c27, eG]
          refine wp_if_eq dX0_laysStable_56 110 (by decide) (fun c56 => ?_) (fun c56 => ?_)
          · refine wp_iconst dX0_laysStable_110 0 rfl ?_
            refine wp_iast dX0_laysStable_111 (hC.kL (by omega)) k rfl (by omega) (by omega) ?_
            refine wp_iinc dX0_laysStable_112 rfl rfl (nI (k + 1)) (nI_add k 1) ?_
            refine wp_goto dX0_laysStable_115 24 (by decide) ?_
            first | refine fin _ _ hf1 ?_ | refine fin _ _ Fr.rf ?_
            rw [likeG]
            first | (rw [bI_0.mp c45]; rfl) | (rw [bI_0.mp c56, Bool.and_false]; rfl) | (rw [decide_eq_true c83, Bool.not_true, Bool.and_false]; rfl) | (rw [bI_0.mp c95, Bool.and_false]; rfl) | (rw [bI_1.mp c45, bI_1.mp c56, decide_eq_false c83, bI_1.mp c95]; rfl)
          · refine wp_aload_n dX0_laysStable_59 rfl ?_
            refine wp_getR dX0_laysStable_60 gfa_X0_33_0 rfl hC.k0 hC.r1 ?_
            refine wp_getR dX0_laysStable_63 gfa_X0_94_3 rfl hC.l0.k0 hC.l0.r0 ?_
            refine wp_iload_n dX0_laysStable_66 rfl ?_
            refine wp_aald dX0_laysStable_67 hC.l0.k1 rfl i rfl (by omega) (by omega) (hC.l0.rP (by omega)) ?_
            refine wp_getI dX0_laysStable_68 gfa_X0_111_4 rfl (hC.l0.kP (by omega)) ?_
            rw [LG_p 1 (by omega) hi', eG]
            refine wp_aload_n dX0_laysStable_71 rfl ?_
            refine wp_getR dX0_laysStable_72 gfa_X0_33_0 rfl hC.k0 hC.r1 ?_
            refine wp_getR dX0_laysStable_75 gfa_X0_94_3 rfl hC.l0.k0 hC.l0.r0 ?_
            refine wp_iload_n dX0_laysStable_78 rfl ?_
            refine wp_aald dX0_laysStable_79 hC.l0.k1 rfl k rfl (by omega) (by omega) (hC.l0.rP (by omega)) ?_
            refine wp_getI dX0_laysStable_80 gfa_X0_111_4 rfl (hC.l0.kP (by omega)) ?_
            rw [LG_p 1 (by omega) c27, eG]
            refine wp_icmp_eq dX0_laysStable_83 110 (by decide) (fun c83 => ?_) (fun c83 => ?_)
            · refine wp_iconst dX0_laysStable_110 0 rfl ?_
              refine wp_iast dX0_laysStable_111 (hC.kL (by omega)) k rfl (by omega) (by omega) ?_
              refine wp_iinc dX0_laysStable_112 rfl rfl (nI (k + 1)) (nI_add k 1) ?_
              refine wp_goto dX0_laysStable_115 24 (by decide) ?_
              first | refine fin _ _ hf1 ?_ | refine fin _ _ Fr.rf ?_
              rw [likeG]
              first | (rw [bI_0.mp c45]; rfl) | (rw [bI_0.mp c56, Bool.and_false]; rfl) | (rw [decide_eq_true c83, Bool.not_true, Bool.and_false]; rfl) | (rw [bI_0.mp c95, Bool.and_false]; rfl) | (rw [bI_1.mp c45, bI_1.mp c56, decide_eq_false c83, bI_1.mp c95]; rfl)
            · refine wp_aload_n dX0_laysStable_86 rfl ?_
              refine wp_getR dX0_laysStable_87 gfa_X0_33_0 rfl hC.k0 hC.r1 ?_
              refine wp_iload_n dX0_laysStable_90 rfl ?_
              refine wp_iload_n dX0_laysStable_91 rfl ?_
              refine wp_cIx (gcV dX0_laysStable_92 gva_X0_216_3 (ct_fit hi' c27 hC.l0 hS1) hC.l0.k0 rfl rfl (by omega) (by omega) (by omega) (Nat.le_of_ble_eq_true rfl) rfl) (fun y τ hy => ?_)
              obtain ⟨rfl, hf1⟩ := hy
              rw [eG]
              have hS2 := hS1.fr hf1 isM_law
              have hC := hS2.1
              have eG2 := (LGM0 hf1).trans eG
              refine wp_if_eq dX0_laysStable_95 110 (by decide) (fun c95 => ?_) (fun c95 => ?_)
              · refine wp_iconst dX0_laysStable_110 0 rfl ?_
                refine wp_iast dX0_laysStable_111 (hC.kL (by omega)) k rfl (by omega) (by omega) ?_
                refine wp_iinc dX0_laysStable_112 rfl rfl (nI (k + 1)) (nI_add k 1) ?_
                refine wp_goto dX0_laysStable_115 24 (by decide) ?_
                first | refine fin _ _ hf1 ?_ | refine fin _ _ Fr.rf ?_
                rw [likeG]
                first | (rw [bI_0.mp c45]; rfl) | (rw [bI_0.mp c56, Bool.and_false]; rfl) | (rw [decide_eq_true c83, Bool.not_true, Bool.and_false]; rfl) | (rw [bI_0.mp c95, Bool.and_false]; rfl) | (rw [bI_1.mp c45, bI_1.mp c56, decide_eq_false c83, bI_1.mp c95]; rfl)
              · refine wp_aload_n dX0_laysStable_98 rfl ?_
                refine wp_getR dX0_laysStable_99 gfa_X0_33_0 rfl hC.k0 hC.r1 ?_
                refine wp_iload_n dX0_laysStable_102 rfl ?_
                refine wp_iload_n dX0_laysStable_103 rfl ?_
                refine wp_cIx (gcV dX0_laysStable_104 gva_X0_237_3 (ct_likes hi' c27 hC.l0 hS2) hC.l0.k0 rfl rfl (by omega) (by omega) (by omega) (Nat.le_of_ble_eq_true rfl) rfl) (fun y τ2 hy => ?_)
                obtain ⟨rfl, hf2⟩ := hy
                rw [eG2]
                replace hf1 := hf1.trans hf2
                have hC := hC.kr hf2.1
                refine wp_goto dX0_laysStable_107 111 (by decide) ?_
                refine wp_iast dX0_laysStable_111 (hC.kL (by omega)) k rfl (by omega) (by omega) ?_
                refine wp_iinc dX0_laysStable_112 rfl rfl (nI (k + 1)) (nI_add k 1) ?_
                refine wp_goto dX0_laysStable_115 24 (by decide) ?_
                first | refine fin _ _ hf1 ?_ | refine fin _ _ Fr.rf ?_
                rw [likeG]
                first | (rw [bI_0.mp c45]; rfl) | (rw [bI_0.mp c56, Bool.and_false]; rfl) | (rw [decide_eq_true c83, Bool.not_true, Bool.and_false]; rfl) | (rw [bI_0.mp c95, Bool.and_false]; rfl) | (rw [bI_1.mp c45, bI_1.mp c56, decide_eq_false c83, bI_1.mp c95]; rfl)
  have outer : ∀ f i ρ o2 o3, i + f = 12 → Fr (sW b) b σ ρ → GA2 b (likeG Lw (LG σ (b + 2))) i 0 ρ → KZ b i ρ → WP Γ m_X0_laysStable 52 0 0 2 [some (.ref b), some (.int (nI i)), o2, o3] [] ρ (fun r τ => r = none ∧ (Fr (sW b) b σ τ ∧ SR b (stbS Lw (LG σ (b + 2))) τ)) := by
    intro f
    induction f with
    | zero =>
      intro i ρ o2 o3 hk hf hG hZ
      obtain rfl : i = 12 := by omega
      refine wp_iload_n dX0_laysStable_2 rfl ?_
      refine wp_bipush dX0_laysStable_3 12 rfl ?_
      refine wp_icmp_geN dX0_laysStable_5 124 (by decide) 12 12 rfl rfl (by omega) (by omega) (fun c5 => ?_) (fun c5 => ?_)
      · refine wp_iconst dX0_laysStable_124 1 rfl ?_
        refine wp_istore_n dX0_laysStable_125 rfl ?_
        refine WP.mono (stable_run hC0 (stbS Lw (LG σ (b + 2))) 145 S00 _ _ _ (by decide) rfl (Or.inr trivial) hf (fun i j h1 h2 => hG i j h1 h2 (Or.inl h1)) (fun i h => hZ i h) (fun i k h => by cases h)) ?_
        intro r τ h
        exact ⟨h.1, h.2.1, h.2.2.2⟩
      · omega
    | succ f ih =>
      intro i ρ o2 o3 hk hf hG hZ
      have hC := hC0.kr hf.1
      refine wp_iload_n dX0_laysStable_2 rfl ?_
      refine wp_bipush dX0_laysStable_3 12 rfl ?_
      refine wp_icmp_geN dX0_laysStable_5 124 (by decide) i 12 rfl rfl (by omega) (by omega) (fun c5 => ?_) (fun c5 => ?_)
      · omega
      · refine wp_aload_n dX0_laysStable_8 rfl ?_
        refine wp_getR dX0_laysStable_9 gfa_X0_62_0 rfl hC.k0 hC.r10 ?_
        refine wp_iload_n dX0_laysStable_12 rfl ?_
        refine wp_iconst dX0_laysStable_13 (-1) rfl ?_
        refine wp_iast dX0_laysStable_14 hC.k187 i rfl (by omega) (by omega) ?_
        refine wp_aload_n dX0_laysStable_15 rfl ?_
        refine wp_getR dX0_laysStable_16 gfa_X0_66_0 rfl hC.k0 hC.r11 ?_
        refine wp_iload_n dX0_laysStable_19 rfl ?_
        refine wp_iconst dX0_laysStable_20 0 rfl ?_
        refine wp_iast dX0_laysStable_21 hC.k188 i rfl (by omega) (by omega) ?_
        refine wp_iconst dX0_laysStable_22 0 rfl ?_
        refine wp_istore_n dX0_laysStable_23 rfl ?_
        refine inner _ i c5 (fun ρ o2 o3 hf hG hZ => ?_) 12 0 _ _ (by omega) ((hf.setI (Or.inr (by omega))).setI (Or.inr (by omega))) ?_ ?_
        · refine wp_iinc dX0_laysStable_118 rfl rfl (nI (i + 1)) (nI_add i 1) ?_
          refine wp_goto dX0_laysStable_121 2 (by decide) ?_
          exact ih (i + 1) _ _ _ (by omega) hf hG hZ
        · intro i' j' h1 h2 h3
          rw [stI_setI, stI_setI, if_neg (by omega), if_neg (by omega)]
          exact hG i' j' h1 h2 h3
        · intro q hq
          rw [stI_setI, stI_setI, stI_setI, stI_setI, if_neg (show ¬ (b + 187 = b + 188 ∧ q = i) by omega), if_neg (show ¬ (b + 188 = b + 187 ∧ q = i) by omega)]
          by_cases e : q = i
          · rw [if_pos ⟨rfl, e⟩, if_pos ⟨rfl, e⟩]; exact ⟨rfl, rfl⟩
          · rw [if_neg (by omega), if_neg (by omega)]; exact hZ q (by omega)
  refine wp_iconst dX0_laysStable_0 0 rfl ?_
  refine wp_istore_n dX0_laysStable_1 rfl ?_
  exact outer 12 0 _ _ _ (by omega) Fr.rf (fun i' j' h1 h2 h3 => absurd h3 (by omega)) (fun k h => absurd h (by omega))
end
