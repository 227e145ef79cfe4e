set_option maxRecDepth 100000
section
variable {Γ : Gm} {σ : St} {b hi : Nat} {Lw : Lws}
theorem fstN_t {p : Nat → Bool} {h : Nat} (f : Nat) (e : p h = true) : fstN p (f + 1) h = h := by rw [fstN, if_pos e]
theorem fstN_f {p : Nat → Bool} {h : Nat} (f : Nat) (e : p h = false) : fstN p (f + 1) h = fstN p f (h + 1) := by rw [fstN, if_neg (by rw [e]; decide)]
theorem ruleA_lt {T : Nat → Int32} {G : Gd} {n : Nat} : ∀ m, m ≤ 112 → ∀ e, (ruleA T G n m).2 = some e → e < 112 := by
  intro m
  induction m with
  | zero => intro _ e h; cases h
  | succ m ih =>
    intro hm e h
    rw [show ruleA T G n (m + 1) = pick (fitsAllB T G m n) m (ruleA T G n m) from rfl, pick] at h
    split at h
    · have h : (if (ruleA T G n m).1 = 0 then some m else (ruleA T G n m).2) = some e := h
      split at h
      · cases h; omega
      · exact ih (by omega) e h
    · exact ih (by omega) e h
theorem ct_cutter (v w : Int32) (hC : CK b σ) : Ct Γ 2 0 0 m_X0_cutter [.ref b, .int v, .int w] σ (fun r τ => ∃ y, r = some (.int y) ∧ (y = cutterV (stI σ (b + 155)) (LG σ (b + 2)) v w (stI σ b 6) ∧ τ = (if cutOk v w (stI σ b 6) = true then setI σ b 6 0 else σ))) := by
  refine Ct.ofWP pf_X0_cutter rfl rfl ?_
  have hC1 : CK b (setI σ b 6 0) := hC.kr (KR.rf.setI _ _ _)
  have hT1 : ∀ i, stI (setI σ b 6 0) (b + 155) i = (stI σ (b + 155)) i := fun i => by rw [stI_setI, if_neg (by omega)]
  have eG : LG (setI σ b 6 0) (b + 2) = (LG σ (b + 2)) := LG_other (Or.inl (by omega))
  have ends : ∀ m i, m ≤ 5 → cutOk (nI m) w (stI σ b 6) = true → allB (prOk (stI σ (b + 155))) m = true → ¬ w < 2 → i < 12 → w - 10 = nI i → ∀ o : Option Nat, o = (ruleA (stI σ (b + 155)) (LG σ (b + 2)) m 112).2 → ∀ f k (x : Int32), k + f = 12 → (∀ r, o = some r → fstN (madeB (LG σ (b + 2)) r i) 12 0 = fstN (madeB (LG σ (b + 2)) r i) f k) → WP Γ m_X0_cutter 2 0 0 181 [some (.ref b), some (.int (nI m)), some (.int w), some (.int x), some (.int (oneV nI o)), some (.int (nI k))] [] (setI σ b 6 0) (fun r τ => ∃ y, r = some (.int y) ∧ (y = cutterV (stI σ (b + 155)) (LG σ (b + 2)) (nI m) w (stI σ b 6) ∧ τ = (if cutOk (nI m) w (stI σ b 6) = true then setI σ b 6 0 else σ))) := by
    intro m i hm hok ha hw hi' ei o ho f
    have hV : cutterV (stI σ (b + 155)) (LG σ (b + 2)) (nI m) w (stI σ b 6) = cutK (LG σ (b + 2)) i o := by
      rw [cutterV, if_pos hok, ix_nI (by omega), if_pos ha, if_neg hw, ei, ix_nI (by omega), ho]
    have hr12 : ∀ r, o = some r → r < 112 := fun r h => ruleA_lt 112 (Nat.le_refl _) r (ho ▸ h)
    induction f with
    | zero =>
      intro k x hk hJ
      obtain rfl : k = 12 := by omega
      refine wp_iload dX0_cutter_181 rfl ?_
      refine wp_bipush dX0_cutter_183 12 rfl ?_
      refine wp_icmp_geN dX0_cutter_185 233 (by decide) 12 12 rfl rfl (by omega) (by omega) (fun c185 => ?_) (fun c185 => ?_)
      · refine wp_bipush dX0_cutter_233 (-2) rfl ?_
        refine wp_iret dX0_cutter_235 rfl ?_
        refine ⟨_, rfl, ?_, by rw [if_pos hok]⟩
        rw [hV]
        cases o with
        | none => rfl
        | some r => rw [cutK, if_pos (show fstN _ 12 0 = 12 from hJ r rfl)]
      · omega
    | succ f ih =>
      intro k x hk hJ
      cases o with
      | none =>
        refine wp_iload dX0_cutter_181 rfl ?_
        refine wp_bipush dX0_cutter_183 12 rfl ?_
        refine wp_icmp_geN dX0_cutter_185 233 (by decide) k 12 rfl rfl (by omega) (by omega) (fun c185 => ?_) (fun c185 => ?_)
        · refine wp_bipush dX0_cutter_233 (-2) rfl ?_
          refine wp_iret dX0_cutter_235 rfl ?_
          exact ⟨_, rfl, by rw [hV]; rfl, by rw [if_pos hok]⟩
        · refine wp_iload dX0_cutter_188 rfl ?_
          refine wp_if_lt dX0_cutter_190 233 (by decide) (fun c190 => ?_) (fun c190 => ?_)
          · refine wp_bipush dX0_cutter_233 (-2) rfl ?_
            refine wp_iret dX0_cutter_235 rfl ?_
            exact ⟨_, rfl, by rw [hV]; rfl, by rw [if_pos hok]⟩
          · exact absurd (by decide : (-2 : Int32) < 0) c190
      | some r =>
        have hr := hr12 r rfl
        have hJ' := hJ r rfl
        refine wp_iload dX0_cutter_181 rfl ?_
        refine wp_bipush dX0_cutter_183 12 rfl ?_
        refine wp_icmp_geN dX0_cutter_185 233 (by decide) k 12 rfl rfl (by omega) (by omega) (fun c185 => ?_) (fun c185 => ?_)
        · refine wp_bipush dX0_cutter_233 (-2) rfl ?_
          refine wp_iret dX0_cutter_235 rfl ?_
          omega
        · refine wp_iload dX0_cutter_188 rfl ?_
          refine wp_if_lt dX0_cutter_190 233 (by decide) (fun c190 => absurd c190 (nI_pos (by omega))) (fun c190 => ?_)
          refine wp_aload_n dX0_cutter_193 rfl ?_
          refine wp_iload dX0_cutter_194 rfl ?_
          refine wp_aload_n dX0_cutter_196 rfl ?_
          refine wp_getR dX0_cutter_197 gfa_X0_33_0 rfl hC1.k0 hC1.r1 ?_
          refine wp_getR dX0_cutter_200 gfa_X0_117_3 rfl hC1.l0.k0 hC1.l0.r1 ?_
          refine wp_iload_n dX0_cutter_203 rfl ?_
          refine wp_bipush dX0_cutter_204 10 rfl ?_
          refine wp_isub dX0_cutter_206 ?_
          refine wp_aald dX0_cutter_207 hC1.l0.k2 rfl i ei (by omega) (by omega) (hC1.l0.rE (by omega)) ?_
          refine wp_aload_n dX0_cutter_208 rfl ?_
          refine wp_getR dX0_cutter_209 gfa_X0_33_0 rfl hC1.k0 hC1.r1 ?_
          refine wp_getR dX0_cutter_212 gfa_X0_117_3 rfl hC1.l0.k0 hC1.l0.r1 ?_
          refine wp_iload dX0_cutter_215 rfl ?_
          refine wp_aald dX0_cutter_217 hC1.l0.k2 rfl k rfl (by omega) (by omega) (hC1.l0.rE (by omega)) ?_
          refine wp_cI (gcV dX0_cutter_218 gva_X0_314_0 (ct_isMade hr hi' c185 hC1) hC1.k0 rfl rfl (by omega) (by omega) (by omega) (Nat.le_of_ble_eq_true rfl) rfl) ?_
          rw [eG]
          refine wp_if_eq dX0_cutter_221 227 (by decide) (fun c221 => ?_) (fun c221 => ?_)
          · refine wp_iinc dX0_cutter_227 rfl rfl (nI (k + 1)) (nI_add k 1) ?_
            refine wp_goto dX0_cutter_230 181 (by decide) ?_
            refine ih (k + 1) _ (by omega) (fun r' h => ?_)
            cases h
            rw [hJ', fstN_f f (bI_0.mp c221)]
          · refine wp_iload dX0_cutter_224 rfl ?_
            refine wp_iret dX0_cutter_226 rfl ?_
            refine ⟨_, rfl, ?_, by rw [if_pos hok]⟩
            rw [hV, cutK, hJ', fstN_t f (bI_1.mp c221), if_neg (by omega)]
  have rules : ∀ m, m ≤ 5 → cutOk (nI m) w (stI σ b 6) = true → allB (prOk (stI σ (b + 155))) m = true → (inB w 2 || inB (w - 10) 12) = true → ∀ f r, r + f = 112 → WP Γ m_X0_cutter 2 0 0 120 [some (.ref b), some (.int (nI m)), some (.int w), some (.int (ruleA (stI σ (b + 155)) (LG σ (b + 2)) m r).1), some (.int (oneV nI (ruleA (stI σ (b + 155)) (LG σ (b + 2)) m r).2)), some (.int (nI r))] [] (setI σ b 6 0) (fun r τ => ∃ y, r = some (.int y) ∧ (y = cutterV (stI σ (b + 155)) (LG σ (b + 2)) (nI m) w (stI σ b 6) ∧ τ = (if cutOk (nI m) w (stI σ b 6) = true then setI σ b 6 0 else σ))) := by
    intro m hm hok ha hw f
    induction f with
    | zero =>
      intro r hr
      obtain rfl : r = 112 := by omega
      refine wp_iload dX0_cutter_120 rfl ?_
      refine wp_bipush dX0_cutter_122 112 rfl ?_
      refine wp_icmp_geN dX0_cutter_124 162 (by decide) 112 112 rfl rfl (by omega) (by omega) (fun c124 => ?_) (fun c124 => ?_)
      · refine wp_iload_n dX0_cutter_162 rfl ?_
        refine wp_iconst dX0_cutter_163 2 rfl ?_
        refine wp_icmp_ge dX0_cutter_164 178 (by decide) (fun c164 => ?_) (fun c164 => ?_)
        · refine wp_iconst dX0_cutter_178 0 rfl ?_
          refine wp_istore dX0_cutter_179 rfl ?_
          have hw2 : ¬ w < 2 := Int32.not_lt.mpr c164
          rw [Bool.or_eq_true] at hw
          rcases hw with hw | hw
          · obtain ⟨j, hj, rfl⟩ := inB_n (n := 2) (by omega) hw
            exact absurd (nI_lt (b := 2) (by omega) (by omega)) hw2
          · obtain ⟨i, hi', ei⟩ := inB_12 hw
            exact ends m i hm hok ha hw2 hi' ei _ rfl 12 0 _ (by omega) (fun r h => rfl)
        · refine wp_iload_n dX0_cutter_167 rfl ?_
          refine wp_if_ne dX0_cutter_168 175 (by decide) (fun c168 => ?_) (fun c168 => ?_)
          · refine wp_iload dX0_cutter_175 rfl ?_
            refine wp_iret dX0_cutter_177 rfl ?_
            refine ⟨_, rfl, ?_, by rw [if_pos hok]⟩
            rw [cutterV, if_pos hok, ix_nI (by omega), if_pos ha, if_pos (Int32.not_le.mp c164)]
            first | (rw [if_pos c168]; done) | (rw [if_neg c168])
          · refine wp_iload_n dX0_cutter_171 rfl ?_
            refine wp_goto dX0_cutter_172 177 (by decide) ?_
            refine wp_iret dX0_cutter_177 rfl ?_
            refine ⟨_, rfl, ?_, by rw [if_pos hok]⟩
            rw [cutterV, if_pos hok, ix_nI (by omega), if_pos ha, if_pos (Int32.not_le.mp c164)]
            first | (rw [if_pos c168]; done) | (rw [if_neg c168])
      · omega
    | succ f ih =>
      intro r hr
      have st : ∀ p, fitsAllB (stI σ (b + 155)) (LG σ (b + 2)) r m = p → ruleA (stI σ (b + 155)) (LG σ (b + 2)) m (r + 1) = pick p r (ruleA (stI σ (b + 155)) (LG σ (b + 2)) m r) := fun p e => by rw [ruleA, folN, e]; rfl
      generalize hs : ruleA (stI σ (b + 155)) (LG σ (b + 2)) m r = s1 at *
      refine wp_iload dX0_cutter_120 rfl ?_
      refine wp_bipush dX0_cutter_122 112 rfl ?_
      refine wp_icmp_geN dX0_cutter_124 162 (by decide) r 112 rfl rfl (by omega) (by omega) (fun c124 => ?_) (fun c124 => ?_)
      · omega
      · refine wp_aload_n dX0_cutter_127 rfl ?_
        refine wp_iload dX0_cutter_128 rfl ?_
        refine wp_iload_n dX0_cutter_130 rfl ?_
        refine wp_cI (gcV dX0_cutter_131 gva_X0_318_0 (ct_fitsAll (T := (stI σ (b + 155))) (by omega) hm hC1 hT1 (fun k hk => allB_t m ha k hk)) hC1.k0 rfl rfl (by omega) (by omega) (by omega) (Nat.le_of_ble_eq_true rfl) rfl) ?_
        rw [eG]
        refine wp_if_ne dX0_cutter_134 140 (by decide) (fun c134 => ?_) (fun c134 => ?_)
        · refine wp_iload_n dX0_cutter_140 rfl ?_
          refine wp_if_ne dX0_cutter_141 149 (by decide) (fun c141 => ?_) (fun c141 => ?_)
          · refine wp_iload dX0_cutter_149 rfl ?_
            refine wp_istore dX0_cutter_151 rfl ?_
            refine wp_iinc dX0_cutter_153 rfl rfl _ rfl ?_
            refine wp_iinc dX0_cutter_156 rfl rfl (nI (r + 1)) (nI_add r 1) ?_
            refine wp_goto dX0_cutter_159 120 (by decide) ?_
            refine WP.cast ?_ (ih (r + 1) (by omega))
            first | (rw [st false (bI_0.mp c134)]; rfl) | (rw [st true (bI_1.mp c134), pick1, pick_no c141]; rfl) | (rw [st true (bI_1.mp c134), pick1, oneV_go (f := nI) (x := nI r) c141 rfl]; rfl)
          · refine wp_iload dX0_cutter_144 rfl ?_
            refine wp_goto dX0_cutter_146 151 (by decide) ?_
            refine wp_istore dX0_cutter_151 rfl ?_
            refine wp_iinc dX0_cutter_153 rfl rfl _ rfl ?_
            refine wp_iinc dX0_cutter_156 rfl rfl (nI (r + 1)) (nI_add r 1) ?_
            refine wp_goto dX0_cutter_159 120 (by decide) ?_
            refine WP.cast ?_ (ih (r + 1) (by omega))
            first | (rw [st false (bI_0.mp c134)]; rfl) | (rw [st true (bI_1.mp c134), pick1, pick_no c141]; rfl) | (rw [st true (bI_1.mp c134), pick1, oneV_go (f := nI) (x := nI r) c141 rfl]; rfl)
        · refine wp_goto dX0_cutter_137 156 (by decide) ?_
          refine wp_iinc dX0_cutter_156 rfl rfl (nI (r + 1)) (nI_add r 1) ?_
          refine wp_goto dX0_cutter_159 120 (by decide) ?_
          refine WP.cast ?_ (ih (r + 1) (by omega))
          first | (rw [st false (bI_0.mp c134)]; rfl) | (rw [st true (bI_1.mp c134), pick1, pick_no c141]; rfl) | (rw [st true (bI_1.mp c134), pick1, oneV_go (f := nI) (x := nI r) c141 rfl]; rfl)
  have pairs : ∀ m, m ≤ 5 → cutOk (nI m) w (stI σ b 6) = true → (inB w 2 || inB (w - 10) 12) = true → ∀ f k, k + f = m → allB (prOk (stI σ (b + 155))) k = true → WP Γ m_X0_cutter 2 0 0 46 [some (.ref b), some (.int (nI m)), some (.int w), some (.int (nI k)), none, none] [] (setI σ b 6 0) (fun r τ => ∃ y, r = some (.int y) ∧ (y = cutterV (stI σ (b + 155)) (LG σ (b + 2)) (nI m) w (stI σ b 6) ∧ τ = (if cutOk (nI m) w (stI σ b 6) = true then setI σ b 6 0 else σ))) := by
    intro m hm hok hw f
    induction f with
    | zero =>
      intro k hk ha
      obtain rfl : k = m := by omega
      refine wp_iload_n dX0_cutter_46 rfl ?_
      refine wp_iload_n dX0_cutter_47 rfl ?_
      refine wp_icmp_geN dX0_cutter_48 111 (by decide) k k rfl rfl (by omega) (by omega) (fun c48 => ?_) (fun c48 => ?_)
      · refine wp_iconst dX0_cutter_111 0 rfl ?_
        refine wp_istore_n dX0_cutter_112 rfl ?_
        refine wp_bipush dX0_cutter_113 (-2) rfl ?_
        refine wp_istore dX0_cutter_115 rfl ?_
        refine wp_iconst dX0_cutter_117 0 rfl ?_
        refine wp_istore dX0_cutter_118 rfl ?_
        exact rules k hm hok ha hw 112 0 (by omega)
      · omega
    | succ f ih =>
      intro k hk ha
      refine wp_iload_n dX0_cutter_46 rfl ?_
      refine wp_iload_n dX0_cutter_47 rfl ?_
      refine wp_icmp_geN dX0_cutter_48 111 (by decide) k m rfl rfl (by omega) (by omega) (fun c48 => ?_) (fun c48 => ?_)
      · omega
      · refine wp_aload_n dX0_cutter_51 rfl ?_
        refine wp_getR dX0_cutter_52 gfa_X0_43_0 rfl hC1.k0 hC1.r4 ?_
        refine wp_iconst dX0_cutter_55 2 rfl ?_
        refine wp_iload_n dX0_cutter_56 rfl ?_
        refine wp_imul dX0_cutter_57 ?_
        refine wp_top (y := nI (2 * k)) (pk_mul 2 k) ?_
        refine wp_bald dX0_cutter_58 hC1.k155 (2 * k) rfl (by omega) (by omega) ?_
        rw [hT1]
        refine wp_cI (gcS dX0_cutter_59 gsa_X0_124 (ct_isPiece _) rfl rfl (by omega) (by omega) (by omega) (Nat.le_of_ble_eq_true rfl) rfl) ?_
        refine wp_if_eq dX0_cutter_62 102 (by decide) (fun c62 => ?_) (fun c62 => ?_)
        · refine wp_bipush dX0_cutter_102 (-3) rfl ?_
          refine wp_iret dX0_cutter_104 rfl ?_
          refine ⟨_, rfl, ?_, by rw [if_pos hok]⟩
          rw [cutterV, if_pos hok, ix_nI (by omega), if_neg ?_]
          rw [allB_f (h := k) ?_ m (by omega)]
          · decide
          · rw [prOk]
            first | (rw [bI_0.mp c62]; rfl) | (rw [bI_0.mp c78, Bool.and_false]; rfl) | (rw [decide_eq_true c99]; simp)
        · refine wp_aload_n dX0_cutter_65 rfl ?_
          refine wp_getR dX0_cutter_66 gfa_X0_43_0 rfl hC1.k0 hC1.r4 ?_
          refine wp_iconst dX0_cutter_69 2 rfl ?_
          refine wp_iload_n dX0_cutter_70 rfl ?_
          refine wp_imul dX0_cutter_71 ?_
          refine wp_top (y := nI (2 * k)) (pk_mul 2 k) ?_
          refine wp_iconst dX0_cutter_72 1 rfl ?_
          refine wp_iadd dX0_cutter_73 ?_
          refine wp_top (y := nI (2 * k + 1)) (nI_add (2 * k) 1) ?_
          refine wp_bald dX0_cutter_74 hC1.k155 (2 * k + 1) rfl (by omega) (by omega) ?_
          rw [hT1]
          refine wp_cI (gcS dX0_cutter_75 gsa_X0_124 (ct_isPiece _) rfl rfl (by omega) (by omega) (by omega) (Nat.le_of_ble_eq_true rfl) rfl) ?_
          refine wp_if_eq dX0_cutter_78 102 (by decide) (fun c78 => ?_) (fun c78 => ?_)
          · refine wp_bipush dX0_cutter_102 (-3) rfl ?_
            refine wp_iret dX0_cutter_104 rfl ?_
            refine ⟨_, rfl, ?_, by rw [if_pos hok]⟩
            rw [cutterV, if_pos hok, ix_nI (by omega), if_neg ?_]
            rw [allB_f (h := k) ?_ m (by omega)]
            · decide
            · rw [prOk]
              first | (rw [bI_0.mp c62]; rfl) | (rw [bI_0.mp c78, Bool.and_false]; rfl) | (rw [decide_eq_true c99]; simp)
          · refine wp_aload_n dX0_cutter_81 rfl ?_
            refine wp_getR dX0_cutter_82 gfa_X0_43_0 rfl hC1.k0 hC1.r4 ?_
            refine wp_iconst dX0_cutter_85 2 rfl ?_
            refine wp_iload_n dX0_cutter_86 rfl ?_
            refine wp_imul dX0_cutter_87 ?_
            refine wp_top (y := nI (2 * k)) (pk_mul 2 k) ?_
            refine wp_bald dX0_cutter_88 hC1.k155 (2 * k) rfl (by omega) (by omega) ?_
            refine wp_aload_n dX0_cutter_89 rfl ?_
            refine wp_getR dX0_cutter_90 gfa_X0_43_0 rfl hC1.k0 hC1.r4 ?_
            refine wp_iconst dX0_cutter_93 2 rfl ?_
            refine wp_iload_n dX0_cutter_94 rfl ?_
            refine wp_imul dX0_cutter_95 ?_
            refine wp_top (y := nI (2 * k)) (pk_mul 2 k) ?_
            refine wp_iconst dX0_cutter_96 1 rfl ?_
            refine wp_iadd dX0_cutter_97 ?_
            refine wp_top (y := nI (2 * k + 1)) (nI_add (2 * k) 1) ?_
            refine wp_bald dX0_cutter_98 hC1.k155 (2 * k + 1) rfl (by omega) (by omega) ?_
            rw [show stI (setI σ b 6 0) (b + 155) (2 * k) = _ from hT1 _, show stI (setI σ b 6 0) (b + 155) (2 * k + 1) = _ from hT1 _]
            refine wp_icmp_ne dX0_cutter_99 105 (by decide) (fun c99 => ?_) (fun c99 => ?_)
            · refine wp_iinc dX0_cutter_105 rfl rfl (nI (k + 1)) (nI_add k 1) ?_
              refine wp_goto dX0_cutter_108 46 (by decide) ?_
              refine ih (k + 1) (by omega) ?_
              rw [allB, ha, prOk, bI_1.mp c62, bI_1.mp c78, decide_eq_false c99]
              rfl
            · refine wp_bipush dX0_cutter_102 (-3) rfl ?_
              refine wp_iret dX0_cutter_104 rfl ?_
              refine ⟨_, rfl, ?_, by rw [if_pos hok]⟩
              rw [cutterV, if_pos hok, ix_nI (by omega), if_neg ?_]
              rw [allB_f (h := k) ?_ m (by omega)]
              · decide
              · rw [prOk]
                first | (rw [bI_0.mp c62]; rfl) | (rw [bI_0.mp c78, Bool.and_false]; rfl) | (rw [decide_eq_true c99]; simp)
  refine wp_iload_n dX0_cutter_0 rfl ?_
  refine wp_iconst dX0_cutter_1 1 rfl ?_
  refine wp_iconst dX0_cutter_2 5 rfl ?_
  refine wp_cI (gcS dX0_cutter_3 gsa_X0_128 (ct_within _ _ _) rfl rfl (by omega) (by omega) (by omega) (Nat.le_of_ble_eq_true rfl) rfl) ?_
  refine wp_if_eq dX0_cutter_6 37 (by decide) (fun c6 => ?_) (fun c6 => ?_)
  · refine wp_iconst dX0_cutter_37 (-1) rfl ?_
    refine wp_iret dX0_cutter_38 rfl ?_
    have e : cutOk v w (stI σ b 6) = false := by
      first | (rw [cutOk, bI_0.mp c6]; rfl) | (rw [cutOk, bI_0.mp c14, bI_0.mp c24]; simp; done) | (rw [cutOk, decide_eq_false c34, Bool.and_false])
    exact ⟨_, rfl, by rw [cutterV, e]; rfl, by rw [e]; rfl⟩
  · refine wp_iload_n dX0_cutter_9 rfl ?_
    refine wp_iconst dX0_cutter_10 2 rfl ?_
    refine wp_cI (gcS dX0_cutter_11 gsa_X0_103 (ct_in _ _) rfl rfl (by omega) (by omega) (by omega) (Nat.le_of_ble_eq_true rfl) rfl) ?_
    refine wp_if_ne dX0_cutter_14 27 (by decide) (fun c14 => ?_) (fun c14 => ?_)
    · refine wp_iconst dX0_cutter_27 2 rfl ?_
      refine wp_iload_n dX0_cutter_28 rfl ?_
      refine wp_imul dX0_cutter_29 ?_
      refine wp_aload_n dX0_cutter_30 rfl ?_
      refine wp_getI dX0_cutter_31 gfa_X0_149_0 rfl hC.k0 ?_
      refine wp_icmp_le dX0_cutter_34 39 (by decide) (fun c34 => ?_) (fun c34 => ?_)
      · have hw : (inB w 2 || inB (w - 10) 12) = true := by first | (rw [bI_1.mp c14]; rfl) | (rw [bI_1.mp c24, Bool.or_true])
        have hok : cutOk v w (stI σ b 6) = true := by rw [cutOk, bI_1.mp c6, hw, decide_eq_true c34]; rfl
        obtain ⟨m, hm1, hm5, rfl⟩ := wiB_nat (lo := 1) (hi := 5) (by omega) (by omega) (bI_1.mp c6)
        refine wp_aload_n dX0_cutter_39 rfl ?_
        refine wp_iconst dX0_cutter_40 0 rfl ?_
        refine wp_putI dX0_cutter_41 gfa_X0_149_0 (Or.inl rfl) rfl ⟨rfl, rfl⟩ hC.k0 ?_
        refine wp_iconst dX0_cutter_44 0 rfl ?_
        refine wp_istore_n dX0_cutter_45 rfl ?_
        exact pairs m hm5 hok hw m 0 (by omega) rfl
      · refine wp_iconst dX0_cutter_37 (-1) rfl ?_
        refine wp_iret dX0_cutter_38 rfl ?_
        have e : cutOk v w (stI σ b 6) = false := by
          first | (rw [cutOk, bI_0.mp c6]; rfl) | (rw [cutOk, bI_0.mp c14, bI_0.mp c24]; simp; done) | (rw [cutOk, decide_eq_false c34, Bool.and_false])
        exact ⟨_, rfl, by rw [cutterV, e]; rfl, by rw [e]; rfl⟩
    · refine wp_iload_n dX0_cutter_17 rfl ?_
      refine wp_bipush dX0_cutter_18 10 rfl ?_
      refine wp_isub dX0_cutter_20 ?_
      refine wp_cI (gcS dX0_cutter_21 gsa_X0_124 (ct_isPiece _) rfl rfl (by omega) (by omega) (by omega) (Nat.le_of_ble_eq_true rfl) rfl) ?_
      refine wp_if_eq dX0_cutter_24 37 (by decide) (fun c24 => ?_) (fun c24 => ?_)
      · refine wp_iconst dX0_cutter_37 (-1) rfl ?_
        refine wp_iret dX0_cutter_38 rfl ?_
        have e : cutOk v w (stI σ b 6) = false := by
          first | (rw [cutOk, bI_0.mp c6]; rfl) | (rw [cutOk, bI_0.mp c14, bI_0.mp c24]; simp; done) | (rw [cutOk, decide_eq_false c34, Bool.and_false])
        exact ⟨_, rfl, by rw [cutterV, e]; rfl, by rw [e]; rfl⟩
      · refine wp_iconst dX0_cutter_27 2 rfl ?_
        refine wp_iload_n dX0_cutter_28 rfl ?_
        refine wp_imul dX0_cutter_29 ?_
        refine wp_aload_n dX0_cutter_30 rfl ?_
        refine wp_getI dX0_cutter_31 gfa_X0_149_0 rfl hC.k0 ?_
        refine wp_icmp_le dX0_cutter_34 39 (by decide) (fun c34 => ?_) (fun c34 => ?_)
        · have hw : (inB w 2 || inB (w - 10) 12) = true := by first | (rw [bI_1.mp c14]; rfl) | (rw [bI_1.mp c24, Bool.or_true])
          have hok : cutOk v w (stI σ b 6) = true := by rw [cutOk, bI_1.mp c6, hw, decide_eq_true c34]; rfl
          obtain ⟨m, hm1, hm5, rfl⟩ := wiB_nat (lo := 1) (hi := 5) (by omega) (by omega) (bI_1.mp c6)
          refine wp_aload_n dX0_cutter_39 rfl ?_
          refine wp_iconst dX0_cutter_40 0 rfl ?_
          refine wp_putI dX0_cutter_41 gfa_X0_149_0 (Or.inl rfl) rfl ⟨rfl, rfl⟩ hC.k0 ?_
          refine wp_iconst dX0_cutter_44 0 rfl ?_
          refine wp_istore_n dX0_cutter_45 rfl ?_
          exact pairs m hm5 hok hw m 0 (by omega) rfl
        · refine wp_iconst dX0_cutter_37 (-1) rfl ?_
          refine wp_iret dX0_cutter_38 rfl ?_
          have e : cutOk v w (stI σ b 6) = false := by
            first | (rw [cutOk, bI_0.mp c6]; rfl) | (rw [cutOk, bI_0.mp c14, bI_0.mp c24]; simp; done) | (rw [cutOk, decide_eq_false c34, Bool.and_false])
          exact ⟨_, rfl, by rw [cutterV, e]; rfl, by rw [e]; rfl⟩
end
