set_option maxRecDepth 100000
section
variable {Γ : Gm} {σ : St} {b hi : Nat} {Lw : Lws}
theorem stable_round (hC0 : CK b σ) {L : Nat → Nat → Int32} {Q : Option Value → St → Prop} (S0 : Sts) (hQ : ∀ ρ o2 o3, Fr (sW b) b σ ρ → LkA b L ρ → SR b (roundS L (fun i => askerV (LG σ (b + 2)) (nI i)) S0 12).1 ρ → KO (roundS L (fun i => askerV (LG σ (b + 2)) (nI i)) S0 12).1 → WP Γ m_X0_laysStable 52 0 0 250 [some (.ref b), some (.int (bI (roundS L (fun i => askerV (LG σ (b + 2)) (nI i)) S0 12).2)), o2, o3] [] ρ Q) :
    ∀ f k ρ o3, k + f = 12 → Fr (sW b) b σ ρ → LkA b L ρ → SR b (roundS L (fun i => askerV (LG σ (b + 2)) (nI i)) S0 k).1 ρ → KO (roundS L (fun i => askerV (LG σ (b + 2)) (nI i)) S0 k).1 → WP Γ m_X0_laysStable 52 0 0 134 [some (.ref b), some (.int (bI (roundS L (fun i => askerV (LG σ (b + 2)) (nI i)) S0 k).2)), some (.int (nI k)), o3] [] ρ Q := by
  intro f
  induction f with
  | zero =>
    intro k ρ o3 hk hf hL hR hK
    obtain rfl : k = 12 := by omega
    refine wp_iload_n dX0_laysStable_134 rfl ?_
    refine wp_bipush dX0_laysStable_135 12 rfl ?_
    refine wp_icmp_geN dX0_laysStable_137 250 (by decide) 12 12 rfl rfl (by omega) (by omega) (fun c137 => ?_) (fun c137 => ?_)
    · exact hQ _ _ _ hf hL hR hK
    · omega
  | succ f ih =>
    intro k ρ o3 hk hf hL hR hK
    have hk12 : k < 12 := by omega
    have hC := hC0.kr hf.1
    have eG := LGs hf
    have st : roundS L (fun i => askerV (LG σ (b + 2)) (nI i)) S0 (k + 1) = stepS L (fun i => askerV (LG σ (b + 2)) (nI i)) k (roundS L (fun i => askerV (LG σ (b + 2)) (nI i)) S0 k) := rfl
    have next : ∀ ρ o3, Fr (sW b) b σ ρ → LkA b L ρ → SR b (roundS L (fun i => askerV (LG σ (b + 2)) (nI i)) S0 (k + 1)).1 ρ → KO (roundS L (fun i => askerV (LG σ (b + 2)) (nI i)) S0 (k + 1)).1 → WP Γ m_X0_laysStable 52 0 0 244 [some (.ref b), some (.int (bI (roundS L (fun i => askerV (LG σ (b + 2)) (nI i)) S0 (k + 1)).2)), some (.int (nI k)), o3] [] ρ Q := by
      intro ρ o3 hf hL hR hK
      refine wp_iinc dX0_laysStable_244 rfl rfl (nI (k + 1)) (nI_add k 1) ?_
      refine wp_goto dX0_laysStable_247 134 (by decide) ?_
      exact ih (k + 1) _ _ (by omega) hf hL hR hK
    rw [st] at next
    generalize roundS L (fun i => askerV (LG σ (b + 2)) (nI i)) S0 k = s at *
    have none' : nextS L (fun i => askerV (LG σ (b + 2)) (nI i)) s.1 k = none → ∀ o3, WP Γ m_X0_laysStable 52 0 0 244 [some (.ref b), some (.int (bI s.2)), some (.int (nI k)), o3] [] ρ Q := by
      intro h o3
      have e : stepS L (fun i => askerV (LG σ (b + 2)) (nI i)) k s = s := by rw [stepS, h]
      rw [e] at next
      exact next ρ o3 hf hL hR hK
    have some' : ∀ j, nextS L (fun i => askerV (LG σ (b + 2)) (nI i)) s.1 k = some j → WP Γ m_X0_laysStable 52 0 0 176 [some (.ref b), some (.int (bI s.2)), some (.int (nI k)), some (.int (nI j))] [] ρ Q := by
      intro j h
      have e : stepS L (fun i => askerV (LG σ (b + 2)) (nI i)) k s = ((stepK L s.1.1 k j, stepA s.1 k j), true) := by rw [stepS, h]
      rw [e] at next
      have hj := (nextS_some h).1
      have hRA : SR b (s.1.1, stepA s.1 k j) (setI ρ (b + 188) k (s.1.2 k ||| 1 <<< (nI j &&& 31))) := hR.setA _
      have hLA : LkA b L (setI ρ (b + 188) k (s.1.2 k ||| 1 <<< (nI j &&& 31))) := hL.setI (by omega)
      have hfA : Fr (sW b) b σ (setI ρ (b + 188) k (s.1.2 k ||| 1 <<< (nI j &&& 31))) := hf.setI (Or.inr (by omega))
      have hKK := hK.step (L := L) (i := k) (j := j) (A := stepA s.1 k j) hk12 hj
      have at208 : moreB L j k (s.1.1 j) = true → WP Γ m_X0_laysStable 52 0 0 208 [some (.ref b), some (.int 1), some (.int (nI k)), some (.int (nI j))] [] (setI ρ (b + 188) k (s.1.2 k ||| 1 <<< (nI j &&& 31))) Q := by
        intro hm
        have eK : stepK L s.1.1 k j = updF (updF (clrK s.1.1 (s.1.1 j)) j (some k)) k (some j) := by rw [stepK, if_pos hm]
        generalize (setI ρ (b + 188) k (s.1.2 k ||| 1 <<< (nI j &&& 31))) = ρ1 at *
        have at230 : ∀ ρ2 K2, Fr (sW b) b σ ρ2 → LkA b L ρ2 → SR b (K2, stepA s.1 k j) ρ2 → updF (updF K2 j (some k)) k (some j) = stepK L s.1.1 k j → WP Γ m_X0_laysStable 52 0 0 230 [some (.ref b), some (.int 1), some (.int (nI k)), some (.int (nI j))] [] ρ2 Q := by
          intro ρ2 K2 hf2 hL2 hR2 e2
          have hC := hC0.kr hf2.1
          have hR3 := (hR2.setK (i := j) (some k)).setK (i := k) (some j)
          rw [show ((updF (updF K2 j (some k), stepA s.1 k j).1 k (some j), (updF K2 j (some k), stepA s.1 k j).2) : Sts) = (stepK L s.1.1 k j, stepA s.1 k j) by rw [← e2]] at hR3
          refine wp_aload_n dX0_laysStable_230 rfl ?_
          refine wp_getR dX0_laysStable_231 gfa_X0_62_0 rfl hC.k0 hC.r10 ?_
          refine wp_iload_n dX0_laysStable_234 rfl ?_
          refine wp_iload_n dX0_laysStable_235 rfl ?_
          refine wp_iast dX0_laysStable_236 hC.k187 j rfl (by omega) (by omega) ?_
          refine wp_aload_n dX0_laysStable_237 rfl ?_
          refine wp_getR dX0_laysStable_238 gfa_X0_62_0 rfl hC.k0 hC.r10 ?_
          refine wp_iload_n dX0_laysStable_241 rfl ?_
          refine wp_iload_n dX0_laysStable_242 rfl ?_
          refine wp_iast dX0_laysStable_243 hC.k187 k rfl (by omega) (by omega) ?_
          exact next _ _ ((hf2.setI (Or.inr (by omega))).setI (Or.inr (by omega))) ((hL2.setI (by omega)).setI (by omega)) hR3 hKK
        have hC := hC0.kr hfA.1
        have hv := (hRA j hj).1
        have hv : stI ρ1 (b + 187) j = okI (s.1.1 j) := hv
        cases ho : s.1.1 j with
        | none =>
          rw [ho] at hv
          refine wp_aload_n dX0_laysStable_208 rfl ?_
          refine wp_getR dX0_laysStable_209 gfa_X0_62_0 rfl hC.k0 hC.r10 ?_
          refine wp_iload_n dX0_laysStable_212 rfl ?_
          refine wp_iald dX0_laysStable_213 hC.k187 j rfl (by omega) (by omega) ?_
          rw [hv]
          refine wp_iconst dX0_laysStable_214 (-1) rfl ?_
          refine wp_icmp_eq dX0_laysStable_215 230 (by decide) (fun c215 => ?_) (fun c215 => ?_)
          · exact at230 _ s.1.1 hfA hLA hRA (by rw [eK, ho]; rfl)
          · exact absurd rfl c215
        | some o =>
          have ho12 := hK j o ho
          rw [ho] at hv
          refine wp_aload_n dX0_laysStable_208 rfl ?_
          refine wp_getR dX0_laysStable_209 gfa_X0_62_0 rfl hC.k0 hC.r10 ?_
          refine wp_iload_n dX0_laysStable_212 rfl ?_
          refine wp_iald dX0_laysStable_213 hC.k187 j rfl (by omega) (by omega) ?_
          rw [hv]
          refine wp_iconst dX0_laysStable_214 (-1) rfl ?_
          refine wp_icmp_eq dX0_laysStable_215 230 (by decide) (fun c215 => ?_) (fun c215 => ?_)
          · first | exact absurd c215 (nI_nm1 (by omega)) | exact at230 _ (updF s.1.1 o none) (hfA.setI (Or.inr (by omega))) (hLA.setI (by omega)) (hRA.setK none) (by rw [eK, ho]; rfl)
          · refine wp_aload_n dX0_laysStable_218 rfl ?_
            refine wp_getR dX0_laysStable_219 gfa_X0_62_0 rfl hC.k0 hC.r10 ?_
            refine wp_aload_n dX0_laysStable_222 rfl ?_
            refine wp_getR dX0_laysStable_223 gfa_X0_62_0 rfl hC.k0 hC.r10 ?_
            refine wp_iload_n dX0_laysStable_226 rfl ?_
            refine wp_iald dX0_laysStable_227 hC.k187 j rfl (by omega) (by omega) ?_
            refine wp_iconst dX0_laysStable_228 (-1) rfl ?_
            refine wp_iast dX0_laysStable_229 hC.k187 o hv (by omega) (by omega) ?_
            first | exact absurd c215 (nI_nm1 (by omega)) | exact at230 _ (updF s.1.1 o none) (hfA.setI (Or.inr (by omega))) (hLA.setI (by omega)) (hRA.setK none) (by rw [eK, ho]; rfl)
      have hvA : stI ρ (b + 188) k = s.1.2 k := (hR k hk12).2
      refine wp_iconst dX0_laysStable_176 1 rfl ?_
      refine wp_istore_n dX0_laysStable_177 rfl ?_
      refine wp_aload_n dX0_laysStable_178 rfl ?_
      refine wp_getR dX0_laysStable_179 gfa_X0_66_0 rfl hC.k0 hC.r11 ?_
      refine wp_iload_n dX0_laysStable_182 rfl ?_
      refine wp_dup2 dX0_laysStable_183 rfl rfl ?_
      refine wp_iald dX0_laysStable_184 hC.k188 k rfl (by omega) (by omega) ?_
      rw [hvA]
      refine wp_iconst dX0_laysStable_185 1 rfl ?_
      refine wp_iload_n dX0_laysStable_186 rfl ?_
      refine wp_ishl dX0_laysStable_187 ?_
      refine wp_ior dX0_laysStable_188 ?_
      refine wp_iast dX0_laysStable_189 hC.k188 k rfl (by omega) (by omega) ?_
      have hC := hC0.kr hfA.1
      have hvj := (hRA j hj).1
      refine wp_aload_n dX0_laysStable_190 rfl ?_
      refine wp_iload_n dX0_laysStable_191 rfl ?_
      refine wp_iload_n dX0_laysStable_192 rfl ?_
      refine wp_aload_n dX0_laysStable_193 rfl ?_
      refine wp_getR dX0_laysStable_194 gfa_X0_62_0 rfl hC.k0 hC.r10 ?_
      refine wp_iload_n dX0_laysStable_197 rfl ?_
      refine wp_iald dX0_laysStable_198 hC.k187 j rfl (by omega) (by omega) ?_
      rw [show stI (setI ρ (b + 188) k (s.1.2 k ||| 1 <<< (nI j &&& 31))) (b + 187) j = okI (s.1.1 j) from hvj]
      refine wp_cI (gcV dX0_laysStable_199 gva_X0_256_0 (ct_likesMore (s.1.1 j) hj hk12 (hK j) hC hLA) hC.k0 rfl rfl (by omega) (by omega) (by omega) (Nat.le_of_ble_eq_true rfl) rfl) ?_
      refine wp_if_ne dX0_laysStable_202 208 (by decide) (fun c202 => ?_) (fun c202 => ?_)
      · exact at208 (bI_1.mp c202)
      · refine wp_goto dX0_laysStable_205 244 (by decide) ?_
        refine next _ _ hfA hLA ?_ hKK
        rw [show stepK L s.1.1 k j = s.1.1 by rw [stepK, bI_0.mp c202]; rfl]
        exact hRA
    have hvk : stI ρ (b + 187) k = okI (s.1.1 k) := (hR k hk12).1
    have hO := okI_n (s.1.1 k) (hK k)
    refine wp_iload_n dX0_laysStable_134 rfl ?_
    refine wp_bipush dX0_laysStable_135 12 rfl ?_
    refine wp_icmp_geN dX0_laysStable_137 250 (by decide) k 12 rfl rfl (by omega) (by omega) (fun c137 => ?_) (fun c137 => ?_)
    · omega
    · refine wp_aload_n dX0_laysStable_140 rfl ?_
      refine wp_iload_n dX0_laysStable_141 rfl ?_
      refine wp_cI (gcV dX0_laysStable_142 gva_X0_243_0 (ct_isAsker _ hC) hC.k0 rfl rfl (by omega) (by omega) (by omega) (Nat.le_of_ble_eq_true rfl) rfl) ?_
      rw [eG]
      refine wp_if_eq dX0_laysStable_145 166 (by decide) (fun c145 => ?_) (fun c145 => ?_)
      · refine wp_iconst dX0_laysStable_166 (-1) rfl ?_
        refine wp_istore_n dX0_laysStable_167 rfl ?_
        refine wp_iload_n dX0_laysStable_168 rfl ?_
        refine wp_iconst dX0_laysStable_169 (-1) rfl ?_
        refine wp_icmp_ne dX0_laysStable_170 176 (by decide) (fun c170 => ?_) (fun c170 => ?_)
        · first | exact absurd rfl c170 | (have e : nextS L (fun i => askerV (LG σ (b + 2)) (nI i)) s.1 k = nextN L (s.1.2 k) k 12 := (by rw [nextS, if_pos (by rw [bI_1.mp c145, decide_eq_true (hO.mp c155)]; rfl)]); cases hn : nextN L (s.1.2 k) k 12 with | none => (rw [hn] at c170; exact absurd rfl c170) | some j => exact some' j (e.trans hn))
        · refine wp_goto dX0_laysStable_173 244 (by decide) ?_
          refine none' ?_ _
          first | (rw [nextS, if_neg (by rw [bI_0.mp c145]; simp)]; done) | (rw [nextS, if_neg (by rw [decide_eq_false (p := s.1.1 k = none) (fun h => c155 (hO.mpr h))]; simp)]; done) | (rw [nextS, if_pos (by rw [bI_1.mp c145, decide_eq_true (hO.mp c155)]; rfl)]; exact (okI_n _ (fun q h => nextN_lt 12 h)).mp c170)
      · refine wp_aload_n dX0_laysStable_148 rfl ?_
        refine wp_getR dX0_laysStable_149 gfa_X0_62_0 rfl hC.k0 hC.r10 ?_
        refine wp_iload_n dX0_laysStable_152 rfl ?_
        refine wp_iald dX0_laysStable_153 hC.k187 k rfl (by omega) (by omega) ?_
        rw [hvk]
        refine wp_iconst dX0_laysStable_154 (-1) rfl ?_
        refine wp_icmp_ne dX0_laysStable_155 166 (by decide) (fun c155 => ?_) (fun c155 => ?_)
        · refine wp_iconst dX0_laysStable_166 (-1) rfl ?_
          refine wp_istore_n dX0_laysStable_167 rfl ?_
          refine wp_iload_n dX0_laysStable_168 rfl ?_
          refine wp_iconst dX0_laysStable_169 (-1) rfl ?_
          refine wp_icmp_ne dX0_laysStable_170 176 (by decide) (fun c170 => ?_) (fun c170 => ?_)
          · first | exact absurd rfl c170 | (have e : nextS L (fun i => askerV (LG σ (b + 2)) (nI i)) s.1 k = nextN L (s.1.2 k) k 12 := (by rw [nextS, if_pos (by rw [bI_1.mp c145, decide_eq_true (hO.mp c155)]; rfl)]); cases hn : nextN L (s.1.2 k) k 12 with | none => (rw [hn] at c170; exact absurd rfl c170) | some j => exact some' j (e.trans hn))
          · refine wp_goto dX0_laysStable_173 244 (by decide) ?_
            refine none' ?_ _
            first | (rw [nextS, if_neg (by rw [bI_0.mp c145]; simp)]; done) | (rw [nextS, if_neg (by rw [decide_eq_false (p := s.1.1 k = none) (fun h => c155 (hO.mpr h))]; simp)]; done) | (rw [nextS, if_pos (by rw [bI_1.mp c145, decide_eq_true (hO.mp c155)]; rfl)]; exact (okI_n _ (fun q h => nextN_lt 12 h)).mp c170)
        · refine wp_aload_n dX0_laysStable_158 rfl ?_
          refine wp_iload_n dX0_laysStable_159 rfl ?_
          refine wp_cI (gcV dX0_laysStable_160 gva_X0_259_0 (ct_nextFor hk12 hC hL ((hR k hk12).2)) hC.k0 rfl rfl (by omega) (by omega) (by omega) (Nat.le_of_ble_eq_true rfl) rfl) ?_
          refine wp_goto dX0_laysStable_163 167 (by decide) ?_
          refine wp_istore_n dX0_laysStable_167 rfl ?_
          refine wp_iload_n dX0_laysStable_168 rfl ?_
          refine wp_iconst dX0_laysStable_169 (-1) rfl ?_
          refine wp_icmp_ne dX0_laysStable_170 176 (by decide) (fun c170 => ?_) (fun c170 => ?_)
          · first | exact absurd rfl c170 | (have e : nextS L (fun i => askerV (LG σ (b + 2)) (nI i)) s.1 k = nextN L (s.1.2 k) k 12 := (by rw [nextS, if_pos (by rw [bI_1.mp c145, decide_eq_true (hO.mp c155)]; rfl)]); cases hn : nextN L (s.1.2 k) k 12 with | none => (rw [hn] at c170; exact absurd rfl c170) | some j => exact some' j (e.trans hn))
          · refine wp_goto dX0_laysStable_173 244 (by decide) ?_
            refine none' ?_ _
            first | (rw [nextS, if_neg (by rw [bI_0.mp c145]; simp)]; done) | (rw [nextS, if_neg (by rw [decide_eq_false (p := s.1.1 k = none) (fun h => c155 (hO.mpr h))]; simp)]; done) | (rw [nextS, if_pos (by rw [bI_1.mp c145, decide_eq_true (hO.mp c155)]; rfl)]; exact (okI_n _ (fun q h => nextN_lt 12 h)).mp c170)
end
