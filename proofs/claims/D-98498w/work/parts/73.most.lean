set_option maxRecDepth 100000
def bW (b : Nat) : Nat → Prop := fun c => c = b + 1 ∨ (b + 161 ≤ c ∧ c < b + 187)
def GA (b : Nat) (g : Nat → Nat → Int32) (i j : Nat) (ρ : St) : Prop := ∀ i' j', i' < 12 → j' < 12 → (i' < i ∨ i' = i ∧ j' < j) → stI ρ (b + 175 + i') j' = g i' j'
def BA (b : Nat) (g : Nat → Nat → Int32) (A m : Nat) (ρ : St) : Prop := ∀ i, m ≤ i → i ≤ 12 → ∀ s, subN s A → stI ρ (b + 161 + i) s = bstP g (12 - i) s.testBit
def BR (b : Nat) (g : Nat → Nat → Int32) (A i s : Nat) (ρ : St) : Prop := ∀ s', s' < s → subN s' A → stI ρ (b + 161 + i) s' = bstP g (12 - i) s'.testBit
section
variable {Γ : Gm} {σ : St} {b hi : Nat} {Lw : Lws}
theorem bW_law : ∀ c, bW b c → c < b + 156 ∨ (b + 160 ≤ c ∧ c < b + 794) := fun c h => by unfold bW at h; omega
theorem LGB {τ : St} (hf : Fr (bW b) b σ τ) : LG τ (b + 2) = LG σ (b + 2) := LG_fr hf (fun c h => by unfold bW at h; omega)
theorem ct_gainBy {i j s A : Nat} {g : Nat → Nat → Int32} (hi' : i < 12) (hj : j ≤ 12) (hA : A < 4096) (hs : subN s A) (hC : CK b σ) (hG : GA b g 12 0 σ) (hB : BA b g A (i + 1) σ) : Ct Γ 0 0 0 m_X0_gainBy [.ref b, .int (nI i), .int (nI j), .int (nI s)] σ (fun r τ => r = some (.int (if j = 12 then bstP g (11 - i) s.testBit else g i j + bstP g (11 - i) (lessP s.testBit j))) ∧ τ = σ) := by
  refine Ct.ofWP pf_X0_gainBy rfl rfl ?_
  have hs1 := subN_le hs
  have e11 : 12 - (i + 1) = 11 - i := by omega
  by_cases hj' : j = 12
  · rw [if_pos hj']
    refine wp_iload_n dX0_gainBy_0 rfl ?_
    refine wp_bipush dX0_gainBy_1 12 rfl ?_
    refine wp_icmp_neN dX0_gainBy_3 19 (by decide) j 12 rfl rfl (by omega) (by omega) (fun c3 => ?_) (fun c3 => ?_)
    · exact absurd hj' c3
    · refine wp_aload_n dX0_gainBy_6 rfl ?_
      refine wp_getR dX0_gainBy_7 gfa_X0_56_0 rfl hC.k0 hC.r8 ?_
      refine wp_iload_n dX0_gainBy_10 rfl ?_
      refine wp_iconst dX0_gainBy_11 1 rfl ?_
      refine wp_iadd dX0_gainBy_12 ?_
      refine wp_top (y := nI (i + 1)) (nI_add i 1) ?_
      refine wp_aald dX0_gainBy_13 hC.k160 rfl (i + 1) rfl (by omega) (by omega) (hC.rB (by omega)) ?_
      refine wp_iload_n dX0_gainBy_14 rfl ?_
      refine wp_iald dX0_gainBy_15 (hC.kB (by omega)) s rfl (by omega) (by omega) ?_
      rw [hB (i + 1) (by omega) (by omega) s hs, e11]
      refine wp_goto dX0_gainBy_16 44 (by decide) ?_
      refine wp_iret dX0_gainBy_44 rfl ?_
      first | exact ⟨rfl, rfl⟩ | exact absurd hj' c3
  · rw [if_neg hj']
    have hc := clrN_sub (s := s) (j := j) (by omega) (by omega)
    have hc1 := subN_le hc
    refine wp_iload_n dX0_gainBy_0 rfl ?_
    refine wp_bipush dX0_gainBy_1 12 rfl ?_
    refine wp_icmp_neN dX0_gainBy_3 19 (by decide) j 12 rfl rfl (by omega) (by omega) (fun c3 => ?_) (fun c3 => ?_)
    · refine wp_aload_n dX0_gainBy_19 rfl ?_
      refine wp_getR dX0_gainBy_20 gfa_X0_59_0 rfl hC.k0 hC.r9 ?_
      refine wp_iload_n dX0_gainBy_23 rfl ?_
      refine wp_aald dX0_gainBy_24 hC.k174 rfl i rfl (by omega) (by omega) (hC.rG (by omega)) ?_
      refine wp_iload_n dX0_gainBy_25 rfl ?_
      refine wp_iald dX0_gainBy_26 (hC.kG (by omega)) j rfl (by omega) (by omega) ?_
      rw [hG i j hi' (by omega) (Or.inl hi')]
      refine wp_aload_n dX0_gainBy_27 rfl ?_
      refine wp_getR dX0_gainBy_28 gfa_X0_56_0 rfl hC.k0 hC.r8 ?_
      refine wp_iload_n dX0_gainBy_31 rfl ?_
      refine wp_iconst dX0_gainBy_32 1 rfl ?_
      refine wp_iadd dX0_gainBy_33 ?_
      refine wp_top (y := nI (i + 1)) (nI_add i 1) ?_
      refine wp_aald dX0_gainBy_34 hC.k160 rfl (i + 1) rfl (by omega) (by omega) (hC.rB (by omega)) ?_
      refine wp_iload_n dX0_gainBy_35 rfl ?_
      refine wp_iconst dX0_gainBy_36 1 rfl ?_
      refine wp_iload_n dX0_gainBy_37 rfl ?_
      refine wp_ishl dX0_gainBy_38 ?_
      refine wp_iconst dX0_gainBy_39 (-1) rfl ?_
      refine wp_ixor dX0_gainBy_40 ?_
      refine wp_iand dX0_gainBy_41 ?_
      refine wp_iald dX0_gainBy_42 (hC.kB (by omega)) (clrN s j) (clrN_nI s j).symm (by omega) (by omega) ?_
      rw [hB (i + 1) (by omega) (by omega) _ (subN_trans hc hs), e11, clrN_fn (by omega) (by omega)]
      refine wp_iadd dX0_gainBy_43 ?_
      refine wp_iret dX0_gainBy_44 rfl ?_
      exact ⟨rfl, rfl⟩
    · exact absurd c3 hj'
theorem GA.fr {g : Nat → Nat → Int32} {i j : Nat} {ρ τ : St} (h : GA b g i j ρ) (hf : Fr (isM b) b ρ τ) : GA b g i j τ := fun i' j' h1 h2 h3 => by
  rw [hf.2 _ (show ¬ (b + 175 + i' = b + 1) by omega)]; exact h i' j' h1 h2 h3
theorem GA.set {g : Nat → Nat → Int32} {i j : Nat} {x : Int32} {ρ : St} (h : GA b g i j ρ) (hx : x = g i j) : GA b g i (j + 1) (setI ρ (b + 175 + i) j x) := fun i' j' h1 h2 h3 => by
  rw [stI_setI]
  by_cases e : b + 175 + i' = b + 175 + i ∧ j' = j
  · obtain ⟨e1, rfl⟩ := e
    obtain rfl : i' = i := by omega
    rw [if_pos ⟨rfl, rfl⟩, hx]
  · rw [if_neg e]; exact h i' j' h1 h2 (by omega)
theorem GA.setB {g : Nat → Nat → Int32} {i j k s : Nat} {x : Int32} {ρ : St} (h : GA b g i j ρ) (hk : k ≤ 12) : GA b g i j (setI ρ (b + 161 + k) s x) := fun i' j' h1 h2 h3 => by
  rw [stI_setI, if_neg (by omega)]; exact h i' j' h1 h2 h3
theorem BA.setB {g : Nat → Nat → Int32} {A i s : Nat} {x : Int32} {ρ : St} (h : BA b g A (i + 1) ρ) : BA b g A (i + 1) (setI ρ (b + 161 + i) s x) := fun i' h1 h2 s' h3 => by
  rw [stI_setI, if_neg (by omega)]; exact h i' h1 h2 s' h3
theorem BR.setB {g : Nat → Nat → Int32} {A i s t : Nat} {x : Int32} {ρ : St} (h : BR b g A i s ρ) (ht : s ≤ t) : BR b g A i s (setI ρ (b + 161 + i) t x) := fun s' h1 h2 => by
  rw [stI_setI, if_neg (by omega)]; exact h s' h1 h2
theorem setBst_fr {k s : Nat} {x : Int32} {ρ : St} (h : Fr (bW b) b σ ρ) (hk : k ≤ 12) : Fr (bW b) b σ (setI ρ (b + 161 + k) s x) := h.setI (Or.inr (by omega))
theorem bstS_t {g : Nat → Int32} {v : Int32} {f : Nat → Int32} {P : Nat → Bool} {n : Nat} (h : P n = true) (h2 : 0 < g n) : bstS g v f P (n + 1) = imax (bstS g v f P n) (g n + f n) := by
  unfold bstS
  rw [folN, if_pos ⟨h, h2⟩]
theorem bstS_f {g : Nat → Int32} {v : Int32} {f : Nat → Int32} {P : Nat → Bool} {n : Nat} (h : ¬ (P n = true ∧ 0 < g n)) : bstS g v f P (n + 1) = bstS g v f P n := by
  unfold bstS
  rw [folN, if_neg h]
theorem bstP_0 {g : Nat → Nat → Int32} {P : Nat → Bool} : bstP g 0 P = 0 := rfl
theorem bstP_row {g : Nat → Nat → Int32} {i : Nat} (hi : i < 12) (P : Nat → Bool) : bstP g (12 - i) P = bstS (g i) (bstP g (11 - i) P) (fun j => bstP g (11 - i) (lessP P j)) P 12 := by
  rw [show 12 - i = (11 - i) + 1 by omega, bstP, show 11 - (11 - i) = i by omega]
theorem ct_laysBest (hS : Sy b hi Lw σ) : Ct Γ 52 0 0 m_X0_laysBest [.ref b] σ (fun r τ => ∃ y, r = some (.int y) ∧ (y = nI (setN (allP (LG σ (b + 2)))) ∧ (Fr (bW b) b σ τ ∧ (GA b (gainF Lw (LG σ (b + 2))) 12 0 τ ∧ BA b (gainF Lw (LG σ (b + 2))) (setN (allP (LG σ (b + 2)))) 0 τ)))) := by
  refine Ct.ofWP pf_X0_laysBest rfl rfl ?_
  have hC := hS.1
  have hA : (setN (allP (LG σ (b + 2)))) < 4096 := setN_lt _
  generalize hg : gainF Lw (LG σ (b + 2)) = g
  have rowL : ∀ i s, i < 12 → subN s (setN (allP (LG σ (b + 2)))) → s < 4096 → ∀ f k ρ, k + f = 12 → Fr (bW b) b σ ρ → GA b g 12 0 ρ → BA b g (setN (allP (LG σ (b + 2)))) (i + 1) ρ → BR b g (setN (allP (LG σ (b + 2)))) i s ρ → stI ρ (b + 161 + i) s = bstS (g i) (bstP g (11 - i) s.testBit) (fun j => bstP g (11 - i) (lessP s.testBit j)) s.testBit k →
      (∀ ρ o4, Fr (bW b) b σ ρ → GA b g 12 0 ρ → BA b g (setN (allP (LG σ (b + 2)))) (i + 1) ρ → BR b g (setN (allP (LG σ (b + 2)))) i (s + 1) ρ → WP Γ m_X0_laysBest 52 0 0 264 [some (.ref b), some (.int (nI (setN (allP (LG σ (b + 2)))))), some (.int (nI i)), some (.int (nI s)), o4] [] ρ (fun r τ => ∃ y, r = some (.int y) ∧ (y = nI (setN (allP (LG σ (b + 2)))) ∧ (Fr (bW b) b σ τ ∧ (GA b g 12 0 τ ∧ BA b g (setN (allP (LG σ (b + 2)))) 0 τ))))) →
      WP Γ m_X0_laysBest 52 0 0 203 [some (.ref b), some (.int (nI (setN (allP (LG σ (b + 2)))))), some (.int (nI i)), some (.int (nI s)), some (.int (nI k))] [] ρ (fun r τ => ∃ y, r = some (.int y) ∧ (y = nI (setN (allP (LG σ (b + 2)))) ∧ (Fr (bW b) b σ τ ∧ (GA b g 12 0 τ ∧ BA b g (setN (allP (LG σ (b + 2)))) 0 τ)))) := by
    intro i s hi' hs hs4 f
    induction f with
    | zero =>
      intro k ρ hk hf hG hB hR hv hQ
      obtain rfl : k = 12 := by omega
      refine wp_iload dX0_laysBest_203 rfl ?_
      refine wp_bipush dX0_laysBest_205 12 rfl ?_
      refine wp_icmp_geN dX0_laysBest_207 264 (by decide) 12 12 rfl rfl (by omega) (by omega) (fun c207 => ?_) (fun c207 => ?_)
      · refine hQ _ _ hf hG hB (fun s' h1 h2 => ?_)
        by_cases e : s' = s
        · subst e; rw [hv, bstP_row hi']
        · exact hR s' (by omega) h2
      · omega
    | succ f ih =>
      intro k ρ hk hf hG hB hR hv hQ
      have hC := hC.kr hf.1
      refine wp_iload dX0_laysBest_203 rfl ?_
      refine wp_bipush dX0_laysBest_205 12 rfl ?_
      refine wp_icmp_geN dX0_laysBest_207 264 (by decide) k 12 rfl rfl (by omega) (by omega) (fun c207 => ?_) (fun c207 => ?_)
      · omega
      · refine wp_iload_n dX0_laysBest_210 rfl ?_
        refine wp_iload dX0_laysBest_211 rfl ?_
        refine wp_cI (gcS dX0_laysBest_213 gsa_X0_246 (ct_has _ _) rfl rfl (by omega) (by omega) (by omega) (Nat.le_of_ble_eq_true rfl) rfl) ?_
        rw [hasB_n (by omega) (by omega)]
        refine wp_if_eq dX0_laysBest_216 258 (by decide) (fun c216 => ?_) (fun c216 => ?_)
        · refine wp_iinc dX0_laysBest_258 rfl rfl (nI (k + 1)) (nI_add k 1) ?_
          refine wp_goto dX0_laysBest_261 203 (by decide) ?_
          skip
          first | (refine ih (k + 1) _ (by omega) (setBst_fr hf (by omega)) (hG.setB (by omega)) hB.setB (hR.setB (Nat.le_refl s)) ?_ hQ; rw [stI_setI, if_pos ⟨rfl, rfl⟩, bstS_t (bI_1.mp c216) (Int32.not_le.mp c228)]) | (refine ih (k + 1) _ (by omega) hf hG hB hR ?_ hQ; rw [hv, bstS_f (fun h => absurd h.2 (Int32.not_lt.mpr c228))]) | (refine ih (k + 1) _ (by omega) hf hG hB hR ?_ hQ; rw [hv, bstS_f (fun h => absurd h.1 (by rw [bI_0.mp c216]; decide))])
        · refine wp_aload_n dX0_laysBest_219 rfl ?_
          refine wp_getR dX0_laysBest_220 gfa_X0_59_0 rfl hC.k0 hC.r9 ?_
          refine wp_iload_n dX0_laysBest_223 rfl ?_
          refine wp_aald dX0_laysBest_224 hC.k174 rfl i rfl (by omega) (by omega) (hC.rG (by omega)) ?_
          refine wp_iload dX0_laysBest_225 rfl ?_
          refine wp_iald dX0_laysBest_227 (hC.kG (by omega)) k rfl (by omega) (by omega) ?_
          rw [hG i k hi' (by omega) (Or.inl hi')]
          refine wp_if_le dX0_laysBest_228 258 (by decide) (fun c228 => ?_) (fun c228 => ?_)
          · refine wp_iinc dX0_laysBest_258 rfl rfl (nI (k + 1)) (nI_add k 1) ?_
            refine wp_goto dX0_laysBest_261 203 (by decide) ?_
            skip
            first | (refine ih (k + 1) _ (by omega) (setBst_fr hf (by omega)) (hG.setB (by omega)) hB.setB (hR.setB (Nat.le_refl s)) ?_ hQ; rw [stI_setI, if_pos ⟨rfl, rfl⟩, bstS_t (bI_1.mp c216) (Int32.not_le.mp c228)]) | (refine ih (k + 1) _ (by omega) hf hG hB hR ?_ hQ; rw [hv, bstS_f (fun h => absurd h.2 (Int32.not_lt.mpr c228))]) | (refine ih (k + 1) _ (by omega) hf hG hB hR ?_ hQ; rw [hv, bstS_f (fun h => absurd h.1 (by rw [bI_0.mp c216]; decide))])
          · refine wp_aload_n dX0_laysBest_231 rfl ?_
            refine wp_getR dX0_laysBest_232 gfa_X0_56_0 rfl hC.k0 hC.r8 ?_
            refine wp_iload_n dX0_laysBest_235 rfl ?_
            refine wp_aald dX0_laysBest_236 hC.k160 rfl i rfl (by omega) (by omega) (hC.rB (by omega)) ?_
            refine wp_iload_n dX0_laysBest_237 rfl ?_
            refine wp_aload_n dX0_laysBest_238 rfl ?_
            refine wp_getR dX0_laysBest_239 gfa_X0_56_0 rfl hC.k0 hC.r8 ?_
            refine wp_iload_n dX0_laysBest_242 rfl ?_
            refine wp_aald dX0_laysBest_243 hC.k160 rfl i rfl (by omega) (by omega) (hC.rB (by omega)) ?_
            refine wp_iload_n dX0_laysBest_244 rfl ?_
            refine wp_iald dX0_laysBest_245 (hC.kB (by omega)) s rfl (by omega) (by omega) ?_
            rw [hv]
            refine wp_aload_n dX0_laysBest_246 rfl ?_
            refine wp_iload_n dX0_laysBest_247 rfl ?_
            refine wp_iload dX0_laysBest_248 rfl ?_
            refine wp_iload_n dX0_laysBest_250 rfl ?_
            refine wp_cI (gcV dX0_laysBest_251 gva_X0_249_0 (ct_gainBy hi' (by omega) hA hs hC hG hB) hC.k0 rfl rfl (by omega) (by omega) (by omega) (Nat.le_of_ble_eq_true rfl) rfl) ?_
            rw [if_neg (by omega)]
            refine wp_cI (gcS dX0_laysBest_254 gsa_X0_7 (ct_max _ _) rfl rfl (by omega) (by omega) (by omega) (Nat.le_of_ble_eq_true rfl) rfl) ?_
            refine wp_iast dX0_laysBest_257 (hC.kB (by omega)) s rfl (by omega) (by omega) ?_
            refine wp_iinc dX0_laysBest_258 rfl rfl (nI (k + 1)) (nI_add k 1) ?_
            refine wp_goto dX0_laysBest_261 203 (by decide) ?_
            skip
            first | (refine ih (k + 1) _ (by omega) (setBst_fr hf (by omega)) (hG.setB (by omega)) hB.setB (hR.setB (Nat.le_refl s)) ?_ hQ; rw [stI_setI, if_pos ⟨rfl, rfl⟩, bstS_t (bI_1.mp c216) (Int32.not_le.mp c228)]) | (refine ih (k + 1) _ (by omega) hf hG hB hR ?_ hQ; rw [hv, bstS_f (fun h => absurd h.2 (Int32.not_lt.mpr c228))]) | (refine ih (k + 1) _ (by omega) hf hG hB hR ?_ hQ; rw [hv, bstS_f (fun h => absurd h.1 (by rw [bI_0.mp c216]; decide))])
  have rowS : ∀ i, i < 12 → (∀ ρ o3 o4, Fr (bW b) b σ ρ → GA b g 12 0 ρ → BA b g (setN (allP (LG σ (b + 2)))) i ρ → WP Γ m_X0_laysBest 52 0 0 270 [some (.ref b), some (.int (nI (setN (allP (LG σ (b + 2)))))), some (.int (nI i)), o3, o4] [] ρ (fun r τ => ∃ y, r = some (.int y) ∧ (y = nI (setN (allP (LG σ (b + 2)))) ∧ (Fr (bW b) b σ τ ∧ (GA b g 12 0 τ ∧ BA b g (setN (allP (LG σ (b + 2)))) 0 τ))))) → ∀ f s ρ o4, s + f = (setN (allP (LG σ (b + 2)))) + 1 → Fr (bW b) b σ ρ → GA b g 12 0 ρ → BA b g (setN (allP (LG σ (b + 2)))) (i + 1) ρ → BR b g (setN (allP (LG σ (b + 2)))) i s ρ → WP Γ m_X0_laysBest 52 0 0 166 [some (.ref b), some (.int (nI (setN (allP (LG σ (b + 2)))))), some (.int (nI i)), some (.int (nI s)), o4] [] ρ (fun r τ => ∃ y, r = some (.int y) ∧ (y = nI (setN (allP (LG σ (b + 2)))) ∧ (Fr (bW b) b σ τ ∧ (GA b g 12 0 τ ∧ BA b g (setN (allP (LG σ (b + 2)))) 0 τ)))) := by
    intro i hi' hQ f
    induction f with
    | zero =>
      intro s ρ o4 hs hf hG hB hR
      refine wp_iload_n dX0_laysBest_166 rfl ?_
      refine wp_iload_n dX0_laysBest_167 rfl ?_
      refine wp_icmp_gtN dX0_laysBest_168 270 (by decide) s (setN (allP (LG σ (b + 2)))) rfl rfl (by omega) (by omega) (fun c168 => ?_) (fun c168 => ?_)
      · refine hQ _ _ _ hf hG (fun i' h1 h2 s' h3 => ?_)
        by_cases e : i' = i
        · subst e; exact hR s' (by have := subN_le h3; omega) h3
        · exact hB i' (by omega) h2 s' h3
      · omega
    | succ f ih =>
      intro s ρ o4 hs hf hG hB hR
      have hC := hC.kr hf.1
      have next : ∀ ρ o4, Fr (bW b) b σ ρ → GA b g 12 0 ρ → BA b g (setN (allP (LG σ (b + 2)))) (i + 1) ρ → BR b g (setN (allP (LG σ (b + 2)))) i (s + 1) ρ → WP Γ m_X0_laysBest 52 0 0 264 [some (.ref b), some (.int (nI (setN (allP (LG σ (b + 2)))))), some (.int (nI i)), some (.int (nI s)), o4] [] ρ (fun r τ => ∃ y, r = some (.int y) ∧ (y = nI (setN (allP (LG σ (b + 2)))) ∧ (Fr (bW b) b σ τ ∧ (GA b g 12 0 τ ∧ BA b g (setN (allP (LG σ (b + 2)))) 0 τ)))) := by
        intro ρ o4 hf hG hB hR
        refine wp_iinc dX0_laysBest_264 rfl rfl (nI (s + 1)) (nI_add s 1) ?_
        refine wp_goto dX0_laysBest_267 166 (by decide) ?_
        exact ih (s + 1) _ _ (by omega) hf hG hB hR
      have e0 : 12 - (i + 1) = 11 - i := by omega
      refine wp_iload_n dX0_laysBest_166 rfl ?_
      refine wp_iload_n dX0_laysBest_167 rfl ?_
      refine wp_icmp_gtN dX0_laysBest_168 270 (by decide) s (setN (allP (LG σ (b + 2)))) rfl rfl (by omega) (by omega) (fun c168 => ?_) (fun c168 => ?_)
      · omega
      · refine wp_iload_n dX0_laysBest_171 rfl ?_
        refine wp_iload_n dX0_laysBest_172 rfl ?_
        refine wp_iconst dX0_laysBest_173 (-1) rfl ?_
        refine wp_ixor dX0_laysBest_174 ?_
        refine wp_iand dX0_laysBest_175 ?_
        refine wp_if_eq dX0_laysBest_176 182 (by decide) (fun c176 => ?_) (fun c176 => ?_)
        · have hs2 := (sub_iff (by omega) (by omega)).mp c176
          refine wp_aload_n dX0_laysBest_182 rfl ?_
          refine wp_getR dX0_laysBest_183 gfa_X0_56_0 rfl hC.k0 hC.r8 ?_
          refine wp_iload_n dX0_laysBest_186 rfl ?_
          refine wp_aald dX0_laysBest_187 hC.k160 rfl i rfl (by omega) (by omega) (hC.rB (by omega)) ?_
          refine wp_iload_n dX0_laysBest_188 rfl ?_
          refine wp_aload_n dX0_laysBest_189 rfl ?_
          refine wp_getR dX0_laysBest_190 gfa_X0_56_0 rfl hC.k0 hC.r8 ?_
          refine wp_iload_n dX0_laysBest_193 rfl ?_
          refine wp_iconst dX0_laysBest_194 1 rfl ?_
          refine wp_iadd dX0_laysBest_195 ?_
          refine wp_top (y := nI (i + 1)) (nI_add i 1) ?_
          refine wp_aald dX0_laysBest_196 hC.k160 rfl (i + 1) rfl (by omega) (by omega) (hC.rB (by omega)) ?_
          refine wp_iload_n dX0_laysBest_197 rfl ?_
          refine wp_iald dX0_laysBest_198 (hC.kB (by omega)) s rfl (by omega) (by omega) ?_
          rw [hB (i + 1) (by omega) (by omega) s hs2, e0]
          refine wp_iast dX0_laysBest_199 (hC.kB (by omega)) s rfl (by omega) (by omega) ?_
          refine wp_iconst dX0_laysBest_200 0 rfl ?_
          refine wp_istore dX0_laysBest_201 rfl ?_
          refine rowL i s hi' hs2 (by omega) 12 0 _ (by omega) (setBst_fr hf (by omega)) (hG.setB (by omega)) hB.setB (hR.setB (Nat.le_refl s)) ?_ next
          rw [stI_setI, if_pos ⟨rfl, rfl⟩]
          rfl
        · refine wp_goto dX0_laysBest_179 264 (by decide) ?_
          refine next _ _ hf hG hB (fun s' h1 h2 => ?_)
          by_cases e : s' = s
          · subst e; exact absurd ((sub_iff (by omega) (by omega)).mpr h2) c176
          · exact hR s' (by omega) h2
  have rows : ∀ m ρ o3 o4, m ≤ 12 → Fr (bW b) b σ ρ → GA b g 12 0 ρ → BA b g (setN (allP (LG σ (b + 2)))) m ρ → WP Γ m_X0_laysBest 52 0 0 160 [some (.ref b), some (.int (nI (setN (allP (LG σ (b + 2)))))), some (.int (nI m + Int32.ofInt (-1))), o3, o4] [] ρ (fun r τ => ∃ y, r = some (.int y) ∧ (y = nI (setN (allP (LG σ (b + 2)))) ∧ (Fr (bW b) b σ τ ∧ (GA b g 12 0 τ ∧ BA b g (setN (allP (LG σ (b + 2)))) 0 τ)))) := by
    intro m
    induction m with
    | zero =>
      intro ρ o3 o4 hm hf hG hB
      refine wp_iload_n dX0_laysBest_160 rfl ?_
      refine wp_if_lt dX0_laysBest_161 276 (by decide) (fun c161 => ?_) (fun c161 => absurd (by decide) c161)
      refine wp_iload_n dX0_laysBest_276 rfl ?_
      refine wp_iret dX0_laysBest_277 rfl ?_
      exact ⟨_, rfl, rfl, hf, hG, hB⟩
    | succ m ih =>
      intro ρ o3 o4 hm hf hG hB
      have e1 : nI (m + 1) + Int32.ofInt (-1) = nI m := pk_m1 m
      rw [e1]
      refine wp_iload_n dX0_laysBest_160 rfl ?_
      refine wp_if_lt dX0_laysBest_161 276 (by decide) (fun c161 => absurd c161 (nI_pos (by omega))) (fun c161 => ?_)
      refine wp_iconst dX0_laysBest_164 0 rfl ?_
      refine wp_istore_n dX0_laysBest_165 rfl ?_
      refine rowS m (by omega) (fun ρ o3 o4 hf hG hB => ?_) ((setN (allP (LG σ (b + 2)))) + 1) 0 _ _ (by omega) hf hG hB (fun s' h1 h2 => absurd h1 (by omega))
      refine wp_iinc dX0_laysBest_270 rfl rfl _ rfl ?_
      refine wp_goto dX0_laysBest_273 160 (by decide) ?_
      exact ih _ _ _ (by omega) hf hG hB
  have zero : ∀ f s ρ o3 o4, s + f = (setN (allP (LG σ (b + 2)))) + 1 → Fr (bW b) b σ ρ → GA b g 12 0 ρ → (∀ s', s' < s → stI ρ (b + 161 + 12) s' = 0) → WP Γ m_X0_laysBest 52 0 0 136 [some (.ref b), some (.int (nI (setN (allP (LG σ (b + 2)))))), some (.int (nI s)), o3, o4] [] ρ (fun r τ => ∃ y, r = some (.int y) ∧ (y = nI (setN (allP (LG σ (b + 2)))) ∧ (Fr (bW b) b σ τ ∧ (GA b g 12 0 τ ∧ BA b g (setN (allP (LG σ (b + 2)))) 0 τ)))) := by
    intro f
    induction f with
    | zero =>
      intro s ρ o3 o4 hs hf hG hR
      refine wp_iload_n dX0_laysBest_136 rfl ?_
      refine wp_iload_n dX0_laysBest_137 rfl ?_
      refine wp_icmp_gtN dX0_laysBest_138 157 (by decide) s (setN (allP (LG σ (b + 2)))) rfl rfl (by omega) (by omega) (fun c138 => ?_) (fun c138 => ?_)
      · refine wp_bipush dX0_laysBest_157 11 rfl ?_
        refine wp_istore_n dX0_laysBest_159 rfl ?_
        refine WP.cast ?_ (rows 12 _ o3 o4 (by omega) hf hG (fun i' h1 h2 s' h3 => ?_))
        · rfl
        · obtain rfl : i' = 12 := by omega
          exact hR s' (by have := subN_le h3; omega)
      · omega
    | succ f ih =>
      intro s ρ o3 o4 hs hf hG hR
      have hC := hC.kr hf.1
      refine wp_iload_n dX0_laysBest_136 rfl ?_
      refine wp_iload_n dX0_laysBest_137 rfl ?_
      refine wp_icmp_gtN dX0_laysBest_138 157 (by decide) s (setN (allP (LG σ (b + 2)))) rfl rfl (by omega) (by omega) (fun c138 => ?_) (fun c138 => ?_)
      · omega
      · refine wp_aload_n dX0_laysBest_141 rfl ?_
        refine wp_getR dX0_laysBest_142 gfa_X0_56_0 rfl hC.k0 hC.r8 ?_
        refine wp_bipush dX0_laysBest_145 12 rfl ?_
        refine wp_aald dX0_laysBest_147 hC.k160 rfl 12 rfl (by omega) (by omega) (hC.rB (by omega)) ?_
        refine wp_iload_n dX0_laysBest_148 rfl ?_
        refine wp_iconst dX0_laysBest_149 0 rfl ?_
        refine wp_iast dX0_laysBest_150 (hC.kB (by omega)) s rfl (by omega) (by omega) ?_
        refine wp_iinc dX0_laysBest_151 rfl rfl (nI (s + 1)) (nI_add s 1) ?_
        refine wp_goto dX0_laysBest_154 136 (by decide) ?_
        refine ih (s + 1) _ _ _ (by omega) (setBst_fr hf (by omega)) (hG.setB (by omega)) (fun s' h => ?_)
        rw [stI_setI]
        split
        · rfl
        · exact hR s' (by omega)
  have gainC : ∀ i, i < 12 → (∀ ρ o3 o4, Fr (bW b) b σ ρ → GA b g (i + 1) 0 ρ → WP Γ m_X0_laysBest 52 0 0 128 [some (.ref b), some (.int (nI (setN (allP (LG σ (b + 2)))))), some (.int (nI i)), o3, o4] [] ρ (fun r τ => ∃ y, r = some (.int y) ∧ (y = nI (setN (allP (LG σ (b + 2)))) ∧ (Fr (bW b) b σ τ ∧ (GA b g 12 0 τ ∧ BA b g (setN (allP (LG σ (b + 2)))) 0 τ))))) → ∀ f k ρ o4, k + f = 12 → Fr (bW b) b σ ρ → GA b g i k ρ → WP Γ m_X0_laysBest 52 0 0 63 [some (.ref b), some (.int (nI (setN (allP (LG σ (b + 2)))))), some (.int (nI i)), some (.int (nI k)), o4] [] ρ (fun r τ => ∃ y, r = some (.int y) ∧ (y = nI (setN (allP (LG σ (b + 2)))) ∧ (Fr (bW b) b σ τ ∧ (GA b g 12 0 τ ∧ BA b g (setN (allP (LG σ (b + 2)))) 0 τ)))) := by
    intro i hi' hQ f
    induction f with
    | zero =>
      intro k ρ o4 hk hf hG
      obtain rfl : k = 12 := by omega
      refine wp_iload_n dX0_laysBest_63 rfl ?_
      refine wp_bipush dX0_laysBest_64 12 rfl ?_
      refine wp_icmp_geN dX0_laysBest_66 128 (by decide) 12 12 rfl rfl (by omega) (by omega) (fun c66 => ?_) (fun c66 => ?_)
      · exact hQ _ _ _ hf (fun i' j' h1 h2 h3 => hG i' j' h1 h2 (by omega))
      · omega
    | succ f ih =>
      intro k ρ o4 hk hf hG
      have hS1 := hS.fr hf bW_law
      have hC := hS1.1
      have eG := LGB hf
      refine wp_iload_n dX0_laysBest_63 rfl ?_
      refine wp_bipush dX0_laysBest_64 12 rfl ?_
      refine wp_icmp_geN dX0_laysBest_66 128 (by decide) k 12 rfl rfl (by omega) (by omega) (fun c66 => ?_) (fun c66 => ?_)
      · omega
      · refine wp_aload_n dX0_laysBest_69 rfl ?_
        refine wp_getR dX0_laysBest_70 gfa_X0_59_0 rfl hC.k0 hC.r9 ?_
        refine wp_iload_n dX0_laysBest_73 rfl ?_
        refine wp_aald dX0_laysBest_74 hC.k174 rfl i rfl (by omega) (by omega) (hC.rG (by omega)) ?_
        refine wp_iload_n dX0_laysBest_75 rfl ?_
        refine wp_aload_n dX0_laysBest_76 rfl ?_
        refine wp_iload_n dX0_laysBest_77 rfl ?_
        refine wp_cI (gcV dX0_laysBest_78 gva_X0_243_0 (ct_isAsker _ hC) hC.k0 rfl rfl (by omega) (by omega) (by omega) (Nat.le_of_ble_eq_true rfl) rfl) ?_
        rw [eG]
        refine wp_if_eq dX0_laysBest_81 120 (by decide) (fun c81 => ?_) (fun c81 => ?_)
        · refine wp_iconst dX0_laysBest_120 0 rfl ?_
          refine wp_iast dX0_laysBest_121 (hC.kG (by omega)) k rfl (by omega) (by omega) ?_
          refine wp_iinc dX0_laysBest_122 rfl rfl (nI (k + 1)) (nI_add k 1) ?_
          refine wp_goto dX0_laysBest_125 63 (by decide) ?_
          first | refine ih (k + 1) _ _ (by omega) (hf2.setI (Or.inr (by omega))) (hG2.set ?_) | refine ih (k + 1) _ _ (by omega) (hf.setI (Or.inr (by omega))) (hG.set ?_)
          rw [← hg, gainF]
          first | (rw [if_neg (fun h => absurd h.1 (by rw [bI_0.mp c81]; decide))] <;> rfl) | (rw [if_neg (fun h => absurd h.2.1 (by rw [bI_0.mp c89]; decide))] <;> rfl) | (rw [if_neg (fun h => absurd h.2.2 (by rw [bI_0.mp c101]; decide))] <;> rfl) | (rw [if_pos ⟨bI_1.mp c81, bI_1.mp c89, bI_1.mp c101⟩] <;> rfl)
        · refine wp_iload_n dX0_laysBest_84 rfl ?_
          refine wp_iload_n dX0_laysBest_85 rfl ?_
          refine wp_cI (gcS dX0_laysBest_86 gsa_X0_246 (ct_has _ _) rfl rfl (by omega) (by omega) (by omega) (Nat.le_of_ble_eq_true rfl) rfl) ?_
          rw [hasB_n (by omega) (by omega), setN_tb, decide_eq_true c66, Bool.true_and, allP]
          refine wp_if_eq dX0_laysBest_89 120 (by decide) (fun c89 => ?_) (fun c89 => ?_)
          · refine wp_iconst dX0_laysBest_120 0 rfl ?_
            refine wp_iast dX0_laysBest_121 (hC.kG (by omega)) k rfl (by omega) (by omega) ?_
            refine wp_iinc dX0_laysBest_122 rfl rfl (nI (k + 1)) (nI_add k 1) ?_
            refine wp_goto dX0_laysBest_125 63 (by decide) ?_
            first | refine ih (k + 1) _ _ (by omega) (hf2.setI (Or.inr (by omega))) (hG2.set ?_) | refine ih (k + 1) _ _ (by omega) (hf.setI (Or.inr (by omega))) (hG.set ?_)
            rw [← hg, gainF]
            first | (rw [if_neg (fun h => absurd h.1 (by rw [bI_0.mp c81]; decide))] <;> rfl) | (rw [if_neg (fun h => absurd h.2.1 (by rw [bI_0.mp c89]; decide))] <;> rfl) | (rw [if_neg (fun h => absurd h.2.2 (by rw [bI_0.mp c101]; decide))] <;> rfl) | (rw [if_pos ⟨bI_1.mp c81, bI_1.mp c89, bI_1.mp c101⟩] <;> rfl)
          · refine wp_aload_n dX0_laysBest_92 rfl ?_
            refine wp_getR dX0_laysBest_93 gfa_X0_33_0 rfl hC.k0 hC.r1 ?_
            refine wp_iload_n dX0_laysBest_96 rfl ?_
            refine wp_iload_n dX0_laysBest_97 rfl ?_
            refine wp_cIx (gcV dX0_laysBest_98 gva_X0_216_3 (ct_fit hi' c66 hC.l0 hS1) hC.l0.k0 rfl rfl (by omega) (by omega) (by omega) (Nat.le_of_ble_eq_true rfl) rfl) (fun y τ hy => ?_)
            obtain ⟨rfl, hf1⟩ := hy
            rw [eG]
            have hf2 := hf.trans (hf1.mono (fun c h => Or.inl h))
            have hG2 := hG.fr hf1
            have hC := hC.kr hf1.1
            have eG2 := LGB hf2
            refine wp_if_eq dX0_laysBest_101 120 (by decide) (fun c101 => ?_) (fun c101 => ?_)
            · refine wp_iconst dX0_laysBest_120 0 rfl ?_
              refine wp_iast dX0_laysBest_121 (hC.kG (by omega)) k rfl (by omega) (by omega) ?_
              refine wp_iinc dX0_laysBest_122 rfl rfl (nI (k + 1)) (nI_add k 1) ?_
              refine wp_goto dX0_laysBest_125 63 (by decide) ?_
              first | refine ih (k + 1) _ _ (by omega) (hf2.setI (Or.inr (by omega))) (hG2.set ?_) | refine ih (k + 1) _ _ (by omega) (hf.setI (Or.inr (by omega))) (hG.set ?_)
              rw [← hg, gainF]
              first | (rw [if_neg (fun h => absurd h.1 (by rw [bI_0.mp c81]; decide))] <;> rfl) | (rw [if_neg (fun h => absurd h.2.1 (by rw [bI_0.mp c89]; decide))] <;> rfl) | (rw [if_neg (fun h => absurd h.2.2 (by rw [bI_0.mp c101]; decide))] <;> rfl) | (rw [if_pos ⟨bI_1.mp c81, bI_1.mp c89, bI_1.mp c101⟩] <;> rfl)
            · refine wp_sipush dX0_laysBest_104 10000 rfl ?_
              refine wp_aload_n dX0_laysBest_107 rfl ?_
              refine wp_getR dX0_laysBest_108 gfa_X0_33_0 rfl hC.k0 hC.r1 ?_
              refine wp_iload_n dX0_laysBest_111 rfl ?_
              refine wp_iload_n dX0_laysBest_112 rfl ?_
              refine wp_cI (gcV dX0_laysBest_113 gva_X0_234_3 (ct_slackL _ _ hC.l0) hC.l0.k0 rfl rfl (by omega) (by omega) (by omega) (Nat.le_of_ble_eq_true rfl) rfl) ?_
              rw [eG2]
              refine wp_isub dX0_laysBest_116 ?_
              refine wp_goto dX0_laysBest_117 121 (by decide) ?_
              refine wp_iast dX0_laysBest_121 (hC.kG (by omega)) k rfl (by omega) (by omega) ?_
              refine wp_iinc dX0_laysBest_122 rfl rfl (nI (k + 1)) (nI_add k 1) ?_
              refine wp_goto dX0_laysBest_125 63 (by decide) ?_
              first | refine ih (k + 1) _ _ (by omega) (hf2.setI (Or.inr (by omega))) (hG2.set ?_) | refine ih (k + 1) _ _ (by omega) (hf.setI (Or.inr (by omega))) (hG.set ?_)
              rw [← hg, gainF]
              first | (rw [if_neg (fun h => absurd h.1 (by rw [bI_0.mp c81]; decide))] <;> rfl) | (rw [if_neg (fun h => absurd h.2.1 (by rw [bI_0.mp c89]; decide))] <;> rfl) | (rw [if_neg (fun h => absurd h.2.2 (by rw [bI_0.mp c101]; decide))] <;> rfl) | (rw [if_pos ⟨bI_1.mp c81, bI_1.mp c89, bI_1.mp c101⟩] <;> rfl)
  have gainR : ∀ f i ρ o3 o4, i + f = 12 → Fr (bW b) b σ ρ → GA b g i 0 ρ → WP Γ m_X0_laysBest 52 0 0 55 [some (.ref b), some (.int (nI (setN (allP (LG σ (b + 2)))))), some (.int (nI i)), o3, o4] [] ρ (fun r τ => ∃ y, r = some (.int y) ∧ (y = nI (setN (allP (LG σ (b + 2)))) ∧ (Fr (bW b) b σ τ ∧ (GA b g 12 0 τ ∧ BA b g (setN (allP (LG σ (b + 2)))) 0 τ)))) := by
    intro f
    induction f with
    | zero =>
      intro i ρ o3 o4 hk hf hG
      obtain rfl : i = 12 := by omega
      refine wp_iload_n dX0_laysBest_55 rfl ?_
      refine wp_bipush dX0_laysBest_56 12 rfl ?_
      refine wp_icmp_geN dX0_laysBest_58 134 (by decide) 12 12 rfl rfl (by omega) (by omega) (fun c58 => ?_) (fun c58 => ?_)
      · refine wp_iconst dX0_laysBest_134 0 rfl ?_
        refine wp_istore_n dX0_laysBest_135 rfl ?_
        exact zero ((setN (allP (LG σ (b + 2)))) + 1) 0 _ _ _ (by omega) hf hG (fun s' h => absurd h (by omega))
      · omega
    | succ f ih =>
      intro i ρ o3 o4 hk hf hG
      refine wp_iload_n dX0_laysBest_55 rfl ?_
      refine wp_bipush dX0_laysBest_56 12 rfl ?_
      refine wp_icmp_geN dX0_laysBest_58 134 (by decide) i 12 rfl rfl (by omega) (by omega) (fun c58 => ?_) (fun c58 => ?_)
      · omega
      · refine wp_iconst dX0_laysBest_61 0 rfl ?_
        refine wp_istore_n dX0_laysBest_62 rfl ?_
        refine gainC i c58 (fun ρ o3 o4 hf hG => ?_) 12 0 _ _ (by omega) hf hG
        refine wp_iinc dX0_laysBest_128 rfl rfl (nI (i + 1)) (nI_add i 1) ?_
        refine wp_goto dX0_laysBest_131 55 (by decide) ?_
        exact ih (i + 1) _ _ _ (by omega) hf hG
  have loop : ∀ n k o3 o4, k ≤ 12 → 12 - k < n → WP Γ m_X0_laysBest 52 0 0 4 [some (.ref b), some (.int (bitF (allP (LG σ (b + 2))) k)), some (.int (nI k)), o3, o4] [] σ (fun r τ => ∃ y, r = some (.int y) ∧ (y = nI (setN (allP (LG σ (b + 2)))) ∧ (Fr (bW b) b σ τ ∧ (GA b g 12 0 τ ∧ BA b g (setN (allP (LG σ (b + 2)))) 0 τ)))) := by
    intro n
    induction n with
    | zero => intro k o3 o4 h1 h2; omega
    | succ n ih =>
      intro k o3 o4 h1 h2
      refine wp_iload_n dX0_laysBest_4 rfl ?_
      refine wp_bipush dX0_laysBest_5 12 rfl ?_
      refine wp_icmp_geN dX0_laysBest_7 53 (by decide) k 12 rfl rfl (by omega) (by omega) (fun c7 => ?_) (fun c7 => ?_)
      · refine wp_iconst dX0_laysBest_53 0 rfl ?_
        refine wp_istore_n dX0_laysBest_54 rfl ?_
        obtain rfl : k = 12 := by omega
        refine WP.cast ?_ (gainR 12 0 _ o3 o4 (by omega) Fr.rf (fun i' j' h1 h2 h3 => absurd h3 (by omega)))
        rw [setN_nI]
        rfl
      · refine wp_iload_n dX0_laysBest_10 rfl ?_
        refine wp_aload_n dX0_laysBest_11 rfl ?_
        refine wp_getR dX0_laysBest_12 gfa_X0_33_0 rfl hC.k0 hC.r1 ?_
        refine wp_iload_n dX0_laysBest_15 rfl ?_
        refine wp_cI (gcV dX0_laysBest_16 gva_X0_135_3 (ct_lives _ hC.l0) hC.l0.k0 rfl rfl (by omega) (by omega) (by omega) (Nat.le_of_ble_eq_true rfl) rfl) ?_
        rw [livesV_n c7]
        refine wp_if_eq dX0_laysBest_19 44 (by decide) (fun c19 => ?_) (fun c19 => ?_)
        · refine wp_iconst dX0_laysBest_44 0 rfl ?_
          refine wp_ior dX0_laysBest_45 ?_
          refine wp_istore_n dX0_laysBest_46 rfl ?_
          refine wp_iinc dX0_laysBest_47 rfl rfl (nI (k + 1)) (nI_add k 1) ?_
          refine wp_goto dX0_laysBest_50 4 (by decide) ?_
          refine WP.cast ?_ (ih (k + 1) o3 o4 (by omega) (by omega))
          first | (rw [bitF_f (by rw [allP, sideB, bI_0.mp c19]; rfl)]; rfl) | (rw [bitF_f (by rw [allP, sideB, decide_eq_false c35]; simp)]; rfl) | (rw [bitF_t (by rw [allP, sideB, bI_1.mp c19, decide_eq_true c35]; rfl)]; rfl)
        · refine wp_aload_n dX0_laysBest_22 rfl ?_
          refine wp_getR dX0_laysBest_23 gfa_X0_33_0 rfl hC.k0 hC.r1 ?_
          refine wp_getR dX0_laysBest_26 gfa_X0_94_3 rfl hC.l0.k0 hC.l0.r0 ?_
          refine wp_iload_n dX0_laysBest_29 rfl ?_
          refine wp_aald dX0_laysBest_30 hC.l0.k1 rfl k rfl (by omega) (by omega) (hC.l0.rP (by omega)) ?_
          refine wp_getI dX0_laysBest_31 gfa_X0_111_4 rfl (hC.l0.kP (by omega)) ?_
          rw [LG_p 1 (by omega) c7]
          refine wp_iconst dX0_laysBest_34 1 rfl ?_
          refine wp_icmp_ne dX0_laysBest_35 44 (by decide) (fun c35 => ?_) (fun c35 => ?_)
          · refine wp_iconst dX0_laysBest_44 0 rfl ?_
            refine wp_ior dX0_laysBest_45 ?_
            refine wp_istore_n dX0_laysBest_46 rfl ?_
            refine wp_iinc dX0_laysBest_47 rfl rfl (nI (k + 1)) (nI_add k 1) ?_
            refine wp_goto dX0_laysBest_50 4 (by decide) ?_
            refine WP.cast ?_ (ih (k + 1) o3 o4 (by omega) (by omega))
            first | (rw [bitF_f (by rw [allP, sideB, bI_0.mp c19]; rfl)]; rfl) | (rw [bitF_f (by rw [allP, sideB, decide_eq_false c35]; simp)]; rfl) | (rw [bitF_t (by rw [allP, sideB, bI_1.mp c19, decide_eq_true c35]; rfl)]; rfl)
          · refine wp_iconst dX0_laysBest_38 1 rfl ?_
            refine wp_iload_n dX0_laysBest_39 rfl ?_
            refine wp_ishl dX0_laysBest_40 ?_
            refine wp_goto dX0_laysBest_41 45 (by decide) ?_
            refine wp_ior dX0_laysBest_45 ?_
            refine wp_istore_n dX0_laysBest_46 rfl ?_
            refine wp_iinc dX0_laysBest_47 rfl rfl (nI (k + 1)) (nI_add k 1) ?_
            refine wp_goto dX0_laysBest_50 4 (by decide) ?_
            refine WP.cast ?_ (ih (k + 1) o3 o4 (by omega) (by omega))
            first | (rw [bitF_f (by rw [allP, sideB, bI_0.mp c19]; rfl)]; rfl) | (rw [bitF_f (by rw [allP, sideB, decide_eq_false c35]; simp)]; rfl) | (rw [bitF_t (by rw [allP, sideB, bI_1.mp c19, decide_eq_true c35]; rfl)]; rfl)
  refine wp_iconst dX0_laysBest_0 0 rfl ?_
  refine wp_istore_n dX0_laysBest_1 rfl ?_
  refine wp_iconst dX0_laysBest_2 0 rfl ?_
  refine wp_istore_n dX0_laysBest_3 rfl ?_
  exact loop 13 0 _ _ (by omega) (by omega)
theorem and_m1 (x : Int32) : x &&& (-1) = x := b_ext (fun i hi => by rw [b_and, b_m1 i hi, Bool.and_true])
theorem getP_12 {g : Nat → Nat → Int32} {P : Nat → Bool} {i : Nat} (h : getJ g i (getP g P i) = 12) : getP g P (i + 1) = getP g P i := by rw [getP, if_pos h]
theorem getP_j {g : Nat → Nat → Int32} {P : Nat → Bool} {i : Nat} (h : ¬ getJ g i (getP g P i) = 12) : getP g P (i + 1) = lessP (getP g P i) (getJ g i (getP g P i)) := by rw [getP, if_neg h]
theorem fstN_le (p : Nat → Bool) : ∀ f h, fstN p f h ≤ h + f
  | 0, h => Nat.le_refl _
  | f + 1, h => by
    rw [fstN]
    split
    · omega
    · have := fstN_le p f (h + 1); omega
theorem getJ_le {g : Nat → Nat → Int32} {i : Nat} {P : Nat → Bool} : getJ g i P ≤ 12 := by
  have := fstN_le (getB g i P) 12 0
  unfold getJ
  omega
theorem ct_most (w : Int32) (hS : Sy b hi Lw σ) : Ct Γ 53 0 0 m_X0_most [.ref b, .int w] σ (fun r τ => ∃ y, r = some (.int y) ∧ (y = mostV Lw (LG σ (b + 2)) w ∧ Fr (bW b) b σ τ)) := by
  refine Ct.ofWP pf_X0_most rfl rfl ?_
  have hC := hS.1
  have hA : (setN (allP (LG σ (b + 2)))) < 4096 := setN_lt _
  have inner : ∀ ρ s i (x3 x4 : Int32), CK b ρ → GA b (gainF Lw (LG σ (b + 2))) 12 0 ρ → BA b (gainF Lw (LG σ (b + 2))) (setN (allP (LG σ (b + 2)))) 0 ρ → subN s (setN (allP (LG σ (b + 2)))) → i < 12 → WP Γ m_X0_most 53 0 0 144 [some (.ref b), some (.int w), some (.int (nI s)), some (.int x3), some (.int x4), some (.int (nI i)), some (.int (nI (getJ (gainF Lw (LG σ (b + 2))) i s.testBit)))] [] ρ (fun r τ => ∃ y, r = some (.int y) ∧ (y = mostV Lw (LG σ (b + 2)) w ∧ Fr (bW b) b σ τ)) → ∀ f j, j + f = 12 → fstN (getB (gainF Lw (LG σ (b + 2))) i s.testBit) f j = getJ (gainF Lw (LG σ (b + 2))) i s.testBit → WP Γ m_X0_most 53 0 0 88 [some (.ref b), some (.int w), some (.int (nI s)), some (.int x3), some (.int x4), some (.int (nI i)), some (.int (nI j))] [] ρ (fun r τ => ∃ y, r = some (.int y) ∧ (y = mostV Lw (LG σ (b + 2)) w ∧ Fr (bW b) b σ τ)) := by
    intro ρ s i x3 x4 hC hG hB hs hi' hQ f
    have hs4 := subN_le hs
    induction f with
    | zero =>
      intro j hj hJ
      rw [← hJ, fstN] at hQ
      refine wp_iload dX0_most_88 rfl ?_
      refine wp_bipush dX0_most_90 12 rfl ?_
      refine wp_icmp_geN dX0_most_92 144 (by decide) j 12 rfl rfl (by omega) (by omega) (fun c92 => ?_) (fun c92 => ?_)
      · exact hQ
      · omega
    | succ f ih =>
      intro j hj hJ
      refine wp_iload dX0_most_88 rfl ?_
      refine wp_bipush dX0_most_90 12 rfl ?_
      refine wp_icmp_geN dX0_most_92 144 (by decide) j 12 rfl rfl (by omega) (by omega) (fun c92 => ?_) (fun c92 => ?_)
      · first | omega | (rw [fstN, if_pos (by rw [getB, bI_1.mp c101, decide_eq_true (Int32.not_le.mp c114), decide_eq_true c135]; rfl)] at hJ; rw [← hJ] at hQ; exact hQ)
      · refine wp_iload_n dX0_most_95 rfl ?_
        refine wp_iload dX0_most_96 rfl ?_
        refine wp_cI (gcS dX0_most_98 gsa_X0_246 (ct_has _ _) rfl rfl (by omega) (by omega) (by omega) (Nat.le_of_ble_eq_true rfl) rfl) ?_
        rw [hasB_n (by omega) (by omega)]
        refine wp_if_eq dX0_most_101 138 (by decide) (fun c101 => ?_) (fun c101 => ?_)
        · refine wp_iinc dX0_most_138 rfl rfl (nI (j + 1)) (nI_add j 1) ?_
          refine wp_goto dX0_most_141 88 (by decide) ?_
          refine ih (j + 1) (by omega) ?_
          rw [← hJ, fstN]
          first | (rw [if_neg (by rw [getB, bI_0.mp c101]; simp)]; done) | (rw [if_neg (by rw [getB, decide_eq_false (Int32.not_lt.mpr c114)]; simp)]; done) | (rw [if_neg (by rw [getB, decide_eq_false c135]; simp)]; done)
        · refine wp_aload_n dX0_most_104 rfl ?_
          refine wp_getR dX0_most_105 gfa_X0_59_0 rfl hC.k0 hC.r9 ?_
          refine wp_iload dX0_most_108 rfl ?_
          refine wp_aald dX0_most_110 hC.k174 rfl i rfl (by omega) (by omega) (hC.rG (by omega)) ?_
          refine wp_iload dX0_most_111 rfl ?_
          refine wp_iald dX0_most_113 (hC.kG (by omega)) j rfl (by omega) (by omega) ?_
          rw [hG i j hi' c92 (Or.inl hi')]
          refine wp_if_le dX0_most_114 138 (by decide) (fun c114 => ?_) (fun c114 => ?_)
          · refine wp_iinc dX0_most_138 rfl rfl (nI (j + 1)) (nI_add j 1) ?_
            refine wp_goto dX0_most_141 88 (by decide) ?_
            refine ih (j + 1) (by omega) ?_
            rw [← hJ, fstN]
            first | (rw [if_neg (by rw [getB, bI_0.mp c101]; simp)]; done) | (rw [if_neg (by rw [getB, decide_eq_false (Int32.not_lt.mpr c114)]; simp)]; done) | (rw [if_neg (by rw [getB, decide_eq_false c135]; simp)]; done)
          · refine wp_aload_n dX0_most_117 rfl ?_
            refine wp_iload dX0_most_118 rfl ?_
            refine wp_iload dX0_most_120 rfl ?_
            refine wp_iload_n dX0_most_122 rfl ?_
            refine wp_cI (gcV dX0_most_123 gva_X0_249_0 (ct_gainBy hi' (by omega) hA hs hC hG (fun i' h1 h2 => hB i' (by omega) h2)) hC.k0 rfl rfl (by omega) (by omega) (by omega) (Nat.le_of_ble_eq_true rfl) rfl) ?_
            rw [if_neg (by omega)]
            refine wp_aload_n dX0_most_126 rfl ?_
            refine wp_getR dX0_most_127 gfa_X0_56_0 rfl hC.k0 hC.r8 ?_
            refine wp_iload dX0_most_130 rfl ?_
            refine wp_aald dX0_most_132 hC.k160 rfl i rfl (by omega) (by omega) (hC.rB (by omega)) ?_
            refine wp_iload_n dX0_most_133 rfl ?_
            refine wp_iald dX0_most_134 (hC.kB (by omega)) s rfl (by omega) (by omega) ?_
            rw [hB i (by omega) (by omega) s hs]
            refine wp_icmp_eq dX0_most_135 144 (by decide) (fun c135 => ?_) (fun c135 => ?_)
            · first | omega | (rw [fstN, if_pos (by rw [getB, bI_1.mp c101, decide_eq_true (Int32.not_le.mp c114), decide_eq_true c135]; rfl)] at hJ; rw [← hJ] at hQ; exact hQ)
            · refine wp_iinc dX0_most_138 rfl rfl (nI (j + 1)) (nI_add j 1) ?_
              refine wp_goto dX0_most_141 88 (by decide) ?_
              refine ih (j + 1) (by omega) ?_
              rw [← hJ, fstN]
              first | (rw [if_neg (by rw [getB, bI_0.mp c101]; simp)]; done) | (rw [if_neg (by rw [getB, decide_eq_false (Int32.not_lt.mpr c114)]; simp)]; done) | (rw [if_neg (by rw [getB, decide_eq_false c135]; simp)]; done)
  have ends : ∀ ρ i s (x3 x4 : Int32), CK b ρ → Fr (bW b) b σ ρ → getJ (gainF Lw (LG σ (b + 2))) i s.testBit ≤ 12 → mostV Lw (LG σ (b + 2)) w = (if getJ (gainF Lw (LG σ (b + 2))) i s.testBit = 12 then -2 else nI (getJ (gainF Lw (LG σ (b + 2))) i s.testBit)) → w = nI i → i < 12 → WP Γ m_X0_most 53 0 0 144 [some (.ref b), some (.int w), some (.int (nI s)), some (.int x3), some (.int x4), some (.int (nI i)), some (.int (nI (getJ (gainF Lw (LG σ (b + 2))) i s.testBit)))] [] ρ (fun r τ => ∃ y, r = some (.int y) ∧ (y = mostV Lw (LG σ (b + 2)) w ∧ Fr (bW b) b σ τ)) := by
    intro ρ i s x3 x4 hC hf hle hV hw h0
    subst hw
    generalize getJ (gainF Lw (LG σ (b + 2))) i s.testBit = J at *
    refine wp_iload dX0_most_144 rfl ?_
    refine wp_iload_n dX0_most_146 rfl ?_
    refine wp_icmp_neN dX0_most_147 165 (by decide) i i rfl rfl (by omega) (by omega) (fun c147 => absurd c147 (fun h => h rfl)) (fun c147 => ?_)
    refine wp_iload dX0_most_150 rfl ?_
    refine wp_bipush dX0_most_152 12 rfl ?_
    refine wp_icmp_neN dX0_most_154 162 (by decide) J 12 rfl rfl (by omega) (by omega) (fun c154 => ?_) (fun c154 => ?_)
    · refine wp_iload dX0_most_162 rfl ?_
      refine wp_iret dX0_most_164 rfl ?_
      refine ⟨_, rfl, ?_, hf⟩
      rw [hV]
      first | (rw [if_pos c154]; done) | (rw [if_neg c154])
    · refine wp_bipush dX0_most_157 (-2) rfl ?_
      refine wp_goto dX0_most_159 164 (by decide) ?_
      refine wp_iret dX0_most_164 rfl ?_
      refine ⟨_, rfl, ?_, hf⟩
      rw [hV]
      first | (rw [if_pos c154]; done) | (rw [if_neg c154])
  have step : ∀ ρ i i0 s (x3 x4 : Int32), CK b ρ → w = nI i0 → ¬ i = i0 → i < 12 → i0 < 12 → subN s (setN (allP (LG σ (b + 2)))) → getJ (gainF Lw (LG σ (b + 2))) i s.testBit ≤ 12 → (∀ s', subN s' (setN (allP (LG σ (b + 2)))) → s'.testBit = (if getJ (gainF Lw (LG σ (b + 2))) i s.testBit = 12 then s.testBit else lessP s.testBit (getJ (gainF Lw (LG σ (b + 2))) i s.testBit)) → WP Γ m_X0_most 53 0 0 78 [some (.ref b), some (.int w), some (.int (nI s')), some (.int x3), some (.int x4), some (.int (nI (i + 1))), some (.int (nI (getJ (gainF Lw (LG σ (b + 2))) i s.testBit)))] [] ρ (fun r τ => ∃ y, r = some (.int y) ∧ (y = mostV Lw (LG σ (b + 2)) w ∧ Fr (bW b) b σ τ))) → WP Γ m_X0_most 53 0 0 144 [some (.ref b), some (.int w), some (.int (nI s)), some (.int x3), some (.int x4), some (.int (nI i)), some (.int (nI (getJ (gainF Lw (LG σ (b + 2))) i s.testBit)))] [] ρ (fun r τ => ∃ y, r = some (.int y) ∧ (y = mostV Lw (LG σ (b + 2)) w ∧ Fr (bW b) b σ τ)) := by
    intro ρ i i0 s x3 x4 hC hw hne hi' h0 hs hle hQ
    subst hw
    have hs4 := subN_le hs
    generalize getJ (gainF Lw (LG σ (b + 2))) i s.testBit = J at *
    refine wp_iload dX0_most_144 rfl ?_
    refine wp_iload_n dX0_most_146 rfl ?_
    refine wp_icmp_neN dX0_most_147 165 (by decide) i i0 rfl rfl (by omega) (by omega) (fun c147 => ?_) (fun c147 => ?_)
    · refine wp_iload_n dX0_most_165 rfl ?_
      refine wp_iload dX0_most_166 rfl ?_
      refine wp_bipush dX0_most_168 12 rfl ?_
      refine wp_icmp_neN dX0_most_170 177 (by decide) J 12 rfl rfl (by omega) (by omega) (fun c170 => ?_) (fun c170 => ?_)
      · refine wp_iconst dX0_most_177 1 rfl ?_
        refine wp_iload dX0_most_178 rfl ?_
        refine wp_ishl dX0_most_180 ?_
        refine wp_iconst dX0_most_181 (-1) rfl ?_
        refine wp_ixor dX0_most_182 ?_
        refine wp_iand dX0_most_183 ?_
        refine wp_istore_n dX0_most_184 rfl ?_
        refine wp_iinc dX0_most_185 rfl rfl (nI (i + 1)) (nI_add i 1) ?_
        refine wp_goto dX0_most_188 78 (by decide) ?_
        first | (refine WP.cast ?_ (hQ (clrN s J) (subN_trans (clrN_sub (by omega) (by omega)) hs) (by rw [if_neg c170]; exact clrN_fn (by omega) (by omega))); rw [clrN_nI]; rfl) | (refine WP.cast ?_ (hQ s hs (by rw [if_pos c170])); rw [show nI s &&& (-1) = nI s from and_m1 _]; rfl)
      · refine wp_iconst dX0_most_173 (-1) rfl ?_
        refine wp_goto dX0_most_174 183 (by decide) ?_
        refine wp_iand dX0_most_183 ?_
        refine wp_istore_n dX0_most_184 rfl ?_
        refine wp_iinc dX0_most_185 rfl rfl (nI (i + 1)) (nI_add i 1) ?_
        refine wp_goto dX0_most_188 78 (by decide) ?_
        first | (refine WP.cast ?_ (hQ (clrN s J) (subN_trans (clrN_sub (by omega) (by omega)) hs) (by rw [if_neg c170]; exact clrN_fn (by omega) (by omega))); rw [clrN_nI]; rfl) | (refine WP.cast ?_ (hQ s hs (by rw [if_pos c170])); rw [show nI s &&& (-1) = nI s from and_m1 _]; rfl)
    · omega
  have outer : ∀ ρ i0 (x3 x4 : Int32), CK b ρ → GA b (gainF Lw (LG σ (b + 2))) 12 0 ρ → BA b (gainF Lw (LG σ (b + 2))) (setN (allP (LG σ (b + 2)))) 0 ρ → Fr (bW b) b σ ρ → i0 < 12 → w = nI i0 → mostV Lw (LG σ (b + 2)) w = (if getM Lw (LG σ (b + 2)) i0 = 12 then -2 else nI (getM Lw (LG σ (b + 2)) i0)) → ∀ f i s o6, i + f = i0 → subN s (setN (allP (LG σ (b + 2)))) → s.testBit = getP (gainF Lw (LG σ (b + 2))) (setN (allP (LG σ (b + 2)))).testBit i → WP Γ m_X0_most 53 0 0 78 [some (.ref b), some (.int w), some (.int (nI s)), some (.int x3), some (.int x4), some (.int (nI i)), o6] [] ρ (fun r τ => ∃ y, r = some (.int y) ∧ (y = mostV Lw (LG σ (b + 2)) w ∧ Fr (bW b) b σ τ)) := by
    intro ρ i0 x3 x4 hC hG hB hf h0 hw hV f
    subst hw
    have last : ∀ i s, i = i0 → subN s (setN (allP (LG σ (b + 2)))) → s.testBit = getP (gainF Lw (LG σ (b + 2))) (setN (allP (LG σ (b + 2)))).testBit i → getJ (gainF Lw (LG σ (b + 2))) i s.testBit = getM Lw (LG σ (b + 2)) i0 := fun i s h1 h2 h3 => by subst h1; rw [getM, h3]
    induction f with
    | zero =>
      intro i s o6 hi' hs hP
      have hJ := last i s (by omega) hs hP
      obtain rfl : i = i0 := by omega
      have hle : getJ (gainF Lw (LG σ (b + 2))) i s.testBit ≤ 12 := getJ_le
      refine wp_iload dX0_most_78 rfl ?_
      refine wp_bipush dX0_most_80 12 rfl ?_
      refine wp_icmp_geN dX0_most_82 191 (by decide) i 12 rfl rfl (by omega) (by omega) (fun c82 => ?_) (fun c82 => ?_)
      · omega
      · refine wp_iconst dX0_most_85 0 rfl ?_
        refine wp_istore dX0_most_86 rfl ?_
        refine inner ρ s i x3 x4 hC hG hB hs h0 ?_ 12 0 (by omega) rfl
        exact ends ρ i s x3 x4 hC hf hle (by rw [hJ]; exact hV) rfl h0
    | succ f ih =>
      intro i s o6 hi' hs hP
      have hle : getJ (gainF Lw (LG σ (b + 2))) i s.testBit ≤ 12 := getJ_le
      refine wp_iload dX0_most_78 rfl ?_
      refine wp_bipush dX0_most_80 12 rfl ?_
      refine wp_icmp_geN dX0_most_82 191 (by decide) i 12 rfl rfl (by omega) (by omega) (fun c82 => ?_) (fun c82 => ?_)
      · omega
      · refine wp_iconst dX0_most_85 0 rfl ?_
        refine wp_istore dX0_most_86 rfl ?_
        refine inner ρ s i x3 x4 hC hG hB hs (by omega) ?_ 12 0 (by omega) rfl
        refine step ρ i i0 s x3 x4 hC rfl (by omega) (by omega) h0 hs hle (fun s' h1 h2 => ih (i + 1) s' _ (by omega) h1 (h2.trans ?_))
        split
        · rename_i h; rw [hP] at h; rw [getP_12 h, hP]
        · rename_i h; rw [hP] at h; rw [getP_j h, hP]
  have ask : askerV (LG σ (b + 2)) w = true → ∃ i, i < 12 ∧ w = nI i := fun h => by
    rw [askerV, Bool.and_eq_true] at h
    obtain ⟨i, h1, h2, -⟩ := livesV_t h.1
    exact ⟨i, h1, h2⟩
  have go : (w = 20 ∨ (w = 21 ∨ askerV (LG σ (b + 2)) w = true)) → WP Γ m_X0_most 53 0 0 22 [some (.ref b), some (.int w), none, none, none, none, none] [] σ (fun r τ => ∃ y, r = some (.int y) ∧ (y = mostV Lw (LG σ (b + 2)) w ∧ Fr (bW b) b σ τ)) := by
    intro hw
    refine wp_aload_n dX0_most_22 rfl ?_
    refine wp_cIx (gcV dX0_most_23 gva_X0_253_0 (ct_laysBest hS) hC.k0 rfl rfl (by omega) (by omega) (by omega) (Nat.le_of_ble_eq_true rfl) rfl) (fun y τ hy => ?_)
    obtain ⟨rfl, hf, hG, hB⟩ := hy
    have hC := hC.kr hf.1
    refine wp_istore_n dX0_most_26 rfl ?_
    refine wp_aload_n dX0_most_27 rfl ?_
    refine wp_getR dX0_most_28 gfa_X0_56_0 rfl hC.k0 hC.r8 ?_
    refine wp_iconst dX0_most_31 0 rfl ?_
    refine wp_aald dX0_most_32 hC.k160 rfl 0 rfl (by omega) (by omega) (hC.rB (by omega)) ?_
    refine wp_iload_n dX0_most_33 rfl ?_
    refine wp_iald dX0_most_34 (hC.kB (by omega)) (setN (allP (LG σ (b + 2)))) rfl (by omega) (by omega) ?_
    rw [hB 0 (by omega) (by omega) _ (fun i h => h), show bstP (gainF Lw (LG σ (b + 2))) (12 - 0) (setN (allP (LG σ (b + 2)))).testBit = sumM Lw (LG σ (b + 2)) from rfl]
    refine wp_istore_n dX0_most_35 rfl ?_
    refine wp_iload_n dX0_most_36 rfl ?_
    refine wp_sipush dX0_most_37 10000 rfl ?_
    refine wp_iadd dX0_most_40 ?_
    refine wp_iconst dX0_most_41 1 rfl ?_
    refine wp_isub dX0_most_42 ?_
    refine wp_sipush dX0_most_43 10000 rfl ?_
    refine wp_idiv dX0_most_46 (by decide) ?_
    refine wp_istore dX0_most_47 rfl ?_
    refine wp_iload_n dX0_most_49 rfl ?_
    refine wp_bipush dX0_most_50 20 rfl ?_
    refine wp_icmp_lt dX0_most_52 75 (by decide) (fun c52 => ?_) (fun c52 => ?_)
    · refine wp_iconst dX0_most_75 0 rfl ?_
      refine wp_istore dX0_most_76 rfl ?_
      have hn : ¬ w = 20 ∧ ¬ w = 21 := ⟨fun e => by subst e; revert c52; decide, fun e => by subst e; revert c52; decide⟩
      have ha : askerV (LG σ (b + 2)) w = true := by
        rcases hw with h | h | h
        · exact absurd h hn.1
        · exact absurd h hn.2
        · exact h
      obtain ⟨i0, h0, hw0⟩ := ask ha
      refine outer τ i0 _ _ hC hG hB hf h0 hw0 ?_ i0 0 (setN (allP (LG σ (b + 2)))) _ (by omega) (fun i h => h) rfl
      rw [mostV, if_neg hn.1, if_neg hn.2, if_pos ha, hw0, ix_nI (by omega)]
    · refine wp_iload_n dX0_most_55 rfl ?_
      refine wp_bipush dX0_most_56 20 rfl ?_
      refine wp_icmp_ne dX0_most_58 66 (by decide) (fun c58 => ?_) (fun c58 => ?_)
      · refine wp_sipush dX0_most_66 10000 rfl ?_
        refine wp_iload dX0_most_69 rfl ?_
        refine wp_imul dX0_most_71 ?_
        refine wp_iload_n dX0_most_72 rfl ?_
        refine wp_isub dX0_most_73 ?_
        refine wp_iret dX0_most_74 rfl ?_
        refine ⟨_, rfl, ?_, hf⟩
        by_cases h20 : w = 20
        · first | (rw [mostV, if_pos h20]; rfl) | exact absurd h20 c58
        · have h21 : w = 21 := by
            rcases hw with h | h | h
            · exact absurd h h20
            · exact h
            · obtain ⟨i, h1, rfl⟩ := ask h
              exact absurd (nI_lt (b := 20) (by omega) (by omega)) c52
          first | exact absurd c58 h20 | (rw [mostV, if_neg h20, if_pos h21]; rfl)
      · refine wp_iload dX0_most_61 rfl ?_
        refine wp_goto dX0_most_63 74 (by decide) ?_
        refine wp_iret dX0_most_74 rfl ?_
        refine ⟨_, rfl, ?_, hf⟩
        by_cases h20 : w = 20
        · first | (rw [mostV, if_pos h20]; rfl) | exact absurd h20 c58
        · have h21 : w = 21 := by
            rcases hw with h | h | h
            · exact absurd h h20
            · exact h
            · obtain ⟨i, h1, rfl⟩ := ask h
              exact absurd (nI_lt (b := 20) (by omega) (by omega)) c52
          first | exact absurd c58 h20 | (rw [mostV, if_neg h20, if_pos h21]; rfl)
  refine wp_iload_n dX0_most_0 rfl ?_
  refine wp_bipush dX0_most_1 20 rfl ?_
  refine wp_icmp_eq dX0_most_3 22 (by decide) (fun c3 => ?_) (fun c3 => ?_)
  · refine go ?_
    first | exact Or.inl c3 | exact Or.inr (Or.inl c9) | exact Or.inr (Or.inr (bI_1.mp c17))
  · refine wp_iload_n dX0_most_6 rfl ?_
    refine wp_bipush dX0_most_7 21 rfl ?_
    refine wp_icmp_eq dX0_most_9 22 (by decide) (fun c9 => ?_) (fun c9 => ?_)
    · refine go ?_
      first | exact Or.inl c3 | exact Or.inr (Or.inl c9) | exact Or.inr (Or.inr (bI_1.mp c17))
    · refine wp_aload_n dX0_most_12 rfl ?_
      refine wp_iload_n dX0_most_13 rfl ?_
      refine wp_cI (gcV dX0_most_14 gva_X0_243_0 (ct_isAsker _ hC) hC.k0 rfl rfl (by omega) (by omega) (by omega) (Nat.le_of_ble_eq_true rfl) rfl) ?_
      refine wp_if_ne dX0_most_17 22 (by decide) (fun c17 => ?_) (fun c17 => ?_)
      · refine go ?_
        first | exact Or.inl c3 | exact Or.inr (Or.inl c9) | exact Or.inr (Or.inr (bI_1.mp c17))
      · refine wp_iconst dX0_most_20 (-1) rfl ?_
        refine wp_iret dX0_most_21 rfl ?_
        refine ⟨_, rfl, ?_, Fr.rf⟩
        rw [mostV, if_neg c3, if_neg c9, bI_0.mp c17]
        rfl
end
