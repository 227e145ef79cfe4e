set_option maxRecDepth 100000
section
variable {Γ : Gm} {σ : St} {b hi : Nat} {Lw : Lws}
theorem ct_search (v w : Int32) (hC : CK b σ) : Ct Γ 23 0 0 m_X0_search [.ref b, .int v, .int w] σ (fun r τ => ∃ y, r = some (.int y) ∧ (y = searchV (stI σ (b + 155)) (stI σ (b + 203)) v w (stI σ b 6) ∧ (Fr (srW b) b σ τ ∧ ((∀ j, j ≠ 15 → j ≠ 6 → stI τ b j = stI σ b j) ∧ stI τ b 6 = (if srOk v (stI σ b 6) = true then 0 else stI σ b 6))))) := by
  refine Ct.ofWP pf_X0_search rfl rfl ?_
  have go : ∀ m, 2 ≤ m → m ≤ 6 → srOk (nI m) (stI σ b 6) = true → isSr (stI σ (b + 155)) m = true → (w = 20 ∨ (w = 21 ∨ inB w (nI m) = true)) → WP Γ m_X0_search 23 0 0 63 [some (.ref b), some (.int (nI m)), some (.int w), none, none] [] (setI σ b 6 0) (fun r τ => ∃ y, r = some (.int y) ∧ (y = searchV (stI σ (b + 155)) (stI σ (b + 203)) (nI m) w (stI σ b 6) ∧ (Fr (srW b) b σ τ ∧ ((∀ j, j ≠ 15 → j ≠ 6 → stI τ b j = stI σ b j) ∧ stI τ b 6 = (if srOk (nI m) (stI σ b 6) = true then 0 else stI σ b 6))))) := by
    intro m hm2 hm6 hok hsr hw
    have hC1 : CK b (setI σ b 6 0) := hC.kr (KR.rf.setI _ _ _)
    have hC2 : CK b (setI (setI σ b 6 0) b 15 268435456) := hC1.kr (KR.rf.setI _ _ _)
    have hC3 : CK b (setI (setI (setI σ b 6 0) b 15 268435456) (b + 202) 0 0) := hC2.kr (KR.rf.setI _ _ _)
    have hA0 : tpA (stI σ (b + 155)) m m = true := by rw [isSr, Bool.and_eq_true] at hsr; exact hsr.1
    have hs0 : 0 < sumT (stI σ (b + 155)) m := by rw [isSr, Bool.and_eq_true, decide_eq_true_eq] at hsr; exact hsr.2
    obtain ⟨a, ha, ha2⟩ := sumT_n (fun t ht => (tpA_t m hA0 t ht).1) m (Nat.le_refl _)
    obtain ⟨l, hl, hl2⟩ : SrN (srS (stI σ (b + 155)) m (stI σ (b + 203))) := srF_n hm6 hA0 (m - 1) _ _ _ _ _ 0 0 (by omega) (by show 0 < m; omega) (by show hasB 1 (nI 0) = true; decide) rfl rfl (by omega) (by omega) ⟨268435456, by decide, rfl⟩
    have ha0 : 0 < a := by
      rw [ha2] at hs0
      exact (nI_ltI (a := 0) (b := a) (by omega) (by omega)).mp hs0
    have hg : 0 < Nat.gcd l a := Nat.gcd_pos_of_pos_right l ha0
    have hgl : Nat.gcd l a ≤ a := Nat.gcd_le_right l ha0
    have hV : searchV (stI σ (b + 155)) (stI σ (b + 203)) (nI m) w (stI σ b 6) = (if w = 20 then nI (l / Nat.gcd l a) else if w = 21 then nI (a / Nat.gcd l a) else if inB w (nI m) = true then (srS (stI σ (b + 155)) m (stI σ (b + 203))).1 (ix w) else -3) := by
      rw [searchV, if_pos hok, ix_nI (by omega), if_pos hsr, srG, hl2, ha2, ix_nI (by omega), ix_nI (by omega)]
    have fr : ∀ τ, SrK b 1 (setI (setI (setI σ b 6 0) b 15 268435456) (b + 202) 0 0) τ → Fr (srW b) b σ τ ∧ ((∀ j, j ≠ 15 → j ≠ 6 → stI τ b j = stI σ b j) ∧ stI τ b 6 = (if srOk (nI m) (stI σ b 6) = true then 0 else stI σ b 6)) := by
      intro τ hK
      refine ⟨(((Fr.rf.setI (Or.inl rfl)).setI (Or.inl rfl)).setI (Or.inr (Or.inl rfl))).trans hK.1, fun j h1 h2 => ?_, ?_⟩
      · rw [hK.2.1 j h1, stI_setI, if_neg (by omega), stI_setI, if_neg (by omega), stI_setI, if_neg (by omega)]
      · rw [hK.2.1 6 (by omega), stI_setI, if_neg (by omega), stI_setI, if_neg (by omega), stI_setI, if_pos ⟨rfl, rfl⟩, if_pos hok]
    have at99 : ∀ τ, SrK b 1 (setI (setI (setI σ b 6 0) b 15 268435456) (b + 202) 0 0) τ → SrA b (srS (stI σ (b + 155)) m (stI σ (b + 203))) τ → (∀ i, stI τ (b + 155) i = stI σ (b + 155) i) → (w = 20 ∨ w = 21) → WP Γ m_X0_search 23 0 0 99 [some (.ref b), some (.int (nI m)), some (.int w), none, none] [] τ (fun r τ => ∃ y, r = some (.int y) ∧ (y = searchV (stI σ (b + 155)) (stI σ (b + 203)) (nI m) w (stI σ b 6) ∧ (Fr (srW b) b σ τ ∧ ((∀ j, j ≠ 15 → j ≠ 6 → stI τ b j = stI σ b j) ∧ stI τ b 6 = (if srOk (nI m) (stI σ b 6) = true then 0 else stI σ b 6))))) := by
      intro τ hK hA hT hw9
      have hC := hC3.kr hK.1.1
      have loop : ∀ f t, t + f = m → WP Γ m_X0_search 23 0 0 104 [some (.ref b), some (.int (nI m)), some (.int w), some (.int (sumT (stI σ (b + 155)) t)), some (.int (nI t))] [] τ (fun r τ => ∃ y, r = some (.int y) ∧ (y = searchV (stI σ (b + 155)) (stI σ (b + 203)) (nI m) w (stI σ b 6) ∧ (Fr (srW b) b σ τ ∧ ((∀ j, j ≠ 15 → j ≠ 6 → stI τ b j = stI σ b j) ∧ stI τ b 6 = (if srOk (nI m) (stI σ b 6) = true then 0 else stI σ b 6))))) := by
        intro f
        induction f with
        | zero =>
          intro t ht
          obtain rfl : t = m := by omega
          rw [ha2]
          have hd : Ct Γ (2 * 10 + 1) 0 0 m_X0_divisor [.int (nI l), .int (nI a)] τ _ := ct_divisor 10 l a hl (by omega) (by omega)
          refine wp_iload dX0_search_104 rfl ?_
          refine wp_iload_n dX0_search_106 rfl ?_
          refine wp_icmp_geN dX0_search_107 126 (by decide) t t rfl rfl (by omega) (by omega) (fun c107 => ?_) (fun c107 => ?_)
          · refine wp_aload_n dX0_search_126 rfl ?_
            refine wp_getI dX0_search_127 gfa_X0_268_0 rfl hC.k0 ?_
            rw [hA.1, hl2]
            refine wp_iload_n dX0_search_130 rfl ?_
            refine wp_cI (gcS dX0_search_131 gsa_X0_10 (hd) rfl rfl (by omega) (by omega) (by omega) (Nat.le_of_ble_eq_true rfl) rfl) ?_
            refine wp_istore dX0_search_134 rfl ?_
            refine wp_iload_n dX0_search_136 rfl ?_
            refine wp_bipush dX0_search_137 20 rfl ?_
            refine wp_icmp_ne dX0_search_139 152 (by decide) (fun c139 => ?_) (fun c139 => ?_)
            · refine wp_iload_n dX0_search_152 rfl ?_
              refine wp_iload dX0_search_153 rfl ?_
              refine wp_idiv dX0_search_155 (nI_ne0 hg (by omega)) ?_
              refine wp_top (y := nI (a / (Nat.gcd l a))) (pk_div (a := a) (d := (Nat.gcd l a)) (by omega) (by omega) (by omega)) ?_
              refine wp_iret dX0_search_156 rfl ?_
              refine ⟨_, rfl, ?_, fr τ hK⟩
              rw [hV]
              first | (rw [if_pos c139]; done) | (rw [if_neg c139, if_pos (hw9.resolve_left c139)])
            · refine wp_aload_n dX0_search_142 rfl ?_
              refine wp_getI dX0_search_143 gfa_X0_268_0 rfl hC.k0 ?_
              rw [hA.1, hl2]
              refine wp_iload dX0_search_146 rfl ?_
              refine wp_idiv dX0_search_148 (nI_ne0 hg (by omega)) ?_
              rw [pk_div hl hg (by omega)]
              refine wp_goto dX0_search_149 156 (by decide) ?_
              refine wp_iret dX0_search_156 rfl ?_
              refine ⟨_, rfl, ?_, fr τ hK⟩
              rw [hV]
              first | (rw [if_pos c139]; done) | (rw [if_neg c139, if_pos (hw9.resolve_left c139)])
          · omega
        | succ f ih =>
          intro t ht
          refine wp_iload dX0_search_104 rfl ?_
          refine wp_iload_n dX0_search_106 rfl ?_
          refine wp_icmp_geN dX0_search_107 126 (by decide) t m rfl rfl (by omega) (by omega) (fun c107 => ?_) (fun c107 => ?_)
          · omega
          · refine wp_iload_n dX0_search_110 rfl ?_
            refine wp_aload_n dX0_search_111 rfl ?_
            refine wp_getR dX0_search_112 gfa_X0_43_0 rfl hC.k0 hC.r4 ?_
            refine wp_iload dX0_search_115 rfl ?_
            refine wp_bald dX0_search_117 hC.k155 t rfl (by omega) (by omega) ?_
            rw [hT]
            refine wp_iadd dX0_search_118 ?_
            refine wp_istore_n dX0_search_119 rfl ?_
            refine wp_iinc dX0_search_120 rfl rfl (nI (t + 1)) (nI_add t 1) ?_
            refine wp_goto dX0_search_123 104 (by decide) ?_
            exact ih (t + 1) (by omega)
      refine wp_iconst dX0_search_99 0 rfl ?_
      refine wp_istore_n dX0_search_100 rfl ?_
      refine wp_iconst dX0_search_101 0 rfl ?_
      refine wp_istore dX0_search_102 rfl ?_
      exact loop m 0 (by omega)
    refine wp_aload_n dX0_search_63 rfl ?_
    refine wp_ldcw dX0_search_64 q1146 ?_
    refine wp_putI dX0_search_67 gfa_X0_268_0 (Or.inl rfl) rfl ⟨rfl, rfl⟩ hC1.k0 ?_
    refine wp_aload_n dX0_search_70 rfl ?_
    refine wp_getR dX0_search_71 gfa_X0_72_0 rfl hC2.k0 hC2.r13 ?_
    refine wp_iconst dX0_search_74 0 rfl ?_
    refine wp_iconst dX0_search_75 0 rfl ?_
    refine wp_iast dX0_search_76 hC2.k202 0 rfl (by omega) (by omega) ?_
    refine wp_aload_n dX0_search_77 rfl ?_
    refine wp_iload_n dX0_search_78 rfl ?_
    refine wp_iconst dX0_search_79 1 rfl ?_
    refine wp_iconst dX0_search_80 1 rfl ?_
    refine wp_iconst dX0_search_81 0 rfl ?_
    refine wp_iconst dX0_search_82 0 rfl ?_
    refine wp_cVx (gcV dX0_search_83 gva_X0_271_0 (ct_searches (T := (stI σ (b + 155))) hm2 hm6 (m - 1) 1 (fun _ => 0) _ _ _ ((stI σ (b + 203)), 268435456) _ (by omega) (by omega) hC3 (fun i => by rw [stI_setI, if_neg (by omega), stI_setI, if_neg (by omega), stI_setI, if_neg (by omega)]) (fun i hi' => by (obtain rfl : i = 0 := (by omega)); exact ⟨by rw [stI_setI, if_pos ⟨rfl, rfl⟩]; rfl, by show 0 < m; omega⟩) ⟨by rw [stI_setI, if_neg (by omega), stI_setI, if_pos ⟨rfl, rfl⟩], fun i hi' => by rw [stI_setI, if_neg (by omega), stI_setI, if_neg (by omega), stI_setI, if_neg (by omega)]⟩) hC3.k0 rfl rfl (by omega) (by omega) (by omega) (Nat.le_of_ble_eq_true rfl) rfl) (fun τ hy => ?_)
    obtain ⟨hK, hA⟩ := hy
    have hC4 := hC3.kr hK.1.1
    have hA : SrA b (srS (stI σ (b + 155)) m (stI σ (b + 203))) τ := hA
    refine wp_iload_n dX0_search_86 rfl ?_
    refine wp_bipush dX0_search_87 20 rfl ?_
    refine wp_icmp_ge dX0_search_89 99 (by decide) (fun c89 => ?_) (fun c89 => ?_)
    · skip
      have hT : ∀ i, stI τ (b + 155) i = stI σ (b + 155) i := fun i => by rw [hK.1.2 _ (by unfold srW; omega), stI_setI, if_neg (by omega), stI_setI, if_neg (by omega), stI_setI, if_neg (by omega)]
      refine at99 τ hK hA hT ?_
      rcases hw with h | h | h
      · exact Or.inl h
      · exact Or.inr h
      · obtain ⟨j, hj, rfl⟩ := inB_n (by omega) h
        exact absurd (nI_lt (b := 20) (by omega) (by omega)) (Int32.not_lt.mpr c89)
    · have hw3 : inB w (nI m) = true := by
        rcases hw with h | h | h
        · subst h; exact absurd (by decide) c89
        · subst h; exact absurd (by decide) c89
        · exact h
      obtain ⟨j, hj, ej⟩ := inB_n (n := m) (by omega) hw3
      refine wp_aload_n dX0_search_92 rfl ?_
      refine wp_getR dX0_search_93 gfa_X0_75_0 rfl hC4.k0 hC4.r14 ?_
      refine wp_iload_n dX0_search_96 rfl ?_
      refine wp_iald dX0_search_97 hC4.k203 j ej (by omega) (by omega) ?_
      rw [hA.2 j (by omega)]
      refine wp_iret dX0_search_98 rfl ?_
      refine ⟨_, rfl, ?_, fr τ hK⟩
      rw [hV, if_neg (by rintro rfl; revert c89; decide), if_neg (by rintro rfl; revert c89; decide), if_pos hw3, ej, ix_nI (by omega)]
  have fr0 : Fr (srW b) b σ (setI σ b 6 0) := Fr.rf.setI (Or.inl rfl)
  have fr1 : ∀ j, j ≠ 15 → j ≠ 6 → stI (setI σ b 6 0) b j = stI σ b j := fun j _ h => by rw [stI_setI, if_neg (by omega)]
  have hC1 : CK b (setI σ b 6 0) := hC.kr (KR.rf.setI _ _ _)
  have hT1 : stI (setI σ b 6 0) (b + 155) = (stI σ (b + 155)) := funext (fun i => by rw [stI_setI, if_neg (by omega)])
  refine wp_iload_n dX0_search_0 rfl ?_
  refine wp_iconst dX0_search_1 2 rfl ?_
  refine wp_bipush dX0_search_2 6 rfl ?_
  refine wp_cI (gcS dX0_search_4 gsa_X0_128 (ct_within _ _ _) rfl rfl (by omega) (by omega) (by omega) (Nat.le_of_ble_eq_true rfl) rfl) ?_
  refine wp_if_eq dX0_search_7 22 (by decide) (fun c7 => ?_) (fun c7 => ?_)
  · refine wp_iconst dX0_search_22 (-1) rfl ?_
    refine wp_iret dX0_search_23 rfl ?_
    have e : srOk v (stI σ b 6) = false := by
      first | (rw [srOk, bI_0.mp c7]; rfl) | (rw [srOk, decide_eq_false c19, Bool.and_false])
    refine ⟨_, rfl, ?_, Fr.rf, fun _ _ _ => rfl, ?_⟩
    · rw [searchV, e]; rfl
    · rw [e]; rfl
  · refine wp_iload_n dX0_search_10 rfl ?_
    refine wp_iload_n dX0_search_11 rfl ?_
    refine wp_iload_n dX0_search_12 rfl ?_
    refine wp_imul dX0_search_13 ?_
    refine wp_iadd dX0_search_14 ?_
    refine wp_aload_n dX0_search_15 rfl ?_
    refine wp_getI dX0_search_16 gfa_X0_149_0 rfl hC.k0 ?_
    refine wp_icmp_le dX0_search_19 24 (by decide) (fun c19 => ?_) (fun c19 => ?_)
    · have hok : srOk v (stI σ b 6) = true := by rw [srOk, bI_1.mp c7, decide_eq_true c19]; rfl
      obtain ⟨m, hm2, hm6, rfl⟩ := wiB_nat (lo := 2) (hi := 6) (by omega) (by omega) (bI_1.mp c7)
      have hx := ix_nI (n := m) (by omega)
      refine wp_aload_n dX0_search_24 rfl ?_
      refine wp_iconst dX0_search_25 0 rfl ?_
      refine wp_putI dX0_search_26 gfa_X0_149_0 (Or.inl rfl) rfl ⟨rfl, rfl⟩ hC.k0 ?_
      refine wp_aload_n dX0_search_29 rfl ?_
      refine wp_iload_n dX0_search_30 rfl ?_
      refine wp_cI (gcV dX0_search_31 gva_X0_275_0 (ct_isSearch hm2 hm6 hC1) hC1.k0 rfl rfl (by omega) (by omega) (by omega) (Nat.le_of_ble_eq_true rfl) rfl) ?_
      rw [hT1]
      refine wp_if_ne dX0_search_34 40 (by decide) (fun c34 => ?_) (fun c34 => ?_)
      · refine wp_iload_n dX0_search_40 rfl ?_
        refine wp_bipush dX0_search_41 20 rfl ?_
        refine wp_icmp_eq dX0_search_43 63 (by decide) (fun c43 => ?_) (fun c43 => ?_)
        · refine go m hm2 hm6 hok (bI_1.mp c34) ?_
          first | exact Or.inl c43 | exact Or.inr (Or.inl c49) | exact Or.inr (Or.inr (bI_1.mp c57))
        · refine wp_iload_n dX0_search_46 rfl ?_
          refine wp_bipush dX0_search_47 21 rfl ?_
          refine wp_icmp_eq dX0_search_49 63 (by decide) (fun c49 => ?_) (fun c49 => ?_)
          · refine go m hm2 hm6 hok (bI_1.mp c34) ?_
            first | exact Or.inl c43 | exact Or.inr (Or.inl c49) | exact Or.inr (Or.inr (bI_1.mp c57))
          · refine wp_iload_n dX0_search_52 rfl ?_
            refine wp_iload_n dX0_search_53 rfl ?_
            refine wp_cI (gcS dX0_search_54 gsa_X0_103 (ct_in _ _) rfl rfl (by omega) (by omega) (by omega) (Nat.le_of_ble_eq_true rfl) rfl) ?_
            refine wp_if_ne dX0_search_57 63 (by decide) (fun c57 => ?_) (fun c57 => ?_)
            · refine go m hm2 hm6 hok (bI_1.mp c34) ?_
              first | exact Or.inl c43 | exact Or.inr (Or.inl c49) | exact Or.inr (Or.inr (bI_1.mp c57))
            · refine wp_bipush dX0_search_60 (-3) rfl ?_
              refine wp_iret dX0_search_62 rfl ?_
              exact ⟨_, rfl, by rw [searchV, if_pos hok, hx, if_pos (bI_1.mp c34), if_neg c43, if_neg c49, bI_0.mp c57]; rfl, fr0, fr1, by rw [if_pos hok, stI_setI, if_pos ⟨rfl, rfl⟩]⟩
      · refine wp_bipush dX0_search_37 (-2) rfl ?_
        refine wp_iret dX0_search_39 rfl ?_
        exact ⟨_, rfl, by rw [searchV, if_pos hok, hx, bI_0.mp c34]; rfl, fr0, fr1, by rw [if_pos hok, stI_setI, if_pos ⟨rfl, rfl⟩]⟩
    · refine wp_iconst dX0_search_22 (-1) rfl ?_
      refine wp_iret dX0_search_23 rfl ?_
      have e : srOk v (stI σ b 6) = false := by
        first | (rw [srOk, bI_0.mp c7]; rfl) | (rw [srOk, decide_eq_false c19, Bool.and_false])
      refine ⟨_, rfl, ?_, Fr.rf, fun _ _ _ => rfl, ?_⟩
      · rw [searchV, e]; rfl
      · rw [e]; rfl
end
