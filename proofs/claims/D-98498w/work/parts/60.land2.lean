set_option maxRecDepth 100000
/-- a land at a, and the moment -/
def inL (b a : Nat) : Nat → Prop := fun c => c = b + 1 ∨ (a ≤ c ∧ c < a + 51)
/-- behind a method of the land at a: nothing else is written; the land holds G -/
def LPo (b a : Nat) (σ : St) (G : Gd) (τ : St) : Prop := Fr (inL b a) b σ τ ∧ LG τ a = G
section
variable {b a hi : Nat} {σ τ ρ : St} {G G' : Gd} {Lw : Lws}
theorem LPo.rf : LPo b a σ (LG σ a) σ := ⟨Fr.rf, rfl⟩
theorem LPo.trans (h1 : LPo b a σ G τ) (h2 : LPo b a τ G' ρ) : LPo b a σ G' ρ := ⟨h1.1.trans h2.1, h2.2⟩
theorem LPo.of (h1 : LPo b a σ G τ) (h2 : Fr (isM b) b τ ρ) (hL : LK b a σ) : LPo b a σ G ρ := ⟨h1.1.trans (h2.mono (fun _ h => Or.inl h)), (LG_fr h2 (isM_land hL.ge)).trans h1.2⟩
theorem LPo.setp {f i : Nat} {x : Int32} (h : LPo b a σ G τ) (hf : f < 10) (hi : i < 12) : LPo b a σ (gset G f i x) (setI τ (a + 3 + 4 * i) f x) := ⟨h.1.setI (Or.inr (by omega)), by rw [LG_setp hf hi, h.2]⟩
theorem LPo.sete {f i : Nat} {x : Int32} (h : LPo b a σ G τ) (hf : f < 10) (hi : i < 12) : LPo b a σ (gset G (f + 10) i x) (setI τ (a + 5 + 4 * i) f x) := ⟨h.1.setI (Or.inr (by omega)), by rw [LG_sete hf hi, h.2]⟩
theorem LPo.seth {f i : Nat} {x : Int32} (h : LPo b a σ G τ) (hf : f < 10) (hi : i < 12) : LPo b a σ (gset G (f + 20) i x) (setI τ (a + 6 + 4 * i) f x) := ⟨h.1.setI (Or.inr (by omega)), by rw [LG_seth hf hi, h.2]⟩
theorem LPo.sets {k : Nat} {x : Int32} (h : LPo b a σ G τ) (hk : k < 12) : LPo b a σ (sset G k x) (setI τ a k x) := ⟨h.1.setI (Or.inr (by omega)), by rw [LG_sets hk, h.2]⟩
theorem LPo.p {i : Nat} (h : LPo b a σ G τ) (f : Nat) (hf : f < 10) (hi : i < 12) : stI τ (a + 3 + 4 * i) f = G f i := by rw [LG_p f hf hi, h.2]
theorem LPo.e1 {i : Nat} (h : LPo b a σ G τ) (hi : i < 12) : stI τ (a + 5 + 4 * i) 1 = G 11 i := by rw [LG_e1 hi, h.2]
theorem LPo.e2 {i : Nat} (h : LPo b a σ G τ) (hi : i < 12) : stI τ (a + 5 + 4 * i) 2 = G 12 i := by rw [LG_e2 hi, h.2]
theorem LPo.s {k : Nat} (h : LPo b a σ G τ) (hk : k < 12) : stI τ a k = G 30 k := by rw [LG_s hk, h.2]
theorem LPo.L (h : LPo b a σ G τ) (hL : LK b a σ) : LK b a τ := hL.fr h.1
theorem inL_law (hL : LK b a σ) (ha : a + 51 ≤ b + 156) : ∀ c, inL b a c → c < b + 156 ∨ (b + 160 ≤ c ∧ c < b + 794) := by
  intro c h
  have := hL.ge
  rcases h with h | h <;> omega
theorem LPo.S (h : LPo b a σ G τ) (hL : LK b a σ) (ha : a + 51 ≤ b + 156) (hS : Sy b hi Lw σ) : Sy b hi Lw τ := hS.fr h.1 (inL_law hL ha)
end
def wedG (G : Gd) (i j : Nat) : Gd := gset (gset (gset (gset G 3 i (nI j)) 3 j (nI i)) 4 i 0) 4 j 0
def partG (G : Gd) (i j : Nat) : Gd := gset (gset G 3 i (-1)) 3 j (-1)
def triedG1 (G : Gd) (i j : Nat) : Gd := gset G 5 i (G 5 i ||| 1 <<< (nI j &&& 31))
def triedG (G : Gd) (i j : Nat) : Gd := triedG1 (triedG1 G i j) j i
def drawG (G : Gd) : Gd := sset G 3 (25173 * G 30 3 + 13849 - (25173 * G 30 3 + 13849) / 65536 * 65536)
def drawV (G : Gd) : Int32 := drawG G 30 3 - drawG G 30 3 / 10 * 10
/-- the pieces of two are worn by w, the first n pieces -/
def wearG (G : Gd) (i j w : Int32) : Nat → Gd
  | 0 => G
  | n + 1 => if G 12 n = i ∨ G 12 n = j then gset (wearG G i j w n) 11 n (imin 99 (wearG G i j w n 11 n + w)) else wearG G i j w n
def triesG1 (G : Gd) (i j : Nat) : Gd := triedG (sset G 5 (G 30 5 + 1)) i j
def triesG (Lw : Lws) (G : Gd) (i j : Nat) : Gd :=
  if fitB Lw (triesG1 G i j) i j = true then sset (wedG (triesG1 G i j) i j) 4 (wedG (triesG1 G i j) i j 30 4 + 1)
  else wearG (triesG1 G i j) (nI i) (nI j) (askF Lw (triesG1 G i j) i j (slackL (triesG1 G i j) (nI i) (nI j)) 119 9) 12
theorem wearG_12 (G : Gd) (i j w : Int32) : ∀ n k, wearG G i j w n 12 k = G 12 k
  | 0, k => rfl
  | n + 1, k => by
    rw [wearG]
    split
    · rw [gset, if_neg (by omega), wearG_12 G i j w n k]
    · exact wearG_12 G i j w n k
section
variable {Γ : Gm} {σ : St} {b a hi : Nat} {Lw : Lws}
theorem ct_wed {i j : Nat} (hi : i < 12) (hj : j < 12) (hL : LK b a σ) : Ct Γ 0 0 0 m_X3_wed [.ref a, .int (nI i), .int (nI j)] σ (fun v τ => v = none ∧ LPo b a σ (wedG (LG σ a) i j) τ) := by
  refine Ct.ofWP pf_X3_wed rfl rfl ?_
  refine wp_aload_n dX3_wed_0 rfl ?_
  refine wp_getR dX3_wed_1 gfa_X3_17_3 rfl hL.k0 hL.r0 ?_
  refine wp_iload_n dX3_wed_4 rfl ?_
  refine wp_aald dX3_wed_5 hL.k1 rfl i rfl (by omega) (by omega) (hL.rP (by omega)) ?_
  refine wp_iload_n dX3_wed_6 rfl ?_
  refine wp_putI dX3_wed_7 gfa_X3_86_4 (Or.inl rfl) rfl ⟨rfl, rfl⟩ (hL.kP (by omega)) ?_
  refine wp_aload_n dX3_wed_10 rfl ?_
  refine wp_getR dX3_wed_11 gfa_X3_17_3 rfl hL.k0 hL.r0 ?_
  refine wp_iload_n dX3_wed_14 rfl ?_
  refine wp_aald dX3_wed_15 hL.k1 rfl j rfl (by omega) (by omega) (hL.rP (by omega)) ?_
  refine wp_iload_n dX3_wed_16 rfl ?_
  refine wp_putI dX3_wed_17 gfa_X3_86_4 (Or.inl rfl) rfl ⟨rfl, rfl⟩ (hL.kP (by omega)) ?_
  refine wp_aload_n dX3_wed_20 rfl ?_
  refine wp_getR dX3_wed_21 gfa_X3_17_3 rfl hL.k0 hL.r0 ?_
  refine wp_iload_n dX3_wed_24 rfl ?_
  refine wp_aald dX3_wed_25 hL.k1 rfl i rfl (by omega) (by omega) (hL.rP (by omega)) ?_
  refine wp_iconst dX3_wed_26 0 rfl ?_
  refine wp_putI dX3_wed_27 gfa_X3_89_4 (Or.inl rfl) rfl ⟨rfl, rfl⟩ (hL.kP (by omega)) ?_
  refine wp_aload_n dX3_wed_30 rfl ?_
  refine wp_getR dX3_wed_31 gfa_X3_17_3 rfl hL.k0 hL.r0 ?_
  refine wp_iload_n dX3_wed_34 rfl ?_
  refine wp_aald dX3_wed_35 hL.k1 rfl j rfl (by omega) (by omega) (hL.rP (by omega)) ?_
  refine wp_iconst dX3_wed_36 0 rfl ?_
  refine wp_putI dX3_wed_37 gfa_X3_89_4 (Or.inl rfl) rfl ⟨rfl, rfl⟩ (hL.kP (by omega)) ?_
  refine wp_vret dX3_wed_40 rfl ?_
  exact ⟨rfl, (((LPo.rf.setp (by omega) hi).setp (by omega) hj).setp (by omega) hi).setp (by omega) hj⟩
theorem ct_part {i j : Nat} (hi : i < 12) (hj : j < 12) (hL : LK b a σ) : Ct Γ 0 0 0 m_X3_part [.ref a, .int (nI i), .int (nI j)] σ (fun v τ => v = none ∧ LPo b a σ (partG (LG σ a) i j) τ) := by
  refine Ct.ofWP pf_X3_part rfl rfl ?_
  refine wp_aload_n dX3_part_0 rfl ?_
  refine wp_getR dX3_part_1 gfa_X3_17_3 rfl hL.k0 hL.r0 ?_
  refine wp_iload_n dX3_part_4 rfl ?_
  refine wp_aald dX3_part_5 hL.k1 rfl i rfl (by omega) (by omega) (hL.rP (by omega)) ?_
  refine wp_iconst dX3_part_6 (-1) rfl ?_
  refine wp_putI dX3_part_7 gfa_X3_86_4 (Or.inl rfl) rfl ⟨rfl, rfl⟩ (hL.kP (by omega)) ?_
  refine wp_aload_n dX3_part_10 rfl ?_
  refine wp_getR dX3_part_11 gfa_X3_17_3 rfl hL.k0 hL.r0 ?_
  refine wp_iload_n dX3_part_14 rfl ?_
  refine wp_aald dX3_part_15 hL.k1 rfl j rfl (by omega) (by omega) (hL.rP (by omega)) ?_
  refine wp_iconst dX3_part_16 (-1) rfl ?_
  refine wp_putI dX3_part_17 gfa_X3_86_4 (Or.inl rfl) rfl ⟨rfl, rfl⟩ (hL.kP (by omega)) ?_
  refine wp_vret dX3_part_20 rfl ?_
  exact ⟨rfl, (LPo.rf.setp (by omega) hi).setp (by omega) hj⟩
theorem ct_haveTried {i j : Nat} (hi : i < 12) (hj : j < 12) (hL : LK b a σ) : Ct Γ 0 0 0 m_X3_haveTried [.ref a, .int (nI i), .int (nI j)] σ (fun v τ => v = none ∧ LPo b a σ (triedG (LG σ a) i j) τ) := by
  refine Ct.ofWP pf_X3_haveTried rfl rfl ?_
  have h1 : LPo b a σ (triedG1 (LG σ a) i j) (setI σ (a + 3 + 4 * i) 5 (stI σ (a + 3 + 4 * i) 5 ||| 1 <<< (nI j &&& 31))) := by
    rw [LG_p 5 (by omega) hi]
    exact LPo.rf.setp (by omega) hi
  refine wp_aload_n dX3_haveTried_0 rfl ?_
  refine wp_getR dX3_haveTried_1 gfa_X3_17_3 rfl hL.k0 hL.r0 ?_
  refine wp_iload_n dX3_haveTried_4 rfl ?_
  refine wp_aald dX3_haveTried_5 hL.k1 rfl i rfl (by omega) (by omega) (hL.rP (by omega)) ?_
  refine wp_dup dX3_haveTried_6 rfl ?_
  refine wp_getI dX3_haveTried_7 gfa_X3_92_4 rfl (hL.kP (by omega)) ?_
  refine wp_iconst dX3_haveTried_10 1 rfl ?_
  refine wp_iload_n dX3_haveTried_11 rfl ?_
  refine wp_ishl dX3_haveTried_12 ?_
  refine wp_ior dX3_haveTried_13 ?_
  refine wp_putI dX3_haveTried_14 gfa_X3_92_4 (Or.inl rfl) rfl ⟨rfl, rfl⟩ (hL.kP (by omega)) ?_
  refine wp_aload_n dX3_haveTried_17 rfl ?_
  refine wp_getR dX3_haveTried_18 gfa_X3_17_3 rfl hL.k0 hL.r0 ?_
  refine wp_iload_n dX3_haveTried_21 rfl ?_
  refine wp_aald dX3_haveTried_22 hL.k1 rfl j rfl (by omega) (by omega) (hL.rP (by omega)) ?_
  refine wp_dup dX3_haveTried_23 rfl ?_
  refine wp_getI dX3_haveTried_24 gfa_X3_92_4 rfl (hL.kP (by omega)) ?_
  rw [h1.p 5 (by omega) hj]
  refine wp_iconst dX3_haveTried_27 1 rfl ?_
  refine wp_iload_n dX3_haveTried_28 rfl ?_
  refine wp_ishl dX3_haveTried_29 ?_
  refine wp_ior dX3_haveTried_30 ?_
  refine wp_putI dX3_haveTried_31 gfa_X3_92_4 (Or.inl rfl) rfl ⟨rfl, rfl⟩ (hL.kP (by omega)) ?_
  refine wp_vret dX3_haveTried_34 rfl ?_
  exact ⟨rfl, h1.setp (by omega) hj⟩
theorem ct_draw (hL : LK b a σ) : Ct Γ 0 0 0 m_X3_draw [.ref a] σ (fun v τ => ∃ y, v = some (.int y) ∧ (y = drawV (LG σ a) ∧ LPo b a σ (drawG (LG σ a)) τ)) := by
  refine Ct.ofWP pf_X3_draw rfl rfl ?_
  have h1 : LPo b a σ (drawG (LG σ a)) (setI σ a 3 (25173 * stI σ a 3 + 13849 - (25173 * stI σ a 3 + 13849) / 65536 * 65536)) := by
    rw [LG_s (by omega)]
    exact LPo.rf.sets (by omega)
  refine wp_aload_n dX3_draw_0 rfl ?_
  refine wp_sipush dX3_draw_1 25173 rfl ?_
  refine wp_aload_n dX3_draw_4 rfl ?_
  refine wp_getI dX3_draw_5 gfa_X3_43_3 rfl hL.k0 ?_
  refine wp_imul dX3_draw_8 ?_
  refine wp_sipush dX3_draw_9 13849 rfl ?_
  refine wp_iadd dX3_draw_12 ?_
  refine wp_ldc dX3_draw_13 q1042 ?_
  refine wp_irem dX3_draw_15 (by decide) ?_
  refine wp_putI dX3_draw_16 gfa_X3_43_3 (Or.inl rfl) rfl ⟨rfl, rfl⟩ hL.k0 ?_
  refine wp_aload_n dX3_draw_19 rfl ?_
  refine wp_getI dX3_draw_20 gfa_X3_43_3 rfl hL.k0 ?_
  rw [h1.s (by omega)]
  refine wp_bipush dX3_draw_23 10 rfl ?_
  refine wp_irem dX3_draw_25 (by decide) ?_
  refine wp_iret dX3_draw_26 rfl ?_
  exact ⟨_, rfl, rfl, h1⟩
theorem ct_tries {i j : Nat} (hi' : i < 12) (hj : j < 12) (hL : LK b a σ) (ha : a + 51 ≤ b + 156) (hS : Sy b hi Lw σ) : Ct Γ 52 0 0 m_X3_tries [.ref a, .int (nI i), .int (nI j)] σ (fun v τ => v = none ∧ LPo b a σ (triesG Lw (LG σ a) i j) τ) := by
  refine Ct.ofWP pf_X3_tries rfl rfl ?_
  have loop : ∀ (Q : Option Value → St → Prop) (w : Int32) (n k : Nat) (ρ : St) (o7 : Option Value), k ≤ 12 → 12 - k < n → LPo b a σ (wearG (triesG1 (LG σ a) i j) (nI i) (nI j) w k) ρ → (∀ ρ, LPo b a σ (wearG (triesG1 (LG σ a) i j) (nI i) (nI j) w 12) ρ → Q none ρ) → WP Γ m_X3_tries 52 0 0 83 [some (.ref a), some (.int (nI i)), some (.int (nI j)), some (.int w), some (.ref (a + 2)), some (.int (nI 12)), some (.int (nI k)), o7] [] ρ Q := by
    intro Q w n
    induction n with
    | zero => intro k ρ o7 h1 h2; omega
    | succ n ih =>
      intro k ρ o7 h1 h2 hP hQ
      have hL1 := hP.L hL
      have e12 := wearG_12 (triesG1 (LG σ a) i j) (nI i) (nI j) w k k
      refine wp_iload dX3_tries_83 rfl ?_
      refine wp_iload dX3_tries_85 rfl ?_
      refine wp_icmp_geN dX3_tries_87 127 (by decide) k 12 rfl rfl (by omega) (by omega) (fun c87 => ?_) (fun c87 => ?_)
      · refine wp_vret dX3_tries_127 rfl ?_
        obtain rfl : k = 12 := by omega
        exact hQ _ hP
      · refine wp_aload dX3_tries_90 rfl ?_
        refine wp_iload dX3_tries_92 rfl ?_
        refine wp_aald dX3_tries_94 hL1.k2 rfl k rfl (by omega) (by omega) (hL1.rE (by omega)) ?_
        refine wp_astore dX3_tries_95 rfl ?_
        refine wp_aload dX3_tries_97 rfl ?_
        refine wp_getI dX3_tries_99 gfa_X3_29_5 rfl (hL1.kE (by omega)) ?_
        rw [hP.e2 (by omega), e12]
        refine wp_iload_n dX3_tries_102 rfl ?_
        refine wp_icmp_eq dX3_tries_103 115 (by decide) (fun c103 => ?_) (fun c103 => ?_)
        · refine wp_aload dX3_tries_115 rfl ?_
          refine wp_iload_n dX3_tries_117 rfl ?_
          refine wp_cV (gcV dX3_tries_118 gva_X3_110_5 (ct_wears _ (hL1.pc (by omega))) (hL1.kE (by omega)) rfl rfl (by omega) (by omega) (by omega) (Nat.le_of_ble_eq_true rfl) rfl) ?_
          refine wp_iinc dX3_tries_121 rfl rfl (nI (k + 1)) (nI_add k 1) ?_
          refine wp_goto dX3_tries_124 83 (by decide) ?_
          refine ih (k + 1) _ _ (by omega) (by omega) ?_ hQ
          rw [wearG]
          first | (rw [if_pos (by first | exact Or.inl c103 | exact Or.inr c112)]; rw [hP.e1 (by omega)]; exact hP.sete (by omega) (by omega)) | (rw [if_neg (by rintro (h | h); exact c103 h; exact c112 h)]; exact hP)
        · refine wp_aload dX3_tries_106 rfl ?_
          refine wp_getI dX3_tries_108 gfa_X3_29_5 rfl (hL1.kE (by omega)) ?_
          rw [hP.e2 (by omega), e12]
          refine wp_iload_n dX3_tries_111 rfl ?_
          refine wp_icmp_ne dX3_tries_112 121 (by decide) (fun c112 => ?_) (fun c112 => ?_)
          · refine wp_iinc dX3_tries_121 rfl rfl (nI (k + 1)) (nI_add k 1) ?_
            refine wp_goto dX3_tries_124 83 (by decide) ?_
            refine ih (k + 1) _ _ (by omega) (by omega) ?_ hQ
            rw [wearG]
            first | (rw [if_pos (by first | exact Or.inl c103 | exact Or.inr c112)]; rw [hP.e1 (by omega)]; exact hP.sete (by omega) (by omega)) | (rw [if_neg (by rintro (h | h); exact c103 h; exact c112 h)]; exact hP)
          · refine wp_aload dX3_tries_115 rfl ?_
            refine wp_iload_n dX3_tries_117 rfl ?_
            refine wp_cV (gcV dX3_tries_118 gva_X3_110_5 (ct_wears _ (hL1.pc (by omega))) (hL1.kE (by omega)) rfl rfl (by omega) (by omega) (by omega) (Nat.le_of_ble_eq_true rfl) rfl) ?_
            refine wp_iinc dX3_tries_121 rfl rfl (nI (k + 1)) (nI_add k 1) ?_
            refine wp_goto dX3_tries_124 83 (by decide) ?_
            refine ih (k + 1) _ _ (by omega) (by omega) ?_ hQ
            rw [wearG]
            first | (rw [if_pos (by first | exact Or.inl c103 | exact Or.inr c112)]; rw [hP.e1 (by omega)]; exact hP.sete (by omega) (by omega)) | (rw [if_neg (by rintro (h | h); exact c103 h; exact c112 h)]; exact hP)
  have hP : LPo b a σ (sset (LG σ a) 5 (LG σ a 30 5 + 1)) (setI σ a 5 (stI σ a 5 + 1)) := by
    rw [LG_s (by omega)]
    exact LPo.rf.sets (by omega)
  refine wp_aload_n dX3_tries_0 rfl ?_
  refine wp_dup dX3_tries_1 rfl ?_
  refine wp_getI dX3_tries_2 gfa_X3_95_3 rfl hL.k0 ?_
  refine wp_iconst dX3_tries_5 1 rfl ?_
  refine wp_iadd dX3_tries_6 ?_
  refine wp_putI dX3_tries_7 gfa_X3_95_3 (Or.inl rfl) rfl ⟨rfl, rfl⟩ hL.k0 ?_
  refine wp_aload_n dX3_tries_10 rfl ?_
  refine wp_iload_n dX3_tries_11 rfl ?_
  refine wp_iload_n dX3_tries_12 rfl ?_
  refine wp_cVx (gcV dX3_tries_13 gva_X3_98_3 (ct_haveTried hi' hj (hP.L hL)) hL.k0 rfl rfl (by omega) (by omega) (by omega) (Nat.le_of_ble_eq_true rfl) rfl) (fun τ hP1 => ?_)
  rw [hP.2] at hP1
  replace hP1 := hP.trans hP1
  clear hP
  change LPo b a σ (triesG1 (LG σ a) i j) τ at hP1
  have hL1 := hP1.L hL
  have hS1 := hP1.S hL ha hS
  refine wp_aload_n dX3_tries_16 rfl ?_
  refine wp_iload_n dX3_tries_17 rfl ?_
  refine wp_iload_n dX3_tries_18 rfl ?_
  refine wp_cIx (gcV dX3_tries_19 gva_X3_102_3 (ct_fit hi' hj hL1 hS1) hL1.k0 rfl rfl (by omega) (by omega) (by omega) (Nat.le_of_ble_eq_true rfl) rfl) (fun y ρ hy => ?_)
  obtain ⟨rfl, hf⟩ := hy
  rw [hP1.2]
  have hP2 := hP1.of hf hL
  have hL2 := hP2.L hL
  have hS2 := hP2.S hL ha hS
  clear hP1
  refine wp_if_eq dX3_tries_22 42 (by decide) (fun c22 => ?_) (fun c22 => ?_)
  · refine wp_aload_n dX3_tries_42 rfl ?_
    refine wp_getR dX3_tries_43 gfa_X3_3_3 rfl hL2.k0 hL2.r7 ?_
    refine wp_getR dX3_tries_46 gfa_X3_73_0 rfl hS2.1.k0 hS2.1.r0 ?_
    refine wp_aload_n dX3_tries_49 rfl ?_
    refine wp_iload_n dX3_tries_50 rfl ?_
    refine wp_iload_n dX3_tries_51 rfl ?_
    refine wp_aload_n dX3_tries_52 rfl ?_
    refine wp_iload_n dX3_tries_53 rfl ?_
    refine wp_iload_n dX3_tries_54 rfl ?_
    refine wp_cI (gcV dX3_tries_55 gva_X3_68_3 (ct_slackL _ _ hL2) hL2.k0 rfl rfl (by omega) (by omega) (by omega) (Nat.le_of_ble_eq_true rfl) rfl) ?_
    rw [hP2.2]
    refine wp_cR (gcV dX3_tries_58 gva_X3_77_2 (ct_of _ _ _ hS2.1.k1) hS2.1.k1 rfl rfl (by omega) (by omega) (by omega) (Nat.le_of_ble_eq_true rfl) rfl) ?_
    refine wp_bipush dX3_tries_61 119 rfl ?_
    refine wp_bipush dX3_tries_63 9 rfl ?_
    refine wp_cIx (gcV dX3_tries_65 gva_X3_83_2 (ct_tellsM 119 9 (ofx hL2 hS2.1.k1 hi' hj) (hS2.fr ofS_fr isM_law)) hS2.1.k1 rfl rfl (by omega) (by omega) (by omega) (Nat.le_of_ble_eq_true rfl) rfl) (fun y τ2 hy => ?_)
    obtain ⟨rfl, hf2⟩ := hy
    rw [show LG (ofS ρ b a (nI i) (nI j) (slackL (triesG1 (LG σ a) i j) (nI i) (nI j))) a = triesG1 (LG σ a) i j from (LG_fr ofS_fr (isM_land hL2.ge)).trans hP2.2]
    have hP3 := (hP2.of ofS_fr hL).of hf2 hL
    have hL3 := hP3.L hL
    refine wp_istore_n dX3_tries_68 rfl ?_
    refine wp_aload_n dX3_tries_69 rfl ?_
    refine wp_getR dX3_tries_70 gfa_X3_23_3 rfl hL3.k0 hL3.r1 ?_
    refine wp_astore dX3_tries_73 rfl ?_
    refine wp_aload dX3_tries_75 rfl ?_
    refine wp_alen dX3_tries_77 hL3.k2 rfl ?_
    refine wp_istore dX3_tries_78 rfl ?_
    refine wp_iconst dX3_tries_80 0 rfl ?_
    refine wp_istore dX3_tries_81 rfl ?_
    exact loop _ _ 13 0 _ _ (by omega) (by omega) hP3 (fun ρ h => ⟨rfl, by rw [triesG, if_neg (by rw [bI_0.mp c22]; decide)]; exact h⟩)
  · refine wp_aload_n dX3_tries_25 rfl ?_
    refine wp_iload_n dX3_tries_26 rfl ?_
    refine wp_iload_n dX3_tries_27 rfl ?_
    refine wp_cVx (gcV dX3_tries_28 gva_X3_105_3 (ct_wed hi' hj hL2) hL2.k0 rfl rfl (by omega) (by omega) (by omega) (Nat.le_of_ble_eq_true rfl) rfl) (fun τ2 hP3 => ?_)
    rw [hP2.2] at hP3
    replace hP3 := hP2.trans hP3
    have hL3 := hP3.L hL
    refine wp_aload_n dX3_tries_31 rfl ?_
    refine wp_dup dX3_tries_32 rfl ?_
    refine wp_getI dX3_tries_33 gfa_X3_107_3 rfl hL3.k0 ?_
    rw [hP3.s (by omega)]
    refine wp_iconst dX3_tries_36 1 rfl ?_
    refine wp_iadd dX3_tries_37 ?_
    refine wp_putI dX3_tries_38 gfa_X3_107_3 (Or.inl rfl) rfl ⟨rfl, rfl⟩ hL3.k0 ?_
    refine wp_vret dX3_tries_41 rfl ?_
    refine ⟨rfl, ?_⟩
    rw [triesG, if_pos (bI_1.mp c22)]
    exact hP3.sets (by omega)
end
