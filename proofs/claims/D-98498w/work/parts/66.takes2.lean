set_option maxRecDepth 100000
/-- the meaningful numbers of person and piece i: fields, heights, and the first d towns -/
def tkF (d f : Nat) : Bool := decide (1 ≤ f ∧ f ≤ 9) || (decide (f = 11 ∨ f = 12) || (decide (20 ≤ f ∧ f < 28) || decide (100 ≤ f ∧ f < 100 + d)))
/-- the first n persons and pieces are taken over from G' -/
def tkN (G G' : Gd) (n : Nat) : Gd := fun f i => if i < n ∧ tkF (ix (G' 7 i)) f = true then G' f i else G f i
def takeG (G G' : Gd) : Gd := sset (sset (tkN G G' 12) 2 (G' 30 2)) 3 (G' 30 3)
/-- told and dead are 0 or 1 -/
def GB (G : Gd) : Prop := ∀ i, i < 12 → (G 8 i = 0 ∨ G 8 i = 1) ∧ (G 9 i = 0 ∨ G 9 i = 1)
theorem LG_eq {σ τ : St} {a : Nat} {G : Gd} (h : ∀ f i, i < 12 → stI τ (LGa a f i) (LGk f i) = G f i) (h0 : ∀ f i, ¬ i < 12 → G f i = 0) : LG τ a = G := by
  funext f i
  rw [LG]
  by_cases hi : i < 12
  · rw [if_pos hi]; exact h f i hi
  · rw [if_neg hi]; exact (h0 f i hi).symm
theorem LG_0 {σ : St} {a f i : Nat} (h : ¬ i < 12) : LG σ a f i = 0 := by rw [LG, if_neg h]
theorem LG_at {σ : St} {a f i : Nat} (h : i < 12) : LG σ a f i = stI σ (LGa a f i) (LGk f i) := by rw [LG, if_pos h]
/-- behind person n and piece n are taken over -/
theorem tk_step {b a a' n : Nat} {σ τ : St} {G' : Gd} (hn : n < 12) (hd : a + 51 ≤ a' ∨ a' + 51 ≤ a) (hP : LPo b a σ (tkN (LG σ a) G' n) τ) (hG : LG τ a' = G') (hK : b + 1 < a) {d : Nat} (hdd : ix (G' 7 n) = d) :
    LPo b a σ (tkN (LG σ a) G' (n + 1)) (setI (setI (cpI (cpP τ (a + 3 + 4 * n) (a + 4 + 4 * n) (a' + 3 + 4 * n) (a' + 4 + 4 * n) d) (a + 6 + 4 * n) (a' + 6 + 4 * n) 8) (a + 5 + 4 * n) 1 (stI (cpP τ (a + 3 + 4 * n) (a + 4 + 4 * n) (a' + 3 + 4 * n) (a' + 4 + 4 * n) d) (a' + 5 + 4 * n) 1)) (a + 5 + 4 * n) 2 (stI (cpP τ (a + 3 + 4 * n) (a + 4 + 4 * n) (a' + 3 + 4 * n) (a' + 4 + 4 * n) d) (a' + 5 + 4 * n) 2)) := by
  have hd' : ∀ x, x < 51 → ∀ y, y < 51 → a + x ≠ a' + y := by omega
  constructor
  · refine hP.1.trans ⟨⟨fun _ => rfl, fun _ _ _ => rfl, rfl⟩, fun c hc k => ?_⟩
    have h1 : ¬ (a ≤ c ∧ c < a + 51) := fun r => hc (Or.inr r)
    rw [stI_setI, if_neg (by omega), stI_setI, if_neg (by omega), stI_cpI, if_neg (by omega), stI_cpP, if_neg (by omega), if_neg (by omega)]
  · refine LG_eq (σ := σ) (fun f i hi => ?_) (fun f i hi => ?_)
    · have hT : LG τ a f i = tkN (LG σ a) G' n f i := by rw [hP.2]
      rw [LG_at hi] at hT
      by_cases hin : i = n
      · subst hin
        have hS : LG τ a' f i = G' f i := by rw [hG]
        rw [LG_at hi] at hS
        rw [tkN, if_neg (by omega)] at hT
        rw [tkN, hdd]
        simp only [stI_setI, stI_cpI, stI_cpP]
        unfold LGa LGk tkF at *
        by_cases f1 : f < 10
        · rw [if_pos f1, if_pos f1] at *
          by_cases f2 : 1 ≤ f
          · simp [show a + 3 + 4 * i ≠ a + 5 + 4 * i by omega, show a + 3 + 4 * i ≠ a + 6 + 4 * i by omega, f2, show f ≤ 9 by omega, hS]
          · simp [show f = 0 by omega, show a + 3 + 4 * i ≠ a + 5 + 4 * i by omega, show a + 3 + 4 * i ≠ a + 6 + 4 * i by omega] at hT ⊢
            exact hT
        · rw [if_neg f1, if_neg f1] at *
          by_cases f2 : f < 20
          · rw [if_pos f2, if_pos f2] at *
            by_cases f3 : f = 11
            · subst f3
              simp [hd' (6 + 4 * i) (by omega), show a' + 5 + 4 * i ≠ a + 3 + 4 * i by omega, show a' + 5 + 4 * i ≠ a + 4 + 4 * i by omega] at hS ⊢
              rw [if_neg (show ¬ a' + 2 = a by omega), if_neg (show ¬ (a' + 1 = a ∧ 1 < d) by omega)]
              exact hS
            · by_cases f4 : f = 12
              · subst f4
                simp [show a' + 5 + 4 * i ≠ a + 3 + 4 * i by omega, show a' + 5 + 4 * i ≠ a + 4 + 4 * i by omega] at hS ⊢
                rw [if_neg (show ¬ a' + 2 = a by omega), if_neg (show ¬ (a' + 1 = a ∧ 2 < d) by omega)]
                exact hS
              · rw [if_neg (by omega), if_neg (by omega), if_neg (by omega), if_neg (by omega), if_neg (by omega), hT, if_neg (by simp; omega)]
          · rw [if_neg f2, if_neg f2] at *
            by_cases f3 : f < 30
            · rw [if_pos f3, if_pos f3] at *
              rw [if_neg (by omega), if_neg (by omega)]
              by_cases f4 : f < 28
              · rw [if_pos (by omega), if_neg (by omega), if_neg (by omega), hS, if_pos (by simp; omega)]
              · rw [if_neg (by omega), if_neg (by omega), if_neg (by omega), hT, if_neg (by simp; omega)]
            · rw [if_neg f3, if_neg f3] at *
              by_cases f4 : f < 100
              · rw [if_pos f4, if_pos f4] at *
                rw [if_neg (by omega), if_neg (by omega), if_neg (by omega), if_neg (by omega), if_neg (by omega), hT, if_neg (by simp; omega)]
              · rw [if_neg f4, if_neg f4] at *
                rw [if_neg (by omega), if_neg (by omega), if_neg (by omega), if_neg (by omega)]
                by_cases f5 : f < 100 + d
                · rw [if_pos (by omega), hS, if_pos (by simp; omega)]
                · rw [if_neg (by omega), hT, if_neg (by simp; omega)]
      · have e : tkN (LG σ a) G' (n + 1) f i = tkN (LG σ a) G' n f i := by
          unfold tkN
          by_cases h : i < n
          · simp [h, show i < n + 1 by omega]
          · simp [h, show ¬ i < n + 1 by omega]
        rw [e, ← hT]
        simp only [stI_setI, stI_cpI, stI_cpP]
        have h1 : LGa a f i ≠ a + 3 + 4 * n ∧ LGa a f i ≠ a + 4 + 4 * n ∧ LGa a f i ≠ a + 5 + 4 * n ∧ LGa a f i ≠ a + 6 + 4 * n := by
          unfold LGa; (repeat' split) <;> omega
        simp [h1.1, h1.2.1, h1.2.2.1, h1.2.2.2]
    · rw [tkN, if_neg (by omega)]; exact LG_0 hi
section
variable {Γ : Gm} {σ : St} {b a a' hi : Nat} {Lw : Lws}
theorem ct_takesL (hL : LK b a σ) (hL' : LK b a' σ) (hd : a + 51 ≤ a' ∨ a' + 51 ≤ a) (hG : GI (LG σ a')) (hB : GB (LG σ a')) : Ct Γ 1 0 0 m_X3_takes [.ref a, .ref a'] σ (fun v τ => ∃ r, v = some (.ref r) ∧ (r = a ∧ LPo b a σ (takeG (LG σ a) (LG σ a')) τ)) := by
  refine Ct.ofWP pf_X3_takes rfl rfl ?_
  have oth : ∀ {G : Gd} {τ : St}, LPo b a σ G τ → LG τ a' = LG σ a' := fun h => LG_fr h.1 (fun c hc => by have := hL.ge; have := hL'.ge; rcases hc with hc | hc <;> omega)
  have loop : ∀ n k (ρ : St), k ≤ 12 → 12 - k < n → LPo b a σ (tkN (LG σ a) (LG σ a') k) ρ → WP Γ m_X3_takes 1 0 0 2 [some (.ref a), some (.ref a'), some (.int (nI k))] [] ρ (fun v τ => ∃ r, v = some (.ref r) ∧ (r = a ∧ LPo b a σ (takeG (LG σ a) (LG σ a')) τ)) := by
    intro n
    induction n with
    | zero => intro k ρ h1 h2; omega
    | succ n ih =>
      intro k ρ h1 h2 hP
      have hL1 := hP.L hL
      have hL1' := hL'.fr hP.1
      have eo := oth hP
      have hge := hL.ge
      refine wp_iload_n dX3_takes_2 rfl ?_
      refine wp_bipush dX3_takes_3 12 rfl ?_
      refine wp_icmp_geN dX3_takes_5 44 (by decide) k 12 rfl rfl (by omega) (by omega) (fun c5 => ?_) (fun c5 => ?_)
      · obtain rfl : k = 12 := by omega
        refine wp_aload_n dX3_takes_44 rfl ?_
        refine wp_aload_n dX3_takes_45 rfl ?_
        refine wp_getI dX3_takes_46 gfa_X3_40_3 rfl hL1'.k0 ?_
        rw [LG_s (by omega), eo]
        refine wp_putI dX3_takes_49 gfa_X3_40_3 (Or.inl rfl) rfl ⟨rfl, rfl⟩ hL1.k0 ?_
        refine wp_aload_n dX3_takes_52 rfl ?_
        refine wp_aload_n dX3_takes_53 rfl ?_
        refine wp_getI dX3_takes_54 gfa_X3_43_3 rfl hL1'.k0 ?_
        rw [stI_setI, if_neg (by omega), LG_s (by omega), eo]
        refine wp_putI dX3_takes_57 gfa_X3_43_3 (Or.inl rfl) rfl ⟨rfl, rfl⟩ hL1.k0 ?_
        refine wp_aload_n dX3_takes_60 rfl ?_
        refine wp_aret dX3_takes_61 rfl (Or.inl ⟨_, rfl⟩) (Or.inr ⟨_, rfl⟩) ?_
        exact ⟨_, rfl, rfl, (hP.sets (by omega)).sets (by omega)⟩
      · refine wp_aload_n dX3_takes_8 rfl ?_
        refine wp_getR dX3_takes_9 gfa_X3_17_3 rfl hL1.k0 hL1.r0 ?_
        refine wp_iload_n dX3_takes_12 rfl ?_
        refine wp_aald dX3_takes_13 hL1.k1 rfl k rfl (by omega) (by omega) (hL1.rP (by omega)) ?_
        refine wp_aload_n dX3_takes_14 rfl ?_
        refine wp_getR dX3_takes_15 gfa_X3_17_3 rfl hL1'.k0 hL1'.r0 ?_
        refine wp_iload_n dX3_takes_18 rfl ?_
        refine wp_aald dX3_takes_19 hL1'.k1 rfl k rfl (by omega) (by omega) (hL1'.rP (by omega)) ?_
        obtain ⟨m, d, e6, e7, h6, h7⟩ := (hG k c5).1
        have hk2 : 0 < 1 := by decide
        refine wp_cV (gcV dX3_takes_20 gva_X3_33_4 (ct_takesPs (d := d) (hL1.ps c5) (hL1'.ps c5) (by rw [LG_p 7 (by omega) c5, eo]; exact e7) h7 (by omega) (by rw [LG_p 8 (by omega) c5, eo]; exact (hB k c5).1) (by rw [LG_p 9 (by omega) c5, eo]; exact (hB k c5).2)) (hL1.kP (by omega)) rfl rfl (by omega) (by omega) (by omega) (Nat.le_of_ble_eq_true rfl) rfl) ?_
        refine wp_aload_n dX3_takes_23 rfl ?_
        refine wp_getR dX3_takes_24 gfa_X3_23_3 rfl hL1.k0 hL1.r1 ?_
        refine wp_iload_n dX3_takes_27 rfl ?_
        refine wp_aald dX3_takes_28 hL1.k2 rfl k rfl (by omega) (by omega) (hL1.rE (by omega)) ?_
        refine wp_aload_n dX3_takes_29 rfl ?_
        refine wp_getR dX3_takes_30 gfa_X3_23_3 rfl hL1'.k0 hL1'.r1 ?_
        refine wp_iload_n dX3_takes_33 rfl ?_
        refine wp_aald dX3_takes_34 hL1'.k2 rfl k rfl (by omega) (by omega) (hL1'.rE (by omega)) ?_
        refine wp_cV (gcV dX3_takes_35 gva_X3_37_5 (ct_takesP (hL1.pc (by omega)) (hL1'.pc (by omega))) (hL1.kE (by omega)) rfl rfl (by omega) (by omega) (by omega) (Nat.le_of_ble_eq_true rfl) rfl) ?_
        refine wp_iinc dX3_takes_38 rfl rfl (nI (k + 1)) (nI_add k 1) ?_
        refine wp_goto dX3_takes_41 2 (by decide) ?_
        exact ih (k + 1) _ (by omega) (by omega) (tk_step c5 hd hP eo (by omega) (by rw [e7]; exact ix_nI (by omega)))
  refine wp_iconst dX3_takes_0 0 rfl ?_
  refine wp_istore_n dX3_takes_1 rfl ?_
  refine loop 13 0 _ (by omega) (by omega) ?_
  have e : tkN (LG σ a) (LG σ a') 0 = LG σ a := by funext f i; rw [tkN, if_neg (by omega)]
  rw [e]
  exact LPo.rf
end
