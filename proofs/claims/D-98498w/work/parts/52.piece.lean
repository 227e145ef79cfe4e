set_option maxRecDepth 100000
/-- a piece at p, its heights at h -/
def PcOK (p h : Nat) (σ : St) : Prop := stK σ p = some (5, 0) ∧ stR σ p 0 = some h ∧ stK σ h = some (100, 8)
def gapF (x y : Nat → Int32) : Nat → Int32
  | 0 => 0
  | n + 1 => gapF x y n + iabs (x n + y (7 - n))
def slackF (x y : Nat → Int32) (v w : Int32) : Int32 := imax 0 (gapF x y 8 - v - w)
/-- n places of the array at c are copied to the array at a -/
def cpI (σ : St) (a c n : Nat) : St := (σ.1, (fun b j => if b = a ∧ j < n then σ.2.1 c j else σ.2.1 b j), σ.2.2.1, σ.2.2.2)
theorem stI_cpI (σ : St) (a c n b j : Nat) : stI (cpI σ a c n) b j = if b = a ∧ j < n then stI σ c j else stI σ b j := rfl
theorem cpI_0 (σ : St) (a c : Nat) : cpI σ a c 0 = σ := by
  obtain ⟨k, f, r, m⟩ := σ
  simp [cpI]
theorem cpI_succ (σ : St) (a c n : Nat) : cpI σ a c (n + 1) = setI (cpI σ a c n) a n (stI (cpI σ a c n) c n) := by
  obtain ⟨k, f, r, m⟩ := σ
  simp only [cpI, setI, stI]
  congr 2
  funext b j
  by_cases h1 : b = a
  · subst h1
    by_cases h2 : j = n
    · subst h2; simp
    · by_cases h3 : j < n
      · simp [h2, h3, show j < n + 1 by omega]
      · simp [h2, h3, show ¬ j < n + 1 by omega]
  · simp [h1]
theorem K_ne {σ : St} {a b q z q' z' : Nat} (h : stK σ a = some (q, z)) (h' : stK σ b = some (q', z')) (hn : q ≠ q') : a ≠ b := by
  intro e
  subst e
  cases h.symm.trans h'
  exact hn rfl
section
variable {Γ : Gm} {σ : St}
theorem ct_gap {p ph q qh : Nat} (hp : PcOK p ph σ) (hq : PcOK q qh σ) : Ct Γ 1 0 0 m_X5_gap [.ref p, .ref q] σ (fun v τ => v = some (.int (gapF (stI σ ph) (stI σ qh) 8)) ∧ τ = σ) := by
  refine Ct.ofWP pf_X5_gap rfl rfl ?_
  have loop : ∀ Q : Option Value → St → Prop, Q (some (.int (gapF (stI σ ph) (stI σ qh) 8))) σ → ∀ n k, k ≤ 8 → 8 - k < n → WP Γ m_X5_gap 1 0 0 4 [some (.ref p), some (.ref q), some (.int (gapF (stI σ ph) (stI σ qh) k)), some (.int (nI k))] [] σ Q := by
    intro Q hQ n
    induction n with
    | zero => intro k h1 h2; omega
    | succ n ih =>
      intro k h1 h2
      refine wp_iload_n dX5_gap_4 rfl ?_
      refine wp_bipush dX5_gap_5 8 rfl ?_
      refine wp_icmp_geN dX5_gap_7 38 (by decide) k 8 rfl rfl (by omega) (by omega) (fun c7 => ?_) (fun c7 => ?_)
      · refine wp_iload_n dX5_gap_38 rfl ?_
        refine wp_iret dX5_gap_39 rfl ?_
        obtain rfl : k = 8 := by omega
        exact hQ
      · refine wp_iload_n dX5_gap_10 rfl ?_
        refine wp_aload_n dX5_gap_11 rfl ?_
        refine wp_getR dX5_gap_12 gfa_X5_9_5 rfl hp.1 hp.2.1 ?_
        refine wp_iload_n dX5_gap_15 rfl ?_
        refine wp_iald dX5_gap_16 hp.2.2 k rfl (by omega) (by omega) ?_
        refine wp_aload_n dX5_gap_17 rfl ?_
        refine wp_getR dX5_gap_18 gfa_X5_9_5 rfl hq.1 hq.2.1 ?_
        refine wp_bipush dX5_gap_21 7 rfl ?_
        refine wp_iload_n dX5_gap_23 rfl ?_
        refine wp_isub dX5_gap_24 ?_
        refine wp_top (y := nI (7 - k)) (pk_sub (a := 7) (b := k) (by omega)) ?_
        refine wp_iald dX5_gap_25 hq.2.2 (7 - k) rfl (by omega) (by omega) ?_
        refine wp_iadd dX5_gap_26 ?_
        refine wp_cI (gcS dX5_gap_27 gsa_X5_22 (ct_abs _) rfl rfl (by omega) (by omega) (by omega) (Nat.le_of_ble_eq_true rfl) rfl) ?_
        refine wp_iadd dX5_gap_30 ?_
        refine wp_istore_n dX5_gap_31 rfl ?_
        refine wp_iinc dX5_gap_32 rfl rfl (nI (k + 1)) (nI_add k 1) ?_
        refine wp_goto dX5_gap_35 4 (by decide) ?_
        exact ih (k + 1) (by omega) (by omega)
  refine wp_iconst dX5_gap_0 0 rfl ?_
  refine wp_istore_n dX5_gap_1 rfl ?_
  refine wp_iconst dX5_gap_2 0 rfl ?_
  refine wp_istore_n dX5_gap_3 rfl ?_
  exact loop _ ⟨rfl, rfl⟩ 9 0 (by omega) (by omega)
theorem ct_slackP {p ph q qh : Nat} (hp : PcOK p ph σ) (hq : PcOK q qh σ) : Ct Γ 2 0 0 m_X5_slack [.ref p, .ref q] σ (fun v τ => v = some (.int (slackF (stI σ ph) (stI σ qh) (stI σ p 1) (stI σ q 1))) ∧ τ = σ) := by
  refine Ct.ofWP pf_X5_slack rfl rfl ?_
  refine wp_iconst dX5_slack_0 0 rfl ?_
  refine wp_aload_n dX5_slack_1 rfl ?_
  refine wp_aload_n dX5_slack_2 rfl ?_
  refine wp_cI (gcV dX5_slack_3 gva_X5_28_5 (ct_gap hp hq) hp.1 rfl rfl (by omega) (by omega) (by omega) (Nat.le_of_ble_eq_true rfl) rfl) ?_
  refine wp_aload_n dX5_slack_6 rfl ?_
  refine wp_getI dX5_slack_7 gfa_X5_15_5 rfl hp.1 ?_
  refine wp_isub dX5_slack_10 ?_
  refine wp_aload_n dX5_slack_11 rfl ?_
  refine wp_getI dX5_slack_12 gfa_X5_15_5 rfl hq.1 ?_
  refine wp_isub dX5_slack_15 ?_
  refine wp_cI (gcS dX5_slack_16 gsa_X5_32 (ct_max _ _) rfl rfl (by omega) (by omega) (by omega) (Nat.le_of_ble_eq_true rfl) rfl) ?_
  refine wp_iret dX5_slack_19 rfl ?_
  exact ⟨rfl, rfl⟩
def likeF (x y : Nat → Int32) (n : Nat) : Bool := decide (∀ h, h < n → x h = y h)
theorem ct_isLike {p ph q qh : Nat} (hp : PcOK p ph σ) (hq : PcOK q qh σ) : Ct Γ 0 0 0 m_X5_isLike [.ref p, .ref q] σ (fun v τ => v = some (.int (bI (likeF (stI σ ph) (stI σ qh) 8))) ∧ τ = σ) := by
  refine Ct.ofWP pf_X5_isLike rfl rfl ?_
  have loop : ∀ Q : Option Value → St → Prop, Q (some (.int (bI (likeF (stI σ ph) (stI σ qh) 8)))) σ → ∀ n k, k ≤ 8 → 8 - k < n → (∀ h, h < k → stI σ ph h = stI σ qh h) → WP Γ m_X5_isLike 0 0 0 2 [some (.ref p), some (.ref q), some (.int (nI k))] [] σ Q := by
    intro Q hQ n
    induction n with
    | zero => intro k h1 h2; omega
    | succ n ih =>
      intro k h1 h2 h3
      refine wp_iload_n dX5_isLike_2 rfl ?_
      refine wp_bipush dX5_isLike_3 8 rfl ?_
      refine wp_icmp_geN dX5_isLike_5 31 (by decide) k 8 rfl rfl (by omega) (by omega) (fun c5 => ?_) (fun c5 => ?_)
      · refine wp_iconst dX5_isLike_31 1 rfl ?_
        refine wp_zret dX5_isLike_32 rfl (Or.inr rfl) ?_
        rw [show (1 : Int32) = bI (likeF (stI σ ph) (stI σ qh) 8) by rw [likeF, decide_eq_true (fun h hh => h3 h (by omega))]; rfl]
        exact hQ
      · refine wp_aload_n dX5_isLike_8 rfl ?_
        refine wp_getR dX5_isLike_9 gfa_X5_9_5 rfl hp.1 hp.2.1 ?_
        refine wp_iload_n dX5_isLike_12 rfl ?_
        refine wp_iald dX5_isLike_13 hp.2.2 k rfl (by omega) (by omega) ?_
        refine wp_aload_n dX5_isLike_14 rfl ?_
        refine wp_getR dX5_isLike_15 gfa_X5_9_5 rfl hq.1 hq.2.1 ?_
        refine wp_iload_n dX5_isLike_18 rfl ?_
        refine wp_iald dX5_isLike_19 hq.2.2 k rfl (by omega) (by omega) ?_
        refine wp_icmp_eq dX5_isLike_20 25 (by decide) (fun c20 => ?_) (fun c20 => ?_)
        · refine wp_iinc dX5_isLike_25 rfl rfl (nI (k + 1)) (nI_add k 1) ?_
          refine wp_goto dX5_isLike_28 2 (by decide) ?_
          exact ih (k + 1) (by omega) (by omega) (lt_s h3 c20)
        · refine wp_iconst dX5_isLike_23 0 rfl ?_
          refine wp_zret dX5_isLike_24 rfl (Or.inl rfl) ?_
          rw [show (0 : Int32) = bI (likeF (stI σ ph) (stI σ qh) 8) by rw [likeF, decide_eq_false (fun r => c20 (r k c5))]; rfl]
          exact hQ
  refine wp_iconst dX5_isLike_0 0 rfl ?_
  refine wp_istore_n dX5_isLike_1 rfl ?_
  exact loop _ ⟨rfl, rfl⟩ 9 0 (by omega) (by omega) (fun h hh => absurd hh (by omega))
theorem ct_wears {p ph : Nat} (x : Int32) (hp : PcOK p ph σ) : Ct Γ 1 0 0 m_X5_wears [.ref p, .int x] σ (fun v τ => v = none ∧ τ = setI σ p 1 (imin 99 (stI σ p 1 + x))) := by
  refine Ct.ofWP pf_X5_wears rfl rfl ?_
  refine wp_aload_n dX5_wears_0 rfl ?_
  refine wp_bipush dX5_wears_1 99 rfl ?_
  refine wp_aload_n dX5_wears_3 rfl ?_
  refine wp_getI dX5_wears_4 gfa_X5_15_5 rfl hp.1 ?_
  refine wp_iload_n dX5_wears_7 rfl ?_
  refine wp_iadd dX5_wears_8 ?_
  refine wp_cI (gcS dX5_wears_9 gsa_X5_36 (ct_min _ _) rfl rfl (by omega) (by omega) (by omega) (Nat.le_of_ble_eq_true rfl) rfl) ?_
  refine wp_putI dX5_wears_12 gfa_X5_15_5 (Or.inl rfl) rfl ⟨rfl, rfl⟩ hp.1 ?_
  refine wp_vret dX5_wears_15 rfl ?_
  exact ⟨rfl, rfl⟩
theorem ct_takesP {p ph q qh : Nat} (hp : PcOK p ph σ) (hq : PcOK q qh σ) : Ct Γ 0 0 0 m_X5_takes [.ref p, .ref q] σ (fun v τ => v = none ∧ τ = setI (setI (cpI σ ph qh 8) p 1 (stI σ q 1)) p 2 (stI σ q 2)) := by
  refine Ct.ofWP pf_X5_takes rfl rfl ?_
  have hne : q ≠ ph := K_ne hq.1 hp.2.2 (by decide)
  have loop : ∀ Q : Option Value → St → Prop, Q none (setI (setI (cpI σ ph qh 8) p 1 (stI σ q 1)) p 2 (stI σ q 2)) → ∀ n k, k ≤ 8 → 8 - k < n → WP Γ m_X5_takes 0 0 0 2 [some (.ref p), some (.ref q), some (.int (nI k))] [] (cpI σ ph qh k) Q := by
    intro Q hQ n
    induction n with
    | zero => intro k h1 h2; omega
    | succ n ih =>
      intro k h1 h2
      refine wp_iload_n dX5_takes_2 rfl ?_
      refine wp_bipush dX5_takes_3 8 rfl ?_
      refine wp_icmp_geN dX5_takes_5 26 (by decide) k 8 rfl rfl (by omega) (by omega) (fun c5 => ?_) (fun c5 => ?_)
      · refine wp_aload_n dX5_takes_26 rfl ?_
        refine wp_aload_n dX5_takes_27 rfl ?_
        refine wp_getI dX5_takes_28 gfa_X5_15_5 rfl hq.1 ?_
        refine wp_putI dX5_takes_31 gfa_X5_15_5 (Or.inl rfl) rfl ⟨rfl, rfl⟩ hp.1 ?_
        refine wp_aload_n dX5_takes_34 rfl ?_
        refine wp_aload_n dX5_takes_35 rfl ?_
        refine wp_getI dX5_takes_36 gfa_X5_19_5 rfl hq.1 ?_
        refine wp_putI dX5_takes_39 gfa_X5_19_5 (Or.inl rfl) rfl ⟨rfl, rfl⟩ hp.1 ?_
        refine wp_vret dX5_takes_42 rfl ?_
        obtain rfl : k = 8 := by omega
        rw [stI_setI, stI_cpI, stI_cpI, if_neg (fun r => hne r.1), if_neg (by omega), if_neg (fun r => hne r.1)]
        exact hQ
      · refine wp_aload_n dX5_takes_8 rfl ?_
        refine wp_getR dX5_takes_9 gfa_X5_9_5 rfl hp.1 hp.2.1 ?_
        refine wp_iload_n dX5_takes_12 rfl ?_
        refine wp_aload_n dX5_takes_13 rfl ?_
        refine wp_getR dX5_takes_14 gfa_X5_9_5 rfl hq.1 hq.2.1 ?_
        refine wp_iload_n dX5_takes_17 rfl ?_
        refine wp_iald dX5_takes_18 hq.2.2 k rfl (by omega) (by omega) ?_
        refine wp_iast dX5_takes_19 hp.2.2 k rfl (by omega) (by omega) ?_
        refine wp_iinc dX5_takes_20 rfl rfl (nI (k + 1)) (nI_add k 1) ?_
        refine wp_goto dX5_takes_23 2 (by decide) ?_
        rw [← cpI_succ]
        exact ih (k + 1) (by omega) (by omega)
  refine wp_iconst dX5_takes_0 0 rfl ?_
  refine wp_istore_n dX5_takes_1 rfl ?_
  refine WP.castS (cpI_0 σ ph qh).symm ?_
  exact loop _ ⟨rfl, rfl⟩ 9 0 (by omega) (by omega)
end
