set_option maxRecDepth 100000
theorem LK.pc {b a i : Nat} {σ : St} (h : LK b a σ) (hi : i < 12) : PcOK (a + 5 + 4 * i) (a + 6 + 4 * i) σ := ⟨h.kE hi, h.rH hi, h.kH hi⟩
theorem inB_nat {v : Int32} {n : Nat} (hn : n < 2147483648) (h : inB v (nI n) = true) : ∃ j : Nat, j < n ∧ v = nI j := by
  unfold inB at h
  rw [Bool.and_eq_true, decide_eq_true_eq, decide_eq_true_eq] at h
  obtain ⟨j, hj, rfl⟩ := nI_of (x := v) (by rw [Int32.not_lt]; exact h.1)
  exact ⟨j, (nI_ltI hj (by omega)).mp h.2, rfl⟩
theorem inB_of {j n : Nat} (hj : j < n) (hn : n < 2147483648) : inB (nI j) (nI n) = true := by
  unfold inB
  rw [Bool.and_eq_true, decide_eq_true_eq, decide_eq_true_eq]
  exact ⟨nI_pos' (by omega), nI_lt hj (by omega)⟩
theorem inB_12 {v : Int32} (h : inB v 12 = true) : ∃ j : Nat, j < 12 ∧ v = nI j := inB_nat (n := 12) (by omega) h
theorem inB_12n {j : Nat} (h : j < 12) : inB (nI j) 12 = true := inB_of (n := 12) h (by omega)
def livesB (G : Gd) (i : Nat) : Bool := !decide (G 8 i = 0) && decide (G 9 i = 0)
def freeB (G : Gd) (i : Nat) : Bool := livesB G i && decide (G 3 i = -1)
/-- of any number: the person of that number lives -/
def livesV (G : Gd) (v : Int32) : Bool := inB v 12 && livesB G v.toNatClampNeg
theorem livesV_n {G : Gd} {j : Nat} (h : j < 12) : livesV G (nI j) = livesB G j := by
  rw [livesV, inB_12n h, Bool.true_and, nI_clamp (by omega)]
theorem livesV_t {G : Gd} {v : Int32} (h : livesV G v = true) : ∃ j : Nat, j < 12 ∧ v = nI j ∧ livesB G j = true := by
  rw [livesV, Bool.and_eq_true] at h
  obtain ⟨j, hj, rfl⟩ := inB_12 h.1
  rw [nI_clamp (by omega)] at h
  exact ⟨j, hj, rfl, h.2⟩
/-- the set of pieces that i holds, of the first n -/
def holdsF (G : Gd) (i : Int32) : Nat → Int32
  | 0 => 0
  | n + 1 => holdsF G i n ||| (if G 12 n = i then 1 <<< (nI n &&& 31) else 0)
def slackG (G : Gd) (i j : Nat) : Int32 := slackF (fun h => G (h + 20) i) (fun h => G (h + 20) j) (G 11 i) (G 11 j)
def FARi : Int32 := 268435456
/-- the least slack of the piece k to the first n pieces that j holds -/
def slk1 (G : Gd) (i j : Int32) (least : Int32) (k : Nat) : Nat → Int32
  | 0 => least
  | n + 1 => if G 12 k = i ∧ G 12 n = j then imin (slk1 G i j least k n) (slackG G k n) else slk1 G i j least k n
def slk2 (G : Gd) (i j : Int32) : Nat → Int32
  | 0 => FARi
  | n + 1 => slk1 G i j (slk2 G i j n) n 12
def slackL (G : Gd) (i j : Int32) : Int32 := if slk2 G i j 12 = FARi then -1 else slk2 G i j 12
def firstB (G : Gd) (i j : Nat) : Bool := if G 1 i = G 1 j then decide (i < j) else decide (G 1 i = 0)
theorem gapF_congr {x y x' y' : Nat → Int32} : ∀ n, n ≤ 8 → (∀ h, h < 8 → x h = x' h) → (∀ h, h < 8 → y h = y' h) → gapF x y n = gapF x' y' n
  | 0, _, _, _ => rfl
  | n + 1, hn, h1, h2 => by rw [gapF, gapF, gapF_congr n (by omega) h1 h2, h1 n (by omega), h2 (7 - n) (by omega)]
theorem LG_e1 {σ : St} {a i : Nat} (hi : i < 12) : stI σ (a + 5 + 4 * i) 1 = LG σ a 11 i := LG_e 1 (by omega) hi
theorem LG_e2 {σ : St} {a i : Nat} (hi : i < 12) : stI σ (a + 5 + 4 * i) 2 = LG σ a 12 i := LG_e 2 (by omega) hi
theorem slack_at {σ : St} {a i j : Nat} (hi : i < 12) (hj : j < 12) : slackF (stI σ (a + 6 + 4 * i)) (stI σ (a + 6 + 4 * j)) (stI σ (a + 5 + 4 * i) 1) (stI σ (a + 5 + 4 * j) 1) = slackG (LG σ a) i j := by
  unfold slackG slackF
  rw [LG_e1 hi, LG_e1 hj, gapF_congr 8 (Nat.le_refl _) (fun h hh => LG_h h (by omega) hi) (fun h hh => LG_h h (by omega) hj)]
theorem slk1_no {G : Gd} {i j z : Int32} {k : Nat} (h : ¬ G 12 k = i) : ∀ n, slk1 G i j z k n = z
  | 0 => rfl
  | n + 1 => by rw [slk1, if_neg (fun r => h r.1), slk1_no h n]
section
variable {Γ : Gm} {σ : St} {b a : Nat}
theorem ct_livesP {p : Nat} (hK : stK σ p = some (4, 0)) : Ct Γ 0 0 0 m_X4_lives [.ref p] σ (fun v τ => v = some (.int (bI (!decide (stI σ p 8 = 0) && decide (stI σ p 9 = 0)))) ∧ τ = σ) := by
  refine Ct.ofWP pf_X4_lives rfl rfl ?_
  refine wp_aload_n dX4_lives_0 rfl ?_
  refine wp_getI dX4_lives_1 gfa_X4_37_4 rfl hK ?_
  refine wp_if_eq dX4_lives_4 18 (by decide) (fun c4 => ?_) (fun c4 => ?_)
  · refine wp_iconst dX4_lives_18 0 rfl ?_
    refine wp_zret dX4_lives_19 rfl (Or.inl rfl) ?_
    exact ⟨by simp_all [bI], rfl⟩
  · refine wp_aload_n dX4_lives_7 rfl ?_
    refine wp_getI dX4_lives_8 gfa_X4_41_4 rfl hK ?_
    refine wp_if_ne dX4_lives_11 18 (by decide) (fun c11 => ?_) (fun c11 => ?_)
    · refine wp_iconst dX4_lives_18 0 rfl ?_
      refine wp_zret dX4_lives_19 rfl (Or.inl rfl) ?_
      exact ⟨by simp_all [bI], rfl⟩
    · refine wp_iconst dX4_lives_14 1 rfl ?_
      refine wp_goto dX4_lives_15 19 (by decide) ?_
      refine wp_zret dX4_lives_19 rfl (Or.inr rfl) ?_
      exact ⟨by simp_all [bI], rfl⟩
theorem ct_isFreeP {p : Nat} (hK : stK σ p = some (4, 0)) : Ct Γ 1 0 0 m_X4_isFree [.ref p] σ (fun v τ => v = some (.int (bI ((!decide (stI σ p 8 = 0) && decide (stI σ p 9 = 0)) && decide (stI σ p 3 = -1)))) ∧ τ = σ) := by
  refine Ct.ofWP pf_X4_isFree rfl rfl ?_
  refine wp_aload_n dX4_isFree_0 rfl ?_
  refine wp_cI (gcV dX4_isFree_1 gva_X4_44_4 (ct_livesP hK) hK rfl rfl (by omega) (by omega) (by omega) (Nat.le_of_ble_eq_true rfl) rfl) ?_
  refine wp_if_eq dX4_isFree_4 19 (by decide) (fun c4 => ?_) (fun c4 => ?_)
  · refine wp_iconst dX4_isFree_19 0 rfl ?_
    refine wp_zret dX4_isFree_20 rfl (Or.inl rfl) ?_
    exact ⟨by simp_all [bI], rfl⟩
  · refine wp_aload_n dX4_isFree_7 rfl ?_
    refine wp_getI dX4_isFree_8 gfa_X4_25_4 rfl hK ?_
    refine wp_iconst dX4_isFree_11 (-1) rfl ?_
    refine wp_icmp_ne dX4_isFree_12 19 (by decide) (fun c12 => ?_) (fun c12 => ?_)
    · refine wp_iconst dX4_isFree_19 0 rfl ?_
      refine wp_zret dX4_isFree_20 rfl (Or.inl rfl) ?_
      exact ⟨by simp_all [bI], rfl⟩
    · refine wp_iconst dX4_isFree_15 1 rfl ?_
      refine wp_goto dX4_isFree_16 20 (by decide) ?_
      refine wp_zret dX4_isFree_20 rfl (Or.inr rfl) ?_
      exact ⟨by simp_all [bI], rfl⟩
theorem ct_lives (v : Int32) (hL : LK b a σ) : Ct Γ 1 0 0 m_X3_lives [.ref a, .int v] σ (fun r τ => r = some (.int (bI (livesV (LG σ a) v))) ∧ τ = σ) := by
  refine Ct.ofWP pf_X3_lives rfl rfl ?_
  refine wp_iload_n dX3_lives_0 rfl ?_
  refine wp_bipush dX3_lives_1 12 rfl ?_
  refine wp_cI (gcSN dX3_lives_3 gsa_X3_46 (ct_in _ _) rfl rfl (by omega) (by omega) (by omega) (Nat.le_of_ble_eq_true rfl) rfl) ?_
  refine wp_if_eq dX3_lives_6 25 (by decide) (fun c6 => ?_) (fun c6 => ?_)
  · refine wp_iconst dX3_lives_25 0 rfl ?_
    refine wp_zret dX3_lives_26 rfl (Or.inl rfl) ?_
    first | exact ⟨by rw [livesV_n hj]; simp_all [livesB, bI], rfl⟩ | exact ⟨by simp_all [livesV, bI], rfl⟩
  · obtain ⟨j, hj, rfl⟩ := inB_12 (bI_1.mp c6)
    refine wp_aload_n dX3_lives_9 rfl ?_
    refine wp_getR dX3_lives_10 gfa_X3_17_3 rfl hL.k0 hL.r0 ?_
    refine wp_iload_n dX3_lives_13 rfl ?_
    refine wp_aald dX3_lives_14 hL.k1 rfl j rfl (by omega) (by omega) (hL.rP (by omega)) ?_
    refine wp_cI (gcV dX3_lives_15 gva_X3_50_4 (ct_livesP (hL.kP (by omega))) (hL.kP (by omega)) rfl rfl (by omega) (by omega) (by omega) (Nat.le_of_ble_eq_true rfl) rfl) ?_
    rw [LG_p 8 (by omega) hj, LG_p 9 (by omega) hj]
    refine wp_if_eq dX3_lives_18 25 (by decide) (fun c18 => ?_) (fun c18 => ?_)
    · refine wp_iconst dX3_lives_25 0 rfl ?_
      refine wp_zret dX3_lives_26 rfl (Or.inl rfl) ?_
      first | exact ⟨by rw [livesV_n hj]; simp_all [livesB, bI], rfl⟩ | exact ⟨by simp_all [livesV, bI], rfl⟩
    · refine wp_iconst dX3_lives_21 1 rfl ?_
      refine wp_goto dX3_lives_22 26 (by decide) ?_
      refine wp_zret dX3_lives_26 rfl (Or.inr rfl) ?_
      first | exact ⟨by rw [livesV_n hj]; simp_all [livesB, bI], rfl⟩ | exact ⟨by simp_all [livesV, bI], rfl⟩
theorem ct_holds (v : Int32) (hL : LK b a σ) : Ct Γ 0 0 0 m_X3_holds [.ref a, .int v] σ (fun r τ => r = some (.int (holdsF (LG σ a) v 12)) ∧ τ = σ) := by
  refine Ct.ofWP pf_X3_holds rfl rfl ?_
  have loop : ∀ Q : Option Value → St → Prop, Q (some (.int (holdsF (LG σ a) v 12))) σ → ∀ n k, k ≤ 12 → 12 - k < n → WP Γ m_X3_holds 0 0 0 4 [some (.ref a), some (.int v), some (.int (holdsF (LG σ a) v k)), some (.int (nI k))] [] σ Q := by
    intro Q hQ n
    induction n with
    | zero => intro k h1 h2; omega
    | succ n ih =>
      intro k h1 h2
      refine wp_iload_n dX3_holds_4 rfl ?_
      refine wp_bipush dX3_holds_5 12 rfl ?_
      refine wp_icmp_geN dX3_holds_7 39 (by decide) k 12 rfl rfl (by omega) (by omega) (fun c7 => ?_) (fun c7 => ?_)
      · refine wp_iload_n dX3_holds_39 rfl ?_
        refine wp_iret dX3_holds_40 rfl ?_
        obtain rfl : k = 12 := by omega
        exact hQ
      · refine wp_iload_n dX3_holds_10 rfl ?_
        refine wp_aload_n dX3_holds_11 rfl ?_
        refine wp_getR dX3_holds_12 gfa_X3_23_3 rfl hL.k0 hL.r1 ?_
        refine wp_iload_n dX3_holds_15 rfl ?_
        refine wp_aald dX3_holds_16 hL.k2 rfl k rfl (by omega) (by omega) (hL.rE (by omega)) ?_
        refine wp_getI dX3_holds_17 gfa_X3_29_5 rfl (hL.kE (by omega)) ?_
        rw [LG_e2 (by omega)]
        refine wp_iload_n dX3_holds_20 rfl ?_
        refine wp_icmp_ne dX3_holds_21 30 (by decide) (fun c21 => ?_) (fun c21 => ?_)
        · refine wp_iconst dX3_holds_30 0 rfl ?_
          refine wp_ior dX3_holds_31 ?_
          refine wp_istore_n dX3_holds_32 rfl ?_
          refine wp_iinc dX3_holds_33 rfl rfl (nI (k + 1)) (nI_add k 1) ?_
          refine wp_goto dX3_holds_36 4 (by decide) ?_
          refine WP.cast ?_ (ih (k + 1) (by omega) (by omega))
          simp only [holdsF, c21, if_true, if_false]
          rfl
        · refine wp_iconst dX3_holds_24 1 rfl ?_
          refine wp_iload_n dX3_holds_25 rfl ?_
          refine wp_ishl dX3_holds_26 ?_
          refine wp_goto dX3_holds_27 31 (by decide) ?_
          refine wp_ior dX3_holds_31 ?_
          refine wp_istore_n dX3_holds_32 rfl ?_
          refine wp_iinc dX3_holds_33 rfl rfl (nI (k + 1)) (nI_add k 1) ?_
          refine wp_goto dX3_holds_36 4 (by decide) ?_
          refine WP.cast ?_ (ih (k + 1) (by omega) (by omega))
          simp only [holdsF, c21, if_true, if_false]
          rfl
  refine wp_iconst dX3_holds_0 0 rfl ?_
  refine wp_istore_n dX3_holds_1 rfl ?_
  refine wp_iconst dX3_holds_2 0 rfl ?_
  refine wp_istore_n dX3_holds_3 rfl ?_
  exact loop _ ⟨rfl, rfl⟩ 13 0 (by omega) (by omega)
theorem ct_slackL (v w : Int32) (hL : LK b a σ) : Ct Γ 3 0 0 m_X3_slack [.ref a, .int v, .int w] σ (fun r τ => r = some (.int (slackL (LG σ a) v w)) ∧ τ = σ) := by
  refine Ct.ofWP pf_X3_slack rfl rfl ?_
  have inner : ∀ Q : Option Value → St → Prop, ∀ (k : Nat) (hk : k < 12) (z : Int32), (∀ o5, WP Γ m_X3_slack 3 0 0 79 [some (.ref a), some (.int v), some (.int w), some (.int (slk1 (LG σ a) v w z k 12)), some (.int (nI k)), o5] [] σ Q) → ∀ n t, t ≤ 12 → 12 - t < n → WP Γ m_X3_slack 3 0 0 16 [some (.ref a), some (.int v), some (.int w), some (.int (slk1 (LG σ a) v w z k t)), some (.int (nI k)), some (.int (nI t))] [] σ Q := by
    intro Q k hk z hX n
    induction n with
    | zero => intro t h1 h2; omega
    | succ n ih =>
      intro t h1 h2
      refine wp_iload dX3_slack_16 rfl ?_
      refine wp_bipush dX3_slack_18 12 rfl ?_
      refine wp_icmp_geN dX3_slack_20 79 (by decide) t 12 rfl rfl (by omega) (by omega) (fun c20 => ?_) (fun c20 => ?_)
      · refine WP.cast ?_ (hX (some (.int (nI t))))
        by_cases ht : t = 12
        · subst ht; rfl
        · first | (simp only [slk1_no c34]; done) | omega
      · refine wp_aload_n dX3_slack_23 rfl ?_
        refine wp_getR dX3_slack_24 gfa_X3_23_3 rfl hL.k0 hL.r1 ?_
        refine wp_iload dX3_slack_27 rfl ?_
        refine wp_aald dX3_slack_29 hL.k2 rfl k rfl (by omega) (by omega) (hL.rE (by omega)) ?_
        refine wp_getI dX3_slack_30 gfa_X3_29_5 rfl (hL.kE (by omega)) ?_
        rw [LG_e2 (by omega)]
        refine wp_iload_n dX3_slack_33 rfl ?_
        refine wp_icmp_ne dX3_slack_34 79 (by decide) (fun c34 => ?_) (fun c34 => ?_)
        · refine WP.cast ?_ (hX (some (.int (nI t))))
          by_cases ht : t = 12
          · subst ht; rfl
          · first | (simp only [slk1_no c34]; done) | omega
        · refine wp_aload_n dX3_slack_37 rfl ?_
          refine wp_getR dX3_slack_38 gfa_X3_23_3 rfl hL.k0 hL.r1 ?_
          refine wp_iload dX3_slack_41 rfl ?_
          refine wp_aald dX3_slack_43 hL.k2 rfl t rfl (by omega) (by omega) (hL.rE (by omega)) ?_
          refine wp_getI dX3_slack_44 gfa_X3_29_5 rfl (hL.kE (by omega)) ?_
          rw [LG_e2 (by omega)]
          refine wp_iload_n dX3_slack_47 rfl ?_
          refine wp_icmp_ne dX3_slack_48 73 (by decide) (fun c48 => ?_) (fun c48 => ?_)
          · refine wp_iinc dX3_slack_73 rfl rfl (nI (t + 1)) (nI_add t 1) ?_
            refine wp_goto dX3_slack_76 16 (by decide) ?_
            refine WP.cast ?_ (ih (t + 1) (by omega) (by omega))
            simp only [slk1, c34, c48, and_self, and_true, and_false, if_true, if_false]
            rfl
          · refine wp_iload_n dX3_slack_51 rfl ?_
            refine wp_aload_n dX3_slack_52 rfl ?_
            refine wp_getR dX3_slack_53 gfa_X3_23_3 rfl hL.k0 hL.r1 ?_
            refine wp_iload dX3_slack_56 rfl ?_
            refine wp_aald dX3_slack_58 hL.k2 rfl k rfl (by omega) (by omega) (hL.rE (by omega)) ?_
            refine wp_aload_n dX3_slack_59 rfl ?_
            refine wp_getR dX3_slack_60 gfa_X3_23_3 rfl hL.k0 hL.r1 ?_
            refine wp_iload dX3_slack_63 rfl ?_
            refine wp_aald dX3_slack_65 hL.k2 rfl t rfl (by omega) (by omega) (hL.rE (by omega)) ?_
            refine wp_cI (gcV dX3_slack_66 gva_X3_55_5 (ct_slackP (hL.pc (by omega)) (hL.pc (by omega))) (hL.kE (by omega)) rfl rfl (by omega) (by omega) (by omega) (Nat.le_of_ble_eq_true rfl) rfl) ?_
            rw [slack_at (by omega) (by omega)]
            refine wp_cI (gcS dX3_slack_69 gsa_X3_59 (ct_min _ _) rfl rfl (by omega) (by omega) (by omega) (Nat.le_of_ble_eq_true rfl) rfl) ?_
            refine wp_istore_n dX3_slack_72 rfl ?_
            refine wp_iinc dX3_slack_73 rfl rfl (nI (t + 1)) (nI_add t 1) ?_
            refine wp_goto dX3_slack_76 16 (by decide) ?_
            refine WP.cast ?_ (ih (t + 1) (by omega) (by omega))
            simp only [slk1, c34, c48, and_self, and_true, and_false, if_true, if_false]
            rfl
  have outer : ∀ Q : Option Value → St → Prop, Q (some (.int (slackL (LG σ a) v w))) σ → ∀ n k o5, k ≤ 12 → 12 - k < n → WP Γ m_X3_slack 3 0 0 6 [some (.ref a), some (.int v), some (.int w), some (.int (slk2 (LG σ a) v w k)), some (.int (nI k)), o5] [] σ Q := by
    intro Q hQ n
    induction n with
    | zero => intro k o5 h1 h2; omega
    | succ n ih =>
      intro k o5 h1 h2
      refine wp_iload dX3_slack_6 rfl ?_
      refine wp_bipush dX3_slack_8 12 rfl ?_
      refine wp_icmp_geN dX3_slack_10 85 (by decide) k 12 rfl rfl (by omega) (by omega) (fun c10 => ?_) (fun c10 => ?_)
      · refine wp_iload_n dX3_slack_85 rfl ?_
        refine wp_ldc dX3_slack_86 q941 ?_
        refine wp_icmp_ne dX3_slack_88 95 (by decide) (fun c88 => ?_) (fun c88 => ?_)
        · refine wp_iload_n dX3_slack_95 rfl ?_
          refine wp_iret dX3_slack_96 rfl ?_
          obtain rfl : k = 12 := by omega
          exact Eq.mp (by first | rw [slackL, if_pos (show slk2 (LG σ a) v w 12 = FARi from c88)] | rw [slackL, if_neg (show ¬ slk2 (LG σ a) v w 12 = FARi from c88)]) hQ
        · refine wp_iconst dX3_slack_91 (-1) rfl ?_
          refine wp_goto dX3_slack_92 96 (by decide) ?_
          refine wp_iret dX3_slack_96 rfl ?_
          obtain rfl : k = 12 := by omega
          exact Eq.mp (by first | rw [slackL, if_pos (show slk2 (LG σ a) v w 12 = FARi from c88)] | rw [slackL, if_neg (show ¬ slk2 (LG σ a) v w 12 = FARi from c88)]) hQ
      · refine wp_iconst dX3_slack_13 0 rfl ?_
        refine wp_istore dX3_slack_14 rfl ?_
        refine inner Q k (by omega) _ (fun o5 => ?_) 13 0 (by omega) (by omega)
        refine wp_iinc dX3_slack_79 rfl rfl (nI (k + 1)) (nI_add k 1) ?_
        refine wp_goto dX3_slack_82 6 (by decide) ?_
        exact ih (k + 1) o5 (by omega) (by omega)
  refine wp_ldc dX3_slack_0 q941 ?_
  refine wp_istore_n dX3_slack_2 rfl ?_
  refine wp_iconst dX3_slack_3 0 rfl ?_
  refine wp_istore dX3_slack_4 rfl ?_
  exact outer _ ⟨rfl, rfl⟩ 13 0 _ (by omega) (by omega)
theorem ct_isFirst {i j : Nat} (hi : i < 12) (hj : j < 12) (hL : LK b a σ) : Ct Γ 0 0 0 m_X3_isFirst [.ref a, .int (nI i), .int (nI j)] σ (fun r τ => r = some (.int (bI (firstB (LG σ a) i j))) ∧ τ = σ) := by
  refine Ct.ofWP pf_X3_isFirst rfl rfl ?_
  refine wp_aload_n dX3_isFirst_0 rfl ?_
  refine wp_getR dX3_isFirst_1 gfa_X3_17_3 rfl hL.k0 hL.r0 ?_
  refine wp_iload_n dX3_isFirst_4 rfl ?_
  refine wp_aald dX3_isFirst_5 hL.k1 rfl i rfl (by omega) (by omega) (hL.rP (by omega)) ?_
  refine wp_getI dX3_isFirst_6 gfa_X3_65_4 rfl (hL.kP (by omega)) ?_
  rw [LG_p 1 (by omega) (by omega)]
  refine wp_aload_n dX3_isFirst_9 rfl ?_
  refine wp_getR dX3_isFirst_10 gfa_X3_17_3 rfl hL.k0 hL.r0 ?_
  refine wp_iload_n dX3_isFirst_13 rfl ?_
  refine wp_aald dX3_isFirst_14 hL.k1 rfl j rfl (by omega) (by omega) (hL.rP (by omega)) ?_
  refine wp_getI dX3_isFirst_15 gfa_X3_65_4 rfl (hL.kP (by omega)) ?_
  rw [LG_p 1 (by omega) (by omega)]
  refine wp_icmp_eq dX3_isFirst_18 41 (by decide) (fun c18 => ?_) (fun c18 => ?_)
  · refine wp_iload_n dX3_isFirst_41 rfl ?_
    refine wp_iload_n dX3_isFirst_42 rfl ?_
    refine wp_icmp_geN dX3_isFirst_43 50 (by decide) i j rfl rfl (by omega) (by omega) (fun c43 => ?_) (fun c43 => ?_)
    · refine wp_iconst dX3_isFirst_50 0 rfl ?_
      refine wp_zret dX3_isFirst_51 rfl (Or.inl rfl) ?_
      exact ⟨by first | (rw [firstB, if_neg c18]; simp [c30, bI]; done) | (rw [firstB, if_pos c18]; simp [bI]; omega), rfl⟩
    · refine wp_iconst dX3_isFirst_46 1 rfl ?_
      refine wp_goto dX3_isFirst_47 51 (by decide) ?_
      refine wp_zret dX3_isFirst_51 rfl (Or.inr rfl) ?_
      exact ⟨by first | (rw [firstB, if_neg c18]; simp [c30, bI]; done) | (rw [firstB, if_pos c18]; simp [bI]; omega), rfl⟩
  · refine wp_aload_n dX3_isFirst_21 rfl ?_
    refine wp_getR dX3_isFirst_22 gfa_X3_17_3 rfl hL.k0 hL.r0 ?_
    refine wp_iload_n dX3_isFirst_25 rfl ?_
    refine wp_aald dX3_isFirst_26 hL.k1 rfl i rfl (by omega) (by omega) (hL.rP (by omega)) ?_
    refine wp_getI dX3_isFirst_27 gfa_X3_65_4 rfl (hL.kP (by omega)) ?_
    rw [LG_p 1 (by omega) (by omega)]
    refine wp_if_ne dX3_isFirst_30 37 (by decide) (fun c30 => ?_) (fun c30 => ?_)
    · refine wp_iconst dX3_isFirst_37 0 rfl ?_
      refine wp_goto dX3_isFirst_38 51 (by decide) ?_
      refine wp_zret dX3_isFirst_51 rfl (Or.inl rfl) ?_
      exact ⟨by first | (rw [firstB, if_neg c18]; simp [c30, bI]; done) | (rw [firstB, if_pos c18]; simp [bI]; omega), rfl⟩
    · refine wp_iconst dX3_isFirst_33 1 rfl ?_
      refine wp_goto dX3_isFirst_34 51 (by decide) ?_
      refine wp_zret dX3_isFirst_51 rfl (Or.inr rfl) ?_
      exact ⟨by first | (rw [firstB, if_neg c18]; simp [c30, bI]; done) | (rw [firstB, if_pos c18]; simp [bI]; omega), rfl⟩
end
