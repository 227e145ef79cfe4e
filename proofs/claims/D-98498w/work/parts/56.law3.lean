set_option maxRecDepth 100000
abbrev CD : Type := (Int32 → Int32) → Int32
def cmpB (s x y : Int32) : Bool := if s = 60 then decide (x < y) else if s = 62 then decide (y < x) else decide (x = y)
def cmpV (s : Int32) (p q : Int32 × Bool) : Int32 := if (p.2 || q.2) = true then 2 else bI (cmpB s p.1 q.1)
def someV (V : Int32 → Int32) (dc : Int32) : List CD → Int32
  | [] => 1 - dc
  | C :: L => if C V = 2 ∨ C V = dc then C V else someV V dc L
def CChain (P : Nat → CD → Prop) (lo hi : Nat) (σ : St) : Option Nat → List CD → Prop
  | nx, [] => nx = none
  | nx, C :: L => ∃ q, nx = some q ∧ lo ≤ q ∧ q < hi ∧ stK σ q = some (14, 0) ∧ (∃ p, stR σ q 0 = some p ∧ P p C) ∧ CChain P lo hi σ (stR σ q 2) L
/-- a condition of depth d at r (its sums of depth ds at most), what it means -/
def CondAt (ds lo hi : Nat) (σ : St) : Nat → Nat → CD → Prop
  | 0, _, _ => False
  | d + 1, r, C => lo ≤ r ∧ r < hi ∧ ((stK σ r = some (16, 0) ∧ ∃ p q S1 S2, stR σ r 0 = some p ∧ stR σ r 1 = some q ∧ SumAt lo hi σ ds p S1 ∧ SumAt lo hi σ ds q S2 ∧ C = fun V => cmpV (stI σ r 2) (S1 V) (S2 V)) ∨
      (stK σ r = some (15, 0) ∧ ∃ p C0, stR σ r 0 = some p ∧ CondAt ds lo hi σ d p C0 ∧ C = fun V => if C0 V = 2 then 2 else 1 - C0 V) ∨
      (stK σ r = some (14, 0) ∧ ∃ L, CChain (CondAt ds lo hi σ d) lo hi σ (some r) L ∧ C = fun V => someV V (stI σ r 1) L))
theorem CChain.agr {P P' : Nat → CD → Prop} {lo hi : Nat} {σ τ : St} (ha : Agr lo hi σ τ) (hP : ∀ p S, P p S → P' p S) : ∀ {L : List CD} {nx : Option Nat}, CChain P lo hi σ nx L → CChain P' lo hi τ nx L
  | [], nx, h => h
  | C :: L, nx, h => by
    obtain ⟨q, h1, h2, h3, h4, ⟨p, h6, h7⟩, h8⟩ := h
    obtain ⟨a1, a2, a3⟩ := ha q h2 h3
    exact ⟨q, h1, h2, h3, by rw [a1]; exact h4, ⟨p, by rw [a3]; exact h6, hP _ _ h7⟩, by rw [a3]; exact CChain.agr ha hP h8⟩
theorem CondAt.agr {ds lo hi : Nat} {σ τ : St} (ha : Agr lo hi σ τ) : ∀ {d r : Nat} {C : CD}, CondAt ds lo hi σ d r C → CondAt ds lo hi τ d r C
  | 0, _, _, h => h
  | d + 1, r, C, h => by
    obtain ⟨h1, h2, h⟩ := h
    obtain ⟨a1, a2, a3⟩ := ha r h1 h2
    refine ⟨h1, h2, ?_⟩
    rcases h with ⟨h3, p, q, S1, S2, h4, h5, h6, h7, h8⟩ | ⟨h3, p, C0, h4, h5, h6⟩ | ⟨h3, L, h4, h5⟩
    · exact Or.inl ⟨by rw [a1]; exact h3, p, q, S1, S2, by rw [a3]; exact h4, by rw [a3]; exact h5, h6.agr ha, h7.agr ha, by rw [a2]; exact h8⟩
    · exact Or.inr (Or.inl ⟨by rw [a1]; exact h3, p, C0, by rw [a3]; exact h4, CondAt.agr ha h5, h6⟩)
    · exact Or.inr (Or.inr ⟨by rw [a1]; exact h3, L, CChain.agr ha (fun _ _ => CondAt.agr ha) h4, by rw [a2]; exact h5⟩)
theorem CondAt.set {ds lo hi m d r : Nat} {σ : St} {C : CD} (h : CondAt ds lo hi σ d r C) (hm : m < lo) (x : Int32) : CondAt ds lo hi (setI σ m 0 x) d r C := h.agr (Agr.setI hm)
def xH : MethodName := ⟨"PuzzleWed$Condition", "holds", "(LPuzzleWed$Asked;)I"⟩
def CondPost (σ : St) (m : Nat) (V : Int32 → Int32) (C : CD) : Option Value → St → Prop := fun v τ => ∃ r, v = some (.int r) ∧ (r = C V ∧ ∃ x, τ = setI σ m 0 x)
def CondCt (Γ : Gm) (d : Nat) (m : Nat) (V : Int32 → Int32) (σ : St) (r : Nat) (C : CD) : Prop :=
  (stK σ r = some (14, 0) ∧ Ct Γ d 0 0 m_X14_holds [.ref r, .ref m] σ (CondPost σ m V C)) ∨ (stK σ r = some (15, 0) ∧ Ct Γ d 0 0 m_X15_holds [.ref r, .ref m] σ (CondPost σ m V C)) ∨ (stK σ r = some (16, 0) ∧ Ct Γ d 0 0 m_X16_holds [.ref r, .ref m] σ (CondPost σ m V C))
def InhH (own : String) (i : Nat) : Prop := InhAt own i 14 xH m_X14_holds 1 ∧ InhAt own i 15 xH m_X15_holds 1 ∧ InhAt own i 16 xH m_X16_holds 1
theorem gcH {Γ : Gm} {μ : Mth} {d d' c n pc : Nat} {L : List (Option Value)} {st stk : List Value} {σ : St} {i m r : Nat} {V : Int32 → Int32} {C : CD} {Q : Option Value → St → Prop} (hd : decode (mcode μ) pc = .ok (.invokevirtual i, 3)) (hI : InhH (mown μ) i) (h : CondCt Γ d' m V σ r C) (hst : stk = .ref m :: .ref r :: st) (hdd : d' + 1 ≤ d) (hl8 : st.length ≤ 8) (hc1 : st.all (fun v => v.category == 1) = true)
    (kk : ∀ x, WP Γ μ d c n (pc + 3) L (.int (C V) :: st) (setI σ m 0 x) Q) : WP Γ μ d c n pc L stk σ Q := by
  subst hst
  have kk' : ∀ r τ, (r = C V ∧ ∃ x, τ = setI σ m 0 x) → WP Γ μ d (c - 0) (n - 0) (pc + 3) L (.int r :: st) τ Q := by
    rintro r τ ⟨rfl, x, rfl⟩
    exact kk x
  rcases h with ⟨hK, h⟩ | ⟨hK, h⟩ | ⟨hK, h⟩
  · exact wp_cIx (gcU hd hI.1 h hK rfl rfl hdd (Nat.zero_le _) (Nat.zero_le _) hl8 hc1) kk'
  · exact wp_cIx (gcU hd hI.2.1 h hK rfl rfl hdd (Nat.zero_le _) (Nat.zero_le _) hl8 hc1) kk'
  · exact wp_cIx (gcU hd hI.2.2 h hK rfl rfl hdd (Nat.zero_le _) (Nat.zero_le _) hl8 hc1) kk'
theorem inhH_14 : InhH RX14 17 := ⟨gua_X14_17_14, gua_X14_17_15, gua_X14_17_16⟩
theorem inhH_15 : InhH RX15 13 := ⟨gua_X15_13_14, gua_X15_13_15, gua_X15_13_16⟩
theorem inhH_6 : InhH RX6 31 := ⟨gua_X6_31_14, gua_X6_31_15, gua_X6_31_16⟩
section
variable {Γ : Gm} {ds lo hi m : Nat} {V : Int32 → Int32}
theorem ct_cond (hm : m < lo) : ∀ (d r : Nat) (C : CD) (σ : St), CondAt ds lo hi σ d r C → ValOK Γ m V σ → CondCt Γ (d + ds + 4) m V σ r C := by
  intro d
  induction d with
  | zero => intro r C σ h; exact absurd h id
  | succ d ihd =>
    intro r C σ h hV
    obtain ⟨h1, h2, h⟩ := h
    rcases h with ⟨hK, p, q, S1, S2, hp, hq, hS1, hS2, rfl⟩ | ⟨hK, p, C0, hp, hC0, rfl⟩ | ⟨hK, L, hL, rfl⟩
    · refine Or.inr (Or.inr ⟨hK, Ct.ofWP pf_X16_holds rfl rfl ?_⟩)
      have hS1' := hS1.agr (τ := setI σ m 0 0) (Agr.setI hm)
      have hS2' := (hS2.agr (τ := setI σ m 0 0) (Agr.setI hm)).rfS hm (S1 V).2
      have hV1 := hV.set 0
      have hV2 := hV1.rfS (S1 V).2
      have e : ∃ x, rfS (setI σ m 0 0) m ((S1 V).2 || (S2 V).2) = setI σ m 0 x := by
        obtain ⟨x, e⟩ := rfS_is (setI σ m 0 0) m ((S1 V).2 || (S2 V).2)
        exact ⟨x, by rw [e, setI_setI]⟩
      have er : stI (rfS (setI σ m 0 0) m ((S1 V).2 || (S2 V).2)) m 0 = bI ((S1 V).2 || (S2 V).2) := by
        cases ((S1 V).2 || (S2 V).2) <;> simp [rfS, stI_setI, bI]
      have cmp_end : ∀ {z : Bool} {x : Int32}, x = bI z → cmpB (stI σ r 2) (S1 V).1 (S2 V).1 = z → WP Γ m_X16_holds (d + 1 + ds + 4) 0 0 77 [some (.ref r), some (.ref m), some (.int (S1 V).1), some (.int (S2 V).1), none] [.int x] (rfS (setI σ m 0 0) m ((S1 V).2 || (S2 V).2)) (CondPost σ m V (fun V => cmpV (stI σ r 2) (S1 V) (S2 V))) := by
        intro z x hx hz
        subst hx
        refine wp_istore dX16_holds_77 rfl ?_
        refine wp_aload_n dX16_holds_79 rfl ?_
        refine wp_getI dX16_holds_80 gfa_X16_20_2 rfl (rfK hV.1) ?_
        rw [er]
        refine wp_if_eq dX16_holds_83 90 (by decide) (fun c83 => ?_) (fun c83 => ?_)
        · refine wp_iload dX16_holds_90 rfl ?_
          refine wp_if_eq dX16_holds_92 99 (by decide) (fun c92 => ?_) (fun c92 => ?_)
          · refine wp_iconst dX16_holds_99 0 rfl ?_
            refine wp_iret dX16_holds_100 rfl ?_
            obtain ⟨x, ex⟩ := e
            refine ⟨_, rfl, ?_, x, ex⟩
            show _ = cmpV (stI σ r 2) (S1 V) (S2 V)
            unfold cmpV
            first | (rw [if_pos (bI_1.mp c83)]; done) | (rw [if_neg (by rw [bI_0.mp c83]; decide), hz, bI_0.mp c92]; rfl) | (rw [if_neg (by rw [bI_0.mp c83]; decide), hz, bI_1.mp c92]; rfl)
          · refine wp_iconst dX16_holds_95 1 rfl ?_
            refine wp_goto dX16_holds_96 100 (by decide) ?_
            refine wp_iret dX16_holds_100 rfl ?_
            obtain ⟨x, ex⟩ := e
            refine ⟨_, rfl, ?_, x, ex⟩
            show _ = cmpV (stI σ r 2) (S1 V) (S2 V)
            unfold cmpV
            first | (rw [if_pos (bI_1.mp c83)]; done) | (rw [if_neg (by rw [bI_0.mp c83]; decide), hz, bI_0.mp c92]; rfl) | (rw [if_neg (by rw [bI_0.mp c83]; decide), hz, bI_1.mp c92]; rfl)
        · refine wp_iconst dX16_holds_86 2 rfl ?_
          refine wp_goto dX16_holds_87 100 (by decide) ?_
          refine wp_iret dX16_holds_100 rfl ?_
          obtain ⟨x, ex⟩ := e
          refine ⟨_, rfl, ?_, x, ex⟩
          show _ = cmpV (stI σ r 2) (S1 V) (S2 V)
          unfold cmpV
          first | (rw [if_pos (bI_1.mp c83)]; done) | (rw [if_neg (by rw [bI_0.mp c83]; decide), hz, bI_0.mp c92]; rfl) | (rw [if_neg (by rw [bI_0.mp c83]; decide), hz, bI_1.mp c92]; rfl)
      refine wp_aload_n dX16_holds_0 rfl ?_
      refine wp_iconst dX16_holds_1 0 rfl ?_
      refine wp_putI dX16_holds_2 gfa_X16_20_2 (Or.inl rfl) rfl ⟨rfl, rfl⟩ hV.1 ?_
      refine wp_aload_n dX16_holds_5 rfl ?_
      refine wp_getR dX16_holds_6 gfa_X16_7_16 rfl hK hp ?_
      refine wp_aload_n dX16_holds_9 rfl ?_
      refine gcW dX16_holds_10 inhW_16 (ct_sum hm ds p S1 _ hS1' hV1) rfl (by omega) (Nat.le_of_ble_eq_true rfl) rfl ?_
      refine wp_istore_n dX16_holds_13 rfl ?_
      refine wp_aload_n dX16_holds_14 rfl ?_
      refine wp_getR dX16_holds_15 gfa_X16_17_16 rfl (rfK hK) ((rfS_R _ _ _ _ _).trans hq) ?_
      refine wp_aload_n dX16_holds_18 rfl ?_
      refine gcW dX16_holds_19 inhW_16 (ct_sum hm ds q S2 _ hS2' hV2) rfl (by omega) (Nat.le_of_ble_eq_true rfl) rfl ?_
      rw [rfS_rfS]
      refine wp_istore_n dX16_holds_22 rfl ?_
      refine wp_aload_n dX16_holds_23 rfl ?_
      refine wp_getI dX16_holds_24 gfa_X16_13_16 rfl (rfK hK) ?_
      rw [rfS_I _ _ _ _ _ (show r ≠ m by omega), stI_setI, if_neg (show ¬ (r = m ∧ 2 = 0) by omega)]
      refine wp_bipush dX16_holds_27 60 rfl ?_
      refine wp_icmp_ne dX16_holds_29 45 (by decide) (fun c29 => ?_) (fun c29 => ?_)
      · refine wp_aload_n dX16_holds_45 rfl ?_
        refine wp_getI dX16_holds_46 gfa_X16_13_16 rfl (rfK hK) ?_
        rw [rfS_I _ _ _ _ _ (show r ≠ m by omega), stI_setI, if_neg (show ¬ (r = m ∧ 2 = 0) by omega)]
        refine wp_bipush dX16_holds_49 62 rfl ?_
        refine wp_icmp_ne dX16_holds_51 67 (by decide) (fun c51 => ?_) (fun c51 => ?_)
        · refine wp_iload_n dX16_holds_67 rfl ?_
          refine wp_iload_n dX16_holds_68 rfl ?_
          refine wp_icmp_ne dX16_holds_69 76 (by decide) (fun c69 => ?_) (fun c69 => ?_)
          · refine wp_iconst dX16_holds_76 0 rfl ?_
            refine cmp_end (z := cmpB (stI σ r 2) (S1 V).1 (S2 V).1) ?_ rfl
            first | (rw [cmpB, if_pos c29]; simp [c34, bI]; done) | (rw [cmpB, if_neg c29, if_pos c51]; simp [c56, bI]; done) | (rw [cmpB, if_neg c29, if_neg c51]; simp [c69, bI]; done)
          · refine wp_iconst dX16_holds_72 1 rfl ?_
            refine wp_goto dX16_holds_73 77 (by decide) ?_
            refine cmp_end (z := cmpB (stI σ r 2) (S1 V).1 (S2 V).1) ?_ rfl
            first | (rw [cmpB, if_pos c29]; simp [c34, bI]; done) | (rw [cmpB, if_neg c29, if_pos c51]; simp [c56, bI]; done) | (rw [cmpB, if_neg c29, if_neg c51]; simp [c69, bI]; done)
        · refine wp_iload_n dX16_holds_54 rfl ?_
          refine wp_iload_n dX16_holds_55 rfl ?_
          refine wp_icmp_le dX16_holds_56 63 (by decide) (fun c56 => ?_) (fun c56 => ?_)
          · refine wp_iconst dX16_holds_63 0 rfl ?_
            refine wp_goto dX16_holds_64 77 (by decide) ?_
            refine cmp_end (z := cmpB (stI σ r 2) (S1 V).1 (S2 V).1) ?_ rfl
            first | (rw [cmpB, if_pos c29]; simp [c34, bI]; done) | (rw [cmpB, if_neg c29, if_pos c51]; simp [c56, bI]; done) | (rw [cmpB, if_neg c29, if_neg c51]; simp [c69, bI]; done)
          · refine wp_iconst dX16_holds_59 1 rfl ?_
            refine wp_goto dX16_holds_60 77 (by decide) ?_
            refine cmp_end (z := cmpB (stI σ r 2) (S1 V).1 (S2 V).1) ?_ rfl
            first | (rw [cmpB, if_pos c29]; simp [c34, bI]; done) | (rw [cmpB, if_neg c29, if_pos c51]; simp [c56, bI]; done) | (rw [cmpB, if_neg c29, if_neg c51]; simp [c69, bI]; done)
      · refine wp_iload_n dX16_holds_32 rfl ?_
        refine wp_iload_n dX16_holds_33 rfl ?_
        refine wp_icmp_ge dX16_holds_34 41 (by decide) (fun c34 => ?_) (fun c34 => ?_)
        · refine wp_iconst dX16_holds_41 0 rfl ?_
          refine wp_goto dX16_holds_42 77 (by decide) ?_
          refine cmp_end (z := cmpB (stI σ r 2) (S1 V).1 (S2 V).1) ?_ rfl
          first | (rw [cmpB, if_pos c29]; simp [c34, bI]; done) | (rw [cmpB, if_neg c29, if_pos c51]; simp [c56, bI]; done) | (rw [cmpB, if_neg c29, if_neg c51]; simp [c69, bI]; done)
        · refine wp_iconst dX16_holds_37 1 rfl ?_
          refine wp_goto dX16_holds_38 77 (by decide) ?_
          refine cmp_end (z := cmpB (stI σ r 2) (S1 V).1 (S2 V).1) ?_ rfl
          first | (rw [cmpB, if_pos c29]; simp [c34, bI]; done) | (rw [cmpB, if_neg c29, if_pos c51]; simp [c56, bI]; done) | (rw [cmpB, if_neg c29, if_neg c51]; simp [c69, bI]; done)
    · refine Or.inr (Or.inl ⟨hK, Ct.ofWP pf_X15_holds rfl rfl ?_⟩)
      refine wp_aload_n dX15_holds_0 rfl ?_
      refine wp_getR dX15_holds_1 gfa_X15_7_15 rfl hK hp ?_
      refine wp_aload_n dX15_holds_4 rfl ?_
      refine gcH dX15_holds_5 inhH_15 (ihd p C0 _ hC0 hV) rfl (by omega) (Nat.le_of_ble_eq_true rfl) rfl (fun x => ?_)
      refine wp_istore_n dX15_holds_8 rfl ?_
      refine wp_iload_n dX15_holds_9 rfl ?_
      refine wp_iconst dX15_holds_10 2 rfl ?_
      refine wp_icmp_ne dX15_holds_11 18 (by decide) (fun c11 => ?_) (fun c11 => ?_)
      · refine wp_iconst dX15_holds_18 1 rfl ?_
        refine wp_iload_n dX15_holds_19 rfl ?_
        refine wp_isub dX15_holds_20 ?_
        refine wp_iret dX15_holds_21 rfl ?_
        exact ⟨_, rfl, by simp [c11], x, rfl⟩
      · refine wp_iconst dX15_holds_14 2 rfl ?_
        refine wp_goto dX15_holds_15 21 (by decide) ?_
        refine wp_iret dX15_holds_21 rfl ?_
        exact ⟨_, rfl, by simp [c11], x, rfl⟩
    · refine Or.inl ⟨hK, Ct.ofWP pf_X14_holds rfl rfl ?_⟩
      have loop : ∀ Q : Option Value → St → Prop, ∀ (L : List CD) (nx : Option Nat) (x : Int32) (o3 : Option Value), CChain (CondAt ds lo hi σ d) lo hi σ nx L → (∀ x, Q (some (.int (someV V (stI σ r 1) L))) (setI σ m 0 x)) → WP Γ m_X14_holds (d + 1 + ds + 4) 0 0 2 [some (.ref r), some (.ref m), some (va_rf nx), o3] [] (setI σ m 0 x) Q := by
        intro Q L
        induction L with
        | nil =>
          intro nx x o3 hc hQ
          have hc : nx = none := hc
          subst hc
          show WP Γ m_X14_holds (d + 1 + ds + 4) 0 0 2 [some (.ref r), some (.ref m), some .null, o3] [] (setI σ m 0 x) Q
          refine wp_aload_nN dX14_holds_2 rfl ?_
          refine wp_ifnullN dX14_holds_3 38 (by decide) ?_
          refine wp_iconst dX14_holds_38 1 rfl ?_
          refine wp_aload_n dX14_holds_39 rfl ?_
          refine wp_getI dX14_holds_40 gfa_X14_13_14 rfl hK ?_
          rw [stI_setI, if_neg (show ¬ (r = m ∧ 1 = 0) by omega)]
          refine wp_isub dX14_holds_43 ?_
          refine wp_iret dX14_holds_44 rfl ?_
          exact hQ x
        | cons C L ih =>
          intro nx x o3 hc hQ
          obtain ⟨q, rfl, g1, g2, g3, ⟨p1, g5, g6⟩, g7⟩ := hc
          show WP Γ m_X14_holds (d + 1 + ds + 4) 0 0 2 [some (.ref r), some (.ref m), some (.ref q), o3] [] (setI σ m 0 x) Q
          refine wp_aload_n dX14_holds_2 rfl ?_
          refine wp_ifnull dX14_holds_3 ?_
          refine wp_aload_n dX14_holds_6 rfl ?_
          refine wp_getR dX14_holds_7 gfa_X14_7_14 rfl g3 g5 ?_
          refine wp_aload_n dX14_holds_10 rfl ?_
          refine gcH dX14_holds_11 inhH_14 (ihd p1 C _ (g6.set hm x) (hV.set x)) rfl (by omega) (Nat.le_of_ble_eq_true rfl) rfl (fun y => ?_)
          rw [setI_setI]
          refine wp_istore_n dX14_holds_14 rfl ?_
          refine wp_iload_n dX14_holds_15 rfl ?_
          refine wp_iconst dX14_holds_16 2 rfl ?_
          refine wp_icmp_eq dX14_holds_17 28 (by decide) (fun c17 => ?_) (fun c17 => ?_)
          · refine wp_iload_n dX14_holds_28 rfl ?_
            refine wp_iret dX14_holds_29 rfl ?_
            have := hQ y
            rw [someV, if_pos (by first | exact Or.inl c17 | exact Or.inr c25)] at this
            exact this
          · refine wp_iload_n dX14_holds_20 rfl ?_
            refine wp_aload_n dX14_holds_21 rfl ?_
            refine wp_getI dX14_holds_22 gfa_X14_13_14 rfl hK ?_
            rw [stI_setI, if_neg (show ¬ (r = m ∧ 1 = 0) by omega)]
            refine wp_icmp_ne dX14_holds_25 30 (by decide) (fun c25 => ?_) (fun c25 => ?_)
            · refine wp_aload_n dX14_holds_30 rfl ?_
              refine wp_getV dX14_holds_31 gfa_X14_21_14 rfl g3 rfl ?_
              refine wp_astoreV_n dX14_holds_34 rfl ?_
              refine wp_goto dX14_holds_35 2 (by decide) ?_
              refine ih _ y _ g7 (fun z => ?_)
              have := hQ z
              rw [someV, if_neg (by rintro (h | h); exact c17 h; exact c25 h)] at this
              exact this
            · refine wp_iload_n dX14_holds_28 rfl ?_
              refine wp_iret dX14_holds_29 rfl ?_
              have := hQ y
              rw [someV, if_pos (by first | exact Or.inl c17 | exact Or.inr c25)] at this
              exact this
      have e := setI_self σ m 0
      refine wp_aload_n dX14_holds_0 rfl ?_
      refine wp_astore_n dX14_holds_1 rfl ?_
      refine WP.castS e.symm ?_
      exact loop _ L (some r) _ none hL (fun x => ⟨_, rfl, rfl, x, rfl⟩)
end
