set_option maxRecDepth 100000
abbrev Sts2 : Type := Int32 × Option Nat
def stSl (G : Gd) (k a t r : Nat) : Int32 := slackF (stmH G k t (nI r - 9)) (fun h => G (h + 20) a) (G 11 k) (G 11 a)
def stDo (t r : Nat) : Int32 := nI t + iabs (nI r - 9)
def stStep (G : Gd) (k a : Nat) (y : Int32) (t r : Nat) (s : Sts2) : Sts2 := if stDo t r < s.1 then (if stSl G k a t r ≤ y then (stDo t r, some (20 * t + (r + 1))) else s) else s
def stRow (G : Gd) (k a : Nat) (y : Int32) (t : Nat) (s : Sts2) (n : Nat) : Sts2 := folN (fun r s => stStep G k a y t r s) s n
def stAll (G : Gd) (k a : Nat) (y : Int32) (n : Nat) : Sts2 := folN (fun t s => stRow G k a y t s 19) (268435456, none) n
def stV (w : Int32) (s : Sts2) : Int32 := match s.2 with
  | none => -2
  | some e => if w = 0 then s.1 else if w = 1 then nI (e / 20) else nI (e % 20)
def steamOk (v1 v2 v3 v4 : Int32) : Bool := ((inB v1 12 && inB v2 12) && !decide (v1 = v2)) && (wiB v3 0 99 && inB v4 3)
def steamV (G : Gd) (v1 v2 v3 v4 : Int32) : Int32 := if steamOk v1 v2 v3 v4 = true then stV v4 (stAll G (ix v1) (ix v2) v3 8) else -1
section
variable {Γ : Gm} {σ : St} {b hi : Nat} {Lw : Lws}
theorem sd_LG {τ : St} (hf : Fr (sdW b) b σ τ) : LG τ (b + 2) = LG σ (b + 2) := LG_fr hf (fun c h => by unfold sdW at h; omega)
theorem steam_row {k a : Nat} (v3 v4 : Int32) (hk : k < 12) (ha : a < 12) (hC0 : CK b σ) (Q : Option Value → St → Prop) (t : Nat) (ht : t < 8) (s0 : Sts2) (hQ : ∀ ρ o8 o9, Fr (sdW b) b σ ρ → WP Γ m_X0_steaming 3 0 0 168 [some (.ref b), some (.int (nI k)), some (.int (nI a)), some (.int v3), some (.int v4), some (.int (stRow (LG σ (b + 2)) k a v3 t s0 19).1), some (.int (stV v4 (stRow (LG σ (b + 2)) k a v3 t s0 19))), some (.int (nI t)), o8, o9] [] ρ Q) :
    ∀ f r ρ o9, r + f = 19 → Fr (sdW b) b σ ρ → WP Γ m_X0_steaming 3 0 0 63 [some (.ref b), some (.int (nI k)), some (.int (nI a)), some (.int v3), some (.int v4), some (.int (stRow (LG σ (b + 2)) k a v3 t s0 r).1), some (.int (stV v4 (stRow (LG σ (b + 2)) k a v3 t s0 r))), some (.int (nI t)), some (.int (nI r - 9)), o9] [] ρ Q := by
  intro f
  induction f with
  | zero =>
    intro r ρ o9 hr hf
    obtain rfl : r = 19 := by omega
    refine wp_iload dX0_steaming_63 rfl ?_
    refine wp_bipush dX0_steaming_65 9 rfl ?_
    refine wp_icmp_gt dX0_steaming_67 168 (by decide) (fun c67 => ?_) (fun c67 => absurd (by decide) c67)
    exact hQ _ _ _ hf
  | succ f ih =>
    intro r ρ o9 hr hf
    have hC := hC0.kr hf.1
    have st : stRow (LG σ (b + 2)) k a v3 t s0 (r + 1) = stStep (LG σ (b + 2)) k a v3 t r (stRow (LG σ (b + 2)) k a v3 t s0 r) := rfl
    have hr9 : ¬ (9 : Int32) < nI r - 9 := (by decide : ∀ r, r < 19 → ¬ (9 : Int32) < nI r - 9) r (by omega)
    have e1 : nI r - 9 + 10 = nI (r + 1) := (by decide : ∀ r, r < 19 → nI r - 9 + 10 = nI (r + 1)) r (by omega)
    have e2 : nI r - 9 + 1 = nI (r + 1) - 9 := (by decide : ∀ r, r < 19 → nI r - 9 + 1 = nI (r + 1) - 9) r (by omega)
    have next : ∀ ρ o9, Fr (sdW b) b σ ρ → WP Γ m_X0_steaming 3 0 0 162 [some (.ref b), some (.int (nI k)), some (.int (nI a)), some (.int v3), some (.int v4), some (.int (stRow (LG σ (b + 2)) k a v3 t s0 (r + 1)).1), some (.int (stV v4 (stRow (LG σ (b + 2)) k a v3 t s0 (r + 1)))), some (.int (nI t)), some (.int (nI r - 9)), o9] [] ρ Q := by
      intro ρ o9 hf
      refine wp_iinc dX0_steaming_162 rfl rfl _ rfl ?_
      refine wp_goto dX0_steaming_165 63 (by decide) ?_
      refine WP.cast ?_ (ih (r + 1) ρ o9 (by omega) hf)
      rw [← e2]
      rfl
    rw [st] at next
    generalize stRow (LG σ (b + 2)) k a v3 t s0 r = s at *
    have d1 : (20 * t + (r + 1)) / 20 = t := by omega
    have d2 : (20 * t + (r + 1)) % 20 = r + 1 := by omega
    have eG := sd_LG hf
    have no : ¬ stDo t r < s.1 ∨ ¬ stSl (LG σ (b + 2)) k a t r ≤ v3 → stStep (LG σ (b + 2)) k a v3 t r s = s := by
      intro h
      rw [stStep]
      split
      · split
        · rename_i h1 h2
          exact absurd h (by simp [h1, h2])
        · rfl
      · rfl
    refine wp_iload dX0_steaming_63 rfl ?_
    refine wp_bipush dX0_steaming_65 9 rfl ?_
    refine wp_icmp_gt dX0_steaming_67 168 (by decide) (fun c67 => absurd c67 hr9) (fun c67 => ?_)
    refine wp_iload dX0_steaming_70 rfl ?_
    refine wp_iload dX0_steaming_72 rfl ?_
    refine wp_cI (gcS dX0_steaming_74 gsa_X0_279 (ct_abs _) rfl rfl (by omega) (by omega) (by omega) (Nat.le_of_ble_eq_true rfl) rfl) ?_
    refine wp_iadd dX0_steaming_77 ?_
    refine wp_istore dX0_steaming_78 rfl ?_
    refine wp_iload dX0_steaming_80 rfl ?_
    refine wp_iload dX0_steaming_82 rfl ?_
    refine wp_icmp_lt dX0_steaming_84 90 (by decide) (fun c84 => ?_) (fun c84 => ?_)
    · refine wp_aload_n dX0_steaming_90 rfl ?_
      refine wp_aload_n dX0_steaming_91 rfl ?_
      refine wp_getR dX0_steaming_92 gfa_X0_33_0 rfl hC.k0 hC.r1 ?_
      refine wp_getR dX0_steaming_95 gfa_X0_117_3 rfl hC.l0.k0 hC.l0.r1 ?_
      refine wp_iload_n dX0_steaming_98 rfl ?_
      refine wp_aald dX0_steaming_99 hC.l0.k2 rfl k rfl (by omega) (by omega) (hC.l0.rE (by omega)) ?_
      refine wp_iload dX0_steaming_100 rfl ?_
      refine wp_iload dX0_steaming_102 rfl ?_
      refine wp_cVx (gcV dX0_steaming_104 gva_X0_300_0 (ct_steams _ hk ht hC) hC.k0 rfl rfl (by omega) (by omega) (by omega) (Nat.le_of_ble_eq_true rfl) rfl) (fun τ hy => ?_)
      obtain ⟨hf1, hw1, hh1⟩ := hy
      have hC := hC.kr hf1.1
      have hf2 := hf.trans hf1
      have eG2 := sd_LG hf2
      refine wp_aload_n dX0_steaming_107 rfl ?_
      refine wp_getR dX0_steaming_108 gfa_X0_86_0 rfl hC.k0 hC.r17 ?_
      refine wp_aload_n dX0_steaming_111 rfl ?_
      refine wp_getR dX0_steaming_112 gfa_X0_33_0 rfl hC.k0 hC.r1 ?_
      refine wp_getR dX0_steaming_115 gfa_X0_117_3 rfl hC.l0.k0 hC.l0.r1 ?_
      refine wp_iload_n dX0_steaming_118 rfl ?_
      refine wp_aald dX0_steaming_119 hC.l0.k2 rfl a rfl (by omega) (by omega) (hC.l0.rE (by omega)) ?_
      refine wp_cI (gcV dX0_steaming_120 gva_X0_297_5 (ct_slackP hC.sd (hC.l0.pc ha)) hC.k763 rfl rfl (by omega) (by omega) (by omega) (Nat.le_of_ble_eq_true rfl) rfl) ?_
      rw [show slackF (stI τ (b + 764)) (stI τ (b + 2 + 6 + 4 * a)) (stI τ (b + 763) 1) (stI τ (b + 2 + 5 + 4 * a) 1) = stSl (LG σ (b + 2)) k a t r by rw [hw1, LG_e1 ha, eG2, eG]; exact slackF_ext (fun h hh => by rw [hh1 h hh, eG]) (fun h hh => by rw [LG_h h (by omega) ha, eG2])]
      refine wp_iload_n dX0_steaming_123 rfl ?_
      refine wp_icmp_le dX0_steaming_124 130 (by decide) (fun c124 => ?_) (fun c124 => ?_)
      · refine wp_iload dX0_steaming_130 rfl ?_
        refine wp_istore dX0_steaming_132 rfl ?_
        refine wp_iload dX0_steaming_134 rfl ?_
        refine wp_if_ne dX0_steaming_136 144 (by decide) (fun c136 => ?_) (fun c136 => ?_)
        · refine wp_iload dX0_steaming_144 rfl ?_
          refine wp_iconst dX0_steaming_146 1 rfl ?_
          refine wp_icmp_ne dX0_steaming_147 155 (by decide) (fun c147 => ?_) (fun c147 => ?_)
          · refine wp_iload dX0_steaming_155 rfl ?_
            refine wp_bipush dX0_steaming_157 10 rfl ?_
            refine wp_iadd dX0_steaming_159 ?_
            refine wp_istore dX0_steaming_160 rfl ?_
            first | (have e := no (Or.inl c84); rw [e] at next; exact next _ _ hf) | (have e := no (Or.inr c124); rw [e] at next; exact next _ _ hf2) | (have e : stStep (LG σ (b + 2)) k a v3 t r s = (stDo t r, some (20 * t + (r + 1))) := (by rw [stStep, if_pos (show stDo t r < s.1 from c84), if_pos c124]); rw [e] at next; refine WP.cast ?_ (next _ (some (.int (stDo t r))) hf2); first | (rw [show stV v4 (stDo t r, some (20 * t + (r + 1))) = stDo t r from if_pos c136]; rfl) | (rw [show stV v4 (stDo t r, some (20 * t + (r + 1))) = nI t by (show (if v4 = 0 then _ else _) = _; rw [if_neg c136, if_pos c147, d1])]; rfl) | (rw [show stV v4 (stDo t r, some (20 * t + (r + 1))) = nI r - 9 + 10 by (show (if v4 = 0 then _ else _) = _; rw [if_neg c136, if_neg c147, d2, e1])]; rfl))
          · refine wp_iload dX0_steaming_150 rfl ?_
            refine wp_goto dX0_steaming_152 160 (by decide) ?_
            refine wp_istore dX0_steaming_160 rfl ?_
            first | (have e := no (Or.inl c84); rw [e] at next; exact next _ _ hf) | (have e := no (Or.inr c124); rw [e] at next; exact next _ _ hf2) | (have e : stStep (LG σ (b + 2)) k a v3 t r s = (stDo t r, some (20 * t + (r + 1))) := (by rw [stStep, if_pos (show stDo t r < s.1 from c84), if_pos c124]); rw [e] at next; refine WP.cast ?_ (next _ (some (.int (stDo t r))) hf2); first | (rw [show stV v4 (stDo t r, some (20 * t + (r + 1))) = stDo t r from if_pos c136]; rfl) | (rw [show stV v4 (stDo t r, some (20 * t + (r + 1))) = nI t by (show (if v4 = 0 then _ else _) = _; rw [if_neg c136, if_pos c147, d1])]; rfl) | (rw [show stV v4 (stDo t r, some (20 * t + (r + 1))) = nI r - 9 + 10 by (show (if v4 = 0 then _ else _) = _; rw [if_neg c136, if_neg c147, d2, e1])]; rfl))
        · refine wp_iload dX0_steaming_139 rfl ?_
          refine wp_goto dX0_steaming_141 160 (by decide) ?_
          refine wp_istore dX0_steaming_160 rfl ?_
          first | (have e := no (Or.inl c84); rw [e] at next; exact next _ _ hf) | (have e := no (Or.inr c124); rw [e] at next; exact next _ _ hf2) | (have e : stStep (LG σ (b + 2)) k a v3 t r s = (stDo t r, some (20 * t + (r + 1))) := (by rw [stStep, if_pos (show stDo t r < s.1 from c84), if_pos c124]); rw [e] at next; refine WP.cast ?_ (next _ (some (.int (stDo t r))) hf2); first | (rw [show stV v4 (stDo t r, some (20 * t + (r + 1))) = stDo t r from if_pos c136]; rfl) | (rw [show stV v4 (stDo t r, some (20 * t + (r + 1))) = nI t by (show (if v4 = 0 then _ else _) = _; rw [if_neg c136, if_pos c147, d1])]; rfl) | (rw [show stV v4 (stDo t r, some (20 * t + (r + 1))) = nI r - 9 + 10 by (show (if v4 = 0 then _ else _) = _; rw [if_neg c136, if_neg c147, d2, e1])]; rfl))
      · refine wp_goto dX0_steaming_127 162 (by decide) ?_
        first | (have e := no (Or.inl c84); rw [e] at next; exact next _ _ hf) | (have e := no (Or.inr c124); rw [e] at next; exact next _ _ hf2) | (have e : stStep (LG σ (b + 2)) k a v3 t r s = (stDo t r, some (20 * t + (r + 1))) := (by rw [stStep, if_pos (show stDo t r < s.1 from c84), if_pos c124]); rw [e] at next; refine WP.cast ?_ (next _ (some (.int (stDo t r))) hf2); first | (rw [show stV v4 (stDo t r, some (20 * t + (r + 1))) = stDo t r from if_pos c136]; rfl) | (rw [show stV v4 (stDo t r, some (20 * t + (r + 1))) = nI t by (show (if v4 = 0 then _ else _) = _; rw [if_neg c136, if_pos c147, d1])]; rfl) | (rw [show stV v4 (stDo t r, some (20 * t + (r + 1))) = nI r - 9 + 10 by (show (if v4 = 0 then _ else _) = _; rw [if_neg c136, if_neg c147, d2, e1])]; rfl))
    · refine wp_goto dX0_steaming_87 162 (by decide) ?_
      first | (have e := no (Or.inl c84); rw [e] at next; exact next _ _ hf) | (have e := no (Or.inr c124); rw [e] at next; exact next _ _ hf2) | (have e : stStep (LG σ (b + 2)) k a v3 t r s = (stDo t r, some (20 * t + (r + 1))) := (by rw [stStep, if_pos (show stDo t r < s.1 from c84), if_pos c124]); rw [e] at next; refine WP.cast ?_ (next _ (some (.int (stDo t r))) hf2); first | (rw [show stV v4 (stDo t r, some (20 * t + (r + 1))) = stDo t r from if_pos c136]; rfl) | (rw [show stV v4 (stDo t r, some (20 * t + (r + 1))) = nI t by (show (if v4 = 0 then _ else _) = _; rw [if_neg c136, if_pos c147, d1])]; rfl) | (rw [show stV v4 (stDo t r, some (20 * t + (r + 1))) = nI r - 9 + 10 by (show (if v4 = 0 then _ else _) = _; rw [if_neg c136, if_neg c147, d2, e1])]; rfl))
theorem stRow_0 (G : Gd) (k a : Nat) (y : Int32) (t : Nat) (s : Sts2) : stRow G k a y t s 0 = s := by unfold stRow; rw [folN]
theorem stAll_0 (G : Gd) (k a : Nat) (y : Int32) : stAll G k a y 0 = (268435456, none) := by unfold stAll; rw [folN]
theorem stAll_s (G : Gd) (k a : Nat) (y : Int32) (t : Nat) : stAll G k a y (t + 1) = stRow G k a y t (stAll G k a y t) 19 := by unfold stAll; rw [folN]
theorem steam_all {k a : Nat} (v3 v4 : Int32) (hk : k < 12) (ha : a < 12) (hC0 : CK b σ) : ∀ f t ρ o8 o9, t + f = 8 → Fr (sdW b) b σ ρ → WP Γ m_X0_steaming 3 0 0 52 [some (.ref b), some (.int (nI k)), some (.int (nI a)), some (.int v3), some (.int v4), some (.int (stAll (LG σ (b + 2)) k a v3 t).1), some (.int (stV v4 (stAll (LG σ (b + 2)) k a v3 t))), some (.int (nI t)), o8, o9] [] ρ (fun r τ => ∃ y, r = some (.int y) ∧ (y = stV v4 (stAll (LG σ (b + 2)) k a v3 8) ∧ Fr (sdW b) b σ τ)) := by
  intro f
  induction f with
  | zero =>
    intro t ρ o8 o9 ht hf
    obtain rfl : t = 8 := by omega
    refine wp_iload dX0_steaming_52 rfl ?_
    refine wp_bipush dX0_steaming_54 8 rfl ?_
    refine wp_icmp_geN dX0_steaming_56 174 (by decide) 8 8 rfl rfl (by omega) (by omega) (fun c56 => ?_) (fun c56 => ?_)
    · refine wp_iload dX0_steaming_174 rfl ?_
      refine wp_iret dX0_steaming_176 rfl ?_
      exact ⟨_, rfl, rfl, hf⟩
    · omega
  | succ f ih =>
    intro t ρ o8 o9 ht hf
    have back : ∀ ρ o8 o9, Fr (sdW b) b σ ρ → WP Γ m_X0_steaming 3 0 0 168 [some (.ref b), some (.int (nI k)), some (.int (nI a)), some (.int v3), some (.int v4), some (.int (stRow (LG σ (b + 2)) k a v3 t (stAll (LG σ (b + 2)) k a v3 t) 19).1), some (.int (stV v4 (stRow (LG σ (b + 2)) k a v3 t (stAll (LG σ (b + 2)) k a v3 t) 19))), some (.int (nI t)), o8, o9] [] ρ (fun r τ => ∃ y, r = some (.int y) ∧ (y = stV v4 (stAll (LG σ (b + 2)) k a v3 8) ∧ Fr (sdW b) b σ τ)) := by
      intro ρ o8 o9 hf
      rw [← stAll_s]
      refine wp_iinc dX0_steaming_168 rfl rfl (nI (t + 1)) (nI_add t 1) ?_
      refine wp_goto dX0_steaming_171 52 (by decide) ?_
      exact ih (t + 1) _ _ _ (by omega) hf
    refine wp_iload dX0_steaming_52 rfl ?_
    refine wp_bipush dX0_steaming_54 8 rfl ?_
    refine wp_icmp_geN dX0_steaming_56 174 (by decide) t 8 rfl rfl (by omega) (by omega) (fun c56 => ?_) (fun c56 => ?_)
    · omega
    · refine wp_bipush dX0_steaming_59 (-9) rfl ?_
      refine wp_istore dX0_steaming_61 rfl ?_
      have h := steam_row v3 v4 hk ha hC0 _ t (by omega) (stAll (LG σ (b + 2)) k a v3 t) back 19 0 ρ o9 (by omega) hf
      rw [stRow_0, show nI 0 - 9 = (-9 : Int32) by decide] at h
      exact h
theorem ct_steaming (v1 v2 v3 v4 : Int32) (hC : CK b σ) : Ct Γ 3 0 0 m_X0_steaming [.ref b, .int v1, .int v2, .int v3, .int v4] σ (fun r τ => ∃ y, r = some (.int y) ∧ (y = steamV (LG σ (b + 2)) v1 v2 v3 v4 ∧ Fr (sdW b) b σ τ)) := by
  refine Ct.ofWP pf_X0_steaming rfl rfl ?_
  refine wp_iload_n dX0_steaming_0 rfl ?_
  refine wp_cI (gcS dX0_steaming_1 gsa_X0_124 (ct_isPiece _) rfl rfl (by omega) (by omega) (by omega) (Nat.le_of_ble_eq_true rfl) rfl) ?_
  refine wp_if_eq dX0_steaming_4 38 (by decide) (fun c4 => ?_) (fun c4 => ?_)
  · refine wp_iconst dX0_steaming_38 (-1) rfl ?_
    refine wp_iret dX0_steaming_39 rfl ?_
    have e : steamOk v1 v2 v3 v4 = false := by
      first | (rw [steamOk, bI_0.mp c4]; rfl) | (rw [steamOk, bI_0.mp c11, Bool.and_false]; rfl) | (rw [steamOk, decide_eq_true c16, Bool.not_true, Bool.and_false]; rfl) | (rw [steamOk, bI_0.mp c26, Bool.false_and, Bool.and_false]) | (rw [steamOk, bI_0.mp c35, Bool.and_false, Bool.and_false])
    exact ⟨_, rfl, by rw [steamV, e]; rfl, Fr.rf⟩
  · refine wp_iload_n dX0_steaming_7 rfl ?_
    refine wp_cI (gcS dX0_steaming_8 gsa_X0_124 (ct_isPiece _) rfl rfl (by omega) (by omega) (by omega) (Nat.le_of_ble_eq_true rfl) rfl) ?_
    refine wp_if_eq dX0_steaming_11 38 (by decide) (fun c11 => ?_) (fun c11 => ?_)
    · refine wp_iconst dX0_steaming_38 (-1) rfl ?_
      refine wp_iret dX0_steaming_39 rfl ?_
      have e : steamOk v1 v2 v3 v4 = false := by
        first | (rw [steamOk, bI_0.mp c4]; rfl) | (rw [steamOk, bI_0.mp c11, Bool.and_false]; rfl) | (rw [steamOk, decide_eq_true c16, Bool.not_true, Bool.and_false]; rfl) | (rw [steamOk, bI_0.mp c26, Bool.false_and, Bool.and_false]) | (rw [steamOk, bI_0.mp c35, Bool.and_false, Bool.and_false])
      exact ⟨_, rfl, by rw [steamV, e]; rfl, Fr.rf⟩
    · refine wp_iload_n dX0_steaming_14 rfl ?_
      refine wp_iload_n dX0_steaming_15 rfl ?_
      refine wp_icmp_eq dX0_steaming_16 38 (by decide) (fun c16 => ?_) (fun c16 => ?_)
      · refine wp_iconst dX0_steaming_38 (-1) rfl ?_
        refine wp_iret dX0_steaming_39 rfl ?_
        have e : steamOk v1 v2 v3 v4 = false := by
          first | (rw [steamOk, bI_0.mp c4]; rfl) | (rw [steamOk, bI_0.mp c11, Bool.and_false]; rfl) | (rw [steamOk, decide_eq_true c16, Bool.not_true, Bool.and_false]; rfl) | (rw [steamOk, bI_0.mp c26, Bool.false_and, Bool.and_false]) | (rw [steamOk, bI_0.mp c35, Bool.and_false, Bool.and_false])
        exact ⟨_, rfl, by rw [steamV, e]; rfl, Fr.rf⟩
      · refine wp_iload_n dX0_steaming_19 rfl ?_
        refine wp_iconst dX0_steaming_20 0 rfl ?_
        refine wp_bipush dX0_steaming_21 99 rfl ?_
        refine wp_cI (gcS dX0_steaming_23 gsa_X0_128 (ct_within _ _ _) rfl rfl (by omega) (by omega) (by omega) (Nat.le_of_ble_eq_true rfl) rfl) ?_
        refine wp_if_eq dX0_steaming_26 38 (by decide) (fun c26 => ?_) (fun c26 => ?_)
        · refine wp_iconst dX0_steaming_38 (-1) rfl ?_
          refine wp_iret dX0_steaming_39 rfl ?_
          have e : steamOk v1 v2 v3 v4 = false := by
            first | (rw [steamOk, bI_0.mp c4]; rfl) | (rw [steamOk, bI_0.mp c11, Bool.and_false]; rfl) | (rw [steamOk, decide_eq_true c16, Bool.not_true, Bool.and_false]; rfl) | (rw [steamOk, bI_0.mp c26, Bool.false_and, Bool.and_false]) | (rw [steamOk, bI_0.mp c35, Bool.and_false, Bool.and_false])
          exact ⟨_, rfl, by rw [steamV, e]; rfl, Fr.rf⟩
        · refine wp_iload dX0_steaming_29 rfl ?_
          refine wp_iconst dX0_steaming_31 3 rfl ?_
          refine wp_cI (gcS dX0_steaming_32 gsa_X0_103 (ct_in _ _) rfl rfl (by omega) (by omega) (by omega) (Nat.le_of_ble_eq_true rfl) rfl) ?_
          refine wp_if_ne dX0_steaming_35 40 (by decide) (fun c35 => ?_) (fun c35 => ?_)
          · refine wp_ldcw dX0_steaming_40 q1146 ?_
            refine wp_istore dX0_steaming_43 rfl ?_
            refine wp_bipush dX0_steaming_45 (-2) rfl ?_
            refine wp_istore dX0_steaming_47 rfl ?_
            refine wp_iconst dX0_steaming_49 0 rfl ?_
            refine wp_istore dX0_steaming_50 rfl ?_
            have e : steamOk v1 v2 v3 v4 = true := by rw [steamOk, bI_1.mp c4, bI_1.mp c11, decide_eq_false c16, bI_1.mp c26, bI_1.mp c35]; rfl
            obtain ⟨k, hk, rfl⟩ := inB_12 (bI_1.mp c4)
            obtain ⟨a, ha, rfl⟩ := inB_12 (bI_1.mp c11)
            rw [steamV, if_pos e, ix_nI (by omega), ix_nI (by omega)]
            have h := steam_all (Γ := Γ) v3 v4 hk ha hC 8 0 σ none none (by omega) Fr.rf
            rw [stAll_0] at h
            exact h
          · refine wp_iconst dX0_steaming_38 (-1) rfl ?_
            refine wp_iret dX0_steaming_39 rfl ?_
            have e : steamOk v1 v2 v3 v4 = false := by
              first | (rw [steamOk, bI_0.mp c4]; rfl) | (rw [steamOk, bI_0.mp c11, Bool.and_false]; rfl) | (rw [steamOk, decide_eq_true c16, Bool.not_true, Bool.and_false]; rfl) | (rw [steamOk, bI_0.mp c26, Bool.false_and, Bool.and_false]) | (rw [steamOk, bI_0.mp c35, Bool.and_false, Bool.and_false])
            exact ⟨_, rfl, by rw [steamV, e]; rfl, Fr.rf⟩
end
