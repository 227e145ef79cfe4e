set_option maxRecDepth 100000
theorem CK.sd {b : Nat} {σ : St} (h : CK b σ) : PcOK (b + 763) (b + 764) σ := ⟨h.k763, h.rS, h.k764⟩
def stmH (G : Gd) (k t : Nat) (x : Int32) (h : Nat) : Int32 := imax (-9) (imin 9 (G ((h + t) % 8 + 20) k + x))
def sdW (b : Nat) : Nat → Prop := fun c => c = b + 763 ∨ c = b + 764
theorem gapF_ext {x x' y y' : Nat → Int32} : ∀ n, n ≤ 8 → (∀ h, h < 8 → x h = x' h) → (∀ h, h < 8 → y h = y' h) → gapF x y n = gapF x' y' n
  | 0, _, _, _ => rfl
  | n + 1, hn, hx, hy => by rw [gapF, gapF, gapF_ext n (by omega) hx hy, hx n (by omega), hy (7 - n) (by omega)]
theorem slackF_ext {x x' y y' : Nat → Int32} {v w : Int32} (hx : ∀ h, h < 8 → x h = x' h) (hy : ∀ h, h < 8 → y h = y' h) : slackF x y v w = slackF x' y' v w := by
  rw [slackF, slackF, gapF_ext 8 (Nat.le_refl _) hx hy]
section
variable {Γ : Gm} {σ : St} {b hi : Nat} {Lw : Lws}
theorem ct_steams {k t : Nat} (x : Int32) (hk : k < 12) (ht : t < 8) (hC : CK b σ) : Ct Γ 1 0 0 m_X0_steams [.ref b, .ref (b + 2 + 5 + 4 * k), .int (nI t), .int x] σ (fun r τ => r = none ∧ (Fr (sdW b) b σ τ ∧ (stI τ (b + 763) 1 = LG σ (b + 2) 11 k ∧ ∀ h, h < 8 → stI τ (b + 764) h = stmH (LG σ (b + 2)) k t x h))) := by
  refine Ct.ofWP pf_X0_steams rfl rfl ?_
  have hL := hC.l0
  have loop : ∀ f h ρ, h + f = 8 → Fr (sdW b) b σ ρ → stI ρ (b + 763) 1 = LG σ (b + 2) 11 k → (∀ h', h' < h → stI ρ (b + 764) h' = stmH (LG σ (b + 2)) k t x h') → WP Γ m_X0_steams 1 0 0 11 [some (.ref b), some (.ref (b + 2 + 5 + 4 * k)), some (.int (nI t)), some (.int x), some (.int (nI h))] [] ρ (fun r τ => r = none ∧ (Fr (sdW b) b σ τ ∧ (stI τ (b + 763) 1 = LG σ (b + 2) 11 k ∧ ∀ h, h < 8 → stI τ (b + 764) h = stmH (LG σ (b + 2)) k t x h))) := by
    intro f
    induction f with
    | zero =>
      intro h ρ hh hf hw hH
      obtain rfl : h = 8 := by omega
      have hC := hC.kr hf.1
      have hL := hC.l0
      refine wp_iload dX0_steams_11 rfl ?_
      refine wp_bipush dX0_steams_13 8 rfl ?_
      refine wp_icmp_geN dX0_steams_15 58 (by decide) 8 8 rfl rfl (by omega) (by omega) (fun c15 => ?_) (fun c15 => ?_)
      · refine wp_vret dX0_steams_58 rfl ?_
        exact ⟨rfl, hf, hw, hH⟩
      · omega
    | succ f ih =>
      intro h ρ hh hf hw hH
      have hC := hC.kr hf.1
      have hL := hC.l0
      have eG : LG ρ (b + 2) = LG σ (b + 2) := LG_fr hf (fun c h => by unfold sdW at h; omega)
      have hm : (h + t) % 8 < 8 := Nat.mod_lt _ (by omega)
      refine wp_iload dX0_steams_11 rfl ?_
      refine wp_bipush dX0_steams_13 8 rfl ?_
      refine wp_icmp_geN dX0_steams_15 58 (by decide) h 8 rfl rfl (by omega) (by omega) (fun c15 => ?_) (fun c15 => ?_)
      · omega
      · refine wp_aload_n dX0_steams_18 rfl ?_
        refine wp_getR dX0_steams_19 gfa_X0_86_0 rfl hC.k0 hC.r17 ?_
        refine wp_getR dX0_steams_22 gfa_X0_171_5 rfl hC.k763 hC.rS ?_
        refine wp_iload dX0_steams_25 rfl ?_
        refine wp_bipush dX0_steams_27 (-9) rfl ?_
        refine wp_bipush dX0_steams_29 9 rfl ?_
        refine wp_aload_n dX0_steams_31 rfl ?_
        refine wp_getR dX0_steams_32 gfa_X0_171_5 rfl (hL.kE (by omega)) (hL.rH (by omega)) ?_
        refine wp_iload dX0_steams_35 rfl ?_
        refine wp_iload_n dX0_steams_37 rfl ?_
        refine wp_iadd dX0_steams_38 ?_
        refine wp_top (y := nI (h + t)) (nI_add h t) ?_
        refine wp_bipush dX0_steams_39 8 rfl ?_
        refine wp_irem dX0_steams_41 (by decide) ?_
        refine wp_top (y := nI ((h + t) % 8)) (pk_rem (a := h + t) (d := 8) (by omega) (by omega) (by omega)) ?_
        refine wp_iald dX0_steams_42 (hL.kH (by omega)) ((h + t) % 8) rfl (by omega) (by omega) ?_
        rw [LG_h _ (by omega) hk, eG]
        refine wp_iload_n dX0_steams_43 rfl ?_
        refine wp_iadd dX0_steams_44 ?_
        refine wp_cI (gcS dX0_steams_45 gsa_X0_1 (ct_min _ _) rfl rfl (by omega) (by omega) (by omega) (Nat.le_of_ble_eq_true rfl) rfl) ?_
        refine wp_cI (gcS dX0_steams_48 gsa_X0_7 (ct_max _ _) rfl rfl (by omega) (by omega) (by omega) (Nat.le_of_ble_eq_true rfl) rfl) ?_
        refine wp_iast dX0_steams_51 hC.k764 h rfl (by omega) (by omega) ?_
        refine wp_iinc dX0_steams_52 rfl rfl (nI (h + 1)) (nI_add h 1) ?_
        refine wp_goto dX0_steams_55 11 (by decide) ?_
        refine ih (h + 1) _ (by omega) (hf.setI (Or.inr rfl)) (by rw [stI_setI, if_neg (by omega)]; exact hw) (fun h' hh' => ?_)
        rw [stI_setI]
        by_cases e : h' = h
        · subst e; rw [if_pos ⟨rfl, rfl⟩]; rfl
        · rw [if_neg (by omega)]; exact hH h' (by omega)
  refine wp_aload_n dX0_steams_0 rfl ?_
  refine wp_getR dX0_steams_1 gfa_X0_86_0 rfl hC.k0 hC.r17 ?_
  refine wp_aload_n dX0_steams_4 rfl ?_
  refine wp_cV (gcV dX0_steams_5 gva_X0_294_5 (ct_takesP hC.sd (hL.pc (by omega))) hC.k763 rfl rfl (by omega) (by omega) (by omega) (Nat.le_of_ble_eq_true rfl) rfl) ?_
  refine wp_iconst dX0_steams_8 0 rfl ?_
  refine wp_istore dX0_steams_9 rfl ?_
  skip
  have hf0 : Fr (sdW b) b σ (setI (setI (cpI σ (b + 764) (b + 2 + 6 + 4 * k) 8) (b + 763) 1 (stI σ (b + 2 + 5 + 4 * k) 1)) (b + 763) 2 (stI σ (b + 2 + 5 + 4 * k) 2)) := by
    refine Fr.setI (Fr.setI (⟨⟨fun _ => rfl, fun _ _ _ => rfl, rfl⟩, fun c hc j => ?_⟩) (Or.inl rfl)) (Or.inl rfl)
    rw [stI_cpI, if_neg (fun h => hc (Or.inr h.1))]
  refine loop 8 0 _ (by omega) hf0 ?_ (fun h' hh' => absurd hh' (by omega))
  rw [stI_setI, if_neg (by omega), stI_setI, if_pos ⟨rfl, rfl⟩, LG_e1 hk]
end
