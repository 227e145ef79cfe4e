set_option maxRecDepth 100000
def cutOk (n w t : Int32) : Bool := (wiB n 1 5 && (inB w 2 || inB (w - 10) 12)) && decide (2 * n ≤ t)
def ruleA (T : Nat → Int32) (G : Gd) (n r : Nat) : Pk := folN (fun r s => pick (fitsAllB T G r n) r s) (0, none) r
def cutK (G : Gd) (i : Nat) : Option Nat → Int32
  | none => -2
  | some r => if fstN (madeB G r i) 12 0 = 12 then -2 else nI (fstN (madeB G r i) 12 0)
def cutterV (T : Nat → Int32) (G : Gd) (n w t : Int32) : Int32 := if cutOk n w t = true then (if allB (prOk T) (ix n) = true then (if w < 2 then (if w = 0 then (ruleA T G (ix n) 112).1 else oneV nI (ruleA T G (ix n) 112).2) else cutK G (ix (w - 10)) (ruleA T G (ix n) 112).2) else -3) else -1
theorem prOk_t {T : Nat → Int32} {k : Nat} (h : prOk T k = true) : ∃ p q, p < 12 ∧ q < 12 ∧ T (2 * k) = nI p ∧ T (2 * k + 1) = nI q := by
  rw [prOk, Bool.and_eq_true, Bool.and_eq_true] at h
  obtain ⟨p, hp, e1⟩ := inB_12 h.1.1
  obtain ⟨q, hq, e2⟩ := inB_12 h.1.2
  exact ⟨p, q, hp, hq, e1, e2⟩
section
variable {Γ : Gm} {σ : St} {b hi : Nat} {Lw : Lws}
theorem ct_fitsAll {r n : Nat} {T : Nat → Int32} (hr : r < 112) (hn : n ≤ 5) (hC : CK b σ) (hT : ∀ i, stI σ (b + 155) i = T i) (hp : ∀ k, k < n → prOk T k = true) : Ct Γ 1 0 0 m_X0_fitsAll [.ref b, .int (nI r), .int (nI n)] σ (fun v τ => v = some (.int (bI (fitsAllB T (LG σ (b + 2)) r n))) ∧ τ = σ) := by
  refine Ct.ofWP pf_X0_fitsAll rfl rfl ?_
  have loop : ∀ f k, k + f = n → allB (fitsP T (LG σ (b + 2)) r) k = true → WP Γ m_X0_fitsAll 1 0 0 2 [some (.ref b), some (.int (nI r)), some (.int (nI n)), some (.int (nI k))] [] σ (fun v τ => v = some (.int (bI (fitsAllB T (LG σ (b + 2)) r n))) ∧ τ = σ) := by
    intro f
    induction f with
    | zero =>
      intro k hk ha
      obtain rfl : k = n := by omega
      refine wp_iload_n dX0_fitsAll_2 rfl ?_
      refine wp_iload_n dX0_fitsAll_3 rfl ?_
      refine wp_icmp_geN dX0_fitsAll_4 57 (by decide) k k rfl rfl (by omega) (by omega) (fun c4 => ?_) (fun c4 => ?_)
      · refine wp_iconst dX0_fitsAll_57 1 rfl ?_
        refine wp_zret dX0_fitsAll_58 rfl (Or.inr rfl) ?_
        exact ⟨by rw [fitsAllB, ha]; rfl, rfl⟩
      · omega
    | succ f ih =>
      intro k hk ha
      obtain ⟨p, q, hp', hq', e1, e2⟩ := prOk_t (hp k (by omega))
      have hf : fitsP T (LG σ (b + 2)) r k = madeB (LG σ (b + 2)) r p q := by rw [fitsP, e1, e2, ix_nI (by omega), ix_nI (by omega)]
      refine wp_iload_n dX0_fitsAll_2 rfl ?_
      refine wp_iload_n dX0_fitsAll_3 rfl ?_
      refine wp_icmp_geN dX0_fitsAll_4 57 (by decide) k n rfl rfl (by omega) (by omega) (fun c4 => ?_) (fun c4 => ?_)
      · omega
      · refine wp_aload_n dX0_fitsAll_7 rfl ?_
        refine wp_iload_n dX0_fitsAll_8 rfl ?_
        refine wp_aload_n dX0_fitsAll_9 rfl ?_
        refine wp_getR dX0_fitsAll_10 gfa_X0_33_0 rfl hC.k0 hC.r1 ?_
        refine wp_getR dX0_fitsAll_13 gfa_X0_117_3 rfl hC.l0.k0 hC.l0.r1 ?_
        refine wp_aload_n dX0_fitsAll_16 rfl ?_
        refine wp_getR dX0_fitsAll_17 gfa_X0_43_0 rfl hC.k0 hC.r4 ?_
        refine wp_iconst dX0_fitsAll_20 2 rfl ?_
        refine wp_iload_n dX0_fitsAll_21 rfl ?_
        refine wp_imul dX0_fitsAll_22 ?_
        refine wp_top (y := nI (2 * k)) (pk_mul 2 k) ?_
        refine wp_bald dX0_fitsAll_23 hC.k155 (2 * k) rfl (by omega) (by omega) ?_
        rw [hT, e1]
        refine wp_aald dX0_fitsAll_24 hC.l0.k2 rfl p rfl (by omega) (by omega) (hC.l0.rE (by omega)) ?_
        refine wp_aload_n dX0_fitsAll_25 rfl ?_
        refine wp_getR dX0_fitsAll_26 gfa_X0_33_0 rfl hC.k0 hC.r1 ?_
        refine wp_getR dX0_fitsAll_29 gfa_X0_117_3 rfl hC.l0.k0 hC.l0.r1 ?_
        refine wp_aload_n dX0_fitsAll_32 rfl ?_
        refine wp_getR dX0_fitsAll_33 gfa_X0_43_0 rfl hC.k0 hC.r4 ?_
        refine wp_iconst dX0_fitsAll_36 2 rfl ?_
        refine wp_iload_n dX0_fitsAll_37 rfl ?_
        refine wp_imul dX0_fitsAll_38 ?_
        refine wp_top (y := nI (2 * k)) (pk_mul 2 k) ?_
        refine wp_iconst dX0_fitsAll_39 1 rfl ?_
        refine wp_iadd dX0_fitsAll_40 ?_
        refine wp_top (y := nI (2 * k + 1)) (nI_add (2 * k) 1) ?_
        refine wp_bald dX0_fitsAll_41 hC.k155 (2 * k + 1) rfl (by omega) (by omega) ?_
        rw [hT, e2]
        refine wp_aald dX0_fitsAll_42 hC.l0.k2 rfl q rfl (by omega) (by omega) (hC.l0.rE (by omega)) ?_
        refine wp_cI (gcV dX0_fitsAll_43 gva_X0_314_0 (ct_isMade hr hp' hq' hC) hC.k0 rfl rfl (by omega) (by omega) (by omega) (Nat.le_of_ble_eq_true rfl) rfl) ?_
        refine wp_if_ne dX0_fitsAll_46 51 (by decide) (fun c46 => ?_) (fun c46 => ?_)
        · refine wp_iinc dX0_fitsAll_51 rfl rfl (nI (k + 1)) (nI_add k 1) ?_
          refine wp_goto dX0_fitsAll_54 2 (by decide) ?_
          refine ih (k + 1) (by omega) ?_
          rw [allB, ha, hf, bI_1.mp c46]
          rfl
        · refine wp_iconst dX0_fitsAll_49 0 rfl ?_
          refine wp_zret dX0_fitsAll_50 rfl (Or.inl rfl) ?_
          exact ⟨by rw [fitsAllB, allB_f (h := k) (by rw [hf, bI_0.mp c46]) n (by omega)]; rfl, rfl⟩
  refine wp_iconst dX0_fitsAll_0 0 rfl ?_
  refine wp_istore_n dX0_fitsAll_1 rfl ?_
  exact loop n 0 (by omega) rfl
end
