set_option maxRecDepth 100000
def bW (b : Nat) : Nat → Prop := fun c => c = b + 1 ∨ (b + 161 ≤ c ∧ c < b + 187)
def GA (b : Nat) (g : Nat → Nat → Int32) (i j : Nat) (ρ : St) : Prop := ∀ i' j', i' < 12 → j' < 12 → (i' < i ∨ i' = i ∧ j' < j) → stI ρ (b + 175 + i') j' = g i' j'
def BA (b : Nat) (g : Nat → Nat → Int32) (A m : Nat) (ρ : St) : Prop := ∀ i, m ≤ i → i ≤ 12 → ∀ s, subN s A → stI ρ (b + 161 + i) s = bstP g (12 - i) s.testBit
def BR (b : Nat) (g : Nat → Nat → Int32) (A i s : Nat) (ρ : St) : Prop := ∀ s', s' < s → subN s' A → stI ρ (b + 161 + i) s' = bstP g (12 - i) s'.testBit
section
variable {Γ : Gm} {σ : St} {b hi : Nat} {Lw : Lws}
theorem bW_law : ∀ c, bW b c → c < b + 156 ∨ (b + 160 ≤ c ∧ c < b + 794) := fun c h => by unfold bW at h; omega
theorem LGB {τ : St} (hf : Fr (bW b) b σ τ) : LG τ (b + 2) = LG σ (b + 2) := LG_fr hf (fun c h => by unfold bW at h; omega)
theorem ct_gainBy {i j s A : Nat} {g : Nat → Nat → Int32} (hi' : i < 12) (hj : j ≤ 12) (hA : A < 4096) (hs : subN s A) (hC : CK b σ) (hG : GA b g 12 0 σ) (hB : BA b g A (i + 1) σ) : Ct Γ 0 0 0 m_X0_gainBy [.ref b, .int (nI i), .int (nI j), .int (nI s)] σ (fun r τ => r = some (.int (if j = 12 then bstP g (11 - i) s.testBit else g i j + bstP g (11 - i) (lessP s.testBit j))) ∧ τ = σ) := by
  refine Ct.ofWP pf_X0_gainBy rfl rfl ?_
  have hs1 := subN_le hs
  have e11 : 12 - (i + 1) = 11 - i := by omega
  by_cases hj' : j = 12
  · rw [if_pos hj']
    refine wp_iload_n dX0_gainBy_0 rfl ?_
    refine wp_bipush dX0_gainBy_1 12 rfl ?_
    refine wp_icmp_neN dX0_gainBy_3 19 (by decide) j 12 rfl rfl (by omega) (by omega) (fun c3 => ?_) (fun c3 => ?_)
    · exact absurd hj' c3
    · refine wp_aload_n dX0_gainBy_6 rfl ?_
      refine wp_getR dX0_gainBy_7 gfa_X0_56_0 rfl hC.k0 hC.r8 ?_
      refine wp_iload_n dX0_gainBy_10 rfl ?_
      refine wp_iconst dX0_gainBy_11 1 rfl ?_
      refine wp_iadd dX0_gainBy_12 ?_
      refine wp_top (y := nI (i + 1)) (nI_add i 1) ?_
      refine wp_aald dX0_gainBy_13 hC.k160 rfl (i + 1) rfl (by omega) (by omega) (hC.rB (by omega)) ?_
      refine wp_iload_n dX0_gainBy_14 rfl ?_
      refine wp_iald dX0_gainBy_15 (hC.kB (by omega)) s rfl (by omega) (by omega) ?_
      rw [hB (i + 1) (by omega) (by omega) s hs, e11]
      refine wp_goto dX0_gainBy_16 44 (by decide) ?_
      refine wp_iret dX0_gainBy_44 rfl ?_
      first | exact ⟨rfl, rfl⟩ | exact absurd hj' c3
  · rw [if_neg hj']
    have hc := clrN_sub (s := s) (j := j) (by omega) (by omega)
    have hc1 := subN_le hc
    refine wp_iload_n dX0_gainBy_0 rfl ?_
    refine wp_bipush dX0_gainBy_1 12 rfl ?_
    refine wp_icmp_neN dX0_gainBy_3 19 (by decide) j 12 rfl rfl (by omega) (by omega) (fun c3 => ?_) (fun c3 => ?_)
    · refine wp_aload_n dX0_gainBy_19 rfl ?_
      refine wp_getR dX0_gainBy_20 gfa_X0_59_0 rfl hC.k0 hC.r9 ?_
      refine wp_iload_n dX0_gainBy_23 rfl ?_
      refine wp_aald dX0_gainBy_24 hC.k174 rfl i rfl (by omega) (by omega) (hC.rG (by omega)) ?_
      refine wp_iload_n dX0_gainBy_25 rfl ?_
      refine wp_iald dX0_gainBy_26 (hC.kG (by omega)) j rfl (by omega) (by omega) ?_
      rw [hG i j hi' (by omega) (Or.inl hi')]
      refine wp_aload_n dX0_gainBy_27 rfl ?_
      refine wp_getR dX0_gainBy_28 gfa_X0_56_0 rfl hC.k0 hC.r8 ?_
      refine wp_iload_n dX0_gainBy_31 rfl ?_
      refine wp_iconst dX0_gainBy_32 1 rfl ?_
      refine wp_iadd dX0_gainBy_33 ?_
      refine wp_top (y := nI (i + 1)) (nI_add i 1) ?_
      refine wp_aald dX0_gainBy_34 hC.k160 rfl (i + 1) rfl (by omega) (by omega) (hC.rB (by omega)) ?_
      refine wp_iload_n dX0_gainBy_35 rfl ?_
      refine wp_iconst dX0_gainBy_36 1 rfl ?_
      refine wp_iload_n dX0_gainBy_37 rfl ?_
      refine wp_ishl dX0_gainBy_38 ?_
      refine wp_iconst dX0_gainBy_39 (-1) rfl ?_
      refine wp_ixor dX0_gainBy_40 ?_
      refine wp_iand dX0_gainBy_41 ?_
      refine wp_iald dX0_gainBy_42 (hC.kB (by omega)) (clrN s j) (clrN_nI s j).symm (by omega) (by omega) ?_
      rw [hB (i + 1) (by omega) (by omega) _ (subN_trans hc hs), e11, clrN_fn (by omega) (by omega)]
      refine wp_iadd dX0_gainBy_43 ?_
      refine wp_iret dX0_gainBy_44 rfl ?_
      exact ⟨rfl, rfl⟩
    · exact absurd c3 hj'
end
