set_option maxRecDepth 100000
/-- a person at p, its towns at h -/
def PsOK (p h : Nat) (σ : St) : Prop := stK σ p = some (4, 0) ∧ stR σ p 0 = some h ∧ stK σ h = some (100, 144)
theorem LK.ps {b a i : Nat} {σ : St} (h : LK b a σ) (hi : i < 12) : PsOK (a + 3 + 4 * i) (a + 4 + 4 * i) σ := ⟨h.kP hi, h.rT hi, h.kT hi⟩
/-- a person's numbers, from q to p, of its towns the first d -/
def cpP (σ : St) (p h q qh d : Nat) : St := (σ.1, (fun c k => if c = p ∧ (1 ≤ k ∧ k ≤ 9) then σ.2.1 q k else if c = h ∧ k < d then σ.2.1 qh k else σ.2.1 c k), σ.2.2.1, σ.2.2.2)
theorem stI_cpP (σ : St) (p h q qh d c k : Nat) : stI (cpP σ p h q qh d) c k = if c = p ∧ (1 ≤ k ∧ k ≤ 9) then stI σ q k else if c = h ∧ k < d then stI σ qh k else stI σ c k := rfl
theorem St_ext {σ τ : St} (h1 : ∀ c, stK σ c = stK τ c) (h2 : ∀ c k, stI σ c k = stI τ c k) (h3 : ∀ c k, stR σ c k = stR τ c k) (h4 : stN σ = stN τ) : σ = τ := by
  obtain ⟨a, b, c, d⟩ := σ
  obtain ⟨a', b', c', d'⟩ := τ
  have e1 : a = a' := funext h1
  have e2 : b = b' := funext fun x => funext (h2 x)
  have e3 : c = c' := funext fun x => funext (h3 x)
  have e4 : d = d' := h4
  rw [e1, e2, e3, e4]
theorem fitBo {q k : Nat} (ht : gTy q k = .boolean) {x : Int32} (h : x = 0 ∨ x = 1) : fitF q k (.int x) := by
  unfold fitF
  rw [ht]
  rcases h with rfl | rfl <;> exact ⟨rfl, rfl⟩
section
variable {Γ : Gm} {σ : St} {b a hi : Nat} {Lw : Lws}
theorem ct_takesPs {p h q qh d : Nat} (hp : PsOK p h σ) (hq : PsOK q qh σ) (hd : stI σ q 7 = nI d) (hd2 : d ≤ 144) (hpq : p ≠ q) (h8 : stI σ q 8 = 0 ∨ stI σ q 8 = 1) (h9 : stI σ q 9 = 0 ∨ stI σ q 9 = 1) : Ct Γ 0 0 0 m_X4_takes [.ref p, .ref q] σ (fun v τ => v = none ∧ τ = cpP σ p h q qh d) := by
  refine Ct.ofWP pf_X4_takes rfl rfl ?_
  have n1 : q ≠ h := K_ne hq.1 hp.2.2 (by decide)
  have n2 : p ≠ h := K_ne hp.1 hp.2.2 (by decide)
  have rd : ∀ (k : Nat) (τ : St), (∀ c j, c ≠ p → stI τ c j = stI (cpI σ h qh d) c j) → stI τ q k = stI σ q k := fun k τ ht => by rw [ht q k (Ne.symm hpq), stI_cpI, if_neg (fun r => n1 r.1)]
  have ot : ∀ (τ : St) (k : Nat) (x : Int32), (∀ c j, c ≠ p → stI τ c j = stI (cpI σ h qh d) c j) → ∀ c j, c ≠ p → stI (setI τ p k x) c j = stI (cpI σ h qh d) c j := fun τ k x ht c j hc => by rw [stI_setI, if_neg (fun r => hc r.1)]; exact ht c j hc
  have o0 : ∀ c j, c ≠ p → stI (cpI σ h qh d) c j = stI (cpI σ h qh d) c j := fun _ _ _ => rfl
  have loop : ∀ Q : Option Value → St → Prop, Q none (cpP σ p h q qh d) → ∀ n k, k ≤ d → d - k < n → WP Γ m_X4_takes 0 0 0 2 [some (.ref p), some (.ref q), some (.int (nI k))] [] (cpI σ h qh k) Q := by
    intro Q hQ n
    induction n with
    | zero => intro k h1 h2; omega
    | succ n ih =>
      intro k h1 h2
      refine wp_iload_n dX4_takes_2 rfl ?_
      refine wp_aload_n dX4_takes_3 rfl ?_
      refine wp_getI dX4_takes_4 gfa_X4_15_4 rfl hq.1 ?_
      rw [stI_cpI, if_neg (fun r => n1 r.1), hd]
      refine wp_icmp_geN dX4_takes_7 28 (by decide) k d rfl rfl (by omega) (by omega) (fun c7 => ?_) (fun c7 => ?_)
      skip
      · obtain rfl : k = d := by omega
        refine wp_aload_n dX4_takes_28 rfl ?_
        refine wp_aload_n dX4_takes_29 rfl ?_
        refine wp_getI dX4_takes_30 gfa_X4_19_4 rfl hq.1 ?_
        rw [rd 1 _ o0]
        refine wp_putI dX4_takes_33 gfa_X4_19_4 (Or.inl rfl) rfl ⟨rfl, rfl⟩ hp.1 ?_
        refine wp_aload_n dX4_takes_36 rfl ?_
        refine wp_aload_n dX4_takes_37 rfl ?_
        refine wp_getI dX4_takes_38 gfa_X4_22_4 rfl hq.1 ?_
        rw [rd 2 _ (ot _ _ _ o0)]
        refine wp_putI dX4_takes_41 gfa_X4_22_4 (Or.inl rfl) rfl ⟨rfl, rfl⟩ hp.1 ?_
        refine wp_aload_n dX4_takes_44 rfl ?_
        refine wp_aload_n dX4_takes_45 rfl ?_
        refine wp_getI dX4_takes_46 gfa_X4_25_4 rfl hq.1 ?_
        rw [rd 3 _ (ot _ _ _ (ot _ _ _ o0))]
        refine wp_putI dX4_takes_49 gfa_X4_25_4 (Or.inl rfl) rfl ⟨rfl, rfl⟩ hp.1 ?_
        refine wp_aload_n dX4_takes_52 rfl ?_
        refine wp_aload_n dX4_takes_53 rfl ?_
        refine wp_getI dX4_takes_54 gfa_X4_28_4 rfl hq.1 ?_
        rw [rd 4 _ (ot _ _ _ (ot _ _ _ (ot _ _ _ o0)))]
        refine wp_putI dX4_takes_57 gfa_X4_28_4 (Or.inl rfl) rfl ⟨rfl, rfl⟩ hp.1 ?_
        refine wp_aload_n dX4_takes_60 rfl ?_
        refine wp_aload_n dX4_takes_61 rfl ?_
        refine wp_getI dX4_takes_62 gfa_X4_31_4 rfl hq.1 ?_
        rw [rd 5 _ (ot _ _ _ (ot _ _ _ (ot _ _ _ (ot _ _ _ o0))))]
        refine wp_putI dX4_takes_65 gfa_X4_31_4 (Or.inl rfl) rfl ⟨rfl, rfl⟩ hp.1 ?_
        refine wp_aload_n dX4_takes_68 rfl ?_
        refine wp_aload_n dX4_takes_69 rfl ?_
        refine wp_getI dX4_takes_70 gfa_X4_34_4 rfl hq.1 ?_
        rw [rd 6 _ (ot _ _ _ (ot _ _ _ (ot _ _ _ (ot _ _ _ (ot _ _ _ o0)))))]
        refine wp_putI dX4_takes_73 gfa_X4_34_4 (Or.inl rfl) rfl ⟨rfl, rfl⟩ hp.1 ?_
        refine wp_aload_n dX4_takes_76 rfl ?_
        refine wp_aload_n dX4_takes_77 rfl ?_
        refine wp_getI dX4_takes_78 gfa_X4_15_4 rfl hq.1 ?_
        rw [rd 7 _ (ot _ _ _ (ot _ _ _ (ot _ _ _ (ot _ _ _ (ot _ _ _ (ot _ _ _ o0))))))]
        refine wp_putI dX4_takes_81 gfa_X4_15_4 (Or.inl rfl) rfl ⟨rfl, rfl⟩ hp.1 ?_
        refine wp_aload_n dX4_takes_84 rfl ?_
        refine wp_aload_n dX4_takes_85 rfl ?_
        refine wp_getI dX4_takes_86 gfa_X4_37_4 rfl hq.1 ?_
        rw [rd 8 _ (ot _ _ _ (ot _ _ _ (ot _ _ _ (ot _ _ _ (ot _ _ _ (ot _ _ _ (ot _ _ _ o0)))))))]
        refine wp_putI dX4_takes_89 gfa_X4_37_4 (Or.inl rfl) rfl (fitBo rfl h8) hp.1 ?_
        refine wp_aload_n dX4_takes_92 rfl ?_
        refine wp_aload_n dX4_takes_93 rfl ?_
        refine wp_getI dX4_takes_94 gfa_X4_41_4 rfl hq.1 ?_
        rw [rd 9 _ (ot _ _ _ (ot _ _ _ (ot _ _ _ (ot _ _ _ (ot _ _ _ (ot _ _ _ (ot _ _ _ (ot _ _ _ o0))))))))]
        refine wp_putI dX4_takes_97 gfa_X4_41_4 (Or.inl rfl) rfl (fitBo rfl h9) hp.1 ?_
        refine wp_vret dX4_takes_100 rfl ?_
        refine Eq.mp ?_ hQ
        congr 1
        refine St_ext (fun _ => rfl) (fun c j => ?_) (fun _ _ => rfl) rfl
        simp only [stI_setI, stI_cpI, stI_cpP]
        by_cases hc : c = p
        · subst hc
          have hj : j < 1 ∨ j = 1 ∨ j = 2 ∨ j = 3 ∨ j = 4 ∨ j = 5 ∨ j = 6 ∨ j = 7 ∨ j = 8 ∨ j = 9 ∨ 9 < j := by omega
          rcases hj with hj | rfl | rfl | rfl | rfl | rfl | rfl | rfl | rfl | rfl | hj <;> simp [n2]
          · rw [if_neg (by omega)]; simp [show j = 0 by omega]
          · rw [if_neg (by omega)]; simp [show j ≠ 1 by omega, show j ≠ 2 by omega, show j ≠ 3 by omega, show j ≠ 4 by omega, show j ≠ 5 by omega, show j ≠ 6 by omega, show j ≠ 7 by omega, show j ≠ 8 by omega, show j ≠ 9 by omega]
        · simp [hc]
      · skip
        refine wp_aload_n dX4_takes_10 rfl ?_
        refine wp_getR dX4_takes_11 gfa_X4_9_4 rfl hp.1 hp.2.1 ?_
        refine wp_iload_n dX4_takes_14 rfl ?_
        refine wp_aload_n dX4_takes_15 rfl ?_
        refine wp_getR dX4_takes_16 gfa_X4_9_4 rfl hq.1 hq.2.1 ?_
        refine wp_iload_n dX4_takes_19 rfl ?_
        refine wp_iald dX4_takes_20 hq.2.2 k rfl (by omega) (by omega) ?_
        refine wp_iast dX4_takes_21 hp.2.2 k rfl (by omega) (by omega) ?_
        refine wp_iinc dX4_takes_22 rfl rfl (nI (k + 1)) (nI_add k 1) ?_
        refine wp_goto dX4_takes_25 2 (by decide) ?_
        rw [← cpI_succ]
        exact ih (k + 1) (by omega) (by omega)
  refine wp_iconst dX4_takes_0 0 rfl ?_
  refine wp_istore_n dX4_takes_1 rfl ?_
  refine WP.castS (cpI_0 σ h qh).symm ?_
  exact loop _ ⟨rfl, rfl⟩ (d + 1) 0 (by omega) (by omega)
end
