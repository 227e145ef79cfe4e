set_option maxRecDepth 100000
abbrev Sro : Type := (Nat → Int32) × Int32
def srF (T : Nat → Int32) (n : Nat) : Nat → (Nat → Nat) → Int32 → Int32 → Int32 → Sro → Sro
  | 0, O, _, _, sum, s => if sum < s.2 then ((fun t => if t < n then nI (O t) else s.1 t), sum) else s
  | m + 1, O, u, days, sum, s => folN (fun t s => if hasB u (nI t) = true then s else srF T n m (updF O (n - (m + 1)) t) (u ||| 1 <<< (nI t &&& 31)) (days + T (n + n * O (n - (m + 1) - 1) + t)) (sum + (days + T (n + n * O (n - (m + 1) - 1) + t)) * T t) s) s n
def srW (b : Nat) : Nat → Prop := fun c => c = b ∨ (c = b + 202 ∨ c = b + 203)
def OA (b n k : Nat) (O : Nat → Nat) (ρ : St) : Prop := ∀ i, i < k → stI ρ (b + 202) i = nI (O i) ∧ O i < n
def SrA (b : Nat) (s : Sro) (ρ : St) : Prop := stI ρ b 15 = s.2 ∧ ∀ i, i < 6 → stI ρ (b + 203) i = s.1 i
def SrK (b k : Nat) (σ τ : St) : Prop := Fr (srW b) b σ τ ∧ ((∀ j, j ≠ 15 → stI τ b j = stI σ b j) ∧ ∀ i, i < k → stI τ (b + 202) i = stI σ (b + 202) i)
section
variable {Γ : Gm} {b hi : Nat} {Lw : Lws}
theorem SrK.rf {σ : St} {k : Nat} : SrK b k σ σ := ⟨Fr.rf, fun _ _ => rfl, fun _ _ => rfl⟩
theorem SrK.trans {σ τ ρ : St} {k : Nat} (h : SrK b k σ τ) (h' : SrK b k τ ρ) : SrK b k σ ρ := ⟨h.1.trans h'.1, fun j hj => (h'.2.1 j hj).trans (h.2.1 j hj), fun i hi => (h'.2.2 i hi).trans (h.2.2 i hi)⟩
theorem SrK.le {σ τ : St} {k k' : Nat} (h : SrK b k σ τ) (hk : k' ≤ k) : SrK b k' σ τ := ⟨h.1, h.2.1, fun i hi => h.2.2 i (by omega)⟩
theorem SrK.setB {σ τ : St} {k i : Nat} {x : Int32} (h : SrK b k σ τ) : SrK b k σ (setI τ (b + 203) i x) := ⟨h.1.setI (Or.inr (Or.inr rfl)), fun j hj => by rw [stI_setI, if_neg (by omega)]; exact h.2.1 j hj, fun i hi => by rw [stI_setI, if_neg (by omega)]; exact h.2.2 i hi⟩
theorem SrK.setL {σ τ : St} {k : Nat} {x : Int32} (h : SrK b k σ τ) : SrK b k σ (setI τ b 15 x) := ⟨h.1.setI (Or.inl rfl), fun j hj => by rw [stI_setI, if_neg (by omega)]; exact h.2.1 j hj, fun i hi => by rw [stI_setI, if_neg (by omega)]; exact h.2.2 i hi⟩
theorem SrK.setO {σ τ : St} {k i : Nat} {x : Int32} (h : SrK b k σ τ) (hi : k ≤ i) : SrK b k σ (setI τ (b + 202) i x) := ⟨h.1.setI (Or.inr (Or.inl rfl)), fun j hj => by rw [stI_setI, if_neg (by omega)]; exact h.2.1 j hj, fun j hj => by rw [stI_setI, if_neg (by omega)]; exact h.2.2 j hj⟩
theorem ct_searches {T : Nat → Int32} {n : Nat} (hn2 : 2 ≤ n) (hn : n ≤ 6) : ∀ m k (O : Nat → Nat) (u days sum : Int32) (s : Sro) (σ : St), k + m = n → 1 ≤ k → CK b σ → (∀ i, stI σ (b + 155) i = T i) → OA b n k O σ → SrA b s σ → Ct Γ (m + 1) 0 0 m_X0_searches [.ref b, .int (nI n), .int (nI k), .int u, .int days, .int sum] σ (fun r τ => r = none ∧ (SrK b k σ τ ∧ SrA b (srF T n m O u days sum s) τ)) := by
  intro m
  induction m with
  | zero =>
    intro k O u days sum s σ hk hk1 hC hT hO hA
    obtain rfl : k = n := by omega
    refine Ct.ofWP pf_X0_searches rfl rfl ?_
    have loop : sum < s.2 → ∀ f t ρ, t + f = k → SrK b k σ ρ → stI ρ b 15 = sum → (∀ i, i < 6 → stI ρ (b + 203) i = if i < t then nI (O i) else s.1 i) → WP Γ m_X0_searches 1 0 0 24 [some (.ref b), some (.int (nI k)), some (.int (nI k)), some (.int u), some (.int days), some (.int sum), some (.int (nI t)), none] [] ρ (fun r τ => r = none ∧ (SrK b k σ τ ∧ SrA b (srF T k 0 O u days sum s) τ)) := by
      intro hs f
      induction f with
      | zero =>
        intro t ρ ht hK hl hB
        obtain rfl : t = k := by omega
        refine wp_iload dX0_searches_24 rfl ?_
        refine wp_iload_n dX0_searches_26 rfl ?_
        refine wp_icmp_geN dX0_searches_27 50 (by decide) t t rfl rfl (by omega) (by omega) (fun c27 => ?_) (fun c27 => ?_)
        · refine wp_vret dX0_searches_50 rfl ?_
          refine ⟨rfl, hK, ?_⟩
          rw [srF, if_pos hs]
          exact ⟨hl, hB⟩
        · omega
      | succ f ih =>
        intro t ρ ht hK hl hB
        have hC := hC.kr hK.1.1
        refine wp_iload dX0_searches_24 rfl ?_
        refine wp_iload_n dX0_searches_26 rfl ?_
        refine wp_icmp_geN dX0_searches_27 50 (by decide) t k rfl rfl (by omega) (by omega) (fun c27 => ?_) (fun c27 => ?_)
        · omega
        · refine wp_aload_n dX0_searches_30 rfl ?_
          refine wp_getR dX0_searches_31 gfa_X0_75_0 rfl hC.k0 hC.r14 ?_
          refine wp_iload dX0_searches_34 rfl ?_
          refine wp_aload_n dX0_searches_36 rfl ?_
          refine wp_getR dX0_searches_37 gfa_X0_72_0 rfl hC.k0 hC.r13 ?_
          refine wp_iload dX0_searches_40 rfl ?_
          refine wp_iald dX0_searches_42 hC.k202 t rfl (by omega) (by omega) ?_
          rw [hK.2.2 t (by omega), (hO t (by omega)).1]
          refine wp_iast dX0_searches_43 hC.k203 t rfl (by omega) (by omega) ?_
          refine wp_iinc dX0_searches_44 rfl rfl (nI (t + 1)) (nI_add t 1) ?_
          refine wp_goto dX0_searches_47 24 (by decide) ?_
          refine ih (t + 1) _ (by omega) hK.setB (by rw [stI_setI, if_neg (by omega)]; exact hl) (fun i hi' => ?_)
          rw [stI_setI]
          by_cases e : i = t
          · subst e; rw [if_pos ⟨rfl, rfl⟩, if_pos (by omega)]
          · rw [if_neg (by omega), hB i hi']
            by_cases e2 : i < t
            · rw [if_pos e2, if_pos (by omega)]
            · rw [if_neg e2, if_neg (by omega)]
    refine wp_iload_n dX0_searches_0 rfl ?_
    refine wp_iload_n dX0_searches_1 rfl ?_
    refine wp_icmp_neN dX0_searches_2 51 (by decide) k k rfl rfl (by omega) (by omega) (fun c2 => ?_) (fun c2 => ?_)
    · exact absurd rfl c2
    · refine wp_iload dX0_searches_5 rfl ?_
      refine wp_aload_n dX0_searches_7 rfl ?_
      refine wp_getI dX0_searches_8 gfa_X0_268_0 rfl hC.k0 ?_
      rw [hA.1]
      refine wp_icmp_lt dX0_searches_11 15 (by decide) (fun c11 => ?_) (fun c11 => ?_)
      · refine wp_aload_n dX0_searches_15 rfl ?_
        refine wp_iload dX0_searches_16 rfl ?_
        refine wp_putI dX0_searches_18 gfa_X0_268_0 (Or.inl rfl) rfl ⟨rfl, rfl⟩ hC.k0 ?_
        refine wp_iconst dX0_searches_21 0 rfl ?_
        refine wp_istore dX0_searches_22 rfl ?_
        refine loop c11 k 0 _ (by omega) SrK.rf.setL (by rw [stI_setI, if_pos ⟨rfl, rfl⟩]) (fun i hi' => ?_)
        rw [stI_setI, if_neg (by omega), if_neg (by omega)]
        exact hA.2 i hi'
      · refine wp_vret dX0_searches_14 rfl ?_
        refine ⟨rfl, SrK.rf, ?_⟩
        rw [srF, if_neg (Int32.not_lt.mpr (Int32.not_lt.mp c11))]
        exact hA
  | succ m IH =>
    intro k O u days sum s σ hk hk1 hC hT hO hA
    have ek : n - (m + 1) = k := by omega
    have hOk := (hO (k - 1) (by omega)).2
    have hnm : n * O (k - 1) ≤ 6 * 5 := Nat.mul_le_mul hn (by omega)
    rw [srF, ek]
    refine Ct.ofWP pf_X0_searches rfl rfl ?_
    have hC0 := hC
    have loop : ∀ f t ρ o7, t + f = n → SrK b k σ ρ → SrA b (folN (fun t s => if hasB u (nI t) = true then s else srF T n m (updF O k t) (u ||| 1 <<< (nI t &&& 31)) (days + T (n + n * O (k - 1) + t)) (sum + (days + T (n + n * O (k - 1) + t)) * T t) s) s t) ρ → WP Γ m_X0_searches (m + 1 + 1) 0 0 54 [some (.ref b), some (.int (nI n)), some (.int (nI k)), some (.int u), some (.int days), some (.int sum), some (.int (nI t)), o7] [] ρ (fun r τ => r = none ∧ (SrK b k σ τ ∧ SrA b (folN (fun t s => if hasB u (nI t) = true then s else srF T n m (updF O k t) (u ||| 1 <<< (nI t &&& 31)) (days + T (n + n * O (k - 1) + t)) (sum + (days + T (n + n * O (k - 1) + t)) * T t) s) s n) τ)) := by
      intro f
      induction f with
      | zero =>
        intro t ρ o7 ht hK hA
        obtain rfl : t = n := by omega
        refine wp_iload dX0_searches_54 rfl ?_
        refine wp_iload_n dX0_searches_56 rfl ?_
        refine wp_icmp_geN dX0_searches_57 140 (by decide) t t rfl rfl (by omega) (by omega) (fun c57 => ?_) (fun c57 => ?_)
        · refine wp_vret dX0_searches_140 rfl ?_
          exact ⟨rfl, hK, hA⟩
        · omega
      | succ f ih =>
        intro t ρ o7 ht hK hA
        have hC := hC.kr hK.1.1
        have hT1 : ∀ i, stI ρ (b + 155) i = T i := fun i => by rw [hK.1.2 _ (by unfold srW; omega)]; exact hT i
        have st : folN (fun t s => if hasB u (nI t) = true then s else srF T n m (updF O k t) (u ||| 1 <<< (nI t &&& 31)) (days + T (n + n * O (k - 1) + t)) (sum + (days + T (n + n * O (k - 1) + t)) * T t) s) s (t + 1) = (fun t s => if hasB u (nI t) = true then s else srF T n m (updF O k t) (u ||| 1 <<< (nI t &&& 31)) (days + T (n + n * O (k - 1) + t)) (sum + (days + T (n + n * O (k - 1) + t)) * T t) s) t (folN (fun t s => if hasB u (nI t) = true then s else srF T n m (updF O k t) (u ||| 1 <<< (nI t &&& 31)) (days + T (n + n * O (k - 1) + t)) (sum + (days + T (n + n * O (k - 1) + t)) * T t) s) s t) := rfl
        have hK1 : SrK b k σ (setI ρ (b + 202) k (nI t)) := hK.setO (Nat.le_refl k)
        have hT2 : ∀ i, stI (setI ρ (b + 202) k (nI t)) (b + 155) i = T i := fun i => by rw [stI_setI, if_neg (by omega)]; exact hT1 i
        have hO2 : OA b n (k + 1) (updF O k t) (setI ρ (b + 202) k (nI t)) := fun i hi' => by
          rw [stI_setI, updF]
          by_cases e : i = k
          · subst e; rw [if_pos ⟨rfl, rfl⟩, if_pos rfl]; exact ⟨rfl, by omega⟩
          · rw [if_neg (by omega), if_neg e, hK.2.2 i (by omega)]; exact hO i (by omega)
        have hA2 : SrA b (folN (fun t s => if hasB u (nI t) = true then s else srF T n m (updF O k t) (u ||| 1 <<< (nI t &&& 31)) (days + T (n + n * O (k - 1) + t)) (sum + (days + T (n + n * O (k - 1) + t)) * T t) s) s t) (setI ρ (b + 202) k (nI t)) := ⟨by rw [stI_setI, if_neg (by omega)]; exact hA.1, fun i hi' => by rw [stI_setI, if_neg (by omega)]; exact hA.2 i hi'⟩
        have hv : stI (setI ρ (b + 202) k (nI t)) (b + 202) (k - 1) = nI (O (k - 1)) := by rw [stI_setI, if_neg (by omega), hK.2.2 (k - 1) (by omega)]; exact (hO (k - 1) (by omega)).1
        refine wp_iload dX0_searches_54 rfl ?_
        refine wp_iload_n dX0_searches_56 rfl ?_
        refine wp_icmp_geN dX0_searches_57 140 (by decide) t n rfl rfl (by omega) (by omega) (fun c57 => ?_) (fun c57 => ?_)
        · omega
        · refine wp_iload_n dX0_searches_60 rfl ?_
          refine wp_iload dX0_searches_61 rfl ?_
          refine wp_cI (gcS dX0_searches_63 gsa_X0_246 (ct_has _ _) rfl rfl (by omega) (by omega) (by omega) (Nat.le_of_ble_eq_true rfl) rfl) ?_
          refine wp_if_eq dX0_searches_66 72 (by decide) (fun c66 => ?_) (fun c66 => ?_)
          · refine wp_aload_n dX0_searches_72 rfl ?_
            refine wp_getR dX0_searches_73 gfa_X0_72_0 rfl hC.k0 hC.r13 ?_
            refine wp_iload_n dX0_searches_76 rfl ?_
            refine wp_iload dX0_searches_77 rfl ?_
            refine wp_iast dX0_searches_79 hC.k202 k rfl (by omega) (by omega) ?_
            have hC := hC0.kr hK1.1.1
            refine wp_iload dX0_searches_80 rfl ?_
            refine wp_aload_n dX0_searches_82 rfl ?_
            refine wp_getR dX0_searches_83 gfa_X0_43_0 rfl hC.k0 hC.r4 ?_
            refine wp_iload_n dX0_searches_86 rfl ?_
            refine wp_iload_n dX0_searches_87 rfl ?_
            refine wp_aload_n dX0_searches_88 rfl ?_
            refine wp_getR dX0_searches_89 gfa_X0_72_0 rfl hC.k0 hC.r13 ?_
            refine wp_iload_n dX0_searches_92 rfl ?_
            refine wp_iconst dX0_searches_93 1 rfl ?_
            refine wp_isub dX0_searches_94 ?_
            refine wp_top (y := nI (k - 1)) (pk_sub (a := k) (b := 1) (by omega)) ?_
            refine wp_iald dX0_searches_95 hC.k202 (k - 1) rfl (by omega) (by omega) ?_
            rw [hv]
            refine wp_imul dX0_searches_96 ?_
            refine wp_iadd dX0_searches_97 ?_
            refine wp_iload dX0_searches_98 rfl ?_
            refine wp_iadd dX0_searches_100 ?_
            refine wp_bald dX0_searches_101 hC.k155 (n + n * O (k - 1) + t) (by rw [pk_mul, nI_add, nI_add]) (by omega) (by omega) ?_
            rw [hT2]
            refine wp_iadd dX0_searches_102 ?_
            refine wp_istore dX0_searches_103 rfl ?_
            refine wp_aload_n dX0_searches_105 rfl ?_
            refine wp_iload_n dX0_searches_106 rfl ?_
            refine wp_iload_n dX0_searches_107 rfl ?_
            refine wp_iconst dX0_searches_108 1 rfl ?_
            refine wp_iadd dX0_searches_109 ?_
            refine wp_top (y := nI (k + 1)) (nI_add k 1) ?_
            refine wp_iload_n dX0_searches_110 rfl ?_
            refine wp_iconst dX0_searches_111 1 rfl ?_
            refine wp_iload dX0_searches_112 rfl ?_
            refine wp_ishl dX0_searches_114 ?_
            refine wp_ior dX0_searches_115 ?_
            refine wp_iload dX0_searches_116 rfl ?_
            refine wp_iload dX0_searches_118 rfl ?_
            refine wp_iload dX0_searches_120 rfl ?_
            refine wp_aload_n dX0_searches_122 rfl ?_
            refine wp_getR dX0_searches_123 gfa_X0_43_0 rfl hC.k0 hC.r4 ?_
            refine wp_iload dX0_searches_126 rfl ?_
            refine wp_bald dX0_searches_128 hC.k155 t rfl (by omega) (by omega) ?_
            rw [hT2]
            refine wp_imul dX0_searches_129 ?_
            refine wp_iadd dX0_searches_130 ?_
            refine wp_cVx (gcV dX0_searches_131 gva_X0_271_0 (IH (k + 1) (updF O k t) _ _ _ _ _ (by omega) (by omega) hC hT2 hO2 hA2) hC.k0 rfl rfl (by omega) (by omega) (by omega) (Nat.le_of_ble_eq_true rfl) rfl) (fun τ hy => ?_)
            obtain ⟨hK3, hA3⟩ := hy
            refine wp_iinc dX0_searches_134 rfl rfl (nI (t + 1)) (nI_add t 1) ?_
            refine wp_goto dX0_searches_137 54 (by decide) ?_
            first | (refine ih (t + 1) _ _ (by omega) hK ?_; rw [st]; show SrA b (if hasB u (nI t) = true then _ else _) _; rw [if_pos (bI_1.mp c66)]; exact hA) | (refine ih (t + 1) _ _ (by omega) (hK1.trans (hK3.le (by omega))) ?_; rw [st]; show SrA b (if hasB u (nI t) = true then _ else _) _; rw [if_neg (by rw [bI_0.mp c66]; decide)]; exact hA3)
          · refine wp_goto dX0_searches_69 134 (by decide) ?_
            refine wp_iinc dX0_searches_134 rfl rfl (nI (t + 1)) (nI_add t 1) ?_
            refine wp_goto dX0_searches_137 54 (by decide) ?_
            first | (refine ih (t + 1) _ _ (by omega) hK ?_; rw [st]; show SrA b (if hasB u (nI t) = true then _ else _) _; rw [if_pos (bI_1.mp c66)]; exact hA) | (refine ih (t + 1) _ _ (by omega) (hK1.trans (hK3.le (by omega))) ?_; rw [st]; show SrA b (if hasB u (nI t) = true then _ else _) _; rw [if_neg (by rw [bI_0.mp c66]; decide)]; exact hA3)
    refine wp_iload_n dX0_searches_0 rfl ?_
    refine wp_iload_n dX0_searches_1 rfl ?_
    refine wp_icmp_neN dX0_searches_2 51 (by decide) k n rfl rfl (by omega) (by omega) (fun c2 => ?_) (fun c2 => ?_)
    · refine wp_iconst dX0_searches_51 0 rfl ?_
      refine wp_istore dX0_searches_52 rfl ?_
      exact loop n 0 _ _ (by omega) SrK.rf hA
    · omega
end
