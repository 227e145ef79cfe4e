set_option maxRecDepth 100000
def tpD (T : Nat → Int32) (n t u : Nat) : Bool := decide (u = t) || wiB (T (n + n * t + u)) 1 20
def tpR (T : Nat → Int32) (n t : Nat) : Nat → Bool
  | 0 => true
  | u + 1 => tpR T n t u && tpD T n t u
def tpA (T : Nat → Int32) (n : Nat) : Nat → Bool
  | 0 => true
  | t + 1 => tpA T n t && (wiB (T t) 0 99 && tpR T n t n)
def sumT (T : Nat → Int32) : Nat → Int32
  | 0 => 0
  | n + 1 => sumT T n + T n
def isSr (T : Nat → Int32) (n : Nat) : Bool := tpA T n n && decide (0 < sumT T n)
theorem tpR_f {T : Nat → Int32} {n t u : Nat} (h : tpD T n t u = false) : ∀ m, u < m → tpR T n t m = false
  | 0, hm => by omega
  | m + 1, hm => by
    rw [tpR]
    by_cases e : u = m
    · subst e; rw [h, Bool.and_false]
    · rw [tpR_f h m (by omega)]; rfl
theorem tpA_f {T : Nat → Int32} {n t : Nat} (h : (wiB (T t) 0 99 && tpR T n t n) = false) : ∀ m, t < m → tpA T n m = false
  | 0, hm => by omega
  | m + 1, hm => by
    rw [tpA]
    by_cases e : t = m
    · subst e; rw [h, Bool.and_false]
    · rw [tpA_f h m (by omega)]; rfl
section
variable {Γ : Gm} {σ : St} {b hi : Nat} {Lw : Lws}
theorem divisor_step {d x y : Nat} (hx : x < 2 ^ 31) (hy : y < 2 ^ 31) (h : y ≠ 0 → Ct Γ d 0 0 m_X0_divisor [.int (nI y), .int (nI (x % y))] σ (fun r τ => r = some (.int (nI (Nat.gcd y (x % y)))) ∧ τ = σ)) : Ct Γ (d + 1) 0 0 m_X0_divisor [.int (nI x), .int (nI y)] σ (fun r τ => r = some (.int (nI (Nat.gcd x y))) ∧ τ = σ) := by
  refine Ct.ofWP pf_X0_divisor rfl rfl ?_
  by_cases hy0 : y = 0
  · subst hy0
    refine wp_iload_n dX0_divisor_0 rfl ?_
    refine wp_if_ne dX0_divisor_1 8 (by decide) (fun c1 => absurd c1 (by decide)) (fun c1 => ?_)
    refine wp_iload_n dX0_divisor_4 rfl ?_
    refine wp_goto dX0_divisor_5 15 (by decide) ?_
    refine wp_iret dX0_divisor_15 rfl ?_
    exact ⟨by rw [Nat.gcd_zero_right], rfl⟩
  · have hr : x % y < y := Nat.mod_lt _ (by omega)
    refine wp_iload_n dX0_divisor_0 rfl ?_
    refine wp_if_ne dX0_divisor_1 8 (by decide) (fun c1 => ?_) (fun c1 => absurd c1 (nI_ne0 (n := y) (by omega) (by omega)))
    refine wp_iload_n dX0_divisor_8 rfl ?_
    refine wp_iload_n dX0_divisor_9 rfl ?_
    refine wp_iload_n dX0_divisor_10 rfl ?_
    refine wp_irem dX0_divisor_11 (nI_ne0 (by omega) (by omega)) ?_
    refine wp_top (y := nI (x % y)) (pk_rem (a := x) (d := y) (by omega) (by omega) (by omega)) ?_
    refine wp_cI (gcS dX0_divisor_12 gsa_X0_10 (h hy0) rfl rfl (by omega) (by omega) (by omega) (Nat.le_of_ble_eq_true rfl) rfl) ?_
    refine wp_iret dX0_divisor_15 rfl ?_
    exact ⟨by rw [Nat.gcd_comm x y, Nat.gcd_rec y x, Nat.gcd_comm], rfl⟩
theorem ct_divisor : ∀ f x y, x < 2 ^ 31 → y < 2 ^ f → f ≤ 31 → Ct Γ (2 * f + 1) 0 0 m_X0_divisor [.int (nI x), .int (nI y)] σ (fun r τ => r = some (.int (nI (Nat.gcd x y))) ∧ τ = σ) := by
  intro f
  induction f with
  | zero => intro x y hx hy _; exact divisor_step hx (by omega) (fun h => by omega)
  | succ f ih =>
    intro x y hx hy hf
    have h31 : 2 ^ (f + 1) ≤ 2 ^ 31 := Nat.pow_le_pow_right (by omega) hf
    have e2 : 2 ^ (f + 1) = 2 * 2 ^ f := by rw [Nat.pow_succ, Nat.mul_comm]
    refine divisor_step hx (by omega) (fun h => ?_)
    have hr : x % y < y := Nat.mod_lt _ (by omega)
    refine divisor_step (by omega) (by omega) (fun h2 => ih _ _ (by omega) ?_ (by omega))
    have h3 : y % (x % y) < x % y := Nat.mod_lt _ (by omega)
    have h4 : y % (x % y) + (x % y) ≤ y := by
      have := Nat.div_add_mod y (x % y)
      have h5 : 1 ≤ y / (x % y) := (Nat.one_le_div_iff (by omega)).mpr (by omega)
      have h6 : (x % y) * 1 ≤ (x % y) * (y / (x % y)) := Nat.mul_le_mul_left _ h5
      omega
    omega
theorem ct_isSearch {n : Nat} (hn2 : 2 ≤ n) (hn : n ≤ 6) (hC : CK b σ) : Ct Γ 1 0 0 m_X0_isSearch [.ref b, .int (nI n)] σ (fun r τ => r = some (.int (bI (isSr (stI σ (b + 155)) n))) ∧ τ = σ) := by
  refine Ct.ofWP pf_X0_isSearch rfl rfl ?_
  have no : ∀ t, t < n → (wiB (stI σ (b + 155) t) 0 99 && tpR (stI σ (b + 155)) n t n) = false → isSr (stI σ (b + 155)) n = false := fun t h1 h2 => by rw [isSr, tpA_f h2 n h1]; rfl
  have loopU : ∀ t (x : Int32), t < n → wiB (stI σ (b + 155) t) 0 99 = true → (tpR (stI σ (b + 155)) n t n = true → ∀ o4, WP Γ m_X0_isSearch 1 0 0 80 [some (.ref b), some (.int (nI n)), some (.int x), some (.int (nI t)), o4] [] σ (fun r τ => r = some (.int (bI (isSr (stI σ (b + 155)) n))) ∧ τ = σ)) → ∀ f u, u + f = n → tpR (stI σ (b + 155)) n t u = true → WP Γ m_X0_isSearch 1 0 0 38 [some (.ref b), some (.int (nI n)), some (.int x), some (.int (nI t)), some (.int (nI u))] [] σ (fun r τ => r = some (.int (bI (isSr (stI σ (b + 155)) n))) ∧ τ = σ) := by
    intro t x ht hw hQ f
    induction f with
    | zero =>
      intro u hu hr
      obtain rfl : u = n := by omega
      refine wp_iload dX0_isSearch_38 rfl ?_
      refine wp_iload_n dX0_isSearch_40 rfl ?_
      refine wp_icmp_geN dX0_isSearch_41 80 (by decide) u u rfl rfl (by omega) (by omega) (fun c41 => ?_) (fun c41 => ?_)
      · exact hQ hr _
      · omega
    | succ f ih =>
      intro u hu hr
      have hm : n * t ≤ 6 * 5 := Nat.mul_le_mul (by omega) (by omega)
      refine wp_iload dX0_isSearch_38 rfl ?_
      refine wp_iload_n dX0_isSearch_40 rfl ?_
      refine wp_icmp_geN dX0_isSearch_41 80 (by decide) u n rfl rfl (by omega) (by omega) (fun c41 => ?_) (fun c41 => ?_)
      · omega
      · refine wp_iload dX0_isSearch_44 rfl ?_
        refine wp_iload_n dX0_isSearch_46 rfl ?_
        refine wp_icmp_eqN dX0_isSearch_47 74 (by decide) u t rfl rfl (by omega) (by omega) (fun c47 => ?_) (fun c47 => ?_)
        · refine wp_iinc dX0_isSearch_74 rfl rfl (nI (u + 1)) (nI_add u 1) ?_
          refine wp_goto dX0_isSearch_77 38 (by decide) ?_
          refine ih (u + 1) (by omega) ?_
          rw [tpR, hr, tpD]
          first | (rw [decide_eq_true (p := u = t) c47]; rfl) | (rw [bI_1.mp c69]; simp)
        · refine wp_aload_n dX0_isSearch_50 rfl ?_
          refine wp_getR dX0_isSearch_51 gfa_X0_43_0 rfl hC.k0 hC.r4 ?_
          refine wp_iload_n dX0_isSearch_54 rfl ?_
          refine wp_iload_n dX0_isSearch_55 rfl ?_
          refine wp_iload_n dX0_isSearch_56 rfl ?_
          refine wp_imul dX0_isSearch_57 ?_
          refine wp_top (y := nI (n * t)) (pk_mul n t) ?_
          refine wp_iadd dX0_isSearch_58 ?_
          refine wp_top (y := nI (n + (n * t))) (nI_add n (n * t)) ?_
          refine wp_iload dX0_isSearch_59 rfl ?_
          refine wp_iadd dX0_isSearch_61 ?_
          refine wp_top (y := nI (n + (n * t) + u)) (nI_add (n + (n * t)) u) ?_
          refine wp_bald dX0_isSearch_62 hC.k155 (n + (n * t) + u) rfl (by omega) (by omega) ?_
          refine wp_iconst dX0_isSearch_63 1 rfl ?_
          refine wp_bipush dX0_isSearch_64 20 rfl ?_
          refine wp_cI (gcS dX0_isSearch_66 gsa_X0_128 (ct_within _ _ _) rfl rfl (by omega) (by omega) (by omega) (Nat.le_of_ble_eq_true rfl) rfl) ?_
          refine wp_if_ne dX0_isSearch_69 74 (by decide) (fun c69 => ?_) (fun c69 => ?_)
          · refine wp_iinc dX0_isSearch_74 rfl rfl (nI (u + 1)) (nI_add u 1) ?_
            refine wp_goto dX0_isSearch_77 38 (by decide) ?_
            refine ih (u + 1) (by omega) ?_
            rw [tpR, hr, tpD]
            first | (rw [decide_eq_true (p := u = t) c47]; rfl) | (rw [bI_1.mp c69]; simp)
          · refine wp_iconst dX0_isSearch_72 0 rfl ?_
            refine wp_zret dX0_isSearch_73 rfl (Or.inl rfl) ?_
            refine ⟨?_, rfl⟩
            rw [no t ht (by rw [tpR_f (u := u) (by rw [tpD, decide_eq_false (p := u = t) c47, bI_0.mp c69]; rfl) n (by omega), Bool.and_false])]
            rfl
  have loopT : ∀ f t o4, t + f = n → tpA (stI σ (b + 155)) n t = true → WP Γ m_X0_isSearch 1 0 0 4 [some (.ref b), some (.int (nI n)), some (.int (sumT (stI σ (b + 155)) t)), some (.int (nI t)), o4] [] σ (fun r τ => r = some (.int (bI (isSr (stI σ (b + 155)) n))) ∧ τ = σ) := by
    intro f
    induction f with
    | zero =>
      intro t o4 ht hA
      obtain rfl : t = n := by omega
      refine wp_iload_n dX0_isSearch_4 rfl ?_
      refine wp_iload_n dX0_isSearch_5 rfl ?_
      refine wp_icmp_geN dX0_isSearch_6 86 (by decide) t t rfl rfl (by omega) (by omega) (fun c6 => ?_) (fun c6 => ?_)
      · refine wp_iload_n dX0_isSearch_86 rfl ?_
        refine wp_if_le dX0_isSearch_87 94 (by decide) (fun c87 => ?_) (fun c87 => ?_)
        · refine wp_iconst dX0_isSearch_94 0 rfl ?_
          refine wp_zret dX0_isSearch_95 rfl (Or.inl rfl) ?_
          refine ⟨?_, rfl⟩
          rw [isSr, hA]
          first | (rw [decide_eq_true (Int32.not_le.mp c87)]; rfl) | (rw [decide_eq_false (Int32.not_lt.mpr c87)]; rfl)
        · refine wp_iconst dX0_isSearch_90 1 rfl ?_
          refine wp_goto dX0_isSearch_91 95 (by decide) ?_
          refine wp_zret dX0_isSearch_95 rfl (Or.inr rfl) ?_
          refine ⟨?_, rfl⟩
          rw [isSr, hA]
          first | (rw [decide_eq_true (Int32.not_le.mp c87)]; rfl) | (rw [decide_eq_false (Int32.not_lt.mpr c87)]; rfl)
      · omega
    | succ f ih =>
      intro t o4 ht hA
      refine wp_iload_n dX0_isSearch_4 rfl ?_
      refine wp_iload_n dX0_isSearch_5 rfl ?_
      refine wp_icmp_geN dX0_isSearch_6 86 (by decide) t n rfl rfl (by omega) (by omega) (fun c6 => ?_) (fun c6 => ?_)
      · omega
      · refine wp_aload_n dX0_isSearch_9 rfl ?_
        refine wp_getR dX0_isSearch_10 gfa_X0_43_0 rfl hC.k0 hC.r4 ?_
        refine wp_iload_n dX0_isSearch_13 rfl ?_
        refine wp_bald dX0_isSearch_14 hC.k155 t rfl (by omega) (by omega) ?_
        refine wp_iconst dX0_isSearch_15 0 rfl ?_
        refine wp_bipush dX0_isSearch_16 99 rfl ?_
        refine wp_cI (gcS dX0_isSearch_18 gsa_X0_128 (ct_within _ _ _) rfl rfl (by omega) (by omega) (by omega) (Nat.le_of_ble_eq_true rfl) rfl) ?_
        refine wp_if_ne dX0_isSearch_21 26 (by decide) (fun c21 => ?_) (fun c21 => ?_)
        · refine wp_iload_n dX0_isSearch_26 rfl ?_
          refine wp_aload_n dX0_isSearch_27 rfl ?_
          refine wp_getR dX0_isSearch_28 gfa_X0_43_0 rfl hC.k0 hC.r4 ?_
          refine wp_iload_n dX0_isSearch_31 rfl ?_
          refine wp_bald dX0_isSearch_32 hC.k155 t rfl (by omega) (by omega) ?_
          refine wp_iadd dX0_isSearch_33 ?_
          refine wp_istore_n dX0_isSearch_34 rfl ?_
          refine wp_iconst dX0_isSearch_35 0 rfl ?_
          refine wp_istore dX0_isSearch_36 rfl ?_
          refine loopU t _ (by omega) (bI_1.mp c21) (fun hr o4 => ?_) n 0 (by omega) rfl
          refine wp_iinc dX0_isSearch_80 rfl rfl (nI (t + 1)) (nI_add t 1) ?_
          refine wp_goto dX0_isSearch_83 4 (by decide) ?_
          exact ih (t + 1) _ (by omega) (by rw [tpA, hA, bI_1.mp c21, hr]; rfl)
        · refine wp_iconst dX0_isSearch_24 0 rfl ?_
          refine wp_zret dX0_isSearch_25 rfl (Or.inl rfl) ?_
          exact ⟨by rw [no t (by omega) (by rw [bI_0.mp c21]; rfl)]; rfl, rfl⟩
  refine wp_iconst dX0_isSearch_0 0 rfl ?_
  refine wp_istore_n dX0_isSearch_1 rfl ?_
  refine wp_iconst dX0_isSearch_2 0 rfl ?_
  refine wp_istore_n dX0_isSearch_3 rfl ?_
  exact loopT n 0 _ (by omega) rfl
end
