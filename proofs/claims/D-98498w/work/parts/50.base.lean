set_option maxRecDepth 100000
/-! words shared by both sides -/
def bI (b : Bool) : Int32 := if b = true then 1 else 0
theorem bI_0 {b : Bool} : bI b = 0 ↔ b = false := by cases b <;> decide
theorem bI_1 {b : Bool} : ¬ bI b = 0 ↔ b = true := by cases b <;> decide
theorem bI_e1 {b : Bool} : bI b = 1 ↔ b = true := by cases b <;> decide
theorem bI_ne1 {b : Bool} : ¬ bI b = 1 ↔ b = false := by cases b <;> decide
theorem bI_t : bI true = 1 := rfl
theorem bI_f : bI false = 0 := rfl
theorem bI_or (b : Bool) : bI b = 0 ∨ bI b = 1 := by cases b <;> simp [bI]
def inB (v n : Int32) : Bool := decide (0 ≤ v) && decide (v < n)
def wiB (v a b : Int32) : Bool := decide (a ≤ v) && decide (v ≤ b)
def hasB (set k : Int32) : Bool := decide ((set >>> (k &&& 31)) &&& 1 = 1)
def imax (a b : Int32) : Int32 := if a < b then b else a
def imin (a b : Int32) : Int32 := if b < a then b else a
def iabs (a : Int32) : Int32 := if 0 ≤ a then a else -a
def heldI (v most : Int32) : Int32 := imax 0 (imin most v)
def orNone (v : Int32) : Int32 := if v = -1 then -2 else v
section
variable {Γ : Gm} {σ : St}
theorem ct_max (x y : Int32) : Ct Γ 0 0 0 m_J2_max [.int x, .int y] σ (fun v τ => v = some (.int (imax x y)) ∧ τ = σ) := by
  refine Ct.ofWP pf_J2_max rfl rfl ?_
  refine wp_iload_n dJ2_max_0 rfl ?_
  refine wp_iload_n dJ2_max_1 rfl ?_
  refine wp_icmp_lt dJ2_max_2 9 (by decide) (fun c2 => ?_) (fun c2 => ?_)
  · refine wp_iload_n dJ2_max_9 rfl ?_
    refine wp_iret dJ2_max_10 rfl ?_
    exact ⟨by simp [imax, c2], rfl⟩
  · refine wp_iload_n dJ2_max_5 rfl ?_
    refine wp_goto dJ2_max_6 10 (by decide) ?_
    refine wp_iret dJ2_max_10 rfl ?_
    exact ⟨by simp [imax, c2], rfl⟩
theorem ct_min (x y : Int32) : Ct Γ 0 0 0 m_J2_min [.int x, .int y] σ (fun v τ => v = some (.int (imin x y)) ∧ τ = σ) := by
  refine Ct.ofWP pf_J2_min rfl rfl ?_
  refine wp_iload_n dJ2_min_0 rfl ?_
  refine wp_iload_n dJ2_min_1 rfl ?_
  refine wp_icmp_gt dJ2_min_2 9 (by decide) (fun c2 => ?_) (fun c2 => ?_)
  · refine wp_iload_n dJ2_min_9 rfl ?_
    refine wp_iret dJ2_min_10 rfl ?_
    exact ⟨by simp [imin, c2], rfl⟩
  · refine wp_iload_n dJ2_min_5 rfl ?_
    refine wp_goto dJ2_min_6 10 (by decide) ?_
    refine wp_iret dJ2_min_10 rfl ?_
    exact ⟨by simp [imin, c2], rfl⟩
theorem ct_abs (x : Int32) : Ct Γ 0 0 0 m_J2_abs [.int x] σ (fun v τ => v = some (.int (iabs x)) ∧ τ = σ) := by
  refine Ct.ofWP pf_J2_abs rfl rfl ?_
  refine wp_iload_n dJ2_abs_0 rfl ?_
  refine wp_if_ge dJ2_abs_1 9 (by decide) (fun c1 => ?_) (fun c1 => ?_)
  · refine wp_iload_n dJ2_abs_9 rfl ?_
    refine wp_iret dJ2_abs_10 rfl ?_
    exact ⟨by simp [iabs, c1], rfl⟩
  · refine wp_iload_n dJ2_abs_4 rfl ?_
    refine wp_ineg dJ2_abs_5 ?_
    refine wp_goto dJ2_abs_6 10 (by decide) ?_
    refine wp_iret dJ2_abs_10 rfl ?_
    exact ⟨by simp [iabs, c1], rfl⟩
theorem ct_in (v n : Int32) : Ct Γ 0 0 0 m_X0_in [.int v, .int n] σ (fun r τ => r = some (.int (bI (inB v n))) ∧ τ = σ) := by
  refine Ct.ofWP pf_X0_in rfl rfl ?_
  refine wp_iload_n dX0_in_0 rfl ?_
  refine wp_if_lt dX0_in_1 13 (by decide) (fun c1 => ?_) (fun c1 => ?_)
  · refine wp_iconst dX0_in_13 0 rfl ?_
    refine wp_zret dX0_in_14 rfl (Or.inl rfl) ?_
    exact ⟨by simp_all [inB, bI, ← Int32.not_lt], rfl⟩
  · refine wp_iload_n dX0_in_4 rfl ?_
    refine wp_iload_n dX0_in_5 rfl ?_
    refine wp_icmp_ge dX0_in_6 13 (by decide) (fun c6 => ?_) (fun c6 => ?_)
    · refine wp_iconst dX0_in_13 0 rfl ?_
      refine wp_zret dX0_in_14 rfl (Or.inl rfl) ?_
      exact ⟨by simp_all [inB, bI, ← Int32.not_lt], rfl⟩
    · refine wp_iconst dX0_in_9 1 rfl ?_
      refine wp_goto dX0_in_10 14 (by decide) ?_
      refine wp_zret dX0_in_14 rfl (Or.inr rfl) ?_
      exact ⟨by simp_all [inB, bI, ← Int32.not_lt], rfl⟩
theorem ct_within (v a b : Int32) : Ct Γ 0 0 0 m_X0_within [.int v, .int a, .int b] σ (fun r τ => r = some (.int (bI (wiB v a b))) ∧ τ = σ) := by
  refine Ct.ofWP pf_X0_within rfl rfl ?_
  refine wp_iload_n dX0_within_0 rfl ?_
  refine wp_iload_n dX0_within_1 rfl ?_
  refine wp_icmp_lt dX0_within_2 14 (by decide) (fun c2 => ?_) (fun c2 => ?_)
  · refine wp_iconst dX0_within_14 0 rfl ?_
    refine wp_zret dX0_within_15 rfl (Or.inl rfl) ?_
    exact ⟨by simp_all [wiB, bI, ← Int32.not_lt], rfl⟩
  · refine wp_iload_n dX0_within_5 rfl ?_
    refine wp_iload_n dX0_within_6 rfl ?_
    refine wp_icmp_gt dX0_within_7 14 (by decide) (fun c7 => ?_) (fun c7 => ?_)
    · refine wp_iconst dX0_within_14 0 rfl ?_
      refine wp_zret dX0_within_15 rfl (Or.inl rfl) ?_
      exact ⟨by simp_all [wiB, bI, ← Int32.not_lt], rfl⟩
    · refine wp_iconst dX0_within_10 1 rfl ?_
      refine wp_goto dX0_within_11 15 (by decide) ?_
      refine wp_zret dX0_within_15 rfl (Or.inr rfl) ?_
      exact ⟨by simp_all [wiB, bI, ← Int32.not_lt], rfl⟩
theorem ct_has (set k : Int32) : Ct Γ 0 0 0 m_X0_has [.int set, .int k] σ (fun r τ => r = some (.int (bI (hasB set k))) ∧ τ = σ) := by
  refine Ct.ofWP pf_X0_has rfl rfl ?_
  refine wp_iload_n dX0_has_0 rfl ?_
  refine wp_iload_n dX0_has_1 rfl ?_
  refine wp_ishr dX0_has_2 ?_
  refine wp_iconst dX0_has_3 1 rfl ?_
  refine wp_iand dX0_has_4 ?_
  refine wp_iconst dX0_has_5 1 rfl ?_
  refine wp_icmp_ne dX0_has_6 13 (by decide) (fun c6 => ?_) (fun c6 => ?_)
  · refine wp_iconst dX0_has_13 0 rfl ?_
    refine wp_zret dX0_has_14 rfl (Or.inl rfl) ?_
    exact ⟨by simp_all [hasB, bI], rfl⟩
  · refine wp_iconst dX0_has_9 1 rfl ?_
    refine wp_goto dX0_has_10 14 (by decide) ?_
    refine wp_zret dX0_has_14 rfl (Or.inr rfl) ?_
    exact ⟨by simp_all [hasB, bI], rfl⟩
theorem ct_held (v most : Int32) : Ct Γ 1 0 0 m_X0_held [.int v, .int most] σ (fun r τ => r = some (.int (heldI v most)) ∧ τ = σ) := by
  refine Ct.ofWP pf_X0_held rfl rfl ?_
  refine wp_iconst dX0_held_0 0 rfl ?_
  refine wp_iload_n dX0_held_1 rfl ?_
  refine wp_iload_n dX0_held_2 rfl ?_
  refine wp_cI (gcS dX0_held_3 gsa_X0_1 (ct_min _ _) rfl rfl (by omega) (by omega) (by omega) (Nat.le_of_ble_eq_true rfl) rfl) ?_
  refine wp_cI (gcS dX0_held_6 gsa_X0_7 (ct_max _ _) rfl rfl (by omega) (by omega) (by omega) (Nat.le_of_ble_eq_true rfl) rfl) ?_
  refine wp_iret dX0_held_9 rfl ?_
  exact ⟨rfl, rfl⟩
theorem ct_orNone (v : Int32) : Ct Γ 0 0 0 m_X0_orNone [.int v] σ (fun r τ => r = some (.int (orNone v)) ∧ τ = σ) := by
  refine Ct.ofWP pf_X0_orNone rfl rfl ?_
  refine wp_iload_n dX0_orNone_0 rfl ?_
  refine wp_iconst dX0_orNone_1 (-1) rfl ?_
  refine wp_icmp_ne dX0_orNone_2 10 (by decide) (fun c2 => ?_) (fun c2 => ?_)
  · refine wp_iload_n dX0_orNone_10 rfl ?_
    refine wp_iret dX0_orNone_11 rfl ?_
    exact ⟨by simp [orNone, c2], rfl⟩
  · refine wp_bipush dX0_orNone_5 (-2) rfl ?_
    refine wp_goto dX0_orNone_7 11 (by decide) ?_
    refine wp_iret dX0_orNone_11 rfl ?_
    exact ⟨by simp [orNone, c2], rfl⟩
theorem ct_isPiece (k : Int32) : Ct Γ 1 0 0 m_X0_isPiece [.int k] σ (fun r τ => r = some (.int (bI (inB k 12))) ∧ τ = σ) := by
  refine Ct.ofWP pf_X0_isPiece rfl rfl ?_
  refine wp_iload_n dX0_isPiece_0 rfl ?_
  refine wp_bipush dX0_isPiece_1 12 rfl ?_
  refine wp_cI (gcS dX0_isPiece_3 gsa_X0_103 (ct_in _ _) rfl rfl (by omega) (by omega) (by omega) (Nat.le_of_ble_eq_true rfl) rfl) ?_
  refine wp_zret dX0_isPiece_6 rfl (bI_or _) ?_
  exact ⟨rfl, rfl⟩
end
