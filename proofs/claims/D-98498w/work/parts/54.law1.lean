set_option maxRecDepth 100000
abbrev SD : Type := (Int32 → Int32) → Int32 × Bool
def wkd (s v x : Int32) : Int32 × Bool := if s = 43 then (v + x, false) else if s = 45 then (v - x, false) else if s = 42 then (v * x, false) else if x = 0 then (0, true) else if s = 47 then (v / x, false) else (v - v / x * x, false)
/-- the mark 'refused' is set, or nothing -/
def rfS (σ : St) (m : Nat) (f : Bool) : St := if f = true then setI σ m 0 1 else σ
theorem setI_setI (σ : St) (a k : Nat) (x y : Int32) : setI (setI σ a k x) a k y = setI σ a k y := by
  obtain ⟨K, f, r, n⟩ := σ
  simp only [setI]
  congr 2
  funext b j
  by_cases h : b = a ∧ j = k <;> simp [h]
theorem setI_self (σ : St) (a k : Nat) : setI σ a k (stI σ a k) = σ := by
  obtain ⟨K, f, r, n⟩ := σ
  simp only [setI, stI]
  congr 2
  funext b j
  by_cases h : b = a ∧ j = k
  · simp [h]
  · simp [h]
theorem rfS_rfS (σ : St) (m : Nat) (f g : Bool) : rfS (rfS σ m f) m g = rfS σ m (f || g) := by
  cases f <;> cases g <;> simp [rfS, setI_setI]
theorem rfS_f (σ : St) (m : Nat) : rfS σ m false = σ := rfl
theorem rfS_is (σ : St) (m : Nat) (f : Bool) : ∃ x, rfS σ m f = setI σ m 0 x := by
  cases f
  · exact ⟨stI σ m 0, (setI_self σ m 0).symm⟩
  · exact ⟨1, rfl⟩
def rowsV (V : Int32 → Int32) : List (Int32 × SD) → Int32 × Bool → Int32 × Bool
  | [], p => p
  | (s, S) :: L, p => rowsV V L ((wkd s p.1 (S V).1).1, (p.2 || (S V).2) || (wkd s p.1 (S V).1).2)
/-- a chain of rows: its signs and parts -/
def Chain (P : Nat → SD → Prop) (lo hi : Nat) (σ : St) : Option Nat → List (Int32 × SD) → Prop
  | nx, [] => nx = none
  | nx, (s, S) :: L => ∃ q, nx = some q ∧ lo ≤ q ∧ q < hi ∧ stK σ q = some (10, 0) ∧ stI σ q 0 = s ∧ (∃ p, stR σ q 1 = some p ∧ P p S) ∧ Chain P lo hi σ (stR σ q 2) L
/-- a sum of depth d at r, what it means -/
def SumAt (lo hi : Nat) (σ : St) : Nat → Nat → SD → Prop
  | 0, _, _ => False
  | d + 1, r, S => lo ≤ r ∧ r < hi ∧ ((stK σ r = some (11, 0) ∧ S = fun _ => (stI σ r 0, false)) ∨ (stK σ r = some (12, 0) ∧ S = fun V => (V (stI σ r 0), false)) ∨
      (stK σ r = some (10, 0) ∧ ∃ p S0 L, stR σ r 1 = some p ∧ SumAt lo hi σ d p S0 ∧ Chain (SumAt lo hi σ d) lo hi σ (stR σ r 2) L ∧ S = fun V => rowsV V L (S0 V)))
/-- two pictures agree on the cells from lo on, below hi -/
def Agr (lo hi : Nat) (σ τ : St) : Prop := ∀ c, lo ≤ c → c < hi → stK τ c = stK σ c ∧ (∀ k, stI τ c k = stI σ c k) ∧ ∀ k, stR τ c k = stR σ c k
theorem Agr.rf {lo hi : Nat} {σ : St} : Agr lo hi σ σ := fun _ _ _ => ⟨rfl, fun _ => rfl, fun _ => rfl⟩
theorem Agr.setI {lo hi m k : Nat} {σ : St} {x : Int32} (h : m < lo) : Agr lo hi σ (setI σ m k x) := fun c h1 h2 => ⟨rfl, fun j => by rw [stI_setI, if_neg (by omega)], fun _ => rfl⟩
theorem Chain.agr {P P' : Nat → SD → Prop} {lo hi : Nat} {σ τ : St} (ha : Agr lo hi σ τ) (hP : ∀ p S, P p S → P' p S) : ∀ {L : List (Int32 × SD)} {nx : Option Nat}, Chain P lo hi σ nx L → Chain P' lo hi τ nx L
  | [], nx, h => h
  | (s, S) :: L, nx, h => by
    obtain ⟨q, h1, h2, h3, h4, h5, ⟨p, h6, h7⟩, h8⟩ := h
    obtain ⟨a1, a2, a3⟩ := ha q h2 h3
    exact ⟨q, h1, h2, h3, by rw [a1]; exact h4, by rw [a2]; exact h5, ⟨p, by rw [a3]; exact h6, hP _ _ h7⟩, by rw [a3]; exact Chain.agr ha hP h8⟩
theorem SumAt.agr {lo hi : Nat} {σ τ : St} (ha : Agr lo hi σ τ) : ∀ {d r : Nat} {S : SD}, SumAt lo hi σ d r S → SumAt lo hi τ d r S
  | 0, _, _, h => h
  | d + 1, r, S, h => by
    obtain ⟨h1, h2, h⟩ := h
    obtain ⟨a1, a2, a3⟩ := ha r h1 h2
    refine ⟨h1, h2, ?_⟩
    rcases h with ⟨h3, h4⟩ | ⟨h3, h4⟩ | ⟨h3, p, S0, L, h4, h5, h6, h7⟩
    · exact Or.inl ⟨by rw [a1]; exact h3, by rw [a2]; exact h4⟩
    · exact Or.inr (Or.inl ⟨by rw [a1]; exact h3, by rw [a2]; exact h4⟩)
    · exact Or.inr (Or.inr ⟨by rw [a1]; exact h3, p, S0, L, by rw [a3]; exact h4, SumAt.agr ha h5, by rw [a3]; exact Chain.agr ha (fun _ _ => SumAt.agr ha) h6, h7⟩)
/-- the moment at m gives the letters the values V -/
def ValOK (Γ : Gm) (m : Nat) (V : Int32 → Int32) (σ : St) : Prop := stK σ m = some (2, 0) ∧ ∀ x c, Ct Γ 2 0 0 m_X2_value [.ref m, .int c] (setI σ m 0 x) (fun v τ => v = some (.int (V c)) ∧ τ = setI σ m 0 x)
theorem ValOK.set {Γ : Gm} {m : Nat} {V : Int32 → Int32} {σ : St} (h : ValOK Γ m V σ) (x : Int32) : ValOK Γ m V (setI σ m 0 x) :=
  ⟨h.1, fun y c => by rw [setI_setI]; exact h.2 y c⟩
theorem ValOK.rfS {Γ : Gm} {m : Nat} {V : Int32 → Int32} {σ : St} (h : ValOK Γ m V σ) (f : Bool) : ValOK Γ m V (rfS σ m f) := by
  obtain ⟨x, e⟩ := rfS_is σ m f
  rw [e]; exact h.set x
theorem ValOK.at {Γ : Gm} {m : Nat} {V : Int32 → Int32} {σ : St} (h : ValOK Γ m V σ) (c : Int32) : Ct Γ 2 0 0 m_X2_value [.ref m, .int c] σ (fun v τ => v = some (.int (V c)) ∧ τ = σ) := by
  have := h.2 (stI σ m 0) c
  rw [setI_self] at this
  exact this
theorem SumAt.rfS {lo hi m d r : Nat} {σ : St} {S : SD} (h : SumAt lo hi σ d r S) (hm : m < lo) (f : Bool) : SumAt lo hi (rfS σ m f) d r S := by
  obtain ⟨x, e⟩ := rfS_is σ m f
  rw [e]; exact h.agr (Agr.setI hm)
section
variable {Γ : Gm} {σ : St}
theorem ct_worked {m : Nat} (s v x : Int32) (hm : stK σ m = some (2, 0)) : Ct Γ 0 0 0 m_X10_worked [.int s, .int v, .int x, .ref m] σ (fun r τ => r = some (.int (wkd s v x).1) ∧ τ = rfS σ m (wkd s v x).2) := by
  refine Ct.ofWP pf_X10_worked rfl rfl ?_
  refine wp_iload_n dX10_worked_0 rfl ?_
  refine wp_tsw dX10_worked_1 [(42, 40), (43, 32), (45, 36)] 44 (by decide) (List.forall_mem_cons.mpr ⟨fun c1 => ?_, (List.forall_mem_cons.mpr ⟨fun c1 => ?_, (List.forall_mem_cons.mpr ⟨fun c1 => ?_, List.forall_mem_nil _⟩)⟩)⟩) (fun c1 => ?_)
  · have c1 : _ = (42 : Int32) := c1
    refine wp_iload_n dX10_worked_40 rfl ?_
    refine wp_iload_n dX10_worked_41 rfl ?_
    refine wp_imul dX10_worked_42 ?_
    refine wp_iret dX10_worked_43 rfl ?_
    subst c1; exact ⟨rfl, rfl⟩
  · have c1 : _ = (43 : Int32) := c1
    refine wp_iload_n dX10_worked_32 rfl ?_
    refine wp_iload_n dX10_worked_33 rfl ?_
    refine wp_iadd dX10_worked_34 ?_
    refine wp_iret dX10_worked_35 rfl ?_
    subst c1; exact ⟨rfl, rfl⟩
  · have c1 : _ = (45 : Int32) := c1
    refine wp_iload_n dX10_worked_36 rfl ?_
    refine wp_iload_n dX10_worked_37 rfl ?_
    refine wp_isub dX10_worked_38 ?_
    refine wp_iret dX10_worked_39 rfl ?_
    subst c1; exact ⟨rfl, rfl⟩
  · skip
    refine wp_iload_n dX10_worked_44 rfl ?_
    refine wp_if_ne dX10_worked_45 53 (by decide) (fun c45 => ?_) (fun c45 => ?_)
    · refine wp_iload_n dX10_worked_53 rfl ?_
      refine wp_if_ne dX10_worked_54 61 (by decide) (fun c54 => ?_) (fun c54 => ?_)
      · refine wp_iload_n dX10_worked_61 rfl ?_
        refine wp_bipush dX10_worked_62 47 rfl ?_
        refine wp_icmp_ne dX10_worked_64 73 (by decide) (fun c64 => ?_) (fun c64 => ?_)
        · refine wp_iload_n dX10_worked_73 rfl ?_
          refine wp_iload_n dX10_worked_74 rfl ?_
          refine wp_irem dX10_worked_75 c54 ?_
          refine wp_iret dX10_worked_76 rfl ?_
          have e1 : s ≠ 42 := c1 (42, 40) (by simp)
          have e2 : s ≠ 43 := c1 (43, 32) (by simp)
          have e3 : s ≠ 45 := c1 (45, 36) (by simp)
          have e4 : wkd s v x = if x = 0 then (0, true) else if s = 47 then (v / x, false) else (v - v / x * x, false) := by rw [wkd, if_neg e2, if_neg e3, if_neg e1]
          rw [e4]
          first | (simp [c45, c54, c64, rfS]; done) | (simp [c45, c54, rfS]; done) | exact absurd c45 c54 | exact absurd c54 c45
        · refine wp_iload_n dX10_worked_67 rfl ?_
          refine wp_iload_n dX10_worked_68 rfl ?_
          refine wp_idiv dX10_worked_69 c54 ?_
          refine wp_goto dX10_worked_70 76 (by decide) ?_
          refine wp_iret dX10_worked_76 rfl ?_
          have e1 : s ≠ 42 := c1 (42, 40) (by simp)
          have e2 : s ≠ 43 := c1 (43, 32) (by simp)
          have e3 : s ≠ 45 := c1 (45, 36) (by simp)
          have e4 : wkd s v x = if x = 0 then (0, true) else if s = 47 then (v / x, false) else (v - v / x * x, false) := by rw [wkd, if_neg e2, if_neg e3, if_neg e1]
          rw [e4]
          first | (simp [c45, c54, c64, rfS]; done) | (simp [c45, c54, rfS]; done) | exact absurd c45 c54 | exact absurd c54 c45
      · refine wp_iconst dX10_worked_57 0 rfl ?_
        refine wp_goto dX10_worked_58 76 (by decide) ?_
        refine wp_iret dX10_worked_76 rfl ?_
        have e1 : s ≠ 42 := c1 (42, 40) (by simp)
        have e2 : s ≠ 43 := c1 (43, 32) (by simp)
        have e3 : s ≠ 45 := c1 (45, 36) (by simp)
        have e4 : wkd s v x = if x = 0 then (0, true) else if s = 47 then (v / x, false) else (v - v / x * x, false) := by rw [wkd, if_neg e2, if_neg e3, if_neg e1]
        rw [e4]
        first | (simp [c45, c54, c64, rfS]; done) | (simp [c45, c54, rfS]; done) | exact absurd c45 c54 | exact absurd c54 c45
    · refine wp_aload_n dX10_worked_48 rfl ?_
      refine wp_iconst dX10_worked_49 1 rfl ?_
      refine wp_putI dX10_worked_50 gfa_X10_17_2 (Or.inl rfl) rfl ⟨rfl, rfl⟩ hm ?_
      refine wp_iload_n dX10_worked_53 rfl ?_
      refine wp_if_ne dX10_worked_54 61 (by decide) (fun c54 => ?_) (fun c54 => ?_)
      · refine wp_iload_n dX10_worked_61 rfl ?_
        refine wp_bipush dX10_worked_62 47 rfl ?_
        refine wp_icmp_ne dX10_worked_64 73 (by decide) (fun c64 => ?_) (fun c64 => ?_)
        · refine wp_iload_n dX10_worked_73 rfl ?_
          refine wp_iload_n dX10_worked_74 rfl ?_
          refine wp_irem dX10_worked_75 c54 ?_
          refine wp_iret dX10_worked_76 rfl ?_
          have e1 : s ≠ 42 := c1 (42, 40) (by simp)
          have e2 : s ≠ 43 := c1 (43, 32) (by simp)
          have e3 : s ≠ 45 := c1 (45, 36) (by simp)
          have e4 : wkd s v x = if x = 0 then (0, true) else if s = 47 then (v / x, false) else (v - v / x * x, false) := by rw [wkd, if_neg e2, if_neg e3, if_neg e1]
          rw [e4]
          first | (simp [c45, c54, c64, rfS]; done) | (simp [c45, c54, rfS]; done) | exact absurd c45 c54 | exact absurd c54 c45
        · refine wp_iload_n dX10_worked_67 rfl ?_
          refine wp_iload_n dX10_worked_68 rfl ?_
          refine wp_idiv dX10_worked_69 c54 ?_
          refine wp_goto dX10_worked_70 76 (by decide) ?_
          refine wp_iret dX10_worked_76 rfl ?_
          have e1 : s ≠ 42 := c1 (42, 40) (by simp)
          have e2 : s ≠ 43 := c1 (43, 32) (by simp)
          have e3 : s ≠ 45 := c1 (45, 36) (by simp)
          have e4 : wkd s v x = if x = 0 then (0, true) else if s = 47 then (v / x, false) else (v - v / x * x, false) := by rw [wkd, if_neg e2, if_neg e3, if_neg e1]
          rw [e4]
          first | (simp [c45, c54, c64, rfS]; done) | (simp [c45, c54, rfS]; done) | exact absurd c45 c54 | exact absurd c54 c45
      · refine wp_iconst dX10_worked_57 0 rfl ?_
        refine wp_goto dX10_worked_58 76 (by decide) ?_
        refine wp_iret dX10_worked_76 rfl ?_
        have e1 : s ≠ 42 := c1 (42, 40) (by simp)
        have e2 : s ≠ 43 := c1 (43, 32) (by simp)
        have e3 : s ≠ 45 := c1 (45, 36) (by simp)
        have e4 : wkd s v x = if x = 0 then (0, true) else if s = 47 then (v / x, false) else (v - v / x * x, false) := by rw [wkd, if_neg e2, if_neg e3, if_neg e1]
        rw [e4]
        first | (simp [c45, c54, c64, rfS]; done) | (simp [c45, c54, rfS]; done) | exact absurd c45 c54 | exact absurd c54 c45
end
