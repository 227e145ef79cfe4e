set_option maxRecDepth 100000
abbrev Sts2 : Type := Int32 × Option Nat
def stSl (G : Gd) (k a t r : Nat) : Int32 := slackF (stmH G k t (nI r - 9)) (fun h => G (h + 20) a) (G 11 k) (G 11 a)
def stDo (t r : Nat) : Int32 := nI t + iabs (nI r - 9)
def stStep (G : Gd) (k a : Nat) (y : Int32) (t r : Nat) (s : Sts2) : Sts2 := if stDo t r < s.1 then (if stSl G k a t r ≤ y then (stDo t r, some (20 * t + (r + 1))) else s) else s
def stRow (G : Gd) (k a : Nat) (y : Int32) (t : Nat) (s : Sts2) (n : Nat) : Sts2 := folN (fun r s => stStep G k a y t r s) s n
def stAll (G : Gd) (k a : Nat) (y : Int32) (n : Nat) : Sts2 := folN (fun t s => stRow G k a y t s 19) (268435456, none) n
def stV (w : Int32) (s : Sts2) : Int32 := match s.2 with
  | none => -2
  | some e => if w = 0 then s.1 else if w = 1 then nI (e / 20) else nI (e % 20)
def steamOk (v1 v2 v3 v4 : Int32) : Bool := ((inB v1 12 && inB v2 12) && !decide (v1 = v2)) && (wiB v3 0 99 && inB v4 3)
def steamV (G : Gd) (v1 v2 v3 v4 : Int32) : Int32 := if steamOk v1 v2 v3 v4 = true then stV v4 (stAll G (ix v1) (ix v2) v3 8) else -1
section
variable {Γ : Gm} {σ : St} {b hi : Nat} {Lw : Lws}
theorem sd_LG {τ : St} (hf : Fr (sdW b) b σ τ) : LG τ (b + 2) = LG σ (b + 2) := LG_fr hf (fun c h => by unfold sdW at h; omega)
theorem steam_row {k a : Nat} (v3 v4 : Int32) (hk : k < 12) (ha : a < 12) (hC0 : CK b σ) (Q : Option Value → St → Prop) (t : Nat) (ht : t < 8) (s0 : Sts2) (hQ : ∀ ρ o8 o9, Fr (sdW b) b σ ρ → WP Γ m_X0_steaming 2 0 0 168 [some (.ref b), some (.int (nI k)), some (.int (nI a)), some (.int v3), some (.int v4), some (.int (stRow (LG σ (b + 2)) k a v3 t s0 19).1), some (.int (stV v4 (stRow (LG σ (b + 2)) k a v3 t s0 19))), some (.int (nI t)), o8, o9] [] ρ Q) :
    ∀ f r ρ o9, r + f = 19 → Fr (sdW b) b σ ρ → WP Γ m_X0_steaming 2 0 0 63 [some (.ref b), some (.int (nI k)), some (.int (nI a)), some (.int v3), some (.int v4), some (.int (stRow (LG σ (b + 2)) k a v3 t s0 r).1), some (.int (stV v4 (stRow (LG σ (b + 2)) k a v3 t s0 r))), some (.int (nI t)), some (.int (nI r - 9)), o9] [] ρ Q := by
  intro f
  induction f with
  | zero =>
    intro r ρ o9 hr hf
    obtain rfl : r = 19 := by omega
    refine wp_iload dX0_steaming_63 rfl ?_
    refine wp_bipush dX0_steaming_65 9 rfl ?_
    refine wp_icmp_gt dX0_steaming_67 168 (by decide) (fun c67 => ?_) (fun c67 => absurd (by decide) c67)
    exact hQ _ _ _ hf
  | succ f ih =>
    intro r ρ o9 hr hf
    have hC := hC0.kr hf.1
    have st : stRow (LG σ (b + 2)) k a v3 t s0 (r + 1) = stStep (LG σ (b + 2)) k a v3 t r (stRow (LG σ (b + 2)) k a v3 t s0 r) := rfl
    have hr9 : ¬ (9 : Int32) < nI r - 9 := (by decide : ∀ r, r < 19 → ¬ (9 : Int32) < nI r - 9) r (by omega)
    have e1 : nI r - 9 + 10 = nI (r + 1) := (by decide : ∀ r, r < 19 → nI r - 9 + 10 = nI (r + 1)) r (by omega)
    have e2 : nI r - 9 + 1 = nI (r + 1) - 9 := (by decide : ∀ r, r < 19 → nI r - 9 + 1 = nI (r + 1) - 9) r (by omega)
    have next : ∀ ρ o9, Fr (sdW b) b σ ρ → WP Γ m_X0_steaming 2 0 0 162 [some (.ref b), some (.int (nI k)), some (.int (nI a)), some (.int v3), some (.int v4), some (.int (stRow (LG σ (b + 2)) k a v3 t s0 (r + 1)).1), some (.int (stV v4 (stRow (LG σ (b + 2)) k a v3 t s0 (r + 1)))), some (.int (nI t)), some (.int (nI r - 9)), o9] [] ρ Q := by
      intro ρ o9 hf
      refine wp_iinc dX0_steaming_162 rfl rfl _ rfl ?_
      refine wp_goto dX0_steaming_165 63 (by decide) ?_
      refine WP.cast ?_ (ih (r + 1) ρ o9 (by omega) hf)
      rw [← e2]
      rfl
    rw [st] at next
    generalize stRow (LG σ (b + 2)) k a v3 t s0 r = s at *
    sorry
end
