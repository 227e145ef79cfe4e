set_option maxRecDepth 100000
def mdV (G : Gd) (r i h : Nat) : Int32 := (if r / 7 % 2 = 1 then -(G (h + 20) i) else G (h + 20) i) + (nI (r % 7) - 3)
def mdP (G : Gd) (r i j h : Nat) : Bool := decide (G ((h + r / 14) % 8 + 20) j = mdV G r i h)
def allB (p : Nat → Bool) : Nat → Bool
  | 0 => true
  | n + 1 => allB p n && p n
theorem allB_f {p : Nat → Bool} {h : Nat} (hp : p h = false) : ∀ n, h < n → allB p n = false
  | 0, hn => by omega
  | n + 1, hn => by
    rw [allB]
    by_cases e : h = n
    · subst e; rw [hp, Bool.and_false]
    · rw [allB_f hp n (by omega)]; rfl
theorem allB_t {p : Nat → Bool} : ∀ n, allB p n = true → ∀ h, h < n → p h = true
  | 0, _, h, hh => by omega
  | n + 1, ha, h, hh => by
    rw [allB, Bool.and_eq_true] at ha
    by_cases e : h = n
    · subst e; exact ha.2
    · exact allB_t n ha.1 h (by omega)
def madeB (G : Gd) (r i j : Nat) : Bool := allB (mdP G r i j) 8
def prOk (T : Nat → Int32) (k : Nat) : Bool := (inB (T (2 * k)) 12 && inB (T (2 * k + 1)) 12) && !decide (T (2 * k) = T (2 * k + 1))
def fitsP (T : Nat → Int32) (G : Gd) (r k : Nat) : Bool := madeB G r (ix (T (2 * k))) (ix (T (2 * k + 1)))
def fitsAllB (T : Nat → Int32) (G : Gd) (r n : Nat) : Bool := allB (fitsP T G r) n
section
variable {Γ : Gm} {σ : St} {b hi : Nat} {Lw : Lws}
theorem ct_isMade {r i j : Nat} (hr : r < 112) (hi' : i < 12) (hj : j < 12) (hC : CK b σ) : Ct Γ 0 0 0 m_X0_isMade [.ref b, .int (nI r), .ref (b + 2 + 5 + 4 * i), .ref (b + 2 + 5 + 4 * j)] σ (fun v τ => v = some (.int (bI (madeB (LG σ (b + 2)) r i j))) ∧ τ = σ) := by
  refine Ct.ofWP pf_X0_isMade rfl rfl ?_
  have hL := hC.l0
  have loop : ∀ (x : Int32), (x = 0 ↔ ¬ r / 7 % 2 = 1) → ∀ f h, h + f = 8 → allB (mdP (LG σ (b + 2)) r i j) h = true → WP Γ m_X0_isMade 0 0 0 34 [some (.ref b), some (.int (nI r)), some (.ref (b + 2 + 5 + 4 * i)), some (.ref (b + 2 + 5 + 4 * j)), some (.int (nI (r / 14))), some (.int x), some (.int (nI (r % 7) - 3)), some (.int (nI h))] [] σ (fun v τ => v = some (.int (bI (madeB (LG σ (b + 2)) r i j))) ∧ τ = σ) := by
    intro x hx f
    induction f with
    | zero =>
      intro h hh ha
      obtain rfl : h = 8 := by omega
      refine wp_iload dX0_isMade_34 rfl ?_
      refine wp_bipush dX0_isMade_36 8 rfl ?_
      refine wp_icmp_geN dX0_isMade_38 91 (by decide) 8 8 rfl rfl (by omega) (by omega) (fun c38 => ?_) (fun c38 => ?_)
      · refine wp_iconst dX0_isMade_91 1 rfl ?_
        refine wp_zret dX0_isMade_92 rfl (Or.inr rfl) ?_
        exact ⟨by rw [madeB, ha]; rfl, rfl⟩
      · omega
    | succ f ih =>
      intro h hh ha
      have hm : (h + r / 14) % 8 < 8 := Nat.mod_lt _ (by omega)
      refine wp_iload dX0_isMade_34 rfl ?_
      refine wp_bipush dX0_isMade_36 8 rfl ?_
      refine wp_icmp_geN dX0_isMade_38 91 (by decide) h 8 rfl rfl (by omega) (by omega) (fun c38 => ?_) (fun c38 => ?_)
      · omega
      · refine wp_aload_n dX0_isMade_41 rfl ?_
        refine wp_getR dX0_isMade_42 gfa_X0_171_5 rfl (hL.kE (by omega)) (hL.rH (by omega)) ?_
        refine wp_iload dX0_isMade_45 rfl ?_
        refine wp_iload dX0_isMade_47 rfl ?_
        refine wp_iadd dX0_isMade_49 ?_
        refine wp_top (y := nI (h + (r / 14))) (nI_add h (r / 14)) ?_
        refine wp_bipush dX0_isMade_50 8 rfl ?_
        refine wp_irem dX0_isMade_52 (by decide) ?_
        refine wp_top (y := nI ((h + (r / 14)) % 8)) (pk_rem (a := h + (r / 14)) (d := 8) (by omega) (by omega) (by omega)) ?_
        refine wp_iald dX0_isMade_53 (hL.kH (by omega)) ((h + (r / 14)) % 8) rfl (by omega) (by omega) ?_
        rw [LG_h _ (by omega) hj]
        refine wp_iload dX0_isMade_54 rfl ?_
        refine wp_if_eq dX0_isMade_56 70 (by decide) (fun c56 => ?_) (fun c56 => ?_)
        · refine wp_aload_n dX0_isMade_70 rfl ?_
          refine wp_getR dX0_isMade_71 gfa_X0_171_5 rfl (hL.kE (by omega)) (hL.rH (by omega)) ?_
          refine wp_iload dX0_isMade_74 rfl ?_
          refine wp_iald dX0_isMade_76 (hL.kH (by omega)) h rfl (by omega) (by omega) ?_
          first | rw [show stI σ (b + 2 + 6 + 4 * i) h = LG σ (b + 2) (h + 20) i from LG_h h (by omega) hi'] | skip
          refine wp_iload dX0_isMade_77 rfl ?_
          refine wp_iadd dX0_isMade_79 ?_
          refine wp_icmp_eq dX0_isMade_80 85 (by decide) (fun c80 => ?_) (fun c80 => ?_)
          · refine wp_iinc dX0_isMade_85 rfl rfl (nI (h + 1)) (nI_add h 1) ?_
            refine wp_goto dX0_isMade_88 34 (by decide) ?_
            refine ih (h + 1) (by omega) ?_
            rw [allB, ha, mdP, mdV]
            first | (rw [if_neg (hx.mp c56), decide_eq_true c80]; rfl) | (rw [if_pos (Decidable.not_not.mp (fun q => c56 (hx.mpr q))), decide_eq_true c80]; rfl)
          · refine wp_iconst dX0_isMade_83 0 rfl ?_
            refine wp_zret dX0_isMade_84 rfl (Or.inl rfl) ?_
            refine ⟨?_, rfl⟩
            rw [madeB, allB_f (h := h) ?_ 8 (by omega)]
            · rfl
            · rw [mdP, mdV]
              first | (rw [if_neg (hx.mp c56), decide_eq_false c80]; done) | (rw [if_pos (Decidable.not_not.mp (fun q => c56 (hx.mpr q))), decide_eq_false c80]; done)
        · refine wp_aload_n dX0_isMade_59 rfl ?_
          refine wp_getR dX0_isMade_60 gfa_X0_171_5 rfl (hL.kE (by omega)) (hL.rH (by omega)) ?_
          refine wp_iload dX0_isMade_63 rfl ?_
          refine wp_iald dX0_isMade_65 (hL.kH (by omega)) h rfl (by omega) (by omega) ?_
          rw [LG_h h (by omega) hi']
          refine wp_ineg dX0_isMade_66 ?_
          refine wp_goto dX0_isMade_67 77 (by decide) ?_
          first | rw [show stI σ (b + 2 + 6 + 4 * i) h = LG σ (b + 2) (h + 20) i from LG_h h (by omega) hi'] | skip
          refine wp_iload dX0_isMade_77 rfl ?_
          refine wp_iadd dX0_isMade_79 ?_
          refine wp_icmp_eq dX0_isMade_80 85 (by decide) (fun c80 => ?_) (fun c80 => ?_)
          · refine wp_iinc dX0_isMade_85 rfl rfl (nI (h + 1)) (nI_add h 1) ?_
            refine wp_goto dX0_isMade_88 34 (by decide) ?_
            refine ih (h + 1) (by omega) ?_
            rw [allB, ha, mdP, mdV]
            first | (rw [if_neg (hx.mp c56), decide_eq_true c80]; rfl) | (rw [if_pos (Decidable.not_not.mp (fun q => c56 (hx.mpr q))), decide_eq_true c80]; rfl)
          · refine wp_iconst dX0_isMade_83 0 rfl ?_
            refine wp_zret dX0_isMade_84 rfl (Or.inl rfl) ?_
            refine ⟨?_, rfl⟩
            rw [madeB, allB_f (h := h) ?_ 8 (by omega)]
            · rfl
            · rw [mdP, mdV]
              first | (rw [if_neg (hx.mp c56), decide_eq_false c80]; done) | (rw [if_pos (Decidable.not_not.mp (fun q => c56 (hx.mpr q))), decide_eq_false c80]; done)
  refine wp_iload_n dX0_isMade_0 rfl ?_
  refine wp_bipush dX0_isMade_1 14 rfl ?_
  refine wp_idiv dX0_isMade_3 (by decide) ?_
  refine wp_top (y := nI (r / 14)) (pk_div (a := r) (d := 14) (by omega) (by omega) (by omega)) ?_
  refine wp_istore dX0_isMade_4 rfl ?_
  refine wp_iload_n dX0_isMade_6 rfl ?_
  refine wp_bipush dX0_isMade_7 7 rfl ?_
  refine wp_idiv dX0_isMade_9 (by decide) ?_
  refine wp_top (y := nI (r / 7)) (pk_div (a := r) (d := 7) (by omega) (by omega) (by omega)) ?_
  refine wp_iconst dX0_isMade_10 2 rfl ?_
  refine wp_irem dX0_isMade_11 (by decide) ?_
  refine wp_top (y := nI ((r / 7) % 2)) (pk_rem (a := r / 7) (d := 2) (by omega) (by omega) (by omega)) ?_
  refine wp_iconst dX0_isMade_12 1 rfl ?_
  refine wp_icmp_neN dX0_isMade_13 20 (by decide) ((r / 7) % 2) 1 rfl rfl (by omega) (by omega) (fun c13 => ?_) (fun c13 => ?_)
  · refine wp_iconst dX0_isMade_20 0 rfl ?_
    refine wp_istore dX0_isMade_21 rfl ?_
    refine wp_iload_n dX0_isMade_23 rfl ?_
    refine wp_bipush dX0_isMade_24 7 rfl ?_
    refine wp_irem dX0_isMade_26 (by decide) ?_
    refine wp_top (y := nI (r % 7)) (pk_rem (a := r) (d := 7) (by omega) (by omega) (by omega)) ?_
    refine wp_iconst dX0_isMade_27 3 rfl ?_
    refine wp_isub dX0_isMade_28 ?_
    refine wp_istore dX0_isMade_29 rfl ?_
    refine wp_iconst dX0_isMade_31 0 rfl ?_
    refine wp_istore dX0_isMade_32 rfl ?_
    first | exact loop 1 ⟨fun h => absurd h (by decide), fun h => absurd (by omega) h⟩ 8 0 (by omega) rfl | exact loop 0 ⟨fun _ => by omega, fun _ => rfl⟩ 8 0 (by omega) rfl
  · refine wp_iconst dX0_isMade_16 1 rfl ?_
    refine wp_goto dX0_isMade_17 21 (by decide) ?_
    refine wp_istore dX0_isMade_21 rfl ?_
    refine wp_iload_n dX0_isMade_23 rfl ?_
    refine wp_bipush dX0_isMade_24 7 rfl ?_
    refine wp_irem dX0_isMade_26 (by decide) ?_
    refine wp_top (y := nI (r % 7)) (pk_rem (a := r) (d := 7) (by omega) (by omega) (by omega)) ?_
    refine wp_iconst dX0_isMade_27 3 rfl ?_
    refine wp_isub dX0_isMade_28 ?_
    refine wp_istore dX0_isMade_29 rfl ?_
    refine wp_iconst dX0_isMade_31 0 rfl ?_
    refine wp_istore dX0_isMade_32 rfl ?_
    first | exact loop 1 ⟨fun h => absurd h (by decide), fun h => absurd (by omega) h⟩ 8 0 (by omega) rfl | exact loop 0 ⟨fun _ => by omega, fun _ => rfl⟩ 8 0 (by omega) rfl
end
