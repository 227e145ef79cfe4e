set_option maxRecDepth 100000
def likeG (Lw : Lws) (G : Gd) (i j : Nat) : Int32 := if ((livesB G i && livesB G j) && !decide (G 1 i = G 1 j)) && fitB Lw G i j then likeF' Lw G i j else 0
def okI : Option Nat → Int32
  | none => -1
  | some k => nI k
def moreB (L : Nat → Nat → Int32) (w a : Nat) : Option Nat → Bool
  | none => decide (0 < L w a)
  | some k => decide (L w k < L w a) || ((decide (L w a = L w k) && decide (0 < L w a)) && decide (a < k))
def nextN (L : Nat → Nat → Int32) (A : Int32) (i : Nat) : Nat → Option Nat
  | 0 => none
  | n + 1 => if (!hasB A (nI n) && decide (0 < L i n)) && moreB L i n (nextN L A i n) then some n else nextN L A i n
abbrev Sts : Type := (Nat → Option Nat) × (Nat → Int32)
def updF {α : Type} (f : Nat → α) (i : Nat) (x : α) : Nat → α := fun k => if k = i then x else f k
def clrK (K : Nat → Option Nat) : Option Nat → Nat → Option Nat
  | none => K
  | some o => updF K o none
def stepK (L : Nat → Nat → Int32) (K : Nat → Option Nat) (i j : Nat) : Nat → Option Nat := if moreB L j i (K j) = true then updF (updF (clrK K (K j)) j (some i)) i (some j) else K
def stepA (S : Sts) (i j : Nat) : Nat → Int32 := updF S.2 i (S.2 i ||| 1 <<< (nI j &&& 31))
def nextS (L : Nat → Nat → Int32) (ask : Nat → Bool) (S : Sts) (i : Nat) : Option Nat := if ask i && decide (S.1 i = none) then nextN L (S.2 i) i 12 else none
def stepS (L : Nat → Nat → Int32) (ask : Nat → Bool) (i : Nat) (s : Sts × Bool) : Sts × Bool := match nextS L ask s.1 i with
  | none => s
  | some j => ((stepK L s.1.1 i j, stepA s.1 i j), true)
def roundS (L : Nat → Nat → Int32) (ask : Nat → Bool) (S : Sts) (n : Nat) : Sts × Bool := folN (stepS L ask) (S, false) n
def runS (L : Nat → Nat → Int32) (ask : Nat → Bool) : Nat → Sts → Sts
  | 0, S => S
  | f + 1, S => if (roundS L ask S 12).2 = true then runS L ask f (roundS L ask S 12).1 else (roundS L ask S 12).1
def LkA (b : Nat) (L : Nat → Nat → Int32) (ρ : St) : Prop := ∀ i j, i < 12 → j < 12 → stI ρ (b + 190 + i) j = L i j
theorem nextN_lt {L : Nat → Nat → Int32} {A : Int32} {i j : Nat} : ∀ n, nextN L A i n = some j → j < n
  | 0, h => by cases h
  | n + 1, h => by
    rw [nextN] at h
    split at h
    · cases h; omega
    · have := nextN_lt n h; omega
theorem okI_n (o : Option Nat) (h : ∀ k, o = some k → k < 12) : okI o = -1 ↔ o = none := by
  cases o with
  | none => exact ⟨fun _ => rfl, fun _ => rfl⟩
  | some k => exact ⟨fun e => absurd e (nI_nm1 (by have := h k rfl; omega)), fun e => by cases e⟩
section
variable {Γ : Gm} {σ : St} {b hi : Nat} {Lw : Lws}
theorem ct_likesMore {L : Nat → Nat → Int32} {w a : Nat} (o : Option Nat) (hw : w < 12) (ha : a < 12) (ho : ∀ k, o = some k → k < 12) (hC : CK b σ) (hL : LkA b L σ) : Ct Γ 0 0 0 m_X0_likesMore [.ref b, .int (nI w), .int (nI a), .int (okI o)] σ (fun r τ => r = some (.int (bI (moreB L w a o))) ∧ τ = σ) := by
  refine Ct.ofWP pf_X0_likesMore rfl rfl ?_
  cases o with
  | none =>
    refine wp_aload_n dX0_likesMore_0 rfl ?_
    refine wp_getR dX0_likesMore_1 gfa_X0_69_0 rfl hC.k0 hC.r12 ?_
    refine wp_iload_n dX0_likesMore_4 rfl ?_
    refine wp_aald dX0_likesMore_5 hC.k189 rfl w rfl (by omega) (by omega) (hC.rL (by omega)) ?_
    refine wp_iload_n dX0_likesMore_6 rfl ?_
    refine wp_iald dX0_likesMore_7 (hC.kL (by omega)) a rfl (by omega) (by omega) ?_
    rw [hL w a hw ha]
    refine wp_iload_n dX0_likesMore_8 rfl ?_
    refine wp_iconst dX0_likesMore_9 (-1) rfl ?_
    refine wp_icmp_ne dX0_likesMore_10 17 (by decide) (fun c10 => ?_) (fun c10 => ?_)
    · exact absurd rfl c10
    · refine wp_iconst dX0_likesMore_13 0 rfl ?_
      refine wp_goto dX0_likesMore_14 25 (by decide) ?_
      refine wp_icmp_gt dX0_likesMore_25 68 (by decide) (fun c25 => ?_) (fun c25 => ?_)
      · refine wp_iconst dX0_likesMore_68 1 rfl ?_
        refine wp_goto dX0_likesMore_69 73 (by decide) ?_
        refine wp_zret dX0_likesMore_73 rfl (Or.inr rfl) ?_
        refine ⟨?_, rfl⟩
        show _ = some (Value.int (bI (decide (0 < L w a))))
        first | (rw [decide_eq_true (p := 0 < L w a) c25]; rfl) | (rw [decide_eq_false (p := 0 < L w a) c25]; rfl)
      · refine wp_iload_n dX0_likesMore_28 rfl ?_
        refine wp_iconst dX0_likesMore_29 (-1) rfl ?_
        refine wp_icmp_eq dX0_likesMore_30 72 (by decide) (fun c30 => ?_) (fun c30 => ?_)
        · refine wp_iconst dX0_likesMore_72 0 rfl ?_
          refine wp_zret dX0_likesMore_73 rfl (Or.inl rfl) ?_
          refine ⟨?_, rfl⟩
          show _ = some (Value.int (bI (decide (0 < L w a))))
          first | (rw [decide_eq_true (p := 0 < L w a) c25]; rfl) | (rw [decide_eq_false (p := 0 < L w a) c25]; rfl)
        · exact absurd rfl c30
  | some k =>
    have hk := ho k rfl
    refine wp_aload_n dX0_likesMore_0 rfl ?_
    refine wp_getR dX0_likesMore_1 gfa_X0_69_0 rfl hC.k0 hC.r12 ?_
    refine wp_iload_n dX0_likesMore_4 rfl ?_
    refine wp_aald dX0_likesMore_5 hC.k189 rfl w rfl (by omega) (by omega) (hC.rL (by omega)) ?_
    refine wp_iload_n dX0_likesMore_6 rfl ?_
    refine wp_iald dX0_likesMore_7 (hC.kL (by omega)) a rfl (by omega) (by omega) ?_
    rw [hL w a hw ha]
    refine wp_iload_n dX0_likesMore_8 rfl ?_
    refine wp_iconst dX0_likesMore_9 (-1) rfl ?_
    refine wp_icmp_ne dX0_likesMore_10 17 (by decide) (fun c10 => ?_) (fun c10 => ?_)
    · refine wp_aload_n dX0_likesMore_17 rfl ?_
      refine wp_getR dX0_likesMore_18 gfa_X0_69_0 rfl hC.k0 hC.r12 ?_
      refine wp_iload_n dX0_likesMore_21 rfl ?_
      refine wp_aald dX0_likesMore_22 hC.k189 rfl w rfl (by omega) (by omega) (hC.rL (by omega)) ?_
      refine wp_iload_n dX0_likesMore_23 rfl ?_
      refine wp_iald dX0_likesMore_24 (hC.kL (by omega)) k rfl (by omega) (by omega) ?_
      rw [hL w k hw hk]
      refine wp_icmp_gt dX0_likesMore_25 68 (by decide) (fun c25 => ?_) (fun c25 => ?_)
      · refine wp_iconst dX0_likesMore_68 1 rfl ?_
        refine wp_goto dX0_likesMore_69 73 (by decide) ?_
        refine wp_zret dX0_likesMore_73 rfl (Or.inr rfl) ?_
        refine ⟨?_, rfl⟩
        show _ = some (Value.int (bI (decide (L w k < L w a) || ((decide (L w a = L w k) && decide (0 < L w a)) && decide (a < k)))))
        first | (rw [decide_eq_true (p := L w k < L w a) c25]; rfl) | exact absurd c30 (nI_nm1 (by omega)) | (rw [decide_eq_false (p := L w k < L w a) c25, decide_eq_false (p := L w a = L w k) c49]; rfl) | (rw [decide_eq_false (p := L w k < L w a) c25, decide_eq_true (p := L w a = L w k) c49, decide_eq_false (p := 0 < L w a) (Int32.not_lt.mpr c60)]; rfl) | (rw [decide_eq_false (p := L w k < L w a) c25, decide_eq_true (p := L w a = L w k) c49, decide_eq_true (p := 0 < L w a) (Int32.not_le.mp c60), decide_eq_true (p := a < k) c65]; rfl) | (rw [decide_eq_false (p := L w k < L w a) c25, decide_eq_true (p := L w a = L w k) c49, decide_eq_true (p := 0 < L w a) (Int32.not_le.mp c60), decide_eq_false (p := a < k) (by omega)]; rfl)
      · refine wp_iload_n dX0_likesMore_28 rfl ?_
        refine wp_iconst dX0_likesMore_29 (-1) rfl ?_
        refine wp_icmp_eq dX0_likesMore_30 72 (by decide) (fun c30 => ?_) (fun c30 => ?_)
        · refine wp_iconst dX0_likesMore_72 0 rfl ?_
          refine wp_zret dX0_likesMore_73 rfl (Or.inl rfl) ?_
          refine ⟨?_, rfl⟩
          show _ = some (Value.int (bI (decide (L w k < L w a) || ((decide (L w a = L w k) && decide (0 < L w a)) && decide (a < k)))))
          first | (rw [decide_eq_true (p := L w k < L w a) c25]; rfl) | exact absurd c30 (nI_nm1 (by omega)) | (rw [decide_eq_false (p := L w k < L w a) c25, decide_eq_false (p := L w a = L w k) c49]; rfl) | (rw [decide_eq_false (p := L w k < L w a) c25, decide_eq_true (p := L w a = L w k) c49, decide_eq_false (p := 0 < L w a) (Int32.not_lt.mpr c60)]; rfl) | (rw [decide_eq_false (p := L w k < L w a) c25, decide_eq_true (p := L w a = L w k) c49, decide_eq_true (p := 0 < L w a) (Int32.not_le.mp c60), decide_eq_true (p := a < k) c65]; rfl) | (rw [decide_eq_false (p := L w k < L w a) c25, decide_eq_true (p := L w a = L w k) c49, decide_eq_true (p := 0 < L w a) (Int32.not_le.mp c60), decide_eq_false (p := a < k) (by omega)]; rfl)
        · refine wp_aload_n dX0_likesMore_33 rfl ?_
          refine wp_getR dX0_likesMore_34 gfa_X0_69_0 rfl hC.k0 hC.r12 ?_
          refine wp_iload_n dX0_likesMore_37 rfl ?_
          refine wp_aald dX0_likesMore_38 hC.k189 rfl w rfl (by omega) (by omega) (hC.rL (by omega)) ?_
          refine wp_iload_n dX0_likesMore_39 rfl ?_
          refine wp_iald dX0_likesMore_40 (hC.kL (by omega)) a rfl (by omega) (by omega) ?_
          rw [hL w a hw ha]
          refine wp_aload_n dX0_likesMore_41 rfl ?_
          refine wp_getR dX0_likesMore_42 gfa_X0_69_0 rfl hC.k0 hC.r12 ?_
          refine wp_iload_n dX0_likesMore_45 rfl ?_
          refine wp_aald dX0_likesMore_46 hC.k189 rfl w rfl (by omega) (by omega) (hC.rL (by omega)) ?_
          refine wp_iload_n dX0_likesMore_47 rfl ?_
          refine wp_iald dX0_likesMore_48 (hC.kL (by omega)) k rfl (by omega) (by omega) ?_
          rw [hL w k hw hk]
          refine wp_icmp_ne dX0_likesMore_49 72 (by decide) (fun c49 => ?_) (fun c49 => ?_)
          · refine wp_iconst dX0_likesMore_72 0 rfl ?_
            refine wp_zret dX0_likesMore_73 rfl (Or.inl rfl) ?_
            refine ⟨?_, rfl⟩
            show _ = some (Value.int (bI (decide (L w k < L w a) || ((decide (L w a = L w k) && decide (0 < L w a)) && decide (a < k)))))
            first | (rw [decide_eq_true (p := L w k < L w a) c25]; rfl) | exact absurd c30 (nI_nm1 (by omega)) | (rw [decide_eq_false (p := L w k < L w a) c25, decide_eq_false (p := L w a = L w k) c49]; rfl) | (rw [decide_eq_false (p := L w k < L w a) c25, decide_eq_true (p := L w a = L w k) c49, decide_eq_false (p := 0 < L w a) (Int32.not_lt.mpr c60)]; rfl) | (rw [decide_eq_false (p := L w k < L w a) c25, decide_eq_true (p := L w a = L w k) c49, decide_eq_true (p := 0 < L w a) (Int32.not_le.mp c60), decide_eq_true (p := a < k) c65]; rfl) | (rw [decide_eq_false (p := L w k < L w a) c25, decide_eq_true (p := L w a = L w k) c49, decide_eq_true (p := 0 < L w a) (Int32.not_le.mp c60), decide_eq_false (p := a < k) (by omega)]; rfl)
          · refine wp_aload_n dX0_likesMore_52 rfl ?_
            refine wp_getR dX0_likesMore_53 gfa_X0_69_0 rfl hC.k0 hC.r12 ?_
            refine wp_iload_n dX0_likesMore_56 rfl ?_
            refine wp_aald dX0_likesMore_57 hC.k189 rfl w rfl (by omega) (by omega) (hC.rL (by omega)) ?_
            refine wp_iload_n dX0_likesMore_58 rfl ?_
            refine wp_iald dX0_likesMore_59 (hC.kL (by omega)) a rfl (by omega) (by omega) ?_
            rw [hL w a hw ha]
            refine wp_if_le dX0_likesMore_60 72 (by decide) (fun c60 => ?_) (fun c60 => ?_)
            · refine wp_iconst dX0_likesMore_72 0 rfl ?_
              refine wp_zret dX0_likesMore_73 rfl (Or.inl rfl) ?_
              refine ⟨?_, rfl⟩
              show _ = some (Value.int (bI (decide (L w k < L w a) || ((decide (L w a = L w k) && decide (0 < L w a)) && decide (a < k)))))
              first | (rw [decide_eq_true (p := L w k < L w a) c25]; rfl) | exact absurd c30 (nI_nm1 (by omega)) | (rw [decide_eq_false (p := L w k < L w a) c25, decide_eq_false (p := L w a = L w k) c49]; rfl) | (rw [decide_eq_false (p := L w k < L w a) c25, decide_eq_true (p := L w a = L w k) c49, decide_eq_false (p := 0 < L w a) (Int32.not_lt.mpr c60)]; rfl) | (rw [decide_eq_false (p := L w k < L w a) c25, decide_eq_true (p := L w a = L w k) c49, decide_eq_true (p := 0 < L w a) (Int32.not_le.mp c60), decide_eq_true (p := a < k) c65]; rfl) | (rw [decide_eq_false (p := L w k < L w a) c25, decide_eq_true (p := L w a = L w k) c49, decide_eq_true (p := 0 < L w a) (Int32.not_le.mp c60), decide_eq_false (p := a < k) (by omega)]; rfl)
            · refine wp_iload_n dX0_likesMore_63 rfl ?_
              refine wp_iload_n dX0_likesMore_64 rfl ?_
              refine wp_icmp_geN dX0_likesMore_65 72 (by decide) a k rfl rfl (by omega) (by omega) (fun c65 => ?_) (fun c65 => ?_)
              · refine wp_iconst dX0_likesMore_72 0 rfl ?_
                refine wp_zret dX0_likesMore_73 rfl (Or.inl rfl) ?_
                refine ⟨?_, rfl⟩
                show _ = some (Value.int (bI (decide (L w k < L w a) || ((decide (L w a = L w k) && decide (0 < L w a)) && decide (a < k)))))
                first | (rw [decide_eq_true (p := L w k < L w a) c25]; rfl) | exact absurd c30 (nI_nm1 (by omega)) | (rw [decide_eq_false (p := L w k < L w a) c25, decide_eq_false (p := L w a = L w k) c49]; rfl) | (rw [decide_eq_false (p := L w k < L w a) c25, decide_eq_true (p := L w a = L w k) c49, decide_eq_false (p := 0 < L w a) (Int32.not_lt.mpr c60)]; rfl) | (rw [decide_eq_false (p := L w k < L w a) c25, decide_eq_true (p := L w a = L w k) c49, decide_eq_true (p := 0 < L w a) (Int32.not_le.mp c60), decide_eq_true (p := a < k) c65]; rfl) | (rw [decide_eq_false (p := L w k < L w a) c25, decide_eq_true (p := L w a = L w k) c49, decide_eq_true (p := 0 < L w a) (Int32.not_le.mp c60), decide_eq_false (p := a < k) (by omega)]; rfl)
              · refine wp_iconst dX0_likesMore_68 1 rfl ?_
                refine wp_goto dX0_likesMore_69 73 (by decide) ?_
                refine wp_zret dX0_likesMore_73 rfl (Or.inr rfl) ?_
                refine ⟨?_, rfl⟩
                show _ = some (Value.int (bI (decide (L w k < L w a) || ((decide (L w a = L w k) && decide (0 < L w a)) && decide (a < k)))))
                first | (rw [decide_eq_true (p := L w k < L w a) c25]; rfl) | exact absurd c30 (nI_nm1 (by omega)) | (rw [decide_eq_false (p := L w k < L w a) c25, decide_eq_false (p := L w a = L w k) c49]; rfl) | (rw [decide_eq_false (p := L w k < L w a) c25, decide_eq_true (p := L w a = L w k) c49, decide_eq_false (p := 0 < L w a) (Int32.not_lt.mpr c60)]; rfl) | (rw [decide_eq_false (p := L w k < L w a) c25, decide_eq_true (p := L w a = L w k) c49, decide_eq_true (p := 0 < L w a) (Int32.not_le.mp c60), decide_eq_true (p := a < k) c65]; rfl) | (rw [decide_eq_false (p := L w k < L w a) c25, decide_eq_true (p := L w a = L w k) c49, decide_eq_true (p := 0 < L w a) (Int32.not_le.mp c60), decide_eq_false (p := a < k) (by omega)]; rfl)
    · exact absurd c10 (nI_nm1 (by omega))
theorem ct_nextFor {L : Nat → Nat → Int32} {A : Int32} {i : Nat} (hi' : i < 12) (hC : CK b σ) (hL : LkA b L σ) (hA : stI σ (b + 188) i = A) : Ct Γ 1 0 0 m_X0_nextFor [.ref b, .int (nI i)] σ (fun r τ => r = some (.int (okI (nextN L A i 12))) ∧ τ = σ) := by
  refine Ct.ofWP pf_X0_nextFor rfl rfl ?_
  have loop : ∀ n k, k ≤ 12 → 12 - k < n → WP Γ m_X0_nextFor 1 0 0 4 [some (.ref b), some (.int (nI i)), some (.int (okI (nextN L A i k))), some (.int (nI k))] [] σ (fun r τ => r = some (.int (okI (nextN L A i 12))) ∧ τ = σ) := by
    intro n
    induction n with
    | zero => intro k h1 h2; omega
    | succ n ih =>
      intro k h1 h2
      refine wp_iload_n dX0_nextFor_4 rfl ?_
      refine wp_bipush dX0_nextFor_5 12 rfl ?_
      refine wp_icmp_geN dX0_nextFor_7 52 (by decide) k 12 rfl rfl (by omega) (by omega) (fun c7 => ?_) (fun c7 => ?_)
      · refine wp_iload_n dX0_nextFor_52 rfl ?_
        refine wp_iret dX0_nextFor_53 rfl ?_
        obtain rfl : k = 12 := by omega
        exact ⟨rfl, rfl⟩
      · refine wp_aload_n dX0_nextFor_10 rfl ?_
        refine wp_getR dX0_nextFor_11 gfa_X0_66_0 rfl hC.k0 hC.r11 ?_
        refine wp_iload_n dX0_nextFor_14 rfl ?_
        refine wp_iald dX0_nextFor_15 hC.k188 i rfl (by omega) (by omega) ?_
        rw [hA]
        refine wp_iload_n dX0_nextFor_16 rfl ?_
        refine wp_cI (gcS dX0_nextFor_17 gsa_X0_246 (ct_has _ _) rfl rfl (by omega) (by omega) (by omega) (Nat.le_of_ble_eq_true rfl) rfl) ?_
        refine wp_if_ne dX0_nextFor_20 46 (by decide) (fun c20 => ?_) (fun c20 => ?_)
        · refine wp_iinc dX0_nextFor_46 rfl rfl (nI (k + 1)) (nI_add k 1) ?_
          refine wp_goto dX0_nextFor_49 4 (by decide) ?_
          refine WP.cast ?_ (ih (k + 1) (by omega) (by omega))
          first | (rw [nextN, if_neg (by rw [bI_1.mp c20]; simp)]; rfl) | (rw [nextN, if_neg (by rw [decide_eq_false (p := 0 < L i k) (Int32.not_lt.mpr c31)]; simp)]; rfl) | (rw [nextN, if_neg (by rw [bI_0.mp c41]; simp)]; rfl) | (rw [nextN, if_pos (by rw [bI_0.mp c20, decide_eq_true (p := 0 < L i k) (Int32.not_le.mp c31), bI_1.mp c41]; rfl)]; rfl)
        · refine wp_aload_n dX0_nextFor_23 rfl ?_
          refine wp_getR dX0_nextFor_24 gfa_X0_69_0 rfl hC.k0 hC.r12 ?_
          refine wp_iload_n dX0_nextFor_27 rfl ?_
          refine wp_aald dX0_nextFor_28 hC.k189 rfl i rfl (by omega) (by omega) (hC.rL (by omega)) ?_
          refine wp_iload_n dX0_nextFor_29 rfl ?_
          refine wp_iald dX0_nextFor_30 (hC.kL (by omega)) k rfl (by omega) (by omega) ?_
          rw [hL i k hi' c7]
          refine wp_if_le dX0_nextFor_31 46 (by decide) (fun c31 => ?_) (fun c31 => ?_)
          · refine wp_iinc dX0_nextFor_46 rfl rfl (nI (k + 1)) (nI_add k 1) ?_
            refine wp_goto dX0_nextFor_49 4 (by decide) ?_
            refine WP.cast ?_ (ih (k + 1) (by omega) (by omega))
            first | (rw [nextN, if_neg (by rw [bI_1.mp c20]; simp)]; rfl) | (rw [nextN, if_neg (by rw [decide_eq_false (p := 0 < L i k) (Int32.not_lt.mpr c31)]; simp)]; rfl) | (rw [nextN, if_neg (by rw [bI_0.mp c41]; simp)]; rfl) | (rw [nextN, if_pos (by rw [bI_0.mp c20, decide_eq_true (p := 0 < L i k) (Int32.not_le.mp c31), bI_1.mp c41]; rfl)]; rfl)
          · refine wp_aload_n dX0_nextFor_34 rfl ?_
            refine wp_iload_n dX0_nextFor_35 rfl ?_
            refine wp_iload_n dX0_nextFor_36 rfl ?_
            refine wp_iload_n dX0_nextFor_37 rfl ?_
            refine wp_cI (gcV dX0_nextFor_38 gva_X0_256_0 (ct_likesMore (nextN L A i k) hi' c7 (fun q h => by have := nextN_lt k h; omega) hC hL) hC.k0 rfl rfl (by omega) (by omega) (by omega) (Nat.le_of_ble_eq_true rfl) rfl) ?_
            refine wp_if_eq dX0_nextFor_41 46 (by decide) (fun c41 => ?_) (fun c41 => ?_)
            · refine wp_iinc dX0_nextFor_46 rfl rfl (nI (k + 1)) (nI_add k 1) ?_
              refine wp_goto dX0_nextFor_49 4 (by decide) ?_
              refine WP.cast ?_ (ih (k + 1) (by omega) (by omega))
              first | (rw [nextN, if_neg (by rw [bI_1.mp c20]; simp)]; rfl) | (rw [nextN, if_neg (by rw [decide_eq_false (p := 0 < L i k) (Int32.not_lt.mpr c31)]; simp)]; rfl) | (rw [nextN, if_neg (by rw [bI_0.mp c41]; simp)]; rfl) | (rw [nextN, if_pos (by rw [bI_0.mp c20, decide_eq_true (p := 0 < L i k) (Int32.not_le.mp c31), bI_1.mp c41]; rfl)]; rfl)
            · refine wp_iload_n dX0_nextFor_44 rfl ?_
              refine wp_istore_n dX0_nextFor_45 rfl ?_
              refine wp_iinc dX0_nextFor_46 rfl rfl (nI (k + 1)) (nI_add k 1) ?_
              refine wp_goto dX0_nextFor_49 4 (by decide) ?_
              refine WP.cast ?_ (ih (k + 1) (by omega) (by omega))
              first | (rw [nextN, if_neg (by rw [bI_1.mp c20]; simp)]; rfl) | (rw [nextN, if_neg (by rw [decide_eq_false (p := 0 < L i k) (Int32.not_lt.mpr c31)]; simp)]; rfl) | (rw [nextN, if_neg (by rw [bI_0.mp c41]; simp)]; rfl) | (rw [nextN, if_pos (by rw [bI_0.mp c20, decide_eq_true (p := 0 < L i k) (Int32.not_le.mp c31), bI_1.mp c41]; rfl)]; rfl)
  refine wp_iconst dX0_nextFor_0 (-1) rfl ?_
  refine wp_istore_n dX0_nextFor_1 rfl ?_
  refine wp_iconst dX0_nextFor_2 0 rfl ?_
  refine wp_istore_n dX0_nextFor_3 rfl ?_
  exact loop 13 0 (by omega) (by omega)
end
