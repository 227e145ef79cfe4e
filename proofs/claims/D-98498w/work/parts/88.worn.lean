set_option maxRecDepth 100000
def wrnG (G : Gd) (i j : Nat) (w : Int32) : Nat → Gd
  | 0 => G
  | n + 1 => wearG (wrnG G i j w n) (nI i) (nI j) w 12
def wrnS (G : Gd) (i j : Nat) (w : Int32) (n : Nat) : Int32 := slackL (wrnG G i j w n) (nI i) (nI j)
def wrnW (G : Gd) (i j : Nat) (w : Int32) : Nat → Int32
  | 0 => 268435456
  | n + 1 => wrnS G i j w n
def wrnC (G : Gd) (i j : Nat) (w y : Int32) (n : Nat) : Prop := y < wrnS G i j w n ∧ wrnS G i j w n < wrnW G i j w n
def WornR (G : Gd) (i j : Nat) (w y r : Int32) : Prop := ∃ n, (∀ k, k < n → wrnC G i j w y k) ∧ (¬ wrnC G i j w y n ∧ r = if wrnS G i j w n ≤ y then nI n else -2)
section
variable {Γ : Gm} {σ : St} {b hi : Nat} {Lw : Lws}
theorem worn_wear {G0 : Gd} {i j : Nat} {w y : Int32} {o1 o2 o7 o8 : Option Value} {Q : Option Value → St → Prop} (hi' : i < 12) (hj : j < 12) (hC0 : CK b σ) (hQ : ∀ ρ o9 o10 o11 o12, LPo b (b + 53) σ (wearG G0 (nI i) (nI j) w 12) ρ → WP Γ m_X0_worn 53 0 0 261 [some (.ref b), o1, o2, some (.int (nI i)), some (.int (nI j)), some (.int w), some (.int y), o7, o8, o9, o10, o11, o12] [] ρ Q) :
    ∀ f k ρ o12, k + f = 12 → LPo b (b + 53) σ (wearG G0 (nI i) (nI j) w k) ρ → WP Γ m_X0_worn 53 0 0 215 [some (.ref b), o1, o2, some (.int (nI i)), some (.int (nI j)), some (.int w), some (.int y), o7, o8, some (.ref (b + 53 + 2)), some (.int (nI 12)), some (.int (nI k)), o12] [] ρ Q := by
  intro f
  induction f with
  | zero =>
    intro k ρ o12 hk hP
    obtain rfl : k = 12 := by omega
    have hL1 := hP.L hC0.l1
    refine wp_iload dX0_worn_215 rfl ?_
    refine wp_iload dX0_worn_217 rfl ?_
    refine wp_icmp_geN dX0_worn_219 261 (by decide) 12 12 rfl rfl (by omega) (by omega) (fun c219 => ?_) (fun c219 => ?_)
    · exact hQ _ _ _ _ _ hP
    · omega
  | succ f ih =>
    intro k ρ o12 hk hP
    have hL1 := hP.L hC0.l1
    have e12 := wearG_12 G0 (nI i) (nI j) w k k
    refine wp_iload dX0_worn_215 rfl ?_
    refine wp_iload dX0_worn_217 rfl ?_
    refine wp_icmp_geN dX0_worn_219 261 (by decide) k 12 rfl rfl (by omega) (by omega) (fun c219 => ?_) (fun c219 => ?_)
    · omega
    · refine wp_aload dX0_worn_222 rfl ?_
      refine wp_iload dX0_worn_224 rfl ?_
      refine wp_aald dX0_worn_226 hL1.k2 rfl k rfl (by omega) (by omega) (hL1.rE (by omega)) ?_
      refine wp_astore dX0_worn_227 rfl ?_
      refine wp_aload dX0_worn_229 rfl ?_
      refine wp_getI dX0_worn_231 gfa_X0_121_5 rfl (hL1.kE (by omega)) ?_
      rw [hP.e2 (by omega), e12]
      refine wp_iload_n dX0_worn_234 rfl ?_
      refine wp_icmp_eq dX0_worn_235 248 (by decide) (fun c235 => ?_) (fun c235 => ?_)
      · refine wp_aload dX0_worn_248 rfl ?_
        refine wp_iload dX0_worn_250 rfl ?_
        refine wp_cV (gcV dX0_worn_252 gva_X0_311_5 (ct_wears _ (hL1.pc (by omega))) (hL1.kE (by omega)) rfl rfl (by omega) (by omega) (by omega) (Nat.le_of_ble_eq_true rfl) rfl) ?_
        refine wp_iinc dX0_worn_255 rfl rfl (nI (k + 1)) (nI_add k 1) ?_
        refine wp_goto dX0_worn_258 215 (by decide) ?_
        refine ih (k + 1) _ _ (by omega) ?_
        rw [wearG]
        first | (rw [if_pos (by first | exact Or.inl c235 | exact Or.inr c245)]; rw [hP.e1 (by omega)]; exact hP.sete (by omega) (by omega)) | (rw [if_neg (by rintro (h | h); exact c235 h; exact c245 h)]; exact hP)
      · refine wp_aload dX0_worn_238 rfl ?_
        refine wp_getI dX0_worn_240 gfa_X0_121_5 rfl (hL1.kE (by omega)) ?_
        rw [hP.e2 (by omega), e12]
        refine wp_iload dX0_worn_243 rfl ?_
        refine wp_icmp_ne dX0_worn_245 255 (by decide) (fun c245 => ?_) (fun c245 => ?_)
        · refine wp_iinc dX0_worn_255 rfl rfl (nI (k + 1)) (nI_add k 1) ?_
          refine wp_goto dX0_worn_258 215 (by decide) ?_
          refine ih (k + 1) _ _ (by omega) ?_
          rw [wearG]
          first | (rw [if_pos (by first | exact Or.inl c235 | exact Or.inr c245)]; rw [hP.e1 (by omega)]; exact hP.sete (by omega) (by omega)) | (rw [if_neg (by rintro (h | h); exact c235 h; exact c245 h)]; exact hP)
        · refine wp_aload dX0_worn_248 rfl ?_
          refine wp_iload dX0_worn_250 rfl ?_
          refine wp_cV (gcV dX0_worn_252 gva_X0_311_5 (ct_wears _ (hL1.pc (by omega))) (hL1.kE (by omega)) rfl rfl (by omega) (by omega) (by omega) (Nat.le_of_ble_eq_true rfl) rfl) ?_
          refine wp_iinc dX0_worn_255 rfl rfl (nI (k + 1)) (nI_add k 1) ?_
          refine wp_goto dX0_worn_258 215 (by decide) ?_
          refine ih (k + 1) _ _ (by omega) ?_
          rw [wearG]
          first | (rw [if_pos (by first | exact Or.inl c235 | exact Or.inr c245)]; rw [hP.e1 (by omega)]; exact hP.sete (by omega) (by omega)) | (rw [if_neg (by rintro (h | h); exact c235 h; exact c245 h)]; exact hP)
end
