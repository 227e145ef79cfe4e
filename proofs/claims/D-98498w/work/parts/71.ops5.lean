set_option maxRecDepth 100000
theorem wiB_nat {v : Int32} {lo hi : Nat} (hl : lo ≤ hi) (hh : hi < 2147483648) (h : wiB v (nI lo) (nI hi) = true) : ∃ m : Nat, lo ≤ m ∧ m ≤ hi ∧ v = nI m := by
  unfold wiB at h
  rw [Bool.and_eq_true, decide_eq_true_eq, decide_eq_true_eq] at h
  obtain ⟨h1, h2⟩ := h
  have h0 : ¬ v < 0 := by
    have e := Int32.le_iff_toInt_le.mp h1
    rw [nI_toInt (by omega)] at e
    rw [Int32.lt_iff_toInt_lt, show (0 : Int32).toInt = 0 by decide]
    omega
  obtain ⟨j, hj, rfl⟩ := nI_of h0
  exact ⟨j, (nI_leI (by omega) hj).mp h1, (nI_leI hj (by omega)).mp h2, rfl⟩
def psh1 (σ : St) (b n : Nat) (x : Int32) : St := setI (setI σ (b + 155) n x.toInt8.toInt32) b 6 (nI (n + 1))
def psh (σ : St) (b n : Nat) (v : Int32) : St := psh1 (psh1 (psh1 (psh1 σ b n (v >>> (24 &&& 31))) b (n + 1) (v >>> (16 &&& 31))) b (n + 2) (v >>> (8 &&& 31))) b (n + 3) (v >>> (0 &&& 31))
def feedS (σ : St) (b n : Nat) (v w x y z : Int32) : St := psh (psh (psh (psh (psh σ b n v) b (n + 4) w) b (n + 8) x) b (n + 12) y) b (n + 16) z
theorem psh1_6 {σ : St} {b n : Nat} {x : Int32} : stI (psh1 σ b n x) b 6 = nI (n + 1) := by rw [psh1, stI_setI, if_pos ⟨rfl, rfl⟩]
theorem psh_6 {σ : St} {b n : Nat} {x : Int32} : stI (psh σ b n x) b 6 = nI (n + 4) := psh1_6
theorem CK.psh1 {σ : St} {b n : Nat} {x : Int32} (h : CK b σ) : CK b (psh1 σ b n x) := h.kr ((KR.rf.setI _ _ _).setI _ _ _)
theorem CK.psh {σ : St} {b n : Nat} {x : Int32} (h : CK b σ) : CK b (psh σ b n x) := h.psh1.psh1.psh1.psh1
def chkN (p : Nat → Bool) : Nat → Nat → Int32
  | 0, _ => -1
  | f + 1, h => if p h = true then nI h else chkN p f (h + 1)
def chkP (T : Nat → Int32) (G : Gd) (i h : Nat) : Bool := !decide (T h = G (h + 20) i + 9)
def chkB (k n t : Int32) : Bool := (inB k 12 && wiB n 0 8) && decide (n ≤ t)
def checkV (T : Nat → Int32) (G : Gd) (k n t : Int32) : Int32 := if chkB k n t = true then chkN (chkP T G (ix k)) (ix n) 0 else -2
def countV (G : Gd) (m t w : Int32) : Int32 := if inB (w - 10) 6 = true then bitF (inTB G (w - 10)) 12 else if w = 0 then G 30 2 else if w = 1 then bitF (tldB G 0) 12 else if w = 2 then bitF (tldB G 1) 12 else if w = 3 then cplN G 12 else if w = 4 then m else if w = 5 then t else if w = 6 then G 30 3 else -1
def triedB (G : Gd) (n w : Int32) : Bool := wiB n 1 60 && (inB w 4 || (prsV G (w - 10) || inB (w - 30) 12))
def triedV (G : Gd) (w : Int32) : Int32 := if w = 0 then G 30 4 else if w = 1 then G 30 5 else if w = 2 then G 30 6 else if w = 3 then cplN G 12 else if w < 30 then orNone (G 3 (ix (w - 10))) else G 11 (ix (w - 30))
theorem GI_take {G G' : Gd} (h : GI G') : GI (takeG G G') := by
  intro i hi
  have e : ∀ f, 1 ≤ f → f ≤ 9 → takeG G G' f i = G' f i := fun f h1 h2 => by
    rw [takeG, sset, if_neg (by omega), sset, if_neg (by omega), tkN, if_pos ⟨hi, by rw [tkF, decide_eq_true (p := 1 ≤ f ∧ f ≤ 9) ⟨h1, h2⟩]; rfl⟩]
  have := h i hi
  unfold GI1 GI3 at *
  rw [e 6 (by omega) (by omega), e 7 (by omega) (by omega), e 3 (by omega) (by omega)]
  exact this
section
variable {Γ : Gm} {σ : St} {b hi : Nat} {Lw : Lws}
theorem ct_push {n : Nat} (v : Int32) (hC : CK b σ) (hn : n + 4 ≤ 260) (ht : stI σ b 6 = nI n) : Ct Γ 0 0 0 m_X0_push [.ref b, .int v] σ (fun r τ => r = none ∧ τ = psh σ b n v) := by
  refine Ct.ofWP pf_X0_push rfl rfl ?_
  have step : ∀ (Q : Option Value → St → Prop) (x : Int32) (m : Nat) (ρ : St), ¬ x < 0 → m < 260 → CK b ρ → stI ρ b 6 = nI m → WP Γ m_X0_push 0 0 0 3 [some (.ref b), some (.int v), some (.int (x + Int32.ofInt (-8)))] [] (psh1 ρ b m (v >>> (x &&& 31))) Q → WP Γ m_X0_push 0 0 0 3 [some (.ref b), some (.int v), some (.int x)] [] ρ Q := by
    intro Q x m ρ hx hm hC ht k
    refine wp_iload_n dX0_push_3 rfl ?_
    refine wp_if_lt dX0_push_4 36 (by decide) (fun c4 => absurd c4 hx) (fun c4 => ?_)
    refine wp_aload_n dX0_push_7 rfl ?_
    refine wp_getR dX0_push_8 gfa_X0_43_0 rfl hC.k0 hC.r4 ?_
    refine wp_aload_n dX0_push_11 rfl ?_
    refine wp_getI dX0_push_12 gfa_X0_149_0 rfl hC.k0 ?_
    refine wp_iload_n dX0_push_15 rfl ?_
    refine wp_iload_n dX0_push_16 rfl ?_
    refine wp_ishr dX0_push_17 ?_
    refine wp_i2b dX0_push_18 ?_
    refine wp_bast dX0_push_19 hC.k155 m ht (by omega) (by omega) ?_
    have hC' : CK b (setI ρ (b + 155) m (v >>> (x &&& 31)).toInt8.toInt32.toInt8.toInt32) := hC.kr (KR.rf.setI _ _ _)
    refine wp_aload_n dX0_push_20 rfl ?_
    refine wp_dup dX0_push_21 rfl ?_
    refine wp_getI dX0_push_22 gfa_X0_149_0 rfl hC.k0 ?_
    rw [stI_setI, if_neg (by omega), ht]
    refine wp_iconst dX0_push_25 1 rfl ?_
    refine wp_iadd dX0_push_26 ?_
    refine wp_putI dX0_push_27 gfa_X0_149_0 (Or.inl rfl) rfl ⟨rfl, rfl⟩ hC.k0 ?_
    refine wp_iinc dX0_push_30 rfl rfl _ rfl ?_
    refine wp_goto dX0_push_33 3 (by decide) ?_
    rw [psh1, ← Int8.toInt8_toInt32 (v >>> (x &&& 31)).toInt8, ← nI_1] at k
    exact k
  refine wp_bipush dX0_push_0 24 rfl ?_
  refine wp_istore_n dX0_push_2 rfl ?_
  refine step _ 24 n _ (by decide) (by omega) hC ht ?_
  refine step _ 16 (n + 1) _ (by decide) (by omega) hC.psh1 psh1_6 ?_
  refine step _ 8 (n + 2) _ (by decide) (by omega) hC.psh1.psh1 psh1_6 ?_
  refine step _ 0 (n + 3) _ (by decide) (by omega) hC.psh1.psh1.psh1 psh1_6 ?_
  refine wp_iload_n dX0_push_3 rfl ?_
  refine wp_if_lt dX0_push_4 36 (by decide) (fun c => ?_) (fun c => absurd (by decide) c)
  exact wp_vret dX0_push_36 rfl ⟨rfl, rfl⟩
end
