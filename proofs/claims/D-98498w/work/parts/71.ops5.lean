set_option maxRecDepth 100000
theorem wiB_nat {v : Int32} {lo hi : Nat} (hl : lo ≤ hi) (hh : hi < 2147483648) (h : wiB v (nI lo) (nI hi) = true) : ∃ m : Nat, lo ≤ m ∧ m ≤ hi ∧ v = nI m := by
  unfold wiB at h
  rw [Bool.and_eq_true, decide_eq_true_eq, decide_eq_true_eq] at h
  obtain ⟨h1, h2⟩ := h
  have h0 : ¬ v < 0 := by
    have e := Int32.le_iff_toInt_le.mp h1
    rw [nI_toInt (by omega)] at e
    rw [Int32.lt_iff_toInt_lt, show (0 : Int32).toInt = 0 by decide]
    omega
  obtain ⟨j, hj, rfl⟩ := nI_of h0
  exact ⟨j, (nI_leI (by omega) hj).mp h1, (nI_leI hj (by omega)).mp h2, rfl⟩
def psh1 (σ : St) (b n : Nat) (x : Int32) : St := setI (setI σ (b + 155) n x.toInt8.toInt32) b 6 (nI (n + 1))
def psh (σ : St) (b n : Nat) (v : Int32) : St := psh1 (psh1 (psh1 (psh1 σ b n (v >>> (24 &&& 31))) b (n + 1) (v >>> (16 &&& 31))) b (n + 2) (v >>> (8 &&& 31))) b (n + 3) (v >>> (0 &&& 31))
def feedS (σ : St) (b n : Nat) (v w x y z : Int32) : St := psh (psh (psh (psh (psh σ b n v) b (n + 4) w) b (n + 8) x) b (n + 12) y) b (n + 16) z
theorem psh1_6 {σ : St} {b n : Nat} {x : Int32} : stI (psh1 σ b n x) b 6 = nI (n + 1) := by rw [psh1, stI_setI, if_pos ⟨rfl, rfl⟩]
theorem psh_6 {σ : St} {b n : Nat} {x : Int32} : stI (psh σ b n x) b 6 = nI (n + 4) := psh1_6
theorem CK.psh1 {σ : St} {b n : Nat} {x : Int32} (h : CK b σ) : CK b (psh1 σ b n x) := h.kr ((KR.rf.setI _ _ _).setI _ _ _)
theorem CK.psh {σ : St} {b n : Nat} {x : Int32} (h : CK b σ) : CK b (psh σ b n x) := h.psh1.psh1.psh1.psh1
def chkN (p : Nat → Bool) : Nat → Nat → Int32
  | 0, _ => -1
  | f + 1, h => if p h = true then nI h else chkN p f (h + 1)
def chkP (T : Nat → Int32) (G : Gd) (i h : Nat) : Bool := !decide (T h = G (h + 20) i + 9)
def chkB (k n t : Int32) : Bool := (inB k 12 && wiB n 0 8) && decide (n ≤ t)
def checkV (T : Nat → Int32) (G : Gd) (k n t : Int32) : Int32 := if chkB k n t = true then chkN (chkP T G (ix k)) (ix n) 0 else -2
def countV (G : Gd) (m t w : Int32) : Int32 := if inB (w - 10) 6 = true then bitF (inTB G (w - 10)) 12 else if w = 0 then G 30 2 else if w = 1 then bitF (tldB G 0) 12 else if w = 2 then bitF (tldB G 1) 12 else if w = 3 then cplN G 12 else if w = 4 then m else if w = 5 then t else if w = 6 then G 30 3 else -1
def triedB (G : Gd) (n w : Int32) : Bool := wiB n 1 60 && (inB w 4 || (prsV G (w - 10) || inB (w - 30) 12))
def triedV (G : Gd) (w : Int32) : Int32 := if w = 0 then G 30 4 else if w = 1 then G 30 5 else if w = 2 then G 30 6 else if w = 3 then cplN G 12 else if w < 30 then orNone (G 3 (ix (w - 10))) else G 11 (ix (w - 30))
theorem GI_take {G G' : Gd} (h : GI G') : GI (takeG G G') := by
  intro i hi
  have e : ∀ f, 1 ≤ f → f ≤ 9 → takeG G G' f i = G' f i := fun f h1 h2 => by
    rw [takeG, sset, if_neg (by omega), sset, if_neg (by omega), tkN, if_pos ⟨hi, by rw [tkF, decide_eq_true (p := 1 ≤ f ∧ f ≤ 9) ⟨h1, h2⟩]; rfl⟩]
  have := h i hi
  unfold GI1 GI3 at *
  rw [e 6 (by omega) (by omega), e 7 (by omega) (by omega), e 3 (by omega) (by omega)]
  exact this
section
variable {Γ : Gm} {σ : St} {b hi : Nat} {Lw : Lws}
theorem ct_push {n : Nat} (v : Int32) (hC : CK b σ) (hn : n + 4 ≤ 260) (ht : stI σ b 6 = nI n) : Ct Γ 0 0 0 m_X0_push [.ref b, .int v] σ (fun r τ => r = none ∧ τ = psh σ b n v) := by
  refine Ct.ofWP pf_X0_push rfl rfl ?_
  have step : ∀ (Q : Option Value → St → Prop) (x : Int32) (m : Nat) (ρ : St), ¬ x < 0 → m < 260 → CK b ρ → stI ρ b 6 = nI m → WP Γ m_X0_push 0 0 0 3 [some (.ref b), some (.int v), some (.int (x + Int32.ofInt (-8)))] [] (psh1 ρ b m (v >>> (x &&& 31))) Q → WP Γ m_X0_push 0 0 0 3 [some (.ref b), some (.int v), some (.int x)] [] ρ Q := by
    intro Q x m ρ hx hm hC ht k
    refine wp_iload_n dX0_push_3 rfl ?_
    refine wp_if_lt dX0_push_4 36 (by decide) (fun c4 => absurd c4 hx) (fun c4 => ?_)
    refine wp_aload_n dX0_push_7 rfl ?_
    refine wp_getR dX0_push_8 gfa_X0_43_0 rfl hC.k0 hC.r4 ?_
    refine wp_aload_n dX0_push_11 rfl ?_
    refine wp_getI dX0_push_12 gfa_X0_149_0 rfl hC.k0 ?_
    refine wp_iload_n dX0_push_15 rfl ?_
    refine wp_iload_n dX0_push_16 rfl ?_
    refine wp_ishr dX0_push_17 ?_
    refine wp_i2b dX0_push_18 ?_
    refine wp_bast dX0_push_19 hC.k155 m ht (by omega) (by omega) ?_
    have hC' : CK b (setI ρ (b + 155) m (v >>> (x &&& 31)).toInt8.toInt32.toInt8.toInt32) := hC.kr (KR.rf.setI _ _ _)
    refine wp_aload_n dX0_push_20 rfl ?_
    refine wp_dup dX0_push_21 rfl ?_
    refine wp_getI dX0_push_22 gfa_X0_149_0 rfl hC.k0 ?_
    rw [stI_setI, if_neg (by omega), ht]
    refine wp_iconst dX0_push_25 1 rfl ?_
    refine wp_iadd dX0_push_26 ?_
    refine wp_putI dX0_push_27 gfa_X0_149_0 (Or.inl rfl) rfl ⟨rfl, rfl⟩ hC.k0 ?_
    refine wp_iinc dX0_push_30 rfl rfl _ rfl ?_
    refine wp_goto dX0_push_33 3 (by decide) ?_
    rw [psh1, ← Int8.toInt8_toInt32 (v >>> (x &&& 31)).toInt8, ← nI_1] at k
    exact k
  refine wp_bipush dX0_push_0 24 rfl ?_
  refine wp_istore_n dX0_push_2 rfl ?_
  refine step _ 24 n _ (by decide) (by omega) hC ht ?_
  refine step _ 16 (n + 1) _ (by decide) (by omega) hC.psh1 psh1_6 ?_
  refine step _ 8 (n + 2) _ (by decide) (by omega) hC.psh1.psh1 psh1_6 ?_
  refine step _ 0 (n + 3) _ (by decide) (by omega) hC.psh1.psh1.psh1 psh1_6 ?_
  refine wp_iload_n dX0_push_3 rfl ?_
  refine wp_if_lt dX0_push_4 36 (by decide) (fun c => ?_) (fun c => absurd (by decide) c)
  exact wp_vret dX0_push_36 rfl ⟨rfl, rfl⟩
theorem ct_feed {n : Nat} (v w x y z : Int32) (hC : CK b σ) (hn : n ≤ 260) (ht : stI σ b 6 = nI n) : Ct Γ 1 0 0 m_X0_feed [.ref b, .int v, .int w, .int x, .int y, .int z] σ (fun r τ => r = some (.int (if n + 20 ≤ 260 then nI (n + 20) else -1)) ∧ τ = (if n + 20 ≤ 260 then feedS σ b n v w x y z else σ)) := by
  refine Ct.ofWP pf_X0_feed rfl rfl ?_
  have h1 : CK b (psh σ b n v) := hC.psh
  have h2 : CK b (psh (psh σ b n v) b (n + 4) w) := h1.psh
  have h3 : CK b (psh (psh (psh σ b n v) b (n + 4) w) b (n + 8) x) := h2.psh
  have h4 : CK b (psh (psh (psh (psh σ b n v) b (n + 4) w) b (n + 8) x) b (n + 12) y) := h3.psh
  have h5 : CK b (feedS σ b n v w x y z) := h4.psh
  refine wp_aload_n dX0_feed_0 rfl ?_
  refine wp_getI dX0_feed_1 gfa_X0_149_0 rfl hC.k0 ?_
  rw [ht]
  refine wp_bipush dX0_feed_4 20 rfl ?_
  refine wp_iadd dX0_feed_6 ?_
  refine wp_top (y := nI (n + 20)) (nI_add n 20) ?_
  refine wp_sipush dX0_feed_7 260 rfl ?_
  refine wp_icmp_leN dX0_feed_10 15 (by decide) (n + 20) 260 rfl rfl (by omega) (by omega) (fun c10 => ?_) (fun c10 => ?_)
  · refine wp_aload_n dX0_feed_15 rfl ?_
    refine wp_iload_n dX0_feed_16 rfl ?_
    refine wp_cV (gcV dX0_feed_17 gva_X0_152_0 (ct_push v hC (by omega) ht) hC.k0 rfl rfl (by omega) (by omega) (by omega) (Nat.le_of_ble_eq_true rfl) rfl) ?_
    skip
    refine wp_aload_n dX0_feed_20 rfl ?_
    refine wp_iload_n dX0_feed_21 rfl ?_
    refine wp_cV (gcV dX0_feed_22 gva_X0_152_0 (ct_push (n := n + 4) w h1 (by omega) psh_6) h1.k0 rfl rfl (by omega) (by omega) (by omega) (Nat.le_of_ble_eq_true rfl) rfl) ?_
    refine wp_aload_n dX0_feed_25 rfl ?_
    refine wp_iload_n dX0_feed_26 rfl ?_
    refine wp_cV (gcV dX0_feed_27 gva_X0_152_0 (ct_push (n := n + 8) x h2 (by omega) psh_6) h2.k0 rfl rfl (by omega) (by omega) (by omega) (Nat.le_of_ble_eq_true rfl) rfl) ?_
    refine wp_aload_n dX0_feed_30 rfl ?_
    refine wp_iload dX0_feed_31 rfl ?_
    refine wp_cV (gcV dX0_feed_33 gva_X0_152_0 (ct_push (n := n + 12) y h3 (by omega) psh_6) h3.k0 rfl rfl (by omega) (by omega) (by omega) (Nat.le_of_ble_eq_true rfl) rfl) ?_
    refine wp_aload_n dX0_feed_36 rfl ?_
    refine wp_iload dX0_feed_37 rfl ?_
    refine wp_cV (gcV dX0_feed_39 gva_X0_152_0 (ct_push (n := n + 16) z h4 (by omega) psh_6) h4.k0 rfl rfl (by omega) (by omega) (by omega) (Nat.le_of_ble_eq_true rfl) rfl) ?_
    refine wp_aload_n dX0_feed_42 rfl ?_
    refine wp_getI dX0_feed_43 gfa_X0_149_0 rfl h5.k0 ?_
    refine wp_iret dX0_feed_46 rfl ?_
    rw [if_pos (by omega), if_pos (by omega)]
    exact ⟨by rw [psh_6], rfl⟩
  · refine wp_iconst dX0_feed_13 (-1) rfl ?_
    refine wp_iret dX0_feed_14 rfl ?_
    rw [if_neg (by omega), if_neg (by omega)]
    exact ⟨rfl, rfl⟩
theorem ct_check (k n : Int32) (hC : CK b σ) : Ct Γ 2 0 0 m_X0_check [.ref b, .int k, .int n] σ (fun r τ => r = some (.int (checkV (stI σ (b + 155)) (LG σ (b + 2)) k n (stI σ b 6))) ∧ τ = (if chkB k n (stI σ b 6) = true then setI σ b 6 0 else σ)) := by
  refine Ct.ofWP pf_X0_check rfl rfl ?_
  have hC' : CK b (setI σ b 6 0) := hC.kr (KR.rf.setI _ _ _)
  have loop : ∀ (i m : Nat), i < 12 → m ≤ 8 → ∀ f h, h + f = m → WP Γ m_X0_check 2 0 0 35 [some (.ref b), some (.int (nI i)), some (.int (nI m)), some (.int (nI h))] [] (setI σ b 6 0) (fun r τ => r = some (.int (chkN (chkP (stI σ (b + 155)) (LG σ (b + 2)) i) f h)) ∧ τ = setI σ b 6 0) := by
    intro i m hi' hm f
    induction f with
    | zero =>
      intro h hf
      refine wp_iload_n dX0_check_35 rfl ?_
      refine wp_iload_n dX0_check_36 rfl ?_
      refine wp_icmp_geN dX0_check_37 74 (by decide) h m rfl rfl (by omega) (by omega) (fun c37 => ?_) (fun c37 => absurd c37 (by omega))
      refine wp_iconst dX0_check_74 (-1) rfl ?_
      refine wp_iret dX0_check_75 rfl ?_
      exact ⟨rfl, rfl⟩
    | succ f ih =>
      intro h hf
      refine wp_iload_n dX0_check_35 rfl ?_
      refine wp_iload_n dX0_check_36 rfl ?_
      refine wp_icmp_geN dX0_check_37 74 (by decide) h m rfl rfl (by omega) (by omega) (fun c37 => absurd c37 (by omega)) (fun c37 => ?_)
      refine wp_aload_n dX0_check_40 rfl ?_
      refine wp_getR dX0_check_41 gfa_X0_43_0 rfl hC'.k0 hC'.r4 ?_
      refine wp_iload_n dX0_check_44 rfl ?_
      skip
      refine wp_bald dX0_check_45 hC'.k155 h rfl (by omega) (by omega) ?_
      refine wp_aload_n dX0_check_46 rfl ?_
      refine wp_getR dX0_check_47 gfa_X0_33_0 rfl hC'.k0 hC'.r1 ?_
      refine wp_getR dX0_check_50 gfa_X0_117_3 rfl hC'.l0.k0 hC'.l0.r1 ?_
      refine wp_iload_n dX0_check_53 rfl ?_
      refine wp_aald dX0_check_54 hC'.l0.k2 rfl i rfl (by omega) (by omega) (hC'.l0.rE (by omega)) ?_
      refine wp_getR dX0_check_55 gfa_X0_171_5 rfl (hC'.l0.kE (by omega)) (hC'.l0.rH (by omega)) ?_
      refine wp_iload_n dX0_check_58 rfl ?_
      refine wp_iald dX0_check_59 (hC'.l0.kH (by omega)) h rfl (by omega) (by omega) ?_
      rw [LG_h h (by omega) hi', LG_other (Or.inl (by omega)), stI_setI, if_neg (by omega)]
      refine wp_bipush dX0_check_60 9 rfl ?_
      refine wp_iadd dX0_check_62 ?_
      refine wp_icmp_eq dX0_check_63 68 (by decide) (fun c63 => ?_) (fun c63 => ?_)
      · refine wp_iinc dX0_check_68 rfl rfl (nI (h + 1)) (nI_add h 1) ?_
        refine wp_goto dX0_check_71 35 (by decide) ?_
        refine WP.mono (ih (h + 1) (by omega)) ?_
        intro r τ hq
        rw [chkN, if_neg (by rw [chkP, decide_eq_true c63]; decide)]
        exact hq
      · refine wp_iload_n dX0_check_66 rfl ?_
        refine wp_iret dX0_check_67 rfl ?_
        exact ⟨by rw [chkN, if_pos (by rw [chkP, decide_eq_false c63]; rfl)], rfl⟩
  refine wp_iload_n dX0_check_0 rfl ?_
  refine wp_cI (gcS dX0_check_1 gsa_X0_124 (ct_isPiece _) rfl rfl (by omega) (by omega) (by omega) (Nat.le_of_ble_eq_true rfl) rfl) ?_
  refine wp_if_eq dX0_check_4 25 (by decide) (fun c4 => ?_) (fun c4 => ?_)
  · refine wp_bipush dX0_check_25 (-2) rfl ?_
    refine wp_iret dX0_check_27 rfl ?_
    have e : chkB k n (stI σ b 6) = false := by
      first | (rw [chkB, bI_0.mp c4]; rfl) | (rw [chkB, bI_0.mp c14]; simp; done) | (rw [chkB, decide_eq_false c22]; simp)
    rw [checkV, e]
    exact ⟨rfl, rfl⟩
  · refine wp_iload_n dX0_check_7 rfl ?_
    refine wp_iconst dX0_check_8 0 rfl ?_
    refine wp_bipush dX0_check_9 8 rfl ?_
    refine wp_cI (gcS dX0_check_11 gsa_X0_128 (ct_within _ _ _) rfl rfl (by omega) (by omega) (by omega) (Nat.le_of_ble_eq_true rfl) rfl) ?_
    refine wp_if_eq dX0_check_14 25 (by decide) (fun c14 => ?_) (fun c14 => ?_)
    · refine wp_bipush dX0_check_25 (-2) rfl ?_
      refine wp_iret dX0_check_27 rfl ?_
      have e : chkB k n (stI σ b 6) = false := by
        first | (rw [chkB, bI_0.mp c4]; rfl) | (rw [chkB, bI_0.mp c14]; simp; done) | (rw [chkB, decide_eq_false c22]; simp)
      rw [checkV, e]
      exact ⟨rfl, rfl⟩
    · refine wp_iload_n dX0_check_17 rfl ?_
      refine wp_aload_n dX0_check_18 rfl ?_
      refine wp_getI dX0_check_19 gfa_X0_149_0 rfl hC.k0 ?_
      refine wp_icmp_le dX0_check_22 28 (by decide) (fun c22 => ?_) (fun c22 => ?_)
      · refine wp_aload_n dX0_check_28 rfl ?_
        refine wp_iconst dX0_check_29 0 rfl ?_
        refine wp_putI dX0_check_30 gfa_X0_149_0 (Or.inl rfl) rfl ⟨rfl, rfl⟩ hC.k0 ?_
        refine wp_iconst dX0_check_33 0 rfl ?_
        refine wp_istore_n dX0_check_34 rfl ?_
        have e : chkB k n (stI σ b 6) = true := by rw [chkB, bI_1.mp c4, bI_1.mp c14, decide_eq_true c22]; rfl
        obtain ⟨i, hi', rfl⟩ := inB_12 (bI_1.mp c4)
        obtain ⟨m, -, hm, rfl⟩ := wiB_nat (lo := 0) (hi := 8) (by omega) (by omega) (bI_1.mp c14)
        rw [checkV, if_pos e, if_pos e, ix_nI (by omega), ix_nI (by omega)]
        exact loop i m hi' hm m 0 (by omega)
      · refine wp_bipush dX0_check_25 (-2) rfl ?_
        refine wp_iret dX0_check_27 rfl ?_
        have e : chkB k n (stI σ b 6) = false := by
          first | (rw [chkB, bI_0.mp c4]; rfl) | (rw [chkB, bI_0.mp c14]; simp; done) | (rw [chkB, decide_eq_false c22]; simp)
        rw [checkV, e]
        exact ⟨rfl, rfl⟩
theorem ct_count (w : Int32) (hS : Sy b hi Lw σ) : Ct Γ 4 0 0 m_X0_count [.ref b, .int w] σ (fun r τ => r = some (.int (countV (LG σ (b + 2)) (nI Lw.length) (stI σ b 6) w)) ∧ τ = σ) := by
  refine Ct.ofWP pf_X0_count rfl rfl ?_
  have hC := hS.1
  obtain ⟨t, hr, hT⟩ := hS.2
  refine wp_iload_n dX0_count_0 rfl ?_
  refine wp_bipush dX0_count_1 10 rfl ?_
  refine wp_isub dX0_count_3 ?_
  refine wp_bipush dX0_count_4 6 rfl ?_
  refine wp_cI (gcS dX0_count_6 gsa_X0_103 (ct_in _ _) rfl rfl (by omega) (by omega) (by omega) (Nat.le_of_ble_eq_true rfl) rfl) ?_
  refine wp_if_eq dX0_count_9 21 (by decide) (fun c9 => ?_) (fun c9 => ?_)
  · refine wp_iload_n dX0_count_21 rfl ?_
    refine wp_tsw dX0_count_22 [(0, 64), (1, 72), (2, 78), (3, 84), (4, 92), (5, 100), (6, 105)] 113 (by decide) (List.forall_mem_cons.mpr ⟨fun c22 => ?_, (List.forall_mem_cons.mpr ⟨fun c22 => ?_, (List.forall_mem_cons.mpr ⟨fun c22 => ?_, (List.forall_mem_cons.mpr ⟨fun c22 => ?_, (List.forall_mem_cons.mpr ⟨fun c22 => ?_, (List.forall_mem_cons.mpr ⟨fun c22 => ?_, (List.forall_mem_cons.mpr ⟨fun c22 => ?_, List.forall_mem_nil _⟩)⟩)⟩)⟩)⟩)⟩)⟩) (fun c22 => ?_)
    · have c22 : _ = (0 : Int32) := c22
      refine wp_aload_n dX0_count_64 rfl ?_
      refine wp_getR dX0_count_65 gfa_X0_33_0 rfl hC.k0 hC.r1 ?_
      refine wp_getI dX0_count_68 gfa_X0_332_3 rfl hC.l0.k0 ?_
      rw [LG_s (by omega)]
      refine wp_iret dX0_count_71 rfl ?_
      subst c22; exact ⟨by rw [countV, if_neg (by rw [bI_0.mp c9]; decide)]; rfl, rfl⟩
    · have c22 : _ = (1 : Int32) := c22
      refine wp_aload_n dX0_count_72 rfl ?_
      refine wp_iconst dX0_count_73 0 rfl ?_
      refine wp_cI (gcV dX0_count_74 gva_X0_335_0 (ct_told2 _ hC) hC.k0 rfl rfl (by omega) (by omega) (by omega) (Nat.le_of_ble_eq_true rfl) rfl) ?_
      refine wp_iret dX0_count_77 rfl ?_
      subst c22; exact ⟨by rw [countV, if_neg (by rw [bI_0.mp c9]; decide)]; rfl, rfl⟩
    · have c22 : _ = (2 : Int32) := c22
      refine wp_aload_n dX0_count_78 rfl ?_
      refine wp_iconst dX0_count_79 1 rfl ?_
      refine wp_cI (gcV dX0_count_80 gva_X0_335_0 (ct_told2 _ hC) hC.k0 rfl rfl (by omega) (by omega) (by omega) (Nat.le_of_ble_eq_true rfl) rfl) ?_
      refine wp_iret dX0_count_83 rfl ?_
      subst c22; exact ⟨by rw [countV, if_neg (by rw [bI_0.mp c9]; decide)]; rfl, rfl⟩
    · have c22 : _ = (3 : Int32) := c22
      refine wp_aload_n dX0_count_84 rfl ?_
      refine wp_getR dX0_count_85 gfa_X0_33_0 rfl hC.k0 hC.r1 ?_
      refine wp_cI (gcV dX0_count_88 gva_X0_209_3 (ct_couples hC.l0) hC.l0.k0 rfl rfl (by omega) (by omega) (by omega) (Nat.le_of_ble_eq_true rfl) rfl) ?_
      refine wp_iret dX0_count_91 rfl ?_
      subst c22; exact ⟨by rw [countV, if_neg (by rw [bI_0.mp c9]; decide)]; rfl, rfl⟩
    · have c22 : _ = (4 : Int32) := c22
      refine wp_aload_n dX0_count_92 rfl ?_
      refine wp_getR dX0_count_93 gfa_X0_50_0 rfl hC.k0 hr ?_
      refine wp_getI dX0_count_96 gfa_X0_339_6 rfl hT.1 ?_
      rw [hT.2.2.1]
      refine wp_iret dX0_count_99 rfl ?_
      subst c22; exact ⟨by rw [countV, if_neg (by rw [bI_0.mp c9]; decide)]; rfl, rfl⟩
    · have c22 : _ = (5 : Int32) := c22
      refine wp_aload_n dX0_count_100 rfl ?_
      refine wp_getI dX0_count_101 gfa_X0_149_0 rfl hC.k0 ?_
      refine wp_iret dX0_count_104 rfl ?_
      subst c22; exact ⟨by rw [countV, if_neg (by rw [bI_0.mp c9]; decide)]; rfl, rfl⟩
    · have c22 : _ = (6 : Int32) := c22
      refine wp_aload_n dX0_count_105 rfl ?_
      refine wp_getR dX0_count_106 gfa_X0_33_0 rfl hC.k0 hC.r1 ?_
      refine wp_getI dX0_count_109 gfa_X0_90_3 rfl hC.l0.k0 ?_
      rw [LG_s (by omega)]
      refine wp_iret dX0_count_112 rfl ?_
      subst c22; exact ⟨by rw [countV, if_neg (by rw [bI_0.mp c9]; decide)]; rfl, rfl⟩
    · skip
      refine wp_iconst dX0_count_113 (-1) rfl ?_
      refine wp_iret dX0_count_114 rfl ?_
      simp only [List.mem_cons, List.not_mem_nil, or_false, forall_eq_or_imp, forall_eq] at c22
      obtain ⟨e0, e1, e2, e3, e4, e5, e6⟩ := c22
      exact ⟨by rw [countV, if_neg (by rw [bI_0.mp c9]; decide), if_neg e0, if_neg e1, if_neg e2, if_neg e3, if_neg e4, if_neg e5, if_neg e6], rfl⟩
  · refine wp_aload_n dX0_count_12 rfl ?_
    refine wp_iload_n dX0_count_13 rfl ?_
    refine wp_bipush dX0_count_14 10 rfl ?_
    refine wp_isub dX0_count_16 ?_
    refine wp_cI (gcV dX0_count_17 gva_X0_329_0 (ct_inTown _ hC) hC.k0 rfl rfl (by omega) (by omega) (by omega) (Nat.le_of_ble_eq_true rfl) rfl) ?_
    refine wp_iret dX0_count_20 rfl ?_
    exact ⟨by rw [countV, if_pos (bI_1.mp c9)], rfl⟩
theorem ct_keep (hC : CK b σ) (hG : GI (LG σ (b + 2))) (hB : GB (LG σ (b + 2))) : Ct Γ 2 0 0 m_X0_keep [.ref b] σ (fun r τ => ∃ y, r = some (.int y) ∧ (y = cplN (LG σ (b + 2)) 12 ∧ LPo b (b + 104) (setI σ b 7 1) (takeG (LG σ (b + 104)) (LG σ (b + 2))) τ)) := by
  refine Ct.ofWP pf_X0_keep rfl rfl ?_
  have hC' : CK b (setI σ b 7 1) := hC.kr (KR.rf.setI _ _ _)
  have e1 : LG (setI σ b 7 1) (b + 2) = (LG σ (b + 2)) := LG_other (Or.inl (by omega))
  have e2 : LG (setI σ b 7 1) (b + 104) = LG σ (b + 104) := LG_other (Or.inl (by omega))
  refine wp_aload_n dX0_keep_0 rfl ?_
  refine wp_iconst dX0_keep_1 1 rfl ?_
  refine wp_putI dX0_keep_2 gfa_X0_326_0 (Or.inl rfl) rfl ⟨rfl, rfl⟩ hC.k0 ?_
  refine wp_aload_n dX0_keep_5 rfl ?_
  refine wp_getR dX0_keep_6 gfa_X0_40_0 rfl hC'.k0 hC'.r3 ?_
  refine wp_aload_n dX0_keep_9 rfl ?_
  refine wp_getR dX0_keep_10 gfa_X0_33_0 rfl hC'.k0 hC'.r1 ?_
  refine wp_cRx (gcV dX0_keep_13 gva_X0_199_3 (ct_takesL hC'.l2 hC'.l0 (Or.inr (by omega)) (by rw [e1]; exact hG) (by rw [e1]; exact hB)) hC'.l2.k0 rfl rfl (by omega) (by omega) (by omega) (Nat.le_of_ble_eq_true rfl) rfl) (fun r τ hy => ?_)
  obtain ⟨rfl, hP⟩ := hy
  have hC'' := hC'.kr hP.1.1
  rw [e1, e2] at hP
  refine wp_pop dX0_keep_16 rfl ?_
  refine wp_aload_n dX0_keep_17 rfl ?_
  refine wp_getR dX0_keep_18 gfa_X0_33_0 rfl hC''.k0 hC''.r1 ?_
  refine wp_cI (gcV dX0_keep_21 gva_X0_209_3 (ct_couples hC''.l0) hC''.l0.k0 rfl rfl (by omega) (by omega) (by omega) (Nat.le_of_ble_eq_true rfl) rfl) ?_
  refine wp_iret dX0_keep_24 rfl ?_
  have e3 : LG τ (b + 2) = (LG σ (b + 2)) := (LG_fr hP.1 (fun c h => by unfold inL at h; omega)).trans e1
  exact ⟨_, rfl, by rw [e3], hP⟩
theorem ct_undo (hC : CK b σ) (hG : GI (LG σ (b + 104))) (hB : GB (LG σ (b + 104))) : Ct Γ 2 0 0 m_X0_undo [.ref b] σ (fun r τ => ∃ y, r = some (.int y) ∧ (y = bI (!decide (stI σ b 7 = 0)) ∧ LPo b (b + 2) σ (if stI σ b 7 = 0 then (LG σ (b + 2)) else takeG (LG σ (b + 2)) (LG σ (b + 104))) τ)) := by
  refine Ct.ofWP pf_X0_undo rfl rfl ?_
  refine wp_aload_n dX0_undo_0 rfl ?_
  refine wp_getI dX0_undo_1 gfa_X0_326_0 rfl hC.k0 ?_
  refine wp_if_ne dX0_undo_4 9 (by decide) (fun c4 => ?_) (fun c4 => ?_)
  · refine wp_aload_n dX0_undo_9 rfl ?_
    refine wp_getR dX0_undo_10 gfa_X0_33_0 rfl hC.k0 hC.r1 ?_
    refine wp_aload_n dX0_undo_13 rfl ?_
    refine wp_getR dX0_undo_14 gfa_X0_40_0 rfl hC.k0 hC.r3 ?_
    refine wp_cRx (gcV dX0_undo_17 gva_X0_199_3 (ct_takesL hC.l0 hC.l2 (Or.inl (by omega)) hG hB) hC.l0.k0 rfl rfl (by omega) (by omega) (by omega) (Nat.le_of_ble_eq_true rfl) rfl) (fun r τ hy => ?_)
    obtain ⟨rfl, hP⟩ := hy
    refine wp_pop dX0_undo_20 rfl ?_
    refine wp_iconst dX0_undo_21 1 rfl ?_
    refine wp_zret dX0_undo_22 rfl (Or.inr rfl) ?_
    rw [if_neg c4, decide_eq_false c4]
    exact ⟨_, rfl, rfl, hP⟩
  · refine wp_iconst dX0_undo_7 0 rfl ?_
    refine wp_zret dX0_undo_8 rfl (Or.inl rfl) ?_
    rw [if_pos c4, decide_eq_true c4]
    exact ⟨_, rfl, rfl, LPo.rf⟩
theorem ct_days (v : Int32) (hS : Sy b hi Lw σ) (hG : GI (LG σ (b + 2))) : Ct Γ 56 0 0 m_X0_days [.ref b, .int v] σ (fun r τ => ∃ y, r = some (.int y) ∧ (y = (if wiB v 1 60 = true then goesG Lw (LG σ (b + 2)) (ix v) 30 4 else -1) ∧ LPo b (b + 2) σ (if wiB v 1 60 = true then goesG Lw (LG σ (b + 2)) (ix v) else (LG σ (b + 2))) τ)) := by
  refine Ct.ofWP pf_X0_days rfl rfl ?_
  have hC := hS.1
  refine wp_iload_n dX0_days_0 rfl ?_
  refine wp_iconst dX0_days_1 1 rfl ?_
  refine wp_bipush dX0_days_2 60 rfl ?_
  refine wp_cI (gcS dX0_days_4 gsa_X0_128 (ct_within _ _ _) rfl rfl (by omega) (by omega) (by omega) (Nat.le_of_ble_eq_true rfl) rfl) ?_
  refine wp_if_eq dX0_days_7 24 (by decide) (fun c7 => ?_) (fun c7 => ?_)
  · refine wp_iconst dX0_days_24 (-1) rfl ?_
    refine wp_iret dX0_days_25 rfl ?_
    first | (rw [if_pos hw, if_pos hw, ix_nI (by omega)]; exact ⟨_, rfl, rfl, hP⟩) | (rw [bI_0.mp c7]; exact ⟨_, rfl, rfl, LPo.rf⟩)
  · have hw := bI_1.mp c7
    obtain ⟨m, -, hm, rfl⟩ := wiB_nat (lo := 1) (hi := 60) (by omega) (by omega) (bI_1.mp c7)
    refine wp_aload_n dX0_days_10 rfl ?_
    refine wp_getR dX0_days_11 gfa_X0_33_0 rfl hC.k0 hC.r1 ?_
    refine wp_iload_n dX0_days_14 rfl ?_
    refine wp_cRx (gcV dX0_days_15 gva_X0_192_3 (ct_goes (m := m) (by omega) hC.l0 (by omega) hS hG) hC.l0.k0 rfl rfl (by omega) (by omega) (by omega) (Nat.le_of_ble_eq_true rfl) rfl) (fun r τ hy => ?_)
    obtain ⟨rfl, hP⟩ := hy
    have hL1 := hP.L hC.l0
    refine wp_getI dX0_days_18 gfa_X0_196_3 rfl hL1.k0 ?_
    rw [hP.s (by omega)]
    refine wp_goto dX0_days_21 25 (by decide) ?_
    refine wp_iret dX0_days_25 rfl ?_
    first | (rw [if_pos hw, if_pos hw, ix_nI (by omega)]; exact ⟨_, rfl, rfl, hP⟩) | (rw [bI_0.mp c7]; exact ⟨_, rfl, rfl, LPo.rf⟩)
theorem ct_tried (n w : Int32) (hS : Sy b hi Lw σ) (hG : GI (LG σ (b + 2))) (hB : GB (LG σ (b + 2))) : Ct Γ 56 0 0 m_X0_tried [.ref b, .int n, .int w] σ (fun r τ => ∃ y, r = some (.int y) ∧ (y = (if triedB (LG σ (b + 2)) n w = true then triedV (goesG Lw (takeG (LG σ (b + 53)) (LG σ (b + 2))) (ix n)) w else -1) ∧ ∃ G', LPo b (b + 53) σ G' τ)) := by
  refine Ct.ofWP pf_X0_tried rfl rfl ?_
  have hC := hS.1
  have no : triedB (LG σ (b + 2)) n w = false → (∃ y, some (Value.int (-1)) = some (.int y) ∧ (y = (if triedB (LG σ (b + 2)) n w = true then triedV (goesG Lw (takeG (LG σ (b + 53)) (LG σ (b + 2))) (ix n)) w else -1) ∧ ∃ G', LPo b (b + 53) σ G' σ)) := fun e => by
    rw [e]; exact ⟨_, rfl, rfl, _, LPo.rf⟩
  have go : triedB (LG σ (b + 2)) n w = true → WP Γ m_X0_tried 56 0 0 41 [some (.ref b), some (.int n), some (.int w)] [] σ (fun r τ => ∃ y, r = some (.int y) ∧ (y = (if triedB (LG σ (b + 2)) n w = true then triedV (goesG Lw (takeG (LG σ (b + 53)) (LG σ (b + 2))) (ix n)) w else -1) ∧ ∃ G', LPo b (b + 53) σ G' τ)) := by
    intro hb
    have hb' := hb
    rw [triedB, Bool.and_eq_true] at hb'
    obtain ⟨h1, h2⟩ := hb'
    obtain ⟨m, -, hm, rfl⟩ := wiB_nat (lo := 1) (hi := 60) (by omega) (by omega) h1
    have hx := ix_nI (n := m) (by omega)
    have at120 : ∀ ρ, LPo b (b + 53) σ (goesG Lw (takeG (LG σ (b + 53)) (LG σ (b + 2))) m) ρ → (∀ q ∈ [((0 : Int32), (88 : Nat)), (1, 96), (2, 104), (3, 112)], w ≠ q.1) → WP Γ m_X0_tried 56 0 0 120 [some (.ref b), some (.int (nI m)), some (.int w)] [] ρ (fun r τ => ∃ y, r = some (.int y) ∧ (y = (if triedB (LG σ (b + 2)) (nI m) w = true then triedV (goesG Lw (takeG (LG σ (b + 53)) (LG σ (b + 2))) (ix (nI m))) w else -1) ∧ ∃ G', LPo b (b + 53) σ G' τ)) := by
      intro ρ hP3 c58
      simp only [List.mem_cons, List.not_mem_nil, or_false, forall_eq_or_imp, forall_eq] at c58
      obtain ⟨e0, e1, e2, e3⟩ := c58
      have hC2 := hC.kr hP3.1.1
      have h4 : ¬ inB w 4 = true := by
        intro h
        obtain ⟨j, hj, rfl⟩ := inB_nat (n := 4) (by omega) h
        match j, hj with
        | 0, _ => exact e0 rfl
        | 1, _ => exact e1 rfl
        | 2, _ => exact e2 rfl
        | 3, _ => exact e3 rfl
      rw [Bool.or_eq_true, Bool.or_eq_true] at h2
      rw [if_pos hb, triedV, hx, if_neg e0, if_neg e1, if_neg e2, if_neg e3]
      rcases h2 with h2 | h2 | h2
      · exact absurd h2 h4
      · obtain ⟨j, hj, hw⟩ := prsV_t h2
        have e : w = nI (j + 10) := by rw [← nI_add, ← hw]; exact (Int32.sub_add_cancel w 10).symm
        subst e
        rw [if_pos (show nI (j + 10) < 30 from nI_lt (b := 30) (by omega) (by omega)), hw, ix_nI (by omega)]
        refine wp_iload_n dX0_tried_120 rfl ?_
        refine wp_bipush dX0_tried_121 30 rfl ?_
        refine wp_icmp_geN dX0_tried_123 147 (by decide) (j + 10) 30 rfl rfl (by omega) (by omega) (fun c123 => absurd c123 (by omega)) (fun c123 => ?_)
        refine wp_aload_n dX0_tried_126 rfl ?_
        refine wp_getR dX0_tried_127 gfa_X0_37_0 rfl hC2.k0 hC2.r2 ?_
        refine wp_getR dX0_tried_130 gfa_X0_94_3 rfl hC2.l1.k0 hC2.l1.r0 ?_
        refine wp_iload_n dX0_tried_133 rfl ?_
        refine wp_bipush dX0_tried_134 10 rfl ?_
        refine wp_isub dX0_tried_136 ?_
        refine wp_top (y := nI ((j + 10) - 10)) (pk_sub (a := j + 10) (b := 10) (by omega)) ?_
        refine wp_aald dX0_tried_137 hC2.l1.k1 rfl ((j + 10) - 10) rfl (by omega) (by omega) (hC2.l1.rP (by omega)) ?_
        refine wp_getI dX0_tried_138 gfa_X0_98_4 rfl (hC2.l1.kP (by omega)) ?_
        rw [Nat.add_sub_cancel, hP3.p 3 (by omega) hj]
        refine wp_cI (gcS dX0_tried_141 gsa_X0_212 (ct_orNone _) rfl rfl (by omega) (by omega) (by omega) (Nat.le_of_ble_eq_true rfl) rfl) ?_
        refine wp_goto dX0_tried_144 162 (by decide) ?_
        refine wp_iret dX0_tried_162 rfl ?_
        exact ⟨_, rfl, rfl, _, hP3⟩
      · obtain ⟨j, hj, hw⟩ := inB_nat (n := 12) (by omega) h2
        have e : w = nI (j + 30) := by rw [← nI_add, ← hw]; exact (Int32.sub_add_cancel w 30).symm
        subst e
        rw [if_neg (show ¬ nI (j + 30) < 30 from nI_nlt (b := 30) (by omega) (by omega)), hw, ix_nI (by omega)]
        refine wp_iload_n dX0_tried_120 rfl ?_
        refine wp_bipush dX0_tried_121 30 rfl ?_
        refine wp_icmp_geN dX0_tried_123 147 (by decide) (j + 30) 30 rfl rfl (by omega) (by omega) (fun c123 => ?_) (fun c123 => absurd c123 (by omega))
        refine wp_aload_n dX0_tried_147 rfl ?_
        refine wp_getR dX0_tried_148 gfa_X0_37_0 rfl hC2.k0 hC2.r2 ?_
        refine wp_getR dX0_tried_151 gfa_X0_117_3 rfl hC2.l1.k0 hC2.l1.r1 ?_
        refine wp_iload_n dX0_tried_154 rfl ?_
        refine wp_bipush dX0_tried_155 30 rfl ?_
        refine wp_isub dX0_tried_157 ?_
        refine wp_top (y := nI ((j + 30) - 30)) (pk_sub (a := j + 30) (b := 30) (by omega)) ?_
        refine wp_aald dX0_tried_158 hC2.l1.k2 rfl ((j + 30) - 30) rfl (by omega) (by omega) (hC2.l1.rE (by omega)) ?_
        refine wp_getI dX0_tried_159 gfa_X0_132_5 rfl (hC2.l1.kE (by omega)) ?_
        rw [Nat.add_sub_cancel, hP3.e1 hj]
        refine wp_iret dX0_tried_162 rfl ?_
        exact ⟨_, rfl, rfl, _, hP3⟩
    refine wp_aload_n dX0_tried_41 rfl ?_
    refine wp_getR dX0_tried_42 gfa_X0_37_0 rfl hC.k0 hC.r2 ?_
    refine wp_aload_n dX0_tried_45 rfl ?_
    refine wp_getR dX0_tried_46 gfa_X0_33_0 rfl hC.k0 hC.r1 ?_
    refine wp_cRx (gcV dX0_tried_49 gva_X0_199_3 (ct_takesL hC.l1 hC.l0 (Or.inr (by omega)) hG hB) hC.l1.k0 rfl rfl (by omega) (by omega) (by omega) (Nat.le_of_ble_eq_true rfl) rfl) (fun r τ hy => ?_)
    obtain ⟨rfl, hP⟩ := hy
    have hL1 := hP.L hC.l1
    refine wp_iload_n dX0_tried_52 rfl ?_
    refine wp_cRx (gcV dX0_tried_53 gva_X0_192_3 (ct_goes (m := m) (by omega) hL1 (by omega) (hP.S hC.l1 (by omega) hS) (by rw [hP.2]; exact GI_take hG)) hL1.k0 rfl rfl (by omega) (by omega) (by omega) (Nat.le_of_ble_eq_true rfl) rfl) (fun r ρ hy => ?_)
    obtain ⟨rfl, hP2⟩ := hy
    rw [hP.2] at hP2
    have hP3 := hP.trans hP2
    have hL2 := hP3.L hC.l1
    have hC2 := hC.kr hP3.1.1
    refine wp_pop dX0_tried_56 rfl ?_
    refine wp_iload_n dX0_tried_57 rfl ?_
    refine wp_tsw dX0_tried_58 [(0, 88), (1, 96), (2, 104), (3, 112)] 120 (by decide) (List.forall_mem_cons.mpr ⟨fun c58 => ?_, (List.forall_mem_cons.mpr ⟨fun c58 => ?_, (List.forall_mem_cons.mpr ⟨fun c58 => ?_, (List.forall_mem_cons.mpr ⟨fun c58 => ?_, List.forall_mem_nil _⟩)⟩)⟩)⟩) (fun c58 => ?_)
    · have c58 : _ = (0 : Int32) := c58
      refine wp_aload_n dX0_tried_88 rfl ?_
      refine wp_getR dX0_tried_89 gfa_X0_37_0 rfl hC2.k0 hC2.r2 ?_
      refine wp_getI dX0_tried_92 gfa_X0_196_3 rfl hC2.l1.k0 ?_
      rw [hP3.s (by omega)]
      refine wp_iret dX0_tried_95 rfl ?_
      subst c58; exact ⟨_, rfl, by rw [if_pos hb, triedV, hx]; rfl, _, hP3⟩
    · have c58 : _ = (1 : Int32) := c58
      refine wp_aload_n dX0_tried_96 rfl ?_
      refine wp_getR dX0_tried_97 gfa_X0_37_0 rfl hC2.k0 hC2.r2 ?_
      refine wp_getI dX0_tried_100 gfa_X0_203_3 rfl hC2.l1.k0 ?_
      rw [hP3.s (by omega)]
      refine wp_iret dX0_tried_103 rfl ?_
      subst c58; exact ⟨_, rfl, by rw [if_pos hb, triedV, hx]; rfl, _, hP3⟩
    · have c58 : _ = (2 : Int32) := c58
      refine wp_aload_n dX0_tried_104 rfl ?_
      refine wp_getR dX0_tried_105 gfa_X0_37_0 rfl hC2.k0 hC2.r2 ?_
      refine wp_getI dX0_tried_108 gfa_X0_206_3 rfl hC2.l1.k0 ?_
      rw [hP3.s (by omega)]
      refine wp_iret dX0_tried_111 rfl ?_
      subst c58; exact ⟨_, rfl, by rw [if_pos hb, triedV, hx]; rfl, _, hP3⟩
    · have c58 : _ = (3 : Int32) := c58
      refine wp_aload_n dX0_tried_112 rfl ?_
      refine wp_getR dX0_tried_113 gfa_X0_37_0 rfl hC2.k0 hC2.r2 ?_
      refine wp_cI (gcV dX0_tried_116 gva_X0_209_3 (ct_couples hC2.l1) hC2.l1.k0 rfl rfl (by omega) (by omega) (by omega) (Nat.le_of_ble_eq_true rfl) rfl) ?_
      rw [hP3.2]
      refine wp_iret dX0_tried_119 rfl ?_
      subst c58; exact ⟨_, rfl, by rw [if_pos hb, triedV, hx]; rfl, _, hP3⟩
    · skip
      exact at120 _ hP3 c58
  refine wp_iload_n dX0_tried_0 rfl ?_
  refine wp_iconst dX0_tried_1 1 rfl ?_
  refine wp_bipush dX0_tried_2 60 rfl ?_
  refine wp_cI (gcS dX0_tried_4 gsa_X0_128 (ct_within _ _ _) rfl rfl (by omega) (by omega) (by omega) (Nat.le_of_ble_eq_true rfl) rfl) ?_
  refine wp_if_eq dX0_tried_7 39 (by decide) (fun c7 => ?_) (fun c7 => ?_)
  · refine wp_iconst dX0_tried_39 (-1) rfl ?_
    refine wp_iret dX0_tried_40 rfl ?_
    refine no ?_
    first | (rw [triedB, bI_0.mp c7]; rfl) | (rw [triedB, bI_0.mp c15, bI_0.mp c26, bI_0.mp c36]; simp)
  · refine wp_iload_n dX0_tried_10 rfl ?_
    refine wp_iconst dX0_tried_11 4 rfl ?_
    refine wp_cI (gcS dX0_tried_12 gsa_X0_103 (ct_in _ _) rfl rfl (by omega) (by omega) (by omega) (Nat.le_of_ble_eq_true rfl) rfl) ?_
    refine wp_if_ne dX0_tried_15 41 (by decide) (fun c15 => ?_) (fun c15 => ?_)
    · refine go ?_
      first | (rw [triedB, bI_1.mp c7, bI_1.mp c15]; rfl) | (rw [triedB, bI_1.mp c7, bI_1.mp c26]; simp; done) | (rw [triedB, bI_1.mp c7, bI_1.mp c36]; simp)
    · refine wp_aload_n dX0_tried_18 rfl ?_
      refine wp_iload_n dX0_tried_19 rfl ?_
      refine wp_bipush dX0_tried_20 10 rfl ?_
      refine wp_isub dX0_tried_22 ?_
      refine wp_cI (gcV dX0_tried_23 gva_X0_175_0 (ct_isPerson _ hC) hC.k0 rfl rfl (by omega) (by omega) (by omega) (Nat.le_of_ble_eq_true rfl) rfl) ?_
      refine wp_if_ne dX0_tried_26 41 (by decide) (fun c26 => ?_) (fun c26 => ?_)
      · refine go ?_
        first | (rw [triedB, bI_1.mp c7, bI_1.mp c15]; rfl) | (rw [triedB, bI_1.mp c7, bI_1.mp c26]; simp; done) | (rw [triedB, bI_1.mp c7, bI_1.mp c36]; simp)
      · refine wp_iload_n dX0_tried_29 rfl ?_
        refine wp_bipush dX0_tried_30 30 rfl ?_
        refine wp_isub dX0_tried_32 ?_
        refine wp_cI (gcS dX0_tried_33 gsa_X0_124 (ct_isPiece _) rfl rfl (by omega) (by omega) (by omega) (Nat.le_of_ble_eq_true rfl) rfl) ?_
        refine wp_if_ne dX0_tried_36 41 (by decide) (fun c36 => ?_) (fun c36 => ?_)
        · refine go ?_
          first | (rw [triedB, bI_1.mp c7, bI_1.mp c15]; rfl) | (rw [triedB, bI_1.mp c7, bI_1.mp c26]; simp; done) | (rw [triedB, bI_1.mp c7, bI_1.mp c36]; simp)
        · refine wp_iconst dX0_tried_39 (-1) rfl ?_
          refine wp_iret dX0_tried_40 rfl ?_
          refine no ?_
          first | (rw [triedB, bI_0.mp c7]; rfl) | (rw [triedB, bI_0.mp c15, bI_0.mp c26, bI_0.mp c36]; simp)
end
