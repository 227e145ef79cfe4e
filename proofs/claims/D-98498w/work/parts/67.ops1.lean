set_option maxRecDepth 100000
def toldB (G : Gd) (i : Nat) : Bool := !decide (G 8 i = 0)
def prsV (G : Gd) (v : Int32) : Bool := inB v 12 && toldB G (ix v)
def sideB (G : Gd) (i : Nat) (s : Int32) : Bool := livesB G i && decide (G 1 i = s)
def askerV (G : Gd) (v : Int32) : Bool := livesV G v && decide (G 1 (ix v) = 0)
def perB (G : Gd) (i side town : Int32) : Bool := ((inB i 12 && !toldB G (ix i)) && inB side 2) && inB town 6
def perG (G : Gd) (i : Nat) (side town : Int32) : Gd := gset (gset (gset (gset G 8 i 1) 1 i side) 2 i town) 12 i (nI i)
def wedB (G : Gd) (i j : Int32) : Bool := ((((livesV G i && livesV G j) && freeB G (ix i)) && freeB G (ix j)) && decide (G 1 (ix i) = 0)) && decide (G 1 (ix j) = 1)
def bitF (p : Nat → Bool) : Nat → Int32
  | 0 => 0
  | n + 1 => bitF p n ||| (if p n = true then 1 <<< (nI n &&& 31) else 0)
def pieceV (G : Gd) (k h : Int32) : Int32 := if inB k 12 = true ∧ inB h 10 = true then (if h < 8 then G (ix h + 20) (ix k) else if h = 8 then G 11 (ix k) else orNone (G 12 (ix k))) else -100
def mateV (G : Gd) (k h : Int32) : Int32 := if inB k 12 = true ∧ inB h 8 = true then 10 - G (7 - ix h + 20) (ix k) else -1
def areFitB (Lw : Lws) (G : Gd) (i j : Nat) : Bool := (livesB G i && livesB G j) && fitB Lw G i j
theorem inB_n {v : Int32} {n : Nat} (hn : n < 2147483648) (h : inB v (nI n) = true) : ∃ j : Nat, j < n ∧ v = nI j := inB_nat hn h
section
variable {Γ : Gm} {σ : St} {b hi : Nat} {Lw : Lws}
theorem ct_isPerson (v : Int32) (hC : CK b σ) : Ct Γ 1 0 0 m_X0_isPerson [.ref b, .int v] σ (fun r τ => r = some (.int (bI (prsV (LG σ (b + 2)) v))) ∧ τ = σ) := by
  refine Ct.ofWP pf_X0_isPerson rfl rfl ?_
  refine wp_iload_n dX0_isPerson_0 rfl ?_
  refine wp_bipush dX0_isPerson_1 12 rfl ?_
  refine wp_cI (gcS dX0_isPerson_3 gsa_X0_103 (ct_in _ _) rfl rfl (by omega) (by omega) (by omega) (Nat.le_of_ble_eq_true rfl) rfl) ?_
  refine wp_if_eq dX0_isPerson_6 28 (by decide) (fun c6 => ?_) (fun c6 => ?_)
  · refine wp_iconst dX0_isPerson_28 0 rfl ?_
    refine wp_zret dX0_isPerson_29 rfl (Or.inl rfl) ?_
    first | exact ⟨by rw [prsV, inB_12n hj, ix_nI (by omega), toldB]; simp_all [bI], rfl⟩ | exact ⟨by rw [prsV, bI_0.mp c6]; rfl, rfl⟩
  · obtain ⟨j, hj, rfl⟩ := inB_12 (bI_1.mp c6)
    refine wp_aload_n dX0_isPerson_9 rfl ?_
    refine wp_getR dX0_isPerson_10 gfa_X0_33_0 rfl hC.k0 hC.r1 ?_
    refine wp_getR dX0_isPerson_13 gfa_X0_94_3 rfl hC.l0.k0 hC.l0.r0 ?_
    refine wp_iload_n dX0_isPerson_16 rfl ?_
    refine wp_aald dX0_isPerson_17 hC.l0.k1 rfl j rfl (by omega) (by omega) (hC.l0.rP (by omega)) ?_
    refine wp_getI dX0_isPerson_18 gfa_X0_107_4 rfl (hC.l0.kP (by omega)) ?_
    rw [LG_p 8 (by omega) hj]
    refine wp_if_eq dX0_isPerson_21 28 (by decide) (fun c21 => ?_) (fun c21 => ?_)
    · refine wp_iconst dX0_isPerson_28 0 rfl ?_
      refine wp_zret dX0_isPerson_29 rfl (Or.inl rfl) ?_
      first | exact ⟨by rw [prsV, inB_12n hj, ix_nI (by omega), toldB]; simp_all [bI], rfl⟩ | exact ⟨by rw [prsV, bI_0.mp c6]; rfl, rfl⟩
    · refine wp_iconst dX0_isPerson_24 1 rfl ?_
      refine wp_goto dX0_isPerson_25 29 (by decide) ?_
      refine wp_zret dX0_isPerson_29 rfl (Or.inr rfl) ?_
      first | exact ⟨by rw [prsV, inB_12n hj, ix_nI (by omega), toldB]; simp_all [bI], rfl⟩ | exact ⟨by rw [prsV, bI_0.mp c6]; rfl, rfl⟩
theorem ct_person (i side town : Int32) (hC : CK b σ) : Ct Γ 1 0 0 m_X0_person [.ref b, .int i, .int side, .int town] σ (fun r τ => ∃ y, r = some (.int y) ∧ (y = bI (perB (LG σ (b + 2)) i side town) ∧ LPo b (b + 2) σ (if perB (LG σ (b + 2)) i side town = true then perG (LG σ (b + 2)) (ix i) side town else LG σ (b + 2)) τ)) := by
  refine Ct.ofWP pf_X0_person rfl rfl ?_
  have no : ∀ v, perB (LG σ (b + 2)) v side town = false → (∃ y, some (Value.int 0) = some (.int y) ∧ (y = bI (perB (LG σ (b + 2)) v side town) ∧ LPo b (b + 2) σ (if perB (LG σ (b + 2)) v side town = true then perG (LG σ (b + 2)) (ix v) side town else LG σ (b + 2)) σ)) := fun v e => by
    rw [e]; exact ⟨_, rfl, rfl, LPo.rf⟩
  refine wp_iload_n dX0_person_0 rfl ?_
  refine wp_bipush dX0_person_1 12 rfl ?_
  refine wp_cI (gcS dX0_person_3 gsa_X0_103 (ct_in _ _) rfl rfl (by omega) (by omega) (by omega) (Nat.le_of_ble_eq_true rfl) rfl) ?_
  refine wp_if_eq dX0_person_6 41 (by decide) (fun c6 => ?_) (fun c6 => ?_)
  · refine wp_iconst dX0_person_41 0 rfl ?_
    refine wp_zret dX0_person_42 rfl (Or.inl rfl) ?_
    refine no _ ?_
    first | (rw [perB, bI_0.mp c6]; rfl) | (rw [perB, bI_0.mp c29]; simp; done) | (rw [perB, bI_0.mp c38]; simp; done) | (rw [perB, inB_12n hj, ix_nI (by omega), show toldB (LG σ (b + 2)) j = true by simp [toldB, c21]]; rfl)
  · obtain ⟨j, hj, rfl⟩ := inB_12 (bI_1.mp c6)
    refine wp_aload_n dX0_person_9 rfl ?_
    refine wp_getR dX0_person_10 gfa_X0_33_0 rfl hC.k0 hC.r1 ?_
    refine wp_getR dX0_person_13 gfa_X0_94_3 rfl hC.l0.k0 hC.l0.r0 ?_
    refine wp_iload_n dX0_person_16 rfl ?_
    refine wp_aald dX0_person_17 hC.l0.k1 rfl j rfl (by omega) (by omega) (hC.l0.rP (by omega)) ?_
    refine wp_getI dX0_person_18 gfa_X0_107_4 rfl (hC.l0.kP (by omega)) ?_
    rw [LG_p 8 (by omega) hj]
    refine wp_if_ne dX0_person_21 41 (by decide) (fun c21 => ?_) (fun c21 => ?_)
    · refine wp_iconst dX0_person_41 0 rfl ?_
      refine wp_zret dX0_person_42 rfl (Or.inl rfl) ?_
      refine no _ ?_
      first | (rw [perB, bI_0.mp c6]; rfl) | (rw [perB, bI_0.mp c29]; simp; done) | (rw [perB, bI_0.mp c38]; simp; done) | (rw [perB, inB_12n hj, ix_nI (by omega), show toldB (LG σ (b + 2)) j = true by simp [toldB, c21]]; rfl)
    · refine wp_iload_n dX0_person_24 rfl ?_
      refine wp_iconst dX0_person_25 2 rfl ?_
      refine wp_cI (gcS dX0_person_26 gsa_X0_103 (ct_in _ _) rfl rfl (by omega) (by omega) (by omega) (Nat.le_of_ble_eq_true rfl) rfl) ?_
      refine wp_if_eq dX0_person_29 41 (by decide) (fun c29 => ?_) (fun c29 => ?_)
      · refine wp_iconst dX0_person_41 0 rfl ?_
        refine wp_zret dX0_person_42 rfl (Or.inl rfl) ?_
        refine no _ ?_
        first | (rw [perB, bI_0.mp c6]; rfl) | (rw [perB, bI_0.mp c29]; simp; done) | (rw [perB, bI_0.mp c38]; simp; done) | (rw [perB, inB_12n hj, ix_nI (by omega), show toldB (LG σ (b + 2)) j = true by simp [toldB, c21]]; rfl)
      · refine wp_iload_n dX0_person_32 rfl ?_
        refine wp_bipush dX0_person_33 6 rfl ?_
        refine wp_cI (gcS dX0_person_35 gsa_X0_103 (ct_in _ _) rfl rfl (by omega) (by omega) (by omega) (Nat.le_of_ble_eq_true rfl) rfl) ?_
        refine wp_if_ne dX0_person_38 43 (by decide) (fun c38 => ?_) (fun c38 => ?_)
        · refine wp_aload_n dX0_person_43 rfl ?_
          refine wp_getR dX0_person_44 gfa_X0_33_0 rfl hC.k0 hC.r1 ?_
          refine wp_getR dX0_person_47 gfa_X0_94_3 rfl hC.l0.k0 hC.l0.r0 ?_
          refine wp_iload_n dX0_person_50 rfl ?_
          refine wp_aald dX0_person_51 hC.l0.k1 rfl j rfl (by omega) (by omega) (hC.l0.rP (by omega)) ?_
          refine wp_astore dX0_person_52 rfl ?_
          refine wp_aload dX0_person_54 rfl ?_
          refine wp_iconst dX0_person_56 1 rfl ?_
          refine wp_putI dX0_person_57 gfa_X0_107_4 (Or.inl rfl) rfl ⟨rfl, rfl⟩ (hC.l0.kP (by omega)) ?_
          refine wp_aload dX0_person_60 rfl ?_
          refine wp_iload_n dX0_person_62 rfl ?_
          refine wp_putI dX0_person_63 gfa_X0_111_4 (Or.inl rfl) rfl ⟨rfl, rfl⟩ (hC.l0.kP (by omega)) ?_
          refine wp_aload dX0_person_66 rfl ?_
          refine wp_iload_n dX0_person_68 rfl ?_
          refine wp_putI dX0_person_69 gfa_X0_114_4 (Or.inl rfl) rfl ⟨rfl, rfl⟩ (hC.l0.kP (by omega)) ?_
          refine wp_aload_n dX0_person_72 rfl ?_
          refine wp_getR dX0_person_73 gfa_X0_33_0 rfl hC.k0 hC.r1 ?_
          refine wp_getR dX0_person_76 gfa_X0_117_3 rfl hC.l0.k0 hC.l0.r1 ?_
          refine wp_iload_n dX0_person_79 rfl ?_
          refine wp_aald dX0_person_80 hC.l0.k2 rfl j rfl (by omega) (by omega) (hC.l0.rE (by omega)) ?_
          refine wp_iload_n dX0_person_81 rfl ?_
          refine wp_putI dX0_person_82 gfa_X0_121_5 (Or.inl rfl) rfl ⟨rfl, rfl⟩ (hC.l0.kE (by omega)) ?_
          refine wp_iconst dX0_person_85 1 rfl ?_
          refine wp_zret dX0_person_86 rfl (Or.inr rfl) ?_
          have e : perB (LG σ (b + 2)) (nI j) side town = true := by
            rw [perB, inB_12n hj, ix_nI (by omega), bI_1.mp c29, bI_1.mp c38, toldB]; simp [c21]
          rw [e, ix_nI (by omega)]
          exact ⟨_, rfl, rfl, (((LPo.rf.setp (by omega) hj).setp (by omega) hj).setp (by omega) hj).sete (by omega) hj⟩
        · refine wp_iconst dX0_person_41 0 rfl ?_
          refine wp_zret dX0_person_42 rfl (Or.inl rfl) ?_
          refine no _ ?_
          first | (rw [perB, bI_0.mp c6]; rfl) | (rw [perB, bI_0.mp c29]; simp; done) | (rw [perB, bI_0.mp c38]; simp; done) | (rw [perB, inB_12n hj, ix_nI (by omega), show toldB (LG σ (b + 2)) j = true by simp [toldB, c21]]; rfl)
theorem ct_wear (k n : Int32) (hC : CK b σ) : Ct Γ 2 0 0 m_X0_wear [.ref b, .int k, .int n] σ (fun r τ => ∃ y, r = some (.int y) ∧ (y = bI (inB k 12 && wiB n 0 99) ∧ LPo b (b + 2) σ (if (inB k 12 && wiB n 0 99) = true then gset (LG σ (b + 2)) 11 (ix k) n else LG σ (b + 2)) τ)) := by
  refine Ct.ofWP pf_X0_wear rfl rfl ?_
  refine wp_iload_n dX0_wear_0 rfl ?_
  refine wp_cI (gcS dX0_wear_1 gsa_X0_124 (ct_isPiece _) rfl rfl (by omega) (by omega) (by omega) (Nat.le_of_ble_eq_true rfl) rfl) ?_
  refine wp_if_eq dX0_wear_4 17 (by decide) (fun c4 => ?_) (fun c4 => ?_)
  · refine wp_iconst dX0_wear_17 0 rfl ?_
    refine wp_zret dX0_wear_18 rfl (Or.inl rfl) ?_
    have e : (inB k 12 && wiB n 0 99) = false := by first | (rw [bI_0.mp c4]; rfl) | (rw [bI_0.mp c14]; simp)
    rw [e]
    exact ⟨_, rfl, rfl, LPo.rf⟩
  · refine wp_iload_n dX0_wear_7 rfl ?_
    refine wp_iconst dX0_wear_8 0 rfl ?_
    refine wp_bipush dX0_wear_9 99 rfl ?_
    refine wp_cI (gcS dX0_wear_11 gsa_X0_128 (ct_within _ _ _) rfl rfl (by omega) (by omega) (by omega) (Nat.le_of_ble_eq_true rfl) rfl) ?_
    refine wp_if_ne dX0_wear_14 19 (by decide) (fun c14 => ?_) (fun c14 => ?_)
    · obtain ⟨j, hj, rfl⟩ := inB_12 (bI_1.mp c4)
      refine wp_aload_n dX0_wear_19 rfl ?_
      refine wp_getR dX0_wear_20 gfa_X0_33_0 rfl hC.k0 hC.r1 ?_
      refine wp_getR dX0_wear_23 gfa_X0_117_3 rfl hC.l0.k0 hC.l0.r1 ?_
      refine wp_iload_n dX0_wear_26 rfl ?_
      refine wp_aald dX0_wear_27 hC.l0.k2 rfl j rfl (by omega) (by omega) (hC.l0.rE (by omega)) ?_
      refine wp_iload_n dX0_wear_28 rfl ?_
      refine wp_putI dX0_wear_29 gfa_X0_132_5 (Or.inl rfl) rfl ⟨rfl, rfl⟩ (hC.l0.kE (by omega)) ?_
      refine wp_iconst dX0_wear_32 1 rfl ?_
      refine wp_zret dX0_wear_33 rfl (Or.inr rfl) ?_
      have e : (inB (nI j) 12 && wiB n 0 99) = true := by rw [bI_1.mp c14, inB_12n hj]; rfl
      rw [e, ix_nI (by omega)]
      exact ⟨_, rfl, rfl, LPo.rf.sete (by omega) hj⟩
    · refine wp_iconst dX0_wear_17 0 rfl ?_
      refine wp_zret dX0_wear_18 rfl (Or.inl rfl) ?_
      have e : (inB k 12 && wiB n 0 99) = false := by first | (rw [bI_0.mp c4]; rfl) | (rw [bI_0.mp c14]; simp)
      rw [e]
      exact ⟨_, rfl, rfl, LPo.rf⟩
theorem ct_dies (v : Int32) (hC : CK b σ) (hG : GI (LG σ (b + 2))) : Ct Γ 3 0 0 m_X0_dies [.ref b, .int v] σ (fun r τ => ∃ y, r = some (.int y) ∧ (y = bI (livesV (LG σ (b + 2)) v) ∧ LPo b (b + 2) σ (if livesV (LG σ (b + 2)) v = true then diesG (LG σ (b + 2)) (ix v) else LG σ (b + 2)) τ)) := by
  refine Ct.ofWP pf_X0_dies rfl rfl ?_
  refine wp_aload_n dX0_dies_0 rfl ?_
  refine wp_getR dX0_dies_1 gfa_X0_33_0 rfl hC.k0 hC.r1 ?_
  refine wp_iload_n dX0_dies_4 rfl ?_
  refine wp_cI (gcV dX0_dies_5 gva_X0_135_3 (ct_lives _ hC.l0) hC.l0.k0 rfl rfl (by omega) (by omega) (by omega) (Nat.le_of_ble_eq_true rfl) rfl) ?_
  refine wp_if_ne dX0_dies_8 13 (by decide) (fun c8 => ?_) (fun c8 => ?_)
  · obtain ⟨j, hj, rfl, hl⟩ := livesV_t (bI_1.mp c8)
    refine wp_aload_n dX0_dies_13 rfl ?_
    refine wp_getR dX0_dies_14 gfa_X0_33_0 rfl hC.k0 hC.r1 ?_
    refine wp_iload_n dX0_dies_17 rfl ?_
    refine wp_cVx (gcV dX0_dies_18 gva_X0_138_3 (ct_diesL hj hC.l0 (hG j hj).2) hC.l0.k0 rfl rfl (by omega) (by omega) (by omega) (Nat.le_of_ble_eq_true rfl) rfl) (fun τ hP => ?_)
    refine wp_iconst dX0_dies_21 1 rfl ?_
    refine wp_zret dX0_dies_22 rfl (Or.inr rfl) ?_
    rw [bI_1.mp c8, ix_nI (by omega)]
    exact ⟨_, rfl, rfl, hP⟩
  · refine wp_iconst dX0_dies_11 0 rfl ?_
    refine wp_zret dX0_dies_12 rfl (Or.inl rfl) ?_
    rw [bI_0.mp c8]
    exact ⟨_, rfl, rfl, LPo.rf⟩
theorem ct_weds (v w : Int32) (hC : CK b σ) : Ct Γ 3 0 0 m_X0_weds [.ref b, .int v, .int w] σ (fun r τ => ∃ y, r = some (.int y) ∧ (y = bI (wedB (LG σ (b + 2)) v w) ∧ LPo b (b + 2) σ (if wedB (LG σ (b + 2)) v w = true then wedG (LG σ (b + 2)) (ix v) (ix w) else LG σ (b + 2)) τ)) := by
  refine Ct.ofWP pf_X0_weds rfl rfl ?_
  have no : ∀ Q : Option Value → St → Prop, wedB (LG σ (b + 2)) v w = false → (∃ y, some (Value.int 0) = some (.int y) ∧ (y = bI (wedB (LG σ (b + 2)) v w) ∧ LPo b (b + 2) σ (if wedB (LG σ (b + 2)) v w = true then wedG (LG σ (b + 2)) (ix v) (ix w) else LG σ (b + 2)) σ)) := fun Q e => by
    rw [e]; exact ⟨_, rfl, rfl, LPo.rf⟩
  refine wp_aload_n dX0_weds_0 rfl ?_
  refine wp_getR dX0_weds_1 gfa_X0_33_0 rfl hC.k0 hC.r1 ?_
  refine wp_iload_n dX0_weds_4 rfl ?_
  refine wp_cI (gcV dX0_weds_5 gva_X0_135_3 (ct_lives _ hC.l0) hC.l0.k0 rfl rfl (by omega) (by omega) (by omega) (Nat.le_of_ble_eq_true rfl) rfl) ?_
  refine wp_if_eq dX0_weds_8 83 (by decide) (fun c8 => ?_) (fun c8 => ?_)
  · refine wp_iconst dX0_weds_83 0 rfl ?_
    refine wp_zret dX0_weds_84 rfl (Or.inl rfl) ?_
    refine no (fun _ _ => True) ?_
    first | (rw [wedB, bI_0.mp c8]; rfl) | (rw [wedB, bI_0.mp c19]; simp) | (rw [wedB, ei, ej, ix_nI (by omega), ix_nI (by omega)]; first | (rw [bI_0.mp c34]; simp) | (rw [bI_0.mp c49]; simp) | (rw [decide_eq_false c64]; simp) | (rw [decide_eq_false c80]; simp))
  · refine wp_aload_n dX0_weds_11 rfl ?_
    refine wp_getR dX0_weds_12 gfa_X0_33_0 rfl hC.k0 hC.r1 ?_
    refine wp_iload_n dX0_weds_15 rfl ?_
    refine wp_cI (gcV dX0_weds_16 gva_X0_135_3 (ct_lives _ hC.l0) hC.l0.k0 rfl rfl (by omega) (by omega) (by omega) (Nat.le_of_ble_eq_true rfl) rfl) ?_
    refine wp_if_eq dX0_weds_19 83 (by decide) (fun c19 => ?_) (fun c19 => ?_)
    · refine wp_iconst dX0_weds_83 0 rfl ?_
      refine wp_zret dX0_weds_84 rfl (Or.inl rfl) ?_
      refine no (fun _ _ => True) ?_
      first | (rw [wedB, bI_0.mp c8]; rfl) | (rw [wedB, bI_0.mp c19]; simp) | (rw [wedB, ei, ej, ix_nI (by omega), ix_nI (by omega)]; first | (rw [bI_0.mp c34]; simp) | (rw [bI_0.mp c49]; simp) | (rw [decide_eq_false c64]; simp) | (rw [decide_eq_false c80]; simp))
    · obtain ⟨i, hi', ei, hl⟩ := livesV_t (bI_1.mp c8)
      obtain ⟨j, hj, ej, hl'⟩ := livesV_t (bI_1.mp c19)
      refine wp_aload_n dX0_weds_22 rfl ?_
      refine wp_getR dX0_weds_23 gfa_X0_33_0 rfl hC.k0 hC.r1 ?_
      refine wp_getR dX0_weds_26 gfa_X0_94_3 rfl hC.l0.k0 hC.l0.r0 ?_
      refine wp_iload_n dX0_weds_29 rfl ?_
      refine wp_aald dX0_weds_30 hC.l0.k1 rfl i ei (by omega) (by omega) (hC.l0.rP (by omega)) ?_
      refine wp_cI (gcV dX0_weds_31 gva_X0_142_4 (ct_isFreeL hC.l0 (by omega)) (hC.l0.kP (by omega)) rfl rfl (by omega) (by omega) (by omega) (Nat.le_of_ble_eq_true rfl) rfl) ?_
      refine wp_if_eq dX0_weds_34 83 (by decide) (fun c34 => ?_) (fun c34 => ?_)
      · refine wp_iconst dX0_weds_83 0 rfl ?_
        refine wp_zret dX0_weds_84 rfl (Or.inl rfl) ?_
        refine no (fun _ _ => True) ?_
        first | (rw [wedB, bI_0.mp c8]; rfl) | (rw [wedB, bI_0.mp c19]; simp) | (rw [wedB, ei, ej, ix_nI (by omega), ix_nI (by omega)]; first | (rw [bI_0.mp c34]; simp) | (rw [bI_0.mp c49]; simp) | (rw [decide_eq_false c64]; simp) | (rw [decide_eq_false c80]; simp))
      · refine wp_aload_n dX0_weds_37 rfl ?_
        refine wp_getR dX0_weds_38 gfa_X0_33_0 rfl hC.k0 hC.r1 ?_
        refine wp_getR dX0_weds_41 gfa_X0_94_3 rfl hC.l0.k0 hC.l0.r0 ?_
        refine wp_iload_n dX0_weds_44 rfl ?_
        refine wp_aald dX0_weds_45 hC.l0.k1 rfl j ej (by omega) (by omega) (hC.l0.rP (by omega)) ?_
        refine wp_cI (gcV dX0_weds_46 gva_X0_142_4 (ct_isFreeL hC.l0 (by omega)) (hC.l0.kP (by omega)) rfl rfl (by omega) (by omega) (by omega) (Nat.le_of_ble_eq_true rfl) rfl) ?_
        refine wp_if_eq dX0_weds_49 83 (by decide) (fun c49 => ?_) (fun c49 => ?_)
        · refine wp_iconst dX0_weds_83 0 rfl ?_
          refine wp_zret dX0_weds_84 rfl (Or.inl rfl) ?_
          refine no (fun _ _ => True) ?_
          first | (rw [wedB, bI_0.mp c8]; rfl) | (rw [wedB, bI_0.mp c19]; simp) | (rw [wedB, ei, ej, ix_nI (by omega), ix_nI (by omega)]; first | (rw [bI_0.mp c34]; simp) | (rw [bI_0.mp c49]; simp) | (rw [decide_eq_false c64]; simp) | (rw [decide_eq_false c80]; simp))
        · refine wp_aload_n dX0_weds_52 rfl ?_
          refine wp_getR dX0_weds_53 gfa_X0_33_0 rfl hC.k0 hC.r1 ?_
          refine wp_getR dX0_weds_56 gfa_X0_94_3 rfl hC.l0.k0 hC.l0.r0 ?_
          refine wp_iload_n dX0_weds_59 rfl ?_
          refine wp_aald dX0_weds_60 hC.l0.k1 rfl i ei (by omega) (by omega) (hC.l0.rP (by omega)) ?_
          refine wp_getI dX0_weds_61 gfa_X0_111_4 rfl (hC.l0.kP (by omega)) ?_
          rw [LG_p 1 (by omega) hi']
          refine wp_if_ne dX0_weds_64 83 (by decide) (fun c64 => ?_) (fun c64 => ?_)
          · refine wp_iconst dX0_weds_83 0 rfl ?_
            refine wp_zret dX0_weds_84 rfl (Or.inl rfl) ?_
            refine no (fun _ _ => True) ?_
            first | (rw [wedB, bI_0.mp c8]; rfl) | (rw [wedB, bI_0.mp c19]; simp) | (rw [wedB, ei, ej, ix_nI (by omega), ix_nI (by omega)]; first | (rw [bI_0.mp c34]; simp) | (rw [bI_0.mp c49]; simp) | (rw [decide_eq_false c64]; simp) | (rw [decide_eq_false c80]; simp))
          · refine wp_aload_n dX0_weds_67 rfl ?_
            refine wp_getR dX0_weds_68 gfa_X0_33_0 rfl hC.k0 hC.r1 ?_
            refine wp_getR dX0_weds_71 gfa_X0_94_3 rfl hC.l0.k0 hC.l0.r0 ?_
            refine wp_iload_n dX0_weds_74 rfl ?_
            refine wp_aald dX0_weds_75 hC.l0.k1 rfl j ej (by omega) (by omega) (hC.l0.rP (by omega)) ?_
            refine wp_getI dX0_weds_76 gfa_X0_111_4 rfl (hC.l0.kP (by omega)) ?_
            rw [LG_p 1 (by omega) hj]
            refine wp_iconst dX0_weds_79 1 rfl ?_
            refine wp_icmp_eq dX0_weds_80 85 (by decide) (fun c80 => ?_) (fun c80 => ?_)
            · refine wp_aload_n dX0_weds_85 rfl ?_
              refine wp_getR dX0_weds_86 gfa_X0_33_0 rfl hC.k0 hC.r1 ?_
              subst ei ej
              refine wp_iload_n dX0_weds_89 rfl ?_
              refine wp_iload_n dX0_weds_90 rfl ?_
              refine wp_cVx (gcV dX0_weds_91 gva_X0_146_3 (ct_wed hi' hj hC.l0) hC.l0.k0 rfl rfl (by omega) (by omega) (by omega) (Nat.le_of_ble_eq_true rfl) rfl) (fun τ hP => ?_)
              refine wp_iconst dX0_weds_94 1 rfl ?_
              refine wp_zret dX0_weds_95 rfl (Or.inr rfl) ?_
              have e : wedB (LG σ (b + 2)) (nI i) (nI j) = true := by rw [wedB, bI_1.mp c8, bI_1.mp c19, ix_nI (by omega), ix_nI (by omega), bI_1.mp c34, bI_1.mp c49]; simp [c64, c80]
              rw [e, ix_nI (by omega), ix_nI (by omega)]
              exact ⟨_, rfl, rfl, hP⟩
            · refine wp_iconst dX0_weds_83 0 rfl ?_
              refine wp_zret dX0_weds_84 rfl (Or.inl rfl) ?_
              refine no (fun _ _ => True) ?_
              first | (rw [wedB, bI_0.mp c8]; rfl) | (rw [wedB, bI_0.mp c19]; simp) | (rw [wedB, ei, ej, ix_nI (by omega), ix_nI (by omega)]; first | (rw [bI_0.mp c34]; simp) | (rw [bI_0.mp c49]; simp) | (rw [decide_eq_false c64]; simp) | (rw [decide_eq_false c80]; simp))
theorem ct_seed (v : Int32) (hC : CK b σ) : Ct Γ 1 0 0 m_X0_seed [.ref b, .int v] σ (fun r τ => ∃ y, r = some (.int y) ∧ (y = bI (inB v 65536) ∧ LPo b (b + 2) σ (if inB v 65536 = true then sset (LG σ (b + 2)) 3 v else LG σ (b + 2)) τ)) := by
  refine Ct.ofWP pf_X0_seed rfl rfl ?_
  refine wp_iload_n dX0_seed_0 rfl ?_
  refine wp_ldcw dX0_seed_1 q1215 ?_
  refine wp_cI (gcS dX0_seed_4 gsa_X0_103 (ct_in _ _) rfl rfl (by omega) (by omega) (by omega) (Nat.le_of_ble_eq_true rfl) rfl) ?_
  refine wp_if_ne dX0_seed_7 12 (by decide) (fun c7 => ?_) (fun c7 => ?_)
  · refine wp_aload_n dX0_seed_12 rfl ?_
    refine wp_getR dX0_seed_13 gfa_X0_33_0 rfl hC.k0 hC.r1 ?_
    refine wp_iload_n dX0_seed_16 rfl ?_
    refine wp_putI dX0_seed_17 gfa_X0_90_3 (Or.inl rfl) rfl ⟨rfl, rfl⟩ hC.l0.k0 ?_
    refine wp_iconst dX0_seed_20 1 rfl ?_
    refine wp_zret dX0_seed_21 rfl (Or.inr rfl) ?_
    rw [bI_1.mp c7]
    exact ⟨_, rfl, rfl, LPo.rf.sets (by omega)⟩
  · refine wp_iconst dX0_seed_10 0 rfl ?_
    refine wp_zret dX0_seed_11 rfl (Or.inl rfl) ?_
    rw [bI_0.mp c7]
    exact ⟨_, rfl, rfl, LPo.rf⟩
theorem ct_mate (k h : Int32) (hC : CK b σ) : Ct Γ 2 0 0 m_X0_mate [.ref b, .int k, .int h] σ (fun r τ => r = some (.int (mateV (LG σ (b + 2)) k h)) ∧ τ = σ) := by
  refine Ct.ofWP pf_X0_mate rfl rfl ?_
  refine wp_iload_n dX0_mate_0 rfl ?_
  refine wp_cI (gcS dX0_mate_1 gsa_X0_124 (ct_isPiece _) rfl rfl (by omega) (by omega) (by omega) (Nat.le_of_ble_eq_true rfl) rfl) ?_
  refine wp_if_eq dX0_mate_4 39 (by decide) (fun c4 => ?_) (fun c4 => ?_)
  · refine wp_iconst dX0_mate_39 (-1) rfl ?_
    refine wp_iret dX0_mate_40 rfl ?_
    first | exact ⟨by rw [mateV, if_pos ⟨inB_12n hi', bI_1.mp c13⟩, ix_nI (by omega), ix_nI (by omega)], rfl⟩ | exact ⟨by rw [mateV, if_neg (by rintro ⟨p, q⟩; first | exact absurd p (by rw [bI_0.mp c4]; decide) | exact absurd q (by rw [bI_0.mp c13]; decide))], rfl⟩
  · refine wp_iload_n dX0_mate_7 rfl ?_
    refine wp_bipush dX0_mate_8 8 rfl ?_
    refine wp_cI (gcS dX0_mate_10 gsa_X0_103 (ct_in _ _) rfl rfl (by omega) (by omega) (by omega) (Nat.le_of_ble_eq_true rfl) rfl) ?_
    refine wp_if_eq dX0_mate_13 39 (by decide) (fun c13 => ?_) (fun c13 => ?_)
    · refine wp_iconst dX0_mate_39 (-1) rfl ?_
      refine wp_iret dX0_mate_40 rfl ?_
      first | exact ⟨by rw [mateV, if_pos ⟨inB_12n hi', bI_1.mp c13⟩, ix_nI (by omega), ix_nI (by omega)], rfl⟩ | exact ⟨by rw [mateV, if_neg (by rintro ⟨p, q⟩; first | exact absurd p (by rw [bI_0.mp c4]; decide) | exact absurd q (by rw [bI_0.mp c13]; decide))], rfl⟩
    · obtain ⟨i, hi', rfl⟩ := inB_12 (bI_1.mp c4)
      obtain ⟨q, hq, rfl⟩ := inB_n (n := 8) (by omega) (bI_1.mp c13)
      refine wp_bipush dX0_mate_16 10 rfl ?_
      refine wp_aload_n dX0_mate_18 rfl ?_
      refine wp_getR dX0_mate_19 gfa_X0_33_0 rfl hC.k0 hC.r1 ?_
      refine wp_getR dX0_mate_22 gfa_X0_117_3 rfl hC.l0.k0 hC.l0.r1 ?_
      refine wp_iload_n dX0_mate_25 rfl ?_
      refine wp_aald dX0_mate_26 hC.l0.k2 rfl i rfl (by omega) (by omega) (hC.l0.rE (by omega)) ?_
      refine wp_getR dX0_mate_27 gfa_X0_171_5 rfl (hC.l0.kE (by omega)) (hC.l0.rH (by omega)) ?_
      refine wp_bipush dX0_mate_30 7 rfl ?_
      refine wp_iload_n dX0_mate_32 rfl ?_
      refine wp_isub dX0_mate_33 ?_
      refine wp_iald dX0_mate_34 (hC.l0.kH (by omega)) (7 - q) (pk_sub (a := 7) (b := q) (by omega)) (by omega) (by omega) ?_
      rw [LG_h (7 - q) (by omega) hi']
      refine wp_isub dX0_mate_35 ?_
      refine wp_goto dX0_mate_36 40 (by decide) ?_
      refine wp_iret dX0_mate_40 rfl ?_
      first | exact ⟨by rw [mateV, if_pos ⟨inB_12n hi', bI_1.mp c13⟩, ix_nI (by omega), ix_nI (by omega)], rfl⟩ | exact ⟨by rw [mateV, if_neg (by rintro ⟨p, q⟩; first | exact absurd p (by rw [bI_0.mp c4]; decide) | exact absurd q (by rw [bI_0.mp c13]; decide))], rfl⟩
theorem ct_piece (k h : Int32) (hC : CK b σ) : Ct Γ 2 0 0 m_X0_piece [.ref b, .int k, .int h] σ (fun r τ => r = some (.int (pieceV (LG σ (b + 2)) k h)) ∧ τ = σ) := by
  refine Ct.ofWP pf_X0_piece rfl rfl ?_
  refine wp_iload_n dX0_piece_0 rfl ?_
  refine wp_cI (gcS dX0_piece_1 gsa_X0_124 (ct_isPiece _) rfl rfl (by omega) (by omega) (by omega) (Nat.le_of_ble_eq_true rfl) rfl) ?_
  refine wp_if_eq dX0_piece_4 16 (by decide) (fun c4 => ?_) (fun c4 => ?_)
  · refine wp_bipush dX0_piece_16 (-100) rfl ?_
    refine wp_iret dX0_piece_18 rfl ?_
    first | exact ⟨by rw [pieceV, if_neg (by rintro ⟨p, q⟩; first | exact absurd p (by rw [bI_0.mp c4]; decide) | exact absurd q (by rw [bI_0.mp c13]; decide))], rfl⟩
  · refine wp_iload_n dX0_piece_7 rfl ?_
    refine wp_bipush dX0_piece_8 10 rfl ?_
    refine wp_cI (gcS dX0_piece_10 gsa_X0_103 (ct_in _ _) rfl rfl (by omega) (by omega) (by omega) (Nat.le_of_ble_eq_true rfl) rfl) ?_
    refine wp_if_ne dX0_piece_13 19 (by decide) (fun c13 => ?_) (fun c13 => ?_)
    · obtain ⟨i, hi', rfl⟩ := inB_12 (bI_1.mp c4)
      have c13' := bI_1.mp c13
      obtain ⟨q, hq, rfl⟩ := inB_n (n := 10) (by omega) (bI_1.mp c13)
      have hp : inB (nI i) 12 = true ∧ inB (nI q) 10 = true := ⟨inB_12n hi', c13'⟩
      refine wp_aload_n dX0_piece_19 rfl ?_
      refine wp_getR dX0_piece_20 gfa_X0_33_0 rfl hC.k0 hC.r1 ?_
      refine wp_getR dX0_piece_23 gfa_X0_117_3 rfl hC.l0.k0 hC.l0.r1 ?_
      refine wp_iload_n dX0_piece_26 rfl ?_
      refine wp_aald dX0_piece_27 hC.l0.k2 rfl i rfl (by omega) (by omega) (hC.l0.rE (by omega)) ?_
      refine wp_astore_n dX0_piece_28 rfl ?_
      refine wp_iload_n dX0_piece_29 rfl ?_
      refine wp_bipush dX0_piece_30 8 rfl ?_
      refine wp_icmp_ge dX0_piece_32 44 (by decide) (fun c32 => ?_) (fun c32 => ?_)
      · refine wp_iload_n dX0_piece_44 rfl ?_
        refine wp_bipush dX0_piece_45 8 rfl ?_
        refine wp_icmp_ne dX0_piece_47 57 (by decide) (fun c47 => ?_) (fun c47 => ?_)
        · refine wp_aload_n dX0_piece_57 rfl ?_
          refine wp_getI dX0_piece_58 gfa_X0_121_5 rfl (hC.l0.kE (by omega)) ?_
          rw [LG_e2 hi']
          refine wp_cI (gcS dX0_piece_61 gsa_X0_212 (ct_orNone _) rfl rfl (by omega) (by omega) (by omega) (Nat.le_of_ble_eq_true rfl) rfl) ?_
          refine wp_iret dX0_piece_64 rfl ?_
          refine ⟨?_, rfl⟩
          rw [pieceV, if_pos hp, ix_nI (by omega), ix_nI (by omega)]
          first | (rw [if_pos (by rw [← Int32.not_le]; exact c32)]; done) | (rw [if_neg (by rw [Int32.not_lt]; exact c32), if_pos c47]; done) | (rw [if_neg (by rw [Int32.not_lt]; exact c32), if_neg c47]; done)
        · refine wp_aload_n dX0_piece_50 rfl ?_
          refine wp_getI dX0_piece_51 gfa_X0_132_5 rfl (hC.l0.kE (by omega)) ?_
          rw [LG_e1 hi']
          refine wp_goto dX0_piece_54 64 (by decide) ?_
          refine wp_iret dX0_piece_64 rfl ?_
          refine ⟨?_, rfl⟩
          rw [pieceV, if_pos hp, ix_nI (by omega), ix_nI (by omega)]
          first | (rw [if_pos (by rw [← Int32.not_le]; exact c32)]; done) | (rw [if_neg (by rw [Int32.not_lt]; exact c32), if_pos c47]; done) | (rw [if_neg (by rw [Int32.not_lt]; exact c32), if_neg c47]; done)
      · refine wp_aload_n dX0_piece_35 rfl ?_
        refine wp_getR dX0_piece_36 gfa_X0_171_5 rfl (hC.l0.kE (by omega)) (hC.l0.rH (by omega)) ?_
        refine wp_iload_n dX0_piece_39 rfl ?_
        refine wp_iald dX0_piece_40 (hC.l0.kH (by omega)) q rfl (by have := (nI_ltI (a := q) (b := 8) (by omega) (by omega)).mp (by rw [← Int32.not_le]; exact c32); omega) (by omega) ?_
        rw [LG_h q (by omega) hi']
        refine wp_goto dX0_piece_41 64 (by decide) ?_
        refine wp_iret dX0_piece_64 rfl ?_
        refine ⟨?_, rfl⟩
        rw [pieceV, if_pos hp, ix_nI (by omega), ix_nI (by omega)]
        first | (rw [if_pos (by rw [← Int32.not_le]; exact c32)]; done) | (rw [if_neg (by rw [Int32.not_lt]; exact c32), if_pos c47]; done) | (rw [if_neg (by rw [Int32.not_lt]; exact c32), if_neg c47]; done)
    · refine wp_bipush dX0_piece_16 (-100) rfl ?_
      refine wp_iret dX0_piece_18 rfl ?_
      first | exact ⟨by rw [pieceV, if_neg (by rintro ⟨p, q⟩; first | exact absurd p (by rw [bI_0.mp c4]; decide) | exact absurd q (by rw [bI_0.mp c13]; decide))], rfl⟩
theorem ct_isAsker (v : Int32) (hC : CK b σ) : Ct Γ 3 0 0 m_X0_isAsker [.ref b, .int v] σ (fun r τ => r = some (.int (bI (askerV (LG σ (b + 2)) v))) ∧ τ = σ) := by
  refine Ct.ofWP pf_X0_isAsker rfl rfl ?_
  refine wp_aload_n dX0_isAsker_0 rfl ?_
  refine wp_getR dX0_isAsker_1 gfa_X0_33_0 rfl hC.k0 hC.r1 ?_
  refine wp_iload_n dX0_isAsker_4 rfl ?_
  refine wp_cI (gcV dX0_isAsker_5 gva_X0_135_3 (ct_lives _ hC.l0) hC.l0.k0 rfl rfl (by omega) (by omega) (by omega) (Nat.le_of_ble_eq_true rfl) rfl) ?_
  refine wp_if_eq dX0_isAsker_8 30 (by decide) (fun c8 => ?_) (fun c8 => ?_)
  · refine wp_iconst dX0_isAsker_30 0 rfl ?_
    refine wp_zret dX0_isAsker_31 rfl (Or.inl rfl) ?_
    first | exact ⟨by rw [askerV, bI_0.mp c8]; rfl, rfl⟩ | exact ⟨by rw [askerV, bI_1.mp c8, ix_nI (by omega)]; simp [c23, bI], rfl⟩
  · obtain ⟨i, hi', rfl, hl⟩ := livesV_t (bI_1.mp c8)
    refine wp_aload_n dX0_isAsker_11 rfl ?_
    refine wp_getR dX0_isAsker_12 gfa_X0_33_0 rfl hC.k0 hC.r1 ?_
    refine wp_getR dX0_isAsker_15 gfa_X0_94_3 rfl hC.l0.k0 hC.l0.r0 ?_
    refine wp_iload_n dX0_isAsker_18 rfl ?_
    refine wp_aald dX0_isAsker_19 hC.l0.k1 rfl i rfl (by omega) (by omega) (hC.l0.rP (by omega)) ?_
    refine wp_getI dX0_isAsker_20 gfa_X0_111_4 rfl (hC.l0.kP (by omega)) ?_
    rw [LG_p 1 (by omega) hi']
    refine wp_if_ne dX0_isAsker_23 30 (by decide) (fun c23 => ?_) (fun c23 => ?_)
    · refine wp_iconst dX0_isAsker_30 0 rfl ?_
      refine wp_zret dX0_isAsker_31 rfl (Or.inl rfl) ?_
      first | exact ⟨by rw [askerV, bI_0.mp c8]; rfl, rfl⟩ | exact ⟨by rw [askerV, bI_1.mp c8, ix_nI (by omega)]; simp [c23, bI], rfl⟩
    · refine wp_iconst dX0_isAsker_26 1 rfl ?_
      refine wp_goto dX0_isAsker_27 31 (by decide) ?_
      refine wp_zret dX0_isAsker_31 rfl (Or.inr rfl) ?_
      first | exact ⟨by rw [askerV, bI_0.mp c8]; rfl, rfl⟩ | exact ⟨by rw [askerV, bI_1.mp c8, ix_nI (by omega)]; simp [c23, bI], rfl⟩
theorem ct_areFit {i j : Nat} (hi' : i < 12) (hj : j < 12) (hS : Sy b hi Lw σ) : Ct Γ 51 0 0 m_X0_areFit [.ref b, .int (nI i), .int (nI j)] σ (fun v τ => ∃ y, v = some (.int y) ∧ (y = bI (areFitB Lw (LG σ (b + 2)) i j) ∧ Fr (isM b) b σ τ)) := by
  refine Ct.ofWP pf_X0_areFit rfl rfl ?_
  have hC := hS.1
  refine wp_aload_n dX0_areFit_0 rfl ?_
  refine wp_getR dX0_areFit_1 gfa_X0_33_0 rfl hC.k0 hC.r1 ?_
  refine wp_iload_n dX0_areFit_4 rfl ?_
  refine wp_cI (gcV dX0_areFit_5 gva_X0_135_3 (ct_lives _ hC.l0) hC.l0.k0 rfl rfl (by omega) (by omega) (by omega) (Nat.le_of_ble_eq_true rfl) rfl) ?_
  rw [livesV_n hi']
  refine wp_if_eq dX0_areFit_8 38 (by decide) (fun c8 => ?_) (fun c8 => ?_)
  · refine wp_iconst dX0_areFit_38 0 rfl ?_
    refine wp_zret dX0_areFit_39 rfl (Or.inl rfl) ?_
    first | exact ⟨_, rfl, by rw [areFitB, bI_0.mp c8]; rfl, Fr.rf⟩ | exact ⟨_, rfl, by rw [areFitB, bI_0.mp c19]; simp [bI], Fr.rf⟩ | exact ⟨_, rfl, by rw [areFitB, bI_1.mp c8, bI_1.mp c19, bI_0.mp c31]; rfl, hf⟩ | exact ⟨_, rfl, by rw [areFitB, bI_1.mp c8, bI_1.mp c19, bI_1.mp c31]; rfl, hf⟩
  · refine wp_aload_n dX0_areFit_11 rfl ?_
    refine wp_getR dX0_areFit_12 gfa_X0_33_0 rfl hC.k0 hC.r1 ?_
    refine wp_iload_n dX0_areFit_15 rfl ?_
    refine wp_cI (gcV dX0_areFit_16 gva_X0_135_3 (ct_lives _ hC.l0) hC.l0.k0 rfl rfl (by omega) (by omega) (by omega) (Nat.le_of_ble_eq_true rfl) rfl) ?_
    rw [livesV_n hj]
    refine wp_if_eq dX0_areFit_19 38 (by decide) (fun c19 => ?_) (fun c19 => ?_)
    · refine wp_iconst dX0_areFit_38 0 rfl ?_
      refine wp_zret dX0_areFit_39 rfl (Or.inl rfl) ?_
      first | exact ⟨_, rfl, by rw [areFitB, bI_0.mp c8]; rfl, Fr.rf⟩ | exact ⟨_, rfl, by rw [areFitB, bI_0.mp c19]; simp [bI], Fr.rf⟩ | exact ⟨_, rfl, by rw [areFitB, bI_1.mp c8, bI_1.mp c19, bI_0.mp c31]; rfl, hf⟩ | exact ⟨_, rfl, by rw [areFitB, bI_1.mp c8, bI_1.mp c19, bI_1.mp c31]; rfl, hf⟩
    · refine wp_aload_n dX0_areFit_22 rfl ?_
      refine wp_getR dX0_areFit_23 gfa_X0_33_0 rfl hC.k0 hC.r1 ?_
      refine wp_iload_n dX0_areFit_26 rfl ?_
      refine wp_iload_n dX0_areFit_27 rfl ?_
      refine wp_cIx (gcV dX0_areFit_28 gva_X0_216_3 (ct_fit hi' hj hC.l0 hS) hC.l0.k0 rfl rfl (by omega) (by omega) (by omega) (Nat.le_of_ble_eq_true rfl) rfl) (fun y τ hy => ?_)
      obtain ⟨rfl, hf⟩ := hy
      refine wp_if_eq dX0_areFit_31 38 (by decide) (fun c31 => ?_) (fun c31 => ?_)
      · refine wp_iconst dX0_areFit_38 0 rfl ?_
        refine wp_zret dX0_areFit_39 rfl (Or.inl rfl) ?_
        first | exact ⟨_, rfl, by rw [areFitB, bI_0.mp c8]; rfl, Fr.rf⟩ | exact ⟨_, rfl, by rw [areFitB, bI_0.mp c19]; simp [bI], Fr.rf⟩ | exact ⟨_, rfl, by rw [areFitB, bI_1.mp c8, bI_1.mp c19, bI_0.mp c31]; rfl, hf⟩ | exact ⟨_, rfl, by rw [areFitB, bI_1.mp c8, bI_1.mp c19, bI_1.mp c31]; rfl, hf⟩
      · refine wp_iconst dX0_areFit_34 1 rfl ?_
        refine wp_goto dX0_areFit_35 39 (by decide) ?_
        refine wp_zret dX0_areFit_39 rfl (Or.inr rfl) ?_
        first | exact ⟨_, rfl, by rw [areFitB, bI_0.mp c8]; rfl, Fr.rf⟩ | exact ⟨_, rfl, by rw [areFitB, bI_0.mp c19]; simp [bI], Fr.rf⟩ | exact ⟨_, rfl, by rw [areFitB, bI_1.mp c8, bI_1.mp c19, bI_0.mp c31]; rfl, hf⟩ | exact ⟨_, rfl, by rw [areFitB, bI_1.mp c8, bI_1.mp c19, bI_1.mp c31]; rfl, hf⟩
end
