set_option maxRecDepth 100000
theorem rfS_K (σ : St) (m : Nat) (f : Bool) (c : Nat) : stK (rfS σ m f) c = stK σ c := by cases f <;> rfl
theorem rfS_R (σ : St) (m : Nat) (f : Bool) (c k : Nat) : stR (rfS σ m f) c k = stR σ c k := by cases f <;> rfl
theorem rfS_I (σ : St) (m : Nat) (f : Bool) (c k : Nat) (h : c ≠ m) : stI (rfS σ m f) c k = stI σ c k := by
  cases f
  · rfl
  · show stI (setI σ m 0 1) c k = _
    rw [stI_setI, if_neg (fun r => h r.1)]
def xW : MethodName := ⟨"PuzzleWed$Sum", "worth", "(LPuzzleWed$Asked;)I"⟩
/-- what a sum's worth is called for, in any of its classes -/
def SumPost (σ : St) (m : Nat) (V : Int32 → Int32) (S : SD) : Option Value → St → Prop := fun v τ => v = some (.int (S V).1) ∧ τ = rfS σ m (S V).2
def SumCt (Γ : Gm) (d : Nat) (m : Nat) (V : Int32 → Int32) (σ : St) (r : Nat) (S : SD) : Prop :=
  (stK σ r = some (10, 0) ∧ Ct Γ d 0 0 m_X10_worth [.ref r, .ref m] σ (SumPost σ m V S)) ∨ (stK σ r = some (11, 0) ∧ Ct Γ d 0 0 m_X11_worth [.ref r, .ref m] σ (SumPost σ m V S)) ∨ (stK σ r = some (12, 0) ∧ Ct Γ d 0 0 m_X12_worth [.ref r, .ref m] σ (SumPost σ m V S))
def InhW (own : String) (i : Nat) : Prop := InhAt own i 10 xW m_X10_worth 1 ∧ InhAt own i 11 xW m_X11_worth 1 ∧ InhAt own i 12 xW m_X12_worth 1
theorem gcW {Γ : Gm} {μ : Mth} {d d' c n pc : Nat} {L : List (Option Value)} {st stk : List Value} {σ : St} {i m r : Nat} {V : Int32 → Int32} {S : SD} {Q : Option Value → St → Prop} (hd : decode (mcode μ) pc = .ok (.invokevirtual i, 3)) (hI : InhW (mown μ) i) (h : SumCt Γ d' m V σ r S) (hst : stk = .ref m :: .ref r :: st) (hdd : d' + 1 ≤ d) (hl8 : st.length ≤ 8) (hc1 : st.all (fun v => v.category == 1) = true)
    (kk : WP Γ μ d c n (pc + 3) L (.int (S V).1 :: st) (rfS σ m (S V).2) Q) : WP Γ μ d c n pc L stk σ Q := by
  subst hst
  rcases h with ⟨hK, h⟩ | ⟨hK, h⟩ | ⟨hK, h⟩
  · exact wp_cI (gcU hd hI.1 h hK rfl rfl hdd (Nat.zero_le _) (Nat.zero_le _) hl8 hc1) kk
  · exact wp_cI (gcU hd hI.2.1 h hK rfl rfl hdd (Nat.zero_le _) (Nat.zero_le _) hl8 hc1) kk
  · exact wp_cI (gcU hd hI.2.2 h hK rfl rfl hdd (Nat.zero_le _) (Nat.zero_le _) hl8 hc1) kk
theorem inhW_10 : InhW RX10 23 := ⟨gua_X10_23_10, gua_X10_23_11, gua_X10_23_12⟩
theorem inhW_16 : InhW RX16 26 := ⟨gua_X16_26_10, gua_X16_26_11, gua_X16_26_12⟩
theorem inhW_9 : InhW RX9 13 := ⟨gua_X9_13_10, gua_X9_13_11, gua_X9_13_12⟩
theorem rfK {σ : St} {m : Nat} {f : Bool} {c : Nat} {x : Option (Nat × Nat)} (h : stK σ c = x) : stK (rfS σ m f) c = x := (rfS_K σ m f c).trans h
section
variable {Γ : Gm} {lo hi m : Nat} {V : Int32 → Int32}
theorem ct_sum (hm : m < lo) : ∀ (d r : Nat) (S : SD) (σ : St), SumAt lo hi σ d r S → ValOK Γ m V σ → SumCt Γ (d + 3) m V σ r S := by
  intro d
  induction d with
  | zero => intro r S σ h; exact absurd h id
  | succ d ihd =>
    intro r S σ h hV
    obtain ⟨h1, h2, h⟩ := h
    rcases h with ⟨hK, rfl⟩ | ⟨hK, rfl⟩ | ⟨hK, p, S0, L, hp, hS0, hL, rfl⟩
    · refine Or.inr (Or.inl ⟨hK, Ct.ofWP pf_X11_worth rfl rfl ?_⟩)
      refine wp_aload_n dX11_worth_0 rfl ?_
      refine wp_getI dX11_worth_1 gfa_X11_7_11 rfl hK ?_
      refine wp_iret dX11_worth_4 rfl ?_
      exact ⟨rfl, rfl⟩
    · refine Or.inr (Or.inr ⟨hK, Ct.ofWP pf_X12_worth rfl rfl ?_⟩)
      refine wp_aload_n dX12_worth_0 rfl ?_
      refine wp_aload_n dX12_worth_1 rfl ?_
      refine wp_getI dX12_worth_2 gfa_X12_7_12 rfl hK ?_
      refine wp_cI (gcU dX12_worth_5 gua_X12_13_2 (hV.at _) hV.1 rfl rfl (by omega) (by omega) (by omega) (Nat.le_of_ble_eq_true rfl) rfl) ?_
      refine wp_iret dX12_worth_8 rfl ?_
      exact ⟨rfl, rfl⟩
    · refine Or.inl ⟨hK, Ct.ofWP pf_X10_worth rfl rfl ?_⟩
      have loop : ∀ Q : Option Value → St → Prop, ∀ (L : List (Int32 × SD)) (nx : Option Nat) (v : Int32) (f : Bool), Chain (SumAt lo hi σ d) lo hi σ nx L → Q (some (.int (rowsV V L (v, f)).1)) (rfS σ m (rowsV V L (v, f)).2) → WP Γ m_X10_worth (d + 1 + 3) 0 0 14 [some (.ref r), some (.ref m), some (.int v), some (va_rf nx)] [] (rfS σ m f) Q := by
        intro Q L
        induction L with
        | nil =>
          intro nx v f hc hQ
          have hc : nx = none := hc
          subst hc
          show WP Γ m_X10_worth (d + 1 + 3) 0 0 14 [some (.ref r), some (.ref m), some (.int v), some .null] [] (rfS σ m f) Q
          refine wp_aload_nN dX10_worth_14 rfl ?_
          refine wp_ifnullN dX10_worth_15 44 (by decide) ?_
          refine wp_iload_n dX10_worth_44 rfl ?_
          refine wp_iret dX10_worth_45 rfl ?_
          exact hQ
        | cons q L ih =>
          obtain ⟨s, S1⟩ := q
          intro nx v f hc hQ
          obtain ⟨q, rfl, g1, g2, g3, g4, ⟨p1, g5, g6⟩, g7⟩ := hc
          have g5' : stR (rfS σ m f) q 1 = some p1 := by rw [rfS_R]; exact g5
          have hV' := hV.rfS f
          have g6' := g6.rfS hm f
          show WP Γ m_X10_worth (d + 1 + 3) 0 0 14 [some (.ref r), some (.ref m), some (.int v), some (.ref q)] [] (rfS σ m f) Q
          refine wp_aload_n dX10_worth_14 rfl ?_
          refine wp_ifnull dX10_worth_15 ?_
          refine wp_aload_n dX10_worth_18 rfl ?_
          refine wp_getI dX10_worth_19 gfa_X10_7_10 rfl (rfK g3) ?_
          refine wp_iload_n dX10_worth_22 rfl ?_
          refine wp_aload_n dX10_worth_23 rfl ?_
          refine wp_getR dX10_worth_24 gfa_X10_13_10 rfl (rfK g3) g5' ?_
          refine wp_aload_n dX10_worth_27 rfl ?_
          refine gcW dX10_worth_28 inhW_10 (ihd p1 S1 _ g6' hV') rfl (by omega) (Nat.le_of_ble_eq_true rfl) rfl ?_
          rw [rfS_rfS, rfS_I σ m f q 0 (by omega), g4]
          refine wp_aload_n dX10_worth_31 rfl ?_
          refine wp_cI (gcS dX10_worth_32 gsa_X10_31 (ct_worked _ _ _ (rfK hV.1)) rfl rfl (by omega) (by omega) (by omega) (Nat.le_of_ble_eq_true rfl) rfl) ?_
          rw [rfS_rfS]
          refine wp_istore_n dX10_worth_35 rfl ?_
          refine wp_aload_n dX10_worth_36 rfl ?_
          refine wp_getV dX10_worth_37 gfa_X10_27_10 rfl (rfK g3) (rfS_R _ _ _ _ _) ?_
          refine wp_astoreV_n dX10_worth_40 rfl ?_
          refine wp_goto dX10_worth_41 14 (by decide) ?_
          exact ih (stR σ q 2) _ _ g7 hQ
      refine wp_aload_n dX10_worth_0 rfl ?_
      refine wp_getR dX10_worth_1 gfa_X10_13_10 rfl hK hp ?_
      refine wp_aload_n dX10_worth_4 rfl ?_
      refine gcW dX10_worth_5 inhW_10 (ihd p S0 _ hS0 hV) rfl (by omega) (Nat.le_of_ble_eq_true rfl) rfl ?_
      refine wp_istore_n dX10_worth_8 rfl ?_
      refine wp_aload_n dX10_worth_9 rfl ?_
      refine wp_getV dX10_worth_10 gfa_X10_27_10 rfl (rfK hK) (rfS_R _ _ _ _ _) ?_
      refine wp_astoreV_n dX10_worth_13 rfl ?_
      exact loop _ L _ _ _ hL ⟨rfl, rfl⟩
end
