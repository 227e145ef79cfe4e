set_option maxRecDepth 100000
def toldV (p : Int32 × Bool) : Int32 := if p.2 = true then 0 else p.1
abbrev Lws : Type := List (Int32 × SD × CD)
def tellsV (V : Int32 → Int32) (c : Int32) : Lws → Int32
  | [] => 0
  | q :: L => if q.1 = c ∧ q.2.2 V = 1 then toldV (q.2.1 V) else tellsV V c L
def bitc (x0 : Int32) : Int32 :=
  let sr : Int32 → Int32 → Int32 := fun x y => (x.toUInt32 >>> (y.toUInt32 &&& Int32.toUInt32 31)).toInt32
  let x1 := x0 - (sr x0 1 &&& 1431655765)
  let x2 := (x1 &&& 858993459) + (sr x1 2 &&& 858993459)
  let x3 := (x2 + sr x2 4) &&& 252645135
  let x4 := x3 + sr x3 8
  let x5 := x4 + sr x4 16
  x5 &&& 63
/-- what a letter is worth: of a land, the first, the second, the slack -/
def momV (G : Gd) (i j : Nat) (s c : Int32) : Int32 := if c = 97 then G 4 i else if c = 100 then G 30 2 else if c = 105 then nI i else if c = 106 then nI j else if c = 112 then G 1 i else if c = 115 then s else if c = 117 then G 2 i else if c = 118 then G 2 j else if c = 120 then bitc (holdsF G (nI i) 12) else if c = 121 then bitc (holdsF G (nI j) 12) else G 1 j
/-- the moment of the system at b looks at the land at a, first i, second j, slack s -/
def MomOK (b a i j : Nat) (s : Int32) (σ : St) : Prop := i < 12 ∧ j < 12 ∧ LK b a σ ∧ stK σ (b + 1) = some (2, 0) ∧ stR σ (b + 1) 1 = some a ∧ stI σ (b + 1) 2 = nI i ∧ stI σ (b + 1) 3 = nI j ∧ stI σ (b + 1) 4 = s
theorem MomOK.set {b a i j : Nat} {s : Int32} {σ : St} (h : MomOK b a i j s σ) (x : Int32) : MomOK b a i j s (setI σ (b + 1) 0 x) := by
  obtain ⟨h1, h2, h3, h4, h5, h6, h7, h8⟩ := h
  exact ⟨h1, h2, h3, h4, h5, by rw [stI_setI, if_neg (by omega)]; exact h6, by rw [stI_setI, if_neg (by omega)]; exact h7, by rw [stI_setI, if_neg (by omega)]; exact h8⟩
section
variable {Γ : Gm} {σ : St}
theorem ct_bitCount (x : Int32) : Ct Γ 0 0 0 m_J6_bitCount [.int x] σ (fun v τ => v = some (.int (bitc x)) ∧ τ = σ) := by
  refine Ct.ofWP pf_J6_bitCount rfl rfl ?_
  refine wp_iload_n dJ6_bitCount_0 rfl ?_
  refine wp_iload_n dJ6_bitCount_1 rfl ?_
  refine wp_iconst dJ6_bitCount_2 1 rfl ?_
  refine wp_iushr dJ6_bitCount_3 ?_
  refine wp_ldcw dJ6_bitCount_4 q994 ?_
  refine wp_iand dJ6_bitCount_7 ?_
  refine wp_isub dJ6_bitCount_8 ?_
  refine wp_istore_n dJ6_bitCount_9 rfl ?_
  refine wp_iload_n dJ6_bitCount_10 rfl ?_
  refine wp_ldcw dJ6_bitCount_11 q995 ?_
  refine wp_iand dJ6_bitCount_14 ?_
  refine wp_iload_n dJ6_bitCount_15 rfl ?_
  refine wp_iconst dJ6_bitCount_16 2 rfl ?_
  refine wp_iushr dJ6_bitCount_17 ?_
  refine wp_ldcw dJ6_bitCount_18 q995 ?_
  refine wp_iand dJ6_bitCount_21 ?_
  refine wp_iadd dJ6_bitCount_22 ?_
  refine wp_istore_n dJ6_bitCount_23 rfl ?_
  refine wp_iload_n dJ6_bitCount_24 rfl ?_
  refine wp_iload_n dJ6_bitCount_25 rfl ?_
  refine wp_iconst dJ6_bitCount_26 4 rfl ?_
  refine wp_iushr dJ6_bitCount_27 ?_
  refine wp_iadd dJ6_bitCount_28 ?_
  refine wp_ldcw dJ6_bitCount_29 q996 ?_
  refine wp_iand dJ6_bitCount_32 ?_
  refine wp_istore_n dJ6_bitCount_33 rfl ?_
  refine wp_iload_n dJ6_bitCount_34 rfl ?_
  refine wp_iload_n dJ6_bitCount_35 rfl ?_
  refine wp_bipush dJ6_bitCount_36 8 rfl ?_
  refine wp_iushr dJ6_bitCount_38 ?_
  refine wp_iadd dJ6_bitCount_39 ?_
  refine wp_istore_n dJ6_bitCount_40 rfl ?_
  refine wp_iload_n dJ6_bitCount_41 rfl ?_
  refine wp_iload_n dJ6_bitCount_42 rfl ?_
  refine wp_bipush dJ6_bitCount_43 16 rfl ?_
  refine wp_iushr dJ6_bitCount_45 ?_
  refine wp_iadd dJ6_bitCount_46 ?_
  refine wp_istore_n dJ6_bitCount_47 rfl ?_
  refine wp_iload_n dJ6_bitCount_48 rfl ?_
  refine wp_bipush dJ6_bitCount_49 63 rfl ?_
  refine wp_iand dJ6_bitCount_51 ?_
  refine wp_iret dJ6_bitCount_52 rfl ?_
  exact ⟨rfl, rfl⟩
theorem ct_value {b a i j : Nat} {s : Int32} (c : Int32) (hM : MomOK b a i j s σ) : Ct Γ 2 0 0 m_X2_value [.ref (b + 1), .int c] σ (fun v τ => v = some (.int (momV (LG σ a) i j s c)) ∧ τ = σ) := by
  refine Ct.ofWP pf_X2_value rfl rfl ?_
  have hi := hM.1
  have hj := hM.2.1
  refine wp_aload_n dX2_value_0 rfl ?_
  refine wp_getR dX2_value_1 gfa_X2_13_2 rfl hM.2.2.2.1 hM.2.2.2.2.1 ?_
  refine wp_getR dX2_value_4 gfa_X2_27_3 rfl hM.2.2.1.k0 hM.2.2.1.r0 ?_
  refine wp_aload_n dX2_value_7 rfl ?_
  refine wp_getI dX2_value_8 gfa_X2_17_2 rfl hM.2.2.2.1 ?_
  refine wp_aald dX2_value_11 hM.2.2.1.k1 rfl i hM.2.2.2.2.2.1 (by omega) (by omega) (hM.2.2.1.rP (by omega)) ?_
  refine wp_astore_n dX2_value_12 rfl ?_
  refine wp_aload_n dX2_value_13 rfl ?_
  refine wp_getR dX2_value_14 gfa_X2_13_2 rfl hM.2.2.2.1 hM.2.2.2.2.1 ?_
  refine wp_getR dX2_value_17 gfa_X2_27_3 rfl hM.2.2.1.k0 hM.2.2.1.r0 ?_
  refine wp_aload_n dX2_value_20 rfl ?_
  refine wp_getI dX2_value_21 gfa_X2_21_2 rfl hM.2.2.2.1 ?_
  refine wp_aald dX2_value_24 hM.2.2.1.k1 rfl j hM.2.2.2.2.2.2.1 (by omega) (by omega) (hM.2.2.1.rP (by omega)) ?_
  refine wp_astore_n dX2_value_25 rfl ?_
  refine wp_iload_n dX2_value_26 rfl ?_
  refine wp_tsw dX2_value_27 [(97, 203), (100, 195), (105, 140), (106, 145), (112, 208), (115, 150), (117, 185), (118, 190), (120, 155), (121, 170)] 213 (by decide) (List.forall_mem_cons.mpr ⟨fun c27 => ?_, (List.forall_mem_cons.mpr ⟨fun c27 => ?_, (List.forall_mem_cons.mpr ⟨fun c27 => ?_, (List.forall_mem_cons.mpr ⟨fun c27 => ?_, (List.forall_mem_cons.mpr ⟨fun c27 => ?_, (List.forall_mem_cons.mpr ⟨fun c27 => ?_, (List.forall_mem_cons.mpr ⟨fun c27 => ?_, (List.forall_mem_cons.mpr ⟨fun c27 => ?_, (List.forall_mem_cons.mpr ⟨fun c27 => ?_, (List.forall_mem_cons.mpr ⟨fun c27 => ?_, List.forall_mem_nil _⟩)⟩)⟩)⟩)⟩)⟩)⟩)⟩)⟩)⟩) (fun c27 => ?_)
  · have c27 : _ = (97 : Int32) := c27
    refine wp_aload_n dX2_value_203 rfl ?_
    refine wp_getI dX2_value_204 gfa_X2_50_4 rfl (hM.2.2.1.kP (by omega)) ?_
    rw [LG_p 4 (by omega) (by omega)]
    refine wp_iret dX2_value_207 rfl ?_
    subst c27; exact ⟨rfl, rfl⟩
  · have c27 : _ = (100 : Int32) := c27
    refine wp_aload_n dX2_value_195 rfl ?_
    refine wp_getR dX2_value_196 gfa_X2_13_2 rfl hM.2.2.2.1 hM.2.2.2.2.1 ?_
    refine wp_getI dX2_value_199 gfa_X2_47_3 rfl hM.2.2.1.k0 ?_
    rw [LG_s (by omega)]
    refine wp_iret dX2_value_202 rfl ?_
    subst c27; exact ⟨rfl, rfl⟩
  · have c27 : _ = (105 : Int32) := c27
    refine wp_aload_n dX2_value_140 rfl ?_
    refine wp_getI dX2_value_141 gfa_X2_17_2 rfl hM.2.2.2.1 ?_
    rw [hM.2.2.2.2.2.1]
    refine wp_iret dX2_value_144 rfl ?_
    subst c27; exact ⟨rfl, rfl⟩
  · have c27 : _ = (106 : Int32) := c27
    refine wp_aload_n dX2_value_145 rfl ?_
    refine wp_getI dX2_value_146 gfa_X2_21_2 rfl hM.2.2.2.1 ?_
    rw [hM.2.2.2.2.2.2.1]
    refine wp_iret dX2_value_149 rfl ?_
    subst c27; exact ⟨rfl, rfl⟩
  · have c27 : _ = (112 : Int32) := c27
    refine wp_aload_n dX2_value_208 rfl ?_
    refine wp_getI dX2_value_209 gfa_X2_53_4 rfl (hM.2.2.1.kP (by omega)) ?_
    rw [LG_p 1 (by omega) (by omega)]
    refine wp_iret dX2_value_212 rfl ?_
    subst c27; exact ⟨rfl, rfl⟩
  · have c27 : _ = (115 : Int32) := c27
    refine wp_aload_n dX2_value_150 rfl ?_
    refine wp_getI dX2_value_151 gfa_X2_24_2 rfl hM.2.2.2.1 ?_
    rw [hM.2.2.2.2.2.2.2]
    refine wp_iret dX2_value_154 rfl ?_
    subst c27; exact ⟨rfl, rfl⟩
  · have c27 : _ = (117 : Int32) := c27
    refine wp_aload_n dX2_value_185 rfl ?_
    refine wp_getI dX2_value_186 gfa_X2_42_4 rfl (hM.2.2.1.kP (by omega)) ?_
    rw [LG_p 2 (by omega) (by omega)]
    refine wp_iret dX2_value_189 rfl ?_
    subst c27; exact ⟨rfl, rfl⟩
  · have c27 : _ = (118 : Int32) := c27
    refine wp_aload_n dX2_value_190 rfl ?_
    refine wp_getI dX2_value_191 gfa_X2_42_4 rfl (hM.2.2.1.kP (by omega)) ?_
    rw [LG_p 2 (by omega) (by omega)]
    refine wp_iret dX2_value_194 rfl ?_
    subst c27; exact ⟨rfl, rfl⟩
  · have c27 : _ = (120 : Int32) := c27
    refine wp_aload_n dX2_value_155 rfl ?_
    refine wp_getR dX2_value_156 gfa_X2_13_2 rfl hM.2.2.2.1 hM.2.2.2.2.1 ?_
    refine wp_aload_n dX2_value_159 rfl ?_
    refine wp_getI dX2_value_160 gfa_X2_17_2 rfl hM.2.2.2.1 ?_
    rw [hM.2.2.2.2.2.1]
    refine wp_cI (gcV dX2_value_163 gva_X2_33_3 (ct_holds _ hM.2.2.1) hM.2.2.1.k0 rfl rfl (by omega) (by omega) (by omega) (Nat.le_of_ble_eq_true rfl) rfl) ?_
    refine wp_cI (gcS dX2_value_166 gsa_X2_37 (ct_bitCount _) rfl rfl (by omega) (by omega) (by omega) (Nat.le_of_ble_eq_true rfl) rfl) ?_
    refine wp_iret dX2_value_169 rfl ?_
    subst c27; exact ⟨rfl, rfl⟩
  · have c27 : _ = (121 : Int32) := c27
    refine wp_aload_n dX2_value_170 rfl ?_
    refine wp_getR dX2_value_171 gfa_X2_13_2 rfl hM.2.2.2.1 hM.2.2.2.2.1 ?_
    refine wp_aload_n dX2_value_174 rfl ?_
    refine wp_getI dX2_value_175 gfa_X2_21_2 rfl hM.2.2.2.1 ?_
    rw [hM.2.2.2.2.2.2.1]
    refine wp_cI (gcV dX2_value_178 gva_X2_33_3 (ct_holds _ hM.2.2.1) hM.2.2.1.k0 rfl rfl (by omega) (by omega) (by omega) (Nat.le_of_ble_eq_true rfl) rfl) ?_
    refine wp_cI (gcS dX2_value_181 gsa_X2_37 (ct_bitCount _) rfl rfl (by omega) (by omega) (by omega) (Nat.le_of_ble_eq_true rfl) rfl) ?_
    refine wp_iret dX2_value_184 rfl ?_
    subst c27; exact ⟨rfl, rfl⟩
  · skip
    refine wp_aload_n dX2_value_213 rfl ?_
    refine wp_getI dX2_value_214 gfa_X2_53_4 rfl (hM.2.2.1.kP (by omega)) ?_
    rw [LG_p 1 (by omega) (by omega)]
    refine wp_iret dX2_value_217 rfl ?_
    refine ⟨?_, rfl⟩
    simp only [List.mem_cons, List.not_mem_nil, or_false, forall_eq_or_imp, forall_eq] at c27
    obtain ⟨e1, e2, e3, e4, e5, e6, e7, e8, e9, e10⟩ := c27
    rw [momV, if_neg e1, if_neg e2, if_neg e3, if_neg e4, if_neg e5, if_neg e6, if_neg e7, if_neg e8, if_neg e9, if_neg e10]
theorem MomOK.val {b a i j : Nat} {s : Int32} (hM : MomOK b a i j s σ) : ValOK Γ (b + 1) (momV (LG σ a) i j s) σ := by
  refine ⟨hM.2.2.2.1, fun x c => ?_⟩
  have h := ct_value (Γ := Γ) c (hM.set x)
  have e : LG (setI σ (b + 1) 0 x) a = LG σ a := LG_other (by have := hM.2.2.1.1; omega)
  rw [e] at h
  exact h
theorem ct_told {ds lo hi m r : Nat} {V : Int32 → Int32} {S : SD} (hm : m < lo) (hS : SumAt lo hi σ ds r S) (hV : ValOK Γ m V σ) : Ct Γ (ds + 4) 0 0 m_X9_told [.ref r, .ref m] σ (fun v τ => ∃ y, v = some (.int y) ∧ (y = toldV (S V) ∧ ∃ x, τ = setI σ m 0 x)) := by
  refine Ct.ofWP pf_X9_told rfl rfl ?_
  have hS1 := hS.agr (τ := setI σ m 0 0) (Agr.setI hm)
  have er : stI (rfS (setI σ m 0 0) m (S V).2) m 0 = bI (S V).2 := by cases (S V).2 <;> simp [rfS, stI_setI, bI]
  refine wp_aload_n dX9_told_0 rfl ?_
  refine wp_iconst dX9_told_1 0 rfl ?_
  refine wp_putI dX9_told_2 gfa_X9_7_2 (Or.inl rfl) rfl ⟨rfl, rfl⟩ hV.1 ?_
  refine wp_aload_n dX9_told_5 rfl ?_
  refine wp_aload_n dX9_told_6 rfl ?_
  refine gcW dX9_told_7 inhW_9 (ct_sum hm ds r S _ hS1 (hV.set 0)) rfl (by omega) (Nat.le_of_ble_eq_true rfl) rfl ?_
  refine wp_istore_n dX9_told_10 rfl ?_
  refine wp_aload_n dX9_told_11 rfl ?_
  refine wp_getI dX9_told_12 gfa_X9_7_2 rfl (rfK hV.1) ?_
  rw [er]
  refine wp_if_eq dX9_told_15 22 (by decide) (fun c15 => ?_) (fun c15 => ?_)
  · refine wp_iload_n dX9_told_22 rfl ?_
    refine wp_iret dX9_told_23 rfl ?_
    obtain ⟨x, e⟩ := rfS_is (setI σ m 0 0) m (S V).2
    refine ⟨_, rfl, ?_, x, by rw [e, setI_setI]⟩
    unfold toldV
    first | rw [bI_0.mp c15]; rfl | rw [bI_1.mp c15]; rfl
  · refine wp_iconst dX9_told_18 0 rfl ?_
    refine wp_goto dX9_told_19 23 (by decide) ?_
    refine wp_iret dX9_told_23 rfl ?_
    obtain ⟨x, e⟩ := rfS_is (setI σ m 0 0) m (S V).2
    refine ⟨_, rfl, ?_, x, by rw [e, setI_setI]⟩
    unfold toldV
    first | rw [bI_0.mp c15]; rfl | rw [bI_1.mp c15]; rfl
end
