set_option maxRecDepth 100000
/-- nothing but the cells of W is written (and the moment's land) -/
def Fr (W : Nat → Prop) (b : Nat) (σ τ : St) : Prop := KR b σ τ ∧ ∀ c, ¬ W c → ∀ k, stI τ c k = stI σ c k
theorem Fr.rf {W : Nat → Prop} {b : Nat} {σ : St} : Fr W b σ σ := ⟨KR.rf, fun _ _ _ => rfl⟩
theorem Fr.trans {W : Nat → Prop} {b : Nat} {σ τ ρ : St} (h1 : Fr W b σ τ) (h2 : Fr W b τ ρ) : Fr W b σ ρ := ⟨h1.1.trans h2.1, fun c hc k => (h2.2 c hc k).trans (h1.2 c hc k)⟩
theorem Fr.mono {W W' : Nat → Prop} {b : Nat} {σ τ : St} (h : Fr W b σ τ) (hW : ∀ c, W c → W' c) : Fr W' b σ τ := ⟨h.1, fun c hc k => h.2 c (fun r => hc (hW c r)) k⟩
theorem Fr.setI {W : Nat → Prop} {b c k : Nat} {x : Int32} {σ τ : St} (h : Fr W b σ τ) (hc : W c) : Fr W b σ (setI τ c k x) := ⟨h.1, fun c' hc' j => by rw [stI_setI, if_neg (by rintro ⟨rfl, -⟩; exact hc' hc)]; exact h.2 c' hc' j⟩
theorem Fr.setM {W : Nat → Prop} {b : Nat} {r : Option Nat} {σ τ : St} (h : Fr W b σ τ) : Fr W b σ (setR τ (b + 1) 1 r) := ⟨⟨h.1.1, fun c k hck => by rw [stR_setR, if_neg hck]; exact h.1.2.1 c k hck, h.1.2.2⟩, h.2⟩
/-- only the moment is written -/
def isM (b : Nat) : Nat → Prop := fun c => c = b + 1
def TextAt (b hi : Nat) (σ : St) (t : Nat) (Lw : Lws) : Prop := stK σ t = some (6, 0) ∧ (t = b + 156 ∨ (b + 794 ≤ t ∧ t < hi)) ∧ stI σ t 3 = nI Lw.length ∧ Lw.length ≤ 16 ∧
  ∀ k q, Lw[k]? = some q → ∃ l s e r1 r2, (stR σ t 0 = some l ∧ stK σ l = some (100, 16) ∧ (b + 794 ≤ l ∧ l < hi) ∧ stI σ l k = q.1) ∧ (stR σ t 1 = some s ∧ stK σ s = some (104, 16) ∧ (b + 794 ≤ s ∧ s < hi) ∧ stR σ s k = some r1 ∧ SumAt (b + 794) hi σ 20 r1 q.2.1) ∧
    (stR σ t 2 = some e ∧ stK σ e = some (105, 16) ∧ (b + 794 ≤ e ∧ e < hi) ∧ stR σ e k = some r2 ∧ CondAt 20 (b + 794) hi σ 20 r2 q.2.2)
def LawAt (b hi : Nat) (σ : St) (Lw : Lws) : Prop := ∃ t, stR σ b 5 = some t ∧ TextAt b hi σ t Lw
theorem TextAt.fr {W : Nat → Prop} {b hi t : Nat} {σ τ : St} {Lw : Lws} (h : TextAt b hi σ t Lw) (hf : Fr W b σ τ) (hW : ∀ c, W c → c < b + 156 ∨ (b + 160 ≤ c ∧ c < b + 794)) : TextAt b hi τ t Lw := by
  have key : ∀ c, (c = b + 156 ∨ (b + 794 ≤ c ∧ c < hi)) → stK τ c = stK σ c ∧ (∀ k, stI τ c k = stI σ c k) ∧ ∀ k, stR τ c k = stR σ c k := fun c hc => ⟨hf.1.1 c, hf.2 c (fun r => by have := hW c r; omega), fun k => hf.1.2.1 c k (by omega)⟩
  have ha : Agr (b + 794) hi σ τ := fun c h1 h2 => key c (Or.inr ⟨h1, h2⟩)
  obtain ⟨h1, h2, h3, h4, h5⟩ := h
  obtain ⟨k1, k2, k3⟩ := key t h2
  refine ⟨by rw [k1]; exact h1, h2, by rw [k2]; exact h3, h4, fun k q hq => ?_⟩
  obtain ⟨l, s, e, r1, r2, ⟨a1, a2, a3, a4⟩, ⟨b1, b2, b3, b4, b5⟩, c1, c2, c3, c4, c5⟩ := h5 k q hq
  obtain ⟨l1, l2, l3⟩ := ha l a3.1 a3.2
  obtain ⟨s1, s2, s3⟩ := ha s b3.1 b3.2
  obtain ⟨e1, e2, e3⟩ := ha e c3.1 c3.2
  exact ⟨l, s, e, r1, r2, ⟨by rw [k3]; exact a1, by rw [l1]; exact a2, a3, by rw [l2]; exact a4⟩, ⟨by rw [k3]; exact b1, by rw [s1]; exact b2, b3, by rw [s3]; exact b4, b5.agr ha⟩, by rw [k3]; exact c1, by rw [e1]; exact c2, c3, by rw [e3]; exact c4, c5.agr ha⟩
theorem LawAt.fr {W : Nat → Prop} {b hi : Nat} {σ τ : St} {Lw : Lws} (h : LawAt b hi σ Lw) (hf : Fr W b σ τ) (hW : ∀ c, W c → c < b + 156 ∨ (b + 160 ≤ c ∧ c < b + 794)) : LawAt b hi τ Lw := by
  obtain ⟨t, h1, h2⟩ := h
  exact ⟨t, by rw [hf.1.2.1 b 5 (by omega)]; exact h1, h2.fr hf hW⟩
/-- the system at b, with its law; hi: an address above all the law's cells -/
def Sy (b hi : Nat) (Lw : Lws) (σ : St) : Prop := CK b σ ∧ LawAt b hi σ Lw
theorem Sy.fr {W : Nat → Prop} {b hi : Nat} {σ τ : St} {Lw : Lws} (h : Sy b hi Lw σ) (hf : Fr W b σ τ) (hW : ∀ c, W c → c < b + 156 ∨ (b + 160 ≤ c ∧ c < b + 794)) : Sy b hi Lw τ := ⟨h.1.kr hf.1, h.2.fr hf hW⟩
theorem LK.fr {W : Nat → Prop} {b a : Nat} {σ τ : St} (h : LK b a σ) (hf : Fr W b σ τ) : LK b a τ := h.kr hf.1
theorem LG_fr {W : Nat → Prop} {b a : Nat} {σ τ : St} (hf : Fr W b σ τ) (hW : ∀ c, W c → c < a ∨ a + 51 ≤ c) : LG τ a = LG σ a :=
  LG_congr (fun c k h1 h2 => hf.2 c (fun r => by have := hW c r; omega) k)
theorem ofx {b a i j : Nat} {s : Int32} {σ : St} (hL : LK b a σ) (hm : stK σ (b + 1) = some (2, 0)) (hi : i < 12) (hj : j < 12) : MomOK b a i j s (setI (setI (setI (setR σ (b + 1) 1 (some a)) (b + 1) 2 (nI i)) (b + 1) 3 (nI j)) (b + 1) 4 s) := by
  have h := (Fr.setM (W := isM b) (b := b) (σ := σ) (r := some a) Fr.rf).1
  refine ⟨hi, hj, hL.kr (((h.setI _ _ _).setI _ _ _).setI _ _ _), hm, ?_, ?_, ?_, ?_⟩
  · show stR (setR σ (b + 1) 1 (some a)) (b + 1) 1 = some a
    rw [stR_setR, if_pos ⟨rfl, rfl⟩]
  · simp [stI_setI]
  · simp [stI_setI]
  · simp [stI_setI]
def xT : MethodName := ⟨"PuzzleWed$Sum", "told", "(LPuzzleWed$Asked;)I"⟩
theorem gcT {V : Int32 → Int32} {Γ : Gm} {μ : Mth} {d c n pc lo hi ds : Nat} {L : List (Option Value)} {st stk : List Value} {σ σ0 : St} {i m r y : Nat} {S : SD} {Q : Option Value → St → Prop} (hd : decode (mcode μ) pc = .ok (.invokevirtual i, 3)) (h : Ct Γ y 0 0 m_X9_told [.ref r, .ref m] σ (fun v τ => ∃ y, v = some (.int y) ∧ (y = toldV (S V) ∧ ∃ x, τ = setI σ m 0 x))) (hS : SumAt lo hi σ0 ds r S) (hK0 : stK σ r = stK σ0 r)
    (hI : InhAt (mown μ) i 10 xT m_X9_told 1 ∧ InhAt (mown μ) i 11 xT m_X9_told 1 ∧ InhAt (mown μ) i 12 xT m_X9_told 1) (hst : stk = .ref m :: .ref r :: st) (hdd : y + 1 ≤ d) (hl8 : st.length ≤ 8) (hc1 : st.all (fun v => v.category == 1) = true)
    (kk : ∀ x, WP Γ μ d c n (pc + 3) L (.int (toldV (S V)) :: st) (setI σ m 0 x) Q) : WP Γ μ d c n pc L stk σ Q := by
  subst hst
  have kk' : ∀ r τ, (r = toldV (S V) ∧ ∃ x, τ = setI σ m 0 x) → WP Γ μ d (c - 0) (n - 0) (pc + 3) L (.int r :: st) τ Q := by
    rintro r τ ⟨rfl, x, rfl⟩
    exact kk x
  cases ds with
  | zero => exact absurd hS id
  | succ ds =>
    obtain ⟨-, -, hS⟩ := hS
    rw [← hK0] at hS
    rcases hS with ⟨hK, -⟩ | ⟨hK, -⟩ | ⟨hK, -⟩
    · exact wp_cIx (gcU hd hI.2.1 h hK rfl rfl hdd (Nat.zero_le _) (Nat.zero_le _) hl8 hc1) kk'
    · exact wp_cIx (gcU hd hI.2.2 h hK rfl rfl hdd (Nat.zero_le _) (Nat.zero_le _) hl8 hc1) kk'
    · exact wp_cIx (gcU hd hI.1 h hK rfl rfl hdd (Nat.zero_le _) (Nat.zero_le _) hl8 hc1) kk'
section
variable {Γ : Gm} {σ : St} {b hi : Nat} {Lw : Lws} {V : Int32 → Int32}
theorem ct_tellsT {t : Nat} (c : Int32) (hT : TextAt b hi σ t Lw) (hV : ValOK Γ (b + 1) V σ) : Ct Γ 46 0 0 m_X6_tells [.ref t, .int c, .ref (b + 1)] σ (fun v τ => ∃ y, v = some (.int y) ∧ (y = tellsV V c Lw ∧ ∃ x, τ = setI σ (b + 1) 0 x)) := by
  refine Ct.ofWP pf_X6_tells rfl rfl ?_
  have ht1 : t ≠ b + 1 := K_ne hT.1 hV.1 (by decide)
  have loop : ∀ Q : Option Value → St → Prop, ∀ n k x, k ≤ Lw.length → Lw.length - k < n → (∀ y, Q (some (.int (tellsV V c (Lw.drop k)))) (setI σ (b + 1) 0 y)) → WP Γ m_X6_tells 46 0 0 2 [some (.ref t), some (.int c), some (.ref (b + 1)), some (.int (nI k))] [] (setI σ (b + 1) 0 x) Q := by
    intro Q n
    induction n with
    | zero => intro k x h1 h2; omega
    | succ n ih =>
      intro k x h1 h2 hQ
      have hlen := hT.2.2.2.1
      rcases Nat.lt_or_ge k Lw.length with hk | hk
      · obtain ⟨q, hq⟩ : ∃ q, Lw[k]? = some q := ⟨_, List.getElem?_eq_getElem hk⟩
        obtain ⟨l, s, e, r1, r2, ⟨a1, a2, a3, a4⟩, ⟨b1, b2, b3, b4, b5⟩, c1, c2, c3, c4, c5⟩ := hT.2.2.2.2 k q hq
        have hd : Lw.drop k = q :: Lw.drop (k + 1) := by rw [List.drop_eq_getElem_cons hk]; congr 1; rw [List.getElem?_eq_getElem hk] at hq; exact Option.some.inj hq
        rw [hd] at hQ
        refine wp_iload_n dX6_tells_2 rfl ?_
        refine wp_aload_n dX6_tells_3 rfl ?_
        refine wp_getI dX6_tells_4 gfa_X6_27_6 rfl hT.1 ?_
        rw [stI_setI, if_neg (fun r => ht1 r.1), hT.2.2.1]
        refine wp_icmp_geN dX6_tells_7 51 (by decide) k Lw.length rfl rfl (by omega) (by omega) (fun c7 => absurd hk (by omega)) (fun c7 => ?_)
        refine wp_aload_n dX6_tells_10 rfl ?_
        refine wp_getR dX6_tells_11 gfa_X6_9_6 rfl hT.1 a1 ?_
        refine wp_iload_n dX6_tells_14 rfl ?_
        refine wp_iald dX6_tells_15 a2 k rfl (by omega) (by omega) ?_
        rw [stI_setI, if_neg (by omega), a4]
        refine wp_iload_n dX6_tells_16 rfl ?_
        refine wp_icmp_ne dX6_tells_17 45 (by decide) (fun c17 => ?_) (fun c17 => ?_)
        · refine wp_iinc dX6_tells_45 rfl rfl (nI (k + 1)) (nI_add k 1) ?_
          refine wp_goto dX6_tells_48 2 (by decide) ?_
          refine ih (k + 1) _ (by omega) (by omega) (fun y => ?_)
          have := hQ y
          rw [tellsV, if_neg (by rintro ⟨h, h'⟩; first | exact c17 h | exact c31 h')] at this
          exact this
        · refine wp_aload_n dX6_tells_20 rfl ?_
          refine wp_getR dX6_tells_21 gfa_X6_23_6 rfl hT.1 c1 ?_
          refine wp_iload_n dX6_tells_24 rfl ?_
          refine wp_aald dX6_tells_25 c2 rfl k rfl (by omega) (by omega) c4 ?_
          refine wp_aload_n dX6_tells_26 rfl ?_
          refine gcH dX6_tells_27 inhH_6 (ct_cond (by omega) 20 r2 q.2.2 _ (c5.set (by omega) x) (hV.set x)) rfl (by omega) (Nat.le_of_ble_eq_true rfl) rfl (fun y => ?_)
          rw [setI_setI]
          refine wp_iconst dX6_tells_30 1 rfl ?_
          refine wp_icmp_ne dX6_tells_31 45 (by decide) (fun c31 => ?_) (fun c31 => ?_)
          · refine wp_iinc dX6_tells_45 rfl rfl (nI (k + 1)) (nI_add k 1) ?_
            refine wp_goto dX6_tells_48 2 (by decide) ?_
            refine ih (k + 1) _ (by omega) (by omega) (fun y => ?_)
            have := hQ y
            rw [tellsV, if_neg (by rintro ⟨h, h'⟩; first | exact c17 h | exact c31 h')] at this
            exact this
          · refine wp_aload_n dX6_tells_34 rfl ?_
            refine wp_getR dX6_tells_35 gfa_X6_17_6 rfl hT.1 b1 ?_
            refine wp_iload_n dX6_tells_38 rfl ?_
            refine wp_aald dX6_tells_39 b2 rfl k rfl (by omega) (by omega) b4 ?_
            refine wp_aload_n dX6_tells_40 rfl ?_
            refine gcT dX6_tells_41 (ct_told (by omega) (b5.agr (Agr.setI (by omega))) (hV.set y)) b5 rfl ⟨gua_X6_35_10, gua_X6_35_11, gua_X6_35_12⟩ rfl (by omega) (Nat.le_of_ble_eq_true rfl) rfl (fun z => ?_)
            rw [setI_setI]
            refine wp_iret dX6_tells_44 rfl ?_
            have := hQ z
            rw [tellsV, if_pos ⟨c17, c31⟩] at this
            exact this
      · rw [List.drop_eq_nil_of_le hk] at hQ
        refine wp_iload_n dX6_tells_2 rfl ?_
        refine wp_aload_n dX6_tells_3 rfl ?_
        refine wp_getI dX6_tells_4 gfa_X6_27_6 rfl hT.1 ?_
        rw [stI_setI, if_neg (fun r => ht1 r.1), hT.2.2.1]
        refine wp_icmp_geN dX6_tells_7 51 (by decide) k Lw.length rfl rfl (by omega) (by omega) (fun c7 => ?_) (fun c7 => absurd c7 (by omega))
        refine wp_iconst dX6_tells_51 0 rfl ?_
        refine wp_iret dX6_tells_52 rfl ?_
        exact hQ x
        skip
  refine wp_iconst dX6_tells_0 0 rfl ?_
  refine wp_istore_n dX6_tells_1 rfl ?_
  refine WP.castS (setI_self σ (b + 1) 0).symm ?_
  exact loop _ (Lw.length + 1) 0 _ (by omega) (by omega) (fun y => ⟨_, rfl, rfl, y, rfl⟩)
end
