set_option maxRecDepth 100000
def sW (b : Nat) : Nat → Prop := fun c => c = b + 1 ∨ (b + 187 ≤ c ∧ c < b + 202)
def SR (b : Nat) (S : Sts) (ρ : St) : Prop := ∀ i, i < 12 → stI ρ (b + 187) i = okI (S.1 i) ∧ stI ρ (b + 188) i = S.2 i
def KO (S : Sts) : Prop := ∀ i k, S.1 i = some k → k < 12
def offN (x : Int32) : Nat → Nat
  | 0 => 0
  | n + 1 => offN x n + (if hasB x (nI n) = true then 0 else 1)
def offS (A : Nat → Int32) : Nat → Nat
  | 0 => 0
  | n + 1 => offS A n + offN (A n) 12
theorem hasB_or {x : Int32} {j k : Nat} (hj : j < 31) (hk : k < 31) : hasB (x ||| 1 <<< (nI j &&& 31)) (nI k) = (hasB x (nI k) || decide (k = j)) := by
  rw [hasB_bt _ hk, hasB_bt _ hk, b_or, b_bit (by omega) (by omega)]
theorem offN_set {x : Int32} {j : Nat} (hj : j < 12) (h : hasB x (nI j) = false) : ∀ n, n ≤ 12 → offN (x ||| 1 <<< (nI j &&& 31)) n + (if j < n then 1 else 0) = offN x n
  | 0, _ => rfl
  | n + 1, hn => by
    have e := offN_set hj h n (by omega)
    rw [offN, offN, hasB_or (by omega) (by omega)]
    by_cases c : n = j
    · subst c
      rw [if_neg (by omega)] at e
      rw [h, if_pos (by simp), if_pos (by omega), if_neg (by decide)]
      omega
    · rw [decide_eq_false c, Bool.or_false]
      by_cases d : j < n
      · rw [if_pos d] at e; rw [if_pos (show j < n + 1 by omega)]; omega
      · rw [if_neg d] at e; rw [if_neg (show ¬ j < n + 1 by omega)]; omega
theorem offS_set {A : Nat → Int32} {i : Nat} {x : Int32} (h : offN x 12 + 1 = offN (A i) 12) : ∀ n, offS (updF A i x) n + (if i < n then 1 else 0) = offS A n
  | 0 => rfl
  | n + 1 => by
    have e := offS_set h n
    rw [offS, offS]
    by_cases c : n = i
    · subst c
      rw [if_neg (by omega)] at e
      rw [if_pos (by omega), updF, if_pos rfl]
      omega
    · rw [updF, if_neg c]
      by_cases d : i < n
      · rw [if_pos d] at e; rw [if_pos (by omega)]; omega
      · rw [if_neg d] at e; rw [if_neg (by omega)]; omega
theorem nextN_not {L : Nat → Nat → Int32} {A : Int32} {i j : Nat} : ∀ n, nextN L A i n = some j → hasB A (nI j) = false
  | 0, h => by cases h
  | n + 1, h => by
    rw [nextN] at h
    split at h
    · rename_i c
      cases h
      simp only [Bool.and_eq_true, Bool.not_eq_true'] at c
      exact c.1.1
    · exact nextN_not n h
theorem nextS_some {L : Nat → Nat → Int32} {ask : Nat → Bool} {S : Sts} {i j : Nat} (h : nextS L ask S i = some j) : j < 12 ∧ hasB (S.2 i) (nI j) = false := by
  rw [nextS] at h
  split at h
  · exact ⟨nextN_lt 12 h, nextN_not 12 h⟩
  · cases h
theorem round_off {L : Nat → Nat → Int32} {ask : Nat → Bool} {S : Sts} : ∀ n, n ≤ 12 → offS (roundS L ask S n).1.2 12 + (if (roundS L ask S n).2 = true then 1 else 0) ≤ offS S.2 12
  | 0, _ => Nat.le_refl _
  | n + 1, hn => by
    have e := round_off (L := L) (ask := ask) (S := S) n (by omega)
    rw [show roundS L ask S (n + 1) = stepS L ask n (roundS L ask S n) from rfl]
    generalize roundS L ask S n = s at *
    rw [stepS]
    split
    · exact e
    · rename_i j h
      obtain ⟨h1, h2⟩ := nextS_some h
      have e2 := offN_set h1 h2 12 (Nat.le_refl _)
      rw [if_pos h1] at e2
      have e3 := offS_set (A := s.1.2) e2 12
      rw [if_pos (by omega)] at e3
      show offS (updF s.1.2 n (s.1.2 n ||| 1 <<< (nI j &&& 31))) 12 + 1 ≤ _
      have : (if s.2 = true then 1 else 0 : Nat) ≥ 0 := Nat.zero_le _
      omega
section
variable {Γ : Gm} {σ : St} {b hi : Nat} {Lw : Lws}
theorem sW_law : ∀ c, sW b c → c < b + 156 ∨ (b + 160 ≤ c ∧ c < b + 794) := fun c h => by unfold sW at h; omega
theorem LGs {τ : St} (hf : Fr (sW b) b σ τ) : LG τ (b + 2) = LG σ (b + 2) := LG_fr hf (fun c h => by unfold sW at h; omega)
theorem SR.setK {S : Sts} {i : Nat} {ρ : St} (o : Option Nat) (h : SR b S ρ) : SR b (updF S.1 i o, S.2) (setI ρ (b + 187) i (okI o)) := fun k hk => by
  rw [stI_setI, stI_setI, if_neg (show ¬ (b + 188 = b + 187 ∧ k = i) by omega)]
  refine ⟨?_, (h k hk).2⟩
  show _ = okI (updF S.1 i o k)
  by_cases e : k = i
  · subst e; rw [if_pos ⟨rfl, rfl⟩, updF, if_pos rfl]
  · rw [if_neg (by omega), updF, if_neg e]; exact (h k hk).1
theorem SR.setA {S : Sts} {i : Nat} {ρ : St} (x : Int32) (h : SR b S ρ) : SR b (S.1, updF S.2 i x) (setI ρ (b + 188) i x) := fun k hk => by
  rw [stI_setI, stI_setI, if_neg (show ¬ (b + 187 = b + 188 ∧ k = i) by omega)]
  refine ⟨(h k hk).1, ?_⟩
  show _ = updF S.2 i x k
  by_cases e : k = i
  · subst e; rw [if_pos ⟨rfl, rfl⟩, updF, if_pos rfl]
  · rw [if_neg (by omega), updF, if_neg e]; exact (h k hk).2
theorem LkA.setI {L : Nat → Nat → Int32} {c i : Nat} {x : Int32} {ρ : St} (h : LkA b L ρ) (hc : c < b + 190) : LkA b L (setI ρ c i x) := fun p q hp hq => by
  rw [stI_setI, if_neg (by omega)]; exact h p q hp hq
theorem KO.step {L : Nat → Nat → Int32} {S : Sts} {i j : Nat} {A : Nat → Int32} (h : KO S) (hi : i < 12) (hj : j < 12) : KO (stepK L S.1 i j, A) := by
  intro p q hq
  have hq : stepK L S.1 i j p = some q := hq
  rw [stepK] at hq
  split at hq
  · unfold updF at hq
    split at hq
    · cases hq; exact hj
    · split at hq
      · cases hq; exact hi
      · cases ho : S.1 j with
        | none => rw [ho] at hq; exact h p q hq
        | some o =>
          rw [ho] at hq
          have hq2 : (if p = o then none else S.1 p) = some q := hq
          by_cases e : p = o
          · rw [if_pos e] at hq2; cases hq2
          · rw [if_neg e] at hq2; exact h p q hq2
  · exact h p q hq
end
