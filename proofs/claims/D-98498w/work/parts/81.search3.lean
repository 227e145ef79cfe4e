set_option maxRecDepth 100000
theorem wiB_n2 {v : Int32} {lo hi : Nat} (hl : lo ≤ hi) (hh : hi < 2147483648) (h : wiB v (nI lo) (nI hi) = true) : ∃ m : Nat, lo ≤ m ∧ m ≤ hi ∧ v = nI m := wiB_nat hl hh h
theorem tpR_t {T : Nat → Int32} {n t : Nat} : ∀ m, tpR T n t m = true → ∀ u, u < m → tpD T n t u = true
  | 0, _, u, hu => by omega
  | m + 1, h, u, hu => by
    rw [tpR, Bool.and_eq_true] at h
    by_cases e : u = m
    · subst e; exact h.2
    · exact tpR_t m h.1 u (by omega)
theorem tpA_t {T : Nat → Int32} {n : Nat} : ∀ m, tpA T n m = true → ∀ t, t < m → wiB (T t) 0 99 = true ∧ tpR T n t n = true
  | 0, _, u, hu => by omega
  | m + 1, h, u, hu => by
    rw [tpA, Bool.and_eq_true, Bool.and_eq_true] at h
    by_cases e : u = m
    · subst e; exact h.2
    · exact tpA_t m h.1 u (by omega)
theorem sumT_n {T : Nat → Int32} {n : Nat} (h : ∀ t, t < n → wiB (T t) 0 99 = true) : ∀ m, m ≤ n → ∃ a, a ≤ 99 * m ∧ sumT T m = nI a
  | 0, _ => ⟨0, by omega, rfl⟩
  | m + 1, hm => by
    obtain ⟨a, h1, h2⟩ := sumT_n h m (by omega)
    obtain ⟨q, -, h3, h4⟩ := wiB_nat (lo := 0) (hi := 99) (by omega) (by omega) (h m (by omega))
    exact ⟨a + q, by omega, by rw [sumT, h2, h4, nI_add]⟩
theorem folN_inv {S : Type} {f : Nat → S → S} {P : S → Prop} {s : S} (h0 : P s) : ∀ n, (∀ k s, k < n → P s → P (f k s)) → P (folN f s n)
  | 0, _ => h0
  | n + 1, h => h n _ (by omega) (folN_inv h0 n (fun k s hk => h k s (by omega)))
def SrN (s : Sro) : Prop := ∃ l, l < 2 ^ 31 ∧ s.2 = nI l
theorem srF_n {T : Nat → Int32} {n : Nat} (hn : n ≤ 6) (hT : tpA T n n = true) : ∀ m (O : Nat → Nat) (u days sum : Int32) (s : Sro) (d q : Nat), m + 1 ≤ n → O (n - m - 1) < n → hasB u (nI (O (n - m - 1))) = true → days = nI d → sum = nI q → d + 20 * m ≤ 100 → q + 9900 * m ≤ 49500 → SrN s → SrN (srF T n m O u days sum s) := by
  intro m
  induction m with
  | zero =>
    intro O u days sum s d q h1 h2 h3 h4 h5 h6 h7 hs
    rw [srF]
    split
    · exact ⟨q, by omega, h5⟩
    · exact hs
  | succ m ih =>
    intro O u days sum s d q h1 h2 h3 h4 h5 h6 h7 hs
    rw [srF]
    refine folN_inv (P := SrN) hs n (fun t s ht hs => ?_)
    have e0 : n - (m + 1) - 1 = n - m - 1 - 1 := by omega
    split
    · exact hs
    · rename_i hb
      have hne : ¬ t = O (n - (m + 1) - 1) := fun e => by rw [e] at hb; exact hb h3
      have hD := tpR_t n (tpA_t n hT _ h2).2 t ht
      rw [tpD, decide_eq_false hne, Bool.false_or] at hD
      obtain ⟨x, -, hx, hx2⟩ := wiB_nat (lo := 1) (hi := 20) (by omega) (by omega) hD
      obtain ⟨y, -, hy, hy2⟩ := wiB_nat (lo := 0) (hi := 99) (by omega) (by omega) (tpA_t n hT t ht).1
      have hp : (d + x) * y ≤ 100 * 99 := Nat.mul_le_mul (by omega) hy
      refine ih _ _ _ _ _ (d + x) (q + (d + x) * y) (by omega) ?_ ?_ ?_ ?_ (by omega) (by omega) hs
      · rw [updF, if_pos (by omega)]; exact ht
      · rw [updF, if_pos (by omega), hasB_or (by omega) (by omega)]; simp
      · rw [h4, hx2, nI_add]
      · rw [h4, hx2, nI_add, h5, hy2, pk_mul, nI_add]
def srS (T : Nat → Int32) (n : Nat) (B : Nat → Int32) : Sro := srF T n (n - 1) (fun _ => 0) 1 0 0 (B, 268435456)
def srG (T : Nat → Int32) (n : Nat) (B : Nat → Int32) : Nat := Nat.gcd (ix (srS T n B).2) (ix (sumT T n))
def srOk (n t : Int32) : Bool := wiB n 2 6 && decide (n + n * n ≤ t)
def searchV (T B : Nat → Int32) (n w t : Int32) : Int32 := if srOk n t = true then (if isSr T (ix n) = true then (if w = 20 then nI (ix (srS T (ix n) B).2 / srG T (ix n) B) else if w = 21 then nI (ix (sumT T (ix n)) / srG T (ix n) B) else if inB w n = true then (srS T (ix n) B).1 (ix w) else -3) else -2) else -1
