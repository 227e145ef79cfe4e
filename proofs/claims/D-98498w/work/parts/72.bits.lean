set_option maxRecDepth 100000
/-! the family 'Int32 by its bits' is a starting text of the kit's laws -/
def bt (x : Int32) (i : Nat) : Bool := x.toBitVec.getLsbD i
theorem b_ext {x y : Int32} (h : ∀ i, i < 32 → bt x i = bt y i) : x = y := Int32.toBitVec_inj.mp (BitVec.eq_of_getLsbD_eq (fun i hi => h i hi))
theorem b_or (x y : Int32) (i : Nat) : bt (x ||| y) i = (bt x i || bt y i) := by unfold bt; rw [Int32.toBitVec_or, BitVec.getLsbD_or]
theorem b_and (x y : Int32) (i : Nat) : bt (x &&& y) i = (bt x i && bt y i) := by unfold bt; rw [Int32.toBitVec_and, BitVec.getLsbD_and]
theorem b_xor (x y : Int32) (i : Nat) : bt (x ^^^ y) i = (bt x i ^^ bt y i) := by unfold bt; rw [Int32.toBitVec_xor, BitVec.getLsbD_xor]
theorem b_big {x : Int32} {i : Nat} (h : 32 ≤ i) : bt x i = false := BitVec.getLsbD_of_ge _ _ h
theorem b_255 (i : Nat) : bt 255 i = decide (i < 8) := by
  rcases Nat.lt_or_ge i 32 with h | h
  · exact (by decide +kernel : ∀ i, i < 32 → bt 255 i = decide (i < 8)) i h
  · rw [b_big h, decide_eq_false (by omega)]
theorem b_65535 (i : Nat) : bt 65535 i = decide (i < 16) := by
  rcases Nat.lt_or_ge i 32 with h | h
  · exact (by decide +kernel : ∀ i, i < 32 → bt 65535 i = decide (i < 16)) i h
  · rw [b_big h, decide_eq_false (by omega)]
theorem b_m1 : ∀ i, i < 32 → bt (-1) i = true := by decide +kernel
theorem b_0 (i : Nat) : bt 0 i = false := BitVec.getLsbD_zero
theorem s_l : ∀ n, n < 32 → ((nI n &&& 31).toBitVec.smod 32).toNat = n := by decide +kernel
theorem s_u : ∀ n, n < 32 → (((nI n).toUInt32 &&& Int32.toUInt32 31).toBitVec % 32).toNat = n := by decide +kernel
theorem b_shl (n : Nat) (hn : n < 32) (x : Int32) {i : Nat} (hi : i < 32) : bt (x <<< (nI n &&& 31)) i = (decide (n ≤ i) && bt x (i - n)) := by
  unfold bt
  rw [Int32.toBitVec_shiftLeft]
  show (x.toBitVec <<< ((nI n &&& 31).toBitVec.smod 32).toNat).getLsbD i = _
  rw [s_l n hn, BitVec.getLsbD_shiftLeft]
  rcases Nat.lt_or_ge i n with h | h
  · simp [h, Nat.not_le.mpr h]
  · simp [hi, h, Nat.not_lt.mpr h]
theorem b_ushr (n : Nat) (hn : n < 32) (x : Int32) (i : Nat) : bt ((x.toUInt32 >>> ((nI n).toUInt32 &&& Int32.toUInt32 31)).toInt32) i = bt x (n + i) := by
  show (x.toUInt32 >>> ((nI n).toUInt32 &&& Int32.toUInt32 31)).toBitVec.getLsbD i = x.toUInt32.toBitVec.getLsbD (n + i)
  rw [UInt32.toBitVec_shiftRight]
  show (x.toUInt32.toBitVec >>> (((nI n).toUInt32 &&& Int32.toUInt32 31).toBitVec % 32).toNat).getLsbD i = _
  rw [s_u n hn, BitVec.getLsbD_ushiftRight]
theorem b_sshr (n : Nat) (hn : n < 32) (x : Int32) {i : Nat} (hi : i < 32) : bt (x >>> (nI n &&& 31)) i = if n + i < 32 then bt x (n + i) else bt x 31 := by
  unfold bt
  rw [Int32.toBitVec_shiftRight]
  show (x.toBitVec.sshiftRight ((nI n &&& 31).toBitVec.smod 32).toNat).getLsbD i = _
  rw [s_l n hn, BitVec.getLsbD_sshiftRight, BitVec.msb_eq_getLsbD_last]
  simp [hi]
theorem b_shl8 (x : Int32) {i : Nat} (hi : i < 32) : bt (x <<< ((8 : Int32) &&& 31)) i = (decide (8 ≤ i) && bt x (i - 8)) := b_shl 8 (by omega) x hi
theorem b_shl16 (x : Int32) {i : Nat} (hi : i < 32) : bt (x <<< ((16 : Int32) &&& 31)) i = (decide (16 ≤ i) && bt x (i - 16)) := b_shl 16 (by omega) x hi
theorem b_shl24 (x : Int32) {i : Nat} (hi : i < 32) : bt (x <<< ((24 : Int32) &&& 31)) i = (decide (24 ≤ i) && bt x (i - 24)) := b_shl 24 (by omega) x hi
theorem b_sshr8 (x : Int32) {i : Nat} (hi : i < 32) : bt (x >>> ((8 : Int32) &&& 31)) i = if 8 + i < 32 then bt x (8 + i) else bt x 31 := b_sshr 8 (by omega) x hi

/-! sets of numbers below 12, as bits -/
theorem b_1 : ∀ i, i < 32 → bt 1 i = decide (i = 0) := by decide +kernel
theorem nI_bv (x : Int32) : nI x.toBitVec.toNat = x := by
  apply Int32.toBitVec_inj.1
  show BitVec.ofNat 32 x.toBitVec.toNat = x.toBitVec
  simp
theorem bt_tb (x : Int32) (i : Nat) : x.toBitVec.toNat.testBit i = bt x i := by unfold bt; rw [BitVec.testBit_toNat]
theorem bt_n {s : Nat} (h : s < 2 ^ 32) (i : Nat) : bt (nI s) i = s.testBit i := by
  rw [← bt_tb]
  show (BitVec.ofNat 32 s).toNat.testBit i = _
  rw [BitVec.toNat_ofNat, Nat.mod_eq_of_lt h]
theorem hasB_bt (x : Int32) {j : Nat} (hj : j < 31) : hasB x (nI j) = bt x j := by
  have e : ∀ i, i < 32 → bt ((x >>> (nI j &&& 31)) &&& 1) i = (decide (i = 0) && bt x j) := by
    intro i hi
    rw [b_and, b_sshr j (by omega) x hi, b_1 i hi]
    by_cases h : i = 0
    · subst h; rw [if_pos (by omega)]; simp
    · simp [h]
  unfold hasB
  cases hb : bt x j
  · rw [decide_eq_false]
    intro h
    have := e 0 (by omega)
    rw [h, hb] at this
    revert this; decide
  · rw [decide_eq_true]
    exact b_ext (fun i hi => by rw [e i hi, hb, b_1 i hi, Bool.and_true])
theorem b_bit {n : Nat} (hn : n < 32) {i : Nat} (hi : i < 32) : bt (1 <<< (nI n &&& 31)) i = decide (i = n) := by
  rw [b_shl n hn 1 hi, b_1 (i - n) (by omega)]
  by_cases h : n ≤ i
  · rw [decide_eq_true h, Bool.true_and]
    exact decide_eq_decide.mpr (by omega)
  · rw [decide_eq_false h, Bool.false_and, decide_eq_false (by omega)]
theorem bt_bitF (p : Nat → Bool) : ∀ n, n ≤ 32 → ∀ i, i < 32 → bt (bitF p n) i = (decide (i < n) && p i)
  | 0, _, i, _ => by rw [bitF, b_0]; simp
  | n + 1, h, i, hi => by
    rw [bitF, b_or, bt_bitF p n (by omega) i hi]
    by_cases hp : p n = true
    · rw [if_pos hp, b_bit (by omega) hi]
      by_cases e : i = n
      · subst e; simp [hp]
      · rw [decide_eq_false e, Bool.or_false]
        congr 1
        exact decide_eq_decide.mpr (by omega)
    · rw [if_neg hp, b_0, Bool.or_false]
      by_cases e : i = n
      · subst e; simp [hp]
      · congr 1
        exact decide_eq_decide.mpr (by omega)
/-- the set of those below 12 that p names -/
def setN (p : Nat → Bool) : Nat := (bitF p 12).toBitVec.toNat
theorem setN_nI (p : Nat → Bool) : nI (setN p) = bitF p 12 := nI_bv _
theorem setN_tb (p : Nat → Bool) (i : Nat) : (setN p).testBit i = (decide (i < 12) && p i) := by
  rw [setN, bt_tb]
  by_cases h : i < 32
  · exact bt_bitF p 12 (by omega) i h
  · rw [b_big (by omega), decide_eq_false (by omega)]; rfl
theorem setN_lt (p : Nat → Bool) : setN p < 4096 := Nat.lt_pow_two_of_testBit (n := 12) _ (fun i hi => by rw [setN_tb, decide_eq_false (by omega)]; rfl)
def subN (s t : Nat) : Prop := ∀ i, s.testBit i = true → t.testBit i = true
theorem subN_le {s t : Nat} (h : subN s t) : s ≤ t := by
  have e : s &&& t = s := Nat.eq_of_testBit_eq (fun i => by
    rw [Nat.testBit_and]
    cases hs : s.testBit i
    · rfl
    · rw [h i hs]; rfl)
  rw [← e]
  exact Nat.and_le_right
def clrN (s j : Nat) : Nat := (nI s &&& ((1 <<< (nI j &&& 31)) ^^^ (-1))).toBitVec.toNat
theorem clrN_nI (s j : Nat) : nI (clrN s j) = nI s &&& ((1 <<< (nI j &&& 31)) ^^^ (-1)) := nI_bv _
theorem clrN_tb {s j : Nat} (hs : s < 2 ^ 31) (hj : j < 31) (i : Nat) : (clrN s j).testBit i = (s.testBit i && !decide (i = j)) := by
  rw [clrN, bt_tb]
  by_cases h : i < 32
  · rw [b_and, bt_n (by omega), b_xor, b_bit (by omega) h, b_m1 i h, Bool.xor_true]
  · rw [b_big (by omega), Nat.testBit_lt_two_pow (Nat.lt_of_lt_of_le hs (Nat.pow_le_pow_right (by omega) (by omega)))]; rfl
theorem clrN_sub {s j : Nat} (hs : s < 2 ^ 31) (hj : j < 31) : subN (clrN s j) s := fun i h => by
  rw [clrN_tb hs hj, Bool.and_eq_true] at h
  exact h.1
theorem subN_trans {s t u : Nat} (h : subN s t) (h' : subN t u) : subN s u := fun i hi => h' i (h i hi)
theorem sub_iff {s t : Nat} (hs : s < 2 ^ 31) (ht : t < 2 ^ 31) : nI s &&& (nI t ^^^ (-1)) = 0 ↔ subN s t := by
  constructor
  · intro h i hi
    have hi2 : i < 32 := by
      rcases Nat.lt_or_ge i 32 with g | g
      · exact g
      · rw [Nat.testBit_lt_two_pow (Nat.lt_of_lt_of_le hs (Nat.pow_le_pow_right (by omega) (by omega)))] at hi
        cases hi
    have e := congrArg (fun x => bt x i) h
    simp only [b_and, b_xor, b_0, b_m1 i hi2, bt_n (show s < 2 ^ 32 by omega), bt_n (show t < 2 ^ 32 by omega), hi, Bool.true_and, Bool.xor_true] at e
    revert e
    cases t.testBit i <;> decide
  · intro h
    refine b_ext (fun i hi => ?_)
    rw [b_and, b_xor, b_0, b_m1 i hi, bt_n (show s < 2 ^ 32 by omega), bt_n (show t < 2 ^ 32 by omega), Bool.xor_true]
    cases hs' : s.testBit i
    · rfl
    · rw [h i hs']; rfl
theorem hasB_n {s j : Nat} (hs : s < 2 ^ 31) (hj : j < 31) : hasB (nI s) (nI j) = s.testBit j := by rw [hasB_bt _ hj, bt_n (by omega)]
/-! most at once -/
def gainF (Lw : Lws) (G : Gd) (i j : Nat) : Int32 := if askerV G (nI i) = true ∧ sideB G j 1 = true ∧ fitB Lw G i j = true then 10000 - slackL G (nI i) (nI j) else 0
def lessP (P : Nat → Bool) (j : Nat) : Nat → Bool := fun k => P k && !decide (k = j)
def bstS (g : Nat → Int32) (v : Int32) (f : Nat → Int32) (P : Nat → Bool) (n : Nat) : Int32 := folN (fun j acc => if P j = true ∧ 0 < g j then imax acc (g j + f j) else acc) v n
def bstP (g : Nat → Nat → Int32) : Nat → (Nat → Bool) → Int32
  | 0, _ => 0
  | m + 1, P => bstS (g (11 - m)) (bstP g m P) (fun j => bstP g m (lessP P j)) P 12
theorem clrN_fn {s j : Nat} (hs : s < 2 ^ 31) (hj : j < 31) : (clrN s j).testBit = lessP s.testBit j := funext (fun i => clrN_tb hs hj i)
def fstN (p : Nat → Bool) : Nat → Nat → Nat
  | 0, h => h
  | f + 1, h => if p h = true then h else fstN p f (h + 1)
def getB (g : Nat → Nat → Int32) (i : Nat) (P : Nat → Bool) (j : Nat) : Bool := (P j && decide (0 < g i j)) && decide (g i j + bstP g (11 - i) (lessP P j) = bstP g (12 - i) P)
def getJ (g : Nat → Nat → Int32) (i : Nat) (P : Nat → Bool) : Nat := fstN (getB g i P) 12 0
def getP (g : Nat → Nat → Int32) (P : Nat → Bool) : Nat → Nat → Bool
  | 0 => P
  | i + 1 => if getJ g i (getP g P i) = 12 then getP g P i else lessP (getP g P i) (getJ g i (getP g P i))
def allP (G : Gd) (j : Nat) : Bool := sideB G j 1
def sumM (Lw : Lws) (G : Gd) : Int32 := bstP (gainF Lw G) 12 (setN (allP G)).testBit
def manyM (Lw : Lws) (G : Gd) : Int32 := (sumM Lw G + 10000 - 1) / 10000
def getM (Lw : Lws) (G : Gd) (i : Nat) : Nat := getJ (gainF Lw G) i (getP (gainF Lw G) (setN (allP G)).testBit i)
def mostV (Lw : Lws) (G : Gd) (w : Int32) : Int32 := if w = 20 then manyM Lw G else if w = 21 then 10000 * manyM Lw G - sumM Lw G else if askerV G w = true then (if getM Lw G (ix w) = 12 then -2 else nI (getM Lw G (ix w))) else -1
