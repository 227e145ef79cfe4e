set_option maxRecDepth 100000
/-! THE MACHINE, SEEN BY THE WALKS. A state is a picture of the heap: which cells are there (kind, length), their whole numbers, their references, how many cells. -/
abbrev St : Type := (Nat → Option (Nat × Nat)) × (Nat → Nat → Int32) × (Nat → Nat → Option Nat) × Nat
/-- what stays the same through a run: launch, class numbers and slots, the first address of the run's own cells, two text addresses, their arrays -/
abbrev Gm : Type := Launch × va_G × Nat × (Nat → Nat) × (Nat → Nat)
/-- a method: its class, its name, its code, locals, answer -/
abbrev Mth : Type := MethodName × ByteArray × Nat × Option FieldType
abbrev mcode (μ : Mth) : ByteArray := μ.2.1
abbrev mown (μ : Mth) : String := μ.1.cls
def stI (σ : St) (a k : Nat) : Int32 := σ.2.1 a k
def stR (σ : St) (a k : Nat) : Option Nat := σ.2.2.1 a k
def stK (σ : St) (a : Nat) : Option (Nat × Nat) := σ.1 a
def stN (σ : St) : Nat := σ.2.2.2
def setI (σ : St) (a k : Nat) (x : Int32) : St := (σ.1, (fun b j => if b = a ∧ j = k then x else σ.2.1 b j), σ.2.2.1, σ.2.2.2)
def setR (σ : St) (a k : Nat) (r : Option Nat) : St := (σ.1, σ.2.1, (fun b j => if b = a ∧ j = k then r else σ.2.2.1 b j), σ.2.2.2)
/-- a new cell: its numbers 0, its references null -/
def stNew (σ : St) (c n : Nat) : St := ((fun b => if b = σ.2.2.2 then some (c, n) else σ.1 b), (fun b j => if b = σ.2.2.2 then 0 else σ.2.1 b j), (fun b j => if b = σ.2.2.2 then none else σ.2.2.1 b j), σ.2.2.2 + 1)
/-! the classes' table, by the names' numbers (abstract classes: a filler) -/
def gcl : List vw_C := [(RX0, TX0, 18), (RX0, TX0, 18), (RX2, TX2, 6), (RX3, TX3, 8), (RX4, TX4, 10), (RX5, TX5, 3), (RX6, TX6, 4), (RX7, TX7, 47), (RX8, TX8, 7), (RX0, TX0, 18), (RX10, TX10, 3), (RX11, TX11, 1), (RX12, TX12, 1), (RX0, TX0, 18), (RX14, TX14, 3), (RX15, TX15, 1), (RX16, TX16, 3), (RX0, TX0, 18), (RX18, TX18, 7), (RX19, TX19, 8)]
def gN : Nat → String := fun c => match c with
  | 0 => RX0 | 2 => RX2 | 3 => RX3 | 4 => RX4 | 5 => RX5 | 6 => RX6 | 7 => RX7 | 8 => RX8 | 10 => RX10 | 11 => RX11 | 12 => RX12 | 14 => RX14 | 15 => RX15 | 16 => RX16 | 18 => RX18 | 19 => RX19 | _ => RX0
def gT : Nat → u_T := fun c => match c with
  | 0 => TX0 | 2 => TX2 | 3 => TX3 | 4 => TX4 | 5 => TX5 | 6 => TX6 | 7 => TX7 | 8 => TX8 | 10 => TX10 | 11 => TX11 | 12 => TX12 | 14 => TX14 | 15 => TX15 | 16 => TX16 | 18 => TX18 | 19 => TX19 | _ => TX0
def gTy : Nat → Nat → FieldType := fun c => match c with
  | 0 => tyX0 | 2 => tyX2 | 3 => tyX3 | 4 => tyX4 | 5 => tyX5 | 6 => tyX6 | 7 => tyX7 | 8 => tyX8 | 10 => tyX10 | 11 => tyX11 | 12 => tyX12 | 14 => tyX14 | 15 => tyX15 | 16 => tyX16 | 18 => tyX18 | 19 => tyX19 | _ => tyX0
def gF : Nat → Nat := fun c => match c with
  | 0 => 18 | 2 => 6 | 3 => 8 | 4 => 10 | 5 => 3 | 6 => 4 | 7 => 47 | 8 => 7 | 10 => 3 | 11 => 1 | 12 => 1 | 14 => 3 | 15 => 1 | 16 => 3 | 18 => 7 | 19 => 8 | _ => 18
def isRefT : FieldType → Bool
  | .object _ => true
  | .array _ => true
  | _ => false
def gRef (c k : Nat) : Bool := isRefT (gTy c k)
def fv (c k : Nat) (x : Int32) (r : Option Nat) : Value := if gRef c k = true then va_rf r else .int x
/-- arrays by kind -/
def kty : Nat → FieldType := fun c => match c with
  | 100 => .int | 101 => .byte | 102 => .object RX4 | 103 => .object RX5 | 104 => .object RX9 | 105 => .object RX13 | 106 => .array .int | 107 => .array (.array .int) | _ => .int
def kRef (c : Nat) : Bool := isRefT (kty c)
def av (c : Nat) (x : Int32) (r : Option Nat) : Value := if kRef c = true then va_rf r else .int x
/-- what the tables say of a class of the table -/
def GoodCl (c : Nat) : Prop := c < 20 ∧ gcl[c]? = some (gN c, gT c, gF c) ∧ (∀ w ∈ u_ws (gN c) (gT c) (gF c), w ∈ lw_all) ∧ (∀ k, k < gF c → parseFieldDescriptor (gT c k).2.2.1 = some (gTy c k)) ∧ (∀ a, a < gF c → ∀ b, b < gF c → a ≠ b → (gT c a).2.1 ≠ (gT c b).2.1)
def nestWord : Cond → Bool
  | .fieldLinkNest .. => true
  | .methodLinkNest .. => true
  | .castable .. => true
  | .declares .. => true
  | _ => false
theorem nest_warm {w : Cond} (h : nestWord w = true) {s U : State} (hW : s.WarmedH U.vm) (hZ : va_Nw w s) : va_Nw w U := by
  cases w <;> first | exact va_Nw.warmF hW hZ | exact va_Nw.warmM hW hZ | exact va_Nw.warmC hW hZ | exact va_Nw.warmD hW hZ | cases h
/-- the texts "flwcb", "ijsxyuvdapq": lengths, bytes -/
def txL : List Nat := [5, 11]
def txB : List (List Int32) := [[102, 108, 119, 99, 98], [105, 106, 115, 120, 121, 117, 118, 100, 97, 112, 113]]
def gA (Γ : Gm) : Nat → Prop := fun q => Γ.2.2.1 ≤ q
/-- what a method finds of classes, texts and statics -/
def EnvOK (Γ : Gm) (U : State) : Prop := va_K Γ.2.1 gcl [] U ∧ (∀ w ∈ lw_tbl, nestWord w = true → va_Nw w U) ∧ (∀ C, Cond.arrayOver (.object C) ∈ lw_tbl → va_AO C U) ∧
  va_Z "java/lang/String" "COMPACT_STRINGS" "Z" (.int 1) (gA Γ) U U.heap ∧ vk_S 2 txL txB Γ.2.2.2.1 Γ.2.2.2.2 (gA Γ) U U.heap ∧ vk_R "PuzzleWed$Reader" 129 "flwcb" (Γ.2.2.2.1 0) U ∧ vk_R "PuzzleWed$Reader" 75 "ijsxyuvdapq" (Γ.2.2.2.1 1) U ∧ Γ.2.2.1 ≤ U.heap.size
/-- an array's cell: its length and what it holds -/
def GArr (U : State) (H : Heap) (a : Nat) (ty : FieldType) (n : Nat) (f : Nat → Value) : Prop := ∃ cell : Cell, H[a]? = some cell ∧ U.isArrayOf cell ty ∧ cell.vm ≠ .unknown ∧ cell.slots.size = n ∧ ∀ j : Nat, j < n → cell.slots[j]? = some (f j)
def CellOK (Γ : Gm) (σ : St) (U : State) (H : Heap) (a c n : Nat) : Prop :=
  if c < 100 then GoodCl c ∧ t_OB a (Γ.2.1.1 c) (gF c) (Γ.2.1.2 c) H (fun j => fv c j (stI σ a j) (stR σ a j)) else GArr U H a (kty c) n (fun j => av c (stI σ a j) (stR σ a j))
/-- the heap is as the picture says -/
def RepS (Γ : Gm) (σ : St) (U : State) (H : Heap) : Prop := H.size = stN σ ∧ Γ.2.2.1 ≤ stN σ ∧ ∀ a c n, stK σ a = some (c, n) → (c ≠ 120 → Γ.2.2.1 ≤ a) ∧ CellOK Γ σ U H a c n
def lhas (ls : Array Slot) (nl : Nat) (L : List (Option Value)) : Prop := ls.size = nl ∧ L.length = nl ∧ lv_wf ls ∧ ∀ (i : Nat) (v : Value), L[i]? = some (some v) → v.category = 1 ∧ ls[i]? = some (.val v)
def rmd (d mc ms : Nat) : Room := { frames := d, cells := mc, slots := ms, locals := 64 * d }
/-- a method's end: its answer, the picture behind it; what was there before the run stays -/
def QQ (Γ : Gm) (Q : Option Value → St → Prop) : Array Value → State → Outcome → State → Prop := fun _ st o t => (∃ (v : Option Value) (τ : St), o = .returned v ∧ Q v τ ∧ RepS Γ τ t t.heap) ∧ va_F (gA Γ) st t
/-- a method's contract: d frames, c cells, n slots at most; args, the picture at its start; its end -/
def Ct (Γ : Gm) (d c n : Nat) (μ : Mth) (args : List Value) (σ : St) (Q : Option Value → St → Prop) : Prop :=
  Met Γ.1 μ.1 (ws_ μ.1 μ.2.1 μ.2.2.1 μ.2.2.2) (rmd d c n) (va_Pc args (fun U => EnvOK Γ U ∧ RepS Γ σ U U.heap)) (QQ Γ Q) c n (gA Γ)
def Cx (Γ : Gm) (μ : Mth) (p : Program) (s : State) (m : MethodId) (args : Array Value) (meth : Method) (cd : Code) : Prop :=
  p.tables.exec = Jvm.exec ∧ cd.code = μ.2.1 ∧ meth.sig.returnType = μ.2.2.2 ∧ cd.maxLocals = μ.2.2.1 ∧ meth.locks = false ∧ meth.name = μ.1.name ∧ (∀ w ∈ lw_all, w.before args s = true) ∧ s.vm.findClass μ.1.cls = some m.cls ∧ EnvOK Γ s
/-- in the method μ, d frames below it at most, c cells and n slots still to be made: from pc, locals L, stack st, picture σ the method comes to an end that Q says -/
def WP (Γ : Gm) (μ : Mth) (d c n : Nat) (pc : Nat) (L : List (Option Value)) (st : List Value) (σ : St) (Q : Option Value → St → Prop) : Prop :=
  ∀ (p : Program) (e : Env) (s : State) (m : MethodId) (args : Array Value) (below : List Frame) (meth : Method) (cd : Code) (mc ms : Nat) (H : Heap) (locs : List Loc) (cells slots : Nat) (ls : Array Slot),
    Cx Γ μ p s m args meth cd → RepS Γ σ s H → va_S (gA Γ) s.heap H locs → cells + c ≤ mc → slots + n ≤ ms → lhas ls μ.2.2.1 L →
    W p Γ.1 e (rmd d mc ms) s m args below meth cd H locs cells slots (MQ below (QQ Γ Q) args s mc ms (gA Γ)) (F0 m pc ls st)
theorem RepS.moved {Γ : Gm} {σ : St} {u U : State} {H : Heap} (hvm : u.vm.Alike U.vm) (h : RepS Γ σ u H) : RepS Γ σ U H := by
  refine ⟨h.1, h.2.1, fun a c n hK => ⟨(h.2.2 a c n hK).1, ?_⟩⟩
  have h1 := (h.2.2 a c n hK).2
  unfold CellOK at h1 ⊢
  by_cases hc : c < 100
  · rw [if_pos hc] at h1 ⊢
    exact h1
  · rw [if_neg hc] at h1 ⊢
    obtain ⟨cell, q1, q2, q3⟩ := h1
    exact ⟨cell, q1, State.isArrayOf_alike hvm q2, q3⟩
theorem EnvOK.same {Γ : Gm} {u U : State} (hv : u.vm = U.vm) (hh : U.heap = u.heap) (h : EnvOK Γ u) : EnvOK Γ U := by
  obtain ⟨h1, h2, h3, h4, h5, h6, h7, h8⟩ := h
  have hA : u.vm.Alike U.vm := by rw [hv]; exact Vm.Alike.refl _
  refine ⟨h1.moved hA, fun w hw hn => va_Nw.same (by cases w <;> first | rfl | cases hn) hv (h2 w hw hn), fun C hC => va_AO.moved hA (h3 C hC), ?_, ?_, vk_R.same hv.symm h6, vk_R.same hv.symm h7, by rw [hh]; exact h8⟩
  · rw [hh]; exact va_Z.moved hA h4
  · rw [hh]; exact vk_S.moved hA h5
def lpairs (L : List (Option Value)) : List (Nat × Value) := (List.range L.length).filterMap fun j => match L[j]? with
  | some (some v) => some (j, v)
  | _ => none
theorem lpairs_mem {L : List (Option Value)} {i : Nat} {v : Value} (h : L[i]? = some (some v)) : (i, v) ∈ lpairs L := by
  refine List.mem_filterMap.mpr ⟨i, List.mem_range.mpr (List.getElem?_eq_some_iff.mp h).1, ?_⟩
  rw [h]
theorem lpairs_of {L : List (Option Value)} {q : Nat × Value} (h : q ∈ lpairs L) : L[q.1]? = some (some q.2) := by
  obtain ⟨j, -, hj⟩ := List.mem_filterMap.mp h
  cases hL : L[j]? with
  | none => rw [hL] at hj; cases hj
  | some o =>
    cases o with
    | none => rw [hL] at hj; cases hj
    | some v => rw [hL] at hj; cases hj; exact hL
theorem lhas_pairs {ls : Array Slot} {nl : Nat} {L : List (Option Value)} (h : lhas ls nl L) : lv_has ls nl (lpairs L) := ⟨h.1, h.2.2.1, fun _ hq => (h.2.2.2 _ _ (lpairs_of hq)).2⟩
theorem lhas_set {ls ls' : Array Slot} {nl i : Nat} {L : List (Option Value)} {v : Value} (h : lhas ls nl L) (h' : lv_has ls' nl ((i, v) :: (lpairs L).filter (fun q => !(q.1 == i) && !(q.1 + 1 == i && q.2.category == 2)))) (hv : v.category = 1) : lhas ls' nl (L.set i (some v)) := by
  refine ⟨h'.1, by rw [List.length_set]; exact h.2.1, h'.2.1, fun j w hj => ?_⟩
  by_cases hji : j = i
  · subst hji
    have hlt : j < L.length := by have := (List.getElem?_eq_some_iff.mp hj).1; simpa using this
    rw [List.getElem?_set_self hlt] at hj
    cases hj
    exact ⟨hv, h'.2.2 _ List.mem_cons_self⟩
  · rw [List.getElem?_set_ne (Ne.symm hji)] at hj
    obtain ⟨c1, -⟩ := h.2.2.2 _ _ hj
    refine ⟨c1, h'.2.2 (j, w) (List.mem_cons_of_mem _ (List.mem_filter.mpr ⟨lpairs_mem hj, ?_⟩))⟩
    simp [hji, c1]
/-- locals forgotten, or written otherwise -/
theorem WP.locals {Γ : Gm} {μ : Mth} {d c n pc : Nat} {L L' : List (Option Value)} {st : List Value} {σ : St} {Q : Option Value → St → Prop} (k : WP Γ μ d c n pc L' st σ Q) (h1 : L'.length = L.length) (h2 : ∀ (i : Nat) (v : Value), L'[i]? = some (some v) → L[i]? = some (some v)) : WP Γ μ d c n pc L st σ Q := by
  intro p e s m args below meth cd mc ms H locs cells slots ls hC hR hS hc hn hl
  exact k p e s m args below meth cd mc ms H locs cells slots ls hC hR hS hc hn ⟨hl.1, h1.trans hl.2.1, hl.2.2.1, fun i v hi => hl.2.2.2 i v (h2 i v hi)⟩
theorem WP.mono {Γ : Gm} {μ : Mth} {d c n pc : Nat} {L : List (Option Value)} {st : List Value} {σ : St} {Q Q' : Option Value → St → Prop} (k : WP Γ μ d c n pc L st σ Q') (h : ∀ v τ, Q' v τ → Q v τ) : WP Γ μ d c n pc L st σ Q := by
  intro p e s m args below meth cd mc ms H locs cells slots ls hC hR hS hc hn hl T hT X
  obtain ⟨t, a1, o, b1, b2, ⟨⟨v, τ, e1, e2, e3⟩, b4⟩, b5⟩ := k p e s m args below meth cd mc ms H locs cells slots ls hC hR hS hc hn hl T hT X
  exact ⟨t, a1, o, b1, b2, ⟨⟨v, τ, e1, h _ _ e2, e3⟩, b4⟩, b5⟩
/-- fewer cells are wanted than are left -/
theorem WP.room {Γ : Gm} {μ : Mth} {d c n c' n' pc : Nat} {L : List (Option Value)} {st : List Value} {σ : St} {Q : Option Value → St → Prop} (k : WP Γ μ d c' n' pc L st σ Q) (h1 : c' ≤ c) (h2 : n' ≤ n) : WP Γ μ d c n pc L st σ Q := by
  intro p e s m args below meth cd mc ms H locs cells slots ls hC hR hS hc hn hl
  exact k p e s m args below meth cd mc ms H locs cells slots ls hC hR hS (by omega) (by omega) hl
