set_option maxRecDepth 100000
section CALLS
variable {Γ : Gm} {μ μ' : Mth} {d d' c n c' n' pc : Nat} {L : List (Option Value)} {st stk : List Value} {σ : St} {Q Q' : Option Value → St → Prop}
/-- a call of a method with the end Q' may be made here -/
def Calls (Γ : Gm) (μ : Mth) (d c n c' n' pc : Nat) (L : List (Option Value)) (stk st : List Value) (σ : St) (Q' : Option Value → St → Prop) : Prop :=
  ∀ Q, (∀ v τ, Q' v τ → WP Γ μ d (c - c') (n - n') (pc + 3) L (v.toList ++ st) τ Q) → WP Γ μ d c n pc L stk σ Q
theorem call_end {p : Program} {e : Env} {s : State} {m : MethodId} {args a : Array Value} {below : List Frame} {meth : Method} {cd : Code} {cells slots : Nat} {H : Heap} {locs : List Loc} {ls : Array Slot} {R : Room} {X : State → Prop}
    (hr : va_Run p Γ.1 e R s m args below meth cd H locs cells slots c' n' (F0 m pc ls stk) st (QQ Γ Q' a) (gA Γ)) (hS : va_S (gA Γ) s.heap H locs)
    (kk : ∀ (v : Option Value) (τ : St) (H1 : Heap) (locs1 : List Loc), Q' v τ → RepS Γ τ s H1 → va_S (gA Γ) s.heap H1 locs1 → W p Γ.1 e R s m args below meth cd H1 locs1 (cells + c') (slots + n') X (F0 m (pc + 3) ls (v.toList ++ st))) : W p Γ.1 e R s m args below meth cd H locs cells slots X (F0 m pc ls stk) := by
  intro T hT Y
  obtain ⟨v, st₀, t, T', LL, h0, X', hL, e1, e2, ⟨⟨v', τ, e3, hq, hrep⟩, hz, hk⟩, hs⟩ := hr T hT Y
  cases e3
  rw [h0] at hz hk
  obtain ⟨t2, a1, b1⟩ := kk v τ T'.heap (locs ++ LL) hq (by rw [e1]; exact hrep.moved (by rw [← e2]; exact X'.warmed.alike.symm))
    ⟨Nat.le_trans hS.1 (by rw [e1]; exact hz), fun q h1 h2 => by rw [e1, hk q (Nat.lt_of_lt_of_le h1 hS.1) h2]; exact hS.2.1 q h1 h2, fun q hq => by
      rcases List.mem_append.mp hq with h | h
      · exact hS.2.2 q h
      · exact hL q h⟩ T' rfl X'
  exact ⟨t2, hs t2 a1, b1⟩
theorem pc_blind {As : List Value} : FrameBlind (va_Pc As (fun U => EnvOK Γ U ∧ RepS Γ σ U U.heap)) := by
  intro a U g mk q
  obtain ⟨q0, q1, q2⟩ := q
  exact ⟨q0, q1.same (u := U) (U := U.calling g mk a) rfl rfl, q2.moved (u := U) (U := U.calling g mk a) (Vm.Alike.refl U.vm)⟩
theorem pc_at {s : State} {H : Heap} {locs : List Loc} {As : List Value} (hE : EnvOK Γ s) (hR : RepS Γ σ s H) (hS : va_S (gA Γ) s.heap H locs) (U : State) (hU : U.heap = H) (hW : s.WarmedH U.vm) : va_Pc As (fun U => EnvOK Γ U ∧ RepS Γ σ U U.heap) As.toArray U :=
  ⟨rfl, hE.at hS hU hW, by rw [hU]; exact hR.moved hW.alike⟩
theorem rm_ok {d' c' n' d mc ms maxL : Nat} (hd : d' + 1 ≤ d) (hL : Nat.ble maxL 45 = true) : (rmd d' c' n').frames + 1 ≤ (rmd d mc ms).frames ∧ 8 + (maxL + 11) + (rmd d' c' n').locals ≤ (rmd d mc ms).locals := by
  have := Nat.le_of_ble_eq_true hL
  refine ⟨hd, ?_⟩
  show 8 + (maxL + 11) + 64 * d' ≤ 64 * d
  omega
theorem cats {st : List Value} (h : st.length ≤ 8) (hc : st.all (fun v => v.category == 1) = true) : (st.map fun v => v.category).sum ≤ 8 := by
  have : ∀ l : List Value, l.all (fun v => v.category == 1) = true → (l.map fun v => v.category).sum = l.length := by
    intro l
    induction l with
    | nil => intro _; rfl
    | cons a l ih =>
      intro h
      rw [List.all_cons, Bool.and_eq_true] at h
      rw [List.map_cons, List.sum_cons, ih h.2, List.length_cons]
      have : a.category = 1 := by simpa using h.1
      omega
  rw [this st hc]; exact h
def plainY (y : MethodName) (k : Nat) : Prop := y.cls ≠ "java/lang/invoke/MethodHandle" ∧ y.cls ≠ "java/lang/invoke/VarHandle" ∧ (parseMethodDescriptor y.desc).map (fun d => d.parameters.length) = some k
def CodeIn (μ : Mth) : Prop := Cond.code μ.1 μ.2.1 μ.2.2.1 μ.2.2.2 ∈ lw_all
/-! static -/
def StatAt (own : String) (i : Nat) (μ : Mth) (k : Nat) : Prop := Cond.methodLink own i μ.1 ∈ lw_all ∧ Cond.static μ.1 ∈ lw_all ∧ Cond.initialized μ.1.cls ∈ lw_all ∧ CodeIn μ ∧ plainY μ.1 k ∧ Nat.ble μ.2.2.1 45 = true
theorem gcS {i k : Nat} {As : List Value} (hd : decode (mcode μ) pc = .ok (.invokestatic i, 3)) (hs : StatAt (mown μ) i μ' k) (hM : Ct Γ d' c' n' μ' As σ Q') (hst : stk = As.reverse ++ st) (hk : As.length = k) (hdd : d' + 1 ≤ d) (hc' : c' ≤ c) (hn' : n' ≤ n) (hl8 : st.length ≤ 8) (hc1 : st.all (fun v => v.category == 1) = true) : Calls Γ μ d c n c' n' pc L stk st σ Q' := by
  intro Q kk p e s m args below meth cd mc ms H locs cells slots ls hC hR hS hc hn hl
  obtain ⟨w1, w2, w3, w4, w5, w6⟩ := hs
  have hC0 := hC
  obtain ⟨hx, hb, hret, hml, hlo, hnm, hts, hown, hE⟩ := hC
  refine call_end (va_runS (As := As) (rest := st) ⟨hx, hb, hml, hown, hts⟩ hM (va_cwS k hts (lw_S w1 w2 w3 w4) rfl rfl rfl ⟨w5.1, w5.2.1, w5.2.2⟩ (rm_ok hdd w6)) ⟨pc_blind, pc_at hE hR hS⟩ rfl hk hl.1 hst (lv_room (cats hl8 hc1)) hd ⟨by show cells + c' ≤ mc; omega, by show slots + n' ≤ ms; omega⟩) hS ?_
  intro v τ H1 locs1 hq hR1 hS1
  exact kk v τ hq p e s m args below meth cd mc ms H1 locs1 _ _ ls hC0 hR1 hS1 (by omega) (by omega) hl
/-- static, of a nest mate -/
def StatNAt (own : String) (i : Nat) (μ : Mth) (k : Nat) : Prop := (∃ host, Cond.methodLinkNest own i μ.1 host ∈ lw_tbl) ∧ Cond.static μ.1 ∈ lw_all ∧ Cond.initialized μ.1.cls ∈ lw_all ∧ CodeIn μ ∧ plainY μ.1 k ∧ Nat.ble μ.2.2.1 45 = true
theorem gcSN {i k : Nat} {As : List Value} (hd : decode (mcode μ) pc = .ok (.invokestatic i, 3)) (hs : StatNAt (mown μ) i μ' k) (hM : Ct Γ d' c' n' μ' As σ Q') (hst : stk = As.reverse ++ st) (hk : As.length = k) (hdd : d' + 1 ≤ d) (hc' : c' ≤ c) (hn' : n' ≤ n) (hl8 : st.length ≤ 8) (hc1 : st.all (fun v => v.category == 1) = true) : Calls Γ μ d c n c' n' pc L stk st σ Q' := by
  intro Q kk p e s m args below meth cd mc ms H locs cells slots ls hC hR hS hc hn hl
  obtain ⟨⟨host, w1⟩, w2, w3, w4, w5, w6⟩ := hs
  have hC0 := hC
  obtain ⟨hx, hb, hret, hml, hlo, hnm, hts, hown, hE⟩ := hC
  refine call_end (va_runSN (As := As) (rest := st) ⟨hx, hb, hml, hown, hts⟩ hM ⟨va_cnB k hts (lw_meth w4) rfl rfl rfl (hE.2.1 _ w1 rfl) (hts _ w3) ⟨w5.1, w5.2.1, w5.2.2⟩ (rm_ok hdd w6), hts _ w2, trivial⟩ ⟨pc_blind, pc_at hE hR hS⟩ rfl hk hl.1 hst (lv_room (cats hl8 hc1)) hd ⟨by show cells + c' ≤ mc; omega, by show slots + n' ≤ ms; omega⟩) hS ?_
  intro v τ H1 locs1 hq hR1 hS1
  exact kk v τ hq p e s m args below meth cd mc ms H1 locs1 _ _ ls hC0 hR1 hS1 (by omega) (by omega) hl
/-! of an object of just that class -/
def VirtAt (own : String) (i q : Nat) (μ : Mth) (k : Nat) : Prop := GoodCl q ∧ Cond.methodLink own i μ.1 ∈ lw_all ∧ Cond.instanceMethod μ.1 ∈ lw_all ∧ Cond.selects (gN q) μ.1 μ.1 ∈ lw_all ∧ Cond.initialized (gN q) ∈ lw_all ∧ CodeIn μ ∧ μ.1.cls = gN q ∧ plainY μ.1 k ∧ Nat.ble μ.2.2.1 45 = true
theorem recv_at {s : State} {H : Heap} {b q z : Nat} (hR : RepS Γ σ s H) (hK : stK σ b = some (q, z)) (hg : GoodCl q) (hE : EnvOK Γ s) : ∃ cell : Cell, H[b]? = some cell ∧ cell.vm.isStatics = false ∧ s.vm.findClass (gN q) = some cell.cls := by
  obtain ⟨cell, g1, g2, g3, -⟩ := cell_obj hR hK hg
  exact ⟨cell, g1, by rw [g3]; rfl, by rw [g2]; exact (hE.1.1 q _ hg.2.1).2.1⟩
theorem gcV {i k b q z : Nat} {As : List Value} (hd : decode (mcode μ) pc = .ok (.invokevirtual i, 3)) (hs : VirtAt (mown μ) i q μ' k) (hM : Ct Γ d' c' n' μ' (.ref b :: As) σ Q') (hK : stK σ b = some (q, z)) (hst : stk = As.reverse ++ .ref b :: st) (hk : As.length = k) (hdd : d' + 1 ≤ d) (hc' : c' ≤ c) (hn' : n' ≤ n) (hl8 : st.length ≤ 8) (hc1 : st.all (fun v => v.category == 1) = true) : Calls Γ μ d c n c' n' pc L stk st σ Q' := by
  intro Q kk p e s m args below meth cd mc ms H locs cells slots ls hC hR hS hc hn hl
  obtain ⟨hg, w1, w2, w3, w4, w5, w6, w7, w8⟩ := hs
  have hC0 := hC
  obtain ⟨hx, hb, hret, hml, hlo, hnm, hts, hown, hE⟩ := hC
  refine call_end (va_runV (As := As) (rest := st) ⟨hx, hb, hml, hown, hts⟩ hM (cwV k hts (lw_V w1 w2 w3 w4 w5) rfl rfl rfl ⟨w6, w7.1, w7.2.1, w7.2.2⟩ (rm_ok hdd w8)) ⟨pc_blind, recv_at hR hK hg hE, pc_at hE hR hS⟩ rfl hk hl.1 hst (lv_room (cats hl8 hc1)) hd ⟨by show cells + c' ≤ mc; omega, by show slots + n' ≤ ms; omega⟩) hS ?_
  intro v τ H1 locs1 hq hR1 hS1
  exact kk v τ hq p e s m args below meth cd mc ms H1 locs1 _ _ ls hC0 hR1 hS1 (by omega) (by omega) hl
/-! of an object of a class that has the method from above, or its own for it: x is what the call names, μ' what runs -/
def InhAt (own : String) (i q : Nat) (x : MethodName) (μ : Mth) (k : Nat) : Prop := GoodCl q ∧ ∃ owner, Cond.methodLink own i x ∈ lw_all ∧ Cond.sameMethod x.cls owner x.name x.desc ∈ lw_all ∧ Cond.selects (gN q) x μ.1 ∈ lw_all ∧ Cond.instanceMethod μ.1 ∈ lw_all ∧ Cond.initialized μ.1.cls ∈ lw_all ∧ CodeIn μ ∧ (Cond.declares ⟨owner, x.name, x.desc⟩ ∈ lw_tbl ∨ μ.1 = ⟨owner, x.name, x.desc⟩) ∧ owner ≠ "java/lang/invoke/MethodHandle" ∧ owner ≠ "java/lang/invoke/VarHandle" ∧ (parseMethodDescriptor x.desc).map (fun d => d.parameters.length) = some k ∧ Nat.ble μ.2.2.1 45 = true
theorem gcU {i k b q z : Nat} {x : MethodName} {As : List Value} (hd : decode (mcode μ) pc = .ok (.invokevirtual i, 3)) (hs : InhAt (mown μ) i q x μ' k) (hM : Ct Γ d' c' n' μ' (.ref b :: As) σ Q') (hK : stK σ b = some (q, z)) (hst : stk = As.reverse ++ .ref b :: st) (hk : As.length = k) (hdd : d' + 1 ≤ d) (hc' : c' ≤ c) (hn' : n' ≤ n) (hl8 : st.length ≤ 8) (hc1 : st.all (fun v => v.category == 1) = true) : Calls Γ μ d c n c' n' pc L stk st σ Q' := by
  intro Q kk p e s m args below meth cd mc ms H locs cells slots ls hC hR hS hc hn hl
  obtain ⟨hg, owner, w1, w2, w3, w4, w5, w6, w7, w8, w9, w10, w11⟩ := hs
  have hC0 := hC
  obtain ⟨hx, hb, hret, hml, hlo, hnm, hts, hown, hE⟩ := hC
  have hT : GoodIn lw_all (va_wsU (mown μ) i (gN q) owner x μ'.1 (ws_ μ'.1 μ'.2.1 μ'.2.2.1 μ'.2.2.2)) := by
    refine lw_app ?_ (lw_meth w6)
    intro w hw
    simp only [List.mem_cons, List.not_mem_nil, or_false] at hw
    rcases hw with e | e | e | e | e <;> rw [e] <;> assumption
  have cw : va_CU (rmd d mc ms) s args (mown μ) (gN q) owner i x μ'.1 μ'.2.1 μ'.2.2.1 μ'.2.2.2 (ws_ μ'.1 μ'.2.1 μ'.2.2.1 μ'.2.2.2) (rmd d' c' n') c' n' k := by
    rcases w7 with w7 | w7
    · exact va_cwA k hts hT rfl rfl rfl (hE.2.1 _ w7 rfl) ⟨w8, w9, w10⟩ (rm_ok hdd w11)
    · exact va_cwU k hts hT rfl rfl rfl w7 ⟨w8, w9, w10⟩ (rm_ok hdd w11)
  refine call_end (va_runU (As := As) (rest := st) ⟨hx, hb, hml, hown, hts⟩ hM cw ⟨pc_blind, recv_at hR hK hg hE, pc_at hE hR hS⟩ rfl hk hl.1 hst (lv_room (cats hl8 hc1)) hd ⟨by show cells + c' ≤ mc; omega, by show slots + n' ≤ ms; omega⟩) hS ?_
  intro v τ H1 locs1 hq hR1 hS1
  exact kk v τ hq p e s m args below meth cd mc ms H1 locs1 _ _ ls hC0 hR1 hS1 (by omega) (by omega) hl
/-! constructors -/
def InitAt (own : String) (i : Nat) (μ : Mth) (k : Nat) : Prop := (Cond.methodLink own i μ.1 ∈ lw_all ∨ ∃ host, Cond.methodLinkNest own i μ.1 host ∈ lw_tbl) ∧ Cond.instanceMethod μ.1 ∈ lw_all ∧ Cond.initialized μ.1.cls ∈ lw_all ∧ CodeIn μ ∧ μ.1.name = "<init>" ∧ μ.2.2.2 = none ∧ plainY μ.1 k ∧ Nat.ble μ.2.2.1 45 = true
theorem gcI {i k b : Nat} {As : List Value} (hd : decode (mcode μ) pc = .ok (.invokespecial i, 3)) (hs : InitAt (mown μ) i μ' k) (hM : Ct Γ d' c' n' μ' (.ref b :: As) σ Q') (hst : stk = As.reverse ++ .ref b :: st) (hk : As.length = k) (hdd : d' + 1 ≤ d) (hc' : c' ≤ c) (hn' : n' ≤ n) (hl8 : st.length ≤ 8) (hc1 : st.all (fun v => v.category == 1) = true) : Calls Γ μ d c n c' n' pc L stk st σ Q' := by
  intro Q kk p e s m args below meth cd mc ms H locs cells slots ls hC hR hS hc hn hl
  obtain ⟨w1, w2, w3, w4, w5, w6, w7, w8⟩ := hs
  have hC0 := hC
  obtain ⟨hx, hb, hret, hml, hlo, hnm, hts, hown, hE⟩ := hC
  obtain ⟨y, bts, mL, rt⟩ := μ'
  dsimp only at w6
  subst w6
  have kk2 : ∀ (v : Option Value) (τ : St) (H1 : Heap) (locs1 : List Loc), Q' v τ → RepS Γ τ s H1 → va_S (gA Γ) s.heap H1 locs1 → W p Γ.1 e (rmd d mc ms) s m args below meth cd H1 locs1 (cells + c') (slots + n') (MQ below (QQ Γ Q) args s mc ms (gA Γ)) (F0 m (pc + 3) ls (v.toList ++ st)) :=
    fun v τ H1 locs1 hq hR1 hS1 => kk v τ hq p e s m args below meth cd mc ms H1 locs1 _ _ ls hC0 hR1 hS1 (by omega) (by omega) hl
  rcases w1 with w1 | ⟨host, w1⟩
  · exact call_end (va_runI (As := As) (rest := st) ⟨hx, hb, hml, hown, hts⟩ hM (cwI k hts (lw_meth w4) rfl rfl rfl (hts _ w3) (hts _ w1) (hts _ w2) w5 ⟨w7.1, w7.2.1, w7.2.2⟩ (rm_ok hdd w8)) ⟨pc_blind, pc_at hE hR hS⟩ rfl hk hl.1 hst (lv_room (cats hl8 hc1)) hd ⟨by show cells + c' ≤ mc; omega, by show slots + n' ≤ ms; omega⟩) hS kk2
  · exact call_end (va_runIN (As := As) (rest := st) ⟨hx, hb, hml, hown, hts⟩ hM ⟨va_cnB k hts (lw_meth w4) rfl rfl rfl (hE.2.1 _ w1 rfl) (hts _ w3) ⟨w7.1, w7.2.1, w7.2.2⟩ (rm_ok hdd w8), w5, hts _ w2⟩ ⟨pc_blind, pc_at hE hR hS⟩ rfl hk hl.1 hst (lv_room (cats hl8 hc1)) hd ⟨by show cells + c' ≤ mc; omega, by show slots + n' ≤ ms; omega⟩) hS kk2
theorem wp_objInit {i b : Nat} (hd : decode (mcode μ) pc = .ok (.invokespecial i, 3)) (w1 : Cond.methodLink (mown μ) i Lib.objectInit ∈ lw_all) (w2 : Cond.instanceMethod Lib.objectInit ∈ lw_all) (w3 : Cond.code Lib.objectInit ⟨#[0xb1]⟩ 1 none ∈ lw_all) (h1 : 1 ≤ d) (hl8 : st.length ≤ 8) (hc1 : st.all (fun v => v.category == 1) = true) (kk : WP Γ μ d c n (pc + 3) L st σ Q) : WP Γ μ d c n pc L (.ref b :: st) σ Q := by
  intro p e s m args below meth cd mc ms H locs cells slots ls hC hR hS hc hn hl
  have kk := kk p e s m args below meth cd mc ms H locs cells slots ls hC hR hS hc hn hl
  have h8 := cats hl8 hc1
  obtain ⟨hx, hb, hret, hml, hlo, hnm, hts, hown, hE⟩ := hC
  exact W.objInit hx hb hown (hts _ w1) (hts _ w2) (hts _ w3) rfl (by rw [hml]; exact hl.1) rfl hd (by show 1 ≤ d; exact h1) (by
    have : 2 * (F0 m pc ls st).monitorRoom + (st.map fun v => v.category).sum ≤ 8 := lv_room (rest := st) (st := st) h8
    show 2 * (F0 m pc ls st).monitorRoom + (st.map fun v => v.category).sum + 12 ≤ 64 * d
    omega) kk
/-! what comes behind a call -/
theorem wp_cI {τ : St} {r : Int32} (h : Calls Γ μ d c n c' n' pc L stk st σ (fun v t => v = some (.int r) ∧ t = τ)) (kk : WP Γ μ d (c - c') (n - n') (pc + 3) L (.int r :: st) τ Q) : WP Γ μ d c n pc L stk σ Q := by
  refine h Q ?_
  rintro v t ⟨rfl, rfl⟩
  exact kk
theorem wp_cR {τ : St} {r : Nat} (h : Calls Γ μ d c n c' n' pc L stk st σ (fun v t => v = some (.ref r) ∧ t = τ)) (kk : WP Γ μ d (c - c') (n - n') (pc + 3) L (.ref r :: st) τ Q) : WP Γ μ d c n pc L stk σ Q := by
  refine h Q ?_
  rintro v t ⟨rfl, rfl⟩
  exact kk
theorem wp_cV {τ : St} (h : Calls Γ μ d c n c' n' pc L stk st σ (fun v t => v = none ∧ t = τ)) (kk : WP Γ μ d (c - c') (n - n') (pc + 3) L st τ Q) : WP Γ μ d c n pc L stk σ Q := by
  refine h Q ?_
  rintro v t ⟨rfl, rfl⟩
  exact kk
/-- an answer with a property, another picture with a property -/
theorem wp_cIx {P : Int32 → St → Prop} (h : Calls Γ μ d c n c' n' pc L stk st σ (fun v t => ∃ r, v = some (.int r) ∧ P r t)) (kk : ∀ r τ, P r τ → WP Γ μ d (c - c') (n - n') (pc + 3) L (.int r :: st) τ Q) : WP Γ μ d c n pc L stk σ Q := by
  refine h Q ?_
  rintro v t ⟨r, rfl, hp⟩
  exact kk r t hp
theorem wp_cRx {P : Nat → St → Prop} (h : Calls Γ μ d c n c' n' pc L stk st σ (fun v t => ∃ r, v = some (.ref r) ∧ P r t)) (kk : ∀ r τ, P r τ → WP Γ μ d (c - c') (n - n') (pc + 3) L (.ref r :: st) τ Q) : WP Γ μ d c n pc L stk σ Q := by
  refine h Q ?_
  rintro v t ⟨r, rfl, hp⟩
  exact kk r t hp
theorem wp_cVx {P : St → Prop} (h : Calls Γ μ d c n c' n' pc L stk st σ (fun v t => v = none ∧ P t)) (kk : ∀ τ, P τ → WP Γ μ d (c - c') (n - n') (pc + 3) L st τ Q) : WP Γ μ d c n pc L stk σ Q := by
  refine h Q ?_
  rintro v t ⟨rfl, hp⟩
  exact kk t hp
end CALLS
