set_option maxRecDepth 100000
theorem EnvOK.at {Γ : Gm} {s U : State} {H : Heap} {locs : List Loc} (h : EnvOK Γ s) (hS : va_S (gA Γ) s.heap H locs) (hU : U.heap = H) (hW : s.WarmedH U.vm) : EnvOK Γ U := by
  obtain ⟨h1, h2, h3, h4, h5, h6, h7, h8⟩ := h
  refine ⟨h1.moved hW.alike, fun w hw hn => nest_warm hn hW (h2 w hw hn), fun C hC => va_AO.moved hW.alike (h3 C hC), ?_, ?_, vk_R.warm hW h6, vk_R.warm hW h7, by rw [hU]; exact Nat.le_trans h8 hS.1⟩
  · rw [hU]; exact va_Z.moved hW.alike (h4.kept hS.2.1)
  · rw [hU]; exact vk_S.moved hW.alike (h5.kept hS.2.1)
theorem lv_args_mem : ∀ (vs : List Value) (k : Nat), (∀ v ∈ vs, v.category = 1) → ∀ (i : Nat) (v : Value), vs[i]? = some v → (k + i, v) ∈ lv_args k vs
  | [], _, _, i, v, h => by simp at h
  | a :: vs, k, hc, i, v, h => by
    have ha : a.category = 1 := hc a List.mem_cons_self
    cases i with
    | zero =>
      rw [List.getElem?_cons_zero] at h
      cases h
      exact List.mem_cons_self
    | succ i =>
      rw [List.getElem?_cons_succ] at h
      have h2 := lv_args_mem vs (k + 1) (fun w hw => hc w (List.mem_cons_of_mem _ hw)) i v h
      unfold lv_args
      rw [if_neg (by rw [ha]; decide)]
      refine List.mem_cons_of_mem _ ?_
      rw [show k + (i + 1) = k + 1 + i by omega]
      exact h2
theorem lg_sl_len : ∀ (vs : List Value), (∀ v ∈ vs, v.category = 1) → (lg_sl vs).length = vs.length
  | [], _ => rfl
  | a :: vs, hc => by
    have ha : a.category = 1 := hc a List.mem_cons_self
    have h2 := lg_sl_len vs (fun w hw => hc w (List.mem_cons_of_mem _ hw))
    unfold lg_sl at h2 ⊢
    rw [List.flatMap_cons, if_neg (by rw [ha]; decide), List.length_append, h2]
    simp; omega
/-- the locals at a method's entry -/
def ent (args : List Value) (nl : Nat) : List (Option Value) := args.map some ++ List.replicate (nl - args.length) none
theorem Ct.ofWP {Γ : Gm} {d c n : Nat} {μ : Mth} {args : List Value} {σ : St} {Q : Option Value → St → Prop} (hp : plainFor μ.1 = true) (hcat : args.all (fun v => v.category == 1) = true) (hlen : Nat.ble args.length μ.2.2.1 = true)
    (k : WP Γ μ d c n 0 (ent args μ.2.2.1) [] σ Q) : Ct Γ d c n μ args σ Q := by
  have hcat : ∀ v ∈ args, v.category = 1 := fun v hv => by simpa using List.all_eq_true.mp hcat v hv
  have hlen : args.length ≤ μ.2.2.1 := Nat.le_of_ble_eq_true hlen
  refine va_MetF (cc := μ.2.1) (maxL := μ.2.2.1) (ret := μ.2.2.2) hp rfl ?_
  intro p e s m args' below meth cd s₁ B hml hv
  obtain ⟨rfl, hE, hR⟩ := hv
  have hts := atoms_spec (ws := ws_ μ.1 μ.2.1 μ.2.2.1 μ.2.2.2) B.pre
  have hts : ∀ w ∈ lw_all, w.before _ s = true := fun w h => hts w (List.mem_cons_of_mem _ h)
  have hl := lv_entry args (n := μ.2.2.1) (by rw [lg_sl_len args hcat]; exact hlen)
  rw [lg_entry_eq]
  refine k p e s m _ below meth cd c n s.heap [] 0 0 _ ⟨B.exec, B.bytes, B.returns, hml, B.notSynchronized, (name_of_methodNamed B.named B.method).1, hts, findClass_of_methodNamed B.named, hE⟩ hR va_S.rf (by omega) (by omega) ?_
  refine ⟨hl.1, by simp [ent]; omega, hl.2.1, fun i v hi => ?_⟩
  unfold ent at hi
  by_cases hlt : i < args.length
  · rw [List.getElem?_append_left (by simpa using hlt), List.getElem?_map] at hi
    cases ha : args[i]? with
    | none => rw [ha] at hi; cases hi
    | some w =>
      rw [ha] at hi
      cases hi
      refine ⟨hcat _ (List.mem_of_getElem? ha), ?_⟩
      have h2 := lv_args_mem args 0 hcat i v ha
      rw [Nat.zero_add] at h2
      exact hl.2.2 _ h2
  · rw [List.getElem?_append_right (by simpa using hlt)] at hi
    simp [List.getElem?_replicate] at hi
section RULES
variable {Γ : Gm} {μ : Mth} {d c n pc : Nat} {L : List (Option Value)} {st : List Value} {σ : St} {Q : Option Value → St → Prop}
/-! ends -/
theorem wp_ret {ty : FieldType} {x : Int32} (hd : decode (mcode μ) pc = .ok (.ireturn, 1)) (hr : μ.2.2.2 = some ty) (hx : narrow ty (.int x) = .int x) (hq : Q (some (.int x)) σ) : WP Γ μ d c n pc L [.int x] σ Q := by
  intro p e s m args below meth cd mc ms H locs cells slots ls hC hR hS hc hn hl
  refine W.widen (k := mc) (n := ms) (by omega) (by omega) ?_
  exact W.zret hC.1 hC.2.1 (hC.2.2.1.trans hr) hx (fun t ht hW => ⟨⟨_, σ, rfl, hq, by rw [ht]; exact hR.moved hW.alike⟩, hS.F ht⟩) hS.2.2 hd hC.2.2.2.2.1
theorem wp_iret {x : Int32} (hd : decode (mcode μ) pc = .ok (.ireturn, 1)) (hr : μ.2.2.2 = some .int) (hq : Q (some (.int x)) σ) : WP Γ μ d c n pc L [.int x] σ Q := wp_ret hd hr rfl hq
theorem wp_zret {x : Int32} (hd : decode (mcode μ) pc = .ok (.ireturn, 1)) (hr : μ.2.2.2 = some .boolean) (hx : x = 0 ∨ x = 1) (hq : Q (some (.int x)) σ) : WP Γ μ d c n pc L [.int x] σ Q := wp_ret hd hr (by rcases hx with rfl | rfl <;> rfl) hq
theorem wp_vret (hd : decode (mcode μ) pc = .ok (.return_, 1)) (hr : μ.2.2.2 = none) (hq : Q none σ) : WP Γ μ d c n pc L [] σ Q := by
  intro p e s m args below meth cd mc ms H locs cells slots ls hC hR hS hc hn hl
  refine W.widen (k := mc) (n := ms) (by omega) (by omega) ?_
  exact W.vret hC.1 hC.2.1 (hC.2.2.1.trans hr) (fun t ht hW => ⟨⟨_, σ, rfl, hq, by rw [ht]; exact hR.moved hW.alike⟩, hS.F ht⟩) hS.2.2 hd hC.2.2.2.2.1
theorem wp_aret {rt : FieldType} {v : Value} (hd : decode (mcode μ) pc = .ok (.areturn, 1)) (hr : μ.2.2.2 = some rt) (hrt : (∃ n, rt = .object n) ∨ ∃ t, rt = .array t) (hv : v = .null ∨ ∃ a, v = .ref a) (hq : Q (some v) σ) : WP Γ μ d c n pc L [v] σ Q := by
  intro p e s m args below meth cd mc ms H locs cells slots ls hC hR hS hc hn hl
  refine W.widen (k := mc) (n := ms) (by omega) (by omega) ?_
  exact W.aret hC.1 hC.2.1 (hC.2.2.1.trans hr) hrt hv (fun t ht hW => ⟨⟨_, σ, rfl, hq, by rw [ht]; exact hR.moved hW.alike⟩, hS.F ht⟩) hS.2.2 hd hC.2.2.2.2.1
/-! fields -/
def FieldAt (own : String) (i q k : Nat) : Prop := GoodCl q ∧ k < gF q ∧ (Cond.fieldLink own i (gT q k).1 (gT q k).2.1 (gT q k).2.2.1 ∈ lw_all ∨ ∃ host, Cond.fieldLinkNest own i (gT q k).1 (gT q k).2.1 (gT q k).2.2.1 host ∈ lw_tbl)
theorem cell_obj {s : State} {H : Heap} {a q z : Nat} (hR : RepS Γ σ s H) (hK : stK σ a = some (q, z)) (hq : GoodCl q) : t_OB a (Γ.2.1.1 q) (gF q) (Γ.2.1.2 q) H (fun j => fv q j (stI σ a j) (stR σ a j)) := by
  have h := (hR.2.2 a q z hK).2
  have h1 := hq.1
  unfold CellOK at h
  rw [if_pos (by omega)] at h
  exact h.2
theorem cell_arr {s : State} {H : Heap} {a q z : Nat} (hR : RepS Γ σ s H) (hK : stK σ a = some (q, z)) (hq : 100 ≤ q) : GArr s H a (kty q) z (fun j => av q (stI σ a j) (stR σ a j)) := by
  have h := (hR.2.2 a q z hK).2
  unfold CellOK at h
  rw [if_neg (by omega)] at h
  exact h
theorem wp_get {i a q z k : Nat} (hd : decode (mcode μ) pc = .ok (.getfield i, 3)) (hf : FieldAt (mown μ) i q k) (hK : stK σ a = some (q, z)) (kk : WP Γ μ d c n (pc + 3) L (fv q k (stI σ a k) (stR σ a k) :: st) σ Q) : WP Γ μ d c n pc L (.ref a :: st) σ Q := by
  intro p e s m args below meth cd mc ms H locs cells slots ls hC hR hS hc hn hl
  have kk := kk p e s m args below meth cd mc ms H locs cells slots ls hC hR hS hc hn hl
  obtain ⟨hg, hk, hlk⟩ := hf
  obtain ⟨cell, q1, q2, q3, q4⟩ := cell_obj hR hK hg
  obtain ⟨hx, hb, hret, hml, hlo, hnm, hts, hown, hE⟩ := hC
  obtain ⟨hSl, hfc, kC, hkC, hkind⟩ := hE.1.1 q _ hg.2.1
  obtain ⟨cf, kf, fi, f, hi, hsl⟩ := hSl k hk
  have hst := (u_facts hfc hkC (u_lays hts hg.2.2.1 hk) hi).1
  rcases hlk with hlk | ⟨host, hlk⟩
  · exact W.getf hx hb hown (hts _ hlk) hi hst q1 (by rw [q3]; exact fun h => by cases h) (by rw [hsl]; exact q4 k hk) rfl rfl hd kk
  · exact va_Wgetf hx hb hown (va_Nw.use rfl (hE.2.1 _ hlk rfl)) hi hst q1 (by rw [q3]; exact fun h => by cases h) (by rw [hsl]; exact q4 k hk) rfl rfl hd kk
theorem wp_getI {i a q z k : Nat} (hd : decode (mcode μ) pc = .ok (.getfield i, 3)) (hf : FieldAt (mown μ) i q k) (ht : gRef q k = false) (hK : stK σ a = some (q, z)) (kk : WP Γ μ d c n (pc + 3) L (.int (stI σ a k) :: st) σ Q) : WP Γ μ d c n pc L (.ref a :: st) σ Q := by
  refine wp_get hd hf hK ?_
  rw [fv, if_neg (by rw [ht]; decide)]
  exact kk
theorem wp_getR {i a q z k : Nat} (hd : decode (mcode μ) pc = .ok (.getfield i, 3)) (hf : FieldAt (mown μ) i q k) (ht : gRef q k = true) (hK : stK σ a = some (q, z)) {b : Nat} (hr : stR σ a k = some b) (kk : WP Γ μ d c n (pc + 3) L (.ref b :: st) σ Q) : WP Γ μ d c n pc L (.ref a :: st) σ Q := by
  refine wp_get hd hf hK ?_
  rw [fv, if_pos ht, hr]
  exact kk
theorem wp_getN {i a q z k : Nat} (hd : decode (mcode μ) pc = .ok (.getfield i, 3)) (hf : FieldAt (mown μ) i q k) (ht : gRef q k = true) (hK : stK σ a = some (q, z)) (hr : stR σ a k = none) (kk : WP Γ μ d c n (pc + 3) L (.null :: st) σ Q) : WP Γ μ d c n pc L (.ref a :: st) σ Q := by
  refine wp_get hd hf hK ?_
  rw [fv, if_pos ht, hr]
  exact kk
/-- the picture behind a write of one field of one cell -/
theorem RepS.put {s : State} {H H' : Heap} {τ : St} {a q z k : Nat} {cell : Cell} {v : Value} (hR : RepS Γ σ s H) (hK : stK σ a = some (q, z)) (hg : GoodCl q) (hk : k < gF q)
    (q2 : cell.cls = Γ.2.1.1 q) (q3 : cell.vm = .none) (q4 : ∀ j, j < gF q → cell.slots[(Γ.2.1.2 q) j]? = some (fv q j (stI σ a j) (stR σ a j))) (hap : ∀ x y, x < gF q → y < gF q → x ≠ y → (Γ.2.1.2 q) x ≠ (Γ.2.1.2 q) y)
    (e1 : H'[a]? = some (cell.setSlot ((Γ.2.1.2 q) k) v)) (e2 : H'.size = H.size) (e3 : ∀ b, b ≠ a → H'[b]? = H[b]?)
    (t1 : ∀ b, stK τ b = stK σ b) (t2 : stN τ = stN σ) (t3 : ∀ b j, b ≠ a ∨ j ≠ k → stI τ b j = stI σ b j ∧ stR τ b j = stR σ b j) (t4 : fv q k (stI τ a k) (stR τ a k) = v) : RepS Γ τ s H' := by
  refine ⟨by rw [e2, t2]; exact hR.1, by rw [t2]; exact hR.2.1, fun b q' z' hb => ?_⟩
  rw [t1] at hb
  obtain ⟨g1, g2⟩ := hR.2.2 b q' z' hb
  refine ⟨g1, ?_⟩
  unfold CellOK at g2 ⊢
  by_cases hba : b = a
  · subst hba
    cases hK.symm.trans hb
    have hq := hg.1
    rw [if_pos (by omega)] at g2 ⊢
    refine ⟨hg, t_OB.to (V := updV (fun j => fv q j (stI σ b j) (stR σ b j)) k v) ⟨_, e1, q2, q3, t_set q4 hap hk v⟩ (fun j hj => ?_)⟩
    by_cases hjk : j = k
    · subst hjk
      simp [updV, t4]
    · obtain ⟨r1, r2⟩ := t3 b j (Or.inr hjk)
      simp [updV, hjk, r1, r2]
  · have r : ∀ j, stI τ b j = stI σ b j ∧ stR τ b j = stR σ b j := fun j => t3 b j (Or.inl hba)
    by_cases hq : q' < 100
    · rw [if_pos hq] at g2 ⊢
      refine ⟨g2.1, ?_⟩
      have h2 := g2.2.kept (e3 b hba)
      refine h2.to (fun j _ => ?_)
      rw [(r j).1, (r j).2]
    · rw [if_neg hq] at g2 ⊢
      obtain ⟨cl, c1, c2, c3, c4, c5⟩ := g2
      refine ⟨cl, by rw [e3 b hba]; exact c1, c2, c3, c4, fun j hj => ?_⟩
      show cl.slots[j]? = some (av q' (stI τ b j) (stR τ b j))
      rw [(r j).1, (r j).2]
      exact c5 j hj
theorem go_apart {s : State} {args : Array Value} {q : Nat} (hg : GoodCl q) (hts : ∀ w ∈ lw_all, w.before args s = true) (hE : EnvOK Γ s) : ∀ x y, x < gF q → y < gF q → x ≠ y → (Γ.2.1.2 q) x ≠ (Γ.2.1.2 q) y :=
  va_apart (own := "") hts hg.2.2.1 (gTy q) hg.2.2.2.1 hg.2.2.2.2 hE.1 hg.2.1
/-- a value of a field's type -/
def fitF (q k : Nat) (v : Value) : Prop := narrow (gTy q k) v = v ∧ fits (gTy q k) v = true
theorem wp_putG {i a q z k : Nat} {v : Value} (τ : St) (hd : decode (mcode μ) pc = .ok (.putfield i, 3)) (hf : FieldAt (mown μ) i q k) (hfin : (gT q k).2.2.2 = false ∨ ((gT q k).2.2.2 = true ∧ μ.1.name = "<init>" ∧ (gT q k).1 = mown μ ∧ Cond.fieldLink (mown μ) i (gT q k).1 (gT q k).2.1 (gT q k).2.2.1 ∈ lw_all)) (hv : fitF q k v) (hK : stK σ a = some (q, z))
    (t1 : ∀ b, stK τ b = stK σ b) (t2 : stN τ = stN σ) (t3 : ∀ b j, b ≠ a ∨ j ≠ k → stI τ b j = stI σ b j ∧ stR τ b j = stR σ b j) (t4 : fv q k (stI τ a k) (stR τ a k) = v)
    (kk : WP Γ μ d c n (pc + 3) L st τ Q) : WP Γ μ d c n pc L (v :: .ref a :: st) σ Q := by
  intro p e s m args below meth cd mc ms H locs cells slots ls hC hR hS hc hn hl
  have hC0 := hC
  obtain ⟨hg, hk, hlk⟩ := hf
  obtain ⟨cell, q1, q2, q3, q4⟩ := cell_obj hR hK hg
  have hba : gA Γ a := (hR.2.2 a q z hK).1 (by have := hg.1; omega)
  obtain ⟨hx, hb, hret, hml, hlo, hnm, hts, hown, hE⟩ := hC
  obtain ⟨hSl, hfc, kC, hkC, hkind⟩ := hE.1.1 q _ hg.2.1
  obtain ⟨cf, kf, fi, f, hi, hsl⟩ := hSl k hk
  have hap := go_apart hg hts hE
  have hst := (u_facts hfc hkC (u_lays hts hg.2.2.1 hk) hi).1
  have hlay := hts _ (hg.2.2.1 _ (u_in_lay hk))
  unfold u_lay at hlay
  have fin : ∀ H' : Heap, H'[a]? = some (cell.setSlot f.slot v) → H'.size = H.size → (∀ b, b ≠ a → H'[b]? = H[b]?) → W p Γ.1 e (rmd d mc ms) s m args below meth cd H' (locs ++ [⟨a, f.slot⟩]) cells slots (MQ below (QQ Γ Q) args s mc ms (gA Γ)) (F0 m (pc + 3) ls st) := by
    intro H' e1 e2 e3
    rw [hsl] at e1
    exact kk p e s m args below meth cd mc ms H' _ cells slots ls hC0 (hR.put hK hg hk q2 q3 q4 hap e1 e2 e3 t1 t2 t3 t4) (hS.put e2 e3 hba) hc hn hl
  rcases hfin with hfin | ⟨hfin, hini, hdecl, hlk⟩
  · rw [if_neg (by rw [hfin]; decide)] at hlay
    have h6 := u_store hfc hkC hkind hlay hi (hg.2.2.2.1 k hk) hv.1 hv.2
    rcases hlk with hlk | ⟨host, hlk⟩
    · exact W.putK hx hb (f := f) ⟨hown, hts _ hlk, ⟨_, _, _, hi⟩, hst⟩ (by rw [q2]; exact h6) q1 q3 (by rw [hsl]; exact k2_hasslot (q4 k hk)) rfl rfl hd fin
    · exact va_WputK hx hb (f := f) hown (va_Nw.use rfl (hE.2.1 _ hlk rfl)) hi hst (by rw [q2]; exact h6) q1 q3 (by rw [hsl]; exact k2_hasslot (q4 k hk)) rfl rfl hd fin
  · rw [if_pos hfin] at hlay
    have hcf : m.cls = cf := by
      obtain ⟨_, _, c', _, _, _, -, -, hf', -, -, -, hown2, -⟩ := Cond.laysFinal_spec hlay
      have e1 : c' = cf := by have := hi.symm.trans hf'; simp at this; exact this.1.symm
      rw [hdecl] at hown2
      rw [← e1]; exact Option.some.inj (hown.symm.trans hown2)
    have h6 := u_fits hfc hkC hkind (Or.inr hlay) hi (hg.2.2.2.1 k hk) hv.1 hv.2
    exact W.putFinK hx hb hown (hts _ hlk) hi hst hcf (hnm.trans hini) (by rw [q2]; exact h6) q1 q3 (by rw [hsl]; exact k2_hasslot (q4 k hk)) rfl rfl hd fin
end RULES
