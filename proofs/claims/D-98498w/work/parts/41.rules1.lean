theorem wp_iconst {Γ : Gm} {μ : Mth} {d c n pc : Nat} {L : List (Option Value)} {st : List Value} {σ : St} {Q : Option Value → St → Prop} {i : Int} (hd : decode (mcode μ) pc = .ok (.iconst i, 1)) (v : Int32) (hv : Int32.ofInt i = v) (k : WP Γ μ d c n (pc + 1) L (.int v :: st) σ Q) : WP Γ μ d c n (pc) L st σ Q := by
  intro p e s m args below meth cd mc ms H locs cells slots ls hC hR hS hc hn hl
  exact lv_iconst hC.1 hC.2.1 hd hv (k p e s m args below meth cd mc ms H locs cells slots ls hC hR hS hc hn hl)
theorem wp_bipush {Γ : Gm} {μ : Mth} {d c n pc : Nat} {L : List (Option Value)} {st : List Value} {σ : St} {Q : Option Value → St → Prop} {i : Int} (hd : decode (mcode μ) pc = .ok (.bipush i, 2)) (v : Int32) (hv : (Int8.ofInt i).toInt32 = v) (k : WP Γ μ d c n (pc + 2) L (.int v :: st) σ Q) : WP Γ μ d c n (pc) L st σ Q := by
  intro p e s m args below meth cd mc ms H locs cells slots ls hC hR hS hc hn hl
  exact lv_bipush hC.1 hC.2.1 hd hv (k p e s m args below meth cd mc ms H locs cells slots ls hC hR hS hc hn hl)
theorem wp_sipush {Γ : Gm} {μ : Mth} {d c n pc : Nat} {L : List (Option Value)} {st : List Value} {σ : St} {Q : Option Value → St → Prop} {i : Int} (hd : decode (mcode μ) pc = .ok (.sipush i, 3)) (v : Int32) (hv : (Int16.ofInt i).toInt32 = v) (k : WP Γ μ d c n (pc + 3) L (.int v :: st) σ Q) : WP Γ μ d c n (pc) L st σ Q := by
  intro p e s m args below meth cd mc ms H locs cells slots ls hC hR hS hc hn hl
  exact lv_sipush hC.1 hC.2.1 hd hv (k p e s m args below meth cd mc ms H locs cells slots ls hC hR hS hc hn hl)
theorem wp_null {Γ : Gm} {μ : Mth} {d c n pc : Nat} {L : List (Option Value)} {st : List Value} {σ : St} {Q : Option Value → St → Prop} (hd : decode (mcode μ) pc = .ok (.aconst_null, 1)) (k : WP Γ μ d c n (pc + 1) L (.null :: st) σ Q) : WP Γ μ d c n (pc) L st σ Q := by
  intro p e s m args below meth cd mc ms H locs cells slots ls hC hR hS hc hn hl
  exact lv_null hC.1 hC.2.1 hd (k p e s m args below meth cd mc ms H locs cells slots ls hC hR hS hc hn hl)
theorem wp_ldc {Γ : Gm} {μ : Mth} {d c n pc : Nat} {L : List (Option Value)} {st : List Value} {σ : St} {Q : Option Value → St → Prop} {i : Nat} {v : Int32} (hd : decode (mcode μ) pc = .ok (.ldc i, 2)) (hv : Cond.constant (mown μ) i v ∈ lw_all) (k : WP Γ μ d c n (pc + 2) L (.int v :: st) σ Q) : WP Γ μ d c n (pc) L st σ Q := by
  intro p e s m args below meth cd mc ms H locs cells slots ls hC hR hS hc hn hl
  exact lv_ldc hC.1 hC.2.1 hC.2.2.2.2.2.2.2.1 (hC.2.2.2.2.2.2.1 _ hv) hd (k p e s m args below meth cd mc ms H locs cells slots ls hC hR hS hc hn hl)
theorem wp_ldcw {Γ : Gm} {μ : Mth} {d c n pc : Nat} {L : List (Option Value)} {st : List Value} {σ : St} {Q : Option Value → St → Prop} {i : Nat} {v : Int32} (hd : decode (mcode μ) pc = .ok (.ldc_w i, 3)) (hv : Cond.constant (mown μ) i v ∈ lw_all) (k : WP Γ μ d c n (pc + 3) L (.int v :: st) σ Q) : WP Γ μ d c n (pc) L st σ Q := by
  intro p e s m args below meth cd mc ms H locs cells slots ls hC hR hS hc hn hl
  exact lv_ldcw hC.1 hC.2.1 hC.2.2.2.2.2.2.2.1 (hC.2.2.2.2.2.2.1 _ hv) hd (k p e s m args below meth cd mc ms H locs cells slots ls hC hR hS hc hn hl)
theorem wp_iload_n {Γ : Gm} {μ : Mth} {d c n pc : Nat} {L : List (Option Value)} {st : List Value} {σ : St} {Q : Option Value → St → Prop} {i : Fin 4} {x : Int32} (hd : decode (mcode μ) pc = .ok (.iload_n i, 1)) (hx : L[(i : Nat)]? = some (some (.int x))) (k : WP Γ μ d c n (pc + 1) L (.int x :: st) σ Q) : WP Γ μ d c n (pc) L st σ Q := by
  intro p e s m args below meth cd mc ms H locs cells slots ls hC hR hS hc hn hl
  exact lv_iload_n hC.1 hC.2.1 hd rfl (hl.2.2.2 _ _ hx).2 (k p e s m args below meth cd mc ms H locs cells slots ls hC hR hS hc hn hl)
theorem wp_iload {Γ : Gm} {μ : Mth} {d c n pc : Nat} {L : List (Option Value)} {st : List Value} {σ : St} {Q : Option Value → St → Prop} {i : Nat} {x : Int32} (hd : decode (mcode μ) pc = .ok (.iload i, 2)) (hx : L[i]? = some (some (.int x))) (k : WP Γ μ d c n (pc + 2) L (.int x :: st) σ Q) : WP Γ μ d c n (pc) L st σ Q := by
  intro p e s m args below meth cd mc ms H locs cells slots ls hC hR hS hc hn hl
  exact lv_iload hC.1 hC.2.1 hd (hl.2.2.2 _ _ hx).2 (k p e s m args below meth cd mc ms H locs cells slots ls hC hR hS hc hn hl)
theorem wp_aload_n {Γ : Gm} {μ : Mth} {d c n pc : Nat} {L : List (Option Value)} {st : List Value} {σ : St} {Q : Option Value → St → Prop} {i : Fin 4} {x : Nat} (hd : decode (mcode μ) pc = .ok (.aload_n i, 1)) (hx : L[(i : Nat)]? = some (some (.ref x))) (k : WP Γ μ d c n (pc + 1) L (.ref x :: st) σ Q) : WP Γ μ d c n (pc) L st σ Q := by
  intro p e s m args below meth cd mc ms H locs cells slots ls hC hR hS hc hn hl
  exact lv_aload_n hC.1 hC.2.1 hd rfl (hl.2.2.2 _ _ hx).2 (k p e s m args below meth cd mc ms H locs cells slots ls hC hR hS hc hn hl)
theorem wp_aload {Γ : Gm} {μ : Mth} {d c n pc : Nat} {L : List (Option Value)} {st : List Value} {σ : St} {Q : Option Value → St → Prop} {i : Nat} {x : Nat} (hd : decode (mcode μ) pc = .ok (.aload i, 2)) (hx : L[i]? = some (some (.ref x))) (k : WP Γ μ d c n (pc + 2) L (.ref x :: st) σ Q) : WP Γ μ d c n (pc) L st σ Q := by
  intro p e s m args below meth cd mc ms H locs cells slots ls hC hR hS hc hn hl
  exact lv_aload hC.1 hC.2.1 hd (hl.2.2.2 _ _ hx).2 (k p e s m args below meth cd mc ms H locs cells slots ls hC hR hS hc hn hl)
theorem wp_aload_nN {Γ : Gm} {μ : Mth} {d c n pc : Nat} {L : List (Option Value)} {st : List Value} {σ : St} {Q : Option Value → St → Prop} {i : Fin 4} (hd : decode (mcode μ) pc = .ok (.aload_n i, 1)) (hx : L[(i : Nat)]? = some (some (.null))) (k : WP Γ μ d c n (pc + 1) L (.null :: st) σ Q) : WP Γ μ d c n (pc) L st σ Q := by
  intro p e s m args below meth cd mc ms H locs cells slots ls hC hR hS hc hn hl
  exact lv_aload_nN hC.1 hC.2.1 hd rfl (hl.2.2.2 _ _ hx).2 (k p e s m args below meth cd mc ms H locs cells slots ls hC hR hS hc hn hl)
theorem wp_aloadN {Γ : Gm} {μ : Mth} {d c n pc : Nat} {L : List (Option Value)} {st : List Value} {σ : St} {Q : Option Value → St → Prop} {i : Nat} (hd : decode (mcode μ) pc = .ok (.aload i, 2)) (hx : L[i]? = some (some (.null))) (k : WP Γ μ d c n (pc + 2) L (.null :: st) σ Q) : WP Γ μ d c n (pc) L st σ Q := by
  intro p e s m args below meth cd mc ms H locs cells slots ls hC hR hS hc hn hl
  exact lv_aloadN hC.1 hC.2.1 hd (hl.2.2.2 _ _ hx).2 (k p e s m args below meth cd mc ms H locs cells slots ls hC hR hS hc hn hl)
theorem wp_istore_n {Γ : Gm} {μ : Mth} {d c n pc : Nat} {L : List (Option Value)} {st : List Value} {σ : St} {Q : Option Value → St → Prop} {i : Fin 4} {x : Int32} (hd : decode (mcode μ) pc = .ok (.istore_n i, 1)) (hi : Nat.blt (i : Nat) μ.2.2.1 = true) (k : WP Γ μ d c n (pc + 1) (L.set (i : Nat) (some (.int x))) st σ Q) : WP Γ μ d c n (pc) L (.int x :: st) σ Q := by
  intro p e s m args below meth cd mc ms H locs cells slots ls hC hR hS hc hn hl
  exact lv_istore_n hC.1 hC.2.1 hd rfl (lhas_pairs hl) (by simpa using hi) rfl (fun ls' h' => k p e s m args below meth cd mc ms H locs cells slots ls' hC hR hS hc hn (lhas_set hl h' rfl))
theorem wp_istore {Γ : Gm} {μ : Mth} {d c n pc : Nat} {L : List (Option Value)} {st : List Value} {σ : St} {Q : Option Value → St → Prop} {i : Nat} {x : Int32} (hd : decode (mcode μ) pc = .ok (.istore i, 2)) (hi : Nat.blt i μ.2.2.1 = true) (k : WP Γ μ d c n (pc + 2) (L.set i (some (.int x))) st σ Q) : WP Γ μ d c n (pc) L (.int x :: st) σ Q := by
  intro p e s m args below meth cd mc ms H locs cells slots ls hC hR hS hc hn hl
  exact lv_istore hC.1 hC.2.1 hd (lhas_pairs hl) (by simpa using hi) rfl (fun ls' h' => k p e s m args below meth cd mc ms H locs cells slots ls' hC hR hS hc hn (lhas_set hl h' rfl))
theorem wp_astore_n {Γ : Gm} {μ : Mth} {d c n pc : Nat} {L : List (Option Value)} {st : List Value} {σ : St} {Q : Option Value → St → Prop} {i : Fin 4} {x : Nat} (hd : decode (mcode μ) pc = .ok (.astore_n i, 1)) (hi : Nat.blt (i : Nat) μ.2.2.1 = true) (k : WP Γ μ d c n (pc + 1) (L.set (i : Nat) (some (.ref x))) st σ Q) : WP Γ μ d c n (pc) L (.ref x :: st) σ Q := by
  intro p e s m args below meth cd mc ms H locs cells slots ls hC hR hS hc hn hl
  exact lv_astore_n hC.1 hC.2.1 hd rfl (lhas_pairs hl) (by simpa using hi) rfl (fun ls' h' => k p e s m args below meth cd mc ms H locs cells slots ls' hC hR hS hc hn (lhas_set hl h' rfl))
theorem wp_astore {Γ : Gm} {μ : Mth} {d c n pc : Nat} {L : List (Option Value)} {st : List Value} {σ : St} {Q : Option Value → St → Prop} {i : Nat} {x : Nat} (hd : decode (mcode μ) pc = .ok (.astore i, 2)) (hi : Nat.blt i μ.2.2.1 = true) (k : WP Γ μ d c n (pc + 2) (L.set i (some (.ref x))) st σ Q) : WP Γ μ d c n (pc) L (.ref x :: st) σ Q := by
  intro p e s m args below meth cd mc ms H locs cells slots ls hC hR hS hc hn hl
  exact lv_astore hC.1 hC.2.1 hd (lhas_pairs hl) (by simpa using hi) rfl (fun ls' h' => k p e s m args below meth cd mc ms H locs cells slots ls' hC hR hS hc hn (lhas_set hl h' rfl))
theorem wp_astore_nN {Γ : Gm} {μ : Mth} {d c n pc : Nat} {L : List (Option Value)} {st : List Value} {σ : St} {Q : Option Value → St → Prop} {i : Fin 4} (hd : decode (mcode μ) pc = .ok (.astore_n i, 1)) (hi : Nat.blt (i : Nat) μ.2.2.1 = true) (k : WP Γ μ d c n (pc + 1) (L.set (i : Nat) (some (.null))) st σ Q) : WP Γ μ d c n (pc) L (.null :: st) σ Q := by
  intro p e s m args below meth cd mc ms H locs cells slots ls hC hR hS hc hn hl
  exact lv_astore_nN hC.1 hC.2.1 hd rfl (lhas_pairs hl) (by simpa using hi) rfl (fun ls' h' => k p e s m args below meth cd mc ms H locs cells slots ls' hC hR hS hc hn (lhas_set hl h' rfl))
theorem wp_astoreN {Γ : Gm} {μ : Mth} {d c n pc : Nat} {L : List (Option Value)} {st : List Value} {σ : St} {Q : Option Value → St → Prop} {i : Nat} (hd : decode (mcode μ) pc = .ok (.astore i, 2)) (hi : Nat.blt i μ.2.2.1 = true) (k : WP Γ μ d c n (pc + 2) (L.set i (some (.null))) st σ Q) : WP Γ μ d c n (pc) L (.null :: st) σ Q := by
  intro p e s m args below meth cd mc ms H locs cells slots ls hC hR hS hc hn hl
  exact lv_astoreN hC.1 hC.2.1 hd (lhas_pairs hl) (by simpa using hi) rfl (fun ls' h' => k p e s m args below meth cd mc ms H locs cells slots ls' hC hR hS hc hn (lhas_set hl h' rfl))
theorem wp_iinc {Γ : Gm} {μ : Mth} {d c n pc : Nat} {L : List (Option Value)} {st : List Value} {σ : St} {Q : Option Value → St → Prop} {i : Nat} {z : Int} {x : Int32} (hd : decode (mcode μ) pc = .ok (.iinc i z, 3)) (hi : Nat.blt i μ.2.2.1 = true) (hx : L[i]? = some (some (.int x))) (v : Int32) (hv : x + Int32.ofInt z = v) (k : WP Γ μ d c n (pc + 3) (L.set i (some (.int v))) st σ Q) : WP Γ μ d c n (pc) L st σ Q := by
  intro p e s m args below meth cd mc ms H locs cells slots ls hC hR hS hc hn hl
  obtain ⟨q, hq⟩ := List.getElem?_of_mem (lpairs_mem hx)
  exact lv_iinc hC.1 hC.2.1 hd (lhas_pairs hl) hq hv (by simpa using hi) rfl (fun ls' h' => k p e s m args below meth cd mc ms H locs cells slots ls' hC hR hS hc hn (lhas_set hl h' rfl))
theorem wp_iadd {Γ : Gm} {μ : Mth} {d c n pc : Nat} {L : List (Option Value)} {st : List Value} {σ : St} {Q : Option Value → St → Prop} {x y : Int32} (hd : decode (mcode μ) pc = .ok (.iadd, 1)) (k : WP Γ μ d c n (pc + 1) L (.int (x + y) :: st) σ Q) : WP Γ μ d c n (pc) L (.int y :: .int x :: st) σ Q := by
  intro p e s m args below meth cd mc ms H locs cells slots ls hC hR hS hc hn hl
  exact lv_iadd hC.1 hC.2.1 hd (k p e s m args below meth cd mc ms H locs cells slots ls hC hR hS hc hn hl)
theorem wp_isub {Γ : Gm} {μ : Mth} {d c n pc : Nat} {L : List (Option Value)} {st : List Value} {σ : St} {Q : Option Value → St → Prop} {x y : Int32} (hd : decode (mcode μ) pc = .ok (.isub, 1)) (k : WP Γ μ d c n (pc + 1) L (.int (x - y) :: st) σ Q) : WP Γ μ d c n (pc) L (.int y :: .int x :: st) σ Q := by
  intro p e s m args below meth cd mc ms H locs cells slots ls hC hR hS hc hn hl
  exact lv_isub hC.1 hC.2.1 hd (k p e s m args below meth cd mc ms H locs cells slots ls hC hR hS hc hn hl)
theorem wp_imul {Γ : Gm} {μ : Mth} {d c n pc : Nat} {L : List (Option Value)} {st : List Value} {σ : St} {Q : Option Value → St → Prop} {x y : Int32} (hd : decode (mcode μ) pc = .ok (.imul, 1)) (k : WP Γ μ d c n (pc + 1) L (.int (x * y) :: st) σ Q) : WP Γ μ d c n (pc) L (.int y :: .int x :: st) σ Q := by
  intro p e s m args below meth cd mc ms H locs cells slots ls hC hR hS hc hn hl
  exact lv_imul hC.1 hC.2.1 hd (k p e s m args below meth cd mc ms H locs cells slots ls hC hR hS hc hn hl)
theorem wp_iand {Γ : Gm} {μ : Mth} {d c n pc : Nat} {L : List (Option Value)} {st : List Value} {σ : St} {Q : Option Value → St → Prop} {x y : Int32} (hd : decode (mcode μ) pc = .ok (.iand, 1)) (k : WP Γ μ d c n (pc + 1) L (.int (x &&& y) :: st) σ Q) : WP Γ μ d c n (pc) L (.int y :: .int x :: st) σ Q := by
  intro p e s m args below meth cd mc ms H locs cells slots ls hC hR hS hc hn hl
  exact lv_iand hC.1 hC.2.1 hd (k p e s m args below meth cd mc ms H locs cells slots ls hC hR hS hc hn hl)
theorem wp_ior {Γ : Gm} {μ : Mth} {d c n pc : Nat} {L : List (Option Value)} {st : List Value} {σ : St} {Q : Option Value → St → Prop} {x y : Int32} (hd : decode (mcode μ) pc = .ok (.ior, 1)) (k : WP Γ μ d c n (pc + 1) L (.int (x ||| y) :: st) σ Q) : WP Γ μ d c n (pc) L (.int y :: .int x :: st) σ Q := by
  intro p e s m args below meth cd mc ms H locs cells slots ls hC hR hS hc hn hl
  exact lv_ior hC.1 hC.2.1 hd (k p e s m args below meth cd mc ms H locs cells slots ls hC hR hS hc hn hl)
theorem wp_ixor {Γ : Gm} {μ : Mth} {d c n pc : Nat} {L : List (Option Value)} {st : List Value} {σ : St} {Q : Option Value → St → Prop} {x y : Int32} (hd : decode (mcode μ) pc = .ok (.ixor, 1)) (k : WP Γ μ d c n (pc + 1) L (.int (x ^^^ y) :: st) σ Q) : WP Γ μ d c n (pc) L (.int y :: .int x :: st) σ Q := by
  intro p e s m args below meth cd mc ms H locs cells slots ls hC hR hS hc hn hl
  exact lv_ixor hC.1 hC.2.1 hd (k p e s m args below meth cd mc ms H locs cells slots ls hC hR hS hc hn hl)
theorem wp_ishl {Γ : Gm} {μ : Mth} {d c n pc : Nat} {L : List (Option Value)} {st : List Value} {σ : St} {Q : Option Value → St → Prop} {x y : Int32} (hd : decode (mcode μ) pc = .ok (.ishl, 1)) (k : WP Γ μ d c n (pc + 1) L (.int (x <<< (y &&& 31)) :: st) σ Q) : WP Γ μ d c n (pc) L (.int y :: .int x :: st) σ Q := by
  intro p e s m args below meth cd mc ms H locs cells slots ls hC hR hS hc hn hl
  exact lv_ishl hC.1 hC.2.1 hd (k p e s m args below meth cd mc ms H locs cells slots ls hC hR hS hc hn hl)
theorem wp_ishr {Γ : Gm} {μ : Mth} {d c n pc : Nat} {L : List (Option Value)} {st : List Value} {σ : St} {Q : Option Value → St → Prop} {x y : Int32} (hd : decode (mcode μ) pc = .ok (.ishr, 1)) (k : WP Γ μ d c n (pc + 1) L (.int (x >>> (y &&& 31)) :: st) σ Q) : WP Γ μ d c n (pc) L (.int y :: .int x :: st) σ Q := by
  intro p e s m args below meth cd mc ms H locs cells slots ls hC hR hS hc hn hl
  exact lv_ishr hC.1 hC.2.1 hd (k p e s m args below meth cd mc ms H locs cells slots ls hC hR hS hc hn hl)
theorem wp_idiv {Γ : Gm} {μ : Mth} {d c n pc : Nat} {L : List (Option Value)} {st : List Value} {σ : St} {Q : Option Value → St → Prop} {x y : Int32} (hd : decode (mcode μ) pc = .ok (.idiv, 1)) (hy : ¬ y = 0) (k : WP Γ μ d c n (pc + 1) L (.int (x / y) :: st) σ Q) : WP Γ μ d c n (pc) L (.int y :: .int x :: st) σ Q := by
  intro p e s m args below meth cd mc ms H locs cells slots ls hC hR hS hc hn hl
  exact lv_idiv hC.1 hC.2.1 hd hy (k p e s m args below meth cd mc ms H locs cells slots ls hC hR hS hc hn hl)
theorem wp_irem {Γ : Gm} {μ : Mth} {d c n pc : Nat} {L : List (Option Value)} {st : List Value} {σ : St} {Q : Option Value → St → Prop} {x y : Int32} (hd : decode (mcode μ) pc = .ok (.irem, 1)) (hy : ¬ y = 0) (k : WP Γ μ d c n (pc + 1) L (.int (x - x / y * y) :: st) σ Q) : WP Γ μ d c n (pc) L (.int y :: .int x :: st) σ Q := by
  intro p e s m args below meth cd mc ms H locs cells slots ls hC hR hS hc hn hl
  exact lv_irem hC.1 hC.2.1 hd hy (k p e s m args below meth cd mc ms H locs cells slots ls hC hR hS hc hn hl)
theorem wp_ineg {Γ : Gm} {μ : Mth} {d c n pc : Nat} {L : List (Option Value)} {st : List Value} {σ : St} {Q : Option Value → St → Prop} {x : Int32} (hd : decode (mcode μ) pc = .ok (.ineg, 1)) (k : WP Γ μ d c n (pc + 1) L (.int (-x) :: st) σ Q) : WP Γ μ d c n (pc) L (.int x :: st) σ Q := by
  intro p e s m args below meth cd mc ms H locs cells slots ls hC hR hS hc hn hl
  exact lv_ineg hC.1 hC.2.1 hd (k p e s m args below meth cd mc ms H locs cells slots ls hC hR hS hc hn hl)
theorem wp_i2b {Γ : Gm} {μ : Mth} {d c n pc : Nat} {L : List (Option Value)} {st : List Value} {σ : St} {Q : Option Value → St → Prop} {x : Int32} (hd : decode (mcode μ) pc = .ok (.i2b, 1)) (k : WP Γ μ d c n (pc + 1) L (.int x.toInt8.toInt32 :: st) σ Q) : WP Γ μ d c n (pc) L (.int x :: st) σ Q := by
  intro p e s m args below meth cd mc ms H locs cells slots ls hC hR hS hc hn hl
  exact lv_i2b hC.1 hC.2.1 hd rfl (k p e s m args below meth cd mc ms H locs cells slots ls hC hR hS hc hn hl)
theorem wp_iushr {Γ : Gm} {μ : Mth} {d c n pc : Nat} {L : List (Option Value)} {st : List Value} {σ : St} {Q : Option Value → St → Prop} {x y : Int32} (hd : decode (mcode μ) pc = .ok (.iushr, 1)) (k : WP Γ μ d c n (pc + 1) L (.int ((x.toUInt32 >>> (y.toUInt32 &&& Int32.toUInt32 31)).toInt32) :: st) σ Q) : WP Γ μ d c n (pc) L (.int y :: .int x :: st) σ Q := by
  intro p e s m args below meth cd mc ms H locs cells slots ls hC hR hS hc hn hl
  exact lv_iushr hC.1 hC.2.1 hd rfl (k p e s m args below meth cd mc ms H locs cells slots ls hC hR hS hc hn hl)
theorem wp_dup {Γ : Gm} {μ : Mth} {d c n pc : Nat} {L : List (Option Value)} {st : List Value} {σ : St} {Q : Option Value → St → Prop} {v : Value} (hd : decode (mcode μ) pc = .ok (.dup, 1)) (hv : v.category = 1) (k : WP Γ μ d c n (pc + 1) L (v :: v :: st) σ Q) : WP Γ μ d c n (pc) L (v :: st) σ Q := by
  intro p e s m args below meth cd mc ms H locs cells slots ls hC hR hS hc hn hl
  exact lv_dup hC.1 hC.2.1 hd hv (k p e s m args below meth cd mc ms H locs cells slots ls hC hR hS hc hn hl)
theorem wp_dup2 {Γ : Gm} {μ : Mth} {d c n pc : Nat} {L : List (Option Value)} {st : List Value} {σ : St} {Q : Option Value → St → Prop} {v w : Value} (hd : decode (mcode μ) pc = .ok (.dup2, 1)) (hv : v.category = 1) (hw : w.category = 1) (k : WP Γ μ d c n (pc + 1) L (v :: w :: v :: w :: st) σ Q) : WP Γ μ d c n (pc) L (v :: w :: st) σ Q := by
  intro p e s m args below meth cd mc ms H locs cells slots ls hC hR hS hc hn hl
  exact lv_dup2_11 hC.1 hC.2.1 hd hv hw (k p e s m args below meth cd mc ms H locs cells slots ls hC hR hS hc hn hl)
theorem wp_pop {Γ : Gm} {μ : Mth} {d c n pc : Nat} {L : List (Option Value)} {st : List Value} {σ : St} {Q : Option Value → St → Prop} {v : Value} (hd : decode (mcode μ) pc = .ok (.pop, 1)) (hv : v.category = 1) (k : WP Γ μ d c n (pc + 1) L st σ Q) : WP Γ μ d c n (pc) L (v :: st) σ Q := by
  intro p e s m args below meth cd mc ms H locs cells slots ls hC hR hS hc hn hl
  exact lv_pop hC.1 hC.2.1 hd hv (k p e s m args below meth cd mc ms H locs cells slots ls hC hR hS hc hn hl)
theorem wp_goto {Γ : Gm} {μ : Mth} {d c n pc : Nat} {L : List (Option Value)} {st : List Value} {σ : St} {Q : Option Value → St → Prop} {off : Int} (hd : decode (mcode μ) pc = .ok (.goto off, 3)) (tgt : Nat) (ht : (pc : Int) + off = (tgt : Int)) (k : WP Γ μ d c n (tgt) L st σ Q) : WP Γ μ d c n (pc) L st σ Q := by
  intro p e s m args below meth cd mc ms H locs cells slots ls hC hR hS hc hn hl
  exact lv_goto hC.1 hC.2.1 hd ht (k p e s m args below meth cd mc ms H locs cells slots ls hC hR hS hc hn hl)
theorem wp_icmp_eq {Γ : Gm} {μ : Mth} {d c n pc : Nat} {L : List (Option Value)} {st : List Value} {σ : St} {Q : Option Value → St → Prop} {x y : Int32} {off : Int} (hd : decode (mcode μ) pc = .ok (.if_icmp .eq off, 3)) (tgt : Nat) (ht : (pc : Int) + off = (tgt : Int)) (kt : x = y → WP Γ μ d c n (tgt) L st σ Q) (kf : ¬ x = y → WP Γ μ d c n (pc + 3) L st σ Q) : WP Γ μ d c n (pc) L (.int y :: .int x :: st) σ Q := by
  intro p e s m args below meth cd mc ms H locs cells slots ls hC hR hS hc hn hl
  exact lv_icmp_eq hC.1 hC.2.1 hd ht (fun q => kt q p e s m args below meth cd mc ms H locs cells slots ls hC hR hS hc hn hl) (fun q => kf q p e s m args below meth cd mc ms H locs cells slots ls hC hR hS hc hn hl)
theorem wp_if_eq {Γ : Gm} {μ : Mth} {d c n pc : Nat} {L : List (Option Value)} {st : List Value} {σ : St} {Q : Option Value → St → Prop} {x : Int32} {off : Int} (hd : decode (mcode μ) pc = .ok (.ifCond .eq off, 3)) (tgt : Nat) (ht : (pc : Int) + off = (tgt : Int)) (kt : x = 0 → WP Γ μ d c n (tgt) L st σ Q) (kf : ¬ x = 0 → WP Γ μ d c n (pc + 3) L st σ Q) : WP Γ μ d c n (pc) L (.int x :: st) σ Q := by
  intro p e s m args below meth cd mc ms H locs cells slots ls hC hR hS hc hn hl
  exact lv_if_eq hC.1 hC.2.1 hd ht (fun q => kt q p e s m args below meth cd mc ms H locs cells slots ls hC hR hS hc hn hl) (fun q => kf q p e s m args below meth cd mc ms H locs cells slots ls hC hR hS hc hn hl)
theorem wp_icmp_ne {Γ : Gm} {μ : Mth} {d c n pc : Nat} {L : List (Option Value)} {st : List Value} {σ : St} {Q : Option Value → St → Prop} {x y : Int32} {off : Int} (hd : decode (mcode μ) pc = .ok (.if_icmp .ne off, 3)) (tgt : Nat) (ht : (pc : Int) + off = (tgt : Int)) (kt : ¬ x = y → WP Γ μ d c n (tgt) L st σ Q) (kf : x = y → WP Γ μ d c n (pc + 3) L st σ Q) : WP Γ μ d c n (pc) L (.int y :: .int x :: st) σ Q := by
  intro p e s m args below meth cd mc ms H locs cells slots ls hC hR hS hc hn hl
  exact lv_icmp_ne hC.1 hC.2.1 hd ht (fun q => kt q p e s m args below meth cd mc ms H locs cells slots ls hC hR hS hc hn hl) (fun q => kf q p e s m args below meth cd mc ms H locs cells slots ls hC hR hS hc hn hl)
theorem wp_if_ne {Γ : Gm} {μ : Mth} {d c n pc : Nat} {L : List (Option Value)} {st : List Value} {σ : St} {Q : Option Value → St → Prop} {x : Int32} {off : Int} (hd : decode (mcode μ) pc = .ok (.ifCond .ne off, 3)) (tgt : Nat) (ht : (pc : Int) + off = (tgt : Int)) (kt : ¬ x = 0 → WP Γ μ d c n (tgt) L st σ Q) (kf : x = 0 → WP Γ μ d c n (pc + 3) L st σ Q) : WP Γ μ d c n (pc) L (.int x :: st) σ Q := by
  intro p e s m args below meth cd mc ms H locs cells slots ls hC hR hS hc hn hl
  exact lv_if_ne hC.1 hC.2.1 hd ht (fun q => kt q p e s m args below meth cd mc ms H locs cells slots ls hC hR hS hc hn hl) (fun q => kf q p e s m args below meth cd mc ms H locs cells slots ls hC hR hS hc hn hl)
theorem wp_icmp_lt {Γ : Gm} {μ : Mth} {d c n pc : Nat} {L : List (Option Value)} {st : List Value} {σ : St} {Q : Option Value → St → Prop} {x y : Int32} {off : Int} (hd : decode (mcode μ) pc = .ok (.if_icmp .lt off, 3)) (tgt : Nat) (ht : (pc : Int) + off = (tgt : Int)) (kt : x < y → WP Γ μ d c n (tgt) L st σ Q) (kf : ¬ x < y → WP Γ μ d c n (pc + 3) L st σ Q) : WP Γ μ d c n (pc) L (.int y :: .int x :: st) σ Q := by
  intro p e s m args below meth cd mc ms H locs cells slots ls hC hR hS hc hn hl
  exact lv_icmp_lt hC.1 hC.2.1 hd ht (fun q => kt q p e s m args below meth cd mc ms H locs cells slots ls hC hR hS hc hn hl) (fun q => kf q p e s m args below meth cd mc ms H locs cells slots ls hC hR hS hc hn hl)
theorem wp_if_lt {Γ : Gm} {μ : Mth} {d c n pc : Nat} {L : List (Option Value)} {st : List Value} {σ : St} {Q : Option Value → St → Prop} {x : Int32} {off : Int} (hd : decode (mcode μ) pc = .ok (.ifCond .lt off, 3)) (tgt : Nat) (ht : (pc : Int) + off = (tgt : Int)) (kt : x < 0 → WP Γ μ d c n (tgt) L st σ Q) (kf : ¬ x < 0 → WP Γ μ d c n (pc + 3) L st σ Q) : WP Γ μ d c n (pc) L (.int x :: st) σ Q := by
  intro p e s m args below meth cd mc ms H locs cells slots ls hC hR hS hc hn hl
  exact lv_if_lt hC.1 hC.2.1 hd ht (fun q => kt q p e s m args below meth cd mc ms H locs cells slots ls hC hR hS hc hn hl) (fun q => kf q p e s m args below meth cd mc ms H locs cells slots ls hC hR hS hc hn hl)
theorem wp_icmp_ge {Γ : Gm} {μ : Mth} {d c n pc : Nat} {L : List (Option Value)} {st : List Value} {σ : St} {Q : Option Value → St → Prop} {x y : Int32} {off : Int} (hd : decode (mcode μ) pc = .ok (.if_icmp .ge off, 3)) (tgt : Nat) (ht : (pc : Int) + off = (tgt : Int)) (kt : y ≤ x → WP Γ μ d c n (tgt) L st σ Q) (kf : ¬ y ≤ x → WP Γ μ d c n (pc + 3) L st σ Q) : WP Γ μ d c n (pc) L (.int y :: .int x :: st) σ Q := by
  intro p e s m args below meth cd mc ms H locs cells slots ls hC hR hS hc hn hl
  exact lv_icmp_ge hC.1 hC.2.1 hd ht (fun q => kt q p e s m args below meth cd mc ms H locs cells slots ls hC hR hS hc hn hl) (fun q => kf q p e s m args below meth cd mc ms H locs cells slots ls hC hR hS hc hn hl)
theorem wp_if_ge {Γ : Gm} {μ : Mth} {d c n pc : Nat} {L : List (Option Value)} {st : List Value} {σ : St} {Q : Option Value → St → Prop} {x : Int32} {off : Int} (hd : decode (mcode μ) pc = .ok (.ifCond .ge off, 3)) (tgt : Nat) (ht : (pc : Int) + off = (tgt : Int)) (kt : 0 ≤ x → WP Γ μ d c n (tgt) L st σ Q) (kf : ¬ 0 ≤ x → WP Γ μ d c n (pc + 3) L st σ Q) : WP Γ μ d c n (pc) L (.int x :: st) σ Q := by
  intro p e s m args below meth cd mc ms H locs cells slots ls hC hR hS hc hn hl
  exact lv_if_ge hC.1 hC.2.1 hd ht (fun q => kt q p e s m args below meth cd mc ms H locs cells slots ls hC hR hS hc hn hl) (fun q => kf q p e s m args below meth cd mc ms H locs cells slots ls hC hR hS hc hn hl)
theorem wp_icmp_gt {Γ : Gm} {μ : Mth} {d c n pc : Nat} {L : List (Option Value)} {st : List Value} {σ : St} {Q : Option Value → St → Prop} {x y : Int32} {off : Int} (hd : decode (mcode μ) pc = .ok (.if_icmp .gt off, 3)) (tgt : Nat) (ht : (pc : Int) + off = (tgt : Int)) (kt : y < x → WP Γ μ d c n (tgt) L st σ Q) (kf : ¬ y < x → WP Γ μ d c n (pc + 3) L st σ Q) : WP Γ μ d c n (pc) L (.int y :: .int x :: st) σ Q := by
  intro p e s m args below meth cd mc ms H locs cells slots ls hC hR hS hc hn hl
  exact lv_icmp_gt hC.1 hC.2.1 hd ht (fun q => kt q p e s m args below meth cd mc ms H locs cells slots ls hC hR hS hc hn hl) (fun q => kf q p e s m args below meth cd mc ms H locs cells slots ls hC hR hS hc hn hl)
theorem wp_if_gt {Γ : Gm} {μ : Mth} {d c n pc : Nat} {L : List (Option Value)} {st : List Value} {σ : St} {Q : Option Value → St → Prop} {x : Int32} {off : Int} (hd : decode (mcode μ) pc = .ok (.ifCond .gt off, 3)) (tgt : Nat) (ht : (pc : Int) + off = (tgt : Int)) (kt : 0 < x → WP Γ μ d c n (tgt) L st σ Q) (kf : ¬ 0 < x → WP Γ μ d c n (pc + 3) L st σ Q) : WP Γ μ d c n (pc) L (.int x :: st) σ Q := by
  intro p e s m args below meth cd mc ms H locs cells slots ls hC hR hS hc hn hl
  exact lv_if_gt hC.1 hC.2.1 hd ht (fun q => kt q p e s m args below meth cd mc ms H locs cells slots ls hC hR hS hc hn hl) (fun q => kf q p e s m args below meth cd mc ms H locs cells slots ls hC hR hS hc hn hl)
theorem wp_icmp_le {Γ : Gm} {μ : Mth} {d c n pc : Nat} {L : List (Option Value)} {st : List Value} {σ : St} {Q : Option Value → St → Prop} {x y : Int32} {off : Int} (hd : decode (mcode μ) pc = .ok (.if_icmp .le off, 3)) (tgt : Nat) (ht : (pc : Int) + off = (tgt : Int)) (kt : x ≤ y → WP Γ μ d c n (tgt) L st σ Q) (kf : ¬ x ≤ y → WP Γ μ d c n (pc + 3) L st σ Q) : WP Γ μ d c n (pc) L (.int y :: .int x :: st) σ Q := by
  intro p e s m args below meth cd mc ms H locs cells slots ls hC hR hS hc hn hl
  exact lv_icmp_le hC.1 hC.2.1 hd ht (fun q => kt q p e s m args below meth cd mc ms H locs cells slots ls hC hR hS hc hn hl) (fun q => kf q p e s m args below meth cd mc ms H locs cells slots ls hC hR hS hc hn hl)
theorem wp_if_le {Γ : Gm} {μ : Mth} {d c n pc : Nat} {L : List (Option Value)} {st : List Value} {σ : St} {Q : Option Value → St → Prop} {x : Int32} {off : Int} (hd : decode (mcode μ) pc = .ok (.ifCond .le off, 3)) (tgt : Nat) (ht : (pc : Int) + off = (tgt : Int)) (kt : x ≤ 0 → WP Γ μ d c n (tgt) L st σ Q) (kf : ¬ x ≤ 0 → WP Γ μ d c n (pc + 3) L st σ Q) : WP Γ μ d c n (pc) L (.int x :: st) σ Q := by
  intro p e s m args below meth cd mc ms H locs cells slots ls hC hR hS hc hn hl
  exact lv_if_le hC.1 hC.2.1 hd ht (fun q => kt q p e s m args below meth cd mc ms H locs cells slots ls hC hR hS hc hn hl) (fun q => kf q p e s m args below meth cd mc ms H locs cells slots ls hC hR hS hc hn hl)
theorem wp_ifnullN {Γ : Gm} {μ : Mth} {d c n pc : Nat} {L : List (Option Value)} {st : List Value} {σ : St} {Q : Option Value → St → Prop} {off : Int} (hd : decode (mcode μ) pc = .ok (.ifnull off, 3)) (tgt : Nat) (ht : (pc : Int) + off = (tgt : Int)) (k : WP Γ μ d c n (tgt) L st σ Q) : WP Γ μ d c n (pc) L (.null :: st) σ Q := by
  intro p e s m args below meth cd mc ms H locs cells slots ls hC hR hS hc hn hl
  exact lv_ifnullN hC.1 hC.2.1 hd ht (k p e s m args below meth cd mc ms H locs cells slots ls hC hR hS hc hn hl)
theorem wp_ifnull {Γ : Gm} {μ : Mth} {d c n pc : Nat} {L : List (Option Value)} {st : List Value} {σ : St} {Q : Option Value → St → Prop} {x : Nat} {off : Int} (hd : decode (mcode μ) pc = .ok (.ifnull off, 3)) (k : WP Γ μ d c n (pc + 3) L st σ Q) : WP Γ μ d c n (pc) L (.ref x :: st) σ Q := by
  intro p e s m args below meth cd mc ms H locs cells slots ls hC hR hS hc hn hl
  exact lv_ifnull hC.1 hC.2.1 hd (k p e s m args below meth cd mc ms H locs cells slots ls hC hR hS hc hn hl)
theorem wp_ifnonnullN {Γ : Gm} {μ : Mth} {d c n pc : Nat} {L : List (Option Value)} {st : List Value} {σ : St} {Q : Option Value → St → Prop} {off : Int} (hd : decode (mcode μ) pc = .ok (.ifnonnull off, 3)) (k : WP Γ μ d c n (pc + 3) L st σ Q) : WP Γ μ d c n (pc) L (.null :: st) σ Q := by
  intro p e s m args below meth cd mc ms H locs cells slots ls hC hR hS hc hn hl
  exact lv_ifnonnullN hC.1 hC.2.1 hd (k p e s m args below meth cd mc ms H locs cells slots ls hC hR hS hc hn hl)
theorem wp_ifnonnull {Γ : Gm} {μ : Mth} {d c n pc : Nat} {L : List (Option Value)} {st : List Value} {σ : St} {Q : Option Value → St → Prop} {x : Nat} {off : Int} (hd : decode (mcode μ) pc = .ok (.ifnonnull off, 3)) (tgt : Nat) (ht : (pc : Int) + off = (tgt : Int)) (k : WP Γ μ d c n (tgt) L st σ Q) : WP Γ μ d c n (pc) L (.ref x :: st) σ Q := by
  intro p e s m args below meth cd mc ms H locs cells slots ls hC hR hS hc hn hl
  exact lv_ifnonnull hC.1 hC.2.1 hd ht (k p e s m args below meth cd mc ms H locs cells slots ls hC hR hS hc hn hl)
theorem wp_tableOut {Γ : Gm} {μ : Mth} {d c n pc : Nat} {L : List (Option Value)} {st : List Value} {σ : St} {Q : Option Value → St → Prop} {dflt lo hi : Int} {offs : Array Int} {len : Nat} {x : Int32} (hd : decode (mcode μ) pc = .ok (.tableswitch dflt lo hi offs, len)) (h : x.toInt < lo ∨ hi < x.toInt) (tgt : Nat) (ht : (pc : Int) + dflt = (tgt : Int)) (k : WP Γ μ d c n (tgt) L st σ Q) : WP Γ μ d c n (pc) L (.int x :: st) σ Q := by
  intro p e s m args below meth cd mc ms H locs cells slots ls hC hR hS hc hn hl
  exact lv_tableOut hC.1 hC.2.1 hd h ht (k p e s m args below meth cd mc ms H locs cells slots ls hC hR hS hc hn hl)
theorem wp_tableIn {Γ : Gm} {μ : Mth} {d c n pc : Nat} {L : List (Option Value)} {st : List Value} {σ : St} {Q : Option Value → St → Prop} {dflt lo hi : Int} {offs : Array Int} {len : Nat} {x : Int32} {off : Int} (hd : decode (mcode μ) pc = .ok (.tableswitch dflt lo hi offs, len)) (h1 : ¬ x.toInt < lo) (h2 : ¬ hi < x.toInt) (ho : offs[(x.toInt - lo).toNat]? = some off) (tgt : Nat) (ht : (pc : Int) + off = (tgt : Int)) (k : WP Γ μ d c n (tgt) L st σ Q) : WP Γ μ d c n (pc) L (.int x :: st) σ Q := by
  intro p e s m args below meth cd mc ms H locs cells slots ls hC hR hS hc hn hl
  exact lv_tableIn hC.1 hC.2.1 hd h1 h2 ho ht (k p e s m args below meth cd mc ms H locs cells slots ls hC hR hS hc hn hl)
theorem wp_lookup {Γ : Gm} {μ : Mth} {d c n pc : Nat} {L : List (Option Value)} {st : List Value} {σ : St} {Q : Option Value → St → Prop} {dflt : Int} {ps : Array (Int × Int)} {len : Nat} {x : Int32} {off : Int} (hd : decode (mcode μ) pc = .ok (.lookupswitch dflt ps, len)) (hp : (ps.toList.zip (ps.toList.drop 1)).all (fun (a, next) => a.1 < next.1) = true) (ho : Op.lookupswitch.offset ps.toList dflt x.toInt = off) (tgt : Nat) (ht : (pc : Int) + off = (tgt : Int)) (k : WP Γ μ d c n (tgt) L st σ Q) : WP Γ μ d c n (pc) L (.int x :: st) σ Q := by
  intro p e s m args below meth cd mc ms H locs cells slots ls hC hR hS hc hn hl
  exact lv_lookup hC.1 hC.2.1 hd hp ho ht (k p e s m args below meth cd mc ms H locs cells slots ls hC hR hS hc hn hl)
theorem wp_icmp_eqN {Γ : Gm} {μ : Mth} {d c n pc : Nat} {L : List (Option Value)} {st : List Value} {σ : St} {Q : Option Value → St → Prop} {x y : Int32} {off : Int} (hd : decode (mcode μ) pc = .ok (.if_icmp .eq off, 3)) (tgt : Nat) (ht : (pc : Int) + off = (tgt : Int)) (a b : Nat) (hx : x = nI a) (hy : y = nI b) (ha : a < 2147483648) (hb : b < 2147483648) (kt : a = b → WP Γ μ d c n (tgt) L st σ Q) (kf : a ≠ b → WP Γ μ d c n (pc + 3) L st σ Q) : WP Γ μ d c n (pc) L (.int y :: .int x :: st) σ Q := by
  subst hx hy
  exact wp_icmp_eq hd tgt ht (fun q => kt ((nI_eq ha hb).mp q)) (fun q => kf (fun r => q ((nI_eq ha hb).mpr r)))
theorem wp_icmp_neN {Γ : Gm} {μ : Mth} {d c n pc : Nat} {L : List (Option Value)} {st : List Value} {σ : St} {Q : Option Value → St → Prop} {x y : Int32} {off : Int} (hd : decode (mcode μ) pc = .ok (.if_icmp .ne off, 3)) (tgt : Nat) (ht : (pc : Int) + off = (tgt : Int)) (a b : Nat) (hx : x = nI a) (hy : y = nI b) (ha : a < 2147483648) (hb : b < 2147483648) (kt : a ≠ b → WP Γ μ d c n (tgt) L st σ Q) (kf : a = b → WP Γ μ d c n (pc + 3) L st σ Q) : WP Γ μ d c n (pc) L (.int y :: .int x :: st) σ Q := by
  subst hx hy
  exact wp_icmp_ne hd tgt ht (fun q => kt (fun r => q ((nI_eq ha hb).mpr r))) (fun q => kf ((nI_eq ha hb).mp q))
theorem wp_icmp_ltN {Γ : Gm} {μ : Mth} {d c n pc : Nat} {L : List (Option Value)} {st : List Value} {σ : St} {Q : Option Value → St → Prop} {x y : Int32} {off : Int} (hd : decode (mcode μ) pc = .ok (.if_icmp .lt off, 3)) (tgt : Nat) (ht : (pc : Int) + off = (tgt : Int)) (a b : Nat) (hx : x = nI a) (hy : y = nI b) (ha : a < 2147483648) (hb : b < 2147483648) (kt : a < b → WP Γ μ d c n (tgt) L st σ Q) (kf : b ≤ a → WP Γ μ d c n (pc + 3) L st σ Q) : WP Γ μ d c n (pc) L (.int y :: .int x :: st) σ Q := by
  subst hx hy
  exact wp_icmp_lt hd tgt ht (fun q => kt ((nI_ltI ha hb).mp q)) (fun q => kf (Nat.not_lt.mp (fun r => q ((nI_ltI ha hb).mpr r))))
theorem wp_icmp_geN {Γ : Gm} {μ : Mth} {d c n pc : Nat} {L : List (Option Value)} {st : List Value} {σ : St} {Q : Option Value → St → Prop} {x y : Int32} {off : Int} (hd : decode (mcode μ) pc = .ok (.if_icmp .ge off, 3)) (tgt : Nat) (ht : (pc : Int) + off = (tgt : Int)) (a b : Nat) (hx : x = nI a) (hy : y = nI b) (ha : a < 2147483648) (hb : b < 2147483648) (kt : b ≤ a → WP Γ μ d c n (tgt) L st σ Q) (kf : a < b → WP Γ μ d c n (pc + 3) L st σ Q) : WP Γ μ d c n (pc) L (.int y :: .int x :: st) σ Q := by
  subst hx hy
  exact wp_icmp_ge hd tgt ht (fun q => kt ((nI_leI hb ha).mp q)) (fun q => kf (Nat.not_le.mp (fun r => q ((nI_leI hb ha).mpr r))))
theorem wp_icmp_gtN {Γ : Gm} {μ : Mth} {d c n pc : Nat} {L : List (Option Value)} {st : List Value} {σ : St} {Q : Option Value → St → Prop} {x y : Int32} {off : Int} (hd : decode (mcode μ) pc = .ok (.if_icmp .gt off, 3)) (tgt : Nat) (ht : (pc : Int) + off = (tgt : Int)) (a b : Nat) (hx : x = nI a) (hy : y = nI b) (ha : a < 2147483648) (hb : b < 2147483648) (kt : b < a → WP Γ μ d c n (tgt) L st σ Q) (kf : a ≤ b → WP Γ μ d c n (pc + 3) L st σ Q) : WP Γ μ d c n (pc) L (.int y :: .int x :: st) σ Q := by
  subst hx hy
  exact wp_icmp_gt hd tgt ht (fun q => kt ((nI_ltI hb ha).mp q)) (fun q => kf (Nat.not_lt.mp (fun r => q ((nI_ltI hb ha).mpr r))))
theorem wp_icmp_leN {Γ : Gm} {μ : Mth} {d c n pc : Nat} {L : List (Option Value)} {st : List Value} {σ : St} {Q : Option Value → St → Prop} {x y : Int32} {off : Int} (hd : decode (mcode μ) pc = .ok (.if_icmp .le off, 3)) (tgt : Nat) (ht : (pc : Int) + off = (tgt : Int)) (a b : Nat) (hx : x = nI a) (hy : y = nI b) (ha : a < 2147483648) (hb : b < 2147483648) (kt : a ≤ b → WP Γ μ d c n (tgt) L st σ Q) (kf : b < a → WP Γ μ d c n (pc + 3) L st σ Q) : WP Γ μ d c n (pc) L (.int y :: .int x :: st) σ Q := by
  subst hx hy
  exact wp_icmp_le hd tgt ht (fun q => kt ((nI_leI ha hb).mp q)) (fun q => kf (Nat.not_le.mp (fun r => q ((nI_leI ha hb).mpr r))))
theorem wp_top {Γ : Gm} {μ : Mth} {d c n pc : Nat} {L : List (Option Value)} {st : List Value} {σ : St} {Q : Option Value → St → Prop} {x y : Int32} (h : x = y) (k : WP Γ μ d c n (pc) L (.int y :: st) σ Q) : WP Γ μ d c n (pc) L (.int x :: st) σ Q := by subst h; exact k
theorem WP.cast {Γ : Gm} {μ : Mth} {d c n pc : Nat} {L : List (Option Value)} {st : List Value} {σ : St} {Q : Option Value → St → Prop} {L' : List (Option Value)} (h : L = L') (k : WP Γ μ d c n pc L' st σ Q) : WP Γ μ d c n pc L st σ Q := by subst h; exact k
theorem WP.castS {Γ : Gm} {μ : Mth} {d c n pc : Nat} {L : List (Option Value)} {st : List Value} {σ : St} {Q : Option Value → St → Prop} {τ : St} (h : σ = τ) (k : WP Γ μ d c n pc L st τ Q) : WP Γ μ d c n pc L st σ Q := by subst h; exact k
/-- the number on top gets a name -/
theorem wp_name {Γ : Gm} {μ : Mth} {d c n pc : Nat} {L : List (Option Value)} {st : List Value} {σ : St} {Q : Option Value → St → Prop} {x : Int32} (k : ∀ y : Int32, y = x → WP Γ μ d c n (pc) L (.int y :: st) σ Q) : WP Γ μ d c n (pc) L (.int x :: st) σ Q := k x rfl
theorem lit_nI (n : Nat) : (OfNat.ofNat n : Int32) = nI n := rfl
