set_option maxRecDepth 100000
/-- an array's contents with one place changed -/
def z_upV (f : Nat → Value) (j : Nat) (v : Value) : Nat → Value := fun k => if k = j then v else f k
def z_upI (f : Nat → Int) (j : Nat) (v : Int) : Nat → Int := fun k => if k = j then v else f k
/-- an array of whole numbers -/
def z_ints (f : Nat → Int) : Nat → Value := fun j => .int (zi (f j))
theorem z_upV_ints (f : Nat → Int) (j : Nat) (v : Int) : z_upV (z_ints f) j (.int (zi v)) = z_ints (z_upI f j v) := by
  funext k
  unfold z_upV z_ints z_upI
  by_cases h : k = j
  · rw [if_pos h, if_pos h]
  · rw [if_neg h, if_neg h]
theorem z_upI_s {f : Nat → Int} {j : Nat} {v : Int} : z_upI f j v j = v := by simp [z_upI]
theorem z_upI_n {f : Nat → Int} {j k : Nat} {v : Int} (h : k ≠ j) : z_upI f j v k = f k := by simp [z_upI, h]
theorem z_upV_s {f : Nat → Value} {j : Nat} {v : Value} : z_upV f j v j = v := by simp [z_upV]
theorem z_upV_n {f : Nat → Value} {j k : Nat} {v : Value} (h : k ≠ j) : z_upV f j v k = f k := by simp [z_upV, h]
section ZAA
variable {G : State} {M : zMd} {d rc rs pc : Nat} {ls : List (Option Value)} {st : List Value} {ah : zH} {Q : zRs → zH → Prop}
theorem z_inN {i : Int} {n m : Nat} (hi : 0 ≤ i ∧ i < n) (hm : n ≤ m) (hb : n ≤ 2147483647) : ¬ (zi i < 0 ∨ m ≤ (zi i).toNatClampNeg) := zi_in hi.1 (by omega) (by omega)
theorem z_clampN {i : Int} {n : Nat} (hi : 0 ≤ i ∧ i < n) (hb : n ≤ 2147483647) : (zi i).toNatClampNeg = i.toNat := zi_clamp hi.1 (by omega)
theorem zr_alen {a n : Nat} {ty : FieldType} {f : Nat → Value} (hd : decode M.2.1 pc = .ok (.arraylength, 1)) (h : zAr G ah a ty n f) (k : zW G M d rc rs (pc + 1) ls (.int (zi n) :: st) ah Q) : zW G M d rc rs pc ls (.ref a :: st) ah Q := by
  intro p l e R s m args below meth c H locs cells slots C hR hP hS L hL
  obtain ⟨cell, h1, h2, h3, h4, h5, h6⟩ := h.cell C hP hS
  exact W.alen C.x C.b h1 h2 (by rw [h5]; rfl) rfl rfl hd (k p l e R s m args below meth c H locs cells slots C hR hP hS L hL)
/-- what a store into an array leaves -/
theorem z_setA {H' : Heap} {a n j : Nat} {ty : FieldType} {f : Nat → Value} {cell : Cell} {v : Value} (h2 : cell.vm = .none) (h3 : ArrOfT G cell.cls ty ∧ va_RA G cell.cls ty) (h4 : cell.slots.size = n) (h5 : ∀ j : Nat, j < n → cell.slots[j]? = some (f j)) (hj : j < n) (e1 : H'[a]? = some (cell.setSlot j v)) : zAt G a (.inr (ty, n, z_upV f j v)) H' := by
  refine ⟨_, e1, h2, h3, by simpa [Cell.setSlot] using h4, fun k hk => ?_⟩
  by_cases e : k = j
  · subst e
    rw [z_upV_s]
    simp [Cell.setSlot, h4, hk]
  · rw [z_upV_n e, slot_ne cell v (Ne.symm e)]
    exact h5 k hk
theorem zr_iaload {a n : Nat} {f : Nat → Value} {i : Int} {v : Value} (hd : decode M.2.1 pc = .ok (.iaload, 1)) (h : zAr G ah a .int n f) (hb : n ≤ 2147483647) (hi : 0 ≤ i ∧ i < n) (hv : f i.toNat = v) (k : zW G M d rc rs (pc + 1) ls (v :: st) ah Q) : zW G M d rc rs pc ls (.int (zi i) :: .ref a :: st) ah Q := by
  intro p l e R s m args below meth c H locs cells slots C hR hP hS L hL
  obtain ⟨cell, h1, h2, h3, h4, h5, h6⟩ := h.cell C hP hS
  exact W.iald C.x C.b h1 h2 h3 (z_inN hi h4 hb) (by rw [z_clampN hi hb, h6 _ (by omega), hv]) rfl rfl hd (k p l e R s m args below meth c H locs cells slots C hR hP hS L hL)
theorem zr_caload {a n : Nat} {f : Nat → Value} {i : Int} {v : Value} (hd : decode M.2.1 pc = .ok (.caload, 1)) (h : zAr G ah a .char n f) (hb : n ≤ 2147483647) (hi : 0 ≤ i ∧ i < n) (hv : f i.toNat = v) (k : zW G M d rc rs (pc + 1) ls (v :: st) ah Q) : zW G M d rc rs pc ls (.int (zi i) :: .ref a :: st) ah Q := by
  intro p l e R s m args below meth c H locs cells slots C hR hP hS L hL
  obtain ⟨cell, h1, h2, h3, h4, h5, h6⟩ := h.cell C hP hS
  exact W.cald C.x C.b h1 h2 h3 (z_inN hi h4 hb) (by rw [z_clampN hi hb, h6 _ (by omega), hv]) rfl rfl hd (k p l e R s m args below meth c H locs cells slots C hR hP hS L hL)
theorem zr_baload {a n : Nat} {f : Nat → Value} {i : Int} {v : Value} (hd : decode M.2.1 pc = .ok (.baload, 1)) (h : zAr G ah a .byte n f) (hb : n ≤ 2147483647) (hi : 0 ≤ i ∧ i < n) (hv : f i.toNat = v) (k : zW G M d rc rs (pc + 1) ls (v :: st) ah Q) : zW G M d rc rs pc ls (.int (zi i) :: .ref a :: st) ah Q := by
  intro p l e R s m args below meth c H locs cells slots C hR hP hS L hL
  obtain ⟨cell, h1, h2, h3, h4, h5, h6⟩ := h.cell C hP hS
  exact W.bald C.x C.b h1 h2 h3 (z_inN hi h4 hb) (by rw [z_clampN hi hb, h6 _ (by omega), hv]) rfl rfl hd (k p l e R s m args below meth c H locs cells slots C hR hP hS L hL)
theorem zr_zaload {a n : Nat} {f : Nat → Value} {i : Int} {v : Value} (hd : decode M.2.1 pc = .ok (.baload, 1)) (h : zAr G ah a .boolean n f) (hb : n ≤ 2147483647) (hi : 0 ≤ i ∧ i < n) (hv : f i.toNat = v) (k : zW G M d rc rs (pc + 1) ls (v :: st) ah Q) : zW G M d rc rs pc ls (.int (zi i) :: .ref a :: st) ah Q := by
  intro p l e R s m args below meth c H locs cells slots C hR hP hS L hL
  obtain ⟨cell, h1, h2, h3, h4, h5, h6⟩ := h.cell C hP hS
  exact W.zald C.x C.b h1 h2 h3 (z_inN hi h4 hb) (by rw [z_clampN hi hb, h6 _ (by omega), hv]) rfl rfl hd (k p l e R s m args below meth c H locs cells slots C hR hP hS L hL)
theorem zr_laload {a n : Nat} {f : Nat → Value} {i : Int} {v : Value} (hd : decode M.2.1 pc = .ok (.laload, 1)) (h : zAr G ah a .long n f) (hb : n ≤ 2147483647) (hi : 0 ≤ i ∧ i < n) (hv : f i.toNat = v) (k : zW G M d rc rs (pc + 1) ls (v :: st) ah Q) : zW G M d rc rs pc ls (.int (zi i) :: .ref a :: st) ah Q := by
  intro p l e R s m args below meth c H locs cells slots C hR hP hS L hL
  obtain ⟨cell, h1, h2, h3, h4, h5, h6⟩ := h.cell C hP hS
  exact W.lald C.x C.b h1 h2 h3 (z_inN hi h4 hb) (by rw [z_clampN hi hb, h6 _ (by omega), hv]) rfl rfl hd (k p l e R s m args below meth c H locs cells slots C hR hP hS L hL)
theorem zr_daload {a n : Nat} {f : Nat → Value} {i : Int} {v : Value} (hd : decode M.2.1 pc = .ok (.daload, 1)) (h : zAr G ah a .double n f) (hb : n ≤ 2147483647) (hi : 0 ≤ i ∧ i < n) (hv : f i.toNat = v) (k : zW G M d rc rs (pc + 1) ls (v :: st) ah Q) : zW G M d rc rs pc ls (.int (zi i) :: .ref a :: st) ah Q := by
  intro p l e R s m args below meth c H locs cells slots C hR hP hS L hL
  obtain ⟨cell, h1, h2, h3, h4, h5, h6⟩ := h.cell C hP hS
  exact W.dald C.x C.b h1 h2 h3 (z_inN hi h4 hb) (by rw [z_clampN hi hb, h6 _ (by omega), hv]) rfl rfl hd (k p l e R s m args below meth c H locs cells slots C hR hP hS L hL)
theorem zr_aaload {a n : Nat} {ty : FieldType} {f : Nat → Value} {i : Int} {v : Value} (hd : decode M.2.1 pc = .ok (.aaload, 1)) (h : zAr G ah a ty n f) (hty : ty.isReference = true) (hb : n ≤ 2147483647) (hi : 0 ≤ i ∧ i < n) (hv : f i.toNat = v) (k : zW G M d rc rs (pc + 1) ls (v :: st) ah Q) : zW G M d rc rs pc ls (.int (zi i) :: .ref a :: st) ah Q := by
  intro p l e R s m args below meth c H locs cells slots C hR hP hS L hL
  obtain ⟨cell, h1, h2, h3, h4, h5, h6⟩ := h.cell C hP hS
  exact W.aald C.x C.b h1 h2 hty h3 (z_inN hi h4 hb) (by rw [z_clampN hi hb, h6 _ (by omega), hv]) rfl rfl hd (k p l e R s m args below meth c H locs cells slots C hR hP hS L hL)
theorem zr_iastore {a n : Nat} {f : Nat → Value} {i : Int} {x : Int32} (hd : decode M.2.1 pc = .ok (.iastore, 1)) (h : ah a = some (.inr (.int, n, f))) (hb : n ≤ 2147483647) (hi : 0 ≤ i ∧ i < n) (k : zW G M d rc rs (pc + 1) ls st (z_up ah a (.inr (.int, n, z_upV f i.toNat (.int x)))) Q) : zW G M d rc rs pc ls (.int x :: .int (zi i) :: .ref a :: st) ah Q := by
  intro p l e R s m args below meth c H locs cells slots C hR hP hS L hL
  obtain ⟨-, cell, h1, h2, h3, h4, h5⟩ := hP a _ h
  obtain ⟨cell', h1', g2, -⟩ := zAr.cell (Or.inl h) C hP hS
  obtain rfl : cell = cell' := Option.some.inj (h1.symm.trans h1')
  refine W.iast C.x C.b h1 g2 (by rw [h2]; exact (fun z => by cases z)) (z_inN hi (Nat.le_of_eq h4.symm) hb) rfl rfl hd (fun H' e1 e2 e3 => ?_)
  rw [z_clampN hi hb] at e1 ⊢
  obtain ⟨g1, g2⟩ := z_stored (i := i.toNat) hP h hS e2 e3 (z_setA h2 h3 h4 h5 (by omega) e1)
  exact k p l e R s m args below meth c H' _ cells slots C hR g1 g2 L hL
theorem zr_lastore {a n : Nat} {f : Nat → Value} {i : Int} {x : Int64} (hd : decode M.2.1 pc = .ok (.lastore, 1)) (h : ah a = some (.inr (.long, n, f))) (hb : n ≤ 2147483647) (hi : 0 ≤ i ∧ i < n) (k : zW G M d rc rs (pc + 1) ls st (z_up ah a (.inr (.long, n, z_upV f i.toNat (.long x)))) Q) : zW G M d rc rs pc ls (.long x :: .int (zi i) :: .ref a :: st) ah Q := by
  intro p l e R s m args below meth c H locs cells slots C hR hP hS L hL
  obtain ⟨-, cell, h1, h2, h3, h4, h5⟩ := hP a _ h
  obtain ⟨cell', h1', g2, -⟩ := zAr.cell (Or.inl h) C hP hS
  obtain rfl : cell = cell' := Option.some.inj (h1.symm.trans h1')
  refine W.last C.x C.b h1 g2 (by rw [h2]; exact (fun z => by cases z)) (z_inN hi (Nat.le_of_eq h4.symm) hb) rfl rfl hd (fun H' e1 e2 e3 => ?_)
  rw [z_clampN hi hb] at e1 ⊢
  obtain ⟨g1, g2⟩ := z_stored (i := i.toNat) hP h hS e2 e3 (z_setA h2 h3 h4 h5 (by omega) e1)
  exact k p l e R s m args below meth c H' _ cells slots C hR g1 g2 L hL
theorem zr_dastore {a n : Nat} {f : Nat → Value} {i : Int} {x : UInt64} (hd : decode M.2.1 pc = .ok (.dastore, 1)) (h : ah a = some (.inr (.double, n, f))) (hb : n ≤ 2147483647) (hi : 0 ≤ i ∧ i < n) (k : zW G M d rc rs (pc + 1) ls st (z_up ah a (.inr (.double, n, z_upV f i.toNat (.double x)))) Q) : zW G M d rc rs pc ls (.double x :: .int (zi i) :: .ref a :: st) ah Q := by
  intro p l e R s m args below meth c H locs cells slots C hR hP hS L hL
  obtain ⟨-, cell, h1, h2, h3, h4, h5⟩ := hP a _ h
  obtain ⟨cell', h1', g2, -⟩ := zAr.cell (Or.inl h) C hP hS
  obtain rfl : cell = cell' := Option.some.inj (h1.symm.trans h1')
  refine W.dast C.x C.b h1 g2 (by rw [h2]; exact (fun z => by cases z)) (z_inN hi (Nat.le_of_eq h4.symm) hb) rfl rfl hd (fun H' e1 e2 e3 => ?_)
  rw [z_clampN hi hb] at e1 ⊢
  obtain ⟨g1, g2⟩ := z_stored (i := i.toNat) hP h hS e2 e3 (z_setA h2 h3 h4 h5 (by omega) e1)
  exact k p l e R s m args below meth c H' _ cells slots C hR g1 g2 L hL
theorem zr_bastore {a n : Nat} {f : Nat → Value} {i : Int} {x : Int32} (hd : decode M.2.1 pc = .ok (.bastore, 1)) (h : ah a = some (.inr (.byte, n, f))) (hb : n ≤ 2147483647) (hi : 0 ≤ i ∧ i < n) (hn : narrow .byte (.int x) = .int x) (k : zW G M d rc rs (pc + 1) ls st (z_up ah a (.inr (.byte, n, z_upV f i.toNat (.int x)))) Q) : zW G M d rc rs pc ls (.int x :: .int (zi i) :: .ref a :: st) ah Q := by
  intro p l e R s m args below meth c H locs cells slots C hR hP hS L hL
  obtain ⟨-, cell, h1, h2, h3, h4, h5⟩ := hP a _ h
  obtain ⟨cell', h1', g2, -⟩ := zAr.cell (Or.inl h) C hP hS
  obtain rfl : cell = cell' := Option.some.inj (h1.symm.trans h1')
  refine W.bast C.x C.b h1 g2 (by rw [h2]; exact (fun z => by cases z)) (z_inN hi (Nat.le_of_eq h4.symm) hb) rfl rfl hd (fun H' e1 e2 e3 => ?_)
  rw [hn] at e1; rw [z_clampN hi hb] at e1 ⊢
  obtain ⟨g1, g2⟩ := z_stored (i := i.toNat) hP h hS e2 e3 (z_setA h2 h3 h4 h5 (by omega) e1)
  exact k p l e R s m args below meth c H' _ cells slots C hR g1 g2 L hL
theorem zr_zastore {a n : Nat} {f : Nat → Value} {i : Int} {x : Int32} (hd : decode M.2.1 pc = .ok (.bastore, 1)) (h : ah a = some (.inr (.boolean, n, f))) (hb : n ≤ 2147483647) (hi : 0 ≤ i ∧ i < n) (hn : narrow .boolean (.int x) = .int x) (k : zW G M d rc rs (pc + 1) ls st (z_up ah a (.inr (.boolean, n, z_upV f i.toNat (.int x)))) Q) : zW G M d rc rs pc ls (.int x :: .int (zi i) :: .ref a :: st) ah Q := by
  intro p l e R s m args below meth c H locs cells slots C hR hP hS L hL
  obtain ⟨-, cell, h1, h2, h3, h4, h5⟩ := hP a _ h
  obtain ⟨cell', h1', g2, -⟩ := zAr.cell (Or.inl h) C hP hS
  obtain rfl : cell = cell' := Option.some.inj (h1.symm.trans h1')
  refine W.zast C.x C.b h1 g2 (by rw [h2]; exact (fun z => by cases z)) (z_inN hi (Nat.le_of_eq h4.symm) hb) rfl rfl hd (fun H' e1 e2 e3 => ?_)
  rw [hn] at e1; rw [z_clampN hi hb] at e1 ⊢
  obtain ⟨g1, g2⟩ := z_stored (i := i.toNat) hP h hS e2 e3 (z_setA h2 h3 h4 h5 (by omega) e1)
  exact k p l e R s m args below meth c H' _ cells slots C hR g1 g2 L hL
theorem zr_castore {a n : Nat} {f : Nat → Value} {i : Int} {x : Int32} (hd : decode M.2.1 pc = .ok (.castore, 1)) (h : ah a = some (.inr (.char, n, f))) (hb : n ≤ 2147483647) (hi : 0 ≤ i ∧ i < n) (hn : narrow .char (.int x) = .int x) (k : zW G M d rc rs (pc + 1) ls st (z_up ah a (.inr (.char, n, z_upV f i.toNat (.int x)))) Q) : zW G M d rc rs pc ls (.int x :: .int (zi i) :: .ref a :: st) ah Q := by
  intro p l e R s m args below meth c H locs cells slots C hR hP hS L hL
  obtain ⟨-, cell, h1, h2, h3, h4, h5⟩ := hP a _ h
  obtain ⟨cell', h1', g2, -⟩ := zAr.cell (Or.inl h) C hP hS
  obtain rfl : cell = cell' := Option.some.inj (h1.symm.trans h1')
  refine W.cast C.x C.b h1 g2 (by rw [h2]; exact (fun z => by cases z)) (z_inN hi (Nat.le_of_eq h4.symm) hb) rfl rfl hd (fun H' e1 e2 e3 => ?_)
  rw [hn] at e1; rw [z_clampN hi hb] at e1 ⊢
  obtain ⟨g1, g2⟩ := z_stored (i := i.toNat) hP h hS e2 e3 (z_setA h2 h3 h4 h5 (by omega) e1)
  exact k p l e R s m args below meth c H' _ cells slots C hR g1 g2 L hL
theorem zr_aastoreN {a n : Nat} {E : String} {f : Nat → Value} {i : Int} (hd : decode M.2.1 pc = .ok (.aastore, 1)) (h : ah a = some (.inr (.object E, n, f))) (hb : n ≤ 2147483647) (hi : 0 ≤ i ∧ i < n) (k : zW G M d rc rs (pc + 1) ls st (z_up ah a (.inr (.object E, n, z_upV f i.toNat .null))) Q) : zW G M d rc rs pc ls (.null :: .int (zi i) :: .ref a :: st) ah Q := by
  intro p l e R s m args below meth c H locs cells slots C hR hP hS L hL
  obtain ⟨-, cell, h1, h2, h3, h4, h5⟩ := hP a _ h
  obtain ⟨cell', h1', g2, -⟩ := zAr.cell (Or.inl h) C hP hS
  obtain rfl : cell = cell' := Option.some.inj (h1.symm.trans h1')
  refine va_WaastN C.x C.b h1 g2 (by rw [h2]; exact (fun z => by cases z)) (z_inN hi (Nat.le_of_eq h4.symm) hb) rfl rfl hd (fun H' e1 e2 e3 => ?_)
  rw [z_clampN hi hb] at e1 ⊢
  obtain ⟨g1, g2⟩ := z_stored (i := i.toNat) hP h hS e2 e3 (z_setA h2 h3 h4 h5 (by omega) e1)
  exact k p l e R s m args below meth c H' _ cells slots C hR g1 g2 L hL
theorem zr_aastore {a b n : Nat} {E Cn : String} {f : Nat → Value} {i : Int} (hd : decode M.2.1 pc = .ok (.aastore, 1)) (h : ah a = some (.inr (.object E, n, f))) (hb : n ≤ 2147483647) (hi : 0 ≤ i ∧ i < n) (hr : zRc G ah b Cn) (hq : Cond.castable Cn E ∈ lw_tbl) (k : zW G M d rc rs (pc + 1) ls st (z_up ah a (.inr (.object E, n, z_upV f i.toNat (.ref b)))) Q) : zW G M d rc rs pc ls (.ref b :: .int (zi i) :: .ref a :: st) ah Q := by
  intro p l e R s m args below meth c H locs cells slots C hR hP hS L hL
  obtain ⟨-, cell, h1, h2, h3, h4, h5⟩ := hP a _ h
  obtain ⟨cv, q1, q2, q3⟩ := hr.cell C hP hS
  obtain ⟨kA, comp, r1, r2, r3, r4⟩ := h3.2.moved C.wo.1.alike
  have hin := z_inN (m := n) hi (Nat.le_refl _) hb
  obtain ⟨c0, t0, f1, f2, f3⟩ := Cond.castable_spec (va_Nw.use (A := args) rfl (z_castable C.tb C.wo.1 hq))
  cases q3.symm.trans f1
  cases r3.symm.trans f2
  obtain ⟨kv, hkv, -⟩ := Vm.findClass_spec q3
  obtain ⟨kc, hkc, -⟩ := Vm.findClass_spec r3
  refine W.aast C.x C.b h1 (by rw [h2]; exact (fun q z => by cases z)) (by rw [h2]; exact (fun z => by cases z)) r1 r2 rfl hkc ⟨fun z => hin (Or.inl z), ?_⟩ q1 (by intro q z; rw [z] at q2; cases q2) hkv f3 rfl rfl hd (fun H' e1 e2 e3 => ?_)
  · rw [z_clampN hi hb, h4]; omega
  rw [z_clampN hi hb] at e1 ⊢
  obtain ⟨g1, g2⟩ := z_stored (i := i.toNat) hP h hS e2 e3 (z_setA h2 h3 h4 h5 (by omega) e1)
  exact k p l e R s m args below meth c H' _ cells slots C hR g1 g2 L hL
/-- a cell that is new -/
theorem z_pushed {H : Heap} {s : State} {locs : List Loc} {cell : Cell} {o : zO} (hW : zWo G s) (hP : zRep G ah H) (hS : va_S (zA G) s.heap H locs) (ho : zAt G H.size o (H.push cell)) : ah H.size = none ∧ zRep G (z_up ah H.size o) (H.push cell) ∧ va_S (zA G) s.heap (H.push cell) locs := by
  have hfree : ah H.size = none := by
    cases hx : ah H.size with
    | none => rfl
    | some o => exact absurd (hP.lt hx) (Nat.lt_irrefl _)
  refine ⟨hfree, hP.upd (Nat.le_trans hW.2.1 hS.1) ho (fun q hq hl => by rw [Array.getElem?_push, if_neg hq]), ⟨by rw [Array.size_push]; have := hS.1; omega, fun q h1 h2 => ?_, hS.2.2⟩⟩
  rw [Array.getElem?_push, if_neg (by have := hS.1; omega)]
  exact hS.2.1 q h1 h2
theorem zr_newarray {at' : ArrayType} {ty : FieldType} {n : Int} (hd : decode M.2.1 pc = .ok (.newarray at', 2)) (hty : newarray.typeOf at' = ty) (hq : Cond.arrayClass ty ∈ lw_all) (hra : ∀ C, ty ≠ .object C) (hn : 0 ≤ n ∧ n ≤ 1000000) (hc : 1 ≤ rc) (hs : n.toNat ≤ rs)
    (kk : ∀ q : Nat, ah q = none → zW G M d (rc - 1) (rs - n.toNat) (pc + 2) ls (.ref q :: st) (z_up ah q (.inr (ty, n.toNat, fun _ => defaultValue ty))) Q) : zW G M d rc rs pc ls (.int (zi n) :: st) ah Q := by
  intro p l e R s m args below meth c H locs cells slots C hR hP hS L hL
  have hR3 := hR.2.2.1
  have hR4 := hR.2.2.2
  have hcl : (zi n).toNatClampNeg = n.toNat := zi_clamp hn.1 (by omega)
  have hcb : componentBytes (newarray.typeOf at') ≤ 8 := by cases at' <;> decide
  subst hty
  refine W.newa C.x C.b (C.w hq) rfl hd rfl (by rw [← zi_0, zi_lt (by omega) (by omega)]; omega) (by rw [hcl]; exact Nat.le_trans (Nat.mul_le_mul_left _ hcb) (by omega)) (by omega) (by rw [hcl]; omega) (fun cA kA comp h1 h2 h3 => ?_)
  rw [hcl]
  have hal := C.wo.1.alike
  have g1 : G.vm.findClass ("[" ++ (newarray.typeOf at').toString) = some cA := by rw [← hal.findClass]; exact h1
  have hat : zAt G H.size (.inr (newarray.typeOf at', n.toNat, fun _ => defaultValue (newarray.typeOf at'))) (H.push { cls := cA, slots := Array.replicate n.toNat (defaultValue (newarray.typeOf at')), vm := .none }) := by
    refine ⟨_, Array.getElem?_push_size, rfl, ⟨arrOfT_moved hal.symm (fun n z => ⟨fun k h => (by cases h), kA, h2, comp, h3⟩), ?_⟩, by simp, fun j hj => by simp [hj]⟩
    cases at' <;> exact g1
  obtain ⟨f1, f2, f3⟩ := z_pushed C.wo hP hS hat
  exact kk H.size f1 p l e R s m args below meth c _ locs (cells + 1) (slots + n.toNat) C ⟨hR.1, hR.2.1, by omega, by omega⟩ f2 f3 L hL
theorem zr_anewarray {E : String} {idx : Nat} {n : Int} (hd : decode M.2.1 pc = .ok (.anewarray idx, 3)) (hl : Cond.classLink M.1.cls idx E ∈ lw_all) (hq : Cond.arrayOver (.object E) ∈ lw_tbl) (hn : 0 ≤ n ∧ n ≤ 1000000) (hc : 1 ≤ rc) (hs : n.toNat ≤ rs)
    (kk : ∀ q : Nat, ah q = none → zW G M d (rc - 1) (rs - n.toNat) (pc + 3) ls (.ref q :: st) (z_up ah q (.inr (.object E, n.toNat, fun _ => .null))) Q) : zW G M d rc rs pc ls (.int (zi n) :: st) ah Q := by
  intro p l e R s m args below meth c H locs cells slots C hR hP hS L hL
  have hR3 := hR.2.2.1
  have hR4 := hR.2.2.2
  have hcl : (zi n).toNatClampNeg = n.toNat := zi_clamp hn.1 (by omega)
  have hal := C.wo.1.alike
  have hover : (Cond.arrayOver (.object E)).before args s = true := by
    obtain ⟨A0, h1, -⟩ := C.tb
    exact va_AO.use (va_AO.moved hal (va_AO.of (h1 _ hq)))
  refine W.anew C.x C.b C.own (C.w hl) hover rfl hd rfl (by rw [← zi_0, zi_lt (by omega) (by omega)]; omega) (by rw [hcl]; omega) (by omega) (by rw [hcl]; omega) (fun cA kA comp h1 h2 h3 h4 => ?_)
  rw [hcl]
  have hat : zAt G H.size (.inr (.object E, n.toNat, fun _ => .null)) (H.push { cls := cA, slots := Array.replicate n.toNat .null, vm := .none }) := by
    refine ⟨_, Array.getElem?_push_size, rfl, ⟨arrOfT_moved hal.symm (fun n z => ⟨fun k h => (by cases h), kA, h2, comp, h3⟩), va_RA.moved hal.symm ⟨kA, comp, h2, h3, h4, h1⟩⟩, by simp, fun j hj => by simp [hj]⟩
  obtain ⟨f1, f2, f3⟩ := z_pushed C.wo hP hS hat
  exact kk H.size f1 p l e R s m args below meth c _ locs (cells + 1) (slots + n.toNat) C ⟨hR.1, hR.2.1, by omega, by omega⟩ f2 f3 L hL
end ZAA
