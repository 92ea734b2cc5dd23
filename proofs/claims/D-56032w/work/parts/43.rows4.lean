set_option maxRecDepth 100000
/-! ===== class objects, clones ===== -/
abbrev zgC : MethodName := ⟨"java/lang/Object", "getClass", "()Ljava/lang/Class;"⟩
/-- the class object of arrays of objects -/
theorem z_mir {G : State} (h : zTb G) : ∃ mi, va_Mi "[Ljava/lang/Object;" mi G := by
  obtain ⟨A0, h⟩ := h
  exact va_Mi.of (zm2 h (i := 185) rfl)
noncomputable def zMir (G : State) : Nat := Classical.epsilon (fun mi => va_Mi "[Ljava/lang/Object;" mi G)
theorem zMir_ok {G : State} (h : zTb G) : va_Mi "[Ljava/lang/Object;" (zMir G) G := Classical.epsilon_spec (z_mir h)
/-- an array of objects, made or the empty one -/
def zAO (G : State) (ah : zH) (a n : Nat) (f : Nat → Value) : Prop := ah a = some (.inr (.object "java/lang/Object", n, f)) ∨ (a = zEm G ∧ n = 0)
theorem zAO.ar {G : State} {ah : zH} {a n : Nat} {f : Nat → Value} (T : zTb G) (h : zAO G ah a n f) : zAr G ah a (.object "java/lang/Object") n f := by
  rcases h with h | ⟨rfl, rfl⟩
  · exact Or.inl h
  · have := (z_empty T).2.1
    obtain ⟨cell, h1, h2, h3, h4, h5, h6, h7⟩ := this
    exact Or.inr ⟨cell, h1, h2, h3, h4, h5, fun j hj => absurd hj (Nat.not_lt_zero j), h7⟩
theorem z_emC {G : State} (h : zTb G) : zSO G "[Ljava/lang/Object;" (zEm G) := by
  obtain ⟨A0, h⟩ := h
  obtain ⟨a, h1, h2⟩ := z_exR (zm1 h (i := 4) (w := .exactly (.static "java/util/ArrayList" "DEFAULTCAPACITY_EMPTY_ELEMENTDATA" "[Ljava/lang/Object;") "[Ljava/lang/Object;") rfl)
  have e : zEm G = a := zad_s h1
  rw [e]
  exact h2
section ZR4
variable {G : State} {M : zMd} {d rc rs pc : Nat} {ls : List (Option Value)} {st : List Value} {ah : zH} {Q : zRs → zH → Prop} {idx : Nat}
theorem zr_ldcM (hd : decode M.2.1 pc = .ok (.ldc idx, 2)) (hl : Cond.classLink M.1.cls idx "[Ljava/lang/Object;" ∈ lw_all) (k : zW G M d rc rs (pc + 2) ls (.ref (zMir G) :: st) ah Q) : zW G M d rc rs pc ls st ah Q := fun p l e R s m args below meth c H locs cells slots C hR hP hS L hL =>
  va_ldcM C.x C.b C.own (C.w hl) ((zMir_ok C.tb).moved C.wo.1.alike) hd (k p l e R s m args below meth c H locs cells slots C hR hP hS L hL)
theorem zAO.cell {p : Program} {l : Launch} {s : State} {m : MethodId} {meth : Method} {c : Code} {H : Heap} {locs : List Loc} {a n : Nat} {f : Nat → Value} (h : zAO G ah a n f) (C : zCx G M p l s m meth c) (hP : zRep G ah H) (hS : va_S (zA G) s.heap H locs) : ∃ cell : Cell, H[a]? = some cell ∧ cell.vm.isStatics = false ∧ s.vm.findClass "[Ljava/lang/Object;" = some cell.cls := by
  rcases h with h | ⟨rfl, rfl⟩
  · obtain ⟨-, cell, h1, h2, ⟨-, h3⟩, -⟩ := hP a _ h
    exact ⟨cell, h1, by rw [h2]; rfl, va_nmO (h3.moved C.wo.1.alike) rfl⟩
  · obtain ⟨cell, h1, h2, h3, -⟩ := (va_O.moved C.wo.1.alike (z_emC C.tb)).kept (z_lowA C.wo hS)
    exact ⟨cell, h1, h2, h3⟩
theorem zr_getC {a n : Nat} {f : Nat → Value} (hd : decode M.2.1 pc = .ok (.invokevirtual idx, 3)) (hl : Cond.methodLink M.1.cls idx zgC ∈ lw_all) (hdec : Cond.declares zgC ∈ lw_tbl) (hsel : Cond.selects "[Ljava/lang/Object;" zgC zgC ∈ lw_all) (hin : Cond.instanceMethod zgC ∈ lw_all) (hnat : Cond.native zgC ∈ lw_all)
    (h : zAO G ah a n f) (hw : Nat.ble (st.map fun v => v.category).sum 8 = true) (h1 : 1 ≤ d) (k : zW G M d rc rs (pc + 3) ls (.ref (zMir G) :: st) ah Q) : zW G M d rc rs pc ls (.ref a :: st) ah Q := by
  intro p l e R s m args below meth c H locs cells slots C hR hP hS L hL
  obtain ⟨r1, r2, r3, r4⟩ := id hR
  have hw' := z_ble hw
  exact va_getC C.x C.b (C.ml.trans hL.1.symm) C.own (C.w hl) (C.tb.wt C.wo.1 hdec rfl) (C.w hsel) (C.w hin) (C.w hnat) ((zMir_ok C.tb).moved C.wo.1.alike) (h.cell C hP hS) (by omega) (by omega) hd (k p l e R s m args below meth c H locs cells slots C hR hP hS L hL)
end ZR4
