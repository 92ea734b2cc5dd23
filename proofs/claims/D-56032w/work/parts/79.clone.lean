set_option maxRecDepth 100000
/-! ===== the modes' array copied; an exception of its own made ===== -/
theorem z_allf {c : Nat → Option Bool} : ∀ (l : List Nat) (acc : Option Bool), l.foldl (fun acc i => match acc with | some true => c i | x => x) acc = some true → acc = some true ∧ ∀ i ∈ l, c i = some true := by
  intro l
  induction l with
  | nil => intro acc h; exact ⟨h, fun i hi => by cases hi⟩
  | cons x l ih =>
    intro acc h
    obtain ⟨h1, h2⟩ := ih _ h
    rcases acc with _ | (_ | _)
    · cases h1
    · cases h1
    · exact ⟨rfl, fun i hi => by
        rcases List.mem_cons.mp hi with e | e
        · rw [e]; exact h1
        · exact h2 i e⟩
theorem z_all {G : State} {A0 : Array Value} {t : Term} {c : Cond} {a : Nat} {cell : Cell} (ht : t.eval A0 G none [] G = some (.ref a)) (hc : G.arrayAt? a = some cell) (h : (Cond.all t c).before A0 G = true) : ∀ i, i < cell.slots.size → c.value A0 G none G [i] = some true := by
  have h2 : (Cond.all t c).value A0 G none G [] = some true := by
    cases e : (Cond.all t c).value A0 G none G [] with
    | none => simp [Cond.before, Cond.holds, e] at h
    | some b => simp only [Cond.before, Cond.holds, e] at h; rw [show b = true by simpa using h]
  simp only [Cond.value, ht, hc] at h2
  intro i hi
  exact (z_allf _ _ h2).2 i (List.mem_range.mpr hi)
/-- the array of the modes -/
def zVals (G : State) (a : Nat) : Prop := ∃ (cell : Cell) (cA comp : ClassId) (kA : Class), G.heap[a]? = some cell ∧ (∀ k, cell.vm ≠ .statics k) ∧ cell.vm ≠ .unknown ∧ cell.cls = cA ∧ G.vm.findClass "[LTrailGuide$Mode;" = some cA ∧ G.vm.classes[cA]? = some kA ∧ kA.kind = .array comp (.object "TrailGuide$Mode") ∧ G.vm.findClass "TrailGuide$Mode" = some comp ∧ cell.slots.size = 3 ∧ ∀ j, j < 3 → cell.slots[j]? = some (.ref (zMo G j))
theorem z_vals {G : State} (h : zTb G) : ∃ a, zSV G "TrailGuide$Mode" "$VALUES" "[LTrailGuide$Mode;" (.ref a) ∧ zVals G a := by
  obtain ⟨A0, h⟩ := h
  obtain ⟨a, c, cell, k, q1, q2, q3, q4, q5, q6, -⟩ := Cond.exactly_spec (args := A0) (first := G) (o := none) (s := G) (idx := []) (zm1 h (i := 261) rfl)
  obtain ⟨⟨r1, k2, r2, comp, r3⟩, r4⟩ := Cond.arrayOf_spec (zm1 h (i := 262) rfl) q1 q3
  obtain ⟨comp2, c2, k3, s1, -, s2, s3, s4⟩ := Cond.arrayOver_spec (h.1 _ q1983)
  have e2 : c2 = c := by
    have : G.vm.findClass "[LTrailGuide$Mode;" = some c2 := s4
    exact Option.some.inj (this.symm.trans q2)
  subst e2
  obtain ⟨t, h3, h4⟩ := va_Tof (N := 3) (A := zA G) (tm := .static "TrailGuide$Mode" "$VALUES" "[LTrailGuide$Mode;") (f := fun j => .ref (zMo G j)) (by decide) (zm1 h (i := 262) rfl) (va_eqt (zm1 h (i := 263) rfl)) (fun j hj => by
    rcases (show j = 0 ∨ j = 1 ∨ j = 2 by omega) with rfl | rfl | rfl
    · exact z_eqT (zm1 h (i := 265) rfl) (z_mode0 h).1
    · exact z_eqT (zm1 h (i := 266) rfl) (z_mode1 h).1
    · exact z_eqT (zm1 h (i := 267) rfl) (z_mode2 h).1) (fun a h => zA_out h)
  cases q1.symm.trans h3
  obtain ⟨cell2, u1, u2, u3, u4, u5, u6, u7⟩ := h4
  cases q3.symm.trans u1
  obtain ⟨t', cell3, v1, v2, v3⟩ := Term.length_spec (va_eqt (zm1 h (i := 263) rfl))
  cases v1.symm.trans q1
  obtain ⟨w1, -, -, -⟩ := State.arrayAt?_spec v2
  cases q3.symm.trans w1
  have hal := z_all q1 v2 (zm1 h (i := 264) rfl)
  have hsz : cell.slots.size = 3 := by
    rcases Nat.lt_or_ge 3 cell.slots.size with g | g
    · have := hal 3 g
      revert this
      simp [Cond.value, Term.eval]
      exact fun z => absurd z (by decide)
    · omega
  refine ⟨a, z_sv h q1978 q97 q1, cell, c2, comp2, k3, q3, r1, r4, q6, q2, s2, s3, s1, hsz, u6⟩
/-- the array of the modes copied -/
theorem zr_values {G : State} {M : zMd} {d rc rs pc idx a : Nat} {ls : List (Option Value)} {st : List Value} {ah : zH} {Q : zRs → zH → Prop} (hd : decode M.2.1 pc = .ok (.invokevirtual idx, 3)) (hl : Cond.methodLink M.1.cls idx ⟨"[LTrailGuide$Mode;", "clone", "()Ljava/lang/Object;"⟩ ∈ lw_all) (hw : (st.map fun v => v.category).sum ≤ 8) (hd1 : 1 ≤ d) (hc : 1 ≤ rc) (hs : 3 ≤ rs) (hv : zVals G a) (k : ∀ q, ah q = none → zW G M d (rc - 1) (rs - 3) (pc + 3) ls (.ref q :: st) (z_up ah q (.inr (.object "TrailGuide$Mode", 3, fun j => .ref (zMo G j)))) Q) : zW G M d rc rs pc ls (.ref a :: st) ah Q := by
  intro p l e R s m args below meth c H locs cells slots C hR hP hS L hL
  obtain ⟨r1, r2, r3, r4⟩ := id hR
  obtain ⟨cell, cA, comp, kA, v1, v2, v3, rfl, v5, v6, v7, v8, v9, v10⟩ := hv
  have hal := C.wo.1.alike
  have hH : H[a]? = some cell := (z_low C.wo hS a (Array.getElem?_eq_some_iff.mp v1).1).trans v1
  obtain ⟨cC, cL, w1, w2, w3⟩ := Cond.castable_spec (va_Nw.use (A := args) rfl (z_castable C.tb C.wo.1 q1982))
  have hcl : s.vm.findClass "[LTrailGuide$Mode;" = some cell.cls := by rw [hal.findClass]; exact v5
  cases w1.symm.trans hcl
  obtain ⟨k2, hk2, he2⟩ := hal.2.2 _ _ v6
  have hkind : k2.kind = .array comp (.object "TrailGuide$Mode") := by rw [he2]; exact v7
  have hldr : s.vm.clonesLoader cell.cls = false := Vm.clonesLoader_of_array hk2 hkind
  have hsz : (F0 m pc L (.ref a :: st)).locals.size = c.maxLocals := hL.1.trans C.ml.symm
  intro T hT X
  obtain ⟨vm', X', step⟩ := X.cloneArray C.x C.own (C.w hl) (C.w q1980) (C.w q515) (C.w q516) (C.w q1981) (a := a) (cell := cell) (by rw [hT]; exact hH) v2 v3 hcl w2 w3
    (fun i v hiv => by
      have hT2 := X.warmed.alike
      obtain ⟨k3, hk3, he3⟩ := hT2.2.2 _ _ hk2
      have hi : i < 3 := by rw [← v9]; exact (Array.getElem?_eq_some_iff.mp hiv).1
      rw [v10 i hi] at hiv
      cases hiv
      have : k3.kind = .array comp (.object "TrailGuide$Mode") := by rw [he3]; exact hkind
      simp [State.fitsSlot, State.slotType?, hk3, this]
      rfl) (g := F0 m pc L (.ref a :: st)) rfl hsz rfl (by rw [C.b]; exact hd) (by omega) (by show 2 * 0 + _ + 14 ≤ _; omega) (by omega) (by rw [v9]; omega) hldr
  have hat : zAt G H.size (.inr (.object "TrailGuide$Mode", 3, fun j => .ref (zMo G j))) (H.push { cls := cell.cls, slots := cell.slots }) := by
    refine ⟨_, Array.getElem?_push_size, rfl, ⟨fun n z => ⟨fun k h => (by cases h), kA, v6, comp, v7⟩, kA, comp, v6, v7, v8, v5⟩, v9, fun j hj => v10 j hj⟩
  obtain ⟨f1, f2, f3⟩ := z_pushed C.wo hP hS hat
  obtain ⟨t, a1, b1⟩ := k H.size f1 p l e R s m args below meth c _ locs (cells + 1) (slots + cell.slots.size) C ⟨r1, r2, by omega, by rw [v9]; omega⟩ f2 f3 L hL _ (by show (T.heap.push _) = _; rw [hT]) X'
  refine ⟨t, step t ?_, b1⟩
  rw [hT]
  exact a1
