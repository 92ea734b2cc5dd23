set_option maxRecDepth 100000
section ZR3
variable {G : State} {M : zMd} {d rc rs pc : Nat} {ls : List (Option Value)} {st : List Value} {ah : zH} {Q : zRs → zH → Prop} {idx : Nat}
/-- a constant text -/
theorem zr_ldcS {tx : String} {a : Nat} (hd : decode M.2.1 pc = .ok (.ldc idx, 2)) (h : vk_R M.1.cls idx tx a G) (k : zW G M d rc rs (pc + 2) ls (.ref a :: st) ah Q) : zW G M d rc rs pc ls st ah Q := fun p l e R s m args below meth c H locs cells slots C hR hP hS L hL =>
  va_ldcS C.x C.b C.own (vk_R.warm C.wo.1 h) hd (k p l e R s m args below meth c H locs cells slots C hR hP hS L hL)
theorem zr_cast {a : Nat} {nm : String} (hd : decode M.2.1 pc = .ok (.checkcast idx, 3)) (hl : Cond.classLink M.1.cls idx nm ∈ lw_all) (hr : zRc G ah a nm) (k : zW G M d rc rs (pc + 3) ls (.ref a :: st) ah Q) : zW G M d rc rs pc ls (.ref a :: st) ah Q := fun p l e R s m args below meth c H locs cells slots C hR hP hS L hL =>
  va_castE C.x C.b C.own (C.w hl) (hr.cell C hP hS) hd (k p l e R s m args below meth c H locs cells slots C hR hP hS L hL)
theorem zr_instE {a : Nat} {nm : String} (hd : decode M.2.1 pc = .ok (.instanceof idx, 3)) (hl : Cond.classLink M.1.cls idx nm ∈ lw_all) (hr : zRc G ah a nm) (k : zW G M d rc rs (pc + 3) ls (.int (zi 1) :: st) ah Q) : zW G M d rc rs pc ls (.ref a :: st) ah Q := fun p l e R s m args below meth c H locs cells slots C hR hP hS L hL =>
  va_instE C.x C.b C.own (C.w hl) (hr.cell C hP hS) hd (k p l e R s m args below meth c H locs cells slots C hR hP hS L hL)
theorem zr_instNo {a : Nat} {nm Cn : String} (hd : decode M.2.1 pc = .ok (.instanceof idx, 3)) (hl : Cond.classLink M.1.cls idx nm ∈ lw_all) (hr : zRc G ah a Cn) (hn : zNc Cn nm) (k : zW G M d rc rs (pc + 3) ls (.int (zi 0) :: st) ah Q) : zW G M d rc rs pc ls (.ref a :: st) ah Q := fun p l e R s m args below meth c H locs cells slots C hR hP hS L hL =>
  va_instNo C.x C.b C.own (C.w hl) (z_Nc_moved C.wo.1.alike (hn G C.tb)) (hr.cell C hP hS) hd (k p l e R s m args below meth c H locs cells slots C hR hP hS L hL)
/-- checkcast to an array type, of an array of that type -/
theorem zr_castA {a n : Nat} {nm E : String} {f : Nat → Value} (hd : decode M.2.1 pc = .ok (.checkcast idx, 3)) (hl : Cond.classLink M.1.cls idx nm ∈ lw_all) (hnm : nm = "[" ++ (FieldType.object E).toString) (h : ah a = some (.inr (.object E, n, f))) (k : zW G M d rc rs (pc + 3) ls (.ref a :: st) ah Q) : zW G M d rc rs pc ls (.ref a :: st) ah Q := by
  intro p l e R s m args below meth c H locs cells slots C hR hP hS L hL
  obtain ⟨-, cell, h1, h2, ⟨h3, h4⟩, -⟩ := hP a _ h
  obtain ⟨kA, comp, r1, r2, r3, r4⟩ := h4.moved C.wo.1.alike
  exact va_castE C.x C.b C.own (C.w hl) ⟨cell, h1, by rw [h2]; rfl, by rw [hnm]; exact r4⟩ hd (k p l e R s m args below meth c H locs cells slots C hR hP hS L hL)
/-- what may be copied into an array -/
def zTk (G : State) (ah : zH) (ty : FieldType) (v : Value) : Prop := match v with
  | .ref b => ∃ E Cn : String, ty = .object E ∧ zRc G ah b Cn ∧ Cond.castable Cn E ∈ lw_tbl
  | _ => True
theorem zr_copy {src dst n0 n1 : Nat} {ty : FieldType} {f g : Nat → Value} {sp dp n : Int} (hd : decode M.2.1 pc = .ok (.invokestatic idx, 3)) (hl : Cond.methodLink M.1.cls idx arraycopyName ∈ lw_all) (hnat : Cond.native arraycopyName ∈ lw_all) (hst : Cond.static arraycopyName ∈ lw_all) (hini : Cond.initialized "java/lang/System" ∈ lw_all)
    (h0 : zAr G ah src ty n0 f) (h1 : ah dst = some (.inr (ty, n1, g))) (hb : n0 ≤ 2147483647 ∧ n1 ≤ 2147483647) (hi : 0 ≤ sp ∧ 0 ≤ dp ∧ 0 ≤ n ∧ sp + n ≤ n0 ∧ dp + n ≤ n1) (hv : ∀ i : Nat, (i : Int) < n → fits ty (f (sp.toNat + i)) = true ∧ zTk G ah ty (f (sp.toNat + i)))
    (hw : (st.map fun v => v.category).sum ≤ 8) (hd1 : 1 ≤ d) (k : zW G M d rc rs (pc + 3) ls st (z_up ah dst (.inr (ty, n1, va_cpy f g sp.toNat dp.toNat n.toNat))) Q) :
    zW G M d rc rs pc ls (.int (zi n) :: .int (zi dp) :: .ref dst :: .int (zi sp) :: .ref src :: st) ah Q := by
  intro p l e R s m args below meth c H locs cells slots C hR hP hS L hL
  obtain ⟨r1, r2, r3, r4⟩ := id hR
  obtain ⟨cs, s1, ⟨s2, k0, hk0, cm0, hkk0⟩, s3, s4, -, s6⟩ := h0.cell C hP hS
  obtain ⟨hB, cd, t1, t2, ⟨t3, t3'⟩, t4, t5⟩ := hP dst _ h1
  obtain ⟨-, k1, hk1, cm1, hkk1⟩ := (arrOfT_moved C.wo.1.alike t3) 0 (fun _ => .null)
  have hn1 : (zi n).toInt = n := zi_toInt (by omega)
  have hs1 : (zi sp).toInt = sp := zi_toInt (by omega)
  have hd1' : (zi dp).toInt = dp := zi_toInt (by omega)
  have cn : (zi n).toNatClampNeg = n.toNat := zi_clamp (by omega) (by omega)
  have csp : (zi sp).toNatClampNeg = sp.toNat := zi_clamp (by omega) (by omega)
  have cdp : (zi dp).toNatClampNeg = dp.toNat := zi_clamp (by omega) (by omega)
  have hnf : nativeFrameWords "java/lang/System" "arraycopy" 5 ≤ 16 := by decide
  have nl : ∀ {x : Int}, 0 ≤ x → x ≤ 2147483647 → ¬ zi x < 0 := fun h1 h2 => by rw [← zi_0, zi_lt (by omega) (by omega)]; omega
  intro T hT X
  have hget : ∀ i : Nat, (i : Int) < n → cs.slots.getD (sp.toNat + i) .null = f (sp.toNat + i) := fun i hi' => by
    rw [Array.getD_eq_getD_getElem?, s6 _ (by omega)]; rfl
  obtain ⟨vm', X', step⟩ := X.arraycopy C.x C.own (C.w hl) (C.w hnat) (C.w hst) (C.w hini) (src := src) (dst := dst) (cs := cs) (cd := cd) (srcPos := zi sp) (destPos := zi dp) (n := zi n) (by rw [hT]; exact s1) (by rw [hT]; exact t1)
    s2 (by rw [t2]; exact (fun _ z => by cases z)) s3 (by rw [t2]; exact (fun z => by cases z)) hk0 hk1 hkk0 hkk1 (by simp) (nl (by omega) (by omega)) (nl (by omega) (by omega)) (nl (by omega) (by omega))
    (by rw [hn1, hs1]; omega) (by rw [hn1, hd1', t4]; omega)
    (fun vm₁ hal i hi' => by
      rw [cn] at hi'
      rw [csp, hget i (by omega)]
      obtain ⟨g1, g2⟩ := hv i (by omega)
      refine ⟨g1, ?_⟩
      cases hx : f (sp.toNat + i) with
      | ref b =>
        rw [hx] at g2
        obtain ⟨E, Cn, rfl, hrc, hca⟩ := g2
        obtain ⟨cv, q1, q2, q3⟩ := hrc.cell C hP hS
        obtain ⟨kA, comp, w1, w2, w3, w4⟩ := t3'.moved C.wo.1.alike
        cases w1.symm.trans hk1
        cases w2.symm.trans hkk1
        obtain ⟨c0, t0, f1, f2, f3⟩ := Cond.castable_spec (va_Nw.use (A := args) rfl (z_castable C.tb C.wo.1 hca))
        cases q3.symm.trans f1
        cases w3.symm.trans f2
        obtain ⟨kv, hkv, -⟩ := Vm.findClass_spec q3
        obtain ⟨kc, hkc, -⟩ := Vm.findClass_spec w3
        obtain ⟨kv', hkv', -⟩ := hal.2.2 _ _ hkv
        obtain ⟨kc', hkc', -⟩ := hal.2.2 _ _ hkc
        exact ⟨cv, by show T.heap[b]? = some cv; rw [hT]; exact q1, (fun k z => by rw [z] at q2; cases q2), ⟨kv', hkv'⟩, ⟨kc', hkc'⟩, by show vm₁.assignable _ _ = true; rw [hal.assignable]; exact f3⟩
      | _ => trivial)
    (g := F0 m pc L (.int (zi n) :: .int (zi dp) :: .ref dst :: .int (zi sp) :: .ref src :: st)) rfl (hL.1.trans C.ml.symm) (rest := st) rfl (by rw [C.b]; exact hd) (by omega) (by show 2 * 0 + _ + _ ≤ _; omega)
  have hlen : (cs.stretch (zi sp).toNatClampNeg (zi n).toNatClampNeg).length = n.toNat := by
    unfold Cell.stretch; rw [List.length_map, List.length_range, cn]
  obtain ⟨g1, g2, g3, -⟩ := cd.storeRun_facts (zi dp).toNatClampNeg (cs.stretch (zi sp).toNatClampNeg (zi n).toNatClampNeg)
  have hl2 : dst < H.size := hP.lt h1
  have hat : zAt G dst (.inr (ty, n1, va_cpy f g sp.toNat dp.toNat n.toNat)) (H.setIfInBounds dst (copied cs cd (zi sp) (zi dp) (zi n))) := by
    refine ⟨copied cs cd (zi sp) (zi dp) (zi n), by simp [Array.getElem?_setIfInBounds, hl2], g2.trans t2, ⟨by rw [g1]; exact t3, by rw [g1]; exact t3'⟩, g3.trans t4, fun j hj => ?_⟩
    rw [cd.storeRun_get _ _ j (by rw [hlen, cdp, t4]; omega), hlen, cdp]
    unfold va_cpy
    by_cases hq : dp.toNat ≤ j ∧ j < dp.toNat + n.toNat
    · rw [if_pos hq, if_pos hq]
      unfold Cell.stretch
      rw [List.getElem?_map, List.getElem?_range (by rw [cn]; omega)]
      show some (cs.slots.getD _ _) = _
      rw [csp, hget _ (by omega)]
    · rw [if_neg hq, if_neg hq]
      exact t5 j hj
  have oq : ∀ q : Nat, q ≠ dst → (H.setIfInBounds dst (copied cs cd (zi sp) (zi dp) (zi n)))[q]? = H[q]? := fun q hq => by simp [Array.getElem?_setIfInBounds, Ne.symm hq]
  have hheap : ((T.setVm vm').setCell dst (copied cs cd (zi sp) (zi dp) (zi n))).heap = H.setIfInBounds dst (copied cs cd (zi sp) (zi dp) (zi n)) := by rw [← hT]; rfl
  obtain ⟨t, a1, b1⟩ := k p l e R s m args below meth c _ _ cells slots C hR (hP.upd hB hat (fun q hq _ => oq q hq)) ⟨by simp; exact hS.1, fun q q1 q2 => by
      rw [oq q (fun z => q2 (by rw [z]; exact hB))]
      exact hS.2.1 q q1 q2, fun z hz => by
      rcases List.mem_append.mp hz with h | h
      · exact hS.2.2 _ h
      · obtain ⟨y, -, hy⟩ := List.mem_map.mp h
        rw [← hy]
        exact hB⟩ L hL _ hheap X'
  exact ⟨t, step t a1, b1⟩
end ZR3
