set_option maxRecDepth 100000
/-! ===== invokedynamic of a lambda's site ===== -/
section ZSH
variable {β : Type} {w : β}
theorem z_sh1 {y : Option CpInfo} {g : Nat → Nat → Option β} : Lambda.shapeOf?.match_19 (fun _ => Option β) y g (fun _ => none) = some w → ∃ i j, y = some (.invokeDynamic i j) ∧ g i j = some w := by
  intro k
  split at k
  next i j => exact ⟨i, j, rfl, k⟩
  next => cases k
theorem z_sh2 {y : Option CpInfo} {g : Nat → Option β} : Lambda.shapeOf?.match_17 (fun _ => Option β) y g (fun _ => none) = some w → ∃ i, g i = some w := by
  intro k
  split at k
  next i => exact ⟨i, k⟩
  next => cases k
theorem z_sh3 {y : Array Nat} {g : Nat → Nat → Nat → Option β} : Lambda.shapeOf?.match_15 (fun _ => Option β) y g (fun _ => none) = some w → ∃ i j n, g i j n = some w := by
  cases y with
  | mk l =>
    cases l with
    | nil => intro k; cases k
    | cons i l =>
      cases l with
      | nil => intro k; cases k
      | cons j l =>
        cases l with
        | nil => intro k; cases k
        | cons n l =>
          cases l with
          | nil => intro k; exact ⟨i, j, n, k⟩
          | cons o l => intro k; cases k
theorem z_sh4 {y : Option CpInfo} {g : Nat → Option β} : Lambda.shapeOf?.match_9 (fun _ => Option β) y g (fun _ => none) = some w → ∃ i, g i = some w := by
  intro k
  split at k
  next i => exact ⟨i, k⟩
  next => cases k
theorem z_sh5 {y : Option CpInfo} {g : Nat → Nat → Option β} : Lambda.shapeOf?.match_12 (fun _ => Option β) y g (fun _ => none) = some w → ∃ i j, g i j = some w := by
  intro k
  split at k
  next i j => exact ⟨i, j, k⟩
  next => cases k
theorem z_sh6 {y : Option FieldType} {g : String → Option β} : Lambda.shapeOf?.match_6 (fun _ => Option β) y g (fun _ => none) = some w → ∃ i, g i = some w := by
  intro k
  split at k
  next i => exact ⟨i, k⟩
  next => cases k
end ZSH
theorem z_bnd {β γ : Type} {x : Option β} {g : β → Option γ} {w : γ} (h : x.bind g = some w) : ∃ i, x = some i ∧ g i = some w := Option.bind_eq_some_iff.mp h
theorem z_shape {cf : ClassFile} {ix : Nat} {σ : Lambda.Shape} (h : Lambda.shapeOf? cf ix = some σ) : ∃ (bsm nt : Nat) (name desc : String) (sig : MethodDescriptor), cf.constantPool[ix]? = some (.invokeDynamic bsm nt) ∧ cf.constantPool.nameAndType? nt = some (name, desc) ∧ parseLongMethodDescriptor desc = some sig ∧ sig.parameters = σ.captured := by
  unfold Lambda.shapeOf? at h
  obtain ⟨i, j, h0, h⟩ := z_sh1 h
  obtain ⟨_, -, h⟩ := z_bnd h
  obtain ⟨_, -, h⟩ := z_bnd h
  obtain ⟨_, h⟩ := z_sh2 h
  obtain ⟨_, -, h⟩ := z_bnd h
  obtain ⟨_, _, _, h⟩ := z_sh3 h
  obtain ⟨_, h⟩ := z_sh4 h
  obtain ⟨_, _, h⟩ := z_sh5 h
  obtain ⟨_, h⟩ := z_sh4 h
  obtain ⟨w, h1, h⟩ := z_bnd h
  obtain ⟨sg, h2, h⟩ := z_bnd h
  obtain ⟨_, h⟩ := z_sh6 h
  obtain ⟨⟨z1, z2, z3, z4⟩, -, h⟩ := z_bnd h
  obtain ⟨_, -, h⟩ := z_bnd h
  obtain ⟨_, -, h⟩ := z_bnd h
  obtain ⟨_, -, h⟩ := z_bnd h
  obtain ⟨_, -, h⟩ := z_bnd h
  obtain ⟨_, -, h⟩ := z_bnd h
  cases h
  exact ⟨i, j, w.1, w.2, sg, h0, h1, parseLong_of_parse h2, rfl⟩
theorem z_named {U : State} {vm : Vm} (h : U.vm.Alike vm) (x : MethodName) : ({ U with vm := vm } : State).methodNamed? x = U.methodNamed? x := State.methodNamed?_setVm h x
theorem z_nameG {G s : State} (h : G.vm.Alike s.vm) (x : MethodName) : s.methodNamed? x = G.methodNamed? x := z_named h x
section ZID
variable {G : State} {M : zMd} {d rc rs pc : Nat} {ls : List (Option Value)} {st rest : List Value} {ah : zH} {Q : zRs → zH → Prop} {idx : Nat}
/-- nothing captured: the site's one object -/
theorem zr_indy0 {i : Nat} {σ : Lambda.Shape} (hd : decode M.2.1 pc = .ok (.invokedynamic idx, 5)) (hs : zSite i M.1 pc idx σ) (hcap : σ.captured = []) (hw : (st.map fun v => v.category).sum ≤ 8) (hd26 : 26 ≤ d) (k : zW G M d rc rs (pc + 5) ls (.ref (zLa G i) :: st) ah Q) : zW G M d rc rs pc ls st ah Q := by
  intro p l e R s m args below meth c H locs cells slots C hR hP hS L hL
  obtain ⟨r1, r2, r3, r4⟩ := id hR
  intro T hT X
  obtain ⟨cK, one, hat⟩ := hs.2 G C.tb
  obtain ⟨m0, k0, cf0, i0, p0, l0, hm0, hk0, hcf0, hsh, hin, hfind, hmade, hcan, hcase⟩ := State.lambdaAt?_spec hat
  rcases hcase with ⟨a, cell, rfl, rfl, -, h1, h2, h3, -⟩ | ⟨-, -, hne⟩
  · have hm : m0 = m := by
      exact Option.some.inj (hm0.symm.trans ((z_nameG C.wo.1.alike M.1).symm.trans C.nm))
    subst hm
    have ha : zLa G i = a := by
      unfold zLa
      rw [hs.1]
      show ((G.lambdaAt? M.1 pc idx σ).bind fun w => w.2).getD 0 = a
      rw [hat]
      rfl
    rw [ha] at k
    obtain ⟨kS, hkS, heS⟩ := C.wo.1.alike.2.2 _ _ hk0
    obtain ⟨t, a1, b1⟩ := k p l e R s m0 args below meth c H locs cells slots C hR hP hS L hL T hT X
    refine ⟨t, X.lambdaConstant C.x (g := F0 m0 pc L st) rfl (hL.1.trans C.ml.symm) (by rw [C.b]; exact hd) hkS (by rw [heS]; exact hfind) ?_ a1, b1⟩
    rw [X.admits.platform]
    show 2 * 0 + (st.map fun v => v.category).sum + 3072 ≤ R.locals
    omega
  · exact absurd hcap hne
/-- with what it captures: a new object -/
theorem zr_indy {i : Nat} {y : MethodName} {σ : Lambda.Shape} {vals : List Value} {bytes : ByteArray} {maxL im ic nt icn : Nat} {fx : List (Nat × Nat × Nat)} (hd : decode M.2.1 pc = .ok (.invokedynamic idx, 5)) (hs : zSite i M.1 pc idx σ) (hB : zLmB σ M.1.cls bytes maxL im ic nt icn fx = true) (hO : Cond.instantiable "java/lang/Object" 0 ∈ lw_all)
    (hstk : st = vals.reverse ++ rest) (hn : vals.length = σ.captured.length) (hcap : σ.captured ≠ []) (hf : ((σ.captured.zip vals).map fun (t, v) => narrow t v) = vals) (hft : ∀ q ∈ σ.captured.zip vals, fits q.1 q.2 = true) (hw : (st.map fun v => v.category).sum ≤ 8) (hd26 : 26 ≤ d) (hc : 1 ≤ rc) (hs' : vals.length ≤ rs)
    (kk : ∀ q : Nat, ah q = none → zW G M d (rc - 1) (rs - vals.length) (pc + 5) ls (.ref q :: rest) (z_up ah q (.inl (1000 + i, vals))) Q) : zW G M d rc rs pc ls st ah Q := by
  intro p l e R s m args below meth c H locs cells slots C hR hP hS L hL
  obtain ⟨r1, r2, r3, r4⟩ := id hR
  intro T hT X
  obtain ⟨cK, one, hat⟩ := hs.2 G C.tb
  have hcl := z_siteC hs hat
  obtain ⟨m0, k0, cf0, i0, p0, l0, hm0, hk0, hcf0, hsh, hin, hfind, hmade, hcan, hcase⟩ := State.lambdaAt?_spec hat
  rcases hcase with ⟨a, cell, -, -, hE, -⟩ | ⟨rfl, -, -⟩
  · exact absurd hE hcap
  have hm : m0 = m := Option.some.inj (hm0.symm.trans ((z_nameG C.wo.1.alike M.1).symm.trans C.nm))
  subst hm
  obtain ⟨kS, hkS, heS⟩ := C.wo.1.alike.2.2 _ _ hk0
  obtain ⟨kN, hkN, hnm⟩ := className_of_methodNamed C.nm
  have hOof : ∀ o ok, s.vm.findClass "java/lang/Object" = some o → s.vm.classes[o]? = some ok → ok.instanceTypes = #[] := by
    intro o ok h1 h2
    obtain ⟨A0, hA0, -⟩ := C.tb
    obtain ⟨c9, k9, g1, g2, -, -, -, g3⟩ := Cond.instantiable_spec (hA0 _ (lw_all_tbl hO))
    rw [C.wo.1.alike.findClass] at h1
    cases g1.symm.trans h1
    obtain ⟨k8, g4, g5⟩ := C.wo.1.alike.2.2 _ _ g2
    cases g4.symm.trans h2
    rw [g5]
    exact Array.eq_empty_of_size_eq_zero g3
  obtain ⟨kc, tkS, fileS, methS, ckS, toyS, tS, ⟨a1, a2, a3, a4, -⟩, -⟩ := z_made hkN hnm (Lambda.isMade_warmer C.wo.1 hmade) hOof hB
  obtain ⟨bsm, nt', name, desc, sig, q1, q2, q3, q4⟩ := z_shape hsh
  have hE : ((kc.instanceTypes.toList.zip vals).map fun (t, v) => narrow t v) = vals := by rw [a4]; exact hf
  obtain ⟨X₁, st1⟩ := X.lambdaMakes C.x (g := F0 m0 pc L st) rfl (hL.1.trans C.ml.symm) (by rw [C.b]; exact hd) (vals := vals) (rest := rest) hkS (by rw [heS]; exact hfind) (by rw [heS]; exact hcf0) q1 q2 q3 (by rw [hn, q4]) hstk a1
    (by rw [X.admits.platform]; show 2 * 0 + (st.map fun v => v.category).sum + 3072 ≤ R.locals; omega) (by omega) (by rw [hE]; omega)
    (fun j x hx => by
      rw [hE, List.getElem?_toArray] at hx
      have hj : j < vals.length := (List.getElem?_eq_some_iff.mp hx).1
      have hty : kc.instanceTypes[j]? = some (σ.captured[j]'(by omega)) := by
        rw [← Array.getElem?_toList, a4]; exact List.getElem?_eq_getElem (by omega)
      have hfit := hft (σ.captured[j]'(by omega), x) (by
        rw [List.mem_iff_getElem?]
        exact ⟨j, by rw [List.getElem?_zip_eq_some]; exact ⟨List.getElem?_eq_getElem (by omega), hx⟩⟩)
      have hsl : s.slotType? cK .none j = some (σ.captured[j]'(by omega)) := by
        unfold State.slotType?
        simp [a1, a3, hty]
      unfold State.fitsSlot
      rw [hsl]
      exact hfit)
  rw [hE] at X₁ st1
  have hfree : ah H.size = none := by
    cases hx : ah H.size with
    | none => rfl
    | some o => exact absurd (hP.lt hx) (Nat.lt_irrefl _)
  have hsz : G.heap.size ≤ H.size := Nat.le_trans C.wo.2.1 hS.1
  generalize hT1 : T.pushCell { cls := cK, slots := vals.toArray, vm := .none } = T1 at X₁ st1
  have hh1 : T1.heap = H.push { cls := cK, slots := vals.toArray, vm := .none } := by rw [← hT1, ← hT]; rfl
  have hnew : T1.heap[H.size]? = some { cls := cK, slots := vals.toArray, vm := .none } := by rw [hh1]; simp
  have hold : ∀ q, q < H.size → T1.heap[q]? = H[q]? := fun q hq => by rw [hh1, Array.getElem?_push, if_neg (Nat.ne_of_lt hq)]
  have hat1 : zAt G H.size (.inl (1000 + i, vals)) T1.heap := by
    refine ⟨_, hnew, rfl, hcl.symm, ?_, fun j v hv => ?_⟩
    · unfold zN
      rw [zCl_none]
      show vals.length ≤ 1000
      have : (vals.map fun v => v.category).sum ≤ 8 := by
        rw [hstk] at hw
        simp only [List.map_append, List.map_reverse, List.sum_append, List.sum_reverse] at hw
        omega
      have h9 : ∀ vs : List Value, vs.length ≤ (vs.map fun v => v.category).sum := by
        intro vs
        induction vs with
        | nil => simp
        | cons w r ih =>
          simp only [List.map_cons, List.sum_cons, List.length_cons]
          have : 1 ≤ w.category := by cases w <;> simp [Value.category]
          omega
      have := h9 vals
      omega
    · unfold zI
      rw [zCl_none]
      simpa using hv
  obtain ⟨t, b1, b2⟩ := kk H.size hfree p l e R s m0 args below meth c T1.heap locs (cells + 1) (slots + vals.length) C ⟨r1, r2, by omega, by omega⟩ (hP.upd hsz hat1 (fun q _ hq => hold q hq)) ⟨Nat.le_trans hS.1 (by rw [hh1]; simp), fun x h1 h2 => (hold x (Nat.lt_of_lt_of_le h1 hS.1)).trans (hS.2.1 x h1 h2), hS.2.2⟩ L hL T1 rfl (by simpa using X₁)
  rw [hT] at st1
  exact ⟨t, st1 t b1, b2⟩
end ZID
