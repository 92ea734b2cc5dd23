set_option maxRecDepth 100000
theorem z_args1 {v : Value} : ∀ (vs : List Value) (i k : Nat), (∀ w ∈ vs, w.category = 1) → vs[k]? = some v → (i + k, v) ∈ lv_args i vs := by
  intro vs
  induction vs with
  | nil => intro i k _ h; simp at h
  | cons w r ih =>
    intro i k hc h
    have hw : w.category = 1 := hc w List.mem_cons_self
    unfold lv_args
    rw [if_neg (by omega)]
    cases k with
    | zero =>
      simp only [List.getElem?_cons_zero, Option.some.injEq] at h
      rw [h]
      exact List.mem_cons_self
    | succ k =>
      rw [List.getElem?_cons_succ] at h
      have := ih (i + 1) k (fun w hw => hc w (List.mem_cons_of_mem _ hw)) h
      rw [show i + 1 + k = i + (k + 1) by omega] at this
      exact List.mem_cons_of_mem _ this
/-- a site of the list, linked at the law's entry -/
def zSite (i : Nat) (y : MethodName) (pc ix : Nat) (σ : Lambda.Shape) : Prop := zLs[i]? = some (y, pc, ix, σ) ∧ ∀ G, zTb G → ∃ c one, G.lambdaAt? y pc ix σ = some (c, one)
/-- where the one object of a site that captures nothing lies -/
def zLa (G : State) (i : Nat) : Nat := ((zLs[i]?).bind fun q => (G.lambdaAt? q.1 q.2.1 q.2.2.1 q.2.2.2).bind fun w => w.2).getD 0
theorem zCl_none (i : Nat) : zCl[1000 + i]? = none := List.getElem?_eq_none (by show 24 ≤ 1000 + i; omega)
/-- the site's object, with what it has captured -/
def zLam (G : State) (ah : zH) (b i : Nat) (vals : List Value) : Prop := ah b = some (.inl (1000 + i, vals)) ∨ (b = zLa G i ∧ vals = [])
section ZLR
variable {G : State} {M M' : zMd} {d rc rs pc d' mc ms : Nat} {ls : List (Option Value)} {st rest as : List Value} {ah : zH} {Q : zRs → zH → Prop} {idx n : Nat}
theorem z_siteC {i : Nat} {y : MethodName} {spc ix : Nat} {σ : Lambda.Shape} (hs : zSite i y spc ix σ) {c : ClassId} {one : Option Addr} (h : G.lambdaAt? y spc ix σ = some (c, one)) : zC G (1000 + i) = c := by
  unfold zC
  rw [zCl_none]
  show (match zLs[1000 + i - 1000]? with | some q => ((G.lambdaAt? q.1 q.2.1 q.2.2.1 q.2.2.2).map (fun w => w.1)).getD 0 | none => 0) = c
  rw [show 1000 + i - 1000 = i by omega, hs.1]
  show ((G.lambdaAt? y spc ix σ).map (fun w => w.1)).getD 0 = c
  rw [h]
  rfl
theorem z_lamCell {s : State} {H : Heap} {locs : List Loc} {i b : Nat} {y : MethodName} {spc ix : Nat} {σ : Lambda.Shape} {vals : List Value} (hs : zSite i y spc ix σ) (T : zTb G) (hW : zWo G s) (hP : zRep G ah H) (hS : va_S (zA G) s.heap H locs) (h : zLam G ah b i vals) (hn : vals.length = σ.captured.length) :
    ∃ (c : ClassId) (m : MethodId) (cell : Cell), G.methodNamed? y = some m ∧ Lambda.isMade { classPath := fun _ => none } G.vm m.cls σ c = true ∧ G.lambdaCallable σ c = true ∧ H[b]? = some cell ∧ cell.vm = .none ∧ cell.cls = c ∧ ∀ (k : Nat) (v : Value), vals[k]? = some v → cell.slots[k]? = some v := by
  obtain ⟨c, one, hat⟩ := hs.2 G T
  have hc := z_siteC hs hat
  obtain ⟨m0, k0, cf0, i0, p0, l0, hm0, hk0, hcf0, hsh, hin, hfind, hmade, hcan, hcase⟩ := State.lambdaAt?_spec hat
  refine ⟨c, m0, ?_⟩
  rcases h with h | ⟨h, hv⟩
  · obtain ⟨-, cell, h1, h2, h3, -, h5⟩ := hP b _ h
    refine ⟨cell, hm0, hmade, hcan, h1, h2, by rw [h3]; exact hc, fun k v hkv => ?_⟩
    have h6 := h5 k v hkv
    unfold zI at h6
    rw [zCl_none] at h6
    exact h6
  · subst hv
    have hcap : σ.captured = [] := List.eq_nil_of_length_eq_zero hn.symm
    rcases hcase with ⟨a, cell, -, hone, -, h1, h2, h3, -⟩ | ⟨-, -, hne⟩
    · have hb : b = a := by
        rw [h]
        unfold zLa
        rw [hs.1]
        show ((G.lambdaAt? y spc ix σ).bind fun w => w.2).getD 0 = a
        rw [hat, hone]
        rfl
      subst hb
      exact ⟨cell, hm0, hmade, hcan, by rw [z_low hW hS b (Array.getElem?_eq_some_iff.mp h1).1]; exact h1, h3, h2, fun k v hkv => by simp at hkv⟩
    · exact absurd hcap hne
/-- a call by an interface, of a lambda's object -/
theorem zr_lam {i b : Nat} {y x : MethodName} {spc ix cnt im ic nt icn maxL : Nat} {σ : Lambda.Shape} {vals : List Value} {bytes : ByteArray} {fx : List (Nat × Nat × Nat)} {is : List Instr} (hs : zSite i y spc ix σ) (hB : zLmB σ y.cls bytes maxL im ic nt icn fx = true) (hpn : plainName (y.cls ++ "$$Lambda") = true) (hitf : σ.implItf = false) (hml : maxL ≤ 8)
    (hdc : ∀ k, k < σ.captured.length → decode bytes (4 * k) = .ok (.aload_n 0, 1) ∧ decode bytes (4 * k + 1) = .ok (.getfield ((fx.map (fun q => q.1)).getD k 0), 3))
    (hisn : is.length = as.length) (hdl : ∀ k, k < as.length → decode bytes (4 * σ.captured.length + k) = .ok (is.getD k .nop, 1)) (hld : ∀ (k : Nat) (v : Value), as[k]? = some v → zLd (is.getD k .nop) (k + 1) v) (hri : zRi bytes (4 * σ.captured.length + as.length + 3) σ.sam.returnType) (hle : as.length + 1 ≤ maxL)
    (hd : decode M.2.1 pc = .ok (.invokeinterface idx cnt, 5)) (hl : Cond.methodLink M.1.cls idx x ∈ lw_all) (hq1 : Cond.declares x ∈ lw_tbl) (hq2 : Cond.interfaceMethod x.cls x.cls x.name x.desc ∈ lw_tbl) (hxx : x.cls ≠ "java/lang/invoke/MethodHandle" ∧ x.cls ≠ "java/lang/invoke/VarHandle") (hx : x = ⟨σ.iface, σ.name, σ.sam.toString⟩) (hsig : zSig x as.length) (hO : Cond.instantiable "java/lang/Object" 0 ∈ lw_all)
    (hM : zHas M') (hnh : M'.2.2.2.2 = []) (hy : M'.1 = ⟨σ.implClass, σ.implName, σ.implDesc.toString⟩) (hen : (lg_sl (vals ++ as)).length ≤ M'.2.2.1) (hw : (rest.map fun v => v.category).sum ≤ 8) (hd' : d' + 2 ≤ d) (hc : mc ≤ rc) (hs' : ms ≤ rs)
    (hstk : st = as.reverse ++ .ref b :: rest) (hob : zLam G ah b i vals) (hn : vals.length = σ.captured.length) (hiv : zIv G ah M' im (4 * σ.captured.length + as.length) bytes (vals ++ as))
    (k : zW G M' d' mc ms 0 (zent (vals ++ as)) [] ah (zQx (zK G M d (rc - mc) (rs - ms) pc 5 ls rest Q) σ.sam.returnType)) : zW G M d rc rs pc ls st ah Q := by
  intro p l e R s m args below meth c H locs cells slots C hR hP hS L hL
  intro T hT X
  obtain ⟨r1, r2, r3, r4⟩ := id hR
  obtain ⟨cK, m0, cell, hm0, hmadeG, hcanG, hcell, hcvm, hccls, hslots⟩ := z_lamCell hs C.tb C.wo hP hS hob hn
  subst hccls
  have hal := C.wo.1.alike
  -- facts at s
  have hOof : ∀ vm : Vm, G.vm.Alike vm → ∀ o ok, vm.findClass "java/lang/Object" = some o → vm.classes[o]? = some ok → ok.instanceTypes = #[] := by
    intro vm hvm o ok h1 h2
    obtain ⟨A0, hA0, -⟩ := C.tb
    obtain ⟨c9, k9, g1, g2, -, -, -, g3⟩ := Cond.instantiable_spec (hA0 _ (lw_all_tbl hO))
    rw [hvm.findClass] at h1
    cases g1.symm.trans h1
    obtain ⟨k8, g4, g5⟩ := hvm.2.2 _ _ g2
    cases g4.symm.trans h2
    rw [g5]
    exact Array.eq_empty_of_size_eq_zero g3
  obtain ⟨dk, hdk, hdkn⟩ := className_of_methodNamed hm0
  have made : ∀ vm : Vm, G.WarmedH vm → ∃ dk', vm.classes[m0.cls]? = some dk' ∧ dk'.name = y.cls := fun vm hvm => by
    obtain ⟨dk', q1, q2⟩ := hvm.alike.2.2 _ _ hdk
    exact ⟨dk', q1, by rw [q2]; exact hdkn⟩
  obtain ⟨dkS, hdkS, hdknS⟩ := made s.vm C.wo.1
  obtain ⟨kS, tkS, fileS, methS, ckS, toyS, tS, ⟨a1, a2, a3, -⟩, ⟨b1, -, -, -, -, -, b7, -⟩, -, -, -, iface, found, c1, c2, c3⟩ := z_made hdkS hdknS (Lambda.isMade_warmer C.wo.1 hmadeG) (hOof s.vm hal) hB
  have hcanS : s.lambdaCallable σ cell.cls = true := by
    simp only [State.lambdaCallable, hal.findClass, hal.assignable, hal.superclasses, hal.declaredIn] at hcanG ⊢
    exact hcanG
  obtain ⟨i2, hi2, hasg, hway⟩ := State.lambdaCallable_spec hcanS
  have hdeclS : (Cond.declares x).before args s = true := C.tb.wt C.wo.1 hq1 rfl
  obtain ⟨r0, r, hnR, hrm, hstR, hsigR⟩ := Cond.declares_spec hdeclS
  have hfaceS : (Cond.interfaceMethod x.cls x.cls x.name x.desc).before args s = true := by
    obtain ⟨A0, hA0, -⟩ := C.tb
    have hdG : (Cond.declares x).before A0 G = true := hA0 _ hq1
    obtain ⟨rG, methG, hnG, -⟩ := Cond.declares_spec hdG
    exact va_Nw.use rfl (va_tabs rfl (rfl : (G.setVm s.vm).vm = s.vm) (show (Cond.interfaceMethod x.cls x.cls x.name x.desc).before A0 (G.setVm s.vm) = true by rw [Cond.interfaceMethod_setVm hal (r := rG) hnG hxx]; exact hA0 _ hq2))
  obtain ⟨cL, kL, rL, hcL, hkL, hiL, hfoundL, hn1⟩ := Cond.interfaceMethod_spec hfaceS
  cases hnR.symm.trans hn1
  have hx1 : x.cls = σ.iface := by rw [hx]
  have hx2 : x.name = σ.name := by rw [hx]
  have hx3 : x.desc = σ.sam.toString := by rw [hx]
  have hr0cls : r0.cls = cL := Option.some.inj ((findClass_of_methodNamed hnR).symm.trans hcL)
  obtain ⟨hnameR, hdescR⟩ := name_of_methodNamed hnR hrm
  have hcL' : s.vm.findClass σ.iface = some cL := by rw [← hx1]; exact hcL
  cases c1.symm.trans hcL'
  cases hi2.symm.trans hcL'
  have hfr : found = r0 := by
    rw [hx1, hx2, hx3] at hfoundL
    simp only [State.methodFound?, hcL', hkL, hiL, Option.bind_eq_bind, Option.bind_some, c2] at hfoundL
    exact Option.some.inj hfoundL
  subst hfr
  have hselP : selectMethod e.platform s.vm cell.cls found = .method ⟨cell.cls, 1⟩ := by rw [Launch.admits_selectMethod X.admits]; exact c3
  obtain ⟨vm₁, X₁, hstep₁⟩ := X.invokeinterface C.x C.own (C.w hl) hnR hrm hstR (by rw [hr0cls]; exact hkL) hiL hxx (a := b) (cell := cell) (kcell := kS) (by rw [hT]; exact hcell)
    (fun z h => by rw [hcvm] at h; cases h) a1 (by rw [hr0cls]; exact hasg) hselP b1 (by rw [hnameR, hdescR, hx2, hx3]; exact hway) (by rw [b7]; decide) (by simp [Method.isAbstract, b7, hasFlag, Acc.abstract]) (g := F0 m pc L st) rfl (argsL := as) (rest := rest) (hsig _ hsigR) hstk (by rw [C.b]; exact hd)
  -- facts at vm₁
  have hG1 : G.WarmedH vm₁ := State.WarmedH.trans C.wo.1 X₁.warmed
  obtain ⟨dkV, hdkV, hdknV⟩ := made vm₁ hG1
  obtain ⟨kV, tk, file, methk, ck, toy, t, ⟨e1, e2, -, -, e5, e6, e7⟩, ⟨f1, f2, f3, f4, f5, f6, f7, f8⟩, ⟨g1, g2, g3, g4, g5, g6⟩, h1, h2, -⟩ := z_made hdkV hdknV (Lambda.isMade_warmer hG1 hmadeG) (hOof vm₁ hG1.alike) hB
  have hpk : (T.setVm vm₁).plainMethod ⟨cell.cls, 1⟩ := State.plainMethod.of_name (fun k' hk' => by
    cases e1.symm.trans hk'
    rw [e2]; exact hpn)
  obtain ⟨Y₀, hin⟩ := X₁.into (g := { (F0 m pc L st) with stack := rest }) rfl (hL.1.trans C.ml.symm) (ig := .invokeinterface idx cnt) (len := 5) (by rw [C.b]; exact hd) (Value.ref b :: as).toArray (R' := zRoom (d' + 1) mc ms) (mk := ⟨cell.cls, 1⟩) f1 f2 f6 hpk
    (by show d' + 1 + 1 ≤ R.frames; omega) (by show 2 * 0 + (rest.map fun v => v.category).sum + (ck.maxLocals + 11) + 128 * (d' + 1) ≤ R.locals; rw [f4]; omega) (by show cells + mc ≤ R.cells; omega) (by show slots + ms ≤ R.slots; omega)
  generalize hU : (((T.setVm vm₁).setTop { (F0 m pc L st) with stack := rest }).pushFrame (.java (entryFrame ⟨cell.cls, 1⟩ (Value.ref b :: as).toArray ck.maxLocals))) = U at Y₀ hin
  have hUvm : U.vm = vm₁ := by rw [← hU]; rfl
  have hUh : U.heap = H := by rw [← hU, ← hT]; rfl
  have hWoU : zWo G U := ⟨by rw [hUvm]; exact hG1, by rw [hUh]; exact Nat.le_trans C.wo.2.1 hS.1, fun q hq => by rw [hUh]; exact z_low C.wo hS q hq⟩
  generalize hs9 : (T.setVm vm₁).calling { (F0 m pc L st) with stack := rest } ⟨cell.cls, 1⟩ (Value.ref b :: as).toArray = s9 at Y₀
  have hs9h : s9.heap = H := by rw [← hs9, ← hT]; rfl
  have hs9v : s9.vm = vm₁ := by rw [← hs9]; rfl
  have hWo9 : zWo G s9 := ⟨by rw [hs9v]; exact hG1, by rw [hs9h]; exact Nat.le_trans C.wo.2.1 hS.1, fun q hq => by rw [hs9h]; exact z_low C.wo hS q hq⟩
  -- its locals
  have hcat : ∀ w ∈ (Value.ref b :: as), w.category = 1 := by
    intro w hw
    rcases List.mem_cons.mp hw with e9 | hw
    · rw [e9]; rfl
    · obtain ⟨k9, hk9⟩ := List.getElem?_of_mem hw
      rcases hld k9 w hk9 with ⟨n9, x9, -, -, rfl⟩ | ⟨n9, x9, -, -, rfl⟩ <;> rfl
  have hlen : (lg_sl (Value.ref b :: as)).length ≤ ck.maxLocals := by
    have : ∀ vs : List Value, (∀ w ∈ vs, w.category = 1) → (lg_sl vs).length = vs.length := by
      intro vs
      induction vs with
      | nil => intro _; rfl
      | cons w r ih =>
        intro hc9
        have h9 := hc9 w List.mem_cons_self
        have := ih (fun z hz => hc9 z (List.mem_cons_of_mem _ hz))
        unfold lg_sl at this ⊢
        simp only [List.flatMap_cons, List.length_append, h9, List.length_cons]
        rw [if_neg (by decide), this]
        simp
        omega
    rw [this _ hcat, f4]
    simpa using hle
  have hLs := lv_entry (Value.ref b :: as) (n := ck.maxLocals) hlen
  have hent : entryFrame ⟨cell.cls, 1⟩ (Value.ref b :: as).toArray ck.maxLocals = F0 ⟨cell.cls, 1⟩ 0 ((lg_sl (Value.ref b :: as) ++ List.replicate (ck.maxLocals - (lg_sl (Value.ref b :: as)).length) Slot.unset).toArray) [] := lg_entry_eq _ _ _
  generalize hL0 : (lg_sl (Value.ref b :: as) ++ List.replicate (ck.maxLocals - (lg_sl (Value.ref b :: as)).length) Slot.unset).toArray = L0 at hLs hent
  have hL00 : L0[0]? = some (.val (.ref b)) := hLs.2.2 (0, .ref b) (by have := z_args1 (v := .ref b) (Value.ref b :: as) 0 0 hcat rfl; exact this)
  have hL0k : ∀ (k : Nat) (v : Value), as[k]? = some v → L0[k + 1]? = some (.val v) := fun k v hk => hLs.2.2 (k + 1, v) (by
    have := z_args1 (v := v) (Value.ref b :: as) 0 (k + 1) hcat (by rw [List.getElem?_cons_succ]; exact hk)
    rw [Nat.zero_add] at this
    exact this)
  -- the walk
  have hPU : zRep G ah U.heap := by rw [hUh]; exact hP
  obtain ⟨t9, st9, o9, hrun9, hend9, hq9⟩ := z_lamend (L := L0) (pcI := 4 * σ.captured.length + as.length) (Q := zK G M d (rc - mc) (rs - ms) pc 5 ls rest Q) (av := vals ++ as) Y₀ C.x C.tr f3 f6 f5 f8 (hLs.1) C.tb hWo9 hWoU hPU (by rw [hUh, hs9h]) hM hnh hy (by rw [hUvm]; exact e1) e5 e6 e7 (by rw [hUvm]; exact g1) (by rw [hUvm]; exact g2) (by rw [hUvm]; exact g3) (by rw [g4]; exact hitf) (by rw [hUvm]; exact g5) (by rw [hUvm]; exact g6) hiv hri hen k
  have w1 : Steps p.tables e (.java { (F0 m pc L st) with stack := rest } :: below) (U.setTop (F0 ⟨cell.cls, 1⟩ 0 L0 [])) t9 := by
    refine z_caps Y₀ C.x f3 (ix := fx.map (fun q => q.1)) (vals := vals) (cell := cell) hL00 (by rw [hUh]; exact hcell) (by rw [hcvm]; exact (fun z => by cases z)) (by rw [List.length_map, h2, hn]) (fun k hk => hdc k (by omega)) (fun k hk => by rw [hUvm]; exact h1 k (by omega)) hslots vals.length (Nat.le_refl _) ?_
    rw [List.take_length, hn]
    refine z_lds Y₀ C.x f3 (as := as) (is := is) hisn hdl hld hL0k as.length (Nat.le_refl _) ?_
    rw [List.take_length, ← List.reverse_append]
    exact st9
  rw [← hent] at w1
  have w2 := Steps.weaken (mid := [.java { (F0 m pc L st) with stack := rest }]) w1
  refine z_after (as := (Value.ref b :: as).toArray) (len := 5) (rest := rest) C hR hS hL hT hc hs' ?_
  subst hs9
  rcases hq9 with ⟨v, ah', rfl, hQ, hRp, hF, L9, ⟨-, hW9, hsame⟩, hL9⟩ | ⟨q, E, ce, ah', rfl, hQ, hRp, hF, hce, hW9, L9, hsame, hL9⟩
  · obtain ⟨T', X', hW', -, ht⟩ := X₁.outOf (g := { (F0 m pc L st) with stack := rest }) rfl (ig := .invokeinterface idx cnt) (len := 5) (by rw [C.b]; exact hd) hend9 hW9 hsame
    refine Or.inl ⟨v, vm₁, ⟨T', locs ++ L9, cells + mc, slots + ms⟩, X₁.warmed, X', ⟨t9, L9, ah', by rw [ht]; rfl, hQ, hRp, hF, rfl, hL9, rfl, rfl⟩, fun target h => hstep₁ target fun acts => ?_⟩
    rw [hin acts]
    refine w2.trans ?_
    rw [ht]
    exact h
  · obtain ⟨T', X', hW', -, ht⟩ := X₁.outOfThrown (g := { (F0 m pc L st) with stack := rest }) rfl hend9 hW9 hsame
    refine Or.inr ⟨q, vm₁, ⟨T', locs ++ L9, cells + mc, slots + ms⟩, X₁.warmed, X', ⟨t9, L9, ah', E, ce, by rw [ht]; rfl, hQ, hRp, hF, hce, rfl, hL9, rfl, rfl⟩, hstep₁ _ fun acts => ?_⟩
    rw [hin acts]
    refine w2.trans ?_
    rw [ht]
    exact Steps.refl _
end ZLR
