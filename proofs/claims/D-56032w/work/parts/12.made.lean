set_option maxRecDepth 100000
/-- what is computed of a site's shape: the made class's method, its constants, its fields -/
def zLmB (σ : Lambda.Shape) (own : String) (bytes : ByteArray) (maxL im ic nt icn : Nat) (fx : List (Nat × Nat × Nat)) : Bool := match σ.file own with
  | none => false
  | some D => match (layoutMethods D).bind (fun ms => ms[1]?), layoutFields D 0 with
    | some F, some laid =>
      decide ((F.code.map fun c => (c.code.data.toList, c.maxLocals)) = some (bytes.data.toList, maxL)) && (decide (F.accessFlags = 1) && (decide (F.sig.returnType = σ.sam.returnType) && (decide (laid.2.1.toList = σ.captured) &&
      (decide (D.constantPool[im]? = some (.methodref ic nt)) && (decide (D.constantPool[ic]? = some (.class_ icn)) && (decide (D.constantPool.string? icn = some σ.implClass) && (decide (ic ≠ D.thisClass) &&
      (decide (D.constantPool.className? ic = some σ.implClass) && (decide (D.constantPool.nameAndType? nt = some (σ.implName, σ.implDesc.toString)) && (decide (fx.length = σ.captured.length) &&
      fx.zipIdx.all (fun q => decide (D.constantPool[q.1.1]? = some (.fieldref q.1.2.1 q.1.2.2)) && (D.constantPool.nameAndType? q.1.2.2).any (fun w => decide (laid.1.findIdx? (fun f => f.name == w.1) = some q.2) && decide ((laid.1[q.2]?).map (fun f => (f.isStatic, f.slot)) = some (false, q.2))))))))))))))
    | _, _ => false
theorem z_made {vm : Vm} {d c : ClassId} {dk : Class} {σ : Lambda.Shape} {own : String} {bytes : ByteArray} {maxL im ic nt icn : Nat} {fx : List (Nat × Nat × Nat)} (hd : vm.classes[d]? = some dk) (hname : dk.name = own) (h : Lambda.isMade { classPath := fun _ => none } vm d σ c = true)
    (hO : ∀ o ok, vm.findClass "java/lang/Object" = some o → vm.classes[o]? = some ok → ok.instanceTypes = #[]) (hB : zLmB σ own bytes maxL im ic nt icn fx = true) :
    ∃ (k tk : Class) (file : ClassFile) (methk : Method) (ck : Code) (toy : ClassId) (t : MethodId),
      (vm.classes[c]? = some k ∧ k.name = own ++ "$$Lambda" ∧ k.kind = .ordinary ∧ k.instanceTypes.toList = σ.captured ∧ k.cf = some file ∧ file.constantPool[im]? = some (.methodref ic nt) ∧ file.constantPool.nameAndType? nt = some (σ.implName, σ.implDesc.toString)) ∧
      (vm.method? ⟨c, 1⟩ = some methk ∧ methk.code = some ck ∧ ck.code = bytes ∧ ck.maxLocals = maxL ∧ ck.exceptionTable = #[] ∧ methk.locks = false ∧ methk.accessFlags = 1 ∧ methk.sig.returnType = σ.sam.returnType) ∧
      (vm.findClass σ.implClass = some toy ∧ vm.classes[toy]? = some tk ∧ ((methodIn toy σ.implName σ.implDesc.toString tk.isInterface none).ask { classPath := fun _ => none } vm).1 = .ok t ∧ tk.isInterface = σ.implItf ∧ vm.methodReady c im t ∧ vm.classReady c ic toy) ∧
      (∀ i, i < σ.captured.length → ∃ f : Field, vm.fieldReady c ((fx.map (fun q => q.1)).getD i 0) c f ∧ f.isStatic = false ∧ f.slot = i) ∧ fx.length = σ.captured.length ∧
      ∃ (iface : ClassId) (found : MethodId), vm.findClass σ.iface = some iface ∧ ((methodIn iface σ.name σ.sam.toString true none).ask { classPath := fun _ => none } vm).1 = .ok found ∧ selectMethod {} vm c found = .method ⟨c, 1⟩ := by
  obtain ⟨dk', k, ok, tk, file, cf, object, iface, toy, lay, methods, target, found, hd', hk, hfile, hcf, hobj, hif, hok, hlay, hms, ht, htk, hg, hfnd, hrec, -, -, -, hitf, hpool, hmeth, hfields, htys, hres, hsel⟩ := Lambda.isMade_spec h
  cases hd.symm.trans hd'
  rw [hname] at hcf
  unfold zLmB at hB
  rw [hcf] at hB
  have ho0 := hO object ok hobj hok
  have hlay0 : layoutFields cf 0 = some lay := by rw [ho0] at hlay; exact hlay
  simp only [hms, hlay0, Option.bind_some] at hB
  cases hF : methods[1]? with
  | none => simp [hF] at hB
  | some F =>
    simp only [hF, Bool.and_eq_true, decide_eq_true_eq] at hB
    obtain ⟨fc, ff, fr, fl, e1, e2, e3, e4, e5, e6, e7, e8⟩ := hB
    obtain ⟨b, hb, hsame⟩ := hmeth 1 F hF
    obtain ⟨hn, -, hsig, hfl, x, y, hfc, hbc, -, hml, hcode, hex⟩ := Lambda.sameMethod_spec hsame
    simp only [hfc, Option.map_some, Option.some.injEq, Prod.mk.injEq] at fc
    refine ⟨k, tk, file, b, y, toy, target, ⟨hk, by rw [hrec.1, hname], hrec.2.1, by rw [htys.1, ho0]; simpa using fl, hfile, by rw [hpool.2.1]; exact e1, by rw [hpool.2.1]; exact e6⟩,
      ⟨by simp [Vm.method?, hk, hb], hbc, ?_, by rw [hml]; exact fc.2, hex, ?_, by rw [hfl]; exact ff, by rw [hsig]; exact fr⟩,
      ⟨ht, htk, hg, hitf, ⟨k, hk, hres im _ (Lambda.resolvedOf_method e1 e5 ht htk e6 hg)⟩, ⟨k, hk, hres ic _ (Lambda.resolvedOf_class e2 e4 e3 ht)⟩⟩, ?_, e7, iface, found, hif, hfnd, hsel⟩
    · rw [hcode]
      exact ByteArray.ext (by rw [← Array.toList_inj]; exact fc.1)
    · simp [Method.locks, Method.isSynchronized, hfl, ff, hasFlag, Acc.synchronized]
    · intro i hi
      have hi2 : i < fx.length := by omega
      rw [List.all_eq_true] at e8
      have e9 := e8 (fx[i], i) (by rw [List.mem_zipIdx_iff_getElem?]; exact List.getElem?_eq_getElem hi2)
      simp only [Bool.and_eq_true, decide_eq_true_eq] at e9
      obtain ⟨g1, g2⟩ := e9
      cases hw : cf.constantPool.nameAndType? (fx[i]).2.2 with
      | none => simp [hw] at g2
      | some w =>
        simp only [hw, Option.any_some, Bool.and_eq_true, decide_eq_true_eq] at g2
        obtain ⟨g3, g4⟩ := g2
        obtain ⟨f, hf, hp⟩ := Option.map_eq_some_iff.mp g4
        simp only [Prod.mk.injEq] at hp
        have hix : (fx.map (fun q => q.1)).getD i 0 = (fx[i]).1 := by simp [List.getD_eq_getElem?_getD, hi2]
        exact ⟨f, by rw [hix]; exact ⟨k, i, k, hk, hres _ _ (Lambda.resolvedOf_field g1 hw g3), hk, hfields i _ hf⟩, hp.1, hp.2⟩
