set_option maxRecDepth 100000
/-- how the made class's method calls its target: a static method, or an instance method of the first captured object -/
def zIv (G : State) (ah : zH) (M' : zMd) (im pcI : Nat) (bytes : ByteArray) (av : List Value) : Prop :=
  (decode bytes pcI = .ok (.invokestatic im, 3) ∧ Cond.static M'.1 ∈ lw_all ∧ zSig M'.1 av.length) ∨
  ∃ (b : Nat) (vs : List Value) (Cn : String), decode bytes pcI = .ok (.invokevirtual im, 3) ∧ av = .ref b :: vs ∧ zRc G ah b Cn ∧ Cond.selects Cn M'.1 M'.1 ∈ lw_all ∧ Cond.instanceMethod M'.1 ∈ lw_all ∧ zSig M'.1 vs.length
/-- how it returns -/
def zRi (bytes : ByteArray) (pc : Nat) (ret : Option FieldType) : Prop := (ret = none ∧ decode bytes pc = .ok (.return_, 1)) ∨ ∃ ty, ret = some ty ∧ decode bytes pc = .ok (.ireturn, 1)
def zQx (Q : zRs → zH → Prop) (ret : Option FieldType) : zRs → zH → Prop := fun r ah => Q r ah ∧ match r with
  | .inl v => zRt ret v
  | .inr _ => True
section ZLC
variable {p : Program} {l : Launch} {e : Env} {s : State} {m : MethodId} {args : Array Value} {below : List Frame} {meth : Method} {c : Code} {U : State} {G : State} {M' : zMd} {d mc ms : Nat} {ah : zH} {Q : zRs → zH → Prop}
theorem z_target {σ : Lambda.Shape} {toy : ClassId} {tk : Class} {t : MethodId} {vm : Vm} (T : zTb G) (hW : G.WarmedH U.vm) (hM : zHas M') (hnh : M'.2.2.2.2 = []) (hy : M'.1 = ⟨σ.implClass, σ.implName, σ.implDesc.toString⟩) (hv : U.vm = vm) (h1 : vm.findClass σ.implClass = some toy) (h2 : vm.classes[toy]? = some tk)
    (h3 : ((methodIn toy σ.implName σ.implDesc.toString tk.isInterface none).ask { classPath := fun _ => none } vm).1 = .ok t) :
    U.methodNamed? M'.1 = some t ∧ t.cls = toy ∧ tk.init = .initialized ∧ tk.name = M'.1.cls ∧ ∃ methY cY, vm.method? t = some methY ∧ methY.code = some cY ∧ cY.maxLocals = M'.2.2.1 ∧ parseMethodDescriptor M'.1.desc = some methY.sig := by
  subst hv
  have hcw : (zcw M').before #[] U = true := T.w hW hM.2.1
  have hcw2 := hcw
  unfold zcw at hcw2
  rw [hnh] at hcw2
  obtain ⟨t', hn⟩ := Cond.code_named hcw2
  have hf := State.methodFound?_of_named hn hM.2.2.2.1
  have hy1 : M'.1.cls = σ.implClass := by rw [hy]
  have hy2 : M'.1.name = σ.implName := by rw [hy]
  have hy3 : M'.1.desc = σ.implDesc.toString := by rw [hy]
  rw [hy1, hy2, hy3] at hf
  simp only [State.methodFound?, h1, h2, Option.bind_eq_bind, Option.bind_some, h3] at hf
  have ht : t = t' := Option.some.inj hf
  subst ht
  obtain ⟨kY, hkY, hkn⟩ := className_of_methodNamed hn
  have htc : t.cls = toy := by
    have := findClass_of_methodNamed hn
    rw [hy1] at this
    exact Option.some.inj (this.symm.trans h1)
  rw [htc] at hkY
  cases h2.symm.trans hkY
  obtain ⟨methY, cY, g1, g2, -, g3, -, -, -, g4⟩ := z_code hn hcw
  exact ⟨hn, htc, Cond.initialized_spec (args := #[]) (findClass_of_methodNamed hn) (by rw [htc]; exact h2) (T.w hW hM.2.2.1), hkn, methY, cY, g1, g2, g3, g4⟩
/-- the made class's method, from its call to its end -/
theorem z_lamend {L : Array Slot} {bytes : ByteArray} {im ic nt pcI : Nat} {σ : Lambda.Shape} {toy : ClassId} {tk k : Class} {file : ClassFile} {t : MethodId} {av : List Value} (Y : Stand p l e (zRoom (d + 1) mc ms) s m args below meth c U [] 0 0) (hexec : p.tables.exec = Jvm.exec) (hl : l.stackTraces = false) (hb : c.code = bytes) (hlk : meth.locks = false) (hex : c.exceptionTable = #[]) (hret : meth.sig.returnType = σ.sam.returnType) (hsz : L.size = c.maxLocals)
    (T : zTb G) (hWo : zWo G s) (hWU : zWo G U) (hP : zRep G ah U.heap) (hUh : U.heap = s.heap) (hM : zHas M') (hnh : M'.2.2.2.2 = []) (hy : M'.1 = ⟨σ.implClass, σ.implName, σ.implDesc.toString⟩) (hk : U.vm.classes[m.cls]? = some k) (hkf : k.cf = some file) (hfm : file.constantPool[im]? = some (.methodref ic nt)) (hfn : file.constantPool.nameAndType? nt = some (σ.implName, σ.implDesc.toString))
    (h1 : U.vm.findClass σ.implClass = some toy) (h2 : U.vm.classes[toy]? = some tk) (h3 : ((methodIn toy σ.implName σ.implDesc.toString tk.isInterface none).ask { classPath := fun _ => none } U.vm).1 = .ok t) (hni : tk.isInterface = false) (hmr : U.vm.methodReady m.cls im t) (hcr : U.vm.classReady m.cls ic toy)
    (hiv : zIv G ah M' im pcI bytes av) (hri : zRi bytes (pcI + 3) σ.sam.returnType) (hen : (lg_sl av).length ≤ M'.2.2.1) (kk : zW G M' d mc ms 0 (zent av) [] ah (zQx Q σ.sam.returnType)) :
    ∃ t, Steps p.tables e below (U.setTop (F0 m pcI L av.reverse)) t ∧ zEnd G below args s (zRoom (d + 1) mc ms) Q t := by
  obtain ⟨hn, htc, hin, htn, methY, cY, g1, g2, g3, g4⟩ := z_target T hWU.1 hM hnh hy rfl h1 h2 h3
  have hpl : e.platform.magicAccessors = ({} : Platform).magicAccessors := by rw [Y.admits.platform]
  have hB := z_back (R := zRoom (d + 1) mc ms) (p := p) (e := e) (below := below) (s := s) (sargs := args) (W9 := 8) (len := 3) (z_met (l := l) hM hen kk hl) hM T hWo.1 (Nat.le_refl _) (by have := hM.2.2.2.2; show _ ≤ 128 * (d + 1); omega)
  have hpre : zPreB G (zRoom (d + 1) mc ms) mc ms ah av ⟨U, [], 0, 0⟩ av.toArray := ⟨by show 0 + mc ≤ mc; omega, by show 0 + ms ≤ ms; omega, rfl, T, hWU, hP⟩
  have fin : ∀ ig : Instr, decode bytes pcI = .ok (ig, 3) → ∃ t', Steps p.tables e below (doInvoke e (U.setTop (F0 m pcI L [])) [] t av.toArray).1 t' ∧ zEnd G below args s (zRoom (d + 1) mc ms) Q t' := by
    intro ig hig
    rcases hB m meth c ⟨U, [], 0, 0⟩ (F0 m pcI L []) ig t av.toArray Y rfl hsz (by rw [hb]; exact hig) (by show 2 * 0 + 0 ≤ 8; omega) hn hpre with ⟨v, ⟨U', l2, c2, s2⟩, X', ⟨t9, L9, ah', e1, ⟨hQ, hQt⟩, hRp, hF, q1, hL9, q2, q3⟩, stp⟩ | ⟨q, ⟨U', l2, c2, s2⟩, X', ⟨t9, L9, ah', E, ce, e1, ⟨hQ, -⟩, hRp, hF, ⟨w1, w2, w3⟩, q1, hL9, q2, q3⟩, stp⟩
    · dsimp only [Pt.U, Pt.locs, Pt.cells, Pt.slots] at X' e1 q1 q2 q3 stp hF
      subst q1; subst q2; subst q3
      have hF' : ∀ t : State, t.heap = U'.heap → va_F (zA G) s t := fun t ht => by
        refine ⟨by rw [ht, e1, ← hUh]; exact hF.1, fun q r1 r2 => ?_⟩
        rw [ht, e1, ← hUh]
        exact hF.2 q (by rw [hUh]; exact r1) r2
      rcases hri with ⟨r1, r2⟩ | ⟨ty, r1, r2⟩
      · rw [r1] at hQt
        obtain rfl : v = none := hQt
        obtain ⟨t8, a1, b1⟩ := z_ret (G := G) (Q := Q) (ah := ah') (R := zRoom (d + 1) mc ms) (by show 0 + mc ≤ mc; omega) (by show 0 + ms ≤ ms; omega) (W.vret hexec hb (by rw [hret]; exact r1) (fun t ht hW => ⟨none, rfl, hQ, by rw [ht, e1]; exact hRp, hF' t ht⟩) (fun z hz => hL9 z (by simpa using hz)) r2 hlk) U' rfl X'
        exact ⟨t8, stp.trans a1, b1⟩
      · rw [r1] at hQt
        obtain ⟨x, rfl, hx⟩ := hQt
        obtain ⟨t8, a1, b1⟩ := z_ret (G := G) (Q := Q) (ah := ah') (R := zRoom (d + 1) mc ms) (by show 0 + mc ≤ mc; omega) (by show 0 + ms ≤ ms; omega) (W.zret (v := x) hexec hb (by rw [hret]; exact r1) hx (fun t ht hW => ⟨some (.int x), rfl, hQ, by rw [ht, e1]; exact hRp, hF' t ht⟩) (fun z hz => hL9 z (by simpa using hz)) r2 hlk) U' rfl X'
        exact ⟨t8, stp.trans a1, b1⟩
    · dsimp only [Pt.U, Pt.locs, Pt.cells, Pt.slots] at X' e1 q1 q2 q3 stp hF w3
      subst q1; subst q2; subst q3
      obtain ⟨st1, hrun, hend, hW, hsm⟩ := X'.leaveThrown q (g := F0 m pcI L []) rfl rfl rfl (by rw [hex]; intro x hx; cases hx) hlk
      refine ⟨_, stp.trans st1, .threw q, hrun, hend, Or.inr ⟨q, E, ce, ah', rfl, hQ, ?_, ?_, ⟨?_, w2, vx_cls Y.warmed w3⟩, hW, _, hsm.mono (by show 0 + mc ≤ mc; omega) (by show 0 + ms ≤ ms; omega), fun z hz => hL9 z (by simpa using hz)⟩⟩
      · show zRep G ah' U'.heap
        rw [e1]; exact hRp
      · refine ⟨?_, fun q r1 r2 => ?_⟩
        · show s.heap.size ≤ U'.heap.size
          rw [e1, ← hUh]; exact hF.1
        · show U'.heap[q]? = _
          rw [e1, ← hUh]; exact hF.2 q (by rw [hUh]; exact r1) r2
      · show U'.heap[q]? = some ce
        rw [e1]; exact w1
  obtain ⟨bb, hmem⟩ := memberRef_ask' (e := e) (vm := U.vm) (d := m.cls) (index := im) hk hkf (Or.inl hfm) hfn
  have hpoly : ∀ y : Method, signaturePolymorphic tk y = false := fun y => signaturePolymorphic_of_name (by rw [htn]; exact hM.2.2.2.1) y
  rcases hiv with ⟨d1, d2, d3⟩ | ⟨b, vs, Cn, d1, rfl, d2, d3, d4, d5⟩
  · obtain ⟨t', a1, b1⟩ := fin _ d1
    refine ⟨t', ?_, b1⟩
    have hst : methY.isStatic = true := Cond.static_spec (args := #[]) hn g1 (T.w hWU.1 d2)
    jvm_step Y.here [hexec, hb, d1, invokestatic.wp_ready (e := e) (s := U) (m := t) (k := tk) (meth := methY) (args := av) (rest := []) (f := F0 m pcI L av.reverse) Y.here.top
      ⟨ic, _, _, bb, toy, tk, hmem, hcr, h2, by simp [hpoly]⟩ hmr (by rw [htc]; exact h2) g1 (hpoly methY) hst hin (d3 _ g4) (by simp)]
    intro acts
    rw [doInvoke_state]
    exact a1
  · obtain ⟨t', a1, b1⟩ := fin _ d1
    refine ⟨t', ?_, b1⟩
    have hRc : ∃ cell : Cell, U.heap[b]? = some cell ∧ cell.vm.isStatics = false ∧ U.vm.findClass Cn = some cell.cls := by
      rcases d2 with ⟨ci, fs, T9, N, ty, hK, hh⟩ | hh
      · obtain ⟨-, cell, x1, x2, x3, -⟩ := hP b _ hh
        exact ⟨cell, x1, by rw [x2]; rfl, by rw [x3]; exact (classAt_moved hWU.1.alike (hK.at' T)).1⟩
      · obtain ⟨cell, x1, x2, x3, x4⟩ := va_O.moved hWU.1.alike hh
        exact ⟨cell, by rw [hWU.2.2 b (Array.getElem?_eq_some_iff.mp x1).1]; exact x1, x2, x3⟩
    obtain ⟨cell, x1, x2, x3⟩ := hRc
    obtain ⟨c2, r2, m2, y1, y2, y3, y4, kP, hkP, hkPi⟩ := Cond.selects_spec (T.w (args := #[]) hWU.1 d3)
    cases x3.symm.trans y1
    cases y3.symm.trans hn
    cases (State.methodFound?_of_named hn hM.2.2.2.1).symm.trans y2
    obtain ⟨mI, methI, z1, z2, z3, z4⟩ := Cond.instanceMethod_spec (T.w (args := #[]) hWU.1 d4)
    cases z1.symm.trans hn
    cases z2.symm.trans g1
    have hselP : selectMethod e.platform U.vm cell.cls t = .method t := by rw [Launch.admits_selectMethod Y.admits]; exact y4
    rw [List.reverse_cons]
    jvm_step Y.here [hexec, hb, d1, invokevirtual.wp_ready (e := e) (s := U) (r := t) (m := t) (k := tk) (mk := kP) (rmeth := methY) (meth := methY) (a := b) (args := vs) (rest := []) (cell := cell) (f := F0 m pcI L (vs.reverse ++ [.ref b])) Y.here.top
      ⟨k, file, ic, nt, toy, tk, hk, hkf, hfm, hcr, h2, hni⟩ hmr (by rw [htc]; exact h2) g1 (hpoly methY) z3 (d5 _ g4) (by simp) x1 (by intro z h9; rw [h9] at x2; cases x2) hselP g1 z4 hkP hkPi]
    intro acts
    rw [doInvoke_state]
    exact a1
end ZLC
