set_option maxRecDepth 100000
/-- a word that rides, or one whose ride is known -/
def z_gd (w : Cond) : Bool := goodWord w || match w with
  | .castable _ _ => true
  | .declares _ => true
  | _ => false
theorem zTb.wt {G s : State} {args : Array Value} (T : zTb G) (hW : G.WarmedH s.vm) {w : Cond} (hw : w ∈ lw_tbl) (hg : z_gd w = true) : w.before args s = true := by
  simp only [z_gd, Bool.or_eq_true] at hg
  rcases hg with hg | hg
  · exact T.w hW (List.mem_filter.mpr ⟨hw, hg⟩)
  · obtain ⟨A0, h1, -⟩ := T
    cases w <;> first | exact va_Nw.use rfl (va_Nw.warmC hW (va_Nw.of rfl (h1 _ hw))) | exact va_Nw.use rfl (va_Nw.warmD hW (va_Nw.of rfl (h1 _ hw))) | cases hg
def zSig (y : MethodName) (n : Nat) : Prop := ∀ sig, parseMethodDescriptor y.desc = some sig → n = sig.parameters.length
theorem z_Nc_moved {C T : String} {u U : State} (hvm : u.vm.Alike U.vm) (h : va_Nc C T u) : va_Nc C T U := by
  obtain ⟨c, t, h1, h2, h3⟩ := h
  exact ⟨c, t, by rw [hvm.findClass]; exact h1, by rw [hvm.findClass]; exact h2, by rw [hvm.assignable]; exact h3⟩
section ZCR
variable {G : State} {M M' : zMd} {d rc rs pc d' mc ms : Nat} {ls : List (Option Value)} {st rest as : List Value} {ah : zH} {Q : zRs → zH → Prop} {idx n : Nat}
theorem zr_static (hd : decode M.2.1 pc = .ok (.invokestatic idx, 3)) (hM : zHas M') (hsig : zSig M'.1 n) (hn : as.length = n) (hen : (lg_sl as).length ≤ M'.2.2.1) (hw : (rest.map fun v => v.category).sum ≤ 8) (hd' : d' + 1 ≤ d) (hc : mc ≤ rc) (hs : ms ≤ rs) (hl : Cond.methodLink M.1.cls idx M'.1 ∈ lw_all) (hst : Cond.static M'.1 ∈ lw_all) (hstk : st = as.reverse ++ rest)
    (k : zW G M' d' mc ms 0 (zent as) [] ah (zK G M d (rc - mc) (rs - ms) pc 3 ls rest Q)) : zW G M d rc rs pc ls st ah Q := by
  intro p l e R s m args below meth c H locs cells slots C hR hP hS L hL
  intro T hT X
  obtain ⟨r1, r2, r3, r4⟩ := id hR
  have hM5 := hM.2.2.2.2
  have hcw := C.w (args := args) hM.2.1
  have hB := z_back (R := R) (p := p) (e := e) (below := below) (s := s) (sargs := args) (W9 := 8) (len := 3) (z_met (l := l) hM hen k C.tr) hM C.tb C.wo.1 (by omega) (by omega)
  have hsz : (F0 m pc L st).locals.size = c.maxLocals := hL.1.trans C.ml.symm
  have hW8 : 2 * (F0 m pc L st).monitorRoom + (rest.map fun v => v.category).sum ≤ 8 := by show 2 * 0 + _ ≤ 8; omega
  refine z_after (as := as.toArray) (len := 3) (rest := rest) C hR hS hL hT hc hs ?_
  unfold zcw at hcw
  cases hh : M'.2.2.2.2 with
  | nil =>
    rw [hh] at hcw
    exact vx_callS X C.x C.own (C.w hl) (C.w hst) (C.w hM.2.2.1) hcw hM.2.2.2.1 hB (g := F0 m pc L st) rfl hsz (fun sig h => hn.trans (hsig sig h)) hstk hW8 (by rw [C.b]; exact hd) (z_pre C hR hP hS hT hc hs)
  | cons x t =>
    rw [hh] at hcw
    exact vx_callSX X C.x C.own (C.w hl) (C.w hst) (C.w hM.2.2.1) hcw hM.2.2.2.1 hB (g := F0 m pc L st) rfl hsz (fun sig h => hn.trans (hsig sig h)) hstk hW8 (by rw [C.b]; exact hd) (z_pre C hR hP hS hT hc hs)

theorem zr_staticN {host : String} (hnh : M'.2.2.2.2 = []) (hd : decode M.2.1 pc = .ok (.invokestatic idx, 3)) (hM : zHas M') (hsig : zSig M'.1 n) (hn : as.length = n) (hen : (lg_sl as).length ≤ M'.2.2.1) (hw : (rest.map fun v => v.category).sum ≤ 8) (hd' : d' + 1 ≤ d) (hc : mc ≤ rc) (hs : ms ≤ rs) (hl : Cond.methodLinkNest M.1.cls idx M'.1 host ∈ lw_tbl) (hst : Cond.static M'.1 ∈ lw_all) (hstk : st = as.reverse ++ rest)
    (k : zW G M' d' mc ms 0 (zent as) [] ah (zK G M d (rc - mc) (rs - ms) pc 3 ls rest Q)) : zW G M d rc rs pc ls st ah Q := by
  intro p l e R s m args below meth c H locs cells slots C hR hP hS L hL
  intro T hT X
  obtain ⟨r1, r2, r3, r4⟩ := id hR
  have hM5 := hM.2.2.2.2
  have hcw := C.w (args := args) hM.2.1
  have hB := z_back (R := R) (p := p) (e := e) (below := below) (s := s) (sargs := args) (W9 := 8) (len := 3) (z_met (l := l) hM hen k C.tr) hM C.tb C.wo.1 (by omega) (by omega)
  have hsz : (F0 m pc L st).locals.size = c.maxLocals := hL.1.trans C.ml.symm
  have hW8 : 2 * (F0 m pc L st).monitorRoom + (rest.map fun v => v.category).sum ≤ 8 := by show 2 * 0 + _ ≤ 8; omega
  refine z_after (as := as.toArray) (len := 3) (rest := rest) C hR hS hL hT hc hs ?_
  unfold zcw at hcw
  rw [hnh] at hcw
  exact vx_callSN X C.x C.own (z_nestM C.tb C.wo.1 hl) (C.w hst) (C.w hM.2.2.1) hcw hM.2.2.2.1 hB (g := F0 m pc L st) rfl hsz (fun sig h => hn.trans (hsig sig h)) hstk hW8 (by rw [C.b]; exact hd) (z_pre C hR hP hS hT hc hs)

theorem zr_virt {b : Nat} {Cn : String} (hd : decode M.2.1 pc = .ok (.invokevirtual idx, 3)) (hM : zHas M') (hsig : zSig M'.1 n) (hn : as.length = n) (hen : (lg_sl (.ref b :: as)).length ≤ M'.2.2.1) (hw : (rest.map fun v => v.category).sum ≤ 8) (hd' : d' + 1 ≤ d) (hc : mc ≤ rc) (hs : ms ≤ rs) (hl : Cond.methodLink M.1.cls idx M'.1 ∈ lw_all) (hin : Cond.instanceMethod M'.1 ∈ lw_all) (hse : Cond.selects Cn M'.1 M'.1 ∈ lw_all) (hstk : st = as.reverse ++ .ref b :: rest) (hr : zRc G ah b Cn)
    (k : zW G M' d' mc ms 0 (zent (.ref b :: as)) [] ah (zK G M d (rc - mc) (rs - ms) pc 3 ls rest Q)) : zW G M d rc rs pc ls st ah Q := by
  intro p l e R s m args below meth c H locs cells slots C hR hP hS L hL
  intro T hT X
  obtain ⟨r1, r2, r3, r4⟩ := id hR
  have hM5 := hM.2.2.2.2
  have hcw := C.w (args := args) hM.2.1
  have hB := z_back (R := R) (p := p) (e := e) (below := below) (s := s) (sargs := args) (W9 := 8) (len := 3) (z_met (l := l) hM hen k C.tr) hM C.tb C.wo.1 (by omega) (by omega)
  have hsz : (F0 m pc L st).locals.size = c.maxLocals := hL.1.trans C.ml.symm
  have hW8 : 2 * (F0 m pc L st).monitorRoom + (rest.map fun v => v.category).sum ≤ 8 := by show 2 * 0 + _ ≤ 8; omega
  obtain ⟨cellB, q1, q2, q3⟩ := hr.cell C hP hS
  rw [← hT] at q1
  refine z_after (as := (Value.ref b :: as).toArray) (len := 3) (rest := rest) C hR hS hL hT hc hs ?_
  unfold zcw at hcw
  cases hh : M'.2.2.2.2 with
  | nil =>
    rw [hh] at hcw
    exact vx_callV (C := Cn) X C.x C.own (C.w hl) (C.w hin) (C.w hse) hcw hM.2.2.2.1 hB q1 q2 q3 (g := F0 m pc L st) rfl hsz (fun sig h => hn.trans (hsig sig h)) hstk hW8 (by rw [C.b]; exact hd) (z_pre C hR hP hS hT hc hs)
  | cons x t =>
    rw [hh] at hcw
    exact vx_callVX (C := Cn) X C.x C.own (C.w hl) (C.w hin) (C.w hse) hcw hM.2.2.2.1 hB q1 q2 q3 (g := F0 m pc L st) rfl hsz (fun sig h => hn.trans (hsig sig h)) hstk hW8 (by rw [C.b]; exact hd) (z_pre C hR hP hS hT hc hs)

theorem zr_virtN {b : Nat} {Cn : String} {host : String} (hnh : M'.2.2.2.2 = []) (hd : decode M.2.1 pc = .ok (.invokevirtual idx, 3)) (hM : zHas M') (hsig : zSig M'.1 n) (hn : as.length = n) (hen : (lg_sl (.ref b :: as)).length ≤ M'.2.2.1) (hw : (rest.map fun v => v.category).sum ≤ 8) (hd' : d' + 1 ≤ d) (hc : mc ≤ rc) (hs : ms ≤ rs) (hl : Cond.methodLinkNest M.1.cls idx M'.1 host ∈ lw_tbl) (hin : Cond.instanceMethod M'.1 ∈ lw_all) (hse : Cond.selects Cn M'.1 M'.1 ∈ lw_all) (hstk : st = as.reverse ++ .ref b :: rest) (hr : zRc G ah b Cn)
    (k : zW G M' d' mc ms 0 (zent (.ref b :: as)) [] ah (zK G M d (rc - mc) (rs - ms) pc 3 ls rest Q)) : zW G M d rc rs pc ls st ah Q := by
  intro p l e R s m args below meth c H locs cells slots C hR hP hS L hL
  intro T hT X
  obtain ⟨r1, r2, r3, r4⟩ := id hR
  have hM5 := hM.2.2.2.2
  have hcw := C.w (args := args) hM.2.1
  have hB := z_back (R := R) (p := p) (e := e) (below := below) (s := s) (sargs := args) (W9 := 8) (len := 3) (z_met (l := l) hM hen k C.tr) hM C.tb C.wo.1 (by omega) (by omega)
  have hsz : (F0 m pc L st).locals.size = c.maxLocals := hL.1.trans C.ml.symm
  have hW8 : 2 * (F0 m pc L st).monitorRoom + (rest.map fun v => v.category).sum ≤ 8 := by show 2 * 0 + _ ≤ 8; omega
  obtain ⟨cellB, q1, q2, q3⟩ := hr.cell C hP hS
  rw [← hT] at q1
  refine z_after (as := (Value.ref b :: as).toArray) (len := 3) (rest := rest) C hR hS hL hT hc hs ?_
  unfold zcw at hcw
  rw [hnh] at hcw
  exact vx_callVN (C := Cn) X C.x C.own (z_nestM C.tb C.wo.1 hl) (C.w hin) (C.w hse) hcw hM.2.2.2.1 hB q1 q2 q3 (g := F0 m pc L st) rfl hsz (fun sig h => hn.trans (hsig sig h)) hstk hW8 (by rw [C.b]; exact hd) (z_pre C hR hP hS hT hc hs)

/-- an inherited method, found by the receiver's class -/
theorem zr_virtU {b : Nat} {Cn : String} {x : MethodName} {owner : String} (hnh : M'.2.2.2.2 = []) (hd : decode M.2.1 pc = .ok (.invokevirtual idx, 3)) (hM : zHas M') (hsig : zSig x n) (hn : as.length = n) (hen : (lg_sl (.ref b :: as)).length ≤ M'.2.2.1) (hw : (rest.map fun v => v.category).sum ≤ 8) (hd' : d' + 1 ≤ d) (hc : mc ≤ rc) (hs : ms ≤ rs) (hl : Cond.methodLink M.1.cls idx x ∈ lw_all) (hsm : Cond.sameMethod x.cls owner x.name x.desc ∈ lw_all) (hdc : Cond.declares ⟨owner, x.name, x.desc⟩ ∈ lw_tbl ∨ (Cond.instanceMethod ⟨owner, x.name, x.desc⟩ ∈ lw_all ∧ ∃ (b9 : ByteArray) (m9 : Nat) (r9 : Option FieldType), Cond.code ⟨owner, x.name, x.desc⟩ b9 m9 r9 ∈ lw_all)) (ho : owner ≠ "java/lang/invoke/MethodHandle" ∧ owner ≠ "java/lang/invoke/VarHandle") (hin : Cond.instanceMethod M'.1 ∈ lw_all) (hse : Cond.selects Cn x M'.1 ∈ lw_all) (hstk : st = as.reverse ++ .ref b :: rest) (hr : zRc G ah b Cn)
    (k : zW G M' d' mc ms 0 (zent (.ref b :: as)) [] ah (zK G M d (rc - mc) (rs - ms) pc 3 ls rest Q)) : zW G M d rc rs pc ls st ah Q := by
  intro p l e R s m args below meth c H locs cells slots C hR hP hS L hL
  intro T hT X
  obtain ⟨r1, r2, r3, r4⟩ := id hR
  have hM5 := hM.2.2.2.2
  have hcw := C.w (args := args) hM.2.1
  have hB := z_back (R := R) (p := p) (e := e) (below := below) (s := s) (sargs := args) (W9 := 8) (len := 3) (z_met (l := l) hM hen k C.tr) hM C.tb C.wo.1 (by omega) (by omega)
  have hsz : (F0 m pc L st).locals.size = c.maxLocals := hL.1.trans C.ml.symm
  have hW8 : 2 * (F0 m pc L st).monitorRoom + (rest.map fun v => v.category).sum ≤ 8 := by show 2 * 0 + _ ≤ 8; omega
  obtain ⟨cellB, q1, q2, q3⟩ := hr.cell C hP hS
  rw [← hT] at q1
  refine z_after (as := (Value.ref b :: as).toArray) (len := 3) (rest := rest) C hR hS hL hT hc hs ?_
  have hdecl : va_Decl s ⟨owner, x.name, x.desc⟩ := by
    rcases hdc with hdc | ⟨hdc, b9, m9, r9, hdc2⟩
    · exact va_Decl.abs (va_Nw.of (A := args) rfl (C.tb.wt C.wo.1 hdc rfl))
    · exact va_Decl.of (C.w (args := args) hdc) (C.w (args := args) hdc2)
  unfold zcw at hcw
  rw [hnh] at hcw
  exact vx_callVU (C := Cn) X C.x C.own (C.w hl) (C.w hsm) hdecl ho (C.w hse) (C.w hin) hcw hB q1 q2 q3 (g := F0 m pc L st) rfl hsz (fun sig h => hn.trans (hsig sig h)) hstk hW8 (by rw [C.b]; exact hd) (z_pre C hR hP hS hT hc hs)

/-- super.m(..) -/
theorem zr_super {b : Nat} {Cn : String} (hnh : M'.2.2.2.2 = []) (hd : decode M.2.1 pc = .ok (.invokespecial idx, 3)) (hM : zHas M') (hsig : zSig M'.1 n) (hn : as.length = n) (hen : (lg_sl (.ref b :: as)).length ≤ M'.2.2.1) (hw : (rest.map fun v => v.category).sum ≤ 8) (hd' : d' + 1 ≤ d) (hc : mc ≤ rc) (hs : ms ≤ rs) (hl : Cond.methodLink M.1.cls idx M'.1 ∈ lw_all) (hsm : Cond.sameMethod M'.1.cls M'.1.cls M'.1.name M'.1.desc ∈ lw_all) (hsu : Cond.superclass M.1.cls M'.1.cls ∈ lw_all) (hin : Cond.instanceMethod M'.1 ∈ lw_all) (hno : M'.1.name ≠ "<init>") (hstk : st = as.reverse ++ .ref b :: rest) (hr : zRc G ah b Cn)
    (k : zW G M' d' mc ms 0 (zent (.ref b :: as)) [] ah (zK G M d (rc - mc) (rs - ms) pc 3 ls rest Q)) : zW G M d rc rs pc ls st ah Q := by
  intro p l e R s m args below meth c H locs cells slots C hR hP hS L hL
  intro T hT X
  obtain ⟨r1, r2, r3, r4⟩ := id hR
  have hM5 := hM.2.2.2.2
  have hcw := C.w (args := args) hM.2.1
  have hB := z_back (R := R) (p := p) (e := e) (below := below) (s := s) (sargs := args) (W9 := 8) (len := 3) (z_met (l := l) hM hen k C.tr) hM C.tb C.wo.1 (by omega) (by omega)
  have hsz : (F0 m pc L st).locals.size = c.maxLocals := hL.1.trans C.ml.symm
  have hW8 : 2 * (F0 m pc L st).monitorRoom + (rest.map fun v => v.category).sum ≤ 8 := by show 2 * 0 + _ ≤ 8; omega
  obtain ⟨cellB, q1, q2, q3⟩ := hr.cell C hP hS
  rw [← hT] at q1
  refine z_after (as := (Value.ref b :: as).toArray) (len := 3) (rest := rest) C hR hS hL hT hc hs ?_
  obtain ⟨kB, hkB, -⟩ := Vm.findClass_spec q3
  unfold zcw at hcw
  rw [hnh] at hcw
  exact vx_callSU X C.x C.own (C.w hl) (C.w hsm) (C.w hsu) (C.w hin) hcw hno hB q1 q2 hkB (g := F0 m pc L st) rfl hsz (fun sig h => hn.trans (hsig sig h)) hstk hW8 (by rw [C.b]; exact hd) (z_pre C hR hP hS hT hc hs)

theorem zr_init {b : Nat} (hnh : M'.2.2.2.2 = []) (hnr : M'.2.2.2.1 = none) (hni : M'.1.name = "<init>") (hd : decode M.2.1 pc = .ok (.invokespecial idx, 3)) (hM : zHas M') (hsig : zSig M'.1 n) (hn : as.length = n) (hen : (lg_sl (.ref b :: as)).length ≤ M'.2.2.1) (hw : (rest.map fun v => v.category).sum ≤ 8) (hd' : d' + 1 ≤ d) (hc : mc ≤ rc) (hs : ms ≤ rs) (hl : Cond.methodLink M.1.cls idx M'.1 ∈ lw_all) (hin : Cond.instanceMethod M'.1 ∈ lw_all) (hstk : st = as.reverse ++ .ref b :: rest)
    (k : zW G M' d' mc ms 0 (zent (.ref b :: as)) [] ah (zK G M d (rc - mc) (rs - ms) pc 3 ls rest Q)) : zW G M d rc rs pc ls st ah Q := by
  intro p l e R s m args below meth c H locs cells slots C hR hP hS L hL
  intro T hT X
  obtain ⟨r1, r2, r3, r4⟩ := id hR
  have hM5 := hM.2.2.2.2
  have hcw := C.w (args := args) hM.2.1
  have hB := z_back (R := R) (p := p) (e := e) (below := below) (s := s) (sargs := args) (W9 := 8) (len := 3) (z_met (l := l) hM hen k C.tr) hM C.tb C.wo.1 (by omega) (by omega)
  have hsz : (F0 m pc L st).locals.size = c.maxLocals := hL.1.trans C.ml.symm
  have hW8 : 2 * (F0 m pc L st).monitorRoom + (rest.map fun v => v.category).sum ≤ 8 := by show 2 * 0 + _ ≤ 8; omega
  refine z_after (as := (Value.ref b :: as).toArray) (len := 3) (rest := rest) C hR hS hL hT hc hs ?_
  unfold zcw at hcw
  rw [hnh, hnr] at hcw
  exact vx_callI X C.x C.own hni (C.w hl) (C.w hin) hcw hM.2.2.2.1 hB (g := F0 m pc L st) rfl hsz (fun sig h => hn.trans (hsig sig h)) hstk hW8 (by rw [C.b]; exact hd) (z_pre C hR hP hS hT hc hs)
theorem zr_initN {b : Nat} {host : String} (hnh : M'.2.2.2.2 = []) (hnr : M'.2.2.2.1 = none) (hni : M'.1.name = "<init>") (hd : decode M.2.1 pc = .ok (.invokespecial idx, 3)) (hM : zHas M') (hsig : zSig M'.1 n) (hn : as.length = n) (hen : (lg_sl (.ref b :: as)).length ≤ M'.2.2.1) (hw : (rest.map fun v => v.category).sum ≤ 8) (hd' : d' + 1 ≤ d) (hc : mc ≤ rc) (hs : ms ≤ rs) (hl : Cond.methodLinkNest M.1.cls idx M'.1 host ∈ lw_tbl) (hin : Cond.instanceMethod M'.1 ∈ lw_all) (hstk : st = as.reverse ++ .ref b :: rest)
    (k : zW G M' d' mc ms 0 (zent (.ref b :: as)) [] ah (zK G M d (rc - mc) (rs - ms) pc 3 ls rest Q)) : zW G M d rc rs pc ls st ah Q := by
  intro p l e R s m args below meth c H locs cells slots C hR hP hS L hL
  intro T hT X
  obtain ⟨r1, r2, r3, r4⟩ := id hR
  have hM5 := hM.2.2.2.2
  have hcw := C.w (args := args) hM.2.1
  have hB := z_back (R := R) (p := p) (e := e) (below := below) (s := s) (sargs := args) (W9 := 8) (len := 3) (z_met (l := l) hM hen k C.tr) hM C.tb C.wo.1 (by omega) (by omega)
  have hsz : (F0 m pc L st).locals.size = c.maxLocals := hL.1.trans C.ml.symm
  have hW8 : 2 * (F0 m pc L st).monitorRoom + (rest.map fun v => v.category).sum ≤ 8 := by show 2 * 0 + _ ≤ 8; omega
  refine z_after (as := (Value.ref b :: as).toArray) (len := 3) (rest := rest) C hR hS hL hT hc hs ?_
  unfold zcw at hcw
  rw [hnh, hnr] at hcw
  exact vx_callIN X C.x C.own hni (z_nestM C.tb C.wo.1 hl) (C.w hin) hcw hM.2.2.2.1 hB (g := F0 m pc L st) rfl hsz (fun sig h => hn.trans (hsig sig h)) hstk hW8 (by rw [C.b]; exact hd) (z_pre C hR hP hS hT hc hs)
/-- java.lang.Object's constructor -/
theorem zr_objInit {a : Nat} (hd : decode M.2.1 pc = .ok (.invokespecial idx, 3)) (hl : Cond.methodLink M.1.cls idx Lib.objectInit ∈ lw_all) (hin : Cond.instanceMethod Lib.objectInit ∈ lw_all) (hco : Cond.code Lib.objectInit ⟨#[0xb1]⟩ 1 none ∈ lw_all) (hw : (rest.map fun v => v.category).sum ≤ 8) (h1 : 1 ≤ d) (k : zW G M d rc rs (pc + 3) ls rest ah Q) : zW G M d rc rs pc ls (.ref a :: rest) ah Q := by
  intro p l e R s m args below meth c H locs cells slots C hR hP hS L hL
  obtain ⟨r1, r2, r3, r4⟩ := id hR
  exact W.objInit C.x C.b C.own (C.w hl) (C.w hin) (C.w hco) rfl (hL.1.trans C.ml.symm) rfl hd (by omega) (by show 2 * 0 + _ + _ ≤ _; omega) (k p l e R s m args below meth c H locs cells slots C hR hP hS L hL)
/-- a call by an interface, of an object of a known class -/
theorem zr_iface {b : Nat} {Cn : String} {x : MethodName} {cnt : Nat} (hnh : M'.2.2.2.2 = []) (hd : decode M.2.1 pc = .ok (.invokeinterface idx cnt, 5)) (hM : zHas M') (hsig : zSig x n) (hn : as.length = n) (hen : (lg_sl (.ref b :: as)).length ≤ M'.2.2.1) (hw : (rest.map fun v => v.category).sum ≤ 8) (hd' : d' + 1 ≤ d) (hc : mc ≤ rc) (hs : ms ≤ rs) (hl : Cond.methodLink M.1.cls idx x ∈ lw_all) (hq1 : Cond.declares x ∈ lw_tbl) (hq2 : Cond.interfaceMethod x.cls x.cls x.name x.desc ∈ lw_tbl) (hq3 : Cond.publicMethod M'.1 ∈ lw_tbl) (hq4 : Cond.unhidden Cn x.name x.desc ∈ lw_tbl) (hq5 : Cond.castable Cn x.cls ∈ lw_tbl) (hxx : x.cls ≠ "java/lang/invoke/MethodHandle" ∧ x.cls ≠ "java/lang/invoke/VarHandle") (hin : Cond.instanceMethod M'.1 ∈ lw_all) (hse : Cond.selects Cn x M'.1 ∈ lw_all) (hstk : st = as.reverse ++ .ref b :: rest) (hr : zRc G ah b Cn)
    (k : zW G M' d' mc ms 0 (zent (.ref b :: as)) [] ah (zK G M d (rc - mc) (rs - ms) pc 5 ls rest Q)) : zW G M d rc rs pc ls st ah Q := by
  intro p l e R s m args below meth c H locs cells slots C hR hP hS L hL
  intro T hT X
  obtain ⟨r1, r2, r3, r4⟩ := id hR
  have hM5 := hM.2.2.2.2
  have hcw := C.w (args := args) hM.2.1
  have hB := z_back (R := R) (p := p) (e := e) (below := below) (s := s) (sargs := args) (W9 := 8) (len := 5) (z_met (l := l) hM hen k C.tr) hM C.tb C.wo.1 (by omega) (by omega)
  have hsz : (F0 m pc L st).locals.size = c.maxLocals := hL.1.trans C.ml.symm
  have hW8 : 2 * (F0 m pc L st).monitorRoom + (rest.map fun v => v.category).sum ≤ 8 := by show 2 * 0 + _ ≤ 8; omega
  obtain ⟨cellB, q1, q2, q3⟩ := hr.cell C hP hS
  rw [← hT] at q1
  refine z_after (as := (Value.ref b :: as).toArray) (len := 5) (rest := rest) C hR hS hL hT hc hs ?_
  obtain ⟨kB, hkB, -⟩ := Vm.findClass_spec q3
  have hF : va_Fw Cn x M'.1 s := by
    obtain ⟨A0, h1, -⟩ := C.tb
    exact va_Fw.moved hxx C.wo.1.alike (va_Fw.of (h1 _ hq1) (h1 _ hq2) (h1 _ hq3) (h1 _ hq4) (h1 _ hq5))
  obtain ⟨w1, w2, w3, w4, w5⟩ := hF
  unfold zcw at hcw
  rw [hnh] at hcw
  exact vx_callIF (C := Cn) X C.x C.own (C.w hl) (va_Nw.use rfl w1) (va_Nw.use rfl w2) (C.w hse) (C.w hin) (va_Nw.use rfl w3) (va_Nw.use rfl w4) (va_Nw.use rfl w5) hcw hxx hB q1 q2 q3 hkB (g := F0 m pc L st) rfl hsz (fun sig h => hn.trans (hsig sig h)) hstk hW8 (by rw [C.b]; exact hd) (z_pre C hR hP hS hT hc hs)

end ZCR
section ZTH
variable {p : Program} {l : Launch} {e : Env} {R : Room} {s : State} {m : MethodId} {args : Array Value} {below : List Frame} {meth : Method} {c : Code} {H : Heap} {locs : List Loc} {cells slots : Nat} {Q : State → Prop}
variable {ls : Array Slot} {rest : List Value}
/-- 'new E()', by vx_make0's proof: nothing else is said of the heap than that the old cells stay -/
theorem z_make0 {cc : ByteArray} {pc : Nat} (hexec : p.tables.exec = Jvm.exec) (hb : c.code = cc) (hl : l.stackTraces = false) {own cls : String} {names : List String} {ik ic : Nat} {A : Nat → Prop}
    (hown : s.vm.findClass own = some m.cls) (hcls : Bundle.fit cls = true) (hnames : ∀ n ∈ names, Bundle.fit n = true)
    (hk : (Cond.classLink own ik cls).before args s = true) (hini : (Cond.initialized cls).before args s = true) (hat : ∀ w ∈ vx_at0 own ic cls names, w.before args s = true)
    (hgood : ∀ w ∈ Cond.classLink own ik cls :: Cond.initialized cls :: vx_at0 own ic cls names, vx_ot w = true)
    (hU : vx_Zq Bundle.tN "UNASSIGNED_STACK" Bundle.steD A s s.heap) (hN : vx_Zq Bundle.tN "SUPPRESSED_SENTINEL" Bundle.listD A s s.heap) (hS : va_S A s.heap H locs) (hsize : ls.size = c.maxLocals)
    (d0 : decode cc pc = .ok (.new ik, 3)) (d3 : decode cc (pc + 3) = .ok (.dup, 1)) (d4 : decode cc (pc + 4) = .ok (.invokespecial ic, 3))
    (hRframes : names.length + 3 < R.frames) (hRlocals : (rest.map fun v => v.category).sum + (13 * (names.length + 1) + 42) ≤ R.locals) (hRcells : cells + 1 ≤ R.cells) (hRslots : slots + 6 ≤ R.slots)
    (kk : ∀ (H1 : Heap), H.size ≤ H1.size → (∀ q : Nat, q < H.size → H1[q]? = H[q]?) → (∃ ce : Cell, H1[H.size]? = some ce ∧ ce.vm = .none ∧ s.vm.findClass cls = some ce.cls) → W p l e R s m args below meth c H1 locs (cells + 1) (slots + 6) Q (F0 m (pc + 7) ls (.ref H.size :: rest))) :
    W p l e R s m args below meth c H locs cells slots Q (F0 m pc ls rest) := by
  intro T hT X
  subst hT
  have htr : e.platform.stackTraces = false := (show e.platform.stackTraces = l.stackTraces by rw [X.admits.platform]).trans hl
  have Y := vx_rebase X (R' := { frames := R.frames, locals := R.locals, cells := 1, slots := 6 }) (Nat.le_refl _) (Nat.le_refl _) hRcells hRslots
  obtain ⟨s', hA'⟩ : ∃ z, z = (T.setVm s.vm).setFrames (.invoking m args :: below) := ⟨_, rfl⟩
  rw [← hA'] at Y
  have hvm : s'.vm = s.vm := by rw [hA']; rfl
  have hhp : s'.heap = T.heap := by rw [hA']; rfl
  have hW0 : s.WarmedH s'.vm := by rw [hvm]; exact State.WarmedH.refl s
  have hat' : ∀ w ∈ vx_at0 own ic cls names, w.before args s' = true := fun w hw => vx_ot_at hW0 hvm.symm (hgood w (List.mem_cons_of_mem _ (List.mem_cons_of_mem _ hw))) (hat w hw)
  have hk' : (Cond.classLink own ik cls).before args s' = true := vx_ot_at hW0 hvm.symm (hgood _ List.mem_cons_self) hk
  have hini' : (Cond.initialized cls).before args s' = true := vx_ot_at hW0 hvm.symm (hgood _ (List.mem_cons_of_mem _ List.mem_cons_self)) hini
  have hU' : vx_Zq Bundle.tN "UNASSIGNED_STACK" Bundle.steD A s' s'.heap := by rw [hhp]; exact vx_Zq.moved hW0.alike (hU.kept hS.2.1)
  have hN' : vx_Zq Bundle.tN "SUPPRESSED_SENTINEL" Bundle.listD A s' s'.heap := by rw [hhp]; exact vx_Zq.moved hW0.alike (hN.kept hS.2.1)
  have h : ∀ w ∈ Bundle.ownAtoms0 own ic cls names, w.before args s' = true := vx_own hat' (vx_isRefq hU'.1) (vx_isRefq hN'.1) hU'.2.word hN'.2.word
  have hown' : s'.vm.findClass own = some m.cls := by rw [hvm]; exact hown
  have hins : (Cond.instantiable cls 6).before args s' = true := h _ (by simp [Bundle.ownAtoms0])
  obtain ⟨vm₁, cX, kX, hfX, hkX, -, -, X₁, st1⟩ := Y.newCold hexec (own := own) (C := cls) (index := ik) (n := 6) hown' hk' hins hini'
    (g := F0 m pc ls rest) rfl (by rw [hb]; exact d0) (Nat.le_refl _) (Nat.le_refl _)
  generalize hT1 : (T.setVm vm₁).pushCell { cls := cX, slots := kX.instanceTypes.map defaultValue, vm := .none } = T1 at X₁ st1
  have hcat : (Value.ref T.heap.size).category = 1 := rfl
  have hcellA : T1.heap[T.heap.size]? = some (freshCell cX kX) := by rw [← hT1]; exact State.heap_pushCell_size _ _
  have d3' : decode c.code (pc + 3) = .ok (.dup, 1) := by rw [hb]; exact d3
  obtain ⟨V, ce, L, Z, hL, hlt, hcl9, hvm9, st⟩ := vx_ctorMade0 X₁ hexec htr (own := own) (cls := cls) (names := names) (ic := ic) hown' hcls hnames h (fun x hx => nomatch hx) hfX hkX hcellA (by rw [hhp]; exact Nat.le_refl _)
    (g := { method := m, pc := pc + 4, locals := ls, stack := .ref T.heap.size :: .ref T.heap.size :: rest, locked := none }) rfl hsize (rest := rest) rfl
    (by rw [hb]; exact d4) hRframes (by simp only [List.map_cons, List.sum_cons, hcat]; omega)
  have Z0 := Stand.forget (locs := []) Z (fun y hy => by rw [hL y hy, hhp]; exact Nat.le_refl _)
  obtain ⟨f1, f2⟩ := vx_frame Z0.same
  rw [hhp] at f1 f2
  have hcid : s.vm.findClass cls = some ce.cls := by
    rw [hcl9, ← hvm]
    exact hfX
  have hh : (V.setCell T.heap.size ce).heap[T.heap.size]? = some ce := heapAt_setCell_self (s := V) ce hlt
  subst hA'
  have X5 := vx_back9 X Y Z0
  have X6 : Stand p l e R s m args below meth c (V.setCell T.heap.size ce) locs (cells + 1) (slots + 6) := { X5 with same := X5.same.mono (by omega) (by omega) }
  obtain ⟨t, a1, b1⟩ := kk (V.setCell T.heap.size ce).heap f1 (fun q hq => f2 q hq (fun z hz => nomatch hz)) ⟨ce, hh, hvm9, hcid⟩ _ rfl X6
  refine ⟨t, st1 _ ?_, b1⟩
  show Steps p.tables e below (T1.setTop { method := m, pc := pc + 3, locals := ls, stack := .ref T.heap.size :: rest, locked := none }) _
  jvm_step X₁.here [X₁.here.top, hexec, d3', Value.category]
  exact st _ a1
end ZTH
/-- what an exception's making asks of the tables -/
def zEx (own : String) (ik ic : Nat) (cls : String) (names : List String) : Prop := Bundle.fit cls = true ∧ (∀ n ∈ names, Bundle.fit n = true) ∧ Cond.classLink own ik cls ∈ lw_all ∧ Cond.initialized cls ∈ lw_all ∧ names.length ≤ 4 ∧ ∀ w ∈ vx_at0 own ic cls names, w ∈ lw_tbl ∧ z_gd w = true ∧ vx_ot w = true
/-- the two statics of Throwable: a reference or null each -/
def zThr (G : State) : Prop := vx_Zq Bundle.tN "UNASSIGNED_STACK" Bundle.steD (zA G) G G.heap ∧ vx_Zq Bundle.tN "SUPPRESSED_SENTINEL" Bundle.listD (zA G) G G.heap
/-- E is none of T -/
def zNc (a b : String) : Prop := ∀ G, zTb G → va_Nc a b G
section ZXR
variable {G : State} {M : zMd} {d rc rs pc : Nat} {ls : List (Option Value)} {st : List Value} {ah : zH} {Q : zRs → zH → Prop}
/-- throw new E() -/
theorem zr_throw0 {ik ic ci N : Nat} {cls : String} {names : List String} {T : u_T} {ty : Nat → FieldType} (hK : zKn ci cls T N ty) (hx : zEx M.1.cls ik ic cls names) (hth : zTb G → zThr G) (d0 : decode M.2.1 pc = .ok (.new ik, 3)) (d3 : decode M.2.1 (pc + 3) = .ok (.dup, 1)) (d4 : decode M.2.1 (pc + 4) = .ok (.invokespecial ic, 3)) (d7 : decode M.2.1 (pc + 7) = .ok (.athrow, 1))
    (hw : (st.map fun v => v.category).sum ≤ 8) (hd : 8 ≤ d) (hc : 1 ≤ rc) (hs : 6 ≤ rs) (k : ∀ q : Nat, ah q = none → zX G M d (rc - 1) (rs - 6) (pc + 7) ls cls q (z_up ah q (.inl (ci, []))) Q) : zW G M d rc rs pc ls st ah Q := by
  intro p l e R s m args below meth c H locs cells slots C hR hP hS L hL
  obtain ⟨r1, r2, r3, r4⟩ := id hR
  obtain ⟨x1, x2, x3, x4, x5, x6⟩ := hx
  obtain ⟨t1, t2⟩ := hth C.tb
  have hlow := z_lowA C.wo (va_S.rf : va_S (zA G) s.heap s.heap [])
  have hot : ∀ w ∈ Cond.classLink M.1.cls ik cls :: Cond.initialized cls :: vx_at0 M.1.cls ic cls names, vx_ot w = true := by
    intro w hw
    rcases List.mem_cons.mp hw with e | hw
    · rw [e]; rfl
    · rcases List.mem_cons.mp hw with e | hw
      · rw [e]; rfl
      · exact (x6 w hw).2.2
  refine z_make0 C.x C.b C.tr C.own x1 x2 (C.w x3) (C.w x4) (fun w hw => C.tb.wt C.wo.1 (x6 w hw).1 (x6 w hw).2.1) hot (vx_Zq.moved C.wo.1.alike (t1.kept hlow)) (vx_Zq.moved C.wo.1.alike (t2.kept hlow)) hS (hL.1.trans C.ml.symm) d0 d3 d4 (by omega) (by omega) (by omega) (by omega) (fun H1 e1 e2 e3 => ?_)
  refine vx_athrow C.x C.b d7 ?_
  have hfree : ah H.size = none := by
    cases hx : ah H.size with
    | none => rfl
    | some o => exact absurd (hP.lt hx) (Nat.lt_irrefl _)
  have hat : zAt G H.size (.inl (ci, [])) H1 := by
    obtain ⟨ce, h1, h2, h3⟩ := e3
    exact ⟨ce, h1, h2, Option.some.inj (h3.symm.trans (hK.kn C).2.1), Nat.zero_le _, fun k v hv => by simp at hv⟩
  exact k H.size hfree p l e R s m args below meth c H1 locs (cells + 1) (slots + 6) C ⟨r1, r2, by omega, by omega⟩ ((hP.kept e2).upd (Nat.le_trans C.wo.2.1 hS.1) hat (fun _ _ _ => rfl)) ⟨Nat.le_trans hS.1 e1, fun x h1 h2 => (e2 x (Nat.lt_of_lt_of_le h1 hS.1)).trans (hS.2.1 x h1 h2), hS.2.2⟩ e3 L hL st
/-- an exception that was made before is thrown -/
theorem zr_athrow {ci N q : Nat} {cls : String} {T : u_T} {ty : Nat → FieldType} {fs : List Value} (hd : decode M.2.1 pc = .ok (.athrow, 1)) (hK : zKn ci cls T N ty) (h : ah q = some (.inl (ci, fs))) (k : zX G M d rc rs pc ls cls q ah Q) : zW G M d rc rs pc ls (.ref q :: st) ah Q := by
  intro p l e R s m args below meth c H locs cells slots C hR hP hS L hL
  obtain ⟨-, cell, h1, h2, h3, -⟩ := hP q _ h
  exact vx_athrow C.x C.b hd (k p l e R s m args below meth c H locs cells slots C hR hP hS ⟨cell, h1, h2, by rw [h3]; exact (hK.kn C).2.1⟩ L hL st)
/-- a handler for anything -/
theorem zX_any {E : String} {q : Nat} (i : Nat) (x : ExceptionTableEntry) (hsp : tableOf M.2.2.2.2 = (tableOf M.2.2.2.2).take i ++ x :: (tableOf M.2.2.2.2).drop (i + 1)) (hpass : ∀ z ∈ (tableOf M.2.2.2.2).take i, covers z pc = false ∨ (z.catchType ≠ 0 ∧ ∃ nm : String, Cond.classLink M.1.cls z.catchType nm ∈ lw_all ∧ zNc E nm)) (hcov : covers x pc = true) (h0 : x.catchType = 0)
    (k : zW G M d rc rs x.handlerPc ls [.ref q] ah Q) : zX G M d rc rs pc ls E q ah Q := by
  intro p l e R s m args below meth c H locs cells slots C hR hP hS hce L hL st
  obtain ⟨ce, h1, h2, h3⟩ := hce
  intro T hT X
  have hpl : e.platform.magicAccessors = ({} : Platform).magicAccessors := by rw [X.admits.platform]
  obtain ⟨vm', X', stp⟩ := X.thenCaughtThrough q (g := F0 m pc L st) rfl (Steps.refl _) (by rw [hT]; exact h1) (by rw [h2]; rfl) (by obtain ⟨k9, h9, -⟩ := Vm.findClass_spec h3; exact ⟨k9, h9⟩) _ x _ (by rw [C.hh]; exact hsp)
    (fun z hz => by
      rcases hpass z hz with h | ⟨hz0, nm, hl1, hn1⟩
      · exact Or.inl h
      · obtain ⟨c6, hc6, hcl6⟩ := Cond.classLink_spec C.own (C.w (args := args) hl1) e.platform hpl
        obtain ⟨a8, b8, g1, g2, g3⟩ := z_Nc_moved C.wo.1.alike (hn1 G C.tb)
        cases Option.some.inj (g1.symm.trans h3)
        cases Option.some.inj (g2.symm.trans hc6)
        exact Or.inr ⟨hz0, _, hcl6, g3⟩) hcov (Or.inl h0)
  obtain ⟨t, a1, b1⟩ := k p l e R s m args below meth c H locs cells slots C hR hP hS L hL (T.setVm vm') hT X'
  exact ⟨t, stp.trans a1, b1⟩
/-- no handler stands over pc -/
theorem zX_out {E : String} {q : Nat} (hout : ∀ x ∈ tableOf M.2.2.2.2, covers x pc = false) (hQ : Q (.inr (E, q)) ah) : zX G M d rc rs pc ls E q ah Q := by
  intro p l e R s m args below meth c H locs cells slots C hR hP hS hce L hL st
  obtain ⟨ce, h1, h2, h3⟩ := hce
  obtain ⟨r1, r2, r3, r4⟩ := id hR
  intro T hT X
  obtain ⟨st1, hrun, hend, hW, hsm⟩ := X.leaveThrown q (g := F0 m pc L st) rfl rfl rfl (by rw [C.hh]; exact hout) C.lk
  refine ⟨_, st1, .threw q, hrun, hend, Or.inr ⟨q, E, ce, ah, rfl, hQ, ?_, ?_, ⟨?_, h2, h3⟩, hW, locs, hsm.mono (by omega) (by omega), hS.2.2⟩⟩
  · show zRep G ah T.heap
    rw [hT]; exact hP
  · exact ⟨by show s.heap.size ≤ T.heap.size; rw [hT]; exact hS.1, by show ∀ q : Nat, q < s.heap.size → ¬ zA G q → T.heap[q]? = _; rw [hT]; exact hS.2.1⟩
  · show T.heap[q]? = some ce
    rw [hT]; exact h1
theorem zX_catch {E nm : String} {q : Nat} (i : Nat) (x : ExceptionTableEntry) (hsp : tableOf M.2.2.2.2 = (tableOf M.2.2.2.2).take i ++ x :: (tableOf M.2.2.2.2).drop (i + 1)) (hpass : ∀ z ∈ (tableOf M.2.2.2.2).take i, covers z pc = false ∨ (z.catchType ≠ 0 ∧ ∃ nm : String, Cond.classLink M.1.cls z.catchType nm ∈ lw_all ∧ zNc E nm)) (hcov : covers x pc = true) (h0 : x.catchType ≠ 0)
    (hl : Cond.classLink M.1.cls x.catchType nm ∈ lw_all) (hca : Cond.castable E nm ∈ lw_tbl) (k : zW G M d rc rs x.handlerPc ls [.ref q] ah Q) : zX G M d rc rs pc ls E q ah Q := by
  intro p l e R s m args below meth c H locs cells slots C hR hP hS hce L hL st
  obtain ⟨ce, h1, h2, h3⟩ := hce
  refine vx_catch C.own _ x _ (by rw [C.hh]; exact hsp) (fun z hz => ?_) hcov h0 (C.w hl) (va_Nw.use rfl (z_castable C.tb C.wo.1 hca)) h1 h2 h3 (k p l e R s m args below meth c H locs cells slots C hR hP hS L hL)
  rcases hpass z hz with hz | ⟨hz, nm', hz1, hz2⟩
  · exact Or.inl hz
  · exact Or.inr ⟨hz, nm', C.w hz1, z_Nc_moved C.wo.1.alike (hz2 G C.tb)⟩
end ZXR
