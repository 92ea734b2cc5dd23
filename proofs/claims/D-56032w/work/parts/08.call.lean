set_option maxRecDepth 100000
/-! ===== calls ===== -/
def zcw (M : zMd) : Cond := match M.2.2.2.2 with
  | [] => .code M.1 M.2.1 M.2.2.1 M.2.2.2.1
  | h :: t => .codeWith M.1 M.2.1 M.2.2.1 M.2.2.2.1 (h :: t)
def zHas (M : zMd) : Prop := plainFor M.1 = true ∧ zcw M ∈ lw_all ∧ Cond.initialized M.1.cls ∈ lw_all ∧ (M.1.cls ≠ "java/lang/invoke/MethodHandle" ∧ M.1.cls ≠ "java/lang/invoke/VarHandle") ∧ M.2.2.1 ≤ 64
/-- the locals at a method's entry -/
def zent : List Value → List (Option Value)
  | [] => []
  | v :: r => match z_c2 (some (some v)) with
    | true => some v :: none :: zent r
    | false => some v :: zent r
theorem z_c2_iff (v : Value) : z_c2 (some (some v)) = true ↔ v.category = 2 := by cases v <;> simp [z_c2, Value.category]
theorem zent_args : ∀ (vs : List Value) (i : Nat), zas i (zent vs) = lv_args i vs := by
  intro vs
  induction vs with
  | nil => intro i; rfl
  | cons v r ih =>
    intro i
    unfold zent lv_args
    cases h : z_c2 (some (some v)) with
    | true =>
      rw [if_pos ((z_c2_iff v).mp h)]
      show (i, v) :: zas (i + 1 + 1) (zent r) = _
      rw [ih]
    | false =>
      rw [if_neg (fun z => by rw [(z_c2_iff v).mpr z] at h; cases h)]
      show (i, v) :: zas (i + 1) (zent r) = _
      rw [ih]
theorem z_code {M : zMd} {args : Array Value} {s : State} {m : MethodId} (hn : s.methodNamed? M.1 = some m) (h : (zcw M).before args s = true) :
    ∃ meth c, s.vm.method? m = some meth ∧ meth.code = some c ∧ c.code = M.2.1 ∧ c.maxLocals = M.2.2.1 ∧ meth.sig.returnType = M.2.2.2.1 ∧ meth.locks = false ∧ c.exceptionTable.toList = tableOf M.2.2.2.2 ∧ parseMethodDescriptor M.1.desc = some meth.sig := by
  unfold zcw at h
  cases hh : M.2.2.2.2 with
  | nil =>
    rw [hh] at h
    obtain ⟨meth, c, h1, h2, h3, h4, h5, h6, h7, h8⟩ := Cond.code_spec hn h
    exact ⟨meth, c, h1, h2, h3, h4, h5, h6, by rw [Array.isEmpty_iff.mp h7]; rfl, h8⟩
  | cons x t =>
    rw [hh] at h
    obtain ⟨m', meth, c, hn', h1, h2, h3, h4, h5, h6, h7, h8⟩ := Cond.codeWith_spec h
    cases hn.symm.trans hn'
    exact ⟨meth, c, h1, h2, h3, h4, h6, h7, by rw [← h5, table_eq], h8⟩
def zPre (G : State) (ah : zH) (as : List Value) : Array Value → State → Prop := fun a U => a = as.toArray ∧ zTb G ∧ zWo G U ∧ zRep G ah U.heap
abbrev zRoom (d rc rs : Nat) : Room := { frames := d, cells := rc, slots := rs, locals := 128 * d }
theorem z_met {G : State} {M : zMd} {d rc rs : Nat} {ah : zH} {Q : zRs → zH → Prop} {as : List Value} (hM : zHas M) (hlen : (lg_sl as).length ≤ M.2.2.1) (h : zW G M d rc rs 0 (zent as) [] ah Q) {l : Launch} (hl : l.stackTraces = false) :
    MetFree l M.1 (headSpec [zcw M] (zRoom d rc rs)) (zPre G ah as) (fun _ _ _ _ _ => True) (zQ G Q rc rs) := by
  refine MetFree.of_bodySF (code := M.2.1) (maxLocals := M.2.2.1) (ret := M.2.2.2.1) hM.1 ?_ ?_
  · intro args s m hp hn
    have hw : (zcw M).before args s = true := atoms_spec (ws := [zcw M]) hp _ List.mem_cons_self
    obtain ⟨meth, c, h1, h2, h3, h4, h5, h6, -, -⟩ := z_code hn hw
    exact ⟨meth, c, h1, h2, h3, h4, h5, h6⟩
  · intro p e s m args below meth c s₁ B hml hP _
    obtain ⟨rfl, hT, hW, hR⟩ := hP
    have hw : (zcw M).before as.toArray s = true := atoms_spec (ws := [zcw M]) B.pre _ List.mem_cons_self
    obtain ⟨meth', c', h1, h2, -, -, -, -, h7, -⟩ := z_code B.named hw
    cases h1.symm.trans B.method
    cases h2.symm.trans (Stand.of_body B).code
    have C : zCx G M p l s m meth c := ⟨B.exec, hl, B.bytes, hml, B.named, B.returns, B.notSynchronized, h7, hT, hW, findClass_of_methodNamed B.named, (name_of_methodNamed B.named B.method).1⟩
    have hh0 : s₁.heap = s.heap := by rw [B.state]; rfl
    have hL := lv_entry as (n := M.2.2.1) hlen
    have k := h p l e (zRoom d rc rs) s m as.toArray below meth c s.heap [] 0 0 C ⟨Nat.le_refl _, Nat.le_refl _, by show 0 + rc ≤ rc; omega, by show 0 + rs ≤ rs; omega⟩ hR va_S.rf _ (by unfold zLoc; rw [zent_args]; exact hL)
    obtain ⟨t, a1, o, b1, b2, b3⟩ := k s₁ hh0 (Stand.of_body B)
    rw [← lg_entry_eq] at a1
    exact ⟨t, o, a1, b1, b2, b3⟩
def zPost (G : State) (Q : zRs → zH → Prop) (mc ms : Nat) : Pt → Array Value → Option Value → Pt → Prop := fun A _ v B =>
  ∃ (t : State) (L : List Loc) (ah : zH), B.U.heap = t.heap ∧ Q (.inl v) ah ∧ zRep G ah t.heap ∧ (A.U.heap.size ≤ t.heap.size ∧ ∀ q : Nat, q < A.U.heap.size → ¬ zA G q → t.heap[q]? = A.U.heap[q]?) ∧ B.locs = A.locs ++ L ∧ (∀ q ∈ L, zA G q.base) ∧ B.cells = A.cells + mc ∧ B.slots = A.slots + ms
def zPostX (G : State) (Q : zRs → zH → Prop) (mc ms : Nat) : Pt → Array Value → Addr → Pt → Prop := fun A _ q B =>
  ∃ (t : State) (L : List Loc) (ah : zH) (E : String) (ce : Cell), B.U.heap = t.heap ∧ Q (.inr (E, q)) ah ∧ zRep G ah t.heap ∧ (A.U.heap.size ≤ t.heap.size ∧ ∀ q : Nat, q < A.U.heap.size → ¬ zA G q → t.heap[q]? = A.U.heap[q]?) ∧
    (t.heap[q]? = some ce ∧ ce.vm = .none ∧ A.U.vm.findClass E = some ce.cls) ∧ B.locs = A.locs ++ L ∧ (∀ q ∈ L, zA G q.base) ∧ B.cells = A.cells + mc ∧ B.slots = A.slots + ms
def zPreB (G : State) (R : Room) (mc ms : Nat) (ah : zH) (as : List Value) : Pt → Array Value → Prop := fun A a => A.cells + mc ≤ R.cells ∧ A.slots + ms ≤ R.slots ∧ zPre G ah as a A.U
section ZB
variable {l : Launch} {R : Room} {p : Program} {e : Env} {below : List Frame} {s : State} {sargs : Array Value} {len W9 : Nat} {G : State}
/-- follows vx_back -/
theorem z_back {M : zMd} {d mc ms : Nat} {ah : zH} {as : List Value} {Q : zRs → zH → Prop} (hM : MetFree l M.1 (headSpec [zcw M] (zRoom d mc ms)) (zPre G ah as) (fun _ _ _ _ _ => True) (zQ G Q mc ms)) (hH : zHas M) (hT : zTb G) (hG : G.WarmedH s.vm)
    (hframes : d + 1 ≤ R.frames) (hlocals : W9 + (M.2.2.1 + 11) + 128 * d ≤ R.locals) :
    vx_Back l R p e below s sargs M.1 len W9 (zPreB G R mc ms ah as) (zPost G Q mc ms) (zPostX G Q mc ms) := by
  intro m meth c A g ig mk a X hg hsize hdg hW hn hp
  have hGU : G.WarmedH A.U.vm := State.WarmedH.trans hG X.warmed
  have h2 : (zcw M).before a A.U = true := hT.w hGU hH.2.1
  have h1 : (headSpec [zcw M] (zRoom d mc ms)).pre.before a A.U = true := atoms_intro fun w hw => by
    rw [List.mem_singleton] at hw
    rw [hw]; exact h2
  have h3 : (Cond.initialized M.1.cls).before a A.U = true := hT.w hGU hH.2.2.1
  have h4 : A.cells + (headSpec [zcw M] (zRoom d mc ms)).room.cells ≤ R.cells := hp.1
  have h5 : A.slots + (headSpec [zcw M] (zRoom d mc ms)).room.slots ≤ R.slots := hp.2.1
  have hPc : zPre G ah as a (A.U.calling g mk a) := hp.2.2
  obtain ⟨U, Ls, c0, s0⟩ := A
  dsimp only [Pt.U, Pt.locs, Pt.cells, Pt.slots] at h1 h2 h3 h4 h5 X hn hPc ⊢
  obtain ⟨methY, cY, hmY, hcY, -, hlY, -, -, -, -⟩ := z_code hn h2
  obtain ⟨kY, hkY, -⟩ := className_of_methodNamed hn
  have hinitY : kY.init = .initialized := Cond.initialized_spec (findClass_of_methodNamed hn) hkY h3
  have h : At U g.method c below := by rw [hg]; exact X.here
  have hlocals9 : W9 + (M.2.2.1 + 11) + (headSpec [zcw M] (zRoom d mc ms)).room.locals ≤ R.locals := hlocals
  have happ : (headSpec [zcw M] (zRoom d mc ms)).appliesLoose M.1 e.platform (U.calling g mk a) = true :=
    Spec.appliesLoose_calling (g := g) h hdg hn hkY hinitY
      (X.room_calling (g := g) (R' := (headSpec [zcw M] (zRoom d mc ms)).room) hsize hmY hcY hframes (by rw [hlY]; omega) h4 h5) h1
  obtain ⟨mid, hmid⟩ := h.above
  have hfr : (U.setTop g).frames = (.java g :: mid) ++ below := by rw [State.frames_setTop' g h.top, hmid]; rfl
  obtain ⟨o, s₂, hsteps, -, hend, hq⟩ := Steps.callFree hM p X.admits X.cas X.clock (acts := []) hfr happ hPc trivial
  have hq' : zQ G Q mc ms a (U.calling g mk a) o s₂ := hq
  rw [State.frames_setTop' g h.top] at hend
  obtain ⟨g₀, hg0⟩ := Option.isSome_iff_exists.mp h.top
  obtain ⟨r, hr⟩ := State.topJava?_eq_some.mp hg0
  have hr' : (({ U with heap := s₂.heap, slotsUsed := s₂.slotsUsed } : State).setVm s₂.vm).frames = .java g₀ :: r := hr
  rcases hq' with ⟨v, ah', rfl, hQ, hRp, hF, L, hfe, hL⟩ | ⟨q, E, ce, ah', rfl, hQ, hRp, hF, hce, hW₂, L, hsm, hL⟩
  · obtain ⟨-, hW₂, e2, q2, q3, q4, q5, q6⟩ := id hfe
    have e3 : s₂ = ({ (U.calling g mk a).setFrames s₂.frames with heap := s₂.heap, slotsUsed := s₂.slotsUsed } : State).setVm s₂.vm := by
      have : s₂ = ({ s₂ with vm := (U.calling g mk a).vm } : State).setVm s₂.vm := rfl
      rw [e2] at this
      exact this
    obtain ⟨c₂, i₂, len₂, hc₂, hd₂, hf₂⟩ := hend
    have hW' : U.WarmedH s₂.vm := hW₂
    have hcc : c₂ = c := by
      have h1 : s₂.code? g.method = U.code? g.method := by
        rw [State.code?_eq, State.code?_eq, hW'.alike.method?]
      exact Option.some.inj (hc₂.symm.trans (h1.trans h.code))
    subst hcc
    have hlen : len₂ = len := by rw [hdg] at hd₂; cases hd₂; rfl
    subst hlen
    have hs₂ : s₂ = (({ U with heap := s₂.heap, slotsUsed := s₂.slotsUsed } : State).setVm s₂.vm).setTop { g with pc := g.pc + len₂, stack := v.toList ++ g.stack } := by
      refine e3.trans ?_
      rw [hf₂, State.calling_eq h.top, State.setFrames_setFrames, State.setTop_of_frames _ hr', hr]
      rfl
    have hsame : U.sameButNew ({ U with heap := s₂.heap, slotsUsed := s₂.slotsUsed } : State) L mc ms := by
      refine ⟨?_, q2, q3, q4, q5, q6⟩
      obtain ⟨t, ht, -⟩ := State.frames_cons hr
      show ({ U with heap := s₂.heap, slotsUsed := s₂.slotsUsed } : State) = { U.setFrames U.frames with heap := s₂.heap, slotsUsed := s₂.slotsUsed }
      rw [State.setFrames_self ht]
    subst hg
    refine Or.inl ⟨v, ⟨(({ U with heap := s₂.heap, slotsUsed := s₂.slotsUsed } : State).setVm s₂.vm), Ls ++ L, c0 + mc, s0 + ms⟩,
      ⟨X.admits, X.cas, X.clock, X.frames, X.room, X.hears, X.method, X.code, (X.here.setHeapUsed s₂.heap s₂.slotsUsed).setVm hW'.alike, X.tail, State.WarmedH.trans X.warmed hW', X.limits, X.bytes, X.same.trans (hsame.setVm s.vm)⟩,
      ⟨s₂, L, ah', rfl, hQ, hRp, hF, rfl, hL, rfl, rfl⟩, ?_⟩
    show Steps p.tables e below _ ((({ U with heap := s₂.heap, slotsUsed := s₂.slotsUsed } : State).setVm s₂.vm).setTop { g with pc := g.pc + len₂, stack := v.toList ++ g.stack })
    rw [← hs₂]
    exact hsteps
  · obtain ⟨e2, q2, q3, q4, q5, q6⟩ := id hsm
    have e3 : s₂ = ({ (U.calling g mk a).setFrames s₂.frames with heap := s₂.heap, slotsUsed := s₂.slotsUsed } : State).setVm s₂.vm := by
      have : s₂ = ({ s₂ with vm := (U.calling g mk a).vm } : State).setVm s₂.vm := rfl
      rw [e2] at this
      exact this
    have hf₂ : s₂.frames = .throwing q :: .java g :: U.frames.tail := hend
    have hW' : U.WarmedH s₂.vm := hW₂
    have hs₂ : s₂ = ((({ U with heap := s₂.heap, slotsUsed := s₂.slotsUsed } : State).setVm s₂.vm).setTop g).pushFrame (.throwing q) := by
      refine e3.trans ?_
      rw [hf₂, State.calling_eq h.top, State.setFrames_setFrames, State.pushFrame, State.frames_setTop _ hr', State.setTop_of_frames _ hr', State.setFrames_setFrames, hr]
      rfl
    have hsame : U.sameButNew ({ U with heap := s₂.heap, slotsUsed := s₂.slotsUsed } : State) L mc ms := by
      refine ⟨?_, q2, q3, q4, q5, q6⟩
      obtain ⟨t, ht, -⟩ := State.frames_cons hr
      show ({ U with heap := s₂.heap, slotsUsed := s₂.slotsUsed } : State) = { U.setFrames U.frames with heap := s₂.heap, slotsUsed := s₂.slotsUsed }
      rw [State.setFrames_self ht]
    subst hg
    refine Or.inr ⟨q, ⟨(({ U with heap := s₂.heap, slotsUsed := s₂.slotsUsed } : State).setVm s₂.vm), Ls ++ L, c0 + mc, s0 + ms⟩,
      ⟨X.admits, X.cas, X.clock, X.frames, X.room, X.hears, X.method, X.code, (X.here.setHeapUsed s₂.heap s₂.slotsUsed).setVm hW'.alike, X.tail, State.WarmedH.trans X.warmed hW', X.limits, X.bytes, X.same.trans (hsame.setVm s.vm)⟩,
      ⟨s₂, L, ah', E, ce, rfl, hQ, hRp, hF, hce, rfl, hL, rfl, rfl⟩, ?_⟩
    show Steps p.tables e below _ (((({ U with heap := s₂.heap, slotsUsed := s₂.slotsUsed } : State).setVm s₂.vm).setTop g).pushFrame (.throwing q))
    rw [← hs₂]
    exact hsteps
end ZB
/-- what is owed behind a call -/
def zK (G : State) (M : zMd) (d rc rs pc len : Nat) (ls : List (Option Value)) (rest : List Value) (Q : zRs → zH → Prop) : zRs → zH → Prop := fun r ah => match r with
  | .inl v => zW G M d rc rs (pc + len) ls (v.toList ++ rest) ah Q
  | .inr x => zX G M d rc rs pc ls x.1 x.2 ah Q
theorem zK_i {G : State} {M : zMd} {d rc rs pc len : Nat} {ls : List (Option Value)} {rest : List Value} {Q : zRs → zH → Prop} {ah : zH} {v : Value} (k : zW G M d rc rs (pc + len) ls (v :: rest) ah Q) : zK G M d rc rs pc len ls rest Q (.inl (some v)) ah := k
theorem zK_v {G : State} {M : zMd} {d rc rs pc len : Nat} {ls : List (Option Value)} {rest : List Value} {Q : zRs → zH → Prop} {ah : zH} (k : zW G M d rc rs (pc + len) ls rest ah Q) : zK G M d rc rs pc len ls rest Q (.inl none) ah := k
theorem zK_x {G : State} {M : zMd} {d rc rs pc len : Nat} {ls : List (Option Value)} {rest : List Value} {Q : zRs → zH → Prop} {ah : zH} {E : String} {q : Nat} (k : zX G M d rc rs pc ls E q ah Q) : zK G M d rc rs pc len ls rest Q (.inr (E, q)) ah := k
section ZAF
variable {G : State} {M : zMd} {p : Program} {l : Launch} {e : Env} {R : Room} {s : State} {m : MethodId} {args : Array Value} {below : List Frame} {meth : Method} {c : Code} {H : Heap} {locs : List Loc} {cells slots : Nat}
theorem z_after {T : State} {d rc rs mc ms pc len : Nat} {ls : List (Option Value)} {rest st : List Value} {Q : zRs → zH → Prop} {L : Array Slot} {as : Array Value} (C : zCx G M p l s m meth c) (hR : zRm R cells slots d rc rs) (hS : va_S (zA G) s.heap H locs) (hL : zLoc L M.2.2.1 ls) (hT : T.heap = H) (hc : mc ≤ rc) (hs : ms ≤ rs)
    (hres : (∃ (v : Option Value) (vm₁ : Vm) (B : Pt), s.WarmedH vm₁ ∧ Stand p l e R s m args below meth c B.U B.locs B.cells B.slots ∧ zPost G (zK G M d (rc - mc) (rs - ms) pc len ls rest Q) mc ms ⟨T.setVm vm₁, locs, cells, slots⟩ as v B ∧
        ∀ target, Steps p.tables e below (B.U.setTop { (F0 m pc L st) with pc := (F0 m pc L st).pc + len, stack := v.toList ++ rest }) target → Steps p.tables e below (T.setTop (F0 m pc L st)) target) ∨
      (∃ (q : Addr) (vm₁ : Vm) (B : Pt), s.WarmedH vm₁ ∧ Stand p l e R s m args below meth c B.U B.locs B.cells B.slots ∧ zPostX G (zK G M d (rc - mc) (rs - ms) pc len ls rest Q) mc ms ⟨T.setVm vm₁, locs, cells, slots⟩ as q B ∧
        Steps p.tables e below (T.setTop (F0 m pc L st)) ((B.U.setTop { (F0 m pc L st) with stack := rest }).pushFrame (.throwing q)))) :
    ∃ t, Steps p.tables e below (T.setTop (F0 m pc L st)) t ∧ zEnd G below args s R Q t := by
  obtain ⟨r1, r2, r3, r4⟩ := hR
  have hSn : ∀ (H' : Heap) (L9 : List Loc), H.size ≤ H'.size → (∀ q : Nat, q < H.size → ¬ zA G q → H'[q]? = H[q]?) → (∀ q ∈ L9, zA G q.base) → va_S (zA G) s.heap H' (locs ++ L9) := fun H' L9 h1 h2 h3 =>
    ⟨Nat.le_trans hS.1 h1, fun q q1 q2 => by rw [h2 q (Nat.lt_of_lt_of_le q1 hS.1) q2]; exact hS.2.1 q q1 q2, fun z hz => by
      rcases List.mem_append.mp hz with z1 | z1
      · exact hS.2.2 _ z1
      · exact h3 _ z1⟩
  rcases hres with ⟨v, vm₁, ⟨U', l2, c2, s2⟩, hW₁, X', ⟨t, L9, ah', e1, hQ, hRp, ⟨f1, f2⟩, h1, hL9, h2, h3⟩, stp⟩ | ⟨q, vm₁, ⟨U', l2, c2, s2⟩, hW₁, X', ⟨t, L9, ah', E, ce, e1, hQ, hRp, ⟨f1, f2⟩, ⟨g1, g2, g3⟩, h1, hL9, h2, h3⟩, stp⟩
  · dsimp only [Pt.U, Pt.locs, Pt.cells, Pt.slots] at X' e1 h1 h2 h3 stp f1 f2
    subst h1; subst h2; subst h3
    have f1' : H.size ≤ t.heap.size := by rw [← hT]; exact f1
    have f2' : ∀ q : Nat, q < H.size → ¬ zA G q → t.heap[q]? = H[q]? := fun q q1 q2 => by rw [← hT] at q1 ⊢; exact f2 q q1 q2
    obtain ⟨t9, a1, b1⟩ := hQ p l e R s m args below meth c t.heap (locs ++ L9) (cells + mc) (slots + ms) C ⟨r1, r2, by omega, by omega⟩ hRp (hSn _ _ f1' f2' hL9) L hL U' e1 X'
    exact ⟨t9, stp t9 a1, b1⟩
  · dsimp only [Pt.U, Pt.locs, Pt.cells, Pt.slots] at X' e1 h1 h2 h3 stp f1 f2 g3
    subst h1; subst h2; subst h3
    have f1' : H.size ≤ t.heap.size := by rw [← hT]; exact f1
    have f2' : ∀ q : Nat, q < H.size → ¬ zA G q → t.heap[q]? = H[q]? := fun q q1 q2 => by rw [← hT] at q1 ⊢; exact f2 q q1 q2
    obtain ⟨t9, a1, b1⟩ := hQ p l e R s m args below meth c t.heap (locs ++ L9) (cells + mc) (slots + ms) C ⟨r1, r2, by omega, by omega⟩ hRp (hSn _ _ f1' f2' hL9) ⟨ce, g1, g2, vx_cls hW₁ g3⟩ L hL rest U' e1 X'
    exact ⟨t9, stp.trans a1, b1⟩
theorem z_pre {T : State} {mc ms d rc rs : Nat} {ah : zH} {as : List Value} (C : zCx G M p l s m meth c) (hR : zRm R cells slots d rc rs) (hP : zRep G ah H) (hS : va_S (zA G) s.heap H locs) (hT : T.heap = H) (hc : mc ≤ rc) (hs : ms ≤ rs) : ∀ vm₁, s.WarmedH vm₁ → zPreB G R mc ms ah as ⟨T.setVm vm₁, locs, cells, slots⟩ as.toArray := by
  intro vm₁ hW
  obtain ⟨-, -, r3, r4⟩ := hR
  refine ⟨by show cells + mc ≤ R.cells; omega, by show slots + ms ≤ R.slots; omega, rfl, C.tb, ⟨State.WarmedH.trans C.wo.1 hW, ?_, ?_⟩, ?_⟩
  · show G.heap.size ≤ T.heap.size
    rw [hT]; exact Nat.le_trans C.wo.2.1 hS.1
  · intro q hq
    show T.heap[q]? = _
    rw [hT]; exact z_low C.wo hS q hq
  · show zRep G ah T.heap
    rw [hT]; exact hP
end ZAF
