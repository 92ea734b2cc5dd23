set_option maxRecDepth 100000
/-! ===== a class that is made: its number, its fields ===== -/
def zKn (ci : Nat) (Cn : String) (T : u_T) (N : Nat) (ty : Nat → FieldType) : Prop := zCl[ci]? = some (Cn, T, N) ∧ (∀ w ∈ u_ws Cn T N, w ∈ lw_all) ∧ (∃ n, Cond.instantiable Cn n ∈ lw_all) ∧
  (∀ k, k < N → parseFieldDescriptor (T k).2.2.1 = some (ty k)) ∧ ∀ a, a < N → ∀ b, b < N → a ≠ b → (T a).2.1 ≠ (T b).2.1
section ZK
variable {G : State} {M : zMd} {p : Program} {l : Launch} {s : State} {m : MethodId} {meth : Method} {c : Code} {args : Array Value} {ci N : Nat} {Cn : String} {T : u_T} {ty : Nat → FieldType}
theorem zKn.at' (h : zKn ci Cn T N ty) (hT : zTb G) : ClassAt G Cn (zC G ci) := by
  obtain ⟨h1, -, ⟨n, h3⟩, -, -⟩ := h
  obtain ⟨A0, h4, -⟩ := hT
  obtain ⟨cC, h5⟩ := classAt_of (h4 _ (lw_all_tbl h3))
  have e : zC G ci = cC := by
    unfold zC
    rw [h1]
    show (G.vm.findClass Cn).getD 0 = cC
    rw [h5.1]
    rfl
  rw [e]
  exact h5
theorem zKn.kn0 (h : zKn ci Cn T N ty) (hT : zTb G) : u_Kn G Cn T N (zC G ci) (zI G ci) := by
  refine ⟨fun k hk => ?_, h.at' hT⟩
  obtain ⟨A0, h4, -⟩ := hT
  have hin := h.2.1
  obtain ⟨i, hi⟩ := u_found (u_lays (ws := lw_tbl) h4 (fun w hw => lw_all_tbl (hin w hw)) hk)
  obtain ⟨cf, kf, fi, fd, hf, hs⟩ := hi
  refine ⟨cf, kf, fi, fd, hf, ?_⟩
  unfold zI
  rw [h.1]
  show fd.slot = (match G.fieldFound? (T k).1 (T k).2.1 (T k).2.2.1 with | some w => w.2.2.2.slot | none => 0)
  rw [hf]
theorem zKn.kn (h : zKn ci Cn T N ty) (C : zCx G M p l s m meth c) : u_Kn s Cn T N (zC G ci) (zI G ci) := u_Kn_moved C.wo.1.alike (h.kn0 C.tb)
theorem zKn.in' (h : zKn ci Cn T N ty) (C : zCx G M p l s m meth c) : ∀ w ∈ u_ws Cn T N, w.before args s = true := fun w hw => C.w (h.2.1 w hw)
theorem zKn.apart (h : zKn ci Cn T N ty) (C : zCx G M p l s m meth c) : ∀ x y, x < N → y < N → x ≠ y → zI G ci x ≠ zI G ci y := by
  intro x y hx hy hne
  obtain ⟨hS, -⟩ := h.kn C
  obtain ⟨_, _, _, fa, hia, ea⟩ := hS x hx
  obtain ⟨_, _, _, fb, hib, eb⟩ := hS y hy
  rw [← ea, ← eb]
  have hts := h.in' (args := #[]) C
  refine u_apart (u_lays hts (fun w h => h) hx) (u_lays hts (fun w h => h) hy) hia hib ?_
  rw [(State.fieldFound?_type hia (h.2.2.2.1 x hx)).1, (State.fieldFound?_type hib (h.2.2.2.1 y hy)).1]
  exact h.2.2.2.2 x hx y hy hne
theorem zKn.nN (h : zKn ci Cn T N ty) : zN ci = N := by unfold zN; rw [h.1]
end ZK
/-! ===== static things: objects, their fields, arrays, read off the law's entry ===== -/
def zSO (G : State) (E : String) (a : Nat) : Prop := va_O E a (zA G) G G.heap
def zSF (G : State) (o n d : String) (v : Value) (a : Nat) : Prop := va_OF o n d v a (zA G) G G.heap
def zSA (G : State) (ty : FieldType) (a n : Nat) (f : Nat → Value) : Prop := va_T ty a n f (zA G) G G.heap
def zSV (G : State) (C n d : String) (v : Value) : Prop := va_Z C n d v (zA G) G G.heap
def zAr (G : State) (ah : zH) (a : Nat) (ty : FieldType) (n : Nat) (f : Nat → Value) : Prop := ah a = some (.inr (ty, n, f)) ∨ zSA G ty a n f
section ZH
variable {G : State} {M : zMd} {p : Program} {l : Launch} {e : Env} {R : Room} {s : State} {m : MethodId} {args : Array Value} {below : List Frame} {meth : Method} {c : Code} {H : Heap} {locs : List Loc} {cells slots : Nat}
theorem z_low (hW : zWo G s) (hS : va_S (zA G) s.heap H locs) : ∀ a : Nat, a < G.heap.size → H[a]? = G.heap[a]? := fun a ha => by
  rw [hS.2.1 a (Nat.lt_of_lt_of_le ha hW.2.1) (fun h => absurd ha (Nat.not_lt.mpr h)), hW.2.2 a ha]
theorem z_lowA (hW : zWo G s) (hS : va_S (zA G) s.heap H locs) : ∀ a : Nat, a < G.heap.size → ¬ zA G a → H[a]? = G.heap[a]? := fun a ha _ => z_low hW hS a ha
theorem zAr.cell {ah : zH} {a n : Nat} {ty : FieldType} {f : Nat → Value} (h : zAr G ah a ty n f) (C : zCx G M p l s m meth c) (hP : zRep G ah H) (hS : va_S (zA G) s.heap H locs) :
    ∃ cell : Cell, H[a]? = some cell ∧ s.isArrayOf cell ty ∧ cell.vm ≠ .unknown ∧ n ≤ cell.slots.size ∧ cell.slots.size.toInt32 = Int32.ofNat n ∧ ∀ j : Nat, j < n → cell.slots[j]? = some (f j) := by
  rcases h with h | h
  · obtain ⟨-, cell, h1, h2, ⟨h3, -⟩, h4, h5⟩ := hP a _ h
    refine ⟨cell, h1, ⟨(fun k z => by rw [h2] at z; cases z), ?_⟩, (by rw [h2]; exact (fun z => by cases z)), by omega, by rw [h4], h5⟩
    exact ((arrOfT_moved C.wo.1.alike h3) 0 (fun _ => .null)).2
  · obtain ⟨cell, h1, h2, h3, h4, h5, h6, -⟩ := (va_T.moved C.wo.1.alike h).kept (z_lowA C.wo hS)
    exact ⟨cell, h1, h2, h3, h4, h5, h6⟩
/-- an object of this class stands here -/
def zRc (G : State) (ah : zH) (a : Nat) (Cn : String) : Prop := (∃ (ci : Nat) (fs : List Value) (T : u_T) (N : Nat) (ty : Nat → FieldType), zKn ci Cn T N ty ∧ ah a = some (.inl (ci, fs))) ∨ zSO G Cn a
theorem zRc.cell {ah : zH} {a : Nat} {Cn : String} (h : zRc G ah a Cn) (C : zCx G M p l s m meth c) (hP : zRep G ah H) (hS : va_S (zA G) s.heap H locs) :
    ∃ cell : Cell, H[a]? = some cell ∧ cell.vm.isStatics = false ∧ s.vm.findClass Cn = some cell.cls := by
  rcases h with ⟨ci, fs, T, N, ty, hK, h⟩ | h
  · obtain ⟨-, cell, h1, h2, h3, -⟩ := hP a _ h
    exact ⟨cell, h1, by rw [h2]; rfl, by rw [h3]; exact (hK.kn C).2.1⟩
  · obtain ⟨cell, h1, h2, h3, -⟩ := (va_O.moved C.wo.1.alike h).kept (z_lowA C.wo hS)
    exact ⟨cell, h1, h2, h3⟩
end ZH
section ZHR
variable {G : State} {M : zMd} {d rc rs pc : Nat} {ls : List (Option Value)} {st : List Value} {ah : zH} {Q : zRs → zH → Prop}
/-! ===== fields ===== -/
theorem zr_getf {ci k N a idx : Nat} {Cn ref : String} {T : u_T} {ty : Nat → FieldType} {fs : List Value} {v : Value} (hd : decode M.2.1 pc = .ok (.getfield idx, 3)) (hK : zKn ci Cn T N ty) (hk : k < N)
    (hl : Cond.fieldLink M.1.cls idx ref (T k).2.1 (T k).2.2.1 ∈ lw_all) (hs : ref = (T k).1 ∨ Cond.sameField ref (T k).1 (T k).2.1 (T k).2.2.1 ∈ lw_all) (h : ah a = some (.inl (ci, fs))) (hv : fs[k]? = some v)
    (kk : zW G M d rc rs (pc + 3) ls (v :: st) ah Q) : zW G M d rc rs pc ls (.ref a :: st) ah Q := by
  intro p l e R s m args below meth c H locs cells slots C hR hP hS L hL
  obtain ⟨-, cell, h1, h2, h3, -, h5⟩ := hP a _ h
  obtain ⟨hS', hfc, kC, hkC, hkind⟩ := hK.kn C
  obtain ⟨cf, kf, fi, f, hi, hsl⟩ := hS' k hk
  have hst := (u_facts hfc hkC (u_lays (hK.in' (args := args) C) (fun w h => h) hk) hi).1
  have hi2 : s.fieldFound? ref (T k).2.1 (T k).2.2.1 = some (cf, kf, fi, f) := by
    rcases hs with e | e
    · rw [e]; exact hi
    · exact u_same (C.w (args := args) e) _ hi
  exact W.getf C.x C.b C.own (C.w hl) hi2 hst h1 (by rw [h2]; exact fun z => by cases z) (by rw [hsl]; exact h5 k v hv) rfl rfl hd (kk p l e R s m args below meth c H locs cells slots C hR hP hS L hL)
theorem z_nestF {s : State} {args : Array Value} (T : zTb G) (hW : G.WarmedH s.vm) {a : String} {i : Nat} {b n d h : String} (hw : Cond.fieldLinkNest a i b n d h ∈ lw_tbl) : (Cond.fieldLinkNest a i b n d h).before args s = true := by
  obtain ⟨A0, h1, -⟩ := T
  exact va_Nw.use rfl (va_Nw.warmF hW (va_Nw.of rfl (h1 _ hw)))
theorem z_nestM {s : State} {args : Array Value} (T : zTb G) (hW : G.WarmedH s.vm) {a : String} {i : Nat} {x : MethodName} {h : String} (hw : Cond.methodLinkNest a i x h ∈ lw_tbl) : (Cond.methodLinkNest a i x h).before args s = true := by
  obtain ⟨A0, h1, -⟩ := T
  exact va_Nw.use rfl (va_Nw.warmM hW (va_Nw.of rfl (h1 _ hw)))
theorem z_castable {s : State} (T : zTb G) (hW : G.WarmedH s.vm) {a b : String} (hw : Cond.castable a b ∈ lw_tbl) : va_Nw (.castable a b) s := by
  obtain ⟨A0, h1, -⟩ := T
  exact va_Nw.warmC hW (va_Nw.of rfl (h1 _ hw))
theorem zr_getfN {ci k N a idx : Nat} {Cn host : String} {T : u_T} {ty : Nat → FieldType} {fs : List Value} {v : Value} (hd : decode M.2.1 pc = .ok (.getfield idx, 3)) (hK : zKn ci Cn T N ty) (hk : k < N)
    (hl : Cond.fieldLinkNest M.1.cls idx (T k).1 (T k).2.1 (T k).2.2.1 host ∈ lw_tbl) (h : ah a = some (.inl (ci, fs))) (hv : fs[k]? = some v)
    (kk : zW G M d rc rs (pc + 3) ls (v :: st) ah Q) : zW G M d rc rs pc ls (.ref a :: st) ah Q := by
  intro p l e R s m args below meth c H locs cells slots C hR hP hS L hL
  obtain ⟨-, cell, h1, h2, h3, -, h5⟩ := hP a _ h
  obtain ⟨hS', hfc, kC, hkC, hkind⟩ := hK.kn C
  obtain ⟨cf, kf, fi, f, hi, hsl⟩ := hS' k hk
  have hst := (u_facts hfc hkC (u_lays (hK.in' (args := args) C) (fun w h => h) hk) hi).1
  exact va_Wgetf C.x C.b C.own (z_nestF C.tb C.wo.1 hl) hi hst h1 (by rw [h2]; exact fun z => by cases z) (by rw [hsl]; exact h5 k v hv) rfl rfl hd (kk p l e R s m args below meth c H locs cells slots C hR hP hS L hL)
/-- a field of a static object -/
theorem zr_getfS {a idx : Nat} {ref n de : String} {v : Value} (hd : decode M.2.1 pc = .ok (.getfield idx, 3)) (hl : Cond.fieldLink M.1.cls idx ref n de ∈ lw_all) (h : zSF G ref n de v a)
    (kk : zW G M d rc rs (pc + 3) ls (v :: st) ah Q) : zW G M d rc rs pc ls (.ref a :: st) ah Q := by
  intro p l e R s m args below meth c H locs cells slots C hR hP hS L hL
  obtain ⟨cf, k, i, f, cell, h1, h2, h3, h4, h5, -⟩ := (va_OF.moved C.wo.1.alike h).kept (z_lowA C.wo hS)
  exact W.getf C.x C.b C.own (C.w hl) h1 h2 h3 h4 h5 rfl rfl hd (kk p l e R s m args below meth c H locs cells slots C hR hP hS L hL)
theorem zr_getfNS {a idx : Nat} {ref n de host : String} {v : Value} (hd : decode M.2.1 pc = .ok (.getfield idx, 3)) (hl : Cond.fieldLinkNest M.1.cls idx ref n de host ∈ lw_tbl) (h : zSF G ref n de v a)
    (kk : zW G M d rc rs (pc + 3) ls (v :: st) ah Q) : zW G M d rc rs pc ls (.ref a :: st) ah Q := by
  intro p l e R s m args below meth c H locs cells slots C hR hP hS L hL
  obtain ⟨cf, k, i, f, cell, h1, h2, h3, h4, h5, -⟩ := (va_OF.moved C.wo.1.alike h).kept (z_lowA C.wo hS)
  exact va_Wgetf C.x C.b C.own (z_nestF C.tb C.wo.1 hl) h1 h2 h3 h4 h5 rfl rfl hd (kk p l e R s m args below meth c H locs cells slots C hR hP hS L hL)
theorem zr_getstatic {idx : Nat} {ref n de : String} {v : Value} (hd : decode M.2.1 pc = .ok (.getstatic idx, 3)) (hl : Cond.fieldLink M.1.cls idx ref n de ∈ lw_all) (h : zSV G ref n de v)
    (kk : zW G M d rc rs (pc + 3) ls (v :: st) ah Q) : zW G M d rc rs pc ls st ah Q := by
  intro p l e R s m args below meth c H locs cells slots C hR hP hS L hL
  obtain ⟨cf, kf, fi, f, a, cell, h1, h2, h3, h4, h5, h6, h7, h8⟩ := (va_Z.moved C.wo.1.alike h).kept (z_lowA C.wo hS)
  exact W.gets C.x C.b C.own (C.w hl) h1 h2 h3 h4 h5 (fun z => by rw [z] at h6; cases h6) h7 rfl hd (kk p l e R s m args below meth c H locs cells slots C hR hP hS L hL)
/-- what a store into a cell leaves -/
theorem z_stored {H H' : Heap} {locs : List Loc} {s : State} {a i : Nat} {ah : zH} {o o' : zO} (hP : zRep G ah H) (h : ah a = some o) (hS : va_S (zA G) s.heap H locs) (e2 : H'.size = H.size) (e3 : ∀ q, q ≠ a → H'[q]? = H[q]?) (ho : zAt G a o' H') :
    zRep G (z_up ah a o') H' ∧ va_S (zA G) s.heap H' (locs ++ [⟨a, i⟩]) := by
  obtain ⟨hB, -⟩ := hP a o h
  refine ⟨hP.upd hB ho (fun q hq _ => e3 q hq), by rw [e2]; exact hS.1, fun q h1 h2 => ?_, fun z hz => ?_⟩
  · rw [e3 q (fun z => h2 (by rw [z]; exact hB))]
    exact hS.2.1 q h1 h2
  · rcases List.mem_append.mp hz with z | z
    · exact hS.2.2 _ z
    · rw [List.mem_singleton] at z
      subst z
      exact hB
theorem z_setF {ci N : Nat} {Cn : String} {T : u_T} {ty : Nat → FieldType} {p : Program} {l : Launch} {s : State} {m : MethodId} {meth : Method} {c : Code} {H' : Heap} {a k : Nat} {fs : List Value} {cell : Cell} {v : Value} (hK : zKn ci Cn T N ty) (C : zCx G M p l s m meth c) (h2 : cell.vm = .none) (h3 : cell.cls = zC G ci) (h4 : fs.length ≤ zN ci)
    (h5 : ∀ (k : Nat) (v : Value), fs[k]? = some v → cell.slots[zI G ci k]? = some v) (hk : k < fs.length) (e1 : H'[a]? = some (cell.setSlot (zI G ci k) v)) : zAt G a (.inl (ci, fs.set k v)) H' := by
  refine ⟨_, e1, h2, h3, by simpa using h4, fun j w hj => ?_⟩
  have hN := hK.nN
  rw [List.getElem?_set] at hj
  by_cases e : k = j
  · subst e
    rw [if_pos rfl, if_pos hk] at hj
    cases hj
    have hlt := k2_hasslot (h5 k _ (List.getElem?_eq_getElem hk))
    simp [Cell.setSlot, hlt]
  · rw [if_neg e] at hj
    have hj' : j < fs.length := (List.getElem?_eq_some_iff.mp hj).1
    rw [slot_ne cell v (hK.apart C k j (by omega) (by omega) e)]
    exact h5 j w hj
theorem zr_putf {ci k N a idx : Nat} {Cn ref : String} {T : u_T} {ty : Nat → FieldType} {fs : List Value} {v : Value} (hd : decode M.2.1 pc = .ok (.putfield idx, 3)) (hK : zKn ci Cn T N ty) (hk : k < N)
    (hl : Cond.fieldLink M.1.cls idx ref (T k).2.1 (T k).2.2.1 ∈ lw_all) (hs : ref = (T k).1 ∨ Cond.sameField ref (T k).1 (T k).2.1 (T k).2.2.1 ∈ lw_all) (hf : (T k).2.2.2 = false ∨ (T k).2.2.2 = true ∧ M.1.name = "<init>" ∧ (T k).1 = M.1.cls)
    (h : ah a = some (.inl (ci, fs))) (hlen : k < fs.length) (hn : narrow (ty k) v = v) (hfit : fits (ty k) v = true)
    (kk : zW G M d rc rs (pc + 3) ls st (z_up ah a (.inl (ci, fs.set k v))) Q) : zW G M d rc rs pc ls (v :: .ref a :: st) ah Q := by
  intro p l e R s m args below meth c H locs cells slots C hR hP hS L hL
  obtain ⟨-, cell, h1, h2, h3, h4, h5⟩ := hP a _ h
  obtain ⟨hS', hfc, kC, hkC, hkind⟩ := hK.kn C
  obtain ⟨cf, kf, fi, f, hi, hsl⟩ := hS' k hk
  have hts := hK.in' (args := args) C
  have hst := (u_facts hfc hkC (u_lays hts (fun w h => h) hk) hi).1
  have hlay := hts _ (u_in_lay hk)
  unfold u_lay at hlay
  have hi2 : s.fieldFound? ref (T k).2.1 (T k).2.2.1 = some (cf, kf, fi, f) := by
    rcases hs with e | e
    · rw [e]; exact hi
    · exact u_same (C.w (args := args) e) _ hi
  have hlt : f.slot < cell.slots.size := by rw [hsl]; exact k2_hasslot (h5 k _ (List.getElem?_eq_getElem hlen))
  have fin : ∀ H' : Heap, H'[a]? = some (cell.setSlot f.slot v) → H'.size = H.size → (∀ q, q ≠ a → H'[q]? = H[q]?) → W p l e R s m args below meth c H' (locs ++ [⟨a, f.slot⟩]) cells slots (zEnd G below args s R Q) (F0 m (pc + 3) L st) := by
    intro H' e1 e2 e3
    rw [hsl] at e1
    obtain ⟨g1, g2⟩ := z_stored (i := f.slot) hP h hS e2 e3 (z_setF hK C h2 h3 h4 h5 hlen e1)
    exact kk p l e R s m args below meth c H' _ cells slots C hR g1 g2 L hL
  rcases hf with hf | ⟨hf, hf2, hf3⟩
  · rw [if_neg (by rw [hf]; decide)] at hlay
    have h6 := u_store hfc hkC hkind hlay hi (hK.2.2.2.1 k hk) hn hfit
    exact W.putK C.x C.b (f := f) ⟨C.own, C.w hl, ⟨_, _, _, hi2⟩, hst⟩ (by rw [h3]; exact h6) h1 h2 hlt rfl rfl hd fin
  · rw [if_pos hf] at hlay
    have hcf : m.cls = cf := by
      obtain ⟨_, _, c', _, _, _, -, -, hf', -, -, -, hown2, -⟩ := Cond.laysFinal_spec hlay
      have e1 : c' = cf := by have := hi.symm.trans hf'; simp at this; exact this.1.symm
      rw [hf3] at hown2
      rw [← e1]; exact Option.some.inj (C.own.symm.trans hown2)
    have h6 := u_fits hfc hkC hkind (Or.inr hlay) hi (hK.2.2.2.1 k hk) hn hfit
    exact W.putFinK C.x C.b C.own (C.w hl) hi2 hst hcf (by rw [C.mn]; exact hf2) (by rw [h3]; exact h6) h1 h2 hlt rfl rfl hd fin
theorem zr_putfN {ci k N a idx : Nat} {Cn host : String} {T : u_T} {ty : Nat → FieldType} {fs : List Value} {v : Value} (hd : decode M.2.1 pc = .ok (.putfield idx, 3)) (hK : zKn ci Cn T N ty) (hk : k < N)
    (hl : Cond.fieldLinkNest M.1.cls idx (T k).1 (T k).2.1 (T k).2.2.1 host ∈ lw_tbl) (hf : (T k).2.2.2 = false)
    (h : ah a = some (.inl (ci, fs))) (hlen : k < fs.length) (hn : narrow (ty k) v = v) (hfit : fits (ty k) v = true)
    (kk : zW G M d rc rs (pc + 3) ls st (z_up ah a (.inl (ci, fs.set k v))) Q) : zW G M d rc rs pc ls (v :: .ref a :: st) ah Q := by
  intro p l e R s m args below meth c H locs cells slots C hR hP hS L hL
  obtain ⟨-, cell, h1, h2, h3, h4, h5⟩ := hP a _ h
  obtain ⟨hS', hfc, kC, hkC, hkind⟩ := hK.kn C
  obtain ⟨cf, kf, fi, f, hi, hsl⟩ := hS' k hk
  have hts := hK.in' (args := args) C
  have hst := (u_facts hfc hkC (u_lays hts (fun w h => h) hk) hi).1
  have hlay := hts _ (u_in_lay hk)
  unfold u_lay at hlay
  have hlt : f.slot < cell.slots.size := by rw [hsl]; exact k2_hasslot (h5 k _ (List.getElem?_eq_getElem hlen))
  rw [if_neg (by rw [hf]; decide)] at hlay
  have h6 := u_store hfc hkC hkind hlay hi (hK.2.2.2.1 k hk) hn hfit
  refine va_WputK C.x C.b C.own (z_nestF C.tb C.wo.1 hl) hi hst (by rw [h3]; exact h6) h1 h2 hlt rfl rfl hd (fun H' e1 e2 e3 => ?_)
  rw [hsl] at e1
  obtain ⟨g1, g2⟩ := z_stored (i := f.slot) hP h hS e2 e3 (z_setF hK C h2 h3 h4 h5 hlen e1)
  exact kk p l e R s m args below meth c H' _ cells slots C hR g1 g2 L hL
/-! ===== things made ===== -/
theorem zr_new {ci N N' idx : Nat} {Cn : String} {T : u_T} {ty : Nat → FieldType} {fs : List Value} (hd : decode M.2.1 pc = .ok (.new idx, 3)) (hK : zKn ci Cn T N ty) (hl : Cond.classLink M.1.cls idx Cn ∈ lw_all) (hi : Cond.instantiable Cn N' ∈ lw_all) (hini : Cond.initialized Cn ∈ lw_all)
    (hfl : fs.length ≤ N) (hfs : ∀ (k : Nat) (v : Value), fs[k]? = some v → v = defaultValue (ty k)) (hc : 1 ≤ rc) (hs : N' ≤ rs)
    (kk : ∀ q : Nat, ah q = none → zW G M d (rc - 1) (rs - N') (pc + 3) ls (.ref q :: st) (z_up ah q (.inl (ci, fs))) Q) : zW G M d rc rs pc ls st ah Q := by
  intro p l e R s m args below meth c H locs cells slots C hR hP hS L hL
  have hR3 := hR.2.2.1
  have hR4 := hR.2.2.2
  have hKn := hK.kn C
  refine W.newcK C.x C.b C.own (C.w hl) (C.w hi) (C.w hini) rfl hd (by omega) (by omega) hKn.2.1 rfl fun H1 kC hkC e1 z1 o1 => ?_
  have hfree : ah H.size = none := by
    cases hx : ah H.size with
    | none => rfl
    | some o => exact absurd (hP.lt hx) (Nat.lt_irrefl _)
  have hsz : G.heap.size ≤ H.size := Nat.le_trans C.wo.2.1 hS.1
  have hat : zAt G H.size (.inl (ci, fs)) H1 := by
    obtain ⟨cell, q1, q2, q3, q4⟩ := u_born ty (hK.in' (args := args) C) (fun w h => h) hKn hkC e1 hK.2.2.2.1
    refine ⟨cell, q1, q3, q2, by rw [hK.nN]; exact hfl, fun k v hv => ?_⟩
    have hk : k < fs.length := (List.getElem?_eq_some_iff.mp hv).1
    rw [q4 k (by omega), hfs k v hv]
  exact kk H.size hfree p l e R s m args below meth c H1 locs (cells + 1) (slots + N') C ⟨hR.1, hR.2.1, by omega, by omega⟩ (hP.upd hsz hat (fun q _ hq => o1 q hq)) ⟨Nat.le_trans hS.1 (by omega), fun x h1 h2 => (o1 x (Nat.lt_of_lt_of_le h1 hS.1)).trans (hS.2.1 x h1 h2), hS.2.2⟩ L hL
end ZHR
