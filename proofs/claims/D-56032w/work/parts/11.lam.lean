set_option maxRecDepth 100000
/-! ===== lambdas: the class that the VM makes for a site, and its method ===== -/
/-- what the made class's method may hand back -/
def zRt (ret : Option FieldType) (v : Option Value) : Prop := match ret with
  | none => v = none
  | some ty => ∃ x : Int32, v = some (.int x) ∧ narrow ty (.int x) = .int x
/-- a method of the interface's parameter loaded: its instruction, its place, its value -/
def zLd (i : Instr) (j : Nat) (v : Value) : Prop := (∃ (n : Fin 4) (x : Int32), i = .iload_n n ∧ (n : Nat) = j ∧ v = .int x) ∨ ∃ (n : Fin 4) (x : Nat), i = .aload_n n ∧ (n : Nat) = j ∧ v = .ref x
section ZLW
variable {p : Program} {l : Launch} {e : Env} {R : Room} {s : State} {m : MethodId} {args : Array Value} {below : List Frame} {meth : Method} {c : Code} {U : State} {locs : List Loc} {cells slots : Nat}
theorem z_l1 (X : Stand p l e R s m args below meth c U locs cells slots) (hexec : p.tables.exec = Jvm.exec) {bytes : ByteArray} (hb : c.code = bytes) {pc i : Nat} {L : Array Slot} {st : List Value} {b : Nat} (hd : decode bytes pc = .ok (.aload_n 0, 1)) (hL : L[0]? = some (.val (.ref b))) {tgt : State}
    (k : Steps p.tables e below (U.setTop (F0 m (pc + 1) L (.ref b :: st))) tgt) : Steps p.tables e below (U.setTop (F0 m pc L st)) tgt := by
  jvm_step X.here [X.here.top, hexec, hb, hd, hL, Value.isRef]
  exact k
theorem z_l2 (X : Stand p l e R s m args below meth c U locs cells slots) (hexec : p.tables.exec = Jvm.exec) {bytes : ByteArray} (hb : c.code = bytes) {pc ix : Nat} {L : Array Slot} {st : List Value} {b : Nat} {cell : Cell} {v : Value} {f : Field} (hd : decode bytes pc = .ok (.getfield ix, 3))
    (hf : U.vm.fieldReady m.cls ix m.cls f) (hs : f.isStatic = false) (hcell : U.heap[b]? = some cell) (hk : cell.vm ≠ .unknown) (hv : cell.slots[f.slot]? = some v) {tgt : State}
    (k : Steps p.tables e below (U.setTop (F0 m (pc + 3) L (v :: st))) tgt) : Steps p.tables e below (U.setTop (F0 m pc L (.ref b :: st))) tgt := by
  jvm_step X.here [X.here.top, hexec, hb, hd, getfield.wp_ready (e := e) (s := U) (c := m.cls) (field := f) (a := b) (rest := st) (cell := cell) (v := v) (f := F0 m pc L (.ref b :: st)) X.here.top hf hs rfl hcell hk hv]
  exact k
theorem z_l3 (X : Stand p l e R s m args below meth c U locs cells slots) (hexec : p.tables.exec = Jvm.exec) {bytes : ByteArray} (hb : c.code = bytes) {pc j : Nat} {L : Array Slot} {st : List Value} {i : Instr} {v : Value} (hd : decode bytes pc = .ok (i, 1)) (hi : zLd i j v) (hL : L[j]? = some (.val v)) {tgt : State}
    (k : Steps p.tables e below (U.setTop (F0 m (pc + 1) L (v :: st))) tgt) : Steps p.tables e below (U.setTop (F0 m pc L st)) tgt := by
  rcases hi with ⟨n, x, rfl, rfl, rfl⟩ | ⟨n, x, rfl, rfl, rfl⟩
  · jvm_step X.here [X.here.top, hexec, hb, hd, hL]
    exact k
  · jvm_step X.here [X.here.top, hexec, hb, hd, hL, Value.isRef]
    exact k
theorem z_tk {vs : List Value} {n : Nat} {v : Value} (h : vs[n]? = some v) : (vs.take (n + 1)).reverse = v :: (vs.take n).reverse := by
  rw [List.take_add_one, h]
  simp only [Option.toList, List.reverse_append, List.reverse_cons, List.reverse_nil, List.nil_append, List.cons_append]
/-- the captured values go on the stack -/
theorem z_caps (X : Stand p l e R s m args below meth c U locs cells slots) (hexec : p.tables.exec = Jvm.exec) {bytes : ByteArray} (hb : c.code = bytes) {L : Array Slot} {b : Nat} {cell : Cell} {vals : List Value} {ix : List Nat} (hL : L[0]? = some (.val (.ref b))) (hcell : U.heap[b]? = some cell) (hk : cell.vm ≠ .unknown)
    (hn : ix.length = vals.length) (hd : ∀ k, k < vals.length → decode bytes (4 * k) = .ok (.aload_n 0, 1) ∧ decode bytes (4 * k + 1) = .ok (.getfield (ix.getD k 0), 3))
    (hf : ∀ k, k < vals.length → ∃ f : Field, U.vm.fieldReady m.cls (ix.getD k 0) m.cls f ∧ f.isStatic = false ∧ f.slot = k) (hv : ∀ (k : Nat) (v : Value), vals[k]? = some v → cell.slots[k]? = some v) {tgt : State} :
    ∀ n, n ≤ vals.length → Steps p.tables e below (U.setTop (F0 m (4 * n) L (vals.take n).reverse)) tgt → Steps p.tables e below (U.setTop (F0 m 0 L [])) tgt := by
  intro n
  induction n with
  | zero => intro _ h; simpa using h
  | succ n ih =>
    intro hle h
    refine ih (by omega) ?_
    obtain ⟨d1, d2⟩ := hd n (by omega)
    obtain ⟨f, f1, f2, f3⟩ := hf n (by omega)
    have hvn : vals[n]? = some vals[n] := List.getElem?_eq_getElem (by omega)
    refine z_l1 X hexec hb (i := 0) d1 hL ?_
    refine z_l2 X hexec hb d2 f1 f2 hcell hk (v := vals[n]) (by rw [f3]; exact hv n _ hvn) ?_
    rw [z_tk hvn] at h
    exact h
/-- the interface's arguments go on the stack -/
theorem z_lds (X : Stand p l e R s m args below meth c U locs cells slots) (hexec : p.tables.exec = Jvm.exec) {bytes : ByteArray} (hb : c.code = bytes) {L : Array Slot} {as st : List Value} {is : List Instr} {o : Nat} (hn : is.length = as.length)
    (hd : ∀ k, k < as.length → decode bytes (o + k) = .ok (is.getD k .nop, 1)) (hi : ∀ (k : Nat) (v : Value), as[k]? = some v → zLd (is.getD k .nop) (k + 1) v) (hL : ∀ (k : Nat) (v : Value), as[k]? = some v → L[k + 1]? = some (.val v)) {tgt : State} :
    ∀ n, n ≤ as.length → Steps p.tables e below (U.setTop (F0 m (o + n) L ((as.take n).reverse ++ st))) tgt → Steps p.tables e below (U.setTop (F0 m o L st)) tgt := by
  intro n
  induction n with
  | zero => intro _ h; simpa using h
  | succ n ih =>
    intro hle h
    refine ih (by omega) ?_
    have hvn : as[n]? = some as[n] := List.getElem?_eq_getElem (by omega)
    refine z_l3 X hexec hb (hd n (by omega)) (hi n _ hvn) (hL n _ hvn) ?_
    rw [z_tk hvn] at h
    exact h
end ZLW
