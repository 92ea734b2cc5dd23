set_option maxRecDepth 100000
/-! ===== a private method of a superclass, called on an object of a subclass ===== -/
theorem z_selP {G : State} {Cn : String} {x x' y : MethodName} (hy : y.cls ≠ "java/lang/invoke/MethodHandle" ∧ y.cls ≠ "java/lang/invoke/VarHandle") (hp : Cond.privateMethod y ∈ lw_tbl) (hi : Cond.instanceMethod y ∈ lw_all) (hs : Cond.selects Cn x x' ∈ lw_all) (hc : x'.cls = y.cls) (s : State) (args : Array Value) (T : zTb G) (hW : G.WarmedH s.vm) : (Cond.selects Cn y y).before args s = true := by
  have key : ∃ A0 : Array Value, (Cond.selects Cn y y).before A0 G = true := by
    obtain ⟨A0, h1, -⟩ := T
    refine ⟨A0, ?_⟩
    obtain ⟨c, r, m, q1, -, q3, -, mk, q5, q6⟩ := Cond.selects_spec (h1 _ (lw_all_tbl hs))
    obtain ⟨my, methM, hnamed, hmethM, -, -⟩ := Cond.instanceMethod_spec (h1 _ (lw_all_tbl hi))
    have hfound : G.methodFound? y.cls y.name y.desc = some my := State.methodFound?_of_named hnamed hy
    have hcl : my.cls = m.cls := by
      have a := findClass_of_methodNamed hnamed
      have b := findClass_of_methodNamed q3
      rw [hc] at b
      exact Option.some.inj (a.symm.trans b)
    have hsel : selectMethod {} G.vm c my = .method my := selectMethod_private hmethM (Cond.privateMethod_at (h1 _ hp) my methM hnamed hmethM)
    simp only [Cond.before, Cond.holds, Cond.value, q1, hfound, hnamed, hsel, hcl, q5]
    simp
    exact q6
  obtain ⟨A0, h⟩ := key
  exact word_at hW (good_of_word rfl) h
section ZVP
variable {G : State} {M M' : zMd} {d rc rs pc d' mc ms : Nat} {ls : List (Option Value)} {st rest as : List Value} {ah : zH} {Q : zRs → zH → Prop} {idx n : Nat}
theorem zr_virtP {b : Nat} {Cn : String} (hnh : M'.2.2.2.2 = []) (hd : decode M.2.1 pc = .ok (.invokevirtual idx, 3)) (hM : zHas M') (hsig : zSig M'.1 n) (hn : as.length = n) (hen : (lg_sl (.ref b :: as)).length ≤ M'.2.2.1) (hw : (rest.map fun v => v.category).sum ≤ 8) (hd' : d' + 1 ≤ d) (hc : mc ≤ rc) (hs : ms ≤ rs) (hl : Cond.methodLink M.1.cls idx M'.1 ∈ lw_all) (hin : Cond.instanceMethod M'.1 ∈ lw_all)
    (hse : ∀ (s : State) (args : Array Value), zTb G → G.WarmedH s.vm → (Cond.selects Cn M'.1 M'.1).before args s = true) (hstk : st = as.reverse ++ .ref b :: rest) (hr : zRc G ah b Cn)
    (k : zW G M' d' mc ms 0 (zent (.ref b :: as)) [] ah (zK G M d (rc - mc) (rs - ms) pc 3 ls rest Q)) : zW G M d rc rs pc ls st ah Q := by
  intro p l e R s m args below meth c H locs cells slots C hR hP hS L hL
  intro T hT X
  obtain ⟨r1, r2, r3, r4⟩ := id hR
  have hM5 := hM.2.2.2.2
  have hcw := C.w (args := args) hM.2.1
  have hB := z_back (R := R) (p := p) (e := e) (below := below) (s := s) (sargs := args) (W9 := 8) (len := 3) (z_met (l := l) hM hen k C.tr) hM C.tb C.wo.1 (by omega) (by omega)
  have hsz : (F0 m pc L st).locals.size = c.maxLocals := hL.1.trans C.ml.symm
  have hW8 : 2 * (F0 m pc L st).monitorRoom + (rest.map fun v => v.category).sum ≤ 8 := by show 2 * 0 + _ ≤ 8; omega
  obtain ⟨cellB, q1, q2, q3⟩ := hr.cell C hP hS
  rw [← hT] at q1
  refine z_after (as := (Value.ref b :: as).toArray) (len := 3) (rest := rest) C hR hS hL hT hc hs ?_
  unfold zcw at hcw
  rw [hnh] at hcw
  exact vx_callV (C := Cn) X C.x C.own (C.w hl) (C.w hin) (hse s args C.tb C.wo.1) hcw hM.2.2.2.1 hB q1 q2 q3 (g := F0 m pc L st) rfl hsz (fun sig h => hn.trans (hsig sig h)) hstk hW8 (by rw [C.b]; exact hd) (z_pre C hR hP hS hT hc hs)
theorem zc_vP0 {b : Nat} {Cn : String} (hnh : M'.2.2.2.2 = []) (hd : decode M.2.1 pc = .ok (.invokevirtual idx, 3)) (hM : zHas M') (hsig : zSig M'.1 0) (hen : Nat.ble (lg_sl (.ref b :: [])).length M'.2.2.1 = true) (hw : Nat.ble (rest.map fun v => v.category).sum 8 = true) (d' mc ms : Nat) (hd' : d' + 1 ≤ d) (hc : mc ≤ rc) (hs : ms ≤ rs) (hl : Cond.methodLink M.1.cls idx M'.1 ∈ lw_all) (hin : Cond.instanceMethod M'.1 ∈ lw_all) (hse : ∀ (s : State) (args : Array Value), zTb G → G.WarmedH s.vm → (Cond.selects Cn M'.1 M'.1).before args s = true) (hr : zRc G ah b Cn) (k : zW G M' d' mc ms 0 (zent (.ref b :: [])) [] ah (zK G M d (rc - mc) (rs - ms) pc 3 ls rest Q)) : zW G M d rc rs pc ls (.ref b :: rest) ah Q := zr_virtP hnh hd hM hsig rfl (z_ble hen) (z_ble hw) hd' hc hs hl hin hse rfl hr k
theorem zc_vP1 {a1 : Value} {b : Nat} {Cn : String} (hnh : M'.2.2.2.2 = []) (hd : decode M.2.1 pc = .ok (.invokevirtual idx, 3)) (hM : zHas M') (hsig : zSig M'.1 1) (hen : Nat.ble (lg_sl (.ref b :: [a1])).length M'.2.2.1 = true) (hw : Nat.ble (rest.map fun v => v.category).sum 8 = true) (d' mc ms : Nat) (hd' : d' + 1 ≤ d) (hc : mc ≤ rc) (hs : ms ≤ rs) (hl : Cond.methodLink M.1.cls idx M'.1 ∈ lw_all) (hin : Cond.instanceMethod M'.1 ∈ lw_all) (hse : ∀ (s : State) (args : Array Value), zTb G → G.WarmedH s.vm → (Cond.selects Cn M'.1 M'.1).before args s = true) (hr : zRc G ah b Cn) (k : zW G M' d' mc ms 0 (zent (.ref b :: [a1])) [] ah (zK G M d (rc - mc) (rs - ms) pc 3 ls rest Q)) : zW G M d rc rs pc ls (a1 :: .ref b :: rest) ah Q := zr_virtP hnh hd hM hsig rfl (z_ble hen) (z_ble hw) hd' hc hs hl hin hse rfl hr k
theorem zc_vP2 {a1 a2 : Value} {b : Nat} {Cn : String} (hnh : M'.2.2.2.2 = []) (hd : decode M.2.1 pc = .ok (.invokevirtual idx, 3)) (hM : zHas M') (hsig : zSig M'.1 2) (hen : Nat.ble (lg_sl (.ref b :: [a1, a2])).length M'.2.2.1 = true) (hw : Nat.ble (rest.map fun v => v.category).sum 8 = true) (d' mc ms : Nat) (hd' : d' + 1 ≤ d) (hc : mc ≤ rc) (hs : ms ≤ rs) (hl : Cond.methodLink M.1.cls idx M'.1 ∈ lw_all) (hin : Cond.instanceMethod M'.1 ∈ lw_all) (hse : ∀ (s : State) (args : Array Value), zTb G → G.WarmedH s.vm → (Cond.selects Cn M'.1 M'.1).before args s = true) (hr : zRc G ah b Cn) (k : zW G M' d' mc ms 0 (zent (.ref b :: [a1, a2])) [] ah (zK G M d (rc - mc) (rs - ms) pc 3 ls rest Q)) : zW G M d rc rs pc ls (a2 :: a1 :: .ref b :: rest) ah Q := zr_virtP hnh hd hM hsig rfl (z_ble hen) (z_ble hw) hd' hc hs hl hin hse rfl hr k
theorem zc_vP3 {a1 a2 a3 : Value} {b : Nat} {Cn : String} (hnh : M'.2.2.2.2 = []) (hd : decode M.2.1 pc = .ok (.invokevirtual idx, 3)) (hM : zHas M') (hsig : zSig M'.1 3) (hen : Nat.ble (lg_sl (.ref b :: [a1, a2, a3])).length M'.2.2.1 = true) (hw : Nat.ble (rest.map fun v => v.category).sum 8 = true) (d' mc ms : Nat) (hd' : d' + 1 ≤ d) (hc : mc ≤ rc) (hs : ms ≤ rs) (hl : Cond.methodLink M.1.cls idx M'.1 ∈ lw_all) (hin : Cond.instanceMethod M'.1 ∈ lw_all) (hse : ∀ (s : State) (args : Array Value), zTb G → G.WarmedH s.vm → (Cond.selects Cn M'.1 M'.1).before args s = true) (hr : zRc G ah b Cn) (k : zW G M' d' mc ms 0 (zent (.ref b :: [a1, a2, a3])) [] ah (zK G M d (rc - mc) (rs - ms) pc 3 ls rest Q)) : zW G M d rc rs pc ls (a3 :: a2 :: a1 :: .ref b :: rest) ah Q := zr_virtP hnh hd hM hsig rfl (z_ble hen) (z_ble hw) hd' hc hs hl hin hse rfl hr k
end ZVP
