set_option maxRecDepth 100000
/-! ===== a call of a method whose class's making is not told: a turn's letter ===== -/
section ZBL
variable {l : Launch} {R : Room} {p : Program} {e : Env} {below : List Frame} {s : State} {sargs : Array Value} {len W9 : Nat} {G : State}
theorem z_backL {M : zMd} {d mc ms : Nat} {ah : zH} {as : List Value} {Q : zRs → zH → Prop} (kk : zW G M d mc ms 0 (zent as) [] ah Q) (hcw : zcw M ∈ lw_all) (hpn : plainName M.1.cls = true) (hen : (lg_sl as).length ≤ M.2.2.1) (hl : l.stackTraces = false) (hexec : p.tables.exec = Jvm.exec) (hT : zTb G) (hG : G.WarmedH s.vm)
    (hframes : d + 1 ≤ R.frames) (hlocals : W9 + (M.2.2.1 + 11) + 128 * d ≤ R.locals) :
    vx_Back l R p e below s sargs M.1 len W9 (zPreB G R mc ms ah as) (zPost G Q mc ms) (zPostX G Q mc ms) := by
  intro m meth c A g ig mk a X hg hsize hdg hW hn hp
  have hGU : G.WarmedH A.U.vm := State.WarmedH.trans hG X.warmed
  have h2 : (zcw M).before a A.U = true := hT.w hGU hcw
  obtain ⟨U, Ls, c0, s0⟩ := A
  dsimp only [Pt.U, Pt.locs, Pt.cells, Pt.slots] at h2 X hn hGU hp ⊢
  obtain ⟨p1, p2, rfl, -, hWo, hR⟩ := hp
  dsimp only [Pt.U, Pt.locs, Pt.cells, Pt.slots] at p1 p2 hWo hR
  obtain ⟨methY, cY, hmY, hcY, hbY, hlY, hrY, hkY, hxY, hpY⟩ := z_code hn h2
  obtain ⟨kY, hkY1, hknY⟩ := className_of_methodNamed hn
  have hpk : U.plainMethod mk := State.plainMethod.of_name (fun k' hk' => by
    cases hkY1.symm.trans hk'
    rw [hknY]; exact hpn)
  obtain ⟨Y₀, hin⟩ := X.into (g := g) hg hsize (ig := ig) (len := len) hdg as.toArray (R' := zRoom d mc ms) (mk := mk) hmY hcY hkY hpk
    (by show d + 1 ≤ R.frames; exact hframes) (by show 2 * g.monitorRoom + (g.stack.map fun v => v.category).sum + (cY.maxLocals + 11) + 128 * d ≤ R.locals; rw [hlY]; omega) (by show c0 + mc ≤ R.cells; exact p1) (by show s0 + ms ≤ R.slots; exact p2)
  have hn9 : (U.calling g mk as.toArray).methodNamed? M.1 = some mk := hn
  have hm9 : (U.calling g mk as.toArray).vm.method? mk = some methY := hmY
  have hWo9 : zWo G (U.calling g mk as.toArray) := hWo
  have C : zCx G M p l (U.calling g mk as.toArray) mk methY cY := ⟨hexec, hl, hbY, hlY, hn9, hrY, hkY, hxY, hT, hWo9, findClass_of_methodNamed hn9, (name_of_methodNamed hn9 hm9).1⟩
  have hL := lv_entry as (n := M.2.2.1) hen
  have k := kk p l e (zRoom d mc ms) (U.calling g mk as.toArray) mk as.toArray (.java g :: below) methY cY U.heap [] 0 0 C ⟨Nat.le_refl _, Nat.le_refl _, by show 0 + mc ≤ mc; omega, by show 0 + ms ≤ ms; omega⟩ hR va_S.rf _ (by unfold zLoc; rw [zent_args]; exact hL)
  obtain ⟨t9, st9, o9, hrun9, hend9, hq9⟩ := k ((U.setTop g).pushFrame (.java (entryFrame mk as.toArray cY.maxLocals))) rfl Y₀
  rw [← lg_entry_eq, ← hlY] at st9
  have w2 := Steps.weaken (mid := [.java g]) st9
  rcases hq9 with ⟨v, ah', rfl, hQ, hRp, hF, L9, ⟨-, hW9, hsame⟩, hL9⟩ | ⟨q, E, ce, ah', rfl, hQ, hRp, hF, hce, hW9, L9, hsame, hL9⟩
  · obtain ⟨T', X', hW', -, ht⟩ := X.outOf (g := g) hg (ig := ig) (len := len) hdg hend9 hW9 hsame
    refine Or.inl ⟨v, ⟨T', Ls ++ L9, c0 + mc, s0 + ms⟩, X', ⟨t9, L9, ah', by rw [ht]; rfl, hQ, hRp, hF, rfl, hL9, rfl, rfl⟩, ?_⟩
    rw [hin []]
    refine w2.trans ?_
    rw [ht]
    exact Steps.refl _
  · obtain ⟨T', X', hW', -, ht⟩ := X.outOfThrown (g := g) hg hend9 hW9 hsame
    refine Or.inr ⟨q, ⟨T', Ls ++ L9, c0 + mc, s0 + ms⟩, X', ⟨t9, L9, ah', E, ce, by rw [ht]; rfl, hQ, hRp, hF, hce, rfl, hL9, rfl, rfl⟩, ?_⟩
    rw [hin []]
    refine w2.trans ?_
    rw [ht]
    exact Steps.refl _
end ZBL
/-- the letter of a turn -/
theorem zr_letter {G : State} {M M' : zMd} {d rc rs pc idx : Nat} {ls : List (Option Value)} {rest : List Value} {ah : zH} {Q : zRs → zH → Prop} {b : Nat} {Cn : String} {n : Int} (hd : decode M.2.1 pc = .ok (.invokevirtual idx, 3)) (hnh : M'.2.2.2.2 = []) (hcw : zcw M' ∈ lw_all) (hpn : plainName M'.1.cls = true) (hM5 : M'.2.2.1 = 1) (hrt : M'.2.2.2.1 = some .char) (hw : (rest.map fun v => v.category).sum ≤ 8) (hd2 : 1 ≤ d) (hl : Cond.methodLink M.1.cls idx ⟨"TrailGuide$Turn", "letter", "()C"⟩ ∈ lw_all) (hsm : Cond.sameMethod "TrailGuide$Turn" "TrailGuide$Turn" "letter" "()C" ∈ lw_all) (hdc : Cond.declares ⟨"TrailGuide$Turn", "letter", "()C"⟩ ∈ lw_tbl) (hin : Cond.instanceMethod M'.1 ∈ lw_all) (hse : Cond.selects Cn ⟨"TrailGuide$Turn", "letter", "()C"⟩ M'.1 ∈ lw_all) (hr : zRc G ah b Cn)
    (d0 : decode M'.2.1 0 = .ok (.bipush n, 2)) (hv : (Int8.ofInt n).toInt32 = zi n) (dr : decode M'.2.1 2 = .ok (.ireturn, 1)) (hnc : narrow .char (.int (zi n)) = .int (zi n)) (k : zW G M d rc rs (pc + 3) ls (.int (zi n) :: rest) ah Q) : zW G M d rc rs pc ls (.ref b :: rest) ah Q := by
  intro p l e R s m args below meth c H locs cells slots C hR hP hS L hL
  intro T hT X
  obtain ⟨r1, r2, r3, r4⟩ := id hR
  have hc0 := C.w (args := args) hcw
  have kk : zW G M' 0 0 0 0 (zent [.ref b]) [] ah (zK G M d (rc - 0) (rs - 0) pc 3 ls rest Q) := zr_bipush d0 hv (zr_ireturn dr hrt hnc k)
  have hen : (lg_sl [Value.ref b]).length ≤ M'.2.2.1 := by rw [hM5]; exact Nat.le_refl _
  have hB := z_backL (R := R) (p := p) (e := e) (below := below) (s := s) (sargs := args) (W9 := 8) (len := 3) kk hcw hpn hen C.tr C.x C.tb C.wo.1 (by omega) (by rw [hM5]; omega)
  have hsz : (F0 m pc L (.ref b :: rest)).locals.size = c.maxLocals := hL.1.trans C.ml.symm
  have hW8 : 2 * (F0 m pc L (.ref b :: rest)).monitorRoom + (rest.map fun v => v.category).sum ≤ 8 := by show 2 * 0 + _ ≤ 8; omega
  obtain ⟨cellB, q1, q2, q3⟩ := hr.cell C hP hS
  rw [← hT] at q1
  refine z_after (as := (Value.ref b :: []).toArray) (len := 3) (rest := rest) C hR hS hL hT (Nat.zero_le _) (Nat.zero_le _) ?_
  have hdecl : va_Decl s ⟨"TrailGuide$Turn", "letter", "()C"⟩ := va_Decl.abs (va_Nw.of (A := args) rfl (C.tb.wt C.wo.1 hdc rfl))
  unfold zcw at hc0
  rw [hnh] at hc0
  exact vx_callVU (C := Cn) (x := ⟨"TrailGuide$Turn", "letter", "()C"⟩) X C.x C.own (C.w hl) (C.w hsm) hdecl (by decide) (C.w hse) (C.w hin) hc0 hB q1 q2 q3 (g := F0 m pc L (.ref b :: rest)) rfl hsz (fun sig h => (zSig.of (n := 0) (y := ⟨"TrailGuide$Turn", "letter", "()C"⟩) (by decide +kernel)) sig h) (argsL := []) rfl hW8 (by rw [C.b]; exact hd) (z_pre C hR hP hS hT (Nat.zero_le _) (Nat.zero_le _))
