set_option maxRecDepth 100000
/-! ===== the parser: a command, a program ===== -/
theorem kX13_command {G : State} {d rc rs : Nat} {ah : zH} {Q : zRs → zH → Prop} {p gd tx : Nat} {tp : Int → Int} {tn h : Int} (P : zPz ah p gd h) (Tt : zTt ah gd tx tp tn) (hh : 0 ≤ h ∧ h ≤ tn) (hd : 45 ≤ d) (hc : 50 ≤ rc) (hs9 : 320 ≤ rs) (k : ∀ ah9 c9 X9 h9, pCmd tp tn h = (some X9, h9) → pC9 X9 → (h + 2 ≤ h9 ∧ h9 ≤ tn) → zFp p ah ah9 → zPz ah9 p gd h9 → zCm G ah9 c9 X9 → Q (.inl (some (.ref c9))) ah9) (kx : ∀ ah9 q9 h9, pCmd tp tn h = (none, h9) → zFp p ah ah9 → zSx ah9 q9 h9 → Q (.inr ("TrailGuide$SyntaxException", q9)) ah9) : zW G mX13_command d rc rs 0 (zent [.ref p]) [] ah Q := by
  refine zW_open 1 [some (.ref p), none] rfl ?_
  refine zW_tb (fun T => ?_)
  obtain ⟨tT, a, v, q, lb, er, fl, ft, t1, t2, t3⟩ := id Tt
  have tTb := tT.2.1
  have sb := pSg_c (h := h) tT hh.1
  refine zr_aload_n dX13_command_0 rfl rfl ?_
  refine zr_aload_n dX13_command_1 rfl rfl ?_
  refine zr_getf dX13_command_2 nX13 (k := 0) (by decide) q1780 (Or.inl rfl) P rfl ?_
  refine zc_v1 dX13_command_5 hX13_peekAt gX13_peekAt rfl rfl 0 0 0 (by omega) (Nat.zero_le _) (Nat.zero_le _) q1797 q1799 sp27 P.rc ?_
  refine kX13_peekAt P Tt hh (by omega) (zK_i ?_)
  refine zr_istore_n dX13_command_8 (by decide) (zs2_1 rfl ?_)
  refine zr_aload_n dX13_command_9 rfl rfl ?_
  refine zr_iload_n dX13_command_10 rfl ?_
  refine zr_iconst dX13_command_11 ?_
  refine zr_icmpeq dX13_command_12 (tgt := 28) (by decide) (by omega) (by omega) (fun h12 => ?_) (fun h12 => ?_)
  · refine zr_iconst dX13_command_28 ?_
    refine zc_v1 dX13_command_29 hX13_require gX13_require rfl rfl 6 1 7 (by omega) (by omega) (by omega) q1852 q1854 sp28 P.rc ?_
    exact kX13_require (b := false) P (by omega) (by omega) (by omega) (fun h => absurd h (by decide)) (fun _ ah9 q9 g9 x9 => zK_x (zX_out (fun x hx => nomatch hx) (kx ah9 q9 h (by
      rw [pCmd, if_neg (fun z => by
        have z2 := of_decide_eq_true z
        first
          | omega
          | exact absurd (hr2.mpr (by simpa using z2)) (by omega))]) g9.fp x9)))
  · refine zr_ldcS dX13_command_15 (z_litP142 T).1 ?_
    refine zr_iload_n dX13_command_17 rfl ?_
    refine zc_v1 dX13_command_18 hJ7_indexOf gJ7_indexOf rfl rfl 3 0 0 (by omega) (Nat.zero_le _) (Nat.zero_le _) q1802 q1803 q1804 (show zTx G ah _ [112, 116, 99, 109, 108, 115] from Or.inl (z_litP142 T).2).rc ?_
    refine kJ7_indexOf (Or.inl (z_litP142 T).2) ⟨by decide, by decide⟩ (by omega) (by omega) (fun r hr1 hr2 => zK_i ?_)
    refine zr_iflt dX13_command_21 (tgt := 28) (by decide) (by omega) (fun h21 => ?_) (fun h21 => ?_)
    · refine zr_iconst dX13_command_28 ?_
      refine zc_v1 dX13_command_29 hX13_require gX13_require rfl rfl 6 1 7 (by omega) (by omega) (by omega) q1852 q1854 sp28 P.rc ?_
      exact kX13_require (b := false) P (by omega) (by omega) (by omega) (fun h => absurd h (by decide)) (fun _ ah9 q9 g9 x9 => zK_x (zX_out (fun x hx => nomatch hx) (kx ah9 q9 h (by
        rw [pCmd, if_neg (fun z => by
          have z2 := of_decide_eq_true z
          first
            | omega
            | exact absurd (hr2.mpr (by simpa using z2)) (by omega))]) g9.fp x9)))
    · refine zr_iconst dX13_command_24 ?_
      refine zr_goto dX13_command_25 (tgt := 29) (by decide) ?_
      refine zc_v1 dX13_command_29 hX13_require gX13_require rfl rfl 6 1 7 (by omega) (by omega) (by omega) q1852 q1854 sp28 P.rc ?_
      refine kX13_require (b := true) P (by omega) (by omega) (by omega) (fun _ => zK_v ?_) (fun h => absurd h (by decide))
      refine zr_aload_n dX13_command_32 rfl rfl ?_
      refine zr_dup dX13_command_33 rfl ?_
      refine zr_getf dX13_command_34 nX13 (k := 0) (by decide) q1780 (Or.inl rfl) P rfl ?_
      refine zr_iconst dX13_command_37 ?_
      refine zr_iadd dX13_command_38 ?_
      refine zr_putf dX13_command_39 nX13 (k := 0) (by decide) q1780 (Or.inl rfl) (Or.inl rfl) P (z_ble rfl) rfl rfl ?_
      have hf : pFst (pSg tp tn h) = true := decide_eq_true (by simpa using hr2.mp (by omega))
      have hlt := pSg_l (t := tp) (n := tn) (h := h) rfl (by omega)
      have P1 : zPz (z_up ah p (.inl (10, [.int (zi (h + 1)), .ref gd]))) p gd (h + 1) := z_up_s
      have f1 : zFp p ah (z_up ah p (.inl (10, [.int (zi (h + 1)), .ref gd]))) := fun b o hb hn => (z_up_n hn).trans hb
      change zW G mX13_command d _ _ _ _ _ (z_up ah p (.inl (10, [.int (zi (h + 1)), .ref gd]))) Q
      generalize z_up ah p (.inl (10, [.int (zi (h + 1)), .ref gd])) = ah1 at P1 f1 ⊢
      have T1 := Tt.fp P f1
      have hh1 : 0 ≤ h + 1 ∧ h + 1 ≤ tn := by omega
      refine zr_iload_n dX13_command_42 rfl ?_
      rcases of_decide_eq_true hf with eZ | eZ | eZ | eZ | eZ | eZ
      · rw [eZ]
        refine zr_lookup dX13_command_43 (by decide) (by decide) (off := 49) (tgt := 92) (by rfl) (by decide) ?_
        refine zr_aload_n dX13_command_92 rfl rfl ?_
        refine zc_v0 dX13_command_93 hX13_pointed gX13_pointed rfl rfl 40 40 300 (by omega) (by omega) (by omega) q1880 q1882 sp29 P1.rc ?_
        refine kX13_pointed P1 T1 hh1 (by omega) (by omega) (by omega) (fun ah9 c9 X9 h9 e9 q9 b9 f9 P9 C9 => zK_i ?_) (fun ah9 q9 h9 e9 f9 x9 => zK_x (zX_out (fun x hx => nomatch hx) (kx ah9 q9 h9 (by rw [pCmd, if_pos hf, eZ]; exact e9) (f1.tr f9) x9)))
        refine zr_goto dX13_command_96 (tgt := 131) (by decide) ?_
        refine zr_areturn dX13_command_131 rfl rfl rfl ?_
        exact k _ c9 X9 h9 (by rw [pCmd, if_pos hf, eZ]; exact e9) q9 (by omega) (f1.tr f9) P9 C9
      · rw [eZ]
        refine zr_lookup dX13_command_43 (by decide) (by decide) (off := 56) (tgt := 99) (by rfl) (by decide) ?_
        refine zr_aload_n dX13_command_99 rfl rfl ?_
        refine zc_v0 dX13_command_100 hX13_trailOrTour gX13_trailOrTour rfl rfl 40 40 300 (by omega) (by omega) (by omega) q1937 q1939 sp36 P1.rc ?_
        refine kX13_trailOrTour P1 T1 hh1 (by omega) (by omega) (by omega) (fun ah9 c9 X9 h9 e9 q9 b9 f9 P9 C9 => zK_i ?_) (fun ah9 q9 h9 e9 f9 x9 => zK_x (zX_out (fun x hx => nomatch hx) (kx ah9 q9 h9 (by rw [pCmd, if_pos hf, eZ]; exact e9) (f1.tr f9) x9)))
        refine zr_goto dX13_command_103 (tgt := 131) (by decide) ?_
        refine zr_areturn dX13_command_131 rfl rfl rfl ?_
        exact k _ c9 X9 h9 (by rw [pCmd, if_pos hf, eZ]; exact e9) q9 (by omega) (f1.tr f9) P9 C9
      · rw [eZ]
        refine zr_lookup dX13_command_43 (by decide) (by decide) (off := 63) (tgt := 106) (by rfl) (by decide) ?_
        refine zr_aload_n dX13_command_106 rfl rfl ?_
        refine zc_v0 dX13_command_107 hX13_cutOrCharge gX13_cutOrCharge rfl rfl 40 40 300 (by omega) (by omega) (by omega) q1952 q1954 sp37 P1.rc ?_
        refine kX13_cutOrCharge P1 T1 hh1 (by omega) (by omega) (by omega) (fun ah9 c9 X9 h9 e9 q9 b9 f9 P9 C9 => zK_i ?_) (fun ah9 q9 h9 e9 f9 x9 => zK_x (zX_out (fun x hx => nomatch hx) (kx ah9 q9 h9 (by rw [pCmd, if_pos hf, eZ]; exact e9) (f1.tr f9) x9)))
        refine zr_goto dX13_command_110 (tgt := 131) (by decide) ?_
        refine zr_areturn dX13_command_131 rfl rfl rfl ?_
        exact k _ c9 X9 h9 (by rw [pCmd, if_pos hf, eZ]; exact e9) q9 (by omega) (f1.tr f9) P9 C9
      · rw [eZ]
        refine zr_lookup dX13_command_43 (by decide) (by decide) (off := 70) (tgt := 113) (by rfl) (by decide) ?_
        refine zr_aload_n dX13_command_113 rfl rfl ?_
        refine zc_v0 dX13_command_114 hX13_modeOrMove gX13_modeOrMove rfl rfl 40 40 300 (by omega) (by omega) (by omega) q1964 q1966 sp38 P1.rc ?_
        refine kX13_modeOrMove P1 T1 hh1 (by omega) (by omega) (by omega) (fun ah9 c9 X9 h9 e9 q9 b9 f9 P9 C9 => zK_i ?_) (fun ah9 q9 h9 e9 f9 x9 => zK_x (zX_out (fun x hx => nomatch hx) (kx ah9 q9 h9 (by rw [pCmd, if_pos hf, eZ]; exact e9) (f1.tr f9) x9)))
        refine zr_goto dX13_command_117 (tgt := 131) (by decide) ?_
        refine zr_areturn dX13_command_131 rfl rfl rfl ?_
        exact k _ c9 X9 h9 (by rw [pCmd, if_pos hf, eZ]; exact e9) q9 (by omega) (f1.tr f9) P9 C9
      · rw [eZ]
        refine zr_lookup dX13_command_43 (by decide) (by decide) (off := 77) (tgt := 120) (by rfl) (by decide) ?_
        refine zr_aload_n dX13_command_120 rfl rfl ?_
        refine zc_v0 dX13_command_121 hX13_limited gX13_limited rfl rfl 40 40 300 (by omega) (by omega) (by omega) q1993 q1995 sp40 P1.rc ?_
        refine kX13_limited P1 T1 hh1 (by omega) (by omega) (by omega) (fun ah9 c9 X9 h9 e9 q9 b9 f9 P9 C9 => zK_i ?_) (fun ah9 q9 h9 e9 f9 x9 => zK_x (zX_out (fun x hx => nomatch hx) (kx ah9 q9 h9 (by rw [pCmd, if_pos hf, eZ]; exact e9) (f1.tr f9) x9)))
        refine zr_goto dX13_command_124 (tgt := 131) (by decide) ?_
        refine zr_areturn dX13_command_131 rfl rfl rfl ?_
        exact k _ c9 X9 h9 (by rw [pCmd, if_pos hf, eZ]; exact e9) q9 (by omega) (f1.tr f9) P9 C9
      · rw [eZ]
        refine zr_lookup dX13_command_43 (by decide) (by decide) (off := 84) (tgt := 127) (by rfl) (by decide) ?_
        refine zr_aload_n dX13_command_127 rfl rfl ?_
        refine zc_v0 dX13_command_128 hX13_stopped gX13_stopped rfl rfl 40 40 300 (by omega) (by omega) (by omega) q2001 q2003 sp41 P1.rc ?_
        refine kX13_stopped P1 T1 hh1 (by omega) (by omega) (by omega) (fun ah9 c9 X9 h9 e9 q9 b9 f9 P9 C9 => zK_i ?_) (fun ah9 q9 h9 e9 f9 x9 => zK_x (zX_out (fun x hx => nomatch hx) (kx ah9 q9 h9 (by rw [pCmd, if_pos hf, eZ]; exact e9) (f1.tr f9) x9)))
        refine zr_areturn dX13_command_131 rfl rfl rfl ?_
        exact k _ c9 X9 h9 (by rw [pCmd, if_pos hf, eZ]; exact e9) q9 (by omega) (f1.tr f9) P9 C9
/-- the commands' list -/
def zCs (G : State) (ah : zH) (cs : List Nat) (Xs : List pI4) : Prop := cs.length = Xs.length ∧ ∀ (i c : Nat) (X : pI4), cs[i]? = some c → Xs[i]? = some X → zCm G ah c X ∧ pC9 X
theorem zCs.fr {G : State} {ah ah' : zH} {cs : List Nat} {Xs : List pI4} (h : zCs G ah cs Xs) (k : zKc ah ah') : zCs G ah' cs Xs := ⟨h.1, fun i c X h1 h2 => ⟨(h.2 i c X h1 h2).1.fr k, (h.2 i c X h1 h2).2⟩⟩
theorem zCs.el {G : State} {ah : zH} {cs : List Nat} {Xs : List pI4} (h : zCs G ah cs Xs) {c : Nat} (hc : c ∈ cs) : ∃ b, ah c = some (.inl (12, [.ref b])) := by
  obtain ⟨i, hi⟩ := List.getElem?_of_mem hc
  have hil := (List.getElem?_eq_some_iff.mp hi).1
  obtain ⟨b, hb, -⟩ := (h.2 i c (Xs[i]'(by rw [← h.1]; exact hil)) hi (List.getElem?_eq_getElem _)).1
  exact ⟨b, hb⟩
theorem zCs.app {G : State} {ah : zH} {cs : List Nat} {Xs : List pI4} {c : Nat} {X : pI4} (h : zCs G ah cs Xs) (hc : zCm G ah c X) (h9 : pC9 X) : zCs G ah (cs ++ [c]) (Xs ++ [X]) := by
  refine ⟨by simp [h.1], fun i x Y h1 h2 => ?_⟩
  by_cases hi : i < cs.length
  · rw [List.getElem?_append_left hi] at h1
    rw [List.getElem?_append_left (by rw [← h.1]; exact hi)] at h2
    exact h.2 i x Y h1 h2
  · have hil := (List.getElem?_eq_some_iff.mp h1).1
    simp at hil
    obtain rfl : i = cs.length := by omega
    rw [List.getElem?_append_right (Nat.le_refl _)] at h1
    rw [List.getElem?_append_right (by rw [h.1]; exact Nat.le_refl _)] at h2
    simp [h.1] at h1 h2
    rw [← h1, ← h2]
    exact ⟨hc, h9⟩
theorem zLst.ne {G : State} {ah : zH} {a e n : Nat} {mc : Int} {f : Nat → Value} {l : List Nat} (H : zLst G ah a e n mc f l) (hdom : ah (zEm G) = none) : ∀ b o, ah b = some o → (∀ fs, o ≠ .inl (13, fs)) → (∀ m z, o ≠ .inr (.object "java/lang/Object", m, z)) → b ≠ a ∧ b ≠ e := fun b o hb n1 n2 => by
  refine ⟨fun z => by rw [z, H.1] at hb; cases hb; exact n1 _ rfl, fun z => ?_⟩
  rcases H.2.1 with ⟨-, q⟩ | ⟨-, -, q⟩
  · rw [z, q, hdom] at hb; cases hb
  · rw [z, q] at hb; cases hb; exact n2 _ _ rfl
theorem zTt.fr {ah ah' : zH} {gd tx : Nat} {tp : Int → Int} {tn : Int} (T : zTt ah gd tx tp tn) (k : ∀ b o, ah b = some o → (∀ fs, o ≠ .inl (13, fs)) → (∀ m z, o ≠ .inr (.object "java/lang/Object", m, z)) → ah' b = some o) : zTt ah' gd tx tp tn := by
  obtain ⟨t0, a, v, q, lb, er, fl, ft, t1, t2, t3⟩ := T
  exact ⟨t0, a, v, q, lb, er, fl, ft, k _ _ t1 (fun _ z => by cases z) (fun _ _ z => by cases z), k _ _ t2 (fun _ z => by cases z) (fun _ _ z => by cases z), t3⟩
/-- what follows a command -/
def pTail (t : Int → Int) (n : Int) (f : Nat) (h : Int) : pO (List pI4) := if pSg t n h = 59 then pPg t n f (h + 1) else (some [], h)
theorem kX13_programL {G : State} {d : Nat} {Q : zRs → zH → Prop} {ahB : zH} {p gd tx a : Nat} {tp : Int → Int} {tn : Int} (hd : 55 ≤ d) (hpB : ahB p ≠ none) (haB : ahB a = none) (f : Nat) : ∀ (rc rs : Nat) (h : Int) (ah : zH) (e n : Nat) (mc : Int) (g : Nat → Value) (cs : List Nat) (Xs : List pI4) (J : Option Value), tn - h < f → (0 ≤ h ∧ h ≤ tn) → 55 * f ≤ rc → 370 * f ≤ rs → 3 * (cs.length : Int) ≤ h + 1 → ahB e = none → zFp p ahB ah → zPz ah p gd h → zTt ah gd tx tp tn → zLst G ah a e n mc g cs → zCs G ah cs Xs →
    (∀ ah9 e9 n9 mc9 g9 cs9 Ys, pTail tp tn f h = (some Ys, tn) → zFp p ahB ah9 → zLst G ah9 a e9 n9 mc9 g9 cs9 → zCs G ah9 cs9 (Xs ++ Ys) → cs9.length ≤ 20 → Q (.inl (some (.ref a))) ah9) →
    (∀ ah9 q9 h9, (pTail tp tn f h = (none, h9) ∨ ∃ Ys, pTail tp tn f h = (some Ys, h9) ∧ h9 ≠ tn) → zFp p ahB ah9 → zSx ah9 q9 h9 → Q (.inr ("TrailGuide$SyntaxException", q9)) ah9) →
    zW G mX13_program d rc rs 17 [some (.ref p), some (.ref a), J] [] ah Q := by
  induction f with
  | zero =>
    intro rc rs h ah e n mc g cs Xs J g1 hh g3 g4 g5 g6 F P Tt L C k kx
    refine zW_dom (fun hdom => ?_)
    refine zW_tb (fun T => ?_)
    obtain ⟨tT, a_, v_, q_, lb_, er_, fl_, ft_, t1, t2, t3⟩ := id Tt
    have tTb := tT.2.1
    have hemA : ah (zEm G) = none := by
      cases z : ah (zEm G) with
      | none => rfl
      | some o => have := hdom _ _ z; have := (z_empty T).2.2; omega
    have hneA := L.ne hemA
    have npa : p ≠ a ∧ p ≠ e := hneA _ _ P (fun _ z => by cases z) (fun _ _ z => by cases z)
    refine zr_aload_n dX13_program_17 rfl rfl ?_
    refine zr_bipush dX13_program_18 rfl ?_
    refine zc_v1 dX13_program_20 hX13_accept gX13_accept rfl rfl 2 0 0 (by omega) (Nat.zero_le _) (Nat.zero_le _) q1905 q1907 sp32 P.rc ?_
    refine kX13_accept (c := 59) P Tt hh (by decide) (by omega) (fun e1 ah1 f1 P1 => zK_i ?_) (fun e1 ah1 f1 P1 => zK_i ?_)
    · have T1 := Tt.fp P f1
      refine zr_ifeq dX13_program_23 (tgt := 38) (by decide) (by decide) (fun h => absurd h (by decide)) (fun _ => ?_)
      exfalso
      have := pSg_l e1 (by decide)
      omega
    · have T1 := Tt.fp P f1
      refine zr_ifeq dX13_program_23 (tgt := 38) (by decide) (by decide) (fun _ => ?_) (fun h => absurd h (by decide))
      have L1 := L.fr (ah' := ah1) (fun b o hb ho => f1 b o ho (fun z => by rcases hb with hb | hb <;> rw [hb] at z <;> first | exact npa.1 z.symm | exact npa.2 z.symm))
      refine zr_aload_n dX13_program_38 rfl rfl ?_
      refine zr_aload_n dX13_program_39 rfl rfl ?_
      refine zr_getf dX13_program_40 nX13 (k := 0) (by decide) q1780 (Or.inl rfl) P1 rfl ?_
      refine zr_aload_n dX13_program_43 rfl rfl ?_
      refine zr_getf dX13_program_44 nX13 (k := 1) (by decide) q1781 (Or.inl rfl) P1 rfl ?_
      refine zr_getfN dX13_program_47 nX1 (k := 5) (by decide) q280 (f1 _ _ t1 (fun z => by rw [z] at t1; unfold zPz at P; rw [P] at t1; cases t1)) rfl ?_
      refine zr_icmpne dX13_program_50 (tgt := 57) (by decide) (by omega) (by omega) (fun h50 => ?_) (fun h50 => ?_)
      · refine zr_iconst dX13_program_57 ?_
        refine zc_v1 dX13_program_58 hX13_require gX13_require rfl rfl 6 1 7 (by omega) (by omega) (by omega) q1852 q1854 sp28 P1.rc ?_
        exact kX13_require (b := false) P1 (by omega) (by omega) (by omega) (fun h => absurd h (by decide)) (fun _ ah9 q9 g9 x9 => zK_x (zX_out (fun x hx => nomatch hx) (kx ah9 q9 h (Or.inr ⟨[], (by unfold pTail; rw [if_neg e1]), by omega⟩) (F.tr (f1.tr g9.fp)) x9)))
      · refine zr_iconst dX13_program_53 ?_
        refine zr_goto dX13_program_54 (tgt := 58) (by decide) ?_
        refine zc_v1 dX13_program_58 hX13_require gX13_require rfl rfl 6 1 7 (by omega) (by omega) (by omega) q1852 q1854 sp28 P1.rc ?_
        refine kX13_require (b := true) P1 (by omega) (by omega) (by omega) (fun _ => zK_v ?_) (fun h => absurd h (by decide))
        refine zr_aload_n dX13_program_61 rfl rfl ?_
        refine zr_areturn dX13_program_62 rfl rfl rfl ?_
        exact k ah1 e n mc g cs [] (by rw [show pTail tp tn _ h = (some [], h) from (by unfold pTail; rw [if_neg e1]), show h = tn by omega]) (F.tr f1) L1 (by rw [List.append_nil]; exact C.fr (f1.kc P)) (by omega)
  | succ f ih =>
    intro rc rs h ah e n mc g cs Xs J g1 hh g3 g4 g5 g6 F P Tt L C k kx
    refine zW_dom (fun hdom => ?_)
    refine zW_tb (fun T => ?_)
    obtain ⟨tT, a_, v_, q_, lb_, er_, fl_, ft_, t1, t2, t3⟩ := id Tt
    have tTb := tT.2.1
    have hemA : ah (zEm G) = none := by
      cases z : ah (zEm G) with
      | none => rfl
      | some o => have := hdom _ _ z; have := (z_empty T).2.2; omega
    have hneA := L.ne hemA
    have npa : p ≠ a ∧ p ≠ e := hneA _ _ P (fun _ z => by cases z) (fun _ _ z => by cases z)
    refine zr_aload_n dX13_program_17 rfl rfl ?_
    refine zr_bipush dX13_program_18 rfl ?_
    refine zc_v1 dX13_program_20 hX13_accept gX13_accept rfl rfl 2 0 0 (by omega) (Nat.zero_le _) (Nat.zero_le _) q1905 q1907 sp32 P.rc ?_
    refine kX13_accept (c := 59) P Tt hh (by decide) (by omega) (fun e1 ah1 f1 P1 => zK_i ?_) (fun e1 ah1 f1 P1 => zK_i ?_)
    · have T1 := Tt.fp P f1
      refine zr_ifeq dX13_program_23 (tgt := 38) (by decide) (by decide) (fun h => absurd h (by decide)) (fun _ => ?_)
      refine zr_aload_n dX13_program_26 rfl rfl ?_
      refine zr_aload_n dX13_program_27 rfl rfl ?_
      refine zc_v0 dX13_program_28 hX13_command gX13_command rfl rfl 45 50 320 (by omega) (by omega) (by omega) q1793 q1795 sp26 P1.rc ?_
      have hlt := pSg_l e1 (by decide)
      refine kX13_command P1 T1 ⟨by omega, by omega⟩ (by omega) (by omega) (by omega) (fun ah2 c2 X2 h2 e2 q2 b2 f2 P2 C2 => zK_i ?_) (fun ah9 q9 h9 e9 f9 x9 => zK_x (zX_out (fun x hx => nomatch hx) (kx ah9 q9 h9 (Or.inl (by unfold pTail; rw [if_pos e1, pPg, pB_n e9])) (F.tr (f1.tr f9)) x9)))
      have f12 := f1.tr f2
      have L2 := L.fr (ah' := ah2) (fun b o hb ho => f12 b o ho (fun z => by rcases hb with hb | hb <;> rw [hb] at z <;> first | exact npa.1 z.symm | exact npa.2 z.symm))
      have T2 := T1.fp P1 f2
      have D2 := C.fr (f12.kc P)
      refine zW_dom (fun hdom2 => ?_)
      have hem2 : ah2 (zEm G) = none := by
        cases z : ah2 (zEm G) with
        | none => rfl
        | some o => have := hdom2 _ _ z; have := (z_empty T).2.2; omega
      refine zc_v1 dX13_program_31 hJ2_add gJ2_add rfl rfl 6 1 40 (by omega) (by omega) (by omega) q2009 q1090 q1091 (Or.inl ⟨13, _, TJ2, 3, tyJ2, nJ2, L2.1⟩) ?_
      have hne2 := L2.ne hem2
      obtain ⟨bc2, hbc2, -⟩ := id C2
      refine kJ2_add L2 q2655 (fun x hx => by obtain ⟨b, hb⟩ := zCs.el D2 hx; exact Or.inl ⟨12, _, TX15, 1, tyX15, nX15, hb⟩) C2.rc (hne2 _ _ hbc2 (fun _ z => by cases z) (fun _ _ z => by cases z)).1 (fun y hy => by obtain ⟨b, hb⟩ := zCs.el D2 hy; exact (hne2 _ _ hb (fun _ z => by cases z) (fun _ _ z => by cases z)).1) (by omega) (by omega) (by omega) (by omega) (fun ah5 e5 n5 g5 L5 fr5 ee5 => zK_i ?_)
      have k5 : ∀ b o, ah2 b = some o → (∀ fs, o ≠ .inl (13, fs)) → (∀ m z, o ≠ .inr (.object "java/lang/Object", m, z)) → ah5 b = some o := fun b o hb n1 n2 => fr5 b o hb (hne2 b o hb n1 n2).1 (hne2 b o hb n1 n2).2
      have kc5 : zKc ah2 ah5 := fun b o hb ho => k5 b o hb (fun fs z => by obtain ⟨ci, gs, e, hc⟩ := ho; rw [z] at e; cases e; omega) (fun m w z => by obtain ⟨ci, gs, e, hc⟩ := ho; rw [z] at e; cases e)
      have P5 : zPz ah5 p gd h2 := k5 _ _ P2 (fun _ z => by cases z) (fun _ _ z => by cases z)
      have T5 := T2.fr k5
      have C5 := (zCs.app D2 C2 q2).fr kc5
      refine zr_istore_n dX13_program_34 (by decide) (zs3_2 rfl ?_)
      refine zr_goto dX13_program_35 (tgt := 17) (by decide) ?_
      have hnB : ∀ b o, ahB b = some o → b ≠ p → b ≠ a ∧ b ≠ e := fun b o hb hn => ⟨fun z => (by rw [z, haB] at hb; cases hb), fun z => (by rw [z, g6] at hb; cases hb)⟩
      have F5 : zFp p ahB ah5 := fun b o hb hn => fr5 b o (f12 b o (F b o hb hn) hn) (hnB b o hb hn).1 (hnB b o hb hn).2
      have e5B : ahB e5 = none := by
        rcases ee5 with z | z
        · cases w : ahB e5 with
          | none => rfl
          | some o =>
            by_cases q : e5 = p
            · rw [q] at z; unfold zPz at P2; rw [P2] at z; cases z
            · rw [f12 _ _ (F _ _ w q) q] at z; cases z
        · rw [z]; exact g6
      have etl : pTail tp tn (f + 1) h = pB (pTail tp tn f h2) (fun l h => (some (X2 :: l), h)) := by unfold pTail; rw [if_pos e1, pPg, pB_s e2]
      exact ih _ _ h2 ah5 e5 n5 _ g5 _ _ _ (by omega) ⟨by omega, by omega⟩ (by omega) (by omega) (by simp; omega) e5B F5 P5 T5 L5 C5 (fun ah9 e9 n9 mc9 g9 cs9 Ys y1 y2 y3 y4 y5 => k ah9 e9 n9 mc9 g9 cs9 (X2 :: Ys) (by rw [etl, pB_s y1]) y2 y3 (by rw [List.append_assoc] at y4; exact y4) y5) (fun ah9 q9 h9 y1 y2 y3 => kx ah9 q9 h9 (by
        rcases y1 with y1 | ⟨Ys, y1, y4⟩
        · exact Or.inl (by rw [etl, pB_n y1])
        · exact Or.inr ⟨X2 :: Ys, by rw [etl, pB_s y1], y4⟩) y2 y3)
    · have T1 := Tt.fp P f1
      refine zr_ifeq dX13_program_23 (tgt := 38) (by decide) (by decide) (fun _ => ?_) (fun h => absurd h (by decide))
      have L1 := L.fr (ah' := ah1) (fun b o hb ho => f1 b o ho (fun z => by rcases hb with hb | hb <;> rw [hb] at z <;> first | exact npa.1 z.symm | exact npa.2 z.symm))
      refine zr_aload_n dX13_program_38 rfl rfl ?_
      refine zr_aload_n dX13_program_39 rfl rfl ?_
      refine zr_getf dX13_program_40 nX13 (k := 0) (by decide) q1780 (Or.inl rfl) P1 rfl ?_
      refine zr_aload_n dX13_program_43 rfl rfl ?_
      refine zr_getf dX13_program_44 nX13 (k := 1) (by decide) q1781 (Or.inl rfl) P1 rfl ?_
      refine zr_getfN dX13_program_47 nX1 (k := 5) (by decide) q280 (f1 _ _ t1 (fun z => by rw [z] at t1; unfold zPz at P; rw [P] at t1; cases t1)) rfl ?_
      refine zr_icmpne dX13_program_50 (tgt := 57) (by decide) (by omega) (by omega) (fun h50 => ?_) (fun h50 => ?_)
      · refine zr_iconst dX13_program_57 ?_
        refine zc_v1 dX13_program_58 hX13_require gX13_require rfl rfl 6 1 7 (by omega) (by omega) (by omega) q1852 q1854 sp28 P1.rc ?_
        exact kX13_require (b := false) P1 (by omega) (by omega) (by omega) (fun h => absurd h (by decide)) (fun _ ah9 q9 g9 x9 => zK_x (zX_out (fun x hx => nomatch hx) (kx ah9 q9 h (Or.inr ⟨[], (by unfold pTail; rw [if_neg e1]), by omega⟩) (F.tr (f1.tr g9.fp)) x9)))
      · refine zr_iconst dX13_program_53 ?_
        refine zr_goto dX13_program_54 (tgt := 58) (by decide) ?_
        refine zc_v1 dX13_program_58 hX13_require gX13_require rfl rfl 6 1 7 (by omega) (by omega) (by omega) q1852 q1854 sp28 P1.rc ?_
        refine kX13_require (b := true) P1 (by omega) (by omega) (by omega) (fun _ => zK_v ?_) (fun h => absurd h (by decide))
        refine zr_aload_n dX13_program_61 rfl rfl ?_
        refine zr_areturn dX13_program_62 rfl rfl rfl ?_
        exact k ah1 e n mc g cs [] (by rw [show pTail tp tn _ h = (some [], h) from (by unfold pTail; rw [if_neg e1]), show h = tn by omega]) (F.tr f1) L1 (by rw [List.append_nil]; exact C.fr (f1.kc P)) (by omega)
theorem kX13_program {G : State} {d rc rs : Nat} {ah : zH} {Q : zRs → zH → Prop} {p gd tx : Nat} {tp : Int → Int} {tn : Int} (P : zPz ah p gd 0) (Tt : zTt ah gd tx tp tn) (hd : 56 ≤ d) (hc : 3400 ≤ rc) (hs9 : 23000 ≤ rs) (k : ∀ ah9 a9 e9 n9 mc9 g9 cs9 Ys, pProg tp tn = (some Ys, tn) → zFp p ah ah9 → ah a9 = none → zLst G ah9 a9 e9 n9 mc9 g9 cs9 → zCs G ah9 cs9 Ys → 1 ≤ cs9.length ∧ cs9.length ≤ 20 → Q (.inl (some (.ref a9))) ah9) (kx : ∀ ah9 q9 h9, pProg tp tn = (none, h9) → zFp p ah ah9 → zSx ah9 q9 h9 → Q (.inr ("TrailGuide$SyntaxException", q9)) ah9) : zW G mX13_program d rc rs 0 (zent [.ref p]) [] ah Q := by
  refine zW_open 2 [some (.ref p), none, none] rfl ?_
  refine zW_dom (fun hdom => ?_)
  refine zW_tb (fun T => ?_)
  refine zr_new (fs := [.int (zi 0), .null, .int (zi 0)]) dX13_program_0 nJ2 q1791 q153 q95 (z_ble rfl) dfJ2 (by omega) (by omega) (fun a9 ha9 => ?_)
  refine zr_dup dX13_program_3 rfl ?_
  refine zc_i0 rfl rfl rfl dX13_program_4 hJ2_init gJ2_init rfl rfl 3 0 0 (by omega) (Nat.zero_le _) (Nat.zero_le _) q1792 q155 ?_
  refine kJ2_init z_up_s (by omega) (zK_v ?_)
  rw [z_up_o]
  have P1 : zPz (z_up ah a9 (.inl (13, [.int (zi 0), .ref (zEm G), .int (zi 0)]))) p gd 0 := z_upk ha9 P
  have f1 : zFp p ah (z_up ah a9 (.inl (13, [.int (zi 0), .ref (zEm G), .int (zi 0)]))) := (zGr.up ha9).fp
  have L1 : zLst G (z_up ah a9 (.inl (13, [.int (zi 0), .ref (zEm G), .int (zi 0)]))) a9 (zEm G) 0 0 (fun _ => .null) [] := ⟨z_up_s, Or.inl ⟨rfl, rfl⟩, Nat.le_refl _, by decide, fun i x hx => by simp at hx, fun i _ hi => absurd hi (by omega)⟩
  have T1 := Tt.fp P f1
  have hemA : ah (zEm G) = none := by
    cases z : ah (zEm G) with
    | none => rfl
    | some o => have := hdom _ _ z; have := (z_empty T).2.2; omega
  have npa : p ≠ a9 := fun z => by rw [← z] at ha9; unfold zPz at P; rw [P] at ha9; cases ha9
  generalize z_up ah a9 (.inl (13, [.int (zi 0), .ref (zEm G), .int (zi 0)])) = ah1 at P1 f1 L1 T1 ⊢
  refine zr_astore_n dX13_program_7 (by decide) rfl (zs3_1 rfl ?_)
  refine zr_aload_n dX13_program_8 rfl rfl ?_
  refine zr_aload_n dX13_program_9 rfl rfl ?_
  refine zc_v0 dX13_program_10 hX13_command gX13_command rfl rfl 45 50 320 (by omega) (by omega) (by omega) q1793 q1795 sp26 P1.rc ?_
  refine kX13_command P1 T1 ⟨by decide, Tt.1.1⟩ (by omega) (by omega) (by omega) (fun ah2 c2 X2 h2 e2 q2 b2 f2 P2 C2 => zK_i ?_) (fun ah9 q9 h9 e9 f9 x9 => zK_x (zX_out (fun x hx => nomatch hx) (kx ah9 q9 h9 (by unfold pProg; rw [show pPg tp tn 61 0 = (none, h9) from by rw [pPg, pB_n e9]]) (f1.tr f9) x9)))
  have f12 := f1.tr f2
  have tTb := Tt.1.2.1
  refine zW_dom (fun hdom2 => ?_)
  have hem2 : ah2 (zEm G) = none := by
    cases z : ah2 (zEm G) with
    | none => rfl
    | some o => have := hdom2 _ _ z; have := (z_empty T).2.2; omega
  have npe : p ≠ zEm G := fun z => by rw [← z] at hem2; unfold zPz at P2; rw [P2] at hem2; cases hem2
  have L2 := L1.fr (ah' := ah2) (fun b o hb ho => f2 b o ho (fun z => by rcases hb with hb | hb <;> rw [hb] at z <;> first | exact npa z.symm | exact npe z.symm))
  have T2 := T1.fp P1 f2
  have D2 : zCs G ah2 [] [] := ⟨rfl, fun i c X hc => by simp at hc⟩
  refine zc_v1 dX13_program_13 hJ2_add gJ2_add rfl rfl 6 1 40 (by omega) (by omega) (by omega) q2009 q1090 q1091 (Or.inl ⟨13, _, TJ2, 3, tyJ2, nJ2, L2.1⟩) ?_
  have hne2 := L2.ne hem2
  obtain ⟨bc2, hbc2, -⟩ := id C2
  refine kJ2_add L2 q2655 (fun x hx => by obtain ⟨b, hb⟩ := zCs.el D2 hx; exact Or.inl ⟨12, _, TX15, 1, tyX15, nX15, hb⟩) C2.rc (hne2 _ _ hbc2 (fun _ z => by cases z) (fun _ _ z => by cases z)).1 (fun y hy => by obtain ⟨b, hb⟩ := zCs.el D2 hy; exact (hne2 _ _ hb (fun _ z => by cases z) (fun _ _ z => by cases z)).1) (by omega) (by omega) (by omega) (by omega) (fun ah5 e5 n5 g5 L5 fr5 ee5 => zK_i ?_)
  have k5 : ∀ b o, ah2 b = some o → (∀ fs, o ≠ .inl (13, fs)) → (∀ m z, o ≠ .inr (.object "java/lang/Object", m, z)) → ah5 b = some o := fun b o hb n1 n2 => fr5 b o hb (hne2 b o hb n1 n2).1 (hne2 b o hb n1 n2).2
  have kc5 : zKc ah2 ah5 := fun b o hb ho => k5 b o hb (fun fs z => by obtain ⟨ci, gs, e, hc⟩ := ho; rw [z] at e; cases e; omega) (fun m w z => by obtain ⟨ci, gs, e, hc⟩ := ho; rw [z] at e; cases e)
  have P5 : zPz ah5 p gd h2 := k5 _ _ P2 (fun _ z => by cases z) (fun _ _ z => by cases z)
  have T5 := T2.fr k5
  have C5 := (zCs.app D2 C2 q2).fr kc5
  refine zr_istore_n dX13_program_16 (by decide) (zs3_2 rfl ?_)
  have e5B : ah e5 = none := by
    rcases ee5 with z | z
    · cases w : ah e5 with
      | none => rfl
      | some o =>
        by_cases q : e5 = p
        · rw [q] at z; unfold zPz at P2; rw [P2] at z; cases z
        · rw [f12 _ _ w q] at z; cases z
    · rw [z]; exact hemA
  have F5 : zFp p ah ah5 := fun b o hb hn => fr5 b o (f12 b o hb hn) (fun z => by rw [z, ha9] at hb; cases hb) (fun z => by rw [z, hemA] at hb; cases hb)
  have ep : pPg tp tn 61 0 = pB (pTail tp tn 60 h2) (fun l h => (some (X2 :: l), h)) := by rw [pPg, pB_s e2]; rfl
  exact kX13_programL (by omega) (fun z => by unfold zPz at P; rw [P] at z; cases z) ha9 60 _ _ h2 ah5 e5 n5 _ g5 _ _ _ (by omega) ⟨by omega, by omega⟩ (by omega) (by omega) (by simp; omega) e5B F5 P5 T5 L5 C5 (fun ah9 e9 n9 mc9 g9 cs9 Ys y1 y2 y3 y4 y5 => k ah9 a9 e9 n9 mc9 g9 cs9 (X2 :: Ys) (by unfold pProg; rw [ep, pB_s y1]; simp) y2 ha9 y3 y4 ⟨by rw [y4.1]; simp, y5⟩) (fun ah9 q9 h9 y1 y2 y3 => kx ah9 q9 h9 (by
    unfold pProg
    rcases y1 with y1 | ⟨Ys, y1, y4⟩
    · rw [ep, pB_n y1]
    · rw [ep, pB_s y1]; simp [y4]) y2 y3)
