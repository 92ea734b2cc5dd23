set_option maxRecDepth 100000
/-! ===== the parser: words, numbers, modes, commands ===== -/
theorem pLit_g {t : Int → Int} {n : Int} {l : List Int} {h h' : Int} {x : Option Unit} (e : pLit t n l h = (x, h')) (hc : ∀ c ∈ l, 0 ≤ c) (h0 : 0 ≤ h ∧ h ≤ n) : 0 ≤ h' ∧ h' ≤ n := by
  have := pLit_b l e hc
  omega
theorem kX13_expectL {G : State} {d : Nat} {Q : zRs → zH → Prop} {ahB : zH} {p gd tx x : Nat} {tp : Int → Int} {tn : Int} {l : List Int} (hx : zStr G x l) (h8 : zL8 l) (hd : 7 ≤ d) (n9 : Nat) : ∀ (i rc rs : Nat) (h : Int) (ah : zH), i + n9 = l.length → n9 ≤ rc → 7 * n9 ≤ rs → zFp p ahB ah → zPz ah p gd h → zTt ah gd tx tp tn → (0 ≤ h ∧ h ≤ tn) → (∀ ah9 h9, pLit tp tn (l.drop i) h = (some (), h9) → zFp p ahB ah9 → zPz ah9 p gd h9 → Q (.inl none) ah9) → (∀ ah9 q9 h9, pLit tp tn (l.drop i) h = (none, h9) → zFp p ahB ah9 → zSx ah9 q9 h9 → Q (.inr ("TrailGuide$SyntaxException", q9)) ah9) → zW G mX13_expect d rc rs 2 [some (.ref p), some (.ref x), some (.int (zi ((i : Nat) : Int)))] [] ah Q := by
  induction n9 with
  | zero =>
    intro i rc rs h ah g1 hc hs9 g4 P Tt hh k kx
    have hl8 := h8.1
    refine zr_iload_n dX13_expect_2 rfl ?_
    refine zr_aload_n dX13_expect_3 rfl rfl ?_
    refine zc_v0 dX13_expect_4 hJ7_length gJ7_length rfl rfl 1 0 0 (by omega) (Nat.zero_le _) (Nat.zero_le _) q1893 q556 q557 (show zTx G ah x l from Or.inl hx).rc ?_
    refine kJ7_length (show zTx G ah x l from Or.inl hx) (by omega) (zK_i ?_)
    refine zr_icmpge dX13_expect_7 (tgt := 29) (by decide) (by omega) (by omega) (fun h7 => ?_) (fun h7 => ?_)
    · refine zr_return dX13_expect_29 rfl ?_
      exact k ah h (by rw [List.drop_eq_nil_of_le (by omega)]; rfl) g4 P
    · exfalso; omega
  | succ n9 ih =>
    intro i rc rs h ah g1 hc hs9 g4 P Tt hh k kx
    have hl8 := h8.1
    refine zr_iload_n dX13_expect_2 rfl ?_
    refine zr_aload_n dX13_expect_3 rfl rfl ?_
    refine zc_v0 dX13_expect_4 hJ7_length gJ7_length rfl rfl 1 0 0 (by omega) (Nat.zero_le _) (Nat.zero_le _) q1893 q556 q557 (show zTx G ah x l from Or.inl hx).rc ?_
    refine kJ7_length (show zTx G ah x l from Or.inl hx) (by omega) (zK_i ?_)
    refine zr_icmpge dX13_expect_7 (tgt := 29) (by decide) (by omega) (by omega) (fun h7 => ?_) (fun h7 => ?_)
    · exfalso; omega
    · refine zr_aload_n dX13_expect_10 rfl rfl ?_
      refine zr_aload_n dX13_expect_11 rfl rfl ?_
      refine zr_aload_n dX13_expect_12 rfl rfl ?_
      refine zr_iload_n dX13_expect_13 rfl ?_
      refine zc_v1 dX13_expect_14 hJ7_charAt gJ7_charAt rfl rfl 3 0 0 (by omega) (Nat.zero_le _) (Nat.zero_le _) q1894 q1895 q1896 (show zTx G ah x l from Or.inl hx).rc ?_
      refine kJ7_charAt (show zTx G ah x l from Or.inl hx) h8 (by omega) (by omega) (zK_i ?_)
      rw [Int.toNat_natCast]
      obtain ⟨c, l9, hcl⟩ : ∃ c l9, l.drop i = c :: l9 := ⟨l[i]'(by omega), l.drop (i + 1), by rw [List.drop_eq_getElem_cons (by omega)]⟩
      have hci : l.getD i 0 = c := by
        have : (l.drop i)[0]? = some c := by rw [hcl]; rfl
        rw [List.getElem?_drop, Nat.add_zero] at this
        rw [List.getD_eq_getElem?_getD, this]; rfl
      have hl9 : l.drop (i + 1) = l9 := by
        have : (l.drop i).drop 1 = l9 := by rw [hcl]; rfl
        rw [List.drop_drop] at this
        exact this
      have hcb := h8.2 c (List.mem_of_mem_drop (i := i) (by rw [hcl]; exact List.mem_cons_self))
      rw [hci]
      have hst : pSg tp tn h = c → pLit tp tn (l.drop i) h = pLit tp tn (l.drop (i + 1)) (h + 1) := fun e => by
        rw [hcl, hl9]
        show pB (pCh tp tn c h) _ = _
        rw [show pCh tp tn c h = (some (), h + 1) from by unfold pCh; rw [if_pos e]]
        rfl
      have hsf : ¬ pSg tp tn h = c → pLit tp tn (l.drop i) h = (none, h) := fun e => by
        rw [hcl]
        show pB (pCh tp tn c h) _ = _
        rw [show pCh tp tn c h = (none, h) from by unfold pCh; rw [if_neg e]]
        rfl
      refine zc_v1 dX13_expect_17 hX13_accept gX13_accept rfl rfl 2 0 0 (by omega) (Nat.zero_le _) (Nat.zero_le _) q1905 q1907 sp32 P.rc ?_
      refine kX13_accept P Tt hh (by omega) (by omega) (fun h17 ah1 f1 P1 => zK_i ?_) (fun h17 ah1 f1 P1 => zK_i ?_)
      · refine zc_v1 dX13_expect_20 hX13_require gX13_require rfl rfl 6 1 7 (by omega) (by omega) (by omega) q1852 q1854 sp28 P1.rc ?_
        refine kX13_require (b := true) P1 (by omega) (by omega) (by omega) (fun _ => zK_v ?_) (fun h => absurd h (by decide))
        refine zr_iinc dX13_expect_23 rfl (by decide) (zs3_2 rfl ?_)
        refine zr_goto dX13_expect_26 (tgt := 2) (by decide) ?_
        have hlt := pSg_l h17 (by omega)
        exact ih (i + 1) _ _ (h + 1) ah1 (by omega) (by omega) (by omega) (g4.tr f1) P1 (Tt.fp P f1) (by omega) (fun ah9 h9 e9 => k ah9 h9 (by rw [hst h17]; exact e9)) (fun ah9 q9 h9 e9 => kx ah9 q9 h9 (by rw [hst h17]; exact e9))
      · refine zc_v1 dX13_expect_20 hX13_require gX13_require rfl rfl 6 1 7 (by omega) (by omega) (by omega) q1852 q1854 sp28 P1.rc ?_
        exact kX13_require (b := false) P1 (by omega) (by omega) (by omega) (fun h => absurd h (by decide)) (fun _ ah9 q9 g9 x9 => zK_x (zX_out (fun x hx => nomatch hx) (kx ah9 q9 h (hsf h17) (g4.tr (f1.tr g9.fp)) x9)))
theorem kX13_expect {G : State} {d rc rs : Nat} {ah : zH} {Q : zRs → zH → Prop} {p gd tx : Nat} {tp : Int → Int} {tn h : Int} (P : zPz ah p gd h) (Tt : zTt ah gd tx tp tn) (hh : 0 ≤ h ∧ h ≤ tn) {x : Nat} {l : List Int} (hx : zStr G x l) (h8 : zL8 l) (hl6 : l.length ≤ 6) (hd : 7 ≤ d) (hc : 6 ≤ rc) (hs9 : 42 ≤ rs) (k : ∀ ah9 h9, pLit tp tn l h = (some (), h9) → zFp p ah ah9 → zPz ah9 p gd h9 → Q (.inl none) ah9) (kx : ∀ ah9 q9 h9, pLit tp tn l h = (none, h9) → zFp p ah ah9 → zSx ah9 q9 h9 → Q (.inr ("TrailGuide$SyntaxException", q9)) ah9) : zW G mX13_expect d rc rs 0 (zent [.ref p, .ref x]) [] ah Q := by
  refine zW_open 1 [some (.ref p), some (.ref x), none] rfl ?_
  refine zr_iconst dX13_expect_0 ?_
  refine zr_istore_n dX13_expect_1 (by decide) (zs3_2 rfl ?_)
  exact kX13_expectL hx h8 hd l.length 0 rc rs h ah (by omega) (by omega) (by omega) zFp.rf P Tt hh k kx
theorem kX13_number {G : State} {d rc rs : Nat} {ah : zH} {Q : zRs → zH → Prop} {p gd tx : Nat} {tp : Int → Int} {tn h : Int} (P : zPz ah p gd h) (Tt : zTt ah gd tx tp tn) (hh : 0 ≤ h ∧ h ≤ tn) (hd : 10 ≤ d) (hc : 3 ≤ rc) (hs9 : 21 ≤ rs) (k : ∀ ah9 v9 h9, pNu tp tn 3 h = (some v9, h9) → zFp p ah ah9 → zPz ah9 p gd h9 → Q (.inl (some (.int (zi v9)))) ah9) (kx : ∀ ah9 q9 h9, pNu tp tn 3 h = (none, h9) → zFp p ah ah9 → zSx ah9 q9 h9 → Q (.inr ("TrailGuide$SyntaxException", q9)) ah9) : zW G mX13_number d rc rs 0 (zent [.ref p]) [] ah Q := by
  refine zW_open 2 [some (.ref p), none, none] rfl ?_
  refine zr_aload_n dX13_number_0 rfl rfl ?_
  refine zc_v0 dX13_number_1 hX13_digit gX13_digit rfl rfl 8 1 7 (by omega) (by omega) (by omega) q1913 q1915 sp34 P.rc ?_
  refine kX13_digit P Tt hh (by omega) (by omega) (by omega) (fun e0 ah1 f1 P1 => zK_i ?_) (fun e0 ah9 q9 f9 x9 => zK_x (zX_out (fun x hx => nomatch hx) ?_))
  rotate_left
  · exact kx _ _ _ (pNu_30 e0) f9 x9
  have b0 := pIn_iff.mp e0
  have T1 := Tt.fp P f1
  have l0 := pSg_l (t := tp) (n := tn) (h := h) rfl (by omega)
  have hh1 : 0 ≤ h + 1 ∧ h + 1 ≤ tn := by omega
  refine zr_istore_n dX13_number_4 (by decide) (zs3_1 rfl ?_)
  refine zr_iconst dX13_number_5 ?_
  refine zr_istore_n dX13_number_6 (by decide) (zs3_2 rfl ?_)
  refine zr_iload_n dX13_number_7 rfl ?_
  refine zr_iconst dX13_number_8 ?_
  refine zr_icmpge dX13_number_9 (tgt := 35) (by decide) (by decide) (by decide) (fun h => absurd h (by decide)) (fun _ => ?_)
  refine zr_aload_n dX13_number_12 rfl rfl ?_
  refine zc_v0 dX13_number_13 hX13_isDigit gX13_isDigit rfl rfl 2 0 0 (by omega) (Nat.zero_le _) (Nat.zero_le _) q1917 q1919 sp35 P1.rc ?_
  refine kX13_isDigit P1 T1 hh1 (by omega) (zK_i ?_)
  refine zr_ifeqB dX13_number_16 (tgt := 35) (by decide) (fun i1 => ?_) (fun i1 => ?_)
  · refine zr_iload_n dX13_number_35 rfl ?_
    refine zr_ireturn dX13_number_36 rfl (by first | rfl | exact z_nb _) ?_
    exact k _ _ _ (pNu_31 e0 (by rw [i1]; decide)) f1 P1
  · refine zr_bipush dX13_number_19 rfl ?_
    refine zr_iload_n dX13_number_21 rfl ?_
    refine zr_imul dX13_number_22 ?_
    refine zr_aload_n dX13_number_23 rfl rfl ?_
    refine zc_v0 dX13_number_24 hX13_digit gX13_digit rfl rfl 8 1 7 (by omega) (by omega) (by omega) q1913 q1915 sp34 P1.rc ?_
    refine kX13_digit P1 T1 hh1 (by omega) (by omega) (by omega) (fun e1 ah2 f2 P2 => zK_i ?_) (fun e1 ah9 q9 f9 x9 => zK_x (zX_out (fun x hx => nomatch hx) ?_))
    rotate_left
    · exact absurd i1 e1
    have b1 := pIn_iff.mp e1
    have T2 := T1.fp P1 f2
    have l1 := pSg_l (t := tp) (n := tn) (h := h + 1) rfl (by omega)
    have hh2 : 0 ≤ h + 1 + 1 ∧ h + 1 + 1 ≤ tn := by omega
    refine zr_iadd dX13_number_27 ?_
    refine zr_istore_n dX13_number_28 (by decide) (zs3_1 rfl ?_)
    refine zr_iinc dX13_number_29 rfl (by decide) (zs3_2 rfl ?_)
    refine zr_goto dX13_number_32 (tgt := 7) (by decide) ?_
    refine zr_iload_n dX13_number_7 rfl ?_
    refine zr_iconst dX13_number_8 ?_
    refine zr_icmpge dX13_number_9 (tgt := 35) (by decide) (by decide) (by decide) (fun h => absurd h (by decide)) (fun _ => ?_)
    refine zr_aload_n dX13_number_12 rfl rfl ?_
    refine zc_v0 dX13_number_13 hX13_isDigit gX13_isDigit rfl rfl 2 0 0 (by omega) (Nat.zero_le _) (Nat.zero_le _) q1917 q1919 sp35 P2.rc ?_
    refine kX13_isDigit P2 T2 hh2 (by omega) (zK_i ?_)
    refine zr_ifeqB dX13_number_16 (tgt := 35) (by decide) (fun i2 => ?_) (fun i2 => ?_)
    · refine zr_iload_n dX13_number_35 rfl ?_
      refine zr_ireturn dX13_number_36 rfl (by first | rfl | exact z_nb _) ?_
      exact k _ _ _ (pNu_32 e0 e1 (by rw [i2]; decide)) (f1.tr f2) P2
    · refine zr_bipush dX13_number_19 rfl ?_
      refine zr_iload_n dX13_number_21 rfl ?_
      refine zr_imul dX13_number_22 ?_
      refine zr_aload_n dX13_number_23 rfl rfl ?_
      refine zc_v0 dX13_number_24 hX13_digit gX13_digit rfl rfl 8 1 7 (by omega) (by omega) (by omega) q1913 q1915 sp34 P2.rc ?_
      refine kX13_digit P2 T2 hh2 (by omega) (by omega) (by omega) (fun e2 ah3 f3 P3 => zK_i ?_) (fun e2 ah9 q9 f9 x9 => zK_x (zX_out (fun x hx => nomatch hx) ?_))
      rotate_left
      · exact absurd i2 e2
      have b2 := pIn_iff.mp e2
      have T3 := T2.fp P2 f3
      have l2 := pSg_l (t := tp) (n := tn) (h := h + 1 + 1) rfl (by omega)
      have hh3 : 0 ≤ h + 1 + 1 + 1 ∧ h + 1 + 1 + 1 ≤ tn := by omega
      refine zr_iadd dX13_number_27 ?_
      refine zr_istore_n dX13_number_28 (by decide) (zs3_1 rfl ?_)
      refine zr_iinc dX13_number_29 rfl (by decide) (zs3_2 rfl ?_)
      refine zr_goto dX13_number_32 (tgt := 7) (by decide) ?_
      refine zr_iload_n dX13_number_7 rfl ?_
      refine zr_iconst dX13_number_8 ?_
      refine zr_icmpge dX13_number_9 (tgt := 35) (by decide) (by decide) (by decide) (fun _ => ?_) (fun h => absurd h (by decide))
      refine zr_iload_n dX13_number_35 rfl ?_
      refine zr_ireturn dX13_number_36 rfl (by first | rfl | exact z_nb _) ?_
      exact k _ _ _ (pNu_33 e0 e1 e2) ((f1.tr f2).tr f3) P3
theorem kX13_numberAfter {G : State} {d rc rs : Nat} {ah : zH} {Q : zRs → zH → Prop} {p gd tx : Nat} {tp : Int → Int} {tn h : Int} (P : zPz ah p gd h) (Tt : zTt ah gd tx tp tn) (hh : 0 ≤ h ∧ h ≤ tn) {x : Nat} {l : List Int} (hx : zStr G x l) (h8 : zL8 l) (hl6 : l.length ≤ 6) (hd : 12 ≤ d) (hc : 9 ≤ rc) (hs9 : 63 ≤ rs) (k : ∀ ah9 v9 h1 h9, pLit tp tn l h = (some (), h1) → pNu tp tn 3 h1 = (some v9, h9) → (0 ≤ v9 ∧ v9 ≤ 999) → (h < h9 ∧ h9 ≤ tn) → zFp p ah ah9 → zPz ah9 p gd h9 → Q (.inl (some (.int (zi v9)))) ah9) (kx : ∀ ah9 q9 h9, (pLit tp tn l h = (none, h9) ∨ (∃ h1, pLit tp tn l h = (some (), h1) ∧ pNu tp tn 3 h1 = (none, h9))) → zFp p ah ah9 → zSx ah9 q9 h9 → Q (.inr ("TrailGuide$SyntaxException", q9)) ah9) : zW G mX13_numberAfter d rc rs 0 (zent [.ref p, .ref x]) [] ah Q := by
  refine zW_open 0 [some (.ref p), some (.ref x)] rfl ?_
  refine zr_aload_n dX13_numberAfter_0 rfl rfl ?_
  refine zr_aload_n dX13_numberAfter_1 rfl rfl ?_
  refine zc_v1 dX13_numberAfter_2 hX13_expect gX13_expect rfl rfl 7 6 42 (by omega) (by omega) (by omega) q1889 q1891 sp31 P.rc ?_
  refine kX13_expect P Tt hh hx h8 hl6 (by omega) (by omega) (by omega) (fun ah1 h1 e1 f1 P1 => zK_v ?_) (fun ah9 q9 h9 e9 f9 x9 => zK_x (zX_out (fun x hx => nomatch hx) (kx ah9 q9 h9 (Or.inl e9) f9 x9)))
  have T1 := Tt.fp P f1
  have hh1 := pLit_g e1 (fun c hc => (h8.2 c hc).1) hh
  have hm1 := pLit_b l e1 (fun c hc => (h8.2 c hc).1)
  refine zr_aload_n dX13_numberAfter_5 rfl rfl ?_
  refine zc_v0 dX13_numberAfter_6 hX13_number gX13_number rfl rfl 10 3 21 (by omega) (by omega) (by omega) q1909 q1911 sp33 P1.rc ?_
  refine kX13_number P1 T1 hh1 (by omega) (by omega) (by omega) (fun ah2 v2 h2 e2 f2 P2 => zK_i ?_) (fun ah9 q9 h9 e9 f9 x9 => zK_x (zX_out (fun x hx => nomatch hx) (kx ah9 q9 h9 (Or.inr ⟨h1, e1, e9⟩) (f1.tr f9) x9)))
  have bv := pNu_b (by decide) e2 hh1.2
  refine zr_ireturn dX13_numberAfter_9 rfl (by first | rfl | exact z_nb _) ?_
  exact k _ _ h1 h2 e1 e2 (by omega) (by omega) (f1.tr f2) P2
theorem kX3_values {G : State} {d rc rs : Nat} {ah : zH} {Q : zRs → zH → Prop} (hd : 1 ≤ d) (hc : 1 ≤ rc) (hs : 3 ≤ rs) (k : ∀ q, ah q = none → Q (.inl (some (.ref q))) (z_up ah q (.inr (.object "TrailGuide$Mode", 3, fun j => .ref (zMo G j))))) : zW G mX3_values d rc rs 0 (zent []) [] ah Q := by
  refine zW_open 0 [] rfl ?_
  refine zW_tb (fun T => ?_)
  obtain ⟨a, va, vv⟩ := z_vals T
  refine zr_getstatic dX3_values_0 q1977 va ?_
  refine zr_values dX3_values_3 q1979 (by decide) (by omega) (by omega) (by omega) vv (fun q hq => ?_)
  refine zr_castA dX3_values_6 q1984 (by decide) z_up_s ?_
  refine zr_areturn dX3_values_9 rfl rfl rfl ?_
  exact k q hq
theorem kX13_mode {G : State} {d rc rs : Nat} {ah : zH} {Q : zRs → zH → Prop} {p gd tx : Nat} {tp : Int → Int} {tn h : Int} (P : zPz ah p gd h) (Tt : zTt ah gd tx tp tn) (hh : 0 ≤ h ∧ h ≤ tn) (hd : 8 ≤ d) (hc : 2 ≤ rc) (hs9 : 10 ≤ rs) (k : ∀ ah9 v9 h9, pMo tp tn h = (some v9, h9) → zFp p ah ah9 → zPz ah9 p gd h9 → Q (.inl (some (.int (zi v9)))) ah9) (kx : ∀ ah9 q9 h9, pMo tp tn h = (none, h9) → zFp p ah ah9 → zSx ah9 q9 h9 → Q (.inr ("TrailGuide$SyntaxException", q9)) ah9) : zW G mX13_mode d rc rs 0 (zent [.ref p]) [] ah Q := by
  refine zW_open 4 [some (.ref p), none, none, none, none] rfl ?_
  refine zW_tb (fun T => ?_)
  refine zc_s0 dX13_mode_0 hX3_values gX3_values rfl rfl 1 1 3 (by omega) (by omega) (by omega) q1974 q1975 ?_
  refine kX3_values (by omega) (by omega) (by omega) (fun vq hvq => zK_i ?_)
  have P0 : zPz (z_up ah vq (.inr (.object "TrailGuide$Mode", 3, fun j => .ref (zMo G j)))) p gd h := z_upk hvq P
  have f0 : zFp p ah (z_up ah vq (.inr (.object "TrailGuide$Mode", 3, fun j => .ref (zMo G j)))) := (zGr.up hvq).fp
  have ov : z_up ah vq (.inr (.object "TrailGuide$Mode", 3, fun j => .ref (zMo G j))) vq = some (.inr (.object "TrailGuide$Mode", 3, fun j => .ref (zMo G j))) := z_up_s
  have T0 := Tt.fp P f0
  have nvp : vq ≠ p := fun z => by rw [z] at hvq; unfold zPz at P; rw [P] at hvq; cases hvq
  generalize z_up ah vq (.inr (.object "TrailGuide$Mode", 3, fun j => .ref (zMo G j))) = ah0 at P0 f0 ov T0 ⊢
  refine zr_astore_n dX13_mode_3 (by decide) rfl (zs5_1 rfl ?_)
  refine zr_aload_n dX13_mode_4 rfl rfl ?_
  refine zr_alen dX13_mode_5 (Or.inl ov) ?_
  refine zr_istore_n dX13_mode_6 (by decide) (zs5_2 rfl ?_)
  refine zr_iconst dX13_mode_7 ?_
  refine zr_istore_n dX13_mode_8 (by decide) (zs5_3 rfl ?_)
  refine zr_iload_n dX13_mode_9 rfl ?_
  refine zr_iload_n dX13_mode_10 rfl ?_
  refine zr_icmpge dX13_mode_11 (tgt := 43) (by decide) (by decide) (by decide) (fun h => absurd h (by decide)) (fun _ => ?_)
  refine zr_aload_n dX13_mode_14 rfl rfl ?_
  refine zr_iload_n dX13_mode_15 rfl ?_
  refine zr_aaload dX13_mode_16 (Or.inl ov) rfl (by decide) (by omega) rfl ?_
  obtain ⟨m1, m2, m3, m4⟩ := z_modeF T (k := 0) (by decide)
  refine zr_astore dX13_mode_17 (by decide) rfl (zs5_4 rfl ?_)
  refine zr_aload_n dX13_mode_19 rfl rfl ?_
  refine zr_aload dX13_mode_20 rfl rfl ?_
  refine zr_getfNS dX13_mode_22 q2673 m3 ?_
  refine zc_v1 dX13_mode_25 hX13_accept gX13_accept rfl rfl 2 0 0 (by omega) (Nat.zero_le _) (Nat.zero_le _) q1905 q1907 sp32 P0.rc ?_
  refine kX13_accept (c := 101) P0 T0 hh (by decide) (by omega) (fun e0 ah9 f9 P9 => zK_i ?_) (fun e0 ah1 f1 P1 => zK_i ?_)
  · refine zr_ifeq dX13_mode_28 (tgt := 37) (by decide) (by decide) (fun h => absurd h (by decide)) (fun _ => ?_)
    refine zr_aload dX13_mode_31 rfl rfl ?_
    refine zr_virtU (M' := mJ3_ordinal) (x := ⟨"TrailGuide$Mode", "ordinal", "()I"⟩) (as := []) (rest := []) rfl dX13_mode_33 hJ3_ordinal (zSig.of (by decide +kernel)) rfl (z_ble rfl) (z_ble rfl) (d' := 0) (mc := 0) (ms := 0) (by omega) (Nat.zero_le _) (Nat.zero_le _) q1985 q380 (Or.inl q381) (by decide) q383 q382 rfl (Or.inr m1) ?_
    refine kJ3_ordinal m2 (zK_i ?_)
    refine zr_ireturn dX13_mode_36 rfl (by first | rfl | exact z_nb _) ?_
    exact k _ 0 _ (by unfold pMo; rw [if_pos e0]) (f0.tr f9) P9
  have T1 := T0.fp P0 f1
  have o1 := f1 _ _ ov nvp
  refine zr_ifeq dX13_mode_28 (tgt := 37) (by decide) (by decide) (fun _ => ?_) (fun h => absurd h (by decide))
  refine zr_iinc dX13_mode_37 rfl (by decide) (zs5_3 rfl ?_)
  refine zr_goto dX13_mode_40 (tgt := 9) (by decide) ?_
  refine zr_iload_n dX13_mode_9 rfl ?_
  refine zr_iload_n dX13_mode_10 rfl ?_
  refine zr_icmpge dX13_mode_11 (tgt := 43) (by decide) (by decide) (by decide) (fun h => absurd h (by decide)) (fun _ => ?_)
  refine zr_aload_n dX13_mode_14 rfl rfl ?_
  refine zr_iload_n dX13_mode_15 rfl ?_
  refine zr_aaload dX13_mode_16 (Or.inl o1) rfl (by decide) (by omega) rfl ?_
  obtain ⟨m1, m2, m3, m4⟩ := z_modeF T (k := 1) (by decide)
  refine zr_astore dX13_mode_17 (by decide) rfl (zs5_4 rfl ?_)
  refine zr_aload_n dX13_mode_19 rfl rfl ?_
  refine zr_aload dX13_mode_20 rfl rfl ?_
  refine zr_getfNS dX13_mode_22 q2673 m3 ?_
  refine zc_v1 dX13_mode_25 hX13_accept gX13_accept rfl rfl 2 0 0 (by omega) (Nat.zero_le _) (Nat.zero_le _) q1905 q1907 sp32 P1.rc ?_
  refine kX13_accept (c := 110) P1 T1 hh (by decide) (by omega) (fun e1 ah9 f9 P9 => zK_i ?_) (fun e1 ah2 f2 P2 => zK_i ?_)
  · refine zr_ifeq dX13_mode_28 (tgt := 37) (by decide) (by decide) (fun h => absurd h (by decide)) (fun _ => ?_)
    refine zr_aload dX13_mode_31 rfl rfl ?_
    refine zr_virtU (M' := mJ3_ordinal) (x := ⟨"TrailGuide$Mode", "ordinal", "()I"⟩) (as := []) (rest := []) rfl dX13_mode_33 hJ3_ordinal (zSig.of (by decide +kernel)) rfl (z_ble rfl) (z_ble rfl) (d' := 0) (mc := 0) (ms := 0) (by omega) (Nat.zero_le _) (Nat.zero_le _) q1985 q380 (Or.inl q381) (by decide) q383 q382 rfl (Or.inr m1) ?_
    refine kJ3_ordinal m2 (zK_i ?_)
    refine zr_ireturn dX13_mode_36 rfl (by first | rfl | exact z_nb _) ?_
    exact k _ 1 _ (by unfold pMo; rw [if_neg e0, if_pos e1]) ((f0.tr f1).tr f9) P9
  have T2 := T1.fp P1 f2
  have o2 := f2 _ _ o1 nvp
  refine zr_ifeq dX13_mode_28 (tgt := 37) (by decide) (by decide) (fun _ => ?_) (fun h => absurd h (by decide))
  refine zr_iinc dX13_mode_37 rfl (by decide) (zs5_3 rfl ?_)
  refine zr_goto dX13_mode_40 (tgt := 9) (by decide) ?_
  refine zr_iload_n dX13_mode_9 rfl ?_
  refine zr_iload_n dX13_mode_10 rfl ?_
  refine zr_icmpge dX13_mode_11 (tgt := 43) (by decide) (by decide) (by decide) (fun h => absurd h (by decide)) (fun _ => ?_)
  refine zr_aload_n dX13_mode_14 rfl rfl ?_
  refine zr_iload_n dX13_mode_15 rfl ?_
  refine zr_aaload dX13_mode_16 (Or.inl o2) rfl (by decide) (by omega) rfl ?_
  obtain ⟨m1, m2, m3, m4⟩ := z_modeF T (k := 2) (by decide)
  refine zr_astore dX13_mode_17 (by decide) rfl (zs5_4 rfl ?_)
  refine zr_aload_n dX13_mode_19 rfl rfl ?_
  refine zr_aload dX13_mode_20 rfl rfl ?_
  refine zr_getfNS dX13_mode_22 q2673 m3 ?_
  refine zc_v1 dX13_mode_25 hX13_accept gX13_accept rfl rfl 2 0 0 (by omega) (Nat.zero_le _) (Nat.zero_le _) q1905 q1907 sp32 P2.rc ?_
  refine kX13_accept (c := 102) P2 T2 hh (by decide) (by omega) (fun e2 ah9 f9 P9 => zK_i ?_) (fun e2 ah3 f3 P3 => zK_i ?_)
  · refine zr_ifeq dX13_mode_28 (tgt := 37) (by decide) (by decide) (fun h => absurd h (by decide)) (fun _ => ?_)
    refine zr_aload dX13_mode_31 rfl rfl ?_
    refine zr_virtU (M' := mJ3_ordinal) (x := ⟨"TrailGuide$Mode", "ordinal", "()I"⟩) (as := []) (rest := []) rfl dX13_mode_33 hJ3_ordinal (zSig.of (by decide +kernel)) rfl (z_ble rfl) (z_ble rfl) (d' := 0) (mc := 0) (ms := 0) (by omega) (Nat.zero_le _) (Nat.zero_le _) q1985 q380 (Or.inl q381) (by decide) q383 q382 rfl (Or.inr m1) ?_
    refine kJ3_ordinal m2 (zK_i ?_)
    refine zr_ireturn dX13_mode_36 rfl (by first | rfl | exact z_nb _) ?_
    exact k _ 2 _ (by unfold pMo; rw [if_neg e0, if_neg e1, if_pos e2]) (((f0.tr f1).tr f2).tr f9) P9
  have T3 := T2.fp P2 f3
  have o3 := f3 _ _ o2 nvp
  refine zr_ifeq dX13_mode_28 (tgt := 37) (by decide) (by decide) (fun _ => ?_) (fun h => absurd h (by decide))
  refine zr_iinc dX13_mode_37 rfl (by decide) (zs5_3 rfl ?_)
  refine zr_goto dX13_mode_40 (tgt := 9) (by decide) ?_
  refine zr_iload_n dX13_mode_9 rfl ?_
  refine zr_iload_n dX13_mode_10 rfl ?_
  refine zr_icmpge dX13_mode_11 (tgt := 43) (by decide) (by decide) (by decide) (fun _ => ?_) (fun h => absurd h (by decide))
  refine zr_new (fs := [.null, .null, .null, .null, .null, .int (zi 0), .int (zi 0)]) dX13_mode_43 nX14 q1856 q1857 q135 (z_ble rfl) dfX14 (by omega) (by omega) (fun q4 hq4 => ?_)
  refine zr_dup dX13_mode_46 rfl ?_
  refine zr_aload_n dX13_mode_47 rfl rfl ?_
  refine zr_getf dX13_mode_48 nX13 (k := 0) (by decide) q1780 (Or.inl rfl) (z_upk hq4 P3) rfl ?_
  refine zc_i1 rfl rfl rfl dX13_mode_51 hX14_init gX14_init rfl rfl 5 0 0 (by omega) (Nat.zero_le _) (Nat.zero_le _) q1865 q1866 ?_
  refine kX14_init z_up_s (by omega) (zK_v ?_)
  rw [z_up_o]
  refine zr_athrow dX13_mode_54 nX14 z_up_s (zX_out (fun x hx => nomatch hx) ?_)
  exact kx _ q4 h (by unfold pMo; rw [if_neg e0, if_neg e1, if_neg e2]) ((((f0.tr f1).tr f2).tr f3).tr (zGr.up hq4).fp) z_up_s
