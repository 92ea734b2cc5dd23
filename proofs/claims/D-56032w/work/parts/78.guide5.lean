set_option maxRecDepth 100000
/-! ===== the component: the line ===== -/
/-- a heap alike, but for the line's builder and arrays of bytes -/
def zKl (lb : Nat) (ah ah' : zH) : Prop := ∀ u o, ah u = some o → u ≠ lb → zNB o → ah' u = some o
theorem zKl.rf {lb : Nat} {ah : zH} : zKl lb ah ah := fun _ _ h _ _ => h
theorem zKl.tr {lb : Nat} {a b c : zH} (h : zKl lb a b) (h' : zKl lb b c) : zKl lb a c := fun u o e n t => h' u o (h u o e n t) n t
theorem zGr.kl {lb : Nat} {ah ah' : zH} (h : zGr ah ah') : zKl lb ah ah' := fun u o e _ _ => h u o e
theorem zKl.of {G : State} {ah ah' : zH} {lb lv n : Nat} {ml : Int} {gl : Nat → Value} {l : List Int} (B : zSb G ah lb lv n ml gl l) (fr : ∀ b o, ah b = some o → b ≠ lb → b ≠ lv → ah' b = some o) : zKl lb ah ah' := fun u o hu h1 h2 => fr u o hu h1 (fun z => by rw [z, B.2.2.1] at hu; cases hu; exact h2)
section ZGL
variable {G : State} {F0 : Nat → Prop} {gd q D lb tx : Nat} {ah ah' : zH} {s : Int → Int} {sv : Option (Int → Int)} {hs : List (Int → Int)} {ln : List Int} {tp : Int → Int} {tn er fl : Int} {a : Nat} {v : Value} {h : Nat} {f : Nat → Value} {hl : List Nat} {lv n : Nat} {ml : Int} {gl ft : Nat → Value}
theorem zKl.kp (k : zKl lb ah ah') : zKp (zFg gd q D lb tx F0) ah ah' := fun u o nf nb hu => k u o hu (fun z => nf (Or.inr (Or.inr (Or.inr (Or.inl z))))) nb
theorem zGc.sb (H : zGc G F0 gd q D lb tx ah s sv hs ln tp tn er fl a v h f hl lv n ml gl ft) (k : zKl lb ah ah') {lv' n' : Nat} {ml' : Int} {gl' : Nat → Value} {ln' : List Int} (B : zSb G ah' lb lv' n' ml' gl' ln') (hn : n' ≤ 400) : zGc G F0 gd q D lb tx ah' s sv hs ln' tp tn er fl a v h f hl lv' n' ml' gl' ft := by
  obtain ⟨g1, g2, g3, g4, g5, g6, g7, g8⟩ := H
  have kb : ∀ u o, ah u = some o → (∀ fs, o ≠ .inl (16, fs)) → zNB o → ah' u = some o := fun u o hu n1 n2 => k u o hu (fun z => by rw [z, g6.1.1] at hu; cases hu; exact n1 _ rfl) n2
  refine ⟨kb _ _ g1 (fun _ z => by cases z) trivial, g2.kp k.kp, g3.kp k.kp, g4.fr (fun b o hb ho => ?_), g5.kp k.kp, ⟨B, hn⟩, ⟨kb _ _ g7.1 (fun _ z => by cases z) trivial, g7.2⟩, fun b hb => ?_⟩
  · rcases hb with hb | hb
    · rw [hb, g4.1] at ho; cases ho; rw [hb]; exact kb _ _ g4.1 (fun _ z => by cases z) trivial
    · rw [hb, g4.2.2.1] at ho; cases ho; rw [hb]; exact kb _ _ g4.2.2.1 (fun _ z => by cases z) trivial
  · obtain ⟨o, ho, ht⟩ := g8 b hb
    refine ⟨o, kb b o ho (fun fs z => by rw [z] at ht; exact ht) ?_, ht⟩
    rcases o with ⟨c, w⟩ | ⟨t, w⟩
    · trivial
    · cases t <;> first | trivial | exact ht
theorem zGc.klt (H : zGc G F0 gd q D lb tx ah s sv hs ln tp tn er fl a v h f hl lv n ml gl ft) (k : zKl lb ah ah') : zKt ah ah' := fun b o hb ht => k b o hb (fun z => by rw [z, H.2.2.2.2.2.1.1.1] at hb; cases hb; exact ht) (by
  rcases o with ⟨c, w⟩ | ⟨t, w⟩
  · trivial
  · cases t <;> first | trivial | exact ht)
end ZGL
/-- a constant text, the index wide -/
theorem zr_ldcSw {G : State} {M : zMd} {d rc rs pc : Nat} {ls : List (Option Value)} {st : List Value} {ah : zH} {Q : zRs → zH → Prop} {idx : Nat} {tx : String} {a : Nat} (hd : decode M.2.1 pc = .ok (.ldc_w idx, 3)) (h : vk_R M.1.cls idx tx a G) (k : zW G M d rc rs (pc + 3) ls (.ref a :: st) ah Q) : zW G M d rc rs pc ls st ah Q := by
  intro p l e R s m args below meth c H locs cells slots C hR hP hS L hL
  intro T hT X
  obtain ⟨t, a1, b1⟩ := k p l e R s m args below meth c H locs cells slots C hR hP hS L hL T hT X
  exact ⟨t, X.ldcStringW C.x C.own (text := tx) (a := a) (vk_R.warm C.wo.1 h).1 (vk_R.warm C.wo.1 h).2 (g := F0 m pc L st) rfl (by rw [C.b]; exact hd) t a1, b1⟩
theorem zL8_0 : zL8 [] := ⟨by decide, fun c h => by simp at h⟩
theorem zL8_1 {c : Int} (h : 0 ≤ c ∧ c < 128) : zL8 [c] := ⟨by show 1 < 1000; decide, fun x hx => by simp at hx; rw [hx]; exact h⟩
theorem kX1_writeTrail {G : State} {d rc rs : Nat} {ah : zH} {Q : zRs → zH → Prop} {F0 : Nat → Prop} {gd q D lb tx a h lv n : Nat} {s : Int → Int} {sv : Option (Int → Int)} {hs : List (Int → Int)} {ln : List Int} {tp : Int → Int} {tn er fl ml : Int} {v : Value} {f gl ft : Nat → Value} {hl : List Nat} (H : zGc G F0 gd q D lb tx ah s sv hs ln tp tn er fl a v h f hl lv n ml gl ft) {x y : Int} (bx : 0 ≤ x ∧ x < 100) (by0 : 0 ≤ y ∧ y < 100) (hl9 : ln.length ≤ 130) (hd : 7 ≤ d) (hc : 4 ≤ rc) (hs9 : 1600 ≤ rs) (k : ∀ ah9 lv9 n9 ml9 gl9, zKl lb ah ah9 → zGc G F0 gd q D lb tx ah9 s sv hs (ln ++ ([45] ++ (pDg x ++ ([61] ++ pDg y)))) tp tn er fl a v h f hl lv9 n9 ml9 gl9 ft → Q (.inl none) ah9) : zW G mX1_writeTrail d rc rs 0 (zent [.ref gd, .int (zi x), .int (zi y)]) [] ah Q := by
  refine zW_open 1 [some (.ref gd), some (.int (zi x)), some (.int (zi y)), none] rfl ?_
  have ex := pDg_l x
  have ey := pDg_l y
  refine zr_aload_n dX1_writeTrail_0 rfl rfl ?_
  refine zr_getf dX1_writeTrail_1 nX1 (k := 3) (by decide) q277 (Or.inl rfl) H.1 rfl ?_
  refine zr_bipush dX1_writeTrail_4 rfl ?_
  refine zc_v1 dX1_writeTrail_6 hJ6_append_3 gJ6_append_3 rfl rfl 5 1 400 (by omega) (by omega) (by omega) q913 q914 q915 H.2.2.2.2.2.1.1.rc ?_
  refine kJ6_append_3 H.2.2.2.2.2.1.1 (by omega) (by omega) H.2.2.2.2.2.1.2 (by omega) (by omega) (by omega) (fun ah1 lv1 nn1 gl1 B1 b1 fr1 w1 => zK_i ?_)
  have k1 := zKl.of H.2.2.2.2.2.1.1 fr1
  have H1 := H.sb k1 B1 b1.2
  have l1 : (ln ++ [(45 : Int)]).length = ln.length + 1 := by simp
  refine zr_iload_n dX1_writeTrail_9 rfl ?_
  refine zc_v1 dX1_writeTrail_10 hJ6_append_2 gJ6_append_2 rfl rfl 5 1 400 (by omega) (by omega) (by omega) q823 q599 q600 H1.2.2.2.2.2.1.1.rc ?_
  refine kJ6_append_2 H1.2.2.2.2.2.1.1 bx (by omega) H1.2.2.2.2.2.1.2 (by omega) (by omega) (by omega) (fun ah2 lv2 nn2 gl2 B2 b2 fr2 w2 => zK_i ?_)
  have k2 := zKl.of H1.2.2.2.2.2.1.1 fr2
  have H2 := H1.sb k2 B2 b2.2
  have l2 : (ln ++ [(45 : Int)] ++ pDg x).length = ln.length + 1 + (pDg x).length := by simp; omega
  refine zr_bipush dX1_writeTrail_13 rfl ?_
  refine zc_v1 dX1_writeTrail_15 hJ6_append_3 gJ6_append_3 rfl rfl 5 1 400 (by omega) (by omega) (by omega) q913 q914 q915 H2.2.2.2.2.2.1.1.rc ?_
  refine kJ6_append_3 H2.2.2.2.2.2.1.1 (by omega) (by omega) H2.2.2.2.2.2.1.2 (by omega) (by omega) (by omega) (fun ah3 lv3 nn3 gl3 B3 b3 fr3 w3 => zK_i ?_)
  have k3 := zKl.of H2.2.2.2.2.2.1.1 fr3
  have H3 := H2.sb k3 B3 b3.2
  have l3 : (ln ++ [(45 : Int)] ++ pDg x ++ [61]).length = ln.length + 1 + (pDg x).length + 1 := by simp; omega
  refine zr_iload_n dX1_writeTrail_18 rfl ?_
  refine zc_v1 dX1_writeTrail_19 hJ6_append_2 gJ6_append_2 rfl rfl 5 1 400 (by omega) (by omega) (by omega) q823 q599 q600 H3.2.2.2.2.2.1.1.rc ?_
  refine kJ6_append_2 H3.2.2.2.2.2.1.1 by0 (by omega) H3.2.2.2.2.2.1.2 (by omega) (by omega) (by omega) (fun ah4 lv4 nn4 gl4 B4 b4 fr4 w4 => zK_i ?_)
  have k4 := zKl.of H3.2.2.2.2.2.1.1 fr4
  have H4 := H3.sb k4 B4 b4.2
  refine zr_astore_n dX1_writeTrail_22 (by decide) rfl (zs4_3 rfl ?_)
  refine zr_return dX1_writeTrail_23 rfl ?_
  rw [show ln ++ [(45 : Int)] ++ pDg x ++ [61] ++ pDg y = (ln ++ ([45] ++ (pDg x ++ ([61] ++ pDg y)))) by simp] at H4
  exact k _ _ _ _ _ (((k1.tr k2).tr k3).tr k4) H4
theorem kX1_lambda_writeTrails_10 {G : State} {d rc rs : Nat} {ah : zH} {Q : zRs → zH → Prop} {F0 : Nat → Prop} {gd q D lb tx a h lv n : Nat} {s : Int → Int} {sv : Option (Int → Int)} {hs : List (Int → Int)} {ln : List Int} {tp : Int → Int} {tn er fl ml : Int} {v : Value} {f gl ft : Nat → Value} {hl : List Nat} (H : zGc G F0 gd q D lb tx ah s sv hs ln tp tn er fl a v h f hl lv n ml gl ft) {x y : Int} (bx : 0 ≤ x ∧ x < 100) (by0 : 0 ≤ y ∧ y < 100) (hl9 : ln.length ≤ 130) (hd : 9 ≤ d) (hc : 4 ≤ rc) (hs9 : 1600 ≤ rs) (k : ∀ ah9 lv9 n9 ml9 gl9, zKl lb ah ah9 → zGc G F0 gd q D lb tx ah9 s sv hs (ln ++ ([45] ++ (pDg x ++ ([61] ++ pDg y)))) tp tn er fl a v h f hl lv9 n9 ml9 gl9 ft → Q (.inl none) ah9) : zW G mX1_lambda_writeTrails_10 d rc rs 0 (zent [.ref gd, .int (zi x), .int (zi y)]) [] ah Q := by
  refine zW_open 0 [some (.ref gd), some (.int (zi x)), some (.int (zi y))] rfl ?_
  refine zr_aload_n dX1_lambda_writeTrails_10_0 rfl rfl ?_
  refine zr_iload_n dX1_lambda_writeTrails_10_1 rfl ?_
  refine zr_iload_n dX1_lambda_writeTrails_10_2 rfl ?_
  refine zc_v2 dX1_lambda_writeTrails_10_3 hX1_writeTrail gX1_writeTrail rfl rfl 7 4 1600 (by omega) (by omega) (by omega) q1736 q1738 sp25 H.rc ?_
  refine kX1_writeTrail H bx by0 hl9 (by omega) (by omega) (by omega) (fun ah1 lv1 nn1 ml1 gl1 k1 H1 => zK_v ?_)
  refine zr_return dX1_lambda_writeTrails_10_6 rfl ?_
  exact k _ _ _ _ _ k1 H1
theorem kX1_writeTrails {G : State} {d rc rs : Nat} {ah : zH} {Q : zRs → zH → Prop} {F0 : Nat → Prop} {gd q D lb tx a h lv n : Nat} {s : Int → Int} {sv : Option (Int → Int)} {hs : List (Int → Int)} {ln : List Int} {tp : Int → Int} {tn er fl ml : Int} {v : Value} {f gl ft : Nat → Value} {hl : List Nat} (H : zGc G F0 gd q D lb tx ah s sv hs ln tp tn er fl a v h f hl lv n ml gl ft) {B : Int} (hI : pI B s) {x : Int} (qx : -2147483648 ≤ x ∧ x ≤ 2147483647) (hd : 40 ≤ d) (hc : 60 ≤ rc) (hs9 : 20000 ≤ rs) (kx : pPt s x = false → ∀ ah9 q9, zGr ah ah9 → Q (.inr ("java/lang/IndexOutOfBoundsException", q9)) ah9) (k : pPt s x = true → ∀ ah9, zKt ah ah9 → zGd G F0 gd q D lb tx ah9 s sv hs (pTl s x (s 0).toNat) tp tn er fl → Q (.inl (some (.int (zi (((pTl s x (s 0).toNat).length : Nat) : Int))))) ah9) : zW G mX1_writeTrails d rc rs 0 (zent [.ref gd, .int (zi x)]) [] ah Q := by
  refine zW_open 0 [some (.ref gd), some (.int (zi x))] rfl ?_
  obtain ⟨w, e, n1, mc, f1, ps, l, g, tv, HS⟩ := id H.2.1
  have hV := hI.1
  have hY := hI.2.1
  have vv := hV.h
  have hT := hI.2.2.2.2
  refine zr_iload_n dX1_writeTrails_0 rfl ?_
  refine zr_aload_n dX1_writeTrails_1 rfl rfl ?_
  refine zr_getf dX1_writeTrails_2 nX1 (k := 0) (by decide) q274 (Or.inl rfl) H.1 rfl ?_
  refine zc_v0 dX1_writeTrails_5 hX2_size gX2_size rfl rfl 1 0 0 (by omega) (Nat.zero_le _) (Nat.zero_le _) q306 q307 q308 HS.rc ?_
  refine kX2_size HS (by omega) (zK_i ?_)
  refine zc_s2 dX1_writeTrails_8 hX1_checkIndex gX1_checkIndex rfl rfl 8 1 6 (by omega) (by omega) (by omega) q1615 q1191 ?_
  refine kX1_checkIndex (by omega) (by omega) (by omega) (by omega) (by omega) (fun h9 => zK_v ?_) (fun h9 q9 hq9 => zK_x (zX_out (fun x hx => nomatch hx) ?_))
  rotate_left
  · exact kx h9 _ q9 (zGr.up hq9)
  have hpt9 : pPt s x = true := h9
  have p9 := pPt_b hpt9 hV
  have hxr : pR x := ⟨by omega, by omega⟩
  refine zr_aload_n dX1_writeTrails_11 rfl rfl ?_
  refine zr_getf dX1_writeTrails_12 nX1 (k := 3) (by decide) q277 (Or.inl rfl) H.1 rfl ?_
  refine zr_iconst dX1_writeTrails_15 ?_
  refine zc_v1 dX1_writeTrails_16 hJ6_setLength gJ6_setLength rfl rfl 5 1 400 (by omega) (by omega) (by omega) q465 q466 q467 H.2.2.2.2.2.1.1.rc ?_
  refine kJ6_setLength H.2.2.2.2.2.1.1 H.2.2.2.2.2.1.2 (by omega) (by omega) (by omega) (fun ah1 lv1 nn1 ml1 gl1 B1 b1 fr1 w1 => zK_v ?_)
  have k1 := zKl.of H.2.2.2.2.2.1.1 fr1
  have H1 := H.sb k1 B1 b1
  have HS1 := HS.kp k1.kp
  refine zr_aload_n dX1_writeTrails_19 rfl rfl ?_
  refine zr_getf dX1_writeTrails_20 nX1 (k := 0) (by decide) q274 (Or.inl rfl) H1.1 rfl ?_
  refine zr_iload_n dX1_writeTrails_23 rfl ?_
  refine zr_aload_n dX1_writeTrails_24 rfl rfl ?_
  refine zln15 rfl rfl dX1_writeTrails_25 rfl (by omega) (by omega) (by omega) (fun b hb => ?_)
  have H2 := H1.gr (zGr.up (o := .inl (1015, [.ref gd])) hb)
  have HS2 := HS1.gr (zGr.up (o := .inl (1015, [.ref gd])) hb)
  have ob : z_up ah1 b (.inl (1015, [.ref gd])) b = some (.inl (1015, [.ref gd])) := z_up_s
  have k2 : zKl lb ah (z_up ah1 b (.inl (1015, [.ref gd]))) := k1.tr (zGr.up hb).kl
  generalize z_up ah1 b (.inl (1015, [.ref gd])) = ah0 at H2 HS2 ob k2 ⊢
  refine zc_v2 dX1_writeTrails_30 hX2_visitTrails gX2_visitTrails rfl rfl 30 50 19300 (by omega) (by omega) (by omega) q1740 q437 q438 HS2.rc ?_
  refine kX2_visitTrails (F := (zFg gd q D lb tx F0)) (U := zNo) 4 1600 (fun k h9 => zKl lb ah0 h9 ∧ h9 b = some (.inl (1015, [.ref gd])) ∧ ∃ lv9 n9 ml9 gl9, zGc G F0 gd q D lb tx h9 s sv hs (pTl s x k.toNat) tp tn er fl a v h f hl lv9 n9 ml9 gl9 ft) hV hxr (by omega) (by omega) (by omega) (fun k h9 hI9 => HS2.kp hI9.1.kp) (fun k h9 k0 k1 kt hI9 => ?_) (fun k h9 rc rs ls Q k0 k3 kt hI9 c1 c2 kk => ?_) ⟨zKl.rf, ob, lv1, nn1, ml1, gl1, H2⟩ (fun h9 hI9 => zK_v ?_)
  · obtain ⟨i1, i2, lv9, n9, ml9, gl9, i3⟩ := hI9
    refine ⟨i1, i2, lv9, n9, ml9, gl9, ?_⟩
    rw [show (k + 1).toNat = k.toNat + 1 by omega, pTl_s, show (((k.toNat : Nat) : Int)) = k by omega, show pTlE s x k = [] from by unfold pTlE; rw [if_neg kt], List.append_nil]
    exact i3
  · obtain ⟨i1, i2, lv9, n9, ml9, gl9, i3⟩ := hI9
    have tb := hV.tr hxr (b := k) ⟨k0, by omega⟩
    have lt := pTl_l s x k.toNat
    refine zlm15 dX2_visitTrails_27 q441 rfl 20 4 1600 (by omega) (by omega) (by omega) i2 i3.rc ?_
    refine kX1_lambda_writeTrails_10 i3 (by omega) (by omega) (by omega) (by omega) (by omega) (by omega) (fun ah5 lv5 n5 ml5 gl5 k5 H5 => ⟨zK_v ?_, rfl⟩)
    refine kk _ ⟨i1.tr k5, k5 _ _ i2 (fun z => by rw [z, i3.2.2.2.2.2.1.1.1] at i2; cases i2) trivial, lv5, n5, ml5, gl5, ?_⟩
    rw [show (k + 1).toNat = k.toNat + 1 by omega, pTl_s, show (((k.toNat : Nat) : Int)) = k by omega, show pTlE s x k = [45] ++ (pDg k ++ ([61] ++ pDg (pTr s x k))) from by unfold pTlE; rw [if_pos kt]]
    exact H5
  obtain ⟨i1, i2, lv9, n9, ml9, gl9, H9⟩ := hI9
  have kt9 := H.klt (k2.tr i1)
  refine zr_aload_n dX1_writeTrails_33 rfl rfl ?_
  refine zr_getf dX1_writeTrails_34 nX1 (k := 3) (by decide) q277 (Or.inl rfl) H9.1 rfl ?_
  refine zc_v0 dX1_writeTrails_37 hJ6_length gJ6_length rfl rfl 1 0 0 (by omega) (Nat.zero_le _) (Nat.zero_le _) q934 q645 q2621 H9.2.2.2.2.2.1.1.rc ?_
  refine kJ6_length H9.2.2.2.2.2.1.1 (by omega) (zK_i ?_)
  refine zr_ireturn dX1_writeTrails_40 rfl (by first | rfl | exact z_nb _) ?_
  exact k hpt9 _ kt9 ⟨_, _, _, _, _, _, _, _, _, _, H9⟩
theorem kX1_wr153 {G : State} {d rc rs : Nat} {ah : zH} {Q : zRs → zH → Prop} {F0 : Nat → Prop} {gd q D lb tx a h lv n : Nat} {s : Int → Int} {sv : Option (Int → Int)} {hs : List (Int → Int)} {ln : List Int} {tp : Int → Int} {tn er fl ml : Int} {v : Value} {f gl ft : Nat → Value} {hl : List Nat} (H : zGc G F0 gd q D lb tx ah s sv hs ln tp tn er fl a v h f hl lv n ml gl ft) {x i : Nat} {J : Option Value} {m : List Int} (hx : ∀ ah1 : zH, (∀ b o, ah b = some o → b ≠ lb → b ≠ lv → ah1 b = some o) → zTx G ah1 x m) (h8 : zL8 m) (eE : ln ++ m = pRt s (i + 1)) (hi : i < 12) (hd : 7 ≤ d) (hc : 1 ≤ rc) (hs9 : 400 ≤ rs) (k : ∀ ah9 lv9 n9 ml9 gl9, zKl lb ah ah9 → zGc G F0 gd q D lb tx ah9 s sv hs (pRt s (i + 1)) tp tn er fl a v h f hl lv9 n9 ml9 gl9 ft → zW G mX1_writeRoute d (rc - 1) (rs - 400) 15 [some (.ref gd), some (.ref lb), some (.int (zi ((i + 1 : Nat) : Int)))] [] ah9 Q) : zW G mX1_writeRoute d rc rs 153 [some (.ref gd), J, some (.int (zi ((i : Nat) : Int)))] [.ref x, .ref lb] ah Q := by
  have el : ln.length + m.length ≤ 150 := by
    have := pRt_l s (i + 1)
    rw [← eE, List.length_append] at this
    omega
  refine zc_v1 dX1_writeRoute_153 hJ6_append gJ6_append rfl rfl 5 1 400 (by omega) (by omega) (by omega) q817 q481 q482 H.2.2.2.2.2.1.1.rc ?_
  refine kJ6_append H.2.2.2.2.2.1.1 hx h8 (by omega) H.2.2.2.2.2.1.2 (by omega) (by omega) (by omega) (fun ah1 lv1 nn1 gl1 B1 b1 fr1 w1 => zK_i ?_)
  have k1 := zKl.of H.2.2.2.2.2.1.1 fr1
  have H1 := H.sb k1 B1 b1.2
  refine zr_astore_n dX1_writeRoute_156 (by decide) rfl (zs3_1 rfl ?_)
  refine zr_iinc dX1_writeRoute_157 rfl (by decide) (zs3_2 rfl ?_)
  refine zr_goto dX1_writeRoute_160 (tgt := 15) (by decide) ?_
  rw [eE] at H1
  exact k _ _ _ _ _ k1 H1
theorem kX1_wr83 {G : State} {d rc rs : Nat} {ah : zH} {Q : zRs → zH → Prop} {F0 : Nat → Prop} {gd q D lb tx a h lv n : Nat} {s : Int → Int} {sv : Option (Int → Int)} {hs : List (Int → Int)} {ln : List Int} {tp : Int → Int} {tn er fl ml : Int} {v : Value} {f gl ft : Nat → Value} {hl : List Nat} (H : zGc G F0 gd q D lb tx ah s sv hs ln tp tn er fl a v h f hl lv n ml gl ft) {B : Int} (hI : pI B s) {x i : Nat} {J : Option Value} {m : List Int} (hx : ∀ ah1 : zH, (∀ b o, ah b = some o → b ≠ lb → b ≠ lv → ah1 b = some o) → zTx G ah1 x m) (h8 : zL8 m) (eE : ln ++ (m ++ (pDg (s (192 + (i : Int))) ++ (if 0 < (i : Int) ∧ (i : Int) < s 1 - 1 then [pTurn s i] else []))) = pRt s (i + 1)) (hi : (i : Int) < s 1) (hd : 40 ≤ d) (hc : 15 ≤ rc) (hs9 : 3000 ≤ rs) (k : ∀ ah9 lv9 n9 ml9 gl9, zKl lb ah ah9 → zGc G F0 gd q D lb tx ah9 s sv hs (pRt s (i + 1)) tp tn er fl a v h f hl lv9 n9 ml9 gl9 ft → zW G mX1_writeRoute d (rc - 15) (rs - 3000) 15 [some (.ref gd), some (.ref lb), some (.int (zi ((i + 1 : Nat) : Int)))] [] ah9 Q) : zW G mX1_writeRoute d rc rs 83 [some (.ref gd), J, some (.int (zi ((i : Nat) : Int)))] [.ref x, .ref lb] ah Q := by
  obtain ⟨w, e, n1, mc, f1, ps, l, g, tv, HS⟩ := id H.2.1
  have hV := hI.1
  have hY := hI.2.1
  have vv := hV.h
  have hT := hI.2.2.2.2
  refine zW_tb (fun T => ?_)
  rcases id HS.2.2.2.2.2.2.1 with ⟨u1, -⟩ | ⟨u1, t, rt, hk, f9, u2, u3⟩
  · exfalso; omega
  subst u2
  obtain ⟨-, -, -, u6, u7, u8, u9⟩ := id u3
  have rb := hV.rt (i := 192 + (i : Int)) (by omega)
  have el : ln.length + m.length + (pDg (s (192 + (i : Int)))).length + (if 0 < (i : Int) ∧ (i : Int) < s 1 - 1 then [pTurn s i] else []).length ≤ 60 := by
    have := pRt_l s (i + 1)
    rw [← eE] at this
    simp only [List.length_append] at this
    omega
  have lm : (ln ++ m).length = ln.length + m.length := List.length_append
  have lm2 : (ln ++ m ++ pDg (s (192 + (i : Int)))).length = ln.length + m.length + (pDg (s (192 + (i : Int)))).length := by rw [List.length_append, List.length_append]
  refine zc_v1 dX1_writeRoute_83 hJ6_append gJ6_append rfl rfl 5 1 400 (by omega) (by omega) (by omega) q817 q481 q482 H.2.2.2.2.2.1.1.rc ?_
  refine kJ6_append H.2.2.2.2.2.1.1 hx h8 (by omega) H.2.2.2.2.2.1.2 (by omega) (by omega) (by omega) (fun ah1 lv1 nn1 gl1 B1 b1 fr1 w1 => zK_i ?_)
  have k1 := zKl.of H.2.2.2.2.2.1.1 fr1
  have H1 := H.sb k1 B1 b1.2
  have HS1 := HS.kp k1.kp
  have u3b := u3.kp (k1.kp (F0 := F0) (gd := gd) (q := q) (D := D) (tx := tx))
  obtain ⟨-, -, -, v6, v7, v8, v9⟩ := id u3b
  refine zr_astore_n dX1_writeRoute_86 (by decide) rfl (zs3_1 rfl ?_)
  refine zr_aload_n dX1_writeRoute_87 rfl rfl ?_
  refine zr_getf dX1_writeRoute_88 nX1 (k := 3) (by decide) q277 (Or.inl rfl) H1.1 rfl ?_
  refine zr_aload_n dX1_writeRoute_91 rfl rfl ?_
  refine zr_getf dX1_writeRoute_92 nX1 (k := 0) (by decide) q274 (Or.inl rfl) H1.1 rfl ?_
  refine zr_getfN dX1_writeRoute_95 nX2 (k := 2) (by decide) q186 HS1.1 rfl ?_
  refine zc_v0 dX1_writeRoute_98 hX7_route gX7_route rfl rfl 0 0 0 (by omega) (Nat.zero_le _) (Nat.zero_le _) q811 q812 q813 u3b.rc ?_
  refine kX7_route v6 (zK_i ?_)
  refine zr_iload_n dX1_writeRoute_101 rfl ?_
  refine zr_iaload dX1_writeRoute_102 (Or.inl v7) (by omega) (by omega) (by rw [Int.toNat_natCast, v8 i (by omega)]) ?_
  refine zc_v1 dX1_writeRoute_103 hJ6_append_2 gJ6_append_2 rfl rfl 5 1 400 (by omega) (by omega) (by omega) q823 q599 q600 H1.2.2.2.2.2.1.1.rc ?_
  refine kJ6_append_2 H1.2.2.2.2.2.1.1 (by omega) (by omega) H1.2.2.2.2.2.1.2 (by omega) (by omega) (by omega) (fun ah2 lv2 nn2 gl2 B2 b2 fr2 w2 => zK_i ?_)
  have k2 := zKl.of H1.2.2.2.2.2.1.1 fr2
  have H2 := H1.sb k2 B2 b2.2
  have HS2 := HS1.kp k2.kp
  refine zr_aload_n dX1_writeRoute_106 rfl rfl ?_
  refine zr_getf dX1_writeRoute_107 nX1 (k := 0) (by decide) q274 (Or.inl rfl) H2.1 rfl ?_
  refine zr_iload_n dX1_writeRoute_110 rfl ?_
  refine zc_v1 dX1_writeRoute_111 hX2_hasTurn gX2_hasTurn rfl rfl 1 0 0 (by omega) (Nat.zero_le _) (Nat.zero_le _) q824 q825 q826 HS2.rc ?_
  refine kX2_hasTurn HS2 hV (by omega) (by omega) (by omega) (zK_i ?_)
  refine zr_ifeqB dX1_writeRoute_114 (tgt := 150) (by decide) (fun h14 => ?_) (fun h14 => ?_)
  · have p14 := pIn_iffF.mp h14
    rw [if_neg (by omega), List.append_nil] at eE
    refine zr_ldcSw dX1_writeRoute_150 (z_litT308 T).1 ?_
    exact kX1_wr153 H2 (fun _ _ => Or.inl (z_litT308 T).2) zL8_0 (by rw [List.append_nil, ← eE]; simp) (by omega) (by omega) (by omega) (by omega) (fun ah9 lv9 n9 ml9 gl9 k9 H9 => zW_room (Nat.le_refl _) (by omega) (by omega) (k ah9 lv9 n9 ml9 gl9 ((k1.tr k2).tr k9) H9))
  · have p14 := pIn_iff.mp h14
    rw [if_pos (by omega)] at eE
    refine zr_new (fs := [.null, .int (zi 0), .int (zi 0), .int (zi 0)]) dX1_writeRoute_117 nJ6 q241 q242 q100 (z_ble rfl) dfJ6 (by omega) (by omega) (fun sb hsb => ?_)
    refine zr_dup dX1_writeRoute_120 rfl ?_
    refine zc_i0 rfl rfl rfl dX1_writeRoute_121 hJ6_init gJ6_init rfl rfl 2 1 400 (by omega) (by omega) (by omega) q243 q244 ?_
    refine kJ6_init z_up_s (by omega) (by omega) (by omega) (fun ah3 v3 hv3 B3 fr3 => zK_v ?_)
    have g3 : zGr ah2 ah3 := fun b o hb => fr3 b o (z_upk hsb hb) (fun z => by rw [z, hsb] at hb; cases hb)
    have nv3 : ah2 v3 = none := by
      cases z : ah2 v3 with
      | none => rfl
      | some o => rw [z_upk hsb z] at hv3; cases hv3
    refine zr_ldcSw dX1_writeRoute_124 (z_litT308 T).1 ?_
    refine zc_v1 dX1_writeRoute_127 hJ6_append gJ6_append rfl rfl 5 1 400 (by omega) (by omega) (by omega) q817 q481 q482 B3.rc ?_
    refine kJ6_append B3 (fun _ _ => Or.inl (z_litT308 T).2) zL8_0 (by decide) (by decide) (by omega) (by omega) (by omega) (fun ah4 v4 n4 gl4 B4 b4 fr4 w4 => zK_i ?_)
    have g4 : zGr ah2 ah4 := fun b o hb => fr4 b o (g3 b o hb) (fun z => by rw [z, hsb] at hb; cases hb) (fun z => by rw [z, nv3] at hb; cases hb)
    have nv4 : ah2 v4 = none := by
      rcases w4 with z | z
      · rw [z]; exact nv3
      · exact g3.no z
    refine zr_aload_n dX1_writeRoute_130 rfl rfl ?_
    refine zr_getf dX1_writeRoute_131 nX1 (k := 0) (by decide) q274 (Or.inl rfl) (g4 _ _ H2.1) rfl ?_
    refine zr_iload_n dX1_writeRoute_134 rfl ?_
    refine zc_v1 dX1_writeRoute_135 hX2_turnAt gX2_turnAt rfl rfl 5 2 4 (by omega) (by omega) (by omega) q832 q833 q834 (HS2.gr g4).rc ?_
    refine kX2_turnAt (HS2.gr g4) hV hT (by omega) (by omega) (by omega) (by omega) (by omega) (fun ah5 g5 => zK_i ?_)
    have B5 := B4.fr (ah' := ah5) (fun b o _ ho => g5 b o ho)
    refine zr_turnL T pTnS_3 dX1_writeRoute_138 (by simp [Value.category]) (by omega) q898 ?_
    rw [pTnS_t]
    have ptb := pTurn_b s (i : Int)
    refine zc_v1 dX1_writeRoute_141 hJ6_append_3 gJ6_append_3 rfl rfl 5 1 400 (by omega) (by omega) (by omega) q913 q914 q915 B5.rc ?_
    refine kJ6_append_3 B5 (c := pTurn s (i : Int)) (by omega) (by decide) b4.2 (by omega) (by omega) (by omega) (fun ah6 v6_ n6 gl6 B6 b6 fr6 w6 => zK_i ?_)
    have g6 : zGr ah2 ah6 := fun b o hb => fr6 b o (g5 b o (g4 b o hb)) (fun z => by rw [z, hsb] at hb; cases hb) (fun z => by rw [z, nv4] at hb; cases hb)
    refine zc_v0 dX1_writeRoute_144 hJ6_toString gJ6_toString rfl rfl 5 2 5 (by omega) (by omega) (by omega) q933 q624 q625 B6.rc ?_
    refine kJ6_toString B6 (zL8_1 (by omega)) (show 1 < n6 by omega) (by omega) (by omega) (by show 1 + 4 ≤ _; omega) (fun ah7 x7 hx7 g7 hx7t => zK_i ?_)
    have gg := g6.tr g7
    have H7 := H2.gr gg
    refine zr_goto dX1_writeRoute_147 (tgt := 153) (by decide) ?_
    exact kX1_wr153 (Q := Q) (i := i) (J := some (.ref lb)) H7 (x := x7) (m := [pTurn s (i : Int)]) (fun ah1 fr => hx7t ah1 (fun b o hb hn => fr b o hb (fun z => by rw [z, g6 _ _ H2.2.2.2.2.2.1.1.1] at hn; cases hn) (fun z => by rw [z, g6 _ _ H2.2.2.2.2.2.1.1.2.2.1] at hn; cases hn))) (zL8_1 (by omega)) (by rw [← eE]; simp) (by omega) (by omega) (by omega) (by omega) (fun ah9 lv9 n9 ml9 gl9 k9 H9 => zW_room (Nat.le_refl _) (by omega) (by omega) (k ah9 lv9 n9 ml9 gl9 (((k1.tr k2).tr gg.kl).tr k9) H9))
theorem kX1_wr57 {G : State} {d rc rs : Nat} {ah : zH} {Q : zRs → zH → Prop} {F0 : Nat → Prop} {gd q D lb tx a h lv n : Nat} {s : Int → Int} {sv : Option (Int → Int)} {hs : List (Int → Int)} {ln : List Int} {tp : Int → Int} {tn er fl ml : Int} {v : Value} {f gl ft : Nat → Value} {hl : List Nat} (H : zGc G F0 gd q D lb tx ah s sv hs ln tp tn er fl a v h f hl lv n ml gl ft) {B : Int} (hI : pI B s) {x i : Nat} {J : Option Value} {m : List Int} (hx : ∀ ah1 : zH, (∀ b o, ah b = some o → b ≠ lb → b ≠ lv → ah1 b = some o) → zTx G ah1 x m) (h8 : zL8 m) (eE : ln ++ (m ++ ((if (i : Int) = s 2 then [42] else []) ++ (pDg (s (192 + (i : Int))) ++ (if 0 < (i : Int) ∧ (i : Int) < s 1 - 1 then [pTurn s i] else [])))) = pRt s (i + 1)) (hi : (i : Int) < s 1) (hd : 40 ≤ d) (hc : 16 ≤ rc) (hs9 : 3400 ≤ rs) (k : ∀ ah9 lv9 n9 ml9 gl9, zKl lb ah ah9 → zGc G F0 gd q D lb tx ah9 s sv hs (pRt s (i + 1)) tp tn er fl a v h f hl lv9 n9 ml9 gl9 ft → zW G mX1_writeRoute d (rc - 16) (rs - 3400) 15 [some (.ref gd), some (.ref lb), some (.int (zi ((i + 1 : Nat) : Int)))] [] ah9 Q) : zW G mX1_writeRoute d rc rs 57 [some (.ref gd), J, some (.int (zi ((i : Nat) : Int)))] [.ref x, .ref lb] ah Q := by
  obtain ⟨w, e, n1, mc, f1, ps, l, g, tv, HS⟩ := id H.2.1
  have hV := hI.1
  have hY := hI.2.1
  have vv := hV.h
  have hT := hI.2.2.2.2
  refine zW_tb (fun T => ?_)
  rcases id HS.2.2.2.2.2.2.1 with ⟨u1, -⟩ | ⟨u1, t, rt, hk, f9, u2, u3⟩
  · exfalso; omega
  subst u2
  obtain ⟨-, -, -, u6, u7, u8, u9⟩ := id u3
  have el : ln.length + m.length ≤ 60 := by
    have := pRt_l s (i + 1)
    rw [← eE] at this
    simp only [List.length_append] at this
    omega
  refine zc_v1 dX1_writeRoute_57 hJ6_append gJ6_append rfl rfl 5 1 400 (by omega) (by omega) (by omega) q817 q481 q482 H.2.2.2.2.2.1.1.rc ?_
  refine kJ6_append H.2.2.2.2.2.1.1 hx h8 (by omega) H.2.2.2.2.2.1.2 (by omega) (by omega) (by omega) (fun ah1 lv1 nn1 gl1 B1 b1 fr1 w1 => zK_i ?_)
  have k1 := zKl.of H.2.2.2.2.2.1.1 fr1
  have H1 := H.sb k1 B1 b1.2
  have HS1 := HS.kp k1.kp
  have u3b := u3.kp (k1.kp (F0 := F0) (gd := gd) (q := q) (D := D) (tx := tx))
  obtain ⟨-, -, -, v6, v7, v8, v9⟩ := id u3b
  refine zr_iload_n dX1_writeRoute_60 rfl ?_
  refine zr_aload_n dX1_writeRoute_61 rfl rfl ?_
  refine zr_getf dX1_writeRoute_62 nX1 (k := 0) (by decide) q274 (Or.inl rfl) H1.1 rfl ?_
  refine zr_getfN dX1_writeRoute_65 nX2 (k := 2) (by decide) q186 HS1.1 rfl ?_
  refine zc_v0 dX1_writeRoute_68 hX7_targetIndex gX7_targetIndex rfl rfl 0 0 0 (by omega) (Nat.zero_le _) (Nat.zero_le _) q818 q819 q820 u3b.rc ?_
  refine kX7_targetIndex v6 (zK_i ?_)
  refine zr_icmpne dX1_writeRoute_71 (tgt := 80) (by decide) (by omega) (by omega) (fun h71 => ?_) (fun h71 => ?_)
  · refine zr_ldcSw dX1_writeRoute_80 (z_litT308 T).1 ?_
    exact kX1_wr83 H1 hI (fun _ _ => Or.inl (z_litT308 T).2) zL8_0 (by rw [if_neg (by omega)] at eE; rw [← eE]; simp) hi (by omega) (by omega) (by omega) (fun ah9 lv9 n9 ml9 gl9 k9 H9 => zW_room (Nat.le_refl _) (by omega) (by omega) (k ah9 lv9 n9 ml9 gl9 (k1.tr k9) H9))
  · refine zr_ldcSw dX1_writeRoute_74 (z_litT317 T).1 ?_
    refine zr_goto dX1_writeRoute_77 (tgt := 83) (by decide) ?_
    exact kX1_wr83 H1 hI (fun _ _ => Or.inl (z_litT317 T).2) (zL8_1 (by decide)) (by rw [if_pos (by omega)] at eE; rw [← eE]; simp) hi (by omega) (by omega) (by omega) (fun ah9 lv9 n9 ml9 gl9 k9 H9 => zW_room (Nat.le_refl _) (by omega) (by omega) (k ah9 lv9 n9 ml9 gl9 (k1.tr k9) H9))
theorem kX1_writeRouteL {G : State} {d : Nat} {Q : zRs → zH → Prop} {ahB : zH} {F0 : Nat → Prop} {gd q D lb tx a h : Nat} {s : Int → Int} {sv : Option (Int → Int)} {hs : List (Int → Int)} {tp : Int → Int} {tn er fl : Int} {v : Value} {f ft : Nat → Value} {hl : List Nat}  {B : Int} (hI : pI B s) (hd : 40 ≤ d) (n9 : Nat) : ∀ (i rc rs : Nat) (ah : zH) (lv n : Nat) (ml : Int) (gl : Nat → Value), ((i + n9 : Nat) : Int) = s 1 → 16 * n9 ≤ rc → 3400 * n9 ≤ rs → zKl lb ahB ah → zGc G F0 gd q D lb tx ah s sv hs (pRt s i) tp tn er fl a v h f hl lv n ml gl ft → (∀ ah9, zKl lb ahB ah9 → zGd G F0 gd q D lb tx ah9 s sv hs (pRt s (s 1).toNat) tp tn er fl → Q (.inl (some (.int (zi (((pRt s (s 1).toNat).length : Nat) : Int))))) ah9) → zW G mX1_writeRoute d rc rs 15 [some (.ref gd), some (.ref lb), some (.int (zi ((i : Nat) : Int)))] [] ah Q := by
  induction n9 with
  | zero =>
    intro i rc rs ah lv n ml gl g1 g2 g3 g4 H k
    obtain ⟨w, e, n1, mc, f1, ps, l, g, tv, HS⟩ := id H.2.1
    have hV := hI.1
    have hY := hI.2.1
    have vv := hV.h
    have hT := hI.2.2.2.2
    rcases id HS.2.2.2.2.2.2.1 with ⟨u1, u2⟩ | ⟨u1, t, rt, hk, f9, u2, u3⟩
    · subst u2
      refine zr_aload_n dX1_writeRoute_15 rfl rfl ?_
      refine zr_getf dX1_writeRoute_16 nX1 (k := 0) (by decide) q274 (Or.inl rfl) H.1 rfl ?_
      refine zr_getfN dX1_writeRoute_19 nX2 (k := 2) (by decide) q186 HS.1 rfl ?_
      refine zr_ifnullN dX1_writeRoute_22 (tgt := 163) (by decide) ?_
      refine zr_aload_n dX1_writeRoute_163 rfl rfl ?_
      refine zc_v0 dX1_writeRoute_164 hJ6_length gJ6_length rfl rfl 1 0 0 (by omega) (Nat.zero_le _) (Nat.zero_le _) q934 q645 q2621 H.2.2.2.2.2.1.1.rc ?_
      refine kJ6_length H.2.2.2.2.2.1.1 (by omega) (zK_i ?_)
      refine zr_ireturn dX1_writeRoute_167 rfl (by first | rfl | exact z_nb _) ?_
      rw [show i = (s 1).toNat by omega] at H ⊢
      exact k ah g4 ⟨_, _, _, _, _, _, _, _, _, _, H⟩
    · subst u2
      obtain ⟨-, -, -, u6, u7, u8, u9⟩ := id u3
      refine zr_aload_n dX1_writeRoute_15 rfl rfl ?_
      refine zr_getf dX1_writeRoute_16 nX1 (k := 0) (by decide) q274 (Or.inl rfl) H.1 rfl ?_
      refine zr_getfN dX1_writeRoute_19 nX2 (k := 2) (by decide) q186 HS.1 rfl ?_
      refine zr_ifnull dX1_writeRoute_22 ?_
      refine zr_iload_n dX1_writeRoute_25 rfl ?_
      refine zr_aload_n dX1_writeRoute_26 rfl rfl ?_
      refine zr_getf dX1_writeRoute_27 nX1 (k := 0) (by decide) q274 (Or.inl rfl) H.1 rfl ?_
      refine zr_getfN dX1_writeRoute_30 nX2 (k := 2) (by decide) q186 HS.1 rfl ?_
      refine zc_v0 dX1_writeRoute_33 hX7_route gX7_route rfl rfl 0 0 0 (by omega) (Nat.zero_le _) (Nat.zero_le _) q811 q812 q813 u3.rc ?_
      refine kX7_route u6 (zK_i ?_)
      refine zr_alen dX1_writeRoute_36 (Or.inl u7) ?_
      rw [show (((s 1).toNat : Nat) : Int) = s 1 by omega]
      refine zr_icmpge dX1_writeRoute_37 (tgt := 163) (by decide) (by omega) (by omega) (fun h37 => ?_) (fun h37 => ?_)
      · refine zr_aload_n dX1_writeRoute_163 rfl rfl ?_
        refine zc_v0 dX1_writeRoute_164 hJ6_length gJ6_length rfl rfl 1 0 0 (by omega) (Nat.zero_le _) (Nat.zero_le _) q934 q645 q2621 H.2.2.2.2.2.1.1.rc ?_
        refine kJ6_length H.2.2.2.2.2.1.1 (by omega) (zK_i ?_)
        refine zr_ireturn dX1_writeRoute_167 rfl (by first | rfl | exact z_nb _) ?_
        rw [show i = (s 1).toNat by omega] at H ⊢
        exact k ah g4 ⟨_, _, _, _, _, _, _, _, _, _, H⟩
      · exfalso; omega
  | succ n9 ih =>
    intro i rc rs ah lv n ml gl g1 g2 g3 g4 H k
    obtain ⟨w, e, n1, mc, f1, ps, l, g, tv, HS⟩ := id H.2.1
    have hV := hI.1
    have hY := hI.2.1
    have vv := hV.h
    have hT := hI.2.2.2.2
    refine zW_tb (fun T => ?_)
    rcases id HS.2.2.2.2.2.2.1 with ⟨u1, -⟩ | ⟨u1, t, rt, hk, f9, u2, u3⟩
    · exfalso; omega
    subst u2
    obtain ⟨-, -, -, u6, u7, u8, u9⟩ := id u3
    have es : pRt s (i + 1) = pRt s i ++ ((if 0 < (i : Int) then [32] else []) ++ ((if (i : Int) = s 2 then [42] else []) ++ (pDg (s (192 + (i : Int))) ++ (if 0 < (i : Int) ∧ (i : Int) < s 1 - 1 then [pTurn s i] else [])))) := rfl
    refine zr_aload_n dX1_writeRoute_15 rfl rfl ?_
    refine zr_getf dX1_writeRoute_16 nX1 (k := 0) (by decide) q274 (Or.inl rfl) H.1 rfl ?_
    refine zr_getfN dX1_writeRoute_19 nX2 (k := 2) (by decide) q186 HS.1 rfl ?_
    refine zr_ifnull dX1_writeRoute_22 ?_
    refine zr_iload_n dX1_writeRoute_25 rfl ?_
    refine zr_aload_n dX1_writeRoute_26 rfl rfl ?_
    refine zr_getf dX1_writeRoute_27 nX1 (k := 0) (by decide) q274 (Or.inl rfl) H.1 rfl ?_
    refine zr_getfN dX1_writeRoute_30 nX2 (k := 2) (by decide) q186 HS.1 rfl ?_
    refine zc_v0 dX1_writeRoute_33 hX7_route gX7_route rfl rfl 0 0 0 (by omega) (Nat.zero_le _) (Nat.zero_le _) q811 q812 q813 u3.rc ?_
    refine kX7_route u6 (zK_i ?_)
    refine zr_alen dX1_writeRoute_36 (Or.inl u7) ?_
    rw [show (((s 1).toNat : Nat) : Int) = s 1 by omega]
    refine zr_icmpge dX1_writeRoute_37 (tgt := 163) (by decide) (by omega) (by omega) (fun h37 => ?_) (fun h37 => ?_)
    · exfalso; omega
    · refine zr_aload_n dX1_writeRoute_40 rfl rfl ?_
      refine zr_getf dX1_writeRoute_41 nX1 (k := 3) (by decide) q277 (Or.inl rfl) H.1 rfl ?_
      refine zr_iload_n dX1_writeRoute_44 rfl ?_
      refine zr_ifle dX1_writeRoute_45 (tgt := 54) (by decide) (by omega) (fun h45 => ?_) (fun h45 => ?_)
      · refine zr_ldcSw dX1_writeRoute_54 (z_litT308 T).1 ?_
        exact kX1_wr57 H hI (fun _ _ => Or.inl (z_litT308 T).2) zL8_0 (by rw [es, if_neg (c := 0 < (i : Int)) (by omega)]) (by omega) (by omega) (by omega) (by omega) (fun ah9 lv9 n9' ml9 gl9 k9 H9 => ih (i + 1) _ _ ah9 lv9 n9' ml9 gl9 (by omega) (by omega) (by omega) (g4.tr k9) H9 k)
      · refine zr_ldcSw dX1_writeRoute_48 (z_litT306 T).1 ?_
        refine zr_goto dX1_writeRoute_51 (tgt := 57) (by decide) ?_
        exact kX1_wr57 H hI (fun _ _ => Or.inl (z_litT306 T).2) (zL8_1 (by decide)) (by rw [es, if_pos (c := 0 < (i : Int)) (by omega)]) (by omega) (by omega) (by omega) (by omega) (fun ah9 lv9 n9' ml9 gl9 k9 H9 => ih (i + 1) _ _ ah9 lv9 n9' ml9 gl9 (by omega) (by omega) (by omega) (g4.tr k9) H9 k)
theorem kX1_writeRoute {G : State} {d rc rs : Nat} {ah : zH} {Q : zRs → zH → Prop} {F0 : Nat → Prop} {gd q D lb tx a h lv n : Nat} {s : Int → Int} {sv : Option (Int → Int)} {hs : List (Int → Int)} {ln : List Int} {tp : Int → Int} {tn er fl ml : Int} {v : Value} {f gl ft : Nat → Value} {hl : List Nat} (H : zGc G F0 gd q D lb tx ah s sv hs ln tp tn er fl a v h f hl lv n ml gl ft) {B : Int} (hI : pI B s) (hd : 45 ≤ d) (hc : 200 ≤ rc) (hs9 : 42000 ≤ rs) (k : ∀ ah9, zKt ah ah9 → zGd G F0 gd q D lb tx ah9 s sv hs (pRt s (s 1).toNat) tp tn er fl → Q (.inl (some (.int (zi (((pRt s (s 1).toNat).length : Nat) : Int))))) ah9) : zW G mX1_writeRoute d rc rs 0 (zent [.ref gd]) [] ah Q := by
  refine zW_open 2 [some (.ref gd), none, none] rfl ?_
  obtain ⟨w, e, n1, mc, f1, ps, l, g, tv, HS⟩ := id H.2.1
  have hV := hI.1
  have hY := hI.2.1
  have vv := hV.h
  have hT := hI.2.2.2.2
  refine zr_aload_n dX1_writeRoute_0 rfl rfl ?_
  refine zr_getf dX1_writeRoute_1 nX1 (k := 3) (by decide) q277 (Or.inl rfl) H.1 rfl ?_
  refine zr_iconst dX1_writeRoute_4 ?_
  refine zc_v1 dX1_writeRoute_5 hJ6_setLength gJ6_setLength rfl rfl 5 1 400 (by omega) (by omega) (by omega) q465 q466 q467 H.2.2.2.2.2.1.1.rc ?_
  refine kJ6_setLength H.2.2.2.2.2.1.1 H.2.2.2.2.2.1.2 (by omega) (by omega) (by omega) (fun ah1 lv1 nn1 ml1 gl1 B1 b1 fr1 w1 => zK_v ?_)
  have k1 := zKl.of H.2.2.2.2.2.1.1 fr1
  have H1 := H.sb k1 B1 b1
  refine zr_aload_n dX1_writeRoute_8 rfl rfl ?_
  refine zr_getf dX1_writeRoute_9 nX1 (k := 3) (by decide) q277 (Or.inl rfl) H1.1 rfl ?_
  refine zr_astore_n dX1_writeRoute_12 (by decide) rfl (zs3_1 rfl ?_)
  refine zr_iconst dX1_writeRoute_13 ?_
  refine zr_istore_n dX1_writeRoute_14 (by decide) (zs3_2 rfl ?_)
  exact kX1_writeRouteL hI (by omega) (s 1).toNat 0 _ _ ah1 lv1 nn1 ml1 gl1 (by omega) (by omega) (by omega) zKl.rf H1 (fun ah9 k9 G9 => k ah9 (H.klt (k1.tr k9)) G9)
