set_option maxRecDepth 100000
/-! ===== the parser ===== -/
theorem dfX14 : ∀ (k : Nat) (v : Value), ([.null, .null, .null, .null, .null, .int (zi 0), .int (zi 0)] : List Value)[k]? = some v → v = defaultValue (tyX14 k) := by
  intro k v h
  rcases k with _ | _ | _ | _ | _ | _ | _ | k <;> first | (cases h; rfl) | (simp at h)
theorem z_thrV {G : State} (T : zTb G) : (∃ u, (u = .null ∨ ∃ t, u = .ref t) ∧ zSV G "java/lang/Throwable" "UNASSIGNED_STACK" "[Ljava/lang/StackTraceElement;" u) ∧ ∃ u, (u = .null ∨ ∃ t, u = .ref t) ∧ zSV G "java/lang/Throwable" "SUPPRESSED_SENTINEL" "Ljava/util/List;" u := by
  obtain ⟨t1, t2⟩ := z_thr T
  constructor
  · rcases t1.1 with h | ⟨t, h⟩
    · exact ⟨_, Or.inl rfl, h⟩
    · exact ⟨_, Or.inr ⟨t, rfl⟩, h⟩
  · rcases t2.1 with h | ⟨t, h⟩
    · exact ⟨_, Or.inl rfl, h⟩
    · exact ⟨_, Or.inr ⟨t, rfl⟩, h⟩
theorem z_nf {u : Value} (h : u = .null ∨ ∃ t, u = .ref t) : (∀ E, narrow (.object E) u = u ∧ fits (.object E) u = true) ∧ ∀ E, narrow (.array E) u = u ∧ fits (.array E) u = true := by
  rcases h with rfl | ⟨t, rfl⟩ <;> exact ⟨fun E => ⟨rfl, rfl⟩, fun E => ⟨rfl, rfl⟩⟩
theorem kJ9_init_3 {G : State} {d rc rs : Nat} {ah : zH} {Q : zRs → zH → Prop} {a : Nat} {p9 : Value} (ha : ah a = some (.inl (11, [.null, .null, .null, .null, .null, .int (zi 0), p9]))) (hd : 1 ≤ d) (k : Q (.inl none) (z_up ah a (.inl (11, [.null, .null, .null, .null, .null, .int (zi 0), p9])))) : zW G mJ9_init_3 d rc rs 0 (zent [.ref a, .null, .null, .int (zi 0), .int (zi 0)]) [] ah Q := by
  refine zW_open 0 [some (.ref a), some (.null), some (.null), some (.int (zi 0)), some (.int (zi 0))] rfl ?_
  refine zW_tb (fun T => ?_)
  obtain ⟨⟨u1, n1, v1⟩, u2, n2, v2⟩ := z_thrV T
  refine zr_aload_n dJ9_init_3_0 rfl rfl ?_
  refine zr_objInit dJ9_init_3_1 q684 q144 q145 (by decide) (by omega) ?_
  refine zr_aload_n dJ9_init_3_4 rfl rfl ?_
  refine zr_aload_n dJ9_init_3_5 rfl rfl ?_
  refine zr_putf dJ9_init_3_6 nX14 (k := 0) (by decide) q726 (Or.inl rfl) (Or.inl rfl) ha (z_ble rfl) rfl rfl ?_
  refine zr_aload_n dJ9_init_3_9 rfl rfl ?_
  refine zr_getstatic dJ9_init_3_10 q685 v1 ?_
  refine zr_putf dJ9_init_3_13 nX14 (k := 1) (by decide) q727 (Or.inl rfl) (Or.inl rfl) z_up_s (z_ble rfl) ((z_nf n1).2 _).1 ((z_nf n1).2 _).2 ?_
  rw [z_up_o]
  refine zr_aload_n dJ9_init_3_16 rfl rfl ?_
  refine zr_getstatic dJ9_init_3_17 q687 v2 ?_
  refine zr_putf dJ9_init_3_20 nX14 (k := 2) (by decide) q728 (Or.inl rfl) (Or.inl rfl) z_up_s (z_ble rfl) ((z_nf n2).1 _).1 ((z_nf n2).1 _).2 ?_
  rw [z_up_o]
  refine zr_iload dJ9_init_3_23 rfl ?_
  refine zr_ifeq dJ9_init_3_25 (tgt := 36) (by decide) (by decide) (fun _ => ?_) (fun h => absurd rfl h)
  refine zr_aload_n dJ9_init_3_36 rfl rfl ?_
  refine zr_null dJ9_init_3_37 ?_
  refine zr_putf dJ9_init_3_38 nX14 (k := 1) (by decide) q727 (Or.inl rfl) (Or.inl rfl) z_up_s (z_ble rfl) rfl rfl ?_
  rw [z_up_o]
  refine zr_aload_n dJ9_init_3_41 rfl rfl ?_
  refine zr_aload_n dJ9_init_3_42 rfl rfl ?_
  refine zr_putf dJ9_init_3_43 nX14 (k := 3) (by decide) q725 (Or.inl rfl) (Or.inl rfl) z_up_s (z_ble rfl) rfl rfl ?_
  rw [z_up_o]
  refine zr_aload_n dJ9_init_3_46 rfl rfl ?_
  refine zr_aload_n dJ9_init_3_47 rfl rfl ?_
  refine zr_putf dJ9_init_3_48 nX14 (k := 0) (by decide) q726 (Or.inl rfl) (Or.inl rfl) z_up_s (z_ble rfl) rfl rfl ?_
  rw [z_up_o]
  refine zr_iload_n dJ9_init_3_51 rfl ?_
  refine zr_ifne dJ9_init_3_52 (tgt := 60) (by decide) (by decide) (fun h => absurd rfl h) (fun _ => ?_)
  refine zr_aload_n dJ9_init_3_55 rfl rfl ?_
  refine zr_null dJ9_init_3_56 ?_
  refine zr_putf dJ9_init_3_57 nX14 (k := 2) (by decide) q728 (Or.inl rfl) (Or.inl rfl) z_up_s (z_ble rfl) rfl rfl ?_
  rw [z_up_o]
  refine zr_return dJ9_init_3_60 rfl ?_
  exact k
theorem kJ10_init_3 {G : State} {d rc rs : Nat} {ah : zH} {Q : zRs → zH → Prop} {a : Nat} {p9 : Value} (ha : ah a = some (.inl (11, [.null, .null, .null, .null, .null, .int (zi 0), p9]))) (hd : 2 ≤ d) (k : Q (.inl none) (z_up ah a (.inl (11, [.null, .null, .null, .null, .null, .int (zi 0), p9])))) : zW G mJ10_init_3 d rc rs 0 (zent [.ref a, .null, .null, .int (zi 0), .int (zi 0)]) [] ah Q := by
  refine zW_open 0 [some (.ref a), some (.null), some (.null), some (.int (zi 0)), some (.int (zi 0))] rfl ?_
  refine zr_aload_n dJ10_init_3_0 rfl rfl ?_
  refine zr_aload_n dJ10_init_3_1 rfl rfl ?_
  refine zr_aload_n dJ10_init_3_2 rfl rfl ?_
  refine zr_iload_n dJ10_init_3_3 rfl ?_
  refine zr_iload dJ10_init_3_4 rfl ?_
  refine zc_i4 rfl rfl rfl dJ10_init_3_6 hJ9_init_3 gJ9_init_3 rfl rfl 1 0 0 (by omega) (Nat.zero_le _) (Nat.zero_le _) q1871 q1872 ?_
  refine kJ9_init_3 ha (by omega) (zK_v ?_)
  refine zr_return dJ10_init_3_9 rfl ?_
  exact k
theorem kX14_init {G : State} {d rc rs : Nat} {ah : zH} {Q : zRs → zH → Prop} {a : Nat} {p9 : Value} {h : Int} (ha : ah a = some (.inl (11, [.null, .null, .null, .null, .null, .int (zi 0), p9]))) (hd : 4 ≤ d) (k : Q (.inl none) (z_up ah a (.inl (11, [.null, .null, .null, .null, .null, .int (zi 0), .int (zi h)])))) : zW G mX14_init d rc rs 0 (zent [.ref a, .int (zi h)]) [] ah Q := by
  refine zW_open 0 [some (.ref a), some (.int (zi h))] rfl ?_
  refine zr_aload_n dX14_init_0 rfl rfl ?_
  refine zr_null dX14_init_1 ?_
  refine zr_null dX14_init_2 ?_
  refine zr_iconst dX14_init_3 ?_
  refine zr_iconst dX14_init_4 ?_
  refine zc_i4 rfl rfl rfl dX14_init_5 hJ10_init_3 gJ10_init_3 rfl rfl 3 0 0 (by omega) (Nat.zero_le _) (Nat.zero_le _) q1868 q1869 ?_
  refine kJ10_init_3 ha (by omega) (zK_v ?_)
  refine zr_aload_n dX14_init_8 rfl rfl ?_
  refine zr_iload_n dX14_init_9 rfl ?_
  refine zr_putf dX14_init_10 nX14 (k := 6) (by decide) q1874 (Or.inl rfl) (Or.inr ⟨rfl, rfl, rfl⟩) z_up_s (z_ble rfl) rfl rfl ?_
  rw [z_up_o]
  refine zr_return dX14_init_13 rfl ?_
  exact k
/-- the parser p of gd stands at h -/
def zPz (ah : zH) (p gd : Nat) (h : Int) : Prop := ah p = some (.inl (10, [.int (zi h), .ref gd]))
theorem zPz.rc {G : State} {ah : zH} {p gd : Nat} {h : Int} (P : zPz ah p gd h) : zRc G ah p "TrailGuide$Parser" := Or.inl ⟨10, _, TX13, 2, tyX13, nX13, P⟩
/-- a syntax exception q at h -/
def zSx (ah : zH) (q : Nat) (h : Int) : Prop := ah q = some (.inl (11, [.null, .null, .null, .null, .null, .int (zi 0), .int (zi h)]))
/-- a heap alike, but for p -/
def zFp (p : Nat) (ah ah' : zH) : Prop := ∀ b o, ah b = some o → b ≠ p → ah' b = some o
theorem zFp.rf {p : Nat} {ah : zH} : zFp p ah ah := fun _ _ h _ => h
theorem zFp.tr {p : Nat} {a b c : zH} (h : zFp p a b) (h' : zFp p b c) : zFp p a c := fun u o e n => h' u o (h u o e n) n
theorem zGr.fp {p : Nat} {ah ah' : zH} (h : zGr ah ah') : zFp p ah ah' := fun u o e _ => h u o e
/-- the text that gd holds -/
def zTt (ah : zH) (gd tx : Nat) (tp : Int → Int) (tn : Int) : Prop := pTp tp tn ∧ ∃ a v q lb er fl ft, ah gd = some (.inl (0, zGo a v q lb tx tn er fl)) ∧ ah tx = some (.inr (.char, 60, ft)) ∧ ∀ j : Nat, (j : Int) < tn → ft j = .int (zi (tp j))
theorem zTt.fp {ah ah' : zH} {p gd tx : Nat} {tp : Int → Int} {tn h : Int} (T : zTt ah gd tx tp tn) (P : zPz ah p gd h) (f : zFp p ah ah') : zTt ah' gd tx tp tn := by
  obtain ⟨t0, a, v, q, lb, er, fl, ft, t1, t2, t3⟩ := T
  exact ⟨t0, a, v, q, lb, er, fl, ft, f _ _ t1 (fun z => by rw [z] at t1; unfold zPz at P; rw [P] at t1; cases t1), f _ _ t2 (fun z => by rw [z] at t2; unfold zPz at P; rw [P] at t2; cases t2), t3⟩
theorem pSg_c {t : Int → Int} {n h : Int} (hT : pTp t n) (hh : 0 ≤ h) : -1 ≤ pSg t n h ∧ pSg t n h ≤ 65535 := pSg_b hT hh
theorem pLit_1 {t : Int → Int} {n c h : Int} : pLit t n [c] h = pCh t n c h := by
  show pB (pCh t n c h) (fun _ h => (some (), h)) = _
  unfold pCh
  split <;> rfl
theorem pNu_1 {t : Int → Int} {n h : Int} : pNu t n 1 h = if pIn (pSg t n h) 48 57 = true then (some (pSg t n h - 48), h + 1) else (none, h) := by
  unfold pNu
  by_cases e : pIn (pSg t n h) 48 57 = true
  · rw [pNm_s e, if_pos e, if_neg (by show ¬ h + 1 = h; omega)]
    show (some (10 * 0 + pSg t n h - 48), h + 1) = _
    rw [show 10 * 0 + pSg t n h - 48 = pSg t n h - 48 by omega]
  · rw [pNm_e e, if_neg e, if_pos rfl]
theorem pNu_30 {t : Int → Int} {n h : Int} (e0 : ¬ pIn (pSg t n h) 48 57 = true) : pNu t n 3 h = (none, h) := by
  unfold pNu
  rw [pNm_e e0, if_pos rfl]
theorem pNu_31 {t : Int → Int} {n h : Int} (e0 : pIn (pSg t n h) 48 57 = true) (e1 : ¬ pIn (pSg t n (h + 1)) 48 57 = true) : pNu t n 3 h = (some (pSg t n h - 48), h + 1) := by
  unfold pNu
  rw [pNm_s e0, pNm_e e1, if_neg (by show ¬ h + 1 = h; omega), show 10 * 0 + pSg t n h - 48 = pSg t n h - 48 by omega]
theorem pNu_32 {t : Int → Int} {n h : Int} (e0 : pIn (pSg t n h) 48 57 = true) (e1 : pIn (pSg t n (h + 1)) 48 57 = true) (e2 : ¬ pIn (pSg t n (h + 1 + 1)) 48 57 = true) : pNu t n 3 h = (some (10 * (pSg t n h - 48) + (pSg t n (h + 1) - 48)), h + 1 + 1) := by
  unfold pNu
  rw [pNm_s e0, pNm_s e1, pNm_e e2, if_neg (by show ¬ h + 1 + 1 = h; omega)]
  show (some _, _) = _
  rw [show 10 * (10 * 0 + pSg t n h - 48) + pSg t n (h + 1) - 48 = 10 * (pSg t n h - 48) + (pSg t n (h + 1) - 48) by omega]
theorem pNu_33 {t : Int → Int} {n h : Int} (e0 : pIn (pSg t n h) 48 57 = true) (e1 : pIn (pSg t n (h + 1)) 48 57 = true) (e2 : pIn (pSg t n (h + 1 + 1)) 48 57 = true) : pNu t n 3 h = (some (10 * (10 * (pSg t n h - 48) + (pSg t n (h + 1) - 48)) + (pSg t n (h + 1 + 1) - 48)), h + 1 + 1 + 1) := by
  unfold pNu
  rw [pNm_s e0, pNm_s e1, pNm_s e2, if_neg (by show ¬ h + 1 + 1 + 1 = h; omega)]
  show (some _, _) = _
  rw [show (pNm t n 0 (10 * (10 * (10 * 0 + pSg t n h - 48) + pSg t n (h + 1) - 48) + pSg t n (h + 1 + 1) - 48) (h + 1 + 1 + 1)).1 = 10 * (10 * (pSg t n h - 48) + (pSg t n (h + 1) - 48)) + (pSg t n (h + 1 + 1) - 48) from by unfold pNm; show 10 * (10 * (10 * 0 + pSg t n h - 48) + pSg t n (h + 1) - 48) + pSg t n (h + 1 + 1) - 48 = _; omega]
  rfl
theorem kX13_init {G : State} {d rc rs : Nat} {ah : zH} {Q : zRs → zH → Prop} {p gd : Nat} (ha : ah p = some (.inl (10, [.int (zi 0), .null]))) (hd : 1 ≤ d) (k : Q (.inl none) (z_up ah p (.inl (10, [.int (zi 0), .ref gd])))) : zW G mX13_init d rc rs 0 (zent [.ref p, .ref gd]) [] ah Q := by
  refine zW_open 0 [some (.ref p), some (.ref gd)] rfl ?_
  refine zr_aload_n dX13_init_0 rfl rfl ?_
  refine zr_aload_n dX13_init_1 rfl rfl ?_
  refine zr_putf dX13_init_2 nX13 (k := 1) (by decide) q1781 (Or.inl rfl) (Or.inr ⟨rfl, rfl, rfl⟩) ha (z_ble rfl) rfl rfl ?_
  refine zr_aload_n dX13_init_5 rfl rfl ?_
  refine zr_objInit dX13_init_6 q1779 q144 q145 (by decide) (by omega) ?_
  refine zr_return dX13_init_9 rfl ?_
  exact k
theorem kX13_peekAt {G : State} {d rc rs : Nat} {ah : zH} {Q : zRs → zH → Prop} {p gd tx : Nat} {tp : Int → Int} {tn h : Int} (P : zPz ah p gd h) (Tt : zTt ah gd tx tp tn) (hh : 0 ≤ h ∧ h ≤ tn) {i : Int} (hi : 0 ≤ i ∧ i ≤ 60) (k : Q (.inl (some (.int (zi (pSg tp tn i))))) ah) : zW G mX13_peekAt d rc rs 0 (zent [.ref p, .int (zi i)]) [] ah Q := by
  refine zW_open 0 [some (.ref p), some (.int (zi i))] rfl ?_
  obtain ⟨tT, a, v, q, lb, er, fl, ft, t1, t2, t3⟩ := id Tt
  have tTb := tT.2.1
  refine zr_iload_n dX13_peekAt_0 rfl ?_
  refine zr_aload_n dX13_peekAt_1 rfl rfl ?_
  refine zr_getf dX13_peekAt_2 nX13 (k := 1) (by decide) q1781 (Or.inl rfl) P rfl ?_
  refine zr_getfN dX13_peekAt_5 nX1 (k := 5) (by decide) q280 t1 rfl ?_
  refine zr_icmpge dX13_peekAt_8 (tgt := 23) (by decide) (by omega) (by omega) (fun h8 => ?_) (fun h8 => ?_)
  · refine zr_iconst dX13_peekAt_23 ?_
    refine zr_ireturn dX13_peekAt_24 rfl (by first | rfl | exact z_nb _) ?_
    unfold pSg at k
    first
      | (rw [if_neg (by omega)] at k; exact k)
      | (rw [if_pos (by omega)] at k; exact k)
  · refine zr_aload_n dX13_peekAt_11 rfl rfl ?_
    refine zr_getf dX13_peekAt_12 nX13 (k := 1) (by decide) q1781 (Or.inl rfl) P rfl ?_
    refine zr_getfN dX13_peekAt_15 nX1 (k := 4) (by decide) q278 t1 rfl ?_
    refine zr_iload_n dX13_peekAt_18 rfl ?_
    refine zr_caload dX13_peekAt_19 (Or.inl t2) (by decide) (by omega) (by rw [t3 i.toNat (by omega), show ((i.toNat : Nat) : Int) = i by omega]) ?_
    refine zr_goto dX13_peekAt_20 (tgt := 24) (by decide) ?_
    refine zr_ireturn dX13_peekAt_24 rfl (by first | rfl | exact z_nb _) ?_
    unfold pSg at k
    first
      | (rw [if_neg (by omega)] at k; exact k)
      | (rw [if_pos (by omega)] at k; exact k)
theorem kX13_accept {G : State} {d rc rs : Nat} {ah : zH} {Q : zRs → zH → Prop} {p gd tx : Nat} {tp : Int → Int} {tn h : Int} (P : zPz ah p gd h) (Tt : zTt ah gd tx tp tn) (hh : 0 ≤ h ∧ h ≤ tn) {c : Int} (hc9 : 0 ≤ c ∧ c ≤ 65535) (hd : 2 ≤ d) (k1 : pSg tp tn h = c → ∀ ah9, zFp p ah ah9 → zPz ah9 p gd (h + 1) → Q (.inl (some (.int (zi 1)))) ah9) (k0 : ¬ pSg tp tn h = c → ∀ ah9, zFp p ah ah9 → zPz ah9 p gd h → Q (.inl (some (.int (zi 0)))) ah9) : zW G mX13_accept d rc rs 0 (zent [.ref p, .int (zi c)]) [] ah Q := by
  refine zW_open 1 [some (.ref p), some (.int (zi c)), none] rfl ?_
  obtain ⟨tT, a, v, q, lb, er, fl, ft, t1, t2, t3⟩ := id Tt
  have tTb := tT.2.1
  have sb := pSg_c (h := h) tT hh.1
  refine zr_aload_n dX13_accept_0 rfl rfl ?_
  refine zr_aload_n dX13_accept_1 rfl rfl ?_
  refine zr_getf dX13_accept_2 nX13 (k := 0) (by decide) q1780 (Or.inl rfl) P rfl ?_
  refine zc_v1 dX13_accept_5 hX13_peekAt gX13_peekAt rfl rfl 0 0 0 (by omega) (Nat.zero_le _) (Nat.zero_le _) q1797 q1799 sp27 P.rc ?_
  refine kX13_peekAt P Tt hh (by omega) (zK_i ?_)
  refine zr_iload_n dX13_accept_8 rfl ?_
  refine zr_icmpne dX13_accept_9 (tgt := 16) (by decide) (by omega) (by omega) (fun h9 => ?_) (fun h9 => ?_)
  · refine zr_iconst dX13_accept_16 ?_
    refine zr_istore_n dX13_accept_17 (by decide) (zs3_2 rfl ?_)
    refine zr_aload_n dX13_accept_18 rfl rfl ?_
    refine zr_dup dX13_accept_19 rfl ?_
    refine zr_getf dX13_accept_20 nX13 (k := 0) (by decide) q1780 (Or.inl rfl) P rfl ?_
    refine zr_iload_n dX13_accept_23 rfl ?_
    refine zr_ifeq dX13_accept_24 (tgt := 31) (by decide) (by decide) (fun _ => ?_) (fun h => absurd h (by decide))
    refine zr_iconst dX13_accept_31 ?_
    refine zr_iadd dX13_accept_32 ?_
    refine zr_putf dX13_accept_33 nX13 (k := 0) (by decide) q1780 (Or.inl rfl) (Or.inl rfl) P (z_ble rfl) rfl rfl ?_
    refine zr_iload_n dX13_accept_36 rfl ?_
    refine zr_ireturn dX13_accept_37 rfl (by first | rfl | exact z_nb _) ?_
    exact k0 h9 _ (fun b o hb hn => (z_up_n hn).trans hb) (by show z_up ah p _ p = _; rw [z_up_s]; show some (Sum.inl (10, [Value.int (zi (h + 0)), Value.ref gd])) = _; rw [Int.add_zero])
  · refine zr_iconst dX13_accept_12 ?_
    refine zr_goto dX13_accept_13 (tgt := 17) (by decide) ?_
    refine zr_istore_n dX13_accept_17 (by decide) (zs3_2 rfl ?_)
    refine zr_aload_n dX13_accept_18 rfl rfl ?_
    refine zr_dup dX13_accept_19 rfl ?_
    refine zr_getf dX13_accept_20 nX13 (k := 0) (by decide) q1780 (Or.inl rfl) P rfl ?_
    refine zr_iload_n dX13_accept_23 rfl ?_
    refine zr_ifeq dX13_accept_24 (tgt := 31) (by decide) (by decide) (fun h => absurd h (by decide)) (fun _ => ?_)
    refine zr_iconst dX13_accept_27 ?_
    refine zr_goto dX13_accept_28 (tgt := 32) (by decide) ?_
    refine zr_iadd dX13_accept_32 ?_
    refine zr_putf dX13_accept_33 nX13 (k := 0) (by decide) q1780 (Or.inl rfl) (Or.inl rfl) P (z_ble rfl) rfl rfl ?_
    refine zr_iload_n dX13_accept_36 rfl ?_
    refine zr_ireturn dX13_accept_37 rfl (by first | rfl | exact z_nb _) ?_
    exact k1 h9 _ (fun b o hb hn => (z_up_n hn).trans hb) z_up_s
theorem kX13_require {G : State} {d rc rs : Nat} {ah : zH} {Q : zRs → zH → Prop} {p gd : Nat} {h : Int} {b : Bool} (P : zPz ah p gd h) (hd : 6 ≤ d) (hc : 1 ≤ rc) (hs9 : 7 ≤ rs) (k : b = true → Q (.inl none) ah) (kx : b = false → ∀ ah9 q9, zGr ah ah9 → zSx ah9 q9 h → Q (.inr ("TrailGuide$SyntaxException", q9)) ah9) : zW G mX13_require d rc rs 0 (zent [.ref p, .int (zi (zB b))]) [] ah Q := by
  refine zW_open 0 [some (.ref p), some (.int (zi (zB b)))] rfl ?_
  refine zr_iload_n dX13_require_0 rfl ?_
  refine zr_ifneB dX13_require_1 (tgt := 16) (by decide) (fun h1 => ?_) (fun h1 => ?_)
  · refine zr_return dX13_require_16 rfl ?_
    exact k h1
  · refine zr_new (fs := [.null, .null, .null, .null, .null, .int (zi 0), .int (zi 0)]) dX13_require_4 nX14 q1856 q1857 q135 (z_ble rfl) dfX14 (by omega) (by omega) (fun q4 hq4 => ?_)
    refine zr_dup dX13_require_7 rfl ?_
    refine zr_aload_n dX13_require_8 rfl rfl ?_
    refine zr_getf dX13_require_9 nX13 (k := 0) (by decide) q1780 (Or.inl rfl) (z_upk hq4 P) rfl ?_
    refine zc_i1 rfl rfl rfl dX13_require_12 hX14_init gX14_init rfl rfl 5 0 0 (by omega) (Nat.zero_le _) (Nat.zero_le _) q1865 q1866 ?_
    refine kX14_init z_up_s (by omega) (zK_v ?_)
    rw [z_up_o]
    refine zr_athrow dX13_require_15 nX14 z_up_s (zX_out (fun x hx => nomatch hx) ?_)
    exact kx h1 _ q4 (zGr.up hq4) z_up_s
theorem kX13_isDigit {G : State} {d rc rs : Nat} {ah : zH} {Q : zRs → zH → Prop} {p gd tx : Nat} {tp : Int → Int} {tn h : Int} (P : zPz ah p gd h) (Tt : zTt ah gd tx tp tn) (hh : 0 ≤ h ∧ h ≤ tn) (hd : 2 ≤ d) (k : Q (.inl (some (.int (zi (zB (pIn (pSg tp tn h) 48 57)))))) ah) : zW G mX13_isDigit d rc rs 0 (zent [.ref p]) [] ah Q := by
  refine zW_open 0 [some (.ref p)] rfl ?_
  obtain ⟨tT, a, v, q, lb, er, fl, ft, t1, t2, t3⟩ := id Tt
  have tTb := tT.2.1
  have sb := pSg_c (h := h) tT hh.1
  refine zr_aload_n dX13_isDigit_0 rfl rfl ?_
  refine zr_aload_n dX13_isDigit_1 rfl rfl ?_
  refine zr_getf dX13_isDigit_2 nX13 (k := 0) (by decide) q1780 (Or.inl rfl) P rfl ?_
  refine zc_v1 dX13_isDigit_5 hX13_peekAt gX13_peekAt rfl rfl 0 0 0 (by omega) (Nat.zero_le _) (Nat.zero_le _) q1797 q1799 sp27 P.rc ?_
  refine kX13_peekAt P Tt hh (by omega) (zK_i ?_)
  refine zr_bipush dX13_isDigit_8 rfl ?_
  refine zr_bipush dX13_isDigit_10 rfl ?_
  refine zc_sN3 rfl dX13_isDigit_12 hX1_inRange gX1_inRange rfl rfl 0 0 0 (by omega) (Nat.zero_le _) (Nat.zero_le _) q1921 q830 ?_
  refine kX1_inRange (by omega) (by omega) (by omega) (zK_i ?_)
  refine zr_ireturn dX13_isDigit_15 rfl (by first | rfl | exact z_nb _) ?_
  exact k
theorem kX13_digit {G : State} {d rc rs : Nat} {ah : zH} {Q : zRs → zH → Prop} {p gd tx : Nat} {tp : Int → Int} {tn h : Int} (P : zPz ah p gd h) (Tt : zTt ah gd tx tp tn) (hh : 0 ≤ h ∧ h ≤ tn) (hd : 8 ≤ d) (hc : 1 ≤ rc) (hs9 : 7 ≤ rs) (k : pIn (pSg tp tn h) 48 57 = true → ∀ ah9, zFp p ah ah9 → zPz ah9 p gd (h + 1) → Q (.inl (some (.int (zi (pSg tp tn h - 48))))) ah9) (kx : ¬ pIn (pSg tp tn h) 48 57 = true → ∀ ah9 q9, zFp p ah ah9 → zSx ah9 q9 h → Q (.inr ("TrailGuide$SyntaxException", q9)) ah9) : zW G mX13_digit d rc rs 0 (zent [.ref p]) [] ah Q := by
  refine zW_open 0 [some (.ref p)] rfl ?_
  obtain ⟨tT, a, v, q, lb, er, fl, ft, t1, t2, t3⟩ := id Tt
  have tTb := tT.2.1
  have sb := pSg_c (h := h) tT hh.1
  refine zr_aload_n dX13_digit_0 rfl rfl ?_
  refine zr_aload_n dX13_digit_1 rfl rfl ?_
  refine zc_v0 dX13_digit_2 hX13_isDigit gX13_isDigit rfl rfl 2 0 0 (by omega) (Nat.zero_le _) (Nat.zero_le _) q1917 q1919 sp35 P.rc ?_
  refine kX13_isDigit P Tt hh (by omega) (zK_i ?_)
  refine zc_v1 dX13_digit_5 hX13_require gX13_require rfl rfl 6 1 7 (by omega) (by omega) (by omega) q1852 q1854 sp28 P.rc ?_
  refine kX13_require (b := pIn (pSg tp tn h) 48 57) P (by omega) (by omega) (by omega) (fun h5 => zK_v ?_) (fun h5 ah9 q9 g9 x9 => zK_x (zX_out (fun x hx => nomatch hx) ?_))
  rotate_left
  · exact kx (by rw [h5]; decide) _ _ g9.fp x9
  have p5 := pIn_iff.mp h5
  have hl := pSg_l (t := tp) (n := tn) (h := h) rfl (by omega)
  have npg : gd ≠ p := fun z => by rw [z] at t1; unfold zPz at P; rw [P] at t1; cases t1
  have npt : tx ≠ p := fun z => by rw [z] at t2; unfold zPz at P; rw [P] at t2; cases t2
  refine zr_aload_n dX13_digit_8 rfl rfl ?_
  refine zr_dup dX13_digit_9 rfl ?_
  refine zr_getf dX13_digit_10 nX13 (k := 0) (by decide) q1780 (Or.inl rfl) P rfl ?_
  refine zr_iconst dX13_digit_13 ?_
  refine zr_iadd dX13_digit_14 ?_
  refine zr_putf dX13_digit_15 nX13 (k := 0) (by decide) q1780 (Or.inl rfl) (Or.inl rfl) P (z_ble rfl) rfl rfl ?_
  refine zr_aload_n dX13_digit_18 rfl rfl ?_
  refine zr_getf dX13_digit_19 nX13 (k := 1) (by decide) q1781 (Or.inl rfl) z_up_s rfl ?_
  refine zr_getfN dX13_digit_22 nX1 (k := 4) (by decide) q278 ((z_up_n npg).trans t1) rfl ?_
  refine zr_aload_n dX13_digit_25 rfl rfl ?_
  refine zr_getf dX13_digit_26 nX13 (k := 0) (by decide) q1780 (Or.inl rfl) z_up_s rfl ?_
  refine zr_iconst dX13_digit_29 ?_
  refine zr_isub dX13_digit_30 ?_
  refine zr_caload dX13_digit_31 (Or.inl ((z_up_n npt).trans t2)) (by decide) (by omega) (show ft (h + 1 - 1).toNat = .int (zi (pSg tp tn h)) from by rw [t3 _ (by omega), show (((h + 1 - 1).toNat : Nat) : Int) = h by omega]; unfold pSg; rw [if_pos hl]) ?_
  refine zr_bipush dX13_digit_32 rfl ?_
  refine zr_isub dX13_digit_34 ?_
  refine zr_ireturn dX13_digit_35 rfl (by first | rfl | exact z_nb _) ?_
  exact k h5 _ (fun b o hb hn => (z_up_n hn).trans hb) z_up_s
