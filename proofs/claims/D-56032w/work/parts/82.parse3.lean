set_option maxRecDepth 100000
/-! ===== the parser: commands, programs ===== -/
/-- the lambda's object b does what X tells -/
def zCq (G : State) (ah : zH) (b : Nat) (X : pI4) : Prop :=
  (X.1 = 112 ∧ ah b = some (.inl (1016, [.int (zi X.2.1), .int (zi X.2.2.1), .int (zi X.2.2.2)]))) ∨ (X.1 = 116 ∧ ah b = some (.inl (1017, [.int (zi X.2.1), .int (zi X.2.2.1), .int (zi X.2.2.2)]))) ∨
  (X.1 = 111 ∧ ah b = some (.inl (1018, [.int (zi X.2.1), .int (zi X.2.2.1)]))) ∨ (X.1 = 99 ∧ ah b = some (.inl (1019, [.int (zi X.2.1), .int (zi X.2.2.1)]))) ∨ (X.1 = 104 ∧ ah b = some (.inl (1020, [.int (zi X.2.1)]))) ∨
  (X.1 = 109 ∧ ah b = some (.inl (1021, [.int (zi X.2.1)]))) ∨ (X.1 = 118 ∧ ah b = some (.inl (1022, [.int (zi X.2.1), .int (zi X.2.2.1)]))) ∨ (X.1 = 108 ∧ ah b = some (.inl (1023, [.int (zi X.2.1)]))) ∨ (X.1 = 115 ∧ b = zLa G 24)
/-- a heap that keeps commands -/
def zKc (ah ah' : zH) : Prop := ∀ b o, ah b = some o → (∃ ci fs, o = .inl (ci, fs) ∧ (ci = 12 ∨ 1000 ≤ ci)) → ah' b = some o
theorem zCq.fr {G : State} {ah ah' : zH} {b : Nat} {X : pI4} (h : zCq G ah b X) (k : zKc ah ah') : zCq G ah' b X := by
  have kk : ∀ ci fs, 1000 ≤ ci → ah b = some (.inl (ci, fs)) → ah' b = some (.inl (ci, fs)) := fun ci fs hc hb => k b _ hb ⟨ci, fs, rfl, Or.inr hc⟩
  rcases h with ⟨x, h⟩ | ⟨x, h⟩ | ⟨x, h⟩ | ⟨x, h⟩ | ⟨x, h⟩ | ⟨x, h⟩ | ⟨x, h⟩ | ⟨x, h⟩ | ⟨x, h⟩
  · exact Or.inl ⟨x, kk _ _ (by decide) h⟩
  · exact Or.inr (Or.inl ⟨x, kk _ _ (by decide) h⟩)
  · exact Or.inr (Or.inr (Or.inl ⟨x, kk _ _ (by decide) h⟩))
  · exact Or.inr (Or.inr (Or.inr (Or.inl ⟨x, kk _ _ (by decide) h⟩)))
  · exact Or.inr (Or.inr (Or.inr (Or.inr (Or.inl ⟨x, kk _ _ (by decide) h⟩))))
  · exact Or.inr (Or.inr (Or.inr (Or.inr (Or.inr (Or.inl ⟨x, kk _ _ (by decide) h⟩)))))
  · exact Or.inr (Or.inr (Or.inr (Or.inr (Or.inr (Or.inr (Or.inl ⟨x, kk _ _ (by decide) h⟩))))))
  · exact Or.inr (Or.inr (Or.inr (Or.inr (Or.inr (Or.inr (Or.inr (Or.inl ⟨x, kk _ _ (by decide) h⟩)))))))
  · exact Or.inr (Or.inr (Or.inr (Or.inr (Or.inr (Or.inr (Or.inr (Or.inr ⟨x, h⟩)))))))
/-- the command c does what X tells -/
def zCm (G : State) (ah : zH) (c : Nat) (X : pI4) : Prop := ∃ b, ah c = some (.inl (12, [.ref b])) ∧ zCq G ah b X
theorem zCm.fr {G : State} {ah ah' : zH} {c : Nat} {X : pI4} (h : zCm G ah c X) (k : zKc ah ah') : zCm G ah' c X := by
  obtain ⟨b, h1, h2⟩ := h
  exact ⟨b, k c _ h1 ⟨12, _, rfl, Or.inl rfl⟩, h2.fr k⟩
theorem zCm.rc {G : State} {ah : zH} {c : Nat} {X : pI4} (h : zCm G ah c X) : zRc G ah c "TrailGuide$Command" := by
  obtain ⟨b, h1, -⟩ := h
  exact Or.inl ⟨12, _, TX15, 1, tyX15, nX15, h1⟩
theorem zFp.kc {p gd : Nat} {ah ah' : zH} {h : Int} (f : zFp p ah ah') (P : zPz ah p gd h) : zKc ah ah' := fun b o hb ho => f b o hb (fun z => by
  obtain ⟨ci, fs, e, hc⟩ := ho
  unfold zPz at P
  rw [z, P] at hb
  cases hb
  cases e
  omega)
theorem pLit_s {t : Int → Int} {n : Int} {l : List Int} {h h' : Int} (e : pLit t n l h = (some (), h')) (hl : l ≠ []) (hc : ∀ c ∈ l, 0 ≤ c) : h < h' := by
  cases l with
  | nil => exact absurd rfl hl
  | cons c l =>
    have e2 : pB (pCh t n c h) (fun _ h => pLit t n l h) = (some (), h') := e
    unfold pCh at e2
    split at e2
    · have e3 : pLit t n l (h + 1) = (some (), h') := e2
      have := pLit_b l e3 (fun x hx => hc x (List.mem_cons_of_mem _ hx))
      omega
    · cases e2
theorem pMo_b {t : Int → Int} {n h v h' : Int} (e : pMo t n h = (some v, h')) : (0 ≤ v ∧ v ≤ 2) ∧ h' = h + 1 ∧ h < n := by
  unfold pMo at e
  split at e
  · cases e; exact ⟨by omega, rfl, pSg_l (by assumption) (by omega)⟩
  · split at e
    · cases e; exact ⟨by omega, rfl, pSg_l (by assumption) (by omega)⟩
    · split at e
      · cases e; exact ⟨by omega, rfl, pSg_l (by assumption) (by omega)⟩
      · cases e
theorem kX15_init {G : State} {d rc rs : Nat} {ah : zH} {Q : zRs → zH → Prop} {c b : Nat} (ha : ah c = some (.inl (12, [.null]))) (hd : 1 ≤ d) (k : Q (.inl none) (z_up ah c (.inl (12, [.ref b])))) : zW G mX15_init d rc rs 0 (zent [.ref c, .ref b]) [] ah Q := by
  refine zW_open 0 [some (.ref c), some (.ref b)] rfl ?_
  refine zr_aload_n dX15_init_0 rfl rfl ?_
  refine zr_objInit dX15_init_1 q1931 q144 q145 (by decide) (by omega) ?_
  refine zr_aload_n dX15_init_4 rfl rfl ?_
  refine zr_aload_n dX15_init_5 rfl rfl ?_
  refine zr_putf dX15_init_6 nX15 (k := 0) (by decide) q1932 (Or.inl rfl) (Or.inr ⟨rfl, rfl, rfl⟩) ha (z_ble rfl) rfl rfl ?_
  refine zr_return dX15_init_9 rfl ?_
  exact k
theorem kX13_pointed {G : State} {d rc rs : Nat} {ah : zH} {Q : zRs → zH → Prop} {p gd tx : Nat} {tp : Int → Int} {tn h : Int} (P : zPz ah p gd h) (Tt : zTt ah gd tx tp tn) (hh : 0 ≤ h ∧ h ≤ tn) (hd : 40 ≤ d) (hc : 40 ≤ rc) (hs9 : 300 ≤ rs) (k : ∀ ah9 c9 X9 h9, pRP tp tn h = (some X9, h9) → pC9 X9 → (h < h9 ∧ h9 ≤ tn) → zFp p ah ah9 → zPz ah9 p gd h9 → zCm G ah9 c9 X9 → Q (.inl (some (.ref c9))) ah9) (kx : ∀ ah9 q9 h9, pRP tp tn h = (none, h9) → zFp p ah ah9 → zSx ah9 q9 h9 → Q (.inr ("TrailGuide$SyntaxException", q9)) ah9) : zW G mX13_pointed d rc rs 0 (zent [.ref p]) [] ah Q := by
  refine zW_open 3 [some (.ref p), none, none, none] rfl ?_
  refine zW_tb (fun T => ?_)
  refine zr_aload_n dX13_pointed_0 rfl rfl ?_
  refine zr_ldcS dX13_pointed_1 (z_litP84 T).1 ?_
  refine zc_v1 dX13_pointed_3 hX13_numberAfter gX13_numberAfter rfl rfl 12 9 63 (by omega) (by omega) (by omega) q1885 q1887 sp30 P.rc ?_
  refine kX13_numberAfter P Tt hh (z_litP84 T).2 ⟨by decide, by decide⟩ (by decide) (by omega) (by omega) (by omega) (fun ah1 v1 i1 h1 a1 b1 w1 y1 f1 P1 => zK_i ?_) (fun ah9 q9 h9 e9 f9 x9 => zK_x (zX_out (fun x hx => nomatch hx) (kx ah9 q9 h9 (by
      rcases e9 with e9 | ⟨h8_, e9, e8⟩
      · unfold pRP; simp only [pPair, pB, e9]
      · unfold pRP; simp only [pPair, pB, e9, e8]) f9 x9)))
  have T1 := Tt.fp P f1
  have hh1 : 0 ≤ h1 ∧ h1 ≤ tn := by omega
  refine zr_istore_n dX13_pointed_6 (by decide) (zs4_1 rfl ?_)
  refine zr_aload_n dX13_pointed_7 rfl rfl ?_
  refine zr_ldcS dX13_pointed_8 (z_litP90 T).1 ?_
  refine zc_v1 dX13_pointed_10 hX13_numberAfter gX13_numberAfter rfl rfl 12 9 63 (by omega) (by omega) (by omega) q1885 q1887 sp30 P1.rc ?_
  refine kX13_numberAfter P1 T1 hh1 (z_litP90 T).2 ⟨by decide, by decide⟩ (by decide) (by omega) (by omega) (by omega) (fun ah2 v2 i2 h2 a2 b2 w2 y2 f2 P2 => zK_i ?_) (fun ah9 q9 h9 e9 f9 x9 => zK_x (zX_out (fun x hx => nomatch hx) (kx ah9 q9 h9 (by
      rcases e9 with e9 | ⟨h8_, e9, e8⟩
      · rw [pLit_1] at e9; unfold pRP; simp only [pPair, pB, a1, b1, e9]
      · rw [pLit_1] at e9; unfold pRP; simp only [pPair, pB, a1, b1, e9, e8]) (f1.tr f9) x9)))
  rw [pLit_1] at a2
  have T2 := T1.fp P1 f2
  have hh2 : 0 ≤ h2 ∧ h2 ≤ tn := by omega
  refine zr_istore_n dX13_pointed_13 (by decide) (zs4_2 rfl ?_)
  refine zr_aload_n dX13_pointed_14 rfl rfl ?_
  refine zr_ldcS dX13_pointed_15 (z_litP90 T).1 ?_
  refine zc_v1 dX13_pointed_17 hX13_expect gX13_expect rfl rfl 7 6 42 (by omega) (by omega) (by omega) q1889 q1891 sp31 P2.rc ?_
  refine kX13_expect P2 T2 hh2 (z_litP90 T).2 ⟨by decide, by decide⟩ (by decide) (by omega) (by omega) (by omega) (fun ah3 h3 a3 f3 P3 => zK_v ?_) (fun ah9 q9 h9 e9 f9 x9 => zK_x (zX_out (fun x hx => nomatch hx) (kx ah9 q9 h9 (by rw [pLit_1] at e9; unfold pRP; simp only [pPair, pB, a1, b1, a2, b2, e9]) ((f1.tr f2).tr f9) x9)))
  have hg3 := pLit_g a3 (by decide) hh2
  have hm3 := pLit_s a3 (by decide) (by decide)
  rw [pLit_1] at a3
  have T3 := T2.fp P2 f3
  have hh3 : 0 ≤ h3 ∧ h3 ≤ tn := hg3
  refine zr_aload_n dX13_pointed_20 rfl rfl ?_
  refine zc_v0 dX13_pointed_21 hX13_digit gX13_digit rfl rfl 8 1 7 (by omega) (by omega) (by omega) q1913 q1915 sp34 P3.rc ?_
  refine kX13_digit P3 T3 hh3 (by omega) (by omega) (by omega) (fun d4 ah4 f4 P4 => zK_i ?_) (fun d4 ah9 q9 f9 x9 => zK_x (zX_out (fun x hx => nomatch hx) (kx ah9 q9 _ (by
      have e9 : pNu tp tn 1 h3 = (none, h3) := by rw [pNu_1, if_neg d4]
      unfold pRP; simp only [pPair, pB, a1, b1, a2, b2, a3, e9]) (((f1.tr f2).tr f3).tr f9) x9)))
  have a4 : pNu tp tn 1 h3 = (some (pSg tp tn h3 - 48), h3 + 1) := by rw [pNu_1, if_pos d4]
  have q4 := pIn_iff.mp d4
  have j4 := pSg_l (t := tp) (n := tn) (h := h3) rfl (by omega)
  have T4 := T3.fp P3 f4
  refine zr_istore_n dX13_pointed_24 (by decide) (zs4_3 rfl ?_)
  refine zr_new (fs := [.null]) dX13_pointed_25 nX15 q1923 q1924 q136 (z_ble rfl) dfX15 (by omega) (by omega) (fun c9 hcc => ?_)
  refine zr_dup dX13_pointed_28 rfl ?_
  refine zr_iload_n dX13_pointed_29 rfl ?_
  refine zr_iload_n dX13_pointed_30 rfl ?_
  refine zr_iload_n dX13_pointed_31 rfl ?_
  refine zln16 rfl rfl dX13_pointed_32 rfl (by omega) (by omega) (by omega) (fun b9 hb9 => ?_)
  have nbc : b9 ≠ c9 := fun z => by rw [z, z_up_s] at hb9; cases hb9
  refine zc_i1 rfl rfl rfl dX13_pointed_37 hX15_init gX15_init rfl rfl 1 0 0 (by omega) (Nat.zero_le _) (Nat.zero_le _) q1928 q1929 ?_
  refine kX15_init (z_upk hb9 z_up_s) (by omega) (zK_v ?_)
  refine zr_areturn dX13_pointed_40 rfl rfl rfl ?_
  have gF := (((zGr.up (o := .inl (12, [.null])) hcc).tr (zGr.up (o := .inl (1016, [.int (zi (v1)), .int (zi (v2)), .int (zi ((pSg tp tn h3 - 48)))])) hb9)).tu (o := .inl (12, [.ref b9])) hcc)
  exact k _ c9 (112, v1, v2, (pSg tp tn h3 - 48)) _ (by unfold pRP; simp only [pPair, pB, a1, b1, a2, b2, a3, a4]) ⟨by show 0 ≤ v1 ∧ v1 ≤ 999; omega, by show 0 ≤ v2 ∧ v2 ≤ 999; omega, by show 0 ≤ (pSg tp tn h3 - 48) ∧ (pSg tp tn h3 - 48) ≤ 999; omega, Or.inl rfl⟩ (by omega) ((((f1.tr f2).tr f3).tr f4).tr gF.fp) (gF _ _ P4) ⟨_, z_up_s, Or.inl ⟨rfl, ((z_up_n nbc).trans z_up_s)⟩⟩
theorem kX13_trailOrTour {G : State} {d rc rs : Nat} {ah : zH} {Q : zRs → zH → Prop} {p gd tx : Nat} {tp : Int → Int} {tn h : Int} (P : zPz ah p gd h) (Tt : zTt ah gd tx tp tn) (hh : 0 ≤ h ∧ h ≤ tn) (hd : 40 ≤ d) (hc : 40 ≤ rc) (hs9 : 300 ≤ rs) (k : ∀ ah9 c9 X9 h9, pRT tp tn h = (some X9, h9) → pC9 X9 → (h < h9 ∧ h9 ≤ tn) → zFp p ah ah9 → zPz ah9 p gd h9 → zCm G ah9 c9 X9 → Q (.inl (some (.ref c9))) ah9) (kx : ∀ ah9 q9 h9, pRT tp tn h = (none, h9) → zFp p ah ah9 → zSx ah9 q9 h9 → Q (.inr ("TrailGuide$SyntaxException", q9)) ah9) : zW G mX13_trailOrTour d rc rs 0 (zent [.ref p]) [] ah Q := by
  refine zW_open 3 [some (.ref p), none, none, none] rfl ?_
  refine zW_tb (fun T => ?_)
  refine zr_aload_n dX13_trailOrTour_0 rfl rfl ?_
  refine zr_bipush dX13_trailOrTour_1 rfl ?_
  refine zc_v1 dX13_trailOrTour_3 hX13_accept gX13_accept rfl rfl 2 0 0 (by omega) (Nat.zero_le _) (Nat.zero_le _) q1905 q1907 sp32 P.rc ?_
  refine kX13_accept (c := 114) P Tt hh (by decide) (by omega) (fun e1 ah1 f1 P1 => zK_i ?_) (fun e1 ah1 f1 P1 => zK_i ?_)
  · have T1 := Tt.fp P f1
    refine zr_ifeq dX13_trailOrTour_6 (tgt := 46) (by decide) (by decide) (fun h => absurd h (by decide)) (fun _ => ?_)
    have hh1 : 0 ≤ h + 1 ∧ h + 1 ≤ tn := by have := pSg_l e1 (by decide); omega
    refine zr_aload_n dX13_trailOrTour_9 rfl rfl ?_
    refine zr_ldcS dX13_trailOrTour_10 (z_litP101 T).1 ?_
    refine zc_v1 dX13_trailOrTour_12 hX13_numberAfter gX13_numberAfter rfl rfl 12 9 63 (by omega) (by omega) (by omega) q1885 q1887 sp30 P1.rc ?_
    refine kX13_numberAfter P1 T1 hh1 (z_litP101 T).2 ⟨by decide, by decide⟩ (by decide) (by omega) (by omega) (by omega) (fun ah2 v2 i2 h2 a2 b2 w2 y2 f2 P2 => zK_i ?_) (fun ah9 q9 h9 e9 f9 x9 => zK_x (zX_out (fun x hx => nomatch hx) (kx ah9 q9 h9 (by
        rcases e9 with e9 | ⟨h8_, e9, e8⟩
        · rw [pRT, if_pos e1]; simp only [pPair, pB, e9]
        · rw [pRT, if_pos e1]; simp only [pPair, pB, e9, e8]) (f1.tr f9) x9)))
    have T2 := T1.fp P1 f2
    have hh2 : 0 ≤ h2 ∧ h2 ≤ tn := by omega
    refine zr_istore_n dX13_trailOrTour_15 (by decide) (zs4_1 rfl ?_)
    refine zr_aload_n dX13_trailOrTour_16 rfl rfl ?_
    refine zr_ldcS dX13_trailOrTour_17 (z_litP103 T).1 ?_
    refine zc_v1 dX13_trailOrTour_19 hX13_numberAfter gX13_numberAfter rfl rfl 12 9 63 (by omega) (by omega) (by omega) q1885 q1887 sp30 P2.rc ?_
    refine kX13_numberAfter P2 T2 hh2 (z_litP103 T).2 ⟨by decide, by decide⟩ (by decide) (by omega) (by omega) (by omega) (fun ah3 v3 i3 h3 a3 b3 w3 y3 f3 P3 => zK_i ?_) (fun ah9 q9 h9 e9 f9 x9 => zK_x (zX_out (fun x hx => nomatch hx) (kx ah9 q9 h9 (by
        rcases e9 with e9 | ⟨h8_, e9, e8⟩
        · rw [pLit_1] at e9; rw [pRT, if_pos e1]; simp only [pPair, pB, a2, b2, e9]
        · rw [pLit_1] at e9; rw [pRT, if_pos e1]; simp only [pPair, pB, a2, b2, e9, e8]) ((f1.tr f2).tr f9) x9)))
    rw [pLit_1] at a3
    have T3 := T2.fp P2 f3
    have hh3 : 0 ≤ h3 ∧ h3 ≤ tn := by omega
    refine zr_istore_n dX13_trailOrTour_22 (by decide) (zs4_2 rfl ?_)
    refine zr_aload_n dX13_trailOrTour_23 rfl rfl ?_
    refine zr_ldcS dX13_trailOrTour_24 (z_litP105 T).1 ?_
    refine zc_v1 dX13_trailOrTour_26 hX13_numberAfter gX13_numberAfter rfl rfl 12 9 63 (by omega) (by omega) (by omega) q1885 q1887 sp30 P3.rc ?_
    refine kX13_numberAfter P3 T3 hh3 (z_litP105 T).2 ⟨by decide, by decide⟩ (by decide) (by omega) (by omega) (by omega) (fun ah4 v4 i4 h4 a4 b4 w4 y4 f4 P4 => zK_i ?_) (fun ah9 q9 h9 e9 f9 x9 => zK_x (zX_out (fun x hx => nomatch hx) (kx ah9 q9 h9 (by
        rcases e9 with e9 | ⟨h8_, e9, e8⟩
        · rw [pLit_1] at e9; rw [pRT, if_pos e1]; simp only [pPair, pB, a2, b2, a3, b3, e9]
        · rw [pLit_1] at e9; rw [pRT, if_pos e1]; simp only [pPair, pB, a2, b2, a3, b3, e9, e8]) (((f1.tr f2).tr f3).tr f9) x9)))
    rw [pLit_1] at a4
    have T4 := T3.fp P3 f4
    have hh4 : 0 ≤ h4 ∧ h4 ≤ tn := by omega
    refine zr_istore_n dX13_trailOrTour_29 (by decide) (zs4_3 rfl ?_)
    refine zr_new (fs := [.null]) dX13_trailOrTour_30 nX15 q1923 q1924 q136 (z_ble rfl) dfX15 (by omega) (by omega) (fun c9 hcc => ?_)
    refine zr_dup dX13_trailOrTour_33 rfl ?_
    refine zr_iload_n dX13_trailOrTour_34 rfl ?_
    refine zr_iload_n dX13_trailOrTour_35 rfl ?_
    refine zr_iload_n dX13_trailOrTour_36 rfl ?_
    refine zln17 rfl rfl dX13_trailOrTour_37 rfl (by omega) (by omega) (by omega) (fun b9 hb9 => ?_)
    have nbc : b9 ≠ c9 := fun z => by rw [z, z_up_s] at hb9; cases hb9
    refine zc_i1 rfl rfl rfl dX13_trailOrTour_42 hX15_init gX15_init rfl rfl 1 0 0 (by omega) (Nat.zero_le _) (Nat.zero_le _) q1928 q1929 ?_
    refine kX15_init (z_upk hb9 z_up_s) (by omega) (zK_v ?_)
    refine zr_areturn dX13_trailOrTour_45 rfl rfl rfl ?_
    have gF := (((zGr.up (o := .inl (12, [.null])) hcc).tr (zGr.up (o := .inl (1017, [.int (zi (v2)), .int (zi (v3)), .int (zi (v4))])) hb9)).tu (o := .inl (12, [.ref b9])) hcc)
    exact k _ c9 (116, v2, v3, v4) _ (by rw [pRT, if_pos e1]; simp only [pPair, pB, a2, b2, a3, b3, a4, b4]) ⟨by show 0 ≤ v2 ∧ v2 ≤ 999; omega, by show 0 ≤ v3 ∧ v3 ≤ 999; omega, by show 0 ≤ v4 ∧ v4 ≤ 999; omega, Or.inr (Or.inl rfl)⟩ (by omega) ((((f1.tr f2).tr f3).tr f4).tr gF.fp) (gF _ _ P4) ⟨_, z_up_s, Or.inr (Or.inl ⟨rfl, ((z_up_n nbc).trans z_up_s)⟩)⟩
  · have T1 := Tt.fp P f1
    refine zr_ifeq dX13_trailOrTour_6 (tgt := 46) (by decide) (by decide) (fun _ => ?_) (fun h => absurd h (by decide))
    refine zr_aload_n dX13_trailOrTour_46 rfl rfl ?_
    refine zr_ldcS dX13_trailOrTour_47 (z_litP108 T).1 ?_
    refine zc_v1 dX13_trailOrTour_49 hX13_numberAfter gX13_numberAfter rfl rfl 12 9 63 (by omega) (by omega) (by omega) q1885 q1887 sp30 P1.rc ?_
    refine kX13_numberAfter P1 T1 hh (z_litP108 T).2 ⟨by decide, by decide⟩ (by decide) (by omega) (by omega) (by omega) (fun ah2 v2 i2 h2 a2 b2 w2 y2 f2 P2 => zK_i ?_) (fun ah9 q9 h9 e9 f9 x9 => zK_x (zX_out (fun x hx => nomatch hx) (kx ah9 q9 h9 (by
        rcases e9 with e9 | ⟨h8_, e9, e8⟩
        · rw [pRT, if_neg e1]; simp only [pPair, pB, e9]
        · rw [pRT, if_neg e1]; simp only [pPair, pB, e9, e8]) (f1.tr f9) x9)))
    have T2 := T1.fp P1 f2
    have hh2 : 0 ≤ h2 ∧ h2 ≤ tn := by omega
    refine zr_istore_n dX13_trailOrTour_52 (by decide) (zs4_1 rfl ?_)
    refine zr_aload_n dX13_trailOrTour_53 rfl rfl ?_
    refine zr_ldcS dX13_trailOrTour_54 (z_litP110 T).1 ?_
    refine zc_v1 dX13_trailOrTour_56 hX13_numberAfter gX13_numberAfter rfl rfl 12 9 63 (by omega) (by omega) (by omega) q1885 q1887 sp30 P2.rc ?_
    refine kX13_numberAfter P2 T2 hh2 (z_litP110 T).2 ⟨by decide, by decide⟩ (by decide) (by omega) (by omega) (by omega) (fun ah3 v3 i3 h3 a3 b3 w3 y3 f3 P3 => zK_i ?_) (fun ah9 q9 h9 e9 f9 x9 => zK_x (zX_out (fun x hx => nomatch hx) (kx ah9 q9 h9 (by
        rcases e9 with e9 | ⟨h8_, e9, e8⟩
        · rw [pLit_1] at e9; rw [pRT, if_neg e1]; simp only [pPair, pB, a2, b2, e9]
        · rw [pLit_1] at e9; rw [pRT, if_neg e1]; simp only [pPair, pB, a2, b2, e9, e8]) ((f1.tr f2).tr f9) x9)))
    rw [pLit_1] at a3
    have T3 := T2.fp P2 f3
    have hh3 : 0 ≤ h3 ∧ h3 ≤ tn := by omega
    refine zr_istore_n dX13_trailOrTour_59 (by decide) (zs4_2 rfl ?_)
    refine zr_new (fs := [.null]) dX13_trailOrTour_60 nX15 q1923 q1924 q136 (z_ble rfl) dfX15 (by omega) (by omega) (fun c9 hcc => ?_)
    refine zr_dup dX13_trailOrTour_63 rfl ?_
    refine zr_iload_n dX13_trailOrTour_64 rfl ?_
    refine zr_iload_n dX13_trailOrTour_65 rfl ?_
    refine zln18 rfl rfl dX13_trailOrTour_66 rfl (by omega) (by omega) (by omega) (fun b9 hb9 => ?_)
    have nbc : b9 ≠ c9 := fun z => by rw [z, z_up_s] at hb9; cases hb9
    refine zc_i1 rfl rfl rfl dX13_trailOrTour_71 hX15_init gX15_init rfl rfl 1 0 0 (by omega) (Nat.zero_le _) (Nat.zero_le _) q1928 q1929 ?_
    refine kX15_init (z_upk hb9 z_up_s) (by omega) (zK_v ?_)
    refine zr_areturn dX13_trailOrTour_74 rfl rfl rfl ?_
    have gF := (((zGr.up (o := .inl (12, [.null])) hcc).tr (zGr.up (o := .inl (1018, [.int (zi (v2)), .int (zi (v3))])) hb9)).tu (o := .inl (12, [.ref b9])) hcc)
    exact k _ c9 (111, v2, v3, 0) _ (by rw [pRT, if_neg e1]; simp only [pPair, pB, a2, b2, a3, b3]) ⟨by show 0 ≤ v2 ∧ v2 ≤ 999; omega, by show 0 ≤ v3 ∧ v3 ≤ 999; omega, by show 0 ≤ 0 ∧ 0 ≤ 999; omega, Or.inr (Or.inr (Or.inr (Or.inl rfl)))⟩ (by omega) (((f1.tr f2).tr f3).tr gF.fp) (gF _ _ P3) ⟨_, z_up_s, Or.inr (Or.inr (Or.inl ⟨rfl, ((z_up_n nbc).trans z_up_s)⟩))⟩
theorem kX13_cutOrCharge {G : State} {d rc rs : Nat} {ah : zH} {Q : zRs → zH → Prop} {p gd tx : Nat} {tp : Int → Int} {tn h : Int} (P : zPz ah p gd h) (Tt : zTt ah gd tx tp tn) (hh : 0 ≤ h ∧ h ≤ tn) (hd : 40 ≤ d) (hc : 40 ≤ rc) (hs9 : 300 ≤ rs) (k : ∀ ah9 c9 X9 h9, pRC tp tn h = (some X9, h9) → pC9 X9 → (h < h9 ∧ h9 ≤ tn) → zFp p ah ah9 → zPz ah9 p gd h9 → zCm G ah9 c9 X9 → Q (.inl (some (.ref c9))) ah9) (kx : ∀ ah9 q9 h9, pRC tp tn h = (none, h9) → zFp p ah ah9 → zSx ah9 q9 h9 → Q (.inr ("TrailGuide$SyntaxException", q9)) ah9) : zW G mX13_cutOrCharge d rc rs 0 (zent [.ref p]) [] ah Q := by
  refine zW_open 2 [some (.ref p), none, none] rfl ?_
  refine zW_tb (fun T => ?_)
  refine zr_aload_n dX13_cutOrCharge_0 rfl rfl ?_
  refine zr_bipush dX13_cutOrCharge_1 rfl ?_
  refine zc_v1 dX13_cutOrCharge_3 hX13_accept gX13_accept rfl rfl 2 0 0 (by omega) (Nat.zero_le _) (Nat.zero_le _) q1905 q1907 sp32 P.rc ?_
  refine kX13_accept (c := 117) P Tt hh (by decide) (by omega) (fun e1 ah1 f1 P1 => zK_i ?_) (fun e1 ah1 f1 P1 => zK_i ?_)
  · have T1 := Tt.fp P f1
    refine zr_ifeq dX13_cutOrCharge_6 (tgt := 38) (by decide) (by decide) (fun h => absurd h (by decide)) (fun _ => ?_)
    have hh1 : 0 ≤ h + 1 ∧ h + 1 ≤ tn := by have := pSg_l e1 (by decide); omega
    refine zr_aload_n dX13_cutOrCharge_9 rfl rfl ?_
    refine zr_ldcS dX13_cutOrCharge_10 (z_litP115 T).1 ?_
    refine zc_v1 dX13_cutOrCharge_12 hX13_numberAfter gX13_numberAfter rfl rfl 12 9 63 (by omega) (by omega) (by omega) q1885 q1887 sp30 P1.rc ?_
    refine kX13_numberAfter P1 T1 hh1 (z_litP115 T).2 ⟨by decide, by decide⟩ (by decide) (by omega) (by omega) (by omega) (fun ah2 v2 i2 h2 a2 b2 w2 y2 f2 P2 => zK_i ?_) (fun ah9 q9 h9 e9 f9 x9 => zK_x (zX_out (fun x hx => nomatch hx) (kx ah9 q9 h9 (by
        rcases e9 with e9 | ⟨h8_, e9, e8⟩
        · rw [pRC, if_pos e1]; simp only [pPair, pB, e9]
        · rw [pRC, if_pos e1]; simp only [pPair, pB, e9, e8]) (f1.tr f9) x9)))
    have T2 := T1.fp P1 f2
    have hh2 : 0 ≤ h2 ∧ h2 ≤ tn := by omega
    refine zr_istore_n dX13_cutOrCharge_15 (by decide) (zs3_1 rfl ?_)
    refine zr_aload_n dX13_cutOrCharge_16 rfl rfl ?_
    refine zr_ldcS dX13_cutOrCharge_17 (z_litP103 T).1 ?_
    refine zc_v1 dX13_cutOrCharge_19 hX13_numberAfter gX13_numberAfter rfl rfl 12 9 63 (by omega) (by omega) (by omega) q1885 q1887 sp30 P2.rc ?_
    refine kX13_numberAfter P2 T2 hh2 (z_litP103 T).2 ⟨by decide, by decide⟩ (by decide) (by omega) (by omega) (by omega) (fun ah3 v3 i3 h3 a3 b3 w3 y3 f3 P3 => zK_i ?_) (fun ah9 q9 h9 e9 f9 x9 => zK_x (zX_out (fun x hx => nomatch hx) (kx ah9 q9 h9 (by
        rcases e9 with e9 | ⟨h8_, e9, e8⟩
        · rw [pLit_1] at e9; rw [pRC, if_pos e1]; simp only [pPair, pB, a2, b2, e9]
        · rw [pLit_1] at e9; rw [pRC, if_pos e1]; simp only [pPair, pB, a2, b2, e9, e8]) ((f1.tr f2).tr f9) x9)))
    rw [pLit_1] at a3
    have T3 := T2.fp P2 f3
    have hh3 : 0 ≤ h3 ∧ h3 ≤ tn := by omega
    refine zr_istore_n dX13_cutOrCharge_22 (by decide) (zs3_2 rfl ?_)
    refine zr_new (fs := [.null]) dX13_cutOrCharge_23 nX15 q1923 q1924 q136 (z_ble rfl) dfX15 (by omega) (by omega) (fun c9 hcc => ?_)
    refine zr_dup dX13_cutOrCharge_26 rfl ?_
    refine zr_iload_n dX13_cutOrCharge_27 rfl ?_
    refine zr_iload_n dX13_cutOrCharge_28 rfl ?_
    refine zln19 rfl rfl dX13_cutOrCharge_29 rfl (by omega) (by omega) (by omega) (fun b9 hb9 => ?_)
    have nbc : b9 ≠ c9 := fun z => by rw [z, z_up_s] at hb9; cases hb9
    refine zc_i1 rfl rfl rfl dX13_cutOrCharge_34 hX15_init gX15_init rfl rfl 1 0 0 (by omega) (Nat.zero_le _) (Nat.zero_le _) q1928 q1929 ?_
    refine kX15_init (z_upk hb9 z_up_s) (by omega) (zK_v ?_)
    refine zr_areturn dX13_cutOrCharge_37 rfl rfl rfl ?_
    have gF := (((zGr.up (o := .inl (12, [.null])) hcc).tr (zGr.up (o := .inl (1019, [.int (zi (v2)), .int (zi (v3))])) hb9)).tu (o := .inl (12, [.ref b9])) hcc)
    exact k _ c9 (99, v2, v3, 0) _ (by rw [pRC, if_pos e1]; simp only [pPair, pB, a2, b2, a3, b3]) ⟨by show 0 ≤ v2 ∧ v2 ≤ 999; omega, by show 0 ≤ v3 ∧ v3 ≤ 999; omega, by show 0 ≤ 0 ∧ 0 ≤ 999; omega, Or.inr (Or.inr (Or.inl rfl))⟩ (by omega) (((f1.tr f2).tr f3).tr gF.fp) (gF _ _ P3) ⟨_, z_up_s, Or.inr (Or.inr (Or.inr (Or.inl ⟨rfl, ((z_up_n nbc).trans z_up_s)⟩)))⟩
  · have T1 := Tt.fp P f1
    refine zr_ifeq dX13_cutOrCharge_6 (tgt := 38) (by decide) (by decide) (fun _ => ?_) (fun h => absurd h (by decide))
    refine zr_aload_n dX13_cutOrCharge_38 rfl rfl ?_
    refine zr_ldcS dX13_cutOrCharge_39 (z_litP118 T).1 ?_
    refine zc_v1 dX13_cutOrCharge_41 hX13_numberAfter gX13_numberAfter rfl rfl 12 9 63 (by omega) (by omega) (by omega) q1885 q1887 sp30 P1.rc ?_
    refine kX13_numberAfter P1 T1 hh (z_litP118 T).2 ⟨by decide, by decide⟩ (by decide) (by omega) (by omega) (by omega) (fun ah2 v2 i2 h2 a2 b2 w2 y2 f2 P2 => zK_i ?_) (fun ah9 q9 h9 e9 f9 x9 => zK_x (zX_out (fun x hx => nomatch hx) (kx ah9 q9 h9 (by
        rcases e9 with e9 | ⟨h8_, e9, e8⟩
        · rw [pRC, if_neg e1]; simp only [pPair, pB, e9]
        · rw [pRC, if_neg e1]; simp only [pPair, pB, e9, e8]) (f1.tr f9) x9)))
    have T2 := T1.fp P1 f2
    have hh2 : 0 ≤ h2 ∧ h2 ≤ tn := by omega
    refine zr_istore_n dX13_cutOrCharge_44 (by decide) (zs3_1 rfl ?_)
    refine zr_new (fs := [.null]) dX13_cutOrCharge_45 nX15 q1923 q1924 q136 (z_ble rfl) dfX15 (by omega) (by omega) (fun c9 hcc => ?_)
    refine zr_dup dX13_cutOrCharge_48 rfl ?_
    refine zr_iload_n dX13_cutOrCharge_49 rfl ?_
    refine zln20 rfl rfl dX13_cutOrCharge_50 rfl (by omega) (by omega) (by omega) (fun b9 hb9 => ?_)
    have nbc : b9 ≠ c9 := fun z => by rw [z, z_up_s] at hb9; cases hb9
    refine zc_i1 rfl rfl rfl dX13_cutOrCharge_55 hX15_init gX15_init rfl rfl 1 0 0 (by omega) (Nat.zero_le _) (Nat.zero_le _) q1928 q1929 ?_
    refine kX15_init (z_upk hb9 z_up_s) (by omega) (zK_v ?_)
    refine zr_areturn dX13_cutOrCharge_58 rfl rfl rfl ?_
    have gF := (((zGr.up (o := .inl (12, [.null])) hcc).tr (zGr.up (o := .inl (1020, [.int (zi (v2))])) hb9)).tu (o := .inl (12, [.ref b9])) hcc)
    exact k _ c9 (104, v2, 0, 0) _ (by rw [pRC, if_neg e1]; simp only [pPair, pB, a2, b2]) ⟨by show 0 ≤ v2 ∧ v2 ≤ 999; omega, by show 0 ≤ 0 ∧ 0 ≤ 999; omega, by show 0 ≤ 0 ∧ 0 ≤ 999; omega, Or.inr (Or.inr (Or.inr (Or.inr (Or.inr (Or.inr (Or.inl rfl))))))⟩ (by omega) ((f1.tr f2).tr gF.fp) (gF _ _ P2) ⟨_, z_up_s, Or.inr (Or.inr (Or.inr (Or.inr (Or.inl ⟨rfl, ((z_up_n nbc).trans z_up_s)⟩))))⟩
theorem kX13_modeOrMove {G : State} {d rc rs : Nat} {ah : zH} {Q : zRs → zH → Prop} {p gd tx : Nat} {tp : Int → Int} {tn h : Int} (P : zPz ah p gd h) (Tt : zTt ah gd tx tp tn) (hh : 0 ≤ h ∧ h ≤ tn) (hd : 40 ≤ d) (hc : 40 ≤ rc) (hs9 : 300 ≤ rs) (k : ∀ ah9 c9 X9 h9, pRM tp tn h = (some X9, h9) → pC9 X9 → (h < h9 ∧ h9 ≤ tn) → zFp p ah ah9 → zPz ah9 p gd h9 → zCm G ah9 c9 X9 → Q (.inl (some (.ref c9))) ah9) (kx : ∀ ah9 q9 h9, pRM tp tn h = (none, h9) → zFp p ah ah9 → zSx ah9 q9 h9 → Q (.inr ("TrailGuide$SyntaxException", q9)) ah9) : zW G mX13_modeOrMove d rc rs 0 (zent [.ref p]) [] ah Q := by
  refine zW_open 2 [some (.ref p), none, none] rfl ?_
  refine zW_tb (fun T => ?_)
  refine zr_aload_n dX13_modeOrMove_0 rfl rfl ?_
  refine zr_ldcS dX13_modeOrMove_1 (z_litP123 T).1 ?_
  refine zc_v1 dX13_modeOrMove_3 hX13_expect gX13_expect rfl rfl 7 6 42 (by omega) (by omega) (by omega) q1889 q1891 sp31 P.rc ?_
  refine kX13_expect P Tt hh (z_litP123 T).2 ⟨by decide, by decide⟩ (by decide) (by omega) (by omega) (by omega) (fun ah1 h1 a1 f1 P1 => zK_v ?_) (fun ah9 q9 h9 e9 f9 x9 => zK_x (zX_out (fun x hx => nomatch hx) (kx ah9 q9 h9 (by rw [pLit_1] at e9; unfold pRM; simp only [pPair, pB, e9]) f9 x9)))
  have hg1 := pLit_g a1 (by decide) hh
  have hm1 := pLit_s a1 (by decide) (by decide)
  rw [pLit_1] at a1
  have T1 := Tt.fp P f1
  have hh1 : 0 ≤ h1 ∧ h1 ≤ tn := hg1
  refine zr_aload_n dX13_modeOrMove_6 rfl rfl ?_
  refine zr_bipush dX13_modeOrMove_7 rfl ?_
  refine zc_v1 dX13_modeOrMove_9 hX13_accept gX13_accept rfl rfl 2 0 0 (by omega) (Nat.zero_le _) (Nat.zero_le _) q1905 q1907 sp32 P1.rc ?_
  refine kX13_accept (c := 100) P1 T1 hh1 (by decide) (by omega) (fun e2 ah2 f2 P2 => zK_i ?_) (fun e2 ah2 f2 P2 => zK_i ?_)
  · have T2 := T1.fp P1 f2
    refine zr_ifeq dX13_modeOrMove_12 (tgt := 40) (by decide) (by decide) (fun h => absurd h (by decide)) (fun _ => ?_)
    have hh2 : 0 ≤ h1 + 1 ∧ h1 + 1 ≤ tn := by have := pSg_l e2 (by decide); omega
    refine zr_aload_n dX13_modeOrMove_15 rfl rfl ?_
    refine zr_ldcS dX13_modeOrMove_16 (z_litP125 T).1 ?_
    refine zc_v1 dX13_modeOrMove_18 hX13_expect gX13_expect rfl rfl 7 6 42 (by omega) (by omega) (by omega) q1889 q1891 sp31 P2.rc ?_
    refine kX13_expect P2 T2 hh2 (z_litP125 T).2 ⟨by decide, by decide⟩ (by decide) (by omega) (by omega) (by omega) (fun ah3 h3 a3 f3 P3 => zK_v ?_) (fun ah9 q9 h9 e9 f9 x9 => zK_x (zX_out (fun x hx => nomatch hx) (kx ah9 q9 h9 (by unfold pRM; simp only [pB, a1]; rw [if_pos e2]; simp only [pPair, pB, e9]) ((f1.tr f2).tr f9) x9)))
    have hg3 := pLit_g a3 (by decide) hh2
    have hm3 := pLit_s a3 (by decide) (by decide)
    have T3 := T2.fp P2 f3
    have hh3 : 0 ≤ h3 ∧ h3 ≤ tn := hg3
    refine zr_aload_n dX13_modeOrMove_21 rfl rfl ?_
    refine zc_v0 dX13_modeOrMove_22 hX13_mode gX13_mode rfl rfl 8 2 10 (by omega) (by omega) (by omega) q1970 q1972 sp39 P3.rc ?_
    refine kX13_mode P3 T3 hh3 (by omega) (by omega) (by omega) (fun ah4 v4 h4 a4 f4 P4 => zK_i ?_) (fun ah9 q9 h9 e9 f9 x9 => zK_x (zX_out (fun x hx => nomatch hx) (kx ah9 q9 h9 (by unfold pRM; simp only [pB, a1]; rw [if_pos e2]; simp only [pPair, pB, a3, e9]) (((f1.tr f2).tr f3).tr f9) x9)))
    have w4 := pMo_b a4
    have T4 := T3.fp P3 f4
    refine zr_istore_n dX13_modeOrMove_25 (by decide) (zs3_1 rfl ?_)
    refine zr_new (fs := [.null]) dX13_modeOrMove_26 nX15 q1923 q1924 q136 (z_ble rfl) dfX15 (by omega) (by omega) (fun c9 hcc => ?_)
    refine zr_dup dX13_modeOrMove_29 rfl ?_
    refine zr_iload_n dX13_modeOrMove_30 rfl ?_
    refine zln21 rfl rfl dX13_modeOrMove_31 rfl (by omega) (by omega) (by omega) (fun b9 hb9 => ?_)
    have nbc : b9 ≠ c9 := fun z => by rw [z, z_up_s] at hb9; cases hb9
    refine zc_i1 rfl rfl rfl dX13_modeOrMove_36 hX15_init gX15_init rfl rfl 1 0 0 (by omega) (Nat.zero_le _) (Nat.zero_le _) q1928 q1929 ?_
    refine kX15_init (z_upk hb9 z_up_s) (by omega) (zK_v ?_)
    refine zr_areturn dX13_modeOrMove_39 rfl rfl rfl ?_
    have gF := (((zGr.up (o := .inl (12, [.null])) hcc).tr (zGr.up (o := .inl (1021, [.int (zi (v4))])) hb9)).tu (o := .inl (12, [.ref b9])) hcc)
    exact k _ c9 (109, v4, 0, 0) _ (by unfold pRM; simp only [pB, a1]; rw [if_pos e2]; simp only [pPair, pB, a3, a4]) ⟨by show 0 ≤ v4 ∧ v4 ≤ 999; omega, by show 0 ≤ 0 ∧ 0 ≤ 999; omega, by show 0 ≤ 0 ∧ 0 ≤ 999; omega, Or.inr (Or.inr (Or.inr (Or.inr (Or.inl rfl))))⟩ (by omega) ((((f1.tr f2).tr f3).tr f4).tr gF.fp) (gF _ _ P4) ⟨_, z_up_s, Or.inr (Or.inr (Or.inr (Or.inr (Or.inr (Or.inl ⟨rfl, ((z_up_n nbc).trans z_up_s)⟩)))))⟩
  · have T2 := T1.fp P1 f2
    refine zr_ifeq dX13_modeOrMove_12 (tgt := 40) (by decide) (by decide) (fun _ => ?_) (fun h => absurd h (by decide))
    refine zr_aload_n dX13_modeOrMove_40 rfl rfl ?_
    refine zr_ldcS dX13_modeOrMove_41 (z_litP131 T).1 ?_
    refine zc_v1 dX13_modeOrMove_43 hX13_numberAfter gX13_numberAfter rfl rfl 12 9 63 (by omega) (by omega) (by omega) q1885 q1887 sp30 P2.rc ?_
    refine kX13_numberAfter P2 T2 hh1 (z_litP131 T).2 ⟨by decide, by decide⟩ (by decide) (by omega) (by omega) (by omega) (fun ah3 v3 i3 h3 a3 b3 w3 y3 f3 P3 => zK_i ?_) (fun ah9 q9 h9 e9 f9 x9 => zK_x (zX_out (fun x hx => nomatch hx) (kx ah9 q9 h9 (by
        rcases e9 with e9 | ⟨h8_, e9, e8⟩
        · unfold pRM; simp only [pB, a1]; rw [if_neg e2]; simp only [pPair, pB, e9]
        · unfold pRM; simp only [pB, a1]; rw [if_neg e2]; simp only [pPair, pB, e9, e8]) ((f1.tr f2).tr f9) x9)))
    have T3 := T2.fp P2 f3
    have hh3 : 0 ≤ h3 ∧ h3 ≤ tn := by omega
    refine zr_istore_n dX13_modeOrMove_46 (by decide) (zs3_1 rfl ?_)
    refine zr_aload_n dX13_modeOrMove_47 rfl rfl ?_
    refine zr_ldcS dX13_modeOrMove_48 (z_litP90 T).1 ?_
    refine zc_v1 dX13_modeOrMove_50 hX13_numberAfter gX13_numberAfter rfl rfl 12 9 63 (by omega) (by omega) (by omega) q1885 q1887 sp30 P3.rc ?_
    refine kX13_numberAfter P3 T3 hh3 (z_litP90 T).2 ⟨by decide, by decide⟩ (by decide) (by omega) (by omega) (by omega) (fun ah4 v4 i4 h4 a4 b4 w4 y4 f4 P4 => zK_i ?_) (fun ah9 q9 h9 e9 f9 x9 => zK_x (zX_out (fun x hx => nomatch hx) (kx ah9 q9 h9 (by
        rcases e9 with e9 | ⟨h8_, e9, e8⟩
        · rw [pLit_1] at e9; unfold pRM; simp only [pB, a1]; rw [if_neg e2]; simp only [pPair, pB, a3, b3, e9]
        · rw [pLit_1] at e9; unfold pRM; simp only [pB, a1]; rw [if_neg e2]; simp only [pPair, pB, a3, b3, e9, e8]) (((f1.tr f2).tr f3).tr f9) x9)))
    rw [pLit_1] at a4
    have T4 := T3.fp P3 f4
    have hh4 : 0 ≤ h4 ∧ h4 ≤ tn := by omega
    refine zr_istore_n dX13_modeOrMove_53 (by decide) (zs3_2 rfl ?_)
    refine zr_new (fs := [.null]) dX13_modeOrMove_54 nX15 q1923 q1924 q136 (z_ble rfl) dfX15 (by omega) (by omega) (fun c9 hcc => ?_)
    refine zr_dup dX13_modeOrMove_57 rfl ?_
    refine zr_iload_n dX13_modeOrMove_58 rfl ?_
    refine zr_iload_n dX13_modeOrMove_59 rfl ?_
    refine zln22 rfl rfl dX13_modeOrMove_60 rfl (by omega) (by omega) (by omega) (fun b9 hb9 => ?_)
    have nbc : b9 ≠ c9 := fun z => by rw [z, z_up_s] at hb9; cases hb9
    refine zc_i1 rfl rfl rfl dX13_modeOrMove_65 hX15_init gX15_init rfl rfl 1 0 0 (by omega) (Nat.zero_le _) (Nat.zero_le _) q1928 q1929 ?_
    refine kX15_init (z_upk hb9 z_up_s) (by omega) (zK_v ?_)
    refine zr_areturn dX13_modeOrMove_68 rfl rfl rfl ?_
    have gF := (((zGr.up (o := .inl (12, [.null])) hcc).tr (zGr.up (o := .inl (1022, [.int (zi (v3)), .int (zi (v4))])) hb9)).tu (o := .inl (12, [.ref b9])) hcc)
    exact k _ c9 (118, v3, v4, 0) _ (by unfold pRM; simp only [pB, a1]; rw [if_neg e2]; simp only [pPair, pB, a3, b3, a4, b4]) ⟨by show 0 ≤ v3 ∧ v3 ≤ 999; omega, by show 0 ≤ v4 ∧ v4 ≤ 999; omega, by show 0 ≤ 0 ∧ 0 ≤ 999; omega, Or.inr (Or.inr (Or.inr (Or.inr (Or.inr (Or.inr (Or.inr (Or.inl rfl)))))))⟩ (by omega) ((((f1.tr f2).tr f3).tr f4).tr gF.fp) (gF _ _ P4) ⟨_, z_up_s, Or.inr (Or.inr (Or.inr (Or.inr (Or.inr (Or.inr (Or.inl ⟨rfl, ((z_up_n nbc).trans z_up_s)⟩))))))⟩
theorem kX13_limited {G : State} {d rc rs : Nat} {ah : zH} {Q : zRs → zH → Prop} {p gd tx : Nat} {tp : Int → Int} {tn h : Int} (P : zPz ah p gd h) (Tt : zTt ah gd tx tp tn) (hh : 0 ≤ h ∧ h ≤ tn) (hd : 40 ≤ d) (hc : 40 ≤ rc) (hs9 : 300 ≤ rs) (k : ∀ ah9 c9 X9 h9, pRL tp tn h = (some X9, h9) → pC9 X9 → (h < h9 ∧ h9 ≤ tn) → zFp p ah ah9 → zPz ah9 p gd h9 → zCm G ah9 c9 X9 → Q (.inl (some (.ref c9))) ah9) (kx : ∀ ah9 q9 h9, pRL tp tn h = (none, h9) → zFp p ah ah9 → zSx ah9 q9 h9 → Q (.inr ("TrailGuide$SyntaxException", q9)) ah9) : zW G mX13_limited d rc rs 0 (zent [.ref p]) [] ah Q := by
  refine zW_open 1 [some (.ref p), none] rfl ?_
  refine zW_tb (fun T => ?_)
  refine zr_aload_n dX13_limited_0 rfl rfl ?_
  refine zr_ldcS dX13_limited_1 (z_litP134 T).1 ?_
  refine zc_v1 dX13_limited_3 hX13_numberAfter gX13_numberAfter rfl rfl 12 9 63 (by omega) (by omega) (by omega) q1885 q1887 sp30 P.rc ?_
  refine kX13_numberAfter P Tt hh (z_litP134 T).2 ⟨by decide, by decide⟩ (by decide) (by omega) (by omega) (by omega) (fun ah1 v1 i1 h1 a1 b1 w1 y1 f1 P1 => zK_i ?_) (fun ah9 q9 h9 e9 f9 x9 => zK_x (zX_out (fun x hx => nomatch hx) (kx ah9 q9 h9 (by
      rcases e9 with e9 | ⟨h8_, e9, e8⟩
      · unfold pRL; simp only [pPair, pB, e9]
      · unfold pRL; simp only [pPair, pB, e9, e8]) f9 x9)))
  have T1 := Tt.fp P f1
  have hh1 : 0 ≤ h1 ∧ h1 ≤ tn := by omega
  refine zr_istore_n dX13_limited_6 (by decide) (zs2_1 rfl ?_)
  refine zr_new (fs := [.null]) dX13_limited_7 nX15 q1923 q1924 q136 (z_ble rfl) dfX15 (by omega) (by omega) (fun c9 hcc => ?_)
  refine zr_dup dX13_limited_10 rfl ?_
  refine zr_iload_n dX13_limited_11 rfl ?_
  refine zln23 rfl rfl dX13_limited_12 rfl (by omega) (by omega) (by omega) (fun b9 hb9 => ?_)
  have nbc : b9 ≠ c9 := fun z => by rw [z, z_up_s] at hb9; cases hb9
  refine zc_i1 rfl rfl rfl dX13_limited_17 hX15_init gX15_init rfl rfl 1 0 0 (by omega) (Nat.zero_le _) (Nat.zero_le _) q1928 q1929 ?_
  refine kX15_init (z_upk hb9 z_up_s) (by omega) (zK_v ?_)
  refine zr_areturn dX13_limited_20 rfl rfl rfl ?_
  have gF := (((zGr.up (o := .inl (12, [.null])) hcc).tr (zGr.up (o := .inl (1023, [.int (zi (v1))])) hb9)).tu (o := .inl (12, [.ref b9])) hcc)
  exact k _ c9 (108, v1, 0, 0) _ (by unfold pRL; simp only [pPair, pB, a1, b1]) ⟨by show 0 ≤ v1 ∧ v1 ≤ 999; omega, by show 0 ≤ 0 ∧ 0 ≤ 999; omega, by show 0 ≤ 0 ∧ 0 ≤ 999; omega, Or.inr (Or.inr (Or.inr (Or.inr (Or.inr (Or.inl rfl)))))⟩ (by omega) (f1.tr gF.fp) (gF _ _ P1) ⟨_, z_up_s, Or.inr (Or.inr (Or.inr (Or.inr (Or.inr (Or.inr (Or.inr (Or.inl ⟨rfl, ((z_up_n nbc).trans z_up_s)⟩)))))))⟩
theorem kX13_stopped {G : State} {d rc rs : Nat} {ah : zH} {Q : zRs → zH → Prop} {p gd tx : Nat} {tp : Int → Int} {tn h : Int} (P : zPz ah p gd h) (Tt : zTt ah gd tx tp tn) (hh : 0 ≤ h ∧ h ≤ tn) (hd : 40 ≤ d) (hc : 40 ≤ rc) (hs9 : 300 ≤ rs) (k : ∀ ah9 c9 X9 h9, pRS tp tn h = (some X9, h9) → pC9 X9 → (h < h9 ∧ h9 ≤ tn) → zFp p ah ah9 → zPz ah9 p gd h9 → zCm G ah9 c9 X9 → Q (.inl (some (.ref c9))) ah9) (kx : ∀ ah9 q9 h9, pRS tp tn h = (none, h9) → zFp p ah ah9 → zSx ah9 q9 h9 → Q (.inr ("TrailGuide$SyntaxException", q9)) ah9) : zW G mX13_stopped d rc rs 0 (zent [.ref p]) [] ah Q := by
  refine zW_open 0 [some (.ref p)] rfl ?_
  refine zW_tb (fun T => ?_)
  refine zr_aload_n dX13_stopped_0 rfl rfl ?_
  refine zr_ldcS dX13_stopped_1 (z_litP137 T).1 ?_
  refine zc_v1 dX13_stopped_3 hX13_expect gX13_expect rfl rfl 7 6 42 (by omega) (by omega) (by omega) q1889 q1891 sp31 P.rc ?_
  refine kX13_expect P Tt hh (z_litP137 T).2 ⟨by decide, by decide⟩ (by decide) (by omega) (by omega) (by omega) (fun ah1 h1 a1 f1 P1 => zK_v ?_) (fun ah9 q9 h9 e9 f9 x9 => zK_x (zX_out (fun x hx => nomatch hx) (kx ah9 q9 h9 (by unfold pRS; simp only [pPair, pB, e9]) f9 x9)))
  have hg1 := pLit_g a1 (by decide) hh
  have hm1 := pLit_s a1 (by decide) (by decide)
  have T1 := Tt.fp P f1
  have hh1 : 0 ≤ h1 ∧ h1 ≤ tn := hg1
  refine zr_new (fs := [.null]) dX13_stopped_6 nX15 q1923 q1924 q136 (z_ble rfl) dfX15 (by omega) (by omega) (fun c9 hcc => ?_)
  refine zr_dup dX13_stopped_9 rfl ?_
  refine zln24 rfl rfl dX13_stopped_10 rfl (by omega) ?_
  refine zc_i1 rfl rfl rfl dX13_stopped_15 hX15_init gX15_init rfl rfl 1 0 0 (by omega) (Nat.zero_le _) (Nat.zero_le _) q1928 q1929 ?_
  refine kX15_init z_up_s (by omega) (zK_v ?_)
  refine zr_areturn dX13_stopped_18 rfl rfl rfl ?_
  have gF := ((zGr.up (o := .inl (12, [.null])) hcc).tu (o := .inl (12, [.ref (zLa G 24)])) hcc)
  exact k _ c9 (115, 0, 0, 0) _ (by unfold pRS; simp only [pPair, pB, a1]) ⟨by show 0 ≤ 0 ∧ 0 ≤ 999; omega, by show 0 ≤ 0 ∧ 0 ≤ 999; omega, by show 0 ≤ 0 ∧ 0 ≤ 999; omega, Or.inr (Or.inr (Or.inr (Or.inr (Or.inr (Or.inr (Or.inr (Or.inr rfl)))))))⟩ (by omega) (f1.tr gF.fp) (gF _ _ P1) ⟨_, z_up_s, Or.inr (Or.inr (Or.inr (Or.inr (Or.inr (Or.inr (Or.inr (Or.inr (⟨rfl, rfl⟩))))))))⟩
