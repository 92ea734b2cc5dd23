set_option maxRecDepth 100000
/-! ===== the reference: commands read ===== -/
theorem pCh_t {t : Int → Int} {n c h h' : Int} {u : Unit} (e : pCh t n c h = (some u, h')) : pSg t n h = c := by
  unfold pCh at e
  split at e
  · assumption
  · cases e
theorem pCh_f {t : Int → Int} {n c h h' : Int} (e : pCh t n c h = (none, h')) : ¬ pSg t n h = c := by
  unfold pCh at e
  split at e
  · cases e
  · assumption
theorem kX4_isMode {G : State} {d rc rs : Nat} {ah : zH} {A : Nat → Nat} {S : zMS} {Q : zRs → zH → Prop} {a : Int} (hA : zMi A) (hd : 4 ≤ d) {h m : Int} {c : Int → Int} (hT : pTp (S.1 13) (S.2 15)) (hh : 0 ≤ h ∧ h ≤ S.2 15) (ha : 0 ≤ a ∧ a < 124) (k1 : ∀ v h9, pMo (S.1 13) (S.2 15) h = (some v, h9) → ((0 ≤ v ∧ v ≤ 2) ∧ h < h9 ∧ h9 ≤ S.2 15) → Q (.inl (some (.int (zi 1)))) (zMh ah A (pPs S h9 (z_upF c a v) m))) (k0 : pMo (S.1 13) (S.2 15) h = (none, h) → Q (.inl (some (.int (zi 0)))) (zMh ah A (pPs S h c m))) : zW G mX4_isMode d rc rs 0 (zent [.ref (A 18), .int (zi a)]) [] (zMh ah A (pPs S h c m)) Q := by
  refine zW_open 1 [some (.ref (A 18)), some (.int (zi a)), none] rfl ?_
  refine zW_tb (fun T => ?_)
  have hx : zTx G (zMh ah A (pPs S h c m)) (zad G (.string "TrailGuideModel" 211)) [101, 110, 102] := Or.inl (z_litM211 T).2
  have h8 : zL8 [101, 110, 102] := ⟨by decide, by decide⟩
  refine zr_iconst dX4_isMode_0 ?_
  refine zr_istore_n dX4_isMode_1 (by decide) (zs3_2 rfl ?_)
  refine zr_iload_n dX4_isMode_2 rfl ?_
  refine zr_iconst dX4_isMode_3 ?_
  refine zr_icmpge dX4_isMode_4 (tgt := 35) (by decide) (by decide) (by decide) (fun h => absurd h (by decide)) (fun _ => ?_)
  refine zr_aload_n dX4_isMode_7 rfl rfl ?_
  refine zr_ldcS dX4_isMode_8 (z_litM211 T).1 ?_
  refine zr_iload_n dX4_isMode_10 rfl ?_
  refine zc_v1 dX4_isMode_11 hJ7_charAt gJ7_charAt rfl rfl 3 0 0 (by omega) (Nat.zero_le _) (Nat.zero_le _) q2546 q1895 q1896 hx.rc ?_
  refine kJ7_charAt hx h8 (by decide) (by first | omega | (simp only [zuf_1, zua_s, zua_2, zuf_s, zua_e, zuf_e, Nat.reduceBEq]; omega)) (zK_i ?_)
  simp only [show ([101, 110, 102] : List Int).getD (0 : Int).toNat 0 = 101 from rfl, show ([101, 110, 102] : List Int).getD (0 + 1 : Int).toNat 0 = 110 from rfl, show ([101, 110, 102] : List Int).getD (0 + 1 + 1 : Int).toNat 0 = 102 from rfl]
  refine zc_v1 dX4_isMode_14 hX4_isSign gX4_isSign rfl rfl 1 0 0 (by omega) (Nat.zero_le _) (Nat.zero_le _) q2547 q2549 sp82 zM_rc ?_
  refine kX4_isSign hA (by first | omega | (simp only [zuf_1, zua_s, zua_2, zuf_s, zua_e, zuf_e, Nat.reduceBEq]; omega)) hT (by first | omega | (simp only [zuf_1, zua_s, zua_2, zuf_s, zua_e, zuf_e, Nat.reduceBEq]; omega)) (by decide) (fun E0 l14 => zK_i ?_) (fun E0 => zK_i ?_)
  · try simp only [zuf_1, zua_s, zua_2, zuf_s, zuf_zuf, zua_zuf, zua_zua, zua_e, zuf_e, Nat.reduceBEq, pPs_13, pPs_14, pPs_15, pPs_16, pPs_17, pPs_a, pPs_h, pPs_m]
    refine zr_ifeq dX4_isMode_17 (tgt := 29) (by decide) (by decide) (fun h => absurd h (by decide)) (fun _ => ?_)
    refine zr_aload_n dX4_isMode_20 rfl rfl ?_
    refine zm_geta 14 dX4_isMode_21 q2133 rfl ?_
    try simp only [zuf_1, zua_s, zua_2, zuf_s, zuf_zuf, zua_zuf, zua_zua, zua_e, zuf_e, Nat.reduceBEq, pPs_13, pPs_14, pPs_15, pPs_16, pPs_17, pPs_a, pPs_h, pPs_m]
    refine zr_iload_n dX4_isMode_24 rfl ?_
    refine zr_iload_n dX4_isMode_25 rfl ?_
    refine zm_store hA (by decide) dX4_isMode_26 (by constructor <;> (try simp only [zMn]) <;> omega) ?_
    try simp only [zuf_1, zua_s, zua_2, zuf_s, zuf_zuf, zua_zuf, zua_zua, zua_e, zuf_e, Nat.reduceBEq, pPs_13, pPs_14, pPs_15, pPs_16, pPs_17, pPs_a, pPs_h, pPs_m]
    refine zr_iconst dX4_isMode_27 ?_
    refine zr_ireturn dX4_isMode_28 rfl (by first | rfl | exact z_nb _) ?_
    
    exact k1 0 _ (by unfold pMo; rw [if_pos (pCh_t E0)]) (by omega)
  · try simp only [zuf_1, zua_s, zua_2, zuf_s, zuf_zuf, zua_zuf, zua_zua, zua_e, zuf_e, Nat.reduceBEq, pPs_13, pPs_14, pPs_15, pPs_16, pPs_17, pPs_a, pPs_h, pPs_m]
    refine zr_ifeq dX4_isMode_17 (tgt := 29) (by decide) (by decide) (fun _ => ?_) (fun h => absurd h (by decide))
    refine zr_iinc dX4_isMode_29 rfl (by decide) (zs3_2 rfl ?_)
    refine zr_goto dX4_isMode_32 (tgt := 2) (by decide) ?_
    refine zr_iload_n dX4_isMode_2 rfl ?_
    refine zr_iconst dX4_isMode_3 ?_
    refine zr_icmpge dX4_isMode_4 (tgt := 35) (by decide) (by decide) (by decide) (fun h => absurd h (by decide)) (fun _ => ?_)
    refine zr_aload_n dX4_isMode_7 rfl rfl ?_
    refine zr_ldcS dX4_isMode_8 (z_litM211 T).1 ?_
    refine zr_iload_n dX4_isMode_10 rfl ?_
    refine zc_v1 dX4_isMode_11 hJ7_charAt gJ7_charAt rfl rfl 3 0 0 (by omega) (Nat.zero_le _) (Nat.zero_le _) q2546 q1895 q1896 hx.rc ?_
    refine kJ7_charAt hx h8 (by decide) (by first | omega | (simp only [zuf_1, zua_s, zua_2, zuf_s, zua_e, zuf_e, Nat.reduceBEq]; omega)) (zK_i ?_)
    simp only [show ([101, 110, 102] : List Int).getD (0 : Int).toNat 0 = 101 from rfl, show ([101, 110, 102] : List Int).getD (0 + 1 : Int).toNat 0 = 110 from rfl, show ([101, 110, 102] : List Int).getD (0 + 1 + 1 : Int).toNat 0 = 102 from rfl]
    refine zc_v1 dX4_isMode_14 hX4_isSign gX4_isSign rfl rfl 1 0 0 (by omega) (Nat.zero_le _) (Nat.zero_le _) q2547 q2549 sp82 zM_rc ?_
    refine kX4_isSign hA (by first | omega | (simp only [zuf_1, zua_s, zua_2, zuf_s, zua_e, zuf_e, Nat.reduceBEq]; omega)) hT (by first | omega | (simp only [zuf_1, zua_s, zua_2, zuf_s, zua_e, zuf_e, Nat.reduceBEq]; omega)) (by decide) (fun E1 l14 => zK_i ?_) (fun E1 => zK_i ?_)
    · try simp only [zuf_1, zua_s, zua_2, zuf_s, zuf_zuf, zua_zuf, zua_zua, zua_e, zuf_e, Nat.reduceBEq, pPs_13, pPs_14, pPs_15, pPs_16, pPs_17, pPs_a, pPs_h, pPs_m]
      refine zr_ifeq dX4_isMode_17 (tgt := 29) (by decide) (by decide) (fun h => absurd h (by decide)) (fun _ => ?_)
      refine zr_aload_n dX4_isMode_20 rfl rfl ?_
      refine zm_geta 14 dX4_isMode_21 q2133 rfl ?_
      try simp only [zuf_1, zua_s, zua_2, zuf_s, zuf_zuf, zua_zuf, zua_zua, zua_e, zuf_e, Nat.reduceBEq, pPs_13, pPs_14, pPs_15, pPs_16, pPs_17, pPs_a, pPs_h, pPs_m]
      refine zr_iload_n dX4_isMode_24 rfl ?_
      refine zr_iload_n dX4_isMode_25 rfl ?_
      refine zm_store hA (by decide) dX4_isMode_26 (by constructor <;> (try simp only [zMn]) <;> omega) ?_
      try simp only [zuf_1, zua_s, zua_2, zuf_s, zuf_zuf, zua_zuf, zua_zua, zua_e, zuf_e, Nat.reduceBEq, pPs_13, pPs_14, pPs_15, pPs_16, pPs_17, pPs_a, pPs_h, pPs_m]
      refine zr_iconst dX4_isMode_27 ?_
      refine zr_ireturn dX4_isMode_28 rfl (by first | rfl | exact z_nb _) ?_
      have f0 := pCh_f E0
      exact k1 1 _ (by unfold pMo; rw [if_neg f0, if_pos (pCh_t E1)]) (by omega)
    · try simp only [zuf_1, zua_s, zua_2, zuf_s, zuf_zuf, zua_zuf, zua_zua, zua_e, zuf_e, Nat.reduceBEq, pPs_13, pPs_14, pPs_15, pPs_16, pPs_17, pPs_a, pPs_h, pPs_m]
      refine zr_ifeq dX4_isMode_17 (tgt := 29) (by decide) (by decide) (fun _ => ?_) (fun h => absurd h (by decide))
      refine zr_iinc dX4_isMode_29 rfl (by decide) (zs3_2 rfl ?_)
      refine zr_goto dX4_isMode_32 (tgt := 2) (by decide) ?_
      refine zr_iload_n dX4_isMode_2 rfl ?_
      refine zr_iconst dX4_isMode_3 ?_
      refine zr_icmpge dX4_isMode_4 (tgt := 35) (by decide) (by decide) (by decide) (fun h => absurd h (by decide)) (fun _ => ?_)
      refine zr_aload_n dX4_isMode_7 rfl rfl ?_
      refine zr_ldcS dX4_isMode_8 (z_litM211 T).1 ?_
      refine zr_iload_n dX4_isMode_10 rfl ?_
      refine zc_v1 dX4_isMode_11 hJ7_charAt gJ7_charAt rfl rfl 3 0 0 (by omega) (Nat.zero_le _) (Nat.zero_le _) q2546 q1895 q1896 hx.rc ?_
      refine kJ7_charAt hx h8 (by decide) (by first | omega | (simp only [zuf_1, zua_s, zua_2, zuf_s, zua_e, zuf_e, Nat.reduceBEq]; omega)) (zK_i ?_)
      simp only [show ([101, 110, 102] : List Int).getD (0 : Int).toNat 0 = 101 from rfl, show ([101, 110, 102] : List Int).getD (0 + 1 : Int).toNat 0 = 110 from rfl, show ([101, 110, 102] : List Int).getD (0 + 1 + 1 : Int).toNat 0 = 102 from rfl]
      refine zc_v1 dX4_isMode_14 hX4_isSign gX4_isSign rfl rfl 1 0 0 (by omega) (Nat.zero_le _) (Nat.zero_le _) q2547 q2549 sp82 zM_rc ?_
      refine kX4_isSign hA (by first | omega | (simp only [zuf_1, zua_s, zua_2, zuf_s, zua_e, zuf_e, Nat.reduceBEq]; omega)) hT (by first | omega | (simp only [zuf_1, zua_s, zua_2, zuf_s, zua_e, zuf_e, Nat.reduceBEq]; omega)) (by decide) (fun E2 l14 => zK_i ?_) (fun E2 => zK_i ?_)
      · try simp only [zuf_1, zua_s, zua_2, zuf_s, zuf_zuf, zua_zuf, zua_zua, zua_e, zuf_e, Nat.reduceBEq, pPs_13, pPs_14, pPs_15, pPs_16, pPs_17, pPs_a, pPs_h, pPs_m]
        refine zr_ifeq dX4_isMode_17 (tgt := 29) (by decide) (by decide) (fun h => absurd h (by decide)) (fun _ => ?_)
        refine zr_aload_n dX4_isMode_20 rfl rfl ?_
        refine zm_geta 14 dX4_isMode_21 q2133 rfl ?_
        try simp only [zuf_1, zua_s, zua_2, zuf_s, zuf_zuf, zua_zuf, zua_zua, zua_e, zuf_e, Nat.reduceBEq, pPs_13, pPs_14, pPs_15, pPs_16, pPs_17, pPs_a, pPs_h, pPs_m]
        refine zr_iload_n dX4_isMode_24 rfl ?_
        refine zr_iload_n dX4_isMode_25 rfl ?_
        refine zm_store hA (by decide) dX4_isMode_26 (by constructor <;> (try simp only [zMn]) <;> omega) ?_
        try simp only [zuf_1, zua_s, zua_2, zuf_s, zuf_zuf, zua_zuf, zua_zua, zua_e, zuf_e, Nat.reduceBEq, pPs_13, pPs_14, pPs_15, pPs_16, pPs_17, pPs_a, pPs_h, pPs_m]
        refine zr_iconst dX4_isMode_27 ?_
        refine zr_ireturn dX4_isMode_28 rfl (by first | rfl | exact z_nb _) ?_
        have f0 := pCh_f E0
        have f1 := pCh_f E1
        exact k1 2 _ (by unfold pMo; rw [if_neg f0, if_neg f1, if_pos (pCh_t E2)]) (by omega)
      · try simp only [zuf_1, zua_s, zua_2, zuf_s, zuf_zuf, zua_zuf, zua_zua, zua_e, zuf_e, Nat.reduceBEq, pPs_13, pPs_14, pPs_15, pPs_16, pPs_17, pPs_a, pPs_h, pPs_m]
        refine zr_ifeq dX4_isMode_17 (tgt := 29) (by decide) (by decide) (fun _ => ?_) (fun h => absurd h (by decide))
        refine zr_iinc dX4_isMode_29 rfl (by decide) (zs3_2 rfl ?_)
        refine zr_goto dX4_isMode_32 (tgt := 2) (by decide) ?_
        refine zr_iload_n dX4_isMode_2 rfl ?_
        refine zr_iconst dX4_isMode_3 ?_
        refine zr_icmpge dX4_isMode_4 (tgt := 35) (by decide) (by decide) (by decide) (fun _ => ?_) (fun h => absurd h (by decide))
        refine zr_iconst dX4_isMode_35 ?_
        refine zr_ireturn dX4_isMode_36 rfl (by first | rfl | exact z_nb _) ?_
        have f0 := pCh_f E0
        have f1 := pCh_f E1
        have f2 := pCh_f E2
        exact k0 (by unfold pMo; rw [if_neg f0, if_neg f1, if_neg f2])
theorem kX4_readsT {G : State} {d rc rs : Nat} {ah : zH} {A : Nat → Nat} {S : zMS} {Q : zRs → zH → Prop} {a : Int} (hA : zMi A) (hd : 5 ≤ d) {h m : Int} {c : Int → Int} (hT : pTp (S.1 13) (S.2 15)) (hh : 0 ≤ h ∧ h ≤ S.2 15) (ha : 0 ≤ a ∧ a + 3 < 124) (h0 : c a = 116) (k1 : ∀ X h9 c9, pRT (S.1 13) (S.2 15) h = (some X, h9) → (pC9 X ∧ pCr c9 a X ∧ ∀ j, j < a → c9 j = c j) → (0 ≤ h9 ∧ h ≤ h9 ∧ h9 ≤ S.2 15) → Q (.inl (some (.int (zi 1)))) (zMh ah A (pPs S h9 c9 m))) (k0 : ∀ h9 c9, pRT (S.1 13) (S.2 15) h = (none, h9) → (0 ≤ h9 ∧ h9 ≤ S.2 15) → Q (.inl (some (.int (zi 0)))) (zMh ah A (pPs S h9 c9 m))) : zW G mX4_readsT d rc rs 0 (zent [.ref (A 18), .int (zi a)]) [] (zMh ah A (pPs S h c m)) Q := by
  refine zW_open 0 [some (.ref (A 18)), some (.int (zi a))] rfl ?_
  refine zW_tb (fun T => ?_)
  refine zr_aload_n dX4_readsT_0 rfl rfl ?_
  refine zr_bipush dX4_readsT_1 rfl ?_
  refine zc_v1 dX4_readsT_3 hX4_isSign gX4_isSign rfl rfl 1 0 0 (by omega) (Nat.zero_le _) (Nat.zero_le _) q2547 q2549 sp82 zM_rc ?_
  refine kX4_isSign hA (by first | omega | (simp only [zuf_1, zua_s, zua_2, zuf_s, zua_e, zuf_e, Nat.reduceBEq]; omega)) hT (by first | omega | (simp only [zuf_1, zua_s, zua_2, zuf_s, zua_e, zuf_e, Nat.reduceBEq]; omega)) (by first | omega | (simp only [zuf_1, zua_s, zua_2, zuf_s, zua_e, zuf_e, Nat.reduceBEq]; omega)) (fun e3 l3 => zK_i ?_) (fun e3 => zK_i ?_)
  · try simp only [zuf_1, zua_s, zua_2, zuf_s, zuf_zuf, zua_zuf, zua_zua, zua_e, zuf_e, Nat.reduceBEq, pPs_13, pPs_14, pPs_15, pPs_16, pPs_17, pPs_a, pPs_h, pPs_m]
    refine zr_ifeq dX4_readsT_6 (tgt := 54) (by decide) (by decide) (fun h => absurd h (by decide)) (fun _ => ?_)
    refine zr_aload_n dX4_readsT_9 rfl rfl ?_
    refine zr_ldcS dX4_readsT_10 (z_litM216 T).1 ?_
    refine zc_v1 dX4_readsT_12 hX4_isWord gX4_isWord rfl rfl 4 0 0 (by omega) (Nat.zero_le _) (Nat.zero_le _) q2541 q2543 sp81 zM_rc ?_
    have hs12 := (z_litM216 T).2
    have h812 : zL8 [97, 105, 108, 32] := ⟨by decide, by decide⟩
    refine kX4_isWord hA (by first | omega | (simp only [zuf_1, zua_s, zua_2, zuf_s, zua_e, zuf_e, Nat.reduceBEq]; omega)) hT (by first | omega | (simp only [zuf_1, zua_s, zua_2, zuf_s, zua_e, zuf_e, Nat.reduceBEq]; omega)) hs12 h812 (fun p12 e12 b12 => zK_i ?_) (fun p12 e12 b12 => zK_i ?_)
    · try simp only [zuf_1, zua_s, zua_2, zuf_s, zuf_zuf, zua_zuf, zua_zua, zua_e, zuf_e, Nat.reduceBEq, pPs_13, pPs_14, pPs_15, pPs_16, pPs_17, pPs_a, pPs_h, pPs_m]
      refine zr_ifeq dX4_readsT_15 (tgt := 52) (by decide) (by decide) (fun h => absurd h (by decide)) (fun _ => ?_)
      refine zr_aload_n dX4_readsT_18 rfl rfl ?_
      refine zr_bipush dX4_readsT_19 rfl ?_
      refine zr_iload_n dX4_readsT_21 rfl ?_
      refine zc_v2 dX4_readsT_22 hX4_isPair gX4_isPair rfl rfl 2 0 0 (by omega) (Nat.zero_le _) (Nat.zero_le _) q2551 q2553 sp83 zM_rc ?_
      refine kX4_isPair hA (by first | omega | (simp only [zuf_1, zua_s, zua_2, zuf_s, zua_e, zuf_e, Nat.reduceBEq]; omega)) hT (by first | omega | (simp only [zuf_1, zua_s, zua_2, zuf_s, zua_e, zuf_e, Nat.reduceBEq]; omega)) (by first | omega | (simp only [zuf_1, zua_s, zua_2, zuf_s, zua_e, zuf_e, Nat.reduceBEq]; omega)) (by first | omega | (simp only [zuf_1, zua_s, zua_2, zuf_s, zua_e, zuf_e, Nat.reduceBEq]; omega)) (fun u22 v22 p22 e22 b22 => zK_i ?_) (fun p22 c22 e22 b22 => zK_i ?_)
      · try simp only [zuf_1, zua_s, zua_2, zuf_s, zuf_zuf, zua_zuf, zua_zua, zua_e, zuf_e, Nat.reduceBEq, pPs_13, pPs_14, pPs_15, pPs_16, pPs_17, pPs_a, pPs_h, pPs_m]
        refine zr_ifeq dX4_readsT_25 (tgt := 52) (by decide) (by decide) (fun h => absurd h (by decide)) (fun _ => ?_)
        refine zr_aload_n dX4_readsT_28 rfl rfl ?_
        refine zr_bipush dX4_readsT_29 rfl ?_
        refine zc_v1 dX4_readsT_31 hX4_isSign gX4_isSign rfl rfl 1 0 0 (by omega) (Nat.zero_le _) (Nat.zero_le _) q2547 q2549 sp82 zM_rc ?_
        refine kX4_isSign hA (by first | omega | (simp only [zuf_1, zua_s, zua_2, zuf_s, zua_e, zuf_e, Nat.reduceBEq]; omega)) hT (by first | omega | (simp only [zuf_1, zua_s, zua_2, zuf_s, zua_e, zuf_e, Nat.reduceBEq]; omega)) (by first | omega | (simp only [zuf_1, zua_s, zua_2, zuf_s, zua_e, zuf_e, Nat.reduceBEq]; omega)) (fun e31 l31 => zK_i ?_) (fun e31 => zK_i ?_)
        · try simp only [zuf_1, zua_s, zua_2, zuf_s, zuf_zuf, zua_zuf, zua_zua, zua_e, zuf_e, Nat.reduceBEq, pPs_13, pPs_14, pPs_15, pPs_16, pPs_17, pPs_a, pPs_h, pPs_m]
          refine zr_ifeq dX4_readsT_34 (tgt := 52) (by decide) (by decide) (fun h => absurd h (by decide)) (fun _ => ?_)
          refine zr_aload_n dX4_readsT_37 rfl rfl ?_
          refine zr_iconst dX4_readsT_38 ?_
          refine zr_iload_n dX4_readsT_39 rfl ?_
          refine zr_iconst dX4_readsT_40 ?_
          refine zr_iadd dX4_readsT_41 ?_
          refine zc_v2 dX4_readsT_42 hX4_isNumber gX4_isNumber rfl rfl 1 0 0 (by omega) (Nat.zero_le _) (Nat.zero_le _) q2555 q2557 sp84 zM_rc ?_
          refine kX4_isNumber (K := 3) hA (by first | omega | (simp only [zuf_1, zua_s, zua_2, zuf_s, zua_e, zuf_e, Nat.reduceBEq]; omega)) hT (by first | omega | (simp only [zuf_1, zua_s, zua_2, zuf_s, zua_e, zuf_e, Nat.reduceBEq]; omega)) (by first | omega | (simp only [zuf_1, zua_s, zua_2, zuf_s, zua_e, zuf_e, Nat.reduceBEq]; omega)) (by first | omega | (simp only [zuf_1, zua_s, zua_2, zuf_s, zua_e, zuf_e, Nat.reduceBEq]; omega)) (fun v42 p42 e42 b42 => zK_i ?_) (fun c42 e42 => zK_i ?_)
          · try simp only [zuf_1, zua_s, zua_2, zuf_s, zuf_zuf, zua_zuf, zua_zua, zua_e, zuf_e, Nat.reduceBEq, pPs_13, pPs_14, pPs_15, pPs_16, pPs_17, pPs_a, pPs_h, pPs_m]
            refine zr_ifeq dX4_readsT_45 (tgt := 52) (by decide) (by decide) (fun h => absurd h (by decide)) (fun _ => ?_)
            refine zr_iconst dX4_readsT_48 ?_
            refine zr_goto dX4_readsT_49 (tgt := 53) (by decide) ?_
            refine zr_ireturn dX4_readsT_53 rfl (by first | rfl | exact z_nb _) ?_
            exact k1 _ _ _ (by unfold pRT; rw [if_pos (pCh_t e3), pB_s e12, pB_s e22, pB_s e31, pB_s e42]) ⟨by refine ⟨⟨?_, ?_⟩, ⟨?_, ?_⟩, ⟨?_, ?_⟩, ?_⟩ <;> dsimp only <;> omega, ⟨by simp only [z_upF_s, z_upF_n (show (a : Int) ≠ a + 1 by omega), z_upF_n (show (a : Int) ≠ a + 2 by omega), z_upF_n (show (a : Int) ≠ a + 3 by omega), z_upF_n (show (a + 1 : Int) ≠ a by omega), z_upF_n (show (a + 1 : Int) ≠ a + 2 by omega), z_upF_n (show (a + 1 : Int) ≠ a + 3 by omega), z_upF_n (show (a + 2 : Int) ≠ a by omega), z_upF_n (show (a + 2 : Int) ≠ a + 1 by omega), z_upF_n (show (a + 2 : Int) ≠ a + 3 by omega), z_upF_n (show (a + 3 : Int) ≠ a by omega), z_upF_n (show (a + 3 : Int) ≠ a + 1 by omega), z_upF_n (show (a + 3 : Int) ≠ a + 2 by omega)]; (try exact h0), fun _ => by simp only [z_upF_s, z_upF_n (show (a : Int) ≠ a + 1 by omega), z_upF_n (show (a : Int) ≠ a + 2 by omega), z_upF_n (show (a : Int) ≠ a + 3 by omega), z_upF_n (show (a + 1 : Int) ≠ a by omega), z_upF_n (show (a + 1 : Int) ≠ a + 2 by omega), z_upF_n (show (a + 1 : Int) ≠ a + 3 by omega), z_upF_n (show (a + 2 : Int) ≠ a by omega), z_upF_n (show (a + 2 : Int) ≠ a + 1 by omega), z_upF_n (show (a + 2 : Int) ≠ a + 3 by omega), z_upF_n (show (a + 3 : Int) ≠ a by omega), z_upF_n (show (a + 3 : Int) ≠ a + 1 by omega), z_upF_n (show (a + 3 : Int) ≠ a + 2 by omega)], fun q => by (try dsimp only at q); first | (exfalso; omega) | simp only [z_upF_s, z_upF_n (show (a : Int) ≠ a + 1 by omega), z_upF_n (show (a : Int) ≠ a + 2 by omega), z_upF_n (show (a : Int) ≠ a + 3 by omega), z_upF_n (show (a + 1 : Int) ≠ a by omega), z_upF_n (show (a + 1 : Int) ≠ a + 2 by omega), z_upF_n (show (a + 1 : Int) ≠ a + 3 by omega), z_upF_n (show (a + 2 : Int) ≠ a by omega), z_upF_n (show (a + 2 : Int) ≠ a + 1 by omega), z_upF_n (show (a + 2 : Int) ≠ a + 3 by omega), z_upF_n (show (a + 3 : Int) ≠ a by omega), z_upF_n (show (a + 3 : Int) ≠ a + 1 by omega), z_upF_n (show (a + 3 : Int) ≠ a + 2 by omega)], fun q => by (try dsimp only at q); first | (exfalso; omega) | simp only [z_upF_s, z_upF_n (show (a : Int) ≠ a + 1 by omega), z_upF_n (show (a : Int) ≠ a + 2 by omega), z_upF_n (show (a : Int) ≠ a + 3 by omega), z_upF_n (show (a + 1 : Int) ≠ a by omega), z_upF_n (show (a + 1 : Int) ≠ a + 2 by omega), z_upF_n (show (a + 1 : Int) ≠ a + 3 by omega), z_upF_n (show (a + 2 : Int) ≠ a by omega), z_upF_n (show (a + 2 : Int) ≠ a + 1 by omega), z_upF_n (show (a + 2 : Int) ≠ a + 3 by omega), z_upF_n (show (a + 3 : Int) ≠ a by omega), z_upF_n (show (a + 3 : Int) ≠ a + 1 by omega), z_upF_n (show (a + 3 : Int) ≠ a + 2 by omega)]⟩, fun j hj => by simp only [z_upF_n (show j ≠ a + 1 by omega), z_upF_n (show j ≠ a + 2 by omega), z_upF_n (show j ≠ a + 3 by omega)]⟩ (by omega)
          · try simp only [zuf_1, zua_s, zua_2, zuf_s, zuf_zuf, zua_zuf, zua_zua, zua_e, zuf_e, Nat.reduceBEq, pPs_13, pPs_14, pPs_15, pPs_16, pPs_17, pPs_a, pPs_h, pPs_m]
            refine zr_ifeq dX4_readsT_45 (tgt := 52) (by decide) (by decide) (fun _ => ?_) (fun h => absurd h (by decide))
            refine zr_iconst dX4_readsT_52 ?_
            refine zr_ireturn dX4_readsT_53 rfl (by first | rfl | exact z_nb _) ?_
            exact k0 _ _ (by unfold pRT; rw [if_pos (pCh_t e3), pB_s e12, pB_s e22, pB_s e31]; exact pB_n e42) (by omega)
        · try simp only [zuf_1, zua_s, zua_2, zuf_s, zuf_zuf, zua_zuf, zua_zua, zua_e, zuf_e, Nat.reduceBEq, pPs_13, pPs_14, pPs_15, pPs_16, pPs_17, pPs_a, pPs_h, pPs_m]
          refine zr_ifeq dX4_readsT_34 (tgt := 52) (by decide) (by decide) (fun _ => ?_) (fun h => absurd h (by decide))
          refine zr_iconst dX4_readsT_52 ?_
          refine zr_ireturn dX4_readsT_53 rfl (by first | rfl | exact z_nb _) ?_
          exact k0 _ _ (by unfold pRT; rw [if_pos (pCh_t e3), pB_s e12, pB_s e22]; exact pB_n e31) (by omega)
      · try simp only [zuf_1, zua_s, zua_2, zuf_s, zuf_zuf, zua_zuf, zua_zua, zua_e, zuf_e, Nat.reduceBEq, pPs_13, pPs_14, pPs_15, pPs_16, pPs_17, pPs_a, pPs_h, pPs_m]
        refine zr_ifeq dX4_readsT_25 (tgt := 52) (by decide) (by decide) (fun _ => ?_) (fun h => absurd h (by decide))
        refine zr_iconst dX4_readsT_52 ?_
        refine zr_ireturn dX4_readsT_53 rfl (by first | rfl | exact z_nb _) ?_
        exact k0 _ _ (by unfold pRT; rw [if_pos (pCh_t e3), pB_s e12]; exact pB_n e22) (by omega)
    · try simp only [zuf_1, zua_s, zua_2, zuf_s, zuf_zuf, zua_zuf, zua_zua, zua_e, zuf_e, Nat.reduceBEq, pPs_13, pPs_14, pPs_15, pPs_16, pPs_17, pPs_a, pPs_h, pPs_m]
      refine zr_ifeq dX4_readsT_15 (tgt := 52) (by decide) (by decide) (fun _ => ?_) (fun h => absurd h (by decide))
      refine zr_iconst dX4_readsT_52 ?_
      refine zr_ireturn dX4_readsT_53 rfl (by first | rfl | exact z_nb _) ?_
      exact k0 _ _ (by unfold pRT; rw [if_pos (pCh_t e3)]; exact pB_n e12) (by omega)
  · try simp only [zuf_1, zua_s, zua_2, zuf_s, zuf_zuf, zua_zuf, zua_zua, zua_e, zuf_e, Nat.reduceBEq, pPs_13, pPs_14, pPs_15, pPs_16, pPs_17, pPs_a, pPs_h, pPs_m]
    refine zr_ifeq dX4_readsT_6 (tgt := 54) (by decide) (by decide) (fun _ => ?_) (fun h => absurd h (by decide))
    refine zr_aload_n dX4_readsT_54 rfl rfl ?_
    refine zm_geta 14 dX4_readsT_55 q2133 rfl ?_
    try simp only [zuf_1, zua_s, zua_2, zuf_s, zuf_zuf, zua_zuf, zua_zua, zua_e, zuf_e, Nat.reduceBEq, pPs_13, pPs_14, pPs_15, pPs_16, pPs_17, pPs_a, pPs_h, pPs_m]
    refine zr_iload_n dX4_readsT_58 rfl ?_
    refine zr_bipush dX4_readsT_59 rfl ?_
    refine zm_store hA (by decide) dX4_readsT_61 (by constructor <;> (try simp only [zMn]) <;> omega) ?_
    try simp only [zuf_1, zua_s, zua_2, zuf_s, zuf_zuf, zua_zuf, zua_zua, zua_e, zuf_e, Nat.reduceBEq, pPs_13, pPs_14, pPs_15, pPs_16, pPs_17, pPs_a, pPs_h, pPs_m]
    refine zr_aload_n dX4_readsT_62 rfl rfl ?_
    refine zr_ldcS dX4_readsT_63 (z_litM225 T).1 ?_
    refine zc_v1 dX4_readsT_65 hX4_isWord gX4_isWord rfl rfl 4 0 0 (by omega) (Nat.zero_le _) (Nat.zero_le _) q2541 q2543 sp81 zM_rc ?_
    have hs65 := (z_litM225 T).2
    have h865 : zL8 [111, 117, 114, 32] := ⟨by decide, by decide⟩
    refine kX4_isWord hA (by first | omega | (simp only [zuf_1, zua_s, zua_2, zuf_s, zua_e, zuf_e, Nat.reduceBEq]; omega)) hT (by first | omega | (simp only [zuf_1, zua_s, zua_2, zuf_s, zua_e, zuf_e, Nat.reduceBEq]; omega)) hs65 h865 (fun p65 e65 b65 => zK_i ?_) (fun p65 e65 b65 => zK_i ?_)
    · try simp only [zuf_1, zua_s, zua_2, zuf_s, zuf_zuf, zua_zuf, zua_zua, zua_e, zuf_e, Nat.reduceBEq, pPs_13, pPs_14, pPs_15, pPs_16, pPs_17, pPs_a, pPs_h, pPs_m]
      refine zr_ifeq dX4_readsT_68 (tgt := 85) (by decide) (by decide) (fun h => absurd h (by decide)) (fun _ => ?_)
      refine zr_aload_n dX4_readsT_71 rfl rfl ?_
      refine zr_bipush dX4_readsT_72 rfl ?_
      refine zr_iload_n dX4_readsT_74 rfl ?_
      refine zc_v2 dX4_readsT_75 hX4_isPair gX4_isPair rfl rfl 2 0 0 (by omega) (Nat.zero_le _) (Nat.zero_le _) q2551 q2553 sp83 zM_rc ?_
      refine kX4_isPair hA (by first | omega | (simp only [zuf_1, zua_s, zua_2, zuf_s, zua_e, zuf_e, Nat.reduceBEq]; omega)) hT (by first | omega | (simp only [zuf_1, zua_s, zua_2, zuf_s, zua_e, zuf_e, Nat.reduceBEq]; omega)) (by first | omega | (simp only [zuf_1, zua_s, zua_2, zuf_s, zua_e, zuf_e, Nat.reduceBEq]; omega)) (by first | omega | (simp only [zuf_1, zua_s, zua_2, zuf_s, zua_e, zuf_e, Nat.reduceBEq]; omega)) (fun u75 v75 p75 e75 b75 => zK_i ?_) (fun p75 c75 e75 b75 => zK_i ?_)
      · try simp only [zuf_1, zua_s, zua_2, zuf_s, zuf_zuf, zua_zuf, zua_zua, zua_e, zuf_e, Nat.reduceBEq, pPs_13, pPs_14, pPs_15, pPs_16, pPs_17, pPs_a, pPs_h, pPs_m]
        refine zr_ifeq dX4_readsT_78 (tgt := 85) (by decide) (by decide) (fun h => absurd h (by decide)) (fun _ => ?_)
        refine zr_iconst dX4_readsT_81 ?_
        refine zr_goto dX4_readsT_82 (tgt := 86) (by decide) ?_
        refine zr_ireturn dX4_readsT_86 rfl (by first | rfl | exact z_nb _) ?_
        exact k1 _ _ _ (by unfold pRT; rw [if_neg (pCh_f e3), pB_s e65, pB_s e75]) ⟨by refine ⟨⟨?_, ?_⟩, ⟨?_, ?_⟩, ⟨?_, ?_⟩, ?_⟩ <;> dsimp only <;> omega, ⟨by simp only [z_upF_s, z_upF_n (show (a : Int) ≠ a + 1 by omega), z_upF_n (show (a : Int) ≠ a + 2 by omega), z_upF_n (show (a : Int) ≠ a + 3 by omega), z_upF_n (show (a + 1 : Int) ≠ a by omega), z_upF_n (show (a + 1 : Int) ≠ a + 2 by omega), z_upF_n (show (a + 1 : Int) ≠ a + 3 by omega), z_upF_n (show (a + 2 : Int) ≠ a by omega), z_upF_n (show (a + 2 : Int) ≠ a + 1 by omega), z_upF_n (show (a + 2 : Int) ≠ a + 3 by omega), z_upF_n (show (a + 3 : Int) ≠ a by omega), z_upF_n (show (a + 3 : Int) ≠ a + 1 by omega), z_upF_n (show (a + 3 : Int) ≠ a + 2 by omega)]; (try exact h0), fun _ => by simp only [z_upF_s, z_upF_n (show (a : Int) ≠ a + 1 by omega), z_upF_n (show (a : Int) ≠ a + 2 by omega), z_upF_n (show (a : Int) ≠ a + 3 by omega), z_upF_n (show (a + 1 : Int) ≠ a by omega), z_upF_n (show (a + 1 : Int) ≠ a + 2 by omega), z_upF_n (show (a + 1 : Int) ≠ a + 3 by omega), z_upF_n (show (a + 2 : Int) ≠ a by omega), z_upF_n (show (a + 2 : Int) ≠ a + 1 by omega), z_upF_n (show (a + 2 : Int) ≠ a + 3 by omega), z_upF_n (show (a + 3 : Int) ≠ a by omega), z_upF_n (show (a + 3 : Int) ≠ a + 1 by omega), z_upF_n (show (a + 3 : Int) ≠ a + 2 by omega)], fun q => by (try dsimp only at q); first | (exfalso; omega) | simp only [z_upF_s, z_upF_n (show (a : Int) ≠ a + 1 by omega), z_upF_n (show (a : Int) ≠ a + 2 by omega), z_upF_n (show (a : Int) ≠ a + 3 by omega), z_upF_n (show (a + 1 : Int) ≠ a by omega), z_upF_n (show (a + 1 : Int) ≠ a + 2 by omega), z_upF_n (show (a + 1 : Int) ≠ a + 3 by omega), z_upF_n (show (a + 2 : Int) ≠ a by omega), z_upF_n (show (a + 2 : Int) ≠ a + 1 by omega), z_upF_n (show (a + 2 : Int) ≠ a + 3 by omega), z_upF_n (show (a + 3 : Int) ≠ a by omega), z_upF_n (show (a + 3 : Int) ≠ a + 1 by omega), z_upF_n (show (a + 3 : Int) ≠ a + 2 by omega)], fun q => by (try dsimp only at q); first | (exfalso; omega) | simp only [z_upF_s, z_upF_n (show (a : Int) ≠ a + 1 by omega), z_upF_n (show (a : Int) ≠ a + 2 by omega), z_upF_n (show (a : Int) ≠ a + 3 by omega), z_upF_n (show (a + 1 : Int) ≠ a by omega), z_upF_n (show (a + 1 : Int) ≠ a + 2 by omega), z_upF_n (show (a + 1 : Int) ≠ a + 3 by omega), z_upF_n (show (a + 2 : Int) ≠ a by omega), z_upF_n (show (a + 2 : Int) ≠ a + 1 by omega), z_upF_n (show (a + 2 : Int) ≠ a + 3 by omega), z_upF_n (show (a + 3 : Int) ≠ a by omega), z_upF_n (show (a + 3 : Int) ≠ a + 1 by omega), z_upF_n (show (a + 3 : Int) ≠ a + 2 by omega)]⟩, fun j hj => by simp only [z_upF_n (show j ≠ a by omega), z_upF_n (show j ≠ a + 1 by omega), z_upF_n (show j ≠ a + 2 by omega)]⟩ (by omega)
      · try simp only [zuf_1, zua_s, zua_2, zuf_s, zuf_zuf, zua_zuf, zua_zua, zua_e, zuf_e, Nat.reduceBEq, pPs_13, pPs_14, pPs_15, pPs_16, pPs_17, pPs_a, pPs_h, pPs_m]
        refine zr_ifeq dX4_readsT_78 (tgt := 85) (by decide) (by decide) (fun _ => ?_) (fun h => absurd h (by decide))
        refine zr_iconst dX4_readsT_85 ?_
        refine zr_ireturn dX4_readsT_86 rfl (by first | rfl | exact z_nb _) ?_
        exact k0 _ _ (by unfold pRT; rw [if_neg (pCh_f e3), pB_s e65]; exact pB_n e75) (by omega)
    · try simp only [zuf_1, zua_s, zua_2, zuf_s, zuf_zuf, zua_zuf, zua_zua, zua_e, zuf_e, Nat.reduceBEq, pPs_13, pPs_14, pPs_15, pPs_16, pPs_17, pPs_a, pPs_h, pPs_m]
      refine zr_ifeq dX4_readsT_68 (tgt := 85) (by decide) (by decide) (fun _ => ?_) (fun h => absurd h (by decide))
      refine zr_iconst dX4_readsT_85 ?_
      refine zr_ireturn dX4_readsT_86 rfl (by first | rfl | exact z_nb _) ?_
      exact k0 _ _ (by unfold pRT; rw [if_neg (pCh_f e3)]; exact pB_n e65) (by omega)
theorem kX4_readsC {G : State} {d rc rs : Nat} {ah : zH} {A : Nat → Nat} {S : zMS} {Q : zRs → zH → Prop} {a : Int} (hA : zMi A) (hd : 5 ≤ d) {h m : Int} {c : Int → Int} (hT : pTp (S.1 13) (S.2 15)) (hh : 0 ≤ h ∧ h ≤ S.2 15) (ha : 0 ≤ a ∧ a + 3 < 124) (h0 : c a = 99) (k1 : ∀ X h9 c9, pRC (S.1 13) (S.2 15) h = (some X, h9) → (pC9 X ∧ pCr c9 a X ∧ ∀ j, j < a → c9 j = c j) → (0 ≤ h9 ∧ h ≤ h9 ∧ h9 ≤ S.2 15) → Q (.inl (some (.int (zi 1)))) (zMh ah A (pPs S h9 c9 m))) (k0 : ∀ h9 c9, pRC (S.1 13) (S.2 15) h = (none, h9) → (0 ≤ h9 ∧ h9 ≤ S.2 15) → Q (.inl (some (.int (zi 0)))) (zMh ah A (pPs S h9 c9 m))) : zW G mX4_readsC d rc rs 0 (zent [.ref (A 18), .int (zi a)]) [] (zMh ah A (pPs S h c m)) Q := by
  refine zW_open 0 [some (.ref (A 18)), some (.int (zi a))] rfl ?_
  refine zW_tb (fun T => ?_)
  refine zr_aload_n dX4_readsC_0 rfl rfl ?_
  refine zr_bipush dX4_readsC_1 rfl ?_
  refine zc_v1 dX4_readsC_3 hX4_isSign gX4_isSign rfl rfl 1 0 0 (by omega) (Nat.zero_le _) (Nat.zero_le _) q2547 q2549 sp82 zM_rc ?_
  refine kX4_isSign hA (by first | omega | (simp only [zuf_1, zua_s, zua_2, zuf_s, zua_e, zuf_e, Nat.reduceBEq]; omega)) hT (by first | omega | (simp only [zuf_1, zua_s, zua_2, zuf_s, zua_e, zuf_e, Nat.reduceBEq]; omega)) (by first | omega | (simp only [zuf_1, zua_s, zua_2, zuf_s, zua_e, zuf_e, Nat.reduceBEq]; omega)) (fun e3 l3 => zK_i ?_) (fun e3 => zK_i ?_)
  · try simp only [zuf_1, zua_s, zua_2, zuf_s, zuf_zuf, zua_zuf, zua_zua, zua_e, zuf_e, Nat.reduceBEq, pPs_13, pPs_14, pPs_15, pPs_16, pPs_17, pPs_a, pPs_h, pPs_m]
    refine zr_ifeq dX4_readsC_6 (tgt := 34) (by decide) (by decide) (fun h => absurd h (by decide)) (fun _ => ?_)
    refine zr_aload_n dX4_readsC_9 rfl rfl ?_
    refine zr_ldcS dX4_readsC_10 (z_litM227 T).1 ?_
    refine zc_v1 dX4_readsC_12 hX4_isWord gX4_isWord rfl rfl 4 0 0 (by omega) (Nat.zero_le _) (Nat.zero_le _) q2541 q2543 sp81 zM_rc ?_
    have hs12 := (z_litM227 T).2
    have h812 : zL8 [116, 32] := ⟨by decide, by decide⟩
    refine kX4_isWord hA (by first | omega | (simp only [zuf_1, zua_s, zua_2, zuf_s, zua_e, zuf_e, Nat.reduceBEq]; omega)) hT (by first | omega | (simp only [zuf_1, zua_s, zua_2, zuf_s, zua_e, zuf_e, Nat.reduceBEq]; omega)) hs12 h812 (fun p12 e12 b12 => zK_i ?_) (fun p12 e12 b12 => zK_i ?_)
    · try simp only [zuf_1, zua_s, zua_2, zuf_s, zuf_zuf, zua_zuf, zua_zua, zua_e, zuf_e, Nat.reduceBEq, pPs_13, pPs_14, pPs_15, pPs_16, pPs_17, pPs_a, pPs_h, pPs_m]
      refine zr_ifeq dX4_readsC_15 (tgt := 32) (by decide) (by decide) (fun h => absurd h (by decide)) (fun _ => ?_)
      refine zr_aload_n dX4_readsC_18 rfl rfl ?_
      refine zr_bipush dX4_readsC_19 rfl ?_
      refine zr_iload_n dX4_readsC_21 rfl ?_
      refine zc_v2 dX4_readsC_22 hX4_isPair gX4_isPair rfl rfl 2 0 0 (by omega) (Nat.zero_le _) (Nat.zero_le _) q2551 q2553 sp83 zM_rc ?_
      refine kX4_isPair hA (by first | omega | (simp only [zuf_1, zua_s, zua_2, zuf_s, zua_e, zuf_e, Nat.reduceBEq]; omega)) hT (by first | omega | (simp only [zuf_1, zua_s, zua_2, zuf_s, zua_e, zuf_e, Nat.reduceBEq]; omega)) (by first | omega | (simp only [zuf_1, zua_s, zua_2, zuf_s, zua_e, zuf_e, Nat.reduceBEq]; omega)) (by first | omega | (simp only [zuf_1, zua_s, zua_2, zuf_s, zua_e, zuf_e, Nat.reduceBEq]; omega)) (fun u22 v22 p22 e22 b22 => zK_i ?_) (fun p22 c22 e22 b22 => zK_i ?_)
      · try simp only [zuf_1, zua_s, zua_2, zuf_s, zuf_zuf, zua_zuf, zua_zua, zua_e, zuf_e, Nat.reduceBEq, pPs_13, pPs_14, pPs_15, pPs_16, pPs_17, pPs_a, pPs_h, pPs_m]
        refine zr_ifeq dX4_readsC_25 (tgt := 32) (by decide) (by decide) (fun h => absurd h (by decide)) (fun _ => ?_)
        refine zr_iconst dX4_readsC_28 ?_
        refine zr_goto dX4_readsC_29 (tgt := 33) (by decide) ?_
        refine zr_ireturn dX4_readsC_33 rfl (by first | rfl | exact z_nb _) ?_
        exact k1 _ _ _ (by unfold pRC; rw [if_pos (pCh_t e3), pB_s e12, pB_s e22]) ⟨by refine ⟨⟨?_, ?_⟩, ⟨?_, ?_⟩, ⟨?_, ?_⟩, ?_⟩ <;> dsimp only <;> omega, ⟨by simp only [z_upF_s, z_upF_n (show (a : Int) ≠ a + 1 by omega), z_upF_n (show (a : Int) ≠ a + 2 by omega), z_upF_n (show (a : Int) ≠ a + 3 by omega), z_upF_n (show (a + 1 : Int) ≠ a by omega), z_upF_n (show (a + 1 : Int) ≠ a + 2 by omega), z_upF_n (show (a + 1 : Int) ≠ a + 3 by omega), z_upF_n (show (a + 2 : Int) ≠ a by omega), z_upF_n (show (a + 2 : Int) ≠ a + 1 by omega), z_upF_n (show (a + 2 : Int) ≠ a + 3 by omega), z_upF_n (show (a + 3 : Int) ≠ a by omega), z_upF_n (show (a + 3 : Int) ≠ a + 1 by omega), z_upF_n (show (a + 3 : Int) ≠ a + 2 by omega)]; (try exact h0), fun _ => by simp only [z_upF_s, z_upF_n (show (a : Int) ≠ a + 1 by omega), z_upF_n (show (a : Int) ≠ a + 2 by omega), z_upF_n (show (a : Int) ≠ a + 3 by omega), z_upF_n (show (a + 1 : Int) ≠ a by omega), z_upF_n (show (a + 1 : Int) ≠ a + 2 by omega), z_upF_n (show (a + 1 : Int) ≠ a + 3 by omega), z_upF_n (show (a + 2 : Int) ≠ a by omega), z_upF_n (show (a + 2 : Int) ≠ a + 1 by omega), z_upF_n (show (a + 2 : Int) ≠ a + 3 by omega), z_upF_n (show (a + 3 : Int) ≠ a by omega), z_upF_n (show (a + 3 : Int) ≠ a + 1 by omega), z_upF_n (show (a + 3 : Int) ≠ a + 2 by omega)], fun q => by (try dsimp only at q); first | (exfalso; omega) | simp only [z_upF_s, z_upF_n (show (a : Int) ≠ a + 1 by omega), z_upF_n (show (a : Int) ≠ a + 2 by omega), z_upF_n (show (a : Int) ≠ a + 3 by omega), z_upF_n (show (a + 1 : Int) ≠ a by omega), z_upF_n (show (a + 1 : Int) ≠ a + 2 by omega), z_upF_n (show (a + 1 : Int) ≠ a + 3 by omega), z_upF_n (show (a + 2 : Int) ≠ a by omega), z_upF_n (show (a + 2 : Int) ≠ a + 1 by omega), z_upF_n (show (a + 2 : Int) ≠ a + 3 by omega), z_upF_n (show (a + 3 : Int) ≠ a by omega), z_upF_n (show (a + 3 : Int) ≠ a + 1 by omega), z_upF_n (show (a + 3 : Int) ≠ a + 2 by omega)], fun q => by (try dsimp only at q); first | (exfalso; omega) | simp only [z_upF_s, z_upF_n (show (a : Int) ≠ a + 1 by omega), z_upF_n (show (a : Int) ≠ a + 2 by omega), z_upF_n (show (a : Int) ≠ a + 3 by omega), z_upF_n (show (a + 1 : Int) ≠ a by omega), z_upF_n (show (a + 1 : Int) ≠ a + 2 by omega), z_upF_n (show (a + 1 : Int) ≠ a + 3 by omega), z_upF_n (show (a + 2 : Int) ≠ a by omega), z_upF_n (show (a + 2 : Int) ≠ a + 1 by omega), z_upF_n (show (a + 2 : Int) ≠ a + 3 by omega), z_upF_n (show (a + 3 : Int) ≠ a by omega), z_upF_n (show (a + 3 : Int) ≠ a + 1 by omega), z_upF_n (show (a + 3 : Int) ≠ a + 2 by omega)]⟩, fun j hj => by simp only [z_upF_n (show j ≠ a + 1 by omega), z_upF_n (show j ≠ a + 2 by omega)]⟩ (by omega)
      · try simp only [zuf_1, zua_s, zua_2, zuf_s, zuf_zuf, zua_zuf, zua_zua, zua_e, zuf_e, Nat.reduceBEq, pPs_13, pPs_14, pPs_15, pPs_16, pPs_17, pPs_a, pPs_h, pPs_m]
        refine zr_ifeq dX4_readsC_25 (tgt := 32) (by decide) (by decide) (fun _ => ?_) (fun h => absurd h (by decide))
        refine zr_iconst dX4_readsC_32 ?_
        refine zr_ireturn dX4_readsC_33 rfl (by first | rfl | exact z_nb _) ?_
        exact k0 _ _ (by unfold pRC; rw [if_pos (pCh_t e3), pB_s e12]; exact pB_n e22) (by omega)
    · try simp only [zuf_1, zua_s, zua_2, zuf_s, zuf_zuf, zua_zuf, zua_zua, zua_e, zuf_e, Nat.reduceBEq, pPs_13, pPs_14, pPs_15, pPs_16, pPs_17, pPs_a, pPs_h, pPs_m]
      refine zr_ifeq dX4_readsC_15 (tgt := 32) (by decide) (by decide) (fun _ => ?_) (fun h => absurd h (by decide))
      refine zr_iconst dX4_readsC_32 ?_
      refine zr_ireturn dX4_readsC_33 rfl (by first | rfl | exact z_nb _) ?_
      exact k0 _ _ (by unfold pRC; rw [if_pos (pCh_t e3)]; exact pB_n e12) (by omega)
  · try simp only [zuf_1, zua_s, zua_2, zuf_s, zuf_zuf, zua_zuf, zua_zua, zua_e, zuf_e, Nat.reduceBEq, pPs_13, pPs_14, pPs_15, pPs_16, pPs_17, pPs_a, pPs_h, pPs_m]
    refine zr_ifeq dX4_readsC_6 (tgt := 34) (by decide) (by decide) (fun _ => ?_) (fun h => absurd h (by decide))
    refine zr_aload_n dX4_readsC_34 rfl rfl ?_
    refine zm_geta 14 dX4_readsC_35 q2133 rfl ?_
    try simp only [zuf_1, zua_s, zua_2, zuf_s, zuf_zuf, zua_zuf, zua_zua, zua_e, zuf_e, Nat.reduceBEq, pPs_13, pPs_14, pPs_15, pPs_16, pPs_17, pPs_a, pPs_h, pPs_m]
    refine zr_iload_n dX4_readsC_38 rfl ?_
    refine zr_bipush dX4_readsC_39 rfl ?_
    refine zm_store hA (by decide) dX4_readsC_41 (by constructor <;> (try simp only [zMn]) <;> omega) ?_
    try simp only [zuf_1, zua_s, zua_2, zuf_s, zuf_zuf, zua_zuf, zua_zua, zua_e, zuf_e, Nat.reduceBEq, pPs_13, pPs_14, pPs_15, pPs_16, pPs_17, pPs_a, pPs_h, pPs_m]
    refine zr_aload_n dX4_readsC_42 rfl rfl ?_
    refine zr_ldcS dX4_readsC_43 (z_litM229 T).1 ?_
    refine zc_v1 dX4_readsC_45 hX4_isWord gX4_isWord rfl rfl 4 0 0 (by omega) (Nat.zero_le _) (Nat.zero_le _) q2541 q2543 sp81 zM_rc ?_
    have hs45 := (z_litM229 T).2
    have h845 : zL8 [104, 97, 114, 103, 101, 32] := ⟨by decide, by decide⟩
    refine kX4_isWord hA (by first | omega | (simp only [zuf_1, zua_s, zua_2, zuf_s, zua_e, zuf_e, Nat.reduceBEq]; omega)) hT (by first | omega | (simp only [zuf_1, zua_s, zua_2, zuf_s, zua_e, zuf_e, Nat.reduceBEq]; omega)) hs45 h845 (fun p45 e45 b45 => zK_i ?_) (fun p45 e45 b45 => zK_i ?_)
    · try simp only [zuf_1, zua_s, zua_2, zuf_s, zuf_zuf, zua_zuf, zua_zua, zua_e, zuf_e, Nat.reduceBEq, pPs_13, pPs_14, pPs_15, pPs_16, pPs_17, pPs_a, pPs_h, pPs_m]
      refine zr_ifeq dX4_readsC_48 (tgt := 66) (by decide) (by decide) (fun h => absurd h (by decide)) (fun _ => ?_)
      refine zr_aload_n dX4_readsC_51 rfl rfl ?_
      refine zr_iconst dX4_readsC_52 ?_
      refine zr_iload_n dX4_readsC_53 rfl ?_
      refine zr_iconst dX4_readsC_54 ?_
      refine zr_iadd dX4_readsC_55 ?_
      refine zc_v2 dX4_readsC_56 hX4_isNumber gX4_isNumber rfl rfl 1 0 0 (by omega) (Nat.zero_le _) (Nat.zero_le _) q2555 q2557 sp84 zM_rc ?_
      refine kX4_isNumber (K := 3) hA (by first | omega | (simp only [zuf_1, zua_s, zua_2, zuf_s, zua_e, zuf_e, Nat.reduceBEq]; omega)) hT (by first | omega | (simp only [zuf_1, zua_s, zua_2, zuf_s, zua_e, zuf_e, Nat.reduceBEq]; omega)) (by first | omega | (simp only [zuf_1, zua_s, zua_2, zuf_s, zua_e, zuf_e, Nat.reduceBEq]; omega)) (by first | omega | (simp only [zuf_1, zua_s, zua_2, zuf_s, zua_e, zuf_e, Nat.reduceBEq]; omega)) (fun v56 p56 e56 b56 => zK_i ?_) (fun c56 e56 => zK_i ?_)
      · try simp only [zuf_1, zua_s, zua_2, zuf_s, zuf_zuf, zua_zuf, zua_zua, zua_e, zuf_e, Nat.reduceBEq, pPs_13, pPs_14, pPs_15, pPs_16, pPs_17, pPs_a, pPs_h, pPs_m]
        refine zr_ifeq dX4_readsC_59 (tgt := 66) (by decide) (by decide) (fun h => absurd h (by decide)) (fun _ => ?_)
        refine zr_iconst dX4_readsC_62 ?_
        refine zr_goto dX4_readsC_63 (tgt := 67) (by decide) ?_
        refine zr_ireturn dX4_readsC_67 rfl (by first | rfl | exact z_nb _) ?_
        exact k1 _ _ _ (by unfold pRC; rw [if_neg (pCh_f e3), pB_s e45, pB_s e56]) ⟨by refine ⟨⟨?_, ?_⟩, ⟨?_, ?_⟩, ⟨?_, ?_⟩, ?_⟩ <;> dsimp only <;> omega, ⟨by simp only [z_upF_s, z_upF_n (show (a : Int) ≠ a + 1 by omega), z_upF_n (show (a : Int) ≠ a + 2 by omega), z_upF_n (show (a : Int) ≠ a + 3 by omega), z_upF_n (show (a + 1 : Int) ≠ a by omega), z_upF_n (show (a + 1 : Int) ≠ a + 2 by omega), z_upF_n (show (a + 1 : Int) ≠ a + 3 by omega), z_upF_n (show (a + 2 : Int) ≠ a by omega), z_upF_n (show (a + 2 : Int) ≠ a + 1 by omega), z_upF_n (show (a + 2 : Int) ≠ a + 3 by omega), z_upF_n (show (a + 3 : Int) ≠ a by omega), z_upF_n (show (a + 3 : Int) ≠ a + 1 by omega), z_upF_n (show (a + 3 : Int) ≠ a + 2 by omega)]; (try exact h0), fun _ => by simp only [z_upF_s, z_upF_n (show (a : Int) ≠ a + 1 by omega), z_upF_n (show (a : Int) ≠ a + 2 by omega), z_upF_n (show (a : Int) ≠ a + 3 by omega), z_upF_n (show (a + 1 : Int) ≠ a by omega), z_upF_n (show (a + 1 : Int) ≠ a + 2 by omega), z_upF_n (show (a + 1 : Int) ≠ a + 3 by omega), z_upF_n (show (a + 2 : Int) ≠ a by omega), z_upF_n (show (a + 2 : Int) ≠ a + 1 by omega), z_upF_n (show (a + 2 : Int) ≠ a + 3 by omega), z_upF_n (show (a + 3 : Int) ≠ a by omega), z_upF_n (show (a + 3 : Int) ≠ a + 1 by omega), z_upF_n (show (a + 3 : Int) ≠ a + 2 by omega)], fun q => by (try dsimp only at q); first | (exfalso; omega) | simp only [z_upF_s, z_upF_n (show (a : Int) ≠ a + 1 by omega), z_upF_n (show (a : Int) ≠ a + 2 by omega), z_upF_n (show (a : Int) ≠ a + 3 by omega), z_upF_n (show (a + 1 : Int) ≠ a by omega), z_upF_n (show (a + 1 : Int) ≠ a + 2 by omega), z_upF_n (show (a + 1 : Int) ≠ a + 3 by omega), z_upF_n (show (a + 2 : Int) ≠ a by omega), z_upF_n (show (a + 2 : Int) ≠ a + 1 by omega), z_upF_n (show (a + 2 : Int) ≠ a + 3 by omega), z_upF_n (show (a + 3 : Int) ≠ a by omega), z_upF_n (show (a + 3 : Int) ≠ a + 1 by omega), z_upF_n (show (a + 3 : Int) ≠ a + 2 by omega)], fun q => by (try dsimp only at q); first | (exfalso; omega) | simp only [z_upF_s, z_upF_n (show (a : Int) ≠ a + 1 by omega), z_upF_n (show (a : Int) ≠ a + 2 by omega), z_upF_n (show (a : Int) ≠ a + 3 by omega), z_upF_n (show (a + 1 : Int) ≠ a by omega), z_upF_n (show (a + 1 : Int) ≠ a + 2 by omega), z_upF_n (show (a + 1 : Int) ≠ a + 3 by omega), z_upF_n (show (a + 2 : Int) ≠ a by omega), z_upF_n (show (a + 2 : Int) ≠ a + 1 by omega), z_upF_n (show (a + 2 : Int) ≠ a + 3 by omega), z_upF_n (show (a + 3 : Int) ≠ a by omega), z_upF_n (show (a + 3 : Int) ≠ a + 1 by omega), z_upF_n (show (a + 3 : Int) ≠ a + 2 by omega)]⟩, fun j hj => by simp only [z_upF_n (show j ≠ a by omega), z_upF_n (show j ≠ a + 1 by omega)]⟩ (by omega)
      · try simp only [zuf_1, zua_s, zua_2, zuf_s, zuf_zuf, zua_zuf, zua_zua, zua_e, zuf_e, Nat.reduceBEq, pPs_13, pPs_14, pPs_15, pPs_16, pPs_17, pPs_a, pPs_h, pPs_m]
        refine zr_ifeq dX4_readsC_59 (tgt := 66) (by decide) (by decide) (fun _ => ?_) (fun h => absurd h (by decide))
        refine zr_iconst dX4_readsC_66 ?_
        refine zr_ireturn dX4_readsC_67 rfl (by first | rfl | exact z_nb _) ?_
        exact k0 _ _ (by unfold pRC; rw [if_neg (pCh_f e3), pB_s e45]; exact pB_n e56) (by omega)
    · try simp only [zuf_1, zua_s, zua_2, zuf_s, zuf_zuf, zua_zuf, zua_zua, zua_e, zuf_e, Nat.reduceBEq, pPs_13, pPs_14, pPs_15, pPs_16, pPs_17, pPs_a, pPs_h, pPs_m]
      refine zr_ifeq dX4_readsC_48 (tgt := 66) (by decide) (by decide) (fun _ => ?_) (fun h => absurd h (by decide))
      refine zr_iconst dX4_readsC_66 ?_
      refine zr_ireturn dX4_readsC_67 rfl (by first | rfl | exact z_nb _) ?_
      exact k0 _ _ (by unfold pRC; rw [if_neg (pCh_f e3)]; exact pB_n e45) (by omega)
theorem kX4_readsM {G : State} {d rc rs : Nat} {ah : zH} {A : Nat → Nat} {S : zMS} {Q : zRs → zH → Prop} {a : Int} (hA : zMi A) (hd : 5 ≤ d) {h m : Int} {c : Int → Int} (hT : pTp (S.1 13) (S.2 15)) (hh : 0 ≤ h ∧ h ≤ S.2 15) (ha : 0 ≤ a ∧ a + 3 < 124) (h0 : c a = 109) (k1 : ∀ X h9 c9, pRM (S.1 13) (S.2 15) h = (some X, h9) → (pC9 X ∧ pCr c9 a X ∧ ∀ j, j < a → c9 j = c j) → (0 ≤ h9 ∧ h ≤ h9 ∧ h9 ≤ S.2 15) → Q (.inl (some (.int (zi 1)))) (zMh ah A (pPs S h9 c9 m))) (k0 : ∀ h9 c9, pRM (S.1 13) (S.2 15) h = (none, h9) → (0 ≤ h9 ∧ h9 ≤ S.2 15) → Q (.inl (some (.int (zi 0)))) (zMh ah A (pPs S h9 c9 m))) : zW G mX4_readsM d rc rs 0 (zent [.ref (A 18), .int (zi a)]) [] (zMh ah A (pPs S h c m)) Q := by
  refine zW_open 0 [some (.ref (A 18)), some (.int (zi a))] rfl ?_
  refine zW_tb (fun T => ?_)
  refine zr_aload_n dX4_readsM_0 rfl rfl ?_
  refine zr_bipush dX4_readsM_1 rfl ?_
  refine zc_v1 dX4_readsM_3 hX4_isSign gX4_isSign rfl rfl 1 0 0 (by omega) (Nat.zero_le _) (Nat.zero_le _) q2547 q2549 sp82 zM_rc ?_
  refine kX4_isSign hA (by first | omega | (simp only [zuf_1, zua_s, zua_2, zuf_s, zua_e, zuf_e, Nat.reduceBEq]; omega)) hT (by first | omega | (simp only [zuf_1, zua_s, zua_2, zuf_s, zua_e, zuf_e, Nat.reduceBEq]; omega)) (by first | omega | (simp only [zuf_1, zua_s, zua_2, zuf_s, zua_e, zuf_e, Nat.reduceBEq]; omega)) (fun e3 l3 => zK_i ?_) (fun e3 => zK_i ?_)
  · try simp only [zuf_1, zua_s, zua_2, zuf_s, zuf_zuf, zua_zuf, zua_zua, zua_e, zuf_e, Nat.reduceBEq, pPs_13, pPs_14, pPs_15, pPs_16, pPs_17, pPs_a, pPs_h, pPs_m]
    refine zr_ifne dX4_readsM_6 (tgt := 11) (by decide) (by decide) (fun _ => ?_) (fun h => absurd h (by decide))
    refine zr_aload_n dX4_readsM_11 rfl rfl ?_
    refine zr_bipush dX4_readsM_12 rfl ?_
    refine zc_v1 dX4_readsM_14 hX4_isSign gX4_isSign rfl rfl 1 0 0 (by omega) (Nat.zero_le _) (Nat.zero_le _) q2547 q2549 sp82 zM_rc ?_
    refine kX4_isSign hA (by first | omega | (simp only [zuf_1, zua_s, zua_2, zuf_s, zua_e, zuf_e, Nat.reduceBEq]; omega)) hT (by first | omega | (simp only [zuf_1, zua_s, zua_2, zuf_s, zua_e, zuf_e, Nat.reduceBEq]; omega)) (by first | omega | (simp only [zuf_1, zua_s, zua_2, zuf_s, zua_e, zuf_e, Nat.reduceBEq]; omega)) (fun e14 l14 => zK_i ?_) (fun e14 => zK_i ?_)
    · try simp only [zuf_1, zua_s, zua_2, zuf_s, zuf_zuf, zua_zuf, zua_zua, zua_e, zuf_e, Nat.reduceBEq, pPs_13, pPs_14, pPs_15, pPs_16, pPs_17, pPs_a, pPs_h, pPs_m]
      refine zr_ifeq dX4_readsM_17 (tgt := 45) (by decide) (by decide) (fun h => absurd h (by decide)) (fun _ => ?_)
      refine zr_aload_n dX4_readsM_20 rfl rfl ?_
      refine zr_ldcS dX4_readsM_21 (z_litM231 T).1 ?_
      refine zc_v1 dX4_readsM_23 hX4_isWord gX4_isWord rfl rfl 4 0 0 (by omega) (Nat.zero_le _) (Nat.zero_le _) q2541 q2543 sp81 zM_rc ?_
      have hs23 := (z_litM231 T).2
      have h823 : zL8 [101, 32] := ⟨by decide, by decide⟩
      refine kX4_isWord hA (by first | omega | (simp only [zuf_1, zua_s, zua_2, zuf_s, zua_e, zuf_e, Nat.reduceBEq]; omega)) hT (by first | omega | (simp only [zuf_1, zua_s, zua_2, zuf_s, zua_e, zuf_e, Nat.reduceBEq]; omega)) hs23 h823 (fun p23 e23 b23 => zK_i ?_) (fun p23 e23 b23 => zK_i ?_)
      · try simp only [zuf_1, zua_s, zua_2, zuf_s, zuf_zuf, zua_zuf, zua_zua, zua_e, zuf_e, Nat.reduceBEq, pPs_13, pPs_14, pPs_15, pPs_16, pPs_17, pPs_a, pPs_h, pPs_m]
        refine zr_ifeq dX4_readsM_26 (tgt := 43) (by decide) (by decide) (fun h => absurd h (by decide)) (fun _ => ?_)
        refine zr_aload_n dX4_readsM_29 rfl rfl ?_
        refine zr_iload_n dX4_readsM_30 rfl ?_
        refine zr_iconst dX4_readsM_31 ?_
        refine zr_iadd dX4_readsM_32 ?_
        refine zc_v1 dX4_readsM_33 hX4_isMode gX4_isMode rfl rfl 4 0 0 (by omega) (Nat.zero_le _) (Nat.zero_le _) q2576 q2578 sp88 zM_rc ?_
        refine kX4_isMode hA (by first | omega | (simp only [zuf_1, zua_s, zua_2, zuf_s, zua_e, zuf_e, Nat.reduceBEq]; omega)) hT (by first | omega | (simp only [zuf_1, zua_s, zua_2, zuf_s, zua_e, zuf_e, Nat.reduceBEq]; omega)) (by first | omega | (simp only [zuf_1, zua_s, zua_2, zuf_s, zua_e, zuf_e, Nat.reduceBEq]; omega)) (fun v33 p33 e33 b33 => zK_i ?_) (fun e33 => zK_i ?_)
        · try simp only [zuf_1, zua_s, zua_2, zuf_s, zuf_zuf, zua_zuf, zua_zua, zua_e, zuf_e, Nat.reduceBEq, pPs_13, pPs_14, pPs_15, pPs_16, pPs_17, pPs_a, pPs_h, pPs_m]
          refine zr_ifeq dX4_readsM_36 (tgt := 43) (by decide) (by decide) (fun h => absurd h (by decide)) (fun _ => ?_)
          refine zr_iconst dX4_readsM_39 ?_
          refine zr_goto dX4_readsM_40 (tgt := 44) (by decide) ?_
          refine zr_ireturn dX4_readsM_44 rfl (by first | rfl | exact z_nb _) ?_
          exact k1 _ _ _ (by unfold pRM; rw [pB_s e3, if_pos (pCh_t e14), pB_s e23, pB_s e33]) ⟨by refine ⟨⟨?_, ?_⟩, ⟨?_, ?_⟩, ⟨?_, ?_⟩, ?_⟩ <;> dsimp only <;> omega, ⟨by simp only [z_upF_s, z_upF_n (show (a : Int) ≠ a + 1 by omega), z_upF_n (show (a : Int) ≠ a + 2 by omega), z_upF_n (show (a : Int) ≠ a + 3 by omega), z_upF_n (show (a + 1 : Int) ≠ a by omega), z_upF_n (show (a + 1 : Int) ≠ a + 2 by omega), z_upF_n (show (a + 1 : Int) ≠ a + 3 by omega), z_upF_n (show (a + 2 : Int) ≠ a by omega), z_upF_n (show (a + 2 : Int) ≠ a + 1 by omega), z_upF_n (show (a + 2 : Int) ≠ a + 3 by omega), z_upF_n (show (a + 3 : Int) ≠ a by omega), z_upF_n (show (a + 3 : Int) ≠ a + 1 by omega), z_upF_n (show (a + 3 : Int) ≠ a + 2 by omega)]; (first | exact h0 | skip), fun _ => by simp only [z_upF_s, z_upF_n (show (a : Int) ≠ a + 1 by omega), z_upF_n (show (a : Int) ≠ a + 2 by omega), z_upF_n (show (a : Int) ≠ a + 3 by omega), z_upF_n (show (a + 1 : Int) ≠ a by omega), z_upF_n (show (a + 1 : Int) ≠ a + 2 by omega), z_upF_n (show (a + 1 : Int) ≠ a + 3 by omega), z_upF_n (show (a + 2 : Int) ≠ a by omega), z_upF_n (show (a + 2 : Int) ≠ a + 1 by omega), z_upF_n (show (a + 2 : Int) ≠ a + 3 by omega), z_upF_n (show (a + 3 : Int) ≠ a by omega), z_upF_n (show (a + 3 : Int) ≠ a + 1 by omega), z_upF_n (show (a + 3 : Int) ≠ a + 2 by omega)], fun q => by (try dsimp only at q); first | (exfalso; omega) | simp only [z_upF_s, z_upF_n (show (a : Int) ≠ a + 1 by omega), z_upF_n (show (a : Int) ≠ a + 2 by omega), z_upF_n (show (a : Int) ≠ a + 3 by omega), z_upF_n (show (a + 1 : Int) ≠ a by omega), z_upF_n (show (a + 1 : Int) ≠ a + 2 by omega), z_upF_n (show (a + 1 : Int) ≠ a + 3 by omega), z_upF_n (show (a + 2 : Int) ≠ a by omega), z_upF_n (show (a + 2 : Int) ≠ a + 1 by omega), z_upF_n (show (a + 2 : Int) ≠ a + 3 by omega), z_upF_n (show (a + 3 : Int) ≠ a by omega), z_upF_n (show (a + 3 : Int) ≠ a + 1 by omega), z_upF_n (show (a + 3 : Int) ≠ a + 2 by omega)], fun q => by (try dsimp only at q); first | (exfalso; omega) | simp only [z_upF_s, z_upF_n (show (a : Int) ≠ a + 1 by omega), z_upF_n (show (a : Int) ≠ a + 2 by omega), z_upF_n (show (a : Int) ≠ a + 3 by omega), z_upF_n (show (a + 1 : Int) ≠ a by omega), z_upF_n (show (a + 1 : Int) ≠ a + 2 by omega), z_upF_n (show (a + 1 : Int) ≠ a + 3 by omega), z_upF_n (show (a + 2 : Int) ≠ a by omega), z_upF_n (show (a + 2 : Int) ≠ a + 1 by omega), z_upF_n (show (a + 2 : Int) ≠ a + 3 by omega), z_upF_n (show (a + 3 : Int) ≠ a by omega), z_upF_n (show (a + 3 : Int) ≠ a + 1 by omega), z_upF_n (show (a + 3 : Int) ≠ a + 2 by omega)]⟩, fun j hj => by simp only [z_upF_n (show j ≠ a + 1 by omega)]⟩ (by omega)
        · try simp only [zuf_1, zua_s, zua_2, zuf_s, zuf_zuf, zua_zuf, zua_zua, zua_e, zuf_e, Nat.reduceBEq, pPs_13, pPs_14, pPs_15, pPs_16, pPs_17, pPs_a, pPs_h, pPs_m]
          refine zr_ifeq dX4_readsM_36 (tgt := 43) (by decide) (by decide) (fun _ => ?_) (fun h => absurd h (by decide))
          refine zr_iconst dX4_readsM_43 ?_
          refine zr_ireturn dX4_readsM_44 rfl (by first | rfl | exact z_nb _) ?_
          exact k0 _ _ (by unfold pRM; rw [pB_s e3, if_pos (pCh_t e14), pB_s e23]; exact pB_n e33) (by omega)
      · try simp only [zuf_1, zua_s, zua_2, zuf_s, zuf_zuf, zua_zuf, zua_zua, zua_e, zuf_e, Nat.reduceBEq, pPs_13, pPs_14, pPs_15, pPs_16, pPs_17, pPs_a, pPs_h, pPs_m]
        refine zr_ifeq dX4_readsM_26 (tgt := 43) (by decide) (by decide) (fun _ => ?_) (fun h => absurd h (by decide))
        refine zr_iconst dX4_readsM_43 ?_
        refine zr_ireturn dX4_readsM_44 rfl (by first | rfl | exact z_nb _) ?_
        exact k0 _ _ (by unfold pRM; rw [pB_s e3, if_pos (pCh_t e14)]; exact pB_n e23) (by omega)
    · try simp only [zuf_1, zua_s, zua_2, zuf_s, zuf_zuf, zua_zuf, zua_zua, zua_e, zuf_e, Nat.reduceBEq, pPs_13, pPs_14, pPs_15, pPs_16, pPs_17, pPs_a, pPs_h, pPs_m]
      refine zr_ifeq dX4_readsM_17 (tgt := 45) (by decide) (by decide) (fun _ => ?_) (fun h => absurd h (by decide))
      refine zr_aload_n dX4_readsM_45 rfl rfl ?_
      refine zm_geta 14 dX4_readsM_46 q2133 rfl ?_
      try simp only [zuf_1, zua_s, zua_2, zuf_s, zuf_zuf, zua_zuf, zua_zua, zua_e, zuf_e, Nat.reduceBEq, pPs_13, pPs_14, pPs_15, pPs_16, pPs_17, pPs_a, pPs_h, pPs_m]
      refine zr_iload_n dX4_readsM_49 rfl ?_
      refine zr_bipush dX4_readsM_50 rfl ?_
      refine zm_store hA (by decide) dX4_readsM_52 (by constructor <;> (try simp only [zMn]) <;> omega) ?_
      try simp only [zuf_1, zua_s, zua_2, zuf_s, zuf_zuf, zua_zuf, zua_zua, zua_e, zuf_e, Nat.reduceBEq, pPs_13, pPs_14, pPs_15, pPs_16, pPs_17, pPs_a, pPs_h, pPs_m]
      refine zr_aload_n dX4_readsM_53 rfl rfl ?_
      refine zr_ldcS dX4_readsM_54 (z_litM236 T).1 ?_
      refine zc_v1 dX4_readsM_56 hX4_isWord gX4_isWord rfl rfl 4 0 0 (by omega) (Nat.zero_le _) (Nat.zero_le _) q2541 q2543 sp81 zM_rc ?_
      have hs56 := (z_litM236 T).2
      have h856 : zL8 [118, 101, 32] := ⟨by decide, by decide⟩
      refine kX4_isWord hA (by first | omega | (simp only [zuf_1, zua_s, zua_2, zuf_s, zua_e, zuf_e, Nat.reduceBEq]; omega)) hT (by first | omega | (simp only [zuf_1, zua_s, zua_2, zuf_s, zua_e, zuf_e, Nat.reduceBEq]; omega)) hs56 h856 (fun p56 e56 b56 => zK_i ?_) (fun p56 e56 b56 => zK_i ?_)
      · try simp only [zuf_1, zua_s, zua_2, zuf_s, zuf_zuf, zua_zuf, zua_zua, zua_e, zuf_e, Nat.reduceBEq, pPs_13, pPs_14, pPs_15, pPs_16, pPs_17, pPs_a, pPs_h, pPs_m]
        refine zr_ifeq dX4_readsM_59 (tgt := 76) (by decide) (by decide) (fun h => absurd h (by decide)) (fun _ => ?_)
        refine zr_aload_n dX4_readsM_62 rfl rfl ?_
        refine zr_bipush dX4_readsM_63 rfl ?_
        refine zr_iload_n dX4_readsM_65 rfl ?_
        refine zc_v2 dX4_readsM_66 hX4_isPair gX4_isPair rfl rfl 2 0 0 (by omega) (Nat.zero_le _) (Nat.zero_le _) q2551 q2553 sp83 zM_rc ?_
        refine kX4_isPair hA (by first | omega | (simp only [zuf_1, zua_s, zua_2, zuf_s, zua_e, zuf_e, Nat.reduceBEq]; omega)) hT (by first | omega | (simp only [zuf_1, zua_s, zua_2, zuf_s, zua_e, zuf_e, Nat.reduceBEq]; omega)) (by first | omega | (simp only [zuf_1, zua_s, zua_2, zuf_s, zua_e, zuf_e, Nat.reduceBEq]; omega)) (by first | omega | (simp only [zuf_1, zua_s, zua_2, zuf_s, zua_e, zuf_e, Nat.reduceBEq]; omega)) (fun u66 v66 p66 e66 b66 => zK_i ?_) (fun p66 c66 e66 b66 => zK_i ?_)
        · try simp only [zuf_1, zua_s, zua_2, zuf_s, zuf_zuf, zua_zuf, zua_zua, zua_e, zuf_e, Nat.reduceBEq, pPs_13, pPs_14, pPs_15, pPs_16, pPs_17, pPs_a, pPs_h, pPs_m]
          refine zr_ifeq dX4_readsM_69 (tgt := 76) (by decide) (by decide) (fun h => absurd h (by decide)) (fun _ => ?_)
          refine zr_iconst dX4_readsM_72 ?_
          refine zr_goto dX4_readsM_73 (tgt := 77) (by decide) ?_
          refine zr_ireturn dX4_readsM_77 rfl (by first | rfl | exact z_nb _) ?_
          exact k1 _ _ _ (by unfold pRM; rw [pB_s e3, if_neg (pCh_f e14), pB_s e56, pB_s e66]) ⟨by refine ⟨⟨?_, ?_⟩, ⟨?_, ?_⟩, ⟨?_, ?_⟩, ?_⟩ <;> dsimp only <;> omega, ⟨by simp only [z_upF_s, z_upF_n (show (a : Int) ≠ a + 1 by omega), z_upF_n (show (a : Int) ≠ a + 2 by omega), z_upF_n (show (a : Int) ≠ a + 3 by omega), z_upF_n (show (a + 1 : Int) ≠ a by omega), z_upF_n (show (a + 1 : Int) ≠ a + 2 by omega), z_upF_n (show (a + 1 : Int) ≠ a + 3 by omega), z_upF_n (show (a + 2 : Int) ≠ a by omega), z_upF_n (show (a + 2 : Int) ≠ a + 1 by omega), z_upF_n (show (a + 2 : Int) ≠ a + 3 by omega), z_upF_n (show (a + 3 : Int) ≠ a by omega), z_upF_n (show (a + 3 : Int) ≠ a + 1 by omega), z_upF_n (show (a + 3 : Int) ≠ a + 2 by omega)]; (try exact h0), fun _ => by simp only [z_upF_s, z_upF_n (show (a : Int) ≠ a + 1 by omega), z_upF_n (show (a : Int) ≠ a + 2 by omega), z_upF_n (show (a : Int) ≠ a + 3 by omega), z_upF_n (show (a + 1 : Int) ≠ a by omega), z_upF_n (show (a + 1 : Int) ≠ a + 2 by omega), z_upF_n (show (a + 1 : Int) ≠ a + 3 by omega), z_upF_n (show (a + 2 : Int) ≠ a by omega), z_upF_n (show (a + 2 : Int) ≠ a + 1 by omega), z_upF_n (show (a + 2 : Int) ≠ a + 3 by omega), z_upF_n (show (a + 3 : Int) ≠ a by omega), z_upF_n (show (a + 3 : Int) ≠ a + 1 by omega), z_upF_n (show (a + 3 : Int) ≠ a + 2 by omega)], fun q => by (try dsimp only at q); first | (exfalso; omega) | simp only [z_upF_s, z_upF_n (show (a : Int) ≠ a + 1 by omega), z_upF_n (show (a : Int) ≠ a + 2 by omega), z_upF_n (show (a : Int) ≠ a + 3 by omega), z_upF_n (show (a + 1 : Int) ≠ a by omega), z_upF_n (show (a + 1 : Int) ≠ a + 2 by omega), z_upF_n (show (a + 1 : Int) ≠ a + 3 by omega), z_upF_n (show (a + 2 : Int) ≠ a by omega), z_upF_n (show (a + 2 : Int) ≠ a + 1 by omega), z_upF_n (show (a + 2 : Int) ≠ a + 3 by omega), z_upF_n (show (a + 3 : Int) ≠ a by omega), z_upF_n (show (a + 3 : Int) ≠ a + 1 by omega), z_upF_n (show (a + 3 : Int) ≠ a + 2 by omega)], fun q => by (try dsimp only at q); first | (exfalso; omega) | simp only [z_upF_s, z_upF_n (show (a : Int) ≠ a + 1 by omega), z_upF_n (show (a : Int) ≠ a + 2 by omega), z_upF_n (show (a : Int) ≠ a + 3 by omega), z_upF_n (show (a + 1 : Int) ≠ a by omega), z_upF_n (show (a + 1 : Int) ≠ a + 2 by omega), z_upF_n (show (a + 1 : Int) ≠ a + 3 by omega), z_upF_n (show (a + 2 : Int) ≠ a by omega), z_upF_n (show (a + 2 : Int) ≠ a + 1 by omega), z_upF_n (show (a + 2 : Int) ≠ a + 3 by omega), z_upF_n (show (a + 3 : Int) ≠ a by omega), z_upF_n (show (a + 3 : Int) ≠ a + 1 by omega), z_upF_n (show (a + 3 : Int) ≠ a + 2 by omega)]⟩, fun j hj => by simp only [z_upF_n (show j ≠ a by omega), z_upF_n (show j ≠ a + 1 by omega), z_upF_n (show j ≠ a + 2 by omega)]⟩ (by omega)
        · try simp only [zuf_1, zua_s, zua_2, zuf_s, zuf_zuf, zua_zuf, zua_zua, zua_e, zuf_e, Nat.reduceBEq, pPs_13, pPs_14, pPs_15, pPs_16, pPs_17, pPs_a, pPs_h, pPs_m]
          refine zr_ifeq dX4_readsM_69 (tgt := 76) (by decide) (by decide) (fun _ => ?_) (fun h => absurd h (by decide))
          refine zr_iconst dX4_readsM_76 ?_
          refine zr_ireturn dX4_readsM_77 rfl (by first | rfl | exact z_nb _) ?_
          exact k0 _ _ (by unfold pRM; rw [pB_s e3, if_neg (pCh_f e14), pB_s e56]; exact pB_n e66) (by omega)
      · try simp only [zuf_1, zua_s, zua_2, zuf_s, zuf_zuf, zua_zuf, zua_zua, zua_e, zuf_e, Nat.reduceBEq, pPs_13, pPs_14, pPs_15, pPs_16, pPs_17, pPs_a, pPs_h, pPs_m]
        refine zr_ifeq dX4_readsM_59 (tgt := 76) (by decide) (by decide) (fun _ => ?_) (fun h => absurd h (by decide))
        refine zr_iconst dX4_readsM_76 ?_
        refine zr_ireturn dX4_readsM_77 rfl (by first | rfl | exact z_nb _) ?_
        exact k0 _ _ (by unfold pRM; rw [pB_s e3, if_neg (pCh_f e14)]; exact pB_n e56) (by omega)
  · try simp only [zuf_1, zua_s, zua_2, zuf_s, zuf_zuf, zua_zuf, zua_zua, zua_e, zuf_e, Nat.reduceBEq, pPs_13, pPs_14, pPs_15, pPs_16, pPs_17, pPs_a, pPs_h, pPs_m]
    refine zr_ifne dX4_readsM_6 (tgt := 11) (by decide) (by decide) (fun h => absurd h (by decide)) (fun _ => ?_)
    refine zr_iconst dX4_readsM_9 ?_
    refine zr_ireturn dX4_readsM_10 rfl (by first | rfl | exact z_nb _) ?_
    exact k0 _ _ (by unfold pRM; exact pB_n e3) (by omega)
