set_option maxRecDepth 100000
/-! ===== the reference: programs read ===== -/
theorem kX4_readsRest {G : State} {d rc rs : Nat} {ah : zH} {A : Nat → Nat} {S : zMS} {Q : zRs → zH → Prop} {f a : Int} (hA : zMi A) (hd : 6 ≤ d) {h m : Int} {c : Int → Int} (hT : pTp (S.1 13) (S.2 15)) (hh : 0 ≤ h ∧ h ≤ S.2 15) (ha : 0 ≤ a ∧ a + 3 < 124) (hf : pFst f = true) (h0 : c a = f) (k1 : ∀ X h9 c9, pRest' (S.1 13) (S.2 15) f h = (some X, h9) → (pC9 X ∧ pCr c9 a X ∧ ∀ j, j < a → c9 j = c j) → (0 ≤ h9 ∧ h ≤ h9 ∧ h9 ≤ S.2 15) → Q (.inl (some (.int (zi 1)))) (zMh ah A (pPs S h9 c9 m))) (k0 : ∀ h9 c9, pRest' (S.1 13) (S.2 15) f h = (none, h9) → (0 ≤ h9 ∧ h9 ≤ S.2 15) → Q (.inl (some (.int (zi 0)))) (zMh ah A (pPs S h9 c9 m))) : zW G mX4_readsRest d rc rs 0 (zent [.ref (A 18), .int (zi f), .int (zi a)]) [] (zMh ah A (pPs S h c m)) Q := by
  refine zW_open 0 [some (.ref (A 18)), some (.int (zi f)), some (.int (zi a))] rfl ?_
  refine zW_tb (fun T => ?_)
  refine zr_iload_n dX4_readsRest_0 rfl ?_
  rcases of_decide_eq_true hf with rfl | rfl | rfl | rfl | rfl | rfl
  · have er : pRest' (S.1 13) (S.2 15) 112 h = pRP (S.1 13) (S.2 15) h := rfl
    rw [er] at k1 k0
    refine zr_lookup dX4_readsRest_1 (off := 51) (tgt := 52) (by decide) (by decide) (by decide) (by decide) ?_
    refine zr_aload_n dX4_readsRest_52 rfl rfl ?_
    refine zr_ldcS dX4_readsRest_53 (z_litM238 T).1 ?_
    refine zc_v1 dX4_readsRest_55 hX4_isWord gX4_isWord rfl rfl 4 0 0 (by omega) (Nat.zero_le _) (Nat.zero_le _) q2541 q2543 sp81 zM_rc ?_
    have hs55 := (z_litM238 T).2
    have h855 : zL8 [111, 105, 110, 116, 32] := ⟨by decide, by decide⟩
    refine kX4_isWord hA (by first | omega | (simp only [zuf_1, zua_s, zua_2, zuf_s, zua_e, zuf_e, Nat.reduceBEq]; omega)) hT (by first | omega | (simp only [zuf_1, zua_s, zua_2, zuf_s, zua_e, zuf_e, Nat.reduceBEq]; omega)) hs55 h855 (fun p55 e55 b55 => zK_i ?_) (fun p55 e55 b55 => zK_i ?_)
    · try simp only [zuf_1, zua_s, zua_2, zuf_s, zuf_zuf, zua_zuf, zua_zua, zua_e, zuf_e, Nat.reduceBEq, pPs_13, pPs_14, pPs_15, pPs_16, pPs_17, pPs_a, pPs_h, pPs_m]
      refine zr_ifeq dX4_readsRest_58 (tgt := 95) (by decide) (by decide) (fun h => absurd h (by decide)) (fun _ => ?_)
      refine zr_aload_n dX4_readsRest_61 rfl rfl ?_
      refine zr_bipush dX4_readsRest_62 rfl ?_
      refine zr_iload_n dX4_readsRest_64 rfl ?_
      refine zc_v2 dX4_readsRest_65 hX4_isPair gX4_isPair rfl rfl 2 0 0 (by omega) (Nat.zero_le _) (Nat.zero_le _) q2551 q2553 sp83 zM_rc ?_
      refine kX4_isPair hA (by first | omega | (simp only [zuf_1, zua_s, zua_2, zuf_s, zua_e, zuf_e, Nat.reduceBEq]; omega)) hT (by first | omega | (simp only [zuf_1, zua_s, zua_2, zuf_s, zua_e, zuf_e, Nat.reduceBEq]; omega)) (by first | omega | (simp only [zuf_1, zua_s, zua_2, zuf_s, zua_e, zuf_e, Nat.reduceBEq]; omega)) (by first | omega | (simp only [zuf_1, zua_s, zua_2, zuf_s, zua_e, zuf_e, Nat.reduceBEq]; omega)) (fun u65 v65 p65 e65 b65 => zK_i ?_) (fun p65 c65 e65 b65 => zK_i ?_)
      · try simp only [zuf_1, zua_s, zua_2, zuf_s, zuf_zuf, zua_zuf, zua_zua, zua_e, zuf_e, Nat.reduceBEq, pPs_13, pPs_14, pPs_15, pPs_16, pPs_17, pPs_a, pPs_h, pPs_m]
        refine zr_ifeq dX4_readsRest_68 (tgt := 95) (by decide) (by decide) (fun h => absurd h (by decide)) (fun _ => ?_)
        refine zr_aload_n dX4_readsRest_71 rfl rfl ?_
        refine zr_bipush dX4_readsRest_72 rfl ?_
        refine zc_v1 dX4_readsRest_74 hX4_isSign gX4_isSign rfl rfl 1 0 0 (by omega) (Nat.zero_le _) (Nat.zero_le _) q2547 q2549 sp82 zM_rc ?_
        refine kX4_isSign hA (by first | omega | (simp only [zuf_1, zua_s, zua_2, zuf_s, zua_e, zuf_e, Nat.reduceBEq]; omega)) hT (by first | omega | (simp only [zuf_1, zua_s, zua_2, zuf_s, zua_e, zuf_e, Nat.reduceBEq]; omega)) (by first | omega | (simp only [zuf_1, zua_s, zua_2, zuf_s, zua_e, zuf_e, Nat.reduceBEq]; omega)) (fun e74 l74 => zK_i ?_) (fun e74 => zK_i ?_)
        · try simp only [zuf_1, zua_s, zua_2, zuf_s, zuf_zuf, zua_zuf, zua_zua, zua_e, zuf_e, Nat.reduceBEq, pPs_13, pPs_14, pPs_15, pPs_16, pPs_17, pPs_a, pPs_h, pPs_m]
          refine zr_ifeq dX4_readsRest_77 (tgt := 95) (by decide) (by decide) (fun h => absurd h (by decide)) (fun _ => ?_)
          refine zr_aload_n dX4_readsRest_80 rfl rfl ?_
          refine zr_iconst dX4_readsRest_81 ?_
          refine zr_iload_n dX4_readsRest_82 rfl ?_
          refine zr_iconst dX4_readsRest_83 ?_
          refine zr_iadd dX4_readsRest_84 ?_
          refine zc_v2 dX4_readsRest_85 hX4_isNumber gX4_isNumber rfl rfl 1 0 0 (by omega) (Nat.zero_le _) (Nat.zero_le _) q2555 q2557 sp84 zM_rc ?_
          refine kX4_isNumber (K := 1) hA (by first | omega | (simp only [zuf_1, zua_s, zua_2, zuf_s, zua_e, zuf_e, Nat.reduceBEq]; omega)) hT (by first | omega | (simp only [zuf_1, zua_s, zua_2, zuf_s, zua_e, zuf_e, Nat.reduceBEq]; omega)) (by first | omega | (simp only [zuf_1, zua_s, zua_2, zuf_s, zua_e, zuf_e, Nat.reduceBEq]; omega)) (by first | omega | (simp only [zuf_1, zua_s, zua_2, zuf_s, zua_e, zuf_e, Nat.reduceBEq]; omega)) (fun v85 p85 e85 b85 => zK_i ?_) (fun c85 e85 => zK_i ?_)
          · try simp only [zuf_1, zua_s, zua_2, zuf_s, zuf_zuf, zua_zuf, zua_zua, zua_e, zuf_e, Nat.reduceBEq, pPs_13, pPs_14, pPs_15, pPs_16, pPs_17, pPs_a, pPs_h, pPs_m]
            refine zr_ifeq dX4_readsRest_88 (tgt := 95) (by decide) (by decide) (fun h => absurd h (by decide)) (fun _ => ?_)
            refine zr_iconst dX4_readsRest_91 ?_
            refine zr_goto dX4_readsRest_92 (tgt := 96) (by decide) ?_
            refine zr_ireturn dX4_readsRest_96 rfl (by first | rfl | exact z_nb _) ?_
            exact k1 _ _ _ (by unfold pRP; rw [pB_s e55, pB_s e65, pB_s e74, pB_s e85]) ⟨by refine ⟨⟨?_, ?_⟩, ⟨?_, ?_⟩, ⟨?_, ?_⟩, ?_⟩ <;> dsimp only <;> omega, ⟨by simp only [z_upF_s, z_upF_n (show (a : Int) ≠ a + 1 by omega), z_upF_n (show (a : Int) ≠ a + 2 by omega), z_upF_n (show (a : Int) ≠ a + 3 by omega), z_upF_n (show (a + 1 : Int) ≠ a by omega), z_upF_n (show (a + 1 : Int) ≠ a + 2 by omega), z_upF_n (show (a + 1 : Int) ≠ a + 3 by omega), z_upF_n (show (a + 2 : Int) ≠ a by omega), z_upF_n (show (a + 2 : Int) ≠ a + 1 by omega), z_upF_n (show (a + 2 : Int) ≠ a + 3 by omega), z_upF_n (show (a + 3 : Int) ≠ a by omega), z_upF_n (show (a + 3 : Int) ≠ a + 1 by omega), z_upF_n (show (a + 3 : Int) ≠ a + 2 by omega)]; (try exact h0), fun _ => by simp only [z_upF_s, z_upF_n (show (a : Int) ≠ a + 1 by omega), z_upF_n (show (a : Int) ≠ a + 2 by omega), z_upF_n (show (a : Int) ≠ a + 3 by omega), z_upF_n (show (a + 1 : Int) ≠ a by omega), z_upF_n (show (a + 1 : Int) ≠ a + 2 by omega), z_upF_n (show (a + 1 : Int) ≠ a + 3 by omega), z_upF_n (show (a + 2 : Int) ≠ a by omega), z_upF_n (show (a + 2 : Int) ≠ a + 1 by omega), z_upF_n (show (a + 2 : Int) ≠ a + 3 by omega), z_upF_n (show (a + 3 : Int) ≠ a by omega), z_upF_n (show (a + 3 : Int) ≠ a + 1 by omega), z_upF_n (show (a + 3 : Int) ≠ a + 2 by omega)], fun q => by (try dsimp only at q); first | (exfalso; omega) | simp only [z_upF_s, z_upF_n (show (a : Int) ≠ a + 1 by omega), z_upF_n (show (a : Int) ≠ a + 2 by omega), z_upF_n (show (a : Int) ≠ a + 3 by omega), z_upF_n (show (a + 1 : Int) ≠ a by omega), z_upF_n (show (a + 1 : Int) ≠ a + 2 by omega), z_upF_n (show (a + 1 : Int) ≠ a + 3 by omega), z_upF_n (show (a + 2 : Int) ≠ a by omega), z_upF_n (show (a + 2 : Int) ≠ a + 1 by omega), z_upF_n (show (a + 2 : Int) ≠ a + 3 by omega), z_upF_n (show (a + 3 : Int) ≠ a by omega), z_upF_n (show (a + 3 : Int) ≠ a + 1 by omega), z_upF_n (show (a + 3 : Int) ≠ a + 2 by omega)], fun q => by (try dsimp only at q); first | (exfalso; omega) | simp only [z_upF_s, z_upF_n (show (a : Int) ≠ a + 1 by omega), z_upF_n (show (a : Int) ≠ a + 2 by omega), z_upF_n (show (a : Int) ≠ a + 3 by omega), z_upF_n (show (a + 1 : Int) ≠ a by omega), z_upF_n (show (a + 1 : Int) ≠ a + 2 by omega), z_upF_n (show (a + 1 : Int) ≠ a + 3 by omega), z_upF_n (show (a + 2 : Int) ≠ a by omega), z_upF_n (show (a + 2 : Int) ≠ a + 1 by omega), z_upF_n (show (a + 2 : Int) ≠ a + 3 by omega), z_upF_n (show (a + 3 : Int) ≠ a by omega), z_upF_n (show (a + 3 : Int) ≠ a + 1 by omega), z_upF_n (show (a + 3 : Int) ≠ a + 2 by omega)]⟩, fun j hj => by simp only [z_upF_n (show j ≠ a + 1 by omega), z_upF_n (show j ≠ a + 2 by omega), z_upF_n (show j ≠ a + 3 by omega)]⟩ (by omega)
          · try simp only [zuf_1, zua_s, zua_2, zuf_s, zuf_zuf, zua_zuf, zua_zua, zua_e, zuf_e, Nat.reduceBEq, pPs_13, pPs_14, pPs_15, pPs_16, pPs_17, pPs_a, pPs_h, pPs_m]
            refine zr_ifeq dX4_readsRest_88 (tgt := 95) (by decide) (by decide) (fun _ => ?_) (fun h => absurd h (by decide))
            refine zr_iconst dX4_readsRest_95 ?_
            refine zr_ireturn dX4_readsRest_96 rfl (by first | rfl | exact z_nb _) ?_
            exact k0 _ _ (by unfold pRP; rw [pB_s e55, pB_s e65, pB_s e74]; exact pB_n e85) (by omega)
        · try simp only [zuf_1, zua_s, zua_2, zuf_s, zuf_zuf, zua_zuf, zua_zua, zua_e, zuf_e, Nat.reduceBEq, pPs_13, pPs_14, pPs_15, pPs_16, pPs_17, pPs_a, pPs_h, pPs_m]
          refine zr_ifeq dX4_readsRest_77 (tgt := 95) (by decide) (by decide) (fun _ => ?_) (fun h => absurd h (by decide))
          refine zr_iconst dX4_readsRest_95 ?_
          refine zr_ireturn dX4_readsRest_96 rfl (by first | rfl | exact z_nb _) ?_
          exact k0 _ _ (by unfold pRP; rw [pB_s e55, pB_s e65]; exact pB_n e74) (by omega)
      · try simp only [zuf_1, zua_s, zua_2, zuf_s, zuf_zuf, zua_zuf, zua_zua, zua_e, zuf_e, Nat.reduceBEq, pPs_13, pPs_14, pPs_15, pPs_16, pPs_17, pPs_a, pPs_h, pPs_m]
        refine zr_ifeq dX4_readsRest_68 (tgt := 95) (by decide) (by decide) (fun _ => ?_) (fun h => absurd h (by decide))
        refine zr_iconst dX4_readsRest_95 ?_
        refine zr_ireturn dX4_readsRest_96 rfl (by first | rfl | exact z_nb _) ?_
        exact k0 _ _ (by unfold pRP; rw [pB_s e55]; exact pB_n e65) (by omega)
    · try simp only [zuf_1, zua_s, zua_2, zuf_s, zuf_zuf, zua_zuf, zua_zua, zua_e, zuf_e, Nat.reduceBEq, pPs_13, pPs_14, pPs_15, pPs_16, pPs_17, pPs_a, pPs_h, pPs_m]
      refine zr_ifeq dX4_readsRest_58 (tgt := 95) (by decide) (by decide) (fun _ => ?_) (fun h => absurd h (by decide))
      refine zr_iconst dX4_readsRest_95 ?_
      refine zr_ireturn dX4_readsRest_96 rfl (by first | rfl | exact z_nb _) ?_
      exact k0 _ _ (by unfold pRP; exact pB_n e55) (by omega)
  · have er : pRest' (S.1 13) (S.2 15) 116 h = pRT (S.1 13) (S.2 15) h := rfl
    rw [er] at k1 k0
    refine zr_lookup dX4_readsRest_1 (off := 96) (tgt := 97) (by decide) (by decide) (by decide) (by decide) ?_
    refine zr_aload_n dX4_readsRest_97 rfl rfl ?_
    refine zr_iload_n dX4_readsRest_98 rfl ?_
    refine zc_v1 dX4_readsRest_99 hX4_readsT gX4_readsT rfl rfl 5 0 0 (by omega) (Nat.zero_le _) (Nat.zero_le _) q2559 q2561 sp85 zM_rc ?_
    refine kX4_readsT hA (by first | omega | (simp only [zuf_1, zua_s, zua_2, zuf_s, zua_e, zuf_e, Nat.reduceBEq]; omega)) hT (by first | omega | (simp only [zuf_1, zua_s, zua_2, zuf_s, zua_e, zuf_e, Nat.reduceBEq]; omega)) (by first | omega | (simp only [zuf_1, zua_s, zua_2, zuf_s, zua_e, zuf_e, Nat.reduceBEq]; omega)) (by first | omega | (simp only [zuf_1, zua_s, zua_2, zuf_s, zua_e, zuf_e, Nat.reduceBEq]; omega)) (fun X99 p99 c99 e99 f99 b99 => zK_i ?_) (fun p99 c99 e99 b99 => zK_i ?_)
    · try simp only [zuf_1, zua_s, zua_2, zuf_s, zuf_zuf, zua_zuf, zua_zua, zua_e, zuf_e, Nat.reduceBEq, pPs_13, pPs_14, pPs_15, pPs_16, pPs_17, pPs_a, pPs_h, pPs_m]
      refine zr_ireturn dX4_readsRest_102 rfl (by first | rfl | exact z_nb _) ?_
      exact k1 _ _ _ e99 f99 (by omega)
    · try simp only [zuf_1, zua_s, zua_2, zuf_s, zuf_zuf, zua_zuf, zua_zua, zua_e, zuf_e, Nat.reduceBEq, pPs_13, pPs_14, pPs_15, pPs_16, pPs_17, pPs_a, pPs_h, pPs_m]
      refine zr_ireturn dX4_readsRest_102 rfl (by first | rfl | exact z_nb _) ?_
      exact k0 _ _ e99 (by omega)
  · have er : pRest' (S.1 13) (S.2 15) 99 h = pRC (S.1 13) (S.2 15) h := rfl
    rw [er] at k1 k0
    refine zr_lookup dX4_readsRest_1 (off := 102) (tgt := 103) (by decide) (by decide) (by decide) (by decide) ?_
    refine zr_aload_n dX4_readsRest_103 rfl rfl ?_
    refine zr_iload_n dX4_readsRest_104 rfl ?_
    refine zc_v1 dX4_readsRest_105 hX4_readsC gX4_readsC rfl rfl 5 0 0 (by omega) (Nat.zero_le _) (Nat.zero_le _) q2565 q2567 sp86 zM_rc ?_
    refine kX4_readsC hA (by first | omega | (simp only [zuf_1, zua_s, zua_2, zuf_s, zua_e, zuf_e, Nat.reduceBEq]; omega)) hT (by first | omega | (simp only [zuf_1, zua_s, zua_2, zuf_s, zua_e, zuf_e, Nat.reduceBEq]; omega)) (by first | omega | (simp only [zuf_1, zua_s, zua_2, zuf_s, zua_e, zuf_e, Nat.reduceBEq]; omega)) (by first | omega | (simp only [zuf_1, zua_s, zua_2, zuf_s, zua_e, zuf_e, Nat.reduceBEq]; omega)) (fun X105 p105 c105 e105 f105 b105 => zK_i ?_) (fun p105 c105 e105 b105 => zK_i ?_)
    · try simp only [zuf_1, zua_s, zua_2, zuf_s, zuf_zuf, zua_zuf, zua_zua, zua_e, zuf_e, Nat.reduceBEq, pPs_13, pPs_14, pPs_15, pPs_16, pPs_17, pPs_a, pPs_h, pPs_m]
      refine zr_ireturn dX4_readsRest_108 rfl (by first | rfl | exact z_nb _) ?_
      exact k1 _ _ _ e105 f105 (by omega)
    · try simp only [zuf_1, zua_s, zua_2, zuf_s, zuf_zuf, zua_zuf, zua_zua, zua_e, zuf_e, Nat.reduceBEq, pPs_13, pPs_14, pPs_15, pPs_16, pPs_17, pPs_a, pPs_h, pPs_m]
      refine zr_ireturn dX4_readsRest_108 rfl (by first | rfl | exact z_nb _) ?_
      exact k0 _ _ e105 (by omega)
  · have er : pRest' (S.1 13) (S.2 15) 109 h = pRM (S.1 13) (S.2 15) h := rfl
    rw [er] at k1 k0
    refine zr_lookup dX4_readsRest_1 (off := 108) (tgt := 109) (by decide) (by decide) (by decide) (by decide) ?_
    refine zr_aload_n dX4_readsRest_109 rfl rfl ?_
    refine zr_iload_n dX4_readsRest_110 rfl ?_
    refine zc_v1 dX4_readsRest_111 hX4_readsM gX4_readsM rfl rfl 5 0 0 (by omega) (Nat.zero_le _) (Nat.zero_le _) q2571 q2573 sp87 zM_rc ?_
    refine kX4_readsM hA (by first | omega | (simp only [zuf_1, zua_s, zua_2, zuf_s, zua_e, zuf_e, Nat.reduceBEq]; omega)) hT (by first | omega | (simp only [zuf_1, zua_s, zua_2, zuf_s, zua_e, zuf_e, Nat.reduceBEq]; omega)) (by first | omega | (simp only [zuf_1, zua_s, zua_2, zuf_s, zua_e, zuf_e, Nat.reduceBEq]; omega)) (by first | omega | (simp only [zuf_1, zua_s, zua_2, zuf_s, zua_e, zuf_e, Nat.reduceBEq]; omega)) (fun X111 p111 c111 e111 f111 b111 => zK_i ?_) (fun p111 c111 e111 b111 => zK_i ?_)
    · try simp only [zuf_1, zua_s, zua_2, zuf_s, zuf_zuf, zua_zuf, zua_zua, zua_e, zuf_e, Nat.reduceBEq, pPs_13, pPs_14, pPs_15, pPs_16, pPs_17, pPs_a, pPs_h, pPs_m]
      refine zr_ireturn dX4_readsRest_114 rfl (by first | rfl | exact z_nb _) ?_
      exact k1 _ _ _ e111 f111 (by omega)
    · try simp only [zuf_1, zua_s, zua_2, zuf_s, zuf_zuf, zua_zuf, zua_zua, zua_e, zuf_e, Nat.reduceBEq, pPs_13, pPs_14, pPs_15, pPs_16, pPs_17, pPs_a, pPs_h, pPs_m]
      refine zr_ireturn dX4_readsRest_114 rfl (by first | rfl | exact z_nb _) ?_
      exact k0 _ _ e111 (by omega)
  · have er : pRest' (S.1 13) (S.2 15) 108 h = pRL (S.1 13) (S.2 15) h := rfl
    rw [er] at k1 k0
    refine zr_lookup dX4_readsRest_1 (off := 114) (tgt := 115) (by decide) (by decide) (by decide) (by decide) ?_
    refine zr_aload_n dX4_readsRest_115 rfl rfl ?_
    refine zr_ldcS dX4_readsRest_116 (z_litM249 T).1 ?_
    refine zc_v1 dX4_readsRest_118 hX4_isWord gX4_isWord rfl rfl 4 0 0 (by omega) (Nat.zero_le _) (Nat.zero_le _) q2541 q2543 sp81 zM_rc ?_
    have hs118 := (z_litM249 T).2
    have h8118 : zL8 [105, 109, 105, 116, 32] := ⟨by decide, by decide⟩
    refine kX4_isWord hA (by first | omega | (simp only [zuf_1, zua_s, zua_2, zuf_s, zua_e, zuf_e, Nat.reduceBEq]; omega)) hT (by first | omega | (simp only [zuf_1, zua_s, zua_2, zuf_s, zua_e, zuf_e, Nat.reduceBEq]; omega)) hs118 h8118 (fun p118 e118 b118 => zK_i ?_) (fun p118 e118 b118 => zK_i ?_)
    · try simp only [zuf_1, zua_s, zua_2, zuf_s, zuf_zuf, zua_zuf, zua_zua, zua_e, zuf_e, Nat.reduceBEq, pPs_13, pPs_14, pPs_15, pPs_16, pPs_17, pPs_a, pPs_h, pPs_m]
      refine zr_ifeq dX4_readsRest_121 (tgt := 139) (by decide) (by decide) (fun h => absurd h (by decide)) (fun _ => ?_)
      refine zr_aload_n dX4_readsRest_124 rfl rfl ?_
      refine zr_iconst dX4_readsRest_125 ?_
      refine zr_iload_n dX4_readsRest_126 rfl ?_
      refine zr_iconst dX4_readsRest_127 ?_
      refine zr_iadd dX4_readsRest_128 ?_
      refine zc_v2 dX4_readsRest_129 hX4_isNumber gX4_isNumber rfl rfl 1 0 0 (by omega) (Nat.zero_le _) (Nat.zero_le _) q2555 q2557 sp84 zM_rc ?_
      refine kX4_isNumber (K := 3) hA (by first | omega | (simp only [zuf_1, zua_s, zua_2, zuf_s, zua_e, zuf_e, Nat.reduceBEq]; omega)) hT (by first | omega | (simp only [zuf_1, zua_s, zua_2, zuf_s, zua_e, zuf_e, Nat.reduceBEq]; omega)) (by first | omega | (simp only [zuf_1, zua_s, zua_2, zuf_s, zua_e, zuf_e, Nat.reduceBEq]; omega)) (by first | omega | (simp only [zuf_1, zua_s, zua_2, zuf_s, zua_e, zuf_e, Nat.reduceBEq]; omega)) (fun v129 p129 e129 b129 => zK_i ?_) (fun c129 e129 => zK_i ?_)
      · try simp only [zuf_1, zua_s, zua_2, zuf_s, zuf_zuf, zua_zuf, zua_zua, zua_e, zuf_e, Nat.reduceBEq, pPs_13, pPs_14, pPs_15, pPs_16, pPs_17, pPs_a, pPs_h, pPs_m]
        refine zr_ifeq dX4_readsRest_132 (tgt := 139) (by decide) (by decide) (fun h => absurd h (by decide)) (fun _ => ?_)
        refine zr_iconst dX4_readsRest_135 ?_
        refine zr_goto dX4_readsRest_136 (tgt := 140) (by decide) ?_
        refine zr_ireturn dX4_readsRest_140 rfl (by first | rfl | exact z_nb _) ?_
        exact k1 _ _ _ (by unfold pRL; rw [pB_s e118, pB_s e129]) ⟨by refine ⟨⟨?_, ?_⟩, ⟨?_, ?_⟩, ⟨?_, ?_⟩, ?_⟩ <;> dsimp only <;> omega, ⟨by simp only [z_upF_s, z_upF_n (show (a : Int) ≠ a + 1 by omega), z_upF_n (show (a : Int) ≠ a + 2 by omega), z_upF_n (show (a : Int) ≠ a + 3 by omega), z_upF_n (show (a + 1 : Int) ≠ a by omega), z_upF_n (show (a + 1 : Int) ≠ a + 2 by omega), z_upF_n (show (a + 1 : Int) ≠ a + 3 by omega), z_upF_n (show (a + 2 : Int) ≠ a by omega), z_upF_n (show (a + 2 : Int) ≠ a + 1 by omega), z_upF_n (show (a + 2 : Int) ≠ a + 3 by omega), z_upF_n (show (a + 3 : Int) ≠ a by omega), z_upF_n (show (a + 3 : Int) ≠ a + 1 by omega), z_upF_n (show (a + 3 : Int) ≠ a + 2 by omega)]; (try exact h0), fun _ => by simp only [z_upF_s, z_upF_n (show (a : Int) ≠ a + 1 by omega), z_upF_n (show (a : Int) ≠ a + 2 by omega), z_upF_n (show (a : Int) ≠ a + 3 by omega), z_upF_n (show (a + 1 : Int) ≠ a by omega), z_upF_n (show (a + 1 : Int) ≠ a + 2 by omega), z_upF_n (show (a + 1 : Int) ≠ a + 3 by omega), z_upF_n (show (a + 2 : Int) ≠ a by omega), z_upF_n (show (a + 2 : Int) ≠ a + 1 by omega), z_upF_n (show (a + 2 : Int) ≠ a + 3 by omega), z_upF_n (show (a + 3 : Int) ≠ a by omega), z_upF_n (show (a + 3 : Int) ≠ a + 1 by omega), z_upF_n (show (a + 3 : Int) ≠ a + 2 by omega)], fun q => by (try dsimp only at q); first | (exfalso; omega) | simp only [z_upF_s, z_upF_n (show (a : Int) ≠ a + 1 by omega), z_upF_n (show (a : Int) ≠ a + 2 by omega), z_upF_n (show (a : Int) ≠ a + 3 by omega), z_upF_n (show (a + 1 : Int) ≠ a by omega), z_upF_n (show (a + 1 : Int) ≠ a + 2 by omega), z_upF_n (show (a + 1 : Int) ≠ a + 3 by omega), z_upF_n (show (a + 2 : Int) ≠ a by omega), z_upF_n (show (a + 2 : Int) ≠ a + 1 by omega), z_upF_n (show (a + 2 : Int) ≠ a + 3 by omega), z_upF_n (show (a + 3 : Int) ≠ a by omega), z_upF_n (show (a + 3 : Int) ≠ a + 1 by omega), z_upF_n (show (a + 3 : Int) ≠ a + 2 by omega)], fun q => by (try dsimp only at q); first | (exfalso; omega) | simp only [z_upF_s, z_upF_n (show (a : Int) ≠ a + 1 by omega), z_upF_n (show (a : Int) ≠ a + 2 by omega), z_upF_n (show (a : Int) ≠ a + 3 by omega), z_upF_n (show (a + 1 : Int) ≠ a by omega), z_upF_n (show (a + 1 : Int) ≠ a + 2 by omega), z_upF_n (show (a + 1 : Int) ≠ a + 3 by omega), z_upF_n (show (a + 2 : Int) ≠ a by omega), z_upF_n (show (a + 2 : Int) ≠ a + 1 by omega), z_upF_n (show (a + 2 : Int) ≠ a + 3 by omega), z_upF_n (show (a + 3 : Int) ≠ a by omega), z_upF_n (show (a + 3 : Int) ≠ a + 1 by omega), z_upF_n (show (a + 3 : Int) ≠ a + 2 by omega)]⟩, fun j hj => by simp only [z_upF_n (show j ≠ a + 1 by omega)]⟩ (by omega)
      · try simp only [zuf_1, zua_s, zua_2, zuf_s, zuf_zuf, zua_zuf, zua_zua, zua_e, zuf_e, Nat.reduceBEq, pPs_13, pPs_14, pPs_15, pPs_16, pPs_17, pPs_a, pPs_h, pPs_m]
        refine zr_ifeq dX4_readsRest_132 (tgt := 139) (by decide) (by decide) (fun _ => ?_) (fun h => absurd h (by decide))
        refine zr_iconst dX4_readsRest_139 ?_
        refine zr_ireturn dX4_readsRest_140 rfl (by first | rfl | exact z_nb _) ?_
        exact k0 _ _ (by unfold pRL; rw [pB_s e118]; exact pB_n e129) (by omega)
    · try simp only [zuf_1, zua_s, zua_2, zuf_s, zuf_zuf, zua_zuf, zua_zua, zua_e, zuf_e, Nat.reduceBEq, pPs_13, pPs_14, pPs_15, pPs_16, pPs_17, pPs_a, pPs_h, pPs_m]
      refine zr_ifeq dX4_readsRest_121 (tgt := 139) (by decide) (by decide) (fun _ => ?_) (fun h => absurd h (by decide))
      refine zr_iconst dX4_readsRest_139 ?_
      refine zr_ireturn dX4_readsRest_140 rfl (by first | rfl | exact z_nb _) ?_
      exact k0 _ _ (by unfold pRL; exact pB_n e118) (by omega)
  · have er : pRest' (S.1 13) (S.2 15) 115 h = pRS (S.1 13) (S.2 15) h := rfl
    rw [er] at k1 k0
    refine zr_lookup dX4_readsRest_1 (off := 140) (tgt := 141) (by decide) (by decide) (by decide) (by decide) ?_
    refine zr_aload_n dX4_readsRest_141 rfl rfl ?_
    refine zr_ldcS dX4_readsRest_142 (z_litM251 T).1 ?_
    refine zc_v1 dX4_readsRest_144 hX4_isWord gX4_isWord rfl rfl 4 0 0 (by omega) (Nat.zero_le _) (Nat.zero_le _) q2541 q2543 sp81 zM_rc ?_
    have hs144 := (z_litM251 T).2
    have h8144 : zL8 [116, 111, 112] := ⟨by decide, by decide⟩
    refine kX4_isWord hA (by first | omega | (simp only [zuf_1, zua_s, zua_2, zuf_s, zua_e, zuf_e, Nat.reduceBEq]; omega)) hT (by first | omega | (simp only [zuf_1, zua_s, zua_2, zuf_s, zua_e, zuf_e, Nat.reduceBEq]; omega)) hs144 h8144 (fun p144 e144 b144 => zK_i ?_) (fun p144 e144 b144 => zK_i ?_)
    · try simp only [zuf_1, zua_s, zua_2, zuf_s, zuf_zuf, zua_zuf, zua_zua, zua_e, zuf_e, Nat.reduceBEq, pPs_13, pPs_14, pPs_15, pPs_16, pPs_17, pPs_a, pPs_h, pPs_m]
      refine zr_ireturn dX4_readsRest_147 rfl (by first | rfl | exact z_nb _) ?_
      exact k1 _ _ _ (by unfold pRS; rw [pB_s e144]) ⟨by refine ⟨⟨?_, ?_⟩, ⟨?_, ?_⟩, ⟨?_, ?_⟩, ?_⟩ <;> dsimp only <;> omega, ⟨h0, fun q => absurd rfl q, fun q => by (try dsimp only at q); exfalso; omega, fun q => by (try dsimp only at q); exfalso; omega⟩, fun j hj => rfl⟩ (by omega)
    · try simp only [zuf_1, zua_s, zua_2, zuf_s, zuf_zuf, zua_zuf, zua_zua, zua_e, zuf_e, Nat.reduceBEq, pPs_13, pPs_14, pPs_15, pPs_16, pPs_17, pPs_a, pPs_h, pPs_m]
      refine zr_ireturn dX4_readsRest_147 rfl (by first | rfl | exact z_nb _) ?_
      exact k0 _ _ (by unfold pRS; exact pB_n e144) (by omega)
theorem kX4_isFirst {G : State} {d rc rs : Nat} {ah : zH} {Q : zRs → zH → Prop} {f : Int} (qf : -2147483648 ≤ f ∧ f ≤ 2147483647) (k : Q (.inl (some (.int (zi (zB (pFst f)))))) ah) : zW G mX4_isFirst d rc rs 0 (zent [.int (zi f)]) [] ah Q := by
  refine zW_open 0 [some (.int (zi f))] rfl ?_
  refine zr_iload_n dX4_isFirst_0 rfl ?_
  refine zr_bipush dX4_isFirst_1 rfl ?_
  refine zr_icmpeq dX4_isFirst_3 (tgt := 36) (by decide) (by omega) (by omega) (fun h3 => ?_) (fun h3 => ?_)
  · refine zr_iconst dX4_isFirst_36 ?_
    refine zr_goto dX4_isFirst_37 (tgt := 41) (by decide) ?_
    refine zr_ireturn dX4_isFirst_41 rfl (by first | rfl | exact z_nb _) ?_
    exact zQi k (by unfold pFst; first | (rw [decide_eq_true (by omega)]; rfl) | (rw [decide_eq_false (by omega)]; rfl))
  · refine zr_iload_n dX4_isFirst_6 rfl ?_
    refine zr_bipush dX4_isFirst_7 rfl ?_
    refine zr_icmpeq dX4_isFirst_9 (tgt := 36) (by decide) (by omega) (by omega) (fun h9 => ?_) (fun h9 => ?_)
    · refine zr_iconst dX4_isFirst_36 ?_
      refine zr_goto dX4_isFirst_37 (tgt := 41) (by decide) ?_
      refine zr_ireturn dX4_isFirst_41 rfl (by first | rfl | exact z_nb _) ?_
      exact zQi k (by unfold pFst; first | (rw [decide_eq_true (by omega)]; rfl) | (rw [decide_eq_false (by omega)]; rfl))
    · refine zr_iload_n dX4_isFirst_12 rfl ?_
      refine zr_bipush dX4_isFirst_13 rfl ?_
      refine zr_icmpeq dX4_isFirst_15 (tgt := 36) (by decide) (by omega) (by omega) (fun h15 => ?_) (fun h15 => ?_)
      · refine zr_iconst dX4_isFirst_36 ?_
        refine zr_goto dX4_isFirst_37 (tgt := 41) (by decide) ?_
        refine zr_ireturn dX4_isFirst_41 rfl (by first | rfl | exact z_nb _) ?_
        exact zQi k (by unfold pFst; first | (rw [decide_eq_true (by omega)]; rfl) | (rw [decide_eq_false (by omega)]; rfl))
      · refine zr_iload_n dX4_isFirst_18 rfl ?_
        refine zr_bipush dX4_isFirst_19 rfl ?_
        refine zr_icmpeq dX4_isFirst_21 (tgt := 36) (by decide) (by omega) (by omega) (fun h21 => ?_) (fun h21 => ?_)
        · refine zr_iconst dX4_isFirst_36 ?_
          refine zr_goto dX4_isFirst_37 (tgt := 41) (by decide) ?_
          refine zr_ireturn dX4_isFirst_41 rfl (by first | rfl | exact z_nb _) ?_
          exact zQi k (by unfold pFst; first | (rw [decide_eq_true (by omega)]; rfl) | (rw [decide_eq_false (by omega)]; rfl))
        · refine zr_iload_n dX4_isFirst_24 rfl ?_
          refine zr_bipush dX4_isFirst_25 rfl ?_
          refine zr_icmpeq dX4_isFirst_27 (tgt := 36) (by decide) (by omega) (by omega) (fun h27 => ?_) (fun h27 => ?_)
          · refine zr_iconst dX4_isFirst_36 ?_
            refine zr_goto dX4_isFirst_37 (tgt := 41) (by decide) ?_
            refine zr_ireturn dX4_isFirst_41 rfl (by first | rfl | exact z_nb _) ?_
            exact zQi k (by unfold pFst; first | (rw [decide_eq_true (by omega)]; rfl) | (rw [decide_eq_false (by omega)]; rfl))
          · refine zr_iload_n dX4_isFirst_30 rfl ?_
            refine zr_bipush dX4_isFirst_31 rfl ?_
            refine zr_icmpne dX4_isFirst_33 (tgt := 40) (by decide) (by omega) (by omega) (fun h33 => ?_) (fun h33 => ?_)
            · refine zr_iconst dX4_isFirst_40 ?_
              refine zr_ireturn dX4_isFirst_41 rfl (by first | rfl | exact z_nb _) ?_
              exact zQi k (by unfold pFst; first | (rw [decide_eq_true (by omega)]; rfl) | (rw [decide_eq_false (by omega)]; rfl))
            · refine zr_iconst dX4_isFirst_36 ?_
              refine zr_goto dX4_isFirst_37 (tgt := 41) (by decide) ?_
              refine zr_ireturn dX4_isFirst_41 rfl (by first | rfl | exact z_nb _) ?_
              exact zQi k (by unfold pFst; first | (rw [decide_eq_true (by omega)]; rfl) | (rw [decide_eq_false (by omega)]; rfl))
theorem kX4_readsCommand {G : State} {d rc rs : Nat} {ah : zH} {A : Nat → Nat} {S : zMS} {Q : zRs → zH → Prop} (hA : zMi A) (hd : 7 ≤ d) {h m : Int} {c : Int → Int} (hT : pTp (S.1 13) (S.2 15)) (hh : 0 ≤ h ∧ h ≤ S.2 15) (hm : 0 ≤ m ∧ 2 * m ≤ h) (k1 : ∀ X h9 c9, pCmd (S.1 13) (S.2 15) h = (some X, h9) → (pC9 X ∧ pCr c9 (4 * m) X ∧ ∀ j, j < 4 * m → c9 j = c j) → (h < h9 ∧ h9 ≤ S.2 15) → Q (.inl (some (.int (zi 1)))) (zMh ah A (pPs S h9 c9 (m + 1)))) (k0 : ∀ h9 c9 m9, pCmd (S.1 13) (S.2 15) h = (none, h9) → (0 ≤ h9 ∧ h9 ≤ S.2 15) → Q (.inl (some (.int (zi 0)))) (zMh ah A (pPs S h9 c9 m9))) : zW G mX4_readsCommand d rc rs 0 (zent [.ref (A 18)]) [] (zMh ah A (pPs S h c m)) Q := by
  refine zW_open 2 [some (.ref (A 18)), none, none] rfl ?_
  refine zr_iconst dX4_readsCommand_0 ?_
  refine zr_aload_n dX4_readsCommand_1 rfl rfl ?_
  refine zm_geti 17 dX4_readsCommand_2 q2136 rfl ?_
  try simp only [zuf_1, zua_s, zua_2, zuf_s, zuf_zuf, zua_zuf, zua_zua, zua_e, zuf_e, Nat.reduceBEq, pPs_13, pPs_14, pPs_15, pPs_16, pPs_17, pPs_a, pPs_h, pPs_m]
  refine zr_imul dX4_readsCommand_5 ?_
  refine zr_istore_n dX4_readsCommand_6 (by decide) (zs3_1 rfl ?_)
  refine zr_aload_n dX4_readsCommand_7 rfl rfl ?_
  refine zc_v0 dX4_readsCommand_8 hX4_sign gX4_sign rfl rfl 0 0 0 (by omega) (Nat.zero_le _) (Nat.zero_le _) q2529 q2531 sp79 zM_rc ?_
  refine kX4_sign hA hT (by first | omega | (simp only [zuf_1, zua_s, zua_2, zuf_s, zua_e, zuf_e, Nat.reduceBEq]; omega)) (zK_i ?_)
  have sb := pSg_b hT hh.1
  refine zr_istore_n dX4_readsCommand_11 (by decide) (zs3_2 rfl ?_)
  refine zr_iload_n dX4_readsCommand_12 rfl ?_
  refine zc_s1 dX4_readsCommand_13 hX4_isFirst gX4_isFirst rfl rfl 0 0 0 (by omega) (Nat.zero_le _) (Nat.zero_le _) q2533 q2534 ?_
  refine kX4_isFirst (by first | omega | (simp only [zuf_1, zua_s, zua_2, zuf_s, zua_e, zuf_e, Nat.reduceBEq]; omega)) (zK_i ?_)
  refine zr_ifneB dX4_readsCommand_16 (tgt := 21) (by decide) (fun h16 => ?_) (fun h16 => ?_)
  · have hfs := h16
    have hn := pSg_l (t := S.1 13) (n := S.2 15) (h := h) rfl (by have := of_decide_eq_true h16; omega)
    have ef : pCmd (S.1 13) (S.2 15) h = pRest' (S.1 13) (S.2 15) (pSg (S.1 13) (S.2 15) h) (h + 1) := by unfold pCmd; rw [if_pos h16]
    have t60 := hT.2.1
    refine zr_aload_n dX4_readsCommand_21 rfl rfl ?_
    refine zm_geta 14 dX4_readsCommand_22 q2133 rfl ?_
    try simp only [zuf_1, zua_s, zua_2, zuf_s, zuf_zuf, zua_zuf, zua_zua, zua_e, zuf_e, Nat.reduceBEq, pPs_13, pPs_14, pPs_15, pPs_16, pPs_17, pPs_a, pPs_h, pPs_m]
    refine zr_iload_n dX4_readsCommand_25 rfl ?_
    refine zr_iload_n dX4_readsCommand_26 rfl ?_
    refine zm_store hA (by decide) dX4_readsCommand_27 (by constructor <;> (try simp only [zMn]) <;> omega) ?_
    try simp only [zuf_1, zua_s, zua_2, zuf_s, zuf_zuf, zua_zuf, zua_zua, zua_e, zuf_e, Nat.reduceBEq, pPs_13, pPs_14, pPs_15, pPs_16, pPs_17, pPs_a, pPs_h, pPs_m]
    refine zr_aload_n dX4_readsCommand_28 rfl rfl ?_
    refine zr_dup dX4_readsCommand_29 rfl ?_
    refine zm_geti 16 dX4_readsCommand_30 q2135 rfl ?_
    try simp only [zuf_1, zua_s, zua_2, zuf_s, zuf_zuf, zua_zuf, zua_zua, zua_e, zuf_e, Nat.reduceBEq, pPs_13, pPs_14, pPs_15, pPs_16, pPs_17, pPs_a, pPs_h, pPs_m]
    refine zr_iconst dX4_readsCommand_33 ?_
    refine zr_iadd dX4_readsCommand_34 ?_
    refine zm_put 16 dX4_readsCommand_35 q2135 (by decide) ?_
    try simp only [zuf_1, zua_s, zua_2, zuf_s, zuf_zuf, zua_zuf, zua_zua, zua_e, zuf_e, Nat.reduceBEq, pPs_13, pPs_14, pPs_15, pPs_16, pPs_17, pPs_a, pPs_h, pPs_m]
    refine zr_aload_n dX4_readsCommand_38 rfl rfl ?_
    refine zr_dup dX4_readsCommand_39 rfl ?_
    refine zm_geti 17 dX4_readsCommand_40 q2136 rfl ?_
    try simp only [zuf_1, zua_s, zua_2, zuf_s, zuf_zuf, zua_zuf, zua_zua, zua_e, zuf_e, Nat.reduceBEq, pPs_13, pPs_14, pPs_15, pPs_16, pPs_17, pPs_a, pPs_h, pPs_m]
    refine zr_iconst dX4_readsCommand_43 ?_
    refine zr_iadd dX4_readsCommand_44 ?_
    refine zm_put 17 dX4_readsCommand_45 q2136 (by decide) ?_
    try simp only [zuf_1, zua_s, zua_2, zuf_s, zuf_zuf, zua_zuf, zua_zua, zua_e, zuf_e, Nat.reduceBEq, pPs_13, pPs_14, pPs_15, pPs_16, pPs_17, pPs_a, pPs_h, pPs_m]
    refine zr_aload_n dX4_readsCommand_48 rfl rfl ?_
    refine zr_iload_n dX4_readsCommand_49 rfl ?_
    refine zr_iload_n dX4_readsCommand_50 rfl ?_
    refine zc_v2 dX4_readsCommand_51 hX4_readsRest gX4_readsRest rfl rfl 6 0 0 (by omega) (Nat.zero_le _) (Nat.zero_le _) q2536 q2538 sp80 zM_rc ?_
    have hc0 : z_upF c (4 * m) (pSg (S.1 13) (S.2 15) h) (4 * m) = pSg (S.1 13) (S.2 15) h := z_upF_s
    refine kX4_readsRest hA (by first | omega | (simp only [zuf_1, zua_s, zua_2, zuf_s, zua_e, zuf_e, Nat.reduceBEq]; omega)) hT (by first | omega | (simp only [zuf_1, zua_s, zua_2, zuf_s, zua_e, zuf_e, Nat.reduceBEq]; omega)) (by first | omega | (simp only [zuf_1, zua_s, zua_2, zuf_s, zua_e, zuf_e, Nat.reduceBEq]; omega)) hfs hc0 (fun X51 p51 c51 e51 f51 b51 => zK_i ?_) (fun p51 c51 e51 b51 => zK_i ?_)
    · try simp only [zuf_1, zua_s, zua_2, zuf_s, zuf_zuf, zua_zuf, zua_zua, zua_e, zuf_e, Nat.reduceBEq, pPs_13, pPs_14, pPs_15, pPs_16, pPs_17, pPs_a, pPs_h, pPs_m]
      refine zr_ireturn dX4_readsCommand_54 rfl (by first | rfl | exact z_nb _) ?_
      exact k1 _ _ _ (by rw [ef]; exact e51) ⟨f51.1, f51.2.1, fun j hj => by rw [f51.2.2 j hj, z_upF_n (by omega)]⟩ (by omega)
    · try simp only [zuf_1, zua_s, zua_2, zuf_s, zuf_zuf, zua_zuf, zua_zua, zua_e, zuf_e, Nat.reduceBEq, pPs_13, pPs_14, pPs_15, pPs_16, pPs_17, pPs_a, pPs_h, pPs_m]
      refine zr_ireturn dX4_readsCommand_54 rfl (by first | rfl | exact z_nb _) ?_
      exact k0 _ _ _ (by rw [ef]; exact e51) (by omega)
  · have ef : pCmd (S.1 13) (S.2 15) h = (none, h) := by unfold pCmd; rw [if_neg (fun z => by rw [h16] at z; cases z)]
    refine zr_iconst dX4_readsCommand_19 ?_
    refine zr_ireturn dX4_readsCommand_20 rfl (by first | rfl | exact z_nb _) ?_
    exact k0 _ _ _ ef hh
def pPg (t : Int → Int) (n : Int) : Nat → Int → pO (List pI4)
  | 0, h => (none, h)
  | f + 1, h => pB (pCmd t n h) (fun X h => pB (if pSg t n h = 59 then pPg t n f (h + 1) else (some [], h)) (fun l h => (some (X :: l), h)))
/-- a program: its commands, or where it goes wrong -/
def pProg (t : Int → Int) (n : Int) : pO (List pI4) := match pPg t n 61 0 with
  | (some l, h) => if h = n then (some l, h) else (none, h)
  | (none, h) => (none, h)
/-- the commands' cells tell these commands -/
def pCl (c : Int → Int) (l : List pI4) : Prop := ∀ (i : Nat) (X : pI4), l[i]? = some X → pC9 X ∧ pCr c (4 * i) X
theorem pCr_c {c c' : Int → Int} {a : Int} {X : pI4} (h : pCr c a X) (e : ∀ j, a ≤ j → j < a + 4 → c' j = c j) : pCr c' a X := by
  obtain ⟨h1, h2, h3, h4⟩ := h
  exact ⟨by rw [e a (by omega) (by omega)]; exact h1, fun q => by rw [e _ (by omega) (by omega)]; exact h2 q, fun q => by rw [e _ (by omega) (by omega)]; exact h3 q, fun q => by rw [e _ (by omega) (by omega)]; exact h4 q⟩
theorem pCl_s {c c' : Int → Int} {l : List pI4} {X : pI4} (h : pCl c l) (h9 : pC9 X) (hr : pCr c' (4 * (l.length : Nat)) X) (e : ∀ j : Int, j < 4 * (l.length : Nat) → c' j = c j) : pCl c' (l ++ [X]) := by
  intro i Y hY
  by_cases hi : i < l.length
  · rw [List.getElem?_append_left hi] at hY
    obtain ⟨a, b⟩ := h i Y hY
    exact ⟨a, pCr_c b (fun j _ _ => e j (by omega))⟩
  · have hi2 : i = l.length := by
      have := (List.getElem?_eq_some_iff.mp hY).1
      simp at this
      omega
    subst hi2
    rw [List.getElem?_append_right (by omega)] at hY
    simp at hY
    subst hY
    exact ⟨h9, hr⟩
theorem kX4_isProgramL {G : State} {d rc rs : Nat} {ah : zH} {A : Nat → Nat} {S : zMS} {Q : zRs → zH → Prop} (hA : zMi A) (hd : 8 ≤ d) (hT : pTp (S.1 13) (S.2 15)) (n : Nat) : ∀ (h : Int) (c : Int → Int) (l : List pI4), S.2 15 - h < n → 0 ≤ h ∧ h ≤ S.2 15 → 1 ≤ l.length ∧ 2 * (l.length : Int) ≤ h + 1 → pCl c l → ((∀ m h9 c9, (if pSg (S.1 13) (S.2 15) h = 59 then pPg (S.1 13) (S.2 15) n (h + 1) else (some [], h)) = (some m, h9) → h9 = S.2 15 → pCl c9 (l ++ m) → 2 * ((l ++ m).length : Int) ≤ 61 → Q (.inl (some (.int (zi 1)))) (zMh ah A (pPs S h9 c9 ((l ++ m).length : Nat)))) ∧ (∀ h9 c9 m9, ((if pSg (S.1 13) (S.2 15) h = 59 then pPg (S.1 13) (S.2 15) n (h + 1) else (some [], h)) = (none, h9) ∨ ∃ m, (if pSg (S.1 13) (S.2 15) h = 59 then pPg (S.1 13) (S.2 15) n (h + 1) else (some [], h)) = (some m, h9) ∧ h9 ≠ S.2 15) → (0 ≤ h9 ∧ h9 ≤ S.2 15) → Q (.inl (some (.int (zi 0)))) (zMh ah A (pPs S h9 c9 m9)))) → zW G mX4_isProgram d rc rs 15 [some (.ref (A 18)), some (.int (zi 1))] [] (zMh ah A (pPs S h c (l.length : Nat))) Q := by
  induction n with
  | zero => intro h c l g1 g2; omega
  | succ n ih =>
    intro h c l g1 g2 g3 g4 k
    obtain ⟨k1, k0⟩ := k
    have hh := g2
    have t60 := hT.2.1
    refine zr_iload_n dX4_isProgram_15 rfl ?_
    refine zr_ifeq dX4_isProgram_16 (tgt := 36) (by decide) (by decide) (fun h => absurd h (by decide)) (fun _ => ?_)
    refine zr_aload_n dX4_isProgram_19 rfl rfl ?_
    refine zr_bipush dX4_isProgram_20 rfl ?_
    refine zc_v1 dX4_isProgram_22 hX4_isSign gX4_isSign rfl rfl 1 0 0 (by omega) (Nat.zero_le _) (Nat.zero_le _) q2547 q2549 sp82 zM_rc ?_
    refine kX4_isSign hA (by first | omega | (simp only [zuf_1, zua_s, zua_2, zuf_s, zua_e, zuf_e, Nat.reduceBEq]; omega)) hT (by first | omega | (simp only [zuf_1, zua_s, zua_2, zuf_s, zua_e, zuf_e, Nat.reduceBEq]; omega)) (by first | omega | (simp only [zuf_1, zua_s, zua_2, zuf_s, zua_e, zuf_e, Nat.reduceBEq]; omega)) (fun e22 l22 => zK_i ?_) (fun e22 => zK_i ?_)
    · try simp only [zuf_1, zua_s, zua_2, zuf_s, zuf_zuf, zua_zuf, zua_zua, zua_e, zuf_e, Nat.reduceBEq, pPs_13, pPs_14, pPs_15, pPs_16, pPs_17, pPs_a, pPs_h, pPs_m]
      refine zr_ifeq dX4_isProgram_25 (tgt := 36) (by decide) (by decide) (fun h => absurd h (by decide)) (fun _ => ?_)
      refine zr_aload_n dX4_isProgram_28 rfl rfl ?_
      refine zc_v0 dX4_isProgram_29 hX4_readsCommand gX4_readsCommand rfl rfl 7 0 0 (by omega) (Nat.zero_le _) (Nat.zero_le _) q2525 q2527 sp78 zM_rc ?_
      refine kX4_readsCommand hA (by first | omega | (simp only [zuf_1, zua_s, zua_2, zuf_s, zua_e, zuf_e, Nat.reduceBEq]; omega)) hT (by first | omega | (simp only [zuf_1, zua_s, zua_2, zuf_s, zua_e, zuf_e, Nat.reduceBEq]; omega)) (by first | omega | (simp only [zuf_1, zua_s, zua_2, zuf_s, zua_e, zuf_e, Nat.reduceBEq]; omega)) (fun X29 p29 c29 e29 f29 b29 => zK_i ?_) (fun p29 c29 m29 e29 b29 => zK_i ?_)
      · try simp only [zuf_1, zua_s, zua_2, zuf_s, zuf_zuf, zua_zuf, zua_zua, zua_e, zuf_e, Nat.reduceBEq, pPs_13, pPs_14, pPs_15, pPs_16, pPs_17, pPs_a, pPs_h, pPs_m]
        refine zr_istore_n dX4_isProgram_32 (by decide) (zs2_1 rfl ?_)
        refine zr_goto dX4_isProgram_33 (tgt := 15) (by decide) ?_
        have et : ∀ x : pO (List pI4), (if pSg (S.1 13) (S.2 15) h = 59 then pPg (S.1 13) (S.2 15) (n + 1) (h + 1) else (some [], h)) = pB (if pSg (S.1 13) (S.2 15) p29 = 59 then pPg (S.1 13) (S.2 15) n (p29 + 1) else (some [], p29)) (fun l h => (some (X29 :: l), h)) := fun _ => by rw [if_pos (pCh_t e22), pPg, pB_s e29]
        have et := et (none, 0)
        have w := ih p29 c29 (l ++ [X29]) (by omega) (by omega) (by rw [List.length_append, List.length_singleton]; omega) (pCl_s g4 f29.1 f29.2.1 f29.2.2) ⟨fun m h9 c9 q1 q2 q3 q4 => by
          have := k1 (X29 :: m) h9 c9 (by rw [et]; exact pB_s q1) q2 (by rw [List.append_assoc] at q3; exact q3) (by rw [List.append_assoc] at q4; exact q4)
          rw [List.append_assoc]
          exact this, fun h9 c9 m9 q1 q2 => k0 h9 c9 m9 (by
          rw [et]
          rcases q1 with q1 | ⟨m, q1, q3⟩
          · exact Or.inl (pB_n q1)
          · exact Or.inr ⟨X29 :: m, pB_s q1, q3⟩) q2⟩
        rw [List.length_append, List.length_singleton] at w
        exact w
      · try simp only [zuf_1, zua_s, zua_2, zuf_s, zuf_zuf, zua_zuf, zua_zua, zua_e, zuf_e, Nat.reduceBEq, pPs_13, pPs_14, pPs_15, pPs_16, pPs_17, pPs_a, pPs_h, pPs_m]
        refine zr_istore_n dX4_isProgram_32 (by decide) (zs2_1 rfl ?_)
        refine zr_goto dX4_isProgram_33 (tgt := 15) (by decide) ?_
        refine zr_iload_n dX4_isProgram_15 rfl ?_
        refine zr_ifeq dX4_isProgram_16 (tgt := 36) (by decide) (by decide) (fun _ => ?_) (fun h => absurd h (by decide))
        refine zr_iload_n dX4_isProgram_36 rfl ?_
        refine zr_ifeq dX4_isProgram_37 (tgt := 55) (by decide) (by decide) (fun _ => ?_) (fun h => absurd h (by decide))
        refine zr_iconst dX4_isProgram_55 ?_
        refine zr_ireturn dX4_isProgram_56 rfl (by first | rfl | exact z_nb _) ?_
        exact k0 p29 c29 m29 (Or.inl (by rw [if_pos (pCh_t e22), pPg]; exact pB_n e29)) (by omega)
    · try simp only [zuf_1, zua_s, zua_2, zuf_s, zuf_zuf, zua_zuf, zua_zua, zua_e, zuf_e, Nat.reduceBEq, pPs_13, pPs_14, pPs_15, pPs_16, pPs_17, pPs_a, pPs_h, pPs_m]
      refine zr_ifeq dX4_isProgram_25 (tgt := 36) (by decide) (by decide) (fun _ => ?_) (fun h => absurd h (by decide))
      refine zr_iload_n dX4_isProgram_36 rfl ?_
      refine zr_ifeq dX4_isProgram_37 (tgt := 55) (by decide) (by decide) (fun h => absurd h (by decide)) (fun _ => ?_)
      refine zr_aload_n dX4_isProgram_40 rfl rfl ?_
      refine zm_geti 16 dX4_isProgram_41 q2135 rfl ?_
      try simp only [zuf_1, zua_s, zua_2, zuf_s, zuf_zuf, zua_zuf, zua_zua, zua_e, zuf_e, Nat.reduceBEq, pPs_13, pPs_14, pPs_15, pPs_16, pPs_17, pPs_a, pPs_h, pPs_m]
      refine zr_aload_n dX4_isProgram_44 rfl rfl ?_
      refine zm_geti 15 dX4_isProgram_45 q2134 rfl ?_
      try simp only [zuf_1, zua_s, zua_2, zuf_s, zuf_zuf, zua_zuf, zua_zua, zua_e, zuf_e, Nat.reduceBEq, pPs_13, pPs_14, pPs_15, pPs_16, pPs_17, pPs_a, pPs_h, pPs_m]
      refine zr_icmpne dX4_isProgram_48 (tgt := 55) (by decide) (by omega) (by omega) (fun h48 => ?_) (fun h48 => ?_)
      · refine zr_iconst dX4_isProgram_55 ?_
        refine zr_ireturn dX4_isProgram_56 rfl (by first | rfl | exact z_nb _) ?_
        have et : (if pSg (S.1 13) (S.2 15) h = 59 then pPg (S.1 13) (S.2 15) (n + 1) (h + 1) else (some [], h)) = (some [], h) := by rw [if_neg (pCh_f e22)]
        first
          | exact k0 h c _ (Or.inr ⟨[], et, by omega⟩) g2
          | (have w := k1 [] h c et (by omega) (by rw [List.append_nil]; exact g4) (by rw [List.append_nil]; omega)
             rw [List.append_nil] at w
             exact w)
      · refine zr_iconst dX4_isProgram_51 ?_
        refine zr_goto dX4_isProgram_52 (tgt := 56) (by decide) ?_
        refine zr_ireturn dX4_isProgram_56 rfl (by first | rfl | exact z_nb _) ?_
        have et : (if pSg (S.1 13) (S.2 15) h = 59 then pPg (S.1 13) (S.2 15) (n + 1) (h + 1) else (some [], h)) = (some [], h) := by rw [if_neg (pCh_f e22)]
        first
          | exact k0 h c _ (Or.inr ⟨[], et, by omega⟩) g2
          | (have w := k1 [] h c et (by omega) (by rw [List.append_nil]; exact g4) (by rw [List.append_nil]; omega)
             rw [List.append_nil] at w
             exact w)
theorem kX4_isProgram {G : State} {d rc rs : Nat} {ah : zH} {A : Nat → Nat} {S : zMS} {Q : zRs → zH → Prop} (hA : zMi A) (hd : 8 ≤ d) (hT : pTp (S.1 13) (S.2 15)) (k1 : ∀ l c9, pProg (S.1 13) (S.2 15) = (some l, S.2 15) → pCl c9 l → l.length ≤ 30 → Q (.inl (some (.int (zi 1)))) (zMh ah A (pPs S (S.2 15) c9 (l.length : Nat)))) (k0 : ∀ h9 c9 m9, pProg (S.1 13) (S.2 15) = (none, h9) → (0 ≤ h9 ∧ h9 ≤ S.2 15) → Q (.inl (some (.int (zi 0)))) (zMh ah A (pPs S h9 c9 m9))) : zW G mX4_isProgram d rc rs 0 (zent [.ref (A 18)]) [] (zMh ah A S) Q := by
  refine zW_open 1 [some (.ref (A 18)), none] rfl ?_
  refine zr_aload_n dX4_isProgram_0 rfl rfl ?_
  refine zr_iconst dX4_isProgram_1 ?_
  refine zm_put 16 dX4_isProgram_2 q2135 (by decide) ?_
  try simp only [zuf_1, zua_s, zua_2, zuf_s, zuf_zuf, zua_zuf, zua_zua, zua_e, zuf_e, Nat.reduceBEq, pPs_13, pPs_14, pPs_15, pPs_16, pPs_17, pPs_a, pPs_h, pPs_m]
  refine zr_aload_n dX4_isProgram_5 rfl rfl ?_
  refine zr_iconst dX4_isProgram_6 ?_
  refine zm_put 17 dX4_isProgram_7 q2136 (by decide) ?_
  try simp only [zuf_1, zua_s, zua_2, zuf_s, zuf_zuf, zua_zuf, zua_zua, zua_e, zuf_e, Nat.reduceBEq, pPs_13, pPs_14, pPs_15, pPs_16, pPs_17, pPs_a, pPs_h, pPs_m]
  have t60 := hT.1
  have t61 := hT.2.1
  refine zW_heap (h' := zMh ah A (pPs S 0 (S.1 14) 0)) (by unfold pPs; rw [zua_self]) ?_
  refine zr_aload_n dX4_isProgram_10 rfl rfl ?_
  refine zc_v0 dX4_isProgram_11 hX4_readsCommand gX4_readsCommand rfl rfl 7 0 0 (by omega) (Nat.zero_le _) (Nat.zero_le _) q2525 q2527 sp78 zM_rc ?_
  refine kX4_readsCommand hA (by first | omega | (simp only [zuf_1, zua_s, zua_2, zuf_s, zua_e, zuf_e, Nat.reduceBEq]; omega)) hT (by first | omega | (simp only [zuf_1, zua_s, zua_2, zuf_s, zua_e, zuf_e, Nat.reduceBEq]; omega)) (by first | omega | (simp only [zuf_1, zua_s, zua_2, zuf_s, zua_e, zuf_e, Nat.reduceBEq]; omega)) (fun X11 p11 c11 e11 f11 b11 => zK_i ?_) (fun p11 c11 m11 e11 b11 => zK_i ?_)
  · try simp only [zuf_1, zua_s, zua_2, zuf_s, zuf_zuf, zua_zuf, zua_zua, zua_e, zuf_e, Nat.reduceBEq, pPs_13, pPs_14, pPs_15, pPs_16, pPs_17, pPs_a, pPs_h, pPs_m]
    refine zr_istore_n dX4_isProgram_14 (by decide) (zs2_1 rfl ?_)
    have et : pPg (S.1 13) (S.2 15) 61 0 = pB (if pSg (S.1 13) (S.2 15) p11 = 59 then pPg (S.1 13) (S.2 15) 60 (p11 + 1) else (some [], p11)) (fun l h => (some (X11 :: l), h)) := by rw [pPg, pB_s e11]
    exact kX4_isProgramL hA hd hT 60 p11 c11 [X11] (by omega) (by omega) (by simp; omega) (pCl_s (l := []) (fun i X hX => by simp at hX) f11.1 f11.2.1 f11.2.2) ⟨fun m h9 c9 q1 q2 q3 q4 => k1 (X11 :: m) c9 (by unfold pProg; rw [et, pB_s q1]; dsimp only; rw [if_pos q2, q2]) q3 (by simp only [List.length_append, List.length_singleton, List.length_cons] at q4 ⊢; omega) |> fun z => by rw [← q2] at z; exact z, fun h9 c9 m9 q1 q2 => k0 h9 c9 m9 (by
      unfold pProg
      rw [et]
      rcases q1 with q1 | ⟨m, q1, q3⟩
      · rw [pB_n q1]
      · rw [pB_s q1]; dsimp only; rw [if_neg q3]) q2⟩
  · try simp only [zuf_1, zua_s, zua_2, zuf_s, zuf_zuf, zua_zuf, zua_zua, zua_e, zuf_e, Nat.reduceBEq, pPs_13, pPs_14, pPs_15, pPs_16, pPs_17, pPs_a, pPs_h, pPs_m]
    refine zr_istore_n dX4_isProgram_14 (by decide) (zs2_1 rfl ?_)
    refine zr_iload_n dX4_isProgram_15 rfl ?_
    refine zr_ifeq dX4_isProgram_16 (tgt := 36) (by decide) (by decide) (fun _ => ?_) (fun h => absurd h (by decide))
    refine zr_iload_n dX4_isProgram_36 rfl ?_
    refine zr_ifeq dX4_isProgram_37 (tgt := 55) (by decide) (by decide) (fun _ => ?_) (fun h => absurd h (by decide))
    refine zr_iconst dX4_isProgram_55 ?_
    refine zr_ireturn dX4_isProgram_56 rfl (by first | rfl | exact z_nb _) ?_
    exact k0 p11 c11 m11 (by unfold pProg; rw [show pPg (S.1 13) (S.2 15) 61 0 = (none, p11) by rw [pPg]; exact pB_n e11]) (by omega)
