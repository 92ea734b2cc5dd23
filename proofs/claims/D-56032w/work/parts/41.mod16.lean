set_option maxRecDepth 100000
/-! ===== the reference: run ===== -/
/-- the commands done one by one: the one that fails, and the row -/
noncomputable def pRunL : List pI4 → (Int → Int) → Int → Option Int × (Int → Int)
  | [], s, _ => (none, s)
  | X :: r, s, k => if (pEx s X).1 = 0 then pRunL r (pEx s X).2.2 (k + 1) else (some k, s)
/-- what a program run leaves alone -/
def pRk2 (S T : zMS) : Prop := T.1 2 = S.1 2 ∧ T.1 3 = S.1 3 ∧ T.1 11 = S.1 11 ∧ T.2 5 = S.2 5 ∧ T.2 7 = S.2 7 ∧ T.2 8 = S.2 8 ∧ T.2 10 = S.2 10 ∧ T.2 12 = S.2 12 ∧ T.2 15 = 0
theorem pCp_z {f g : Int → Int} (hf : pZ f) (hg : pZ g) : pCp f 0 g 0 = f := by
  funext j
  unfold pCp pCpN
  split
  · rw [show 0 + (j - 0) = j by omega]
  · rename_i h; rw [hg j (by omega), hf j (by omega)]
theorem pCp_z2 {f g h : Int → Int} (hf : pZ f) (hh : pZ h) : pCp (pCp f 0 g 0) 0 h 0 = f := by
  funext j
  unfold pCp pCpN
  split
  · rename_i q; rw [if_pos (by omega), show 0 + (0 + (j - 0) - 0) = j by omega]
  · rename_i q; rw [hh j (by omega), hf j (by omega)]
/-- the ends of a program run -/
def pRunK (S : zMS) (ah : zH) (A : Nat → Nat) (Q : zRs → zH → Prop) (l : List pI4) : Prop :=
  (∀ (T : zMS) (s' : Int → Int), pRunL l (S.1 0) 0 = (none, s') → T.1 0 = s' → (T.1 2 = S.1 2 ∧ T.1 11 = S.1 11 ∧ T.2 7 = S.2 7 ∧ T.2 8 = S.2 8 ∧ T.2 10 = S.2 10 ∧ T.2 12 = S.2 12 ∧ T.2 15 = 0) → T.1 3 = (pPush (pKp S)).1 3 → T.2 5 = (pPush (pKp S)).2 5 → T.2 6 = 0 → Q (.inl (some (.int (zi (l.length : Nat))))) (zMh ah A T)) ∧
  (∀ (T : zMS) (k : Int) (s' : Int → Int), pRunL l (S.1 0) 0 = (some k, s') → T.1 0 = S.1 0 → (T.1 2 = S.1 2 ∧ T.1 3 = S.1 3 ∧ T.1 11 = S.1 11 ∧ T.2 5 = S.2 5 ∧ T.2 7 = S.2 7 ∧ T.2 10 = S.2 10 ∧ T.2 12 = S.2 12 ∧ T.2 15 = 0) → T.2 8 = k → T.2 6 = 2 → Q (.inl (some (.int (zi 0)))) (zMh ah A T))
theorem kX4_runL {G : State} {d rc rs : Nat} {ah : zH} {A : Nat → Nat} {Q : zRs → zH → Prop} (hA : zMi A) (hd : 7 ≤ d) {S : zMS} {c : Int → Int} {l : List pI4} {B : Int} (hc : pCl c l) (hl : l.length ≤ 30) (hB : 0 ≤ B ∧ B < 90000) (hO5 : 0 ≤ S.2 5 ∧ S.2 5 ≤ 8) (hz0 : pZ (S.1 0)) (n : Nat) : ∀ (i : Nat) (T : zMS) (s : Int → Int), i + n = l.length → T.1 0 = s → pI (B + i) s → T.1 1 = pCp (S.1 0) 0 (S.1 1) 0 → T.1 14 = c → T.2 17 = (l.length : Nat) → pRk2 S T → pRunL (l.drop i) s i = pRunL l (S.1 0) 0 → (T.2 6 = 0) → (pRunK S ah A Q l) → zW G mX4_run d rc rs 43 [some (.ref (A 18)), some (.int (zi 1)), some (.int (zi ((i : Nat) : Int)))] [] (zMh ah A T) Q := by
  induction n with
  | zero =>
    intro i T s g1 g2 g3 g4 g5 g6 g7 g8 g9 k
    have q1 := g7.1; have q2 := g7.2.1; have q3 := g7.2.2.1; have q4 := g7.2.2.2.1; have q5 := g7.2.2.2.2.1; have q6 := g7.2.2.2.2.2.1; have q7 := g7.2.2.2.2.2.2.1; have q8 := g7.2.2.2.2.2.2.2.1; have q9 := g7.2.2.2.2.2.2.2.2
    refine zr_iload_n dX4_run_43 rfl ?_
    refine zr_aload_n dX4_run_44 rfl rfl ?_
    refine zm_geti 17 dX4_run_45 q2136 rfl ?_
    try simp only [zuf_1, zua_s, zua_2, zuf_s, zuf_zuf, zua_zuf, zua_zua, zua_e, zuf_e, Nat.reduceBEq, pPs_13, pPs_14, pPs_15, pPs_16, pPs_17, pPs_a, pPs_h, pPs_m]
    rw [g6]
    refine zr_icmpge dX4_run_48 (tgt := 105) (by decide) (by omega) (by omega) (fun h48 => ?_) (fun h48 => ?_)
    · refine zr_aload_n dX4_run_105 rfl rfl ?_
      refine zr_aload_n dX4_run_106 rfl rfl ?_
      refine zm_geti 17 dX4_run_107 q2136 rfl ?_
      try simp only [zuf_1, zua_s, zua_2, zuf_s, zuf_zuf, zua_zuf, zua_zua, zua_e, zuf_e, Nat.reduceBEq, pPs_13, pPs_14, pPs_15, pPs_16, pPs_17, pPs_a, pPs_h, pPs_m]
      rw [g6]
      refine zc_v1 dX4_run_110 hX4_ends gX4_ends rfl rfl 1 0 0 (by omega) (Nat.zero_le _) (Nat.zero_le _) q2203 q2205 sp46 zM_rc ?_
      refine kX4_ends hA (by first | omega | (simp only [zuf_1, zua_s, zua_2, zuf_s, zua_e, zuf_e, Nat.reduceBEq]; omega)) (by first | omega | (simp only [zuf_1, zua_s, zua_2, zuf_s, zua_e, zuf_e, Nat.reduceBEq]; omega)) (by first | omega | (simp only [zuf_1, zua_s, zua_2, zuf_s, zua_e, zuf_e, Nat.reduceBEq]; omega)) (fun h => absurd g9 h) (fun _ => zK_i ?_)
      refine zr_ireturn dX4_run_113 rfl (by first | rfl | exact z_nb _) ?_
      have e0 : pRunL l (S.1 0) 0 = (none, s) := by rw [← g8, List.drop_of_length_le (by omega)]; rfl
      have p3 : (pPush T).1 3 = (pPush (pKp S)).1 3 ∧ (pPush T).2 5 = (pPush (pKp S)).2 5 := by
        have w1 : (pKp S).1 1 = pCp (S.1 0) 0 (S.1 1) 0 := rfl
        have w2 : (pKp S).1 3 = S.1 3 := rfl
        have w3 : (pKp S).2 5 = S.2 5 := rfl
        unfold pPush
        rw [w3, q4]
        split
        · simp only [zuf_1, zua_s, zuf_s, w1, w2, g4, q2]; exact ⟨trivial, trivial⟩
        · simp only [zuf_1, zua_s, zuf_s, w1, w2, g4, q2]; exact ⟨trivial, trivial⟩
      have pf : ∀ j, j ≠ 3 → (pPush T).1 j = T.1 j := fun j hj => by unfold pPush; split <;> exact zua_n hj
      have pg : ∀ j, j ≠ 5 → (pPush T).2 j = T.2 j := fun j hj => by unfold pPush; split <;> exact zuf_n hj
      exact k.1 (pPush T) s e0 (by rw [pf 0 (by decide)]; exact g2) ⟨by rw [pf 2 (by decide)]; exact q1, by rw [pf 11 (by decide)]; exact q3, by rw [pg 7 (by decide)]; exact q5, by rw [pg 8 (by decide)]; exact q6, by rw [pg 10 (by decide)]; exact q7, by rw [pg 12 (by decide)]; exact q8, by rw [pg 15 (by decide)]; exact q9⟩ p3.1 p3.2 (by rw [pg 6 (by decide)]; exact g9)
    · exfalso; omega
  | succ n ih =>
    intro i T s g1 g2 g3 g4 g5 g6 g7 g8 g9 k
    have q1 := g7.1; have q2 := g7.2.1; have q3 := g7.2.2.1; have q4 := g7.2.2.2.1; have q5 := g7.2.2.2.2.1; have q6 := g7.2.2.2.2.2.1; have q7 := g7.2.2.2.2.2.2.1; have q8 := g7.2.2.2.2.2.2.2.1; have q9 := g7.2.2.2.2.2.2.2.2
    have hn := hl
    obtain ⟨X, hX⟩ : ∃ X, l[i]? = some X := ⟨_, List.getElem?_eq_getElem (by omega)⟩
    obtain ⟨h9, hr⟩ := hc i X hX
    have ld : l.drop i = X :: l.drop (i + 1) := by
      rw [List.drop_eq_getElem_cons (by omega)]
      congr 1
      exact Option.some.inj ((List.getElem?_eq_getElem (by omega)).symm.trans hX)
    rw [ld, pRunL] at g8
    subst g2
    subst g5
    refine zr_iload_n dX4_run_43 rfl ?_
    refine zr_aload_n dX4_run_44 rfl rfl ?_
    refine zm_geti 17 dX4_run_45 q2136 rfl ?_
    try simp only [zuf_1, zua_s, zua_2, zuf_s, zuf_zuf, zua_zuf, zua_zua, zua_e, zuf_e, Nat.reduceBEq, pPs_13, pPs_14, pPs_15, pPs_16, pPs_17, pPs_a, pPs_h, pPs_m]
    rw [g6]
    refine zr_icmpge dX4_run_48 (tgt := 105) (by decide) (by omega) (by omega) (fun h48 => ?_) (fun h48 => ?_)
    · exfalso; omega
    · refine zr_aload_n dX4_run_51 rfl rfl ?_
      refine zr_iconst dX4_run_52 ?_
      refine zm_put 6 dX4_run_53 q2125 (by decide) ?_
      try simp only [zuf_1, zua_s, zua_2, zuf_s, zuf_zuf, zua_zuf, zua_zua, zua_e, zuf_e, Nat.reduceBEq, pPs_13, pPs_14, pPs_15, pPs_16, pPs_17, pPs_a, pPs_h, pPs_m]
      refine zr_aload_n dX4_run_56 rfl rfl ?_
      refine zr_aload_n dX4_run_57 rfl rfl ?_
      refine zr_iconst dX4_run_58 ?_
      refine zr_iload_n dX4_run_59 rfl ?_
      refine zr_imul dX4_run_60 ?_
      refine zc_v1 dX4_run_61 hX4_does gX4_does rfl rfl 6 0 0 (by omega) (Nat.zero_le _) (Nat.zero_le _) q2584 q2586 sp89 zM_rc ?_
      have hI : pI (B + i) ((zuf T 6 0).1 0) := g3
      have hr2 : pCr ((zuf T 6 0).1 14) (4 * (i : Nat)) X := hr
      refine kX4_does hA (by first | omega | (simp only [zuf_1, zua_s, zua_2, zuf_s, zua_e, zuf_e, Nat.reduceBEq]; omega)) hI (by first | omega | (simp only [zuf_1, zua_s, zua_2, zuf_s, zua_e, zuf_e, Nat.reduceBEq]; omega)) (by first | omega | (simp only [zuf_1, zua_s, zua_2, zuf_s, zua_e, zuf_e, Nat.reduceBEq]; omega)) h9 hr2 (fun f61 => zK_i ?_)
      try simp only [zuf_1, zua_s, zua_2, zuf_s, zuf_zuf, zua_zuf, zua_zua, zua_e, zuf_e, Nat.reduceBEq, pPs_13, pPs_14, pPs_15, pPs_16, pPs_17, pPs_a, pPs_h, pPs_m]
      generalize hE : pEx (T.1 0) X = E at g8 ⊢
      refine zm_put 9 dX4_run_64 q2128 (by decide) ?_
      try simp only [zuf_1, zua_s, zua_2, zuf_s, zuf_zuf, zua_zuf, zua_zua, zua_e, zuf_e, Nat.reduceBEq, pPs_13, pPs_14, pPs_15, pPs_16, pPs_17, pPs_a, pPs_h, pPs_m]
      try simp only [zuf_1, zua_s, zua_2, zuf_s, zuf_zuf, zua_zuf, zua_zua, zua_e, zuf_e, Nat.reduceBEq, pPs_13, pPs_14, pPs_15, pPs_16, pPs_17, pPs_a, pPs_h, pPs_m]
      refine zr_aload_n dX4_run_67 rfl rfl ?_
      refine zm_geti 6 dX4_run_68 q2125 rfl ?_
      try simp only [zuf_1, zua_s, zua_2, zuf_s, zuf_zuf, zua_zuf, zua_zua, zua_e, zuf_e, Nat.reduceBEq, pPs_13, pPs_14, pPs_15, pPs_16, pPs_17, pPs_a, pPs_h, pPs_m]
      rw [pAf_6]
      refine zr_ifeq dX4_run_71 (tgt := 99) (by decide) (by rw [← hE]; have := pEx_t (s := T.1 0) (X := X); omega) (fun h71 => ?_) (fun h71 => ?_)
      · refine zr_iinc dX4_run_99 rfl (by decide) (zs3_2 rfl ?_)
        refine zr_goto dX4_run_102 (tgt := 43) (by decide) ?_
        rw [if_pos h71] at g8
        refine ih (i + 1) _ E.2.2 (by omega) rfl (by rw [← hE]; have := pEx_I (X := X) g3 (by omega); rw [show B + ((i + 1 : Nat) : Int) = B + i + 1 by omega]; exact this) g4 rfl g6 ⟨q1, q2, q3, q4, q5, q6, q7, q8, q9⟩ (by rw [← g8]; rfl) ?_ k
        exact (pAf_6 (S := zuf (zua T 4 f61) 6 0) (X := E)).trans h71
      · refine zr_aload_n dX4_run_74 rfl rfl ?_
        refine zm_geta 1 dX4_run_75 q2120 rfl ?_
        try simp only [zuf_1, zua_s, zua_2, zuf_s, zuf_zuf, zua_zuf, zua_zua, zua_e, zuf_e, Nat.reduceBEq, pPs_13, pPs_14, pPs_15, pPs_16, pPs_17, pPs_a, pPs_h, pPs_m]
        refine zr_iconst dX4_run_78 ?_
        refine zr_aload_n dX4_run_79 rfl rfl ?_
        refine zm_geta 0 dX4_run_80 q2119 rfl ?_
        try simp only [zuf_1, zua_s, zua_2, zuf_s, zuf_zuf, zua_zuf, zua_zua, zua_e, zuf_e, Nat.reduceBEq, pPs_13, pPs_14, pPs_15, pPs_16, pPs_17, pPs_a, pPs_h, pPs_m]
        refine zr_iconst dX4_run_83 ?_
        refine zc_s4 dX4_run_84 hX4_copies gX4_copies rfl rfl 0 0 0 (by omega) (Nat.zero_le _) (Nat.zero_le _) q2186 q2187 ?_
        refine kX4_copies hA (k1 := 1) (k2 := 0) (by decide) (by decide) (by decide) (by decide) (by decide) (by decide) (zK_v ?_)
        try simp only [zuf_1, zua_s, zua_2, zuf_s, zuf_zuf, zua_zuf, zua_zua, zua_e, zuf_e, Nat.reduceBEq]
        refine zr_aload_n dX4_run_87 rfl rfl ?_
        refine zr_iload_n dX4_run_88 rfl ?_
        refine zm_put 8 dX4_run_89 q2127 (by decide) ?_
        try simp only [zuf_1, zua_s, zua_2, zuf_s, zuf_zuf, zua_zuf, zua_zua, zua_e, zuf_e, Nat.reduceBEq, pPs_13, pPs_14, pPs_15, pPs_16, pPs_17, pPs_a, pPs_h, pPs_m]
        refine zr_aload_n dX4_run_92 rfl rfl ?_
        refine zr_iconst dX4_run_93 ?_
        refine zm_put 6 dX4_run_94 q2125 (by decide) ?_
        try simp only [zuf_1, zua_s, zua_2, zuf_s, zuf_zuf, zua_zuf, zua_zua, zua_e, zuf_e, Nat.reduceBEq, pPs_13, pPs_14, pPs_15, pPs_16, pPs_17, pPs_a, pPs_h, pPs_m]
        refine zr_iconst dX4_run_97 ?_
        refine zr_ireturn dX4_run_98 rfl (by first | rfl | exact z_nb _) ?_
        rw [if_neg h71] at g8
        refine k.2 _ i (T.1 0) (by rw [← g8]) ?_ ⟨q1, q2, q3, q4, q5, q7, q8, q9⟩ rfl rfl
        have hz : pZ E.2.2 := by rw [← hE]; exact (pEx_I (X := X) g3 (by omega)).2.2.1
        show pCp (T.1 1) 0 E.2.2 0 = S.1 0
        rw [g4]
        exact pCp_z2 hz0 hz
theorem kX4_run {G : State} {d rc rs : Nat} {ah : zH} {A : Nat → Nat} {S : zMS} {Q : zRs → zH → Prop} (hA : zMi A) (hd : 9 ≤ d) {B : Int} (hO : pOK S) (hI : pI B (S.1 0)) (hB : 0 ≤ B ∧ B < 90000) (hT : pTp (S.1 13) (S.2 15)) (kE : ∀ (T : zMS) (h9 : Int), pProg (S.1 13) (S.2 15) = (none, h9) → (0 ≤ h9 ∧ h9 ≤ S.2 15) → T.1 0 = S.1 0 → (T.1 2 = S.1 2 ∧ T.1 3 = S.1 3 ∧ T.1 11 = S.1 11 ∧ T.2 5 = S.2 5 ∧ T.2 8 = S.2 8 ∧ T.2 10 = S.2 10 ∧ T.2 12 = S.2 12 ∧ T.2 15 = 0) → T.2 7 = h9 → T.2 6 = 1 → Q (.inl (some (.int (zi 0)))) (zMh ah A T)) (k : ∀ l : List pI4, pProg (S.1 13) (S.2 15) = (some l, S.2 15) → l.length ≤ 30 → pRunK S ah A Q l) : zW G mX4_run d rc rs 0 (zent [.ref (A 18)]) [] (zMh ah A S) Q := by
  refine zW_open 2 [some (.ref (A 18)), none, none] rfl ?_
  refine zr_aload_n dX4_run_0 rfl rfl ?_
  refine zc_v0 dX4_run_1 hX4_isProgram gX4_isProgram rfl rfl 8 0 0 (by omega) (Nat.zero_le _) (Nat.zero_le _) q2521 q2523 sp77 zM_rc ?_
  refine kX4_isProgram hA (by omega) hT (fun l1 c1 e1 g1 b1 => zK_i ?_) (fun p1 c1 m1 e1 b1 => zK_i ?_)
  · try simp only [zuf_1, zua_s, zua_2, zuf_s, zuf_zuf, zua_zuf, zua_zua, zua_e, zuf_e, Nat.reduceBEq, pPs_13, pPs_14, pPs_15, pPs_16, pPs_17, pPs_a, pPs_h, pPs_m]
    refine zr_istore_n dX4_run_4 (by decide) (zs3_1 rfl ?_)
    refine zr_aload_n dX4_run_5 rfl rfl ?_
    refine zr_iconst dX4_run_6 ?_
    refine zm_put 15 dX4_run_7 q2134 (by decide) ?_
    try simp only [zuf_1, zua_s, zua_2, zuf_s, zuf_zuf, zua_zuf, zua_zua, zua_e, zuf_e, Nat.reduceBEq, pPs_13, pPs_14, pPs_15, pPs_16, pPs_17, pPs_a, pPs_h, pPs_m]
    refine zr_aload_n dX4_run_10 rfl rfl ?_
    refine zr_iload_n dX4_run_11 rfl ?_
    refine zr_ifne dX4_run_12 (tgt := 19) (by decide) (by decide) (fun _ => ?_) (fun h => absurd h (by decide))
    refine zr_iconst dX4_run_19 ?_
    refine zr_iconst dX4_run_20 ?_
    refine zc_v2 dX4_run_21 hX4_isThrown gX4_isThrown rfl rfl 0 0 0 (by omega) (Nat.zero_le _) (Nat.zero_le _) q2199 q2201 sp45 zM_rc ?_
    refine kX4_isThrown0 hA (zK_i ?_)
    try simp only [zuf_1, zua_s, zua_2, zuf_s, zuf_zuf, zua_zuf, zua_zua, zua_e, zuf_e, Nat.reduceBEq]
    refine zr_ifeq dX4_run_24 (tgt := 37) (by decide) (by decide) (fun _ => ?_) (fun h => absurd h (by decide))
    refine zr_aload_n dX4_run_37 rfl rfl ?_
    refine zc_v0 dX4_run_38 hX4_keeps gX4_keeps rfl rfl 1 0 0 (by omega) (Nat.zero_le _) (Nat.zero_le _) q2182 q2184 sp43 zM_rc ?_
    refine kX4_keeps hA (by first | omega | (simp only [zuf_1, zua_s, zua_2, zuf_s, zua_e, zuf_e, Nat.reduceBEq]; omega)) (zK_v ?_)
    try simp only [zuf_1, zua_s, zua_2, zuf_s, zuf_zuf, zua_zuf, zua_zua, zua_e, zuf_e, Nat.reduceBEq]
    refine zr_iconst dX4_run_41 ?_
    refine zr_istore_n dX4_run_42 (by decide) (zs3_2 rfl ?_)
    refine kX4_runL hA (by omega) (S := S) (c := c1) (l := l1) (B := B) g1 b1 hB hO.2 hI.2.2.1 l1.length 0 _ (S.1 0) (by omega) rfl (by rw [show B + ((0 : Nat) : Int) = B by simp]; exact hI) rfl rfl rfl ⟨rfl, rfl, rfl, rfl, rfl, rfl, rfl, rfl, rfl⟩ rfl rfl (k l1 e1 b1)
  · try simp only [zuf_1, zua_s, zua_2, zuf_s, zuf_zuf, zua_zuf, zua_zua, zua_e, zuf_e, Nat.reduceBEq, pPs_13, pPs_14, pPs_15, pPs_16, pPs_17, pPs_a, pPs_h, pPs_m]
    refine zr_istore_n dX4_run_4 (by decide) (zs3_1 rfl ?_)
    refine zr_aload_n dX4_run_5 rfl rfl ?_
    refine zr_iconst dX4_run_6 ?_
    refine zm_put 15 dX4_run_7 q2134 (by decide) ?_
    try simp only [zuf_1, zua_s, zua_2, zuf_s, zuf_zuf, zua_zuf, zua_zua, zua_e, zuf_e, Nat.reduceBEq, pPs_13, pPs_14, pPs_15, pPs_16, pPs_17, pPs_a, pPs_h, pPs_m]
    refine zr_aload_n dX4_run_10 rfl rfl ?_
    refine zr_iload_n dX4_run_11 rfl ?_
    refine zr_ifne dX4_run_12 (tgt := 19) (by decide) (by decide) (fun h => absurd h (by decide)) (fun _ => ?_)
    refine zr_iconst dX4_run_15 ?_
    refine zr_goto dX4_run_16 (tgt := 20) (by decide) ?_
    refine zr_iconst dX4_run_20 ?_
    refine zc_v2 dX4_run_21 hX4_isThrown gX4_isThrown rfl rfl 0 0 0 (by omega) (Nat.zero_le _) (Nat.zero_le _) q2199 q2201 sp45 zM_rc ?_
    refine kX4_isThrown1 hA (zK_i ?_)
    try simp only [zuf_1, zua_s, zua_2, zuf_s, zuf_zuf, zua_zuf, zua_zua, zua_e, zuf_e, Nat.reduceBEq]
    refine zr_ifeq dX4_run_24 (tgt := 37) (by decide) (by decide) (fun h => absurd h (by decide)) (fun _ => ?_)
    refine zr_aload_n dX4_run_27 rfl rfl ?_
    refine zr_aload_n dX4_run_28 rfl rfl ?_
    refine zm_geti 16 dX4_run_29 q2135 rfl ?_
    try simp only [zuf_1, zua_s, zua_2, zuf_s, zuf_zuf, zua_zuf, zua_zua, zua_e, zuf_e, Nat.reduceBEq, pPs_13, pPs_14, pPs_15, pPs_16, pPs_17, pPs_a, pPs_h, pPs_m]
    refine zm_put 7 dX4_run_32 q2126 (by decide) ?_
    try simp only [zuf_1, zua_s, zua_2, zuf_s, zuf_zuf, zua_zuf, zua_zua, zua_e, zuf_e, Nat.reduceBEq, pPs_13, pPs_14, pPs_15, pPs_16, pPs_17, pPs_a, pPs_h, pPs_m]
    refine zr_iconst dX4_run_35 ?_
    refine zr_ireturn dX4_run_36 rfl (by first | rfl | exact z_nb _) ?_
    refine kE _ p1 e1 b1 rfl ⟨rfl, rfl, rfl, rfl, rfl, rfl, rfl, rfl⟩ rfl rfl
