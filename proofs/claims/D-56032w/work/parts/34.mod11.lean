set_option maxRecDepth 100000
/-! ===== the reference: startTour, output ===== -/
theorem zua_c {S : zMS} {j k : Nat} {f g : Int → Int} (h : j ≠ k) : zua (zua S j f) k g = zua (zua S k g) j f := by
  unfold zua
  refine Prod.ext (funext fun i => ?_) rfl
  by_cases h1 : i = k
  · subst h1
    simp only [if_true]
    rw [if_neg (fun z => h z.symm)]
  · simp only [if_neg h1]
theorem pKp_4 {S : zMS} {f : Int → Int} : zua (pKp S) 4 f = pKp (zua S 4 f) := by
  unfold pKp
  rw [zua_zuf, zua_c (by decide)]
  rfl
theorem kX4_startTour {G : State} {d rc rs : Nat} {ah : zH} {A : Nat → Nat} {S : zMS} {Q : zRs → zH → Prop} {a b : Int} (hA : zMi A) (hd : 4 ≤ d) (hO : pOK S) (hY : pSy (S.1 0)) (qa : -2147483648 ≤ a ∧ a ≤ 2147483647) (qb : -2147483648 ≤ b ∧ b ≤ 2147483647) (k : ∀ f, Q (.inl (some (.int (zi (pDoR (pTour (S.1 0) a b)))))) (zMh ah A (pDo (zua S 4 f) (pTour (S.1 0) a b)))) : zW G mX4_startTour d rc rs 0 (zent [.ref (A 18), .int (zi a), .int (zi b)]) [] (zMh ah A S) Q := by
  refine zW_open 0 [some (.ref (A 18)), some (.int (zi a)), some (.int (zi b))] rfl ?_
  refine zr_aload_n dX4_startTour_0 rfl rfl ?_
  refine zc_v0 dX4_startTour_1 hX4_keeps gX4_keeps rfl rfl 1 0 0 (by omega) (Nat.zero_le _) (Nat.zero_le _) q2182 q2184 sp43 zM_rc ?_
  refine kX4_keeps hA (by omega) (zK_v ?_)
  refine zW_heap (h' := zMh ah A (pKp S)) rfl ?_
  have hV : pV ((pKp S).1 0) := hO.1
  refine zr_aload_n dX4_startTour_4 rfl rfl ?_
  refine zr_aload_n dX4_startTour_5 rfl rfl ?_
  refine zr_iload_n dX4_startTour_6 rfl ?_
  refine zr_iload_n dX4_startTour_7 rfl ?_
  refine zc_v2 dX4_startTour_8 hX4_tours gX4_tours rfl rfl 3 0 0 (by omega) (Nat.zero_le _) (Nat.zero_le _) q2243 q2245 sp53 zM_rc ?_
  refine kX4_tours hA (by first | omega | (simp only [zuf_1, zua_s, zua_2, zuf_s, zua_e, zuf_e, Nat.reduceBEq]; omega)) hV hY (by first | omega | (simp only [zuf_1, zua_s, zua_2, zuf_s, zua_e, zuf_e, Nat.reduceBEq]; omega)) (by first | omega | (simp only [zuf_1, zua_s, zua_2, zuf_s, zua_e, zuf_e, Nat.reduceBEq]; omega)) (fun f8 => zK_i ?_)
  rw [pKp_4, show (pKp S).1 0 = S.1 0 from rfl]
  refine zc_v1 dX4_startTour_11 hX4_ends gX4_ends rfl rfl 1 0 0 (by omega) (Nat.zero_le _) (Nat.zero_le _) q2203 q2205 sp46 zM_rc ?_
  refine kX4_endsC hA (by first | omega | (simp only [zuf_1, zua_s, zua_2, zuf_s, zua_e, zuf_e, Nat.reduceBEq]; omega)) (by rw [pAf_5]; exact hO.2) (by rw [pAf_6]; have := pTour_t (s := S.1 0) (a := a) (b := b); omega) (zK_i ?_)
  simp only [pAf_6]
  refine zr_ireturn dX4_startTour_14 rfl (by first | rfl | exact z_nb _) ?_
  exact k f8
def pPut (S : zMS) (c : Int) : zMS := zuf (zua S 11 (z_upF (S.1 11) (S.2 12) c)) 12 (S.2 12 + 1)
def pPutL (S : zMS) (l : List Int) : zMS := l.foldl pPut S
theorem pPutL_a {S : zMS} {l m : List Int} : pPutL (pPutL S l) m = pPutL S (l ++ m) := by unfold pPutL; rw [List.foldl_append]
theorem pPutL_1 {S : zMS} {l : List Int} {c : Int} : pPut (pPutL S l) c = pPutL S (l ++ [c]) := by rw [← pPutL_a]; rfl
def pDg (v : Int) : List Int := if 10 ≤ v then [48 + v / 10, 48 + v % 10] else [48 + v]
theorem pDg_l (v : Int) : 1 ≤ (pDg v).length ∧ (pDg v).length ≤ 2 := by
  unfold pDg
  split <;> simp
theorem kX4_puts {G : State} {d rc rs : Nat} {ah : zH} {A : Nat → Nat} {S : zMS} {Q : zRs → zH → Prop} {c : Int} (hA : zMi A) {s : Int → Int} (hs : S.1 0 = s) (hb : 0 ≤ S.2 12 ∧ S.2 12 < 120) (k : ∀ T, T = pPut S c → T.1 0 = s → T.2 12 = S.2 12 + 1 → Q (.inl none) (zMh ah A T)) : zW G mX4_puts d rc rs 0 (zent [.ref (A 18), .int (zi c)]) [] (zMh ah A S) Q := by
  refine zW_open 0 [some (.ref (A 18)), some (.int (zi c))] rfl ?_
  refine zr_aload_n dX4_puts_0 rfl rfl ?_
  refine zm_geta 11 dX4_puts_1 q2130 rfl ?_
  refine zr_aload_n dX4_puts_4 rfl rfl ?_
  refine zm_geti 12 dX4_puts_5 q2131 rfl ?_
  refine zr_iload_n dX4_puts_8 rfl ?_
  refine zm_store hA (by decide) dX4_puts_9 (by constructor <;> (try simp only [zMn]) <;> omega) ?_
  try simp only [zuf_1, zua_s, zua_2, zuf_s, zuf_zuf, zua_zuf, zua_zua, zua_e, zuf_e, Nat.reduceBEq]
  refine zr_aload_n dX4_puts_10 rfl rfl ?_
  refine zr_dup dX4_puts_11 rfl ?_
  refine zm_geti 12 dX4_puts_12 q2131 rfl ?_
  try simp only [zuf_1, zua_s, zua_2, zuf_s, zuf_zuf, zua_zuf, zua_zua, zua_e, zuf_e, Nat.reduceBEq]
  refine zr_iconst dX4_puts_15 ?_
  refine zr_iadd dX4_puts_16 ?_
  refine zm_put 12 dX4_puts_17 q2131 (by decide) ?_
  try simp only [zuf_1, zua_s, zua_2, zuf_s, zuf_zuf, zua_zuf, zua_zua, zua_e, zuf_e, Nat.reduceBEq]
  refine zr_return dX4_puts_20 rfl ?_
  exact k _ rfl (by rw [← hs]; rfl) (by rw [zuf_s])
theorem kX4_number1 {G : State} {d rc rs : Nat} {ah : zH} {A : Nat → Nat} {S : zMS} {Q : zRs → zH → Prop} {v : Int} (hA : zMi A) (hd : 1 ≤ d) {s : Int → Int} (hs : S.1 0 = s) (hb : 0 ≤ S.2 12 ∧ S.2 12 < 120) (hv : 0 ≤ v ∧ v < 10) (k : ∀ T, T = pPutL S [48 + v] → T.1 0 = s → T.2 12 = S.2 12 + 1 → Q (.inl none) (zMh ah A T)) : zW G mX4_number d rc rs 0 (zent [.ref (A 18), .int (zi v)]) [] (zMh ah A S) Q := by
  refine zW_open 0 [some (.ref (A 18)), some (.int (zi v))] rfl ?_
  refine zr_iload_n dX4_number_0 rfl ?_
  refine zr_bipush dX4_number_1 rfl ?_
  refine zr_icmplt dX4_number_3 (tgt := 14) (by decide) (by omega) (by omega) (fun h3 => ?_) (fun h3 => ?_)
  · refine zr_aload_n dX4_number_14 rfl rfl ?_
    refine zr_bipush dX4_number_15 rfl ?_
    refine zr_iload_n dX4_number_17 rfl ?_
    refine zr_bipush dX4_number_18 rfl ?_
    refine zr_irem dX4_number_20 (by omega) (by omega) ?_
    refine zr_iadd dX4_number_21 ?_
    refine zc_v1 dX4_number_22 hX4_puts gX4_puts rfl rfl 0 0 0 (by omega) (Nat.zero_le _) (Nat.zero_le _) q2497 q2499 sp75 zM_rc ?_
    refine kX4_puts hA hs (by omega) (fun T22 e22 hs b22 => zK_v ?_)
    refine zr_return dX4_number_25 rfl ?_
    exact k _ (by rw [e22, show v % 10 = v by omega]; rfl) hs b22
  · exfalso; omega
theorem kX4_number {G : State} {d rc rs : Nat} {ah : zH} {A : Nat → Nat} {S : zMS} {Q : zRs → zH → Prop} {v : Int} (hA : zMi A) (hd : 2 ≤ d) {s : Int → Int} (hs : S.1 0 = s) (hb : 0 ≤ S.2 12 ∧ S.2 12 + 1 < 120) (hv : 0 ≤ v ∧ v < 100) (k : ∀ T, T = pPutL S (pDg v) → T.1 0 = s → T.2 12 = S.2 12 + (pDg v).length → Q (.inl none) (zMh ah A T)) : zW G mX4_number d rc rs 0 (zent [.ref (A 18), .int (zi v)]) [] (zMh ah A S) Q := by
  refine zW_open 0 [some (.ref (A 18)), some (.int (zi v))] rfl ?_
  refine zr_iload_n dX4_number_0 rfl ?_
  refine zr_bipush dX4_number_1 rfl ?_
  refine zr_icmplt dX4_number_3 (tgt := 14) (by decide) (by omega) (by omega) (fun h3 => ?_) (fun h3 => ?_)
  · refine zr_aload_n dX4_number_14 rfl rfl ?_
    refine zr_bipush dX4_number_15 rfl ?_
    refine zr_iload_n dX4_number_17 rfl ?_
    refine zr_bipush dX4_number_18 rfl ?_
    refine zr_irem dX4_number_20 (by omega) (by omega) ?_
    refine zr_iadd dX4_number_21 ?_
    refine zc_v1 dX4_number_22 hX4_puts gX4_puts rfl rfl 0 0 0 (by omega) (Nat.zero_le _) (Nat.zero_le _) q2497 q2499 sp75 zM_rc ?_
    refine kX4_puts hA hs (by omega) (fun T22 e22 hs b22 => zK_v ?_)
    refine zr_return dX4_number_25 rfl ?_
    exact k _ (by rw [e22]; unfold pDg; rw [if_neg (by omega), show v % 10 = v by omega]; rfl) hs (by unfold pDg; rw [if_neg (by omega)]; simp; omega)
  · refine zr_aload_n dX4_number_6 rfl rfl ?_
    refine zr_iload_n dX4_number_7 rfl ?_
    refine zr_bipush dX4_number_8 rfl ?_
    refine zr_idiv dX4_number_10 (by omega) (by omega) ?_
    refine zc_v1 dX4_number_11 hX4_number gX4_number rfl rfl 1 0 0 (by omega) (Nat.zero_le _) (Nat.zero_le _) q2501 q2503 sp76 zM_rc ?_
    refine kX4_number1 hA (by omega) hs (by omega) (by omega) (fun T11 e11 hs b11 => zK_v ?_)
    refine zr_aload_n dX4_number_14 rfl rfl ?_
    refine zr_bipush dX4_number_15 rfl ?_
    refine zr_iload_n dX4_number_17 rfl ?_
    refine zr_bipush dX4_number_18 rfl ?_
    refine zr_irem dX4_number_20 (by omega) (by omega) ?_
    refine zr_iadd dX4_number_21 ?_
    refine zc_v1 dX4_number_22 hX4_puts gX4_puts rfl rfl 0 0 0 (by omega) (Nat.zero_le _) (Nat.zero_le _) q2497 q2499 sp75 zM_rc ?_
    refine kX4_puts hA hs (by first | omega | (simp only [zuf_1, zua_s, zua_2, zuf_s, zua_e, zuf_e, Nat.reduceBEq]; omega)) (fun T22 e22 hs b22 => zK_v ?_)
    refine zr_return dX4_number_25 rfl ?_
    exact k _ (by rw [e22, e11, pPutL_1]; unfold pDg; rw [if_pos (by omega)]; rfl) hs (by unfold pDg; rw [if_pos (by omega)]; simp; omega)
/-- what is written for one place of the route -/
def pRtE (s : Int → Int) (i : Int) : List Int := (if 0 < i then [32] else []) ++ ((if i = s 2 then [42] else []) ++ (pDg (s (192 + i)) ++ (if 0 < i ∧ i < s 1 - 1 then [pTurn s i] else [])))
def pRt (s : Int → Int) : Nat → List Int
  | 0 => []
  | n + 1 => pRt s n ++ pRtE s n
theorem pRtE_l (s : Int → Int) (i : Int) : (pRtE s i).length ≤ 5 := by
  have := pDg_l (s (192 + i))
  unfold pRtE
  simp only [List.length_append]
  (repeat' split) <;> simp <;> omega
theorem pRt_s {s : Int → Int} {n : Nat} : pRt s (n + 1) = pRt s n ++ pRtE s n := rfl
theorem pRt_l (s : Int → Int) : ∀ n : Nat, (pRt s n).length ≤ 5 * n := by
  intro n
  induction n with
  | zero => exact Nat.le_refl _
  | succ n ih =>
    have := pRtE_l s n
    rw [pRt_s, List.length_append]
    omega
def pTlE (s : Int → Int) (p i : Int) : List Int := if 0 < pTr s p i then [45] ++ (pDg i ++ ([61] ++ pDg (pTr s p i))) else []
def pTl (s : Int → Int) (p : Int) : Nat → List Int
  | 0 => []
  | n + 1 => pTl s p n ++ pTlE s p n
theorem pTlE_l (s : Int → Int) (p i : Int) : (pTlE s p i).length ≤ 6 := by
  have := pDg_l i
  have := pDg_l (pTr s p i)
  unfold pTlE
  split
  · simp only [List.length_append, List.length_singleton]; omega
  · simp
theorem pTl_s {s : Int → Int} {p : Int} {n : Nat} : pTl s p (n + 1) = pTl s p n ++ pTlE s p n := rfl
theorem pTl_l (s : Int → Int) (p : Int) : ∀ n : Nat, (pTl s p n).length ≤ 6 * n := by
  intro n
  induction n with
  | zero => exact Nat.le_refl _
  | succ n ih =>
    have := pTlE_l s p n
    rw [pTl_s, List.length_append]
    omega
/-- the line begun -/
def pLn (S : zMS) : zMS := zuf (zuf S 6 0) 12 0
theorem kX4_writeRouteL {G : State} {d rc rs : Nat} {ah : zH} {A : Nat → Nat} {S : zMS} {Q : zRs → zH → Prop} (hA : zMi A) {s : Int → Int} (hd : 3 ≤ d) (hV : pV s) (n : Nat) : ∀ (i : Nat) (T : zMS), (i : Int) + n = s 1 → T.1 0 = s → T = pPutL S (pRt s i) → T.2 12 = ((pRt s i).length : Int) → (Q (.inl (some (.int (zi (pRt s (s 1).toNat).length)))) (zMh ah A (pPutL S (pRt s (s 1).toNat)))) → zW G mX4_writeRoute d rc rs 12 [some (.ref (A 18)), some (.int (zi ((i : Nat) : Int)))] [] (zMh ah A T) Q := by
  induction n with
  | zero =>
    intro i T g1 g2 g3 g4 k
    have v := hV.h
    have hs := g2
    refine zr_iload_n dX4_writeRoute_12 rfl ?_
    refine zr_aload_n dX4_writeRoute_13 rfl rfl ?_
    refine zm_geta 0 dX4_writeRoute_14 q2119 rfl ?_
    try simp only [zuf_1, zua_s, zua_2, zuf_s, zuf_zuf, zua_zuf, zua_zua, zua_e, zuf_e, Nat.reduceBEq]
    refine zr_iconst dX4_writeRoute_17 ?_
    refine zm_load hA (by decide) dX4_writeRoute_18 (by constructor <;> (try simp only [zMn]) <;> omega) ?_
    try simp only [zuf_1, zua_s, zua_2, zuf_s, zuf_zuf, zua_zuf, zua_zua, zua_e, zuf_e, Nat.reduceBEq]
    rw [hs]
    refine zr_icmpge dX4_writeRoute_19 (tgt := 93) (by decide) (by omega) (by omega) (fun h19 => ?_) (fun h19 => ?_)
    · refine zr_aload_n dX4_writeRoute_93 rfl rfl ?_
      refine zm_geti 12 dX4_writeRoute_94 q2131 rfl ?_
      try simp only [zuf_1, zua_s, zua_2, zuf_s, zuf_zuf, zua_zuf, zua_zua, zua_e, zuf_e, Nat.reduceBEq]
      refine zr_ireturn dX4_writeRoute_97 rfl (by first | rfl | exact z_nb _) ?_
      rw [g4]
      rw [show (s 1).toNat = i by omega, ← g3] at k
      exact k
    · exfalso; omega
  | succ n ih =>
    intro i T g1 g2 g3 g4 k
    have v := hV.h
    have hs := g2
    have rl := pRt_l s i
    have rg := hV.rt (i := 192 + i) (by omega)
    refine zr_iload_n dX4_writeRoute_12 rfl ?_
    refine zr_aload_n dX4_writeRoute_13 rfl rfl ?_
    refine zm_geta 0 dX4_writeRoute_14 q2119 rfl ?_
    try simp only [zuf_1, zua_s, zua_2, zuf_s, zuf_zuf, zua_zuf, zua_zua, zua_e, zuf_e, Nat.reduceBEq]
    refine zr_iconst dX4_writeRoute_17 ?_
    refine zm_load hA (by decide) dX4_writeRoute_18 (by constructor <;> (try simp only [zMn]) <;> omega) ?_
    try simp only [zuf_1, zua_s, zua_2, zuf_s, zuf_zuf, zua_zuf, zua_zua, zua_e, zuf_e, Nat.reduceBEq]
    rw [hs]
    refine zr_icmpge dX4_writeRoute_19 (tgt := 93) (by decide) (by omega) (by omega) (fun h19 => ?_) (fun h19 => ?_)
    · exfalso; omega
    · refine zr_iload_n dX4_writeRoute_22 rfl ?_
      refine zr_ifle dX4_writeRoute_23 (tgt := 32) (by decide) (by omega) (fun h23 => ?_) (fun h23 => ?_)
      · refine zr_iload_n dX4_writeRoute_32 rfl ?_
        refine zr_aload_n dX4_writeRoute_33 rfl rfl ?_
        refine zm_geta 0 dX4_writeRoute_34 q2119 rfl ?_
        try simp only [zuf_1, zua_s, zua_2, zuf_s, zuf_zuf, zua_zuf, zua_zua, zua_e, zuf_e, Nat.reduceBEq]
        refine zr_iconst dX4_writeRoute_37 ?_
        refine zm_load hA (by decide) dX4_writeRoute_38 (by constructor <;> (try simp only [zMn]) <;> omega) ?_
        try simp only [zuf_1, zua_s, zua_2, zuf_s, zuf_zuf, zua_zuf, zua_zua, zua_e, zuf_e, Nat.reduceBEq]
        rw [hs]
        refine zr_icmpne dX4_writeRoute_39 (tgt := 48) (by decide) (by omega) (by omega) (fun h39 => ?_) (fun h39 => ?_)
        · refine zr_aload_n dX4_writeRoute_48 rfl rfl ?_
          refine zr_aload_n dX4_writeRoute_49 rfl rfl ?_
          refine zm_geta 0 dX4_writeRoute_50 q2119 rfl ?_
          try simp only [zuf_1, zua_s, zua_2, zuf_s, zuf_zuf, zua_zuf, zua_zua, zua_e, zuf_e, Nat.reduceBEq]
          refine zr_sipush dX4_writeRoute_53 rfl ?_
          refine zr_iload_n dX4_writeRoute_56 rfl ?_
          refine zr_iadd dX4_writeRoute_57 ?_
          refine zm_load hA (by decide) dX4_writeRoute_58 (by constructor <;> (try simp only [zMn]) <;> omega) ?_
          try simp only [zuf_1, zua_s, zua_2, zuf_s, zuf_zuf, zua_zuf, zua_zua, zua_e, zuf_e, Nat.reduceBEq]
          rw [hs]
          refine zc_v1 dX4_writeRoute_59 hX4_number gX4_number rfl rfl 2 0 0 (by omega) (Nat.zero_le _) (Nat.zero_le _) q2501 q2503 sp76 zM_rc ?_
          have dl := pDg_l (s (192 + i))
          refine kX4_number hA (by first | omega | (simp only [zuf_1, zua_s, zua_2, zuf_s, zua_e, zuf_e, Nat.reduceBEq]; omega)) hs (by first | omega | (simp only [zuf_1, zua_s, zua_2, zuf_s, zua_e, zuf_e, Nat.reduceBEq]; omega)) (by first | omega | (simp only [zuf_1, zua_s, zua_2, zuf_s, zua_e, zuf_e, Nat.reduceBEq]; omega)) (fun T59 e59 hs b59 => zK_v ?_)
          refine zr_iload_n dX4_writeRoute_62 rfl ?_
          refine zr_ifle dX4_writeRoute_63 (tgt := 87) (by decide) (by omega) (fun h63 => ?_) (fun h63 => ?_)
          · refine zr_iinc dX4_writeRoute_87 rfl (by decide) (zs2_1 rfl ?_)
            refine zr_goto dX4_writeRoute_90 (tgt := 12) (by decide) ?_
            have eE : pRtE s i = (pDg (s (192 + i))) := by
              unfold pRtE
              rw [if_neg (show ¬ (0 : Int) < i by omega)]
              rw [if_neg (show ¬ (i : Int) = s 2 by omega)]
              rw [if_neg (show ¬ ((0 : Int) < i ∧ (i : Int) < s 1 - 1) by omega)]
              try simp only [List.nil_append, List.append_nil, List.append_assoc]
            refine ih (i + 1) T59 (by omega) hs ?_ ?_ k
            · rw [pRt_s, eE]
              simp only [e59, g3, pPutL_1, pPutL_a, List.append_assoc]
            · rw [pRt_s, eE]
              simp only [List.length_append, List.length_singleton]
              omega
          · refine zr_iload_n dX4_writeRoute_66 rfl ?_
            refine zr_aload_n dX4_writeRoute_67 rfl rfl ?_
            refine zm_geta 0 dX4_writeRoute_68 q2119 rfl ?_
            try simp only [zuf_1, zua_s, zua_2, zuf_s, zuf_zuf, zua_zuf, zua_zua, zua_e, zuf_e, Nat.reduceBEq]
            refine zr_iconst dX4_writeRoute_71 ?_
            refine zm_load hA (by decide) dX4_writeRoute_72 (by constructor <;> (try simp only [zMn]) <;> omega) ?_
            try simp only [zuf_1, zua_s, zua_2, zuf_s, zuf_zuf, zua_zuf, zua_zua, zua_e, zuf_e, Nat.reduceBEq]
            rw [hs]
            refine zr_iconst dX4_writeRoute_73 ?_
            refine zr_isub dX4_writeRoute_74 ?_
            refine zr_icmpge dX4_writeRoute_75 (tgt := 87) (by decide) (by omega) (by omega) (fun h75 => ?_) (fun h75 => ?_)
            · refine zr_iinc dX4_writeRoute_87 rfl (by decide) (zs2_1 rfl ?_)
              refine zr_goto dX4_writeRoute_90 (tgt := 12) (by decide) ?_
              have eE : pRtE s i = (pDg (s (192 + i))) := by
                unfold pRtE
                rw [if_neg (show ¬ (0 : Int) < i by omega)]
                rw [if_neg (show ¬ (i : Int) = s 2 by omega)]
                rw [if_neg (show ¬ ((0 : Int) < i ∧ (i : Int) < s 1 - 1) by omega)]
                try simp only [List.nil_append, List.append_nil, List.append_assoc]
              refine ih (i + 1) T59 (by omega) hs ?_ ?_ k
              · rw [pRt_s, eE]
                simp only [e59, g3, pPutL_1, pPutL_a, List.append_assoc]
              · rw [pRt_s, eE]
                simp only [List.length_append, List.length_singleton]
                omega
            · refine zr_aload_n dX4_writeRoute_78 rfl rfl ?_
              refine zr_aload_n dX4_writeRoute_79 rfl rfl ?_
              refine zr_iload_n dX4_writeRoute_80 rfl ?_
              refine zc_v1 dX4_writeRoute_81 hX4_turnAt gX4_turnAt rfl rfl 1 0 0 (by omega) (Nat.zero_le _) (Nat.zero_le _) q2416 q2418 sp73 zM_rc ?_
              refine kX4_turnAt hA (by first | omega | (simp only [zuf_1, zua_s, zua_2, zuf_s, zua_e, zuf_e, Nat.reduceBEq]; omega)) (by rw [hs]; exact hV) (by first | omega | (simp only [zuf_1, zua_s, zua_2, zuf_s, zua_e, zuf_e, Nat.reduceBEq]; omega)) (zK_i ?_)
              rw [hs]
              refine zc_v1 dX4_writeRoute_84 hX4_puts gX4_puts rfl rfl 0 0 0 (by omega) (Nat.zero_le _) (Nat.zero_le _) q2497 q2499 sp75 zM_rc ?_
              refine kX4_puts hA hs (by first | omega | (simp only [zuf_1, zua_s, zua_2, zuf_s, zua_e, zuf_e, Nat.reduceBEq]; omega)) (fun T84 e84 hs b84 => zK_v ?_)
              refine zr_iinc dX4_writeRoute_87 rfl (by decide) (zs2_1 rfl ?_)
              refine zr_goto dX4_writeRoute_90 (tgt := 12) (by decide) ?_
              have eE : pRtE s i = (pDg (s (192 + i))) ++ ([pTurn s i]) := by
                unfold pRtE
                rw [if_neg (show ¬ (0 : Int) < i by omega)]
                rw [if_neg (show ¬ (i : Int) = s 2 by omega)]
                rw [if_pos (show (0 : Int) < i ∧ (i : Int) < s 1 - 1 by omega)]
                try simp only [List.nil_append, List.append_nil, List.append_assoc]
              refine ih (i + 1) T84 (by omega) hs ?_ ?_ k
              · rw [pRt_s, eE]
                simp only [e84, e59, g3, pPutL_1, pPutL_a, List.append_assoc]
              · rw [pRt_s, eE]
                simp only [List.length_append, List.length_singleton]
                omega
        · refine zr_aload_n dX4_writeRoute_42 rfl rfl ?_
          refine zr_bipush dX4_writeRoute_43 rfl ?_
          refine zc_v1 dX4_writeRoute_45 hX4_puts gX4_puts rfl rfl 0 0 0 (by omega) (Nat.zero_le _) (Nat.zero_le _) q2497 q2499 sp75 zM_rc ?_
          refine kX4_puts hA hs (by first | omega | (simp only [zuf_1, zua_s, zua_2, zuf_s, zua_e, zuf_e, Nat.reduceBEq]; omega)) (fun T45 e45 hs b45 => zK_v ?_)
          refine zr_aload_n dX4_writeRoute_48 rfl rfl ?_
          refine zr_aload_n dX4_writeRoute_49 rfl rfl ?_
          refine zm_geta 0 dX4_writeRoute_50 q2119 rfl ?_
          try simp only [zuf_1, zua_s, zua_2, zuf_s, zuf_zuf, zua_zuf, zua_zua, zua_e, zuf_e, Nat.reduceBEq]
          refine zr_sipush dX4_writeRoute_53 rfl ?_
          refine zr_iload_n dX4_writeRoute_56 rfl ?_
          refine zr_iadd dX4_writeRoute_57 ?_
          refine zm_load hA (by decide) dX4_writeRoute_58 (by constructor <;> (try simp only [zMn]) <;> omega) ?_
          try simp only [zuf_1, zua_s, zua_2, zuf_s, zuf_zuf, zua_zuf, zua_zua, zua_e, zuf_e, Nat.reduceBEq]
          rw [hs]
          refine zc_v1 dX4_writeRoute_59 hX4_number gX4_number rfl rfl 2 0 0 (by omega) (Nat.zero_le _) (Nat.zero_le _) q2501 q2503 sp76 zM_rc ?_
          have dl := pDg_l (s (192 + i))
          refine kX4_number hA (by first | omega | (simp only [zuf_1, zua_s, zua_2, zuf_s, zua_e, zuf_e, Nat.reduceBEq]; omega)) hs (by first | omega | (simp only [zuf_1, zua_s, zua_2, zuf_s, zua_e, zuf_e, Nat.reduceBEq]; omega)) (by first | omega | (simp only [zuf_1, zua_s, zua_2, zuf_s, zua_e, zuf_e, Nat.reduceBEq]; omega)) (fun T59 e59 hs b59 => zK_v ?_)
          refine zr_iload_n dX4_writeRoute_62 rfl ?_
          refine zr_ifle dX4_writeRoute_63 (tgt := 87) (by decide) (by omega) (fun h63 => ?_) (fun h63 => ?_)
          · refine zr_iinc dX4_writeRoute_87 rfl (by decide) (zs2_1 rfl ?_)
            refine zr_goto dX4_writeRoute_90 (tgt := 12) (by decide) ?_
            have eE : pRtE s i = [42] ++ ((pDg (s (192 + i)))) := by
              unfold pRtE
              rw [if_neg (show ¬ (0 : Int) < i by omega)]
              rw [if_pos (show (i : Int) = s 2 by omega)]
              rw [if_neg (show ¬ ((0 : Int) < i ∧ (i : Int) < s 1 - 1) by omega)]
              try simp only [List.nil_append, List.append_nil, List.append_assoc]
            refine ih (i + 1) T59 (by omega) hs ?_ ?_ k
            · rw [pRt_s, eE]
              simp only [e59, e45, g3, pPutL_1, pPutL_a, List.append_assoc]
            · rw [pRt_s, eE]
              simp only [List.length_append, List.length_singleton]
              omega
          · refine zr_iload_n dX4_writeRoute_66 rfl ?_
            refine zr_aload_n dX4_writeRoute_67 rfl rfl ?_
            refine zm_geta 0 dX4_writeRoute_68 q2119 rfl ?_
            try simp only [zuf_1, zua_s, zua_2, zuf_s, zuf_zuf, zua_zuf, zua_zua, zua_e, zuf_e, Nat.reduceBEq]
            refine zr_iconst dX4_writeRoute_71 ?_
            refine zm_load hA (by decide) dX4_writeRoute_72 (by constructor <;> (try simp only [zMn]) <;> omega) ?_
            try simp only [zuf_1, zua_s, zua_2, zuf_s, zuf_zuf, zua_zuf, zua_zua, zua_e, zuf_e, Nat.reduceBEq]
            rw [hs]
            refine zr_iconst dX4_writeRoute_73 ?_
            refine zr_isub dX4_writeRoute_74 ?_
            refine zr_icmpge dX4_writeRoute_75 (tgt := 87) (by decide) (by omega) (by omega) (fun h75 => ?_) (fun h75 => ?_)
            · refine zr_iinc dX4_writeRoute_87 rfl (by decide) (zs2_1 rfl ?_)
              refine zr_goto dX4_writeRoute_90 (tgt := 12) (by decide) ?_
              have eE : pRtE s i = [42] ++ ((pDg (s (192 + i)))) := by
                unfold pRtE
                rw [if_neg (show ¬ (0 : Int) < i by omega)]
                rw [if_pos (show (i : Int) = s 2 by omega)]
                rw [if_neg (show ¬ ((0 : Int) < i ∧ (i : Int) < s 1 - 1) by omega)]
                try simp only [List.nil_append, List.append_nil, List.append_assoc]
              refine ih (i + 1) T59 (by omega) hs ?_ ?_ k
              · rw [pRt_s, eE]
                simp only [e59, e45, g3, pPutL_1, pPutL_a, List.append_assoc]
              · rw [pRt_s, eE]
                simp only [List.length_append, List.length_singleton]
                omega
            · refine zr_aload_n dX4_writeRoute_78 rfl rfl ?_
              refine zr_aload_n dX4_writeRoute_79 rfl rfl ?_
              refine zr_iload_n dX4_writeRoute_80 rfl ?_
              refine zc_v1 dX4_writeRoute_81 hX4_turnAt gX4_turnAt rfl rfl 1 0 0 (by omega) (Nat.zero_le _) (Nat.zero_le _) q2416 q2418 sp73 zM_rc ?_
              refine kX4_turnAt hA (by first | omega | (simp only [zuf_1, zua_s, zua_2, zuf_s, zua_e, zuf_e, Nat.reduceBEq]; omega)) (by rw [hs]; exact hV) (by first | omega | (simp only [zuf_1, zua_s, zua_2, zuf_s, zua_e, zuf_e, Nat.reduceBEq]; omega)) (zK_i ?_)
              rw [hs]
              refine zc_v1 dX4_writeRoute_84 hX4_puts gX4_puts rfl rfl 0 0 0 (by omega) (Nat.zero_le _) (Nat.zero_le _) q2497 q2499 sp75 zM_rc ?_
              refine kX4_puts hA hs (by first | omega | (simp only [zuf_1, zua_s, zua_2, zuf_s, zua_e, zuf_e, Nat.reduceBEq]; omega)) (fun T84 e84 hs b84 => zK_v ?_)
              refine zr_iinc dX4_writeRoute_87 rfl (by decide) (zs2_1 rfl ?_)
              refine zr_goto dX4_writeRoute_90 (tgt := 12) (by decide) ?_
              have eE : pRtE s i = [42] ++ ((pDg (s (192 + i))) ++ ([pTurn s i])) := by
                unfold pRtE
                rw [if_neg (show ¬ (0 : Int) < i by omega)]
                rw [if_pos (show (i : Int) = s 2 by omega)]
                rw [if_pos (show (0 : Int) < i ∧ (i : Int) < s 1 - 1 by omega)]
                try simp only [List.nil_append, List.append_nil, List.append_assoc]
              refine ih (i + 1) T84 (by omega) hs ?_ ?_ k
              · rw [pRt_s, eE]
                simp only [e84, e59, e45, g3, pPutL_1, pPutL_a, List.append_assoc]
              · rw [pRt_s, eE]
                simp only [List.length_append, List.length_singleton]
                omega
      · refine zr_aload_n dX4_writeRoute_26 rfl rfl ?_
        refine zr_bipush dX4_writeRoute_27 rfl ?_
        refine zc_v1 dX4_writeRoute_29 hX4_puts gX4_puts rfl rfl 0 0 0 (by omega) (Nat.zero_le _) (Nat.zero_le _) q2497 q2499 sp75 zM_rc ?_
        refine kX4_puts hA hs (by first | omega | (simp only [zuf_1, zua_s, zua_2, zuf_s, zua_e, zuf_e, Nat.reduceBEq]; omega)) (fun T29 e29 hs b29 => zK_v ?_)
        refine zr_iload_n dX4_writeRoute_32 rfl ?_
        refine zr_aload_n dX4_writeRoute_33 rfl rfl ?_
        refine zm_geta 0 dX4_writeRoute_34 q2119 rfl ?_
        try simp only [zuf_1, zua_s, zua_2, zuf_s, zuf_zuf, zua_zuf, zua_zua, zua_e, zuf_e, Nat.reduceBEq]
        refine zr_iconst dX4_writeRoute_37 ?_
        refine zm_load hA (by decide) dX4_writeRoute_38 (by constructor <;> (try simp only [zMn]) <;> omega) ?_
        try simp only [zuf_1, zua_s, zua_2, zuf_s, zuf_zuf, zua_zuf, zua_zua, zua_e, zuf_e, Nat.reduceBEq]
        rw [hs]
        refine zr_icmpne dX4_writeRoute_39 (tgt := 48) (by decide) (by omega) (by omega) (fun h39 => ?_) (fun h39 => ?_)
        · refine zr_aload_n dX4_writeRoute_48 rfl rfl ?_
          refine zr_aload_n dX4_writeRoute_49 rfl rfl ?_
          refine zm_geta 0 dX4_writeRoute_50 q2119 rfl ?_
          try simp only [zuf_1, zua_s, zua_2, zuf_s, zuf_zuf, zua_zuf, zua_zua, zua_e, zuf_e, Nat.reduceBEq]
          refine zr_sipush dX4_writeRoute_53 rfl ?_
          refine zr_iload_n dX4_writeRoute_56 rfl ?_
          refine zr_iadd dX4_writeRoute_57 ?_
          refine zm_load hA (by decide) dX4_writeRoute_58 (by constructor <;> (try simp only [zMn]) <;> omega) ?_
          try simp only [zuf_1, zua_s, zua_2, zuf_s, zuf_zuf, zua_zuf, zua_zua, zua_e, zuf_e, Nat.reduceBEq]
          rw [hs]
          refine zc_v1 dX4_writeRoute_59 hX4_number gX4_number rfl rfl 2 0 0 (by omega) (Nat.zero_le _) (Nat.zero_le _) q2501 q2503 sp76 zM_rc ?_
          have dl := pDg_l (s (192 + i))
          refine kX4_number hA (by first | omega | (simp only [zuf_1, zua_s, zua_2, zuf_s, zua_e, zuf_e, Nat.reduceBEq]; omega)) hs (by first | omega | (simp only [zuf_1, zua_s, zua_2, zuf_s, zua_e, zuf_e, Nat.reduceBEq]; omega)) (by first | omega | (simp only [zuf_1, zua_s, zua_2, zuf_s, zua_e, zuf_e, Nat.reduceBEq]; omega)) (fun T59 e59 hs b59 => zK_v ?_)
          refine zr_iload_n dX4_writeRoute_62 rfl ?_
          refine zr_ifle dX4_writeRoute_63 (tgt := 87) (by decide) (by omega) (fun h63 => ?_) (fun h63 => ?_)
          · refine zr_iinc dX4_writeRoute_87 rfl (by decide) (zs2_1 rfl ?_)
            refine zr_goto dX4_writeRoute_90 (tgt := 12) (by decide) ?_
            have eE : pRtE s i = [32] ++ ((pDg (s (192 + i)))) := by
              unfold pRtE
              rw [if_pos (show (0 : Int) < i by omega)]
              rw [if_neg (show ¬ (i : Int) = s 2 by omega)]
              rw [if_neg (show ¬ ((0 : Int) < i ∧ (i : Int) < s 1 - 1) by omega)]
              try simp only [List.nil_append, List.append_nil, List.append_assoc]
            refine ih (i + 1) T59 (by omega) hs ?_ ?_ k
            · rw [pRt_s, eE]
              simp only [e59, e29, g3, pPutL_1, pPutL_a, List.append_assoc]
            · rw [pRt_s, eE]
              simp only [List.length_append, List.length_singleton]
              omega
          · refine zr_iload_n dX4_writeRoute_66 rfl ?_
            refine zr_aload_n dX4_writeRoute_67 rfl rfl ?_
            refine zm_geta 0 dX4_writeRoute_68 q2119 rfl ?_
            try simp only [zuf_1, zua_s, zua_2, zuf_s, zuf_zuf, zua_zuf, zua_zua, zua_e, zuf_e, Nat.reduceBEq]
            refine zr_iconst dX4_writeRoute_71 ?_
            refine zm_load hA (by decide) dX4_writeRoute_72 (by constructor <;> (try simp only [zMn]) <;> omega) ?_
            try simp only [zuf_1, zua_s, zua_2, zuf_s, zuf_zuf, zua_zuf, zua_zua, zua_e, zuf_e, Nat.reduceBEq]
            rw [hs]
            refine zr_iconst dX4_writeRoute_73 ?_
            refine zr_isub dX4_writeRoute_74 ?_
            refine zr_icmpge dX4_writeRoute_75 (tgt := 87) (by decide) (by omega) (by omega) (fun h75 => ?_) (fun h75 => ?_)
            · refine zr_iinc dX4_writeRoute_87 rfl (by decide) (zs2_1 rfl ?_)
              refine zr_goto dX4_writeRoute_90 (tgt := 12) (by decide) ?_
              have eE : pRtE s i = [32] ++ ((pDg (s (192 + i)))) := by
                unfold pRtE
                rw [if_pos (show (0 : Int) < i by omega)]
                rw [if_neg (show ¬ (i : Int) = s 2 by omega)]
                rw [if_neg (show ¬ ((0 : Int) < i ∧ (i : Int) < s 1 - 1) by omega)]
                try simp only [List.nil_append, List.append_nil, List.append_assoc]
              refine ih (i + 1) T59 (by omega) hs ?_ ?_ k
              · rw [pRt_s, eE]
                simp only [e59, e29, g3, pPutL_1, pPutL_a, List.append_assoc]
              · rw [pRt_s, eE]
                simp only [List.length_append, List.length_singleton]
                omega
            · refine zr_aload_n dX4_writeRoute_78 rfl rfl ?_
              refine zr_aload_n dX4_writeRoute_79 rfl rfl ?_
              refine zr_iload_n dX4_writeRoute_80 rfl ?_
              refine zc_v1 dX4_writeRoute_81 hX4_turnAt gX4_turnAt rfl rfl 1 0 0 (by omega) (Nat.zero_le _) (Nat.zero_le _) q2416 q2418 sp73 zM_rc ?_
              refine kX4_turnAt hA (by first | omega | (simp only [zuf_1, zua_s, zua_2, zuf_s, zua_e, zuf_e, Nat.reduceBEq]; omega)) (by rw [hs]; exact hV) (by first | omega | (simp only [zuf_1, zua_s, zua_2, zuf_s, zua_e, zuf_e, Nat.reduceBEq]; omega)) (zK_i ?_)
              rw [hs]
              refine zc_v1 dX4_writeRoute_84 hX4_puts gX4_puts rfl rfl 0 0 0 (by omega) (Nat.zero_le _) (Nat.zero_le _) q2497 q2499 sp75 zM_rc ?_
              refine kX4_puts hA hs (by first | omega | (simp only [zuf_1, zua_s, zua_2, zuf_s, zua_e, zuf_e, Nat.reduceBEq]; omega)) (fun T84 e84 hs b84 => zK_v ?_)
              refine zr_iinc dX4_writeRoute_87 rfl (by decide) (zs2_1 rfl ?_)
              refine zr_goto dX4_writeRoute_90 (tgt := 12) (by decide) ?_
              have eE : pRtE s i = [32] ++ ((pDg (s (192 + i))) ++ ([pTurn s i])) := by
                unfold pRtE
                rw [if_pos (show (0 : Int) < i by omega)]
                rw [if_neg (show ¬ (i : Int) = s 2 by omega)]
                rw [if_pos (show (0 : Int) < i ∧ (i : Int) < s 1 - 1 by omega)]
                try simp only [List.nil_append, List.append_nil, List.append_assoc]
              refine ih (i + 1) T84 (by omega) hs ?_ ?_ k
              · rw [pRt_s, eE]
                simp only [e84, e59, e29, g3, pPutL_1, pPutL_a, List.append_assoc]
              · rw [pRt_s, eE]
                simp only [List.length_append, List.length_singleton]
                omega
        · refine zr_aload_n dX4_writeRoute_42 rfl rfl ?_
          refine zr_bipush dX4_writeRoute_43 rfl ?_
          refine zc_v1 dX4_writeRoute_45 hX4_puts gX4_puts rfl rfl 0 0 0 (by omega) (Nat.zero_le _) (Nat.zero_le _) q2497 q2499 sp75 zM_rc ?_
          refine kX4_puts hA hs (by first | omega | (simp only [zuf_1, zua_s, zua_2, zuf_s, zua_e, zuf_e, Nat.reduceBEq]; omega)) (fun T45 e45 hs b45 => zK_v ?_)
          refine zr_aload_n dX4_writeRoute_48 rfl rfl ?_
          refine zr_aload_n dX4_writeRoute_49 rfl rfl ?_
          refine zm_geta 0 dX4_writeRoute_50 q2119 rfl ?_
          try simp only [zuf_1, zua_s, zua_2, zuf_s, zuf_zuf, zua_zuf, zua_zua, zua_e, zuf_e, Nat.reduceBEq]
          refine zr_sipush dX4_writeRoute_53 rfl ?_
          refine zr_iload_n dX4_writeRoute_56 rfl ?_
          refine zr_iadd dX4_writeRoute_57 ?_
          refine zm_load hA (by decide) dX4_writeRoute_58 (by constructor <;> (try simp only [zMn]) <;> omega) ?_
          try simp only [zuf_1, zua_s, zua_2, zuf_s, zuf_zuf, zua_zuf, zua_zua, zua_e, zuf_e, Nat.reduceBEq]
          rw [hs]
          refine zc_v1 dX4_writeRoute_59 hX4_number gX4_number rfl rfl 2 0 0 (by omega) (Nat.zero_le _) (Nat.zero_le _) q2501 q2503 sp76 zM_rc ?_
          have dl := pDg_l (s (192 + i))
          refine kX4_number hA (by first | omega | (simp only [zuf_1, zua_s, zua_2, zuf_s, zua_e, zuf_e, Nat.reduceBEq]; omega)) hs (by first | omega | (simp only [zuf_1, zua_s, zua_2, zuf_s, zua_e, zuf_e, Nat.reduceBEq]; omega)) (by first | omega | (simp only [zuf_1, zua_s, zua_2, zuf_s, zua_e, zuf_e, Nat.reduceBEq]; omega)) (fun T59 e59 hs b59 => zK_v ?_)
          refine zr_iload_n dX4_writeRoute_62 rfl ?_
          refine zr_ifle dX4_writeRoute_63 (tgt := 87) (by decide) (by omega) (fun h63 => ?_) (fun h63 => ?_)
          · refine zr_iinc dX4_writeRoute_87 rfl (by decide) (zs2_1 rfl ?_)
            refine zr_goto dX4_writeRoute_90 (tgt := 12) (by decide) ?_
            have eE : pRtE s i = [32] ++ ([42] ++ ((pDg (s (192 + i))))) := by
              unfold pRtE
              rw [if_pos (show (0 : Int) < i by omega)]
              rw [if_pos (show (i : Int) = s 2 by omega)]
              rw [if_neg (show ¬ ((0 : Int) < i ∧ (i : Int) < s 1 - 1) by omega)]
              try simp only [List.nil_append, List.append_nil, List.append_assoc]
            refine ih (i + 1) T59 (by omega) hs ?_ ?_ k
            · rw [pRt_s, eE]
              simp only [e59, e45, e29, g3, pPutL_1, pPutL_a, List.append_assoc]
            · rw [pRt_s, eE]
              simp only [List.length_append, List.length_singleton]
              omega
          · refine zr_iload_n dX4_writeRoute_66 rfl ?_
            refine zr_aload_n dX4_writeRoute_67 rfl rfl ?_
            refine zm_geta 0 dX4_writeRoute_68 q2119 rfl ?_
            try simp only [zuf_1, zua_s, zua_2, zuf_s, zuf_zuf, zua_zuf, zua_zua, zua_e, zuf_e, Nat.reduceBEq]
            refine zr_iconst dX4_writeRoute_71 ?_
            refine zm_load hA (by decide) dX4_writeRoute_72 (by constructor <;> (try simp only [zMn]) <;> omega) ?_
            try simp only [zuf_1, zua_s, zua_2, zuf_s, zuf_zuf, zua_zuf, zua_zua, zua_e, zuf_e, Nat.reduceBEq]
            rw [hs]
            refine zr_iconst dX4_writeRoute_73 ?_
            refine zr_isub dX4_writeRoute_74 ?_
            refine zr_icmpge dX4_writeRoute_75 (tgt := 87) (by decide) (by omega) (by omega) (fun h75 => ?_) (fun h75 => ?_)
            · refine zr_iinc dX4_writeRoute_87 rfl (by decide) (zs2_1 rfl ?_)
              refine zr_goto dX4_writeRoute_90 (tgt := 12) (by decide) ?_
              have eE : pRtE s i = [32] ++ ([42] ++ ((pDg (s (192 + i))))) := by
                unfold pRtE
                rw [if_pos (show (0 : Int) < i by omega)]
                rw [if_pos (show (i : Int) = s 2 by omega)]
                rw [if_neg (show ¬ ((0 : Int) < i ∧ (i : Int) < s 1 - 1) by omega)]
                try simp only [List.nil_append, List.append_nil, List.append_assoc]
              refine ih (i + 1) T59 (by omega) hs ?_ ?_ k
              · rw [pRt_s, eE]
                simp only [e59, e45, e29, g3, pPutL_1, pPutL_a, List.append_assoc]
              · rw [pRt_s, eE]
                simp only [List.length_append, List.length_singleton]
                omega
            · refine zr_aload_n dX4_writeRoute_78 rfl rfl ?_
              refine zr_aload_n dX4_writeRoute_79 rfl rfl ?_
              refine zr_iload_n dX4_writeRoute_80 rfl ?_
              refine zc_v1 dX4_writeRoute_81 hX4_turnAt gX4_turnAt rfl rfl 1 0 0 (by omega) (Nat.zero_le _) (Nat.zero_le _) q2416 q2418 sp73 zM_rc ?_
              refine kX4_turnAt hA (by first | omega | (simp only [zuf_1, zua_s, zua_2, zuf_s, zua_e, zuf_e, Nat.reduceBEq]; omega)) (by rw [hs]; exact hV) (by first | omega | (simp only [zuf_1, zua_s, zua_2, zuf_s, zua_e, zuf_e, Nat.reduceBEq]; omega)) (zK_i ?_)
              rw [hs]
              refine zc_v1 dX4_writeRoute_84 hX4_puts gX4_puts rfl rfl 0 0 0 (by omega) (Nat.zero_le _) (Nat.zero_le _) q2497 q2499 sp75 zM_rc ?_
              refine kX4_puts hA hs (by first | omega | (simp only [zuf_1, zua_s, zua_2, zuf_s, zua_e, zuf_e, Nat.reduceBEq]; omega)) (fun T84 e84 hs b84 => zK_v ?_)
              refine zr_iinc dX4_writeRoute_87 rfl (by decide) (zs2_1 rfl ?_)
              refine zr_goto dX4_writeRoute_90 (tgt := 12) (by decide) ?_
              have eE : pRtE s i = [32] ++ ([42] ++ ((pDg (s (192 + i))) ++ ([pTurn s i]))) := by
                unfold pRtE
                rw [if_pos (show (0 : Int) < i by omega)]
                rw [if_pos (show (i : Int) = s 2 by omega)]
                rw [if_pos (show (0 : Int) < i ∧ (i : Int) < s 1 - 1 by omega)]
                try simp only [List.nil_append, List.append_nil, List.append_assoc]
              refine ih (i + 1) T84 (by omega) hs ?_ ?_ k
              · rw [pRt_s, eE]
                simp only [e84, e59, e45, e29, g3, pPutL_1, pPutL_a, List.append_assoc]
              · rw [pRt_s, eE]
                simp only [List.length_append, List.length_singleton]
                omega
theorem kX4_writeRoute {G : State} {d rc rs : Nat} {ah : zH} {A : Nat → Nat} {S : zMS} {Q : zRs → zH → Prop} (hA : zMi A) (hd : 3 ≤ d) (hV : pV (S.1 0)) (k : Q (.inl (some (.int (zi ((pRt (S.1 0) (S.1 0 1).toNat).length : Nat))))) (zMh ah A (pPutL (pLn S) (pRt (S.1 0) (S.1 0 1).toNat)))) : zW G mX4_writeRoute d rc rs 0 (zent [.ref (A 18)]) [] (zMh ah A S) Q := by
  refine zW_open 1 [some (.ref (A 18)), none] rfl ?_
  refine zr_aload_n dX4_writeRoute_0 rfl rfl ?_
  refine zr_iconst dX4_writeRoute_1 ?_
  refine zm_put 6 dX4_writeRoute_2 q2125 (by decide) ?_
  try simp only [zuf_1, zua_s, zua_2, zuf_s, zuf_zuf, zua_zuf, zua_zua, zua_e, zuf_e, Nat.reduceBEq]
  refine zr_aload_n dX4_writeRoute_5 rfl rfl ?_
  refine zr_iconst dX4_writeRoute_6 ?_
  refine zm_put 12 dX4_writeRoute_7 q2131 (by decide) ?_
  try simp only [zuf_1, zua_s, zua_2, zuf_s, zuf_zuf, zua_zuf, zua_zua, zua_e, zuf_e, Nat.reduceBEq]
  refine zr_iconst dX4_writeRoute_10 ?_
  refine zr_istore_n dX4_writeRoute_11 (by decide) (zs2_1 rfl ?_)
  have v := hV.h
  exact kX4_writeRouteL hA hd (S := pLn S) hV (S.1 0 1).toNat 0 (pLn S) (by omega) rfl rfl rfl k
theorem kX4_writeTrailsL {G : State} {d rc rs : Nat} {ah : zH} {A : Nat → Nat} {S : zMS} {Q : zRs → zH → Prop} (hA : zMi A) {s : Int → Int} {p : Int} (hd : 3 ≤ d) (hV : pV s) (hp : 0 ≤ p ∧ p < 12) (n : Nat) : ∀ (i : Nat) (T : zMS), (i : Int) + n = s 0 → T.1 0 = s → T = pPutL S (pTl s p i) → T.2 12 = ((pTl s p i).length : Int) → (Q (.inl (some (.int (zi ((pTl s p (s 0).toNat).length : Nat))))) (zMh ah A (pPutL S (pTl s p (s 0).toNat)))) → zW G mX4_writeTrails d rc rs 30 [some (.ref (A 18)), some (.int (zi p)), some (.int (zi ((i : Nat) : Int)))] [] (zMh ah A T) Q := by
  induction n with
  | zero =>
    intro i T g1 g2 g3 g4 k
    have v := hV.h
    have hs := g2
    refine zr_iload_n dX4_writeTrails_30 rfl ?_
    refine zr_aload_n dX4_writeTrails_31 rfl rfl ?_
    refine zm_geta 0 dX4_writeTrails_32 q2119 rfl ?_
    try simp only [zuf_1, zua_s, zua_2, zuf_s, zuf_zuf, zua_zuf, zua_zua, zua_e, zuf_e, Nat.reduceBEq]
    refine zr_iconst dX4_writeTrails_35 ?_
    refine zm_load hA (by decide) dX4_writeTrails_36 (by constructor <;> (try simp only [zMn]) <;> omega) ?_
    try simp only [zuf_1, zua_s, zua_2, zuf_s, zuf_zuf, zua_zuf, zua_zua, zua_e, zuf_e, Nat.reduceBEq]
    rw [hs]
    refine zr_icmpge dX4_writeTrails_37 (tgt := 82) (by decide) (by omega) (by omega) (fun h37 => ?_) (fun h37 => ?_)
    · refine zr_aload_n dX4_writeTrails_82 rfl rfl ?_
      refine zm_geti 12 dX4_writeTrails_83 q2131 rfl ?_
      try simp only [zuf_1, zua_s, zua_2, zuf_s, zuf_zuf, zua_zuf, zua_zua, zua_e, zuf_e, Nat.reduceBEq]
      refine zr_ireturn dX4_writeTrails_86 rfl (by first | rfl | exact z_nb _) ?_
      rw [g4]
      rw [show (s 0).toNat = i by omega, ← g3] at k
      exact k
    · exfalso; omega
  | succ n ih =>
    intro i T g1 g2 g3 g4 k
    have v := hV.h
    have hs := g2
    have rl := pTl_l s p i
    have dl := pDg_l i
    have dt := pDg_l (pTr s p i)
    refine zr_iload_n dX4_writeTrails_30 rfl ?_
    refine zr_aload_n dX4_writeTrails_31 rfl rfl ?_
    refine zm_geta 0 dX4_writeTrails_32 q2119 rfl ?_
    try simp only [zuf_1, zua_s, zua_2, zuf_s, zuf_zuf, zua_zuf, zua_zua, zua_e, zuf_e, Nat.reduceBEq]
    refine zr_iconst dX4_writeTrails_35 ?_
    refine zm_load hA (by decide) dX4_writeTrails_36 (by constructor <;> (try simp only [zMn]) <;> omega) ?_
    try simp only [zuf_1, zua_s, zua_2, zuf_s, zuf_zuf, zua_zuf, zua_zua, zua_e, zuf_e, Nat.reduceBEq]
    rw [hs]
    refine zr_icmpge dX4_writeTrails_37 (tgt := 82) (by decide) (by omega) (by omega) (fun h37 => ?_) (fun h37 => ?_)
    · exfalso; omega
    · refine zr_aload_n dX4_writeTrails_40 rfl rfl ?_
      refine zr_iload_n dX4_writeTrails_41 rfl ?_
      refine zr_iload_n dX4_writeTrails_42 rfl ?_
      refine zc_v2 dX4_writeTrails_43 hX4_trail gX4_trail rfl rfl 0 0 0 (by omega) (Nat.zero_le _) (Nat.zero_le _) q2219 q2221 sp49 zM_rc ?_
      refine kX4_trail hA (by rw [hs]; exact hV) (by first | omega | (simp only [zuf_1, zua_s, zua_2, zuf_s, zua_e, zuf_e, Nat.reduceBEq]; omega)) (by first | omega | (simp only [zuf_1, zua_s, zua_2, zuf_s, zua_e, zuf_e, Nat.reduceBEq]; omega)) (fun t43 => zK_i ?_)
      rw [hs] at t43 ⊢
      refine zr_ifle dX4_writeTrails_46 (tgt := 76) (by decide) (by omega) (fun h46 => ?_) (fun h46 => ?_)
      · refine zr_iinc dX4_writeTrails_76 rfl (by decide) (zs3_2 rfl ?_)
        refine zr_goto dX4_writeTrails_79 (tgt := 30) (by decide) ?_
        have eE : pTlE s p i = [] := by unfold pTlE; rw [if_neg (by omega)]
        refine ih (i + 1) T (by omega) hs ?_ ?_ k
        · rw [pTl_s, eE, List.append_nil]; exact g3
        · rw [pTl_s, eE, List.append_nil]; exact g4
      · refine zr_aload_n dX4_writeTrails_49 rfl rfl ?_
        refine zr_bipush dX4_writeTrails_50 rfl ?_
        refine zc_v1 dX4_writeTrails_52 hX4_puts gX4_puts rfl rfl 0 0 0 (by omega) (Nat.zero_le _) (Nat.zero_le _) q2497 q2499 sp75 zM_rc ?_
        refine kX4_puts hA hs (by first | omega | (simp only [zuf_1, zua_s, zua_2, zuf_s, zua_e, zuf_e, Nat.reduceBEq]; omega)) (fun T52 e52 hs b52 => zK_v ?_)
        refine zr_aload_n dX4_writeTrails_55 rfl rfl ?_
        refine zr_iload_n dX4_writeTrails_56 rfl ?_
        refine zc_v1 dX4_writeTrails_57 hX4_number gX4_number rfl rfl 2 0 0 (by omega) (Nat.zero_le _) (Nat.zero_le _) q2501 q2503 sp76 zM_rc ?_
        refine kX4_number hA (by first | omega | (simp only [zuf_1, zua_s, zua_2, zuf_s, zua_e, zuf_e, Nat.reduceBEq]; omega)) hs (by first | omega | (simp only [zuf_1, zua_s, zua_2, zuf_s, zua_e, zuf_e, Nat.reduceBEq]; omega)) (by first | omega | (simp only [zuf_1, zua_s, zua_2, zuf_s, zua_e, zuf_e, Nat.reduceBEq]; omega)) (fun T57 e57 hs b57 => zK_v ?_)
        refine zr_aload_n dX4_writeTrails_60 rfl rfl ?_
        refine zr_bipush dX4_writeTrails_61 rfl ?_
        refine zc_v1 dX4_writeTrails_63 hX4_puts gX4_puts rfl rfl 0 0 0 (by omega) (Nat.zero_le _) (Nat.zero_le _) q2497 q2499 sp75 zM_rc ?_
        refine kX4_puts hA hs (by first | omega | (simp only [zuf_1, zua_s, zua_2, zuf_s, zua_e, zuf_e, Nat.reduceBEq]; omega)) (fun T63 e63 hs b63 => zK_v ?_)
        refine zr_aload_n dX4_writeTrails_66 rfl rfl ?_
        refine zr_aload_n dX4_writeTrails_67 rfl rfl ?_
        refine zr_iload_n dX4_writeTrails_68 rfl ?_
        refine zr_iload_n dX4_writeTrails_69 rfl ?_
        refine zc_v2 dX4_writeTrails_70 hX4_trail gX4_trail rfl rfl 0 0 0 (by omega) (Nat.zero_le _) (Nat.zero_le _) q2219 q2221 sp49 zM_rc ?_
        refine kX4_trail hA (by rw [hs]; exact hV) (by first | omega | (simp only [zuf_1, zua_s, zua_2, zuf_s, zua_e, zuf_e, Nat.reduceBEq]; omega)) (by first | omega | (simp only [zuf_1, zua_s, zua_2, zuf_s, zua_e, zuf_e, Nat.reduceBEq]; omega)) (fun t70 => zK_i ?_)
        rw [hs] at t70 ⊢
        refine zc_v1 dX4_writeTrails_73 hX4_number gX4_number rfl rfl 2 0 0 (by omega) (Nat.zero_le _) (Nat.zero_le _) q2501 q2503 sp76 zM_rc ?_
        refine kX4_number hA (by first | omega | (simp only [zuf_1, zua_s, zua_2, zuf_s, zua_e, zuf_e, Nat.reduceBEq]; omega)) hs (by first | omega | (simp only [zuf_1, zua_s, zua_2, zuf_s, zua_e, zuf_e, Nat.reduceBEq]; omega)) (by first | omega | (simp only [zuf_1, zua_s, zua_2, zuf_s, zua_e, zuf_e, Nat.reduceBEq]; omega)) (fun T73 e73 hs b73 => zK_v ?_)
        refine zr_iinc dX4_writeTrails_76 rfl (by decide) (zs3_2 rfl ?_)
        refine zr_goto dX4_writeTrails_79 (tgt := 30) (by decide) ?_
        have eE : pTlE s p i = [45] ++ (pDg i ++ ([61] ++ pDg (pTr s p i))) := by unfold pTlE; rw [if_pos (by omega)]
        refine ih (i + 1) T73 (by omega) hs ?_ ?_ k
        · rw [pTl_s, eE]
          simp only [e73, e63, e57, e52, g3, pPutL_1, pPutL_a, List.append_assoc]
        · rw [pTl_s, eE]
          simp only [List.length_append, List.length_singleton]
          omega
def qWt (S : zMS) (p : Int) : zMS := pPutL (pLn S) (pTl (S.1 0) p (S.1 0 0).toNat)
theorem kX4_writeTrails {G : State} {d rc rs : Nat} {ah : zH} {A : Nat → Nat} {S : zMS} {Q : zRs → zH → Prop} {p : Int} (hA : zMi A) (hd : 3 ≤ d) (hV : pV (S.1 0)) (qp : -2147483648 ≤ p ∧ p ≤ 2147483647) (k0 : pPt (S.1 0) p = false → Q (.inl (some (.int (zi 0)))) (zMh ah A (zuf S 6 1))) (k : pPt (S.1 0) p = true → Q (.inl (some (.int (zi ((pTl (S.1 0) p (S.1 0 0).toNat).length : Nat))))) (zMh ah A (qWt S p))) : zW G mX4_writeTrails d rc rs 0 (zent [.ref (A 18), .int (zi p)]) [] (zMh ah A S) Q := by
  refine zW_open 1 [some (.ref (A 18)), some (.int (zi p)), none] rfl ?_
  refine zr_aload_n dX4_writeTrails_0 rfl rfl ?_
  refine zr_aload_n dX4_writeTrails_1 rfl rfl ?_
  refine zr_iload_n dX4_writeTrails_2 rfl ?_
  refine zc_v1 dX4_writeTrails_3 hX4_isPoint gX4_isPoint rfl rfl 1 0 0 (by omega) (Nat.zero_le _) (Nat.zero_le _) q2215 q2217 sp48 zM_rc ?_
  refine kX4_isPoint hA (by omega) hV (by omega) (zK_i ?_)
  try simp only [zuf_1, zua_s, zua_2, zuf_s, zuf_zuf, zua_zuf, zua_zua, zua_e, zuf_e, Nat.reduceBEq]
  refine zr_ifneB dX4_writeTrails_6 (tgt := 13) (by decide) (fun h6 => ?_) (fun h6 => ?_)
  · refine zr_iconst dX4_writeTrails_13 ?_
    refine zr_iconst dX4_writeTrails_14 ?_
    refine zc_v2 dX4_writeTrails_15 hX4_isThrown gX4_isThrown rfl rfl 0 0 0 (by omega) (Nat.zero_le _) (Nat.zero_le _) q2199 q2201 sp45 zM_rc ?_
    refine kX4_isThrown0 hA (zK_i ?_)
    try simp only [zuf_1, zua_s, zua_2, zuf_s, zuf_zuf, zua_zuf, zua_zua, zua_e, zuf_e, Nat.reduceBEq]
    refine zr_ifeq dX4_writeTrails_18 (tgt := 23) (by decide) (by decide) (fun _ => ?_) (fun h => absurd h (by decide))
    refine zr_aload_n dX4_writeTrails_23 rfl rfl ?_
    refine zr_iconst dX4_writeTrails_24 ?_
    refine zm_put 12 dX4_writeTrails_25 q2131 (by decide) ?_
    try simp only [zuf_1, zua_s, zua_2, zuf_s, zuf_zuf, zua_zuf, zua_zua, zua_e, zuf_e, Nat.reduceBEq]
    refine zr_iconst dX4_writeTrails_28 ?_
    refine zr_istore_n dX4_writeTrails_29 (by decide) (zs3_2 rfl ?_)
    have v := hV.h
    have pb := pPt_b h6 hV
    exact kX4_writeTrailsL hA hd (S := pLn S) hV (by omega) (S.1 0 0).toNat 0 (pLn S) (by omega) rfl rfl rfl (k h6)
  · refine zr_iconst dX4_writeTrails_9 ?_
    refine zr_goto dX4_writeTrails_10 (tgt := 14) (by decide) ?_
    refine zr_iconst dX4_writeTrails_14 ?_
    refine zc_v2 dX4_writeTrails_15 hX4_isThrown gX4_isThrown rfl rfl 0 0 0 (by omega) (Nat.zero_le _) (Nat.zero_le _) q2199 q2201 sp45 zM_rc ?_
    refine kX4_isThrown1 hA (zK_i ?_)
    try simp only [zuf_1, zua_s, zua_2, zuf_s, zuf_zuf, zua_zuf, zua_zua, zua_e, zuf_e, Nat.reduceBEq]
    refine zr_ifeq dX4_writeTrails_18 (tgt := 23) (by decide) (by decide) (fun h => absurd h (by decide)) (fun _ => ?_)
    refine zr_iconst dX4_writeTrails_21 ?_
    refine zr_ireturn dX4_writeTrails_22 rfl (by first | rfl | exact z_nb _) ?_
    exact k0 h6
