set_option maxRecDepth 100000
/-! ===== the reference: update, settings, the kept rows ===== -/
def pUp0 (s : Int → Int) (x y : Int) : Int → Int := pDr (z_upF (z_upF (z_upF s 3 x) 4 y) 9 (s 9 + 1)) (pCost (s 7))
def pUp1 (s : Int → Int) : Int → Int := z_upF (pDr (z_upF s 11 (s 11 + 1)) 3) 2 (s 2 + 1)
def pUp2 (s : Int → Int) : Int → Int := if s 2 = s 1 then pOv s else pWa s
def pUpd (s : Int → Int) (x y : Int) : Int × Int × (Int → Int) := if ¬ pPl x y = true then (1, 0, s) else if ¬ (0 < s 1) then (2, 0, s) else if s 6 = 0 then (3, 0, s) else
  if pRe (pUp0 s x y) x y = true then (0, 1, pUp2 (pUp1 (pUp0 s x y))) else (0, 0, pUp2 (pUp0 s x y))
theorem pDr_n {s : Int → Int} {u j : Int} (h : j ≠ 6) : pDr s u j = s j := by unfold pDr; exact z_upF_n h
theorem pPl_b {x y : Int} (h : pPl x y = true) : (0 ≤ x ∧ x ≤ 99) ∧ 0 ≤ y ∧ y ≤ 99 := by
  unfold pPl at h
  rw [Bool.and_eq_true] at h
  exact ⟨pIn_iff.mp h.1, pIn_iff.mp h.2⟩
theorem pCost_b (m : Int) : 1 ≤ pCost m ∧ pCost m ≤ 4 := by
  unfold pCost
  split
  · omega
  · split <;> omega
theorem pUp0_n {s : Int → Int} {x y j : Int} (h : j ≠ 3 ∧ j ≠ 4 ∧ j ≠ 9 ∧ j ≠ 6) : pUp0 s x y j = s j := by
  unfold pUp0
  rw [pDr_n h.2.2.2, z_upF_n h.2.2.1, z_upF_n h.2.1, z_upF_n h.1]
theorem pUp0_3 {s : Int → Int} {x y : Int} : pUp0 s x y 3 = x ∧ pUp0 s x y 4 = y := by
  unfold pUp0
  refine ⟨?_, ?_⟩
  · rw [pDr_n (by omega), z_upF_n (by omega), z_upF_n (by omega), z_upF_s]
  · rw [pDr_n (by omega), z_upF_n (by omega), z_upF_s]
theorem pUp0_v {s : Int → Int} {x y : Int} (hV : pV s) (hx : 0 ≤ x ∧ x ≤ 99) (hy : 0 ≤ y ∧ y ≤ 99) (h9 : s 9 < 100000) : pV (pUp0 s x y) := by
  have g := hV.g 9
  have := pCost_b (s 7)
  exact (((hV.up (i := 3) (v := x) (by omega) (by refine ⟨?_, ?_, ?_, ?_, ?_, ?_, fun p _ _ => ?_, ?_, ?_⟩ <;> omega)).up (i := 4) (v := y) (by omega) (by refine ⟨?_, ?_, ?_, ?_, ?_, ?_, fun p _ _ => ?_, ?_, ?_⟩ <;> omega)).up (i := 9) (v := s 9 + 1) (by omega) (by refine ⟨?_, ?_, ?_, ?_, ?_, ?_, fun p _ _ => ?_, ?_, ?_⟩ <;> omega)).dr (by omega)
theorem pUp1_v {s : Int → Int} (hV : pV s) (h9 : s 11 < 100000) (h2 : s 2 < 12) : pV (pUp1 s) := by
  have g := hV.g 11
  have h := hV.h
  exact ((hV.up (i := 11) (v := s 11 + 1) (by omega) (by refine ⟨?_, ?_, ?_, ?_, ?_, ?_, fun p _ _ => ?_, ?_, ?_⟩ <;> omega)).dr (by omega)).up (i := 2) (v := s 2 + 1) (by omega) (by refine ⟨?_, ?_, ?_, ?_, ?_, ?_, fun p _ _ => ?_, ?_, ?_⟩ <;> omega)
theorem pUp1_n {s : Int → Int} {j : Int} (h : j ≠ 11 ∧ j ≠ 2 ∧ j ≠ 6) : pUp1 s j = s j := by
  unfold pUp1
  rw [z_upF_n h.2.1, pDr_n h.2.2, z_upF_n h.1]
theorem pUp1_2 {s : Int → Int} : pUp1 s 2 = s 2 + 1 := by unfold pUp1; rw [z_upF_s]
theorem kX4_updatedT {G : State} {d rc rs : Nat} {ah : zH} {A : Nat → Nat} {S : zMS} {Q : zRs → zH → Prop} (hA : zMi A) {b : Bool} {x y : Int} (hd : 4 ≤ d) (hV : pV (S.1 0)) (ht : 1 ≤ S.1 0 2 ∧ S.1 0 2 ≤ S.1 0 1) (hal : S.1 0 10 < 100000) (k : Q (.inl (some (.int (zi (zB b))))) (zMh ah A (zua S 0 (pUp2 (S.1 0))))) : zW G mX4_updated d rc rs 142 [some (.ref (A 18)), some (.int (zi x)), some (.int (zi y)), some (.int (zi (zB b)))] [] (zMh ah A S) Q := by
  have v := hV.h
  have e12 : S.1 0 2 = S.1 0 1 → pUp2 (S.1 0) = pOv (S.1 0) := fun h => by unfold pUp2; rw [if_pos h]
  have e13 : ¬ S.1 0 2 = S.1 0 1 → pUp2 (S.1 0) = pWa (S.1 0) := fun h => by unfold pUp2; rw [if_neg h]
  refine zr_aload_n dX4_updated_142 rfl rfl ?_
  refine zm_geta 0 dX4_updated_143 q2119 rfl ?_
  refine zr_iconst dX4_updated_146 ?_
  refine zm_load hA (by decide) dX4_updated_147 (by constructor <;> (try simp only [zMn]) <;> omega) ?_
  refine zr_aload_n dX4_updated_148 rfl rfl ?_
  refine zm_geta 0 dX4_updated_149 q2119 rfl ?_
  refine zr_iconst dX4_updated_152 ?_
  refine zm_load hA (by decide) dX4_updated_153 (by constructor <;> (try simp only [zMn]) <;> omega) ?_
  refine zr_icmpne dX4_updated_154 (tgt := 164) (by decide) (by omega) (by omega) (fun h154 => ?_) (fun h154 => ?_)
  · refine zr_aload_n dX4_updated_164 rfl rfl ?_
    refine zc_v0 dX4_updated_165 hX4_watches gX4_watches rfl rfl 3 0 0 (by omega) (Nat.zero_le _) (Nat.zero_le _) q2302 q2304 sp64 zM_rc ?_
    refine kX4_watches hA (by omega) hV (by omega) (by omega) (zK_v ?_)
    try simp only [zuf_1, zua_s, zua_2, zuf_s, zuf_zuf, zua_zuf, zua_zua, zua_e, zuf_e, Nat.reduceBEq]
    refine zr_iload_n dX4_updated_168 rfl ?_
    refine zr_ifeqB dX4_updated_169 (tgt := 176) (by decide) (fun h169 => ?_) (fun h169 => ?_)
    · refine zr_iconst dX4_updated_176 ?_
      refine zr_ireturn dX4_updated_177 rfl (by first | rfl | exact z_nb _) ?_
      first | rw [h169, e12 h154] at k | rw [h169, e13 h154] at k
      exact k
    · refine zr_iconst dX4_updated_172 ?_
      refine zr_goto dX4_updated_173 (tgt := 177) (by decide) ?_
      refine zr_ireturn dX4_updated_177 rfl (by first | rfl | exact z_nb _) ?_
      first | rw [h169, e12 h154] at k | rw [h169, e13 h154] at k
      exact k
  · refine zr_aload_n dX4_updated_157 rfl rfl ?_
    refine zc_v0 dX4_updated_158 hX4_over gX4_over rfl rfl 0 0 0 (by omega) (Nat.zero_le _) (Nat.zero_le _) q2272 q2274 sp59 zM_rc ?_
    refine kX4_over hA (zK_v ?_)
    try simp only [zuf_1, zua_s, zua_2, zuf_s, zuf_zuf, zua_zuf, zua_zua, zua_e, zuf_e, Nat.reduceBEq]
    refine zr_goto dX4_updated_161 (tgt := 168) (by decide) ?_
    refine zr_iload_n dX4_updated_168 rfl ?_
    refine zr_ifeqB dX4_updated_169 (tgt := 176) (by decide) (fun h169 => ?_) (fun h169 => ?_)
    · refine zr_iconst dX4_updated_176 ?_
      refine zr_ireturn dX4_updated_177 rfl (by first | rfl | exact z_nb _) ?_
      first | rw [h169, e12 h154] at k | rw [h169, e13 h154] at k
      exact k
    · refine zr_iconst dX4_updated_172 ?_
      refine zr_goto dX4_updated_173 (tgt := 177) (by decide) ?_
      refine zr_ireturn dX4_updated_177 rfl (by first | rfl | exact z_nb _) ?_
      first | rw [h169, e12 h154] at k | rw [h169, e13 h154] at k
      exact k
theorem kX4_updated {G : State} {d rc rs : Nat} {ah : zH} {A : Nat → Nat} {S : zMS} {Q : zRs → zH → Prop} {x y : Int} (hA : zMi A) (hd : 5 ≤ d) (hV : pV (S.1 0)) (qx : -2147483648 ≤ x ∧ x ≤ 2147483647) (qy : -2147483648 ≤ y ∧ y ≤ 2147483647) (hc : S.1 0 9 < 100000 ∧ S.1 0 10 < 100000 ∧ S.1 0 11 < 100000) (htg : 0 < S.1 0 1 → 1 ≤ S.1 0 2 ∧ S.1 0 2 < S.1 0 1) (k : Q (.inl (some (.int (zi (pUpd (S.1 0) x y).2.1)))) (zMh ah A (pAf S (pUpd (S.1 0) x y)))) : zW G mX4_updated d rc rs 0 (zent [.ref (A 18), .int (zi x), .int (zi y)]) [] (zMh ah A S) Q := by
  refine zW_open 1 [some (.ref (A 18)), some (.int (zi x)), some (.int (zi y)), none] rfl ?_
  have v := hV.h
  have g9 := hV.g 9
  have g10 := hV.g 10
  have g11 := hV.g 11
  refine zr_aload_n dX4_updated_0 rfl rfl ?_
  refine zr_iload_n dX4_updated_1 rfl ?_
  refine zr_iload_n dX4_updated_2 rfl ?_
  refine zc_s2 dX4_updated_3 hX4_isPlace gX4_isPlace rfl rfl 1 0 0 (by omega) (Nat.zero_le _) (Nat.zero_le _) q2193 q2194 ?_
  refine kX4_isPlace (by omega) (by omega) (by omega) (zK_i ?_)
  refine zr_ifneB dX4_updated_6 (tgt := 13) (by decide) (fun h6 => ?_) (fun h6 => ?_)
  · refine zr_iconst dX4_updated_13 ?_
    refine zr_iconst dX4_updated_14 ?_
    refine zc_v2 dX4_updated_15 hX4_isThrown gX4_isThrown rfl rfl 0 0 0 (by omega) (Nat.zero_le _) (Nat.zero_le _) q2199 q2201 sp45 zM_rc ?_
    refine kX4_isThrown0 hA (zK_i ?_)
    try simp only [zuf_1, zua_s, zua_2, zuf_s, zuf_zuf, zua_zuf, zua_zua, zua_e, zuf_e, Nat.reduceBEq]
    refine zr_ifne dX4_updated_18 (tgt := 64) (by decide) (by decide) (fun h => absurd h (by decide)) (fun _ => ?_)
    refine zr_aload_n dX4_updated_21 rfl rfl ?_
    refine zr_aload_n dX4_updated_22 rfl rfl ?_
    refine zc_v0 dX4_updated_23 hX4_isOnTour gX4_isOnTour rfl rfl 0 0 0 (by omega) (Nat.zero_le _) (Nat.zero_le _) q2247 q2249 sp54 zM_rc ?_
    refine kX4_isOnTour hA hV (zK_i ?_)
    try simp only [zuf_1, zua_s, zua_2, zuf_s, zuf_zuf, zua_zuf, zua_zua, zua_e, zuf_e, Nat.reduceBEq]
    refine zr_ifneB dX4_updated_26 (tgt := 33) (by decide) (fun h26 => ?_) (fun h26 => ?_)
    · refine zr_iconst dX4_updated_33 ?_
      refine zr_iconst dX4_updated_34 ?_
      refine zc_v2 dX4_updated_35 hX4_isThrown gX4_isThrown rfl rfl 0 0 0 (by omega) (Nat.zero_le _) (Nat.zero_le _) q2199 q2201 sp45 zM_rc ?_
      refine kX4_isThrown0 hA (zK_i ?_)
      try simp only [zuf_1, zua_s, zua_2, zuf_s, zuf_zuf, zua_zuf, zua_zua, zua_e, zuf_e, Nat.reduceBEq]
      refine zr_ifne dX4_updated_38 (tgt := 64) (by decide) (by decide) (fun h => absurd h (by decide)) (fun _ => ?_)
      refine zr_aload_n dX4_updated_41 rfl rfl ?_
      refine zr_aload_n dX4_updated_42 rfl rfl ?_
      refine zm_geta 0 dX4_updated_43 q2119 rfl ?_
      try simp only [zuf_1, zua_s, zua_2, zuf_s, zuf_zuf, zua_zuf, zua_zua, zua_e, zuf_e, Nat.reduceBEq]
      refine zr_bipush dX4_updated_46 rfl ?_
      refine zm_load hA (by decide) dX4_updated_48 (by constructor <;> (try simp only [zMn]) <;> omega) ?_
      try simp only [zuf_1, zua_s, zua_2, zuf_s, zuf_zuf, zua_zuf, zua_zua, zua_e, zuf_e, Nat.reduceBEq]
      refine zr_ifne dX4_updated_49 (tgt := 56) (by decide) (by omega) (fun h49 => ?_) (fun h49 => ?_)
      · refine zr_iconst dX4_updated_56 ?_
        refine zr_iconst dX4_updated_57 ?_
        refine zc_v2 dX4_updated_58 hX4_isThrown gX4_isThrown rfl rfl 0 0 0 (by omega) (Nat.zero_le _) (Nat.zero_le _) q2199 q2201 sp45 zM_rc ?_
        refine kX4_isThrown0 hA (zK_i ?_)
        try simp only [zuf_1, zua_s, zua_2, zuf_s, zuf_zuf, zua_zuf, zua_zua, zua_e, zuf_e, Nat.reduceBEq]
        refine zr_ifeq dX4_updated_61 (tgt := 66) (by decide) (by decide) (fun _ => ?_) (fun h => absurd h (by decide))
        have p1 := pPl_b h6
        have p2 := of_decide_eq_true h26
        have p3 := htg p2
        have hU := pUp0_v hV p1.1 p1.2 hc.1
        refine zr_aload_n dX4_updated_66 rfl rfl ?_
        refine zm_geta 0 dX4_updated_67 q2119 rfl ?_
        try simp only [zuf_1, zua_s, zua_2, zuf_s, zuf_zuf, zua_zuf, zua_zua, zua_e, zuf_e, Nat.reduceBEq]
        refine zr_iconst dX4_updated_70 ?_
        refine zr_iload_n dX4_updated_71 rfl ?_
        refine zm_store hA (by decide) dX4_updated_72 (by constructor <;> (try simp only [zMn]) <;> omega) ?_
        try simp only [zuf_1, zua_s, zua_2, zuf_s, zuf_zuf, zua_zuf, zua_zua, zua_e, zuf_e, Nat.reduceBEq]
        refine zr_aload_n dX4_updated_73 rfl rfl ?_
        refine zm_geta 0 dX4_updated_74 q2119 rfl ?_
        try simp only [zuf_1, zua_s, zua_2, zuf_s, zuf_zuf, zua_zuf, zua_zua, zua_e, zuf_e, Nat.reduceBEq]
        refine zr_iconst dX4_updated_77 ?_
        refine zr_iload_n dX4_updated_78 rfl ?_
        refine zm_store hA (by decide) dX4_updated_79 (by constructor <;> (try simp only [zMn]) <;> omega) ?_
        try simp only [zuf_1, zua_s, zua_2, zuf_s, zuf_zuf, zua_zuf, zua_zua, zua_e, zuf_e, Nat.reduceBEq]
        refine zr_aload_n dX4_updated_80 rfl rfl ?_
        refine zm_geta 0 dX4_updated_81 q2119 rfl ?_
        try simp only [zuf_1, zua_s, zua_2, zuf_s, zuf_zuf, zua_zuf, zua_zua, zua_e, zuf_e, Nat.reduceBEq]
        refine zr_bipush dX4_updated_84 rfl ?_
        refine zr_dup2 dX4_updated_86 rfl rfl ?_
        refine zm_load hA (by decide) dX4_updated_87 (by constructor <;> (try simp only [zMn]) <;> omega) ?_
        try simp only [zuf_1, zua_s, zua_2, zuf_s, zuf_zuf, zua_zuf, zua_zua, zua_e, zuf_e, Nat.reduceBEq]
        rw [show z_upF (z_upF (S.1 0) 3 x) 4 y 9 = S.1 0 9 by rw [z_upF_n (by omega), z_upF_n (by omega)]]
        refine zr_iconst dX4_updated_88 ?_
        refine zr_iadd dX4_updated_89 ?_
        refine zm_store hA (by decide) dX4_updated_90 (by constructor <;> (try simp only [zMn]) <;> omega) ?_
        try simp only [zuf_1, zua_s, zua_2, zuf_s, zuf_zuf, zua_zuf, zua_zua, zua_e, zuf_e, Nat.reduceBEq]
        refine zr_aload_n dX4_updated_91 rfl rfl ?_
        refine zr_aload_n dX4_updated_92 rfl rfl ?_
        refine zm_geta 0 dX4_updated_93 q2119 rfl ?_
        try simp only [zuf_1, zua_s, zua_2, zuf_s, zuf_zuf, zua_zuf, zua_zua, zua_e, zuf_e, Nat.reduceBEq]
        refine zr_bipush dX4_updated_96 rfl ?_
        refine zm_load hA (by decide) dX4_updated_98 (by constructor <;> (try simp only [zMn]) <;> omega) ?_
        try simp only [zuf_1, zua_s, zua_2, zuf_s, zuf_zuf, zua_zuf, zua_zua, zua_e, zuf_e, Nat.reduceBEq]
        rw [show z_upF (z_upF (z_upF (S.1 0) 3 x) 4 y) 9 (S.1 0 9 + 1) 7 = S.1 0 7 by rw [z_upF_n (by omega), z_upF_n (by omega), z_upF_n (by omega)]]
        refine zc_s1 dX4_updated_99 hX4_costOf gX4_costOf rfl rfl 0 0 0 (by omega) (Nat.zero_le _) (Nat.zero_le _) q2284 q2285 ?_
        refine kX4_costOf (by first | omega | (simp only [zuf_1, zua_s, zua_2, zuf_s, zua_e, zuf_e, Nat.reduceBEq]; omega)) (zK_i ?_)
        refine zc_v1 dX4_updated_102 hX4_drains gX4_drains rfl rfl 0 0 0 (by omega) (Nat.zero_le _) (Nat.zero_le _) q2287 q2289 sp61 zM_rc ?_
        have cb := pCost_b (S.1 0 7)
        have hW : pV (z_upF (z_upF (z_upF (S.1 0) 3 x) 4 y) 9 (S.1 0 9 + 1)) := (((hV.up (i := 3) (v := x) (by omega) (by refine ⟨?_, ?_, ?_, ?_, ?_, ?_, fun p _ _ => ?_, ?_, ?_⟩ <;> omega)).up (i := 4) (v := y) (by omega) (by refine ⟨?_, ?_, ?_, ?_, ?_, ?_, fun p _ _ => ?_, ?_, ?_⟩ <;> omega)).up (i := 9) (v := S.1 0 9 + 1) (by omega) (by refine ⟨?_, ?_, ?_, ?_, ?_, ?_, fun p _ _ => ?_, ?_, ?_⟩ <;> omega))
        refine kX4_drains hA (by simpa only [zua_s, zuf_1] using hW) (by first | omega | (simp only [zuf_1, zua_s, zua_2, zuf_s, zua_e, zuf_e, Nat.reduceBEq]; omega)) (zK_v ?_)
        try simp only [zuf_1, zua_s, zua_2, zuf_s, zuf_zuf, zua_zuf, zua_zua, zua_e, zuf_e, Nat.reduceBEq]
        rw [show pDr (z_upF (z_upF (z_upF (S.1 0) 3 x) 4 y) 9 (S.1 0 9 + 1)) (pCost (S.1 0 7)) = pUp0 (S.1 0) x y from rfl]
        have e2 : pUp0 (S.1 0) x y 2 = S.1 0 2 := pUp0_n (by omega)
        have e1 : pUp0 (S.1 0) x y 1 = S.1 0 1 := pUp0_n (by omega)
        have e11 : pUp0 (S.1 0) x y 11 = S.1 0 11 := pUp0_n (by omega)
        have e10 : pUp0 (S.1 0) x y 10 = S.1 0 10 := pUp0_n (by omega)
        refine zr_aload_n dX4_updated_105 rfl rfl ?_
        refine zr_iload_n dX4_updated_106 rfl ?_
        refine zr_iload_n dX4_updated_107 rfl ?_
        refine zc_v2 dX4_updated_108 hX4_reaches gX4_reaches rfl rfl 1 0 0 (by omega) (Nat.zero_le _) (Nat.zero_le _) q2291 q2293 sp62 zM_rc ?_
        refine kX4_reaches hA (by first | omega | (simp only [zuf_1, zua_s, zua_2, zuf_s, zua_e, zuf_e, Nat.reduceBEq]; omega)) (by simpa only [zua_s, zuf_1] using hU) (by show pUp0 (S.1 0) x y 2 < 12; omega) (by first | omega | (simp only [zuf_1, zua_s, zua_2, zuf_s, zua_e, zuf_e, Nat.reduceBEq]; omega)) (by first | omega | (simp only [zuf_1, zua_s, zua_2, zuf_s, zua_e, zuf_e, Nat.reduceBEq]; omega)) (zK_i ?_)
        try simp only [zuf_1, zua_s, zua_2, zuf_s, zuf_zuf, zua_zuf, zua_zua, zua_e, zuf_e, Nat.reduceBEq]
        refine zr_istore_n dX4_updated_111 (by decide) (zs4_3 rfl ?_)
        refine zr_iload_n dX4_updated_112 rfl ?_
        refine zr_ifeqB dX4_updated_113 (tgt := 142) (by decide) (fun h113 => ?_) (fun h113 => ?_)
        · have e : pUpd (S.1 0) x y = (0, 0, pUp2 (pUp0 (S.1 0) x y)) := by unfold pUpd; simp [*]
          rw [h113]
          refine kX4_updatedT (b := false) hA (by omega) (by simpa only [zua_s, zuf_1] using hU) (by show 1 ≤ pUp0 (S.1 0) x y 2 ∧ pUp0 (S.1 0) x y 2 ≤ pUp0 (S.1 0) x y 1; omega) (by show pUp0 (S.1 0) x y 10 < 100000; omega) ?_
          try simp only [zuf_1, zua_s, zua_2, zuf_s, zuf_zuf, zua_zuf, zua_zua, zua_e, zuf_e, Nat.reduceBEq]
          exact zQm k (by rw [e]; rfl) (by rw [e]; rfl)
        · refine zr_aload_n dX4_updated_116 rfl rfl ?_
          refine zm_geta 0 dX4_updated_117 q2119 rfl ?_
          try simp only [zuf_1, zua_s, zua_2, zuf_s, zuf_zuf, zua_zuf, zua_zua, zua_e, zuf_e, Nat.reduceBEq]
          refine zr_bipush dX4_updated_120 rfl ?_
          refine zr_dup2 dX4_updated_122 rfl rfl ?_
          refine zm_load hA (by decide) dX4_updated_123 (by constructor <;> (try simp only [zMn]) <;> omega) ?_
          try simp only [zuf_1, zua_s, zua_2, zuf_s, zuf_zuf, zua_zuf, zua_zua, zua_e, zuf_e, Nat.reduceBEq]
          refine zr_iconst dX4_updated_124 ?_
          refine zr_iadd dX4_updated_125 ?_
          refine zm_store hA (by decide) dX4_updated_126 (by constructor <;> (try simp only [zMn]) <;> omega) ?_
          try simp only [zuf_1, zua_s, zua_2, zuf_s, zuf_zuf, zua_zuf, zua_zua, zua_e, zuf_e, Nat.reduceBEq]
          refine zr_aload_n dX4_updated_127 rfl rfl ?_
          refine zr_iconst dX4_updated_128 ?_
          refine zc_v1 dX4_updated_129 hX4_drains gX4_drains rfl rfl 0 0 0 (by omega) (Nat.zero_le _) (Nat.zero_le _) q2287 q2289 sp61 zM_rc ?_
          have hW : pV (z_upF (pUp0 (S.1 0) x y) 11 (pUp0 (S.1 0) x y 11 + 1)) := hU.up (i := 11) (v := pUp0 (S.1 0) x y 11 + 1) (by omega) (by refine ⟨?_, ?_, ?_, ?_, ?_, ?_, fun p _ _ => ?_, ?_, ?_⟩ <;> omega)
          refine kX4_drains hA (by simpa only [zua_s, zuf_1] using hW) (by first | omega | (simp only [zuf_1, zua_s, zua_2, zuf_s, zua_e, zuf_e, Nat.reduceBEq]; omega)) (zK_v ?_)
          try simp only [zuf_1, zua_s, zua_2, zuf_s, zuf_zuf, zua_zuf, zua_zua, zua_e, zuf_e, Nat.reduceBEq]
          refine zr_aload_n dX4_updated_132 rfl rfl ?_
          refine zm_geta 0 dX4_updated_133 q2119 rfl ?_
          try simp only [zuf_1, zua_s, zua_2, zuf_s, zuf_zuf, zua_zuf, zua_zua, zua_e, zuf_e, Nat.reduceBEq]
          refine zr_iconst dX4_updated_136 ?_
          refine zr_dup2 dX4_updated_137 rfl rfl ?_
          refine zm_load hA (by decide) dX4_updated_138 (by constructor <;> (try simp only [zMn]) <;> omega) ?_
          try simp only [zuf_1, zua_s, zua_2, zuf_s, zuf_zuf, zua_zuf, zua_zua, zua_e, zuf_e, Nat.reduceBEq]
          rw [show pDr (z_upF (pUp0 (S.1 0) x y) 11 (pUp0 (S.1 0) x y 11 + 1)) 3 2 = pUp0 (S.1 0) x y 2 by rw [pDr_n (by omega), z_upF_n (by omega)]]
          refine zr_iconst dX4_updated_139 ?_
          refine zr_iadd dX4_updated_140 ?_
          refine zm_store hA (by decide) dX4_updated_141 (by constructor <;> (try simp only [zMn]) <;> omega) ?_
          try simp only [zuf_1, zua_s, zua_2, zuf_s, zuf_zuf, zua_zuf, zua_zua, zua_e, zuf_e, Nat.reduceBEq]
          have e : pUpd (S.1 0) x y = (0, 1, pUp2 (pUp1 (pUp0 (S.1 0) x y))) := by unfold pUpd; simp [*]
          have e9 : pUp1 (pUp0 (S.1 0) x y) 2 = S.1 0 2 + 1 := by rw [pUp1_2, e2]
          have e8 : pUp1 (pUp0 (S.1 0) x y) 1 = S.1 0 1 := by rw [pUp1_n (by omega), e1]
          have e7 : pUp1 (pUp0 (S.1 0) x y) 10 = S.1 0 10 := by rw [pUp1_n (by omega), e10]
          have hX := pUp1_v hU (by omega) (by omega)
          rw [show z_upF (pDr (z_upF (pUp0 (S.1 0) x y) 11 (pUp0 (S.1 0) x y 11 + 1)) 3) 2 (pUp0 (S.1 0) x y 2 + 1) = pUp1 (pUp0 (S.1 0) x y) from rfl, h113]
          refine kX4_updatedT (b := true) hA (by omega) (by simpa only [zua_s, zuf_1] using hX) (by show 1 ≤ pUp1 (pUp0 (S.1 0) x y) 2 ∧ pUp1 (pUp0 (S.1 0) x y) 2 ≤ pUp1 (pUp0 (S.1 0) x y) 1; omega) (by show pUp1 (pUp0 (S.1 0) x y) 10 < 100000; omega) ?_
          try simp only [zuf_1, zua_s, zua_2, zuf_s, zuf_zuf, zua_zuf, zua_zua, zua_e, zuf_e, Nat.reduceBEq]
          exact zQm k (by rw [e]; rfl) (by rw [e]; rfl)
      · refine zr_iconst dX4_updated_52 ?_
        refine zr_goto dX4_updated_53 (tgt := 57) (by decide) ?_
        refine zr_iconst dX4_updated_57 ?_
        refine zc_v2 dX4_updated_58 hX4_isThrown gX4_isThrown rfl rfl 0 0 0 (by omega) (Nat.zero_le _) (Nat.zero_le _) q2199 q2201 sp45 zM_rc ?_
        refine kX4_isThrown1 hA (zK_i ?_)
        try simp only [zuf_1, zua_s, zua_2, zuf_s, zuf_zuf, zua_zuf, zua_zua, zua_e, zuf_e, Nat.reduceBEq]
        refine zr_ifeq dX4_updated_61 (tgt := 66) (by decide) (by decide) (fun h => absurd h (by decide)) (fun _ => ?_)
        refine zr_iconst dX4_updated_64 ?_
        refine zr_ireturn dX4_updated_65 rfl (by first | rfl | exact z_nb _) ?_
        try have ih26 := of_decide_eq_true h26
        try have ih26 := of_decide_eq_false h26
        have e : pUpd (S.1 0) x y = (3, 0, S.1 0) := by unfold pUpd; simp [*]
        exact zQm k (by rw [e]) (by rw [e, pAf_s])
    · refine zr_iconst dX4_updated_29 ?_
      refine zr_goto dX4_updated_30 (tgt := 34) (by decide) ?_
      refine zr_iconst dX4_updated_34 ?_
      refine zc_v2 dX4_updated_35 hX4_isThrown gX4_isThrown rfl rfl 0 0 0 (by omega) (Nat.zero_le _) (Nat.zero_le _) q2199 q2201 sp45 zM_rc ?_
      refine kX4_isThrown1 hA (zK_i ?_)
      try simp only [zuf_1, zua_s, zua_2, zuf_s, zuf_zuf, zua_zuf, zua_zua, zua_e, zuf_e, Nat.reduceBEq]
      refine zr_ifne dX4_updated_38 (tgt := 64) (by decide) (by decide) (fun _ => ?_) (fun h => absurd h (by decide))
      refine zr_iconst dX4_updated_64 ?_
      refine zr_ireturn dX4_updated_65 rfl (by first | rfl | exact z_nb _) ?_
      try have ih26 := of_decide_eq_true h26
      try have ih26 := of_decide_eq_false h26
      have e : pUpd (S.1 0) x y = (2, 0, S.1 0) := by unfold pUpd; simp [*]
      exact zQm k (by rw [e]) (by rw [e, pAf_s])
  · refine zr_iconst dX4_updated_9 ?_
    refine zr_goto dX4_updated_10 (tgt := 14) (by decide) ?_
    refine zr_iconst dX4_updated_14 ?_
    refine zc_v2 dX4_updated_15 hX4_isThrown gX4_isThrown rfl rfl 0 0 0 (by omega) (Nat.zero_le _) (Nat.zero_le _) q2199 q2201 sp45 zM_rc ?_
    refine kX4_isThrown1 hA (zK_i ?_)
    try simp only [zuf_1, zua_s, zua_2, zuf_s, zuf_zuf, zua_zuf, zua_zua, zua_e, zuf_e, Nat.reduceBEq]
    refine zr_ifne dX4_updated_18 (tgt := 64) (by decide) (by decide) (fun _ => ?_) (fun h => absurd h (by decide))
    refine zr_iconst dX4_updated_64 ?_
    refine zr_ireturn dX4_updated_65 rfl (by first | rfl | exact z_nb _) ?_
    try have ih26 := of_decide_eq_true h26
    try have ih26 := of_decide_eq_false h26
    have e : pUpd (S.1 0) x y = (1, 0, S.1 0) := by unfold pUpd; simp [*]
    exact zQm k (by rw [e]) (by rw [e, pAf_s])
