set_option maxRecDepth 100000
/-! ===== the reference: settings, the kept rows ===== -/
def pTell (s : Int → Int) (w v a b : Int) : Int × Int × (Int → Int) := if ¬ pIn v a b = true then (1, 0, s) else (0, s w, z_upF s w v)
def pChN (s : Int → Int) (u : Int) : Int := if s 6 + u > 1000 then 1000 else s 6 + u
def pChg (s : Int → Int) (u : Int) : Int × Int × (Int → Int) := if ¬ pIn u 1 999 = true then (1, 0, s) else (0, pChN s u, z_upF s 6 (pChN s u))
theorem kX4_tells {G : State} {d rc rs : Nat} {ah : zH} {A : Nat → Nat} {S : zMS} {Q : zRs → zH → Prop} {w v a b : Int} (hA : zMi A) (hd : 1 ≤ d) (hw : 0 ≤ w ∧ w < 204) (qv : -2147483648 ≤ v ∧ v ≤ 2147483647) (qa : -2147483648 ≤ a ∧ a ≤ 2147483647) (qb : -2147483648 ≤ b ∧ b ≤ 2147483647) (k : Q (.inl (some (.int (zi (pTell (S.1 0) w v a b).2.1)))) (zMh ah A (pAf S (pTell (S.1 0) w v a b)))) : zW G mX4_tells d rc rs 0 (zent [.ref (A 18), .int (zi w), .int (zi v), .int (zi a), .int (zi b)]) [] (zMh ah A S) Q := by
  refine zW_open 1 [some (.ref (A 18)), some (.int (zi w)), some (.int (zi v)), some (.int (zi a)), some (.int (zi b)), none] rfl ?_
  refine zr_aload_n dX4_tells_0 rfl rfl ?_
  refine zr_iload_n dX4_tells_1 rfl ?_
  refine zr_iload_n dX4_tells_2 rfl ?_
  refine zr_iload dX4_tells_3 rfl ?_
  refine zc_s3 dX4_tells_5 hX4_isIn gX4_isIn rfl rfl 0 0 0 (by omega) (Nat.zero_le _) (Nat.zero_le _) q2196 q2197 ?_
  refine kX4_isIn (by omega) (by omega) (by omega) (zK_i ?_)
  refine zr_ifneB dX4_tells_8 (tgt := 15) (by decide) (fun h8 => ?_) (fun h8 => ?_)
  · refine zr_iconst dX4_tells_15 ?_
    refine zr_iconst dX4_tells_16 ?_
    refine zc_v2 dX4_tells_17 hX4_isThrown gX4_isThrown rfl rfl 0 0 0 (by omega) (Nat.zero_le _) (Nat.zero_le _) q2199 q2201 sp45 zM_rc ?_
    refine kX4_isThrown0 hA (zK_i ?_)
    try simp only [zuf_1, zua_s, zua_2, zuf_s, zuf_zuf, zua_zuf, zua_zua, zua_e, zuf_e, Nat.reduceBEq]
    refine zr_ifeq dX4_tells_20 (tgt := 25) (by decide) (by decide) (fun _ => ?_) (fun h => absurd h (by decide))
    refine zr_aload_n dX4_tells_25 rfl rfl ?_
    refine zm_geta 0 dX4_tells_26 q2119 rfl ?_
    try simp only [zuf_1, zua_s, zua_2, zuf_s, zuf_zuf, zua_zuf, zua_zua, zua_e, zuf_e, Nat.reduceBEq]
    refine zr_iload_n dX4_tells_29 rfl ?_
    refine zm_load hA (by decide) dX4_tells_30 (by constructor <;> (try simp only [zMn]) <;> omega) ?_
    try simp only [zuf_1, zua_s, zua_2, zuf_s, zuf_zuf, zua_zuf, zua_zua, zua_e, zuf_e, Nat.reduceBEq]
    refine zr_istore dX4_tells_31 (by decide) (zs6_5 rfl ?_)
    refine zr_aload_n dX4_tells_33 rfl rfl ?_
    refine zm_geta 0 dX4_tells_34 q2119 rfl ?_
    try simp only [zuf_1, zua_s, zua_2, zuf_s, zuf_zuf, zua_zuf, zua_zua, zua_e, zuf_e, Nat.reduceBEq]
    refine zr_iload_n dX4_tells_37 rfl ?_
    refine zr_iload_n dX4_tells_38 rfl ?_
    refine zm_store hA (by decide) dX4_tells_39 (by constructor <;> (try simp only [zMn]) <;> omega) ?_
    try simp only [zuf_1, zua_s, zua_2, zuf_s, zuf_zuf, zua_zuf, zua_zua, zua_e, zuf_e, Nat.reduceBEq]
    refine zr_iload dX4_tells_40 rfl ?_
    refine zr_ireturn dX4_tells_42 rfl (by first | rfl | exact z_nb _) ?_
    have e : pTell (S.1 0) w v a b = (0, S.1 0 w, z_upF (S.1 0) w v) := by unfold pTell; simp [*]
    exact zQm k (by rw [e]) (by rw [e]; rfl)
  · refine zr_iconst dX4_tells_11 ?_
    refine zr_goto dX4_tells_12 (tgt := 16) (by decide) ?_
    refine zr_iconst dX4_tells_16 ?_
    refine zc_v2 dX4_tells_17 hX4_isThrown gX4_isThrown rfl rfl 0 0 0 (by omega) (Nat.zero_le _) (Nat.zero_le _) q2199 q2201 sp45 zM_rc ?_
    refine kX4_isThrown1 hA (zK_i ?_)
    try simp only [zuf_1, zua_s, zua_2, zuf_s, zuf_zuf, zua_zuf, zua_zua, zua_e, zuf_e, Nat.reduceBEq]
    refine zr_ifeq dX4_tells_20 (tgt := 25) (by decide) (by decide) (fun h => absurd h (by decide)) (fun _ => ?_)
    refine zr_iconst dX4_tells_23 ?_
    refine zr_ireturn dX4_tells_24 rfl (by first | rfl | exact z_nb _) ?_
    have e : pTell (S.1 0) w v a b = (1, 0, S.1 0) := by unfold pTell; simp [*]
    exact zQm k (by rw [e]) (by rw [e, pAf_s])
theorem kX4_charges {G : State} {d rc rs : Nat} {ah : zH} {A : Nat → Nat} {S : zMS} {Q : zRs → zH → Prop} {u : Int} (hA : zMi A) (hd : 1 ≤ d) (hV : pV (S.1 0)) (qu : -2147483648 ≤ u ∧ u ≤ 2147483647) (k : Q (.inl (some (.int (zi (pChg (S.1 0) u).2.1)))) (zMh ah A (pAf S (pChg (S.1 0) u)))) : zW G mX4_charges d rc rs 0 (zent [.ref (A 18), .int (zi u)]) [] (zMh ah A S) Q := by
  refine zW_open 0 [some (.ref (A 18)), some (.int (zi u))] rfl ?_
  refine zr_aload_n dX4_charges_0 rfl rfl ?_
  refine zr_iload_n dX4_charges_1 rfl ?_
  refine zr_iconst dX4_charges_2 ?_
  refine zr_sipush dX4_charges_3 rfl ?_
  refine zc_s3 dX4_charges_6 hX4_isIn gX4_isIn rfl rfl 0 0 0 (by omega) (Nat.zero_le _) (Nat.zero_le _) q2196 q2197 ?_
  refine kX4_isIn (by omega) (by omega) (by omega) (zK_i ?_)
  refine zr_ifneB dX4_charges_9 (tgt := 16) (by decide) (fun h9 => ?_) (fun h9 => ?_)
  · refine zr_iconst dX4_charges_16 ?_
    refine zr_iconst dX4_charges_17 ?_
    refine zc_v2 dX4_charges_18 hX4_isThrown gX4_isThrown rfl rfl 0 0 0 (by omega) (Nat.zero_le _) (Nat.zero_le _) q2199 q2201 sp45 zM_rc ?_
    refine kX4_isThrown0 hA (zK_i ?_)
    try simp only [zuf_1, zua_s, zua_2, zuf_s, zuf_zuf, zua_zuf, zua_zua, zua_e, zuf_e, Nat.reduceBEq]
    refine zr_ifeq dX4_charges_21 (tgt := 26) (by decide) (by decide) (fun _ => ?_) (fun h => absurd h (by decide))
    have v := hV.h
    have iu := pIn_iff.mp h9
    refine zr_aload_n dX4_charges_26 rfl rfl ?_
    refine zm_geta 0 dX4_charges_27 q2119 rfl ?_
    try simp only [zuf_1, zua_s, zua_2, zuf_s, zuf_zuf, zua_zuf, zua_zua, zua_e, zuf_e, Nat.reduceBEq]
    refine zr_bipush dX4_charges_30 rfl ?_
    refine zr_aload_n dX4_charges_32 rfl rfl ?_
    refine zm_geta 0 dX4_charges_33 q2119 rfl ?_
    try simp only [zuf_1, zua_s, zua_2, zuf_s, zuf_zuf, zua_zuf, zua_zua, zua_e, zuf_e, Nat.reduceBEq]
    refine zr_bipush dX4_charges_36 rfl ?_
    refine zm_load hA (by decide) dX4_charges_38 (by constructor <;> (try simp only [zMn]) <;> omega) ?_
    try simp only [zuf_1, zua_s, zua_2, zuf_s, zuf_zuf, zua_zuf, zua_zua, zua_e, zuf_e, Nat.reduceBEq]
    refine zr_iload_n dX4_charges_39 rfl ?_
    refine zr_iadd dX4_charges_40 ?_
    refine zr_sipush dX4_charges_41 rfl ?_
    refine zr_icmple dX4_charges_44 (tgt := 53) (by decide) (by omega) (by omega) (fun h44 => ?_) (fun h44 => ?_)
    · refine zr_aload_n dX4_charges_53 rfl rfl ?_
      refine zm_geta 0 dX4_charges_54 q2119 rfl ?_
      try simp only [zuf_1, zua_s, zua_2, zuf_s, zuf_zuf, zua_zuf, zua_zua, zua_e, zuf_e, Nat.reduceBEq]
      refine zr_bipush dX4_charges_57 rfl ?_
      refine zm_load hA (by decide) dX4_charges_59 (by constructor <;> (try simp only [zMn]) <;> omega) ?_
      try simp only [zuf_1, zua_s, zua_2, zuf_s, zuf_zuf, zua_zuf, zua_zua, zua_e, zuf_e, Nat.reduceBEq]
      refine zr_iload_n dX4_charges_60 rfl ?_
      refine zr_iadd dX4_charges_61 ?_
      refine zm_store hA (by decide) dX4_charges_62 (by constructor <;> (try simp only [zMn]) <;> omega) ?_
      try simp only [zuf_1, zua_s, zua_2, zuf_s, zuf_zuf, zua_zuf, zua_zua, zua_e, zuf_e, Nat.reduceBEq]
      refine zr_aload_n dX4_charges_63 rfl rfl ?_
      refine zm_geta 0 dX4_charges_64 q2119 rfl ?_
      try simp only [zuf_1, zua_s, zua_2, zuf_s, zuf_zuf, zua_zuf, zua_zua, zua_e, zuf_e, Nat.reduceBEq]
      refine zr_bipush dX4_charges_67 rfl ?_
      refine zm_load hA (by decide) dX4_charges_69 (by constructor <;> (try simp only [zMn]) <;> omega) ?_
      try simp only [zuf_1, zua_s, zua_2, zuf_s, zuf_zuf, zua_zuf, zua_zua, zua_e, zuf_e, Nat.reduceBEq]
      refine zr_ireturn dX4_charges_70 rfl (by first | rfl | exact z_nb _) ?_
      have e : pChg (S.1 0) u = (0, pChN (S.1 0) u, z_upF (S.1 0) 6 (pChN (S.1 0) u)) := by unfold pChg; simp [*]
      first
        | (have c : pChN (S.1 0) u = 1000 := if_pos (by omega)
           exact zQm k (by rw [e]; show pChN (S.1 0) u = _; rw [z_upF_s, c]) (by rw [e, c]; rfl))
        | (have c : pChN (S.1 0) u = S.1 0 6 + u := if_neg (by omega)
           exact zQm k (by rw [e]; show pChN (S.1 0) u = _; rw [z_upF_s, c]) (by rw [e, c]; rfl))
    · refine zr_sipush dX4_charges_47 rfl ?_
      refine zr_goto dX4_charges_50 (tgt := 62) (by decide) ?_
      refine zm_store hA (by decide) dX4_charges_62 (by constructor <;> (try simp only [zMn]) <;> omega) ?_
      try simp only [zuf_1, zua_s, zua_2, zuf_s, zuf_zuf, zua_zuf, zua_zua, zua_e, zuf_e, Nat.reduceBEq]
      refine zr_aload_n dX4_charges_63 rfl rfl ?_
      refine zm_geta 0 dX4_charges_64 q2119 rfl ?_
      try simp only [zuf_1, zua_s, zua_2, zuf_s, zuf_zuf, zua_zuf, zua_zua, zua_e, zuf_e, Nat.reduceBEq]
      refine zr_bipush dX4_charges_67 rfl ?_
      refine zm_load hA (by decide) dX4_charges_69 (by constructor <;> (try simp only [zMn]) <;> omega) ?_
      try simp only [zuf_1, zua_s, zua_2, zuf_s, zuf_zuf, zua_zuf, zua_zua, zua_e, zuf_e, Nat.reduceBEq]
      refine zr_ireturn dX4_charges_70 rfl (by first | rfl | exact z_nb _) ?_
      have e : pChg (S.1 0) u = (0, pChN (S.1 0) u, z_upF (S.1 0) 6 (pChN (S.1 0) u)) := by unfold pChg; simp [*]
      first
        | (have c : pChN (S.1 0) u = 1000 := if_pos (by omega)
           exact zQm k (by rw [e]; show pChN (S.1 0) u = _; rw [z_upF_s, c]) (by rw [e, c]; rfl))
        | (have c : pChN (S.1 0) u = S.1 0 6 + u := if_neg (by omega)
           exact zQm k (by rw [e]; show pChN (S.1 0) u = _; rw [z_upF_s, c]) (by rw [e, c]; rfl))
  · refine zr_iconst dX4_charges_12 ?_
    refine zr_goto dX4_charges_13 (tgt := 17) (by decide) ?_
    refine zr_iconst dX4_charges_17 ?_
    refine zc_v2 dX4_charges_18 hX4_isThrown gX4_isThrown rfl rfl 0 0 0 (by omega) (Nat.zero_le _) (Nat.zero_le _) q2199 q2201 sp45 zM_rc ?_
    refine kX4_isThrown1 hA (zK_i ?_)
    try simp only [zuf_1, zua_s, zua_2, zuf_s, zuf_zuf, zua_zuf, zua_zua, zua_e, zuf_e, Nat.reduceBEq]
    refine zr_ifeq dX4_charges_21 (tgt := 26) (by decide) (by decide) (fun h => absurd h (by decide)) (fun _ => ?_)
    refine zr_iconst dX4_charges_24 ?_
    refine zr_ireturn dX4_charges_25 rfl (by first | rfl | exact z_nb _) ?_
    have e : pChg (S.1 0) u = (1, 0, S.1 0) := by unfold pChg; simp [*]
    exact zQm k (by rw [e]) (by rw [e, pAf_s])
def pShN (g : Int → Int) (i : Int) : Int → Int := fun j => if 0 ≤ j ∧ j < 204 * (i - 1) then g (j + 204) else g j
theorem pShN_1 {g : Int → Int} : pShN g 1 = g := by
  funext j
  unfold pShN
  rw [if_neg (by omega)]
theorem pShN_s {g : Int → Int} {i : Int} (hi : 1 ≤ i) : pCp (pShN g i) (204 * i) (pShN g i) (204 * (i - 1)) = pShN g (i + 1) := by
  funext j
  unfold pCp pCpN
  by_cases h : 204 * (i - 1) ≤ j ∧ j < 204 * (i - 1) + 204
  · rw [if_pos h]
    unfold pShN
    rw [if_neg (by omega), if_pos (by omega), show 204 * i + (j - 204 * (i - 1)) = j + 204 by omega]
  · rw [if_neg h]
    unfold pShN
    by_cases h2 : 0 ≤ j ∧ j < 204 * (i - 1)
    · rw [if_pos h2, if_pos (by omega)]
    · rw [if_neg h2, if_neg (by omega)]
/-- a row kept: the past, how many -/
def pPush (S : zMS) : zMS := if S.2 5 = 8 then zuf (zua S 3 (pCp (S.1 1) 0 (pShN (S.1 3) 8) (204 * 7))) 5 8 else zuf (zua S 3 (pCp (S.1 1) 0 (S.1 3) (204 * S.2 5))) 5 (S.2 5 + 1)
theorem kX4_endsL {G : State} {d rc rs : Nat} {ah : zH} {A : Nat → Nat} {S : zMS} {Q : zRs → zH → Prop} (hA : zMi A) {t : Int} (hd : 1 ≤ d) (n : Nat) : ∀ (i : Int), 1 ≤ i → i + n = 8 → (∀ J : Option Value, zW G mX4_ends d rc rs 55 [some (.ref (A 18)), some (.int (zi t)), J] [] (zMh ah A (zua S 3 (pShN (S.1 3) 8))) Q) → zW G mX4_ends d rc rs 20 [some (.ref (A 18)), some (.int (zi t)), some (.int (zi i))] [] (zMh ah A (zua S 3 (pShN (S.1 3) i))) Q := by
  induction n with
  | zero =>
    intro i g1 g2 k
    refine zr_iload_n dX4_ends_20 rfl ?_
    refine zr_bipush dX4_ends_21 rfl ?_
    refine zr_icmpge dX4_ends_23 (tgt := 55) (by decide) (by omega) (by omega) (fun h23 => ?_) (fun h23 => ?_)
    · obtain rfl : i = 8 := by omega
      exact k _
    · exfalso; omega
  | succ n ih =>
    intro i g1 g2 k
    refine zr_iload_n dX4_ends_20 rfl ?_
    refine zr_bipush dX4_ends_21 rfl ?_
    refine zr_icmpge dX4_ends_23 (tgt := 55) (by decide) (by omega) (by omega) (fun h23 => ?_) (fun h23 => ?_)
    · exfalso; omega
    · refine zr_aload_n dX4_ends_26 rfl rfl ?_
      refine zm_geta 3 dX4_ends_27 q2122 rfl ?_
      try simp only [zuf_1, zua_s, zua_2, zuf_s, zuf_zuf, zua_zuf, zua_zua, zua_e, zuf_e, Nat.reduceBEq]
      refine zr_sipush dX4_ends_30 rfl ?_
      refine zr_iload_n dX4_ends_33 rfl ?_
      refine zr_imul dX4_ends_34 ?_
      refine zr_aload_n dX4_ends_35 rfl rfl ?_
      refine zm_geta 3 dX4_ends_36 q2122 rfl ?_
      try simp only [zuf_1, zua_s, zua_2, zuf_s, zuf_zuf, zua_zuf, zua_zua, zua_e, zuf_e, Nat.reduceBEq]
      refine zr_sipush dX4_ends_39 rfl ?_
      refine zr_iload_n dX4_ends_42 rfl ?_
      refine zr_iconst dX4_ends_43 ?_
      refine zr_isub dX4_ends_44 ?_
      refine zr_imul dX4_ends_45 ?_
      refine zc_s4 dX4_ends_46 hX4_copies gX4_copies rfl rfl 0 0 0 (by omega) (Nat.zero_le _) (Nat.zero_le _) q2186 q2187 ?_
      refine kX4_copies hA (by decide) (by decide) (by simp only [zMn]; omega) (by simp only [zMn]; omega) (by first | (left; decide) | (right; omega)) (by decide) (zK_v ?_)
      try simp only [zuf_1, zua_s, zua_2, zuf_s, zuf_zuf, zua_zuf, zua_zua, zua_e, zuf_e, Nat.reduceBEq]
      rw [pShN_s g1]
      refine zr_iinc dX4_ends_49 rfl (by decide) (zs3_2 rfl ?_)
      refine zr_goto dX4_ends_52 (tgt := 20) (by decide) ?_
      exact ih (i + 1) (by omega) (by omega) k
theorem kX4_ends {G : State} {d rc rs : Nat} {ah : zH} {A : Nat → Nat} {S : zMS} {Q : zRs → zH → Prop} {t : Int} (hA : zMi A) (hd : 1 ≤ d) (hc : 0 ≤ S.2 5 ∧ S.2 5 ≤ 8) (hth : -2147483648 ≤ S.2 6 ∧ S.2 6 ≤ 2147483647) (k0 : ¬ S.2 6 = 0 → Q (.inl (some (.int (zi 0)))) (zMh ah A S)) (k : S.2 6 = 0 → Q (.inl (some (.int (zi t)))) (zMh ah A (pPush S))) : zW G mX4_ends d rc rs 0 (zent [.ref (A 18), .int (zi t)]) [] (zMh ah A S) Q := by
  refine zW_open 1 [some (.ref (A 18)), some (.int (zi t)), none] rfl ?_
  refine zr_aload_n dX4_ends_0 rfl rfl ?_
  refine zm_geti 6 dX4_ends_1 q2125 rfl ?_
  refine zr_ifeq dX4_ends_4 (tgt := 9) (by decide) (by omega) (fun h4 => ?_) (fun h4 => ?_)
  · refine zr_aload_n dX4_ends_9 rfl rfl ?_
    refine zm_geti 5 dX4_ends_10 q2124 rfl ?_
    refine zr_bipush dX4_ends_13 rfl ?_
    refine zr_icmpne dX4_ends_15 (tgt := 65) (by decide) (by omega) (by omega) (fun h15 => ?_) (fun h15 => ?_)
    · refine zr_aload_n dX4_ends_65 rfl rfl ?_
      refine zm_geta 1 dX4_ends_66 q2120 rfl ?_
      refine zr_iconst dX4_ends_69 ?_
      refine zr_aload_n dX4_ends_70 rfl rfl ?_
      refine zm_geta 3 dX4_ends_71 q2122 rfl ?_
      refine zr_sipush dX4_ends_74 rfl ?_
      refine zr_aload_n dX4_ends_77 rfl rfl ?_
      refine zm_geti 5 dX4_ends_78 q2124 rfl ?_
      refine zr_imul dX4_ends_81 ?_
      refine zc_s4 dX4_ends_82 hX4_copies gX4_copies rfl rfl 0 0 0 (by omega) (Nat.zero_le _) (Nat.zero_le _) q2186 q2187 ?_
      refine kX4_copies hA (by decide) (by decide) (by simp only [zMn]; omega) (by simp only [zMn]; omega) (by first | (left; decide) | (right; omega)) (by decide) (zK_v ?_)
      try simp only [zuf_1, zua_s, zua_2, zuf_s, zuf_zuf, zua_zuf, zua_zua, zua_e, zuf_e, Nat.reduceBEq]
      refine zr_aload_n dX4_ends_85 rfl rfl ?_
      refine zr_dup dX4_ends_86 rfl ?_
      refine zm_geti 5 dX4_ends_87 q2124 rfl ?_
      try simp only [zuf_1, zua_s, zua_2, zuf_s, zuf_zuf, zua_zuf, zua_zua, zua_e, zuf_e, Nat.reduceBEq]
      refine zr_iconst dX4_ends_90 ?_
      refine zr_iadd dX4_ends_91 ?_
      refine zm_put 5 dX4_ends_92 q2124 (by decide) ?_
      try simp only [zuf_1, zua_s, zua_2, zuf_s, zuf_zuf, zua_zuf, zua_zua, zua_e, zuf_e, Nat.reduceBEq]
      refine zr_iload_n dX4_ends_95 rfl ?_
      refine zr_ireturn dX4_ends_96 rfl (by first | rfl | exact z_nb _) ?_
      exact zQm (k h4) rfl (by unfold pPush; rw [if_neg h15])
    · refine zr_iconst dX4_ends_18 ?_
      refine zr_istore_n dX4_ends_19 (by decide) (zs3_2 rfl ?_)
      rw [show zMh ah A S = zMh ah A (zua S 3 (pShN (S.1 3) 1)) by rw [pShN_1, zua_self]]
      refine kX4_endsL hA hd 7 1 (by omega) (by omega) (fun J => ?_)
      refine zr_aload_n dX4_ends_55 rfl rfl ?_
      refine zr_dup dX4_ends_56 rfl ?_
      refine zm_geti 5 dX4_ends_57 q2124 rfl ?_
      try simp only [zuf_1, zua_s, zua_2, zuf_s, zuf_zuf, zua_zuf, zua_zua, zua_e, zuf_e, Nat.reduceBEq]
      refine zr_iconst dX4_ends_60 ?_
      refine zr_isub dX4_ends_61 ?_
      rw [h15]
      refine zm_put 5 dX4_ends_62 q2124 (by decide) ?_
      try simp only [zuf_1, zua_s, zua_2, zuf_s, zuf_zuf, zua_zuf, zua_zua, zua_e, zuf_e, Nat.reduceBEq]
      refine zr_aload_n dX4_ends_65 rfl rfl ?_
      refine zm_geta 1 dX4_ends_66 q2120 rfl ?_
      try simp only [zuf_1, zua_s, zua_2, zuf_s, zuf_zuf, zua_zuf, zua_zua, zua_e, zuf_e, Nat.reduceBEq]
      refine zr_iconst dX4_ends_69 ?_
      refine zr_aload_n dX4_ends_70 rfl rfl ?_
      refine zm_geta 3 dX4_ends_71 q2122 rfl ?_
      try simp only [zuf_1, zua_s, zua_2, zuf_s, zuf_zuf, zua_zuf, zua_zua, zua_e, zuf_e, Nat.reduceBEq]
      refine zr_sipush dX4_ends_74 rfl ?_
      refine zr_aload_n dX4_ends_77 rfl rfl ?_
      refine zm_geti 5 dX4_ends_78 q2124 rfl ?_
      try simp only [zuf_1, zua_s, zua_2, zuf_s, zuf_zuf, zua_zuf, zua_zua, zua_e, zuf_e, Nat.reduceBEq]
      refine zr_imul dX4_ends_81 ?_
      refine zc_s4 dX4_ends_82 hX4_copies gX4_copies rfl rfl 0 0 0 (by omega) (Nat.zero_le _) (Nat.zero_le _) q2186 q2187 ?_
      refine kX4_copies hA (by decide) (by decide) (by simp only [zMn]; omega) (by simp only [zMn]; omega) (by first | (left; decide) | (right; omega)) (by decide) (zK_v ?_)
      try simp only [zuf_1, zua_s, zua_2, zuf_s, zuf_zuf, zua_zuf, zua_zua, zua_e, zuf_e, Nat.reduceBEq]
      try rw [show pCp ((zua S 3 (pShN (S.1 3) 8)).1 1) 0 (pShN (S.1 3) 8) (204 * (8 - 1)) = pCp (S.1 1) 0 (pShN (S.1 3) 8) (204 * 7) from rfl]
      refine zr_aload_n dX4_ends_85 rfl rfl ?_
      refine zr_dup dX4_ends_86 rfl ?_
      refine zm_geti 5 dX4_ends_87 q2124 rfl ?_
      try simp only [zuf_1, zua_s, zua_2, zuf_s, zuf_zuf, zua_zuf, zua_zua, zua_e, zuf_e, Nat.reduceBEq]
      refine zr_iconst dX4_ends_90 ?_
      refine zr_iadd dX4_ends_91 ?_
      refine zm_put 5 dX4_ends_92 q2124 (by decide) ?_
      try simp only [zuf_1, zua_s, zua_2, zuf_s, zuf_zuf, zua_zuf, zua_zua, zua_e, zuf_e, Nat.reduceBEq]
      refine zr_iload_n dX4_ends_95 rfl ?_
      refine zr_ireturn dX4_ends_96 rfl (by first | rfl | exact z_nb _) ?_
      refine zQm (k h4) rfl ?_
      unfold pPush
      rw [if_pos h15]
      rfl
  · refine zr_iconst dX4_ends_7 ?_
    refine zr_ireturn dX4_ends_8 rfl (by first | rfl | exact z_nb _) ?_
    exact k0 h4
/-- the row kept aside, nothing thrown -/
def pKp (S : zMS) : zMS := zuf (zua S 1 (pCp (S.1 0) 0 (S.1 1) 0)) 6 0
def pDo (S : zMS) (X : Int × Int × (Int → Int)) : zMS := if X.1 = 0 then pPush (pAf (pKp S) X) else pAf (pKp S) X
def pDoR (X : Int × Int × (Int → Int)) : Int := if X.1 = 0 then X.2.1 else 0
theorem pKp_0 {S : zMS} : (pKp S).1 0 = S.1 0 := rfl
theorem pAf_5 {S : zMS} {X : Int × Int × (Int → Int)} : (pAf S X).2 5 = S.2 5 := rfl
theorem pAf_6 {S : zMS} {X : Int × Int × (Int → Int)} : (pAf S X).2 6 = X.1 := by unfold pAf; rw [zuf_s]
theorem pAdd_t {s : Int → Int} {x y r : Int} : 0 ≤ (pAdd s x y r).1 ∧ (pAdd s x y r).1 ≤ 4 := by
  unfold pAdd
  (repeat' split) <;> (dsimp only; omega)
theorem pJoin_t {s : Int → Int} {a b v : Int} : 0 ≤ (pJoin s a b v).1 ∧ (pJoin s a b v).1 ≤ 4 := by
  unfold pJoin
  (repeat' split) <;> (dsimp only; omega)
theorem pCut_t {s : Int → Int} {a b : Int} : 0 ≤ (pCut s a b).1 ∧ (pCut s a b).1 ≤ 4 := by
  unfold pCut
  (repeat' split) <;> (dsimp only; omega)
theorem pStop_t {s : Int → Int}  : 0 ≤ (pStop s).1 ∧ (pStop s).1 ≤ 4 := by
  unfold pStop
  (repeat' split) <;> (dsimp only; omega)
theorem pUpd_t {s : Int → Int} {x y : Int} : 0 ≤ (pUpd s x y).1 ∧ (pUpd s x y).1 ≤ 4 := by
  unfold pUpd
  (repeat' split) <;> (dsimp only; omega)
theorem pChg_t {s : Int → Int} {u : Int} : 0 ≤ (pChg s u).1 ∧ (pChg s u).1 ≤ 4 := by
  unfold pChg
  (repeat' split) <;> (dsimp only; omega)
theorem pTell_t {s : Int → Int} {w v a b : Int} : 0 ≤ (pTell s w v a b).1 ∧ (pTell s w v a b).1 ≤ 4 := by
  unfold pTell
  (repeat' split) <;> (dsimp only; omega)
def pOK (S : zMS) : Prop := pV (S.1 0) ∧ 0 ≤ S.2 5 ∧ S.2 5 ≤ 8
theorem kX4_endsC {G : State} {d rc rs : Nat} {ah : zH} {A : Nat → Nat} {S : zMS} {Q : zRs → zH → Prop} {t : Int} (hA : zMi A) (hd : 1 ≤ d) (hc : 0 ≤ S.2 5 ∧ S.2 5 ≤ 8) (hth : -2147483648 ≤ S.2 6 ∧ S.2 6 ≤ 2147483647) (k : Q (.inl (some (.int (zi (if S.2 6 = 0 then t else 0))))) (zMh ah A (if S.2 6 = 0 then pPush S else S))) : zW G mX4_ends d rc rs 0 (zent [.ref (A 18), .int (zi t)]) [] (zMh ah A S) Q :=
  kX4_ends hA hd hc hth (fun h => by rw [if_neg h, if_neg h] at k; exact k) (fun h => by rw [if_pos h, if_pos h] at k; exact k)
theorem zW_heap {G : State} {M : zMd} {d rc rs pc : Nat} {ls : List (Option Value)} {st : List Value} {h h' : zH} {Q : zRs → zH → Prop} (e : h = h') (k : zW G M d rc rs pc ls st h' Q) : zW G M d rc rs pc ls st h Q := by rw [e]; exact k
theorem pUpd_r {s : Int → Int} {x y : Int} : 0 ≤ (pUpd s x y).2.1 ∧ (pUpd s x y).2.1 ≤ 1 := by
  unfold pUpd
  (repeat' split) <;> (dsimp only; omega)
theorem kX4_addWaypoint {G : State} {d rc rs : Nat} {ah : zH} {A : Nat → Nat} {S : zMS} {Q : zRs → zH → Prop} {x y r : Int} (hA : zMi A) (hd : 3 ≤ d) (hO : pOK S) (qx : -2147483648 ≤ x ∧ x ≤ 2147483647) (qy : -2147483648 ≤ y ∧ y ≤ 2147483647) (qr : -2147483648 ≤ r ∧ r ≤ 2147483647) (k : Q (.inl (some (.int (zi (pDoR (pAdd (S.1 0) x y r)))))) (zMh ah A (pDo S (pAdd (S.1 0) x y r)))) : zW G mX4_addWaypoint d rc rs 0 (zent [.ref (A 18), .int (zi x), .int (zi y), .int (zi r)]) [] (zMh ah A S) Q := by
  refine zW_open 0 [some (.ref (A 18)), some (.int (zi x)), some (.int (zi y)), some (.int (zi r))] rfl ?_
  refine zr_aload_n dX4_addWaypoint_0 rfl rfl ?_
  refine zc_v0 dX4_addWaypoint_1 hX4_keeps gX4_keeps rfl rfl 1 0 0 (by omega) (Nat.zero_le _) (Nat.zero_le _) q2182 q2184 sp43 zM_rc ?_
  refine kX4_keeps hA (by omega) (zK_v ?_)
  refine zW_heap (h' := zMh ah A (pKp S)) rfl ?_
  have hV : pV ((pKp S).1 0) := hO.1
  refine zr_aload_n dX4_addWaypoint_4 rfl rfl ?_
  refine zr_aload_n dX4_addWaypoint_5 rfl rfl ?_
  refine zr_iload_n dX4_addWaypoint_6 rfl ?_
  refine zr_iload_n dX4_addWaypoint_7 rfl ?_
  refine zr_iload_n dX4_addWaypoint_8 rfl ?_
  refine zc_v3 dX4_addWaypoint_9 hX4_points gX4_points rfl rfl 2 0 0 (by omega) (Nat.zero_le _) (Nat.zero_le _) q2189 q2191 sp44 zM_rc ?_
  refine kX4_points hA (by first | omega | (simp only [zuf_1, zua_s, zua_2, zuf_s, zua_e, zuf_e, Nat.reduceBEq]; omega)) hV (by first | omega | (simp only [zuf_1, zua_s, zua_2, zuf_s, zua_e, zuf_e, Nat.reduceBEq]; omega)) (by first | omega | (simp only [zuf_1, zua_s, zua_2, zuf_s, zua_e, zuf_e, Nat.reduceBEq]; omega)) (by first | omega | (simp only [zuf_1, zua_s, zua_2, zuf_s, zua_e, zuf_e, Nat.reduceBEq]; omega)) (zK_i ?_)
  rw [show (pKp S).1 0 = S.1 0 from rfl]
  refine zc_v1 dX4_addWaypoint_12 hX4_ends gX4_ends rfl rfl 1 0 0 (by omega) (Nat.zero_le _) (Nat.zero_le _) q2203 q2205 sp46 zM_rc ?_
  refine kX4_endsC hA (by first | omega | (simp only [zuf_1, zua_s, zua_2, zuf_s, zua_e, zuf_e, Nat.reduceBEq]; omega)) (by rw [pAf_5]; exact hO.2) (by rw [pAf_6]; have := pAdd_t (s := S.1 0) (x := x) (y := y) (r := r); omega) (zK_i ?_)
  simp only [pAf_6]
  refine zr_ireturn dX4_addWaypoint_15 rfl (by first | rfl | exact z_nb _) ?_
  exact k
theorem kX4_addTrail {G : State} {d rc rs : Nat} {ah : zH} {A : Nat → Nat} {S : zMS} {Q : zRs → zH → Prop} {a b v : Int} (hA : zMi A) (hd : 3 ≤ d) (hO : pOK S) (qa : -2147483648 ≤ a ∧ a ≤ 2147483647) (qb : -2147483648 ≤ b ∧ b ≤ 2147483647) (qv : -2147483648 ≤ v ∧ v ≤ 2147483647) (k : Q (.inl (some (.int (zi (pDoR (pJoin (S.1 0) a b v)))))) (zMh ah A (pDo S (pJoin (S.1 0) a b v)))) : zW G mX4_addTrail d rc rs 0 (zent [.ref (A 18), .int (zi a), .int (zi b), .int (zi v)]) [] (zMh ah A S) Q := by
  refine zW_open 0 [some (.ref (A 18)), some (.int (zi a)), some (.int (zi b)), some (.int (zi v))] rfl ?_
  refine zr_aload_n dX4_addTrail_0 rfl rfl ?_
  refine zc_v0 dX4_addTrail_1 hX4_keeps gX4_keeps rfl rfl 1 0 0 (by omega) (Nat.zero_le _) (Nat.zero_le _) q2182 q2184 sp43 zM_rc ?_
  refine kX4_keeps hA (by omega) (zK_v ?_)
  refine zW_heap (h' := zMh ah A (pKp S)) rfl ?_
  have hV : pV ((pKp S).1 0) := hO.1
  refine zr_aload_n dX4_addTrail_4 rfl rfl ?_
  refine zr_aload_n dX4_addTrail_5 rfl rfl ?_
  refine zr_iload_n dX4_addTrail_6 rfl ?_
  refine zr_iload_n dX4_addTrail_7 rfl ?_
  refine zr_iload_n dX4_addTrail_8 rfl ?_
  refine zc_v3 dX4_addTrail_9 hX4_joins gX4_joins rfl rfl 2 0 0 (by omega) (Nat.zero_le _) (Nat.zero_le _) q2211 q2213 sp47 zM_rc ?_
  refine kX4_joins hA (by first | omega | (simp only [zuf_1, zua_s, zua_2, zuf_s, zua_e, zuf_e, Nat.reduceBEq]; omega)) hV (by first | omega | (simp only [zuf_1, zua_s, zua_2, zuf_s, zua_e, zuf_e, Nat.reduceBEq]; omega)) (by first | omega | (simp only [zuf_1, zua_s, zua_2, zuf_s, zua_e, zuf_e, Nat.reduceBEq]; omega)) (by first | omega | (simp only [zuf_1, zua_s, zua_2, zuf_s, zua_e, zuf_e, Nat.reduceBEq]; omega)) (zK_i ?_)
  rw [show (pKp S).1 0 = S.1 0 from rfl]
  refine zc_v1 dX4_addTrail_12 hX4_ends gX4_ends rfl rfl 1 0 0 (by omega) (Nat.zero_le _) (Nat.zero_le _) q2203 q2205 sp46 zM_rc ?_
  refine kX4_endsC hA (by first | omega | (simp only [zuf_1, zua_s, zua_2, zuf_s, zua_e, zuf_e, Nat.reduceBEq]; omega)) (by rw [pAf_5]; exact hO.2) (by rw [pAf_6]; have := pJoin_t (s := S.1 0) (a := a) (b := b) (v := v); omega) (zK_i ?_)
  simp only [pAf_6]
  refine zr_ireturn dX4_addTrail_15 rfl (by first | rfl | exact z_nb _) ?_
  exact k
theorem kX4_removeTrail {G : State} {d rc rs : Nat} {ah : zH} {A : Nat → Nat} {S : zMS} {Q : zRs → zH → Prop} {a b : Int} (hA : zMi A) (hd : 3 ≤ d) (hO : pOK S) (qa : -2147483648 ≤ a ∧ a ≤ 2147483647) (qb : -2147483648 ≤ b ∧ b ≤ 2147483647) (k : Q (.inl (some (.int (zi (pDoR (pCut (S.1 0) a b)))))) (zMh ah A (pDo S (pCut (S.1 0) a b)))) : zW G mX4_removeTrail d rc rs 0 (zent [.ref (A 18), .int (zi a), .int (zi b)]) [] (zMh ah A S) Q := by
  refine zW_open 0 [some (.ref (A 18)), some (.int (zi a)), some (.int (zi b))] rfl ?_
  refine zr_aload_n dX4_removeTrail_0 rfl rfl ?_
  refine zc_v0 dX4_removeTrail_1 hX4_keeps gX4_keeps rfl rfl 1 0 0 (by omega) (Nat.zero_le _) (Nat.zero_le _) q2182 q2184 sp43 zM_rc ?_
  refine kX4_keeps hA (by omega) (zK_v ?_)
  refine zW_heap (h' := zMh ah A (pKp S)) rfl ?_
  have hV : pV ((pKp S).1 0) := hO.1
  refine zr_aload_n dX4_removeTrail_4 rfl rfl ?_
  refine zr_aload_n dX4_removeTrail_5 rfl rfl ?_
  refine zr_iload_n dX4_removeTrail_6 rfl ?_
  refine zr_iload_n dX4_removeTrail_7 rfl ?_
  refine zc_v2 dX4_removeTrail_8 hX4_cuts gX4_cuts rfl rfl 2 0 0 (by omega) (Nat.zero_le _) (Nat.zero_le _) q2235 q2237 sp52 zM_rc ?_
  refine kX4_cuts hA (by first | omega | (simp only [zuf_1, zua_s, zua_2, zuf_s, zua_e, zuf_e, Nat.reduceBEq]; omega)) hV (by first | omega | (simp only [zuf_1, zua_s, zua_2, zuf_s, zua_e, zuf_e, Nat.reduceBEq]; omega)) (by first | omega | (simp only [zuf_1, zua_s, zua_2, zuf_s, zua_e, zuf_e, Nat.reduceBEq]; omega)) (zK_i ?_)
  rw [show (pKp S).1 0 = S.1 0 from rfl]
  refine zc_v1 dX4_removeTrail_11 hX4_ends gX4_ends rfl rfl 1 0 0 (by omega) (Nat.zero_le _) (Nat.zero_le _) q2203 q2205 sp46 zM_rc ?_
  refine kX4_endsC hA (by first | omega | (simp only [zuf_1, zua_s, zua_2, zuf_s, zua_e, zuf_e, Nat.reduceBEq]; omega)) (by rw [pAf_5]; exact hO.2) (by rw [pAf_6]; have := pCut_t (s := S.1 0) (a := a) (b := b); omega) (zK_i ?_)
  simp only [pAf_6]
  refine zr_ireturn dX4_removeTrail_14 rfl (by first | rfl | exact z_nb _) ?_
  exact k
theorem kX4_stopTour {G : State} {d rc rs : Nat} {ah : zH} {A : Nat → Nat} {S : zMS} {Q : zRs → zH → Prop} (hA : zMi A) (hd : 2 ≤ d) (hO : pOK S) (k : Q (.inl (some (.int (zi (pDoR (pStop (S.1 0))))))) (zMh ah A (pDo S (pStop (S.1 0))))) : zW G mX4_stopTour d rc rs 0 (zent [.ref (A 18)]) [] (zMh ah A S) Q := by
  refine zW_open 0 [some (.ref (A 18))] rfl ?_
  refine zr_aload_n dX4_stopTour_0 rfl rfl ?_
  refine zc_v0 dX4_stopTour_1 hX4_keeps gX4_keeps rfl rfl 1 0 0 (by omega) (Nat.zero_le _) (Nat.zero_le _) q2182 q2184 sp43 zM_rc ?_
  refine kX4_keeps hA (by omega) (zK_v ?_)
  refine zW_heap (h' := zMh ah A (pKp S)) rfl ?_
  have hV : pV ((pKp S).1 0) := hO.1
  refine zr_aload_n dX4_stopTour_4 rfl rfl ?_
  refine zr_aload_n dX4_stopTour_5 rfl rfl ?_
  refine zc_v0 dX4_stopTour_6 hX4_stops gX4_stops rfl rfl 1 0 0 (by omega) (Nat.zero_le _) (Nat.zero_le _) q2268 q2270 sp58 zM_rc ?_
  refine kX4_stops hA (by first | omega | (simp only [zuf_1, zua_s, zua_2, zuf_s, zua_e, zuf_e, Nat.reduceBEq]; omega)) hV (zK_i ?_)
  rw [show (pKp S).1 0 = S.1 0 from rfl]
  refine zc_v1 dX4_stopTour_9 hX4_ends gX4_ends rfl rfl 1 0 0 (by omega) (Nat.zero_le _) (Nat.zero_le _) q2203 q2205 sp46 zM_rc ?_
  refine kX4_endsC hA (by first | omega | (simp only [zuf_1, zua_s, zua_2, zuf_s, zua_e, zuf_e, Nat.reduceBEq]; omega)) (by rw [pAf_5]; exact hO.2) (by rw [pAf_6]; have := pStop_t (s := S.1 0); omega) (zK_i ?_)
  simp only [pAf_6]
  refine zr_ireturn dX4_stopTour_12 rfl (by first | rfl | exact z_nb _) ?_
  exact k
theorem kX4_charge {G : State} {d rc rs : Nat} {ah : zH} {A : Nat → Nat} {S : zMS} {Q : zRs → zH → Prop} {u : Int} (hA : zMi A) (hd : 2 ≤ d) (hO : pOK S) (qu : -2147483648 ≤ u ∧ u ≤ 2147483647) (k : Q (.inl (some (.int (zi (pDoR (pChg (S.1 0) u)))))) (zMh ah A (pDo S (pChg (S.1 0) u)))) : zW G mX4_charge d rc rs 0 (zent [.ref (A 18), .int (zi u)]) [] (zMh ah A S) Q := by
  refine zW_open 0 [some (.ref (A 18)), some (.int (zi u))] rfl ?_
  refine zr_aload_n dX4_charge_0 rfl rfl ?_
  refine zc_v0 dX4_charge_1 hX4_keeps gX4_keeps rfl rfl 1 0 0 (by omega) (Nat.zero_le _) (Nat.zero_le _) q2182 q2184 sp43 zM_rc ?_
  refine kX4_keeps hA (by omega) (zK_v ?_)
  refine zW_heap (h' := zMh ah A (pKp S)) rfl ?_
  have hV : pV ((pKp S).1 0) := hO.1
  refine zr_aload_n dX4_charge_4 rfl rfl ?_
  refine zr_aload_n dX4_charge_5 rfl rfl ?_
  refine zr_iload_n dX4_charge_6 rfl ?_
  refine zc_v1 dX4_charge_7 hX4_charges gX4_charges rfl rfl 1 0 0 (by omega) (Nat.zero_le _) (Nat.zero_le _) q2330 q2332 sp68 zM_rc ?_
  refine kX4_charges hA (by first | omega | (simp only [zuf_1, zua_s, zua_2, zuf_s, zua_e, zuf_e, Nat.reduceBEq]; omega)) hV (by first | omega | (simp only [zuf_1, zua_s, zua_2, zuf_s, zua_e, zuf_e, Nat.reduceBEq]; omega)) (zK_i ?_)
  rw [show (pKp S).1 0 = S.1 0 from rfl]
  refine zc_v1 dX4_charge_10 hX4_ends gX4_ends rfl rfl 1 0 0 (by omega) (Nat.zero_le _) (Nat.zero_le _) q2203 q2205 sp46 zM_rc ?_
  refine kX4_endsC hA (by first | omega | (simp only [zuf_1, zua_s, zua_2, zuf_s, zua_e, zuf_e, Nat.reduceBEq]; omega)) (by rw [pAf_5]; exact hO.2) (by rw [pAf_6]; have := pChg_t (s := S.1 0) (u := u); omega) (zK_i ?_)
  simp only [pAf_6]
  refine zr_ireturn dX4_charge_13 rfl (by first | rfl | exact z_nb _) ?_
  exact k
theorem kX4_setTolerance {G : State} {d rc rs : Nat} {ah : zH} {A : Nat → Nat} {S : zMS} {Q : zRs → zH → Prop} {v : Int} (hA : zMi A) (hd : 2 ≤ d) (hO : pOK S) (qv : -2147483648 ≤ v ∧ v ≤ 2147483647) (k : Q (.inl (some (.int (zi (pDoR (pTell (S.1 0) 8 v 1 30)))))) (zMh ah A (pDo S (pTell (S.1 0) 8 v 1 30)))) : zW G mX4_setTolerance d rc rs 0 (zent [.ref (A 18), .int (zi v)]) [] (zMh ah A S) Q := by
  refine zW_open 0 [some (.ref (A 18)), some (.int (zi v))] rfl ?_
  refine zr_aload_n dX4_setTolerance_0 rfl rfl ?_
  refine zc_v0 dX4_setTolerance_1 hX4_keeps gX4_keeps rfl rfl 1 0 0 (by omega) (Nat.zero_le _) (Nat.zero_le _) q2182 q2184 sp43 zM_rc ?_
  refine kX4_keeps hA (by omega) (zK_v ?_)
  refine zW_heap (h' := zMh ah A (pKp S)) rfl ?_
  have hV : pV ((pKp S).1 0) := hO.1
  refine zr_aload_n dX4_setTolerance_4 rfl rfl ?_
  refine zr_aload_n dX4_setTolerance_5 rfl rfl ?_
  refine zr_bipush dX4_setTolerance_6 rfl ?_
  refine zr_iload_n dX4_setTolerance_8 rfl ?_
  refine zr_iconst dX4_setTolerance_9 ?_
  refine zr_bipush dX4_setTolerance_10 rfl ?_
  refine zc_v4 dX4_setTolerance_12 hX4_tells gX4_tells rfl rfl 1 0 0 (by omega) (Nat.zero_le _) (Nat.zero_le _) q2318 q2320 sp67 zM_rc ?_
  refine kX4_tells hA (by first | omega | (simp only [zuf_1, zua_s, zua_2, zuf_s, zua_e, zuf_e, Nat.reduceBEq]; omega)) (by first | omega | (simp only [zuf_1, zua_s, zua_2, zuf_s, zua_e, zuf_e, Nat.reduceBEq]; omega)) (by first | omega | (simp only [zuf_1, zua_s, zua_2, zuf_s, zua_e, zuf_e, Nat.reduceBEq]; omega)) (by first | omega | (simp only [zuf_1, zua_s, zua_2, zuf_s, zua_e, zuf_e, Nat.reduceBEq]; omega)) (by first | omega | (simp only [zuf_1, zua_s, zua_2, zuf_s, zua_e, zuf_e, Nat.reduceBEq]; omega)) (zK_i ?_)
  rw [show (pKp S).1 0 = S.1 0 from rfl]
  refine zc_v1 dX4_setTolerance_15 hX4_ends gX4_ends rfl rfl 1 0 0 (by omega) (Nat.zero_le _) (Nat.zero_le _) q2203 q2205 sp46 zM_rc ?_
  refine kX4_endsC hA (by first | omega | (simp only [zuf_1, zua_s, zua_2, zuf_s, zua_e, zuf_e, Nat.reduceBEq]; omega)) (by rw [pAf_5]; exact hO.2) (by rw [pAf_6]; have := pTell_t (s := S.1 0) (w := 8) (v := v) (a := 1) (b := 30); omega) (zK_i ?_)
  simp only [pAf_6]
  refine zr_ireturn dX4_setTolerance_18 rfl (by first | rfl | exact z_nb _) ?_
  exact k
theorem kX4_setMode {G : State} {d rc rs : Nat} {ah : zH} {A : Nat → Nat} {S : zMS} {Q : zRs → zH → Prop} {v : Int} (hA : zMi A) (hd : 2 ≤ d) (hO : pOK S) (qv : -2147483648 ≤ v ∧ v ≤ 2147483647) (k : Q (.inl (some (.int (zi (pDoR (pTell (S.1 0) 7 v 0 2)))))) (zMh ah A (pDo S (pTell (S.1 0) 7 v 0 2)))) : zW G mX4_setMode d rc rs 0 (zent [.ref (A 18), .int (zi v)]) [] (zMh ah A S) Q := by
  refine zW_open 0 [some (.ref (A 18)), some (.int (zi v))] rfl ?_
  refine zr_aload_n dX4_setMode_0 rfl rfl ?_
  refine zc_v0 dX4_setMode_1 hX4_keeps gX4_keeps rfl rfl 1 0 0 (by omega) (Nat.zero_le _) (Nat.zero_le _) q2182 q2184 sp43 zM_rc ?_
  refine kX4_keeps hA (by omega) (zK_v ?_)
  refine zW_heap (h' := zMh ah A (pKp S)) rfl ?_
  have hV : pV ((pKp S).1 0) := hO.1
  refine zr_aload_n dX4_setMode_4 rfl rfl ?_
  refine zr_aload_n dX4_setMode_5 rfl rfl ?_
  refine zr_bipush dX4_setMode_6 rfl ?_
  refine zr_iload_n dX4_setMode_8 rfl ?_
  refine zr_iconst dX4_setMode_9 ?_
  refine zr_iconst dX4_setMode_10 ?_
  refine zc_v4 dX4_setMode_11 hX4_tells gX4_tells rfl rfl 1 0 0 (by omega) (Nat.zero_le _) (Nat.zero_le _) q2318 q2320 sp67 zM_rc ?_
  refine kX4_tells hA (by first | omega | (simp only [zuf_1, zua_s, zua_2, zuf_s, zua_e, zuf_e, Nat.reduceBEq]; omega)) (by first | omega | (simp only [zuf_1, zua_s, zua_2, zuf_s, zua_e, zuf_e, Nat.reduceBEq]; omega)) (by first | omega | (simp only [zuf_1, zua_s, zua_2, zuf_s, zua_e, zuf_e, Nat.reduceBEq]; omega)) (by first | omega | (simp only [zuf_1, zua_s, zua_2, zuf_s, zua_e, zuf_e, Nat.reduceBEq]; omega)) (by first | omega | (simp only [zuf_1, zua_s, zua_2, zuf_s, zua_e, zuf_e, Nat.reduceBEq]; omega)) (zK_i ?_)
  rw [show (pKp S).1 0 = S.1 0 from rfl]
  refine zc_v1 dX4_setMode_14 hX4_ends gX4_ends rfl rfl 1 0 0 (by omega) (Nat.zero_le _) (Nat.zero_le _) q2203 q2205 sp46 zM_rc ?_
  refine kX4_endsC hA (by first | omega | (simp only [zuf_1, zua_s, zua_2, zuf_s, zua_e, zuf_e, Nat.reduceBEq]; omega)) (by rw [pAf_5]; exact hO.2) (by rw [pAf_6]; have := pTell_t (s := S.1 0) (w := 7) (v := v) (a := 0) (b := 2); omega) (zK_i ?_)
  simp only [pAf_6]
  refine zr_ireturn dX4_setMode_17 rfl (by first | rfl | exact z_nb _) ?_
  exact k
theorem kX4_update {G : State} {d rc rs : Nat} {ah : zH} {A : Nat → Nat} {S : zMS} {Q : zRs → zH → Prop} {x y : Int} (hA : zMi A) (hd : 6 ≤ d) (hO : pOK S) (qx : -2147483648 ≤ x ∧ x ≤ 2147483647) (qy : -2147483648 ≤ y ∧ y ≤ 2147483647) (hc : S.1 0 9 < 100000 ∧ S.1 0 10 < 100000 ∧ S.1 0 11 < 100000) (htg : 0 < S.1 0 1 → 1 ≤ S.1 0 2 ∧ S.1 0 2 < S.1 0 1) (k : Q (.inl (some (.int (zi (zB (decide (pDoR (pUpd (S.1 0) x y) = 1))))))) (zMh ah A (pDo S (pUpd (S.1 0) x y)))) : zW G mX4_update d rc rs 0 (zent [.ref (A 18), .int (zi x), .int (zi y)]) [] (zMh ah A S) Q := by
  refine zW_open 0 [some (.ref (A 18)), some (.int (zi x)), some (.int (zi y))] rfl ?_
  refine zr_aload_n dX4_update_0 rfl rfl ?_
  refine zc_v0 dX4_update_1 hX4_keeps gX4_keeps rfl rfl 1 0 0 (by omega) (Nat.zero_le _) (Nat.zero_le _) q2182 q2184 sp43 zM_rc ?_
  refine kX4_keeps hA (by omega) (zK_v ?_)
  refine zW_heap (h' := zMh ah A (pKp S)) rfl ?_
  have hV : pV ((pKp S).1 0) := hO.1
  refine zr_aload_n dX4_update_4 rfl rfl ?_
  refine zr_aload_n dX4_update_5 rfl rfl ?_
  refine zr_iload_n dX4_update_6 rfl ?_
  refine zr_iload_n dX4_update_7 rfl ?_
  refine zc_v2 dX4_update_8 hX4_updated gX4_updated rfl rfl 5 0 0 (by omega) (Nat.zero_le _) (Nat.zero_le _) q2280 q2282 sp60 zM_rc ?_
  refine kX4_updated hA (by first | omega | (simp only [zuf_1, zua_s, zua_2, zuf_s, zua_e, zuf_e, Nat.reduceBEq]; omega)) hV (by first | omega | (simp only [zuf_1, zua_s, zua_2, zuf_s, zua_e, zuf_e, Nat.reduceBEq]; omega)) (by first | omega | (simp only [zuf_1, zua_s, zua_2, zuf_s, zua_e, zuf_e, Nat.reduceBEq]; omega)) hc htg (zK_i ?_)
  rw [show (pKp S).1 0 = S.1 0 from rfl]
  refine zc_v1 dX4_update_11 hX4_ends gX4_ends rfl rfl 1 0 0 (by omega) (Nat.zero_le _) (Nat.zero_le _) q2203 q2205 sp46 zM_rc ?_
  refine kX4_endsC hA (by first | omega | (simp only [zuf_1, zua_s, zua_2, zuf_s, zua_e, zuf_e, Nat.reduceBEq]; omega)) (by rw [pAf_5]; exact hO.2) (by rw [pAf_6]; have := pUpd_t (s := S.1 0) (x := x) (y := y); omega) (zK_i ?_)
  simp only [pAf_6]
  have hr : -2147483648 ≤ pDoR (pUpd (S.1 0) x y) ∧ pDoR (pUpd (S.1 0) x y) ≤ 2147483647 := by have := pUpd_r (s := S.1 0) (x := x) (y := y); unfold pDoR; split <;> omega
  rw [show (if (pUpd (S.1 0) x y).1 = 0 then (pUpd (S.1 0) x y).2.1 else 0) = pDoR (pUpd (S.1 0) x y) from rfl]
  refine zr_iconst dX4_update_14 ?_
  refine zr_icmpne dX4_update_15 (tgt := 22) (by decide) (by omega) (by omega) (fun h15 => ?_) (fun h15 => ?_)
  · refine zr_iconst dX4_update_22 ?_
    refine zr_ireturn dX4_update_23 rfl (by first | rfl | exact z_nb _) ?_
    exact zQm k (by first | (rw [decide_eq_true (by omega)]; rfl) | (rw [decide_eq_false (by omega)]; rfl)) rfl
  · refine zr_iconst dX4_update_18 ?_
    refine zr_goto dX4_update_19 (tgt := 23) (by decide) ?_
    refine zr_ireturn dX4_update_23 rfl (by first | rfl | exact z_nb _) ?_
    exact zQm k (by first | (rw [decide_eq_true (by omega)]; rfl) | (rw [decide_eq_false (by omega)]; rfl)) rfl
