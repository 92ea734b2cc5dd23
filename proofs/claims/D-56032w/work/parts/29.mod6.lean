set_option maxRecDepth 100000
/-! ===== the reference: questions ===== -/
theorem kX4_waypoints {G : State} {d rc rs : Nat} {ah : zH} {A : Nat → Nat} {S : zMS} {Q : zRs → zH → Prop} (hA : zMi A) (k : Q (.inl (some (.int (zi (S.1 0 0))))) (zMh ah A (zuf S 6 0))) : zW G mX4_waypoints d rc rs 0 (zent [.ref (A 18)]) [] (zMh ah A S) Q := by
  refine zW_open 0 [some (.ref (A 18))] rfl ?_
  refine zr_aload_n dX4_waypoints_0 rfl rfl ?_
  refine zr_iconst dX4_waypoints_1 ?_
  refine zm_put 6 dX4_waypoints_2 q2125 (by decide) ?_
  try simp only [zuf_1, zua_s, zua_2, zuf_s, zuf_zuf, zua_zuf, zua_zua, zua_e, zuf_e, Nat.reduceBEq]
  refine zr_aload_n dX4_waypoints_5 rfl rfl ?_
  refine zm_geta 0 dX4_waypoints_6 q2119 rfl ?_
  try simp only [zuf_1, zua_s, zua_2, zuf_s, zuf_zuf, zua_zuf, zua_zua, zua_e, zuf_e, Nat.reduceBEq]
  refine zr_iconst dX4_waypoints_9 ?_
  refine zm_load hA (by decide) dX4_waypoints_10 (by constructor <;> (try simp only [zMn]) <;> omega) ?_
  try simp only [zuf_1, zua_s, zua_2, zuf_s, zuf_zuf, zua_zuf, zua_zua, zua_e, zuf_e, Nat.reduceBEq]
  refine zr_ireturn dX4_waypoints_11 rfl (by first | rfl | exact z_nb _) ?_
  exact k
theorem kX4_battery {G : State} {d rc rs : Nat} {ah : zH} {A : Nat → Nat} {S : zMS} {Q : zRs → zH → Prop} (hA : zMi A) (k : Q (.inl (some (.int (zi (S.1 0 6))))) (zMh ah A (zuf S 6 0))) : zW G mX4_battery d rc rs 0 (zent [.ref (A 18)]) [] (zMh ah A S) Q := by
  refine zW_open 0 [some (.ref (A 18))] rfl ?_
  refine zr_aload_n dX4_battery_0 rfl rfl ?_
  refine zr_iconst dX4_battery_1 ?_
  refine zm_put 6 dX4_battery_2 q2125 (by decide) ?_
  try simp only [zuf_1, zua_s, zua_2, zuf_s, zuf_zuf, zua_zuf, zua_zua, zua_e, zuf_e, Nat.reduceBEq]
  refine zr_aload_n dX4_battery_5 rfl rfl ?_
  refine zm_geta 0 dX4_battery_6 q2119 rfl ?_
  try simp only [zuf_1, zua_s, zua_2, zuf_s, zuf_zuf, zua_zuf, zua_zua, zua_e, zuf_e, Nat.reduceBEq]
  refine zr_bipush dX4_battery_9 rfl ?_
  refine zm_load hA (by decide) dX4_battery_11 (by constructor <;> (try simp only [zMn]) <;> omega) ?_
  try simp only [zuf_1, zua_s, zua_2, zuf_s, zuf_zuf, zua_zuf, zua_zua, zua_e, zuf_e, Nat.reduceBEq]
  refine zr_ireturn dX4_battery_12 rfl (by first | rfl | exact z_nb _) ?_
  exact k
theorem kX4_mode {G : State} {d rc rs : Nat} {ah : zH} {A : Nat → Nat} {S : zMS} {Q : zRs → zH → Prop} (hA : zMi A) (k : Q (.inl (some (.int (zi (S.1 0 7))))) (zMh ah A (zuf S 6 0))) : zW G mX4_mode d rc rs 0 (zent [.ref (A 18)]) [] (zMh ah A S) Q := by
  refine zW_open 0 [some (.ref (A 18))] rfl ?_
  refine zr_aload_n dX4_mode_0 rfl rfl ?_
  refine zr_iconst dX4_mode_1 ?_
  refine zm_put 6 dX4_mode_2 q2125 (by decide) ?_
  try simp only [zuf_1, zua_s, zua_2, zuf_s, zuf_zuf, zua_zuf, zua_zua, zua_e, zuf_e, Nat.reduceBEq]
  refine zr_aload_n dX4_mode_5 rfl rfl ?_
  refine zm_geta 0 dX4_mode_6 q2119 rfl ?_
  try simp only [zuf_1, zua_s, zua_2, zuf_s, zuf_zuf, zua_zuf, zua_zua, zua_e, zuf_e, Nat.reduceBEq]
  refine zr_bipush dX4_mode_9 rfl ?_
  refine zm_load hA (by decide) dX4_mode_11 (by constructor <;> (try simp only [zMn]) <;> omega) ?_
  try simp only [zuf_1, zua_s, zua_2, zuf_s, zuf_zuf, zua_zuf, zua_zua, zua_e, zuf_e, Nat.reduceBEq]
  refine zr_ireturn dX4_mode_12 rfl (by first | rfl | exact z_nb _) ?_
  exact k
theorem kX4_tolerance {G : State} {d rc rs : Nat} {ah : zH} {A : Nat → Nat} {S : zMS} {Q : zRs → zH → Prop} (hA : zMi A) (k : Q (.inl (some (.int (zi (S.1 0 8))))) (zMh ah A (zuf S 6 0))) : zW G mX4_tolerance d rc rs 0 (zent [.ref (A 18)]) [] (zMh ah A S) Q := by
  refine zW_open 0 [some (.ref (A 18))] rfl ?_
  refine zr_aload_n dX4_tolerance_0 rfl rfl ?_
  refine zr_iconst dX4_tolerance_1 ?_
  refine zm_put 6 dX4_tolerance_2 q2125 (by decide) ?_
  try simp only [zuf_1, zua_s, zua_2, zuf_s, zuf_zuf, zua_zuf, zua_zua, zua_e, zuf_e, Nat.reduceBEq]
  refine zr_aload_n dX4_tolerance_5 rfl rfl ?_
  refine zm_geta 0 dX4_tolerance_6 q2119 rfl ?_
  try simp only [zuf_1, zua_s, zua_2, zuf_s, zuf_zuf, zua_zuf, zua_zua, zua_e, zuf_e, Nat.reduceBEq]
  refine zr_bipush dX4_tolerance_9 rfl ?_
  refine zm_load hA (by decide) dX4_tolerance_11 (by constructor <;> (try simp only [zMn]) <;> omega) ?_
  try simp only [zuf_1, zua_s, zua_2, zuf_s, zuf_zuf, zua_zuf, zua_zua, zua_e, zuf_e, Nat.reduceBEq]
  refine zr_ireturn dX4_tolerance_12 rfl (by first | rfl | exact z_nb _) ?_
  exact k
theorem kX4_updates {G : State} {d rc rs : Nat} {ah : zH} {A : Nat → Nat} {S : zMS} {Q : zRs → zH → Prop} (hA : zMi A) (k : Q (.inl (some (.int (zi (S.1 0 9))))) (zMh ah A (zuf S 6 0))) : zW G mX4_updates d rc rs 0 (zent [.ref (A 18)]) [] (zMh ah A S) Q := by
  refine zW_open 0 [some (.ref (A 18))] rfl ?_
  refine zr_aload_n dX4_updates_0 rfl rfl ?_
  refine zr_iconst dX4_updates_1 ?_
  refine zm_put 6 dX4_updates_2 q2125 (by decide) ?_
  try simp only [zuf_1, zua_s, zua_2, zuf_s, zuf_zuf, zua_zuf, zua_zua, zua_e, zuf_e, Nat.reduceBEq]
  refine zr_aload_n dX4_updates_5 rfl rfl ?_
  refine zm_geta 0 dX4_updates_6 q2119 rfl ?_
  try simp only [zuf_1, zua_s, zua_2, zuf_s, zuf_zuf, zua_zuf, zua_zua, zua_e, zuf_e, Nat.reduceBEq]
  refine zr_bipush dX4_updates_9 rfl ?_
  refine zm_load hA (by decide) dX4_updates_11 (by constructor <;> (try simp only [zMn]) <;> omega) ?_
  try simp only [zuf_1, zua_s, zua_2, zuf_s, zuf_zuf, zua_zuf, zua_zua, zua_e, zuf_e, Nat.reduceBEq]
  refine zr_ireturn dX4_updates_12 rfl (by first | rfl | exact z_nb _) ?_
  exact k
theorem kX4_alarms {G : State} {d rc rs : Nat} {ah : zH} {A : Nat → Nat} {S : zMS} {Q : zRs → zH → Prop} (hA : zMi A) (k : Q (.inl (some (.int (zi (S.1 0 10))))) (zMh ah A (zuf S 6 0))) : zW G mX4_alarms d rc rs 0 (zent [.ref (A 18)]) [] (zMh ah A S) Q := by
  refine zW_open 0 [some (.ref (A 18))] rfl ?_
  refine zr_aload_n dX4_alarms_0 rfl rfl ?_
  refine zr_iconst dX4_alarms_1 ?_
  refine zm_put 6 dX4_alarms_2 q2125 (by decide) ?_
  try simp only [zuf_1, zua_s, zua_2, zuf_s, zuf_zuf, zua_zuf, zua_zua, zua_e, zuf_e, Nat.reduceBEq]
  refine zr_aload_n dX4_alarms_5 rfl rfl ?_
  refine zm_geta 0 dX4_alarms_6 q2119 rfl ?_
  try simp only [zuf_1, zua_s, zua_2, zuf_s, zuf_zuf, zua_zuf, zua_zua, zua_e, zuf_e, Nat.reduceBEq]
  refine zr_bipush dX4_alarms_9 rfl ?_
  refine zm_load hA (by decide) dX4_alarms_11 (by constructor <;> (try simp only [zMn]) <;> omega) ?_
  try simp only [zuf_1, zua_s, zua_2, zuf_s, zuf_zuf, zua_zuf, zua_zua, zua_e, zuf_e, Nat.reduceBEq]
  refine zr_ireturn dX4_alarms_12 rfl (by first | rfl | exact z_nb _) ?_
  exact k
theorem kX4_reached {G : State} {d rc rs : Nat} {ah : zH} {A : Nat → Nat} {S : zMS} {Q : zRs → zH → Prop} (hA : zMi A) (k : Q (.inl (some (.int (zi (S.1 0 11))))) (zMh ah A (zuf S 6 0))) : zW G mX4_reached d rc rs 0 (zent [.ref (A 18)]) [] (zMh ah A S) Q := by
  refine zW_open 0 [some (.ref (A 18))] rfl ?_
  refine zr_aload_n dX4_reached_0 rfl rfl ?_
  refine zr_iconst dX4_reached_1 ?_
  refine zm_put 6 dX4_reached_2 q2125 (by decide) ?_
  try simp only [zuf_1, zua_s, zua_2, zuf_s, zuf_zuf, zua_zuf, zua_zua, zua_e, zuf_e, Nat.reduceBEq]
  refine zr_aload_n dX4_reached_5 rfl rfl ?_
  refine zm_geta 0 dX4_reached_6 q2119 rfl ?_
  try simp only [zuf_1, zua_s, zua_2, zuf_s, zuf_zuf, zua_zuf, zua_zua, zua_e, zuf_e, Nat.reduceBEq]
  refine zr_bipush dX4_reached_9 rfl ?_
  refine zm_load hA (by decide) dX4_reached_11 (by constructor <;> (try simp only [zMn]) <;> omega) ?_
  try simp only [zuf_1, zua_s, zua_2, zuf_s, zuf_zuf, zua_zuf, zua_zua, zua_e, zuf_e, Nat.reduceBEq]
  refine zr_ireturn dX4_reached_12 rfl (by first | rfl | exact z_nb _) ?_
  exact k
theorem kX4_trails {G : State} {d rc rs : Nat} {ah : zH} {A : Nat → Nat} {S : zMS} {Q : zRs → zH → Prop} (hA : zMi A) (hd : 2 ≤ d) (hV : pV (S.1 0)) (k : Q (.inl (some (.int (zi (pMn (S.1 0) 12))))) (zMh ah A (zuf S 6 0))) : zW G mX4_trails d rc rs 0 (zent [.ref (A 18)]) [] (zMh ah A S) Q := by
  refine zW_open 0 [some (.ref (A 18))] rfl ?_
  refine zr_aload_n dX4_trails_0 rfl rfl ?_
  refine zr_iconst dX4_trails_1 ?_
  refine zm_put 6 dX4_trails_2 q2125 (by decide) ?_
  try simp only [zuf_1, zua_s, zua_2, zuf_s, zuf_zuf, zua_zuf, zua_zua, zua_e, zuf_e, Nat.reduceBEq]
  refine zr_aload_n dX4_trails_5 rfl rfl ?_
  refine zc_v0 dX4_trails_6 hX4_manyTrails gX4_manyTrails rfl rfl 1 0 0 (by omega) (Nat.zero_le _) (Nat.zero_le _) q2227 q2229 sp51 zM_rc ?_
  refine kX4_manyTrails hA (by first | omega | (simp only [zuf_1, zua_s, zua_2, zuf_s, zua_e, zuf_e, Nat.reduceBEq]; omega)) hV (zK_i ?_)
  refine zr_ireturn dX4_trails_9 rfl (by first | rfl | exact z_nb _) ?_
  exact k
theorem kX4_isTouring {G : State} {d rc rs : Nat} {ah : zH} {A : Nat → Nat} {S : zMS} {Q : zRs → zH → Prop} (hA : zMi A) (hd : 1 ≤ d) (hV : pV (S.1 0)) (k : Q (.inl (some (.int (zi (zB (decide (0 < S.1 0 1))))))) (zMh ah A (zuf S 6 0))) : zW G mX4_isTouring d rc rs 0 (zent [.ref (A 18)]) [] (zMh ah A S) Q := by
  refine zW_open 0 [some (.ref (A 18))] rfl ?_
  refine zr_aload_n dX4_isTouring_0 rfl rfl ?_
  refine zr_iconst dX4_isTouring_1 ?_
  refine zm_put 6 dX4_isTouring_2 q2125 (by decide) ?_
  try simp only [zuf_1, zua_s, zua_2, zuf_s, zuf_zuf, zua_zuf, zua_zua, zua_e, zuf_e, Nat.reduceBEq]
  refine zr_aload_n dX4_isTouring_5 rfl rfl ?_
  refine zc_v0 dX4_isTouring_6 hX4_isOnTour gX4_isOnTour rfl rfl 0 0 0 (by omega) (Nat.zero_le _) (Nat.zero_le _) q2247 q2249 sp54 zM_rc ?_
  refine kX4_isOnTour hA hV (zK_i ?_)
  try simp only [zuf_1, zua_s, zua_2, zuf_s, zuf_zuf, zua_zuf, zua_zua, zua_e, zuf_e, Nat.reduceBEq]
  refine zr_ireturn dX4_isTouring_9 rfl (by first | rfl | exact z_nb _) ?_
  exact k
theorem kX4_isAlarm {G : State} {d rc rs : Nat} {ah : zH} {A : Nat → Nat} {S : zMS} {Q : zRs → zH → Prop} (hA : zMi A) (hV : pV (S.1 0)) (k : Q (.inl (some (.int (zi (zB (decide (S.1 0 5 = 1))))))) (zMh ah A (zuf S 6 0))) : zW G mX4_isAlarm d rc rs 0 (zent [.ref (A 18)]) [] (zMh ah A S) Q := by
  refine zW_open 0 [some (.ref (A 18))] rfl ?_
  have v := hV.h
  refine zr_aload_n dX4_isAlarm_0 rfl rfl ?_
  refine zr_iconst dX4_isAlarm_1 ?_
  refine zm_put 6 dX4_isAlarm_2 q2125 (by decide) ?_
  try simp only [zuf_1, zua_s, zua_2, zuf_s, zuf_zuf, zua_zuf, zua_zua, zua_e, zuf_e, Nat.reduceBEq]
  refine zr_aload_n dX4_isAlarm_5 rfl rfl ?_
  refine zm_geta 0 dX4_isAlarm_6 q2119 rfl ?_
  try simp only [zuf_1, zua_s, zua_2, zuf_s, zuf_zuf, zua_zuf, zua_zua, zua_e, zuf_e, Nat.reduceBEq]
  refine zr_iconst dX4_isAlarm_9 ?_
  refine zm_load hA (by decide) dX4_isAlarm_10 (by constructor <;> (try simp only [zMn]) <;> omega) ?_
  try simp only [zuf_1, zua_s, zua_2, zuf_s, zuf_zuf, zua_zuf, zua_zua, zua_e, zuf_e, Nat.reduceBEq]
  refine zr_iconst dX4_isAlarm_11 ?_
  refine zr_icmpne dX4_isAlarm_12 (tgt := 19) (by decide) (by omega) (by omega) (fun h12 => ?_) (fun h12 => ?_)
  · refine zr_iconst dX4_isAlarm_19 ?_
    refine zr_ireturn dX4_isAlarm_20 rfl (by first | rfl | exact z_nb _) ?_
    exact zQm k (by first | (rw [decide_eq_true (by omega)]; rfl) | (rw [decide_eq_false (by omega)]; rfl)) rfl
  · refine zr_iconst dX4_isAlarm_15 ?_
    refine zr_goto dX4_isAlarm_16 (tgt := 20) (by decide) ?_
    refine zr_ireturn dX4_isAlarm_20 rfl (by first | rfl | exact z_nb _) ?_
    exact zQm k (by first | (rw [decide_eq_true (by omega)]; rfl) | (rw [decide_eq_false (by omega)]; rfl)) rfl
theorem kX4_isConsistent {G : State} {d rc rs : Nat} {ah : zH} {A : Nat → Nat} {S : zMS} {Q : zRs → zH → Prop} (hA : zMi A) (hd : 1 ≤ d) (hV : pV (S.1 0)) (k : Q (.inl (some (.int (zi (zB (decide (S.1 0 5 = 0 ∨ 0 < S.1 0 1))))))) (zMh ah A (zuf S 6 0))) : zW G mX4_isConsistent d rc rs 0 (zent [.ref (A 18)]) [] (zMh ah A S) Q := by
  refine zW_open 0 [some (.ref (A 18))] rfl ?_
  have v := hV.h
  refine zr_aload_n dX4_isConsistent_0 rfl rfl ?_
  refine zr_iconst dX4_isConsistent_1 ?_
  refine zm_put 6 dX4_isConsistent_2 q2125 (by decide) ?_
  try simp only [zuf_1, zua_s, zua_2, zuf_s, zuf_zuf, zua_zuf, zua_zua, zua_e, zuf_e, Nat.reduceBEq]
  refine zr_aload_n dX4_isConsistent_5 rfl rfl ?_
  refine zm_geta 0 dX4_isConsistent_6 q2119 rfl ?_
  try simp only [zuf_1, zua_s, zua_2, zuf_s, zuf_zuf, zua_zuf, zua_zua, zua_e, zuf_e, Nat.reduceBEq]
  refine zr_iconst dX4_isConsistent_9 ?_
  refine zm_load hA (by decide) dX4_isConsistent_10 (by constructor <;> (try simp only [zMn]) <;> omega) ?_
  try simp only [zuf_1, zua_s, zua_2, zuf_s, zuf_zuf, zua_zuf, zua_zua, zua_e, zuf_e, Nat.reduceBEq]
  refine zr_ifeq dX4_isConsistent_11 (tgt := 21) (by decide) (by omega) (fun h11 => ?_) (fun h11 => ?_)
  · try have i18 := of_decide_eq_true h18
    refine zr_iconst dX4_isConsistent_21 ?_
    refine zr_goto dX4_isConsistent_22 (tgt := 26) (by decide) ?_
    refine zr_ireturn dX4_isConsistent_26 rfl (by first | rfl | exact z_nb _) ?_
    exact zQm k (by first | (rw [decide_eq_true (by omega)]; rfl) | (rw [decide_eq_false (by omega)]; rfl)) rfl
  · refine zr_aload_n dX4_isConsistent_14 rfl rfl ?_
    refine zc_v0 dX4_isConsistent_15 hX4_isOnTour gX4_isOnTour rfl rfl 0 0 0 (by omega) (Nat.zero_le _) (Nat.zero_le _) q2247 q2249 sp54 zM_rc ?_
    refine kX4_isOnTour hA hV (zK_i ?_)
    try simp only [zuf_1, zua_s, zua_2, zuf_s, zuf_zuf, zua_zuf, zua_zua, zua_e, zuf_e, Nat.reduceBEq]
    refine zr_ifeqB dX4_isConsistent_18 (tgt := 25) (by decide) (fun h18 => ?_) (fun h18 => ?_)
    · have i18 := of_decide_eq_false h18
      refine zr_iconst dX4_isConsistent_25 ?_
      refine zr_ireturn dX4_isConsistent_26 rfl (by first | rfl | exact z_nb _) ?_
      exact zQm k (by first | (rw [decide_eq_true (by omega)]; rfl) | (rw [decide_eq_false (by omega)]; rfl)) rfl
    · try have i18 := of_decide_eq_true h18
      refine zr_iconst dX4_isConsistent_21 ?_
      refine zr_goto dX4_isConsistent_22 (tgt := 26) (by decide) ?_
      refine zr_ireturn dX4_isConsistent_26 rfl (by first | rfl | exact z_nb _) ?_
      exact zQm k (by first | (rw [decide_eq_true (by omega)]; rfl) | (rw [decide_eq_false (by omega)]; rfl)) rfl
theorem kX4_updatesLeft {G : State} {d rc rs : Nat} {ah : zH} {A : Nat → Nat} {S : zMS} {Q : zRs → zH → Prop} (hA : zMi A) (hd : 1 ≤ d) (hV : pV (S.1 0)) (k : Q (.inl (some (.int (zi ((S.1 0 6 + pCost (S.1 0 7) - 1) / pCost (S.1 0 7)))))) (zMh ah A (zuf S 6 0))) : zW G mX4_updatesLeft d rc rs 0 (zent [.ref (A 18)]) [] (zMh ah A S) Q := by
  refine zW_open 1 [some (.ref (A 18)), none] rfl ?_
  have v := hV.h
  have cb := pCost_b (S.1 0 7)
  refine zr_aload_n dX4_updatesLeft_0 rfl rfl ?_
  refine zr_iconst dX4_updatesLeft_1 ?_
  refine zm_put 6 dX4_updatesLeft_2 q2125 (by decide) ?_
  try simp only [zuf_1, zua_s, zua_2, zuf_s, zuf_zuf, zua_zuf, zua_zua, zua_e, zuf_e, Nat.reduceBEq]
  refine zr_aload_n dX4_updatesLeft_5 rfl rfl ?_
  refine zm_geta 0 dX4_updatesLeft_6 q2119 rfl ?_
  try simp only [zuf_1, zua_s, zua_2, zuf_s, zuf_zuf, zua_zuf, zua_zua, zua_e, zuf_e, Nat.reduceBEq]
  refine zr_bipush dX4_updatesLeft_9 rfl ?_
  refine zm_load hA (by decide) dX4_updatesLeft_11 (by constructor <;> (try simp only [zMn]) <;> omega) ?_
  try simp only [zuf_1, zua_s, zua_2, zuf_s, zuf_zuf, zua_zuf, zua_zua, zua_e, zuf_e, Nat.reduceBEq]
  refine zc_s1 dX4_updatesLeft_12 hX4_costOf gX4_costOf rfl rfl 0 0 0 (by omega) (Nat.zero_le _) (Nat.zero_le _) q2284 q2285 ?_
  refine kX4_costOf (by first | omega | (simp only [zuf_1, zua_s, zua_2, zuf_s, zua_e, zuf_e, Nat.reduceBEq]; omega)) (zK_i ?_)
  refine zr_istore_n dX4_updatesLeft_15 (by decide) (zs2_1 rfl ?_)
  refine zr_aload_n dX4_updatesLeft_16 rfl rfl ?_
  refine zm_geta 0 dX4_updatesLeft_17 q2119 rfl ?_
  try simp only [zuf_1, zua_s, zua_2, zuf_s, zuf_zuf, zua_zuf, zua_zua, zua_e, zuf_e, Nat.reduceBEq]
  refine zr_bipush dX4_updatesLeft_20 rfl ?_
  refine zm_load hA (by decide) dX4_updatesLeft_22 (by constructor <;> (try simp only [zMn]) <;> omega) ?_
  try simp only [zuf_1, zua_s, zua_2, zuf_s, zuf_zuf, zua_zuf, zua_zua, zua_e, zuf_e, Nat.reduceBEq]
  refine zr_iload_n dX4_updatesLeft_23 rfl ?_
  refine zr_iadd dX4_updatesLeft_24 ?_
  refine zr_iconst dX4_updatesLeft_25 ?_
  refine zr_isub dX4_updatesLeft_26 ?_
  refine zr_iload_n dX4_updatesLeft_27 rfl ?_
  refine zr_idiv dX4_updatesLeft_28 (by omega) (by omega) ?_
  refine zr_ireturn dX4_updatesLeft_29 rfl (by first | rfl | exact z_nb _) ?_
  exact k
theorem kX4_updatesLeftByCounting {G : State} {d rc rs : Nat} {ah : zH} {A : Nat → Nat} {S : zMS} {Q : zRs → zH → Prop} (hA : zMi A) (hd : 2 ≤ d) (hV : pV (S.1 0)) (k : Q (.inl (some (.int (zi ((S.1 0 6 + pCost (S.1 0 7) - 1) / pCost (S.1 0 7)))))) (zMh ah A (zuf S 6 0))) : zW G mX4_updatesLeftByCounting d rc rs 0 (zent [.ref (A 18)]) [] (zMh ah A S) Q := by
  refine zW_open 0 [some (.ref (A 18))] rfl ?_
  refine zr_aload_n dX4_updatesLeftByCounting_0 rfl rfl ?_
  refine zc_v0 dX4_updatesLeftByCounting_1 hX4_updatesLeft gX4_updatesLeft rfl rfl 1 0 0 (by omega) (Nat.zero_le _) (Nat.zero_le _) q2468 q2461 q2462 zM_rc ?_
  refine kX4_updatesLeft hA (by omega) hV (zK_i ?_)
  refine zr_ireturn dX4_updatesLeftByCounting_4 rfl (by first | rfl | exact z_nb _) ?_
  exact k
def qOf (s : Int → Int) (p w : Int) : Int × Int := if ¬ pPt s p = true then (1, 0) else (0, pOf s p w)
def qHas (s : Int → Int) (a b : Int) : Int × Int := if ¬ (pPt s a = true ∧ pPt s b = true) then (1, 0) else (0, zB (decide (0 < pTr s a b)))
def qLen (s : Int → Int) (a b : Int) : Int × Int := if ¬ (pPt s a = true ∧ pPt s b = true) then (1, 0) else if pTr s a b = 0 then (2, 0) else (0, pTr s a b)
def qTour (s : Int → Int) (v : Int) : Int × Int := if ¬ (0 < s 1) then (1, 0) else (0, v)
def qIdx (s : Int → Int) (i : Int) : Int × Int := if ¬ (0 < s 1) then (1, 1) else if ¬ pIn i 0 (s 1 - 1) = true then (2, 1) else (0, 0)
def qRw (s : Int → Int) (i : Int) : Int × Int := if ¬ (0 < s 1) then (1, 0) else if ¬ pIn i 0 (s 1 - 1) = true then (2, 0) else (0, s (192 + i))
def pTn (ux uy vx vy : Int) : Int := if 0 < ux * vy - uy * vx then 108 else if ux * vy - uy * vx < 0 then 114 else if 0 ≤ ux * vx + uy * vy then 115 else 98
def pTurn (s : Int → Int) (i : Int) : Int := pTn (pOf s (s (192 + i)) 0 - pOf s (s (192 + i - 1)) 0) (pOf s (s (192 + i)) 1 - pOf s (s (192 + i - 1)) 1) (pOf s (s (192 + i + 1)) 0 - pOf s (s (192 + i)) 0) (pOf s (s (192 + i + 1)) 1 - pOf s (s (192 + i)) 1)
def qTurn (s : Int → Int) (i : Int) : Int × Int := if ¬ (0 < s 1) then (1, 0) else if ¬ pIn i 0 (s 1 - 1) = true then (2, 0) else if i = 0 ∨ i = s 1 - 1 then (3, 0) else (0, pTurn s i)
def qFc (s : Int → Int) (x y : Int) : Int × Int := if ¬ pPl x y = true then (1, 0) else if ¬ (0 < s 1) then (2, 0) else (0, if pRe s x y = true then 116 else if pCm s x y (s 8) ≤ 0 then 113 else 97)
theorem pTn_b (a b c e : Int) : 98 ≤ pTn a b c e ∧ pTn a b c e ≤ 115 := by
  unfold pTn
  (repeat' split) <;> omega
theorem pTurn_b (s : Int → Int) (i : Int) : 98 ≤ pTurn s i ∧ pTurn s i ≤ 115 := pTn_b _ _ _ _
theorem kX4_ofPoint {G : State} {d rc rs : Nat} {ah : zH} {A : Nat → Nat} {S : zMS} {Q : zRs → zH → Prop} {p w : Int} (hA : zMi A) (hd : 2 ≤ d) (hV : pV (S.1 0)) (qp : -2147483648 ≤ p ∧ p ≤ 2147483647) (qw : -2147483648 ≤ w ∧ w ≤ 2147483647) (hw : 0 ≤ w ∧ w < 3) (k : Q (.inl (some (.int (zi (qOf (S.1 0) p w).2)))) (zMh ah A (zuf S 6 (qOf (S.1 0) p w).1))) : zW G mX4_ofPoint d rc rs 0 (zent [.ref (A 18), .int (zi p), .int (zi w)]) [] (zMh ah A S) Q := by
  refine zW_open 0 [some (.ref (A 18)), some (.int (zi p)), some (.int (zi w))] rfl ?_
  refine zr_aload_n dX4_ofPoint_0 rfl rfl ?_
  refine zr_aload_n dX4_ofPoint_1 rfl rfl ?_
  refine zr_iload_n dX4_ofPoint_2 rfl ?_
  refine zc_v1 dX4_ofPoint_3 hX4_isPoint gX4_isPoint rfl rfl 1 0 0 (by omega) (Nat.zero_le _) (Nat.zero_le _) q2215 q2217 sp48 zM_rc ?_
  refine kX4_isPoint hA (by omega) hV (by omega) (zK_i ?_)
  try simp only [zuf_1, zua_s, zua_2, zuf_s, zuf_zuf, zua_zuf, zua_zua, zua_e, zuf_e, Nat.reduceBEq]
  refine zr_ifneB dX4_ofPoint_6 (tgt := 13) (by decide) (fun h6 => ?_) (fun h6 => ?_)
  · refine zr_iconst dX4_ofPoint_13 ?_
    refine zr_iconst dX4_ofPoint_14 ?_
    refine zc_v2 dX4_ofPoint_15 hX4_isThrown gX4_isThrown rfl rfl 0 0 0 (by omega) (Nat.zero_le _) (Nat.zero_le _) q2199 q2201 sp45 zM_rc ?_
    refine kX4_isThrown0 hA (zK_i ?_)
    try simp only [zuf_1, zua_s, zua_2, zuf_s, zuf_zuf, zua_zuf, zua_zua, zua_e, zuf_e, Nat.reduceBEq]
    refine zr_ifeq dX4_ofPoint_18 (tgt := 25) (by decide) (by decide) (fun _ => ?_) (fun h => absurd h (by decide))
    have v1 := pPt_b h6 hV
    refine zr_aload_n dX4_ofPoint_25 rfl rfl ?_
    refine zr_iload_n dX4_ofPoint_26 rfl ?_
    refine zr_iload_n dX4_ofPoint_27 rfl ?_
    refine zc_v2 dX4_ofPoint_28 hX4_of gX4_of rfl rfl 0 0 0 (by omega) (Nat.zero_le _) (Nat.zero_le _) q2260 q2262 sp57 zM_rc ?_
    refine kX4_of hA (by first | omega | (simp only [zuf_1, zua_s, zua_2, zuf_s, zua_e, zuf_e, Nat.reduceBEq]; omega)) (by first | omega | (simp only [zuf_1, zua_s, zua_2, zuf_s, zua_e, zuf_e, Nat.reduceBEq]; omega)) (zK_i ?_)
    try simp only [zuf_1, zua_s, zua_2, zuf_s, zuf_zuf, zua_zuf, zua_zua, zua_e, zuf_e, Nat.reduceBEq]
    refine zr_ireturn dX4_ofPoint_31 rfl (by first | rfl | exact z_nb _) ?_
    have e : qOf (S.1 0) p w = (0, pOf (S.1 0) p w) := by unfold qOf; simp [*]
    exact zQm k (by rw [e]) (by rw [e])
  · refine zr_iconst dX4_ofPoint_9 ?_
    refine zr_goto dX4_ofPoint_10 (tgt := 14) (by decide) ?_
    refine zr_iconst dX4_ofPoint_14 ?_
    refine zc_v2 dX4_ofPoint_15 hX4_isThrown gX4_isThrown rfl rfl 0 0 0 (by omega) (Nat.zero_le _) (Nat.zero_le _) q2199 q2201 sp45 zM_rc ?_
    refine kX4_isThrown1 hA (zK_i ?_)
    try simp only [zuf_1, zua_s, zua_2, zuf_s, zuf_zuf, zua_zuf, zua_zua, zua_e, zuf_e, Nat.reduceBEq]
    refine zr_ifeq dX4_ofPoint_18 (tgt := 25) (by decide) (by decide) (fun h => absurd h (by decide)) (fun _ => ?_)
    refine zr_iconst dX4_ofPoint_21 ?_
    refine zr_goto dX4_ofPoint_22 (tgt := 31) (by decide) ?_
    refine zr_ireturn dX4_ofPoint_31 rfl (by first | rfl | exact z_nb _) ?_
    have e : qOf (S.1 0) p w = (1, 0) := by unfold qOf; simp [*]
    exact zQm k (by rw [e]) (by rw [e])
theorem kX4_waypointX {G : State} {d rc rs : Nat} {ah : zH} {A : Nat → Nat} {S : zMS} {Q : zRs → zH → Prop} {p : Int} (hA : zMi A) (hd : 3 ≤ d) (hV : pV (S.1 0)) (qp : -2147483648 ≤ p ∧ p ≤ 2147483647) (k : Q (.inl (some (.int (zi (qOf (S.1 0) p 0).2)))) (zMh ah A (zuf S 6 (qOf (S.1 0) p 0).1))) : zW G mX4_waypointX d rc rs 0 (zent [.ref (A 18), .int (zi p)]) [] (zMh ah A S) Q := by
  refine zW_open 0 [some (.ref (A 18)), some (.int (zi p))] rfl ?_
  refine zr_aload_n dX4_waypointX_0 rfl rfl ?_
  refine zr_iload_n dX4_waypointX_1 rfl ?_
  refine zr_iconst dX4_waypointX_2 ?_
  refine zc_v2 dX4_waypointX_3 hX4_ofPoint gX4_ofPoint rfl rfl 2 0 0 (by omega) (Nat.zero_le _) (Nat.zero_le _) q2342 q2344 sp69 zM_rc ?_
  refine kX4_ofPoint hA (by omega) hV (by omega) (by omega) (by omega) (zK_i ?_)
  refine zr_ireturn dX4_waypointX_6 rfl (by first | rfl | exact z_nb _) ?_
  exact k
theorem kX4_waypointY {G : State} {d rc rs : Nat} {ah : zH} {A : Nat → Nat} {S : zMS} {Q : zRs → zH → Prop} {p : Int} (hA : zMi A) (hd : 3 ≤ d) (hV : pV (S.1 0)) (qp : -2147483648 ≤ p ∧ p ≤ 2147483647) (k : Q (.inl (some (.int (zi (qOf (S.1 0) p 1).2)))) (zMh ah A (zuf S 6 (qOf (S.1 0) p 1).1))) : zW G mX4_waypointY d rc rs 0 (zent [.ref (A 18), .int (zi p)]) [] (zMh ah A S) Q := by
  refine zW_open 0 [some (.ref (A 18)), some (.int (zi p))] rfl ?_
  refine zr_aload_n dX4_waypointY_0 rfl rfl ?_
  refine zr_iload_n dX4_waypointY_1 rfl ?_
  refine zr_iconst dX4_waypointY_2 ?_
  refine zc_v2 dX4_waypointY_3 hX4_ofPoint gX4_ofPoint rfl rfl 2 0 0 (by omega) (Nat.zero_le _) (Nat.zero_le _) q2342 q2344 sp69 zM_rc ?_
  refine kX4_ofPoint hA (by omega) hV (by omega) (by omega) (by omega) (zK_i ?_)
  refine zr_ireturn dX4_waypointY_6 rfl (by first | rfl | exact z_nb _) ?_
  exact k
theorem kX4_radius {G : State} {d rc rs : Nat} {ah : zH} {A : Nat → Nat} {S : zMS} {Q : zRs → zH → Prop} {p : Int} (hA : zMi A) (hd : 3 ≤ d) (hV : pV (S.1 0)) (qp : -2147483648 ≤ p ∧ p ≤ 2147483647) (k : Q (.inl (some (.int (zi (qOf (S.1 0) p 2).2)))) (zMh ah A (zuf S 6 (qOf (S.1 0) p 2).1))) : zW G mX4_radius d rc rs 0 (zent [.ref (A 18), .int (zi p)]) [] (zMh ah A S) Q := by
  refine zW_open 0 [some (.ref (A 18)), some (.int (zi p))] rfl ?_
  refine zr_aload_n dX4_radius_0 rfl rfl ?_
  refine zr_iload_n dX4_radius_1 rfl ?_
  refine zr_iconst dX4_radius_2 ?_
  refine zc_v2 dX4_radius_3 hX4_ofPoint gX4_ofPoint rfl rfl 2 0 0 (by omega) (Nat.zero_le _) (Nat.zero_le _) q2342 q2344 sp69 zM_rc ?_
  refine kX4_ofPoint hA (by omega) hV (by omega) (by omega) (by omega) (zK_i ?_)
  refine zr_ireturn dX4_radius_6 rfl (by first | rfl | exact z_nb _) ?_
  exact k
theorem kX4_hasTrail {G : State} {d rc rs : Nat} {ah : zH} {A : Nat → Nat} {S : zMS} {Q : zRs → zH → Prop} {a b : Int} (hA : zMi A) (hd : 2 ≤ d) (hV : pV (S.1 0)) (qa : -2147483648 ≤ a ∧ a ≤ 2147483647) (qb : -2147483648 ≤ b ∧ b ≤ 2147483647) (k : Q (.inl (some (.int (zi (qHas (S.1 0) a b).2)))) (zMh ah A (zuf S 6 (qHas (S.1 0) a b).1))) : zW G mX4_hasTrail d rc rs 0 (zent [.ref (A 18), .int (zi a), .int (zi b)]) [] (zMh ah A S) Q := by
  refine zW_open 0 [some (.ref (A 18)), some (.int (zi a)), some (.int (zi b))] rfl ?_
  refine zr_aload_n dX4_hasTrail_0 rfl rfl ?_
  refine zr_aload_n dX4_hasTrail_1 rfl rfl ?_
  refine zr_iload_n dX4_hasTrail_2 rfl ?_
  refine zc_v1 dX4_hasTrail_3 hX4_isPoint gX4_isPoint rfl rfl 1 0 0 (by omega) (Nat.zero_le _) (Nat.zero_le _) q2215 q2217 sp48 zM_rc ?_
  refine kX4_isPoint hA (by omega) hV (by omega) (zK_i ?_)
  try simp only [zuf_1, zua_s, zua_2, zuf_s, zuf_zuf, zua_zuf, zua_zua, zua_e, zuf_e, Nat.reduceBEq]
  refine zr_ifeqB dX4_hasTrail_6 (tgt := 17) (by decide) (fun h6 => ?_) (fun h6 => ?_)
  · refine zr_iconst dX4_hasTrail_17 ?_
    refine zr_goto dX4_hasTrail_18 (tgt := 22) (by decide) ?_
    refine zr_iconst dX4_hasTrail_22 ?_
    refine zc_v2 dX4_hasTrail_23 hX4_isThrown gX4_isThrown rfl rfl 0 0 0 (by omega) (Nat.zero_le _) (Nat.zero_le _) q2199 q2201 sp45 zM_rc ?_
    refine kX4_isThrown1 hA (zK_i ?_)
    try simp only [zuf_1, zua_s, zua_2, zuf_s, zuf_zuf, zua_zuf, zua_zua, zua_e, zuf_e, Nat.reduceBEq]
    refine zr_ifne dX4_hasTrail_26 (tgt := 42) (by decide) (by decide) (fun _ => ?_) (fun h => absurd h (by decide))
    refine zr_iconst dX4_hasTrail_42 ?_
    refine zr_ireturn dX4_hasTrail_43 rfl (by first | rfl | exact z_nb _) ?_
    have e : qHas (S.1 0) a b = (1, 0) := by unfold qHas; simp [*]
    exact zQm k (by rw [e]) (by rw [e])
  · refine zr_aload_n dX4_hasTrail_9 rfl rfl ?_
    refine zr_iload_n dX4_hasTrail_10 rfl ?_
    refine zc_v1 dX4_hasTrail_11 hX4_isPoint gX4_isPoint rfl rfl 1 0 0 (by omega) (Nat.zero_le _) (Nat.zero_le _) q2215 q2217 sp48 zM_rc ?_
    refine kX4_isPoint hA (by omega) hV (by omega) (zK_i ?_)
    try simp only [zuf_1, zua_s, zua_2, zuf_s, zuf_zuf, zua_zuf, zua_zua, zua_e, zuf_e, Nat.reduceBEq]
    refine zr_ifneB dX4_hasTrail_14 (tgt := 21) (by decide) (fun h14 => ?_) (fun h14 => ?_)
    · refine zr_iconst dX4_hasTrail_21 ?_
      refine zr_iconst dX4_hasTrail_22 ?_
      refine zc_v2 dX4_hasTrail_23 hX4_isThrown gX4_isThrown rfl rfl 0 0 0 (by omega) (Nat.zero_le _) (Nat.zero_le _) q2199 q2201 sp45 zM_rc ?_
      refine kX4_isThrown0 hA (zK_i ?_)
      try simp only [zuf_1, zua_s, zua_2, zuf_s, zuf_zuf, zua_zuf, zua_zua, zua_e, zuf_e, Nat.reduceBEq]
      refine zr_ifne dX4_hasTrail_26 (tgt := 42) (by decide) (by decide) (fun h => absurd h (by decide)) (fun _ => ?_)
      have v1 := pPt_b h6 hV
      have v2 := pPt_b h14 hV
      refine zr_aload_n dX4_hasTrail_29 rfl rfl ?_
      refine zr_iload_n dX4_hasTrail_30 rfl ?_
      refine zr_iload_n dX4_hasTrail_31 rfl ?_
      refine zc_v2 dX4_hasTrail_32 hX4_trail gX4_trail rfl rfl 0 0 0 (by omega) (Nat.zero_le _) (Nat.zero_le _) q2219 q2221 sp49 zM_rc ?_
      refine kX4_trail hA hV (by first | omega | (simp only [zuf_1, zua_s, zua_2, zuf_s, zua_e, zuf_e, Nat.reduceBEq]; omega)) (by first | omega | (simp only [zuf_1, zua_s, zua_2, zuf_s, zua_e, zuf_e, Nat.reduceBEq]; omega)) (fun t32 => zK_i ?_)
      try simp only [zuf_1, zua_s, zua_2, zuf_s, zuf_zuf, zua_zuf, zua_zua, zua_e, zuf_e, Nat.reduceBEq] at t32 ⊢
      refine zr_ifle dX4_hasTrail_35 (tgt := 42) (by decide) (by omega) (fun h35 => ?_) (fun h35 => ?_)
      · refine zr_iconst dX4_hasTrail_42 ?_
        refine zr_ireturn dX4_hasTrail_43 rfl (by first | rfl | exact z_nb _) ?_
        have e : qHas (S.1 0) a b = (0, zB (decide (0 < pTr (S.1 0) a b))) := by unfold qHas; simp [*]
        exact zQm k (by rw [e]; first | (rw [decide_eq_true (by omega)]; rfl) | (rw [decide_eq_false (by omega)]; rfl)) (by rw [e])
      · refine zr_iconst dX4_hasTrail_38 ?_
        refine zr_goto dX4_hasTrail_39 (tgt := 43) (by decide) ?_
        refine zr_ireturn dX4_hasTrail_43 rfl (by first | rfl | exact z_nb _) ?_
        have e : qHas (S.1 0) a b = (0, zB (decide (0 < pTr (S.1 0) a b))) := by unfold qHas; simp [*]
        exact zQm k (by rw [e]; first | (rw [decide_eq_true (by omega)]; rfl) | (rw [decide_eq_false (by omega)]; rfl)) (by rw [e])
    · refine zr_iconst dX4_hasTrail_17 ?_
      refine zr_goto dX4_hasTrail_18 (tgt := 22) (by decide) ?_
      refine zr_iconst dX4_hasTrail_22 ?_
      refine zc_v2 dX4_hasTrail_23 hX4_isThrown gX4_isThrown rfl rfl 0 0 0 (by omega) (Nat.zero_le _) (Nat.zero_le _) q2199 q2201 sp45 zM_rc ?_
      refine kX4_isThrown1 hA (zK_i ?_)
      try simp only [zuf_1, zua_s, zua_2, zuf_s, zuf_zuf, zua_zuf, zua_zua, zua_e, zuf_e, Nat.reduceBEq]
      refine zr_ifne dX4_hasTrail_26 (tgt := 42) (by decide) (by decide) (fun _ => ?_) (fun h => absurd h (by decide))
      refine zr_iconst dX4_hasTrail_42 ?_
      refine zr_ireturn dX4_hasTrail_43 rfl (by first | rfl | exact z_nb _) ?_
      have e : qHas (S.1 0) a b = (1, 0) := by unfold qHas; simp [*]
      exact zQm k (by rw [e]) (by rw [e])
theorem kX4_trailLength {G : State} {d rc rs : Nat} {ah : zH} {A : Nat → Nat} {S : zMS} {Q : zRs → zH → Prop} {a b : Int} (hA : zMi A) (hd : 2 ≤ d) (hV : pV (S.1 0)) (qa : -2147483648 ≤ a ∧ a ≤ 2147483647) (qb : -2147483648 ≤ b ∧ b ≤ 2147483647) (k : Q (.inl (some (.int (zi (qLen (S.1 0) a b).2)))) (zMh ah A (zuf S 6 (qLen (S.1 0) a b).1))) : zW G mX4_trailLength d rc rs 0 (zent [.ref (A 18), .int (zi a), .int (zi b)]) [] (zMh ah A S) Q := by
  refine zW_open 0 [some (.ref (A 18)), some (.int (zi a)), some (.int (zi b))] rfl ?_
  refine zr_aload_n dX4_trailLength_0 rfl rfl ?_
  refine zr_aload_n dX4_trailLength_1 rfl rfl ?_
  refine zr_iload_n dX4_trailLength_2 rfl ?_
  refine zc_v1 dX4_trailLength_3 hX4_isPoint gX4_isPoint rfl rfl 1 0 0 (by omega) (Nat.zero_le _) (Nat.zero_le _) q2215 q2217 sp48 zM_rc ?_
  refine kX4_isPoint hA (by omega) hV (by omega) (zK_i ?_)
  try simp only [zuf_1, zua_s, zua_2, zuf_s, zuf_zuf, zua_zuf, zua_zua, zua_e, zuf_e, Nat.reduceBEq]
  refine zr_ifeqB dX4_trailLength_6 (tgt := 17) (by decide) (fun h6 => ?_) (fun h6 => ?_)
  · refine zr_iconst dX4_trailLength_17 ?_
    refine zr_goto dX4_trailLength_18 (tgt := 22) (by decide) ?_
    refine zr_iconst dX4_trailLength_22 ?_
    refine zc_v2 dX4_trailLength_23 hX4_isThrown gX4_isThrown rfl rfl 0 0 0 (by omega) (Nat.zero_le _) (Nat.zero_le _) q2199 q2201 sp45 zM_rc ?_
    refine kX4_isThrown1 hA (zK_i ?_)
    try simp only [zuf_1, zua_s, zua_2, zuf_s, zuf_zuf, zua_zuf, zua_zua, zua_e, zuf_e, Nat.reduceBEq]
    refine zr_ifne dX4_trailLength_26 (tgt := 51) (by decide) (by decide) (fun _ => ?_) (fun h => absurd h (by decide))
    refine zr_iconst dX4_trailLength_51 ?_
    refine zr_goto dX4_trailLength_52 (tgt := 61) (by decide) ?_
    refine zr_ireturn dX4_trailLength_61 rfl (by first | rfl | exact z_nb _) ?_
    have e : qLen (S.1 0) a b = (1, 0) := by unfold qLen; simp [*]
    exact zQm k (by rw [e]) (by rw [e])
  · refine zr_aload_n dX4_trailLength_9 rfl rfl ?_
    refine zr_iload_n dX4_trailLength_10 rfl ?_
    refine zc_v1 dX4_trailLength_11 hX4_isPoint gX4_isPoint rfl rfl 1 0 0 (by omega) (Nat.zero_le _) (Nat.zero_le _) q2215 q2217 sp48 zM_rc ?_
    refine kX4_isPoint hA (by omega) hV (by omega) (zK_i ?_)
    try simp only [zuf_1, zua_s, zua_2, zuf_s, zuf_zuf, zua_zuf, zua_zua, zua_e, zuf_e, Nat.reduceBEq]
    refine zr_ifneB dX4_trailLength_14 (tgt := 21) (by decide) (fun h14 => ?_) (fun h14 => ?_)
    · refine zr_iconst dX4_trailLength_21 ?_
      refine zr_iconst dX4_trailLength_22 ?_
      refine zc_v2 dX4_trailLength_23 hX4_isThrown gX4_isThrown rfl rfl 0 0 0 (by omega) (Nat.zero_le _) (Nat.zero_le _) q2199 q2201 sp45 zM_rc ?_
      refine kX4_isThrown0 hA (zK_i ?_)
      try simp only [zuf_1, zua_s, zua_2, zuf_s, zuf_zuf, zua_zuf, zua_zua, zua_e, zuf_e, Nat.reduceBEq]
      refine zr_ifne dX4_trailLength_26 (tgt := 51) (by decide) (by decide) (fun h => absurd h (by decide)) (fun _ => ?_)
      refine zr_aload_n dX4_trailLength_29 rfl rfl ?_
      have v1 := pPt_b h6 hV
      have v2 := pPt_b h14 hV
      refine zr_aload_n dX4_trailLength_30 rfl rfl ?_
      refine zr_iload_n dX4_trailLength_31 rfl ?_
      refine zr_iload_n dX4_trailLength_32 rfl ?_
      refine zc_v2 dX4_trailLength_33 hX4_trail gX4_trail rfl rfl 0 0 0 (by omega) (Nat.zero_le _) (Nat.zero_le _) q2219 q2221 sp49 zM_rc ?_
      refine kX4_trail hA hV (by first | omega | (simp only [zuf_1, zua_s, zua_2, zuf_s, zua_e, zuf_e, Nat.reduceBEq]; omega)) (by first | omega | (simp only [zuf_1, zua_s, zua_2, zuf_s, zua_e, zuf_e, Nat.reduceBEq]; omega)) (fun t33 => zK_i ?_)
      try simp only [zuf_1, zua_s, zua_2, zuf_s, zuf_zuf, zua_zuf, zua_zua, zua_e, zuf_e, Nat.reduceBEq] at t33 ⊢
      refine zr_ifne dX4_trailLength_36 (tgt := 43) (by decide) (by omega) (fun h36 => ?_) (fun h36 => ?_)
      · refine zr_iconst dX4_trailLength_43 ?_
        refine zr_iconst dX4_trailLength_44 ?_
        refine zc_v2 dX4_trailLength_45 hX4_isThrown gX4_isThrown rfl rfl 0 0 0 (by omega) (Nat.zero_le _) (Nat.zero_le _) q2199 q2201 sp45 zM_rc ?_
        refine kX4_isThrown0 hA (zK_i ?_)
        try simp only [zuf_1, zua_s, zua_2, zuf_s, zuf_zuf, zua_zuf, zua_zua, zua_e, zuf_e, Nat.reduceBEq]
        refine zr_ifeq dX4_trailLength_48 (tgt := 55) (by decide) (by decide) (fun _ => ?_) (fun h => absurd h (by decide))
        refine zr_aload_n dX4_trailLength_55 rfl rfl ?_
        refine zr_iload_n dX4_trailLength_56 rfl ?_
        refine zr_iload_n dX4_trailLength_57 rfl ?_
        refine zc_v2 dX4_trailLength_58 hX4_trail gX4_trail rfl rfl 0 0 0 (by omega) (Nat.zero_le _) (Nat.zero_le _) q2219 q2221 sp49 zM_rc ?_
        refine kX4_trail hA hV (by first | omega | (simp only [zuf_1, zua_s, zua_2, zuf_s, zua_e, zuf_e, Nat.reduceBEq]; omega)) (by first | omega | (simp only [zuf_1, zua_s, zua_2, zuf_s, zua_e, zuf_e, Nat.reduceBEq]; omega)) (fun t58 => zK_i ?_)
        try simp only [zuf_1, zua_s, zua_2, zuf_s, zuf_zuf, zua_zuf, zua_zua, zua_e, zuf_e, Nat.reduceBEq] at t58 ⊢
        refine zr_ireturn dX4_trailLength_61 rfl (by first | rfl | exact z_nb _) ?_
        have e : qLen (S.1 0) a b = (0, pTr (S.1 0) a b) := by unfold qLen; simp [*]
        exact zQm k (by rw [e]) (by rw [e])
      · refine zr_iconst dX4_trailLength_39 ?_
        refine zr_goto dX4_trailLength_40 (tgt := 44) (by decide) ?_
        refine zr_iconst dX4_trailLength_44 ?_
        refine zc_v2 dX4_trailLength_45 hX4_isThrown gX4_isThrown rfl rfl 0 0 0 (by omega) (Nat.zero_le _) (Nat.zero_le _) q2199 q2201 sp45 zM_rc ?_
        refine kX4_isThrown1 hA (zK_i ?_)
        try simp only [zuf_1, zua_s, zua_2, zuf_s, zuf_zuf, zua_zuf, zua_zua, zua_e, zuf_e, Nat.reduceBEq]
        refine zr_ifeq dX4_trailLength_48 (tgt := 55) (by decide) (by decide) (fun h => absurd h (by decide)) (fun _ => ?_)
        refine zr_iconst dX4_trailLength_51 ?_
        refine zr_goto dX4_trailLength_52 (tgt := 61) (by decide) ?_
        refine zr_ireturn dX4_trailLength_61 rfl (by first | rfl | exact z_nb _) ?_
        have e : qLen (S.1 0) a b = (2, 0) := by unfold qLen; simp [*]
        exact zQm k (by rw [e]) (by rw [e])
    · refine zr_iconst dX4_trailLength_17 ?_
      refine zr_goto dX4_trailLength_18 (tgt := 22) (by decide) ?_
      refine zr_iconst dX4_trailLength_22 ?_
      refine zc_v2 dX4_trailLength_23 hX4_isThrown gX4_isThrown rfl rfl 0 0 0 (by omega) (Nat.zero_le _) (Nat.zero_le _) q2199 q2201 sp45 zM_rc ?_
      refine kX4_isThrown1 hA (zK_i ?_)
      try simp only [zuf_1, zua_s, zua_2, zuf_s, zuf_zuf, zua_zuf, zua_zua, zua_e, zuf_e, Nat.reduceBEq]
      refine zr_ifne dX4_trailLength_26 (tgt := 51) (by decide) (by decide) (fun _ => ?_) (fun h => absurd h (by decide))
      refine zr_iconst dX4_trailLength_51 ?_
      refine zr_goto dX4_trailLength_52 (tgt := 61) (by decide) ?_
      refine zr_ireturn dX4_trailLength_61 rfl (by first | rfl | exact z_nb _) ?_
      have e : qLen (S.1 0) a b = (1, 0) := by unfold qLen; simp [*]
      exact zQm k (by rw [e]) (by rw [e])
theorem kX4_ofTour {G : State} {d rc rs : Nat} {ah : zH} {A : Nat → Nat} {S : zMS} {Q : zRs → zH → Prop} {v : Int} (hA : zMi A) (hd : 1 ≤ d) (hV : pV (S.1 0)) (qv : -2147483648 ≤ v ∧ v ≤ 2147483647) (k : Q (.inl (some (.int (zi (qTour (S.1 0) v).2)))) (zMh ah A (zuf S 6 (qTour (S.1 0) v).1))) : zW G mX4_ofTour d rc rs 0 (zent [.ref (A 18), .int (zi v)]) [] (zMh ah A S) Q := by
  refine zW_open 0 [some (.ref (A 18)), some (.int (zi v))] rfl ?_
  refine zr_aload_n dX4_ofTour_0 rfl rfl ?_
  refine zr_aload_n dX4_ofTour_1 rfl rfl ?_
  refine zc_v0 dX4_ofTour_2 hX4_isOnTour gX4_isOnTour rfl rfl 0 0 0 (by omega) (Nat.zero_le _) (Nat.zero_le _) q2247 q2249 sp54 zM_rc ?_
  refine kX4_isOnTour hA hV (zK_i ?_)
  try simp only [zuf_1, zua_s, zua_2, zuf_s, zuf_zuf, zua_zuf, zua_zua, zua_e, zuf_e, Nat.reduceBEq]
  refine zr_ifneB dX4_ofTour_5 (tgt := 12) (by decide) (fun h5 => ?_) (fun h5 => ?_)
  · refine zr_iconst dX4_ofTour_12 ?_
    refine zr_iconst dX4_ofTour_13 ?_
    refine zc_v2 dX4_ofTour_14 hX4_isThrown gX4_isThrown rfl rfl 0 0 0 (by omega) (Nat.zero_le _) (Nat.zero_le _) q2199 q2201 sp45 zM_rc ?_
    refine kX4_isThrown0 hA (zK_i ?_)
    try simp only [zuf_1, zua_s, zua_2, zuf_s, zuf_zuf, zua_zuf, zua_zua, zua_e, zuf_e, Nat.reduceBEq]
    refine zr_ifeq dX4_ofTour_17 (tgt := 24) (by decide) (by decide) (fun _ => ?_) (fun h => absurd h (by decide))
    refine zr_iload_n dX4_ofTour_24 rfl ?_
    refine zr_ireturn dX4_ofTour_25 rfl (by first | rfl | exact z_nb _) ?_
    try have ih5 := of_decide_eq_true h5
    try have ih5 := of_decide_eq_false h5
    have e : qTour (S.1 0) v = (0, v) := by unfold qTour; simp [*]
    exact zQm k (by rw [e]) (by rw [e])
  · refine zr_iconst dX4_ofTour_8 ?_
    refine zr_goto dX4_ofTour_9 (tgt := 13) (by decide) ?_
    refine zr_iconst dX4_ofTour_13 ?_
    refine zc_v2 dX4_ofTour_14 hX4_isThrown gX4_isThrown rfl rfl 0 0 0 (by omega) (Nat.zero_le _) (Nat.zero_le _) q2199 q2201 sp45 zM_rc ?_
    refine kX4_isThrown1 hA (zK_i ?_)
    try simp only [zuf_1, zua_s, zua_2, zuf_s, zuf_zuf, zua_zuf, zua_zua, zua_e, zuf_e, Nat.reduceBEq]
    refine zr_ifeq dX4_ofTour_17 (tgt := 24) (by decide) (by decide) (fun h => absurd h (by decide)) (fun _ => ?_)
    refine zr_iconst dX4_ofTour_20 ?_
    refine zr_goto dX4_ofTour_21 (tgt := 25) (by decide) ?_
    refine zr_ireturn dX4_ofTour_25 rfl (by first | rfl | exact z_nb _) ?_
    try have ih5 := of_decide_eq_true h5
    try have ih5 := of_decide_eq_false h5
    have e : qTour (S.1 0) v = (1, 0) := by unfold qTour; simp [*]
    exact zQm k (by rw [e]) (by rw [e])
theorem kX4_routeLength {G : State} {d rc rs : Nat} {ah : zH} {A : Nat → Nat} {S : zMS} {Q : zRs → zH → Prop} (hA : zMi A) (hd : 2 ≤ d) (hV : pV (S.1 0)) (k : Q (.inl (some (.int (zi (qTour (S.1 0) (S.1 0 1)).2)))) (zMh ah A (zuf S 6 (qTour (S.1 0) (S.1 0 1)).1))) : zW G mX4_routeLength d rc rs 0 (zent [.ref (A 18)]) [] (zMh ah A S) Q := by
  refine zW_open 0 [some (.ref (A 18))] rfl ?_
  have v := hV.h
  refine zr_aload_n dX4_routeLength_0 rfl rfl ?_
  refine zr_aload_n dX4_routeLength_1 rfl rfl ?_
  refine zm_geta 0 dX4_routeLength_2 q2119 rfl ?_
  refine zr_iconst dX4_routeLength_5 ?_
  refine zm_load hA (by decide) dX4_routeLength_6 (by constructor <;> (try simp only [zMn]) <;> omega) ?_
  refine zc_v1 dX4_routeLength_7 hX4_ofTour gX4_ofTour rfl rfl 1 0 0 (by omega) (Nat.zero_le _) (Nat.zero_le _) q2400 q2402 sp71 zM_rc ?_
  refine kX4_ofTour hA (by omega) hV (by omega) (zK_i ?_)
  refine zr_ireturn dX4_routeLength_10 rfl (by first | rfl | exact z_nb _) ?_
  exact k
theorem kX4_hikerX {G : State} {d rc rs : Nat} {ah : zH} {A : Nat → Nat} {S : zMS} {Q : zRs → zH → Prop} (hA : zMi A) (hd : 2 ≤ d) (hV : pV (S.1 0)) (k : Q (.inl (some (.int (zi (qTour (S.1 0) (S.1 0 3)).2)))) (zMh ah A (zuf S 6 (qTour (S.1 0) (S.1 0 3)).1))) : zW G mX4_hikerX d rc rs 0 (zent [.ref (A 18)]) [] (zMh ah A S) Q := by
  refine zW_open 0 [some (.ref (A 18))] rfl ?_
  have v := hV.h
  refine zr_aload_n dX4_hikerX_0 rfl rfl ?_
  refine zr_aload_n dX4_hikerX_1 rfl rfl ?_
  refine zm_geta 0 dX4_hikerX_2 q2119 rfl ?_
  refine zr_iconst dX4_hikerX_5 ?_
  refine zm_load hA (by decide) dX4_hikerX_6 (by constructor <;> (try simp only [zMn]) <;> omega) ?_
  refine zc_v1 dX4_hikerX_7 hX4_ofTour gX4_ofTour rfl rfl 1 0 0 (by omega) (Nat.zero_le _) (Nat.zero_le _) q2400 q2402 sp71 zM_rc ?_
  refine kX4_ofTour hA (by omega) hV (by omega) (zK_i ?_)
  refine zr_ireturn dX4_hikerX_10 rfl (by first | rfl | exact z_nb _) ?_
  exact k
theorem kX4_hikerY {G : State} {d rc rs : Nat} {ah : zH} {A : Nat → Nat} {S : zMS} {Q : zRs → zH → Prop} (hA : zMi A) (hd : 2 ≤ d) (hV : pV (S.1 0)) (k : Q (.inl (some (.int (zi (qTour (S.1 0) (S.1 0 4)).2)))) (zMh ah A (zuf S 6 (qTour (S.1 0) (S.1 0 4)).1))) : zW G mX4_hikerY d rc rs 0 (zent [.ref (A 18)]) [] (zMh ah A S) Q := by
  refine zW_open 0 [some (.ref (A 18))] rfl ?_
  have v := hV.h
  refine zr_aload_n dX4_hikerY_0 rfl rfl ?_
  refine zr_aload_n dX4_hikerY_1 rfl rfl ?_
  refine zm_geta 0 dX4_hikerY_2 q2119 rfl ?_
  refine zr_iconst dX4_hikerY_5 ?_
  refine zm_load hA (by decide) dX4_hikerY_6 (by constructor <;> (try simp only [zMn]) <;> omega) ?_
  refine zc_v1 dX4_hikerY_7 hX4_ofTour gX4_ofTour rfl rfl 1 0 0 (by omega) (Nat.zero_le _) (Nat.zero_le _) q2400 q2402 sp71 zM_rc ?_
  refine kX4_ofTour hA (by omega) hV (by omega) (zK_i ?_)
  refine zr_ireturn dX4_hikerY_10 rfl (by first | rfl | exact z_nb _) ?_
  exact k
theorem kX4_target {G : State} {d rc rs : Nat} {ah : zH} {A : Nat → Nat} {S : zMS} {Q : zRs → zH → Prop} (hA : zMi A) (hd : 1 ≤ d) (hV : pV (S.1 0)) (htg : 0 < S.1 0 1 → 1 ≤ S.1 0 2 ∧ S.1 0 2 < S.1 0 1) (k : Q (.inl (some (.int (zi (qTour (S.1 0) (S.1 0 (192 + S.1 0 2))).2)))) (zMh ah A (zuf S 6 (qTour (S.1 0) (S.1 0 (192 + S.1 0 2))).1))) : zW G mX4_target d rc rs 0 (zent [.ref (A 18)]) [] (zMh ah A S) Q := by
  refine zW_open 0 [some (.ref (A 18))] rfl ?_
  refine zr_aload_n dX4_target_0 rfl rfl ?_
  refine zr_aload_n dX4_target_1 rfl rfl ?_
  refine zc_v0 dX4_target_2 hX4_isOnTour gX4_isOnTour rfl rfl 0 0 0 (by omega) (Nat.zero_le _) (Nat.zero_le _) q2247 q2249 sp54 zM_rc ?_
  refine kX4_isOnTour hA hV (zK_i ?_)
  try simp only [zuf_1, zua_s, zua_2, zuf_s, zuf_zuf, zua_zuf, zua_zua, zua_e, zuf_e, Nat.reduceBEq]
  refine zr_ifneB dX4_target_5 (tgt := 12) (by decide) (fun h5 => ?_) (fun h5 => ?_)
  · refine zr_iconst dX4_target_12 ?_
    refine zr_iconst dX4_target_13 ?_
    refine zc_v2 dX4_target_14 hX4_isThrown gX4_isThrown rfl rfl 0 0 0 (by omega) (Nat.zero_le _) (Nat.zero_le _) q2199 q2201 sp45 zM_rc ?_
    refine kX4_isThrown0 hA (zK_i ?_)
    try simp only [zuf_1, zua_s, zua_2, zuf_s, zuf_zuf, zua_zuf, zua_zua, zua_e, zuf_e, Nat.reduceBEq]
    refine zr_ifeq dX4_target_17 (tgt := 24) (by decide) (by decide) (fun _ => ?_) (fun h => absurd h (by decide))
    have v := hV.h
    have tg := htg (of_decide_eq_true h5)
    refine zr_aload_n dX4_target_24 rfl rfl ?_
    refine zc_v0 dX4_target_25 hX4_aim gX4_aim rfl rfl 0 0 0 (by omega) (Nat.zero_le _) (Nat.zero_le _) q2295 q2297 sp63 zM_rc ?_
    refine kX4_aim hA hV (by first | omega | (simp only [zuf_1, zua_s, zua_2, zuf_s, zua_e, zuf_e, Nat.reduceBEq]; omega)) (fun t25 => zK_i ?_)
    try simp only [zuf_1, zua_s, zua_2, zuf_s, zuf_zuf, zua_zuf, zua_zua, zua_e, zuf_e, Nat.reduceBEq] at t25 ⊢
    refine zr_ireturn dX4_target_28 rfl (by first | rfl | exact z_nb _) ?_
    try have ih5 := of_decide_eq_true h5
    try have ih5 := of_decide_eq_false h5
    have e : qTour (S.1 0) (S.1 0 (192 + S.1 0 2)) = (0, S.1 0 (192 + S.1 0 2)) := by unfold qTour; simp [*]
    exact zQm k (by rw [e]) (by rw [e])
  · refine zr_iconst dX4_target_8 ?_
    refine zr_goto dX4_target_9 (tgt := 13) (by decide) ?_
    refine zr_iconst dX4_target_13 ?_
    refine zc_v2 dX4_target_14 hX4_isThrown gX4_isThrown rfl rfl 0 0 0 (by omega) (Nat.zero_le _) (Nat.zero_le _) q2199 q2201 sp45 zM_rc ?_
    refine kX4_isThrown1 hA (zK_i ?_)
    try simp only [zuf_1, zua_s, zua_2, zuf_s, zuf_zuf, zua_zuf, zua_zua, zua_e, zuf_e, Nat.reduceBEq]
    refine zr_ifeq dX4_target_17 (tgt := 24) (by decide) (by decide) (fun h => absurd h (by decide)) (fun _ => ?_)
    refine zr_iconst dX4_target_20 ?_
    refine zr_goto dX4_target_21 (tgt := 28) (by decide) ?_
    refine zr_ireturn dX4_target_28 rfl (by first | rfl | exact z_nb _) ?_
    try have ih5 := of_decide_eq_true h5
    try have ih5 := of_decide_eq_false h5
    have e : qTour (S.1 0) (S.1 0 (192 + S.1 0 2)) = (1, 0) := by unfold qTour; simp [*]
    exact zQm k (by rw [e]) (by rw [e])
theorem kX4_isNoIndex {G : State} {d rc rs : Nat} {ah : zH} {A : Nat → Nat} {S : zMS} {Q : zRs → zH → Prop} {i : Int} (hA : zMi A) (hd : 1 ≤ d) (hV : pV (S.1 0)) (qi : -2147483648 ≤ i ∧ i ≤ 2147483647) (k : Q (.inl (some (.int (zi (qIdx (S.1 0) i).2)))) (zMh ah A (zuf S 6 (qIdx (S.1 0) i).1))) : zW G mX4_isNoIndex d rc rs 0 (zent [.ref (A 18), .int (zi i)]) [] (zMh ah A S) Q := by
  refine zW_open 0 [some (.ref (A 18)), some (.int (zi i))] rfl ?_
  have v := hV.h
  refine zr_aload_n dX4_isNoIndex_0 rfl rfl ?_
  refine zr_aload_n dX4_isNoIndex_1 rfl rfl ?_
  refine zc_v0 dX4_isNoIndex_2 hX4_isOnTour gX4_isOnTour rfl rfl 0 0 0 (by omega) (Nat.zero_le _) (Nat.zero_le _) q2247 q2249 sp54 zM_rc ?_
  refine kX4_isOnTour hA hV (zK_i ?_)
  try simp only [zuf_1, zua_s, zua_2, zuf_s, zuf_zuf, zua_zuf, zua_zua, zua_e, zuf_e, Nat.reduceBEq]
  refine zr_ifneB dX4_isNoIndex_5 (tgt := 12) (by decide) (fun h5 => ?_) (fun h5 => ?_)
  · refine zr_iconst dX4_isNoIndex_12 ?_
    refine zr_iconst dX4_isNoIndex_13 ?_
    refine zc_v2 dX4_isNoIndex_14 hX4_isThrown gX4_isThrown rfl rfl 0 0 0 (by omega) (Nat.zero_le _) (Nat.zero_le _) q2199 q2201 sp45 zM_rc ?_
    refine kX4_isThrown0 hA (zK_i ?_)
    try simp only [zuf_1, zua_s, zua_2, zuf_s, zuf_zuf, zua_zuf, zua_zua, zua_e, zuf_e, Nat.reduceBEq]
    refine zr_ifne dX4_isNoIndex_17 (tgt := 49) (by decide) (by decide) (fun h => absurd h (by decide)) (fun _ => ?_)
    refine zr_aload_n dX4_isNoIndex_20 rfl rfl ?_
    refine zr_iload_n dX4_isNoIndex_21 rfl ?_
    refine zr_iconst dX4_isNoIndex_22 ?_
    refine zr_aload_n dX4_isNoIndex_23 rfl rfl ?_
    refine zm_geta 0 dX4_isNoIndex_24 q2119 rfl ?_
    try simp only [zuf_1, zua_s, zua_2, zuf_s, zuf_zuf, zua_zuf, zua_zua, zua_e, zuf_e, Nat.reduceBEq]
    refine zr_iconst dX4_isNoIndex_27 ?_
    refine zm_load hA (by decide) dX4_isNoIndex_28 (by constructor <;> (try simp only [zMn]) <;> omega) ?_
    try simp only [zuf_1, zua_s, zua_2, zuf_s, zuf_zuf, zua_zuf, zua_zua, zua_e, zuf_e, Nat.reduceBEq]
    refine zr_iconst dX4_isNoIndex_29 ?_
    refine zr_isub dX4_isNoIndex_30 ?_
    refine zc_s3 dX4_isNoIndex_31 hX4_isIn gX4_isIn rfl rfl 0 0 0 (by omega) (Nat.zero_le _) (Nat.zero_le _) q2196 q2197 ?_
    refine kX4_isIn (by first | omega | (simp only [zuf_1, zua_s, zua_2, zuf_s, zua_e, zuf_e, Nat.reduceBEq]; omega)) (by first | omega | (simp only [zuf_1, zua_s, zua_2, zuf_s, zua_e, zuf_e, Nat.reduceBEq]; omega)) (by first | omega | (simp only [zuf_1, zua_s, zua_2, zuf_s, zua_e, zuf_e, Nat.reduceBEq]; omega)) (zK_i ?_)
    refine zr_ifneB dX4_isNoIndex_34 (tgt := 41) (by decide) (fun h34 => ?_) (fun h34 => ?_)
    · refine zr_iconst dX4_isNoIndex_41 ?_
      refine zr_iconst dX4_isNoIndex_42 ?_
      refine zc_v2 dX4_isNoIndex_43 hX4_isThrown gX4_isThrown rfl rfl 0 0 0 (by omega) (Nat.zero_le _) (Nat.zero_le _) q2199 q2201 sp45 zM_rc ?_
      refine kX4_isThrown0 hA (zK_i ?_)
      try simp only [zuf_1, zua_s, zua_2, zuf_s, zuf_zuf, zua_zuf, zua_zua, zua_e, zuf_e, Nat.reduceBEq]
      refine zr_ifeq dX4_isNoIndex_46 (tgt := 53) (by decide) (by decide) (fun _ => ?_) (fun h => absurd h (by decide))
      refine zr_iconst dX4_isNoIndex_53 ?_
      refine zr_ireturn dX4_isNoIndex_54 rfl (by first | rfl | exact z_nb _) ?_
      try have ih5 := of_decide_eq_true h5
      try have ih5 := of_decide_eq_false h5
      have e : qIdx (S.1 0) i = (0, 0) := by unfold qIdx; simp [*]
      exact zQm k (by rw [e]) (by rw [e])
    · refine zr_iconst dX4_isNoIndex_37 ?_
      refine zr_goto dX4_isNoIndex_38 (tgt := 42) (by decide) ?_
      refine zr_iconst dX4_isNoIndex_42 ?_
      refine zc_v2 dX4_isNoIndex_43 hX4_isThrown gX4_isThrown rfl rfl 0 0 0 (by omega) (Nat.zero_le _) (Nat.zero_le _) q2199 q2201 sp45 zM_rc ?_
      refine kX4_isThrown1 hA (zK_i ?_)
      try simp only [zuf_1, zua_s, zua_2, zuf_s, zuf_zuf, zua_zuf, zua_zua, zua_e, zuf_e, Nat.reduceBEq]
      refine zr_ifeq dX4_isNoIndex_46 (tgt := 53) (by decide) (by decide) (fun h => absurd h (by decide)) (fun _ => ?_)
      refine zr_iconst dX4_isNoIndex_49 ?_
      refine zr_goto dX4_isNoIndex_50 (tgt := 54) (by decide) ?_
      refine zr_ireturn dX4_isNoIndex_54 rfl (by first | rfl | exact z_nb _) ?_
      try have ih5 := of_decide_eq_true h5
      try have ih5 := of_decide_eq_false h5
      have e : qIdx (S.1 0) i = (2, 1) := by unfold qIdx; simp [*]
      exact zQm k (by rw [e]) (by rw [e])
  · refine zr_iconst dX4_isNoIndex_8 ?_
    refine zr_goto dX4_isNoIndex_9 (tgt := 13) (by decide) ?_
    refine zr_iconst dX4_isNoIndex_13 ?_
    refine zc_v2 dX4_isNoIndex_14 hX4_isThrown gX4_isThrown rfl rfl 0 0 0 (by omega) (Nat.zero_le _) (Nat.zero_le _) q2199 q2201 sp45 zM_rc ?_
    refine kX4_isThrown1 hA (zK_i ?_)
    try simp only [zuf_1, zua_s, zua_2, zuf_s, zuf_zuf, zua_zuf, zua_zua, zua_e, zuf_e, Nat.reduceBEq]
    refine zr_ifne dX4_isNoIndex_17 (tgt := 49) (by decide) (by decide) (fun _ => ?_) (fun h => absurd h (by decide))
    refine zr_iconst dX4_isNoIndex_49 ?_
    refine zr_goto dX4_isNoIndex_50 (tgt := 54) (by decide) ?_
    refine zr_ireturn dX4_isNoIndex_54 rfl (by first | rfl | exact z_nb _) ?_
    try have ih5 := of_decide_eq_true h5
    try have ih5 := of_decide_eq_false h5
    have e : qIdx (S.1 0) i = (1, 1) := by unfold qIdx; simp [*]
    exact zQm k (by rw [e]) (by rw [e])
theorem qIdx_c {s : Int → Int} {i : Int} : (qIdx s i = (1, 1) ∧ ¬ 0 < s 1) ∨ (qIdx s i = (2, 1) ∧ 0 < s 1 ∧ ¬ (0 ≤ i ∧ i ≤ s 1 - 1)) ∨ (qIdx s i = (0, 0) ∧ 0 < s 1 ∧ 0 ≤ i ∧ i ≤ s 1 - 1) := by
  unfold qIdx
  by_cases h : 0 < s 1
  · rw [if_neg (fun z => z h)]
    cases h2 : pIn i 0 (s 1 - 1) with
    | true => exact Or.inr (Or.inr ⟨rfl, h, pIn_iff.mp h2⟩)
    | false => exact Or.inr (Or.inl ⟨rfl, h, pIn_iffF.mp h2⟩)
  · rw [if_pos h]; exact Or.inl ⟨rfl, h⟩
theorem qRw_t {s : Int → Int} {i n : Int} (h : qIdx s i = (n, 1)) : qRw s i = (n, 0) := by
  unfold qIdx at h
  unfold qRw
  split at h
  · rename_i h1; rw [if_pos h1]; cases h; rfl
  · rename_i h1; rw [if_neg h1]
    split at h
    · rename_i h2; rw [if_pos h2]; cases h; rfl
    · cases h
theorem qRw_f {s : Int → Int} {i : Int} (h : qIdx s i = (0, 0)) : qRw s i = (0, s (192 + i)) := by
  unfold qIdx at h
  unfold qRw
  split at h
  · cases h
  · rename_i h1; rw [if_neg h1]
    split at h
    · cases h
    · rename_i h2; rw [if_neg h2]
theorem qTurn_t {s : Int → Int} {i n : Int} (h : qIdx s i = (n, 1)) : qTurn s i = (n, 0) := by
  unfold qIdx at h
  unfold qTurn
  split at h
  · rename_i h1; rw [if_pos h1]; cases h; rfl
  · rename_i h1; rw [if_neg h1]
    split at h
    · rename_i h2; rw [if_pos h2]; cases h; rfl
    · cases h
theorem qTurn_f {s : Int → Int} {i : Int} (h : qIdx s i = (0, 0)) : qTurn s i = if i = 0 ∨ i = s 1 - 1 then (3, 0) else (0, pTurn s i) := by
  unfold qIdx at h
  unfold qTurn
  split at h
  · cases h
  · rename_i h1; rw [if_neg h1]
    split at h
    · cases h
    · rename_i h2; rw [if_neg h2]
theorem kX4_routeWaypoint {G : State} {d rc rs : Nat} {ah : zH} {A : Nat → Nat} {S : zMS} {Q : zRs → zH → Prop} {i : Int} (hA : zMi A) (hd : 2 ≤ d) (hV : pV (S.1 0)) (qi : -2147483648 ≤ i ∧ i ≤ 2147483647) (k : Q (.inl (some (.int (zi (qRw (S.1 0) i).2)))) (zMh ah A (zuf S 6 (qRw (S.1 0) i).1))) : zW G mX4_routeWaypoint d rc rs 0 (zent [.ref (A 18), .int (zi i)]) [] (zMh ah A S) Q := by
  refine zW_open 0 [some (.ref (A 18)), some (.int (zi i))] rfl ?_
  refine zr_aload_n dX4_routeWaypoint_0 rfl rfl ?_
  refine zr_iload_n dX4_routeWaypoint_1 rfl ?_
  refine zc_v1 dX4_routeWaypoint_2 hX4_isNoIndex gX4_isNoIndex rfl rfl 1 0 0 (by omega) (Nat.zero_le _) (Nat.zero_le _) q2408 q2410 sp72 zM_rc ?_
  refine kX4_isNoIndex hA (by omega) hV (by omega) (zK_i ?_)
  have v := hV.h
  rcases qIdx_c (s := S.1 0) (i := i) with ⟨qe, q1⟩ | ⟨qe, q1, q2⟩ | ⟨qe, q1, q2⟩
  · rw [qe]
    refine zr_ifeq dX4_routeWaypoint_5 (tgt := 12) (by decide) (by decide) (fun h => absurd h (by decide)) (fun _ => ?_)
    refine zr_iconst dX4_routeWaypoint_8 ?_
    refine zr_goto dX4_routeWaypoint_9 (tgt := 22) (by decide) ?_
    refine zr_ireturn dX4_routeWaypoint_22 rfl (by first | rfl | exact z_nb _) ?_
    exact zQm k (by rw [qRw_t qe]) (by rw [qRw_t qe])
  · rw [qe]
    refine zr_ifeq dX4_routeWaypoint_5 (tgt := 12) (by decide) (by decide) (fun h => absurd h (by decide)) (fun _ => ?_)
    refine zr_iconst dX4_routeWaypoint_8 ?_
    refine zr_goto dX4_routeWaypoint_9 (tgt := 22) (by decide) ?_
    refine zr_ireturn dX4_routeWaypoint_22 rfl (by first | rfl | exact z_nb _) ?_
    exact zQm k (by rw [qRw_t qe]) (by rw [qRw_t qe])
  · rw [qe]
    refine zr_ifeq dX4_routeWaypoint_5 (tgt := 12) (by decide) (by decide) (fun _ => ?_) (fun h => absurd h (by decide))
    refine zr_aload_n dX4_routeWaypoint_12 rfl rfl ?_
    refine zm_geta 0 dX4_routeWaypoint_13 q2119 rfl ?_
    try simp only [zuf_1, zua_s, zua_2, zuf_s, zuf_zuf, zua_zuf, zua_zua, zua_e, zuf_e, Nat.reduceBEq]
    refine zr_sipush dX4_routeWaypoint_16 rfl ?_
    refine zr_iload_n dX4_routeWaypoint_19 rfl ?_
    refine zr_iadd dX4_routeWaypoint_20 ?_
    refine zm_load hA (by decide) dX4_routeWaypoint_21 (by constructor <;> (try simp only [zMn]) <;> omega) ?_
    try simp only [zuf_1, zua_s, zua_2, zuf_s, zuf_zuf, zua_zuf, zua_zua, zua_e, zuf_e, Nat.reduceBEq]
    refine zr_ireturn dX4_routeWaypoint_22 rfl (by first | rfl | exact z_nb _) ?_
    exact zQm k (by rw [qRw_f qe]) (by rw [qRw_f qe])
theorem z_c16 {x : Int} (h : 0 ≤ x ∧ x ≤ 65535) : ((zi x).toUInt32 % 65536).toInt32 = zi x := by
  obtain ⟨n, rfl⟩ : ∃ n : Nat, x = n := ⟨x.toNat, by omega⟩
  have hn : n < 65536 := by omega
  unfold zi
  apply Int32.toInt_inj.mp
  rw [Int32.toInt_ofInt_of_le (by omega) (by omega)]
  have e : (Int32.ofInt (n : Int)).toUInt32 = UInt32.ofNat n := by
    rfl
  rw [e]
  have e2 : UInt32.ofNat n % 65536 = UInt32.ofNat n := by
    apply UInt32.toNat_inj.mp
    rw [UInt32.toNat_mod]
    simp only [UInt32.toNat_ofNat', UInt32.reduceToNat]
    omega
  rw [e2]
  exact Int32.toInt_ofInt_of_le (n := n) (by omega) (by omega)
theorem z_nc {x : Int} (h : 0 ≤ x ∧ x ≤ 65535) : narrow .char (.int (zi x)) = .int (zi x) := by
  show Value.int (((zi x).toUInt32 % 65536).toInt32) = _
  rw [z_c16 h]
theorem kX4_turnAt {G : State} {d rc rs : Nat} {ah : zH} {A : Nat → Nat} {S : zMS} {Q : zRs → zH → Prop} {i : Int} (hA : zMi A) (hd : 1 ≤ d) (hV : pV (S.1 0)) (hi : 1 ≤ i ∧ i < 11) (k : Q (.inl (some (.int (zi (pTurn (S.1 0) i))))) (zMh ah A S)) : zW G mX4_turnAt d rc rs 0 (zent [.ref (A 18), .int (zi i)]) [] (zMh ah A S) Q := by
  refine zW_open 9 [some (.ref (A 18)), some (.int (zi i)), none, none, none, none, none, none, none, none, none] rfl ?_
  have r0 := hV.rt (i := 192 + i - 1) (by omega)
  have x0 := hV.x (p := S.1 0 (192 + i - 1)) (by omega)
  have y0 := hV.y (p := S.1 0 (192 + i - 1)) (by omega)
  have r1 := hV.rt (i := 192 + i) (by omega)
  have x1 := hV.x (p := S.1 0 (192 + i)) (by omega)
  have y1 := hV.y (p := S.1 0 (192 + i)) (by omega)
  have r2 := hV.rt (i := 192 + i + 1) (by omega)
  have x2 := hV.x (p := S.1 0 (192 + i + 1)) (by omega)
  have y2 := hV.y (p := S.1 0 (192 + i + 1)) (by omega)
  have n0 := z_mul_b (x := (pOf (S.1 0) (S.1 0 (192 + i)) 0 - pOf (S.1 0) (S.1 0 (192 + i - 1)) 0)) (y := (pOf (S.1 0) (S.1 0 (192 + i + 1)) 1 - pOf (S.1 0) (S.1 0 (192 + i)) 1)) (a := 99) (b := 99) (by omega) (by omega)
  have n1 := z_mul_b (x := (pOf (S.1 0) (S.1 0 (192 + i)) 1 - pOf (S.1 0) (S.1 0 (192 + i - 1)) 1)) (y := (pOf (S.1 0) (S.1 0 (192 + i + 1)) 0 - pOf (S.1 0) (S.1 0 (192 + i)) 0)) (a := 99) (b := 99) (by omega) (by omega)
  have n2 := z_mul_b (x := (pOf (S.1 0) (S.1 0 (192 + i)) 0 - pOf (S.1 0) (S.1 0 (192 + i - 1)) 0)) (y := (pOf (S.1 0) (S.1 0 (192 + i + 1)) 0 - pOf (S.1 0) (S.1 0 (192 + i)) 0)) (a := 99) (b := 99) (by omega) (by omega)
  have n3 := z_mul_b (x := (pOf (S.1 0) (S.1 0 (192 + i)) 1 - pOf (S.1 0) (S.1 0 (192 + i - 1)) 1)) (y := (pOf (S.1 0) (S.1 0 (192 + i + 1)) 1 - pOf (S.1 0) (S.1 0 (192 + i)) 1)) (a := 99) (b := 99) (by omega) (by omega)
  refine zr_aload_n dX4_turnAt_0 rfl rfl ?_
  refine zm_geta 0 dX4_turnAt_1 q2119 rfl ?_
  refine zr_sipush dX4_turnAt_4 rfl ?_
  refine zr_iload_n dX4_turnAt_7 rfl ?_
  refine zr_iadd dX4_turnAt_8 ?_
  refine zr_iconst dX4_turnAt_9 ?_
  refine zr_isub dX4_turnAt_10 ?_
  refine zm_load hA (by decide) dX4_turnAt_11 (by constructor <;> (try simp only [zMn]) <;> omega) ?_
  refine zr_istore_n dX4_turnAt_12 (by decide) (zs11_2 rfl ?_)
  refine zr_aload_n dX4_turnAt_13 rfl rfl ?_
  refine zm_geta 0 dX4_turnAt_14 q2119 rfl ?_
  refine zr_sipush dX4_turnAt_17 rfl ?_
  refine zr_iload_n dX4_turnAt_20 rfl ?_
  refine zr_iadd dX4_turnAt_21 ?_
  refine zm_load hA (by decide) dX4_turnAt_22 (by constructor <;> (try simp only [zMn]) <;> omega) ?_
  refine zr_istore_n dX4_turnAt_23 (by decide) (zs11_3 rfl ?_)
  refine zr_aload_n dX4_turnAt_24 rfl rfl ?_
  refine zm_geta 0 dX4_turnAt_25 q2119 rfl ?_
  refine zr_sipush dX4_turnAt_28 rfl ?_
  refine zr_iload_n dX4_turnAt_31 rfl ?_
  refine zr_iadd dX4_turnAt_32 ?_
  refine zr_iconst dX4_turnAt_33 ?_
  refine zr_iadd dX4_turnAt_34 ?_
  refine zm_load hA (by decide) dX4_turnAt_35 (by constructor <;> (try simp only [zMn]) <;> omega) ?_
  refine zr_istore dX4_turnAt_36 (by decide) (zs11_4 rfl ?_)
  refine zr_aload_n dX4_turnAt_38 rfl rfl ?_
  refine zr_iload_n dX4_turnAt_39 rfl ?_
  refine zr_iconst dX4_turnAt_40 ?_
  refine zc_v2 dX4_turnAt_41 hX4_of gX4_of rfl rfl 0 0 0 (by omega) (Nat.zero_le _) (Nat.zero_le _) q2260 q2262 sp57 zM_rc ?_
  refine kX4_of hA (by omega) (by omega) (zK_i ?_)
  try simp only [zuf_1, zua_s, zua_2, zuf_s, zuf_zuf, zua_zuf, zua_zua, zua_e, zuf_e, Nat.reduceBEq]
  refine zr_aload_n dX4_turnAt_44 rfl rfl ?_
  refine zr_iload_n dX4_turnAt_45 rfl ?_
  refine zr_iconst dX4_turnAt_46 ?_
  refine zc_v2 dX4_turnAt_47 hX4_of gX4_of rfl rfl 0 0 0 (by omega) (Nat.zero_le _) (Nat.zero_le _) q2260 q2262 sp57 zM_rc ?_
  refine kX4_of hA (by omega) (by omega) (zK_i ?_)
  try simp only [zuf_1, zua_s, zua_2, zuf_s, zuf_zuf, zua_zuf, zua_zua, zua_e, zuf_e, Nat.reduceBEq]
  refine zr_isub dX4_turnAt_50 ?_
  refine zr_istore dX4_turnAt_51 (by decide) (zs11_5 rfl ?_)
  refine zr_aload_n dX4_turnAt_53 rfl rfl ?_
  refine zr_iload_n dX4_turnAt_54 rfl ?_
  refine zr_iconst dX4_turnAt_55 ?_
  refine zc_v2 dX4_turnAt_56 hX4_of gX4_of rfl rfl 0 0 0 (by omega) (Nat.zero_le _) (Nat.zero_le _) q2260 q2262 sp57 zM_rc ?_
  refine kX4_of hA (by omega) (by omega) (zK_i ?_)
  try simp only [zuf_1, zua_s, zua_2, zuf_s, zuf_zuf, zua_zuf, zua_zua, zua_e, zuf_e, Nat.reduceBEq]
  refine zr_aload_n dX4_turnAt_59 rfl rfl ?_
  refine zr_iload_n dX4_turnAt_60 rfl ?_
  refine zr_iconst dX4_turnAt_61 ?_
  refine zc_v2 dX4_turnAt_62 hX4_of gX4_of rfl rfl 0 0 0 (by omega) (Nat.zero_le _) (Nat.zero_le _) q2260 q2262 sp57 zM_rc ?_
  refine kX4_of hA (by omega) (by omega) (zK_i ?_)
  try simp only [zuf_1, zua_s, zua_2, zuf_s, zuf_zuf, zua_zuf, zua_zua, zua_e, zuf_e, Nat.reduceBEq]
  refine zr_isub dX4_turnAt_65 ?_
  refine zr_istore dX4_turnAt_66 (by decide) (zs11_6 rfl ?_)
  refine zr_aload_n dX4_turnAt_68 rfl rfl ?_
  refine zr_iload dX4_turnAt_69 rfl ?_
  refine zr_iconst dX4_turnAt_71 ?_
  refine zc_v2 dX4_turnAt_72 hX4_of gX4_of rfl rfl 0 0 0 (by omega) (Nat.zero_le _) (Nat.zero_le _) q2260 q2262 sp57 zM_rc ?_
  refine kX4_of hA (by omega) (by omega) (zK_i ?_)
  try simp only [zuf_1, zua_s, zua_2, zuf_s, zuf_zuf, zua_zuf, zua_zua, zua_e, zuf_e, Nat.reduceBEq]
  refine zr_aload_n dX4_turnAt_75 rfl rfl ?_
  refine zr_iload_n dX4_turnAt_76 rfl ?_
  refine zr_iconst dX4_turnAt_77 ?_
  refine zc_v2 dX4_turnAt_78 hX4_of gX4_of rfl rfl 0 0 0 (by omega) (Nat.zero_le _) (Nat.zero_le _) q2260 q2262 sp57 zM_rc ?_
  refine kX4_of hA (by omega) (by omega) (zK_i ?_)
  try simp only [zuf_1, zua_s, zua_2, zuf_s, zuf_zuf, zua_zuf, zua_zua, zua_e, zuf_e, Nat.reduceBEq]
  refine zr_isub dX4_turnAt_81 ?_
  refine zr_istore dX4_turnAt_82 (by decide) (zs11_7 rfl ?_)
  refine zr_aload_n dX4_turnAt_84 rfl rfl ?_
  refine zr_iload dX4_turnAt_85 rfl ?_
  refine zr_iconst dX4_turnAt_87 ?_
  refine zc_v2 dX4_turnAt_88 hX4_of gX4_of rfl rfl 0 0 0 (by omega) (Nat.zero_le _) (Nat.zero_le _) q2260 q2262 sp57 zM_rc ?_
  refine kX4_of hA (by omega) (by omega) (zK_i ?_)
  try simp only [zuf_1, zua_s, zua_2, zuf_s, zuf_zuf, zua_zuf, zua_zua, zua_e, zuf_e, Nat.reduceBEq]
  refine zr_aload_n dX4_turnAt_91 rfl rfl ?_
  refine zr_iload_n dX4_turnAt_92 rfl ?_
  refine zr_iconst dX4_turnAt_93 ?_
  refine zc_v2 dX4_turnAt_94 hX4_of gX4_of rfl rfl 0 0 0 (by omega) (Nat.zero_le _) (Nat.zero_le _) q2260 q2262 sp57 zM_rc ?_
  refine kX4_of hA (by omega) (by omega) (zK_i ?_)
  try simp only [zuf_1, zua_s, zua_2, zuf_s, zuf_zuf, zua_zuf, zua_zua, zua_e, zuf_e, Nat.reduceBEq]
  refine zr_isub dX4_turnAt_97 ?_
  refine zr_istore dX4_turnAt_98 (by decide) (zs11_8 rfl ?_)
  refine zr_iload dX4_turnAt_100 rfl ?_
  refine zr_iload dX4_turnAt_102 rfl ?_
  refine zr_imul dX4_turnAt_104 ?_
  refine zr_iload dX4_turnAt_105 rfl ?_
  refine zr_iload dX4_turnAt_107 rfl ?_
  refine zr_imul dX4_turnAt_109 ?_
  refine zr_isub dX4_turnAt_110 ?_
  refine zr_istore dX4_turnAt_111 (by decide) (zs11_9 rfl ?_)
  refine zr_iload dX4_turnAt_113 rfl ?_
  refine zr_iload dX4_turnAt_115 rfl ?_
  refine zr_imul dX4_turnAt_117 ?_
  refine zr_iload dX4_turnAt_118 rfl ?_
  refine zr_iload dX4_turnAt_120 rfl ?_
  refine zr_imul dX4_turnAt_122 ?_
  refine zr_iadd dX4_turnAt_123 ?_
  refine zr_istore dX4_turnAt_124 (by decide) (zs11_10 rfl ?_)
  refine zr_iload dX4_turnAt_126 rfl ?_
  refine zr_ifle dX4_turnAt_128 (tgt := 136) (by decide) (by omega) (fun h128 => ?_) (fun h128 => ?_)
  · refine zr_iload dX4_turnAt_136 rfl ?_
    refine zr_ifge dX4_turnAt_138 (tgt := 146) (by decide) (by omega) (fun h138 => ?_) (fun h138 => ?_)
    · refine zr_iload dX4_turnAt_146 rfl ?_
      refine zr_iflt dX4_turnAt_148 (tgt := 156) (by decide) (by omega) (fun h148 => ?_) (fun h148 => ?_)
      · refine zr_bipush dX4_turnAt_156 rfl ?_
        refine zr_ireturn dX4_turnAt_158 rfl (by first | rfl | exact z_nb _) ?_
        exact zQi k (by unfold pTurn pTn; first | rw [if_pos (by omega)] | rw [if_neg (by omega), if_pos (by omega)] | rw [if_neg (by omega), if_neg (by omega), if_pos (by omega)] | rw [if_neg (by omega), if_neg (by omega), if_neg (by omega)])
      · refine zr_bipush dX4_turnAt_151 rfl ?_
        refine zr_goto dX4_turnAt_153 (tgt := 158) (by decide) ?_
        refine zr_ireturn dX4_turnAt_158 rfl (by first | rfl | exact z_nb _) ?_
        exact zQi k (by unfold pTurn pTn; first | rw [if_pos (by omega)] | rw [if_neg (by omega), if_pos (by omega)] | rw [if_neg (by omega), if_neg (by omega), if_pos (by omega)] | rw [if_neg (by omega), if_neg (by omega), if_neg (by omega)])
    · refine zr_bipush dX4_turnAt_141 rfl ?_
      refine zr_goto dX4_turnAt_143 (tgt := 158) (by decide) ?_
      refine zr_ireturn dX4_turnAt_158 rfl (by first | rfl | exact z_nb _) ?_
      exact zQi k (by unfold pTurn pTn; first | rw [if_pos (by omega)] | rw [if_neg (by omega), if_pos (by omega)] | rw [if_neg (by omega), if_neg (by omega), if_pos (by omega)] | rw [if_neg (by omega), if_neg (by omega), if_neg (by omega)])
  · refine zr_bipush dX4_turnAt_131 rfl ?_
    refine zr_goto dX4_turnAt_133 (tgt := 158) (by decide) ?_
    refine zr_ireturn dX4_turnAt_158 rfl (by first | rfl | exact z_nb _) ?_
    exact zQi k (by unfold pTurn pTn; first | rw [if_pos (by omega)] | rw [if_neg (by omega), if_pos (by omega)] | rw [if_neg (by omega), if_neg (by omega), if_pos (by omega)] | rw [if_neg (by omega), if_neg (by omega), if_neg (by omega)])
theorem kX4_turn {G : State} {d rc rs : Nat} {ah : zH} {A : Nat → Nat} {S : zMS} {Q : zRs → zH → Prop} {i : Int} (hA : zMi A) (hd : 2 ≤ d) (hV : pV (S.1 0)) (qi : -2147483648 ≤ i ∧ i ≤ 2147483647) (k : Q (.inl (some (.int (zi (qTurn (S.1 0) i).2)))) (zMh ah A (zuf S 6 (qTurn (S.1 0) i).1))) : zW G mX4_turn d rc rs 0 (zent [.ref (A 18), .int (zi i)]) [] (zMh ah A S) Q := by
  refine zW_open 0 [some (.ref (A 18)), some (.int (zi i))] rfl ?_
  refine zr_aload_n dX4_turn_0 rfl rfl ?_
  refine zr_iload_n dX4_turn_1 rfl ?_
  refine zc_v1 dX4_turn_2 hX4_isNoIndex gX4_isNoIndex rfl rfl 1 0 0 (by omega) (Nat.zero_le _) (Nat.zero_le _) q2408 q2410 sp72 zM_rc ?_
  refine kX4_isNoIndex hA (by omega) hV (by omega) (zK_i ?_)
  have v := hV.h
  rcases qIdx_c (s := S.1 0) (i := i) with ⟨qe, q1⟩ | ⟨qe, q1, q2⟩ | ⟨qe, q1, q2⟩
  · rw [qe]
    refine zr_ifne dX4_turn_5 (tgt := 37) (by decide) (by decide) (fun _ => ?_) (fun h => absurd h (by decide))
    refine zr_iconst dX4_turn_37 ?_
    refine zr_ireturn dX4_turn_38 rfl (by first | rfl | exact z_nb _) ?_
    exact zQm k (by rw [qTurn_t qe]) (by rw [qTurn_t qe])
  · rw [qe]
    refine zr_ifne dX4_turn_5 (tgt := 37) (by decide) (by decide) (fun _ => ?_) (fun h => absurd h (by decide))
    refine zr_iconst dX4_turn_37 ?_
    refine zr_ireturn dX4_turn_38 rfl (by first | rfl | exact z_nb _) ?_
    exact zQm k (by rw [qTurn_t qe]) (by rw [qTurn_t qe])
  · rw [qe]
    refine zr_ifne dX4_turn_5 (tgt := 37) (by decide) (by decide) (fun h => absurd h (by decide)) (fun _ => ?_)
    refine zr_aload_n dX4_turn_8 rfl rfl ?_
    refine zr_iload_n dX4_turn_9 rfl ?_
    refine zr_ifeq dX4_turn_10 (tgt := 25) (by decide) (by omega) (fun h10 => ?_) (fun h10 => ?_)
    · refine zr_iconst dX4_turn_25 ?_
      refine zr_goto dX4_turn_26 (tgt := 30) (by decide) ?_
      refine zr_iconst dX4_turn_30 ?_
      refine zc_v2 dX4_turn_31 hX4_isThrown gX4_isThrown rfl rfl 0 0 0 (by omega) (Nat.zero_le _) (Nat.zero_le _) q2199 q2201 sp45 zM_rc ?_
      refine kX4_isThrown1 hA (zK_i ?_)
      try simp only [zuf_1, zua_s, zua_2, zuf_s, zuf_zuf, zua_zuf, zua_zua, zua_e, zuf_e, Nat.reduceBEq]
      refine zr_ifeq dX4_turn_34 (tgt := 39) (by decide) (by decide) (fun h => absurd h (by decide)) (fun _ => ?_)
      refine zr_iconst dX4_turn_37 ?_
      refine zr_ireturn dX4_turn_38 rfl (by first | rfl | exact z_nb _) ?_
      exact zQm k (by rw [qTurn_f qe, if_pos (by omega)]) (by rw [qTurn_f qe, if_pos (by omega)])
    · refine zr_iload_n dX4_turn_13 rfl ?_
      refine zr_aload_n dX4_turn_14 rfl rfl ?_
      refine zm_geta 0 dX4_turn_15 q2119 rfl ?_
      try simp only [zuf_1, zua_s, zua_2, zuf_s, zuf_zuf, zua_zuf, zua_zua, zua_e, zuf_e, Nat.reduceBEq]
      refine zr_iconst dX4_turn_18 ?_
      refine zm_load hA (by decide) dX4_turn_19 (by constructor <;> (try simp only [zMn]) <;> omega) ?_
      try simp only [zuf_1, zua_s, zua_2, zuf_s, zuf_zuf, zua_zuf, zua_zua, zua_e, zuf_e, Nat.reduceBEq]
      refine zr_iconst dX4_turn_20 ?_
      refine zr_isub dX4_turn_21 ?_
      refine zr_icmpne dX4_turn_22 (tgt := 29) (by decide) (by omega) (by omega) (fun h22 => ?_) (fun h22 => ?_)
      · refine zr_iconst dX4_turn_29 ?_
        refine zr_iconst dX4_turn_30 ?_
        refine zc_v2 dX4_turn_31 hX4_isThrown gX4_isThrown rfl rfl 0 0 0 (by omega) (Nat.zero_le _) (Nat.zero_le _) q2199 q2201 sp45 zM_rc ?_
        refine kX4_isThrown0 hA (zK_i ?_)
        try simp only [zuf_1, zua_s, zua_2, zuf_s, zuf_zuf, zua_zuf, zua_zua, zua_e, zuf_e, Nat.reduceBEq]
        refine zr_ifeq dX4_turn_34 (tgt := 39) (by decide) (by decide) (fun _ => ?_) (fun h => absurd h (by decide))
        refine zr_aload_n dX4_turn_39 rfl rfl ?_
        refine zr_iload_n dX4_turn_40 rfl ?_
        refine zc_v1 dX4_turn_41 hX4_turnAt gX4_turnAt rfl rfl 1 0 0 (by omega) (Nat.zero_le _) (Nat.zero_le _) q2416 q2418 sp73 zM_rc ?_
        refine kX4_turnAt hA (by first | omega | (simp only [zuf_1, zua_s, zua_2, zuf_s, zua_e, zuf_e, Nat.reduceBEq]; omega)) hV (by first | omega | (simp only [zuf_1, zua_s, zua_2, zuf_s, zua_e, zuf_e, Nat.reduceBEq]; omega)) (zK_i ?_)
        try simp only [zuf_1, zua_s, zua_2, zuf_s, zuf_zuf, zua_zuf, zua_zua, zua_e, zuf_e, Nat.reduceBEq]
        refine zr_i2c (v := pTurn (S.1 0) i) dX4_turn_44 (z_c16 (by have := pTurn_b (S.1 0) i; omega)) ?_
        refine zr_ireturn dX4_turn_45 rfl (z_nc (by have := pTurn_b (S.1 0) i; omega)) ?_
        exact zQm k (by rw [qTurn_f qe, if_neg (by omega)]) (by rw [qTurn_f qe, if_neg (by omega)])
      · refine zr_iconst dX4_turn_25 ?_
        refine zr_goto dX4_turn_26 (tgt := 30) (by decide) ?_
        refine zr_iconst dX4_turn_30 ?_
        refine zc_v2 dX4_turn_31 hX4_isThrown gX4_isThrown rfl rfl 0 0 0 (by omega) (Nat.zero_le _) (Nat.zero_le _) q2199 q2201 sp45 zM_rc ?_
        refine kX4_isThrown1 hA (zK_i ?_)
        try simp only [zuf_1, zua_s, zua_2, zuf_s, zuf_zuf, zua_zuf, zua_zua, zua_e, zuf_e, Nat.reduceBEq]
        refine zr_ifeq dX4_turn_34 (tgt := 39) (by decide) (by decide) (fun h => absurd h (by decide)) (fun _ => ?_)
        refine zr_iconst dX4_turn_37 ?_
        refine zr_ireturn dX4_turn_38 rfl (by first | rfl | exact z_nb _) ?_
        exact zQm k (by rw [qTurn_f qe, if_pos (by omega)]) (by rw [qTurn_f qe, if_pos (by omega)])
theorem kX4_forecast {G : State} {d rc rs : Nat} {ah : zH} {A : Nat → Nat} {S : zMS} {Q : zRs → zH → Prop} {x y : Int} (hA : zMi A) (hd : 3 ≤ d) (hV : pV (S.1 0)) (qx : -2147483648 ≤ x ∧ x ≤ 2147483647) (qy : -2147483648 ≤ y ∧ y ≤ 2147483647) (htg : 0 < S.1 0 1 → 1 ≤ S.1 0 2 ∧ S.1 0 2 < S.1 0 1) (k : Q (.inl (some (.int (zi (qFc (S.1 0) x y).2)))) (zMh ah A (zuf S 6 (qFc (S.1 0) x y).1))) : zW G mX4_forecast d rc rs 0 (zent [.ref (A 18), .int (zi x), .int (zi y)]) [] (zMh ah A S) Q := by
  refine zW_open 0 [some (.ref (A 18)), some (.int (zi x)), some (.int (zi y))] rfl ?_
  refine zr_aload_n dX4_forecast_0 rfl rfl ?_
  refine zr_iload_n dX4_forecast_1 rfl ?_
  refine zr_iload_n dX4_forecast_2 rfl ?_
  refine zc_s2 dX4_forecast_3 hX4_isPlace gX4_isPlace rfl rfl 1 0 0 (by omega) (Nat.zero_le _) (Nat.zero_le _) q2193 q2194 ?_
  refine kX4_isPlace (by omega) (by omega) (by omega) (zK_i ?_)
  refine zr_ifneB dX4_forecast_6 (tgt := 13) (by decide) (fun h6 => ?_) (fun h6 => ?_)
  · refine zr_iconst dX4_forecast_13 ?_
    refine zr_iconst dX4_forecast_14 ?_
    refine zc_v2 dX4_forecast_15 hX4_isThrown gX4_isThrown rfl rfl 0 0 0 (by omega) (Nat.zero_le _) (Nat.zero_le _) q2199 q2201 sp45 zM_rc ?_
    refine kX4_isThrown0 hA (zK_i ?_)
    try simp only [zuf_1, zua_s, zua_2, zuf_s, zuf_zuf, zua_zuf, zua_zua, zua_e, zuf_e, Nat.reduceBEq]
    refine zr_ifne dX4_forecast_18 (tgt := 41) (by decide) (by decide) (fun h => absurd h (by decide)) (fun _ => ?_)
    refine zr_aload_n dX4_forecast_21 rfl rfl ?_
    refine zr_aload_n dX4_forecast_22 rfl rfl ?_
    refine zc_v0 dX4_forecast_23 hX4_isOnTour gX4_isOnTour rfl rfl 0 0 0 (by omega) (Nat.zero_le _) (Nat.zero_le _) q2247 q2249 sp54 zM_rc ?_
    refine kX4_isOnTour hA hV (zK_i ?_)
    try simp only [zuf_1, zua_s, zua_2, zuf_s, zuf_zuf, zua_zuf, zua_zua, zua_e, zuf_e, Nat.reduceBEq]
    refine zr_ifneB dX4_forecast_26 (tgt := 33) (by decide) (fun h26 => ?_) (fun h26 => ?_)
    · refine zr_iconst dX4_forecast_33 ?_
      refine zr_iconst dX4_forecast_34 ?_
      refine zc_v2 dX4_forecast_35 hX4_isThrown gX4_isThrown rfl rfl 0 0 0 (by omega) (Nat.zero_le _) (Nat.zero_le _) q2199 q2201 sp45 zM_rc ?_
      refine kX4_isThrown0 hA (zK_i ?_)
      try simp only [zuf_1, zua_s, zua_2, zuf_s, zuf_zuf, zua_zuf, zua_zua, zua_e, zuf_e, Nat.reduceBEq]
      refine zr_ifeq dX4_forecast_38 (tgt := 43) (by decide) (by decide) (fun _ => ?_) (fun h => absurd h (by decide))
      have v := hV.h
      have tg := htg (of_decide_eq_true h26)
      have pl := pPl_b h6
      refine zr_aload_n dX4_forecast_43 rfl rfl ?_
      refine zr_iload_n dX4_forecast_44 rfl ?_
      refine zr_iload_n dX4_forecast_45 rfl ?_
      refine zc_v2 dX4_forecast_46 hX4_reaches gX4_reaches rfl rfl 1 0 0 (by omega) (Nat.zero_le _) (Nat.zero_le _) q2291 q2293 sp62 zM_rc ?_
      refine kX4_reaches hA (by first | omega | (simp only [zuf_1, zua_s, zua_2, zuf_s, zua_e, zuf_e, Nat.reduceBEq]; omega)) hV (by first | omega | (simp only [zuf_1, zua_s, zua_2, zuf_s, zua_e, zuf_e, Nat.reduceBEq]; omega)) (by first | omega | (simp only [zuf_1, zua_s, zua_2, zuf_s, zua_e, zuf_e, Nat.reduceBEq]; omega)) (by first | omega | (simp only [zuf_1, zua_s, zua_2, zuf_s, zua_e, zuf_e, Nat.reduceBEq]; omega)) (zK_i ?_)
      try simp only [zuf_1, zua_s, zua_2, zuf_s, zuf_zuf, zua_zuf, zua_zua, zua_e, zuf_e, Nat.reduceBEq]
      refine zr_ifeqB dX4_forecast_49 (tgt := 57) (by decide) (fun h49 => ?_) (fun h49 => ?_)
      · refine zr_aload_n dX4_forecast_57 rfl rfl ?_
        refine zr_iload_n dX4_forecast_58 rfl ?_
        refine zr_iload_n dX4_forecast_59 rfl ?_
        refine zr_aload_n dX4_forecast_60 rfl rfl ?_
        refine zm_geta 0 dX4_forecast_61 q2119 rfl ?_
        try simp only [zuf_1, zua_s, zua_2, zuf_s, zuf_zuf, zua_zuf, zua_zua, zua_e, zuf_e, Nat.reduceBEq]
        refine zr_bipush dX4_forecast_64 rfl ?_
        refine zm_load hA (by decide) dX4_forecast_66 (by constructor <;> (try simp only [zMn]) <;> omega) ?_
        try simp only [zuf_1, zua_s, zua_2, zuf_s, zuf_zuf, zua_zuf, zua_zua, zua_e, zuf_e, Nat.reduceBEq]
        refine zc_v3 dX4_forecast_67 hX4_isWithin gX4_isWithin rfl rfl 2 0 0 (by omega) (Nat.zero_le _) (Nat.zero_le _) q2306 q2308 sp65 zM_rc ?_
        refine kX4_isWithin hA (by first | omega | (simp only [zuf_1, zua_s, zua_2, zuf_s, zua_e, zuf_e, Nat.reduceBEq]; omega)) hV (by first | omega | (simp only [zuf_1, zua_s, zua_2, zuf_s, zua_e, zuf_e, Nat.reduceBEq]; omega)) (by first | omega | (simp only [zuf_1, zua_s, zua_2, zuf_s, zua_e, zuf_e, Nat.reduceBEq]; omega)) (by first | omega | (simp only [zuf_1, zua_s, zua_2, zuf_s, zua_e, zuf_e, Nat.reduceBEq]; omega)) (by first | omega | (simp only [zuf_1, zua_s, zua_2, zuf_s, zua_e, zuf_e, Nat.reduceBEq]; omega)) (zK_i ?_)
        try simp only [zuf_1, zua_s, zua_2, zuf_s, zuf_zuf, zua_zuf, zua_zua, zua_e, zuf_e, Nat.reduceBEq]
        refine zr_ifeqB dX4_forecast_70 (tgt := 78) (by decide) (fun h70 => ?_) (fun h70 => ?_)
        · refine zr_bipush dX4_forecast_78 rfl ?_
          refine zr_ireturn dX4_forecast_80 rfl (z_nc (by omega)) ?_
          try have ih26 := of_decide_eq_true h26
          try have ih26 := of_decide_eq_false h26
          try have ih70 := of_decide_eq_true h70
          try have ih70 := of_decide_eq_false h70
          have e : qFc (S.1 0) x y = (0, if pRe (S.1 0) x y = true then 116 else if pCm (S.1 0) x y (S.1 0 8) ≤ 0 then 113 else 97) := by unfold qFc; simp [*]
          exact zQm k (by rw [e]; simp [*]) (by rw [e])
        · refine zr_bipush dX4_forecast_73 rfl ?_
          refine zr_goto dX4_forecast_75 (tgt := 80) (by decide) ?_
          refine zr_ireturn dX4_forecast_80 rfl (z_nc (by omega)) ?_
          try have ih26 := of_decide_eq_true h26
          try have ih26 := of_decide_eq_false h26
          try have ih70 := of_decide_eq_true h70
          try have ih70 := of_decide_eq_false h70
          have e : qFc (S.1 0) x y = (0, if pRe (S.1 0) x y = true then 116 else if pCm (S.1 0) x y (S.1 0 8) ≤ 0 then 113 else 97) := by unfold qFc; simp [*]
          exact zQm k (by rw [e]; simp [*]) (by rw [e])
      · refine zr_bipush dX4_forecast_52 rfl ?_
        refine zr_goto dX4_forecast_54 (tgt := 80) (by decide) ?_
        refine zr_ireturn dX4_forecast_80 rfl (z_nc (by omega)) ?_
        try have ih26 := of_decide_eq_true h26
        try have ih26 := of_decide_eq_false h26
        try have ih70 := of_decide_eq_true h70
        try have ih70 := of_decide_eq_false h70
        have e : qFc (S.1 0) x y = (0, if pRe (S.1 0) x y = true then 116 else if pCm (S.1 0) x y (S.1 0 8) ≤ 0 then 113 else 97) := by unfold qFc; simp [*]
        exact zQm k (by rw [e]; simp [*]) (by rw [e])
    · refine zr_iconst dX4_forecast_29 ?_
      refine zr_goto dX4_forecast_30 (tgt := 34) (by decide) ?_
      refine zr_iconst dX4_forecast_34 ?_
      refine zc_v2 dX4_forecast_35 hX4_isThrown gX4_isThrown rfl rfl 0 0 0 (by omega) (Nat.zero_le _) (Nat.zero_le _) q2199 q2201 sp45 zM_rc ?_
      refine kX4_isThrown1 hA (zK_i ?_)
      try simp only [zuf_1, zua_s, zua_2, zuf_s, zuf_zuf, zua_zuf, zua_zua, zua_e, zuf_e, Nat.reduceBEq]
      refine zr_ifeq dX4_forecast_38 (tgt := 43) (by decide) (by decide) (fun h => absurd h (by decide)) (fun _ => ?_)
      refine zr_iconst dX4_forecast_41 ?_
      refine zr_ireturn dX4_forecast_42 rfl (z_nc (by omega)) ?_
      try have ih26 := of_decide_eq_true h26
      try have ih26 := of_decide_eq_false h26
      try have ih70 := of_decide_eq_true h70
      try have ih70 := of_decide_eq_false h70
      have e : qFc (S.1 0) x y = (2, 0) := by unfold qFc; simp [*]
      exact zQm k (by rw [e]) (by rw [e])
  · refine zr_iconst dX4_forecast_9 ?_
    refine zr_goto dX4_forecast_10 (tgt := 14) (by decide) ?_
    refine zr_iconst dX4_forecast_14 ?_
    refine zc_v2 dX4_forecast_15 hX4_isThrown gX4_isThrown rfl rfl 0 0 0 (by omega) (Nat.zero_le _) (Nat.zero_le _) q2199 q2201 sp45 zM_rc ?_
    refine kX4_isThrown1 hA (zK_i ?_)
    try simp only [zuf_1, zua_s, zua_2, zuf_s, zuf_zuf, zua_zuf, zua_zua, zua_e, zuf_e, Nat.reduceBEq]
    refine zr_ifne dX4_forecast_18 (tgt := 41) (by decide) (by decide) (fun _ => ?_) (fun h => absurd h (by decide))
    refine zr_iconst dX4_forecast_41 ?_
    refine zr_ireturn dX4_forecast_42 rfl (z_nc (by omega)) ?_
    try have ih26 := of_decide_eq_true h26
    try have ih26 := of_decide_eq_false h26
    try have ih70 := of_decide_eq_true h70
    try have ih70 := of_decide_eq_false h70
    have e : qFc (S.1 0) x y = (1, 0) := by unfold qFc; simp [*]
    exact zQm k (by rw [e]) (by rw [e])
def pAw (s : Int → Int) (p x y : Int) : Int := pSq (x - pOf s p 0) (y - pOf s p 1)
theorem kX4_away {G : State} {d rc rs : Nat} {ah : zH} {A : Nat → Nat} {S : zMS} {Q : zRs → zH → Prop} {p x y : Int} (hA : zMi A) (hd : 1 ≤ d) (hV : pV (S.1 0)) (hp : 0 ≤ p ∧ p < 12) (hx : 0 ≤ x ∧ x ≤ 99) (hy : 0 ≤ y ∧ y ≤ 99) (k : (0 ≤ pAw (S.1 0) p x y ∧ pAw (S.1 0) p x y ≤ 19602) → Q (.inl (some (.int (zi (pAw (S.1 0) p x y))))) (zMh ah A S)) : zW G mX4_away d rc rs 0 (zent [.ref (A 18), .int (zi p), .int (zi x), .int (zi y)]) [] (zMh ah A S) Q := by
  refine zW_open 0 [some (.ref (A 18)), some (.int (zi p)), some (.int (zi x)), some (.int (zi y))] rfl ?_
  have x1 := hV.x hp
  have y1 := hV.y hp
  refine zr_iload_n dX4_away_0 rfl ?_
  refine zr_aload_n dX4_away_1 rfl rfl ?_
  refine zr_iload_n dX4_away_2 rfl ?_
  refine zr_iconst dX4_away_3 ?_
  refine zc_v2 dX4_away_4 hX4_of gX4_of rfl rfl 0 0 0 (by omega) (Nat.zero_le _) (Nat.zero_le _) q2260 q2262 sp57 zM_rc ?_
  refine kX4_of hA (by omega) (by omega) (zK_i ?_)
  try simp only [zuf_1, zua_s, zua_2, zuf_s, zuf_zuf, zua_zuf, zua_zua, zua_e, zuf_e, Nat.reduceBEq]
  refine zr_isub dX4_away_7 ?_
  refine zr_iload_n dX4_away_8 rfl ?_
  refine zr_aload_n dX4_away_9 rfl rfl ?_
  refine zr_iload_n dX4_away_10 rfl ?_
  refine zr_iconst dX4_away_11 ?_
  refine zc_v2 dX4_away_12 hX4_of gX4_of rfl rfl 0 0 0 (by omega) (Nat.zero_le _) (Nat.zero_le _) q2260 q2262 sp57 zM_rc ?_
  refine kX4_of hA (by omega) (by omega) (zK_i ?_)
  try simp only [zuf_1, zua_s, zua_2, zuf_s, zuf_zuf, zua_zuf, zua_zua, zua_e, zuf_e, Nat.reduceBEq]
  refine zr_isub dX4_away_15 ?_
  refine zc_s2 dX4_away_16 hX4_square gX4_square rfl rfl 0 0 0 (by omega) (Nat.zero_le _) (Nat.zero_le _) q2299 q2300 ?_
  refine kX4_square (zK_i ?_)
  refine zr_ireturn dX4_away_19 rfl (by first | rfl | exact z_nb _) ?_
  exact k (pSq_b (by omega) (by omega))
