set_option maxRecDepth 100000
/-! ===== the reference: programs read ===== -/
/-- the state while a program is read: place, commands, how many -/
def pPs (S : zMS) (h : Int) (c : Int → Int) (m : Int) : zMS := zuf (zuf (zua S 14 c) 16 h) 17 m
theorem pPs_13 {S : zMS} {h m : Int} {c : Int → Int} : (pPs S h c m).1 13 = S.1 13 := rfl
theorem pPs_14 {S : zMS} {h m : Int} {c : Int → Int} : (pPs S h c m).1 14 = c := rfl
theorem pPs_15 {S : zMS} {h m : Int} {c : Int → Int} : (pPs S h c m).2 15 = S.2 15 := rfl
theorem pPs_16 {S : zMS} {h m : Int} {c : Int → Int} : (pPs S h c m).2 16 = h := rfl
theorem pPs_17 {S : zMS} {h m : Int} {c : Int → Int} : (pPs S h c m).2 17 = m := rfl
theorem pPs_a {S : zMS} {h m : Int} {c c' : Int → Int} : zua (pPs S h c m) 14 c' = pPs S h c' m := by unfold pPs; rw [zua_zuf, zua_zuf, zua_zua]
theorem pPs_h {S : zMS} {h h' m : Int} {c : Int → Int} : zuf (pPs S h c m) 16 h' = pPs S h' c m := by unfold pPs; rw [zuf_c (by decide), zuf_zuf]
theorem pPs_m {S : zMS} {h m m' : Int} {c : Int → Int} : zuf (pPs S h c m) 17 m' = pPs S h c m' := by unfold pPs; rw [zuf_zuf]
/-- what is typed: chars -/
def pTp (t : Int → Int) (n : Int) : Prop := 0 ≤ n ∧ n ≤ 60 ∧ ∀ j, 0 ≤ j → j < n → 0 ≤ t j ∧ t j ≤ 65535
def pSg (t : Int → Int) (n h : Int) : Int := if h < n then t h else -1
theorem pSg_b {t : Int → Int} {n h : Int} (hT : pTp t n) (hh : 0 ≤ h) : -1 ≤ pSg t n h ∧ pSg t n h ≤ 65535 := by
  unfold pSg
  split
  · have := hT.2.2 h hh (by omega); omega
  · omega
theorem pSg_l {t : Int → Int} {n h c : Int} (e : pSg t n h = c) (hc : 0 ≤ c) : h < n := by
  unfold pSg at e
  split at e
  · omega
  · omega
/-- an answer, or none, with the place -/
abbrev pO (α : Type) : Type := Option α × Int
def pB {α β : Type} (x : pO α) (f : α → Int → pO β) : pO β := match x with
  | (none, h) => (none, h)
  | (some a, h) => f a h
theorem pB_n {α β : Type} {x : pO α} {h : Int} {f : α → Int → pO β} (e : x = (none, h)) : pB x f = (none, h) := by rw [e]; rfl
theorem pB_s {α β : Type} {x : pO α} {a : α} {h : Int} {f : α → Int → pO β} (e : x = (some a, h)) : pB x f = f a h := by rw [e]; rfl
def pCh (t : Int → Int) (n c h : Int) : pO Unit := if pSg t n h = c then (some (), h + 1) else (none, h)
def pLit (t : Int → Int) (n : Int) : List Int → Int → pO Unit
  | [], h => (some (), h)
  | c :: l, h => pB (pCh t n c h) (fun _ h => pLit t n l h)
/-- up to so many digits -/
def pNm (t : Int → Int) (n : Int) : Nat → Int → Int → Int × Int
  | 0, v, h => (v, h)
  | k + 1, v, h => if pIn (pSg t n h) 48 57 = true then pNm t n k (10 * v + pSg t n h - 48) (h + 1) else (v, h)
def pNu (t : Int → Int) (n : Int) (k : Nat) (h : Int) : pO Int := if (pNm t n k 0 h).2 = h then (none, h) else (some (pNm t n k 0 h).1, (pNm t n k 0 h).2)
theorem pNm_h {t : Int → Int} {n : Int} : ∀ (k : Nat) (v h : Int), h ≤ (pNm t n k v h).2 ∧ (pNm t n k v h).2 ≤ h + k ∧ (h ≤ n → (pNm t n k v h).2 ≤ n) := by
  intro k
  induction k with
  | zero => intro v h; unfold pNm; dsimp only; omega
  | succ k ih =>
    intro v h
    unfold pNm
    by_cases e : pIn (pSg t n h) 48 57 = true
    · rw [if_pos e]
      have := ih (10 * v + pSg t n h - 48) (h + 1)
      have e2 := pIn_iff.mp e
      have := pSg_l (t := t) (n := n) (h := h) rfl (by omega)
      omega
    · rw [if_neg e]; dsimp only; omega
theorem pNm_v {t : Int → Int} {n : Int} : ∀ (k : Nat) (v h : Int), k ≤ 3 → 0 ≤ v → (k = 3 → v = 0) → (k = 2 → v ≤ 9) → (k = 1 → v ≤ 99) → (k = 0 → v ≤ 999) → 0 ≤ (pNm t n k v h).1 ∧ (pNm t n k v h).1 ≤ 999 := by
  intro k
  induction k with
  | zero => intro v h _ h1 _ _ _ h2; unfold pNm; exact ⟨h1, h2 rfl⟩
  | succ k ih =>
    intro v h hk h0 h3 h2 h1 _
    unfold pNm
    by_cases e : pIn (pSg t n h) 48 57 = true
    · rw [if_pos e]
      have e2 := pIn_iff.mp e
      exact ih _ _ (by omega) (by omega) (fun z => by omega) (fun z => by have := h3 (by omega); omega) (fun z => by have := h2 (by omega); omega) (fun z => by have := h1 (by omega); omega)
    · rw [if_neg e]; dsimp only; omega
theorem pNu_b {t : Int → Int} {n : Int} {k : Nat} {h v h' : Int} (hk : k ≤ 3) (e : pNu t n k h = (some v, h')) (hh : h ≤ n) : 0 ≤ v ∧ v ≤ 999 ∧ h < h' ∧ h' ≤ n := by
  unfold pNu at e
  split at e
  · cases e
  · rename_i ne
    cases e
    have a := pNm_h (t := t) (n := n) k 0 h
    have b : 0 ≤ (pNm t n k 0 h).1 ∧ (pNm t n k 0 h).1 ≤ 999 := by
      rcases k with _ | _ | _ | _ | k
      · exact pNm_v 0 0 h (by omega) (by omega) (by omega) (by omega) (by omega) (by omega)
      · exact pNm_v 1 0 h (by omega) (by omega) (by omega) (by omega) (by omega) (by omega)
      · exact pNm_v 2 0 h (by omega) (by omega) (by omega) (by omega) (by omega) (by omega)
      · exact pNm_v 3 0 h (by omega) (by omega) (by omega) (by omega) (by omega) (by omega)
      · omega
    omega
theorem pNu_n {t : Int → Int} {n : Int} {k : Nat} {h h' : Int} (e : pNu t n k h = (none, h')) : h' = h := by
  unfold pNu at e
  split at e
  · cases e; rfl
  · cases e
theorem pCh_b {t : Int → Int} {n c h h' : Int} {x : Option Unit} (e : pCh t n c h = (x, h')) (hc : 0 ≤ c) : h ≤ h' ∧ (h ≤ n → h' ≤ n) := by
  unfold pCh at e
  split at e
  · rename_i z
    have := pSg_l z hc
    cases e
    omega
  · cases e; omega
theorem pLit_b {t : Int → Int} {n : Int} : ∀ (l : List Int) {h h' : Int} {x : Option Unit}, pLit t n l h = (x, h') → (∀ c ∈ l, 0 ≤ c) → h ≤ h' ∧ (h ≤ n → h' ≤ n) := by
  intro l
  induction l with
  | nil => intro h h' x e _; unfold pLit at e; cases e; omega
  | cons c l ih =>
    intro h h' x e hc
    unfold pLit pB at e
    have c0 := hc c List.mem_cons_self
    cases hx : pCh t n c h with
    | mk y z =>
      rw [hx] at e
      have b := pCh_b hx c0
      cases y with
      | none => cases e; exact b
      | some u =>
        have := ih e (fun c hc' => hc c (List.mem_cons_of_mem _ hc'))
        omega
theorem kX4_sign {G : State} {d rc rs : Nat} {ah : zH} {A : Nat → Nat} {S : zMS} {Q : zRs → zH → Prop} (hA : zMi A) {h m : Int} {c : Int → Int} (hT : pTp (S.1 13) (S.2 15)) (hh : 0 ≤ h ∧ h ≤ S.2 15) (k : Q (.inl (some (.int (zi (pSg (S.1 13) (S.2 15) h))))) (zMh ah A (pPs S h c m))) : zW G mX4_sign d rc rs 0 (zent [.ref (A 18)]) [] (zMh ah A (pPs S h c m)) Q := by
  refine zW_open 0 [some (.ref (A 18))] rfl ?_
  have t1 := hT.1
  have t2 := hT.2.1
  refine zr_aload_n dX4_sign_0 rfl rfl ?_
  refine zm_geti 16 dX4_sign_1 q2135 rfl ?_
  try simp only [zuf_1, zua_s, zua_2, zuf_s, zuf_zuf, zua_zuf, zua_zua, zua_e, zuf_e, Nat.reduceBEq, pPs_13, pPs_14, pPs_15, pPs_16, pPs_17, pPs_a, pPs_h, pPs_m]
  refine zr_aload_n dX4_sign_4 rfl rfl ?_
  refine zm_geti 15 dX4_sign_5 q2134 rfl ?_
  try simp only [zuf_1, zua_s, zua_2, zuf_s, zuf_zuf, zua_zuf, zua_zua, zua_e, zuf_e, Nat.reduceBEq, pPs_13, pPs_14, pPs_15, pPs_16, pPs_17, pPs_a, pPs_h, pPs_m]
  refine zr_icmpge dX4_sign_8 (tgt := 23) (by decide) (by omega) (by omega) (fun h8 => ?_) (fun h8 => ?_)
  · refine zr_iconst dX4_sign_23 ?_
    refine zr_ireturn dX4_sign_24 rfl (by first | rfl | exact z_nb _) ?_
    exact zQi k (by unfold pSg; first | rw [if_pos (by omega)] | rw [if_neg (by omega)])
  · refine zr_aload_n dX4_sign_11 rfl rfl ?_
    refine zm_geta 13 dX4_sign_12 q2132 rfl ?_
    try simp only [zuf_1, zua_s, zua_2, zuf_s, zuf_zuf, zua_zuf, zua_zua, zua_e, zuf_e, Nat.reduceBEq, pPs_13, pPs_14, pPs_15, pPs_16, pPs_17, pPs_a, pPs_h, pPs_m]
    refine zr_aload_n dX4_sign_15 rfl rfl ?_
    refine zm_geti 16 dX4_sign_16 q2135 rfl ?_
    try simp only [zuf_1, zua_s, zua_2, zuf_s, zuf_zuf, zua_zuf, zua_zua, zua_e, zuf_e, Nat.reduceBEq, pPs_13, pPs_14, pPs_15, pPs_16, pPs_17, pPs_a, pPs_h, pPs_m]
    refine zm_load hA (by decide) dX4_sign_19 (by constructor <;> (try simp only [zMn]) <;> omega) ?_
    try simp only [zuf_1, zua_s, zua_2, zuf_s, zuf_zuf, zua_zuf, zua_zua, zua_e, zuf_e, Nat.reduceBEq, pPs_13, pPs_14, pPs_15, pPs_16, pPs_17, pPs_a, pPs_h, pPs_m]
    refine zr_goto dX4_sign_20 (tgt := 24) (by decide) ?_
    refine zr_ireturn dX4_sign_24 rfl (by first | rfl | exact z_nb _) ?_
    exact zQi k (by unfold pSg; first | rw [if_pos (by omega)] | rw [if_neg (by omega)])
theorem kX4_isSign {G : State} {d rc rs : Nat} {ah : zH} {A : Nat → Nat} {S : zMS} {Q : zRs → zH → Prop} {x : Int} (hA : zMi A) (hd : 1 ≤ d) {h m : Int} {c : Int → Int} (hT : pTp (S.1 13) (S.2 15)) (hh : 0 ≤ h ∧ h ≤ S.2 15) (hx : 0 ≤ x ∧ x ≤ 65535) (k1 : pCh (S.1 13) (S.2 15) x h = (some (), h + 1) → h + 1 ≤ S.2 15 → Q (.inl (some (.int (zi 1)))) (zMh ah A (pPs S (h + 1) c m))) (k0 : pCh (S.1 13) (S.2 15) x h = (none, h) → Q (.inl (some (.int (zi 0)))) (zMh ah A (pPs S h c m))) : zW G mX4_isSign d rc rs 0 (zent [.ref (A 18), .int (zi x)]) [] (zMh ah A (pPs S h c m)) Q := by
  refine zW_open 1 [some (.ref (A 18)), some (.int (zi x)), none] rfl ?_
  refine zr_aload_n dX4_isSign_0 rfl rfl ?_
  refine zc_v0 dX4_isSign_1 hX4_sign gX4_sign rfl rfl 0 0 0 (by omega) (Nat.zero_le _) (Nat.zero_le _) q2529 q2531 sp79 zM_rc ?_
  refine kX4_sign hA hT (by first | omega | (simp only [zuf_1, zua_s, zua_2, zuf_s, zua_e, zuf_e, Nat.reduceBEq]; omega)) (zK_i ?_)
  have sb := pSg_b hT hh.1
  refine zr_iload_n dX4_isSign_4 rfl ?_
  refine zr_icmpne dX4_isSign_5 (tgt := 12) (by decide) (by omega) (by omega) (fun h5 => ?_) (fun h5 => ?_)
  · have e : pCh (S.1 13) (S.2 15) x h = (none, h) := by unfold pCh; rw [if_neg h5]
    refine zr_iconst dX4_isSign_12 ?_
    refine zr_istore_n dX4_isSign_13 (by decide) (zs3_2 rfl ?_)
    refine zr_aload_n dX4_isSign_14 rfl rfl ?_
    refine zr_dup dX4_isSign_15 rfl ?_
    refine zm_geti 16 dX4_isSign_16 q2135 rfl ?_
    try simp only [zuf_1, zua_s, zua_2, zuf_s, zuf_zuf, zua_zuf, zua_zua, zua_e, zuf_e, Nat.reduceBEq, pPs_13, pPs_14, pPs_15, pPs_16, pPs_17, pPs_a, pPs_h, pPs_m]
    refine zr_iload_n dX4_isSign_19 rfl ?_
    refine zr_ifeq dX4_isSign_20 (tgt := 27) (by decide) (by decide) (fun _ => ?_) (fun h => absurd h (by decide))
    refine zr_iconst dX4_isSign_27 ?_
    refine zr_iadd dX4_isSign_28 ?_
    refine zm_put 16 dX4_isSign_29 q2135 (by decide) ?_
    try simp only [zuf_1, zua_s, zua_2, zuf_s, zuf_zuf, zua_zuf, zua_zua, zua_e, zuf_e, Nat.reduceBEq, pPs_13, pPs_14, pPs_15, pPs_16, pPs_17, pPs_a, pPs_h, pPs_m]
    refine zr_iload_n dX4_isSign_32 rfl ?_
    refine zr_ireturn dX4_isSign_33 rfl (by first | rfl | exact z_nb _) ?_
    rw [Int.add_zero]
    exact k0 e
  · have sl := pSg_l h5 hx.1
    have e : pCh (S.1 13) (S.2 15) x h = (some (), h + 1) := by unfold pCh; rw [if_pos h5]
    refine zr_iconst dX4_isSign_8 ?_
    refine zr_goto dX4_isSign_9 (tgt := 13) (by decide) ?_
    refine zr_istore_n dX4_isSign_13 (by decide) (zs3_2 rfl ?_)
    refine zr_aload_n dX4_isSign_14 rfl rfl ?_
    refine zr_dup dX4_isSign_15 rfl ?_
    refine zm_geti 16 dX4_isSign_16 q2135 rfl ?_
    try simp only [zuf_1, zua_s, zua_2, zuf_s, zuf_zuf, zua_zuf, zua_zua, zua_e, zuf_e, Nat.reduceBEq, pPs_13, pPs_14, pPs_15, pPs_16, pPs_17, pPs_a, pPs_h, pPs_m]
    refine zr_iload_n dX4_isSign_19 rfl ?_
    refine zr_ifeq dX4_isSign_20 (tgt := 27) (by decide) (by decide) (fun h => absurd h (by decide)) (fun _ => ?_)
    refine zr_iconst dX4_isSign_23 ?_
    refine zr_goto dX4_isSign_24 (tgt := 28) (by decide) ?_
    refine zr_iadd dX4_isSign_28 ?_
    refine zm_put 16 dX4_isSign_29 q2135 (by decide) ?_
    try simp only [zuf_1, zua_s, zua_2, zuf_s, zuf_zuf, zua_zuf, zua_zua, zua_e, zuf_e, Nat.reduceBEq, pPs_13, pPs_14, pPs_15, pPs_16, pPs_17, pPs_a, pPs_h, pPs_m]
    refine zr_iload_n dX4_isSign_32 rfl ?_
    refine zr_ireturn dX4_isSign_33 rfl (by first | rfl | exact z_nb _) ?_
    exact k1 e (by omega)
theorem pNm_s {t : Int → Int} {n : Int} {k : Nat} {v h : Int} (e : pIn (pSg t n h) 48 57 = true) : pNm t n (k + 1) v h = pNm t n k (10 * v + pSg t n h - 48) (h + 1) := by rw [pNm, if_pos e]
theorem pNm_e {t : Int → Int} {n : Int} {k : Nat} {v h : Int} (e : ¬ pIn (pSg t n h) 48 57 = true) : pNm t n k v h = (v, h) := by
  cases k with
  | zero => rfl
  | succ k => rw [pNm, if_neg e]
theorem kX4_isNumberL {G : State} {d rc rs : Nat} {ah : zH} {A : Nat → Nat} {S : zMS} {Q : zRs → zH → Prop} (hA : zMi A) (hd : 1 ≤ d) {m a h0 : Int} {K : Nat} (hK : K ≤ 3) {c : Int → Int} (hT : pTp (S.1 13) (S.2 15)) (ha : 0 ≤ a ∧ a < 124) (n : Nat) : ∀ (v h : Int), h0 ≤ h → (h - h0) + n = K → 0 ≤ h ∧ h ≤ S.2 15 → pNm (S.1 13) (S.2 15) n v h = pNm (S.1 13) (S.2 15) K 0 h0 → (Q (.inl (some (.int (zi (zB (decide (h0 < (pNm (S.1 13) (S.2 15) K 0 h0).2))))))) (zMh ah A (pPs S (pNm (S.1 13) (S.2 15) K 0 h0).2 (z_upF c a (pNm (S.1 13) (S.2 15) K 0 h0).1) m))) → zW G mX4_isNumber d rc rs 5 [some (.ref (A 18)), some (.int (zi (K : Nat))), some (.int (zi a)), some (.int (zi v)), some (.int (zi (h - h0)))] [] (zMh ah A (pPs S h c m)) Q := by
  induction n with
  | zero =>
    intro v h g1 g2 g3 g4 k
    have hh := g3
    have e0 : pNm (S.1 13) (S.2 15) 0 v h = (v, h) := rfl
    rw [← g4, e0] at k
    refine zr_iload dX4_isNumber_5 rfl ?_
    refine zr_iload_n dX4_isNumber_7 rfl ?_
    refine zr_icmpge dX4_isNumber_8 (tgt := 54) (by decide) (by omega) (by omega) (fun h8 => ?_) (fun h8 => ?_)
    · refine zr_aload_n dX4_isNumber_54 rfl rfl ?_
      refine zm_geta 14 dX4_isNumber_55 q2133 rfl ?_
      try simp only [zuf_1, zua_s, zua_2, zuf_s, zuf_zuf, zua_zuf, zua_zua, zua_e, zuf_e, Nat.reduceBEq, pPs_13, pPs_14, pPs_15, pPs_16, pPs_17, pPs_a, pPs_h, pPs_m]
      refine zr_iload_n dX4_isNumber_58 rfl ?_
      refine zr_iload_n dX4_isNumber_59 rfl ?_
      refine zm_store hA (by decide) dX4_isNumber_60 (by constructor <;> (try simp only [zMn]) <;> omega) ?_
      try simp only [zuf_1, zua_s, zua_2, zuf_s, zuf_zuf, zua_zuf, zua_zua, zua_e, zuf_e, Nat.reduceBEq, pPs_13, pPs_14, pPs_15, pPs_16, pPs_17, pPs_a, pPs_h, pPs_m]
      refine zr_iload dX4_isNumber_61 rfl ?_
      refine zr_ifle dX4_isNumber_63 (tgt := 70) (by decide) (by omega) (fun h63 => ?_) (fun h63 => ?_)
      · refine zr_iconst dX4_isNumber_70 ?_
        refine zr_ireturn dX4_isNumber_71 rfl (by first | rfl | exact z_nb _) ?_
        exact zQi k (by first | (rw [decide_eq_true (by dsimp only; omega)]; rfl) | (rw [decide_eq_false (by dsimp only; omega)]; rfl))
      · refine zr_iconst dX4_isNumber_66 ?_
        refine zr_goto dX4_isNumber_67 (tgt := 71) (by decide) ?_
        refine zr_ireturn dX4_isNumber_71 rfl (by first | rfl | exact z_nb _) ?_
        exact zQi k (by first | (rw [decide_eq_true (by dsimp only; omega)]; rfl) | (rw [decide_eq_false (by dsimp only; omega)]; rfl))
    · exfalso; omega
  | succ n ih =>
    intro v h g1 g2 g3 g4 k
    have hh := g3
    have sb := pSg_b hT g3.1
    refine zr_iload dX4_isNumber_5 rfl ?_
    refine zr_iload_n dX4_isNumber_7 rfl ?_
    refine zr_icmpge dX4_isNumber_8 (tgt := 54) (by decide) (by omega) (by omega) (fun h8 => ?_) (fun h8 => ?_)
    · exfalso; omega
    · refine zr_aload_n dX4_isNumber_11 rfl rfl ?_
      refine zc_v0 dX4_isNumber_12 hX4_sign gX4_sign rfl rfl 0 0 0 (by omega) (Nat.zero_le _) (Nat.zero_le _) q2529 q2531 sp79 zM_rc ?_
      refine kX4_sign hA hT (by first | omega | (simp only [zuf_1, zua_s, zua_2, zuf_s, zua_e, zuf_e, Nat.reduceBEq]; omega)) (zK_i ?_)
      refine zr_bipush dX4_isNumber_15 rfl ?_
      refine zr_bipush dX4_isNumber_17 rfl ?_
      refine zc_s3 dX4_isNumber_19 hX4_isIn gX4_isIn rfl rfl 0 0 0 (by omega) (Nat.zero_le _) (Nat.zero_le _) q2196 q2197 ?_
      refine kX4_isIn (by first | omega | (simp only [zuf_1, zua_s, zua_2, zuf_s, zua_e, zuf_e, Nat.reduceBEq]; omega)) (by first | omega | (simp only [zuf_1, zua_s, zua_2, zuf_s, zua_e, zuf_e, Nat.reduceBEq]; omega)) (by first | omega | (simp only [zuf_1, zua_s, zua_2, zuf_s, zua_e, zuf_e, Nat.reduceBEq]; omega)) (zK_i ?_)
      refine zr_ifeqB dX4_isNumber_22 (tgt := 54) (by decide) (fun h22 => ?_) (fun h22 => ?_)
      · have ee := pNm_e (k := n + 1) (v := v) (fun z => by rw [h22] at z; cases z)
        rw [← g4, ee] at k
        refine zr_aload_n dX4_isNumber_54 rfl rfl ?_
        refine zm_geta 14 dX4_isNumber_55 q2133 rfl ?_
        try simp only [zuf_1, zua_s, zua_2, zuf_s, zuf_zuf, zua_zuf, zua_zua, zua_e, zuf_e, Nat.reduceBEq, pPs_13, pPs_14, pPs_15, pPs_16, pPs_17, pPs_a, pPs_h, pPs_m]
        refine zr_iload_n dX4_isNumber_58 rfl ?_
        refine zr_iload_n dX4_isNumber_59 rfl ?_
        refine zm_store hA (by decide) dX4_isNumber_60 (by constructor <;> (try simp only [zMn]) <;> omega) ?_
        try simp only [zuf_1, zua_s, zua_2, zuf_s, zuf_zuf, zua_zuf, zua_zua, zua_e, zuf_e, Nat.reduceBEq, pPs_13, pPs_14, pPs_15, pPs_16, pPs_17, pPs_a, pPs_h, pPs_m]
        refine zr_iload dX4_isNumber_61 rfl ?_
        refine zr_ifle dX4_isNumber_63 (tgt := 70) (by decide) (by omega) (fun h63 => ?_) (fun h63 => ?_)
        · refine zr_iconst dX4_isNumber_70 ?_
          refine zr_ireturn dX4_isNumber_71 rfl (by first | rfl | exact z_nb _) ?_
          exact zQi k (by first | (rw [decide_eq_true (by dsimp only; omega)]; rfl) | (rw [decide_eq_false (by dsimp only; omega)]; rfl))
        · refine zr_iconst dX4_isNumber_66 ?_
          refine zr_goto dX4_isNumber_67 (tgt := 71) (by decide) ?_
          refine zr_ireturn dX4_isNumber_71 rfl (by first | rfl | exact z_nb _) ?_
          exact zQi k (by first | (rw [decide_eq_true (by dsimp only; omega)]; rfl) | (rw [decide_eq_false (by dsimp only; omega)]; rfl))
      · refine zr_bipush dX4_isNumber_25 rfl ?_
        refine zr_iload_n dX4_isNumber_27 rfl ?_
        refine zr_imul dX4_isNumber_28 ?_
        refine zr_aload_n dX4_isNumber_29 rfl rfl ?_
        refine zc_v0 dX4_isNumber_30 hX4_sign gX4_sign rfl rfl 0 0 0 (by omega) (Nat.zero_le _) (Nat.zero_le _) q2529 q2531 sp79 zM_rc ?_
        refine kX4_sign hA hT (by first | omega | (simp only [zuf_1, zua_s, zua_2, zuf_s, zua_e, zuf_e, Nat.reduceBEq]; omega)) (zK_i ?_)
        refine zr_iadd dX4_isNumber_33 ?_
        refine zr_bipush dX4_isNumber_34 rfl ?_
        refine zr_isub dX4_isNumber_36 ?_
        have sl := pSg_l (t := S.1 13) (n := S.2 15) (h := h) rfl (by have := pIn_iff.mp h22; omega)
        have es := pNm_s (k := n) (v := v) h22
        refine zr_istore_n dX4_isNumber_37 (by decide) (zs5_3 rfl ?_)
        refine zr_aload_n dX4_isNumber_38 rfl rfl ?_
        refine zr_dup dX4_isNumber_39 rfl ?_
        refine zm_geti 16 dX4_isNumber_40 q2135 rfl ?_
        try simp only [zuf_1, zua_s, zua_2, zuf_s, zuf_zuf, zua_zuf, zua_zua, zua_e, zuf_e, Nat.reduceBEq, pPs_13, pPs_14, pPs_15, pPs_16, pPs_17, pPs_a, pPs_h, pPs_m]
        refine zr_iconst dX4_isNumber_43 ?_
        refine zr_iadd dX4_isNumber_44 ?_
        refine zm_put 16 dX4_isNumber_45 q2135 (by decide) ?_
        try simp only [zuf_1, zua_s, zua_2, zuf_s, zuf_zuf, zua_zuf, zua_zua, zua_e, zuf_e, Nat.reduceBEq, pPs_13, pPs_14, pPs_15, pPs_16, pPs_17, pPs_a, pPs_h, pPs_m]
        refine zr_iinc dX4_isNumber_48 rfl (by decide) (zs5_4 rfl ?_)
        refine zr_goto dX4_isNumber_51 (tgt := 5) (by decide) ?_
        rw [show h - h0 + 1 = h + 1 - h0 by omega]
        exact ih _ _ (by omega) (by omega) (by omega) (by rw [← es]; exact g4) k
theorem kX4_isNumber {G : State} {d rc rs : Nat} {ah : zH} {A : Nat → Nat} {S : zMS} {Q : zRs → zH → Prop} {a : Int} (hA : zMi A) (hd : 1 ≤ d) {h m : Int} {c : Int → Int} (hT : pTp (S.1 13) (S.2 15)) (hh : 0 ≤ h ∧ h ≤ S.2 15) {K : Nat} (hK : K ≤ 3) (ha : 0 ≤ a ∧ a < 124) (k1 : ∀ v h9, pNu (S.1 13) (S.2 15) K h = (some v, h9) → (0 ≤ v ∧ v ≤ 999 ∧ h < h9 ∧ h9 ≤ S.2 15) → Q (.inl (some (.int (zi 1)))) (zMh ah A (pPs S h9 (z_upF c a v) m))) (k0 : ∀ c9, pNu (S.1 13) (S.2 15) K h = (none, h) → Q (.inl (some (.int (zi 0)))) (zMh ah A (pPs S h c9 m))) : zW G mX4_isNumber d rc rs 0 (zent [.ref (A 18), .int (zi (K : Nat)), .int (zi a)]) [] (zMh ah A (pPs S h c m)) Q := by
  refine zW_open 2 [some (.ref (A 18)), some (.int (zi (K : Nat))), some (.int (zi a)), none, none] rfl ?_
  refine zr_iconst dX4_isNumber_0 ?_
  refine zr_istore_n dX4_isNumber_1 (by decide) (zs5_3 rfl ?_)
  refine zr_iconst dX4_isNumber_2 ?_
  refine zr_istore dX4_isNumber_3 (by decide) (zs5_4 rfl ?_)
  have b := pNm_h (t := S.1 13) (n := S.2 15) K 0 h
  have fin : Q (.inl (some (.int (zi (zB (decide (h < (pNm (S.1 13) (S.2 15) K 0 h).2)))))))  (zMh ah A (pPs S (pNm (S.1 13) (S.2 15) K 0 h).2 (z_upF c a (pNm (S.1 13) (S.2 15) K 0 h).1) m)) := by
    by_cases e : (pNm (S.1 13) (S.2 15) K 0 h).2 = h
    · rw [decide_eq_false (by omega), e]
      exact k0 _ (by unfold pNu; rw [if_pos e])
    · rw [decide_eq_true (by omega)]
      have e2 : pNu (S.1 13) (S.2 15) K h = (some (pNm (S.1 13) (S.2 15) K 0 h).1, (pNm (S.1 13) (S.2 15) K 0 h).2) := by unfold pNu; rw [if_neg e]
      exact k1 _ _ e2 (pNu_b hK e2 hh.2)
  have w := kX4_isNumberL (G := G) (rc := rc) (rs := rs) hA hd hK hT ha K 0 h (Int.le_refl _) (by omega) hh rfl fin
  rw [Int.sub_self] at w
  exact w
theorem kX4_isWordL {G : State} {d rc rs : Nat} {ah : zH} {A : Nat → Nat} {S : zMS} {Q : zRs → zH → Prop} (hA : zMi A) (hd : 4 ≤ d) {m h0 : Int} {a : Nat} {l : List Int} (hs : zStr G a l) (h8 : zL8 l) {c : Int → Int} (hT : pTp (S.1 13) (S.2 15)) (n : Nat) : ∀ (i : Nat) (h : Int), i + n = l.length → 0 ≤ h ∧ h ≤ S.2 15 → pLit (S.1 13) (S.2 15) (l.drop i) h = pLit (S.1 13) (S.2 15) l h0 → (∀ (x : Option Unit) (h9 : Int), pLit (S.1 13) (S.2 15) l h0 = (x, h9) → (0 ≤ h9 ∧ h9 ≤ S.2 15) → Q (.inl (some (.int (zi (match x with | some _ => 1 | none => 0))))) (zMh ah A (pPs S h9 c m))) → zW G mX4_isWord d rc rs 2 [some (.ref (A 18)), some (.ref a), some (.int (zi ((i : Nat) : Int)))] [] (zMh ah A (pPs S h c m)) Q := by
  induction n with
  | zero =>
    intro i h g1 g2 g3 k
    have hh := g2
    have hl := h8.1
    have hx : zTx G (zMh ah A (pPs S h c m)) a l := Or.inl hs
    refine zr_iload_n dX4_isWord_2 rfl ?_
    refine zr_aload_n dX4_isWord_3 rfl rfl ?_
    refine zc_v0 dX4_isWord_4 hJ7_length gJ7_length rfl rfl 1 0 0 (by omega) (Nat.zero_le _) (Nat.zero_le _) q2545 q556 q557 hx.rc ?_
    refine kJ7_length hx (by first | omega | (simp only [zuf_1, zua_s, zua_2, zuf_s, zua_e, zuf_e, Nat.reduceBEq]; omega)) (zK_i ?_)
    refine zr_icmpge dX4_isWord_7 (tgt := 30) (by decide) (by omega) (by omega) (fun h7 => ?_) (fun h7 => ?_)
    · refine zr_iconst dX4_isWord_30 ?_
      refine zr_ireturn dX4_isWord_31 rfl (by first | rfl | exact z_nb _) ?_
      rw [List.drop_of_length_le (by omega)] at g3
      exact k (some ()) h g3.symm g2
    · exfalso; omega
  | succ n ih =>
    intro i h g1 g2 g3 k
    have hh := g2
    have hl := h8.1
    have hx : zTx G (zMh ah A (pPs S h c m)) a l := Or.inl hs
    have li : l.drop i = l.getD i 0 :: l.drop (i + 1) := by
      rw [List.getD_eq_getElem?_getD, List.getElem?_eq_getElem (by omega)]
      exact List.drop_eq_getElem_cons (by omega)
    have lb := zBy_b h8 (i := (i : Int)) (by omega)
    rw [Int.toNat_natCast] at lb
    rw [li] at g3
    refine zr_iload_n dX4_isWord_2 rfl ?_
    refine zr_aload_n dX4_isWord_3 rfl rfl ?_
    refine zc_v0 dX4_isWord_4 hJ7_length gJ7_length rfl rfl 1 0 0 (by omega) (Nat.zero_le _) (Nat.zero_le _) q2545 q556 q557 hx.rc ?_
    refine kJ7_length hx (by first | omega | (simp only [zuf_1, zua_s, zua_2, zuf_s, zua_e, zuf_e, Nat.reduceBEq]; omega)) (zK_i ?_)
    refine zr_icmpge dX4_isWord_7 (tgt := 30) (by decide) (by omega) (by omega) (fun h7 => ?_) (fun h7 => ?_)
    · exfalso; omega
    · refine zr_aload_n dX4_isWord_10 rfl rfl ?_
      refine zr_aload_n dX4_isWord_11 rfl rfl ?_
      refine zr_iload_n dX4_isWord_12 rfl ?_
      refine zc_v1 dX4_isWord_13 hJ7_charAt gJ7_charAt rfl rfl 3 0 0 (by omega) (Nat.zero_le _) (Nat.zero_le _) q2546 q1895 q1896 hx.rc ?_
      refine kJ7_charAt hx h8 (by first | omega | (simp only [zuf_1, zua_s, zua_2, zuf_s, zua_e, zuf_e, Nat.reduceBEq]; omega)) (by first | omega | (simp only [zuf_1, zua_s, zua_2, zuf_s, zua_e, zuf_e, Nat.reduceBEq]; omega)) (zK_i ?_)
      rw [Int.toNat_natCast]
      refine zc_v1 dX4_isWord_16 hX4_isSign gX4_isSign rfl rfl 1 0 0 (by omega) (Nat.zero_le _) (Nat.zero_le _) q2547 q2549 sp82 zM_rc ?_
      refine kX4_isSign hA (by first | omega | (simp only [zuf_1, zua_s, zua_2, zuf_s, zua_e, zuf_e, Nat.reduceBEq]; omega)) hT (by first | omega | (simp only [zuf_1, zua_s, zua_2, zuf_s, zua_e, zuf_e, Nat.reduceBEq]; omega)) (by first | omega | (simp only [zuf_1, zua_s, zua_2, zuf_s, zua_e, zuf_e, Nat.reduceBEq]; omega)) (fun e16 l16 => zK_i ?_) (fun e16 => zK_i ?_)
      · try simp only [zuf_1, zua_s, zua_2, zuf_s, zuf_zuf, zua_zuf, zua_zua, zua_e, zuf_e, Nat.reduceBEq, pPs_13, pPs_14, pPs_15, pPs_16, pPs_17, pPs_a, pPs_h, pPs_m]
        refine zr_ifne dX4_isWord_19 (tgt := 24) (by decide) (by decide) (fun _ => ?_) (fun h => absurd h (by decide))
        refine zr_iinc dX4_isWord_24 rfl (by decide) (zs3_2 rfl ?_)
        refine zr_goto dX4_isWord_27 (tgt := 2) (by decide) ?_
        exact ih (i + 1) (h + 1) (by omega) (by omega) (by rw [← g3]; show _ = pB (pCh (S.1 13) (S.2 15) (l.getD i 0) h) (fun _ h => pLit (S.1 13) (S.2 15) (l.drop (i + 1)) h); rw [pB_s e16]) k
      · try simp only [zuf_1, zua_s, zua_2, zuf_s, zuf_zuf, zua_zuf, zua_zua, zua_e, zuf_e, Nat.reduceBEq, pPs_13, pPs_14, pPs_15, pPs_16, pPs_17, pPs_a, pPs_h, pPs_m]
        refine zr_ifne dX4_isWord_19 (tgt := 24) (by decide) (by decide) (fun h => absurd h (by decide)) (fun _ => ?_)
        have e : pLit (S.1 13) (S.2 15) l h0 = (none, h) := by rw [← g3]; exact pB_n e16
        refine zr_iconst dX4_isWord_22 ?_
        refine zr_ireturn dX4_isWord_23 rfl (by first | rfl | exact z_nb _) ?_
        exact k none h e g2
theorem kX4_isWord {G : State} {d rc rs : Nat} {ah : zH} {A : Nat → Nat} {S : zMS} {Q : zRs → zH → Prop} (hA : zMi A) (hd : 4 ≤ d) {h m : Int} {c : Int → Int} (hT : pTp (S.1 13) (S.2 15)) (hh : 0 ≤ h ∧ h ≤ S.2 15) {a : Nat} {l : List Int} (hs : zStr G a l) (h8 : zL8 l) (k1 : ∀ h9, pLit (S.1 13) (S.2 15) l h = (some (), h9) → (h ≤ h9 ∧ h9 ≤ S.2 15) → Q (.inl (some (.int (zi 1)))) (zMh ah A (pPs S h9 c m))) (k0 : ∀ h9, pLit (S.1 13) (S.2 15) l h = (none, h9) → (h ≤ h9 ∧ h9 ≤ S.2 15) → Q (.inl (some (.int (zi 0)))) (zMh ah A (pPs S h9 c m))) : zW G mX4_isWord d rc rs 0 (zent [.ref (A 18), .ref a]) [] (zMh ah A (pPs S h c m)) Q := by
  refine zW_open 1 [some (.ref (A 18)), some (.ref a), none] rfl ?_
  refine zr_iconst dX4_isWord_0 ?_
  refine zr_istore_n dX4_isWord_1 (by decide) (zs3_2 rfl ?_)
  refine kX4_isWordL hA hd hs h8 hT l.length 0 h (by omega) hh (by rw [List.drop_zero]) (fun x h9 e b0 => ?_)
  have b := pLit_b l e (fun c hc => (h8.2 c hc).1)
  replace b : h ≤ h9 ∧ h9 ≤ S.2 15 := ⟨b.1, b.2 hh.2⟩
  cases x with
  | none => exact k0 h9 e b
  | some u => exact k1 h9 e b
def pPair (t : Int → Int) (n mk h : Int) : pO (Int × Int) := pB (pNu t n 3 h) (fun x h => pB (pCh t n mk h) (fun _ h => pB (pNu t n 3 h) (fun y h => (some (x, y), h))))
def pMo (t : Int → Int) (n h : Int) : pO Int := if pSg t n h = 101 then (some 0, h + 1) else if pSg t n h = 110 then (some 1, h + 1) else if pSg t n h = 102 then (some 2, h + 1) else (none, h)
abbrev pI4 : Type := Int × Int × Int × Int
def pRT (t : Int → Int) (n h : Int) : pO pI4 := if pSg t n h = 114 then pB (pLit t n [97, 105, 108, 32] (h + 1)) (fun _ h => pB (pPair t n 45 h) (fun q h => pB (pCh t n 61 h) (fun _ h => pB (pNu t n 3 h) (fun z h => (some (116, q.1, q.2, z), h))))) else
  pB (pLit t n [111, 117, 114, 32] h) (fun _ h => pB (pPair t n 62 h) (fun q h => (some (111, q.1, q.2, 0), h)))
def pRC (t : Int → Int) (n h : Int) : pO pI4 := if pSg t n h = 117 then pB (pLit t n [116, 32] (h + 1)) (fun _ h => pB (pPair t n 45 h) (fun q h => (some (99, q.1, q.2, 0), h))) else
  pB (pLit t n [104, 97, 114, 103, 101, 32] h) (fun _ h => pB (pNu t n 3 h) (fun z h => (some (104, z, 0, 0), h)))
def pRM (t : Int → Int) (n h : Int) : pO pI4 := pB (pCh t n 111 h) (fun _ h => if pSg t n h = 100 then pB (pLit t n [101, 32] (h + 1)) (fun _ h => pB (pMo t n h) (fun z h => (some (109, z, 0, 0), h))) else
  pB (pLit t n [118, 101, 32] h) (fun _ h => pB (pPair t n 44 h) (fun q h => (some (118, q.1, q.2, 0), h))))
def pRP (t : Int → Int) (n h : Int) : pO pI4 := pB (pLit t n [111, 105, 110, 116, 32] h) (fun _ h => pB (pPair t n 44 h) (fun q h => pB (pCh t n 44 h) (fun _ h => pB (pNu t n 1 h) (fun z h => (some (112, q.1, q.2, z), h)))))
def pRL (t : Int → Int) (n h : Int) : pO pI4 := pB (pLit t n [105, 109, 105, 116, 32] h) (fun _ h => pB (pNu t n 3 h) (fun z h => (some (108, z, 0, 0), h)))
def pRS (t : Int → Int) (n h : Int) : pO pI4 := pB (pLit t n [116, 111, 112] h) (fun _ h => (some (115, 0, 0, 0), h))
def pRest' (t : Int → Int) (n f h : Int) : pO pI4 := if f = 112 then pRP t n h else if f = 116 then pRT t n h else if f = 99 then pRC t n h else if f = 109 then pRM t n h else if f = 108 then pRL t n h else pRS t n h
def pFst (f : Int) : Bool := decide (f = 112 ∨ f = 116 ∨ f = 99 ∨ f = 109 ∨ f = 108 ∨ f = 115)
def pCmd (t : Int → Int) (n h : Int) : pO pI4 := if pFst (pSg t n h) = true then pRest' t n (pSg t n h) (h + 1) else (none, h)
/-- the commands' cells tell this command -/
def pCr (c : Int → Int) (a : Int) (X : pI4) : Prop := c a = X.1 ∧ (X.1 ≠ 115 → c (a + 1) = X.2.1) ∧ (X.1 = 112 ∨ X.1 = 116 ∨ X.1 = 99 ∨ X.1 = 111 ∨ X.1 = 118 → c (a + 2) = X.2.2.1) ∧ (X.1 = 112 ∨ X.1 = 116 → c (a + 3) = X.2.2.2)
def pC9 (X : pI4) : Prop := (0 ≤ X.2.1 ∧ X.2.1 ≤ 999) ∧ (0 ≤ X.2.2.1 ∧ X.2.2.1 ≤ 999) ∧ (0 ≤ X.2.2.2 ∧ X.2.2.2 ≤ 999) ∧ (X.1 = 112 ∨ X.1 = 116 ∨ X.1 = 99 ∨ X.1 = 111 ∨ X.1 = 109 ∨ X.1 = 108 ∨ X.1 = 104 ∨ X.1 = 118 ∨ X.1 = 115)
theorem kX4_isPair {G : State} {d rc rs : Nat} {ah : zH} {A : Nat → Nat} {S : zMS} {Q : zRs → zH → Prop} {x a : Int} (hA : zMi A) (hd : 2 ≤ d) {h m : Int} {c : Int → Int} (hT : pTp (S.1 13) (S.2 15)) (hh : 0 ≤ h ∧ h ≤ S.2 15) (hx : 0 ≤ x ∧ x ≤ 65535) (ha : 0 ≤ a ∧ a + 3 < 124) (k1 : ∀ u v h9, pPair (S.1 13) (S.2 15) x h = (some (u, v), h9) → ((0 ≤ u ∧ u ≤ 999) ∧ (0 ≤ v ∧ v ≤ 999) ∧ h < h9 ∧ h9 ≤ S.2 15) → Q (.inl (some (.int (zi 1)))) (zMh ah A (pPs S h9 (z_upF (z_upF c (a + 1) u) (a + 2) v) m))) (k0 : ∀ h9 c9, pPair (S.1 13) (S.2 15) x h = (none, h9) → (0 ≤ h9 ∧ h9 ≤ S.2 15) → Q (.inl (some (.int (zi 0)))) (zMh ah A (pPs S h9 c9 m))) : zW G mX4_isPair d rc rs 0 (zent [.ref (A 18), .int (zi x), .int (zi a)]) [] (zMh ah A (pPs S h c m)) Q := by
  refine zW_open 0 [some (.ref (A 18)), some (.int (zi x)), some (.int (zi a))] rfl ?_
  refine zr_aload_n dX4_isPair_0 rfl rfl ?_
  refine zr_iconst dX4_isPair_1 ?_
  refine zr_iload_n dX4_isPair_2 rfl ?_
  refine zr_iconst dX4_isPair_3 ?_
  refine zr_iadd dX4_isPair_4 ?_
  refine zc_v2 dX4_isPair_5 hX4_isNumber gX4_isNumber rfl rfl 1 0 0 (by omega) (Nat.zero_le _) (Nat.zero_le _) q2555 q2557 sp84 zM_rc ?_
  refine kX4_isNumber (K := 3) hA (by first | omega | (simp only [zuf_1, zua_s, zua_2, zuf_s, zua_e, zuf_e, Nat.reduceBEq]; omega)) hT (by first | omega | (simp only [zuf_1, zua_s, zua_2, zuf_s, zua_e, zuf_e, Nat.reduceBEq]; omega)) (by first | omega | (simp only [zuf_1, zua_s, zua_2, zuf_s, zua_e, zuf_e, Nat.reduceBEq]; omega)) (by first | omega | (simp only [zuf_1, zua_s, zua_2, zuf_s, zua_e, zuf_e, Nat.reduceBEq]; omega)) (fun v5 p5 e5 b5 => zK_i ?_) (fun c5 e5 => zK_i ?_)
  · try simp only [zuf_1, zua_s, zua_2, zuf_s, zuf_zuf, zua_zuf, zua_zua, zua_e, zuf_e, Nat.reduceBEq, pPs_13, pPs_14, pPs_15, pPs_16, pPs_17, pPs_a, pPs_h, pPs_m]
    refine zr_ifeq dX4_isPair_8 (tgt := 34) (by decide) (by decide) (fun h => absurd h (by decide)) (fun _ => ?_)
    refine zr_aload_n dX4_isPair_11 rfl rfl ?_
    refine zr_iload_n dX4_isPair_12 rfl ?_
    refine zc_v1 dX4_isPair_13 hX4_isSign gX4_isSign rfl rfl 1 0 0 (by omega) (Nat.zero_le _) (Nat.zero_le _) q2547 q2549 sp82 zM_rc ?_
    refine kX4_isSign hA (by first | omega | (simp only [zuf_1, zua_s, zua_2, zuf_s, zua_e, zuf_e, Nat.reduceBEq]; omega)) hT (by first | omega | (simp only [zuf_1, zua_s, zua_2, zuf_s, zua_e, zuf_e, Nat.reduceBEq]; omega)) (by first | omega | (simp only [zuf_1, zua_s, zua_2, zuf_s, zua_e, zuf_e, Nat.reduceBEq]; omega)) (fun e13 l13 => zK_i ?_) (fun e13 => zK_i ?_)
    · try simp only [zuf_1, zua_s, zua_2, zuf_s, zuf_zuf, zua_zuf, zua_zua, zua_e, zuf_e, Nat.reduceBEq, pPs_13, pPs_14, pPs_15, pPs_16, pPs_17, pPs_a, pPs_h, pPs_m]
      refine zr_ifeq dX4_isPair_16 (tgt := 34) (by decide) (by decide) (fun h => absurd h (by decide)) (fun _ => ?_)
      refine zr_aload_n dX4_isPair_19 rfl rfl ?_
      refine zr_iconst dX4_isPair_20 ?_
      refine zr_iload_n dX4_isPair_21 rfl ?_
      refine zr_iconst dX4_isPair_22 ?_
      refine zr_iadd dX4_isPair_23 ?_
      refine zc_v2 dX4_isPair_24 hX4_isNumber gX4_isNumber rfl rfl 1 0 0 (by omega) (Nat.zero_le _) (Nat.zero_le _) q2555 q2557 sp84 zM_rc ?_
      refine kX4_isNumber (K := 3) hA (by first | omega | (simp only [zuf_1, zua_s, zua_2, zuf_s, zua_e, zuf_e, Nat.reduceBEq]; omega)) hT (by first | omega | (simp only [zuf_1, zua_s, zua_2, zuf_s, zua_e, zuf_e, Nat.reduceBEq]; omega)) (by first | omega | (simp only [zuf_1, zua_s, zua_2, zuf_s, zua_e, zuf_e, Nat.reduceBEq]; omega)) (by first | omega | (simp only [zuf_1, zua_s, zua_2, zuf_s, zua_e, zuf_e, Nat.reduceBEq]; omega)) (fun v24 p24 e24 b24 => zK_i ?_) (fun c24 e24 => zK_i ?_)
      · try simp only [zuf_1, zua_s, zua_2, zuf_s, zuf_zuf, zua_zuf, zua_zua, zua_e, zuf_e, Nat.reduceBEq, pPs_13, pPs_14, pPs_15, pPs_16, pPs_17, pPs_a, pPs_h, pPs_m]
        refine zr_ifeq dX4_isPair_27 (tgt := 34) (by decide) (by decide) (fun h => absurd h (by decide)) (fun _ => ?_)
        refine zr_iconst dX4_isPair_30 ?_
        refine zr_goto dX4_isPair_31 (tgt := 35) (by decide) ?_
        refine zr_ireturn dX4_isPair_35 rfl (by first | rfl | exact z_nb _) ?_
        exact k1 _ _ _ (by unfold pPair; rw [pB_s e5, pB_s e13, pB_s e24]) (by omega)
      · try simp only [zuf_1, zua_s, zua_2, zuf_s, zuf_zuf, zua_zuf, zua_zua, zua_e, zuf_e, Nat.reduceBEq, pPs_13, pPs_14, pPs_15, pPs_16, pPs_17, pPs_a, pPs_h, pPs_m]
        refine zr_ifeq dX4_isPair_27 (tgt := 34) (by decide) (by decide) (fun _ => ?_) (fun h => absurd h (by decide))
        refine zr_iconst dX4_isPair_34 ?_
        refine zr_ireturn dX4_isPair_35 rfl (by first | rfl | exact z_nb _) ?_
        exact k0 _ _ (by unfold pPair; rw [pB_s e5, pB_s e13]; exact pB_n e24) (by omega)
    · try simp only [zuf_1, zua_s, zua_2, zuf_s, zuf_zuf, zua_zuf, zua_zua, zua_e, zuf_e, Nat.reduceBEq, pPs_13, pPs_14, pPs_15, pPs_16, pPs_17, pPs_a, pPs_h, pPs_m]
      refine zr_ifeq dX4_isPair_16 (tgt := 34) (by decide) (by decide) (fun _ => ?_) (fun h => absurd h (by decide))
      refine zr_iconst dX4_isPair_34 ?_
      refine zr_ireturn dX4_isPair_35 rfl (by first | rfl | exact z_nb _) ?_
      exact k0 _ _ (by unfold pPair; rw [pB_s e5]; exact pB_n e13) (by omega)
  · try simp only [zuf_1, zua_s, zua_2, zuf_s, zuf_zuf, zua_zuf, zua_zua, zua_e, zuf_e, Nat.reduceBEq, pPs_13, pPs_14, pPs_15, pPs_16, pPs_17, pPs_a, pPs_h, pPs_m]
    refine zr_ifeq dX4_isPair_8 (tgt := 34) (by decide) (by decide) (fun _ => ?_) (fun h => absurd h (by decide))
    refine zr_iconst dX4_isPair_34 ?_
    refine zr_ireturn dX4_isPair_35 rfl (by first | rfl | exact z_nb _) ?_
    exact k0 _ _ (pB_n e5) (by omega)
