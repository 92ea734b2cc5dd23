set_option maxRecDepth 100000
/-! ===== the reference: distances, components, tours ===== -/
def pR (v : Int) : Prop := 0 ≤ v ∧ v < 12
/-- the distances of all waypoints from one; I stands for none -/
def pDist (I : Int) (s : Int → Int) (src : Int) (f : Int → Int) : Prop := f src = 0 ∧ (∀ v, pR v → 0 ≤ f v ∧ f v ≤ I) ∧ (∀ u v, pR u → pR v → 0 < pTr s u v → f v ≤ f u + pTr s u v) ∧ ∀ v, pR v → v ≠ src → f v < I → ∃ u, pR u ∧ 0 < pTr s u v ∧ f v = f u + pTr s u v
def pInv (I : Int) (s : Int → Int) (src : Int) (f : Int → Int) : Prop := f src = 0 ∧ (∀ v, pR v → 0 ≤ f v ∧ f v ≤ I) ∧ ∀ v, pR v → v ≠ src → f v < I → ∃ u, pR u ∧ 0 < pTr s u v ∧ f u + pTr s u v ≤ f v
theorem pInv.dist {I : Int} {s : Int → Int} {src : Int} {f : Int → Int} (h : pInv I s src f) (hr : ∀ u v, pR u → pR v → 0 < pTr s u v → f v ≤ f u + pTr s u v) : pDist I s src f := by
  refine ⟨h.1, h.2.1, hr, fun v hv hn hl => ?_⟩
  obtain ⟨u, h1, h2, h3⟩ := h.2.2 v hv hn hl
  have := hr u v h1 hv h2
  exact ⟨u, h1, h2, by omega⟩
/-- a shorter way -/
theorem pInv.less {I : Int} {s : Int → Int} {src : Int} {f : Int → Int} (h : pInv I s src f) {u v : Int} (hu : pR u) (hv : pR v) (ht : 0 < pTr s u v) (hl : f u + pTr s u v < f v) : pInv I s src (z_upF f v (f u + pTr s u v)) := by
  have hus := (h.2.1 u hu).1
  have hns : v ≠ src := fun e => by rw [e] at ht; rw [e, h.1] at hl; omega
  refine ⟨by rw [z_upF_n (fun e => hns e.symm)]; exact h.1, fun w hw => ?_, fun w hw hws hwl => ?_⟩
  · by_cases e : w = v
    · subst e; rw [z_upF_s]; have := (h.2.1 w hv).2; omega
    · rw [z_upF_n e]; exact h.2.1 w hw
  · have hz : ∀ z, z_upF f v (f u + pTr s u v) z ≤ f z := fun z => by
      by_cases e : z = v
      · subst e; rw [z_upF_s]; omega
      · rw [z_upF_n e]; exact Int.le_refl _
    by_cases e : w = v
    · subst e
      refine ⟨u, hu, ht, ?_⟩
      rw [z_upF_s]
      have := hz u
      omega
    · rw [z_upF_n e] at hwl ⊢
      obtain ⟨x, x1, x2, x3⟩ := h.2.2 w hw hws hwl
      have := hz x
      exact ⟨x, x1, x2, by omega⟩
theorem pSum_up (f : Int → Int) (i v : Int) : ∀ n : Nat, pSum n (fun k => z_upF f i v k) = pSum n (fun k => f k) + (if 0 ≤ i ∧ i < n then v - f i else 0) := by
  intro n
  induction n with
  | zero => rw [if_neg (by omega)]; rfl
  | succ n ih =>
    show pSum n (fun k => z_upF f i v k) + z_upF f i v n = pSum n (fun k => f k) + f n + _
    rw [ih]
    by_cases e : (n : Int) = i
    · subst e
      rw [z_upF_s, if_neg (by omega), if_pos (by omega)]
      omega
    · rw [z_upF_n e]
      by_cases h : 0 ≤ i ∧ i < n
      · rw [if_pos h, if_pos (by omega)]; omega
      · rw [if_neg h, if_neg (by omega)]; omega
theorem pSum_nn {f : Nat → Int} : ∀ n : Nat, (∀ i, i < n → 0 ≤ f i) → 0 ≤ pSum n f := by
  intro n
  induction n with
  | zero => intro _; exact Int.le_refl _
  | succ n ih =>
    intro h
    have := ih (fun i hi => h i (by omega))
    have := h n (by omega)
    unfold pSum
    omega
def pMu (f : Int → Int) : Nat := (pSum 12 (fun k => f k)).toNat
theorem pMu_up {f : Int → Int} {i v : Int} (hf : ∀ v, pR v → 0 ≤ f v) (hi : pR i) (hv : 0 ≤ v ∧ v < f i) : pMu (z_upF f i v) < pMu f := by
  have h1 := pSum_up f i v 12
  rw [if_pos ⟨hi.1, hi.2⟩] at h1
  have h2 := pSum_nn (f := fun k => z_upF f i v k) 12 (fun k hk => by
    by_cases e : (k : Int) = i
    · rw [e, z_upF_s]; exact hv.1
    · rw [z_upF_n e]; exact hf k ⟨by omega, by omega⟩)
  unfold pMu
  omega
def pIni (I src : Int) (g : Int → Int) (i : Int) : Int → Int := fun j => if 0 ≤ j ∧ j < i then (if j = src then 0 else I) else g j
theorem pIni_0 {I src : Int} {g : Int → Int} : pIni I src g 0 = g := by
  funext j
  unfold pIni
  rw [if_neg (by omega)]
theorem pIni_s {I src i : Int} {g : Int → Int} (hi : 0 ≤ i) : z_upF (pIni I src g i) i (if i = src then 0 else I) = pIni I src g (i + 1) := by
  funext j
  unfold pIni z_upF
  by_cases h : j = i
  · subst h; rw [if_pos rfl, if_pos (show 0 ≤ j ∧ j < j + 1 by omega)]
  · rw [if_neg h]
    dsimp only
    by_cases h2 : 0 ≤ j ∧ j < i
    · rw [if_pos h2, if_pos (show 0 ≤ j ∧ j < i + 1 by omega)]
    · rw [if_neg h2, if_neg (show ¬ (0 ≤ j ∧ j < i + 1) by omega)]
theorem pIni_inv {I src : Int} {s g : Int → Int} (hs : pR src) (hI : 0 ≤ I) : pInv I s src (pIni I src g 12) := by
  have h : ∀ v, pR v → pIni I src g 12 v = if v = src then 0 else I := fun v hv => by unfold pIni; rw [if_pos ⟨hv.1, hv.2⟩]
  refine ⟨by rw [h src hs, if_pos rfl], fun v hv => by rw [h v hv]; split <;> omega, fun v hv hn hl => ?_⟩
  rw [h v hv, if_neg hn] at hl
  omega
/-- the pairs before p don't shorten -/
def pRel (s f : Int → Int) (p : Int) : Prop := ∀ q, 0 ≤ q → q < p → 0 < pTr s (q / 12) (q % 12) → f (q % 12) ≤ f (q / 12) + pTr s (q / 12) (q % 12)
theorem pRel.all {s f : Int → Int} (h : pRel s f 144) : ∀ u v, pR u → pR v → 0 < pTr s u v → f v ≤ f u + pTr s u v := by
  intro u v hu hv ht
  obtain ⟨h1, h2⟩ := hu
  obtain ⟨h3, h4⟩ := hv
  have e1 : (12 * u + v) / 12 = u := by omega
  have e2 : (12 * u + v) % 12 = v := by omega
  have := h (12 * u + v) (by omega) (by omega)
  rw [e1, e2] at this
  exact this ht
theorem kX4_findsI {G : State} {d rc rs : Nat} {ah : zH} {A : Nat → Nat} {S : zMS} {Q : zRs → zH → Prop} (hA : zMi A) {src : Int} (hs : 0 ≤ src ∧ src < 12) (n : Nat) : ∀ (i : Int), 0 ≤ i → i + n = 12 → (∀ J : Option Value, zW G mX4_finds d rc rs 31 [some (.ref (A 18)), some (.int (zi src)), J, none, none, none, none] [] (zMh ah A (zua S 4 (pIni 99999 src (S.1 4) 12))) Q) → zW G mX4_finds d rc rs 2 [some (.ref (A 18)), some (.int (zi src)), some (.int (zi i)), none, none, none, none] [] (zMh ah A (zua S 4 (pIni 99999 src (S.1 4) i))) Q := by
  induction n with
  | zero =>
    intro i g1 g2 k
    refine zr_iload_n dX4_finds_2 rfl ?_
    refine zr_bipush dX4_finds_3 rfl ?_
    refine zr_icmpge dX4_finds_5 (tgt := 31) (by decide) (by omega) (by omega) (fun h5 => ?_) (fun h5 => ?_)
    · obtain rfl : i = 12 := by omega
      exact k _
    · exfalso; omega
  | succ n ih =>
    intro i g1 g2 k
    refine zr_iload_n dX4_finds_2 rfl ?_
    refine zr_bipush dX4_finds_3 rfl ?_
    refine zr_icmpge dX4_finds_5 (tgt := 31) (by decide) (by omega) (by omega) (fun h5 => ?_) (fun h5 => ?_)
    · exfalso; omega
    · refine zr_aload_n dX4_finds_8 rfl rfl ?_
      refine zm_geta 4 dX4_finds_9 q2123 rfl ?_
      try simp only [zuf_1, zua_s, zua_2, zuf_s, zuf_zuf, zua_zuf, zua_zua, zua_e, zuf_e, Nat.reduceBEq]
      refine zr_iload_n dX4_finds_12 rfl ?_
      refine zr_iload_n dX4_finds_13 rfl ?_
      refine zr_iload_n dX4_finds_14 rfl ?_
      refine zr_icmpne dX4_finds_15 (tgt := 22) (by decide) (by omega) (by omega) (fun h15 => ?_) (fun h15 => ?_)
      · refine zr_ldc dX4_finds_22 q2255 (n := 99999) rfl ?_
        refine zm_store hA (by decide) dX4_finds_24 (by constructor <;> (try simp only [zMn]) <;> omega) ?_
        try simp only [zuf_1, zua_s, zua_2, zuf_s, zuf_zuf, zua_zuf, zua_zua, zua_e, zuf_e, Nat.reduceBEq]
        have pe := pIni_s (I := 99999) (src := src) (g := S.1 4) g1
        first | rw [if_pos (by omega)] at pe | rw [if_neg (by omega)] at pe
        rw [pe]
        refine zr_iinc dX4_finds_25 rfl (by decide) (zs7_2 rfl ?_)
        refine zr_goto dX4_finds_28 (tgt := 2) (by decide) ?_
        exact ih (i + 1) (by omega) (by omega) k
      · refine zr_iconst dX4_finds_18 ?_
        refine zr_goto dX4_finds_19 (tgt := 24) (by decide) ?_
        refine zm_store hA (by decide) dX4_finds_24 (by constructor <;> (try simp only [zMn]) <;> omega) ?_
        try simp only [zuf_1, zua_s, zua_2, zuf_s, zuf_zuf, zua_zuf, zua_zua, zua_e, zuf_e, Nat.reduceBEq]
        have pe := pIni_s (I := 99999) (src := src) (g := S.1 4) g1
        first | rw [if_pos (by omega)] at pe | rw [if_neg (by omega)] at pe
        rw [pe]
        refine zr_iinc dX4_finds_25 rfl (by decide) (zs7_2 rfl ?_)
        refine zr_goto dX4_finds_28 (tgt := 2) (by decide) ?_
        exact ih (i + 1) (by omega) (by omega) k
theorem kX4_findsP {G : State} {d rc rs : Nat} {ah : zH} {A : Nat → Nat} {S : zMS} {Q : zRs → zH → Prop} (hA : zMi A) (hd : 1 ≤ d) {src : Int} (hs : 0 ≤ src ∧ src < 12) {f0 : Int → Int} (hV : pV (S.1 0)) (n : Nat) : ∀ (p b : Int) (f : Int → Int) (J4 J5 J6 : Option Value), 0 ≤ p → p + n = 144 → (b = 0 ∨ b = 1) → pInv 99999 (S.1 0) src f → (b = 0 → f = f0 ∧ pRel (S.1 0) f p) → (b = 1 → pMu f < pMu f0) → (∀ (b : Int) (f : Int → Int) (J3 J4 J5 J6 : Option Value), (b = 0 ∨ b = 1) → pInv 99999 (S.1 0) src f → (b = 0 → pRel (S.1 0) f 144) → (b = 1 → pMu f < pMu f0) → zW G mX4_finds d rc rs 140 [some (.ref (A 18)), some (.int (zi src)), some (.int (zi b)), J3, J4, J5, J6] [] (zMh ah A (zua S 4 f)) Q) → zW G mX4_finds d rc rs 41 [some (.ref (A 18)), some (.int (zi src)), some (.int (zi b)), some (.int (zi p)), J4, J5, J6] [] (zMh ah A (zua S 4 f)) Q := by
  induction n with
  | zero =>
    intro p b f J4 J5 J6 g1 g2 g3 g4 g5 g6 k
    refine zr_iload_n dX4_finds_41 rfl ?_
    refine zr_sipush dX4_finds_42 rfl ?_
    refine zr_icmpge dX4_finds_45 (tgt := 140) (by decide) (by omega) (by omega) (fun h45 => ?_) (fun h45 => ?_)
    · obtain rfl : p = 144 := by omega
      exact k b f _ _ _ _ g3 g4 (fun h => (g5 h).2) g6
    · exfalso; omega
  | succ n ih =>
    intro p b f J4 J5 J6 g1 g2 g3 g4 g5 g6 k
    have f1 := g4.2.1 (p / 12) ⟨by omega, by omega⟩
    have f2 := g4.2.1 (p % 12) ⟨by omega, by omega⟩
    refine zr_iload_n dX4_finds_41 rfl ?_
    refine zr_sipush dX4_finds_42 rfl ?_
    refine zr_icmpge dX4_finds_45 (tgt := 140) (by decide) (by omega) (by omega) (fun h45 => ?_) (fun h45 => ?_)
    · exfalso; omega
    · refine zr_iload_n dX4_finds_48 rfl ?_
      refine zr_bipush dX4_finds_49 rfl ?_
      refine zr_idiv dX4_finds_51 (by omega) (by omega) ?_
      refine zr_istore dX4_finds_52 (by decide) (zs7_4 rfl ?_)
      refine zr_iload_n dX4_finds_54 rfl ?_
      refine zr_bipush dX4_finds_55 rfl ?_
      refine zr_irem dX4_finds_57 (by omega) (by omega) ?_
      refine zr_istore dX4_finds_58 (by decide) (zs7_5 rfl ?_)
      refine zr_aload_n dX4_finds_60 rfl rfl ?_
      refine zr_iload dX4_finds_61 rfl ?_
      refine zr_iload dX4_finds_63 rfl ?_
      refine zc_v2 dX4_finds_65 hX4_trail gX4_trail rfl rfl 0 0 0 (by omega) (Nat.zero_le _) (Nat.zero_le _) q2219 q2221 sp49 zM_rc ?_
      refine kX4_trail hA hV (by first | omega | (simp only [zuf_1, zua_s, zua_2, zuf_s, zua_e, zuf_e, Nat.reduceBEq]; omega)) (by first | omega | (simp only [zuf_1, zua_s, zua_2, zuf_s, zua_e, zuf_e, Nat.reduceBEq]; omega)) (fun t65 => zK_i ?_)
      try simp only [zuf_1, zua_s, zua_2, zuf_s, zuf_zuf, zua_zuf, zua_zua, zua_e, zuf_e, Nat.reduceBEq] at t65 ⊢
      refine zr_ifle dX4_finds_68 (tgt := 101) (by decide) (by omega) (fun h68 => ?_) (fun h68 => ?_)
      · refine zr_iconst dX4_finds_101 ?_
        refine zr_istore dX4_finds_102 (by decide) (zs7_6 rfl ?_)
        refine zr_iload dX4_finds_104 rfl ?_
        refine zr_ifeq dX4_finds_106 (tgt := 134) (by decide) (by decide) (fun _ => ?_) (fun h => absurd h (by decide))
        refine zr_iinc dX4_finds_134 rfl (by decide) (zs7_3 rfl ?_)
        refine zr_goto dX4_finds_137 (tgt := 41) (by decide) ?_
        refine ih (p + 1) b f _ _ _ (by omega) (by omega) g3 g4 (fun h => ⟨(g5 h).1, fun z z1 z2 z3 => ?_⟩) g6 k
        by_cases e : z < p
        · exact (g5 h).2 z z1 e z3
        · obtain rfl : z = p := by omega
          omega
      · refine zr_aload_n dX4_finds_71 rfl rfl ?_
        refine zm_geta 4 dX4_finds_72 q2123 rfl ?_
        try simp only [zuf_1, zua_s, zua_2, zuf_s, zuf_zuf, zua_zuf, zua_zua, zua_e, zuf_e, Nat.reduceBEq]
        refine zr_iload dX4_finds_75 rfl ?_
        refine zm_load hA (by decide) dX4_finds_77 (by constructor <;> (try simp only [zMn]) <;> omega) ?_
        try simp only [zuf_1, zua_s, zua_2, zuf_s, zuf_zuf, zua_zuf, zua_zua, zua_e, zuf_e, Nat.reduceBEq]
        refine zr_aload_n dX4_finds_78 rfl rfl ?_
        refine zr_iload dX4_finds_79 rfl ?_
        refine zr_iload dX4_finds_81 rfl ?_
        refine zc_v2 dX4_finds_83 hX4_trail gX4_trail rfl rfl 0 0 0 (by omega) (Nat.zero_le _) (Nat.zero_le _) q2219 q2221 sp49 zM_rc ?_
        refine kX4_trail hA hV (by first | omega | (simp only [zuf_1, zua_s, zua_2, zuf_s, zua_e, zuf_e, Nat.reduceBEq]; omega)) (by first | omega | (simp only [zuf_1, zua_s, zua_2, zuf_s, zua_e, zuf_e, Nat.reduceBEq]; omega)) (fun t83 => zK_i ?_)
        try simp only [zuf_1, zua_s, zua_2, zuf_s, zuf_zuf, zua_zuf, zua_zua, zua_e, zuf_e, Nat.reduceBEq] at t83 ⊢
        refine zr_iadd dX4_finds_86 ?_
        refine zr_aload_n dX4_finds_87 rfl rfl ?_
        refine zm_geta 4 dX4_finds_88 q2123 rfl ?_
        try simp only [zuf_1, zua_s, zua_2, zuf_s, zuf_zuf, zua_zuf, zua_zua, zua_e, zuf_e, Nat.reduceBEq]
        refine zr_iload dX4_finds_91 rfl ?_
        refine zm_load hA (by decide) dX4_finds_93 (by constructor <;> (try simp only [zMn]) <;> omega) ?_
        try simp only [zuf_1, zua_s, zua_2, zuf_s, zuf_zuf, zua_zuf, zua_zua, zua_e, zuf_e, Nat.reduceBEq]
        refine zr_icmpge dX4_finds_94 (tgt := 101) (by decide) (by omega) (by omega) (fun h94 => ?_) (fun h94 => ?_)
        · refine zr_iconst dX4_finds_101 ?_
          refine zr_istore dX4_finds_102 (by decide) (zs7_6 rfl ?_)
          refine zr_iload dX4_finds_104 rfl ?_
          refine zr_ifeq dX4_finds_106 (tgt := 134) (by decide) (by decide) (fun _ => ?_) (fun h => absurd h (by decide))
          refine zr_iinc dX4_finds_134 rfl (by decide) (zs7_3 rfl ?_)
          refine zr_goto dX4_finds_137 (tgt := 41) (by decide) ?_
          refine ih (p + 1) b f _ _ _ (by omega) (by omega) g3 g4 (fun h => ⟨(g5 h).1, fun z z1 z2 z3 => ?_⟩) g6 k
          by_cases e : z < p
          · exact (g5 h).2 z z1 e z3
          · obtain rfl : z = p := by omega
            omega
        · refine zr_iconst dX4_finds_97 ?_
          refine zr_goto dX4_finds_98 (tgt := 102) (by decide) ?_
          refine zr_istore dX4_finds_102 (by decide) (zs7_6 rfl ?_)
          refine zr_iload dX4_finds_104 rfl ?_
          refine zr_ifeq dX4_finds_106 (tgt := 134) (by decide) (by decide) (fun h => absurd h (by decide)) (fun _ => ?_)
          refine zr_aload_n dX4_finds_109 rfl rfl ?_
          refine zm_geta 4 dX4_finds_110 q2123 rfl ?_
          try simp only [zuf_1, zua_s, zua_2, zuf_s, zuf_zuf, zua_zuf, zua_zua, zua_e, zuf_e, Nat.reduceBEq]
          refine zr_iload dX4_finds_113 rfl ?_
          refine zr_aload_n dX4_finds_115 rfl rfl ?_
          refine zm_geta 4 dX4_finds_116 q2123 rfl ?_
          try simp only [zuf_1, zua_s, zua_2, zuf_s, zuf_zuf, zua_zuf, zua_zua, zua_e, zuf_e, Nat.reduceBEq]
          refine zr_iload dX4_finds_119 rfl ?_
          refine zm_load hA (by decide) dX4_finds_121 (by constructor <;> (try simp only [zMn]) <;> omega) ?_
          try simp only [zuf_1, zua_s, zua_2, zuf_s, zuf_zuf, zua_zuf, zua_zua, zua_e, zuf_e, Nat.reduceBEq]
          refine zr_aload_n dX4_finds_122 rfl rfl ?_
          refine zr_iload dX4_finds_123 rfl ?_
          refine zr_iload dX4_finds_125 rfl ?_
          refine zc_v2 dX4_finds_127 hX4_trail gX4_trail rfl rfl 0 0 0 (by omega) (Nat.zero_le _) (Nat.zero_le _) q2219 q2221 sp49 zM_rc ?_
          refine kX4_trail hA hV (by first | omega | (simp only [zuf_1, zua_s, zua_2, zuf_s, zua_e, zuf_e, Nat.reduceBEq]; omega)) (by first | omega | (simp only [zuf_1, zua_s, zua_2, zuf_s, zua_e, zuf_e, Nat.reduceBEq]; omega)) (fun t127 => zK_i ?_)
          try simp only [zuf_1, zua_s, zua_2, zuf_s, zuf_zuf, zua_zuf, zua_zua, zua_e, zuf_e, Nat.reduceBEq] at t127 ⊢
          refine zr_iadd dX4_finds_130 ?_
          refine zm_store hA (by decide) dX4_finds_131 (by constructor <;> (try simp only [zMn]) <;> omega) ?_
          try simp only [zuf_1, zua_s, zua_2, zuf_s, zuf_zuf, zua_zuf, zua_zua, zua_e, zuf_e, Nat.reduceBEq]
          refine zr_iconst dX4_finds_132 ?_
          refine zr_istore_n dX4_finds_133 (by decide) (zs7_2 rfl ?_)
          refine zr_iinc dX4_finds_134 rfl (by decide) (zs7_3 rfl ?_)
          refine zr_goto dX4_finds_137 (tgt := 41) (by decide) ?_
          refine ih (p + 1) _ _ _ _ _ (by omega) (by omega) (Or.inr rfl) (g4.less ⟨by omega, by omega⟩ ⟨by omega, by omega⟩ (by omega) (by omega)) (fun h => absurd h (by decide)) (fun _ => ?_) k
          have m1 := pMu_up (f := f) (i := p % 12) (v := f (p / 12) + pTr (S.1 0) (p / 12) (p % 12)) (fun v hv => (g4.2.1 v hv).1) ⟨by omega, by omega⟩ (by omega)
          rcases g3 with e | e
          · rw [(g5 e).1] at m1 ⊢; exact m1
          · exact Nat.lt_trans m1 (g6 e)
theorem kX4_findsO {G : State} {d rc rs : Nat} {ah : zH} {A : Nat → Nat} {S : zMS} {Q : zRs → zH → Prop} (hA : zMi A) (hd : 1 ≤ d) {src : Int} (hs : 0 ≤ src ∧ src < 12) (hV : pV (S.1 0)) (k : ∀ f, pDist 99999 (S.1 0) src f → Q (.inl none) (zMh ah A (zua S 4 f))) : ∀ (n : Nat) (b : Int) (f : Int → Int) (J3 J4 J5 J6 : Option Value), (b = 0 ∨ b = 1) → pInv 99999 (S.1 0) src f → (b = 0 → pRel (S.1 0) f 144) → (b = 1 → pMu f < n) →
    zW G mX4_finds d rc rs 33 [some (.ref (A 18)), some (.int (zi src)), some (.int (zi b)), J3, J4, J5, J6] [] (zMh ah A (zua S 4 f)) Q := by
  intro n
  induction n with
  | zero =>
    intro b f J3 J4 J5 J6 g1 g2 g3 g4
    refine zr_iload_n dX4_finds_33 rfl ?_
    refine zr_ifeq dX4_finds_34 (tgt := 143) (by decide) (by omega) (fun h34 => ?_) (fun h34 => ?_)
    · refine zr_return dX4_finds_143 rfl ?_
      exact k f (g2.dist (g3 (by omega)).all)
    · have := g4 (by omega); omega
  | succ n ih =>
    intro b f J3 J4 J5 J6 g1 g2 g3 g4
    refine zr_iload_n dX4_finds_33 rfl ?_
    refine zr_ifeq dX4_finds_34 (tgt := 143) (by decide) (by omega) (fun h34 => ?_) (fun h34 => ?_)
    · refine zr_return dX4_finds_143 rfl ?_
      exact k f (g2.dist (g3 (by omega)).all)
    · refine zr_iconst dX4_finds_37 ?_
      refine zr_istore_n dX4_finds_38 (by decide) (zs7_2 rfl ?_)
      refine zr_iconst dX4_finds_39 ?_
      refine zr_istore_n dX4_finds_40 (by decide) (zs7_3 rfl ?_)
      refine kX4_findsP hA hd hs (f0 := f) hV 144 0 0 f _ _ _ (by omega) (by omega) (Or.inl rfl) g2 (fun _ => ⟨rfl, fun q q1 q2 => absurd q2 (by omega)⟩) (fun h => absurd h (by decide)) (fun b f9 I3 I4 I5 I6 e1 e2 e3 e4 => ?_)
      refine zr_goto dX4_finds_140 (tgt := 33) (by decide) ?_
      have := g4 (by omega)
      exact ih b f9 _ _ _ _ e1 e2 e3 (fun h => by have := e4 h; omega)
theorem kX4_finds {G : State} {d rc rs : Nat} {ah : zH} {A : Nat → Nat} {S : zMS} {Q : zRs → zH → Prop} {src : Int} (hA : zMi A) (hd : 1 ≤ d) (hV : pV (S.1 0)) (hs : 0 ≤ src ∧ src < 12) (k : ∀ f, pDist 99999 (S.1 0) src f → Q (.inl none) (zMh ah A (zua S 4 f))) : zW G mX4_finds d rc rs 0 (zent [.ref (A 18), .int (zi src)]) [] (zMh ah A S) Q := by
  refine zW_open 5 [some (.ref (A 18)), some (.int (zi src)), none, none, none, none, none] rfl ?_
  refine zr_iconst dX4_finds_0 ?_
  refine zr_istore_n dX4_finds_1 (by decide) (zs7_2 rfl ?_)
  rw [show zMh ah A S = zMh ah A (zua S 4 (pIni 99999 src (S.1 4) 0)) by rw [pIni_0, zua_self]]
  refine kX4_findsI hA hs 12 0 (by omega) (by omega) (fun J => ?_)
  refine zr_iconst dX4_finds_31 ?_
  refine zr_istore_n dX4_finds_32 (by decide) (zs7_2 rfl ?_)
  exact kX4_findsO hA (by omega) hs hV k (pMu (pIni 99999 src (S.1 4) 12) + 1) 1 _ _ _ _ _ (Or.inr rfl) (pIni_inv ⟨hs.1, hs.2⟩ (by decide)) (fun h => absurd h (by decide)) (fun _ => by omega)
