set_option maxRecDepth 100000
/-! ===== the reference: a tour begins ===== -/
/-- what the trails always keep: alike both ways, among the waypoints there are -/
def pSy (s : Int → Int) : Prop := ∀ a b, pR a → pR b → pTr s a b = pTr s b a ∧ (0 < pTr s a b → a < s 0 ∧ b < s 0 ∧ a ≠ b)
def pFoN (s f : Int → Int) (p : Int) : Nat → Int → Int
  | 0, _ => p
  | k + 1, n => if 0 < pTr s p n ∧ pTr s p n + f n = f p then n else pFoN s f p k (n + 1)
/-- the next waypoint of a shortest way -/
def pFo (s f : Int → Int) (p : Int) : Int := pFoN s f p (s 0).toNat 0
theorem pFoN_c {s f g : Int → Int} {p : Int} (hp : f p = g p) : ∀ (k : Nat) (n : Int), (∀ j, n ≤ j → j < n + k → (0 < pTr s p j → (pTr s p j + f j = f p ↔ pTr s p j + g j = g p))) → pFoN s f p k n = pFoN s g p k n := by
  intro k
  induction k with
  | zero => intro n _; rfl
  | succ k ih =>
    intro n h
    unfold pFoN
    rw [ih (n + 1) (fun j h1 h2 => h j (by omega) (by omega))]
    have h0 := h n (Int.le_refl _) (by omega)
    by_cases e : 0 < pTr s p n
    · by_cases e2 : pTr s p n + f n = f p
      · rw [if_pos ⟨e, e2⟩, if_pos ⟨e, (h0 e).mp e2⟩]
      · rw [if_neg (fun z => e2 z.2), if_neg (fun z => e2 ((h0 e).mpr z.2))]
    · rw [if_neg (fun z => e z.1), if_neg (fun z => e z.1)]
theorem pFoN_f {s f : Int → Int} {p : Int} : ∀ (k : Nat) (n : Int), 0 ≤ n → (∃ j, n ≤ j ∧ j < n + k ∧ 0 < pTr s p j ∧ pTr s p j + f j = f p) → n ≤ pFoN s f p k n ∧ pFoN s f p k n < n + k ∧ 0 < pTr s p (pFoN s f p k n) ∧ pTr s p (pFoN s f p k n) + f (pFoN s f p k n) = f p := by
  intro k
  induction k with
  | zero => intro n _ ⟨j, h1, h2, _⟩; omega
  | succ k ih =>
    intro n hn ⟨j, h1, h2, h3, h4⟩
    unfold pFoN
    by_cases e : 0 < pTr s p n ∧ pTr s p n + f n = f p
    · rw [if_pos e]; exact ⟨Int.le_refl _, by omega, e.1, e.2⟩
    · rw [if_neg e]
      have hj : j ≠ n := fun z => e (by rw [← z]; exact ⟨h3, h4⟩)
      have := ih (n + 1) (by omega) ⟨j, by omega, by omega, h3, h4⟩
      exact ⟨by omega, by omega, this.2.2⟩
theorem pFo_ok {I : Int} {s f : Int → Int} {src p : Int} (hV : pV s) (hY : pSy s) (hd : pDist I s src f) (hp : pR p) (hn : p ≠ src) (hl : f p < I) : pR (pFo s f p) ∧ pFo s f p < s 0 ∧ 0 < pTr s p (pFo s f p) ∧ pTr s p (pFo s f p) + f (pFo s f p) = f p := by
  obtain ⟨u, h1, h2, h3⟩ := hd.2.2.2 p hp hn hl
  have hy := hY u p h1 hp
  have hu := hy.2 h2
  have v := hV.h
  have := pFoN_f (s := s) (f := f) (p := p) (s 0).toNat 0 (Int.le_refl _) ⟨u, h1.1, by omega, by rw [← hy.1]; exact h2, by rw [← hy.1]; omega⟩
  exact ⟨⟨this.1, by unfold pFo; omega⟩, by unfold pFo; omega, this.2.2⟩
def pPath (s f : Int → Int) (to : Int) : Nat → Int → List Int
  | 0, p => [p]
  | k + 1, p => if p = to then [p] else p :: pPath s f to k (pFo s f p)
/-- how many are nearer -/
def pRk (f : Int → Int) (p : Int) : Int := pSum 12 (fun u => if f u < f p then 1 else 0)
theorem pSum_le {f g : Nat → Int} : ∀ n : Nat, (∀ i, i < n → f i ≤ g i) → pSum n f ≤ pSum n g := by
  intro n
  induction n with
  | zero => intro _; exact Int.le_refl _
  | succ n ih =>
    intro h
    have := ih (fun i hi => h i (by omega))
    have := h n (by omega)
    unfold pSum
    omega
theorem pSum_lt {f g : Nat → Int} : ∀ n : Nat, (∀ i, i < n → f i ≤ g i) → (∃ i, i < n ∧ f i < g i) → pSum n f < pSum n g := by
  intro n
  induction n with
  | zero => intro _ ⟨i, h, _⟩; omega
  | succ n ih =>
    intro h ⟨i, h1, h2⟩
    have a := pSum_le n (fun i hi => h i (by omega))
    have b := h n (by omega)
    unfold pSum
    by_cases e : i = n
    · subst e; omega
    · have := ih (fun i hi => h i (by omega)) ⟨i, by omega, h2⟩
      omega
theorem pDist.pos {I : Int} {s : Int → Int} {src : Int} {f : Int → Int} (h : pDist I s src f) {p : Int} (hp : pR p) (hn : p ≠ src) (hl : f p < I) : 0 < f p := by
  obtain ⟨u, u1, u2, u3⟩ := h.2.2.2 p hp hn hl
  have := h.2.1 u u1
  omega
theorem pRk_lt {f : Int → Int} {p q : Int} (hq : pR q) (h : f q < f p) : pRk f q < pRk f p := by
  unfold pRk
  refine pSum_lt 12 (fun i _ => ?_) ⟨q.toNat, by have := hq.2; have := hq.1; omega, ?_⟩
  · try dsimp only
    by_cases e : f i < f q
    · rw [if_pos e, if_pos (by omega)]; exact Int.le_refl _
    · rw [if_neg e]; split <;> omega
  · have : ((q.toNat : Nat) : Int) = q := by have := hq.1; omega
    try dsimp only
    rw [this, if_neg (by omega), if_pos h]
    decide
theorem pSum_const (c : Int) : ∀ n : Nat, pSum n (fun _ => c) = c * n := by
  intro n
  induction n with
  | zero => simp [pSum]
  | succ n ih =>
    unfold pSum
    rw [ih, Int.natCast_add, Int.mul_add]
    simp
theorem pRk_b {f : Int → Int} {p : Int} (hp : pR p) : 0 ≤ pRk f p ∧ pRk f p < 12 := by
  have h1 := pSum_nn (f := fun u : Nat => if f u < f p then (1 : Int) else 0) 12 (fun i _ => by (try dsimp only); split <;> omega)
  have h2 : pRk f p < pSum 12 (fun _ => 1) := by
    unfold pRk
    refine pSum_lt 12 (fun i _ => by (try dsimp only); split <;> omega) ⟨p.toNat, by have := hp.1; have := hp.2; omega, ?_⟩
    have : ((p.toNat : Nat) : Int) = p := by have := hp.1; omega
    try dsimp only
    rw [this, if_neg (by omega)]
    decide
  rw [pSum_const] at h2
  unfold pRk at h2 ⊢
  omega
/-- a list of waypoints written as the route -/
def pWr (s : Int → Int) (l : List Int) : Int → Int := fun j => if 192 ≤ j ∧ j < 192 + l.length then l.getD (j - 192).toNat 0 else s j
theorem z_upF_o {g : Int → Int} {i u v : Int} : z_upF (z_upF g i u) i v = z_upF g i v := by
  funext j
  unfold z_upF
  by_cases h : j = i <;> simp [h]
theorem z_upF_c {g : Int → Int} {i j u v : Int} (h : i ≠ j) : z_upF (z_upF g i u) j v = z_upF (z_upF g j v) i u := by
  funext k
  unfold z_upF
  by_cases h1 : k = j
  · subst h1
    rw [if_pos rfl, if_neg (fun z => h z.symm)]
    try dsimp only
    rw [if_pos rfl]
  · rw [if_neg h1]
    try dsimp only
    by_cases h2 : k = i
    · rw [if_pos h2, if_pos h2]
    · rw [if_neg h2, if_neg h2, if_neg h1]
theorem pWr_1 {s : Int → Int} {p : Int} : z_upF s 192 p = pWr s [p] := by
  funext j
  unfold pWr z_upF
  by_cases h : j = 192
  · subst h; rw [if_pos rfl, if_pos (by simp)]; rfl
  · rw [if_neg h, if_neg (by simp; omega)]
theorem pWr_s {s : Int → Int} {l : List Int} {p : Int} : z_upF (pWr s l) (192 + l.length) p = pWr s (l ++ [p]) := by
  funext j
  unfold pWr z_upF
  by_cases h : j = 192 + l.length
  · subst h
    rw [if_pos rfl, if_pos (by simp; omega)]
    rw [show (192 + (l.length : Int) - 192).toNat = l.length by omega]
    simp
  · rw [if_neg h]
    dsimp only
    by_cases h2 : 192 ≤ j ∧ j < 192 + l.length
    · rw [if_pos h2, if_pos (by simp; omega)]
      simp only [List.getD_eq_getElem?_getD]
      rw [List.getElem?_append_left (by omega)]
    · rw [if_neg h2, if_neg (by simp; omega)]
theorem pWr_n {s : Int → Int} {l : List Int} {j : Int} (h : j < 192) : pWr s l j = s j := by unfold pWr; rw [if_neg (by omega)]
/-- the row of a tour begun -/
def pTo (s : Int → Int) (l : List Int) (x y : Int) : Int → Int := z_upF (z_upF (z_upF (z_upF (z_upF (pWr s l) 1 l.length) 2 1) 3 x) 4 y) 5 0
noncomputable def pRoute (s : Int → Int) (a b : Int) : List Int := pPath s (pFr 99999 s b) b 12 a
noncomputable def pTour (s : Int → Int) (a b : Int) : Int × Int × (Int → Int) := if ¬ (pPt s a = true ∧ pPt s b = true) then (1, 0, s) else if a = b then (2, 0, s) else if 0 < s 1 then (3, 0, s) else if 99999 ≤ pFr 99999 s b a then (4, 0, s) else
  (0, (pRoute s a b).length, pTo s (pRoute s a b) (pOf s a 0) (pOf s a 1))
theorem pTour_t {s : Int → Int} {a b : Int} : 0 ≤ (pTour s a b).1 ∧ (pTour s a b).1 ≤ 4 := by
  unfold pTour
  (repeat' split) <;> (dsimp only; omega)
theorem pPath_c {I : Int} {s f g : Int → Int} {to : Int} (hV : pV s) (hY : pSy s) (ht : pR to) (hf : pDist I s to f) (hg : ∀ v, pR v → f v = g v) : ∀ (k : Nat) (p : Int), pR p → f p < I → pPath s f to k p = pPath s g to k p := by
  intro k
  induction k with
  | zero => intro p _ _; rfl
  | succ k ih =>
    intro p hp hl
    unfold pPath
    by_cases e : p = to
    · rw [if_pos e, if_pos e]
    · rw [if_neg e, if_neg e]
      have v := hV.h
      have hc : pFo s f p = pFo s g p := pFoN_c (hg p hp) _ _ (fun j h1 h2 _ => by rw [hg p hp, hg j ⟨h1, by omega⟩])
      have ok := pFo_ok hV hY hf hp e hl
      rw [ih _ ok.1 (by omega), hc]
theorem pPath_ne {s f : Int → Int} {to : Int} : ∀ (k : Nat) (p : Int), 1 ≤ (pPath s f to k p).length := by
  intro k p
  cases k with
  | zero => exact Nat.le_refl _
  | succ k =>
    unfold pPath
    split
    · exact Nat.le_refl _
    · simp
theorem pPath_len {s f : Int → Int} {to : Int} : ∀ (k : Nat) (p : Int), (pPath s f to k p).length ≤ k + 1 := by
  intro k
  induction k with
  | zero => intro p; exact Nat.le_refl _
  | succ k ih =>
    intro p
    unfold pPath
    split
    · simp
    · have := ih (pFo s f p)
      simp
      omega
theorem kX4_followingL {G : State} {d rc rs : Nat} {ah : zH} {A : Nat → Nat} {S : zMS} {Q : zRs → zH → Prop} (hA : zMi A) (hd : 1 ≤ d) (hV : pV (S.1 0)) {p : Int} (hp : pR p) (hf : ∀ v, pR v → 0 ≤ S.1 4 v ∧ S.1 4 v ≤ 99999) (n : Nat) : ∀ (i : Int), 0 ≤ i → i + n = S.1 0 0 → (Q (.inl (some (.int (zi (pFoN (S.1 0) (S.1 4) p n i))))) (zMh ah A S)) → zW G mX4_following d rc rs 2 [some (.ref (A 18)), some (.int (zi p)), some (.int (zi i))] [] (zMh ah A S) Q := by
  induction n with
  | zero =>
    intro i g1 g2 k
    have v := hV.h
    refine zr_iload_n dX4_following_2 rfl ?_
    refine zr_aload_n dX4_following_3 rfl rfl ?_
    refine zm_geta 0 dX4_following_4 q2119 rfl ?_
    try simp only [zuf_1, zua_s, zua_2, zuf_s, zuf_zuf, zua_zuf, zua_zua, zua_e, zuf_e, Nat.reduceBEq]
    refine zr_iconst dX4_following_7 ?_
    refine zm_load hA (by decide) dX4_following_8 (by constructor <;> (try simp only [zMn]) <;> omega) ?_
    try simp only [zuf_1, zua_s, zua_2, zuf_s, zuf_zuf, zua_zuf, zua_zua, zua_e, zuf_e, Nat.reduceBEq]
    refine zr_icmpge dX4_following_9 (tgt := 51) (by decide) (by omega) (by omega) (fun h9 => ?_) (fun h9 => ?_)
    · refine zr_iload_n dX4_following_51 rfl ?_
      refine zr_ireturn dX4_following_52 rfl (by first | rfl | exact z_nb _) ?_
      exact k
    · exfalso; omega
  | succ n ih =>
    intro i g1 g2 k
    have v := hV.h
    have f1 := hf i ⟨g1, by omega⟩
    have f2 := hf p hp
    unfold pFoN at k
    refine zr_iload_n dX4_following_2 rfl ?_
    refine zr_aload_n dX4_following_3 rfl rfl ?_
    refine zm_geta 0 dX4_following_4 q2119 rfl ?_
    try simp only [zuf_1, zua_s, zua_2, zuf_s, zuf_zuf, zua_zuf, zua_zua, zua_e, zuf_e, Nat.reduceBEq]
    refine zr_iconst dX4_following_7 ?_
    refine zm_load hA (by decide) dX4_following_8 (by constructor <;> (try simp only [zMn]) <;> omega) ?_
    try simp only [zuf_1, zua_s, zua_2, zuf_s, zuf_zuf, zua_zuf, zua_zua, zua_e, zuf_e, Nat.reduceBEq]
    refine zr_icmpge dX4_following_9 (tgt := 51) (by decide) (by omega) (by omega) (fun h9 => ?_) (fun h9 => ?_)
    · exfalso; omega
    · refine zr_aload_n dX4_following_12 rfl rfl ?_
      refine zr_iload_n dX4_following_13 rfl ?_
      refine zr_iload_n dX4_following_14 rfl ?_
      refine zc_v2 dX4_following_15 hX4_trail gX4_trail rfl rfl 0 0 0 (by omega) (Nat.zero_le _) (Nat.zero_le _) q2219 q2221 sp49 zM_rc ?_
      refine kX4_trail hA hV (by have := hp.1; have := hp.2; first | omega | (simp only [zuf_1, zua_s, zua_2, zuf_s, zua_e, zuf_e, Nat.reduceBEq]; omega)) (by first | omega | (simp only [zuf_1, zua_s, zua_2, zuf_s, zua_e, zuf_e, Nat.reduceBEq]; omega)) (fun t15 => zK_i ?_)
      try simp only [zuf_1, zua_s, zua_2, zuf_s, zuf_zuf, zua_zuf, zua_zua, zua_e, zuf_e, Nat.reduceBEq] at t15 ⊢
      refine zr_ifle dX4_following_18 (tgt := 45) (by decide) (by omega) (fun h18 => ?_) (fun h18 => ?_)
      · refine zr_iinc dX4_following_45 rfl (by decide) (zs3_2 rfl ?_)
        refine zr_goto dX4_following_48 (tgt := 2) (by decide) ?_
        rw [if_neg (by omega)] at k
        exact ih (i + 1) (by omega) (by omega) k
      · refine zr_aload_n dX4_following_21 rfl rfl ?_
        refine zr_iload_n dX4_following_22 rfl ?_
        refine zr_iload_n dX4_following_23 rfl ?_
        refine zc_v2 dX4_following_24 hX4_trail gX4_trail rfl rfl 0 0 0 (by omega) (Nat.zero_le _) (Nat.zero_le _) q2219 q2221 sp49 zM_rc ?_
        refine kX4_trail hA hV (by have := hp.1; have := hp.2; first | omega | (simp only [zuf_1, zua_s, zua_2, zuf_s, zua_e, zuf_e, Nat.reduceBEq]; omega)) (by first | omega | (simp only [zuf_1, zua_s, zua_2, zuf_s, zua_e, zuf_e, Nat.reduceBEq]; omega)) (fun t24 => zK_i ?_)
        try simp only [zuf_1, zua_s, zua_2, zuf_s, zuf_zuf, zua_zuf, zua_zua, zua_e, zuf_e, Nat.reduceBEq] at t24 ⊢
        refine zr_aload_n dX4_following_27 rfl rfl ?_
        refine zm_geta 4 dX4_following_28 q2123 rfl ?_
        try simp only [zuf_1, zua_s, zua_2, zuf_s, zuf_zuf, zua_zuf, zua_zua, zua_e, zuf_e, Nat.reduceBEq]
        refine zr_iload_n dX4_following_31 rfl ?_
        refine zm_load hA (by decide) dX4_following_32 (by have := hp.1; have := hp.2; constructor <;> (try simp only [zMn]) <;> omega) ?_
        try simp only [zuf_1, zua_s, zua_2, zuf_s, zuf_zuf, zua_zuf, zua_zua, zua_e, zuf_e, Nat.reduceBEq]
        refine zr_iadd dX4_following_33 ?_
        refine zr_aload_n dX4_following_34 rfl rfl ?_
        refine zm_geta 4 dX4_following_35 q2123 rfl ?_
        try simp only [zuf_1, zua_s, zua_2, zuf_s, zuf_zuf, zua_zuf, zua_zua, zua_e, zuf_e, Nat.reduceBEq]
        refine zr_iload_n dX4_following_38 rfl ?_
        refine zm_load hA (by decide) dX4_following_39 (by have := hp.1; have := hp.2; constructor <;> (try simp only [zMn]) <;> omega) ?_
        try simp only [zuf_1, zua_s, zua_2, zuf_s, zuf_zuf, zua_zuf, zua_zua, zua_e, zuf_e, Nat.reduceBEq]
        refine zr_icmpne dX4_following_40 (tgt := 45) (by decide) (by omega) (by omega) (fun h40 => ?_) (fun h40 => ?_)
        · refine zr_iinc dX4_following_45 rfl (by decide) (zs3_2 rfl ?_)
          refine zr_goto dX4_following_48 (tgt := 2) (by decide) ?_
          rw [if_neg (by omega)] at k
          exact ih (i + 1) (by omega) (by omega) k
        · refine zr_iload_n dX4_following_43 rfl ?_
          refine zr_ireturn dX4_following_44 rfl (by first | rfl | exact z_nb _) ?_
          rw [if_pos (by omega)] at k
          exact k
theorem kX4_following {G : State} {d rc rs : Nat} {ah : zH} {A : Nat → Nat} {S : zMS} {Q : zRs → zH → Prop} {p : Int} (hA : zMi A) (hd : 1 ≤ d) (hV : pV (S.1 0)) (hp : pR p) (hf : ∀ v, pR v → 0 ≤ S.1 4 v ∧ S.1 4 v ≤ 99999) (k : Q (.inl (some (.int (zi (pFo (S.1 0) (S.1 4) p))))) (zMh ah A S)) : zW G mX4_following d rc rs 0 (zent [.ref (A 18), .int (zi p)]) [] (zMh ah A S) Q := by
  refine zW_open 1 [some (.ref (A 18)), some (.int (zi p)), none] rfl ?_
  refine zr_iconst dX4_following_0 ?_
  refine zr_istore_n dX4_following_1 (by decide) (zs3_2 rfl ?_)
  have v := hV.h
  exact kX4_followingL hA hd hV hp hf (S.1 0 0).toNat 0 (by omega) (by omega) k
theorem kX4_isThrownB {G : State} {d rc rs : Nat} {ah : zH} {A : Nat → Nat} {S : zMS} {Q : zRs → zH → Prop} {b : Bool} {n : Int} (hA : zMi A) (k1 : b = true → Q (.inl (some (.int (zi 1)))) (zMh ah A (zuf S 6 n))) (k0 : b = false → Q (.inl (some (.int (zi 0)))) (zMh ah A (zuf S 6 0))) : zW G mX4_isThrown d rc rs 0 (zent [.ref (A 18), .int (zi (zB b)), .int (zi n)]) [] (zMh ah A S) Q := by
  cases b
  · exact kX4_isThrown0 hA (k0 rfl)
  · exact kX4_isThrown1 hA (k1 rfl)
theorem pWr_v {s : Int → Int} {l : List Int} (hV : pV s) (hl : ∀ x ∈ l, pR x) : pV (pWr s l) := by
  have key : ∀ (j : Int) (P : Int → Prop), (192 ≤ j → j < 192 + (l.length : Int) → ∀ x, pR x → P x) → P (s j) → P (pWr s l j) := fun j P h1 h2 => by
    unfold pWr
    by_cases e : 192 ≤ j ∧ j < 192 + l.length
    · rw [if_pos e]
      refine h1 e.1 e.2 _ (hl _ ?_)
      rw [List.getD_eq_getElem?_getD, List.getElem?_eq_getElem (by omega)]
      exact List.getElem_mem _
    · rw [if_neg e]; exact h2
  obtain ⟨g, a, b, c, e⟩ := hV
  have lo : ∀ j, j < 192 → pWr s l j = s j := fun j h => pWr_n h
  refine ⟨fun j => key j (fun z => 0 ≤ z ∧ z ≤ 100000) (fun _ _ x hx => ⟨hx.1, by have := hx.2; omega⟩) (g j), ?_, fun p p1 p2 => ?_, fun j j1 j2 => ?_, fun j j1 j2 => key j (fun z => z ≤ 11) (fun _ _ x hx => by have := hx.2; omega) (e j j1 j2)⟩
  · rw [lo 0 (by omega), lo 1 (by omega), lo 2 (by omega), lo 3 (by omega), lo 4 (by omega), lo 5 (by omega), lo 6 (by omega), lo 7 (by omega), lo 8 (by omega)]; exact a
  · rw [lo _ (by omega), lo _ (by omega), lo _ (by omega)]; exact b p p1 p2
  · rw [lo _ (by omega)]; exact c j j1 j2
theorem pTr_wr {s : Int → Int} {l : List Int} {v a b : Int} (ha : pR a) (hb : pR b) : pTr (z_upF (pWr s l) 1 v) a b = pTr s a b := by
  have := ha.1; have := ha.2; have := hb.1; have := hb.2
  unfold pTr
  rw [z_upF_n (by omega), pWr_n (by omega)]
theorem pFo_wr {s f : Int → Int} {l : List Int} {v p : Int} (hV : pV s) (hp : pR p) : pFo (z_upF (pWr s l) 1 v) f p = pFo s f p := by
  have h0 : z_upF (pWr s l) 1 v 0 = s 0 := by rw [z_upF_n (by omega), pWr_n (by omega)]
  have vv := hV.h
  have h : ∀ (k : Nat) (n : Int), 0 ≤ n → n + k ≤ 12 → pFoN (z_upF (pWr s l) 1 v) f p k n = pFoN s f p k n := by
    intro k
    induction k with
    | zero => intro n _ _; rfl
    | succ k ih =>
      intro n h1 h2
      unfold pFoN
      rw [ih (n + 1) (by omega) (by omega), pTr_wr hp ⟨h1, by omega⟩]
  unfold pFo
  rw [h0]
  exact h _ 0 (Int.le_refl _) (by omega)
theorem kX4_toursL {G : State} {d rc rs : Nat} {ah : zH} {A : Nat → Nat} {S : zMS} {Q : zRs → zH → Prop} (hA : zMi A) (hd : 3 ≤ d) {a b : Int} {f : Int → Int} (hV : pV (S.1 0)) (hY : pSy (S.1 0)) (ha : pR a) (hb : pR b) (hf : pDist 99999 (S.1 0) b f) {w : List Int} (hw : w.length ≤ 12)
    (k : (∀ x ∈ w, pR x) → 1 ≤ w.length → zW G mX4_tours d rc rs 150 [some (.ref (A 18)), some (.int (zi a)), some (.int (zi b)), some (.int (zi b))] [] (zMh ah A (zuf (zua (zua S 4 f) 0 (z_upF (pWr (S.1 0) w) 1 w.length)) 6 0)) Q) : ∀ (n : Nat) (p : Int) (l : List Int), pR p → f p < 99999 → (∀ x ∈ l, pR x) → w = l ++ pPath (S.1 0) f b n p → pRk f p ≤ n →
    zW G mX4_tours d rc rs 110 [some (.ref (A 18)), some (.int (zi a)), some (.int (zi b)), some (.int (zi p))] [] (zMh ah A (zuf (zua (zua S 4 f) 0 (z_upF (pWr (S.1 0) (l ++ [p])) 1 ((l ++ [p]).length : Nat))) 6 0)) Q := by
  intro n
  induction n with
  | zero =>
    intro p l g1 g2 g3 g4 g5
    have p1 := g1.1; have p2 := g1.2; have b1 := hb.1; have b2 := hb.2
    refine zr_iload_n dX4_tours_110 rfl ?_
    refine zr_iload_n dX4_tours_111 rfl ?_
    refine zr_icmpeq dX4_tours_112 (tgt := 150) (by decide) (by omega) (by omega) (fun h112 => ?_) (fun h112 => ?_)
    · obtain rfl : p = b := h112
      have e : l ++ [p] = w := by rw [g4]; rfl
      rw [e]
      exact k (by rw [← e]; intro x hx; rcases List.mem_append.mp hx with z | z
                  · exact g3 x z
                  · rw [List.mem_singleton.mp z]; exact g1) (by rw [← e]; simp)
    · exfalso
      have rk := pRk_lt (f := f) (p := p) (q := b) hb (by have := hf.1; have := hf.pos g1 h112 g2; omega)
      have := pRk_b (f := f) hb
      omega
  | succ n ih =>
    intro p l g1 g2 g3 g4 g5
    have p1 := g1.1; have p2 := g1.2; have b1 := hb.1; have b2 := hb.2
    refine zr_iload_n dX4_tours_110 rfl ?_
    refine zr_iload_n dX4_tours_111 rfl ?_
    refine zr_icmpeq dX4_tours_112 (tgt := 150) (by decide) (by omega) (by omega) (fun h112 => ?_) (fun h112 => ?_)
    · obtain rfl : p = b := h112
      have e : l ++ [p] = w := by rw [g4, pPath, if_pos rfl]
      rw [e]
      exact k (by rw [← e]; intro x hx; rcases List.mem_append.mp hx with z | z
                  · exact g3 x z
                  · rw [List.mem_singleton.mp z]; exact g1) (by rw [← e]; simp)
    · have ok := pFo_ok hV hY hf g1 h112 g2
      have q0 := ok.1
      have q1 := q0.1
      have q2 := q0.2
      have e4 : pPath (S.1 0) f b (n + 1) p = p :: pPath (S.1 0) f b n (pFo (S.1 0) f p) := by rw [pPath, if_neg h112]
      have nx := pPath_ne (s := S.1 0) (f := f) (to := b) n (pFo (S.1 0) f p)
      have ln : l.length + 1 + 1 ≤ 12 := by rw [g4, e4] at hw; simp only [List.length_append, List.length_cons] at hw; omega
      have lv : ∀ x ∈ l ++ [p], pR x := fun x hx => by
        rcases List.mem_append.mp hx with z | z
        · exact g3 x z
        · rw [List.mem_singleton.mp z]; exact g1
      have hW : pV (z_upF (pWr (S.1 0) (l ++ [p])) 1 ((l ++ [p]).length : Nat)) := (pWr_v hV lv).up (by simp; omega) (by simp only [List.length_append, List.length_singleton]; refine ⟨?_, ?_, ?_, ?_, ?_, ?_, fun p _ _ => ?_, ?_, ?_⟩ <;> omega)
      have rk := pRk_lt (f := f) (p := p) q0 (by omega)
      refine zr_aload_n dX4_tours_115 rfl rfl ?_
      refine zr_iload_n dX4_tours_116 rfl ?_
      refine zc_v1 dX4_tours_117 hX4_following gX4_following rfl rfl 1 0 0 (by omega) (Nat.zero_le _) (Nat.zero_le _) q2256 q2258 sp56 zM_rc ?_
      refine kX4_following hA (by first | omega | (simp only [zuf_1, zua_s, zua_2, zuf_s, zua_e, zuf_e, Nat.reduceBEq]; omega)) (by simpa only [zua_s, zuf_1] using hW) g1 (by simpa only [zuf_1, zua_e, Nat.reduceBEq, zua_s] using hf.2.1) (zK_i ?_)
      try simp only [zuf_1, zua_s, zua_2, zuf_s, zuf_zuf, zua_zuf, zua_zua, zua_e, zuf_e, Nat.reduceBEq]
      rw [pFo_wr hV g1]
      refine zr_istore_n dX4_tours_120 (by decide) (zs4_3 rfl ?_)
      refine zr_aload_n dX4_tours_121 rfl rfl ?_
      refine zm_geta 0 dX4_tours_122 q2119 rfl ?_
      try simp only [zuf_1, zua_s, zua_2, zuf_s, zuf_zuf, zua_zuf, zua_zua, zua_e, zuf_e, Nat.reduceBEq]
      refine zr_sipush dX4_tours_125 rfl ?_
      refine zr_aload_n dX4_tours_128 rfl rfl ?_
      refine zm_geta 0 dX4_tours_129 q2119 rfl ?_
      try simp only [zuf_1, zua_s, zua_2, zuf_s, zuf_zuf, zua_zuf, zua_zua, zua_e, zuf_e, Nat.reduceBEq]
      refine zr_iconst dX4_tours_132 ?_
      refine zm_load hA (by decide) dX4_tours_133 (by constructor <;> (try simp only [zMn]) <;> omega) ?_
      try simp only [zuf_1, zua_s, zua_2, zuf_s, zuf_zuf, zua_zuf, zua_zua, zua_e, zuf_e, Nat.reduceBEq]
      rw [z_upF_s]
      refine zr_iadd dX4_tours_134 ?_
      refine zr_iload_n dX4_tours_135 rfl ?_
      refine zm_store hA (by decide) dX4_tours_136 (by constructor <;> (try simp only [zMn]) <;> (simp only [List.length_append, List.length_singleton]; omega)) ?_
      try simp only [zuf_1, zua_s, zua_2, zuf_s, zuf_zuf, zua_zuf, zua_zua, zua_e, zuf_e, Nat.reduceBEq]
      have st1 : z_upF (z_upF (pWr (S.1 0) (l ++ [p])) 1 ((l ++ [p]).length : Nat)) (192 + ((l ++ [p]).length : Nat)) (pFo (S.1 0) f p) = z_upF (pWr (S.1 0) (l ++ [p] ++ [pFo (S.1 0) f p])) 1 ((l ++ [p]).length : Nat) := by rw [z_upF_c (by omega), pWr_s]
      rw [st1]
      refine zr_aload_n dX4_tours_137 rfl rfl ?_
      refine zm_geta 0 dX4_tours_138 q2119 rfl ?_
      try simp only [zuf_1, zua_s, zua_2, zuf_s, zuf_zuf, zua_zuf, zua_zua, zua_e, zuf_e, Nat.reduceBEq]
      refine zr_iconst dX4_tours_141 ?_
      refine zr_dup2 dX4_tours_142 rfl rfl ?_
      refine zm_load hA (by decide) dX4_tours_143 (by constructor <;> (try simp only [zMn]) <;> omega) ?_
      try simp only [zuf_1, zua_s, zua_2, zuf_s, zuf_zuf, zua_zuf, zua_zua, zua_e, zuf_e, Nat.reduceBEq]
      rw [z_upF_s]
      refine zr_iconst dX4_tours_144 ?_
      refine zr_iadd dX4_tours_145 ?_
      refine zm_store hA (by decide) dX4_tours_146 (by constructor <;> (try simp only [zMn]) <;> omega) ?_
      try simp only [zuf_1, zua_s, zua_2, zuf_s, zuf_zuf, zua_zuf, zua_zua, zua_e, zuf_e, Nat.reduceBEq]
      rw [show z_upF (z_upF (pWr (S.1 0) (l ++ [p] ++ [pFo (S.1 0) f p])) 1 ((l ++ [p]).length : Nat)) 1 (((l ++ [p]).length : Nat) + 1) = z_upF (pWr (S.1 0) (l ++ [p] ++ [pFo (S.1 0) f p])) 1 ((l ++ [p] ++ [pFo (S.1 0) f p]).length : Nat) from by rw [z_upF_o, show (((l ++ [p]).length : Nat) : Int) + 1 = ((l ++ [p] ++ [pFo (S.1 0) f p]).length : Nat) by simp; omega]]
      refine zr_goto dX4_tours_147 (tgt := 110) (by decide) ?_
      have e5 : (l ++ [p]) ++ [pFo (S.1 0) f p] = l ++ [p] ++ [pFo (S.1 0) f p] := rfl
      exact ih (pFo (S.1 0) f p) (l ++ [p]) q0 (by omega) lv (by rw [g4, e4]; simp) (by omega)
theorem pPath_le {I : Int} {s f : Int → Int} {to : Int} (hV : pV s) (hY : pSy s) (ht : pR to) (hf : pDist I s to f) : ∀ (k : Nat) (p : Int), pR p → f p < I → pRk f p < 12 → (pPath s f to k p).length ≤ 12 := by
  have h : ∀ (k : Nat) (p : Int), pR p → f p < I → ((pPath s f to k p).length : Int) ≤ pRk f p + 1 := by
    intro k
    induction k with
    | zero => intro p hp _; have := pRk_b (f := f) hp; unfold pPath; simp; omega
    | succ k ih =>
      intro p hp hl
      have b := pRk_b (f := f) hp
      unfold pPath
      by_cases e : p = to
      · rw [if_pos e]; simp; omega
      · rw [if_neg e]
        have ok := pFo_ok hV hY hf hp e hl
        have := ih (pFo s f p) ok.1 (by omega)
        have := pRk_lt (f := f) (p := p) ok.1 (by omega)
        simp only [List.length_cons]
        omega
  intro k p hp hl hr
  have := h k p hp hl
  omega
theorem kX4_tours {G : State} {d rc rs : Nat} {ah : zH} {A : Nat → Nat} {S : zMS} {Q : zRs → zH → Prop} {a b : Int} (hA : zMi A) (hd : 3 ≤ d) (hV : pV (S.1 0)) (hY : pSy (S.1 0)) (qa : -2147483648 ≤ a ∧ a ≤ 2147483647) (qb : -2147483648 ≤ b ∧ b ≤ 2147483647) (k : ∀ f, Q (.inl (some (.int (zi (pTour (S.1 0) a b).2.1)))) (zMh ah A (pAf (zua S 4 f) (pTour (S.1 0) a b)))) : zW G mX4_tours d rc rs 0 (zent [.ref (A 18), .int (zi a), .int (zi b)]) [] (zMh ah A S) Q := by
  refine zW_open 1 [some (.ref (A 18)), some (.int (zi a)), some (.int (zi b)), none] rfl ?_
  refine zr_aload_n dX4_tours_0 rfl rfl ?_
  refine zr_aload_n dX4_tours_1 rfl rfl ?_
  refine zr_iload_n dX4_tours_2 rfl ?_
  refine zc_v1 dX4_tours_3 hX4_isPoint gX4_isPoint rfl rfl 1 0 0 (by omega) (Nat.zero_le _) (Nat.zero_le _) q2215 q2217 sp48 zM_rc ?_
  refine kX4_isPoint hA (by omega) hV (by omega) (zK_i ?_)
  try simp only [zuf_1, zua_s, zua_2, zuf_s, zuf_zuf, zua_zuf, zua_zua, zua_e, zuf_e, Nat.reduceBEq]
  refine zr_ifeqB dX4_tours_6 (tgt := 17) (by decide) (fun h6 => ?_) (fun h6 => ?_)
  · refine zr_iconst dX4_tours_17 ?_
    refine zr_goto dX4_tours_18 (tgt := 22) (by decide) ?_
    refine zr_iconst dX4_tours_22 ?_
    refine zc_v2 dX4_tours_23 hX4_isThrown gX4_isThrown rfl rfl 0 0 0 (by omega) (Nat.zero_le _) (Nat.zero_le _) q2199 q2201 sp45 zM_rc ?_
    refine kX4_isThrown1 hA (zK_i ?_)
    try simp only [zuf_1, zua_s, zua_2, zuf_s, zuf_zuf, zua_zuf, zua_zua, zua_e, zuf_e, Nat.reduceBEq]
    refine zr_ifne dX4_tours_26 (tgt := 59) (by decide) (by decide) (fun _ => ?_) (fun h => absurd h (by decide))
    refine zr_iconst dX4_tours_59 ?_
    refine zr_ireturn dX4_tours_60 rfl (by first | rfl | exact z_nb _) ?_
    try have i53 := of_decide_eq_true h53
    try have i53 := of_decide_eq_false h53
    have e : pTour (S.1 0) a b = (1, 0, S.1 0) := by unfold pTour; simp [*]
    have w := k (S.1 4)
    rw [zua_self, e, pAf_s] at w
    exact w
  · refine zr_aload_n dX4_tours_9 rfl rfl ?_
    refine zr_iload_n dX4_tours_10 rfl ?_
    refine zc_v1 dX4_tours_11 hX4_isPoint gX4_isPoint rfl rfl 1 0 0 (by omega) (Nat.zero_le _) (Nat.zero_le _) q2215 q2217 sp48 zM_rc ?_
    refine kX4_isPoint hA (by omega) hV (by omega) (zK_i ?_)
    try simp only [zuf_1, zua_s, zua_2, zuf_s, zuf_zuf, zua_zuf, zua_zua, zua_e, zuf_e, Nat.reduceBEq]
    refine zr_ifneB dX4_tours_14 (tgt := 21) (by decide) (fun h14 => ?_) (fun h14 => ?_)
    · refine zr_iconst dX4_tours_21 ?_
      refine zr_iconst dX4_tours_22 ?_
      refine zc_v2 dX4_tours_23 hX4_isThrown gX4_isThrown rfl rfl 0 0 0 (by omega) (Nat.zero_le _) (Nat.zero_le _) q2199 q2201 sp45 zM_rc ?_
      refine kX4_isThrown0 hA (zK_i ?_)
      try simp only [zuf_1, zua_s, zua_2, zuf_s, zuf_zuf, zua_zuf, zua_zua, zua_e, zuf_e, Nat.reduceBEq]
      refine zr_ifne dX4_tours_26 (tgt := 59) (by decide) (by decide) (fun h => absurd h (by decide)) (fun _ => ?_)
      refine zr_aload_n dX4_tours_29 rfl rfl ?_
      refine zr_iload_n dX4_tours_30 rfl ?_
      refine zr_iload_n dX4_tours_31 rfl ?_
      refine zr_icmpne dX4_tours_32 (tgt := 39) (by decide) (by omega) (by omega) (fun h32 => ?_) (fun h32 => ?_)
      · refine zr_iconst dX4_tours_39 ?_
        refine zr_iconst dX4_tours_40 ?_
        refine zc_v2 dX4_tours_41 hX4_isThrown gX4_isThrown rfl rfl 0 0 0 (by omega) (Nat.zero_le _) (Nat.zero_le _) q2199 q2201 sp45 zM_rc ?_
        refine kX4_isThrown0 hA (zK_i ?_)
        try simp only [zuf_1, zua_s, zua_2, zuf_s, zuf_zuf, zua_zuf, zua_zua, zua_e, zuf_e, Nat.reduceBEq]
        refine zr_ifne dX4_tours_44 (tgt := 59) (by decide) (by decide) (fun h => absurd h (by decide)) (fun _ => ?_)
        refine zr_aload_n dX4_tours_47 rfl rfl ?_
        refine zr_aload_n dX4_tours_48 rfl rfl ?_
        refine zc_v0 dX4_tours_49 hX4_isOnTour gX4_isOnTour rfl rfl 0 0 0 (by omega) (Nat.zero_le _) (Nat.zero_le _) q2247 q2249 sp54 zM_rc ?_
        refine kX4_isOnTour hA hV (zK_i ?_)
        try simp only [zuf_1, zua_s, zua_2, zuf_s, zuf_zuf, zua_zuf, zua_zua, zua_e, zuf_e, Nat.reduceBEq]
        refine zr_iconst dX4_tours_52 ?_
        refine zc_v2 dX4_tours_53 hX4_isThrown gX4_isThrown rfl rfl 0 0 0 (by omega) (Nat.zero_le _) (Nat.zero_le _) q2199 q2201 sp45 zM_rc ?_
        refine kX4_isThrownB hA (fun h53 => zK_i ?_) (fun h53 => zK_i ?_)
        · try simp only [zuf_1, zua_s, zua_2, zuf_s, zuf_zuf, zua_zuf, zua_zua, zua_e, zuf_e, Nat.reduceBEq]
          refine zr_ifeq dX4_tours_56 (tgt := 61) (by decide) (by decide) (fun h => absurd h (by decide)) (fun _ => ?_)
          refine zr_iconst dX4_tours_59 ?_
          refine zr_ireturn dX4_tours_60 rfl (by first | rfl | exact z_nb _) ?_
          try have i53 := of_decide_eq_true h53
          try have i53 := of_decide_eq_false h53
          have e : pTour (S.1 0) a b = (3, 0, S.1 0) := by unfold pTour; simp [*]
          have w := k (S.1 4)
          rw [zua_self, e, pAf_s] at w
          exact w
        · try simp only [zuf_1, zua_s, zua_2, zuf_s, zuf_zuf, zua_zuf, zua_zua, zua_e, zuf_e, Nat.reduceBEq]
          refine zr_ifeq dX4_tours_56 (tgt := 61) (by decide) (by decide) (fun _ => ?_) (fun h => absurd h (by decide))
          refine zr_aload_n dX4_tours_61 rfl rfl ?_
          refine zr_iload_n dX4_tours_62 rfl ?_
          have va := pPt_b h6 hV
          have vb := pPt_b h14 hV
          refine zc_v1 dX4_tours_63 hX4_finds gX4_finds rfl rfl 1 0 0 (by omega) (Nat.zero_le _) (Nat.zero_le _) q2251 q2253 sp55 zM_rc ?_
          refine kX4_finds hA (by first | omega | (simp only [zuf_1, zua_s, zua_2, zuf_s, zua_e, zuf_e, Nat.reduceBEq]; omega)) hV (by first | omega | (simp only [zuf_1, zua_s, zua_2, zuf_s, zua_e, zuf_e, Nat.reduceBEq]; omega)) (fun f63 e63 => zK_v ?_)
          try simp only [zuf_1, zua_s, zua_2, zuf_s, zuf_zuf, zua_zuf, zua_zua, zua_e, zuf_e, Nat.reduceBEq] at e63 ⊢
          have va := pPt_b h6 hV
          have vb := pPt_b h14 hV
          have fb := e63.2.1 a ⟨by omega, by omega⟩
          refine zr_aload_n dX4_tours_66 rfl rfl ?_
          refine zr_aload_n dX4_tours_67 rfl rfl ?_
          refine zm_geta 4 dX4_tours_68 q2123 rfl ?_
          try simp only [zuf_1, zua_s, zua_2, zuf_s, zuf_zuf, zua_zuf, zua_zua, zua_e, zuf_e, Nat.reduceBEq]
          refine zr_iload_n dX4_tours_71 rfl ?_
          refine zm_load hA (by decide) dX4_tours_72 (by constructor <;> (try simp only [zMn]) <;> omega) ?_
          try simp only [zuf_1, zua_s, zua_2, zuf_s, zuf_zuf, zua_zuf, zua_zua, zua_e, zuf_e, Nat.reduceBEq]
          refine zr_ldc dX4_tours_73 q2255 (n := 99999) rfl ?_
          have fa := pFr_eq (pPt_r h14 hV) e63 (pPt_r h6 hV)
          refine zr_icmplt dX4_tours_75 (tgt := 82) (by decide) (by omega) (by omega) (fun h75 => ?_) (fun h75 => ?_)
          · refine zr_iconst dX4_tours_82 ?_
            refine zr_iconst dX4_tours_83 ?_
            refine zc_v2 dX4_tours_84 hX4_isThrown gX4_isThrown rfl rfl 0 0 0 (by omega) (Nat.zero_le _) (Nat.zero_le _) q2199 q2201 sp45 zM_rc ?_
            refine kX4_isThrown0 hA (zK_i ?_)
            try simp only [zuf_1, zua_s, zua_2, zuf_s, zuf_zuf, zua_zuf, zua_zua, zua_e, zuf_e, Nat.reduceBEq]
            refine zr_ifeq dX4_tours_87 (tgt := 92) (by decide) (by decide) (fun _ => ?_) (fun h => absurd h (by decide))
            refine zr_iload_n dX4_tours_92 rfl ?_
            refine zr_istore_n dX4_tours_93 (by decide) (zs4_3 rfl ?_)
            refine zr_aload_n dX4_tours_94 rfl rfl ?_
            refine zm_geta 0 dX4_tours_95 q2119 rfl ?_
            try simp only [zuf_1, zua_s, zua_2, zuf_s, zuf_zuf, zua_zuf, zua_zua, zua_e, zuf_e, Nat.reduceBEq]
            refine zr_sipush dX4_tours_98 rfl ?_
            refine zr_iload_n dX4_tours_101 rfl ?_
            refine zm_store hA (by decide) dX4_tours_102 (by constructor <;> (try simp only [zMn]) <;> omega) ?_
            try simp only [zuf_1, zua_s, zua_2, zuf_s, zuf_zuf, zua_zuf, zua_zua, zua_e, zuf_e, Nat.reduceBEq]
            refine zr_aload_n dX4_tours_103 rfl rfl ?_
            refine zm_geta 0 dX4_tours_104 q2119 rfl ?_
            try simp only [zuf_1, zua_s, zua_2, zuf_s, zuf_zuf, zua_zuf, zua_zua, zua_e, zuf_e, Nat.reduceBEq]
            refine zr_iconst dX4_tours_107 ?_
            refine zr_iconst dX4_tours_108 ?_
            refine zm_store hA (by decide) dX4_tours_109 (by constructor <;> (try simp only [zMn]) <;> omega) ?_
            try simp only [zuf_1, zua_s, zua_2, zuf_s, zuf_zuf, zua_zuf, zua_zua, zua_e, zuf_e, Nat.reduceBEq]
            have i53 := of_decide_eq_false h53
            have pb := pPt_r h14 hV
            have pa := pPt_r h6 hV
            have fa := pFr_eq pb e63 pa
            have lt : f63 a < 99999 := by omega
            have rt : pRoute (S.1 0) a b = pPath (S.1 0) f63 b 12 a := (pPath_c hV hY pb e63 (fun v hv => pFr_eq pb e63 hv) 12 a pa lt).symm
            have rkb := pRk_b (f := f63) pa
            have e : pTour (S.1 0) a b = (0, (((pRoute (S.1 0) a b).length : Nat) : Int), pTo (S.1 0) (pRoute (S.1 0) a b) (pOf (S.1 0) a 0) (pOf (S.1 0) a 1)) := by unfold pTour; rw [if_neg (fun z => z ⟨h6, h14⟩), if_neg (by omega), if_neg i53, if_neg (by omega)]
            have ln := pPath_le hV hY pb e63 12 a pa lt (by omega)
            have a1 := pa.1
            have a2 := pa.2
            generalize hwd : pRoute (S.1 0) a b = w at rt e
            rw [← rt] at ln
            rw [show z_upF (z_upF (S.1 0) 192 a) 1 1 = z_upF (pWr (S.1 0) ([] ++ [a])) 1 ((([] : List Int) ++ [a]).length : Nat) by rw [pWr_1]; rfl]
            refine kX4_toursL hA (by omega) hV hY pa pb e63 (w := w) ln ?_ 12 a [] pa lt (fun x hx => by cases hx) (by rw [rt]; rfl) (by omega)
            intro lv l1
            have hW : pV (pWr (S.1 0) w) := pWr_v hV lv
            refine zr_aload_n dX4_tours_150 rfl rfl ?_
            refine zm_geta 0 dX4_tours_151 q2119 rfl ?_
            try simp only [zuf_1, zua_s, zua_2, zuf_s, zuf_zuf, zua_zuf, zua_zua, zua_e, zuf_e, Nat.reduceBEq]
            refine zr_iconst dX4_tours_154 ?_
            refine zr_iconst dX4_tours_155 ?_
            refine zm_store hA (by decide) dX4_tours_156 (by constructor <;> (try simp only [zMn]) <;> omega) ?_
            try simp only [zuf_1, zua_s, zua_2, zuf_s, zuf_zuf, zua_zuf, zua_zua, zua_e, zuf_e, Nat.reduceBEq]
            refine zr_aload_n dX4_tours_157 rfl rfl ?_
            refine zm_geta 0 dX4_tours_158 q2119 rfl ?_
            try simp only [zuf_1, zua_s, zua_2, zuf_s, zuf_zuf, zua_zuf, zua_zua, zua_e, zuf_e, Nat.reduceBEq]
            refine zr_iconst dX4_tours_161 ?_
            refine zr_aload_n dX4_tours_162 rfl rfl ?_
            refine zr_iload_n dX4_tours_163 rfl ?_
            refine zr_iconst dX4_tours_164 ?_
            refine zc_v2 dX4_tours_165 hX4_of gX4_of rfl rfl 0 0 0 (by omega) (Nat.zero_le _) (Nat.zero_le _) q2260 q2262 sp57 zM_rc ?_
            refine kX4_of hA (by first | omega | (simp only [zuf_1, zua_s, zua_2, zuf_s, zua_e, zuf_e, Nat.reduceBEq]; omega)) (by first | omega | (simp only [zuf_1, zua_s, zua_2, zuf_s, zua_e, zuf_e, Nat.reduceBEq]; omega)) (zK_i ?_)
            try simp only [zuf_1, zua_s, zua_2, zuf_s, zuf_zuf, zua_zuf, zua_zua, zua_e, zuf_e, Nat.reduceBEq]
            rw [show pOf (z_upF (z_upF (pWr (S.1 0) w) 1 w.length) 2 1) a 0 = pOf (S.1 0) a 0 by unfold pOf; rw [z_upF_n (by omega), z_upF_n (by omega), pWr_n (by omega)]]
            refine zm_store hA (by decide) dX4_tours_168 (by constructor <;> (try simp only [zMn]) <;> omega) ?_
            try simp only [zuf_1, zua_s, zua_2, zuf_s, zuf_zuf, zua_zuf, zua_zua, zua_e, zuf_e, Nat.reduceBEq]
            refine zr_aload_n dX4_tours_169 rfl rfl ?_
            refine zm_geta 0 dX4_tours_170 q2119 rfl ?_
            try simp only [zuf_1, zua_s, zua_2, zuf_s, zuf_zuf, zua_zuf, zua_zua, zua_e, zuf_e, Nat.reduceBEq]
            refine zr_iconst dX4_tours_173 ?_
            refine zr_aload_n dX4_tours_174 rfl rfl ?_
            refine zr_iload_n dX4_tours_175 rfl ?_
            refine zr_iconst dX4_tours_176 ?_
            refine zc_v2 dX4_tours_177 hX4_of gX4_of rfl rfl 0 0 0 (by omega) (Nat.zero_le _) (Nat.zero_le _) q2260 q2262 sp57 zM_rc ?_
            refine kX4_of hA (by first | omega | (simp only [zuf_1, zua_s, zua_2, zuf_s, zua_e, zuf_e, Nat.reduceBEq]; omega)) (by first | omega | (simp only [zuf_1, zua_s, zua_2, zuf_s, zua_e, zuf_e, Nat.reduceBEq]; omega)) (zK_i ?_)
            try simp only [zuf_1, zua_s, zua_2, zuf_s, zuf_zuf, zua_zuf, zua_zua, zua_e, zuf_e, Nat.reduceBEq]
            rw [show pOf (z_upF (z_upF (z_upF (pWr (S.1 0) w) 1 w.length) 2 1) 3 (pOf (S.1 0) a 0)) a 1 = pOf (S.1 0) a 1 by unfold pOf; rw [z_upF_n (by omega), z_upF_n (by omega), z_upF_n (by omega), pWr_n (by omega)]]
            refine zm_store hA (by decide) dX4_tours_180 (by constructor <;> (try simp only [zMn]) <;> omega) ?_
            try simp only [zuf_1, zua_s, zua_2, zuf_s, zuf_zuf, zua_zuf, zua_zua, zua_e, zuf_e, Nat.reduceBEq]
            refine zr_aload_n dX4_tours_181 rfl rfl ?_
            refine zm_geta 0 dX4_tours_182 q2119 rfl ?_
            try simp only [zuf_1, zua_s, zua_2, zuf_s, zuf_zuf, zua_zuf, zua_zua, zua_e, zuf_e, Nat.reduceBEq]
            refine zr_iconst dX4_tours_185 ?_
            refine zr_iconst dX4_tours_186 ?_
            refine zm_store hA (by decide) dX4_tours_187 (by constructor <;> (try simp only [zMn]) <;> omega) ?_
            try simp only [zuf_1, zua_s, zua_2, zuf_s, zuf_zuf, zua_zuf, zua_zua, zua_e, zuf_e, Nat.reduceBEq]
            refine zr_aload_n dX4_tours_188 rfl rfl ?_
            refine zm_geta 0 dX4_tours_189 q2119 rfl ?_
            try simp only [zuf_1, zua_s, zua_2, zuf_s, zuf_zuf, zua_zuf, zua_zua, zua_e, zuf_e, Nat.reduceBEq]
            refine zr_iconst dX4_tours_192 ?_
            refine zm_load hA (by decide) dX4_tours_193 (by constructor <;> (try simp only [zMn]) <;> omega) ?_
            try simp only [zuf_1, zua_s, zua_2, zuf_s, zuf_zuf, zua_zuf, zua_zua, zua_e, zuf_e, Nat.reduceBEq]
            rw [show z_upF (z_upF (z_upF (z_upF (z_upF (pWr (S.1 0) w) 1 w.length) 2 1) 3 (pOf (S.1 0) a 0)) 4 (pOf (S.1 0) a 1)) 5 0 1 = w.length by rw [z_upF_n (by omega), z_upF_n (by omega), z_upF_n (by omega), z_upF_n (by omega), z_upF_s]]
            refine zr_ireturn dX4_tours_194 rfl (by first | rfl | exact z_nb _) ?_
            have wk := k f63
            rw [e] at wk
            exact zQm wk rfl rfl
          · refine zr_iconst dX4_tours_78 ?_
            refine zr_goto dX4_tours_79 (tgt := 83) (by decide) ?_
            refine zr_iconst dX4_tours_83 ?_
            refine zc_v2 dX4_tours_84 hX4_isThrown gX4_isThrown rfl rfl 0 0 0 (by omega) (Nat.zero_le _) (Nat.zero_le _) q2199 q2201 sp45 zM_rc ?_
            refine kX4_isThrown1 hA (zK_i ?_)
            try simp only [zuf_1, zua_s, zua_2, zuf_s, zuf_zuf, zua_zuf, zua_zua, zua_e, zuf_e, Nat.reduceBEq]
            refine zr_ifeq dX4_tours_87 (tgt := 92) (by decide) (by decide) (fun h => absurd h (by decide)) (fun _ => ?_)
            refine zr_iconst dX4_tours_90 ?_
            refine zr_ireturn dX4_tours_91 rfl (by first | rfl | exact z_nb _) ?_
            try have i53 := of_decide_eq_true h53
            try have i53 := of_decide_eq_false h53
            have e : pTour (S.1 0) a b = (4, 0, S.1 0) := by unfold pTour; rw [if_neg (fun z => z ⟨h6, h14⟩), if_neg (by omega), if_neg i53, if_pos (by omega)]
            have w := k f63
            rw [e, show pAf (zua S 4 f63) (4, 0, S.1 0) = zuf (zua S 4 f63) 6 4 from pAf_s (S := zua S 4 f63)] at w
            exact w
      · refine zr_iconst dX4_tours_35 ?_
        refine zr_goto dX4_tours_36 (tgt := 40) (by decide) ?_
        refine zr_iconst dX4_tours_40 ?_
        refine zc_v2 dX4_tours_41 hX4_isThrown gX4_isThrown rfl rfl 0 0 0 (by omega) (Nat.zero_le _) (Nat.zero_le _) q2199 q2201 sp45 zM_rc ?_
        refine kX4_isThrown1 hA (zK_i ?_)
        try simp only [zuf_1, zua_s, zua_2, zuf_s, zuf_zuf, zua_zuf, zua_zua, zua_e, zuf_e, Nat.reduceBEq]
        refine zr_ifne dX4_tours_44 (tgt := 59) (by decide) (by decide) (fun _ => ?_) (fun h => absurd h (by decide))
        refine zr_iconst dX4_tours_59 ?_
        refine zr_ireturn dX4_tours_60 rfl (by first | rfl | exact z_nb _) ?_
        try have i53 := of_decide_eq_true h53
        try have i53 := of_decide_eq_false h53
        have e : pTour (S.1 0) a b = (2, 0, S.1 0) := by unfold pTour; simp [*]
        have w := k (S.1 4)
        rw [zua_self, e, pAf_s] at w
        exact w
    · refine zr_iconst dX4_tours_17 ?_
      refine zr_goto dX4_tours_18 (tgt := 22) (by decide) ?_
      refine zr_iconst dX4_tours_22 ?_
      refine zc_v2 dX4_tours_23 hX4_isThrown gX4_isThrown rfl rfl 0 0 0 (by omega) (Nat.zero_le _) (Nat.zero_le _) q2199 q2201 sp45 zM_rc ?_
      refine kX4_isThrown1 hA (zK_i ?_)
      try simp only [zuf_1, zua_s, zua_2, zuf_s, zuf_zuf, zua_zuf, zua_zua, zua_e, zuf_e, Nat.reduceBEq]
      refine zr_ifne dX4_tours_26 (tgt := 59) (by decide) (by decide) (fun _ => ?_) (fun h => absurd h (by decide))
      refine zr_iconst dX4_tours_59 ?_
      refine zr_ireturn dX4_tours_60 rfl (by first | rfl | exact z_nb _) ?_
      try have i53 := of_decide_eq_true h53
      try have i53 := of_decide_eq_false h53
      have e : pTour (S.1 0) a b = (1, 0, S.1 0) := by unfold pTour; simp [*]
      have w := k (S.1 4)
      rw [zua_self, e, pAf_s] at w
      exact w
