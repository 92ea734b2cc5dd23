set_option maxRecDepth 100000
/-! ===== what every row keeps ===== -/
def pZ (s : Int → Int) : Prop := ∀ j, (j < 0 ∨ 204 ≤ j) → s j = 0
def pTk (s : Int → Int) : Prop := 0 < s 1 → 1 ≤ s 2 ∧ s 2 < s 1 ∧ ∀ i, 0 ≤ i → i < s 1 → s (192 + i) < s 0
def pI (B : Int) (s : Int → Int) : Prop := pV s ∧ pSy s ∧ pZ s ∧ (s 9 ≤ B ∧ s 10 ≤ B ∧ s 11 ≤ B) ∧ pTk s
theorem pI.mono {B C : Int} {s : Int → Int} (h : pI B s) (hBC : B ≤ C) : pI C s := by
  obtain ⟨h1, h2, h3, h4, h5⟩ := h
  exact ⟨h1, h2, h3, ⟨by omega, by omega, by omega⟩, h5⟩
theorem pSy.of {s s' : Int → Int} (h : pSy s) (e : ∀ j, 48 ≤ j → j < 192 → s' j = s j) (h0 : s 0 ≤ s' 0) : pSy s' := by
  intro a b ha hb
  have := ha.1; have := ha.2; have := hb.1; have := hb.2
  have e1 : pTr s' a b = pTr s a b := e _ (by omega) (by omega)
  have e2 : pTr s' b a = pTr s b a := e _ (by omega) (by omega)
  rw [e1, e2]
  obtain ⟨h1, h2⟩ := h a b ha hb
  exact ⟨h1, fun q => by have := h2 q; exact ⟨by omega, by omega, this.2.2⟩⟩
/-- only the head's numbers beside the tour's changed -/
theorem pI.hdr {B C : Int} {s s' : Int → Int} (h : pI B s) (hV : pV s') (e : ∀ j, (j < 3 ∨ 12 ≤ j) → s' j = s j) (hc : s' 9 ≤ C ∧ s' 10 ≤ C ∧ s' 11 ≤ C) : pI C s' := by
  obtain ⟨h1, h2, h3, h4, h5⟩ := h
  refine ⟨hV, h2.of (fun j q1 q2 => e j (by omega)) (by rw [e 0 (by omega)]; exact Int.le_refl _), fun j hj => by rw [e j (by omega)]; exact h3 j hj, hc, ?_⟩
  intro q
  rw [e 1 (by omega)] at q
  obtain ⟨t1, t2, t3⟩ := h5 q
  rw [e 2 (by omega), e 1 (by omega), e 0 (by omega)]
  exact ⟨t1, t2, fun i i1 i2 => by rw [e _ (by omega)]; exact t3 i i1 i2⟩
theorem pV.hd {s : Int → Int} {i v : Int} (h : pV s) (hi : 0 ≤ i ∧ i < 12) (hv : 0 ≤ v ∧ v ≤ 100000) (hc : (i ≤ 2 → v ≤ 12) ∧ (i = 3 ∨ i = 4 → v ≤ 99) ∧ (i = 5 → v ≤ 1) ∧ (i = 6 → v ≤ 1000) ∧ (i = 7 → v ≤ 2) ∧ (i = 8 → 1 ≤ v ∧ v ≤ 30)) : pV (z_upF s i v) :=
  h.up hv ⟨fun q => hc.1 (by omega), hc.2.1, hc.2.2.1, hc.2.2.2.1, hc.2.2.2.2.1, hc.2.2.2.2.2, fun p _ _ => ⟨fun q => by omega, fun q => by omega⟩, fun q => by omega, fun q => by omega⟩
theorem pZr_v {s : Int → Int} (h : pV s) : pV (pZr s 12) := by
  obtain ⟨g, a, b, c, e⟩ := h
  have lo : ∀ j, j < 192 → pZr s 12 j = s j := fun j q => by unfold pZr; rw [if_neg (by omega)]
  have hi : ∀ j, (pZr s 12 j = 0) ∨ pZr s 12 j = s j := fun j => by unfold pZr; split; exact Or.inl rfl; exact Or.inr rfl
  refine ⟨fun j => ?_, ?_, fun p p1 p2 => ?_, fun j j1 j2 => by rw [lo j (by omega)]; exact c j j1 j2, fun j j1 j2 => ?_⟩
  · have := g j; rcases hi j with q | q <;> rw [q] <;> omega
  · rw [lo 0 (by omega), lo 1 (by omega), lo 2 (by omega), lo 3 (by omega), lo 4 (by omega), lo 5 (by omega), lo 6 (by omega), lo 7 (by omega), lo 8 (by omega)]; exact a
  · rw [lo _ (by omega), lo _ (by omega), lo _ (by omega)]; exact b p p1 p2
  · have := e j j1 j2; rcases hi j with q | q <;> rw [q] <;> omega
theorem pOv_v {s : Int → Int} (h : pV s) : pV (pOv s) := by
  unfold pOv
  exact ((((((pZr_v h).hd (i := 1) (v := 0) (by omega) (by omega) (by omega)).hd (i := 2) (v := 0) (by omega) (by omega) (by omega)).hd (i := 3) (v := 0) (by omega) (by omega) (by omega)).hd (i := 4) (v := 0) (by omega) (by omega) (by omega)).hd (i := 5) (v := 0) (by omega) (by omega) (by omega))
theorem pOv_n {s : Int → Int} {j : Int} (h : j < 1 ∨ (5 < j ∧ j < 192) ∨ 204 ≤ j) : pOv s j = s j := by
  unfold pOv
  rw [z_upF_n (by omega), z_upF_n (by omega), z_upF_n (by omega), z_upF_n (by omega), z_upF_n (by omega)]
  unfold pZr
  rw [if_neg (by omega)]
theorem pOv_1 {s : Int → Int} : pOv s 1 = 0 := by
  unfold pOv
  rw [z_upF_n (by omega), z_upF_n (by omega), z_upF_n (by omega), z_upF_n (by omega), z_upF_s]
theorem pI.over {B : Int} {s : Int → Int} (hV : pV s) (h2 : pSy s) (h3 : pZ s) (hc : s 9 ≤ B ∧ s 10 ≤ B ∧ s 11 ≤ B) : pI B (pOv s) := by
  refine ⟨pOv_v hV, h2.of (fun j q1 q2 => pOv_n (by omega)) (by rw [pOv_n (by omega)]; exact Int.le_refl _), fun j hj => by rw [pOv_n (by omega)]; exact h3 j hj, by rw [pOv_n (by omega), pOv_n (by omega), pOv_n (by omega)]; exact hc, fun q => ?_⟩
  rw [pOv_1] at q
  omega
theorem pWa_v {s : Int → Int} (h : pV s) (h10 : s 10 < 100000) : pV (pWa s) := by
  have g := h.g 10
  unfold pWa
  split
  · split
    · exact ((h.hd (i := 10) (v := s 10 + 1) (by omega) (by omega) (by omega)).dr (by omega)).hd (by omega) (by omega) (by omega)
    · exact h.hd (by omega) (by omega) (by omega)
  · exact h.hd (by omega) (by omega) (by omega)
theorem pWa_n {s : Int → Int} {j : Int} (h : j < 5 ∨ (6 < j ∧ j ≠ 10)) : pWa s j = s j := by
  unfold pWa
  split
  · split
    · rw [z_upF_n (by omega), pDr_n (by omega), z_upF_n (by omega)]
    · rw [z_upF_n (by omega)]
  · rw [z_upF_n (by omega)]
theorem pWa_10 {s : Int → Int} : s 10 ≤ pWa s 10 ∧ pWa s 10 ≤ s 10 + 1 := by
  unfold pWa
  split
  · split
    · rw [z_upF_n (by omega), pDr_n (by omega), z_upF_s]; omega
    · rw [z_upF_n (by omega)]; omega
  · rw [z_upF_n (by omega)]; omega
/-- the end of an update -/
theorem pUp2_i {B : Int} {s : Int → Int} (hV : pV s) (h2 : pSy s) (h3 : pZ s) (hc : s 9 ≤ B + 1 ∧ s 10 ≤ B ∧ s 11 ≤ B + 1) (hB : B < 100000) (ht : 1 ≤ s 2 ∧ s 2 ≤ s 1) (hr : ∀ i, 0 ≤ i → i < s 1 → s (192 + i) < s 0) : pI (B + 1) (pUp2 s) := by
  unfold pUp2
  split
  · exact pI.over hV h2 h3 ⟨by omega, by omega, by omega⟩
  · rename_i ne
    have w := pWa_10 (s := s)
    refine ⟨pWa_v hV (by omega), h2.of (fun j q1 q2 => pWa_n (by omega)) (by rw [pWa_n (by omega)]; exact Int.le_refl _), fun j hj => by rw [pWa_n (by omega)]; exact h3 j hj, ⟨by rw [pWa_n (by omega)]; omega, by omega, by rw [pWa_n (by omega)]; omega⟩, fun _ => ?_⟩
    rw [pWa_n (j := 2) (by omega), pWa_n (j := 1) (by omega), pWa_n (j := 0) (by omega)]
    exact ⟨ht.1, by omega, fun i i1 i2 => by rw [pWa_n (by omega)]; exact hr i i1 i2⟩
theorem pUpd_i {B : Int} {s : Int → Int} {x y : Int} (h : pI B s) (hB : B < 100000) : pI (B + 1) (pUpd s x y).2.2 := by
  have h' := h.mono (C := B + 1) (by omega)
  obtain ⟨hV, h2, h3, hc, h5⟩ := h
  have g10 := hV.g 10
  unfold pUpd
  split
  · exact h'
  rename_i e1
  split
  · exact h'
  rename_i e2
  split
  · exact h'
  have p := pPl_b (Decidable.not_not.mp e1)
  have tk := h5 (Decidable.not_not.mp e2)
  have hU := pUp0_v (x := x) (y := y) hV p.1 p.2 (by omega)
  have v := hV.h
  have u : ∀ j, j ≠ 3 ∧ j ≠ 4 ∧ j ≠ 9 ∧ j ≠ 6 → pUp0 s x y j = s j := fun j q => pUp0_n q
  have u9 : pUp0 s x y 9 = s 9 + 1 := by unfold pUp0; rw [pDr_n (by omega), z_upF_s]
  have sy := h2.of (s' := pUp0 s x y) (fun j q1 q2 => u j (by omega)) (by rw [u 0 (by omega)]; exact Int.le_refl _)
  have sz : pZ (pUp0 s x y) := fun j hj => by rw [u j (by omega)]; exact h3 j hj
  have rt : ∀ i, 0 ≤ i → i < pUp0 s x y 1 → pUp0 s x y (192 + i) < pUp0 s x y 0 := fun i i1 i2 => by
    rw [u 1 (by omega)] at i2
    rw [u _ (by omega), u 0 (by omega)]
    exact tk.2.2 i i1 i2
  have e0 := u 0 (by omega); have ee1 := u 1 (by omega); have ee2 := u 2 (by omega); have e10 := u 10 (by omega); have e11 := u 11 (by omega)
  split
  · have w : ∀ j, j ≠ 11 ∧ j ≠ 2 ∧ j ≠ 6 → pUp1 (pUp0 s x y) j = pUp0 s x y j := fun j q => pUp1_n q
    have w11 : pUp1 (pUp0 s x y) 11 = pUp0 s x y 11 + 1 := by unfold pUp1; rw [z_upF_n (by omega), pDr_n (by omega), z_upF_s]
    have w2 : pUp1 (pUp0 s x y) 2 = pUp0 s x y 2 + 1 := pUp1_2
    refine pUp2_i (pUp1_v hU (by omega) (by omega)) (sy.of (fun j q1 q2 => w j (by omega)) (by rw [w 0 (by omega)]; exact Int.le_refl _)) (fun j hj => by rw [w j (by omega)]; exact sz j hj) ⟨by rw [w 9 (by omega)]; omega, by rw [w 10 (by omega)]; omega, by omega⟩ hB ?_ ?_
    · rw [w2, w 1 (by omega)]; omega
    · intro i i1 i2
      rw [w 1 (by omega)] at i2
      rw [w _ (by omega), w 0 (by omega)]
      exact rt i i1 i2
  · exact pUp2_i hU sy sz ⟨by omega, by omega, by omega⟩ hB (by omega) rt
theorem pStop_i {B : Int} {s : Int → Int} (h : pI B s) : pI (B + 1) (pStop s).2.2 := by
  have h' := h.mono (C := B + 1) (by omega)
  unfold pStop
  split
  · exact h'
  · exact pI.over h'.1 h'.2.1 h'.2.2.1 h'.2.2.2.1
theorem pTell_i {B : Int} {s : Int → Int} {w v a b : Int} (h : pI B s) (hw : w = 7 ∧ a = 0 ∧ b = 2 ∨ w = 8 ∧ a = 1 ∧ b = 30) : pI (B + 1) (pTell s w v a b).2.2 := by
  have h' := h.mono (C := B + 1) (by omega)
  unfold pTell
  split
  · exact h'
  · rename_i e
    have e1 := pIn_iff.mp (Decidable.not_not.mp e)
    have c := h'.2.2.2.1
    exact h'.hdr (h'.1.hd (by omega) (by omega) (by omega)) (fun j hj => z_upF_n (by omega)) ⟨by dsimp only; rw [z_upF_n (by omega)]; exact c.1, by dsimp only; rw [z_upF_n (by omega)]; exact c.2.1, by dsimp only; rw [z_upF_n (by omega)]; exact c.2.2⟩
theorem pChg_i {B : Int} {s : Int → Int} {u : Int} (h : pI B s) : pI (B + 1) (pChg s u).2.2 := by
  have h' := h.mono (C := B + 1) (by omega)
  unfold pChg
  split
  · exact h'
  · rename_i e
    have e1 := pIn_iff.mp (Decidable.not_not.mp e)
    have c := h'.2.2.2.1
    have v := h'.1.h
    have b : 0 ≤ pChN s u ∧ pChN s u ≤ 1000 := by unfold pChN; split <;> omega
    exact h'.hdr (h'.1.hd (by omega) (by omega) (by omega)) (fun j hj => z_upF_n (by omega)) ⟨by dsimp only; rw [z_upF_n (by omega)]; exact c.1, by dsimp only; rw [z_upF_n (by omega)]; exact c.2.1, by dsimp only; rw [z_upF_n (by omega)]; exact c.2.2⟩
theorem pSet_n {s : Int → Int} {a b v j : Int} (h : j ≠ 48 + 12 * a + b ∧ j ≠ 48 + 12 * b + a) : pSet s a b v j = s j := by
  unfold pSet
  rw [z_upF_n h.2, z_upF_n h.1]
theorem pSet_t {s : Int → Int} {a b v x y : Int} (ha : pR a) (hb : pR b) (hx : pR x) (hy : pR y) : pTr (pSet s a b v) x y = if (x = a ∧ y = b) ∨ (x = b ∧ y = a) then v else pTr s x y := by
  have := ha.1; have := ha.2; have := hb.1; have := hb.2; have := hx.1; have := hx.2; have := hy.1; have := hy.2
  unfold pTr pSet z_upF
  by_cases e1 : x = b ∧ y = a
  · rw [if_pos (by omega), if_pos (Or.inr e1)]
  · rw [if_neg (by omega)]
    try dsimp only
    by_cases e2 : x = a ∧ y = b
    · rw [if_pos (by omega), if_pos (Or.inl e2)]
    · rw [if_neg (by omega), if_neg (by omega)]
theorem pI.set {B : Int} {s : Int → Int} {a b v : Int} (h : pI B s) (ha : 0 ≤ a ∧ a < s 0) (hb : 0 ≤ b ∧ b < s 0) (hab : a ≠ b) (hv : 0 ≤ v ∧ v ≤ 99) : pI B (pSet s a b v) := by
  obtain ⟨hV, h2, h3, hc, h5⟩ := h
  have vh := hV.h
  have ra : pR a := ⟨by omega, by omega⟩
  have rb : pR b := ⟨by omega, by omega⟩
  have n : ∀ j, (j < 48 ∨ 192 ≤ j) → pSet s a b v j = s j := fun j hj => pSet_n (by omega)
  refine ⟨hV.set (by omega) (by omega) hv, fun x y hx hy => ?_, fun j hj => by rw [n j (by omega)]; exact h3 j hj, by rw [n 9 (by omega), n 10 (by omega), n 11 (by omega)]; exact hc, fun q => ?_⟩
  · rw [pSet_t ra rb hx hy, pSet_t ra rb hy hx, n 0 (by omega)]
    obtain ⟨q1, q2⟩ := h2 x y hx hy
    by_cases e : (x = a ∧ y = b) ∨ (x = b ∧ y = a)
    · rw [if_pos e, if_pos (by omega)]
      exact ⟨rfl, fun _ => by omega⟩
    · rw [if_neg e, if_neg (by omega)]
      exact ⟨q1, q2⟩
  · rw [n 1 (by omega)] at q
    rw [n 2 (by omega), n 1 (by omega), n 0 (by omega)]
    obtain ⟨t1, t2, t3⟩ := h5 q
    exact ⟨t1, t2, fun i i1 i2 => by rw [n _ (by omega)]; exact t3 i i1 i2⟩
theorem pJoin_i {B : Int} {s : Int → Int} {a b v : Int} (h : pI B s) : pI (B + 1) (pJoin s a b v).2.2 := by
  have h' := h.mono (C := B + 1) (by omega)
  unfold pJoin
  split
  · exact h'
  rename_i e1
  split
  · exact h'
  rename_i e2
  split
  · exact h'
  obtain ⟨p1, p2⟩ := Decidable.not_not.mp e1
  have q1 := pPt_b p1 h.1
  have q2 := pPt_b p2 h.1
  have q3 : pIn v 1 99 = true := Decidable.not_not.mp (fun z => e2 (Or.inr z))
  have q4 := pIn_iff.mp q3
  exact h'.set (by omega) (by omega) (fun z => e2 (Or.inl z)) (by omega)
theorem pCut_i {B : Int} {s : Int → Int} {a b : Int} (h : pI B s) : pI (B + 1) (pCut s a b).2.2 := by
  have h' := h.mono (C := B + 1) (by omega)
  unfold pCut
  split
  · exact h'
  rename_i e1
  split
  · exact h'
  rename_i e2
  obtain ⟨p1, p2⟩ := Decidable.not_not.mp e1
  have q1 := pPt_b p1 h.1
  have q2 := pPt_b p2 h.1
  have v := h.1.tr (a := a) (b := b) (by omega) (by omega)
  have := (h.2.1 a b ⟨by omega, by omega⟩ ⟨by omega, by omega⟩).2 (by omega)
  exact h'.set (by omega) (by omega) this.2.2 (by omega)
theorem pAdd_i {B : Int} {s : Int → Int} {x y r : Int} (h : pI B s) : pI (B + 1) (pAdd s x y r).2.2 := by
  have h' := h.mono (C := B + 1) (by omega)
  unfold pAdd
  split
  · exact h'
  rename_i e1
  split
  · exact h'
  rename_i e2
  obtain ⟨p1, p2⟩ := Decidable.not_not.mp e1
  have q1 := pPl_b p1
  have q2 := pIn_iff.mp p2
  obtain ⟨hV, h2, h3, hc, h5⟩ := h'
  have v := hV.h
  have n : ∀ j, j ≠ 0 → (j < 12 ∨ 48 ≤ j) → z_upF (z_upF (z_upF (z_upF s (12 + 3 * s 0) x) (12 + 3 * s 0 + 1) y) (12 + 3 * s 0 + 2) r) 0 (s 0 + 1) j = s j := fun j hj hk => by
    rw [z_upF_n (by omega), z_upF_n (by omega), z_upF_n (by omega), z_upF_n (by omega)]
  dsimp only
  refine ⟨?_, h2.of (fun j q1 q2 => n j (by omega) (by omega)) (by rw [z_upF_s]; omega), fun j hj => by rw [n j (by omega) (by omega)]; exact h3 j hj, by rw [n 9 (by omega) (by omega), n 10 (by omega) (by omega), n 11 (by omega) (by omega)]; exact hc, fun q => ?_⟩
  · exact (((hV.up (i := 12 + 3 * s 0) (v := x) (by omega) (by refine ⟨?_, ?_, ?_, ?_, ?_, ?_, fun p _ _ => ?_, ?_, ?_⟩ <;> omega)).up (i := 12 + 3 * s 0 + 1) (v := y) (by omega) (by refine ⟨?_, ?_, ?_, ?_, ?_, ?_, fun p _ _ => ?_, ?_, ?_⟩ <;> omega)).up (i := 12 + 3 * s 0 + 2) (v := r) (by omega) (by refine ⟨?_, ?_, ?_, ?_, ?_, ?_, fun p _ _ => ?_, ?_, ?_⟩ <;> omega)).hd (by omega) (by omega) (by omega)
  · rw [n 1 (by omega) (by omega)] at q
    rw [n 2 (by omega) (by omega), n 1 (by omega) (by omega), z_upF_s]
    obtain ⟨t1, t2, t3⟩ := h5 q
    exact ⟨t1, t2, fun i i1 i2 => by rw [n _ (by omega) (by omega)]; have := t3 i i1 i2; omega⟩
theorem pPath_r {I : Int} {s f : Int → Int} {to : Int} (hV : pV s) (hY : pSy s) (ht : pR to) (hf : pDist I s to f) : ∀ (k : Nat) (p : Int), pR p → p < s 0 → f p < I → ∀ x ∈ pPath s f to k p, 0 ≤ x ∧ x < s 0 := by
  intro k
  induction k with
  | zero => intro p hp h0 _ x hx; rw [pPath, List.mem_singleton] at hx; rw [hx]; exact ⟨hp.1, h0⟩
  | succ k ih =>
    intro p hp h0 hl x hx
    unfold pPath at hx
    split at hx
    · rw [List.mem_singleton] at hx; rw [hx]; exact ⟨hp.1, h0⟩
    · rename_i e
      have ok := pFo_ok hV hY hf hp e hl
      rcases List.mem_cons.mp hx with q | q
      · rw [q]; exact ⟨hp.1, h0⟩
      · exact ih _ ok.1 ok.2.1 (by omega) x q
theorem pTo_n {s : Int → Int} {l : List Int} {x y j : Int} (h : j < 1 ∨ (5 < j ∧ j < 192) ∨ 192 + l.length ≤ j) : pTo s l x y j = s j := by
  unfold pTo
  rw [z_upF_n (by omega), z_upF_n (by omega), z_upF_n (by omega), z_upF_n (by omega), z_upF_n (by omega)]
  unfold pWr
  rw [if_neg (by omega)]
theorem pTo_1 {s : Int → Int} {l : List Int} {x y : Int} : pTo s l x y 1 = l.length ∧ pTo s l x y 2 = 1 ∧ pTo s l x y 3 = x ∧ pTo s l x y 4 = y ∧ pTo s l x y 5 = 0 := by
  unfold pTo
  refine ⟨?_, ?_, ?_, ?_, z_upF_s⟩
  · rw [z_upF_n (by omega), z_upF_n (by omega), z_upF_n (by omega), z_upF_n (by omega), z_upF_s]
  · rw [z_upF_n (by omega), z_upF_n (by omega), z_upF_n (by omega), z_upF_s]
  · rw [z_upF_n (by omega), z_upF_n (by omega), z_upF_s]
  · rw [z_upF_n (by omega), z_upF_s]
theorem pTo_r {s : Int → Int} {l : List Int} {x y : Int} {i : Nat} (hi : i < l.length) : pTo s l x y (192 + i) = l.getD i 0 := by
  unfold pTo
  rw [z_upF_n (by omega), z_upF_n (by omega), z_upF_n (by omega), z_upF_n (by omega), z_upF_n (by omega)]
  unfold pWr
  rw [if_pos (by omega), show (192 + (i : Int) - 192).toNat = i by omega]
theorem pTour_i {B : Int} {s : Int → Int} {a b : Int} (h : pI B s) (hd : pDist 99999 s b (pFr 99999 s b) ∨ ¬ (pPt s a = true ∧ pPt s b = true)) : pI (B + 1) (pTour s a b).2.2 := by
  have h' := h.mono (C := B + 1) (by omega)
  unfold pTour
  split
  · exact h'
  rename_i e1
  split
  · exact h'
  rename_i e2
  split
  · exact h'
  split
  · exact h'
  rename_i e4
  have e1' := Decidable.not_not.mp e1
  obtain ⟨p1, p2⟩ := e1'
  have hf := hd.resolve_right (fun z => z ⟨p1, p2⟩)
  obtain ⟨hV, h2, h3, hc, h5⟩ := h'
  have q1 := pPt_b p1 hV
  have q2 := pPt_b p2 hV
  have ra : pR a := ⟨by omega, by omega⟩
  have rb : pR b := ⟨by omega, by omega⟩
  have lt : pFr 99999 s b a < 99999 := by omega
  have hx := hV.x (p := a) (by omega)
  have hy := hV.y (p := a) (by omega)
  have rk := pRk_b (f := pFr 99999 s b) ra
  have ln : (pRoute s a b).length ≤ 12 := pPath_le hV h2 rb hf 12 a ra lt rk.2
  have mem : ∀ x ∈ pRoute s a b, 0 ≤ x ∧ x < s 0 := pPath_r hV h2 rb hf 12 a ra (by omega) lt
  have l2 : 2 ≤ (pRoute s a b).length := by
    unfold pRoute
    rw [pPath, if_neg e2]
    have := pPath_ne (s := s) (f := pFr 99999 s b) (to := b) 11 (pFo s (pFr 99999 s b) a)
    simp only [List.length_cons]
    omega
  have vh := hV.h
  have n : ∀ j, (j < 1 ∨ (5 < j ∧ j < 192) ∨ 204 ≤ j) → pTo s (pRoute s a b) (pOf s a 0) (pOf s a 1) j = s j := fun j hj => pTo_n (by omega)
  dsimp only
  refine ⟨?_, h2.of (fun j q1 q2 => n j (by omega)) (by rw [n 0 (by omega)]; exact Int.le_refl _), fun j hj => by rw [n j (by omega)]; exact h3 j hj, by rw [n 9 (by omega), n 10 (by omega), n 11 (by omega)]; exact hc, fun q => ?_⟩
  · unfold pTo
    exact (((((pWr_v hV (fun x hx => ⟨(mem x hx).1, by have := (mem x hx).2; omega⟩)).hd (i := 1) (v := (pRoute s a b).length) (by omega) (by omega) (by omega)).hd (i := 2) (v := 1) (by omega) (by omega) (by omega)).hd (i := 3) (v := pOf s a 0) (by omega) (by omega) (by omega)).hd (i := 4) (v := pOf s a 1) (by omega) (by omega) (by omega)).hd (i := 5) (v := 0) (by omega) (by omega) (by omega)
  · have t := pTo_1 (s := s) (l := pRoute s a b) (x := pOf s a 0) (y := pOf s a 1)
    rw [t.2.1, t.1, n 0 (by omega)]
    refine ⟨by omega, by omega, fun i i1 i2 => ?_⟩
    obtain ⟨k, rfl⟩ : ∃ k : Nat, i = k := ⟨i.toNat, by omega⟩
    rw [pTo_r (by omega)]
    have := mem ((pRoute s a b).getD k 0) (by rw [List.getD_eq_getElem?_getD, List.getElem?_eq_getElem (by omega)]; exact List.getElem_mem _)
    exact this.2
/-- a command's doing -/
noncomputable def pEx (s : Int → Int) (X : pI4) : Int × Int × (Int → Int) := if X.1 = 112 then pAdd s X.2.1 X.2.2.1 X.2.2.2 else if X.1 = 116 then pJoin s X.2.1 X.2.2.1 X.2.2.2 else if X.1 = 99 then pCut s X.2.1 X.2.2.1 else if X.1 = 111 then pTour s X.2.1 X.2.2.1 else if X.1 = 109 then pTell s 7 X.2.1 0 2 else if X.1 = 108 then pTell s 8 X.2.1 1 30 else if X.1 = 104 then pChg s X.2.1 else if X.1 = 118 then pUpd s X.2.1 X.2.2.1 else pStop s
theorem pEx_t {s : Int → Int} {X : pI4} : 0 ≤ (pEx s X).1 ∧ (pEx s X).1 ≤ 4 := by
  unfold pEx
  (repeat' split) <;> first | exact pAdd_t | exact pJoin_t | exact pCut_t | exact pTour_t | exact pTell_t | exact pChg_t | exact pUpd_t | exact pStop_t
theorem pEx_i {B : Int} {s : Int → Int} {X : pI4} (h : pI B s) (hB : B < 100000) (hd : X.1 = 111 → pDist 99999 s X.2.2.1 (pFr 99999 s X.2.2.1) ∨ ¬ (pPt s X.2.1 = true ∧ pPt s X.2.2.1 = true)) : pI (B + 1) (pEx s X).2.2 := by
  unfold pEx
  split
  · exact pAdd_i h
  split
  · exact pJoin_i h
  split
  · exact pCut_i h
  split
  · rename_i e; exact pTour_i h (hd e)
  split
  · exact pTell_i h (Or.inl ⟨rfl, rfl, rfl⟩)
  split
  · exact pTell_i h (Or.inr ⟨rfl, rfl, rfl⟩)
  split
  · exact pChg_i h
  split
  · exact pUpd_i h hB
  · exact pStop_i h
theorem pAdd_n {s : Int → Int} {x y r : Int} (h : (pAdd s x y r).1 ≠ 0) : (pAdd s x y r).2.2 = s := by
  revert h
  unfold pAdd
  (repeat' split) <;> intro h <;> first | rfl | exact absurd rfl h
theorem pJoin_n {s : Int → Int} {a b v : Int} (h : (pJoin s a b v).1 ≠ 0) : (pJoin s a b v).2.2 = s := by
  revert h
  unfold pJoin
  (repeat' split) <;> intro h <;> first | rfl | exact absurd rfl h
theorem pCut_n {s : Int → Int} {a b : Int} (h : (pCut s a b).1 ≠ 0) : (pCut s a b).2.2 = s := by
  revert h
  unfold pCut
  (repeat' split) <;> intro h <;> first | rfl | exact absurd rfl h
theorem pStop_n {s : Int → Int}  (h : (pStop s).1 ≠ 0) : (pStop s).2.2 = s := by
  revert h
  unfold pStop
  (repeat' split) <;> intro h <;> first | rfl | exact absurd rfl h
theorem pUpd_n {s : Int → Int} {x y : Int} (h : (pUpd s x y).1 ≠ 0) : (pUpd s x y).2.2 = s := by
  revert h
  unfold pUpd
  (repeat' split) <;> intro h <;> first | rfl | exact absurd rfl h
theorem pChg_n {s : Int → Int} {u : Int} (h : (pChg s u).1 ≠ 0) : (pChg s u).2.2 = s := by
  revert h
  unfold pChg
  (repeat' split) <;> intro h <;> first | rfl | exact absurd rfl h
theorem pTell_n {s : Int → Int} {w v a b : Int} (h : (pTell s w v a b).1 ≠ 0) : (pTell s w v a b).2.2 = s := by
  revert h
  unfold pTell
  (repeat' split) <;> intro h <;> first | rfl | exact absurd rfl h
theorem pTour_n {s : Int → Int} {a b : Int} (h : (pTour s a b).1 ≠ 0) : (pTour s a b).2.2 = s := by
  revert h
  unfold pTour
  (repeat' split) <;> intro h <;> first | rfl | exact absurd rfl h
/-- a thrown one leaves the row -/
theorem pEx_n {s : Int → Int} {X : pI4} (h : (pEx s X).1 ≠ 0) : (pEx s X).2.2 = s := by
  revert h
  unfold pEx
  split
  · exact pAdd_n
  split
  · exact pJoin_n
  split
  · exact pCut_n
  split
  · exact pTour_n
  split
  · exact pTell_n
  split
  · exact pTell_n
  split
  · exact pChg_n
  split
  · exact pUpd_n
  · exact pStop_n
