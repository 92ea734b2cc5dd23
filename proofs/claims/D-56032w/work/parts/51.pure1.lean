set_option maxRecDepth 100000
/-! ===== plain law: what the component computes is what the reference tells (distances) ===== -/
theorem pDist_rk {I : Int} {s : Int → Int} {src : Int} {f : Int → Int} (hV : pV s) (hd : pDist I s src f) : ∀ (n : Nat) (v : Int), pR v → f v < I → pRk f v ≤ n → f v ≤ 99 * n := by
  intro n
  induction n with
  | zero =>
    intro v hv hl hk
    by_cases e : v = src
    · subst e; rw [hd.1]; omega
    · obtain ⟨u, h1, h2, h3⟩ := hd.2.2.2 v hv e hl
      have := pRk_lt (f := f) (p := v) h1 (by omega)
      have := (pRk_b (f := f) h1).1
      omega
  | succ n ih =>
    intro v hv hl hk
    by_cases e : v = src
    · subst e; rw [hd.1]; omega
    · obtain ⟨u, h1, h2, h3⟩ := hd.2.2.2 v hv e hl
      have := pRk_lt (f := f) (p := v) h1 (by omega)
      have := ih u h1 (by omega) (by omega)
      have := (hV.tr h1 hv).2
      omega
theorem pDist_b {I : Int} {s : Int → Int} {src : Int} {f : Int → Int} (hV : pV s) (hd : pDist I s src f) {v : Int} (hv : pR v) (hl : f v < I) : f v ≤ 1089 := by
  have := pDist_rk hV hd 11 v hv hl (by have := (pRk_b (f := f) hv).2; omega)
  omega
/-- the component's distances, with the reference's mark for none -/
def pCv (f : Int → Int) : Int → Int := fun v => if f v = 1000000 then 99999 else f v
theorem pDist_cv {s : Int → Int} {src : Int} {f : Int → Int} (hV : pV s) (hs : pR src) (hd : pDist 1000000 s src f) : pDist 99999 s src (pCv f) := by
  have hb : ∀ v, pR v → f v ≠ 1000000 → f v ≤ 1089 := fun v hv hn => pDist_b hV hd hv (by have := (hd.2.1 v hv).2; omega)
  refine ⟨?_, fun v hv => ?_, fun u v hu hv ht => ?_, fun v hv hn hl => ?_⟩
  · unfold pCv; rw [hd.1]; rfl
  · unfold pCv
    have := (hd.2.1 v hv).1
    by_cases e : f v = 1000000
    · rw [if_pos e]; omega
    · rw [if_neg e]; have := hb v hv e; omega
  · unfold pCv
    have t := hV.tr hu hv
    have := hd.2.2.1 u v hu hv ht
    by_cases e : f u = 1000000
    · rw [if_pos e]
      by_cases e2 : f v = 1000000
      · rw [if_pos e2]; omega
      · rw [if_neg e2]; have := hb v hv e2; omega
    · rw [if_neg e]
      have := hb u hu e
      rw [if_neg (by omega)]
      exact hd.2.2.1 u v hu hv ht
  · unfold pCv at hl ⊢
    by_cases e : f v = 1000000
    · rw [if_pos e] at hl; omega
    · rw [if_neg e] at hl ⊢
      obtain ⟨u, h1, h2, h3⟩ := hd.2.2.2 v hv hn (by have := (hd.2.1 v hv).2; omega)
      have := hb v hv e
      exact ⟨u, h1, h2, by rw [if_neg (by omega)]; exact h3⟩
theorem pCv_eq {s : Int → Int} {src : Int} {f : Int → Int} (hV : pV s) (hs : pR src) (hd : pDist 1000000 s src f) {v : Int} (hv : pR v) : pCv f v = pFr 99999 s src v := pFr_eq hs (pDist_cv hV hs hd) hv
theorem pCv_lt {s : Int → Int} {src : Int} {f : Int → Int} (hV : pV s) (hs : pR src) (hd : pDist 1000000 s src f) {v : Int} (hv : pR v) : f v < 1000000 ↔ pFr 99999 s src v < 99999 := by
  rw [← pCv_eq hV hs hd hv]
  unfold pCv
  by_cases e : f v = 1000000
  · rw [if_pos e]; omega
  · rw [if_neg e]
    have h1 := (hd.2.1 v hv).2
    have := pDist_b hV hd hv (by omega)
    omega
theorem pCv_v {s : Int → Int} {src : Int} {f : Int → Int} (hV : pV s) (hs : pR src) (hd : pDist 1000000 s src f) {v : Int} (hv : pR v) (hl : f v < 1000000) : f v = pFr 99999 s src v := by
  rw [← pCv_eq hV hs hd hv]
  unfold pCv
  rw [if_neg (by omega)]
/-! ===== visits ===== -/
/-- the trails of w tried among the first n, with base b -/
def pVis (s : Int → Int) (n w b : Int) (f : Int → Int) : Int → Int := fun j => if 0 ≤ j ∧ j < n ∧ 0 < pTr s w j then min (f j) (b + pTr s w j) else f j
theorem pVis_0 {s : Int → Int} {w b : Int} {f : Int → Int} : pVis s 0 w b f = f := by
  funext j; unfold pVis; rw [if_neg (by omega)]
theorem pVis_s {s : Int → Int} {n w b : Int} {f : Int → Int} (hn : 0 ≤ n) (ht : 0 < pTr s w n) : z_upF (pVis s n w b f) n (min (pVis s n w b f n) (b + pTr s w n)) = pVis s (n + 1) w b f := by
  funext j
  unfold pVis z_upF
  by_cases h : j = n
  · subst h
    rw [if_pos rfl, if_neg (show ¬ (0 ≤ j ∧ j < j ∧ 0 < pTr s w j) by omega), if_pos (show 0 ≤ j ∧ j < j + 1 ∧ 0 < pTr s w j by omega)]
  · rw [if_neg h]
    dsimp only
    by_cases h2 : 0 ≤ j ∧ j < n ∧ 0 < pTr s w j
    · rw [if_pos h2, if_pos (by omega)]
    · rw [if_neg h2, if_neg (by omega)]
theorem pVis_k {s : Int → Int} {n w b : Int} {f : Int → Int} (ht : ¬ 0 < pTr s w n) : pVis s n w b f = pVis s (n + 1) w b f := by
  funext j
  unfold pVis
  by_cases h2 : 0 ≤ j ∧ j < n ∧ 0 < pTr s w j
  · rw [if_pos h2, if_pos (by omega)]
  · rw [if_neg h2]
    by_cases h3 : 0 ≤ j ∧ j < n + 1 ∧ 0 < pTr s w j
    · exfalso
      have : j = n := by
        by_cases z : j < n
        · exact absurd ⟨h3.1, z, h3.2.2⟩ h2
        · omega
      subst this
      exact ht h3.2.2
    · rw [if_neg h3]
theorem pVis_le {s : Int → Int} {n w b : Int} {f : Int → Int} (j : Int) : pVis s n w b f j ≤ f j := by
  unfold pVis; split
  · exact Int.min_le_left _ _
  · exact Int.le_refl _
theorem pVis_t {s : Int → Int} {w b : Int} {f : Int → Int} (hY : pSy s) {v : Int} (hw : pR w) (hv : pR v) (ht : 0 < pTr s w v) : pVis s (s 0) w b f v ≤ b + pTr s w v := by
  unfold pVis
  rw [if_pos ⟨hv.1, ((hY w v hw hv).2 ht).2.1, ht⟩]
  exact Int.min_le_right _ _
theorem pVis_or {s : Int → Int} {n w b : Int} {f : Int → Int} (j : Int) : pVis s n w b f j = f j ∨ (0 < pTr s w j ∧ pVis s n w b f j = b + pTr s w j ∧ b + pTr s w j < f j) := by
  unfold pVis
  by_cases h : 0 ≤ j ∧ j < n ∧ 0 < pTr s w j
  · rw [if_pos h]
    rcases Int.lt_or_le (b + pTr s w j) (f j) with z | z
    · exact Or.inr ⟨h.2.2, Int.min_eq_right (by omega), z⟩
    · exact Or.inl (Int.min_eq_left z)
  · rw [if_neg h]; exact Or.inl rfl
theorem pInv.vis {I : Int} {s : Int → Int} {src : Int} {f : Int → Int} (h : pInv I s src f) {n w : Int} (hw : pR w) (hs : pR src) : pInv I s src (pVis s n w (f w) f) := by
  have h0 := (h.2.1 w hw).1
  refine ⟨?_, fun v hv => ?_, fun v hv hn hl => ?_⟩
  · rcases pVis_or (s := s) (n := n) (w := w) (b := f w) (f := f) src with e | ⟨e1, e2, e3⟩
    · rw [e]; exact h.1
    · rw [h.1] at e3; omega
  · have h1 := h.2.1 v hv
    rcases pVis_or (s := s) (n := n) (w := w) (b := f w) (f := f) v with e | ⟨e1, e2, e3⟩
    · rw [e]; exact h1
    · rw [e2]; omega
  · rcases pVis_or (s := s) (n := n) (w := w) (b := f w) (f := f) v with e | ⟨e1, e2, e3⟩
    · rw [e] at hl ⊢
      obtain ⟨u, h1, h2, h3⟩ := h.2.2 v hv hn hl
      exact ⟨u, h1, h2, Int.le_trans (Int.add_le_add_right (pVis_le u) _) h3⟩
    · rw [e2]
      exact ⟨w, hw, e1, Int.add_le_add_right (pVis_le w) _⟩
/-- one round of the relaxation -/
def pRnd (s : Int → Int) (f : Int → Int) : Nat → Int → Int
  | 0 => f
  | k + 1 => pVis s (s 0) k (pRnd s f k k) (pRnd s f k)
theorem pRnd_s {s f : Int → Int} {k : Nat} : pRnd s f (k + 1) = pVis s (s 0) k (pRnd s f k k) (pRnd s f k) := rfl
theorem pRnd_le {s f : Int → Int} (j : Int) : ∀ (a b : Nat), a ≤ b → pRnd s f b j ≤ pRnd s f a j := by
  intro a b h
  induction b with
  | zero => rw [show a = 0 by omega]; exact Int.le_refl _
  | succ b ih =>
    by_cases e : a = b + 1
    · rw [e]; exact Int.le_refl _
    · exact Int.le_trans (pVis_le j) (ih (by omega))
theorem pInv.rnd {I : Int} {s : Int → Int} {src : Int} {f : Int → Int} (h : pInv I s src f) (hs : pR src) : ∀ k : Nat, k ≤ 12 → pInv I s src (pRnd s f k) := by
  intro k
  induction k with
  | zero => intro _; exact h
  | succ k ih => intro hk; exact (ih (by omega)).vis ⟨by omega, by omega⟩ hs
theorem pSum_eq {f g : Nat → Int} (n : Nat) (h : ∀ i, i < n → f i ≤ g i) (e : pSum n f = pSum n g) : ∀ i, i < n → f i = g i := by
  intro i hi
  rcases Int.lt_or_le (f i) (g i) with z | z
  · have := pSum_lt n h ⟨i, hi, z⟩
    omega
  · have := h i hi
    omega
theorem pSum_c {f g : Nat → Int} : ∀ n : Nat, (∀ i, i < n → f i = g i) → pSum n f = pSum n g := by
  intro n
  induction n with
  | zero => intro _; rfl
  | succ n ih => intro h; unfold pSum; rw [ih (fun i hi => h i (by omega)), h n (by omega)]
/-- a round without a change: done -/
theorem pRnd_fix {I : Int} {s : Int → Int} {src : Int} {f : Int → Int} (hV : pV s) (hY : pSy s) (hs : pR src) (h : pInv I s src f) (e : pSum 12 (fun k => pRnd s f (s 0).toNat k) = pSum 12 (fun k => f k)) : pDist I s src f ∧ ∀ v, pR v → pRnd s f (s 0).toNat v = f v := by
  have v0 := hV.h
  have he : ∀ v, pR v → pRnd s f (s 0).toNat v = f v := fun v hv => by
    have := pSum_eq 12 (fun i _ => pRnd_le (s := s) (f := f) i 0 (s 0).toNat (Nat.zero_le _)) e v.toNat (by have := hv.1; have := hv.2; omega)
    rw [show ((v.toNat : Nat) : Int) = v by have := hv.1; omega] at this
    exact this
  have hm : ∀ (k : Nat) (v : Int), k ≤ (s 0).toNat → pR v → pRnd s f k v = f v := fun k v hk hv => by
    have a := pRnd_le (s := s) (f := f) v 0 k (Nat.zero_le _)
    have b := pRnd_le (s := s) (f := f) v k (s 0).toNat hk
    rw [he v hv] at b
    exact Int.le_antisymm a b
  refine ⟨h.dist fun u v hu hv ht => ?_, he⟩
  have hus := ((hY u v hu hv).2 ht).1
  have hu0 : ((u.toNat : Nat) : Int) = u := by have := hu.1; omega
  have a := hm (u.toNat + 1) v (by have := hu.1; omega) hv
  rw [pRnd_s, hu0] at a
  have b := pVis_t (s := s) (w := u) (b := pRnd s f u.toNat u) (f := pRnd s f u.toNat) hY hu hv ht
  rw [a, hm u.toNat u (by have := hu.1; omega) hu] at b
  exact b
theorem pInv.ge {I : Int} {s : Int → Int} {src : Int} {f g : Int → Int} (h : pInv I s src f) (hd : pDist I s src g) (hs : pR src) : ∀ (n : Nat) (v : Int), pR v → f v < n → g v ≤ f v := by
  intro n
  induction n with
  | zero => intro v hv hl; have := (h.2.1 v hv).1; omega
  | succ n ih =>
    intro v hv hl
    by_cases e : v = src
    · subst e; rw [h.1, hd.1]; exact Int.le_refl _
    · by_cases e2 : f v < I
      · obtain ⟨u, h1, h2, h3⟩ := h.2.2 v hv e e2
        have := ih u h1 (by omega)
        have := hd.2.2.1 u v h1 hv h2
        omega
      · have := (hd.2.1 v hv).2
        omega
theorem pInv.ge' {I : Int} {s : Int → Int} {src : Int} {f g : Int → Int} (h : pInv I s src f) (hd : pDist I s src g) (hs : pR src) {v : Int} (hv : pR v) : g v ≤ f v := h.ge hd hs ((f v).toNat + 1) v hv (by have := (h.2.1 v hv).1; omega)
/-- how many distances are right -/
def pEq (f g : Int → Int) : Int := pSum 12 (fun k => if f k = g k then 1 else 0)
theorem pEq_b {f g : Int → Int} : 0 ≤ pEq f g ∧ pEq f g ≤ 12 := by
  have h1 := pSum_nn (f := fun u : Nat => if f u = g u then (1 : Int) else 0) 12 (fun i _ => by (try dsimp only); split <;> omega)
  have h2 := pSum_le (f := fun u : Nat => if f u = g u then (1 : Int) else 0) (g := fun _ => 1) 12 (fun i _ => by (try dsimp only); split <;> omega)
  rw [pSum_const] at h2
  unfold pEq
  omega
theorem pRnd_more {I : Int} {s : Int → Int} {src : Int} {f g : Int → Int} (hV : pV s) (hY : pSy s) (hs : pR src) (h : pInv I s src f) (hd : pDist I s src g) (hne : ∃ v, pR v ∧ f v ≠ g v) : pEq f g < pEq (pRnd s f (s 0).toNat) g := by
  have v0 := hV.h
  have hi : pInv I s src (pRnd s f (s 0).toNat) := h.rnd hs _ (by omega)
  have hk : ∀ (k : Nat) (v : Int), k ≤ (s 0).toNat → pR v → f v = g v → pRnd s f k v = g v := fun k v hk hv e => by
    have a := pRnd_le (s := s) (f := f) v 0 k (Nat.zero_le _)
    have b := (h.rnd hs k (by omega)).ge' hd hs hv
    have a' : pRnd s f k v ≤ f v := a
    omega
  -- the nearest that is not right
  have key : ∀ (n : Nat) (v : Int), pR v → f v ≠ g v → g v < n → ∃ w, pR w ∧ f w ≠ g w ∧ pRnd s f (s 0).toNat w = g w := by
    intro n
    induction n with
    | zero => intro v hv _ hl; have := (hd.2.1 v hv).1; omega
    | succ n ih =>
      intro v hv hn hl
      have hns : v ≠ src := fun e => hn (by rw [e, h.1, hd.1])
      have hge := h.ge' hd hs hv
      obtain ⟨u, h1, h2, h3⟩ := hd.2.2.2 v hv hns (by have := (h.2.1 v hv).2; omega)
      by_cases e : f u = g u
      · refine ⟨v, hv, hn, ?_⟩
        have hu0 : ((u.toNat : Nat) : Int) = u := by have := h1.1; omega
        have hus := ((hY u v h1 hv).2 h2).1
        have b := pVis_t (s := s) (w := u) (b := pRnd s f u.toNat u) (f := pRnd s f u.toNat) hY h1 hv h2
        have a : pRnd s f (u.toNat + 1) v ≤ pRnd s f u.toNat u + pTr s u v := by rw [pRnd_s, hu0]; exact b
        rw [hk u.toNat u (by omega) h1 e] at a
        have c := pRnd_le (s := s) (f := f) v (u.toNat + 1) (s 0).toNat (by omega)
        have d := hi.ge' hd hs hv
        omega
      · exact ih u h1 e (by omega)
  obtain ⟨v, hv, hn⟩ := hne
  obtain ⟨w, w1, w2, w3⟩ := key ((g v).toNat + 1) v hv hn (by have := (hd.2.1 v hv).1; omega)
  unfold pEq
  refine pSum_lt 12 (fun i hi' => ?_) ⟨w.toNat, by have := w1.1; have := w1.2; omega, ?_⟩
  · (try dsimp only)
    by_cases e : f i = g i
    · rw [if_pos e, if_pos (hk _ _ (Nat.le_refl _) ⟨by omega, by omega⟩ e)]; exact Int.le_refl _
    · rw [if_neg e]; split <;> omega
  · have : ((w.toNat : Nat) : Int) = w := by have := w1.1; omega
    (try dsimp only)
    rw [this, if_neg w2, if_pos w3]; decide
theorem pEq_all {I : Int} {s : Int → Int} {src : Int} {f g : Int → Int} (hV : pV s) (hs : pR src) (h : pInv I s src f) (hd : pDist I s src g) (he : ¬ ∃ v, pR v ∧ f v ≠ g v) : pSum 12 (fun k => pRnd s f (s 0).toNat k) = pSum 12 (fun k => f k) := by
  have v0 := hV.h
  refine pSum_c 12 fun i hi => ?_
  have hv : pR i := ⟨by omega, by omega⟩
  have e : f i = g i := Classical.byContradiction fun z => he ⟨i, hv, z⟩
  have a := pRnd_le (s := s) (f := f) i 0 (s 0).toNat (Nat.zero_le _)
  have b := (h.rnd hs (s 0).toNat (by omega)).ge' hd hs hv
  have a' : pRnd s f (s 0).toNat i ≤ f i := a
  omega
