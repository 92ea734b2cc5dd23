set_option maxRecDepth 100000
/-! ===== what hangs together ===== -/
/-- q can be reached from p -/
def pCn (s : Int → Int) (p q : Int) : Prop := pFr 99999 s p q < 99999
theorem pCn.refl {s : Int → Int} {p : Int} (hp : pR p) : pCn s p p := by
  unfold pCn; rw [(pFr_d (I := 99999) (s := s) hp (by decide)).1]; decide
theorem pCn.edge {s : Int → Int} {p u v : Int} (hV : pV s) (hp : pR p) (hu : pR u) (hv : pR v) (h : pCn s p u) (ht : 0 < pTr s u v) : pCn s p v := by
  have hd := pFr_d (I := 99999) (s := s) hp (by decide)
  have := pDist_b hV hd hu h
  have := hd.2.2.1 u v hu hv ht
  have := (hV.tr hu hv).2
  unfold pCn
  omega
theorem pCn.least {s : Int → Int} {p : Int} {M : Int → Prop} (hp : pR p) (hM : M p) (hc : ∀ u v, pR u → pR v → M u → 0 < pTr s u v → M v) : ∀ (n : Nat) (v : Int), pR v → pCn s p v → pFr 99999 s p v < n → M v := by
  have hd := pFr_d (I := 99999) (s := s) hp (by decide)
  intro n
  induction n with
  | zero => intro v hv _ hl; have := (hd.2.1 v hv).1; omega
  | succ n ih =>
    intro v hv h hl
    by_cases e : v = p
    · rw [e]; exact hM
    · obtain ⟨u, h1, h2, h3⟩ := hd.2.2.2 v hv e h
      exact hc u v h1 hv (ih u h1 (by unfold pCn at h ⊢; omega) (by omega)) h2
theorem pCn.cl {s : Int → Int} {p : Int} {M : Int → Prop} (hp : pR p) (hM : M p) (hc : ∀ u v, pR u → pR v → M u → 0 < pTr s u v → M v) {v : Int} (hv : pR v) (h : pCn s p v) : M v :=
  pCn.least hp hM hc 99999 v hv h h
theorem pCn.trans {s : Int → Int} {p q v : Int} (hV : pV s) (hp : pR p) (hq : pR q) (hv : pR v) (h1 : pCn s p q) (h2 : pCn s q v) : pCn s p v :=
  pCn.cl (M := fun x => pCn s p x) hq h1 (fun _ _ hu hw hm ht => hm.edge hV hp hu hw ht) hv h2
theorem pCn.symm {s : Int → Int} {p q : Int} (hV : pV s) (hY : pSy s) (hp : pR p) (hq : pR q) (h : pCn s p q) : pCn s q p :=
  pCn.cl (M := fun x => pR x ∧ pCn s x p) hp ⟨hp, .refl hp⟩ (fun u w hu hw hm ht => ⟨hw, ((pCn.refl hw).edge hV hw hw hu (by rw [← (hY u w hu hw).1]; exact ht)).trans hV hw hu hp hm.2⟩) hq h |>.2
theorem pLow_iff {f : Int → Int} : ∀ n : Nat, pLow f n = true ↔ ∀ q : Int, 0 ≤ q → q < n → 99999 ≤ f q := by
  intro n
  induction n with
  | zero => exact ⟨fun _ q h1 h2 => by omega, fun _ => rfl⟩
  | succ n ih =>
    unfold pLow
    rw [Bool.and_eq_true, ih, decide_eq_true_eq]
    refine ⟨fun h q h1 h2 => ?_, fun h => ⟨fun q h1 h2 => h q h1 (by omega), h n (by omega) (by omega)⟩⟩
    by_cases e : q = n
    · rw [e]; exact h.2
    · exact h.1 q h1 (by omega)
/-- the marking from v on -/
def pMk (s : Int → Int) (M M' : Int → Bool) (v : Int) : Prop := (∀ x, M x = true → M' x = true) ∧ M' v = true ∧ (∀ x, M' x = true → M x = true ∨ (pR x ∧ pCn s v x)) ∧ ∀ x y, pR x → pR y → M' x = true → M x = false → 0 < pTr s x y → M' y = true
/-- the marking of v under way: the others before k are tried -/
def pMw (s : Int → Int) (M M' : Int → Bool) (v k : Int) : Prop := (∀ x, M x = true → M' x = true) ∧ M' v = true ∧ (∀ x, M' x = true → M x = true ∨ (pR x ∧ pCn s v x)) ∧ (∀ x y, pR x → pR y → M' x = true → M x = false → x ≠ v → 0 < pTr s x y → M' y = true) ∧ ∀ y, 0 ≤ y → y < k → 0 < pTr s v y → M' y = true
theorem pMw.ini {s : Int → Int} {M : Int → Bool} {v : Int} (hv : pR v) : pMw s M (z_upB M v true) v 0 := by
  have hh : ∀ x, z_upB M v true x = true → M x = true ∨ x = v := fun x h => by
    by_cases e : x = v
    · exact Or.inr e
    · rw [z_upB_n e] at h; exact Or.inl h
  refine ⟨fun x h => ?_, z_upB_s, fun x h => ?_, fun x y _ _ h1 h2 h3 _ => ?_, fun y h1 h2 => by omega⟩
  · by_cases e : x = v
    · rw [e]; exact z_upB_s
    · rw [z_upB_n e]; exact h
  · rcases hh x h with z | z
    · exact Or.inl z
    · rw [z]; exact Or.inr ⟨hv, .refl hv⟩
  · rcases hh x h1 with z | z
    · rw [h2] at z; cases z
    · exact absurd z h3
theorem pMw.skip {s : Int → Int} {M M' : Int → Bool} {v k : Int} (h : pMw s M M' v k) (hk : ¬ (0 < pTr s v k ∧ M' k = false)) : pMw s M M' v (k + 1) := by
  refine ⟨h.1, h.2.1, h.2.2.1, h.2.2.2.1, fun y h1 h2 ht => ?_⟩
  by_cases e : y = k
  · subst e
    cases z : M' y with
    | true => rfl
    | false => exact absurd ⟨ht, z⟩ hk
  · exact h.2.2.2.2 y h1 (by omega) ht
theorem pMw.sub {s : Int → Int} {M M' M'' : Int → Bool} {v k : Int} (hV : pV s) (hv : pR v) (hkk : pR k) (h : pMw s M M' v k) (ht : 0 < pTr s v k) (hm : pMk s M' M'' k) : pMw s M M'' v (k + 1) := by
  obtain ⟨a1, a2, a3, a4, a5⟩ := h
  obtain ⟨b1, b2, b3, b4⟩ := hm
  refine ⟨fun x z => b1 x (a1 x z), b1 v a2, fun x z => ?_, fun x y hx hy z1 z2 z3 z4 => ?_, fun y y1 y2 y3 => ?_⟩
  · rcases b3 x z with w | w
    · exact a3 x w
    · exact Or.inr ⟨w.1, ((pCn.refl hv).edge hV hv hv hkk ht).trans hV hv hkk w.1 w.2⟩
  · cases e : M' x with
    | true => exact b1 y (a4 x y hx hy e z2 z3 z4)
    | false => exact b4 x y hx hy z1 e z4
  · by_cases e : y = k
    · rw [e]; exact b2
    · exact b1 y (a5 y y1 (by omega) y3)
theorem pMw.done {s : Int → Int} {M M' : Int → Bool} {v : Int} (hY : pSy s) (hv : pR v) (h : pMw s M M' v (s 0)) : pMk s M M' v := by
  obtain ⟨a1, a2, a3, a4, a5⟩ := h
  refine ⟨a1, a2, a3, fun x y hx hy z1 z2 z3 => ?_⟩
  by_cases e : x = v
  · subst e
    exact a5 y hy.1 ((hY x y hx hy).2 z3).2.1 z3
  · exact a4 x y hx hy z1 z2 e z3
/-- the marked ones after c components; all before m are marked -/
def pCs (s : Int → Int) (M : Int → Bool) (c : Int) (m : Nat) : Prop := (∀ x : Int, 0 ≤ x → x < m → M x = true) ∧ (∀ x, pR x → M x = true → ∃ y : Int, 0 ≤ y ∧ y < m ∧ pCn s y x) ∧ (∀ x y, pR x → pR y → M x = true → 0 < pTr s x y → M y = true) ∧ c = pCo s m
theorem pCs.ini {s : Int → Int} : pCs s (fun _ => false) 0 0 := ⟨fun x h1 h2 => by omega, fun x _ h => Bool.noConfusion (show false = true from h), fun x y _ _ h => Bool.noConfusion (show false = true from h), rfl⟩
/-- further marked ones are no lowest ones -/
theorem pCs.on {s : Int → Int} {M : Int → Bool} {c : Int} {m : Nat} (hV : pV s) (hY : pSy s) (h : pCs s M c m) : ∀ k : Nat, m + k ≤ 12 → (∀ x : Int, 0 ≤ x → x < (m + k : Nat) → M x = true) → pCs s M c (m + k) := by
  intro k
  induction k with
  | zero => intro _ _; exact h
  | succ k ih =>
    intro hk hx
    obtain ⟨a1, a2, a3, a4⟩ := ih (by omega) (fun x h1 h2 => hx x h1 (by omega))
    refine ⟨fun x h1 h2 => hx x h1 h2, fun x z1 z2 => ?_, a3, ?_⟩
    · obtain ⟨y, y1, y2, y3⟩ := a2 x z1 z2
      exact ⟨y, y1, by omega, y3⟩
    · show c = pCo s (m + k + 1)
      rw [pCo_s, ← a4]
      obtain ⟨y, y1, y2, y3⟩ := a2 (m + k : Nat) ⟨by omega, by omega⟩ (hx _ (by omega) (by omega))
      have hl : pLow (pFr 99999 s (m + k : Nat)) (m + k) = false := by
        cases e : pLow (pFr 99999 s (m + k : Nat)) (m + k) with
        | false => rfl
        | true =>
          have w := (pLow_iff (m + k)).mp e y y1 y2
          have := y3.symm hV hY ⟨y1, by omega⟩ ⟨by omega, by omega⟩
          unfold pCn at this
          omega
      rw [hl]
      show c = c + 0
      omega
theorem pCs.next {s : Int → Int} {M M' : Int → Bool} {c : Int} {m : Nat} (hV : pV s) (hY : pSy s) (hm : m < 12) (h : pCs s M c m) (hn : M m = false) (hk : pMk s M M' m) : pCs s M' (c + 1) (m + 1) := by
  obtain ⟨a1, a2, a3, a4⟩ := h
  obtain ⟨b1, b2, b3, b4⟩ := hk
  have hmr : pR (m : Int) := ⟨by omega, by omega⟩
  refine ⟨fun x x1 x2 => ?_, fun x x1 x2 => ?_, fun x y hx hy z1 z2 => ?_, ?_⟩
  · by_cases e : x = m
    · rw [e]; exact b2
    · exact b1 x (a1 x x1 (by omega))
  · rcases b3 x x2 with w | w
    · obtain ⟨y, y1, y2, y3⟩ := a2 x x1 w
      exact ⟨y, y1, by omega, y3⟩
    · exact ⟨m, by omega, by omega, w.2⟩
  · cases e : M x with
    | true => exact b1 y (a3 x y hx hy e z2)
    | false => exact b4 x y hx hy z1 e z2
  · rw [pCo_s, ← a4]
    have hl : pLow (pFr 99999 s m) m = true := (pLow_iff m).mpr fun q q1 q2 => by
      have hqr : pR q := ⟨q1, by omega⟩
      refine Int.not_lt.mp fun z => ?_
      have : pCn s q m := (show pCn s m q from z).symm hV hY hmr hqr
      have := pCn.cl (M := fun x => M x = true) hqr (a1 q q1 q2) (fun u v hu hv => a3 u v hu hv) hmr this
      rw [hn] at this
      cases this
    rw [hl]
    rfl
/-! ===== merging ===== -/
/-- the leaders l tell the root r of each; k bounds the way to it -/
def pUF (l r : Int → Int) (e : Int → Nat) (k : Nat) : Prop := ∀ w, pR w → pR (l w) ∧ pR (r w) ∧ (l w = w → r w = w ∧ e w = 0) ∧ (l w ≠ w → r (l w) = r w ∧ e (l w) < e w) ∧ l (r w) = r w ∧ e w ≤ k
theorem pUF.ini : pUF (fun j => j) (fun j => j) (fun _ => 0) 0 := fun w hw => ⟨hw, hw, fun _ => ⟨rfl, rfl⟩, fun h => absurd rfl h, rfl, Nat.le_refl _⟩
theorem pUF.rr {l r : Int → Int} {e : Int → Nat} {k : Nat} (h : pUF l r e k) {w : Int} (hw : pR w) : r (r w) = r w := ((h (r w) (h w hw).2.1).2.2.1 (h w hw).2.2.2.2.1).1
theorem pUF.e0 {l r : Int → Int} {e : Int → Nat} {k : Nat} (h : pUF l r e k) {w : Int} (hw : pR w) : e (r w) = 0 := ((h (r w) (h w hw).2.1).2.2.1 (h w hw).2.2.2.2.1).2
/-- the roots after a merging of the class of a into that of b -/
def pRm (r : Int → Int) (a b : Int) : Int → Int := fun w => if r w = r a then r b else r w
theorem pUF.merge {l r : Int → Int} {e : Int → Nat} {k : Nat} (h : pUF l r e k) {a b : Int} (ha : pR a) (hb : pR b) (hn : r a ≠ r b) : pUF (z_upF l (r a) (r b)) (pRm r a b) (fun w => if r w = r a then e w + 1 else e w) (k + 1) := by
  have hra := h.rr ha
  have hrb := h.rr hb
  intro w hw
  obtain ⟨h1, h2, h3, h4, h5, h6⟩ := h w hw
  have e6 := h.e0 hb
  have e7 := h.e0 ha
  by_cases e1 : w = r a
  · have hrw : r w = r a := by rw [e1, hra]
    rw [e1, z_upF_s]
    unfold pRm
    simp only [hra, hrb, if_true]
    refine ⟨(h b hb).2.1, (h b hb).2.1, fun z => absurd z.symm hn, fun _ => ?_, ?_, ?_⟩
    · rw [if_neg (fun z => hn z.symm), if_neg (fun z => hn z.symm)]
      exact ⟨rfl, by omega⟩
    · rw [z_upF_n (fun z => hn z.symm)]; exact (h b hb).2.2.2.2.1
    · omega
  · rw [z_upF_n e1]
    unfold pRm
    by_cases e2 : r w = r a
    · simp only [e2, if_true]
      have hlw : l w ≠ w := fun z => e1 (by rw [← e2, (h3 z).1])
      obtain ⟨q1, q2⟩ := h4 hlw
      refine ⟨h1, (h b hb).2.1, fun z => absurd z hlw, fun _ => ?_, ?_, by omega⟩
      · rw [if_pos (by rw [q1, e2]), if_pos (by rw [q1, e2])]
        exact ⟨rfl, by omega⟩
      · rw [z_upF_n (fun z => hn z.symm)]; exact (h b hb).2.2.2.2.1
    · simp only [if_neg e2]
      refine ⟨h1, h2, h3, fun z => ?_, ?_, by omega⟩
      · obtain ⟨q1, q2⟩ := h4 z
        rw [if_neg (by rw [q1]; exact e2), if_neg (by rw [q1]; exact e2)]
        exact ⟨q1, q2⟩
      · rw [z_upF_n e2]; exact h5
theorem pUF.same {l r : Int → Int} {e : Int → Nat} {k : Nat} (h : pUF l r e k) {a : Int} (ha : pR a) : z_upF l (r a) (r a) = l := by
  funext j
  by_cases z : j = r a
  · rw [z, z_upF_s, (h a ha).2.2.2.2.1]
  · rw [z_upF_n z]
/-- none before p has the root of p -/
def pLr (r : Int → Int) (p : Int) : Nat → Bool
  | 0 => true
  | n + 1 => pLr r p n && decide (r n ≠ r p)
theorem pLr_iff {r : Int → Int} {p : Int} : ∀ n : Nat, pLr r p n = true ↔ ∀ q : Int, 0 ≤ q → q < n → r q ≠ r p := by
  intro n
  induction n with
  | zero => exact ⟨fun _ q h1 h2 => by omega, fun _ => rfl⟩
  | succ n ih =>
    unfold pLr
    rw [Bool.and_eq_true, ih, decide_eq_true_eq]
    refine ⟨fun h q h1 h2 => ?_, fun h => ⟨fun q h1 h2 => h q h1 (by omega), h n (by omega) (by omega)⟩⟩
    by_cases e : q = n
    · rw [e]; exact h.2
    · exact h.1 q h1 (by omega)
/-- how many of the first n are the lowest with their root -/
def pLc (r : Int → Int) (n : Nat) : Int := pSum n (fun p => zB (pLr r p p))
theorem pLc_id : ∀ n : Nat, pLc (fun j => j) n = n := by
  intro n
  have e : pLc (fun j => j) n = pSum n (fun _ => 1) := pSum_c n fun i _ => by
    have : pLr (fun j => j) i i = true := (pLr_iff i).mpr fun q _ h2 => by (try dsimp only); omega
    rw [this]; rfl
  rw [e, pSum_const]; omega
theorem pSum_one {f g : Nat → Int} {m : Nat} {c : Int} : ∀ n : Nat, m < n → (∀ i, i < n → i ≠ m → f i = g i) → f m = g m + c → pSum n f = pSum n g + c := by
  intro n
  induction n with
  | zero => intro h; omega
  | succ n ih =>
    intro h1 h2 h3
    show pSum n f + f n = pSum n g + g n + c
    by_cases e : m = n
    · subst e
      rw [pSum_c m (fun i hi => h2 i (by omega) (by omega)), h3]; omega
    · rw [ih (by omega) (fun i hi hn => h2 i (by omega) hn) h3, h2 n (by omega) (fun z => e z.symm)]; omega
/-- the lowest with the root of a -/
theorem pLr_ex {r : Int → Int} : ∀ (n : Nat) (a : Nat), a < n → ∃ m : Nat, m ≤ a ∧ r m = r a ∧ pLr r m m = true := by
  intro n
  induction n with
  | zero => intro a h; omega
  | succ n ih =>
    intro a h
    by_cases e : pLr r a a = true
    · exact ⟨a, Nat.le_refl _, rfl, e⟩
    · have : ∃ q : Int, 0 ≤ q ∧ q < a ∧ r q = r a := Classical.byContradiction fun z => e ((pLr_iff a).mpr fun q h1 h2 h3 => z ⟨q, h1, h2, h3⟩)
      obtain ⟨q, h1, h2, h3⟩ := this
      have hq : ((q.toNat : Nat) : Int) = q := by omega
      obtain ⟨m, m1, m2, m3⟩ := ih q.toNat (by omega)
      exact ⟨m, by omega, by rw [m2, hq, h3], m3⟩
theorem pLc_merge {r : Int → Int} {n : Nat} {a b : Nat} (ha : a < n) (hb : b < n) (hn : r a ≠ r b) : pLc r n = pLc (pRm r a b) n + 1 := by
  obtain ⟨x, x1, x2, x3⟩ := pLr_ex (r := r) (a + 1) a (by omega)
  obtain ⟨y, y1, y2, y3⟩ := pLr_ex (r := r) (b + 1) b (by omega)
  have hx := (pLr_iff x).mp x3
  have hy := (pLr_iff y).mp y3
  have hxy : x ≠ y := fun z => hn (by rw [← x2, ← y2, z])
  have hup : ∀ p q : Int, r q = r p → pRm r a b q = pRm r a b p := fun p q h => by unfold pRm; rw [h]
  have hAB : ∀ p : Int, (r p = r a ∨ r p = r b) → pRm r a b p = r b := fun p h => by
    unfold pRm
    rcases h with h | h
    · rw [if_pos h]
    · by_cases z : r p = r a
      · rw [if_pos z]
      · rw [if_neg z, h]
  have hO : ∀ p : Int, ¬ (r p = r a ∨ r p = r b) → pRm r a b p = r p ∧ r p ≠ r b := fun p h => ⟨by unfold pRm; rw [if_neg (fun z => h (Or.inl z))], fun z => h (Or.inr z)⟩
  unfold pLc
  refine pSum_one (m := max x y) n (by omega) (fun i hi hne => ?_) ?_
  · congr 1
    cases e : pLr r i i with
    | false =>
      symm
      cases e2 : pLr (pRm r a b) i i with
      | false => rfl
      | true =>
        have w := (pLr_iff i).mp e2
        have : pLr r i i = true := (pLr_iff i).mpr fun q h1 h2 h3 => w q h1 h2 (hup i q h3)
        rw [e] at this; cases this
    | true =>
      symm
      have w := (pLr_iff i).mp e
      refine (pLr_iff i).mpr fun q h1 h2 h3 => ?_
      have hq := w q h1 h2
      by_cases z : r i = r a ∨ r i = r b
      · -- i is x or y, the lower of both
        have hi2 : i = x ∨ i = y := by
          rcases z with z | z
          · refine Or.inl ?_
            rcases Nat.lt_trichotomy i x with t | t | t
            · exact absurd (by rw [z, x2]) (hx i (by omega) (by omega))
            · exact t
            · exact absurd (by rw [x2, z]) (w x (by omega) (by omega))
          · refine Or.inr ?_
            rcases Nat.lt_trichotomy i y with t | t | t
            · exact absurd (by rw [z, y2]) (hy i (by omega) (by omega))
            · exact t
            · exact absurd (by rw [y2, z]) (w y (by omega) (by omega))
        have hqx : q < x ∧ q < y := by omega
        by_cases zq : r q = r a ∨ r q = r b
        · rcases zq with zq | zq
          · exact hx q h1 hqx.1 (by rw [zq, x2])
          · exact hy q h1 hqx.2 (by rw [zq, y2])
        · rw [(hO q zq).1, hAB i z] at h3
          exact (hO q zq).2 h3
      · rw [(hO i z).1] at h3
        by_cases zq : r q = r a ∨ r q = r b
        · rw [hAB q zq] at h3
          exact (hO i z).2 h3.symm
        · rw [(hO q zq).1] at h3
          exact hq h3
  · have h1 : pLr r (max x y : Nat) (max x y) = true := by
      rcases Nat.le_total x y with t | t
      · rw [Nat.max_eq_right t]; exact y3
      · rw [Nat.max_eq_left t]; exact x3
    have h2 : pLr (pRm r a b) (max x y : Nat) (max x y) = false := by
      cases e : pLr (pRm r a b) (max x y : Nat) (max x y) with
      | false => rfl
      | true =>
        have w := (pLr_iff _).mp e
        exfalso
        rcases Nat.le_total x y with t | t
        · rw [Nat.max_eq_right t] at w
          exact w x (by omega) (by omega) (by rw [hAB x (Or.inl x2), hAB y (Or.inr y2)])
        · rw [Nat.max_eq_left t] at w
          exact w y (by omega) (by omega) (by rw [hAB x (Or.inl x2), hAB y (Or.inr y2)])
    (try dsimp only)
    rw [h1, h2]
    rfl
/-- the merging under way: the pairs before (a, b) are done; c are left -/
def pMg (s l r : Int → Int) (e : Int → Nat) (c : Int) (k : Nat) (a b : Int) : Prop := pUF l r e k ∧ c = pLc r (s 0).toNat ∧ (∀ x y, pR x → pR y → r x = r y → pCn s x y) ∧ ∀ x y, 0 ≤ y → y < x → x < 12 → (x < a ∨ (x = a ∧ y < b)) → 0 < pTr s x y → r x = r y
theorem pMg.ini {s : Int → Int} (hV : pV s) : pMg s (fun j => j) (fun j => j) (fun _ => 0) (s 0) 0 0 0 := by
  have v := hV.h
  exact ⟨pUF.ini, by rw [pLc_id]; omega, fun x y hx _ h => by (try dsimp only at h); rw [← h]; exact .refl hx, fun x y _ _ _ h => by omega⟩
theorem pMg.row {s l r : Int → Int} {e : Int → Nat} {c : Int} {k : Nat} {a b : Int} (h : pMg s l r e c k a b) (hb : a ≤ b) : pMg s l r e c k (a + 1) 0 :=
  ⟨h.1, h.2.1, h.2.2.1, fun x y y1 y2 y3 y4 => h.2.2.2 x y y1 y2 y3 (by omega)⟩
theorem pMg.keep {s l r : Int → Int} {e : Int → Nat} {c : Int} {k : Nat} {a b : Int} (h : pMg s l r e c k a b) (hk : 0 < pTr s a b → r a = r b) : pMg s l r e c k a (b + 1) := by
  refine ⟨h.1, h.2.1, h.2.2.1, fun x y y1 y2 y3 y4 y5 => ?_⟩
  by_cases z : x = a ∧ y = b
  · rw [z.1, z.2] at y5 ⊢; exact hk y5
  · exact h.2.2.2 x y y1 y2 y3 (by omega) y5
theorem pMg.merge {s l r : Int → Int} {e : Int → Nat} {c : Int} {k : Nat} {a b : Int} (hV : pV s) (hY : pSy s) (ha : pR a) (hb : pR b) (h : pMg s l r e c k a b) (ht : 0 < pTr s a b) (hn : r a ≠ r b) : pMg s (z_upF l (r a) (r b)) (pRm r a b) (fun w => if r w = r a then e w + 1 else e w) (c - 1) (k + 1) a (b + 1) := by
  have hs := (hY a b ha hb).2 ht
  have v := hV.h
  have hab : pCn s a b := (pCn.refl ha).edge hV ha ha hb ht
  refine ⟨h.1.merge ha hb hn, ?_, fun x y hx hy e1 => ?_, fun x y y1 y2 y3 y4 y5 => ?_⟩
  · have q := pLc_merge (r := r) (n := (s 0).toNat) (a := a.toNat) (b := b.toNat) (by have := ha.1; omega) (by have := hb.1; omega)
    rw [show ((a.toNat : Nat) : Int) = a by have := ha.1; omega, show ((b.toNat : Nat) : Int) = b by have := hb.1; omega] at q
    have := q hn
    have := h.2.1
    omega
  · unfold pRm at e1
    have hx1 := fun z => h.2.2.1 x a hx ha z
    have hy1 := fun z => h.2.2.1 y a hy ha z
    have hx2 := fun z => h.2.2.1 x b hx hb z
    have hy2 := fun z => h.2.2.1 y b hy hb z
    by_cases zx : r x = r a
    · rw [if_pos zx] at e1
      by_cases zy : r y = r a
      · exact (hx1 zx).trans hV hx ha hy ((hy1 zy).symm hV hY hy ha)
      · rw [if_neg zy] at e1
        exact ((hx1 zx).trans hV hx ha hb hab).trans hV hx hb hy ((hy2 e1.symm).symm hV hY hy hb)
    · rw [if_neg zx] at e1
      by_cases zy : r y = r a
      · rw [if_pos zy] at e1
        exact ((hx2 e1).trans hV hx hb ha (hab.symm hV hY ha hb)).trans hV hx ha hy ((hy1 zy).symm hV hY hy ha)
      · rw [if_neg zy] at e1
        exact h.2.2.1 x y hx hy e1
  · by_cases z : x = a ∧ y = b
    · rw [z.1, z.2]
      unfold pRm
      rw [if_pos rfl]
      split
      · rfl
      · rfl
    · have q := h.2.2.2 x y y1 y2 y3 (by omega) y5
      unfold pRm
      rw [q]
theorem pMg.done {s l r : Int → Int} {e : Int → Nat} {c : Int} {k : Nat} {b : Int} (hV : pV s) (hY : pSy s) (hb : 0 ≤ b) (h : pMg s l r e c k (s 0) b) : c = pCo s (s 0).toNat := by
  obtain ⟨h1, h2, h3, h4⟩ := h
  have v := hV.h
  rw [h2]
  unfold pLc pCo
  refine pSum_c _ fun i hi => ?_
  have hir : pR (i : Int) := ⟨by omega, by omega⟩
  congr 1
  have hcl : ∀ q, pR q → (r q = r i ↔ pCn s i q) := fun q hq => ⟨fun z => h3 i q hir hq z.symm, fun z =>
    pCn.cl (M := fun x => r x = r i) hir rfl (fun u w hu hw hm ht => by
      have hs := (hY u w hu hw)
      have hz := hs.2 ht
      rcases Int.lt_or_gt_of_ne hz.2.2 with t | t
      · rw [h4 w u hu.1 t hw.2 (Or.inl hz.2.1) (by rw [← hs.1]; exact ht)]; exact hm
      · rw [← h4 u w hw.1 t hu.2 (Or.inl hz.1) ht]; exact hm) hq z⟩
  cases e1 : pLr r i i with
  | true =>
    symm
    refine (pLow_iff i).mpr fun q q1 q2 => Int.not_lt.mp fun z => ?_
    exact (pLr_iff i).mp e1 q q1 q2 ((hcl q ⟨q1, by omega⟩).mpr z)
  | false =>
    symm
    cases e2 : pLow (pFr 99999 s i) i with
    | false => rfl
    | true =>
      have : pLr r i i = true := (pLr_iff i).mpr fun q q1 q2 z => by
        have a := (pLow_iff i).mp e2 q q1 q2
        have b := (hcl q ⟨q1, by omega⟩).mp z
        unfold pCn at b
        omega
      rw [e1] at this; cases this
