set_option maxRecDepth 100000
/-! ===== the nearest that is not done (Dijkstra) ===== -/
def pNx (f : Int → Int) (dn : Int → Bool) : Nat → Int
  | 0 => -1
  | k + 1 => if dn k = false ∧ f k < (if pNx f dn k = -1 then 1000000 else f (pNx f dn k)) then k else pNx f dn k
theorem pNx_s {f : Int → Int} {dn : Int → Bool} {k : Nat} : pNx f dn (k + 1) = if dn k = false ∧ f k < (if pNx f dn k = -1 then 1000000 else f (pNx f dn k)) then (k : Int) else pNx f dn k := rfl
theorem pNx_ok {f : Int → Int} {dn : Int → Bool} : ∀ k : Nat, (pNx f dn k = -1 ∧ ∀ v : Int, 0 ≤ v → v < k → dn v = false → 1000000 ≤ f v) ∨ (0 ≤ pNx f dn k ∧ pNx f dn k < k ∧ dn (pNx f dn k) = false ∧ f (pNx f dn k) < 1000000 ∧ ∀ v : Int, 0 ≤ v → v < k → dn v = false → f (pNx f dn k) ≤ f v) := by
  intro k
  induction k with
  | zero => exact Or.inl ⟨rfl, fun v h1 h2 _ => by omega⟩
  | succ k ih =>
    rw [pNx_s]
    rcases ih with ⟨h1, h2⟩ | ⟨h1, h2, h3, h4, h5⟩
    · rw [h1]
      simp only [if_true]
      by_cases e : dn k = false ∧ f k < 1000000
      · rw [if_pos e]
        refine Or.inr ⟨by omega, by omega, e.1, e.2, fun v v1 v2 v3 => ?_⟩
        by_cases z : v = k
        · rw [z]; exact Int.le_refl _
        · have := h2 v v1 (by omega) v3; omega
      · rw [if_neg e]
        refine Or.inl ⟨rfl, fun v v1 v2 v3 => ?_⟩
        by_cases z : v = k
        · subst z
          exact Int.not_lt.mp (fun y => e ⟨v3, y⟩)
        · exact h2 v v1 (by omega) v3
    · rw [if_neg (show ¬ pNx f dn k = -1 by omega)]
      by_cases e : dn k = false ∧ f k < f (pNx f dn k)
      · rw [if_pos e]
        refine Or.inr ⟨by omega, by omega, e.1, by have := e.2; omega, fun v v1 v2 v3 => ?_⟩
        by_cases z : v = k
        · rw [z]; exact Int.le_refl _
        · have := h5 v v1 (by omega) v3
          have := e.2
          omega
      · rw [if_neg e]
        refine Or.inr ⟨h1, by omega, h3, h4, fun v v1 v2 v3 => ?_⟩
        by_cases z : v = k
        · subst z
          exact Int.not_lt.mp (fun y => e ⟨v3, y⟩)
        · exact h5 v v1 (by omega) v3
def z_upB (f : Int → Bool) (i : Int) (b : Bool) : Int → Bool := fun j => if j = i then b else f j
theorem z_upB_s {f : Int → Bool} {i : Int} {b : Bool} : z_upB f i b i = b := by simp [z_upB]
theorem z_upB_n {f : Int → Bool} {i j : Int} {b : Bool} (h : j ≠ i) : z_upB f i b j = f j := by simp [z_upB, h]
/-- what is done is told right -/
def pDn (s : Int → Int) (src : Int) (f : Int → Int) (dn : Int → Bool) : Prop := pInv 1000000 s src f ∧ ∀ u, pR u → dn u = true → ∀ v, pR v → (dn v = false → f u ≤ f v) ∧ (0 < pTr s u v → f v ≤ f u + pTr s u v)
def pDj (s : Int → Int) (src : Int) (f : Int → Int) (dn : Int → Bool) (w : Int) : Prop := pDn s src f dn ∧ pR w ∧ w < s 0 ∧ dn w = false ∧ f w < 1000000 ∧ ∀ v, pR v → dn v = false → f w ≤ f v
theorem pDn.step {s : Int → Int} {src : Int} {f : Int → Int} {dn : Int → Bool} {w : Int} (hV : pV s) (hY : pSy s) (hs : pR src) (h : pDj s src f dn w) : pDn s src (pVis s (s 0) w (f w) f) (z_upB dn w true) := by
  obtain ⟨⟨h1, h2⟩, hw, hw0, hwd, hwl, hm⟩ := h
  have hsame : ∀ u, pR u → z_upB dn w true u = true → pVis s (s 0) w (f w) f u = f u := fun u hu hd => by
    rcases pVis_or (s := s) (n := s 0) (w := w) (b := f w) (f := f) u with e | ⟨e1, e2, e3⟩
    · exact e
    · exfalso
      by_cases z : u = w
      · exact ((hY w u hw hu).2 e1).2.2 z.symm
      · rw [z_upB_n z] at hd
        have := (h2 u hu hd w hw).1 hwd
        omega
  refine ⟨h1.vis hw hs, fun u hu hd v hv => ?_⟩
  rw [hsame u hu hd]
  by_cases z : u = w
  · subst z
    refine ⟨fun hd' => ?_, fun ht => pVis_t hY hu hv ht⟩
    have hvn : v ≠ u := fun e => by rw [e, z_upB_s] at hd'; cases hd'
    rw [z_upB_n hvn] at hd'
    have := hm v hv hd'
    rcases pVis_or (s := s) (n := s 0) (w := u) (b := f u) (f := f) v with e | ⟨e1, e2, e3⟩
    · rw [e]; exact this
    · rw [e2]; omega
  · rw [z_upB_n z] at hd
    refine ⟨fun hd' => ?_, fun ht => Int.le_trans (pVis_le v) ((h2 u hu hd v hv).2 ht)⟩
    have hvn : v ≠ w := fun e => by rw [e, z_upB_s] at hd'; cases hd'
    rw [z_upB_n hvn] at hd'
    have a := (h2 u hu hd v hv).1 hd'
    have b := (h2 u hu hd w hw).1 hwd
    rcases pVis_or (s := s) (n := s 0) (w := w) (b := f w) (f := f) v with e | ⟨e1, e2, e3⟩
    · rw [e]; exact a
    · rw [e2]; omega
theorem pInv.out {I : Int} {s : Int → Int} {src : Int} {f : Int → Int} (h : pInv I s src f) (hY : pSy s) (hs : src < s 0) {v : Int} (hv : pR v) (hn : s 0 ≤ v) : f v = I := by
  have := (h.2.1 v hv).2
  by_cases e : f v < I
  · obtain ⟨u, h1, h2, h3⟩ := h.2.2 v hv (by omega) e
    have := ((hY u v h1 hv).2 h2).2.1
    omega
  · omega
theorem pDn.next {s : Int → Int} {src : Int} {f : Int → Int} {dn : Int → Bool} (hV : pV s) (hY : pSy s) (hs : pR src) (hs0 : src < s 0) (h : pDn s src f dn) : (pNx f dn (s 0).toNat = -1 ∧ pDist 1000000 s src f) ∨ (pNx f dn (s 0).toNat ≠ -1 ∧ pDj s src f dn (pNx f dn (s 0).toNat)) := by
  have v0 := hV.h
  rcases pNx_ok (f := f) (dn := dn) (s 0).toNat with ⟨h1, h2⟩ | ⟨h1, h2, h3, h4, h5⟩
  · refine Or.inl ⟨h1, h.1.dist fun u v hu hv ht => ?_⟩
    cases e : dn u with
    | true => exact (h.2 u hu e v hv).2 ht
    | false =>
      have a : 1000000 ≤ f u := by
        by_cases z : u < s 0
        · exact h2 u hu.1 (by omega) e
        · rw [h.1.out hY hs0 hu (by omega)]; omega
      have := (h.1.2.1 v hv).2
      omega
  · refine Or.inr ⟨by omega, h, ⟨h1, by omega⟩, by omega, h3, h4, fun v hv hd => ?_⟩
    by_cases z : v < s 0
    · exact h5 v hv.1 (by omega) hd
    · rw [h.1.out hY hs0 hv (by omega)]; omega
theorem pDj.ini {s g : Int → Int} {src : Int} (hs : pR src) (hs0 : src < s 0) : pDj s src (pIni 1000000 src g 12) (fun _ => false) src := by
  have hi : pInv 1000000 s src (pIni 1000000 src g 12) := pIni_inv hs (by decide)
  refine ⟨⟨hi, fun u _ hd => by cases hd⟩, hs, hs0, rfl, by rw [hi.1]; decide, fun v hv _ => by rw [hi.1]; exact (hi.2.1 v hv).1⟩
/-- how many are not done -/
def pLf (dn : Int → Bool) : Int := pSum 12 (fun k => if dn k = true then 0 else 1)
theorem pLf_b {dn : Int → Bool} : 0 ≤ pLf dn ∧ pLf dn ≤ 12 := by
  have h1 := pSum_nn (f := fun u : Nat => if dn u = true then (0 : Int) else 1) 12 (fun i _ => by (try dsimp only); split <;> omega)
  have h2 := pSum_le (f := fun u : Nat => if dn u = true then (0 : Int) else 1) (g := fun _ => 1) 12 (fun i _ => by (try dsimp only); split <;> omega)
  rw [pSum_const] at h2
  unfold pLf
  omega
theorem pLf_up {dn : Int → Bool} {w : Int} (hw : pR w) (hd : dn w = false) : pLf (z_upB dn w true) < pLf dn := by
  unfold pLf
  refine pSum_lt 12 (fun i _ => ?_) ⟨w.toNat, by have := hw.1; have := hw.2; omega, ?_⟩
  · (try dsimp only)
    by_cases e : (i : Int) = w
    · rw [e, z_upB_s, if_pos rfl]; split <;> omega
    · rw [z_upB_n e]; exact Int.le_refl _
  · have : ((w.toNat : Nat) : Int) = w := by have := hw.1; omega
    (try dsimp only)
    rw [this, z_upB_s, if_pos rfl, hd, if_neg (by decide)]
    decide
theorem pLf_le {dn dm : Int → Bool} (h : ∀ v, pR v → dn v = true → dm v = true) : pLf dm ≤ pLf dn := by
  unfold pLf
  refine pSum_le 12 fun i hi => ?_
  (try dsimp only)
  by_cases e : dn i = true
  · rw [if_pos (h _ ⟨by omega, by omega⟩ e), if_pos e]; exact Int.le_refl _
  · rw [if_neg e]; split <;> omega
/-! ===== sums over all pairs ===== -/
theorem pSum_app {f : Nat → Int} {m : Nat} : ∀ n : Nat, pSum (m + n) f = pSum m f + pSum n (fun i => f (m + i)) := by
  intro n
  induction n with
  | zero => show pSum m f = pSum m f + 0; omega
  | succ n ih =>
    show pSum (m + n) f + f (m + n) = pSum m f + (pSum n (fun i => f (m + i)) + f (m + n))
    rw [ih]; omega
theorem pSum_2 {f g : Nat → Int} : ∀ n : Nat, pSum n (fun i => f i + g i) = pSum n f + pSum n g := by
  intro n
  induction n with
  | zero => rfl
  | succ n ih =>
    show pSum n (fun i => f i + g i) + (f n + g n) = (pSum n f + f n) + (pSum n g + g n)
    rw [ih]; omega
theorem pSum_sq {h : Nat → Nat → Int} : ∀ n : Nat, pSum (12 * n) (fun k => h (k / 12) (k % 12)) = pSum n (fun a => pSum 12 (fun b => h a b)) := by
  intro n
  induction n with
  | zero => rfl
  | succ n ih =>
    rw [show 12 * (n + 1) = 12 * n + 12 by omega, pSum_app, ih]
    show _ = pSum n _ + pSum 12 (fun b => h n b)
    congr 1
    exact pSum_c 12 fun i hi => by rw [show (12 * n + i) / 12 = n by omega, show (12 * n + i) % 12 = i by omega]
theorem pSum_sym {h : Nat → Nat → Int} : ∀ n : Nat, (∀ a b, a < n → b < n → h a b = h b a) → (∀ a, a < n → h a a = 0) → pSum n (fun a => pSum n (fun b => h a b)) = 2 * pSum n (fun a => pSum a (fun b => h a b)) := by
  intro n
  induction n with
  | zero => intro _ _; rfl
  | succ n ih =>
    intro h1 h2
    have e1 : pSum n (fun a => pSum (n + 1) (fun b => h a b)) = pSum n (fun a => pSum n (fun b => h a b)) + pSum n (fun a => h a n) := pSum_2 n
    have e2 : pSum n (fun a => h a n) = pSum n (fun a => h n a) := pSum_c n fun i hi => h1 i n (by omega) (by omega)
    have e3 := ih (fun a b ha hb => h1 a b (by omega) (by omega)) (fun a ha => h2 a (by omega))
    show pSum n (fun a => pSum (n + 1) (fun b => h a b)) + (pSum n (fun b => h n b) + h n n) = 2 * (pSum n (fun a => pSum a (fun b => h a b)) + pSum n (fun b => h n b))
    rw [e1, e2, e3, h2 n (by omega)]
    omega
theorem pSum_144 {s : Int → Int} {φ : Int → Int} (hY : pSy s) (hV : pV s) (h0 : φ 0 = 0) : pSum 144 (fun k => φ (s (48 + (k : Int)))) = 2 * pSum 12 (fun a => pSum a (fun b => φ (pTr s a b))) := by
  have e1 : pSum 144 (fun k => φ (s (48 + (k : Int)))) = pSum (12 * 12) (fun k => (fun a b : Nat => φ (pTr s a b)) (k / 12) (k % 12)) := by
    refine pSum_c 144 fun i hi => ?_
    show _ = φ (s (48 + 12 * ((i / 12 : Nat) : Int) + ((i % 12 : Nat) : Int)))
    rw [show (48 + 12 * ((i / 12 : Nat) : Int) + ((i % 12 : Nat) : Int)) = 48 + (i : Int) by omega]
  rw [e1, pSum_sq (h := fun a b : Nat => φ (pTr s a b))]
  refine pSum_sym 12 (fun a b ha hb => ?_) (fun a ha => ?_)
  · (try dsimp only)
    rw [(hY a b ⟨by omega, by omega⟩ ⟨by omega, by omega⟩).1]
  · have t := hY a a ⟨by omega, by omega⟩ ⟨by omega, by omega⟩
    have b := hV.tr (a := a) (b := a) ⟨by omega, by omega⟩ ⟨by omega, by omega⟩
    (try dsimp only)
    have : pTr s a a = 0 := by
      by_cases e : 0 < pTr s a a
      · exact absurd rfl (t.2 e).2.2
      · omega
    rw [this, h0]
/-- all the places with a trail, counted twice over -/
def pT2 (s : Int → Int) (n : Nat) : Int := pSum n (fun k => if 0 < s (48 + (k : Int)) then 1 else 0)
theorem pT2_s {s : Int → Int} {n : Nat} : pT2 s (n + 1) = pT2 s n + (if 0 < s (48 + (n : Int)) then 1 else 0) := rfl
theorem pT2_b {s : Int → Int} : ∀ n : Nat, 0 ≤ pT2 s n ∧ pT2 s n ≤ n := by
  intro n
  induction n with
  | zero => exact ⟨Int.le_refl _, Int.le_refl _⟩
  | succ n ih => rw [pT2_s]; split <;> omega
theorem pT2_mn {s : Int → Int} (hY : pSy s) (hV : pV s) : pT2 s 144 = 2 * pMn s 12 := pSum_144 (φ := fun v => if 0 < v then 1 else 0) hY hV rfl
theorem pT2_h {s : Int → Int} (hY : pSy s) (hV : pV s) : pT2 s 144 / 2 = pMn s 12 := by rw [pT2_mn hY hV]; omega
def pS2 (s : Int → Int) (n : Nat) : Int := pSum n (fun k => s (48 + (k : Int)))
theorem pS2_s {s : Int → Int} {n : Nat} : pS2 s (n + 1) = pS2 s n + s (48 + (n : Int)) := rfl
theorem pS2_b {s : Int → Int} (hV : pV s) : ∀ n : Nat, n ≤ 144 → 0 ≤ pS2 s n ∧ pS2 s n ≤ 99 * n := by
  intro n
  induction n with
  | zero => intro _; exact ⟨Int.le_refl _, Int.le_refl _⟩
  | succ n ih =>
    intro h
    rw [pS2_s]
    have := ih (by omega)
    have := hV.2.2.2.1 (48 + (n : Int)) (by omega) (by omega)
    have := (hV.1 (48 + (n : Int))).1
    omega
def pSm (s : Int → Int) : Int := pSum 12 (fun a => pSum a (fun b => pTr s a b))
theorem pS2_sm {s : Int → Int} (hY : pSy s) (hV : pV s) : pS2 s 144 / 2 = pSm s := by
  have : pS2 s 144 = 2 * pSm s := pSum_144 (φ := fun v => v) hY hV rfl
  rw [this]; omega
