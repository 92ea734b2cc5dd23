set_option maxRecDepth 100000
/-! ===== the reference: small methods ===== -/
theorem zuf_zuf {S : zMS} {k : Nat} {u v : Int} : zuf (zuf S k u) k v = zuf S k v := by
  unfold zuf
  refine Prod.ext rfl (funext fun i => ?_)
  by_cases h : i = k <;> simp [h]
theorem zua_zuf {S : zMS} {j k : Nat} {v : Int} {f : Int → Int} : zua (zuf S j v) k f = zuf (zua S k f) j v := rfl
theorem zua_zua {S : zMS} {k : Nat} {f g : Int → Int} : zua (zua S k f) k g = zua S k g := by
  unfold zua
  refine Prod.ext (funext fun i => ?_) rfl
  by_cases h : i = k <;> simp [h]
theorem zua_e {S : zMS} {j k : Nat} {f : Int → Int} (h : (j == k) = false) : (zua S k f).1 j = S.1 j := zua_n (by simpa using h)
theorem zuf_e {S : zMS} {j k : Nat} {v : Int} (h : (j == k) = false) : (zuf S k v).2 j = S.2 j := zuf_n (by simpa using h)
def pIn (v a b : Int) : Bool := decide (a ≤ v ∧ v ≤ b)
theorem pIn_t {v a b : Int} (h : a ≤ v ∧ v ≤ b) : pIn v a b = true := decide_eq_true h
theorem pIn_f {v a b : Int} (h : ¬ (a ≤ v ∧ v ≤ b)) : pIn v a b = false := decide_eq_false h
theorem pIn_iff {v a b : Int} : pIn v a b = true ↔ a ≤ v ∧ v ≤ b := decide_eq_true_iff
theorem pIn_iffF {v a b : Int} : pIn v a b = false ↔ ¬ (a ≤ v ∧ v ≤ b) := decide_eq_false_iff_not
def pOf (s : Int → Int) (p w : Int) : Int := s (12 + 3 * p + w)
def pTr (s : Int → Int) (a b : Int) : Int := s (48 + 12 * a + b)
def pPt (s : Int → Int) (p : Int) : Bool := pIn p 0 (s 0 - 1)
def pPl (x y : Int) : Bool := pIn x 0 99 && pIn y 0 99
/-- what the row always keeps -/
def pV (s : Int → Int) : Prop := (∀ i, 0 ≤ s i ∧ s i ≤ 100000) ∧ (s 0 ≤ 12 ∧ s 1 ≤ 12 ∧ s 2 ≤ 12 ∧ s 3 ≤ 99 ∧ s 4 ≤ 99 ∧ s 5 ≤ 1 ∧ s 6 ≤ 1000 ∧ s 7 ≤ 2 ∧ 1 ≤ s 8 ∧ s 8 ≤ 30) ∧
  (∀ p, 0 ≤ p → p < 12 → s (12 + 3 * p) ≤ 99 ∧ s (12 + 3 * p + 1) ≤ 99 ∧ s (12 + 3 * p + 2) ≤ 9) ∧ (∀ i, 48 ≤ i → i < 192 → s i ≤ 99) ∧ ∀ i, 192 ≤ i → i < 204 → s i ≤ 11
theorem pV.g {s : Int → Int} (h : pV s) (i : Int) : 0 ≤ s i ∧ s i ≤ 100000 := h.1 i
theorem pV.h {s : Int → Int} (h : pV s) : (0 ≤ s 0 ∧ s 0 ≤ 12) ∧ (0 ≤ s 1 ∧ s 1 ≤ 12) ∧ (0 ≤ s 2 ∧ s 2 ≤ 12) ∧ (0 ≤ s 3 ∧ s 3 ≤ 99) ∧ (0 ≤ s 4 ∧ s 4 ≤ 99) ∧ (0 ≤ s 5 ∧ s 5 ≤ 1) ∧ (0 ≤ s 6 ∧ s 6 ≤ 1000) ∧ (0 ≤ s 7 ∧ s 7 ≤ 2) ∧ 1 ≤ s 8 ∧ s 8 ≤ 30 := by
  obtain ⟨g, a, -⟩ := h
  have := g 0; have := g 1; have := g 2; have := g 3; have := g 4; have := g 5; have := g 6; have := g 7
  omega
theorem pV.tr {s : Int → Int} (h : pV s) {a b : Int} (ha : 0 ≤ a ∧ a < 12) (hb : 0 ≤ b ∧ b < 12) : 0 ≤ pTr s a b ∧ pTr s a b ≤ 99 := ⟨(h.1 _).1, h.2.2.2.1 _ (by omega) (by omega)⟩
theorem pV.x {s : Int → Int} (h : pV s) {p : Int} (hp : 0 ≤ p ∧ p < 12) : 0 ≤ pOf s p 0 ∧ pOf s p 0 ≤ 99 := ⟨(h.1 _).1, by have := (h.2.2.1 p hp.1 hp.2).1; unfold pOf; rw [Int.add_zero]; exact this⟩
theorem pV.y {s : Int → Int} (h : pV s) {p : Int} (hp : 0 ≤ p ∧ p < 12) : 0 ≤ pOf s p 1 ∧ pOf s p 1 ≤ 99 := ⟨(h.1 _).1, (h.2.2.1 p hp.1 hp.2).2.1⟩
theorem pV.r {s : Int → Int} (h : pV s) {p : Int} (hp : 0 ≤ p ∧ p < 12) : 0 ≤ pOf s p 2 ∧ pOf s p 2 ≤ 9 := ⟨(h.1 _).1, (h.2.2.1 p hp.1 hp.2).2.2⟩
theorem pV.rt {s : Int → Int} (h : pV s) {i : Int} (hp : 192 ≤ i ∧ i < 204) : 0 ≤ s i ∧ s i ≤ 11 := ⟨(h.1 _).1, h.2.2.2.2 i hp.1 hp.2⟩
theorem kX4_isIn {G : State} {d rc rs : Nat} {ah : zH} {Q : zRs → zH → Prop} {v a b : Int} (qv : -2147483648 ≤ v ∧ v ≤ 2147483647) (qa : -2147483648 ≤ a ∧ a ≤ 2147483647) (qb : -2147483648 ≤ b ∧ b ≤ 2147483647) (k : Q (.inl (some (.int (zi (zB (pIn v a b)))))) ah) : zW G mX4_isIn d rc rs 0 (zent [.int (zi v), .int (zi a), .int (zi b)]) [] ah Q := by
  refine zW_open 0 [some (.int (zi v)), some (.int (zi a)), some (.int (zi b))] rfl ?_
  refine zr_iload_n dX4_isIn_0 rfl ?_
  refine zr_iload_n dX4_isIn_1 rfl ?_
  refine zr_icmplt dX4_isIn_2 (tgt := 14) (by decide) (by omega) (by omega) (fun h2 => ?_) (fun h2 => ?_)
  · refine zr_iconst dX4_isIn_14 ?_
    refine zr_ireturn dX4_isIn_15 rfl (by first | rfl | exact z_nb _) ?_
    exact zQi k (by first | (rw [pIn_t (by omega)]; rfl) | (rw [pIn_f (by omega)]; rfl))
  · refine zr_iload_n dX4_isIn_5 rfl ?_
    refine zr_iload_n dX4_isIn_6 rfl ?_
    refine zr_icmpgt dX4_isIn_7 (tgt := 14) (by decide) (by omega) (by omega) (fun h7 => ?_) (fun h7 => ?_)
    · refine zr_iconst dX4_isIn_14 ?_
      refine zr_ireturn dX4_isIn_15 rfl (by first | rfl | exact z_nb _) ?_
      exact zQi k (by first | (rw [pIn_t (by omega)]; rfl) | (rw [pIn_f (by omega)]; rfl))
    · refine zr_iconst dX4_isIn_10 ?_
      refine zr_goto dX4_isIn_11 (tgt := 15) (by decide) ?_
      refine zr_ireturn dX4_isIn_15 rfl (by first | rfl | exact z_nb _) ?_
      exact zQi k (by first | (rw [pIn_t (by omega)]; rfl) | (rw [pIn_f (by omega)]; rfl))
theorem kX4_isPlace {G : State} {d rc rs : Nat} {ah : zH} {Q : zRs → zH → Prop} {x y : Int} (hd : 1 ≤ d) (qx : -2147483648 ≤ x ∧ x ≤ 2147483647) (qy : -2147483648 ≤ y ∧ y ≤ 2147483647) (k : Q (.inl (some (.int (zi (zB (pPl x y)))))) ah) : zW G mX4_isPlace d rc rs 0 (zent [.int (zi x), .int (zi y)]) [] ah Q := by
  refine zW_open 0 [some (.int (zi x)), some (.int (zi y))] rfl ?_
  refine zr_iload_n dX4_isPlace_0 rfl ?_
  refine zr_iconst dX4_isPlace_1 ?_
  refine zr_bipush dX4_isPlace_2 rfl ?_
  refine zc_s3 dX4_isPlace_4 hX4_isIn gX4_isIn rfl rfl 0 0 0 (by omega) (Nat.zero_le _) (Nat.zero_le _) q2196 q2197 ?_
  refine kX4_isIn (by omega) (by omega) (by omega) (zK_i ?_)
  refine zr_ifeqB dX4_isPlace_7 (tgt := 24) (by decide) (fun h7 => ?_) (fun h7 => ?_)
  · refine zr_iconst dX4_isPlace_24 ?_
    refine zr_ireturn dX4_isPlace_25 rfl (by first | rfl | exact z_nb _) ?_
    exact zQi k (by unfold pPl; simp [*, zB])
  · refine zr_iload_n dX4_isPlace_10 rfl ?_
    refine zr_iconst dX4_isPlace_11 ?_
    refine zr_bipush dX4_isPlace_12 rfl ?_
    refine zc_s3 dX4_isPlace_14 hX4_isIn gX4_isIn rfl rfl 0 0 0 (by omega) (Nat.zero_le _) (Nat.zero_le _) q2196 q2197 ?_
    refine kX4_isIn (by omega) (by omega) (by omega) (zK_i ?_)
    refine zr_ifeqB dX4_isPlace_17 (tgt := 24) (by decide) (fun h17 => ?_) (fun h17 => ?_)
    · refine zr_iconst dX4_isPlace_24 ?_
      refine zr_ireturn dX4_isPlace_25 rfl (by first | rfl | exact z_nb _) ?_
      exact zQi k (by unfold pPl; simp [*, zB])
    · refine zr_iconst dX4_isPlace_20 ?_
      refine zr_goto dX4_isPlace_21 (tgt := 25) (by decide) ?_
      refine zr_ireturn dX4_isPlace_25 rfl (by first | rfl | exact z_nb _) ?_
      exact zQi k (by unfold pPl; simp [*, zB])
theorem kX4_isThrown0 {G : State} {d rc rs : Nat} {ah : zH} {A : Nat → Nat} {S : zMS} {Q : zRs → zH → Prop} {n : Int} (hA : zMi A) (k : Q (.inl (some (.int (zi 0)))) (zMh ah A (zuf S 6 0))) : zW G mX4_isThrown d rc rs 0 (zent [.ref (A 18), .int (zi 0), .int (zi n)]) [] (zMh ah A S) Q := by
  refine zW_open 0 [some (.ref (A 18)), some (.int (zi 0)), some (.int (zi n))] rfl ?_
  refine zr_aload_n dX4_isThrown_0 rfl rfl ?_
  refine zr_iload_n dX4_isThrown_1 rfl ?_
  refine zr_ifeq dX4_isThrown_2 (tgt := 9) (by decide) (by decide) (fun _ => ?_) (fun h => absurd h (by decide))
  refine zr_iconst dX4_isThrown_9 ?_
  refine zm_put 6 dX4_isThrown_10 q2125 (by decide) ?_
  try simp only [zuf_1, zua_s, zua_2, zuf_s, zuf_zuf, zua_zuf, zua_zua, zua_e, zuf_e, Nat.reduceBEq]
  refine zr_iload_n dX4_isThrown_13 rfl ?_
  refine zr_ireturn dX4_isThrown_14 rfl (by first | rfl | exact z_nb _) ?_
  exact k
theorem kX4_isThrown1 {G : State} {d rc rs : Nat} {ah : zH} {A : Nat → Nat} {S : zMS} {Q : zRs → zH → Prop} {n : Int} (hA : zMi A) (k : Q (.inl (some (.int (zi 1)))) (zMh ah A (zuf S 6 n))) : zW G mX4_isThrown d rc rs 0 (zent [.ref (A 18), .int (zi 1), .int (zi n)]) [] (zMh ah A S) Q := by
  refine zW_open 0 [some (.ref (A 18)), some (.int (zi 1)), some (.int (zi n))] rfl ?_
  refine zr_aload_n dX4_isThrown_0 rfl rfl ?_
  refine zr_iload_n dX4_isThrown_1 rfl ?_
  refine zr_ifeq dX4_isThrown_2 (tgt := 9) (by decide) (by decide) (fun h => absurd h (by decide)) (fun _ => ?_)
  refine zr_iload_n dX4_isThrown_5 rfl ?_
  refine zr_goto dX4_isThrown_6 (tgt := 10) (by decide) ?_
  refine zm_put 6 dX4_isThrown_10 q2125 (by decide) ?_
  try simp only [zuf_1, zua_s, zua_2, zuf_s, zuf_zuf, zua_zuf, zua_zua, zua_e, zuf_e, Nat.reduceBEq]
  refine zr_iload_n dX4_isThrown_13 rfl ?_
  refine zr_ireturn dX4_isThrown_14 rfl (by first | rfl | exact z_nb _) ?_
  exact k
theorem kX4_thrown {G : State} {d rc rs : Nat} {ah : zH} {A : Nat → Nat} {S : zMS} {Q : zRs → zH → Prop} (hA : zMi A) (k : Q (.inl (some (.int (zi (S.2 6))))) (zMh ah A S)) : zW G mX4_thrown d rc rs 0 (zent [.ref (A 18)]) [] (zMh ah A S) Q := by
  refine zW_open 0 [some (.ref (A 18))] rfl ?_
  refine zr_aload_n dX4_thrown_0 rfl rfl ?_
  refine zm_geti 6 dX4_thrown_1 q2125 rfl ?_
  refine zr_ireturn dX4_thrown_4 rfl (by first | rfl | exact z_nb _) ?_
  exact k
theorem kX4_of {G : State} {d rc rs : Nat} {ah : zH} {A : Nat → Nat} {S : zMS} {Q : zRs → zH → Prop} {p w : Int} (hA : zMi A) (hp : 0 ≤ p ∧ p < 12) (hw : 0 ≤ w ∧ w < 3) (k : Q (.inl (some (.int (zi (pOf (S.1 0) p w))))) (zMh ah A S)) : zW G mX4_of d rc rs 0 (zent [.ref (A 18), .int (zi p), .int (zi w)]) [] (zMh ah A S) Q := by
  refine zW_open 0 [some (.ref (A 18)), some (.int (zi p)), some (.int (zi w))] rfl ?_
  refine zr_aload_n dX4_of_0 rfl rfl ?_
  refine zm_geta 0 dX4_of_1 q2119 rfl ?_
  refine zr_bipush dX4_of_4 rfl ?_
  refine zr_iconst dX4_of_6 ?_
  refine zr_iload_n dX4_of_7 rfl ?_
  refine zr_imul dX4_of_8 ?_
  refine zr_iadd dX4_of_9 ?_
  refine zr_iload_n dX4_of_10 rfl ?_
  refine zr_iadd dX4_of_11 ?_
  refine zm_load hA (by decide) dX4_of_12 (by constructor <;> (try simp only [zMn]) <;> omega) ?_
  refine zr_ireturn dX4_of_13 rfl (by first | rfl | exact z_nb _) ?_
  exact k
theorem kX4_trail {G : State} {d rc rs : Nat} {ah : zH} {A : Nat → Nat} {S : zMS} {Q : zRs → zH → Prop} {a b : Int} (hA : zMi A) (hV : pV (S.1 0)) (ha : 0 ≤ a ∧ a < 12) (hb : 0 ≤ b ∧ b < 12) (k : (0 ≤ pTr (S.1 0) a b ∧ pTr (S.1 0) a b ≤ 99) → Q (.inl (some (.int (zi (pTr (S.1 0) a b))))) (zMh ah A S)) : zW G mX4_trail d rc rs 0 (zent [.ref (A 18), .int (zi a), .int (zi b)]) [] (zMh ah A S) Q := by
  refine zW_open 0 [some (.ref (A 18)), some (.int (zi a)), some (.int (zi b))] rfl ?_
  refine zr_aload_n dX4_trail_0 rfl rfl ?_
  refine zm_geta 0 dX4_trail_1 q2119 rfl ?_
  refine zr_bipush dX4_trail_4 rfl ?_
  refine zr_bipush dX4_trail_6 rfl ?_
  refine zr_iload_n dX4_trail_8 rfl ?_
  refine zr_imul dX4_trail_9 ?_
  refine zr_iadd dX4_trail_10 ?_
  refine zr_iload_n dX4_trail_11 rfl ?_
  refine zr_iadd dX4_trail_12 ?_
  refine zm_load hA (by decide) dX4_trail_13 (by constructor <;> (try simp only [zMn]) <;> omega) ?_
  refine zr_ireturn dX4_trail_14 rfl (by first | rfl | exact z_nb _) ?_
  exact k (hV.tr ha hb)
theorem kX4_isPoint {G : State} {d rc rs : Nat} {ah : zH} {A : Nat → Nat} {S : zMS} {Q : zRs → zH → Prop} {p : Int} (hA : zMi A) (hd : 1 ≤ d) (hV : pV (S.1 0)) (qp : -2147483648 ≤ p ∧ p ≤ 2147483647) (k : Q (.inl (some (.int (zi (zB (pPt (S.1 0) p)))))) (zMh ah A S)) : zW G mX4_isPoint d rc rs 0 (zent [.ref (A 18), .int (zi p)]) [] (zMh ah A S) Q := by
  refine zW_open 0 [some (.ref (A 18)), some (.int (zi p))] rfl ?_
  refine zr_iload_n dX4_isPoint_0 rfl ?_
  have v := hV.h
  refine zr_iconst dX4_isPoint_1 ?_
  refine zr_aload_n dX4_isPoint_2 rfl rfl ?_
  refine zm_geta 0 dX4_isPoint_3 q2119 rfl ?_
  refine zr_iconst dX4_isPoint_6 ?_
  refine zm_load hA (by decide) dX4_isPoint_7 (by constructor <;> (try simp only [zMn]) <;> omega) ?_
  refine zr_iconst dX4_isPoint_8 ?_
  refine zr_isub dX4_isPoint_9 ?_
  refine zc_s3 dX4_isPoint_10 hX4_isIn gX4_isIn rfl rfl 0 0 0 (by omega) (Nat.zero_le _) (Nat.zero_le _) q2196 q2197 ?_
  refine kX4_isIn (by omega) (by omega) (by omega) (zK_i ?_)
  refine zr_ireturn dX4_isPoint_13 rfl (by first | rfl | exact z_nb _) ?_
  exact k
theorem kX4_isOnTour {G : State} {d rc rs : Nat} {ah : zH} {A : Nat → Nat} {S : zMS} {Q : zRs → zH → Prop} (hA : zMi A) (hV : pV (S.1 0)) (k : Q (.inl (some (.int (zi (zB (decide (0 < S.1 0 1))))))) (zMh ah A S)) : zW G mX4_isOnTour d rc rs 0 (zent [.ref (A 18)]) [] (zMh ah A S) Q := by
  refine zW_open 0 [some (.ref (A 18))] rfl ?_
  refine zr_aload_n dX4_isOnTour_0 rfl rfl ?_
  have v := hV.h
  refine zm_geta 0 dX4_isOnTour_1 q2119 rfl ?_
  refine zr_iconst dX4_isOnTour_4 ?_
  refine zm_load hA (by decide) dX4_isOnTour_5 (by constructor <;> (try simp only [zMn]) <;> omega) ?_
  refine zr_ifle dX4_isOnTour_6 (tgt := 13) (by decide) (by omega) (fun h6 => ?_) (fun h6 => ?_)
  · refine zr_iconst dX4_isOnTour_13 ?_
    refine zr_ireturn dX4_isOnTour_14 rfl (by first | rfl | exact z_nb _) ?_
    exact zQi k (by first | (rw [decide_eq_true (by omega)]; rfl) | (rw [decide_eq_false (by omega)]; rfl))
  · refine zr_iconst dX4_isOnTour_9 ?_
    refine zr_goto dX4_isOnTour_10 (tgt := 14) (by decide) ?_
    refine zr_ireturn dX4_isOnTour_14 rfl (by first | rfl | exact z_nb _) ?_
    exact zQi k (by first | (rw [decide_eq_true (by omega)]; rfl) | (rw [decide_eq_false (by omega)]; rfl))
theorem kX4_aim {G : State} {d rc rs : Nat} {ah : zH} {A : Nat → Nat} {S : zMS} {Q : zRs → zH → Prop} (hA : zMi A) (hV : pV (S.1 0)) (h2 : S.1 0 2 < 12) (k : (0 ≤ S.1 0 (192 + S.1 0 2) ∧ S.1 0 (192 + S.1 0 2) ≤ 11) → Q (.inl (some (.int (zi (S.1 0 (192 + S.1 0 2)))))) (zMh ah A S)) : zW G mX4_aim d rc rs 0 (zent [.ref (A 18)]) [] (zMh ah A S) Q := by
  refine zW_open 0 [some (.ref (A 18))] rfl ?_
  refine zr_aload_n dX4_aim_0 rfl rfl ?_
  have v := hV.h
  refine zm_geta 0 dX4_aim_1 q2119 rfl ?_
  refine zr_sipush dX4_aim_4 rfl ?_
  refine zr_aload_n dX4_aim_7 rfl rfl ?_
  refine zm_geta 0 dX4_aim_8 q2119 rfl ?_
  refine zr_iconst dX4_aim_11 ?_
  refine zm_load hA (by decide) dX4_aim_12 (by constructor <;> (try simp only [zMn]) <;> omega) ?_
  refine zr_iadd dX4_aim_13 ?_
  refine zm_load hA (by decide) dX4_aim_14 (by constructor <;> (try simp only [zMn]) <;> omega) ?_
  refine zr_ireturn dX4_aim_15 rfl (by first | rfl | exact z_nb _) ?_
  exact k (hV.rt (by omega))
def pSq (x y : Int) : Int := x * x + y * y
theorem kX4_square {G : State} {d rc rs : Nat} {ah : zH} {Q : zRs → zH → Prop} {x y : Int} (k : Q (.inl (some (.int (zi (pSq x y))))) ah) : zW G mX4_square d rc rs 0 (zent [.int (zi x), .int (zi y)]) [] ah Q := by
  refine zW_open 0 [some (.int (zi x)), some (.int (zi y))] rfl ?_
  refine zr_iload_n dX4_square_0 rfl ?_
  refine zr_iload_n dX4_square_1 rfl ?_
  refine zr_imul dX4_square_2 ?_
  refine zr_iload_n dX4_square_3 rfl ?_
  refine zr_iload_n dX4_square_4 rfl ?_
  refine zr_imul dX4_square_5 ?_
  refine zr_iadd dX4_square_6 ?_
  refine zr_ireturn dX4_square_7 rfl (by first | rfl | exact z_nb _) ?_
  exact k
def pCost (m : Int) : Int := if m = 0 then 1 else if m = 1 then 2 else 4
theorem kX4_costOf {G : State} {d rc rs : Nat} {ah : zH} {Q : zRs → zH → Prop} {m : Int} (hm : 0 ≤ m ∧ m ≤ 2) (k : Q (.inl (some (.int (zi (pCost m))))) ah) : zW G mX4_costOf d rc rs 0 (zent [.int (zi m)]) [] ah Q := by
  refine zW_open 0 [some (.int (zi m))] rfl ?_
  refine zr_iload_n dX4_costOf_0 rfl ?_
  refine zr_ifne dX4_costOf_1 (tgt := 8) (by decide) (by omega) (fun h1 => ?_) (fun h1 => ?_)
  · refine zr_iload_n dX4_costOf_8 rfl ?_
    refine zr_iconst dX4_costOf_9 ?_
    refine zr_icmpne dX4_costOf_10 (tgt := 17) (by decide) (by omega) (by omega) (fun h10 => ?_) (fun h10 => ?_)
    · refine zr_iconst dX4_costOf_17 ?_
      refine zr_ireturn dX4_costOf_18 rfl (by first | rfl | exact z_nb _) ?_
      exact zQi k (by unfold pCost; simp [*])
    · refine zr_iconst dX4_costOf_13 ?_
      refine zr_goto dX4_costOf_14 (tgt := 18) (by decide) ?_
      refine zr_ireturn dX4_costOf_18 rfl (by first | rfl | exact z_nb _) ?_
      exact zQi k (by unfold pCost; simp [*])
  · refine zr_iconst dX4_costOf_4 ?_
    refine zr_goto dX4_costOf_5 (tgt := 18) (by decide) ?_
    refine zr_ireturn dX4_costOf_18 rfl (by first | rfl | exact z_nb _) ?_
    exact zQi k (by unfold pCost; simp [*])
def pDr (s : Int → Int) (u : Int) : Int → Int := z_upF s 6 (if s 6 > u then s 6 - u else 0)
theorem kX4_drains {G : State} {d rc rs : Nat} {ah : zH} {A : Nat → Nat} {S : zMS} {Q : zRs → zH → Prop} {u : Int} (hA : zMi A) (hV : pV (S.1 0)) (qu : -2147483648 ≤ u ∧ u ≤ 2147483647) (k : Q (.inl none) (zMh ah A (zua S 0 (pDr (S.1 0) u)))) : zW G mX4_drains d rc rs 0 (zent [.ref (A 18), .int (zi u)]) [] (zMh ah A S) Q := by
  refine zW_open 0 [some (.ref (A 18)), some (.int (zi u))] rfl ?_
  refine zr_aload_n dX4_drains_0 rfl rfl ?_
  have v := hV.h
  refine zm_geta 0 dX4_drains_1 q2119 rfl ?_
  refine zr_bipush dX4_drains_4 rfl ?_
  refine zr_aload_n dX4_drains_6 rfl rfl ?_
  refine zm_geta 0 dX4_drains_7 q2119 rfl ?_
  refine zr_bipush dX4_drains_10 rfl ?_
  refine zm_load hA (by decide) dX4_drains_12 (by constructor <;> (try simp only [zMn]) <;> omega) ?_
  refine zr_iload_n dX4_drains_13 rfl ?_
  refine zr_icmple dX4_drains_14 (tgt := 29) (by decide) (by omega) (by omega) (fun h14 => ?_) (fun h14 => ?_)
  · refine zr_iconst dX4_drains_29 ?_
    refine zm_store hA (by decide) dX4_drains_30 (by constructor <;> (try simp only [zMn]) <;> omega) ?_
    try simp only [zuf_1, zua_s, zua_2, zuf_s, zuf_zuf, zua_zuf, zua_zua, zua_e, zuf_e, Nat.reduceBEq]
    refine zr_return dX4_drains_31 rfl ?_
    exact zQv k (by unfold pDr; first | rw [if_pos (by omega)] | rw [if_neg (by omega)])
  · refine zr_aload_n dX4_drains_17 rfl rfl ?_
    refine zm_geta 0 dX4_drains_18 q2119 rfl ?_
    refine zr_bipush dX4_drains_21 rfl ?_
    refine zm_load hA (by decide) dX4_drains_23 (by constructor <;> (try simp only [zMn]) <;> omega) ?_
    refine zr_iload_n dX4_drains_24 rfl ?_
    refine zr_isub dX4_drains_25 ?_
    refine zr_goto dX4_drains_26 (tgt := 30) (by decide) ?_
    refine zm_store hA (by decide) dX4_drains_30 (by constructor <;> (try simp only [zMn]) <;> omega) ?_
    try simp only [zuf_1, zua_s, zua_2, zuf_s, zuf_zuf, zua_zuf, zua_zua, zua_e, zuf_e, Nat.reduceBEq]
    refine zr_return dX4_drains_31 rfl ?_
    exact zQv k (by unfold pDr; first | rw [if_pos (by omega)] | rw [if_neg (by omega)])
/-- 204 places copied -/
def pCpN (n : Int) (f : Int → Int) (b : Int) (g : Int → Int) (a : Int) : Int → Int := fun j => if a ≤ j ∧ j < a + n then f (b + (j - a)) else g j
def pCp (f : Int → Int) (b : Int) (g : Int → Int) (a : Int) : Int → Int := pCpN 204 f b g a
theorem pCpN_0 {f g : Int → Int} {a b : Int} : pCpN 0 f b g a = g := by
  funext j
  unfold pCpN
  rw [if_neg (by omega)]
theorem pCpN_s {f g : Int → Int} {a b i : Int} (hi : 0 ≤ i) : z_upF (pCpN i f b g a) (a + i) (f (b + i)) = pCpN (i + 1) f b g a := by
  funext j
  unfold pCpN z_upF
  by_cases h : j = a + i
  · rw [if_pos h, if_pos (by omega), show j - a = i by omega]
  · rw [if_neg h]
    dsimp only
    by_cases h2 : a ≤ j ∧ j < a + i
    · rw [if_pos h2, if_pos (by omega)]
    · rw [if_neg h2, if_neg (by omega)]
theorem zua_self {S : zMS} {k : Nat} : zua S k (S.1 k) = S := by
  unfold zua
  refine Prod.ext (funext fun i => ?_) rfl
  by_cases h : i = k
  · simp [h]
  · simp [h]
theorem kX4_copiesL {G : State} {d rc rs : Nat} {ah : zH} {A : Nat → Nat} {S : zMS} {Q : zRs → zH → Prop} {a b : Int} (hA : zMi A) {k1 k2 : Nat} (h1 : k1 ∈ zMl) (h2 : k2 ∈ zMl) (ha : 0 ≤ a ∧ a + 204 ≤ zMn k2) (hb : 0 ≤ b ∧ b + 204 ≤ zMn k1) (hab : k1 ≠ k2 ∨ a + 204 ≤ b) (hz : zMn k1 ≤ 2000 ∧ zMn k2 ≤ 2000) (n : Nat) : ∀ (i : Int), 0 ≤ i → i + n = 204 → Q (.inl none) (zMh ah A (zua S k2 (pCp (S.1 k1) b (S.1 k2) a))) → zW G mX4_copies d rc rs 3 [some (.ref (A k1)), some (.int (zi b)), some (.ref (A k2)), some (.int (zi a)), some (.int (zi i))] [] (zMh ah A (zua S k2 (pCpN i (S.1 k1) b (S.1 k2) a))) Q := by
  induction n with
  | zero =>
    intro i hi hn k
    refine zr_iload dX4_copies_3 rfl ?_
    refine zr_sipush dX4_copies_5 rfl ?_
    refine zr_icmpge dX4_copies_8 (tgt := 29) (by decide) (by omega) (by omega) (fun h8 => ?_) (fun h8 => ?_)
    · refine zr_return dX4_copies_29 rfl ?_
      rw [show i = 204 by omega]
      exact k
    · exfalso; omega
  | succ n ih =>
    intro i hi hn k
    refine zr_iload dX4_copies_3 rfl ?_
    refine zr_sipush dX4_copies_5 rfl ?_
    refine zr_icmpge dX4_copies_8 (tgt := 29) (by decide) (by omega) (by omega) (fun h8 => ?_) (fun h8 => ?_)
    · exfalso; omega
    · refine zr_aload_n dX4_copies_11 rfl rfl ?_
      refine zr_iload_n dX4_copies_12 rfl ?_
      refine zr_iload dX4_copies_13 rfl ?_
      refine zr_iadd dX4_copies_15 ?_
      refine zr_aload_n dX4_copies_16 rfl rfl ?_
      refine zr_iload_n dX4_copies_17 rfl ?_
      refine zr_iload dX4_copies_18 rfl ?_
      refine zr_iadd dX4_copies_20 ?_
      refine zm_load hA h1 dX4_copies_21 (by constructor <;> omega) ?_
      rw [show (zua S k2 (pCpN i (S.1 k1) b (S.1 k2) a)).1 k1 (b + i) = S.1 k1 (b + i) from ?_]
      rotate_left
      · rcases hab with e | e
        · rw [zua_n e]
        · unfold zua
          by_cases e2 : k1 = k2
          · subst e2; simp only [if_true]; unfold pCpN; rw [if_neg (by omega)]
          · simp only [if_neg e2]
      refine zm_store hA h2 dX4_copies_22 (by constructor <;> omega) ?_
      rw [zua_zua, zua_s, pCpN_s hi]
      refine zr_iinc dX4_copies_23 rfl (by decide) (zs5_4 rfl ?_)
      refine zr_goto dX4_copies_26 (tgt := 3) (by decide) ?_
      exact ih (i + 1) (by omega) (by omega) k
theorem kX4_copies {G : State} {d rc rs : Nat} {ah : zH} {A : Nat → Nat} {S : zMS} {Q : zRs → zH → Prop} {a b : Int} (hA : zMi A) {k1 k2 : Nat} (h1 : k1 ∈ zMl) (h2 : k2 ∈ zMl) (ha : 0 ≤ a ∧ a + 204 ≤ zMn k2) (hb : 0 ≤ b ∧ b + 204 ≤ zMn k1) (hab : k1 ≠ k2 ∨ a + 204 ≤ b) (hz : zMn k1 ≤ 2000 ∧ zMn k2 ≤ 2000)
    (k : Q (.inl none) (zMh ah A (zua S k2 (pCp (S.1 k1) b (S.1 k2) a)))) : zW G mX4_copies d rc rs 0 (zent [.ref (A k1), .int (zi b), .ref (A k2), .int (zi a)]) [] (zMh ah A S) Q := by
  refine zW_open 1 [some (.ref (A k1)), some (.int (zi b)), some (.ref (A k2)), some (.int (zi a)), none] rfl ?_
  refine zr_iconst dX4_copies_0 ?_
  refine zr_istore dX4_copies_1 (by decide) (zs5_4 rfl ?_)
  have e : S = zua S k2 (pCpN 0 (S.1 k1) b (S.1 k2) a) := by rw [pCpN_0, zua_self]
  rw [show zMh ah A S = zMh ah A (zua S k2 (pCpN 0 (S.1 k1) b (S.1 k2) a)) by rw [← e]]
  exact kX4_copiesL hA h1 h2 ha hb hab hz 204 0 (by omega) (by omega) k
theorem kX4_keeps {G : State} {d rc rs : Nat} {ah : zH} {A : Nat → Nat} {S : zMS} {Q : zRs → zH → Prop} (hA : zMi A) (hd : 1 ≤ d) (k : Q (.inl none) (zMh ah A (zuf (zua S 1 (pCp (S.1 0) 0 (S.1 1) 0)) 6 0))) : zW G mX4_keeps d rc rs 0 (zent [.ref (A 18)]) [] (zMh ah A S) Q := by
  refine zW_open 0 [some (.ref (A 18))] rfl ?_
  refine zr_aload_n dX4_keeps_0 rfl rfl ?_
  refine zm_geta 0 dX4_keeps_1 q2119 rfl ?_
  refine zr_iconst dX4_keeps_4 ?_
  refine zr_aload_n dX4_keeps_5 rfl rfl ?_
  refine zm_geta 1 dX4_keeps_6 q2120 rfl ?_
  refine zr_iconst dX4_keeps_9 ?_
  refine zc_s4 dX4_keeps_10 hX4_copies gX4_copies rfl rfl 0 0 0 (by omega) (Nat.zero_le _) (Nat.zero_le _) q2186 q2187 ?_
  refine kX4_copies hA (by decide) (by decide) (by simp only [zMn]; omega) (by simp only [zMn]; omega) (by first | (left; decide) | (right; omega)) (by decide) (zK_v ?_)
  try simp only [zuf_1, zua_s, zua_2, zuf_s, zuf_zuf, zua_zuf, zua_zua, zua_e, zuf_e, Nat.reduceBEq]
  refine zr_aload_n dX4_keeps_13 rfl rfl ?_
  refine zr_iconst dX4_keeps_14 ?_
  refine zm_put 6 dX4_keeps_15 q2125 (by decide) ?_
  try simp only [zuf_1, zua_s, zua_2, zuf_s, zuf_zuf, zua_zuf, zua_zua, zua_e, zuf_e, Nat.reduceBEq]
  refine zr_return dX4_keeps_18 rfl ?_
  exact k
