set_option maxRecDepth 100000
/-! ===== the reference: programs run ===== -/
theorem pDist_ex {I : Int} {s : Int → Int} {src : Int} (hs : pR src) (hI : 0 ≤ I) : ∃ f, pDist I s src f := by
  have h : ∀ (n : Nat) (f : Int → Int), pInv I s src f → pMu f < n → ∃ f, pDist I s src f := by
    intro n
    induction n with
    | zero => intro f _ h; omega
    | succ n ih =>
      intro f hf hn
      by_cases e : ∀ u v, pR u → pR v → 0 < pTr s u v → f v ≤ f u + pTr s u v
      · exact ⟨f, hf.dist e⟩
      · simp only [Classical.not_forall] at e
        obtain ⟨u, v, hu, hv, ht, hl⟩ := e
        have hu0 := (hf.2.1 u hu).1
        have := pMu_up (f := f) (i := v) (v := f u + pTr s u v) (fun v hv => (hf.2.1 v hv).1) hv ⟨by omega, by omega⟩
        exact ih _ (hf.less hu hv ht (by omega)) (by omega)
  exact h _ _ (pIni_inv (g := fun _ => 0) hs hI) (Nat.lt_succ_self _)
theorem pFr_d {I : Int} {s : Int → Int} {p : Int} (hp : pR p) (hI : 0 ≤ I) : pDist I s p (pFr I s p) := by
  obtain ⟨f, hf⟩ := pDist_ex (s := s) hp hI
  exact pFr_ok hf
theorem pEx_I {B : Int} {s : Int → Int} {X : pI4} (h : pI B s) (hB : B < 100000) : pI (B + 1) (pEx s X).2.2 := by
  refine pEx_i h hB (fun _ => ?_)
  by_cases e : pPt s X.2.1 = true ∧ pPt s X.2.2.1 = true
  · exact Or.inl (pFr_d (pPt_r e.2 h.1) (by decide))
  · exact Or.inr e
theorem pI.tk {B : Int} {s : Int → Int} (h : pI B s) : 0 < s 1 → 1 ≤ s 2 ∧ s 2 < s 1 := fun q => ⟨(h.2.2.2.2 q).1, (h.2.2.2.2 q).2.1⟩
theorem kX4_does {G : State} {d rc rs : Nat} {ah : zH} {A : Nat → Nat} {S : zMS} {Q : zRs → zH → Prop} {a : Int} {X : pI4} {B : Int} (hA : zMi A) (hd : 6 ≤ d) (hI : pI B (S.1 0)) (hB : B < 100000) (ha : 0 ≤ a ∧ a + 3 < 124) (h9 : pC9 X) (hr : pCr (S.1 14) a X) (k : ∀ f, Q (.inl (some (.int (zi (pEx (S.1 0) X).2.1)))) (zMh ah A (pAf (zua S 4 f) (pEx (S.1 0) X)))) : zW G mX4_does d rc rs 0 (zent [.ref (A 18), .int (zi a)]) [] (zMh ah A S) Q := by
  refine zW_open 3 [some (.ref (A 18)), some (.int (zi a)), none, none, none] rfl ?_
  refine zr_aload_n dX4_does_0 rfl rfl ?_
  refine zm_geta 14 dX4_does_1 q2133 rfl ?_
  refine zr_iload_n dX4_does_4 rfl ?_
  refine zr_iconst dX4_does_5 ?_
  refine zr_iadd dX4_does_6 ?_
  refine zm_load hA (by decide) dX4_does_7 (by constructor <;> (try simp only [zMn]) <;> omega) ?_
  refine zr_istore_n dX4_does_8 (by decide) (zs5_2 rfl ?_)
  refine zr_aload_n dX4_does_9 rfl rfl ?_
  refine zm_geta 14 dX4_does_10 q2133 rfl ?_
  refine zr_iload_n dX4_does_13 rfl ?_
  refine zr_iconst dX4_does_14 ?_
  refine zr_iadd dX4_does_15 ?_
  refine zm_load hA (by decide) dX4_does_16 (by constructor <;> (try simp only [zMn]) <;> omega) ?_
  refine zr_istore_n dX4_does_17 (by decide) (zs5_3 rfl ?_)
  refine zr_aload_n dX4_does_18 rfl rfl ?_
  refine zm_geta 14 dX4_does_19 q2133 rfl ?_
  refine zr_iload_n dX4_does_22 rfl ?_
  refine zr_iconst dX4_does_23 ?_
  refine zr_iadd dX4_does_24 ?_
  refine zm_load hA (by decide) dX4_does_25 (by constructor <;> (try simp only [zMn]) <;> omega) ?_
  refine zr_istore dX4_does_26 (by decide) (zs5_4 rfl ?_)
  refine zr_aload_n dX4_does_28 rfl rfl ?_
  refine zm_geta 14 dX4_does_29 q2133 rfl ?_
  refine zr_iload_n dX4_does_32 rfl ?_
  refine zm_load hA (by decide) dX4_does_33 (by constructor <;> (try simp only [zMn]) <;> omega) ?_
  obtain ⟨op, x, y, z⟩ := X
  obtain ⟨⟨x1, x2⟩, ⟨y1, y2⟩, ⟨z1, z2⟩, hop⟩ := h9
  obtain ⟨r0, r1, r2, r3⟩ := hr
  have hV := hI.1
  have hY := hI.2.1
  have hc : (S.1 0) 9 < 100000 ∧ (S.1 0) 10 < 100000 ∧ (S.1 0) 11 < 100000 := by have := hI.2.2.2.1; omega
  have htg := hI.tk
  have k' : ∀ f, Q (.inl (some (.int (zi (pEx (S.1 0) (op, x, y, z)).2.1)))) (zMh ah A (pAf (zua S 4 f) (pEx (S.1 0) (op, x, y, z)))) := k
  clear k
  dsimp only at x1 x2 y1 y2 z1 z2 hop r0 r1 r2 r3
  rcases hop with rfl | rfl | rfl | rfl | rfl | rfl | rfl | rfl | rfl
  · have e : pEx (S.1 0) (112, x, y, z) = pAdd (S.1 0) x y z := by unfold pEx; simp
    have k := k'
    rw [e] at k
    simp only [r0, r1 (by decide), r2 (by decide), r3 (by decide)]
    refine zr_tableIn dX4_does_34 (off := 94) (tgt := 128) (by decide) (by decide) (by decide) (by decide) (by decide) ?_
    refine zr_aload_n dX4_does_128 rfl rfl ?_
    refine zr_iload_n dX4_does_129 rfl ?_
    refine zr_iload_n dX4_does_130 rfl ?_
    refine zr_iload dX4_does_131 rfl ?_
    refine zc_v3 dX4_does_133 hX4_points gX4_points rfl rfl 2 0 0 (by omega) (Nat.zero_le _) (Nat.zero_le _) q2189 q2191 sp44 zM_rc ?_
    refine kX4_points hA (by omega) hV (by omega) (by omega) (by omega) (zK_i ?_)
    refine zr_ireturn dX4_does_136 rfl (by first | rfl | exact z_nb _) ?_
    have w := k (S.1 4)
    rw [zua_self] at w
    exact w
  · have e : pEx (S.1 0) (116, x, y, z) = pJoin (S.1 0) x y z := by unfold pEx; simp
    have k := k'
    rw [e] at k
    simp only [r0, r1 (by decide), r2 (by decide), r3 (by decide)]
    refine zr_tableIn dX4_does_34 (off := 103) (tgt := 137) (by decide) (by decide) (by decide) (by decide) (by decide) ?_
    refine zr_aload_n dX4_does_137 rfl rfl ?_
    refine zr_iload_n dX4_does_138 rfl ?_
    refine zr_iload_n dX4_does_139 rfl ?_
    refine zr_iload dX4_does_140 rfl ?_
    refine zc_v3 dX4_does_142 hX4_joins gX4_joins rfl rfl 2 0 0 (by omega) (Nat.zero_le _) (Nat.zero_le _) q2211 q2213 sp47 zM_rc ?_
    refine kX4_joins hA (by omega) hV (by omega) (by omega) (by omega) (zK_i ?_)
    refine zr_ireturn dX4_does_145 rfl (by first | rfl | exact z_nb _) ?_
    have w := k (S.1 4)
    rw [zua_self] at w
    exact w
  · have e : pEx (S.1 0) (99, x, y, z) = pCut (S.1 0) x y := by unfold pEx; simp
    have k := k'
    rw [e] at k
    simp only [r0, r1 (by decide), r2 (by decide)]
    refine zr_tableIn dX4_does_34 (off := 112) (tgt := 146) (by decide) (by decide) (by decide) (by decide) (by decide) ?_
    refine zr_aload_n dX4_does_146 rfl rfl ?_
    refine zr_iload_n dX4_does_147 rfl ?_
    refine zr_iload_n dX4_does_148 rfl ?_
    refine zc_v2 dX4_does_149 hX4_cuts gX4_cuts rfl rfl 2 0 0 (by omega) (Nat.zero_le _) (Nat.zero_le _) q2235 q2237 sp52 zM_rc ?_
    refine kX4_cuts hA (by omega) hV (by omega) (by omega) (zK_i ?_)
    refine zr_ireturn dX4_does_152 rfl (by first | rfl | exact z_nb _) ?_
    have w := k (S.1 4)
    rw [zua_self] at w
    exact w
  · have e : pEx (S.1 0) (111, x, y, z) = pTour (S.1 0) x y := by unfold pEx; simp
    have k := k'
    rw [e] at k
    simp only [r0, r1 (by decide), r2 (by decide)]
    refine zr_tableIn dX4_does_34 (off := 119) (tgt := 153) (by decide) (by decide) (by decide) (by decide) (by decide) ?_
    refine zr_aload_n dX4_does_153 rfl rfl ?_
    refine zr_iload_n dX4_does_154 rfl ?_
    refine zr_iload_n dX4_does_155 rfl ?_
    refine zc_v2 dX4_does_156 hX4_tours gX4_tours rfl rfl 3 0 0 (by omega) (Nat.zero_le _) (Nat.zero_le _) q2243 q2245 sp53 zM_rc ?_
    refine kX4_tours hA (by omega) hV hY (by omega) (by omega) (fun f156 => zK_i ?_)
    refine zr_ireturn dX4_does_159 rfl (by first | rfl | exact z_nb _) ?_
    exact k f156
  · have e : pEx (S.1 0) (109, x, y, z) = pTell (S.1 0) 7 x 0 2 := by unfold pEx; simp
    have k := k'
    rw [e] at k
    simp only [r0, r1 (by decide)]
    refine zr_tableIn dX4_does_34 (off := 126) (tgt := 160) (by decide) (by decide) (by decide) (by decide) (by decide) ?_
    refine zr_aload_n dX4_does_160 rfl rfl ?_
    refine zr_bipush dX4_does_161 rfl ?_
    refine zr_iload_n dX4_does_163 rfl ?_
    refine zr_iconst dX4_does_164 ?_
    refine zr_iconst dX4_does_165 ?_
    refine zc_v4 dX4_does_166 hX4_tells gX4_tells rfl rfl 1 0 0 (by omega) (Nat.zero_le _) (Nat.zero_le _) q2318 q2320 sp67 zM_rc ?_
    refine kX4_tells hA (by omega) (by omega) (by omega) (by omega) (by omega) (zK_i ?_)
    refine zr_ireturn dX4_does_169 rfl (by first | rfl | exact z_nb _) ?_
    have w := k (S.1 4)
    rw [zua_self] at w
    exact w
  · have e : pEx (S.1 0) (108, x, y, z) = pTell (S.1 0) 8 x 1 30 := by unfold pEx; simp
    have k := k'
    rw [e] at k
    simp only [r0, r1 (by decide)]
    refine zr_tableIn dX4_does_34 (off := 136) (tgt := 170) (by decide) (by decide) (by decide) (by decide) (by decide) ?_
    refine zr_aload_n dX4_does_170 rfl rfl ?_
    refine zr_bipush dX4_does_171 rfl ?_
    refine zr_iload_n dX4_does_173 rfl ?_
    refine zr_iconst dX4_does_174 ?_
    refine zr_bipush dX4_does_175 rfl ?_
    refine zc_v4 dX4_does_177 hX4_tells gX4_tells rfl rfl 1 0 0 (by omega) (Nat.zero_le _) (Nat.zero_le _) q2318 q2320 sp67 zM_rc ?_
    refine kX4_tells hA (by omega) (by omega) (by omega) (by omega) (by omega) (zK_i ?_)
    refine zr_ireturn dX4_does_180 rfl (by first | rfl | exact z_nb _) ?_
    have w := k (S.1 4)
    rw [zua_self] at w
    exact w
  · have e : pEx (S.1 0) (104, x, y, z) = pChg (S.1 0) x := by unfold pEx; simp
    have k := k'
    rw [e] at k
    simp only [r0, r1 (by decide)]
    refine zr_tableIn dX4_does_34 (off := 147) (tgt := 181) (by decide) (by decide) (by decide) (by decide) (by decide) ?_
    refine zr_aload_n dX4_does_181 rfl rfl ?_
    refine zr_iload_n dX4_does_182 rfl ?_
    refine zc_v1 dX4_does_183 hX4_charges gX4_charges rfl rfl 1 0 0 (by omega) (Nat.zero_le _) (Nat.zero_le _) q2330 q2332 sp68 zM_rc ?_
    refine kX4_charges hA (by omega) hV (by omega) (zK_i ?_)
    refine zr_ireturn dX4_does_186 rfl (by first | rfl | exact z_nb _) ?_
    have w := k (S.1 4)
    rw [zua_self] at w
    exact w
  · have e : pEx (S.1 0) (118, x, y, z) = pUpd (S.1 0) x y := by unfold pEx; simp
    have k := k'
    rw [e] at k
    simp only [r0, r1 (by decide), r2 (by decide)]
    refine zr_tableIn dX4_does_34 (off := 153) (tgt := 187) (by decide) (by decide) (by decide) (by decide) (by decide) ?_
    refine zr_aload_n dX4_does_187 rfl rfl ?_
    refine zr_iload_n dX4_does_188 rfl ?_
    refine zr_iload_n dX4_does_189 rfl ?_
    refine zc_v2 dX4_does_190 hX4_updated gX4_updated rfl rfl 5 0 0 (by omega) (Nat.zero_le _) (Nat.zero_le _) q2280 q2282 sp60 zM_rc ?_
    refine kX4_updated hA (by omega) hV (by omega) (by omega) hc htg (zK_i ?_)
    refine zr_ireturn dX4_does_193 rfl (by first | rfl | exact z_nb _) ?_
    have w := k (S.1 4)
    rw [zua_self] at w
    exact w
  · have e : pEx (S.1 0) (115, x, y, z) = pStop (S.1 0) := by unfold pEx; simp
    have k := k'
    rw [e] at k
    simp only [r0]
    refine zr_tableIn dX4_does_34 (off := 160) (tgt := 194) (by decide) (by decide) (by decide) (by decide) (by decide) ?_
    refine zr_aload_n dX4_does_194 rfl rfl ?_
    refine zc_v0 dX4_does_195 hX4_stops gX4_stops rfl rfl 1 0 0 (by omega) (Nat.zero_le _) (Nat.zero_le _) q2268 q2270 sp58 zM_rc ?_
    refine kX4_stops hA (by omega) hV (zK_i ?_)
    refine zr_ireturn dX4_does_198 rfl (by first | rfl | exact z_nb _) ?_
    have w := k (S.1 4)
    rw [zua_self] at w
    exact w
