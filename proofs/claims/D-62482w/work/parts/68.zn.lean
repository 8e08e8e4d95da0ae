/-! LAYER 2, reading: one test, whole -/
set_option maxRecDepth 100000
section RDT
variable {A : gA} {M0 : gM} {z p bc bk : Nat} {tx : Nat → Nat}
def exT (N N' : gA) : Prop := N 9 2 ≤ N' 9 2 ∧ N 9 4 ≤ N' 9 4 ∧ ∀ k i, ¬ (k = 9 ∧ (i = 2 ∨ i = 4)) → ¬ (k = 12 ∧ N 9 4 ≤ i) → ¬ ((k = 13 ∨ k = 21 ∨ k = 22 ∨ k = 32) ∧ N 9 2 ≤ i) → N' k i = N k i
theorem exT.refl {N : gA} : exT N N := ⟨Nat.le_refl _, Nat.le_refl _, fun _ _ _ _ _ => rfl⟩
theorem exT.trans {N N' N'' : gA} (h : exT N N') (h' : exT N' N'') : exT N N'' := by
  obtain ⟨h1, h2, h3⟩ := h
  obtain ⟨k1, k2, k3⟩ := h'
  exact ⟨by omega, by omega, fun k i w1 w2 w3 => (k3 k i w1 (by omega) (by omega)).trans (h3 k i w1 w2 w3)⟩
def mTe (N : gA) (M M' : gM) : Prop := ∀ k i, ¬ (k = 4 ∨ k = 5 ∨ k = 38 ∨ k = 39 ∨ ((k = 11 ∨ k = 13) ∧ i = N 9 5) ∨ (23 ≤ k ∧ k ≤ 32 ∧ 64 * N 9 5 ≤ i ∧ i < 64 * N 9 5 + 64)) → M' k i = M k i
theorem s_test {N : gA} {M : gM} {S : gm_S} (h : PA A M S z tx p) (hi : g_inv M0 S) (hb : PB bc bk S p) (hn : qN A N M S) (ht : qT N M S) (h3 : 3 * N 9 4 + 2 ≤ p) (h4 : 3 * N 9 2 + 2 ≤ p) {fu : Nat} (hf : 100 ≤ fu) :
    (∃ N' y M' S' p', F_X4_readTest fu M = some (.returned none, M') ∧ F_X2_test fu (some (A 1 0)) S = some (.returned (some (va_rf (some y))), S') ∧ PA A M' S' z tx p' ∧ g_inv M0 S' ∧ PB bc bk S' p' ∧ p + 2 ≤ p' ∧ qN A N' M' S' ∧ qT N' M' S' ∧ N' 13 (N 9 2) = y ∧ g_okE (gs_t S' y) = true ∧ exT N N' ∧ N' 9 2 = N 9 2 + 1 ∧ 3 * N' 9 4 + 1 ≤ p' ∧ ag (eN A N) (fun a => a = N 35 0) S S' ∧ (∀ b, b ≠ N 35 0 → S'.2.1 b = S.2.1 b) ∧ mTe N M M') ∨
    (∃ M' o S', F_X4_readTest fu M = some (.returned none, M') ∧ F_X2_test fu (some (A 1 0)) S = some (o, S') ∧ PF A M0 bc bk M' o S' ∧ ag (eN A N) (fun a => a = N 35 0) S S' ∧ (∀ b, b ≠ N 35 0 → S'.2.1 b = S.2.1 b) ∧ mTe N M M') := by
  have hpz := h.pz
  obtain ⟨q1, q2, -⟩ := id hn
  obtain ⟨ix, hix⟩ : ∃ ix, ix = 64 * N 9 5 + N 9 2 := ⟨_, rfl⟩
  have hix2 : ix < 128 := by omega
  have hixr : 64 * N 9 5 ≤ ix ∧ ix < 64 * N 9 5 + 64 := by omega
  unfold F_X4_readTest F_X2_test
  rw [q1, y_aI (by omega) (by omega), y_b, ht.1, y_m64, nI_add, ← hix, y_q h.1]
  obtain ⟨v, M6, S6, p6, hv, e1, e2, P6, t6, f6⟩ := s_opt h fu (c := 33) (by omega) (by omega)
  have okv : g_okZ v = true := by rcases hv with w | w <;> rw [w.1] <;> decide
  obtain ⟨M9, hM9⟩ : ∃ M9, M9 = n_up (n_up M6 26 ix (.int v)) 27 ix (.int (-1)) := ⟨_, rfl⟩
  rw [show F_X4_takes fu 33 M = _ from e1, y_cI, y_sZ hix2 (by omega) okv, y_b, y_sI hix2 (by omega), y_b, ← hM9, show F_X2_takes fu (some (A 1 0)) 33 S = _ from e2, y_cI, y_q P6.1]
  have P9 : PA A M9 S6 z tx p6 := P6.mono g_none ⟨fun w => w, fun w => w, fun w => w, fun w => w, fun w => w⟩ (fun k i w => by rw [hM9, y_uk (by omega), y_uk (by omega)])
  obtain ⟨v', M10, S10, p10, hv', e3, e4, P10, t10, f10⟩ := s_opt P9 fu (c := 35) (by omega) (by omega)
  rw [show F_X4_takes fu 35 M9 = _ from e3, y_cI, show F_X2_takes fu (some (A 1 0)) 35 S6 = _ from e4, y_cI]
  have fM : ∀ k i, k ≠ 4 → ¬ ((k = 26 ∨ k = 27) ∧ i = ix) → M10 k i = M k i := fun k i w w' => by
    rw [f10 k i w, hM9, n_upo (by omega), n_upo (by omega), f6 k i w]
  have m26 : n_I M10 26 ix = v := by unfold n_I; rw [f10 _ _ (by omega), hM9, y_uk (by decide), y_us]; rfl
  have m27 : n_I M10 27 ix = -1 := by unfold n_I; rw [f10 _ _ (by omega), hM9, y_us]; rfl
  have tt : tA A S S10 := t6.trans t10
  have i10 := tt.inv hi h.1
  have p610 : p ≤ p10 := by rcases hv with w | w <;> rcases hv' with w' | w' <;> omega
  have b10 : PB bc bk S10 p10 := tt.b hb p610
  have gt : ag (eN A N) (fun a => a = N 35 0) S S10 := tt.ag.wk (fun F a w => Or.inl w) (fun a w => w.elim)
  have l10 : S10.2.1 = S.2.1 := by rw [tt.2]
  have qn10 : qN A N M10 S10 := hn.mono tt.ag ⟨fun F b w1 w2 => by unfold eA; omega, by unfold eA; omega⟩ (fun w => w) ⟨rfl, rfl, rfl, fun _ _ => rfl⟩ ⟨fM _ _ (by omega) (by omega), fM _ _ (by omega) (by omega), fun k a w1 w2 w3 => fM _ _ (by omega) (by omega)⟩
  have hm8 : n_I M10 8 0 = nI (N 9 5) := qn10.1
  have m11 : n_I M10 11 (N 9 5) = nI (N 9 2) := by unfold n_I; rw [fM _ _ (by omega) (by omega)]; exact ht.1
  have hnt : ∀ F b, 900 ≤ F → F < 1500 → ¬ (1000 ≤ F ∧ F < 1300) → ¬ eN A N F b := fun F b w1 w2 w3 => by unfold eN; omega
  rcases hv' with ⟨hv0, hp10, hM10, hS10, -⟩ | ⟨hv1, hp10, -⟩
  · -- a comparison
    rw [if_pos hv0, if_pos hv0, y_q P10.1]
    rcases s_operand P10 i10 b10 (fu := fu) hf with ⟨M11, o1, S11, p11, y1, y2, y3⟩ | ⟨M11, o, S11, y1, y2, y3⟩
    · obtain ⟨a1, a2, a3, a4, a5, a6, a7, a8, a9, a10⟩ := y3
      obtain ⟨M14, hM14⟩ : ∃ M14, M14 = n_up M11 29 ix (.int (n_I M11 38 0)) := ⟨_, rfl⟩
      have r39 : n_D M14 39 0 = n_D M11 39 0 := by rw [hM14]; unfold n_D; rw [y_uk (by decide)]
      obtain ⟨M17, hM17⟩ : ∃ M17, M17 = n_up M14 31 ix (.double (n_D M11 39 0)) := ⟨_, rfl⟩
      have f17 : ∀ k i, ¬ (k = 4 ∨ k = 38 ∨ k = 39 ∨ ((k = 26 ∨ k = 27 ∨ k = 29 ∨ k = 31) ∧ i = ix)) → M17 k i = M k i := fun k i q => by
        rw [hM17, n_upo (by omega), hM14, n_upo (by omega), a10 k i (by omega), fM k i (by omega) (by omega)]
      have P17 : PA A M17 S11 z tx p11 := a1.mono g_none ⟨fun w => w, fun w => w, fun w => w, fun w => w, fun w => w⟩ (fun k i w => by rw [hM17, y_uk (by omega), hM14, y_uk (by omega)])
      have h817 : n_I M17 8 0 = nI (N 9 5) := by unfold n_I; rw [f17 _ _ (by omega)]; exact q1
      have to1 : gs_t S11 o1 = 9 := by obtain ⟨a, ea, ta, -⟩ := y_gIt a5.1; cases ea; exact ta
      rw [y1, y_cV, y_sI hix2 (by omega), y_b, ← hM14, y_sD hix2 (by omega), y_b, r39, ← hM17, y2, gz_cR_rf]
      rcases s_cmp2 P17 a2 a3 h817 q2 hix2 hf okv to1 with ⟨M', y, o2, S', p', g, c1, c2, c3, c4, c5, c6, c7, c8, c9, c10, c11, c12, c13, c14, c15, c16, c17⟩ | ⟨M', o, S', c1, c2, c3, c4, c5, c6⟩
      · have g17 : ag (eN A N) (fun a => a = N 35 0) S S' := ((gt.trans a8).trans c14).wk (fun F a w => by rcases w with (w | w) | w; exact w; exact Or.inl w; exact Or.inl w) (fun a w => by rcases w with (w | w) | w; exact w; exact w.elim; exact w.elim)
        have fE : ∀ k i, ¬ (k = 4 ∨ k = 38 ∨ k = 39 ∨ (k = 11 ∧ i = N 9 5) ∨ (26 ≤ k ∧ k ≤ 32 ∧ i = ix)) → M' k i = M k i := fun k i q => (c17 k i (by omega)).trans (f17 k i (by omega))
        have n11 : n_I M' 11 (N 9 5) = nI (N 9 2 + 1) := by
          rw [c16, show n_I M17 11 (N 9 5) = nI (N 9 2) from by unfold n_I; rw [f17 _ _ (by omega)]; exact ht.1, nI_1]
        have ty : gs_t S' y = 14 := by obtain ⟨a, ea, ta, -⟩ := y_gIt c9; cases ea; exact ta
        have gS11 : ag (eA A) (fun _ => False) S S' := ((tt.ag.trans a8).trans c14).wk (fun F a w => by rcases w with (w | w) | w <;> exact w) (fun a w => by rcases w with (w | w) | w <;> exact w)
        have v26 : n_I M' 26 ix = v := by unfold n_I; rw [c17 _ _ (by omega), hM17, y_uk (by decide), hM14, y_uk (by decide), a10 _ _ (by omega)]; exact m26
        have v27 : n_I M' 27 ix = -1 := by unfold n_I; rw [c17 _ _ (by omega), hM17, y_uk (by decide), hM14, y_uk (by decide), a10 _ _ (by omega)]; exact m27
        have v29 : n_I M' 29 ix = n_I M11 38 0 := by unfold n_I; rw [c17 _ _ (by omega), hM17, y_uk (by decide), hM14, y_us]; rfl
        have v31 : n_D M' 31 ix = n_D M11 39 0 := by unfold n_D; rw [c17 _ _ (by omega), hM17, y_us]; rfl
        have e5 : aTst N y o1 o2 0 9 5 = N 9 5 := aTst_o (by omega) (by omega)
        refine Or.inl ⟨aTst N y o1 o2 0, y, M', S', p', c1, c2, c3, c4, c5, by omega, hn.mono gS11 ⟨fun F b w1 w2 => by unfold eA; omega, by unfold eA; omega⟩ (fun w => w) ⟨aTst_o (by omega) (by omega), e5, aTst_o (by omega) (by omega), fun k hk => aTst_o (by omega) (by omega)⟩ ⟨fE _ _ (by omega), fE _ _ (by omega), fun k a w1 w2 w3 => fE _ _ (by omega)⟩, qT_add ht g17 hnt ⟨rfl, rfl, Nat.le_refl _, fun _ _ => rfl, fun _ => ⟨rfl, rfl, rfl, rfl⟩⟩ ⟨n11, fun k a w1 w2 w3 => fE _ _ (by omega)⟩ ⟨?_, ?_⟩, aTst_13, by rw [ty]; decide, ⟨by rw [aTst_n]; omega, by rw [aTst_o (by omega) (by omega)]; omega, fun k i w1 w2 w3 => aTst_o (by omega) (by omega)⟩, aTst_n, by rw [aTst_o (by omega) (by omega)]; omega, g17, fun b _ => by rw [c15, a9, l10], fun k i q => fE k i (by omega)⟩
        · unfold cW5
          rw [e5, aTst_32, ← hix, v26, v27, v29]
          exact ⟨by rcases hv with w | w; exact Or.inl w.1; exact Or.inr w.1, Or.inl ⟨rfl, rfl, a6, c8⟩⟩
        · unfold cH4
          rw [e5, aTst_32, aTst_13, aTst_21, aTst_22, ← hix, v26, v29, v31, c7]
          exact ⟨fun _ => ⟨c9, c10, a5.ag c14 (by unfold eA; omega) (by unfold eA; omega), c11, c13, c12⟩, fun w => absurd rfl w⟩
      · refine Or.inr ⟨M', o, S', c1, c2, c3, ((gt.trans a8).trans c4).wk (fun F a w => by rcases w with (w | w) | w; exact w; exact Or.inl w; exact Or.inl w) (fun a w => by rcases w with (w | w) | w; exact w; exact w.elim; exact w.elim), fun b _ => by rw [c5, a9, l10], fun k i q => (c6 k i (by omega)).trans (f17 k i (by omega))⟩
    · obtain ⟨a1, a2, a3, a5⟩ := y3
      obtain ⟨a, p', g1, g2⟩ := a1
      obtain ⟨M14, hM14⟩ : ∃ M14, M14 = n_up M11 29 ix (.int (n_I M11 38 0)) := ⟨_, rfl⟩
      obtain ⟨M17, hM17⟩ : ∃ M17, M17 = n_up M14 31 ix (.double (n_D M14 39 0)) := ⟨_, rfl⟩
      have f17 : ∀ k i, ¬ (k = 4 ∨ k = 5 ∨ k = 38 ∨ k = 39 ∨ ((k = 26 ∨ k = 27 ∨ k = 29 ∨ k = 31) ∧ i = ix)) → M17 k i = M k i := fun k i q => by
        rw [hM17, n_upo (by omega), hM14, n_upo (by omega), a5 k i (by omega), fM k i (by omega) (by omega)]
      have h817 : n_I M17 8 0 = nI (N 9 5) := by unfold n_I; rw [f17 _ _ (by omega)]; exact q1
      have h517 : n_I M17 5 0 = 1 := by unfold n_I; rw [hM17, y_uk (by decide), hM14, y_uk (by decide)]; exact g2.2.2.2.1
      obtain ⟨M', y3, y4, y5⟩ := i_117 h817 q2 hix2 hf
      rw [y1, y_cV, y_sI hix2 (by omega), y_b, ← hM14, y_sD hix2 (by omega), y_b, ← hM17, y2]
      refine Or.inr ⟨M', o, S11, (i_cmp h517 fu (nI ix)).trans y3, by rw [g1]; rfl, PF.m ⟨a, p', g1, g2⟩ ?_ y4, (gt.trans a2).wk (fun F a w => by rcases w with w | w; exact w; exact Or.inl w) (fun a w => by rcases w with w | w; exact w; exact w.elim), fun b _ => by rw [a3, l10], fun k i q => (y5 k i (by omega)).trans (f17 k i (by omega))⟩
      unfold n_I; rw [y5 _ _ (by omega), hM17, y_uk (by decide), hM14, y_uk (by decide)]
  · -- a name
    rw [if_neg (by rw [hv1]; decide), if_neg (by rw [hv1]; decide)]
    rcases s_within P10 i10 b10 qn10 (by omega) hf okv with ⟨x, y, M22, S', p', c1, c2, c3, c4, c5, c6, c7, c8, c9, c10, c11, c12, c13, c14⟩ | ⟨w, M22, o, S', c1, c2, c3, c4, c5, c6⟩
    · obtain ⟨M23, hM23⟩ : ∃ M23, M23 = n_up M22 27 ix (.int (nI (64 * N 9 5 + N 9 4))) := ⟨_, rfl⟩
      have h823 : n_I M23 8 0 = nI (N 9 5) := by unfold n_I; rw [hM23, y_uk (by decide), c14 _ _ (by omega)]; exact hm8
      have m1123 : n_I M23 11 (N 9 5) = nI (N 9 2) := by unfold n_I; rw [hM23, y_uk (by decide), c14 _ _ (by omega)]; exact m11
      rw [c1, y_cI, y_sI hix2 (by omega), y_b, ← hM23, m_154 h823 q2, m1123, nI_1]
      obtain ⟨M', hM'⟩ : ∃ M', M' = n_up M23 11 (N 9 5) (.int (nI (N 9 2 + 1))) := ⟨_, rfl⟩
      rw [← hM']
      have f22 : ∀ k i, ¬ (k = 4 ∨ k = 5 ∨ (k = 11 ∧ i = N 9 5) ∨ (k = 27 ∧ i = ix)) → M' k i = M22 k i := fun k i q => by rw [hM', n_upo (by omega), hM23, n_upo (by omega)]
      have fE : ∀ k i, ¬ (k = 4 ∨ k = 5 ∨ (k = 11 ∧ i = N 9 5) ∨ (k = 13 ∧ i = N 9 5) ∨ (23 ≤ k ∧ k ≤ 25 ∧ 64 * N 9 5 ≤ i ∧ i < 64 * N 9 5 + 64) ∨ ((k = 26 ∨ k = 27) ∧ i = ix)) → M' k i = M k i := fun k i q => (f22 k i (by omega)).trans ((c14 k i (by omega)).trans (fM k i (by omega) (by omega)))
      have g17 : ag (eN A N) (fun a => a = N 35 0) S S' := (gt.trans c12).wk (fun F a w => w.elim id id) (fun a w => w.elim id id)
      have P' : PA A M' S' z tx p' := c3.mono g_none ⟨fun w => w, fun w => w, fun w => w, fun w => w, fun w => w⟩ (fun k i w => by rw [hM', y_uk (by omega), hM23, y_uk (by omega)])
      have n11 : n_I M' 11 (N 9 5) = nI (N 9 2 + 1) := by rw [hM']; unfold n_I; rw [y_us]; rfl
      have ty : gs_t S' y = 13 := by obtain ⟨a, ea, ta, -⟩ := y_gIt c10; cases ea; exact ta
      have v26 : n_I M' 26 ix = v := by unfold n_I; rw [f22 _ _ (by omega), c14 _ _ (by omega)]; exact m26
      have v27 : n_I M' 27 ix = nI (64 * N 9 5 + N 9 4) := by unfold n_I; rw [hM', y_uk (by decide), hM23, y_us]; rfl
      have n2 : aNam N x 9 2 = N 9 2 := aNam_o (by omega) (by omega)
      have e5 : aTst (aNam N x) y 0 0 (N 9 4 + 1) 9 5 = N 9 5 := (aTst_o (by omega) (by omega)).trans aNam_w
      have e4 : aTst (aNam N x) y 0 0 (N 9 4 + 1) 9 4 = N 9 4 + 1 := (aTst_o (by omega) (by omega)).trans aNam_n
      have e13 : aTst (aNam N x) y 0 0 (N 9 4 + 1) 13 (N 9 2) = y := by have := aTst_13 (N := aNam N x) (y := y) (o1 := 0) (o2 := 0) (c := N 9 4 + 1); rw [n2] at this; exact this
      have e32 : aTst (aNam N x) y 0 0 (N 9 4 + 1) 32 (N 9 2) = N 9 4 + 1 := by have := aTst_32 (N := aNam N x) (y := y) (o1 := 0) (o2 := 0) (c := N 9 4 + 1); rw [n2] at this; exact this
      have e12 : aTst (aNam N x) y 0 0 (N 9 4 + 1) 12 (N 9 4) = x := (aTst_o (by omega) (by omega)).trans aNam_x
      have m22 : ∀ k i, ¬ (k = 4 ∨ k = 5 ∨ (k = 11 ∧ i = N 9 5) ∨ (k = 27 ∧ i = ix)) → M' k i = M22 k i := f22
      refine Or.inl ⟨aTst (aNam N x) y 0 0 (N 9 4 + 1), y, M', S', p', rfl, c2, P', c4, c5, by omega, c7.mono g_none ⟨fun _ _ _ _ w => w, fun w => w⟩ (fun w => w) ⟨aTst_o (by omega) (by omega), aTst_o (by omega) (by omega), aTst_o (by omega) (by omega), fun k hk => aTst_o (by omega) (by omega)⟩ ⟨f22 _ _ (by omega), f22 _ _ (by omega), fun k a w1 w2 w3 => f22 _ _ (by omega)⟩, qT_add ht g17 hnt ⟨n2, aNam_w, by rw [aNam_n]; omega, fun k hk => aNam_o (by omega) (by omega), fun j => ⟨aNam_o (by omega) (by omega), aNam_o (by omega) (by omega), aNam_o (by omega) (by omega), aNam_o (by omega) (by omega)⟩⟩ ⟨n11, fun k a w1 w2 w3 => fE _ _ (by omega)⟩ ⟨?_, ?_⟩, e13, by rw [ty]; decide, ⟨by rw [aTst_n, n2]; omega, by rw [e4]; omega, fun k i w1 w2 w3 => (aTst_o (by omega) (by rw [n2]; omega)).trans (aNam_o (by omega) (by omega))⟩, by rw [aTst_n, n2], by rw [e4]; omega, g17, fun b hb' => by rw [c13 b hb', l10], fun k i q => fE k i (by omega)⟩
      · unfold cW5
        rw [e5, e32, e4, ← hix, v26, v27]
        exact ⟨by rcases hv with w | w; exact Or.inl w.1; exact Or.inr w.1, Or.inr ⟨by omega, by rw [Nat.add_sub_cancel], Nat.le_refl _⟩⟩
      · unfold cH4
        rw [e5, e32, e13, ← hix, v26, Nat.add_sub_cancel, e12]
        exact ⟨fun w => by omega, fun _ => ⟨c10, c11⟩⟩
    · obtain ⟨M23, hM23⟩ : ∃ M23, M23 = n_up M22 27 ix (.int w) := ⟨_, rfl⟩
      have h823 : n_I M23 8 0 = nI (N 9 5) := by unfold n_I; rw [hM23, y_uk (by decide), c6 _ _ (by omega)]; exact hm8
      rw [c1, y_cI, y_sI hix2 (by omega), y_b, ← hM23, m_154 h823 q2]
      obtain ⟨a, p', g1, g2⟩ := c3
      refine Or.inr ⟨_, o, S', rfl, c2, PF.m ⟨a, p', g1, g2⟩ ?_ ?_, (gt.trans c4).wk (fun F a w => w.elim id id) (fun a w => w.elim id id), fun b hb' => by rw [c5 b hb', l10], fun k i q => ?_⟩
      · unfold n_I; rw [y_uk (by decide), hM23, y_uk (by decide)]
      · unfold n_I; rw [y_uk (by decide), hM23, y_uk (by decide)]; exact g2.2.2.2.1
      · rw [n_upo (by omega), hM23, n_upo (by omega), c6 k i (by omega), fM k i (by omega) (by omega)]
end RDT
