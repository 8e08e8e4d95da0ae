/-! LAYER 2, reading: the target of a transition -/
set_option maxRecDepth 100000
section RDM
variable {A : gA} {M0 : gM} {z p bc bk : Nat} {tx : Nat → Nat}
theorem s_target {N : gA} {M : gM} {S : gm_S} (h : PA A M S z tx p) (hi : g_inv M0 S) (hb : PB bc bk S p) (hq : qN A N M S) (h3 : 3 * N 9 4 + 2 ≤ p) {fu : Nat} (hf : 100 ≤ fu) :
    (∃ x M' S' p', F_X4_readName fu 1 M = some (.returned (some (.int (nI (64 * N 9 5 + N 9 4)))), M') ∧ F_X2_target fu (some (A 1 0)) S = some (.returned (some (va_rf (some x))), S') ∧ PA A M' S' z tx p' ∧ g_inv M0 S' ∧ PB bc bk S' p' ∧ p < p' ∧ qN A (aNam N x) M' S' ∧ gs_t S x = 0 ∧ ag (eN A N) (fun a => a = N 35 0) S S' ∧ (∀ b, b ≠ N 35 0 → S'.2.1 b = S.2.1 b) ∧ mNa N M M') ∨
    (∃ v M' o S', F_X4_readName fu 1 M = some (.returned (some (.int v)), M') ∧ F_X2_target fu (some (A 1 0)) S = some (o, S') ∧ PF A M0 bc bk M' o S' ∧ ag (eN A N) (fun a => a = N 35 0) S S' ∧ (∀ b, b ≠ N 35 0 → S'.2.1 b = S.2.1 b) ∧ mNa N M M') := by
  have hpz := h.pz
  have hct := ct_le h
  have hq0 := hq
  obtain ⟨q1, q2, q3, q4, q5, q6, q7, q8, q9⟩ := hq
  have hma := m_among h fu (lo := 97) (hi := 112) (by omega) (by omega)
  have hca := c_among h fu (lo := 97) (hi := 112) (by omega) (by omega)
  unfold F_X4_readName F_X2_target
  rw [show F_X4_among fu 97 112 M = _ from hma, y_cI, y_q h.1, show F_X2_isAmong fu (some (A 1 0)) 97 112 S = _ from hca, y_cI, y_q h.1]
  by_cases hd' : 97 ≤ ct z tx p ∧ ct z tx p ≤ 112
  · obtain ⟨hp, hcc⟩ := ct_lo (by omega) hd'.1
    have ea : am 97 112 (ct z tx p) = 1 := if_pos hd'
    obtain ⟨b1, b2, b3, b4⟩ := hb
    obtain ⟨ix, hix⟩ : ∃ ix, ix = 64 * N 9 5 + N 9 4 := ⟨_, rfl⟩
    have hix2 : ix < 128 := by omega
    obtain ⟨l, hlt⟩ : ∃ l, tx p = 97 + l := ⟨tx p - 97, by omega⟩
    have e97 : nI (tx p) - 97 = nI l := by
      have := pk_sub (a := tx p) (b := 97) (by omega)
      rw [show tx p - 97 = l by omega] at this
      exact this
    obtain ⟨M10, hM10⟩ : ∃ M10, M10 = n_up M 24 ix (.int (nI p)) := ⟨_, rfl⟩
    have P10 : PA A M10 S z tx p := h.mono g_none ⟨fun w => w, fun w => w, fun w => w, fun w => w, fun w => w⟩ (fun k i w => by rw [hM10]; exact y_uk (by omega))
    obtain ⟨x1, x2, x3⟩ := s_next P10 fu hp
    obtain ⟨M15, hM15⟩ : ∃ M15, M15 = n_up (n_up (n_p M10 4 (nI (p + 1))) 23 ix (.int (nI l))) 25 ix (.int 0) := ⟨_, rfl⟩
    have P15 : PA A M15 (sA A S (p + 1)) z tx (p + 1) := x3.mono g_none ⟨fun w => w, fun w => w, fun w => w, fun w => w, fun w => w⟩ (fun k i w => by rw [hM15, y_uk (by omega), y_uk (by omega)])
    have f15 : ∀ k i, k ≠ 4 → ¬ (23 ≤ k ∧ k ≤ 25 ∧ i = ix) → M15 k i = M k i := fun k i w w' => by
      rw [hM15, n_upo (by omega), n_upo (by omega)]
      show n_up M10 4 0 _ k i = _
      rw [y_uk w, hM10, n_upo (by omega)]
    obtain ⟨st, M1, S1, p1, s1, s2, s3, s4, s5, s6, s7, s8⟩ := s_stars P15 hf hix2 (by rw [hM15]; unfold n_I; rw [y_us]; rfl) (nI p) (nI (tx p))
    have ts : tA A S (sA A S (p + 1)) := tA.s
    have tt : tA A S S1 := ts.trans s6
    have i1 := tt.inv hi h.1
    have m8 : n_I M1 8 0 = nI (N 9 5) := by unfold n_I; rw [s8 _ _ (by omega) (by omega), f15 _ _ (by omega) (by omega)]; exact q1
    have m13 : n_I M1 13 (N 9 5) = nI (N 9 4) := by unfold n_I; rw [s8 _ _ (by omega) (by omega), f15 _ _ (by omega) (by omega)]; exact q3
    obtain ⟨M2, hM2⟩ : ∃ M2, M2 = n_up M1 13 (N 9 5) (.int (nI (N 9 4 + 1))) := ⟨_, rfl⟩
    have c1 : gs_c S1 = gs_c S := by show S1.2.2.2.1 = _; rw [tt.2]
    have k1 : gs_k S1 = gs_k S := by show S1.2.2.2.2 = _; rw [tt.2]
    have n1' : gs_n S1 = gs_n S := by show S1.2.2.1 = _; rw [tt.2]
    obtain ⟨S2, y1, y2, y3, y4, y5, y6, y7⟩ := x_name (M0 := M0) (S := g_mk S1 11 4) y_mkn (c := tx p) (by omega) (nI p) (nI st) fu
    have gm : ag (fun _ _ => False) (fun _ => False) S1 S2 := (ag.mkt i1.2.2.2 y5).wk (fun F a w => w.2 w.1.2) (fun a w => w.1)
    have c2 : gs_c S2 = gs_c S + 1 := by show S2.2.2.2.1 = _; rw [y6]; show gs_c S1 + 1 = _; rw [c1]
    have k2 : gs_k S2 = gs_k S + 4 := by show S2.2.2.2.2 = _; rw [y6]; show gs_k S1 + 4 = _; rw [k1]
    have l2 : S2.2.1 = S.2.1 := by rw [y6]; show S1.2.1 = _; rw [tt.2]
    have t0 : gs_t S (gs_n S1) = 0 := by
      rw [n1']
      rcases Nat.eq_zero_or_pos (gs_t S (gs_n S)) with w | w
      · exact w
      · have := hi.2.2.2 (gs_n S) (by omega); omega
    have f2 : ∀ k i, k ≠ 4 → ¬ (k = 13 ∧ i = N 9 5) → ¬ (23 ≤ k ∧ k ≤ 25 ∧ i = ix) → M2 k i = M k i := fun k i w w' w'' => by rw [hM2, n_upo w', s8 k i w (by omega), f15 k i w w'']
    have v1 : qN1 N M2 S2 (gs_n S1) (N 9 4) := by
      refine ⟨l, p, st, by omega, s1, by omega, ?_, ?_, ?_, by rw [← hlt]; exact y2, y3, y4⟩
      · rw [← hix]; unfold n_I; rw [hM2, y_uk (by decide), s8 _ _ (by decide) (by omega), hM15, y_uk (by decide), y_us]; rfl
      · rw [← hix]; unfold n_I; rw [hM2, y_uk (by decide), s8 _ _ (by decide) (by omega), hM15, y_uk (by decide), y_uk (by decide)]
        show gm_I (n_up M10 4 0 _ 24 ix) = _
        rw [y_uk (by decide), hM10, y_us]; rfl
      · rw [← hix]; unfold n_I; rw [hM2, y_uk (by decide)]; exact s7
    have tx2 : gs_t S2 (gs_n S1) = 11 := by obtain ⟨a, e, ta, -⟩ := y_gIt y2; cases e; exact ta
    obtain ⟨S', d1, d2, d3, d4, d5, d6, d7, d8, d9⟩ := c_nam (M' := M2) hq0 (y7 i1.mk) ((tt.ag.trans gm).wk (fun F a w => w.elim id (fun w => w.elim)) (fun a w => w.elim id id)) l2 (by omega) tx2 t0 (by have := hi.2.2.2 (N 35 0) (by rw [q5]; decide); omega) v1 (by rw [hM2]; unfold n_I; rw [y_us]; rfl) (by unfold n_I; rw [f2 _ _ (by omega) (by omega) (by omega)]; exact q1) (fun K k f1 f3 f4 => f2 _ _ (by omega) (by omega) (by omega)) (by omega) (by omega)
    have hne : N 35 0 ≠ A 34 0 := fun w => by rw [w, h.2.2.1] at q5; cases q5
    have PM : PA A M2 S' z tx p1 := (s5.mono gm ⟨fun w => w, fun w => w, fun w => w, fun w => w, fun w => w⟩ (M' := M2) (fun k i w => by rw [hM2]; exact y_uk (by omega))).mono d5 (by simp) (fun _ _ _ => rfl)
    refine Or.inl ⟨gs_n S1, M2, S', p1, ?_, ?_, PM, d6, ⟨by omega, by omega, b3, b4⟩, by omega, d3, t0, d4, d9, fun k i w => f2 k i (by omega) (by omega) (by omega)⟩
    · rw [ea, m_want1, y_cV, q1, y_aI (by omega) (by omega), y_b, q3, h.m5, if_pos rfl, y_m64, nI_add, ← hix, h.m4, y_sI hix2 (by omega), y_b, ← hM10, x1, y_cI, e97, y_sI hix2 (by omega), y_b, y_sI hix2 (by omega), y_b, ← hM15, s3]
      unfold F_X4_readName_105
      rw [m8, y_aI (by omega) (by omega), y_b, m13, nI_1, y_sI (by omega) (by omega), y_b, ← hM2]
    · rw [ea, c_want1, y_cV, h.at', y_b, y_q h.1, x2, y_cI, s4]
      unfold F_X2_target_53
      rw [y_new (by omega) (by omega), y_b]
      dsimp only
      rw [y_q y_mkn, y1, y_cV, d1, y_b, d2, y_b]
  · have ea : am 97 112 (ct z tx p) = 0 := am1.mpr hd'
    obtain ⟨f1, f2⟩ := s_fail (bc := bc) (bk := bk) h hi hb fu (some (A 1 0))
    have q8' : n_I (n_p M 5 1) 8 0 = nI (N 9 5) := (n_po (by decide)).trans q1
    rw [ea, m_want0, y_cV, q8', y_aI (by omega) (by omega), y_b, n_ps, if_neg (by decide), f1, y_cVt]
    exact Or.inr ⟨0, _, _, _, rfl, rfl, f2, (ag.mk hi.2.2.2).wk (fun F a w => w.elim) (fun a w => w.elim), fun _ _ => rfl, fun k i w => y_uk (by omega)⟩
end RDM
