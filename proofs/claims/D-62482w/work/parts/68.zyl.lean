/-! LAYER 2: build, the call -/
set_option maxRecDepth 100000
section RDZA
variable {A : gA} {M0 : gM}
theorem L_build0 {M : gM} {S : gm_S} {fu : Nat} (hf : 400 ≤ fu) (hB : A 36 0 = gs_n S) (h : RL A M0 M S) (hb : A 33 0 + 1300 ≤ 599900) (hb' : A 33 1 + 64200 ≤ 7300000) : ∃ A' v M'' o S', F_X4_build fu M = some (.returned (some (.int v)), M'') ∧ F_X1_build fu (some (A 0 0)) S = some (o, S') ∧ A' 0 0 = A 0 0 ∧ rW A' M0 (A 33 0 + 1300) (A 33 1 + 64200) 16 v M'' o S' ∧ ∀ a, o = .threw a → gs_t S' a = 17 := by
  obtain ⟨c1, c2, b⟩ := h.b
  obtain ⟨i1, b2, b3, b4, b5, b6, b7, b8, b9⟩ := b
  obtain ⟨r1, r2, r3, r4, r5, r6, r7, r8, r9, r10, r11, r12, r13, d1, d2, d3, d4, ⟨z, y, z1, z2, z3, z4, z5, z6⟩, -⟩ := id b9
  have nt : gs_t S (A 0 0) = 1 := h.nt
  have rt : gs_t S (A 1 0) = 2 := by obtain ⟨q, eq, tq, -⟩ := y_gRt r8; cases eq; exact tq
  have pc : gs_c S ≤ A 33 0 := by have := b8.1; unfold p_c at this; omega
  have pk : gs_k S ≤ A 33 1 := by have := b8.2.1; unfold p_k at this; omega
  obtain ⟨w, hw, hlv⟩ : ∃ w : Nat, w < 2 ∧ ((n_I M 7 0 = 0 ∧ w = 1) ∨ (n_I M 7 0 ≠ 0 ∧ w = 0)) := by
    by_cases q : n_I M 7 0 = 0
    · exact ⟨1, by omega, Or.inl ⟨q, rfl⟩⟩
    · exact ⟨0, by omega, Or.inr ⟨q, rfl⟩⟩
  have hlw : n_I M 7 0 ≠ nI w := by
    rcases hlv with ⟨q1, q2⟩ | ⟨q1, q2⟩
    · rw [q1, q2]; decide
    · rw [q2]; exact q1
  obtain ⟨M1, m1, m8, m4, m5, mc, m17, mf⟩ := m_build (fu := fu) (by omega) hw hlv
  obtain ⟨S1, hS1⟩ : ∃ S1, S1 = gs_put S (100 * 1 + 3) (A 0 0) 0 (.int (-1)) := ⟨_, rfl⟩
  have g1 : ag (fun F a => F = 103 ∧ a = A 0 0) (fun _ => False) S S1 := by rw [hS1]; exact ag.put (by decide)
  have i1' : g_inv M0 S1 := by rw [hS1]; exact i1.put (by decide) (by rw [nt]; decide)
  have n1' : gs_n S1 = gs_n S := by rw [hS1]; rfl
  have cc1 : gs_c S1 = gs_c S := by rw [hS1]; rfl
  have kk1 : gs_k S1 = gs_k S := by rw [hS1]; rfl
  obtain ⟨M', e1, e2⟩ := s_chart (A := A) (M0 := M0) (z := z) (tx := fun j => (n_I M 3 j).toNatClampNeg) (bc := gs_c S + 1282) (bk := gs_k S + 64006) (S := S1) (M1 := M1) (fu := fu) hf hw i1' ((g1.2.2 _ (by rw [rt]; decide)).trans rt) (g1.gR r8 (by decide) (by omega)) ((g1.2.2 _ (by rw [r9]; decide)).trans r9) (by rw [g1.1 _ _ _ (by rw [r9]; decide) (by omega)]; exact r10) (g1.gI z3 (by decide) (by omega)) (by unfold n_I; rw [mf _ _ (by omega)]; exact z4) (by omega) (fun j hj => by
      obtain ⟨e, q1, q2, q3, q4⟩ := z6 j hj
      have : (n_I M 3 j).toNatClampNeg = e := by rw [q4, nI_clamp (by omega)]
      rw [this, g1.1 _ _ _ (by rw [r9]; decide) (by omega)]
      refine ⟨q2, q1, q3, ?_⟩
      unfold n_I
      rw [mf _ _ (by omega)]
      exact q4) (g1.gR r11 (by decide) (by omega)) ((g1.2.2 _ (by rw [r12]; decide)).trans r12) (by rw [g1.1 _ _ _ (by rw [r12]; decide) (by omega)]; exact r13) m8 m4 m5 mc m17 (by omega) (by omega) (by omega) (by omega) (by omega)
  rw [m1, e1]
  rw [n1'] at e2
  rcases e2 with ⟨N, x, S3, op, Mb, Sb, bc', bk', p, f1, f2, f3, f4, f5, f6, f7, f8, f9, f10, f11⟩ | ⟨o, S3, f1, f2, f3⟩
  · obtain ⟨v, M'', o, S', q1, q2, q3, q9⟩ := L_buildS (M1 := M1) hf hB h hw hb hb' hS1 f1 f2 f3 f4 f5 f6 f7 f8 f9 f10 f11 (fun k i u => mf k i (by omega))
    exact ⟨aNew A N Mb, v, M'', o, S', q1, q2, rfl, q3, q9⟩
  · obtain ⟨a, p', ea, ta, at', a4, a5, a6, a7, a8, a9⟩ := f2
    rw [ea] at f1
    have gS3 : ag (fun F a => ((F = 202 ∨ F = 203 ∨ F = 204 ∨ F = 206 ∨ F = 207) ∧ a = A 1 0) ∨ (F = 2 ∧ a = A 34 1)) (fun _ => False) S1 S3 := f3.1.fr (fun F b u1 u2 => by
      have := i1'.2.2.2 b u1
      unfold eS at u2
      omega) (fun b u1 u2 => by
      have := i1'.2.2.2 b u1
      omega)
    obtain ⟨v, M'', o', S', q1, q2, q3, q9⟩ := L_buildF (p' := p') (a := a) h hw hlw hb hb' hS1 f1 ta at' a4 a5 a6 (by omega) (by omega) a9 gS3 (fun k i u => (f3.2 k i (by omega)).trans (mf k i (by omega)))
    exact ⟨A, v, M'', o', S', q1, q2, rfl, q3, q9⟩
theorem L_build {M : gM} {S : gm_S} {fu b0 b1 : Nat} (hf : 400 ≤ fu) (h : RL (aB A b0 b1) M0 M S) (hb : b0 + 1300 ≤ 599900) (hb' : b1 + 64200 ≤ 7300000) : ∃ A' v M'' o S', F_X4_build fu M = some (.returned (some (.int v)), M'') ∧ F_X1_build fu (some (A 0 0)) S = some (o, S') ∧ A' 0 0 = A 0 0 ∧ (rW A' M0 (b0 + 1300) (b1 + 64200) 16 v M'' o S' ∧ ∀ a, o = .threw a → gs_t S' a = 17) := L_build0 (A := aC (aB A b0 b1) (gs_n S)) hf rfl (h.c36 _) hb hb'
end RDZA
