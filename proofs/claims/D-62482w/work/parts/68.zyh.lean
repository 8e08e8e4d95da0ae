/-! LAYER 2: build, both sides -/
set_option maxRecDepth 100000
section RDZw
variable {A : gA} {M0 : gM}
theorem L_buildF {M M' : gM} {S S1 S3 : gm_S} {w fu p' a : Nat} (h : RL A M0 M S) (hw : w < 2) (hlw : n_I M 7 0 ≠ nI w) (hb : A 33 0 + 1300 ≤ 599900) (hb' : A 33 1 + 64200 ≤ 7300000) (hS1 : S1 = gs_put S (100 * 1 + 3) (A 0 0) 0 (.int (-1))) (f1 : F_X2_chart fu (some (A 1 0)) S1 = some (.threw a, S3)) (ta : gs_t S3 a = 17) (at' : g_gI S3 (some (A 1 0)) 2 2 = some (nI p')) (m4' : n_I M' 4 0 = nI p') (m5' : n_I M' 5 0 = 1) (i3 : g_inv M0 S3) (c3 : gs_c S3 ≤ gs_c S + 1290) (k3 : gs_k S3 ≤ gs_k S + 64106) (hp : p' ≤ 160) (gS3 : ag (fun F a => ((F = 202 ∨ F = 203 ∨ F = 204 ∨ F = 206 ∨ F = 207) ∧ a = A 1 0) ∨ (F = 2 ∧ a = A 34 1)) (fun _ => False) S1 S3) (hM : mF w M M') :
    ∃ v M'' o S', F_X4_build_126 fu M' = some (.returned (some (.int v)), M'') ∧ F_X1_build fu (some (A 0 0)) S = some (o, S') ∧ rW A M0 (A 33 0 + 1300) (A 33 1 + 64200) 16 v M'' o S' ∧ ∀ a, o = .threw a → gs_t S' a = 17 := by
  obtain ⟨c1, c2, b⟩ := h.b
  obtain ⟨i1, b2, b3, b4, b5, b6, b7, b8, b9⟩ := b
  obtain ⟨r1, r2, r3, r4, r5, r6, r7, r8, r9, r10, r11, r12, r13, d1, d2, d3, d4, ⟨z, y, z1, z2, z3, z4, z5, z6⟩, r20⟩ := id b9
  have nt : gs_t S (A 0 0) = 1 := h.nt
  have rt : gs_t S (A 1 0) = 2 := by obtain ⟨q, eq, tq, -⟩ := y_gRt r8; cases eq; exact tq
  have pc : gs_c S ≤ A 33 0 := by have := b8.1; unfold p_c at this; omega
  have pk : gs_k S ≤ A 33 1 := by have := b8.2.1; unfold p_k at this; omega
  have n01 : A 0 0 ≠ A 1 0 := fun q => by rw [q, rt] at nt; cases nt
  have n034 : A 0 0 ≠ A 34 1 := fun q => by rw [q, r12] at nt; cases nt
  have n341 : A 34 1 ≠ A 1 0 := fun q => by rw [q, rt] at r12; cases r12
  have n340 : A 34 0 ≠ A 34 1 := fun q => by rw [q, r12] at r9; cases r9
  have g1 : ag (fun F a => F = 103 ∧ a = A 0 0) (fun _ => False) S S1 := by rw [hS1]; exact ag.put (by decide)
  have gS : ag (eF A) (fun _ => False) S S3 := (g1.trans gS3).wk (fun F a q => by unfold eF; omega) (fun a q => q.elim id id)
  have nt3 : gs_t S3 (A 0 0) = 1 := (gS.2.2 _ (by rw [nt]; decide)).trans nt
  have rt3 : gs_t S3 (A 1 0) = 2 := (gS.2.2 _ (by rw [rt]; decide)).trans rt
  obtain ⟨S6, e6⟩ : ∃ S6, S6 = gs_put S3 (100 * 1 + 3) (A 0 0) 0 (.int (nI p')) := ⟨_, rfl⟩
  obtain ⟨S7, e7⟩ : ∃ S7, S7 = gs_put S6 (100 * 2 + 1) (A 1 0) 0 (.int 0) := ⟨_, rfl⟩
  obtain ⟨S8, e8⟩ : ∃ S8, S8 = gs_put S7 (100 * 1 + 4) (A 0 0) 0 (.int 0) := ⟨_, rfl⟩
  have g6 : ag (fun F a => F = 103 ∧ a = A 0 0) (fun _ => False) S3 S6 := by rw [e6]; exact ag.put (by decide)
  have g7 : ag (fun F a => F = 201 ∧ a = A 1 0) (fun _ => False) S6 S7 := by rw [e7]; exact ag.put (by decide)
  have g8 : ag (fun F a => F = 104 ∧ a = A 0 0) (fun _ => False) S7 S8 := by rw [e8]; exact ag.put (by decide)
  have nt6 : gs_t S6 (A 0 0) = 1 := (g6.2.2 _ (by rw [nt3]; decide)).trans nt3
  have rt6 : gs_t S6 (A 1 0) = 2 := (g6.2.2 _ (by rw [rt3]; decide)).trans rt3
  have nt7 : gs_t S7 (A 0 0) = 1 := (g7.2.2 _ (by rw [nt6]; decide)).trans nt6
  have rt7 : gs_t S7 (A 1 0) = 2 := (g7.2.2 _ (by rw [rt6]; decide)).trans rt6
  have nt8 : gs_t S8 (A 0 0) = 1 := (g8.2.2 _ (by rw [nt7]; decide)).trans nt7
  have i8 : g_inv M0 S8 := by
    rw [e8]
    refine ((by rw [e7]; exact ((by rw [e6]; exact i3.put (by decide) (by rw [nt3]; decide) : g_inv M0 S6)).put (by decide) (by rw [rt6]; decide) : g_inv M0 S7)).put (by decide) (by rw [nt7]; decide)
  have c8 : gs_c S8 = gs_c S3 := by rw [e8, e7, e6]; rfl
  have k8 : gs_k S8 = gs_k S3 := by rw [e8, e7, e6]; rfl
  have gm := ag.mk (S := S8) (t := 17) (w := 6) i8.2.2.2
  have gT : ag (eF A) (fun _ => False) S (g_mk S8 17 6) := ((((gS.trans g6).trans g7).trans g8).trans gm).wk (fun F a q => by
    rcases q with (((q | q) | q) | q) | q
    · exact q
    · unfold eF; omega
    · unfold eF; omega
    · unfold eF; omega
    · exact q.elim) (fun a q => by rcases q with (((q | q) | q) | q) | q <;> exact q)
  obtain ⟨M4, hM4⟩ : ∃ M4, M4 = n_p (n_p (n_p (n_p M' 6 (nI p')) 2 0) 1 0) 0 1 := ⟨_, rfl⟩
  have f4 : ∀ k i, ¬ (k = 0 ∨ k = 1 ∨ k = 2 ∨ k = 6) → M4 k i = M' k i := fun k i q => by rw [hM4]; exact (y_uk (by omega)).trans ((y_uk (by omega)).trans ((y_uk (by omega)).trans (y_uk (by omega))))
  have mf4 : mF w M M4 := fun k i q => (f4 k i (by omega)).trans (hM k i q)
  have e46 : n_I M4 6 0 = nI p' := by rw [hM4]; exact (n_po (by decide)).trans ((n_po (by decide)).trans ((n_po (by decide)).trans n_ps))
  have e42 : n_I M4 2 0 = 0 := by rw [hM4]; exact (n_po (by decide)).trans ((n_po (by decide)).trans n_ps)
  have e41 : n_I M4 1 0 = 0 := by rw [hM4]; exact (n_po (by decide)).trans n_ps
  have e40 : n_I M4 0 0 = 1 := by rw [hM4]; exact n_ps
  have v103 : g_gI S6 (some (A 0 0)) 1 3 = some (nI p') := by rw [y_gI nt6, e6, y_pE]; rfl
  have v201 : g_gI S7 (some (A 1 0)) 2 1 = some 0 := by rw [y_gI rt7, e7, y_pE]; rfl
  have v104 : g_gI S8 (some (A 0 0)) 1 4 = some 0 := by rw [y_gI nt8, e8, y_pE]; rfl
  have v1038 : g_gI S8 (some (A 0 0)) 1 3 = some (nI p') := g8.gI (g7.gI v103 (by decide) (by omega)) (by decide) (by omega)
  have hrR : rR A M4 (g_mk S8 17 6) := by
    refine ⟨gT.gR r1 (by decide) (by unfold eF; omega), gT.gR r2 (by decide) (by unfold eF; omega), gT.gR r3 (by decide) (by unfold eF; omega), by rw [e46]; exact gm.gI v1038 (by decide) (fun q => q), by rw [e41]; exact gm.gI v104 (by decide) (fun q => q), (gT.2.2 _ (by rw [r6]; decide)).trans r6, by rw [gT.1 _ _ _ (by rw [r6]; decide) (by unfold eF; omega)]; exact r7, gT.gR r8 (by decide) (by unfold eF; omega), (gT.2.2 _ (by rw [r9]; decide)).trans r9, by rw [gT.1 _ _ _ (by rw [r9]; decide) (by unfold eF; omega)]; exact r10, gT.gR r11 (by decide) (by unfold eF; omega), (gT.2.2 _ (by rw [r12]; decide)).trans r12, by rw [gT.1 _ _ _ (by rw [r12]; decide) (by unfold eF; omega)]; exact r13, d1, d2, d3, d4, ⟨0, 0, by omega, by omega, gm.gI (g8.gI v201 (by decide) (by omega)) (by decide) (fun q => q), e42, e41, fun j hj => by omega⟩, fun w' hw' hl j hj => ?_⟩
    have l7 : n_I M 7 0 = nI w' := by
      have : n_I M4 7 0 = n_I M 7 0 := by unfold n_I; rw [mf4 _ _ (by omega)]
      rw [← this]; exact hl
    have nw : w' ≠ w := fun q => hlw (by rw [l7, q])
    have m17 : n_I M4 17 (16 * w' + j) = n_I M 17 (16 * w' + j) := by unfold n_I; rw [mf4 _ _ (by omega)]
    rw [gT.1 _ _ _ (by rw [r6]; decide) (by unfold eF; omega), m17]
    exact r20 w' hw' l7 j hj
  have hRL := RL_rd (d0 := 1300) (d1 := 64200) h hw hlw gT i8.mk mf4 hrR (by show gs_c S8 + 1 ≤ _; omega) (by show gs_k S8 + 6 ≤ _; omega) (by omega) (by omega)
  refine ⟨0, M4, .threw (gs_n S8), g_mk S8 17 6, by rw [hM4]; exact m_126i m5' m4', ?_, ⟨hRL, Or.inr ⟨gs_n S8, 1, rfl, by omega, by omega, y_mkn, e40⟩⟩, fun a q => by cases q; exact y_mkn⟩
  unfold F_X1_build
  rw [y_pI nt, y_b, ← hS1, g1.gR r1 (by decide) (by omega), y_b, y_q ((g1.2.2 _ (by rw [rt]; decide)).trans rt), f1, y_tRt, if_pos ta, gS.gR r1 (by decide) (by unfold eF; omega), y_b, at', y_b, y_pI nt3, y_b, ← e6]
  unfold F_X1_build_28
  rw [g6.gR (gS.gR r1 (by decide) (by unfold eF; omega)) (by decide) (by omega), y_b, y_pI rt6, y_b, ← e7, y_pI nt7, y_b, ← e8, v1038, y_b, if_neg (fun q => by have := (nI_ltI (a := p') (b := 0) (by omega) (by omega)).mp q; omega), y_new (by omega) (by omega), y_b]
end RDZw
