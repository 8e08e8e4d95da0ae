/-! LAYER 2: build, the component after its chart is read -/
set_option maxRecDepth 100000
section RDZy
variable {A : gA} {M0 : gM}
def eK (A : gA) : Nat → Nat → Prop := fun F a => (F = 201 ∧ a = A 1 0) ∨ (F = 104 ∧ a = A 0 0) ∨ (F = 2 ∧ (a = A 34 2 ∨ a = A 3 0)) ∨ ((F = 300 ∨ F = 301 ∨ F = 302 ∨ F = 306 ∨ F = 310) ∧ a = A 2 0)
theorem x_fin {S3 : gm_S} {fu l8 : Nat} (hf : 100 ≤ fu) (i3 : g_inv M0 S3) (nt3 : gs_t S3 (A 0 0) = 1) (rt3 : gs_t S3 (A 1 0) = 2) (ut3 : gs_t S3 (A 2 0) = 3) (r1 : g_gR S3 (some (A 0 0)) 1 0 = some (some (A 1 0))) (r2 : g_gR S3 (some (A 0 0)) 1 1 = some (some (A 2 0))) (r3 : g_gR S3 (some (A 0 0)) 1 2 = some (some (A 34 2))) (v1 : g_gI S3 (some (A 0 0)) 1 3 = some (-1)) (r11 : g_gR S3 (some (A 1 0)) 2 5 = some (some (A 34 1))) (r23 : g_gR S3 (some (A 1 0)) 2 3 = some (some l8)) (r12 : gs_t S3 (A 34 1) = 100) (r13 : gm_N (S3.1 1 (A 34 1) 0) = 16) (r6 : gs_t S3 (A 34 2) = 100) (r7 : gm_N (S3.1 1 (A 34 2) 0) = 16) (d4 : A 34 1 ≠ A 34 2) (h7 : g_gR S3 (some (A 2 0)) 3 7 = some (some (A 6 0))) (t6 : gs_t S3 (A 6 0) = 16) (h3 : g_gR S3 (some (A 2 0)) 3 3 = some (some (A 3 0))) (t3 : gs_t S3 (A 3 0) = 102) (n3 : gm_N (S3.1 1 (A 3 0) 0) = 6) :
    ∃ Sf, F_X1_build_28 fu (some (A 0 0)) S3 = (Option.bind (g_lsz Sf (some l8)) fun v7 => some (.returned (some (.int v7)), Sf)) ∧ ag (eK A) (fun a => a = A 6 0) S3 Sf ∧ g_gR Sf (some (A 2 0)) 3 0 = some (some l8) ∧ g_gI Sf (some (A 2 0)) 3 1 = some 0 ∧ g_gI Sf (some (A 2 0)) 3 2 = some 0 ∧ g_gI Sf (some (A 2 0)) 3 6 = some 0 ∧ g_gI Sf (some (A 2 0)) 3 10 = some 0 ∧ Sf.2.1 (A 6 0) = [] ∧ (∀ j, j < 6 → Sf.1 2 (A 3 0) j = .double FP.dconst0) ∧ g_inv M0 Sf ∧ Sf.2.2 = S3.2.2 ∧ g_gI Sf (some (A 0 0)) 1 4 = some 0 ∧ g_gI Sf (some (A 1 0)) 2 1 = some 0 ∧ ∀ j, j < 16 → gm_I (Sf.1 2 (A 34 2) j) = gm_I (S3.1 2 (A 34 1) j) := by
  have n3342 : A 34 2 ≠ A 3 0 := fun q => by rw [← q, r6] at t3; cases t3
  obtain ⟨S4, e4⟩ : ∃ S4, S4 = gs_put S3 (100 * 2 + 1) (A 1 0) 0 (.int 0) := ⟨_, rfl⟩
  obtain ⟨S5, e5⟩ : ∃ S5, S5 = gs_put S4 (100 * 1 + 4) (A 0 0) 0 (.int 0) := ⟨_, rfl⟩
  have g4 : ag (fun F a => F = 201 ∧ a = A 1 0) (fun _ => False) S3 S4 := by rw [e4]; exact ag.put (by decide)
  have g5 : ag (fun F a => F = 104 ∧ a = A 0 0) (fun _ => False) S4 S5 := by rw [e5]; exact ag.put (by decide)
  have nt4 : gs_t S4 (A 0 0) = 1 := (g4.2.2 _ (by rw [nt3]; decide)).trans nt3
  have rt4 : gs_t S4 (A 1 0) = 2 := (g4.2.2 _ (by rw [rt3]; decide)).trans rt3
  have nt5 : gs_t S5 (A 0 0) = 1 := (g5.2.2 _ (by rw [nt4]; decide)).trans nt4
  have i5 : g_inv M0 S5 := by rw [e5]; exact ((by rw [e4]; exact i3.put (by decide) (by rw [rt3]; decide) : g_inv M0 S4)).put (by decide) (by rw [nt4]; decide)
  have g35 : ag (fun F _ => F = 201 ∨ F = 104) (fun _ => False) S3 S5 := (g4.trans g5).wk (fun F a q => q.elim (fun q => Or.inl q.1) (fun q => Or.inr q.1)) (fun a q => q.elim id id)
  have g35' : ag (eK A) (fun a => a = A 6 0) S3 S5 := (g4.trans g5).wk (fun F a q => q.elim (fun q => Or.inl q) (fun q => Or.inr (Or.inl q))) (fun a q => q.elim (fun q => q.elim) (fun q => q.elim))
  obtain ⟨S6, x1, x2, x3, x4, x5⟩ := x_copy (A := A) (M0 := M0) (fu := fu) d4 16 0 S5 fu (by omega) (by omega) (by omega) i5 (g35.gR r3 (by decide) (by decide)) (g35.gR r1 (by decide) (by decide)) (g35.gR r11 (by decide) (by decide)) ((g35.2.2 _ (by rw [r12]; decide)).trans r12) (by rw [g35.1 _ _ _ (by rw [r12]; decide) (by omega)]; exact r13) ((g35.2.2 _ (by rw [r6]; decide)).trans r6) (by rw [g35.1 _ _ _ (by rw [r6]; decide) (by omega)]; exact r7) (fun j hj => by omega)
  have g36 : ag (fun F _ => F = 201 ∨ F = 104 ∨ F = 2) (fun _ => False) S3 S6 := (g35.trans x2).wk (fun F a q => q.elim (fun q => q.elim Or.inl (fun q => Or.inr (Or.inl q))) (fun q => Or.inr (Or.inr q.1))) (fun a q => q.elim id id)
  have g36' : ag (eK A) (fun a => a = A 6 0) S3 S6 := (g35'.trans x2).wk (fun F a q => q.elim id (fun q => Or.inr (Or.inr (Or.inl ⟨q.1, Or.inl q.2⟩)))) (fun a q => q.elim id (fun q => q.elim))
  have ut6 : gs_t S6 (A 2 0) = 3 := (g36.2.2 _ (by rw [ut3]; decide)).trans ut3
  obtain ⟨Sf, y1, y2, y3, y4, y5, y6, y7, y8, y9, y10, y11⟩ := x_runb (A := A) (M0 := M0) (S := S6) (fu := fu) (l := l8) hf x4 ut6 (g36.gR h7 (by decide) (by decide)) ((g36.2.2 _ (by rw [t6]; decide)).trans t6) (g36.gR h3 (by decide) (by decide)) ((g36.2.2 _ (by rw [t3]; decide)).trans t3) (by rw [g36.1 _ _ _ (by rw [t3]; decide) (by omega)]; exact n3)
  have y9' : ag (fun F _ => F = 300 ∨ F = 301 ∨ F = 302 ∨ F = 306 ∨ F = 310 ∨ F = 2) (fun a => a = A 6 0) S6 Sf := y9.wk (fun F a q => by omega) (fun a q => q)
  have t26 : gs_t S6 (A 34 2) = 100 := (g36.2.2 _ (by rw [r6]; decide)).trans r6
  refine ⟨Sf, ?_, (g36'.trans y9).wk (fun F a q => q.elim id (fun q => q.elim (fun q => Or.inr (Or.inr (Or.inr q))) (fun q => Or.inr (Or.inr (Or.inl ⟨q.1, Or.inr q.2⟩))))) (fun a q => q.elim id id), y2, y3, y4, y5, y6, y7, y8, y10, ?_, ?_, ?_, fun j hj => ?_⟩
  · unfold F_X1_build_28
    rw [r1, y_b, y_pI rt3, y_b, ← e4, y_pI nt4, y_b, ← e5, g35.gI v1 (by decide) (by decide), y_b, if_pos (by decide), show F_X1_build_58 fu fu (some (A 0 0)) 0 S5 = _ from x1]
    unfold cEnd
    rw [g36.gR r2 (by decide) (by decide), y_b, g36.gR r1 (by decide) (by decide), y_b, g36.gR r23 (by decide) (by decide), y_b, y_q ut6, y1, y_cV, y9'.gR (g36.gR r2 (by decide) (by decide)) (by decide) (by decide), y_b, y2, y_b]
  · rw [y11, x3, e5, e4]; rfl
  · have : g_gI S5 (some (A 0 0)) 1 4 = some 0 := by rw [y_gI nt5, e5, y_pE]; rfl
    exact y9'.gI (x2.gI this (by decide) (by omega)) (by decide) (by decide)
  · have : g_gI S4 (some (A 1 0)) 2 1 = some 0 := by rw [y_gI rt4, e4, y_pE]; rfl
    exact y9'.gI (x2.gI (g5.gI this (by decide) (by omega)) (by decide) (by omega)) (by decide) (by decide)
  · rw [y9.1 _ _ _ (by rw [t26]; decide) (fun q => by rcases q with q | q; omega; exact n3342 q.2), x5 j hj, x2.1 _ _ _ (by rw [g35.2.2 _ (by rw [r12]; decide), r12]; decide) (fun q => d4 q.2), g35.1 _ _ _ (by rw [r12]; decide) (by omega)]
end RDZy
