/-! LAYER 2, reading: a test by a name -/
set_option maxRecDepth 100000
section RDN
variable {A : gA} {M0 : gM} {z p bc bk : Nat} {tx : Nat → Nat}
theorem x_within {S : gm_S} {o x : Nat} (h : gs_t S o = 13) {v : Int32} (hv : g_okZ v = true) (fu : Nat) : ∃ S', F_X13_init fu (some o) v (some x) S = some (.returned none, S') ∧ g_gI S' (some o) 13 0 = some v ∧ g_gR S' (some o) 13 1 = some (some x) ∧ ag (fun F a => (F = 1300 ∨ F = 1301) ∧ a = o) (fun _ => False) S S' ∧ S'.2 = S.2 ∧ (g_inv M0 S → g_inv M0 S') := by
  have h0 : gs_t S o ≠ 0 := by rw [h]; decide
  have h1 : gs_t (gs_put S 1300 o 0 (.int v)) o = 13 := (y_pt (by decide)).trans h
  refine ⟨gs_put (gs_put S 1300 o 0 (.int v)) 1301 o 0 (va_rf (some x)), ?_, ?_, ?_, ?_, rfl, fun w => (w.put (by decide) h0).put (by decide) (by rw [h1]; decide)⟩
  · unfold F_X13_init F_X12_init_13
    rw [y_q h, y_q h, y_pZ h hv, y_b, y_cV, y_pR h1, y_b]
  · rw [y_gI ((y_pt (by decide)).trans h1), y_pM (by simp), y_pE]; rfl
  · rw [y_gR ((y_pt (by decide)).trans h1), y_pE]; rfl
  · exact ((ag.put (S := S) (F := 1300) (a := o) (i := 0) (v := .int v) (by decide)).trans (ag.put (F := 1301) (a := o) (i := 0) (v := va_rf (some x)) (by decide))).wk (fun F a w => w.elim (fun w => ⟨Or.inl w.1, w.2⟩) (fun w => ⟨Or.inr w.1, w.2⟩)) (fun a w => w.elim id id)
theorem x_compare {S : gm_S} {o a b g : Nat} (h : gs_t S o = 14) {v : Int32} (hv : g_okZ v = true) (hg : g ≤ 126) (fu : Nat) : ∃ S', F_X14_init fu (some o) v (some a) (nI g) (some b) S = some (.returned none, S') ∧ g_gI S' (some o) 14 0 = some v ∧ g_gR S' (some o) 14 1 = some (some a) ∧ g_gR S' (some o) 14 2 = some (some b) ∧ g_gI S' (some o) 14 3 = some (nI g) ∧ ag (fun F c => (F = 1400 ∨ F = 1401 ∨ F = 1402 ∨ F = 1403) ∧ c = o) (fun _ => False) S S' ∧ S'.2 = S.2 ∧ (g_inv M0 S → g_inv M0 S') := by
  have h0 : gs_t S o ≠ 0 := by rw [h]; decide
  have h1 : gs_t (gs_put S 1400 o 0 (.int v)) o = 14 := (y_pt (by decide)).trans h
  have h2 : gs_t (gs_put (gs_put S 1400 o 0 (.int v)) 1401 o 0 (va_rf (some a))) o = 14 := (y_pt (by decide)).trans h1
  have h3 : gs_t (gs_put (gs_put (gs_put S 1400 o 0 (.int v)) 1401 o 0 (va_rf (some a))) 1403 o 0 (.int (nI g))) o = 14 := (y_pt (by decide)).trans h2
  refine ⟨gs_put (gs_put (gs_put (gs_put S 1400 o 0 (.int v)) 1401 o 0 (va_rf (some a))) 1403 o 0 (.int (nI g))) 1402 o 0 (va_rf (some b)), ?_, ?_, ?_, ?_, ?_, ?_, rfl, fun w => (((w.put (by decide) h0).put (by decide) (by rw [h1]; decide)).put (by decide) (by rw [h2]; decide)).put (by decide) (by rw [h3]; decide)⟩
  · unfold F_X14_init F_X12_init_14
    rw [y_q h, y_q h, y_pZ h hv, y_b, y_cV, y_pR h1, y_b, y_pC h2 (y_okC (by omega)), y_b, y_pR h3, y_b]
  · rw [y_gI ((y_pt (by decide)).trans h3), y_pM (by simp), y_pM (by simp), y_pM (by simp), y_pE]; rfl
  · rw [y_gR ((y_pt (by decide)).trans h3), y_pM (by simp), y_pM (by simp), y_pE]; rfl
  · rw [y_gR ((y_pt (by decide)).trans h3), y_pE]; rfl
  · rw [y_gI ((y_pt (by decide)).trans h3), y_pM (by simp), y_pE]; rfl
  · exact ((((ag.put (S := S) (F := 1400) (a := o) (i := 0) (v := .int v) (by decide)).trans (ag.put (F := 1401) (a := o) (i := 0) (v := va_rf (some a)) (by decide))).trans (ag.put (F := 1403) (a := o) (i := 0) (v := .int (nI g)) (by decide))).trans (ag.put (F := 1402) (a := o) (i := 0) (v := va_rf (some b)) (by decide))).wk (fun F a w => by rcases w with ((w | w) | w) | w; exact ⟨Or.inl w.1, w.2⟩; exact ⟨Or.inr (Or.inl w.1), w.2⟩; exact ⟨Or.inr (Or.inr (Or.inr w.1)), w.2⟩; exact ⟨Or.inr (Or.inr (Or.inl w.1)), w.2⟩) (fun a w => by rcases w with ((w | w) | w) | w <;> exact w)
end RDN
