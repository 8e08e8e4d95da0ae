/-! LAYER 2, build: the component's end of a build -/
set_option maxRecDepth 100000
section RDZu
variable {A : gA} {M0 : gM}
theorem x_runb {S : gm_S} {fu l : Nat} (hf : 100 ≤ fu) (hi : g_inv M0 S) (t : gs_t S (A 2 0) = 3) (h7 : g_gR S (some (A 2 0)) 3 7 = some (some (A 6 0))) (t6 : gs_t S (A 6 0) = 16) (h3 : g_gR S (some (A 2 0)) 3 3 = some (some (A 3 0))) (t3 : gs_t S (A 3 0) = 102) (n3 : gm_N (S.1 1 (A 3 0) 0) = 6) :
    ∃ S', F_X3_build fu (some (A 2 0)) (some l) S = some (.returned none, S') ∧ g_gR S' (some (A 2 0)) 3 0 = some (some l) ∧ g_gI S' (some (A 2 0)) 3 1 = some 0 ∧ g_gI S' (some (A 2 0)) 3 2 = some 0 ∧ g_gI S' (some (A 2 0)) 3 6 = some 0 ∧ g_gI S' (some (A 2 0)) 3 10 = some 0 ∧ S'.2.1 (A 6 0) = [] ∧ (∀ j, j < 6 → S'.1 2 (A 3 0) j = .double FP.dconst0) ∧ ag (fun F a => ((F = 300 ∨ F = 301 ∨ F = 302 ∨ F = 306 ∨ F = 310) ∧ a = A 2 0) ∨ (F = 2 ∧ a = A 3 0)) (fun a => a = A 6 0) S S' ∧ g_inv M0 S' ∧ S'.2.2 = S.2.2 := by
  have ne : A 3 0 ≠ A 2 0 := fun q => by rw [q, t] at t3; cases t3
  obtain ⟨S1, e1⟩ : ∃ S1, S1 = gs_put S (100 * 3 + 0) (A 2 0) 0 (va_rf (some l)) := ⟨_, rfl⟩
  have t1 : gs_t S1 (A 2 0) = 3 := by rw [e1, y_pt (by decide)]; exact t
  obtain ⟨S2, e2⟩ : ∃ S2, S2 = gs_put S1 (100 * 3 + 1) (A 2 0) 0 (.int 0) := ⟨_, rfl⟩
  have t2 : gs_t S2 (A 2 0) = 3 := by rw [e2, y_pt (by decide)]; exact t1
  obtain ⟨S3, e3⟩ : ∃ S3, S3 = gs_put S2 (100 * 3 + 2) (A 2 0) 0 (.int 0) := ⟨_, rfl⟩
  have ts3 : gs_t S3 (A 2 0) = 3 := by rw [e3, y_pt (by decide)]; exact t2
  have g3 : ag (fun F a => (F = 300 ∨ F = 301 ∨ F = 302) ∧ a = A 2 0) (fun _ => False) S S3 := by
    rw [e3, e2, e1]
    exact (((ag.put (by decide)).trans (ag.put (by decide))).trans (ag.put (by decide))).wk (fun F a w => by omega) (fun a w => by rcases w with (w | w) | w <;> exact w)
  have t63 : gs_t S3 (A 6 0) = 16 := (g3.2.2 _ (by rw [t6]; decide)).trans t6
  obtain ⟨S5, e5⟩ : ∃ S5, S5 = gs_L S3 (A 6 0) [] := ⟨_, rfl⟩
  have t5 : gs_t S5 (A 2 0) = 3 := by rw [e5]; exact ts3
  obtain ⟨S6, e6⟩ : ∃ S6, S6 = gs_put S5 (100 * 3 + 6) (A 2 0) 0 (.int 0) := ⟨_, rfl⟩
  have ts6 : gs_t S6 (A 2 0) = 3 := by rw [e6, y_pt (by decide)]; exact t5
  obtain ⟨S7, e7⟩ : ∃ S7, S7 = gs_put S6 (100 * 3 + 10) (A 2 0) 0 (.int 0) := ⟨_, rfl⟩
  have t7 : gs_t S7 (A 2 0) = 3 := by rw [e7, y_pt (by decide)]; exact ts6
  have g5 : ag (fun _ _ => False) (fun a => a = A 6 0) S3 S5 := by rw [e5]; exact ag.lst
  have g6 : ag (fun F a => F = 306 ∧ a = A 2 0) (fun _ => False) S5 S6 := by rw [e6]; exact ag.put (by decide)
  have g7 : ag (fun F a => F = 310 ∧ a = A 2 0) (fun _ => False) S6 S7 := by rw [e7]; exact ag.put (by decide)
  have gS7 : ag (fun F a => (F = 300 ∨ F = 301 ∨ F = 302 ∨ F = 306 ∨ F = 310) ∧ a = A 2 0) (fun a => a = A 6 0) S S7 := (((g3.trans g5).trans g6).trans g7).wk (fun F a w => by rcases w with ((w | w) | w) | w; omega; exact w.elim; omega; omega) (fun a w => by rcases w with ((w | w) | w) | w; exact w.elim; exact w; exact w.elim; exact w.elim)
  have i7 : g_inv M0 S7 := by
    rw [e7]
    refine ((by rw [e6]; exact ((by rw [e5]; exact ((by rw [e3]; exact ((by rw [e2]; exact ((by rw [e1]; exact hi.put (by decide) (by rw [t]; decide) : g_inv M0 S1)).put (by decide) (by rw [t1]; decide) : g_inv M0 S2)).put (by decide) (by rw [t2]; decide) : g_inv M0 S3)).lst : g_inv M0 S5)).put (by decide) (by rw [t5]; decide) : g_inv M0 S6)).put (by decide) (by rw [ts6]; decide)
  obtain ⟨S8, z1, z2, z3, z4, z5, z6⟩ := c_clear (M0 := M0) (fu := fu) 6 0 S7 fu (by omega) (by omega) (by omega) (gS7.gR h3 (by decide) (by omega)) ((gS7.2.2 _ (by rw [t3]; decide)).trans t3) (by rw [gS7.1 _ _ _ (by rw [t3]; decide) (by omega)]; exact n3) (fun j hj => by omega)
  have v0 : g_gR S3 (some (A 2 0)) 3 0 = some (some l) := by rw [y_gR ts3, e3, y_pM (by simp), e2, y_pM (by simp), e1, y_pE]; rfl
  have v1 : g_gI S3 (some (A 2 0)) 3 1 = some 0 := by rw [y_gI ts3, e3, y_pM (by simp), e2, y_pE]; rfl
  have v2 : g_gI S3 (some (A 2 0)) 3 2 = some 0 := by rw [y_gI ts3, e3, y_pE]; rfl
  have v6 : g_gI S6 (some (A 2 0)) 3 6 = some 0 := by rw [y_gI ts6, e6, y_pE]; rfl
  have v10 : g_gI S7 (some (A 2 0)) 3 10 = some 0 := by rw [y_gI t7, e7, y_pE]; rfl
  refine ⟨S8, ?_, z2.gR (g7.gR (g6.gR (g5.gR v0 (by decide) (fun q => q)) (by decide) (by omega)) (by decide) (by omega)) (by decide) (by omega), z2.gI (g7.gI (g6.gI (g5.gI v1 (by decide) (fun q => q)) (by decide) (by omega)) (by decide) (by omega)) (by decide) (by omega), z2.gI (g7.gI (g6.gI (g5.gI v2 (by decide) (fun q => q)) (by decide) (by omega)) (by decide) (by omega)) (by decide) (by omega), z2.gI (g7.gI v6 (by decide) (by omega)) (by decide) (by omega), z2.gI v10 (by decide) (by omega), ?_, z3, (gS7.trans z2).wk (fun F a w => w) (fun a w => w.elim id (fun w => w.elim)), z6 i7, ?_⟩
  · unfold F_X3_build
    rw [y_pR t, y_b, ← e1, y_pZ t1 y_z0, y_b, ← e2, y_pI t2, y_b, ← e3, g3.gR h7 (by decide) (by omega), y_b, y_lclr t63, y_b, ← e5, y_pI t5, y_b, ← e6, y_pI ts6, y_b, ← e7, y_q t7]
    unfold F_X3_clear
    rw [show F_X3_clear_2 fu fu (some (A 2 0)) 0 S7 = _ from z1, y_cV]
  · rw [z4, e7, e6]; show S5.2.1 (A 6 0) = _; rw [e5, y_Le]
  · rw [z4, e7, e6, e5, e3, e2, e1]; rfl
/-- after the letters are copied -/
def cEnd (fu : Nat) (x0 : Option Nat) (S : gm_S) : gR := Option.bind (g_gR S x0 1 1) fun v1 =>
  Option.bind (g_gR S x0 1 0) fun v2 =>
  Option.bind (g_gR S v2 2 3) fun v3 =>
  gz_q (g_at S v1 3) (gz_cV (F_X3_build fu v1 v3 S) fun S4 =>
  Option.bind (g_gR S4 x0 1 1) fun v5 =>
  Option.bind (g_gR S4 v5 3 0) fun v6 =>
  Option.bind (g_lsz S4 v6) fun v7 =>
  some (.returned (some (.int v7)), S4))
theorem x_copy {fu : Nat} (ne : A 34 1 ≠ A 34 2) : ∀ (d i : Nat) (S : gm_S) (m : Nat), 16 - i = d → i ≤ 16 → d < m → g_inv M0 S → g_gR S (some (A 0 0)) 1 2 = some (some (A 34 2)) → g_gR S (some (A 0 0)) 1 0 = some (some (A 1 0)) → g_gR S (some (A 1 0)) 2 5 = some (some (A 34 1)) → gs_t S (A 34 1) = 100 → gm_N (S.1 1 (A 34 1) 0) = 16 → gs_t S (A 34 2) = 100 → gm_N (S.1 1 (A 34 2) 0) = 16 → (∀ j, j < i → gm_I (S.1 2 (A 34 2) j) = gm_I (S.1 2 (A 34 1) j)) →
    ∃ S', F_X1_build_58 fu m (some (A 0 0)) (nI i) S = cEnd fu (some (A 0 0)) S' ∧ ag (fun F a => F = 2 ∧ a = A 34 2) (fun _ => False) S S' ∧ S'.2 = S.2 ∧ g_inv M0 S' ∧ ∀ j, j < 16 → gm_I (S'.1 2 (A 34 2) j) = gm_I (S'.1 2 (A 34 1) j) := by
  intro d
  induction d with
  | zero =>
    intro i S m hd hi' hm iS h1 h2 h3 h4 h5 h6 h7 h8
    obtain ⟨m, rfl⟩ : ∃ m', m = m' + 1 := ⟨m - 1, by omega⟩
    refine ⟨S, ?_, g_none.wk (fun F a w => w.elim) (fun a w => w), rfl, iS, fun j hj => h8 j (by omega)⟩
    rw [F_X1_build_58, show i = 16 by omega, if_pos (show (16 : Int32) ≤ nI 16 from Int32.le_refl _)]
    rfl
  | succ d ih =>
    intro i S m hd hi' hm iS h1 h2 h3 h4 h5 h6 h7 h8
    obtain ⟨m, rfl⟩ : ∃ m', m = m' + 1 := ⟨m - 1, by omega⟩
    obtain ⟨v, hv⟩ : ∃ v, v = gm_I (S.1 2 (A 34 1) i) := ⟨_, rfl⟩
    obtain ⟨S1, e1⟩ : ∃ S1, S1 = gs_put S 2 (A 34 2) i (.int v) := ⟨_, rfl⟩
    have g : ag (fun F a => F = 2 ∧ a = A 34 2) (fun _ => False) S S1 := by rw [e1]; exact ag.put (by decide)
    have t2 : gs_t S (A 34 2) ≠ 0 := by rw [h6]; decide
    have t1 : gs_t S (A 34 1) ≠ 0 := by rw [h4]; decide
    have ea : g_aI S (some (A 34 1)) 0 (nI i) = some v := by
      unfold g_aI
      rw [y_el (t := 0) h4 h5 (by omega) (by omega), hv]
      rfl
    have es : g_sI S (some (A 34 2)) 0 (nI i) v = some S1 := by
      rw [e1]
      exact y_as (t := 0) h6 h7 (by omega) (by omega)
    obtain ⟨S', w1, w2, w3, w4, w5⟩ := ih (i + 1) S1 m (by omega) (by omega) (by omega) (by rw [e1]; exact iS.put (by decide) t2) (g.gR h1 (by decide) (by omega)) (g.gR h2 (by decide) (by omega)) (g.gR h3 (by decide) (by omega)) ((g.2.2 _ t1).trans h4) (by rw [g.1 _ _ _ t1 (by omega)]; exact h5) ((g.2.2 _ t2).trans h6) (by rw [g.1 _ _ _ t2 (by omega)]; exact h7) (fun j hj => by
      rw [g.1 2 (A 34 1) j t1 (by omega)]
      by_cases ej : j = i
      · rw [ej, e1, y_pE]; exact hv
      · rw [e1, y_pM (by omega)]; exact h8 j (by omega))
    refine ⟨S', ?_, (g.trans w2).wk (fun F a w => w.elim id id) (fun a w => w.elim id id), by rw [w3, e1]; rfl, w4, w5⟩
    rw [F_X1_build_58, if_neg (show ¬ (16 : Int32) ≤ nI i from nI_ge (a := i) (b := 16) (by omega) (by omega)), h1, y_b, h2, y_b, h3, y_b, ea, y_b, es, y_b, nI_1, w1]
end RDZu
