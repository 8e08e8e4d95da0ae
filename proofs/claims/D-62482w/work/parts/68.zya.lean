/-! LAYER 2, reading: empty tables -/
set_option maxRecDepth 100000
section RDZp
variable {A : gA} {M0 : gM} {z bc bk : Nat} {tx : Nat → Nat}
theorem c_init {M1 : gM} {S : gm_S} {w fu : Nat} (hf : 100 ≤ fu) (hw : w < 2) (hi : g_inv M0 S) (h1 : gs_t S (A 1 0) = 2) (h2 : g_gR S (some (A 1 0)) 2 0 = some (some (A 34 0))) (h3 : gs_t S (A 34 0) = 101) (h4 : gm_N (S.1 1 (A 34 0) 0) = 160) (h5 : g_gI S (some (A 1 0)) 2 1 = some (nI z)) (h6 : n_I M1 2 0 = nI z) (h7 : z ≤ 160) (h8 : ∀ j, j < z → 32 < tx j ∧ tx j ≤ 126 ∧ gm_I (S.1 2 (A 34 0) j) = nI (tx j) ∧ n_I M1 3 j = nI (tx j)) (l1 : g_gR S (some (A 1 0)) 2 5 = some (some (A 34 1))) (l2 : gs_t S (A 34 1) = 100) (l3 : gm_N (S.1 1 (A 34 1) 0) = 16)
    (m8 : n_I M1 8 0 = nI w) (m4 : n_I M1 4 0 = 0) (m5 : n_I M1 5 0 = 0) (mc : ∀ c, 9 ≤ c → c ≤ 13 → n_I M1 c w = 0) (m17 : ∀ j, j < 16 → n_I M1 17 (16 * w + j) = -1) (b1 : gs_c S + 2 + 1280 ≤ bc) (b2 : gs_k S + 6 + 64000 ≤ bk) (b3 : bc ≤ 599900) (b4 : bk ≤ 7300000) (hB : A 36 0 ≤ gs_n S) :
    ∃ N S', F_X2_chart fu (some (A 1 0)) S = cSt fu (some (A 1 0)) S' ∧ QS A N M0 z tx bc bk (fun _ => false) (fun _ => false) M1 S' 0 ∧ N 9 0 = 0 ∧ N 9 5 = w ∧ N 7 0 = gs_n S ∧ ag (eS A (gs_n S)) (fun a => gs_n S ≤ a) S S' := by
  have ha : gs_t S (A 1 0) ≠ 0 := by rw [h1]; decide
  obtain ⟨S1, hS1⟩ : ∃ S1, S1 = gs_put S (100 * 2 + 2) (A 1 0) 0 (.int 0) := ⟨_, rfl⟩
  have g1 : ag (fun F a => F = 202 ∧ a = A 1 0) (fun _ => False) S S1 := by rw [hS1]; exact ag.put (by decide)
  have i1 : g_inv M0 S1 := by rw [hS1]; exact hi.put (by decide) ha
  have t1 : gs_t S1 (A 1 0) = 2 := (g1.2.2 _ ha).trans h1
  have n1 : gs_n S1 = gs_n S := by rw [hS1]; rfl
  have c1 : gs_c S1 = gs_c S := by rw [hS1]; rfl
  have k1 : gs_k S1 = gs_k S := by rw [hS1]; rfl
  obtain ⟨Sa, a1, a2, a3, a4, a5, a6, a7, a8, a9, a10, a11⟩ := x_lf (k := 3) i1 t1 (by decide) (by omega) (by omega)
  obtain ⟨Sb, d1, d2, d3, d4, d5, d6, d7, d8, d9, d10, d11⟩ := x_lf (k := 4) a7 a11 (by decide) (by omega) (by omega)
  rw [n1] at a2 a3 a4 a5 a8
  rw [a8] at d2 d3 d4 d5
  obtain ⟨S8, hS8⟩ : ∃ S8, S8 = gs_put Sb (100 * 2 + 6) (A 1 0) 0 (.int 0) := ⟨_, rfl⟩
  have g8 : ag (fun F a => F = 206 ∧ a = A 1 0) (fun _ => False) Sb S8 := by rw [hS8]; exact ag.put (by decide)
  have t8 : gs_t S8 (A 1 0) = 2 := (g8.2.2 _ (by rw [d11]; decide)).trans d11
  obtain ⟨S9, hS9⟩ : ∃ S9, S9 = gs_put S8 (100 * 2 + 7) (A 1 0) 0 (.int 0) := ⟨_, rfl⟩
  have g9 : ag (fun F a => F = 207 ∧ a = A 1 0) (fun _ => False) S8 S9 := by rw [hS9]; exact ag.put (by decide)
  have t9 : gs_t S9 (A 1 0) = 2 := (g9.2.2 _ (by rw [t8]; decide)).trans t8
  have i9 : g_inv M0 S9 := by rw [hS9]; exact ((by rw [hS8]; exact d7.put (by decide) (by rw [d11]; decide) : g_inv M0 S8)).put (by decide) (by rw [t8]; decide)
  have gS9 : ag (fun F a => (F = 202 ∨ F = 203 ∨ F = 204 ∨ F = 206 ∨ F = 207) ∧ a = A 1 0) (fun _ => False) S S9 := ((((g1.trans a6).trans d6).trans g8).trans g9).wk (fun F a w => by omega) (fun a w => by rcases w with (((w | w) | w) | w) | w <;> exact w)
  have a34 : A 34 1 ≠ A 1 0 := fun w => by rw [w, h1] at l2; cases l2
  have a340 : A 34 0 ≠ A 34 1 := fun w => by rw [w, l2] at h3; cases h3
  obtain ⟨S', e1, e2, e3, e4, e5⟩ := c_39 (A := A) (M0 := M0) (fu := fu) 16 0 S9 fu (by omega) (by omega) (by omega) (gS9.gR l1 (by decide) (by omega)) ((gS9.2.2 _ (by rw [l2]; decide)).trans l2) (by rw [gS9.1 _ _ _ (by rw [l2]; decide) (by omega)]; exact l3) (fun j hj => by omega)
  have tt : ∀ b, gs_t S' b = gs_t S9 b := fun b => by unfold gs_t; rw [e2 _ _ _ (by omega)]
  have ge : ag (fun F a => F = 2 ∧ a = A 34 1) (fun _ => False) S9 S' := ⟨fun F a i _ q => e2 F a i q, fun a _ _ => by rw [e3], fun a _ => tt a⟩
  have gS' : ag (fun F a => ((F = 202 ∨ F = 203 ∨ F = 204 ∨ F = 206 ∨ F = 207) ∧ a = A 1 0) ∨ (F = 2 ∧ a = A 34 1)) (fun _ => False) S S' := (gS9.trans ge).wk (fun F a w => by omega) (fun a w => w.elim id id)
  have gb : ag (fun F a => ((F = 206 ∨ F = 207) ∧ a = A 1 0) ∨ (F = 2 ∧ a = A 34 1)) (fun _ => False) Sb S' := ((g8.trans g9).trans ge).wk (fun F a w => by omega) (fun a w => by rcases w with (w | w) | w <;> exact w)
  have l9 : S9.2.1 = Sb.2.1 := by rw [hS9, hS8]; rfl
  have lS' : S'.2.1 = Sb.2.1 := by rw [e3]; exact l9
  obtain ⟨l8, hl8⟩ : ∃ l8, l8 = gs_n S := ⟨_, rfl⟩
  obtain ⟨l35, hl35⟩ : ∃ l35, l35 = gs_n S + 1 := ⟨_, rfl⟩
  rw [← hl8] at a2 a3 a4 a5
  rw [← hl35] at d2 d3 d4 d5
  have t8b : gs_t Sb l8 = 16 := (d6.2.2 _ (by rw [a3]; decide)).trans a3
  have t8' : gs_t S' l8 = 16 := (gb.2.2 _ (by rw [t8b]; decide)).trans t8b
  have t35' : gs_t S' l35 = 16 := (gb.2.2 _ (by rw [d3]; decide)).trans d3
  have c8 : S'.2.1 l8 = [] := by rw [lS', d5 l8 (by omega)]; exact a4
  have c35 : S'.2.1 l35 = [] := by rw [lS']; exact d4
  have r3 : g_gR S' (some (A 1 0)) 2 3 = some (some l8) := gb.gR (d6.gR a2 (by decide) (by omega)) (by decide) (by omega)
  have r4 : g_gR S' (some (A 1 0)) 2 4 = some (some l35) := gb.gR d2 (by decide) (by omega)
  have r6 : g_gI S' (some (A 1 0)) 2 6 = some 0 := ge.gI (g9.gI (by rw [y_gI t8, hS8, y_pE]; rfl : g_gI S8 (some (A 1 0)) 2 6 = some 0) (by decide) (by omega)) (by decide) (by omega)
  have r7 : g_gI S' (some (A 1 0)) 2 7 = some 0 := ge.gI (by rw [y_gI t9, hS9, y_pE]; rfl) (by decide) (by omega)
  have t1' : gs_t S' (A 1 0) = 2 := (gS'.2.2 _ ha).trans h1
  have r2 : g_gI S' (some (A 1 0)) 2 2 = some 0 := by
    have : g_gI S1 (some (A 1 0)) 2 2 = some 0 := by rw [y_gI t1, hS1, y_pE]; rfl
    exact gb.gI (d6.gI (a6.gI this (by decide) (by omega)) (by decide) (by omega)) (by decide) (by omega)
  have cS' : gs_c S' = gs_c S + 2 := by show S'.2.2.2.1 = _; rw [e3, hS9, hS8]; show gs_c Sb = _; omega
  have kS' : gs_k S' = gs_k S + 6 := by show S'.2.2.2.2 = _; rw [e3, hS9, hS8]; show gs_k Sb = _; omega
  have v95 : N0 w (gs_n S) l8 l35 9 5 = w := rfl
  have v9 : ∀ c, c ≠ 5 → N0 w (gs_n S) l8 l35 9 c = 0 := fun c q => by simp [N0, q]
  have v7 : N0 w (gs_n S) l8 l35 7 0 = gs_n S := rfl
  have v8 : N0 w (gs_n S) l8 l35 8 0 = l8 := rfl
  have v35 : N0 w (gs_n S) l8 l35 35 0 = l35 := rfl
  refine ⟨N0 w (gs_n S) l8 l35, S', ?_, ⟨⟨?_, e5 i9, ⟨by omega, by omega, b3, b4⟩, ⟨⟨m8, hw, ?_, ?_, ?_, fun a u => ?_⟩, ⟨m8, hw, ?_, by rw [v35]; exact r4, by rw [v35]; exact t35', ?_, fun k u => ?_, by rw [v35]; omega, fun k u => ?_⟩, ⟨?_, fun j u => ?_⟩, ⟨?_, ?_, ?_, fun t u => ?_, fun t t' u => ?_⟩, ⟨fun a r u => ?_, ?_, by rw [v7, v35]; omega⟩, fun o u => ?_, by rw [v9 0 (by omega)]; omega⟩, by rw [v9 4 (by omega)]; omega, by rw [v9 2 (by omega)]; omega⟩, ⟨by rw [v8]; exact r3, ?_, ⟨gS'.gR l1 (by decide) (by omega), (gS'.2.2 _ (by rw [l2]; decide)).trans l2, by rw [gS'.1 _ _ _ (by rw [l2]; decide) (by omega)]; exact l3, fun j u => ?_, ?_⟩, fun i u => ?_, fun i k u => ?_⟩, fun _ _ => ⟨rfl, rfl⟩, fun k u => ?_, fun i u => ?_⟩, v9 0 (by omega), rfl, rfl, gS'.wk (fun F a u => by unfold eS; omega) (fun a u => u.elim)⟩
  · unfold F_X2_chart
    rw [y_pI h1, y_b, ← hS1]
    refine (a1 _).trans ((d1 _).trans ?_)
    rw [y_pI d11, y_b, ← hS8, y_pI t8, y_b, ← hS9]
    exact e1
  · refine ⟨t1', gS'.gR h2 (by decide) (by omega), (gS'.2.2 _ (by rw [h3]; decide)).trans h3, by rw [gS'.1 _ _ _ (by rw [h3]; decide) (by omega)]; exact h4, gS'.gI h5 (by decide) (by omega), h6, h7, fun j hj => ?_, Nat.zero_le _, r2, m4, m5⟩
    rw [gS'.1 _ _ _ (by rw [h3]; decide) (by omega)]
    exact h8 j hj
  · rw [v95, v9 3 (by omega)]; exact mc 12 (by omega) (by omega)
  · rw [v9 3 (by omega)]; omega
  · rw [v9 3 (by omega)]; exact r7
  · rw [v9 3 (by omega)] at u; omega
  · rw [v95, v9 4 (by omega)]; exact mc 13 (by omega) (by omega)
  · rw [v35, v9 4 (by omega)]; exact c35
  · rw [v9 4 (by omega)] at u; omega
  · rw [v9 4 (by omega)] at u; omega
  · rw [v95, v9 2 (by omega)]; exact mc 11 (by omega) (by omega)
  · rw [v9 2 (by omega)] at u; omega
  · rw [v9 1 (by omega)]; exact r6
  · rw [v95, v9 1 (by omega)]; exact mc 10 (by omega) (by omega)
  · rw [v9 1 (by omega)]; omega
  · rw [v9 1 (by omega)] at u; omega
  · rw [v9 1 (by omega)] at u; omega
  · rcases u with ⟨u1, u2⟩ | ⟨i, u1, -⟩ | ⟨t, u1, -⟩
    · rw [v8] at u2
      rw [u1, u2]
      refine ⟨by simp [N0], t8', by rw [v7]; omega, ?_⟩
      rw [c8, cont_1, v9 0 (by omega)]; rfl
    · rw [v9 0 (by omega)] at u1; omega
    · rw [v9 1 (by omega)] at u1; omega
  · rw [v35]
    have : l35 ≠ l8 := by omega
    simp [N0, this]
  · unfold l_ac
    rw [v9 3 (by omega)]; rfl
  · rw [v95, v9 0 (by omega)]; exact mc 9 (by omega) (by omega)
  · rw [v95]
    exact ⟨(e4 j u).trans (m17 j u).symm, Or.inl (m17 j u)⟩
  · rw [v9 0 (by omega), frc_full 16 (fun j u => by rw [v95]; simp [m17 j u])]
  · rw [v9 0 (by omega)] at u; omega
  · rw [v9 0 (by omega)] at u; omega
  · rw [v9 0 (by omega)] at u; omega
  · rw [v9 0 (by omega)] at u; omega
end RDZp
