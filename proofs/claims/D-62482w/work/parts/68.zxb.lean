/-! LAYER 2, reading: a state's object; the model's beginning of a state -/
set_option maxRecDepth 100000
section RDZf
variable {A : gA} {M0 : gM} {z p bc bk : Nat} {tx : Nat → Nat}
theorem x_state {S : gm_S} (hi : g_inv M0 S) {o : Nat} (h : gs_t S o = 5) (v : Int32) (x2 : Option Nat) (h1 : gs_c S + 4 < 600096) (h2 : gs_k S + 12 ≤ 7301386) (fu : Nat) : ∃ S', F_X5_init fu (some o) v x2 S = some (.returned none, S') ∧ g_gI S' (some o) 5 0 = some v ∧ g_gR S' (some o) 5 1 = some x2 ∧ g_gR S' (some o) 5 3 = some (some (gs_n S)) ∧ g_gR S' (some o) 5 4 = some (some (gs_n S + 1)) ∧ g_gR S' (some o) 5 5 = some (some (gs_n S + 2)) ∧ g_gR S' (some o) 5 6 = some (some (gs_n S + 3)) ∧ (∀ F, F = 502 ∨ F = 507 ∨ F = 508 ∨ F = 509 → S'.1 F o 0 = S.1 F o 0) ∧ (∀ j, j < 4 → gs_t S' (gs_n S + j) = 16 ∧ S'.2.1 (gs_n S + j) = []) ∧ (∀ b, b < gs_n S → S'.2.1 b = S.2.1 b) ∧ ag (fun F a => 500 ≤ F ∧ F ≤ 506 ∧ F ≠ 502 ∧ a = o) (fun _ => False) S S' ∧ g_inv M0 S' ∧ gs_n S' = gs_n S + 4 ∧ gs_c S' = gs_c S + 4 ∧ gs_k S' = gs_k S + 12 ∧ gs_t S' o = 5 := by
  have h0 : gs_t S o ≠ 0 := by rw [h]; decide
  have ho : o < gs_n S := hi.2.2.2 o h0
  obtain ⟨Sa, a1, a2, a3, a4, a5, a6, a7, a8, a9, a10, a11⟩ := x_lf (k := 3) hi h (by decide) (by omega) (by omega)
  obtain ⟨Sb, b1, b2, b3, b4, b5, b6, b7, b8, b9, b10, b11⟩ := x_lf (k := 4) a7 a11 (by decide) (by omega) (by omega)
  obtain ⟨Sc, c1, c2, c3, c4, c5, c6, c7, c8, c9, c10, c11⟩ := x_lf (k := 5) b7 b11 (by decide) (by omega) (by omega)
  obtain ⟨Sd, d1, d2, d3, d4, d5, d6, d7, d8, d9, d10, d11⟩ := x_lf (k := 6) c7 c11 (by decide) (by omega) (by omega)
  rw [a8] at b2 b3 b4 b5
  rw [b8, a8] at c2 c3 c4 c5
  rw [c8, b8, a8] at d2 d3 d4 d5
  have t1 : gs_t (gs_put Sd (100 * 5 + 0) o 0 (.int v)) o = 5 := (y_pt (by decide)).trans d11
  obtain ⟨Se, hSe⟩ : ∃ Se, Se = gs_put (gs_put Sd (100 * 5 + 0) o 0 (.int v)) (100 * 5 + 1) o 0 (va_rf x2) := ⟨_, rfl⟩
  have ge : ag (fun F a => (F = 500 ∨ F = 501) ∧ a = o) (fun _ => False) Sd Se := by
    rw [hSe]
    exact ((ag.put (S := Sd) (F := 100 * 5 + 0) (a := o) (i := 0) (v := .int v) (by decide)).trans (ag.put (F := 100 * 5 + 1) (a := o) (i := 0) (v := va_rf x2) (by decide))).wk (fun F a w => by omega) (fun a w => w.elim id id)
  have te : ∀ b, gs_t Se b = gs_t Sd b := fun b => by rw [hSe, y_pt (by decide), y_pt (by decide)]
  have le : Se.2.1 = Sd.2.1 := by rw [hSe]; rfl
  have fa : ∀ F, F = 502 ∨ F = 507 ∨ F = 508 ∨ F = 509 → Sa.1 F o 0 = S.1 F o 0 := fun F w => a6.1 F o 0 h0 (by omega)
  have fb : ∀ F, F = 502 ∨ F = 507 ∨ F = 508 ∨ F = 509 → Sb.1 F o 0 = S.1 F o 0 := fun F w => (b6.1 F o 0 (by rw [a11]; decide) (by omega)).trans (fa F w)
  have fc : ∀ F, F = 502 ∨ F = 507 ∨ F = 508 ∨ F = 509 → Sc.1 F o 0 = S.1 F o 0 := fun F w => (c6.1 F o 0 (by rw [b11]; decide) (by omega)).trans (fb F w)
  have fd : ∀ F, F = 502 ∨ F = 507 ∨ F = 508 ∨ F = 509 → Sd.1 F o 0 = S.1 F o 0 := fun F w => (d6.1 F o 0 (by rw [c11]; decide) (by omega)).trans (fc F w)
  refine ⟨Se, ?_, ?_, ?_, ?_, ?_, ?_, ?_, ?_, ?_, ?_, ?_, ?_, ?_, ?_, ?_, (te o).trans d11⟩
  · unfold F_X5_init
    rw [y_q h]
    refine (a1 _).trans ((b1 _).trans ((c1 _).trans ((d1 _).trans ?_)))
    rw [y_pI d11, y_b, y_pR t1, y_b, ← hSe]
  · rw [y_gI ((te o).trans d11), hSe, y_pM (by simp), y_pE]; rfl
  · rw [y_gR ((te o).trans d11), hSe, y_pE, gm_R_rf]
  · exact ge.gR (d6.gR (c6.gR (b6.gR a2 (by decide) (by omega)) (by decide) (by omega)) (by decide) (by omega)) (by decide) (by omega)
  · exact ge.gR (d6.gR (c6.gR b2 (by decide) (by omega)) (by decide) (by omega)) (by decide) (by omega)
  · exact ge.gR (d6.gR c2 (by decide) (by omega)) (by decide) (by omega)
  · exact ge.gR d2 (by decide) (by omega)
  · intro F w
    rw [ge.1 F o 0 (by rw [d11]; decide) (by omega)]
    exact fd F w
  · intro j hj
    rw [le]
    have q : j = 0 ∨ j = 1 ∨ j = 2 ∨ j = 3 := by omega
    rcases q with q | q | q | q
    · subst q
      refine ⟨(te _).trans ((d6.2.2 _ ?_).trans ((c6.2.2 _ ?_).trans ((b6.2.2 _ ?_).trans a3))), by rw [d5 _ (by omega), c5 _ (by omega), b5 _ (by omega)]; exact a4⟩
      · rw [c6.2.2 _ (by rw [b6.2.2 _ (by rw [Nat.add_zero, a3]; decide), Nat.add_zero, a3]; decide), b6.2.2 _ (by rw [Nat.add_zero, a3]; decide), Nat.add_zero, a3]; decide
      · rw [b6.2.2 _ (by rw [Nat.add_zero, a3]; decide), Nat.add_zero, a3]; decide
      · rw [Nat.add_zero, a3]; decide
    · subst q
      refine ⟨(te _).trans ((d6.2.2 _ ?_).trans ((c6.2.2 _ ?_).trans b3)), by rw [d5 _ (by omega), c5 _ (by omega)]; exact b4⟩
      · rw [c6.2.2 _ (by rw [b3]; decide), b3]; decide
      · rw [b3]; decide
    · subst q
      refine ⟨(te _).trans ((d6.2.2 _ ?_).trans c3), by rw [d5 _ (by omega)]; exact c4⟩
      rw [c3]; decide
    · subst q
      exact ⟨(te _).trans d3, d4⟩
  · intro b hb
    rw [le, d5 _ (by omega), c5 _ (by omega), b5 _ (by omega), a5 _ (by omega)]
  · exact ((((a6.trans b6).trans c6).trans d6).trans ge).wk (fun F a w => by omega) (fun a w => by rcases w with (((w | w) | w) | w) | w <;> exact w)
  · rw [hSe]
    exact (d7.put (by decide) (by rw [d11]; decide)).put (by decide) (by rw [t1]; decide)
  · rw [hSe]; show gs_n Sd = _; omega
  · rw [hSe]; show gs_c Sd = _; omega
  · rw [hSe]; show gs_k Sd = _; omega
theorem m_state {N : gA} {M : gM} {S : gm_S} (h : PA A M S z tx p) (h8 : n_I M 8 0 = nI (N 9 5)) (hw : N 9 5 < 2) {s l pc : Nat} (hs16 : s < 16) (h9 : n_I M 9 (N 9 5) = nI s) (hp : p < z) (hlt : tx p = 97 + l) (hl : l < 16) (hN : ∀ i, i < s → N 24 i ≤ i) (h15 : ∀ i, i < s → n_I M 15 (16 * N 9 5 + i) = pcv (N 24 i)) (hpc : pc ≤ s) {fu : Nat} (hf : 100 ≤ fu) :
    ∃ M', F_X4_readState_46 fu (pcv pc) 1 M = some (.returned (some (.int (nI s))), M') ∧ n_I M' 9 (N 9 5) = nI (s + 1) ∧ n_I M' 17 (16 * N 9 5 + l) = nI s ∧ n_I M' 14 (16 * N 9 5 + s) = 0 ∧ n_I M' 15 (16 * N 9 5 + s) = pcv pc ∧ (∀ i b, b < 32 → i < 16 → bt (n_I M' 16 (16 * N 9 5 + i)) b = ((if i = s then false else bt (n_I M 16 (16 * N 9 5 + i)) b) || (decide (b = s) && chn N fu pc i))) ∧ (∀ k i, ¬ (k = 4 ∨ (k = 9 ∧ i = N 9 5) ∨ (k = 17 ∧ i = 16 * N 9 5 + l) ∨ ((k = 14 ∨ k = 15) ∧ i = 16 * N 9 5 + s) ∨ (k = 16 ∧ 16 * N 9 5 ≤ i ∧ i < 16 * N 9 5 + s + 1)) → M' k i = M k i) ∧ n_I M' 4 0 = nI (p + 1) := by
  obtain ⟨M9, hM9⟩ : ∃ M9, M9 = n_up M 9 (N 9 5) (.int (nI (s + 1))) := ⟨_, rfl⟩
  have P9 : PA A M9 S z tx p := h.mono g_none ⟨fun w => w, fun w => w, fun w => w, fun w => w, fun w => w⟩ (fun k i w => by rw [hM9, y_uk (by omega)])
  obtain ⟨x1, -, -⟩ := s_next P9 fu hp
  have h89 : n_I M9 8 0 = nI (N 9 5) := by unfold n_I; rw [hM9, y_uk (by decide)]; exact h8
  have e97 : (16 : Int32) * nI (N 9 5) + nI (tx p) - 97 = nI (16 * N 9 5 + l) := by
    rw [y_m16, nI_add]
    have := pk_sub (a := 16 * N 9 5 + tx p) (b := 97) (by omega)
    rw [show 16 * N 9 5 + tx p - 97 = 16 * N 9 5 + l by omega] at this
    exact this
  obtain ⟨M13, hM13⟩ : ∃ M13, M13 = n_up (n_p M9 4 (nI (p + 1))) 17 (16 * N 9 5 + l) (.int (nI s)) := ⟨_, rfl⟩
  obtain ⟨M16, hM16⟩ : ∃ M16, M16 = n_up M13 14 (16 * N 9 5 + s) (.int 0) := ⟨_, rfl⟩
  obtain ⟨M19, hM19⟩ : ∃ M19, M19 = n_up M16 15 (16 * N 9 5 + s) (.int (pcv pc)) := ⟨_, rfl⟩
  obtain ⟨M22, hM22⟩ : ∃ M22, M22 = n_up M19 16 (16 * N 9 5 + s) (.int 0) := ⟨_, rfl⟩
  have f13 : ∀ k i, ¬ (k = 4 ∨ (k = 9 ∧ i = N 9 5) ∨ (k = 17 ∧ i = 16 * N 9 5 + l)) → M13 k i = M k i := fun k i w => by
    rw [hM13, n_upo (by omega)]
    show n_up M9 4 0 _ k i = _
    rw [y_uk (by omega), hM9, n_upo (by omega)]
  have f22 : ∀ k i, ¬ (k = 4 ∨ (k = 9 ∧ i = N 9 5) ∨ (k = 17 ∧ i = 16 * N 9 5 + l) ∨ ((k = 14 ∨ k = 15 ∨ k = 16) ∧ i = 16 * N 9 5 + s)) → M22 k i = M k i := fun k i w => by
    rw [hM22, n_upo (by omega), hM19, n_upo (by omega), hM16, n_upo (by omega), f13 k i (by omega)]
  have e13 : n_I M13 8 0 = nI (N 9 5) := by unfold n_I; rw [f13 _ _ (by omega)]; exact h8
  have e16 : n_I M16 8 0 = nI (N 9 5) := by unfold n_I; rw [hM16, y_uk (by decide)]; exact e13
  have e19 : n_I M19 8 0 = nI (N 9 5) := by unfold n_I; rw [hM19, y_uk (by decide)]; exact e16
  have e22 : n_I M22 8 0 = nI (N 9 5) := by unfold n_I; rw [hM22, y_uk (by decide)]; exact e19
  obtain ⟨M', w1, w2, w3⟩ := m_150 (N := N) hs16 hw hN fu fu pc M22 (by omega) hpc e22 (fun i hi => by unfold n_I; rw [f22 _ _ (by omega)]; exact h15 i hi)
  refine ⟨M', ?_, ?_, ?_, ?_, ?_, fun i b hb hi => ?_, fun k i q => ?_, ?_⟩
  · unfold F_X4_readState_46
    rw [m_want1, y_cV, h.m5, if_pos rfl, h8, y_aI (by omega) (by omega), y_b, y_b, h9, nI_1, y_sI (by omega) (by omega), y_b, ← hM9, x1, y_cI, h89, e97, y_sI (by omega) (by omega), y_b, ← hM13, e13, y_m16, nI_add, y_sI (by omega) (by omega), y_b, ← hM16, e16, y_m16, nI_add, y_sI (by omega) (by omega), y_b, ← hM19, e19, y_m16, nI_add, y_sI (by omega) (by omega), y_b, ← hM22, w1]
  · unfold n_I
    rw [w2 _ _ (by omega), hM22, y_uk (by decide), hM19, y_uk (by decide), hM16, y_uk (by decide), hM13, y_uk (by decide)]
    show gm_I (n_up M9 4 0 _ 9 _) = _
    rw [y_uk (by decide), hM9, y_us]; rfl
  · unfold n_I
    rw [w2 _ _ (by omega), hM22, y_uk (by decide), hM19, y_uk (by decide), hM16, y_uk (by decide), hM13, y_us]; rfl
  · unfold n_I
    rw [w2 _ _ (by omega), hM22, y_uk (by decide), hM19, y_uk (by decide), hM16, y_us]; rfl
  · unfold n_I
    rw [w2 _ _ (by omega), hM22, y_uk (by decide), hM19, y_us]; rfl
  · rw [w3 i b hb hi]
    congr 1
    by_cases e : i = s
    · rw [if_pos e, e]
      have : n_I M22 16 (16 * N 9 5 + s) = 0 := by unfold n_I; rw [hM22, y_us]; rfl
      rw [this, b_0]
    · rw [if_neg e]
      have : n_I M22 16 (16 * N 9 5 + i) = n_I M 16 (16 * N 9 5 + i) := by unfold n_I; rw [f22 _ _ (by omega)]
      rw [this]
  · rw [w2 k i (by omega), f22 k i (by omega)]
  · unfold n_I
    rw [w2 _ _ (by omega), hM22, y_uk (by decide), hM19, y_uk (by decide), hM16, y_uk (by decide), hM13, y_uk (by decide)]
    exact n_ps
theorem chn_lt {N : gA} {s : Nat} (hN : ∀ i, i < s → N 24 i ≤ i) {i : Nat} : ∀ (f pc : Nat), pc ≤ s → chn N f pc i = true → i < pc := by
  intro f
  induction f with
  | zero => intro pc _ h; cases h
  | succ f ih =>
    intro pc h2 h
    rw [chn] at h
    by_cases e : pc = 0
    · rw [if_pos e] at h; cases h
    · rw [if_neg e, Bool.or_eq_true, decide_eq_true_eq] at h
      have hle := hN (pc - 1) (by omega)
      rcases h with h | h
      · omega
      · have := ih _ (by omega) h
        omega
theorem chn_ob {N : gA} {s : Nat} {ob : Nat → Bool} (hN : ∀ i, i < s → N 24 i ≤ i) (ho : ∀ k, k < s → ob k = true → N 24 k ≠ 0 → ob (N 24 k - 1) = true) {i : Nat} : ∀ (f pc : Nat), pc ≤ s → (pc ≠ 0 → ob (pc - 1) = true) → chn N f pc i = true → ob i = true := by
  intro f
  induction f with
  | zero => intro pc _ _ h; cases h
  | succ f ih =>
    intro pc h2 hpc h
    rw [chn] at h
    by_cases e : pc = 0
    · rw [if_pos e] at h; cases h
    · rw [if_neg e, Bool.or_eq_true, decide_eq_true_eq] at h
      have hle := hN (pc - 1) (by omega)
      rcases h with h | h
      · rw [h]; exact hpc e
      · exact ih _ (by omega) (fun w => ho (pc - 1) (by omega) (hpc e) w) h
end RDZf
