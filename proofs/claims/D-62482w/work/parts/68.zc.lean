/-! LAYER 2, reading: one action, whole -/
set_option maxRecDepth 100000
section RDI
variable {A : gA} {M0 : gM} {z p bc bk : Nat} {tx : Nat → Nat}
/-- after an action: is there a comma? -/
def cT (A : gA) (fu m r : Nat) (S : gm_S) : gR := gz_q (g_at S (some (A 1 0)) 2) (gz_cI (F_X2_takes fu (some (A 1 0)) (44 : Int32) S) fun v2 S2 => if v2 = 0 then (some (.returned none, S2)) else (F_X2_actions_0 fu m (some (A 1 0)) (some r) S2))
def eR (A : gA) (r : Nat) : Nat → Nat → Prop := fun F a => ((F = 202 ∨ F = 207) ∧ a = A 1 0) ∨ ((F = 3 ∨ F = 4) ∧ a = r)
def mAc (N : gA) (M M' : gM) : Prop := ∀ k i, ¬ (k = 4 ∨ k = 5 ∨ k = 38 ∨ k = 39 ∨ (k = 12 ∧ i = N 9 5) ∨ (33 ≤ k ∧ k ≤ 37 ∧ i = 48 * N 9 5 + N 9 3)) → M' k i = M k i
theorem PF.b {b0 b1 d0 d1 : Nat} {M' : gM} {o : Outcome} {S' : gm_S} (h : PF A M0 b0 b1 M' o S') (h0 : b0 ≤ d0) (h1 : b1 ≤ d1) : PF A M0 d0 d1 M' o S' := by
  obtain ⟨a, p', e1, e2, e3, e4, e5, e6, e7, e8, e9⟩ := h
  exact ⟨a, p', e1, e2, e3, e4, e5, e6, by omega, by omega, e9⟩
theorem s_action1 {N : gA} {M : gM} {S : gm_S} (h : PA A M S z tx p) (hi : g_inv M0 S) (hb : PB bc bk S p) (hq : qA A N M S) {r o : Nat} (ho : o < 300) (hr : gs_t S r = 16) (hl : S.2.1 r = (l_ac N o).map (N 14)) {fu : Nat} (hf : 100 ≤ fu) (m : Nat) :
    (∃ x op M' S' p', F_X4_readAction fu (nI o) M = some (.returned none, M') ∧ F_X2_actions_0 fu (m + 1) (some (A 1 0)) (some r) S = cT A fu m r S' ∧ PA A M' S' z tx p' ∧ g_inv M0 S' ∧ PB bc bk S' p' ∧ p < p' ∧ qA A (aAct N o x op) M' S' ∧ S'.2.1 r = (l_ac (aAct N o x op) o).map (aAct N o x op 14) ∧ ag (eR A r) (fun a => a = r) S S' ∧ (∀ b, b ≠ r → S'.2.1 b = S.2.1 b) ∧ mAc N M M') ∨
    (∃ M' oo S', F_X4_readAction fu (nI o) M = some (.returned none, M') ∧ F_X2_actions_0 fu (m + 1) (some (A 1 0)) (some r) S = some (oo, S') ∧ PF A M0 bc bk M' oo S' ∧ ag (eR A r) (fun a => a = r) S S' ∧ (∀ b, b ≠ r → S'.2.1 b = S.2.1 b) ∧ mAc N M M') := by
  have hpz := h.pz
  have hct := ct_le h
  have hq0 := hq
  obtain ⟨b, hbb, e1, e2⟩ := s_act0 h hq fu m (nI o) (some r)
  obtain ⟨q1, q2, q3, q4, q5, q6⟩ := hq
  rw [e1, e2]
  rcases hbb with ⟨rfl, hok, hna⟩ | ⟨rfl, -⟩
  · obtain ⟨hp, hcc⟩ := ct_lo (z := z) (tx := tx) (p := p) (c := 1) (by omega) (by omega)
    obtain ⟨c, hc⟩ : ∃ c, c = tx p := ⟨_, rfl⟩
    rw [← hcc, ← hc] at hok
    obtain ⟨ix, hix⟩ : ∃ ix, ix = 48 * N 9 5 + N 9 3 := ⟨_, rfl⟩
    have hix96 : ix < 96 := by omega
    obtain ⟨b1, b2, b3, b4⟩ := hb
    have hrd0 : gs_t S (A 1 0) ≠ 0 := by rw [h.1]; decide
    have hrne : r ≠ A 1 0 := fun w => by rw [w, h.1] at hr; cases hr
    have hrn34 : r ≠ A 34 0 := fun w => by rw [w, h.2.2.1] at hr; cases hr
    obtain ⟨M8, hM8⟩ : ∃ M8, M8 = n_up M 33 ix (.int (nI o)) := ⟨_, rfl⟩
    obtain ⟨S3, hS3⟩ : ∃ S3, S3 = gs_put S 207 (A 1 0) 0 (.int (nI (N 9 3 + 1))) := ⟨_, rfl⟩
    have g3 : ag (fun F a => F = 207 ∧ a = A 1 0) (fun _ => False) S S3 := by rw [hS3]; exact ag.put (by decide)
    have i3 : g_inv M0 S3 := by rw [hS3]; exact hi.put (by decide) hrd0
    have s32 : S3.2 = S.2 := by rw [hS3]; rfl
    have P8 : PA A M8 S3 z tx p := h.mono g3 (by simp) (fun k i w => by rw [hM8]; exact y_uk (by omega))
    obtain ⟨x1, x2, x3⟩ := s_next P8 fu hp
    rw [← hc] at x1 x2
    obtain ⟨M13, hM13⟩ : ∃ M13, M13 = n_up (n_up (n_p M8 4 (nI (p + 1))) 34 ix (.int (nI c))) 35 ix (.int 0) := ⟨_, rfl⟩
    have f13 : ∀ k i, k ≠ 4 → ¬ (33 ≤ k ∧ k ≤ 35 ∧ i = ix) → M13 k i = M k i := fun k i w w' => by
      rw [hM13, n_upo (by omega), n_upo (by omega)]
      show n_up M8 4 0 _ k i = _
      rw [y_uk w, hM8, n_upo (by omega)]
    have m8 : n_I M13 8 0 = nI (N 9 5) := by unfold n_I; rw [f13 _ _ (by omega) (by omega)]; exact q1
    have m12 : n_I M13 12 (N 9 5) = nI (N 9 3) := by unfold n_I; rw [f13 _ _ (by omega) (by omega)]; exact q3
    obtain ⟨M17, hM17⟩ : ∃ M17, M17 = n_up M13 12 (N 9 5) (.int (nI (N 9 3 + 1))) := ⟨_, rfl⟩
    have m34 : n_I M17 34 ix = nI c := by
      unfold n_I
      rw [hM17, y_uk (by decide), hM13, y_uk (by decide), y_us]; rfl
    have m35 : n_I M17 35 ix = 0 := by
      unfold n_I
      rw [hM17, y_uk (by decide), hM13, y_us]; rfl
    have m33 : n_I M17 33 ix = nI o := by
      unfold n_I
      rw [hM17, y_uk (by decide), hM13, y_uk (by decide), y_uk (by decide)]
      show gm_I (n_up M8 4 0 _ 33 ix) = _
      rw [y_uk (by decide), hM8, y_us]; rfl
    have m1712 : n_I M17 12 (N 9 5) = nI (N 9 3 + 1) := by unfold n_I; rw [hM17, y_us]; rfl
    have f17 : ∀ k i, k ≠ 4 → ¬ (k = 12 ∧ i = N 9 5) → ¬ (33 ≤ k ∧ k ≤ 35 ∧ i = ix) → M17 k i = M k i := fun k i w w' w'' => by rw [hM17, n_upo w']; exact f13 k i w w''
    have hmod : F_X4_readAction_42 fu (nI o) 1 M = (if (72 : Int32) < nI c then mAs fu (nI ix) M17 else mRa fu (nI ix) M17) := by
      unfold F_X4_readAction_42
      rw [m_want1, y_cV, q1, y_aI (by omega) (by omega), y_b, q3, h.m5, if_pos rfl, y_m48, nI_add, ← hix, y_sI hix96 (by omega), y_b, ← hM8, x1, y_cI, y_sI hix96 (by omega), y_b, y_sI hix96 (by omega), y_b, ← hM13, m8, y_aI (by omega) (by omega), y_b, m12, nI_1, y_sI (by omega) (by omega), y_b, ← hM17, y_aI hix96 (by omega), y_b, m34]
      rfl
    obtain ⟨S4, hS4⟩ : ∃ S4, S4 = sA A S3 (p + 1) := ⟨_, rfl⟩
    rw [← hS4] at x2 x3
    have ts : tA A S3 S4 := by rw [hS4]; exact tA.s
    have i4 := ts.inv i3 P8.1
    have P17 : PA A M17 S4 z tx (p + 1) := x3.mono g_none ⟨fun w => w, fun w => w, fun w => w, fun w => w, fun w => w⟩ (fun k i w => by rw [hM17, y_uk (by omega), hM13, y_uk (by omega), y_uk (by omega)])
    have hcomp : F_X2_actions_37 fu (F_X2_actions_0 fu m) (some (A 1 0)) (some r) 1 (some (A 1 0)) S = (if (72 : Int32) < nI c then gz_cR (F_X2_assigning fu (some (A 1 0)) (nI c) S4) (fun v5 S5 => Option.bind (g_ladd S5 (some r) v5) fun S1 => cT A fu m r S1) else gz_cR (F_X2_raising fu (some (A 1 0)) (nI c) S4) (fun v5 S5 => Option.bind (g_ladd S5 (some r) v5) fun S1 => cT A fu m r S1)) := by
      unfold F_X2_actions_37
      rw [y_q h.1, c_want1, y_cV, q5, y_b, nI_1, y_pI h.1, y_b]
      rw [show gs_put S (100 * 2 + 7) (A 1 0) 0 (.int (nI (N 9 3 + 1))) = S3 from hS3.symm, y_q P8.1, x2, y_cI, y_q P17.1, y_q P17.1]
      rfl
    have hb4 : PB (bc - 8) (bk - 400) S4 (p + 1) := by
      refine ⟨?_, ?_, by omega, by omega⟩
      · rw [show gs_c S4 = gs_c S from by show S4.2.2.2.1 = _; rw [ts.2, s32]]; omega
      · rw [show gs_k S4 = gs_k S from by show S4.2.2.2.2 = _; rw [ts.2, s32]]; omega
    have gS4 : ag (eR A r) (fun a => a = r) S S4 := (g3.trans ts.ag).wk (fun F a w => Or.inl (w.elim (fun w => ⟨Or.inr w.1, w.2⟩) (fun w => ⟨Or.inl w.1, w.2⟩))) (fun a w => w.elim (fun w => w.elim) (fun w => w.elim))
    have l4 : S4.2.1 = S.2.1 := by rw [ts.2, s32]
    have r4 : gs_t S4 r = 16 := (gS4.2.2 r (by rw [hr]; decide)).trans hr
    have f207 : g_gI S4 (some (A 1 0)) 2 7 = some (nI (N 9 3 + 1)) := ts.ag.gI (show g_gI S3 (some (A 1 0)) 2 7 = some (nI (N 9 3 + 1)) by rw [hS3, y_gI ((y_pt (by decide)).trans h.1), y_pE]; rfl) (by decide) (by unfold eA; omega)
    have hlen : (l_ac N o).length ≤ 40 := by
      unfold l_ac
      exact Nat.le_trans (List.length_filter_le _ _) (by rw [List.length_range]; omega)
    -- the object goes into the row
    have fin : ∀ (x op p' : Nat) (M' : gM) (S5 : gm_S), PA A M' S5 z tx p' → g_inv M0 S5 → PB (bc - 7) (bk - 350) S5 p' → p < p' → ag (eA A) (fun _ => False) S4 S5 → S5.2.1 = S4.2.1 → (∀ k i, ¬ (k = 4 ∨ k = 38 ∨ k = 39) → ¬ ((k = 35 ∨ k = 36 ∨ k = 37) ∧ i = ix) → M' k i = M17 k i) → g_okE (gs_t S5 x) = true →
        (∀ (S' : gm_S), ag (fun F b => (F = 3 ∨ F = 4) ∧ b = r) (fun b => b = r) S5 S' → cW6 (aAct N o x op) M' (N 9 3) ∧ cH5 (aAct N o x op) M' S' (N 9 3)) →
        ∃ S', Option.bind (g_ladd S5 (some r) (some x)) (fun S1 => cT A fu m r S1) = cT A fu m r S' ∧ PA A M' S' z tx p' ∧ g_inv M0 S' ∧ PB bc bk S' p' ∧ qA A (aAct N o x op) M' S' ∧ S'.2.1 r = (l_ac (aAct N o x op) o).map (aAct N o x op 14) ∧ ag (eR A r) (fun a => a = r) S S' ∧ (∀ b, b ≠ r → S'.2.1 b = S.2.1 b) ∧ mAc N M M' := by
      intro x op p' M' S5 w1 w2 w3 w4 w5 w6 w7 w8 w9
      obtain ⟨d1, d2, d3, d4⟩ := w3
      have r5 : gs_t S5 r = 16 := (w5.2.2 r (by rw [r4]; decide)).trans r4
      have l5 : S5.2.1 r = (l_ac N o).map (N 14) := by rw [w6, l4]; exact hl
      obtain ⟨S', a1, a2, a3, a4, a5, a6, a7⟩ := c_ladd w2 r5 w8 (by rw [l5, List.length_map]; omega) (by omega) (by omega)
      have gA' : ag (eR A r) (fun a => a = r) S S' := ((gS4.trans w5).trans a2).wk (fun F a w => by
        rcases w with (w | w) | w
        · exact w
        · exact Or.inl ⟨Or.inl w.1, w.2⟩
        · exact Or.inr w) (fun a w => by
        rcases w with (w | w) | w
        · exact w
        · exact w.elim
        · exact w)
      have fM : ∀ k i, ¬ (k = 4 ∨ k = 38 ∨ k = 39 ∨ (k = 12 ∧ i = N 9 5) ∨ (33 ≤ k ∧ k ≤ 37 ∧ i = ix)) → M' k i = M k i := fun k i w => (w7 k i (by omega) (by omega)).trans (f17 k i (by omega) (by omega) (by omega))
      refine ⟨S', by rw [a1, y_b], w1.mono a2 (by simp) (fun _ _ _ => rfl), a4, ⟨by omega, by omega, by omega, by omega⟩, ⟨?_, ?_, ?_, ?_, ?_, fun a ha => ?_⟩, ?_, gA', fun b hb' => ?_, fun k i w => fM k i (by omega)⟩
      · rw [aAct_w]; unfold n_I; rw [fM _ _ (by omega)]; exact q1
      · rw [aAct_w]; exact q2
      · rw [aAct_w, aAct_n]
        unfold n_I
        rw [w7 _ _ (by omega) (by omega)]
        exact m1712
      · rw [aAct_n]; omega
      · rw [aAct_n]
        exact a2.gI (w5.gI f207 (by decide) (by unfold eA; omega)) (by decide) (by simp)
      · rw [aAct_n] at ha
        by_cases ea : a = N 9 3
        · rw [ea]; exact w9 S' a2
        · exact qA_old (q6 a (by omega)) (by omega) gA' (fun F b f1 f2 w => by rcases w with w | w <;> omega) (fun k f1 f2 => fM k _ (by omega))
      · rw [a3, l5, aAct_l, if_pos rfl]
      · rw [a7 b hb', w6, l4]
    rw [hmod, hcomp]
    by_cases h72 : c ≤ 72
    · have n72 : ¬ (72 : Int32) < nI c := fun w => by have := (nI_ltI (a := 72) (b := c) (by omega) (by omega)).mp w; omega
      rw [if_neg n72, if_neg n72]
      rcases s_raising (bc := bc - 8) (bk := bk - 400) P17 i4 hb4 (by omega) (by omega) fu (c := c) (by omega) hix96 m35 with ⟨M', x, S5, p', q, y1, y2, y3, y4, y5, y6, y7, y8, y9, y10, y11, y12, y13⟩ | ⟨M', oo, S5, y1, y2, y3, y4, y5, y6⟩
      · have tx7 : gs_t S5 x = 7 := by obtain ⟨a, ea, ta, -⟩ := y_gIt y9; cases ea; exact ta
        have v34 : n_I M' 34 (48 * N 9 5 + N 9 3) = nI c := by rw [← hix]; unfold n_I; rw [y13 _ _ (by omega) (by omega)]; exact m34
        have v33 : n_I M' 33 (48 * N 9 5 + N 9 3) = nI o := by rw [← hix]; unfold n_I; rw [y13 _ _ (by omega) (by omega)]; exact m33
        have v35 : n_I M' 35 (48 * N 9 5 + N 9 3) = nI q := by rw [← hix]; exact y8
        obtain ⟨S', w⟩ := fin x 0 p' M' S5 y3 y4 ⟨by have := y5.1; omega, by have := y5.2.1; omega, by omega, by omega⟩ (by omega) y11 y12 (fun k i w w' => y13 k i (by omega) (by omega)) (by rw [tx7]; decide) (fun S' g => by
          constructor
          · unfold cW6
            rw [aAct_w, aAct_31, v33, v34, v35]
            exact ⟨rfl, ho, Or.inl ⟨c, q, by omega, by omega, by omega, rfl, rfl⟩⟩
          · unfold cH5
            rw [aAct_w, aAct_x, v34, v35]
            exact ⟨fun _ => ⟨g.gI y9 (by decide) (by simp), g.gI y10 (by decide) (by simp)⟩, fun w => absurd ((nI_leI (a := c) (b := 72) (by omega) (by omega)).mpr h72) w⟩)
        exact Or.inl ⟨x, 0, M', S', p', y1, by rw [y2, gz_cR_rf]; exact w.1, w.2.1, w.2.2.1, w.2.2.2.1, by omega, w.2.2.2.2⟩
      · obtain ⟨a, pp, g1, g2⟩ := y3
        refine Or.inr ⟨M', oo, S5, y1, by rw [y2, g1]; rfl, PF.b ⟨a, pp, g1, g2⟩ (by omega) (by omega), (gS4.trans y4).wk (fun F a w => w.elim id (fun w => Or.inl ⟨Or.inl w.1, w.2⟩)) (fun a w => w.elim id (fun w => w.elim)), fun b _ => by rw [y5, l4], fun k i w => (y6 k i (by omega) (by omega) (by omega)).trans (f17 k i (by omega) (by omega) (by omega))⟩
    · have n72 : (72 : Int32) < nI c := (nI_ltI (a := 72) (b := c) (by omega) (by omega)).mpr (by omega)
      rw [if_pos n72, if_pos n72]
      rcases s_assigning (bc := bc - 8) (bk := bk - 400) P17 i4 hb4 (fu := fu) hf (nI c) hix96 with ⟨M', x, S5, p', g, op, y1, y2, y3, y4, y5, y6, y7, y8, y9, y10, y11, y12, y13, y14, y15, y16, y17⟩ | ⟨M', oo, S5, y1, y2, y3, y4, y5, y6⟩
      · have tx8 : gs_t S5 x = 8 := by obtain ⟨a, ea, ta, -⟩ := y_gIt y11; cases ea; exact ta
        have v34 : n_I M' 34 (48 * N 9 5 + N 9 3) = nI c := by rw [← hix]; unfold n_I; rw [y17 _ _ (by omega) (by omega)]; exact m34
        have v33 : n_I M' 33 (48 * N 9 5 + N 9 3) = nI o := by rw [← hix]; unfold n_I; rw [y17 _ _ (by omega) (by omega)]; exact m33
        rw [hix] at y8 y9 y10 y14
        obtain ⟨mv, hmv⟩ : ∃ mv, c = 117 + mv := ⟨c - 117, by omega⟩
        obtain ⟨S', w⟩ := fin x op p' M' S5 y3 y4 ⟨by have := y5.1; omega, by have := y5.2.1; omega, by omega, by omega⟩ (by omega) y15 y16 (fun k i w w' => y17 k i w w') (by rw [tx8]; decide) (fun S' g' => by
          constructor
          · unfold cW6
            rw [aAct_w, aAct_31, v33, v34]
            refine ⟨rfl, ho, Or.inr ⟨mv, g, by omega, by rw [hmv], y7, y8, y9, y10⟩⟩
          · unfold cH5
            rw [aAct_w, aAct_x, aAct_23, v34]
            refine ⟨fun w => absurd ((nI_leI (a := c) (b := 72) (by omega) (by omega)).mp w) h72, fun _ => ⟨g'.gI y11 (by decide) (by simp), by rw [y8]; exact g'.gI y12 (by decide) (by simp), g'.gR y13 (by decide) (by simp), g'.gI y14.1 (by decide) (by simp), ?_⟩⟩
            obtain ⟨q, eq, tq, vq⟩ := y_gDt y14.2
            cases eq
            rw [y_gD ((g'.2.2 _ (by rw [tq]; decide)).trans tq), g'.1 _ _ _ (by rw [tq]; decide) (by simp), vq])
        exact Or.inl ⟨x, op, M', S', p', y1, by rw [y2, gz_cR_rf]; exact w.1, w.2.1, w.2.2.1, w.2.2.2.1, by omega, w.2.2.2.2⟩
      · obtain ⟨a, pp, g1, g2⟩ := y3
        refine Or.inr ⟨M', oo, S5, y1, by rw [y2, g1]; rfl, PF.b ⟨a, pp, g1, g2⟩ (by omega) (by omega), (gS4.trans y4).wk (fun F a w => w.elim id (fun w => Or.inl ⟨Or.inl w.1, w.2⟩)) (fun a w => w.elim id (fun w => w.elim)), fun b _ => by rw [y5, l4], fun k i w => (y6 k i (by omega) (by omega)).trans (f17 k i (by omega) (by omega) (by omega))⟩
  · obtain ⟨f1, f2⟩ := s_fail (bc := bc) (bk := bk) h hi hb fu (some (A 1 0))
    unfold F_X4_readAction_42 F_X2_actions_37
    have q8' : n_I (n_p M 5 1) 8 0 = nI (N 9 5) := (n_po (by decide)).trans q1
    rw [m_want0, y_cV, q8', y_aI (by omega) (by omega), y_b, n_ps, if_neg (by decide), y_q h.1, f1, y_cVt]
    exact Or.inr ⟨_, _, _, rfl, rfl, f2, (ag.mk hi.2.2.2).wk (fun F a w => w.elim) (fun a w => w.elim), fun _ _ => rfl, fun k i w => y_uk (by omega)⟩
end RDI
