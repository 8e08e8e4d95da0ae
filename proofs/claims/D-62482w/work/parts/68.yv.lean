/-! LAYER 2, reading: one operand -/
set_option maxRecDepth 100000
section RDC
variable {A : gA} {M0 : gM} {z p bc bk : Nat} {tx : Nat → Nat}
theorem x_op {S : gm_S} {o : Nat} (h : gs_t S o = 9) (fu : Nat) (v : Int32) (d : UInt64) : F_X9_init fu (some o) v d S = some (.returned none, gs_put (gs_put S 900 o 0 (.int v)) 901 o 0 (.double d)) ∧ h_op (gs_put (gs_put S 900 o 0 (.int v)) 901 o 0 (.double d)) o v d ∧ ag (fun F a => (F = 900 ∨ F = 901) ∧ a = o) (fun _ => False) S (gs_put (gs_put S 900 o 0 (.int v)) 901 o 0 (.double d)) := by
  have h1 : gs_t (gs_put S 900 o 0 (.int v)) o = 9 := (y_pt (by decide)).trans h
  refine ⟨?_, ⟨?_, ?_⟩, ?_⟩
  · unfold F_X9_init
    rw [y_q h, y_pI h, y_b, y_pD h1, y_b]
  · rw [y_gI ((y_pt (by decide)).trans h1), y_pM (by simp), y_pE]; rfl
  · rw [y_gD ((y_pt (by decide)).trans h1), y_pE]; rfl
  · exact ((ag.put (S := S) (F := 900) (a := o) (i := 0) (v := .int v) (by decide)).trans (ag.put (F := 901) (a := o) (i := 0) (v := .double d) (by decide))).wk (fun F a w => w.elim (fun w => ⟨Or.inl w.1, w.2⟩) (fun w => ⟨Or.inr w.1, w.2⟩)) (fun a w => w.elim id id)
/-- a number's object -/
theorem c_newop {S : gm_S} (hi : g_inv M0 S) (hc : gs_c S < 600000) (hk : gs_k S + 2 ≤ 7301000) (fu : Nat) (d : UInt64) : ∃ S', F_X2_operand_120 fu d S = some (.returned (some (va_rf (some (gs_n S)))), S') ∧ h_op S' (gs_n S) (-1) d ∧ ag (fun _ _ => False) (fun _ => False) S S' ∧ g_inv M0 S' ∧ S'.2.1 = S.2.1 ∧ gs_c S' = gs_c S + 1 ∧ gs_k S' = gs_k S + 2 := by
  obtain ⟨x1, x2, x3⟩ := x_op (S := g_mk S 9 2) y_mkn fu (-1) d
  have ht : gs_t (g_mk S 9 2) (gs_n S) ≠ 0 := by rw [y_mkn]; decide
  refine ⟨_, ?_, x2, (ag.mkt hi.2.2.2 x3).wk (fun F a w => w.2 w.1.2) (fun a w => w.1), (hi.mk.put (by decide) ht).put (by decide) (by rw [y_pt (by decide)]; exact ht), rfl, rfl, rfl⟩
  unfold F_X2_operand_120
  rw [y_new (by omega) (by omega), y_b, y_q y_mkn, x1, y_cV]
/-- what reading one operand gives -/
def oS (A : gA) (M0 : gM) (z : Nat) (tx : Nat → Nat) (bc bk : Nat) (S : gm_S) (p : Nat) (M M' : gM) (o : Nat) (S' : gm_S) (p' : Nat) : Prop := PA A M' S' z tx p' ∧ g_inv M0 S' ∧ PB bc bk S' p' ∧ p < p' ∧ h_op S' o (n_I M' 38 0) (n_D M' 39 0) ∧ o_ok (n_I M' 38 0) ∧ d_ok (n_D M' 39 0) ∧ ag (eA A) (fun _ => False) S S' ∧ S'.2.1 = S.2.1 ∧ (∀ k i, ¬ (k = 4 ∨ k = 38 ∨ k = 39) → M' k i = M k i)
def oF (A : gA) (M0 : gM) (bc bk : Nat) (S : gm_S) (M M' : gM) (o : Outcome) (S' : gm_S) : Prop := PF A M0 bc bk M' o S' ∧ ag (eA A) (fun _ => False) S S' ∧ S'.2.1 = S.2.1 ∧ (∀ k i, ¬ (k = 4 ∨ k = 5 ∨ k = 38 ∨ k = 39) → M' k i = M k i)
/-- after the digits -/
theorem s_op80 {M : gM} {S : gm_S} (h : PA A M S z tx p) (hi : g_inv M0 S) (hb : PB bc bk S (p - 1)) (hp0 : 0 < p) (h38 : n_I M 38 0 = -1) {fu n : Nat} (hn : n < 1000) :
    (∃ M' o S' p', F_X4_readOperand_84 fu (nI n) M = some (.returned none, M') ∧ F_X2_operand_80 fu (some (A 1 0)) (FP.i2d (nI n)) S = some (.returned (some (va_rf (some o))), S') ∧ oS A M0 z tx bc bk S (p - 1) M M' o S' p') ∨ (∃ M' o S', F_X4_readOperand_84 fu (nI n) M = some (.returned none, M') ∧ F_X2_operand_80 fu (some (A 1 0)) (FP.i2d (nI n)) S = some (o, S') ∧ oF A M0 bc bk S M M' o S') := by
  have hpz := h.pz
  obtain ⟨b1, b2, b3, b4⟩ := hb
  obtain ⟨N, hN⟩ : ∃ N, N = n_pD M 39 (FP.i2d (nI n)) := ⟨_, rfl⟩
  have hNo : ∀ k i, k ≠ 39 → N k i = M k i := fun k i w => by rw [hN]; exact y_uk w
  have g0 : ag (fun _ _ => False) (fun _ => False) S S := ⟨fun _ _ _ _ _ => rfl, fun _ _ _ => rfl, fun _ _ => rfl⟩
  have hPN : PA A N S z tx p := h.mono g0 ⟨fun w => w, fun w => w, fun w => w, fun w => w, fun w => w⟩ (fun k i w => hNo k i (by omega))
  obtain ⟨-, -, -, d2⟩ := k_ten (m := n) (by omega)
  unfold F_X4_readOperand_84 F_X2_operand_80
  rw [show n_pDO M 39 (FP.i2d (nI n)) = some (n_pD M 39 (FP.i2d (nI n))) from rfl, y_b, ← hN, y_q h.1]
  have hn39 : n_D N 39 0 = FP.i2d (nI n) := by rw [hN]; unfold n_D n_pD; rw [y_us]; rfl
  rcases s_takes hPN fu (c := 46) (by omega) (by omega) with ⟨t1, t2, t3, t4⟩ | ⟨t1, t2, t3⟩
  · rw [show F_X4_takes fu 46 N = _ from t2, y_cI, if_neg (by decide), show F_X2_takes fu (some (A 1 0)) 46 S = _ from t3, y_cI, if_neg (by decide)]
    have hma := m_among t4 fu (lo := 48) (hi := 57) (by omega) (by omega)
    have hca := c_among t4 fu (lo := 48) (hi := 57) (by omega) (by omega)
    have hpz2 := t4.pz
    have iv := (tA.s (A := A) (S := S) (q := p + 1)).inv hi h.1
    rw [show F_X4_among fu 48 57 (n_p N 4 (nI (p + 1))) = _ from hma, y_cI, y_q t4.1, show F_X2_isAmong fu (some (A 1 0)) 48 57 (sA A S (p + 1)) = _ from hca, y_cI, y_q t4.1]
    by_cases hd' : 48 ≤ ct z tx (p + 1) ∧ ct z tx (p + 1) ≤ 57
    · obtain ⟨hp, hc⟩ := ct_lo (by omega) hd'.1
      obtain ⟨x1, x2, x3⟩ := s_next t4 fu hp
      obtain ⟨dg, hdg⟩ : ∃ dg, tx (p + 1) = 48 + dg := ⟨tx (p + 1) - 48, by omega⟩
      obtain ⟨v, k1, k2⟩ := k_num' hn (show dg < 10 by omega)
      obtain ⟨w, k3, k4, -⟩ := k_ten (m := 10 * n + dg) (by omega)
      have e48 : nI (tx (p + 1)) - 48 = nI dg := by
        have := pk_sub (a := tx (p + 1)) (b := 48) (by omega)
        rw [show tx (p + 1) - 48 = dg by omega] at this
        exact this
      have e10 : (10 : Int32) * nI n + nI (tx (p + 1)) - 48 = nI (10 * n + dg) := by
        rw [show (10 : Int32) * nI n = nI (10 * n) from pk_mul 10 n, nI_add]
        have := pk_sub (a := 10 * n + tx (p + 1)) (b := 48) (by omega)
        rw [show 10 * n + tx (p + 1) - 48 = 10 * n + dg by omega] at this
        exact this
      have ea : am 48 57 (ct z tx (p + 1)) = 1 := if_pos hd'
      have tt : tA A S (sA A (sA A S (p + 1)) (p + 1 + 1)) := tA.s.trans tA.s
      have iv2 := tA.inv tt hi h.1
      obtain ⟨S', y1, y2, y3, y4, y5, y6, y7⟩ := c_newop iv2 (show gs_c S < 600000 by omega) (show gs_k S + 2 ≤ 7301000 by omega) fu w
      rw [ea, m_want1, y_cV, t4.m5, if_pos rfl, x1, y_cI, e10, k3, y_b, c_want1, y_cV, k1, y_b, y_q t4.1, x2, y_cI, e48, k2, y_b, k3, y_b, y1]
      obtain ⟨N2, hN2⟩ : ∃ N2, N2 = n_pD (n_p (n_p N 4 (nI (p + 1))) 4 (nI (p + 1 + 1))) 39 w := ⟨_, rfl⟩
      rw [show n_pDO (n_p (n_p N 4 (nI (p + 1))) 4 (nI (p + 1 + 1))) 39 w = some N2 from by rw [hN2]; rfl, y_b]
      have f2 : ∀ k i, ¬ (k = 4 ∨ k = 39) → N2 k i = M k i := fun k i q => by rw [hN2]; exact (y_uk (by omega)).trans ((y_uk (by omega)).trans ((y_uk (by omega)).trans (hNo k i (by omega))))
      have v38 : n_I N2 38 0 = -1 := by unfold n_I; rw [f2 _ _ (by omega)]; exact h38
      have v39 : n_D N2 39 0 = w := by rw [hN2]; unfold n_D n_pD; rw [y_us]; rfl
      refine Or.inl ⟨N2, _, S', p + 1 + 1, rfl, rfl, x3.mono y3 ⟨fun q => q, fun q => q, fun q => q, fun q => q, fun q => q⟩ (fun k i q => by rw [hN2]; exact y_uk (by omega)), y4, ⟨?_, ?_, b3, b4⟩, by omega, by rw [v38, v39]; exact y2, by rw [v38]; exact Or.inl rfl, by rw [v39]; exact k4, (tt.ag.trans y3).wk (fun F a q => q.elim id (fun q => q.elim)) (fun a q => q.elim id id), y5.trans (by show (sA A (sA A S (p + 1)) (p + 1 + 1)).2.1 = _; rfl), fun k i q => f2 k i (by omega)⟩
      · rw [y6]; show gs_c S + 1 + _ ≤ _; omega
      · rw [y7]; show gs_k S + 2 + _ ≤ _; omega
    · have ea : am 48 57 (ct z tx (p + 1)) = 0 := am1.mpr hd'
      obtain ⟨f1, f2⟩ := s_fail (bc := bc) (bk := bk) t4 iv ⟨by show gs_c S + _ ≤ _; omega, by show gs_k S + _ ≤ _; omega, b3, b4⟩ fu (some (A 1 0))
      rw [ea, m_want0, y_cV, n_ps, if_neg (by decide), f1, y_cVt]
      refine Or.inr ⟨_, _, _, rfl, rfl, f2, ((tA.s (A := A) (S := S) (q := p + 1)).ag.trans (ag.mk iv.2.2.2)).wk (fun F a q => q.elim id (fun q => q.elim)) (fun a q => q.elim id id), rfl, fun k i q => (y_uk (by omega)).trans ((y_uk (by omega)).trans (hNo k i (by omega)))⟩
  · rw [show F_X4_takes fu 46 N = _ from t2, y_cI, if_pos rfl, show F_X2_takes fu (some (A 1 0)) 46 S = _ from t3, y_cI, if_pos rfl]
    obtain ⟨S', y1, y2, y3, y4, y5, y6, y7⟩ := c_newop hi (show gs_c S < 600000 by omega) (show gs_k S + 2 ≤ 7301000 by omega) fu (FP.i2d (nI n))
    rw [y1]
    have v38 : n_I N 38 0 = -1 := by unfold n_I; rw [hNo _ _ (by omega)]; exact h38
    refine Or.inl ⟨N, _, S', p, rfl, rfl, hPN.mono y3 ⟨fun q => q, fun q => q, fun q => q, fun q => q, fun q => q⟩ (fun k i q => rfl), y4, ⟨?_, ?_, b3, b4⟩, by omega, by rw [v38, hn39]; exact y2, by rw [v38]; exact Or.inl rfl, by rw [hn39]; exact d2, y3.wk (fun F a q => q.elim) (fun a q => q), y5, fun k i q => hNo k i (by omega)⟩
    · rw [y6]; omega
    · rw [y7]; omega
end RDC
