/-! LAYER 2, reading: operands, whole -/
set_option maxRecDepth 100000
section RDD
variable {A : gA} {M0 : gM} {z p bc bk : Nat} {tx : Nat → Nat}
theorem s_operand {M : gM} {S : gm_S} (h : PA A M S z tx p) (hi : g_inv M0 S) (hb : PB bc bk S p) {fu : Nat} (hf : 100 ≤ fu) :
    (∃ M' o S' p', F_X4_readOperand fu M = some (.returned none, M') ∧ F_X2_operand fu (some (A 1 0)) S = some (.returned (some (va_rf (some o))), S') ∧ oS A M0 z tx bc bk S p M M' o S' p') ∨ (∃ M' o S', F_X4_readOperand fu M = some (.returned none, M') ∧ F_X2_operand fu (some (A 1 0)) S = some (o, S') ∧ oF A M0 bc bk S M M' o S') := by
  have hpz := h.pz
  obtain ⟨N, hN⟩ : ∃ N, N = n_pD (n_p M 38 (-1)) 39 FP.dconst0 := ⟨_, rfl⟩
  have hNo : ∀ k i, k ≠ 38 → k ≠ 39 → N k i = M k i := fun k i w w' => by rw [hN]; exact (y_uk w').trans (y_uk w)
  have g0 : ag (fun _ _ => False) (fun _ => False) S S := ⟨fun _ _ _ _ _ => rfl, fun _ _ _ => rfl, fun _ _ => rfl⟩
  have hPN : PA A N S z tx p := h.mono g0 ⟨fun w => w, fun w => w, fun w => w, fun w => w, fun w => w⟩ (fun k i w => hNo k i (by omega) (by omega))
  have n38 : n_I N 38 0 = -1 := by rw [hN]; unfold n_I n_pD; rw [y_uk (by decide)]; exact n_ps
  have n39 : n_D N 39 0 = FP.dconst0 := by rw [hN]; unfold n_D n_pD; rw [y_us]; rfl
  have hma := m_among hPN fu (lo := 117) (hi := 122) (by omega) (by omega)
  have hca := c_among hPN fu (lo := 117) (hi := 122) (by omega) (by omega)
  unfold F_X4_readOperand F_X2_operand
  rw [show n_pIO M 38 (-1) = some (n_p M 38 (-1)) from rfl, y_b, show n_pDO (n_p M 38 (-1)) 39 FP.dconst0 = some (n_pD (n_p M 38 (-1)) 39 FP.dconst0) from rfl, y_b, ← hN, show F_X4_among fu 117 122 N = _ from hma, y_cI, y_q h.1, show F_X2_isAmong fu (some (A 1 0)) 117 122 S = _ from hca, y_cI]
  by_cases hu : 117 ≤ ct z tx p ∧ ct z tx p ≤ 122
  · have ne : ¬ am 117 122 (ct z tx p) = 0 := fun w => am1.mp w hu
    obtain ⟨hp, hc⟩ := ct_lo (by omega) hu.1
    obtain ⟨b1, b2, b3, b4⟩ := hb
    have gm := ag.mk (S := S) (t := 9) (w := 2) hi.2.2.2
    have hPm : PA A N (g_mk S 9 2) z tx p := hPN.mono gm ⟨fun w => w, fun w => w, fun w => w, fun w => w, fun w => w⟩ (fun _ _ _ => rfl)
    obtain ⟨x1, -, -⟩ := s_next hPN fu hp
    obtain ⟨-, x2, x3⟩ := s_next hPm fu hp
    have ts : tA A (g_mk S 9 2) (sA A (g_mk S 9 2) (p + 1)) := tA.s
    have to : gs_t (sA A (g_mk S 9 2) (p + 1)) (gs_n S) = 9 := (ts.t _).trans y_mkn
    have ivm := ts.inv hi.mk hPm.1
    obtain ⟨v, hv⟩ : ∃ v, tx p = 117 + v := ⟨tx p - 117, by omega⟩
    have e117 : nI (tx p) - 117 = nI v := by
      have := pk_sub (a := tx p) (b := 117) (by omega)
      rw [show tx p - 117 = v by omega] at this
      exact this
    obtain ⟨y1, y2, y3⟩ := x_op to fu (nI v) FP.dconst0
    rw [if_neg ne, if_neg ne, x1, y_cI, e117, y_new (by omega) (by omega), y_b]
    show (∃ M' o S' p', _ ∧ gz_q (g_at (g_mk S 9 2) (some (A 1 0)) 2) (gz_cI (F_X2_next fu (some (A 1 0)) (g_mk S 9 2)) _) = _ ∧ _) ∨ (∃ M' o S', _ ∧ gz_q (g_at (g_mk S 9 2) (some (A 1 0)) 2) (gz_cI (F_X2_next fu (some (A 1 0)) (g_mk S 9 2)) _) = _ ∧ _)
    rw [y_q hPm.1, x2, y_cI, e117]
    show (∃ M' o S' p', _ ∧ gz_q (g_at (sA A (g_mk S 9 2) (p + 1)) (some (gs_n S)) 9) (gz_cV (F_X9_init fu (some (gs_n S)) (nI v) FP.dconst0 (sA A (g_mk S 9 2) (p + 1))) _) = _ ∧ _) ∨ (∃ M' o S', _ ∧ gz_q (g_at (sA A (g_mk S 9 2) (p + 1)) (some (gs_n S)) 9) (gz_cV (F_X9_init fu (some (gs_n S)) (nI v) FP.dconst0 (sA A (g_mk S 9 2) (p + 1))) _) = _ ∧ _)
    rw [y_q to, y1, y_cV]
    obtain ⟨N2, hN2⟩ : ∃ N2, N2 = n_p (n_p N 4 (nI (p + 1))) 38 (nI v) := ⟨_, rfl⟩
    rw [show n_pIO (n_p N 4 (nI (p + 1))) 38 (nI v) = some N2 from by rw [hN2]; rfl, y_b]
    have v38 : n_I N2 38 0 = nI v := by rw [hN2]; exact n_ps
    have v39 : n_D N2 39 0 = FP.dconst0 := by rw [hN2]; unfold n_D; rw [show n_p (n_p N 4 (nI (p + 1))) 38 (nI v) 39 0 = N 39 0 from (y_uk (by decide)).trans (y_uk (by decide))]; exact n39
    have hto : gs_t (sA A (g_mk S 9 2) (p + 1)) (gs_n S) ≠ 0 := by rw [to]; decide
    have hne : A 1 0 ≠ gs_n S := by have := hi.2.2.2 (A 1 0) (by rw [h.1]; decide); omega
    have hne4 : A 34 0 ≠ gs_n S := by have := hi.2.2.2 (A 34 0) (by rw [h.2.2.1]; decide); omega
    refine Or.inl ⟨N2, gs_n S, _, p + 1, rfl, rfl, x3.mono y3 (by simp) (fun k i w => by rw [hN2]; exact y_uk (by omega)), (ivm.put (by decide) hto).put (by decide) (by rw [y_pt (by decide)]; exact hto), ⟨?_, ?_, b3, b4⟩, by omega, by rw [v38, v39]; exact y2, by rw [v38]; exact Or.inr ⟨v, by omega, rfl⟩, by rw [v39]; exact d_c0, ?_, rfl, fun k i w => ?_⟩
    · show gs_c S + 1 + _ ≤ _; omega
    · show gs_k S + 2 + _ ≤ _; omega
    · exact (ag.mkt hi.2.2.2 (ts.ag.trans y3)).wk (fun F a w => w.1.elim id (fun q => absurd q.2 w.2)) (fun a w => w.1.elim id id)
    · rw [hN2]; exact (y_uk (by omega)).trans ((y_uk (by omega)).trans (hNo k i (by omega) (by omega)))
  · have e0 : am 117 122 (ct z tx p) = 0 := am1.mpr hu
    have hma2 := m_among hPN fu (lo := 48) (hi := 57) (by omega) (by omega)
    have hca2 := c_among hPN fu (lo := 48) (hi := 57) (by omega) (by omega)
    rw [if_pos e0, if_pos e0, show F_X4_among fu 48 57 N = _ from hma2, y_cI, y_q h.1, show F_X2_isAmong fu (some (A 1 0)) 48 57 S = _ from hca2, y_cI, y_q h.1]
    by_cases hd' : 48 ≤ ct z tx p ∧ ct z tx p ≤ 57
    · have ea : am 48 57 (ct z tx p) = 1 := if_pos hd'
      rw [ea, m_want1, y_cV, c_want1, y_cV]
      obtain ⟨n', p', M1, S1, w0, w1, w2, w3, w4, w5, w6, w7⟩ := s_digits (M0 := M0) (fu := fu) 3 0 0 p N S fu fu (by omega) (by omega) (by omega) (by omega) (by decide) hPN hi
      have hlt := w7 (by omega) hd'
      have iv := w5.inv hi h.1
      have m38 : n_I M1 38 0 = -1 := by unfold n_I; rw [w6 _ _ (by decide)]; exact n38
      rw [show F_X4_readOperand_49 fu fu 0 0 N = _ from w2, ← k_zero, show F_X2_operand_43 fu fu (some (A 1 0)) (FP.i2d (nI 0)) 0 S = _ from w3]
      rcases s_op80 w4 iv (w5.b hb (q := p' - 1) (by omega)) (by omega) m38 (fu := fu) w1 with ⟨M', o, S', q', e1, e2, e3⟩ | ⟨M', o, S', e1, e2, e3⟩
      · obtain ⟨f1, f2, f3, f4, f5, f6, f7, f8, f9, f10⟩ := e3
        exact Or.inl ⟨M', o, S', q', e1, e2, f1, f2, f3, by omega, f5, f6, f7, (w5.ag.trans f8).wk (fun F a w => w.elim id id) (fun a w => w.elim id id), f9.trans (by rw [w5.2]), fun k i w => (f10 k i w).trans ((w6 k i (by omega)).trans (hNo k i (by omega) (by omega)))⟩
      · obtain ⟨f1, f2, f3, f4⟩ := e3
        exact Or.inr ⟨M', o, S', e1, e2, f1, (w5.ag.trans f2).wk (fun F a w => w.elim id id) (fun a w => w.elim id id), f3.trans (by rw [w5.2]), fun k i w => (f4 k i w).trans ((w6 k i (by omega)).trans (hNo k i (by omega) (by omega)))⟩
    · have ea : am 48 57 (ct z tx p) = 0 := am1.mpr hd'
      obtain ⟨f1, f2⟩ := s_fail (bc := bc) (bk := bk) hPN hi hb fu (some (A 1 0))
      obtain ⟨f, rfl⟩ : ∃ f, fu = f + 1 := ⟨fu - 1, by omega⟩
      rw [ea, m_want0, y_cV, f1, y_cVt, i_op49 (n_ps)]
      refine Or.inr ⟨_, _, _, rfl, rfl, f2.m ?_ ?_, (ag.mk hi.2.2.2).wk (fun F a w => w.elim) (fun a w => w), rfl, fun k i w => (y_uk (by omega)).trans ((y_uk (by omega)).trans (hNo k i (by omega) (by omega)))⟩
      · unfold n_I n_pD; rw [y_uk (by decide)]
      · unfold n_I n_pD; rw [y_uk (by decide)]; exact n_ps
end RDD
