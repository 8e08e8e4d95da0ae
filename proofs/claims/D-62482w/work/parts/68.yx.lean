/-! LAYER 2, reading: what an action does -/
set_option maxRecDepth 100000
section RDE
variable {A : gA} {M0 : gM} {z p bc bk : Nat} {tx : Nat → Nat}
theorem g_none {S : gm_S} : ag (fun _ _ => False) (fun _ => False) S S := ⟨fun _ _ _ _ _ => rfl, fun _ _ _ => rfl, fun _ _ => rfl⟩
theorem x_raise {S : gm_S} {o c q : Nat} (h : gs_t S o = 7) (hc : c ≤ 126) (fu : Nat) : F_X7_init fu (some o) (nI c) (nI q) S = some (.returned none, gs_put (gs_put S 700 o 0 (.int (nI c))) 701 o 0 (.int (nI q))) ∧ g_gI (gs_put (gs_put S 700 o 0 (.int (nI c))) 701 o 0 (.int (nI q))) (some o) 7 0 = some (nI c) ∧ g_gI (gs_put (gs_put S 700 o 0 (.int (nI c))) 701 o 0 (.int (nI q))) (some o) 7 1 = some (nI q) ∧ ag (fun F a => (F = 700 ∨ F = 701) ∧ a = o) (fun _ => False) S (gs_put (gs_put S 700 o 0 (.int (nI c))) 701 o 0 (.int (nI q))) := by
  have h1 : gs_t (gs_put S 700 o 0 (.int (nI c))) o = 7 := (y_pt (by decide)).trans h
  refine ⟨?_, ?_, ?_, ?_⟩
  · unfold F_X7_init F_X6_init_7
    rw [y_q h, y_q h, y_cV, y_pC h (y_okC (by omega)), y_b, y_pI h1, y_b]
  · rw [y_gI ((y_pt (by decide)).trans h1), y_pM (by simp), y_pE]; rfl
  · rw [y_gI ((y_pt (by decide)).trans h1), y_pE]; rfl
  · exact ((ag.put (S := S) (F := 700) (a := o) (i := 0) (v := .int (nI c)) (by decide)).trans (ag.put (F := 701) (a := o) (i := 0) (v := .int (nI q)) (by decide))).wk (fun F a w => w.elim (fun w => ⟨Or.inl w.1, w.2⟩) (fun w => ⟨Or.inr w.1, w.2⟩)) (fun a w => w.elim id id)
/-- the model's part of raising -/
def mRa (fu : Nat) (ix : Int32) (M : gM) : gQ := gz_cI (F_X4_takes fu (64 : Int32) M) fun v24 M24 =>
  if v24 = 0 then (some (.returned none, M24))
  else (gz_cI (F_X4_among fu (49 : Int32) (57 : Int32) M24) fun v25 M25 =>
  gz_cV (F_X4_want fu v25 M25) fun M26 =>
  gz_cI (F_X4_next fu  M26) fun v28 M28 =>
  Option.bind (n_sI M28 35 96 ix (v28 - (48 : Int32))) fun M29 =>
  some (.returned none, M29))
theorem s_raising {M : gM} {S : gm_S} (h : PA A M S z tx p) (hi : g_inv M0 S) (hb : PB bc bk S p) (hbc : bc + 1 ≤ 599900) (hbk : bk + 50 ≤ 7300000) (fu : Nat) {c ix : Nat} (hc : c ≤ 126) (hix : ix < 96) (h35 : n_I M 35 ix = 0) :
    (∃ M' o S' p' q, mRa fu (nI ix) M = some (.returned none, M') ∧ F_X2_raising fu (some (A 1 0)) (nI c) S = some (.returned (some (va_rf (some o))), S') ∧ PA A M' S' z tx p' ∧ g_inv M0 S' ∧ PB (bc + 1) (bk + 50) S' p' ∧ p ≤ p' ∧ q ≤ 9 ∧ n_I M' 35 ix = nI q ∧ g_gI S' (some o) 7 0 = some (nI c) ∧ g_gI S' (some o) 7 1 = some (nI q) ∧ ag (eA A) (fun _ => False) S S' ∧ S'.2.1 = S.2.1 ∧ (∀ k i, k ≠ 4 → ¬ (k = 35 ∧ i = ix) → M' k i = M k i)) ∨
    (∃ M' o S', mRa fu (nI ix) M = some (.returned none, M') ∧ F_X2_raising fu (some (A 1 0)) (nI c) S = some (o, S') ∧ PF A M0 bc bk M' o S' ∧ ag (eA A) (fun _ => False) S S' ∧ S'.2.1 = S.2.1 ∧ (∀ k i, k ≠ 4 → k ≠ 5 → ¬ (k = 35 ∧ i = ix) → M' k i = M k i)) := by
  have hpz := h.pz
  obtain ⟨b1, b2, b3, b4⟩ := hb
  unfold mRa F_X2_raising
  rw [y_q h.1]
  rcases s_takes h fu (c := 64) (by omega) (by omega) with ⟨t1, t2, t3, t4⟩ | ⟨t1, t2, t3⟩
  · have hma := m_among t4 fu (lo := 49) (hi := 57) (by omega) (by omega)
    have hca := c_among t4 fu (lo := 49) (hi := 57) (by omega) (by omega)
    have hpz2 := t4.pz
    have ts : tA A S (sA A S (p + 1)) := tA.s
    have iv := ts.inv hi h.1
    rw [show F_X4_takes fu 64 M = _ from t2, y_cI, if_neg (by decide), show F_X2_takes fu (some (A 1 0)) 64 S = _ from t3, y_cI, if_neg (by decide), show F_X4_among fu 49 57 (n_p M 4 (nI (p + 1))) = _ from hma, y_cI, y_q t4.1, show F_X2_isAmong fu (some (A 1 0)) 49 57 (sA A S (p + 1)) = _ from hca, y_cI, y_q t4.1]
    by_cases hd' : 49 ≤ ct z tx (p + 1) ∧ ct z tx (p + 1) ≤ 57
    · have ea : am 49 57 (ct z tx (p + 1)) = 1 := if_pos hd'
      obtain ⟨hp, hcc⟩ := ct_lo (by omega) hd'.1
      have gm := ag.mk (S := sA A S (p + 1)) (t := 7) (w := 2) iv.2.2.2
      have hPm : PA A (n_p M 4 (nI (p + 1))) (g_mk (sA A S (p + 1)) 7 2) z tx (p + 1) := t4.mono gm ⟨fun w => w, fun w => w, fun w => w, fun w => w, fun w => w⟩ (fun _ _ _ => rfl)
      obtain ⟨x1, -, -⟩ := s_next t4 fu hp
      obtain ⟨-, x2, x3⟩ := s_next hPm fu hp
      have ts2 : tA A (g_mk (sA A S (p + 1)) 7 2) (sA A (g_mk (sA A S (p + 1)) 7 2) (p + 1 + 1)) := tA.s
      have to : gs_t (sA A (g_mk (sA A S (p + 1)) 7 2) (p + 1 + 1)) (gs_n (sA A S (p + 1))) = 7 := (ts2.t _).trans y_mkn
      have ivm := ts2.inv iv.mk hPm.1
      obtain ⟨q, hq⟩ : ∃ q, tx (p + 1) = 48 + q := ⟨tx (p + 1) - 48, by omega⟩
      have e48 : nI (tx (p + 1)) - 48 = nI q := by
        have := pk_sub (a := tx (p + 1)) (b := 48) (by omega)
        rw [show tx (p + 1) - 48 = q by omega] at this
        exact this
      obtain ⟨y1, y2, y3, y4⟩ := x_raise (c := c) (q := q) to hc fu
      have hto : gs_t (sA A (g_mk (sA A S (p + 1)) 7 2) (p + 1 + 1)) (gs_n (sA A S (p + 1))) ≠ 0 := by rw [to]; decide
      rw [ea, m_want1, y_cV, x1, y_cI, e48, y_sI hix (by omega), y_b, c_want1, y_cV, y_new (S := sA A S (p + 1)) (show gs_c S < 600096 by omega) (show gs_k S + 2 ≤ 7301386 by omega), y_b]
      dsimp only
      rw [y_q hPm.1, x2, y_cI, e48, y_q to, y1, y_cV]
      have hne : A 1 0 ≠ gs_n (sA A S (p + 1)) := by have := iv.2.2.2 (A 1 0) (by rw [t4.1]; decide); omega
      refine Or.inl ⟨_, _, _, p + 1 + 1, q, rfl, rfl, x3.mono y4 (by simp) (fun k i w => y_uk (by omega)), (ivm.put (by decide) hto).put (by decide) (by rw [y_pt (by decide)]; exact hto), ⟨?_, ?_, by omega, by omega⟩, by omega, by omega, by unfold n_I; rw [y_us]; rfl, y2, y3, ?_, rfl, fun k i w1 w2 => (by
        show n_up (n_p (n_p M 4 (nI (p + 1))) 4 (nI (p + 1 + 1))) 35 ix _ k i = _
        have e1 : n_up (n_p (n_p M 4 (nI (p + 1))) 4 (nI (p + 1 + 1))) 35 ix (.int (nI q)) k i = n_p (n_p M 4 (nI (p + 1))) 4 (nI (p + 1 + 1)) k i := by
          unfold n_up
          rw [if_neg w2]
        rw [e1]
        exact (y_uk w1).trans (y_uk w1))⟩
      · show gs_c S + 1 + _ ≤ _; omega
      · show gs_k S + 2 + _ ≤ _; omega
      · exact (ts.ag.trans (ag.mkt iv.2.2.2 (ts2.ag.trans y4))).wk (fun F a w => w.elim id (fun w => w.1.elim id (fun q => absurd q.2 w.2))) (fun a w => w.elim id (fun w => w.1.elim id id))
    · have ea : am 49 57 (ct z tx (p + 1)) = 0 := am1.mpr hd'
      obtain ⟨f1, f2⟩ := s_fail (bc := bc) (bk := bk) t4 iv ⟨by show gs_c S + _ ≤ _; omega, by show gs_k S + _ ≤ _; omega, b3, b4⟩ fu (some (A 1 0))
      rw [ea, m_want0, y_cV, i_next n_ps, y_cI, y_sI hix (by omega), y_b, f1, y_cVt]
      refine Or.inr ⟨_, _, _, rfl, rfl, f2.m ?_ ?_, (ts.ag.trans (ag.mk iv.2.2.2)).wk (fun F a q => q.elim id (fun q => q.elim)) (fun a q => q.elim id id), rfl, fun k i w1 w2 w3 => ?_⟩
      · unfold n_I; rw [y_uk (by decide)]
      · unfold n_I; rw [y_uk (by decide)]; exact n_ps
      · have e1 : n_up (n_p (n_p M 4 (nI (p + 1))) 5 1) 35 ix (.int (0 - 48)) k i = n_p (n_p M 4 (nI (p + 1))) 5 1 k i := by
          unfold n_up
          rw [if_neg w3]
        rw [e1]
        exact (y_uk w2).trans (y_uk w1)
  · rw [show F_X4_takes fu 64 M = _ from t2, y_cI, if_pos rfl, show F_X2_takes fu (some (A 1 0)) 64 S = _ from t3, y_cI, if_pos rfl, y_new (show gs_c S < 600096 by omega) (show gs_k S + 2 ≤ 7301386 by omega), y_b]
    have gm := ag.mk (S := S) (t := 7) (w := 2) hi.2.2.2
    obtain ⟨y1, y2, y3, y4⟩ := x_raise (S := g_mk S 7 2) (c := c) (q := 0) y_mkn hc fu
    have hto : gs_t (g_mk S 7 2) (gs_n S) ≠ 0 := by rw [y_mkn]; decide
    have hne : A 1 0 ≠ gs_n S := by have := hi.2.2.2 (A 1 0) (by rw [h.1]; decide); omega
    dsimp only
    rw [y_q y_mkn, show F_X7_init fu (some (gs_n S)) (nI c) 0 (g_mk S 7 2) = _ from y1, y_cV]
    refine Or.inl ⟨M, _, _, p, 0, rfl, rfl, (h.mono gm ⟨fun w => w, fun w => w, fun w => w, fun w => w, fun w => w⟩ (fun _ _ _ => rfl)).mono y4 (by simp) (fun _ _ _ => rfl), (hi.mk.put (by decide) hto).put (by decide) (by rw [y_pt (by decide)]; exact hto), ⟨?_, ?_, by omega, by omega⟩, Nat.le_refl _, by omega, h35, y2, y3, (ag.mkt hi.2.2.2 y4).wk (fun F a w => absurd w.1.2 w.2) (fun a w => w.1), rfl, fun _ _ _ _ => rfl⟩
    · show gs_c S + 1 + _ ≤ _; omega
    · show gs_k S + 2 + _ ≤ _; omega
end RDE
