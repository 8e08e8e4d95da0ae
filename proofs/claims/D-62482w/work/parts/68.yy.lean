/-! LAYER 2, reading: assigning -/
set_option maxRecDepth 100000
section RDF
variable {A : gA} {M0 : gM} {z p bc bk : Nat} {tx : Nat → Nat}
/-- the model's part of assigning -/
def mAs (fu : Nat) (ix : Int32) (M : gM) : gQ := gz_cI (F_X4_look fu  M) fun v20 M20 =>
  if v20 = (61 : Int32) then (F_X4_readAction_197 fu ix (1 : Int32) M20)
  else (gz_cI (F_X4_look fu  M20) fun v21 M21 =>
  if v21 = (43 : Int32) then (F_X4_readAction_197 fu ix (1 : Int32) M21)
  else (gz_cI (F_X4_look fu  M21) fun v22 M22 =>
  if v22 = (45 : Int32) then (F_X4_readAction_197 fu ix (1 : Int32) M22)
  else (gz_cI (F_X4_look fu  M22) fun v23 M23 =>
  if v23 = (42 : Int32) then (F_X4_readAction_197 fu ix (1 : Int32) M23)
  else (F_X4_readAction_197 fu ix (0 : Int32) M23))))
def isG (g : Nat) : Prop := g = 42 ∨ g = 43 ∨ g = 45 ∨ g = 61
theorem s_sign {M : gM} {S : gm_S} (h : PA A M S z tx p) (fu : Nat) (ix : Int32) (c : Int32) : ∃ b : Int32, (b = 1 ∧ isG (ct z tx p) ∨ b = 0 ∧ ¬ isG (ct z tx p)) ∧ mAs fu ix M = F_X4_readAction_197 fu ix b M ∧ F_X2_assigning fu (some (A 1 0)) c S = F_X2_assigning_35 fu (some (A 1 0)) c (nI (ct z tx p)) b (some (A 1 0)) S := by
  have hc := ct_le h
  have e : ∀ k : Nat, k ≤ 126 → (nI (ct z tx p) = nI k ↔ ct z tx p = k) := fun k hk => nI_eq (by omega) (by omega)
  unfold mAs F_X2_assigning isG
  rw [m_look h fu, y_cI, y_q h.1, c_look h fu, y_cI]
  by_cases e1 : ct z tx p = 61
  · have : nI (ct z tx p) = (61 : Int32) := (e 61 (by omega)).mpr e1
    rw [if_pos this, if_pos this]
    exact ⟨1, Or.inl ⟨rfl, by omega⟩, rfl, rfl⟩
  · have n1 : ¬ nI (ct z tx p) = (61 : Int32) := fun w => e1 ((e 61 (by omega)).mp w)
    rw [if_neg n1, if_neg n1, m_look h fu, y_cI]
    by_cases e2 : ct z tx p = 43
    · have : nI (ct z tx p) = (43 : Int32) := (e 43 (by omega)).mpr e2
      rw [if_pos this, if_pos this]
      exact ⟨1, Or.inl ⟨rfl, by omega⟩, rfl, rfl⟩
    · have n2 : ¬ nI (ct z tx p) = (43 : Int32) := fun w => e2 ((e 43 (by omega)).mp w)
      rw [if_neg n2, if_neg n2, m_look h fu, y_cI]
      by_cases e3 : ct z tx p = 45
      · have : nI (ct z tx p) = (45 : Int32) := (e 45 (by omega)).mpr e3
        rw [if_pos this, if_pos this]
        exact ⟨1, Or.inl ⟨rfl, by omega⟩, rfl, rfl⟩
      · have n3 : ¬ nI (ct z tx p) = (45 : Int32) := fun w => e3 ((e 45 (by omega)).mp w)
        rw [if_neg n3, if_neg n3, m_look h fu, y_cI]
        by_cases e4 : ct z tx p = 42
        · have : nI (ct z tx p) = (42 : Int32) := (e 42 (by omega)).mpr e4
          rw [if_pos this, if_pos this]
          exact ⟨1, Or.inl ⟨rfl, by omega⟩, rfl, rfl⟩
        · have n4 : ¬ nI (ct z tx p) = (42 : Int32) := fun w => e4 ((e 42 (by omega)).mp w)
          rw [if_neg n4, if_neg n4]
          exact ⟨0, Or.inr ⟨rfl, by omega⟩, rfl, rfl⟩
theorem x_assign {S : gm_S} {o g : Nat} {v : Int32} {op : Nat} (h : gs_t S o = 8) (hg : g ≤ 126) (fu : Nat) : ∃ S', F_X8_init fu (some o) v (nI g) (some op) S = some (.returned none, S') ∧ g_gI S' (some o) 8 0 = some v ∧ g_gI S' (some o) 8 1 = some (nI g) ∧ g_gR S' (some o) 8 2 = some (some op) ∧ ag (fun F a => (F = 800 ∨ F = 801 ∨ F = 802) ∧ a = o) (fun _ => False) S S' ∧ S'.2 = S.2 ∧ (g_inv M0 S → g_inv M0 S') := by
  have h0 : gs_t S o ≠ 0 := by rw [h]; decide
  have h1 : gs_t (gs_put S 800 o 0 (.int v)) o = 8 := (y_pt (by decide)).trans h
  have h2 : gs_t (gs_put (gs_put S 800 o 0 (.int v)) 801 o 0 (.int (nI g))) o = 8 := (y_pt (by decide)).trans h1
  refine ⟨gs_put (gs_put (gs_put S 800 o 0 (.int v)) 801 o 0 (.int (nI g))) 802 o 0 (va_rf (some op)), ?_, ?_, ?_, ?_, ?_, rfl, fun w => ((w.put (by decide) h0).put (by decide) (by rw [h1]; decide)).put (by decide) (by rw [h2]; decide)⟩
  · unfold F_X8_init F_X6_init_8
    rw [y_q h, y_q h, y_cV, y_pI h, y_b, y_pC h1 (y_okC (by omega)), y_b, y_pR h2, y_b]
  · rw [y_gI ((y_pt (by decide)).trans h2), y_pM (by simp), y_pM (by simp), y_pE]; rfl
  · rw [y_gI ((y_pt (by decide)).trans h2), y_pM (by simp), y_pE]; rfl
  · rw [y_gR ((y_pt (by decide)).trans h2), y_pE]; rfl
  · exact (((ag.put (S := S) (F := 800) (a := o) (i := 0) (v := .int v) (by decide)).trans (ag.put (F := 801) (a := o) (i := 0) (v := .int (nI g)) (by decide))).trans (ag.put (F := 802) (a := o) (i := 0) (v := va_rf (some op)) (by decide))).wk (fun F a w => by rcases w with (w | w) | w; exact ⟨Or.inl w.1, w.2⟩; exact ⟨Or.inr (Or.inl w.1), w.2⟩; exact ⟨Or.inr (Or.inr w.1), w.2⟩) (fun a w => by rcases w with (w | w) | w <;> exact w)
theorem n_upo {M : gM} {k i k' i' : Nat} {v : Value} (h : ¬ (k' = k ∧ i' = i)) : n_up M k i v k' i' = M k' i' := by unfold n_up; rw [if_neg h]
theorem s_assigning {M : gM} {S : gm_S} (h : PA A M S z tx p) (hi : g_inv M0 S) (hb : PB bc bk S p) {fu : Nat} (hf : 100 ≤ fu) {ix : Nat} (c : Int32) (hix : ix < 96) :
    (∃ M' o S' p' g op, mAs fu (nI ix) M = some (.returned none, M') ∧ F_X2_assigning fu (some (A 1 0)) c S = some (.returned (some (va_rf (some o))), S') ∧ PA A M' S' z tx p' ∧ g_inv M0 S' ∧ PB bc bk S' p' ∧ p < p' ∧ isG g ∧ n_I M' 35 ix = nI g ∧ o_ok (n_I M' 36 ix) ∧ d_ok (n_D M' 37 ix) ∧ g_gI S' (some o) 8 0 = some (c - 117) ∧ g_gI S' (some o) 8 1 = some (nI g) ∧ g_gR S' (some o) 8 2 = some (some op) ∧ h_op S' op (n_I M' 36 ix) (n_D M' 37 ix) ∧ ag (eA A) (fun _ => False) S S' ∧ S'.2.1 = S.2.1 ∧ (∀ k i, ¬ (k = 4 ∨ k = 38 ∨ k = 39) → ¬ ((k = 35 ∨ k = 36 ∨ k = 37) ∧ i = ix) → M' k i = M k i)) ∨
    (∃ M' o S', mAs fu (nI ix) M = some (.returned none, M') ∧ F_X2_assigning fu (some (A 1 0)) c S = some (o, S') ∧ PF A M0 bc bk M' o S' ∧ ag (eA A) (fun _ => False) S S' ∧ S'.2.1 = S.2.1 ∧ (∀ k i, ¬ (k = 4 ∨ k = 5 ∨ k = 38 ∨ k = 39) → ¬ ((k = 35 ∨ k = 36 ∨ k = 37) ∧ i = ix) → M' k i = M k i)) := by
  have hpz := h.pz
  have hct := ct_le h
  obtain ⟨b, hbb, e1, e2⟩ := s_sign h fu (nI ix) c
  rw [e1, e2]
  unfold F_X4_readAction_197 F_X2_assigning_35
  rw [y_q h.1]
  rcases hbb with ⟨rfl, hg⟩ | ⟨rfl, hg⟩
  · have hgp : 0 < ct z tx p := by unfold isG at hg; omega
    obtain ⟨hp, hcc⟩ := ct_lo (z := z) (tx := tx) (p := p) (c := 1) (by omega) (by omega)
    obtain ⟨x1, -, x3⟩ := s_next h fu hp
    obtain ⟨b1, b2, b3, b4⟩ := hb
    have ts : tA A S (sA A S (p + 1)) := tA.s
    have iv := ts.inv hi h.1
    have gm := ag.mk (S := sA A S (p + 1)) (t := 8) (w := 3) iv.2.2.2
    obtain ⟨M4, hM4⟩ : ∃ M4, M4 = n_up (n_p M 4 (nI (p + 1))) 35 ix (.int (nI (tx p))) := ⟨_, rfl⟩
    have hPm : PA A M4 (g_mk (sA A S (p + 1)) 8 3) z tx (p + 1) := x3.mono gm ⟨fun w => w, fun w => w, fun w => w, fun w => w, fun w => w⟩ (fun k i w => by rw [hM4]; exact y_uk (by omega))
    have hbm : PB bc bk (g_mk (sA A S (p + 1)) 8 3) (p + 1) := ⟨by show gs_c S + 1 + _ ≤ _; omega, by show gs_k S + 3 + _ ≤ _; omega, b3, b4⟩
    rw [m_want1, y_cV, x1, y_cI, y_sI hix (by omega), y_b, ← hM4, c_want1, y_cV, h.at', y_b, nI_1, y_pI h.1, y_b]
    rw [show gs_put S (100 * 2 + 2) (A 1 0) 0 (.int (nI (p + 1))) = sA A S (p + 1) from rfl, y_new (S := sA A S (p + 1)) (show gs_c S < 600096 by omega) (show gs_k S + 3 ≤ 7301386 by omega), y_b]
    dsimp only
    rw [y_q hPm.1]
    have f4 : ∀ k i, k ≠ 4 → ¬ (k = 35 ∧ i = ix) → M4 k i = M k i := fun k i w w' => by rw [hM4]; exact (n_upo w').trans (y_uk w)
    rcases s_operand hPm iv.mk hbm (fu := fu) hf with ⟨M5, op, S5, p', y1, y2, y3⟩ | ⟨M5, o, S5, y1, y2, y3⟩
    · obtain ⟨f1, f2, f3, f4', f5, f6, f7, f8, f9, f10⟩ := y3
      have to : gs_t S5 (gs_n (sA A S (p + 1))) = 8 := (f8.2.2 _ (by rw [y_mkn]; decide)).trans y_mkn
      obtain ⟨S6, a1, a2, a3, a4, a5, a6, a7⟩ := x_assign (M0 := M0) (v := c - 117) (g := ct z tx p) (op := op) to hct fu
      have hne : A 1 0 ≠ gs_n (sA A S (p + 1)) := by have := iv.2.2.2 (A 1 0) (by rw [(ts.t _)]; rw [h.1]; decide); omega
      rw [y1, y_cV, y_sI hix (by omega), y_b, y2, gz_cR_rf, y_q to, a1, y_cV]
      obtain ⟨M8, hM8⟩ : ∃ M8, M8 = n_up M5 36 ix (.int (n_I M5 38 0)) := ⟨_, rfl⟩
      have r39 : n_D M8 39 0 = n_D M5 39 0 := by rw [hM8]; unfold n_D; rw [y_uk (by decide)]
      rw [← hM8, y_sD hix (by omega), y_b, r39]
      have v35 : n_I (n_up M8 37 ix (.double (n_D M5 39 0))) 35 ix = nI (ct z tx p) := by
        unfold n_I
        rw [y_uk (by decide), hM8, y_uk (by decide), f10 _ _ (by omega), hM4, y_us, hcc]
        rfl
      have v36 : n_I (n_up M8 37 ix (.double (n_D M5 39 0))) 36 ix = n_I M5 38 0 := by
        show gm_I (n_up M8 37 ix _ 36 ix) = _
        rw [y_uk (by decide), hM8, y_us]; rfl
      have v37 : n_D (n_up M8 37 ix (.double (n_D M5 39 0))) 37 ix = n_D M5 39 0 := by
        show gm_D (n_up M8 37 ix _ 37 ix) = _
        rw [y_us]; rfl
      have hop6 : h_op S6 op (n_I M5 38 0) (n_D M5 39 0) := by
        refine ⟨a5.gI f5.1 (by decide) (by simp), ?_⟩
        obtain ⟨q, eq, tq, vq⟩ := y_gDt f5.2
        cases eq
        have hop : op ≠ gs_n (sA A S (p + 1)) := fun w => by rw [w, to] at tq; cases tq
        rw [y_gD ((a5.2.2 op (by rw [tq]; decide)).trans tq), a5.1 _ _ _ (by rw [tq]; decide) (by simp [hop]), vq]
      refine Or.inl ⟨_, _, S6, p', ct z tx p, op, rfl, rfl, f1.mono a5 (by simp) (fun k i w => (y_uk (by omega)).trans (by rw [hM8]; exact y_uk (by omega))), a7 f2, ?_, by omega, hg, v35, by rw [v36]; exact f6, by rw [v37]; exact f7, a2, a3, a4, by rw [v36, v37]; exact hop6, ?_, ?_, fun k i w w' => ?_⟩
      · unfold PB gs_c gs_k at f3 ⊢; rw [a6]; exact f3
      · exact (ts.ag.trans (ag.mkt iv.2.2.2 (f8.trans a5))).wk (fun F a w => w.elim id (fun w => w.1.elim id (fun q => absurd q.2 w.2))) (fun a w => w.elim id (fun w => w.1.elim id id))
      · rw [a6, f9]; rfl
      · rw [n_upo (by omega), hM8, n_upo (by omega), f10 k i w, f4 k i (by omega) (by omega)]
    · obtain ⟨f1, f2, f3, f5⟩ := y3
      rw [y1, y_cV, y_sI hix (by omega), y_b, y_sD hix (by omega), y_b, y2]
      obtain ⟨a, p', g1, g2⟩ := f1
      refine Or.inr ⟨_, o, S5, rfl, by rw [g1]; rfl, PF.m ⟨a, p', g1, g2⟩ ?_ ?_, (ts.ag.trans (ag.mkt iv.2.2.2 f2)).wk (fun F a w => w.elim id (fun w => w.1)) (fun a w => w.elim id (fun w => w.1)), f3, fun k i w w' => ?_⟩
      · unfold n_I; rw [y_uk (by decide), y_uk (by decide)]
      · unfold n_I; rw [y_uk (by decide), y_uk (by decide)]; exact g2.2.2.2.1
      · rw [n_upo (by omega), n_upo (by omega), f5 k i w, f4 k i (by omega) (by omega)]
  · obtain ⟨f1, f2⟩ := s_fail (bc := bc) (bk := bk) h hi hb fu (some (A 1 0))
    have i5 : n_I (n_up (n_p M 5 1) 35 ix (.int 0)) 5 0 = 1 := by unfold n_I; rw [y_uk (by decide)]; exact n_ps
    obtain ⟨M5, y1, y2, y3⟩ := i_operand i5 (fu := fu) hf
    rw [m_want0, y_cV, i_next n_ps, y_cI, y_sI hix (by omega), y_b, y1, y_cV, y_sI hix (by omega), y_b, y_sD hix (by omega), y_b, f1, y_cVt]
    refine Or.inr ⟨_, _, _, rfl, rfl, f2.m ?_ ?_, (ag.mk hi.2.2.2).wk (fun F a w => w.elim) (fun a w => w), rfl, fun k i w w' => ?_⟩
    · unfold n_I; rw [y_uk (by decide), y_uk (by decide), y3 _ _ (by omega), y_uk (by decide)]
    · unfold n_I; rw [y_uk (by decide), y_uk (by decide)]; exact y2
    · rw [n_upo (by omega), n_upo (by omega), y3 k i (by omega), n_upo (by omega)]; exact y_uk (by omega)
end RDF
