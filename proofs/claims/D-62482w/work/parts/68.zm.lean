/-! LAYER 2, reading: one test -/
set_option maxRecDepth 100000
section RDS
variable {A : gA} {M0 : gM} {z p bc bk : Nat} {tx : Nat → Nat}
theorem m_154 {M : gM} {w : Nat} (h8 : n_I M 8 0 = nI w) (hw : w < 2) (fu : Nat) : F_X4_readTest_154 fu M = some (.returned none, n_up M 11 w (.int (n_I M 11 w + 1))) := by
  unfold F_X4_readTest_154
  rw [h8, y_aI (by omega) (by omega), y_b, y_sI (by omega) (by omega), y_b]
/-- no sign: the model goes on, ill -/
theorem i_117 {M : gM} {w ix : Nat} (h8 : n_I M 8 0 = nI w) (hw : w < 2) (hix : ix < 128) {fu : Nat} (hf : 100 ≤ fu) : ∃ M', F_X4_readTest_117 fu (nI ix) 0 M = some (.returned none, M') ∧ n_I M' 5 0 = 1 ∧ ∀ k i, ¬ (k = 5 ∨ k = 38 ∨ k = 39 ∨ (k = 11 ∧ i = w) ∨ ((k = 28 ∨ k = 30 ∨ k = 32) ∧ i = ix)) → M' k i = M k i := by
  have i5 : n_I (n_up (n_p M 5 1) 28 ix (.int 0)) 5 0 = 1 := by unfold n_I; rw [y_uk (by decide)]; exact n_ps
  obtain ⟨M5, y1, y2, y3⟩ := i_operand i5 (fu := fu) hf
  have h8' : n_I (n_up (n_up M5 30 ix (.int (n_I M5 38 0))) 32 ix (.double (n_D (n_up M5 30 ix (.int (n_I M5 38 0))) 39 0))) 8 0 = nI w := by
    unfold n_I
    rw [y_uk (by decide), y_uk (by decide), y3 _ _ (by omega), y_uk (by decide)]
    exact (n_po (by decide)).trans h8
  unfold F_X4_readTest_117
  rw [m_want0, y_cV, i_next n_ps, y_cI, y_sI hix (by omega), y_b, y1, y_cV, y_sI hix (by omega), y_b, y_sD hix (by omega), y_b, m_154 h8' hw]
  refine ⟨_, rfl, ?_, fun k i q => ?_⟩
  · unfold n_I; rw [y_uk (by decide), y_uk (by decide), y_uk (by decide)]; exact y2
  · rw [n_upo (by omega), n_upo (by omega), n_upo (by omega), y3 k i (by omega), n_upo (by omega)]; exact y_uk (by omega)
def isC (g : Nat) : Prop := g = 60 ∨ g = 61 ∨ g = 62
/-- the two chains of signs -/
def mCm (fu : Nat) (ix : Int32) (M : gM) : gQ := gz_cI (F_X4_look fu  M) fun v18 M18 =>
  if v18 = (60 : Int32) then (F_X4_readTest_117 fu ix (1 : Int32) M18)
  else (gz_cI (F_X4_look fu  M18) fun v19 M19 =>
  if v19 = (61 : Int32) then (F_X4_readTest_117 fu ix (1 : Int32) M19)
  else (gz_cI (F_X4_look fu  M19) fun v20 M20 =>
  if v20 = (62 : Int32) then (F_X4_readTest_117 fu ix (1 : Int32) M20)
  else (F_X4_readTest_117 fu ix (0 : Int32) M20)))
def cCm (fu : Nat) (x0 : Option Nat) (v1 : Int32) (v3 : Option Nat) (S3 : gm_S) : gR := gz_q (g_at S3 x0 2) (gz_cI (F_X2_look fu x0 S3) fun v4 S4 =>
  if v4 = (60 : Int32) then (F_X2_test_112 fu x0 v1 v3 (1 : Int32) x0 S4)
  else (gz_q (g_at S4 x0 2) (gz_cI (F_X2_look fu x0 S4) fun v5 S5 =>
  if v5 = (61 : Int32) then (F_X2_test_112 fu x0 v1 v3 (1 : Int32) x0 S5)
  else (gz_q (g_at S5 x0 2) (gz_cI (F_X2_look fu x0 S5) fun v6 S6 =>
  if v6 = (62 : Int32) then (F_X2_test_112 fu x0 v1 v3 (1 : Int32) x0 S6)
  else (F_X2_test_112 fu x0 v1 v3 (0 : Int32) x0 S6))))))
theorem s_cmp {M : gM} {S : gm_S} (h : PA A M S z tx p) (fu : Nat) (ix : Int32) (v1 : Int32) (v3 : Option Nat) : ∃ b : Int32, (b = 1 ∧ isC (ct z tx p) ∨ b = 0 ∧ ¬ isC (ct z tx p)) ∧ mCm fu ix M = F_X4_readTest_117 fu ix b M ∧ cCm fu (some (A 1 0)) v1 v3 S = F_X2_test_112 fu (some (A 1 0)) v1 v3 b (some (A 1 0)) S := by
  have hc := ct_le h
  have e : ∀ k : Nat, k ≤ 126 → (nI (ct z tx p) = nI k ↔ ct z tx p = k) := fun k hk => nI_eq (by omega) (by omega)
  unfold mCm cCm isC
  rw [m_look h fu, y_cI, y_q h.1, c_look h fu, y_cI]
  by_cases e1 : ct z tx p = 60
  · have : nI (ct z tx p) = (60 : Int32) := (e 60 (by omega)).mpr e1
    rw [if_pos this, if_pos this]
    exact ⟨1, Or.inl ⟨rfl, by omega⟩, rfl, rfl⟩
  · have n1 : ¬ nI (ct z tx p) = (60 : Int32) := fun w => e1 ((e 60 (by omega)).mp w)
    rw [if_neg n1, if_neg n1, m_look h fu, y_cI, y_q h.1, c_look h fu, y_cI]
    by_cases e2 : ct z tx p = 61
    · have : nI (ct z tx p) = (61 : Int32) := (e 61 (by omega)).mpr e2
      rw [if_pos this, if_pos this]
      exact ⟨1, Or.inl ⟨rfl, by omega⟩, rfl, rfl⟩
    · have n2 : ¬ nI (ct z tx p) = (61 : Int32) := fun w => e2 ((e 61 (by omega)).mp w)
      rw [if_neg n2, if_neg n2, m_look h fu, y_cI, y_q h.1, c_look h fu, y_cI]
      by_cases e3 : ct z tx p = 62
      · have : nI (ct z tx p) = (62 : Int32) := (e 62 (by omega)).mpr e3
        rw [if_pos this, if_pos this]
        exact ⟨1, Or.inl ⟨rfl, by omega⟩, rfl, rfl⟩
      · have n3 : ¬ nI (ct z tx p) = (62 : Int32) := fun w => e3 ((e 62 (by omega)).mp w)
        rw [if_neg n3, if_neg n3]
        exact ⟨0, Or.inr ⟨rfl, by omega⟩, rfl, rfl⟩
theorem i_cmp {M : gM} (h : n_I M 5 0 = 1) (fu : Nat) (ix : Int32) : mCm fu ix M = F_X4_readTest_117 fu ix 0 M := by
  unfold mCm
  rw [i_look h fu, y_cI, if_neg (by decide), i_look h fu, y_cI, if_neg (by decide), i_look h fu, y_cI, if_neg (by decide)]
/-- from the sign on -/
theorem s_cmp2 {M : gM} {S : gm_S} (h : PA A M S z tx p) (hi : g_inv M0 S) (hb : PB bc bk S p) {w ix : Nat} (h8 : n_I M 8 0 = nI w) (hw : w < 2) (hix : ix < 128) {fu : Nat} (hf : 100 ≤ fu) {v1 : Int32} (hv : g_okZ v1 = true) {o1 : Nat} (h1 : gs_t S o1 = 9) :
    (∃ M' y o2 S' p' g, mCm fu (nI ix) M = some (.returned none, M') ∧ cCm fu (some (A 1 0)) v1 (some o1) S = some (.returned (some (va_rf (some y))), S') ∧ PA A M' S' z tx p' ∧ g_inv M0 S' ∧ PB bc bk S' p' ∧ p + 1 < p' ∧ n_I M' 28 ix = nI g ∧ o_ok (n_I M' 30 ix) ∧ g_gI S' (some y) 14 0 = some v1 ∧ g_gR S' (some y) 14 1 = some (some o1) ∧ g_gR S' (some y) 14 2 = some (some o2) ∧ g_gI S' (some y) 14 3 = some (nI g) ∧ h_op S' o2 (n_I M' 30 ix) (n_D M' 32 ix) ∧ ag (eA A) (fun _ => False) S S' ∧ S'.2.1 = S.2.1 ∧ n_I M' 11 w = n_I M 11 w + 1 ∧ (∀ k i, ¬ (k = 4 ∨ k = 38 ∨ k = 39 ∨ (k = 11 ∧ i = w) ∨ ((k = 28 ∨ k = 30 ∨ k = 32) ∧ i = ix)) → M' k i = M k i)) ∨
    (∃ M' o S', mCm fu (nI ix) M = some (.returned none, M') ∧ cCm fu (some (A 1 0)) v1 (some o1) S = some (o, S') ∧ PF A M0 bc bk M' o S' ∧ ag (eA A) (fun _ => False) S S' ∧ S'.2.1 = S.2.1 ∧ (∀ k i, ¬ (k = 4 ∨ k = 5 ∨ k = 38 ∨ k = 39 ∨ (k = 11 ∧ i = w) ∨ ((k = 28 ∨ k = 30 ∨ k = 32) ∧ i = ix)) → M' k i = M k i)) := by
  have hpz := h.pz
  have hct := ct_le h
  obtain ⟨b, hbb, e1, e2⟩ := s_cmp h fu (nI ix) v1 (some o1)
  rw [e1, e2]
  rcases hbb with ⟨rfl, hg⟩ | ⟨rfl, hg⟩
  · unfold F_X4_readTest_117 F_X2_test_112
    rw [y_q h.1]
    have hgp : 0 < ct z tx p := by unfold isC at hg; omega
    obtain ⟨hp, hcc⟩ := ct_lo (z := z) (tx := tx) (p := p) (c := 1) (by omega) (by omega)
    obtain ⟨x1, x2, x3⟩ := s_next h fu hp
    obtain ⟨b1, b2, b3, b4⟩ := hb
    have ts : tA A S (sA A S (p + 1)) := tA.s
    have iv := ts.inv hi h.1
    have gm := ag.mk (S := sA A S (p + 1)) (t := 14) (w := 4) iv.2.2.2
    obtain ⟨M4, hM4⟩ : ∃ M4, M4 = n_up (n_p M 4 (nI (p + 1))) 28 ix (.int (nI (tx p))) := ⟨_, rfl⟩
    have hPm : PA A M4 (g_mk (sA A S (p + 1)) 14 4) z tx (p + 1) := x3.mono gm ⟨fun w => w, fun w => w, fun w => w, fun w => w, fun w => w⟩ (fun k i w => by rw [hM4]; exact y_uk (by omega))
    have hbm : PB bc bk (g_mk (sA A S (p + 1)) 14 4) (p + 1) := ⟨by show gs_c S + 1 + _ ≤ _; omega, by show gs_k S + 4 + _ ≤ _; omega, b3, b4⟩
    have f4 : ∀ k i, k ≠ 4 → ¬ (k = 28 ∧ i = ix) → M4 k i = M k i := fun k i w w' => by rw [hM4]; exact (n_upo w').trans (y_uk w)
    rw [m_want1, y_cV, x1, y_cI, y_sI hix (by omega), y_b, ← hM4, c_want1, y_cV, y_q h.1, x2, y_cI, y_new (S := sA A S (p + 1)) (show gs_c S < 600096 by omega) (show gs_k S + 4 ≤ 7301386 by omega), y_b]
    dsimp only
    rw [y_q hPm.1]
    rcases s_operand hPm iv.mk hbm (fu := fu) hf with ⟨M5, op, S5, p', y1, y2, y3⟩ | ⟨M5, o, S5, y1, y2, y3⟩
    · obtain ⟨f1, f2, f3, f4', f5, f6, f7, f8, f9, f10⟩ := y3
      have to : gs_t S5 (gs_n (sA A S (p + 1))) = 14 := (f8.2.2 _ (by rw [y_mkn]; decide)).trans y_mkn
      obtain ⟨S6, a1, a2, a3, a4, a5, a6, a7, a8⟩ := x_compare (M0 := M0) (a := o1) (b := op) (g := tx p) to hv (by omega) fu
      have hne : A 1 0 ≠ gs_n (sA A S (p + 1)) := by have := iv.2.2.2 (A 1 0) (by rw [(ts.t _)]; rw [h.1]; decide); omega
      obtain ⟨M8, hM8⟩ : ∃ M8, M8 = n_up M5 30 ix (.int (n_I M5 38 0)) := ⟨_, rfl⟩
      have r39 : n_D M8 39 0 = n_D M5 39 0 := by rw [hM8]; unfold n_D; rw [y_uk (by decide)]
      obtain ⟨M9, hM9⟩ : ∃ M9, M9 = n_up M8 32 ix (.double (n_D M5 39 0)) := ⟨_, rfl⟩
      have f9m : ∀ k i, ¬ (k = 4 ∨ k = 38 ∨ k = 39 ∨ ((k = 28 ∨ k = 30 ∨ k = 32) ∧ i = ix)) → M9 k i = M k i := fun k i q => by
        rw [hM9, n_upo (by omega), hM8, n_upo (by omega), f10 k i (by omega), f4 k i (by omega) (by omega)]
      have h89 : n_I M9 8 0 = nI w := by unfold n_I; rw [f9m _ _ (by omega)]; exact h8
      have e11 : n_I M9 11 w = n_I M 11 w := by unfold n_I; rw [f9m _ _ (by omega)]
      rw [y1, y_cV, y_sI hix (by omega), y_b, ← hM8, y_sD hix (by omega), y_b, r39, ← hM9, m_154 h89 hw, e11, y2, gz_cR_rf, y_q to, a1, y_cV]
      have v28 : n_I (n_up M9 11 w (.int (n_I M 11 w + 1))) 28 ix = nI (tx p) := by
        unfold n_I
        rw [y_uk (by decide), hM9, y_uk (by decide), hM8, y_uk (by decide), f10 _ _ (by omega), hM4, y_us]
        rfl
      have v30 : n_I (n_up M9 11 w (.int (n_I M 11 w + 1))) 30 ix = n_I M5 38 0 := by
        show gm_I (n_up M9 11 w _ 30 ix) = _
        rw [y_uk (by decide), hM9, y_uk (by decide), hM8, y_us]; rfl
      have v32 : n_D (n_up M9 11 w (.int (n_I M 11 w + 1))) 32 ix = n_D M5 39 0 := by
        show gm_D (n_up M9 11 w _ 32 ix) = _
        rw [y_uk (by decide), hM9, y_us]; rfl
      refine Or.inl ⟨_, _, op, S6, p', tx p, rfl, rfl, f1.mono a6 (by simp) (fun k i w => (y_uk (by omega)).trans (by rw [hM9, y_uk (by omega), hM8]; exact y_uk (by omega))), a8 f2, ?_, by omega, v28, by rw [v30]; exact f6, a2, a3, a4, a5, by rw [v30, v32]; exact f5.ag a6 (by omega) (by omega), ?_, ?_, by unfold n_I; rw [y_us]; rfl, fun k i q => (n_upo (by omega)).trans (f9m k i (by omega))⟩
      · unfold PB gs_c gs_k at f3 ⊢; rw [a7]; exact f3
      · exact (ts.ag.trans (ag.mkt iv.2.2.2 (f8.trans a6))).wk (fun F a w => w.elim id (fun w => w.1.elim id (fun q => absurd q.2 w.2))) (fun a w => w.elim id (fun w => w.1.elim id id))
      · rw [a7, f9]; rfl
    · obtain ⟨f1, f2, f3, f5⟩ := y3
      obtain ⟨a, p', g1, g2⟩ := f1
      obtain ⟨M9, hM9⟩ : ∃ M9, M9 = n_up (n_up M5 30 ix (.int (n_I M5 38 0))) 32 ix (.double (n_D (n_up M5 30 ix (.int (n_I M5 38 0))) 39 0)) := ⟨_, rfl⟩
      have f9m : ∀ k i, ¬ (k = 4 ∨ k = 5 ∨ k = 38 ∨ k = 39 ∨ ((k = 28 ∨ k = 30 ∨ k = 32) ∧ i = ix)) → M9 k i = M k i := fun k i q => by
        rw [hM9, n_upo (by omega), n_upo (by omega), f5 k i (by omega), f4 k i (by omega) (by omega)]
      have h89 : n_I M9 8 0 = nI w := by unfold n_I; rw [f9m _ _ (by omega)]; exact h8
      rw [y1, y_cV, y_sI hix (by omega), y_b, y_sD hix (by omega), y_b, ← hM9, m_154 h89 hw, y2]
      refine Or.inr ⟨_, o, S5, rfl, by rw [g1]; rfl, PF.m ⟨a, p', g1, g2⟩ ?_ ?_, (ts.ag.trans (ag.mkt iv.2.2.2 f2)).wk (fun F a w => w.elim id (fun w => w.1)) (fun a w => w.elim id (fun w => w.1)), f3, fun k i q => (n_upo (by omega)).trans (f9m k i (by omega))⟩
      · unfold n_I; rw [y_uk (by decide), hM9, y_uk (by decide), y_uk (by decide)]
      · unfold n_I; rw [y_uk (by decide), hM9, y_uk (by decide), y_uk (by decide)]; exact g2.2.2.2.1
  · obtain ⟨f1, f2⟩ := s_fail (bc := bc) (bk := bk) h hi hb fu (some (A 1 0))
    obtain ⟨M', y1, y2, y3⟩ := i_117 h8 hw hix hf
    rw [y1]
    unfold F_X2_test_112
    rw [y_q h.1, f1, y_cVt]
    refine Or.inr ⟨_, _, _, rfl, rfl, f2.m ?_ y2, (ag.mk hi.2.2.2).wk (fun F a w => w.elim) (fun a w => w), rfl, fun k i q => y3 k i (by omega)⟩
    unfold n_I; rw [y3 _ _ (by omega), show n_p M 5 1 4 0 = M 4 0 from y_uk (by decide)]
end RDS
