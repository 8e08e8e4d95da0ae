/-! LAYER 2, reading: the text on both sides -/
set_option maxRecDepth 100000
section RDA
variable {A : gA} {M0 : gM} {z p : Nat} {tx : Nat → Nat}
/-- reader and model stand at p, and all is well -/
def PA (A : gA) (M : gM) (S : gm_S) (z : Nat) (tx : Nat → Nat) (p : Nat) : Prop := gs_t S (A 1 0) = 2 ∧ g_gR S (some (A 1 0)) 2 0 = some (some (A 34 0)) ∧ gs_t S (A 34 0) = 101 ∧ gm_N (S.1 1 (A 34 0) 0) = 160 ∧ g_gI S (some (A 1 0)) 2 1 = some (nI z) ∧ n_I M 2 0 = nI z ∧ z ≤ 160 ∧
  (∀ j, j < z → 32 < tx j ∧ tx j ≤ 126 ∧ gm_I (S.1 2 (A 34 0) j) = nI (tx j) ∧ n_I M 3 j = nI (tx j)) ∧ p ≤ z ∧ g_gI S (some (A 1 0)) 2 2 = some (nI p) ∧ n_I M 4 0 = nI p ∧ n_I M 5 0 = 0
/-- the character there -/
def ct (z : Nat) (tx : Nat → Nat) (p : Nat) : Nat := if p < z then tx p else 0
theorem ct_le {M : gM} {S : gm_S} (h : PA A M S z tx p) : ct z tx p ≤ 126 := by
  obtain ⟨-, -, -, -, -, -, -, h8, -⟩ := h
  unfold ct
  by_cases hp : p < z
  · rw [if_pos hp]; exact (h8 p hp).2.1
  · rw [if_neg hp]; omega
theorem ct_lt {c : Nat} (hc : 0 < c) (h : ct z tx p = c) : p < z ∧ tx p = c := by
  unfold ct at h
  by_cases hp : p < z
  · rw [if_pos hp] at h; exact ⟨hp, h⟩
  · rw [if_neg hp] at h; omega
theorem ct_lo {c : Nat} (hc : 0 < c) (h : c ≤ ct z tx p) : p < z ∧ tx p = ct z tx p := by
  unfold ct at *
  by_cases hp : p < z
  · rw [if_pos hp] at h ⊢; exact ⟨hp, rfl⟩
  · rw [if_neg hp] at h; omega
theorem m_look {M : gM} {S : gm_S} (h : PA A M S z tx p) (fu : Nat) : F_X4_look fu M = some (.returned (some (.int (nI (ct z tx p)))), M) := by
  have hct := ct_le h
  obtain ⟨h1, h2, h3, h4, h5, h6, h7, h8, h9, h10, h11, h12⟩ := h
  unfold F_X4_look
  rw [h12, if_pos rfl, h6, h11]
  unfold ct at hct ⊢
  by_cases hp : p < z
  · rw [if_neg (nI_ge hp (by omega)), y_aI (by omega) (by omega), y_b, (h8 p hp).2.2.2, if_pos hp, if_pos (y_okC (by have := (h8 p hp).2.1; omega))]
  · rw [if_pos ((nI_leI (by omega) (by omega)).mpr (by omega)), if_neg hp, if_pos y_c0]
    rfl
theorem c_look {M : gM} {S : gm_S} (h : PA A M S z tx p) (fu : Nat) : F_X2_look fu (some (A 1 0)) S = some (.returned (some (.int (nI (ct z tx p)))), S) := by
  have hct := ct_le h
  obtain ⟨h1, h2, h3, h4, h5, h6, h7, h8, h9, h10, h11, h12⟩ := h
  unfold F_X2_look
  rw [h10, y_b, h5, y_b]
  unfold ct at hct ⊢
  by_cases hp : p < z
  · have ea : g_aI S (some (A 34 0)) 1 (nI p) = some (nI (tx p)) := by
      unfold g_aI
      rw [y_el (t := 1) h3 h4 (by omega) (by omega)]
      show some (gm_I (S.1 2 (A 34 0) p)) = _
      rw [(h8 p hp).2.2.1]
    rw [if_neg (nI_ge hp (by omega)), h2, y_b, y_b, ea, y_b, if_pos hp, if_pos (y_okC (by have := (h8 p hp).2.1; omega))]
  · rw [if_pos ((nI_leI (by omega) (by omega)).mpr (by omega)), if_neg hp, if_pos y_c0]
    rfl
/-- is it among? -/
def am (lo hi : Nat) (c : Nat) : Int32 := if lo ≤ c ∧ c ≤ hi then 1 else 0
theorem am1 {lo hi c : Nat} : am lo hi c = 0 ↔ ¬ (lo ≤ c ∧ c ≤ hi) := by
  unfold am
  by_cases h : lo ≤ c ∧ c ≤ hi
  · rw [if_pos h]; exact ⟨fun z => absurd z (by decide), fun z => absurd h z⟩
  · rw [if_neg h]; exact ⟨fun _ => h, fun _ => rfl⟩
theorem m_among {M : gM} {S : gm_S} (h : PA A M S z tx p) (fu : Nat) {lo hi : Nat} (h1 : lo ≤ 126) (h2 : hi ≤ 126) : F_X4_among fu (nI lo) (nI hi) M = some (.returned (some (.int (am lo hi (ct z tx p)))), M) := by
  have hc := ct_le h
  unfold F_X4_among am
  rw [m_look h fu, y_cI]
  by_cases a1 : lo ≤ ct z tx p
  · rw [if_neg (fun w => by have := (nI_ltI (by omega) (by omega)).mp w; omega), m_look h fu, y_cI]
    by_cases a2 : ct z tx p ≤ hi
    · rw [if_neg (fun w => by have := (nI_ltI (by omega) (by omega)).mp w; omega), if_pos y_z1, if_pos ⟨a1, a2⟩]
    · rw [if_pos ((nI_ltI (by omega) (by omega)).mpr (by omega)), if_pos y_z0, if_neg (fun w => a2 w.2)]
  · rw [if_pos ((nI_ltI (by omega) (by omega)).mpr (by omega)), if_pos y_z0, if_neg (fun w => a1 w.1)]
theorem c_among {M : gM} {S : gm_S} (h : PA A M S z tx p) (fu : Nat) {lo hi : Nat} (h1 : lo ≤ 126) (h2 : hi ≤ 126) : F_X2_isAmong fu (some (A 1 0)) (nI lo) (nI hi) S = some (.returned (some (.int (am lo hi (ct z tx p)))), S) := by
  have hc := ct_le h
  unfold F_X2_isAmong am
  rw [y_q h.1, c_look h fu, y_cI]
  by_cases a1 : lo ≤ ct z tx p
  · rw [if_neg (fun w => by have := (nI_ltI (by omega) (by omega)).mp w; omega), y_q h.1, c_look h fu, y_cI]
    by_cases a2 : ct z tx p ≤ hi
    · rw [if_neg (fun w => by have := (nI_ltI (by omega) (by omega)).mp w; omega), if_pos y_z1, if_pos ⟨a1, a2⟩]
    · rw [if_pos ((nI_ltI (by omega) (by omega)).mpr (by omega)), if_pos y_z0, if_neg (fun w => a2 w.2)]
  · rw [if_pos ((nI_ltI (by omega) (by omega)).mpr (by omega)), if_pos y_z0, if_neg (fun w => a1 w.1)]
/-- one place on, on both sides -/
def sA (A : gA) (S : gm_S) (q : Nat) : gm_S := gs_put S 202 (A 1 0) 0 (.int (nI q))
theorem PA.to {M : gM} {S : gm_S} (h : PA A M S z tx p) {q : Nat} (hq : q ≤ z) : PA A (n_p M 4 (nI q)) (sA A S q) z tx q := by
  obtain ⟨h1, h2, h3, h4, h5, h6, h7, h8, h9, h10, h11, h12⟩ := h
  have g := ag.put (S := S) (F := 202) (a := A 1 0) (i := 0) (v := .int (nI q)) (by decide)
  have a0 : gs_t S (A 34 0) ≠ 0 := by rw [h3]; decide
  refine ⟨(y_pt (by decide)).trans h1, g.gR h2 (by decide) (by simp), (y_pt (by decide)).trans h3, by rw [show (sA A S q).1 1 (A 34 0) 0 = S.1 1 (A 34 0) 0 from y_pM (by simp)]; exact h4, g.gI h5 (by decide) (by simp), (n_po (by decide)).trans h6, h7, fun j hj => ?_, hq, ?_, n_ps, (n_po (by decide)).trans h12⟩
  · rw [show (sA A S q).1 2 (A 34 0) j = S.1 2 (A 34 0) j from y_pM (by simp), n_po (by decide)]
    exact h8 j hj
  · unfold sA
    rw [y_gI ((y_pt (by decide)).trans h1), y_pE]; rfl
theorem s_takes {M : gM} {S : gm_S} (h : PA A M S z tx p) (fu : Nat) {c : Nat} (hc : 0 < c) (hc2 : c ≤ 126) :
    (ct z tx p = c ∧ F_X4_takes fu (nI c) M = some (.returned (some (.int 1)), n_p M 4 (nI (p + 1))) ∧ F_X2_takes fu (some (A 1 0)) (nI c) S = some (.returned (some (.int 1)), sA A S (p + 1)) ∧ PA A (n_p M 4 (nI (p + 1))) (sA A S (p + 1)) z tx (p + 1)) ∨
    (ct z tx p ≠ c ∧ F_X4_takes fu (nI c) M = some (.returned (some (.int 0)), M) ∧ F_X2_takes fu (some (A 1 0)) (nI c) S = some (.returned (some (.int 0)), S)) := by
  have hct := ct_le h
  have hm := m_look h fu
  have hcl := c_look h fu
  by_cases e : ct z tx p = c
  · obtain ⟨e1, e2⟩ := ct_lt hc e
    refine Or.inl ⟨e, ?_, ?_, h.to (by omega)⟩
    · unfold F_X4_takes
      rw [hm, y_cI, e, if_pos rfl, h.2.2.2.2.2.2.2.2.2.2.1, nI_1, show n_pIO M 4 (nI (p + 1)) = some (n_p M 4 (nI (p + 1))) from rfl, y_b, if_pos y_z1]
    · unfold F_X2_takes
      rw [y_q h.1, hcl, y_cI, e, if_pos rfl, h.2.2.2.2.2.2.2.2.2.1, y_b, nI_1, y_pI h.1, y_b, if_pos y_z1]
      rfl
  · have ne : ¬ nI (ct z tx p) = nI c := fun w => e ((nI_eq (by omega) (by omega)).mp w)
    refine Or.inr ⟨e, ?_, ?_⟩
    · unfold F_X4_takes
      rw [hm, y_cI, if_neg ne, if_pos y_z0]
    · unfold F_X2_takes
      rw [y_q h.1, hcl, y_cI, if_neg ne, if_pos y_z0]
theorem s_next {M : gM} {S : gm_S} (h : PA A M S z tx p) (fu : Nat) (hp : p < z) : F_X4_next fu M = some (.returned (some (.int (nI (tx p)))), n_p M 4 (nI (p + 1))) ∧ F_X2_next fu (some (A 1 0)) S = some (.returned (some (.int (nI (tx p)))), sA A S (p + 1)) ∧ PA A (n_p M 4 (nI (p + 1))) (sA A S (p + 1)) z tx (p + 1) := by
  have h' := h.to (q := p + 1) (by omega)
  obtain ⟨h1, h2, h3, h4, h5, h6, h7, h8, h9, h10, h11, h12⟩ := h
  obtain ⟨g1, g2, g3, g4, g5, g6, g7, g8, g9, g10, g11, g12⟩ := h'
  have hok : g_okC (nI (tx p)) = true := y_okC (by have := (h8 p hp).2.1; omega)
  refine ⟨?_, ?_, ⟨g1, g2, g3, g4, g5, g6, g7, g8, g9, g10, g11, g12⟩⟩
  · unfold F_X4_next
    rw [h12, if_pos rfl, h11, nI_1, show n_pIO M 4 (nI (p + 1)) = some (n_p M 4 (nI (p + 1))) from rfl, y_b, g11, nI_sub1, y_aI (by omega) (by omega), y_b, (g8 p hp).2.2.2, if_pos hok]
  · unfold F_X2_next
    have ea : g_aI (sA A S (p + 1)) (some (A 34 0)) 1 (nI p) = some (nI (tx p)) := by
      unfold g_aI
      rw [y_el (t := 1) g3 g4 (by omega) (by omega)]
      show some (gm_I ((sA A S (p + 1)).1 2 (A 34 0) p)) = _
      rw [(g8 p hp).2.2.1]
    rw [h10, y_b, nI_1, y_pI h1, y_b]
    show (Option.bind (g_gR (sA A S (p + 1)) (some (A 1 0)) 2 0) _) = _
    rw [g2, y_b]
    show (Option.bind (g_gI (sA A S (p + 1)) (some (A 1 0)) 2 2) _) = _
    rw [g10, y_b, nI_sub1]
    show (Option.bind (g_aI (sA A S (p + 1)) (some (A 34 0)) 1 (nI p)) _) = _
    rw [ea, y_b, if_pos hok]
    rfl
/-! the model, when it is ill -/
theorem i_look {M : gM} (h : n_I M 5 0 = 1) (fu : Nat) : F_X4_look fu M = some (.returned (some (.int 0)), M) := by
  unfold F_X4_look
  rw [h, if_neg (by decide), if_pos y_c0]
theorem i_takes {M : gM} (h : n_I M 5 0 = 1) (fu : Nat) {c : Nat} (hc : 0 < c) (hc2 : c ≤ 126) : F_X4_takes fu (nI c) M = some (.returned (some (.int 0)), M) := by
  unfold F_X4_takes
  rw [i_look h fu, y_cI, if_neg (fun w => by have := (nI_eq (a := 0) (b := c) (by omega) (by omega)).mp w; omega), if_pos y_z0]
theorem i_among {M : gM} (h : n_I M 5 0 = 1) (fu : Nat) {lo : Nat} (hc : 0 < lo) (hc2 : lo ≤ 126) (hi : Int32) : F_X4_among fu (nI lo) hi M = some (.returned (some (.int 0)), M) := by
  unfold F_X4_among
  rw [i_look h fu, y_cI, if_pos (show (0 : Int32) < nI lo from (nI_ltI (a := 0) (b := lo) (by omega) (by omega)).mpr hc), if_pos y_z0]
theorem i_next {M : gM} (h : n_I M 5 0 = 1) (fu : Nat) : F_X4_next fu M = some (.returned (some (.int 0)), M) := by
  unfold F_X4_next
  rw [h, if_neg (by decide), if_pos y_c0]
theorem m_want0 (fu : Nat) (M : gM) : F_X4_want fu 0 M = some (.returned none, n_p M 5 1) := by
  unfold F_X4_want
  rw [if_pos rfl]; rfl
theorem m_want1 (fu : Nat) (M : gM) : F_X4_want fu 1 M = some (.returned none, M) := by
  unfold F_X4_want
  rw [if_neg (by decide)]
theorem c_want1 (fu : Nat) (r : Option Nat) (S : gm_S) : F_X2_want fu r 1 S = some (.returned none, S) := by
  unfold F_X2_want
  rw [if_neg (by decide)]
theorem i_take {M : gM} (h : n_I M 5 0 = 1) (fu : Nat) {c : Nat} (hc : 0 < c) (hc2 : c ≤ 126) : F_X4_take fu (nI c) M = some (.returned none, n_p M 5 1) := by
  unfold F_X4_take
  rw [i_takes h fu hc hc2, y_cI, m_want0, y_cV]
end RDA
