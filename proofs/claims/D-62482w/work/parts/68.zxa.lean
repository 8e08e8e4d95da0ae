/-! LAYER 2, reading: a state begins -/
set_option maxRecDepth 100000
section RDZe
variable {A : gA} {M0 : gM} {z p bc bk : Nat} {tx : Nat → Nat}
/-- the number of an outer state as the model holds it -/
def pcv (pc : Nat) : Int32 := if pc = 0 then -1 else nI (pc - 1)
theorem s_st0 {N : gA} {M : gM} {S : gm_S} (h : PA A M S z tx p) (h8 : n_I M 8 0 = nI (N 9 5)) (hw : N 9 5 < 2) (hn16 : N 9 0 ≤ 16) (hl : sL A N M S) (fu : Nat) (x1 : Int32) {d : Nat} (hd : d ≤ 100) (x1' : Option Nat) (rc : Option Nat → Option Nat → Int32 → gm_S → gR) : ∃ b : Int32, (b = 1 ∧ (∃ l, l < 16 ∧ p < z ∧ tx p = 97 + l ∧ n_I M 17 (16 * N 9 5 + l) = -1 ∧ d ≤ 6) ∨ b = 0) ∧ F_X4_readState fu x1 (nI d) M = F_X4_readState_46 fu x1 b M ∧ F_X2_state_e fu rc (some (A 1 0)) x1' (nI d) S = F_X2_state_38 fu rc (some (A 1 0)) x1' (nI d) b (some (A 1 0)) S := by
  obtain ⟨l1, l2, l3, l4, -⟩ := hl
  have hma := m_among h fu (lo := 97) (hi := 112) (by omega) (by omega)
  have hca := c_among h fu (lo := 97) (hi := 112) (by omega) (by omega)
  unfold F_X4_readState F_X2_state_e
  rw [show F_X4_among fu 97 112 M = _ from hma, y_cI, y_q h.1, show F_X2_isAmong fu (some (A 1 0)) 97 112 S = _ from hca, y_cI]
  by_cases e1 : 97 ≤ ct z tx p ∧ ct z tx p ≤ 112
  · obtain ⟨hp, hcc⟩ := ct_lo (by omega) e1.1
    have ne : ¬ am 97 112 (ct z tx p) = 0 := fun w => am1.mp w e1
    obtain ⟨l, hlt⟩ : ∃ l, ct z tx p = 97 + l := ⟨ct z tx p - 97, by omega⟩
    have e97 : nI (ct z tx p) - 97 = nI l := by
      have := pk_sub (a := ct z tx p) (b := 97) (by omega)
      rw [show ct z tx p - 97 = l by omega] at this
      exact this
    have e16 : (16 : Int32) * nI (N 9 5) + nI (ct z tx p) - 97 = nI (16 * N 9 5 + l) := by
      rw [y_m16, nI_add]
      have := pk_sub (a := 16 * N 9 5 + ct z tx p) (b := 97) (by omega)
      rw [show 16 * N 9 5 + ct z tx p - 97 = 16 * N 9 5 + l by omega] at this
      exact this
    have ea : g_aI S (some (A 34 1)) 0 (nI l) = some (n_I M 17 (16 * N 9 5 + l)) := by
      unfold g_aI
      rw [y_el (t := 0) l2 l3 (by omega) (by omega)]
      show some (gm_I (S.1 2 (A 34 1) l)) = _
      rw [(l4 l (by omega)).1]
    rw [if_neg ne, if_neg ne, m_look h fu, y_cI, h8, e16, y_aI (by omega) (by omega), y_b, l1, y_b, y_q h.1, c_look h fu, y_cI, e97, ea, y_b]
    rcases (l4 l (by omega)).2 with e2 | ⟨k, hk, e2⟩
    · have nm1 : ¬ (0 : Int32) ≤ -1 := by decide
      rw [e2, if_neg nm1, if_neg nm1]
      by_cases e3 : d ≤ 6
      · have n7 : ¬ (7 : Int32) ≤ nI d := nI_ge (a := d) (b := 7) (by omega) (by omega)
        have n6 : ¬ (6 : Int32) < nI d := fun w => by have := (nI_ltI (a := 6) (b := d) (by omega) (by omega)).mp w; omega
        rw [if_neg n7, if_neg n6]
        exact ⟨1, Or.inl ⟨rfl, l, by omega, hp, by omega, e2, e3⟩, rfl, rfl⟩
      · have n7 : (7 : Int32) ≤ nI d := (nI_leI (a := 7) (b := d) (by omega) (by omega)).mpr (by omega)
        have n6 : (6 : Int32) < nI d := (nI_ltI (a := 6) (b := d) (by omega) (by omega)).mpr (by omega)
        rw [if_pos n7, if_pos n6]
        exact ⟨0, Or.inr rfl, rfl, rfl⟩
    · have n0 : (0 : Int32) ≤ nI k := nI_pos' (by omega)
      rw [e2, if_pos n0, if_pos n0]
      exact ⟨0, Or.inr rfl, rfl, rfl⟩
  · have e3 := am1.mpr e1
    rw [if_pos e3, if_pos e3]
    exact ⟨0, Or.inr rfl, rfl, rfl⟩
/-- the chain of outers -/
def chn (N : gA) : Nat → Nat → Nat → Bool
  | 0, _, _ => false
  | f + 1, pc, i => if pc = 0 then false else (decide (i = pc - 1) || chn N f (N 24 (pc - 1)) i)
theorem m_150 {N : gA} {s : Nat} (hs : s < 16) (hw : N 9 5 < 2) (hN : ∀ i, i < s → N 24 i ≤ i) (fu : Nat) : ∀ (n pc : Nat) (M : gM), pc < n → pc ≤ s → n_I M 8 0 = nI (N 9 5) → (∀ i, i < s → n_I M 15 (16 * N 9 5 + i) = pcv (N 24 i)) →
    ∃ M', F_X4_readState_150 fu n (nI s) (pcv pc) M = some (.returned (some (.int (nI s))), M') ∧ (∀ k i, ¬ (k = 16 ∧ 16 * N 9 5 ≤ i ∧ i < 16 * N 9 5 + s) → M' k i = M k i) ∧ ∀ i b, b < 32 → i < 16 → bt (n_I M' 16 (16 * N 9 5 + i)) b = (bt (n_I M 16 (16 * N 9 5 + i)) b || (decide (b = s) && chn N n pc i)) := by
  intro n
  induction n with
  | zero => intro pc M h; omega
  | succ n ih =>
    intro pc M h1 h2 h8 h15
    rw [F_X4_readState_150]
    by_cases e : pc = 0
    · rw [show pcv pc = -1 from if_pos e, if_pos (by decide)]
      refine ⟨M, rfl, fun _ _ _ => rfl, fun i b hb hi => ?_⟩
      rw [chn, if_pos e]; simp
    · have ep : pcv pc = nI (pc - 1) := if_neg e
      have n0 : ¬ nI (pc - 1) < (0 : Int32) := fun w => by have := (nI_ltI (a := pc - 1) (b := 0) (by omega) (by omega)).mp w; omega
      obtain ⟨M4, hM4⟩ : ∃ M4, M4 = n_up M 16 (16 * N 9 5 + (pc - 1)) (.int (n_I M 16 (16 * N 9 5 + (pc - 1)) ||| v_bit s)) := ⟨_, rfl⟩
      have h84 : n_I M4 8 0 = nI (N 9 5) := by unfold n_I; rw [hM4, y_uk (by decide)]; exact h8
      have h154 : ∀ i, i < s → n_I M4 15 (16 * N 9 5 + i) = pcv (N 24 i) := fun i hi => by unfold n_I; rw [hM4, y_uk (by decide)]; exact h15 i hi
      have hle := hN (pc - 1) (by omega)
      obtain ⟨M', e1, e2, e3⟩ := ih (N 24 (pc - 1)) M4 (by omega) (by omega) h84 h154
      rw [ep, if_neg n0, h8, y_m16, nI_add, y_aI (by omega) (by omega), y_b, y_sI (by omega) (by omega), y_b, ← hM4, h84, y_m16, nI_add, y_aI (by omega) (by omega), y_b, h154 (pc - 1) (by omega), e1]
      refine ⟨M', rfl, fun k i q => ?_, fun i b hb hi => ?_⟩
      · rw [e2 k i q, hM4, n_upo (by omega)]
      · rw [e3 i b hb hi, chn, if_neg e]
        by_cases ei : i = pc - 1
        · have : n_I M4 16 (16 * N 9 5 + i) = (n_I M 16 (16 * N 9 5 + i) ||| v_bit s) := by
            rw [hM4, ei]; unfold n_I; rw [y_us]; rfl
          rw [this, b_or, v_bt (by omega), ei]
          cases bt (n_I M 16 (16 * N 9 5 + (pc - 1))) b <;> cases chn N n (N 24 (pc - 1)) (pc - 1) <;> simp
        · have : n_I M4 16 (16 * N 9 5 + i) = n_I M 16 (16 * N 9 5 + i) := by
            rw [hM4]; unfold n_I; rw [n_upo (by omega)]
          rw [this]
          simp [ei]
theorem chn_b {N : gA} {M : gM} (hN : ∀ i, i < N 9 0 → N 24 i ≤ i) (hB : sB N M) {i : Nat} (hi : i < N 9 0) : ∀ (f pc : Nat), pc < f → pc ≤ N 9 0 → (chn N f pc i = true ↔ pc ≠ 0 ∧ (pc = i + 1 ∨ bt (c_bel N M i) (pc - 1) = true)) := by
  intro f
  induction f with
  | zero => intro pc h; omega
  | succ f ih =>
    intro pc h1 h2
    rw [chn]
    by_cases e : pc = 0
    · rw [if_pos e]
      constructor
      · intro w; cases w
      · intro w; exact absurd e w.1
    · rw [if_neg e, Bool.or_eq_true, decide_eq_true_eq]
      have hle := hN (pc - 1) (by omega)
      rw [ih (N 24 (pc - 1)) (by omega) (by omega), hB i (pc - 1) hi]
      constructor
      · rintro (w | ⟨w1, w2⟩)
        · exact ⟨e, Or.inl (by omega)⟩
        · exact ⟨e, Or.inr ⟨by omega, w1, w2⟩⟩
      · rintro ⟨-, w | ⟨-, w1, w2⟩⟩
        · exact Or.inl (by omega)
        · exact Or.inr ⟨w1, w2⟩
/-- a new list goes into a field -/
theorem x_lf {S : gm_S} (hi : g_inv M0 S) {o t k : Nat} (h : gs_t S o = t) (ht : t ≠ 0) (h1 : gs_c S < 600096) (h2 : gs_k S + 3 ≤ 7301386) : ∃ S', (∀ f : gm_S → gR, (Option.bind (g_new S 32 3) fun q => Option.bind (g_lnew q.2 (some q.1)) fun S3 => Option.bind (g_pR S3 (some o) t k (some q.1)) f) = f S') ∧ g_gR S' (some o) t k = some (some (gs_n S)) ∧ gs_t S' (gs_n S) = 16 ∧ S'.2.1 (gs_n S) = [] ∧ (∀ b, b ≠ gs_n S → S'.2.1 b = S.2.1 b) ∧ ag (fun F a => F = 100 * t + k ∧ a = o) (fun _ => False) S S' ∧ g_inv M0 S' ∧ gs_n S' = gs_n S + 1 ∧ gs_c S' = gs_c S + 1 ∧ gs_k S' = gs_k S + 3 ∧ gs_t S' o = t := by
  have h0 : gs_t S o ≠ 0 := by rw [h]; exact ht
  have ho : o < gs_n S := hi.2.2.2 o h0
  have ta : gs_t (nwL S) o = t := by rw [nwL_o (by omega)]; exact h
  have hF : 100 * t + k ≠ 0 := by omega
  refine ⟨gs_put (nwL S) (100 * t + k) o 0 (va_rf (some (gs_n S))), fun f => ?_, ?_, ?_, ?_, ?_, ?_, ?_, rfl, rfl, rfl, (y_pt hF).trans ta⟩
  · rw [y_new h1 h2, y_b]
    dsimp only
    rw [y_lnew, y_b, y_pR ta, y_b]
  · rw [y_gR ((y_pt hF).trans ta), y_pE]; rfl
  · rw [y_pt hF]; exact nwL_t
  · exact nwL_e
  · intro b w; exact nwL_l w
  · exact ((nwL_ag hi).trans (ag.put hF)).wk (fun F a w => w.elim (fun w => w.elim) id) (fun a w => w.elim id id)
  · exact (nwL_inv hi).put hF (by rw [ta]; exact ht)
end RDZe
