/-! LAYER 2: the beginning of a run -/
set_option maxRecDepth 100000
section RCT2
variable {A : gA} {M0 C : gM} {c1 c2 : Nat}
/-- the variables are wiped, in the component -/
theorem c_clear {fu : Nat} {rn va : Nat} : ∀ (d i : Nat) (S : gm_S) (m : Nat), 6 - i = d → i ≤ 6 → d < m → g_gR S (some rn) 3 3 = some (some va) → gs_t S va = 102 → gm_N (S.1 1 va 0) = 6 → (∀ j, j < i → S.1 2 va j = .double FP.dconst0) → ∃ S', F_X3_clear_2 fu m (some rn) (nI i) S = some (.returned none, S') ∧ ag (fun F a => F = 2 ∧ a = va) (fun _ => False) S S' ∧ (∀ j, j < 6 → S'.1 2 va j = .double FP.dconst0) ∧ S'.2 = S.2 ∧ (∀ b, g_cap S' b = g_cap S b) ∧ (g_inv M0 S → g_inv M0 S') := by
  intro d
  induction d with
  | zero =>
    intro i S m hd hi hm h1 h2 h3 h4
    obtain ⟨m, rfl⟩ : ∃ m', m = m' + 1 := ⟨m - 1, by omega⟩
    refine ⟨S, ?_, ⟨fun _ _ _ _ _ => rfl, fun _ _ _ => rfl, fun _ _ => rfl⟩, fun j hj => h4 j (by omega), rfl, fun _ => rfl, id⟩
    rw [F_X3_clear_2, h1, y_b, y_len (t := 2) h2, y_b, h3, show i = 6 by omega, if_pos (Int32.le_refl _)]
  | succ d ih =>
    intro i S m hd hi hm h1 h2 h3 h4
    obtain ⟨m, rfl⟩ : ∃ m', m = m' + 1 := ⟨m - 1, by omega⟩
    obtain ⟨a, ea, ta, -⟩ := y_gRt h1
    cases ea
    have hva : gs_t S va ≠ 0 := by rw [h2]; decide
    have g := ag.put (S := S) (F := 2) (a := va) (i := i) (v := .double FP.dconst0) (by decide)
    obtain ⟨S', w1, w2, w3, w4, w5, w6⟩ := ih (i + 1) (gs_put S 2 va i (.double FP.dconst0)) m (by omega) (by omega) (by omega) (g.gR h1 (by decide) (by simp)) ((g.2.2 _ hva).trans h2) (by rw [g.1 _ _ _ hva (by simp)]; exact h3) (fun j hj => by
      by_cases e : j = i
      · rw [e, y_pE]
      · rw [y_pM (by simp [e])]; exact h4 j (by omega))
    refine ⟨S', ?_, (g.trans w2).wk (fun F a z => z.elim id id) (fun a z => z.elim id id), w3, w4, fun b => (w5 b).trans (y_cap (by decide)), fun z => w6 (z.put (by decide) hva)⟩
    rw [F_X3_clear_2, h1, y_b, y_len (t := 2) h2, y_b, h3, if_neg (nI_ge (by omega) (by omega)), y_b]
    unfold g_sD
    rw [y_as (t := 2) h2 h3 (by omega) (by omega), y_b, nI_1, w1]
/-- and in the model -/
theorem m_clear {fu : Nat} : ∀ (d i : Nat) (M : gM) (n : Nat), 6 - i = d → i ≤ 6 → d < n → (∀ j, j < i → n_D M 42 j = FP.dconst0) → ∃ M', F_X4_forget_2 fu n (nI i) M = F_X4_forget_23 fu fu 0 M' ∧ (∀ j, j < 6 → n_D M' 42 j = FP.dconst0) ∧ (∀ k i, k ≠ 42 → M' k i = M k i) := by
  intro d
  induction d with
  | zero =>
    intro i M n hd hi hn h4
    obtain ⟨n, rfl⟩ : ∃ n', n = n' + 1 := ⟨n - 1, by omega⟩
    refine ⟨M, ?_, fun j hj => h4 j (by omega), fun _ _ _ => rfl⟩
    rw [F_X4_forget_2, show i = 6 by omega, if_pos (show (6 : Int32) ≤ nI 6 from Int32.le_refl _)]
  | succ d ih =>
    intro i M n hd hi hn h4
    obtain ⟨n, rfl⟩ : ∃ n', n = n' + 1 := ⟨n - 1, by omega⟩
    obtain ⟨M', w1, w2, w3⟩ := ih (i + 1) (n_up M 42 i (.double FP.dconst0)) n (by omega) (by omega) (by omega) (fun j hj => by
      by_cases e : j = i
      · rw [e]; unfold n_D; rw [y_us]; rfl
      · unfold n_D; rw [y_ui e]; exact h4 j (by omega))
    refine ⟨M', ?_, w2, fun k i' z => (w3 k i' z).trans (y_uk z)⟩
    rw [F_X4_forget_2, if_neg (show ¬ (6 : Int32) ≤ nI i from nI_ge (a := i) (b := 6) (by omega) (by omega)), y_sD (by omega) (by omega), y_b, nI_1, w1]
/-- the histories are wiped, in the model -/
theorem m_hist {fu : Nat} : ∀ (d i : Nat) (M : gM) (n : Nat), 16 - i = d → i ≤ 16 → d < n → (∀ j, j < i → n_I M 43 j = 0 ∧ n_I M 44 j = 0) → ∃ M', F_X4_forget_23 fu n (nI i) M = some (.returned none, n_p (n_p (n_p M' 45 0) 47 0) 50 0) ∧ (∀ j, j < 16 → n_I M' 43 j = 0 ∧ n_I M' 44 j = 0) ∧ (∀ k i, k ≠ 43 → k ≠ 44 → M' k i = M k i) := by
  intro d
  induction d with
  | zero =>
    intro i M n hd hi hn h4
    obtain ⟨n, rfl⟩ : ∃ n', n = n' + 1 := ⟨n - 1, by omega⟩
    refine ⟨M, ?_, fun j hj => h4 j (by omega), fun _ _ _ _ => rfl⟩
    rw [F_X4_forget_23, show i = 16 by omega, if_pos (show (16 : Int32) ≤ nI 16 from Int32.le_refl _)]
    rfl
  | succ d ih =>
    intro i M n hd hi hn h4
    obtain ⟨n, rfl⟩ : ∃ n', n = n' + 1 := ⟨n - 1, by omega⟩
    obtain ⟨M', w1, w2, w3⟩ := ih (i + 1) (n_up (n_up M 43 i (.int 0)) 44 i (.int 0)) n (by omega) (by omega) (by omega) (fun j hj => by
      unfold n_I
      by_cases e : j = i
      · rw [e, y_uk (k' := 43) (by decide), y_us, y_us]; exact ⟨rfl, rfl⟩
      · rw [y_ui e, y_ui e, y_ui e, y_ui e]; exact h4 j (by omega))
    refine ⟨M', ?_, w2, fun k i' z z' => (w3 k i' z z').trans ((y_uk z').trans (y_uk z))⟩
    rw [F_X4_forget_23, if_neg (show ¬ (16 : Int32) ≤ nI i from nI_ge (a := i) (b := 16) (by omega) (by omega)), y_sI (by omega) (by omega), y_b, y_sI (by omega) (by omega), y_b, nI_1, w1]
theorem m_forget {fu : Nat} (hf : 100 ≤ fu) (M : gM) : ∃ M', F_X4_forget fu M = some (.returned none, M') ∧ (∀ j, j < 6 → n_D M' 42 j = FP.dconst0) ∧ (∀ j, j < 16 → n_I M' 43 j = 0 ∧ n_I M' 44 j = 0) ∧ n_I M' 45 0 = 0 ∧ n_I M' 47 0 = 0 ∧ n_I M' 50 0 = 0 ∧ (∀ k i, ¬ (k = 42 ∨ k = 43 ∨ k = 44 ∨ k = 45 ∨ k = 47 ∨ k = 50) → M' k i = M k i) := by
  obtain ⟨M1, z1, z2, z3⟩ := m_clear (fu := fu) 6 0 M fu (by omega) (by omega) (by omega) (fun j hj => by omega)
  obtain ⟨M2, w1, w2, w3⟩ := m_hist (fu := fu) 16 0 M1 fu (by omega) (by omega) (by omega) (fun j hj => by omega)
  refine ⟨n_p (n_p (n_p M2 45 0) 47 0) 50 0, ?_, fun j hj => ?_, fun j hj => ?_, ?_, ?_, n_ps, fun k i z => ?_⟩
  · unfold F_X4_forget
    rw [show F_X4_forget_2 fu fu 0 M = _ from z1]
    exact w1
  · have e : n_p (n_p (n_p M2 45 0) 47 0) 50 0 42 j = M1 42 j := (y_uk (by decide)).trans ((y_uk (by decide)).trans ((y_uk (by decide)).trans (w3 _ _ (by decide) (by decide))))
    unfold n_D
    rw [e]
    exact z2 j hj
  · rw [n_po (by decide), n_po (by decide), n_po (by decide), n_po (by decide), n_po (by decide), n_po (by decide)]
    exact w2 j hj
  · rw [n_po (by decide), n_po (by decide), n_ps]
  · rw [n_po (by decide), n_ps]
  · exact (y_uk (by omega)).trans ((y_uk (by omega)).trans ((y_uk (by omega)).trans ((w3 _ _ (by omega) (by omega)).trans (z3 _ _ (by omega)))))
/-- the histories are wiped, in the component -/
theorem c_hist {fu : Nat} : ∀ (d i : Nat) (S : gm_S) (M : gM) (m : Nat), A 9 0 - i = d → i ≤ A 9 0 → d < m → RC A M0 C M S c1 c2 → (∀ j, j < i → n_I M 43 j = 0 ∧ n_I M 44 j = 0) → ∃ S' M', (∀ K : gm_S → gR, (∀ T, K T = (Option.bind (g_pI T (some (A 2 0)) 3 6 (0 : Int32)) fun S3 =>
  Option.bind (g_gR S3 (some (A 2 0)) 3 7) fun v4 =>
  Option.bind (g_lclr S3 v4) fun S5 =>
  Option.bind (g_pI S5 (some (A 2 0)) 3 8 (0 : Int32)) fun S6 =>
  Option.bind (g_pI S6 (some (A 2 0)) 3 2 (0 : Int32)) fun S7 =>
  Option.bind (g_pZ S7 (some (A 2 0)) 3 1 (1 : Int32)) fun S8 =>
  gz_q (g_at S8 (some (A 2 0)) 3) (gz_cV (F_X3_open fu (some (A 2 0)) S8) fun S9 =>
  Option.bind (g_gR S9 (some (A 2 0)) 3 0) fun v10 =>
  Option.bind (g_lget S9 v10 (0 : Int32)) fun v11 =>
  gz_q (g_at S9 (some v11) 5) (
  gz_cI (F_X1_down fu 8 (some v11) (0 : Int32) S9) fun v13 S13 =>
  gz_q (g_at S13 (some (A 2 0)) 3) (gz_cV (F_X3_enter fu (some (A 2 0)) v13 S13) fun S14 =>
  gz_q (g_at S14 (some (A 2 0)) 3) (gz_cV (F_X3_runOn fu (some (A 2 0)) S14) fun S15 =>
  some (.returned none, S15))))))) → F_X3_begin_6 fu m (some (A 2 0)) (nI i) S = K S') ∧ RC A M0 C M' S' c1 c2 ∧ (∀ j, j < A 9 0 → n_I M' 43 j = 0 ∧ n_I M' 44 j = 0) ∧ (∀ k i, k ≠ 43 → k ≠ 44 → M' k i = M k i) := by
  intro d
  induction d with
  | zero =>
    intro i S M m hd hi hm h h4
    obtain ⟨m, rfl⟩ : ∃ m', m = m' + 1 := ⟨m - 1, by omega⟩
    refine ⟨S, M, fun K hK => ?_, h, fun j hj => h4 j (by omega), fun _ _ _ _ => rfl⟩
    rw [F_X3_begin_6, h.a.1, y_b, h.len, y_b, show i = A 9 0 by omega, if_pos (Int32.le_refl _), hK]
  | succ d ih =>
    intro i S M m hd hi hm h h4
    obtain ⟨m, rfl⟩ : ∃ m', m = m' + 1 := ⟨m - 1, by omega⟩
    have hn := h.n16
    have hlt : i < A 9 0 := by omega
    obtain ⟨p1, p2, -⟩ := h.wHist hlt 0
    obtain ⟨p3, p4, -⟩ := p2.wDeep hlt 0
    obtain ⟨S', M', w1, w2, w3, w4⟩ := ih (i + 1) _ _ m (by omega) (by omega) (by omega) p4 (fun j hj => by
      unfold n_I
      by_cases e : j = i
      · rw [e, y_uk (k' := 43) (by decide), y_us, y_us]; exact ⟨rfl, rfl⟩
      · rw [y_ui e, y_ui e, y_ui e, y_ui e]; exact h4 j (by omega))
    refine ⟨S', M', fun K hK => ?_, w2, w3, fun k i' z z' => (w4 k i' z z').trans ((y_uk z').trans (y_uk z))⟩
    rw [F_X3_begin_6, h.a.1, y_b, h.len, y_b, if_neg (nI_ge hlt (by omega)), y_b, h.get hlt, y_b, y_q (h.st hlt), p1, y_b, p3, y_b, nI_1, w1 K hK]
theorem RC.wVars {M M' : gM} {S S' : gm_S} (h : RC A M0 C M S c1 c2) (g : ag (fun F a => F = 2 ∧ a = A 3 0) (fun _ => False) S S') (h1 : ∀ j, j < 6 → S'.1 2 (A 3 0) j = .double FP.dconst0) (h2 : S'.2 = S.2) (h3 : ∀ b, g_cap S' b = g_cap S b) (h4 : g_inv M0 S') (m1 : ∀ j, j < 6 → n_D M' 42 j = FP.dconst0) (m2 : ∀ k i, k ≠ 42 → M' k i = M k i) : RC A M0 C M' S' c1 c2 := by
  obtain ⟨v1, v2, v3, v4⟩ := h.v
  have hv : gs_t S (A 3 0) ≠ 0 := by rw [v2]; decide
  refine h.upd g h4 (fun F a z => ?_) (fun _ z => z.elim) (Mc_ag h.mc (fun k i z => m2 k i (by omega))) (fun k i z => m2 k i (by omega)) (h.a.mono g (by simp) (fun k i z => m2 k i (by omega))) ⟨g.gR v1 (by decide) (by simp), (g.2.2 _ hv).trans v2, by rw [g.1 _ _ _ hv (by simp)]; exact v3, fun i hi => ?_⟩ (h.q.mono g (by simp [Ne.symm h.d34]) (fun k i z => m2 k i (by omega)))
    (h.s.mono g (by simp) (by simp) (fun k i z => m2 k i (by omega))) (h.t.mono g (by simp [Ne.symm h.d35]) (fun k i z => m2 k i (by omega))) (h.c.mono g (by simp)) (h.h.mono g (by simp) (fun k i z => m2 k i (by omega))) (h.b.same (by show S'.2.2.2.1 = _; rw [h2]) (by show S'.2.2.2.2 = _; rw [h2]) (by rw [h2]) h3)
  · rw [z.1, z.2]; exact ⟨by decide, fun _ => h.t3⟩
  · rw [h1 i hi, m1 i hi]
    exact ⟨rfl, d_c0⟩
theorem RC.wQ0 {M : gM} {S : gm_S} (h : RC A M0 C M S c1 c2) : g_pI S (some (A 2 0)) 3 6 0 = some (gs_put S 306 (A 2 0) 0 (.int 0)) ∧ RC A M0 C (n_p M 45 0) (gs_put S 306 (A 2 0) 0 (.int 0)) c1 c2 := by
  have ht := h.rt
  have ha : gs_t S (A 2 0) ≠ 0 := by rw [ht]; decide
  obtain ⟨q1, q2, q3, f, q, q4, q5, q6, q7, q8, q9⟩ := h.q
  have hb : gs_t S (A 4 0) ≠ 0 := by rw [q2]; decide
  have g := ag.put (S := S) (F := 306) (a := A 2 0) (i := 0) (v := .int 0) (by decide)
  have hu : ∀ k i, k ≠ 45 → n_p M 45 0 k i = M k i := fun k i z => y_uk z
  refine ⟨y_pI ht, h.put (by decide) (by decide) ha (Mc_up h.mc (by omega)) (Or.inl (by decide)) (fun k i hk => hu k i (by omega)) (h.a.mono g (by simp) (fun k i hk => hu k i (by omega))) (h.v.mono g (by simp) (fun i => hu _ i (by omega))) ⟨g.gR q1 (by decide) (by simp), (g.2.2 _ hb).trans q2, by rw [g.1 _ _ _ hb (by simp)]; exact q3, f, 0, q4, by omega, g.gI q6 (by decide) (by simp), ?_, n_ps, fun j hj => by omega⟩
    (h.s.mono g (by simp) (by simp) (fun k i hk => hu k i (by omega))) (h.t.mono g (by simp) (fun k i hk => hu k i (by omega))) (h.c.mono g (by simp)) (h.h.mono g (by simp) (fun k i hk => hu k i (by omega)))⟩
  rw [y_gI ((g.2.2 _ ha).trans ht), y_pE]; rfl
theorem RC.wS0 {M : gM} {S : gm_S} {b0 b1 : Nat} (h : RC (aB A b0 b1) M0 C M S c1 c2) (hb : b0 + 8 ≤ 600000) (hb' : b1 + 16 ≤ 7301000) : g_gR S (some (A 2 0)) 3 7 = some (some (A 6 0)) ∧ g_lclr S (some (A 6 0)) = some (gs_L S (A 6 0) []) ∧ RC (aB A (b0 + 8) (b1 + 16)) M0 C (n_p M 47 0) (gs_L S (A 6 0) []) c1 c2 := by
  obtain ⟨s1, s2, s3, s4, s5, s6⟩ := h.s
  have s2 : gs_t S (A 6 0) = 16 := s2
  obtain ⟨k1, k2, k3, k4, k5, k6, k7, k8, k9⟩ := h.c
  obtain ⟨b1', b2', b3', b4', b5', b6', b7'⟩ := h.b
  have g := ag.lst (S := S) (a := A 6 0) (l := [])
  have hu : ∀ k i, k ≠ 47 → n_p M 47 0 k i = M k i := fun k i z => y_uk z
  have hr := h.r.mono g (M' := n_p M 47 0) ⟨fun _ _ _ z => z, fun _ _ _ z => z, fun _ z => z, fun z => z, fun z => z⟩ (fun k i z => hu k i (by omega))
  have hH := h.H.kp (g.kp (fun _ _ z => z.elim) (fun a z => by rw [z]; exact s3))
  have hs' : rDs A (n_p M 47 0) (gs_L S (A 6 0) []) := ⟨s1, s2, s3, by rw [y_Le]; exact Nat.zero_le _, by rw [y_Le]; exact n_ps, fun j x hj => by rw [y_Le] at hj; cases hj⟩
  refine ⟨s1, y_lclr s2, h.inv.lst, h.W, hH, Mc_up h.mc (by omega), h.a.mono g (by simp) (fun k i z => hu k i (by omega)), h.v.mono g (by simp) (fun i => hu _ i (by omega)), h.q.mono g (by simp) (fun k i z => hu k i (by omega)), hs', h.t.mono g (by simp) (fun k i z => hu k i (by omega)), h.c.mono g (by simp), h.h.mono g (by simp) (fun k i z => hu k i (by omega)), ?_, hr⟩
  have b1' : p_c A S c1 c2 ≤ b0 := b1'
  have b2' : p_k A S c1 c2 ≤ b1 := b2'
  have q1 : p_c A (gs_L S (A 6 0) []) c1 c2 ≤ b0 + 8 := by
    unfold p_c at b1' ⊢
    rw [y_Le]
    show gs_c S + (8 - 0) + (22 - g_cap S (A 6 0)) + (22 - g_cap S c1) + (22 - g_cap S c2) ≤ _
    omega
  have q2 : p_k A (gs_L S (A 6 0) []) c1 c2 ≤ b1 + 16 := by
    unfold p_k at b2' ⊢
    rw [y_Le]
    show gs_k S + 2 * (8 - 0) + 4 * (22 - g_cap S (A 6 0)) + 4 * (22 - g_cap S c1) + 4 * (22 - g_cap S c2) ≤ _
    omega
  exact ⟨q1, q2, hb, hb', b5', b6', b7'⟩
/-- what of the model's memory is read -/
theorem RC.mEq {M M' : gM} {S : gm_S} (h : RC A M0 C M S c1 c2) (hM : ∀ k i, ¬ (k = 0 ∨ (42 ≤ k ∧ k ≤ 45) ∨ k = 47 ∨ k = 50 ∨ k = 52 ∨ (55 ≤ k ∧ k ≤ 61)) → M' k i = M k i) (h42 : ∀ i, i < 6 → n_D M' 42 i = n_D M 42 i) (h43 : ∀ i, i < A 9 0 → n_I M' 43 i = n_I M 43 i ∧ n_I M' 44 i = n_I M 44 i) (h45 : n_I M' 45 0 = n_I M 45 0) (h47 : n_I M' 47 0 = n_I M 47 0) (h50 : n_I M' 50 0 = n_I M 50 0) : RC A M0 C M' S c1 c2 := by
  have e : ∀ k i, ¬ (k = 0 ∨ (42 ≤ k ∧ k ≤ 45) ∨ k = 47 ∨ k = 50 ∨ k = 52 ∨ (55 ≤ k ∧ k ≤ 61)) → n_I M' k i = n_I M k i := fun k i z => by unfold n_I; rw [hM k i z]
  have g : ag (fun _ _ => False) (fun _ => False) S S := ⟨fun _ _ _ _ _ => rfl, fun _ _ _ => rfl, fun _ _ => rfl⟩
  refine h.upd g h.inv (fun _ _ z => z.elim) (fun _ z => z.elim) (Mc_ag h.mc (fun k i z => hM k i (by omega))) (fun k i z => hM k i (by omega)) ?_ ?_ ?_ ?_ (h.t.mono g (by simp) (fun k i z => hM k i (by omega))) h.c ?_ h.b
  · have := h.a
    unfold rDa at this ⊢
    rw [e 40 0 (by omega), e 41 0 (by omega), e 51 0 (by omega), h50]
    exact this
  · obtain ⟨a1, a2, a3, a4⟩ := h.v
    exact ⟨a1, a2, a3, fun i hi => by rw [h42 i hi]; exact a4 i hi⟩
  · obtain ⟨a1, a2, a3, f, q, a4, a5, a6, a7, a8, a9⟩ := h.q
    exact ⟨a1, a2, a3, f, q, a4, a5, a6, a7, h45.trans a8, fun j hj => by rw [e 46 j (by omega)]; exact a9 j hj⟩
  · obtain ⟨a1, a2, a3, a4, a5, a6⟩ := h.s
    exact ⟨a1, a2, a3, a4, h47.trans a5, fun j x hj => by rw [e 48 j (by omega), e 49 j (by omega)]; exact a6 j x hj⟩
  · intro i hi
    rw [(h43 i hi).1, (h43 i hi).2]
    exact h.h i hi
/-- start, where there is a chart -/
theorem s_start {fu : Nat} (hf : 7000000000 ≤ fu) {b0 b1 : Nat} (hb : b0 + 9 ≤ 600000) (hb' : b1 + 22 ≤ 7301000) {M : gM} {S : gm_S} (h : RC (aB A b0 b1) M0 C M S c1 c2) : ∃ M3 M' o S', F_X4_forget fu M = some (.returned none, M3) ∧
    (∀ K : gM → gQ, (Option.bind (n_pZO M3 40 (1 : Int32)) fun M4 => Option.bind (n_pIO M4 41 (0 : Int32)) fun M5 => gz_cV (F_X4_open fu M5) fun M6 => Option.bind (n_pIO M6 60 (0 : Int32)) fun M7 => gz_cV (F_X4_down fu (0 : Int32) M7) fun M8 => gz_cV (F_X4_enter fu (n_I M8 60 0) M8) fun M10 => gz_cV (F_X4_runOn fu M10) fun M11 => K M11) = K M') ∧
    F_X3_begin fu (some (A 2 0)) S = some (o, S') ∧ rP A M0 C (b0 + 8) (b1 + 16) M' o S' := by
  have hn := h.n16
  have hn : 0 < A 9 0 ∧ A 9 0 ≤ 16 := hn
  obtain ⟨v1, v2, v3, v4⟩ := h.v
  have v1 : g_gR S (some (A 2 0)) 3 3 = some (some (A 3 0)) := v1
  have v2 : gs_t S (A 3 0) = 102 := v2
  have v3 : gm_N (S.1 1 (A 3 0) 0) = 6 := v3
  obtain ⟨M3, f1, f2, f3, f4, f5, f6, f7⟩ := m_forget (fu := fu) (by omega) M
  obtain ⟨S1, z1, z2, z3, z4, z5, z6⟩ := c_clear (M0 := M0) (fu := fu) 6 0 S fu (by omega) (by omega) (by omega) v1 v2 v3 (fun j hj => by omega)
  obtain ⟨N1, n1', n2', n3'⟩ : ∃ N1 : gM, (∀ j, j < 6 → n_D N1 42 j = FP.dconst0) ∧ (∀ k i, k ≠ 42 → N1 k i = M k i) ∧ (∀ i, N1 42 i = M3 42 i) := by
    refine ⟨fun k i => if k = 42 then M3 42 i else M k i, fun j hj => ?_, fun k i z => if_neg z, fun i => if_pos rfl⟩
    exact f2 j hj
  have r1 : RC (aB A b0 b1) M0 C N1 S1 c1 c2 := h.wVars z2 z3 z4 z5 (z6 h.inv) n1' n2'
  obtain ⟨S2, N2, y1, y2, y3, y4⟩ := c_hist (fu := fu) (A := aB A b0 b1) (A 9 0) 0 S1 N1 fu (Nat.sub_zero _) (by omega) (by omega) r1 (fun j hj => by omega)
  obtain ⟨q1, q2⟩ := y2.wQ0
  obtain ⟨q3, q4, q5⟩ := q2.wS0 (A := A) (by omega) (by omega)
  obtain ⟨q6, q7⟩ := q5.wClock 0
  have q1 : g_pI S2 (some (A 2 0)) 3 6 0 = some (gs_put S2 306 (A 2 0) 0 (.int 0)) := q1
  have q6 : g_pI (gs_L (gs_put S2 306 (A 2 0) 0 (.int 0)) (A 6 0) []) (some (A 2 0)) 3 8 0 = some (gs_put (gs_L (gs_put S2 306 (A 2 0) 0 (.int 0)) (A 6 0) []) 308 (A 2 0) 0 (.int 0)) := q6
  have q7 : RC (aB A (b0 + 8) (b1 + 16)) M0 C (n_p (n_p (n_p N2 45 0) 47 0) 50 0) (gs_put (gs_L (gs_put S2 306 (A 2 0) 0 (.int 0)) (A 6 0) []) 308 (A 2 0) 0 (.int 0)) c1 c2 := q7
  obtain ⟨S6, hS6⟩ : ∃ S6, S6 = gs_put (gs_L (gs_put S2 306 (A 2 0) 0 (.int 0)) (A 6 0) []) 308 (A 2 0) 0 (.int 0) := ⟨_, rfl⟩
  rw [← hS6] at q6 q7
  have hpp : ∀ k i, ¬ (k = 45 ∨ k = 47 ∨ k = 50) → n_p (n_p (n_p N2 45 0) 47 0) 50 0 k i = N2 k i := fun k i z => (y_uk (by omega)).trans ((y_uk (by omega)).trans (y_uk (by omega)))
  -- the model's own memory, where it is read, is the same
  have r3 : RC (aB A (b0 + 8) (b1 + 16)) M0 C M3 S6 c1 c2 := by
    refine q7.mEq (fun k i hk => ?_) (fun i hi => ?_) (fun i hi => ?_) ?_ ?_ ?_
    · rw [f7 k i (by omega), hpp k i (by omega), y4 k i (by omega) (by omega), n2' k i (by omega)]
    · rw [f2 i hi]
      unfold n_D
      rw [hpp 42 i (by omega), y4 42 i (by omega) (by omega)]
      exact (n1' i hi).symm
    · have hi : i < A 9 0 := hi
      rw [(f3 i (by omega)).1, (f3 i (by omega)).2]
      unfold n_I
      rw [hpp 43 i (by omega), hpp 44 i (by omega)]
      exact ⟨(y3 i hi).1.symm, (y3 i hi).2.symm⟩
    · rw [f4, n_po (by decide), n_po (by decide), n_ps]
    · rw [f5, n_po (by decide), n_ps]
    · rw [f6, n_ps]
  obtain ⟨p1, p2, -⟩ := r3.wActive 0
  have hck : g_gI (gs_put S6 302 (A 2 0) 0 (.int 0)) (some (A 2 0)) 3 8 = some (n_I (n_p M3 41 0) 50 0) := by
    rw [n_po (by decide), f6]
    refine (ag.put (by decide)).gI ?_ (by decide) (by simp)
    rw [hS6, y_gI (by rw [y_pt (by decide)]; exact (show gs_t (gs_put S2 306 (A 2 0) 0 (.int 0)) (A 2 0) = 3 from q2.rt)), y_pE]
    rfl
  obtain ⟨p3, p4⟩ := p2.wRuns 1 (Or.inr rfl) (fun _ => hck)
  have hM5 : n_p (n_p M3 41 0) 40 1 = n_p (n_p M3 40 1) 41 0 := y_uc (by decide)
  rw [hM5] at p4
  obtain ⟨M6, S9, o1, o2, o3, o4, o5, o6, -⟩ := s_open p4 fu
  have o2 : F_X3_open fu (some (A 2 0)) (gs_put (gs_put S6 302 (A 2 0) 0 (.int 0)) 301 (A 2 0) 0 (.int 1)) = some (.returned none, S9) := o2
  have h60 : mD M6 (n_p M6 60 0) := fun k i z => y_uk (by omega)
  have r7 := o3.mD h60
  obtain ⟨M8, w1, w2, w3⟩ := m_down r7.W hf r7.mc (show 0 < aB A (b0 + 8) (b1 + 16) 9 0 from hn.1)
  rw [n_ps] at w2
  have r8 := r7.mD w3
  have g40 : n_I M6 40 0 = 1 := by
    unfold n_I
    rw [o6 40 0 (by omega)]
    rw [← hM5]
    exact n_ps
  have g8 : ∀ k, ¬ (k = 60 ∨ k = 61) → n_I M8 k 0 = n_I M6 k 0 := fun k z => by unfold n_I; rw [w3 _ _ z, h60 _ _ z]
  obtain ⟨M10, S14, t1, t2, t3, t4⟩ := s_enter (fu := fu) (by omega) (n_I M8 60 0) r8 ((g8 40 (by omega)).trans g40)
  obtain ⟨M11, o, S15, x1, x2, x3⟩ := s_runOn hf (show b0 + 8 + 1 ≤ 600000 by omega) (show b1 + 16 + 6 ≤ 7301000 by omega) t3 ((t4.g (by omega)).trans ((g8 40 (by omega)).trans g40)) ((t4.g (by omega)).trans ((g8 52 (by omega)).trans o4))
  have x2 : F_X3_runOn fu (some (A 2 0)) S14 = some (o, S15) := x2
  refine ⟨M3, M11, o, S15, f1, fun K => ?_, ?_, rO.rP x3⟩
  · rw [show n_pZO M3 40 1 = some (n_p M3 40 1) from rfl, y_b, show n_pIO (n_p M3 40 1) 41 0 = some (n_p (n_p M3 40 1) 41 0) from rfl, y_b, o1, y_cV, show n_pIO M6 60 0 = some (n_p M6 60 0) from rfl, y_b, show F_X4_down fu 0 (n_p M6 60 0) = _ from w1, y_cV, t1, y_cV, x1, y_cV]
  · unfold F_X3_begin
    rw [y_q (show gs_t S (A 2 0) = 3 from h.rt)]
    unfold F_X3_clear
    rw [show F_X3_clear_2 fu fu (some (A 2 0)) 0 S = _ from z1, y_cV]
    have hb6 := y1 _ (fun T => rfl)
    rw [show F_X3_begin_6 fu fu (some (A 2 0)) 0 S1 = _ from hb6]
    have hdn : F_X1_down fu 8 (some (A 10 0)) 0 S9 = some (.returned (some (.int (n_I M8 60 0))), S9) := by
      rw [w2]
      exact c_dn o3 (by omega) 8 0 0 hn.1 (by omega)
    show (Option.bind (g_pI S2 (some (A 2 0)) 3 6 (0 : Int32)) _) = _
    rw [q1, y_b]
    show (Option.bind (g_gR (gs_put S2 306 (A 2 0) 0 (.int 0)) (some (A 2 0)) 3 7) _) = _
    rw [show g_gR (gs_put S2 306 (A 2 0) 0 (.int 0)) (some (A 2 0)) 3 7 = some (some (A 6 0)) from q3, y_b, show g_lclr (gs_put S2 306 (A 2 0) 0 (.int 0)) (some (A 6 0)) = _ from q4, y_b]
    show (Option.bind (g_pI (gs_L (gs_put S2 306 (A 2 0) 0 (.int 0)) (A 6 0) []) (some (A 2 0)) 3 8 0) _) = _
    rw [q6, y_b]
    show (Option.bind (g_pI S6 (some (A 2 0)) 3 2 0) _) = _
    rw [show g_pI S6 (some (A 2 0)) 3 2 0 = some (gs_put S6 302 (A 2 0) 0 (.int 0)) from p1, y_b]
    show (Option.bind (g_pZ (gs_put S6 302 (A 2 0) 0 (.int 0)) (some (A 2 0)) 3 1 1) _) = _
    rw [show g_pZ (gs_put S6 302 (A 2 0) 0 (.int 0)) (some (A 2 0)) 3 1 1 = some (gs_put (gs_put S6 302 (A 2 0) 0 (.int 0)) 301 (A 2 0) 0 (.int 1)) from p3, y_b]
    show gz_q (g_at (gs_put (gs_put S6 302 (A 2 0) 0 (.int 0)) 301 (A 2 0) 0 (.int 1)) (some (A 2 0)) 3) (gz_cV (F_X3_open fu (some (A 2 0)) _) _) = _
    rw [y_q (show gs_t (gs_put (gs_put S6 302 (A 2 0) 0 (.int 0)) 301 (A 2 0) 0 (.int 1)) (A 2 0) = 3 from p4.rt), o2, y_cV]
    show (Option.bind (g_gR S9 (some (A 2 0)) 3 0) _) = _
    rw [show g_gR S9 (some (A 2 0)) 3 0 = some (some (A 8 0)) from o3.a.1, y_b, show g_lget S9 (some (A 8 0)) 0 = some (A 10 0) from o3.get (i := 0) hn.1, y_b, y_q (show gs_t S9 (A 10 0) = 5 from o3.st (i := 0) hn.1), hdn, y_cI]
    show gz_q (g_at S9 (some (A 2 0)) 3) (gz_cV (F_X3_enter fu (some (A 2 0)) (n_I M8 60 0) S9) _) = _
    rw [y_q (show gs_t S9 (A 2 0) = 3 from o3.rt), show F_X3_enter fu (some (A 2 0)) (n_I M8 60 0) S9 = some (.returned none, S14) from t2, y_cV]
    show gz_q (g_at S14 (some (A 2 0)) 3) (gz_cV (F_X3_runOn fu (some (A 2 0)) S14) _) = _
    rw [y_q (show gs_t S14 (A 2 0) = 3 from t3.rt), x2]
    obtain ⟨d1, d2, ⟨w, -⟩ | ⟨a, w, -⟩⟩ := x3 <;> rw [w] <;> rfl
end RCT2
