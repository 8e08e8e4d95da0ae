/-! LAYER 2: opening a call; ticks -/
set_option maxRecDepth 100000
section RCR
variable {A : gA} {M0 C : gM} {c1 c2 : Nat}
theorem RC.m0 {M : gM} {S : gm_S} (h : RC A M0 C M S c1 c2) (v : Int32) : RC A M0 C (n_p M 0 v) S c1 c2 := h.mM (fun k i z => y_uk (by omega))
theorem RC.wTr0 {M : gM} {S : gm_S} (h : RC A M0 C M S c1 c2) : g_pI S (some (A 2 0)) 3 10 0 = some (gs_put S 310 (A 2 0) 0 (.int 0)) ∧ RC A M0 C (n_p M 53 0) (gs_put S 310 (A 2 0) 0 (.int 0)) c1 c2 := by
  have ht := h.rt
  have ha : gs_t S (A 2 0) ≠ 0 := by rw [ht]; decide
  obtain ⟨t1, t2, t3, q, t4, t5, t6, t7⟩ := h.t
  have hb : gs_t S (A 5 0) ≠ 0 := by rw [t2]; decide
  have g := ag.put (S := S) (F := 310) (a := A 2 0) (i := 0) (v := .int 0) (by decide)
  have hu : ∀ k i, k ≠ 53 → n_p M 53 0 k i = M k i := fun k i z => y_uk z
  refine ⟨y_pI ht, h.put (by decide) (by decide) ha (Mc_up h.mc (by omega)) (Or.inl (by decide)) (fun k i hk => hu k i (by omega)) (h.a.mono g (by simp) (fun k i hk => hu k i (by omega))) (h.v.mono g (by simp) (fun i => hu _ i (by omega))) (h.q.mono g (by simp) (fun k i hk => hu k i (by omega)))
    (h.s.mono g (by simp) (by simp) (fun k i hk => hu k i (by omega))) ⟨g.gR t1 (by decide) (by simp), (g.2.2 _ hb).trans t2, by rw [g.1 _ _ _ hb (by simp)]; exact t3, 0, by omega, ?_, n_ps, fun j hj => by omega⟩ (h.c.mono g (by simp)) (h.h.mono g (by simp) (fun k i hk => hu k i (by omega)))⟩
  rw [y_gI ((g.2.2 _ ha).trans ht), y_pE]; rfl
theorem s_open {M : gM} {S : gm_S} (h : RC A M0 C M S c1 c2) (fu : Nat) : ∃ M' S', F_X4_open fu M = some (.returned none, M') ∧ F_X3_open fu (some (A 2 0)) S = some (.returned none, S') ∧ RC A M0 C M' S' c1 c2 ∧ n_I M' 52 0 = 0 ∧ n_I M' 51 0 = 0 ∧ (∀ k i, ¬ (k = 51 ∨ k = 52 ∨ k = 53) → M' k i = M k i) ∧ g_gI S' (some (A 2 0)) 3 8 = g_gI S (some (A 2 0)) 3 8 := by
  obtain ⟨p1, p2⟩ := h.wSteps (q := 0) (by omega)
  obtain ⟨p3, p4⟩ := p2.wTr0
  obtain ⟨ck, h8, -⟩ := h.a.2.2.2.2.2
  refine ⟨n_p (n_p (n_p M 51 0) 53 0) 52 0, _, rfl, ?_, p4.mM (fun k i z => y_uk (by omega)), n_ps, ?_, fun k i z => ?_, ?_⟩
  · unfold F_X3_open
    rw [show g_pI S (some (A 2 0)) 3 11 0 = _ from p1, y_b, p3, y_b]
  · rw [n_po (by decide), n_po (by decide), n_ps]
  · exact (y_uk (by omega)).trans ((y_uk (by omega)).trans (y_uk (by omega)))
  · rw [h8]
    exact (ag.put (by decide)).gI ((ag.put (by decide)).gI h8 (by decide) (by simp)) (by decide) (by simp)
/-! budgets -/
theorem aB_aB (b0 b1 d0 d1 : Nat) : aB (aB A b0 b1) d0 d1 = aB A d0 d1 := by
  funext k i
  unfold aB
  by_cases z : k = 33
  · rw [if_pos z, if_pos z]
  · rw [if_neg z, if_neg z, if_neg z]
theorem aB_self : aB A (A 33 0) (A 33 1) 33 0 = A 33 0 := rfl
theorem RC.bud {M : gM} {S : gm_S} (h : RC A M0 C M S c1 c2) {b0 b1 : Nat} (h0 : A 33 0 ≤ b0) (h1 : A 33 1 ≤ b1) (h2 : b0 ≤ 600000) (h3 : b1 ≤ 7301000) : RC (aB A b0 b1) M0 C M S c1 c2 := by
  obtain ⟨k1, k2, k3, k4, k5, k6, k7⟩ := h.b
  exact ⟨h.inv, h.W, h.H, h.mc, h.a, h.v, h.q, h.s, h.t, h.c, h.h, ⟨Nat.le_trans k1 h0, Nat.le_trans k2 h1, h2, h3, k5, k6, k7⟩, h.r⟩
theorem RC.budb {M : gM} {S : gm_S} {a0 a1 : Nat} (h : RC (aB A a0 a1) M0 C M S c1 c2) {b0 b1 : Nat} (h0 : a0 ≤ b0) (h1 : a1 ≤ b1) (h2 : b0 ≤ 600000) (h3 : b1 ≤ 7301000) : RC (aB A b0 b1) M0 C M S c1 c2 := by
  have := RC.bud h (b0 := b0) (b1 := b1) h0 h1 h2 h3
  rw [aB_aB] at this
  exact this
/-! a sent event is taken -/
theorem m_shift2 {fu : Nat} (k19 : Int32 → Int32 → Int32 → gM → gQ) (x1 x2 x3 x4 : Int32) {q : Nat} (hq : q ≤ 7) : ∀ (d x : Nat) (M : gM) (n : Nat), q - x = d → x ≤ q → d < n → n_I M 47 0 = nI q → ∃ M', F_X4_oneTick_71 fu k19 n x1 x2 x3 x4 (nI x) M = (gz_cV (F_X4_come fu x4 M') fun M2 => k19 x1 x2 (x3 + (1 : Int32)) M2) ∧ (∀ k i, k ≠ 48 → k ≠ 49 → M' k i = M k i) ∧ (∀ K j, j < x → M' K j = M K j) ∧ (∀ K j, K = 48 ∨ K = 49 → x ≤ j → j < q → n_I M' K j = n_I M K (j + 1)) := by
  intro d
  induction d with
  | zero =>
    intro x M n hd hx hn h47
    obtain ⟨n, rfl⟩ : ∃ n', n = n' + 1 := ⟨n - 1, by omega⟩
    refine ⟨M, ?_, fun _ _ _ _ => rfl, fun _ _ _ => rfl, fun K j _ h1 h2 => by omega⟩
    rw [F_X4_oneTick_71, h47, show x = q by omega, if_pos (Int32.le_refl _)]
  | succ d ih =>
    intro x M n hd hx hn h47
    obtain ⟨n, rfl⟩ : ∃ n', n = n' + 1 := ⟨n - 1, by omega⟩
    obtain ⟨N, hN⟩ : ∃ N, N = n_up (n_up M 48 x (.int (n_I M 48 (x + 1)))) 49 x (.int (n_I M 49 (x + 1))) := ⟨_, rfl⟩
    have hNk : ∀ k i, k ≠ 48 → k ≠ 49 → N k i = M k i := fun k i z z' => by rw [hN, y_uk z', y_uk z]
    have hNi : ∀ K i, i ≠ x → N K i = M K i := fun K i z => by rw [hN, y_ui z, y_ui z]
    have r49 : n_I (n_up M 48 x (.int (n_I M 48 (x + 1)))) 49 (x + 1) = n_I M 49 (x + 1) := by unfold n_I; rw [y_uk (by decide)]
    obtain ⟨M', w1, w2, w3, w4⟩ := ih (x + 1) N n (by omega) (by omega) (by omega) (by unfold n_I; rw [hNk _ _ (by decide) (by decide)]; exact h47)
    refine ⟨M', ?_, fun k i z z' => (w2 k i z z').trans (hNk k i z z'), fun K j hj => (w3 K j (by omega)).trans (hNi K j (by omega)), fun K j hK h1 h2 => ?_⟩
    · rw [F_X4_oneTick_71, h47, if_neg (nI_ge (by omega) (by omega)), nI_1, y_aI (by omega) (by omega), y_b, y_sI (by omega) (by omega), y_b, y_aI (by omega) (by omega), y_b, r49, y_sI (by omega) (by omega), y_b, ← hN, w1]
    · by_cases e : j = x
      · subst e
        unfold n_I
        rw [w3 K j (by omega), hN]
        rcases hK with e | e
        · rw [e, y_uk (by decide), y_us]; rfl
        · rw [e, y_us]; rfl
      · rw [w4 K j hK (by omega) h2]
        unfold n_I
        rw [hNi _ _ (by omega)]
theorem s_unsend {M : gM} {S : gm_S} (h : RC A M0 C M S c1 c2) {i q : Nat} (hl : (S.2.1 (A 6 0)).length = q + 1) (hi : i ≤ q) (hb : A 33 0 + 1 ≤ 600000) (hb' : A 33 1 + 2 ≤ 7301000) {fu : Nat} (hf : 100 ≤ fu) (k19 : Int32 → Int32 → Int32 → gM → gQ) (x1 x2 x3 x4 : Int32) : ∃ M', F_X4_oneTick_71 fu k19 fu x1 x2 x3 x4 (nI i) (n_p M 47 (nI q)) = (gz_cV (F_X4_come fu x4 M') fun M2 => k19 x1 x2 (x3 + (1 : Int32)) M2) ∧ RC (aB A (A 33 0 + 1) (A 33 1 + 2)) M0 C M' (gs_L S (A 6 0) ((S.2.1 (A 6 0)).eraseIdx i)) c1 c2 ∧ (∀ k i, k ≠ 47 → k ≠ 48 → k ≠ 49 → M' k i = M k i) ∧ n_I M' 47 0 = nI q := by
  obtain ⟨s1, s2, s3, s4, s5, s6⟩ := h.s
  rw [hl] at s4
  have hs : gs_t S (A 6 0) ≠ 0 := by rw [s2]; decide
  obtain ⟨k1, k2, k3, k4, k5, k6, k7, k8, k9⟩ := h.c
  obtain ⟨b1, b2, b3, b4, b5, b6, b7⟩ := h.b
  obtain ⟨M', w1, w2, w3, w4⟩ := m_shift2 (fu := fu) k19 x1 x2 x3 x4 (q := q) (by omega) (q - i) i (n_p M 47 (nI q)) fu rfl hi (by omega) n_ps
  have hu : ∀ k i, k ≠ 47 → k ≠ 48 → k ≠ 49 → M' k i = M k i := fun k i z1 z2 z3 => (w2 k i z2 z3).trans (y_uk z1)
  have m47 : n_I M' 47 0 = nI q := by unfold n_I; rw [w2 _ _ (by decide) (by decide)]; exact n_ps
  obtain ⟨l, hll⟩ : ∃ l, l = (S.2.1 (A 6 0)).eraseIdx i := ⟨_, rfl⟩
  have ll : l.length = q := by rw [hll, List.length_eraseIdx_of_lt (by omega), hl]; omega
  have g := ag.lst (S := S) (a := A 6 0) (l := l)
  have hs' : rDs A M' (gs_L S (A 6 0) l) := by
    refine ⟨s1, s2, s3, by rw [y_Le, ll]; omega, by rw [y_Le, ll]; exact m47, fun j x hj => ?_⟩
    rw [y_Le, hll, List.getElem?_eraseIdx] at hj
    by_cases hji : j < i
    · rw [if_pos hji] at hj
      obtain ⟨e, e1, e2, e3, e4, e5⟩ := s6 j x hj
      refine ⟨e, e1, e2, e3, ?_, ?_⟩
      · unfold n_I; rw [w3 _ _ hji, show n_p M 47 (nI q) 48 j = M 48 j from y_uk (by decide)]; exact e4
      · unfold n_I; rw [w3 _ _ hji, show n_p M 47 (nI q) 49 j = M 49 j from y_uk (by decide)]; exact e5
    · rw [if_neg hji] at hj
      have hj2 := (List.getElem?_eq_some_iff.mp hj).1
      obtain ⟨e, e1, e2, e3, e4, e5⟩ := s6 (j + 1) x hj
      refine ⟨e, e1, e2, e3, ?_, ?_⟩
      · rw [w4 48 j (Or.inl rfl) (by omega) (by omega), n_po (by decide)]; exact e4
      · rw [w4 49 j (Or.inr rfl) (by omega) (by omega), n_po (by decide)]; exact e5
  rw [← hll]
  refine ⟨M', w1, ?_, hu, m47⟩
  have hr := h.r.mono g (M' := M') ⟨fun _ _ _ z => z, fun _ _ _ z => z, fun _ z => z, fun z => z, fun z => z⟩ (fun k i z => hu k i (by omega) (by omega) (by omega))
  have hH := h.H.kp (g.kp (fun _ _ z => z.elim) (fun a z => by rw [z]; exact s3))
  refine ⟨h.inv.lst, h.W, hH, Mc_ag h.mc (fun k i z => hu k i (by omega) (by omega) (by omega)), h.a.mono g (by simp) (fun k i z => hu k i (by omega) (by omega) (by omega)), h.v.mono g (by simp) (fun i => hu _ i (by omega) (by omega) (by omega)), h.q.mono g (by simp) (fun k i z => hu k i (by omega) (by omega) (by omega)), hs', h.t.mono g (by simp) (fun k i z => hu k i (by omega) (by omega) (by omega)), h.c.mono g (by simp), h.h.mono g (by simp) (fun k i z => hu k i (by omega) (by omega) (by omega)), ?_, hr⟩
  have q1 : p_c A (gs_L S (A 6 0) l) c1 c2 ≤ A 33 0 + 1 := by
    unfold p_c at b1 ⊢
    rw [y_Le, ll]
    rw [hl] at b1
    show gs_c S + _ + (22 - g_cap S (A 6 0)) + (22 - g_cap S c1) + (22 - g_cap S c2) ≤ _
    omega
  have q2 : p_k A (gs_L S (A 6 0) l) c1 c2 ≤ A 33 1 + 2 := by
    unfold p_k at b2 ⊢
    rw [y_Le, ll]
    rw [hl] at b2
    show gs_k S + _ + 4 * (22 - g_cap S (A 6 0)) + 4 * (22 - g_cap S c1) + 4 * (22 - g_cap S c2) ≤ _
    omega
  exact ⟨q1, q2, hb, hb', b5, b6, b7⟩
/-- the due events of one tick -/
theorem s_tick22 {fu : Nat} (hf : 7000000000 ≤ fu) : ∀ (d p i : Nat) (M : gM) (S : gm_S) (c1 c2 n m b0 b1 : Nat), d < n → d < m → b0 + d + 1 ≤ 600000 → b1 + 2 * d + 6 ≤ 7301000 → p + d ≤ 8 → RC (aB A b0 b1) M0 C M S c1 c2 → n_I M 40 0 = 1 → n_I M 52 0 = 0 → i + d ≤ (S.2.1 (A 6 0)).length →
    ∃ M' o S', F_X4_oneTick_19 fu n (nI (p + d)) (nI i) (nI p) M = some (.returned none, M') ∧ F_X3_tick_22 fu m (some (A 2 0)) (nI (p + d)) (nI i) (nI p) S = some (o, S') ∧ ∃ d1 d2, (o = .returned none ∧ RC (aB A (b0 + d) (b1 + 2 * d)) M0 C M' S' d1 d2 ∧ n_I M' 40 0 = 1 ∧ n_I M' 52 0 = 0) ∨ (∃ a, o = .threw a ∧ gs_t S' a = 19 ∧ RC (aB A (b0 + d + 1) (b1 + 2 * d + 6)) M0 C M' S' d1 d2 ∧ n_I M' 40 0 = 0 ∧ n_I M' 52 0 = 1) := by
  intro d
  induction d with
  | zero =>
    intro p i M S c1 c2 n m b0 b1 hn hm hb hb' hp h hr h52 hi
    obtain ⟨n, rfl⟩ : ∃ n', n = n' + 1 := ⟨n - 1, by omega⟩
    obtain ⟨m, rfl⟩ : ∃ m', m = m' + 1 := ⟨m - 1, by omega⟩
    refine ⟨M, .returned none, S, ?_, ?_, c1, c2, Or.inl ⟨rfl, h, hr, h52⟩⟩
    · rw [F_X4_oneTick_19, Nat.add_zero, if_pos (Int32.le_refl _)]
    · rw [F_X3_tick_22, Nat.add_zero, if_pos (Int32.le_refl _)]
  | succ d ih =>
    intro p i M S c1 c2 n m b0 b1 hn hm hb hb' hp h hr h52 hi
    obtain ⟨n, rfl⟩ : ∃ n', n = n' + 1 := ⟨n - 1, by omega⟩
    obtain ⟨m, rfl⟩ : ∃ m', m = m' + 1 := ⟨m - 1, by omega⟩
    obtain ⟨s1, s2, s3, s4, s5, s6⟩ := h.s
    have s1 : g_gR S (some (A 2 0)) 3 7 = some (some (A 6 0)) := s1
    have s2 : gs_t S (A 6 0) = 16 := s2
    have s4 : (S.2.1 (A 6 0)).length ≤ 8 := s4
    have s5 : n_I M 47 0 = nI (S.2.1 (A 6 0)).length := s5
    obtain ⟨ck, h8, h9⟩ := h.a.2.2.2.2.2
    have h8 : g_gI S (some (A 2 0)) 3 8 = some ck := h8
    have hil : i < (S.2.1 (A 6 0)).length := by omega
    obtain ⟨x, hx⟩ : ∃ x, (S.2.1 (A 6 0))[i]? = some x := ⟨_, List.getElem?_eq_getElem hil⟩
    obtain ⟨e, e1, e2, e3, e4, e5⟩ := s6 i x hx
    obtain ⟨x', ex, tx, -⟩ := y_gIt e3
    cases ex
    rw [h9 hr] at h8
    have hne : ¬ nI (p + (d + 1)) ≤ nI p := nI_ge (by omega) (by omega)
    rw [F_X4_oneTick_19, if_neg hne, h52, if_pos rfl, y_aI (by omega) (by omega), y_b, F_X3_tick_22, if_neg hne, s1, y_b, y_lget s2 (by omega) hx, y_b, y_q tx, e5, y_b, h8, y_b]
    have ep : p + (d + 1) = (p + 1) + d := by omega
    by_cases hdue : n_I M 49 i ≤ n_I M 50 0
    · rw [if_pos hdue, if_pos hdue, y_aI (by omega) (by omega), y_b, e4, y_b]
      obtain ⟨q, hq⟩ : ∃ q, (S.2.1 (A 6 0)).length = q + 1 := ⟨(S.2.1 (A 6 0)).length - 1, by omega⟩
      obtain ⟨M1, z1, z2, z3, z4⟩ := s_unsend h (i := i) hq (by omega) (show b0 + 1 ≤ 600000 by omega) (show b1 + 2 ≤ 7301000 by omega) (fu := fu) (by omega) (F_X4_oneTick_19 fu n) (nI (p + (d + 1))) (nI i) (nI p) (nI e)
      rw [aB_aB] at z2
      have z2 : RC (aB A (b0 + 1) (b1 + 2)) M0 C M1 (gs_L S (A 6 0) ((S.2.1 (A 6 0)).eraseIdx i)) c1 c2 := z2
      rw [y_lrem s2 (by omega) hx, y_b]
      obtain ⟨M2, o, S2, c1', c2', c3'⟩ := s_come hf (A := aB A (b0 + 1) (b1 + 2)) (show b0 + 1 + 1 ≤ 600000 by omega) (show b1 + 2 + 6 ≤ 7301000 by omega) z2 (by unfold n_I; rw [z3 _ _ (by decide) (by decide) (by decide)]; exact hr) (by unfold n_I; rw [z3 _ _ (by decide) (by decide) (by decide)]; exact h52) (nI e)
      have c2' : F_X3_come fu (some (A 2 0)) (nI e) (gs_L S (A 6 0) ((S.2.1 (A 6 0)).eraseIdx i)) = some (o, S2) := c2'
      have m47 : n_I M 47 0 - 1 = nI q := by rw [s5, hq, nI_sub1]
      rw [m47, show n_pIO M 47 (nI q) = some (n_p M 47 (nI q)) from rfl, y_b, z1, c1', y_cV]
      show ∃ M' o S', _ ∧ (Option.bind (g_gI (gs_L S (A 6 0) ((S.2.1 (A 6 0)).eraseIdx i)) (some x) 15 0) _ = _) ∧ _
      rw [show g_gI (gs_L S (A 6 0) ((S.2.1 (A 6 0)).eraseIdx i)) (some x) 15 0 = some (nI e) from e3, y_b]
      dsimp only
      rw [y_q (show gs_t (gs_L S (A 6 0) ((S.2.1 (A 6 0)).eraseIdx i)) (A 2 0) = 3 from z2.rt), c2', nI_1]
      obtain ⟨d1, d2, ⟨y1, y2, y3, y4, y5⟩ | ⟨a, y1, y2, y3, y4, y5⟩⟩ := c3'
      · rw [y1, y_cV, ep]
        have y2s : n_I M2 47 0 = nI (S2.2.1 (A 6 0)).length := y2.s.2.2.2.2.1
        have y2l : (S2.2.1 (A 6 0)).length ≤ 8 := y2.s.2.2.2.1
        have hge : q ≤ (S2.2.1 (A 6 0)).length := by
          rw [z4, y2s] at y5
          exact (nI_leI (by omega) (by omega)).mp y5
        obtain ⟨M', o', S', w1, w2, w3⟩ := ih (p + 1) i M2 S2 d1 d2 n m (b0 + 1) (b1 + 2) (by omega) (by omega) (by omega) (by omega) (by omega) y2 y3 y4 (by omega)
        refine ⟨M', o', S', w1, w2, ?_⟩
        rw [show b0 + (d + 1) = b0 + 1 + d by omega, show b1 + 2 * (d + 1) = b1 + 2 + 2 * d by omega]
        exact w3
      · rw [y1, y_cVt]
        rw [aB_aB] at y3
        have y3 : RC (aB A (b0 + 1 + 1) (b1 + 2 + 6)) M0 C M2 S2 d1 d2 := y3
        refine ⟨M2, .threw a, S2, ?_, rfl, d1, d2, Or.inr ⟨a, rfl, y2, y3.budb (by omega) (by omega) (by omega) (by omega), y4, y5⟩⟩
        obtain ⟨n, rfl⟩ : ∃ n', n = n' + 1 := ⟨n - 1, by omega⟩
        rw [F_X4_oneTick_19]
        by_cases hz : nI (p + (d + 1)) ≤ nI (p + 1)
        · rw [if_pos hz]
        · rw [if_neg hz, y5, if_neg (by decide)]
    · rw [if_neg hdue, if_neg hdue, nI_1, nI_1, ep]
      obtain ⟨M', o', S', w1, w2, w3⟩ := ih (p + 1) (i + 1) M S c1 c2 n m (b0 + 1) (b1 + 2) (by omega) (by omega) (by omega) (by omega) (by omega) (h.budb (by omega) (by omega) (by omega) (by omega)) hr h52 (by omega)
      refine ⟨M', o', S', w1, w2, ?_⟩
      rw [show b0 + (d + 1) = b0 + 1 + d by omega, show b1 + 2 * (d + 1) = b1 + 2 + 2 * d by omega]
      exact w3
end RCR
