/-! LAYER 2: running on -/
set_option maxRecDepth 100000
section RCQ
variable {A : gA} {M0 C : gM} {c1 c2 : Nat}
theorem m_shift {fu : Nat} (k13 : Int32 → gM → gQ) (k23 : gM → gQ) (x2 : Int32) {q : Nat} (hq : q ≤ 9) : ∀ (d x : Nat) (M : gM) (n : Nat), q - x = d → x ≤ q → d < n → n_I M 45 0 = nI q → ∃ M', F_X4_runOn_56 fu k13 k23 n x2 (nI x) M = (gz_cV (F_X4_choose fu x2 M') fun M2 => k23 M2) ∧ (∀ k i, k ≠ 46 → M' k i = M k i) ∧ (∀ j, j < x → M' 46 j = M 46 j) ∧ (∀ j, x ≤ j → j < q → n_I M' 46 j = n_I M 46 (j + 1)) := by
  intro d
  induction d with
  | zero =>
    intro x M n hd hx hn h45
    obtain ⟨n, rfl⟩ : ∃ n', n = n' + 1 := ⟨n - 1, by omega⟩
    refine ⟨M, ?_, fun _ _ _ => rfl, fun _ _ => rfl, fun j h1 h2 => by omega⟩
    rw [F_X4_runOn_56, h45, show x = q by omega, if_pos (Int32.le_refl _)]
  | succ d ih =>
    intro x M n hd hx hn h45
    obtain ⟨n, rfl⟩ : ∃ n', n = n' + 1 := ⟨n - 1, by omega⟩
    obtain ⟨N, hN⟩ : ∃ N, N = n_up M 46 x (.int (n_I M 46 (x + 1))) := ⟨_, rfl⟩
    have hNk : ∀ k i, k ≠ 46 → N k i = M k i := fun k i z => by rw [hN]; exact y_uk z
    have hNi : ∀ i, i ≠ x → N 46 i = M 46 i := fun i z => by rw [hN]; exact y_ui z
    obtain ⟨M', w1, w2, w3, w4⟩ := ih (x + 1) N n (by omega) (by omega) (by omega) (by unfold n_I; rw [hNk _ _ (by decide)]; exact h45)
    refine ⟨M', ?_, fun k i z => (w2 k i z).trans (hNk k i z), fun j hj => (w3 j (by omega)).trans (hNi j (by omega)), fun j h1 h2 => ?_⟩
    · rw [F_X4_runOn_56, h45, if_neg (nI_ge (by omega) (by omega)), nI_1, y_aI (by omega) (by omega), y_b, y_sI (by omega) (by omega), y_b, ← hN, w1]
    · by_cases e : j = x
      · subst e
        unfold n_I
        rw [w3 j (by omega), hN, y_us]; rfl
      · rw [w4 j (by omega) h2]
        unfold n_I
        rw [hNi _ (by omega)]
/-- the first raised event is taken -/
theorem s_pop {M : gM} {S : gm_S} (h : RC A M0 C M S c1 c2) {q : Nat} (hq : n_I M 45 0 = nI (q + 1)) (hq10 : q < 10) {fu : Nat} (hf : 100 ≤ fu) (k13 : Int32 → gM → gQ) (k23 : gM → gQ) : ∃ (e : Nat) (M' : gM) (S' : gm_S), n_aI M 46 10 0 = some (nI e) ∧
    F_X4_runOn_56 fu k13 k23 fu (nI e) 0 (n_p M 45 (nI q)) = (gz_cV (F_X4_choose fu (nI e) M') fun M2 => k23 M2) ∧
    (∀ K : Int32 → gm_S → gR, (Option.bind (g_gR S (some (A 2 0)) 3 4) fun v4 => Option.bind (g_gI S (some (A 2 0)) 3 5) fun v5 => Option.bind (g_aI S v4 1 v5) fun v6 => Option.bind (g_gI S (some (A 2 0)) 3 5) fun v7 => Option.bind (g_pI S (some (A 2 0)) 3 5 ((v7 + (1 : Int32)) - (v7 + (1 : Int32)) / (10 : Int32) * (10 : Int32))) fun S8 => Option.bind (g_gI S8 (some (A 2 0)) 3 6) fun v9 => Option.bind (g_pI S8 (some (A 2 0)) 3 6 (v9 - (1 : Int32))) fun S10 => K v6 S10) = K (nI e) S') ∧
    RC A M0 C M' S' c1 c2 ∧ (∀ k i, k ≠ 45 → k ≠ 46 → M' k i = M k i) ∧ n_I M' 45 0 = nI q := by
  obtain ⟨q1, q2, q3, f, q', q4, q5, q6, q7, q8, q9⟩ := h.q
  have eq : q' = q + 1 := (nI_eq (by omega) (by omega)).mp (q8.symm.trans hq)
  subst eq
  have ht := h.rt
  have ha : gs_t S (A 2 0) ≠ 0 := by rw [ht]; decide
  have hb : gs_t S (A 4 0) ≠ 0 := by rw [q2]; decide
  obtain ⟨e, e1, e2, e3, e4⟩ := q9 0 (by omega)
  rw [Nat.add_zero, Nat.mod_eq_of_lt q4] at e3
  obtain ⟨M', w1, w2, w3, w4⟩ := m_shift (fu := fu) k13 k23 (nI e) (q := q) (by omega) q 0 (n_p M 45 (nI q)) fu (by omega) (by omega) (by omega) n_ps
  have hm : (f + 1) % 10 < 10 := Nat.mod_lt _ (by omega)
  have g := (ag.put (S := S) (F := 305) (a := A 2 0) (i := 0) (v := .int (nI ((f + 1) % 10))) (by decide)).trans (ag.put (F := 306) (a := A 2 0) (i := 0) (v := .int (nI q)) (by decide))
  have hu : ∀ k i, k ≠ 45 → k ≠ 46 → M' k i = M k i := fun k i h1 h2 => (w2 k i h2).trans (y_uk h1)
  refine ⟨e, M', gs_put (gs_put S 305 (A 2 0) 0 (.int (nI ((f + 1) % 10)))) 306 (A 2 0) 0 (.int (nI q)), ?_, w1, fun K => ?_, ?_, hu, ?_⟩
  · rw [show n_aI M 46 10 0 = some (n_I M 46 0) from y_aI (i := 0) (by omega) (by omega), e4]
  · have ea : g_aI S (some (A 4 0)) 1 (nI f) = some (nI e) := by
      unfold g_aI
      rw [y_el (t := 1) q2 q3 q4 (by omega)]
      show some (gm_I (S.1 2 (A 4 0) f)) = _
      rw [e3]
    rw [q1, y_b, q6, y_b, ea, y_b, y_b, nI_1, y_rem (by omega), y_pI ht, y_b, (ag.put (by decide)).gI q7 (by decide) (by simp), y_b, nI_sub1, y_pI ((y_pt (by decide)).trans ht), y_b]
  · refine h.upd g ((h.inv.put (by decide) ha).put (by decide) (by rw [y_pt (by decide)]; exact ha)) (fun F a z => ?_) (fun a z => by rcases z with z | z <;> exact z.elim) (Mc_ag h.mc (fun k i z => hu k i (by omega) (by omega))) (fun k i hk => hu k i (by omega) (by omega))
        (h.a.mono g (by simp) (fun k i hk => hu k i (by omega) (by omega))) (h.v.mono g (by simp) (fun i => hu _ i (by omega) (by omega))) ?_
        (h.s.mono g (by simp) (by simp) (fun k i hk => hu k i (by omega) (by omega))) (h.t.mono g (by simp) (fun k i hk => hu k i (by omega) (by omega))) (h.c.mono g (by simp)) (h.h.mono g (by simp) (fun k i hk => hu k i (by omega) (by omega))) (h.b.same rfl rfl rfl (fun b => by rw [y_cap (by decide), y_cap (by decide)]))
    · rcases z with z | z <;> rw [z.1] <;> exact ⟨by decide, fun w => absurd w (by decide)⟩
    · refine ⟨g.gR q1 (by decide) (by simp), (g.2.2 _ hb).trans q2, by rw [g.1 _ _ _ hb (by simp)]; exact q3, (f + 1) % 10, q, hm, by omega, ?_, ?_, ?_, fun j hj => ?_⟩
      · rw [y_gI ((g.2.2 _ ha).trans ht), y_pM (by simp), y_pE]; rfl
      · rw [y_gI ((g.2.2 _ ha).trans ht), y_pE]; rfl
      · unfold n_I; rw [w2 _ _ (by decide)]; exact n_ps
      · obtain ⟨e', f1, f2, f3, f4⟩ := q9 (j + 1) (by omega)
        refine ⟨e', f1, f2, ?_, ?_⟩
        · rw [g.1 _ _ _ hb (by simp), show ((f + 1) % 10 + j) % 10 = (f + (j + 1)) % 10 by omega]
          exact f3
        · rw [w4 j (by omega) hj, n_po (by decide)]
          exact f4
  · unfold n_I; rw [w2 _ _ (by decide)]; exact n_ps
/-- how a run ends: in peace, or stuck -/
def rO (A : gA) (M0 C M M' : gM) (o : Outcome) (S' : gm_S) : Prop := ∃ d1 d2, (o = .returned none ∧ RC A M0 C M' S' d1 d2 ∧ n_I M' 40 0 = 1 ∧ n_I M' 52 0 = 0 ∧ n_I M 47 0 ≤ n_I M' 47 0) ∨ (∃ a, o = .threw a ∧ gs_t S' a = 19 ∧ RC (aB A (A 33 0 + 1) (A 33 1 + 6)) M0 C M' S' d1 d2 ∧ n_I M' 40 0 = 0 ∧ n_I M' 52 0 = 1)
theorem rO.wk {M1 M M' : gM} {o : Outcome} {S' : gm_S} (h : rO A M0 C M M' o S') (g : n_I M1 47 0 ≤ n_I M 47 0) : rO A M0 C M1 M' o S' := by
  obtain ⟨d1, d2, ⟨e1, e2, e3, e4, e5⟩ | e⟩ := h
  · exact ⟨d1, d2, Or.inl ⟨e1, e2, e3, e4, Int32.le_trans g e5⟩⟩
  · exact ⟨d1, d2, Or.inr e⟩
theorem s_run6 {fu : Nat} (hf : 7000000000 ≤ fu) (hb : A 33 0 + 1 ≤ 600000) (hb' : A 33 1 + 6 ≤ 7301000) {k13 : Int32 → gM → gQ} {k0 : Option Nat → gm_S → gR} {q : Nat} (hq30 : q ≤ 30)
    (hK0 : ∀ M, k13 0 M = some (.returned none, M))
    (hK : q < 30 → ∀ (M : gM) (S : gm_S) (d1 d2 : Nat), RC A M0 C M S d1 d2 → n_I M 40 0 = 1 → n_I M 52 0 = 0 → n_I M 51 0 = nI (q + 1) → ∃ M' o S', k13 1 M = some (.returned none, M') ∧ k0 (some (A 2 0)) S = some (o, S') ∧ rO A M0 C M M' o S') :
    ∀ (r : Nat) (M : gM) (S : gm_S) (c1 c2 n m : Nat) (l : List Nat) (V : Nat → Nat → Int32), r ≤ 10 → r < n → r < m → RC A M0 C M S c1 c2 → n_I M 40 0 = 1 → n_I M 52 0 = 0 → n_I M 51 0 = nI q → n_I M 45 0 = nI r → rX A M S c1 l V →
    ∃ M' o S', F_X4_runOn_23 fu k13 n M = some (.returned none, M') ∧ F_X3_runOn_6 fu k0 m (some (A 2 0)) S = some (o, S') ∧ rO A M0 C M M' o S' := by
  have stp : ∀ (M : gM) (S : gm_S) (c1 c2 : Nat) (l : List Nat) (V : Nat → Nat → Int32), RC A M0 C M S c1 c2 → n_I M 40 0 = 1 → n_I M 52 0 = 0 → n_I M 51 0 = nI q → rX A M S c1 l V → ∃ M' o S', F_X4_runOn_92 fu k13 M = some (.returned none, M') ∧ F_X3_runOn_64 fu k0 (some (A 2 0)) S = some (o, S') ∧ rO A M0 C M M' o S' := by
    intro M S c1 c2 l V h hr h52 h51 hx
    obtain ⟨x1, x2, x3, x4, x5⟩ := hx
    unfold F_X4_runOn_92 F_X3_runOn_64
    rw [x4, h.c.1, y_b, y_lemp h.c.2.2.1, y_b, x1]
    cases l with
    | nil =>
      refine ⟨M, .returned none, S, ?_, ?_, c1, c2, Or.inl ⟨rfl, h, hr, h52, Int32.le_refl _⟩⟩
      · rw [if_pos (show nI ([] : List Nat).length ≤ 0 from Int32.le_refl _)]
        unfold F_X4_runOn_104 F_X4_runOn_113
        rw [if_pos rfl, if_pos rfl, hK0]
      · rw [if_pos (show List.map (A 11) [] = [] from rfl), if_neg (by decide)]
    | cons t ts =>
      have hne : ¬ nI (t :: ts).length ≤ 0 := fun z => by
        have := (nI_leI (a := (t :: ts).length) (b := 0) (by omega) (by omega)).mp z
        simp at this
      rw [if_neg hne, if_neg (show ¬ List.map (A 11) (t :: ts) = [] by simp), if_pos rfl, y_q h.rt]
      unfold F_X4_runOn_104 F_X4_runOn_113
      rw [if_neg (by decide)]
      rcases s_step h hr ⟨x1, x2, x3, x4, x5⟩ hf hb hb' h51 hq30 with ⟨e, M1, S1, a, z1, z2, z3, z4, z5, z6⟩ | ⟨e, M1, S1, z1, z2, z3, z4, z5, z6, z7⟩
      · refine ⟨M1, .threw a, S1, ?_, ?_, c1, c2, Or.inr ⟨a, rfl, z3, z4, z5, z6⟩⟩
        · rw [z1, y_cV, if_neg (by decide), z6, if_neg (by decide), hK0]
        · rw [z2, y_cVt]
      · obtain ⟨M', o, S', w1, w2, w3⟩ := hK e M1 S1 c1 c2 z3 z4 (z6.trans h52) z5
        refine ⟨M', o, S', ?_, ?_, w3.wk z7⟩
        · rw [z1, y_cV, if_neg (by decide), z6.trans h52, if_pos rfl, w1]
        · rw [z2, y_cV, w2]
  intro r
  induction r with
  | zero =>
    intro M S c1 c2 n m l V hr10 hn hm h hr h52 h51 h45 hx
    obtain ⟨n, rfl⟩ : ∃ n', n = n' + 1 := ⟨n - 1, by omega⟩
    obtain ⟨m, rfl⟩ : ∃ m', m = m' + 1 := ⟨m - 1, by omega⟩
    obtain ⟨q1, q2, q3, f, q', q4, q5, q6, q7, q8, q9⟩ := h.q
    have eq : q' = 0 := (nI_eq (by omega) (by omega)).mp (q8.symm.trans h45)
    rw [eq] at q7
    obtain ⟨M', o, S', w1, w2, w3⟩ := stp M S c1 c2 l V h hr h52 h51 hx
    obtain ⟨x1, x2, x3, x4, x5⟩ := hx
    rw [F_X4_runOn_23, F_X3_runOn_6, x4, h.c.1, y_b, y_lemp h.c.2.2.1, y_b, x1, h45, q7]
    simp only [y_b]
    rw [if_pos (show nI 0 ≤ 0 from Int32.le_refl _), if_pos (show nI 0 ≤ 0 from Int32.le_refl _)]
    refine ⟨M', o, S', ?_, ?_, w3⟩
    · by_cases z : nI l.length = 0
      · rw [if_pos z, w1]
      · rw [if_neg z, w1]
    · by_cases z : (if List.map (A 11) l = [] then (1 : Int32) else 0) = 0
      · rw [if_pos z, w2]
      · rw [if_neg z, w2]
  | succ r ih =>
    intro M S c1 c2 n m l V hr10 hn hm h hr h52 h51 h45 hx
    obtain ⟨n, rfl⟩ : ∃ n', n = n' + 1 := ⟨n - 1, by omega⟩
    obtain ⟨m, rfl⟩ : ∃ m', m = m' + 1 := ⟨m - 1, by omega⟩
    have hx0 := hx
    obtain ⟨x1, x2, x3, x4, x5⟩ := hx
    obtain ⟨q1, q2, q3, f, q', q4, q5, q6, q7, q8, q9⟩ := h.q
    have eq : q' = r + 1 := (nI_eq (by omega) (by omega)).mp (q8.symm.trans h45)
    rw [eq] at q7
    have hne : ¬ nI (r + 1) ≤ 0 := fun z => by
      have := (nI_leI (a := r + 1) (b := 0) (by omega) (by omega)).mp z
      omega
    cases l with
    | cons t ts =>
      obtain ⟨M', o, S', w1, w2, w3⟩ := stp M S c1 c2 _ V h hr h52 h51 hx0
      refine ⟨M', o, S', ?_, ?_, w3⟩
      · have : ¬ nI (t :: ts).length = 0 := fun z => by
          have := (nI_eq (a := (t :: ts).length) (b := 0) (by omega) (by omega)).mp z
          simp at this
        rw [F_X4_runOn_23, x4, if_neg this, w1]
      · rw [F_X3_runOn_6, h.c.1, y_b, y_lemp h.c.2.2.1, y_b, x1, if_neg (show ¬ List.map (A 11) (t :: ts) = [] by simp), if_pos rfl, w2]
    | nil =>
      obtain ⟨e, M1, S1, p1, p2, p3, p4, p5, p6⟩ := s_pop h h45 (by omega) (fu := fu) (by omega) k13 (F_X4_runOn_23 fu k13 n)
      obtain ⟨l', V', M2, S2, c1', c2', c3', c4', c5'⟩ := s_choose p4 (fu := fu) (by omega) (nI e)
      have gk : ∀ k, k = 40 ∨ k = 51 ∨ k = 52 → n_I M2 k 0 = n_I M k 0 := fun k z => by
        rw [c5'.nI (by omega)]
        unfold n_I
        rw [p5 _ _ (by omega) (by omega)]
      obtain ⟨M', o, S', w1, w2, w3⟩ := ih M2 S2 c2 c1 n m l' V' (by omega) (by omega) (by omega) c3' ((gk 40 (by omega)).trans hr) ((gk 52 (by omega)).trans h52) ((gk 51 (by omega)).trans h51) ((c5'.nI (by omega)).trans p6) c4'
      refine ⟨M', o, S', ?_, ?_, w3.wk (by rw [c5'.nI (by omega)]; unfold n_I; rw [p5 _ _ (by omega) (by omega)]; exact Int32.le_refl _)⟩
      · rw [F_X4_runOn_23, x4, if_pos (show nI ([] : List Nat).length = 0 from rfl), h45, if_neg hne, p1, y_b, nI_sub1, show n_pIO M 45 (nI r) = some (n_p M 45 (nI r)) from rfl, y_b, p2, c1', y_cV, w1]
      · have p3' := p3 (fun v6 S10 => gz_q (g_at S10 (some (A 2 0)) 3) (gz_cV (F_X3_choose fu (some (A 2 0)) v6 S10) fun S11 => F_X3_runOn_6 fu k0 m (some (A 2 0)) S11))
        rw [F_X3_runOn_6, h.c.1, y_b, y_lemp h.c.2.2.1, y_b, x1, if_pos (show List.map (A 11) [] = [] from rfl), if_neg (by decide), q7, y_b, if_neg hne]
        rw [p3', y_q p4.rt, c2', y_cV, w2]
theorem s_run0 {fu : Nat} (hf : 7000000000 ≤ fu) (hb : A 33 0 + 1 ≤ 600000) (hb' : A 33 1 + 6 ≤ 7301000) : ∀ (d q : Nat) (M : gM) (S : gm_S) (c1 c2 n m : Nat), 30 - q = d → q ≤ 30 → d + 1 < n → d < m → RC A M0 C M S c1 c2 → n_I M 40 0 = 1 → n_I M 52 0 = 0 → n_I M 51 0 = nI q →
    ∃ M' o S', F_X4_runOn_13 fu n 1 M = some (.returned none, M') ∧ F_X3_runOn_0 fu m (some (A 2 0)) S = some (o, S') ∧ rO A M0 C M M' o S' := by
  intro d
  induction d with
  | zero =>
    intro q M S c1 c2 n m hd hq hn hm h hr h52 h51
    obtain ⟨n, rfl⟩ : ∃ n', n = n' + 1 := ⟨n - 1, by omega⟩
    obtain ⟨m, rfl⟩ : ∃ m', m = m' + 1 := ⟨m - 1, by omega⟩
    obtain ⟨l, V, M1, S1, z1, z2, z3, z4, z5⟩ := s_choose h (fu := fu) (by omega) 46
    obtain ⟨-, -, -, f, r, -, r10, -, -, r8, -⟩ := z3.q
    obtain ⟨M', o, S', w1, w2, w3⟩ := s_run6 hf hb hb' (k13 := F_X4_runOn_13 fu n) (k0 := F_X3_runOn_0 fu m) hq (fun M => by obtain ⟨n, rfl⟩ : ∃ n', n = n' + 1 := ⟨n - 1, by omega⟩; rw [F_X4_runOn_13, if_pos rfl]) (fun z => by omega) r M1 S1 c2 c1 fu fu l V r10 (by omega) (by omega) z3 ((z5.nI (by omega)).trans hr) ((z5.nI (by omega)).trans h52) ((z5.nI (by omega)).trans h51) r8 z4
    refine ⟨M', o, S', ?_, ?_, w3.wk (by rw [z5.nI (by omega)]; exact Int32.le_refl _)⟩
    · rw [F_X4_runOn_13, if_neg (by decide), z1, y_cV, w1]
    · rw [F_X3_runOn_0, y_q h.rt, z2, y_cV, w2]
  | succ d ih =>
    intro q M S c1 c2 n m hd hq hn hm h hr h52 h51
    obtain ⟨n, rfl⟩ : ∃ n', n = n' + 1 := ⟨n - 1, by omega⟩
    obtain ⟨m, rfl⟩ : ∃ m', m = m' + 1 := ⟨m - 1, by omega⟩
    obtain ⟨l, V, M1, S1, z1, z2, z3, z4, z5⟩ := s_choose h (fu := fu) (by omega) 46
    obtain ⟨-, -, -, f, r, -, r10, -, -, r8, -⟩ := z3.q
    obtain ⟨M', o, S', w1, w2, w3⟩ := s_run6 hf hb hb' (k13 := F_X4_runOn_13 fu n) (k0 := F_X3_runOn_0 fu m) hq (fun M => by obtain ⟨n, rfl⟩ : ∃ n', n = n' + 1 := ⟨n - 1, by omega⟩; rw [F_X4_runOn_13, if_pos rfl]) (fun z M S d1 d2 y1 y2 y3 y4 => ih (q + 1) M S d1 d2 n m (by omega) (by omega) (by omega) (by omega) y1 y2 y3 y4) r M1 S1 c2 c1 fu fu l V r10 (by omega) (by omega) z3 ((z5.nI (by omega)).trans hr) ((z5.nI (by omega)).trans h52) ((z5.nI (by omega)).trans h51) r8 z4
    refine ⟨M', o, S', ?_, ?_, w3.wk (by rw [z5.nI (by omega)]; exact Int32.le_refl _)⟩
    · rw [F_X4_runOn_13, if_neg (by decide), z1, y_cV, w1]
    · rw [F_X3_runOn_0, y_q h.rt, z2, y_cV, w2]
theorem s_runOn {fu : Nat} (hf : 7000000000 ≤ fu) (hb : A 33 0 + 1 ≤ 600000) (hb' : A 33 1 + 6 ≤ 7301000) {M : gM} {S : gm_S} (h : RC A M0 C M S c1 c2) (hr : n_I M 40 0 = 1) (h52 : n_I M 52 0 = 0) : ∃ M' o S', F_X4_runOn fu M = some (.returned none, M') ∧ F_X3_runOn fu (some (A 2 0)) S = some (o, S') ∧ rO A M0 C M M' o S' := by
  obtain ⟨q, h5, h6, h7⟩ := h.a.2.2.2.2.1
  obtain ⟨M', o, S', w1, w2, w3⟩ := s_run0 hf hb hb' (30 - q) q M S c1 c2 fu fu rfl h5 (by omega) (by omega) h hr h52 h7
  refine ⟨M', o, S', ?_, ?_, w3⟩
  · unfold F_X4_runOn
    rw [h52, if_pos rfl, w1]
  · unfold F_X3_runOn
    rw [w2]
/-- an event comes -/
theorem s_come {fu : Nat} (hf : 7000000000 ≤ fu) (hb : A 33 0 + 1 ≤ 600000) (hb' : A 33 1 + 6 ≤ 7301000) {M : gM} {S : gm_S} (h : RC A M0 C M S c1 c2) (hr : n_I M 40 0 = 1) (h52 : n_I M 52 0 = 0) (e : Int32) : ∃ M' o S', F_X4_come fu e M = some (.returned none, M') ∧ F_X3_come fu (some (A 2 0)) e S = some (o, S') ∧ rO A M0 C M M' o S' := by
  obtain ⟨l, V, M1, S1, z1, z2, z3, z4, z5⟩ := s_choose h (fu := fu) (by omega) e
  have hr1 := (z5.nI (k := 40) (i := 0) (by omega)).trans hr
  have h521 := (z5.nI (k := 52) (i := 0) (by omega)).trans h52
  have z40 := z4
  obtain ⟨x1, x2, x3, x4, x5⟩ := z4
  unfold F_X4_come F_X3_come
  rw [z1, y_cV, y_q h.rt, z2, y_cV, z3.c.1, y_b, y_lemp z3.c.2.2.1, y_b, x1, x4]
  cases l with
  | nil =>
    obtain ⟨M', o, S', w1, w2, w3⟩ := s_runOn hf hb hb' z3 hr1 h521
    rw [if_pos (show nI ([] : List Nat).length ≤ 0 from Int32.le_refl _), if_pos (show List.map (A 11) [] = [] from rfl), if_neg (by decide)]
    unfold F_X4_come_16 F_X3_come_19
    rw [w1, y_cV, y_q z3.rt, w2]
    refine ⟨M', o, S', rfl, ?_, w3.wk (by rw [z5.nI (by omega)]; exact Int32.le_refl _)⟩
    obtain ⟨d1, d2, ⟨w, -⟩ | ⟨a, w, -⟩⟩ := w3 <;> rw [w] <;> rfl
  | cons t ts =>
    have hne : ¬ nI (t :: ts).length ≤ 0 := fun z => by
      have := (nI_leI (a := (t :: ts).length) (b := 0) (by omega) (by omega)).mp z
      simp at this
    rw [if_neg hne, if_neg (show ¬ List.map (A 11) (t :: ts) = [] by simp), if_pos rfl, y_q z3.rt]
    unfold F_X4_come_16 F_X3_come_19
    obtain ⟨q, h5, h6, h7⟩ := z3.a.2.2.2.2.1
    rcases s_step z3 hr1 z40 hf hb hb' h7 h5 with ⟨e, M2, S2, a, y1, y2, y3, y4, y5, y6⟩ | ⟨e, M2, S2, y1, y2, y3, y4, y5, y6, y7⟩
    · rw [y1, y_cV, y2, y_cVt]
      refine ⟨M2, .threw a, S2, ?_, rfl, _, _, Or.inr ⟨a, rfl, y3, y4, y5, y6⟩⟩
      unfold F_X4_runOn
      obtain ⟨f, rfl⟩ : ∃ f, fu = f + 1 := ⟨fu - 1, by omega⟩
      rw [y6, if_neg (by decide), F_X4_runOn_13, if_pos rfl, y_cV]
    · obtain ⟨M', o, S', w1, w2, w3⟩ := s_runOn hf hb hb' y3 y4 (y6.trans h521)
      rw [y1, y_cV, y2, y_cV, w1, y_cV, y_q y3.rt, w2]
      refine ⟨M', o, S', rfl, ?_, w3.wk (Int32.le_trans (by rw [z5.nI (by omega)]; exact Int32.le_refl _) y7)⟩
      obtain ⟨d1, d2, ⟨w, -⟩ | ⟨a, w, -⟩⟩ := w3 <;> rw [w] <;> rfl
end RCQ
