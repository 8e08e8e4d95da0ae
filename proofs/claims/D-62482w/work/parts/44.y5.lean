/-! LAYER 2: the run's small methods against the model's: note, variables, the queue, sent events -/
set_option maxRecDepth 100000
section RCT
variable {A : gA} {M0 C M : gM} {S : gm_S} {c1 c2 : Nat}
theorem RC.upd (h : RC A M0 C M S c1 c2) {E : Nat → Nat → Prop} {L : Nat → Prop} {S' : gm_S} {M' : gM} {d1 d2 : Nat} (g : ag E L S S') (hi : g_inv M0 S') (hE : ∀ F a, E F a → k_dyn F = true ∧ (F = 2 → a ≠ A 34 0 ∧ a ≠ A 34 2)) (hL : ∀ a, L a → a < A 7 0) (hm : Mc M' = C) (hM : ∀ k i, k = 1 ∨ k = 2 ∨ k = 3 ∨ k = 6 ∨ k = 7 ∨ k = 17 → M' k i = M k i)
    (pa : rDa A M' S') (pv : rDv A M' S') (pq : rDq A M' S') (ps : rDs A M' S') (pt : rDt A M' S') (pc : rDc A S' d1 d2) (ph : rDh A M' S') (pb : rDb A S' d1 d2) : RC A M0 C M' S' d1 d2 := by
  refine ⟨hi, h.W, h.H.kp (g.kp (fun F b z => (hE F b z).1) hL), hm, pa, pv, pq, ps, pt, pc, ph, pb, h.r.mono g ⟨fun k b hk z => ?_, fun k b hk z => ?_, fun b z => ?_, fun z => ?_, fun z => ?_⟩ hM⟩
  · have hd := (hE _ _ z).1
    simp only [k_dyn, Bool.or_eq_true, Bool.and_eq_true, decide_eq_true_eq, beq_iff_eq] at hd
    omega
  · have hd := (hE _ _ z).1
    simp only [k_dyn, Bool.or_eq_true, Bool.and_eq_true, decide_eq_true_eq, beq_iff_eq] at hd
    omega
  · exact absurd (hE _ _ z).1 (by decide)
  · exact ((hE _ _ z).2 rfl).1 rfl
  · exact ((hE _ _ z).2 rfl).2 rfl
theorem RC.d35 (h : RC A M0 C M S c1 c2) : A 3 0 ≠ A 5 0 := fun z => by have := h.v.2.1; rw [z, h.t.2.1] at this; exact absurd this (by decide)
theorem RC.d34 (h : RC A M0 C M S c1 c2) : A 3 0 ≠ A 4 0 := fun z => by have := h.v.2.1; rw [z, h.q.2.1] at this; exact absurd this (by decide)
theorem RC.d45 (h : RC A M0 C M S c1 c2) : A 4 0 ≠ A 5 0 := fun z => by have := h.q.2.1; rw [z, h.t.2.1] at this; exact absurd this (by decide)
theorem RC.t3 (h : RC A M0 C M S c1 c2) : A 3 0 ≠ A 34 0 ∧ A 3 0 ≠ A 34 2 := by
  obtain ⟨-, -, -, -, -, h6, -, -, h9, -⟩ := h.r
  exact ⟨fun z => by have := h.v.2.1; rw [z, h9] at this; exact absurd this (by decide), fun z => by have := h.v.2.1; rw [z, h6] at this; exact absurd this (by decide)⟩
theorem RC.t4 (h : RC A M0 C M S c1 c2) : A 4 0 ≠ A 34 0 ∧ A 4 0 ≠ A 34 2 := by
  obtain ⟨-, -, -, -, -, h6, -, -, h9, -, -, -, -, d1, -⟩ := h.r
  exact ⟨Ne.symm d1, fun z => by have := h.q.2.1; rw [z, h6] at this; exact absurd this (by decide)⟩
theorem RC.t5 (h : RC A M0 C M S c1 c2) : A 5 0 ≠ A 34 0 ∧ A 5 0 ≠ A 34 2 := by
  obtain ⟨-, -, -, -, -, h6, -, -, h9, -, -, -, -, d1, d2, d3, -⟩ := h.r
  exact ⟨fun z => by have := h.t.2.1; rw [z, h9] at this; exact absurd this (by decide), Ne.symm d3⟩
theorem s_note (h : RC A M0 C M S c1 c2) (fu : Nat) (x : Int32) : ∃ M' S', F_X4_note fu x M = some (.returned none, M') ∧ F_X3_note fu (some (A 2 0)) x S = some (.returned none, S') ∧ RC A M0 C M' S' c1 c2 ∧ fX S S' M M' c1 := by
  obtain ⟨t1, t2, t3, q, t4, t5, t6, t7⟩ := h.t
  have ht := h.rt
  have ha : gs_t S (A 2 0) ≠ 0 := by rw [ht]; decide
  have hb : gs_t S (A 5 0) ≠ 0 := by rw [t2]; decide
  by_cases hq : q = 100
  · refine ⟨M, S, ?_, ?_, h, fX.rfl⟩
    · unfold F_X4_note
      rw [t6, hq, if_pos (by decide)]
    · unfold F_X3_note
      rw [t5, hq, y_b, if_pos (by decide)]
  · have hlt : q < 100 := by omega
    have e1 : ¬ nI q = (100 : Int32) := fun z => hq ((nI_eq (a := q) (b := 100) (by omega) (by omega)).mp z)
    have e2 : ¬ (100 : Int32) ≤ nI q := nI_ge (a := q) (b := 100) hlt (by omega)
    refine ⟨n_p (n_up M 54 q (.int x)) 53 (nI (q + 1)), gs_put (gs_put S 310 (A 2 0) 0 (.int (nI (q + 1)))) 2 (A 5 0) q (.int x), ?_, ?_, ?_⟩
    · unfold F_X4_note
      rw [t6, if_neg e1, y_sI hlt (by omega), y_b]
      show some (Outcome.returned none, n_p (n_up M 54 q (.int x)) 53 (gm_I (n_up M 54 q (.int x) 53 0) + 1)) = _
      rw [y_uk (by decide)]
      rw [show gm_I (M 53 0) = nI q from t6, nI_1]
    · unfold F_X3_note
      rw [t5, y_b, if_neg e2, t1, y_b, y_b, y_pI ht, y_b, nI_1]
      unfold g_sI
      rw [y_as (n := 100) ((y_pt (by decide)).trans t2) (by rw [y_pM (by simp)]; exact t3) hlt (by omega), y_b]
    · have g := (ag.put (S := S) (F := 310) (a := A 2 0) (i := 0) (v := .int (nI (q + 1))) (by decide)).trans (ag.put (F := 2) (a := A 5 0) (i := q) (v := .int x) (by decide))
      have hu : ∀ k i, k ≠ 53 → k ≠ 54 → n_p (n_up M 54 q (.int x)) 53 (nI (q + 1)) k i = M k i := fun k i h1 h2 => (y_uk h1).trans (y_uk h2)
      refine ⟨h.upd g ((h.inv.put (by decide) ha).put (by decide) (by rw [y_pt (by decide)]; exact hb)) (fun F a z => ?_) (fun a z => by rcases z with z | z <;> exact z.elim) (Mc_up (Mc_up h.mc (by omega)) (by omega)) (fun k i hk => hu k i (by omega) (by omega))
        (h.a.mono g (by simp) (fun k i hk => hu k i (by omega) (by omega))) (h.v.mono g (by simp [h.d35]) (fun i => hu _ i (by omega) (by omega))) (h.q.mono g (by simp [h.d45]) (fun k i hk => hu k i (by omega) (by omega)))
        (h.s.mono g (by simp) (by simp) (fun k i hk => hu k i (by omega) (by omega))) ?_ (h.c.mono g (by simp)) (h.h.mono g (by simp) (fun k i hk => hu k i (by omega) (by omega))) (h.b.same rfl rfl rfl (fun b => by rw [y_cap (by decide), y_cap (by decide)])), fX.of g (by rw [h.c.2.2.1]; decide) (by simp) (fun F a z => ?_) (fun k i hk => hu k i (by omega) (by omega))⟩
      · rcases z with z | z
        · rw [z.1]; exact ⟨by decide, fun w => absurd w (by decide)⟩
        · rw [z.1, z.2]; exact ⟨by decide, fun _ => h.t5⟩
      · refine ⟨g.gR t1 (by decide) (by simp), (g.2.2 _ hb).trans t2, by rw [g.1 _ _ _ hb (by simp)]; exact t3, q + 1, by omega, ?_, ?_, fun j hj => ?_⟩
        · rw [y_gI ((g.2.2 _ ha).trans ht), y_pM (by simp), y_pE]; rfl
        · show gm_I (n_up (n_up M 54 q (.int x)) 53 0 (.int (nI (q + 1))) 53 0) = _
          rw [y_us]; rfl
        · show _ = gm_I (n_up (n_up M 54 q (.int x)) 53 0 (.int (nI (q + 1))) 54 j)
          rw [y_uk (by decide)]
          by_cases e : j = q
          · subst e
            rw [y_us, y_pE]
          · rw [y_ui e, y_pM (by simp [e]), y_pM (by simp)]
            exact t7 j (by omega)
      · rcases z with z | z <;> omega
end RCT
