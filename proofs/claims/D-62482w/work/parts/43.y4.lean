/-! LAYER 2: single stores of a run, on both sides -/
set_option maxRecDepth 100000
section RCS
variable {A : gA} {M0 C M : gM} {S : gm_S} {c1 c2 : Nat}
theorem RC.inv (h : RC A M0 C M S c1 c2) : g_inv M0 S := h.1
theorem RC.W (h : RC A M0 C M S c1 c2) : cW A C := h.2.1
theorem RC.H (h : RC A M0 C M S c1 c2) : cH A C S := h.2.2.1
theorem RC.mc (h : RC A M0 C M S c1 c2) : Mc M = C := h.2.2.2.1
theorem RC.a (h : RC A M0 C M S c1 c2) : rDa A M S := h.2.2.2.2.1
theorem RC.v (h : RC A M0 C M S c1 c2) : rDv A M S := h.2.2.2.2.2.1
theorem RC.q (h : RC A M0 C M S c1 c2) : rDq A M S := h.2.2.2.2.2.2.1
theorem RC.s (h : RC A M0 C M S c1 c2) : rDs A M S := h.2.2.2.2.2.2.2.1
theorem RC.t (h : RC A M0 C M S c1 c2) : rDt A M S := h.2.2.2.2.2.2.2.2.1
theorem RC.c (h : RC A M0 C M S c1 c2) : rDc A S c1 c2 := h.2.2.2.2.2.2.2.2.2.1
theorem RC.h (h : RC A M0 C M S c1 c2) : rDh A M S := h.2.2.2.2.2.2.2.2.2.2.1
theorem RC.b (h : RC A M0 C M S c1 c2) : rDb A S c1 c2 := h.2.2.2.2.2.2.2.2.2.2.2.1
theorem RC.r (h : RC A M0 C M S c1 c2) : rR A M S := h.2.2.2.2.2.2.2.2.2.2.2.2
theorem RC.rt (h : RC A M0 C M S c1 c2) : gs_t S (A 2 0) = 3 := by
  obtain ⟨a, e, ht, -⟩ := y_gRt h.a.1
  cases e
  exact ht
/-- what the chosen transitions stand on -/
def fX (S S' : gm_S) (M M' : gM) (c1 : Nat) : Prop := S'.2.1 c1 = S.2.1 c1 ∧ (∀ F a i, gs_t S a ≠ 0 → 1005 ≤ F → F ≤ 1007 → S'.1 F a i = S.1 F a i) ∧ (∀ a, gs_t S a ≠ 0 → gs_t S' a = gs_t S a) ∧ (∀ k i, k = 40 ∨ k = 51 ∨ k = 52 ∨ (55 ≤ k ∧ k ≤ 59) → M' k i = M k i) ∧ n_I M 47 0 ≤ n_I M' 47 0
theorem fX.rfl {c1 : Nat} : fX S S M M c1 := ⟨Eq.refl _, fun _ _ _ _ _ _ => Eq.refl _, fun _ _ => Eq.refl _, fun _ _ _ => Eq.refl _, Int32.le_refl _⟩
theorem fX.trans {S' S'' : gm_S} {M' M'' : gM} (h : fX S S' M M' c1) (h' : fX S' S'' M' M'' c1) : fX S S'' M M'' c1 :=
  ⟨h'.1.trans h.1, fun F a i ha h1 h2 => (h'.2.1 F a i (by rw [h.2.2.1 a ha]; exact ha) h1 h2).trans (h.2.1 F a i ha h1 h2), fun a ha => (h'.2.2.1 a (by rw [h.2.2.1 a ha]; exact ha)).trans (h.2.2.1 a ha), fun k i hk => (h'.2.2.2.1 k i hk).trans (h.2.2.2.1 k i hk), Int32.le_trans h.2.2.2.2 h'.2.2.2.2⟩
theorem fX.of {E : Nat → Nat → Prop} {L : Nat → Prop} {S' : gm_S} {M' : gM} (g : ag E L S S') (hc : gs_t S c1 ≠ 0) (hL : ¬ L c1) (hE : ∀ F a, E F a → ¬ (1005 ≤ F ∧ F ≤ 1007)) (hM : ∀ k i, k = 40 ∨ k = 47 ∨ k = 51 ∨ k = 52 ∨ (55 ≤ k ∧ k ≤ 59) → M' k i = M k i) : fX S S' M M' c1 :=
  ⟨g.2.1 c1 hc hL, fun F a i ha h1 h2 => g.1 F a i ha (fun z => hE F a z ⟨h1, h2⟩), g.2.2, fun k i hk => hM k i (by omega), by unfold n_I; rw [hM 47 0 (by omega)]; exact Int32.le_refl _⟩
/-- nothing of the room changes -/
theorem rDb.same {S' : gm_S} (h : rDb A S c1 c2) (hc : gs_c S' = gs_c S) (hk : gs_k S' = gs_k S) (hs : (S'.2.1 (A 6 0)).length = (S.2.1 (A 6 0)).length) (hp : ∀ a, g_cap S' a = g_cap S a) : rDb A S' c1 c2 := by
  unfold rDb p_c p_k at *
  rw [hc, hk, hs, hp, hp, hp]
  exact h
theorem y_cap {F a i b : Nat} {v : Value} (h : F ≠ 3) : g_cap (gs_put S F a i v) b = g_cap S b := by
  unfold g_cap
  rw [y_pM (fun z => h z.1.symm)]
theorem n1 {F F' a b : Nat} (h : F' ≠ F) : ¬ (F' = F ∧ b = a) := fun z => h z.1
theorem n2 {F F' a b : Nat} (h : b ≠ a) : ¬ (F' = F ∧ b = a) := fun z => h z.2
/-- a store into a dynamic key: what is not of the pieces -/
theorem RC.put (h : RC A M0 C M S c1 c2) {F a i : Nat} {v : Value} {M' : gM} (hd : k_dyn F = true) (h3 : F ≠ 3) (ha : gs_t S a ≠ 0) (hm : Mc M' = C) (hr : F ≠ 2 ∨ (a ≠ A 34 0 ∧ a ≠ A 34 2)) (hM : ∀ k i, k = 1 ∨ k = 2 ∨ k = 3 ∨ k = 6 ∨ k = 7 ∨ k = 17 → M' k i = M k i)
    (pa : rDa A M' (gs_put S F a i v)) (pv : rDv A M' (gs_put S F a i v)) (pq : rDq A M' (gs_put S F a i v)) (ps : rDs A M' (gs_put S F a i v)) (pt : rDt A M' (gs_put S F a i v)) (pc : rDc A (gs_put S F a i v) c1 c2) (ph : rDh A M' (gs_put S F a i v)) : RC A M0 C M' (gs_put S F a i v) c1 c2 := by
  have h0 : F ≠ 0 := fun z => by rw [z] at hd; exact absurd hd (by decide)
  have g := ag.put (S := S) (F := F) (a := a) (i := i) (v := v) h0
  refine ⟨h.inv.put h0 ha, h.W, h.H.kp (g.kp (fun F' b z => by rw [z.1]; exact hd) (fun _ z => z.elim)), hm, pa, pv, pq, ps, pt, pc, ph, h.b.same rfl rfl rfl (fun b => y_cap h3), h.r.mono g ⟨fun k b hk => ?_, fun k b hk => ?_, fun b => ?_, ?_, ?_⟩ hM⟩
  · intro z
    have : F = 100 + k := z.1.symm
    rw [this] at hd
    simp only [k_dyn, Bool.or_eq_true, Bool.and_eq_true, decide_eq_true_eq, beq_iff_eq] at hd
    omega
  · intro z
    have : F = 200 + k := z.1.symm
    rw [this] at hd
    simp only [k_dyn, Bool.or_eq_true, Bool.and_eq_true, decide_eq_true_eq, beq_iff_eq] at hd
    omega
  · intro z
    have : F = 1 := z.1.symm
    rw [this] at hd
    exact absurd hd (by decide)
  · intro z
    rcases hr with hr | hr
    · exact hr z.1.symm
    · exact hr.1 z.2.symm
  · intro z
    rcases hr with hr | hr
    · exact hr z.1.symm
    · exact hr.2 z.2.symm
theorem RC.wActive (h : RC A M0 C M S c1 c2) (v : Int32) : g_pI S (some (A 2 0)) 3 2 v = some (gs_put S 302 (A 2 0) 0 (.int v)) ∧ RC A M0 C (n_p M 41 v) (gs_put S 302 (A 2 0) 0 (.int v)) c1 c2 ∧ fX S (gs_put S 302 (A 2 0) 0 (.int v)) M (n_p M 41 v) c1 := by
  have ht := h.rt
  have ha : gs_t S (A 2 0) ≠ 0 := by rw [ht]; decide
  have g := ag.put (S := S) (F := 302) (a := A 2 0) (i := 0) (v := .int v) (by decide)
  obtain ⟨h1, h2, h3, h4, ⟨q, h5, h6, h7⟩, ck, h8, h9⟩ := h.a
  refine ⟨y_pI ht, h.put (by decide) (by decide) ha (Mc_up h.mc (by omega)) (Or.inl (by decide)) (fun k i hk => y_uk (by omega)) ⟨g.gR h1 (by decide) (n1 (by decide)), ?_, ?_, ?_, ⟨q, h5, g.gI h6 (by decide) (n1 (by decide)), ?_⟩, ck, g.gI h8 (by decide) (n1 (by decide)), ?_⟩
    (h.v.mono g ⟨n1 (by decide), n1 (by decide), n1 (by decide)⟩ (fun i => y_uk (by decide))) (h.q.mono g ⟨n1 (by decide), n1 (by decide), n1 (by decide), n1 (by decide), n1 (by decide)⟩ (fun k i hk => y_uk (by omega)))
    (h.s.mono g ⟨n1 (by decide), fun x => ⟨n1 (by decide), n1 (by decide)⟩⟩ (fun z => z) (fun k i hk => y_uk (by omega))) (h.t.mono g ⟨n1 (by decide), n1 (by decide), n1 (by decide), n1 (by decide)⟩ (fun k i hk => y_uk (by omega)))
    (h.c.mono g ⟨n1 (by decide), n1 (by decide)⟩) (h.h.mono g (fun i hi => ⟨n1 (by decide), n1 (by decide)⟩) (fun k i hk => y_uk (by omega))), fX.of g (by rw [h.c.2.2.1]; decide) (fun z => z) (fun F a z => by have := z.1; omega) (fun k i hk => y_uk (by omega))⟩
  · show _ = some (gm_I (n_up M 41 0 (.int v) 40 0))
    rw [y_uk (by decide)]
    exact g.gI h2 (by decide) (n1 (by decide))
  · show gm_I (n_up M 41 0 (.int v) 40 0) = 0 ∨ gm_I (n_up M 41 0 (.int v) 40 0) = 1
    rw [y_uk (by decide)]
    exact h3
  · show _ = some (gm_I (n_up M 41 0 (.int v) 41 0))
    rw [y_us, y_gI ((y_pt (by decide)).trans ht), y_pE]
  · show gm_I (n_up M 41 0 (.int v) 51 0) = _
    rw [y_uk (by decide)]
    exact h7
  · show gm_I (n_up M 41 0 (.int v) 40 0) = 1 → ck = gm_I (n_up M 41 0 (.int v) 50 0)
    rw [y_uk (by decide), y_uk (by decide)]
    exact h9
end RCS
