/-! LAYER 2, reading: the table of states with one more -/
set_option maxRecDepth 100000
section RDZh
variable {A : gA} {M0 : gM} {z p bc bk : Nat} {tx : Nat → Nat}
theorem PA.cm {M M' : gM} {S : gm_S} {q : Nat} (h : PA A M S z tx q) (h2 : ∀ k i, k = 2 ∨ k = 3 ∨ k = 5 → M' k i = M k i) (h4 : n_I M' 4 0 = nI q) : PA A M' S z tx q := by
  obtain ⟨h1, h2', h3, h4', h5, h6, h7, h8, h9, h10, h11, h12⟩ := h
  refine ⟨h1, h2', h3, h4', h5, by unfold n_I; rw [h2 _ _ (by omega)]; exact h6, h7, fun j hj => ?_, h9, h10, h4, by unfold n_I; rw [h2 _ _ (by omega)]; exact h12⟩
  unfold n_I
  rw [h2 _ _ (by omega)]
  exact h8 j hj
theorem qS_st {N : gA} {M M' : gM} {S S' : gm_S} {ob ob1 : Nat → Bool} {E : Nat → Nat → Prop} {L : Nat → Prop} {s st r pc d l fu : Nat} (hi : g_inv M0 S) (hf : 100 ≤ fu) (hs : N 9 0 = s) (hs16 : s < 16) (hw : N 9 5 < 2) (hS : qS A N M S ob) (hpc : pc ≤ s) (hd1 : 1 ≤ d) (hd2 : d ≤ 6) (hd : pc ≠ 0 → d = N 25 (pc - 1) + 1) (ho : ∀ k, k < s → ob k = true → N 24 k ≠ 0 → ob (N 24 k - 1) = true) (hpo : pc ≠ 0 → ob (pc - 1) = true)
    (hl : l < 16) (hfree : n_I M 17 (16 * N 9 5 + l) = -1) (m9 : n_I M' 9 (N 9 5) = nI (s + 1)) (m17 : n_I M' 17 (16 * N 9 5 + l) = nI s) (m14 : n_I M' 14 (16 * N 9 5 + s) = 0) (m15 : n_I M' 15 (16 * N 9 5 + s) = pcv pc) (mb : ∀ i b, b < 32 → i < 16 → bt (n_I M' 16 (16 * N 9 5 + i)) b = ((if i = s then false else bt (n_I M 16 (16 * N 9 5 + i)) b) || (decide (b = s) && chn N fu pc i))) (mf : ∀ k i, ¬ (k = 4 ∨ (k = 9 ∧ i = N 9 5) ∨ (k = 17 ∧ i = 16 * N 9 5 + l) ∨ ((k = 14 ∨ k = 15) ∧ i = 16 * N 9 5 + s) ∨ (k = 16 ∧ 16 * N 9 5 ≤ i ∧ i < 16 * N 9 5 + s + 1)) → M' k i = M k i)
    (g : ag E L S S') (hE : ∀ F b, gs_t S b ≠ 0 → E F b → ¬ (500 ≤ F ∧ F < 510) ∧ F ≠ 203 ∧ F ≠ 205 ∧ F ≠ 1) (by1 : gm_I (S'.1 2 (A 34 1) l) = nI s) (by2 : ∀ j, j ≠ l → S'.1 2 (A 34 1) j = S.1 2 (A 34 1) j)
    (f0 : g_gI S' (some st) 5 0 = some (nI s)) (f1 : g_gR S' (some st) 5 1 = some (if pc = 0 then none else some (N 10 (pc - 1)))) (f2 : g_gI S' (some st) 5 2 = some 0) (f3 : g_gR S' (some st) 5 3 = some (some r)) (f4 : g_gR S' (some st) 5 4 = some (some (r + 1))) (f5 : g_gR S' (some st) 5 5 = some (some (r + 2))) (f6 : g_gR S' (some st) 5 6 = some (some (r + 3))) (f7 : g_gI S' (some st) 5 7 = some 0) (f8 : g_gI S' (some st) 5 8 = some 0) (f9 : g_gI S' (some st) 5 9 = some 0)
    (o1 : ob1 s = true) (o2 : ∀ j, j ≠ s → ob1 j = ob j) : qS A (aSta N s st r pc d) M' S' ob1 ∧ (∀ i, i < s → c_kind (aSta N s st r pc d) M' i = c_kind N M i) ∧ c_kind (aSta N s st r pc d) M' s = 0 ∧ (∀ k, k < s + 1 → ob1 k = true → aSta N s st r pc d 24 k ≠ 0 → ob1 (aSta N s st r pc d 24 k - 1) = true) ∧ (∀ i, i < s + 1 → aSta N s st r pc d 24 i ≤ i) ∧ c_bel (aSta N s st r pc d) M' s = 0 := by
  obtain ⟨q1, q2, ⟨l1, l2, l3, l4, l5⟩, q4, q5⟩ := hS
  rw [hs] at q2 q4 l4 l5
  obtain ⟨N1, hN1⟩ : ∃ N1, N1 = aSta N s st r pc d := ⟨_, rfl⟩
  rw [← hN1]
  have e : ∀ k i, ¬ (k = 9 ∧ i = 0) → k ≠ 40 → ¬ (i = s ∧ (k = 10 ∨ k = 15 ∨ k = 16 ∨ k = 17 ∨ k = 18 ∨ k = 24 ∨ k = 25)) → N1 k i = N k i := fun k i u1 u2 u3 => by rw [hN1]; exact aSta_o u1 u2 u3
  have n0 : N1 9 0 = s + 1 := by rw [hN1]; rfl
  have n5 : N1 9 5 = N 9 5 := e _ _ (by omega) (by omega) (by omega)
  have v10 : N1 10 s = st := by rw [hN1]; simp [aSta]
  have v15 : N1 15 s = r := by rw [hN1]; simp [aSta]
  have v16 : N1 16 s = r + 1 := by rw [hN1]; simp [aSta]
  have v17 : N1 17 s = r + 2 := by rw [hN1]; simp [aSta]
  have v18 : N1 18 s = r + 3 := by rw [hN1]; simp [aSta]
  have v24 : N1 24 s = pc := by rw [hN1]; simp [aSta]
  have v25 : N1 25 s = d := by rw [hN1]; simp [aSta]
  have hN : ∀ i, i < s → N 24 i ≤ i := fun i u => (q4 i u).1.2.1
  have hN' : ∀ i, i < s + 1 → N1 24 i ≤ i := fun i u => by
    by_cases ei : i = s
    · rw [ei, v24]; exact hpc
    · rw [e _ _ (by omega) (by omega) (by omega)]; exact hN i (by omega)
  have ek : ∀ i, i < s → c_kind N1 M' i = c_kind N M i := fun i u => by unfold c_kind n_I; rw [n5, mf _ _ (by omega)]
  have eks : c_kind N1 M' s = 0 := by unfold c_kind; rw [n5]; exact m14
  have bb : ∀ i b, i < s → b < 32 → bt (c_bel N1 M' i) b = (bt (c_bel N M i) b || (decide (b = s) && chn N fu pc i)) := fun i b u1 u2 => by
    unfold c_bel
    rw [n5, mb i b u2 (by omega), if_neg (by omega)]
  have bs : c_bel N1 M' s = 0 := by
    refine b_ext (fun b u => ?_)
    unfold c_bel
    rw [n5, mb s b u hs16, if_pos rfl, b_0]
    cases ec : chn N fu pc s
    · simp
    · have := chn_lt hN fu pc hpc ec
      omega
  have hb8 : ∀ i k, i < s → k < s → (bt (c_bel N1 M' i) k = bt (c_bel N M i) k) := fun i k u1 u2 => by
    rw [bb i k u1 (by omega), decide_eq_false (by omega)]; simp
  have g' : ag (fun F b => ¬ (500 ≤ F ∧ F < 510) ∧ F ≠ 203 ∧ F ≠ 205 ∧ F ≠ 1) L S S' := g.fr hE (fun _ _ w => w)
  have hoo : ∀ k, k < s + 1 → ob1 k = true → N1 24 k ≠ 0 → ob1 (N1 24 k - 1) = true := fun k u1 u2 u3 => by
    by_cases ek' : k = s
    · rw [ek', v24] at u3 ⊢
      rw [o2 _ (by omega)]
      exact hpo u3
    · have e24 : N1 24 k = N 24 k := e _ _ (by omega) (by omega) (by omega)
      rw [e24] at u3 ⊢
      have := hN k (by omega)
      rw [o2 _ (by omega)]
      rw [o2 _ ek'] at u2
      exact ho k (by omega) u2 u3
  refine ⟨⟨?_, ?_, ⟨g'.gR l1 (by decide) (by omega), (g.2.2 _ (by rw [l2]; decide)).trans l2, by rw [g'.1 _ _ _ (by rw [l2]; decide) (by omega)]; exact l3, fun j hj => ?_, ?_⟩, fun i u => ?_, fun i k u => ?_⟩, ek, eks, hoo, hN', bs⟩
  · rw [e _ _ (by omega) (by omega) (by omega)]
    exact g'.gR q1 (by decide) (by omega)
  · rw [n0, n5]; exact m9
  · rw [n5, n0]
    by_cases ej : j = l
    · rw [ej, m17]
      exact ⟨by1, Or.inr ⟨s, by omega, rfl⟩⟩
    · have mj : n_I M' 17 (16 * N 9 5 + j) = n_I M 17 (16 * N 9 5 + j) := by unfold n_I; rw [mf _ _ (by omega)]
      rw [by2 j ej, mj]
      refine ⟨(l4 j hj).1, ?_⟩
      rcases (l4 j hj).2 with w | ⟨k, w1, w2⟩
      · exact Or.inl w
      · exact Or.inr ⟨k, by omega, w2⟩
  · rw [n0]
    have := frc_up (f := fun j => decide (n_I M 17 (16 * N 9 5 + j) = -1)) (g := fun j => decide (n_I M' 17 (16 * N1 9 5 + j) = -1)) (j0 := l) (by simp [hfree]) (by
      rw [n5, m17]
      have : ¬ nI s = (-1 : Int32) := fun w => by
        have h0 : (0 : Int32) ≤ nI s := nI_pos' (by omega)
        rw [w] at h0
        exact absurd h0 (by decide)
      simp [this]) (fun j u => by
      have mj : n_I M' 17 (16 * N 9 5 + j) = n_I M 17 (16 * N 9 5 + j) := by unfold n_I; rw [mf _ _ (by omega)]
      rw [n5, mj]) 16 hl
    omega
  · rw [n0] at u
    by_cases ei : i = s
    · rw [ei]
      constructor
      · unfold sW
        rw [n5, m15, v24, eks, v25]
        refine ⟨rfl, hpc, Or.inl rfl, fun w => (by rw [o1] at w; cases w), hd1, hd2, fun w => ?_⟩
        rw [hd w, e _ _ (by omega) (by omega) (by omega)]
      · unfold sF
        rw [v10, v24, eks, v15, v16, v17, v18, if_pos o1]
        refine ⟨f0, ?_, f2, f3, f4, f5, f6, f7, f8, f9⟩
        by_cases ep : pc = 0
        · rw [if_pos ep] at f1 ⊢; exact f1
        · rw [if_neg ep] at f1 ⊢
          rw [e _ _ (by omega) (by omega) (by omega)]
          exact f1
    · obtain ⟨w1, w2⟩ := q4 i (by omega)
      have h24 := hN i (by omega)
      constructor
      · unfold sW at w1 ⊢
        have m15' : n_I M' 15 (16 * N 9 5 + i) = n_I M 15 (16 * N 9 5 + i) := by unfold n_I; rw [mf _ _ (by omega)]
        rw [n5, m15', e 24 i (by omega) (by omega) (by omega), e 25 i (by omega) (by omega) (by omega), ek i (by omega), o2 i ei]
        obtain ⟨z1, z2, z3, z4, z5, z6, z7⟩ := w1
        refine ⟨z1, z2, z3, fun a b => ?_, z5, z6, fun a => ?_⟩
        · rw [hN1, aSta_ch hs]
          intro w
          exact z4 a b (List.append_eq_nil_iff.mp w).1
        · rw [e 25 _ (by omega) (by omega) (by omega)]; exact z7 a
      · refine sF_mono w2 g' (fun F u1 u2 w => w.1 ⟨u1, by omega⟩) (fun k w => e _ _ (by omega) (by omega) (by omega)) (fun w => e _ _ (by omega) (by omega) (by omega)) n5 (o2 i ei) (mf _ _ (by omega)) (fun w => ?_)
        refine b_ext (fun b ub => ?_)
        rw [bb i b (by omega) ub]
        cases ec : chn N fu pc i
        · simp
        · have := chn_ob (s := s) hN ho fu pc hpc hpo ec
          rw [w] at this; cases this
  · rw [n0] at u ⊢
    by_cases ei : i = s
    · rw [ei, bs, b_0]
      constructor
      · intro w; cases w
      · rintro ⟨w1, w2, w3 | w3⟩
        · have := hN' k w1; omega
        · rw [b_0] at w3; cases w3
    · have hi' : i < s := by omega
      rcases Nat.lt_or_ge k 32 with hk | hk
      · by_cases ek' : k = s
        · rw [ek', bb i s hi' (by omega), v24, decide_eq_true rfl, Bool.true_and]
          have hbs : bt (c_bel N M i) s = false := by
            cases ec : bt (c_bel N M i) s
            · rfl
            · have := ((q5 i s (by omega)).mp ec).1
              omega
          rw [hbs, Bool.false_or, chn_b (M := M) (by rw [hs]; exact hN) q5 (by omega) fu pc (by omega) (by omega)]
          constructor
          · rintro ⟨w1, w2⟩
            refine ⟨by omega, w1, ?_⟩
            rcases w2 with w2 | w2
            · exact Or.inl w2
            · exact Or.inr (by rw [hb8 i (pc - 1) hi' (by omega)]; exact w2)
          · rintro ⟨-, w1, w2⟩
            refine ⟨w1, ?_⟩
            rcases w2 with w2 | w2
            · exact Or.inl w2
            · exact Or.inr (by rw [hb8 i (pc - 1) hi' (by omega)] at w2; exact w2)
        · rw [bb i k hi' hk, decide_eq_false ek', Bool.false_and, Bool.or_false, q5 i k (by omega), hs]
          constructor
          · rintro ⟨w1, w2, w3⟩
            have h24 := hN k w1
            rw [e 24 k (by omega) (by omega) (by omega)]
            refine ⟨by omega, w2, ?_⟩
            rw [hb8 i (N 24 k - 1) hi' (by omega)]
            exact w3
          · rintro ⟨w1, w2, w3⟩
            rw [e 24 k (by omega) (by omega) (by omega)] at w2 w3
            have h24 := hN k (by omega)
            rw [hb8 i (N 24 k - 1) hi' (by omega)] at w3
            exact ⟨by omega, w2, w3⟩
      · rw [b_big hk]
        constructor
        · intro w; cases w
        · rintro ⟨w1, -⟩; omega
end RDZh
