/-! LAYER 2, reading: pieces stay -/
set_option maxRecDepth 100000
section RDR
variable {A : gA} {M0 : gM} {z p bc bk : Nat} {tx : Nat → Nat}
theorem h_op.ag {S S' : gm_S} {E : Nat → Nat → Prop} {L : Nat → Prop} {o : Nat} {v : Int32} {d : UInt64} (h : h_op S o v d) (g : ag E L S S') (h0 : ¬ E 900 o) (h1 : ¬ E 901 o) : h_op S' o v d := by
  refine ⟨g.gI h.1 (by decide) h0, ?_⟩
  obtain ⟨q, eq, tq, vq⟩ := y_gDt h.2
  cases eq
  rw [y_gD ((g.2.2 _ (by rw [tq]; decide)).trans tq), g.1 _ _ _ (by rw [tq]; decide) h1, vq]
theorem h_L.ag {S S' : gm_S} {E : Nat → Nat → Prop} {L : Nat → Prop} {B a : Nat} {l : List Nat} (h : h_L S B a l) (g : ag E L S S') (hL : ¬ L a) : h_L S' B a l :=
  ⟨(g.2.2 _ (by rw [h.1]; decide)).trans h.1, h.2.1, (g.2.1 a (by rw [h.1]; decide) hL).trans h.2.2⟩
theorem qA.mono {N N' : gA} {M M' : gM} {S S' : gm_S} {E : Nat → Nat → Prop} {L : Nat → Prop} (h : qA A N M S) (g : ag E L S S') (hE : (∀ F b, 700 ≤ F → F < 1000 → ¬ E F b) ∧ ¬ E 207 (A 1 0)) (hN : N' 9 3 = N 9 3 ∧ N' 9 5 = N 9 5 ∧ ∀ a, a < N 9 3 → N' 14 a = N 14 a ∧ N' 31 a = N 31 a ∧ N' 23 a = N 23 a) (hM : M' 8 0 = M 8 0 ∧ M' 12 (N 9 5) = M 12 (N 9 5) ∧ ∀ k a, 33 ≤ k → k ≤ 37 → a < N 9 3 → M' k (48 * N 9 5 + a) = M k (48 * N 9 5 + a)) : qA A N' M' S' := by
  obtain ⟨q1, q2, q3, q4, q5, q6⟩ := h
  obtain ⟨n1, n2, n3⟩ := hN
  obtain ⟨m1, m2, m3⟩ := hM
  unfold qA
  rw [n1, n2]
  refine ⟨by unfold n_I; rw [m1]; exact q1, q2, by unfold n_I; rw [m2]; exact q3, q4, g.gI q5 (by decide) hE.2, fun a ha => ?_⟩
  obtain ⟨h1, h2⟩ := q6 a ha
  obtain ⟨e14, e31, e23⟩ := n3 a ha
  have m : ∀ k, 33 ≤ k → k ≤ 37 → n_I M' k (48 * N 9 5 + a) = n_I M k (48 * N 9 5 + a) := fun k w1 w2 => by unfold n_I; rw [m3 k a w1 w2 ha]
  have md : n_D M' 37 (48 * N 9 5 + a) = n_D M 37 (48 * N 9 5 + a) := by unfold n_D; rw [m3 37 a (by omega) (by omega) ha]
  constructor
  · unfold cW6 at h1 ⊢
    rw [e31, n2, m 33 (by omega) (by omega), m 34 (by omega) (by omega), m 35 (by omega) (by omega), m 36 (by omega) (by omega), md]
    exact h1
  · unfold cH5 at h2 ⊢
    rw [e14, e23, n2, m 34 (by omega) (by omega), m 35 (by omega) (by omega), m 36 (by omega) (by omega), md]
    refine ⟨fun w => ?_, fun w => ?_⟩
    · obtain ⟨f1, f2⟩ := h2.1 w
      exact ⟨g.gI f1 (by decide) (hE.1 _ _ (by omega) (by omega)), g.gI f2 (by decide) (hE.1 _ _ (by omega) (by omega))⟩
    · obtain ⟨f1, f2, f3, f4⟩ := h2.2 w
      exact ⟨g.gI f1 (by decide) (hE.1 _ _ (by omega) (by omega)), g.gI f2 (by decide) (hE.1 _ _ (by omega) (by omega)), g.gR f3 (by decide) (hE.1 _ _ (by omega) (by omega)), f4.ag g (hE.1 _ _ (by omega) (by omega)) (hE.1 _ _ (by omega) (by omega))⟩
theorem qN.mono {N N' : gA} {M M' : gM} {S S' : gm_S} {E : Nat → Nat → Prop} {L : Nat → Prop} (h : qN A N M S) (g : ag E L S S') (hE : (∀ F b, 1100 ≤ F → F ≤ 1102 → ¬ E F b) ∧ ¬ E 204 (A 1 0)) (hL : ¬ L (N 35 0)) (hN : N' 9 4 = N 9 4 ∧ N' 9 5 = N 9 5 ∧ N' 35 0 = N 35 0 ∧ ∀ k, k < N 9 4 → N' 12 k = N 12 k) (hM : M' 8 0 = M 8 0 ∧ M' 13 (N 9 5) = M 13 (N 9 5) ∧ ∀ k a, 23 ≤ k → k ≤ 25 → a < N 9 4 → M' k (64 * N 9 5 + a) = M k (64 * N 9 5 + a)) : qN A N' M' S' := by
  obtain ⟨q1, q2, q3, q4, q5, q6, q7, q8, q9⟩ := h
  obtain ⟨n1, n2, n3, n4⟩ := hN
  obtain ⟨m1, m2, m3⟩ := hM
  unfold qN
  rw [n1, n2, n3]
  refine ⟨by unfold n_I; rw [m1]; exact q1, q2, by unfold n_I; rw [m2]; exact q3, g.gR q4 (by decide) hE.2, (g.2.2 _ (by rw [q5]; decide)).trans q5, ?_, fun k hk => ?_, q8, fun k hk => by rw [n4 k hk]; exact q9 k hk⟩
  · rw [g.2.1 _ (by rw [q5]; decide) hL, q6]
    exact List.map_congr_left (fun a ha => (n4 a (List.mem_range.mp ha)).symm)
  · rw [n4 k hk]
    have := (q7 k hk).mono (M' := M') g (fun F w1 w2 => hE.1 F _ w1 w2) (fun K w1 w2 => m3 K k w1 w2 hk)
    unfold qN1 at this ⊢
    rw [n2]
    exact this
/-- the tests read so far -/
def qT (N : gA) (M : gM) (S : gm_S) : Prop := n_I M 11 (N 9 5) = nI (N 9 2) ∧ ∀ j, j < N 9 2 → cW5 N M j ∧ cH4 N M S j
theorem qT.mono {N N' : gA} {M M' : gM} {S S' : gm_S} {E : Nat → Nat → Prop} {L : Nat → Prop} (h : qT N M S) (g : ag E L S S') (hE : ∀ F b, 900 ≤ F → F < 1500 → ¬ (1000 ≤ F ∧ F < 1300) → ¬ E F b) (hN : N' 9 2 = N 9 2 ∧ N' 9 5 = N 9 5 ∧ N 9 4 ≤ N' 9 4 ∧ (∀ k, k < N 9 4 → N' 12 k = N 12 k) ∧ ∀ j, j < N 9 2 → N' 32 j = N 32 j ∧ N' 13 j = N 13 j ∧ N' 21 j = N 21 j ∧ N' 22 j = N 22 j) (hM : M' 11 (N 9 5) = M 11 (N 9 5) ∧ ∀ k a, 26 ≤ k → k ≤ 32 → a < N 9 2 → M' k (64 * N 9 5 + a) = M k (64 * N 9 5 + a)) : qT N' M' S' := by
  obtain ⟨q1, q2⟩ := h
  obtain ⟨n1, n2, n3, n4, n5⟩ := hN
  unfold qT
  rw [n1, n2]
  refine ⟨by unfold n_I; rw [hM.1]; exact q1, fun j hj => ?_⟩
  obtain ⟨e32, e13, e21, e22⟩ := n5 j hj
  have c5 := (q2 j hj).1.2
  refine qT_old (q2 j hj) n2 e32 e13 e21 e22 n3 (fun w => n4 _ ?_) g hE (fun k w1 w2 => hM.2 k j w1 w2 hj)
  rcases c5 with c5 | c5
  · exact absurd c5.1 w
  · have := c5.2.2; omega
/-- one test more -/
def aTst (N : gA) (y o1 o2 c : Nat) : gA := fun k i => if k = 9 ∧ i = 2 then N 9 2 + 1 else if k = 13 ∧ i = N 9 2 then y else if k = 21 ∧ i = N 9 2 then o1 else if k = 22 ∧ i = N 9 2 then o2 else if k = 32 ∧ i = N 9 2 then c else N k i
theorem aTst_o {N : gA} {y o1 o2 c k i : Nat} (h1 : ¬ (k = 9 ∧ i = 2)) (h2 : ¬ ((k = 13 ∨ k = 21 ∨ k = 22 ∨ k = 32) ∧ i = N 9 2)) : aTst N y o1 o2 c k i = N k i := by
  unfold aTst
  rw [if_neg h1, if_neg (fun w => h2 ⟨Or.inl w.1, w.2⟩), if_neg (fun w => h2 ⟨Or.inr (Or.inl w.1), w.2⟩), if_neg (fun w => h2 ⟨Or.inr (Or.inr (Or.inl w.1)), w.2⟩), if_neg (fun w => h2 ⟨Or.inr (Or.inr (Or.inr w.1)), w.2⟩)]
theorem aTst_n {N : gA} {y o1 o2 c : Nat} : aTst N y o1 o2 c 9 2 = N 9 2 + 1 := rfl
theorem aTst_13 {N : gA} {y o1 o2 c : Nat} : aTst N y o1 o2 c 13 (N 9 2) = y := by simp [aTst]
theorem aTst_21 {N : gA} {y o1 o2 c : Nat} : aTst N y o1 o2 c 21 (N 9 2) = o1 := by simp [aTst]
theorem aTst_22 {N : gA} {y o1 o2 c : Nat} : aTst N y o1 o2 c 22 (N 9 2) = o2 := by simp [aTst]
theorem aTst_32 {N : gA} {y o1 o2 c : Nat} : aTst N y o1 o2 c 32 (N 9 2) = c := by simp [aTst]
theorem qT_add {N N1 : gA} {M M' : gM} {S S' : gm_S} {E : Nat → Nat → Prop} {L : Nat → Prop} {y o1 o2 c : Nat} (h : qT N M S) (g : ag E L S S') (hE : ∀ F b, 900 ≤ F → F < 1500 → ¬ (1000 ≤ F ∧ F < 1300) → ¬ E F b) (hN : N1 9 2 = N 9 2 ∧ N1 9 5 = N 9 5 ∧ N 9 4 ≤ N1 9 4 ∧ (∀ k, k < N 9 4 → N1 12 k = N 12 k) ∧ ∀ j, N1 32 j = N 32 j ∧ N1 13 j = N 13 j ∧ N1 21 j = N 21 j ∧ N1 22 j = N 22 j) (hM : n_I M' 11 (N 9 5) = nI (N 9 2 + 1) ∧ ∀ k a, 26 ≤ k → k ≤ 32 → a < N 9 2 → M' k (64 * N 9 5 + a) = M k (64 * N 9 5 + a)) (hnew : cW5 (aTst N1 y o1 o2 c) M' (N 9 2) ∧ cH4 (aTst N1 y o1 o2 c) M' S' (N 9 2)) : qT (aTst N1 y o1 o2 c) M' S' := by
  obtain ⟨q1, q2⟩ := h
  obtain ⟨n1, n2, n3, n4, n5⟩ := hN
  have e5 : aTst N1 y o1 o2 c 9 5 = N 9 5 := (aTst_o (by omega) (by omega)).trans n2
  unfold qT
  rw [aTst_n, n1, e5]
  refine ⟨hM.1, fun j hj => ?_⟩
  by_cases ej : j = N 9 2
  · rw [ej]; exact hnew
  · obtain ⟨e32, e13, e21, e22⟩ := n5 j
    have c5 := (q2 j (by omega)).1.2
    refine qT_old (q2 j (by omega)) e5 ((aTst_o (by omega) (by omega)).trans e32) ((aTst_o (by omega) (by omega)).trans e13) ((aTst_o (by omega) (by omega)).trans e21) ((aTst_o (by omega) (by omega)).trans e22) (by rw [aTst_o (by omega) (by omega)]; exact n3) (fun w => (aTst_o (by omega) (by omega)).trans (n4 _ ?_)) g hE (fun k w1 w2 => hM.2 k j w1 w2 (by omega))
    rcases c5 with c5 | c5
    · exact absurd c5.1 w
    · have := c5.2.2; omega
/-- a character that may be there -/
theorem s_opt {M : gM} {S : gm_S} (h : PA A M S z tx p) (fu : Nat) {c : Nat} (hc : 0 < c) (hc2 : c ≤ 126) : ∃ (v : Int32) (M' : gM) (S' : gm_S) (p' : Nat), (v = 0 ∧ p' = p ∧ M' = M ∧ S' = S ∧ ct z tx p ≠ c ∨ v = 1 ∧ p' = p + 1 ∧ ct z tx p = c) ∧ F_X4_takes fu (nI c) M = some (.returned (some (.int v)), M') ∧ F_X2_takes fu (some (A 1 0)) (nI c) S = some (.returned (some (.int v)), S') ∧ PA A M' S' z tx p' ∧ tA A S S' ∧ ∀ k i, k ≠ 4 → M' k i = M k i := by
  rcases s_takes h fu hc hc2 with ⟨t1, t2, t3, t4⟩ | ⟨t1, t2, t3⟩
  · exact ⟨1, _, _, _, Or.inr ⟨rfl, rfl, t1⟩, t2, t3, t4, tA.s, fun k i w => y_uk w⟩
  · exact ⟨0, M, S, p, Or.inl ⟨rfl, rfl, rfl, rfl, t1⟩, t2, t3, h, tA.refl, fun _ _ _ => rfl⟩
theorem y_sZ {M : gM} {k n i : Nat} {v : Int32} (h : i < n) (hn : n < 2 ^ 31) (hv : g_okZ v = true) : n_sZ M k n (nI i) v = some (n_up M k i (.int v)) := by
  unfold n_sZ
  rw [if_pos hv, y_sI h hn]
/-- a character that must be there -/
theorem s_tak {M : gM} {S : gm_S} (h : PA A M S z tx p) (hi : g_inv M0 S) (hb : PB bc bk S p) (fu : Nat) {c : Nat} (hc : 0 < c) (hc2 : c ≤ 126) :
    (∃ M' S', F_X4_take fu (nI c) M = some (.returned none, M') ∧ F_X2_take fu (some (A 1 0)) (nI c) S = some (.returned none, S') ∧ PA A M' S' z tx (p + 1) ∧ tA A S S' ∧ ct z tx p = c ∧ ∀ k i, k ≠ 4 → M' k i = M k i) ∨
    (∃ M' o S', F_X4_take fu (nI c) M = some (.returned none, M') ∧ F_X2_take fu (some (A 1 0)) (nI c) S = some (o, S') ∧ PF A M0 bc bk M' o S' ∧ ag (fun _ _ => False) (fun _ => False) S S' ∧ S'.2.1 = S.2.1 ∧ ∀ k i, k ≠ 5 → M' k i = M k i) := by
  unfold F_X4_take F_X2_take
  rw [y_q h.1]
  rcases s_takes h fu hc hc2 with ⟨t1, t2, t3, t4⟩ | ⟨t1, t2, t3⟩
  · rw [t2, y_cI, m_want1, y_cV, t3, y_cI, y_q t4.1, c_want1, y_cV]
    exact Or.inl ⟨_, _, rfl, rfl, t4, tA.s, t1, fun k i w => y_uk w⟩
  · obtain ⟨f1, f2⟩ := s_fail (bc := bc) (bk := bk) h hi hb fu (some (A 1 0))
    rw [t2, y_cI, m_want0, y_cV, t3, y_cI, y_q h.1, f1, y_cVt]
    exact Or.inr ⟨_, _, _, rfl, rfl, f2, ag.mk hi.2.2.2, rfl, fun k i w => y_uk w⟩
end RDR
