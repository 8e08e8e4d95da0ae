/-! LAYER 2, reading: the end of a state; how many children -/
set_option maxRecDepth 100000
section RDZl
variable {A : gA} {M0 : gM} {z p bc bk : Nat} {tx : Nat → Nat}
theorem QS.items {N N' : gA} {M M' : gM} {S S' : gm_S} {op ob : Nat → Bool} {p' : Nat} (h : QS A N M0 z tx bc bk op ob M S p) (hq : QP A N' M0 z tx bc bk op M' S' p') (x : exI N N') (f : xI A N (N 7 0) M S M' S') : QS A N' M0 z tx bc bk op ob M' S' p' := by
  obtain ⟨h1, h2, h3, h4, h5⟩ := h
  have n0 := x 9 0 (by omega)
  refine ⟨hq, qS_items h2 x f, fun j u => h3 j (by omega), fun k u1 u2 u3 => ?_, fun i u => ?_⟩
  · rw [x 24 k (by omega)] at u3 ⊢
    exact h4 k (by omega) u2 u3
  · rw [x 7 0 (by omega), x 10 i (by omega)]
    exact h5 i (by omega)
theorem QS.to {N : gA} {M M' : gM} {S S' : gm_S} {op ob : Nat → Bool} {p' : Nat} (h : QS A N M0 z tx bc bk op ob M S p) (hP : PA A M' S' z tx p') (hp : p ≤ p') (g : tA A S S') (hM : ∀ k i, k ≠ 4 → M' k i = M k i) : QS A N M0 z tx bc bk op ob M' S' p' := h.items (h.1.to hP hp g hM) exI.refl (xI.t g hM)
theorem s_fin {N : gA} {M : gM} {S : gm_S} {op ob : Nat → Bool} {s fu : Nat} (hf : 400 ≤ fu) (rc : Option Nat → Option Nat → Int32 → gm_S → gR) (h : QS A N M0 z tx bc bk op ob M S p) (hs : s < N 9 0) :
    (∃ N' M' S' p', F_X4_readItems fu (nI s) M = some (.returned none, M') ∧ cIt fu rc (some (A 1 0)) (some (N 10 s)) S = some (.returned (some (va_rf (some (N 10 s)))), S') ∧ QS A N' M0 z tx bc bk op ob M' S' p' ∧ p ≤ p' ∧ exI N N' ∧ (∀ i, c_kind N' M' i = c_kind N M i) ∧ xS A (N 9 5) (N 7 0) M S M' S') ∨
    (∃ M' o S', F_X4_readItems fu (nI s) M = some (.returned none, M') ∧ cIt fu rc (some (A 1 0)) (some (N 10 s)) S = some (o, S') ∧ PF A M0 bc bk M' o S' ∧ xS A (N 9 5) (N 7 0) M S M' S') := by
  have hP := h.1.1
  have hpz := hP.pz
  unfold F_X4_readItems cIt
  rw [y_q hP.1]
  rcases s_takes hP fu (c := 123) (by omega) (by omega) with ⟨t1, t2, t3, t4⟩ | ⟨t1, t2, t3⟩
  · have ts : tA A S (sA A S (p + 1)) := tA.s
    have fr : ∀ k i, k ≠ 4 → n_p M 4 (nI (p + 1)) k i = M k i := fun k i w => y_uk w
    have h1 := h.to t4 (by omega) ts fr
    obtain ⟨f1, f2, f3, f4, f5, f6, f7, f8, f9, f10⟩ := (h1.2.1.2.2.2.1 s hs).2
    rw [show F_X4_takes fu 123 M = _ from t2, y_cI, if_neg (by decide), show F_X2_takes fu (some (A 1 0)) 123 S = _ from t3, y_cI, if_neg (by decide)]
    rcases s_items (A := A) (M0 := M0) (z := z) (tx := tx) (bc := bc) (bk := bk) (s := s) hf rc (z - (p + 1)) (p + 1) N _ _ fu fu rfl (by omega) (by omega) h1.1 hs f5 f6 f7 with ⟨N', M', S', p', w1, w2, w3, w4, w5, w6⟩ | ⟨M', o', S', w1, w2, w3, w4⟩
    · refine Or.inl ⟨N', M', S', p', w1, w2, h1.items w3 w5 w6, by omega, w5, fun i => ?_, (xS.t ts fr).trans w6.s⟩
      unfold c_kind n_I
      rw [w5 9 5 (by omega), w6.2 _ _ (by omega), fr _ _ (by omega)]
    · exact Or.inr ⟨M', o', S', w1, w2, w3, (xS.t ts fr).trans w4.s⟩
  · rw [show F_X4_takes fu 123 M = _ from t2, y_cI, if_pos rfl, show F_X2_takes fu (some (A 1 0)) 123 S = _ from t3, y_cI, if_pos rfl]
    exact Or.inl ⟨N, M, S, p, rfl, rfl, h, Nat.le_refl _, exI.refl, fun _ => rfl, xS.t tA.refl (fun _ _ _ => rfl)⟩
theorem pcv_s (s : Nat) : pcv (s + 1) = nI s := by
  unfold pcv
  rw [if_neg (by omega), Nat.add_sub_cancel]
theorem pcv_eq {pc s : Nat} (h1 : pc ≤ 16) (h2 : s < 16) : pcv pc = nI s ↔ pc = s + 1 := by
  unfold pcv
  by_cases e : pc = 0
  · rw [if_pos e]
    constructor
    · intro w
      have h0 : (0 : Int32) ≤ nI s := nI_pos' (by omega)
      rw [← w] at h0
      exact absurd h0 (by decide)
    · intro w; omega
  · rw [if_neg e, nI_eq (by omega) (by omega)]
    omega
theorem m_inner {N : gA} {M : gM} {s fu : Nat} (hf : 100 ≤ fu) (hw : N 9 5 < 2) (h8 : n_I M 8 0 = nI (N 9 5)) (h9 : n_I M 9 (N 9 5) = nI (N 9 0)) (h16 : N 9 0 ≤ 16) (hs : s < N 9 0) (h15 : ∀ i, i < N 9 0 → n_I M 15 (16 * N 9 5 + i) = pcv (N 24 i) ∧ N 24 i ≤ i) : F_X4_innerOf fu (nI s) M = some (.returned (some (.int (nI (l_ch N s).length))), M) := by
  have loop : ∀ n j, j ≤ N 9 0 → N 9 0 - j < n → F_X4_innerOf_4 fu n (nI s) (nI ((List.range j).filter (fun i => N 24 i == s + 1)).length) (nI j) M = some (.returned (some (.int (nI (l_ch N s).length))), M) := by
    intro n
    induction n with
    | zero => intro j _ h; omega
    | succ n ih =>
      intro j h1 h2
      rw [F_X4_innerOf_4, h8, y_aI (by omega) (by omega), y_b, h9]
      by_cases e : j = N 9 0
      · rw [if_pos ((nI_leI (by omega) (by omega)).mpr (by omega)), e]
        rfl
      · have hj : j < N 9 0 := by omega
        obtain ⟨v1, v2⟩ := h15 j hj
        have step := ih (j + 1) (by omega) (by omega)
        rw [List.range_succ, List.filter_append, List.length_append, List.filter_cons] at step
        rw [if_neg (nI_ge hj (by omega)), y_m16, nI_add, y_aI (by omega) (by omega), y_b, v1]
        by_cases e2 : N 24 j = s + 1
        · rw [if_pos ((pcv_eq (by omega) (by omega)).mpr e2), nI_1, nI_1]
          rw [if_pos (by simp [e2])] at step
          exact step
        · rw [if_neg (fun w => e2 ((pcv_eq (by omega) (by omega)).mp w)), nI_1]
          rw [if_neg (by simp [e2])] at step
          exact step
  unfold F_X4_innerOf
  exact loop fu 0 (by omega) (by omega)
end RDZl
