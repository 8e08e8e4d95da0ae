/-! LAYER 2, reading: kinds, children -/
set_option maxRecDepth 100000
section RDZj
variable {A : gA} {M0 : gM} {z p bc bk : Nat} {tx : Nat → Nat}
theorem QS.inj {N : gA} {M : gM} {S : gm_S} {ob : Nat → Bool} (h : qS A N M S ob) (h16 : N 9 0 ≤ 16) {i j : Nat} (hi : i < N 9 0) (hj : j < N 9 0) (e : N 10 i = N 10 j) : i = j := by
  have h1 := (h.2.2.2.1 i hi).2.1
  have h2 := (h.2.2.2.1 j hj).2.1
  rw [e, h2] at h1
  have := Option.some.inj h1
  exact ((nI_eq (by omega) (by omega)).mp this).symm
theorem QS_kind {N : gA} {M : gM} {S : gm_S} {op ob : Nat → Bool} {s : Nat} {K : Int32} (h : QS A N M0 z tx bc bk op ob M S p) (hs : s < N 9 0) (hob : ob s = true) (hK : K = 1 ∨ K = 2) : QS A N M0 z tx bc bk op ob (n_up M 14 (16 * N 9 5 + s) (.int K)) (gs_put S 502 (N 10 s) 0 (.int K)) p ∧ c_kind N (n_up M 14 (16 * N 9 5 + s) (.int K)) s = K ∧ (∀ i, i ≠ s → c_kind N (n_up M 14 (16 * N 9 5 + s) (.int K)) i = c_kind N M i) ∧ xS A (N 9 5) (N 7 0) M S (n_up M 14 (16 * N 9 5 + s) (.int K)) (gs_put S 502 (N 10 s) 0 (.int K)) := by
  obtain ⟨⟨hP, hi, hb, hQ, h3, h4⟩, hS, hj, ho, hg⟩ := h
  obtain ⟨qa, qn, qt, qr, ql, qo, n16⟩ := id hQ
  obtain ⟨q1, q2, ⟨l1, l2, l3, l4, l5⟩, q4, q5⟩ := id hS
  obtain ⟨M', hM'⟩ : ∃ M', M' = n_up M 14 (16 * N 9 5 + s) (.int K) := ⟨_, rfl⟩
  obtain ⟨S', hS'⟩ : ∃ S', S' = gs_put S 502 (N 10 s) 0 (.int K) := ⟨_, rfl⟩
  rw [← hM', ← hS']
  have g : ag (fun F a => F = 502 ∧ a = N 10 s) (fun _ => False) S S' := by rw [hS']; exact ag.put (by decide)
  have fM : ∀ k i, ¬ (k = 14 ∧ i = 16 * N 9 5 + s) → M' k i = M k i := fun k i w => by rw [hM']; exact n_upo w
  have ts : gs_t S (N 10 s) = 5 := by obtain ⟨a, ea, ta, -⟩ := y_gIt (q4 s hs).2.1; cases ea; exact ta
  have tA0 : A 1 0 ≠ N 10 s := fun w => by rw [← w, hP.1] at ts; cases ts
  have t34 : A 34 0 ≠ N 10 s := fun w => by rw [← w, hP.2.2.1] at ts; cases ts
  have P' : PA A M' S' z tx p := hP.mono g ⟨by omega, by omega, by omega, by omega, by omega⟩ (fun k i w => fM k i (by omega))
  have i' : g_inv M0 S' := by rw [hS']; exact hi.put (by decide) (by rw [ts]; decide)
  have ks : c_kind N M' s = K := by unfold c_kind n_I; rw [hM', y_us]; rfl
  have ko : ∀ i, i ≠ s → c_kind N M' i = c_kind N M i := fun i w => by unfold c_kind n_I; rw [fM _ _ (by omega)]
  have kb : ∀ i, c_bel N M' i = c_bel N M i := fun i => by unfold c_bel n_I; rw [fM _ _ (by omega)]
  obtain ⟨j1, j2, j3, j4⟩ := qJ_mono (N' := N) (M' := M') qa qn qt qr g (fun F b w => by omega) (fun w => w) (fun _ _ _ => rfl) rfl (Nat.le_refl _) (fun _ _ => rfl) (fun _ _ _ => rfl) (fun k i w => fM k i (by omega))
  have nB : N 7 0 ≤ N 10 s ∨ True := Or.inr trivial
  refine ⟨⟨⟨P', i', by rw [hS']; exact hb, ⟨j1, j2, j3, j4, ⟨fun a r u => ⟨(ql.1 a r u).1, (ql.1 a r u).2.ag g (fun w => w)⟩, ql.2⟩, qo, n16⟩, h3, h4⟩, ⟨g.gR q1 (by decide) (by omega), by unfold n_I; rw [fM _ _ (by omega)]; exact q2, ⟨g.gR l1 (by decide) (by omega), (g.2.2 _ (by rw [l2]; decide)).trans l2, by rw [g.1 _ _ _ (by rw [l2]; decide) (by omega)]; exact l3, fun j u => ?_, ?_⟩, fun i u => ?_, fun i k u => ?_⟩, hj, ho, hg⟩, ks, ko, g.wk (fun F a w => Or.inr (Or.inr (by rw [w.2]; exact hg s hs))) (fun a w => w.elim), fun k i w => fM k i (by omega)⟩
  · rw [g.1 _ _ _ (by rw [l2]; decide) (by omega)]
    unfold n_I
    rw [fM _ _ (by omega)]
    exact l4 j u
  · rw [frc_eq (f := fun j => decide (n_I M 17 (16 * N 9 5 + j) = -1)) 16 (fun j _ => by unfold n_I; rw [fM _ _ (by omega)])]
    exact l5
  · obtain ⟨w1, w2⟩ := q4 i u
    by_cases ei : i = s
    · obtain ⟨z1, z2, z3, z4, z5, z6, z7⟩ := w1
      obtain ⟨f1, f2, f3, f4, f5, f6, f7, f8, f9, f10⟩ := w2
      rw [ei] at *
      refine ⟨⟨by unfold n_I; rw [fM _ _ (by omega)]; exact z1, z2, (by rw [ks]; exact hK.elim (fun w => Or.inr (Or.inl w)) (fun w => Or.inr (Or.inr w))), fun w => (by rw [hob] at w; cases w), z5, z6, z7⟩, g.gI f1 (by decide) (by omega), g.gR f2 (by decide) (by omega), ?_, g.gR f4 (by decide) (by omega), g.gR f5 (by decide) (by omega), g.gR f6 (by decide) (by omega), g.gR f7 (by decide) (by omega), ?_, g.gI f9 (by decide) (by omega), g.gI f10 (by decide) (by omega)⟩
      · rw [ks, y_gI ((g.2.2 _ (by rw [ts]; decide)).trans ts), hS', y_pE]; rfl
      · rw [if_pos hob] at f8 ⊢
        exact g.gI f8 (by decide) (by omega)
    · have ne : N 10 i ≠ N 10 s := fun w => ei (QS.inj hS n16 u hs w)
      refine ⟨?_, sF_mono w2 g (fun F u1 u2 w => ne w.2) (fun _ _ => rfl) (fun _ => rfl) rfl rfl (fM _ _ (by omega)) (fun _ => kb i)⟩
      unfold sW at w1 ⊢
      rw [ko i ei]
      unfold n_I at w1 ⊢
      rw [fM _ _ (by omega)]
      exact w1
  · rw [kb]
    exact q5 i k u
/-- the last child of a state, in its row -/
theorem l_last {q : Nat → Bool} {c : Nat} (hc : q c = true) : ∀ n, c < n → (∀ j, j < n → q j = true → j ≤ c) → (List.range n).filter q = (List.range c).filter q ++ [c] := by
  intro n
  induction n with
  | zero => intro h; omega
  | succ n ih =>
    intro h1 h2
    rw [List.range_succ, List.filter_append]
    by_cases e : c = n
    · rw [e, List.filter_cons, ← e, if_pos hc]; rfl
    · have : q n = false := by
        cases eq : q n
        · rfl
        · have := h2 n (by omega) eq; omega
      rw [ih (by omega) (fun j u1 u2 => h2 j (by omega) u2), List.filter_cons, if_neg (by simp [this])]
      simp
theorem QS_add {N : gA} {M : gM} {S : gm_S} {op op1 ob : Nat → Bool} {s c : Nat} (hbb : 2 ≤ bc ∧ 200 ≤ bk ∧ bc ≤ 599900 ∧ bk ≤ 7300000) (h : QS A N M0 z tx (bc - 2) (bk - 200) op1 ob M S p) (hs : s < N 9 0) (hc : c < N 9 0) (h24 : N 24 c = s + 1) (h1 : op1 c = true) (h2 : op c = false) (h3 : ∀ j, j ≠ c → op1 j = op j) (hl : ∀ j, j < N 9 0 → N 24 j = s + 1 → j ≤ c) :
    ∃ S', g_ladd S (some (N 15 s)) (some (N 10 c)) = some S' ∧ QS A N M0 z tx bc bk op ob M S' p ∧ ag (fun F b => (F = 3 ∨ F = 4) ∧ b = N 15 s) (fun b => b = N 15 s) S S' ∧ xS A (N 9 5) (N 7 0) M S M S' := by
  obtain ⟨⟨hP, hi, hb, hQ, h3', h4'⟩, hS, hj, ho, hg⟩ := h
  obtain ⟨qa, qn, qt, qr, ql, qo, n16⟩ := id hQ
  obtain ⟨q1, q2, ⟨l1, l2, l3, l4, l5⟩, q4, q5⟩ := id hS
  have n24 := qr.2.2.1
  have rs : rl N (N 15 s) (1000 + s) := Or.inr (Or.inl ⟨s, hs, Or.inl ⟨rfl, rfl⟩⟩)
  obtain ⟨u1, u2⟩ := ql.1 _ _ rs
  have tc : gs_t S (N 10 c) = 5 := by obtain ⟨a, ea, ta, -⟩ := y_gIt (q4 c hc).2.1; cases ea; exact ta
  obtain ⟨b1, b2, b3, b4⟩ := hb
  have len : (S.2.1 (N 15 s)).length < 100 := by
    rw [u2.2.2, cont_ch (by omega), List.length_map]
    refine Nat.lt_of_le_of_lt (List.length_filter_le _ _) ?_
    unfold l_ch
    exact Nat.lt_of_le_of_lt (List.length_filter_le _ _) (by rw [List.length_range]; omega)
  obtain ⟨S', c1, c2, c3, c4, c5, c6, c7⟩ := c_ladd hi u2.1 (x := N 10 c) (by rw [tc]; decide) len (by omega) (by omega)
  have t15 : gs_t S (N 15 s) = 16 := u2.1
  have n1 : A 1 0 ≠ N 15 s := fun w => by rw [← w, hP.1] at t15; cases t15
  have n34 : A 34 0 ≠ N 15 s := fun w => by rw [← w, hP.2.2.1] at t15; cases t15
  have n35 : N 35 0 ≠ N 15 s := fun w => by rw [← w, ql.2.1] at u1; omega
  obtain ⟨j1, j2, j3, j4⟩ := qJ_mono (N' := N) (M' := M) qa qn qt qr c2 (fun F b w => by omega) n35 (fun _ _ _ => rfl) rfl (Nat.le_refl _) (fun _ _ => rfl) (fun _ _ _ => rfl) (fun _ _ _ => rfl)
  have hrow : (l_ch N s).filter (fun j => !op j) = (l_ch N s).filter (fun j => !op1 j) ++ [c] := by
    have e : l_ch N s = (List.range c).filter (fun j => N 24 j == s + 1) ++ [c] := l_last (by simp [h24]) (N 9 0) hc (fun j u w => hl j u (by simpa using w))
    rw [e, List.filter_append, List.filter_append]
    have e1 : [c].filter (fun j => !op j) = [c] := by rw [List.filter_cons, if_pos (by simp [h2])]; rfl
    have e2 : [c].filter (fun j => !op1 j) = [] := by rw [List.filter_cons, if_neg (by simp [h1])]; rfl
    rw [e1, e2, List.append_nil]
    congr 1
    refine List.filter_congr (fun a ha => ?_)
    have := List.mem_range.mp (List.mem_filter.mp ha).1
    rw [h3 a (by omega)]
  have hoth : ∀ i, i ≠ s → (l_ch N i).filter (fun j => !op j) = (l_ch N i).filter (fun j => !op1 j) := fun i w => by
    refine List.filter_congr (fun a ha => ?_)
    have : a ≠ c := fun q => by
      unfold l_ch at ha
      have := (List.mem_filter.mp ha).2
      rw [q, h24] at this
      simp at this
      omega
    rw [h3 a this]
  refine ⟨S', c1, ⟨⟨hP.mono c2 ⟨by omega, by omega, by omega, by omega, by omega⟩ (fun _ _ _ => rfl), c4, ⟨by omega, by omega, by omega, by omega⟩, ⟨j1, j2, j3, j4, ⟨fun a r u => ?_, ql.2⟩, qo, n16⟩, h3', h4'⟩, ⟨c2.gR q1 (by decide) (by omega), q2, ⟨c2.gR l1 (by decide) (by omega), (c2.2.2 _ (by rw [l2]; decide)).trans l2, by rw [c2.1 _ _ _ (by rw [l2]; decide) (by omega)]; exact l3, fun j u => ?_, l5⟩, fun i u => ⟨(q4 i u).1, sF_mono (q4 i u).2 c2 (fun F u1 u2 w => by omega) (fun _ _ => rfl) (fun _ => rfl) rfl rfl rfl (fun _ => rfl)⟩, q5⟩, fun j u => ?_, ho, hg⟩, c2, c2.wk (fun F a w => Or.inr (Or.inr (by rw [w.2]; exact u2.2.1))) (fun a w => by rw [w]; exact u2.2.1), fun _ _ _ => rfl⟩
  · obtain ⟨w1, w2⟩ := ql.1 a r u
    refine ⟨w1, ?_⟩
    by_cases ea : a = N 15 s
    · have er : r = 1000 + s := by rw [ea, u1] at w1; exact w1.symm
      rw [ea, er]
      refine ⟨(c2.2.2 _ (by rw [u2.1]; decide)).trans u2.1, u2.2.1, ?_⟩
      rw [c3, u2.2.2, cont_ch (by omega), cont_ch (by omega), hrow, List.map_append]
      rfl
    · have er : r ≠ 1000 + s := fun w => ea (rl_un n16 n24 u (by rw [w]; exact rs))
      have ec : cont N op r = cont N op1 r := by
        rcases u with ⟨h1, h2⟩ | ⟨i, hi', hc'⟩ | ⟨t', ht', hc'⟩
        · rw [h1, cont_1, cont_1]
        · rcases hc' with ⟨h1, h2⟩ | ⟨h1, h2⟩ | ⟨h1, h2⟩ | ⟨h1, h2⟩
          · rw [h1, cont_ch (by omega), cont_ch (by omega), hoth i (by omega)]
          · rw [h1, cont_tr (by omega), cont_tr (by omega)]
          · rw [h1, cont_en (by omega), cont_en (by omega)]
          · rw [h1, cont_ex (by omega), cont_ex (by omega)]
        · rcases hc' with ⟨h1, h2⟩ | ⟨h1, h2⟩
          · rw [h1, cont_ts (by omega), cont_ts (by omega)]
          · rw [h1, cont_ac, cont_ac]
      rw [ec]
      exact w2.ag c2 ea
  · rw [c2.1 _ _ _ (by rw [l2]; decide) (by omega)]
    exact l4 j u
  · have := hj j u
    rw [h3 j (by omega)] at this
    exact this
end RDZj
