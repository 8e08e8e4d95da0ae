/-! LAYER 2, reading: rows of actions -/
set_option maxRecDepth 100000
section RDG
variable {A : gA} {M0 : gM} {z p bc bk : Nat} {tx : Nat → Nat}
/-- the actions read so far -/
def qA (A N : gA) (M : gM) (S : gm_S) : Prop := n_I M 8 0 = nI (N 9 5) ∧ N 9 5 < 2 ∧ n_I M 12 (N 9 5) = nI (N 9 3) ∧ N 9 3 ≤ 40 ∧ g_gI S (some (A 1 0)) 2 7 = some (nI (N 9 3)) ∧ ∀ a, a < N 9 3 → cW6 N M a ∧ cH5 N M S a
/-- one action more: its owner, its object, its operand -/
def aAct (N : gA) (o x op : Nat) : gA := fun k i => if k = 9 ∧ i = 3 then N 9 3 + 1 else if k = 14 ∧ i = N 9 3 then x else if k = 31 ∧ i = N 9 3 then o else if k = 23 ∧ i = N 9 3 then op else N k i
theorem aAct_o {N : gA} {o x op k i : Nat} (h1 : ¬ (k = 9 ∧ i = 3)) (h2 : ¬ ((k = 14 ∨ k = 31 ∨ k = 23) ∧ i = N 9 3)) : aAct N o x op k i = N k i := by
  unfold aAct
  rw [if_neg h1, if_neg (fun w => h2 ⟨Or.inl w.1, w.2⟩), if_neg (fun w => h2 ⟨Or.inr (Or.inl w.1), w.2⟩), if_neg (fun w => h2 ⟨Or.inr (Or.inr w.1), w.2⟩)]
theorem aAct_n {N : gA} {o x op : Nat} : aAct N o x op 9 3 = N 9 3 + 1 := rfl
theorem aAct_w {N : gA} {o x op : Nat} : aAct N o x op 9 5 = N 9 5 := aAct_o (by omega) (by omega)
theorem aAct_x {N : gA} {o x op : Nat} : aAct N o x op 14 (N 9 3) = x := by
  unfold aAct
  rw [if_neg (by omega), if_pos ⟨rfl, rfl⟩]
theorem aAct_31 {N : gA} {o x op : Nat} : aAct N o x op 31 (N 9 3) = o := by
  unfold aAct
  rw [if_neg (by omega), if_neg (by omega), if_pos ⟨rfl, rfl⟩]
theorem aAct_23 {N : gA} {o x op : Nat} : aAct N o x op 23 (N 9 3) = op := by
  unfold aAct
  rw [if_neg (by omega), if_neg (by omega), if_neg (by omega), if_pos ⟨rfl, rfl⟩]
theorem l_ac_lt {N : gA} {o a : Nat} (h : a ∈ l_ac N o) : a < N 9 3 := by
  unfold l_ac at h
  exact List.mem_range.mp (List.mem_filter.mp h).1
theorem aAct_l {N : gA} {o x op o' : Nat} : (l_ac (aAct N o x op) o').map (aAct N o x op 14) = (l_ac N o').map (N 14) ++ (if o' = o then [x] else []) := by
  have e1 : l_ac (aAct N o x op) o' = l_ac N o' ++ (if o' = o then [N 9 3] else []) := by
    unfold l_ac
    rw [aAct_n, List.range_succ, List.filter_append]
    congr 1
    · refine List.filter_congr (fun a ha => ?_)
      have := List.mem_range.mp ha
      rw [aAct_o (by omega) (by omega)]
    · rw [List.filter_cons, aAct_31]
      by_cases e : o' = o
      · rw [if_pos e, if_pos (by simp [e])]; rfl
      · rw [if_neg e, if_neg (by simp; exact fun w => e w.symm)]; rfl
  rw [e1, List.map_append]
  congr 1
  · refine List.map_congr_left (fun a ha => ?_)
    have := l_ac_lt ha
    exact aAct_o (by omega) (by omega)
  · by_cases e : o' = o
    · rw [if_pos e, if_pos e]
      show [aAct N o x op 14 (N 9 3)] = _
      rw [aAct_x]
    · rw [if_neg e, if_neg e]; rfl
/-- known actions stay -/
theorem qA_old {N : gA} {M M' : gM} {S S' : gm_S} {E : Nat → Nat → Prop} {L : Nat → Prop} {o x op a : Nat} (h : cW6 N M a ∧ cH5 N M S a) (ha : a < N 9 3) (g : ag E L S S') (hE : ∀ F b, 700 ≤ F → F < 1000 → ¬ E F b) (hM : ∀ k, 33 ≤ k → k ≤ 37 → M' k (48 * N 9 5 + a) = M k (48 * N 9 5 + a)) : cW6 (aAct N o x op) M' a ∧ cH5 (aAct N o x op) M' S' a := by
  obtain ⟨h1, h2⟩ := h
  have e31 : aAct N o x op 31 a = N 31 a := aAct_o (by omega) (by omega)
  have e14 : aAct N o x op 14 a = N 14 a := aAct_o (by omega) (by omega)
  have e23 : aAct N o x op 23 a = N 23 a := aAct_o (by omega) (by omega)
  have m : ∀ k, 33 ≤ k → k ≤ 37 → n_I M' k (48 * N 9 5 + a) = n_I M k (48 * N 9 5 + a) := fun k w1 w2 => by unfold n_I; rw [hM k w1 w2]
  have md : n_D M' 37 (48 * N 9 5 + a) = n_D M 37 (48 * N 9 5 + a) := by unfold n_D; rw [hM 37 (by omega) (by omega)]
  constructor
  · unfold cW6 at h1 ⊢
    rw [e31, aAct_w, m 33 (by omega) (by omega), m 34 (by omega) (by omega), m 35 (by omega) (by omega), m 36 (by omega) (by omega), md]
    exact h1
  · unfold cH5 at h2 ⊢
    rw [e14, e23, aAct_w, m 34 (by omega) (by omega), m 35 (by omega) (by omega), m 36 (by omega) (by omega), md]
    refine ⟨fun w => ?_, fun w => ?_⟩
    · obtain ⟨f1, f2⟩ := h2.1 w
      exact ⟨g.gI f1 (by decide) (hE _ _ (by omega) (by omega)), g.gI f2 (by decide) (hE _ _ (by omega) (by omega))⟩
    · obtain ⟨f1, f2, f3, f4⟩ := h2.2 w
      refine ⟨g.gI f1 (by decide) (hE _ _ (by omega) (by omega)), g.gI f2 (by decide) (hE _ _ (by omega) (by omega)), g.gR f3 (by decide) (hE _ _ (by omega) (by omega)), g.gI f4.1 (by decide) (hE _ _ (by omega) (by omega)), ?_⟩
      obtain ⟨q, eq, tq, vq⟩ := y_gDt f4.2
      cases eq
      rw [y_gD ((g.2.2 _ (by rw [tq]; decide)).trans tq), g.1 _ _ _ (by rw [tq]; decide) (hE _ _ (by omega) (by omega)), vq]
end RDG
