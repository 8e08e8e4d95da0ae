/-! LAYER 2, reading: names, the table -/
set_option maxRecDepth 100000
section RDL
variable {A : gA} {M0 : gM} {z p bc bk : Nat} {tx : Nat → Nat}
/-- one name on both sides -/
def qN1 (N : gA) (M : gM) (S : gm_S) (x k : Nat) : Prop := ∃ l pl st : Nat, l < 16 ∧ st ≤ 2 ∧ pl ≤ 160 ∧ n_I M 23 (64 * N 9 5 + k) = nI l ∧ n_I M 24 (64 * N 9 5 + k) = nI pl ∧ n_I M 25 (64 * N 9 5 + k) = nI st ∧ g_gI S (some x) 11 0 = some (nI (97 + l)) ∧ g_gI S (some x) 11 1 = some (nI pl) ∧ g_gI S (some x) 11 2 = some (nI st)
/-- the names read so far -/
def qN (A N : gA) (M : gM) (S : gm_S) : Prop := n_I M 8 0 = nI (N 9 5) ∧ N 9 5 < 2 ∧ n_I M 13 (N 9 5) = nI (N 9 4) ∧ g_gR S (some (A 1 0)) 2 4 = some (some (N 35 0)) ∧ gs_t S (N 35 0) = 16 ∧ S.2.1 (N 35 0) = (List.range (N 9 4)).map (N 12) ∧ (∀ k, k < N 9 4 → qN1 N M S (N 12 k) k) ∧ A 36 0 ≤ N 35 0 ∧ ∀ k, k < N 9 4 → A 36 0 ≤ N 12 k
def aNam (N : gA) (x : Nat) : gA := fun k i => if k = 9 ∧ i = 4 then N 9 4 + 1 else if k = 12 ∧ i = N 9 4 then x else N k i
theorem aNam_o {N : gA} {x k i : Nat} (h1 : ¬ (k = 9 ∧ i = 4)) (h2 : ¬ (k = 12 ∧ i = N 9 4)) : aNam N x k i = N k i := by
  unfold aNam
  rw [if_neg h1, if_neg h2]
theorem aNam_n {N : gA} {x : Nat} : aNam N x 9 4 = N 9 4 + 1 := rfl
theorem aNam_w {N : gA} {x : Nat} : aNam N x 9 5 = N 9 5 := aNam_o (by omega) (by omega)
theorem aNam_x {N : gA} {x : Nat} : aNam N x 12 (N 9 4) = x := by
  unfold aNam
  rw [if_neg (by omega), if_pos ⟨rfl, rfl⟩]
theorem aNam_l {N : gA} {x : Nat} : (List.range (aNam N x 9 4)).map (aNam N x 12) = (List.range (N 9 4)).map (N 12) ++ [x] := by
  rw [aNam_n, List.range_succ, List.map_append]
  congr 1
  · refine List.map_congr_left (fun a ha => ?_)
    have := List.mem_range.mp ha
    exact aNam_o (by omega) (by omega)
  · show [aNam N x 12 (N 9 4)] = _
    rw [aNam_x]
theorem qN1.mono {N : gA} {M M' : gM} {S S' : gm_S} {x k : Nat} {E : Nat → Nat → Prop} {L : Nat → Prop} (h : qN1 N M S x k) (g : ag E L S S') (hE : ∀ F, 1100 ≤ F → F ≤ 1102 → ¬ E F x) (hM : ∀ K, 23 ≤ K → K ≤ 25 → M' K (64 * N 9 5 + k) = M K (64 * N 9 5 + k)) : qN1 N M' S' x k := by
  obtain ⟨l, pl, st, h1, h2, h3, h4, h5, h6, h7, h8, h9⟩ := h
  refine ⟨l, pl, st, h1, h2, h3, ?_, ?_, ?_, g.gI h7 (by decide) (hE _ (by omega) (by omega)), g.gI h8 (by decide) (hE _ (by omega) (by omega)), g.gI h9 (by decide) (hE _ (by omega) (by omega))⟩
  · unfold n_I; rw [hM _ (by omega) (by omega)]; exact h4
  · unfold n_I; rw [hM _ (by omega) (by omega)]; exact h5
  · unfold n_I; rw [hM _ (by omega) (by omega)]; exact h6
def eN (A N : gA) : Nat → Nat → Prop := fun F a => (F = 202 ∧ a = A 1 0) ∨ ((F = 3 ∨ F = 4) ∧ a = N 35 0)
def mNa (N : gA) (M M' : gM) : Prop := ∀ k i, ¬ (k = 4 ∨ k = 5 ∨ (k = 13 ∧ i = N 9 5) ∨ (23 ≤ k ∧ k ≤ 25 ∧ 64 * N 9 5 ≤ i ∧ i < 64 * N 9 5 + 64)) → M' k i = M k i
/-- the fresh name goes into the list -/
theorem c_nam {N : gA} {M M' : gM} {S S2 : gm_S} {x : Nat} (hq : qN A N M S) (hi : g_inv M0 S2) (g : ag (eA A) (fun _ => False) S S2) (hl : S2.2.1 = S.2.1) (hn : N 9 4 < 64) (hx : gs_t S2 x = 11) (hxo : gs_t S x = 0) (hxB : A 36 0 ≤ x) (h1 : qN1 N M' S2 x (N 9 4)) (h13 : n_I M' 13 (N 9 5) = nI (N 9 4 + 1)) (h8 : n_I M' 8 0 = nI (N 9 5)) (hM : ∀ K k, 23 ≤ K → K ≤ 25 → k < N 9 4 → M' K (64 * N 9 5 + k) = M K (64 * N 9 5 + k)) (hc : gs_c S2 < 600096) (hk : gs_k S2 + 150 ≤ 7301386) : ∃ S', g_gR S2 (some (A 1 0)) 2 4 = some (some (N 35 0)) ∧ g_ladd S2 (some (N 35 0)) (some x) = some S' ∧ qN A (aNam N x) M' S' ∧ ag (eN A N) (fun a => a = N 35 0) S S' ∧ ag (fun F b => (F = 3 ∨ F = 4) ∧ b = N 35 0) (fun b => b = N 35 0) S2 S' ∧ g_inv M0 S' ∧ gs_c S' ≤ gs_c S2 + 1 ∧ gs_k S' ≤ gs_k S2 + 150 ∧ (∀ b, b ≠ N 35 0 → S'.2.1 b = S.2.1 b) := by
  obtain ⟨q1, q2, q3, q4, q5, q6, q7, q8, q9⟩ := hq
  have t35 : gs_t S2 (N 35 0) = 16 := (g.2.2 _ (by rw [q5]; decide)).trans q5
  have r4 : g_gR S2 (some (A 1 0)) 2 4 = some (some (N 35 0)) := g.gR q4 (by decide) (by unfold eA; omega)
  obtain ⟨S', a1, a2, a3, a4, a5, a6, a7⟩ := c_ladd hi t35 (x := x) (by rw [hx]; decide) (by rw [hl, q6, List.length_map, List.length_range]; omega) hc hk
  have gg : ag (eN A N) (fun a => a = N 35 0) S S' := (g.trans a2).wk (fun F a w => w) (fun a w => w.elim (fun w => w.elim) id)
  have e35 : aNam N x 35 0 = N 35 0 := aNam_o (by omega) (by omega)
  refine ⟨S', r4, a1, ⟨?_, ?_, ?_, ?_, ?_, ?_, fun k hk' => ?_, by rw [e35]; exact q8, fun k hk' => ?_⟩, gg, a2, a4, a5, a6, fun b hb => (a7 b hb).trans (by rw [hl])⟩
  · rw [aNam_w]; exact h8
  · rw [aNam_w]; exact q2
  · rw [aNam_w, aNam_n]; exact h13
  · rw [e35]; exact a2.gR r4 (by decide) (by simp)
  · rw [e35]; exact (a2.2.2 _ (by rw [t35]; decide)).trans t35
  · rw [e35, a3, hl, q6, aNam_l]
  · rw [aNam_n] at hk'
    have up : ∀ y, qN1 N M' S' y k → qN1 (aNam N x) M' S' y k := fun y w => by unfold qN1 at w ⊢; rw [aNam_w]; exact w
    by_cases e : k = N 9 4
    · subst e
      rw [aNam_x]
      exact up _ (h1.mono a2 (fun F f1 f2 w => by omega) (fun _ _ _ => rfl))
    · rw [aNam_o (by omega) (by omega)]
      exact up _ ((q7 k (by omega)).mono gg (fun F f1 f2 w => by unfold eN at w; omega) (fun K f1 f2 => hM K k f1 f2 (by omega)))
  · rw [aNam_n] at hk'
    by_cases e : k = N 9 4
    · rw [e, aNam_x]; exact hxB
    · rw [aNam_o (by omega) (by omega)]; exact q9 k (by omega)
end RDL
