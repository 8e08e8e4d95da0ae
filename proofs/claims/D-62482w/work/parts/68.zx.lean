/-! LAYER 2, reading: the table of states -/
set_option maxRecDepth 100000
section RDZd
variable {A : gA} {M0 : gM} {z p bc bk : Nat} {tx : Nat → Nat}
/-- how many letters are free -/
def frc (f : Nat → Bool) : Nat → Nat
  | 0 => 0
  | n + 1 => frc f n + (if f n = true then 1 else 0)
theorem frc_eq {f g : Nat → Bool} : ∀ n, (∀ j, j < n → g j = f j) → frc g n = frc f n
  | 0, _ => rfl
  | n + 1, h => by
    unfold frc
    rw [frc_eq n (fun j hj => h j (by omega)), h n (by omega)]
theorem frc_up {f g : Nat → Bool} {j0 : Nat} (h1 : f j0 = true) (h2 : g j0 = false) (h : ∀ j, j ≠ j0 → g j = f j) : ∀ n, j0 < n → frc g n + 1 = frc f n
  | 0, hn => by omega
  | n + 1, hn => by
    unfold frc
    by_cases e : j0 = n
    · rw [frc_eq n (fun j hj => h j (by omega)), ← e, h1, h2]
      simp
    · have := frc_up h1 h2 h n (by omega)
      rw [h n (by omega)]
      omega
theorem frc_full {f : Nat → Bool} : ∀ n, (∀ j, j < n → f j = true) → frc f n = n
  | 0, _ => rfl
  | n + 1, h => by
    unfold frc
    rw [frc_full n (fun j hj => h j (by omega)), h n (by omega)]
    simp
theorem frc_pos {f : Nat → Bool} {j0 : Nat} (h1 : f j0 = true) : ∀ n, j0 < n → 1 ≤ frc f n
  | 0, hn => by omega
  | n + 1, hn => by
    unfold frc
    by_cases e : j0 = n
    · rw [← e, h1]; simp
    · have := frc_pos h1 n (by omega)
      omega
/-- the fields of a state -/
def sF (N : gA) (M : gM) (S : gm_S) (ob : Nat → Bool) (i : Nat) : Prop := g_gI S (some (N 10 i)) 5 0 = some (nI i) ∧ g_gR S (some (N 10 i)) 5 1 = some (if N 24 i = 0 then none else some (N 10 (N 24 i - 1))) ∧ g_gI S (some (N 10 i)) 5 2 = some (c_kind N M i) ∧ g_gR S (some (N 10 i)) 5 3 = some (some (N 15 i)) ∧ g_gR S (some (N 10 i)) 5 4 = some (some (N 16 i)) ∧ g_gR S (some (N 10 i)) 5 5 = some (some (N 17 i)) ∧ g_gR S (some (N 10 i)) 5 6 = some (some (N 18 i)) ∧ g_gI S (some (N 10 i)) 5 7 = some (if ob i = true then 0 else c_bel N M i) ∧ g_gI S (some (N 10 i)) 5 8 = some 0 ∧ g_gI S (some (N 10 i)) 5 9 = some 0
/-- a state in the model -/
def sW (N : gA) (M : gM) (ob : Nat → Bool) (i : Nat) : Prop := n_I M 15 (16 * N 9 5 + i) = (if N 24 i = 0 then -1 else nI (N 24 i - 1)) ∧ N 24 i ≤ i ∧ (c_kind N M i = 0 ∨ c_kind N M i = 1 ∨ c_kind N M i = 2) ∧ (ob i = false → c_kind N M i ≠ 0 → l_ch N i ≠ []) ∧ 1 ≤ N 25 i ∧ N 25 i ≤ 6 ∧ (N 24 i ≠ 0 → N 25 i = N 25 (N 24 i - 1) + 1)
def sB (N : gA) (M : gM) : Prop := ∀ i k, i < N 9 0 → (bt (c_bel N M i) k = true ↔ k < N 9 0 ∧ N 24 k ≠ 0 ∧ (N 24 k = i + 1 ∨ bt (c_bel N M i) (N 24 k - 1) = true))
/-- letters -/
def sL (A N : gA) (M : gM) (S : gm_S) : Prop := g_gR S (some (A 1 0)) 2 5 = some (some (A 34 1)) ∧ gs_t S (A 34 1) = 100 ∧ gm_N (S.1 1 (A 34 1) 0) = 16 ∧ (∀ j, j < 16 → gm_I (S.1 2 (A 34 1) j) = n_I M 17 (16 * N 9 5 + j) ∧ (n_I M 17 (16 * N 9 5 + j) = -1 ∨ ∃ k : Nat, k < N 9 0 ∧ n_I M 17 (16 * N 9 5 + j) = nI k)) ∧ frc (fun j => decide (n_I M 17 (16 * N 9 5 + j) = -1)) 16 + N 9 0 = 16
def qS (A N : gA) (M : gM) (S : gm_S) (ob : Nat → Bool) : Prop := g_gR S (some (A 1 0)) 2 3 = some (some (N 8 0)) ∧ n_I M 9 (N 9 5) = nI (N 9 0) ∧ sL A N M S ∧ (∀ i, i < N 9 0 → sW N M ob i ∧ sF N M S ob i) ∧ sB N M
theorem sF_mono {N N' : gA} {M M' : gM} {S S' : gm_S} {ob ob' : Nat → Bool} {E : Nat → Nat → Prop} {L : Nat → Prop} {i : Nat} (h : sF N M S ob i) (g : ag E L S S') (hE : ∀ F, 500 ≤ F → F < 510 → ¬ E F (N 10 i)) (hk : ∀ k, (k = 10 ∨ k = 15 ∨ k = 16 ∨ k = 17 ∨ k = 18 ∨ k = 24) → N' k i = N k i) (h10 : N 24 i ≠ 0 → N' 10 (N 24 i - 1) = N 10 (N 24 i - 1)) (e5 : N' 9 5 = N 9 5) (ho : ob' i = ob i) (hM : M' 14 (16 * N 9 5 + i) = M 14 (16 * N 9 5 + i)) (hb : ob i = false → c_bel N' M' i = c_bel N M i) : sF N' M' S' ob' i := by
  obtain ⟨f1, f2, f3, f4, f5, f6, f7, f8, f9, f10⟩ := h
  have ek : c_kind N' M' i = c_kind N M i := by unfold c_kind n_I; rw [e5, hM]
  unfold sF
  rw [hk 10 (by omega), hk 15 (by omega), hk 16 (by omega), hk 17 (by omega), hk 18 (by omega), hk 24 (by omega), ek, ho]
  refine ⟨g.gI f1 (by decide) (hE _ (by omega) (by omega)), ?_, g.gI f3 (by decide) (hE _ (by omega) (by omega)), g.gR f4 (by decide) (hE _ (by omega) (by omega)), g.gR f5 (by decide) (hE _ (by omega) (by omega)), g.gR f6 (by decide) (hE _ (by omega) (by omega)), g.gR f7 (by decide) (hE _ (by omega) (by omega)), ?_, g.gI f9 (by decide) (hE _ (by omega) (by omega)), g.gI f10 (by decide) (hE _ (by omega) (by omega))⟩
  · by_cases e : N 24 i = 0
    · rw [if_pos e] at f2 ⊢
      exact g.gR f2 (by decide) (hE _ (by omega) (by omega))
    · rw [if_neg e] at f2 ⊢
      rw [h10 e]
      exact g.gR f2 (by decide) (hE _ (by omega) (by omega))
  · cases eo : ob i
    · rw [eo] at f8
      rw [hb eo]
      exact g.gI f8 (by decide) (hE _ (by omega) (by omega))
    · rw [eo] at f8
      exact g.gI f8 (by decide) (hE _ (by omega) (by omega))
/-- items do not touch states -/
theorem qS_items {N N' : gA} {M M' : gM} {S S' : gm_S} {ob : Nat → Bool} {B : Nat} (h : qS A N M S ob) (x : exI N N') (f : xI A N B M S M' S') : qS A N' M' S' ob := by
  obtain ⟨q1, q2, ⟨l1, l2, l3, l4, l5⟩, q4, q5⟩ := h
  obtain ⟨g, m⟩ := f
  have n0 := x 9 0 (by omega)
  have n5 := x 9 5 (by omega)
  have mk : ∀ k i, k = 9 ∨ (14 ≤ k ∧ k ≤ 17) → M' k i = M k i := fun k i w => m k i (by omega)
  have mi : ∀ k i, k = 9 ∨ (14 ≤ k ∧ k ≤ 17) → n_I M' k i = n_I M k i := fun k i w => by unfold n_I; rw [mk k i w]
  have e24 : N' 24 = N 24 := by funext i; exact x 24 i (by omega)
  have e25 : N' 25 = N 25 := by funext i; exact x 25 i (by omega)
  have ek : ∀ i, c_kind N' M' i = c_kind N M i := fun i => by unfold c_kind; rw [n5, mi _ _ (by omega)]
  have eb : ∀ i, c_bel N' M' i = c_bel N M i := fun i => by unfold c_bel; rw [n5, mi _ _ (by omega)]
  have lch : ∀ i, l_ch N' i = l_ch N i := fun i => by unfold l_ch; rw [n0, e24]
  refine ⟨by rw [x 8 0 (by omega)]; exact g.gR q1 (by decide) (by unfold eI; omega), by rw [n0, n5, mi _ _ (by omega)]; exact q2, ⟨g.gR l1 (by decide) (by unfold eI; omega), (g.2.2 _ (by rw [l2]; decide)).trans l2, by rw [g.1 _ _ _ (by rw [l2]; decide) (by unfold eI; omega)]; exact l3, fun j hj => ?_, ?_⟩, fun i hi => ?_, fun i k hi => ?_⟩
  · rw [g.1 _ _ _ (by rw [l2]; decide) (by unfold eI; omega), n5, n0, mi _ _ (by omega)]
    exact l4 j hj
  · rw [n0, frc_eq (f := fun j => decide (n_I M 17 (16 * N 9 5 + j) = -1)) 16 (fun j _ => by rw [n5, mi _ _ (by omega)])]
    exact l5
  · rw [n0] at hi
    obtain ⟨w1, w2⟩ := q4 i hi
    refine ⟨?_, sF_mono w2 g (fun F u1 u2 => by unfold eI; omega) (fun k u => x k i (by omega)) (fun _ => x _ _ (by omega)) n5 rfl (mk _ _ (by omega)) (fun _ => eb i)⟩
    unfold sW at w1 ⊢
    rw [n5, mi _ _ (by omega), e24, e25, ek, lch]
    exact w1
  · rw [n0] at hi
    rw [eb, n0, e24]
    exact q5 i k hi
/-! the model when it is ill -/
theorem i_204 {M : gM} (h : n_I M 5 0 = 1) (fu : Nat) : ∃ M', F_X4_readChart_204 fu M = some (.returned none, M') ∧ n_I M' 5 0 = 1 ∧ ∀ k i, k ≠ 5 → M' k i = M k i := by
  unfold F_X4_readChart_204
  by_cases e : n_I M 4 0 = n_I M 2 0
  · rw [if_pos e]
    unfold F_X4_readChart_221
    rw [m_want1, y_cV]
    exact ⟨M, rfl, h, fun _ _ _ => rfl⟩
  · rw [if_neg e]
    unfold F_X4_readChart_221
    rw [m_want0, y_cV]
    exact ⟨_, rfl, n_ps, fun k i w => y_uk w⟩
theorem i_6 {M : gM} (h : n_I M 5 0 = 1) (fu n : Nat) (x1 x2 x3 : Int32) : F_X4_readChart_6 fu (n + 1) x1 x2 x3 M = F_X4_readChart_204 fu M := by
  rw [F_X4_readChart_6]
  by_cases e : x3 = 0
  · rw [if_pos e]
  · rw [if_neg e, h, if_neg (by decide)]
theorem i_87 {M : gM} (h : n_I M 5 0 = 1) (fu n f : Nat) (x1 x2 : Int32) : ∃ M', F_X4_readChart_87 fu (F_X4_readChart_6 fu (n + 1)) (f + 1) x1 x2 M = some (.returned none, M') ∧ n_I M' 5 0 = 1 ∧ ∀ k i, k ≠ 5 → M' k i = M k i := by
  obtain ⟨M', e1, e2, e3⟩ := i_204 h fu
  refine ⟨M', ?_, e2, e3⟩
  rw [F_X4_readChart_87, h, if_neg (by decide)]
  unfold F_X4_readChart_191
  by_cases e : x1 < 0
  · rw [if_pos e, i_6 h, e1]
  · rw [if_neg e, i_6 h, e1]
theorem i_items {M : gM} (h : n_I M 5 0 = 1) (fu : Nat) (x1 : Int32) : F_X4_readItems fu x1 M = some (.returned none, M) := by
  unfold F_X4_readItems
  rw [show F_X4_takes fu 123 M = _ from i_takes h fu (c := 123) (by omega) (by omega), y_cI, if_pos rfl]
end RDZd
