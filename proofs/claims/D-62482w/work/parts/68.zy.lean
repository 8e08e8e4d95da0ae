/-! LAYER 2, reading: the beginning of a build -/
set_option maxRecDepth 100000
section RDZo
variable {A : gA} {M0 : gM} {z bc bk : Nat} {tx : Nat → Nat}
/-- the component when its tables are empty -/
def cSt (fu : Nat) (x0 : Option Nat) (S : gm_S) : gR := gz_cR (F_X2_state fu 8 x0 none (1 : Int32) S) fun v1 S1 =>
  Option.bind (g_gI S1 x0 2 2) fun v2 =>
  Option.bind (g_gI S1 x0 2 1) fun v3 =>
  if v2 = v3 then (F_X2_chart_82 fu x0 v1 (1 : Int32) x0 S1)
  else (F_X2_chart_82 fu x0 v1 (0 : Int32) x0 S1)
def mSt0 (fu : Nat) (M : gM) : gQ := gz_cV (F_X4_readChart fu  M) fun M2 =>
  if (n_I M2 5 0) = 0 then (gz_cV (F_X4_findNames fu  M2) fun M4 =>
  F_X4_build_126 fu  M4)
  else (F_X4_build_126 fu  M2)
theorem c_39 {fu : Nat} : ∀ (d i : Nat) (S : gm_S) (m : Nat), 16 - i = d → i ≤ 16 → d < m → g_gR S (some (A 1 0)) 2 5 = some (some (A 34 1)) → gs_t S (A 34 1) = 100 → gm_N (S.1 1 (A 34 1) 0) = 16 → (∀ j, j < i → gm_I (S.1 2 (A 34 1) j) = -1) →
    ∃ S', F_X2_chart_39 fu m (some (A 1 0)) (nI i) S = cSt fu (some (A 1 0)) S' ∧ (∀ F a j, ¬ (F = 2 ∧ a = A 34 1) → S'.1 F a j = S.1 F a j) ∧ S'.2 = S.2 ∧ (∀ j, j < 16 → gm_I (S'.1 2 (A 34 1) j) = -1) ∧ (g_inv M0 S → g_inv M0 S') := by
  intro d
  induction d with
  | zero =>
    intro i S m hd hi hm h1 h2 h3 h4
    obtain ⟨m, rfl⟩ : ∃ m', m = m' + 1 := ⟨m - 1, by omega⟩
    refine ⟨S, ?_, fun _ _ _ _ => rfl, rfl, fun j hj => h4 j (by omega), id⟩
    rw [F_X2_chart_39, show i = 16 by omega, if_pos (show (16 : Int32) ≤ nI 16 from Int32.le_refl _)]
    rfl
  | succ d ih =>
    intro i S m hd hi hm h1 h2 h3 h4
    obtain ⟨m, rfl⟩ : ∃ m', m = m' + 1 := ⟨m - 1, by omega⟩
    have h0 : gs_t S (A 34 1) ≠ 0 := by rw [h2]; decide
    have g := ag.put (S := S) (F := 2) (a := A 34 1) (i := i) (v := .int (-1)) (by decide)
    obtain ⟨S', w1, w2, w3, w4, w5⟩ := ih (i + 1) (gs_put S 2 (A 34 1) i (.int (-1))) m (by omega) (by omega) (by omega) (g.gR h1 (by decide) (by simp)) ((g.2.2 _ h0).trans h2) (by rw [g.1 _ _ _ h0 (by simp)]; exact h3) (fun j hj => by
      by_cases e : j = i
      · rw [e, y_pE]; rfl
      · rw [y_pM (by simp [e])]; exact h4 j (by omega))
    refine ⟨S', ?_, fun F a j w => (w2 F a j w).trans (y_pM (fun q => w ⟨q.1, q.2.1⟩)), w3, w4, fun w => w5 (w.put (by decide) h0)⟩
    rw [F_X2_chart_39, if_neg (show ¬ (16 : Int32) ≤ nI i from nI_ge (a := i) (b := 16) (by omega) (by omega)), h1, y_b]
    unfold g_sI
    rw [y_as (t := 0) h2 h3 (by omega) (by omega), y_b, nI_1, w1]
theorem m_84 {w fu : Nat} (hw : w < 2) : ∀ (d i : Nat) (M : gM) (n : Nat), 16 - i = d → i ≤ 16 → d < n → n_I M 8 0 = nI w → (∀ j, j < i → n_I M 17 (16 * w + j) = -1) →
    ∃ M', F_X4_build_84 fu n (nI (16 * w + i)) M = mSt0 fu M' ∧ (∀ k j, ¬ (k = 17 ∧ 16 * w ≤ j ∧ j < 16 * w + 16) → M' k j = M k j) ∧ ∀ j, j < 16 → n_I M' 17 (16 * w + j) = -1 := by
  intro d
  induction d with
  | zero =>
    intro i M n hd hi hn h8 h4
    obtain ⟨n, rfl⟩ : ∃ n', n = n' + 1 := ⟨n - 1, by omega⟩
    refine ⟨M, ?_, fun _ _ _ => rfl, fun j hj => h4 j (by omega)⟩
    have e : (16 : Int32) * nI w + 16 = nI (16 * w + 16) := by rw [y_m16]; exact nI_add (16 * w) 16
    rw [F_X4_build_84, h8, e, show i = 16 by omega, if_pos (Int32.le_refl _)]
    rfl
  | succ d ih =>
    intro i M n hd hi hn h8 h4
    obtain ⟨n, rfl⟩ : ∃ n', n = n' + 1 := ⟨n - 1, by omega⟩
    obtain ⟨M', w1, w2, w3⟩ := ih (i + 1) (n_up M 17 (16 * w + i) (.int (-1))) n (by omega) (by omega) (by omega) (by unfold n_I; rw [y_uk (by decide)]; exact h8) (fun j hj => by
      unfold n_I
      by_cases e : j = i
      · rw [e, y_us]; rfl
      · rw [y_ui (by omega)]; exact h4 j (by omega))
    have e : (16 : Int32) * nI w + 16 = nI (16 * w + 16) := by rw [y_m16]; exact nI_add (16 * w) 16
    refine ⟨M', ?_, fun k j q => (w2 k j q).trans (n_upo (by omega)), w3⟩
    rw [F_X4_build_84, h8, e, if_neg (nI_ge (by omega) (by omega)), y_sI (by omega) (by omega), y_b, nI_1, Nat.add_assoc, w1]
/-- empty tables -/
def N0 (w B l8 l35 : Nat) : gA := fun k i => if k = 9 ∧ i = 5 then w else if k = 7 then B else if k = 8 then l8 else if k = 35 then l35 else if k = 40 ∧ i = l8 then 1 else 0
theorem m_build {M : gM} {w fu : Nat} (hf : 100 ≤ fu) (hw : w < 2) (hlv : (n_I M 7 0 = 0 ∧ w = 1) ∨ (n_I M 7 0 ≠ 0 ∧ w = 0)) : ∃ M', F_X4_build fu M = mSt0 fu M' ∧ n_I M' 8 0 = nI w ∧ n_I M' 4 0 = 0 ∧ n_I M' 5 0 = 0 ∧ (∀ c, 9 ≤ c → c ≤ 13 → n_I M' c w = 0) ∧ (∀ j, j < 16 → n_I M' 17 (16 * w + j) = -1) ∧ ∀ k i, ¬ (k = 4 ∨ k = 5 ∨ k = 8 ∨ (9 ≤ k ∧ k ≤ 13 ∧ i = w) ∨ (k = 17 ∧ 16 * w ≤ i ∧ i < 16 * w + 16)) → M' k i = M k i := by
  have h13 : F_X4_build fu M = F_X4_build_13 fu (nI w) M := by
    unfold F_X4_build
    rcases hlv with ⟨h, rfl⟩ | ⟨h, rfl⟩
    · rw [if_pos h]; rfl
    · rw [if_neg h]; rfl
  obtain ⟨M3, hM3⟩ : ∃ M3, M3 = n_p (n_p (n_p M 8 (nI w)) 4 0) 5 0 := ⟨_, rfl⟩
  obtain ⟨M18, hM18⟩ : ∃ M18, M18 = n_up (n_up (n_up (n_up (n_up M3 9 w (.int 0)) 10 w (.int 0)) 11 w (.int 0)) 12 w (.int 0)) 13 w (.int 0) := ⟨_, rfl⟩
  have f3 : ∀ k i, ¬ (k = 4 ∨ k = 5 ∨ k = 8) → M3 k i = M k i := fun k i q => by rw [hM3]; exact (y_uk (by omega)).trans ((y_uk (by omega)).trans (y_uk (by omega)))
  have f18 : ∀ k i, ¬ (9 ≤ k ∧ k ≤ 13 ∧ i = w) → M18 k i = M3 k i := fun k i q => by rw [hM18, n_upo (by omega), n_upo (by omega), n_upo (by omega), n_upo (by omega), n_upo (by omega)]
  have e8 : n_I M3 8 0 = nI w := by rw [hM3, n_po (by decide), n_po (by decide), n_ps]
  have e818 : n_I M18 8 0 = nI w := by unfold n_I; rw [f18 _ _ (by omega)]; exact e8
  obtain ⟨M', w1, w2, w3⟩ := m_84 (w := w) (fu := fu) hw 16 0 M18 fu (by omega) (by omega) (by omega) e818 (fun j hj => by omega)
  refine ⟨M', ?_, ?_, ?_, ?_, fun c u1 u2 => ?_, w3, fun k i q => ?_⟩
  · rw [h13]
    unfold F_X4_build_13
    have s9 : n_I (n_up M3 9 w (.int 0)) 8 0 = nI w := by unfold n_I; rw [y_uk (by decide)]; exact e8
    have s10 : n_I (n_up (n_up M3 9 w (.int 0)) 10 w (.int 0)) 8 0 = nI w := by unfold n_I; rw [y_uk (by decide)]; exact s9
    have s11 : n_I (n_up (n_up (n_up M3 9 w (.int 0)) 10 w (.int 0)) 11 w (.int 0)) 8 0 = nI w := by unfold n_I; rw [y_uk (by decide)]; exact s10
    have s12 : n_I (n_up (n_up (n_up (n_up M3 9 w (.int 0)) 10 w (.int 0)) 11 w (.int 0)) 12 w (.int 0)) 8 0 = nI w := by unfold n_I; rw [y_uk (by decide)]; exact s11
    rw [show n_pIO M 8 (nI w) = some (n_p M 8 (nI w)) from rfl, y_b, show n_pIO (n_p M 8 (nI w)) 4 0 = some (n_p (n_p M 8 (nI w)) 4 0) from rfl, y_b, show n_pZO (n_p (n_p M 8 (nI w)) 4 0) 5 0 = some M3 from by rw [hM3]; rfl, y_b, e8, y_sI hw (by omega), y_b, s9, y_sI hw (by omega), y_b, s10, y_sI hw (by omega), y_b, s11, y_sI hw (by omega), y_b, s12, y_sI hw (by omega), y_b, ← hM18, e818, y_m16]
    exact w1
  · unfold n_I; rw [w2 _ _ (by omega)]; exact e818
  · unfold n_I; rw [w2 _ _ (by omega), f18 _ _ (by omega), hM3]; show gm_I (n_up (n_p (n_p M 8 (nI w)) 4 0) 5 0 _ 4 0) = _; rw [y_uk (by decide)]; exact n_ps
  · unfold n_I; rw [w2 _ _ (by omega), f18 _ _ (by omega), hM3]; exact n_ps
  · have hc : c = 9 ∨ c = 10 ∨ c = 11 ∨ c = 12 ∨ c = 13 := by omega
    unfold n_I
    rw [w2 _ _ (by omega), hM18]
    rcases hc with rfl | rfl | rfl | rfl | rfl
    · rw [y_uk (by decide), y_uk (by decide), y_uk (by decide), y_uk (by decide), y_us]; rfl
    · rw [y_uk (by decide), y_uk (by decide), y_uk (by decide), y_us]; rfl
    · rw [y_uk (by decide), y_uk (by decide), y_us]; rfl
    · rw [y_uk (by decide), y_us]; rfl
    · rw [y_us]; rfl
  · rw [w2 k i (by omega), f18 k i (by omega), f3 k i (by omega)]
end RDZo
