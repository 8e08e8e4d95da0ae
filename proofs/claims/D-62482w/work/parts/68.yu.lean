/-! LAYER 2, reading: operands -/
set_option maxRecDepth 100000
section RDB
variable {A : gA} {M0 : gM} {z p bc bk : Nat} {tx : Nat → Nat}
/-- room for what is still to be read -/
def PB (bc bk : Nat) (S : gm_S) (p : Nat) : Prop := gs_c S + 8 * (160 - p) ≤ bc ∧ gs_k S + 400 * (160 - p) ≤ bk ∧ bc ≤ 599900 ∧ bk ≤ 7300000
/-- what reading changes: only its place -/
def eA (A : gA) : Nat → Nat → Prop := fun F a => F = 202 ∧ a = A 1 0
def tA (A : gA) (S S' : gm_S) : Prop := (∀ F a i, ¬ (F = 202 ∧ a = A 1 0) → S'.1 F a i = S.1 F a i) ∧ S'.2 = S.2
theorem tA.refl {S : gm_S} : tA A S S := ⟨fun _ _ _ _ => rfl, rfl⟩
theorem tA.trans {S S' S'' : gm_S} (h : tA A S S') (h' : tA A S' S'') : tA A S S'' := ⟨fun F a i z => (h'.1 F a i z).trans (h.1 F a i z), h'.2.trans h.2⟩
theorem tA.s {S : gm_S} {q : Nat} : tA A S (sA A S q) := ⟨fun F a i z => y_pM (fun w => z ⟨w.1, w.2.1⟩), rfl⟩
theorem tA.t {S S' : gm_S} (h : tA A S S') (b : Nat) : gs_t S' b = gs_t S b := by
  unfold gs_t
  rw [h.1 0 b 0 (by omega)]
theorem tA.ag {S S' : gm_S} (h : tA A S S') : ag (eA A) (fun _ => False) S S' := ⟨fun F a i _ hE => h.1 F a i hE, fun a _ _ => by rw [h.2], fun a _ => h.t a⟩
theorem tA.inv {S S' : gm_S} (h : tA A S S') (hi : g_inv M0 S) (ht : gs_t S (A 1 0) = 2) : g_inv M0 S' := by
  obtain ⟨i1, i2, i3, i4⟩ := hi
  have h0 : A 1 0 ≠ 0 := fun w => by rw [w, i2] at ht; cases ht
  have hn : gs_n S' = gs_n S := by show S'.2.2.1 = _; rw [h.2]
  refine ⟨?_, (h.t 0).trans i2, by rw [hn]; exact i3, fun a ha => by rw [hn]; exact i4 a (by rw [← h.t a]; exact ha)⟩
  rw [← i1]
  funext k i
  exact h.1 _ _ _ (fun w => h0 w.2.symm)
theorem tA.b {S S' : gm_S} (h : tA A S S') {q : Nat} (hb : PB bc bk S p) (hq : p ≤ q) : PB bc bk S' q := by
  unfold PB gs_c gs_k at *
  rw [h.2]
  omega
/-- it fails: the reader throws, the model is ill, at the same place -/
def PF (A : gA) (M0 : gM) (bc bk : Nat) (M' : gM) (o : Outcome) (S' : gm_S) : Prop := ∃ a p', o = .threw a ∧ gs_t S' a = 17 ∧ g_gI S' (some (A 1 0)) 2 2 = some (nI p') ∧ n_I M' 4 0 = nI p' ∧ n_I M' 5 0 = 1 ∧ g_inv M0 S' ∧ gs_c S' ≤ bc + 8 ∧ gs_k S' ≤ bk + 100 ∧ p' ≤ 160
theorem PF.m {M' M'' : gM} {o : Outcome} {S' : gm_S} (h : PF A M0 bc bk M' o S') (h4 : n_I M'' 4 0 = n_I M' 4 0) (h5 : n_I M'' 5 0 = 1) : PF A M0 bc bk M'' o S' := by
  obtain ⟨a, p', e1, e2, e3, e4, e5, e6⟩ := h
  exact ⟨a, p', e1, e2, e3, h4.trans e4, h5, e6⟩
theorem PA.at' {M : gM} {S : gm_S} (h : PA A M S z tx p) : g_gI S (some (A 1 0)) 2 2 = some (nI p) := h.2.2.2.2.2.2.2.2.2.1
theorem PA.m4 {M : gM} {S : gm_S} (h : PA A M S z tx p) : n_I M 4 0 = nI p := h.2.2.2.2.2.2.2.2.2.2.1
theorem PA.m5 {M : gM} {S : gm_S} (h : PA A M S z tx p) : n_I M 5 0 = 0 := h.2.2.2.2.2.2.2.2.2.2.2
theorem PA.pz {M : gM} {S : gm_S} (h : PA A M S z tx p) : p ≤ z ∧ z ≤ 160 := ⟨h.2.2.2.2.2.2.2.2.1, h.2.2.2.2.2.2.1⟩
/-- reading goes on where nothing of the text changes -/
theorem PA.mono {M M' : gM} {S S' : gm_S} {E : Nat → Nat → Prop} {L : Nat → Prop} (h : PA A M S z tx p) (g : ag E L S S') (hE : ¬ E 200 (A 1 0) ∧ ¬ E 201 (A 1 0) ∧ ¬ E 202 (A 1 0) ∧ ¬ E 1 (A 34 0) ∧ ¬ E 2 (A 34 0)) (hM : ∀ k i, k = 2 ∨ k = 3 ∨ k = 4 ∨ k = 5 → M' k i = M k i) : PA A M' S' z tx p := by
  obtain ⟨h1, h2, h3, h4, h5, h6, h7, h8, h9, h10, h11, h12⟩ := h
  obtain ⟨e1, e2, e3, e4, e5⟩ := hE
  have a0 : gs_t S (A 34 0) ≠ 0 := by rw [h3]; decide
  refine ⟨(g.2.2 _ (by rw [h1]; decide)).trans h1, g.gR h2 (by decide) e1, (g.2.2 _ a0).trans h3, by rw [g.1 _ _ _ a0 e4]; exact h4, g.gI h5 (by decide) e2, by unfold n_I; rw [hM _ _ (by omega)]; exact h6, h7, fun j hj => ?_, h9, g.gI h10 (by decide) e3, by unfold n_I; rw [hM _ _ (by omega)]; exact h11, by unfold n_I; rw [hM _ _ (by omega)]; exact h12⟩
  rw [g.1 _ _ _ a0 e5]
  unfold n_I
  rw [hM _ _ (by omega)]
  exact h8 j hj
theorem s_fail {M : gM} {S : gm_S} (h : PA A M S z tx p) (hi : g_inv M0 S) (hb : PB bc bk S p) (fu : Nat) (r : Option Nat) : F_X2_want fu r 0 S = some (.threw (gs_n S), g_mk S 17 6) ∧ PF A M0 bc bk (n_p M 5 1) (.threw (gs_n S)) (g_mk S 17 6) := by
  obtain ⟨b1, b2, b3, b4⟩ := hb
  have g := ag.mk (S := S) (t := 17) (w := 6) hi.2.2.2
  refine ⟨?_, gs_n S, p, rfl, y_mkn, g.gI h.at' (by decide) (fun z => z), (n_po (by decide)).trans h.m4, n_ps, hi.mk, ?_, ?_, ?_⟩
  · unfold F_X2_want
    rw [if_pos rfl, y_new (by omega) (by omega), y_b]
  · show gs_c S + 1 ≤ _; omega
  · show gs_k S + 6 ≤ _; omega
  · have := h.pz; omega
/-! ill -/
theorem i_op84 {M : gM} (h : n_I M 5 0 = 1) (fu : Nat) (x : Int32) : F_X4_readOperand_84 fu x M = some (.returned none, n_pD M 39 (FP.i2d x)) := by
  unfold F_X4_readOperand_84
  have h' : n_I (n_pD M 39 (FP.i2d x)) 5 0 = 1 := by unfold n_I n_pD; rw [y_uk (by decide)]; exact h
  rw [show n_pDO M 39 (FP.i2d x) = some (n_pD M 39 (FP.i2d x)) from rfl, y_b, show F_X4_takes fu 46 (n_pD M 39 (FP.i2d x)) = _ from i_takes h' fu (c := 46) (by omega) (by omega), y_cI, if_pos rfl]
theorem i_op49 {M : gM} (h : n_I M 5 0 = 1) (fu n : Nat) (x i : Int32) : F_X4_readOperand_49 fu (n + 1) x i M = some (.returned none, n_pD M 39 (FP.i2d x)) := by
  rw [F_X4_readOperand_49]
  by_cases z : (3 : Int32) ≤ i
  · rw [if_pos z, i_op84 h]
  · rw [if_neg z, show F_X4_among fu 48 57 M = _ from i_among h fu (lo := 48) (by omega) (by omega) 57, y_cI, if_pos rfl, i_op84 h]
theorem i_operand {M : gM} (h : n_I M 5 0 = 1) {fu : Nat} (hf : 100 ≤ fu) : ∃ M', F_X4_readOperand fu M = some (.returned none, M') ∧ n_I M' 5 0 = 1 ∧ (∀ k i, ¬ (k = 5 ∨ k = 38 ∨ k = 39) → M' k i = M k i) := by
  obtain ⟨f, rfl⟩ : ∃ f, fu = f + 1 := ⟨fu - 1, by omega⟩
  obtain ⟨N, hN⟩ : ∃ N, N = n_pD (n_p M 38 (-1)) 39 FP.dconst0 := ⟨_, rfl⟩
  have hNo : ∀ k i, k ≠ 38 → k ≠ 39 → N k i = M k i := fun k i z z' => by rw [hN]; exact (y_uk z').trans (y_uk z)
  have h5 : n_I N 5 0 = 1 := by unfold n_I; rw [hNo _ _ (by decide) (by decide)]; exact h
  have h6 : n_I (n_p N 5 1) 5 0 = 1 := n_ps
  refine ⟨n_pD (n_p N 5 1) 39 (FP.i2d 0), ?_, ?_, fun k i z => ?_⟩
  · unfold F_X4_readOperand
    rw [show n_pIO M 38 (-1) = some (n_p M 38 (-1)) from rfl, y_b, show n_pDO (n_p M 38 (-1)) 39 FP.dconst0 = some (n_pD (n_p M 38 (-1)) 39 FP.dconst0) from rfl, y_b, ← hN, show F_X4_among (f + 1) 117 122 N = _ from i_among h5 (f + 1) (lo := 117) (by omega) (by omega) 122, y_cI, if_pos rfl, show F_X4_among (f + 1) 48 57 N = _ from i_among h5 (f + 1) (lo := 48) (by omega) (by omega) 57, y_cI, m_want0, y_cV, i_op49 h6]
  · unfold n_I n_pD; rw [y_uk (by decide)]; exact h6
  · exact (y_uk (by omega)).trans ((y_uk (by omega)).trans (hNo k i (by omega) (by omega)))
/-! digits -/
theorem s_digits {fu : Nat} : ∀ (d i n p : Nat) (M : gM) (S : gm_S) (k m : Nat), 3 - i = d → i ≤ 3 → d < k → d < m → n < 10 ^ i → PA A M S z tx p → g_inv M0 S → ∃ n' p' M' S', p ≤ p' ∧ n' < 1000 ∧ F_X4_readOperand_49 fu k (nI n) (nI i) M = F_X4_readOperand_84 fu (nI n') M' ∧ F_X2_operand_43 fu m (some (A 1 0)) (FP.i2d (nI n)) (nI i) S = F_X2_operand_80 fu (some (A 1 0)) (FP.i2d (nI n')) S' ∧ PA A M' S' z tx p' ∧ tA A S S' ∧ (∀ k i, k ≠ 4 → M' k i = M k i) ∧ (i < 3 → 48 ≤ ct z tx p ∧ ct z tx p ≤ 57 → p < p') := by
  intro d
  induction d with
  | zero =>
    intro i n p M S k m hd hi hk hm hn h hv
    obtain ⟨k, rfl⟩ : ∃ k', k = k' + 1 := ⟨k - 1, by omega⟩
    obtain ⟨m, rfl⟩ : ∃ m', m = m' + 1 := ⟨m - 1, by omega⟩
    have e : i = 3 := by omega
    subst e
    refine ⟨n, p, M, S, Nat.le_refl _, hn, ?_, ?_, h, tA.refl, fun _ _ _ => rfl, fun w => by omega⟩
    · rw [F_X4_readOperand_49, if_pos (show (3 : Int32) ≤ nI 3 from Int32.le_refl _)]
    · rw [F_X2_operand_43, if_pos (show (3 : Int32) ≤ nI 3 from Int32.le_refl _)]
  | succ d ih =>
    intro i n p M S k m hd hi hk hm hn h hv
    obtain ⟨k, rfl⟩ : ∃ k', k = k' + 1 := ⟨k - 1, by omega⟩
    obtain ⟨m, rfl⟩ : ∃ m', m = m' + 1 := ⟨m - 1, by omega⟩
    have n3 : ¬ (3 : Int32) ≤ nI i := nI_ge (a := i) (b := 3) (by omega) (by omega)
    have hn3 : n < 1000 := by
      have : 10 ^ i ≤ 10 ^ 3 := Nat.pow_le_pow_right (by omega) (by omega)
      omega
    have hma := m_among h fu (lo := 48) (hi := 57) (by omega) (by omega)
    have hca := c_among h fu (lo := 48) (hi := 57) (by omega) (by omega)
    rw [F_X4_readOperand_49, if_neg n3, show F_X4_among fu 48 57 M = _ from hma, y_cI, F_X2_operand_43, if_neg n3, y_q h.1, show F_X2_isAmong fu (some (A 1 0)) 48 57 S = _ from hca, y_cI]
    by_cases hd' : 48 ≤ ct z tx p ∧ ct z tx p ≤ 57
    · obtain ⟨hp, hc⟩ := ct_lo (by omega) hd'.1
      obtain ⟨x1, x2, x3⟩ := s_next h fu hp
      obtain ⟨dg, hdg⟩ : ∃ dg, tx p = 48 + dg := ⟨tx p - 48, by omega⟩
      obtain ⟨v, k1, k2⟩ := k_num' hn3 (show dg < 10 by omega)
      have e48 : nI (tx p) - 48 = nI dg := by
        have := pk_sub (a := tx p) (b := 48) (by omega)
        rw [show tx p - 48 = dg by omega] at this
        exact this
      have e10 : (10 : Int32) * nI n + nI (tx p) - 48 = nI (10 * n + dg) := by
        rw [show (10 : Int32) * nI n = nI (10 * n) from pk_mul 10 n, nI_add]
        have := pk_sub (a := 10 * n + tx p) (b := 48) (by omega)
        rw [show 10 * n + tx p - 48 = 10 * n + dg by omega] at this
        exact this
      obtain ⟨n', p', M', S', w0, w1, w2, w3, w4, w5, w6, -⟩ := ih (i + 1) (10 * n + dg) (p + 1) _ _ k m (by omega) (by omega) (by omega) (by omega) (by rw [Nat.pow_succ]; omega) x3 (tA.s.inv hv h.1)
      have ne : ¬ am 48 57 (ct z tx p) = 0 := fun w => am1.mp w hd'
      refine ⟨n', p', M', S', by omega, w1, ?_, ?_, w4, tA.s.trans w5, fun k i w => (w6 k i w).trans (y_uk w), fun _ _ => by omega⟩
      · rw [if_neg ne, x1, y_cI, e10, nI_1, w2]
      · rw [if_neg ne, k1, y_b, y_q h.1, x2, y_cI, e48, k2, y_b, nI_1, w3]
    · have ne : am 48 57 (ct z tx p) = 0 := am1.mpr hd'
      refine ⟨n, p, M, S, Nat.le_refl _, hn3, ?_, ?_, h, tA.refl, fun _ _ _ => rfl, fun _ w => absurd w hd'⟩
      · rw [if_pos ne]
      · rw [if_pos ne]
end RDB
