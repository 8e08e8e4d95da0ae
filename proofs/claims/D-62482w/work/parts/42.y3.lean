/-! LAYER 2: the run's own state against the model's, piece by piece -/
set_option maxRecDepth 100000
/-- S' is S but for the keys E and the lists L -/
def ag (E : Nat → Nat → Prop) (L : Nat → Prop) (S S' : gm_S) : Prop := (∀ F a i, gs_t S a ≠ 0 → ¬ E F a → S'.1 F a i = S.1 F a i) ∧ (∀ a, gs_t S a ≠ 0 → ¬ L a → S'.2.1 a = S.2.1 a) ∧ (∀ a, gs_t S a ≠ 0 → gs_t S' a = gs_t S a)
theorem ag.gI {E : Nat → Nat → Prop} {L : Nat → Prop} {S S' : gm_S} (h : ag E L S S') {a t k : Nat} {v : Int32} (hv : g_gI S (some a) t k = some v) (h0 : t ≠ 0) (hE : ¬ E (100 * t + k) a) : g_gI S' (some a) t k = some v := by
  obtain ⟨b, e, ht, hm⟩ := y_gIt hv
  cases e
  have ha : gs_t S a ≠ 0 := by rw [ht]; exact h0
  rw [y_gI ((h.2.2 a ha).trans ht), h.1 _ a 0 ha hE, hm]
theorem ag.gR {E : Nat → Nat → Prop} {L : Nat → Prop} {S S' : gm_S} (h : ag E L S S') {a t k : Nat} {v : Option Nat} (hv : g_gR S (some a) t k = some v) (h0 : t ≠ 0) (hE : ¬ E (100 * t + k) a) : g_gR S' (some a) t k = some v := by
  obtain ⟨b, e, ht, hm⟩ := y_gRt hv
  cases e
  have ha : gs_t S a ≠ 0 := by rw [ht]; exact h0
  rw [y_gR ((h.2.2 a ha).trans ht), h.1 _ a 0 ha hE, hm]
theorem ag.kp {E : Nat → Nat → Prop} {L : Nat → Prop} {S S' : gm_S} {B : Nat} (h : ag E L S S') (hE : ∀ F a, E F a → k_dyn F = true) (hL : ∀ a, L a → a < B) : kp B S S' := by
  refine ⟨fun F a i ha hF => h.1 F a i ha (fun z => ?_), fun a ha hB => h.2.1 a ha (fun z => ?_)⟩
  · unfold k_dy2 at hF; rw [hE F a z] at hF; cases hF
  · have := hL a z; omega
theorem ag_kp2 {E : Nat → Nat → Prop} {L : Nat → Prop} {S S' : gm_S} {B : Nat} (h : ag E L S S') (hE : ∀ F a, E F a → k_dy2 F = true) (hL : ∀ a, L a → a < B) : kp B S S' := by
  refine ⟨fun F a i ha hF => h.1 F a i ha (fun z => ?_), fun a ha hB => h.2.1 a ha (fun z => ?_)⟩
  · rw [hE F a z] at hF; cases hF
  · have := hL a z; omega
theorem ag.put {S : gm_S} {F a i : Nat} {v : Value} (h : F ≠ 0) : ag (fun F' b => F' = F ∧ b = a) (fun _ => False) S (gs_put S F a i v) := by
  refine ⟨fun F' b j _ hE => y_pM (fun z => hE ⟨z.1, z.2.1⟩), fun b _ _ => rfl, fun b _ => y_pt h⟩
theorem ag.lst {S : gm_S} {a : Nat} {l : List Nat} : ag (fun _ _ => False) (fun b => b = a) S (gs_L S a l) := ⟨fun _ _ _ _ _ => rfl, fun _ _ hL => y_Ln hL, fun _ _ => rfl⟩
theorem ag.mk {S : gm_S} {t w : Nat} (hn : ∀ a, gs_t S a ≠ 0 → a < gs_n S) : ag (fun _ _ => False) (fun _ => False) S (g_mk S t w) :=
  ⟨fun F a i ha _ => y_mkM (by have := hn a ha; omega), fun _ _ _ => rfl, fun a ha => y_mkt (by have := hn a ha; omega)⟩
theorem ag.trans {E E' : Nat → Nat → Prop} {L L' : Nat → Prop} {S S' S'' : gm_S} (h : ag E L S S') (h' : ag E' L' S' S'') : ag (fun F a => E F a ∨ E' F a) (fun a => L a ∨ L' a) S S'' := by
  refine ⟨fun F a i ha hE => ?_, fun a ha hL => ?_, fun a ha => ?_⟩
  · rw [h'.1 F a i (by rw [h.2.2 a ha]; exact ha) (fun z => hE (Or.inr z)), h.1 F a i ha (fun z => hE (Or.inl z))]
  · rw [h'.2.1 a (by rw [h.2.2 a ha]; exact ha) (fun z => hL (Or.inr z)), h.2.1 a ha (fun z => hL (Or.inl z))]
  · rw [h'.2.2 a (by rw [h.2.2 a ha]; exact ha), h.2.2 a ha]
theorem ag.wk {E E' : Nat → Nat → Prop} {L L' : Nat → Prop} {S S' : gm_S} (h : ag E L S S') (hE : ∀ F a, E F a → E' F a) (hL : ∀ a, L a → L' a) : ag E' L' S S' :=
  ⟨fun F a i ha he => h.1 F a i ha (fun z => he (hE F a z)), fun a ha hl => h.2.1 a ha (fun z => hl (hL a z)), h.2.2⟩
/-! the invariant of every state: the model's cells as they are, addresses -/
def g_inv (M0 : gM) (S : gm_S) : Prop := gm_g S = M0 ∧ gs_t S 0 = 0 ∧ 0 < gs_n S ∧ ∀ a, gs_t S a ≠ 0 → a < gs_n S
theorem g_inv.put {M0 : gM} {S : gm_S} (h : g_inv M0 S) {F a i : Nat} {v : Value} (hF : F ≠ 0) (ha : gs_t S a ≠ 0) : g_inv M0 (gs_put S F a i v) := by
  obtain ⟨h1, h2, h3, h4⟩ := h
  refine ⟨?_, by rw [y_pt hF]; exact h2, h3, fun b hb => h4 b (by rw [y_pt hF] at hb; exact hb)⟩
  rw [← h1]
  funext k j
  exact y_pM (fun z => ha (by rw [← z.2.1]; exact h2))
theorem g_inv.lst {M0 : gM} {S : gm_S} (h : g_inv M0 S) {a : Nat} {l : List Nat} : g_inv M0 (gs_L S a l) := h
theorem g_inv.mk {M0 : gM} {S : gm_S} (h : g_inv M0 S) {t w : Nat} : g_inv M0 (g_mk S t w) := by
  obtain ⟨h1, h2, h3, h4⟩ := h
  refine ⟨?_, by rw [y_mkt (by omega)]; exact h2, by show 0 < gs_n S + 1; omega, fun b hb => ?_⟩
  · rw [← h1]
    funext k j
    exact y_mkM (by omega)
  · show b < gs_n S + 1
    by_cases e : b = gs_n S
    · omega
    · have := h4 b (by rw [y_mkt e] at hb; exact hb)
      omega
/-! pieces -/
def rDa (A : gA) (M : gM) (S : gm_S) : Prop := g_gR S (some (A 2 0)) 3 0 = some (some (A 8 0)) ∧ g_gI S (some (A 2 0)) 3 1 = some (n_I M 40 0) ∧ (n_I M 40 0 = 0 ∨ n_I M 40 0 = 1) ∧ g_gI S (some (A 2 0)) 3 2 = some (n_I M 41 0) ∧
  (∃ q : Nat, q ≤ 30 ∧ g_gI S (some (A 2 0)) 3 11 = some (nI q) ∧ n_I M 51 0 = nI q) ∧ ∃ ck, g_gI S (some (A 2 0)) 3 8 = some ck ∧ (n_I M 40 0 = 1 → ck = n_I M 50 0)
def rDv (A : gA) (M : gM) (S : gm_S) : Prop := g_gR S (some (A 2 0)) 3 3 = some (some (A 3 0)) ∧ gs_t S (A 3 0) = 102 ∧ gm_N (S.1 1 (A 3 0) 0) = 6 ∧ ∀ i, i < 6 → gm_D (S.1 2 (A 3 0) i) = n_D M 42 i ∧ d_ok (n_D M 42 i)
def rDq (A : gA) (M : gM) (S : gm_S) : Prop := g_gR S (some (A 2 0)) 3 4 = some (some (A 4 0)) ∧ gs_t S (A 4 0) = 101 ∧ gm_N (S.1 1 (A 4 0) 0) = 10 ∧ ∃ f q : Nat, f < 10 ∧ q ≤ 10 ∧ g_gI S (some (A 2 0)) 3 5 = some (nI f) ∧ g_gI S (some (A 2 0)) 3 6 = some (nI q) ∧ n_I M 45 0 = nI q ∧
  ∀ j, j < q → ∃ e : Nat, 65 ≤ e ∧ e ≤ 72 ∧ gm_I (S.1 2 (A 4 0) ((f + j) % 10)) = nI e ∧ n_I M 46 j = nI e
def rDs (A : gA) (M : gM) (S : gm_S) : Prop := g_gR S (some (A 2 0)) 3 7 = some (some (A 6 0)) ∧ gs_t S (A 6 0) = 16 ∧ A 6 0 < A 7 0 ∧ (S.2.1 (A 6 0)).length ≤ 8 ∧ n_I M 47 0 = nI (S.2.1 (A 6 0)).length ∧
  ∀ j x, (S.2.1 (A 6 0))[j]? = some x → ∃ e : Nat, 65 ≤ e ∧ e ≤ 72 ∧ g_gI S (some x) 15 0 = some (nI e) ∧ n_I M 48 j = nI e ∧ g_gI S (some x) 15 1 = some (n_I M 49 j)
def rDt (A : gA) (M : gM) (S : gm_S) : Prop := g_gR S (some (A 2 0)) 3 9 = some (some (A 5 0)) ∧ gs_t S (A 5 0) = 100 ∧ gm_N (S.1 1 (A 5 0) 0) = 100 ∧ ∃ q : Nat, q ≤ 100 ∧ g_gI S (some (A 2 0)) 3 10 = some (nI q) ∧ n_I M 53 0 = nI q ∧ ∀ j, j < q → gm_I (S.1 2 (A 5 0) j) = n_I M 54 j
def rDc (A : gA) (S : gm_S) (c1 c2 : Nat) : Prop := g_gR S (some (A 2 0)) 3 12 = some (some c1) ∧ g_gR S (some (A 2 0)) 3 13 = some (some c2) ∧ gs_t S c1 = 16 ∧ gs_t S c2 = 16 ∧ c1 < A 7 0 ∧ c2 < A 7 0 ∧ c1 ≠ c2 ∧ c1 ≠ A 6 0 ∧ c2 ≠ A 6 0
def rDh (A : gA) (M : gM) (S : gm_S) : Prop := ∀ i, i < A 9 0 → g_gI S (some (A 10 i)) 5 8 = some (n_I M 43 i) ∧ g_gI S (some (A 10 i)) 5 9 = some (n_I M 44 i)
/-- room: what is made, and what may still be made without new costs -/
def p_c (A : gA) (S : gm_S) (c1 c2 : Nat) : Nat := gs_c S + (8 - (S.2.1 (A 6 0)).length) + (22 - g_cap S (A 6 0)) + (22 - g_cap S c1) + (22 - g_cap S c2)
def p_k (A : gA) (S : gm_S) (c1 c2 : Nat) : Nat := gs_k S + 2 * (8 - (S.2.1 (A 6 0)).length) + 4 * (22 - g_cap S (A 6 0)) + 4 * (22 - g_cap S c1) + 4 * (22 - g_cap S c2)
def k_ok (c : Nat) : Prop := c = 0 ∨ c = 10 ∨ c = 15 ∨ 22 ≤ c
def rDb (A : gA) (S : gm_S) (c1 c2 : Nat) : Prop := p_c A S c1 c2 ≤ A 33 0 ∧ p_k A S c1 c2 ≤ A 33 1 ∧ A 33 0 ≤ 600000 ∧ A 33 1 ≤ 7301000 ∧ k_ok (g_cap S (A 6 0)) ∧ k_ok (g_cap S c1) ∧ k_ok (g_cap S c2)
theorem rDa.mono {A : gA} {M M' : gM} {S S' : gm_S} {E : Nat → Nat → Prop} {L : Nat → Prop} (h : rDa A M S) (g : ag E L S S') (hE : ∀ k, k = 0 ∨ k = 1 ∨ k = 2 ∨ k = 8 ∨ k = 11 → ¬ E (300 + k) (A 2 0)) (hM : ∀ k i, k = 40 ∨ k = 41 ∨ k = 50 ∨ k = 51 → M' k i = M k i) : rDa A M' S' := by
  obtain ⟨h1, h2, h3, h4, ⟨q, h5, h6, h7⟩, ck, h8, h9⟩ := h
  have e40 : n_I M' 40 0 = n_I M 40 0 := by unfold n_I; rw [hM 40 0 (by omega)]
  have e41 : n_I M' 41 0 = n_I M 41 0 := by unfold n_I; rw [hM 41 0 (by omega)]
  have e50 : n_I M' 50 0 = n_I M 50 0 := by unfold n_I; rw [hM 50 0 (by omega)]
  have e51 : n_I M' 51 0 = n_I M 51 0 := by unfold n_I; rw [hM 51 0 (by omega)]
  unfold rDa
  rw [e40, e41, e50, e51]
  exact ⟨g.gR h1 (by decide) (hE 0 (by omega)), g.gI h2 (by decide) (hE 1 (by omega)), h3, g.gI h4 (by decide) (hE 2 (by omega)), ⟨q, h5, g.gI h6 (by decide) (hE 11 (by omega)), h7⟩, ck, g.gI h8 (by decide) (hE 8 (by omega)), h9⟩
theorem rDv.mono {A : gA} {M M' : gM} {S S' : gm_S} {E : Nat → Nat → Prop} {L : Nat → Prop} (h : rDv A M S) (g : ag E L S S') (hE : ¬ E 303 (A 2 0) ∧ ¬ E 1 (A 3 0) ∧ ¬ E 2 (A 3 0)) (hM : ∀ i, M' 42 i = M 42 i) : rDv A M' S' := by
  obtain ⟨h1, h2, h3, h4⟩ := h
  have ha : gs_t S (A 3 0) ≠ 0 := by rw [h2]; decide
  refine ⟨g.gR h1 (by decide) hE.1, (g.2.2 _ ha).trans h2, by rw [g.1 _ _ _ ha hE.2.1]; exact h3, fun i hi => ?_⟩
  rw [g.1 _ _ _ ha hE.2.2]
  unfold n_D
  rw [hM]
  exact h4 i hi
theorem rDq.mono {A : gA} {M M' : gM} {S S' : gm_S} {E : Nat → Nat → Prop} {L : Nat → Prop} (h : rDq A M S) (g : ag E L S S') (hE : ¬ E 304 (A 2 0) ∧ ¬ E 305 (A 2 0) ∧ ¬ E 306 (A 2 0) ∧ ¬ E 1 (A 4 0) ∧ ¬ E 2 (A 4 0)) (hM : ∀ k i, k = 45 ∨ k = 46 → M' k i = M k i) : rDq A M' S' := by
  obtain ⟨h1, h2, h3, f, q, h4, h5, h6, h7, h8, h9⟩ := h
  have ha : gs_t S (A 4 0) ≠ 0 := by rw [h2]; decide
  refine ⟨g.gR h1 (by decide) hE.1, (g.2.2 _ ha).trans h2, by rw [g.1 _ _ _ ha hE.2.2.2.1]; exact h3, f, q, h4, h5, g.gI h6 (by decide) hE.2.1, g.gI h7 (by decide) hE.2.2.1, by unfold n_I; rw [hM 45 0 (by omega)]; exact h8, fun j hj => ?_⟩
  rw [g.1 _ _ _ ha hE.2.2.2.2]
  unfold n_I
  rw [hM 46 j (by omega)]
  exact h9 j hj
theorem rDs.mono {A : gA} {M M' : gM} {S S' : gm_S} {E : Nat → Nat → Prop} {L : Nat → Prop} (h : rDs A M S) (g : ag E L S S') (hE : ¬ E 307 (A 2 0) ∧ ∀ x, ¬ E 1500 x ∧ ¬ E 1501 x) (hL : ¬ L (A 6 0)) (hM : ∀ k i, k = 47 ∨ k = 48 ∨ k = 49 → M' k i = M k i) : rDs A M' S' := by
  obtain ⟨h1, h2, h3, h4, h5, h6⟩ := h
  have ha : gs_t S (A 6 0) ≠ 0 := by rw [h2]; decide
  have el := g.2.1 _ ha hL
  unfold rDs
  rw [el]
  refine ⟨g.gR h1 (by decide) hE.1, (g.2.2 _ ha).trans h2, h3, h4, by unfold n_I; rw [hM 47 0 (by omega)]; exact h5, fun j x hx => ?_⟩
  obtain ⟨e, e1, e2, e3, e4, e5⟩ := h6 j x hx
  refine ⟨e, e1, e2, g.gI e3 (by decide) (hE.2 x).1, by unfold n_I; rw [hM 48 j (by omega)]; exact e4, ?_⟩
  unfold n_I
  rw [hM 49 j (by omega)]
  exact g.gI e5 (by decide) (hE.2 x).2
theorem rDt.mono {A : gA} {M M' : gM} {S S' : gm_S} {E : Nat → Nat → Prop} {L : Nat → Prop} (h : rDt A M S) (g : ag E L S S') (hE : ¬ E 309 (A 2 0) ∧ ¬ E 310 (A 2 0) ∧ ¬ E 1 (A 5 0) ∧ ¬ E 2 (A 5 0)) (hM : ∀ k i, k = 53 ∨ k = 54 → M' k i = M k i) : rDt A M' S' := by
  obtain ⟨h1, h2, h3, q, h4, h5, h6, h7⟩ := h
  have ha : gs_t S (A 5 0) ≠ 0 := by rw [h2]; decide
  refine ⟨g.gR h1 (by decide) hE.1, (g.2.2 _ ha).trans h2, by rw [g.1 _ _ _ ha hE.2.2.1]; exact h3, q, h4, g.gI h5 (by decide) hE.2.1, by unfold n_I; rw [hM 53 0 (by omega)]; exact h6, fun j hj => ?_⟩
  rw [g.1 _ _ _ ha hE.2.2.2]
  unfold n_I
  rw [hM 54 j (by omega)]
  exact h7 j hj
theorem rDc.mono {A : gA} {S S' : gm_S} {c1 c2 : Nat} {E : Nat → Nat → Prop} {L : Nat → Prop} (h : rDc A S c1 c2) (g : ag E L S S') (hE : ¬ E 312 (A 2 0) ∧ ¬ E 313 (A 2 0)) : rDc A S' c1 c2 := by
  obtain ⟨h1, h2, h3, h4, h5⟩ := h
  exact ⟨g.gR h1 (by decide) hE.1, g.gR h2 (by decide) hE.2, (g.2.2 _ (by rw [h3]; decide)).trans h3, (g.2.2 _ (by rw [h4]; decide)).trans h4, h5⟩
theorem rDh.mono {A : gA} {M M' : gM} {S S' : gm_S} {E : Nat → Nat → Prop} {L : Nat → Prop} (h : rDh A M S) (g : ag E L S S') (hE : ∀ i, i < A 9 0 → ¬ E 508 (A 10 i) ∧ ¬ E 509 (A 10 i)) (hM : ∀ k i, k = 43 ∨ k = 44 → M' k i = M k i) : rDh A M' S' := by
  intro i hi
  unfold n_I
  rw [hM 43 i (by omega), hM 44 i (by omega)]
  exact ⟨g.gI (h i hi).1 (by decide) (hE i hi).1, g.gI (h i hi).2 (by decide) (hE i hi).2⟩
/-! the whole -/
def Mc (M : gM) : gM := fun k i => if k = 7 ∨ (9 ≤ k ∧ k ≤ 37) then M k i else .null
theorem Mc_r {M C : gM} (h : Mc M = C) {k i : Nat} (hk : k = 7 ∨ (9 ≤ k ∧ k ≤ 37)) : M k i = C k i := by
  rw [← h]
  simp only [Mc]
  rw [if_pos hk]
theorem Mc_up {M C : gM} (h : Mc M = C) {k i : Nat} {v : Value} (hk : ¬ (k = 7 ∨ (9 ≤ k ∧ k ≤ 37))) : Mc (n_up M k i v) = C := by
  rw [← h]
  funext k' i'
  simp only [Mc]
  by_cases e : k' = 7 ∨ (9 ≤ k' ∧ k' ≤ 37)
  · rw [if_pos e, if_pos e, y_uk (fun z => hk (by rw [← z]; exact e))]
  · rw [if_neg e, if_neg e]
/-- the reader and the chart's own fields -/
def rR (A : gA) (M : gM) (S : gm_S) : Prop := g_gR S (some (A 0 0)) 1 0 = some (some (A 1 0)) ∧ g_gR S (some (A 0 0)) 1 1 = some (some (A 2 0)) ∧ g_gR S (some (A 0 0)) 1 2 = some (some (A 34 2)) ∧ g_gI S (some (A 0 0)) 1 3 = some (n_I M 6 0) ∧ g_gI S (some (A 0 0)) 1 4 = some (n_I M 1 0) ∧
  gs_t S (A 34 2) = 100 ∧ gm_N (S.1 1 (A 34 2) 0) = 16 ∧ g_gR S (some (A 1 0)) 2 0 = some (some (A 34 0)) ∧ gs_t S (A 34 0) = 101 ∧ gm_N (S.1 1 (A 34 0) 0) = 160 ∧ g_gR S (some (A 1 0)) 2 5 = some (some (A 34 1)) ∧ gs_t S (A 34 1) = 100 ∧ gm_N (S.1 1 (A 34 1) 0) = 16 ∧
  A 34 0 ≠ A 4 0 ∧ A 34 1 ≠ A 5 0 ∧ A 34 2 ≠ A 5 0 ∧ A 34 1 ≠ A 34 2 ∧
  (∃ z y : Nat, z ≤ y ∧ y ≤ 160 ∧ g_gI S (some (A 1 0)) 2 1 = some (nI z) ∧ n_I M 2 0 = nI z ∧ n_I M 1 0 = nI y ∧ ∀ j, j < z → ∃ e : Nat, e ≤ 126 ∧ 32 < e ∧ gm_I (S.1 2 (A 34 0) j) = nI e ∧ n_I M 3 j = nI e) ∧
  ∀ w : Nat, w < 2 → n_I M 7 0 = nI w → ∀ j, j < 16 → gm_I (S.1 2 (A 34 2) j) = n_I M 17 (16 * w + j) ∧ (n_I M 17 (16 * w + j) = -1 ∨ ∃ k : Nat, k < A 9 0 ∧ n_I M 17 (16 * w + j) = nI k)
theorem rR.mono {A : gA} {M M' : gM} {S S' : gm_S} {E : Nat → Nat → Prop} {L : Nat → Prop} (h : rR A M S) (g : ag E L S S') (hE : (∀ k a, k < 5 → ¬ E (100 + k) a) ∧ (∀ k a, k < 8 → ¬ E (200 + k) a) ∧ (∀ a, ¬ E 1 a) ∧ ¬ E 2 (A 34 0) ∧ ¬ E 2 (A 34 2)) (hM : ∀ k i, k = 1 ∨ k = 2 ∨ k = 3 ∨ k = 6 ∨ k = 7 ∨ k = 17 → M' k i = M k i) : rR A M' S' := by
  obtain ⟨h1, h2, h3, h4, h5, h6, h7, h8, h9, h10, h11, h12, h13, d1, d2, d3, d4, ⟨z, y, h14, h15, h16, h17, h18, h19⟩, h20⟩ := h
  obtain ⟨E1, E2, E3, E4, E5⟩ := hE
  have a2 : gs_t S (A 34 2) ≠ 0 := by rw [h6]; decide
  have a0 : gs_t S (A 34 0) ≠ 0 := by rw [h9]; decide
  have a1 : gs_t S (A 34 1) ≠ 0 := by rw [h12]; decide
  refine ⟨g.gR h1 (by decide) (E1 0 _ (by omega)), g.gR h2 (by decide) (E1 1 _ (by omega)), g.gR h3 (by decide) (E1 2 _ (by omega)), ?_, ?_, (g.2.2 _ a2).trans h6, by rw [g.1 _ _ _ a2 (E3 _)]; exact h7, g.gR h8 (by decide) (E2 0 _ (by omega)), (g.2.2 _ a0).trans h9, by rw [g.1 _ _ _ a0 (E3 _)]; exact h10, g.gR h11 (by decide) (E2 5 _ (by omega)), (g.2.2 _ a1).trans h12, by rw [g.1 _ _ _ a1 (E3 _)]; exact h13, d1, d2, d3, d4, ⟨z, y, h14, h15, g.gI h16 (by decide) (E2 1 _ (by omega)), ?_, ?_, fun j hj => ?_⟩, fun w hw hl j hj => ?_⟩
  · unfold n_I; rw [hM 6 0 (by omega)]; exact g.gI h4 (by decide) (E1 3 _ (by omega))
  · unfold n_I; rw [hM 1 0 (by omega)]; exact g.gI h5 (by decide) (E1 4 _ (by omega))
  · unfold n_I; rw [hM 2 0 (by omega)]; exact h17
  · unfold n_I; rw [hM 1 0 (by omega)]; exact h18
  · rw [g.1 _ _ _ a0 E4]
    unfold n_I
    rw [hM 3 j (by omega)]
    exact h19 j hj
  · rw [g.1 _ _ _ a2 E5]
    unfold n_I at hl ⊢
    rw [hM 7 0 (by omega)] at hl
    rw [hM 17 _ (by omega)]
    exact h20 w hw hl j hj
def RC (A : gA) (M0 C M : gM) (S : gm_S) (c1 c2 : Nat) : Prop := g_inv M0 S ∧ cW A C ∧ cH A C S ∧ Mc M = C ∧ rDa A M S ∧ rDv A M S ∧ rDq A M S ∧ rDs A M S ∧ rDt A M S ∧ rDc A S c1 c2 ∧ rDh A M S ∧ rDb A S c1 c2 ∧ rR A M S
