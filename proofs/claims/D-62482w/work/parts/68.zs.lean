/-! LAYER 2, reading: the tables, whole -/
set_option maxRecDepth 100000
section RDY
variable {A : gA} {M0 : gM} {z p bc bk : Nat} {tx : Nat → Nat}
theorem ag.fr {E E' : Nat → Nat → Prop} {L L' : Nat → Prop} {S S' : gm_S} (g : ag E L S S') (hE : ∀ F a, gs_t S a ≠ 0 → E F a → E' F a) (hL : ∀ a, gs_t S a ≠ 0 → L a → L' a) : ag E' L' S S' :=
  ⟨fun F a i ha he => g.1 F a i ha (fun w => he (hE F a ha w)), fun a ha hl => g.2.1 a ha (fun w => hl (hL a ha w)), g.2.2⟩
/-- the lists of the new chart, by what they are -/
def rl (N : gA) (a r : Nat) : Prop := (r = 1 ∧ a = N 8 0) ∨ (∃ i, i < N 9 0 ∧ (r = 1000 + i ∧ a = N 15 i ∨ r = 2000 + i ∧ a = N 16 i ∨ r = 3000 + i ∧ a = N 17 i ∨ r = 4000 + i ∧ a = N 18 i)) ∨ ∃ t, t < N 9 1 ∧ (r = 5000 + t ∧ a = N 19 t ∨ r = 6000 + t ∧ a = N 20 t)
/-- and what is in them; a child comes in when it is whole -/
def cont (N : gA) (op : Nat → Bool) (r : Nat) : List Nat :=
  if r = 1 then (List.range (N 9 0)).map (N 10) else if r < 2000 then ((l_ch N (r - 1000)).filter (fun j => !op j)).map (N 10) else if r < 3000 then (l_tr N (r - 2000)).map (N 11) else if r < 4000 then (l_ac N (100 + (r - 3000))).map (N 14) else if r < 5000 then (l_ac N (200 + (r - 4000))).map (N 14) else if r < 6000 then (l_ts N (r - 5000)).map (N 13) else (l_ac N (r - 6000)).map (N 14)
theorem cont_1 {N : gA} {op : Nat → Bool} : cont N op 1 = (List.range (N 9 0)).map (N 10) := if_pos rfl
theorem cont_ch {N : gA} {op : Nat → Bool} {i : Nat} (h : i < 1000) : cont N op (1000 + i) = ((l_ch N i).filter (fun j => !op j)).map (N 10) := by
  unfold cont
  rw [if_neg (by omega), if_pos (by omega), show 1000 + i - 1000 = i by omega]
theorem cont_tr {N : gA} {op : Nat → Bool} {i : Nat} (h : i < 1000) : cont N op (2000 + i) = (l_tr N i).map (N 11) := by
  unfold cont
  rw [if_neg (by omega), if_neg (by omega), if_pos (by omega), show 2000 + i - 2000 = i by omega]
theorem cont_en {N : gA} {op : Nat → Bool} {i : Nat} (h : i < 1000) : cont N op (3000 + i) = (l_ac N (100 + i)).map (N 14) := by
  unfold cont
  rw [if_neg (by omega), if_neg (by omega), if_neg (by omega), if_pos (by omega), show 3000 + i - 3000 = i by omega]
theorem cont_ex {N : gA} {op : Nat → Bool} {i : Nat} (h : i < 1000) : cont N op (4000 + i) = (l_ac N (200 + i)).map (N 14) := by
  unfold cont
  rw [if_neg (by omega), if_neg (by omega), if_neg (by omega), if_neg (by omega), if_pos (by omega), show 4000 + i - 4000 = i by omega]
theorem cont_ts {N : gA} {op : Nat → Bool} {i : Nat} (h : i < 1000) : cont N op (5000 + i) = (l_ts N i).map (N 13) := by
  unfold cont
  rw [if_neg (by omega), if_neg (by omega), if_neg (by omega), if_neg (by omega), if_neg (by omega), if_pos (by omega), show 5000 + i - 5000 = i by omega]
theorem cont_ac {N : gA} {op : Nat → Bool} {i : Nat} : cont N op (6000 + i) = (l_ac N i).map (N 14) := by
  unfold cont
  rw [if_neg (by omega), if_neg (by omega), if_neg (by omega), if_neg (by omega), if_neg (by omega), if_neg (by omega), show 6000 + i - 6000 = i by omega]
def qL (N : gA) (op : Nat → Bool) (S : gm_S) : Prop := (∀ a r, rl N a r → N 40 a = r ∧ h_L S (N 7 0) a (cont N op r)) ∧ N 40 (N 35 0) = 0 ∧ N 7 0 ≤ N 35 0
theorem rl_pos {N : gA} {a r : Nat} (h : rl N a r) : r ≠ 0 := by
  rcases h with h | ⟨i, -, h⟩ | ⟨t, -, h⟩ <;> omega
theorem rl_un {N : gA} {a b r : Nat} (h0 : N 9 0 ≤ 16) (h1 : N 9 1 ≤ 24) (h : rl N a r) (h' : rl N b r) : a = b := by
  rcases h with h | ⟨i, hi, h⟩ | ⟨t, ht, h⟩ <;> rcases h' with h' | ⟨i', hi', h'⟩ | ⟨t', ht', h'⟩
  · omega
  · omega
  · omega
  · omega
  · rcases h with h | h | h | h <;> rcases h' with h' | h' | h' | h' <;> first | omega | (have e : i = i' := by omega); rw [h.2, h'.2, e]
  · omega
  · omega
  · omega
  · rcases h with h | h <;> rcases h' with h' | h' <;> first | omega | (have e : t = t' := by omega); rw [h.2, h'.2, e]
/-- the fields of a transition -/
def tF (N : gA) (M : gM) (S : gm_S) (t : Nat) : Prop := g_gR S (some (N 11 t)) 10 0 = some (some (N 10 (N 26 t))) ∧ g_gI S (some (N 11 t)) 10 1 = some (n_I M 19 (24 * N 9 5 + t)) ∧ g_gR S (some (N 11 t)) 10 2 = some (some (N 19 t)) ∧ g_gR S (some (N 11 t)) 10 3 = some (some (N 20 t)) ∧ g_gR S (some (N 11 t)) 10 4 = some (if N 29 t = 0 then none else some (N 12 (N 29 t - 1)))
def qR (A N : gA) (M : gM) (S : gm_S) : Prop := g_gI S (some (A 1 0)) 2 6 = some (nI (N 9 1)) ∧ n_I M 10 (N 9 5) = nI (N 9 1) ∧ N 9 1 ≤ 24 ∧ (∀ t, t < N 9 1 → cW3 N M t ∧ tF N M S t) ∧ ∀ t t', t < N 9 1 → t' < N 9 1 → N 11 t = N 11 t' → t = t'
/-- who has no actions yet -/
def qO (N : gA) : Prop := ∀ o, ¬ (o < N 9 1 ∨ (100 ≤ o ∧ o < 100 + N 9 0) ∨ (200 ≤ o ∧ o < 200 + N 9 0)) → l_ac N o = []
theorem tF_mono {N N' : gA} {M M' : gM} {S S' : gm_S} {E : Nat → Nat → Prop} {L : Nat → Prop} {t : Nat} (h : cW3 N M t ∧ tF N M S t) (g : ag E L S S') (hE : ∀ F b, 1000 ≤ F → F ≤ 1004 → ¬ E F b) (e5 : N' 9 5 = N 9 5) (ek : ∀ k, k = 11 ∨ k = 19 ∨ k = 20 ∨ k = 26 ∨ k = 27 ∨ k = 28 ∨ k = 29 → N' k t = N k t) (e0 : N 9 0 ≤ N' 9 0) (e10 : ∀ i, i < N 9 0 → N' 10 i = N 10 i) (e2 : N 9 2 ≤ N' 9 2) (e4 : N 9 4 ≤ N' 9 4) (e12 : ∀ k, k < N 9 4 → N' 12 k = N 12 k) (hM : ∀ k, 18 ≤ k → k ≤ 22 → M' k (24 * N 9 5 + t) = M k (24 * N 9 5 + t)) : cW3 N' M' t ∧ tF N' M' S' t := by
  obtain ⟨⟨h1, h2, h3, h4, h5, h6, h7, h8⟩, f1, f2, f3, f4, f5⟩ := h
  have m : ∀ k, 18 ≤ k → k ≤ 22 → n_I M' k (24 * N 9 5 + t) = n_I M k (24 * N 9 5 + t) := fun k w1 w2 => by unfold n_I; rw [hM k w1 w2]
  constructor
  · unfold cW3
    rw [e5, ek 26 (by omega), ek 27 (by omega), ek 28 (by omega), ek 29 (by omega), m 18 (by omega) (by omega), m 20 (by omega) (by omega), m 21 (by omega) (by omega), m 22 (by omega) (by omega)]
    exact ⟨h1, by omega, h3, h4, h5, by omega, h7, by omega⟩
  · unfold tF
    rw [e5, ek 11 (by omega), ek 26 (by omega), ek 19 (by omega), ek 20 (by omega), ek 29 (by omega), m 19 (by omega) (by omega), e10 _ h2]
    refine ⟨g.gR f1 (by decide) (hE _ _ (by omega) (by omega)), g.gI f2 (by decide) (hE _ _ (by omega) (by omega)), g.gR f3 (by decide) (hE _ _ (by omega) (by omega)), g.gR f4 (by decide) (hE _ _ (by omega) (by omega)), ?_⟩
    by_cases e : N 29 t = 0
    · rw [if_pos e] at f5 ⊢
      exact g.gR f5 (by decide) (hE _ _ (by omega) (by omega))
    · rw [if_neg e] at f5 ⊢
      rw [e12 _ (by omega)]
      exact g.gR f5 (by decide) (hE _ _ (by omega) (by omega))
def okT (nt c : Nat) : Prop := (c = 46 ∨ (65 ≤ c ∧ c ≤ 72)) ∧ nt < 24
theorem s_tr0 {N : gA} {M : gM} {S : gm_S} (h : PA A M S z tx p) (h8 : n_I M 8 0 = nI (N 9 5)) (hw : N 9 5 < 2) (hq : qR A N M S) (fu : Nat) (s : Int32) (x1 : Option Nat) : ∃ b : Int32, (b = 1 ∧ okT (N 9 1) (ct z tx p) ∨ b = 0 ∧ ¬ okT (N 9 1) (ct z tx p)) ∧ F_X4_readTransition fu s M = F_X4_readTransition_40 fu s b M ∧ F_X2_transition fu (some (A 1 0)) x1 S = F_X2_transition_35 fu (some (A 1 0)) x1 b (some (A 1 0)) S := by
  have hct := ct_le h
  obtain ⟨q1, q2, q3, -⟩ := hq
  have hm1 := m_among h fu (lo := 65) (hi := 72) (by omega) (by omega)
  have hc1 := c_among h fu (lo := 65) (hi := 72) (by omega) (by omega)
  have h21 : ∃ b : Int32, (b = 1 ∧ N 9 1 < 24 ∨ b = 0 ∧ ¬ N 9 1 < 24) ∧ F_X4_readTransition_21 fu s M = F_X4_readTransition_40 fu s b M ∧ F_X2_transition_21 fu (some (A 1 0)) x1 (some (A 1 0)) S = F_X2_transition_35 fu (some (A 1 0)) x1 b (some (A 1 0)) S := by
    unfold F_X4_readTransition_21 F_X2_transition_21
    rw [h8, y_aI (by omega) (by omega), y_b, q2, q1, y_b]
    by_cases e : N 9 1 < 24
    · have : ¬ (24 : Int32) ≤ nI (N 9 1) := nI_ge (a := N 9 1) (b := 24) e (by omega)
      rw [if_neg this, if_neg this]
      exact ⟨1, Or.inl ⟨rfl, e⟩, rfl, rfl⟩
    · have : (24 : Int32) ≤ nI (N 9 1) := (nI_leI (a := 24) (b := N 9 1) (by omega) (by omega)).mpr (by omega)
      rw [if_pos this, if_pos this]
      exact ⟨0, Or.inr ⟨rfl, e⟩, rfl, rfl⟩
  have e46 : nI (ct z tx p) = (46 : Int32) ↔ ct z tx p = 46 := nI_eq (a := ct z tx p) (b := 46) (by omega) (by omega)
  unfold F_X4_readTransition F_X2_transition okT
  rw [m_look h fu, y_cI, y_q h.1, c_look h fu, y_cI]
  by_cases e1 : ct z tx p = 46
  · rw [if_pos (e46.mpr e1), if_pos (e46.mpr e1)]
    obtain ⟨b, hb, w1, w2⟩ := h21
    refine ⟨b, ?_, w1, w2⟩
    rcases hb with ⟨hb, e⟩ | ⟨hb, e⟩
    · exact Or.inl ⟨hb, Or.inl e1, e⟩
    · exact Or.inr ⟨hb, fun w => e w.2⟩
  · rw [if_neg (fun w => e1 (e46.mp w)), if_neg (fun w => e1 (e46.mp w)), show F_X4_among fu 65 72 M = _ from hm1, y_cI, y_q h.1, show F_X2_isAmong fu (some (A 1 0)) 65 72 S = _ from hc1, y_cI]
    by_cases e2 : 65 ≤ ct z tx p ∧ ct z tx p ≤ 72
    · have ne : ¬ am 65 72 (ct z tx p) = 0 := fun w => am1.mp w e2
      rw [if_neg ne, if_neg ne]
      obtain ⟨b, hb, w1, w2⟩ := h21
      refine ⟨b, ?_, w1, w2⟩
      rcases hb with ⟨hb, e⟩ | ⟨hb, e⟩
      · exact Or.inl ⟨hb, Or.inr e2, e⟩
      · exact Or.inr ⟨hb, fun w => e w.2⟩
    · have e3 := am1.mpr e2
      rw [if_pos e3, if_pos e3]
      exact ⟨0, Or.inr ⟨rfl, fun w => w.1.elim e1 e2⟩, rfl, rfl⟩
end RDY
