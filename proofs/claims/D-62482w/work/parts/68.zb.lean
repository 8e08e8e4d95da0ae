/-! LAYER 2, reading: an action is taken in -/
set_option maxRecDepth 100000
section RDH
variable {A : gA} {M0 : gM} {z p bc bk : Nat} {tx : Nat → Nat}
theorem c_ladd {S : gm_S} (hi : g_inv M0 S) {r x : Nat} (h : gs_t S r = 16) (hx : g_okE (gs_t S x) = true) (hl : (S.2.1 r).length < 100) (hc : gs_c S < 600096) (hk : gs_k S + 150 ≤ 7301386) : ∃ S', g_ladd S (some r) (some x) = some S' ∧ ag (fun F b => (F = 3 ∨ F = 4) ∧ b = r) (fun b => b = r) S S' ∧ S'.2.1 r = S.2.1 r ++ [x] ∧ g_inv M0 S' ∧ gs_c S' ≤ gs_c S + 1 ∧ gs_k S' ≤ gs_k S + 150 ∧ (∀ b, b ≠ r → S'.2.1 b = S.2.1 b) := by
  have hr : gs_t S r ≠ 0 := by rw [h]; decide
  have hrn : r ≠ gs_n S := by have := hi.2.2.2 r hr; omega
  rcases y_ladd h hx hl hc hk with ⟨-, e⟩ | ⟨-, w, -, hw, e⟩
  · exact ⟨_, e, (ag.lst).wk (fun F b w => w.elim) (fun b w => w), y_Le, hi.lst, Nat.le_succ _, Nat.le_add_right _ _, fun b hb => y_Ln hb⟩
  · have t1 : gs_t (g_mk S 30 w) (gs_n S) ≠ 0 := by rw [y_mkn]; decide
    have t2 : gs_t (gs_put (g_mk S 30 w) 5 (gs_n S) 0 (.ref r)) r ≠ 0 := by rw [y_pt (by decide), y_mkt hrn]; exact hr
    have g1 := ((ag.put (S := g_mk S 30 w) (F := 5) (a := gs_n S) (i := 0) (v := .ref r) (by decide)).trans (ag.put (F := 3) (a := r) (i := 0) (v := .ref w) (by decide))).trans (ag.put (F := 4) (a := r) (i := 0) (v := .ref (gs_n S)) (by decide))
    refine ⟨_, e, ((ag.mkt hi.2.2.2 g1).trans (ag.lst (a := r) (l := S.2.1 r ++ [x]))).wk (fun F b q => ?_) (fun b q => ?_), y_Le, (((hi.mk.put (by decide) t1).put (by decide) t2).put (by decide) (by rw [y_pt (by decide)]; exact t2)).lst, ?_, ?_, fun b hb => y_Ln hb⟩
    · rcases q with ⟨(q | q) | q, q2⟩ | q
      · exact absurd q.2 q2
      · exact ⟨Or.inl q.1, q.2⟩
      · exact ⟨Or.inr q.1, q.2⟩
      · exact q.elim
    · rcases q with ⟨(q | q) | q, q2⟩ | q
      · exact q.elim
      · exact q.elim
      · exact q.elim
      · exact q
    · show gs_c S + 1 ≤ _; omega
    · show gs_k S + w ≤ _; omega
/-- may an action begin here? -/
def okA (na c : Nat) : Prop := (65 ≤ c ∧ c ≤ 72 ∨ 117 ≤ c ∧ c ≤ 122) ∧ na < 40
theorem s_act0 {N : gA} {M : gM} {S : gm_S} (h : PA A M S z tx p) (hq : qA A N M S) (fu m : Nat) (o : Int32) (r : Option Nat) : ∃ b : Int32, (b = 1 ∧ okA (N 9 3) (ct z tx p) ∨ b = 0 ∧ ¬ okA (N 9 3) (ct z tx p)) ∧ F_X4_readAction fu o M = F_X4_readAction_42 fu o b M ∧ F_X2_actions_0 fu (m + 1) (some (A 1 0)) r S = F_X2_actions_37 fu (F_X2_actions_0 fu m) (some (A 1 0)) r b (some (A 1 0)) S := by
  obtain ⟨q1, q2, q3, q4, q5, -⟩ := hq
  have hm1 := m_among h fu (lo := 65) (hi := 72) (by omega) (by omega)
  have hc1 := c_among h fu (lo := 65) (hi := 72) (by omega) (by omega)
  have hm2 := m_among h fu (lo := 117) (hi := 122) (by omega) (by omega)
  have hc2 := c_among h fu (lo := 117) (hi := 122) (by omega) (by omega)
  have h23 : ∃ b : Int32, (b = 1 ∧ N 9 3 < 40 ∨ b = 0 ∧ ¬ N 9 3 < 40) ∧ F_X4_readAction_23 fu o M = F_X4_readAction_42 fu o b M ∧ F_X2_actions_23 fu (F_X2_actions_0 fu m) (some (A 1 0)) r (some (A 1 0)) S = F_X2_actions_37 fu (F_X2_actions_0 fu m) (some (A 1 0)) r b (some (A 1 0)) S := by
    unfold F_X4_readAction_23 F_X2_actions_23
    rw [q1, y_aI (by omega) (by omega), y_b, q3, q5, y_b]
    by_cases e : N 9 3 < 40
    · have : ¬ (40 : Int32) ≤ nI (N 9 3) := nI_ge (a := N 9 3) (b := 40) e (by omega)
      rw [if_neg this, if_neg this]
      exact ⟨1, Or.inl ⟨rfl, e⟩, rfl, rfl⟩
    · have : (40 : Int32) ≤ nI (N 9 3) := (nI_leI (a := 40) (b := N 9 3) (by omega) (by omega)).mpr (by omega)
      rw [if_pos this, if_pos this]
      exact ⟨0, Or.inr ⟨rfl, e⟩, rfl, rfl⟩
  unfold F_X4_readAction okA
  rw [show F_X4_among fu 65 72 M = _ from hm1, y_cI, F_X2_actions_0, y_q h.1, show F_X2_isAmong fu (some (A 1 0)) 65 72 S = _ from hc1, y_cI]
  by_cases e1 : 65 ≤ ct z tx p ∧ ct z tx p ≤ 72
  · have ne : ¬ am 65 72 (ct z tx p) = 0 := fun w => am1.mp w e1
    rw [if_neg ne, if_neg ne]
    obtain ⟨b, hb, w1, w2⟩ := h23
    refine ⟨b, ?_, w1, w2⟩
    rcases hb with ⟨hb, e⟩ | ⟨hb, e⟩
    · exact Or.inl ⟨hb, Or.inl e1, e⟩
    · exact Or.inr ⟨hb, fun w => e w.2⟩
  · have ee := am1.mpr e1
    rw [if_pos ee, if_pos ee, show F_X4_among fu 117 122 M = _ from hm2, y_cI, y_q h.1, show F_X2_isAmong fu (some (A 1 0)) 117 122 S = _ from hc2, y_cI]
    by_cases e2 : 117 ≤ ct z tx p ∧ ct z tx p ≤ 122
    · have ne : ¬ am 117 122 (ct z tx p) = 0 := fun w => am1.mp w e2
      rw [if_neg ne, if_neg ne]
      obtain ⟨b, hb, w1, w2⟩ := h23
      refine ⟨b, ?_, w1, w2⟩
      rcases hb with ⟨hb, e⟩ | ⟨hb, e⟩
      · exact Or.inl ⟨hb, Or.inr e2, e⟩
      · exact Or.inr ⟨hb, fun w => e w.2⟩
    · have e3 := am1.mpr e2
      rw [if_pos e3, if_pos e3]
      exact ⟨0, Or.inr ⟨rfl, fun w => w.1.elim e1 e2⟩, rfl, rfl⟩
end RDH
