/-! LAYER 2, reading: what is read so far, the parts that transitions touch -/
set_option maxRecDepth 100000
section RDX
variable {A : gA} {M0 : gM} {z p bc bk : Nat} {tx : Nat → Nat}
/-! new lists -/
def nwL (S : gm_S) : gm_S := gs_L (gs_put (g_mk S 32 3) 0 (gs_n S) 0 (.ref 16)) (gs_n S) []
theorem y_lnew {S : gm_S} : g_lnew (g_mk S 32 3) (some (gs_n S)) = some (nwL S) := by
  unfold g_lnew
  rw [y_at y_mkn]
  rfl
theorem nwL_t {S : gm_S} : gs_t (nwL S) (gs_n S) = 16 := by
  show gm_N (gm_st (g_mk S 32 3).1 0 (gs_n S) 0 (.ref 16) 0 (gs_n S) 0) = _
  rw [gm_st_e]; rfl
theorem nwL_M {S : gm_S} {F b i : Nat} (h : b ≠ gs_n S) : (nwL S).1 F b i = S.1 F b i := by
  show gm_st (g_mk S 32 3).1 0 (gs_n S) 0 (.ref 16) F b i = _
  rw [gm_st_a h]
  exact y_mkM h
theorem nwL_o {S : gm_S} {b : Nat} (h : b ≠ gs_n S) : gs_t (nwL S) b = gs_t S b := by
  unfold gs_t
  rw [nwL_M h]
theorem nwL_e {S : gm_S} : (nwL S).2.1 (gs_n S) = [] := y_Le
theorem nwL_l {S : gm_S} {b : Nat} (h : b ≠ gs_n S) : (nwL S).2.1 b = S.2.1 b := y_Ln h
theorem nwL_ag {S : gm_S} (hi : g_inv M0 S) : ag (fun _ _ => False) (fun _ => False) S (nwL S) :=
  ⟨fun F a i ha _ => nwL_M (by have := hi.2.2.2 a ha; omega), fun a ha _ => nwL_l (by have := hi.2.2.2 a ha; omega), fun a ha => nwL_o (by have := hi.2.2.2 a ha; omega)⟩
theorem nwL_inv {S : gm_S} (h : g_inv M0 S) : g_inv M0 (nwL S) := by
  obtain ⟨h1, h2, h3, h4⟩ := h
  refine ⟨?_, by rw [nwL_o (by omega)]; exact h2, by show 0 < gs_n S + 1; omega, fun b hb => ?_⟩
  · rw [← h1]
    funext k j
    exact nwL_M (by omega)
  · show b < gs_n S + 1
    by_cases e : b = gs_n S
    · omega
    · have := h4 b (by rw [nwL_o e] at hb; exact hb)
      omega
theorem fresh0 {S : gm_S} (hi : g_inv M0 S) {n : Nat} (hn : gs_n S ≤ n) : gs_t S n = 0 := by
  rcases Nat.eq_zero_or_pos (gs_t S n) with w | w
  · exact w
  · have := hi.2.2.2 n (by omega); omega
/-- a transition's object -/
theorem x_tran {S : gm_S} (hi : g_inv M0 S) {o : Nat} (h : gs_t S o = 10) {c : Nat} (hc : c ≤ 126) (x1 : Option Nat) (h1 : gs_c S + 2 < 600096) (h2 : gs_k S + 6 ≤ 7301386) (fu : Nat) : ∃ S', F_X10_init fu (some o) x1 (nI c) S = some (.returned none, S') ∧ g_gR S' (some o) 10 0 = some x1 ∧ g_gI S' (some o) 10 1 = some (nI c) ∧ g_gR S' (some o) 10 2 = some (some (gs_n S)) ∧ g_gR S' (some o) 10 3 = some (some (gs_n S + 1)) ∧ S'.1 1004 o 0 = S.1 1004 o 0 ∧ gs_t S' (gs_n S) = 16 ∧ gs_t S' (gs_n S + 1) = 16 ∧ S'.2.1 (gs_n S) = [] ∧ S'.2.1 (gs_n S + 1) = [] ∧ (∀ b, b ≠ gs_n S → b ≠ gs_n S + 1 → S'.2.1 b = S.2.1 b) ∧ ag (fun F a => 1000 ≤ F ∧ F ≤ 1003 ∧ a = o) (fun _ => False) S S' ∧ g_inv M0 S' ∧ gs_c S' = gs_c S + 2 ∧ gs_k S' = gs_k S + 6 ∧ gs_n S' = gs_n S + 2 := by
  have h0 : gs_t S o ≠ 0 := by rw [h]; decide
  have ho : o < gs_n S := hi.2.2.2 o h0
  obtain ⟨Sa, hSa⟩ : ∃ Sa, Sa = nwL S := ⟨_, rfl⟩
  have ia : g_inv M0 Sa := by rw [hSa]; exact nwL_inv hi
  have ta : gs_t Sa o = 10 := by rw [hSa, nwL_o (by omega)]; exact h
  have ga : ag (fun _ _ => False) (fun _ => False) S Sa := by rw [hSa]; exact nwL_ag hi
  have na : gs_n Sa = gs_n S + 1 := by rw [hSa]; rfl
  have tla : gs_t Sa (gs_n S) = 16 := by rw [hSa]; exact nwL_t
  have ea : Sa.2.1 (gs_n S) = [] := by rw [hSa]; exact nwL_e
  have oa : ∀ b, b ≠ gs_n S → Sa.2.1 b = S.2.1 b := fun b w => by rw [hSa]; exact nwL_l w
  obtain ⟨Sb, hSb⟩ : ∃ Sb, Sb = gs_put Sa (100 * 10 + 2) o 0 (va_rf (some (gs_n S))) := ⟨_, rfl⟩
  have ib : g_inv M0 Sb := by rw [hSb]; exact ia.put (by decide) (by rw [ta]; decide)
  have tb : ∀ b, gs_t Sb b = gs_t Sa b := fun b => by rw [hSb]; exact y_pt (by decide)
  have nb : gs_n Sb = gs_n S + 1 := by rw [hSb]; exact na
  have gb : ag (fun F a => F = 1002 ∧ a = o) (fun _ => False) Sa Sb := by rw [hSb]; exact ag.put (by decide)
  have vb : g_gR Sb (some o) 10 2 = some (some (gs_n S)) := by rw [y_gR ((tb o).trans ta), hSb, y_pE]; rfl
  have lb : Sb.2.1 = Sa.2.1 := by rw [hSb]; rfl
  obtain ⟨Sc, hSc⟩ : ∃ Sc, Sc = nwL Sb := ⟨_, rfl⟩
  have ic : g_inv M0 Sc := by rw [hSc]; exact nwL_inv ib
  have tc : gs_t Sc o = 10 := by rw [hSc, nwL_o (by omega), tb]; exact ta
  have gc : ag (fun _ _ => False) (fun _ => False) Sb Sc := by rw [hSc]; exact nwL_ag ib
  have nc : gs_n Sc = gs_n S + 2 := by rw [hSc]; show gs_n Sb + 1 = _; omega
  have tlc : gs_t Sc (gs_n S + 1) = 16 := by rw [hSc, ← nb]; exact nwL_t
  have ec : Sc.2.1 (gs_n S + 1) = [] := by rw [hSc, ← nb]; exact nwL_e
  have oc : ∀ b, b ≠ gs_n S + 1 → Sc.2.1 b = Sb.2.1 b := fun b w => by rw [hSc]; exact nwL_l (by rw [nb]; exact w)
  obtain ⟨Sd, hSd⟩ : ∃ Sd, Sd = gs_put (gs_put (gs_put Sc (100 * 10 + 3) o 0 (va_rf (some (gs_n S + 1)))) (100 * 10 + 0) o 0 (va_rf x1)) (100 * 10 + 1) o 0 (.int (nI c)) := ⟨_, rfl⟩
  have td : ∀ b, gs_t Sd b = gs_t Sc b := fun b => by rw [hSd, y_pt (by decide), y_pt (by decide), y_pt (by decide)]
  have gd : ag (fun F a => 1000 ≤ F ∧ F ≤ 1003 ∧ a = o) (fun _ => False) Sc Sd := by
    rw [hSd]
    exact (((ag.put (S := Sc) (F := 100 * 10 + 3) (a := o) (i := 0) (v := va_rf (some (gs_n S + 1))) (by decide)).trans (ag.put (F := 100 * 10 + 0) (a := o) (i := 0) (v := va_rf x1) (by decide))).trans (ag.put (F := 100 * 10 + 1) (a := o) (i := 0) (v := .int (nI c)) (by decide))).wk (fun F a w => by omega) (fun a w => by rcases w with (w | w) | w <;> exact w)
  have s1 : gs_t (gs_put Sc (100 * 10 + 3) o 0 (va_rf (some (gs_n S + 1)))) o = 10 := (y_pt (by decide)).trans tc
  have s2 : gs_t (gs_put (gs_put Sc (100 * 10 + 3) o 0 (va_rf (some (gs_n S + 1)))) (100 * 10 + 0) o 0 (va_rf x1)) o = 10 := (y_pt (by decide)).trans s1
  have ca : gs_c Sa = gs_c S + 1 := by rw [hSa]; rfl
  have ka : gs_k Sa = gs_k S + 3 := by rw [hSa]; rfl
  have cb : gs_c Sb = gs_c S + 1 := by rw [hSb]; exact ca
  have kb : gs_k Sb = gs_k S + 3 := by rw [hSb]; exact ka
  have cc : gs_c Sc = gs_c S + 2 := by rw [hSc]; show gs_c Sb + 1 = _; omega
  have kc : gs_k Sc = gs_k S + 6 := by rw [hSc]; show gs_k Sb + 3 = _; omega
  have g2 : g_gR Sd (some o) 10 2 = some (some (gs_n S)) := by
    have := gc.gR vb (by decide) (fun w => w)
    obtain ⟨a, ea', ta', va'⟩ := y_gRt this
    cases ea'
    rw [y_gR ((td o).trans tc), hSd, y_pM (by simp), y_pM (by simp), y_pM (by simp)]
    exact congrArg some va'
  refine ⟨Sd, ?_, ?_, ?_, g2, ?_, ?_, ?_, ?_, ?_, ?_, ?_, ?_, ?_, ?_, ?_, ?_⟩
  · unfold F_X10_init
    rw [y_q h, y_new (by omega) (by omega), y_b]
    dsimp only
    rw [y_lnew, y_b, ← hSa, y_pR ta, y_b, ← hSb, y_new (by omega) (by omega), y_b]
    dsimp only
    rw [y_lnew, y_b, ← hSc, nb, y_pR tc, y_b, y_pR s1, y_b, y_pC s2 (y_okC (by omega)), y_b, ← hSd]
  · rw [y_gR ((td o).trans tc), hSd, y_pM (by simp), y_pE, gm_R_rf]
  · rw [y_gI ((td o).trans tc), hSd, y_pE]; rfl
  · rw [y_gR ((td o).trans tc), hSd, y_pM (by simp), y_pM (by simp), y_pE]; rfl
  · rw [hSd, y_pM (by simp), y_pM (by simp), y_pM (by simp), hSc, nwL_M (by omega), hSb, y_pM (by simp), hSa, nwL_M (by omega)]
  · rw [td, hSc, nwL_o (by omega), tb]; exact tla
  · rw [td]; exact tlc
  · rw [hSd]; show Sc.2.1 _ = _; rw [oc _ (by omega), lb]; exact ea
  · rw [hSd]; exact ec
  · intro b w1 w2
    rw [hSd]; show Sc.2.1 _ = _; rw [oc _ w2, lb, oa _ w1]
  · exact (((ga.trans gb).trans gc).trans gd).wk (fun F a w => by rcases w with ((w | w) | w) | w; exact w.elim; omega; exact w.elim; exact w) (fun a w => by rcases w with ((w | w) | w) | w <;> exact w)
  · rw [hSd]
    exact ((ic.put (by decide) (by rw [tc]; decide)).put (by decide) (by rw [s1]; decide)).put (by decide) (by rw [s2]; decide)
  · rw [hSd]; exact cc
  · rw [hSd]; exact kc
  · rw [hSd]; exact nc
end RDX
