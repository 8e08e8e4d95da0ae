/-! LAYER 2: the law's call of build -/
set_option maxRecDepth 100000
section RCY
variable {A : gA} {M0 : gM}
theorem L0_build {fu : Nat} (hf : 400 ≤ fu) {b0 b1 out : Nat} (hb : b0 + 1300 ≤ 599900) (hb' : b1 + 64200 ≤ 7300000) {M : gM} {S : gm_S} (h : RO (aB A b0 b1) M0 M S out) : ∃ A' v M' k S', F_X4_build fu M = some (.returned (some (.int v)), M') ∧ F_X0_build fu (some (A 0 0)) (some out) S = some (.returned (some (.int k)), S') ∧ A' 0 0 = A 0 0 ∧ rXo A' M0 (b0 + 1300) (b1 + 64200) out v M' k S' := by
  obtain ⟨A', v, M', o, S1, e1, e2, e3, e4, e5⟩ := L_build hf h.1 hb hb'
  obtain ⟨t, n⟩ := h.keep (P_X1_build fu (some (A 0 0))) e2
  obtain ⟨k, S', w1, w2⟩ := w_B e4 e5 t n
  refine ⟨A', v, M', k, S', e1, ?_, e3, w2⟩
  unfold F_X0_build
  rw [y_q (show gs_t S (A 0 0) = 1 from h.1.nt), e2]
  exact w1
end RCY
