/-! LAYER 2: the law's calls that may throw -/
set_option maxRecDepth 100000
section RCX
variable {A : gA} {M0 : gM}
def RO (A : gA) (M0 M : gM) (S : gm_S) (out : Nat) : Prop := RL A M0 M S ∧ gs_t S out = 104 ∧ gm_N (S.1 1 out 0) = 1
/-- how such a call ends: the code, and the answer in the law's row -/
def rXo (A : gA) (M0 : gM) (b0 b1 out : Nat) (v : Int32) (M' : gM) (k : Int32) (S' : gm_S) : Prop := RO (aB A b0 b1) M0 M' S' out ∧ k = n_I M' 0 0 ∧ (k = 0 → S'.1 2 out 0 = .long v.toInt64)
def kOu (out : Nat) : Int32 → gm_S → gR := fun v1 S1 => Option.bind (g_sJ S1 (some out) (0 : Int32) (v1).toInt64) fun S2 => some (.returned (some (.int (0 : Int32))), S2)
def tEv : Nat → gm_S → gR := fun a1 S1 => if gs_t S1 a1 = 17 then (some (.returned (some (.int (1 : Int32))), S1))
  else (if gs_t S1 a1 = 18 then (some (.returned (some (.int (2 : Int32))), S1))
  else (if gs_t S1 a1 = 19 then (some (.returned (some (.int (3 : Int32))), S1))
  else (none)))
def tSt : Nat → gm_S → gR := fun a1 S1 => if gs_t S1 a1 = 18 then (some (.returned (some (.int (1 : Int32))), S1))
  else (if gs_t S1 a1 = 19 then (some (.returned (some (.int (2 : Int32))), S1))
  else (none))
def tBu : Nat → gm_S → gR := fun a1 S1 => if gs_t S1 a1 = 17 then (some (.returned (some (.int (1 : Int32))), S1)) else (none)
theorem w_ret {b0 b1 out : Nat} {v : Int32} {M' : gM} {S1 : gm_S} (h : RL (aB A b0 b1) M0 M' S1) (t : gs_t S1 out = 104) (n : gm_N (S1.1 1 out 0) = 1) (h0 : n_I M' 0 0 = 0) : ∃ S', kOu out v S1 = some (.returned (some (.int 0)), S') ∧ rXo A M0 b0 b1 out v M' 0 S' := by
  refine ⟨gs_put S1 2 out 0 (.long v.toInt64), ?_, ⟨h.out t, (y_pt (by decide)).trans t, by rw [y_pM (by omega)]; exact n⟩, h0.symm, fun _ => y_pE⟩
  unfold kOu g_sJ
  rw [show g_as S1 (some out) 4 0 (.long v.toInt64) = some (gs_put S1 2 out 0 (.long v.toInt64)) from y_as (t := 4) (i := 0) t n (by omega) (by omega), y_b]
theorem w_E {b0 b1 out : Nat} {v : Int32} {M' : gM} {o : Outcome} {S1 : gm_S} (h : rW A M0 b0 b1 16 v M' o S1) (t : gs_t S1 out = 104) (n : gm_N (S1.1 1 out 0) = 1) : ∃ k S', gz_tI (some (o, S1)) (kOu out) tEv = some (.returned (some (.int k)), S') ∧ rXo A M0 b0 b1 out v M' k S' := by
  obtain ⟨h1, ⟨e, e0⟩ | ⟨a, c, e, c1, c2, ta, e0⟩⟩ := h
  · obtain ⟨S', w1, w2⟩ := w_ret h1 t n e0 (v := v)
    rw [e]
    exact ⟨0, S', w1, w2⟩
  · rw [e]
    have hne : n_I M' 0 0 ≠ 0 := fun q => by rw [e0] at q; have := (nI_eq (a := c) (b := 0) (by omega) (by omega)).mp q; omega
    refine ⟨nI c, S1, ?_, ⟨h1, t, n⟩, e0.symm, fun q => absurd (e0.trans q) hne⟩
    show tEv a S1 = _
    unfold tEv
    have hc : c = 1 ∨ c = 2 ∨ c = 3 := by omega
    rcases hc with rfl | rfl | rfl
    · rw [if_pos ta]; rfl
    · rw [if_neg (by rw [ta]; decide), if_pos ta]; rfl
    · rw [if_neg (by rw [ta]; decide), if_neg (by rw [ta]; decide), if_pos ta]; rfl
theorem w_S {b0 b1 out : Nat} {v : Int32} {M' : gM} {o : Outcome} {S1 : gm_S} (h : rW A M0 b0 b1 17 v M' o S1) (t : gs_t S1 out = 104) (n : gm_N (S1.1 1 out 0) = 1) : ∃ k S', gz_tI (some (o, S1)) (kOu out) tSt = some (.returned (some (.int k)), S') ∧ rXo A M0 b0 b1 out v M' k S' := by
  obtain ⟨h1, ⟨e, e0⟩ | ⟨a, c, e, c1, c2, ta, e0⟩⟩ := h
  · obtain ⟨S', w1, w2⟩ := w_ret h1 t n e0 (v := v)
    rw [e]
    exact ⟨0, S', w1, w2⟩
  · rw [e]
    have hne : n_I M' 0 0 ≠ 0 := fun q => by rw [e0] at q; have := (nI_eq (a := c) (b := 0) (by omega) (by omega)).mp q; omega
    refine ⟨nI c, S1, ?_, ⟨h1, t, n⟩, e0.symm, fun q => absurd (e0.trans q) hne⟩
    show tSt a S1 = _
    unfold tSt
    have hc : c = 1 ∨ c = 2 := by omega
    rcases hc with rfl | rfl
    · rw [if_pos ta]; rfl
    · rw [if_neg (by rw [ta]; decide), if_pos ta]; rfl
theorem w_B {b0 b1 out : Nat} {v : Int32} {M' : gM} {o : Outcome} {S1 : gm_S} (h : rW A M0 b0 b1 16 v M' o S1) (h17 : ∀ a, o = .threw a → gs_t S1 a = 17) (t : gs_t S1 out = 104) (n : gm_N (S1.1 1 out 0) = 1) : ∃ k S', gz_tI (some (o, S1)) (kOu out) tBu = some (.returned (some (.int k)), S') ∧ rXo A M0 b0 b1 out v M' k S' := by
  obtain ⟨h1, ⟨e, e0⟩ | ⟨a, c, e, c1, c2, ta, e0⟩⟩ := h
  · obtain ⟨S', w1, w2⟩ := w_ret h1 t n e0 (v := v)
    rw [e]
    exact ⟨0, S', w1, w2⟩
  · have hc : c = 1 := by have := h17 a e; omega
    rw [e]
    have hne : n_I M' 0 0 ≠ 0 := fun q => by rw [e0] at q; have := (nI_eq (a := c) (b := 0) (by omega) (by omega)).mp q; omega
    refine ⟨nI c, S1, ?_, ⟨h1, t, n⟩, e0.symm, fun q => absurd (e0.trans q) hne⟩
    show tBu a S1 = _
    unfold tBu
    rw [if_pos (h17 a e), hc]; rfl
theorem RO.keep {M : gM} {S S1 : gm_S} {out : Nat} {f : gm_S → gR} {o : Outcome} (h : RO A M0 M S out) (hf : hp f) (e : f S = some (o, S1)) : gs_t S1 out = 104 ∧ gm_N (S1.1 1 out 0) = 1 := by
  obtain ⟨c1, c2, b⟩ := h.1.b
  have := (hf S o S1 b.1.2.2.2 e).2 out h.2.1
  exact ⟨this.1, by rw [this.2]; exact h.2.2⟩
theorem L0_event {fu : Nat} (hf : 7000000000 ≤ fu) {b0 b1 out : Nat} (hb : b0 + 1 ≤ 600000) (hb' : b1 + 6 ≤ 7301000) {M : gM} {S : gm_S} (h : RO (aB A b0 b1) M0 M S out) (x : Int32) : ∃ v M' k S', F_X4_event fu x M = some (.returned (some (.int v)), M') ∧ F_X0_event fu (some (A 0 0)) x (some out) S = some (.returned (some (.int k)), S') ∧ rXo A M0 (b0 + 1) (b1 + 6) out v M' k S' := by
  obtain ⟨v, M', o, S1, e1, e2, e3⟩ := L_event hf hb hb' h.1 x
  obtain ⟨t, n⟩ := h.keep (P_X1_event fu (some (A 0 0)) x) e2
  obtain ⟨k, S', w1, w2⟩ := w_E e3 t n
  refine ⟨v, M', k, S', e1, ?_, w2⟩
  unfold F_X0_event
  rw [y_q (show gs_t S (A 0 0) = 1 from h.1.nt), e2]
  exact w1
theorem L0_tick {fu : Nat} (hf : 7000000000 ≤ fu) {b0 b1 out : Nat} (hb : b0 + 161 ≤ 600000) (hb' : b1 + 326 ≤ 7301000) {M : gM} {S : gm_S} (h : RO (aB A b0 b1) M0 M S out) (x : Int32) : ∃ v M' k S', F_X4_tick fu x M = some (.returned (some (.int v)), M') ∧ F_X0_tick fu (some (A 0 0)) x (some out) S = some (.returned (some (.int k)), S') ∧ rXo A M0 (b0 + 161) (b1 + 326) out v M' k S' := by
  obtain ⟨v, M', o, S1, e1, e2, e3⟩ := L_tick hf hb hb' h.1 x
  obtain ⟨t, n⟩ := h.keep (P_X1_tick fu (some (A 0 0)) x) e2
  obtain ⟨k, S', w1, w2⟩ := w_E e3 t n
  refine ⟨v, M', k, S', e1, ?_, w2⟩
  unfold F_X0_tick
  rw [y_q (show gs_t S (A 0 0) = 1 from h.1.nt), e2]
  exact w1
theorem L0_start {fu : Nat} (hf : 7000000000 ≤ fu) {b0 b1 out : Nat} (hb : b0 + 9 ≤ 600000) (hb' : b1 + 22 ≤ 7301000) {M : gM} {S : gm_S} (h : RO (aB A b0 b1) M0 M S out) : ∃ v M' k S', F_X4_start fu M = some (.returned (some (.int v)), M') ∧ F_X0_start fu (some (A 0 0)) (some out) S = some (.returned (some (.int k)), S') ∧ rXo A M0 (b0 + 9) (b1 + 22) out v M' k S' := by
  obtain ⟨v, M', o, S1, e1, e2, e3⟩ := L_start hf hb hb' h.1
  obtain ⟨t, n⟩ := h.keep (P_X1_start fu (some (A 0 0))) e2
  obtain ⟨k, S', w1, w2⟩ := w_S e3 t n
  refine ⟨v, M', k, S', e1, ?_, w2⟩
  unfold F_X0_start
  rw [y_q (show gs_t S (A 0 0) = 1 from h.1.nt), e2]
  exact w1
/-- typing: the law's row stays -/
theorem L0_type {M : gM} {S : gm_S} {out : Nat} (h : RO A M0 M S out) (fu : Nat) (x : Int32) : ∃ v M' S', g_okZ v = true ∧ F_X4_type fu x M = some (.returned (some (.int v)), M') ∧ F_X1_type fu (some (A 0 0)) x S = some (.returned (some (.int v)), S') ∧ RO A M0 M' S' out := by
  obtain ⟨v, M', S', e0, e1, e2, e3⟩ := L_type h.1 fu x
  obtain ⟨t, n⟩ := h.keep (P_X1_type fu (some (A 0 0)) x) e2
  exact ⟨v, M', S', e0, e1, e2, e3, t, n⟩
end RCX
