/-! LAYER 2: the law from its beginning -/
set_option maxRecDepth 100000
section LI
/-- behind the seal -/
def l5 (S2 : gm_S) : gm_S := jqZ (gs_n S2 + 1) (gs_n S2) (jqF (gs_n S2) (g_mk S2 4 62))
def l6 (S2 : gm_S) : gm_S := gs_put (g_mk (l5 S2) 104 1) 1 (gs_n (l5 S2)) 0 (.ref 1)
theorem law_init {S0 : gm_S} (h00 : ∀ F a i, S0.1 F a i = .null) (hn0 : 0 < gs_n S0) (hc0 : gs_c S0 = 0) (hk0 : gs_k S0 = 0) (fu : Nat) : ∃ (A : gA) (S2 : gm_S), F_X1_init fu (some (gs_n S0)) (g_mk S0 1 5) = some (.returned none, S2) ∧ (∀ a, gs_t S2 a ≠ 0 → a < gs_n S2) ∧ 0 < gs_n S2 ∧ gs_t S2 0 = 0 ∧ gs_c S2 = 13 ∧ gs_k S2 = 347 ∧ F_X4_init fu (some (gs_n S2)) (g_mk S2 4 62) = some (.returned none, jqF (gs_n S2) (g_mk S2 4 62)) ∧ g_newa (l5 S2) 4 1 = some (gs_n (l5 S2), l6 S2) ∧ A 0 0 = gs_n S0 ∧ RF (aB A 145 4228) (l6 S2) (gs_n (l5 S2)) := by
  obtain ⟨S1, e1⟩ : ∃ S1, S1 = g_mk S0 1 5 := ⟨_, rfl⟩
  have t00 : ∀ a, gs_t S0 a = 0 := fun a => by unfold gs_t; rw [h00]; rfl
  have i0 : g_inv (gm_g S0) S0 := ⟨rfl, t00 0, hn0, fun a ha => absurd (t00 a) ha⟩
  have i1 : g_inv (gm_g S0) S1 := by rw [e1]; exact i0.mk
  have t1 : gs_t S1 (gs_n S0) = 1 := by rw [e1]; exact y_mkn
  have n1 : gs_n S1 = gs_n S0 + 1 := by rw [e1]; rfl
  have c1 : gs_c S1 = 1 := by rw [e1]; show gs_c S0 + 1 = 1; omega
  have k1 : gs_k S1 = 5 := by rw [e1]; show gs_k S0 + 5 = 5; omega
  obtain ⟨S2, r1, r2, r3, r4, r5, -, r7⟩ := L_init i1 t1 (fun F hF => by rw [e1]; exact gm_fresh_n (by omega)) (by omega) (by omega) fu
  have c2 : gs_c S2 = 13 := by omega
  have k2 : gs_k S2 = 347 := by omega
  obtain ⟨o, eo⟩ : ∃ o, o = gs_n S2 := ⟨_, rfl⟩
  have ho0 : 0 < o := by have := r2.2.2.1; omega
  obtain ⟨S3, e3⟩ : ∃ S3, S3 = g_mk S2 4 62 := ⟨_, rfl⟩
  have i3 : g_inv (gm_g S0) S3 := by rw [e3]; exact r2.mk
  have t3 : gs_t S3 o = 4 := by rw [e3, eo]; exact y_mkn
  have n3 : gs_n S3 = o + 1 := by rw [e3, eo]; rfl
  have c3 : gs_c S3 = 14 := by rw [e3]; show gs_c S2 + 1 = 14; omega
  have k3 : gs_k S3 = 409 := by rw [e3]; show gs_k S2 + 62 = 409; omega
  have run4 := jqF_run t3 (by omega) (by omega) (by omega) fu
  obtain ⟨m1, m2, m3, m4, m5⟩ := jqF_n (S := S3) (o := o)
  obtain ⟨S4, e4⟩ : ∃ S4, S4 = jqF o S3 := ⟨_, rfl⟩
  rw [← e4] at m1 m2 m3 m4 m5
  obtain ⟨S5, e5⟩ : ∃ S5, S5 = l5 S2 := ⟨_, rfl⟩
  have e5' : S5 = jqZ (o + 1) o S4 := by rw [e5, e4, e3, eo]; rfl
  have n5 : gs_n S5 = o + 43 := by rw [e5']; show gs_n S4 = _; omega
  have c5 : gs_c S5 = 56 := by rw [e5']; show gs_c S4 = _; omega
  have k5 : gs_k S5 ≤ 3569 := by rw [e5']; show gs_k S4 ≤ _; omega
  have old4 : ∀ F b i, b < o → S4.1 F b i = S2.1 F b i := fun F b i hb => by
    rw [e4, jqF_old (by omega) (Or.inl (by omega)), e3]
    exact gm_fresh_o (by omega)
  have old5 : ∀ F b i, b < o → b ≠ 0 → S5.1 F b i = S2.1 F b i := fun F b i hb h0 => by
    rw [e5', jqZ_old h0 (by omega) (by omega)]
    exact old4 F b i hb
  have t50 : gs_t S5 0 = 0 := by
    have : S5.1 0 0 0 = S4.1 0 0 0 := by
      rw [e5']
      unfold jqZ
      dsimp only
      rw [if_pos rfl, if_neg (by omega)]
    unfold gs_t
    rw [this, old4 0 0 0 ho0]
    exact r2.2.1
  have i5 : g_inv jqM S5 := by
    refine ⟨by rw [e5']; exact jqZ_g _ _ _, t50, by omega, fun a ha => ?_⟩
    rcases Nat.lt_or_ge a (o + 43) with h | h
    · omega
    · exfalso
      apply ha
      unfold gs_t
      rw [e5', jqZ_old (by omega) (by omega) (by omega), e4, jqF_far (by omega) (by omega)]
      rcases Nat.eq_zero_or_pos (gs_t S3 a) with z | z
      · exact z
      · have := i3.2.2.2 a (by omega)
        omega
  have en : g_newa S5 4 1 = some (gs_n S5, gs_put (g_mk S5 104 1) 1 (gs_n S5) 0 (.ref 1)) := y_newan (t := 4) (n := 1) (by omega) (by omega) (by omega)
  obtain ⟨S6, e6⟩ : ∃ S6, S6 = gs_put (g_mk S5 104 1) 1 (gs_n S5) 0 (.ref 1) := ⟨_, rfl⟩
  have e6' : S6 = l6 S2 := by rw [e6, e5]; rfl
  have i6 : g_inv jqM S6 := by rw [e6]; exact i5.mk.put (by decide) (by rw [y_mkn]; decide)
  have c6 : gs_c S6 = 57 := by rw [e6]; show gs_c S5 + 1 = 57; omega
  have k6 : gs_k S6 ≤ 3570 := by rw [e6]; show gs_k S5 + 1 ≤ 3570; omega
  have old6 : ∀ F b i, b < o → b ≠ 0 → S6.1 F b i = S2.1 F b i := fun F b i hb h0 => by
    rw [e6, y_pM (by omega)]
    exact (gm_fresh_o (by omega)).trans (old5 F b i hb h0)
  have lt2 : ∀ a, gs_t S2 a ≠ 0 → a < o ∧ a ≠ 0 := fun a ha => ⟨by have := r2.2.2.2 a ha; omega, fun z => ha (by rw [z]; exact r2.2.1)⟩
  have g26 : ag (fun _ _ => False) (fun _ => False) S2 S6 := by
    refine ⟨fun F a i ha _ => old6 F a i (lt2 a ha).1 (lt2 a ha).2, fun a ha _ => ?_, fun a ha => ?_⟩
    · have jq1 : S6.2.1 = S4.2.1 := by rw [e6, e5']; rfl
      rw [jq1, m5, e3]
      rfl
    · unfold gs_t
      rw [old6 _ _ _ (lt2 a ha).1 (lt2 a ha).2]
  have hRN := RN.move (r7 jqM jqM_i) g26 i6 (d0 := 44) (d1 := 3223) (by omega) (by omega) (by show gs_c S1 + 100 + 44 ≤ _; omega) (by show gs_k S1 + 1000 + 3223 ≤ _; omega)
  refine ⟨aI (gs_n S0) (gs_n S1) (gs_c S1 + 100) (gs_k S1 + 1000), S2, by rw [← e1]; exact r1, r2.2.2.2, r2.2.2.1, r2.2.1, c2, k2, by rw [← e3, ← eo]; exact run4, ?_, rfl, ?_⟩
  · rw [← e5, ← e6', e6]; exact en
  · rw [← e5, ← e6']
    unfold RF
    rw [i6.1]
    refine ⟨⟨gs_n S1 + 9, gs_n S1 + 10, Or.inr ?_⟩, ?_, ?_⟩
    · have q0 : (aI (gs_n S0) (gs_n S1) (gs_c S1 + 100) (gs_k S1 + 1000)) 33 0 + 44 = 145 := by show gs_c S1 + 100 + 44 = 145; omega
      have jq1 : (aI (gs_n S0) (gs_n S1) (gs_c S1 + 100) (gs_k S1 + 1000)) 33 1 + 3223 = 4228 := by show gs_k S1 + 1000 + 3223 = 4228; omega
      rw [q0, jq1] at hRN
      exact hRN
    · rw [e6, y_pt (by decide)]; exact y_mkn
    · rw [e6, y_pE]; rfl
/-- the law's function from its loop on -/
theorem law_one {S2 : gm_S} {A : gA} {x1 : Nat} (hA : A 0 0 = x1) (h : RF (aB A 145 4228) (l6 S2) (gs_n (l5 S2))) {fu : Nat} (hf : 7000000000 ≤ fu) (xs : Nat → Int32) {xn : Nat} (hx : xn ≤ 144) : ∃ S', F_L_law_23 fu xs xn fu (some x1) (some (gs_n (l5 S2))) 0 (l6 S2) = some (.returned (some (.int 1)), S') :=
  law_go hf hx 48 fu 0 A 145 4228 (l6 S2) (by omega) (by omega) (by omega) hA (by omega) (by omega) h
end LI
