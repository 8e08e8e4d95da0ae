/-! LAYER 2: which of the chosen stay -/
set_option maxRecDepth 100000
section RCL
variable {A : gA} {M0 C : gM} {c1 c2 : Nat}
theorem c_isbel {M : gM} {S : gm_S} (h : RC A M0 C M S c1 c2) (fu : Nat) {i k : Nat} (hi : i < A 9 0) (hk : k < A 9 0) : F_X3_isBelow fu (some (A 10 i)) (some (A 10 k)) S = some (.returned (some (.int (if bt (c_bel A C k) i = true then 1 else 0))), S) := by
  have hn := h.n16
  unfold F_X3_isBelow
  rw [(h.H.2.1 k hk).2.2.2.2.2.2.2, y_b, y_q (h.st hi), s_bit h fu hi, y_cI]
  by_cases hb : bt (c_bel A C k) i = true
  · rw [if_neg (fun z => by rw [(v_and0 (by omega)).mp z] at hb; cases hb), if_pos y_z1, if_pos hb]
  · rw [if_pos ((v_and0 (by omega)).mpr (by simpa using hb)), if_pos y_z0, if_neg hb]
/-- may stay beside u -/
def kO (A : gA) (C : gM) (V : Nat → Nat → Int32) (t u : Nat) : Bool := decide ((V 59 u &&& V 59 t) = 0) || bt (c_bel A C (A 26 u)) (A 26 t)
def kC (V : Nat → Nat → Int32) (t u : Nat) : Bool := decide ((V 59 u &&& V 59 t) = 0)
/-- what is known of transitions among the chosen -/
def kT (A : gA) (S : gm_S) (V : Nat → Nat → Int32) (t : Nat) : Prop := t < A 9 1 ∧ V 56 t = nI (24 * A 9 5 + t) ∧ tG A S t (V 57 t) (V 58 t) (V 59 t) ∧ ∃ q, q ≤ A 9 0 ∧ V 58 t = e_i q
theorem m_stays0 {M : gM} {S : gm_S} (h : RC A M0 C M S c1 c2) (fu : Nat) {us rest : List Nat} {t : Nat} {V : Nat → Nat → Int32} (hm : mL M (us ++ t :: rest) V) (hk : ∀ u ∈ us ++ t :: rest, kT A S V u) (hl : (us ++ t :: rest).length ≤ 16) : ∀ (d j n : Nat), us.length - j = d → j ≤ us.length → d < n → F_X4_stays_2 fu n (nI us.length) (nI j) M = some (.returned (some (.int (if (us.drop j).all (kO A C V t) = true then 1 else 0))), M) := by
  have hw := h.w2
  have hnt := h.nt
  have hn16 := h.n16
  have hll : (us ++ t :: rest).length = us.length + (rest.length + 1) := by rw [List.length_append, List.length_cons]
  have gt : (us ++ t :: rest)[us.length]? = some t := by rw [List.getElem?_append_right (Nat.le_refl _), Nat.sub_self]; rfl
  obtain ⟨ht, ht2, -, -⟩ := hk t (by simp)
  intro d
  induction d with
  | zero =>
    intro j n hd hj hn
    obtain ⟨n, rfl⟩ : ∃ n', n = n' + 1 := ⟨n - 1, by omega⟩
    have e : j = us.length := by omega
    rw [F_X4_stays_2, e, if_pos (Int32.le_refl _), if_pos y_z1, List.drop_length]
    rfl
  | succ d ih =>
    intro j n hd hj hn
    obtain ⟨n, rfl⟩ : ∃ n', n = n' + 1 := ⟨n - 1, by omega⟩
    have hlt : j < us.length := by omega
    have gj : (us ++ t :: rest)[j]? = some us[j] := by rw [List.getElem?_append_left hlt]; exact List.getElem?_eq_getElem hlt
    obtain ⟨hu, hu2, -, -⟩ := hk us[j] (List.mem_append_left _ (List.getElem_mem hlt))
    have f1 := (h.W.2.2.2.1 _ ht)
    have f2 := (h.W.2.2.2.1 _ hu)
    have r1 : n_I M 18 (24 * A 9 5 + t) = nI (A 26 t) := (h.rd (by omega)).trans f1.1
    have r2 : n_I M 18 (24 * A 9 5 + us[j]) = nI (A 26 us[j]) := (h.rd (by omega)).trans f2.1
    rw [F_X4_stays_2, if_neg (nI_ge hlt (by omega)), y_aI (by omega) (by omega), y_b, y_aI (by omega) (by omega), y_b, hm.2 j _ gj 59 (by omega) (by omega), hm.2 _ _ gt 59 (by omega) (by omega), nI_1, ih (j + 1) n (by omega) (by omega) (by omega), List.drop_eq_getElem_cons hlt, List.all_cons]
    by_cases h0 : (V 59 us[j] &&& V 59 t) = 0
    · rw [if_pos h0, show kO A C V t us[j] = true by unfold kO; rw [decide_eq_true h0]; rfl, Bool.true_and]
    · rw [if_neg h0, y_aI (by omega) (by omega), y_b, hm.2 j _ gj 56 (by omega) (by omega), hu2, y_aI (by omega) (by omega), y_b, r2, m_bel h fu f2.2.1, y_cI, y_aI (by omega) (by omega), y_b, hm.2 _ _ gt 56 (by omega) (by omega), ht2, y_aI (by omega) (by omega), y_b, r1, m_in fu (by have := f1.2.1; omega), y_cI]
      have e1 : kO A C V t us[j] = bt (c_bel A C (A 26 us[j])) (A 26 t) := by unfold kO; rw [decide_eq_false h0]; rfl
      rw [e1]
      cases hb : bt (c_bel A C (A 26 us[j])) (A 26 t) with
      | true => rw [if_pos rfl, if_neg (show ¬ (1 : Int32) = 0 by decide), Bool.true_and, ih (j + 1) n (by omega) (by omega) (by omega)]
      | false => rw [if_neg (show ¬ (false = true) by decide), if_pos rfl, if_pos y_z0, Bool.false_and, if_neg (show ¬ (false = true) by decide)]
theorem c_stays0 {M : gM} {S : gm_S} (h : RC A M0 C M S c1 c2) (fu : Nat) (k9 : Option Nat → Int32 → gm_S → gR) (x1 : Int32) {us : List Nat} {t : Nat} {V : Nat → Nat → Int32} (hu : S.2.1 c2 = us.map (A 11)) (hk : ∀ u ∈ us, kT A S V u) (hkt : kT A S V t) (hl : us.length ≤ 16) : ∀ (d j m : Nat) (b : Bool), us.length - j = d → j ≤ us.length → d < m → F_X3_settle_37 fu k9 m (some (A 2 0)) x1 (some (A 11 t)) (if b = true then 1 else 0) (nI j) S =
    (if (b && (us.drop j).all (kO A C V t)) = true then F_X3_settle_123 fu k9 fu (some (A 2 0)) x1 (some (A 11 t)) (nI us.length - 1) S else k9 (some (A 2 0)) (x1 + 1) S) := by
  obtain ⟨ht, -, tg, -⟩ := hkt
  obtain ⟨k1, k2, k3, k4, -⟩ := h.c
  intro d
  induction d with
  | zero =>
    intro j m b hd hj hm
    obtain ⟨m, rfl⟩ : ∃ m', m = m' + 1 := ⟨m - 1, by omega⟩
    have e : j = us.length := by omega
    rw [F_X3_settle_37, k2, y_b, y_lsz k4, y_b, hu, List.length_map, e, if_pos (Int32.le_refl _), List.drop_length]
    simp only [y_b]
    rw [y_lsz k4, y_b, hu, List.length_map]
    cases b with
    | true => rw [if_neg (by decide), if_pos (show (true && [].all (kO A C V t)) = true from rfl)]
    | false => rw [if_pos (show (if false = true then (1 : Int32) else 0) = 0 from rfl), Bool.false_and, if_neg (by decide)]
  | succ d ih =>
    intro j m b hd hj hm
    obtain ⟨m, rfl⟩ : ∃ m', m = m' + 1 := ⟨m - 1, by omega⟩
    have hlt : j < us.length := by omega
    have hget : (S.2.1 c2)[j]? = some (A 11 us[j]) := by rw [hu, List.getElem?_map, List.getElem?_eq_getElem hlt]; rfl
    obtain ⟨hu1, -, ug, -⟩ := hk us[j] (List.getElem_mem hlt)
    have f1 := (h.W.2.2.2.1 _ ht).2.1
    have f2 := (h.W.2.2.2.1 _ hu1).2.1
    rw [F_X3_settle_37, k2, y_b, y_lsz k4, y_b, hu, List.length_map, if_neg (nI_ge hlt (by omega)), y_b, y_lget k4 (by omega) hget, y_b, y_q (h.tt hu1), ug.2.2, y_b, tg.2.2, y_b, nI_1, List.drop_eq_getElem_cons hlt, List.all_cons]
    have a1 : ((if b = true then 1 else 0) &&& (1 : Int32)) = (if b = true then 1 else 0) := by cases b <;> decide
    have a0 : ((if b = true then 1 else 0) &&& (0 : Int32)) = (if false = true then 1 else 0) := by cases b <;> decide
    by_cases h0 : (V 59 us[j] &&& V 59 t) = 0
    · rw [if_pos h0, a1, ih (j + 1) m b (by omega) (by omega) (by omega), show kO A C V t us[j] = true by unfold kO; rw [decide_eq_true h0]; rfl, Bool.true_and]
    · have e1 : kO A C V t us[j] = bt (c_bel A C (A 26 us[j])) (A 26 t) := by unfold kO; rw [decide_eq_false h0]; rfl
      rw [if_neg h0, (h.H.2.2.1 t ht).1, y_b, (h.H.2.2.1 _ hu1).1, y_b, c_isbel h fu f1 f2, y_cI, e1]
      cases hb : bt (c_bel A C (A 26 us[j])) (A 26 t) with
      | true => rw [if_pos rfl, if_neg (show ¬ (1 : Int32) = 0 by decide), a1, ih (j + 1) m b (by omega) (by omega) (by omega), Bool.true_and]
      | false => rw [if_neg (show ¬ (false = true) by decide), if_pos rfl, a0, ih (j + 1) m false (by omega) (by omega) (by omega), Bool.false_and, Bool.and_false]
theorem kT.of {S S' : gm_S} {V : Nat → Nat → Int32} {E : Nat → Nat → Prop} {L : Nat → Prop} {t : Nat} (h : kT A S V t) (g : ag E L S S') (hE : ∀ F a, 1005 ≤ F → F ≤ 1007 → ¬ E F a) : kT A S' V t :=
  ⟨h.1, h.2.1, ⟨g.gI h.2.2.1.1 (by decide) (hE _ _ (by omega) (by omega)), g.gI h.2.2.1.2.1 (by decide) (hE _ _ (by omega) (by omega)), g.gI h.2.2.1.2.2 (by decide) (hE _ _ (by omega) (by omega))⟩, h.2.2.2⟩
/-- those that clash give way; then t comes to the others -/
theorem s_settle3 {fu : Nat} (hf : 100 ≤ fu) (k9 : Option Nat → Int32 → gm_S → gR) (k185 : Int32 → gM → gQ) (x1 : Int32) {rest : List Nat} {t : Nat} {V : Nat → Nat → Int32} : ∀ (q : Nat) (pre fs : List Nat) (M : gM) (S : gm_S) (n m : Nat), pre.length = q → q < n → q < m → RC A M0 C M S c1 c2 → S.2.1 c2 = (pre ++ fs).map (A 11) → mL M (pre ++ fs ++ t :: rest) V → (∀ u ∈ pre, kT A S V u) → kT A S V t → (pre ++ fs ++ t :: rest).length ≤ 16 →
    ∃ M' S', F_X4_choose_213 fu k185 n (nI (pre ++ fs).length) (nI pre.length + (-1)) M = k185 (nI ((pre.filter (kC V t) ++ fs ++ [t]).length)) M' ∧ F_X3_settle_123 fu k9 m (some (A 2 0)) x1 (some (A 11 t)) (nI pre.length + (-1)) S = k9 (some (A 2 0)) (x1 + 1) S' ∧ RC A M0 C M' S' c1 c2 ∧ S'.2.1 c2 = (pre.filter (kC V t) ++ fs ++ [t]).map (A 11) ∧ S'.2.1 c1 = S.2.1 c1 ∧ mL M' (pre.filter (kC V t) ++ fs ++ t :: rest) V ∧ mS M M' ∧ ag (fun F b => (F = 3 ∨ F = 4) ∧ b = c2) (fun b => b = c2) S S' := by
  intro q
  induction q with
  | zero =>
    intro pre fs M S n m hq hn hm h hu hL hk hkt hl
    obtain ⟨n, rfl⟩ : ∃ n', n = n' + 1 := ⟨n - 1, by omega⟩
    obtain ⟨m, rfl⟩ : ∃ m', m = m' + 1 := ⟨m - 1, by omega⟩
    have ep : pre = [] := List.length_eq_zero_iff.mp hq
    subst ep
    obtain ⟨k1, k2, k3, k4, k5, k6, k7, k8, k9'⟩ := h.c
    rw [List.length_append, List.length_append, List.length_cons] at hl
    obtain ⟨S', f1, f2, f3, f4, f5⟩ := h.add1 (c := c2) (t := t) (Or.inr rfl) hkt.1 (by rw [hu, List.length_map, List.length_append]; omega)
    refine ⟨M, S', ?_, ?_, f2, ?_, f4 c1 k7, hL, mS.refl, f5⟩
    · rw [F_X4_choose_213, if_pos (by decide), nI_1]
      congr 2
      simp
    · rw [F_X3_settle_123, if_pos (by decide), k2, y_b, f1, y_b]
    · rw [f3, hu, List.map_append (l₂ := [t])]
      rfl
  | succ q ih =>
    intro pre fs M S n m hq hn hm h hu hL hk hkt hl
    obtain ⟨n, rfl⟩ : ∃ n', n = n' + 1 := ⟨n - 1, by omega⟩
    obtain ⟨m, rfl⟩ : ∃ m', m = m' + 1 := ⟨m - 1, by omega⟩
    obtain ⟨p, u, rfl⟩ : ∃ p u, pre = p ++ [u] := ⟨pre.dropLast, pre.getLast (fun z => by rw [z] at hq; cases hq), (List.dropLast_concat_getLast _).symm⟩
    have hpl : p.length = q := by rw [List.length_append] at hq; simpa using hq
    have el : (p ++ [u]).length = p.length + 1 := by simp
    obtain ⟨k1, k2, k3, k4, k5, k6, k7, k8, k9'⟩ := h.c
    have ll : (p ++ [u] ++ fs ++ t :: rest).length = p.length + 1 + fs.length + (rest.length + 1) := by simp only [List.length_append, List.length_cons, List.length_nil]
    have l2 : (p ++ [u] ++ fs).length = p.length + 1 + fs.length := by simp only [List.length_append, List.length_cons, List.length_nil]
    have gu : (p ++ [u] ++ fs ++ t :: rest)[p.length]? = some u := by simp
    have gt : (p ++ [u] ++ fs ++ t :: rest)[(p ++ [u] ++ fs).length]? = some t := by rw [List.getElem?_append_right (Nat.le_refl _), Nat.sub_self]; rfl
    have ku := hk u (by simp)
    have hget : (S.2.1 c2)[p.length]? = some (A 11 u) := by rw [hu]; simp
    rw [el, pk_m1, F_X4_choose_213, if_neg (nI_pos (by omega)), y_aI (by omega) (by omega), y_b, y_aI (by omega) (by omega), y_b, hL.2 _ _ gu 59 (by omega) (by omega), hL.2 _ _ gt 59 (by omega) (by omega), F_X3_settle_123, if_neg (nI_pos (by omega)), k2, y_b, y_lget k4 (by omega) hget, y_b, y_q (h.tt ku.1), ku.2.2.1.2.2, y_b, hkt.2.2.1.2.2, y_b]
    by_cases h0 : (V 59 u &&& V 59 t) = 0
    · have e1 : (p ++ [u]).filter (kC V t) = p.filter (kC V t) ++ [u] := by
        rw [List.filter_append, List.filter_cons, if_pos (show kC V t u = true from decide_eq_true h0)]; rfl
      rw [if_pos h0, if_pos h0, e1]
      have := ih p (u :: fs) M S n m hpl (by omega) (by omega) h (by rw [hu]; simp) (by simpa using hL) (fun u' hu' => hk u' (by simp [hu'])) hkt (by simpa using hl)
      simpa using this
    · have e1 : (p ++ [u]).filter (kC V t) = p.filter (kC V t) := by
        rw [List.filter_append, List.filter_cons, if_neg (show ¬ kC V t u = true from fun z => h0 (of_decide_eq_true z))]; simp
      rw [if_neg h0, if_neg h0, e1, y_b, y_lrem k4 (by omega) hget, y_b]
      obtain ⟨M1, d1, d2, d3⟩ := m_drop hf (M := M) (a := p) (u := u) (b := fs ++ t :: rest) (V := V) (by simpa using hL) (by simp only [List.length_append, List.length_cons]; omega)
      have er : (S.2.1 c2).eraseIdx p.length = (p ++ fs).map (A 11) := by
        rw [hu, List.append_assoc, List.map_append, List.eraseIdx_append_of_length_le (by rw [List.length_map]; exact Nat.le_refl _), List.length_map, Nat.sub_self]
        simp
      rw [d1, y_cV, l2, er]
      have h1 : RC A M0 C M1 (gs_L S c2 ((p ++ fs).map (A 11))) c1 c2 := (h.mM (fun k i z => d3 k i (by omega))).lst (Or.inr rfl) _
      obtain ⟨M', S', w1, w2, w3, w4, w5, w6, w7, w8⟩ := ih p fs M1 (gs_L S c2 ((p ++ fs).map (A 11))) n m hpl (by omega) (by omega) h1 y_Le (by simpa using d2) (fun u' hu' => (hk u' (by simp [hu'])).of (ag.lst) (fun _ _ _ _ z => z)) (hkt.of (ag.lst) (fun _ _ _ _ z => z)) (by simp only [List.length_append, List.length_cons] at ll hl ⊢; omega)
      refine ⟨M', S', ?_, ?_, w3, w4, w5.trans (y_Ln k7), w6, d3.trans w7, ((ag.lst (S := S) (a := c2) (l := (p ++ fs).map (A 11))).trans w8).wk (fun F a z => z.elim (fun z => z.elim) id) (fun a z => z.elim id id)⟩
      · rw [← w1, show p.length + 1 + fs.length = (p ++ fs).length + 1 by rw [List.length_append]; omega, pk_m1]
      · exact w2
/-- the lists change places -/
theorem RC.swap {M : gM} {S : gm_S} (h : RC A M0 C M S c1 c2) : ∃ S1 S2, g_pR S (some (A 2 0)) 3 13 (some c1) = some S1 ∧ g_pR S1 (some (A 2 0)) 3 12 (some c2) = some S2 ∧ RC A M0 C M S2 c2 c1 ∧ ag (fun F a => (F = 313 ∨ F = 312) ∧ a = A 2 0) (fun _ => False) S S2 := by
  have ht := h.rt
  have ha : gs_t S (A 2 0) ≠ 0 := by rw [ht]; decide
  obtain ⟨k1, k2, k3, k4, k5, k6, k7, k8, k9'⟩ := h.c
  have ht1 : gs_t (gs_put S 313 (A 2 0) 0 (va_rf (some c1))) (A 2 0) = 3 := (y_pt (by decide)).trans ht
  have g := ((ag.put (S := S) (F := 313) (a := A 2 0) (i := 0) (v := va_rf (some c1)) (by decide)).trans (ag.put (F := 312) (a := A 2 0) (i := 0) (v := va_rf (some c2)) (by decide))).wk (E' := fun F a => (F = 313 ∨ F = 312) ∧ a = A 2 0) (L' := fun _ => False) (fun F a z => z.elim (fun z => ⟨Or.inl z.1, z.2⟩) (fun z => ⟨Or.inr z.1, z.2⟩)) (fun a z => z.elim id id)
  have hi := (h.inv.put (F := 313) (a := A 2 0) (i := 0) (v := va_rf (some c1)) (by decide) ha).put (F := 312) (a := A 2 0) (i := 0) (v := va_rf (some c2)) (by decide) (by rw [ht1]; decide)
  refine ⟨_, _, y_pR ht, y_pR ht1, h.upd g hi (fun F a z => ?_) (fun _ z => z.elim) h.mc (fun _ _ _ => rfl) (h.a.mono g (by simp) (fun _ _ _ => rfl)) (h.v.mono g (by simp) (fun _ => rfl)) (h.q.mono g (by simp) (fun _ _ _ => rfl)) (h.s.mono g (by simp) (fun z => z) (fun _ _ _ => rfl)) (h.t.mono g (by simp) (fun _ _ _ => rfl)) ⟨?_, ?_, (g.2.2 _ (by rw [k4]; decide)).trans k4, (g.2.2 _ (by rw [k3]; decide)).trans k3, k6, k5, Ne.symm k7, k9', k8⟩ (h.h.mono g (by simp) (fun _ _ _ => rfl)) ?_, g⟩
  · rcases z.1 with z | z <;> rw [z] <;> exact ⟨by decide, fun w => absurd w (by decide)⟩
  · rw [y_gR ((g.2.2 _ ha).trans ht), y_pE]; rfl
  · rw [y_gR ((g.2.2 _ ha).trans ht), y_pM (by simp), y_pE]; rfl
  · obtain ⟨b1, b2, b3, b4, b5, b6, b7⟩ := h.b
    have hc : ∀ b, g_cap (gs_put (gs_put S 313 (A 2 0) 0 (va_rf (some c1))) 312 (A 2 0) 0 (va_rf (some c2))) b = g_cap S b := fun b => by rw [y_cap (by decide), y_cap (by decide)]
    unfold rDb p_c p_k at *
    rw [hc, hc, hc]
    refine ⟨?_, ?_, b3, b4, b5, b7, b6⟩
    · show gs_c S + (8 - (S.2.1 (A 6 0)).length) + _ + _ + _ ≤ _
      omega
    · show gs_k S + 2 * (8 - (S.2.1 (A 6 0)).length) + _ + _ + _ ≤ _
      omega
/-- the whole of settle -/
theorem s_settle9 {fu : Nat} (hf : 100 ≤ fu) {ts : List Nat} {V : Nat → Nat → Int32} (hl : ts.length ≤ 16) : ∀ (d k : Nat) (us : List Nat) (M : gM) (S : gm_S) (n m : Nat), ts.length - k = d → k ≤ ts.length → d < n → d < m → RC A M0 C M S c1 c2 → S.2.1 c1 = ts.map (A 11) → S.2.1 c2 = us.map (A 11) → us.length ≤ k → (∀ u ∈ us, u ∈ ts) → (∀ t ∈ ts, kT A S V t) → mL M (us ++ ts.drop k) V →
    ∃ us' M' S', F_X4_choose_185 fu n (nI us.length) M = some (.returned none, M') ∧ F_X3_settle_9 fu m (some (A 2 0)) (nI k) S = some (.returned none, S') ∧ RC A M0 C M' S' c2 c1 ∧ rX A M' S' c2 us' V ∧ mS M M' := by
  intro d
  induction d with
  | zero =>
    intro k us M S n m hd hk hn hm h h1 h2 hul hus hkt hL
    obtain ⟨n, rfl⟩ : ∃ n', n = n' + 1 := ⟨n - 1, by omega⟩
    obtain ⟨m, rfl⟩ : ∃ m', m = m' + 1 := ⟨m - 1, by omega⟩
    have ek : k = ts.length := by omega
    rw [ek, List.drop_length, List.append_nil] at hL
    obtain ⟨k1, k2, k3, k4, k5, k6, k7, k8, k9'⟩ := h.c
    obtain ⟨S1, S2, q1, q2, q3, q4⟩ := h.swap
    refine ⟨us, M, S2, ?_, ?_, q3, ⟨(q4.2.1 c2 (by rw [k4]; decide) (fun z => z)).trans h2, by omega, fun t ht => ?_, hL⟩, mS.refl⟩
    · rw [F_X4_choose_185, hL.1, if_pos (Int32.le_refl _)]
    · rw [F_X3_settle_9, k1, y_b, y_lsz k3, y_b, h1, List.length_map, ek, if_pos (Int32.le_refl _), k2, y_b, y_b, q1, y_b, q2, y_b]
    · exact (hkt t (hus t ht)).of q4 (fun F a f1 f2 z => by have := z.1; omega)
  | succ d ih =>
    intro k us M S n m hd hk hn hm h h1 h2 hul hus hkt hL
    obtain ⟨n, rfl⟩ : ∃ n', n = n' + 1 := ⟨n - 1, by omega⟩
    obtain ⟨m, rfl⟩ : ∃ m', m = m' + 1 := ⟨m - 1, by omega⟩
    have hlt : k < ts.length := by omega
    have hdr : ts.drop k = ts[k] :: ts.drop (k + 1) := List.drop_eq_getElem_cons hlt
    obtain ⟨k1, k2, k3, k4, k5, k6, k7, k8, k9'⟩ := h.c
    have hget : (S.2.1 c1)[k]? = some (A 11 ts[k]) := by rw [h1, List.getElem?_map, List.getElem?_eq_getElem hlt]; rfl
    have ht := hkt ts[k] (List.getElem_mem hlt)
    rw [hdr] at hL
    have hll : (us ++ ts[k] :: ts.drop (k + 1)).length = us.length + (ts.length - (k + 1) + 1) := by rw [List.length_append, List.length_cons, List.length_drop]
    have hmem : ∀ u ∈ us ++ ts[k] :: ts.drop (k + 1), kT A S V u := by
      intro u hu
      rcases List.mem_append.mp hu with z | z
      · exact hkt u (hus u z)
      · rw [← hdr] at z
        exact hkt u (List.mem_of_mem_drop z)
    have hs := m_stays0 h fu hL hmem (by omega) us.length 0 fu (by omega) (by omega) (by omega)
    have hc := c_stays0 h fu (F_X3_settle_9 fu m) (nI k) h2 (fun u hu => hkt u (hus u hu)) ht (by omega) us.length 0 fu true (by omega) (by omega) (by omega)
    rw [List.drop_zero] at hs hc
    rw [F_X4_choose_185, hL.1, if_neg (nI_ge (by omega) (by omega))]
    unfold F_X4_stays
    rw [show F_X4_stays_2 fu fu (nI us.length) 0 M = _ from hs, y_cI, F_X3_settle_9, k1, y_b, y_lsz k3, y_b, h1, List.length_map, if_neg (nI_ge hlt (by omega)), y_b, y_lget k3 (by omega) hget, y_b, y_q (h.tt ht.1), show F_X3_settle_37 fu (F_X3_settle_9 fu m) fu (some (A 2 0)) (nI k) (some (A 11 ts[k])) 1 0 S = _ from hc, Bool.true_and]
    cases hb : us.all (kO A C V ts[k]) with
    | false =>
      rw [if_neg (show ¬ (false = true) by decide), if_pos rfl, if_neg (show ¬ (false = true) by decide)]
      obtain ⟨M1, d1, d2, d3⟩ := m_drop hf (M := M) hL (by omega)
      obtain ⟨us', M', S', w1, w2, w3, w4, w5⟩ := ih (k + 1) us M1 S n m (by omega) (by omega) (by omega) (by omega) (h.mM (fun k i z => d3 k i (by omega))) h1 h2 (by omega) hus hkt d2
      rw [d1, y_cV, nI_1]
      exact ⟨us', M', S', w1, w2, w3, w4, d3.trans w5⟩
    | true =>
      rw [if_pos rfl, if_neg (by decide), if_pos rfl, Int32.sub_eq_add_neg]
      obtain ⟨M1, S1, z1, z2, z3, z4, z5, z6, z7, z8⟩ := s_settle3 hf (F_X3_settle_9 fu m) (F_X4_choose_185 fu n) (nI k) (rest := ts.drop (k + 1)) (t := ts[k]) (V := V) us.length us [] M S fu fu rfl (by omega) (by omega) h (by rw [h2, List.append_nil]) (by rw [List.append_nil]; exact hL) (fun u hu => hkt u (hus u hu)) ht (by rw [List.append_nil]; exact (show (us ++ ts[k] :: ts.drop (k + 1)).length ≤ 16 by omega))
      simp only [List.append_nil] at z1 z2 z4 z6
      have hfl : (us.filter (kC V ts[k])).length ≤ us.length := List.length_filter_le _ _
      obtain ⟨us', M', S', w1, w2, w3, w4, w5⟩ := ih (k + 1) (us.filter (kC V ts[k]) ++ [ts[k]]) M1 S1 n m (by omega) (by omega) (by omega) (by omega) z3 (z5.trans h1) z4 (by rw [List.length_append]; show _ + 1 ≤ _; omega) (fun u hu => by
        rcases List.mem_append.mp hu with z | z
        · exact hus u (List.mem_filter.mp z |>.1)
        · rw [List.mem_singleton.mp z]; exact List.getElem_mem hlt) (fun t ht' => (hkt t ht').of z8 (fun F a f1 f2 z => by have := z.1; omega)) (by simpa using z6)
      refine ⟨us', M', S', ?_, ?_, w3, w4, z7.trans w5⟩
      · rw [show (-1 : Int32) = -1 from rfl] at z1
        rw [z1]
        exact w1
      · rw [z2, nI_1]
        exact w2
theorem s_choose {M : gM} {S : gm_S} (h : RC A M0 C M S c1 c2) {fu : Nat} (hf : 100 ≤ fu) (e : Int32) : ∃ l V M' S', F_X4_choose fu e M = some (.returned none, M') ∧ F_X3_choose fu (some (A 2 0)) e S = some (.returned none, S') ∧ RC A M0 C M' S' c2 c1 ∧ rX A M' S' c2 l V ∧ mS M M' := by
  have hn16 := h.n16
  obtain ⟨k1, k2, k3, k4, k5, k6, k7, k8, k9'⟩ := h.c
  obtain ⟨q1, q2⟩ := h.clr1 (c := c1) (Or.inl rfl)
  have p1 : RC A M0 C (n_p M 55 0) (gs_L S c1 []) c1 c2 := q2.mup (by omega)
  have hx : rX1 A (n_p M 55 0) (gs_L S c1 []) c1 [] := by
    refine ⟨y_Le, ?_, by decide, fun t z => (by cases z), fun j t z => (by cases z)⟩
    show gm_I (n_up M 55 0 (.int 0) 55 0) = _
    rw [y_us]; rfl
  obtain ⟨ts, M1, S1, z1, z2, z3, z4, z5, z6⟩ := s_ch1 hf e (A 9 0) 0 _ _ fu fu [] (by omega) (by omega) (by omega) (by omega) p1 hx (by decide) List.nodup_nil
  have ht16 := z4.2.2.1
  obtain ⟨V, M2, S2, w1, w2, w3, w4, w5⟩ := s_ch2 hf z5 ts.length 0 M1 S1 (fun _ _ => 0) fu fu (by omega) (by omega) (by omega) (by omega) z3 z4 (fun t z => by rw [List.take_zero] at z; cases z) (fun j t z => absurd z (by omega))
  obtain ⟨x1, x2, x3, x4⟩ := w4
  obtain ⟨j1, j2⟩ := w3.clr1 (c := c2) (Or.inr rfl)
  obtain ⟨l, M', S', v1, v2, v3, v4, v5⟩ := s_settle9 hf (V := V) ht16 ts.length 0 [] M2 (gs_L S2 c2 []) fu fu (by omega) (by omega) (by omega) (by omega) j2 ((y_Ln w3.c.2.2.2.2.2.2.1).trans x1) y_Le (by decide) (fun u z => by cases z) (fun t ht => (show kT A S2 V t from x3 t ht).of ag.lst (fun _ _ _ _ z => z)) (by rw [List.drop_zero]; exact x4)
  refine ⟨l, V, M', S', ?_, ?_, v3, v4, ?_⟩
  · unfold F_X4_choose
    rw [show n_pIO M 55 0 = some (n_p M 55 0) from rfl, y_b]
    rw [show F_X4_choose_7 fu fu e 0 (n_p M 55 0) = _ from z1, show F_X4_choose_164 fu fu 0 M1 = _ from w1]
    exact v1
  · unfold F_X3_choose
    rw [k1, y_b, q1, y_b, show F_X3_choose_9 fu fu (some (A 2 0)) e 0 (gs_L S c1 []) = _ from z2, show F_X3_choose_120 fu fu (some (A 2 0)) 0 S1 = _ from w2, y_q w3.rt]
    unfold F_X3_settle
    rw [w3.c.2.1, y_b, j1, y_b, show F_X3_settle_9 fu fu (some (A 2 0)) 0 (gs_L S2 c2 []) = _ from v2, y_cV]
  · exact (mS.trans (mS.trans (fun k i z => y_uk (by omega)) z6) w5).trans v5
end RCL
