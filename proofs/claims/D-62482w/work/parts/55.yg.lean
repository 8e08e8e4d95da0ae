/-! LAYER 2: choosing, the second phase; and which of the chosen stay -/
set_option maxRecDepth 100000
section RCK
variable {A : gA} {M0 C : gM} {c1 c2 : Nat}
theorem Mc_ag {M M' C : gM} (h : Mc M = C) (hM : ∀ k i, k = 7 ∨ (9 ≤ k ∧ k ≤ 37) → M' k i = M k i) : Mc M' = C := by
  rw [← h]
  funext k i
  unfold Mc
  by_cases z : k = 7 ∨ (9 ≤ k ∧ k ≤ 37)
  · rw [if_pos z, if_pos z, hM k i z]
  · rw [if_neg z, if_neg z]
theorem RC.mM {M M' : gM} {S : gm_S} (h : RC A M0 C M S c1 c2) (hM : ∀ k i, ¬ (k = 0 ∨ k = 52 ∨ (55 ≤ k ∧ k ≤ 61)) → M' k i = M k i) : RC A M0 C M' S c1 c2 := by
  have g : ag (fun _ _ => False) (fun _ => False) S S := ⟨fun _ _ _ _ _ => rfl, fun _ _ _ => rfl, fun _ _ => rfl⟩
  exact h.upd g h.inv (fun _ _ z => z.elim) (fun _ z => z.elim) (Mc_ag h.mc (fun k i z => hM k i (by omega))) (fun k' i' z => hM k' i' (by omega)) (h.a.mono g (by simp) (fun k' i' z => hM k' i' (by omega))) (h.v.mono g (by simp) (fun i' => hM _ i' (by omega))) (h.q.mono g (by simp) (fun k' i' z => hM k' i' (by omega)))
    (h.s.mono g (by simp) (by simp) (fun k' i' z => hM k' i' (by omega))) (h.t.mono g (by simp) (fun k' i' z => hM k' i' (by omega))) h.c (h.h.mono g (by simp) (fun k' i' z => hM k' i' (by omega))) h.b
theorem RC.lst {M : gM} {S : gm_S} (h : RC A M0 C M S c1 c2) {c : Nat} (hc : c = c1 ∨ c = c2) (l : List Nat) : RC A M0 C M (gs_L S c l) c1 c2 := by
  obtain ⟨k1, k2, k3, k4, k5, k6, k7, k8, k9⟩ := h.c
  have hB : c < A 7 0 := by rcases hc with rfl | rfl <;> assumption
  have hs : c ≠ A 6 0 := by rcases hc with rfl | rfl <;> assumption
  have g := ag.lst (S := S) (a := c) (l := l)
  exact h.upd g h.inv.lst (fun _ _ z => z.elim) (fun a z => by rw [z]; exact hB) h.mc (fun _ _ _ => rfl) (h.a.mono g (by simp) (fun _ _ _ => rfl)) (h.v.mono g (by simp) (fun _ => rfl)) (h.q.mono g (by simp) (fun _ _ _ => rfl)) (h.s.mono g (by simp) (Ne.symm hs) (fun _ _ _ => rfl)) (h.t.mono g (by simp) (fun _ _ _ => rfl)) (h.c.mono g (by simp)) (h.h.mono g (by simp) (fun _ _ _ => rfl)) (h.b.same rfl rfl (by rw [y_Ln (Ne.symm hs)]) (fun _ => rfl))
/-- the model's table of the chosen -/
def mL (M : gM) (l : List Nat) (V : Nat → Nat → Int32) : Prop := n_I M 55 0 = nI l.length ∧ ∀ j t, l[j]? = some t → ∀ K, 56 ≤ K → K ≤ 59 → n_I M K j = V K t
theorem nI_sub1 (n : Nat) : nI (n + 1) - 1 = nI n := by
  have := pk_sub (a := n + 1) (b := 1) (by omega)
  rw [Nat.add_sub_cancel] at this
  exact this
theorem m_drop12 (fu : Nat) {l : List Nat} {V : Nat → Nat → Int32} (hl : l.length ≤ 22) : ∀ (d x : Nat) (M : gM) (n : Nat), l.length - x = d → x ≤ l.length → d < n → n_I M 55 0 = nI l.length → (∀ j t, l[j]? = some t → ∀ K, 56 ≤ K → K ≤ 59 → (j < x → n_I M K j = V K t) ∧ (x ≤ j → n_I M K (j + 1) = V K t)) → ∃ M', F_X4_drop_12 fu n (nI x) M = some (.returned none, M') ∧ mL M' l V ∧ mS M M' := by
  intro d
  induction d with
  | zero =>
    intro x M n hd hx hn h55 hv
    obtain ⟨n, rfl⟩ : ∃ n', n = n' + 1 := ⟨n - 1, by omega⟩
    have e : x = l.length := by omega
    refine ⟨M, ?_, ⟨h55, fun j t hj K k1 k2 => (hv j t hj K k1 k2).1 ?_⟩, fun _ _ _ => rfl⟩
    · rw [F_X4_drop_12, h55, e, if_pos (Int32.le_refl _)]
    · have := (List.getElem?_eq_some_iff.mp hj).1
      omega
  | succ d ih =>
    intro x M n hd hx hn h55 hv
    obtain ⟨n, rfl⟩ : ∃ n', n = n' + 1 := ⟨n - 1, by omega⟩
    have hlt : x < l.length := by omega
    rw [F_X4_drop_12, h55, if_neg (nI_ge hlt (by omega)), nI_1, y_aI (by omega) (by omega), y_b, y_sI (by omega) (by omega), y_b, y_aI (by omega) (by omega), y_b, y_sI (by omega) (by omega), y_b, y_aI (by omega) (by omega), y_b, y_sI (by omega) (by omega), y_b, y_aI (by omega) (by omega), y_b, y_sI (by omega) (by omega), y_b]
    obtain ⟨N, hN⟩ : ∃ N, N = n_up (n_up (n_up (n_up M 56 x (.int (n_I M 56 (x + 1)))) 57 x (.int (n_I M 57 (x + 1)))) 58 x (.int (n_I M 58 (x + 1)))) 59 x (.int (n_I M 59 (x + 1))) := ⟨_, rfl⟩
    have r1 : n_I (n_up M 56 x (.int (n_I M 56 (x + 1)))) 57 (x + 1) = n_I M 57 (x + 1) := by unfold n_I; rw [y_uk (by decide)]
    rw [r1]
    have r2 : n_I (n_up (n_up M 56 x (.int (n_I M 56 (x + 1)))) 57 x (.int (n_I M 57 (x + 1)))) 58 (x + 1) = n_I M 58 (x + 1) := by unfold n_I; rw [y_uk (by decide), y_uk (by decide)]
    rw [r2]
    have r3 : n_I (n_up (n_up (n_up M 56 x (.int (n_I M 56 (x + 1)))) 57 x (.int (n_I M 57 (x + 1)))) 58 x (.int (n_I M 58 (x + 1)))) 59 (x + 1) = n_I M 59 (x + 1) := by unfold n_I; rw [y_uk (by decide), y_uk (by decide), y_uk (by decide)]
    rw [r3, ← hN]
    have hNo : ∀ k i, ¬ (56 ≤ k ∧ k ≤ 59) → N k i = M k i := fun k i z => by rw [hN, y_uk (by omega), y_uk (by omega), y_uk (by omega), y_uk (by omega)]
    have hNj : ∀ K j, j ≠ x → n_I N K j = n_I M K j := fun K j z => by unfold n_I; rw [hN, y_ui z, y_ui z, y_ui z, y_ui z]
    have hNx : ∀ K, 56 ≤ K → K ≤ 59 → n_I N K x = n_I M K (x + 1) := by
      intro K k1 k2
      have : K = 56 ∨ K = 57 ∨ K = 58 ∨ K = 59 := by omega
      rcases this with e | e | e | e
      · rw [e]; show gm_I (N 56 x) = _; rw [hN, y_uk (by decide), y_uk (by decide), y_uk (by decide), y_us]; rfl
      · rw [e]; show gm_I (N 57 x) = _; rw [hN, y_uk (by decide), y_uk (by decide), y_us]; rfl
      · rw [e]; show gm_I (N 58 x) = _; rw [hN, y_uk (by decide), y_us]; rfl
      · rw [e]; show gm_I (N 59 x) = _; rw [hN, y_us]; rfl
    have h55N : n_I N 55 0 = nI l.length := by unfold n_I; rw [hNo _ _ (by omega)]; exact h55
    have hv' : ∀ j t, l[j]? = some t → ∀ K, 56 ≤ K → K ≤ 59 → (j < x + 1 → n_I N K j = V K t) ∧ (x + 1 ≤ j → n_I N K (j + 1) = V K t) := by
      intro j t hj K k1 k2
      constructor
      · intro z
        by_cases e : j = x
        · subst e
          rw [hNx K k1 k2]
          exact (hv j t hj K k1 k2).2 (Nat.le_refl _)
        · rw [hNj K j e]
          exact (hv j t hj K k1 k2).1 (by omega)
      · intro z
        rw [hNj K (j + 1) (by omega)]
        exact (hv j t hj K k1 k2).2 (by omega)
    obtain ⟨M', w1, w2, w3⟩ := ih (x + 1) N n (by omega) (by omega) (by omega) h55N hv'
    exact ⟨M', w1, w2, fun k i z => (w3 k i z).trans (hNo k i (by omega))⟩
theorem m_drop {fu : Nat} (hf : 100 ≤ fu) {M : gM} {a b : List Nat} {u : Nat} {V : Nat → Nat → Int32} (h : mL M (a ++ u :: b) V) (hl : (a ++ u :: b).length ≤ 22) : ∃ M', F_X4_drop fu (nI a.length) M = some (.returned none, M') ∧ mL M' (a ++ b) V ∧ mS M M' := by
  obtain ⟨h1, h2⟩ := h
  have el : (a ++ u :: b).length = (a ++ b).length + 1 := by simp only [List.length_append, List.length_cons]; omega
  have e55 : n_I M 55 0 - 1 = nI (a ++ b).length := by rw [h1, el, nI_sub1]
  unfold F_X4_drop
  rw [show n_pIO M 55 (n_I M 55 0 - 1) = some (n_p M 55 (n_I M 55 0 - 1)) from rfl, y_b, e55]
  have hN : ∀ k i, k ≠ 55 → n_p M 55 (nI (a ++ b).length) k i = M k i := fun k i z => y_uk z
  have h55 : n_I (n_p M 55 (nI (a ++ b).length)) 55 0 = nI (a ++ b).length := by
    show gm_I (n_up M 55 0 _ 55 0) = _
    rw [y_us]; rfl
  have hla : (a ++ b).length = a.length + b.length := List.length_append
  have hv : ∀ j t, (a ++ b)[j]? = some t → ∀ K, 56 ≤ K → K ≤ 59 → (j < a.length → n_I (n_p M 55 (nI (a ++ b).length)) K j = V K t) ∧ (a.length ≤ j → n_I (n_p M 55 (nI (a ++ b).length)) K (j + 1) = V K t) := by
    intro j t hj K k1 k2
    have r : ∀ j', n_I (n_p M 55 (nI (a ++ b).length)) K j' = n_I M K j' := fun j' => by unfold n_I; rw [hN _ _ (by omega)]
    rw [r, r]
    refine ⟨fun z => h2 j t ?_ K k1 k2, fun z => h2 (j + 1) t ?_ K k1 k2⟩
    · rw [List.getElem?_append_left z] at hj ⊢
      exact hj
    · rw [List.getElem?_append_right z] at hj
      rw [List.getElem?_append_right (by omega), show j + 1 - a.length = (j - a.length) + 1 by omega, List.getElem?_cons_succ]
      exact hj
  obtain ⟨M', w1, w2, w3⟩ := m_drop12 fu (l := a ++ b) (V := V) (by omega) ((a ++ b).length - a.length) a.length (n_p M 55 (nI (a ++ b).length)) fu rfl (by omega) (by omega) h55 hv
  exact ⟨M', w1, w2, fun k i z => (w3 k i z).trans (hN k i (by omega))⟩
/-- the chosen ones with their aims -/
def rX (A : gA) (M : gM) (S : gm_S) (c1 : Nat) (l : List Nat) (V : Nat → Nat → Int32) : Prop := S.2.1 c1 = l.map (A 11) ∧ l.length ≤ 16 ∧ (∀ t ∈ l, t < A 9 1 ∧ V 56 t = nI (24 * A 9 5 + t) ∧ tG A S t (V 57 t) (V 58 t) (V 59 t) ∧ ∃ q, q ≤ A 9 0 ∧ V 58 t = e_i q) ∧ mL M l V
theorem tS.tG {t t' : Nat} {S S' : gm_S} {g d e : Int32} (h : tS A t S S') (hne : A 11 t' ≠ A 11 t) (h' : tG A S t' g d e) : tG A S' t' g d e :=
  ⟨ag.gI h h'.1 (by decide) (fun z => hne z.2), ag.gI h h'.2.1 (by decide) (fun z => hne z.2), ag.gI h h'.2.2 (by decide) (fun z => hne z.2)⟩
/-- the second loop of choose -/
theorem s_ch2 {fu : Nat} (hf : 100 ≤ fu) {ts : List Nat} (hnd : ts.Nodup) : ∀ (d i : Nat) (M : gM) (S : gm_S) (V : Nat → Nat → Int32) (n m : Nat), ts.length - i = d → i ≤ ts.length → d < n → d < m → RC A M0 C M S c1 c2 → rX1 A M S c1 ts →
    (∀ t ∈ ts.take i, V 56 t = nI (24 * A 9 5 + t) ∧ tG A S t (V 57 t) (V 58 t) (V 59 t) ∧ ∃ q, q ≤ A 9 0 ∧ V 58 t = e_i q) → (∀ j t, j < i → ts[j]? = some t → ∀ K, 56 ≤ K → K ≤ 59 → n_I M K j = V K t) →
    ∃ V' M' S', F_X4_choose_164 fu n (nI i) M = F_X4_choose_185 fu fu 0 M' ∧ F_X3_choose_120 fu m (some (A 2 0)) (nI i) S = gz_q (g_at S' (some (A 2 0)) 3) (gz_cV (F_X3_settle fu (some (A 2 0)) S') fun S3 => some (.returned none, S3)) ∧ RC A M0 C M' S' c1 c2 ∧ rX A M' S' c1 ts V' ∧ mS M M' := by
  intro d
  induction d with
  | zero =>
    intro i M S V n m hd hi hn hm h hx hv hk
    obtain ⟨n, rfl⟩ : ∃ n', n = n' + 1 := ⟨n - 1, by omega⟩
    obtain ⟨m, rfl⟩ : ∃ m', m = m' + 1 := ⟨m - 1, by omega⟩
    obtain ⟨x1, x2, x3, x4, x5⟩ := hx
    have ei : i = ts.length := by omega
    refine ⟨V, M, S, ?_, ?_, h, ⟨x1, x3, fun t ht => ⟨x4 t ht, hv t (by rw [ei, List.take_length]; exact ht)⟩, x2, fun j t hj K k1 k2 => hk j t ?_ hj K k1 k2⟩, fun _ _ _ => rfl⟩
    · rw [F_X4_choose_164, x2, ei, if_pos (Int32.le_refl _)]
    · rw [F_X3_choose_120, h.c.1, y_b, y_lsz h.c.2.2.1, y_b, x1, List.length_map, ei, if_pos (Int32.le_refl _)]
    · have := (List.getElem?_eq_some_iff.mp hj).1
      omega
  | succ d ih =>
    intro i M S V n m hd hi hn hm h hx hv hk
    obtain ⟨n, rfl⟩ : ∃ n', n = n' + 1 := ⟨n - 1, by omega⟩
    obtain ⟨m, rfl⟩ : ∃ m', m = m' + 1 := ⟨m - 1, by omega⟩
    have hx' := hx
    obtain ⟨x1, x2, x3, x4, x5⟩ := hx
    have hlt : i < ts.length := by omega
    have hgt : ts[i]? = some ts[i] := List.getElem?_eq_getElem hlt
    have ht := x4 ts[i] (List.getElem_mem hlt)
    have hget : (S.2.1 c1)[i]? = some (A 11 ts[i]) := by rw [x1, List.getElem?_map, hgt]; rfl
    obtain ⟨g, dd, e, S', z1, z2, z3, z4, z5, z6⟩ := s_aim h hf (j := i) (by omega) ht (x5 i _ hgt)
    obtain ⟨N, hN⟩ : ∃ N, N = n_up (n_up (n_up M 57 i (.int g)) 58 i (.int dd)) 59 i (.int e) := ⟨_, rfl⟩
    rw [← hN] at z1
    have hNo : ∀ k i', ¬ (57 ≤ k ∧ k ≤ 59) → N k i' = M k i' := fun k i' z => by rw [hN, y_uk (by omega), y_uk (by omega), y_uk (by omega)]
    have hNj : ∀ K j, j ≠ i → n_I N K j = n_I M K j := fun K j z => by unfold n_I; rw [hN, y_ui z, y_ui z, y_ui z]
    have hne : ∀ t' ∈ ts.take i, t' ≠ ts[i] := by
      intro t' ht' e'
      obtain ⟨j, hj, rfl⟩ := List.mem_iff_getElem.mp ht'
      rw [List.length_take] at hj
      rw [List.getElem_take] at e'
      exact List.pairwise_iff_getElem.mp hnd j i _ hlt (by omega) e'
    have hsl : S'.2.1 c1 = S.2.1 c1 := z5.2.1 c1 (by rw [h.c.2.2.1]; decide) (fun z => z)
    let V' : Nat → Nat → Int32 := fun K t => if t = ts[i] then (if K = 56 then nI (24 * A 9 5 + t) else if K = 57 then g else if K = 58 then dd else e) else V K t
    have v'1 : ∀ K, V' K ts[i] = (if K = 56 then nI (24 * A 9 5 + ts[i]) else if K = 57 then g else if K = 58 then dd else e) := fun K => if_pos rfl
    have v'2 : ∀ K t, t ≠ ts[i] → V' K t = V K t := fun K t z => if_neg z
    have zN : RC A M0 C N S' c1 c2 := z3.mM (fun k i' z => hNo k i' (by omega))
    have xN : rX1 A N S' c1 ts := by
      refine ⟨hsl.trans x1, ?_, x3, x4, fun j t hj => ?_⟩
      · unfold n_I; rw [hNo _ _ (by omega)]; exact x2
      · unfold n_I; rw [hNo _ _ (by omega)]; exact x5 j t hj
    have hA : ∀ t ∈ ts.take (i + 1), V' 56 t = nI (24 * A 9 5 + t) ∧ tG A S' t (V' 57 t) (V' 58 t) (V' 59 t) ∧ ∃ q, q ≤ A 9 0 ∧ V' 58 t = e_i q := by
      intro t htt
      rw [List.take_succ_eq_append_getElem hlt] at htt
      rcases List.mem_append.mp htt with q | q
      · have hn' := hne t q
        rw [v'2 _ _ hn', v'2 _ _ hn', v'2 _ _ hn', v'2 _ _ hn']
        obtain ⟨q1, q2, q3⟩ := hv t q
        exact ⟨q1, tS.tG z5 (fun z => hn' (h.H.2.2.2.2.2.2 _ _ (x4 t (List.mem_of_mem_take q)) ht z)) q2, q3⟩
      · rw [List.mem_singleton.mp q, v'1, v'1, v'1, v'1]
        exact ⟨rfl, z4, z6⟩
    have hB : ∀ j t, j < i + 1 → ts[j]? = some t → ∀ K, 56 ≤ K → K ≤ 59 → n_I N K j = V' K t := by
      intro j t hj hjt K k1 k2
      by_cases ej : j = i
      · subst ej
        rw [hgt] at hjt
        cases hjt
        rw [v'1]
        have : K = 56 ∨ K = 57 ∨ K = 58 ∨ K = 59 := by omega
        rcases this with e' | e' | e' | e'
        · rw [e']; show gm_I (N 56 j) = nI _; rw [hNo _ _ (by omega)]; exact x5 j _ hgt
        · rw [e']; show gm_I (N 57 j) = _; rw [hN, y_uk (by decide), y_uk (by decide), y_us]; rfl
        · rw [e']; show gm_I (N 58 j) = _; rw [hN, y_uk (by decide), y_us]; rfl
        · rw [e']; show gm_I (N 59 j) = _; rw [hN, y_us]; rfl
      · rw [hNj K j ej]
        have hji : j < i := by omega
        have hmem : t ∈ ts.take i := by
          rw [List.mem_iff_getElem?]
          exact ⟨j, by rw [List.getElem?_take_of_lt hji]; exact hjt⟩
        rw [v'2 _ _ (hne t hmem)]
        exact hk j t hji hjt K k1 k2
    obtain ⟨V2, M', S2, w1, w2, w3, w4, w5⟩ := ih (i + 1) N S' V' n m (by omega) (by omega) (by omega) (by omega) zN xN hA hB
    refine ⟨V2, M', S2, ?_, ?_, w3, w4, fun k i' z => (w5 k i' z).trans (hNo k i' (by omega))⟩
    · rw [F_X4_choose_164, x2, if_neg (nI_ge hlt (by omega)), z1, y_cV, nI_1, w1]
    · rw [F_X3_choose_120, h.c.1, y_b, y_lsz h.c.2.2.1, y_b, x1, List.length_map, if_neg (nI_ge hlt (by omega)), y_b, y_lget h.c.2.2.1 (by omega) hget, y_b, y_q (h.tt ht), y_q h.rt, z2, y_cV, nI_1, w2]
end RCK
