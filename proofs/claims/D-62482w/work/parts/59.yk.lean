/-! LAYER 2: ways down and up; what is entered -/
set_option maxRecDepth 100000
section RCO
variable {A : gA} {M0 C : gM} {c1 c2 : Nat}
def mD (M M' : gM) : Prop := ∀ k i, ¬ (k = 60 ∨ k = 61) → M' k i = M k i
theorem mD.refl {M : gM} : mD M M := fun _ _ _ => rfl
theorem mD.trans {M M' M'' : gM} (h : mD M M') (h' : mD M' M'') : mD M M'' := fun k i z => (h' k i z).trans (h k i z)
theorem mD.c {M M' : gM} (h : mD M M') (hc : Mc M = C) : Mc M' = C := Mc_ag hc (fun k i z => h k i (by omega))
theorem RC.mD {M M' : gM} {S : gm_S} (h : RC A M0 C M S c1 c2) (g : mD M M') : RC A M0 C M' S c1 c2 := h.mM (fun k i z => g k i (by omega))
theorem m_down (hW : cW A C) {fu : Nat} (hf : 7000000000 ≤ fu) {M : gM} (hc : Mc M = C) {s : Nat} (hs : s < A 9 0) : ∃ M', F_X4_down fu (nI s) M = some (.returned none, M') ∧ n_I M' 60 0 = dn A C 8 s (n_I M 60 0) ∧ mD M M' := by
  obtain ⟨N, hN⟩ : ∃ N, N = n_up M 61 0 (.int (nI s)) := ⟨_, rfl⟩
  have hsk : sk N ([] ++ [s]) := by rw [hN]; exact (show sk M [] from fun j t z => by cases z).push
  have hx : n_I N 60 0 = n_I M 60 0 := by unfold n_I; rw [hN, y_uk (by decide)]
  obtain ⟨c, M', z1, z2, z3, z4, z5⟩ := m_dn hW (fu := fu) (by omega) 8 s hs (by omega) [] N _ (by rw [hN]; exact Mc_up hc (by omega)) hx hsk (List.pairwise_singleton _ _)
  have hc8 : c ≤ 6975757441 := z1
  obtain ⟨f, hfe⟩ : ∃ f, fu = (f + 1) + c := ⟨fu - c - 1, by omega⟩
  refine ⟨M', ?_, z3, fun k i z => (z4 k i z).trans (by rw [hN]; exact y_uk (by omega))⟩
  unfold F_X4_down
  rw [show n_sI M 61 20 0 (nI s) = some (n_up M 61 0 (.int (nI s))) from y_sI (i := 0) (by omega) (by omega), y_b, ← hN]
  have e := z2 (f + 1)
  rw [← hfe] at e
  rw [show F_X4_down_9 fu fu 1 N = _ from e, F_X4_down_9, if_pos (by decide)]
/-- the children from a place on -/
def l_cf (A : gA) (s i : Nat) : List Nat := (List.range' i (A 9 0 - i)).filter (fun j => A 24 j == s + 1)
theorem l_cf1 {s i : Nat} (h : i < A 9 0) : l_cf A s i = if A 24 i = s + 1 then i :: l_cf A s (i + 1) else l_cf A s (i + 1) := by
  unfold l_cf
  have e : A 9 0 - i = (A 9 0 - (i + 1)) + 1 := by omega
  rw [e, List.range'_succ, List.filter_cons]
  by_cases z : A 24 i = s + 1
  · rw [if_pos z, if_pos (by simp [z])]
  · rw [if_neg z, if_neg (by simp [z])]
theorem l_cfe {s i : Nat} (h : A 9 0 ≤ i) : l_cf A s i = [] := by
  unfold l_cf
  rw [show A 9 0 - i = 0 by omega]
  rfl
theorem l_cf0 (hW : cW A C) {s : Nat} : ∀ i, i ≤ s + 1 → i ≤ A 9 0 → l_cf A s i = l_ch A s := by
  intro i
  induction i with
  | zero =>
    intro _ _
    unfold l_cf l_ch
    rw [List.range_eq_range', Nat.sub_zero]
  | succ i ih =>
    intro h1 h2
    rw [← ih (by omega) (by omega), l_cf1 (i := i) (by omega), if_neg (fun e => by have := ch_up hW (s := s) (c := i) (by omega) e; omega)]
/-- upwards: the model's children -/
theorem m_up44 (hW : cW A C) {fu : Nat} (hf : 7000000000 ≤ fu) (k6 : Int32 → Int32 → gM → gQ) (x2 : Int32) {s : Nat} (hs : s < A 9 0) : ∀ (d i : Nat) (M : gM) (n : Nat), A 9 0 - i = d → i ≤ A 9 0 → d < n → Mc M = C → ∃ M', F_X4_up_44 fu k6 n x2 (nI s) (nI i) M = k6 x2 (e_i (A 24 s)) M' ∧ n_I M' 60 0 = (l_cf A s i).foldl (gn A C 8) (n_I M 60 0) ∧ mD M M' := by
  have hn16 : A 9 0 ≤ 16 := hW.1.2.2.2.1
  intro d
  induction d with
  | zero =>
    intro i M n hd hi hn hc
    obtain ⟨n, rfl⟩ : ∃ n', n = n' + 1 := ⟨n - 1, by omega⟩
    refine ⟨M, ?_, by rw [l_cfe (by omega)]; rfl, mD.refl⟩
    rw [F_X4_up_44, q_n hW hc, y_b, show i = A 9 0 by omega, if_pos (Int32.le_refl _)]
    unfold F_X4_up_99
    rw [q_out hW hc fu hs, y_cI, c_oute]
  | succ d ih =>
    intro i M n hd hi hn hc
    obtain ⟨n, rfl⟩ : ∃ n', n = n' + 1 := ⟨n - 1, by omega⟩
    have hlt : i < A 9 0 := by omega
    rw [F_X4_up_44, q_n hW hc, y_b, if_neg (nI_ge hlt (by omega)), q_out hW hc fu hlt, y_cI, nI_1, l_cf1 hlt]
    by_cases h1 : c_out A i = nI s
    · rw [if_pos h1, if_pos ((c_out_eq hW hlt hs).mp h1), q_bel hW hc fu hlt, y_cI, List.foldl_cons]
      by_cases h0 : (n_I M 60 0 &&& (c_bel A C i ||| v_bit i)) = 0
      · obtain ⟨M1, z1, z2, z3⟩ := m_down hW hf hc hlt
        obtain ⟨M', w1, w2, w3⟩ := ih (i + 1) M1 n (by omega) (by omega) (by omega) (z3.c hc)
        refine ⟨M', ?_, ?_, z3.trans w3⟩
        · rw [if_pos h0, z1, y_cV, w1]
        · rw [w2, z2, show gn A C 8 (n_I M 60 0) i = dn A C 8 i (n_I M 60 0) from if_pos h0]
      · obtain ⟨M', w1, w2, w3⟩ := ih (i + 1) M n (by omega) (by omega) (by omega) hc
        refine ⟨M', ?_, ?_, w3⟩
        · rw [if_neg h0, w1]
        · rw [w2, show gn A C 8 (n_I M 60 0) i = n_I M 60 0 from if_neg h0]
    · obtain ⟨M', w1, w2, w3⟩ := ih (i + 1) M n (by omega) (by omega) (by omega) hc
      refine ⟨M', ?_, ?_, w3⟩
      · rw [if_neg h1, w1]
      · rw [w2, if_neg (fun z => h1 ((c_out_eq hW hlt hs).mpr z))]
theorem c_up42 {M : gM} {S : gm_S} (h : RC A M0 C M S c1 c2) {fu : Nat} (hf : 100 ≤ fu) (k8 : Option Nat → Int32 → Option Nat → gm_S → gR) (x1 : Option Nat) {s : Nat} (hs : s < A 9 0) : ∀ (d j m : Nat) (x : Int32), (l_ch A s).length - j = d → j ≤ (l_ch A s).length → d < m →
    F_X1_up_42 fu k8 m x1 x (some (A 10 s)) (nI j) S = k8 x1 (((l_ch A s).drop j).foldl (gn A C 8) x) (e_r A (A 24 s)) S := by
  obtain ⟨e1, e2, e3, e4⟩ := h.ch hs
  have hn := h.n16
  intro d
  induction d with
  | zero =>
    intro j m x hd hj hm
    obtain ⟨m, rfl⟩ : ∃ m', m = m' + 1 := ⟨m - 1, by omega⟩
    have e : j = (l_ch A s).length := by omega
    rw [F_X1_up_42, e1, y_b, e2, y_b, e, if_pos (Int32.le_refl _), List.drop_length, h.out hs, y_b]
    rfl
  | succ d ih =>
    intro j m x hd hj hm
    obtain ⟨m, rfl⟩ : ∃ m', m = m' + 1 := ⟨m - 1, by omega⟩
    have hlt : j < (l_ch A s).length := by omega
    obtain ⟨k, hk⟩ : ∃ k, (l_ch A s)[j]? = some k := ⟨_, List.getElem?_eq_getElem hlt⟩
    have hk' : (l_ch A s)[j] = k := by rw [List.getElem?_eq_getElem hlt] at hk; exact Option.some.inj hk
    obtain ⟨f1, f2⟩ := mem_ch.mp (List.mem_of_getElem? hk)
    rw [F_X1_up_42, e1, y_b, e2, y_b, if_neg (nI_ge hlt (by omega)), y_b, e4 j k hk, y_b, y_q (h.st f1), (h.H.2.1 k f1).2.2.2.2.2.2.2, y_b, y_q (h.st f1), s_bit h fu f1, y_cI, nI_1, List.drop_eq_getElem_cons hlt, List.foldl_cons, hk']
    by_cases h0 : (x &&& c_sub A C k) = 0
    · rw [if_pos h0, c_dn h hf 8 k x f1 (by omega), y_cI, show gn A C 8 x k = dn A C 8 k x from if_pos h0]
      exact ih (j + 1) m _ (by omega) (by omega) (by omega)
    · rw [if_neg h0, show gn A C 8 x k = x from if_neg h0]
      exact ih (j + 1) m _ (by omega) (by omega) (by omega)
theorem e_r_inj {M : gM} {S : gm_S} (h : RC A M0 C M S c1 c2) {p q : Nat} (hp : p ≤ A 9 0) (hq : q ≤ A 9 0) (e : e_r A p = e_r A q) : p = q := by
  cases p with
  | zero =>
    cases q with
    | zero => rfl
    | succ q => cases e
  | succ p =>
    cases q with
    | zero => cases e
    | succ q =>
      have := h.inj (i := p) (j := q) (by omega) (by omega) (Option.some.inj e)
      omega
theorem e_i_inj {p q n : Nat} (hp : p ≤ n) (hq : q ≤ n) (hn : n ≤ 16) (e : e_i p = e_i q) : p = q := by
  cases p with
  | zero =>
    cases q with
    | zero => rfl
    | succ q => exact absurd (show (-1 : Int32) < 0 by decide) (by rw [show (-1 : Int32) = nI q from e]; exact nI_pos (by omega))
  | succ p =>
    cases q with
    | zero => exact absurd (show (-1 : Int32) < 0 by decide) (by rw [show (-1 : Int32) = nI p from e.symm]; exact nI_pos (by omega))
    | succ q =>
      have := (nI_eq (a := p) (b := q) (by omega) (by omega)).mp e
      omega
theorem s_up0 {fu : Nat} (hf : 7000000000 ≤ fu) {S : gm_S} {q : Nat} (hq : q ≤ A 9 0) : ∀ (p n m : Nat) (M : gM), p ≤ A 9 0 → p < n → p < m → RC A M0 C M S c1 c2 → ∃ M' y, F_X4_up_6 fu n (e_i q) (e_i p) M = some (.returned none, M') ∧ F_X1_up_8 fu m (e_r A q) (n_I M 60 0) (e_r A p) S = some (.returned (some (.int y)), S) ∧ n_I M' 60 0 = y ∧ mD M M' := by
  intro p
  induction p using Nat.strongRecOn with
  | _ p ih =>
    intro n m M hp hn hm h
    obtain ⟨n, rfl⟩ : ∃ n', n = n' + 1 := ⟨n - 1, by omega⟩
    obtain ⟨m, rfl⟩ : ∃ m', m = m' + 1 := ⟨m - 1, by omega⟩
    have hn16 := h.n16
    cases p with
    | zero =>
      refine ⟨M, n_I M 60 0, ?_, ?_, rfl, mD.refl⟩
      · rw [F_X4_up_6, e_i0, if_pos (by decide)]
      · rw [F_X1_up_8, e_r0]
        by_cases z : none = e_r A q
        · rw [if_pos z]
        · rw [if_neg z, if_pos rfl]
    | succ s =>
      have hs : s < A 9 0 := by omega
      have hu := h.up1 hs
      by_cases hpq : s + 1 = q
      · refine ⟨M, n_I M 60 0, ?_, ?_, rfl, mD.refl⟩
        · rw [F_X4_up_6, hpq, if_neg (by rw [← hpq, e_i1]; exact nI_pos (by omega)), if_pos rfl]
        · rw [F_X1_up_8, hpq, if_pos rfl]
      · obtain ⟨N, hN⟩ : ∃ N, N = n_p M 60 (n_I M 60 0 ||| v_bit s) := ⟨_, rfl⟩
        have hNd : mD M N := fun k i z => by rw [hN]; exact y_uk (by omega)
        have hN60 : n_I N 60 0 = n_I M 60 0 ||| v_bit s := by rw [hN]; show gm_I (n_up M 60 0 _ 60 0) = _; rw [y_us]; rfl
        have hNR := h.mD hNd
        rw [F_X4_up_6, e_i1, if_neg (nI_pos (by omega)), if_neg (show ¬ nI s = e_i q from fun z => hpq (e_i_inj hp hq hn16.2 z)), show n_pIO M 60 (n_I M 60 0 ||| v_bit s) = some (n_p M 60 (n_I M 60 0 ||| v_bit s)) from rfl, y_b, ← hN, q_kind h.W hNR.mc fu hs, y_cI, F_X1_up_8, e_r1, if_neg (show ¬ some (A 10 s) = e_r A q from fun z => hpq (e_r_inj h hp hq z)), if_neg y_sn, y_q (h.st hs), s_bit h fu hs, y_cI, (h.H.2.1 s hs).2.2.1, y_b]
        by_cases h2 : c_kind A C s = 2
        · obtain ⟨M1, z1, z2, z3⟩ := m_up44 h.W hf (F_X4_up_6 fu n) (e_i q) hs (A 9 0 - (s + 1)) (s + 1) N fu rfl (by omega) (by omega) hNR.mc
          obtain ⟨M', y, w1, w2, w3, w4⟩ := ih (A 24 s) (by omega) n m M1 (by omega) (by omega) (by omega) (hNR.mD z3)
          refine ⟨M', y, ?_, ?_, w3, (hNd.trans z3).trans w4⟩
          · rw [if_pos h2, nI_1, z1, w1]
          · have := c_up42 h (fu := fu) (by omega) (F_X1_up_8 fu m) (e_r A q) hs (l_ch A s).length 0 fu (n_I M 60 0 ||| v_bit s) (by omega) (by omega) (by have := (h.ch hs).2.2.1; omega)
            rw [List.drop_zero] at this
            rw [if_pos h2, show F_X1_up_42 fu (F_X1_up_8 fu m) fu (e_r A q) (n_I M 60 0 ||| v_bit s) (some (A 10 s)) 0 S = _ from this, ← w2, z2, hN60, l_cf0 h.W (s + 1) (Nat.le_refl _) (by omega)]
        · obtain ⟨M', y, w1, w2, w3, w4⟩ := ih (A 24 s) (by omega) n m N (by omega) (by omega) (by omega) hNR
          refine ⟨M', y, ?_, ?_, w3, hNd.trans w4⟩
          · rw [if_neg h2]
            unfold F_X4_up_99
            rw [q_out h.W hNR.mc fu hs, y_cI, c_oute, w1]
          · rw [if_neg h2, h.out hs, y_b, ← w2, hN60]
theorem s_up {fu : Nat} (hf : 7000000000 ≤ fu) {M : gM} {S : gm_S} (h : RC A M0 C M S c1 c2) {q s : Nat} (hq : q ≤ A 9 0) (hs : s < A 9 0) : ∃ M', F_X4_up fu (nI s) (e_i q) M = some (.returned none, M') ∧ F_X1_up fu (some (A 10 s)) (e_r A q) (n_I M 60 0) S = some (.returned (some (.int (n_I M' 60 0))), S) ∧ mD M M' := by
  have hu := h.up1 hs
  have hn16 := h.n16
  obtain ⟨M', y, w1, w2, w3, w4⟩ := s_up0 hf hq (A 24 s) fu fu M (by omega) (by omega) (by omega) h
  refine ⟨M', ?_, ?_, w4⟩
  · unfold F_X4_up
    rw [q_out h.W h.mc fu hs, y_cI, c_oute, w1]
  · unfold F_X1_up
    rw [h.out hs, y_b, w2, w3]
/-- one chosen transition: its goals, with the ways down and up -/
theorem s_ent1 {fu : Nat} (hf : 7000000000 ≤ fu) {S : gm_S} (k4 : Option Nat → Int32 → Int32 → gm_S → gR) (k108 : Int32 → gM → gQ) {j t q : Nat} (hj : j < 24) (ht : t < A 9 1) {g e : Int32} (hg : tG A S t g (e_i q) e) (hq : q ≤ A 9 0) : ∀ (d i : Nat) (M : gM) (n m : Nat), A 9 0 - i = d → i ≤ A 9 0 → d < n → d < m → RC A M0 C M S c1 c2 → n_I M 57 j = g → n_I M 58 j = e_i q →
    ∃ M', F_X4_step_133 fu k108 n (nI j) (nI i) M = k108 (nI (j + 1)) M' ∧ F_X3_entries_37 fu k4 m (some (A 2 0)) (n_I M 60 0) (nI j) (some (A 11 t)) (nI i) S = k4 (some (A 2 0)) (n_I M' 60 0) (nI (j + 1)) S ∧ mD M M' := by
  intro d
  induction d with
  | zero =>
    intro i M n m hd hi hn hm h h57 h58
    obtain ⟨n, rfl⟩ : ∃ n', n = n' + 1 := ⟨n - 1, by omega⟩
    obtain ⟨m, rfl⟩ : ∃ m', m = m' + 1 := ⟨m - 1, by omega⟩
    have ei : i = A 9 0 := by omega
    refine ⟨M, ?_, ?_, mD.refl⟩
    · rw [F_X4_step_133, m_n h, y_b, ei, if_pos (Int32.le_refl _), nI_1]
    · rw [F_X3_entries_37, h.a.1, y_b, h.len, y_b, ei, if_pos (Int32.le_refl _), nI_1]
  | succ d ih =>
    intro i M n m hd hi hn hm h h57 h58
    obtain ⟨n, rfl⟩ : ∃ n', n = n' + 1 := ⟨n - 1, by omega⟩
    obtain ⟨m, rfl⟩ : ∃ m', m = m' + 1 := ⟨m - 1, by omega⟩
    have hn16 := h.n16
    have hlt : i < A 9 0 := by omega
    have e1 : ¬ nI (A 9 0) ≤ nI i := nI_ge hlt (by omega)
    rw [F_X4_step_133, m_n h, y_b, if_neg e1, y_aI hj (by omega), y_b, h57, m_in fu (by omega), y_cI, F_X3_entries_37, h.a.1, y_b, h.len, y_b, if_neg e1, y_b, h.get hlt, y_b, y_q (h.st hlt), hg.1, y_b, y_q (h.st hlt), s_bit h fu hlt, y_cI, nI_1]
    by_cases hb : bt g i = true
    · obtain ⟨M1, z1, z2, z3⟩ := m_down h.W hf h.mc hlt
      have h1 := h.mD z3
      obtain ⟨M2, w1, w2, w3⟩ := s_up hf h1 hq hlt
      have r58 : n_I M1 58 j = e_i q := by unfold n_I; rw [z3 _ _ (by omega)]; exact h58
      obtain ⟨M', v1, v2, v3⟩ := ih (i + 1) M2 n m (by omega) (by omega) (by omega) (by omega) (h1.mD w3) (by unfold n_I; rw [w3 _ _ (by omega), z3 _ _ (by omega)]; exact h57) (by unfold n_I; rw [w3 _ _ (by omega)]; exact r58)
      refine ⟨M', ?_, ?_, (z3.trans w3).trans v3⟩
      · rw [if_pos hb, if_neg (show ¬ (1 : Int32) = 0 by decide), z1, y_cV, y_aI hj (by omega), y_b, r58, w1, y_cV, v1]
      · rw [if_neg (fun z => by rw [(v_and0 (by omega)).mp z] at hb; cases hb), c_dn h (by omega) 8 i _ hlt (by omega), y_cI, hg.2.1, y_b]
        cases q with
        | zero =>
          rw [e_i0, if_neg (by decide)]
          unfold F_X3_entries_113
          rw [← z2, show F_X1_up fu (some (A 10 i)) none (n_I M1 60 0) S = _ from w2, y_cI, nI_1, v2]
        | succ r =>
          have hr : r < A 9 0 := by omega
          rw [e_i1, if_pos (nI_pos' (by omega)), h.a.1, y_b, y_b, h.get hr, y_b, y_q (h.st hr)]
          unfold F_X3_entries_113
          rw [← z2, show F_X1_up fu (some (A 10 i)) (some (A 10 r)) (n_I M1 60 0) S = _ from w2, y_cI, nI_1, v2]
    · rw [if_neg hb, if_pos rfl, if_pos ((v_and0 (by omega)).mpr (by simpa using hb))]
      exact ih (i + 1) M n m (by omega) (by omega) (by omega) (by omega) h h57 h58
/-- what is entered -/
theorem s_entries {fu : Nat} (hf : 7000000000 ≤ fu) {S : gm_S} {l : List Nat} {V : Nat → Nat → Int32} : ∀ (d j : Nat) (M : gM) (n m : Nat), l.length - j = d → j ≤ l.length → d < n → d < m → RC A M0 C M S c1 c2 → rX A M S c1 l V →
    ∃ M', F_X4_step_108 fu n (nI j) M = (gz_cV (F_X4_enter fu (n_I M' 60 0) M') fun M3 => some (.returned none, M3)) ∧ F_X3_entries_4 fu m (some (A 2 0)) (n_I M 60 0) (nI j) S = some (.returned (some (.int (n_I M' 60 0))), S) ∧ mD M M' := by
  intro d
  induction d with
  | zero =>
    intro j M n m hd hj hn hm h hx
    obtain ⟨n, rfl⟩ : ∃ n', n = n' + 1 := ⟨n - 1, by omega⟩
    obtain ⟨m, rfl⟩ : ∃ m', m = m' + 1 := ⟨m - 1, by omega⟩
    obtain ⟨x1, x2, x3, x4, x5⟩ := hx
    have ej : j = l.length := by omega
    refine ⟨M, ?_, ?_, mD.refl⟩
    · rw [F_X4_step_108, x4, ej, if_pos (Int32.le_refl _)]
    · rw [F_X3_entries_4, h.c.1, y_b, y_lsz h.c.2.2.1, y_b, x1, List.length_map, ej, if_pos (Int32.le_refl _)]
  | succ d ih =>
    intro j M n m hd hj hn hm h hx
    obtain ⟨n, rfl⟩ : ∃ n', n = n' + 1 := ⟨n - 1, by omega⟩
    obtain ⟨m, rfl⟩ : ∃ m', m = m' + 1 := ⟨m - 1, by omega⟩
    obtain ⟨x1, x2, x3, x4, x5⟩ := hx
    have hn16 := h.n16
    have hlt : j < l.length := by omega
    have hgt : l[j]? = some l[j] := List.getElem?_eq_getElem hlt
    obtain ⟨t1, t2, t3, q, t4, t5⟩ := x3 l[j] (List.getElem_mem hlt)
    have hget : (S.2.1 c1)[j]? = some (A 11 l[j]) := by rw [x1, List.getElem?_map, hgt]; rfl
    have r57 := x5 j _ hgt 57 (by omega) (by omega)
    have r58 := x5 j _ hgt 58 (by omega) (by omega)
    obtain ⟨N, hN⟩ : ∃ N, N = n_p M 60 (n_I M 60 0 ||| V 57 l[j]) := ⟨_, rfl⟩
    have hNd : mD M N := fun k i z => by rw [hN]; exact y_uk (by omega)
    have hN60 : n_I N 60 0 = n_I M 60 0 ||| V 57 l[j] := by rw [hN]; show gm_I (n_up M 60 0 _ 60 0) = _; rw [y_us]; rfl
    rw [t5] at t3 r58
    obtain ⟨M1, z1, z2, z3⟩ := s_ent1 hf (F_X3_entries_4 fu m) (F_X4_step_108 fu n) (j := j) (by omega) t1 t3 t4 (A 9 0) 0 N fu fu (by omega) (by omega) (by omega) (by omega) (h.mD hNd) (by unfold n_I; rw [hNd _ _ (by omega)]; exact r57) (by unfold n_I; rw [hNd _ _ (by omega)]; exact r58)
    have hd1 := hNd.trans z3
    have hx1 : rX A M1 S c1 l V := by
      refine ⟨x1, x2, x3, ?_, fun j t hj K k1 k2 => ?_⟩
      · unfold n_I; rw [hd1 _ _ (by omega)]; exact x4
      · unfold n_I; rw [hd1 _ _ (by omega)]; exact x5 j t hj K k1 k2
    obtain ⟨M', w1, w2, w3⟩ := ih (j + 1) M1 n m (by omega) (by omega) (by omega) (by omega) (h.mD hd1) hx1
    refine ⟨M', ?_, ?_, hd1.trans w3⟩
    · rw [F_X4_step_108, x4, if_neg (nI_ge hlt (by omega)), y_aI (by omega) (by omega), y_b, r57, show n_pIO M 60 (n_I M 60 0 ||| V 57 l[j]) = some (n_p M 60 (n_I M 60 0 ||| V 57 l[j])) from rfl, y_b, ← hN, show F_X4_step_133 fu (F_X4_step_108 fu n) fu (nI j) 0 N = _ from z1, w1]
    · rw [F_X3_entries_4, h.c.1, y_b, y_lsz h.c.2.2.1, y_b, x1, List.length_map, if_neg (nI_ge hlt (by omega)), y_b, y_lget h.c.2.2.1 (by omega) hget, y_b, y_q (h.tt t1), t3.1, y_b, ← hN60, show F_X3_entries_37 fu (F_X3_entries_4 fu m) fu (some (A 2 0)) (n_I N 60 0) (nI j) (some (A 11 l[j])) 0 S = _ from z2, w2]
end RCO
