/-! LAYER 2: which transitions are chosen -/
set_option maxRecDepth 100000
section RCJ
def mS (M M' : gM) : Prop := ∀ k i, ¬ (55 ≤ k ∧ k ≤ 59) → M' k i = M k i
theorem mS.trans {M M' M'' : gM} (h : mS M M') (h' : mS M' M'') : mS M M'' := fun k i z => (h' k i z).trans (h k i z)
theorem mS.refl {M : gM} : mS M M := fun _ _ _ => rfl
theorem mS.nI {M M' : gM} (h : mS M M') {k i : Nat} (z : ¬ (55 ≤ k ∧ k ≤ 59)) : n_I M' k i = n_I M k i := by unfold n_I; rw [h k i z]
variable {A : gA} {M0 C : gM} {c1 c2 : Nat}
theorem RC.clr1 {M : gM} {S : gm_S} (h : RC A M0 C M S c1 c2) {c : Nat} (hc : c = c1 ∨ c = c2) : g_lclr S (some c) = some (gs_L S c []) ∧ RC A M0 C M (gs_L S c []) c1 c2 := by
  obtain ⟨k1, k2, k3, k4, k5, k6, k7, k8, k9⟩ := h.c
  have ht : gs_t S c = 16 := by rcases hc with rfl | rfl <;> assumption
  have hB : c < A 7 0 := by rcases hc with rfl | rfl <;> assumption
  have hs : c ≠ A 6 0 := by rcases hc with rfl | rfl <;> assumption
  have g := ag.lst (S := S) (a := c) (l := [])
  refine ⟨y_lclr ht, h.upd g h.inv.lst (fun _ _ z => z.elim) (fun a z => by rw [z]; exact hB) h.mc (fun _ _ _ => rfl) (h.a.mono g (by simp) (fun _ _ _ => rfl)) (h.v.mono g (by simp) (fun _ => rfl)) (h.q.mono g (by simp) (fun _ _ _ => rfl)) (h.s.mono g (by simp) (Ne.symm hs) (fun _ _ _ => rfl)) (h.t.mono g (by simp) (fun _ _ _ => rfl)) (h.c.mono g (by simp)) (h.h.mono g (by simp) (fun _ _ _ => rfl)) (h.b.same rfl rfl (by rw [y_Ln (Ne.symm hs)]) (fun _ => rfl))⟩
theorem RC.add1 {M : gM} {S : gm_S} (h : RC A M0 C M S c1 c2) {c t : Nat} (hc : c = c1 ∨ c = c2) (ht : t < A 9 1) (hl : (S.2.1 c).length ≤ 21) : ∃ S', g_ladd S (some c) (some (A 11 t)) = some S' ∧ RC A M0 C M S' c1 c2 ∧ S'.2.1 c = S.2.1 c ++ [A 11 t] ∧ (∀ b, b ≠ c → S'.2.1 b = S.2.1 b) ∧ ag (fun F b => (F = 3 ∨ F = 4) ∧ b = c) (fun b => b = c) S S' := by
  obtain ⟨k1, k2, k3, k4, k5, k6, k7, k8, k9⟩ := h.c
  obtain ⟨b1, b2, b3, b4, b5, b6, b7⟩ := h.b
  have hct : gs_t S c = 16 := by rcases hc with rfl | rfl <;> assumption
  have hB : c < A 7 0 := by rcases hc with rfl | rfl <;> assumption
  have hs : c ≠ A 6 0 := by rcases hc with rfl | rfl <;> assumption
  have hko : k_ok (g_cap S c) := by rcases hc with rfl | rfl <;> assumption
  unfold p_c at b1
  unfold p_k at b2
  have hb1 : gs_c S + (22 - g_cap S c) ≤ 600090 := by rcases hc with rfl | rfl <;> omega
  have hb2 : gs_k S + 4 * (22 - g_cap S c) ≤ 7301100 := by rcases hc with rfl | rfl <;> omega
  obtain ⟨S', f1, f2, f3, f4, f5, f6, f7, f8, f9, f10, f11⟩ := s_ladd (M0 := M0) (S := S) (a := c) (x := A 11 t) h.inv hct (by rw [h.tt ht]; decide) hl hko hb1 hb2
  have hse : gs_t S (A 6 0) ≠ 0 := by rw [h.s.2.1]; decide
  refine ⟨S', f1, h.upd f2 f4 (fun F a z => ?_) (fun a z => by rw [z]; exact hB) h.mc (fun _ _ _ => rfl) (h.a.mono f2 (by simp) (fun _ _ _ => rfl)) (h.v.mono f2 (by simp) (fun _ => rfl)) (h.q.mono f2 (by simp) (fun _ _ _ => rfl)) (h.s.mono f2 (by simp) (Ne.symm hs) (fun _ _ _ => rfl)) (h.t.mono f2 (by simp) (fun _ _ _ => rfl)) (h.c.mono f2 (by simp)) (h.h.mono f2 (by simp) (fun _ _ _ => rfl)) ?_, f3, f11, f2⟩
  · rcases z.1 with z | z <;> rw [z] <;> exact ⟨by decide, fun w => absurd w (by decide)⟩
  · unfold rDb p_c p_k
    rw [f11 _ (Ne.symm hs), f9 _ hse (Ne.symm hs)]
    rcases hc with rfl | rfl
    · rw [f9 c2 (by rw [k4]; decide) (Ne.symm k7)]
      exact ⟨by omega, by omega, b3, b4, b5, f10, b7⟩
    · rw [f9 c1 (by rw [k3]; decide) k7]
      exact ⟨by omega, by omega, b3, b4, b5, b6, f10⟩
/-- the chosen ones so far -/
def rX1 (A : gA) (M : gM) (S : gm_S) (c1 : Nat) (ts : List Nat) : Prop := S.2.1 c1 = ts.map (A 11) ∧ n_I M 55 0 = nI ts.length ∧ ts.length ≤ 16 ∧ (∀ t ∈ ts, t < A 9 1) ∧ ∀ j t, ts[j]? = some t → n_I M 56 j = nI (24 * A 9 5 + t)
/-- the component looks whether it is chosen -/
theorem c_isch {M : gM} {S : gm_S} (h : RC A M0 C M S c1 c2) (fu : Nat) {ts : List Nat} (hx : rX1 A M S c1 ts) {t : Nat} (ht : t < A 9 1) : ∀ (d j m : Nat), ts.length - j = d → j ≤ ts.length → d < m → F_X3_isChosen_2 fu m (some (A 2 0)) (some (A 11 t)) (nI j) S = some (.returned (some (.int (if t ∈ ts.drop j then 1 else 0))), S) := by
  obtain ⟨x1, x2, x3, x4, x5⟩ := hx
  obtain ⟨k1, k2, k3, -⟩ := h.c
  intro d
  induction d with
  | zero =>
    intro j m hd hj hm
    obtain ⟨m, rfl⟩ : ∃ m', m = m' + 1 := ⟨m - 1, by omega⟩
    have e : j = ts.length := by omega
    rw [F_X3_isChosen_2, k1, y_b, y_lsz k3, y_b, x1, List.length_map, e, if_pos (Int32.le_refl _), if_pos y_z0, List.drop_length, if_neg List.not_mem_nil]
  | succ d ih =>
    intro j m hd hj hm
    obtain ⟨m, rfl⟩ : ∃ m', m = m' + 1 := ⟨m - 1, by omega⟩
    have hlt : j < ts.length := by omega
    have hd2 : ts.drop j = ts[j] :: ts.drop (j + 1) := List.drop_eq_getElem_cons hlt
    have hget : (S.2.1 c1)[j]? = some (A 11 ts[j]) := by rw [x1, List.getElem?_map, List.getElem?_eq_getElem hlt]; rfl
    rw [F_X3_isChosen_2, k1, y_b, y_lsz k3, y_b, x1, List.length_map, if_neg (nI_ge hlt (by omega)), y_b, y_lget k3 (by omega) hget, y_b, hd2, nI_1]
    have hin := x4 ts[j] (List.getElem_mem hlt)
    by_cases e : ts[j] = t
    · rw [if_pos (by rw [e]), if_pos y_z1, if_pos (by rw [e]; exact List.mem_cons_self)]
    · rw [if_neg (fun z => e (h.H.2.2.2.2.2.2 _ _ hin ht (Option.some.inj z))), ih (j + 1) m (by omega) (by omega) (by omega)]
      congr 4
      by_cases w : t ∈ ts.drop (j + 1)
      · rw [if_pos w, if_pos (List.mem_cons_of_mem _ w)]
      · rw [if_neg w, if_neg (fun z => by rcases List.mem_cons.mp z with z | z; exact e z.symm; exact w z)]
/-- the model looks whether it is chosen; and adds it -/
theorem m_isch {M : gM} {S : gm_S} (h : RC A M0 C M S c1 c2) (fu : Nat) {k7 : Int32 → Int32 → gM → gQ} (x1' x2' : Int32) {ts : List Nat} (hx : rX1 A M S c1 ts) {t : Nat} (ht : t < A 9 1) : ∀ (d j m : Nat) (ag : Bool), ts.length - j = d → j ≤ ts.length → d < m → F_X4_choose_90 fu k7 m x1' x2' (nI (24 * A 9 5 + t)) (if ag = true then 1 else 0) (nI j) M =
    (if ag = true ∨ t ∈ ts.drop j then k7 x1' (x2' + 1) M else k7 x1' (x2' + 1) (n_p (n_up M 56 ts.length (.int (nI (24 * A 9 5 + t)))) 55 (nI (ts.length + 1)))) := by
  have hw := h.w2
  have hnt := h.nt
  obtain ⟨x1, x2, x3, x4, x5⟩ := hx
  intro d
  induction d with
  | zero =>
    intro j m ag hd hj hm
    obtain ⟨m, rfl⟩ : ∃ m', m = m' + 1 := ⟨m - 1, by omega⟩
    have e : j = ts.length := by omega
    rw [F_X4_choose_90, x2, e, if_pos (Int32.le_refl _), List.drop_length]
    cases ag with
    | true => rw [if_neg (by decide), if_pos (Or.inl rfl)]
    | false =>
      rw [if_pos (by decide), y_sI (by omega) (by omega), y_b, if_neg (by simp)]
      show k7 x1' (x2' + 1) (n_p (n_up M 56 ts.length (.int (nI (24 * A 9 5 + t)))) 55 (gm_I (n_up M 56 ts.length (.int (nI (24 * A 9 5 + t))) 55 0) + 1)) = _
      rw [y_uk (by decide), show gm_I (M 55 0) = nI ts.length from x2, nI_1]
  | succ d ih =>
    intro j m ag hd hj hm
    obtain ⟨m, rfl⟩ : ∃ m', m = m' + 1 := ⟨m - 1, by omega⟩
    have hlt : j < ts.length := by omega
    have hd2 : ts.drop j = ts[j] :: ts.drop (j + 1) := List.drop_eq_getElem_cons hlt
    rw [F_X4_choose_90, x2, if_neg (nI_ge hlt (by omega)), nI_1]
    cases ag with
    | true =>
      rw [if_neg (by decide)]
      have := ih (j + 1) m true (by omega) (by omega) (by omega)
      rw [if_pos rfl, if_pos (Or.inl rfl)] at this
      rw [this, if_pos (Or.inl rfl)]
    | false =>
      rw [if_pos (by decide), y_aI (by omega) (by omega), y_b, x5 j ts[j] (List.getElem?_eq_getElem hlt)]
      have hin := x4 ts[j] (List.getElem_mem hlt)
      by_cases e : ts[j] = t
      · have := ih (j + 1) m true (by omega) (by omega) (by omega)
        rw [if_pos rfl, if_pos (Or.inl rfl)] at this
        rw [if_pos (by rw [e]), this, if_pos (Or.inr (by rw [hd2, e]; exact List.mem_cons_self))]
      · have := ih (j + 1) m false (by omega) (by omega) (by omega)
        rw [if_neg (by decide)] at this
        rw [if_neg (fun z => e (by have := (nI_eq (by omega) (by omega)).mp z; omega)), this, hd2]
        by_cases w : t ∈ ts.drop (j + 1)
        · rw [if_pos (Or.inr w), if_pos (Or.inr (List.mem_cons_of_mem _ w))]
        · rw [if_neg (fun z => by rcases z with z | z; cases z; exact w z), if_neg (fun z => by
            rcases z with z | z
            · cases z
            · rcases List.mem_cons.mp z with z | z
              · exact e z.symm
              · exact w z)]
/-- one transition is taken among the chosen, or not -/
theorem s_take {M : gM} {S : gm_S} (h : RC A M0 C M S c1 c2) {fu : Nat} (hf : 100 ≤ fu) {k9 : Option Nat → Int32 → Int32 → gm_S → gR} {k7 : Int32 → Int32 → gM → gQ} (e : Int32) (i : Nat) {ts : List Nat} (hx : rX1 A M S c1 ts) (hl : ts.length ≤ 15) (o : Option Nat) (ho : ∀ t, o = some t → t < A 9 1) :
    ∃ ts' M' S', F_X4_choose_76 fu k7 e (nI i) (o_tr A o) M = k7 e (nI (i + 1)) M' ∧ F_X3_choose_88 fu k9 (some (A 2 0)) e (nI i) (o.map (A 11)) S = k9 (some (A 2 0)) e (nI (i + 1)) S' ∧ RC A M0 C M' S' c1 c2 ∧ rX1 A M' S' c1 ts' ∧ ts'.length ≤ ts.length + 1 ∧ (ts.Nodup → ts'.Nodup) ∧ mS M M' := by
  have hw := h.w2
  have hnt := h.nt
  unfold F_X4_choose_76 F_X3_choose_88
  cases o with
  | none =>
    refine ⟨ts, M, S, ?_, ?_, h, hx, by omega, id, mS.refl⟩
    · rw [if_neg (show ¬ (0 : Int32) ≤ o_tr A none from (by decide : ¬ (0 : Int32) ≤ -1))]
      have hx' := hx
      obtain ⟨x1, x2, x3, x4, x5⟩ := hx
      -- again is true from the start
      have key : ∀ (d j m : Nat), ts.length - j = d → j ≤ ts.length → d < m → F_X4_choose_90 fu k7 m e (nI i) (o_tr A none) 1 (nI j) M = k7 e (nI (i + 1)) M := by
        intro d
        induction d with
        | zero =>
          intro j m hd hj hm
          obtain ⟨m, rfl⟩ : ∃ m', m = m' + 1 := ⟨m - 1, by omega⟩
          have ej : j = ts.length := by omega
          rw [F_X4_choose_90, x2, ej, if_pos (Int32.le_refl _), if_neg (by decide), nI_1]
        | succ d ih =>
          intro j m hd hj hm
          obtain ⟨m, rfl⟩ : ∃ m', m = m' + 1 := ⟨m - 1, by omega⟩
          rw [F_X4_choose_90, x2, if_neg (nI_ge (by omega) (by omega)), if_neg (by decide), nI_1, ih (j + 1) m (by omega) (by omega) (by omega)]
      exact key ts.length 0 fu (by omega) (by omega) (by omega)
    · rw [if_pos (show Option.map (A 11) none = none from rfl), nI_1]
  | some t =>
    have ht := ho t rfl
    have hm := m_isch h fu (k7 := k7) e (nI i) hx ht ts.length 0 fu false (by omega) (by omega) (by omega)
    have hcc := c_isch h fu hx ht ts.length 0 fu (by omega) (by omega) (by omega)
    rw [if_neg (by decide), List.drop_zero] at hm
    rw [List.drop_zero] at hcc
    rw [show o_tr A (some t) = nI (24 * A 9 5 + t) from rfl, show Option.map (A 11) (some t) = some (A 11 t) from rfl]
    rw [if_pos (nI_pos' (by omega)), if_neg y_sn, y_q h.rt]
    unfold F_X3_isChosen
    rw [show F_X3_isChosen_2 fu fu (some (A 2 0)) (some (A 11 t)) 0 S = _ from hcc, y_cI]
    show ∃ ts' M' S', F_X4_choose_90 fu k7 fu e (nI i) (nI (24 * A 9 5 + t)) 0 0 M = _ ∧ _
    rw [show F_X4_choose_90 fu k7 fu e (nI i) (nI (24 * A 9 5 + t)) 0 0 M = _ from hm, nI_1]
    by_cases hin : t ∈ ts
    · rw [if_pos (Or.inr hin), if_pos hin, if_neg (by decide)]
      exact ⟨ts, M, S, rfl, rfl, h, hx, by omega, id, mS.refl⟩
    · rw [if_neg (fun z => by rcases z with z | z; cases z; exact hin z), if_neg hin, if_pos rfl, h.c.1, y_b]
      obtain ⟨x1, x2, x3, x4, x5⟩ := hx
      obtain ⟨S', f1, f2, f3, f4, f5⟩ := h.add1 (Or.inl rfl) ht (by rw [x1, List.length_map]; omega)
      rw [f1, y_b]
      refine ⟨ts ++ [t], _, S', rfl, rfl, (f2.mup (by omega)).mup (by omega), ⟨?_, ?_, ?_, ?_, ?_⟩, by rw [List.length_append]; exact Nat.le_refl _, ?_, fun k i z => (y_uk (by omega)).trans (y_uk (by omega))⟩
      · rw [f3, x1, List.map_append]; rfl
      · show gm_I (n_up _ 55 0 (.int (nI (ts.length + 1))) 55 0) = _
        rw [y_us, List.length_append]; rfl
      · rw [List.length_append]; show ts.length + 1 ≤ 16; omega
      · intro t' ht'
        rcases List.mem_append.mp ht' with z | z
        · exact x4 t' z
        · rw [List.mem_singleton.mp z]; exact ht
      · intro j t' hj
        show gm_I (n_up (n_up M 56 ts.length (.int (nI (24 * A 9 5 + t)))) 55 0 (.int (nI (ts.length + 1))) 56 j) = _
        rw [y_uk (by decide)]
        by_cases ej : j = ts.length
        · subst ej
          rw [List.getElem?_append_right (Nat.le_refl _), Nat.sub_self] at hj
          cases hj
          rw [y_us]; rfl
        · have hj2 := (List.getElem?_eq_some_iff.mp hj).1
          rw [List.length_append] at hj2
          have hj2 : j < ts.length + 1 := hj2
          rw [List.getElem?_append_left (by omega)] at hj
          rw [y_ui ej]
          exact x5 j t' hj
      · intro hnd
        exact List.nodup_append.mpr ⟨hnd, by simp, fun a ha b hb => by rw [List.mem_singleton.mp hb]; exact fun z => hin (by rw [← z]; exact ha)⟩
/-- from a state outwards: the first enabled transition -/
theorem s_out {M : gM} {S : gm_S} (h : RC A M0 C M S c1 c2) {fu : Nat} (hf : 100 ≤ fu) {k9 : Option Nat → Int32 → Int32 → gm_S → gR} {k7 : Int32 → Int32 → gM → gQ} (e : Int32) (i : Nat) : ∀ (p n m : Nat) (o : Option Nat), (∀ t, o = some t → t < A 9 1) → p ≤ A 9 0 → p < n → p < m →
    ∃ o', (∀ t, o' = some t → t < A 9 1) ∧ F_X4_choose_48 fu k7 n e (nI i) (o_tr A o) (e_i p) M = F_X4_choose_76 fu k7 e (nI i) (o_tr A o') M ∧ F_X3_choose_59 fu k9 m (some (A 2 0)) e (nI i) (o.map (A 11)) (e_r A p) S = F_X3_choose_88 fu k9 (some (A 2 0)) e (nI i) (o'.map (A 11)) S := by
  have hw := h.w2
  have hnt := h.nt
  have hn16 := h.n16
  intro p
  induction p using Nat.strongRecOn with
  | _ p ih =>
    intro n m o ho hp hn hm
    obtain ⟨n, rfl⟩ : ∃ n', n = n' + 1 := ⟨n - 1, by omega⟩
    obtain ⟨m, rfl⟩ : ∃ m', m = m' + 1 := ⟨m - 1, by omega⟩
    cases p with
    | zero =>
      refine ⟨o, ho, ?_, ?_⟩
      · rw [F_X4_choose_48, e_i0, if_pos (by decide)]
      · rw [F_X3_choose_59, e_r0, if_pos rfl]
    | succ s =>
      have hs : s < A 9 0 := by omega
      have hu := h.up1 hs
      rw [F_X4_choose_48, e_i1, if_neg (nI_pos (by omega)), F_X3_choose_59, e_r1, if_neg y_sn]
      cases o with
      | some t =>
        have ht := ho t rfl
        refine ⟨some t, ho, ?_, ?_⟩
        · rw [if_pos (show (0 : Int32) ≤ o_tr A (some t) from nI_pos' (by omega))]
        · show (if (some (A 11 t) : Option Nat) = none then _ else _) = _
          rw [if_neg y_sn]
      | none =>
        obtain ⟨o1, z0, z1, z2⟩ := s_first h hf hs e
        rw [if_neg (show ¬ (0 : Int32) ≤ o_tr A none from (by decide : ¬ (0 : Int32) ≤ -1)), z1, y_cI, m_out h fu hs, y_cI, c_oute]
        show ∃ o', _ ∧ _ ∧ (if (none : Option Nat) = none then _ else _) = _
        rw [if_pos rfl, y_q h.rt, z2, gz_cR_rf, h.out hs, y_b]
        exact ih (A 24 s) (by omega) n m o1 z0 (by omega) (by omega) (by omega)
/-- the first loop of choose -/
theorem s_ch1 {fu : Nat} (hf : 100 ≤ fu) (e : Int32) : ∀ (d i : Nat) (M : gM) (S : gm_S) (n m : Nat) (ts : List Nat), A 9 0 - i = d → i ≤ A 9 0 → d < n → d < m → RC A M0 C M S c1 c2 → rX1 A M S c1 ts → ts.length ≤ i → ts.Nodup →
    ∃ ts' M' S', F_X4_choose_7 fu n e (nI i) M = F_X4_choose_164 fu fu 0 M' ∧ F_X3_choose_9 fu m (some (A 2 0)) e (nI i) S = F_X3_choose_120 fu fu (some (A 2 0)) 0 S' ∧ RC A M0 C M' S' c1 c2 ∧ rX1 A M' S' c1 ts' ∧ ts'.Nodup ∧ mS M M' := by
  intro d
  induction d with
  | zero =>
    intro i M S n m ts hd hi hn hm h hx hl hnd
    obtain ⟨n, rfl⟩ : ∃ n', n = n' + 1 := ⟨n - 1, by omega⟩
    obtain ⟨m, rfl⟩ : ∃ m', m = m' + 1 := ⟨m - 1, by omega⟩
    have ei : i = A 9 0 := by omega
    refine ⟨ts, M, S, ?_, ?_, h, hx, hnd, mS.refl⟩
    · rw [F_X4_choose_7, m_n h, y_b, ei, if_pos (Int32.le_refl _)]
    · rw [F_X3_choose_9, h.a.1, y_b, h.len, y_b, ei, if_pos (Int32.le_refl _)]
  | succ d ih =>
    intro i M S n m ts hd hi hn hm h hx hl hnd
    obtain ⟨n, rfl⟩ : ∃ n', n = n' + 1 := ⟨n - 1, by omega⟩
    obtain ⟨m, rfl⟩ : ∃ m', m = m' + 1 := ⟨m - 1, by omega⟩
    have hn16 := h.n16
    have hlt : i < A 9 0 := by omega
    have e1 : ¬ nI (A 9 0) ≤ nI i := nI_ge hlt (by omega)
    rw [F_X4_choose_7, m_n h, y_b, if_neg e1, m_kind h fu hlt, y_cI, F_X3_choose_9, h.a.1, y_b, h.len, y_b, if_neg e1, y_b, h.get hlt, y_b, y_q (h.st hlt), (h.H.2.1 i hlt).2.2.1, y_b]
    by_cases hk : c_kind A C i = 0
    · rw [if_pos hk, if_pos hk, m_in fu (by omega), y_cI, (h.H.2.1 i hlt).1, y_b, y_q h.rt, s_isActive h fu (by omega), y_cI]
      by_cases hb : bt (n_I M 41 0) i = true
      · rw [if_pos hb, if_neg (show ¬ (1 : Int32) = 0 by decide), if_neg (show ¬ (1 : Int32) = 0 by decide)]
        obtain ⟨o', y0, y1, y2⟩ := s_out h hf (k9 := F_X3_choose_9 fu m) (k7 := F_X4_choose_7 fu n) e i (i + 1) fu fu none (fun _ z => by cases z) (by omega) (by omega) (by omega)
        obtain ⟨ts1, M1, S1, w1, w2, w3, w4, w5, w6, w7⟩ := s_take h hf (k9 := F_X3_choose_9 fu m) (k7 := F_X4_choose_7 fu n) e i hx (by omega) o' y0
        obtain ⟨ts', M', S', v1, v2, v3, v4, v5, v6⟩ := ih (i + 1) M1 S1 n m ts1 (by omega) (by omega) (by omega) (by omega) w3 w4 (by omega) (w6 hnd)
        refine ⟨ts', M', S', ?_, ?_, v3, v4, v5, w7.trans v6⟩
        · rw [show F_X4_choose_48 fu (F_X4_choose_7 fu n) fu e (nI i) (-1) (nI i) M = _ from y1, w1]
          exact v1
        · rw [show F_X3_choose_59 fu (F_X3_choose_9 fu m) fu (some (A 2 0)) e (nI i) none (some (A 10 i)) S = _ from y2, w2]
          exact v2
      · rw [if_neg hb, if_pos rfl, if_pos rfl, nI_1]
        exact ih (i + 1) M S n m ts (by omega) (by omega) (by omega) (by omega) h hx (by omega) hnd
    · rw [if_neg hk, if_neg hk, nI_1]
      exact ih (i + 1) M S n m ts (by omega) (by omega) (by omega) (by omega) h hx (by omega) hnd
end RCJ
