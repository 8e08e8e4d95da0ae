/-! LAYER 2: the model's object as it is made, and sealed -/
set_option maxRecDepth 100000
/-- one row made and put into a field -/
def jq1 (o : Nat) (q : Nat × Nat × Nat) (S : gm_S) : gm_S := gs_put (gs_put (g_mk S (100 + q.1) q.2.1) 1 (gs_n S) 0 (.ref q.2.1)) (400 + q.2.2) o 0 (.ref (gs_n S))
def jqA (o : Nat) : List (Nat × Nat × Nat) → (gm_S → gR) → gm_S → gR
  | [], K, S => K S
  | q :: l, K, S => Option.bind (g_newa S q.1 (nI q.2.1)) fun z => Option.bind (g_pR z.2 (some o) 4 q.2.2 (some z.1)) fun S => jqA o l K S
def jqS (o : Nat) : List (Nat × Nat × Nat) → gm_S → gm_S
  | [], S => S
  | q :: l, S => jqS o l (jq1 o q S)
theorem y_newan {S : gm_S} {t n : Nat} (hn : n ≤ 1000) (h1 : gs_c S < 600096) (h2 : gs_k S + n ≤ 7301386) : g_newa S t (nI n) = some (gs_n S, gs_put (g_mk S (100 + t) n) 1 (gs_n S) 0 (.ref n)) := by
  unfold g_newa
  have c1 : (decide ((0 : Int32) ≤ nI n) && decide (nI n ≤ (1000 : Int32))) = true := by
    rw [Bool.and_eq_true, decide_eq_true_eq, decide_eq_true_eq]
    exact ⟨nI_pos' (by omega), (nI_leI (a := n) (b := 1000) (by omega) (by omega)).mpr hn⟩
  rw [if_pos c1, nI_clamp (by omega), if_pos (by simp [g_room]; exact ⟨h1, h2⟩)]
theorem jq1_old {o : Nat} {q : Nat × Nat × Nat} {S : gm_S} {F b i : Nat} (hb : b ≠ gs_n S) (h : ¬ (F = 400 + q.2.2 ∧ b = o ∧ i = 0)) : (jq1 o q S).1 F b i = S.1 F b i := by
  unfold jq1
  rw [y_pM h, y_pM (by omega)]
  exact gm_fresh_o hb
theorem jq1_new {o : Nat} {q : Nat × Nat × Nat} {S : gm_S} {F i : Nat} (ho : o ≠ gs_n S) : (jq1 o q S).1 F (gs_n S) i = if F = 0 ∧ i = 0 then .ref (100 + q.1) else if F = 1 ∧ i = 0 then .ref q.2.1 else .null := by
  unfold jq1
  rw [y_pM (by omega)]
  by_cases h1 : F = 1 ∧ i = 0
  · rw [if_neg (by omega), if_pos h1, h1.1, h1.2]
    exact y_pE
  · rw [y_pM (by omega), if_neg h1]
    show gm_fresh S.1 (gs_n S) (100 + q.1) F (gs_n S) i = _
    unfold gm_fresh
    rw [if_pos rfl]
theorem jq1_o {o : Nat} {q : Nat × Nat × Nat} {S : gm_S} : (jq1 o q S).1 (400 + q.2.2) o 0 = .ref (gs_n S) := y_pE
theorem jq1_t {o : Nat} {q : Nat × Nat × Nat} {S : gm_S} (ho : o ≠ gs_n S) : gs_t (jq1 o q S) o = gs_t S o := by
  unfold gs_t
  rw [jq1_old ho (by omega)]
theorem jqA_go (o : Nat) : ∀ (l : List (Nat × Nat × Nat)) (S : gm_S) (K : gm_S → gR), gs_t S o = 4 → o < gs_n S → (∀ q ∈ l, q.2.1 ≤ 1000) → gs_c S + l.length ≤ 600096 → gs_k S + (l.map (fun q => q.2.1)).sum ≤ 7301386 → jqA o l K S = K (jqS o l S) := by
  intro l
  induction l with
  | nil => intro S K _ _ _ _ _; rfl
  | cons q l ih =>
    intro S K ht ho hn hc hk
    simp only [List.map_cons, List.sum_cons, List.length_cons] at hc hk
    have t1 : gs_t (gs_put (g_mk S (100 + q.1) q.2.1) 1 (gs_n S) 0 (.ref q.2.1)) o = 4 := by rw [y_pt (by decide), y_mkt (by omega)]; exact ht
    show (Option.bind (g_newa S q.1 (nI q.2.1)) fun z => Option.bind (g_pR z.2 (some o) 4 q.2.2 (some z.1)) fun S => jqA o l K S) = K (jqS o l (jq1 o q S))
    rw [y_newan (hn q List.mem_cons_self) (by omega) (by omega), y_b]
    dsimp only
    rw [y_pR t1, y_b]
    exact ih (jq1 o q S) K ((jq1_t (by omega)).trans ht) (by show o < gs_n S + 1; omega) (fun z hz => hn z (List.mem_cons_of_mem _ hz)) (by show gs_c S + 1 + _ ≤ _; omega) (by show gs_k S + q.2.1 + _ ≤ _; omega)
theorem jqS_n (o : Nat) : ∀ (l : List (Nat × Nat × Nat)) (S : gm_S), gs_n (jqS o l S) = gs_n S + l.length ∧ gs_c (jqS o l S) = gs_c S + l.length ∧ gs_k (jqS o l S) = gs_k S + (l.map (fun q => q.2.1)).sum ∧ (jqS o l S).2.1 = S.2.1 := by
  intro l
  induction l with
  | nil => intro S; exact ⟨rfl, rfl, rfl, rfl⟩
  | cons q l ih =>
    intro S
    obtain ⟨h1, h2, h3, h4⟩ := ih (jq1 o q S)
    simp only [List.map_cons, List.sum_cons, List.length_cons]
    refine ⟨h1.trans ?_, h2.trans ?_, h3.trans ?_, h4⟩
    · show gs_n S + 1 + l.length = _; omega
    · show gs_c S + 1 + l.length = _; omega
    · show gs_k S + q.2.1 + _ = _; omega
theorem jqS_old (o : Nat) : ∀ (l : List (Nat × Nat × Nat)) (S : gm_S) (F b i : Nat), b < gs_n S → (b = o → ∀ q ∈ l, F ≠ 400 + q.2.2) → (jqS o l S).1 F b i = S.1 F b i := by
  intro l
  induction l with
  | nil => intro S F b i _ _; rfl
  | cons q l ih =>
    intro S F b i hb h
    refine (ih (jq1 o q S) F b i (by show b < gs_n S + 1; omega) (fun e z hz => h e z (List.mem_cons_of_mem _ hz))).trans (jq1_old (by omega) (fun z => h z.2.1 q List.mem_cons_self z.1))
theorem jqS_new (o : Nat) : ∀ (l : List (Nat × Nat × Nat)) (S : gm_S) (j : Nat) (q : Nat × Nat × Nat) (F i : Nat), o < gs_n S → l[j]? = some q → (jqS o l S).1 F (gs_n S + j) i = if F = 0 ∧ i = 0 then .ref (100 + q.1) else if F = 1 ∧ i = 0 then .ref q.2.1 else .null := by
  intro l
  induction l with
  | nil => intro S j q F i _ h; cases h
  | cons z l ih =>
    intro S j q F i ho h
    cases j with
    | zero =>
      cases h
      exact (jqS_old o l (jq1 o z S) F (gs_n S + 0) i (by show gs_n S + 0 < gs_n S + 1; omega) (fun e => by omega)).trans (jq1_new (by omega))
    | succ j =>
      have := ih (jq1 o z S) j q F i (by show o < gs_n S + 1; omega) h
      rw [show gs_n S + (j + 1) = gs_n (jq1 o z S) + j by show _ = gs_n S + 1 + j; omega]
      exact this
theorem jqS_fld (o : Nat) : ∀ (l : List (Nat × Nat × Nat)) (S : gm_S) (j : Nat) (q : Nat × Nat × Nat), o < gs_n S → (l.map (fun q => q.2.2)).Nodup → l[j]? = some q → (jqS o l S).1 (400 + q.2.2) o 0 = .ref (gs_n S + j) := by
  intro l
  induction l with
  | nil => intro S j q _ _ h; cases h
  | cons z l ih =>
    intro S j q ho hd h
    rw [List.map_cons, List.nodup_cons] at hd
    cases j with
    | zero =>
      cases h
      exact (jqS_old o l (jq1 o z S) _ o 0 (by show o < gs_n S + 1; omega) (fun _ w hw e => hd.1 (List.mem_map.mpr ⟨w, hw, by omega⟩))).trans jq1_o
    | succ j =>
      refine (ih (jq1 o z S) j q (by show o < gs_n S + 1; omega) hd.2 h).trans ?_
      congr 1
      show gs_n S + 1 + j = _
      omega
/-- the rows behind the first -/
def jql : List (Nat × Nat × Nat) := [(0, 2, 9), (0, 2, 10), (0, 2, 11), (0, 2, 12), (0, 2, 13), (0, 32, 14), (0, 32, 15), (0, 32, 16), (0, 32, 17), (0, 48, 18), (0, 48, 19), (0, 48, 20), (0, 48, 21), (0, 48, 22), (0, 128, 23), (0, 128, 24), (0, 128, 25), (3, 128, 26), (0, 128, 27), (0, 128, 28), (0, 128, 29), (0, 128, 30), (2, 128, 31), (2, 128, 32), (0, 96, 33), (0, 96, 34), (0, 96, 35), (0, 96, 36), (2, 96, 37), (2, 6, 42), (0, 16, 43), (0, 16, 44), (0, 10, 46), (0, 8, 48), (0, 8, 49), (0, 100, 54), (0, 24, 56), (0, 24, 57), (0, 24, 58), (0, 24, 59), (0, 20, 61)]
def jqks : List Nat := jql.map (fun q => q.2.2)
def jqm (k : Nat) : Nat := if k = 3 then 0 else 1 + jqks.idxOf k
def jqk (j : Nat) : Nat := if j = 0 then 3 else jqks.getD (j - 1) 0
theorem jql_at : ∀ k, k < 62 → gx_arr k = true → (k = 3 ∨ (k ≠ 3 ∧ jql[jqks.idxOf k]? = some (gx_ak k, gx_al k, k))) ∧ jqk (jqm k) = k ∧ jqm k < 42 := by decide +kernel
theorem jql_no : ∀ k, k < 62 → gx_arr k = false → k ≠ 3 ∧ ∀ q ∈ jql, k ≠ q.2.2 := by decide +kernel
theorem jql_67 : gx_arr 6 = false ∧ gx_arr 7 = false ∧ gx_ak 3 = 1 ∧ gx_al 3 = 160 := by decide +kernel
/-- the state behind the model's constructor -/
def jqF (o : Nat) (S : gm_S) : gm_S := jqS o jql (gs_put (gs_put (jqS o [(1, 160, 3)] S) 406 o 0 (.int (-1))) 407 o 0 (.int (-1)))
section QF
variable {S : gm_S} {o : Nat}
theorem jqF_run (ht : gs_t S o = 4) (ho : o < gs_n S) (hc : gs_c S + 42 ≤ 600096) (hk : gs_k S + 4000 ≤ 7301386) (fu : Nat) : F_X4_init fu (some o) S = some (.returned none, jqF o S) := by
  have e : F_X4_init fu (some o) S = gz_q (g_at S (some o) 4) (jqA o [(1, 160, 3)] (fun S3 => Option.bind (g_pI S3 (some o) 4 6 (-1 : Int32)) fun S4 => Option.bind (g_pI S4 (some o) 4 7 (-1 : Int32)) fun S5 => jqA o jql (fun S => some (.returned none, S)) S5) S) := by
    unfold F_X4_init jql
    simp only [jqA]
    rfl
  obtain ⟨n1, n2, n3, n4⟩ := jqS_n o [(1, 160, 3)] S
  have t1 : gs_t (jqS o [(1, 160, 3)] S) o = 4 := by unfold gs_t; rw [jqS_old o _ S 0 o 0 ho (fun _ q hq => by omega)]; exact ht
  have t2 : gs_t (gs_put (jqS o [(1, 160, 3)] S) 406 o 0 (.int (-1))) o = 4 := (y_pt (by decide)).trans t1
  have t3 : gs_t (gs_put (gs_put (jqS o [(1, 160, 3)] S) 406 o 0 (.int (-1))) 407 o 0 (.int (-1))) o = 4 := (y_pt (by decide)).trans t2
  have s1 : (([(1, 160, 3)] : List (Nat × Nat × Nat)).map (fun q => q.2.1)).sum = 160 := by decide
  have s2 : (jql.map (fun q => q.2.1)).sum ≤ 3000 := by decide +kernel
  have l2 : jql.length = 41 := by decide +kernel
  have l1 : ([(1, 160, 3)] : List (Nat × Nat × Nat)).length = 1 := rfl
  rw [s1] at n3
  rw [l1] at n1 n2
  rw [e, y_q ht, jqA_go o _ S _ ht ho (by decide) (by rw [l1]; omega) (by rw [s1]; omega), y_pI t1, y_b, y_pI t2, y_b, jqA_go o jql _ _ t3 (by show o < gs_n (jqS o [(1, 160, 3)] S); omega) (by decide +kernel) (by show gs_c (jqS o [(1, 160, 3)] S) + _ ≤ _; omega) (by show gs_k (jqS o [(1, 160, 3)] S) + _ ≤ _; omega)]
  rfl
theorem jqF_n : gs_n (jqF o S) = gs_n S + 42 ∧ gs_c (jqF o S) = gs_c S + 42 ∧ gs_k (jqF o S) ≤ gs_k S + 3160 ∧ gs_k S ≤ gs_k (jqF o S) ∧ (jqF o S).2.1 = S.2.1 := by
  obtain ⟨n1, n2, n3, n4⟩ := jqS_n o [(1, 160, 3)] S
  obtain ⟨m1, m2, m3, m4⟩ := jqS_n o jql (gs_put (gs_put (jqS o [(1, 160, 3)] S) 406 o 0 (.int (-1))) 407 o 0 (.int (-1)))
  have s1 : (([(1, 160, 3)] : List (Nat × Nat × Nat)).map (fun q => q.2.1)).sum = 160 := by decide
  have s2 : (jql.map (fun q => q.2.1)).sum ≤ 3000 := by decide +kernel
  have l2 : jql.length = 41 := by decide +kernel
  have l1 : ([(1, 160, 3)] : List (Nat × Nat × Nat)).length = 1 := rfl
  rw [s1] at n3
  rw [l1] at n1 n2
  have m1 : gs_n (jqF o S) = gs_n (jqS o [(1, 160, 3)] S) + jql.length := m1
  have m2 : gs_c (jqF o S) = gs_c (jqS o [(1, 160, 3)] S) + jql.length := m2
  have m3 : gs_k (jqF o S) = gs_k (jqS o [(1, 160, 3)] S) + (jql.map (fun q => q.2.1)).sum := m3
  exact ⟨by omega, by omega, by omega, by omega, m4.trans n4⟩
theorem jqF_old {F b i : Nat} (hb : b < gs_n S) (h : b ≠ o ∨ F < 400) : (jqF o S).1 F b i = S.1 F b i := by
  obtain ⟨n1, n2, n3, n4⟩ := jqS_n o [(1, 160, 3)] S
  have l1 : ([(1, 160, 3)] : List (Nat × Nat × Nat)).length = 1 := rfl
  unfold jqF
  rw [jqS_old o jql _ F b i (by show b < gs_n (jqS o [(1, 160, 3)] S); omega) (fun e q hq => by omega), y_pM (by omega), y_pM (by omega), jqS_old o _ S F b i hb (fun e q hq => by omega)]
theorem jqF_arr (ho : o < gs_n S) {k : Nat} (hk : k < 62) (ha : gx_arr k = true) : (jqF o S).1 (400 + k) o 0 = .ref (gs_n S + jqm k) ∧ ∀ F i, (jqF o S).1 F (gs_n S + jqm k) i = if F = 0 ∧ i = 0 then .ref (100 + gx_ak k) else if F = 1 ∧ i = 0 then .ref (gx_al k) else .null := by
  obtain ⟨n1, n2, n3, n4⟩ := jqS_n o [(1, 160, 3)] S
  have l1 : ([(1, 160, 3)] : List (Nat × Nat × Nat)).length = 1 := rfl
  have N1 : gs_n (gs_put (gs_put (jqS o [(1, 160, 3)] S) 406 o 0 (.int (-1))) 407 o 0 (.int (-1))) = gs_n S + 1 := by show gs_n (jqS o [(1, 160, 3)] S) = _; omega
  rcases (jql_at k hk ha).1 with rfl | ⟨h3, h⟩
  · have q3 : jqm 3 = 0 := rfl
    rw [q3, jql_67.2.2.1, jql_67.2.2.2]
    unfold jqF
    constructor
    · rw [jqS_old o jql _ _ o 0 (by omega) (fun _ => by decide +kernel), y_pM (by omega), y_pM (by omega)]
      exact jqS_fld o [(1, 160, 3)] S 0 (1, 160, 3) ho (by decide) rfl
    · intro F i
      rw [jqS_old o jql _ F (gs_n S + 0) i (by omega) (fun e => by omega), y_pM (by omega), y_pM (by omega)]
      exact jqS_new o [(1, 160, 3)] S 0 (1, 160, 3) F i ho rfl
  · have q3 : jqm k = 1 + jqks.idxOf k := if_neg h3
    rw [q3]
    unfold jqF
    constructor
    · refine (jqS_fld o jql _ (jqks.idxOf k) _ (by rw [N1]; omega) (by decide +kernel) h).trans ?_
      rw [N1, Nat.add_assoc]
    · intro F i
      have := jqS_new o jql (gs_put (gs_put (jqS o [(1, 160, 3)] S) 406 o 0 (.int (-1))) 407 o 0 (.int (-1))) (jqks.idxOf k) _ F i (by rw [N1]; omega) h
      rw [N1] at this
      rw [show gs_n S + (1 + jqks.idxOf k) = gs_n S + 1 + jqks.idxOf k by omega]
      exact this
theorem jqF_fld (ho : o < gs_n S) {k : Nat} (hk : k < 62) (ha : gx_arr k = false) (hnul : ∀ F, F ≠ 0 → S.1 F o 0 = .null) : (jqF o S).1 (400 + k) o 0 = if k = 6 ∨ k = 7 then .int (-1) else .null := by
  obtain ⟨n1, n2, n3, n4⟩ := jqS_n o [(1, 160, 3)] S
  have l1 : ([(1, 160, 3)] : List (Nat × Nat × Nat)).length = 1 := rfl
  obtain ⟨h3, hq⟩ := jql_no k hk ha
  unfold jqF
  rw [jqS_old o jql _ _ o 0 (by show o < gs_n (jqS o [(1, 160, 3)] S); omega) (fun _ q hq' e => hq q hq' (by omega))]
  by_cases h7 : k = 7
  · rw [if_pos (Or.inr h7), h7]; exact y_pE
  · rw [y_pM (by omega)]
    by_cases h6 : k = 6
    · rw [if_pos (Or.inl h6), h6]; exact y_pE
    · rw [y_pM (by omega), if_neg (by omega), jqS_old o _ S _ o 0 ho (fun _ q hq e => by
        rw [List.mem_singleton.mp hq] at e
        have : (400 : Nat) + k = 400 + 3 := e
        omega)]
      exact hnul _ (by omega)
end QF
/-- the model's object and its rows, sealed -/
def jqZ (n o : Nat) (S : gm_S) : gm_S := ((fun F b i => if b = 0 then (if 400 ≤ F then (if (F = 406 ∨ F = 407) ∧ i = 0 then .int (-1) else .null) else S.1 F b i) else if b = o then (if F = 0 ∧ i = 0 then .ref 31 else if F = 6 ∧ i = 0 then .ref 100 else .null) else if n ≤ b ∧ b < n + 42 then (if F = 0 ∧ i = 0 then .ref 31 else if F = 6 ∧ i = 0 then .ref (jqk (b - n)) else .null) else S.1 F b i), S.2)
def jqM : gM := fun k i => if (400 + k = 406 ∨ 400 + k = 407) ∧ i = 0 then .int (-1) else .null
theorem jqZ_g (n o : Nat) (S : gm_S) : gm_g (jqZ n o S) = jqM := by
  funext k i
  unfold gm_g jqZ jqM
  dsimp only
  rw [if_pos rfl, if_pos (by omega)]
theorem jqZ_old {n o : Nat} {S : gm_S} {F b i : Nat} (h0 : b ≠ 0) (h1 : b ≠ o) (h2 : ¬ (n ≤ b ∧ b < n + 42)) : (jqZ n o S).1 F b i = S.1 F b i := by
  show (if b = 0 then _ else if b = o then _ else if n ≤ b ∧ b < n + 42 then _ else S.1 F b i) = _
  rw [if_neg h0, if_neg h1, if_neg h2]
theorem jqM_i : iM jqM := by
  refine ⟨rfl, rfl, rfl, rfl, rfl, rfl, rfl, rfl, rfl, rfl, fun i hi => ?_⟩
  show gm_D (if (400 + 42 = 406 ∨ 400 + 42 = 407) ∧ i = 0 then .int (-1) else .null) = _
  rw [if_neg (by omega)]
  rfl
theorem jqS_far (o : Nat) : ∀ (l : List (Nat × Nat × Nat)) (S : gm_S) (F b i : Nat), gs_n S + l.length ≤ b → b ≠ o → (jqS o l S).1 F b i = S.1 F b i := by
  intro l
  induction l with
  | nil => intro S F b i _ _; rfl
  | cons q l ih =>
    intro S F b i hb h
    rw [List.length_cons] at hb
    exact (ih (jq1 o q S) F b i (by show gs_n S + 1 + l.length ≤ b; omega) h).trans (jq1_old (by omega) (fun z => h z.2.1))
theorem jqF_far {S : gm_S} {o F b i : Nat} (hb : gs_n S + 42 ≤ b) (h : b ≠ o) : (jqF o S).1 F b i = S.1 F b i := by
  obtain ⟨n1, n2, n3, n4⟩ := jqS_n o [(1, 160, 3)] S
  have l1 : ([(1, 160, 3)] : List (Nat × Nat × Nat)).length = 1 := rfl
  have l2 : jql.length = 41 := by decide +kernel
  unfold jqF
  rw [jqS_far o jql _ F b i (by show gs_n (jqS o [(1, 160, 3)] S) + _ ≤ b; omega) h, y_pM (by omega), y_pM (by omega), jqS_far o _ S F b i (by omega) h]
