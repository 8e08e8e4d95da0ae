/-! LAYER 2: the default way down, in the model: a stack -/
set_option maxRecDepth 100000
section RCN
variable {A : gA} {M0 C : gM} {c1 c2 : Nat}
def sk (M : gM) (L : List Nat) : Prop := ∀ j t, L[j]? = some t → n_I M 61 j = nI t
theorem inc_len {L : List Nat} {n : Nat} (h : L.Pairwise (· < ·)) (hb : ∀ t ∈ L, t < n) : L.length ≤ n := by
  have key : ∀ j (hj : j < L.length), j ≤ L[j] := by
    intro j
    induction j with
    | zero => intro _; omega
    | succ j ih =>
      intro hj
      have := List.pairwise_iff_getElem.mp h j (j + 1) (by omega) hj (by omega)
      have := ih (by omega)
      omega
  cases hl : L.length with
  | zero => omega
  | succ q =>
    have := key q (by omega)
    have := hb L[q] (List.getElem_mem _)
    omega
theorem m_push0 (hW : cW A C) (fu : Nat) (k9 : Int32 → gM → gQ) {s : Nat} (hs : s < A 9 0) (hk : c_kind A C s = 1) (x2 : Int32) {M : gM} (hc : Mc M = C) : ∀ (d i n : Nat), A 9 0 - i = d → i ≤ A 9 0 → d < n → F_X4_down_76 fu k9 n x2 (nI s) 0 (nI i) M = k9 x2 M := by
  have hn16 : A 9 0 ≤ 16 := hW.1.2.2.2.1
  intro d
  induction d with
  | zero =>
    intro i n hd hi hn
    obtain ⟨n, rfl⟩ : ∃ n', n = n' + 1 := ⟨n - 1, by omega⟩
    rw [F_X4_down_76, q_n hW hc, y_b, show i = A 9 0 by omega, if_pos (Int32.le_refl _)]
  | succ d ih =>
    intro i n hd hi hn
    obtain ⟨n, rfl⟩ : ∃ n', n = n' + 1 := ⟨n - 1, by omega⟩
    have hlt : i < A 9 0 := by omega
    have := ih (i + 1) n (by omega) (by omega) (by omega)
    rw [F_X4_down_76, q_n hW hc, y_b, if_neg (nI_ge hlt (by omega)), q_out hW hc fu hlt, y_cI, nI_1]
    by_cases h1 : c_out A i = nI s
    · rw [if_pos h1, q_bel hW hc fu hlt, y_cI]
      by_cases h2 : (n_I M 60 0 &&& (c_bel A C i ||| v_bit i)) = 0
      · rw [if_pos h2, q_kind hW hc fu hs, y_cI, if_pos hk, if_pos rfl, this]
      · rw [if_neg h2, this]
    · rw [if_neg h1, this]
theorem sk.push {M : gM} {L : List Nat} {c : Nat} (h : sk M L) : sk (n_up M 61 L.length (.int (nI c))) (L ++ [c]) := by
  intro j t hj
  by_cases e : j = L.length
  · subst e
    rw [List.getElem?_append_right (Nat.le_refl _), Nat.sub_self] at hj
    cases hj
    unfold n_I
    rw [y_us]; rfl
  · have hj2 := (List.getElem?_eq_some_iff.mp hj).1
    rw [List.length_append] at hj2
    have hj2 : j < L.length + 1 := hj2
    rw [List.getElem?_append_left (by omega)] at hj
    unfold n_I
    rw [y_ui e]
    exact h j t hj
theorem m_push1 (hW : cW A C) (fu : Nat) (hf : 100 ≤ fu) (k9 : Int32 → gM → gQ) {s c : Nat} (hs : s < A 9 0) (hk : c_kind A C s = 1) (hcs : c < A 9 0) (hco : A 24 c = s + 1) {M : gM} (hc : Mc M = C) (hx : (n_I M 60 0 &&& c_bel A C s) = 0) {L : List Nat} (hL : L.length < 20) (hsk : sk M L) : ∀ (d i n : Nat), c - i = d → i ≤ c → 16 - i < n → (∀ j, i ≤ j → j < c → A 24 j ≠ s + 1) → F_X4_down_76 fu k9 n (nI L.length) (nI s) 1 (nI i) M = k9 (nI (L.length + 1)) (n_up M 61 L.length (.int (nI c))) := by
  have hn16 : A 9 0 ≤ 16 := hW.1.2.2.2.1
  intro d
  induction d with
  | zero =>
    intro i n hd hi hn hmin
    obtain ⟨n, rfl⟩ : ∃ n', n = n' + 1 := ⟨n - 1, by omega⟩
    have e : i = c := by omega
    subst e
    have h0 : (n_I M 60 0 &&& (c_bel A C i ||| v_bit i)) = 0 := by
      refine v_disj.mpr (fun k hk z => ?_)
      have := v_disj.mp hx k hk
      exact this ⟨z.1, ch_sub hW hs hcs hco z.2⟩
    have hc' : Mc (n_up M 61 L.length (.int (nI i))) = C := Mc_up hc (by omega)
    rw [F_X4_down_76, q_n hW hc, y_b, if_neg (nI_ge hcs (by omega)), q_out hW hc fu hcs, y_cI, nI_1, if_pos ((c_out_eq hW hcs hs).mpr hco), q_bel hW hc fu hcs, y_cI, if_pos h0, q_kind hW hc fu hs, y_cI, if_pos hk, if_neg (by decide)]
    unfold F_X4_down_136
    rw [y_sI hL (by omega), y_b, nI_1, nI_1, m_push0 hW fu k9 hs hk _ hc' (A 9 0 - (i + 1)) (i + 1) n rfl (by omega) (by omega)]
  | succ d ih =>
    intro i n hd hi hn hmin
    obtain ⟨n, rfl⟩ : ∃ n', n = n' + 1 := ⟨n - 1, by omega⟩
    have hlt : i < A 9 0 := by omega
    rw [F_X4_down_76, q_n hW hc, y_b, if_neg (nI_ge hlt (by omega)), q_out hW hc fu hlt, y_cI, nI_1, if_neg (fun z => hmin i (Nat.le_refl _) (by omega) ((c_out_eq hW hlt hs).mp z)), ih (i + 1) n (by omega) (by omega) (by omega) (fun j h1 h2 => hmin j (by omega) h2)]
theorem m_push2 (hW : cW A C) (fu : Nat) {s : Nat} (hs : s < A 9 0) (hk : c_kind A C s ≠ 1) {x : Int32} : ∀ (d i : Nat) (M : gM) (L : List Nat) (n : Nat) (x4 : Int32), A 9 0 - i = d → i ≤ A 9 0 → d < n → Mc M = C → n_I M 60 0 = x → sk M L → L.Pairwise (· < ·) → (∀ t ∈ L, t < i) →
    ∃ cs M', (∀ k9 : Int32 → gM → gQ, F_X4_down_76 fu k9 n (nI L.length) (nI s) x4 (nI i) M = k9 (nI (L ++ cs).length) M') ∧ sk M' (L ++ cs) ∧ (L ++ cs).Pairwise (· < ·) ∧ (∀ c, c ∈ cs ↔ i ≤ c ∧ c < A 9 0 ∧ A 24 c = s + 1 ∧ (x &&& c_sub A C c) = 0) ∧ (∀ k i', k ≠ 61 → M' k i' = M k i') ∧ (∀ j, j < L.length → M' 61 j = M 61 j) := by
  have hn16 : A 9 0 ≤ 16 := hW.1.2.2.2.1
  intro d
  induction d with
  | zero =>
    intro i M L n x4 hd hi hn hc hx hsk hp hb
    obtain ⟨n, rfl⟩ : ∃ n', n = n' + 1 := ⟨n - 1, by omega⟩
    refine ⟨[], M, fun k9 => ?_, by rw [List.append_nil]; exact hsk, by rw [List.append_nil]; exact hp, fun c => ⟨fun z => (by cases z), fun z => by omega⟩, fun _ _ _ => rfl, fun _ _ => rfl⟩
    rw [F_X4_down_76, q_n hW hc, y_b, show i = A 9 0 by omega, if_pos (Int32.le_refl _), List.append_nil]
  | succ d ih =>
    intro i M L n x4 hd hi hn hc hx hsk hp hb
    obtain ⟨n, rfl⟩ : ∃ n', n = n' + 1 := ⟨n - 1, by omega⟩
    have hlt : i < A 9 0 := by omega
    have skip : ¬ (A 24 i = s + 1 ∧ (x &&& c_sub A C i) = 0) → ∃ cs M', (∀ k9 : Int32 → gM → gQ, F_X4_down_76 fu k9 n (nI L.length) (nI s) x4 (nI (i + 1)) M = k9 (nI (L ++ cs).length) M') ∧ sk M' (L ++ cs) ∧ (L ++ cs).Pairwise (· < ·) ∧ (∀ c, c ∈ cs ↔ i ≤ c ∧ c < A 9 0 ∧ A 24 c = s + 1 ∧ (x &&& c_sub A C c) = 0) ∧ (∀ k i', k ≠ 61 → M' k i' = M k i') ∧ (∀ j, j < L.length → M' 61 j = M 61 j) := by
      intro hno
      obtain ⟨cs, M', w1, w2, w3, w4, w5, w6⟩ := ih (i + 1) M L n x4 (by omega) (by omega) (by omega) hc hx hsk hp (fun t ht => by have := hb t ht; omega)
      refine ⟨cs, M', w1, w2, w3, fun c => ⟨fun z => ?_, fun z => ?_⟩, w5, w6⟩
      · obtain ⟨z1, z2⟩ := (w4 c).mp z
        exact ⟨by omega, z2⟩
      · refine (w4 c).mpr ⟨?_, z.2⟩
        rcases Nat.lt_or_ge i c with y | y
        · exact y
        · have e : c = i := by omega
          subst e
          exact absurd z.2.2 hno
    by_cases h1 : c_out A i = nI s
    · have hco := (c_out_eq hW hlt hs).mp h1
      by_cases h2 : (x &&& (c_bel A C i ||| v_bit i)) = 0
      · have hll : L.length ≤ 16 := Nat.le_trans (inc_len (n := i) hp hb) (by omega)
        have el : (L ++ [i]).length = L.length + 1 := by rw [List.length_append]; rfl
        obtain ⟨cs, M', w1, w2, w3, w4, w5, w6⟩ := ih (i + 1) (n_up M 61 L.length (.int (nI i))) (L ++ [i]) n 0 (by omega) (by omega) (by omega) (Mc_up hc (by omega)) (by unfold n_I; rw [y_uk (by decide)]; exact hx) hsk.push (List.pairwise_append.mpr ⟨hp, List.pairwise_singleton _ _, fun a ha b hb' => by rw [List.mem_singleton.mp hb']; exact hb a ha⟩) (fun t ht => by
          rcases List.mem_append.mp ht with z | z
          · have := hb t z; omega
          · rw [List.mem_singleton.mp z]; omega)
        rw [el] at w1
        have ea : L ++ [i] ++ cs = L ++ i :: cs := by simp
        rw [ea] at w1 w2 w3
        refine ⟨i :: cs, M', fun k9 => ?_, w2, w3, fun c => ⟨fun z => ?_, fun z => ?_⟩, fun k i' hk' => (w5 k i' hk').trans (y_uk hk'), fun j hj => (w6 j (by omega)).trans (y_ui (by omega))⟩
        · rw [F_X4_down_76, q_n hW hc, y_b, if_neg (nI_ge hlt (by omega)), q_out hW hc fu hlt, y_cI, nI_1, if_pos h1, q_bel hW hc fu hlt, y_cI, hx, if_pos h2, q_kind hW hc fu hs, y_cI, if_neg hk]
          unfold F_X4_down_136
          rw [y_sI (by omega) (by omega), y_b, nI_1, nI_1, w1 k9]
        · rcases List.mem_cons.mp z with z | z
          · subst z; exact ⟨Nat.le_refl _, hlt, hco, h2⟩
          · obtain ⟨z1, z2⟩ := (w4 c).mp z
            exact ⟨by omega, z2⟩
        · by_cases e : c = i
          · rw [e]; exact List.mem_cons_self
          · exact List.mem_cons_of_mem _ ((w4 c).mpr ⟨by omega, z.2⟩)
      · obtain ⟨cs, M', w1, w2⟩ := skip (fun z => h2 z.2)
        refine ⟨cs, M', fun k9 => ?_, w2⟩
        rw [F_X4_down_76, q_n hW hc, y_b, if_neg (nI_ge hlt (by omega)), q_out hW hc fu hlt, y_cI, nI_1, if_pos h1, q_bel hW hc fu hlt, y_cI, hx, if_neg h2, w1 k9]
    · obtain ⟨cs, M', w1, w2⟩ := skip (fun z => h1 ((c_out_eq hW hlt hs).mpr z.1))
      refine ⟨cs, M', fun k9 => ?_, w2⟩
      rw [F_X4_down_76, q_n hW hc, y_b, if_neg (nI_ge hlt (by omega)), q_out hW hc fu hlt, y_cI, nI_1, if_neg h1, w1 k9]
/-- one state popped, and all that hangs on it -/
def mB (A : gA) (C : gM) (fu n s : Nat) : Prop := ∀ (L : List Nat) (M : gM) (x : Int32), Mc M = C → n_I M 60 0 = x → sk M (L ++ [s]) → (L ++ [s]).Pairwise (· < ·) → ∃ c M', c ≤ 17 ^ n ∧ (∀ f, F_X4_down_9 fu (f + c) (nI (L.length + 1)) M = F_X4_down_9 fu f (nI L.length) M') ∧ n_I M' 60 0 = dn A C n s x ∧ (∀ k i, ¬ (k = 60 ∨ k = 61) → M' k i = M k i) ∧ (∀ j, j < L.length → M' 61 j = M 61 j)
theorem m_stk (hW : cW A C) {fu n s : Nat} (hs : s < A 9 0) : ∀ (q : Nat) (cs L : List Nat) (M : gM) (x : Int32), cs.length = q → (∀ c ∈ cs, c < A 9 0 ∧ A 24 c = s + 1 ∧ mB A C fu n c) → Mc M = C → n_I M 60 0 = x → sk M (L ++ cs) → (L ++ cs).Pairwise (· < ·) →
    ∃ c M', c ≤ q * 17 ^ n ∧ (∀ f, F_X4_down_9 fu (f + c) (nI (L ++ cs).length) M = F_X4_down_9 fu f (nI L.length) M') ∧ (∀ c ∈ cs, ∀ k, bt (c_sub A C c) k = true → bt (n_I M' 60 0) k = bt (dn A C n c x) k) ∧ (∀ k, (∀ c ∈ cs, bt (c_sub A C c) k = false) → bt (n_I M' 60 0) k = bt x k) ∧ (∀ k i, ¬ (k = 60 ∨ k = 61) → M' k i = M k i) ∧ (∀ j, j < L.length → M' 61 j = M 61 j) := by
  intro q
  induction q with
  | zero =>
    intro cs L M x hq hcs hc hx hsk hp
    have e : cs = [] := List.length_eq_zero_iff.mp hq
    subst e
    refine ⟨0, M, by omega, fun f => by rw [List.append_nil]; rfl, fun c z => (by cases z), fun k _ => by rw [hx], fun _ _ _ => rfl, fun _ _ => rfl⟩
  | succ q ih =>
    intro cs L M x hq hcs hc hx hsk hp
    obtain ⟨p, u, rfl⟩ : ∃ p u, cs = p ++ [u] := ⟨cs.dropLast, cs.getLast (fun z => by rw [z] at hq; cases hq), (List.dropLast_concat_getLast _).symm⟩
    have hpl : p.length = q := by rw [List.length_append] at hq; simpa using hq
    obtain ⟨u1, u2, u3⟩ := hcs u (by simp)
    have ea : L ++ (p ++ [u]) = L ++ p ++ [u] := by simp
    rw [ea] at hsk hp
    obtain ⟨c, M1, z1, z2, z3, z4, z5⟩ := u3 (L ++ p) M x hc hx hsk hp
    have hp' := (List.pairwise_append.mp hp).1
    have hsk' : sk M1 (L ++ p) := by
      intro j t hj
      have hj2 := (List.getElem?_eq_some_iff.mp hj).1
      unfold n_I
      rw [z5 j hj2]
      exact hsk j t (by rw [List.getElem?_append_left hj2]; exact hj)
    have hc1 : Mc M1 = C := Mc_ag hc (fun k i z => z4 k i (by omega))
    obtain ⟨c', M', w1, w2, w3, w4, w5, w6⟩ := ih p L M1 (dn A C n u x) hpl (fun c hc' => hcs c (by simp [hc'])) hc1 z3 hsk' hp'
    have hne : ∀ d, d ∈ p → d ≠ u := fun d hd e => by
      have := (List.pairwise_append.mp hp).2.2 d (by simp [hd]) u (by simp)
      omega
    refine ⟨c' + c, M', ?_, fun f => ?_, fun d hd k hk => ?_, fun k hk => ?_, fun k i z => (w5 k i z).trans (z4 k i z), fun j hj => (w6 j hj).trans (z5 j (by rw [List.length_append]; omega))⟩
    · rw [Nat.succ_mul]; omega
    · rw [← Nat.add_assoc, show (L ++ (p ++ [u])).length = (L ++ p).length + 1 by simp [Nat.add_assoc], z2, w2]
    · rcases List.mem_append.mp hd with y | y
      · obtain ⟨d1, d2, -⟩ := hcs d hd
        rw [w3 d y k hk]
        exact dn_in hW n d _ _ d1 (fun k' hk' => dn_out hW n u x k' u1 (ch_dis hW hs d1 u1 d2 u2 (hne d y) hk')) k hk
      · rw [List.mem_singleton.mp y] at hk ⊢
        refine w4 k (fun d hd' => ?_)
        obtain ⟨d1, d2, -⟩ := hcs d (by simp [hd'])
        exact ch_dis hW hs u1 d1 u2 d2 (Ne.symm (hne d hd')) hk
    · rw [w4 k (fun d hd' => hk d (by simp [hd'])), dn_out hW n u x k u1 (hk u (by simp))]
theorem ch_inc (A : gA) (s : Nat) : (l_ch A s).Pairwise (· < ·) := by
  unfold l_ch
  exact List.Pairwise.filter _ List.pairwise_lt_range
theorem hd_min (hW : cW A C) {s : Nat} (hs : s < A 9 0) (h : c_kind A C s = 1) : ∀ j, j < (l_ch A s).headD 0 → A 24 j ≠ s + 1 := by
  obtain ⟨e1, -, -⟩ := hd_ch hW hs h
  intro j hj e
  have hm : j ∈ l_ch A s := mem_ch.mpr ⟨by omega, e⟩
  have hi := ch_inc A s
  cases hl : l_ch A s with
  | nil => rw [hl] at hm; cases hm
  | cons a t =>
    rw [hl] at hm hi hj
    have hj : j < a := hj
    rcases List.mem_cons.mp hm with z | z
    · omega
    · have := (List.pairwise_cons.mp hi).1 j z
      omega
theorem ch_up (hW : cW A C) {s c : Nat} (hc : c < A 9 0) (e : A 24 c = s + 1) : s < c := by
  have := (hW.2.1 c hc).2.1
  omega
theorem m_dn (hW : cW A C) {fu : Nat} (hf : 100 ≤ fu) : ∀ (n s : Nat), s < A 9 0 → 7 ≤ n + A 25 s → mB A C fu n s := by
  have hn16 : A 9 0 ≤ 16 := hW.1.2.2.2.1
  intro n
  induction n with
  | zero =>
    intro s hs hd
    have := (hW.2.1 s hs).2.2.2.2.2.1
    omega
  | succ n ih =>
    intro s hs hd L M x hc hx hsk hp
    have hI : ∀ c, c < A 9 0 → A 24 c = s + 1 → mB A C fu n c := by
      intro c hc e
      have := (hW.2.1 c hc).2.2.2.2.2.2 (by omega)
      rw [e, Nat.add_sub_cancel] at this
      exact ih c hc (by omega)
    have h17 : 1 ≤ 17 ^ n := Nat.pow_pos (by decide)
    obtain ⟨hpL, -, hpb⟩ := List.pairwise_append.mp hp
    have hLs : ∀ t ∈ L, t < s := fun t ht => hpb t ht s (by simp)
    have hlen : L.length ≤ s := inc_len hpL hLs
    have htop : n_I M 61 L.length = nI s := hsk L.length s (by simp)
    have hskL : ∀ (M' : gM), (∀ j, j < L.length → M' 61 j = M 61 j) → sk M' L := by
      intro M' h j t hj
      have hj2 := (List.getElem?_eq_some_iff.mp hj).1
      unfold n_I
      rw [h j hj2]
      exact hsk j t (by rw [List.getElem?_append_left hj2]; exact hj)
    obtain ⟨N, hN⟩ : ∃ N, N = n_p M 60 (x ||| v_bit s) := ⟨_, rfl⟩
    have hNo : ∀ k i, k ≠ 60 → N k i = M k i := fun k i z => by rw [hN]; exact y_uk z
    have hN60 : n_I N 60 0 = x ||| v_bit s := by rw [hN]; show gm_I (n_up M 60 0 _ 60 0) = _; rw [y_us]; rfl
    have hNc : Mc N = C := Mc_ag hc (fun k i z => hNo k i (by omega))
    have start : ∀ f, F_X4_down_9 fu (f + 1) (nI (L.length + 1)) M = (gz_cI (F_X4_kindOf fu (nI s) N) fun v5 M5 =>
        if v5 = 0 then (F_X4_down_9 fu f (nI L.length) M5)
        else (gz_cI (F_X4_kindOf fu (nI s) M5) fun v6 M6 =>
        if v6 = (1 : Int32) then (gz_cI (F_X4_belowOf fu (nI s) M6) fun v8 M8 =>
        if ((n_I M6 60 0) &&& v8) = 0 then (F_X4_down_76 fu (F_X4_down_9 fu f) fu (nI L.length) (nI s) (1 : Int32) (nI (s + 1)) M8)
        else (F_X4_down_9 fu f (nI L.length) M8))
        else (F_X4_down_76 fu (F_X4_down_9 fu f) fu (nI L.length) (nI s) (1 : Int32) (nI (s + 1)) M6))) := by
      intro f
      have hne : ¬ nI (L.length + 1) ≤ 0 := fun z => by
        have := (nI_leI (a := L.length + 1) (b := 0) (by omega) (by omega)).mp z
        omega
      rw [F_X4_down_9, if_neg hne, pk_m1, y_aI (by omega) (by omega), y_b, htop, show n_pIO M 60 (n_I M 60 0 ||| v_bit s) = some (n_p M 60 (n_I M 60 0 ||| v_bit s)) from rfl, y_b, hx, ← hN, nI_1]
    have stop : (∀ f, F_X4_down_9 fu (f + 1) (nI (L.length + 1)) M = F_X4_down_9 fu f (nI L.length) N) → dn A C (n + 1) s x = x ||| v_bit s → ∃ c M', c ≤ 17 ^ (n + 1) ∧ (∀ f, F_X4_down_9 fu (f + c) (nI (L.length + 1)) M = F_X4_down_9 fu f (nI L.length) M') ∧ n_I M' 60 0 = dn A C (n + 1) s x ∧ (∀ k i, ¬ (k = 60 ∨ k = 61) → M' k i = M k i) ∧ (∀ j, j < L.length → M' 61 j = M 61 j) := by
      intro h1 h2
      exact ⟨1, N, by rw [Nat.pow_succ]; omega, h1, hN60.trans h2.symm, fun k i z => hNo k i (by omega), fun j _ => hNo _ _ (by decide)⟩
    by_cases k0 : c_kind A C s = 0
    · refine stop (fun f => ?_) ?_
      · rw [start, q_kind hW hNc fu hs, y_cI, if_pos k0]
      · rw [dn_s, k0, if_neg (by decide), if_neg (by decide)]
    · by_cases k1 : c_kind A C s = 1
      · by_cases h0 : ((x ||| v_bit s) &&& c_bel A C s) = 0
        · obtain ⟨e1, e2, e3⟩ := hd_ch hW hs k1
          obtain ⟨c, hcd⟩ : ∃ c, c = (l_ch A s).headD 0 := ⟨_, rfl⟩
          have hmin := hd_min hW hs k1
          rw [← hcd] at e1 e2 hmin
          have hsc := ch_up hW e1 e2
          have push := fun f => m_push1 hW fu hf (F_X4_down_9 fu f) hs k1 e1 e2 hNc (by rw [hN60]; exact h0) (L := L) (by omega) (hskL N (fun j _ => hNo _ _ (by decide))) (c - (s + 1)) (s + 1) fu rfl (by omega) (by omega) (fun j _ hj => hmin j hj)
          obtain ⟨N2, hN2⟩ : ∃ N2, N2 = n_up N 61 L.length (.int (nI c)) := ⟨_, rfl⟩
          have hskc : sk N2 (L ++ [c]) := by rw [hN2]; exact (hskL N (fun j _ => hNo _ _ (by decide))).push
          have hpc : (L ++ [c]).Pairwise (· < ·) := List.pairwise_append.mpr ⟨hpL, List.pairwise_singleton _ _, fun a ha b hb' => by rw [List.mem_singleton.mp hb']; have := hLs a ha; omega⟩
          obtain ⟨q, M', z1, z2, z3, z4, z5⟩ := hI c e1 e2 L N2 (x ||| v_bit s) (by rw [hN2]; exact Mc_up hNc (by omega)) (by rw [hN2]; unfold n_I; rw [y_uk (by decide)]; exact hN60) hskc hpc
          refine ⟨q + 1, M', by rw [Nat.pow_succ]; omega, fun f => ?_, ?_, fun k i z => ?_, fun j hj => ?_⟩
          · rw [← Nat.add_assoc, start, q_kind hW hNc fu hs, y_cI, if_neg k0, q_kind hW hNc fu hs, y_cI, if_pos k1, q_bel hW hNc fu hs, y_cI, hN60, if_pos h0, push, ← hN2, z2]
          · rw [z3, dn_s, if_pos k1, if_pos h0, ← hcd]
          · rw [z4 k i z, hN2, y_uk (by omega)]
            exact hNo k i (by omega)
          · rw [z5 j hj, hN2, y_ui (by omega)]
            exact hNo _ _ (by decide)
        · refine stop (fun f => ?_) ?_
          · rw [start, q_kind hW hNc fu hs, y_cI, if_neg k0, q_kind hW hNc fu hs, y_cI, if_pos k1, q_bel hW hNc fu hs, y_cI, hN60, if_neg h0]
          · rw [dn_s, if_pos k1, if_neg h0]
      · have k2 : c_kind A C s = 2 := by
          rcases (hW.2.1 s hs).2.2.1 with z | z | z
          · exact absurd z k0
          · exact absurd z k1
          · exact z
        obtain ⟨cs, M1, pu, p2, p3, p4, p5, p6⟩ := m_push2 hW fu hs k1 (x := x ||| v_bit s) (A 9 0 - (s + 1)) (s + 1) N L fu 1 rfl (by omega) (by omega) hNc hN60 (hskL N (fun j _ => hNo _ _ (by decide))) hpL (fun t ht => by have := hLs t ht; omega)
        obtain ⟨q, M', z1, z2, z3, z4, z5, z6⟩ := m_stk hW hs cs.length cs L M1 (x ||| v_bit s) rfl (fun c hc' => by
          obtain ⟨-, y1, y2, -⟩ := (p4 c).mp hc'
          exact ⟨y1, y2, hI c y1 y2⟩) (Mc_ag hNc (fun k i z => p5 k i (by omega))) (by unfold n_I; rw [p5 _ _ (by decide)]; exact hN60) p2 p3
        have hcl : cs.length ≤ 16 := Nat.le_trans (inc_len (n := A 9 0) (List.pairwise_append.mp p3).2.1 (fun c hc' => ((p4 c).mp hc').2.1)) hn16
        have hq : q ≤ 16 * 17 ^ n := Nat.le_trans z1 (Nat.mul_le_mul_right _ hcl)
        refine ⟨q + 1, M', by rw [Nat.pow_succ]; omega, fun f => ?_, ?_, fun k i z => ?_, fun j hj => ?_⟩
        · rw [← Nat.add_assoc, start, q_kind hW hNc fu hs, y_cI, if_neg k0, q_kind hW hNc fu hs, y_cI, if_neg k1, pu, z2]
        · rw [dn_s, if_neg k1, if_pos k2]
          obtain ⟨g1, g2⟩ := fo_ch hW n hs (l_ch A s) (x ||| v_bit s) (fun c hc' => mem_ch.mp hc') (ch_nd A s)
          apply b_ext
          intro k _
          by_cases hex : ∃ c, c ∈ l_ch A s ∧ bt (c_sub A C c) k = true
          · obtain ⟨c, hc1, hc2⟩ := hex
            obtain ⟨y1, y2⟩ := mem_ch.mp hc1
            rw [g1 c hc1 k hc2]
            unfold gn
            by_cases h0 : ((x ||| v_bit s) &&& c_sub A C c) = 0
            · rw [if_pos h0, z3 c ((p4 c).mpr ⟨ch_up hW y1 y2, y1, y2, h0⟩) k hc2]
            · rw [if_neg h0]
              refine z4 k (fun d hd' => ?_)
              obtain ⟨-, d1, d2, d3⟩ := (p4 d).mp hd'
              exact ch_dis hW hs y1 d1 y2 d2 (fun e => h0 (by rw [e]; exact d3)) hc2
          · have hno : ∀ c, c ∈ l_ch A s → bt (c_sub A C c) k = false := fun c hc' => by
              cases hb : bt (c_sub A C c) k with
              | false => rfl
              | true => exact absurd ⟨c, hc', hb⟩ hex
            rw [g2 k hno]
            refine z4 k (fun d hd' => ?_)
            obtain ⟨-, d1, d2, -⟩ := (p4 d).mp hd'
            exact hno d (mem_ch.mpr ⟨d1, d2⟩)
        · rw [z5 k i z, p5 k i (by omega)]
          exact hNo k i (by omega)
        · rw [z6 j hj, p6 j hj]
          exact hNo _ _ (by decide)
end RCN
