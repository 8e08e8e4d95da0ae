/-! LAYER 2: the default way down -/
set_option maxRecDepth 100000
section RCM
variable {A : gA} {M0 C : gM} {c1 c2 : Nat}
/-- the default way down from s, added to a set -/
def dn (A : gA) (C : gM) : Nat → Nat → Int32 → Int32
  | 0, _, x => x
  | n + 1, s, x => if c_kind A C s = 1 then (if ((x ||| v_bit s) &&& c_bel A C s) = 0 then dn A C n ((l_ch A s).headD 0) (x ||| v_bit s) else x ||| v_bit s)
    else if c_kind A C s = 2 then (l_ch A s).foldl (fun z c => if (z &&& c_sub A C c) = 0 then dn A C n c z else z) (x ||| v_bit s) else x ||| v_bit s
def gn (A : gA) (C : gM) (n : Nat) (z : Int32) (c : Nat) : Int32 := if (z &&& c_sub A C c) = 0 then dn A C n c z else z
theorem dn_s (n s : Nat) (x : Int32) : dn A C (n + 1) s x = if c_kind A C s = 1 then (if ((x ||| v_bit s) &&& c_bel A C s) = 0 then dn A C n ((l_ch A s).headD 0) (x ||| v_bit s) else x ||| v_bit s)
    else if c_kind A C s = 2 then (l_ch A s).foldl (gn A C n) (x ||| v_bit s) else x ||| v_bit s := rfl
theorem b_lt {x : Int32} {k : Nat} (h : bt x k = true) : k < 32 := by
  rcases Nat.lt_or_ge k 32 with z | z
  · exact z
  · rw [b_big z] at h; cases h
theorem v_ag {x y m : Int32} (h : ∀ k, bt m k = true → bt x k = bt y k) : (x &&& m) = (y &&& m) := by
  apply b_ext
  intro k _
  rw [b_and, b_and]
  cases hm : bt m k with
  | false => rw [Bool.and_false, Bool.and_false]
  | true => rw [h k hm]
theorem ch_sub (hW : cW A C) {s c k : Nat} (hs : s < A 9 0) (hc : c < A 9 0) (h : A 24 c = s + 1) (hk : bt (c_sub A C c) k = true) : bt (c_bel A C s) k = true :=
  v_sub.mp ((hW.2.2.1 s hs).2.1 c hc h) k (b_lt hk) hk
theorem ch_dis (hW : cW A C) {s c d k : Nat} (hs : s < A 9 0) (hc : c < A 9 0) (hd : d < A 9 0) (h : A 24 c = s + 1) (h' : A 24 d = s + 1) (hne : c ≠ d) (hk : bt (c_sub A C c) k = true) : bt (c_sub A C d) k = false := by
  have := v_disj.mp ((hW.2.2.1 s hs).2.2 c d hc hd h h' hne) k (b_lt hk)
  cases hz : bt (c_sub A C d) k with
  | false => rfl
  | true => exact absurd ⟨hk, hz⟩ this
theorem sub_of {s k : Nat} (hb : bt (c_bel A C s) k = true) : bt (c_sub A C s) k = true := by rw [b_or, hb]; rfl
theorem hd_ch (hW : cW A C) {s : Nat} (hs : s < A 9 0) (h : c_kind A C s = 1) : (l_ch A s).headD 0 < A 9 0 ∧ A 24 ((l_ch A s).headD 0) = s + 1 ∧ (l_ch A s)[0]? = some ((l_ch A s).headD 0) := by
  have hne := (hW.2.1 s hs).2.2.2.1 (by rw [h]; decide)
  cases hl : l_ch A s with
  | nil => exact absurd hl hne
  | cons a t =>
    have : a ∈ l_ch A s := by rw [hl]; exact List.mem_cons_self
    obtain ⟨e1, e2⟩ := mem_ch.mp this
    exact ⟨e1, e2, rfl⟩
theorem bt_or_bit {x : Int32} {s k : Nat} (hs : s < 32) (h : k ≠ s) : bt (x ||| v_bit s) k = bt x k := by
  rw [b_or, v_bt hs, decide_eq_false h, Bool.or_false]
theorem dn_out (hW : cW A C) : ∀ (n s : Nat) (x : Int32) (k : Nat), s < A 9 0 → bt (c_sub A C s) k = false → bt (dn A C n s x) k = bt x k := by
  have hn16 : A 9 0 ≤ 16 := hW.1.2.2.2.1
  intro n
  induction n with
  | zero => intro s x k _ _; rfl
  | succ n ih =>
    intro s x k hs hk
    have hks : k ≠ s := fun z => by
      rw [z, b_or, v_bt (by omega), decide_eq_true rfl, Bool.or_true] at hk
      cases hk
    have hkb : bt (c_bel A C s) k = false := by
      cases hb : bt (c_bel A C s) k with
      | false => rfl
      | true => rw [sub_of hb] at hk; cases hk
    have hch : ∀ c, c < A 9 0 → A 24 c = s + 1 → bt (c_sub A C c) k = false := fun c hc h => by
      cases hb : bt (c_sub A C c) k with
      | false => rfl
      | true => rw [ch_sub hW hs hc h hb] at hkb; cases hkb
    have hx : bt (x ||| v_bit s) k = bt x k := bt_or_bit (by omega) hks
    rw [dn_s]
    by_cases h1 : c_kind A C s = 1
    · rw [if_pos h1]
      obtain ⟨e1, e2, -⟩ := hd_ch hW hs h1
      by_cases h0 : ((x ||| v_bit s) &&& c_bel A C s) = 0
      · rw [if_pos h0, ih _ _ _ e1 (hch _ e1 e2), hx]
      · rw [if_neg h0, hx]
    · rw [if_neg h1]
      by_cases h2 : c_kind A C s = 2
      · rw [if_pos h2]
        have : ∀ (cs : List Nat) (z : Int32), (∀ c ∈ cs, c ∈ l_ch A s) → bt (cs.foldl (gn A C n) z) k = bt z k := by
          intro cs
          induction cs with
          | nil => intro z _; rfl
          | cons c cs ihc =>
            intro z hcs
            obtain ⟨e1, e2⟩ := mem_ch.mp (hcs c List.mem_cons_self)
            rw [List.foldl_cons, ihc _ (fun d hd => hcs d (List.mem_cons_of_mem _ hd))]
            unfold gn
            by_cases h0 : (z &&& c_sub A C c) = 0
            · rw [if_pos h0, ih _ _ _ e1 (hch _ e1 e2)]
            · rw [if_neg h0]
        rw [this _ _ (fun c hc => hc), hx]
      · rw [if_neg h2, hx]
theorem gn_out (hW : cW A C) {n c : Nat} {x : Int32} {k : Nat} (hc : c < A 9 0) (hk : bt (c_sub A C c) k = false) : bt (gn A C n x c) k = bt x k := by
  unfold gn
  by_cases h0 : (x &&& c_sub A C c) = 0
  · rw [if_pos h0, dn_out hW _ _ _ _ hc hk]
  · rw [if_neg h0]
theorem dn_in (hW : cW A C) : ∀ (n s : Nat) (x y : Int32), s < A 9 0 → (∀ k, bt (c_sub A C s) k = true → bt x k = bt y k) → ∀ k, bt (c_sub A C s) k = true → bt (dn A C n s x) k = bt (dn A C n s y) k := by
  have hn16 : A 9 0 ≤ 16 := hW.1.2.2.2.1
  intro n
  induction n with
  | zero => intro s x y _ h k hk; exact h k hk
  | succ n ih =>
    intro s x y hs h
    have h' : ∀ k, bt (c_sub A C s) k = true → bt (x ||| v_bit s) k = bt (y ||| v_bit s) k := fun k hk => by rw [b_or, b_or, h k hk]
    have hb : ((x ||| v_bit s) &&& c_bel A C s) = ((y ||| v_bit s) &&& c_bel A C s) := v_ag (fun k hk => h' k (sub_of hk))
    have step : ∀ c, c < A 9 0 → A 24 c = s + 1 → ∀ z w : Int32, (∀ k, bt (c_sub A C s) k = true → bt z k = bt w k) → ∀ k, bt (c_sub A C s) k = true → bt (dn A C n c z) k = bt (dn A C n c w) k := by
      intro c hc e z w hzw k hk
      cases hb : bt (c_sub A C c) k with
      | true => exact ih c z w hc (fun k' hk' => hzw k' (sub_of (ch_sub hW hs hc e hk'))) k hb
      | false => rw [dn_out hW _ _ _ _ hc hb, dn_out hW _ _ _ _ hc hb]; exact hzw k hk
    rw [dn_s, dn_s]
    by_cases h1 : c_kind A C s = 1
    · rw [if_pos h1, if_pos h1, hb]
      obtain ⟨e1, e2, -⟩ := hd_ch hW hs h1
      by_cases h0 : ((y ||| v_bit s) &&& c_bel A C s) = 0
      · rw [if_pos h0, if_pos h0]
        exact step _ e1 e2 _ _ h'
      · rw [if_neg h0, if_neg h0]
        exact h'
    · rw [if_neg h1, if_neg h1]
      by_cases h2 : c_kind A C s = 2
      · rw [if_pos h2, if_pos h2]
        have : ∀ (cs : List Nat) (z w : Int32), (∀ c ∈ cs, c ∈ l_ch A s) → (∀ k, bt (c_sub A C s) k = true → bt z k = bt w k) → ∀ k, bt (c_sub A C s) k = true → bt (cs.foldl (gn A C n) z) k = bt (cs.foldl (gn A C n) w) k := by
          intro cs
          induction cs with
          | nil => intro z w _ hzw; exact hzw
          | cons c cs ihc =>
            intro z w hcs hzw
            obtain ⟨e1, e2⟩ := mem_ch.mp (hcs c List.mem_cons_self)
            rw [List.foldl_cons, List.foldl_cons]
            refine ihc _ _ (fun d hd => hcs d (List.mem_cons_of_mem _ hd)) (fun k hk => ?_)
            have ee : (z &&& c_sub A C c) = (w &&& c_sub A C c) := v_ag (fun k' hk' => hzw k' (sub_of (ch_sub hW hs e1 e2 hk')))
            unfold gn
            rw [ee]
            by_cases h0 : (w &&& c_sub A C c) = 0
            · rw [if_pos h0, if_pos h0]; exact step c e1 e2 z w hzw k hk
            · rw [if_neg h0, if_neg h0]; exact hzw k hk
        exact this _ _ _ (fun c hc => hc) h'
      · rw [if_neg h2, if_neg h2]
        exact h'
theorem gn_in (hW : cW A C) {n c : Nat} {x y : Int32} (hc : c < A 9 0) (h : ∀ k, bt (c_sub A C c) k = true → bt x k = bt y k) : ∀ k, bt (c_sub A C c) k = true → bt (gn A C n x c) k = bt (gn A C n y c) k := by
  intro k hk
  unfold gn
  rw [v_ag h]
  by_cases h0 : (y &&& c_sub A C c) = 0
  · rw [if_pos h0, if_pos h0]; exact dn_in hW n c x y hc h k hk
  · rw [if_neg h0, if_neg h0]; exact h k hk
/-- over the children of one state, by bits -/
theorem fo_ch (hW : cW A C) (n : Nat) {s : Nat} (hs : s < A 9 0) : ∀ (cs : List Nat) (x : Int32), (∀ c ∈ cs, c < A 9 0 ∧ A 24 c = s + 1) → cs.Nodup → (∀ c ∈ cs, ∀ k, bt (c_sub A C c) k = true → bt (cs.foldl (gn A C n) x) k = bt (gn A C n x c) k) ∧ (∀ k, (∀ c ∈ cs, bt (c_sub A C c) k = false) → bt (cs.foldl (gn A C n) x) k = bt x k) := by
  intro cs
  induction cs with
  | nil => intro x _ _; exact ⟨fun c hc => (by cases hc), fun _ _ => rfl⟩
  | cons c cs ih =>
    intro x hcs hnd
    obtain ⟨hnc, hnd'⟩ := List.nodup_cons.mp hnd
    obtain ⟨e1, e2⟩ := hcs c List.mem_cons_self
    obtain ⟨i1, i2⟩ := ih (gn A C n x c) (fun d hd => hcs d (List.mem_cons_of_mem _ hd)) hnd'
    refine ⟨fun d hd k hk => ?_, fun k hk => ?_⟩
    · rw [List.foldl_cons]
      rcases List.mem_cons.mp hd with z | z
      · subst z
        refine i2 k (fun c' hc' => ?_)
        obtain ⟨f1, f2⟩ := hcs c' (List.mem_cons_of_mem _ hc')
        exact ch_dis hW hs e1 f1 e2 f2 (fun z => hnc (by rw [z]; exact hc')) hk
      · obtain ⟨f1, f2⟩ := hcs d hd
        rw [i1 d z k hk]
        refine gn_in hW f1 (fun k' hk' => gn_out hW e1 ?_) k hk
        exact ch_dis hW hs f1 e1 f2 e2 (fun w => hnc (by rw [← w]; exact z)) hk'
    · rw [List.foldl_cons, i2 k (fun d hd => hk d (List.mem_cons_of_mem _ hd)), gn_out hW e1 (hk c List.mem_cons_self)]
theorem ch_nd (A : gA) (s : Nat) : (l_ch A s).Nodup := by
  unfold l_ch
  exact List.Pairwise.filter _ List.nodup_range
/-! the component's way down -/
theorem c_dn50 {M : gM} {S : gm_S} (h : RC A M0 C M S c1 c2) (fu : Nat) {n : Nat} {rc : Option Nat → Int32 → gm_S → gR} {s : Nat} (hs : s < A 9 0) (hrc : ∀ c, c < A 9 0 → A 24 c = s + 1 → ∀ x, rc (some (A 10 c)) x S = some (.returned (some (.int (dn A C n c x))), S)) : ∀ (d j m : Nat) (x : Int32), (l_ch A s).length - j = d → j ≤ (l_ch A s).length → d < m →
    F_X1_down_50 fu rc m (some (A 10 s)) x (nI j) S = some (.returned (some (.int (((l_ch A s).drop j).foldl (gn A C n) x))), S) := by
  obtain ⟨e1, e2, e3, e4⟩ := h.ch hs
  have hn := h.n16
  intro d
  induction d with
  | zero =>
    intro j m x hd hj hm
    obtain ⟨m, rfl⟩ : ∃ m', m = m' + 1 := ⟨m - 1, by omega⟩
    have e : j = (l_ch A s).length := by omega
    rw [F_X1_down_50, e1, y_b, e2, y_b, e, if_pos (Int32.le_refl _), List.drop_length]
    rfl
  | succ d ih =>
    intro j m x hd hj hm
    obtain ⟨m, rfl⟩ : ∃ m', m = m' + 1 := ⟨m - 1, by omega⟩
    have hlt : j < (l_ch A s).length := by omega
    obtain ⟨k, hk⟩ : ∃ k, (l_ch A s)[j]? = some k := ⟨_, List.getElem?_eq_getElem hlt⟩
    have hk' : (l_ch A s)[j] = k := by rw [List.getElem?_eq_getElem hlt] at hk; exact Option.some.inj hk
    obtain ⟨f1, f2⟩ := mem_ch.mp (List.mem_of_getElem? hk)
    rw [F_X1_down_50, e1, y_b, e2, y_b, if_neg (nI_ge hlt (by omega)), y_b, e4 j k hk, y_b, y_q (h.st f1), (h.H.2.1 k f1).2.2.2.2.2.2.2, y_b, y_q (h.st f1), s_bit h fu f1, y_cI, nI_1, List.drop_eq_getElem_cons hlt, List.foldl_cons, hk']
    unfold gn
    by_cases h0 : (x &&& c_sub A C k) = 0
    · rw [if_pos h0, if_pos h0, hrc k f1 f2, y_cI]
      exact ih (j + 1) m _ (by omega) (by omega) (by omega)
    · rw [if_neg h0, if_neg h0]
      exact ih (j + 1) m _ (by omega) (by omega) (by omega)
theorem c_dn {M : gM} {S : gm_S} (h : RC A M0 C M S c1 c2) {fu : Nat} (hf : 100 ≤ fu) : ∀ (n s : Nat) (x : Int32), s < A 9 0 → 7 ≤ n + A 25 s → F_X1_down fu n (some (A 10 s)) x S = some (.returned (some (.int (dn A C n s x))), S) := by
  intro n
  induction n with
  | zero =>
    intro s x hs hd
    have := (h.W.2.1 s hs).2.2.2.2.2.1
    omega
  | succ n ih =>
    intro s x hs hd
    have hn := h.n16
    have hrc : ∀ c, c < A 9 0 → A 24 c = s + 1 → ∀ x, F_X1_down fu n (some (A 10 c)) x S = some (.returned (some (.int (dn A C n c x))), S) := by
      intro c hc e x
      have := (h.W.2.1 c hc).2.2.2.2.2.2 (by omega)
      rw [e, Nat.add_sub_cancel] at this
      exact ih c x hc (by omega)
    obtain ⟨e1, e2, e3, e4⟩ := h.ch hs
    obtain ⟨-, -, k1, -, -, -, -, k2⟩ := h.H.2.1 s hs
    rw [F_X1_down]
    unfold F_X1_down_e F_X1_down_40
    rw [y_q (h.st hs), s_bit h fu hs, y_cI, k1, y_b, dn_s]
    by_cases h1 : c_kind A C s = 1
    · rw [if_pos h1, if_pos h1, k2, y_b]
      by_cases h0 : ((x ||| v_bit s) &&& c_bel A C s) = 0
      · obtain ⟨f1, f2, f3⟩ := hd_ch h.W hs h1
        rw [if_pos h0, if_pos h0, e1, y_b, show g_lget S (some (A 15 s)) 0 = _ from e4 0 _ f3, y_b, y_q (h.st f1), hrc _ f1 f2, y_cI]
      · rw [if_neg h0, if_neg h0, y_b, h1, if_neg (by decide)]
    · rw [if_neg h1, if_neg h1, y_b]
      by_cases h2 : c_kind A C s = 2
      · rw [if_pos h2, if_pos h2]
        have := c_dn50 h fu hs hrc (l_ch A s).length 0 fu (x ||| v_bit s) (by omega) (by omega) (by omega)
        rw [List.drop_zero] at this
        exact this
      · rw [if_neg h2, if_neg h2]
end RCM
