/-! LAYER 2: bits (the family 'bt' of the kit's laws, pasted), and what is wanted of them here -/
set_option maxRecDepth 100000
def bt (x : Int32) (i : Nat) : Bool := x.toBitVec.getLsbD i
theorem b_ext {x y : Int32} (h : ∀ i, i < 32 → bt x i = bt y i) : x = y := Int32.toBitVec_inj.mp (BitVec.eq_of_getLsbD_eq (fun i hi => h i hi))
theorem b_or (x y : Int32) (i : Nat) : bt (x ||| y) i = (bt x i || bt y i) := by unfold bt; rw [Int32.toBitVec_or, BitVec.getLsbD_or]
theorem b_and (x y : Int32) (i : Nat) : bt (x &&& y) i = (bt x i && bt y i) := by unfold bt; rw [Int32.toBitVec_and, BitVec.getLsbD_and]
theorem b_xor (x y : Int32) (i : Nat) : bt (x ^^^ y) i = (bt x i ^^ bt y i) := by unfold bt; rw [Int32.toBitVec_xor, BitVec.getLsbD_xor]
theorem b_big {x : Int32} {i : Nat} (h : 32 ≤ i) : bt x i = false := BitVec.getLsbD_of_ge _ _ h
theorem b_m1 : ∀ i, i < 32 → bt (-1) i = true := by decide +kernel
theorem b_0 (i : Nat) : bt 0 i = false := BitVec.getLsbD_zero
theorem s_l : ∀ n, n < 32 → ((nI n &&& 31).toBitVec.smod 32).toNat = n := by decide +kernel
theorem b_shl (n : Nat) (hn : n < 32) (x : Int32) {i : Nat} (hi : i < 32) : bt (x <<< (nI n &&& 31)) i = (decide (n ≤ i) && bt x (i - n)) := by
  unfold bt
  rw [Int32.toBitVec_shiftLeft]
  show (x.toBitVec <<< ((nI n &&& 31).toBitVec.smod 32).toNat).getLsbD i = _
  rw [s_l n hn, BitVec.getLsbD_shiftLeft]
  rcases Nat.lt_or_ge i n with h | h
  · simp [h, Nat.not_le.mpr h]
  · simp [hi, h, Nat.not_lt.mpr h]
theorem b_sshr (n : Nat) (hn : n < 32) (x : Int32) {i : Nat} (hi : i < 32) : bt (x >>> (nI n &&& 31)) i = if n + i < 32 then bt x (n + i) else bt x 31 := by
  unfold bt
  rw [Int32.toBitVec_shiftRight]
  show (x.toBitVec.sshiftRight ((nI n &&& 31).toBitVec.smod 32).toNat).getLsbD i = _
  rw [s_l n hn, BitVec.getLsbD_sshiftRight, BitVec.msb_eq_getLsbD_last]
  simp [hi]
theorem b_1 (i : Nat) : bt 1 i = decide (i = 0) := by
  rcases Nat.lt_or_ge i 32 with h | h
  · exact (by decide +kernel : ∀ i, i < 32 → bt 1 i = decide (i = 0)) i h
  · rw [b_big h, decide_eq_false (by omega)]
/-- the bit of a state -/
abbrev v_bit (i : Nat) : Int32 := (1 : Int32) <<< (nI i &&& 31)
theorem v_bt {i j : Nat} (hi : i < 32) : bt (v_bit i) j = decide (j = i) := by
  rcases Nat.lt_or_ge j 32 with h | h
  · rw [b_shl i hi 1 h, b_1]
    by_cases e : j = i
    · subst e; simp
    · rw [decide_eq_false e]
      by_cases g : i ≤ j
      · rw [decide_eq_false (show ¬ j - i = 0 by omega)]; simp
      · rw [decide_eq_false g]; simp
  · rw [b_big h, decide_eq_false (by omega)]
theorem v_zero {x : Int32} : x = 0 ↔ ∀ i, i < 32 → bt x i = false := by
  constructor
  · intro h i _; rw [h, b_0]
  · intro h; exact b_ext (fun i hi => by rw [h i hi, b_0])
theorem v_and0 {x : Int32} {i : Nat} (hi : i < 32) : (x &&& v_bit i) = 0 ↔ bt x i = false := by
  rw [v_zero]
  constructor
  · intro h
    have := h i hi
    rw [b_and, v_bt hi] at this
    simpa using this
  · intro h j hj
    rw [b_and, v_bt hi]
    by_cases e : j = i
    · subst e; simp [h]
    · simp [e]
theorem v_in {x : Int32} {i : Nat} (hi : i < 32) : ((x >>> (nI i &&& 31)) &&& (1 : Int32)) = (1 : Int32) ↔ bt x i = true := by
  constructor
  · intro h
    have h0 : bt ((x >>> (nI i &&& 31)) &&& (1 : Int32)) 0 = bt 1 0 := by rw [h]
    rw [b_and, b_sshr i hi x (by omega), b_1, if_pos (by omega)] at h0
    simpa using h0
  · intro h
    apply b_ext
    intro j hj
    rw [b_and, b_1]
    by_cases e : j = 0
    · subst e
      rw [b_sshr i hi x (by omega), if_pos (by omega)]
      simp [h]
    · simp [e]
theorem v_disj {x y : Int32} : (x &&& y) = 0 ↔ ∀ i, i < 32 → ¬ (bt x i = true ∧ bt y i = true) := by
  rw [v_zero]
  constructor
  · intro h i hi hc
    have := h i hi
    rw [b_and, hc.1, hc.2] at this
    simp at this
  · intro h i hi
    rw [b_and]
    have := h i hi
    cases h1 : bt x i <;> cases h2 : bt y i <;> simp_all
theorem v_sub {x y : Int32} : (x &&& y) = x ↔ ∀ i, i < 32 → bt x i = true → bt y i = true := by
  constructor
  · intro h i hi hx
    have : bt (x &&& y) i = bt x i := by rw [h]
    rw [b_and, hx] at this
    simpa using this
  · intro h
    apply b_ext
    intro i hi
    rw [b_and]
    cases h1 : bt x i
    · rfl
    · rw [h i hi h1]; rfl
/-! LAYER 2: a chart in the model's memory (C) and in the component's (S), by addresses A -/
abbrev gA : Type := Nat → Nat → Nat
def l_ch (A : gA) (i : Nat) : List Nat := (List.range (A 9 0)).filter (fun j => A 24 j == i + 1)
def l_tr (A : gA) (i : Nat) : List Nat := (List.range (A 9 1)).filter (fun t => A 26 t == i)
def l_ac (A : gA) (o : Nat) : List Nat := (List.range (A 9 3)).filter (fun a => A 31 a == o)
def l_ts (A : gA) (t : Nat) : List Nat := (List.range (A 28 t - A 27 t)).map (fun j => A 27 t + j)
abbrev c_kind (A : gA) (C : gM) (i : Nat) : Int32 := n_I C 14 (16 * A 9 5 + i)
abbrev c_bel (A : gA) (C : gM) (i : Nat) : Int32 := n_I C 16 (16 * A 9 5 + i)
abbrev c_sub (A : gA) (C : gM) (i : Nat) : Int32 := c_bel A C i ||| v_bit i
def d_ok (v : UInt64) : Prop := ∃ s c q, FP.Core.decode FP.Core.b64 v.toNat = .fin s c q
def o_ok (v : Int32) : Prop := v = -1 ∨ ∃ m : Nat, m < 6 ∧ v = nI m
def cW0 (A : gA) (C : gM) : Prop := n_I C 7 0 = nI (A 9 5) ∧ A 9 5 < 2 ∧ 0 < A 9 0 ∧ A 9 0 ≤ 16 ∧ A 9 1 ≤ 24 ∧ A 9 2 ≤ 63 ∧ A 9 3 ≤ 40 ∧ A 9 4 ≤ 63 ∧ n_I C 9 (A 9 5) = nI (A 9 0) ∧ n_I C 10 (A 9 5) = nI (A 9 1) ∧ n_I C 12 (A 9 5) = nI (A 9 3)
def cW1 (A : gA) (C : gM) (i : Nat) : Prop := n_I C 15 (16 * A 9 5 + i) = (if A 24 i = 0 then -1 else nI (A 24 i - 1)) ∧ A 24 i ≤ i ∧ (c_kind A C i = 0 ∨ c_kind A C i = 1 ∨ c_kind A C i = 2) ∧ (c_kind A C i ≠ 0 → l_ch A i ≠ []) ∧ 1 ≤ A 25 i ∧ A 25 i ≤ 6 ∧ (A 24 i ≠ 0 → A 25 i = A 25 (A 24 i - 1) + 1)
def cW2 (A : gA) (C : gM) (i : Nat) : Prop := (∀ k, bt (c_bel A C i) k = true → i < k ∧ k < A 9 0) ∧ (∀ j, j < A 9 0 → A 24 j = i + 1 → c_sub A C j &&& c_bel A C i = c_sub A C j) ∧ ∀ j k, j < A 9 0 → k < A 9 0 → A 24 j = i + 1 → A 24 k = i + 1 → j ≠ k → c_sub A C j &&& c_sub A C k = 0
def cW3 (A : gA) (C : gM) (t : Nat) : Prop := n_I C 18 (24 * A 9 5 + t) = nI (A 26 t) ∧ A 26 t < A 9 0 ∧ n_I C 20 (24 * A 9 5 + t) = nI (64 * A 9 5 + A 27 t) ∧ n_I C 21 (24 * A 9 5 + t) = nI (64 * A 9 5 + A 28 t) ∧ A 27 t ≤ A 28 t ∧ A 28 t ≤ A 9 2 ∧ n_I C 22 (24 * A 9 5 + t) = (if A 29 t = 0 then -1 else nI (64 * A 9 5 + (A 29 t - 1))) ∧ A 29 t ≤ A 9 4
def cW4 (A : gA) (C : gM) (k : Nat) : Prop := n_I C 23 (64 * A 9 5 + k) = nI (A 30 k) ∧ A 30 k < A 9 0
def cW5 (A : gA) (C : gM) (j : Nat) : Prop := (n_I C 26 (64 * A 9 5 + j) = 0 ∨ n_I C 26 (64 * A 9 5 + j) = 1) ∧ ((A 32 j = 0 ∧ n_I C 27 (64 * A 9 5 + j) = -1 ∧ o_ok (n_I C 29 (64 * A 9 5 + j)) ∧ o_ok (n_I C 30 (64 * A 9 5 + j))) ∨ (A 32 j ≠ 0 ∧ n_I C 27 (64 * A 9 5 + j) = nI (64 * A 9 5 + (A 32 j - 1)) ∧ A 32 j ≤ A 9 4))
def cW6 (A : gA) (C : gM) (a : Nat) : Prop := n_I C 33 (48 * A 9 5 + a) = nI (A 31 a) ∧ A 31 a < 300 ∧ ((∃ e q : Nat, 65 ≤ e ∧ e ≤ 72 ∧ q ≤ 9 ∧ n_I C 34 (48 * A 9 5 + a) = nI e ∧ n_I C 35 (48 * A 9 5 + a) = nI q) ∨ (∃ m g : Nat, m < 6 ∧ n_I C 34 (48 * A 9 5 + a) = nI (117 + m) ∧ (g = 42 ∨ g = 43 ∨ g = 45 ∨ g = 61) ∧ n_I C 35 (48 * A 9 5 + a) = nI g ∧ o_ok (n_I C 36 (48 * A 9 5 + a)) ∧ d_ok (n_D C 37 (48 * A 9 5 + a))))
def cW (A : gA) (C : gM) : Prop := cW0 A C ∧ (∀ i, i < A 9 0 → cW1 A C i) ∧ (∀ i, i < A 9 0 → cW2 A C i) ∧ (∀ t, t < A 9 1 → cW3 A C t) ∧ (∀ k, k < A 9 4 → cW4 A C k) ∧ (∀ j, j < A 9 2 → cW5 A C j) ∧ (∀ a, a < A 9 3 → cW6 A C a)
/-! the same chart as objects -/
def h_L (S : gm_S) (B a : Nat) (l : List Nat) : Prop := gs_t S a = 16 ∧ B ≤ a ∧ S.2.1 a = l
def h_op (S : gm_S) (o : Nat) (v : Int32) (d : UInt64) : Prop := g_gI S (some o) 9 0 = some v ∧ g_gD S (some o) 9 1 = some d
def cH1 (A : gA) (C : gM) (S : gm_S) (i : Nat) : Prop := g_gI S (some (A 10 i)) 5 0 = some (nI i) ∧ g_gR S (some (A 10 i)) 5 1 = some (if A 24 i = 0 then none else some (A 10 (A 24 i - 1))) ∧ g_gI S (some (A 10 i)) 5 2 = some (c_kind A C i) ∧
  (g_gR S (some (A 10 i)) 5 3 = some (some (A 15 i)) ∧ h_L S (A 7 0) (A 15 i) ((l_ch A i).map (A 10))) ∧ (g_gR S (some (A 10 i)) 5 4 = some (some (A 16 i)) ∧ h_L S (A 7 0) (A 16 i) ((l_tr A i).map (A 11))) ∧
  (g_gR S (some (A 10 i)) 5 5 = some (some (A 17 i)) ∧ h_L S (A 7 0) (A 17 i) ((l_ac A (100 + i)).map (A 14))) ∧ (g_gR S (some (A 10 i)) 5 6 = some (some (A 18 i)) ∧ h_L S (A 7 0) (A 18 i) ((l_ac A (200 + i)).map (A 14))) ∧ g_gI S (some (A 10 i)) 5 7 = some (c_bel A C i)
def cH2 (A : gA) (C : gM) (S : gm_S) (t : Nat) : Prop := g_gR S (some (A 11 t)) 10 0 = some (some (A 10 (A 26 t))) ∧ g_gI S (some (A 11 t)) 10 1 = some (n_I C 19 (24 * A 9 5 + t)) ∧ (g_gR S (some (A 11 t)) 10 2 = some (some (A 19 t)) ∧ h_L S (A 7 0) (A 19 t) ((l_ts A t).map (A 13))) ∧
  (g_gR S (some (A 11 t)) 10 3 = some (some (A 20 t)) ∧ h_L S (A 7 0) (A 20 t) ((l_ac A t).map (A 14))) ∧ g_gR S (some (A 11 t)) 10 4 = some (if A 29 t = 0 then none else some (A 12 (A 29 t - 1)))
def cH3 (A : gA) (C : gM) (S : gm_S) (k : Nat) : Prop := g_gI S (some (A 12 k)) 11 3 = some (nI (A 30 k)) ∧ g_gI S (some (A 12 k)) 11 2 = some (n_I C 25 (64 * A 9 5 + k))
def cH4 (A : gA) (C : gM) (S : gm_S) (j : Nat) : Prop := (A 32 j = 0 → g_gI S (some (A 13 j)) 14 0 = some (n_I C 26 (64 * A 9 5 + j)) ∧ g_gR S (some (A 13 j)) 14 1 = some (some (A 21 j)) ∧ h_op S (A 21 j) (n_I C 29 (64 * A 9 5 + j)) (n_D C 31 (64 * A 9 5 + j)) ∧ g_gR S (some (A 13 j)) 14 2 = some (some (A 22 j)) ∧ h_op S (A 22 j) (n_I C 30 (64 * A 9 5 + j)) (n_D C 32 (64 * A 9 5 + j)) ∧ g_gI S (some (A 13 j)) 14 3 = some (n_I C 28 (64 * A 9 5 + j))) ∧
  (A 32 j ≠ 0 → g_gI S (some (A 13 j)) 13 0 = some (n_I C 26 (64 * A 9 5 + j)) ∧ g_gR S (some (A 13 j)) 13 1 = some (some (A 12 (A 32 j - 1))))
def cH5 (A : gA) (C : gM) (S : gm_S) (a : Nat) : Prop := (n_I C 34 (48 * A 9 5 + a) ≤ 72 → g_gI S (some (A 14 a)) 7 0 = some (n_I C 34 (48 * A 9 5 + a)) ∧ g_gI S (some (A 14 a)) 7 1 = some (n_I C 35 (48 * A 9 5 + a))) ∧
  (¬ n_I C 34 (48 * A 9 5 + a) ≤ 72 → g_gI S (some (A 14 a)) 8 0 = some (n_I C 34 (48 * A 9 5 + a) - 117) ∧ g_gI S (some (A 14 a)) 8 1 = some (n_I C 35 (48 * A 9 5 + a)) ∧ g_gR S (some (A 14 a)) 8 2 = some (some (A 23 a)) ∧ h_op S (A 23 a) (n_I C 36 (48 * A 9 5 + a)) (n_D C 37 (48 * A 9 5 + a)))
def cH (A : gA) (C : gM) (S : gm_S) : Prop := h_L S (A 7 0) (A 8 0) ((List.range (A 9 0)).map (A 10)) ∧ (∀ i, i < A 9 0 → cH1 A C S i) ∧ (∀ t, t < A 9 1 → cH2 A C S t) ∧ (∀ k, k < A 9 4 → cH3 A C S k) ∧ (∀ j, j < A 9 2 → cH4 A C S j) ∧ (∀ a, a < A 9 3 → cH5 A C S a) ∧ ∀ t t', t < A 9 1 → t' < A 9 1 → A 11 t = A 11 t' → t = t'
/-! what a run never changes -/
def k_dyn (F : Nat) : Bool := (decide (2 ≤ F) && decide (F ≤ 5)) || (decide (300 ≤ F) && decide (F < 400)) || F == 508 || F == 509 || (decide (1005 ≤ F) && decide (F ≤ 1007))
def k_dy2 (F : Nat) : Bool := k_dyn F || (decide (100 ≤ F) && decide (F < 300))
def kp (B : Nat) (S S' : gm_S) : Prop := (∀ F a i, gs_t S a ≠ 0 → k_dy2 F = false → S'.1 F a i = S.1 F a i) ∧ (∀ a, gs_t S a ≠ 0 → B ≤ a → S'.2.1 a = S.2.1 a)
theorem kp.rfl {B : Nat} {S : gm_S} : kp B S S := ⟨fun _ _ _ _ _ => Eq.refl _, fun _ _ _ => Eq.refl _⟩
theorem kp.tag {B : Nat} {S S' : gm_S} (h : kp B S S') {a : Nat} (ha : gs_t S a ≠ 0) : gs_t S' a = gs_t S a := by
  unfold gs_t
  rw [h.1 0 a 0 ha (by decide)]
theorem kp.trans {B : Nat} {S S' S'' : gm_S} (h : kp B S S') (h' : kp B S' S'') : kp B S S'' := by
  refine ⟨fun F a i ha hF => ?_, fun a ha hB => ?_⟩
  · rw [h'.1 F a i (by rw [h.tag ha]; exact ha) hF, h.1 F a i ha hF]
  · rw [h'.2 a (by rw [h.tag ha]; exact ha) hB, h.2 a ha hB]
theorem kp.gI {B : Nat} {S S' : gm_S} (h : kp B S S') {r : Option Nat} {t k : Nat} {v : Int32} (hv : g_gI S r t k = some v) (h0 : t ≠ 0) (hF : k_dy2 (100 * t + k) = false) : g_gI S' r t k = some v := by
  obtain ⟨a, rfl, ht, hm⟩ := y_gIt hv
  have ha : gs_t S a ≠ 0 := by rw [ht]; exact h0
  rw [y_gI ((h.tag ha).trans ht), h.1 _ a 0 ha hF, hm]
theorem kp.gR {B : Nat} {S S' : gm_S} (h : kp B S S') {r : Option Nat} {t k : Nat} {v : Option Nat} (hv : g_gR S r t k = some v) (h0 : t ≠ 0) (hF : k_dy2 (100 * t + k) = false) : g_gR S' r t k = some v := by
  obtain ⟨a, rfl, ht, hm⟩ := y_gRt hv
  have ha : gs_t S a ≠ 0 := by rw [ht]; exact h0
  rw [y_gR ((h.tag ha).trans ht), h.1 _ a 0 ha hF, hm]
theorem kp.gD {B : Nat} {S S' : gm_S} (h : kp B S S') {r : Option Nat} {t k : Nat} {v : UInt64} (hv : g_gD S r t k = some v) (h0 : t ≠ 0) (hF : k_dy2 (100 * t + k) = false) : g_gD S' r t k = some v := by
  obtain ⟨a, rfl, ht, hm⟩ := y_gDt hv
  have ha : gs_t S a ≠ 0 := by rw [ht]; exact h0
  rw [y_gD ((h.tag ha).trans ht), h.1 _ a 0 ha hF, hm]
theorem kp.hL {B : Nat} {S S' : gm_S} (h : kp B S S') {a : Nat} {l : List Nat} (hv : h_L S B a l) : h_L S' B a l := by
  obtain ⟨h1, h2, h3⟩ := hv
  have ha : gs_t S a ≠ 0 := by rw [h1]; decide
  exact ⟨(h.tag ha).trans h1, h2, (h.2 a ha h2).trans h3⟩
theorem kp.hop {B : Nat} {S S' : gm_S} (h : kp B S S') {o : Nat} {v : Int32} {d : UInt64} (hv : h_op S o v d) : h_op S' o v d := ⟨h.gI hv.1 (by decide) (by decide), h.gD hv.2 (by decide) (by decide)⟩
theorem cH.kp {A : gA} {C : gM} {S S' : gm_S} (h : cH A C S) (k : kp (A 7 0) S S') : cH A C S' := by
  obtain ⟨h0, h1, h2, h3, h4, h5, h6⟩ := h
  refine ⟨k.hL h0, fun i hi => ?_, fun t ht => ?_, fun n hn => ?_, fun j hj => ?_, fun a ha => ?_, h6⟩
  · obtain ⟨e1, e2, e3, ⟨e4, e5⟩, ⟨e6, e7⟩, ⟨e8, e9⟩, ⟨e10, e11⟩, e12⟩ := h1 i hi
    exact ⟨k.gI e1 (by decide) (by decide), k.gR e2 (by decide) (by decide), k.gI e3 (by decide) (by decide), ⟨k.gR e4 (by decide) (by decide), k.hL e5⟩, ⟨k.gR e6 (by decide) (by decide), k.hL e7⟩, ⟨k.gR e8 (by decide) (by decide), k.hL e9⟩, ⟨k.gR e10 (by decide) (by decide), k.hL e11⟩, k.gI e12 (by decide) (by decide)⟩
  · obtain ⟨e1, e2, ⟨e3, e4⟩, ⟨e5, e6⟩, e7⟩ := h2 t ht
    exact ⟨k.gR e1 (by decide) (by decide), k.gI e2 (by decide) (by decide), ⟨k.gR e3 (by decide) (by decide), k.hL e4⟩, ⟨k.gR e5 (by decide) (by decide), k.hL e6⟩, k.gR e7 (by decide) (by decide)⟩
  · obtain ⟨e1, e2⟩ := h3 n hn
    exact ⟨k.gI e1 (by decide) (by decide), k.gI e2 (by decide) (by decide)⟩
  · obtain ⟨e1, e2⟩ := h4 j hj
    refine ⟨fun z => ?_, fun z => ?_⟩
    · obtain ⟨f1, f2, f3, f4, f5, f6⟩ := e1 z
      exact ⟨k.gI f1 (by decide) (by decide), k.gR f2 (by decide) (by decide), k.hop f3, k.gR f4 (by decide) (by decide), k.hop f5, k.gI f6 (by decide) (by decide)⟩
    · obtain ⟨f1, f2⟩ := e2 z
      exact ⟨k.gI f1 (by decide) (by decide), k.gR f2 (by decide) (by decide)⟩
  · obtain ⟨e1, e2⟩ := h5 a ha
    refine ⟨fun z => ?_, fun z => ?_⟩
    · obtain ⟨f1, f2⟩ := e1 z
      exact ⟨k.gI f1 (by decide) (by decide), k.gI f2 (by decide) (by decide)⟩
    · obtain ⟨f1, f2, f3, f4⟩ := e2 z
      exact ⟨k.gI f1 (by decide) (by decide), k.gI f2 (by decide) (by decide), k.gR f3 (by decide) (by decide), k.hop f4⟩
