/-! LAYER 2, base: reading and writing the abstract memory -/
set_option maxRecDepth 100000
theorem y_at {S : gm_S} {a t : Nat} (h : gs_t S a = t) : g_at S (some a) t = some a := by simp [g_at, h]
theorem y_ta {S : gm_S} {a b t : Nat} (h : g_at S (some a) t = some b) : gs_t S a = t := by
  obtain ⟨h1, h2⟩ := g_at_s h
  cases h1
  exact h2
theorem y_gI {S : gm_S} {a t k : Nat} (h : gs_t S a = t) : g_gI S (some a) t k = some (gm_I (S.1 (100 * t + k) a 0)) := by simp [g_gI, y_at h]
theorem y_gR {S : gm_S} {a t k : Nat} (h : gs_t S a = t) : g_gR S (some a) t k = some (gm_R (S.1 (100 * t + k) a 0)) := by simp [g_gR, y_at h]
theorem y_gD {S : gm_S} {a t k : Nat} (h : gs_t S a = t) : g_gD S (some a) t k = some (gm_D (S.1 (100 * t + k) a 0)) := by simp [g_gD, y_at h]
theorem y_gIt {S : gm_S} {r : Option Nat} {t k : Nat} {v : Int32} (h : g_gI S r t k = some v) : ∃ a, r = some a ∧ gs_t S a = t ∧ gm_I (S.1 (100 * t + k) a 0) = v := by
  obtain ⟨a, h1, h2⟩ := g_map h
  obtain ⟨h3, h4⟩ := g_at_s h1
  exact ⟨a, h3, h4, h2⟩
theorem y_gRt {S : gm_S} {r : Option Nat} {t k : Nat} {v : Option Nat} (h : g_gR S r t k = some v) : ∃ a, r = some a ∧ gs_t S a = t ∧ gm_R (S.1 (100 * t + k) a 0) = v := by
  obtain ⟨a, h1, h2⟩ := g_map h
  obtain ⟨h3, h4⟩ := g_at_s h1
  exact ⟨a, h3, h4, h2⟩
theorem y_gDt {S : gm_S} {r : Option Nat} {t k : Nat} {v : UInt64} (h : g_gD S r t k = some v) : ∃ a, r = some a ∧ gs_t S a = t ∧ gm_D (S.1 (100 * t + k) a 0) = v := by
  obtain ⟨a, h1, h2⟩ := g_map h
  obtain ⟨h3, h4⟩ := g_at_s h1
  exact ⟨a, h3, h4, h2⟩
theorem y_q {σ : Type} {S : gm_S} {a t : Nat} {y : Option (Outcome × σ)} (h : gs_t S a = t) : gz_q (g_at S (some a) t) y = y := by rw [y_at h]; rfl
theorem y_cV {σ : Type} {S : σ} {k : σ → Option (Outcome × σ)} : gz_cV (some (.returned none, S)) k = k S := rfl
theorem y_cI {σ : Type} {S : σ} {v : Int32} {k : Int32 → σ → Option (Outcome × σ)} : gz_cI (some (.returned (some (.int v)), S)) k = k v S := rfl
theorem y_cD {σ : Type} {S : σ} {v : UInt64} {k : UInt64 → σ → Option (Outcome × σ)} : gz_cD (some (.returned (some (.double v)), S)) k = k v S := rfl
theorem y_cVt {σ : Type} {S : σ} {a : Nat} {k : σ → Option (Outcome × σ)} : gz_cV (some (.threw a, S)) k = some (.threw a, S) := rfl
theorem y_cIt {σ : Type} {S : σ} {a : Nat} {k : Int32 → σ → Option (Outcome × σ)} : gz_cI (some (.threw a, S)) k = some (.threw a, S) := rfl
theorem y_cRt {σ : Type} {S : σ} {a : Nat} {k : Option Nat → σ → Option (Outcome × σ)} : gz_cR (some (.threw a, S)) k = some (.threw a, S) := rfl
theorem y_b {α β : Type} {a : α} {f : α → Option β} : Option.bind (some a) f = f a := rfl
theorem y_z0 : g_okZ 0 = true := by decide
theorem y_z1 : g_okZ 1 = true := by decide
theorem y_c0 : g_okC 0 = true := by decide
theorem y_if {α : Type} {a b : α} : (if true = true then a else b) = a := rfl
/-! ints -/
theorem y_okC {n : Nat} (h : n ≤ 65535) : g_okC (nI n) = true := by
  simp only [g_okC, Bool.and_eq_true, decide_eq_true_eq]
  exact ⟨nI_pos' (by omega), (nI_leI (a := n) (b := 65535) (by omega) (by omega)).mpr h⟩
theorem y_ix {i n : Nat} (h : i < n) (hn : n < 2 ^ 31) : g_ix (nI i) n = true := by
  simp only [g_ix, Bool.and_eq_true, decide_eq_true_eq]
  exact ⟨nI_pos' (by omega), by rw [nI_clamp (by omega)]; exact h⟩
theorem y_aI {M : gM} {k n i : Nat} (h : i < n) (hn : n < 2 ^ 31) : n_aI M k n (nI i) = some (n_I M k i) := by
  unfold n_aI
  rw [if_pos (y_ix h hn), nI_clamp (by omega)]
theorem y_aD {M : gM} {k n i : Nat} (h : i < n) (hn : n < 2 ^ 31) : n_aD M k n (nI i) = some (n_D M k i) := by
  unfold n_aD
  rw [if_pos (y_ix h hn), nI_clamp (by omega)]
theorem y_sI {M : gM} {k n i : Nat} {v : Int32} (h : i < n) (hn : n < 2 ^ 31) : n_sI M k n (nI i) v = some (n_up M k i (.int v)) := by
  unfold n_sI
  rw [if_pos (y_ix h hn), nI_clamp (by omega)]
theorem y_sD {M : gM} {k n i : Nat} {v : UInt64} (h : i < n) (hn : n < 2 ^ 31) : n_sD M k n (nI i) v = some (n_up M k i (.double v)) := by
  unfold n_sD
  rw [if_pos (y_ix h hn), nI_clamp (by omega)]
theorem y_us {M : gM} {k i : Nat} {v : Value} : n_up M k i v k i = v := by simp [n_up]
theorem y_uk {M : gM} {k i k' i' : Nat} {v : Value} (h : k' ≠ k) : n_up M k i v k' i' = M k' i' := by simp [n_up, h]
theorem y_ui {M : gM} {k i k' i' : Nat} {v : Value} (h : i' ≠ i) : n_up M k i v k' i' = M k' i' := by simp [n_up, h]
/-! a store into the memory -/
theorem y_pt {S : gm_S} {F a i b : Nat} {v : Value} (h : F ≠ 0) : gs_t (gs_put S F a i v) b = gs_t S b := by
  show gm_N (gm_st S.1 F a i v 0 b 0) = _
  rw [gm_st_F (Ne.symm h)]; rfl
theorem y_pM {S : gm_S} {F a i F' b j : Nat} {v : Value} (h : ¬ (F' = F ∧ b = a ∧ j = i)) : (gs_put S F a i v).1 F' b j = S.1 F' b j := by
  show gm_st S.1 F a i v F' b j = _
  simp only [gm_st]
  rw [if_neg h]
theorem y_pE {S : gm_S} {F a i : Nat} {v : Value} : (gs_put S F a i v).1 F a i = v := gm_st_e
theorem y_pI {S : gm_S} {a t k : Nat} {v : Int32} (h : gs_t S a = t) : g_pI S (some a) t k v = some (gs_put S (100 * t + k) a 0 (.int v)) := by simp [g_pI, y_at h]
theorem y_pZ {S : gm_S} {a t k : Nat} {v : Int32} (h : gs_t S a = t) (hz : g_okZ v = true) : g_pZ S (some a) t k v = some (gs_put S (100 * t + k) a 0 (.int v)) := by simp [g_pZ, hz, y_pI h]
theorem y_pC {S : gm_S} {a t k : Nat} {v : Int32} (h : gs_t S a = t) (hz : g_okC v = true) : g_pC S (some a) t k v = some (gs_put S (100 * t + k) a 0 (.int v)) := by simp [g_pC, hz, y_pI h]
theorem y_pR {S : gm_S} {a t k : Nat} {v : Option Nat} (h : gs_t S a = t) : g_pR S (some a) t k v = some (gs_put S (100 * t + k) a 0 (va_rf v)) := by simp [g_pR, y_at h]
theorem y_pD {S : gm_S} {a t k : Nat} {v : UInt64} (h : gs_t S a = t) : g_pD S (some a) t k v = some (gs_put S (100 * t + k) a 0 (.double v)) := by simp [g_pD, y_at h]
/-! arrays -/
theorem y_len {S : gm_S} {a t : Nat} (h : gs_t S a = 100 + t) : g_len S (some a) t = some (nI (gm_N (S.1 1 a 0))) := by simp [g_len, y_at h]
theorem y_el {S : gm_S} {a t n i : Nat} (h : gs_t S a = 100 + t) (hn : gm_N (S.1 1 a 0) = n) (hi : i < n) (h31 : n < 2 ^ 31) : g_el S (some a) t (nI i) = some (S.1 2 a i) := by
  simp only [g_el, y_at h, Option.bind_some]
  rw [hn, if_pos (y_ix hi h31), nI_clamp (by omega)]
theorem y_as {S : gm_S} {a t n i : Nat} {v : Value} (h : gs_t S a = 100 + t) (hn : gm_N (S.1 1 a 0) = n) (hi : i < n) (h31 : n < 2 ^ 31) : g_as S (some a) t (nI i) v = some (gs_put S 2 a i v) := by
  simp only [g_as, y_at h, Option.bind_some]
  rw [hn, if_pos (y_ix hi h31), nI_clamp (by omega)]
/-! lists -/
theorem y_lsz {S : gm_S} {a : Nat} (h : gs_t S a = 16) : g_lsz S (some a) = some (nI (S.2.1 a).length) := by simp [g_lsz, y_at h]
theorem y_lemp {S : gm_S} {a : Nat} (h : gs_t S a = 16) : g_lemp S (some a) = some (if S.2.1 a = [] then 1 else 0) := by simp [g_lemp, y_at h]
theorem y_lget {S : gm_S} {a i x : Nat} (h : gs_t S a = 16) (hi : i < 2 ^ 31) (hx : (S.2.1 a)[i]? = some x) : g_lget S (some a) (nI i) = some x := by
  simp only [g_lget, y_at h, Option.bind_some]
  rw [if_pos (nI_pos' hi), nI_clamp hi, hx]
theorem y_lclr {S : gm_S} {a : Nat} (h : gs_t S a = 16) : g_lclr S (some a) = some (gs_L S a []) := by simp [g_lclr, y_at h]
theorem y_lrem {S : gm_S} {a i x : Nat} (h : gs_t S a = 16) (hi : i < 2 ^ 31) (hx : (S.2.1 a)[i]? = some x) : g_lrem S (some a) (nI i) = some (x, gs_L S a ((S.2.1 a).eraseIdx i)) := by
  simp only [g_lrem, y_at h, Option.bind_some]
  rw [if_pos (nI_pos' hi), nI_clamp hi, hx]
  rfl
theorem y_Lt {S : gm_S} {a b : Nat} {l : List Nat} : gs_t (gs_L S a l) b = gs_t S b := rfl
theorem y_Le {S : gm_S} {a : Nat} {l : List Nat} : (gs_L S a l).2.1 a = l := by simp [gs_L]
theorem y_Ln {S : gm_S} {a b : Nat} {l : List Nat} (h : b ≠ a) : (gs_L S a l).2.1 b = S.2.1 b := by simp [gs_L, h]
/-! fresh cells -/
theorem y_mkt {S : gm_S} {t w b : Nat} (h : b ≠ gs_n S) : gs_t (g_mk S t w) b = gs_t S b := by
  show gm_N (gm_fresh S.1 (gs_n S) t 0 b 0) = _
  rw [gm_fresh_o h]; rfl
theorem y_mkn {S : gm_S} {t w : Nat} : gs_t (g_mk S t w) (gs_n S) = t := by simp [gs_t, g_mk, gm_fresh, gm_N]
theorem y_mkM {S : gm_S} {t w F b i : Nat} (h : b ≠ gs_n S) : (g_mk S t w).1 F b i = S.1 F b i := gm_fresh_o h
theorem y_new {S : gm_S} {t w : Nat} (h1 : gs_c S < 600096) (h2 : gs_k S + w ≤ 7301386) : g_new S t w = some (gs_n S, g_mk S t w) := by
  unfold g_new
  rw [if_pos (by simp [g_room]; exact ⟨h1, h2⟩)]
/-- appending to a list: with or without a longer row -/
theorem y_ladd {S : gm_S} {a x : Nat} (h : gs_t S a = 16) (hx : g_okE (gs_t S x) = true) (hl : (S.2.1 a).length < 100) (hc : gs_c S < 600096) (hk : gs_k S + 150 ≤ 7301386) :
    ((S.2.1 a).length ≠ g_cap S a ∧ g_ladd S (some a) (some x) = some (gs_L S a (S.2.1 a ++ [x]))) ∨
    ((S.2.1 a).length = g_cap S a ∧ ∃ w, w = (if g_cap S a = 0 then 10 else g_cap S a + g_cap S a / 2) ∧ w ≤ 150 ∧ g_ladd S (some a) (some x) = some (gs_L (gs_put (gs_put (gs_put (g_mk S 30 w) 5 (gs_n S) 0 (.ref a)) 3 a 0 (.ref w)) 4 a 0 (.ref (gs_n S))) a (S.2.1 a ++ [x]))) := by
  by_cases hcap : (S.2.1 a).length = g_cap S a
  · refine Or.inr ⟨hcap, _, rfl, ?_, ?_⟩
    · split <;> omega
    · simp only [g_ladd, y_at h, Option.bind_some]
      rw [if_pos hx, if_pos hl, if_pos hcap]
      have hr : g_room S (if g_cap S a = 0 then 10 else g_cap S a + g_cap S a / 2) = true := by
        simp only [g_room, Bool.and_eq_true, decide_eq_true_eq]
        refine ⟨hc, ?_⟩
        split <;> omega
      unfold g_grow
      rw [if_pos hr]
      rfl
  · refine Or.inl ⟨hcap, ?_⟩
    simp only [g_ladd, y_at h, Option.bind_some]
    rw [if_pos hx, if_pos hl, if_neg hcap]
