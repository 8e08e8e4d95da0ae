/-! LAYER 1: results of functions, calls, stores; what the generated rows stand on -/
set_option maxRecDepth 100000
abbrev gM : Type := Nat → Nat → Value
abbrev gR : Type := Option (Outcome × gm_S)
abbrev gQ : Type := Option (Outcome × gM)
def gz_cV {σ : Type} (x : Option (Outcome × σ)) (k : σ → Option (Outcome × σ)) : Option (Outcome × σ) := match x with
  | some (.returned none, S) => k S
  | some (.threw a, S) => some (.threw a, S)
  | _ => none
def gz_cI {σ : Type} (x : Option (Outcome × σ)) (k : Int32 → σ → Option (Outcome × σ)) : Option (Outcome × σ) := match x with
  | some (.returned (some (.int v)), S) => k v S
  | some (.threw a, S) => some (.threw a, S)
  | _ => none
def gz_cD {σ : Type} (x : Option (Outcome × σ)) (k : UInt64 → σ → Option (Outcome × σ)) : Option (Outcome × σ) := match x with
  | some (.returned (some (.double v)), S) => k v S
  | some (.threw a, S) => some (.threw a, S)
  | _ => none
def gz_cR {σ : Type} (x : Option (Outcome × σ)) (k : Option Nat → σ → Option (Outcome × σ)) : Option (Outcome × σ) := match x with
  | some (.returned (some (.ref a)), S) => k (some a) S
  | some (.returned (some .null), S) => k none S
  | some (.threw a, S) => some (.threw a, S)
  | _ => none
/-- a call that may be caught: int answers -/
def gz_tI {σ : Type} (x : Option (Outcome × σ)) (k : Int32 → σ → Option (Outcome × σ)) (t : Nat → σ → Option (Outcome × σ)) : Option (Outcome × σ) := match x with
  | some (.returned (some (.int v)), S) => k v S
  | some (.threw a, S) => t a S
  | _ => none
def gz_tR {σ : Type} (x : Option (Outcome × σ)) (k : Option Nat → σ → Option (Outcome × σ)) (t : Nat → σ → Option (Outcome × σ)) : Option (Outcome × σ) := match x with
  | some (.returned (some (.ref a)), S) => k (some a) S
  | some (.returned (some .null), S) => k none S
  | some (.threw a, S) => t a S
  | _ => none
def gz_q {σ : Type} (x : Option Nat) (y : Option (Outcome × σ)) : Option (Outcome × σ) := match x with
  | some _ => y
  | none => none
theorem gz_q_s {σ : Type} {x : Option Nat} {y : Option (Outcome × σ)} {r : Outcome × σ} (h : gz_q x y = some r) : ∃ a, x = some a ∧ y = some r := by
  cases x with
  | none => cases h
  | some a => exact ⟨a, rfl, h⟩
theorem gz_cV_s {σ : Type} {x : Option (Outcome × σ)} {k : σ → Option (Outcome × σ)} {r : Outcome × σ} (h : gz_cV x k = some r) : (∃ S, x = some (.returned none, S) ∧ k S = some r) ∨ ∃ a S, x = some (.threw a, S) ∧ r = (.threw a, S) := by
  unfold gz_cV at h
  split at h
  · exact Or.inl ⟨_, rfl, h⟩
  · exact Or.inr ⟨_, _, rfl, (Option.some.inj h).symm⟩
  · cases h
theorem gz_cI_s {σ : Type} {x : Option (Outcome × σ)} {k : Int32 → σ → Option (Outcome × σ)} {r : Outcome × σ} (h : gz_cI x k = some r) : (∃ v S, x = some (.returned (some (.int v)), S) ∧ k v S = some r) ∨ ∃ a S, x = some (.threw a, S) ∧ r = (.threw a, S) := by
  unfold gz_cI at h
  split at h
  · exact Or.inl ⟨_, _, rfl, h⟩
  · exact Or.inr ⟨_, _, rfl, (Option.some.inj h).symm⟩
  · cases h
theorem gz_cD_s {σ : Type} {x : Option (Outcome × σ)} {k : UInt64 → σ → Option (Outcome × σ)} {r : Outcome × σ} (h : gz_cD x k = some r) : (∃ v S, x = some (.returned (some (.double v)), S) ∧ k v S = some r) ∨ ∃ a S, x = some (.threw a, S) ∧ r = (.threw a, S) := by
  unfold gz_cD at h
  split at h
  · exact Or.inl ⟨_, _, rfl, h⟩
  · exact Or.inr ⟨_, _, rfl, (Option.some.inj h).symm⟩
  · cases h
theorem gz_cR_s {σ : Type} {x : Option (Outcome × σ)} {k : Option Nat → σ → Option (Outcome × σ)} {r : Outcome × σ} (h : gz_cR x k = some r) : (∃ v S, x = some (.returned (some (va_rf v)), S) ∧ k v S = some r) ∨ ∃ a S, x = some (.threw a, S) ∧ r = (.threw a, S) := by
  unfold gz_cR at h
  split at h
  · exact Or.inl ⟨some _, _, rfl, h⟩
  · exact Or.inl ⟨none, _, rfl, h⟩
  · exact Or.inr ⟨_, _, rfl, (Option.some.inj h).symm⟩
  · cases h
theorem gz_tI_s {σ : Type} {x : Option (Outcome × σ)} {k : Int32 → σ → Option (Outcome × σ)} {t : Nat → σ → Option (Outcome × σ)} {r : Outcome × σ} (h : gz_tI x k t = some r) : (∃ v S, x = some (.returned (some (.int v)), S) ∧ k v S = some r) ∨ ∃ a S, x = some (.threw a, S) ∧ t a S = some r := by
  unfold gz_tI at h
  split at h
  · exact Or.inl ⟨_, _, rfl, h⟩
  · exact Or.inr ⟨_, _, rfl, h⟩
  · cases h
theorem gz_tR_s {σ : Type} {x : Option (Outcome × σ)} {k : Option Nat → σ → Option (Outcome × σ)} {t : Nat → σ → Option (Outcome × σ)} {r : Outcome × σ} (h : gz_tR x k t = some r) : (∃ v S, x = some (.returned (some (va_rf v)), S) ∧ k v S = some r) ∨ ∃ a S, x = some (.threw a, S) ∧ t a S = some r := by
  unfold gz_tR at h
  split at h
  · exact Or.inl ⟨some _, _, rfl, h⟩
  · exact Or.inl ⟨none, _, rfl, h⟩
  · exact Or.inr ⟨_, _, rfl, h⟩
  · cases h
theorem gz_cR_rf {σ : Type} {v : Option Nat} {S : σ} {k : Option Nat → σ → Option (Outcome × σ)} : gz_cR (some (.returned (some (va_rf v)), S)) k = k v S := by cases v <;> rfl
theorem gz_tR_rf {σ : Type} {v : Option Nat} {S : σ} {k : Option Nat → σ → Option (Outcome × σ)} {t : Nat → σ → Option (Outcome × σ)} : gz_tR (some (.returned (some (va_rf v)), S)) k t = k v S := by cases v <;> rfl
theorem gz_t {α : Type} {c : Prop} [Decidable c] {a b : Option α} {r : α} (h : (if c then a else b) = some r) (hc : c) : a = some r := by rw [if_pos hc] at h; exact h
theorem gz_f {α : Type} {c : Prop} [Decidable c] {a b : Option α} {r : α} (h : (if c then a else b) = some r) (hc : ¬ c) : b = some r := by rw [if_neg hc] at h; exact h
theorem g_nn_s {v x : UInt64} (h : g_nn v = some x) : vf_n64 v ∧ x = v := by
  obtain ⟨h1, h2⟩ := g_ifs (show (if v &&& 0x7fffffffffffffff ≤ 0x7ff0000000000000 then some v else none) = some x from h)
  exact ⟨h1, (Option.some.inj h2).symm⟩
/-- the model's cells apart from the rest -/
def gm_w (S : gm_S) (M : gM) : gm_S := ((fun F a i => if a = 0 ∧ 400 ≤ F then M (F - 400) i else S.1 F a i), S.2)
def gm_g (S : gm_S) : gM := fun k i => S.1 (400 + k) 0 i
abbrev n_I (M : gM) (k i : Nat) : Int32 := gm_I (M k i)
abbrev n_D (M : gM) (k i : Nat) : UInt64 := gm_D (M k i)
def n_up (M : gM) (k i : Nat) (v : Value) : gM := fun k' i' => if k' = k ∧ i' = i then v else M k' i'
def n_p (M : gM) (k : Nat) (v : Int32) : gM := n_up M k 0 (.int v)
def n_pZ (M : gM) (k : Nat) (v : Int32) : Option gM := if g_okZ v = true then some (n_p M k v) else none
def n_pD (M : gM) (k : Nat) (v : UInt64) : gM := n_up M k 0 (.double v)
def n_pIO (M : gM) (k : Nat) (v : Int32) : Option gM := some (n_p M k v)
def n_pZO (M : gM) (k : Nat) (v : Int32) : Option gM := n_pZ M k v
def n_pDO (M : gM) (k : Nat) (v : UInt64) : Option gM := some (n_pD M k v)
def n_aI (M : gM) (k n : Nat) (i : Int32) : Option Int32 := if g_ix i n = true then some (n_I M k i.toNatClampNeg) else none
def n_aD (M : gM) (k n : Nat) (i : Int32) : Option UInt64 := if g_ix i n = true then some (n_D M k i.toNatClampNeg) else none
def n_sI (M : gM) (k n : Nat) (i v : Int32) : Option gM := if g_ix i n = true then some (n_up M k i.toNatClampNeg (.int v)) else none
def n_sC (M : gM) (k n : Nat) (i v : Int32) : Option gM := if g_okC v = true then n_sI M k n i v else none
def n_sZ (M : gM) (k n : Nat) (i v : Int32) : Option gM := if g_okZ v = true then n_sI M k n i v else none
def n_sD (M : gM) (k n : Nat) (i : Int32) (v : UInt64) : Option gM := if g_ix i n = true then some (n_up M k i.toNatClampNeg (.double v)) else none
theorem gm_w_r (S : gm_S) (M : gM) (k i : Nat) : (gm_w S M).1 (400 + k) 0 i = M k i := by simp [gm_w]
theorem gm_w_p (S : gm_S) (M : gM) (k i : Nat) (v : Value) : gs_put (gm_w S M) (400 + k) 0 i v = gm_w S (n_up M k i v) := by
  simp only [gs_put, gm_w, Prod.mk.injEq, and_true]
  funext F a j
  simp only [gm_st, n_up]
  by_cases h1 : a = 0
  · by_cases h2 : 400 ≤ F
    · by_cases h3 : F - 400 = k ∧ j = i
      · have : F = 400 + k := by omega
        simp [h1, h2, h3.1, h3.2, this]
      · have : ¬ (F = 400 + k ∧ j = i) := by omega
        rw [if_neg (by omega), if_pos ⟨h1, h2⟩, if_pos ⟨h1, h2⟩, if_neg h3]
    · rw [if_neg (by omega), if_neg (by omega), if_neg (by omega)]
  · rw [if_neg (by omega), if_neg (by omega), if_neg (by omega)]
theorem gm_w_g (S : gm_S) : gm_w S (gm_g S) = S := by
  obtain ⟨M, r⟩ := S
  simp only [gm_w, gm_g, Prod.mk.injEq, and_true]
  funext F a i
  by_cases h : a = 0 ∧ 400 ≤ F
  · rw [if_pos h]
    obtain ⟨h1, h2⟩ := h
    have : 400 + (F - 400) = F := by omega
    rw [this, h1]
  · rw [if_neg h]
theorem gm_w_w (S : gm_S) (M M' : gM) : gm_w (gm_w S M) M' = gm_w S M' := by
  simp only [gm_w, Prod.mk.injEq, and_true]
  funext F a i
  by_cases h : a = 0 ∧ 400 ≤ F
  · rw [if_pos h, if_pos h]
  · rw [if_neg h, if_neg h, if_neg h]
theorem gm_g_w (S : gm_S) (M : gM) : gm_g (gm_w S M) = M := by
  funext k i
  exact gm_w_r S M k i
theorem gm_w_I (S : gm_S) (M : gM) (k i : Nat) : m_I (gm_w S M) k i = n_I M k i := by unfold m_I n_I; rw [gm_w_r]
theorem gm_w_D (S : gm_S) (M : gM) (k i : Nat) : m_D (gm_w S M) k i = n_D M k i := by unfold m_D n_D; rw [gm_w_r]
/-! categories, picks of locals -/
theorem gz_cs1 (st : List Value) : (st.map fun v => v.category).sum ≤ 2 * st.length := by
  induction st with
  | nil => exact Nat.le_refl _
  | cons v t ih =>
    simp only [List.map_cons, List.sum_cons, List.length_cons]
    rcases lv_cat v with h | h <;> omega
theorem gz_cs {st : List Value} (h : st.length ≤ 4) : (st.map fun v => v.category).sum ≤ 8 := Nat.le_trans (gz_cs1 st) (by omega)
theorem gz_cs5 {a b c d e : Value} (ha : a.category = 1) (hb : b.category = 1) (hc : c.category = 1) (hd : d.category = 1) (he : e.category = 1) : (([a, b, c, d, e] : List Value).map fun v => v.category).sum ≤ 8 := by
  simp only [List.map_cons, List.map_nil, List.sum_cons, List.sum_nil, ha, hb, hc, hd, he]
  decide
theorem gz_pk {lv lv' : List (Nat × Value)} {ks : List Nat} {q : Nat × Value} (hp : lv_pick lv ks = lv') (h : q ∈ lv') : q ∈ lv := by
  rw [← hp] at h
  obtain ⟨k, -, hk⟩ := List.mem_filterMap.mp h
  exact List.mem_of_getElem? hk
theorem gz_k1 {ls : Array Slot} {nL i : Nat} {v : Value} {lv lv' : List (Nat × Value)} (h : lv_has ls nL ((i, v) :: lv.filter (fun q => !(q.1 == i) && !(q.1 + 1 == i && q.2.category == 2)))) (ks : List Nat) (hp : lv_pick lv ks = lv') (hc : ∀ q ∈ lv', ¬ q.1 = i ∧ (¬ q.1 + 1 = i ∨ q.2.category = 1)) : lv_has ls nL ((i, v) :: lv') := by
  refine ⟨h.1, h.2.1, fun q hq => ?_⟩
  rcases List.mem_cons.mp hq with e | e
  · exact h.2.2 q (by rw [e]; exact List.mem_cons_self)
  · refine h.2.2 q (List.mem_cons_of_mem _ (List.mem_filter.mpr ⟨gz_pk hp e, ?_⟩))
    obtain ⟨c1, c2⟩ := hc q e
    simp only [Bool.and_eq_true, Bool.not_eq_true', beq_eq_false_iff_ne, Bool.and_eq_false_iff, ne_eq]
    refine ⟨c1, ?_⟩
    rcases c2 with c2 | c2
    · exact Or.inl c2
    · exact Or.inr (by omega)
theorem gz_k2 {ls : Array Slot} {nL i : Nat} {v : Value} {lv lv' : List (Nat × Value)} (h : lv_has ls nL ((i, v) :: lv.filter (fun q => !(q.1 == i) && (!(q.1 == i + 1) && !(q.1 + 1 == i && q.2.category == 2))))) (ks : List Nat) (hp : lv_pick lv ks = lv') (hc : ∀ q ∈ lv', ¬ q.1 = i ∧ ¬ q.1 = i + 1 ∧ (¬ q.1 + 1 = i ∨ q.2.category = 1)) : lv_has ls nL ((i, v) :: lv') := by
  refine ⟨h.1, h.2.1, fun q hq => ?_⟩
  rcases List.mem_cons.mp hq with e | e
  · exact h.2.2 q (by rw [e]; exact List.mem_cons_self)
  · refine h.2.2 q (List.mem_cons_of_mem _ (List.mem_filter.mpr ⟨gz_pk hp e, ?_⟩))
    obtain ⟨c1, c3, c2⟩ := hc q e
    simp only [Bool.and_eq_true, Bool.not_eq_true', beq_eq_false_iff_ne, Bool.and_eq_false_iff, ne_eq]
    refine ⟨c1, c3, ?_⟩
    rcases c2 with c2 | c2
    · exact Or.inl c2
    · exact Or.inr (by omega)
theorem gz_ne {a b : Nat} (h : Nat.beq a b = false) : ¬ a = b := Nat.ne_of_beq_eq_false h
theorem gz_nil {P : Nat × Value → Prop} : ∀ q ∈ ([] : List (Nat × Value)), P q := fun _ h => absurd h List.not_mem_nil
theorem gz_con {P : Nat × Value → Prop} {a : Nat × Value} {l : List (Nat × Value)} (h : P a) (hl : ∀ q ∈ l, P q) : ∀ q ∈ a :: l, P q := List.forall_mem_cons.mpr ⟨h, hl⟩
theorem gz_nilE {P : ExceptionTableEntry → Prop} : ∀ q ∈ ([] : List ExceptionTableEntry), P q := fun _ h => absurd h List.not_mem_nil
theorem gz_conE {P : ExceptionTableEntry → Prop} {a : ExceptionTableEntry} {l : List ExceptionTableEntry} (h : P a) (hl : ∀ q ∈ l, P q) : ∀ q ∈ a :: l, P q := List.forall_mem_cons.mpr ⟨h, hl⟩
theorem gz_ws {ws : List Cond} {s : State} {args : Array Value} (hg : GoodIn lw_all ws) (hts : ∀ w ∈ lw_all, w.before args s = true) : ∀ w ∈ ws, ∀ (a' : Array Value) (U : State), s.WarmedH U.vm → w.before a' U = true := fun w hw _ _ hW => word_at hW (hg w hw).2 (hts w (hg w hw).1)
theorem gz_nh {c : Code} {pc : Nat} (h : c.exceptionTable.toList = []) : ∀ x ∈ c.exceptionTable.toList, covers x pc = false := by rw [h]; intro x hx; cases hx
theorem gz_nh0 {c : Code} (h : c.exceptionTable.isEmpty = true) : c.exceptionTable.toList = [] := by
  have := Array.isEmpty_iff.mp h
  rw [this]
/-- a block of a method: from every heap that holds S the walk from pc on comes to the method's end with r -/
def gz_B (l : Launch) (own nm : String) (cc : ByteArray) (nL : Nat) (ret : Option FieldType) (hh : List ExceptionTableEntry) (d0 : Nat) (G : gG) (S0 : gm_S) (pc : Nat) (lv : List (Nat × Value)) (st : List Value) (S : gm_S) (o : Outcome) (S2 : gm_S) : Prop :=
  ∀ (p : Program) (e : Env) (s : State) (m : MethodId) (args : Array Value) (below : List Frame) (meth : Method) (c : Code) (H : Heap) (locs : List Loc) (cells slots : Nat) (ls : Array Slot), gx_cx p l s m args meth c G own cc nL ret → meth.name = nm → c.exceptionTable.toList = hh →
    gw_I G S0 S H locs cells slots → lv_has ls nL lv → W p l e (gx_rm d0 S0) s m args below meth c H locs cells slots (gx_MQ below G S0 S2 o s) (F0 m pc ls st)
section GZ
variable {p : Program} {l : Launch} {e : Env} {R : Room} {s : State} {m : MethodId} {args : Array Value} {below : List Frame} {meth : Method} {c : Code} {H : Heap} {locs : List Loc} {cells slots : Nat} {Q : State → Prop}
variable {cc : ByteArray} {pc nL : Nat} {ls : Array Slot} {rest st : List Value} {G : gG} {S0 S S2 : gm_S} {M : gM} {own : String} {ret : Option FieldType} {d d0 index len maxL : Nat} {C : String} {y : MethodName} {av : List Value} {ws : List Cond} {σ : Type} {x0 : σ} {r : Outcome × σ} {f : Option (Outcome × σ)}
/-! stores into locals -/
theorem gz_istore_n (hx : p.tables.exec = Jvm.exec) (hb : c.code = cc) {k : Fin 4} {i : Nat} {x : Int32} {lv lv' : List (Nat × Value)} (hdg : decode cc pc = .ok (.istore_n k, 1)) (hi : (k : Nat) = i) (h : lv_has ls nL lv) (hn : i < nL) (ks : List Nat) (hp : lv_pick lv ks = lv') (hc : ∀ q ∈ lv', ¬ q.1 = i ∧ (¬ q.1 + 1 = i ∨ q.2.category = 1))
    (kk : ∀ ls' : Array Slot, lv_has ls' nL ((i, .int x) :: lv') → W p l e R s m args below meth c H locs cells slots Q (F0 m (pc + 1) ls' rest)) : W p l e R s m args below meth c H locs cells slots Q (F0 m pc ls (.int x :: rest)) := lv_istore_n hx hb hdg hi h hn rfl (fun ls' h' => kk ls' (gz_k1 h' ks hp hc))
theorem gz_istore (hx : p.tables.exec = Jvm.exec) (hb : c.code = cc) {i : Nat} {x : Int32} {lv lv' : List (Nat × Value)} (hdg : decode cc pc = .ok (.istore i, 2)) (h : lv_has ls nL lv) (hn : i < nL) (ks : List Nat) (hp : lv_pick lv ks = lv') (hc : ∀ q ∈ lv', ¬ q.1 = i ∧ (¬ q.1 + 1 = i ∨ q.2.category = 1))
    (kk : ∀ ls' : Array Slot, lv_has ls' nL ((i, .int x) :: lv') → W p l e R s m args below meth c H locs cells slots Q (F0 m (pc + 2) ls' rest)) : W p l e R s m args below meth c H locs cells slots Q (F0 m pc ls (.int x :: rest)) := lv_istore hx hb hdg h hn rfl (fun ls' h' => kk ls' (gz_k1 h' ks hp hc))
theorem gz_astore_n (hx : p.tables.exec = Jvm.exec) (hb : c.code = cc) {k : Fin 4} {i : Nat} {x : Option Nat} {lv lv' : List (Nat × Value)} (hdg : decode cc pc = .ok (.astore_n k, 1)) (hi : (k : Nat) = i) (h : lv_has ls nL lv) (hn : i < nL) (ks : List Nat) (hp : lv_pick lv ks = lv') (hc : ∀ q ∈ lv', ¬ q.1 = i ∧ (¬ q.1 + 1 = i ∨ q.2.category = 1))
    (kk : ∀ ls' : Array Slot, lv_has ls' nL ((i, va_rf x) :: lv') → W p l e R s m args below meth c H locs cells slots Q (F0 m (pc + 1) ls' rest)) : W p l e R s m args below meth c H locs cells slots Q (F0 m pc ls (va_rf x :: rest)) := gr_astore_n hx hb hdg hi h hn rfl (fun ls' h' => kk ls' (gz_k1 h' ks hp hc))
theorem gz_astore (hx : p.tables.exec = Jvm.exec) (hb : c.code = cc) {i : Nat} {x : Option Nat} {lv lv' : List (Nat × Value)} (hdg : decode cc pc = .ok (.astore i, 2)) (h : lv_has ls nL lv) (hn : i < nL) (ks : List Nat) (hp : lv_pick lv ks = lv') (hc : ∀ q ∈ lv', ¬ q.1 = i ∧ (¬ q.1 + 1 = i ∨ q.2.category = 1))
    (kk : ∀ ls' : Array Slot, lv_has ls' nL ((i, va_rf x) :: lv') → W p l e R s m args below meth c H locs cells slots Q (F0 m (pc + 2) ls' rest)) : W p l e R s m args below meth c H locs cells slots Q (F0 m pc ls (va_rf x :: rest)) := gr_astore hx hb hdg h hn rfl (fun ls' h' => kk ls' (gz_k1 h' ks hp hc))
theorem gz_dstore_n (hx : p.tables.exec = Jvm.exec) (hb : c.code = cc) {k : Fin 4} {i : Nat} {x : UInt64} {lv lv' : List (Nat × Value)} (hdg : decode cc pc = .ok (.dstore_n k, 1)) (hi : (k : Nat) = i) (h : lv_has ls nL lv) (hn : i + 1 < nL) (ks : List Nat) (hp : lv_pick lv ks = lv') (hc : ∀ q ∈ lv', ¬ q.1 = i ∧ ¬ q.1 = i + 1 ∧ (¬ q.1 + 1 = i ∨ q.2.category = 1))
    (kk : ∀ ls' : Array Slot, lv_has ls' nL ((i, .double x) :: lv') → W p l e R s m args below meth c H locs cells slots Q (F0 m (pc + 1) ls' rest)) : W p l e R s m args below meth c H locs cells slots Q (F0 m pc ls (.double x :: rest)) := lv_dstore_n hx hb hdg hi h hn rfl (fun ls' h' => kk ls' (gz_k2 h' ks hp hc))
theorem gz_dstore (hx : p.tables.exec = Jvm.exec) (hb : c.code = cc) {i : Nat} {x : UInt64} {lv lv' : List (Nat × Value)} (hdg : decode cc pc = .ok (.dstore i, 2)) (h : lv_has ls nL lv) (hn : i + 1 < nL) (ks : List Nat) (hp : lv_pick lv ks = lv') (hc : ∀ q ∈ lv', ¬ q.1 = i ∧ ¬ q.1 = i + 1 ∧ (¬ q.1 + 1 = i ∨ q.2.category = 1))
    (kk : ∀ ls' : Array Slot, lv_has ls' nL ((i, .double x) :: lv') → W p l e R s m args below meth c H locs cells slots Q (F0 m (pc + 2) ls' rest)) : W p l e R s m args below meth c H locs cells slots Q (F0 m pc ls (.double x :: rest)) := lv_dstore hx hb hdg h hn rfl (fun ls' h' => kk ls' (gz_k2 h' ks hp hc))
theorem gz_iinc (hx : p.tables.exec = Jvm.exec) (hb : c.code = cc) {i k : Nat} {n : Int} {x v : Int32} {lv lv' : List (Nat × Value)} (hdg : decode cc pc = .ok (.iinc i n, 3)) (h : lv_has ls nL lv) (hk : lv[k]? = some (i, .int x)) (hv : x + Int32.ofInt n = v) (hn : i < nL) (ks : List Nat) (hp : lv_pick lv ks = lv') (hc : ∀ q ∈ lv', ¬ q.1 = i ∧ (¬ q.1 + 1 = i ∨ q.2.category = 1))
    (kk : ∀ ls' : Array Slot, lv_has ls' nL ((i, .int v) :: lv') → W p l e R s m args below meth c H locs cells slots Q (F0 m (pc + 3) ls' rest)) : W p l e R s m args below meth c H locs cells slots Q (F0 m pc ls rest) := lv_iinc hx hb hdg h hk hv hn rfl (fun ls' h' => kk ls' (gz_k1 h' ks hp hc))
theorem gz_null (hx : p.tables.exec = Jvm.exec) (hb : c.code = cc) (hdg : decode cc pc = .ok (.aconst_null, 1)) (kk : W p l e R s m args below meth c H locs cells slots Q (F0 m (pc + 1) ls (va_rf none :: rest))) : W p l e R s m args below meth c H locs cells slots Q (F0 m pc ls rest) := lv_null hx hb hdg kk
theorem gz_objI (cx : gx_cx p l s m args meth c G own cc nL ret) (hlv : ls.size = nL) (hlink : (Cond.methodLink own index Lib.objectInit).before args s = true) (hrest : (rest.map fun v => v.category).sum ≤ 8) (hd : 2 ≤ d0) {t a : Nat} {th : Option Nat} (hat : g_at S th t = some a) (hdg : decode cc pc = .ok (.invokespecial index, 3))
    (kk : W p l e (gx_rm d0 S0) s m args below meth c H locs cells slots Q (F0 m (pc + 3) ls rest)) : W p l e (gx_rm d0 S0) s m args below meth c H locs cells slots Q (F0 m pc ls (va_rf th :: rest)) := by
  obtain ⟨hx, hb, hml, hown, hts, -⟩ := cx
  obtain ⟨rfl, -⟩ := g_at_s hat
  exact W.objInit hx hb hown hlink (hts _ q108) (hts _ q109) rfl (by rw [hml]; exact hlv) rfl hdg (by show 1 ≤ d0; omega) (by
    show 2 * (F0 m pc ls rest).monitorRoom + _ + 12 ≤ 60 * d0
    have := lv_room (m := m) (pc := pc) (ls := ls) (rest := rest) hrest
    omega) kk
/-! calls -/
theorem gz_goV (ι : σ → gm_S) {k : σ → Option (Outcome × σ)} (cx : gx_cx p l s m args meth c G own cc nL ret) (hex : ∀ x ∈ c.exceptionTable.toList, covers x pc = false) (hI : gw_I G S0 (ι x0) H locs cells slots) (hlv : ls.size = nL) (hrest : (rest.map fun v => v.category).sum ≤ 8) (hd : d + 1 ≤ d0) (hlo : maxL ≤ 41)
    (hws : ∀ w ∈ ws, ∀ (a' : Array Value) (U : State), s.WarmedH U.vm → w.before a' U = true) (hini : (Cond.initialized y.cls).before args s = true) (hr : gb_Raw p l e (gx_rm d0 S0) s m args below meth c H locs cells slots (F0 m pc ls st) len rest y av maxL)
    (hM : ∀ o S2, f = some (o, S2) → gx_Met l y ws d G (ι x0) av o (ι S2)) (h : gz_cV f k = some r)
    (kk : ∀ S1, k S1 = some r → ∀ (H' : Heap) (locs' : List Loc) (cells' slots' : Nat), gw_I G S0 (ι S1) H' locs' cells' slots' → W p l e (gx_rm d0 S0) s m args below meth c H' locs' cells' slots' (gx_MQ below G S0 (ι r.2) r.1 s) (F0 m (pc + len) ls rest)) : W p l e (gx_rm d0 S0) s m args below meth c H locs cells slots (gx_MQ below G S0 (ι r.2) r.1 s) (F0 m pc ls st) := by
  obtain ⟨hx, hb, hml, hown, hts, hK, hrt, hlk, hfl⟩ := cx
  rcases gz_cV_s h with ⟨S1, e1, h⟩ | ⟨a, S1, e1, rfl⟩
  · exact gr_callR hr (hM _ _ e1) hd hlo hws hini hI hK rfl (by rw [hml]; exact hlv) (lv_room (m := m) (pc := pc) (ls := ls) (rest := rest) hrest) (fun H' locs' cells' slots' hI' => kk S1 h H' locs' cells' slots' hI')
  · exact gr_callT hr (hM _ _ e1) hd hlo hws hini hI hK rfl (by rw [hml]; exact hlv) (lv_room (m := m) (pc := pc) (ls := ls) (rest := rest) hrest) rfl rfl hex hlk
theorem gz_goI (ι : σ → gm_S) {k : Int32 → σ → Option (Outcome × σ)} (cx : gx_cx p l s m args meth c G own cc nL ret) (hex : ∀ x ∈ c.exceptionTable.toList, covers x pc = false) (hI : gw_I G S0 (ι x0) H locs cells slots) (hlv : ls.size = nL) (hrest : (rest.map fun v => v.category).sum ≤ 8) (hd : d + 1 ≤ d0) (hlo : maxL ≤ 41)
    (hws : ∀ w ∈ ws, ∀ (a' : Array Value) (U : State), s.WarmedH U.vm → w.before a' U = true) (hini : (Cond.initialized y.cls).before args s = true) (hr : gb_Raw p l e (gx_rm d0 S0) s m args below meth c H locs cells slots (F0 m pc ls st) len rest y av maxL)
    (hM : ∀ o S2, f = some (o, S2) → gx_Met l y ws d G (ι x0) av o (ι S2)) (h : gz_cI f k = some r)
    (kk : ∀ v S1, k v S1 = some r → ∀ (H' : Heap) (locs' : List Loc) (cells' slots' : Nat), gw_I G S0 (ι S1) H' locs' cells' slots' → W p l e (gx_rm d0 S0) s m args below meth c H' locs' cells' slots' (gx_MQ below G S0 (ι r.2) r.1 s) (F0 m (pc + len) ls (.int v :: rest))) : W p l e (gx_rm d0 S0) s m args below meth c H locs cells slots (gx_MQ below G S0 (ι r.2) r.1 s) (F0 m pc ls st) := by
  obtain ⟨hx, hb, hml, hown, hts, hK, hrt, hlk, hfl⟩ := cx
  rcases gz_cI_s h with ⟨v, S1, e1, h⟩ | ⟨a, S1, e1, rfl⟩
  · exact gr_callR hr (hM _ _ e1) hd hlo hws hini hI hK rfl (by rw [hml]; exact hlv) (lv_room (m := m) (pc := pc) (ls := ls) (rest := rest) hrest) (fun H' locs' cells' slots' hI' => kk v S1 h H' locs' cells' slots' hI')
  · exact gr_callT hr (hM _ _ e1) hd hlo hws hini hI hK rfl (by rw [hml]; exact hlv) (lv_room (m := m) (pc := pc) (ls := ls) (rest := rest) hrest) rfl rfl hex hlk
theorem gz_goD (ι : σ → gm_S) {k : UInt64 → σ → Option (Outcome × σ)} (cx : gx_cx p l s m args meth c G own cc nL ret) (hex : ∀ x ∈ c.exceptionTable.toList, covers x pc = false) (hI : gw_I G S0 (ι x0) H locs cells slots) (hlv : ls.size = nL) (hrest : (rest.map fun v => v.category).sum ≤ 8) (hd : d + 1 ≤ d0) (hlo : maxL ≤ 41)
    (hws : ∀ w ∈ ws, ∀ (a' : Array Value) (U : State), s.WarmedH U.vm → w.before a' U = true) (hini : (Cond.initialized y.cls).before args s = true) (hr : gb_Raw p l e (gx_rm d0 S0) s m args below meth c H locs cells slots (F0 m pc ls st) len rest y av maxL)
    (hM : ∀ o S2, f = some (o, S2) → gx_Met l y ws d G (ι x0) av o (ι S2)) (h : gz_cD f k = some r)
    (kk : ∀ v S1, k v S1 = some r → ∀ (H' : Heap) (locs' : List Loc) (cells' slots' : Nat), gw_I G S0 (ι S1) H' locs' cells' slots' → W p l e (gx_rm d0 S0) s m args below meth c H' locs' cells' slots' (gx_MQ below G S0 (ι r.2) r.1 s) (F0 m (pc + len) ls (.double v :: rest))) : W p l e (gx_rm d0 S0) s m args below meth c H locs cells slots (gx_MQ below G S0 (ι r.2) r.1 s) (F0 m pc ls st) := by
  obtain ⟨hx, hb, hml, hown, hts, hK, hrt, hlk, hfl⟩ := cx
  rcases gz_cD_s h with ⟨v, S1, e1, h⟩ | ⟨a, S1, e1, rfl⟩
  · exact gr_callR hr (hM _ _ e1) hd hlo hws hini hI hK rfl (by rw [hml]; exact hlv) (lv_room (m := m) (pc := pc) (ls := ls) (rest := rest) hrest) (fun H' locs' cells' slots' hI' => kk v S1 h H' locs' cells' slots' hI')
  · exact gr_callT hr (hM _ _ e1) hd hlo hws hini hI hK rfl (by rw [hml]; exact hlv) (lv_room (m := m) (pc := pc) (ls := ls) (rest := rest) hrest) rfl rfl hex hlk
theorem gz_goR (ι : σ → gm_S) {k : Option Nat → σ → Option (Outcome × σ)} (cx : gx_cx p l s m args meth c G own cc nL ret) (hex : ∀ x ∈ c.exceptionTable.toList, covers x pc = false) (hI : gw_I G S0 (ι x0) H locs cells slots) (hlv : ls.size = nL) (hrest : (rest.map fun v => v.category).sum ≤ 8) (hd : d + 1 ≤ d0) (hlo : maxL ≤ 41)
    (hws : ∀ w ∈ ws, ∀ (a' : Array Value) (U : State), s.WarmedH U.vm → w.before a' U = true) (hini : (Cond.initialized y.cls).before args s = true) (hr : gb_Raw p l e (gx_rm d0 S0) s m args below meth c H locs cells slots (F0 m pc ls st) len rest y av maxL)
    (hM : ∀ o S2, f = some (o, S2) → gx_Met l y ws d G (ι x0) av o (ι S2)) (h : gz_cR f k = some r)
    (kk : ∀ v S1, k v S1 = some r → ∀ (H' : Heap) (locs' : List Loc) (cells' slots' : Nat), gw_I G S0 (ι S1) H' locs' cells' slots' → W p l e (gx_rm d0 S0) s m args below meth c H' locs' cells' slots' (gx_MQ below G S0 (ι r.2) r.1 s) (F0 m (pc + len) ls (va_rf v :: rest))) : W p l e (gx_rm d0 S0) s m args below meth c H locs cells slots (gx_MQ below G S0 (ι r.2) r.1 s) (F0 m pc ls st) := by
  obtain ⟨hx, hb, hml, hown, hts, hK, hrt, hlk, hfl⟩ := cx
  rcases gz_cR_s h with ⟨v, S1, e1, h⟩ | ⟨a, S1, e1, rfl⟩
  · exact gr_callR hr (hM _ _ e1) hd hlo hws hini hI hK rfl (by rw [hml]; exact hlv) (lv_room (m := m) (pc := pc) (ls := ls) (rest := rest) hrest) (fun H' locs' cells' slots' hI' => kk v S1 h H' locs' cells' slots' hI')
  · exact gr_callT hr (hM _ _ e1) hd hlo hws hini hI hK rfl (by rw [hml]; exact hlv) (lv_room (m := m) (pc := pc) (ls := ls) (rest := rest) hrest) rfl rfl hex hlk
/-! the model's cells, by its own memory -/
theorem nr_gI (cx : gx_cx p l s m args meth c G own cc nL ret) (hf : gg_f G = true) (hI : gw_I G S0 (gm_w S M) H locs cells slots) (k : Nat) (hk : (decide (k < 62) && !gx_arr k) = true) (hy : ∀ v, gm_V (tyX4 k) v = .int (gm_I v)) {O nm ds : String} {fin : Bool} (hT : TX4 k = (O, nm, ds, fin)) (hl : gl_F own index O nm ds args s)
    (hdg : decode cc pc = .ok (.getfield index, 3)) (kk : W p l e R s m args below meth c H locs cells slots Q (F0 m (pc + 3) ls (.int (n_I M k 0) :: rest))) : W p l e R s m args below meth c H locs cells slots Q (F0 m pc ls (va_rf (some (gg_o G)) :: rest)) :=
  gr_mgI cx hf hI k hk hy hT hl hdg (by rw [gm_w_I]; exact kk)
theorem nr_gD (cx : gx_cx p l s m args meth c G own cc nL ret) (hf : gg_f G = true) (hI : gw_I G S0 (gm_w S M) H locs cells slots) (k : Nat) (hk : (decide (k < 62) && !gx_arr k) = true) (hy : ∀ v, gm_V (tyX4 k) v = .double (gm_D v)) {O nm ds : String} {fin : Bool} (hT : TX4 k = (O, nm, ds, fin)) (hl : gl_F own index O nm ds args s)
    (hdg : decode cc pc = .ok (.getfield index, 3)) (kk : W p l e R s m args below meth c H locs cells slots Q (F0 m (pc + 3) ls (.double (n_D M k 0) :: rest))) : W p l e R s m args below meth c H locs cells slots Q (F0 m pc ls (va_rf (some (gg_o G)) :: rest)) :=
  gr_mgD cx hf hI k hk hy hT hl hdg (by rw [gm_w_D]; exact kk)
theorem nr_pI (cx : gx_cx p l s m args meth c G own cc nL ret) (hf : gg_f G = true) (hI : gw_I G S0 (gm_w S M) H locs cells slots) (k : Nat) (hk : (decide (k < 62) && !gx_arr k) = true) (hy : tyX4 k = .int) {O nm ds : String} (hT : TX4 k = (O, nm, ds, false)) (hl : gl_F own index O nm ds args s)
    {x : Int32} {M2 : gM} (hv : n_pIO M k x = some M2) (hdg : decode cc pc = .ok (.putfield index, 3)) (kk : ∀ (H' : Heap) (locs' : List Loc), gw_I G S0 (gm_w S M2) H' locs' cells slots → W p l e R s m args below meth c H' locs' cells slots Q (F0 m (pc + 3) ls rest)) : W p l e R s m args below meth c H locs cells slots Q (F0 m pc ls (.int x :: va_rf (some (gg_o G)) :: rest)) := by
  obtain rfl := Option.some.inj hv
  exact gr_mpI cx hf hI k hk hy hT hl hdg (fun H' locs' hI' => kk H' locs' (by unfold m_p at hI'; rw [gm_w_p] at hI'; exact hI'))
theorem nr_pZ (cx : gx_cx p l s m args meth c G own cc nL ret) (hf : gg_f G = true) (hI : gw_I G S0 (gm_w S M) H locs cells slots) (k : Nat) (hk : (decide (k < 62) && !gx_arr k) = true) (hy : tyX4 k = .boolean) {O nm ds : String} (hT : TX4 k = (O, nm, ds, false)) (hl : gl_F own index O nm ds args s)
    {x : Int32} {M2 : gM} (hv : n_pZO M k x = some M2) (hdg : decode cc pc = .ok (.putfield index, 3)) (kk : ∀ (H' : Heap) (locs' : List Loc), gw_I G S0 (gm_w S M2) H' locs' cells slots → W p l e R s m args below meth c H' locs' cells slots Q (F0 m (pc + 3) ls rest)) : W p l e R s m args below meth c H locs cells slots Q (F0 m pc ls (.int x :: va_rf (some (gg_o G)) :: rest)) := by
  obtain ⟨hok, hv2⟩ := g_ifs hv
  cases hv2
  exact gr_mpZ (S2 := m_p (gm_w S M) k x) cx hf hI k hk hy hT hl (by unfold m_pZ; rw [if_pos hok]) hdg (fun H' locs' hI' => kk H' locs' (by unfold m_p at hI'; rw [gm_w_p] at hI'; exact hI'))
theorem nr_pD (cx : gx_cx p l s m args meth c G own cc nL ret) (hf : gg_f G = true) (hI : gw_I G S0 (gm_w S M) H locs cells slots) (k : Nat) (hk : (decide (k < 62) && !gx_arr k) = true) (hy : tyX4 k = .double) {O nm ds : String} (hT : TX4 k = (O, nm, ds, false)) (hl : gl_F own index O nm ds args s)
    {x : UInt64} {M2 : gM} (hv : n_pDO M k x = some M2) (hdg : decode cc pc = .ok (.putfield index, 3)) (kk : ∀ (H' : Heap) (locs' : List Loc), gw_I G S0 (gm_w S M2) H' locs' cells slots → W p l e R s m args below meth c H' locs' cells slots Q (F0 m (pc + 3) ls rest)) : W p l e R s m args below meth c H locs cells slots Q (F0 m pc ls (.double x :: va_rf (some (gg_o G)) :: rest)) := by
  obtain rfl := Option.some.inj hv
  exact gr_mpD cx hf hI k hk hy hT hl hdg (fun H' locs' hI' => kk H' locs' (by unfold m_pD at hI'; rw [gm_w_p] at hI'; exact hI'))
theorem nr_aI {S : gm_S} {k n : Nat} {i x : Int32} (hv : n_aI M k n i = some x) : m_aI (gm_w S M) k n i = some x := by unfold m_aI; rw [gm_w_I]; exact hv
theorem nr_aD {S : gm_S} {k n : Nat} {i : Int32} {x : UInt64} (hv : n_aD M k n i = some x) : m_aD (gm_w S M) k n i = some x := by unfold m_aD; rw [gm_w_D]; exact hv
theorem nr_sI {S : gm_S} {k n : Nat} {i x : Int32} {M2 : gM} (hv : n_sI M k n i x = some M2) : m_sI (gm_w S M) k n i x = some (gm_w S M2) := by
  obtain ⟨h1, h2⟩ := g_ifs hv
  cases h2
  unfold m_sI
  rw [if_pos h1, gm_w_p]
theorem nr_sD {S : gm_S} {k n : Nat} {i : Int32} {x : UInt64} {M2 : gM} (hv : n_sD M k n i x = some M2) : m_sD (gm_w S M) k n i x = some (gm_w S M2) := by
  obtain ⟨h1, h2⟩ := g_ifs hv
  cases h2
  unfold m_sD
  rw [if_pos h1, gm_w_p]
theorem nr_sC {S : gm_S} {k n : Nat} {i x : Int32} {M2 : gM} (hv : n_sC M k n i x = some M2) : m_sC (gm_w S M) k n i x = some (gm_w S M2) := by
  obtain ⟨h1, h2⟩ := g_ifs hv
  unfold m_sC
  rw [if_pos h1]
  exact nr_sI h2
theorem nr_sZ {S : gm_S} {k n : Nat} {i x : Int32} {M2 : gM} (hv : n_sZ M k n i x = some M2) : m_sZ (gm_w S M) k n i x = some (gm_w S M2) := by
  obtain ⟨h1, h2⟩ := g_ifs hv
  unfold m_sZ
  rw [if_pos h1]
  exact nr_sI h2
/-! casts to an abstract class -/
theorem gr_ck2 (cx : gx_cx p l s m args meth c G own cc nL ret) (hI : gw_I G S0 S H locs cells slots) {t1 t2 : Nat} {q : Option Nat} {nm : String} (hv : (g_at S q t1).isSome = true ∨ (g_at S q t2).isSome = true) (ho1 : gc_ob t1 = true) (ho2 : gc_ob t2 = true) (hlink : (Cond.classLink own index nm).before args s = true) (hc1 : (Cond.castable (gc_C t1) nm) ∈ lw_tbl) (hc2 : (Cond.castable (gc_C t2) nm) ∈ lw_tbl) (hdg : decode cc pc = .ok (.checkcast index, 3))
    (kk : W p l e R s m args below meth c H locs cells slots Q (F0 m (pc + 3) ls (va_rf q :: rest))) : W p l e R s m args below meth c H locs cells slots Q (F0 m pc ls (va_rf q :: rest)) := by
  rcases hv with h | h
  · obtain ⟨a, ha⟩ := Option.isSome_iff_exists.mp h
    refine gr_ckY cx hI ha ho1 hlink hc1 hdg ?_
    obtain ⟨rfl, -⟩ := g_at_s ha
    exact kk
  · obtain ⟨a, ha⟩ := Option.isSome_iff_exists.mp h
    refine gr_ckY cx hI ha ho2 hlink hc2 hdg ?_
    obtain ⟨rfl, -⟩ := g_at_s ha
    exact kk
theorem gr_ck1 (cx : gx_cx p l s m args meth c G own cc nL ret) (hI : gw_I G S0 S H locs cells slots) {t a : Nat} {q : Option Nat} (hv : g_at S q t = some a) (ho : gc_ob t = true) (hlink : (Cond.classLink own index (gc_C t)).before args s = true) (hdg : decode cc pc = .ok (.checkcast index, 3))
    (kk : W p l e R s m args below meth c H locs cells slots Q (F0 m (pc + 3) ls (va_rf q :: rest))) : W p l e R s m args below meth c H locs cells slots Q (F0 m pc ls (va_rf q :: rest)) := by
  refine gr_ckS cx hI hv ho hlink hdg ?_
  obtain ⟨rfl, -⟩ := g_at_s hv
  exact kk
end GZ
