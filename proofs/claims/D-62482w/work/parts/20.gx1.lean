/-! LAYER 1, base: the abstract state, its reading and writing -/
abbrev gm_M : Type := Nat → Nat → Nat → Value
/-- memory; lists by address; next address; cells made; slots made -/
abbrev gm_S : Type := gm_M × (Nat → List Nat) × Nat × Nat × Nat
def gm_I (v : Value) : Int32 := match v with
  | .int x => x
  | _ => 0
def gm_R (v : Value) : Option Nat := match v with
  | .ref a => some a
  | _ => none
def gm_D (v : Value) : UInt64 := match v with
  | .double x => x
  | _ => 0
def gm_J (v : Value) : Int64 := match v with
  | .long x => x
  | _ => 0
def gm_N (v : Value) : Nat := match v with
  | .ref a => a
  | _ => 0
/-- a value as a variable of the type holds it -/
def gm_V (ty : FieldType) (v : Value) : Value := match ty with
  | .object _ => va_rf (gm_R v)
  | .array _ => va_rf (gm_R v)
  | .double => .double (gm_D v)
  | .long => .long (gm_J v)
  | _ => .int (gm_I v)
def gm_st (M : gm_M) (F a i : Nat) (v : Value) : gm_M := fun F' a' i' => if F' = F ∧ a' = a ∧ i' = i then v else M F' a' i'
/-- a fresh cell: its tag, nothing else -/
def gm_fresh (M : gm_M) (n t : Nat) : gm_M := fun F a i => if a = n then (if F = 0 ∧ i = 0 then .ref t else .null) else M F a i
abbrev gs_n (S : gm_S) : Nat := S.2.2.1
abbrev gs_c (S : gm_S) : Nat := S.2.2.2.1
abbrev gs_k (S : gm_S) : Nat := S.2.2.2.2
def gs_t (S : gm_S) (a : Nat) : Nat := gm_N (S.1 0 a 0)
def gs_put (S : gm_S) (F a i : Nat) (v : Value) : gm_S := (gm_st S.1 F a i v, S.2)
/-- an int fits a char, a boolean -/
def g_okC (v : Int32) : Bool := decide (0 ≤ v) && decide (v ≤ 65535)
def g_okZ (v : Int32) : Bool := decide (v = 0) || decide (v = 1)
def g_ix (i : Int32) (n : Nat) : Bool := decide (0 ≤ i) && decide (i.toNatClampNeg < n)
/-- the tagged address -/
def g_at (S : gm_S) (r : Option Nat) (t : Nat) : Option Nat := match r with
  | some a => if gs_t S a = t then some a else none
  | none => none
def g_gI (S : gm_S) (r : Option Nat) (t k : Nat) : Option Int32 := (g_at S r t).map fun a => gm_I (S.1 (100 * t + k) a 0)
def g_gR (S : gm_S) (r : Option Nat) (t k : Nat) : Option (Option Nat) := (g_at S r t).map fun a => gm_R (S.1 (100 * t + k) a 0)
def g_gD (S : gm_S) (r : Option Nat) (t k : Nat) : Option UInt64 := (g_at S r t).map fun a => gm_D (S.1 (100 * t + k) a 0)
def g_pI (S : gm_S) (r : Option Nat) (t k : Nat) (v : Int32) : Option gm_S := (g_at S r t).map fun a => gs_put S (100 * t + k) a 0 (.int v)
def g_pC (S : gm_S) (r : Option Nat) (t k : Nat) (v : Int32) : Option gm_S := if g_okC v = true then g_pI S r t k v else none
def g_pZ (S : gm_S) (r : Option Nat) (t k : Nat) (v : Int32) : Option gm_S := if g_okZ v = true then g_pI S r t k v else none
def g_pR (S : gm_S) (r : Option Nat) (t k : Nat) (v : Option Nat) : Option gm_S := (g_at S r t).map fun a => gs_put S (100 * t + k) a 0 (va_rf v)
def g_pD (S : gm_S) (r : Option Nat) (t k : Nat) (v : UInt64) : Option gm_S := (g_at S r t).map fun a => gs_put S (100 * t + k) a 0 (.double v)
/-- arrays: kinds 0 int, 1 char, 2 double, 3 boolean, 4 long; length at key 1, elements at key 2 -/
def g_len (S : gm_S) (r : Option Nat) (t : Nat) : Option Int32 := (g_at S r (100 + t)).map fun a => nI (gm_N (S.1 1 a 0))
def g_el (S : gm_S) (r : Option Nat) (t : Nat) (i : Int32) : Option Value := (g_at S r (100 + t)).bind fun a => if g_ix i (gm_N (S.1 1 a 0)) = true then some (S.1 2 a i.toNatClampNeg) else none
def g_aI (S : gm_S) (r : Option Nat) (t : Nat) (i : Int32) : Option Int32 := (g_el S r t i).map gm_I
def g_aD (S : gm_S) (r : Option Nat) (t : Nat) (i : Int32) : Option UInt64 := (g_el S r t i).map gm_D
def g_aJ (S : gm_S) (r : Option Nat) (t : Nat) (i : Int32) : Option Int64 := (g_el S r t i).map gm_J
def g_as (S : gm_S) (r : Option Nat) (t : Nat) (i : Int32) (v : Value) : Option gm_S := (g_at S r (100 + t)).bind fun a => if g_ix i (gm_N (S.1 1 a 0)) = true then some (gs_put S 2 a i.toNatClampNeg v) else none
def g_sI (S : gm_S) (r : Option Nat) (t : Nat) (i v : Int32) : Option gm_S := g_as S r t i (.int v)
def g_sC (S : gm_S) (r : Option Nat) (i v : Int32) : Option gm_S := if g_okC v = true then g_as S r 1 i (.int v) else none
def g_sZ (S : gm_S) (r : Option Nat) (i v : Int32) : Option gm_S := if g_okZ v = true then g_as S r 3 i (.int v) else none
def g_sD (S : gm_S) (r : Option Nat) (i : Int32) (v : UInt64) : Option gm_S := g_as S r 2 i (.double v)
def g_sJ (S : gm_S) (r : Option Nat) (i : Int32) (v : Int64) : Option gm_S := g_as S r 4 i (.long v)
/-- room for one more cell of so many slots -/
def g_room (S : gm_S) (w : Nat) : Bool := decide (gs_c S < 600096) && decide (gs_k S + w ≤ 7301386)
def g_mk (S : gm_S) (t w : Nat) : gm_S := (gm_fresh S.1 (gs_n S) t, S.2.1, gs_n S + 1, gs_c S + 1, gs_k S + w)
def g_new (S : gm_S) (t w : Nat) : Option (Nat × gm_S) := if g_room S w = true then some (gs_n S, g_mk S t w) else none
def g_newa (S : gm_S) (t : Nat) (n : Int32) : Option (Nat × gm_S) := if (decide (0 ≤ n) && decide (n ≤ 1000)) = true then (if g_room S n.toNatClampNeg = true then some (gs_n S, gs_put (g_mk S (100 + t) n.toNatClampNeg) 1 (gs_n S) 0 (.ref n.toNatClampNeg)) else none) else none
/-- lists: tag 16, contents in the second part, capacity at key 3, the row's address at key 4 (its tag 30, its owner at key 5) -/
def g_cap (S : gm_S) (a : Nat) : Nat := gm_N (S.1 3 a 0)
def g_bk (S : gm_S) (a : Nat) : Nat := gm_N (S.1 4 a 0)
def g_okE (t : Nat) : Bool := t == 5 || t == 7 || t == 8 || t == 10 || t == 11 || t == 13 || t == 14 || t == 15
def gs_L (S : gm_S) (a : Nat) (l : List Nat) : gm_S := (S.1, (fun b => if b = a then l else S.2.1 b), S.2.2)
def g_lnew (S : gm_S) (r : Option Nat) : Option gm_S := (g_at S r 32).map fun a => gs_L (gs_put S 0 a 0 (.ref 16)) a []
def g_lsz (S : gm_S) (r : Option Nat) : Option Int32 := (g_at S r 16).map fun a => nI (S.2.1 a).length
def g_lemp (S : gm_S) (r : Option Nat) : Option Int32 := (g_at S r 16).map fun a => if S.2.1 a = [] then 1 else 0
def g_lget (S : gm_S) (r : Option Nat) (i : Int32) : Option Nat := (g_at S r 16).bind fun a => if 0 ≤ i then (S.2.1 a)[i.toNatClampNeg]? else none
def g_grow (S : gm_S) (a w : Nat) : Option gm_S := if g_room S w = true then some (gs_put (gs_put (gs_put (g_mk S 30 w) 5 (gs_n S) 0 (.ref a)) 3 a 0 (.ref w)) 4 a 0 (.ref (gs_n S))) else none
def g_ladd (S : gm_S) (r v : Option Nat) : Option gm_S := (g_at S r 16).bind fun a => v.bind fun x => if g_okE (gs_t S x) = true then
    (if (S.2.1 a).length < 100 then
      (if (S.2.1 a).length = g_cap S a then (g_grow S a (if g_cap S a = 0 then 10 else g_cap S a + g_cap S a / 2)).map fun S => gs_L S a (S.2.1 a ++ [x])
       else some (gs_L S a (S.2.1 a ++ [x]))) else none) else none
def g_lclr (S : gm_S) (r : Option Nat) : Option gm_S := (g_at S r 16).map fun a => gs_L S a []
def g_lrem (S : gm_S) (r : Option Nat) (i : Int32) : Option (Nat × gm_S) := (g_at S r 16).bind fun a => if 0 ≤ i then ((S.2.1 a)[i.toNatClampNeg]?).map (fun x => (x, gs_L S a ((S.2.1 a).eraseIdx i.toNatClampNeg))) else none
/-- the model's own state: field k of it, elements at i, under the address 0 -/
abbrev m_I (S : gm_S) (k i : Nat) : Int32 := gm_I (S.1 (400 + k) 0 i)
abbrev m_D (S : gm_S) (k i : Nat) : UInt64 := gm_D (S.1 (400 + k) 0 i)
def m_p (S : gm_S) (k : Nat) (v : Int32) : gm_S := gs_put S (400 + k) 0 0 (.int v)
def m_pZ (S : gm_S) (k : Nat) (v : Int32) : Option gm_S := if g_okZ v = true then some (m_p S k v) else none
def m_pD (S : gm_S) (k : Nat) (v : UInt64) : gm_S := gs_put S (400 + k) 0 0 (.double v)
def m_aI (S : gm_S) (k n : Nat) (i : Int32) : Option Int32 := if g_ix i n = true then some (m_I S k i.toNatClampNeg) else none
def m_aD (S : gm_S) (k n : Nat) (i : Int32) : Option UInt64 := if g_ix i n = true then some (m_D S k i.toNatClampNeg) else none
def m_sI (S : gm_S) (k n : Nat) (i v : Int32) : Option gm_S := if g_ix i n = true then some (gs_put S (400 + k) 0 i.toNatClampNeg (.int v)) else none
def m_sC (S : gm_S) (k n : Nat) (i v : Int32) : Option gm_S := if g_okC v = true then m_sI S k n i v else none
def m_sZ (S : gm_S) (k n : Nat) (i v : Int32) : Option gm_S := if g_okZ v = true then m_sI S k n i v else none
def m_sD (S : gm_S) (k n : Nat) (i : Int32) (v : UInt64) : Option gm_S := if g_ix i n = true then some (gs_put S (400 + k) 0 i.toNatClampNeg (.double v)) else none
/-- doubles: no NaN comes out -/
def g_nn (v : UInt64) : Option UInt64 := if v &&& 0x7fffffffffffffff ≤ 0x7ff0000000000000 then some v else none
theorem g_bind {α β : Type} {x : Option α} {f : α → Option β} {y : β} (h : x.bind f = some y) : ∃ a, x = some a ∧ f a = some y := by
  cases x with
  | none => cases h
  | some a => exact ⟨a, rfl, h⟩
theorem g_map {α β : Type} {x : Option α} {f : α → β} {y : β} (h : x.map f = some y) : ∃ a, x = some a ∧ f a = y := by
  cases x with
  | none => cases h
  | some a => exact ⟨a, rfl, Option.some.inj h⟩
theorem g_ifs {α : Type} {b : Prop} [Decidable b] {x : Option α} {y : α} (h : (if b then x else none) = some y) : b ∧ x = some y := by
  by_cases hb : b
  · rw [if_pos hb] at h; exact ⟨hb, h⟩
  · rw [if_neg hb] at h; cases h
theorem g_at_s {S : gm_S} {r : Option Nat} {t a : Nat} (h : g_at S r t = some a) : r = some a ∧ gs_t S a = t := by
  cases r with
  | none => cases h
  | some b =>
    obtain ⟨h1, h2⟩ := g_ifs (show (if gs_t S b = t then some b else none) = some a from h)
    cases h2
    exact ⟨rfl, h1⟩
theorem g_ix_s {i : Int32} {n : Nat} (h : g_ix i n = true) : vp_in i n := by
  simp only [g_ix, Bool.and_eq_true, decide_eq_true_eq] at h
  intro hq
  rcases hq with hq | hq
  · exact absurd h.1 (Int32.not_le.mpr hq)
  · omega
theorem gm_st_e {M : gm_M} {F a i : Nat} {v : Value} : gm_st M F a i v F a i = v := by simp [gm_st]
theorem gm_st_a {M : gm_M} {F a i : Nat} {v : Value} {F' a' i' : Nat} (h : a' ≠ a) : gm_st M F a i v F' a' i' = M F' a' i' := by simp [gm_st, h]
theorem gm_st_F {M : gm_M} {F a i : Nat} {v : Value} {F' a' i' : Nat} (h : F' ≠ F) : gm_st M F a i v F' a' i' = M F' a' i' := by simp [gm_st, h]
theorem gm_st_i {M : gm_M} {F a i : Nat} {v : Value} {F' a' i' : Nat} (h : i' ≠ i) : gm_st M F a i v F' a' i' = M F' a' i' := by simp [gm_st, h]
theorem gm_fresh_o {M : gm_M} {n t F a i : Nat} (h : a ≠ n) : gm_fresh M n t F a i = M F a i := by simp [gm_fresh, h]
theorem gm_R_rf (r : Option Nat) : gm_R (va_rf r) = r := by cases r <;> rfl
