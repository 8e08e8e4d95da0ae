/-! LAYER 2: doubles that are numbers stay numbers -/
set_option maxRecDepth 100000
/-- rounded data: an infinity, or a number that fits -/
def d_rd (D : FP.Core.Datum) : Prop := (∃ s, D = .inf s) ∨ ∃ s c q, D = .fin s c q ∧ c < 2 ^ 53 ∧ q ≤ FP.Core.b64.qmax
theorem d_bound (s : Bool) (c : Nat) (q : Int) (hc : c < 2 ^ 53) : d_rd (FP.Core.bound FP.Core.b64 s c q) := by
  unfold FP.Core.bound
  split
  · exact Or.inr ⟨_, _, _, rfl, hc, by assumption⟩
  · exact Or.inl ⟨_, rfl⟩
theorem d_settle (s : Bool) (c : Nat) (q : Int) : d_rd (FP.Core.settle FP.Core.b64 s c q) := by
  unfold FP.Core.settle
  split
  · exact d_bound _ _ _ (by assumption)
  · exact d_bound _ _ _ (by decide)
theorem d_ratio (s : Bool) (a b : Nat) (e : Int) : d_rd (FP.Core.roundRatio FP.Core.b64 s a b e) := by
  unfold FP.Core.roundRatio
  split
  · exact Or.inr ⟨_, _, _, rfl, by decide, by decide⟩
  · exact d_settle _ _ _
theorem d_t : FP.Core.b64.tails = 4503599627370496 := by decide
theorem d_x : FP.Core.b64.exps = 2048 := by decide
theorem d_u {n : Nat} (h : n < 18446744073709551616) : (UInt64.ofNat n).toNat = n := by
  rw [UInt64.toNat_ofNat']
  exact Nat.mod_eq_of_lt h
theorem d_sn (s : Bool) : s.toNat ≤ 1 := by cases s <;> decide
theorem d_asm (s : Bool) (E T : Nat) (hE : E < 2048) (hT : T < 4503599627370496) : FP.Core.assemble FP.Core.b64 s E T = (s.toNat * 2048 + E) * 4503599627370496 + T ∧ (s.toNat * 2048 + E) * 4503599627370496 + T < 18446744073709551616 := by
  refine ⟨by unfold FP.Core.assemble; rw [d_t, d_x], ?_⟩
  have := d_sn s
  omega
/-- an encoding with small fields is a number -/
theorem d_dec (s : Bool) (E T : Nat) (hE : E ≤ 2046) (hT : T < 4503599627370496) : ∃ s' c q, FP.Core.decode FP.Core.b64 (UInt64.ofNat (FP.Core.assemble FP.Core.b64 s E T)).toNat = .fin s' c q := by
  obtain ⟨e1, e2⟩ := d_asm s E T (by omega) hT
  rw [e1, d_u e2]
  have hf : FP.Core.fieldE FP.Core.b64 ((s.toNat * 2048 + E) * 4503599627370496 + T) = E := by
    unfold FP.Core.fieldE
    rw [d_t, d_x]
    omega
  unfold FP.Core.decode
  rw [hf, d_x, if_neg (by omega)]
  by_cases h0 : E = 0
  · rw [if_pos h0]; exact ⟨_, _, _, rfl⟩
  · rw [if_neg h0]; exact ⟨_, _, _, rfl⟩
theorem d_mask (s : Bool) (E T : Nat) (hE : E ≤ 2047) (hT : T < 4503599627370496) (h : E = 2047 → T = 0) : vf_n64 (UInt64.ofNat (FP.Core.assemble FP.Core.b64 s E T)) := by
  obtain ⟨e1, e2⟩ := d_asm s E T (by omega) hT
  unfold vf_n64
  rw [UInt64.le_iff_toNat_le, UInt64.toNat_and, e1, d_u e2, show (0x7fffffffffffffff : UInt64).toNat = 2 ^ 63 - 1 by decide, Nat.and_two_pow_sub_one_eq_mod, show (0x7ff0000000000000 : UInt64).toNat = 9218868437227405312 by decide, show (2 : Nat) ^ 63 = 9223372036854775808 by decide]
  have := d_sn s
  omega
/-- a number or an infinity -/
def d_fi (v : UInt64) : Prop := d_ok v ∨ ∃ s, FP.Core.decode FP.Core.b64 v.toNat = .inf s
theorem d_enc {D : FP.Core.Datum} (h : d_rd D) : vf_n64 (UInt64.ofNat (FP.Core.encode FP.Core.b64 D)) ∧ d_fi (UInt64.ofNat (FP.Core.encode FP.Core.b64 D)) := by
  rcases h with ⟨s, rfl⟩ | ⟨s, c, q, rfl, hc, hq⟩
  · refine ⟨d_mask s 2047 0 (by omega) (by omega) (fun _ => rfl), Or.inr ⟨s, ?_⟩⟩
    cases s <;> decide +kernel
  · have hc : c < 9007199254740992 := by rw [show (9007199254740992 : Nat) = 2 ^ 53 by decide]; exact hc
    simp only [FP.Core.encode]
    by_cases hlt : c < FP.Core.b64.tails
    · rw [if_pos hlt]
      rw [d_t] at hlt
      exact ⟨d_mask s 0 c (by omega) hlt (by omega), Or.inl (d_dec s 0 c (by omega) hlt)⟩
    · rw [if_neg hlt]
      have h1 : (q - FP.Core.b64.qmin).toNat + 1 ≤ 2046 := by
        have e1 : FP.Core.b64.qmin = -1074 := by decide
        have e2 : FP.Core.b64.qmax = 971 := by decide
        rw [e1]
        rw [e2] at hq
        omega
      have h2 : c - FP.Core.b64.tails < 4503599627370496 := by
        rw [d_t] at hlt ⊢
        omega
      exact ⟨d_mask s _ _ (by omega) h2 (by omega), Or.inl (d_dec s _ _ h1 h2)⟩
theorem d_nn {v : UInt64} (h : vf_n64 v) : g_nn v = some v := by
  unfold g_nn
  exact if_pos h
theorem d_add {x y : UInt64} (hx : d_ok x) (hy : d_ok y) : g_nn (FP.dadd x y) = some (FP.dadd x y) ∧ d_fi (FP.dadd x y) := by
  obtain ⟨s, c, q, e⟩ := hx
  obtain ⟨t, d, r, f⟩ := hy
  have k := d_enc (D := FP.Core.round FP.Core.b64 (FP.Core.exactSum (FP.Core.decode FP.Core.b64 x.toNat) (FP.Core.decode FP.Core.b64 y.toNat))) (by rw [e, f]; exact d_ratio _ _ _ _)
  exact ⟨d_nn k.1, k.2⟩
theorem d_sub {x y : UInt64} (hx : d_ok x) (hy : d_ok y) : g_nn (FP.dsub x y) = some (FP.dsub x y) ∧ d_fi (FP.dsub x y) := by
  obtain ⟨s, c, q, e⟩ := hx
  obtain ⟨t, d, r, f⟩ := hy
  have k := d_enc (D := FP.Core.round FP.Core.b64 (FP.Core.exactSum (FP.Core.decode FP.Core.b64 x.toNat) (FP.Core.negate (FP.Core.decode FP.Core.b64 y.toNat)))) (by rw [e, f]; exact d_ratio _ _ _ _)
  exact ⟨d_nn k.1, k.2⟩
theorem d_mul {x y : UInt64} (hx : d_ok x) (hy : d_ok y) : g_nn (FP.dmul x y) = some (FP.dmul x y) ∧ d_fi (FP.dmul x y) := by
  obtain ⟨s, c, q, e⟩ := hx
  obtain ⟨t, d, r, f⟩ := hy
  have k := d_enc (D := FP.Core.round FP.Core.b64 (FP.Core.exactProduct (FP.Core.decode FP.Core.b64 x.toNat) (FP.Core.decode FP.Core.b64 y.toNat))) (by rw [e, f]; exact d_ratio _ _ _ _)
  exact ⟨d_nn k.1, k.2⟩
theorem d_c0 : d_ok FP.dconst0 := ⟨false, 0, -1074, by decide +kernel⟩
theorem d_hi : d_ok (4741671816366391296 : UInt64) := by
  have h : FP.Core.decode FP.Core.b64 (4741671816366391296 : UInt64).toNat = FP.Core.Datum.fin false 8388608000000000 (-23) := by decide +kernel
  exact ⟨_, _, _, h⟩
theorem d_lo : d_ok (13965043853221167104 : UInt64) := by
  have h : FP.Core.decode FP.Core.b64 (13965043853221167104 : UInt64).toNat = FP.Core.Datum.fin true 8388608000000000 (-23) := by decide +kernel
  exact ⟨_, _, _, h⟩
/-- the clamp: what both programs store -/
def d_cl (v : UInt64) : UInt64 := if (Op.cmpValue (FP.dcmp v (4741671816366391296 : UInt64)) .l) ≤ 0 then (if 0 ≤ (Op.cmpValue (FP.dcmp v (13965043853221167104 : UInt64)) .g) then v else (13965043853221167104 : UInt64)) else (4741671816366391296 : UInt64)
theorem d_clok {v : UInt64} (h : d_fi v) : d_ok (d_cl v) := by
  unfold d_cl
  rcases h with h | ⟨s, h⟩
  · split
    · split
      · exact h
      · exact d_lo
    · exact d_hi
  · have hd : FP.Core.decode FP.Core.b64 (4741671816366391296 : UInt64).toNat = FP.Core.Datum.fin false 8388608000000000 (-23) := by decide +kernel
    have hl : FP.Core.decode FP.Core.b64 (13965043853221167104 : UInt64).toNat = FP.Core.Datum.fin true 8388608000000000 (-23) := by decide +kernel
    cases s with
    | false =>
      rw [if_neg]
      · exact d_hi
      · show ¬ (Op.cmpValue (FP.Core.order (FP.Core.decode FP.Core.b64 v.toNat) (FP.Core.decode FP.Core.b64 (4741671816366391296 : UInt64).toNat)) .l) ≤ 0
        rw [h, hd]
        decide
    | true =>
      rw [if_pos, if_neg]
      · exact d_lo
      · show ¬ 0 ≤ (Op.cmpValue (FP.Core.order (FP.Core.decode FP.Core.b64 v.toNat) (FP.Core.decode FP.Core.b64 (13965043853221167104 : UInt64).toNat)) .g)
        rw [h, hl]
        decide
      · show (Op.cmpValue (FP.Core.order (FP.Core.decode FP.Core.b64 v.toNat) (FP.Core.decode FP.Core.b64 (4741671816366391296 : UInt64).toNat)) .l) ≤ 0
        rw [h, hd]
        decide
