/-! LAYER 1 (printed by wip/gen/gen1.py): the methods as functions -/
set_option maxRecDepth 100000
def F_X2_look (fu : Nat) (x0 : Option Nat) (S : gm_S) : gR :=
  Option.bind (g_gI S x0 2 2) fun v1 =>
  Option.bind (g_gI S x0 2 1) fun v2 =>
  if v2 ≤ v1 then (if g_okC (0 : Int32) = true then some (.returned (some (.int (0 : Int32))), S) else none)
  else (Option.bind (g_gR S x0 2 0) fun v3 =>
  Option.bind (g_gI S x0 2 2) fun v4 =>
  Option.bind (g_aI S v3 1 v4) fun v5 =>
  if g_okC v5 = true then some (.returned (some (.int v5)), S) else none)
def F_X2_isAmong (fu : Nat) (x0 : Option Nat) (x1 : Int32) (x2 : Int32) (S : gm_S) : gR :=
  gz_q (g_at S x0 2) (gz_cI (F_X2_look fu x0 S) fun v1 S1 =>
  if v1 < x1 then (if g_okZ (0 : Int32) = true then some (.returned (some (.int (0 : Int32))), S1) else none)
  else (gz_q (g_at S1 x0 2) (gz_cI (F_X2_look fu x0 S1) fun v2 S2 =>
  if x2 < v2 then (if g_okZ (0 : Int32) = true then some (.returned (some (.int (0 : Int32))), S2) else none)
  else (if g_okZ (1 : Int32) = true then some (.returned (some (.int (1 : Int32))), S2) else none))))
def F_X2_next (fu : Nat) (x0 : Option Nat) (S : gm_S) : gR :=
  Option.bind (g_gI S x0 2 2) fun v1 =>
  Option.bind (g_pI S x0 2 2 (v1 + (1 : Int32))) fun S2 =>
  Option.bind (g_gR S2 x0 2 0) fun v3 =>
  Option.bind (g_gI S2 x0 2 2) fun v4 =>
  Option.bind (g_aI S2 v3 1 (v4 - (1 : Int32))) fun v5 =>
  if g_okC v5 = true then some (.returned (some (.int v5)), S2) else none
def F_X2_takes (fu : Nat) (x0 : Option Nat) (x1 : Int32) (S : gm_S) : gR :=
  gz_q (g_at S x0 2) (gz_cI (F_X2_look fu x0 S) fun v1 S1 =>
  if v1 = x1 then (Option.bind (g_gI S1 x0 2 2) fun v2 =>
  Option.bind (g_pI S1 x0 2 2 (v2 + (1 : Int32))) fun S3 =>
  if g_okZ (1 : Int32) = true then some (.returned (some (.int (1 : Int32))), S3) else none)
  else (if g_okZ (0 : Int32) = true then some (.returned (some (.int (0 : Int32))), S1) else none))
def F_X2_want (fu : Nat) (x0 : Option Nat) (x1 : Int32) (S : gm_S) : gR :=
  if x1 = 0 then (Option.bind (g_new S 17 6) fun q1 => some (.threw q1.1, q1.2))
  else (some (.returned none, S))
def F_X9_init (fu : Nat) (x0 : Option Nat) (x1 : Int32) (x2 : UInt64) (S : gm_S) : gR :=
  gz_q (g_at S x0 9) (
  Option.bind (g_pI S x0 9 0 x1) fun S2 =>
  Option.bind (g_pD S2 x0 9 1 x2) fun S3 =>
  some (.returned none, S3))
def F_X2_operand_120 (fu : Nat) (x1 : UInt64) (S : gm_S) : gR :=
  Option.bind (g_new S 9 2) fun q1 =>
  gz_q (g_at q1.2 (some q1.1) 9) (gz_cV (F_X9_init fu (some q1.1) (-1 : Int32) x1 q1.2) fun S2 =>
  some (.returned (some (va_rf (some q1.1))), S2))
def F_X2_operand_80 (fu : Nat) (x0 : Option Nat) (x1 : UInt64) (S : gm_S) : gR :=
  gz_q (g_at S x0 2) (gz_cI (F_X2_takes fu x0 (46 : Int32) S) fun v1 S1 =>
  if v1 = 0 then (F_X2_operand_120 fu x1 S1)
  else (gz_q (g_at S1 x0 2) (gz_cI (F_X2_isAmong fu x0 (48 : Int32) (57 : Int32) S1) fun v2 S2 =>
  gz_q (g_at S2 x0 2) (gz_cV (F_X2_want fu x0 v2 S2) fun S3 =>
  Option.bind (g_nn (FP.dmul (4621819117588971520 : UInt64) x1)) fun v4 =>
  gz_q (g_at S3 x0 2) (gz_cI (F_X2_next fu x0 S3) fun v5 S5 =>
  Option.bind (g_nn (FP.dadd v4 (FP.i2d (v5 - (48 : Int32))))) fun v6 =>
  Option.bind (g_nn (FP.ddiv v6 (4621819117588971520 : UInt64))) fun v7 =>
  F_X2_operand_120 fu v7 S5)))))
def F_X2_operand_43 (fu : Nat) : Nat → Option Nat → UInt64 → Int32 → gm_S → gR
  | 0, _, _, _, _ => none
  | n + 1, x0, x1, x3, S => if (3 : Int32) ≤ x3 then (F_X2_operand_80 fu x0 x1 S)
  else (gz_q (g_at S x0 2) (gz_cI (F_X2_isAmong fu x0 (48 : Int32) (57 : Int32) S) fun v1 S1 =>
  if v1 = 0 then (F_X2_operand_80 fu x0 x1 S1)
  else (Option.bind (g_nn (FP.dmul (4621819117588971520 : UInt64) x1)) fun v2 =>
  gz_q (g_at S1 x0 2) (gz_cI (F_X2_next fu x0 S1) fun v3 S3 =>
  Option.bind (g_nn (FP.dadd v2 (FP.i2d (v3 - (48 : Int32))))) fun v4 =>
  F_X2_operand_43 fu n x0 v4 (x3 + (1 : Int32)) S3))))
def F_X2_operand (fu : Nat) (x0 : Option Nat) (S : gm_S) : gR :=
  gz_q (g_at S x0 2) (gz_cI (F_X2_isAmong fu x0 (117 : Int32) (122 : Int32) S) fun v1 S1 =>
  if v1 = 0 then (gz_q (g_at S1 x0 2) (gz_cI (F_X2_isAmong fu x0 (48 : Int32) (57 : Int32) S1) fun v2 S2 =>
  gz_q (g_at S2 x0 2) (gz_cV (F_X2_want fu x0 v2 S2) fun S3 =>
  F_X2_operand_43 fu fu x0 FP.dconst0 (0 : Int32) S3)))
  else (Option.bind (g_new S1 9 2) fun q4 =>
  gz_q (g_at q4.2 x0 2) (gz_cI (F_X2_next fu x0 q4.2) fun v5 S5 =>
  gz_q (g_at S5 (some q4.1) 9) (gz_cV (F_X9_init fu (some q4.1) (v5 - (117 : Int32)) FP.dconst0 S5) fun S6 =>
  some (.returned (some (va_rf (some q4.1))), S6)))))
def F_X6_init_8 (fu : Nat) (x0 : Option Nat) (S : gm_S) : gR :=
  gz_q (g_at S x0 8) (
  some (.returned none, S))
def F_X8_init (fu : Nat) (x0 : Option Nat) (x1 : Int32) (x2 : Int32) (x3 : Option Nat) (S : gm_S) : gR :=
  gz_q (g_at S x0 8) (gz_cV (F_X6_init_8 fu x0 S) fun S1 =>
  Option.bind (g_pI S1 x0 8 0 x1) fun S2 =>
  Option.bind (g_pC S2 x0 8 1 x2) fun S3 =>
  Option.bind (g_pR S3 x0 8 2 x3) fun S4 =>
  some (.returned none, S4))
def F_X2_assigning_35 (fu : Nat) (x0 : Option Nat) (x1 : Int32) (x2 : Int32) (s0 : Int32) (s1 : Option Nat) (S : gm_S) : gR :=
  gz_q (g_at S s1 2) (gz_cV (F_X2_want fu s1 s0 S) fun S1 =>
  Option.bind (g_gI S1 x0 2 2) fun v2 =>
  Option.bind (g_pI S1 x0 2 2 (v2 + (1 : Int32))) fun S3 =>
  Option.bind (g_new S3 8 3) fun q4 =>
  gz_q (g_at q4.2 x0 2) (gz_cR (F_X2_operand fu x0 q4.2) fun v5 S5 =>
  gz_q (g_at S5 (some q4.1) 8) (gz_cV (F_X8_init fu (some q4.1) (x1 - (117 : Int32)) x2 v5 S5) fun S6 =>
  some (.returned (some (va_rf (some q4.1))), S6))))
def F_X2_assigning (fu : Nat) (x0 : Option Nat) (x1 : Int32) (S : gm_S) : gR :=
  gz_q (g_at S x0 2) (gz_cI (F_X2_look fu x0 S) fun v1 S1 =>
  if v1 = (61 : Int32) then (F_X2_assigning_35 fu x0 x1 v1 (1 : Int32) x0 S1)
  else (if v1 = (43 : Int32) then (F_X2_assigning_35 fu x0 x1 v1 (1 : Int32) x0 S1)
  else (if v1 = (45 : Int32) then (F_X2_assigning_35 fu x0 x1 v1 (1 : Int32) x0 S1)
  else (if v1 = (42 : Int32) then (F_X2_assigning_35 fu x0 x1 v1 (1 : Int32) x0 S1)
  else (F_X2_assigning_35 fu x0 x1 v1 (0 : Int32) x0 S1)))))
def F_X6_init_7 (fu : Nat) (x0 : Option Nat) (S : gm_S) : gR :=
  gz_q (g_at S x0 7) (
  some (.returned none, S))
def F_X7_init (fu : Nat) (x0 : Option Nat) (x1 : Int32) (x2 : Int32) (S : gm_S) : gR :=
  gz_q (g_at S x0 7) (gz_cV (F_X6_init_7 fu x0 S) fun S1 =>
  Option.bind (g_pC S1 x0 7 0 x1) fun S2 =>
  Option.bind (g_pI S2 x0 7 1 x2) fun S3 =>
  some (.returned none, S3))
def F_X2_raising (fu : Nat) (x0 : Option Nat) (x1 : Int32) (S : gm_S) : gR :=
  gz_q (g_at S x0 2) (gz_cI (F_X2_takes fu x0 (64 : Int32) S) fun v1 S1 =>
  if v1 = 0 then (Option.bind (g_new S1 7 2) fun q7 =>
  gz_q (g_at q7.2 (some q7.1) 7) (gz_cV (F_X7_init fu (some q7.1) x1 (0 : Int32) q7.2) fun S8 =>
  some (.returned (some (va_rf (some q7.1))), S8)))
  else (gz_q (g_at S1 x0 2) (gz_cI (F_X2_isAmong fu x0 (49 : Int32) (57 : Int32) S1) fun v2 S2 =>
  gz_q (g_at S2 x0 2) (gz_cV (F_X2_want fu x0 v2 S2) fun S3 =>
  Option.bind (g_new S3 7 2) fun q4 =>
  gz_q (g_at q4.2 x0 2) (gz_cI (F_X2_next fu x0 q4.2) fun v5 S5 =>
  gz_q (g_at S5 (some q4.1) 7) (gz_cV (F_X7_init fu (some q4.1) x1 (v5 - (48 : Int32)) S5) fun S6 =>
  some (.returned (some (va_rf (some q4.1))), S6)))))))
def F_X2_actions_75 (fu : Nat) (k0 : Option Nat → Option Nat → gm_S → gR) (x0 : Option Nat) (x1 : Option Nat) (s0 : Option Nat) (s1 : Option Nat) (S : gm_S) : gR :=
  Option.bind (g_ladd S s1 s0) fun S1 =>
  gz_q (g_at S1 x0 2) (gz_cI (F_X2_takes fu x0 (44 : Int32) S1) fun v2 S2 =>
  if v2 = 0 then (some (.returned none, S2))
  else (k0 x0 x1 S2))
def F_X2_actions_37 (fu : Nat) (k0 : Option Nat → Option Nat → gm_S → gR) (x0 : Option Nat) (x1 : Option Nat) (s0 : Int32) (s1 : Option Nat) (S : gm_S) : gR :=
  gz_q (g_at S s1 2) (gz_cV (F_X2_want fu s1 s0 S) fun S1 =>
  Option.bind (g_gI S1 x0 2 7) fun v2 =>
  Option.bind (g_pI S1 x0 2 7 (v2 + (1 : Int32))) fun S3 =>
  gz_q (g_at S3 x0 2) (gz_cI (F_X2_next fu x0 S3) fun v4 S4 =>
  if (72 : Int32) < v4 then (gz_q (g_at S4 x0 2) (gz_cR (F_X2_assigning fu x0 v4 S4) fun v5 S5 =>
  F_X2_actions_75 fu k0 x0 x1 v5 x1 S5))
  else (gz_q (g_at S4 x0 2) (gz_cR (F_X2_raising fu x0 v4 S4) fun v6 S6 =>
  F_X2_actions_75 fu k0 x0 x1 v6 x1 S6))))
def F_X2_actions_23 (fu : Nat) (k0 : Option Nat → Option Nat → gm_S → gR) (x0 : Option Nat) (x1 : Option Nat) (s0 : Option Nat) (S : gm_S) : gR :=
  Option.bind (g_gI S x0 2 7) fun v1 =>
  if (40 : Int32) ≤ v1 then (F_X2_actions_37 fu k0 x0 x1 (0 : Int32) s0 S)
  else (F_X2_actions_37 fu k0 x0 x1 (1 : Int32) s0 S)
def F_X2_actions_0 (fu : Nat) : Nat → Option Nat → Option Nat → gm_S → gR
  | 0, _, _, _ => none
  | n + 1, x0, x1, S => gz_q (g_at S x0 2) (gz_cI (F_X2_isAmong fu x0 (65 : Int32) (72 : Int32) S) fun v1 S1 =>
  if v1 = 0 then (gz_q (g_at S1 x0 2) (gz_cI (F_X2_isAmong fu x0 (117 : Int32) (122 : Int32) S1) fun v2 S2 =>
  if v2 = 0 then (F_X2_actions_37 fu (F_X2_actions_0 fu n) x0 x1 (0 : Int32) x0 S2)
  else (F_X2_actions_23 fu (F_X2_actions_0 fu n) x0 x1 x0 S2)))
  else (F_X2_actions_23 fu (F_X2_actions_0 fu n) x0 x1 x0 S1))
def F_X2_actions (fu : Nat) (x0 : Option Nat) (x1 : Option Nat) (S : gm_S) : gR :=
  F_X2_actions_0 fu fu x0 x1 S
def F_X2_take (fu : Nat) (x0 : Option Nat) (x1 : Int32) (S : gm_S) : gR :=
  gz_q (g_at S x0 2) (gz_cI (F_X2_takes fu x0 x1 S) fun v1 S1 =>
  gz_q (g_at S1 x0 2) (gz_cV (F_X2_want fu x0 v1 S1) fun S2 =>
  some (.returned none, S2)))
def F_X10_init (fu : Nat) (x0 : Option Nat) (x1 : Option Nat) (x2 : Int32) (S : gm_S) : gR :=
  gz_q (g_at S x0 10) (
  Option.bind (g_new S 32 3) fun q2 =>
  Option.bind (g_lnew q2.2 (some q2.1)) fun S3 =>
  Option.bind (g_pR S3 x0 10 2 (some q2.1)) fun S4 =>
  Option.bind (g_new S4 32 3) fun q5 =>
  Option.bind (g_lnew q5.2 (some q5.1)) fun S6 =>
  Option.bind (g_pR S6 x0 10 3 (some q5.1)) fun S7 =>
  Option.bind (g_pR S7 x0 10 0 x1) fun S8 =>
  Option.bind (g_pC S8 x0 10 1 x2) fun S9 =>
  some (.returned none, S9))
def F_X11_init (fu : Nat) (x0 : Option Nat) (x1 : Int32) (x2 : Int32) (x3 : Int32) (S : gm_S) : gR :=
  gz_q (g_at S x0 11) (
  Option.bind (g_pC S x0 11 0 x1) fun S2 =>
  Option.bind (g_pI S2 x0 11 1 x2) fun S3 =>
  Option.bind (g_pI S3 x0 11 2 x3) fun S4 =>
  some (.returned none, S4))
def F_X2_target_53 (fu : Nat) (x0 : Option Nat) (x1 : Int32) (x2 : Int32) (x3 : Int32) (S : gm_S) : gR :=
  Option.bind (g_new S 11 4) fun q1 =>
  gz_q (g_at q1.2 (some q1.1) 11) (gz_cV (F_X11_init fu (some q1.1) x2 x1 x3 q1.2) fun S2 =>
  Option.bind (g_gR S2 x0 2 4) fun v3 =>
  Option.bind (g_ladd S2 v3 (some q1.1)) fun S4 =>
  some (.returned (some (va_rf (some q1.1))), S4))
def F_X2_target_36 (fu : Nat) (x0 : Option Nat) (x1 : Int32) (x2 : Int32) (s0 : Int32) (S : gm_S) : gR :=
  if s0 = (1 : Int32) then (gz_q (g_at S x0 2) (gz_cI (F_X2_takes fu x0 (42 : Int32) S) fun v1 S1 =>
  if v1 = 0 then (F_X2_target_53 fu x0 x1 x2 s0 S1)
  else (F_X2_target_53 fu x0 x1 x2 (2 : Int32) S1)))
  else (F_X2_target_53 fu x0 x1 x2 s0 S)
def F_X2_target (fu : Nat) (x0 : Option Nat) (S : gm_S) : gR :=
  gz_q (g_at S x0 2) (gz_cI (F_X2_isAmong fu x0 (97 : Int32) (112 : Int32) S) fun v1 S1 =>
  gz_q (g_at S1 x0 2) (gz_cV (F_X2_want fu x0 v1 S1) fun S2 =>
  Option.bind (g_gI S2 x0 2 2) fun v3 =>
  gz_q (g_at S2 x0 2) (gz_cI (F_X2_next fu x0 S2) fun v4 S4 =>
  gz_q (g_at S4 x0 2) (gz_cI (F_X2_takes fu x0 (42 : Int32) S4) fun v5 S5 =>
  if v5 = 0 then (F_X2_target_36 fu x0 v3 v4 (0 : Int32) S5)
  else (F_X2_target_36 fu x0 v3 v4 (1 : Int32) S5)))))
def F_X12_init_13 (fu : Nat) (x0 : Option Nat) (x1 : Int32) (S : gm_S) : gR :=
  gz_q (g_at S x0 13) (
  Option.bind (g_pZ S x0 13 0 x1) fun S2 =>
  some (.returned none, S2))
def F_X13_init (fu : Nat) (x0 : Option Nat) (x1 : Int32) (x2 : Option Nat) (S : gm_S) : gR :=
  gz_q (g_at S x0 13) (gz_cV (F_X12_init_13 fu x0 x1 S) fun S1 =>
  Option.bind (g_pR S1 x0 13 1 x2) fun S2 =>
  some (.returned none, S2))
def F_X12_init_14 (fu : Nat) (x0 : Option Nat) (x1 : Int32) (S : gm_S) : gR :=
  gz_q (g_at S x0 14) (
  Option.bind (g_pZ S x0 14 0 x1) fun S2 =>
  some (.returned none, S2))
def F_X14_init (fu : Nat) (x0 : Option Nat) (x1 : Int32) (x2 : Option Nat) (x3 : Int32) (x4 : Option Nat) (S : gm_S) : gR :=
  gz_q (g_at S x0 14) (gz_cV (F_X12_init_14 fu x0 x1 S) fun S1 =>
  Option.bind (g_pR S1 x0 14 1 x2) fun S2 =>
  Option.bind (g_pC S2 x0 14 3 x3) fun S3 =>
  Option.bind (g_pR S3 x0 14 2 x4) fun S4 =>
  some (.returned none, S4))
def F_X2_test_112 (fu : Nat) (x0 : Option Nat) (x1 : Int32) (x2 : Option Nat) (s0 : Int32) (s1 : Option Nat) (S : gm_S) : gR :=
  gz_q (g_at S s1 2) (gz_cV (F_X2_want fu s1 s0 S) fun S1 =>
  gz_q (g_at S1 x0 2) (gz_cI (F_X2_next fu x0 S1) fun v2 S2 =>
  Option.bind (g_new S2 14 4) fun q3 =>
  gz_q (g_at q3.2 x0 2) (gz_cR (F_X2_operand fu x0 q3.2) fun v4 S4 =>
  gz_q (g_at S4 (some q3.1) 14) (gz_cV (F_X14_init fu (some q3.1) x1 x2 v2 v4 S4) fun S5 =>
  some (.returned (some (va_rf (some q3.1))), S5)))))
def F_X2_test (fu : Nat) (x0 : Option Nat) (S : gm_S) : gR :=
  gz_q (g_at S x0 2) (gz_cI (F_X2_takes fu x0 (33 : Int32) S) fun v1 S1 =>
  gz_q (g_at S1 x0 2) (gz_cI (F_X2_takes fu x0 (35 : Int32) S1) fun v2 S2 =>
  if v2 = 0 then (gz_q (g_at S2 x0 2) (gz_cR (F_X2_operand fu x0 S2) fun v3 S3 =>
  gz_q (g_at S3 x0 2) (gz_cI (F_X2_look fu x0 S3) fun v4 S4 =>
  if v4 = (60 : Int32) then (F_X2_test_112 fu x0 v1 v3 (1 : Int32) x0 S4)
  else (gz_q (g_at S4 x0 2) (gz_cI (F_X2_look fu x0 S4) fun v5 S5 =>
  if v5 = (61 : Int32) then (F_X2_test_112 fu x0 v1 v3 (1 : Int32) x0 S5)
  else (gz_q (g_at S5 x0 2) (gz_cI (F_X2_look fu x0 S5) fun v6 S6 =>
  if v6 = (62 : Int32) then (F_X2_test_112 fu x0 v1 v3 (1 : Int32) x0 S6)
  else (F_X2_test_112 fu x0 v1 v3 (0 : Int32) x0 S6))))))))
  else (gz_q (g_at S2 x0 2) (gz_cI (F_X2_isAmong fu x0 (97 : Int32) (112 : Int32) S2) fun v7 S7 =>
  gz_q (g_at S7 x0 2) (gz_cV (F_X2_want fu x0 v7 S7) fun S8 =>
  Option.bind (g_new S8 11 4) fun q9 =>
  gz_q (g_at q9.2 x0 2) (gz_cI (F_X2_look fu x0 q9.2) fun v10 S10 =>
  Option.bind (g_gI S10 x0 2 2) fun v11 =>
  gz_q (g_at S10 (some q9.1) 11) (gz_cV (F_X11_init fu (some q9.1) v10 v11 (0 : Int32) S10) fun S12 =>
  Option.bind (g_gI S12 x0 2 2) fun v13 =>
  Option.bind (g_pI S12 x0 2 2 (v13 + (1 : Int32))) fun S14 =>
  Option.bind (g_gR S14 x0 2 4) fun v15 =>
  Option.bind (g_ladd S14 v15 (some q9.1)) fun S16 =>
  Option.bind (g_new S16 13 2) fun q17 =>
  gz_q (g_at q17.2 (some q17.1) 13) (gz_cV (F_X13_init fu (some q17.1) v1 (some q9.1) q17.2) fun S18 =>
  some (.returned (some (va_rf (some q17.1))), S18)))))))))
def F_X2_transition_131 (fu : Nat) (x1 : Option Nat) (x2 : Option Nat) (S : gm_S) : gR :=
  Option.bind (g_gR S x1 5 4) fun v1 =>
  Option.bind (g_ladd S v1 x2) fun S2 =>
  some (.returned none, S2)
def F_X2_transition_114 (fu : Nat) (x0 : Option Nat) (x1 : Option Nat) (x2 : Option Nat) (S : gm_S) : gR :=
  gz_q (g_at S x0 2) (gz_cI (F_X2_takes fu x0 (47 : Int32) S) fun v1 S1 =>
  if v1 = 0 then (F_X2_transition_131 fu x1 x2 S1)
  else (Option.bind (g_gR S1 x2 10 3) fun v2 =>
  gz_q (g_at S1 x0 2) (gz_cV (F_X2_actions fu x0 v2 S1) fun S3 =>
  F_X2_transition_131 fu x1 x2 S3)))
def F_X2_transition_91 (fu : Nat) (x0 : Option Nat) (x1 : Option Nat) (x2 : Option Nat) (S : gm_S) : gR :=
  gz_q (g_at S x0 2) (gz_cV (F_X2_take fu x0 (62 : Int32) S) fun S1 =>
  gz_q (g_at S1 x0 2) (gz_cI (F_X2_takes fu x0 (33 : Int32) S1) fun v2 S2 =>
  if v2 = 0 then (gz_q (g_at S2 x0 2) (gz_cR (F_X2_target fu x0 S2) fun v3 S3 =>
  Option.bind (g_pR S3 x2 10 4 v3) fun S4 =>
  F_X2_transition_114 fu x0 x1 x2 S4))
  else (F_X2_transition_114 fu x0 x1 x2 S2)))
def F_X2_transition_70 (fu : Nat) : Nat → Option Nat → Option Nat → Option Nat → gm_S → gR
  | 0, _, _, _, _ => none
  | n + 1, x0, x1, x2, S => Option.bind (g_gR S x2 10 2) fun v1 =>
  gz_q (g_at S x0 2) (gz_cR (F_X2_test fu x0 S) fun v2 S2 =>
  Option.bind (g_ladd S2 v1 v2) fun S3 =>
  gz_q (g_at S3 x0 2) (gz_cI (F_X2_takes fu x0 (38 : Int32) S3) fun v4 S4 =>
  if v4 = 0 then (F_X2_transition_91 fu x0 x1 x2 S4)
  else (F_X2_transition_70 fu n x0 x1 x2 S4)))
def F_X2_transition_35 (fu : Nat) (x0 : Option Nat) (x1 : Option Nat) (s0 : Int32) (s1 : Option Nat) (S : gm_S) : gR :=
  gz_q (g_at S s1 2) (gz_cV (F_X2_want fu s1 s0 S) fun S1 =>
  Option.bind (g_gI S1 x0 2 6) fun v2 =>
  Option.bind (g_pI S1 x0 2 6 (v2 + (1 : Int32))) fun S3 =>
  Option.bind (g_new S3 10 8) fun q4 =>
  gz_q (g_at q4.2 x0 2) (gz_cI (F_X2_next fu x0 q4.2) fun v5 S5 =>
  gz_q (g_at S5 (some q4.1) 10) (gz_cV (F_X10_init fu (some q4.1) x1 v5 S5) fun S6 =>
  gz_q (g_at S6 x0 2) (gz_cI (F_X2_takes fu x0 (63 : Int32) S6) fun v7 S7 =>
  if v7 = 0 then (F_X2_transition_91 fu x0 x1 (some q4.1) S7)
  else (F_X2_transition_70 fu fu x0 x1 (some q4.1) S7)))))
def F_X2_transition_21 (fu : Nat) (x0 : Option Nat) (x1 : Option Nat) (s0 : Option Nat) (S : gm_S) : gR :=
  Option.bind (g_gI S x0 2 6) fun v1 =>
  if (24 : Int32) ≤ v1 then (F_X2_transition_35 fu x0 x1 (0 : Int32) s0 S)
  else (F_X2_transition_35 fu x0 x1 (1 : Int32) s0 S)
def F_X2_transition (fu : Nat) (x0 : Option Nat) (x1 : Option Nat) (S : gm_S) : gR :=
  gz_q (g_at S x0 2) (gz_cI (F_X2_look fu x0 S) fun v1 S1 =>
  if v1 = (46 : Int32) then (F_X2_transition_21 fu x0 x1 x0 S1)
  else (gz_q (g_at S1 x0 2) (gz_cI (F_X2_isAmong fu x0 (65 : Int32) (72 : Int32) S1) fun v2 S2 =>
  if v2 = 0 then (F_X2_transition_35 fu x0 x1 (0 : Int32) x0 S2)
  else (F_X2_transition_21 fu x0 x1 x0 S2))))
def F_X2_item_45 (fu : Nat) (x0 : Option Nat) (S : gm_S) : gR :=
  gz_q (g_at S x0 2) (gz_cV (F_X2_take fu x0 (59 : Int32) S) fun S1 =>
  some (.returned none, S1))
def F_X2_item (fu : Nat) (x0 : Option Nat) (x1 : Option Nat) (S : gm_S) : gR :=
  gz_q (g_at S x0 2) (gz_cI (F_X2_takes fu x0 (43 : Int32) S) fun v1 S1 =>
  if v1 = 0 then (gz_q (g_at S1 x0 2) (gz_cI (F_X2_takes fu x0 (45 : Int32) S1) fun v2 S2 =>
  if v2 = 0 then (gz_q (g_at S2 x0 2) (gz_cV (F_X2_transition fu x0 x1 S2) fun S3 =>
  F_X2_item_45 fu x0 S3))
  else (Option.bind (g_gR S2 x1 5 6) fun v4 =>
  gz_q (g_at S2 x0 2) (gz_cV (F_X2_actions fu x0 v4 S2) fun S5 =>
  F_X2_item_45 fu x0 S5))))
  else (Option.bind (g_gR S1 x1 5 5) fun v6 =>
  gz_q (g_at S1 x0 2) (gz_cV (F_X2_actions fu x0 v6 S1) fun S7 =>
  F_X2_item_45 fu x0 S7)))
def F_X5_bit (fu : Nat) (x0 : Option Nat) (S : gm_S) : gR :=
  Option.bind (g_gI S x0 5 0) fun v1 =>
  some (.returned (some (.int ((1 : Int32) <<< (v1 &&& 31)))), S)
def F_X5_init (fu : Nat) (x0 : Option Nat) (x1 : Int32) (x2 : Option Nat) (S : gm_S) : gR :=
  gz_q (g_at S x0 5) (
  Option.bind (g_new S 32 3) fun q2 =>
  Option.bind (g_lnew q2.2 (some q2.1)) fun S3 =>
  Option.bind (g_pR S3 x0 5 3 (some q2.1)) fun S4 =>
  Option.bind (g_new S4 32 3) fun q5 =>
  Option.bind (g_lnew q5.2 (some q5.1)) fun S6 =>
  Option.bind (g_pR S6 x0 5 4 (some q5.1)) fun S7 =>
  Option.bind (g_new S7 32 3) fun q8 =>
  Option.bind (g_lnew q8.2 (some q8.1)) fun S9 =>
  Option.bind (g_pR S9 x0 5 5 (some q8.1)) fun S10 =>
  Option.bind (g_new S10 32 3) fun q11 =>
  Option.bind (g_lnew q11.2 (some q11.1)) fun S12 =>
  Option.bind (g_pR S12 x0 5 6 (some q11.1)) fun S13 =>
  Option.bind (g_pI S13 x0 5 0 x1) fun S14 =>
  Option.bind (g_pR S14 x0 5 1 x2) fun S15 =>
  some (.returned none, S15))
def F_X2_state_254 (fu : Nat) (rc : Option Nat → Option Nat → Int32 → gm_S → gR) : Nat → Option Nat → Option Nat → gm_S → gR
  | 0, _, _, _ => none
  | n + 1, x0, x3, S => gz_q (g_at S x0 2) (gz_cI (F_X2_takes fu x0 (125 : Int32) S) fun v1 S1 =>
  if v1 = 0 then (gz_q (g_at S1 x0 2) (gz_cV (F_X2_item fu x0 x3 S1) fun S2 =>
  F_X2_state_254 fu rc n x0 x3 S2))
  else (some (.returned (some (va_rf x3)), S1)))
def F_X2_state_193 (fu : Nat) (rc : Option Nat → Option Nat → Int32 → gm_S → gR) : Nat → Option Nat → Option Nat → Int32 → gm_S → gR
  | 0, _, _, _, _ => none
  | n + 1, x0, x3, x4, S => Option.bind (g_gR S x3 5 3) fun v1 =>
  Option.bind (g_lsz S v1) fun v2 =>
  if v2 ≤ x4 then (gz_q (g_at S x0 2) (gz_cI (F_X2_takes fu x0 (123 : Int32) S) fun v3 S3 =>
  if v3 = 0 then (some (.returned (some (va_rf x3)), S3))
  else (F_X2_state_254 fu rc fu x0 x3 S3)))
  else (Option.bind (g_gR S x3 5 3) fun v4 =>
  Option.bind (g_lget S v4 x4) fun v5 =>
  gz_q (g_at S (some v5) 5) (
  Option.bind (g_gI S x3 5 7) fun v7 =>
  Option.bind (g_gI S (some v5) 5 7) fun v8 =>
  gz_q (g_at S (some v5) 5) (gz_cI (F_X5_bit fu (some v5) S) fun v9 S9 =>
  Option.bind (g_pI S9 x3 5 7 (v7 ||| (v8 ||| v9))) fun S10 =>
  F_X2_state_193 fu rc n x0 x3 (x4 + (1 : Int32)) S10)))
def F_X2_state_146 (fu : Nat) (rc : Option Nat → Option Nat → Int32 → gm_S → gR) : Nat → Option Nat → Int32 → Option Nat → gm_S → gR
  | 0, _, _, _, _ => none
  | n + 1, x0, x2, x3, S => Option.bind (g_gR S x3 5 3) fun v1 =>
  gz_cR (rc x0 x3 (x2 + (1 : Int32)) S) fun v2 S2 =>
  Option.bind (g_ladd S2 v1 v2) fun S3 =>
  Option.bind (g_gR S3 x3 5 3) fun v4 =>
  Option.bind (g_lsz S3 v4) fun v5 =>
  if v5 < (2 : Int32) then (F_X2_state_146 fu rc n x0 x2 x3 S3)
  else (gz_q (g_at S3 x0 2) (gz_cI (F_X2_isAmong fu x0 (97 : Int32) (112 : Int32) S3) fun v6 S6 =>
  if v6 = 0 then (gz_q (g_at S6 x0 2) (gz_cV (F_X2_take fu x0 (62 : Int32) S6) fun S7 =>
  F_X2_state_193 fu rc fu x0 x3 (0 : Int32) S7))
  else (F_X2_state_146 fu rc n x0 x2 x3 S6)))
def F_X2_state_96 (fu : Nat) (rc : Option Nat → Option Nat → Int32 → gm_S → gR) : Nat → Option Nat → Int32 → Option Nat → gm_S → gR
  | 0, _, _, _, _ => none
  | n + 1, x0, x2, x3, S => Option.bind (g_gR S x3 5 3) fun v1 =>
  gz_cR (rc x0 x3 (x2 + (1 : Int32)) S) fun v2 S2 =>
  Option.bind (g_ladd S2 v1 v2) fun S3 =>
  gz_q (g_at S3 x0 2) (gz_cI (F_X2_isAmong fu x0 (97 : Int32) (112 : Int32) S3) fun v4 S4 =>
  if v4 = 0 then (gz_q (g_at S4 x0 2) (gz_cV (F_X2_take fu x0 (41 : Int32) S4) fun S5 =>
  F_X2_state_193 fu rc fu x0 x3 (0 : Int32) S5))
  else (F_X2_state_96 fu rc n x0 x2 x3 S4))
def F_X2_state_38 (fu : Nat) (rc : Option Nat → Option Nat → Int32 → gm_S → gR) (x0 : Option Nat) (x1 : Option Nat) (x2 : Int32) (s0 : Int32) (s1 : Option Nat) (S : gm_S) : gR :=
  gz_q (g_at S s1 2) (gz_cV (F_X2_want fu s1 s0 S) fun S1 =>
  Option.bind (g_new S1 5 10) fun q2 =>
  Option.bind (g_gR q2.2 x0 2 3) fun v3 =>
  Option.bind (g_lsz q2.2 v3) fun v4 =>
  gz_q (g_at q2.2 (some q2.1) 5) (gz_cV (F_X5_init fu (some q2.1) v4 x1 q2.2) fun S5 =>
  Option.bind (g_gR S5 x0 2 3) fun v6 =>
  Option.bind (g_ladd S5 v6 (some q2.1)) fun S7 =>
  Option.bind (g_gR S7 x0 2 5) fun v8 =>
  gz_q (g_at S7 x0 2) (gz_cI (F_X2_next fu x0 S7) fun v9 S9 =>
  Option.bind (g_gI S9 (some q2.1) 5 0) fun v10 =>
  Option.bind (g_sI S9 v8 0 (v9 - (97 : Int32)) v10) fun S11 =>
  gz_q (g_at S11 x0 2) (gz_cI (F_X2_takes fu x0 (40 : Int32) S11) fun v12 S12 =>
  if v12 = 0 then (gz_q (g_at S12 x0 2) (gz_cI (F_X2_takes fu x0 (60 : Int32) S12) fun v13 S13 =>
  if v13 = 0 then (F_X2_state_193 fu rc fu x0 (some q2.1) (0 : Int32) S13)
  else (Option.bind (g_pI S13 (some q2.1) 5 2 (2 : Int32)) fun S14 =>
  F_X2_state_146 fu rc fu x0 x2 (some q2.1) S14)))
  else (Option.bind (g_pI S12 (some q2.1) 5 2 (1 : Int32)) fun S15 =>
  F_X2_state_96 fu rc fu x0 x2 (some q2.1) S15)))))
def F_X2_state_e (fu : Nat) (rc : Option Nat → Option Nat → Int32 → gm_S → gR) (x0 : Option Nat) (x1 : Option Nat) (x2 : Int32) (S : gm_S) : gR :=
  gz_q (g_at S x0 2) (gz_cI (F_X2_isAmong fu x0 (97 : Int32) (112 : Int32) S) fun v1 S1 =>
  if v1 = 0 then (F_X2_state_38 fu rc x0 x1 x2 (0 : Int32) x0 S1)
  else (Option.bind (g_gR S1 x0 2 5) fun v2 =>
  gz_q (g_at S1 x0 2) (gz_cI (F_X2_look fu x0 S1) fun v3 S3 =>
  Option.bind (g_aI S3 v2 0 (v3 - (97 : Int32))) fun v4 =>
  if 0 ≤ v4 then (F_X2_state_38 fu rc x0 x1 x2 (0 : Int32) x0 S3)
  else (if (6 : Int32) < x2 then (F_X2_state_38 fu rc x0 x1 x2 (0 : Int32) x0 S3)
  else (F_X2_state_38 fu rc x0 x1 x2 (1 : Int32) x0 S3)))))
def F_X2_state (fu : Nat) : Nat → Option Nat → Option Nat → Int32 → gm_S → gR
  | 0, _, _, _, _ => none
  | n + 1, x0, x1, x2, S => F_X2_state_e fu (F_X2_state fu n) x0 x1 x2 S
def F_X2_chart_174 (fu : Nat) (k87 : Option Nat → Option Nat → Int32 → gm_S → gR) (x0 : Option Nat) (x1 : Option Nat) (x2 : Int32) (s0 : Int32) (s1 : Option Nat) (S : gm_S) : gR :=
  gz_q (g_at S s1 2) (gz_cV (F_X2_want fu s1 s0 S) fun S1 =>
  k87 x0 x1 (x2 + (1 : Int32)) S1)
def F_X2_chart_87 (fu : Nat) : Nat → Option Nat → Option Nat → Int32 → gm_S → gR
  | 0, _, _, _, _ => none
  | n + 1, x0, x1, x2, S => Option.bind (g_gR S x0 2 4) fun v1 =>
  Option.bind (g_lsz S v1) fun v2 =>
  if v2 ≤ x2 then (some (.returned (some (va_rf x1)), S))
  else (Option.bind (g_gR S x0 2 4) fun v3 =>
  Option.bind (g_lget S v3 x2) fun v4 =>
  gz_q (g_at S (some v4) 11) (
  Option.bind (g_gI S (some v4) 11 1) fun v6 =>
  Option.bind (g_pI S x0 2 2 v6) fun S7 =>
  Option.bind (g_gR S7 x0 2 5) fun v8 =>
  Option.bind (g_gI S7 (some v4) 11 0) fun v9 =>
  Option.bind (g_aI S7 v8 0 (v9 - (97 : Int32))) fun v10 =>
  Option.bind (g_pI S7 (some v4) 11 3 v10) fun S11 =>
  Option.bind (g_gI S11 (some v4) 11 3) fun v12 =>
  if v12 < 0 then (F_X2_chart_174 fu (F_X2_chart_87 fu n) x0 x1 x2 (0 : Int32) x0 S11)
  else (Option.bind (g_gI S11 (some v4) 11 2) fun v13 =>
  if v13 = 0 then (F_X2_chart_174 fu (F_X2_chart_87 fu n) x0 x1 x2 (1 : Int32) x0 S11)
  else (Option.bind (g_gR S11 x0 2 3) fun v14 =>
  Option.bind (g_gI S11 (some v4) 11 3) fun v15 =>
  Option.bind (g_lget S11 v14 v15) fun v16 =>
  gz_q (g_at S11 (some v16) 5) (
  Option.bind (g_gI S11 (some v16) 5 2) fun v18 =>
  if v18 = 0 then (F_X2_chart_174 fu (F_X2_chart_87 fu n) x0 x1 x2 (0 : Int32) x0 S11)
  else (F_X2_chart_174 fu (F_X2_chart_87 fu n) x0 x1 x2 (1 : Int32) x0 S11))))))
def F_X2_chart_82 (fu : Nat) (x0 : Option Nat) (x1 : Option Nat) (s0 : Int32) (s1 : Option Nat) (S : gm_S) : gR :=
  gz_q (g_at S s1 2) (gz_cV (F_X2_want fu s1 s0 S) fun S1 =>
  F_X2_chart_87 fu fu x0 x1 (0 : Int32) S1)
def F_X2_chart_39 (fu : Nat) : Nat → Option Nat → Int32 → gm_S → gR
  | 0, _, _, _ => none
  | n + 1, x0, x1, S => if (16 : Int32) ≤ x1 then (gz_cR (F_X2_state fu 8 x0 none (1 : Int32) S) fun v1 S1 =>
  Option.bind (g_gI S1 x0 2 2) fun v2 =>
  Option.bind (g_gI S1 x0 2 1) fun v3 =>
  if v2 = v3 then (F_X2_chart_82 fu x0 v1 (1 : Int32) x0 S1)
  else (F_X2_chart_82 fu x0 v1 (0 : Int32) x0 S1))
  else (Option.bind (g_gR S x0 2 5) fun v4 =>
  Option.bind (g_sI S v4 0 x1 (-1 : Int32)) fun S5 =>
  F_X2_chart_39 fu n x0 (x1 + (1 : Int32)) S5)
def F_X2_chart (fu : Nat) (x0 : Option Nat) (S : gm_S) : gR :=
  Option.bind (g_pI S x0 2 2 (0 : Int32)) fun S1 =>
  Option.bind (g_new S1 32 3) fun q2 =>
  Option.bind (g_lnew q2.2 (some q2.1)) fun S3 =>
  Option.bind (g_pR S3 x0 2 3 (some q2.1)) fun S4 =>
  Option.bind (g_new S4 32 3) fun q5 =>
  Option.bind (g_lnew q5.2 (some q5.1)) fun S6 =>
  Option.bind (g_pR S6 x0 2 4 (some q5.1)) fun S7 =>
  Option.bind (g_pI S7 x0 2 6 (0 : Int32)) fun S8 =>
  Option.bind (g_pI S8 x0 2 7 (0 : Int32)) fun S9 =>
  F_X2_chart_39 fu fu x0 (0 : Int32) S9
def F_X3_clear_2 (fu : Nat) : Nat → Option Nat → Int32 → gm_S → gR
  | 0, _, _, _ => none
  | n + 1, x0, x1, S => Option.bind (g_gR S x0 3 3) fun v1 =>
  Option.bind (g_len S v1 2) fun v2 =>
  if v2 ≤ x1 then (some (.returned none, S))
  else (Option.bind (g_gR S x0 3 3) fun v3 =>
  Option.bind (g_sD S v3 x1 FP.dconst0) fun S4 =>
  F_X3_clear_2 fu n x0 (x1 + (1 : Int32)) S4)
def F_X3_clear (fu : Nat) (x0 : Option Nat) (S : gm_S) : gR :=
  F_X3_clear_2 fu fu x0 (0 : Int32) S
def F_X3_build (fu : Nat) (x0 : Option Nat) (x1 : Option Nat) (S : gm_S) : gR :=
  Option.bind (g_pR S x0 3 0 x1) fun S1 =>
  Option.bind (g_pZ S1 x0 3 1 (0 : Int32)) fun S2 =>
  Option.bind (g_pI S2 x0 3 2 (0 : Int32)) fun S3 =>
  Option.bind (g_gR S3 x0 3 7) fun v4 =>
  Option.bind (g_lclr S3 v4) fun S5 =>
  Option.bind (g_pI S5 x0 3 6 (0 : Int32)) fun S6 =>
  Option.bind (g_pI S6 x0 3 10 (0 : Int32)) fun S7 =>
  gz_q (g_at S7 x0 3) (gz_cV (F_X3_clear fu x0 S7) fun S8 =>
  some (.returned none, S8))
def F_X1_build_58 (fu : Nat) : Nat → Option Nat → Int32 → gm_S → gR
  | 0, _, _, _ => none
  | n + 1, x0, x1, S => if (16 : Int32) ≤ x1 then (Option.bind (g_gR S x0 1 1) fun v1 =>
  Option.bind (g_gR S x0 1 0) fun v2 =>
  Option.bind (g_gR S v2 2 3) fun v3 =>
  gz_q (g_at S v1 3) (gz_cV (F_X3_build fu v1 v3 S) fun S4 =>
  Option.bind (g_gR S4 x0 1 1) fun v5 =>
  Option.bind (g_gR S4 v5 3 0) fun v6 =>
  Option.bind (g_lsz S4 v6) fun v7 =>
  some (.returned (some (.int v7)), S4)))
  else (Option.bind (g_gR S x0 1 2) fun v8 =>
  Option.bind (g_gR S x0 1 0) fun v9 =>
  Option.bind (g_gR S v9 2 5) fun v10 =>
  Option.bind (g_aI S v10 0 x1) fun v11 =>
  Option.bind (g_sI S v8 0 x1 v11) fun S12 =>
  F_X1_build_58 fu n x0 (x1 + (1 : Int32)) S12)
def F_X1_build_28 (fu : Nat) (x0 : Option Nat) (S : gm_S) : gR :=
  Option.bind (g_gR S x0 1 0) fun v1 =>
  Option.bind (g_pI S v1 2 1 (0 : Int32)) fun S2 =>
  Option.bind (g_pI S2 x0 1 4 (0 : Int32)) fun S3 =>
  Option.bind (g_gI S3 x0 1 3) fun v4 =>
  if v4 < 0 then (F_X1_build_58 fu fu x0 (0 : Int32) S3)
  else (Option.bind (g_new S3 17 6) fun q5 => some (.threw q5.1, q5.2))
def F_X1_build (fu : Nat) (x0 : Option Nat) (S : gm_S) : gR :=
  Option.bind (g_pI S x0 1 3 (-1 : Int32)) fun S1 =>
  Option.bind (g_gR S1 x0 1 0) fun v2 =>
  gz_q (g_at S1 v2 2) (gz_tR (F_X2_chart fu v2 S1) (fun v3 S3 => F_X1_build_28 fu x0 S3)
  (fun a3 S3 => if gs_t S3 a3 = 17 then (Option.bind (g_gR S3 x0 1 0) fun v4 =>
  Option.bind (g_gI S3 v4 2 2) fun v5 =>
  Option.bind (g_pI S3 x0 1 3 v5) fun S6 =>
  F_X1_build_28 fu x0 S6)
  else (none)))
def F_X0_build (fu : Nat) (x0 : Option Nat) (x1 : Option Nat) (S : gm_S) : gR :=
  gz_q (g_at S x0 1) (gz_tI (F_X1_build fu x0 S) (fun v1 S1 => Option.bind (g_sJ S1 x1 (0 : Int32) (v1).toInt64) fun S2 =>
  some (.returned (some (.int (0 : Int32))), S2))
  (fun a1 S1 => if gs_t S1 a1 = 17 then (some (.returned (some (.int (1 : Int32))), S1))
  else (none)))
def F_X3_aim_171 (fu : Nat) (x0 : Option Nat) (x1 : Option Nat) (x5 : Option Nat) (s0 : Int32) (s1 : Option Nat) (S : gm_S) : gR :=
  Option.bind (g_pI S s1 10 6 s0) fun S1 =>
  if x5 = none then (Option.bind (g_gI S1 x0 3 2) fun v5 =>
  Option.bind (g_pI S1 x1 10 7 v5) fun S6 =>
  some (.returned none, S6))
  else (Option.bind (g_gI S1 x0 3 2) fun v2 =>
  Option.bind (g_gI S1 x5 5 7) fun v3 =>
  Option.bind (g_pI S1 x1 10 7 (v2 &&& v3)) fun S4 =>
  some (.returned none, S4))
def F_X3_aim_156 (fu : Nat) (x0 : Option Nat) (x1 : Option Nat) (x5 : Option Nat) (S : gm_S) : gR :=
  if x5 = none then (F_X3_aim_171 fu x0 x1 x5 (-1 : Int32) x1 S)
  else (Option.bind (g_gI S x5 5 0) fun v1 =>
  F_X3_aim_171 fu x0 x1 x5 v1 x1 S)
def F_X3_aim_119 (fu : Nat) : Nat → Option Nat → Option Nat → Int32 → Option Nat → gm_S → gR
  | 0, _, _, _, _, _ => none
  | n + 1, x0, x1, x4, x5, S => if x5 = none then (F_X3_aim_156 fu x0 x1 x5 S)
  else (Option.bind (g_gI S x5 5 2) fun v1 =>
  if v1 = (1 : Int32) then (Option.bind (g_gI S x5 5 7) fun v3 =>
  if (v3 &&& x4) = x4 then (F_X3_aim_156 fu x0 x1 x5 S)
  else (Option.bind (g_gR S x5 5 1) fun v4 =>
  F_X3_aim_119 fu n x0 x1 x4 v4 S))
  else (Option.bind (g_gR S x5 5 1) fun v2 =>
  F_X3_aim_119 fu n x0 x1 x4 v2 S))
def F_X3_aim_96 (fu : Nat) (x0 : Option Nat) (x1 : Option Nat) (S : gm_S) : gR :=
  Option.bind (g_gI S x1 10 5) fun v1 =>
  Option.bind (g_gR S x1 10 0) fun v2 =>
  gz_q (g_at S v2 5) (gz_cI (F_X5_bit fu v2 S) fun v3 S3 =>
  Option.bind (g_gR S3 x1 10 0) fun v4 =>
  Option.bind (g_gR S3 v4 5 1) fun v5 =>
  F_X3_aim_119 fu fu x0 x1 (v1 ||| v3) v5 S3)
def F_X3_aim_78 (fu : Nat) (x0 : Option Nat) (x1 : Option Nat) (x2 : Option Nat) (s0 : Int32) (s1 : Option Nat) (S : gm_S) : gR :=
  Option.bind (g_pI S s1 10 5 s0) fun S1 =>
  Option.bind (g_gI S1 x1 10 5) fun v2 =>
  if v2 = 0 then (gz_q (g_at S1 x2 5) (gz_cI (F_X5_bit fu x2 S1) fun v3 S3 =>
  Option.bind (g_pI S3 x1 10 5 v3) fun S4 =>
  F_X3_aim_96 fu x0 x1 S4))
  else (F_X3_aim_96 fu x0 x1 S1)
def F_X3_aim (fu : Nat) (x0 : Option Nat) (x1 : Option Nat) (S : gm_S) : gR :=
  Option.bind (g_pI S x1 10 5 (0 : Int32)) fun S1 =>
  Option.bind (g_pI S1 x1 10 7 (0 : Int32)) fun S2 =>
  Option.bind (g_pI S2 x1 10 6 (-1 : Int32)) fun S3 =>
  Option.bind (g_gR S3 x1 10 4) fun v4 =>
  if v4 = none then (some (.returned none, S3))
  else (Option.bind (g_gR S3 x0 3 0) fun v5 =>
  Option.bind (g_gR S3 x1 10 4) fun v6 =>
  Option.bind (g_gI S3 v6 11 3) fun v7 =>
  Option.bind (g_lget S3 v5 v7) fun v8 =>
  gz_q (g_at S3 (some v8) 5) (
  Option.bind (g_gR S3 x1 10 4) fun v10 =>
  Option.bind (g_gI S3 v10 11 2) fun v11 =>
  if v11 = (1 : Int32) then (Option.bind (g_gI S3 (some v8) 5 8) fun v14 =>
  F_X3_aim_78 fu x0 x1 (some v8) v14 x1 S3)
  else (if v11 = (2 : Int32) then (Option.bind (g_gI S3 (some v8) 5 9) fun v13 =>
  F_X3_aim_78 fu x0 x1 (some v8) v13 x1 S3)
  else (gz_q (g_at S3 (some v8) 5) (gz_cI (F_X5_bit fu (some v8) S3) fun v12 S12 =>
  F_X3_aim_78 fu x0 x1 (some v8) v12 x1 S12)))))
def F_X3_isActive (fu : Nat) (x0 : Option Nat) (x1 : Int32) (S : gm_S) : gR :=
  Option.bind (g_gI S x0 3 2) fun v1 =>
  if ((v1 >>> (x1 &&& 31)) &&& (1 : Int32)) = (1 : Int32) then (if g_okZ (1 : Int32) = true then some (.returned (some (.int (1 : Int32))), S) else none)
  else (if g_okZ (0 : Int32) = true then some (.returned (some (.int (0 : Int32))), S) else none)
def F_X13_is (fu : Nat) (x0 : Option Nat) (x1 : Option Nat) (S : gm_S) : gR :=
  Option.bind (g_gR S x0 13 1) fun v1 =>
  Option.bind (g_gI S v1 11 3) fun v2 =>
  gz_q (g_at S x1 3) (gz_cI (F_X3_isActive fu x1 v2 S) fun v3 S3 =>
  if g_okZ v3 = true then some (.returned (some (.int v3)), S3) else none)
def F_X12_holds_13 (fu : Nat) (x0 : Option Nat) (x1 : Option Nat) (S : gm_S) : gR :=
  gz_q (g_at S x0 13) (gz_cI (F_X13_is fu x0 x1 S) fun v1 S1 =>
  Option.bind (g_gI S1 x0 13 0) fun v2 =>
  if v1 = v2 then (if g_okZ (0 : Int32) = true then some (.returned (some (.int (0 : Int32))), S1) else none)
  else (if g_okZ (1 : Int32) = true then some (.returned (some (.int (1 : Int32))), S1) else none))
def F_X3_get (fu : Nat) (x0 : Option Nat) (x1 : Int32) (S : gm_S) : gR :=
  Option.bind (g_gR S x0 3 3) fun v1 =>
  Option.bind (g_aD S v1 2 x1) fun v2 =>
  some (.returned (some (.double v2)), S)
def F_X9_of (fu : Nat) (x0 : Option Nat) (x1 : Option Nat) (S : gm_S) : gR :=
  Option.bind (g_gI S x0 9 0) fun v1 =>
  if v1 < 0 then (Option.bind (g_gD S x0 9 1) fun v2 =>
  some (.returned (some (.double v2)), S))
  else (Option.bind (g_gI S x0 9 0) fun v3 =>
  gz_q (g_at S x1 3) (gz_cD (F_X3_get fu x1 v3 S) fun v4 S4 =>
  some (.returned (some (.double v4)), S4)))
def F_X14_is (fu : Nat) (x0 : Option Nat) (x1 : Option Nat) (S : gm_S) : gR :=
  Option.bind (g_gR S x0 14 1) fun v1 =>
  gz_q (g_at S v1 9) (gz_cD (F_X9_of fu v1 x1 S) fun v2 S2 =>
  Option.bind (g_gR S2 x0 14 2) fun v3 =>
  gz_q (g_at S2 v3 9) (gz_cD (F_X9_of fu v3 x1 S2) fun v4 S4 =>
  Option.bind (g_gI S4 x0 14 3) fun v5 =>
  if v5 = (60 : Int32) then (if 0 ≤ (Op.cmpValue (FP.dcmp v2 v4) .g) then (if g_okZ (0 : Int32) = true then some (.returned (some (.int (0 : Int32))), S4) else none)
  else (if g_okZ (1 : Int32) = true then some (.returned (some (.int (1 : Int32))), S4) else none))
  else (Option.bind (g_gI S4 x0 14 3) fun v6 =>
  if v6 = (61 : Int32) then (if (Op.cmpValue (FP.dcmp v2 v4) .l) = 0 then (if g_okZ (1 : Int32) = true then some (.returned (some (.int (1 : Int32))), S4) else none)
  else (if g_okZ (0 : Int32) = true then some (.returned (some (.int (0 : Int32))), S4) else none))
  else (if (Op.cmpValue (FP.dcmp v2 v4) .l) ≤ 0 then (if g_okZ (0 : Int32) = true then some (.returned (some (.int (0 : Int32))), S4) else none)
  else (if g_okZ (1 : Int32) = true then some (.returned (some (.int (1 : Int32))), S4) else none)))))
def F_X12_holds_14 (fu : Nat) (x0 : Option Nat) (x1 : Option Nat) (S : gm_S) : gR :=
  gz_q (g_at S x0 14) (gz_cI (F_X14_is fu x0 x1 S) fun v1 S1 =>
  Option.bind (g_gI S1 x0 14 0) fun v2 =>
  if v1 = v2 then (if g_okZ (0 : Int32) = true then some (.returned (some (.int (0 : Int32))), S1) else none)
  else (if g_okZ (1 : Int32) = true then some (.returned (some (.int (1 : Int32))), S1) else none))
def F_holds (fu : Nat) (x0 x1 : Option Nat) (S : gm_S) : gR := if (g_at S x0 13).isSome = true then F_X12_holds_13 fu x0 x1 S else (if (g_at S x0 14).isSome = true then F_X12_holds_14 fu x0 x1 S else none)
def F_X10_isEnabled_12 (fu : Nat) : Nat → Option Nat → Option Nat → Int32 → gm_S → gR
  | 0, _, _, _, _ => none
  | n + 1, x0, x1, x3, S => Option.bind (g_gR S x0 10 2) fun v1 =>
  Option.bind (g_lsz S v1) fun v2 =>
  if v2 ≤ x3 then (if g_okZ (1 : Int32) = true then some (.returned (some (.int (1 : Int32))), S) else none)
  else (Option.bind (g_gR S x0 10 2) fun v3 =>
  Option.bind (g_lget S v3 x3) fun v4 =>
  if (g_at S (some v4) 13).isSome = true ∨ (g_at S (some v4) 14).isSome = true then (
  gz_cI (F_holds fu (some v4) x1 S) fun v6 S6 =>
  if v6 = 0 then (if g_okZ (0 : Int32) = true then some (.returned (some (.int (0 : Int32))), S6) else none)
  else (F_X10_isEnabled_12 fu n x0 x1 (x3 + (1 : Int32)) S6)) else none)
def F_X10_isEnabled (fu : Nat) (x0 : Option Nat) (x1 : Option Nat) (x2 : Int32) (S : gm_S) : gR :=
  Option.bind (g_gI S x0 10 1) fun v1 =>
  if v1 = x2 then (F_X10_isEnabled_12 fu fu x0 x1 (0 : Int32) S)
  else (if g_okZ (0 : Int32) = true then some (.returned (some (.int (0 : Int32))), S) else none)
def F_X3_enabled_2 (fu : Nat) : Nat → Option Nat → Option Nat → Int32 → Int32 → gm_S → gR
  | 0, _, _, _, _, _ => none
  | n + 1, x0, x1, x2, x3, S => Option.bind (g_gR S x1 5 4) fun v1 =>
  Option.bind (g_lsz S v1) fun v2 =>
  if v2 ≤ x3 then (some (.returned (some (va_rf none)), S))
  else (Option.bind (g_gR S x1 5 4) fun v3 =>
  Option.bind (g_lget S v3 x3) fun v4 =>
  gz_q (g_at S (some v4) 10) (
  gz_q (g_at S (some v4) 10) (gz_cI (F_X10_isEnabled fu (some v4) x0 x2 S) fun v6 S6 =>
  if v6 = 0 then (F_X3_enabled_2 fu n x0 x1 x2 (x3 + (1 : Int32)) S6)
  else (some (.returned (some (va_rf (some v4))), S6)))))
def F_X3_enabled (fu : Nat) (x0 : Option Nat) (x1 : Option Nat) (x2 : Int32) (S : gm_S) : gR :=
  F_X3_enabled_2 fu fu x0 x1 x2 (0 : Int32) S
def F_X3_isChosen_2 (fu : Nat) : Nat → Option Nat → Option Nat → Int32 → gm_S → gR
  | 0, _, _, _, _ => none
  | n + 1, x0, x1, x2, S => Option.bind (g_gR S x0 3 12) fun v1 =>
  Option.bind (g_lsz S v1) fun v2 =>
  if v2 ≤ x2 then (if g_okZ (0 : Int32) = true then some (.returned (some (.int (0 : Int32))), S) else none)
  else (Option.bind (g_gR S x0 3 12) fun v3 =>
  Option.bind (g_lget S v3 x2) fun v4 =>
  if (some v4) = x1 then (if g_okZ (1 : Int32) = true then some (.returned (some (.int (1 : Int32))), S) else none)
  else (F_X3_isChosen_2 fu n x0 x1 (x2 + (1 : Int32)) S))
def F_X3_isChosen (fu : Nat) (x0 : Option Nat) (x1 : Option Nat) (S : gm_S) : gR :=
  F_X3_isChosen_2 fu fu x0 x1 (0 : Int32) S
def F_X3_isBelow (fu : Nat) (x0 : Option Nat) (x1 : Option Nat) (S : gm_S) : gR :=
  Option.bind (g_gI S x1 5 7) fun v1 =>
  gz_q (g_at S x0 5) (gz_cI (F_X5_bit fu x0 S) fun v2 S2 =>
  if (v1 &&& v2) = 0 then (if g_okZ (0 : Int32) = true then some (.returned (some (.int (0 : Int32))), S2) else none)
  else (if g_okZ (1 : Int32) = true then some (.returned (some (.int (1 : Int32))), S2) else none))
def F_X3_settle_123 (fu : Nat) (k9 : Option Nat → Int32 → gm_S → gR) : Nat → Option Nat → Int32 → Option Nat → Int32 → gm_S → gR
  | 0, _, _, _, _, _ => none
  | n + 1, x0, x1, x2, x4, S => if x4 < 0 then (Option.bind (g_gR S x0 3 13) fun v1 =>
  Option.bind (g_ladd S v1 x2) fun S2 =>
  k9 x0 (x1 + (1 : Int32)) S2)
  else (Option.bind (g_gR S x0 3 13) fun v3 =>
  Option.bind (g_lget S v3 x4) fun v4 =>
  gz_q (g_at S (some v4) 10) (
  Option.bind (g_gI S (some v4) 10 7) fun v6 =>
  Option.bind (g_gI S x2 10 7) fun v7 =>
  if (v6 &&& v7) = 0 then (F_X3_settle_123 fu k9 n x0 x1 x2 (x4 + (-1 : Int32)) S)
  else (Option.bind (g_gR S x0 3 13) fun v8 =>
  Option.bind (g_lrem S v8 x4) fun q9 =>
  F_X3_settle_123 fu k9 n x0 x1 x2 (x4 + (-1 : Int32)) q9.2)))
def F_X3_settle_37 (fu : Nat) (k9 : Option Nat → Int32 → gm_S → gR) : Nat → Option Nat → Int32 → Option Nat → Int32 → Int32 → gm_S → gR
  | 0, _, _, _, _, _, _ => none
  | n + 1, x0, x1, x2, x3, x4, S => Option.bind (g_gR S x0 3 13) fun v1 =>
  Option.bind (g_lsz S v1) fun v2 =>
  if v2 ≤ x4 then (if x3 = 0 then (k9 x0 (x1 + (1 : Int32)) S)
  else (Option.bind (g_gR S x0 3 13) fun v3 =>
  Option.bind (g_lsz S v3) fun v4 =>
  F_X3_settle_123 fu k9 fu x0 x1 x2 (v4 - (1 : Int32)) S))
  else (Option.bind (g_gR S x0 3 13) fun v5 =>
  Option.bind (g_lget S v5 x4) fun v6 =>
  gz_q (g_at S (some v6) 10) (
  Option.bind (g_gI S (some v6) 10 7) fun v8 =>
  Option.bind (g_gI S x2 10 7) fun v9 =>
  if (v8 &&& v9) = 0 then (F_X3_settle_37 fu k9 n x0 x1 x2 (x3 &&& (1 : Int32)) (x4 + (1 : Int32)) S)
  else (Option.bind (g_gR S x2 10 0) fun v10 =>
  Option.bind (g_gR S (some v6) 10 0) fun v11 =>
  gz_cI (F_X3_isBelow fu v10 v11 S) fun v12 S12 =>
  if v12 = 0 then (F_X3_settle_37 fu k9 n x0 x1 x2 (x3 &&& (0 : Int32)) (x4 + (1 : Int32)) S12)
  else (F_X3_settle_37 fu k9 n x0 x1 x2 (x3 &&& (1 : Int32)) (x4 + (1 : Int32)) S12))))
def F_X3_settle_9 (fu : Nat) : Nat → Option Nat → Int32 → gm_S → gR
  | 0, _, _, _ => none
  | n + 1, x0, x1, S => Option.bind (g_gR S x0 3 12) fun v1 =>
  Option.bind (g_lsz S v1) fun v2 =>
  if v2 ≤ x1 then (Option.bind (g_gR S x0 3 13) fun v3 =>
  Option.bind (g_gR S x0 3 12) fun v4 =>
  Option.bind (g_pR S x0 3 13 v4) fun S5 =>
  Option.bind (g_pR S5 x0 3 12 v3) fun S6 =>
  some (.returned none, S6))
  else (Option.bind (g_gR S x0 3 12) fun v7 =>
  Option.bind (g_lget S v7 x1) fun v8 =>
  gz_q (g_at S (some v8) 10) (
  F_X3_settle_37 fu (F_X3_settle_9 fu n) fu x0 x1 (some v8) (1 : Int32) (0 : Int32) S))
def F_X3_settle (fu : Nat) (x0 : Option Nat) (S : gm_S) : gR :=
  Option.bind (g_gR S x0 3 13) fun v1 =>
  Option.bind (g_lclr S v1) fun S2 =>
  F_X3_settle_9 fu fu x0 (0 : Int32) S2
def F_X3_choose_120 (fu : Nat) : Nat → Option Nat → Int32 → gm_S → gR
  | 0, _, _, _ => none
  | n + 1, x0, x2, S => Option.bind (g_gR S x0 3 12) fun v1 =>
  Option.bind (g_lsz S v1) fun v2 =>
  if v2 ≤ x2 then (gz_q (g_at S x0 3) (gz_cV (F_X3_settle fu x0 S) fun S3 =>
  some (.returned none, S3)))
  else (Option.bind (g_gR S x0 3 12) fun v4 =>
  Option.bind (g_lget S v4 x2) fun v5 =>
  gz_q (g_at S (some v5) 10) (
  gz_q (g_at S x0 3) (gz_cV (F_X3_aim fu x0 (some v5) S) fun S7 =>
  F_X3_choose_120 fu n x0 (x2 + (1 : Int32)) S7)))
def F_X3_choose_88 (fu : Nat) (k9 : Option Nat → Int32 → Int32 → gm_S → gR) (x0 : Option Nat) (x1 : Int32) (x2 : Int32) (x4 : Option Nat) (S : gm_S) : gR :=
  if x4 = none then (k9 x0 x1 (x2 + (1 : Int32)) S)
  else (gz_q (g_at S x0 3) (gz_cI (F_X3_isChosen fu x0 x4 S) fun v1 S1 =>
  if v1 = 0 then (Option.bind (g_gR S1 x0 3 12) fun v2 =>
  Option.bind (g_ladd S1 v2 x4) fun S3 =>
  k9 x0 x1 (x2 + (1 : Int32)) S3)
  else (k9 x0 x1 (x2 + (1 : Int32)) S1)))
def F_X3_choose_59 (fu : Nat) (k9 : Option Nat → Int32 → Int32 → gm_S → gR) : Nat → Option Nat → Int32 → Int32 → Option Nat → Option Nat → gm_S → gR
  | 0, _, _, _, _, _, _ => none
  | n + 1, x0, x1, x2, x4, x5, S => if x5 = none then (F_X3_choose_88 fu k9 x0 x1 x2 x4 S)
  else (if x4 = none then (gz_q (g_at S x0 3) (gz_cR (F_X3_enabled fu x0 x5 x1 S) fun v1 S1 =>
  Option.bind (g_gR S1 x5 5 1) fun v2 =>
  F_X3_choose_59 fu k9 n x0 x1 x2 v1 v2 S1))
  else (F_X3_choose_88 fu k9 x0 x1 x2 x4 S))
def F_X3_choose_9 (fu : Nat) : Nat → Option Nat → Int32 → Int32 → gm_S → gR
  | 0, _, _, _, _ => none
  | n + 1, x0, x1, x2, S => Option.bind (g_gR S x0 3 0) fun v1 =>
  Option.bind (g_lsz S v1) fun v2 =>
  if v2 ≤ x2 then (F_X3_choose_120 fu fu x0 (0 : Int32) S)
  else (Option.bind (g_gR S x0 3 0) fun v3 =>
  Option.bind (g_lget S v3 x2) fun v4 =>
  gz_q (g_at S (some v4) 5) (
  Option.bind (g_gI S (some v4) 5 2) fun v6 =>
  if v6 = 0 then (Option.bind (g_gI S (some v4) 5 0) fun v7 =>
  gz_q (g_at S x0 3) (gz_cI (F_X3_isActive fu x0 v7 S) fun v8 S8 =>
  if v8 = 0 then (F_X3_choose_9 fu n x0 x1 (x2 + (1 : Int32)) S8)
  else (F_X3_choose_59 fu (F_X3_choose_9 fu n) fu x0 x1 x2 none (some v4) S8)))
  else (F_X3_choose_9 fu n x0 x1 (x2 + (1 : Int32)) S)))
def F_X3_choose (fu : Nat) (x0 : Option Nat) (x1 : Int32) (S : gm_S) : gR :=
  Option.bind (g_gR S x0 3 12) fun v1 =>
  Option.bind (g_lclr S v1) fun S2 =>
  F_X3_choose_9 fu fu x0 x1 (0 : Int32) S2
def F_X3_raise (fu : Nat) (x0 : Option Nat) (x1 : Int32) (S : gm_S) : gR :=
  Option.bind (g_gI S x0 3 6) fun v1 =>
  if v1 = (10 : Int32) then (some (.returned none, S))
  else (Option.bind (g_gR S x0 3 4) fun v2 =>
  Option.bind (g_gI S x0 3 5) fun v3 =>
  Option.bind (g_gI S x0 3 6) fun v4 =>
  Option.bind (g_sC S v2 ((v3 + v4) - (v3 + v4) / (10 : Int32) * (10 : Int32)) x1) fun S5 =>
  Option.bind (g_gI S5 x0 3 6) fun v6 =>
  Option.bind (g_pI S5 x0 3 6 (v6 + (1 : Int32))) fun S7 =>
  some (.returned none, S7))
def F_X15_init (fu : Nat) (x0 : Option Nat) (x1 : Int32) (x2 : Int32) (S : gm_S) : gR :=
  gz_q (g_at S x0 15) (
  Option.bind (g_pC S x0 15 0 x1) fun S2 =>
  Option.bind (g_pI S2 x0 15 1 x2) fun S3 =>
  some (.returned none, S3))
def F_X3_send (fu : Nat) (x0 : Option Nat) (x1 : Int32) (x2 : Int32) (S : gm_S) : gR :=
  Option.bind (g_gR S x0 3 7) fun v1 =>
  Option.bind (g_lsz S v1) fun v2 =>
  if (8 : Int32) ≤ v2 then (some (.returned none, S))
  else (Option.bind (g_gR S x0 3 7) fun v3 =>
  Option.bind (g_new S 15 2) fun q4 =>
  Option.bind (g_gI q4.2 x0 3 8) fun v5 =>
  gz_q (g_at q4.2 (some q4.1) 15) (gz_cV (F_X15_init fu (some q4.1) x1 (v5 + x2) q4.2) fun S6 =>
  Option.bind (g_ladd S6 v3 (some q4.1)) fun S7 =>
  some (.returned none, S7)))
def F_X7_act (fu : Nat) (x0 : Option Nat) (x1 : Option Nat) (S : gm_S) : gR :=
  Option.bind (g_gI S x0 7 1) fun v1 =>
  if v1 = 0 then (Option.bind (g_gI S x0 7 0) fun v5 =>
  gz_q (g_at S x1 3) (gz_cV (F_X3_raise fu x1 v5 S) fun S6 =>
  some (.returned none, S6)))
  else (Option.bind (g_gI S x0 7 0) fun v2 =>
  Option.bind (g_gI S x0 7 1) fun v3 =>
  gz_q (g_at S x1 3) (gz_cV (F_X3_send fu x1 v2 v3 S) fun S4 =>
  some (.returned none, S4)))
def F_X3_set (fu : Nat) (x0 : Option Nat) (x1 : Int32) (x2 : UInt64) (S : gm_S) : gR :=
  Option.bind (g_gR S x0 3 3) fun v1 =>
  Option.bind (g_sD S v1 x1 x2) fun S2 =>
  some (.returned none, S2)
def F_X8_made (fu : Nat) (x0 : Option Nat) (x1 : UInt64) (x3 : UInt64) (S : gm_S) : gR :=
  Option.bind (g_gI S x0 8 1) fun v1 =>
  if (v1).toInt < 42 ∨ 45 < (v1).toInt then (some (.returned (some (.double x3)), S))
  else (if v1 = 42 then (Option.bind (g_nn (FP.dmul x1 x3)) fun v2 =>
  some (.returned (some (.double v2)), S))
  else (if v1 = 43 then (Option.bind (g_nn (FP.dadd x1 x3)) fun v3 =>
  some (.returned (some (.double v3)), S))
  else (if v1 = 44 then (some (.returned (some (.double x3)), S))
  else (if v1 = 45 then (Option.bind (g_nn (FP.dsub x1 x3)) fun v4 =>
  some (.returned (some (.double v4)), S))
  else none))))
def F_X8_act_67 (fu : Nat) (s0 : UInt64) (s1 : Int32) (s2 : Option Nat) (S : gm_S) : gR :=
  gz_q (g_at S s2 3) (gz_cV (F_X3_set fu s2 s1 s0 S) fun S1 =>
  some (.returned none, S1))
def F_X8_act (fu : Nat) (x0 : Option Nat) (x1 : Option Nat) (S : gm_S) : gR :=
  Option.bind (g_gI S x0 8 0) fun v1 =>
  gz_q (g_at S x1 3) (gz_cD (F_X3_get fu x1 v1 S) fun v2 S2 =>
  Option.bind (g_gR S2 x0 8 2) fun v3 =>
  gz_q (g_at S2 v3 9) (gz_cD (F_X9_of fu v3 x1 S2) fun v4 S4 =>
  gz_q (g_at S4 x0 8) (gz_cD (F_X8_made fu x0 v2 v4 S4) fun v5 S5 =>
  Option.bind (g_gI S5 x0 8 0) fun v6 =>
  if (Op.cmpValue (FP.dcmp v5 (4741671816366391296 : UInt64)) .l) ≤ 0 then (if 0 ≤ (Op.cmpValue (FP.dcmp v5 (13965043853221167104 : UInt64)) .g) then (F_X8_act_67 fu v5 v6 x1 S5)
  else (F_X8_act_67 fu (13965043853221167104 : UInt64) v6 x1 S5))
  else (F_X8_act_67 fu (4741671816366391296 : UInt64) v6 x1 S5))))
def F_act (fu : Nat) (x0 x1 : Option Nat) (S : gm_S) : gR := if (g_at S x0 7).isSome = true then F_X7_act fu x0 x1 S else (if (g_at S x0 8).isSome = true then F_X8_act fu x0 x1 S else none)
def F_X3_actAll_2 (fu : Nat) : Nat → Option Nat → Option Nat → Int32 → gm_S → gR
  | 0, _, _, _, _ => none
  | n + 1, x0, x1, x2, S => Option.bind (g_lsz S x1) fun v1 =>
  if v1 ≤ x2 then (some (.returned none, S))
  else (Option.bind (g_lget S x1 x2) fun v2 =>
  if (g_at S (some v2) 7).isSome = true ∨ (g_at S (some v2) 8).isSome = true then (
  gz_cV (F_act fu (some v2) x0 S) fun S4 =>
  F_X3_actAll_2 fu n x0 x1 (x2 + (1 : Int32)) S4) else none)
def F_X3_actAll (fu : Nat) (x0 : Option Nat) (x1 : Option Nat) (S : gm_S) : gR :=
  F_X3_actAll_2 fu fu x0 x1 (0 : Int32) S
def F_X3_note (fu : Nat) (x0 : Option Nat) (x1 : Int32) (S : gm_S) : gR :=
  Option.bind (g_gI S x0 3 10) fun v1 =>
  if (100 : Int32) ≤ v1 then (some (.returned none, S))
  else (Option.bind (g_gR S x0 3 9) fun v2 =>
  Option.bind (g_gI S x0 3 10) fun v3 =>
  Option.bind (g_pI S x0 3 10 (v3 + (1 : Int32))) fun S4 =>
  Option.bind (g_sI S4 v2 0 v3 x1) fun S5 =>
  some (.returned none, S5))
def F_X3_enter_2 (fu : Nat) : Nat → Option Nat → Int32 → Int32 → gm_S → gR
  | 0, _, _, _, _ => none
  | n + 1, x0, x1, x2, S => Option.bind (g_gR S x0 3 0) fun v1 =>
  Option.bind (g_lsz S v1) fun v2 =>
  if v2 ≤ x2 then (some (.returned none, S))
  else (Option.bind (g_gR S x0 3 0) fun v3 =>
  Option.bind (g_lget S v3 x2) fun v4 =>
  gz_q (g_at S (some v4) 5) (
  gz_q (g_at S (some v4) 5) (gz_cI (F_X5_bit fu (some v4) S) fun v6 S6 =>
  if (x1 &&& v6) = 0 then (F_X3_enter_2 fu n x0 x1 (x2 + (1 : Int32)) S6)
  else (Option.bind (g_gI S6 x0 3 2) fun v7 =>
  gz_q (g_at S6 (some v4) 5) (gz_cI (F_X5_bit fu (some v4) S6) fun v8 S8 =>
  Option.bind (g_pI S8 x0 3 2 (v7 ||| v8)) fun S9 =>
  Option.bind (g_gI S9 (some v4) 5 0) fun v10 =>
  gz_q (g_at S9 x0 3) (gz_cV (F_X3_note fu x0 ((1 : Int32) + v10) S9) fun S11 =>
  Option.bind (g_gR S11 (some v4) 5 5) fun v12 =>
  gz_q (g_at S11 x0 3) (gz_cV (F_X3_actAll fu x0 v12 S11) fun S13 =>
  F_X3_enter_2 fu n x0 x1 (x2 + (1 : Int32)) S13)))))))
def F_X3_enter (fu : Nat) (x0 : Option Nat) (x1 : Int32) (S : gm_S) : gR :=
  F_X3_enter_2 fu fu x0 x1 (0 : Int32) S
def F_X1_down_50 (fu : Nat) (rc : Option Nat → Int32 → gm_S → gR) : Nat → Option Nat → Int32 → Int32 → gm_S → gR
  | 0, _, _, _, _ => none
  | n + 1, x0, x2, x3, S => Option.bind (g_gR S x0 5 3) fun v1 =>
  Option.bind (g_lsz S v1) fun v2 =>
  if v2 ≤ x3 then (some (.returned (some (.int x2)), S))
  else (Option.bind (g_gR S x0 5 3) fun v3 =>
  Option.bind (g_lget S v3 x3) fun v4 =>
  gz_q (g_at S (some v4) 5) (
  Option.bind (g_gI S (some v4) 5 7) fun v6 =>
  gz_q (g_at S (some v4) 5) (gz_cI (F_X5_bit fu (some v4) S) fun v7 S7 =>
  if (x2 &&& (v6 ||| v7)) = 0 then (gz_cI (rc (some v4) x2 S7) fun v8 S8 =>
  F_X1_down_50 fu rc n x0 v8 (x3 + (1 : Int32)) S8)
  else (F_X1_down_50 fu rc n x0 x2 (x3 + (1 : Int32)) S7))))
def F_X1_down_40 (fu : Nat) (rc : Option Nat → Int32 → gm_S → gR) (x0 : Option Nat) (x2 : Int32) (S : gm_S) : gR :=
  Option.bind (g_gI S x0 5 2) fun v1 =>
  if v1 = (2 : Int32) then (F_X1_down_50 fu rc fu x0 x2 (0 : Int32) S)
  else (some (.returned (some (.int x2)), S))
def F_X1_down_e (fu : Nat) (rc : Option Nat → Int32 → gm_S → gR) (x0 : Option Nat) (x1 : Int32) (S : gm_S) : gR :=
  gz_q (g_at S x0 5) (gz_cI (F_X5_bit fu x0 S) fun v1 S1 =>
  Option.bind (g_gI S1 x0 5 2) fun v2 =>
  if v2 = (1 : Int32) then (Option.bind (g_gI S1 x0 5 7) fun v3 =>
  if ((x1 ||| v1) &&& v3) = 0 then (Option.bind (g_gR S1 x0 5 3) fun v4 =>
  Option.bind (g_lget S1 v4 (0 : Int32)) fun v5 =>
  gz_q (g_at S1 (some v5) 5) (
  gz_cI (rc (some v5) (x1 ||| v1) S1) fun v7 S7 =>
  some (.returned (some (.int v7)), S7)))
  else (F_X1_down_40 fu rc x0 (x1 ||| v1) S1))
  else (F_X1_down_40 fu rc x0 (x1 ||| v1) S1))
def F_X1_down (fu : Nat) : Nat → Option Nat → Int32 → gm_S → gR
  | 0, _, _, _ => none
  | n + 1, x0, x1, S => F_X1_down_e fu (F_X1_down fu n) x0 x1 S
def F_X1_up_42 (fu : Nat) (k8 : Option Nat → Int32 → Option Nat → gm_S → gR) : Nat → Option Nat → Int32 → Option Nat → Int32 → gm_S → gR
  | 0, _, _, _, _, _ => none
  | n + 1, x1, x3, x4, x5, S => Option.bind (g_gR S x4 5 3) fun v1 =>
  Option.bind (g_lsz S v1) fun v2 =>
  if v2 ≤ x5 then (Option.bind (g_gR S x4 5 1) fun v3 =>
  k8 x1 x3 v3 S)
  else (Option.bind (g_gR S x4 5 3) fun v4 =>
  Option.bind (g_lget S v4 x5) fun v5 =>
  gz_q (g_at S (some v5) 5) (
  Option.bind (g_gI S (some v5) 5 7) fun v7 =>
  gz_q (g_at S (some v5) 5) (gz_cI (F_X5_bit fu (some v5) S) fun v8 S8 =>
  if (x3 &&& (v7 ||| v8)) = 0 then (gz_cI (F_X1_down fu 8 (some v5) x3 S8) fun v9 S9 =>
  F_X1_up_42 fu k8 n x1 v9 x4 (x5 + (1 : Int32)) S9)
  else (F_X1_up_42 fu k8 n x1 x3 x4 (x5 + (1 : Int32)) S8))))
def F_X1_up_8 (fu : Nat) : Nat → Option Nat → Int32 → Option Nat → gm_S → gR
  | 0, _, _, _, _ => none
  | n + 1, x1, x3, x4, S => if x4 = x1 then (some (.returned (some (.int x3)), S))
  else (if x4 = none then (some (.returned (some (.int x3)), S))
  else (gz_q (g_at S x4 5) (gz_cI (F_X5_bit fu x4 S) fun v1 S1 =>
  Option.bind (g_gI S1 x4 5 2) fun v2 =>
  if v2 = (2 : Int32) then (F_X1_up_42 fu (F_X1_up_8 fu n) fu x1 (x3 ||| v1) x4 (0 : Int32) S1)
  else (Option.bind (g_gR S1 x4 5 1) fun v3 =>
  F_X1_up_8 fu n x1 (x3 ||| v1) v3 S1))))
def F_X1_up (fu : Nat) (x0 : Option Nat) (x1 : Option Nat) (x2 : Int32) (S : gm_S) : gR :=
  Option.bind (g_gR S x0 5 1) fun v1 =>
  F_X1_up_8 fu fu x1 x2 v1 S
def F_X3_entries_113 (fu : Nat) (k4 : Option Nat → Int32 → Int32 → gm_S → gR) (k37 : Option Nat → Int32 → Int32 → Option Nat → Int32 → gm_S → gR) (x0 : Option Nat) (x1 : Int32) (x2 : Int32) (x3 : Option Nat) (x4 : Int32) (s0 : Option Nat) (s1 : Option Nat) (S : gm_S) : gR :=
  gz_cI (F_X1_up fu s1 s0 x1 S) fun v1 S1 =>
  k37 x0 v1 x2 x3 (x4 + (1 : Int32)) S1
def F_X3_entries_37 (fu : Nat) (k4 : Option Nat → Int32 → Int32 → gm_S → gR) : Nat → Option Nat → Int32 → Int32 → Option Nat → Int32 → gm_S → gR
  | 0, _, _, _, _, _, _ => none
  | n + 1, x0, x1, x2, x3, x4, S => Option.bind (g_gR S x0 3 0) fun v1 =>
  Option.bind (g_lsz S v1) fun v2 =>
  if v2 ≤ x4 then (k4 x0 x1 (x2 + (1 : Int32)) S)
  else (Option.bind (g_gR S x0 3 0) fun v3 =>
  Option.bind (g_lget S v3 x4) fun v4 =>
  gz_q (g_at S (some v4) 5) (
  Option.bind (g_gI S x3 10 5) fun v6 =>
  gz_q (g_at S (some v4) 5) (gz_cI (F_X5_bit fu (some v4) S) fun v7 S7 =>
  if (v6 &&& v7) = 0 then (F_X3_entries_37 fu k4 n x0 x1 x2 x3 (x4 + (1 : Int32)) S7)
  else (gz_cI (F_X1_down fu 8 (some v4) x1 S7) fun v8 S8 =>
  Option.bind (g_gI S8 x3 10 6) fun v9 =>
  if 0 ≤ v9 then (Option.bind (g_gR S8 x0 3 0) fun v10 =>
  Option.bind (g_gI S8 x3 10 6) fun v11 =>
  Option.bind (g_lget S8 v10 v11) fun v12 =>
  gz_q (g_at S8 (some v12) 5) (
  F_X3_entries_113 fu k4 (F_X3_entries_37 fu k4 n) x0 v8 x2 x3 x4 (some v12) (some v4) S8))
  else (F_X3_entries_113 fu k4 (F_X3_entries_37 fu k4 n) x0 v8 x2 x3 x4 none (some v4) S8)))))
def F_X3_entries_4 (fu : Nat) : Nat → Option Nat → Int32 → Int32 → gm_S → gR
  | 0, _, _, _, _ => none
  | n + 1, x0, x1, x2, S => Option.bind (g_gR S x0 3 12) fun v1 =>
  Option.bind (g_lsz S v1) fun v2 =>
  if v2 ≤ x2 then (some (.returned (some (.int x1)), S))
  else (Option.bind (g_gR S x0 3 12) fun v3 =>
  Option.bind (g_lget S v3 x2) fun v4 =>
  gz_q (g_at S (some v4) 10) (
  Option.bind (g_gI S (some v4) 10 5) fun v6 =>
  F_X3_entries_37 fu (F_X3_entries_4 fu n) fu x0 (x1 ||| v6) x2 (some v4) (0 : Int32) S))
def F_X3_entries (fu : Nat) (x0 : Option Nat) (S : gm_S) : gR :=
  F_X3_entries_4 fu fu x0 (0 : Int32) (0 : Int32) S
def F_X3_record_55 (fu : Nat) : Nat → Option Nat → Option Nat → Int32 → gm_S → gR
  | 0, _, _, _, _ => none
  | n + 1, x0, x1, x3, S => Option.bind (g_gR S x0 3 0) fun v1 =>
  Option.bind (g_lsz S v1) fun v2 =>
  if v2 ≤ x3 then (some (.returned none, S))
  else (Option.bind (g_gR S x0 3 0) fun v3 =>
  Option.bind (g_lget S v3 x3) fun v4 =>
  gz_q (g_at S (some v4) 5) (
  Option.bind (g_gI S (some v4) 5 2) fun v6 =>
  if v6 = 0 then (Option.bind (g_gI S x1 5 7) fun v7 =>
  Option.bind (g_gI S x0 3 2) fun v8 =>
  gz_q (g_at S (some v4) 5) (gz_cI (F_X5_bit fu (some v4) S) fun v9 S9 =>
  if ((v7 &&& v8) &&& v9) = 0 then (F_X3_record_55 fu n x0 x1 (x3 + (1 : Int32)) S9)
  else (Option.bind (g_gI S9 x1 5 9) fun v10 =>
  gz_q (g_at S9 (some v4) 5) (gz_cI (F_X5_bit fu (some v4) S9) fun v11 S11 =>
  Option.bind (g_pI S11 x1 5 9 (v10 ||| v11)) fun S12 =>
  F_X3_record_55 fu n x0 x1 (x3 + (1 : Int32)) S12))))
  else (F_X3_record_55 fu n x0 x1 (x3 + (1 : Int32)) S)))
def F_X3_record_4 (fu : Nat) : Nat → Option Nat → Option Nat → Int32 → Int32 → gm_S → gR
  | 0, _, _, _, _, _ => none
  | n + 1, x0, x1, x2, x3, S => Option.bind (g_gR S x1 5 3) fun v1 =>
  Option.bind (g_lsz S v1) fun v2 =>
  if v2 ≤ x3 then (Option.bind (g_gI S x0 3 2) fun v3 =>
  Option.bind (g_pI S x1 5 8 (v3 &&& x2)) fun S4 =>
  Option.bind (g_pI S4 x1 5 9 (0 : Int32)) fun S5 =>
  F_X3_record_55 fu fu x0 x1 (0 : Int32) S5)
  else (Option.bind (g_gR S x1 5 3) fun v6 =>
  Option.bind (g_lget S v6 x3) fun v7 =>
  gz_q (g_at S (some v7) 5) (
  gz_q (g_at S (some v7) 5) (gz_cI (F_X5_bit fu (some v7) S) fun v9 S9 =>
  F_X3_record_4 fu n x0 x1 (x2 ||| v9) (x3 + (1 : Int32)) S9)))
def F_X3_record (fu : Nat) (x0 : Option Nat) (x1 : Option Nat) (S : gm_S) : gR :=
  F_X3_record_4 fu fu x0 x1 (0 : Int32) (0 : Int32) S
def F_X3_leave_62 (fu : Nat) : Nat → Option Nat → Int32 → Int32 → gm_S → gR
  | 0, _, _, _, _ => none
  | n + 1, x0, x1, x2, S => if x2 < 0 then (some (.returned none, S))
  else (Option.bind (g_gR S x0 3 0) fun v1 =>
  Option.bind (g_lget S v1 x2) fun v2 =>
  gz_q (g_at S (some v2) 5) (
  gz_q (g_at S (some v2) 5) (gz_cI (F_X5_bit fu (some v2) S) fun v4 S4 =>
  if (x1 &&& v4) = 0 then (F_X3_leave_62 fu n x0 x1 (x2 + (-1 : Int32)) S4)
  else (Option.bind (g_gR S4 (some v2) 5 6) fun v5 =>
  gz_q (g_at S4 x0 3) (gz_cV (F_X3_actAll fu x0 v5 S4) fun S6 =>
  Option.bind (g_gI S6 x0 3 2) fun v7 =>
  gz_q (g_at S6 (some v2) 5) (gz_cI (F_X5_bit fu (some v2) S6) fun v8 S8 =>
  Option.bind (g_pI S8 x0 3 2 (v7 &&& (v8 ^^^ (-1 : Int32)))) fun S9 =>
  gz_q (g_at S9 x0 3) (gz_cV (F_X3_note fu x0 ((-1 : Int32) - x2) S9) fun S10 =>
  F_X3_leave_62 fu n x0 x1 (x2 + (-1 : Int32)) S10)))))))
def F_X3_leave_2 (fu : Nat) : Nat → Option Nat → Int32 → Int32 → gm_S → gR
  | 0, _, _, _, _ => none
  | n + 1, x0, x1, x2, S => Option.bind (g_gR S x0 3 0) fun v1 =>
  Option.bind (g_lsz S v1) fun v2 =>
  if v2 ≤ x2 then (Option.bind (g_gR S x0 3 0) fun v3 =>
  Option.bind (g_lsz S v3) fun v4 =>
  F_X3_leave_62 fu fu x0 x1 (v4 - (1 : Int32)) S)
  else (Option.bind (g_gR S x0 3 0) fun v5 =>
  Option.bind (g_lget S v5 x2) fun v6 =>
  gz_q (g_at S (some v6) 5) (
  gz_q (g_at S (some v6) 5) (gz_cI (F_X5_bit fu (some v6) S) fun v8 S8 =>
  if (x1 &&& v8) = 0 then (F_X3_leave_2 fu n x0 x1 (x2 + (1 : Int32)) S8)
  else (Option.bind (g_gI S8 (some v6) 5 2) fun v9 =>
  if v9 = 0 then (F_X3_leave_2 fu n x0 x1 (x2 + (1 : Int32)) S8)
  else (gz_q (g_at S8 x0 3) (gz_cV (F_X3_record fu x0 (some v6) S8) fun S10 =>
  F_X3_leave_2 fu n x0 x1 (x2 + (1 : Int32)) S10))))))
def F_X3_leave (fu : Nat) (x0 : Option Nat) (x1 : Int32) (S : gm_S) : gR :=
  F_X3_leave_2 fu fu x0 x1 (0 : Int32) S
def F_X3_step_82 (fu : Nat) : Nat → Option Nat → Int32 → gm_S → gR
  | 0, _, _, _ => none
  | n + 1, x0, x2, S => Option.bind (g_gR S x0 3 12) fun v1 =>
  Option.bind (g_lsz S v1) fun v2 =>
  if v2 ≤ x2 then (gz_q (g_at S x0 3) (gz_cI (F_X3_entries fu x0 S) fun v3 S3 =>
  gz_q (g_at S3 x0 3) (gz_cV (F_X3_enter fu x0 v3 S3) fun S4 =>
  some (.returned none, S4))))
  else (Option.bind (g_gR S x0 3 12) fun v5 =>
  Option.bind (g_lget S v5 x2) fun v6 =>
  gz_q (g_at S (some v6) 10) (
  Option.bind (g_gR S (some v6) 10 3) fun v8 =>
  gz_q (g_at S x0 3) (gz_cV (F_X3_actAll fu x0 v8 S) fun S9 =>
  F_X3_step_82 fu n x0 (x2 + (1 : Int32)) S9)))
def F_X3_step_41 (fu : Nat) : Nat → Option Nat → Int32 → Int32 → gm_S → gR
  | 0, _, _, _, _ => none
  | n + 1, x0, x1, x2, S => Option.bind (g_gR S x0 3 12) fun v1 =>
  Option.bind (g_lsz S v1) fun v2 =>
  if v2 ≤ x2 then (gz_q (g_at S x0 3) (gz_cV (F_X3_leave fu x0 x1 S) fun S3 =>
  F_X3_step_82 fu fu x0 (0 : Int32) S3))
  else (Option.bind (g_gR S x0 3 12) fun v4 =>
  Option.bind (g_lget S v4 x2) fun v5 =>
  gz_q (g_at S (some v5) 10) (
  Option.bind (g_gI S (some v5) 10 7) fun v7 =>
  F_X3_step_41 fu n x0 (x1 ||| v7) (x2 + (1 : Int32)) S))
def F_X3_step (fu : Nat) (x0 : Option Nat) (S : gm_S) : gR :=
  Option.bind (g_gI S x0 3 11) fun v1 =>
  if v1 = (30 : Int32) then (Option.bind (g_pZ S x0 3 1 (0 : Int32)) fun S4 =>
  Option.bind (g_pI S4 x0 3 2 (0 : Int32)) fun S5 =>
  Option.bind (g_new S5 19 6) fun q6 => some (.threw q6.1, q6.2))
  else (Option.bind (g_gI S x0 3 11) fun v2 =>
  Option.bind (g_pI S x0 3 11 (v2 + (1 : Int32))) fun S3 =>
  F_X3_step_41 fu fu x0 (0 : Int32) (0 : Int32) S3)
def F_X3_runOn_64 (fu : Nat) (k0 : Option Nat → gm_S → gR) (x0 : Option Nat) (S : gm_S) : gR :=
  Option.bind (g_gR S x0 3 12) fun v1 =>
  Option.bind (g_lemp S v1) fun v2 =>
  if v2 = 0 then (gz_q (g_at S x0 3) (gz_cV (F_X3_step fu x0 S) fun S3 =>
  k0 x0 S3))
  else (some (.returned none, S))
def F_X3_runOn_6 (fu : Nat) (k0 : Option Nat → gm_S → gR) : Nat → Option Nat → gm_S → gR
  | 0, _, _ => none
  | n + 1, x0, S => Option.bind (g_gR S x0 3 12) fun v1 =>
  Option.bind (g_lemp S v1) fun v2 =>
  if v2 = 0 then (F_X3_runOn_64 fu k0 x0 S)
  else (Option.bind (g_gI S x0 3 6) fun v3 =>
  if v3 ≤ 0 then (F_X3_runOn_64 fu k0 x0 S)
  else (Option.bind (g_gR S x0 3 4) fun v4 =>
  Option.bind (g_gI S x0 3 5) fun v5 =>
  Option.bind (g_aI S v4 1 v5) fun v6 =>
  Option.bind (g_gI S x0 3 5) fun v7 =>
  Option.bind (g_pI S x0 3 5 ((v7 + (1 : Int32)) - (v7 + (1 : Int32)) / (10 : Int32) * (10 : Int32))) fun S8 =>
  Option.bind (g_gI S8 x0 3 6) fun v9 =>
  Option.bind (g_pI S8 x0 3 6 (v9 - (1 : Int32))) fun S10 =>
  gz_q (g_at S10 x0 3) (gz_cV (F_X3_choose fu x0 v6 S10) fun S11 =>
  F_X3_runOn_6 fu k0 n x0 S11)))
def F_X3_runOn_0 (fu : Nat) : Nat → Option Nat → gm_S → gR
  | 0, _, _ => none
  | n + 1, x0, S => gz_q (g_at S x0 3) (gz_cV (F_X3_choose fu x0 (46 : Int32) S) fun S1 =>
  F_X3_runOn_6 fu (F_X3_runOn_0 fu n) fu x0 S1)
def F_X3_runOn (fu : Nat) (x0 : Option Nat) (S : gm_S) : gR :=
  F_X3_runOn_0 fu fu x0 S
def F_X3_come_19 (fu : Nat) (x0 : Option Nat) (S : gm_S) : gR :=
  gz_q (g_at S x0 3) (gz_cV (F_X3_runOn fu x0 S) fun S1 =>
  some (.returned none, S1))
def F_X3_come (fu : Nat) (x0 : Option Nat) (x1 : Int32) (S : gm_S) : gR :=
  gz_q (g_at S x0 3) (gz_cV (F_X3_choose fu x0 x1 S) fun S1 =>
  Option.bind (g_gR S1 x0 3 12) fun v2 =>
  Option.bind (g_lemp S1 v2) fun v3 =>
  if v3 = 0 then (gz_q (g_at S1 x0 3) (gz_cV (F_X3_step fu x0 S1) fun S4 =>
  F_X3_come_19 fu x0 S4))
  else (F_X3_come_19 fu x0 S1))
def F_X3_open (fu : Nat) (x0 : Option Nat) (S : gm_S) : gR :=
  Option.bind (g_pI S x0 3 11 (0 : Int32)) fun S1 =>
  Option.bind (g_pI S1 x0 3 10 (0 : Int32)) fun S2 =>
  some (.returned none, S2)
def F_X1_event_12 (fu : Nat)  (S : gm_S) : gR :=
  Option.bind (g_new S 17 6) fun q1 => some (.threw q1.1, q1.2)
def F_X1_event (fu : Nat) (x0 : Option Nat) (x1 : Int32) (S : gm_S) : gR :=
  if x1 < (65 : Int32) then (F_X1_event_12 fu  S)
  else (if x1 ≤ (72 : Int32) then (Option.bind (g_gR S x0 1 1) fun v1 =>
  Option.bind (g_gI S v1 3 1) fun v2 =>
  if v2 = 0 then (Option.bind (g_new S 18 6) fun q9 => some (.threw q9.1, q9.2))
  else (Option.bind (g_gR S x0 1 1) fun v3 =>
  gz_q (g_at S v3 3) (gz_cV (F_X3_open fu v3 S) fun S4 =>
  Option.bind (g_gR S4 x0 1 1) fun v5 =>
  gz_q (g_at S4 v5 3) (gz_cV (F_X3_come fu v5 x1 S4) fun S6 =>
  Option.bind (g_gR S6 x0 1 1) fun v7 =>
  Option.bind (g_gI S6 v7 3 11) fun v8 =>
  some (.returned (some (.int v8)), S6)))))
  else (F_X1_event_12 fu  S))
def F_X0_event (fu : Nat) (x0 : Option Nat) (x1 : Int32) (x2 : Option Nat) (S : gm_S) : gR :=
  gz_q (g_at S x0 1) (gz_tI (F_X1_event fu x0 x1 S) (fun v1 S1 => Option.bind (g_sJ S1 x2 (0 : Int32) (v1).toInt64) fun S2 =>
  some (.returned (some (.int (0 : Int32))), S2))
  (fun a1 S1 => if gs_t S1 a1 = 17 then (some (.returned (some (.int (1 : Int32))), S1))
  else (if gs_t S1 a1 = 18 then (some (.returned (some (.int (2 : Int32))), S1))
  else (if gs_t S1 a1 = 19 then (some (.returned (some (.int (3 : Int32))), S1))
  else (none)))))
def F_X3_begin_6 (fu : Nat) : Nat → Option Nat → Int32 → gm_S → gR
  | 0, _, _, _ => none
  | n + 1, x0, x1, S => Option.bind (g_gR S x0 3 0) fun v1 =>
  Option.bind (g_lsz S v1) fun v2 =>
  if v2 ≤ x1 then (Option.bind (g_pI S x0 3 6 (0 : Int32)) fun S3 =>
  Option.bind (g_gR S3 x0 3 7) fun v4 =>
  Option.bind (g_lclr S3 v4) fun S5 =>
  Option.bind (g_pI S5 x0 3 8 (0 : Int32)) fun S6 =>
  Option.bind (g_pI S6 x0 3 2 (0 : Int32)) fun S7 =>
  Option.bind (g_pZ S7 x0 3 1 (1 : Int32)) fun S8 =>
  gz_q (g_at S8 x0 3) (gz_cV (F_X3_open fu x0 S8) fun S9 =>
  Option.bind (g_gR S9 x0 3 0) fun v10 =>
  Option.bind (g_lget S9 v10 (0 : Int32)) fun v11 =>
  gz_q (g_at S9 (some v11) 5) (
  gz_cI (F_X1_down fu 8 (some v11) (0 : Int32) S9) fun v13 S13 =>
  gz_q (g_at S13 x0 3) (gz_cV (F_X3_enter fu x0 v13 S13) fun S14 =>
  gz_q (g_at S14 x0 3) (gz_cV (F_X3_runOn fu x0 S14) fun S15 =>
  some (.returned none, S15))))))
  else (Option.bind (g_gR S x0 3 0) fun v16 =>
  Option.bind (g_lget S v16 x1) fun v17 =>
  gz_q (g_at S (some v17) 5) (
  Option.bind (g_pI S (some v17) 5 8 (0 : Int32)) fun S19 =>
  Option.bind (g_pI S19 (some v17) 5 9 (0 : Int32)) fun S20 =>
  F_X3_begin_6 fu n x0 (x1 + (1 : Int32)) S20))
def F_X3_begin (fu : Nat) (x0 : Option Nat) (S : gm_S) : gR :=
  gz_q (g_at S x0 3) (gz_cV (F_X3_clear fu x0 S) fun S1 =>
  F_X3_begin_6 fu fu x0 (0 : Int32) S1)
def F_X1_start (fu : Nat) (x0 : Option Nat) (S : gm_S) : gR :=
  Option.bind (g_gR S x0 1 1) fun v1 =>
  Option.bind (g_gR S v1 3 0) fun v2 =>
  Option.bind (g_lemp S v2) fun v3 =>
  if v3 = 0 then (Option.bind (g_gR S x0 1 1) fun v4 =>
  gz_q (g_at S v4 3) (gz_cV (F_X3_begin fu v4 S) fun S5 =>
  Option.bind (g_gR S5 x0 1 1) fun v6 =>
  Option.bind (g_gI S5 v6 3 11) fun v7 =>
  some (.returned (some (.int v7)), S5)))
  else (Option.bind (g_new S 18 6) fun q8 => some (.threw q8.1, q8.2))
def F_X0_start (fu : Nat) (x0 : Option Nat) (x1 : Option Nat) (S : gm_S) : gR :=
  gz_q (g_at S x0 1) (gz_tI (F_X1_start fu x0 S) (fun v1 S1 => Option.bind (g_sJ S1 x1 (0 : Int32) (v1).toInt64) fun S2 =>
  some (.returned (some (.int (0 : Int32))), S2))
  (fun a1 S1 => if gs_t S1 a1 = 18 then (some (.returned (some (.int (1 : Int32))), S1))
  else (if gs_t S1 a1 = 19 then (some (.returned (some (.int (2 : Int32))), S1))
  else (none))))
def F_X3_tick_22 (fu : Nat) : Nat → Option Nat → Int32 → Int32 → Int32 → gm_S → gR
  | 0, _, _, _, _, _ => none
  | n + 1, x0, x1, x2, x3, S => if x1 ≤ x3 then (some (.returned none, S))
  else (Option.bind (g_gR S x0 3 7) fun v1 =>
  Option.bind (g_lget S v1 x2) fun v2 =>
  gz_q (g_at S (some v2) 15) (
  Option.bind (g_gI S (some v2) 15 1) fun v4 =>
  Option.bind (g_gI S x0 3 8) fun v5 =>
  if v4 ≤ v5 then (Option.bind (g_gR S x0 3 7) fun v6 =>
  Option.bind (g_lrem S v6 x2) fun q7 =>
  Option.bind (g_gI q7.2 (some v2) 15 0) fun v8 =>
  gz_q (g_at q7.2 x0 3) (gz_cV (F_X3_come fu x0 v8 q7.2) fun S9 =>
  F_X3_tick_22 fu n x0 x1 x2 (x3 + (1 : Int32)) S9))
  else (F_X3_tick_22 fu n x0 x1 (x2 + (1 : Int32)) (x3 + (1 : Int32)) S)))
def F_X3_tick (fu : Nat) (x0 : Option Nat) (S : gm_S) : gR :=
  Option.bind (g_gI S x0 3 8) fun v1 =>
  Option.bind (g_pI S x0 3 8 (v1 + (1 : Int32))) fun S2 =>
  Option.bind (g_gR S2 x0 3 7) fun v3 =>
  Option.bind (g_lsz S2 v3) fun v4 =>
  F_X3_tick_22 fu fu x0 v4 (0 : Int32) (0 : Int32) S2
def F_X1_tick_45 (fu : Nat) : Nat → Option Nat → Int32 → Int32 → gm_S → gR
  | 0, _, _, _, _ => none
  | n + 1, x0, x1, x2, S => if x1 ≤ x2 then (Option.bind (g_gR S x0 1 1) fun v1 =>
  Option.bind (g_gI S v1 3 11) fun v2 =>
  some (.returned (some (.int v2)), S))
  else (Option.bind (g_gR S x0 1 1) fun v3 =>
  gz_q (g_at S v3 3) (gz_cV (F_X3_tick fu v3 S) fun S4 =>
  F_X1_tick_45 fu n x0 x1 (x2 + (1 : Int32)) S4))
def F_X1_tick_10 (fu : Nat)  (S : gm_S) : gR :=
  Option.bind (g_new S 17 6) fun q1 => some (.threw q1.1, q1.2)
def F_X1_tick (fu : Nat) (x0 : Option Nat) (x1 : Int32) (S : gm_S) : gR :=
  if x1 < 0 then (F_X1_tick_10 fu  S)
  else (if x1 ≤ (20 : Int32) then (Option.bind (g_gR S x0 1 1) fun v1 =>
  Option.bind (g_gI S v1 3 1) fun v2 =>
  if v2 = 0 then (Option.bind (g_new S 18 6) fun q5 => some (.threw q5.1, q5.2))
  else (Option.bind (g_gR S x0 1 1) fun v3 =>
  gz_q (g_at S v3 3) (gz_cV (F_X3_open fu v3 S) fun S4 =>
  F_X1_tick_45 fu fu x0 x1 (0 : Int32) S4)))
  else (F_X1_tick_10 fu  S))
def F_X0_tick (fu : Nat) (x0 : Option Nat) (x1 : Int32) (x2 : Option Nat) (S : gm_S) : gR :=
  gz_q (g_at S x0 1) (gz_tI (F_X1_tick fu x0 x1 S) (fun v1 S1 => Option.bind (g_sJ S1 x2 (0 : Int32) (v1).toInt64) fun S2 =>
  some (.returned (some (.int (0 : Int32))), S2))
  (fun a1 S1 => if gs_t S1 a1 = 17 then (some (.returned (some (.int (1 : Int32))), S1))
  else (if gs_t S1 a1 = 18 then (some (.returned (some (.int (2 : Int32))), S1))
  else (if gs_t S1 a1 = 19 then (some (.returned (some (.int (3 : Int32))), S1))
  else (none)))))
def F_X1_stateOf (fu : Nat) (x0 : Option Nat) (x1 : Int32) (S : gm_S) : gR :=
  Option.bind (g_gR S x0 1 1) fun v1 =>
  Option.bind (g_gR S v1 3 0) fun v2 =>
  Option.bind (g_lemp S v2) fun v3 =>
  if v3 = 0 then (if x1 < (97 : Int32) then (some (.returned (some (va_rf none)), S))
  else (if (112 : Int32) < x1 then (some (.returned (some (va_rf none)), S))
  else (Option.bind (g_gR S x0 1 2) fun v4 =>
  Option.bind (g_aI S v4 0 (x1 - (97 : Int32))) fun v5 =>
  if 0 ≤ v5 then (Option.bind (g_gR S x0 1 1) fun v6 =>
  Option.bind (g_gR S v6 3 0) fun v7 =>
  Option.bind (g_gR S x0 1 2) fun v8 =>
  Option.bind (g_aI S v8 0 (x1 - (97 : Int32))) fun v9 =>
  Option.bind (g_lget S v7 v9) fun v10 =>
  gz_q (g_at S (some v10) 5) (
  some (.returned (some (va_rf (some v10))), S)))
  else (some (.returned (some (va_rf none)), S)))))
  else (some (.returned (some (va_rf none)), S))
def F_X1_active (fu : Nat) (x0 : Option Nat) (x1 : Int32) (S : gm_S) : gR :=
  gz_q (g_at S x0 1) (gz_cR (F_X1_stateOf fu x0 x1 S) fun v1 S1 =>
  if v1 = none then (if g_okZ (0 : Int32) = true then some (.returned (some (.int (0 : Int32))), S1) else none)
  else (Option.bind (g_gR S1 x0 1 1) fun v2 =>
  Option.bind (g_gI S1 v1 5 0) fun v3 =>
  gz_q (g_at S1 v2 3) (gz_cI (F_X3_isActive fu v2 v3 S1) fun v4 S4 =>
  if v4 = 0 then (if g_okZ (0 : Int32) = true then some (.returned (some (.int (0 : Int32))), S4) else none)
  else (if g_okZ (1 : Int32) = true then some (.returned (some (.int (1 : Int32))), S4) else none))))
def F_X1_history (fu : Nat) (x0 : Option Nat) (x1 : Int32) (x2 : Int32) (S : gm_S) : gR :=
  gz_q (g_at S x0 1) (gz_cR (F_X1_stateOf fu x0 x1 S) fun v1 S1 =>
  if v1 = none then (some (.returned (some (.int (0 : Int32))), S1))
  else (if x2 = 0 then (Option.bind (g_gI S1 v1 5 8) fun v2 =>
  some (.returned (some (.int v2)), S1))
  else (Option.bind (g_gI S1 v1 5 9) fun v3 =>
  some (.returned (some (.int v3)), S1))))
def F_X2_init (fu : Nat) (x0 : Option Nat) (S : gm_S) : gR :=
  gz_q (g_at S x0 2) (
  Option.bind (g_newa S 1 (160 : Int32)) fun q2 =>
  Option.bind (g_pR q2.2 x0 2 0 (some q2.1)) fun S3 =>
  Option.bind (g_newa S3 0 (16 : Int32)) fun q4 =>
  Option.bind (g_pR q4.2 x0 2 5 (some q4.1)) fun S5 =>
  some (.returned none, S5))
def F_X3_init (fu : Nat) (x0 : Option Nat) (S : gm_S) : gR :=
  gz_q (g_at S x0 3) (
  Option.bind (g_new S 32 3) fun q2 =>
  Option.bind (g_lnew q2.2 (some q2.1)) fun S3 =>
  Option.bind (g_pR S3 x0 3 0 (some q2.1)) fun S4 =>
  Option.bind (g_newa S4 2 (6 : Int32)) fun q5 =>
  Option.bind (g_pR q5.2 x0 3 3 (some q5.1)) fun S6 =>
  Option.bind (g_newa S6 1 (10 : Int32)) fun q7 =>
  Option.bind (g_pR q7.2 x0 3 4 (some q7.1)) fun S8 =>
  Option.bind (g_new S8 32 3) fun q9 =>
  Option.bind (g_lnew q9.2 (some q9.1)) fun S10 =>
  Option.bind (g_pR S10 x0 3 7 (some q9.1)) fun S11 =>
  Option.bind (g_newa S11 0 (100 : Int32)) fun q12 =>
  Option.bind (g_pR q12.2 x0 3 9 (some q12.1)) fun S13 =>
  Option.bind (g_new S13 32 3) fun q14 =>
  Option.bind (g_lnew q14.2 (some q14.1)) fun S15 =>
  Option.bind (g_pR S15 x0 3 12 (some q14.1)) fun S16 =>
  Option.bind (g_new S16 32 3) fun q17 =>
  Option.bind (g_lnew q17.2 (some q17.1)) fun S18 =>
  Option.bind (g_pR S18 x0 3 13 (some q17.1)) fun S19 =>
  some (.returned none, S19))
def F_X1_init (fu : Nat) (x0 : Option Nat) (S : gm_S) : gR :=
  gz_q (g_at S x0 1) (
  Option.bind (g_new S 2 8) fun q2 =>
  gz_q (g_at q2.2 (some q2.1) 2) (gz_cV (F_X2_init fu (some q2.1) q2.2) fun S3 =>
  Option.bind (g_pR S3 x0 1 0 (some q2.1)) fun S4 =>
  Option.bind (g_new S4 3 14) fun q5 =>
  gz_q (g_at q5.2 (some q5.1) 3) (gz_cV (F_X3_init fu (some q5.1) q5.2) fun S6 =>
  Option.bind (g_pR S6 x0 1 1 (some q5.1)) fun S7 =>
  Option.bind (g_newa S7 0 (16 : Int32)) fun q8 =>
  Option.bind (g_pR q8.2 x0 1 2 (some q8.1)) fun S9 =>
  Option.bind (g_pI S9 x0 1 3 (-1 : Int32)) fun S10 =>
  some (.returned none, S10))))
def F_X1_place (fu : Nat) (x0 : Option Nat) (S : gm_S) : gR :=
  Option.bind (g_gI S x0 1 3) fun v1 =>
  some (.returned (some (.int v1)), S)
def F_X1_runs (fu : Nat) (x0 : Option Nat) (S : gm_S) : gR :=
  Option.bind (g_gR S x0 1 1) fun v1 =>
  Option.bind (g_gI S v1 3 1) fun v2 =>
  if g_okZ v2 = true then some (.returned (some (.int v2)), S) else none
def F_X1_sent (fu : Nat) (x0 : Option Nat) (S : gm_S) : gR :=
  Option.bind (g_gR S x0 1 1) fun v1 =>
  Option.bind (g_gR S v1 3 7) fun v2 =>
  Option.bind (g_lsz S v2) fun v3 =>
  some (.returned (some (.int v3)), S)
def F_X1_trace (fu : Nat) (x0 : Option Nat) (x1 : Int32) (S : gm_S) : gR :=
  if x1 < 0 then (some (.returned (some (.int (0 : Int32))), S))
  else (Option.bind (g_gR S x0 1 1) fun v1 =>
  Option.bind (g_gI S v1 3 10) fun v2 =>
  if x1 < v2 then (Option.bind (g_gR S x0 1 1) fun v3 =>
  Option.bind (g_gR S v3 3 9) fun v4 =>
  Option.bind (g_aI S v4 0 x1) fun v5 =>
  some (.returned (some (.int v5)), S))
  else (some (.returned (some (.int (0 : Int32))), S)))
def F_X1_type (fu : Nat) (x0 : Option Nat) (x1 : Int32) (S : gm_S) : gR :=
  if x1 < (32 : Int32) then (if g_okZ (0 : Int32) = true then some (.returned (some (.int (0 : Int32))), S) else none)
  else (if (126 : Int32) < x1 then (if g_okZ (0 : Int32) = true then some (.returned (some (.int (0 : Int32))), S) else none)
  else (Option.bind (g_gI S x0 1 4) fun v1 =>
  if v1 = (160 : Int32) then (if g_okZ (0 : Int32) = true then some (.returned (some (.int (0 : Int32))), S) else none)
  else (Option.bind (g_gI S x0 1 4) fun v2 =>
  Option.bind (g_pI S x0 1 4 (v2 + (1 : Int32))) fun S3 =>
  if x1 = (32 : Int32) then (if g_okZ (1 : Int32) = true then some (.returned (some (.int (1 : Int32))), S3) else none)
  else (Option.bind (g_gR S3 x0 1 0) fun v4 =>
  Option.bind (g_gR S3 v4 2 0) fun v5 =>
  Option.bind (g_gR S3 x0 1 0) fun v6 =>
  Option.bind (g_gI S3 v6 2 1) fun v7 =>
  Option.bind (g_pI S3 v6 2 1 (v7 + (1 : Int32))) fun S8 =>
  Option.bind (g_sC S8 v5 v7 x1) fun S9 =>
  if g_okZ (1 : Int32) = true then some (.returned (some (.int (1 : Int32))), S9) else none))))
def F_X1_variable (fu : Nat) (x0 : Option Nat) (x1 : Int32) (S : gm_S) : gR :=
  if x1 < (117 : Int32) then (some (.returned (some (.double FP.dconst0)), S))
  else (if x1 ≤ (122 : Int32) then (Option.bind (g_gR S x0 1 1) fun v1 =>
  Option.bind (g_gR S v1 3 3) fun v2 =>
  Option.bind (g_aD S v2 2 (x1 - (117 : Int32))) fun v3 =>
  some (.returned (some (.double v3)), S))
  else (some (.returned (some (.double FP.dconst0)), S)))
def F_X4_doAction_207 (fu : Nat) (x2 : Int32) (s0 : UInt64) (M : gM) : gQ :=
  if (Op.cmpValue (FP.dcmp s0 (4741671816366391296 : UInt64)) .l) ≤ 0 then (if 0 ≤ (Op.cmpValue (FP.dcmp s0 (13965043853221167104 : UInt64)) .g) then (Option.bind (n_sD M 42 6 (x2 - (117 : Int32)) s0) fun M2 =>
  some (.returned none, M2))
  else (Option.bind (n_sD M 42 6 (x2 - (117 : Int32)) (13965043853221167104 : UInt64)) fun M3 =>
  some (.returned none, M3)))
  else (Option.bind (n_sD M 42 6 (x2 - (117 : Int32)) (4741671816366391296 : UInt64)) fun M4 =>
  some (.returned none, M4))
def F_X4_doAction_149 (fu : Nat) (x1 : Int32) (x2 : Int32) (x3 : UInt64) (s0 : UInt64) (M : gM) : gQ :=
  Option.bind (n_aI M 35 96 x1) fun v2 =>
  if v2 = (43 : Int32) then (Option.bind (g_nn (FP.dadd x3 s0)) fun v9 =>
  F_X4_doAction_207 fu x2 v9 M)
  else (Option.bind (n_aI M 35 96 x1) fun v4 =>
  if v4 = (45 : Int32) then (Option.bind (g_nn (FP.dsub x3 s0)) fun v8 =>
  F_X4_doAction_207 fu x2 v8 M)
  else (Option.bind (n_aI M 35 96 x1) fun v6 =>
  if v6 = (42 : Int32) then (Option.bind (g_nn (FP.dmul x3 s0)) fun v7 =>
  F_X4_doAction_207 fu x2 v7 M)
  else (F_X4_doAction_207 fu x2 s0 M)))
def F_X4_doAction_51 (fu : Nat) (x1 : Int32) (x2 : Int32) (M : gM) : gQ :=
  Option.bind (n_aI M 35 96 x1) fun v2 =>
  if v2 ≤ 0 then (some (.returned none, M))
  else (if (8 : Int32) ≤ (n_I M 47 0) then (some (.returned none, M))
  else (Option.bind (n_sI M 48 8 (n_I M 47 0) x2) fun M6 =>
  Option.bind (n_aI M6 35 96 x1) fun v11 =>
  Option.bind (n_sI M6 49 8 (n_I M6 47 0) ((n_I M6 50 0) + v11)) fun M12 =>
  Option.bind (n_pIO M12 47 ((n_I M12 47 0) + (1 : Int32))) fun M14 =>
  some (.returned none, M14)))
def F_X4_doAction (fu : Nat) (x1 : Int32) (M : gM) : gQ :=
  Option.bind (n_aI M 34 96 x1) fun v2 =>
  if (72 : Int32) < v2 then (Option.bind (n_aD M 42 6 (v2 - (117 : Int32))) fun v4 =>
  Option.bind (n_aI M 36 96 x1) fun v6 =>
  if v6 < 0 then (Option.bind (n_aD M 37 96 x1) fun v8 =>
  F_X4_doAction_149 fu x1 v2 v4 v8 M)
  else (Option.bind (n_aI M 36 96 x1) fun v11 =>
  Option.bind (n_aD M 42 6 v11) fun v12 =>
  F_X4_doAction_149 fu x1 v2 v4 v12 M))
  else (Option.bind (n_aI M 35 96 x1) fun v14 =>
  if v14 = 0 then (if (10 : Int32) ≤ (n_I M 45 0) then (F_X4_doAction_51 fu x1 v2 M)
  else (Option.bind (n_sI M 46 10 (n_I M 45 0) v2) fun M18 =>
  Option.bind (n_pIO M18 45 ((n_I M18 45 0) + (1 : Int32))) fun M20 =>
  F_X4_doAction_51 fu x1 v2 M20))
  else (F_X4_doAction_51 fu x1 v2 M))
def F_X4_act_8 (fu : Nat) : Nat → Int32 → Int32 → gM → gQ
  | 0, _, _, _ => none
  | n + 1, x1, x2, M => Option.bind (n_aI M 12 2 (n_I M 7 0)) fun v4 =>
  if (((48 : Int32) * (n_I M 7 0)) + v4) ≤ x2 then (some (.returned none, M))
  else (Option.bind (n_aI M 33 96 x2) fun v6 =>
  if v6 = x1 then (gz_cV (F_X4_doAction fu x2 M) fun M7 =>
  F_X4_act_8 fu n x1 (x2 + (1 : Int32)) M7)
  else (F_X4_act_8 fu n x1 (x2 + (1 : Int32)) M))
def F_X4_act (fu : Nat) (x1 : Int32) (M : gM) : gQ :=
  F_X4_act_8 fu fu x1 ((48 : Int32) * (n_I M 7 0)) M
def F_X4_isIn (fu : Nat) (x1 : Int32) (x2 : Int32) (M : gM) : gQ :=
  if ((x1 >>> (x2 &&& 31)) &&& (1 : Int32)) = (1 : Int32) then (if g_okZ (1 : Int32) = true then some (.returned (some (.int (1 : Int32))), M) else none)
  else (if g_okZ (0 : Int32) = true then some (.returned (some (.int (0 : Int32))), M) else none)
def F_X4_stateOf (fu : Nat) (x1 : Int32) (M : gM) : gQ :=
  if (n_I M 7 0) < 0 then (some (.returned (some (.int (-1 : Int32))), M))
  else (if x1 < (97 : Int32) then (some (.returned (some (.int (-1 : Int32))), M))
  else (if x1 ≤ (112 : Int32) then (Option.bind (n_aI M 17 32 ((((16 : Int32) * (n_I M 7 0)) + x1) - (97 : Int32))) fun v4 =>
  some (.returned (some (.int v4)), M))
  else (some (.returned (some (.int (-1 : Int32))), M))))
def F_X4_active (fu : Nat) (x1 : Int32) (M : gM) : gQ :=
  Option.bind (n_pIO M 0 (0 : Int32)) fun M1 =>
  gz_cI (F_X4_stateOf fu x1 M1) fun v2 M2 =>
  if v2 < 0 then (if g_okZ (0 : Int32) = true then some (.returned (some (.int (0 : Int32))), M2) else none)
  else (gz_cI (F_X4_isIn fu (n_I M2 41 0) v2 M2) fun v4 M4 =>
  if v4 = 0 then (if g_okZ (0 : Int32) = true then some (.returned (some (.int (0 : Int32))), M4) else none)
  else (if g_okZ (1 : Int32) = true then some (.returned (some (.int (1 : Int32))), M4) else none))
def F_X4_belowOf (fu : Nat) (x1 : Int32) (M : gM) : gQ :=
  Option.bind (n_aI M 16 32 (((16 : Int32) * (n_I M 7 0)) + x1)) fun v3 =>
  some (.returned (some (.int v3)), M)
def F_X4_kindOf (fu : Nat) (x1 : Int32) (M : gM) : gQ :=
  Option.bind (n_aI M 14 32 (((16 : Int32) * (n_I M 7 0)) + x1)) fun v3 =>
  some (.returned (some (.int v3)), M)
def F_X4_outerOf (fu : Nat) (x1 : Int32) (M : gM) : gQ :=
  Option.bind (n_aI M 15 32 (((16 : Int32) * (n_I M 7 0)) + x1)) fun v3 =>
  some (.returned (some (.int v3)), M)
def F_X4_aim_187 (fu : Nat) (x1 : Int32) (x6 : Int32) (M : gM) : gQ :=
  Option.bind (n_sI M 58 24 x1 x6) fun M2 =>
  if 0 ≤ x6 then (gz_cI (F_X4_belowOf fu x6 M2) fun v5 M5 =>
  Option.bind (n_sI M5 59 24 x1 ((n_I M2 41 0) &&& v5)) fun M6 =>
  some (.returned none, M6))
  else (Option.bind (n_sI M2 59 24 x1 (n_I M2 41 0)) fun M8 =>
  some (.returned none, M8))
def F_X4_aim_176 (fu : Nat) (k147 : Int32 → Int32 → Int32 → gM → gQ) (x1 : Int32) (x5 : Int32) (x6 : Int32) (M : gM) : gQ :=
  gz_cI (F_X4_outerOf fu x6 M) fun v1 M1 =>
  k147 x1 x5 v1 M1
def F_X4_aim_147 (fu : Nat) : Nat → Int32 → Int32 → Int32 → gM → gQ
  | 0, _, _, _, _ => none
  | n + 1, x1, x5, x6, M => if x6 < 0 then (F_X4_aim_187 fu x1 x6 M)
  else (gz_cI (F_X4_kindOf fu x6 M) fun v1 M1 =>
  if v1 = (1 : Int32) then (gz_cI (F_X4_belowOf fu x6 M1) fun v2 M2 =>
  if (v2 &&& x5) = x5 then (F_X4_aim_187 fu x1 x6 M2)
  else (F_X4_aim_176 fu (F_X4_aim_147 fu n) x1 x5 x6 M2))
  else (F_X4_aim_176 fu (F_X4_aim_147 fu n) x1 x5 x6 M1))
def F_X4_aim_118 (fu : Nat) (x1 : Int32) (x2 : Int32) (M : gM) : gQ :=
  Option.bind (n_aI M 57 24 x1) fun v2 =>
  Option.bind (n_aI M 18 48 x2) fun v4 =>
  Option.bind (n_aI M 18 48 x2) fun v6 =>
  gz_cI (F_X4_outerOf fu v6 M) fun v7 M7 =>
  F_X4_aim_147 fu fu x1 (v2 ||| ((1 : Int32) <<< (v4 &&& 31))) v7 M7
def F_X4_aim_99 (fu : Nat) (x1 : Int32) (x2 : Int32) (x3 : Int32) (s0 : Int32) (s1 : Int32) (M : gM) : gQ :=
  Option.bind (n_sI M 57 24 s1 s0) fun M1 =>
  Option.bind (n_aI M1 57 24 x1) fun v3 =>
  if v3 = 0 then (Option.bind (n_sI M1 57 24 x1 ((1 : Int32) <<< (x3 &&& 31))) fun M5 =>
  F_X4_aim_118 fu x1 x2 M5)
  else (F_X4_aim_118 fu x1 x2 M1)
def F_X4_aim (fu : Nat) (x1 : Int32) (M : gM) : gQ :=
  Option.bind (n_aI M 56 24 x1) fun v2 =>
  Option.bind (n_sI M 57 24 x1 (0 : Int32)) fun M4 =>
  Option.bind (n_sI M4 58 24 x1 (-1 : Int32)) fun M6 =>
  Option.bind (n_sI M6 59 24 x1 (0 : Int32)) fun M8 =>
  Option.bind (n_aI M8 22 48 v2) fun v10 =>
  if 0 ≤ v10 then (Option.bind (n_aI M8 22 48 v2) fun v13 =>
  Option.bind (n_aI M8 23 128 v13) fun v14 =>
  Option.bind (n_aI M8 22 48 v2) fun v17 =>
  Option.bind (n_aI M8 25 128 v17) fun v18 =>
  if v18 = (1 : Int32) then (Option.bind (n_aI M8 43 16 v14) fun v23 =>
  F_X4_aim_99 fu x1 v2 v14 v23 x1 M8)
  else (if v18 = (2 : Int32) then (Option.bind (n_aI M8 44 16 v14) fun v21 =>
  F_X4_aim_99 fu x1 v2 v14 v21 x1 M8)
  else (F_X4_aim_99 fu x1 v2 v14 (0 : Int32) x1 M8)))
  else (some (.returned none, M8))
def F_X4_look (fu : Nat)  (M : gM) : gQ :=
  if (n_I M 5 0) = 0 then (if (n_I M 2 0) ≤ (n_I M 4 0) then (if g_okC (0 : Int32) = true then some (.returned (some (.int (0 : Int32))), M) else none)
  else (Option.bind (n_aI M 3 160 (n_I M 4 0)) fun v6 =>
  if g_okC v6 = true then some (.returned (some (.int v6)), M) else none))
  else (if g_okC (0 : Int32) = true then some (.returned (some (.int (0 : Int32))), M) else none)
def F_X4_among (fu : Nat) (x1 : Int32) (x2 : Int32) (M : gM) : gQ :=
  gz_cI (F_X4_look fu  M) fun v1 M1 =>
  if v1 < x1 then (if g_okZ (0 : Int32) = true then some (.returned (some (.int (0 : Int32))), M1) else none)
  else (gz_cI (F_X4_look fu  M1) fun v2 M2 =>
  if x2 < v2 then (if g_okZ (0 : Int32) = true then some (.returned (some (.int (0 : Int32))), M2) else none)
  else (if g_okZ (1 : Int32) = true then some (.returned (some (.int (1 : Int32))), M2) else none))
def F_X4_answer_13 (fu : Nat) (s0 : Int32) (M : gM) : gQ :=
  Option.bind (n_pIO M 0 s0) fun M1 =>
  if (n_I M1 52 0) = 0 then (some (.returned (some (.int (n_I M1 51 0))), M1))
  else (some (.returned (some (.int (0 : Int32))), M1))
def F_X4_answer (fu : Nat) (x1 : Int32) (M : gM) : gQ :=
  if (n_I M 52 0) = 0 then (F_X4_answer_13 fu (0 : Int32) M)
  else (F_X4_answer_13 fu x1 M)
def F_X4_findNames_101 (fu : Nat) (k8 : Int32 → gM → gQ) (x1 : Int32) (x2 : Int32) (M : gM) : gQ :=
  Option.bind (n_sI M 23 128 x1 x2) fun M2 =>
  k8 (x1 + (1 : Int32)) M2
def F_X4_findNames_86 (fu : Nat) (k8 : Int32 → gM → gQ) (x1 : Int32) (x2 : Int32) (M : gM) : gQ :=
  Option.bind (n_pZO M 5 (1 : Int32)) fun M1 =>
  Option.bind (n_aI M1 24 128 x1) fun v3 =>
  Option.bind (n_pIO M1 4 v3) fun M4 =>
  F_X4_findNames_101 fu k8 x1 x2 M4
def F_X4_findNames_8 (fu : Nat) : Nat → Int32 → gM → gQ
  | 0, _, _ => none
  | n + 1, x1, M => Option.bind (n_aI M 13 2 (n_I M 8 0)) fun v4 =>
  if (((64 : Int32) * (n_I M 8 0)) + v4) ≤ x1 then (some (.returned none, M))
  else (if (n_I M 5 0) = 0 then (Option.bind (n_aI M 23 128 x1) fun v9 =>
  Option.bind (n_aI M 17 32 (((16 : Int32) * (n_I M 8 0)) + v9)) fun v10 =>
  if v10 < 0 then (F_X4_findNames_86 fu (F_X4_findNames_8 fu n) x1 v10 M)
  else (Option.bind (n_aI M 25 128 x1) fun v12 =>
  if v12 ≤ 0 then (F_X4_findNames_101 fu (F_X4_findNames_8 fu n) x1 v10 M)
  else (Option.bind (n_aI M 14 32 (((16 : Int32) * (n_I M 8 0)) + v10)) fun v15 =>
  if v15 = 0 then (F_X4_findNames_86 fu (F_X4_findNames_8 fu n) x1 v10 M)
  else (F_X4_findNames_101 fu (F_X4_findNames_8 fu n) x1 v10 M))))
  else (some (.returned none, M)))
def F_X4_findNames (fu : Nat)  (M : gM) : gQ :=
  F_X4_findNames_8 fu fu ((64 : Int32) * (n_I M 8 0)) M
def F_X4_forget_23 (fu : Nat) : Nat → Int32 → gM → gQ
  | 0, _, _ => none
  | n + 1, x1, M => if (16 : Int32) ≤ x1 then (Option.bind (n_pIO M 45 (0 : Int32)) fun M1 =>
  Option.bind (n_pIO M1 47 (0 : Int32)) fun M2 =>
  Option.bind (n_pIO M2 50 (0 : Int32)) fun M3 =>
  some (.returned none, M3))
  else (Option.bind (n_sI M 43 16 x1 (0 : Int32)) fun M5 =>
  Option.bind (n_sI M5 44 16 x1 (0 : Int32)) fun M7 =>
  F_X4_forget_23 fu n (x1 + (1 : Int32)) M7)
def F_X4_forget_2 (fu : Nat) : Nat → Int32 → gM → gQ
  | 0, _, _ => none
  | n + 1, x1, M => if (6 : Int32) ≤ x1 then (F_X4_forget_23 fu fu (0 : Int32) M)
  else (Option.bind (n_sD M 42 6 x1 FP.dconst0) fun M2 =>
  F_X4_forget_2 fu n (x1 + (1 : Int32)) M2)
def F_X4_forget (fu : Nat)  (M : gM) : gQ :=
  F_X4_forget_2 fu fu (0 : Int32) M
def F_X4_innerOf_4 (fu : Nat) : Nat → Int32 → Int32 → Int32 → gM → gQ
  | 0, _, _, _, _ => none
  | n + 1, x1, x2, x3, M => Option.bind (n_aI M 9 2 (n_I M 8 0)) fun v3 =>
  if v3 ≤ x3 then (some (.returned (some (.int x2)), M))
  else (Option.bind (n_aI M 15 32 (((16 : Int32) * (n_I M 8 0)) + x3)) fun v6 =>
  if v6 = x1 then (F_X4_innerOf_4 fu n x1 (x2 + (1 : Int32)) (x3 + (1 : Int32)) M)
  else (F_X4_innerOf_4 fu n x1 x2 (x3 + (1 : Int32)) M))
def F_X4_innerOf (fu : Nat) (x1 : Int32) (M : gM) : gQ :=
  F_X4_innerOf_4 fu fu x1 (0 : Int32) (0 : Int32) M
def F_X4_next (fu : Nat)  (M : gM) : gQ :=
  if (n_I M 5 0) = 0 then (Option.bind (n_pIO M 4 ((n_I M 4 0) + (1 : Int32))) fun M3 =>
  Option.bind (n_aI M3 3 160 ((n_I M3 4 0) - (1 : Int32))) fun v6 =>
  if g_okC v6 = true then some (.returned (some (.int v6)), M3) else none)
  else (if g_okC (0 : Int32) = true then some (.returned (some (.int (0 : Int32))), M) else none)
def F_X4_takes (fu : Nat) (x1 : Int32) (M : gM) : gQ :=
  gz_cI (F_X4_look fu  M) fun v1 M1 =>
  if v1 = x1 then (Option.bind (n_pIO M1 4 ((n_I M1 4 0) + (1 : Int32))) fun M3 =>
  if g_okZ (1 : Int32) = true then some (.returned (some (.int (1 : Int32))), M3) else none)
  else (if g_okZ (0 : Int32) = true then some (.returned (some (.int (0 : Int32))), M1) else none)
def F_X4_want (fu : Nat) (x1 : Int32) (M : gM) : gQ :=
  if x1 = 0 then (Option.bind (n_pZO M 5 (1 : Int32)) fun M1 =>
  some (.returned none, M1))
  else (some (.returned none, M))
def F_X4_readOperand_84 (fu : Nat) (x1 : Int32) (M : gM) : gQ :=
  Option.bind (n_pDO M 39 (FP.i2d x1)) fun M1 =>
  gz_cI (F_X4_takes fu (46 : Int32) M1) fun v2 M2 =>
  if v2 = 0 then (some (.returned none, M2))
  else (gz_cI (F_X4_among fu (48 : Int32) (57 : Int32) M2) fun v3 M3 =>
  gz_cV (F_X4_want fu v3 M3) fun M4 =>
  if (n_I M4 5 0) = 0 then (gz_cI (F_X4_next fu  M4) fun v6 M6 =>
  Option.bind (g_nn (FP.ddiv (FP.i2d ((((10 : Int32) * x1) + v6) - (48 : Int32))) (4621819117588971520 : UInt64))) fun v7 =>
  Option.bind (n_pDO M6 39 v7) fun M8 =>
  some (.returned none, M8))
  else (some (.returned none, M4)))
def F_X4_readOperand_49 (fu : Nat) : Nat → Int32 → Int32 → gM → gQ
  | 0, _, _, _ => none
  | n + 1, x1, x2, M => if (3 : Int32) ≤ x2 then (F_X4_readOperand_84 fu x1 M)
  else (gz_cI (F_X4_among fu (48 : Int32) (57 : Int32) M) fun v1 M1 =>
  if v1 = 0 then (F_X4_readOperand_84 fu x1 M1)
  else (gz_cI (F_X4_next fu  M1) fun v2 M2 =>
  F_X4_readOperand_49 fu n ((((10 : Int32) * x1) + v2) - (48 : Int32)) (x2 + (1 : Int32)) M2))
def F_X4_readOperand (fu : Nat)  (M : gM) : gQ :=
  Option.bind (n_pIO M 38 (-1 : Int32)) fun M1 =>
  Option.bind (n_pDO M1 39 FP.dconst0) fun M2 =>
  gz_cI (F_X4_among fu (117 : Int32) (122 : Int32) M2) fun v3 M3 =>
  if v3 = 0 then (gz_cI (F_X4_among fu (48 : Int32) (57 : Int32) M3) fun v4 M4 =>
  gz_cV (F_X4_want fu v4 M4) fun M5 =>
  F_X4_readOperand_49 fu fu (0 : Int32) (0 : Int32) M5)
  else (gz_cI (F_X4_next fu  M3) fun v6 M6 =>
  Option.bind (n_pIO M6 38 (v6 - (117 : Int32))) fun M7 =>
  some (.returned none, M7))
def F_X4_readAction_197 (fu : Nat) (x2 : Int32) (s0 : Int32) (M : gM) : gQ :=
  gz_cV (F_X4_want fu s0 M) fun M1 =>
  gz_cI (F_X4_next fu  M1) fun v3 M3 =>
  Option.bind (n_sI M3 35 96 x2 v3) fun M4 =>
  gz_cV (F_X4_readOperand fu  M4) fun M5 =>
  Option.bind (n_sI M5 36 96 x2 (n_I M5 38 0)) fun M8 =>
  Option.bind (n_sD M8 37 96 x2 (n_D M8 39 0)) fun M11 =>
  some (.returned none, M11)
def F_X4_readAction_42 (fu : Nat) (x1 : Int32) (s0 : Int32) (M : gM) : gQ :=
  gz_cV (F_X4_want fu s0 M) fun M1 =>
  Option.bind (n_aI M1 12 2 (n_I M1 8 0)) fun v5 =>
  if (n_I M1 5 0) = 0 then (Option.bind (n_sI M1 33 96 (((48 : Int32) * (n_I M1 8 0)) + v5) x1) fun M8 =>
  gz_cI (F_X4_next fu  M8) fun v10 M10 =>
  Option.bind (n_sI M10 34 96 (((48 : Int32) * (n_I M1 8 0)) + v5) v10) fun M11 =>
  Option.bind (n_sI M11 35 96 (((48 : Int32) * (n_I M1 8 0)) + v5) (0 : Int32)) fun M13 =>
  Option.bind (n_aI M13 12 2 (n_I M13 8 0)) fun v16 =>
  Option.bind (n_sI M13 12 2 (n_I M13 8 0) (v16 + (1 : Int32))) fun M17 =>
  Option.bind (n_aI M17 34 96 (((48 : Int32) * (n_I M1 8 0)) + v5)) fun v19 =>
  if (72 : Int32) < v19 then (gz_cI (F_X4_look fu  M17) fun v20 M20 =>
  if v20 = (61 : Int32) then (F_X4_readAction_197 fu (((48 : Int32) * (n_I M1 8 0)) + v5) (1 : Int32) M20)
  else (gz_cI (F_X4_look fu  M20) fun v21 M21 =>
  if v21 = (43 : Int32) then (F_X4_readAction_197 fu (((48 : Int32) * (n_I M1 8 0)) + v5) (1 : Int32) M21)
  else (gz_cI (F_X4_look fu  M21) fun v22 M22 =>
  if v22 = (45 : Int32) then (F_X4_readAction_197 fu (((48 : Int32) * (n_I M1 8 0)) + v5) (1 : Int32) M22)
  else (gz_cI (F_X4_look fu  M22) fun v23 M23 =>
  if v23 = (42 : Int32) then (F_X4_readAction_197 fu (((48 : Int32) * (n_I M1 8 0)) + v5) (1 : Int32) M23)
  else (F_X4_readAction_197 fu (((48 : Int32) * (n_I M1 8 0)) + v5) (0 : Int32) M23)))))
  else (gz_cI (F_X4_takes fu (64 : Int32) M17) fun v24 M24 =>
  if v24 = 0 then (some (.returned none, M24))
  else (gz_cI (F_X4_among fu (49 : Int32) (57 : Int32) M24) fun v25 M25 =>
  gz_cV (F_X4_want fu v25 M25) fun M26 =>
  gz_cI (F_X4_next fu  M26) fun v28 M28 =>
  Option.bind (n_sI M28 35 96 (((48 : Int32) * (n_I M1 8 0)) + v5) (v28 - (48 : Int32))) fun M29 =>
  some (.returned none, M29))))
  else (some (.returned none, M1))
def F_X4_readAction_23 (fu : Nat) (x1 : Int32) (M : gM) : gQ :=
  Option.bind (n_aI M 12 2 (n_I M 8 0)) fun v3 =>
  if (40 : Int32) ≤ v3 then (F_X4_readAction_42 fu x1 (0 : Int32) M)
  else (F_X4_readAction_42 fu x1 (1 : Int32) M)
def F_X4_readAction (fu : Nat) (x1 : Int32) (M : gM) : gQ :=
  gz_cI (F_X4_among fu (65 : Int32) (72 : Int32) M) fun v1 M1 =>
  if v1 = 0 then (gz_cI (F_X4_among fu (117 : Int32) (122 : Int32) M1) fun v2 M2 =>
  if v2 = 0 then (F_X4_readAction_42 fu x1 (0 : Int32) M2)
  else (F_X4_readAction_23 fu x1 M2))
  else (F_X4_readAction_23 fu x1 M1)
def F_X4_readActions_0 (fu : Nat) : Nat → Int32 → gM → gQ
  | 0, _, _ => none
  | n + 1, x1, M => gz_cV (F_X4_readAction fu x1 M) fun M1 =>
  gz_cI (F_X4_takes fu (44 : Int32) M1) fun v2 M2 =>
  if v2 = 0 then (some (.returned none, M2))
  else (F_X4_readActions_0 fu n x1 M2)
def F_X4_readActions (fu : Nat) (x1 : Int32) (M : gM) : gQ :=
  F_X4_readActions_0 fu fu x1 M
def F_X4_readName_105 (fu : Nat) (x2 : Int32) (M : gM) : gQ :=
  Option.bind (n_aI M 13 2 (n_I M 8 0)) fun v3 =>
  Option.bind (n_sI M 13 2 (n_I M 8 0) (v3 + (1 : Int32))) fun M4 =>
  some (.returned (some (.int x2)), M4)
def F_X4_readName_71 (fu : Nat) : Nat → Int32 → Int32 → Int32 → gM → gQ
  | 0, _, _, _, _ => none
  | n + 1, x1, x2, x3, M => if (2 : Int32) ≤ x3 then (F_X4_readName_105 fu x2 M)
  else (if x1 = 0 then (F_X4_readName_105 fu x2 M)
  else (gz_cI (F_X4_takes fu (42 : Int32) M) fun v1 M1 =>
  if v1 = 0 then (F_X4_readName_105 fu x2 M1)
  else (Option.bind (n_aI M1 25 128 x2) fun v3 =>
  Option.bind (n_sI M1 25 128 x2 (v3 + (1 : Int32))) fun M4 =>
  F_X4_readName_71 fu n x1 x2 (x3 + (1 : Int32)) M4)))
def F_X4_readName (fu : Nat) (x1 : Int32) (M : gM) : gQ :=
  gz_cI (F_X4_among fu (97 : Int32) (112 : Int32) M) fun v1 M1 =>
  gz_cV (F_X4_want fu v1 M1) fun M2 =>
  Option.bind (n_aI M2 13 2 (n_I M2 8 0)) fun v6 =>
  if (n_I M2 5 0) = 0 then (Option.bind (n_sI M2 24 128 (((64 : Int32) * (n_I M2 8 0)) + v6) (n_I M2 4 0)) fun M10 =>
  gz_cI (F_X4_next fu  M10) fun v12 M12 =>
  Option.bind (n_sI M12 23 128 (((64 : Int32) * (n_I M2 8 0)) + v6) (v12 - (97 : Int32))) fun M13 =>
  Option.bind (n_sI M13 25 128 (((64 : Int32) * (n_I M2 8 0)) + v6) (0 : Int32)) fun M15 =>
  F_X4_readName_71 fu fu x1 (((64 : Int32) * (n_I M2 8 0)) + v6) (0 : Int32) M15)
  else (some (.returned (some (.int (0 : Int32))), M2))
def F_X4_readTest_154 (fu : Nat)  (M : gM) : gQ :=
  Option.bind (n_aI M 11 2 (n_I M 8 0)) fun v3 =>
  Option.bind (n_sI M 11 2 (n_I M 8 0) (v3 + (1 : Int32))) fun M4 =>
  some (.returned none, M4)
def F_X4_readTest_117 (fu : Nat) (x1 : Int32) (s0 : Int32) (M : gM) : gQ :=
  gz_cV (F_X4_want fu s0 M) fun M1 =>
  gz_cI (F_X4_next fu  M1) fun v3 M3 =>
  Option.bind (n_sI M3 28 128 x1 v3) fun M4 =>
  gz_cV (F_X4_readOperand fu  M4) fun M5 =>
  Option.bind (n_sI M5 30 128 x1 (n_I M5 38 0)) fun M8 =>
  Option.bind (n_sD M8 32 128 x1 (n_D M8 39 0)) fun M11 =>
  F_X4_readTest_154 fu  M11
def F_X4_readTest (fu : Nat)  (M : gM) : gQ :=
  Option.bind (n_aI M 11 2 (n_I M 8 0)) fun v4 =>
  gz_cI (F_X4_takes fu (33 : Int32) M) fun v6 M6 =>
  Option.bind (n_sZ M6 26 128 (((64 : Int32) * (n_I M 8 0)) + v4) v6) fun M7 =>
  Option.bind (n_sI M7 27 128 (((64 : Int32) * (n_I M 8 0)) + v4) (-1 : Int32)) fun M9 =>
  gz_cI (F_X4_takes fu (35 : Int32) M9) fun v10 M10 =>
  if v10 = 0 then (gz_cV (F_X4_readOperand fu  M10) fun M11 =>
  Option.bind (n_sI M11 29 128 (((64 : Int32) * (n_I M 8 0)) + v4) (n_I M11 38 0)) fun M14 =>
  Option.bind (n_sD M14 31 128 (((64 : Int32) * (n_I M 8 0)) + v4) (n_D M14 39 0)) fun M17 =>
  gz_cI (F_X4_look fu  M17) fun v18 M18 =>
  if v18 = (60 : Int32) then (F_X4_readTest_117 fu (((64 : Int32) * (n_I M 8 0)) + v4) (1 : Int32) M18)
  else (gz_cI (F_X4_look fu  M18) fun v19 M19 =>
  if v19 = (61 : Int32) then (F_X4_readTest_117 fu (((64 : Int32) * (n_I M 8 0)) + v4) (1 : Int32) M19)
  else (gz_cI (F_X4_look fu  M19) fun v20 M20 =>
  if v20 = (62 : Int32) then (F_X4_readTest_117 fu (((64 : Int32) * (n_I M 8 0)) + v4) (1 : Int32) M20)
  else (F_X4_readTest_117 fu (((64 : Int32) * (n_I M 8 0)) + v4) (0 : Int32) M20))))
  else (gz_cI (F_X4_readName fu (0 : Int32) M10) fun v22 M22 =>
  Option.bind (n_sI M22 27 128 (((64 : Int32) * (n_I M 8 0)) + v4) v22) fun M23 =>
  F_X4_readTest_154 fu  M23)
def F_X4_take (fu : Nat) (x1 : Int32) (M : gM) : gQ :=
  gz_cI (F_X4_takes fu x1 M) fun v1 M1 =>
  gz_cV (F_X4_want fu v1 M1) fun M2 =>
  some (.returned none, M2)
def F_X4_readTransition_210 (fu : Nat) (x3 : Int32) (M : gM) : gQ :=
  gz_cI (F_X4_takes fu (47 : Int32) M) fun v1 M1 =>
  if v1 = 0 then (some (.returned none, M1))
  else (gz_cV (F_X4_readActions fu x3 M1) fun M2 =>
  some (.returned none, M2))
def F_X4_readTransition_154 (fu : Nat) (x2 : Int32) (x3 : Int32) (M : gM) : gQ :=
  Option.bind (n_aI M 11 2 (n_I M 8 0)) fun v5 =>
  Option.bind (n_sI M 21 48 x2 (((64 : Int32) * (n_I M 8 0)) + v5)) fun M6 =>
  gz_cV (F_X4_take fu (62 : Int32) M6) fun M7 =>
  Option.bind (n_sI M7 22 48 x2 (-1 : Int32)) fun M9 =>
  gz_cI (F_X4_takes fu (33 : Int32) M9) fun v10 M10 =>
  if v10 = 0 then (gz_cI (F_X4_readName fu (1 : Int32) M10) fun v12 M12 =>
  Option.bind (n_sI M12 22 48 x2 v12) fun M13 =>
  F_X4_readTransition_210 fu x3 M13)
  else (F_X4_readTransition_210 fu x3 M10)
def F_X4_readTransition_141 (fu : Nat) : Nat → Int32 → Int32 → gM → gQ
  | 0, _, _, _ => none
  | n + 1, x2, x3, M => gz_cV (F_X4_readTest fu  M) fun M1 =>
  gz_cI (F_X4_takes fu (38 : Int32) M1) fun v2 M2 =>
  if v2 = 0 then (F_X4_readTransition_154 fu x2 x3 M2)
  else (F_X4_readTransition_141 fu n x2 x3 M2)
def F_X4_readTransition_40 (fu : Nat) (x1 : Int32) (s0 : Int32) (M : gM) : gQ :=
  gz_cV (F_X4_want fu s0 M) fun M1 =>
  Option.bind (n_aI M1 10 2 (n_I M1 8 0)) fun v5 =>
  if (n_I M1 5 0) = 0 then (Option.bind (n_aI M1 10 2 (n_I M1 8 0)) fun v9 =>
  Option.bind (n_aI M1 10 2 (n_I M1 8 0)) fun v12 =>
  Option.bind (n_sI M1 10 2 (n_I M1 8 0) (v12 + (1 : Int32))) fun M13 =>
  Option.bind (n_sI M13 18 48 (((24 : Int32) * (n_I M1 8 0)) + v5) x1) fun M15 =>
  gz_cI (F_X4_next fu  M15) fun v17 M17 =>
  Option.bind (n_sI M17 19 48 (((24 : Int32) * (n_I M1 8 0)) + v5) v17) fun M18 =>
  Option.bind (n_aI M18 11 2 (n_I M18 8 0)) fun v23 =>
  Option.bind (n_sI M18 20 48 (((24 : Int32) * (n_I M1 8 0)) + v5) (((64 : Int32) * (n_I M18 8 0)) + v23)) fun M24 =>
  gz_cI (F_X4_takes fu (63 : Int32) M24) fun v25 M25 =>
  if v25 = 0 then (F_X4_readTransition_154 fu (((24 : Int32) * (n_I M1 8 0)) + v5) v9 M25)
  else (F_X4_readTransition_141 fu fu (((24 : Int32) * (n_I M1 8 0)) + v5) v9 M25))
  else (some (.returned none, M1))
def F_X4_readTransition_21 (fu : Nat) (x1 : Int32) (M : gM) : gQ :=
  Option.bind (n_aI M 10 2 (n_I M 8 0)) fun v3 =>
  if (24 : Int32) ≤ v3 then (F_X4_readTransition_40 fu x1 (0 : Int32) M)
  else (F_X4_readTransition_40 fu x1 (1 : Int32) M)
def F_X4_readTransition (fu : Nat) (x1 : Int32) (M : gM) : gQ :=
  gz_cI (F_X4_look fu  M) fun v1 M1 =>
  if v1 = (46 : Int32) then (F_X4_readTransition_21 fu x1 M1)
  else (gz_cI (F_X4_among fu (65 : Int32) (72 : Int32) M1) fun v2 M2 =>
  if v2 = 0 then (F_X4_readTransition_40 fu x1 (0 : Int32) M2)
  else (F_X4_readTransition_21 fu x1 M2))
def F_X4_readItems_72 (fu : Nat) (k10 : Int32 → gM → gQ) (x1 : Int32) (M : gM) : gQ :=
  gz_cV (F_X4_take fu (59 : Int32) M) fun M1 =>
  k10 x1 M1
def F_X4_readItems_10 (fu : Nat) : Nat → Int32 → gM → gQ
  | 0, _, _ => none
  | n + 1, x1, M => if (n_I M 5 0) = 0 then (gz_cI (F_X4_takes fu (125 : Int32) M) fun v2 M2 =>
  if v2 = 0 then (gz_cI (F_X4_takes fu (43 : Int32) M2) fun v3 M3 =>
  if v3 = 0 then (gz_cI (F_X4_takes fu (45 : Int32) M3) fun v4 M4 =>
  if v4 = 0 then (gz_cV (F_X4_readTransition fu x1 M4) fun M5 =>
  F_X4_readItems_72 fu (F_X4_readItems_10 fu n) x1 M5)
  else (gz_cV (F_X4_readActions fu ((200 : Int32) + x1) M4) fun M6 =>
  F_X4_readItems_72 fu (F_X4_readItems_10 fu n) x1 M6))
  else (gz_cV (F_X4_readActions fu ((100 : Int32) + x1) M3) fun M7 =>
  F_X4_readItems_72 fu (F_X4_readItems_10 fu n) x1 M7))
  else (some (.returned none, M2)))
  else (some (.returned none, M))
def F_X4_readItems (fu : Nat) (x1 : Int32) (M : gM) : gQ :=
  gz_cI (F_X4_takes fu (123 : Int32) M) fun v1 M1 =>
  if v1 = 0 then (some (.returned none, M1))
  else (F_X4_readItems_10 fu fu x1 M1)
def F_X4_readState_150 (fu : Nat) : Nat → Int32 → Int32 → gM → gQ
  | 0, _, _, _ => none
  | n + 1, x3, x4, M => if x4 < 0 then (some (.returned (some (.int x3)), M))
  else (Option.bind (n_aI M 16 32 (((16 : Int32) * (n_I M 8 0)) + x4)) fun v3 =>
  Option.bind (n_sI M 16 32 (((16 : Int32) * (n_I M 8 0)) + x4) (v3 ||| ((1 : Int32) <<< (x3 &&& 31)))) fun M4 =>
  Option.bind (n_aI M4 15 32 (((16 : Int32) * (n_I M4 8 0)) + x4)) fun v7 =>
  F_X4_readState_150 fu n x3 v7 M4)
def F_X4_readState_46 (fu : Nat) (x1 : Int32) (s0 : Int32) (M : gM) : gQ :=
  gz_cV (F_X4_want fu s0 M) fun M1 =>
  if (n_I M1 5 0) = 0 then (Option.bind (n_aI M1 9 2 (n_I M1 8 0)) fun v5 =>
  Option.bind (n_aI M1 9 2 (n_I M1 8 0)) fun v8 =>
  Option.bind (n_sI M1 9 2 (n_I M1 8 0) (v8 + (1 : Int32))) fun M9 =>
  gz_cI (F_X4_next fu  M9) fun v12 M12 =>
  Option.bind (n_sI M12 17 32 ((((16 : Int32) * (n_I M9 8 0)) + v12) - (97 : Int32)) v5) fun M13 =>
  Option.bind (n_sI M13 14 32 (((16 : Int32) * (n_I M13 8 0)) + v5) (0 : Int32)) fun M16 =>
  Option.bind (n_sI M16 15 32 (((16 : Int32) * (n_I M16 8 0)) + v5) x1) fun M19 =>
  Option.bind (n_sI M19 16 32 (((16 : Int32) * (n_I M19 8 0)) + v5) (0 : Int32)) fun M22 =>
  F_X4_readState_150 fu fu v5 x1 M22)
  else (some (.returned (some (.int (0 : Int32))), M1))
def F_X4_readState (fu : Nat) (x1 : Int32) (x2 : Int32) (M : gM) : gQ :=
  gz_cI (F_X4_among fu (97 : Int32) (112 : Int32) M) fun v1 M1 =>
  if v1 = 0 then (F_X4_readState_46 fu x1 (0 : Int32) M1)
  else (gz_cI (F_X4_look fu  M1) fun v4 M4 =>
  Option.bind (n_aI M4 17 32 ((((16 : Int32) * (n_I M1 8 0)) + v4) - (97 : Int32))) fun v5 =>
  if 0 ≤ v5 then (F_X4_readState_46 fu x1 (0 : Int32) M4)
  else (if (7 : Int32) ≤ x2 then (F_X4_readState_46 fu x1 (0 : Int32) M4)
  else (F_X4_readState_46 fu x1 (1 : Int32) M4)))
def F_X4_readChart_221 (fu : Nat) (s0 : Int32) (M : gM) : gQ :=
  gz_cV (F_X4_want fu s0 M) fun M1 =>
  some (.returned none, M1)
def F_X4_readChart_204 (fu : Nat)  (M : gM) : gQ :=
  if (n_I M 4 0) = (n_I M 2 0) then (F_X4_readChart_221 fu (1 : Int32) M)
  else (F_X4_readChart_221 fu (0 : Int32) M)
def F_X4_readChart_191 (fu : Nat) (k6 : Int32 → Int32 → Int32 → gM → gQ) (x1 : Int32) (x2 : Int32) (M : gM) : gQ :=
  if x1 < 0 then (k6 x1 x2 (0 : Int32) M)
  else (k6 x1 x2 (1 : Int32) M)
def F_X4_readChart_162 (fu : Nat) (k6 : Int32 → Int32 → Int32 → gM → gQ) (k87 : Int32 → Int32 → gM → gQ) (x1 : Int32) (x2 : Int32) (s0 : Int32) (M : gM) : gQ :=
  gz_cV (F_X4_take fu s0 M) fun M1 =>
  gz_cV (F_X4_readItems fu x1 M1) fun M2 =>
  Option.bind (n_aI M2 15 32 (((16 : Int32) * (n_I M2 8 0)) + x1)) fun v5 =>
  k87 v5 (x2 + (-1 : Int32)) M2
def F_X4_readChart_136 (fu : Nat) (k6 : Int32 → Int32 → Int32 → gM → gQ) (k87 : Int32 → Int32 → gM → gQ) (x1 : Int32) (x2 : Int32) (M : gM) : gQ :=
  Option.bind (n_aI M 14 32 (((16 : Int32) * (n_I M 8 0)) + x1)) fun v3 =>
  if v3 = (1 : Int32) then (F_X4_readChart_162 fu k6 k87 x1 x2 (41 : Int32) M)
  else (F_X4_readChart_162 fu k6 k87 x1 x2 (62 : Int32) M)
def F_X4_readChart_87 (fu : Nat) (k6 : Int32 → Int32 → Int32 → gM → gQ) : Nat → Int32 → Int32 → gM → gQ
  | 0, _, _, _ => none
  | n + 1, x1, x2, M => if (n_I M 5 0) = 0 then (if x1 < 0 then (F_X4_readChart_191 fu k6 x1 x2 M)
  else (gz_cI (F_X4_among fu (97 : Int32) (112 : Int32) M) fun v2 M2 =>
  if v2 = 0 then (Option.bind (n_aI M2 14 32 (((16 : Int32) * (n_I M2 8 0)) + x1)) fun v5 =>
  if v5 = (1 : Int32) then (F_X4_readChart_136 fu k6 (F_X4_readChart_87 fu k6 n) x1 x2 M2)
  else (gz_cI (F_X4_innerOf fu x1 M2) fun v6 M6 =>
  if v6 ≤ (1 : Int32) then (F_X4_readChart_191 fu k6 x1 x2 M6)
  else (F_X4_readChart_136 fu k6 (F_X4_readChart_87 fu k6 n) x1 x2 M6)))
  else (F_X4_readChart_191 fu k6 x1 x2 M2)))
  else (F_X4_readChart_191 fu k6 x1 x2 M)
def F_X4_readChart_47 (fu : Nat) (k6 : Int32 → Int32 → Int32 → gM → gQ) (x2 : Int32) (x3 : Int32) (x4 : Int32) (x5 : Int32) (M : gM) : gQ :=
  if x5 = 0 then (Option.bind (n_sI M 14 32 (((16 : Int32) * (n_I M 8 0)) + x4) (2 : Int32)) fun M3 =>
  k6 x4 (x2 + (1 : Int32)) x3 M3)
  else (Option.bind (n_sI M 14 32 (((16 : Int32) * (n_I M 8 0)) + x4) (1 : Int32)) fun M4 =>
  k6 x4 (x2 + (1 : Int32)) x3 M4)
def F_X4_readChart_6 (fu : Nat) : Nat → Int32 → Int32 → Int32 → gM → gQ
  | 0, _, _, _, _ => none
  | n + 1, x1, x2, x3, M => if x3 = 0 then (F_X4_readChart_204 fu  M)
  else (if (n_I M 5 0) = 0 then (gz_cI (F_X4_readState fu x1 x2 M) fun v2 M2 =>
  gz_cI (F_X4_takes fu (40 : Int32) M2) fun v3 M3 =>
  if v3 = 0 then (gz_cI (F_X4_takes fu (60 : Int32) M3) fun v4 M4 =>
  if v4 = 0 then (gz_cV (F_X4_readItems fu v2 M4) fun M5 =>
  F_X4_readChart_87 fu (F_X4_readChart_6 fu n) fu x1 x2 M5)
  else (F_X4_readChart_47 fu (F_X4_readChart_6 fu n) x2 x3 v2 v3 M4))
  else (F_X4_readChart_47 fu (F_X4_readChart_6 fu n) x2 x3 v2 v3 M3))
  else (F_X4_readChart_204 fu  M))
def F_X4_readChart (fu : Nat)  (M : gM) : gQ :=
  F_X4_readChart_6 fu fu (-1 : Int32) (1 : Int32) (1 : Int32) M
def F_X4_build_168 (fu : Nat) (s0 : Int32) (M : gM) : gQ :=
  Option.bind (n_pIO M 0 s0) fun M1 =>
  if (n_I M1 5 0) = 0 then (Option.bind (n_pIO M1 7 (n_I M1 8 0)) fun M4 =>
  Option.bind (n_pZO M4 40 (0 : Int32)) fun M5 =>
  Option.bind (n_pIO M5 41 (0 : Int32)) fun M6 =>
  Option.bind (n_pIO M6 53 (0 : Int32)) fun M7 =>
  gz_cV (F_X4_forget fu  M7) fun M8 =>
  Option.bind (n_aI M8 9 2 (n_I M8 8 0)) fun v11 =>
  some (.returned (some (.int v11)), M8))
  else (some (.returned (some (.int (0 : Int32))), M1))
def F_X4_build_142 (fu : Nat) (s0 : Int32) (M : gM) : gQ :=
  Option.bind (n_pIO M 6 s0) fun M1 =>
  Option.bind (n_pIO M1 2 (0 : Int32)) fun M2 =>
  Option.bind (n_pIO M2 1 (0 : Int32)) fun M3 =>
  if (n_I M3 5 0) = 0 then (F_X4_build_168 fu (0 : Int32) M3)
  else (F_X4_build_168 fu (1 : Int32) M3)
def F_X4_build_126 (fu : Nat)  (M : gM) : gQ :=
  if (n_I M 5 0) = 0 then (F_X4_build_142 fu (-1 : Int32) M)
  else (F_X4_build_142 fu (n_I M 4 0) M)
def F_X4_build_84 (fu : Nat) : Nat → Int32 → gM → gQ
  | 0, _, _ => none
  | n + 1, x1, M => if (((16 : Int32) * (n_I M 8 0)) + (16 : Int32)) ≤ x1 then (gz_cV (F_X4_readChart fu  M) fun M2 =>
  if (n_I M2 5 0) = 0 then (gz_cV (F_X4_findNames fu  M2) fun M4 =>
  F_X4_build_126 fu  M4)
  else (F_X4_build_126 fu  M2))
  else (Option.bind (n_sI M 17 32 x1 (-1 : Int32)) fun M6 =>
  F_X4_build_84 fu n (x1 + (1 : Int32)) M6)
def F_X4_build_13 (fu : Nat) (s0 : Int32) (M : gM) : gQ :=
  Option.bind (n_pIO M 8 s0) fun M1 =>
  Option.bind (n_pIO M1 4 (0 : Int32)) fun M2 =>
  Option.bind (n_pZO M2 5 (0 : Int32)) fun M3 =>
  Option.bind (n_sI M3 9 2 (n_I M3 8 0) (0 : Int32)) fun M6 =>
  Option.bind (n_sI M6 10 2 (n_I M6 8 0) (0 : Int32)) fun M9 =>
  Option.bind (n_sI M9 11 2 (n_I M9 8 0) (0 : Int32)) fun M12 =>
  Option.bind (n_sI M12 12 2 (n_I M12 8 0) (0 : Int32)) fun M15 =>
  Option.bind (n_sI M15 13 2 (n_I M15 8 0) (0 : Int32)) fun M18 =>
  F_X4_build_84 fu fu ((16 : Int32) * (n_I M18 8 0)) M18
def F_X4_build (fu : Nat)  (M : gM) : gQ :=
  if (n_I M 7 0) = 0 then (F_X4_build_13 fu (1 : Int32) M)
  else (F_X4_build_13 fu (0 : Int32) M)
def F_X4_drop_12 (fu : Nat) : Nat → Int32 → gM → gQ
  | 0, _, _ => none
  | n + 1, x2, M => if (n_I M 55 0) ≤ x2 then (some (.returned none, M))
  else (Option.bind (n_aI M 56 24 (x2 + (1 : Int32))) fun v4 =>
  Option.bind (n_sI M 56 24 x2 v4) fun M5 =>
  Option.bind (n_aI M5 57 24 (x2 + (1 : Int32))) fun v8 =>
  Option.bind (n_sI M5 57 24 x2 v8) fun M9 =>
  Option.bind (n_aI M9 58 24 (x2 + (1 : Int32))) fun v12 =>
  Option.bind (n_sI M9 58 24 x2 v12) fun M13 =>
  Option.bind (n_aI M13 59 24 (x2 + (1 : Int32))) fun v16 =>
  Option.bind (n_sI M13 59 24 x2 v16) fun M17 =>
  F_X4_drop_12 fu n (x2 + (1 : Int32)) M17)
def F_X4_drop (fu : Nat) (x1 : Int32) (M : gM) : gQ :=
  Option.bind (n_pIO M 55 ((n_I M 55 0) - (1 : Int32))) fun M2 =>
  F_X4_drop_12 fu fu x1 M2
def F_X4_holds_158 (fu : Nat) (x1 : Int32) (x2 : Int32) (M : gM) : gQ :=
  Option.bind (n_aI M 26 128 x1) fun v2 =>
  if x2 = v2 then (if g_okZ (0 : Int32) = true then some (.returned (some (.int (0 : Int32))), M) else none)
  else (if g_okZ (1 : Int32) = true then some (.returned (some (.int (1 : Int32))), M) else none)
def F_X4_holds_91 (fu : Nat) (x1 : Int32) (x3 : UInt64) (s0 : UInt64) (M : gM) : gQ :=
  Option.bind (n_aI M 28 128 x1) fun v2 =>
  if v2 = (60 : Int32) then (if 0 ≤ (Op.cmpValue (FP.dcmp x3 s0) .g) then (F_X4_holds_158 fu x1 (0 : Int32) M)
  else (F_X4_holds_158 fu x1 (1 : Int32) M))
  else (Option.bind (n_aI M 28 128 x1) fun v4 =>
  if v4 = (61 : Int32) then (if (Op.cmpValue (FP.dcmp x3 s0) .l) = 0 then (F_X4_holds_158 fu x1 (1 : Int32) M)
  else (F_X4_holds_158 fu x1 (0 : Int32) M))
  else (if (Op.cmpValue (FP.dcmp x3 s0) .l) ≤ 0 then (F_X4_holds_158 fu x1 (0 : Int32) M)
  else (F_X4_holds_158 fu x1 (1 : Int32) M)))
def F_X4_holds_61 (fu : Nat) (x1 : Int32) (s0 : UInt64) (M : gM) : gQ :=
  Option.bind (n_aI M 30 128 x1) fun v2 =>
  if v2 < 0 then (Option.bind (n_aD M 32 128 x1) fun v4 =>
  F_X4_holds_91 fu x1 s0 v4 M)
  else (Option.bind (n_aI M 30 128 x1) fun v7 =>
  Option.bind (n_aD M 42 6 v7) fun v8 =>
  F_X4_holds_91 fu x1 s0 v8 M)
def F_X4_holds (fu : Nat) (x1 : Int32) (M : gM) : gQ :=
  Option.bind (n_aI M 27 128 x1) fun v2 =>
  if v2 < 0 then (Option.bind (n_aI M 29 128 x1) fun v4 =>
  if v4 < 0 then (Option.bind (n_aD M 31 128 x1) fun v6 =>
  F_X4_holds_61 fu x1 v6 M)
  else (Option.bind (n_aI M 29 128 x1) fun v9 =>
  Option.bind (n_aD M 42 6 v9) fun v10 =>
  F_X4_holds_61 fu x1 v10 M))
  else (Option.bind (n_aI M 27 128 x1) fun v14 =>
  Option.bind (n_aI M 23 128 v14) fun v15 =>
  gz_cI (F_X4_isIn fu (n_I M 41 0) v15 M) fun v16 M16 =>
  F_X4_holds_158 fu x1 v16 M16)
def F_X4_enabled_19 (fu : Nat) : Nat → Int32 → Int32 → gM → gQ
  | 0, _, _, _ => none
  | n + 1, x1, x3, M => Option.bind (n_aI M 21 48 x1) fun v2 =>
  if v2 ≤ x3 then (if g_okZ (1 : Int32) = true then some (.returned (some (.int (1 : Int32))), M) else none)
  else (gz_cI (F_X4_holds fu x3 M) fun v3 M3 =>
  if v3 = 0 then (if g_okZ (0 : Int32) = true then some (.returned (some (.int (0 : Int32))), M3) else none)
  else (F_X4_enabled_19 fu n x1 (x3 + (1 : Int32)) M3))
def F_X4_enabled (fu : Nat) (x1 : Int32) (x2 : Int32) (M : gM) : gQ :=
  Option.bind (n_aI M 19 48 x1) fun v2 =>
  if v2 = x2 then (Option.bind (n_aI M 20 48 x1) fun v4 =>
  F_X4_enabled_19 fu fu x1 v4 M)
  else (if g_okZ (0 : Int32) = true then some (.returned (some (.int (0 : Int32))), M) else none)
def F_X4_firstOf_8 (fu : Nat) : Nat → Int32 → Int32 → Int32 → gM → gQ
  | 0, _, _, _, _ => none
  | n + 1, x1, x2, x3, M => Option.bind (n_aI M 10 2 (n_I M 7 0)) fun v4 =>
  if (((24 : Int32) * (n_I M 7 0)) + v4) ≤ x3 then (some (.returned (some (.int (-1 : Int32))), M))
  else (Option.bind (n_aI M 18 48 x3) fun v6 =>
  if v6 = x1 then (gz_cI (F_X4_enabled fu x3 x2 M) fun v7 M7 =>
  if v7 = 0 then (F_X4_firstOf_8 fu n x1 x2 (x3 + (1 : Int32)) M7)
  else (some (.returned (some (.int x3)), M7)))
  else (F_X4_firstOf_8 fu n x1 x2 (x3 + (1 : Int32)) M))
def F_X4_firstOf (fu : Nat) (x1 : Int32) (x2 : Int32) (M : gM) : gQ :=
  F_X4_firstOf_8 fu fu x1 x2 ((24 : Int32) * (n_I M 7 0)) M
def F_X4_stays_2 (fu : Nat) : Nat → Int32 → Int32 → gM → gQ
  | 0, _, _, _ => none
  | n + 1, x1, x2, M => if x1 ≤ x2 then (if g_okZ (1 : Int32) = true then some (.returned (some (.int (1 : Int32))), M) else none)
  else (Option.bind (n_aI M 59 24 x2) fun v2 =>
  Option.bind (n_aI M 59 24 x1) fun v4 =>
  if (v2 &&& v4) = 0 then (F_X4_stays_2 fu n x1 (x2 + (1 : Int32)) M)
  else (Option.bind (n_aI M 56 24 x2) fun v7 =>
  Option.bind (n_aI M 18 48 v7) fun v8 =>
  gz_cI (F_X4_belowOf fu v8 M) fun v9 M9 =>
  Option.bind (n_aI M9 56 24 x1) fun v12 =>
  Option.bind (n_aI M9 18 48 v12) fun v13 =>
  gz_cI (F_X4_isIn fu v9 v13 M9) fun v14 M14 =>
  if v14 = 0 then (if g_okZ (0 : Int32) = true then some (.returned (some (.int (0 : Int32))), M14) else none)
  else (F_X4_stays_2 fu n x1 (x2 + (1 : Int32)) M14)))
def F_X4_stays (fu : Nat) (x1 : Int32) (M : gM) : gQ :=
  F_X4_stays_2 fu fu x1 (0 : Int32) M
def F_X4_choose_213 (fu : Nat) (k185 : Int32 → gM → gQ) : Nat → Int32 → Int32 → gM → gQ
  | 0, _, _, _ => none
  | n + 1, x2, x3, M => if x3 < 0 then (k185 (x2 + (1 : Int32)) M)
  else (Option.bind (n_aI M 59 24 x3) fun v2 =>
  Option.bind (n_aI M 59 24 x2) fun v4 =>
  if (v2 &&& v4) = 0 then (F_X4_choose_213 fu k185 n x2 (x3 + (-1 : Int32)) M)
  else (gz_cV (F_X4_drop fu x3 M) fun M5 =>
  F_X4_choose_213 fu k185 n (x2 + (-1 : Int32)) (x3 + (-1 : Int32)) M5))
def F_X4_choose_185 (fu : Nat) : Nat → Int32 → gM → gQ
  | 0, _, _ => none
  | n + 1, x2, M => if (n_I M 55 0) ≤ x2 then (some (.returned none, M))
  else (gz_cI (F_X4_stays fu x2 M) fun v2 M2 =>
  if v2 = 0 then (gz_cV (F_X4_drop fu x2 M2) fun M3 =>
  F_X4_choose_185 fu n x2 M3)
  else (F_X4_choose_213 fu (F_X4_choose_185 fu n) fu x2 (x2 - (1 : Int32)) M2))
def F_X4_choose_164 (fu : Nat) : Nat → Int32 → gM → gQ
  | 0, _, _ => none
  | n + 1, x2, M => if (n_I M 55 0) ≤ x2 then (F_X4_choose_185 fu fu (0 : Int32) M)
  else (gz_cV (F_X4_aim fu x2 M) fun M2 =>
  F_X4_choose_164 fu n (x2 + (1 : Int32)) M2)
def F_X4_choose_90 (fu : Nat) (k7 : Int32 → Int32 → gM → gQ) : Nat → Int32 → Int32 → Int32 → Int32 → Int32 → gM → gQ
  | 0, _, _, _, _, _, _ => none
  | n + 1, x1, x2, x3, x4, x5, M => if (n_I M 55 0) ≤ x5 then (if x4 = 0 then (Option.bind (n_sI M 56 24 (n_I M 55 0) x3) fun M4 =>
  Option.bind (n_pIO M4 55 ((n_I M4 55 0) + (1 : Int32))) fun M6 =>
  k7 x1 (x2 + (1 : Int32)) M6)
  else (k7 x1 (x2 + (1 : Int32)) M))
  else (if x4 = 0 then (Option.bind (n_aI M 56 24 x5) fun v8 =>
  if v8 = x3 then (F_X4_choose_90 fu k7 n x1 x2 x3 (1 : Int32) (x5 + (1 : Int32)) M)
  else (F_X4_choose_90 fu k7 n x1 x2 x3 (0 : Int32) (x5 + (1 : Int32)) M))
  else (F_X4_choose_90 fu k7 n x1 x2 x3 (1 : Int32) (x5 + (1 : Int32)) M))
def F_X4_choose_76 (fu : Nat) (k7 : Int32 → Int32 → gM → gQ) (x1 : Int32) (x2 : Int32) (x3 : Int32) (M : gM) : gQ :=
  if 0 ≤ x3 then (F_X4_choose_90 fu k7 fu x1 x2 x3 (0 : Int32) (0 : Int32) M)
  else (F_X4_choose_90 fu k7 fu x1 x2 x3 (1 : Int32) (0 : Int32) M)
def F_X4_choose_48 (fu : Nat) (k7 : Int32 → Int32 → gM → gQ) : Nat → Int32 → Int32 → Int32 → Int32 → gM → gQ
  | 0, _, _, _, _, _ => none
  | n + 1, x1, x2, x3, x4, M => if x4 < 0 then (F_X4_choose_76 fu k7 x1 x2 x3 M)
  else (if 0 ≤ x3 then (F_X4_choose_76 fu k7 x1 x2 x3 M)
  else (gz_cI (F_X4_firstOf fu x4 x1 M) fun v1 M1 =>
  gz_cI (F_X4_outerOf fu x4 M1) fun v2 M2 =>
  F_X4_choose_48 fu k7 n x1 x2 v1 v2 M2))
def F_X4_choose_7 (fu : Nat) : Nat → Int32 → Int32 → gM → gQ
  | 0, _, _, _ => none
  | n + 1, x1, x2, M => Option.bind (n_aI M 9 2 (n_I M 7 0)) fun v3 =>
  if v3 ≤ x2 then (F_X4_choose_164 fu fu (0 : Int32) M)
  else (gz_cI (F_X4_kindOf fu x2 M) fun v4 M4 =>
  if v4 = 0 then (gz_cI (F_X4_isIn fu (n_I M4 41 0) x2 M4) fun v6 M6 =>
  if v6 = 0 then (F_X4_choose_7 fu n x1 (x2 + (1 : Int32)) M6)
  else (F_X4_choose_48 fu (F_X4_choose_7 fu n) fu x1 x2 (-1 : Int32) x2 M6))
  else (F_X4_choose_7 fu n x1 (x2 + (1 : Int32)) M4))
def F_X4_choose (fu : Nat) (x1 : Int32) (M : gM) : gQ :=
  Option.bind (n_pIO M 55 (0 : Int32)) fun M1 =>
  F_X4_choose_7 fu fu x1 (0 : Int32) M1
def F_X4_down_136 (fu : Nat) (k9 : Int32 → gM → gQ) (k76 : Int32 → Int32 → Int32 → Int32 → gM → gQ) (x2 : Int32) (x3 : Int32) (x5 : Int32) (M : gM) : gQ :=
  Option.bind (n_sI M 61 20 x2 x5) fun M2 =>
  k76 (x2 + (1 : Int32)) x3 (0 : Int32) (x5 + (1 : Int32)) M2
def F_X4_down_76 (fu : Nat) (k9 : Int32 → gM → gQ) : Nat → Int32 → Int32 → Int32 → Int32 → gM → gQ
  | 0, _, _, _, _, _ => none
  | n + 1, x2, x3, x4, x5, M => Option.bind (n_aI M 9 2 (n_I M 7 0)) fun v3 =>
  if v3 ≤ x5 then (k9 x2 M)
  else (gz_cI (F_X4_outerOf fu x5 M) fun v4 M4 =>
  if v4 = x3 then (gz_cI (F_X4_belowOf fu x5 M4) fun v6 M6 =>
  if ((n_I M4 60 0) &&& (v6 ||| ((1 : Int32) <<< (x5 &&& 31)))) = 0 then (gz_cI (F_X4_kindOf fu x3 M6) fun v7 M7 =>
  if v7 = (1 : Int32) then (if x4 = 0 then (F_X4_down_76 fu k9 n x2 x3 x4 (x5 + (1 : Int32)) M7)
  else (F_X4_down_136 fu k9 (F_X4_down_76 fu k9 n) x2 x3 x5 M7))
  else (F_X4_down_136 fu k9 (F_X4_down_76 fu k9 n) x2 x3 x5 M7))
  else (F_X4_down_76 fu k9 n x2 x3 x4 (x5 + (1 : Int32)) M6))
  else (F_X4_down_76 fu k9 n x2 x3 x4 (x5 + (1 : Int32)) M4))
def F_X4_down_9 (fu : Nat) : Nat → Int32 → gM → gQ
  | 0, _, _ => none
  | n + 1, x2, M => if x2 ≤ 0 then (some (.returned none, M))
  else (Option.bind (n_aI M 61 20 (x2 + (-1 : Int32))) fun v2 =>
  Option.bind (n_pIO M 60 ((n_I M 60 0) ||| ((1 : Int32) <<< (v2 &&& 31)))) fun M4 =>
  gz_cI (F_X4_kindOf fu v2 M4) fun v5 M5 =>
  if v5 = 0 then (F_X4_down_9 fu n (x2 + (-1 : Int32)) M5)
  else (gz_cI (F_X4_kindOf fu v2 M5) fun v6 M6 =>
  if v6 = (1 : Int32) then (gz_cI (F_X4_belowOf fu v2 M6) fun v8 M8 =>
  if ((n_I M6 60 0) &&& v8) = 0 then (F_X4_down_76 fu (F_X4_down_9 fu n) fu (x2 + (-1 : Int32)) v2 (1 : Int32) (v2 + (1 : Int32)) M8)
  else (F_X4_down_9 fu n (x2 + (-1 : Int32)) M8))
  else (F_X4_down_76 fu (F_X4_down_9 fu n) fu (x2 + (-1 : Int32)) v2 (1 : Int32) (v2 + (1 : Int32)) M6)))
def F_X4_down (fu : Nat) (x1 : Int32) (M : gM) : gQ :=
  Option.bind (n_sI M 61 20 (0 : Int32) x1) fun M2 =>
  F_X4_down_9 fu fu (1 : Int32) M2
def F_X4_note (fu : Nat) (x1 : Int32) (M : gM) : gQ :=
  if (n_I M 53 0) = (100 : Int32) then (some (.returned none, M))
  else (Option.bind (n_sI M 54 100 (n_I M 53 0) x1) fun M4 =>
  Option.bind (n_pIO M4 53 ((n_I M4 53 0) + (1 : Int32))) fun M6 =>
  some (.returned none, M6))
def F_X4_enter_2 (fu : Nat) : Nat → Int32 → Int32 → gM → gQ
  | 0, _, _, _ => none
  | n + 1, x1, x2, M => Option.bind (n_aI M 9 2 (n_I M 7 0)) fun v3 =>
  if v3 ≤ x2 then (some (.returned none, M))
  else (gz_cI (F_X4_isIn fu x1 x2 M) fun v4 M4 =>
  if v4 = 0 then (F_X4_enter_2 fu n x1 (x2 + (1 : Int32)) M4)
  else (Option.bind (n_pIO M4 41 ((n_I M4 41 0) ||| ((1 : Int32) <<< (x2 &&& 31)))) fun M6 =>
  gz_cV (F_X4_note fu ((1 : Int32) + x2) M6) fun M7 =>
  gz_cV (F_X4_act fu ((100 : Int32) + x2) M7) fun M8 =>
  F_X4_enter_2 fu n x1 (x2 + (1 : Int32)) M8))
def F_X4_enter (fu : Nat) (x1 : Int32) (M : gM) : gQ :=
  F_X4_enter_2 fu fu x1 (0 : Int32) M
def F_X4_leave_152 (fu : Nat) : Nat → Int32 → Int32 → gM → gQ
  | 0, _, _, _ => none
  | n + 1, x1, x2, M => if x2 < 0 then (some (.returned none, M))
  else (gz_cI (F_X4_isIn fu x1 x2 M) fun v1 M1 =>
  if v1 = 0 then (F_X4_leave_152 fu n x1 (x2 + (-1 : Int32)) M1)
  else (gz_cV (F_X4_act fu ((200 : Int32) + x2) M1) fun M2 =>
  Option.bind (n_pIO M2 41 ((n_I M2 41 0) &&& (((1 : Int32) <<< (x2 &&& 31)) ^^^ (-1 : Int32)))) fun M4 =>
  gz_cV (F_X4_note fu ((-1 : Int32) - x2) M4) fun M5 =>
  F_X4_leave_152 fu n x1 (x2 + (-1 : Int32)) M5))
def F_X4_leave_108 (fu : Nat) (k2 : Int32 → Int32 → gM → gQ) (k53 : Int32 → Int32 → Int32 → gM → gQ) (x1 : Int32) (x2 : Int32) (x3 : Int32) (M : gM) : gQ :=
  gz_cI (F_X4_kindOf fu x3 M) fun v1 M1 =>
  if v1 = 0 then (Option.bind (n_aI M1 44 16 x2) fun v3 =>
  Option.bind (n_sI M1 44 16 x2 (v3 ||| ((1 : Int32) <<< (x3 &&& 31)))) fun M4 =>
  k53 x1 x2 (x3 + (1 : Int32)) M4)
  else (k53 x1 x2 (x3 + (1 : Int32)) M1)
def F_X4_leave_53 (fu : Nat) (k2 : Int32 → Int32 → gM → gQ) : Nat → Int32 → Int32 → Int32 → gM → gQ
  | 0, _, _, _, _ => none
  | n + 1, x1, x2, x3, M => Option.bind (n_aI M 9 2 (n_I M 7 0)) fun v3 =>
  if v3 ≤ x3 then (k2 x1 (x2 + (1 : Int32)) M)
  else (gz_cI (F_X4_belowOf fu x2 M) fun v5 M5 =>
  gz_cI (F_X4_isIn fu ((n_I M 41 0) &&& v5) x3 M5) fun v6 M6 =>
  if v6 = 0 then (F_X4_leave_53 fu k2 n x1 x2 (x3 + (1 : Int32)) M6)
  else (gz_cI (F_X4_outerOf fu x3 M6) fun v7 M7 =>
  if v7 = x2 then (Option.bind (n_aI M7 43 16 x2) fun v9 =>
  Option.bind (n_sI M7 43 16 x2 (v9 ||| ((1 : Int32) <<< (x3 &&& 31)))) fun M10 =>
  F_X4_leave_108 fu k2 (F_X4_leave_53 fu k2 n) x1 x2 x3 M10)
  else (F_X4_leave_108 fu k2 (F_X4_leave_53 fu k2 n) x1 x2 x3 M7)))
def F_X4_leave_2 (fu : Nat) : Nat → Int32 → Int32 → gM → gQ
  | 0, _, _, _ => none
  | n + 1, x1, x2, M => Option.bind (n_aI M 9 2 (n_I M 7 0)) fun v3 =>
  if v3 ≤ x2 then (Option.bind (n_aI M 9 2 (n_I M 7 0)) fun v6 =>
  F_X4_leave_152 fu fu x1 (v6 - (1 : Int32)) M)
  else (gz_cI (F_X4_isIn fu x1 x2 M) fun v7 M7 =>
  if v7 = 0 then (F_X4_leave_2 fu n x1 (x2 + (1 : Int32)) M7)
  else (gz_cI (F_X4_kindOf fu x2 M7) fun v8 M8 =>
  if v8 = 0 then (F_X4_leave_2 fu n x1 (x2 + (1 : Int32)) M8)
  else (Option.bind (n_sI M8 43 16 x2 (0 : Int32)) fun M10 =>
  Option.bind (n_sI M10 44 16 x2 (0 : Int32)) fun M12 =>
  F_X4_leave_53 fu (F_X4_leave_2 fu n) fu x1 x2 (x2 + (1 : Int32)) M12)))
def F_X4_leave (fu : Nat) (x1 : Int32) (M : gM) : gQ :=
  F_X4_leave_2 fu fu x1 (0 : Int32) M
def F_X4_up_99 (fu : Nat) (k6 : Int32 → Int32 → gM → gQ) (x2 : Int32) (x3 : Int32) (M : gM) : gQ :=
  gz_cI (F_X4_outerOf fu x3 M) fun v1 M1 =>
  k6 x2 v1 M1
def F_X4_up_44 (fu : Nat) (k6 : Int32 → Int32 → gM → gQ) : Nat → Int32 → Int32 → Int32 → gM → gQ
  | 0, _, _, _, _ => none
  | n + 1, x2, x3, x4, M => Option.bind (n_aI M 9 2 (n_I M 7 0)) fun v3 =>
  if v3 ≤ x4 then (F_X4_up_99 fu k6 x2 x3 M)
  else (gz_cI (F_X4_outerOf fu x4 M) fun v4 M4 =>
  if v4 = x3 then (gz_cI (F_X4_belowOf fu x4 M4) fun v6 M6 =>
  if ((n_I M4 60 0) &&& (v6 ||| ((1 : Int32) <<< (x4 &&& 31)))) = 0 then (gz_cV (F_X4_down fu x4 M6) fun M7 =>
  F_X4_up_44 fu k6 n x2 x3 (x4 + (1 : Int32)) M7)
  else (F_X4_up_44 fu k6 n x2 x3 (x4 + (1 : Int32)) M6))
  else (F_X4_up_44 fu k6 n x2 x3 (x4 + (1 : Int32)) M4))
def F_X4_up_6 (fu : Nat) : Nat → Int32 → Int32 → gM → gQ
  | 0, _, _, _ => none
  | n + 1, x2, x3, M => if x3 < 0 then (some (.returned none, M))
  else (if x3 = x2 then (some (.returned none, M))
  else (Option.bind (n_pIO M 60 ((n_I M 60 0) ||| ((1 : Int32) <<< (x3 &&& 31)))) fun M2 =>
  gz_cI (F_X4_kindOf fu x3 M2) fun v3 M3 =>
  if v3 = (2 : Int32) then (F_X4_up_44 fu (F_X4_up_6 fu n) fu x2 x3 (x3 + (1 : Int32)) M3)
  else (F_X4_up_99 fu (F_X4_up_6 fu n) x2 x3 M3)))
def F_X4_up (fu : Nat) (x1 : Int32) (x2 : Int32) (M : gM) : gQ :=
  gz_cI (F_X4_outerOf fu x1 M) fun v1 M1 =>
  F_X4_up_6 fu fu x2 v1 M1
def F_X4_step_133 (fu : Nat) (k108 : Int32 → gM → gQ) : Nat → Int32 → Int32 → gM → gQ
  | 0, _, _, _ => none
  | n + 1, x2, x3, M => Option.bind (n_aI M 9 2 (n_I M 7 0)) fun v3 =>
  if v3 ≤ x3 then (k108 (x2 + (1 : Int32)) M)
  else (Option.bind (n_aI M 57 24 x2) fun v5 =>
  gz_cI (F_X4_isIn fu v5 x3 M) fun v6 M6 =>
  if v6 = 0 then (F_X4_step_133 fu k108 n x2 (x3 + (1 : Int32)) M6)
  else (gz_cV (F_X4_down fu x3 M6) fun M7 =>
  Option.bind (n_aI M7 58 24 x2) fun v9 =>
  gz_cV (F_X4_up fu x3 v9 M7) fun M10 =>
  F_X4_step_133 fu k108 n x2 (x3 + (1 : Int32)) M10))
def F_X4_step_108 (fu : Nat) : Nat → Int32 → gM → gQ
  | 0, _, _ => none
  | n + 1, x2, M => if (n_I M 55 0) ≤ x2 then (gz_cV (F_X4_enter fu (n_I M 60 0) M) fun M3 =>
  some (.returned none, M3))
  else (Option.bind (n_aI M 57 24 x2) fun v6 =>
  Option.bind (n_pIO M 60 ((n_I M 60 0) ||| v6)) fun M7 =>
  F_X4_step_133 fu (F_X4_step_108 fu n) fu x2 (0 : Int32) M7)
def F_X4_step_69 (fu : Nat) : Nat → Int32 → gM → gQ
  | 0, _, _ => none
  | n + 1, x2, M => if (n_I M 55 0) ≤ x2 then (Option.bind (n_pIO M 60 (0 : Int32)) fun M2 =>
  F_X4_step_108 fu fu (0 : Int32) M2)
  else (Option.bind (n_aI M 56 24 x2) fun v4 =>
  gz_cV (F_X4_act fu (v4 - ((24 : Int32) * (n_I M 7 0))) M) fun M6 =>
  F_X4_step_69 fu n (x2 + (1 : Int32)) M6)
def F_X4_step_39 (fu : Nat) : Nat → Int32 → Int32 → gM → gQ
  | 0, _, _, _ => none
  | n + 1, x1, x2, M => if (n_I M 55 0) ≤ x2 then (gz_cV (F_X4_leave fu x1 M) fun M2 =>
  F_X4_step_69 fu fu (0 : Int32) M2)
  else (Option.bind (n_aI M 59 24 x2) fun v4 =>
  F_X4_step_39 fu n (x1 ||| v4) (x2 + (1 : Int32)) M)
def F_X4_step (fu : Nat)  (M : gM) : gQ :=
  if (n_I M 51 0) = (30 : Int32) then (Option.bind (n_pZO M 52 (1 : Int32)) fun M4 =>
  Option.bind (n_pZO M4 40 (0 : Int32)) fun M5 =>
  Option.bind (n_pIO M5 41 (0 : Int32)) fun M6 =>
  some (.returned none, M6))
  else (Option.bind (n_pIO M 51 ((n_I M 51 0) + (1 : Int32))) fun M3 =>
  F_X4_step_39 fu fu (0 : Int32) (0 : Int32) M3)
def F_X4_runOn_113 (fu : Nat) (k13 : Int32 → gM → gQ) (x1 : Int32) (M : gM) : gQ :=
  if x1 = 0 then (k13 (0 : Int32) M)
  else (if (n_I M 52 0) = 0 then (k13 (1 : Int32) M)
  else (k13 (0 : Int32) M))
def F_X4_runOn_104 (fu : Nat) (k13 : Int32 → gM → gQ) (s0 : Int32) (M : gM) : gQ :=
  if s0 = 0 then (F_X4_runOn_113 fu k13 s0 M)
  else (gz_cV (F_X4_step fu  M) fun M1 =>
  F_X4_runOn_113 fu k13 s0 M1)
def F_X4_runOn_92 (fu : Nat) (k13 : Int32 → gM → gQ)  (M : gM) : gQ :=
  if (n_I M 55 0) ≤ 0 then (F_X4_runOn_104 fu k13 (0 : Int32) M)
  else (F_X4_runOn_104 fu k13 (1 : Int32) M)
def F_X4_runOn_56 (fu : Nat) (k13 : Int32 → gM → gQ) (k23 : gM → gQ) : Nat → Int32 → Int32 → gM → gQ
  | 0, _, _, _ => none
  | n + 1, x2, x3, M => if (n_I M 45 0) ≤ x3 then (gz_cV (F_X4_choose fu x2 M) fun M2 =>
  k23  M2)
  else (Option.bind (n_aI M 46 10 (x3 + (1 : Int32))) fun v5 =>
  Option.bind (n_sI M 46 10 x3 v5) fun M6 =>
  F_X4_runOn_56 fu k13 k23 n x2 (x3 + (1 : Int32)) M6)
def F_X4_runOn_23 (fu : Nat) (k13 : Int32 → gM → gQ) : Nat → gM → gQ
  | 0, _ => none
  | n + 1, M => if (n_I M 55 0) = 0 then (if (n_I M 45 0) ≤ 0 then (F_X4_runOn_92 fu k13  M)
  else (Option.bind (n_aI M 46 10 (0 : Int32)) fun v4 =>
  Option.bind (n_pIO M 45 ((n_I M 45 0) - (1 : Int32))) fun M6 =>
  F_X4_runOn_56 fu k13 (F_X4_runOn_23 fu k13 n) fu v4 (0 : Int32) M6))
  else (F_X4_runOn_92 fu k13  M)
def F_X4_runOn_13 (fu : Nat) : Nat → Int32 → gM → gQ
  | 0, _, _ => none
  | n + 1, x1, M => if x1 = 0 then (some (.returned none, M))
  else (gz_cV (F_X4_choose fu (46 : Int32) M) fun M1 =>
  F_X4_runOn_23 fu (F_X4_runOn_13 fu n) fu  M1)
def F_X4_runOn (fu : Nat)  (M : gM) : gQ :=
  if (n_I M 52 0) = 0 then (F_X4_runOn_13 fu fu (1 : Int32) M)
  else (F_X4_runOn_13 fu fu (0 : Int32) M)
def F_X4_come_16 (fu : Nat)  (M : gM) : gQ :=
  gz_cV (F_X4_runOn fu  M) fun M1 =>
  some (.returned none, M1)
def F_X4_come (fu : Nat) (x1 : Int32) (M : gM) : gQ :=
  gz_cV (F_X4_choose fu x1 M) fun M1 =>
  if (n_I M1 55 0) ≤ 0 then (F_X4_come_16 fu  M1)
  else (gz_cV (F_X4_step fu  M1) fun M3 =>
  F_X4_come_16 fu  M3)
def F_X4_open (fu : Nat)  (M : gM) : gQ :=
  Option.bind (n_pIO M 51 (0 : Int32)) fun M1 =>
  Option.bind (n_pIO M1 53 (0 : Int32)) fun M2 =>
  Option.bind (n_pZO M2 52 (0 : Int32)) fun M3 =>
  some (.returned none, M3)
def F_X4_event_29 (fu : Nat) (x1 : Int32) (s0 : Int32) (M : gM) : gQ :=
  Option.bind (n_pIO M 0 s0) fun M1 =>
  if (n_I M1 0 0) = 0 then (gz_cV (F_X4_open fu  M1) fun M3 =>
  gz_cV (F_X4_come fu x1 M3) fun M4 =>
  gz_cI (F_X4_answer fu (3 : Int32) M4) fun v5 M5 =>
  some (.returned (some (.int v5)), M5))
  else (some (.returned (some (.int (0 : Int32))), M1))
def F_X4_event (fu : Nat) (x1 : Int32) (M : gM) : gQ :=
  if x1 < (65 : Int32) then (F_X4_event_29 fu x1 (1 : Int32) M)
  else (if x1 ≤ (72 : Int32) then (if (n_I M 40 0) = 0 then (F_X4_event_29 fu x1 (2 : Int32) M)
  else (F_X4_event_29 fu x1 (0 : Int32) M))
  else (F_X4_event_29 fu x1 (1 : Int32) M))
def F_X4_history (fu : Nat) (x1 : Int32) (x2 : Int32) (M : gM) : gQ :=
  Option.bind (n_pIO M 0 (0 : Int32)) fun M1 =>
  gz_cI (F_X4_stateOf fu x1 M1) fun v2 M2 =>
  if 0 ≤ v2 then (if x2 = 0 then (Option.bind (n_aI M2 43 16 v2) fun v4 =>
  some (.returned (some (.int v4)), M2))
  else (Option.bind (n_aI M2 44 16 v2) fun v6 =>
  some (.returned (some (.int v6)), M2)))
  else (some (.returned (some (.int (0 : Int32))), M2))
def F_X4_init (fu : Nat) (x0 : Option Nat) (S : gm_S) : gR :=
  gz_q (g_at S x0 4) (
  Option.bind (g_newa S 1 (160 : Int32)) fun q2 =>
  Option.bind (g_pR q2.2 x0 4 3 (some q2.1)) fun S3 =>
  Option.bind (g_pI S3 x0 4 6 (-1 : Int32)) fun S4 =>
  Option.bind (g_pI S4 x0 4 7 (-1 : Int32)) fun S5 =>
  Option.bind (g_newa S5 0 (2 : Int32)) fun q6 =>
  Option.bind (g_pR q6.2 x0 4 9 (some q6.1)) fun S7 =>
  Option.bind (g_newa S7 0 (2 : Int32)) fun q8 =>
  Option.bind (g_pR q8.2 x0 4 10 (some q8.1)) fun S9 =>
  Option.bind (g_newa S9 0 (2 : Int32)) fun q10 =>
  Option.bind (g_pR q10.2 x0 4 11 (some q10.1)) fun S11 =>
  Option.bind (g_newa S11 0 (2 : Int32)) fun q12 =>
  Option.bind (g_pR q12.2 x0 4 12 (some q12.1)) fun S13 =>
  Option.bind (g_newa S13 0 (2 : Int32)) fun q14 =>
  Option.bind (g_pR q14.2 x0 4 13 (some q14.1)) fun S15 =>
  Option.bind (g_newa S15 0 (32 : Int32)) fun q16 =>
  Option.bind (g_pR q16.2 x0 4 14 (some q16.1)) fun S17 =>
  Option.bind (g_newa S17 0 (32 : Int32)) fun q18 =>
  Option.bind (g_pR q18.2 x0 4 15 (some q18.1)) fun S19 =>
  Option.bind (g_newa S19 0 (32 : Int32)) fun q20 =>
  Option.bind (g_pR q20.2 x0 4 16 (some q20.1)) fun S21 =>
  Option.bind (g_newa S21 0 (32 : Int32)) fun q22 =>
  Option.bind (g_pR q22.2 x0 4 17 (some q22.1)) fun S23 =>
  Option.bind (g_newa S23 0 (48 : Int32)) fun q24 =>
  Option.bind (g_pR q24.2 x0 4 18 (some q24.1)) fun S25 =>
  Option.bind (g_newa S25 0 (48 : Int32)) fun q26 =>
  Option.bind (g_pR q26.2 x0 4 19 (some q26.1)) fun S27 =>
  Option.bind (g_newa S27 0 (48 : Int32)) fun q28 =>
  Option.bind (g_pR q28.2 x0 4 20 (some q28.1)) fun S29 =>
  Option.bind (g_newa S29 0 (48 : Int32)) fun q30 =>
  Option.bind (g_pR q30.2 x0 4 21 (some q30.1)) fun S31 =>
  Option.bind (g_newa S31 0 (48 : Int32)) fun q32 =>
  Option.bind (g_pR q32.2 x0 4 22 (some q32.1)) fun S33 =>
  Option.bind (g_newa S33 0 (128 : Int32)) fun q34 =>
  Option.bind (g_pR q34.2 x0 4 23 (some q34.1)) fun S35 =>
  Option.bind (g_newa S35 0 (128 : Int32)) fun q36 =>
  Option.bind (g_pR q36.2 x0 4 24 (some q36.1)) fun S37 =>
  Option.bind (g_newa S37 0 (128 : Int32)) fun q38 =>
  Option.bind (g_pR q38.2 x0 4 25 (some q38.1)) fun S39 =>
  Option.bind (g_newa S39 3 (128 : Int32)) fun q40 =>
  Option.bind (g_pR q40.2 x0 4 26 (some q40.1)) fun S41 =>
  Option.bind (g_newa S41 0 (128 : Int32)) fun q42 =>
  Option.bind (g_pR q42.2 x0 4 27 (some q42.1)) fun S43 =>
  Option.bind (g_newa S43 0 (128 : Int32)) fun q44 =>
  Option.bind (g_pR q44.2 x0 4 28 (some q44.1)) fun S45 =>
  Option.bind (g_newa S45 0 (128 : Int32)) fun q46 =>
  Option.bind (g_pR q46.2 x0 4 29 (some q46.1)) fun S47 =>
  Option.bind (g_newa S47 0 (128 : Int32)) fun q48 =>
  Option.bind (g_pR q48.2 x0 4 30 (some q48.1)) fun S49 =>
  Option.bind (g_newa S49 2 (128 : Int32)) fun q50 =>
  Option.bind (g_pR q50.2 x0 4 31 (some q50.1)) fun S51 =>
  Option.bind (g_newa S51 2 (128 : Int32)) fun q52 =>
  Option.bind (g_pR q52.2 x0 4 32 (some q52.1)) fun S53 =>
  Option.bind (g_newa S53 0 (96 : Int32)) fun q54 =>
  Option.bind (g_pR q54.2 x0 4 33 (some q54.1)) fun S55 =>
  Option.bind (g_newa S55 0 (96 : Int32)) fun q56 =>
  Option.bind (g_pR q56.2 x0 4 34 (some q56.1)) fun S57 =>
  Option.bind (g_newa S57 0 (96 : Int32)) fun q58 =>
  Option.bind (g_pR q58.2 x0 4 35 (some q58.1)) fun S59 =>
  Option.bind (g_newa S59 0 (96 : Int32)) fun q60 =>
  Option.bind (g_pR q60.2 x0 4 36 (some q60.1)) fun S61 =>
  Option.bind (g_newa S61 2 (96 : Int32)) fun q62 =>
  Option.bind (g_pR q62.2 x0 4 37 (some q62.1)) fun S63 =>
  Option.bind (g_newa S63 2 (6 : Int32)) fun q64 =>
  Option.bind (g_pR q64.2 x0 4 42 (some q64.1)) fun S65 =>
  Option.bind (g_newa S65 0 (16 : Int32)) fun q66 =>
  Option.bind (g_pR q66.2 x0 4 43 (some q66.1)) fun S67 =>
  Option.bind (g_newa S67 0 (16 : Int32)) fun q68 =>
  Option.bind (g_pR q68.2 x0 4 44 (some q68.1)) fun S69 =>
  Option.bind (g_newa S69 0 (10 : Int32)) fun q70 =>
  Option.bind (g_pR q70.2 x0 4 46 (some q70.1)) fun S71 =>
  Option.bind (g_newa S71 0 (8 : Int32)) fun q72 =>
  Option.bind (g_pR q72.2 x0 4 48 (some q72.1)) fun S73 =>
  Option.bind (g_newa S73 0 (8 : Int32)) fun q74 =>
  Option.bind (g_pR q74.2 x0 4 49 (some q74.1)) fun S75 =>
  Option.bind (g_newa S75 0 (100 : Int32)) fun q76 =>
  Option.bind (g_pR q76.2 x0 4 54 (some q76.1)) fun S77 =>
  Option.bind (g_newa S77 0 (24 : Int32)) fun q78 =>
  Option.bind (g_pR q78.2 x0 4 56 (some q78.1)) fun S79 =>
  Option.bind (g_newa S79 0 (24 : Int32)) fun q80 =>
  Option.bind (g_pR q80.2 x0 4 57 (some q80.1)) fun S81 =>
  Option.bind (g_newa S81 0 (24 : Int32)) fun q82 =>
  Option.bind (g_pR q82.2 x0 4 58 (some q82.1)) fun S83 =>
  Option.bind (g_newa S83 0 (24 : Int32)) fun q84 =>
  Option.bind (g_pR q84.2 x0 4 59 (some q84.1)) fun S85 =>
  Option.bind (g_newa S85 0 (20 : Int32)) fun q86 =>
  Option.bind (g_pR q86.2 x0 4 61 (some q86.1)) fun S87 =>
  some (.returned none, S87))
def F_X4_oneTick_71 (fu : Nat) (k19 : Int32 → Int32 → Int32 → gM → gQ) : Nat → Int32 → Int32 → Int32 → Int32 → Int32 → gM → gQ
  | 0, _, _, _, _, _, _ => none
  | n + 1, x1, x2, x3, x4, x5, M => if (n_I M 47 0) ≤ x5 then (gz_cV (F_X4_come fu x4 M) fun M2 =>
  k19 x1 x2 (x3 + (1 : Int32)) M2)
  else (Option.bind (n_aI M 48 8 (x5 + (1 : Int32))) fun v5 =>
  Option.bind (n_sI M 48 8 x5 v5) fun M6 =>
  Option.bind (n_aI M6 49 8 (x5 + (1 : Int32))) fun v9 =>
  Option.bind (n_sI M6 49 8 x5 v9) fun M10 =>
  F_X4_oneTick_71 fu k19 n x1 x2 x3 x4 (x5 + (1 : Int32)) M10)
def F_X4_oneTick_19 (fu : Nat) : Nat → Int32 → Int32 → Int32 → gM → gQ
  | 0, _, _, _, _ => none
  | n + 1, x1, x2, x3, M => if x1 ≤ x3 then (some (.returned none, M))
  else (if (n_I M 52 0) = 0 then (Option.bind (n_aI M 49 8 x2) fun v3 =>
  if v3 ≤ (n_I M 50 0) then (Option.bind (n_aI M 48 8 x2) fun v6 =>
  Option.bind (n_pIO M 47 ((n_I M 47 0) - (1 : Int32))) fun M8 =>
  F_X4_oneTick_71 fu (F_X4_oneTick_19 fu n) fu x1 x2 x3 v6 x2 M8)
  else (F_X4_oneTick_19 fu n x1 (x2 + (1 : Int32)) (x3 + (1 : Int32)) M))
  else (some (.returned none, M)))
def F_X4_oneTick (fu : Nat)  (M : gM) : gQ :=
  Option.bind (n_pIO M 50 ((n_I M 50 0) + (1 : Int32))) fun M2 =>
  F_X4_oneTick_19 fu fu (n_I M2 47 0) (0 : Int32) (0 : Int32) M2
def F_X4_place (fu : Nat)  (M : gM) : gQ :=
  Option.bind (n_pIO M 0 (0 : Int32)) fun M1 =>
  some (.returned (some (.int (n_I M1 6 0))), M1)
def F_X4_runs (fu : Nat)  (M : gM) : gQ :=
  Option.bind (n_pIO M 0 (0 : Int32)) fun M1 =>
  if g_okZ (n_I M1 40 0) = true then some (.returned (some (.int (n_I M1 40 0))), M1) else none
def F_X4_sent (fu : Nat)  (M : gM) : gQ :=
  Option.bind (n_pIO M 0 (0 : Int32)) fun M1 =>
  some (.returned (some (.int (n_I M1 47 0))), M1)
def F_X4_start_13 (fu : Nat) (s0 : Int32) (M : gM) : gQ :=
  Option.bind (n_pIO M 0 s0) fun M1 =>
  if 0 ≤ (n_I M1 7 0) then (gz_cV (F_X4_forget fu  M1) fun M3 =>
  Option.bind (n_pZO M3 40 (1 : Int32)) fun M4 =>
  Option.bind (n_pIO M4 41 (0 : Int32)) fun M5 =>
  gz_cV (F_X4_open fu  M5) fun M6 =>
  Option.bind (n_pIO M6 60 (0 : Int32)) fun M7 =>
  gz_cV (F_X4_down fu (0 : Int32) M7) fun M8 =>
  gz_cV (F_X4_enter fu (n_I M8 60 0) M8) fun M10 =>
  gz_cV (F_X4_runOn fu  M10) fun M11 =>
  gz_cI (F_X4_answer fu (2 : Int32) M11) fun v12 M12 =>
  some (.returned (some (.int v12)), M12))
  else (some (.returned (some (.int (0 : Int32))), M1))
def F_X4_start (fu : Nat)  (M : gM) : gQ :=
  if 0 ≤ (n_I M 7 0) then (F_X4_start_13 fu (0 : Int32) M)
  else (F_X4_start_13 fu (1 : Int32) M)
def F_X4_thrown (fu : Nat)  (M : gM) : gQ :=
  some (.returned (some (.int (n_I M 0 0))), M)
def F_X4_tick_67 (fu : Nat)  (M : gM) : gQ :=
  gz_cI (F_X4_answer fu (3 : Int32) M) fun v1 M1 =>
  some (.returned (some (.int v1)), M1)
def F_X4_tick_45 (fu : Nat) : Nat → Int32 → Int32 → gM → gQ
  | 0, _, _, _ => none
  | n + 1, x1, x2, M => if x1 ≤ x2 then (F_X4_tick_67 fu  M)
  else (if (n_I M 52 0) = 0 then (gz_cV (F_X4_oneTick fu  M) fun M2 =>
  F_X4_tick_45 fu n x1 (x2 + (1 : Int32)) M2)
  else (F_X4_tick_67 fu  M))
def F_X4_tick_27 (fu : Nat) (x1 : Int32) (s0 : Int32) (M : gM) : gQ :=
  Option.bind (n_pIO M 0 s0) fun M1 =>
  if (n_I M1 0 0) = 0 then (gz_cV (F_X4_open fu  M1) fun M3 =>
  F_X4_tick_45 fu fu x1 (0 : Int32) M3)
  else (some (.returned (some (.int (0 : Int32))), M1))
def F_X4_tick (fu : Nat) (x1 : Int32) (M : gM) : gQ :=
  if x1 < 0 then (F_X4_tick_27 fu x1 (1 : Int32) M)
  else (if x1 ≤ (20 : Int32) then (if (n_I M 40 0) = 0 then (F_X4_tick_27 fu x1 (2 : Int32) M)
  else (F_X4_tick_27 fu x1 (0 : Int32) M))
  else (F_X4_tick_27 fu x1 (1 : Int32) M))
def F_X4_trace (fu : Nat) (x1 : Int32) (M : gM) : gQ :=
  Option.bind (n_pIO M 0 (0 : Int32)) fun M1 =>
  if x1 < 0 then (some (.returned (some (.int (0 : Int32))), M1))
  else (if x1 < (n_I M1 53 0) then (Option.bind (n_aI M1 54 100 x1) fun v4 =>
  some (.returned (some (.int v4)), M1))
  else (some (.returned (some (.int (0 : Int32))), M1)))
def F_X4_type (fu : Nat) (x1 : Int32) (M : gM) : gQ :=
  Option.bind (n_pIO M 0 (0 : Int32)) fun M1 =>
  if x1 < (32 : Int32) then (if g_okZ (0 : Int32) = true then some (.returned (some (.int (0 : Int32))), M1) else none)
  else (if (126 : Int32) < x1 then (if g_okZ (0 : Int32) = true then some (.returned (some (.int (0 : Int32))), M1) else none)
  else (if (n_I M1 1 0) = (160 : Int32) then (if g_okZ (0 : Int32) = true then some (.returned (some (.int (0 : Int32))), M1) else none)
  else (Option.bind (n_pIO M1 1 ((n_I M1 1 0) + (1 : Int32))) fun M4 =>
  if x1 = (32 : Int32) then (if g_okZ (1 : Int32) = true then some (.returned (some (.int (1 : Int32))), M4) else none)
  else (Option.bind (n_sC M4 3 160 (n_I M4 2 0) x1) fun M7 =>
  Option.bind (n_pIO M7 2 ((n_I M7 2 0) + (1 : Int32))) fun M9 =>
  if g_okZ (1 : Int32) = true then some (.returned (some (.int (1 : Int32))), M9) else none))))
def F_X4_variable (fu : Nat) (x1 : Int32) (M : gM) : gQ :=
  Option.bind (n_pIO M 0 (0 : Int32)) fun M1 =>
  if x1 < (117 : Int32) then (some (.returned (some (.double FP.dconst0)), M1))
  else (if x1 ≤ (122 : Int32) then (Option.bind (n_aD M1 42 6 (x1 - (117 : Int32))) fun v3 =>
  some (.returned (some (.double v3)), M1))
  else (some (.returned (some (.double FP.dconst0)), M1)))
