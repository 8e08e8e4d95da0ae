/-! LAYER 2: rows of longs stay: every function of the component (printed by gen3.py) -/
set_option maxRecDepth 100000
section HPB
theorem P_X2_look (fu : Nat) (x0 : Option Nat)  : hp (F_X2_look fu x0) := by
  show hp (fun S => F_X2_look fu x0 S)
  unfold F_X2_look
  repeat' (first | exact hp_none | exact hp_ret | refine hp_q ?_ | refine hp_cV ?_ (fun _ => ?_) | refine hp_cI ?_ (fun _ _ => ?_) | refine hp_cR ?_ (fun _ _ => ?_) | refine hp_cD ?_ (fun _ _ => ?_) | refine hp_tI ?_ (fun _ _ => ?_) (fun _ _ => ?_) | refine hp_tR ?_ (fun _ _ => ?_) (fun _ _ => ?_) | refine hp_ite ?_ ?_ | refine hp_bput ?_ (fun _ => ?_) | refine hp_bpair hq_new (fun _ _ => ?_) | refine hp_bpair hq_lrem (fun _ _ => ?_) | refine hp_bind (fun _ => ?_) | exact hq_pI (by decide) | exact hq_pZ (by decide) | exact hq_pC (by decide) | exact hq_pR (by decide) | exact hq_pD (by decide) | exact hq_sI | exact hq_sC | exact hq_sD | exact hq_lclr | exact hq_lnew | exact hq_ladd | dsimp only)
theorem P_X2_isAmong (fu : Nat) (x0 : Option Nat) (x1 : Int32) (x2 : Int32)  : hp (F_X2_isAmong fu x0 x1 x2) := by
  show hp (fun S => F_X2_isAmong fu x0 x1 x2 S)
  unfold F_X2_isAmong
  repeat' (first | apply P_X2_look | exact hp_none | exact hp_ret | refine hp_q ?_ | refine hp_cV ?_ (fun _ => ?_) | refine hp_cI ?_ (fun _ _ => ?_) | refine hp_cR ?_ (fun _ _ => ?_) | refine hp_cD ?_ (fun _ _ => ?_) | refine hp_tI ?_ (fun _ _ => ?_) (fun _ _ => ?_) | refine hp_tR ?_ (fun _ _ => ?_) (fun _ _ => ?_) | refine hp_ite ?_ ?_ | refine hp_bput ?_ (fun _ => ?_) | refine hp_bpair hq_new (fun _ _ => ?_) | refine hp_bpair hq_lrem (fun _ _ => ?_) | refine hp_bind (fun _ => ?_) | exact hq_pI (by decide) | exact hq_pZ (by decide) | exact hq_pC (by decide) | exact hq_pR (by decide) | exact hq_pD (by decide) | exact hq_sI | exact hq_sC | exact hq_sD | exact hq_lclr | exact hq_lnew | exact hq_ladd | dsimp only)
theorem P_X2_next (fu : Nat) (x0 : Option Nat)  : hp (F_X2_next fu x0) := by
  show hp (fun S => F_X2_next fu x0 S)
  unfold F_X2_next
  repeat' (first | exact hp_none | exact hp_ret | refine hp_q ?_ | refine hp_cV ?_ (fun _ => ?_) | refine hp_cI ?_ (fun _ _ => ?_) | refine hp_cR ?_ (fun _ _ => ?_) | refine hp_cD ?_ (fun _ _ => ?_) | refine hp_tI ?_ (fun _ _ => ?_) (fun _ _ => ?_) | refine hp_tR ?_ (fun _ _ => ?_) (fun _ _ => ?_) | refine hp_ite ?_ ?_ | refine hp_bput ?_ (fun _ => ?_) | refine hp_bpair hq_new (fun _ _ => ?_) | refine hp_bpair hq_lrem (fun _ _ => ?_) | refine hp_bind (fun _ => ?_) | exact hq_pI (by decide) | exact hq_pZ (by decide) | exact hq_pC (by decide) | exact hq_pR (by decide) | exact hq_pD (by decide) | exact hq_sI | exact hq_sC | exact hq_sD | exact hq_lclr | exact hq_lnew | exact hq_ladd | dsimp only)
theorem P_X2_takes (fu : Nat) (x0 : Option Nat) (x1 : Int32)  : hp (F_X2_takes fu x0 x1) := by
  show hp (fun S => F_X2_takes fu x0 x1 S)
  unfold F_X2_takes
  repeat' (first | apply P_X2_look | exact hp_none | exact hp_ret | refine hp_q ?_ | refine hp_cV ?_ (fun _ => ?_) | refine hp_cI ?_ (fun _ _ => ?_) | refine hp_cR ?_ (fun _ _ => ?_) | refine hp_cD ?_ (fun _ _ => ?_) | refine hp_tI ?_ (fun _ _ => ?_) (fun _ _ => ?_) | refine hp_tR ?_ (fun _ _ => ?_) (fun _ _ => ?_) | refine hp_ite ?_ ?_ | refine hp_bput ?_ (fun _ => ?_) | refine hp_bpair hq_new (fun _ _ => ?_) | refine hp_bpair hq_lrem (fun _ _ => ?_) | refine hp_bind (fun _ => ?_) | exact hq_pI (by decide) | exact hq_pZ (by decide) | exact hq_pC (by decide) | exact hq_pR (by decide) | exact hq_pD (by decide) | exact hq_sI | exact hq_sC | exact hq_sD | exact hq_lclr | exact hq_lnew | exact hq_ladd | dsimp only)
theorem P_X2_want (fu : Nat) (x0 : Option Nat) (x1 : Int32)  : hp (F_X2_want fu x0 x1) := by
  show hp (fun S => F_X2_want fu x0 x1 S)
  unfold F_X2_want
  repeat' (first | exact hp_none | exact hp_ret | refine hp_q ?_ | refine hp_cV ?_ (fun _ => ?_) | refine hp_cI ?_ (fun _ _ => ?_) | refine hp_cR ?_ (fun _ _ => ?_) | refine hp_cD ?_ (fun _ _ => ?_) | refine hp_tI ?_ (fun _ _ => ?_) (fun _ _ => ?_) | refine hp_tR ?_ (fun _ _ => ?_) (fun _ _ => ?_) | refine hp_ite ?_ ?_ | refine hp_bput ?_ (fun _ => ?_) | refine hp_bpair hq_new (fun _ _ => ?_) | refine hp_bpair hq_lrem (fun _ _ => ?_) | refine hp_bind (fun _ => ?_) | exact hq_pI (by decide) | exact hq_pZ (by decide) | exact hq_pC (by decide) | exact hq_pR (by decide) | exact hq_pD (by decide) | exact hq_sI | exact hq_sC | exact hq_sD | exact hq_lclr | exact hq_lnew | exact hq_ladd | dsimp only)
theorem P_X9_init (fu : Nat) (x0 : Option Nat) (x1 : Int32) (x2 : UInt64)  : hp (F_X9_init fu x0 x1 x2) := by
  show hp (fun S => F_X9_init fu x0 x1 x2 S)
  unfold F_X9_init
  repeat' (first | exact hp_none | exact hp_ret | refine hp_q ?_ | refine hp_cV ?_ (fun _ => ?_) | refine hp_cI ?_ (fun _ _ => ?_) | refine hp_cR ?_ (fun _ _ => ?_) | refine hp_cD ?_ (fun _ _ => ?_) | refine hp_tI ?_ (fun _ _ => ?_) (fun _ _ => ?_) | refine hp_tR ?_ (fun _ _ => ?_) (fun _ _ => ?_) | refine hp_ite ?_ ?_ | refine hp_bput ?_ (fun _ => ?_) | refine hp_bpair hq_new (fun _ _ => ?_) | refine hp_bpair hq_lrem (fun _ _ => ?_) | refine hp_bind (fun _ => ?_) | exact hq_pI (by decide) | exact hq_pZ (by decide) | exact hq_pC (by decide) | exact hq_pR (by decide) | exact hq_pD (by decide) | exact hq_sI | exact hq_sC | exact hq_sD | exact hq_lclr | exact hq_lnew | exact hq_ladd | dsimp only)
theorem P_X2_operand_120 (fu : Nat) (x1 : UInt64)  : hp (F_X2_operand_120 fu x1) := by
  show hp (fun S => F_X2_operand_120 fu x1 S)
  unfold F_X2_operand_120
  repeat' (first | apply P_X9_init | exact hp_none | exact hp_ret | refine hp_q ?_ | refine hp_cV ?_ (fun _ => ?_) | refine hp_cI ?_ (fun _ _ => ?_) | refine hp_cR ?_ (fun _ _ => ?_) | refine hp_cD ?_ (fun _ _ => ?_) | refine hp_tI ?_ (fun _ _ => ?_) (fun _ _ => ?_) | refine hp_tR ?_ (fun _ _ => ?_) (fun _ _ => ?_) | refine hp_ite ?_ ?_ | refine hp_bput ?_ (fun _ => ?_) | refine hp_bpair hq_new (fun _ _ => ?_) | refine hp_bpair hq_lrem (fun _ _ => ?_) | refine hp_bind (fun _ => ?_) | exact hq_pI (by decide) | exact hq_pZ (by decide) | exact hq_pC (by decide) | exact hq_pR (by decide) | exact hq_pD (by decide) | exact hq_sI | exact hq_sC | exact hq_sD | exact hq_lclr | exact hq_lnew | exact hq_ladd | dsimp only)
theorem P_X2_operand_80 (fu : Nat) (x0 : Option Nat) (x1 : UInt64)  : hp (F_X2_operand_80 fu x0 x1) := by
  show hp (fun S => F_X2_operand_80 fu x0 x1 S)
  unfold F_X2_operand_80
  repeat' (first | apply P_X2_takes | apply P_X2_operand_120 | apply P_X2_isAmong | apply P_X2_want | apply P_X2_next | exact hp_none | exact hp_ret | refine hp_q ?_ | refine hp_cV ?_ (fun _ => ?_) | refine hp_cI ?_ (fun _ _ => ?_) | refine hp_cR ?_ (fun _ _ => ?_) | refine hp_cD ?_ (fun _ _ => ?_) | refine hp_tI ?_ (fun _ _ => ?_) (fun _ _ => ?_) | refine hp_tR ?_ (fun _ _ => ?_) (fun _ _ => ?_) | refine hp_ite ?_ ?_ | refine hp_bput ?_ (fun _ => ?_) | refine hp_bpair hq_new (fun _ _ => ?_) | refine hp_bpair hq_lrem (fun _ _ => ?_) | refine hp_bind (fun _ => ?_) | exact hq_pI (by decide) | exact hq_pZ (by decide) | exact hq_pC (by decide) | exact hq_pR (by decide) | exact hq_pD (by decide) | exact hq_sI | exact hq_sC | exact hq_sD | exact hq_lclr | exact hq_lnew | exact hq_ladd | dsimp only)
theorem P_X2_operand_43 (fu : Nat)  : ∀ (n : Nat) (y0 : Option Nat) (y1 : UInt64) (y2 : Int32), hp (F_X2_operand_43 fu n y0 y1 y2) := by
  intro n
  induction n with
  | zero => intro y0 y1 y2; exact hp_none
  | succ n ih =>
    intro y0 y1 y2
    show hp (fun S => F_X2_operand_43 fu (n + 1) y0 y1 y2 S)
    simp only [F_X2_operand_43]
    repeat' (first | apply P_X2_operand_80 | apply P_X2_isAmong | apply P_X2_next | apply ih | exact ih | exact hp_none | exact hp_ret | refine hp_q ?_ | refine hp_cV ?_ (fun _ => ?_) | refine hp_cI ?_ (fun _ _ => ?_) | refine hp_cR ?_ (fun _ _ => ?_) | refine hp_cD ?_ (fun _ _ => ?_) | refine hp_tI ?_ (fun _ _ => ?_) (fun _ _ => ?_) | refine hp_tR ?_ (fun _ _ => ?_) (fun _ _ => ?_) | refine hp_ite ?_ ?_ | refine hp_bput ?_ (fun _ => ?_) | refine hp_bpair hq_new (fun _ _ => ?_) | refine hp_bpair hq_lrem (fun _ _ => ?_) | refine hp_bind (fun _ => ?_) | exact hq_pI (by decide) | exact hq_pZ (by decide) | exact hq_pC (by decide) | exact hq_pR (by decide) | exact hq_pD (by decide) | exact hq_sI | exact hq_sC | exact hq_sD | exact hq_lclr | exact hq_lnew | exact hq_ladd | dsimp only)
theorem P_X2_operand (fu : Nat) (x0 : Option Nat)  : hp (F_X2_operand fu x0) := by
  show hp (fun S => F_X2_operand fu x0 S)
  unfold F_X2_operand
  repeat' (first | apply P_X2_isAmong | apply P_X2_want | apply P_X2_operand_43 | apply P_X2_next | apply P_X9_init | exact hp_none | exact hp_ret | refine hp_q ?_ | refine hp_cV ?_ (fun _ => ?_) | refine hp_cI ?_ (fun _ _ => ?_) | refine hp_cR ?_ (fun _ _ => ?_) | refine hp_cD ?_ (fun _ _ => ?_) | refine hp_tI ?_ (fun _ _ => ?_) (fun _ _ => ?_) | refine hp_tR ?_ (fun _ _ => ?_) (fun _ _ => ?_) | refine hp_ite ?_ ?_ | refine hp_bput ?_ (fun _ => ?_) | refine hp_bpair hq_new (fun _ _ => ?_) | refine hp_bpair hq_lrem (fun _ _ => ?_) | refine hp_bind (fun _ => ?_) | exact hq_pI (by decide) | exact hq_pZ (by decide) | exact hq_pC (by decide) | exact hq_pR (by decide) | exact hq_pD (by decide) | exact hq_sI | exact hq_sC | exact hq_sD | exact hq_lclr | exact hq_lnew | exact hq_ladd | dsimp only)
theorem P_X6_init_8 (fu : Nat) (x0 : Option Nat)  : hp (F_X6_init_8 fu x0) := by
  show hp (fun S => F_X6_init_8 fu x0 S)
  unfold F_X6_init_8
  repeat' (first | exact hp_none | exact hp_ret | refine hp_q ?_ | refine hp_cV ?_ (fun _ => ?_) | refine hp_cI ?_ (fun _ _ => ?_) | refine hp_cR ?_ (fun _ _ => ?_) | refine hp_cD ?_ (fun _ _ => ?_) | refine hp_tI ?_ (fun _ _ => ?_) (fun _ _ => ?_) | refine hp_tR ?_ (fun _ _ => ?_) (fun _ _ => ?_) | refine hp_ite ?_ ?_ | refine hp_bput ?_ (fun _ => ?_) | refine hp_bpair hq_new (fun _ _ => ?_) | refine hp_bpair hq_lrem (fun _ _ => ?_) | refine hp_bind (fun _ => ?_) | exact hq_pI (by decide) | exact hq_pZ (by decide) | exact hq_pC (by decide) | exact hq_pR (by decide) | exact hq_pD (by decide) | exact hq_sI | exact hq_sC | exact hq_sD | exact hq_lclr | exact hq_lnew | exact hq_ladd | dsimp only)
theorem P_X8_init (fu : Nat) (x0 : Option Nat) (x1 : Int32) (x2 : Int32) (x3 : Option Nat)  : hp (F_X8_init fu x0 x1 x2 x3) := by
  show hp (fun S => F_X8_init fu x0 x1 x2 x3 S)
  unfold F_X8_init
  repeat' (first | apply P_X6_init_8 | exact hp_none | exact hp_ret | refine hp_q ?_ | refine hp_cV ?_ (fun _ => ?_) | refine hp_cI ?_ (fun _ _ => ?_) | refine hp_cR ?_ (fun _ _ => ?_) | refine hp_cD ?_ (fun _ _ => ?_) | refine hp_tI ?_ (fun _ _ => ?_) (fun _ _ => ?_) | refine hp_tR ?_ (fun _ _ => ?_) (fun _ _ => ?_) | refine hp_ite ?_ ?_ | refine hp_bput ?_ (fun _ => ?_) | refine hp_bpair hq_new (fun _ _ => ?_) | refine hp_bpair hq_lrem (fun _ _ => ?_) | refine hp_bind (fun _ => ?_) | exact hq_pI (by decide) | exact hq_pZ (by decide) | exact hq_pC (by decide) | exact hq_pR (by decide) | exact hq_pD (by decide) | exact hq_sI | exact hq_sC | exact hq_sD | exact hq_lclr | exact hq_lnew | exact hq_ladd | dsimp only)
theorem P_X2_assigning_35 (fu : Nat) (x0 : Option Nat) (x1 : Int32) (x2 : Int32) (s0 : Int32) (s1 : Option Nat)  : hp (F_X2_assigning_35 fu x0 x1 x2 s0 s1) := by
  show hp (fun S => F_X2_assigning_35 fu x0 x1 x2 s0 s1 S)
  unfold F_X2_assigning_35
  repeat' (first | apply P_X2_want | apply P_X2_operand | apply P_X8_init | exact hp_none | exact hp_ret | refine hp_q ?_ | refine hp_cV ?_ (fun _ => ?_) | refine hp_cI ?_ (fun _ _ => ?_) | refine hp_cR ?_ (fun _ _ => ?_) | refine hp_cD ?_ (fun _ _ => ?_) | refine hp_tI ?_ (fun _ _ => ?_) (fun _ _ => ?_) | refine hp_tR ?_ (fun _ _ => ?_) (fun _ _ => ?_) | refine hp_ite ?_ ?_ | refine hp_bput ?_ (fun _ => ?_) | refine hp_bpair hq_new (fun _ _ => ?_) | refine hp_bpair hq_lrem (fun _ _ => ?_) | refine hp_bind (fun _ => ?_) | exact hq_pI (by decide) | exact hq_pZ (by decide) | exact hq_pC (by decide) | exact hq_pR (by decide) | exact hq_pD (by decide) | exact hq_sI | exact hq_sC | exact hq_sD | exact hq_lclr | exact hq_lnew | exact hq_ladd | dsimp only)
theorem P_X2_assigning (fu : Nat) (x0 : Option Nat) (x1 : Int32)  : hp (F_X2_assigning fu x0 x1) := by
  show hp (fun S => F_X2_assigning fu x0 x1 S)
  unfold F_X2_assigning
  repeat' (first | apply P_X2_look | apply P_X2_assigning_35 | exact hp_none | exact hp_ret | refine hp_q ?_ | refine hp_cV ?_ (fun _ => ?_) | refine hp_cI ?_ (fun _ _ => ?_) | refine hp_cR ?_ (fun _ _ => ?_) | refine hp_cD ?_ (fun _ _ => ?_) | refine hp_tI ?_ (fun _ _ => ?_) (fun _ _ => ?_) | refine hp_tR ?_ (fun _ _ => ?_) (fun _ _ => ?_) | refine hp_ite ?_ ?_ | refine hp_bput ?_ (fun _ => ?_) | refine hp_bpair hq_new (fun _ _ => ?_) | refine hp_bpair hq_lrem (fun _ _ => ?_) | refine hp_bind (fun _ => ?_) | exact hq_pI (by decide) | exact hq_pZ (by decide) | exact hq_pC (by decide) | exact hq_pR (by decide) | exact hq_pD (by decide) | exact hq_sI | exact hq_sC | exact hq_sD | exact hq_lclr | exact hq_lnew | exact hq_ladd | dsimp only)
theorem P_X6_init_7 (fu : Nat) (x0 : Option Nat)  : hp (F_X6_init_7 fu x0) := by
  show hp (fun S => F_X6_init_7 fu x0 S)
  unfold F_X6_init_7
  repeat' (first | exact hp_none | exact hp_ret | refine hp_q ?_ | refine hp_cV ?_ (fun _ => ?_) | refine hp_cI ?_ (fun _ _ => ?_) | refine hp_cR ?_ (fun _ _ => ?_) | refine hp_cD ?_ (fun _ _ => ?_) | refine hp_tI ?_ (fun _ _ => ?_) (fun _ _ => ?_) | refine hp_tR ?_ (fun _ _ => ?_) (fun _ _ => ?_) | refine hp_ite ?_ ?_ | refine hp_bput ?_ (fun _ => ?_) | refine hp_bpair hq_new (fun _ _ => ?_) | refine hp_bpair hq_lrem (fun _ _ => ?_) | refine hp_bind (fun _ => ?_) | exact hq_pI (by decide) | exact hq_pZ (by decide) | exact hq_pC (by decide) | exact hq_pR (by decide) | exact hq_pD (by decide) | exact hq_sI | exact hq_sC | exact hq_sD | exact hq_lclr | exact hq_lnew | exact hq_ladd | dsimp only)
theorem P_X7_init (fu : Nat) (x0 : Option Nat) (x1 : Int32) (x2 : Int32)  : hp (F_X7_init fu x0 x1 x2) := by
  show hp (fun S => F_X7_init fu x0 x1 x2 S)
  unfold F_X7_init
  repeat' (first | apply P_X6_init_7 | exact hp_none | exact hp_ret | refine hp_q ?_ | refine hp_cV ?_ (fun _ => ?_) | refine hp_cI ?_ (fun _ _ => ?_) | refine hp_cR ?_ (fun _ _ => ?_) | refine hp_cD ?_ (fun _ _ => ?_) | refine hp_tI ?_ (fun _ _ => ?_) (fun _ _ => ?_) | refine hp_tR ?_ (fun _ _ => ?_) (fun _ _ => ?_) | refine hp_ite ?_ ?_ | refine hp_bput ?_ (fun _ => ?_) | refine hp_bpair hq_new (fun _ _ => ?_) | refine hp_bpair hq_lrem (fun _ _ => ?_) | refine hp_bind (fun _ => ?_) | exact hq_pI (by decide) | exact hq_pZ (by decide) | exact hq_pC (by decide) | exact hq_pR (by decide) | exact hq_pD (by decide) | exact hq_sI | exact hq_sC | exact hq_sD | exact hq_lclr | exact hq_lnew | exact hq_ladd | dsimp only)
theorem P_X2_raising (fu : Nat) (x0 : Option Nat) (x1 : Int32)  : hp (F_X2_raising fu x0 x1) := by
  show hp (fun S => F_X2_raising fu x0 x1 S)
  unfold F_X2_raising
  repeat' (first | apply P_X2_takes | apply P_X7_init | apply P_X2_isAmong | apply P_X2_want | apply P_X2_next | exact hp_none | exact hp_ret | refine hp_q ?_ | refine hp_cV ?_ (fun _ => ?_) | refine hp_cI ?_ (fun _ _ => ?_) | refine hp_cR ?_ (fun _ _ => ?_) | refine hp_cD ?_ (fun _ _ => ?_) | refine hp_tI ?_ (fun _ _ => ?_) (fun _ _ => ?_) | refine hp_tR ?_ (fun _ _ => ?_) (fun _ _ => ?_) | refine hp_ite ?_ ?_ | refine hp_bput ?_ (fun _ => ?_) | refine hp_bpair hq_new (fun _ _ => ?_) | refine hp_bpair hq_lrem (fun _ _ => ?_) | refine hp_bind (fun _ => ?_) | exact hq_pI (by decide) | exact hq_pZ (by decide) | exact hq_pC (by decide) | exact hq_pR (by decide) | exact hq_pD (by decide) | exact hq_sI | exact hq_sC | exact hq_sD | exact hq_lclr | exact hq_lnew | exact hq_ladd | dsimp only)
theorem P_X2_actions_75 (fu : Nat) (k0 : Option Nat → Option Nat → gm_S → gR) (x0 : Option Nat) (x1 : Option Nat) (s0 : Option Nat) (s1 : Option Nat) (h_k0 : ∀ a0 a1, hp (k0 a0 a1)) : hp (F_X2_actions_75 fu k0 x0 x1 s0 s1) := by
  show hp (fun S => F_X2_actions_75 fu k0 x0 x1 s0 s1 S)
  unfold F_X2_actions_75
  repeat' (first | apply h_k0 | exact h_k0 | apply P_X2_takes | exact hp_none | exact hp_ret | refine hp_q ?_ | refine hp_cV ?_ (fun _ => ?_) | refine hp_cI ?_ (fun _ _ => ?_) | refine hp_cR ?_ (fun _ _ => ?_) | refine hp_cD ?_ (fun _ _ => ?_) | refine hp_tI ?_ (fun _ _ => ?_) (fun _ _ => ?_) | refine hp_tR ?_ (fun _ _ => ?_) (fun _ _ => ?_) | refine hp_ite ?_ ?_ | refine hp_bput ?_ (fun _ => ?_) | refine hp_bpair hq_new (fun _ _ => ?_) | refine hp_bpair hq_lrem (fun _ _ => ?_) | refine hp_bind (fun _ => ?_) | exact hq_pI (by decide) | exact hq_pZ (by decide) | exact hq_pC (by decide) | exact hq_pR (by decide) | exact hq_pD (by decide) | exact hq_sI | exact hq_sC | exact hq_sD | exact hq_lclr | exact hq_lnew | exact hq_ladd | dsimp only)
theorem P_X2_actions_37 (fu : Nat) (k0 : Option Nat → Option Nat → gm_S → gR) (x0 : Option Nat) (x1 : Option Nat) (s0 : Int32) (s1 : Option Nat) (h_k0 : ∀ a0 a1, hp (k0 a0 a1)) : hp (F_X2_actions_37 fu k0 x0 x1 s0 s1) := by
  show hp (fun S => F_X2_actions_37 fu k0 x0 x1 s0 s1 S)
  unfold F_X2_actions_37
  repeat' (first | apply h_k0 | exact h_k0 | apply P_X2_want | apply P_X2_next | apply P_X2_assigning | apply P_X2_actions_75 | apply P_X2_raising | exact hp_none | exact hp_ret | refine hp_q ?_ | refine hp_cV ?_ (fun _ => ?_) | refine hp_cI ?_ (fun _ _ => ?_) | refine hp_cR ?_ (fun _ _ => ?_) | refine hp_cD ?_ (fun _ _ => ?_) | refine hp_tI ?_ (fun _ _ => ?_) (fun _ _ => ?_) | refine hp_tR ?_ (fun _ _ => ?_) (fun _ _ => ?_) | refine hp_ite ?_ ?_ | refine hp_bput ?_ (fun _ => ?_) | refine hp_bpair hq_new (fun _ _ => ?_) | refine hp_bpair hq_lrem (fun _ _ => ?_) | refine hp_bind (fun _ => ?_) | exact hq_pI (by decide) | exact hq_pZ (by decide) | exact hq_pC (by decide) | exact hq_pR (by decide) | exact hq_pD (by decide) | exact hq_sI | exact hq_sC | exact hq_sD | exact hq_lclr | exact hq_lnew | exact hq_ladd | dsimp only)
theorem P_X2_actions_23 (fu : Nat) (k0 : Option Nat → Option Nat → gm_S → gR) (x0 : Option Nat) (x1 : Option Nat) (s0 : Option Nat) (h_k0 : ∀ a0 a1, hp (k0 a0 a1)) : hp (F_X2_actions_23 fu k0 x0 x1 s0) := by
  show hp (fun S => F_X2_actions_23 fu k0 x0 x1 s0 S)
  unfold F_X2_actions_23
  repeat' (first | apply h_k0 | exact h_k0 | apply P_X2_actions_37 | exact hp_none | exact hp_ret | refine hp_q ?_ | refine hp_cV ?_ (fun _ => ?_) | refine hp_cI ?_ (fun _ _ => ?_) | refine hp_cR ?_ (fun _ _ => ?_) | refine hp_cD ?_ (fun _ _ => ?_) | refine hp_tI ?_ (fun _ _ => ?_) (fun _ _ => ?_) | refine hp_tR ?_ (fun _ _ => ?_) (fun _ _ => ?_) | refine hp_ite ?_ ?_ | refine hp_bput ?_ (fun _ => ?_) | refine hp_bpair hq_new (fun _ _ => ?_) | refine hp_bpair hq_lrem (fun _ _ => ?_) | refine hp_bind (fun _ => ?_) | exact hq_pI (by decide) | exact hq_pZ (by decide) | exact hq_pC (by decide) | exact hq_pR (by decide) | exact hq_pD (by decide) | exact hq_sI | exact hq_sC | exact hq_sD | exact hq_lclr | exact hq_lnew | exact hq_ladd | dsimp only)
theorem P_X2_actions_0 (fu : Nat)  : ∀ (n : Nat) (y0 : Option Nat) (y1 : Option Nat), hp (F_X2_actions_0 fu n y0 y1) := by
  intro n
  induction n with
  | zero => intro y0 y1; exact hp_none
  | succ n ih =>
    intro y0 y1
    show hp (fun S => F_X2_actions_0 fu (n + 1) y0 y1 S)
    simp only [F_X2_actions_0]
    repeat' (first | apply P_X2_isAmong | apply P_X2_actions_37 | apply P_X2_actions_23 | apply ih | exact ih | exact hp_none | exact hp_ret | refine hp_q ?_ | refine hp_cV ?_ (fun _ => ?_) | refine hp_cI ?_ (fun _ _ => ?_) | refine hp_cR ?_ (fun _ _ => ?_) | refine hp_cD ?_ (fun _ _ => ?_) | refine hp_tI ?_ (fun _ _ => ?_) (fun _ _ => ?_) | refine hp_tR ?_ (fun _ _ => ?_) (fun _ _ => ?_) | refine hp_ite ?_ ?_ | refine hp_bput ?_ (fun _ => ?_) | refine hp_bpair hq_new (fun _ _ => ?_) | refine hp_bpair hq_lrem (fun _ _ => ?_) | refine hp_bind (fun _ => ?_) | exact hq_pI (by decide) | exact hq_pZ (by decide) | exact hq_pC (by decide) | exact hq_pR (by decide) | exact hq_pD (by decide) | exact hq_sI | exact hq_sC | exact hq_sD | exact hq_lclr | exact hq_lnew | exact hq_ladd | dsimp only)
theorem P_X2_actions (fu : Nat) (x0 : Option Nat) (x1 : Option Nat)  : hp (F_X2_actions fu x0 x1) := by
  show hp (fun S => F_X2_actions fu x0 x1 S)
  unfold F_X2_actions
  repeat' (first | apply P_X2_actions_0 | exact hp_none | exact hp_ret | refine hp_q ?_ | refine hp_cV ?_ (fun _ => ?_) | refine hp_cI ?_ (fun _ _ => ?_) | refine hp_cR ?_ (fun _ _ => ?_) | refine hp_cD ?_ (fun _ _ => ?_) | refine hp_tI ?_ (fun _ _ => ?_) (fun _ _ => ?_) | refine hp_tR ?_ (fun _ _ => ?_) (fun _ _ => ?_) | refine hp_ite ?_ ?_ | refine hp_bput ?_ (fun _ => ?_) | refine hp_bpair hq_new (fun _ _ => ?_) | refine hp_bpair hq_lrem (fun _ _ => ?_) | refine hp_bind (fun _ => ?_) | exact hq_pI (by decide) | exact hq_pZ (by decide) | exact hq_pC (by decide) | exact hq_pR (by decide) | exact hq_pD (by decide) | exact hq_sI | exact hq_sC | exact hq_sD | exact hq_lclr | exact hq_lnew | exact hq_ladd | dsimp only)
theorem P_X2_take (fu : Nat) (x0 : Option Nat) (x1 : Int32)  : hp (F_X2_take fu x0 x1) := by
  show hp (fun S => F_X2_take fu x0 x1 S)
  unfold F_X2_take
  repeat' (first | apply P_X2_takes | apply P_X2_want | exact hp_none | exact hp_ret | refine hp_q ?_ | refine hp_cV ?_ (fun _ => ?_) | refine hp_cI ?_ (fun _ _ => ?_) | refine hp_cR ?_ (fun _ _ => ?_) | refine hp_cD ?_ (fun _ _ => ?_) | refine hp_tI ?_ (fun _ _ => ?_) (fun _ _ => ?_) | refine hp_tR ?_ (fun _ _ => ?_) (fun _ _ => ?_) | refine hp_ite ?_ ?_ | refine hp_bput ?_ (fun _ => ?_) | refine hp_bpair hq_new (fun _ _ => ?_) | refine hp_bpair hq_lrem (fun _ _ => ?_) | refine hp_bind (fun _ => ?_) | exact hq_pI (by decide) | exact hq_pZ (by decide) | exact hq_pC (by decide) | exact hq_pR (by decide) | exact hq_pD (by decide) | exact hq_sI | exact hq_sC | exact hq_sD | exact hq_lclr | exact hq_lnew | exact hq_ladd | dsimp only)
theorem P_X10_init (fu : Nat) (x0 : Option Nat) (x1 : Option Nat) (x2 : Int32)  : hp (F_X10_init fu x0 x1 x2) := by
  show hp (fun S => F_X10_init fu x0 x1 x2 S)
  unfold F_X10_init
  repeat' (first | exact hp_none | exact hp_ret | refine hp_q ?_ | refine hp_cV ?_ (fun _ => ?_) | refine hp_cI ?_ (fun _ _ => ?_) | refine hp_cR ?_ (fun _ _ => ?_) | refine hp_cD ?_ (fun _ _ => ?_) | refine hp_tI ?_ (fun _ _ => ?_) (fun _ _ => ?_) | refine hp_tR ?_ (fun _ _ => ?_) (fun _ _ => ?_) | refine hp_ite ?_ ?_ | refine hp_bput ?_ (fun _ => ?_) | refine hp_bpair hq_new (fun _ _ => ?_) | refine hp_bpair hq_lrem (fun _ _ => ?_) | refine hp_bind (fun _ => ?_) | exact hq_pI (by decide) | exact hq_pZ (by decide) | exact hq_pC (by decide) | exact hq_pR (by decide) | exact hq_pD (by decide) | exact hq_sI | exact hq_sC | exact hq_sD | exact hq_lclr | exact hq_lnew | exact hq_ladd | dsimp only)
theorem P_X11_init (fu : Nat) (x0 : Option Nat) (x1 : Int32) (x2 : Int32) (x3 : Int32)  : hp (F_X11_init fu x0 x1 x2 x3) := by
  show hp (fun S => F_X11_init fu x0 x1 x2 x3 S)
  unfold F_X11_init
  repeat' (first | exact hp_none | exact hp_ret | refine hp_q ?_ | refine hp_cV ?_ (fun _ => ?_) | refine hp_cI ?_ (fun _ _ => ?_) | refine hp_cR ?_ (fun _ _ => ?_) | refine hp_cD ?_ (fun _ _ => ?_) | refine hp_tI ?_ (fun _ _ => ?_) (fun _ _ => ?_) | refine hp_tR ?_ (fun _ _ => ?_) (fun _ _ => ?_) | refine hp_ite ?_ ?_ | refine hp_bput ?_ (fun _ => ?_) | refine hp_bpair hq_new (fun _ _ => ?_) | refine hp_bpair hq_lrem (fun _ _ => ?_) | refine hp_bind (fun _ => ?_) | exact hq_pI (by decide) | exact hq_pZ (by decide) | exact hq_pC (by decide) | exact hq_pR (by decide) | exact hq_pD (by decide) | exact hq_sI | exact hq_sC | exact hq_sD | exact hq_lclr | exact hq_lnew | exact hq_ladd | dsimp only)
theorem P_X2_target_53 (fu : Nat) (x0 : Option Nat) (x1 : Int32) (x2 : Int32) (x3 : Int32)  : hp (F_X2_target_53 fu x0 x1 x2 x3) := by
  show hp (fun S => F_X2_target_53 fu x0 x1 x2 x3 S)
  unfold F_X2_target_53
  repeat' (first | apply P_X11_init | exact hp_none | exact hp_ret | refine hp_q ?_ | refine hp_cV ?_ (fun _ => ?_) | refine hp_cI ?_ (fun _ _ => ?_) | refine hp_cR ?_ (fun _ _ => ?_) | refine hp_cD ?_ (fun _ _ => ?_) | refine hp_tI ?_ (fun _ _ => ?_) (fun _ _ => ?_) | refine hp_tR ?_ (fun _ _ => ?_) (fun _ _ => ?_) | refine hp_ite ?_ ?_ | refine hp_bput ?_ (fun _ => ?_) | refine hp_bpair hq_new (fun _ _ => ?_) | refine hp_bpair hq_lrem (fun _ _ => ?_) | refine hp_bind (fun _ => ?_) | exact hq_pI (by decide) | exact hq_pZ (by decide) | exact hq_pC (by decide) | exact hq_pR (by decide) | exact hq_pD (by decide) | exact hq_sI | exact hq_sC | exact hq_sD | exact hq_lclr | exact hq_lnew | exact hq_ladd | dsimp only)
theorem P_X2_target_36 (fu : Nat) (x0 : Option Nat) (x1 : Int32) (x2 : Int32) (s0 : Int32)  : hp (F_X2_target_36 fu x0 x1 x2 s0) := by
  show hp (fun S => F_X2_target_36 fu x0 x1 x2 s0 S)
  unfold F_X2_target_36
  repeat' (first | apply P_X2_takes | apply P_X2_target_53 | exact hp_none | exact hp_ret | refine hp_q ?_ | refine hp_cV ?_ (fun _ => ?_) | refine hp_cI ?_ (fun _ _ => ?_) | refine hp_cR ?_ (fun _ _ => ?_) | refine hp_cD ?_ (fun _ _ => ?_) | refine hp_tI ?_ (fun _ _ => ?_) (fun _ _ => ?_) | refine hp_tR ?_ (fun _ _ => ?_) (fun _ _ => ?_) | refine hp_ite ?_ ?_ | refine hp_bput ?_ (fun _ => ?_) | refine hp_bpair hq_new (fun _ _ => ?_) | refine hp_bpair hq_lrem (fun _ _ => ?_) | refine hp_bind (fun _ => ?_) | exact hq_pI (by decide) | exact hq_pZ (by decide) | exact hq_pC (by decide) | exact hq_pR (by decide) | exact hq_pD (by decide) | exact hq_sI | exact hq_sC | exact hq_sD | exact hq_lclr | exact hq_lnew | exact hq_ladd | dsimp only)
theorem P_X2_target (fu : Nat) (x0 : Option Nat)  : hp (F_X2_target fu x0) := by
  show hp (fun S => F_X2_target fu x0 S)
  unfold F_X2_target
  repeat' (first | apply P_X2_isAmong | apply P_X2_want | apply P_X2_next | apply P_X2_takes | apply P_X2_target_36 | exact hp_none | exact hp_ret | refine hp_q ?_ | refine hp_cV ?_ (fun _ => ?_) | refine hp_cI ?_ (fun _ _ => ?_) | refine hp_cR ?_ (fun _ _ => ?_) | refine hp_cD ?_ (fun _ _ => ?_) | refine hp_tI ?_ (fun _ _ => ?_) (fun _ _ => ?_) | refine hp_tR ?_ (fun _ _ => ?_) (fun _ _ => ?_) | refine hp_ite ?_ ?_ | refine hp_bput ?_ (fun _ => ?_) | refine hp_bpair hq_new (fun _ _ => ?_) | refine hp_bpair hq_lrem (fun _ _ => ?_) | refine hp_bind (fun _ => ?_) | exact hq_pI (by decide) | exact hq_pZ (by decide) | exact hq_pC (by decide) | exact hq_pR (by decide) | exact hq_pD (by decide) | exact hq_sI | exact hq_sC | exact hq_sD | exact hq_lclr | exact hq_lnew | exact hq_ladd | dsimp only)
theorem P_X12_init_13 (fu : Nat) (x0 : Option Nat) (x1 : Int32)  : hp (F_X12_init_13 fu x0 x1) := by
  show hp (fun S => F_X12_init_13 fu x0 x1 S)
  unfold F_X12_init_13
  repeat' (first | exact hp_none | exact hp_ret | refine hp_q ?_ | refine hp_cV ?_ (fun _ => ?_) | refine hp_cI ?_ (fun _ _ => ?_) | refine hp_cR ?_ (fun _ _ => ?_) | refine hp_cD ?_ (fun _ _ => ?_) | refine hp_tI ?_ (fun _ _ => ?_) (fun _ _ => ?_) | refine hp_tR ?_ (fun _ _ => ?_) (fun _ _ => ?_) | refine hp_ite ?_ ?_ | refine hp_bput ?_ (fun _ => ?_) | refine hp_bpair hq_new (fun _ _ => ?_) | refine hp_bpair hq_lrem (fun _ _ => ?_) | refine hp_bind (fun _ => ?_) | exact hq_pI (by decide) | exact hq_pZ (by decide) | exact hq_pC (by decide) | exact hq_pR (by decide) | exact hq_pD (by decide) | exact hq_sI | exact hq_sC | exact hq_sD | exact hq_lclr | exact hq_lnew | exact hq_ladd | dsimp only)
theorem P_X13_init (fu : Nat) (x0 : Option Nat) (x1 : Int32) (x2 : Option Nat)  : hp (F_X13_init fu x0 x1 x2) := by
  show hp (fun S => F_X13_init fu x0 x1 x2 S)
  unfold F_X13_init
  repeat' (first | apply P_X12_init_13 | exact hp_none | exact hp_ret | refine hp_q ?_ | refine hp_cV ?_ (fun _ => ?_) | refine hp_cI ?_ (fun _ _ => ?_) | refine hp_cR ?_ (fun _ _ => ?_) | refine hp_cD ?_ (fun _ _ => ?_) | refine hp_tI ?_ (fun _ _ => ?_) (fun _ _ => ?_) | refine hp_tR ?_ (fun _ _ => ?_) (fun _ _ => ?_) | refine hp_ite ?_ ?_ | refine hp_bput ?_ (fun _ => ?_) | refine hp_bpair hq_new (fun _ _ => ?_) | refine hp_bpair hq_lrem (fun _ _ => ?_) | refine hp_bind (fun _ => ?_) | exact hq_pI (by decide) | exact hq_pZ (by decide) | exact hq_pC (by decide) | exact hq_pR (by decide) | exact hq_pD (by decide) | exact hq_sI | exact hq_sC | exact hq_sD | exact hq_lclr | exact hq_lnew | exact hq_ladd | dsimp only)
theorem P_X12_init_14 (fu : Nat) (x0 : Option Nat) (x1 : Int32)  : hp (F_X12_init_14 fu x0 x1) := by
  show hp (fun S => F_X12_init_14 fu x0 x1 S)
  unfold F_X12_init_14
  repeat' (first | exact hp_none | exact hp_ret | refine hp_q ?_ | refine hp_cV ?_ (fun _ => ?_) | refine hp_cI ?_ (fun _ _ => ?_) | refine hp_cR ?_ (fun _ _ => ?_) | refine hp_cD ?_ (fun _ _ => ?_) | refine hp_tI ?_ (fun _ _ => ?_) (fun _ _ => ?_) | refine hp_tR ?_ (fun _ _ => ?_) (fun _ _ => ?_) | refine hp_ite ?_ ?_ | refine hp_bput ?_ (fun _ => ?_) | refine hp_bpair hq_new (fun _ _ => ?_) | refine hp_bpair hq_lrem (fun _ _ => ?_) | refine hp_bind (fun _ => ?_) | exact hq_pI (by decide) | exact hq_pZ (by decide) | exact hq_pC (by decide) | exact hq_pR (by decide) | exact hq_pD (by decide) | exact hq_sI | exact hq_sC | exact hq_sD | exact hq_lclr | exact hq_lnew | exact hq_ladd | dsimp only)
theorem P_X14_init (fu : Nat) (x0 : Option Nat) (x1 : Int32) (x2 : Option Nat) (x3 : Int32) (x4 : Option Nat)  : hp (F_X14_init fu x0 x1 x2 x3 x4) := by
  show hp (fun S => F_X14_init fu x0 x1 x2 x3 x4 S)
  unfold F_X14_init
  repeat' (first | apply P_X12_init_14 | exact hp_none | exact hp_ret | refine hp_q ?_ | refine hp_cV ?_ (fun _ => ?_) | refine hp_cI ?_ (fun _ _ => ?_) | refine hp_cR ?_ (fun _ _ => ?_) | refine hp_cD ?_ (fun _ _ => ?_) | refine hp_tI ?_ (fun _ _ => ?_) (fun _ _ => ?_) | refine hp_tR ?_ (fun _ _ => ?_) (fun _ _ => ?_) | refine hp_ite ?_ ?_ | refine hp_bput ?_ (fun _ => ?_) | refine hp_bpair hq_new (fun _ _ => ?_) | refine hp_bpair hq_lrem (fun _ _ => ?_) | refine hp_bind (fun _ => ?_) | exact hq_pI (by decide) | exact hq_pZ (by decide) | exact hq_pC (by decide) | exact hq_pR (by decide) | exact hq_pD (by decide) | exact hq_sI | exact hq_sC | exact hq_sD | exact hq_lclr | exact hq_lnew | exact hq_ladd | dsimp only)
theorem P_X2_test_112 (fu : Nat) (x0 : Option Nat) (x1 : Int32) (x2 : Option Nat) (s0 : Int32) (s1 : Option Nat)  : hp (F_X2_test_112 fu x0 x1 x2 s0 s1) := by
  show hp (fun S => F_X2_test_112 fu x0 x1 x2 s0 s1 S)
  unfold F_X2_test_112
  repeat' (first | apply P_X2_want | apply P_X2_next | apply P_X2_operand | apply P_X14_init | exact hp_none | exact hp_ret | refine hp_q ?_ | refine hp_cV ?_ (fun _ => ?_) | refine hp_cI ?_ (fun _ _ => ?_) | refine hp_cR ?_ (fun _ _ => ?_) | refine hp_cD ?_ (fun _ _ => ?_) | refine hp_tI ?_ (fun _ _ => ?_) (fun _ _ => ?_) | refine hp_tR ?_ (fun _ _ => ?_) (fun _ _ => ?_) | refine hp_ite ?_ ?_ | refine hp_bput ?_ (fun _ => ?_) | refine hp_bpair hq_new (fun _ _ => ?_) | refine hp_bpair hq_lrem (fun _ _ => ?_) | refine hp_bind (fun _ => ?_) | exact hq_pI (by decide) | exact hq_pZ (by decide) | exact hq_pC (by decide) | exact hq_pR (by decide) | exact hq_pD (by decide) | exact hq_sI | exact hq_sC | exact hq_sD | exact hq_lclr | exact hq_lnew | exact hq_ladd | dsimp only)
theorem P_X2_test (fu : Nat) (x0 : Option Nat)  : hp (F_X2_test fu x0) := by
  show hp (fun S => F_X2_test fu x0 S)
  unfold F_X2_test
  repeat' (first | apply P_X2_takes | apply P_X2_operand | apply P_X2_look | apply P_X2_test_112 | apply P_X2_isAmong | apply P_X2_want | apply P_X11_init | apply P_X13_init | exact hp_none | exact hp_ret | refine hp_q ?_ | refine hp_cV ?_ (fun _ => ?_) | refine hp_cI ?_ (fun _ _ => ?_) | refine hp_cR ?_ (fun _ _ => ?_) | refine hp_cD ?_ (fun _ _ => ?_) | refine hp_tI ?_ (fun _ _ => ?_) (fun _ _ => ?_) | refine hp_tR ?_ (fun _ _ => ?_) (fun _ _ => ?_) | refine hp_ite ?_ ?_ | refine hp_bput ?_ (fun _ => ?_) | refine hp_bpair hq_new (fun _ _ => ?_) | refine hp_bpair hq_lrem (fun _ _ => ?_) | refine hp_bind (fun _ => ?_) | exact hq_pI (by decide) | exact hq_pZ (by decide) | exact hq_pC (by decide) | exact hq_pR (by decide) | exact hq_pD (by decide) | exact hq_sI | exact hq_sC | exact hq_sD | exact hq_lclr | exact hq_lnew | exact hq_ladd | dsimp only)
theorem P_X2_transition_131 (fu : Nat) (x1 : Option Nat) (x2 : Option Nat)  : hp (F_X2_transition_131 fu x1 x2) := by
  show hp (fun S => F_X2_transition_131 fu x1 x2 S)
  unfold F_X2_transition_131
  repeat' (first | exact hp_none | exact hp_ret | refine hp_q ?_ | refine hp_cV ?_ (fun _ => ?_) | refine hp_cI ?_ (fun _ _ => ?_) | refine hp_cR ?_ (fun _ _ => ?_) | refine hp_cD ?_ (fun _ _ => ?_) | refine hp_tI ?_ (fun _ _ => ?_) (fun _ _ => ?_) | refine hp_tR ?_ (fun _ _ => ?_) (fun _ _ => ?_) | refine hp_ite ?_ ?_ | refine hp_bput ?_ (fun _ => ?_) | refine hp_bpair hq_new (fun _ _ => ?_) | refine hp_bpair hq_lrem (fun _ _ => ?_) | refine hp_bind (fun _ => ?_) | exact hq_pI (by decide) | exact hq_pZ (by decide) | exact hq_pC (by decide) | exact hq_pR (by decide) | exact hq_pD (by decide) | exact hq_sI | exact hq_sC | exact hq_sD | exact hq_lclr | exact hq_lnew | exact hq_ladd | dsimp only)
theorem P_X2_transition_114 (fu : Nat) (x0 : Option Nat) (x1 : Option Nat) (x2 : Option Nat)  : hp (F_X2_transition_114 fu x0 x1 x2) := by
  show hp (fun S => F_X2_transition_114 fu x0 x1 x2 S)
  unfold F_X2_transition_114
  repeat' (first | apply P_X2_takes | apply P_X2_transition_131 | apply P_X2_actions | exact hp_none | exact hp_ret | refine hp_q ?_ | refine hp_cV ?_ (fun _ => ?_) | refine hp_cI ?_ (fun _ _ => ?_) | refine hp_cR ?_ (fun _ _ => ?_) | refine hp_cD ?_ (fun _ _ => ?_) | refine hp_tI ?_ (fun _ _ => ?_) (fun _ _ => ?_) | refine hp_tR ?_ (fun _ _ => ?_) (fun _ _ => ?_) | refine hp_ite ?_ ?_ | refine hp_bput ?_ (fun _ => ?_) | refine hp_bpair hq_new (fun _ _ => ?_) | refine hp_bpair hq_lrem (fun _ _ => ?_) | refine hp_bind (fun _ => ?_) | exact hq_pI (by decide) | exact hq_pZ (by decide) | exact hq_pC (by decide) | exact hq_pR (by decide) | exact hq_pD (by decide) | exact hq_sI | exact hq_sC | exact hq_sD | exact hq_lclr | exact hq_lnew | exact hq_ladd | dsimp only)
theorem P_X2_transition_91 (fu : Nat) (x0 : Option Nat) (x1 : Option Nat) (x2 : Option Nat)  : hp (F_X2_transition_91 fu x0 x1 x2) := by
  show hp (fun S => F_X2_transition_91 fu x0 x1 x2 S)
  unfold F_X2_transition_91
  repeat' (first | apply P_X2_take | apply P_X2_takes | apply P_X2_target | apply P_X2_transition_114 | exact hp_none | exact hp_ret | refine hp_q ?_ | refine hp_cV ?_ (fun _ => ?_) | refine hp_cI ?_ (fun _ _ => ?_) | refine hp_cR ?_ (fun _ _ => ?_) | refine hp_cD ?_ (fun _ _ => ?_) | refine hp_tI ?_ (fun _ _ => ?_) (fun _ _ => ?_) | refine hp_tR ?_ (fun _ _ => ?_) (fun _ _ => ?_) | refine hp_ite ?_ ?_ | refine hp_bput ?_ (fun _ => ?_) | refine hp_bpair hq_new (fun _ _ => ?_) | refine hp_bpair hq_lrem (fun _ _ => ?_) | refine hp_bind (fun _ => ?_) | exact hq_pI (by decide) | exact hq_pZ (by decide) | exact hq_pC (by decide) | exact hq_pR (by decide) | exact hq_pD (by decide) | exact hq_sI | exact hq_sC | exact hq_sD | exact hq_lclr | exact hq_lnew | exact hq_ladd | dsimp only)
theorem P_X2_transition_70 (fu : Nat)  : ∀ (n : Nat) (y0 : Option Nat) (y1 : Option Nat) (y2 : Option Nat), hp (F_X2_transition_70 fu n y0 y1 y2) := by
  intro n
  induction n with
  | zero => intro y0 y1 y2; exact hp_none
  | succ n ih =>
    intro y0 y1 y2
    show hp (fun S => F_X2_transition_70 fu (n + 1) y0 y1 y2 S)
    simp only [F_X2_transition_70]
    repeat' (first | apply P_X2_test | apply P_X2_takes | apply P_X2_transition_91 | apply ih | exact ih | exact hp_none | exact hp_ret | refine hp_q ?_ | refine hp_cV ?_ (fun _ => ?_) | refine hp_cI ?_ (fun _ _ => ?_) | refine hp_cR ?_ (fun _ _ => ?_) | refine hp_cD ?_ (fun _ _ => ?_) | refine hp_tI ?_ (fun _ _ => ?_) (fun _ _ => ?_) | refine hp_tR ?_ (fun _ _ => ?_) (fun _ _ => ?_) | refine hp_ite ?_ ?_ | refine hp_bput ?_ (fun _ => ?_) | refine hp_bpair hq_new (fun _ _ => ?_) | refine hp_bpair hq_lrem (fun _ _ => ?_) | refine hp_bind (fun _ => ?_) | exact hq_pI (by decide) | exact hq_pZ (by decide) | exact hq_pC (by decide) | exact hq_pR (by decide) | exact hq_pD (by decide) | exact hq_sI | exact hq_sC | exact hq_sD | exact hq_lclr | exact hq_lnew | exact hq_ladd | dsimp only)
theorem P_X2_transition_35 (fu : Nat) (x0 : Option Nat) (x1 : Option Nat) (s0 : Int32) (s1 : Option Nat)  : hp (F_X2_transition_35 fu x0 x1 s0 s1) := by
  show hp (fun S => F_X2_transition_35 fu x0 x1 s0 s1 S)
  unfold F_X2_transition_35
  repeat' (first | apply P_X2_want | apply P_X2_next | apply P_X10_init | apply P_X2_takes | apply P_X2_transition_91 | apply P_X2_transition_70 | exact hp_none | exact hp_ret | refine hp_q ?_ | refine hp_cV ?_ (fun _ => ?_) | refine hp_cI ?_ (fun _ _ => ?_) | refine hp_cR ?_ (fun _ _ => ?_) | refine hp_cD ?_ (fun _ _ => ?_) | refine hp_tI ?_ (fun _ _ => ?_) (fun _ _ => ?_) | refine hp_tR ?_ (fun _ _ => ?_) (fun _ _ => ?_) | refine hp_ite ?_ ?_ | refine hp_bput ?_ (fun _ => ?_) | refine hp_bpair hq_new (fun _ _ => ?_) | refine hp_bpair hq_lrem (fun _ _ => ?_) | refine hp_bind (fun _ => ?_) | exact hq_pI (by decide) | exact hq_pZ (by decide) | exact hq_pC (by decide) | exact hq_pR (by decide) | exact hq_pD (by decide) | exact hq_sI | exact hq_sC | exact hq_sD | exact hq_lclr | exact hq_lnew | exact hq_ladd | dsimp only)
theorem P_X2_transition_21 (fu : Nat) (x0 : Option Nat) (x1 : Option Nat) (s0 : Option Nat)  : hp (F_X2_transition_21 fu x0 x1 s0) := by
  show hp (fun S => F_X2_transition_21 fu x0 x1 s0 S)
  unfold F_X2_transition_21
  repeat' (first | apply P_X2_transition_35 | exact hp_none | exact hp_ret | refine hp_q ?_ | refine hp_cV ?_ (fun _ => ?_) | refine hp_cI ?_ (fun _ _ => ?_) | refine hp_cR ?_ (fun _ _ => ?_) | refine hp_cD ?_ (fun _ _ => ?_) | refine hp_tI ?_ (fun _ _ => ?_) (fun _ _ => ?_) | refine hp_tR ?_ (fun _ _ => ?_) (fun _ _ => ?_) | refine hp_ite ?_ ?_ | refine hp_bput ?_ (fun _ => ?_) | refine hp_bpair hq_new (fun _ _ => ?_) | refine hp_bpair hq_lrem (fun _ _ => ?_) | refine hp_bind (fun _ => ?_) | exact hq_pI (by decide) | exact hq_pZ (by decide) | exact hq_pC (by decide) | exact hq_pR (by decide) | exact hq_pD (by decide) | exact hq_sI | exact hq_sC | exact hq_sD | exact hq_lclr | exact hq_lnew | exact hq_ladd | dsimp only)
theorem P_X2_transition (fu : Nat) (x0 : Option Nat) (x1 : Option Nat)  : hp (F_X2_transition fu x0 x1) := by
  show hp (fun S => F_X2_transition fu x0 x1 S)
  unfold F_X2_transition
  repeat' (first | apply P_X2_look | apply P_X2_transition_21 | apply P_X2_isAmong | apply P_X2_transition_35 | exact hp_none | exact hp_ret | refine hp_q ?_ | refine hp_cV ?_ (fun _ => ?_) | refine hp_cI ?_ (fun _ _ => ?_) | refine hp_cR ?_ (fun _ _ => ?_) | refine hp_cD ?_ (fun _ _ => ?_) | refine hp_tI ?_ (fun _ _ => ?_) (fun _ _ => ?_) | refine hp_tR ?_ (fun _ _ => ?_) (fun _ _ => ?_) | refine hp_ite ?_ ?_ | refine hp_bput ?_ (fun _ => ?_) | refine hp_bpair hq_new (fun _ _ => ?_) | refine hp_bpair hq_lrem (fun _ _ => ?_) | refine hp_bind (fun _ => ?_) | exact hq_pI (by decide) | exact hq_pZ (by decide) | exact hq_pC (by decide) | exact hq_pR (by decide) | exact hq_pD (by decide) | exact hq_sI | exact hq_sC | exact hq_sD | exact hq_lclr | exact hq_lnew | exact hq_ladd | dsimp only)
theorem P_X2_item_45 (fu : Nat) (x0 : Option Nat)  : hp (F_X2_item_45 fu x0) := by
  show hp (fun S => F_X2_item_45 fu x0 S)
  unfold F_X2_item_45
  repeat' (first | apply P_X2_take | exact hp_none | exact hp_ret | refine hp_q ?_ | refine hp_cV ?_ (fun _ => ?_) | refine hp_cI ?_ (fun _ _ => ?_) | refine hp_cR ?_ (fun _ _ => ?_) | refine hp_cD ?_ (fun _ _ => ?_) | refine hp_tI ?_ (fun _ _ => ?_) (fun _ _ => ?_) | refine hp_tR ?_ (fun _ _ => ?_) (fun _ _ => ?_) | refine hp_ite ?_ ?_ | refine hp_bput ?_ (fun _ => ?_) | refine hp_bpair hq_new (fun _ _ => ?_) | refine hp_bpair hq_lrem (fun _ _ => ?_) | refine hp_bind (fun _ => ?_) | exact hq_pI (by decide) | exact hq_pZ (by decide) | exact hq_pC (by decide) | exact hq_pR (by decide) | exact hq_pD (by decide) | exact hq_sI | exact hq_sC | exact hq_sD | exact hq_lclr | exact hq_lnew | exact hq_ladd | dsimp only)
theorem P_X2_item (fu : Nat) (x0 : Option Nat) (x1 : Option Nat)  : hp (F_X2_item fu x0 x1) := by
  show hp (fun S => F_X2_item fu x0 x1 S)
  unfold F_X2_item
  repeat' (first | apply P_X2_takes | apply P_X2_transition | apply P_X2_item_45 | apply P_X2_actions | exact hp_none | exact hp_ret | refine hp_q ?_ | refine hp_cV ?_ (fun _ => ?_) | refine hp_cI ?_ (fun _ _ => ?_) | refine hp_cR ?_ (fun _ _ => ?_) | refine hp_cD ?_ (fun _ _ => ?_) | refine hp_tI ?_ (fun _ _ => ?_) (fun _ _ => ?_) | refine hp_tR ?_ (fun _ _ => ?_) (fun _ _ => ?_) | refine hp_ite ?_ ?_ | refine hp_bput ?_ (fun _ => ?_) | refine hp_bpair hq_new (fun _ _ => ?_) | refine hp_bpair hq_lrem (fun _ _ => ?_) | refine hp_bind (fun _ => ?_) | exact hq_pI (by decide) | exact hq_pZ (by decide) | exact hq_pC (by decide) | exact hq_pR (by decide) | exact hq_pD (by decide) | exact hq_sI | exact hq_sC | exact hq_sD | exact hq_lclr | exact hq_lnew | exact hq_ladd | dsimp only)
theorem P_X5_bit (fu : Nat) (x0 : Option Nat)  : hp (F_X5_bit fu x0) := by
  show hp (fun S => F_X5_bit fu x0 S)
  unfold F_X5_bit
  repeat' (first | exact hp_none | exact hp_ret | refine hp_q ?_ | refine hp_cV ?_ (fun _ => ?_) | refine hp_cI ?_ (fun _ _ => ?_) | refine hp_cR ?_ (fun _ _ => ?_) | refine hp_cD ?_ (fun _ _ => ?_) | refine hp_tI ?_ (fun _ _ => ?_) (fun _ _ => ?_) | refine hp_tR ?_ (fun _ _ => ?_) (fun _ _ => ?_) | refine hp_ite ?_ ?_ | refine hp_bput ?_ (fun _ => ?_) | refine hp_bpair hq_new (fun _ _ => ?_) | refine hp_bpair hq_lrem (fun _ _ => ?_) | refine hp_bind (fun _ => ?_) | exact hq_pI (by decide) | exact hq_pZ (by decide) | exact hq_pC (by decide) | exact hq_pR (by decide) | exact hq_pD (by decide) | exact hq_sI | exact hq_sC | exact hq_sD | exact hq_lclr | exact hq_lnew | exact hq_ladd | dsimp only)
theorem P_X5_init (fu : Nat) (x0 : Option Nat) (x1 : Int32) (x2 : Option Nat)  : hp (F_X5_init fu x0 x1 x2) := by
  show hp (fun S => F_X5_init fu x0 x1 x2 S)
  unfold F_X5_init
  repeat' (first | exact hp_none | exact hp_ret | refine hp_q ?_ | refine hp_cV ?_ (fun _ => ?_) | refine hp_cI ?_ (fun _ _ => ?_) | refine hp_cR ?_ (fun _ _ => ?_) | refine hp_cD ?_ (fun _ _ => ?_) | refine hp_tI ?_ (fun _ _ => ?_) (fun _ _ => ?_) | refine hp_tR ?_ (fun _ _ => ?_) (fun _ _ => ?_) | refine hp_ite ?_ ?_ | refine hp_bput ?_ (fun _ => ?_) | refine hp_bpair hq_new (fun _ _ => ?_) | refine hp_bpair hq_lrem (fun _ _ => ?_) | refine hp_bind (fun _ => ?_) | exact hq_pI (by decide) | exact hq_pZ (by decide) | exact hq_pC (by decide) | exact hq_pR (by decide) | exact hq_pD (by decide) | exact hq_sI | exact hq_sC | exact hq_sD | exact hq_lclr | exact hq_lnew | exact hq_ladd | dsimp only)
theorem P_X2_state_254 (fu : Nat) (rc : Option Nat → Option Nat → Int32 → gm_S → gR) (h_rc : ∀ a0 a1 a2, hp (rc a0 a1 a2)) : ∀ (n : Nat) (y0 : Option Nat) (y1 : Option Nat), hp (F_X2_state_254 fu rc n y0 y1) := by
  intro n
  induction n with
  | zero => intro y0 y1; exact hp_none
  | succ n ih =>
    intro y0 y1
    show hp (fun S => F_X2_state_254 fu rc (n + 1) y0 y1 S)
    simp only [F_X2_state_254]
    repeat' (first | apply h_rc | exact h_rc | apply P_X2_takes | apply P_X2_item | apply ih | exact ih | exact hp_none | exact hp_ret | refine hp_q ?_ | refine hp_cV ?_ (fun _ => ?_) | refine hp_cI ?_ (fun _ _ => ?_) | refine hp_cR ?_ (fun _ _ => ?_) | refine hp_cD ?_ (fun _ _ => ?_) | refine hp_tI ?_ (fun _ _ => ?_) (fun _ _ => ?_) | refine hp_tR ?_ (fun _ _ => ?_) (fun _ _ => ?_) | refine hp_ite ?_ ?_ | refine hp_bput ?_ (fun _ => ?_) | refine hp_bpair hq_new (fun _ _ => ?_) | refine hp_bpair hq_lrem (fun _ _ => ?_) | refine hp_bind (fun _ => ?_) | exact hq_pI (by decide) | exact hq_pZ (by decide) | exact hq_pC (by decide) | exact hq_pR (by decide) | exact hq_pD (by decide) | exact hq_sI | exact hq_sC | exact hq_sD | exact hq_lclr | exact hq_lnew | exact hq_ladd | dsimp only)
theorem P_X2_state_193 (fu : Nat) (rc : Option Nat → Option Nat → Int32 → gm_S → gR) (h_rc : ∀ a0 a1 a2, hp (rc a0 a1 a2)) : ∀ (n : Nat) (y0 : Option Nat) (y1 : Option Nat) (y2 : Int32), hp (F_X2_state_193 fu rc n y0 y1 y2) := by
  intro n
  induction n with
  | zero => intro y0 y1 y2; exact hp_none
  | succ n ih =>
    intro y0 y1 y2
    show hp (fun S => F_X2_state_193 fu rc (n + 1) y0 y1 y2 S)
    simp only [F_X2_state_193]
    repeat' (first | apply h_rc | exact h_rc | apply P_X2_takes | apply P_X2_state_254 | apply P_X5_bit | apply ih | exact ih | exact hp_none | exact hp_ret | refine hp_q ?_ | refine hp_cV ?_ (fun _ => ?_) | refine hp_cI ?_ (fun _ _ => ?_) | refine hp_cR ?_ (fun _ _ => ?_) | refine hp_cD ?_ (fun _ _ => ?_) | refine hp_tI ?_ (fun _ _ => ?_) (fun _ _ => ?_) | refine hp_tR ?_ (fun _ _ => ?_) (fun _ _ => ?_) | refine hp_ite ?_ ?_ | refine hp_bput ?_ (fun _ => ?_) | refine hp_bpair hq_new (fun _ _ => ?_) | refine hp_bpair hq_lrem (fun _ _ => ?_) | refine hp_bind (fun _ => ?_) | exact hq_pI (by decide) | exact hq_pZ (by decide) | exact hq_pC (by decide) | exact hq_pR (by decide) | exact hq_pD (by decide) | exact hq_sI | exact hq_sC | exact hq_sD | exact hq_lclr | exact hq_lnew | exact hq_ladd | dsimp only)
theorem P_X2_state_146 (fu : Nat) (rc : Option Nat → Option Nat → Int32 → gm_S → gR) (h_rc : ∀ a0 a1 a2, hp (rc a0 a1 a2)) : ∀ (n : Nat) (y0 : Option Nat) (y1 : Int32) (y2 : Option Nat), hp (F_X2_state_146 fu rc n y0 y1 y2) := by
  intro n
  induction n with
  | zero => intro y0 y1 y2; exact hp_none
  | succ n ih =>
    intro y0 y1 y2
    show hp (fun S => F_X2_state_146 fu rc (n + 1) y0 y1 y2 S)
    simp only [F_X2_state_146]
    repeat' (first | apply h_rc | exact h_rc | apply P_X2_isAmong | apply P_X2_take | apply P_X2_state_193 | apply ih | exact ih | exact hp_none | exact hp_ret | refine hp_q ?_ | refine hp_cV ?_ (fun _ => ?_) | refine hp_cI ?_ (fun _ _ => ?_) | refine hp_cR ?_ (fun _ _ => ?_) | refine hp_cD ?_ (fun _ _ => ?_) | refine hp_tI ?_ (fun _ _ => ?_) (fun _ _ => ?_) | refine hp_tR ?_ (fun _ _ => ?_) (fun _ _ => ?_) | refine hp_ite ?_ ?_ | refine hp_bput ?_ (fun _ => ?_) | refine hp_bpair hq_new (fun _ _ => ?_) | refine hp_bpair hq_lrem (fun _ _ => ?_) | refine hp_bind (fun _ => ?_) | exact hq_pI (by decide) | exact hq_pZ (by decide) | exact hq_pC (by decide) | exact hq_pR (by decide) | exact hq_pD (by decide) | exact hq_sI | exact hq_sC | exact hq_sD | exact hq_lclr | exact hq_lnew | exact hq_ladd | dsimp only)
theorem P_X2_state_96 (fu : Nat) (rc : Option Nat → Option Nat → Int32 → gm_S → gR) (h_rc : ∀ a0 a1 a2, hp (rc a0 a1 a2)) : ∀ (n : Nat) (y0 : Option Nat) (y1 : Int32) (y2 : Option Nat), hp (F_X2_state_96 fu rc n y0 y1 y2) := by
  intro n
  induction n with
  | zero => intro y0 y1 y2; exact hp_none
  | succ n ih =>
    intro y0 y1 y2
    show hp (fun S => F_X2_state_96 fu rc (n + 1) y0 y1 y2 S)
    simp only [F_X2_state_96]
    repeat' (first | apply h_rc | exact h_rc | apply P_X2_isAmong | apply P_X2_take | apply P_X2_state_193 | apply ih | exact ih | exact hp_none | exact hp_ret | refine hp_q ?_ | refine hp_cV ?_ (fun _ => ?_) | refine hp_cI ?_ (fun _ _ => ?_) | refine hp_cR ?_ (fun _ _ => ?_) | refine hp_cD ?_ (fun _ _ => ?_) | refine hp_tI ?_ (fun _ _ => ?_) (fun _ _ => ?_) | refine hp_tR ?_ (fun _ _ => ?_) (fun _ _ => ?_) | refine hp_ite ?_ ?_ | refine hp_bput ?_ (fun _ => ?_) | refine hp_bpair hq_new (fun _ _ => ?_) | refine hp_bpair hq_lrem (fun _ _ => ?_) | refine hp_bind (fun _ => ?_) | exact hq_pI (by decide) | exact hq_pZ (by decide) | exact hq_pC (by decide) | exact hq_pR (by decide) | exact hq_pD (by decide) | exact hq_sI | exact hq_sC | exact hq_sD | exact hq_lclr | exact hq_lnew | exact hq_ladd | dsimp only)
theorem P_X2_state_38 (fu : Nat) (rc : Option Nat → Option Nat → Int32 → gm_S → gR) (x0 : Option Nat) (x1 : Option Nat) (x2 : Int32) (s0 : Int32) (s1 : Option Nat) (h_rc : ∀ a0 a1 a2, hp (rc a0 a1 a2)) : hp (F_X2_state_38 fu rc x0 x1 x2 s0 s1) := by
  show hp (fun S => F_X2_state_38 fu rc x0 x1 x2 s0 s1 S)
  unfold F_X2_state_38
  repeat' (first | apply h_rc | exact h_rc | apply P_X2_want | apply P_X5_init | apply P_X2_next | apply P_X2_takes | apply P_X2_state_193 | apply P_X2_state_146 | apply P_X2_state_96 | exact hp_none | exact hp_ret | refine hp_q ?_ | refine hp_cV ?_ (fun _ => ?_) | refine hp_cI ?_ (fun _ _ => ?_) | refine hp_cR ?_ (fun _ _ => ?_) | refine hp_cD ?_ (fun _ _ => ?_) | refine hp_tI ?_ (fun _ _ => ?_) (fun _ _ => ?_) | refine hp_tR ?_ (fun _ _ => ?_) (fun _ _ => ?_) | refine hp_ite ?_ ?_ | refine hp_bput ?_ (fun _ => ?_) | refine hp_bpair hq_new (fun _ _ => ?_) | refine hp_bpair hq_lrem (fun _ _ => ?_) | refine hp_bind (fun _ => ?_) | exact hq_pI (by decide) | exact hq_pZ (by decide) | exact hq_pC (by decide) | exact hq_pR (by decide) | exact hq_pD (by decide) | exact hq_sI | exact hq_sC | exact hq_sD | exact hq_lclr | exact hq_lnew | exact hq_ladd | dsimp only)
theorem P_X2_state_e (fu : Nat) (rc : Option Nat → Option Nat → Int32 → gm_S → gR) (x0 : Option Nat) (x1 : Option Nat) (x2 : Int32) (h_rc : ∀ a0 a1 a2, hp (rc a0 a1 a2)) : hp (F_X2_state_e fu rc x0 x1 x2) := by
  show hp (fun S => F_X2_state_e fu rc x0 x1 x2 S)
  unfold F_X2_state_e
  repeat' (first | apply h_rc | exact h_rc | apply P_X2_isAmong | apply P_X2_state_38 | apply P_X2_look | exact hp_none | exact hp_ret | refine hp_q ?_ | refine hp_cV ?_ (fun _ => ?_) | refine hp_cI ?_ (fun _ _ => ?_) | refine hp_cR ?_ (fun _ _ => ?_) | refine hp_cD ?_ (fun _ _ => ?_) | refine hp_tI ?_ (fun _ _ => ?_) (fun _ _ => ?_) | refine hp_tR ?_ (fun _ _ => ?_) (fun _ _ => ?_) | refine hp_ite ?_ ?_ | refine hp_bput ?_ (fun _ => ?_) | refine hp_bpair hq_new (fun _ _ => ?_) | refine hp_bpair hq_lrem (fun _ _ => ?_) | refine hp_bind (fun _ => ?_) | exact hq_pI (by decide) | exact hq_pZ (by decide) | exact hq_pC (by decide) | exact hq_pR (by decide) | exact hq_pD (by decide) | exact hq_sI | exact hq_sC | exact hq_sD | exact hq_lclr | exact hq_lnew | exact hq_ladd | dsimp only)
theorem P_X2_state (fu : Nat)  : ∀ (n : Nat) (y0 : Option Nat) (y1 : Option Nat) (y2 : Int32), hp (F_X2_state fu n y0 y1 y2) := by
  intro n
  induction n with
  | zero => intro y0 y1 y2; exact hp_none
  | succ n ih =>
    intro y0 y1 y2
    show hp (fun S => F_X2_state fu (n + 1) y0 y1 y2 S)
    simp only [F_X2_state]
    repeat' (first | apply P_X2_state_e | apply ih | exact ih | exact hp_none | exact hp_ret | refine hp_q ?_ | refine hp_cV ?_ (fun _ => ?_) | refine hp_cI ?_ (fun _ _ => ?_) | refine hp_cR ?_ (fun _ _ => ?_) | refine hp_cD ?_ (fun _ _ => ?_) | refine hp_tI ?_ (fun _ _ => ?_) (fun _ _ => ?_) | refine hp_tR ?_ (fun _ _ => ?_) (fun _ _ => ?_) | refine hp_ite ?_ ?_ | refine hp_bput ?_ (fun _ => ?_) | refine hp_bpair hq_new (fun _ _ => ?_) | refine hp_bpair hq_lrem (fun _ _ => ?_) | refine hp_bind (fun _ => ?_) | exact hq_pI (by decide) | exact hq_pZ (by decide) | exact hq_pC (by decide) | exact hq_pR (by decide) | exact hq_pD (by decide) | exact hq_sI | exact hq_sC | exact hq_sD | exact hq_lclr | exact hq_lnew | exact hq_ladd | dsimp only)
theorem P_X2_chart_174 (fu : Nat) (k87 : Option Nat → Option Nat → Int32 → gm_S → gR) (x0 : Option Nat) (x1 : Option Nat) (x2 : Int32) (s0 : Int32) (s1 : Option Nat) (h_k87 : ∀ a0 a1 a2, hp (k87 a0 a1 a2)) : hp (F_X2_chart_174 fu k87 x0 x1 x2 s0 s1) := by
  show hp (fun S => F_X2_chart_174 fu k87 x0 x1 x2 s0 s1 S)
  unfold F_X2_chart_174
  repeat' (first | apply h_k87 | exact h_k87 | apply P_X2_want | exact hp_none | exact hp_ret | refine hp_q ?_ | refine hp_cV ?_ (fun _ => ?_) | refine hp_cI ?_ (fun _ _ => ?_) | refine hp_cR ?_ (fun _ _ => ?_) | refine hp_cD ?_ (fun _ _ => ?_) | refine hp_tI ?_ (fun _ _ => ?_) (fun _ _ => ?_) | refine hp_tR ?_ (fun _ _ => ?_) (fun _ _ => ?_) | refine hp_ite ?_ ?_ | refine hp_bput ?_ (fun _ => ?_) | refine hp_bpair hq_new (fun _ _ => ?_) | refine hp_bpair hq_lrem (fun _ _ => ?_) | refine hp_bind (fun _ => ?_) | exact hq_pI (by decide) | exact hq_pZ (by decide) | exact hq_pC (by decide) | exact hq_pR (by decide) | exact hq_pD (by decide) | exact hq_sI | exact hq_sC | exact hq_sD | exact hq_lclr | exact hq_lnew | exact hq_ladd | dsimp only)
theorem P_X2_chart_87 (fu : Nat)  : ∀ (n : Nat) (y0 : Option Nat) (y1 : Option Nat) (y2 : Int32), hp (F_X2_chart_87 fu n y0 y1 y2) := by
  intro n
  induction n with
  | zero => intro y0 y1 y2; exact hp_none
  | succ n ih =>
    intro y0 y1 y2
    show hp (fun S => F_X2_chart_87 fu (n + 1) y0 y1 y2 S)
    simp only [F_X2_chart_87]
    repeat' (first | apply P_X2_chart_174 | apply ih | exact ih | exact hp_none | exact hp_ret | refine hp_q ?_ | refine hp_cV ?_ (fun _ => ?_) | refine hp_cI ?_ (fun _ _ => ?_) | refine hp_cR ?_ (fun _ _ => ?_) | refine hp_cD ?_ (fun _ _ => ?_) | refine hp_tI ?_ (fun _ _ => ?_) (fun _ _ => ?_) | refine hp_tR ?_ (fun _ _ => ?_) (fun _ _ => ?_) | refine hp_ite ?_ ?_ | refine hp_bput ?_ (fun _ => ?_) | refine hp_bpair hq_new (fun _ _ => ?_) | refine hp_bpair hq_lrem (fun _ _ => ?_) | refine hp_bind (fun _ => ?_) | exact hq_pI (by decide) | exact hq_pZ (by decide) | exact hq_pC (by decide) | exact hq_pR (by decide) | exact hq_pD (by decide) | exact hq_sI | exact hq_sC | exact hq_sD | exact hq_lclr | exact hq_lnew | exact hq_ladd | dsimp only)
theorem P_X2_chart_82 (fu : Nat) (x0 : Option Nat) (x1 : Option Nat) (s0 : Int32) (s1 : Option Nat)  : hp (F_X2_chart_82 fu x0 x1 s0 s1) := by
  show hp (fun S => F_X2_chart_82 fu x0 x1 s0 s1 S)
  unfold F_X2_chart_82
  repeat' (first | apply P_X2_want | apply P_X2_chart_87 | exact hp_none | exact hp_ret | refine hp_q ?_ | refine hp_cV ?_ (fun _ => ?_) | refine hp_cI ?_ (fun _ _ => ?_) | refine hp_cR ?_ (fun _ _ => ?_) | refine hp_cD ?_ (fun _ _ => ?_) | refine hp_tI ?_ (fun _ _ => ?_) (fun _ _ => ?_) | refine hp_tR ?_ (fun _ _ => ?_) (fun _ _ => ?_) | refine hp_ite ?_ ?_ | refine hp_bput ?_ (fun _ => ?_) | refine hp_bpair hq_new (fun _ _ => ?_) | refine hp_bpair hq_lrem (fun _ _ => ?_) | refine hp_bind (fun _ => ?_) | exact hq_pI (by decide) | exact hq_pZ (by decide) | exact hq_pC (by decide) | exact hq_pR (by decide) | exact hq_pD (by decide) | exact hq_sI | exact hq_sC | exact hq_sD | exact hq_lclr | exact hq_lnew | exact hq_ladd | dsimp only)
theorem P_X2_chart_39 (fu : Nat)  : ∀ (n : Nat) (y0 : Option Nat) (y1 : Int32), hp (F_X2_chart_39 fu n y0 y1) := by
  intro n
  induction n with
  | zero => intro y0 y1; exact hp_none
  | succ n ih =>
    intro y0 y1
    show hp (fun S => F_X2_chart_39 fu (n + 1) y0 y1 S)
    simp only [F_X2_chart_39]
    repeat' (first | apply P_X2_state | apply P_X2_chart_82 | apply ih | exact ih | exact hp_none | exact hp_ret | refine hp_q ?_ | refine hp_cV ?_ (fun _ => ?_) | refine hp_cI ?_ (fun _ _ => ?_) | refine hp_cR ?_ (fun _ _ => ?_) | refine hp_cD ?_ (fun _ _ => ?_) | refine hp_tI ?_ (fun _ _ => ?_) (fun _ _ => ?_) | refine hp_tR ?_ (fun _ _ => ?_) (fun _ _ => ?_) | refine hp_ite ?_ ?_ | refine hp_bput ?_ (fun _ => ?_) | refine hp_bpair hq_new (fun _ _ => ?_) | refine hp_bpair hq_lrem (fun _ _ => ?_) | refine hp_bind (fun _ => ?_) | exact hq_pI (by decide) | exact hq_pZ (by decide) | exact hq_pC (by decide) | exact hq_pR (by decide) | exact hq_pD (by decide) | exact hq_sI | exact hq_sC | exact hq_sD | exact hq_lclr | exact hq_lnew | exact hq_ladd | dsimp only)
theorem P_X2_chart (fu : Nat) (x0 : Option Nat)  : hp (F_X2_chart fu x0) := by
  show hp (fun S => F_X2_chart fu x0 S)
  unfold F_X2_chart
  repeat' (first | apply P_X2_chart_39 | exact hp_none | exact hp_ret | refine hp_q ?_ | refine hp_cV ?_ (fun _ => ?_) | refine hp_cI ?_ (fun _ _ => ?_) | refine hp_cR ?_ (fun _ _ => ?_) | refine hp_cD ?_ (fun _ _ => ?_) | refine hp_tI ?_ (fun _ _ => ?_) (fun _ _ => ?_) | refine hp_tR ?_ (fun _ _ => ?_) (fun _ _ => ?_) | refine hp_ite ?_ ?_ | refine hp_bput ?_ (fun _ => ?_) | refine hp_bpair hq_new (fun _ _ => ?_) | refine hp_bpair hq_lrem (fun _ _ => ?_) | refine hp_bind (fun _ => ?_) | exact hq_pI (by decide) | exact hq_pZ (by decide) | exact hq_pC (by decide) | exact hq_pR (by decide) | exact hq_pD (by decide) | exact hq_sI | exact hq_sC | exact hq_sD | exact hq_lclr | exact hq_lnew | exact hq_ladd | dsimp only)
theorem P_X3_clear_2 (fu : Nat)  : ∀ (n : Nat) (y0 : Option Nat) (y1 : Int32), hp (F_X3_clear_2 fu n y0 y1) := by
  intro n
  induction n with
  | zero => intro y0 y1; exact hp_none
  | succ n ih =>
    intro y0 y1
    show hp (fun S => F_X3_clear_2 fu (n + 1) y0 y1 S)
    simp only [F_X3_clear_2]
    repeat' (first | apply ih | exact ih | exact hp_none | exact hp_ret | refine hp_q ?_ | refine hp_cV ?_ (fun _ => ?_) | refine hp_cI ?_ (fun _ _ => ?_) | refine hp_cR ?_ (fun _ _ => ?_) | refine hp_cD ?_ (fun _ _ => ?_) | refine hp_tI ?_ (fun _ _ => ?_) (fun _ _ => ?_) | refine hp_tR ?_ (fun _ _ => ?_) (fun _ _ => ?_) | refine hp_ite ?_ ?_ | refine hp_bput ?_ (fun _ => ?_) | refine hp_bpair hq_new (fun _ _ => ?_) | refine hp_bpair hq_lrem (fun _ _ => ?_) | refine hp_bind (fun _ => ?_) | exact hq_pI (by decide) | exact hq_pZ (by decide) | exact hq_pC (by decide) | exact hq_pR (by decide) | exact hq_pD (by decide) | exact hq_sI | exact hq_sC | exact hq_sD | exact hq_lclr | exact hq_lnew | exact hq_ladd | dsimp only)
theorem P_X3_clear (fu : Nat) (x0 : Option Nat)  : hp (F_X3_clear fu x0) := by
  show hp (fun S => F_X3_clear fu x0 S)
  unfold F_X3_clear
  repeat' (first | apply P_X3_clear_2 | exact hp_none | exact hp_ret | refine hp_q ?_ | refine hp_cV ?_ (fun _ => ?_) | refine hp_cI ?_ (fun _ _ => ?_) | refine hp_cR ?_ (fun _ _ => ?_) | refine hp_cD ?_ (fun _ _ => ?_) | refine hp_tI ?_ (fun _ _ => ?_) (fun _ _ => ?_) | refine hp_tR ?_ (fun _ _ => ?_) (fun _ _ => ?_) | refine hp_ite ?_ ?_ | refine hp_bput ?_ (fun _ => ?_) | refine hp_bpair hq_new (fun _ _ => ?_) | refine hp_bpair hq_lrem (fun _ _ => ?_) | refine hp_bind (fun _ => ?_) | exact hq_pI (by decide) | exact hq_pZ (by decide) | exact hq_pC (by decide) | exact hq_pR (by decide) | exact hq_pD (by decide) | exact hq_sI | exact hq_sC | exact hq_sD | exact hq_lclr | exact hq_lnew | exact hq_ladd | dsimp only)
end HPB
