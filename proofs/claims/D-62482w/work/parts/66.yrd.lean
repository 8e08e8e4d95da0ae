/-! LAYER 2: rows of longs stay: every function of the component (printed by gen3.py) -/
set_option maxRecDepth 100000
section HPC
theorem P_X3_build (fu : Nat) (x0 : Option Nat) (x1 : Option Nat)  : hp (F_X3_build fu x0 x1) := by
  show hp (fun S => F_X3_build fu x0 x1 S)
  unfold F_X3_build
  repeat' (first | apply P_X3_clear | exact hp_none | exact hp_ret | refine hp_q ?_ | refine hp_cV ?_ (fun _ => ?_) | refine hp_cI ?_ (fun _ _ => ?_) | refine hp_cR ?_ (fun _ _ => ?_) | refine hp_cD ?_ (fun _ _ => ?_) | refine hp_tI ?_ (fun _ _ => ?_) (fun _ _ => ?_) | refine hp_tR ?_ (fun _ _ => ?_) (fun _ _ => ?_) | refine hp_ite ?_ ?_ | refine hp_bput ?_ (fun _ => ?_) | refine hp_bpair hq_new (fun _ _ => ?_) | refine hp_bpair hq_lrem (fun _ _ => ?_) | refine hp_bind (fun _ => ?_) | exact hq_pI (by decide) | exact hq_pZ (by decide) | exact hq_pC (by decide) | exact hq_pR (by decide) | exact hq_pD (by decide) | exact hq_sI | exact hq_sC | exact hq_sD | exact hq_lclr | exact hq_lnew | exact hq_ladd | dsimp only)
theorem P_X1_build_58 (fu : Nat)  : ∀ (n : Nat) (y0 : Option Nat) (y1 : Int32), hp (F_X1_build_58 fu n y0 y1) := by
  intro n
  induction n with
  | zero => intro y0 y1; exact hp_none
  | succ n ih =>
    intro y0 y1
    show hp (fun S => F_X1_build_58 fu (n + 1) y0 y1 S)
    simp only [F_X1_build_58]
    repeat' (first | apply P_X3_build | apply ih | exact ih | exact hp_none | exact hp_ret | refine hp_q ?_ | refine hp_cV ?_ (fun _ => ?_) | refine hp_cI ?_ (fun _ _ => ?_) | refine hp_cR ?_ (fun _ _ => ?_) | refine hp_cD ?_ (fun _ _ => ?_) | refine hp_tI ?_ (fun _ _ => ?_) (fun _ _ => ?_) | refine hp_tR ?_ (fun _ _ => ?_) (fun _ _ => ?_) | refine hp_ite ?_ ?_ | refine hp_bput ?_ (fun _ => ?_) | refine hp_bpair hq_new (fun _ _ => ?_) | refine hp_bpair hq_lrem (fun _ _ => ?_) | refine hp_bind (fun _ => ?_) | exact hq_pI (by decide) | exact hq_pZ (by decide) | exact hq_pC (by decide) | exact hq_pR (by decide) | exact hq_pD (by decide) | exact hq_sI | exact hq_sC | exact hq_sD | exact hq_lclr | exact hq_lnew | exact hq_ladd | dsimp only)
theorem P_X1_build_28 (fu : Nat) (x0 : Option Nat)  : hp (F_X1_build_28 fu x0) := by
  show hp (fun S => F_X1_build_28 fu x0 S)
  unfold F_X1_build_28
  repeat' (first | apply P_X1_build_58 | exact hp_none | exact hp_ret | refine hp_q ?_ | refine hp_cV ?_ (fun _ => ?_) | refine hp_cI ?_ (fun _ _ => ?_) | refine hp_cR ?_ (fun _ _ => ?_) | refine hp_cD ?_ (fun _ _ => ?_) | refine hp_tI ?_ (fun _ _ => ?_) (fun _ _ => ?_) | refine hp_tR ?_ (fun _ _ => ?_) (fun _ _ => ?_) | refine hp_ite ?_ ?_ | refine hp_bput ?_ (fun _ => ?_) | refine hp_bpair hq_new (fun _ _ => ?_) | refine hp_bpair hq_lrem (fun _ _ => ?_) | refine hp_bind (fun _ => ?_) | exact hq_pI (by decide) | exact hq_pZ (by decide) | exact hq_pC (by decide) | exact hq_pR (by decide) | exact hq_pD (by decide) | exact hq_sI | exact hq_sC | exact hq_sD | exact hq_lclr | exact hq_lnew | exact hq_ladd | dsimp only)
theorem P_X1_build (fu : Nat) (x0 : Option Nat)  : hp (F_X1_build fu x0) := by
  show hp (fun S => F_X1_build fu x0 S)
  unfold F_X1_build
  repeat' (first | apply P_X2_chart | apply P_X1_build_28 | exact hp_none | exact hp_ret | refine hp_q ?_ | refine hp_cV ?_ (fun _ => ?_) | refine hp_cI ?_ (fun _ _ => ?_) | refine hp_cR ?_ (fun _ _ => ?_) | refine hp_cD ?_ (fun _ _ => ?_) | refine hp_tI ?_ (fun _ _ => ?_) (fun _ _ => ?_) | refine hp_tR ?_ (fun _ _ => ?_) (fun _ _ => ?_) | refine hp_ite ?_ ?_ | refine hp_bput ?_ (fun _ => ?_) | refine hp_bpair hq_new (fun _ _ => ?_) | refine hp_bpair hq_lrem (fun _ _ => ?_) | refine hp_bind (fun _ => ?_) | exact hq_pI (by decide) | exact hq_pZ (by decide) | exact hq_pC (by decide) | exact hq_pR (by decide) | exact hq_pD (by decide) | exact hq_sI | exact hq_sC | exact hq_sD | exact hq_lclr | exact hq_lnew | exact hq_ladd | dsimp only)
theorem P_X3_aim_171 (fu : Nat) (x0 : Option Nat) (x1 : Option Nat) (x5 : Option Nat) (s0 : Int32) (s1 : Option Nat)  : hp (F_X3_aim_171 fu x0 x1 x5 s0 s1) := by
  show hp (fun S => F_X3_aim_171 fu x0 x1 x5 s0 s1 S)
  unfold F_X3_aim_171
  repeat' (first | exact hp_none | exact hp_ret | refine hp_q ?_ | refine hp_cV ?_ (fun _ => ?_) | refine hp_cI ?_ (fun _ _ => ?_) | refine hp_cR ?_ (fun _ _ => ?_) | refine hp_cD ?_ (fun _ _ => ?_) | refine hp_tI ?_ (fun _ _ => ?_) (fun _ _ => ?_) | refine hp_tR ?_ (fun _ _ => ?_) (fun _ _ => ?_) | refine hp_ite ?_ ?_ | refine hp_bput ?_ (fun _ => ?_) | refine hp_bpair hq_new (fun _ _ => ?_) | refine hp_bpair hq_lrem (fun _ _ => ?_) | refine hp_bind (fun _ => ?_) | exact hq_pI (by decide) | exact hq_pZ (by decide) | exact hq_pC (by decide) | exact hq_pR (by decide) | exact hq_pD (by decide) | exact hq_sI | exact hq_sC | exact hq_sD | exact hq_lclr | exact hq_lnew | exact hq_ladd | dsimp only)
theorem P_X3_aim_156 (fu : Nat) (x0 : Option Nat) (x1 : Option Nat) (x5 : Option Nat)  : hp (F_X3_aim_156 fu x0 x1 x5) := by
  show hp (fun S => F_X3_aim_156 fu x0 x1 x5 S)
  unfold F_X3_aim_156
  repeat' (first | apply P_X3_aim_171 | exact hp_none | exact hp_ret | refine hp_q ?_ | refine hp_cV ?_ (fun _ => ?_) | refine hp_cI ?_ (fun _ _ => ?_) | refine hp_cR ?_ (fun _ _ => ?_) | refine hp_cD ?_ (fun _ _ => ?_) | refine hp_tI ?_ (fun _ _ => ?_) (fun _ _ => ?_) | refine hp_tR ?_ (fun _ _ => ?_) (fun _ _ => ?_) | refine hp_ite ?_ ?_ | refine hp_bput ?_ (fun _ => ?_) | refine hp_bpair hq_new (fun _ _ => ?_) | refine hp_bpair hq_lrem (fun _ _ => ?_) | refine hp_bind (fun _ => ?_) | exact hq_pI (by decide) | exact hq_pZ (by decide) | exact hq_pC (by decide) | exact hq_pR (by decide) | exact hq_pD (by decide) | exact hq_sI | exact hq_sC | exact hq_sD | exact hq_lclr | exact hq_lnew | exact hq_ladd | dsimp only)
theorem P_X3_aim_119 (fu : Nat)  : ∀ (n : Nat) (y0 : Option Nat) (y1 : Option Nat) (y2 : Int32) (y3 : Option Nat), hp (F_X3_aim_119 fu n y0 y1 y2 y3) := by
  intro n
  induction n with
  | zero => intro y0 y1 y2 y3; exact hp_none
  | succ n ih =>
    intro y0 y1 y2 y3
    show hp (fun S => F_X3_aim_119 fu (n + 1) y0 y1 y2 y3 S)
    simp only [F_X3_aim_119]
    repeat' (first | apply P_X3_aim_156 | apply ih | exact ih | exact hp_none | exact hp_ret | refine hp_q ?_ | refine hp_cV ?_ (fun _ => ?_) | refine hp_cI ?_ (fun _ _ => ?_) | refine hp_cR ?_ (fun _ _ => ?_) | refine hp_cD ?_ (fun _ _ => ?_) | refine hp_tI ?_ (fun _ _ => ?_) (fun _ _ => ?_) | refine hp_tR ?_ (fun _ _ => ?_) (fun _ _ => ?_) | refine hp_ite ?_ ?_ | refine hp_bput ?_ (fun _ => ?_) | refine hp_bpair hq_new (fun _ _ => ?_) | refine hp_bpair hq_lrem (fun _ _ => ?_) | refine hp_bind (fun _ => ?_) | exact hq_pI (by decide) | exact hq_pZ (by decide) | exact hq_pC (by decide) | exact hq_pR (by decide) | exact hq_pD (by decide) | exact hq_sI | exact hq_sC | exact hq_sD | exact hq_lclr | exact hq_lnew | exact hq_ladd | dsimp only)
theorem P_X3_aim_96 (fu : Nat) (x0 : Option Nat) (x1 : Option Nat)  : hp (F_X3_aim_96 fu x0 x1) := by
  show hp (fun S => F_X3_aim_96 fu x0 x1 S)
  unfold F_X3_aim_96
  repeat' (first | apply P_X5_bit | apply P_X3_aim_119 | exact hp_none | exact hp_ret | refine hp_q ?_ | refine hp_cV ?_ (fun _ => ?_) | refine hp_cI ?_ (fun _ _ => ?_) | refine hp_cR ?_ (fun _ _ => ?_) | refine hp_cD ?_ (fun _ _ => ?_) | refine hp_tI ?_ (fun _ _ => ?_) (fun _ _ => ?_) | refine hp_tR ?_ (fun _ _ => ?_) (fun _ _ => ?_) | refine hp_ite ?_ ?_ | refine hp_bput ?_ (fun _ => ?_) | refine hp_bpair hq_new (fun _ _ => ?_) | refine hp_bpair hq_lrem (fun _ _ => ?_) | refine hp_bind (fun _ => ?_) | exact hq_pI (by decide) | exact hq_pZ (by decide) | exact hq_pC (by decide) | exact hq_pR (by decide) | exact hq_pD (by decide) | exact hq_sI | exact hq_sC | exact hq_sD | exact hq_lclr | exact hq_lnew | exact hq_ladd | dsimp only)
theorem P_X3_aim_78 (fu : Nat) (x0 : Option Nat) (x1 : Option Nat) (x2 : Option Nat) (s0 : Int32) (s1 : Option Nat)  : hp (F_X3_aim_78 fu x0 x1 x2 s0 s1) := by
  show hp (fun S => F_X3_aim_78 fu x0 x1 x2 s0 s1 S)
  unfold F_X3_aim_78
  repeat' (first | apply P_X5_bit | apply P_X3_aim_96 | exact hp_none | exact hp_ret | refine hp_q ?_ | refine hp_cV ?_ (fun _ => ?_) | refine hp_cI ?_ (fun _ _ => ?_) | refine hp_cR ?_ (fun _ _ => ?_) | refine hp_cD ?_ (fun _ _ => ?_) | refine hp_tI ?_ (fun _ _ => ?_) (fun _ _ => ?_) | refine hp_tR ?_ (fun _ _ => ?_) (fun _ _ => ?_) | refine hp_ite ?_ ?_ | refine hp_bput ?_ (fun _ => ?_) | refine hp_bpair hq_new (fun _ _ => ?_) | refine hp_bpair hq_lrem (fun _ _ => ?_) | refine hp_bind (fun _ => ?_) | exact hq_pI (by decide) | exact hq_pZ (by decide) | exact hq_pC (by decide) | exact hq_pR (by decide) | exact hq_pD (by decide) | exact hq_sI | exact hq_sC | exact hq_sD | exact hq_lclr | exact hq_lnew | exact hq_ladd | dsimp only)
theorem P_X3_aim (fu : Nat) (x0 : Option Nat) (x1 : Option Nat)  : hp (F_X3_aim fu x0 x1) := by
  show hp (fun S => F_X3_aim fu x0 x1 S)
  unfold F_X3_aim
  repeat' (first | apply P_X3_aim_78 | apply P_X5_bit | exact hp_none | exact hp_ret | refine hp_q ?_ | refine hp_cV ?_ (fun _ => ?_) | refine hp_cI ?_ (fun _ _ => ?_) | refine hp_cR ?_ (fun _ _ => ?_) | refine hp_cD ?_ (fun _ _ => ?_) | refine hp_tI ?_ (fun _ _ => ?_) (fun _ _ => ?_) | refine hp_tR ?_ (fun _ _ => ?_) (fun _ _ => ?_) | refine hp_ite ?_ ?_ | refine hp_bput ?_ (fun _ => ?_) | refine hp_bpair hq_new (fun _ _ => ?_) | refine hp_bpair hq_lrem (fun _ _ => ?_) | refine hp_bind (fun _ => ?_) | exact hq_pI (by decide) | exact hq_pZ (by decide) | exact hq_pC (by decide) | exact hq_pR (by decide) | exact hq_pD (by decide) | exact hq_sI | exact hq_sC | exact hq_sD | exact hq_lclr | exact hq_lnew | exact hq_ladd | dsimp only)
theorem P_X3_isActive (fu : Nat) (x0 : Option Nat) (x1 : Int32)  : hp (F_X3_isActive fu x0 x1) := by
  show hp (fun S => F_X3_isActive fu x0 x1 S)
  unfold F_X3_isActive
  repeat' (first | exact hp_none | exact hp_ret | refine hp_q ?_ | refine hp_cV ?_ (fun _ => ?_) | refine hp_cI ?_ (fun _ _ => ?_) | refine hp_cR ?_ (fun _ _ => ?_) | refine hp_cD ?_ (fun _ _ => ?_) | refine hp_tI ?_ (fun _ _ => ?_) (fun _ _ => ?_) | refine hp_tR ?_ (fun _ _ => ?_) (fun _ _ => ?_) | refine hp_ite ?_ ?_ | refine hp_bput ?_ (fun _ => ?_) | refine hp_bpair hq_new (fun _ _ => ?_) | refine hp_bpair hq_lrem (fun _ _ => ?_) | refine hp_bind (fun _ => ?_) | exact hq_pI (by decide) | exact hq_pZ (by decide) | exact hq_pC (by decide) | exact hq_pR (by decide) | exact hq_pD (by decide) | exact hq_sI | exact hq_sC | exact hq_sD | exact hq_lclr | exact hq_lnew | exact hq_ladd | dsimp only)
theorem P_X13_is (fu : Nat) (x0 : Option Nat) (x1 : Option Nat)  : hp (F_X13_is fu x0 x1) := by
  show hp (fun S => F_X13_is fu x0 x1 S)
  unfold F_X13_is
  repeat' (first | apply P_X3_isActive | exact hp_none | exact hp_ret | refine hp_q ?_ | refine hp_cV ?_ (fun _ => ?_) | refine hp_cI ?_ (fun _ _ => ?_) | refine hp_cR ?_ (fun _ _ => ?_) | refine hp_cD ?_ (fun _ _ => ?_) | refine hp_tI ?_ (fun _ _ => ?_) (fun _ _ => ?_) | refine hp_tR ?_ (fun _ _ => ?_) (fun _ _ => ?_) | refine hp_ite ?_ ?_ | refine hp_bput ?_ (fun _ => ?_) | refine hp_bpair hq_new (fun _ _ => ?_) | refine hp_bpair hq_lrem (fun _ _ => ?_) | refine hp_bind (fun _ => ?_) | exact hq_pI (by decide) | exact hq_pZ (by decide) | exact hq_pC (by decide) | exact hq_pR (by decide) | exact hq_pD (by decide) | exact hq_sI | exact hq_sC | exact hq_sD | exact hq_lclr | exact hq_lnew | exact hq_ladd | dsimp only)
theorem P_X12_holds_13 (fu : Nat) (x0 : Option Nat) (x1 : Option Nat)  : hp (F_X12_holds_13 fu x0 x1) := by
  show hp (fun S => F_X12_holds_13 fu x0 x1 S)
  unfold F_X12_holds_13
  repeat' (first | apply P_X13_is | exact hp_none | exact hp_ret | refine hp_q ?_ | refine hp_cV ?_ (fun _ => ?_) | refine hp_cI ?_ (fun _ _ => ?_) | refine hp_cR ?_ (fun _ _ => ?_) | refine hp_cD ?_ (fun _ _ => ?_) | refine hp_tI ?_ (fun _ _ => ?_) (fun _ _ => ?_) | refine hp_tR ?_ (fun _ _ => ?_) (fun _ _ => ?_) | refine hp_ite ?_ ?_ | refine hp_bput ?_ (fun _ => ?_) | refine hp_bpair hq_new (fun _ _ => ?_) | refine hp_bpair hq_lrem (fun _ _ => ?_) | refine hp_bind (fun _ => ?_) | exact hq_pI (by decide) | exact hq_pZ (by decide) | exact hq_pC (by decide) | exact hq_pR (by decide) | exact hq_pD (by decide) | exact hq_sI | exact hq_sC | exact hq_sD | exact hq_lclr | exact hq_lnew | exact hq_ladd | dsimp only)
theorem P_X3_get (fu : Nat) (x0 : Option Nat) (x1 : Int32)  : hp (F_X3_get fu x0 x1) := by
  show hp (fun S => F_X3_get fu x0 x1 S)
  unfold F_X3_get
  repeat' (first | exact hp_none | exact hp_ret | refine hp_q ?_ | refine hp_cV ?_ (fun _ => ?_) | refine hp_cI ?_ (fun _ _ => ?_) | refine hp_cR ?_ (fun _ _ => ?_) | refine hp_cD ?_ (fun _ _ => ?_) | refine hp_tI ?_ (fun _ _ => ?_) (fun _ _ => ?_) | refine hp_tR ?_ (fun _ _ => ?_) (fun _ _ => ?_) | refine hp_ite ?_ ?_ | refine hp_bput ?_ (fun _ => ?_) | refine hp_bpair hq_new (fun _ _ => ?_) | refine hp_bpair hq_lrem (fun _ _ => ?_) | refine hp_bind (fun _ => ?_) | exact hq_pI (by decide) | exact hq_pZ (by decide) | exact hq_pC (by decide) | exact hq_pR (by decide) | exact hq_pD (by decide) | exact hq_sI | exact hq_sC | exact hq_sD | exact hq_lclr | exact hq_lnew | exact hq_ladd | dsimp only)
theorem P_X9_of (fu : Nat) (x0 : Option Nat) (x1 : Option Nat)  : hp (F_X9_of fu x0 x1) := by
  show hp (fun S => F_X9_of fu x0 x1 S)
  unfold F_X9_of
  repeat' (first | apply P_X3_get | exact hp_none | exact hp_ret | refine hp_q ?_ | refine hp_cV ?_ (fun _ => ?_) | refine hp_cI ?_ (fun _ _ => ?_) | refine hp_cR ?_ (fun _ _ => ?_) | refine hp_cD ?_ (fun _ _ => ?_) | refine hp_tI ?_ (fun _ _ => ?_) (fun _ _ => ?_) | refine hp_tR ?_ (fun _ _ => ?_) (fun _ _ => ?_) | refine hp_ite ?_ ?_ | refine hp_bput ?_ (fun _ => ?_) | refine hp_bpair hq_new (fun _ _ => ?_) | refine hp_bpair hq_lrem (fun _ _ => ?_) | refine hp_bind (fun _ => ?_) | exact hq_pI (by decide) | exact hq_pZ (by decide) | exact hq_pC (by decide) | exact hq_pR (by decide) | exact hq_pD (by decide) | exact hq_sI | exact hq_sC | exact hq_sD | exact hq_lclr | exact hq_lnew | exact hq_ladd | dsimp only)
theorem P_X14_is (fu : Nat) (x0 : Option Nat) (x1 : Option Nat)  : hp (F_X14_is fu x0 x1) := by
  show hp (fun S => F_X14_is fu x0 x1 S)
  unfold F_X14_is
  repeat' (first | apply P_X9_of | exact hp_none | exact hp_ret | refine hp_q ?_ | refine hp_cV ?_ (fun _ => ?_) | refine hp_cI ?_ (fun _ _ => ?_) | refine hp_cR ?_ (fun _ _ => ?_) | refine hp_cD ?_ (fun _ _ => ?_) | refine hp_tI ?_ (fun _ _ => ?_) (fun _ _ => ?_) | refine hp_tR ?_ (fun _ _ => ?_) (fun _ _ => ?_) | refine hp_ite ?_ ?_ | refine hp_bput ?_ (fun _ => ?_) | refine hp_bpair hq_new (fun _ _ => ?_) | refine hp_bpair hq_lrem (fun _ _ => ?_) | refine hp_bind (fun _ => ?_) | exact hq_pI (by decide) | exact hq_pZ (by decide) | exact hq_pC (by decide) | exact hq_pR (by decide) | exact hq_pD (by decide) | exact hq_sI | exact hq_sC | exact hq_sD | exact hq_lclr | exact hq_lnew | exact hq_ladd | dsimp only)
theorem P_X12_holds_14 (fu : Nat) (x0 : Option Nat) (x1 : Option Nat)  : hp (F_X12_holds_14 fu x0 x1) := by
  show hp (fun S => F_X12_holds_14 fu x0 x1 S)
  unfold F_X12_holds_14
  repeat' (first | apply P_X14_is | exact hp_none | exact hp_ret | refine hp_q ?_ | refine hp_cV ?_ (fun _ => ?_) | refine hp_cI ?_ (fun _ _ => ?_) | refine hp_cR ?_ (fun _ _ => ?_) | refine hp_cD ?_ (fun _ _ => ?_) | refine hp_tI ?_ (fun _ _ => ?_) (fun _ _ => ?_) | refine hp_tR ?_ (fun _ _ => ?_) (fun _ _ => ?_) | refine hp_ite ?_ ?_ | refine hp_bput ?_ (fun _ => ?_) | refine hp_bpair hq_new (fun _ _ => ?_) | refine hp_bpair hq_lrem (fun _ _ => ?_) | refine hp_bind (fun _ => ?_) | exact hq_pI (by decide) | exact hq_pZ (by decide) | exact hq_pC (by decide) | exact hq_pR (by decide) | exact hq_pD (by decide) | exact hq_sI | exact hq_sC | exact hq_sD | exact hq_lclr | exact hq_lnew | exact hq_ladd | dsimp only)
theorem P_X10_isEnabled_12 (fu : Nat)  : ∀ (n : Nat) (y0 : Option Nat) (y1 : Option Nat) (y2 : Int32), hp (F_X10_isEnabled_12 fu n y0 y1 y2) := by
  intro n
  induction n with
  | zero => intro y0 y1 y2; exact hp_none
  | succ n ih =>
    intro y0 y1 y2
    show hp (fun S => F_X10_isEnabled_12 fu (n + 1) y0 y1 y2 S)
    simp only [F_X10_isEnabled_12]
    repeat' (first | apply ih | exact ih | exact hp_none | exact hp_ret | refine hp_q ?_ | refine hp_cV ?_ (fun _ => ?_) | refine hp_cI ?_ (fun _ _ => ?_) | refine hp_cR ?_ (fun _ _ => ?_) | refine hp_cD ?_ (fun _ _ => ?_) | refine hp_tI ?_ (fun _ _ => ?_) (fun _ _ => ?_) | refine hp_tR ?_ (fun _ _ => ?_) (fun _ _ => ?_) | refine hp_ite ?_ ?_ | refine hp_bput ?_ (fun _ => ?_) | refine hp_bpair hq_new (fun _ _ => ?_) | refine hp_bpair hq_lrem (fun _ _ => ?_) | refine hp_bind (fun _ => ?_) | exact hq_pI (by decide) | exact hq_pZ (by decide) | exact hq_pC (by decide) | exact hq_pR (by decide) | exact hq_pD (by decide) | exact hq_sI | exact hq_sC | exact hq_sD | exact hq_lclr | exact hq_lnew | exact hq_ladd | dsimp only)
theorem P_X10_isEnabled (fu : Nat) (x0 : Option Nat) (x1 : Option Nat) (x2 : Int32)  : hp (F_X10_isEnabled fu x0 x1 x2) := by
  show hp (fun S => F_X10_isEnabled fu x0 x1 x2 S)
  unfold F_X10_isEnabled
  repeat' (first | apply P_X10_isEnabled_12 | exact hp_none | exact hp_ret | refine hp_q ?_ | refine hp_cV ?_ (fun _ => ?_) | refine hp_cI ?_ (fun _ _ => ?_) | refine hp_cR ?_ (fun _ _ => ?_) | refine hp_cD ?_ (fun _ _ => ?_) | refine hp_tI ?_ (fun _ _ => ?_) (fun _ _ => ?_) | refine hp_tR ?_ (fun _ _ => ?_) (fun _ _ => ?_) | refine hp_ite ?_ ?_ | refine hp_bput ?_ (fun _ => ?_) | refine hp_bpair hq_new (fun _ _ => ?_) | refine hp_bpair hq_lrem (fun _ _ => ?_) | refine hp_bind (fun _ => ?_) | exact hq_pI (by decide) | exact hq_pZ (by decide) | exact hq_pC (by decide) | exact hq_pR (by decide) | exact hq_pD (by decide) | exact hq_sI | exact hq_sC | exact hq_sD | exact hq_lclr | exact hq_lnew | exact hq_ladd | dsimp only)
theorem P_X3_enabled_2 (fu : Nat)  : ∀ (n : Nat) (y0 : Option Nat) (y1 : Option Nat) (y2 : Int32) (y3 : Int32), hp (F_X3_enabled_2 fu n y0 y1 y2 y3) := by
  intro n
  induction n with
  | zero => intro y0 y1 y2 y3; exact hp_none
  | succ n ih =>
    intro y0 y1 y2 y3
    show hp (fun S => F_X3_enabled_2 fu (n + 1) y0 y1 y2 y3 S)
    simp only [F_X3_enabled_2]
    repeat' (first | apply P_X10_isEnabled | apply ih | exact ih | exact hp_none | exact hp_ret | refine hp_q ?_ | refine hp_cV ?_ (fun _ => ?_) | refine hp_cI ?_ (fun _ _ => ?_) | refine hp_cR ?_ (fun _ _ => ?_) | refine hp_cD ?_ (fun _ _ => ?_) | refine hp_tI ?_ (fun _ _ => ?_) (fun _ _ => ?_) | refine hp_tR ?_ (fun _ _ => ?_) (fun _ _ => ?_) | refine hp_ite ?_ ?_ | refine hp_bput ?_ (fun _ => ?_) | refine hp_bpair hq_new (fun _ _ => ?_) | refine hp_bpair hq_lrem (fun _ _ => ?_) | refine hp_bind (fun _ => ?_) | exact hq_pI (by decide) | exact hq_pZ (by decide) | exact hq_pC (by decide) | exact hq_pR (by decide) | exact hq_pD (by decide) | exact hq_sI | exact hq_sC | exact hq_sD | exact hq_lclr | exact hq_lnew | exact hq_ladd | dsimp only)
theorem P_X3_enabled (fu : Nat) (x0 : Option Nat) (x1 : Option Nat) (x2 : Int32)  : hp (F_X3_enabled fu x0 x1 x2) := by
  show hp (fun S => F_X3_enabled fu x0 x1 x2 S)
  unfold F_X3_enabled
  repeat' (first | apply P_X3_enabled_2 | exact hp_none | exact hp_ret | refine hp_q ?_ | refine hp_cV ?_ (fun _ => ?_) | refine hp_cI ?_ (fun _ _ => ?_) | refine hp_cR ?_ (fun _ _ => ?_) | refine hp_cD ?_ (fun _ _ => ?_) | refine hp_tI ?_ (fun _ _ => ?_) (fun _ _ => ?_) | refine hp_tR ?_ (fun _ _ => ?_) (fun _ _ => ?_) | refine hp_ite ?_ ?_ | refine hp_bput ?_ (fun _ => ?_) | refine hp_bpair hq_new (fun _ _ => ?_) | refine hp_bpair hq_lrem (fun _ _ => ?_) | refine hp_bind (fun _ => ?_) | exact hq_pI (by decide) | exact hq_pZ (by decide) | exact hq_pC (by decide) | exact hq_pR (by decide) | exact hq_pD (by decide) | exact hq_sI | exact hq_sC | exact hq_sD | exact hq_lclr | exact hq_lnew | exact hq_ladd | dsimp only)
theorem P_X3_isChosen_2 (fu : Nat)  : ∀ (n : Nat) (y0 : Option Nat) (y1 : Option Nat) (y2 : Int32), hp (F_X3_isChosen_2 fu n y0 y1 y2) := by
  intro n
  induction n with
  | zero => intro y0 y1 y2; exact hp_none
  | succ n ih =>
    intro y0 y1 y2
    show hp (fun S => F_X3_isChosen_2 fu (n + 1) y0 y1 y2 S)
    simp only [F_X3_isChosen_2]
    repeat' (first | apply ih | exact ih | exact hp_none | exact hp_ret | refine hp_q ?_ | refine hp_cV ?_ (fun _ => ?_) | refine hp_cI ?_ (fun _ _ => ?_) | refine hp_cR ?_ (fun _ _ => ?_) | refine hp_cD ?_ (fun _ _ => ?_) | refine hp_tI ?_ (fun _ _ => ?_) (fun _ _ => ?_) | refine hp_tR ?_ (fun _ _ => ?_) (fun _ _ => ?_) | refine hp_ite ?_ ?_ | refine hp_bput ?_ (fun _ => ?_) | refine hp_bpair hq_new (fun _ _ => ?_) | refine hp_bpair hq_lrem (fun _ _ => ?_) | refine hp_bind (fun _ => ?_) | exact hq_pI (by decide) | exact hq_pZ (by decide) | exact hq_pC (by decide) | exact hq_pR (by decide) | exact hq_pD (by decide) | exact hq_sI | exact hq_sC | exact hq_sD | exact hq_lclr | exact hq_lnew | exact hq_ladd | dsimp only)
theorem P_X3_isChosen (fu : Nat) (x0 : Option Nat) (x1 : Option Nat)  : hp (F_X3_isChosen fu x0 x1) := by
  show hp (fun S => F_X3_isChosen fu x0 x1 S)
  unfold F_X3_isChosen
  repeat' (first | apply P_X3_isChosen_2 | exact hp_none | exact hp_ret | refine hp_q ?_ | refine hp_cV ?_ (fun _ => ?_) | refine hp_cI ?_ (fun _ _ => ?_) | refine hp_cR ?_ (fun _ _ => ?_) | refine hp_cD ?_ (fun _ _ => ?_) | refine hp_tI ?_ (fun _ _ => ?_) (fun _ _ => ?_) | refine hp_tR ?_ (fun _ _ => ?_) (fun _ _ => ?_) | refine hp_ite ?_ ?_ | refine hp_bput ?_ (fun _ => ?_) | refine hp_bpair hq_new (fun _ _ => ?_) | refine hp_bpair hq_lrem (fun _ _ => ?_) | refine hp_bind (fun _ => ?_) | exact hq_pI (by decide) | exact hq_pZ (by decide) | exact hq_pC (by decide) | exact hq_pR (by decide) | exact hq_pD (by decide) | exact hq_sI | exact hq_sC | exact hq_sD | exact hq_lclr | exact hq_lnew | exact hq_ladd | dsimp only)
theorem P_X3_isBelow (fu : Nat) (x0 : Option Nat) (x1 : Option Nat)  : hp (F_X3_isBelow fu x0 x1) := by
  show hp (fun S => F_X3_isBelow fu x0 x1 S)
  unfold F_X3_isBelow
  repeat' (first | apply P_X5_bit | exact hp_none | exact hp_ret | refine hp_q ?_ | refine hp_cV ?_ (fun _ => ?_) | refine hp_cI ?_ (fun _ _ => ?_) | refine hp_cR ?_ (fun _ _ => ?_) | refine hp_cD ?_ (fun _ _ => ?_) | refine hp_tI ?_ (fun _ _ => ?_) (fun _ _ => ?_) | refine hp_tR ?_ (fun _ _ => ?_) (fun _ _ => ?_) | refine hp_ite ?_ ?_ | refine hp_bput ?_ (fun _ => ?_) | refine hp_bpair hq_new (fun _ _ => ?_) | refine hp_bpair hq_lrem (fun _ _ => ?_) | refine hp_bind (fun _ => ?_) | exact hq_pI (by decide) | exact hq_pZ (by decide) | exact hq_pC (by decide) | exact hq_pR (by decide) | exact hq_pD (by decide) | exact hq_sI | exact hq_sC | exact hq_sD | exact hq_lclr | exact hq_lnew | exact hq_ladd | dsimp only)
theorem P_X3_settle_123 (fu : Nat) (k9 : Option Nat → Int32 → gm_S → gR) (h_k9 : ∀ a0 a1, hp (k9 a0 a1)) : ∀ (n : Nat) (y0 : Option Nat) (y1 : Int32) (y2 : Option Nat) (y3 : Int32), hp (F_X3_settle_123 fu k9 n y0 y1 y2 y3) := by
  intro n
  induction n with
  | zero => intro y0 y1 y2 y3; exact hp_none
  | succ n ih =>
    intro y0 y1 y2 y3
    show hp (fun S => F_X3_settle_123 fu k9 (n + 1) y0 y1 y2 y3 S)
    simp only [F_X3_settle_123]
    repeat' (first | apply h_k9 | exact h_k9 | apply ih | exact ih | exact hp_none | exact hp_ret | refine hp_q ?_ | refine hp_cV ?_ (fun _ => ?_) | refine hp_cI ?_ (fun _ _ => ?_) | refine hp_cR ?_ (fun _ _ => ?_) | refine hp_cD ?_ (fun _ _ => ?_) | refine hp_tI ?_ (fun _ _ => ?_) (fun _ _ => ?_) | refine hp_tR ?_ (fun _ _ => ?_) (fun _ _ => ?_) | refine hp_ite ?_ ?_ | refine hp_bput ?_ (fun _ => ?_) | refine hp_bpair hq_new (fun _ _ => ?_) | refine hp_bpair hq_lrem (fun _ _ => ?_) | refine hp_bind (fun _ => ?_) | exact hq_pI (by decide) | exact hq_pZ (by decide) | exact hq_pC (by decide) | exact hq_pR (by decide) | exact hq_pD (by decide) | exact hq_sI | exact hq_sC | exact hq_sD | exact hq_lclr | exact hq_lnew | exact hq_ladd | dsimp only)
theorem P_X3_settle_37 (fu : Nat) (k9 : Option Nat → Int32 → gm_S → gR) (h_k9 : ∀ a0 a1, hp (k9 a0 a1)) : ∀ (n : Nat) (y0 : Option Nat) (y1 : Int32) (y2 : Option Nat) (y3 : Int32) (y4 : Int32), hp (F_X3_settle_37 fu k9 n y0 y1 y2 y3 y4) := by
  intro n
  induction n with
  | zero => intro y0 y1 y2 y3 y4; exact hp_none
  | succ n ih =>
    intro y0 y1 y2 y3 y4
    show hp (fun S => F_X3_settle_37 fu k9 (n + 1) y0 y1 y2 y3 y4 S)
    simp only [F_X3_settle_37]
    repeat' (first | apply h_k9 | exact h_k9 | apply P_X3_settle_123 | apply P_X3_isBelow | apply ih | exact ih | exact hp_none | exact hp_ret | refine hp_q ?_ | refine hp_cV ?_ (fun _ => ?_) | refine hp_cI ?_ (fun _ _ => ?_) | refine hp_cR ?_ (fun _ _ => ?_) | refine hp_cD ?_ (fun _ _ => ?_) | refine hp_tI ?_ (fun _ _ => ?_) (fun _ _ => ?_) | refine hp_tR ?_ (fun _ _ => ?_) (fun _ _ => ?_) | refine hp_ite ?_ ?_ | refine hp_bput ?_ (fun _ => ?_) | refine hp_bpair hq_new (fun _ _ => ?_) | refine hp_bpair hq_lrem (fun _ _ => ?_) | refine hp_bind (fun _ => ?_) | exact hq_pI (by decide) | exact hq_pZ (by decide) | exact hq_pC (by decide) | exact hq_pR (by decide) | exact hq_pD (by decide) | exact hq_sI | exact hq_sC | exact hq_sD | exact hq_lclr | exact hq_lnew | exact hq_ladd | dsimp only)
theorem P_X3_settle_9 (fu : Nat)  : ∀ (n : Nat) (y0 : Option Nat) (y1 : Int32), hp (F_X3_settle_9 fu n y0 y1) := by
  intro n
  induction n with
  | zero => intro y0 y1; exact hp_none
  | succ n ih =>
    intro y0 y1
    show hp (fun S => F_X3_settle_9 fu (n + 1) y0 y1 S)
    simp only [F_X3_settle_9]
    repeat' (first | apply P_X3_settle_37 | apply ih | exact ih | exact hp_none | exact hp_ret | refine hp_q ?_ | refine hp_cV ?_ (fun _ => ?_) | refine hp_cI ?_ (fun _ _ => ?_) | refine hp_cR ?_ (fun _ _ => ?_) | refine hp_cD ?_ (fun _ _ => ?_) | refine hp_tI ?_ (fun _ _ => ?_) (fun _ _ => ?_) | refine hp_tR ?_ (fun _ _ => ?_) (fun _ _ => ?_) | refine hp_ite ?_ ?_ | refine hp_bput ?_ (fun _ => ?_) | refine hp_bpair hq_new (fun _ _ => ?_) | refine hp_bpair hq_lrem (fun _ _ => ?_) | refine hp_bind (fun _ => ?_) | exact hq_pI (by decide) | exact hq_pZ (by decide) | exact hq_pC (by decide) | exact hq_pR (by decide) | exact hq_pD (by decide) | exact hq_sI | exact hq_sC | exact hq_sD | exact hq_lclr | exact hq_lnew | exact hq_ladd | dsimp only)
theorem P_X3_settle (fu : Nat) (x0 : Option Nat)  : hp (F_X3_settle fu x0) := by
  show hp (fun S => F_X3_settle fu x0 S)
  unfold F_X3_settle
  repeat' (first | apply P_X3_settle_9 | exact hp_none | exact hp_ret | refine hp_q ?_ | refine hp_cV ?_ (fun _ => ?_) | refine hp_cI ?_ (fun _ _ => ?_) | refine hp_cR ?_ (fun _ _ => ?_) | refine hp_cD ?_ (fun _ _ => ?_) | refine hp_tI ?_ (fun _ _ => ?_) (fun _ _ => ?_) | refine hp_tR ?_ (fun _ _ => ?_) (fun _ _ => ?_) | refine hp_ite ?_ ?_ | refine hp_bput ?_ (fun _ => ?_) | refine hp_bpair hq_new (fun _ _ => ?_) | refine hp_bpair hq_lrem (fun _ _ => ?_) | refine hp_bind (fun _ => ?_) | exact hq_pI (by decide) | exact hq_pZ (by decide) | exact hq_pC (by decide) | exact hq_pR (by decide) | exact hq_pD (by decide) | exact hq_sI | exact hq_sC | exact hq_sD | exact hq_lclr | exact hq_lnew | exact hq_ladd | dsimp only)
theorem P_X3_choose_120 (fu : Nat)  : ∀ (n : Nat) (y0 : Option Nat) (y1 : Int32), hp (F_X3_choose_120 fu n y0 y1) := by
  intro n
  induction n with
  | zero => intro y0 y1; exact hp_none
  | succ n ih =>
    intro y0 y1
    show hp (fun S => F_X3_choose_120 fu (n + 1) y0 y1 S)
    simp only [F_X3_choose_120]
    repeat' (first | apply P_X3_settle | apply P_X3_aim | apply ih | exact ih | exact hp_none | exact hp_ret | refine hp_q ?_ | refine hp_cV ?_ (fun _ => ?_) | refine hp_cI ?_ (fun _ _ => ?_) | refine hp_cR ?_ (fun _ _ => ?_) | refine hp_cD ?_ (fun _ _ => ?_) | refine hp_tI ?_ (fun _ _ => ?_) (fun _ _ => ?_) | refine hp_tR ?_ (fun _ _ => ?_) (fun _ _ => ?_) | refine hp_ite ?_ ?_ | refine hp_bput ?_ (fun _ => ?_) | refine hp_bpair hq_new (fun _ _ => ?_) | refine hp_bpair hq_lrem (fun _ _ => ?_) | refine hp_bind (fun _ => ?_) | exact hq_pI (by decide) | exact hq_pZ (by decide) | exact hq_pC (by decide) | exact hq_pR (by decide) | exact hq_pD (by decide) | exact hq_sI | exact hq_sC | exact hq_sD | exact hq_lclr | exact hq_lnew | exact hq_ladd | dsimp only)
theorem P_X3_choose_88 (fu : Nat) (k9 : Option Nat → Int32 → Int32 → gm_S → gR) (x0 : Option Nat) (x1 : Int32) (x2 : Int32) (x4 : Option Nat) (h_k9 : ∀ a0 a1 a2, hp (k9 a0 a1 a2)) : hp (F_X3_choose_88 fu k9 x0 x1 x2 x4) := by
  show hp (fun S => F_X3_choose_88 fu k9 x0 x1 x2 x4 S)
  unfold F_X3_choose_88
  repeat' (first | apply h_k9 | exact h_k9 | apply P_X3_isChosen | exact hp_none | exact hp_ret | refine hp_q ?_ | refine hp_cV ?_ (fun _ => ?_) | refine hp_cI ?_ (fun _ _ => ?_) | refine hp_cR ?_ (fun _ _ => ?_) | refine hp_cD ?_ (fun _ _ => ?_) | refine hp_tI ?_ (fun _ _ => ?_) (fun _ _ => ?_) | refine hp_tR ?_ (fun _ _ => ?_) (fun _ _ => ?_) | refine hp_ite ?_ ?_ | refine hp_bput ?_ (fun _ => ?_) | refine hp_bpair hq_new (fun _ _ => ?_) | refine hp_bpair hq_lrem (fun _ _ => ?_) | refine hp_bind (fun _ => ?_) | exact hq_pI (by decide) | exact hq_pZ (by decide) | exact hq_pC (by decide) | exact hq_pR (by decide) | exact hq_pD (by decide) | exact hq_sI | exact hq_sC | exact hq_sD | exact hq_lclr | exact hq_lnew | exact hq_ladd | dsimp only)
theorem P_X3_choose_59 (fu : Nat) (k9 : Option Nat → Int32 → Int32 → gm_S → gR) (h_k9 : ∀ a0 a1 a2, hp (k9 a0 a1 a2)) : ∀ (n : Nat) (y0 : Option Nat) (y1 : Int32) (y2 : Int32) (y3 : Option Nat) (y4 : Option Nat), hp (F_X3_choose_59 fu k9 n y0 y1 y2 y3 y4) := by
  intro n
  induction n with
  | zero => intro y0 y1 y2 y3 y4; exact hp_none
  | succ n ih =>
    intro y0 y1 y2 y3 y4
    show hp (fun S => F_X3_choose_59 fu k9 (n + 1) y0 y1 y2 y3 y4 S)
    simp only [F_X3_choose_59]
    repeat' (first | apply h_k9 | exact h_k9 | apply P_X3_choose_88 | apply P_X3_enabled | apply ih | exact ih | exact hp_none | exact hp_ret | refine hp_q ?_ | refine hp_cV ?_ (fun _ => ?_) | refine hp_cI ?_ (fun _ _ => ?_) | refine hp_cR ?_ (fun _ _ => ?_) | refine hp_cD ?_ (fun _ _ => ?_) | refine hp_tI ?_ (fun _ _ => ?_) (fun _ _ => ?_) | refine hp_tR ?_ (fun _ _ => ?_) (fun _ _ => ?_) | refine hp_ite ?_ ?_ | refine hp_bput ?_ (fun _ => ?_) | refine hp_bpair hq_new (fun _ _ => ?_) | refine hp_bpair hq_lrem (fun _ _ => ?_) | refine hp_bind (fun _ => ?_) | exact hq_pI (by decide) | exact hq_pZ (by decide) | exact hq_pC (by decide) | exact hq_pR (by decide) | exact hq_pD (by decide) | exact hq_sI | exact hq_sC | exact hq_sD | exact hq_lclr | exact hq_lnew | exact hq_ladd | dsimp only)
theorem P_X3_choose_9 (fu : Nat)  : ∀ (n : Nat) (y0 : Option Nat) (y1 : Int32) (y2 : Int32), hp (F_X3_choose_9 fu n y0 y1 y2) := by
  intro n
  induction n with
  | zero => intro y0 y1 y2; exact hp_none
  | succ n ih =>
    intro y0 y1 y2
    show hp (fun S => F_X3_choose_9 fu (n + 1) y0 y1 y2 S)
    simp only [F_X3_choose_9]
    repeat' (first | apply P_X3_choose_120 | apply P_X3_isActive | apply P_X3_choose_59 | apply ih | exact ih | exact hp_none | exact hp_ret | refine hp_q ?_ | refine hp_cV ?_ (fun _ => ?_) | refine hp_cI ?_ (fun _ _ => ?_) | refine hp_cR ?_ (fun _ _ => ?_) | refine hp_cD ?_ (fun _ _ => ?_) | refine hp_tI ?_ (fun _ _ => ?_) (fun _ _ => ?_) | refine hp_tR ?_ (fun _ _ => ?_) (fun _ _ => ?_) | refine hp_ite ?_ ?_ | refine hp_bput ?_ (fun _ => ?_) | refine hp_bpair hq_new (fun _ _ => ?_) | refine hp_bpair hq_lrem (fun _ _ => ?_) | refine hp_bind (fun _ => ?_) | exact hq_pI (by decide) | exact hq_pZ (by decide) | exact hq_pC (by decide) | exact hq_pR (by decide) | exact hq_pD (by decide) | exact hq_sI | exact hq_sC | exact hq_sD | exact hq_lclr | exact hq_lnew | exact hq_ladd | dsimp only)
theorem P_X3_choose (fu : Nat) (x0 : Option Nat) (x1 : Int32)  : hp (F_X3_choose fu x0 x1) := by
  show hp (fun S => F_X3_choose fu x0 x1 S)
  unfold F_X3_choose
  repeat' (first | apply P_X3_choose_9 | exact hp_none | exact hp_ret | refine hp_q ?_ | refine hp_cV ?_ (fun _ => ?_) | refine hp_cI ?_ (fun _ _ => ?_) | refine hp_cR ?_ (fun _ _ => ?_) | refine hp_cD ?_ (fun _ _ => ?_) | refine hp_tI ?_ (fun _ _ => ?_) (fun _ _ => ?_) | refine hp_tR ?_ (fun _ _ => ?_) (fun _ _ => ?_) | refine hp_ite ?_ ?_ | refine hp_bput ?_ (fun _ => ?_) | refine hp_bpair hq_new (fun _ _ => ?_) | refine hp_bpair hq_lrem (fun _ _ => ?_) | refine hp_bind (fun _ => ?_) | exact hq_pI (by decide) | exact hq_pZ (by decide) | exact hq_pC (by decide) | exact hq_pR (by decide) | exact hq_pD (by decide) | exact hq_sI | exact hq_sC | exact hq_sD | exact hq_lclr | exact hq_lnew | exact hq_ladd | dsimp only)
theorem P_X3_raise (fu : Nat) (x0 : Option Nat) (x1 : Int32)  : hp (F_X3_raise fu x0 x1) := by
  show hp (fun S => F_X3_raise fu x0 x1 S)
  unfold F_X3_raise
  repeat' (first | exact hp_none | exact hp_ret | refine hp_q ?_ | refine hp_cV ?_ (fun _ => ?_) | refine hp_cI ?_ (fun _ _ => ?_) | refine hp_cR ?_ (fun _ _ => ?_) | refine hp_cD ?_ (fun _ _ => ?_) | refine hp_tI ?_ (fun _ _ => ?_) (fun _ _ => ?_) | refine hp_tR ?_ (fun _ _ => ?_) (fun _ _ => ?_) | refine hp_ite ?_ ?_ | refine hp_bput ?_ (fun _ => ?_) | refine hp_bpair hq_new (fun _ _ => ?_) | refine hp_bpair hq_lrem (fun _ _ => ?_) | refine hp_bind (fun _ => ?_) | exact hq_pI (by decide) | exact hq_pZ (by decide) | exact hq_pC (by decide) | exact hq_pR (by decide) | exact hq_pD (by decide) | exact hq_sI | exact hq_sC | exact hq_sD | exact hq_lclr | exact hq_lnew | exact hq_ladd | dsimp only)
theorem P_X15_init (fu : Nat) (x0 : Option Nat) (x1 : Int32) (x2 : Int32)  : hp (F_X15_init fu x0 x1 x2) := by
  show hp (fun S => F_X15_init fu x0 x1 x2 S)
  unfold F_X15_init
  repeat' (first | exact hp_none | exact hp_ret | refine hp_q ?_ | refine hp_cV ?_ (fun _ => ?_) | refine hp_cI ?_ (fun _ _ => ?_) | refine hp_cR ?_ (fun _ _ => ?_) | refine hp_cD ?_ (fun _ _ => ?_) | refine hp_tI ?_ (fun _ _ => ?_) (fun _ _ => ?_) | refine hp_tR ?_ (fun _ _ => ?_) (fun _ _ => ?_) | refine hp_ite ?_ ?_ | refine hp_bput ?_ (fun _ => ?_) | refine hp_bpair hq_new (fun _ _ => ?_) | refine hp_bpair hq_lrem (fun _ _ => ?_) | refine hp_bind (fun _ => ?_) | exact hq_pI (by decide) | exact hq_pZ (by decide) | exact hq_pC (by decide) | exact hq_pR (by decide) | exact hq_pD (by decide) | exact hq_sI | exact hq_sC | exact hq_sD | exact hq_lclr | exact hq_lnew | exact hq_ladd | dsimp only)
theorem P_X3_send (fu : Nat) (x0 : Option Nat) (x1 : Int32) (x2 : Int32)  : hp (F_X3_send fu x0 x1 x2) := by
  show hp (fun S => F_X3_send fu x0 x1 x2 S)
  unfold F_X3_send
  repeat' (first | apply P_X15_init | exact hp_none | exact hp_ret | refine hp_q ?_ | refine hp_cV ?_ (fun _ => ?_) | refine hp_cI ?_ (fun _ _ => ?_) | refine hp_cR ?_ (fun _ _ => ?_) | refine hp_cD ?_ (fun _ _ => ?_) | refine hp_tI ?_ (fun _ _ => ?_) (fun _ _ => ?_) | refine hp_tR ?_ (fun _ _ => ?_) (fun _ _ => ?_) | refine hp_ite ?_ ?_ | refine hp_bput ?_ (fun _ => ?_) | refine hp_bpair hq_new (fun _ _ => ?_) | refine hp_bpair hq_lrem (fun _ _ => ?_) | refine hp_bind (fun _ => ?_) | exact hq_pI (by decide) | exact hq_pZ (by decide) | exact hq_pC (by decide) | exact hq_pR (by decide) | exact hq_pD (by decide) | exact hq_sI | exact hq_sC | exact hq_sD | exact hq_lclr | exact hq_lnew | exact hq_ladd | dsimp only)
theorem P_X7_act (fu : Nat) (x0 : Option Nat) (x1 : Option Nat)  : hp (F_X7_act fu x0 x1) := by
  show hp (fun S => F_X7_act fu x0 x1 S)
  unfold F_X7_act
  repeat' (first | apply P_X3_raise | apply P_X3_send | exact hp_none | exact hp_ret | refine hp_q ?_ | refine hp_cV ?_ (fun _ => ?_) | refine hp_cI ?_ (fun _ _ => ?_) | refine hp_cR ?_ (fun _ _ => ?_) | refine hp_cD ?_ (fun _ _ => ?_) | refine hp_tI ?_ (fun _ _ => ?_) (fun _ _ => ?_) | refine hp_tR ?_ (fun _ _ => ?_) (fun _ _ => ?_) | refine hp_ite ?_ ?_ | refine hp_bput ?_ (fun _ => ?_) | refine hp_bpair hq_new (fun _ _ => ?_) | refine hp_bpair hq_lrem (fun _ _ => ?_) | refine hp_bind (fun _ => ?_) | exact hq_pI (by decide) | exact hq_pZ (by decide) | exact hq_pC (by decide) | exact hq_pR (by decide) | exact hq_pD (by decide) | exact hq_sI | exact hq_sC | exact hq_sD | exact hq_lclr | exact hq_lnew | exact hq_ladd | dsimp only)
theorem P_X3_set (fu : Nat) (x0 : Option Nat) (x1 : Int32) (x2 : UInt64)  : hp (F_X3_set fu x0 x1 x2) := by
  show hp (fun S => F_X3_set fu x0 x1 x2 S)
  unfold F_X3_set
  repeat' (first | exact hp_none | exact hp_ret | refine hp_q ?_ | refine hp_cV ?_ (fun _ => ?_) | refine hp_cI ?_ (fun _ _ => ?_) | refine hp_cR ?_ (fun _ _ => ?_) | refine hp_cD ?_ (fun _ _ => ?_) | refine hp_tI ?_ (fun _ _ => ?_) (fun _ _ => ?_) | refine hp_tR ?_ (fun _ _ => ?_) (fun _ _ => ?_) | refine hp_ite ?_ ?_ | refine hp_bput ?_ (fun _ => ?_) | refine hp_bpair hq_new (fun _ _ => ?_) | refine hp_bpair hq_lrem (fun _ _ => ?_) | refine hp_bind (fun _ => ?_) | exact hq_pI (by decide) | exact hq_pZ (by decide) | exact hq_pC (by decide) | exact hq_pR (by decide) | exact hq_pD (by decide) | exact hq_sI | exact hq_sC | exact hq_sD | exact hq_lclr | exact hq_lnew | exact hq_ladd | dsimp only)
theorem P_X8_made (fu : Nat) (x0 : Option Nat) (x1 : UInt64) (x3 : UInt64)  : hp (F_X8_made fu x0 x1 x3) := by
  show hp (fun S => F_X8_made fu x0 x1 x3 S)
  unfold F_X8_made
  repeat' (first | exact hp_none | exact hp_ret | refine hp_q ?_ | refine hp_cV ?_ (fun _ => ?_) | refine hp_cI ?_ (fun _ _ => ?_) | refine hp_cR ?_ (fun _ _ => ?_) | refine hp_cD ?_ (fun _ _ => ?_) | refine hp_tI ?_ (fun _ _ => ?_) (fun _ _ => ?_) | refine hp_tR ?_ (fun _ _ => ?_) (fun _ _ => ?_) | refine hp_ite ?_ ?_ | refine hp_bput ?_ (fun _ => ?_) | refine hp_bpair hq_new (fun _ _ => ?_) | refine hp_bpair hq_lrem (fun _ _ => ?_) | refine hp_bind (fun _ => ?_) | exact hq_pI (by decide) | exact hq_pZ (by decide) | exact hq_pC (by decide) | exact hq_pR (by decide) | exact hq_pD (by decide) | exact hq_sI | exact hq_sC | exact hq_sD | exact hq_lclr | exact hq_lnew | exact hq_ladd | dsimp only)
theorem P_X8_act_67 (fu : Nat) (s0 : UInt64) (s1 : Int32) (s2 : Option Nat)  : hp (F_X8_act_67 fu s0 s1 s2) := by
  show hp (fun S => F_X8_act_67 fu s0 s1 s2 S)
  unfold F_X8_act_67
  repeat' (first | apply P_X3_set | exact hp_none | exact hp_ret | refine hp_q ?_ | refine hp_cV ?_ (fun _ => ?_) | refine hp_cI ?_ (fun _ _ => ?_) | refine hp_cR ?_ (fun _ _ => ?_) | refine hp_cD ?_ (fun _ _ => ?_) | refine hp_tI ?_ (fun _ _ => ?_) (fun _ _ => ?_) | refine hp_tR ?_ (fun _ _ => ?_) (fun _ _ => ?_) | refine hp_ite ?_ ?_ | refine hp_bput ?_ (fun _ => ?_) | refine hp_bpair hq_new (fun _ _ => ?_) | refine hp_bpair hq_lrem (fun _ _ => ?_) | refine hp_bind (fun _ => ?_) | exact hq_pI (by decide) | exact hq_pZ (by decide) | exact hq_pC (by decide) | exact hq_pR (by decide) | exact hq_pD (by decide) | exact hq_sI | exact hq_sC | exact hq_sD | exact hq_lclr | exact hq_lnew | exact hq_ladd | dsimp only)
theorem P_X8_act (fu : Nat) (x0 : Option Nat) (x1 : Option Nat)  : hp (F_X8_act fu x0 x1) := by
  show hp (fun S => F_X8_act fu x0 x1 S)
  unfold F_X8_act
  repeat' (first | apply P_X3_get | apply P_X9_of | apply P_X8_made | apply P_X8_act_67 | exact hp_none | exact hp_ret | refine hp_q ?_ | refine hp_cV ?_ (fun _ => ?_) | refine hp_cI ?_ (fun _ _ => ?_) | refine hp_cR ?_ (fun _ _ => ?_) | refine hp_cD ?_ (fun _ _ => ?_) | refine hp_tI ?_ (fun _ _ => ?_) (fun _ _ => ?_) | refine hp_tR ?_ (fun _ _ => ?_) (fun _ _ => ?_) | refine hp_ite ?_ ?_ | refine hp_bput ?_ (fun _ => ?_) | refine hp_bpair hq_new (fun _ _ => ?_) | refine hp_bpair hq_lrem (fun _ _ => ?_) | refine hp_bind (fun _ => ?_) | exact hq_pI (by decide) | exact hq_pZ (by decide) | exact hq_pC (by decide) | exact hq_pR (by decide) | exact hq_pD (by decide) | exact hq_sI | exact hq_sC | exact hq_sD | exact hq_lclr | exact hq_lnew | exact hq_ladd | dsimp only)
theorem P_X3_actAll_2 (fu : Nat)  : ∀ (n : Nat) (y0 : Option Nat) (y1 : Option Nat) (y2 : Int32), hp (F_X3_actAll_2 fu n y0 y1 y2) := by
  intro n
  induction n with
  | zero => intro y0 y1 y2; exact hp_none
  | succ n ih =>
    intro y0 y1 y2
    show hp (fun S => F_X3_actAll_2 fu (n + 1) y0 y1 y2 S)
    simp only [F_X3_actAll_2]
    repeat' (first | apply ih | exact ih | exact hp_none | exact hp_ret | refine hp_q ?_ | refine hp_cV ?_ (fun _ => ?_) | refine hp_cI ?_ (fun _ _ => ?_) | refine hp_cR ?_ (fun _ _ => ?_) | refine hp_cD ?_ (fun _ _ => ?_) | refine hp_tI ?_ (fun _ _ => ?_) (fun _ _ => ?_) | refine hp_tR ?_ (fun _ _ => ?_) (fun _ _ => ?_) | refine hp_ite ?_ ?_ | refine hp_bput ?_ (fun _ => ?_) | refine hp_bpair hq_new (fun _ _ => ?_) | refine hp_bpair hq_lrem (fun _ _ => ?_) | refine hp_bind (fun _ => ?_) | exact hq_pI (by decide) | exact hq_pZ (by decide) | exact hq_pC (by decide) | exact hq_pR (by decide) | exact hq_pD (by decide) | exact hq_sI | exact hq_sC | exact hq_sD | exact hq_lclr | exact hq_lnew | exact hq_ladd | dsimp only)
theorem P_X3_actAll (fu : Nat) (x0 : Option Nat) (x1 : Option Nat)  : hp (F_X3_actAll fu x0 x1) := by
  show hp (fun S => F_X3_actAll fu x0 x1 S)
  unfold F_X3_actAll
  repeat' (first | apply P_X3_actAll_2 | exact hp_none | exact hp_ret | refine hp_q ?_ | refine hp_cV ?_ (fun _ => ?_) | refine hp_cI ?_ (fun _ _ => ?_) | refine hp_cR ?_ (fun _ _ => ?_) | refine hp_cD ?_ (fun _ _ => ?_) | refine hp_tI ?_ (fun _ _ => ?_) (fun _ _ => ?_) | refine hp_tR ?_ (fun _ _ => ?_) (fun _ _ => ?_) | refine hp_ite ?_ ?_ | refine hp_bput ?_ (fun _ => ?_) | refine hp_bpair hq_new (fun _ _ => ?_) | refine hp_bpair hq_lrem (fun _ _ => ?_) | refine hp_bind (fun _ => ?_) | exact hq_pI (by decide) | exact hq_pZ (by decide) | exact hq_pC (by decide) | exact hq_pR (by decide) | exact hq_pD (by decide) | exact hq_sI | exact hq_sC | exact hq_sD | exact hq_lclr | exact hq_lnew | exact hq_ladd | dsimp only)
theorem P_X3_note (fu : Nat) (x0 : Option Nat) (x1 : Int32)  : hp (F_X3_note fu x0 x1) := by
  show hp (fun S => F_X3_note fu x0 x1 S)
  unfold F_X3_note
  repeat' (first | exact hp_none | exact hp_ret | refine hp_q ?_ | refine hp_cV ?_ (fun _ => ?_) | refine hp_cI ?_ (fun _ _ => ?_) | refine hp_cR ?_ (fun _ _ => ?_) | refine hp_cD ?_ (fun _ _ => ?_) | refine hp_tI ?_ (fun _ _ => ?_) (fun _ _ => ?_) | refine hp_tR ?_ (fun _ _ => ?_) (fun _ _ => ?_) | refine hp_ite ?_ ?_ | refine hp_bput ?_ (fun _ => ?_) | refine hp_bpair hq_new (fun _ _ => ?_) | refine hp_bpair hq_lrem (fun _ _ => ?_) | refine hp_bind (fun _ => ?_) | exact hq_pI (by decide) | exact hq_pZ (by decide) | exact hq_pC (by decide) | exact hq_pR (by decide) | exact hq_pD (by decide) | exact hq_sI | exact hq_sC | exact hq_sD | exact hq_lclr | exact hq_lnew | exact hq_ladd | dsimp only)
theorem P_X3_enter_2 (fu : Nat)  : ∀ (n : Nat) (y0 : Option Nat) (y1 : Int32) (y2 : Int32), hp (F_X3_enter_2 fu n y0 y1 y2) := by
  intro n
  induction n with
  | zero => intro y0 y1 y2; exact hp_none
  | succ n ih =>
    intro y0 y1 y2
    show hp (fun S => F_X3_enter_2 fu (n + 1) y0 y1 y2 S)
    simp only [F_X3_enter_2]
    repeat' (first | apply P_X5_bit | apply P_X3_note | apply P_X3_actAll | apply ih | exact ih | exact hp_none | exact hp_ret | refine hp_q ?_ | refine hp_cV ?_ (fun _ => ?_) | refine hp_cI ?_ (fun _ _ => ?_) | refine hp_cR ?_ (fun _ _ => ?_) | refine hp_cD ?_ (fun _ _ => ?_) | refine hp_tI ?_ (fun _ _ => ?_) (fun _ _ => ?_) | refine hp_tR ?_ (fun _ _ => ?_) (fun _ _ => ?_) | refine hp_ite ?_ ?_ | refine hp_bput ?_ (fun _ => ?_) | refine hp_bpair hq_new (fun _ _ => ?_) | refine hp_bpair hq_lrem (fun _ _ => ?_) | refine hp_bind (fun _ => ?_) | exact hq_pI (by decide) | exact hq_pZ (by decide) | exact hq_pC (by decide) | exact hq_pR (by decide) | exact hq_pD (by decide) | exact hq_sI | exact hq_sC | exact hq_sD | exact hq_lclr | exact hq_lnew | exact hq_ladd | dsimp only)
theorem P_X3_enter (fu : Nat) (x0 : Option Nat) (x1 : Int32)  : hp (F_X3_enter fu x0 x1) := by
  show hp (fun S => F_X3_enter fu x0 x1 S)
  unfold F_X3_enter
  repeat' (first | apply P_X3_enter_2 | exact hp_none | exact hp_ret | refine hp_q ?_ | refine hp_cV ?_ (fun _ => ?_) | refine hp_cI ?_ (fun _ _ => ?_) | refine hp_cR ?_ (fun _ _ => ?_) | refine hp_cD ?_ (fun _ _ => ?_) | refine hp_tI ?_ (fun _ _ => ?_) (fun _ _ => ?_) | refine hp_tR ?_ (fun _ _ => ?_) (fun _ _ => ?_) | refine hp_ite ?_ ?_ | refine hp_bput ?_ (fun _ => ?_) | refine hp_bpair hq_new (fun _ _ => ?_) | refine hp_bpair hq_lrem (fun _ _ => ?_) | refine hp_bind (fun _ => ?_) | exact hq_pI (by decide) | exact hq_pZ (by decide) | exact hq_pC (by decide) | exact hq_pR (by decide) | exact hq_pD (by decide) | exact hq_sI | exact hq_sC | exact hq_sD | exact hq_lclr | exact hq_lnew | exact hq_ladd | dsimp only)
theorem P_X1_down_50 (fu : Nat) (rc : Option Nat → Int32 → gm_S → gR) (h_rc : ∀ a0 a1, hp (rc a0 a1)) : ∀ (n : Nat) (y0 : Option Nat) (y1 : Int32) (y2 : Int32), hp (F_X1_down_50 fu rc n y0 y1 y2) := by
  intro n
  induction n with
  | zero => intro y0 y1 y2; exact hp_none
  | succ n ih =>
    intro y0 y1 y2
    show hp (fun S => F_X1_down_50 fu rc (n + 1) y0 y1 y2 S)
    simp only [F_X1_down_50]
    repeat' (first | apply h_rc | exact h_rc | apply P_X5_bit | apply ih | exact ih | exact hp_none | exact hp_ret | refine hp_q ?_ | refine hp_cV ?_ (fun _ => ?_) | refine hp_cI ?_ (fun _ _ => ?_) | refine hp_cR ?_ (fun _ _ => ?_) | refine hp_cD ?_ (fun _ _ => ?_) | refine hp_tI ?_ (fun _ _ => ?_) (fun _ _ => ?_) | refine hp_tR ?_ (fun _ _ => ?_) (fun _ _ => ?_) | refine hp_ite ?_ ?_ | refine hp_bput ?_ (fun _ => ?_) | refine hp_bpair hq_new (fun _ _ => ?_) | refine hp_bpair hq_lrem (fun _ _ => ?_) | refine hp_bind (fun _ => ?_) | exact hq_pI (by decide) | exact hq_pZ (by decide) | exact hq_pC (by decide) | exact hq_pR (by decide) | exact hq_pD (by decide) | exact hq_sI | exact hq_sC | exact hq_sD | exact hq_lclr | exact hq_lnew | exact hq_ladd | dsimp only)
theorem P_X1_down_40 (fu : Nat) (rc : Option Nat → Int32 → gm_S → gR) (x0 : Option Nat) (x2 : Int32) (h_rc : ∀ a0 a1, hp (rc a0 a1)) : hp (F_X1_down_40 fu rc x0 x2) := by
  show hp (fun S => F_X1_down_40 fu rc x0 x2 S)
  unfold F_X1_down_40
  repeat' (first | apply h_rc | exact h_rc | apply P_X1_down_50 | exact hp_none | exact hp_ret | refine hp_q ?_ | refine hp_cV ?_ (fun _ => ?_) | refine hp_cI ?_ (fun _ _ => ?_) | refine hp_cR ?_ (fun _ _ => ?_) | refine hp_cD ?_ (fun _ _ => ?_) | refine hp_tI ?_ (fun _ _ => ?_) (fun _ _ => ?_) | refine hp_tR ?_ (fun _ _ => ?_) (fun _ _ => ?_) | refine hp_ite ?_ ?_ | refine hp_bput ?_ (fun _ => ?_) | refine hp_bpair hq_new (fun _ _ => ?_) | refine hp_bpair hq_lrem (fun _ _ => ?_) | refine hp_bind (fun _ => ?_) | exact hq_pI (by decide) | exact hq_pZ (by decide) | exact hq_pC (by decide) | exact hq_pR (by decide) | exact hq_pD (by decide) | exact hq_sI | exact hq_sC | exact hq_sD | exact hq_lclr | exact hq_lnew | exact hq_ladd | dsimp only)
theorem P_X1_down_e (fu : Nat) (rc : Option Nat → Int32 → gm_S → gR) (x0 : Option Nat) (x1 : Int32) (h_rc : ∀ a0 a1, hp (rc a0 a1)) : hp (F_X1_down_e fu rc x0 x1) := by
  show hp (fun S => F_X1_down_e fu rc x0 x1 S)
  unfold F_X1_down_e
  repeat' (first | apply h_rc | exact h_rc | apply P_X5_bit | apply P_X1_down_40 | exact hp_none | exact hp_ret | refine hp_q ?_ | refine hp_cV ?_ (fun _ => ?_) | refine hp_cI ?_ (fun _ _ => ?_) | refine hp_cR ?_ (fun _ _ => ?_) | refine hp_cD ?_ (fun _ _ => ?_) | refine hp_tI ?_ (fun _ _ => ?_) (fun _ _ => ?_) | refine hp_tR ?_ (fun _ _ => ?_) (fun _ _ => ?_) | refine hp_ite ?_ ?_ | refine hp_bput ?_ (fun _ => ?_) | refine hp_bpair hq_new (fun _ _ => ?_) | refine hp_bpair hq_lrem (fun _ _ => ?_) | refine hp_bind (fun _ => ?_) | exact hq_pI (by decide) | exact hq_pZ (by decide) | exact hq_pC (by decide) | exact hq_pR (by decide) | exact hq_pD (by decide) | exact hq_sI | exact hq_sC | exact hq_sD | exact hq_lclr | exact hq_lnew | exact hq_ladd | dsimp only)
theorem P_X1_down (fu : Nat)  : ∀ (n : Nat) (y0 : Option Nat) (y1 : Int32), hp (F_X1_down fu n y0 y1) := by
  intro n
  induction n with
  | zero => intro y0 y1; exact hp_none
  | succ n ih =>
    intro y0 y1
    show hp (fun S => F_X1_down fu (n + 1) y0 y1 S)
    simp only [F_X1_down]
    repeat' (first | apply P_X1_down_e | apply ih | exact ih | exact hp_none | exact hp_ret | refine hp_q ?_ | refine hp_cV ?_ (fun _ => ?_) | refine hp_cI ?_ (fun _ _ => ?_) | refine hp_cR ?_ (fun _ _ => ?_) | refine hp_cD ?_ (fun _ _ => ?_) | refine hp_tI ?_ (fun _ _ => ?_) (fun _ _ => ?_) | refine hp_tR ?_ (fun _ _ => ?_) (fun _ _ => ?_) | refine hp_ite ?_ ?_ | refine hp_bput ?_ (fun _ => ?_) | refine hp_bpair hq_new (fun _ _ => ?_) | refine hp_bpair hq_lrem (fun _ _ => ?_) | refine hp_bind (fun _ => ?_) | exact hq_pI (by decide) | exact hq_pZ (by decide) | exact hq_pC (by decide) | exact hq_pR (by decide) | exact hq_pD (by decide) | exact hq_sI | exact hq_sC | exact hq_sD | exact hq_lclr | exact hq_lnew | exact hq_ladd | dsimp only)
theorem P_X1_up_42 (fu : Nat) (k8 : Option Nat → Int32 → Option Nat → gm_S → gR) (h_k8 : ∀ a0 a1 a2, hp (k8 a0 a1 a2)) : ∀ (n : Nat) (y0 : Option Nat) (y1 : Int32) (y2 : Option Nat) (y3 : Int32), hp (F_X1_up_42 fu k8 n y0 y1 y2 y3) := by
  intro n
  induction n with
  | zero => intro y0 y1 y2 y3; exact hp_none
  | succ n ih =>
    intro y0 y1 y2 y3
    show hp (fun S => F_X1_up_42 fu k8 (n + 1) y0 y1 y2 y3 S)
    simp only [F_X1_up_42]
    repeat' (first | apply h_k8 | exact h_k8 | apply P_X5_bit | apply P_X1_down | apply ih | exact ih | exact hp_none | exact hp_ret | refine hp_q ?_ | refine hp_cV ?_ (fun _ => ?_) | refine hp_cI ?_ (fun _ _ => ?_) | refine hp_cR ?_ (fun _ _ => ?_) | refine hp_cD ?_ (fun _ _ => ?_) | refine hp_tI ?_ (fun _ _ => ?_) (fun _ _ => ?_) | refine hp_tR ?_ (fun _ _ => ?_) (fun _ _ => ?_) | refine hp_ite ?_ ?_ | refine hp_bput ?_ (fun _ => ?_) | refine hp_bpair hq_new (fun _ _ => ?_) | refine hp_bpair hq_lrem (fun _ _ => ?_) | refine hp_bind (fun _ => ?_) | exact hq_pI (by decide) | exact hq_pZ (by decide) | exact hq_pC (by decide) | exact hq_pR (by decide) | exact hq_pD (by decide) | exact hq_sI | exact hq_sC | exact hq_sD | exact hq_lclr | exact hq_lnew | exact hq_ladd | dsimp only)
theorem P_X1_up_8 (fu : Nat)  : ∀ (n : Nat) (y0 : Option Nat) (y1 : Int32) (y2 : Option Nat), hp (F_X1_up_8 fu n y0 y1 y2) := by
  intro n
  induction n with
  | zero => intro y0 y1 y2; exact hp_none
  | succ n ih =>
    intro y0 y1 y2
    show hp (fun S => F_X1_up_8 fu (n + 1) y0 y1 y2 S)
    simp only [F_X1_up_8]
    repeat' (first | apply P_X5_bit | apply P_X1_up_42 | apply ih | exact ih | exact hp_none | exact hp_ret | refine hp_q ?_ | refine hp_cV ?_ (fun _ => ?_) | refine hp_cI ?_ (fun _ _ => ?_) | refine hp_cR ?_ (fun _ _ => ?_) | refine hp_cD ?_ (fun _ _ => ?_) | refine hp_tI ?_ (fun _ _ => ?_) (fun _ _ => ?_) | refine hp_tR ?_ (fun _ _ => ?_) (fun _ _ => ?_) | refine hp_ite ?_ ?_ | refine hp_bput ?_ (fun _ => ?_) | refine hp_bpair hq_new (fun _ _ => ?_) | refine hp_bpair hq_lrem (fun _ _ => ?_) | refine hp_bind (fun _ => ?_) | exact hq_pI (by decide) | exact hq_pZ (by decide) | exact hq_pC (by decide) | exact hq_pR (by decide) | exact hq_pD (by decide) | exact hq_sI | exact hq_sC | exact hq_sD | exact hq_lclr | exact hq_lnew | exact hq_ladd | dsimp only)
theorem P_X1_up (fu : Nat) (x0 : Option Nat) (x1 : Option Nat) (x2 : Int32)  : hp (F_X1_up fu x0 x1 x2) := by
  show hp (fun S => F_X1_up fu x0 x1 x2 S)
  unfold F_X1_up
  repeat' (first | apply P_X1_up_8 | exact hp_none | exact hp_ret | refine hp_q ?_ | refine hp_cV ?_ (fun _ => ?_) | refine hp_cI ?_ (fun _ _ => ?_) | refine hp_cR ?_ (fun _ _ => ?_) | refine hp_cD ?_ (fun _ _ => ?_) | refine hp_tI ?_ (fun _ _ => ?_) (fun _ _ => ?_) | refine hp_tR ?_ (fun _ _ => ?_) (fun _ _ => ?_) | refine hp_ite ?_ ?_ | refine hp_bput ?_ (fun _ => ?_) | refine hp_bpair hq_new (fun _ _ => ?_) | refine hp_bpair hq_lrem (fun _ _ => ?_) | refine hp_bind (fun _ => ?_) | exact hq_pI (by decide) | exact hq_pZ (by decide) | exact hq_pC (by decide) | exact hq_pR (by decide) | exact hq_pD (by decide) | exact hq_sI | exact hq_sC | exact hq_sD | exact hq_lclr | exact hq_lnew | exact hq_ladd | dsimp only)
theorem P_X3_entries_113 (fu : Nat) (k4 : Option Nat → Int32 → Int32 → gm_S → gR) (k37 : Option Nat → Int32 → Int32 → Option Nat → Int32 → gm_S → gR) (x0 : Option Nat) (x1 : Int32) (x2 : Int32) (x3 : Option Nat) (x4 : Int32) (s0 : Option Nat) (s1 : Option Nat) (h_k4 : ∀ a0 a1 a2, hp (k4 a0 a1 a2)) (h_k37 : ∀ a0 a1 a2 a3 a4, hp (k37 a0 a1 a2 a3 a4)) : hp (F_X3_entries_113 fu k4 k37 x0 x1 x2 x3 x4 s0 s1) := by
  show hp (fun S => F_X3_entries_113 fu k4 k37 x0 x1 x2 x3 x4 s0 s1 S)
  unfold F_X3_entries_113
  repeat' (first | apply h_k4 | exact h_k4 | apply h_k37 | exact h_k37 | apply P_X1_up | exact hp_none | exact hp_ret | refine hp_q ?_ | refine hp_cV ?_ (fun _ => ?_) | refine hp_cI ?_ (fun _ _ => ?_) | refine hp_cR ?_ (fun _ _ => ?_) | refine hp_cD ?_ (fun _ _ => ?_) | refine hp_tI ?_ (fun _ _ => ?_) (fun _ _ => ?_) | refine hp_tR ?_ (fun _ _ => ?_) (fun _ _ => ?_) | refine hp_ite ?_ ?_ | refine hp_bput ?_ (fun _ => ?_) | refine hp_bpair hq_new (fun _ _ => ?_) | refine hp_bpair hq_lrem (fun _ _ => ?_) | refine hp_bind (fun _ => ?_) | exact hq_pI (by decide) | exact hq_pZ (by decide) | exact hq_pC (by decide) | exact hq_pR (by decide) | exact hq_pD (by decide) | exact hq_sI | exact hq_sC | exact hq_sD | exact hq_lclr | exact hq_lnew | exact hq_ladd | dsimp only)
theorem P_X3_entries_37 (fu : Nat) (k4 : Option Nat → Int32 → Int32 → gm_S → gR) (h_k4 : ∀ a0 a1 a2, hp (k4 a0 a1 a2)) : ∀ (n : Nat) (y0 : Option Nat) (y1 : Int32) (y2 : Int32) (y3 : Option Nat) (y4 : Int32), hp (F_X3_entries_37 fu k4 n y0 y1 y2 y3 y4) := by
  intro n
  induction n with
  | zero => intro y0 y1 y2 y3 y4; exact hp_none
  | succ n ih =>
    intro y0 y1 y2 y3 y4
    show hp (fun S => F_X3_entries_37 fu k4 (n + 1) y0 y1 y2 y3 y4 S)
    simp only [F_X3_entries_37]
    repeat' (first | apply h_k4 | exact h_k4 | apply P_X5_bit | apply P_X1_down | apply P_X3_entries_113 | apply ih | exact ih | exact hp_none | exact hp_ret | refine hp_q ?_ | refine hp_cV ?_ (fun _ => ?_) | refine hp_cI ?_ (fun _ _ => ?_) | refine hp_cR ?_ (fun _ _ => ?_) | refine hp_cD ?_ (fun _ _ => ?_) | refine hp_tI ?_ (fun _ _ => ?_) (fun _ _ => ?_) | refine hp_tR ?_ (fun _ _ => ?_) (fun _ _ => ?_) | refine hp_ite ?_ ?_ | refine hp_bput ?_ (fun _ => ?_) | refine hp_bpair hq_new (fun _ _ => ?_) | refine hp_bpair hq_lrem (fun _ _ => ?_) | refine hp_bind (fun _ => ?_) | exact hq_pI (by decide) | exact hq_pZ (by decide) | exact hq_pC (by decide) | exact hq_pR (by decide) | exact hq_pD (by decide) | exact hq_sI | exact hq_sC | exact hq_sD | exact hq_lclr | exact hq_lnew | exact hq_ladd | dsimp only)
theorem P_X3_entries_4 (fu : Nat)  : ∀ (n : Nat) (y0 : Option Nat) (y1 : Int32) (y2 : Int32), hp (F_X3_entries_4 fu n y0 y1 y2) := by
  intro n
  induction n with
  | zero => intro y0 y1 y2; exact hp_none
  | succ n ih =>
    intro y0 y1 y2
    show hp (fun S => F_X3_entries_4 fu (n + 1) y0 y1 y2 S)
    simp only [F_X3_entries_4]
    repeat' (first | apply P_X3_entries_37 | apply ih | exact ih | exact hp_none | exact hp_ret | refine hp_q ?_ | refine hp_cV ?_ (fun _ => ?_) | refine hp_cI ?_ (fun _ _ => ?_) | refine hp_cR ?_ (fun _ _ => ?_) | refine hp_cD ?_ (fun _ _ => ?_) | refine hp_tI ?_ (fun _ _ => ?_) (fun _ _ => ?_) | refine hp_tR ?_ (fun _ _ => ?_) (fun _ _ => ?_) | refine hp_ite ?_ ?_ | refine hp_bput ?_ (fun _ => ?_) | refine hp_bpair hq_new (fun _ _ => ?_) | refine hp_bpair hq_lrem (fun _ _ => ?_) | refine hp_bind (fun _ => ?_) | exact hq_pI (by decide) | exact hq_pZ (by decide) | exact hq_pC (by decide) | exact hq_pR (by decide) | exact hq_pD (by decide) | exact hq_sI | exact hq_sC | exact hq_sD | exact hq_lclr | exact hq_lnew | exact hq_ladd | dsimp only)
theorem P_X3_entries (fu : Nat) (x0 : Option Nat)  : hp (F_X3_entries fu x0) := by
  show hp (fun S => F_X3_entries fu x0 S)
  unfold F_X3_entries
  repeat' (first | apply P_X3_entries_4 | exact hp_none | exact hp_ret | refine hp_q ?_ | refine hp_cV ?_ (fun _ => ?_) | refine hp_cI ?_ (fun _ _ => ?_) | refine hp_cR ?_ (fun _ _ => ?_) | refine hp_cD ?_ (fun _ _ => ?_) | refine hp_tI ?_ (fun _ _ => ?_) (fun _ _ => ?_) | refine hp_tR ?_ (fun _ _ => ?_) (fun _ _ => ?_) | refine hp_ite ?_ ?_ | refine hp_bput ?_ (fun _ => ?_) | refine hp_bpair hq_new (fun _ _ => ?_) | refine hp_bpair hq_lrem (fun _ _ => ?_) | refine hp_bind (fun _ => ?_) | exact hq_pI (by decide) | exact hq_pZ (by decide) | exact hq_pC (by decide) | exact hq_pR (by decide) | exact hq_pD (by decide) | exact hq_sI | exact hq_sC | exact hq_sD | exact hq_lclr | exact hq_lnew | exact hq_ladd | dsimp only)
theorem P_X3_record_55 (fu : Nat)  : ∀ (n : Nat) (y0 : Option Nat) (y1 : Option Nat) (y2 : Int32), hp (F_X3_record_55 fu n y0 y1 y2) := by
  intro n
  induction n with
  | zero => intro y0 y1 y2; exact hp_none
  | succ n ih =>
    intro y0 y1 y2
    show hp (fun S => F_X3_record_55 fu (n + 1) y0 y1 y2 S)
    simp only [F_X3_record_55]
    repeat' (first | apply P_X5_bit | apply ih | exact ih | exact hp_none | exact hp_ret | refine hp_q ?_ | refine hp_cV ?_ (fun _ => ?_) | refine hp_cI ?_ (fun _ _ => ?_) | refine hp_cR ?_ (fun _ _ => ?_) | refine hp_cD ?_ (fun _ _ => ?_) | refine hp_tI ?_ (fun _ _ => ?_) (fun _ _ => ?_) | refine hp_tR ?_ (fun _ _ => ?_) (fun _ _ => ?_) | refine hp_ite ?_ ?_ | refine hp_bput ?_ (fun _ => ?_) | refine hp_bpair hq_new (fun _ _ => ?_) | refine hp_bpair hq_lrem (fun _ _ => ?_) | refine hp_bind (fun _ => ?_) | exact hq_pI (by decide) | exact hq_pZ (by decide) | exact hq_pC (by decide) | exact hq_pR (by decide) | exact hq_pD (by decide) | exact hq_sI | exact hq_sC | exact hq_sD | exact hq_lclr | exact hq_lnew | exact hq_ladd | dsimp only)
theorem P_X3_record_4 (fu : Nat)  : ∀ (n : Nat) (y0 : Option Nat) (y1 : Option Nat) (y2 : Int32) (y3 : Int32), hp (F_X3_record_4 fu n y0 y1 y2 y3) := by
  intro n
  induction n with
  | zero => intro y0 y1 y2 y3; exact hp_none
  | succ n ih =>
    intro y0 y1 y2 y3
    show hp (fun S => F_X3_record_4 fu (n + 1) y0 y1 y2 y3 S)
    simp only [F_X3_record_4]
    repeat' (first | apply P_X3_record_55 | apply P_X5_bit | apply ih | exact ih | exact hp_none | exact hp_ret | refine hp_q ?_ | refine hp_cV ?_ (fun _ => ?_) | refine hp_cI ?_ (fun _ _ => ?_) | refine hp_cR ?_ (fun _ _ => ?_) | refine hp_cD ?_ (fun _ _ => ?_) | refine hp_tI ?_ (fun _ _ => ?_) (fun _ _ => ?_) | refine hp_tR ?_ (fun _ _ => ?_) (fun _ _ => ?_) | refine hp_ite ?_ ?_ | refine hp_bput ?_ (fun _ => ?_) | refine hp_bpair hq_new (fun _ _ => ?_) | refine hp_bpair hq_lrem (fun _ _ => ?_) | refine hp_bind (fun _ => ?_) | exact hq_pI (by decide) | exact hq_pZ (by decide) | exact hq_pC (by decide) | exact hq_pR (by decide) | exact hq_pD (by decide) | exact hq_sI | exact hq_sC | exact hq_sD | exact hq_lclr | exact hq_lnew | exact hq_ladd | dsimp only)
theorem P_X3_record (fu : Nat) (x0 : Option Nat) (x1 : Option Nat)  : hp (F_X3_record fu x0 x1) := by
  show hp (fun S => F_X3_record fu x0 x1 S)
  unfold F_X3_record
  repeat' (first | apply P_X3_record_4 | exact hp_none | exact hp_ret | refine hp_q ?_ | refine hp_cV ?_ (fun _ => ?_) | refine hp_cI ?_ (fun _ _ => ?_) | refine hp_cR ?_ (fun _ _ => ?_) | refine hp_cD ?_ (fun _ _ => ?_) | refine hp_tI ?_ (fun _ _ => ?_) (fun _ _ => ?_) | refine hp_tR ?_ (fun _ _ => ?_) (fun _ _ => ?_) | refine hp_ite ?_ ?_ | refine hp_bput ?_ (fun _ => ?_) | refine hp_bpair hq_new (fun _ _ => ?_) | refine hp_bpair hq_lrem (fun _ _ => ?_) | refine hp_bind (fun _ => ?_) | exact hq_pI (by decide) | exact hq_pZ (by decide) | exact hq_pC (by decide) | exact hq_pR (by decide) | exact hq_pD (by decide) | exact hq_sI | exact hq_sC | exact hq_sD | exact hq_lclr | exact hq_lnew | exact hq_ladd | dsimp only)
theorem P_X3_leave_62 (fu : Nat)  : ∀ (n : Nat) (y0 : Option Nat) (y1 : Int32) (y2 : Int32), hp (F_X3_leave_62 fu n y0 y1 y2) := by
  intro n
  induction n with
  | zero => intro y0 y1 y2; exact hp_none
  | succ n ih =>
    intro y0 y1 y2
    show hp (fun S => F_X3_leave_62 fu (n + 1) y0 y1 y2 S)
    simp only [F_X3_leave_62]
    repeat' (first | apply P_X5_bit | apply P_X3_actAll | apply P_X3_note | apply ih | exact ih | exact hp_none | exact hp_ret | refine hp_q ?_ | refine hp_cV ?_ (fun _ => ?_) | refine hp_cI ?_ (fun _ _ => ?_) | refine hp_cR ?_ (fun _ _ => ?_) | refine hp_cD ?_ (fun _ _ => ?_) | refine hp_tI ?_ (fun _ _ => ?_) (fun _ _ => ?_) | refine hp_tR ?_ (fun _ _ => ?_) (fun _ _ => ?_) | refine hp_ite ?_ ?_ | refine hp_bput ?_ (fun _ => ?_) | refine hp_bpair hq_new (fun _ _ => ?_) | refine hp_bpair hq_lrem (fun _ _ => ?_) | refine hp_bind (fun _ => ?_) | exact hq_pI (by decide) | exact hq_pZ (by decide) | exact hq_pC (by decide) | exact hq_pR (by decide) | exact hq_pD (by decide) | exact hq_sI | exact hq_sC | exact hq_sD | exact hq_lclr | exact hq_lnew | exact hq_ladd | dsimp only)
theorem P_X3_leave_2 (fu : Nat)  : ∀ (n : Nat) (y0 : Option Nat) (y1 : Int32) (y2 : Int32), hp (F_X3_leave_2 fu n y0 y1 y2) := by
  intro n
  induction n with
  | zero => intro y0 y1 y2; exact hp_none
  | succ n ih =>
    intro y0 y1 y2
    show hp (fun S => F_X3_leave_2 fu (n + 1) y0 y1 y2 S)
    simp only [F_X3_leave_2]
    repeat' (first | apply P_X3_leave_62 | apply P_X5_bit | apply P_X3_record | apply ih | exact ih | exact hp_none | exact hp_ret | refine hp_q ?_ | refine hp_cV ?_ (fun _ => ?_) | refine hp_cI ?_ (fun _ _ => ?_) | refine hp_cR ?_ (fun _ _ => ?_) | refine hp_cD ?_ (fun _ _ => ?_) | refine hp_tI ?_ (fun _ _ => ?_) (fun _ _ => ?_) | refine hp_tR ?_ (fun _ _ => ?_) (fun _ _ => ?_) | refine hp_ite ?_ ?_ | refine hp_bput ?_ (fun _ => ?_) | refine hp_bpair hq_new (fun _ _ => ?_) | refine hp_bpair hq_lrem (fun _ _ => ?_) | refine hp_bind (fun _ => ?_) | exact hq_pI (by decide) | exact hq_pZ (by decide) | exact hq_pC (by decide) | exact hq_pR (by decide) | exact hq_pD (by decide) | exact hq_sI | exact hq_sC | exact hq_sD | exact hq_lclr | exact hq_lnew | exact hq_ladd | dsimp only)
theorem P_X3_leave (fu : Nat) (x0 : Option Nat) (x1 : Int32)  : hp (F_X3_leave fu x0 x1) := by
  show hp (fun S => F_X3_leave fu x0 x1 S)
  unfold F_X3_leave
  repeat' (first | apply P_X3_leave_2 | exact hp_none | exact hp_ret | refine hp_q ?_ | refine hp_cV ?_ (fun _ => ?_) | refine hp_cI ?_ (fun _ _ => ?_) | refine hp_cR ?_ (fun _ _ => ?_) | refine hp_cD ?_ (fun _ _ => ?_) | refine hp_tI ?_ (fun _ _ => ?_) (fun _ _ => ?_) | refine hp_tR ?_ (fun _ _ => ?_) (fun _ _ => ?_) | refine hp_ite ?_ ?_ | refine hp_bput ?_ (fun _ => ?_) | refine hp_bpair hq_new (fun _ _ => ?_) | refine hp_bpair hq_lrem (fun _ _ => ?_) | refine hp_bind (fun _ => ?_) | exact hq_pI (by decide) | exact hq_pZ (by decide) | exact hq_pC (by decide) | exact hq_pR (by decide) | exact hq_pD (by decide) | exact hq_sI | exact hq_sC | exact hq_sD | exact hq_lclr | exact hq_lnew | exact hq_ladd | dsimp only)
theorem P_X3_step_82 (fu : Nat)  : ∀ (n : Nat) (y0 : Option Nat) (y1 : Int32), hp (F_X3_step_82 fu n y0 y1) := by
  intro n
  induction n with
  | zero => intro y0 y1; exact hp_none
  | succ n ih =>
    intro y0 y1
    show hp (fun S => F_X3_step_82 fu (n + 1) y0 y1 S)
    simp only [F_X3_step_82]
    repeat' (first | apply P_X3_entries | apply P_X3_enter | apply P_X3_actAll | apply ih | exact ih | exact hp_none | exact hp_ret | refine hp_q ?_ | refine hp_cV ?_ (fun _ => ?_) | refine hp_cI ?_ (fun _ _ => ?_) | refine hp_cR ?_ (fun _ _ => ?_) | refine hp_cD ?_ (fun _ _ => ?_) | refine hp_tI ?_ (fun _ _ => ?_) (fun _ _ => ?_) | refine hp_tR ?_ (fun _ _ => ?_) (fun _ _ => ?_) | refine hp_ite ?_ ?_ | refine hp_bput ?_ (fun _ => ?_) | refine hp_bpair hq_new (fun _ _ => ?_) | refine hp_bpair hq_lrem (fun _ _ => ?_) | refine hp_bind (fun _ => ?_) | exact hq_pI (by decide) | exact hq_pZ (by decide) | exact hq_pC (by decide) | exact hq_pR (by decide) | exact hq_pD (by decide) | exact hq_sI | exact hq_sC | exact hq_sD | exact hq_lclr | exact hq_lnew | exact hq_ladd | dsimp only)
theorem P_X3_step_41 (fu : Nat)  : ∀ (n : Nat) (y0 : Option Nat) (y1 : Int32) (y2 : Int32), hp (F_X3_step_41 fu n y0 y1 y2) := by
  intro n
  induction n with
  | zero => intro y0 y1 y2; exact hp_none
  | succ n ih =>
    intro y0 y1 y2
    show hp (fun S => F_X3_step_41 fu (n + 1) y0 y1 y2 S)
    simp only [F_X3_step_41]
    repeat' (first | apply P_X3_leave | apply P_X3_step_82 | apply ih | exact ih | exact hp_none | exact hp_ret | refine hp_q ?_ | refine hp_cV ?_ (fun _ => ?_) | refine hp_cI ?_ (fun _ _ => ?_) | refine hp_cR ?_ (fun _ _ => ?_) | refine hp_cD ?_ (fun _ _ => ?_) | refine hp_tI ?_ (fun _ _ => ?_) (fun _ _ => ?_) | refine hp_tR ?_ (fun _ _ => ?_) (fun _ _ => ?_) | refine hp_ite ?_ ?_ | refine hp_bput ?_ (fun _ => ?_) | refine hp_bpair hq_new (fun _ _ => ?_) | refine hp_bpair hq_lrem (fun _ _ => ?_) | refine hp_bind (fun _ => ?_) | exact hq_pI (by decide) | exact hq_pZ (by decide) | exact hq_pC (by decide) | exact hq_pR (by decide) | exact hq_pD (by decide) | exact hq_sI | exact hq_sC | exact hq_sD | exact hq_lclr | exact hq_lnew | exact hq_ladd | dsimp only)
theorem P_X3_step (fu : Nat) (x0 : Option Nat)  : hp (F_X3_step fu x0) := by
  show hp (fun S => F_X3_step fu x0 S)
  unfold F_X3_step
  repeat' (first | apply P_X3_step_41 | exact hp_none | exact hp_ret | refine hp_q ?_ | refine hp_cV ?_ (fun _ => ?_) | refine hp_cI ?_ (fun _ _ => ?_) | refine hp_cR ?_ (fun _ _ => ?_) | refine hp_cD ?_ (fun _ _ => ?_) | refine hp_tI ?_ (fun _ _ => ?_) (fun _ _ => ?_) | refine hp_tR ?_ (fun _ _ => ?_) (fun _ _ => ?_) | refine hp_ite ?_ ?_ | refine hp_bput ?_ (fun _ => ?_) | refine hp_bpair hq_new (fun _ _ => ?_) | refine hp_bpair hq_lrem (fun _ _ => ?_) | refine hp_bind (fun _ => ?_) | exact hq_pI (by decide) | exact hq_pZ (by decide) | exact hq_pC (by decide) | exact hq_pR (by decide) | exact hq_pD (by decide) | exact hq_sI | exact hq_sC | exact hq_sD | exact hq_lclr | exact hq_lnew | exact hq_ladd | dsimp only)
theorem P_X3_runOn_64 (fu : Nat) (k0 : Option Nat → gm_S → gR) (x0 : Option Nat) (h_k0 : ∀ a0, hp (k0 a0)) : hp (F_X3_runOn_64 fu k0 x0) := by
  show hp (fun S => F_X3_runOn_64 fu k0 x0 S)
  unfold F_X3_runOn_64
  repeat' (first | apply h_k0 | exact h_k0 | apply P_X3_step | exact hp_none | exact hp_ret | refine hp_q ?_ | refine hp_cV ?_ (fun _ => ?_) | refine hp_cI ?_ (fun _ _ => ?_) | refine hp_cR ?_ (fun _ _ => ?_) | refine hp_cD ?_ (fun _ _ => ?_) | refine hp_tI ?_ (fun _ _ => ?_) (fun _ _ => ?_) | refine hp_tR ?_ (fun _ _ => ?_) (fun _ _ => ?_) | refine hp_ite ?_ ?_ | refine hp_bput ?_ (fun _ => ?_) | refine hp_bpair hq_new (fun _ _ => ?_) | refine hp_bpair hq_lrem (fun _ _ => ?_) | refine hp_bind (fun _ => ?_) | exact hq_pI (by decide) | exact hq_pZ (by decide) | exact hq_pC (by decide) | exact hq_pR (by decide) | exact hq_pD (by decide) | exact hq_sI | exact hq_sC | exact hq_sD | exact hq_lclr | exact hq_lnew | exact hq_ladd | dsimp only)
theorem P_X3_runOn_6 (fu : Nat) (k0 : Option Nat → gm_S → gR) (h_k0 : ∀ a0, hp (k0 a0)) : ∀ (n : Nat) (y0 : Option Nat), hp (F_X3_runOn_6 fu k0 n y0) := by
  intro n
  induction n with
  | zero => intro y0; exact hp_none
  | succ n ih =>
    intro y0
    show hp (fun S => F_X3_runOn_6 fu k0 (n + 1) y0 S)
    simp only [F_X3_runOn_6]
    repeat' (first | apply h_k0 | exact h_k0 | apply P_X3_runOn_64 | apply P_X3_choose | apply ih | exact ih | exact hp_none | exact hp_ret | refine hp_q ?_ | refine hp_cV ?_ (fun _ => ?_) | refine hp_cI ?_ (fun _ _ => ?_) | refine hp_cR ?_ (fun _ _ => ?_) | refine hp_cD ?_ (fun _ _ => ?_) | refine hp_tI ?_ (fun _ _ => ?_) (fun _ _ => ?_) | refine hp_tR ?_ (fun _ _ => ?_) (fun _ _ => ?_) | refine hp_ite ?_ ?_ | refine hp_bput ?_ (fun _ => ?_) | refine hp_bpair hq_new (fun _ _ => ?_) | refine hp_bpair hq_lrem (fun _ _ => ?_) | refine hp_bind (fun _ => ?_) | exact hq_pI (by decide) | exact hq_pZ (by decide) | exact hq_pC (by decide) | exact hq_pR (by decide) | exact hq_pD (by decide) | exact hq_sI | exact hq_sC | exact hq_sD | exact hq_lclr | exact hq_lnew | exact hq_ladd | dsimp only)
theorem P_X3_runOn_0 (fu : Nat)  : ∀ (n : Nat) (y0 : Option Nat), hp (F_X3_runOn_0 fu n y0) := by
  intro n
  induction n with
  | zero => intro y0; exact hp_none
  | succ n ih =>
    intro y0
    show hp (fun S => F_X3_runOn_0 fu (n + 1) y0 S)
    simp only [F_X3_runOn_0]
    repeat' (first | apply P_X3_choose | apply P_X3_runOn_6 | apply ih | exact ih | exact hp_none | exact hp_ret | refine hp_q ?_ | refine hp_cV ?_ (fun _ => ?_) | refine hp_cI ?_ (fun _ _ => ?_) | refine hp_cR ?_ (fun _ _ => ?_) | refine hp_cD ?_ (fun _ _ => ?_) | refine hp_tI ?_ (fun _ _ => ?_) (fun _ _ => ?_) | refine hp_tR ?_ (fun _ _ => ?_) (fun _ _ => ?_) | refine hp_ite ?_ ?_ | refine hp_bput ?_ (fun _ => ?_) | refine hp_bpair hq_new (fun _ _ => ?_) | refine hp_bpair hq_lrem (fun _ _ => ?_) | refine hp_bind (fun _ => ?_) | exact hq_pI (by decide) | exact hq_pZ (by decide) | exact hq_pC (by decide) | exact hq_pR (by decide) | exact hq_pD (by decide) | exact hq_sI | exact hq_sC | exact hq_sD | exact hq_lclr | exact hq_lnew | exact hq_ladd | dsimp only)
theorem P_X3_runOn (fu : Nat) (x0 : Option Nat)  : hp (F_X3_runOn fu x0) := by
  show hp (fun S => F_X3_runOn fu x0 S)
  unfold F_X3_runOn
  repeat' (first | apply P_X3_runOn_0 | exact hp_none | exact hp_ret | refine hp_q ?_ | refine hp_cV ?_ (fun _ => ?_) | refine hp_cI ?_ (fun _ _ => ?_) | refine hp_cR ?_ (fun _ _ => ?_) | refine hp_cD ?_ (fun _ _ => ?_) | refine hp_tI ?_ (fun _ _ => ?_) (fun _ _ => ?_) | refine hp_tR ?_ (fun _ _ => ?_) (fun _ _ => ?_) | refine hp_ite ?_ ?_ | refine hp_bput ?_ (fun _ => ?_) | refine hp_bpair hq_new (fun _ _ => ?_) | refine hp_bpair hq_lrem (fun _ _ => ?_) | refine hp_bind (fun _ => ?_) | exact hq_pI (by decide) | exact hq_pZ (by decide) | exact hq_pC (by decide) | exact hq_pR (by decide) | exact hq_pD (by decide) | exact hq_sI | exact hq_sC | exact hq_sD | exact hq_lclr | exact hq_lnew | exact hq_ladd | dsimp only)
theorem P_X3_come_19 (fu : Nat) (x0 : Option Nat)  : hp (F_X3_come_19 fu x0) := by
  show hp (fun S => F_X3_come_19 fu x0 S)
  unfold F_X3_come_19
  repeat' (first | apply P_X3_runOn | exact hp_none | exact hp_ret | refine hp_q ?_ | refine hp_cV ?_ (fun _ => ?_) | refine hp_cI ?_ (fun _ _ => ?_) | refine hp_cR ?_ (fun _ _ => ?_) | refine hp_cD ?_ (fun _ _ => ?_) | refine hp_tI ?_ (fun _ _ => ?_) (fun _ _ => ?_) | refine hp_tR ?_ (fun _ _ => ?_) (fun _ _ => ?_) | refine hp_ite ?_ ?_ | refine hp_bput ?_ (fun _ => ?_) | refine hp_bpair hq_new (fun _ _ => ?_) | refine hp_bpair hq_lrem (fun _ _ => ?_) | refine hp_bind (fun _ => ?_) | exact hq_pI (by decide) | exact hq_pZ (by decide) | exact hq_pC (by decide) | exact hq_pR (by decide) | exact hq_pD (by decide) | exact hq_sI | exact hq_sC | exact hq_sD | exact hq_lclr | exact hq_lnew | exact hq_ladd | dsimp only)
theorem P_X3_come (fu : Nat) (x0 : Option Nat) (x1 : Int32)  : hp (F_X3_come fu x0 x1) := by
  show hp (fun S => F_X3_come fu x0 x1 S)
  unfold F_X3_come
  repeat' (first | apply P_X3_choose | apply P_X3_step | apply P_X3_come_19 | exact hp_none | exact hp_ret | refine hp_q ?_ | refine hp_cV ?_ (fun _ => ?_) | refine hp_cI ?_ (fun _ _ => ?_) | refine hp_cR ?_ (fun _ _ => ?_) | refine hp_cD ?_ (fun _ _ => ?_) | refine hp_tI ?_ (fun _ _ => ?_) (fun _ _ => ?_) | refine hp_tR ?_ (fun _ _ => ?_) (fun _ _ => ?_) | refine hp_ite ?_ ?_ | refine hp_bput ?_ (fun _ => ?_) | refine hp_bpair hq_new (fun _ _ => ?_) | refine hp_bpair hq_lrem (fun _ _ => ?_) | refine hp_bind (fun _ => ?_) | exact hq_pI (by decide) | exact hq_pZ (by decide) | exact hq_pC (by decide) | exact hq_pR (by decide) | exact hq_pD (by decide) | exact hq_sI | exact hq_sC | exact hq_sD | exact hq_lclr | exact hq_lnew | exact hq_ladd | dsimp only)
theorem P_X3_open (fu : Nat) (x0 : Option Nat)  : hp (F_X3_open fu x0) := by
  show hp (fun S => F_X3_open fu x0 S)
  unfold F_X3_open
  repeat' (first | exact hp_none | exact hp_ret | refine hp_q ?_ | refine hp_cV ?_ (fun _ => ?_) | refine hp_cI ?_ (fun _ _ => ?_) | refine hp_cR ?_ (fun _ _ => ?_) | refine hp_cD ?_ (fun _ _ => ?_) | refine hp_tI ?_ (fun _ _ => ?_) (fun _ _ => ?_) | refine hp_tR ?_ (fun _ _ => ?_) (fun _ _ => ?_) | refine hp_ite ?_ ?_ | refine hp_bput ?_ (fun _ => ?_) | refine hp_bpair hq_new (fun _ _ => ?_) | refine hp_bpair hq_lrem (fun _ _ => ?_) | refine hp_bind (fun _ => ?_) | exact hq_pI (by decide) | exact hq_pZ (by decide) | exact hq_pC (by decide) | exact hq_pR (by decide) | exact hq_pD (by decide) | exact hq_sI | exact hq_sC | exact hq_sD | exact hq_lclr | exact hq_lnew | exact hq_ladd | dsimp only)
theorem P_X1_event_12 (fu : Nat)  : hp (F_X1_event_12 fu) := by
  show hp (fun S => F_X1_event_12 fu S)
  unfold F_X1_event_12
  repeat' (first | exact hp_none | exact hp_ret | refine hp_q ?_ | refine hp_cV ?_ (fun _ => ?_) | refine hp_cI ?_ (fun _ _ => ?_) | refine hp_cR ?_ (fun _ _ => ?_) | refine hp_cD ?_ (fun _ _ => ?_) | refine hp_tI ?_ (fun _ _ => ?_) (fun _ _ => ?_) | refine hp_tR ?_ (fun _ _ => ?_) (fun _ _ => ?_) | refine hp_ite ?_ ?_ | refine hp_bput ?_ (fun _ => ?_) | refine hp_bpair hq_new (fun _ _ => ?_) | refine hp_bpair hq_lrem (fun _ _ => ?_) | refine hp_bind (fun _ => ?_) | exact hq_pI (by decide) | exact hq_pZ (by decide) | exact hq_pC (by decide) | exact hq_pR (by decide) | exact hq_pD (by decide) | exact hq_sI | exact hq_sC | exact hq_sD | exact hq_lclr | exact hq_lnew | exact hq_ladd | dsimp only)
theorem P_X1_event (fu : Nat) (x0 : Option Nat) (x1 : Int32)  : hp (F_X1_event fu x0 x1) := by
  show hp (fun S => F_X1_event fu x0 x1 S)
  unfold F_X1_event
  repeat' (first | apply P_X1_event_12 | apply P_X3_open | apply P_X3_come | exact hp_none | exact hp_ret | refine hp_q ?_ | refine hp_cV ?_ (fun _ => ?_) | refine hp_cI ?_ (fun _ _ => ?_) | refine hp_cR ?_ (fun _ _ => ?_) | refine hp_cD ?_ (fun _ _ => ?_) | refine hp_tI ?_ (fun _ _ => ?_) (fun _ _ => ?_) | refine hp_tR ?_ (fun _ _ => ?_) (fun _ _ => ?_) | refine hp_ite ?_ ?_ | refine hp_bput ?_ (fun _ => ?_) | refine hp_bpair hq_new (fun _ _ => ?_) | refine hp_bpair hq_lrem (fun _ _ => ?_) | refine hp_bind (fun _ => ?_) | exact hq_pI (by decide) | exact hq_pZ (by decide) | exact hq_pC (by decide) | exact hq_pR (by decide) | exact hq_pD (by decide) | exact hq_sI | exact hq_sC | exact hq_sD | exact hq_lclr | exact hq_lnew | exact hq_ladd | dsimp only)
theorem P_X3_begin_6 (fu : Nat)  : ∀ (n : Nat) (y0 : Option Nat) (y1 : Int32), hp (F_X3_begin_6 fu n y0 y1) := by
  intro n
  induction n with
  | zero => intro y0 y1; exact hp_none
  | succ n ih =>
    intro y0 y1
    show hp (fun S => F_X3_begin_6 fu (n + 1) y0 y1 S)
    simp only [F_X3_begin_6]
    repeat' (first | apply P_X3_open | apply P_X1_down | apply P_X3_enter | apply P_X3_runOn | apply ih | exact ih | exact hp_none | exact hp_ret | refine hp_q ?_ | refine hp_cV ?_ (fun _ => ?_) | refine hp_cI ?_ (fun _ _ => ?_) | refine hp_cR ?_ (fun _ _ => ?_) | refine hp_cD ?_ (fun _ _ => ?_) | refine hp_tI ?_ (fun _ _ => ?_) (fun _ _ => ?_) | refine hp_tR ?_ (fun _ _ => ?_) (fun _ _ => ?_) | refine hp_ite ?_ ?_ | refine hp_bput ?_ (fun _ => ?_) | refine hp_bpair hq_new (fun _ _ => ?_) | refine hp_bpair hq_lrem (fun _ _ => ?_) | refine hp_bind (fun _ => ?_) | exact hq_pI (by decide) | exact hq_pZ (by decide) | exact hq_pC (by decide) | exact hq_pR (by decide) | exact hq_pD (by decide) | exact hq_sI | exact hq_sC | exact hq_sD | exact hq_lclr | exact hq_lnew | exact hq_ladd | dsimp only)
theorem P_X3_begin (fu : Nat) (x0 : Option Nat)  : hp (F_X3_begin fu x0) := by
  show hp (fun S => F_X3_begin fu x0 S)
  unfold F_X3_begin
  repeat' (first | apply P_X3_clear | apply P_X3_begin_6 | exact hp_none | exact hp_ret | refine hp_q ?_ | refine hp_cV ?_ (fun _ => ?_) | refine hp_cI ?_ (fun _ _ => ?_) | refine hp_cR ?_ (fun _ _ => ?_) | refine hp_cD ?_ (fun _ _ => ?_) | refine hp_tI ?_ (fun _ _ => ?_) (fun _ _ => ?_) | refine hp_tR ?_ (fun _ _ => ?_) (fun _ _ => ?_) | refine hp_ite ?_ ?_ | refine hp_bput ?_ (fun _ => ?_) | refine hp_bpair hq_new (fun _ _ => ?_) | refine hp_bpair hq_lrem (fun _ _ => ?_) | refine hp_bind (fun _ => ?_) | exact hq_pI (by decide) | exact hq_pZ (by decide) | exact hq_pC (by decide) | exact hq_pR (by decide) | exact hq_pD (by decide) | exact hq_sI | exact hq_sC | exact hq_sD | exact hq_lclr | exact hq_lnew | exact hq_ladd | dsimp only)
theorem P_X1_start (fu : Nat) (x0 : Option Nat)  : hp (F_X1_start fu x0) := by
  show hp (fun S => F_X1_start fu x0 S)
  unfold F_X1_start
  repeat' (first | apply P_X3_begin | exact hp_none | exact hp_ret | refine hp_q ?_ | refine hp_cV ?_ (fun _ => ?_) | refine hp_cI ?_ (fun _ _ => ?_) | refine hp_cR ?_ (fun _ _ => ?_) | refine hp_cD ?_ (fun _ _ => ?_) | refine hp_tI ?_ (fun _ _ => ?_) (fun _ _ => ?_) | refine hp_tR ?_ (fun _ _ => ?_) (fun _ _ => ?_) | refine hp_ite ?_ ?_ | refine hp_bput ?_ (fun _ => ?_) | refine hp_bpair hq_new (fun _ _ => ?_) | refine hp_bpair hq_lrem (fun _ _ => ?_) | refine hp_bind (fun _ => ?_) | exact hq_pI (by decide) | exact hq_pZ (by decide) | exact hq_pC (by decide) | exact hq_pR (by decide) | exact hq_pD (by decide) | exact hq_sI | exact hq_sC | exact hq_sD | exact hq_lclr | exact hq_lnew | exact hq_ladd | dsimp only)
theorem P_X3_tick_22 (fu : Nat)  : ∀ (n : Nat) (y0 : Option Nat) (y1 : Int32) (y2 : Int32) (y3 : Int32), hp (F_X3_tick_22 fu n y0 y1 y2 y3) := by
  intro n
  induction n with
  | zero => intro y0 y1 y2 y3; exact hp_none
  | succ n ih =>
    intro y0 y1 y2 y3
    show hp (fun S => F_X3_tick_22 fu (n + 1) y0 y1 y2 y3 S)
    simp only [F_X3_tick_22]
    repeat' (first | apply P_X3_come | apply ih | exact ih | exact hp_none | exact hp_ret | refine hp_q ?_ | refine hp_cV ?_ (fun _ => ?_) | refine hp_cI ?_ (fun _ _ => ?_) | refine hp_cR ?_ (fun _ _ => ?_) | refine hp_cD ?_ (fun _ _ => ?_) | refine hp_tI ?_ (fun _ _ => ?_) (fun _ _ => ?_) | refine hp_tR ?_ (fun _ _ => ?_) (fun _ _ => ?_) | refine hp_ite ?_ ?_ | refine hp_bput ?_ (fun _ => ?_) | refine hp_bpair hq_new (fun _ _ => ?_) | refine hp_bpair hq_lrem (fun _ _ => ?_) | refine hp_bind (fun _ => ?_) | exact hq_pI (by decide) | exact hq_pZ (by decide) | exact hq_pC (by decide) | exact hq_pR (by decide) | exact hq_pD (by decide) | exact hq_sI | exact hq_sC | exact hq_sD | exact hq_lclr | exact hq_lnew | exact hq_ladd | dsimp only)
theorem P_X3_tick (fu : Nat) (x0 : Option Nat)  : hp (F_X3_tick fu x0) := by
  show hp (fun S => F_X3_tick fu x0 S)
  unfold F_X3_tick
  repeat' (first | apply P_X3_tick_22 | exact hp_none | exact hp_ret | refine hp_q ?_ | refine hp_cV ?_ (fun _ => ?_) | refine hp_cI ?_ (fun _ _ => ?_) | refine hp_cR ?_ (fun _ _ => ?_) | refine hp_cD ?_ (fun _ _ => ?_) | refine hp_tI ?_ (fun _ _ => ?_) (fun _ _ => ?_) | refine hp_tR ?_ (fun _ _ => ?_) (fun _ _ => ?_) | refine hp_ite ?_ ?_ | refine hp_bput ?_ (fun _ => ?_) | refine hp_bpair hq_new (fun _ _ => ?_) | refine hp_bpair hq_lrem (fun _ _ => ?_) | refine hp_bind (fun _ => ?_) | exact hq_pI (by decide) | exact hq_pZ (by decide) | exact hq_pC (by decide) | exact hq_pR (by decide) | exact hq_pD (by decide) | exact hq_sI | exact hq_sC | exact hq_sD | exact hq_lclr | exact hq_lnew | exact hq_ladd | dsimp only)
theorem P_X1_tick_45 (fu : Nat)  : ∀ (n : Nat) (y0 : Option Nat) (y1 : Int32) (y2 : Int32), hp (F_X1_tick_45 fu n y0 y1 y2) := by
  intro n
  induction n with
  | zero => intro y0 y1 y2; exact hp_none
  | succ n ih =>
    intro y0 y1 y2
    show hp (fun S => F_X1_tick_45 fu (n + 1) y0 y1 y2 S)
    simp only [F_X1_tick_45]
    repeat' (first | apply P_X3_tick | apply ih | exact ih | exact hp_none | exact hp_ret | refine hp_q ?_ | refine hp_cV ?_ (fun _ => ?_) | refine hp_cI ?_ (fun _ _ => ?_) | refine hp_cR ?_ (fun _ _ => ?_) | refine hp_cD ?_ (fun _ _ => ?_) | refine hp_tI ?_ (fun _ _ => ?_) (fun _ _ => ?_) | refine hp_tR ?_ (fun _ _ => ?_) (fun _ _ => ?_) | refine hp_ite ?_ ?_ | refine hp_bput ?_ (fun _ => ?_) | refine hp_bpair hq_new (fun _ _ => ?_) | refine hp_bpair hq_lrem (fun _ _ => ?_) | refine hp_bind (fun _ => ?_) | exact hq_pI (by decide) | exact hq_pZ (by decide) | exact hq_pC (by decide) | exact hq_pR (by decide) | exact hq_pD (by decide) | exact hq_sI | exact hq_sC | exact hq_sD | exact hq_lclr | exact hq_lnew | exact hq_ladd | dsimp only)
theorem P_X1_tick_10 (fu : Nat)  : hp (F_X1_tick_10 fu) := by
  show hp (fun S => F_X1_tick_10 fu S)
  unfold F_X1_tick_10
  repeat' (first | exact hp_none | exact hp_ret | refine hp_q ?_ | refine hp_cV ?_ (fun _ => ?_) | refine hp_cI ?_ (fun _ _ => ?_) | refine hp_cR ?_ (fun _ _ => ?_) | refine hp_cD ?_ (fun _ _ => ?_) | refine hp_tI ?_ (fun _ _ => ?_) (fun _ _ => ?_) | refine hp_tR ?_ (fun _ _ => ?_) (fun _ _ => ?_) | refine hp_ite ?_ ?_ | refine hp_bput ?_ (fun _ => ?_) | refine hp_bpair hq_new (fun _ _ => ?_) | refine hp_bpair hq_lrem (fun _ _ => ?_) | refine hp_bind (fun _ => ?_) | exact hq_pI (by decide) | exact hq_pZ (by decide) | exact hq_pC (by decide) | exact hq_pR (by decide) | exact hq_pD (by decide) | exact hq_sI | exact hq_sC | exact hq_sD | exact hq_lclr | exact hq_lnew | exact hq_ladd | dsimp only)
theorem P_X1_tick (fu : Nat) (x0 : Option Nat) (x1 : Int32)  : hp (F_X1_tick fu x0 x1) := by
  show hp (fun S => F_X1_tick fu x0 x1 S)
  unfold F_X1_tick
  repeat' (first | apply P_X1_tick_10 | apply P_X3_open | apply P_X1_tick_45 | exact hp_none | exact hp_ret | refine hp_q ?_ | refine hp_cV ?_ (fun _ => ?_) | refine hp_cI ?_ (fun _ _ => ?_) | refine hp_cR ?_ (fun _ _ => ?_) | refine hp_cD ?_ (fun _ _ => ?_) | refine hp_tI ?_ (fun _ _ => ?_) (fun _ _ => ?_) | refine hp_tR ?_ (fun _ _ => ?_) (fun _ _ => ?_) | refine hp_ite ?_ ?_ | refine hp_bput ?_ (fun _ => ?_) | refine hp_bpair hq_new (fun _ _ => ?_) | refine hp_bpair hq_lrem (fun _ _ => ?_) | refine hp_bind (fun _ => ?_) | exact hq_pI (by decide) | exact hq_pZ (by decide) | exact hq_pC (by decide) | exact hq_pR (by decide) | exact hq_pD (by decide) | exact hq_sI | exact hq_sC | exact hq_sD | exact hq_lclr | exact hq_lnew | exact hq_ladd | dsimp only)
theorem P_X1_stateOf (fu : Nat) (x0 : Option Nat) (x1 : Int32)  : hp (F_X1_stateOf fu x0 x1) := by
  show hp (fun S => F_X1_stateOf fu x0 x1 S)
  unfold F_X1_stateOf
  repeat' (first | exact hp_none | exact hp_ret | refine hp_q ?_ | refine hp_cV ?_ (fun _ => ?_) | refine hp_cI ?_ (fun _ _ => ?_) | refine hp_cR ?_ (fun _ _ => ?_) | refine hp_cD ?_ (fun _ _ => ?_) | refine hp_tI ?_ (fun _ _ => ?_) (fun _ _ => ?_) | refine hp_tR ?_ (fun _ _ => ?_) (fun _ _ => ?_) | refine hp_ite ?_ ?_ | refine hp_bput ?_ (fun _ => ?_) | refine hp_bpair hq_new (fun _ _ => ?_) | refine hp_bpair hq_lrem (fun _ _ => ?_) | refine hp_bind (fun _ => ?_) | exact hq_pI (by decide) | exact hq_pZ (by decide) | exact hq_pC (by decide) | exact hq_pR (by decide) | exact hq_pD (by decide) | exact hq_sI | exact hq_sC | exact hq_sD | exact hq_lclr | exact hq_lnew | exact hq_ladd | dsimp only)
theorem P_X1_active (fu : Nat) (x0 : Option Nat) (x1 : Int32)  : hp (F_X1_active fu x0 x1) := by
  show hp (fun S => F_X1_active fu x0 x1 S)
  unfold F_X1_active
  repeat' (first | apply P_X1_stateOf | apply P_X3_isActive | exact hp_none | exact hp_ret | refine hp_q ?_ | refine hp_cV ?_ (fun _ => ?_) | refine hp_cI ?_ (fun _ _ => ?_) | refine hp_cR ?_ (fun _ _ => ?_) | refine hp_cD ?_ (fun _ _ => ?_) | refine hp_tI ?_ (fun _ _ => ?_) (fun _ _ => ?_) | refine hp_tR ?_ (fun _ _ => ?_) (fun _ _ => ?_) | refine hp_ite ?_ ?_ | refine hp_bput ?_ (fun _ => ?_) | refine hp_bpair hq_new (fun _ _ => ?_) | refine hp_bpair hq_lrem (fun _ _ => ?_) | refine hp_bind (fun _ => ?_) | exact hq_pI (by decide) | exact hq_pZ (by decide) | exact hq_pC (by decide) | exact hq_pR (by decide) | exact hq_pD (by decide) | exact hq_sI | exact hq_sC | exact hq_sD | exact hq_lclr | exact hq_lnew | exact hq_ladd | dsimp only)
theorem P_X1_history (fu : Nat) (x0 : Option Nat) (x1 : Int32) (x2 : Int32)  : hp (F_X1_history fu x0 x1 x2) := by
  show hp (fun S => F_X1_history fu x0 x1 x2 S)
  unfold F_X1_history
  repeat' (first | apply P_X1_stateOf | exact hp_none | exact hp_ret | refine hp_q ?_ | refine hp_cV ?_ (fun _ => ?_) | refine hp_cI ?_ (fun _ _ => ?_) | refine hp_cR ?_ (fun _ _ => ?_) | refine hp_cD ?_ (fun _ _ => ?_) | refine hp_tI ?_ (fun _ _ => ?_) (fun _ _ => ?_) | refine hp_tR ?_ (fun _ _ => ?_) (fun _ _ => ?_) | refine hp_ite ?_ ?_ | refine hp_bput ?_ (fun _ => ?_) | refine hp_bpair hq_new (fun _ _ => ?_) | refine hp_bpair hq_lrem (fun _ _ => ?_) | refine hp_bind (fun _ => ?_) | exact hq_pI (by decide) | exact hq_pZ (by decide) | exact hq_pC (by decide) | exact hq_pR (by decide) | exact hq_pD (by decide) | exact hq_sI | exact hq_sC | exact hq_sD | exact hq_lclr | exact hq_lnew | exact hq_ladd | dsimp only)
theorem P_X1_place (fu : Nat) (x0 : Option Nat)  : hp (F_X1_place fu x0) := by
  show hp (fun S => F_X1_place fu x0 S)
  unfold F_X1_place
  repeat' (first | exact hp_none | exact hp_ret | refine hp_q ?_ | refine hp_cV ?_ (fun _ => ?_) | refine hp_cI ?_ (fun _ _ => ?_) | refine hp_cR ?_ (fun _ _ => ?_) | refine hp_cD ?_ (fun _ _ => ?_) | refine hp_tI ?_ (fun _ _ => ?_) (fun _ _ => ?_) | refine hp_tR ?_ (fun _ _ => ?_) (fun _ _ => ?_) | refine hp_ite ?_ ?_ | refine hp_bput ?_ (fun _ => ?_) | refine hp_bpair hq_new (fun _ _ => ?_) | refine hp_bpair hq_lrem (fun _ _ => ?_) | refine hp_bind (fun _ => ?_) | exact hq_pI (by decide) | exact hq_pZ (by decide) | exact hq_pC (by decide) | exact hq_pR (by decide) | exact hq_pD (by decide) | exact hq_sI | exact hq_sC | exact hq_sD | exact hq_lclr | exact hq_lnew | exact hq_ladd | dsimp only)
theorem P_X1_runs (fu : Nat) (x0 : Option Nat)  : hp (F_X1_runs fu x0) := by
  show hp (fun S => F_X1_runs fu x0 S)
  unfold F_X1_runs
  repeat' (first | exact hp_none | exact hp_ret | refine hp_q ?_ | refine hp_cV ?_ (fun _ => ?_) | refine hp_cI ?_ (fun _ _ => ?_) | refine hp_cR ?_ (fun _ _ => ?_) | refine hp_cD ?_ (fun _ _ => ?_) | refine hp_tI ?_ (fun _ _ => ?_) (fun _ _ => ?_) | refine hp_tR ?_ (fun _ _ => ?_) (fun _ _ => ?_) | refine hp_ite ?_ ?_ | refine hp_bput ?_ (fun _ => ?_) | refine hp_bpair hq_new (fun _ _ => ?_) | refine hp_bpair hq_lrem (fun _ _ => ?_) | refine hp_bind (fun _ => ?_) | exact hq_pI (by decide) | exact hq_pZ (by decide) | exact hq_pC (by decide) | exact hq_pR (by decide) | exact hq_pD (by decide) | exact hq_sI | exact hq_sC | exact hq_sD | exact hq_lclr | exact hq_lnew | exact hq_ladd | dsimp only)
theorem P_X1_sent (fu : Nat) (x0 : Option Nat)  : hp (F_X1_sent fu x0) := by
  show hp (fun S => F_X1_sent fu x0 S)
  unfold F_X1_sent
  repeat' (first | exact hp_none | exact hp_ret | refine hp_q ?_ | refine hp_cV ?_ (fun _ => ?_) | refine hp_cI ?_ (fun _ _ => ?_) | refine hp_cR ?_ (fun _ _ => ?_) | refine hp_cD ?_ (fun _ _ => ?_) | refine hp_tI ?_ (fun _ _ => ?_) (fun _ _ => ?_) | refine hp_tR ?_ (fun _ _ => ?_) (fun _ _ => ?_) | refine hp_ite ?_ ?_ | refine hp_bput ?_ (fun _ => ?_) | refine hp_bpair hq_new (fun _ _ => ?_) | refine hp_bpair hq_lrem (fun _ _ => ?_) | refine hp_bind (fun _ => ?_) | exact hq_pI (by decide) | exact hq_pZ (by decide) | exact hq_pC (by decide) | exact hq_pR (by decide) | exact hq_pD (by decide) | exact hq_sI | exact hq_sC | exact hq_sD | exact hq_lclr | exact hq_lnew | exact hq_ladd | dsimp only)
theorem P_X1_trace (fu : Nat) (x0 : Option Nat) (x1 : Int32)  : hp (F_X1_trace fu x0 x1) := by
  show hp (fun S => F_X1_trace fu x0 x1 S)
  unfold F_X1_trace
  repeat' (first | exact hp_none | exact hp_ret | refine hp_q ?_ | refine hp_cV ?_ (fun _ => ?_) | refine hp_cI ?_ (fun _ _ => ?_) | refine hp_cR ?_ (fun _ _ => ?_) | refine hp_cD ?_ (fun _ _ => ?_) | refine hp_tI ?_ (fun _ _ => ?_) (fun _ _ => ?_) | refine hp_tR ?_ (fun _ _ => ?_) (fun _ _ => ?_) | refine hp_ite ?_ ?_ | refine hp_bput ?_ (fun _ => ?_) | refine hp_bpair hq_new (fun _ _ => ?_) | refine hp_bpair hq_lrem (fun _ _ => ?_) | refine hp_bind (fun _ => ?_) | exact hq_pI (by decide) | exact hq_pZ (by decide) | exact hq_pC (by decide) | exact hq_pR (by decide) | exact hq_pD (by decide) | exact hq_sI | exact hq_sC | exact hq_sD | exact hq_lclr | exact hq_lnew | exact hq_ladd | dsimp only)
theorem P_X1_type (fu : Nat) (x0 : Option Nat) (x1 : Int32)  : hp (F_X1_type fu x0 x1) := by
  show hp (fun S => F_X1_type fu x0 x1 S)
  unfold F_X1_type
  repeat' (first | exact hp_none | exact hp_ret | refine hp_q ?_ | refine hp_cV ?_ (fun _ => ?_) | refine hp_cI ?_ (fun _ _ => ?_) | refine hp_cR ?_ (fun _ _ => ?_) | refine hp_cD ?_ (fun _ _ => ?_) | refine hp_tI ?_ (fun _ _ => ?_) (fun _ _ => ?_) | refine hp_tR ?_ (fun _ _ => ?_) (fun _ _ => ?_) | refine hp_ite ?_ ?_ | refine hp_bput ?_ (fun _ => ?_) | refine hp_bpair hq_new (fun _ _ => ?_) | refine hp_bpair hq_lrem (fun _ _ => ?_) | refine hp_bind (fun _ => ?_) | exact hq_pI (by decide) | exact hq_pZ (by decide) | exact hq_pC (by decide) | exact hq_pR (by decide) | exact hq_pD (by decide) | exact hq_sI | exact hq_sC | exact hq_sD | exact hq_lclr | exact hq_lnew | exact hq_ladd | dsimp only)
theorem P_X1_variable (fu : Nat) (x0 : Option Nat) (x1 : Int32)  : hp (F_X1_variable fu x0 x1) := by
  show hp (fun S => F_X1_variable fu x0 x1 S)
  unfold F_X1_variable
  repeat' (first | exact hp_none | exact hp_ret | refine hp_q ?_ | refine hp_cV ?_ (fun _ => ?_) | refine hp_cI ?_ (fun _ _ => ?_) | refine hp_cR ?_ (fun _ _ => ?_) | refine hp_cD ?_ (fun _ _ => ?_) | refine hp_tI ?_ (fun _ _ => ?_) (fun _ _ => ?_) | refine hp_tR ?_ (fun _ _ => ?_) (fun _ _ => ?_) | refine hp_ite ?_ ?_ | refine hp_bput ?_ (fun _ => ?_) | refine hp_bpair hq_new (fun _ _ => ?_) | refine hp_bpair hq_lrem (fun _ _ => ?_) | refine hp_bind (fun _ => ?_) | exact hq_pI (by decide) | exact hq_pZ (by decide) | exact hq_pC (by decide) | exact hq_pR (by decide) | exact hq_pD (by decide) | exact hq_sI | exact hq_sC | exact hq_sD | exact hq_lclr | exact hq_lnew | exact hq_ladd | dsimp only)
end HPC
