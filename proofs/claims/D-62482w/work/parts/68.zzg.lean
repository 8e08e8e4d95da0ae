/-! LAYER 2: the law as a function (printed by wip/gen/gen6.py) -/
set_option maxRecDepth 100000
/-- the script; a call of the model, in the whole state -/
def g_scr (xs : Nat → Int32) (xn : Nat) (i : Int32) : Option Int32 := if g_ix i xn = true then some (xs i.toNatClampNeg) else none
def gz_x (S : gm_S) (y : gQ) : gR := y.map fun q => (q.1, gm_w S q.2)
def F_L_law_522 (fu : Nat) (xs : Nat → Int32) (xn : Nat) (k23 : Option Nat → Option Nat → Int32 → gm_S → gR) (x1 : Option Nat) (x3 : Option Nat) (x4 : Int32) (s0 : Int32) (s1 : Int32) (s3 : Int32) (S : gm_S) : gR :=
  gz_cI (gz_x S (F_X4_history fu s1 s0 (gm_g S))) fun v1 S1 =>
  if s3 = v1 then (k23 x1 x3 (x4 + (3 : Int32)) S1)
  else (if g_okZ (0 : Int32) = true then some (.returned (some (.int (0 : Int32))), S1) else none)
def F_L_law_497 (fu : Nat) (xs : Nat → Int32) (xn : Nat) (k23 : Option Nat → Option Nat → Int32 → gm_S → gR) (x1 : Option Nat) (x3 : Option Nat) (x4 : Int32) (s0 : Int32) (s1 : Int32) (s2 : Option Nat) (S : gm_S) : gR :=
  gz_q (g_at S s2 1) (gz_cI (F_X1_history fu s2 s1 s0 S) fun v1 S1 =>
  Option.bind (g_scr xs xn (x4 + (1 : Int32))) fun v2 =>
  Option.bind (g_scr xs xn (x4 + (2 : Int32))) fun v3 =>
  if v3 = 0 then (F_L_law_522 fu xs xn k23 x1 x3 x4 (0 : Int32) ((v2).toUInt32 % 65536).toInt32 v1 S1)
  else (F_L_law_522 fu xs xn k23 x1 x3 x4 (1 : Int32) ((v2).toUInt32 % 65536).toInt32 v1 S1))
def F_L_law_23 (fu : Nat) (xs : Nat → Int32) (xn : Nat) : Nat → Option Nat → Option Nat → Int32 → gm_S → gR
  | 0, _, _, _, _ => none
  | n + 1, x1, x3, x4, S => if ((nI xn) - (3 : Int32)) < x4 then (if g_okZ (1 : Int32) = true then some (.returned (some (.int (1 : Int32))), S) else none)
  else (Option.bind (g_scr xs xn x4) fun v2 =>
  if ((v2 &&& (15 : Int32))).toInt < 0 ∨ 11 < ((v2 &&& (15 : Int32))).toInt then (F_L_law_23 fu xs xn n x1 x3 (x4 + (3 : Int32)) S)
  else (if (v2 &&& (15 : Int32)) = 0 then (Option.bind (g_scr xs xn (x4 + (1 : Int32))) fun v3 =>
  gz_q (g_at S x1 1) (gz_cI (F_X1_type fu x1 ((v3).toUInt32 % 65536).toInt32 S) fun v4 S4 =>
  Option.bind (g_scr xs xn (x4 + (1 : Int32))) fun v5 =>
  gz_cI (gz_x S4 (F_X4_type fu ((v5).toUInt32 % 65536).toInt32 (gm_g S4))) fun v6 S6 =>
  if v4 = v6 then (F_L_law_23 fu xs xn n x1 x3 (x4 + (3 : Int32)) S6)
  else (if g_okZ (0 : Int32) = true then some (.returned (some (.int (0 : Int32))), S6) else none)))
  else (if (v2 &&& (15 : Int32)) = 1 then (gz_cI (F_X0_build fu x1 x3 S) fun v7 S7 =>
  gz_cI (gz_x S7 (F_X4_build fu  (gm_g S7))) fun v8 S8 =>
  gz_cI (gz_x S8 (F_X4_thrown fu  (gm_g S8))) fun v9 S9 =>
  if v9 = v7 then (if v7 = 0 then (Option.bind (g_aJ S9 x3 4 (0 : Int32)) fun v10 =>
  if (lg_cmp v10 (v8).toInt64) = 0 then (F_L_law_23 fu xs xn n x1 x3 (x4 + (3 : Int32)) S9)
  else (if g_okZ (0 : Int32) = true then some (.returned (some (.int (0 : Int32))), S9) else none))
  else (F_L_law_23 fu xs xn n x1 x3 (x4 + (3 : Int32)) S9))
  else (if g_okZ (0 : Int32) = true then some (.returned (some (.int (0 : Int32))), S9) else none))
  else (if (v2 &&& (15 : Int32)) = 2 then (gz_q (g_at S x1 1) (gz_cI (F_X1_place fu x1 S) fun v11 S11 =>
  gz_cI (gz_x S11 (F_X4_place fu  (gm_g S11))) fun v12 S12 =>
  if v11 = v12 then (F_L_law_23 fu xs xn n x1 x3 (x4 + (3 : Int32)) S12)
  else (if g_okZ (0 : Int32) = true then some (.returned (some (.int (0 : Int32))), S12) else none)))
  else (if (v2 &&& (15 : Int32)) = 3 then (gz_cI (F_X0_start fu x1 x3 S) fun v13 S13 =>
  gz_cI (gz_x S13 (F_X4_start fu  (gm_g S13))) fun v14 S14 =>
  gz_cI (gz_x S14 (F_X4_thrown fu  (gm_g S14))) fun v15 S15 =>
  if v15 = v13 then (if v13 = 0 then (Option.bind (g_aJ S15 x3 4 (0 : Int32)) fun v16 =>
  if (lg_cmp v16 (v14).toInt64) = 0 then (F_L_law_23 fu xs xn n x1 x3 (x4 + (3 : Int32)) S15)
  else (if g_okZ (0 : Int32) = true then some (.returned (some (.int (0 : Int32))), S15) else none))
  else (F_L_law_23 fu xs xn n x1 x3 (x4 + (3 : Int32)) S15))
  else (if g_okZ (0 : Int32) = true then some (.returned (some (.int (0 : Int32))), S15) else none))
  else (if (v2 &&& (15 : Int32)) = 4 then (Option.bind (g_scr xs xn (x4 + (1 : Int32))) fun v17 =>
  gz_cI (F_X0_event fu x1 ((v17).toUInt32 % 65536).toInt32 x3 S) fun v18 S18 =>
  Option.bind (g_scr xs xn (x4 + (1 : Int32))) fun v19 =>
  gz_cI (gz_x S18 (F_X4_event fu ((v19).toUInt32 % 65536).toInt32 (gm_g S18))) fun v20 S20 =>
  gz_cI (gz_x S20 (F_X4_thrown fu  (gm_g S20))) fun v21 S21 =>
  if v21 = v18 then (if v18 = 0 then (Option.bind (g_aJ S21 x3 4 (0 : Int32)) fun v22 =>
  if (lg_cmp v22 (v20).toInt64) = 0 then (F_L_law_23 fu xs xn n x1 x3 (x4 + (3 : Int32)) S21)
  else (if g_okZ (0 : Int32) = true then some (.returned (some (.int (0 : Int32))), S21) else none))
  else (F_L_law_23 fu xs xn n x1 x3 (x4 + (3 : Int32)) S21))
  else (if g_okZ (0 : Int32) = true then some (.returned (some (.int (0 : Int32))), S21) else none))
  else (if (v2 &&& (15 : Int32)) = 5 then (Option.bind (g_scr xs xn (x4 + (1 : Int32))) fun v23 =>
  gz_cI (F_X0_tick fu x1 v23 x3 S) fun v24 S24 =>
  Option.bind (g_scr xs xn (x4 + (1 : Int32))) fun v25 =>
  gz_cI (gz_x S24 (F_X4_tick fu v25 (gm_g S24))) fun v26 S26 =>
  gz_cI (gz_x S26 (F_X4_thrown fu  (gm_g S26))) fun v27 S27 =>
  if v27 = v24 then (if v24 = 0 then (Option.bind (g_aJ S27 x3 4 (0 : Int32)) fun v28 =>
  if (lg_cmp v28 (v26).toInt64) = 0 then (F_L_law_23 fu xs xn n x1 x3 (x4 + (3 : Int32)) S27)
  else (if g_okZ (0 : Int32) = true then some (.returned (some (.int (0 : Int32))), S27) else none))
  else (F_L_law_23 fu xs xn n x1 x3 (x4 + (3 : Int32)) S27))
  else (if g_okZ (0 : Int32) = true then some (.returned (some (.int (0 : Int32))), S27) else none))
  else (if (v2 &&& (15 : Int32)) = 6 then (gz_q (g_at S x1 1) (gz_cI (F_X1_runs fu x1 S) fun v29 S29 =>
  gz_cI (gz_x S29 (F_X4_runs fu  (gm_g S29))) fun v30 S30 =>
  if v29 = v30 then (F_L_law_23 fu xs xn n x1 x3 (x4 + (3 : Int32)) S30)
  else (if g_okZ (0 : Int32) = true then some (.returned (some (.int (0 : Int32))), S30) else none)))
  else (if (v2 &&& (15 : Int32)) = 7 then (Option.bind (g_scr xs xn (x4 + (1 : Int32))) fun v31 =>
  gz_q (g_at S x1 1) (gz_cI (F_X1_active fu x1 ((v31).toUInt32 % 65536).toInt32 S) fun v32 S32 =>
  Option.bind (g_scr xs xn (x4 + (1 : Int32))) fun v33 =>
  gz_cI (gz_x S32 (F_X4_active fu ((v33).toUInt32 % 65536).toInt32 (gm_g S32))) fun v34 S34 =>
  if v32 = v34 then (F_L_law_23 fu xs xn n x1 x3 (x4 + (3 : Int32)) S34)
  else (if g_okZ (0 : Int32) = true then some (.returned (some (.int (0 : Int32))), S34) else none)))
  else (if (v2 &&& (15 : Int32)) = 8 then (Option.bind (g_scr xs xn (x4 + (1 : Int32))) fun v35 =>
  gz_q (g_at S x1 1) (gz_cD (F_X1_variable fu x1 ((v35).toUInt32 % 65536).toInt32 S) fun v36 S36 =>
  Option.bind (g_scr xs xn (x4 + (1 : Int32))) fun v37 =>
  gz_cD (gz_x S36 (F_X4_variable fu ((v37).toUInt32 % 65536).toInt32 (gm_g S36))) fun v38 S38 =>
  if (Op.cmpValue (FP.dcmp v36 v38) .l) = 0 then (F_L_law_23 fu xs xn n x1 x3 (x4 + (3 : Int32)) S38)
  else (if (Op.cmpValue (FP.dcmp v36 v36) .l) = 0 then (if g_okZ (0 : Int32) = true then some (.returned (some (.int (0 : Int32))), S38) else none)
  else (if (Op.cmpValue (FP.dcmp v38 v38) .l) = 0 then (if g_okZ (0 : Int32) = true then some (.returned (some (.int (0 : Int32))), S38) else none)
  else (F_L_law_23 fu xs xn n x1 x3 (x4 + (3 : Int32)) S38)))))
  else (if (v2 &&& (15 : Int32)) = 9 then (gz_q (g_at S x1 1) (gz_cI (F_X1_sent fu x1 S) fun v39 S39 =>
  gz_cI (gz_x S39 (F_X4_sent fu  (gm_g S39))) fun v40 S40 =>
  if v39 = v40 then (F_L_law_23 fu xs xn n x1 x3 (x4 + (3 : Int32)) S40)
  else (if g_okZ (0 : Int32) = true then some (.returned (some (.int (0 : Int32))), S40) else none)))
  else (if (v2 &&& (15 : Int32)) = 10 then (Option.bind (g_scr xs xn (x4 + (1 : Int32))) fun v41 =>
  gz_q (g_at S x1 1) (gz_cI (F_X1_trace fu x1 v41 S) fun v42 S42 =>
  Option.bind (g_scr xs xn (x4 + (1 : Int32))) fun v43 =>
  gz_cI (gz_x S42 (F_X4_trace fu v43 (gm_g S42))) fun v44 S44 =>
  if v42 = v44 then (F_L_law_23 fu xs xn n x1 x3 (x4 + (3 : Int32)) S44)
  else (if g_okZ (0 : Int32) = true then some (.returned (some (.int (0 : Int32))), S44) else none)))
  else (if (v2 &&& (15 : Int32)) = 11 then (Option.bind (g_scr xs xn (x4 + (1 : Int32))) fun v45 =>
  Option.bind (g_scr xs xn (x4 + (2 : Int32))) fun v46 =>
  if v46 = 0 then (F_L_law_497 fu xs xn (F_L_law_23 fu xs xn n) x1 x3 x4 (0 : Int32) ((v45).toUInt32 % 65536).toInt32 x1 S)
  else (F_L_law_497 fu xs xn (F_L_law_23 fu xs xn n) x1 x3 x4 (1 : Int32) ((v45).toUInt32 % 65536).toInt32 x1 S))
  else none)))))))))))))
