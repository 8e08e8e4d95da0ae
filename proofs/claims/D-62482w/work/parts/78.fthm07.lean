/-! LAYER 1 (printed): contracts -/
set_option maxRecDepth 100000
abbrev B_X1_tick (l : Launch) (d0 : Nat) (G : gG) (S0 : gm_S) : Nat → List (Nat × Value) → List Value → gm_S → Outcome → gm_S → Prop := gz_B l RX1 "tick" cX1_tick 3 (Option.some Jvm.ClassFile.FieldType.int) [] d0 G S0
theorem T_X1_tick_45 {l : Launch} {G : gG} {S0 : gm_S} {d0 fu : Nat} {r : Outcome × gm_S} (hD : 26 ≤ d0) : ∀ (n : Nat) (x0 : Option Nat) (x1 : Int32) (x2 : Int32) (S : gm_S), F_X1_tick_45 fu n x0 x1 x2 S = some r → B_X1_tick l d0 G S0 45 [(0, va_rf x0), (1, .int x1), (2, .int x2)] [] S r.1 r.2 := by
  intro n
  induction n with
  | zero => intro x0 x1 x2 S h; exact nomatch (show (none : gR) = some r from h)
  | succ n ih =>
    intro x0 x1 x2 S h
    rw [F_X1_tick_45] at h
    intro p e s m args below meth c H locs cells slots ls cx hnm hex hI hl
    have hx := cx.1
    have hb := cx.2.1
    have hown := cx.2.2.2.1
    have hts := cx.2.2.2.2.1
    have hK := cx.2.2.2.2.2.1
    refine lv_iload_n hx hb dX1_tick_45 rfl (lv_at hl 2 rfl) ?_
    refine lv_iload_n hx hb dX1_tick_46 rfl (lv_at hl 1 rfl) ?_
    refine lv_icmp_ge (tgt := 63) hx hb dX1_tick_47 rfl (fun hc => ?_) (fun hc => ?_)
    · have h := gz_t h hc
      refine gr_aload_n hx hb x0 dX1_tick_63 rfl (lv_at hl 0 rfl) ?_
      obtain ⟨v1, e1, h⟩ := g_bind h
      refine gr_getR cx hI e1 rfl (fun _ => rfl) rfl (Or.inl (hts _ q232)) dX1_tick_64 ?_
      obtain ⟨v2, e2, h⟩ := g_bind h
      refine gr_getI cx hI e2 rfl (fun _ => rfl) rfl (Or.inr ⟨_, gk_w hK q197 rfl⟩) dX1_tick_67 ?_
      cases h
      exact gr_iret cx hI dX1_tick_70
    · have h := gz_f h hc
      refine gr_aload_n hx hb x0 dX1_tick_50 rfl (lv_at hl 0 rfl) ?_
      obtain ⟨v3, e3, h⟩ := g_bind h
      refine gr_getR cx hI e3 rfl (fun _ => rfl) rfl (Or.inl (hts _ q232)) dX1_tick_51 ?_
      obtain ⟨a4, t4, h⟩ := gz_q_s h
      refine C_X3_tick cx (gz_nh hex) hI (Or.inl (hts _ q981)) hl.1 (gz_cs (Nat.le_of_ble_eq_true rfl)) (by omega) dX1_tick_54 t4 h (fun S4 h H locs cells slots hI => ?_)
      refine gz_iinc (k := 2) (v := (x2 + (1 : Int32))) hx hb dX1_tick_57 hl rfl (congrArg (fun z => x2 + z) gz_ic_1) (by decide) [0, 1] rfl (gz_con ⟨gz_ne rfl, Or.inl (gz_ne rfl)⟩ (gz_con ⟨gz_ne rfl, Or.inr rfl⟩ gz_nil)) (fun ls hl => ?_)
      refine lv_goto (tgt := 45) hx hb dX1_tick_60 rfl ?_
      exact ih _ _ _ _ h p e s m args below meth c H locs cells slots ls cx hnm hex hI (lv_sub hl [1, 2, 0] rfl)
theorem T_X1_tick_10 {l : Launch} {G : gG} {S0 : gm_S} {d0 fu : Nat} {r : Outcome × gm_S} (hD : 26 ≤ d0)  {S : gm_S} (h : F_X1_tick_10 fu  S = some r) : B_X1_tick l d0 G S0 10 [] [] S r.1 r.2 := by
  unfold F_X1_tick_10 at h
  intro p e s m args below meth c H locs cells slots ls cx hnm hex hI hl
  have hx := cx.1
  have hb := cx.2.1
  have hown := cx.2.2.2.1
  have hts := cx.2.2.2.2.1
  have hK := cx.2.2.2.2.2.1
  obtain ⟨q1, e1, h⟩ := g_bind h
  cases h
  exact gr_throw cx hI (t := 17) (a := q1.1) (S2 := q1.2) (ic := 82) e1 (by decide) q318 q341 q82 gt_own_C_17_P (by decide) (by omega) (gz_cs (Nat.le_of_ble_eq_true rfl)) hl.1 (gz_nh hex) dX1_tick_10 dX1_tick_13 dX1_tick_14 dX1_tick_17
theorem T_X1_tick {l : Launch} {G : gG} {S0 : gm_S} {d0 fu : Nat} {r : Outcome × gm_S} (hD : 26 ≤ d0) {x0 : Option Nat} {x1 : Int32} {S : gm_S} (h : F_X1_tick fu x0 x1 S = some r) : B_X1_tick l d0 G S0 0 [(0, va_rf x0), (1, .int x1)] [] S r.1 r.2 := by
  unfold F_X1_tick at h
  intro p e s m args below meth c H locs cells slots ls cx hnm hex hI hl
  have hx := cx.1
  have hb := cx.2.1
  have hown := cx.2.2.2.1
  have hts := cx.2.2.2.2.1
  have hK := cx.2.2.2.2.2.1
  refine lv_iload_n hx hb dX1_tick_0 rfl (lv_at hl 1 rfl) ?_
  refine lv_if_lt (tgt := 10) hx hb dX1_tick_1 rfl (fun hc => ?_) (fun hc => ?_)
  · have h := gz_t h hc
    exact T_X1_tick_10 hD h p e s m args below meth c H locs cells slots ls cx hnm hex hI (lv_sub hl [] rfl)
  · have h := gz_f h hc
    refine lv_iload_n hx hb dX1_tick_4 rfl (lv_at hl 1 rfl) ?_
    refine lv_bipush hx hb dX1_tick_5 gz_bp_20 ?_
    refine lv_icmp_le (tgt := 18) hx hb dX1_tick_7 rfl (fun hc => ?_) (fun hc => ?_)
    · have h := gz_t h hc
      refine gr_aload_n hx hb x0 dX1_tick_18 rfl (lv_at hl 0 rfl) ?_
      obtain ⟨v1, e1, h⟩ := g_bind h
      refine gr_getR cx hI e1 rfl (fun _ => rfl) rfl (Or.inl (hts _ q232)) dX1_tick_19 ?_
      obtain ⟨v2, e2, h⟩ := g_bind h
      refine gr_getI cx hI e2 rfl (fun _ => rfl) rfl (Or.inr ⟨_, gk_w hK q183 rfl⟩) dX1_tick_22 ?_
      refine lv_if_ne (tgt := 36) hx hb dX1_tick_25 rfl (fun hc => ?_) (fun hc => ?_)
      · have h := gz_f h hc
        refine gr_aload_n hx hb x0 dX1_tick_36 rfl (lv_at hl 0 rfl) ?_
        obtain ⟨v3, e3, h⟩ := g_bind h
        refine gr_getR cx hI e3 rfl (fun _ => rfl) rfl (Or.inl (hts _ q232)) dX1_tick_37 ?_
        obtain ⟨a4, t4, h⟩ := gz_q_s h
        refine C_X3_open cx (gz_nh hex) hI (Or.inl (hts _ q969)) hl.1 (gz_cs (Nat.le_of_ble_eq_true rfl)) (by omega) dX1_tick_40 t4 h (fun S4 h H locs cells slots hI => ?_)
        refine lv_iconst hx hb dX1_tick_43 gz_ic_0 ?_
        refine gz_istore_n hx hb dX1_tick_44 rfl hl (by decide) [0, 1] rfl (gz_con ⟨gz_ne rfl, Or.inl (gz_ne rfl)⟩ (gz_con ⟨gz_ne rfl, Or.inr rfl⟩ gz_nil)) (fun ls hl => ?_)
        exact T_X1_tick_45 hD fu _ _ _ _ h p e s m args below meth c H locs cells slots ls cx hnm hex hI (lv_sub hl [1, 2, 0] rfl)
      · have h := gz_t h hc
        obtain ⟨q5, e5, h⟩ := g_bind h
        cases h
        exact gr_throw cx hI (t := 18) (a := q5.1) (S2 := q5.2) (ic := 98) e5 (by decide) q740 q741 q99 gt_own_C_18_P (by decide) (by omega) (gz_cs (Nat.le_of_ble_eq_true rfl)) hl.1 (gz_nh hex) dX1_tick_28 dX1_tick_31 dX1_tick_32 dX1_tick_35
    · have h := gz_f h hc
      exact T_X1_tick_10 hD h p e s m args below meth c H locs cells slots ls cx hnm hex hI (lv_sub hl [] rfl)
theorem M_X1_tick {l : Launch} {G : gG} {fu d0 : Nat} (hfl : l.flags = flags0) (hD : 26 ≤ d0) {x0 : Option Nat} {x1 : Int32} {S : gm_S} {o : Outcome} {S2 : gm_S} (h : F_X1_tick fu x0 x1 S = some (o, S2)) : gx_Met l yX1_tick (ws_ yX1_tick cX1_tick 3 (Option.some Jvm.ClassFile.FieldType.int)) d0 G S [va_rf x0, .int x1] o S2 := by
  refine gx_of hfl (by decide) (fun p e s m below meth c cx hnm hex hI => ?_)
  rw [lg_entry_eq]
  cases x0 <;> exact T_X1_tick (r := (o, S2)) hD h p e s m _ below meth c _ _ _ _ _ cx hnm (gz_nh0 hex) hI (lv_entry _ (Nat.le_of_ble_eq_true rfl))
abbrev B_X0_tick (l : Launch) (d0 : Nat) (G : gG) (S0 : gm_S) : Nat → List (Nat × Value) → List Value → gm_S → Outcome → gm_S → Prop := gz_B l RX0 "tick" cX0_tick 4 (Option.some Jvm.ClassFile.FieldType.int) [⟨0, 9, 12, 13⟩, ⟨0, 9, 15, 18⟩, ⟨0, 9, 18, 20⟩] d0 G S0
theorem T_X0_tick {l : Launch} {G : gG} {S0 : gm_S} {d0 fu : Nat} {r : Outcome × gm_S} (hD : 27 ≤ d0) {x0 : Option Nat} {x1 : Int32} {x2 : Option Nat} {S : gm_S} (h : F_X0_tick fu x0 x1 x2 S = some r) : B_X0_tick l d0 G S0 0 [(0, va_rf x0), (1, .int x1), (2, va_rf x2)] [] S r.1 r.2 := by
  unfold F_X0_tick at h
  intro p e s m args below meth c H locs cells slots ls cx hnm hex hI hl
  have hx := cx.1
  have hb := cx.2.1
  have hown := cx.2.2.2.1
  have hts := cx.2.2.2.2.1
  have hK := cx.2.2.2.2.2.1
  refine gr_aload_n hx hb x2 dX0_tick_0 rfl (lv_at hl 2 rfl) ?_
  refine lv_iconst hx hb dX0_tick_1 gz_ic_0 ?_
  refine gr_aload_n hx hb x0 dX0_tick_2 rfl (lv_at hl 0 rfl) ?_
  refine lv_iload_n hx hb dX0_tick_3 rfl (lv_at hl 1 rfl) ?_
  obtain ⟨a1, t1, h⟩ := gz_q_s h
  obtain ⟨a1_, z1_, y1_⟩ : ∃ a, a = a1 ∧ True := ⟨a1, rfl, trivial⟩
  obtain ⟨z1, y1⟩ := g_at_s t1
  rw [← z1_] at z1 y1
  rcases gz_tI_s h with ⟨v1, S1, w1, h⟩ | ⟨a1, S1, w1, h⟩
  · refine gr_callR (gb_rawV (As := [.int x1]) cx (Or.inl (hts _ q977)) (hts _ q978) (hts _ q979) (gl_C.code (hts _ q980)) hy_X1_tick (gr_recv hK hI.1 y1 rfl) rfl (by rw [z1]; rfl) dX0_tick_4) (M_X1_tick (x0 := some a1_) cx.2.2.2.2.2.2.2.2 (by omega) (by rw [← z1]; exact w1)) (d := d0 - 1) (by omega) (Nat.le_of_ble_eq_true rfl) (gz_ws (lw_meth q980) hts) (hts _ q72) hI hK rfl (by rw [cx.2.2.1]; exact hl.1) (lv_room (m := m) (pc := 0) (ls := ls) (rest := []) (gz_cs (st := [.int (0 : Int32), va_rf x2]) (Nat.le_of_ble_eq_true rfl))) (fun H locs cells slots hI => ?_)
    refine lv_i2l hx hb dX0_tick_7 rfl ?_
    obtain ⟨S2, e2, h⟩ := g_bind h
    refine gr_last cx hI e2 dX0_tick_8 (fun H locs hI => ?_)
    refine lv_goto (tgt := 21) hx hb dX0_tick_9 rfl ?_
    refine lv_iconst hx hb dX0_tick_21 gz_ic_0 ?_
    cases h
    exact gr_iret cx hI dX0_tick_22
  · by_cases hc : gs_t S1 a1 = 17
    · have h := gz_t h hc
      refine gr_callC (t := 17) cx (gb_rawV (As := [.int x1]) cx (Or.inl (hts _ q977)) (hts _ q978) (hts _ q979) (gl_C.code (hts _ q980)) hy_X1_tick (gr_recv hK hI.1 y1 rfl) rfl (by rw [z1]; rfl) dX0_tick_4) (M_X1_tick (x0 := some a1_) cx.2.2.2.2.2.2.2.2 (by omega) (by rw [← z1]; exact w1)) (d := d0 - 1) (by omega) (Nat.le_of_ble_eq_true rfl) (gz_ws (lw_meth q980) hts) (hts _ q72) hI rfl (by rw [cx.2.2.1]; exact hl.1) (lv_room (m := m) (pc := 0) (ls := ls) (rest := []) (gz_cs (st := [.int (0 : Int32), va_rf x2]) (Nat.le_of_ble_eq_true rfl))) hc (by decide) [] ⟨0, 9, 12, 13⟩ [⟨0, 9, 15, 18⟩, ⟨0, 9, 18, 20⟩] hex rfl (by decide) (hts _ q313) q342 gz_nilE (fun H locs cells slots hI => ?_)
      refine gz_astore_n hx hb dX0_tick_12 rfl hl (by decide) [] rfl gz_nil (fun ls hl => ?_)
      refine lv_iconst hx hb dX0_tick_13 gz_ic_1 ?_
      cases h
      exact gr_iret cx hI dX0_tick_14
    have h := gz_f h hc
    by_cases hc : gs_t S1 a1 = 18
    · have h := gz_t h hc
      refine gr_callC (t := 18) cx (gb_rawV (As := [.int x1]) cx (Or.inl (hts _ q977)) (hts _ q978) (hts _ q979) (gl_C.code (hts _ q980)) hy_X1_tick (gr_recv hK hI.1 y1 rfl) rfl (by rw [z1]; rfl) dX0_tick_4) (M_X1_tick (x0 := some a1_) cx.2.2.2.2.2.2.2.2 (by omega) (by rw [← z1]; exact w1)) (d := d0 - 1) (by omega) (Nat.le_of_ble_eq_true rfl) (gz_ws (lw_meth q980) hts) (hts _ q72) hI rfl (by rw [cx.2.2.1]; exact hl.1) (lv_room (m := m) (pc := 0) (ls := ls) (rest := []) (gz_cs (st := [.int (0 : Int32), va_rf x2]) (Nat.le_of_ble_eq_true rfl))) hc (by decide) [⟨0, 9, 12, 13⟩] ⟨0, 9, 15, 18⟩ [⟨0, 9, 18, 20⟩] hex rfl (by decide) (hts _ q734) q742 (gz_conE ⟨rfl, by decide, _, hts _ q313, hK.2.2.2.2.2.2.2.2.2.2.2⟩ gz_nilE) (fun H locs cells slots hI => ?_)
      refine gz_astore_n hx hb dX0_tick_15 rfl hl (by decide) [] rfl gz_nil (fun ls hl => ?_)
      refine lv_iconst hx hb dX0_tick_16 gz_ic_2 ?_
      cases h
      exact gr_iret cx hI dX0_tick_17
    have h := gz_f h hc
    by_cases hc : gs_t S1 a1 = 19
    · have h := gz_t h hc
      refine gr_callC (t := 19) cx (gb_rawV (As := [.int x1]) cx (Or.inl (hts _ q977)) (hts _ q978) (hts _ q979) (gl_C.code (hts _ q980)) hy_X1_tick (gr_recv hK hI.1 y1 rfl) rfl (by rw [z1]; rfl) dX0_tick_4) (M_X1_tick (x0 := some a1_) cx.2.2.2.2.2.2.2.2 (by omega) (by rw [← z1]; exact w1)) (d := d0 - 1) (by omega) (Nat.le_of_ble_eq_true rfl) (gz_ws (lw_meth q980) hts) (hts _ q72) hI rfl (by rw [cx.2.2.1]; exact hl.1) (lv_room (m := m) (pc := 0) (ls := ls) (rest := []) (gz_cs (st := [.int (0 : Int32), va_rf x2]) (Nat.le_of_ble_eq_true rfl))) hc (by decide) [⟨0, 9, 12, 13⟩, ⟨0, 9, 15, 18⟩] ⟨0, 9, 18, 20⟩ [] hex rfl (by decide) (hts _ q735) q934 (gz_conE ⟨rfl, by decide, _, hts _ q313, hK.2.2.2.2.2.2.2.2.2.1⟩ (gz_conE ⟨rfl, by decide, _, hts _ q734, hK.2.2.2.2.2.2.2.2.2.2.1⟩ gz_nilE)) (fun H locs cells slots hI => ?_)
      refine gz_astore_n hx hb dX0_tick_18 rfl hl (by decide) [] rfl gz_nil (fun ls hl => ?_)
      refine lv_iconst hx hb dX0_tick_19 gz_ic_3 ?_
      cases h
      exact gr_iret cx hI dX0_tick_20
    have h := gz_f h hc
    cases h
theorem M_X0_tick {l : Launch} {G : gG} {fu d0 : Nat} (hfl : l.flags = flags0) (hD : 27 ≤ d0) {x0 : Option Nat} {x1 : Int32} {x2 : Option Nat} {S : gm_S} {o : Outcome} {S2 : gm_S} (h : F_X0_tick fu x0 x1 x2 S = some (o, S2)) : gx_Met l yX0_tick (wsW_ yX0_tick cX0_tick 4 (Option.some Jvm.ClassFile.FieldType.int) [((0 : Nat), (9 : Nat), (12 : Nat), (13 : Nat)), ((0 : Nat), (9 : Nat), (15 : Nat), (18 : Nat)), ((0 : Nat), (9 : Nat), (18 : Nat), (20 : Nat))]) d0 G S [va_rf x0, .int x1, va_rf x2] o S2 := by
  refine gx_ofH hfl (by decide) (fun p e s m below meth c cx hnm hex hI => ?_)
  rw [lg_entry_eq]
  cases x0 <;> cases x2 <;> exact T_X0_tick (r := (o, S2)) hD h p e s m _ below meth c _ _ _ _ _ cx hnm hex hI (lv_entry _ (Nat.le_of_ble_eq_true rfl))
abbrev B_X1_stateOf (l : Launch) (d0 : Nat) (G : gG) (S0 : gm_S) : Nat → List (Nat × Value) → List Value → gm_S → Outcome → gm_S → Prop := gz_B l RX1 "stateOf" cX1_stateOf 2 (Option.some (Jvm.ClassFile.FieldType.object "NestChart$State")) [] d0 G S0
theorem T_X1_stateOf {l : Launch} {G : gG} {S0 : gm_S} {d0 fu : Nat} {r : Outcome × gm_S} (hD : 11 ≤ d0) {x0 : Option Nat} {x1 : Int32} {S : gm_S} (h : F_X1_stateOf fu x0 x1 S = some r) : B_X1_stateOf l d0 G S0 0 [(0, va_rf x0), (1, .int x1)] [] S r.1 r.2 := by
  unfold F_X1_stateOf at h
  intro p e s m args below meth c H locs cells slots ls cx hnm hex hI hl
  have hx := cx.1
  have hb := cx.2.1
  have hown := cx.2.2.2.1
  have hts := cx.2.2.2.2.1
  have hK := cx.2.2.2.2.2.1
  refine gr_aload_n hx hb x0 dX1_stateOf_0 rfl (lv_at hl 0 rfl) ?_
  obtain ⟨v1, e1, h⟩ := g_bind h
  refine gr_getR cx hI e1 rfl (fun _ => rfl) rfl (Or.inl (hts _ q232)) dX1_stateOf_1 ?_
  obtain ⟨v2, e2, h⟩ := g_bind h
  refine gr_getR cx hI e2 rfl (fun _ => rfl) rfl (Or.inr ⟨_, gk_w hK q181 rfl⟩) dX1_stateOf_4 ?_
  obtain ⟨v3, e3, h⟩ := g_bind h
  refine gr_lempty cx (gz_nh hex) hI (Or.inl (hts _ q267)) hl.1 (gz_cs (Nat.le_of_ble_eq_true rfl)) (by omega) dX1_stateOf_7 e3 (fun H locs cells slots hI => ?_)
  refine lv_if_ne (tgt := 37) hx hb dX1_stateOf_10 rfl (fun hc => ?_) (fun hc => ?_)
  · have h := gz_f h hc
    refine gz_null hx hb dX1_stateOf_37 ?_
    cases h
    exact gr_aret cx (Or.inl ⟨_, rfl⟩) hI dX1_stateOf_38
  · have h := gz_t h hc
    refine lv_iload_n hx hb dX1_stateOf_13 rfl (lv_at hl 1 rfl) ?_
    refine lv_bipush hx hb dX1_stateOf_14 gz_bp_97 ?_
    refine lv_icmp_lt (tgt := 37) hx hb dX1_stateOf_16 rfl (fun hc => ?_) (fun hc => ?_)
    · have h := gz_t h hc
      refine gz_null hx hb dX1_stateOf_37 ?_
      cases h
      exact gr_aret cx (Or.inl ⟨_, rfl⟩) hI dX1_stateOf_38
    · have h := gz_f h hc
      refine lv_iload_n hx hb dX1_stateOf_19 rfl (lv_at hl 1 rfl) ?_
      refine lv_bipush hx hb dX1_stateOf_20 gz_bp_112 ?_
      refine lv_icmp_gt (tgt := 37) hx hb dX1_stateOf_22 rfl (fun hc => ?_) (fun hc => ?_)
      · have h := gz_t h hc
        refine gz_null hx hb dX1_stateOf_37 ?_
        cases h
        exact gr_aret cx (Or.inl ⟨_, rfl⟩) hI dX1_stateOf_38
      · have h := gz_f h hc
        refine gr_aload_n hx hb x0 dX1_stateOf_25 rfl (lv_at hl 0 rfl) ?_
        obtain ⟨v4, e4, h⟩ := g_bind h
        refine gr_getR cx hI e4 rfl (fun _ => rfl) rfl (Or.inl (hts _ q233)) dX1_stateOf_26 ?_
        refine lv_iload_n hx hb dX1_stateOf_29 rfl (lv_at hl 1 rfl) ?_
        refine lv_bipush hx hb dX1_stateOf_30 gz_bp_97 ?_
        refine lv_isub hx hb dX1_stateOf_32 ?_
        obtain ⟨v5, e5, h⟩ := g_bind h
        refine gr_iald cx hI e5 dX1_stateOf_33 ?_
        refine lv_if_ge (tgt := 39) hx hb dX1_stateOf_34 rfl (fun hc => ?_) (fun hc => ?_)
        · have h := gz_t h hc
          refine gr_aload_n hx hb x0 dX1_stateOf_39 rfl (lv_at hl 0 rfl) ?_
          obtain ⟨v6, e6, h⟩ := g_bind h
          refine gr_getR cx hI e6 rfl (fun _ => rfl) rfl (Or.inl (hts _ q232)) dX1_stateOf_40 ?_
          obtain ⟨v7, e7, h⟩ := g_bind h
          refine gr_getR cx hI e7 rfl (fun _ => rfl) rfl (Or.inr ⟨_, gk_w hK q181 rfl⟩) dX1_stateOf_43 ?_
          refine gr_aload_n hx hb x0 dX1_stateOf_46 rfl (lv_at hl 0 rfl) ?_
          obtain ⟨v8, e8, h⟩ := g_bind h
          refine gr_getR cx hI e8 rfl (fun _ => rfl) rfl (Or.inl (hts _ q233)) dX1_stateOf_47 ?_
          refine lv_iload_n hx hb dX1_stateOf_50 rfl (lv_at hl 1 rfl) ?_
          refine lv_bipush hx hb dX1_stateOf_51 gz_bp_97 ?_
          refine lv_isub hx hb dX1_stateOf_53 ?_
          obtain ⟨v9, e9, h⟩ := g_bind h
          refine gr_iald cx hI e9 dX1_stateOf_54 ?_
          obtain ⟨v10, e10, h⟩ := g_bind h
          refine gr_lgetr cx (gz_nh hex) hI (Or.inl (hts _ q271)) hl.1 (gz_cs (Nat.le_of_ble_eq_true rfl)) (by omega) dX1_stateOf_55 e10 (fun H locs cells slots hI => ?_)
          obtain ⟨a11, e11, h⟩ := gz_q_s h
          refine gr_ck1 cx hI e11 rfl (hts _ q285) dX1_stateOf_58 ?_
          cases h
          exact gr_aret cx (Or.inl ⟨_, rfl⟩) hI dX1_stateOf_61
        · have h := gz_f h hc
          refine gz_null hx hb dX1_stateOf_37 ?_
          cases h
          exact gr_aret cx (Or.inl ⟨_, rfl⟩) hI dX1_stateOf_38
theorem M_X1_stateOf {l : Launch} {G : gG} {fu d0 : Nat} (hfl : l.flags = flags0) (hD : 11 ≤ d0) {x0 : Option Nat} {x1 : Int32} {S : gm_S} {o : Outcome} {S2 : gm_S} (h : F_X1_stateOf fu x0 x1 S = some (o, S2)) : gx_Met l yX1_stateOf (ws_ yX1_stateOf cX1_stateOf 2 (Option.some (Jvm.ClassFile.FieldType.object "NestChart$State"))) d0 G S [va_rf x0, .int x1] o S2 := by
  refine gx_of hfl (by decide) (fun p e s m below meth c cx hnm hex hI => ?_)
  rw [lg_entry_eq]
  cases x0 <;> exact T_X1_stateOf (r := (o, S2)) hD h p e s m _ below meth c _ _ _ _ _ cx hnm (gz_nh0 hex) hI (lv_entry _ (Nat.le_of_ble_eq_true rfl))
theorem C_X1_stateOf {p : Program} {l : Launch} {e : Env} {s : State} {m : MethodId} {args : Array Value} {below : List Frame} {meth : Method} {c : Code} {H : Heap} {locs : List Loc} {cells slots : Nat} {cc : ByteArray} {pc nL : Nat} {ls : Array Slot} {rest : List Value} {G : gG} {S0 S : gm_S} {own : String} {ret : Option FieldType} {d0 index fu : Nat} {x0 : Option Nat} {x1 : Int32} {k : Option Nat → gm_S → gR} {r : Outcome × gm_S} (cx : gx_cx p l s m args meth c G own cc nL ret) (hex : ∀ x ∈ c.exceptionTable.toList, covers x pc = false) (hI : gw_I G S0 S H locs cells slots) (hl : gl_M own index yX1_stateOf args s) (hlv : ls.size = nL) (hrest : (rest.map fun v => v.category).sum ≤ 8) (hD : 12 ≤ d0) (hdg : decode cc pc = .ok (.invokevirtual index, 3)) {b : Nat} (hat : g_at S x0 1 = some b) (h : gz_cR (F_X1_stateOf fu x0 x1 S) k = some r)
    (kk : ∀ (v : Option Nat) (z : gm_S), k v z = some r → ∀ (H : Heap) (locs : List Loc) (cells slots : Nat), gw_I G S0 z H locs cells slots → W p l e (gx_rm d0 S0) s m args below meth c H locs cells slots (gx_MQ below G S0 r.2 r.1 s) (F0 m (pc + 3) ls (va_rf v :: rest))) : W p l e (gx_rm d0 S0) s m args below meth c H locs cells slots (gx_MQ below G S0 r.2 r.1 s) (F0 m pc ls (.int x1 :: va_rf x0 :: rest)) := by
  obtain ⟨rfl, ht⟩ := g_at_s hat
  have hts := cx.2.2.2.2.1
  have hK := cx.2.2.2.2.2.1
  exact gz_goR (d := d0 - 1) (fun S => S) cx hex hI hlv hrest (by omega) (Nat.le_of_ble_eq_true rfl) (gz_ws (lw_meth q266) hts) (hts _ q72) (gb_rawV (As := [.int x1]) cx hl (hts _ q265) (hts _ qs0) (gl_C.code (hts _ q266)) hy_X1_stateOf (gr_recv hK hI.1 ht rfl) rfl rfl hdg) (fun o S2 e => M_X1_stateOf (x0 := some b) cx.2.2.2.2.2.2.2.2 (by omega) e) h kk
abbrev B_X1_active (l : Launch) (d0 : Nat) (G : gG) (S0 : gm_S) : Nat → List (Nat × Value) → List Value → gm_S → Outcome → gm_S → Prop := gz_B l RX1 "active" cX1_active 3 (Option.some Jvm.ClassFile.FieldType.boolean) [] d0 G S0
theorem T_X1_active {l : Launch} {G : gG} {S0 : gm_S} {d0 fu : Nat} {r : Outcome × gm_S} (hD : 12 ≤ d0) {x0 : Option Nat} {x1 : Int32} {S : gm_S} (h : F_X1_active fu x0 x1 S = some r) : B_X1_active l d0 G S0 0 [(0, va_rf x0), (1, .int x1)] [] S r.1 r.2 := by
  unfold F_X1_active at h
  intro p e s m args below meth c H locs cells slots ls cx hnm hex hI hl
  have hx := cx.1
  have hb := cx.2.1
  have hown := cx.2.2.2.1
  have hts := cx.2.2.2.2.1
  have hK := cx.2.2.2.2.2.1
  refine gr_aload_n hx hb x0 dX1_active_0 rfl (lv_at hl 0 rfl) ?_
  refine lv_iload_n hx hb dX1_active_1 rfl (lv_at hl 1 rfl) ?_
  obtain ⟨a1, t1, h⟩ := gz_q_s h
  refine C_X1_stateOf cx (gz_nh hex) hI (Or.inl (hts _ q263)) hl.1 (gz_cs (Nat.le_of_ble_eq_true rfl)) (by omega) dX1_active_2 t1 h (fun v1 S1 h H locs cells slots hI => ?_)
  refine gz_astore_n hx hb dX1_active_5 rfl hl (by decide) [0] rfl (gz_con ⟨gz_ne rfl, Or.inl (gz_ne rfl)⟩ gz_nil) (fun ls hl => ?_)
  refine gr_aload_n hx hb v1 dX1_active_6 rfl (lv_at hl 0 rfl) ?_
  refine gr_ifnull (tgt := 28) hx hb dX1_active_7 rfl (fun hc => ?_) (fun hc => ?_)
  · have h := gz_t h hc
    refine lv_iconst hx hb dX1_active_28 gz_ic_0 ?_
    obtain ⟨hz, h⟩ := g_ifs h
    cases h
    exact gr_zret cx hz hI dX1_active_29
  · have h := gz_f h hc
    refine gr_aload_n hx hb x0 dX1_active_10 rfl (lv_at hl 1 rfl) ?_
    obtain ⟨v2, e2, h⟩ := g_bind h
    refine gr_getR cx hI e2 rfl (fun _ => rfl) rfl (Or.inl (hts _ q232)) dX1_active_11 ?_
    refine gr_aload_n hx hb v1 dX1_active_14 rfl (lv_at hl 0 rfl) ?_
    obtain ⟨v3, e3, h⟩ := g_bind h
    refine gr_getI cx hI e3 rfl (fun _ => rfl) rfl (Or.inr ⟨_, gk_w hK q414 rfl⟩) dX1_active_15 ?_
    obtain ⟨a4, t4, h⟩ := gz_q_s h
    refine C_X3_isActive cx (gz_nh hex) hI (Or.inl (hts _ q286)) hl.1 (gz_cs (Nat.le_of_ble_eq_true rfl)) (by omega) dX1_active_18 t4 h (fun v4 S4 h H locs cells slots hI => ?_)
    refine lv_if_eq (tgt := 28) hx hb dX1_active_21 rfl (fun hc => ?_) (fun hc => ?_)
    · have h := gz_t h hc
      refine lv_iconst hx hb dX1_active_28 gz_ic_0 ?_
      obtain ⟨hz, h⟩ := g_ifs h
      cases h
      exact gr_zret cx hz hI dX1_active_29
    · have h := gz_f h hc
      refine lv_iconst hx hb dX1_active_24 gz_ic_1 ?_
      refine lv_goto (tgt := 29) hx hb dX1_active_25 rfl ?_
      obtain ⟨hz, h⟩ := g_ifs h
      cases h
      exact gr_zret cx hz hI dX1_active_29
theorem M_X1_active {l : Launch} {G : gG} {fu d0 : Nat} (hfl : l.flags = flags0) (hD : 12 ≤ d0) {x0 : Option Nat} {x1 : Int32} {S : gm_S} {o : Outcome} {S2 : gm_S} (h : F_X1_active fu x0 x1 S = some (o, S2)) : gx_Met l yX1_active (ws_ yX1_active cX1_active 3 (Option.some Jvm.ClassFile.FieldType.boolean)) d0 G S [va_rf x0, .int x1] o S2 := by
  refine gx_of hfl (by decide) (fun p e s m below meth c cx hnm hex hI => ?_)
  rw [lg_entry_eq]
  cases x0 <;> exact T_X1_active (r := (o, S2)) hD h p e s m _ below meth c _ _ _ _ _ cx hnm (gz_nh0 hex) hI (lv_entry _ (Nat.le_of_ble_eq_true rfl))
abbrev B_X1_history (l : Launch) (d0 : Nat) (G : gG) (S0 : gm_S) : Nat → List (Nat × Value) → List Value → gm_S → Outcome → gm_S → Prop := gz_B l RX1 "history" cX1_history 4 (Option.some Jvm.ClassFile.FieldType.int) [] d0 G S0
theorem T_X1_history {l : Launch} {G : gG} {S0 : gm_S} {d0 fu : Nat} {r : Outcome × gm_S} (hD : 12 ≤ d0) {x0 : Option Nat} {x1 : Int32} {x2 : Int32} {S : gm_S} (h : F_X1_history fu x0 x1 x2 S = some r) : B_X1_history l d0 G S0 0 [(0, va_rf x0), (1, .int x1), (2, .int x2)] [] S r.1 r.2 := by
  unfold F_X1_history at h
  intro p e s m args below meth c H locs cells slots ls cx hnm hex hI hl
  have hx := cx.1
  have hb := cx.2.1
  have hown := cx.2.2.2.1
  have hts := cx.2.2.2.2.1
  have hK := cx.2.2.2.2.2.1
  refine gr_aload_n hx hb x0 dX1_history_0 rfl (lv_at hl 0 rfl) ?_
  refine lv_iload_n hx hb dX1_history_1 rfl (lv_at hl 1 rfl) ?_
  obtain ⟨a1, t1, h⟩ := gz_q_s h
  refine C_X1_stateOf cx (gz_nh hex) hI (Or.inl (hts _ q263)) hl.1 (gz_cs (Nat.le_of_ble_eq_true rfl)) (by omega) dX1_history_2 t1 h (fun v1 S1 h H locs cells slots hI => ?_)
  refine gz_astore_n hx hb dX1_history_5 rfl hl (by decide) [2] rfl (gz_con ⟨gz_ne rfl, Or.inr rfl⟩ gz_nil) (fun ls hl => ?_)
  refine gr_aload_n hx hb v1 dX1_history_6 rfl (lv_at hl 0 rfl) ?_
  refine gr_ifnonnull (tgt := 14) hx hb dX1_history_7 rfl (fun hc => ?_) (fun hc => ?_)
  · have h := gz_f h hc
    refine lv_iload_n hx hb dX1_history_14 rfl (lv_at hl 1 rfl) ?_
    refine lv_if_eq (tgt := 25) hx hb dX1_history_15 rfl (fun hc => ?_) (fun hc => ?_)
    · have h := gz_t h hc
      refine gr_aload_n hx hb v1 dX1_history_25 rfl (lv_at hl 0 rfl) ?_
      obtain ⟨v2, e2, h⟩ := g_bind h
      refine gr_getI cx hI e2 rfl (fun _ => rfl) rfl (Or.inr ⟨_, gk_w hK q439 rfl⟩) dX1_history_26 ?_
      cases h
      exact gr_iret cx hI dX1_history_29
    · have h := gz_f h hc
      refine gr_aload_n hx hb v1 dX1_history_18 rfl (lv_at hl 0 rfl) ?_
      obtain ⟨v3, e3, h⟩ := g_bind h
      refine gr_getI cx hI e3 rfl (fun _ => rfl) rfl (Or.inr ⟨_, gk_w hK q441 rfl⟩) dX1_history_19 ?_
      refine lv_goto (tgt := 29) hx hb dX1_history_22 rfl ?_
      cases h
      exact gr_iret cx hI dX1_history_29
  · have h := gz_t h hc
    refine lv_iconst hx hb dX1_history_10 gz_ic_0 ?_
    refine lv_goto (tgt := 29) hx hb dX1_history_11 rfl ?_
    cases h
    exact gr_iret cx hI dX1_history_29
theorem M_X1_history {l : Launch} {G : gG} {fu d0 : Nat} (hfl : l.flags = flags0) (hD : 12 ≤ d0) {x0 : Option Nat} {x1 : Int32} {x2 : Int32} {S : gm_S} {o : Outcome} {S2 : gm_S} (h : F_X1_history fu x0 x1 x2 S = some (o, S2)) : gx_Met l yX1_history (ws_ yX1_history cX1_history 4 (Option.some Jvm.ClassFile.FieldType.int)) d0 G S [va_rf x0, .int x1, .int x2] o S2 := by
  refine gx_of hfl (by decide) (fun p e s m below meth c cx hnm hex hI => ?_)
  rw [lg_entry_eq]
  cases x0 <;> exact T_X1_history (r := (o, S2)) hD h p e s m _ below meth c _ _ _ _ _ cx hnm (gz_nh0 hex) hI (lv_entry _ (Nat.le_of_ble_eq_true rfl))
abbrev B_X2_init (l : Launch) (d0 : Nat) (G : gG) (S0 : gm_S) : Nat → List (Nat × Value) → List Value → gm_S → Outcome → gm_S → Prop := gz_B l RX2 "<init>" cX2_init 1 (Option.none : Option Jvm.ClassFile.FieldType) [] d0 G S0
theorem T_X2_init {l : Launch} {G : gG} {S0 : gm_S} {d0 fu : Nat} {r : Outcome × gm_S} (hD : 2 ≤ d0) {x0 : Option Nat} {S : gm_S} (h : F_X2_init fu x0 S = some r) : B_X2_init l d0 G S0 0 [(0, va_rf x0)] [] S r.1 r.2 := by
  unfold F_X2_init at h
  intro p e s m args below meth c H locs cells slots ls cx hnm hex hI hl
  have hx := cx.1
  have hb := cx.2.1
  have hown := cx.2.2.2.1
  have hts := cx.2.2.2.2.1
  have hK := cx.2.2.2.2.2.1
  refine gr_aload_n hx hb x0 dX2_init_0 rfl (lv_at hl 0 rfl) ?_
  obtain ⟨a1, e1, h⟩ := gz_q_s h
  refine gz_objI cx hl.1 (hts _ q115) (gz_cs (Nat.le_of_ble_eq_true rfl)) (by omega) e1 dX2_init_1 ?_
  refine gr_aload_n hx hb x0 dX2_init_4 rfl (lv_at hl 0 rfl) ?_
  refine lv_sipush hx hb dX2_init_5 gz_sp_160 ?_
  obtain ⟨q2, e2, h⟩ := g_bind h
  refine gr_fnewa cx hI (t := 1) (a := q2.1) (S2 := q2.2) e2 rfl (by decide) (hts _ q146) dX2_init_8 (fun H cells slots hI => ?_)
  obtain ⟨S3, e3, h⟩ := g_bind h
  refine gr_putR cx hI e3 rfl rfl rfl (Or.inl (hts _ q116)) (Or.inr ⟨hnm, rfl⟩) dX2_init_10 (fun H locs hI => ?_)
  refine gr_aload_n hx hb x0 dX2_init_13 rfl (lv_at hl 0 rfl) ?_
  refine lv_bipush hx hb dX2_init_14 gz_bp_16 ?_
  obtain ⟨q4, e4, h⟩ := g_bind h
  refine gr_fnewa cx hI (t := 0) (a := q4.1) (S2 := q4.2) e4 rfl (by decide) (hts _ q147) dX2_init_16 (fun H cells slots hI => ?_)
  obtain ⟨S5, e5, h⟩ := g_bind h
  refine gr_putR cx hI e5 rfl rfl rfl (Or.inl (hts _ q125)) (Or.inr ⟨hnm, rfl⟩) dX2_init_18 (fun H locs hI => ?_)
  cases h
  exact gr_vret cx hI dX2_init_21
theorem M_X2_init {l : Launch} {G : gG} {fu d0 : Nat} (hfl : l.flags = flags0) (hD : 2 ≤ d0) {x0 : Option Nat} {S : gm_S} {o : Outcome} {S2 : gm_S} (h : F_X2_init fu x0 S = some (o, S2)) : gx_Met l yX2_init (ws_ yX2_init cX2_init 1 (Option.none : Option Jvm.ClassFile.FieldType)) d0 G S [va_rf x0] o S2 := by
  refine gx_of hfl (by decide) (fun p e s m below meth c cx hnm hex hI => ?_)
  rw [lg_entry_eq]
  cases x0 <;> exact T_X2_init (r := (o, S2)) hD h p e s m _ below meth c _ _ _ _ _ cx hnm (gz_nh0 hex) hI (lv_entry _ (Nat.le_of_ble_eq_true rfl))
theorem C_X2_init {p : Program} {l : Launch} {e : Env} {s : State} {m : MethodId} {args : Array Value} {below : List Frame} {meth : Method} {c : Code} {H : Heap} {locs : List Loc} {cells slots : Nat} {cc : ByteArray} {pc nL : Nat} {ls : Array Slot} {rest : List Value} {G : gG} {S0 S : gm_S} {own : String} {ret : Option FieldType} {d0 index fu : Nat} {x0 : Option Nat} {k : gm_S → gR} {r : Outcome × gm_S} (cx : gx_cx p l s m args meth c G own cc nL ret) (hex : ∀ x ∈ c.exceptionTable.toList, covers x pc = false) (hI : gw_I G S0 S H locs cells slots) (hl : gl_M own index yX2_init args s) (hlv : ls.size = nL) (hrest : (rest.map fun v => v.category).sum ≤ 8) (hD : 3 ≤ d0) (hdg : decode cc pc = .ok (.invokespecial index, 3)) {b : Nat} (hat : g_at S x0 2 = some b) (h : gz_cV (F_X2_init fu x0 S) k = some r)
    (kk : ∀ (z : gm_S), k z = some r → ∀ (H : Heap) (locs : List Loc) (cells slots : Nat), gw_I G S0 z H locs cells slots → W p l e (gx_rm d0 S0) s m args below meth c H locs cells slots (gx_MQ below G S0 r.2 r.1 s) (F0 m (pc + 3) ls rest)) : W p l e (gx_rm d0 S0) s m args below meth c H locs cells slots (gx_MQ below G S0 r.2 r.1 s) (F0 m pc ls (va_rf x0 :: rest)) := by
  obtain ⟨rfl, ht⟩ := g_at_s hat
  have hts := cx.2.2.2.2.1
  have hK := cx.2.2.2.2.2.1
  exact gz_goV (d := d0 - 1) (fun S => S) cx hex hI hlv hrest (by omega) (Nat.le_of_ble_eq_true rfl) (gz_ws (lw_meth q114) hts) (hts _ q73) (gb_rawI (As := []) cx hl (hts _ q113) (hts _ q114) hy_X2_init rfl rfl rfl hdg) (fun o S2 e => M_X2_init (x0 := some b) cx.2.2.2.2.2.2.2.2 (by omega) e) h kk
abbrev B_X3_init (l : Launch) (d0 : Nat) (G : gG) (S0 : gm_S) : Nat → List (Nat × Value) → List Value → gm_S → Outcome → gm_S → Prop := gz_B l RX3 "<init>" cX3_init 1 (Option.none : Option Jvm.ClassFile.FieldType) [] d0 G S0
theorem T_X3_init {l : Launch} {G : gG} {S0 : gm_S} {d0 fu : Nat} {r : Outcome × gm_S} (hD : 11 ≤ d0) {x0 : Option Nat} {S : gm_S} (h : F_X3_init fu x0 S = some r) : B_X3_init l d0 G S0 0 [(0, va_rf x0)] [] S r.1 r.2 := by
  unfold F_X3_init at h
  intro p e s m args below meth c H locs cells slots ls cx hnm hex hI hl
  have hx := cx.1
  have hb := cx.2.1
  have hown := cx.2.2.2.1
  have hts := cx.2.2.2.2.1
  have hK := cx.2.2.2.2.2.1
  refine gr_aload_n hx hb x0 dX3_init_0 rfl (lv_at hl 0 rfl) ?_
  obtain ⟨a1, e1, h⟩ := gz_q_s h
  refine gz_objI cx hl.1 (hts _ q153) (gz_cs (Nat.le_of_ble_eq_true rfl)) (by omega) e1 dX3_init_1 ?_
  refine gr_aload_n hx hb x0 dX3_init_4 rfl (lv_at hl 0 rfl) ?_
  obtain ⟨q2, e2, h⟩ := g_bind h
  refine gr_fnewL cx hI (a := q2.1) (S2 := q2.2) e2 (hts _ q154) (hts _ q155) (hts _ q77) dX3_init_5 (fun H cells slots hI => ?_)
  refine lv_dup hx hb dX3_init_8 (gl_cat (some q2.1)) ?_
  obtain ⟨S3, e3, h⟩ := g_bind h
  refine gr_linit cx (gz_nh hex) hI (Or.inl (hts _ q156)) hl.1 (gz_cs (Nat.le_of_ble_eq_true rfl)) (by omega) dX3_init_9 e3 (fun H locs cells slots hI => ?_)
  obtain ⟨S4, e4, h⟩ := g_bind h
  refine gr_putR cx hI e4 rfl rfl rfl (Or.inl (hts _ q180)) (Or.inl rfl) dX3_init_12 (fun H locs hI => ?_)
  refine gr_aload_n hx hb x0 dX3_init_15 rfl (lv_at hl 0 rfl) ?_
  refine lv_bipush hx hb dX3_init_16 gz_bp_6 ?_
  obtain ⟨q5, e5, h⟩ := g_bind h
  refine gr_fnewa cx hI (t := 2) (a := q5.1) (S2 := q5.2) e5 rfl (by decide) (hts _ q230) dX3_init_18 (fun H cells slots hI => ?_)
  obtain ⟨S6, e6, h⟩ := g_bind h
  refine gr_putR cx hI e6 rfl rfl rfl (Or.inl (hts _ q185)) (Or.inr ⟨hnm, rfl⟩) dX3_init_20 (fun H locs hI => ?_)
  refine gr_aload_n hx hb x0 dX3_init_23 rfl (lv_at hl 0 rfl) ?_
  refine lv_bipush hx hb dX3_init_24 gz_bp_10 ?_
  obtain ⟨q7, e7, h⟩ := g_bind h
  refine gr_fnewa cx hI (t := 1) (a := q7.1) (S2 := q7.2) e7 rfl (by decide) (hts _ q146) dX3_init_26 (fun H cells slots hI => ?_)
  obtain ⟨S8, e8, h⟩ := g_bind h
  refine gr_putR cx hI e8 rfl rfl rfl (Or.inl (hts _ q187)) (Or.inr ⟨hnm, rfl⟩) dX3_init_28 (fun H locs hI => ?_)
  refine gr_aload_n hx hb x0 dX3_init_31 rfl (lv_at hl 0 rfl) ?_
  obtain ⟨q9, e9, h⟩ := g_bind h
  refine gr_fnewL cx hI (a := q9.1) (S2 := q9.2) e9 (hts _ q154) (hts _ q155) (hts _ q77) dX3_init_32 (fun H cells slots hI => ?_)
  refine lv_dup hx hb dX3_init_35 (gl_cat (some q9.1)) ?_
  obtain ⟨S10, e10, h⟩ := g_bind h
  refine gr_linit cx (gz_nh hex) hI (Or.inl (hts _ q156)) hl.1 (gz_cs (Nat.le_of_ble_eq_true rfl)) (by omega) dX3_init_36 e10 (fun H locs cells slots hI => ?_)
  obtain ⟨S11, e11, h⟩ := g_bind h
  refine gr_putR cx hI e11 rfl rfl rfl (Or.inl (hts _ q190)) (Or.inr ⟨hnm, rfl⟩) dX3_init_39 (fun H locs hI => ?_)
  refine gr_aload_n hx hb x0 dX3_init_42 rfl (lv_at hl 0 rfl) ?_
  refine lv_bipush hx hb dX3_init_43 gz_bp_100 ?_
  obtain ⟨q12, e12, h⟩ := g_bind h
  refine gr_fnewa cx hI (t := 0) (a := q12.1) (S2 := q12.2) e12 rfl (by decide) (hts _ q147) dX3_init_45 (fun H cells slots hI => ?_)
  obtain ⟨S13, e13, h⟩ := g_bind h
  refine gr_putR cx hI e13 rfl rfl rfl (Or.inl (hts _ q193)) (Or.inr ⟨hnm, rfl⟩) dX3_init_47 (fun H locs hI => ?_)
  refine gr_aload_n hx hb x0 dX3_init_50 rfl (lv_at hl 0 rfl) ?_
  obtain ⟨q14, e14, h⟩ := g_bind h
  refine gr_fnewL cx hI (a := q14.1) (S2 := q14.2) e14 (hts _ q154) (hts _ q155) (hts _ q77) dX3_init_51 (fun H cells slots hI => ?_)
  refine lv_dup hx hb dX3_init_54 (gl_cat (some q14.1)) ?_
  obtain ⟨S15, e15, h⟩ := g_bind h
  refine gr_linit cx (gz_nh hex) hI (Or.inl (hts _ q156)) hl.1 (gz_cs (Nat.le_of_ble_eq_true rfl)) (by omega) dX3_init_55 e15 (fun H locs cells slots hI => ?_)
  obtain ⟨S16, e16, h⟩ := g_bind h
  refine gr_putR cx hI e16 rfl rfl rfl (Or.inl (hts _ q199)) (Or.inl rfl) dX3_init_58 (fun H locs hI => ?_)
  refine gr_aload_n hx hb x0 dX3_init_61 rfl (lv_at hl 0 rfl) ?_
  obtain ⟨q17, e17, h⟩ := g_bind h
  refine gr_fnewL cx hI (a := q17.1) (S2 := q17.2) e17 (hts _ q154) (hts _ q155) (hts _ q77) dX3_init_62 (fun H cells slots hI => ?_)
  refine lv_dup hx hb dX3_init_65 (gl_cat (some q17.1)) ?_
  obtain ⟨S18, e18, h⟩ := g_bind h
  refine gr_linit cx (gz_nh hex) hI (Or.inl (hts _ q156)) hl.1 (gz_cs (Nat.le_of_ble_eq_true rfl)) (by omega) dX3_init_66 e18 (fun H locs cells slots hI => ?_)
  obtain ⟨S19, e19, h⟩ := g_bind h
  refine gr_putR cx hI e19 rfl rfl rfl (Or.inl (hts _ q200)) (Or.inl rfl) dX3_init_69 (fun H locs hI => ?_)
  cases h
  exact gr_vret cx hI dX3_init_72
theorem M_X3_init {l : Launch} {G : gG} {fu d0 : Nat} (hfl : l.flags = flags0) (hD : 11 ≤ d0) {x0 : Option Nat} {S : gm_S} {o : Outcome} {S2 : gm_S} (h : F_X3_init fu x0 S = some (o, S2)) : gx_Met l yX3_init (ws_ yX3_init cX3_init 1 (Option.none : Option Jvm.ClassFile.FieldType)) d0 G S [va_rf x0] o S2 := by
  refine gx_of hfl (by decide) (fun p e s m below meth c cx hnm hex hI => ?_)
  rw [lg_entry_eq]
  cases x0 <;> exact T_X3_init (r := (o, S2)) hD h p e s m _ below meth c _ _ _ _ _ cx hnm (gz_nh0 hex) hI (lv_entry _ (Nat.le_of_ble_eq_true rfl))
theorem C_X3_init {p : Program} {l : Launch} {e : Env} {s : State} {m : MethodId} {args : Array Value} {below : List Frame} {meth : Method} {c : Code} {H : Heap} {locs : List Loc} {cells slots : Nat} {cc : ByteArray} {pc nL : Nat} {ls : Array Slot} {rest : List Value} {G : gG} {S0 S : gm_S} {own : String} {ret : Option FieldType} {d0 index fu : Nat} {x0 : Option Nat} {k : gm_S → gR} {r : Outcome × gm_S} (cx : gx_cx p l s m args meth c G own cc nL ret) (hex : ∀ x ∈ c.exceptionTable.toList, covers x pc = false) (hI : gw_I G S0 S H locs cells slots) (hl : gl_M own index yX3_init args s) (hlv : ls.size = nL) (hrest : (rest.map fun v => v.category).sum ≤ 8) (hD : 12 ≤ d0) (hdg : decode cc pc = .ok (.invokespecial index, 3)) {b : Nat} (hat : g_at S x0 3 = some b) (h : gz_cV (F_X3_init fu x0 S) k = some r)
    (kk : ∀ (z : gm_S), k z = some r → ∀ (H : Heap) (locs : List Loc) (cells slots : Nat), gw_I G S0 z H locs cells slots → W p l e (gx_rm d0 S0) s m args below meth c H locs cells slots (gx_MQ below G S0 r.2 r.1 s) (F0 m (pc + 3) ls rest)) : W p l e (gx_rm d0 S0) s m args below meth c H locs cells slots (gx_MQ below G S0 r.2 r.1 s) (F0 m pc ls (va_rf x0 :: rest)) := by
  obtain ⟨rfl, ht⟩ := g_at_s hat
  have hts := cx.2.2.2.2.1
  have hK := cx.2.2.2.2.2.1
  exact gz_goV (d := d0 - 1) (fun S => S) cx hex hI hlv hrest (by omega) (Nat.le_of_ble_eq_true rfl) (gz_ws (lw_meth q152) hts) (hts _ q74) (gb_rawI (As := []) cx hl (hts _ q151) (hts _ q152) hy_X3_init rfl rfl rfl hdg) (fun o S2 e => M_X3_init (x0 := some b) cx.2.2.2.2.2.2.2.2 (by omega) e) h kk
abbrev B_X1_init (l : Launch) (d0 : Nat) (G : gG) (S0 : gm_S) : Nat → List (Nat × Value) → List Value → gm_S → Outcome → gm_S → Prop := gz_B l RX1 "<init>" cX1_init 1 (Option.none : Option Jvm.ClassFile.FieldType) [] d0 G S0
theorem T_X1_init {l : Launch} {G : gG} {S0 : gm_S} {d0 fu : Nat} {r : Outcome × gm_S} (hD : 12 ≤ d0) {x0 : Option Nat} {S : gm_S} (h : F_X1_init fu x0 S = some r) : B_X1_init l d0 G S0 0 [(0, va_rf x0)] [] S r.1 r.2 := by
  unfold F_X1_init at h
  intro p e s m args below meth c H locs cells slots ls cx hnm hex hI hl
  have hx := cx.1
  have hb := cx.2.1
  have hown := cx.2.2.2.1
  have hts := cx.2.2.2.2.1
  have hK := cx.2.2.2.2.2.1
  refine gr_aload_n hx hb x0 dX1_init_0 rfl (lv_at hl 0 rfl) ?_
  obtain ⟨a1, e1, h⟩ := gz_q_s h
  refine gz_objI cx hl.1 (hts _ q107) (gz_cs (Nat.le_of_ble_eq_true rfl)) (by omega) e1 dX1_init_1 ?_
  refine gr_aload_n hx hb x0 dX1_init_4 rfl (lv_at hl 0 rfl) ?_
  obtain ⟨q2, e2, h⟩ := g_bind h
  refine gr_fnew cx hI (t := 2) (a := q2.1) (S2 := q2.2) e2 rfl (hts _ q110) (hts _ q111) (hts _ q73) dX1_init_5 (fun H cells slots hI => ?_)
  refine lv_dup hx hb dX1_init_8 (gl_cat (some q2.1)) ?_
  obtain ⟨a3, t3, h⟩ := gz_q_s h
  refine C_X2_init cx (gz_nh hex) hI (Or.inr ⟨_, gk_w hK q112 rfl⟩) hl.1 (gz_cs (Nat.le_of_ble_eq_true rfl)) (by omega) dX1_init_9 t3 h (fun S3 h H locs cells slots hI => ?_)
  obtain ⟨S4, e4, h⟩ := g_bind h
  refine gr_putR cx hI e4 rfl rfl rfl (Or.inl (hts _ q231)) (Or.inr ⟨hnm, rfl⟩) dX1_init_12 (fun H locs hI => ?_)
  refine gr_aload_n hx hb x0 dX1_init_15 rfl (lv_at hl 0 rfl) ?_
  obtain ⟨q5, e5, h⟩ := g_bind h
  refine gr_fnew cx hI (t := 3) (a := q5.1) (S2 := q5.2) e5 rfl (hts _ q148) (hts _ q149) (hts _ q74) dX1_init_16 (fun H cells slots hI => ?_)
  refine lv_dup hx hb dX1_init_19 (gl_cat (some q5.1)) ?_
  obtain ⟨a6, t6, h⟩ := gz_q_s h
  refine C_X3_init cx (gz_nh hex) hI (Or.inr ⟨_, gk_w hK q150 rfl⟩) hl.1 (gz_cs (Nat.le_of_ble_eq_true rfl)) (by omega) dX1_init_20 t6 h (fun S6 h H locs cells slots hI => ?_)
  obtain ⟨S7, e7, h⟩ := g_bind h
  refine gr_putR cx hI e7 rfl rfl rfl (Or.inl (hts _ q232)) (Or.inr ⟨hnm, rfl⟩) dX1_init_23 (fun H locs hI => ?_)
  refine gr_aload_n hx hb x0 dX1_init_26 rfl (lv_at hl 0 rfl) ?_
  refine lv_bipush hx hb dX1_init_27 gz_bp_16 ?_
  obtain ⟨q8, e8, h⟩ := g_bind h
  refine gr_fnewa cx hI (t := 0) (a := q8.1) (S2 := q8.2) e8 rfl (by decide) (hts _ q147) dX1_init_29 (fun H cells slots hI => ?_)
  obtain ⟨S9, e9, h⟩ := g_bind h
  refine gr_putR cx hI e9 rfl rfl rfl (Or.inl (hts _ q233)) (Or.inr ⟨hnm, rfl⟩) dX1_init_31 (fun H locs hI => ?_)
  refine gr_aload_n hx hb x0 dX1_init_34 rfl (lv_at hl 0 rfl) ?_
  refine lv_iconst hx hb dX1_init_35 gz_ic_m1 ?_
  obtain ⟨S10, e10, h⟩ := g_bind h
  refine gr_putI cx hI e10 rfl rfl rfl (Or.inl (hts _ q234)) (Or.inl rfl) dX1_init_36 (fun H locs hI => ?_)
  cases h
  exact gr_vret cx hI dX1_init_39
theorem M_X1_init {l : Launch} {G : gG} {fu d0 : Nat} (hfl : l.flags = flags0) (hD : 12 ≤ d0) {x0 : Option Nat} {S : gm_S} {o : Outcome} {S2 : gm_S} (h : F_X1_init fu x0 S = some (o, S2)) : gx_Met l yX1_init (ws_ yX1_init cX1_init 1 (Option.none : Option Jvm.ClassFile.FieldType)) d0 G S [va_rf x0] o S2 := by
  refine gx_of hfl (by decide) (fun p e s m below meth c cx hnm hex hI => ?_)
  rw [lg_entry_eq]
  cases x0 <;> exact T_X1_init (r := (o, S2)) hD h p e s m _ below meth c _ _ _ _ _ cx hnm (gz_nh0 hex) hI (lv_entry _ (Nat.le_of_ble_eq_true rfl))
abbrev B_X1_place (l : Launch) (d0 : Nat) (G : gG) (S0 : gm_S) : Nat → List (Nat × Value) → List Value → gm_S → Outcome → gm_S → Prop := gz_B l RX1 "place" cX1_place 1 (Option.some Jvm.ClassFile.FieldType.int) [] d0 G S0
theorem T_X1_place {l : Launch} {G : gG} {S0 : gm_S} {d0 fu : Nat} {r : Outcome × gm_S} (hD : 2 ≤ d0) {x0 : Option Nat} {S : gm_S} (h : F_X1_place fu x0 S = some r) : B_X1_place l d0 G S0 0 [(0, va_rf x0)] [] S r.1 r.2 := by
  unfold F_X1_place at h
  intro p e s m args below meth c H locs cells slots ls cx hnm hex hI hl
  have hx := cx.1
  have hb := cx.2.1
  have hown := cx.2.2.2.1
  have hts := cx.2.2.2.2.1
  have hK := cx.2.2.2.2.2.1
  refine gr_aload_n hx hb x0 dX1_place_0 rfl (lv_at hl 0 rfl) ?_
  obtain ⟨v1, e1, h⟩ := g_bind h
  refine gr_getI cx hI e1 rfl (fun _ => rfl) rfl (Or.inl (hts _ q234)) dX1_place_1 ?_
  cases h
  exact gr_iret cx hI dX1_place_4
theorem M_X1_place {l : Launch} {G : gG} {fu d0 : Nat} (hfl : l.flags = flags0) (hD : 2 ≤ d0) {x0 : Option Nat} {S : gm_S} {o : Outcome} {S2 : gm_S} (h : F_X1_place fu x0 S = some (o, S2)) : gx_Met l yX1_place (ws_ yX1_place cX1_place 1 (Option.some Jvm.ClassFile.FieldType.int)) d0 G S [va_rf x0] o S2 := by
  refine gx_of hfl (by decide) (fun p e s m below meth c cx hnm hex hI => ?_)
  rw [lg_entry_eq]
  cases x0 <;> exact T_X1_place (r := (o, S2)) hD h p e s m _ below meth c _ _ _ _ _ cx hnm (gz_nh0 hex) hI (lv_entry _ (Nat.le_of_ble_eq_true rfl))
abbrev B_X1_runs (l : Launch) (d0 : Nat) (G : gG) (S0 : gm_S) : Nat → List (Nat × Value) → List Value → gm_S → Outcome → gm_S → Prop := gz_B l RX1 "runs" cX1_runs 1 (Option.some Jvm.ClassFile.FieldType.boolean) [] d0 G S0
theorem T_X1_runs {l : Launch} {G : gG} {S0 : gm_S} {d0 fu : Nat} {r : Outcome × gm_S} (hD : 2 ≤ d0) {x0 : Option Nat} {S : gm_S} (h : F_X1_runs fu x0 S = some r) : B_X1_runs l d0 G S0 0 [(0, va_rf x0)] [] S r.1 r.2 := by
  unfold F_X1_runs at h
  intro p e s m args below meth c H locs cells slots ls cx hnm hex hI hl
  have hx := cx.1
  have hb := cx.2.1
  have hown := cx.2.2.2.1
  have hts := cx.2.2.2.2.1
  have hK := cx.2.2.2.2.2.1
  refine gr_aload_n hx hb x0 dX1_runs_0 rfl (lv_at hl 0 rfl) ?_
  obtain ⟨v1, e1, h⟩ := g_bind h
  refine gr_getR cx hI e1 rfl (fun _ => rfl) rfl (Or.inl (hts _ q232)) dX1_runs_1 ?_
  obtain ⟨v2, e2, h⟩ := g_bind h
  refine gr_getI cx hI e2 rfl (fun _ => rfl) rfl (Or.inr ⟨_, gk_w hK q183 rfl⟩) dX1_runs_4 ?_
  obtain ⟨hz, h⟩ := g_ifs h
  cases h
  exact gr_zret cx hz hI dX1_runs_7
theorem M_X1_runs {l : Launch} {G : gG} {fu d0 : Nat} (hfl : l.flags = flags0) (hD : 2 ≤ d0) {x0 : Option Nat} {S : gm_S} {o : Outcome} {S2 : gm_S} (h : F_X1_runs fu x0 S = some (o, S2)) : gx_Met l yX1_runs (ws_ yX1_runs cX1_runs 1 (Option.some Jvm.ClassFile.FieldType.boolean)) d0 G S [va_rf x0] o S2 := by
  refine gx_of hfl (by decide) (fun p e s m below meth c cx hnm hex hI => ?_)
  rw [lg_entry_eq]
  cases x0 <;> exact T_X1_runs (r := (o, S2)) hD h p e s m _ below meth c _ _ _ _ _ cx hnm (gz_nh0 hex) hI (lv_entry _ (Nat.le_of_ble_eq_true rfl))
abbrev B_X1_sent (l : Launch) (d0 : Nat) (G : gG) (S0 : gm_S) : Nat → List (Nat × Value) → List Value → gm_S → Outcome → gm_S → Prop := gz_B l RX1 "sent" cX1_sent 1 (Option.some Jvm.ClassFile.FieldType.int) [] d0 G S0
theorem T_X1_sent {l : Launch} {G : gG} {S0 : gm_S} {d0 fu : Nat} {r : Outcome × gm_S} (hD : 11 ≤ d0) {x0 : Option Nat} {S : gm_S} (h : F_X1_sent fu x0 S = some r) : B_X1_sent l d0 G S0 0 [(0, va_rf x0)] [] S r.1 r.2 := by
  unfold F_X1_sent at h
  intro p e s m args below meth c H locs cells slots ls cx hnm hex hI hl
  have hx := cx.1
  have hb := cx.2.1
  have hown := cx.2.2.2.1
  have hts := cx.2.2.2.2.1
  have hK := cx.2.2.2.2.2.1
  refine gr_aload_n hx hb x0 dX1_sent_0 rfl (lv_at hl 0 rfl) ?_
  obtain ⟨v1, e1, h⟩ := g_bind h
  refine gr_getR cx hI e1 rfl (fun _ => rfl) rfl (Or.inl (hts _ q232)) dX1_sent_1 ?_
  obtain ⟨v2, e2, h⟩ := g_bind h
  refine gr_getR cx hI e2 rfl (fun _ => rfl) rfl (Or.inr ⟨_, gk_w hK q191 rfl⟩) dX1_sent_4 ?_
  obtain ⟨v3, e3, h⟩ := g_bind h
  refine gr_lsize cx (gz_nh hex) hI (Or.inl (hts _ q298)) hl.1 (gz_cs (Nat.le_of_ble_eq_true rfl)) (by omega) dX1_sent_7 e3 (fun H locs cells slots hI => ?_)
  cases h
  exact gr_iret cx hI dX1_sent_10
theorem M_X1_sent {l : Launch} {G : gG} {fu d0 : Nat} (hfl : l.flags = flags0) (hD : 11 ≤ d0) {x0 : Option Nat} {S : gm_S} {o : Outcome} {S2 : gm_S} (h : F_X1_sent fu x0 S = some (o, S2)) : gx_Met l yX1_sent (ws_ yX1_sent cX1_sent 1 (Option.some Jvm.ClassFile.FieldType.int)) d0 G S [va_rf x0] o S2 := by
  refine gx_of hfl (by decide) (fun p e s m below meth c cx hnm hex hI => ?_)
  rw [lg_entry_eq]
  cases x0 <;> exact T_X1_sent (r := (o, S2)) hD h p e s m _ below meth c _ _ _ _ _ cx hnm (gz_nh0 hex) hI (lv_entry _ (Nat.le_of_ble_eq_true rfl))
abbrev B_X1_trace (l : Launch) (d0 : Nat) (G : gG) (S0 : gm_S) : Nat → List (Nat × Value) → List Value → gm_S → Outcome → gm_S → Prop := gz_B l RX1 "trace" cX1_trace 2 (Option.some Jvm.ClassFile.FieldType.int) [] d0 G S0
theorem T_X1_trace {l : Launch} {G : gG} {S0 : gm_S} {d0 fu : Nat} {r : Outcome × gm_S} (hD : 2 ≤ d0) {x0 : Option Nat} {x1 : Int32} {S : gm_S} (h : F_X1_trace fu x0 x1 S = some r) : B_X1_trace l d0 G S0 0 [(0, va_rf x0), (1, .int x1)] [] S r.1 r.2 := by
  unfold F_X1_trace at h
  intro p e s m args below meth c H locs cells slots ls cx hnm hex hI hl
  have hx := cx.1
  have hb := cx.2.1
  have hown := cx.2.2.2.1
  have hts := cx.2.2.2.2.1
  have hK := cx.2.2.2.2.2.1
  refine lv_iload_n hx hb dX1_trace_0 rfl (lv_at hl 1 rfl) ?_
  refine lv_if_lt (tgt := 15) hx hb dX1_trace_1 rfl (fun hc => ?_) (fun hc => ?_)
  · have h := gz_t h hc
    refine lv_iconst hx hb dX1_trace_15 gz_ic_0 ?_
    refine lv_goto (tgt := 28) hx hb dX1_trace_16 rfl ?_
    cases h
    exact gr_iret cx hI dX1_trace_28
  · have h := gz_f h hc
    refine lv_iload_n hx hb dX1_trace_4 rfl (lv_at hl 1 rfl) ?_
    refine gr_aload_n hx hb x0 dX1_trace_5 rfl (lv_at hl 0 rfl) ?_
    obtain ⟨v1, e1, h⟩ := g_bind h
    refine gr_getR cx hI e1 rfl (fun _ => rfl) rfl (Or.inl (hts _ q232)) dX1_trace_6 ?_
    obtain ⟨v2, e2, h⟩ := g_bind h
    refine gr_getI cx hI e2 rfl (fun _ => rfl) rfl (Or.inr ⟨_, gk_w hK q196 rfl⟩) dX1_trace_9 ?_
    refine lv_icmp_lt (tgt := 19) hx hb dX1_trace_12 rfl (fun hc => ?_) (fun hc => ?_)
    · have h := gz_t h hc
      refine gr_aload_n hx hb x0 dX1_trace_19 rfl (lv_at hl 0 rfl) ?_
      obtain ⟨v3, e3, h⟩ := g_bind h
      refine gr_getR cx hI e3 rfl (fun _ => rfl) rfl (Or.inl (hts _ q232)) dX1_trace_20 ?_
      obtain ⟨v4, e4, h⟩ := g_bind h
      refine gr_getR cx hI e4 rfl (fun _ => rfl) rfl (Or.inr ⟨_, gk_w hK q194 rfl⟩) dX1_trace_23 ?_
      refine lv_iload_n hx hb dX1_trace_26 rfl (lv_at hl 1 rfl) ?_
      obtain ⟨v5, e5, h⟩ := g_bind h
      refine gr_iald cx hI e5 dX1_trace_27 ?_
      cases h
      exact gr_iret cx hI dX1_trace_28
    · have h := gz_f h hc
      refine lv_iconst hx hb dX1_trace_15 gz_ic_0 ?_
      refine lv_goto (tgt := 28) hx hb dX1_trace_16 rfl ?_
      cases h
      exact gr_iret cx hI dX1_trace_28
theorem M_X1_trace {l : Launch} {G : gG} {fu d0 : Nat} (hfl : l.flags = flags0) (hD : 2 ≤ d0) {x0 : Option Nat} {x1 : Int32} {S : gm_S} {o : Outcome} {S2 : gm_S} (h : F_X1_trace fu x0 x1 S = some (o, S2)) : gx_Met l yX1_trace (ws_ yX1_trace cX1_trace 2 (Option.some Jvm.ClassFile.FieldType.int)) d0 G S [va_rf x0, .int x1] o S2 := by
  refine gx_of hfl (by decide) (fun p e s m below meth c cx hnm hex hI => ?_)
  rw [lg_entry_eq]
  cases x0 <;> exact T_X1_trace (r := (o, S2)) hD h p e s m _ below meth c _ _ _ _ _ cx hnm (gz_nh0 hex) hI (lv_entry _ (Nat.le_of_ble_eq_true rfl))
abbrev B_X1_type (l : Launch) (d0 : Nat) (G : gG) (S0 : gm_S) : Nat → List (Nat × Value) → List Value → gm_S → Outcome → gm_S → Prop := gz_B l RX1 "type" cX1_type 2 (Option.some Jvm.ClassFile.FieldType.boolean) [] d0 G S0
theorem T_X1_type {l : Launch} {G : gG} {S0 : gm_S} {d0 fu : Nat} {r : Outcome × gm_S} (hD : 2 ≤ d0) {x0 : Option Nat} {x1 : Int32} {S : gm_S} (h : F_X1_type fu x0 x1 S = some r) : B_X1_type l d0 G S0 0 [(0, va_rf x0), (1, .int x1)] [] S r.1 r.2 := by
  unfold F_X1_type at h
  intro p e s m args below meth c H locs cells slots ls cx hnm hex hI hl
  have hx := cx.1
  have hb := cx.2.1
  have hown := cx.2.2.2.1
  have hts := cx.2.2.2.2.1
  have hK := cx.2.2.2.2.2.1
  refine lv_iload_n hx hb dX1_type_0 rfl (lv_at hl 1 rfl) ?_
  refine lv_bipush hx hb dX1_type_1 gz_bp_32 ?_
  refine lv_icmp_lt (tgt := 22) hx hb dX1_type_3 rfl (fun hc => ?_) (fun hc => ?_)
  · have h := gz_t h hc
    refine lv_iconst hx hb dX1_type_22 gz_ic_0 ?_
    obtain ⟨hz, h⟩ := g_ifs h
    cases h
    exact gr_zret cx hz hI dX1_type_23
  · have h := gz_f h hc
    refine lv_iload_n hx hb dX1_type_6 rfl (lv_at hl 1 rfl) ?_
    refine lv_bipush hx hb dX1_type_7 gz_bp_126 ?_
    refine lv_icmp_gt (tgt := 22) hx hb dX1_type_9 rfl (fun hc => ?_) (fun hc => ?_)
    · have h := gz_t h hc
      refine lv_iconst hx hb dX1_type_22 gz_ic_0 ?_
      obtain ⟨hz, h⟩ := g_ifs h
      cases h
      exact gr_zret cx hz hI dX1_type_23
    · have h := gz_f h hc
      refine gr_aload_n hx hb x0 dX1_type_12 rfl (lv_at hl 0 rfl) ?_
      obtain ⟨v1, e1, h⟩ := g_bind h
      refine gr_getI cx hI e1 rfl (fun _ => rfl) rfl (Or.inl (hts _ q235)) dX1_type_13 ?_
      refine lv_sipush hx hb dX1_type_16 gz_sp_160 ?_
      refine lv_icmp_ne (tgt := 24) hx hb dX1_type_19 rfl (fun hc => ?_) (fun hc => ?_)
      · have h := gz_f h hc
        refine gr_aload_n hx hb x0 dX1_type_24 rfl (lv_at hl 0 rfl) ?_
        refine lv_dup hx hb dX1_type_25 (gl_cat x0) ?_
        obtain ⟨v2, e2, h⟩ := g_bind h
        refine gr_getI cx hI e2 rfl (fun _ => rfl) rfl (Or.inl (hts _ q235)) dX1_type_26 ?_
        refine lv_iconst hx hb dX1_type_29 gz_ic_1 ?_
        refine lv_iadd hx hb dX1_type_30 ?_
        obtain ⟨S3, e3, h⟩ := g_bind h
        refine gr_putI cx hI e3 rfl rfl rfl (Or.inl (hts _ q235)) (Or.inl rfl) dX1_type_31 (fun H locs hI => ?_)
        refine lv_iload_n hx hb dX1_type_34 rfl (lv_at hl 1 rfl) ?_
        refine lv_bipush hx hb dX1_type_35 gz_bp_32 ?_
        refine lv_icmp_eq (tgt := 63) hx hb dX1_type_37 rfl (fun hc => ?_) (fun hc => ?_)
        · have h := gz_t h hc
          refine lv_iconst hx hb dX1_type_63 gz_ic_1 ?_
          obtain ⟨hz, h⟩ := g_ifs h
          cases h
          exact gr_zret cx hz hI dX1_type_64
        · have h := gz_f h hc
          refine gr_aload_n hx hb x0 dX1_type_40 rfl (lv_at hl 0 rfl) ?_
          obtain ⟨v4, e4, h⟩ := g_bind h
          refine gr_getR cx hI e4 rfl (fun _ => rfl) rfl (Or.inl (hts _ q231)) dX1_type_41 ?_
          obtain ⟨v5, e5, h⟩ := g_bind h
          refine gr_getR cx hI e5 rfl (fun _ => rfl) rfl (Or.inr ⟨_, gk_w hK q117 rfl⟩) dX1_type_44 ?_
          refine gr_aload_n hx hb x0 dX1_type_47 rfl (lv_at hl 0 rfl) ?_
          obtain ⟨v6, e6, h⟩ := g_bind h
          refine gr_getR cx hI e6 rfl (fun _ => rfl) rfl (Or.inl (hts _ q231)) dX1_type_48 ?_
          refine lv_dup hx hb dX1_type_51 (gl_cat v6) ?_
          obtain ⟨v7, e7, h⟩ := g_bind h
          refine gr_getI cx hI e7 rfl (fun _ => rfl) rfl (Or.inr ⟨_, gk_w hK q119 rfl⟩) dX1_type_52 ?_
          refine lv_dup_x1 hx hb dX1_type_55 rfl (gl_cat v6) ?_
          refine lv_iconst hx hb dX1_type_56 gz_ic_1 ?_
          refine lv_iadd hx hb dX1_type_57 ?_
          obtain ⟨S8, e8, h⟩ := g_bind h
          refine gr_putI cx hI e8 rfl rfl rfl (Or.inr ⟨_, gk_w hK q119 rfl⟩) (Or.inl rfl) dX1_type_58 (fun H locs hI => ?_)
          refine lv_iload_n hx hb dX1_type_61 rfl (lv_at hl 1 rfl) ?_
          obtain ⟨S9, e9, h⟩ := g_bind h
          refine gr_cast cx hI e9 dX1_type_62 (fun H locs hI => ?_)
          refine lv_iconst hx hb dX1_type_63 gz_ic_1 ?_
          obtain ⟨hz, h⟩ := g_ifs h
          cases h
          exact gr_zret cx hz hI dX1_type_64
      · have h := gz_t h hc
        refine lv_iconst hx hb dX1_type_22 gz_ic_0 ?_
        obtain ⟨hz, h⟩ := g_ifs h
        cases h
        exact gr_zret cx hz hI dX1_type_23
theorem M_X1_type {l : Launch} {G : gG} {fu d0 : Nat} (hfl : l.flags = flags0) (hD : 2 ≤ d0) {x0 : Option Nat} {x1 : Int32} {S : gm_S} {o : Outcome} {S2 : gm_S} (h : F_X1_type fu x0 x1 S = some (o, S2)) : gx_Met l yX1_type (ws_ yX1_type cX1_type 2 (Option.some Jvm.ClassFile.FieldType.boolean)) d0 G S [va_rf x0, .int x1] o S2 := by
  refine gx_of hfl (by decide) (fun p e s m below meth c cx hnm hex hI => ?_)
  rw [lg_entry_eq]
  cases x0 <;> exact T_X1_type (r := (o, S2)) hD h p e s m _ below meth c _ _ _ _ _ cx hnm (gz_nh0 hex) hI (lv_entry _ (Nat.le_of_ble_eq_true rfl))
abbrev B_X1_variable (l : Launch) (d0 : Nat) (G : gG) (S0 : gm_S) : Nat → List (Nat × Value) → List Value → gm_S → Outcome → gm_S → Prop := gz_B l RX1 "variable" cX1_variable 2 (Option.some Jvm.ClassFile.FieldType.double) [] d0 G S0
theorem T_X1_variable {l : Launch} {G : gG} {S0 : gm_S} {d0 fu : Nat} {r : Outcome × gm_S} (hD : 2 ≤ d0) {x0 : Option Nat} {x1 : Int32} {S : gm_S} (h : F_X1_variable fu x0 x1 S = some r) : B_X1_variable l d0 G S0 0 [(0, va_rf x0), (1, .int x1)] [] S r.1 r.2 := by
  unfold F_X1_variable at h
  intro p e s m args below meth c H locs cells slots ls cx hnm hex hI hl
  have hx := cx.1
  have hb := cx.2.1
  have hown := cx.2.2.2.1
  have hts := cx.2.2.2.2.1
  have hK := cx.2.2.2.2.2.1
  refine lv_iload_n hx hb dX1_variable_0 rfl (lv_at hl 1 rfl) ?_
  refine lv_bipush hx hb dX1_variable_1 gz_bp_117 ?_
  refine lv_icmp_lt (tgt := 12) hx hb dX1_variable_3 rfl (fun hc => ?_) (fun hc => ?_)
  · have h := gz_t h hc
    refine lv_dconst0 hx hb dX1_variable_12 ?_
    refine lv_goto (tgt := 28) hx hb dX1_variable_13 rfl ?_
    cases h
    exact gr_dret cx hI dX1_variable_28
  · have h := gz_f h hc
    refine lv_iload_n hx hb dX1_variable_6 rfl (lv_at hl 1 rfl) ?_
    refine lv_bipush hx hb dX1_variable_7 gz_bp_122 ?_
    refine lv_icmp_le (tgt := 16) hx hb dX1_variable_9 rfl (fun hc => ?_) (fun hc => ?_)
    · have h := gz_t h hc
      refine gr_aload_n hx hb x0 dX1_variable_16 rfl (lv_at hl 0 rfl) ?_
      obtain ⟨v1, e1, h⟩ := g_bind h
      refine gr_getR cx hI e1 rfl (fun _ => rfl) rfl (Or.inl (hts _ q232)) dX1_variable_17 ?_
      obtain ⟨v2, e2, h⟩ := g_bind h
      refine gr_getR cx hI e2 rfl (fun _ => rfl) rfl (Or.inr ⟨_, gk_w hK q186 rfl⟩) dX1_variable_20 ?_
      refine lv_iload_n hx hb dX1_variable_23 rfl (lv_at hl 1 rfl) ?_
      refine lv_bipush hx hb dX1_variable_24 gz_bp_117 ?_
      refine lv_isub hx hb dX1_variable_26 ?_
      obtain ⟨v3, e3, h⟩ := g_bind h
      refine gr_dald cx hI e3 dX1_variable_27 ?_
      cases h
      exact gr_dret cx hI dX1_variable_28
    · have h := gz_f h hc
      refine lv_dconst0 hx hb dX1_variable_12 ?_
      refine lv_goto (tgt := 28) hx hb dX1_variable_13 rfl ?_
      cases h
      exact gr_dret cx hI dX1_variable_28
theorem M_X1_variable {l : Launch} {G : gG} {fu d0 : Nat} (hfl : l.flags = flags0) (hD : 2 ≤ d0) {x0 : Option Nat} {x1 : Int32} {S : gm_S} {o : Outcome} {S2 : gm_S} (h : F_X1_variable fu x0 x1 S = some (o, S2)) : gx_Met l yX1_variable (ws_ yX1_variable cX1_variable 2 (Option.some Jvm.ClassFile.FieldType.double)) d0 G S [va_rf x0, .int x1] o S2 := by
  refine gx_of hfl (by decide) (fun p e s m below meth c cx hnm hex hI => ?_)
  rw [lg_entry_eq]
  cases x0 <;> exact T_X1_variable (r := (o, S2)) hD h p e s m _ below meth c _ _ _ _ _ cx hnm (gz_nh0 hex) hI (lv_entry _ (Nat.le_of_ble_eq_true rfl))
abbrev B_X4_doAction (l : Launch) (d0 : Nat) (G : gG) (S0 : gm_S) : Nat → List (Nat × Value) → List Value → gm_S → Outcome → gm_S → Prop := gz_B l RX4 "doAction" cX4_doAction 9 (Option.none : Option Jvm.ClassFile.FieldType) [] d0 G S0
theorem T_X4_doAction_207 {l : Launch} {G : gG} {S0 S : gm_S} {d0 fu : Nat} {r : Outcome × gM} (hf : gg_f G = true) (hD : 2 ≤ d0) {x2 : Int32} {s0 : UInt64} {M : gM} (h : F_X4_doAction_207 fu x2 s0 M = some r) : B_X4_doAction l d0 G S0 207 [(0, va_rf (some (gg_o G))), (2, .int x2)] [.double s0] (gm_w S M) r.1 (gm_w S r.2) := by
  unfold F_X4_doAction_207 at h
  intro p e s m args below meth c H locs cells slots ls cx hnm hex hI hl
  have hx := cx.1
  have hb := cx.2.1
  have hown := cx.2.2.2.1
  have hts := cx.2.2.2.2.1
  have hK := cx.2.2.2.2.2.1
  refine gz_dstore hx hb dX4_doAction_207 hl (by decide) [0, 1] rfl (gz_con ⟨gz_ne rfl, gz_ne rfl, Or.inl (gz_ne rfl)⟩ (gz_con ⟨gz_ne rfl, gz_ne rfl, Or.inl (gz_ne rfl)⟩ gz_nil)) (fun ls hl => ?_)
  refine gr_aload_n hx hb (some (gg_o G)) dX4_doAction_209 rfl (lv_at hl 1 rfl) ?_
  refine gr_mgA cx hf hI 42 rfl rfl (Or.inl (hts _ q1034)) dX4_doAction_210 ?_
  refine lv_iload_n hx hb dX4_doAction_213 rfl (lv_at hl 2 rfl) ?_
  refine lv_bipush hx hb dX4_doAction_214 gz_bp_117 ?_
  refine lv_isub hx hb dX4_doAction_216 ?_
  refine lv_dload hx hb dX4_doAction_217 (lv_at hl 0 rfl) ?_
  refine lv_ldc2d hx hb hown (hts _ q1313) dX4_doAction_219 ?_
  refine lv_dcmp hx hb dX4_doAction_222 ?_
  refine lv_if_le (tgt := 232) hx hb dX4_doAction_223 rfl (fun hc => ?_) (fun hc => ?_)
  · have h := gz_t h hc
    refine lv_dload hx hb dX4_doAction_232 (lv_at hl 0 rfl) ?_
    refine lv_ldc2d hx hb hown (hts _ q1314) dX4_doAction_234 ?_
    refine lv_dcmp hx hb dX4_doAction_237 ?_
    refine lv_if_ge (tgt := 247) hx hb dX4_doAction_238 rfl (fun hc => ?_) (fun hc => ?_)
    · have h := gz_t h hc
      refine lv_dload hx hb dX4_doAction_247 (lv_at hl 0 rfl) ?_
      obtain ⟨M2, e2, h⟩ := g_bind h
      refine gr_mdast cx hf hI 42 rfl rfl rfl (nr_sD e2) dX4_doAction_249 (fun H locs hI => ?_)
      cases h
      exact gr_vret cx hI dX4_doAction_250
    · have h := gz_f h hc
      refine lv_ldc2d hx hb hown (hts _ q1314) dX4_doAction_241 ?_
      refine lv_goto (tgt := 249) hx hb dX4_doAction_244 rfl ?_
      obtain ⟨M3, e3, h⟩ := g_bind h
      refine gr_mdast cx hf hI 42 rfl rfl rfl (nr_sD e3) dX4_doAction_249 (fun H locs hI => ?_)
      cases h
      exact gr_vret cx hI dX4_doAction_250
  · have h := gz_f h hc
    refine lv_ldc2d hx hb hown (hts _ q1313) dX4_doAction_226 ?_
    refine lv_goto (tgt := 249) hx hb dX4_doAction_229 rfl ?_
    obtain ⟨M4, e4, h⟩ := g_bind h
    refine gr_mdast cx hf hI 42 rfl rfl rfl (nr_sD e4) dX4_doAction_249 (fun H locs hI => ?_)
    cases h
    exact gr_vret cx hI dX4_doAction_250
theorem T_X4_doAction_149 {l : Launch} {G : gG} {S0 S : gm_S} {d0 fu : Nat} {r : Outcome × gM} (hf : gg_f G = true) (hD : 2 ≤ d0) {x1 : Int32} {x2 : Int32} {x3 : UInt64} {s0 : UInt64} {M : gM} (h : F_X4_doAction_149 fu x1 x2 x3 s0 M = some r) : B_X4_doAction l d0 G S0 149 [(0, va_rf (some (gg_o G))), (1, .int x1), (2, .int x2), (3, .double x3)] [.double s0] (gm_w S M) r.1 (gm_w S r.2) := by
  unfold F_X4_doAction_149 at h
  intro p e s m args below meth c H locs cells slots ls cx hnm hex hI hl
  have hx := cx.1
  have hb := cx.2.1
  have hown := cx.2.2.2.1
  have hts := cx.2.2.2.2.1
  have hK := cx.2.2.2.2.2.1
  refine gz_dstore hx hb dX4_doAction_149 hl (by decide) [0, 1, 2, 3] rfl (gz_con ⟨gz_ne rfl, gz_ne rfl, Or.inl (gz_ne rfl)⟩ (gz_con ⟨gz_ne rfl, gz_ne rfl, Or.inl (gz_ne rfl)⟩ (gz_con ⟨gz_ne rfl, gz_ne rfl, Or.inl (gz_ne rfl)⟩ (gz_con ⟨gz_ne rfl, gz_ne rfl, Or.inl (gz_ne rfl)⟩ gz_nil)))) (fun ls hl => ?_)
  refine gr_aload_n hx hb (some (gg_o G)) dX4_doAction_151 rfl (lv_at hl 1 rfl) ?_
  refine gr_mgA cx hf hI 35 rfl rfl (Or.inl (hts _ q1027)) dX4_doAction_152 ?_
  refine lv_iload_n hx hb dX4_doAction_155 rfl (lv_at hl 2 rfl) ?_
  obtain ⟨v2, e2, h⟩ := g_bind h
  refine gr_miald cx hf hI 35 rfl rfl rfl (nr_aI e2) dX4_doAction_156 ?_
  refine lv_bipush hx hb dX4_doAction_157 gz_bp_43 ?_
  refine lv_icmp_ne (tgt := 169) hx hb dX4_doAction_159 rfl (fun hc => ?_) (fun hc => ?_)
  · have h := gz_f h hc
    refine gr_aload_n hx hb (some (gg_o G)) dX4_doAction_169 rfl (lv_at hl 1 rfl) ?_
    refine gr_mgA cx hf hI 35 rfl rfl (Or.inl (hts _ q1027)) dX4_doAction_170 ?_
    refine lv_iload_n hx hb dX4_doAction_173 rfl (lv_at hl 2 rfl) ?_
    obtain ⟨v4, e4, h⟩ := g_bind h
    refine gr_miald cx hf hI 35 rfl rfl rfl (nr_aI e4) dX4_doAction_174 ?_
    refine lv_bipush hx hb dX4_doAction_175 gz_bp_45 ?_
    refine lv_icmp_ne (tgt := 187) hx hb dX4_doAction_177 rfl (fun hc => ?_) (fun hc => ?_)
    · have h := gz_f h hc
      refine gr_aload_n hx hb (some (gg_o G)) dX4_doAction_187 rfl (lv_at hl 1 rfl) ?_
      refine gr_mgA cx hf hI 35 rfl rfl (Or.inl (hts _ q1027)) dX4_doAction_188 ?_
      refine lv_iload_n hx hb dX4_doAction_191 rfl (lv_at hl 2 rfl) ?_
      obtain ⟨v6, e6, h⟩ := g_bind h
      refine gr_miald cx hf hI 35 rfl rfl rfl (nr_aI e6) dX4_doAction_192 ?_
      refine lv_bipush hx hb dX4_doAction_193 gz_bp_42 ?_
      refine lv_icmp_ne (tgt := 205) hx hb dX4_doAction_195 rfl (fun hc => ?_) (fun hc => ?_)
      · have h := gz_f h hc
        refine lv_dload hx hb dX4_doAction_205 (lv_at hl 0 rfl) ?_
        exact T_X4_doAction_207 hf hD h p e s m args below meth c H locs cells slots ls cx hnm hex hI (lv_sub hl [1, 3] rfl)
      · have h := gz_t h hc
        refine lv_dload_n hx hb dX4_doAction_198 rfl (lv_at hl 4 rfl) ?_
        refine lv_dload hx hb dX4_doAction_199 (lv_at hl 0 rfl) ?_
        obtain ⟨v7, e7, h⟩ := g_bind h
        obtain ⟨n7, w7⟩ := g_nn_s e7
        refine lv_dmul hx hb dX4_doAction_201 n7 ?_
        rw [← w7]
        refine lv_goto (tgt := 207) hx hb dX4_doAction_202 rfl ?_
        exact T_X4_doAction_207 hf hD h p e s m args below meth c H locs cells slots ls cx hnm hex hI (lv_sub hl [1, 3] rfl)
    · have h := gz_t h hc
      refine lv_dload_n hx hb dX4_doAction_180 rfl (lv_at hl 4 rfl) ?_
      refine lv_dload hx hb dX4_doAction_181 (lv_at hl 0 rfl) ?_
      obtain ⟨v8, e8, h⟩ := g_bind h
      obtain ⟨n8, w8⟩ := g_nn_s e8
      refine lv_dsub hx hb dX4_doAction_183 n8 ?_
      rw [← w8]
      refine lv_goto (tgt := 207) hx hb dX4_doAction_184 rfl ?_
      exact T_X4_doAction_207 hf hD h p e s m args below meth c H locs cells slots ls cx hnm hex hI (lv_sub hl [1, 3] rfl)
  · have h := gz_t h hc
    refine lv_dload_n hx hb dX4_doAction_162 rfl (lv_at hl 4 rfl) ?_
    refine lv_dload hx hb dX4_doAction_163 (lv_at hl 0 rfl) ?_
    obtain ⟨v9, e9, h⟩ := g_bind h
    obtain ⟨n9, w9⟩ := g_nn_s e9
    refine lv_dadd hx hb dX4_doAction_165 n9 ?_
    rw [← w9]
    refine lv_goto (tgt := 207) hx hb dX4_doAction_166 rfl ?_
    exact T_X4_doAction_207 hf hD h p e s m args below meth c H locs cells slots ls cx hnm hex hI (lv_sub hl [1, 3] rfl)
theorem T_X4_doAction_51 {l : Launch} {G : gG} {S0 S : gm_S} {d0 fu : Nat} {r : Outcome × gM} (hf : gg_f G = true) (hD : 2 ≤ d0) {x1 : Int32} {x2 : Int32} {M : gM} (h : F_X4_doAction_51 fu x1 x2 M = some r) : B_X4_doAction l d0 G S0 51 [(0, va_rf (some (gg_o G))), (1, .int x1), (2, .int x2)] [] (gm_w S M) r.1 (gm_w S r.2) := by
  unfold F_X4_doAction_51 at h
  intro p e s m args below meth c H locs cells slots ls cx hnm hex hI hl
  have hx := cx.1
  have hb := cx.2.1
  have hown := cx.2.2.2.1
  have hts := cx.2.2.2.2.1
  have hK := cx.2.2.2.2.2.1
  refine gr_aload_n hx hb (some (gg_o G)) dX4_doAction_51 rfl (lv_at hl 0 rfl) ?_
  refine gr_mgA cx hf hI 35 rfl rfl (Or.inl (hts _ q1027)) dX4_doAction_52 ?_
  refine lv_iload_n hx hb dX4_doAction_55 rfl (lv_at hl 1 rfl) ?_
  obtain ⟨v2, e2, h⟩ := g_bind h
  refine gr_miald cx hf hI 35 rfl rfl rfl (nr_aI e2) dX4_doAction_56 ?_
  refine lv_if_le (tgt := 109) hx hb dX4_doAction_57 rfl (fun hc => ?_) (fun hc => ?_)
  · have h := gz_t h hc
    cases h
    exact gr_vret cx hI dX4_doAction_109
  · have h := gz_f h hc
    refine gr_aload_n hx hb (some (gg_o G)) dX4_doAction_60 rfl (lv_at hl 0 rfl) ?_
    refine nr_gI cx hf hI 47 rfl (fun _ => rfl) rfl (Or.inl (hts _ q1039)) dX4_doAction_61 ?_
    refine lv_bipush hx hb dX4_doAction_64 gz_bp_8 ?_
    refine lv_icmp_ge (tgt := 109) hx hb dX4_doAction_66 rfl (fun hc => ?_) (fun hc => ?_)
    · have h := gz_t h hc
      cases h
      exact gr_vret cx hI dX4_doAction_109
    · have h := gz_f h hc
      refine gr_aload_n hx hb (some (gg_o G)) dX4_doAction_69 rfl (lv_at hl 0 rfl) ?_
      refine gr_mgA cx hf hI 48 rfl rfl (Or.inl (hts _ q1040)) dX4_doAction_70 ?_
      refine gr_aload_n hx hb (some (gg_o G)) dX4_doAction_73 rfl (lv_at hl 0 rfl) ?_
      refine nr_gI cx hf hI 47 rfl (fun _ => rfl) rfl (Or.inl (hts _ q1039)) dX4_doAction_74 ?_
      refine lv_iload_n hx hb dX4_doAction_77 rfl (lv_at hl 2 rfl) ?_
      obtain ⟨M6, e6, h⟩ := g_bind h
      refine gr_miast cx hf hI 48 rfl rfl rfl (nr_sI e6) dX4_doAction_78 (fun H locs hI => ?_)
      refine gr_aload_n hx hb (some (gg_o G)) dX4_doAction_79 rfl (lv_at hl 0 rfl) ?_
      refine gr_mgA cx hf hI 49 rfl rfl (Or.inl (hts _ q1041)) dX4_doAction_80 ?_
      refine gr_aload_n hx hb (some (gg_o G)) dX4_doAction_83 rfl (lv_at hl 0 rfl) ?_
      refine nr_gI cx hf hI 47 rfl (fun _ => rfl) rfl (Or.inl (hts _ q1039)) dX4_doAction_84 ?_
      refine gr_aload_n hx hb (some (gg_o G)) dX4_doAction_87 rfl (lv_at hl 0 rfl) ?_
      refine nr_gI cx hf hI 50 rfl (fun _ => rfl) rfl (Or.inl (hts _ q1042)) dX4_doAction_88 ?_
      refine gr_aload_n hx hb (some (gg_o G)) dX4_doAction_91 rfl (lv_at hl 0 rfl) ?_
      refine gr_mgA cx hf hI 35 rfl rfl (Or.inl (hts _ q1027)) dX4_doAction_92 ?_
      refine lv_iload_n hx hb dX4_doAction_95 rfl (lv_at hl 1 rfl) ?_
      obtain ⟨v11, e11, h⟩ := g_bind h
      refine gr_miald cx hf hI 35 rfl rfl rfl (nr_aI e11) dX4_doAction_96 ?_
      refine lv_iadd hx hb dX4_doAction_97 ?_
      obtain ⟨M12, e12, h⟩ := g_bind h
      refine gr_miast cx hf hI 49 rfl rfl rfl (nr_sI e12) dX4_doAction_98 (fun H locs hI => ?_)
      refine gr_aload_n hx hb (some (gg_o G)) dX4_doAction_99 rfl (lv_at hl 0 rfl) ?_
      refine lv_dup hx hb dX4_doAction_100 (gl_cat (some (gg_o G))) ?_
      refine nr_gI cx hf hI 47 rfl (fun _ => rfl) rfl (Or.inl (hts _ q1039)) dX4_doAction_101 ?_
      refine lv_iconst hx hb dX4_doAction_104 gz_ic_1 ?_
      refine lv_iadd hx hb dX4_doAction_105 ?_
      obtain ⟨M14, e14, h⟩ := g_bind h
      refine nr_pI cx hf hI 47 rfl rfl rfl (Or.inl (hts _ q1039)) e14 dX4_doAction_106 (fun H locs hI => ?_)
      cases h
      exact gr_vret cx hI dX4_doAction_109
theorem T_X4_doAction {l : Launch} {G : gG} {S0 S : gm_S} {d0 fu : Nat} {r : Outcome × gM} (hf : gg_f G = true) (hD : 2 ≤ d0) {x1 : Int32} {M : gM} (h : F_X4_doAction fu x1 M = some r) : B_X4_doAction l d0 G S0 0 [(0, va_rf (some (gg_o G))), (1, .int x1)] [] (gm_w S M) r.1 (gm_w S r.2) := by
  unfold F_X4_doAction at h
  intro p e s m args below meth c H locs cells slots ls cx hnm hex hI hl
  have hx := cx.1
  have hb := cx.2.1
  have hown := cx.2.2.2.1
  have hts := cx.2.2.2.2.1
  have hK := cx.2.2.2.2.2.1
  refine gr_aload_n hx hb (some (gg_o G)) dX4_doAction_0 rfl (lv_at hl 0 rfl) ?_
  refine gr_mgA cx hf hI 34 rfl rfl (Or.inl (hts _ q1026)) dX4_doAction_1 ?_
  refine lv_iload_n hx hb dX4_doAction_4 rfl (lv_at hl 1 rfl) ?_
  obtain ⟨v2, e2, h⟩ := g_bind h
  refine gr_miald cx hf hI 34 rfl rfl rfl (nr_aI e2) dX4_doAction_5 ?_
  refine gz_istore_n hx hb dX4_doAction_6 rfl hl (by decide) [0, 1] rfl (gz_con ⟨gz_ne rfl, Or.inl (gz_ne rfl)⟩ (gz_con ⟨gz_ne rfl, Or.inr rfl⟩ gz_nil)) (fun ls hl => ?_)
  refine lv_iload_n hx hb dX4_doAction_7 rfl (lv_at hl 0 rfl) ?_
  refine lv_bipush hx hb dX4_doAction_8 gz_bp_72 ?_
  refine lv_icmp_gt (tgt := 110) hx hb dX4_doAction_10 rfl (fun hc => ?_) (fun hc => ?_)
  · have h := gz_t h hc
    refine gr_aload_n hx hb (some (gg_o G)) dX4_doAction_110 rfl (lv_at hl 1 rfl) ?_
    refine gr_mgA cx hf hI 42 rfl rfl (Or.inl (hts _ q1034)) dX4_doAction_111 ?_
    refine lv_iload_n hx hb dX4_doAction_114 rfl (lv_at hl 0 rfl) ?_
    refine lv_bipush hx hb dX4_doAction_115 gz_bp_117 ?_
    refine lv_isub hx hb dX4_doAction_117 ?_
    obtain ⟨v4, e4, h⟩ := g_bind h
    refine gr_mdald cx hf hI 42 rfl rfl rfl (nr_aD e4) dX4_doAction_118 ?_
    refine gz_dstore_n hx hb dX4_doAction_119 rfl hl (by decide) [0, 1, 2] rfl (gz_con ⟨gz_ne rfl, gz_ne rfl, Or.inr rfl⟩ (gz_con ⟨gz_ne rfl, gz_ne rfl, Or.inl (gz_ne rfl)⟩ (gz_con ⟨gz_ne rfl, gz_ne rfl, Or.inl (gz_ne rfl)⟩ gz_nil))) (fun ls hl => ?_)
    refine gr_aload_n hx hb (some (gg_o G)) dX4_doAction_120 rfl (lv_at hl 2 rfl) ?_
    refine gr_mgA cx hf hI 36 rfl rfl (Or.inl (hts _ q1028)) dX4_doAction_121 ?_
    refine lv_iload_n hx hb dX4_doAction_124 rfl (lv_at hl 3 rfl) ?_
    obtain ⟨v6, e6, h⟩ := g_bind h
    refine gr_miald cx hf hI 36 rfl rfl rfl (nr_aI e6) dX4_doAction_125 ?_
    refine lv_if_lt (tgt := 143) hx hb dX4_doAction_126 rfl (fun hc => ?_) (fun hc => ?_)
    · have h := gz_t h hc
      refine gr_aload_n hx hb (some (gg_o G)) dX4_doAction_143 rfl (lv_at hl 2 rfl) ?_
      refine gr_mgA cx hf hI 37 rfl rfl (Or.inl (hts _ q1029)) dX4_doAction_144 ?_
      refine lv_iload_n hx hb dX4_doAction_147 rfl (lv_at hl 3 rfl) ?_
      obtain ⟨v8, e8, h⟩ := g_bind h
      refine gr_mdald cx hf hI 37 rfl rfl rfl (nr_aD e8) dX4_doAction_148 ?_
      exact T_X4_doAction_149 hf hD h p e s m args below meth c H locs cells slots ls cx hnm hex hI (lv_sub hl [2, 3, 1, 0] rfl)
    · have h := gz_f h hc
      refine gr_aload_n hx hb (some (gg_o G)) dX4_doAction_129 rfl (lv_at hl 2 rfl) ?_
      refine gr_mgA cx hf hI 42 rfl rfl (Or.inl (hts _ q1034)) dX4_doAction_130 ?_
      refine gr_aload_n hx hb (some (gg_o G)) dX4_doAction_133 rfl (lv_at hl 2 rfl) ?_
      refine gr_mgA cx hf hI 36 rfl rfl (Or.inl (hts _ q1028)) dX4_doAction_134 ?_
      refine lv_iload_n hx hb dX4_doAction_137 rfl (lv_at hl 3 rfl) ?_
      obtain ⟨v11, e11, h⟩ := g_bind h
      refine gr_miald cx hf hI 36 rfl rfl rfl (nr_aI e11) dX4_doAction_138 ?_
      obtain ⟨v12, e12, h⟩ := g_bind h
      refine gr_mdald cx hf hI 42 rfl rfl rfl (nr_aD e12) dX4_doAction_139 ?_
      refine lv_goto (tgt := 149) hx hb dX4_doAction_140 rfl ?_
      exact T_X4_doAction_149 hf hD h p e s m args below meth c H locs cells slots ls cx hnm hex hI (lv_sub hl [2, 3, 1, 0] rfl)
  · have h := gz_f h hc
    refine gr_aload_n hx hb (some (gg_o G)) dX4_doAction_13 rfl (lv_at hl 1 rfl) ?_
    refine gr_mgA cx hf hI 35 rfl rfl (Or.inl (hts _ q1027)) dX4_doAction_14 ?_
    refine lv_iload_n hx hb dX4_doAction_17 rfl (lv_at hl 2 rfl) ?_
    obtain ⟨v14, e14, h⟩ := g_bind h
    refine gr_miald cx hf hI 35 rfl rfl rfl (nr_aI e14) dX4_doAction_18 ?_
    refine lv_if_ne (tgt := 51) hx hb dX4_doAction_19 rfl (fun hc => ?_) (fun hc => ?_)
    · have h := gz_f h hc
      exact T_X4_doAction_51 hf hD h p e s m args below meth c H locs cells slots ls cx hnm hex hI (lv_sub hl [1, 2, 0] rfl)
    · have h := gz_t h hc
      refine gr_aload_n hx hb (some (gg_o G)) dX4_doAction_22 rfl (lv_at hl 1 rfl) ?_
      refine nr_gI cx hf hI 45 rfl (fun _ => rfl) rfl (Or.inl (hts _ q1037)) dX4_doAction_23 ?_
      refine lv_bipush hx hb dX4_doAction_26 gz_bp_10 ?_
      refine lv_icmp_ge (tgt := 51) hx hb dX4_doAction_28 rfl (fun hc => ?_) (fun hc => ?_)
      · have h := gz_t h hc
        exact T_X4_doAction_51 hf hD h p e s m args below meth c H locs cells slots ls cx hnm hex hI (lv_sub hl [1, 2, 0] rfl)
      · have h := gz_f h hc
        refine gr_aload_n hx hb (some (gg_o G)) dX4_doAction_31 rfl (lv_at hl 1 rfl) ?_
        refine gr_mgA cx hf hI 46 rfl rfl (Or.inl (hts _ q1038)) dX4_doAction_32 ?_
        refine gr_aload_n hx hb (some (gg_o G)) dX4_doAction_35 rfl (lv_at hl 1 rfl) ?_
        refine nr_gI cx hf hI 45 rfl (fun _ => rfl) rfl (Or.inl (hts _ q1037)) dX4_doAction_36 ?_
        refine lv_iload_n hx hb dX4_doAction_39 rfl (lv_at hl 0 rfl) ?_
        obtain ⟨M18, e18, h⟩ := g_bind h
        refine gr_miast cx hf hI 46 rfl rfl rfl (nr_sI e18) dX4_doAction_40 (fun H locs hI => ?_)
        refine gr_aload_n hx hb (some (gg_o G)) dX4_doAction_41 rfl (lv_at hl 1 rfl) ?_
        refine lv_dup hx hb dX4_doAction_42 (gl_cat (some (gg_o G))) ?_
        refine nr_gI cx hf hI 45 rfl (fun _ => rfl) rfl (Or.inl (hts _ q1037)) dX4_doAction_43 ?_
        refine lv_iconst hx hb dX4_doAction_46 gz_ic_1 ?_
        refine lv_iadd hx hb dX4_doAction_47 ?_
        obtain ⟨M20, e20, h⟩ := g_bind h
        refine nr_pI cx hf hI 45 rfl rfl rfl (Or.inl (hts _ q1037)) e20 dX4_doAction_48 (fun H locs hI => ?_)
        exact T_X4_doAction_51 hf hD h p e s m args below meth c H locs cells slots ls cx hnm hex hI (lv_sub hl [1, 2, 0] rfl)
theorem M_X4_doAction {l : Launch} {G : gG} {fu d0 : Nat} (hf : gg_f G = true) (hfl : l.flags = flags0) (hD : 2 ≤ d0) {x1 : Int32} {S : gm_S} {M : gM} {o : Outcome} {M2 : gM} (h : F_X4_doAction fu x1 M = some (o, M2)) : gx_Met l yX4_doAction (ws_ yX4_doAction cX4_doAction 9 (Option.none : Option Jvm.ClassFile.FieldType)) d0 G (gm_w S M) [va_rf (some (gg_o G)), .int x1] o (gm_w S M2) := by
  refine gx_of hfl (by decide) (fun p e s m below meth c cx hnm hex hI => ?_)
  rw [lg_entry_eq]
  exact T_X4_doAction (r := (o, M2)) hf hD h p e s m _ below meth c _ _ _ _ _ cx hnm (gz_nh0 hex) hI (lv_entry _ (Nat.le_of_ble_eq_true rfl))
theorem C_X4_doAction {p : Program} {l : Launch} {e : Env} {s : State} {m : MethodId} {args : Array Value} {below : List Frame} {meth : Method} {c : Code} {H : Heap} {locs : List Loc} {cells slots : Nat} {cc : ByteArray} {pc nL : Nat} {ls : Array Slot} {rest : List Value} {G : gG} {S0 S : gm_S} {own : String} {ret : Option FieldType} {d0 index fu : Nat} {M : gM} {x1 : Int32} {k : gM → gQ} {r : Outcome × gM} (hf : gg_f G = true) (cx : gx_cx p l s m args meth c G own cc nL ret) (hex : ∀ x ∈ c.exceptionTable.toList, covers x pc = false) (hI : gw_I G S0 (gm_w S M) H locs cells slots) (hl : gl_M own index yX4_doAction args s) (hlv : ls.size = nL) (hrest : (rest.map fun v => v.category).sum ≤ 8) (hD : 3 ≤ d0) (hdg : decode cc pc = .ok (.invokevirtual index, 3)) (h : gz_cV (F_X4_doAction fu x1 M) k = some r)
    (kk : ∀ (z : gM), k z = some r → ∀ (H : Heap) (locs : List Loc) (cells slots : Nat), gw_I G S0 (gm_w S z) H locs cells slots → W p l e (gx_rm d0 S0) s m args below meth c H locs cells slots (gx_MQ below G S0 (gm_w S r.2) r.1 s) (F0 m (pc + 3) ls rest)) : W p l e (gx_rm d0 S0) s m args below meth c H locs cells slots (gx_MQ below G S0 (gm_w S r.2) r.1 s) (F0 m pc ls (.int x1 :: va_rf (some (gg_o G)) :: rest)) := by
  have hts := cx.2.2.2.2.1
  have hK := cx.2.2.2.2.2.1
  exact gz_goV (d := d0 - 1) (gm_w S) cx hex hI hlv hrest (by omega) (Nat.le_of_ble_eq_true rfl) (gz_ws (lw_meth q1312) hts) (hts _ q78) (gb_rawV (As := [.int x1]) cx hl (hts _ q1311) (hts _ qs55) (gl_C.code (hts _ q1312)) hy_X4_doAction (gr_recvM hK hI.1 hf) rfl rfl hdg) (fun o S2 e => M_X4_doAction hf cx.2.2.2.2.2.2.2.2 (by omega) e) h kk
