/-! LAYER 1 (printed): contracts -/
set_option maxRecDepth 100000
abbrev B_X3_leave (l : Launch) (d0 : Nat) (G : gG) (S0 : gm_S) : Nat → List (Nat × Value) → List Value → gm_S → Outcome → gm_S → Prop := gz_B l RX3 "leave" cX3_leave 4 (Option.none : Option Jvm.ClassFile.FieldType) [] d0 G S0
theorem T_X3_leave_62 {l : Launch} {G : gG} {S0 : gm_S} {d0 fu : Nat} {r : Outcome × gm_S} (hD : 14 ≤ d0) : ∀ (n : Nat) (x0 : Option Nat) (x1 : Int32) (x2 : Int32) (S : gm_S), F_X3_leave_62 fu n x0 x1 x2 S = some r → B_X3_leave l d0 G S0 62 [(0, va_rf x0), (1, .int x1), (2, .int x2)] [] S r.1 r.2 := by
  intro n
  induction n with
  | zero => intro x0 x1 x2 S h; exact nomatch (show (none : gR) = some r from h)
  | succ n ih =>
    intro x0 x1 x2 S h
    rw [F_X3_leave_62] at h
    intro p e s m args below meth c H locs cells slots ls cx hnm hex hI hl
    have hx := cx.1
    have hb := cx.2.1
    have hown := cx.2.2.2.1
    have hts := cx.2.2.2.2.1
    have hK := cx.2.2.2.2.2.1
    refine lv_iload_n hx hb dX3_leave_62 rfl (lv_at hl 2 rfl) ?_
    refine lv_if_lt (tgt := 126) hx hb dX3_leave_63 rfl (fun hc => ?_) (fun hc => ?_)
    · have h := gz_t h hc
      cases h
      exact gr_vret cx hI dX3_leave_126
    · have h := gz_f h hc
      refine gr_aload_n hx hb x0 dX3_leave_66 rfl (lv_at hl 0 rfl) ?_
      obtain ⟨v1, e1, h⟩ := g_bind h
      refine gr_getR cx hI e1 rfl (fun _ => rfl) rfl (Or.inl (hts _ q180)) dX3_leave_67 ?_
      refine lv_iload_n hx hb dX3_leave_70 rfl (lv_at hl 2 rfl) ?_
      obtain ⟨v2, e2, h⟩ := g_bind h
      refine gr_lgetr cx (gz_nh hex) hI (Or.inl (hts _ q760)) hl.1 (gz_cs (Nat.le_of_ble_eq_true rfl)) (by omega) dX3_leave_71 e2 (fun H locs cells slots hI => ?_)
      obtain ⟨a3, e3, h⟩ := gz_q_s h
      refine gr_ck1 cx hI e3 rfl (hts _ q761) dX3_leave_74 ?_
      refine gz_astore_n hx hb dX3_leave_77 rfl hl (by decide) [0, 1, 2] rfl (gz_con ⟨gz_ne rfl, Or.inl (gz_ne rfl)⟩ (gz_con ⟨gz_ne rfl, Or.inl (gz_ne rfl)⟩ (gz_con ⟨gz_ne rfl, Or.inr rfl⟩ gz_nil))) (fun ls hl => ?_)
      refine lv_iload_n hx hb dX3_leave_78 rfl (lv_at hl 2 rfl) ?_
      refine gr_aload_n hx hb (some v2) dX3_leave_79 rfl (lv_at hl 0 rfl) ?_
      obtain ⟨a4, t4, h⟩ := gz_q_s h
      refine C_X5_bit cx (gz_nh hex) hI (Or.inl (hts _ q775)) hl.1 (gz_cs (Nat.le_of_ble_eq_true rfl)) (by omega) dX3_leave_80 t4 h (fun v4 S4 h H locs cells slots hI => ?_)
      refine lv_iand hx hb dX3_leave_83 ?_
      refine lv_if_ne (tgt := 90) hx hb dX3_leave_84 rfl (fun hc => ?_) (fun hc => ?_)
      · have h := gz_f h hc
        refine gr_aload_n hx hb x0 dX3_leave_90 rfl (lv_at hl 1 rfl) ?_
        refine gr_aload_n hx hb (some v2) dX3_leave_91 rfl (lv_at hl 0 rfl) ?_
        obtain ⟨v5, e5, h⟩ := g_bind h
        refine gr_getR cx hI e5 rfl (fun _ => rfl) rfl (Or.inr ⟨_, gk_w hK q434 rfl⟩) dX3_leave_92 ?_
        obtain ⟨a6, t6, h⟩ := gz_q_s h
        refine C_X3_actAll cx (gz_nh hex) hI (Or.inl (hts _ q780)) hl.1 (gz_cs (Nat.le_of_ble_eq_true rfl)) (by omega) dX3_leave_95 t6 h (fun S6 h H locs cells slots hI => ?_)
        refine gr_aload_n hx hb x0 dX3_leave_98 rfl (lv_at hl 1 rfl) ?_
        refine lv_dup hx hb dX3_leave_99 (gl_cat x0) ?_
        obtain ⟨v7, e7, h⟩ := g_bind h
        refine gr_getI cx hI e7 rfl (fun _ => rfl) rfl (Or.inl (hts _ q184)) dX3_leave_100 ?_
        refine gr_aload_n hx hb (some v2) dX3_leave_103 rfl (lv_at hl 0 rfl) ?_
        obtain ⟨a8, t8, h⟩ := gz_q_s h
        refine C_X5_bit cx (gz_nh hex) hI (Or.inl (hts _ q775)) hl.1 (gz_cs (Nat.le_of_ble_eq_true rfl)) (by omega) dX3_leave_104 t8 h (fun v8 S8 h H locs cells slots hI => ?_)
        refine lv_iconst hx hb dX3_leave_107 gz_ic_m1 ?_
        refine lv_ixor hx hb dX3_leave_108 ?_
        refine lv_iand hx hb dX3_leave_109 ?_
        obtain ⟨S9, e9, h⟩ := g_bind h
        refine gr_putI cx hI e9 rfl rfl rfl (Or.inl (hts _ q184)) (Or.inl rfl) dX3_leave_110 (fun H locs hI => ?_)
        refine gr_aload_n hx hb x0 dX3_leave_113 rfl (lv_at hl 1 rfl) ?_
        refine lv_iconst hx hb dX3_leave_114 gz_ic_m1 ?_
        refine lv_iload_n hx hb dX3_leave_115 rfl (lv_at hl 3 rfl) ?_
        refine lv_isub hx hb dX3_leave_116 ?_
        obtain ⟨a10, t10, h⟩ := gz_q_s h
        refine C_X3_note cx (gz_nh hex) hI (Or.inl (hts _ q776)) hl.1 (gz_cs (Nat.le_of_ble_eq_true rfl)) (by omega) dX3_leave_117 t10 h (fun S10 h H locs cells slots hI => ?_)
        refine gz_iinc (k := 3) (v := (x2 + (-1 : Int32))) hx hb dX3_leave_120 hl rfl (congrArg (fun z => x2 + z) gz_ic_m1) (by decide) [1, 2] rfl (gz_con ⟨gz_ne rfl, Or.inl (gz_ne rfl)⟩ (gz_con ⟨gz_ne rfl, Or.inr rfl⟩ gz_nil)) (fun ls hl => ?_)
        refine lv_goto (tgt := 62) hx hb dX3_leave_123 rfl ?_
        exact ih _ _ _ _ h p e s m args below meth c H locs cells slots ls cx hnm hex hI (lv_sub hl [1, 2, 0] rfl)
      · have h := gz_t h hc
        refine lv_goto (tgt := 120) hx hb dX3_leave_87 rfl ?_
        refine gz_iinc (k := 3) (v := (x2 + (-1 : Int32))) hx hb dX3_leave_120 hl rfl (congrArg (fun z => x2 + z) gz_ic_m1) (by decide) [1, 2] rfl (gz_con ⟨gz_ne rfl, Or.inl (gz_ne rfl)⟩ (gz_con ⟨gz_ne rfl, Or.inr rfl⟩ gz_nil)) (fun ls hl => ?_)
        refine lv_goto (tgt := 62) hx hb dX3_leave_123 rfl ?_
        exact ih _ _ _ _ h p e s m args below meth c H locs cells slots ls cx hnm hex hI (lv_sub hl [1, 2, 0] rfl)
theorem T_X3_leave_2 {l : Launch} {G : gG} {S0 : gm_S} {d0 fu : Nat} {r : Outcome × gm_S} (hD : 14 ≤ d0) : ∀ (n : Nat) (x0 : Option Nat) (x1 : Int32) (x2 : Int32) (S : gm_S), F_X3_leave_2 fu n x0 x1 x2 S = some r → B_X3_leave l d0 G S0 2 [(0, va_rf x0), (1, .int x1), (2, .int x2)] [] S r.1 r.2 := by
  intro n
  induction n with
  | zero => intro x0 x1 x2 S h; exact nomatch (show (none : gR) = some r from h)
  | succ n ih =>
    intro x0 x1 x2 S h
    rw [F_X3_leave_2] at h
    intro p e s m args below meth c H locs cells slots ls cx hnm hex hI hl
    have hx := cx.1
    have hb := cx.2.1
    have hown := cx.2.2.2.1
    have hts := cx.2.2.2.2.1
    have hK := cx.2.2.2.2.2.1
    refine lv_iload_n hx hb dX3_leave_2 rfl (lv_at hl 2 rfl) ?_
    refine gr_aload_n hx hb x0 dX3_leave_3 rfl (lv_at hl 0 rfl) ?_
    obtain ⟨v1, e1, h⟩ := g_bind h
    refine gr_getR cx hI e1 rfl (fun _ => rfl) rfl (Or.inl (hts _ q180)) dX3_leave_4 ?_
    obtain ⟨v2, e2, h⟩ := g_bind h
    refine gr_lsize cx (gz_nh hex) hI (Or.inl (hts _ q759)) hl.1 (gz_cs (Nat.le_of_ble_eq_true rfl)) (by omega) dX3_leave_7 e2 (fun H locs cells slots hI => ?_)
    refine lv_icmp_ge (tgt := 52) hx hb dX3_leave_10 rfl (fun hc => ?_) (fun hc => ?_)
    · have h := gz_t h hc
      refine gr_aload_n hx hb x0 dX3_leave_52 rfl (lv_at hl 0 rfl) ?_
      obtain ⟨v3, e3, h⟩ := g_bind h
      refine gr_getR cx hI e3 rfl (fun _ => rfl) rfl (Or.inl (hts _ q180)) dX3_leave_53 ?_
      obtain ⟨v4, e4, h⟩ := g_bind h
      refine gr_lsize cx (gz_nh hex) hI (Or.inl (hts _ q759)) hl.1 (gz_cs (Nat.le_of_ble_eq_true rfl)) (by omega) dX3_leave_56 e4 (fun H locs cells slots hI => ?_)
      refine lv_iconst hx hb dX3_leave_59 gz_ic_1 ?_
      refine lv_isub hx hb dX3_leave_60 ?_
      refine gz_istore_n hx hb dX3_leave_61 rfl hl (by decide) [0, 1] rfl (gz_con ⟨gz_ne rfl, Or.inl (gz_ne rfl)⟩ (gz_con ⟨gz_ne rfl, Or.inr rfl⟩ gz_nil)) (fun ls hl => ?_)
      exact T_X3_leave_62 hD fu _ _ _ _ h p e s m args below meth c H locs cells slots ls cx hnm hex hI (lv_sub hl [1, 2, 0] rfl)
    · have h := gz_f h hc
      refine gr_aload_n hx hb x0 dX3_leave_13 rfl (lv_at hl 0 rfl) ?_
      obtain ⟨v5, e5, h⟩ := g_bind h
      refine gr_getR cx hI e5 rfl (fun _ => rfl) rfl (Or.inl (hts _ q180)) dX3_leave_14 ?_
      refine lv_iload_n hx hb dX3_leave_17 rfl (lv_at hl 2 rfl) ?_
      obtain ⟨v6, e6, h⟩ := g_bind h
      refine gr_lgetr cx (gz_nh hex) hI (Or.inl (hts _ q760)) hl.1 (gz_cs (Nat.le_of_ble_eq_true rfl)) (by omega) dX3_leave_18 e6 (fun H locs cells slots hI => ?_)
      obtain ⟨a7, e7, h⟩ := gz_q_s h
      refine gr_ck1 cx hI e7 rfl (hts _ q761) dX3_leave_21 ?_
      refine gz_astore_n hx hb dX3_leave_24 rfl hl (by decide) [0, 1, 2] rfl (gz_con ⟨gz_ne rfl, Or.inl (gz_ne rfl)⟩ (gz_con ⟨gz_ne rfl, Or.inl (gz_ne rfl)⟩ (gz_con ⟨gz_ne rfl, Or.inr rfl⟩ gz_nil))) (fun ls hl => ?_)
      refine lv_iload_n hx hb dX3_leave_25 rfl (lv_at hl 2 rfl) ?_
      refine gr_aload_n hx hb (some v6) dX3_leave_26 rfl (lv_at hl 0 rfl) ?_
      obtain ⟨a8, t8, h⟩ := gz_q_s h
      refine C_X5_bit cx (gz_nh hex) hI (Or.inl (hts _ q775)) hl.1 (gz_cs (Nat.le_of_ble_eq_true rfl)) (by omega) dX3_leave_27 t8 h (fun v8 S8 h H locs cells slots hI => ?_)
      refine lv_iand hx hb dX3_leave_30 ?_
      refine lv_if_eq (tgt := 46) hx hb dX3_leave_31 rfl (fun hc => ?_) (fun hc => ?_)
      · have h := gz_t h hc
        refine gz_iinc (k := 3) (v := (x2 + (1 : Int32))) hx hb dX3_leave_46 hl rfl (congrArg (fun z => x2 + z) gz_ic_1) (by decide) [1, 2] rfl (gz_con ⟨gz_ne rfl, Or.inl (gz_ne rfl)⟩ (gz_con ⟨gz_ne rfl, Or.inr rfl⟩ gz_nil)) (fun ls hl => ?_)
        refine lv_goto (tgt := 2) hx hb dX3_leave_49 rfl ?_
        exact ih _ _ _ _ h p e s m args below meth c H locs cells slots ls cx hnm hex hI (lv_sub hl [1, 2, 0] rfl)
      · have h := gz_f h hc
        refine gr_aload_n hx hb (some v6) dX3_leave_34 rfl (lv_at hl 0 rfl) ?_
        obtain ⟨v9, e9, h⟩ := g_bind h
        refine gr_getI cx hI e9 rfl (fun _ => rfl) rfl (Or.inr ⟨_, gk_w hK q421 rfl⟩) dX3_leave_35 ?_
        refine lv_if_eq (tgt := 46) hx hb dX3_leave_38 rfl (fun hc => ?_) (fun hc => ?_)
        · have h := gz_t h hc
          refine gz_iinc (k := 3) (v := (x2 + (1 : Int32))) hx hb dX3_leave_46 hl rfl (congrArg (fun z => x2 + z) gz_ic_1) (by decide) [1, 2] rfl (gz_con ⟨gz_ne rfl, Or.inl (gz_ne rfl)⟩ (gz_con ⟨gz_ne rfl, Or.inr rfl⟩ gz_nil)) (fun ls hl => ?_)
          refine lv_goto (tgt := 2) hx hb dX3_leave_49 rfl ?_
          exact ih _ _ _ _ h p e s m args below meth c H locs cells slots ls cx hnm hex hI (lv_sub hl [1, 2, 0] rfl)
        · have h := gz_f h hc
          refine gr_aload_n hx hb x0 dX3_leave_41 rfl (lv_at hl 1 rfl) ?_
          refine gr_aload_n hx hb (some v6) dX3_leave_42 rfl (lv_at hl 0 rfl) ?_
          obtain ⟨a10, t10, h⟩ := gz_q_s h
          refine C_X3_record cx (gz_nh hex) hI (Or.inl (hts _ q951)) hl.1 (gz_cs (Nat.le_of_ble_eq_true rfl)) (by omega) dX3_leave_43 t10 h (fun S10 h H locs cells slots hI => ?_)
          refine gz_iinc (k := 3) (v := (x2 + (1 : Int32))) hx hb dX3_leave_46 hl rfl (congrArg (fun z => x2 + z) gz_ic_1) (by decide) [1, 2] rfl (gz_con ⟨gz_ne rfl, Or.inl (gz_ne rfl)⟩ (gz_con ⟨gz_ne rfl, Or.inr rfl⟩ gz_nil)) (fun ls hl => ?_)
          refine lv_goto (tgt := 2) hx hb dX3_leave_49 rfl ?_
          exact ih _ _ _ _ h p e s m args below meth c H locs cells slots ls cx hnm hex hI (lv_sub hl [1, 2, 0] rfl)
theorem T_X3_leave {l : Launch} {G : gG} {S0 : gm_S} {d0 fu : Nat} {r : Outcome × gm_S} (hD : 14 ≤ d0) {x0 : Option Nat} {x1 : Int32} {S : gm_S} (h : F_X3_leave fu x0 x1 S = some r) : B_X3_leave l d0 G S0 0 [(0, va_rf x0), (1, .int x1)] [] S r.1 r.2 := by
  unfold F_X3_leave at h
  intro p e s m args below meth c H locs cells slots ls cx hnm hex hI hl
  have hx := cx.1
  have hb := cx.2.1
  have hown := cx.2.2.2.1
  have hts := cx.2.2.2.2.1
  have hK := cx.2.2.2.2.2.1
  refine lv_iconst hx hb dX3_leave_0 gz_ic_0 ?_
  refine gz_istore_n hx hb dX3_leave_1 rfl hl (by decide) [0, 1] rfl (gz_con ⟨gz_ne rfl, Or.inl (gz_ne rfl)⟩ (gz_con ⟨gz_ne rfl, Or.inr rfl⟩ gz_nil)) (fun ls hl => ?_)
  exact T_X3_leave_2 hD fu _ _ _ _ h p e s m args below meth c H locs cells slots ls cx hnm hex hI (lv_sub hl [1, 2, 0] rfl)
theorem M_X3_leave {l : Launch} {G : gG} {fu d0 : Nat} (hfl : l.flags = flags0) (hD : 14 ≤ d0) {x0 : Option Nat} {x1 : Int32} {S : gm_S} {o : Outcome} {S2 : gm_S} (h : F_X3_leave fu x0 x1 S = some (o, S2)) : gx_Met l yX3_leave (ws_ yX3_leave cX3_leave 4 (Option.none : Option Jvm.ClassFile.FieldType)) d0 G S [va_rf x0, .int x1] o S2 := by
  refine gx_of hfl (by decide) (fun p e s m below meth c cx hnm hex hI => ?_)
  rw [lg_entry_eq]
  cases x0 <;> exact T_X3_leave (r := (o, S2)) hD h p e s m _ below meth c _ _ _ _ _ cx hnm (gz_nh0 hex) hI (lv_entry _ (Nat.le_of_ble_eq_true rfl))
theorem C_X3_leave {p : Program} {l : Launch} {e : Env} {s : State} {m : MethodId} {args : Array Value} {below : List Frame} {meth : Method} {c : Code} {H : Heap} {locs : List Loc} {cells slots : Nat} {cc : ByteArray} {pc nL : Nat} {ls : Array Slot} {rest : List Value} {G : gG} {S0 S : gm_S} {own : String} {ret : Option FieldType} {d0 index fu : Nat} {x0 : Option Nat} {x1 : Int32} {k : gm_S → gR} {r : Outcome × gm_S} (cx : gx_cx p l s m args meth c G own cc nL ret) (hex : ∀ x ∈ c.exceptionTable.toList, covers x pc = false) (hI : gw_I G S0 S H locs cells slots) (hl : gl_M own index yX3_leave args s) (hlv : ls.size = nL) (hrest : (rest.map fun v => v.category).sum ≤ 8) (hD : 15 ≤ d0) (hdg : decode cc pc = .ok (.invokevirtual index, 3)) {b : Nat} (hat : g_at S x0 3 = some b) (h : gz_cV (F_X3_leave fu x0 x1 S) k = some r)
    (kk : ∀ (z : gm_S), k z = some r → ∀ (H : Heap) (locs : List Loc) (cells slots : Nat), gw_I G S0 z H locs cells slots → W p l e (gx_rm d0 S0) s m args below meth c H locs cells slots (gx_MQ below G S0 r.2 r.1 s) (F0 m (pc + 3) ls rest)) : W p l e (gx_rm d0 S0) s m args below meth c H locs cells slots (gx_MQ below G S0 r.2 r.1 s) (F0 m pc ls (.int x1 :: va_rf x0 :: rest)) := by
  obtain ⟨rfl, ht⟩ := g_at_s hat
  have hts := cx.2.2.2.2.1
  have hK := cx.2.2.2.2.2.1
  exact gz_goV (d := d0 - 1) (fun S => S) cx hex hI hlv hrest (by omega) (Nat.le_of_ble_eq_true rfl) (gz_ws (lw_meth q950) hts) (hts _ q74) (gb_rawV (As := [.int x1]) cx hl (hts _ q949) (hts _ qs25) (gl_C.code (hts _ q950)) hy_X3_leave (gr_recv hK hI.1 ht rfl) rfl rfl hdg) (fun o S2 e => M_X3_leave (x0 := some b) cx.2.2.2.2.2.2.2.2 (by omega) e) h kk
abbrev B_X3_step (l : Launch) (d0 : Nat) (G : gG) (S0 : gm_S) : Nat → List (Nat × Value) → List Value → gm_S → Outcome → gm_S → Prop := gz_B l RX3 "step" cX3_step 3 (Option.none : Option Jvm.ClassFile.FieldType) [] d0 G S0
theorem T_X3_step_82 {l : Launch} {G : gG} {S0 : gm_S} {d0 fu : Nat} {r : Outcome × gm_S} (hD : 22 ≤ d0) : ∀ (n : Nat) (x0 : Option Nat) (x2 : Int32) (S : gm_S), F_X3_step_82 fu n x0 x2 S = some r → B_X3_step l d0 G S0 82 [(0, va_rf x0), (2, .int x2)] [] S r.1 r.2 := by
  intro n
  induction n with
  | zero => intro x0 x2 S h; exact nomatch (show (none : gR) = some r from h)
  | succ n ih =>
    intro x0 x2 S h
    rw [F_X3_step_82] at h
    intro p e s m args below meth c H locs cells slots ls cx hnm hex hI hl
    have hx := cx.1
    have hb := cx.2.1
    have hown := cx.2.2.2.1
    have hts := cx.2.2.2.2.1
    have hK := cx.2.2.2.2.2.1
    refine lv_iload_n hx hb dX3_step_82 rfl (lv_at hl 1 rfl) ?_
    refine gr_aload_n hx hb x0 dX3_step_83 rfl (lv_at hl 0 rfl) ?_
    obtain ⟨v1, e1, h⟩ := g_bind h
    refine gr_getR cx hI e1 rfl (fun _ => rfl) rfl (Or.inl (hts _ q199)) dX3_step_84 ?_
    obtain ⟨v2, e2, h⟩ := g_bind h
    refine gr_lsize cx (gz_nh hex) hI (Or.inl (hts _ q759)) hl.1 (gz_cs (Nat.le_of_ble_eq_true rfl)) (by omega) dX3_step_87 e2 (fun H locs cells slots hI => ?_)
    refine lv_icmp_ge (tgt := 117) hx hb dX3_step_90 rfl (fun hc => ?_) (fun hc => ?_)
    · have h := gz_t h hc
      refine gr_aload_n hx hb x0 dX3_step_117 rfl (lv_at hl 0 rfl) ?_
      refine gr_aload_n hx hb x0 dX3_step_118 rfl (lv_at hl 0 rfl) ?_
      obtain ⟨a3, t3, h⟩ := gz_q_s h
      refine C_X3_entries cx (gz_nh hex) hI (Or.inl (hts _ q955)) hl.1 (gz_cs (Nat.le_of_ble_eq_true rfl)) (by omega) dX3_step_119 t3 h (fun v3 S3 h H locs cells slots hI => ?_)
      obtain ⟨a4, t4, h⟩ := gz_q_s h
      refine C_X3_enter cx (gz_nh hex) hI (Or.inl (hts _ q771)) hl.1 (gz_cs (Nat.le_of_ble_eq_true rfl)) (by omega) dX3_step_122 t4 h (fun S4 h H locs cells slots hI => ?_)
      cases h
      exact gr_vret cx hI dX3_step_125
    · have h := gz_f h hc
      refine gr_aload_n hx hb x0 dX3_step_93 rfl (lv_at hl 0 rfl) ?_
      refine gr_aload_n hx hb x0 dX3_step_94 rfl (lv_at hl 0 rfl) ?_
      obtain ⟨v5, e5, h⟩ := g_bind h
      refine gr_getR cx hI e5 rfl (fun _ => rfl) rfl (Or.inl (hts _ q199)) dX3_step_95 ?_
      refine lv_iload_n hx hb dX3_step_98 rfl (lv_at hl 1 rfl) ?_
      obtain ⟨v6, e6, h⟩ := g_bind h
      refine gr_lgetr cx (gz_nh hex) hI (Or.inl (hts _ q760)) hl.1 (gz_cs (Nat.le_of_ble_eq_true rfl)) (by omega) dX3_step_99 e6 (fun H locs cells slots hI => ?_)
      obtain ⟨a7, e7, h⟩ := gz_q_s h
      refine gr_ck1 cx hI e7 rfl (hts _ q872) dX3_step_102 ?_
      obtain ⟨v8, e8, h⟩ := g_bind h
      refine gr_getR cx hI e8 rfl (fun _ => rfl) rfl (Or.inr ⟨_, gk_w hK q629 rfl⟩) dX3_step_105 ?_
      obtain ⟨a9, t9, h⟩ := gz_q_s h
      refine C_X3_actAll cx (gz_nh hex) hI (Or.inl (hts _ q780)) hl.1 (gz_cs (Nat.le_of_ble_eq_true rfl)) (by omega) dX3_step_108 t9 h (fun S9 h H locs cells slots hI => ?_)
      refine gz_iinc (k := 1) (v := (x2 + (1 : Int32))) hx hb dX3_step_111 hl rfl (congrArg (fun z => x2 + z) gz_ic_1) (by decide) [0] rfl (gz_con ⟨gz_ne rfl, Or.inl (gz_ne rfl)⟩ gz_nil) (fun ls hl => ?_)
      refine lv_goto (tgt := 82) hx hb dX3_step_114 rfl ?_
      exact ih _ _ _ h p e s m args below meth c H locs cells slots ls cx hnm hex hI (lv_sub hl [1, 0] rfl)
theorem T_X3_step_41 {l : Launch} {G : gG} {S0 : gm_S} {d0 fu : Nat} {r : Outcome × gm_S} (hD : 22 ≤ d0) : ∀ (n : Nat) (x0 : Option Nat) (x1 : Int32) (x2 : Int32) (S : gm_S), F_X3_step_41 fu n x0 x1 x2 S = some r → B_X3_step l d0 G S0 41 [(0, va_rf x0), (1, .int x1), (2, .int x2)] [] S r.1 r.2 := by
  intro n
  induction n with
  | zero => intro x0 x1 x2 S h; exact nomatch (show (none : gR) = some r from h)
  | succ n ih =>
    intro x0 x1 x2 S h
    rw [F_X3_step_41] at h
    intro p e s m args below meth c H locs cells slots ls cx hnm hex hI hl
    have hx := cx.1
    have hb := cx.2.1
    have hown := cx.2.2.2.1
    have hts := cx.2.2.2.2.1
    have hK := cx.2.2.2.2.2.1
    refine lv_iload_n hx hb dX3_step_41 rfl (lv_at hl 2 rfl) ?_
    refine gr_aload_n hx hb x0 dX3_step_42 rfl (lv_at hl 0 rfl) ?_
    obtain ⟨v1, e1, h⟩ := g_bind h
    refine gr_getR cx hI e1 rfl (fun _ => rfl) rfl (Or.inl (hts _ q199)) dX3_step_43 ?_
    obtain ⟨v2, e2, h⟩ := g_bind h
    refine gr_lsize cx (gz_nh hex) hI (Or.inl (hts _ q759)) hl.1 (gz_cs (Nat.le_of_ble_eq_true rfl)) (by omega) dX3_step_46 e2 (fun H locs cells slots hI => ?_)
    refine lv_icmp_ge (tgt := 75) hx hb dX3_step_49 rfl (fun hc => ?_) (fun hc => ?_)
    · have h := gz_t h hc
      refine gr_aload_n hx hb x0 dX3_step_75 rfl (lv_at hl 0 rfl) ?_
      refine lv_iload_n hx hb dX3_step_76 rfl (lv_at hl 1 rfl) ?_
      obtain ⟨a3, t3, h⟩ := gz_q_s h
      refine C_X3_leave cx (gz_nh hex) hI (Or.inl (hts _ q947)) hl.1 (gz_cs (Nat.le_of_ble_eq_true rfl)) (by omega) dX3_step_77 t3 h (fun S3 h H locs cells slots hI => ?_)
      refine lv_iconst hx hb dX3_step_80 gz_ic_0 ?_
      refine gz_istore_n hx hb dX3_step_81 rfl hl (by decide) [0] rfl (gz_con ⟨gz_ne rfl, Or.inl (gz_ne rfl)⟩ gz_nil) (fun ls hl => ?_)
      exact T_X3_step_82 hD fu _ _ _ h p e s m args below meth c H locs cells slots ls cx hnm hex hI (lv_sub hl [1, 0] rfl)
    · have h := gz_f h hc
      refine lv_iload_n hx hb dX3_step_52 rfl (lv_at hl 1 rfl) ?_
      refine gr_aload_n hx hb x0 dX3_step_53 rfl (lv_at hl 0 rfl) ?_
      obtain ⟨v4, e4, h⟩ := g_bind h
      refine gr_getR cx hI e4 rfl (fun _ => rfl) rfl (Or.inl (hts _ q199)) dX3_step_54 ?_
      refine lv_iload_n hx hb dX3_step_57 rfl (lv_at hl 2 rfl) ?_
      obtain ⟨v5, e5, h⟩ := g_bind h
      refine gr_lgetr cx (gz_nh hex) hI (Or.inl (hts _ q760)) hl.1 (gz_cs (Nat.le_of_ble_eq_true rfl)) (by omega) dX3_step_58 e5 (fun H locs cells slots hI => ?_)
      obtain ⟨a6, e6, h⟩ := gz_q_s h
      refine gr_ck1 cx hI e6 rfl (hts _ q872) dX3_step_61 ?_
      obtain ⟨v7, e7, h⟩ := g_bind h
      refine gr_getI cx hI e7 rfl (fun _ => rfl) rfl (Or.inr ⟨_, gk_w hK q634 rfl⟩) dX3_step_64 ?_
      refine lv_ior hx hb dX3_step_67 ?_
      refine gz_istore_n hx hb dX3_step_68 rfl hl (by decide) [0, 2] rfl (gz_con ⟨gz_ne rfl, Or.inr (gl_cat x0)⟩ (gz_con ⟨gz_ne rfl, Or.inl (gz_ne rfl)⟩ gz_nil)) (fun ls hl => ?_)
      refine gz_iinc (k := 2) (v := (x2 + (1 : Int32))) hx hb dX3_step_69 hl rfl (congrArg (fun z => x2 + z) gz_ic_1) (by decide) [0, 1] rfl (gz_con ⟨gz_ne rfl, Or.inr rfl⟩ (gz_con ⟨gz_ne rfl, Or.inl (gz_ne rfl)⟩ gz_nil)) (fun ls hl => ?_)
      refine lv_goto (tgt := 41) hx hb dX3_step_72 rfl ?_
      exact ih _ _ _ _ h p e s m args below meth c H locs cells slots ls cx hnm hex hI (lv_sub hl [2, 1, 0] rfl)
theorem T_X3_step {l : Launch} {G : gG} {S0 : gm_S} {d0 fu : Nat} {r : Outcome × gm_S} (hD : 22 ≤ d0) {x0 : Option Nat} {S : gm_S} (h : F_X3_step fu x0 S = some r) : B_X3_step l d0 G S0 0 [(0, va_rf x0)] [] S r.1 r.2 := by
  unfold F_X3_step at h
  intro p e s m args below meth c H locs cells slots ls cx hnm hex hI hl
  have hx := cx.1
  have hb := cx.2.1
  have hown := cx.2.2.2.1
  have hts := cx.2.2.2.2.1
  have hK := cx.2.2.2.2.2.1
  refine gr_aload_n hx hb x0 dX3_step_0 rfl (lv_at hl 0 rfl) ?_
  obtain ⟨v1, e1, h⟩ := g_bind h
  refine gr_getI cx hI e1 rfl (fun _ => rfl) rfl (Or.inl (hts _ q198)) dX3_step_1 ?_
  refine lv_bipush hx hb dX3_step_4 gz_bp_30 ?_
  refine lv_icmp_ne (tgt := 27) hx hb dX3_step_6 rfl (fun hc => ?_) (fun hc => ?_)
  · have h := gz_f h hc
    refine gr_aload_n hx hb x0 dX3_step_27 rfl (lv_at hl 0 rfl) ?_
    refine lv_dup hx hb dX3_step_28 (gl_cat x0) ?_
    obtain ⟨v2, e2, h⟩ := g_bind h
    refine gr_getI cx hI e2 rfl (fun _ => rfl) rfl (Or.inl (hts _ q198)) dX3_step_29 ?_
    refine lv_iconst hx hb dX3_step_32 gz_ic_1 ?_
    refine lv_iadd hx hb dX3_step_33 ?_
    obtain ⟨S3, e3, h⟩ := g_bind h
    refine gr_putI cx hI e3 rfl rfl rfl (Or.inl (hts _ q198)) (Or.inl rfl) dX3_step_34 (fun H locs hI => ?_)
    refine lv_iconst hx hb dX3_step_37 gz_ic_0 ?_
    refine gz_istore_n hx hb dX3_step_38 rfl hl (by decide) [0] rfl (gz_con ⟨gz_ne rfl, Or.inr (gl_cat x0)⟩ gz_nil) (fun ls hl => ?_)
    refine lv_iconst hx hb dX3_step_39 gz_ic_0 ?_
    refine gz_istore_n hx hb dX3_step_40 rfl hl (by decide) [0, 1] rfl (gz_con ⟨gz_ne rfl, Or.inr rfl⟩ (gz_con ⟨gz_ne rfl, Or.inl (gz_ne rfl)⟩ gz_nil)) (fun ls hl => ?_)
    exact T_X3_step_41 hD fu _ _ _ _ h p e s m args below meth c H locs cells slots ls cx hnm hex hI (lv_sub hl [2, 1, 0] rfl)
  · have h := gz_t h hc
    refine gr_aload_n hx hb x0 dX3_step_9 rfl (lv_at hl 0 rfl) ?_
    refine lv_iconst hx hb dX3_step_10 gz_ic_0 ?_
    obtain ⟨S4, e4, h⟩ := g_bind h
    refine gr_putZ cx hI e4 rfl rfl rfl (Or.inl (hts _ q182)) (Or.inl rfl) dX3_step_11 (fun H locs hI => ?_)
    refine gr_aload_n hx hb x0 dX3_step_14 rfl (lv_at hl 0 rfl) ?_
    refine lv_iconst hx hb dX3_step_15 gz_ic_0 ?_
    obtain ⟨S5, e5, h⟩ := g_bind h
    refine gr_putI cx hI e5 rfl rfl rfl (Or.inl (hts _ q184)) (Or.inl rfl) dX3_step_16 (fun H locs hI => ?_)
    obtain ⟨q6, e6, h⟩ := g_bind h
    cases h
    exact gr_throw cx hI (t := 19) (a := q6.1) (S2 := q6.2) (ic := 212) e6 (by decide) q932 q933 q101 gt_own_Run_19_P (by decide) (by omega) (gz_cs (Nat.le_of_ble_eq_true rfl)) hl.1 (gz_nh hex) dX3_step_19 dX3_step_22 dX3_step_23 dX3_step_26
theorem M_X3_step {l : Launch} {G : gG} {fu d0 : Nat} (hfl : l.flags = flags0) (hD : 22 ≤ d0) {x0 : Option Nat} {S : gm_S} {o : Outcome} {S2 : gm_S} (h : F_X3_step fu x0 S = some (o, S2)) : gx_Met l yX3_step (ws_ yX3_step cX3_step 3 (Option.none : Option Jvm.ClassFile.FieldType)) d0 G S [va_rf x0] o S2 := by
  refine gx_of hfl (by decide) (fun p e s m below meth c cx hnm hex hI => ?_)
  rw [lg_entry_eq]
  cases x0 <;> exact T_X3_step (r := (o, S2)) hD h p e s m _ below meth c _ _ _ _ _ cx hnm (gz_nh0 hex) hI (lv_entry _ (Nat.le_of_ble_eq_true rfl))
theorem C_X3_step {p : Program} {l : Launch} {e : Env} {s : State} {m : MethodId} {args : Array Value} {below : List Frame} {meth : Method} {c : Code} {H : Heap} {locs : List Loc} {cells slots : Nat} {cc : ByteArray} {pc nL : Nat} {ls : Array Slot} {rest : List Value} {G : gG} {S0 S : gm_S} {own : String} {ret : Option FieldType} {d0 index fu : Nat} {x0 : Option Nat} {k : gm_S → gR} {r : Outcome × gm_S} (cx : gx_cx p l s m args meth c G own cc nL ret) (hex : ∀ x ∈ c.exceptionTable.toList, covers x pc = false) (hI : gw_I G S0 S H locs cells slots) (hl : gl_M own index yX3_step args s) (hlv : ls.size = nL) (hrest : (rest.map fun v => v.category).sum ≤ 8) (hD : 23 ≤ d0) (hdg : decode cc pc = .ok (.invokevirtual index, 3)) {b : Nat} (hat : g_at S x0 3 = some b) (h : gz_cV (F_X3_step fu x0 S) k = some r)
    (kk : ∀ (z : gm_S), k z = some r → ∀ (H : Heap) (locs : List Loc) (cells slots : Nat), gw_I G S0 z H locs cells slots → W p l e (gx_rm d0 S0) s m args below meth c H locs cells slots (gx_MQ below G S0 r.2 r.1 s) (F0 m (pc + 3) ls rest)) : W p l e (gx_rm d0 S0) s m args below meth c H locs cells slots (gx_MQ below G S0 r.2 r.1 s) (F0 m pc ls (va_rf x0 :: rest)) := by
  obtain ⟨rfl, ht⟩ := g_at_s hat
  have hts := cx.2.2.2.2.1
  have hK := cx.2.2.2.2.2.1
  exact gz_goV (d := d0 - 1) (fun S => S) cx hex hI hlv hrest (by omega) (Nat.le_of_ble_eq_true rfl) (gz_ws (lw_meth q931) hts) (hts _ q74) (gb_rawV (As := []) cx hl (hts _ q930) (hts _ qs24) (gl_C.code (hts _ q931)) hy_X3_step (gr_recv hK hI.1 ht rfl) rfl rfl hdg) (fun o S2 e => M_X3_step (x0 := some b) cx.2.2.2.2.2.2.2.2 (by omega) e) h kk
abbrev B_X3_runOn (l : Launch) (d0 : Nat) (G : gG) (S0 : gm_S) : Nat → List (Nat × Value) → List Value → gm_S → Outcome → gm_S → Prop := gz_B l RX3 "runOn" cX3_runOn 2 (Option.none : Option Jvm.ClassFile.FieldType) [] d0 G S0
theorem T_X3_runOn_64 {l : Launch} {G : gG} {S0 : gm_S} {d0 fu : Nat} {k0 : Option Nat → gm_S → gR} {r : Outcome × gm_S} (hD : 23 ≤ d0)
    (hk0 : ∀ (x0 : Option Nat) (S : gm_S), k0 x0 S = some r → B_X3_runOn l d0 G S0 0 [(0, va_rf x0)] [] S r.1 r.2) {x0 : Option Nat} {S : gm_S} (h : F_X3_runOn_64 fu k0 x0 S = some r) : B_X3_runOn l d0 G S0 64 [(0, va_rf x0)] [] S r.1 r.2 := by
  unfold F_X3_runOn_64 at h
  intro p e s m args below meth c H locs cells slots ls cx hnm hex hI hl
  have hx := cx.1
  have hb := cx.2.1
  have hown := cx.2.2.2.1
  have hts := cx.2.2.2.2.1
  have hK := cx.2.2.2.2.2.1
  refine gr_aload_n hx hb x0 dX3_runOn_64 rfl (lv_at hl 0 rfl) ?_
  obtain ⟨v1, e1, h⟩ := g_bind h
  refine gr_getR cx hI e1 rfl (fun _ => rfl) rfl (Or.inl (hts _ q199)) dX3_runOn_65 ?_
  obtain ⟨v2, e2, h⟩ := g_bind h
  refine gr_lempty cx (gz_nh hex) hI (Or.inl (hts _ q927)) hl.1 (gz_cs (Nat.le_of_ble_eq_true rfl)) (by omega) dX3_runOn_68 e2 (fun H locs cells slots hI => ?_)
  refine lv_if_eq (tgt := 75) hx hb dX3_runOn_71 rfl (fun hc => ?_) (fun hc => ?_)
  · have h := gz_t h hc
    refine gr_aload_n hx hb x0 dX3_runOn_75 rfl (lv_at hl 0 rfl) ?_
    obtain ⟨a3, t3, h⟩ := gz_q_s h
    refine C_X3_step cx (gz_nh hex) hI (Or.inl (hts _ q928)) hl.1 (gz_cs (Nat.le_of_ble_eq_true rfl)) (by omega) dX3_runOn_76 t3 h (fun S3 h H locs cells slots hI => ?_)
    refine lv_goto (tgt := 0) hx hb dX3_runOn_79 rfl ?_
    exact hk0 _ _ h p e s m args below meth c H locs cells slots ls cx hnm hex hI hl
  · have h := gz_f h hc
    cases h
    exact gr_vret cx hI dX3_runOn_74
theorem T_X3_runOn_6 {l : Launch} {G : gG} {S0 : gm_S} {d0 fu : Nat} {k0 : Option Nat → gm_S → gR} {r : Outcome × gm_S} (hD : 23 ≤ d0)
    (hk0 : ∀ (x0 : Option Nat) (S : gm_S), k0 x0 S = some r → B_X3_runOn l d0 G S0 0 [(0, va_rf x0)] [] S r.1 r.2) : ∀ (n : Nat) (x0 : Option Nat) (S : gm_S), F_X3_runOn_6 fu k0 n x0 S = some r → B_X3_runOn l d0 G S0 6 [(0, va_rf x0)] [] S r.1 r.2 := by
  intro n
  induction n with
  | zero => intro x0 S h; exact nomatch (show (none : gR) = some r from h)
  | succ n ih =>
    intro x0 S h
    rw [F_X3_runOn_6] at h
    intro p e s m args below meth c H locs cells slots ls cx hnm hex hI hl
    have hx := cx.1
    have hb := cx.2.1
    have hown := cx.2.2.2.1
    have hts := cx.2.2.2.2.1
    have hK := cx.2.2.2.2.2.1
    refine gr_aload_n hx hb x0 dX3_runOn_6 rfl (lv_at hl 0 rfl) ?_
    obtain ⟨v1, e1, h⟩ := g_bind h
    refine gr_getR cx hI e1 rfl (fun _ => rfl) rfl (Or.inl (hts _ q199)) dX3_runOn_7 ?_
    obtain ⟨v2, e2, h⟩ := g_bind h
    refine gr_lempty cx (gz_nh hex) hI (Or.inl (hts _ q927)) hl.1 (gz_cs (Nat.le_of_ble_eq_true rfl)) (by omega) dX3_runOn_10 e2 (fun H locs cells slots hI => ?_)
    refine lv_if_eq (tgt := 64) hx hb dX3_runOn_13 rfl (fun hc => ?_) (fun hc => ?_)
    · have h := gz_t h hc
      exact T_X3_runOn_64 hD hk0 h p e s m args below meth c H locs cells slots ls cx hnm hex hI hl
    · have h := gz_f h hc
      refine gr_aload_n hx hb x0 dX3_runOn_16 rfl (lv_at hl 0 rfl) ?_
      obtain ⟨v3, e3, h⟩ := g_bind h
      refine gr_getI cx hI e3 rfl (fun _ => rfl) rfl (Or.inl (hts _ q189)) dX3_runOn_17 ?_
      refine lv_if_le (tgt := 64) hx hb dX3_runOn_20 rfl (fun hc => ?_) (fun hc => ?_)
      · have h := gz_t h hc
        exact T_X3_runOn_64 hD hk0 h p e s m args below meth c H locs cells slots ls cx hnm hex hI hl
      · have h := gz_f h hc
        refine gr_aload_n hx hb x0 dX3_runOn_23 rfl (lv_at hl 0 rfl) ?_
        obtain ⟨v4, e4, h⟩ := g_bind h
        refine gr_getR cx hI e4 rfl (fun _ => rfl) rfl (Or.inl (hts _ q187)) dX3_runOn_24 ?_
        refine gr_aload_n hx hb x0 dX3_runOn_27 rfl (lv_at hl 0 rfl) ?_
        obtain ⟨v5, e5, h⟩ := g_bind h
        refine gr_getI cx hI e5 rfl (fun _ => rfl) rfl (Or.inl (hts _ q188)) dX3_runOn_28 ?_
        obtain ⟨v6, e6, h⟩ := g_bind h
        refine gr_cald cx hI e6 dX3_runOn_31 ?_
        refine gz_istore_n hx hb dX3_runOn_32 rfl hl (by decide) [0] rfl (gz_con ⟨gz_ne rfl, Or.inr (gl_cat x0)⟩ gz_nil) (fun ls hl => ?_)
        refine gr_aload_n hx hb x0 dX3_runOn_33 rfl (lv_at hl 1 rfl) ?_
        refine gr_aload_n hx hb x0 dX3_runOn_34 rfl (lv_at hl 1 rfl) ?_
        obtain ⟨v7, e7, h⟩ := g_bind h
        refine gr_getI cx hI e7 rfl (fun _ => rfl) rfl (Or.inl (hts _ q188)) dX3_runOn_35 ?_
        refine lv_iconst hx hb dX3_runOn_38 gz_ic_1 ?_
        refine lv_iadd hx hb dX3_runOn_39 ?_
        refine lv_bipush hx hb dX3_runOn_40 gz_bp_10 ?_
        refine lv_irem hx hb dX3_runOn_42 (by decide) ?_
        obtain ⟨S8, e8, h⟩ := g_bind h
        refine gr_putI cx hI e8 rfl rfl rfl (Or.inl (hts _ q188)) (Or.inl rfl) dX3_runOn_43 (fun H locs hI => ?_)
        refine gr_aload_n hx hb x0 dX3_runOn_46 rfl (lv_at hl 1 rfl) ?_
        refine lv_dup hx hb dX3_runOn_47 (gl_cat x0) ?_
        obtain ⟨v9, e9, h⟩ := g_bind h
        refine gr_getI cx hI e9 rfl (fun _ => rfl) rfl (Or.inl (hts _ q189)) dX3_runOn_48 ?_
        refine lv_iconst hx hb dX3_runOn_51 gz_ic_1 ?_
        refine lv_isub hx hb dX3_runOn_52 ?_
        obtain ⟨S10, e10, h⟩ := g_bind h
        refine gr_putI cx hI e10 rfl rfl rfl (Or.inl (hts _ q189)) (Or.inl rfl) dX3_runOn_53 (fun H locs hI => ?_)
        refine gr_aload_n hx hb x0 dX3_runOn_56 rfl (lv_at hl 1 rfl) ?_
        refine lv_iload_n hx hb dX3_runOn_57 rfl (lv_at hl 0 rfl) ?_
        obtain ⟨a11, t11, h⟩ := gz_q_s h
        refine C_X3_choose cx (gz_nh hex) hI (Or.inl (hts _ q863)) hl.1 (gz_cs (Nat.le_of_ble_eq_true rfl)) (by omega) dX3_runOn_58 t11 h (fun S11 h H locs cells slots hI => ?_)
        refine lv_goto (tgt := 6) hx hb dX3_runOn_61 rfl ?_
        exact ih _ _ h p e s m args below meth c H locs cells slots ls cx hnm hex hI (lv_sub hl [1] rfl)
theorem T_X3_runOn_0 {l : Launch} {G : gG} {S0 : gm_S} {d0 fu : Nat} {r : Outcome × gm_S} (hD : 23 ≤ d0) : ∀ (n : Nat) (x0 : Option Nat) (S : gm_S), F_X3_runOn_0 fu n x0 S = some r → B_X3_runOn l d0 G S0 0 [(0, va_rf x0)] [] S r.1 r.2 := by
  intro n
  induction n with
  | zero => intro x0 S h; exact nomatch (show (none : gR) = some r from h)
  | succ n ih =>
    intro x0 S h
    rw [F_X3_runOn_0] at h
    intro p e s m args below meth c H locs cells slots ls cx hnm hex hI hl
    have hx := cx.1
    have hb := cx.2.1
    have hown := cx.2.2.2.1
    have hts := cx.2.2.2.2.1
    have hK := cx.2.2.2.2.2.1
    refine gr_aload_n hx hb x0 dX3_runOn_0 rfl (lv_at hl 0 rfl) ?_
    refine lv_bipush hx hb dX3_runOn_1 gz_bp_46 ?_
    obtain ⟨a1, t1, h⟩ := gz_q_s h
    refine C_X3_choose cx (gz_nh hex) hI (Or.inl (hts _ q863)) hl.1 (gz_cs (Nat.le_of_ble_eq_true rfl)) (by omega) dX3_runOn_3 t1 h (fun S1 h H locs cells slots hI => ?_)
    exact T_X3_runOn_6 hD ih fu _ _ h p e s m args below meth c H locs cells slots ls cx hnm hex hI hl
theorem T_X3_runOn {l : Launch} {G : gG} {S0 : gm_S} {d0 fu : Nat} {r : Outcome × gm_S} (hD : 23 ≤ d0) {x0 : Option Nat} {S : gm_S} (h : F_X3_runOn fu x0 S = some r) : B_X3_runOn l d0 G S0 0 [(0, va_rf x0)] [] S r.1 r.2 := by
  unfold F_X3_runOn at h
  intro p e s m args below meth c H locs cells slots ls cx hnm hex hI hl
  have hx := cx.1
  have hb := cx.2.1
  have hown := cx.2.2.2.1
  have hts := cx.2.2.2.2.1
  have hK := cx.2.2.2.2.2.1
  exact T_X3_runOn_0 hD fu _ _ h p e s m args below meth c H locs cells slots ls cx hnm hex hI hl
theorem M_X3_runOn {l : Launch} {G : gG} {fu d0 : Nat} (hfl : l.flags = flags0) (hD : 23 ≤ d0) {x0 : Option Nat} {S : gm_S} {o : Outcome} {S2 : gm_S} (h : F_X3_runOn fu x0 S = some (o, S2)) : gx_Met l yX3_runOn (ws_ yX3_runOn cX3_runOn 2 (Option.none : Option Jvm.ClassFile.FieldType)) d0 G S [va_rf x0] o S2 := by
  refine gx_of hfl (by decide) (fun p e s m below meth c cx hnm hex hI => ?_)
  rw [lg_entry_eq]
  cases x0 <;> exact T_X3_runOn (r := (o, S2)) hD h p e s m _ below meth c _ _ _ _ _ cx hnm (gz_nh0 hex) hI (lv_entry _ (Nat.le_of_ble_eq_true rfl))
theorem C_X3_runOn {p : Program} {l : Launch} {e : Env} {s : State} {m : MethodId} {args : Array Value} {below : List Frame} {meth : Method} {c : Code} {H : Heap} {locs : List Loc} {cells slots : Nat} {cc : ByteArray} {pc nL : Nat} {ls : Array Slot} {rest : List Value} {G : gG} {S0 S : gm_S} {own : String} {ret : Option FieldType} {d0 index fu : Nat} {x0 : Option Nat} {k : gm_S → gR} {r : Outcome × gm_S} (cx : gx_cx p l s m args meth c G own cc nL ret) (hex : ∀ x ∈ c.exceptionTable.toList, covers x pc = false) (hI : gw_I G S0 S H locs cells slots) (hl : gl_M own index yX3_runOn args s) (hlv : ls.size = nL) (hrest : (rest.map fun v => v.category).sum ≤ 8) (hD : 24 ≤ d0) (hdg : decode cc pc = .ok (.invokevirtual index, 3)) {b : Nat} (hat : g_at S x0 3 = some b) (h : gz_cV (F_X3_runOn fu x0 S) k = some r)
    (kk : ∀ (z : gm_S), k z = some r → ∀ (H : Heap) (locs : List Loc) (cells slots : Nat), gw_I G S0 z H locs cells slots → W p l e (gx_rm d0 S0) s m args below meth c H locs cells slots (gx_MQ below G S0 r.2 r.1 s) (F0 m (pc + 3) ls rest)) : W p l e (gx_rm d0 S0) s m args below meth c H locs cells slots (gx_MQ below G S0 r.2 r.1 s) (F0 m pc ls (va_rf x0 :: rest)) := by
  obtain ⟨rfl, ht⟩ := g_at_s hat
  have hts := cx.2.2.2.2.1
  have hK := cx.2.2.2.2.2.1
  exact gz_goV (d := d0 - 1) (fun S => S) cx hex hI hlv hrest (by omega) (Nat.le_of_ble_eq_true rfl) (gz_ws (lw_meth q862) hts) (hts _ q74) (gb_rawV (As := []) cx hl (hts _ q860) (hts _ q861) (gl_C.code (hts _ q862)) hy_X3_runOn (gr_recv hK hI.1 ht rfl) rfl rfl hdg) (fun o S2 e => M_X3_runOn (x0 := some b) cx.2.2.2.2.2.2.2.2 (by omega) e) h kk
abbrev B_X3_come (l : Launch) (d0 : Nat) (G : gG) (S0 : gm_S) : Nat → List (Nat × Value) → List Value → gm_S → Outcome → gm_S → Prop := gz_B l RX3 "come" cX3_come 2 (Option.none : Option Jvm.ClassFile.FieldType) [] d0 G S0
theorem T_X3_come_19 {l : Launch} {G : gG} {S0 : gm_S} {d0 fu : Nat} {r : Outcome × gm_S} (hD : 24 ≤ d0) {x0 : Option Nat} {S : gm_S} (h : F_X3_come_19 fu x0 S = some r) : B_X3_come l d0 G S0 19 [(0, va_rf x0)] [] S r.1 r.2 := by
  unfold F_X3_come_19 at h
  intro p e s m args below meth c H locs cells slots ls cx hnm hex hI hl
  have hx := cx.1
  have hb := cx.2.1
  have hown := cx.2.2.2.1
  have hts := cx.2.2.2.2.1
  have hK := cx.2.2.2.2.2.1
  refine gr_aload_n hx hb x0 dX3_come_19 rfl (lv_at hl 0 rfl) ?_
  obtain ⟨a1, t1, h⟩ := gz_q_s h
  refine C_X3_runOn cx (gz_nh hex) hI (Or.inl (hts _ q859)) hl.1 (gz_cs (Nat.le_of_ble_eq_true rfl)) (by omega) dX3_come_20 t1 h (fun S1 h H locs cells slots hI => ?_)
  cases h
  exact gr_vret cx hI dX3_come_23
theorem T_X3_come {l : Launch} {G : gG} {S0 : gm_S} {d0 fu : Nat} {r : Outcome × gm_S} (hD : 24 ≤ d0) {x0 : Option Nat} {x1 : Int32} {S : gm_S} (h : F_X3_come fu x0 x1 S = some r) : B_X3_come l d0 G S0 0 [(0, va_rf x0), (1, .int x1)] [] S r.1 r.2 := by
  unfold F_X3_come at h
  intro p e s m args below meth c H locs cells slots ls cx hnm hex hI hl
  have hx := cx.1
  have hb := cx.2.1
  have hown := cx.2.2.2.1
  have hts := cx.2.2.2.2.1
  have hK := cx.2.2.2.2.2.1
  refine gr_aload_n hx hb x0 dX3_come_0 rfl (lv_at hl 0 rfl) ?_
  refine lv_iload_n hx hb dX3_come_1 rfl (lv_at hl 1 rfl) ?_
  obtain ⟨a1, t1, h⟩ := gz_q_s h
  refine C_X3_choose cx (gz_nh hex) hI (Or.inl (hts _ q863)) hl.1 (gz_cs (Nat.le_of_ble_eq_true rfl)) (by omega) dX3_come_2 t1 h (fun S1 h H locs cells slots hI => ?_)
  refine gr_aload_n hx hb x0 dX3_come_5 rfl (lv_at hl 0 rfl) ?_
  obtain ⟨v2, e2, h⟩ := g_bind h
  refine gr_getR cx hI e2 rfl (fun _ => rfl) rfl (Or.inl (hts _ q199)) dX3_come_6 ?_
  obtain ⟨v3, e3, h⟩ := g_bind h
  refine gr_lempty cx (gz_nh hex) hI (Or.inl (hts _ q927)) hl.1 (gz_cs (Nat.le_of_ble_eq_true rfl)) (by omega) dX3_come_9 e3 (fun H locs cells slots hI => ?_)
  refine lv_if_ne (tgt := 19) hx hb dX3_come_12 rfl (fun hc => ?_) (fun hc => ?_)
  · have h := gz_f h hc
    exact T_X3_come_19 hD h p e s m args below meth c H locs cells slots ls cx hnm hex hI (lv_sub hl [0] rfl)
  · have h := gz_t h hc
    refine gr_aload_n hx hb x0 dX3_come_15 rfl (lv_at hl 0 rfl) ?_
    obtain ⟨a4, t4, h⟩ := gz_q_s h
    refine C_X3_step cx (gz_nh hex) hI (Or.inl (hts _ q928)) hl.1 (gz_cs (Nat.le_of_ble_eq_true rfl)) (by omega) dX3_come_16 t4 h (fun S4 h H locs cells slots hI => ?_)
    exact T_X3_come_19 hD h p e s m args below meth c H locs cells slots ls cx hnm hex hI (lv_sub hl [0] rfl)
theorem M_X3_come {l : Launch} {G : gG} {fu d0 : Nat} (hfl : l.flags = flags0) (hD : 24 ≤ d0) {x0 : Option Nat} {x1 : Int32} {S : gm_S} {o : Outcome} {S2 : gm_S} (h : F_X3_come fu x0 x1 S = some (o, S2)) : gx_Met l yX3_come (ws_ yX3_come cX3_come 2 (Option.none : Option Jvm.ClassFile.FieldType)) d0 G S [va_rf x0, .int x1] o S2 := by
  refine gx_of hfl (by decide) (fun p e s m below meth c cx hnm hex hI => ?_)
  rw [lg_entry_eq]
  cases x0 <;> exact T_X3_come (r := (o, S2)) hD h p e s m _ below meth c _ _ _ _ _ cx hnm (gz_nh0 hex) hI (lv_entry _ (Nat.le_of_ble_eq_true rfl))
theorem C_X3_come {p : Program} {l : Launch} {e : Env} {s : State} {m : MethodId} {args : Array Value} {below : List Frame} {meth : Method} {c : Code} {H : Heap} {locs : List Loc} {cells slots : Nat} {cc : ByteArray} {pc nL : Nat} {ls : Array Slot} {rest : List Value} {G : gG} {S0 S : gm_S} {own : String} {ret : Option FieldType} {d0 index fu : Nat} {x0 : Option Nat} {x1 : Int32} {k : gm_S → gR} {r : Outcome × gm_S} (cx : gx_cx p l s m args meth c G own cc nL ret) (hex : ∀ x ∈ c.exceptionTable.toList, covers x pc = false) (hI : gw_I G S0 S H locs cells slots) (hl : gl_M own index yX3_come args s) (hlv : ls.size = nL) (hrest : (rest.map fun v => v.category).sum ≤ 8) (hD : 25 ≤ d0) (hdg : decode cc pc = .ok (.invokevirtual index, 3)) {b : Nat} (hat : g_at S x0 3 = some b) (h : gz_cV (F_X3_come fu x0 x1 S) k = some r)
    (kk : ∀ (z : gm_S), k z = some r → ∀ (H : Heap) (locs : List Loc) (cells slots : Nat), gw_I G S0 z H locs cells slots → W p l e (gx_rm d0 S0) s m args below meth c H locs cells slots (gx_MQ below G S0 r.2 r.1 s) (F0 m (pc + 3) ls rest)) : W p l e (gx_rm d0 S0) s m args below meth c H locs cells slots (gx_MQ below G S0 r.2 r.1 s) (F0 m pc ls (.int x1 :: va_rf x0 :: rest)) := by
  obtain ⟨rfl, ht⟩ := g_at_s hat
  have hts := cx.2.2.2.2.1
  have hK := cx.2.2.2.2.2.1
  exact gz_goV (d := d0 - 1) (fun S => S) cx hex hI hlv hrest (by omega) (Nat.le_of_ble_eq_true rfl) (gz_ws (lw_meth q973) hts) (hts _ q74) (gb_rawV (As := [.int x1]) cx hl (hts _ q971) (hts _ q972) (gl_C.code (hts _ q973)) hy_X3_come (gr_recv hK hI.1 ht rfl) rfl rfl hdg) (fun o S2 e => M_X3_come (x0 := some b) cx.2.2.2.2.2.2.2.2 (by omega) e) h kk
abbrev B_X3_open (l : Launch) (d0 : Nat) (G : gG) (S0 : gm_S) : Nat → List (Nat × Value) → List Value → gm_S → Outcome → gm_S → Prop := gz_B l RX3 "open" cX3_open 1 (Option.none : Option Jvm.ClassFile.FieldType) [] d0 G S0
theorem T_X3_open {l : Launch} {G : gG} {S0 : gm_S} {d0 fu : Nat} {r : Outcome × gm_S} (hD : 2 ≤ d0) {x0 : Option Nat} {S : gm_S} (h : F_X3_open fu x0 S = some r) : B_X3_open l d0 G S0 0 [(0, va_rf x0)] [] S r.1 r.2 := by
  unfold F_X3_open at h
  intro p e s m args below meth c H locs cells slots ls cx hnm hex hI hl
  have hx := cx.1
  have hb := cx.2.1
  have hown := cx.2.2.2.1
  have hts := cx.2.2.2.2.1
  have hK := cx.2.2.2.2.2.1
  refine gr_aload_n hx hb x0 dX3_open_0 rfl (lv_at hl 0 rfl) ?_
  refine lv_iconst hx hb dX3_open_1 gz_ic_0 ?_
  obtain ⟨S1, e1, h⟩ := g_bind h
  refine gr_putI cx hI e1 rfl rfl rfl (Or.inl (hts _ q198)) (Or.inl rfl) dX3_open_2 (fun H locs hI => ?_)
  refine gr_aload_n hx hb x0 dX3_open_5 rfl (lv_at hl 0 rfl) ?_
  refine lv_iconst hx hb dX3_open_6 gz_ic_0 ?_
  obtain ⟨S2, e2, h⟩ := g_bind h
  refine gr_putI cx hI e2 rfl rfl rfl (Or.inl (hts _ q195)) (Or.inl rfl) dX3_open_7 (fun H locs hI => ?_)
  cases h
  exact gr_vret cx hI dX3_open_10
theorem M_X3_open {l : Launch} {G : gG} {fu d0 : Nat} (hfl : l.flags = flags0) (hD : 2 ≤ d0) {x0 : Option Nat} {S : gm_S} {o : Outcome} {S2 : gm_S} (h : F_X3_open fu x0 S = some (o, S2)) : gx_Met l yX3_open (ws_ yX3_open cX3_open 1 (Option.none : Option Jvm.ClassFile.FieldType)) d0 G S [va_rf x0] o S2 := by
  refine gx_of hfl (by decide) (fun p e s m below meth c cx hnm hex hI => ?_)
  rw [lg_entry_eq]
  cases x0 <;> exact T_X3_open (r := (o, S2)) hD h p e s m _ below meth c _ _ _ _ _ cx hnm (gz_nh0 hex) hI (lv_entry _ (Nat.le_of_ble_eq_true rfl))
theorem C_X3_open {p : Program} {l : Launch} {e : Env} {s : State} {m : MethodId} {args : Array Value} {below : List Frame} {meth : Method} {c : Code} {H : Heap} {locs : List Loc} {cells slots : Nat} {cc : ByteArray} {pc nL : Nat} {ls : Array Slot} {rest : List Value} {G : gG} {S0 S : gm_S} {own : String} {ret : Option FieldType} {d0 index fu : Nat} {x0 : Option Nat} {k : gm_S → gR} {r : Outcome × gm_S} (cx : gx_cx p l s m args meth c G own cc nL ret) (hex : ∀ x ∈ c.exceptionTable.toList, covers x pc = false) (hI : gw_I G S0 S H locs cells slots) (hl : gl_M own index yX3_open args s) (hlv : ls.size = nL) (hrest : (rest.map fun v => v.category).sum ≤ 8) (hD : 3 ≤ d0) (hdg : decode cc pc = .ok (.invokevirtual index, 3)) {b : Nat} (hat : g_at S x0 3 = some b) (h : gz_cV (F_X3_open fu x0 S) k = some r)
    (kk : ∀ (z : gm_S), k z = some r → ∀ (H : Heap) (locs : List Loc) (cells slots : Nat), gw_I G S0 z H locs cells slots → W p l e (gx_rm d0 S0) s m args below meth c H locs cells slots (gx_MQ below G S0 r.2 r.1 s) (F0 m (pc + 3) ls rest)) : W p l e (gx_rm d0 S0) s m args below meth c H locs cells slots (gx_MQ below G S0 r.2 r.1 s) (F0 m pc ls (va_rf x0 :: rest)) := by
  obtain ⟨rfl, ht⟩ := g_at_s hat
  have hts := cx.2.2.2.2.1
  have hK := cx.2.2.2.2.2.1
  exact gz_goV (d := d0 - 1) (fun S => S) cx hex hI hlv hrest (by omega) (Nat.le_of_ble_eq_true rfl) (gz_ws (lw_meth q765) hts) (hts _ q74) (gb_rawV (As := []) cx hl (hts _ q763) (hts _ q764) (gl_C.code (hts _ q765)) hy_X3_open (gr_recv hK hI.1 ht rfl) rfl rfl hdg) (fun o S2 e => M_X3_open (x0 := some b) cx.2.2.2.2.2.2.2.2 (by omega) e) h kk
abbrev B_X1_event (l : Launch) (d0 : Nat) (G : gG) (S0 : gm_S) : Nat → List (Nat × Value) → List Value → gm_S → Outcome → gm_S → Prop := gz_B l RX1 "event" cX1_event 2 (Option.some Jvm.ClassFile.FieldType.int) [] d0 G S0
theorem T_X1_event_12 {l : Launch} {G : gG} {S0 : gm_S} {d0 fu : Nat} {r : Outcome × gm_S} (hD : 25 ≤ d0)  {S : gm_S} (h : F_X1_event_12 fu  S = some r) : B_X1_event l d0 G S0 12 [] [] S r.1 r.2 := by
  unfold F_X1_event_12 at h
  intro p e s m args below meth c H locs cells slots ls cx hnm hex hI hl
  have hx := cx.1
  have hb := cx.2.1
  have hown := cx.2.2.2.1
  have hts := cx.2.2.2.2.1
  have hK := cx.2.2.2.2.2.1
  obtain ⟨q1, e1, h⟩ := g_bind h
  cases h
  exact gr_throw cx hI (t := 17) (a := q1.1) (S2 := q1.2) (ic := 82) e1 (by decide) q318 q341 q82 gt_own_C_17_P (by decide) (by omega) (gz_cs (Nat.le_of_ble_eq_true rfl)) hl.1 (gz_nh hex) dX1_event_12 dX1_event_15 dX1_event_16 dX1_event_19
theorem T_X1_event {l : Launch} {G : gG} {S0 : gm_S} {d0 fu : Nat} {r : Outcome × gm_S} (hD : 25 ≤ d0) {x0 : Option Nat} {x1 : Int32} {S : gm_S} (h : F_X1_event fu x0 x1 S = some r) : B_X1_event l d0 G S0 0 [(0, va_rf x0), (1, .int x1)] [] S r.1 r.2 := by
  unfold F_X1_event at h
  intro p e s m args below meth c H locs cells slots ls cx hnm hex hI hl
  have hx := cx.1
  have hb := cx.2.1
  have hown := cx.2.2.2.1
  have hts := cx.2.2.2.2.1
  have hK := cx.2.2.2.2.2.1
  refine lv_iload_n hx hb dX1_event_0 rfl (lv_at hl 1 rfl) ?_
  refine lv_bipush hx hb dX1_event_1 gz_bp_65 ?_
  refine lv_icmp_lt (tgt := 12) hx hb dX1_event_3 rfl (fun hc => ?_) (fun hc => ?_)
  · have h := gz_t h hc
    exact T_X1_event_12 hD h p e s m args below meth c H locs cells slots ls cx hnm hex hI (lv_sub hl [] rfl)
  · have h := gz_f h hc
    refine lv_iload_n hx hb dX1_event_6 rfl (lv_at hl 1 rfl) ?_
    refine lv_bipush hx hb dX1_event_7 gz_bp_72 ?_
    refine lv_icmp_le (tgt := 20) hx hb dX1_event_9 rfl (fun hc => ?_) (fun hc => ?_)
    · have h := gz_t h hc
      refine gr_aload_n hx hb x0 dX1_event_20 rfl (lv_at hl 0 rfl) ?_
      obtain ⟨v1, e1, h⟩ := g_bind h
      refine gr_getR cx hI e1 rfl (fun _ => rfl) rfl (Or.inl (hts _ q232)) dX1_event_21 ?_
      obtain ⟨v2, e2, h⟩ := g_bind h
      refine gr_getI cx hI e2 rfl (fun _ => rfl) rfl (Or.inr ⟨_, gk_w hK q183 rfl⟩) dX1_event_24 ?_
      refine lv_if_ne (tgt := 38) hx hb dX1_event_27 rfl (fun hc => ?_) (fun hc => ?_)
      · have h := gz_f h hc
        refine gr_aload_n hx hb x0 dX1_event_38 rfl (lv_at hl 0 rfl) ?_
        obtain ⟨v3, e3, h⟩ := g_bind h
        refine gr_getR cx hI e3 rfl (fun _ => rfl) rfl (Or.inl (hts _ q232)) dX1_event_39 ?_
        obtain ⟨a4, t4, h⟩ := gz_q_s h
        refine C_X3_open cx (gz_nh hex) hI (Or.inl (hts _ q969)) hl.1 (gz_cs (Nat.le_of_ble_eq_true rfl)) (by omega) dX1_event_42 t4 h (fun S4 h H locs cells slots hI => ?_)
        refine gr_aload_n hx hb x0 dX1_event_45 rfl (lv_at hl 0 rfl) ?_
        obtain ⟨v5, e5, h⟩ := g_bind h
        refine gr_getR cx hI e5 rfl (fun _ => rfl) rfl (Or.inl (hts _ q232)) dX1_event_46 ?_
        refine lv_iload_n hx hb dX1_event_49 rfl (lv_at hl 1 rfl) ?_
        obtain ⟨a6, t6, h⟩ := gz_q_s h
        refine C_X3_come cx (gz_nh hex) hI (Or.inl (hts _ q970)) hl.1 (gz_cs (Nat.le_of_ble_eq_true rfl)) (by omega) dX1_event_50 t6 h (fun S6 h H locs cells slots hI => ?_)
        refine gr_aload_n hx hb x0 dX1_event_53 rfl (lv_at hl 0 rfl) ?_
        obtain ⟨v7, e7, h⟩ := g_bind h
        refine gr_getR cx hI e7 rfl (fun _ => rfl) rfl (Or.inl (hts _ q232)) dX1_event_54 ?_
        obtain ⟨v8, e8, h⟩ := g_bind h
        refine gr_getI cx hI e8 rfl (fun _ => rfl) rfl (Or.inr ⟨_, gk_w hK q197 rfl⟩) dX1_event_57 ?_
        cases h
        exact gr_iret cx hI dX1_event_60
      · have h := gz_t h hc
        obtain ⟨q9, e9, h⟩ := g_bind h
        cases h
        exact gr_throw cx hI (t := 18) (a := q9.1) (S2 := q9.2) (ic := 98) e9 (by decide) q740 q741 q99 gt_own_C_18_P (by decide) (by omega) (gz_cs (Nat.le_of_ble_eq_true rfl)) hl.1 (gz_nh hex) dX1_event_30 dX1_event_33 dX1_event_34 dX1_event_37
    · have h := gz_f h hc
      exact T_X1_event_12 hD h p e s m args below meth c H locs cells slots ls cx hnm hex hI (lv_sub hl [] rfl)
theorem M_X1_event {l : Launch} {G : gG} {fu d0 : Nat} (hfl : l.flags = flags0) (hD : 25 ≤ d0) {x0 : Option Nat} {x1 : Int32} {S : gm_S} {o : Outcome} {S2 : gm_S} (h : F_X1_event fu x0 x1 S = some (o, S2)) : gx_Met l yX1_event (ws_ yX1_event cX1_event 2 (Option.some Jvm.ClassFile.FieldType.int)) d0 G S [va_rf x0, .int x1] o S2 := by
  refine gx_of hfl (by decide) (fun p e s m below meth c cx hnm hex hI => ?_)
  rw [lg_entry_eq]
  cases x0 <;> exact T_X1_event (r := (o, S2)) hD h p e s m _ below meth c _ _ _ _ _ cx hnm (gz_nh0 hex) hI (lv_entry _ (Nat.le_of_ble_eq_true rfl))
abbrev B_X0_event (l : Launch) (d0 : Nat) (G : gG) (S0 : gm_S) : Nat → List (Nat × Value) → List Value → gm_S → Outcome → gm_S → Prop := gz_B l RX0 "event" cX0_event 4 (Option.some Jvm.ClassFile.FieldType.int) [⟨0, 9, 12, 13⟩, ⟨0, 9, 15, 18⟩, ⟨0, 9, 18, 20⟩] d0 G S0
theorem T_X0_event {l : Launch} {G : gG} {S0 : gm_S} {d0 fu : Nat} {r : Outcome × gm_S} (hD : 26 ≤ d0) {x0 : Option Nat} {x1 : Int32} {x2 : Option Nat} {S : gm_S} (h : F_X0_event fu x0 x1 x2 S = some r) : B_X0_event l d0 G S0 0 [(0, va_rf x0), (1, .int x1), (2, va_rf x2)] [] S r.1 r.2 := by
  unfold F_X0_event at h
  intro p e s m args below meth c H locs cells slots ls cx hnm hex hI hl
  have hx := cx.1
  have hb := cx.2.1
  have hown := cx.2.2.2.1
  have hts := cx.2.2.2.2.1
  have hK := cx.2.2.2.2.2.1
  refine gr_aload_n hx hb x2 dX0_event_0 rfl (lv_at hl 2 rfl) ?_
  refine lv_iconst hx hb dX0_event_1 gz_ic_0 ?_
  refine gr_aload_n hx hb x0 dX0_event_2 rfl (lv_at hl 0 rfl) ?_
  refine lv_iload_n hx hb dX0_event_3 rfl (lv_at hl 1 rfl) ?_
  obtain ⟨a1, t1, h⟩ := gz_q_s h
  obtain ⟨a1_, z1_, y1_⟩ : ∃ a, a = a1 ∧ True := ⟨a1, rfl, trivial⟩
  obtain ⟨z1, y1⟩ := g_at_s t1
  rw [← z1_] at z1 y1
  rcases gz_tI_s h with ⟨v1, S1, w1, h⟩ | ⟨a1, S1, w1, h⟩
  · refine gr_callR (gb_rawV (As := [.int x1]) cx (Or.inl (hts _ q965)) (hts _ q966) (hts _ q967) (gl_C.code (hts _ q968)) hy_X1_event (gr_recv hK hI.1 y1 rfl) rfl (by rw [z1]; rfl) dX0_event_4) (M_X1_event (x0 := some a1_) cx.2.2.2.2.2.2.2.2 (by omega) (by rw [← z1]; exact w1)) (d := d0 - 1) (by omega) (Nat.le_of_ble_eq_true rfl) (gz_ws (lw_meth q968) hts) (hts _ q72) hI hK rfl (by rw [cx.2.2.1]; exact hl.1) (lv_room (m := m) (pc := 0) (ls := ls) (rest := []) (gz_cs (st := [.int (0 : Int32), va_rf x2]) (Nat.le_of_ble_eq_true rfl))) (fun H locs cells slots hI => ?_)
    refine lv_i2l hx hb dX0_event_7 rfl ?_
    obtain ⟨S2, e2, h⟩ := g_bind h
    refine gr_last cx hI e2 dX0_event_8 (fun H locs hI => ?_)
    refine lv_goto (tgt := 21) hx hb dX0_event_9 rfl ?_
    refine lv_iconst hx hb dX0_event_21 gz_ic_0 ?_
    cases h
    exact gr_iret cx hI dX0_event_22
  · by_cases hc : gs_t S1 a1 = 17
    · have h := gz_t h hc
      refine gr_callC (t := 17) cx (gb_rawV (As := [.int x1]) cx (Or.inl (hts _ q965)) (hts _ q966) (hts _ q967) (gl_C.code (hts _ q968)) hy_X1_event (gr_recv hK hI.1 y1 rfl) rfl (by rw [z1]; rfl) dX0_event_4) (M_X1_event (x0 := some a1_) cx.2.2.2.2.2.2.2.2 (by omega) (by rw [← z1]; exact w1)) (d := d0 - 1) (by omega) (Nat.le_of_ble_eq_true rfl) (gz_ws (lw_meth q968) hts) (hts _ q72) hI rfl (by rw [cx.2.2.1]; exact hl.1) (lv_room (m := m) (pc := 0) (ls := ls) (rest := []) (gz_cs (st := [.int (0 : Int32), va_rf x2]) (Nat.le_of_ble_eq_true rfl))) hc (by decide) [] ⟨0, 9, 12, 13⟩ [⟨0, 9, 15, 18⟩, ⟨0, 9, 18, 20⟩] hex rfl (by decide) (hts _ q313) q342 gz_nilE (fun H locs cells slots hI => ?_)
      refine gz_astore_n hx hb dX0_event_12 rfl hl (by decide) [] rfl gz_nil (fun ls hl => ?_)
      refine lv_iconst hx hb dX0_event_13 gz_ic_1 ?_
      cases h
      exact gr_iret cx hI dX0_event_14
    have h := gz_f h hc
    by_cases hc : gs_t S1 a1 = 18
    · have h := gz_t h hc
      refine gr_callC (t := 18) cx (gb_rawV (As := [.int x1]) cx (Or.inl (hts _ q965)) (hts _ q966) (hts _ q967) (gl_C.code (hts _ q968)) hy_X1_event (gr_recv hK hI.1 y1 rfl) rfl (by rw [z1]; rfl) dX0_event_4) (M_X1_event (x0 := some a1_) cx.2.2.2.2.2.2.2.2 (by omega) (by rw [← z1]; exact w1)) (d := d0 - 1) (by omega) (Nat.le_of_ble_eq_true rfl) (gz_ws (lw_meth q968) hts) (hts _ q72) hI rfl (by rw [cx.2.2.1]; exact hl.1) (lv_room (m := m) (pc := 0) (ls := ls) (rest := []) (gz_cs (st := [.int (0 : Int32), va_rf x2]) (Nat.le_of_ble_eq_true rfl))) hc (by decide) [⟨0, 9, 12, 13⟩] ⟨0, 9, 15, 18⟩ [⟨0, 9, 18, 20⟩] hex rfl (by decide) (hts _ q734) q742 (gz_conE ⟨rfl, by decide, _, hts _ q313, hK.2.2.2.2.2.2.2.2.2.2.2⟩ gz_nilE) (fun H locs cells slots hI => ?_)
      refine gz_astore_n hx hb dX0_event_15 rfl hl (by decide) [] rfl gz_nil (fun ls hl => ?_)
      refine lv_iconst hx hb dX0_event_16 gz_ic_2 ?_
      cases h
      exact gr_iret cx hI dX0_event_17
    have h := gz_f h hc
    by_cases hc : gs_t S1 a1 = 19
    · have h := gz_t h hc
      refine gr_callC (t := 19) cx (gb_rawV (As := [.int x1]) cx (Or.inl (hts _ q965)) (hts _ q966) (hts _ q967) (gl_C.code (hts _ q968)) hy_X1_event (gr_recv hK hI.1 y1 rfl) rfl (by rw [z1]; rfl) dX0_event_4) (M_X1_event (x0 := some a1_) cx.2.2.2.2.2.2.2.2 (by omega) (by rw [← z1]; exact w1)) (d := d0 - 1) (by omega) (Nat.le_of_ble_eq_true rfl) (gz_ws (lw_meth q968) hts) (hts _ q72) hI rfl (by rw [cx.2.2.1]; exact hl.1) (lv_room (m := m) (pc := 0) (ls := ls) (rest := []) (gz_cs (st := [.int (0 : Int32), va_rf x2]) (Nat.le_of_ble_eq_true rfl))) hc (by decide) [⟨0, 9, 12, 13⟩, ⟨0, 9, 15, 18⟩] ⟨0, 9, 18, 20⟩ [] hex rfl (by decide) (hts _ q735) q934 (gz_conE ⟨rfl, by decide, _, hts _ q313, hK.2.2.2.2.2.2.2.2.2.1⟩ (gz_conE ⟨rfl, by decide, _, hts _ q734, hK.2.2.2.2.2.2.2.2.2.2.1⟩ gz_nilE)) (fun H locs cells slots hI => ?_)
      refine gz_astore_n hx hb dX0_event_18 rfl hl (by decide) [] rfl gz_nil (fun ls hl => ?_)
      refine lv_iconst hx hb dX0_event_19 gz_ic_3 ?_
      cases h
      exact gr_iret cx hI dX0_event_20
    have h := gz_f h hc
    cases h
theorem M_X0_event {l : Launch} {G : gG} {fu d0 : Nat} (hfl : l.flags = flags0) (hD : 26 ≤ d0) {x0 : Option Nat} {x1 : Int32} {x2 : Option Nat} {S : gm_S} {o : Outcome} {S2 : gm_S} (h : F_X0_event fu x0 x1 x2 S = some (o, S2)) : gx_Met l yX0_event (wsW_ yX0_event cX0_event 4 (Option.some Jvm.ClassFile.FieldType.int) [((0 : Nat), (9 : Nat), (12 : Nat), (13 : Nat)), ((0 : Nat), (9 : Nat), (15 : Nat), (18 : Nat)), ((0 : Nat), (9 : Nat), (18 : Nat), (20 : Nat))]) d0 G S [va_rf x0, .int x1, va_rf x2] o S2 := by
  refine gx_ofH hfl (by decide) (fun p e s m below meth c cx hnm hex hI => ?_)
  rw [lg_entry_eq]
  cases x0 <;> cases x2 <;> exact T_X0_event (r := (o, S2)) hD h p e s m _ below meth c _ _ _ _ _ cx hnm hex hI (lv_entry _ (Nat.le_of_ble_eq_true rfl))
abbrev B_X3_begin (l : Launch) (d0 : Nat) (G : gG) (S0 : gm_S) : Nat → List (Nat × Value) → List Value → gm_S → Outcome → gm_S → Prop := gz_B l RX3 "begin" cX3_begin 3 (Option.none : Option Jvm.ClassFile.FieldType) [] d0 G S0
theorem T_X3_begin_6 {l : Launch} {G : gG} {S0 : gm_S} {d0 fu : Nat} {r : Outcome × gm_S} (hD : 24 ≤ d0) : ∀ (n : Nat) (x0 : Option Nat) (x1 : Int32) (S : gm_S), F_X3_begin_6 fu n x0 x1 S = some r → B_X3_begin l d0 G S0 6 [(0, va_rf x0), (1, .int x1)] [] S r.1 r.2 := by
  intro n
  induction n with
  | zero => intro x0 x1 S h; exact nomatch (show (none : gR) = some r from h)
  | succ n ih =>
    intro x0 x1 S h
    rw [F_X3_begin_6] at h
    intro p e s m args below meth c H locs cells slots ls cx hnm hex hI hl
    have hx := cx.1
    have hb := cx.2.1
    have hown := cx.2.2.2.1
    have hts := cx.2.2.2.2.1
    have hK := cx.2.2.2.2.2.1
    refine lv_iload_n hx hb dX3_begin_6 rfl (lv_at hl 1 rfl) ?_
    refine gr_aload_n hx hb x0 dX3_begin_7 rfl (lv_at hl 0 rfl) ?_
    obtain ⟨v1, e1, h⟩ := g_bind h
    refine gr_getR cx hI e1 rfl (fun _ => rfl) rfl (Or.inl (hts _ q180)) dX3_begin_8 ?_
    obtain ⟨v2, e2, h⟩ := g_bind h
    refine gr_lsize cx (gz_nh hex) hI (Or.inl (hts _ q759)) hl.1 (gz_cs (Nat.le_of_ble_eq_true rfl)) (by omega) dX3_begin_11 e2 (fun H locs cells slots hI => ?_)
    refine lv_icmp_ge (tgt := 45) hx hb dX3_begin_14 rfl (fun hc => ?_) (fun hc => ?_)
    · have h := gz_t h hc
      refine gr_aload_n hx hb x0 dX3_begin_45 rfl (lv_at hl 0 rfl) ?_
      refine lv_iconst hx hb dX3_begin_46 gz_ic_0 ?_
      obtain ⟨S3, e3, h⟩ := g_bind h
      refine gr_putI cx hI e3 rfl rfl rfl (Or.inl (hts _ q189)) (Or.inl rfl) dX3_begin_47 (fun H locs hI => ?_)
      refine gr_aload_n hx hb x0 dX3_begin_50 rfl (lv_at hl 0 rfl) ?_
      obtain ⟨v4, e4, h⟩ := g_bind h
      refine gr_getR cx hI e4 rfl (fun _ => rfl) rfl (Or.inl (hts _ q190)) dX3_begin_51 ?_
      obtain ⟨S5, e5, h⟩ := g_bind h
      refine gr_lclear cx (gz_nh hex) hI (Or.inl (hts _ q723)) hl.1 (gz_cs (Nat.le_of_ble_eq_true rfl)) (by omega) dX3_begin_54 e5 (fun H locs cells slots hI => ?_)
      refine gr_aload_n hx hb x0 dX3_begin_57 rfl (lv_at hl 0 rfl) ?_
      refine lv_iconst hx hb dX3_begin_58 gz_ic_0 ?_
      obtain ⟨S6, e6, h⟩ := g_bind h
      refine gr_putI cx hI e6 rfl rfl rfl (Or.inl (hts _ q192)) (Or.inl rfl) dX3_begin_59 (fun H locs hI => ?_)
      refine gr_aload_n hx hb x0 dX3_begin_62 rfl (lv_at hl 0 rfl) ?_
      refine lv_iconst hx hb dX3_begin_63 gz_ic_0 ?_
      obtain ⟨S7, e7, h⟩ := g_bind h
      refine gr_putI cx hI e7 rfl rfl rfl (Or.inl (hts _ q184)) (Or.inl rfl) dX3_begin_64 (fun H locs hI => ?_)
      refine gr_aload_n hx hb x0 dX3_begin_67 rfl (lv_at hl 0 rfl) ?_
      refine lv_iconst hx hb dX3_begin_68 gz_ic_1 ?_
      obtain ⟨S8, e8, h⟩ := g_bind h
      refine gr_putZ cx hI e8 rfl rfl rfl (Or.inl (hts _ q182)) (Or.inl rfl) dX3_begin_69 (fun H locs hI => ?_)
      refine gr_aload_n hx hb x0 dX3_begin_72 rfl (lv_at hl 0 rfl) ?_
      obtain ⟨a9, t9, h⟩ := gz_q_s h
      refine C_X3_open cx (gz_nh hex) hI (Or.inl (hts _ q762)) hl.1 (gz_cs (Nat.le_of_ble_eq_true rfl)) (by omega) dX3_begin_73 t9 h (fun S9 h H locs cells slots hI => ?_)
      refine gr_aload_n hx hb x0 dX3_begin_76 rfl (lv_at hl 0 rfl) ?_
      refine gr_aload_n hx hb x0 dX3_begin_77 rfl (lv_at hl 0 rfl) ?_
      obtain ⟨v10, e10, h⟩ := g_bind h
      refine gr_getR cx hI e10 rfl (fun _ => rfl) rfl (Or.inl (hts _ q180)) dX3_begin_78 ?_
      refine lv_iconst hx hb dX3_begin_81 gz_ic_0 ?_
      obtain ⟨v11, e11, h⟩ := g_bind h
      refine gr_lgetr cx (gz_nh hex) hI (Or.inl (hts _ q760)) hl.1 (gz_cs (Nat.le_of_ble_eq_true rfl)) (by omega) dX3_begin_82 e11 (fun H locs cells slots hI => ?_)
      obtain ⟨a12, e12, h⟩ := gz_q_s h
      refine gr_ck1 cx hI e12 rfl (hts _ q761) dX3_begin_85 ?_
      refine lv_iconst hx hb dX3_begin_88 gz_ic_0 ?_
      refine C_X1_down cx (gz_nh hex) hI (Or.inr ⟨_, gk_w hK q766 rfl⟩) hl.1 (gz_cs (Nat.le_of_ble_eq_true rfl)) (by omega) dX3_begin_89 h (fun v13 S13 h H locs cells slots hI => ?_)
      obtain ⟨a14, t14, h⟩ := gz_q_s h
      refine C_X3_enter cx (gz_nh hex) hI (Or.inl (hts _ q771)) hl.1 (gz_cs (Nat.le_of_ble_eq_true rfl)) (by omega) dX3_begin_92 t14 h (fun S14 h H locs cells slots hI => ?_)
      refine gr_aload_n hx hb x0 dX3_begin_95 rfl (lv_at hl 0 rfl) ?_
      obtain ⟨a15, t15, h⟩ := gz_q_s h
      refine C_X3_runOn cx (gz_nh hex) hI (Or.inl (hts _ q859)) hl.1 (gz_cs (Nat.le_of_ble_eq_true rfl)) (by omega) dX3_begin_96 t15 h (fun S15 h H locs cells slots hI => ?_)
      cases h
      exact gr_vret cx hI dX3_begin_99
    · have h := gz_f h hc
      refine gr_aload_n hx hb x0 dX3_begin_17 rfl (lv_at hl 0 rfl) ?_
      obtain ⟨v16, e16, h⟩ := g_bind h
      refine gr_getR cx hI e16 rfl (fun _ => rfl) rfl (Or.inl (hts _ q180)) dX3_begin_18 ?_
      refine lv_iload_n hx hb dX3_begin_21 rfl (lv_at hl 1 rfl) ?_
      obtain ⟨v17, e17, h⟩ := g_bind h
      refine gr_lgetr cx (gz_nh hex) hI (Or.inl (hts _ q760)) hl.1 (gz_cs (Nat.le_of_ble_eq_true rfl)) (by omega) dX3_begin_22 e17 (fun H locs cells slots hI => ?_)
      obtain ⟨a18, e18, h⟩ := gz_q_s h
      refine gr_ck1 cx hI e18 rfl (hts _ q761) dX3_begin_25 ?_
      refine gz_astore_n hx hb dX3_begin_28 rfl hl (by decide) [0, 1] rfl (gz_con ⟨gz_ne rfl, Or.inl (gz_ne rfl)⟩ (gz_con ⟨gz_ne rfl, Or.inr rfl⟩ gz_nil)) (fun ls hl => ?_)
      refine gr_aload_n hx hb (some v17) dX3_begin_29 rfl (lv_at hl 0 rfl) ?_
      refine lv_iconst hx hb dX3_begin_30 gz_ic_0 ?_
      obtain ⟨S19, e19, h⟩ := g_bind h
      refine gr_putI cx hI e19 rfl rfl rfl (Or.inr ⟨_, gk_w hK q438 rfl⟩) (Or.inl rfl) dX3_begin_31 (fun H locs hI => ?_)
      refine gr_aload_n hx hb (some v17) dX3_begin_34 rfl (lv_at hl 0 rfl) ?_
      refine lv_iconst hx hb dX3_begin_35 gz_ic_0 ?_
      obtain ⟨S20, e20, h⟩ := g_bind h
      refine gr_putI cx hI e20 rfl rfl rfl (Or.inr ⟨_, gk_w hK q440 rfl⟩) (Or.inl rfl) dX3_begin_36 (fun H locs hI => ?_)
      refine gz_iinc (k := 2) (v := (x1 + (1 : Int32))) hx hb dX3_begin_39 hl rfl (congrArg (fun z => x1 + z) gz_ic_1) (by decide) [1] rfl (gz_con ⟨gz_ne rfl, Or.inr (gl_cat x0)⟩ gz_nil) (fun ls hl => ?_)
      refine lv_goto (tgt := 6) hx hb dX3_begin_42 rfl ?_
      exact ih _ _ _ h p e s m args below meth c H locs cells slots ls cx hnm hex hI (lv_sub hl [1, 0] rfl)
theorem T_X3_begin {l : Launch} {G : gG} {S0 : gm_S} {d0 fu : Nat} {r : Outcome × gm_S} (hD : 24 ≤ d0) {x0 : Option Nat} {S : gm_S} (h : F_X3_begin fu x0 S = some r) : B_X3_begin l d0 G S0 0 [(0, va_rf x0)] [] S r.1 r.2 := by
  unfold F_X3_begin at h
  intro p e s m args below meth c H locs cells slots ls cx hnm hex hI hl
  have hx := cx.1
  have hb := cx.2.1
  have hown := cx.2.2.2.1
  have hts := cx.2.2.2.2.1
  have hK := cx.2.2.2.2.2.1
  refine gr_aload_n hx hb x0 dX3_begin_0 rfl (lv_at hl 0 rfl) ?_
  obtain ⟨a1, t1, h⟩ := gz_q_s h
  refine C_X3_clear cx (gz_nh hex) hI (Or.inl (hts _ q727)) hl.1 (gz_cs (Nat.le_of_ble_eq_true rfl)) (by omega) dX3_begin_1 t1 h (fun S1 h H locs cells slots hI => ?_)
  refine lv_iconst hx hb dX3_begin_4 gz_ic_0 ?_
  refine gz_istore_n hx hb dX3_begin_5 rfl hl (by decide) [0] rfl (gz_con ⟨gz_ne rfl, Or.inr (gl_cat x0)⟩ gz_nil) (fun ls hl => ?_)
  exact T_X3_begin_6 hD fu _ _ _ h p e s m args below meth c H locs cells slots ls cx hnm hex hI (lv_sub hl [1, 0] rfl)
theorem M_X3_begin {l : Launch} {G : gG} {fu d0 : Nat} (hfl : l.flags = flags0) (hD : 24 ≤ d0) {x0 : Option Nat} {S : gm_S} {o : Outcome} {S2 : gm_S} (h : F_X3_begin fu x0 S = some (o, S2)) : gx_Met l yX3_begin (ws_ yX3_begin cX3_begin 3 (Option.none : Option Jvm.ClassFile.FieldType)) d0 G S [va_rf x0] o S2 := by
  refine gx_of hfl (by decide) (fun p e s m below meth c cx hnm hex hI => ?_)
  rw [lg_entry_eq]
  cases x0 <;> exact T_X3_begin (r := (o, S2)) hD h p e s m _ below meth c _ _ _ _ _ cx hnm (gz_nh0 hex) hI (lv_entry _ (Nat.le_of_ble_eq_true rfl))
theorem C_X3_begin {p : Program} {l : Launch} {e : Env} {s : State} {m : MethodId} {args : Array Value} {below : List Frame} {meth : Method} {c : Code} {H : Heap} {locs : List Loc} {cells slots : Nat} {cc : ByteArray} {pc nL : Nat} {ls : Array Slot} {rest : List Value} {G : gG} {S0 S : gm_S} {own : String} {ret : Option FieldType} {d0 index fu : Nat} {x0 : Option Nat} {k : gm_S → gR} {r : Outcome × gm_S} (cx : gx_cx p l s m args meth c G own cc nL ret) (hex : ∀ x ∈ c.exceptionTable.toList, covers x pc = false) (hI : gw_I G S0 S H locs cells slots) (hl : gl_M own index yX3_begin args s) (hlv : ls.size = nL) (hrest : (rest.map fun v => v.category).sum ≤ 8) (hD : 25 ≤ d0) (hdg : decode cc pc = .ok (.invokevirtual index, 3)) {b : Nat} (hat : g_at S x0 3 = some b) (h : gz_cV (F_X3_begin fu x0 S) k = some r)
    (kk : ∀ (z : gm_S), k z = some r → ∀ (H : Heap) (locs : List Loc) (cells slots : Nat), gw_I G S0 z H locs cells slots → W p l e (gx_rm d0 S0) s m args below meth c H locs cells slots (gx_MQ below G S0 r.2 r.1 s) (F0 m (pc + 3) ls rest)) : W p l e (gx_rm d0 S0) s m args below meth c H locs cells slots (gx_MQ below G S0 r.2 r.1 s) (F0 m pc ls (va_rf x0 :: rest)) := by
  obtain ⟨rfl, ht⟩ := g_at_s hat
  have hts := cx.2.2.2.2.1
  have hK := cx.2.2.2.2.2.1
  exact gz_goV (d := d0 - 1) (fun S => S) cx hex hI hlv hrest (by omega) (Nat.le_of_ble_eq_true rfl) (gz_ws (lw_meth q758) hts) (hts _ q74) (gb_rawV (As := []) cx hl (hts _ q756) (hts _ q757) (gl_C.code (hts _ q758)) hy_X3_begin (gr_recv hK hI.1 ht rfl) rfl rfl hdg) (fun o S2 e => M_X3_begin (x0 := some b) cx.2.2.2.2.2.2.2.2 (by omega) e) h kk
abbrev B_X1_start (l : Launch) (d0 : Nat) (G : gG) (S0 : gm_S) : Nat → List (Nat × Value) → List Value → gm_S → Outcome → gm_S → Prop := gz_B l RX1 "start" cX1_start 1 (Option.some Jvm.ClassFile.FieldType.int) [] d0 G S0
theorem T_X1_start {l : Launch} {G : gG} {S0 : gm_S} {d0 fu : Nat} {r : Outcome × gm_S} (hD : 25 ≤ d0) {x0 : Option Nat} {S : gm_S} (h : F_X1_start fu x0 S = some r) : B_X1_start l d0 G S0 0 [(0, va_rf x0)] [] S r.1 r.2 := by
  unfold F_X1_start at h
  intro p e s m args below meth c H locs cells slots ls cx hnm hex hI hl
  have hx := cx.1
  have hb := cx.2.1
  have hown := cx.2.2.2.1
  have hts := cx.2.2.2.2.1
  have hK := cx.2.2.2.2.2.1
  refine gr_aload_n hx hb x0 dX1_start_0 rfl (lv_at hl 0 rfl) ?_
  obtain ⟨v1, e1, h⟩ := g_bind h
  refine gr_getR cx hI e1 rfl (fun _ => rfl) rfl (Or.inl (hts _ q232)) dX1_start_1 ?_
  obtain ⟨v2, e2, h⟩ := g_bind h
  refine gr_getR cx hI e2 rfl (fun _ => rfl) rfl (Or.inr ⟨_, gk_w hK q181 rfl⟩) dX1_start_4 ?_
  obtain ⟨v3, e3, h⟩ := g_bind h
  refine gr_lempty cx (gz_nh hex) hI (Or.inl (hts _ q267)) hl.1 (gz_cs (Nat.le_of_ble_eq_true rfl)) (by omega) dX1_start_7 e3 (fun H locs cells slots hI => ?_)
  refine lv_if_eq (tgt := 21) hx hb dX1_start_10 rfl (fun hc => ?_) (fun hc => ?_)
  · have h := gz_t h hc
    refine gr_aload_n hx hb x0 dX1_start_21 rfl (lv_at hl 0 rfl) ?_
    obtain ⟨v4, e4, h⟩ := g_bind h
    refine gr_getR cx hI e4 rfl (fun _ => rfl) rfl (Or.inl (hts _ q232)) dX1_start_22 ?_
    obtain ⟨a5, t5, h⟩ := gz_q_s h
    refine C_X3_begin cx (gz_nh hex) hI (Or.inl (hts _ q755)) hl.1 (gz_cs (Nat.le_of_ble_eq_true rfl)) (by omega) dX1_start_25 t5 h (fun S5 h H locs cells slots hI => ?_)
    refine gr_aload_n hx hb x0 dX1_start_28 rfl (lv_at hl 0 rfl) ?_
    obtain ⟨v6, e6, h⟩ := g_bind h
    refine gr_getR cx hI e6 rfl (fun _ => rfl) rfl (Or.inl (hts _ q232)) dX1_start_29 ?_
    obtain ⟨v7, e7, h⟩ := g_bind h
    refine gr_getI cx hI e7 rfl (fun _ => rfl) rfl (Or.inr ⟨_, gk_w hK q197 rfl⟩) dX1_start_32 ?_
    cases h
    exact gr_iret cx hI dX1_start_35
  · have h := gz_f h hc
    obtain ⟨q8, e8, h⟩ := g_bind h
    cases h
    exact gr_throw cx hI (t := 18) (a := q8.1) (S2 := q8.2) (ic := 98) e8 (by decide) q740 q741 q99 gt_own_C_18_P (by decide) (by omega) (gz_cs (Nat.le_of_ble_eq_true rfl)) hl.1 (gz_nh hex) dX1_start_13 dX1_start_16 dX1_start_17 dX1_start_20
theorem M_X1_start {l : Launch} {G : gG} {fu d0 : Nat} (hfl : l.flags = flags0) (hD : 25 ≤ d0) {x0 : Option Nat} {S : gm_S} {o : Outcome} {S2 : gm_S} (h : F_X1_start fu x0 S = some (o, S2)) : gx_Met l yX1_start (ws_ yX1_start cX1_start 1 (Option.some Jvm.ClassFile.FieldType.int)) d0 G S [va_rf x0] o S2 := by
  refine gx_of hfl (by decide) (fun p e s m below meth c cx hnm hex hI => ?_)
  rw [lg_entry_eq]
  cases x0 <;> exact T_X1_start (r := (o, S2)) hD h p e s m _ below meth c _ _ _ _ _ cx hnm (gz_nh0 hex) hI (lv_entry _ (Nat.le_of_ble_eq_true rfl))
abbrev B_X0_start (l : Launch) (d0 : Nat) (G : gG) (S0 : gm_S) : Nat → List (Nat × Value) → List Value → gm_S → Outcome → gm_S → Prop := gz_B l RX0 "start" cX0_start 3 (Option.some Jvm.ClassFile.FieldType.int) [⟨0, 8, 11, 18⟩, ⟨0, 8, 14, 20⟩] d0 G S0
theorem T_X0_start {l : Launch} {G : gG} {S0 : gm_S} {d0 fu : Nat} {r : Outcome × gm_S} (hD : 26 ≤ d0) {x0 : Option Nat} {x1 : Option Nat} {S : gm_S} (h : F_X0_start fu x0 x1 S = some r) : B_X0_start l d0 G S0 0 [(0, va_rf x0), (1, va_rf x1)] [] S r.1 r.2 := by
  unfold F_X0_start at h
  intro p e s m args below meth c H locs cells slots ls cx hnm hex hI hl
  have hx := cx.1
  have hb := cx.2.1
  have hown := cx.2.2.2.1
  have hts := cx.2.2.2.2.1
  have hK := cx.2.2.2.2.2.1
  refine gr_aload_n hx hb x1 dX0_start_0 rfl (lv_at hl 1 rfl) ?_
  refine lv_iconst hx hb dX0_start_1 gz_ic_0 ?_
  refine gr_aload_n hx hb x0 dX0_start_2 rfl (lv_at hl 0 rfl) ?_
  obtain ⟨a1, t1, h⟩ := gz_q_s h
  obtain ⟨a1_, z1_, y1_⟩ : ∃ a, a = a1 ∧ True := ⟨a1, rfl, trivial⟩
  obtain ⟨z1, y1⟩ := g_at_s t1
  rw [← z1_] at z1 y1
  rcases gz_tI_s h with ⟨v1, S1, w1, h⟩ | ⟨a1, S1, w1, h⟩
  · refine gr_callR (gb_rawV (As := []) cx (Or.inl (hts _ q736)) (hts _ q737) (hts _ q738) (gl_C.code (hts _ q739)) hy_X1_start (gr_recv hK hI.1 y1 rfl) rfl (by rw [z1]; rfl) dX0_start_3) (M_X1_start (x0 := some a1_) cx.2.2.2.2.2.2.2.2 (by omega) (by rw [← z1]; exact w1)) (d := d0 - 1) (by omega) (Nat.le_of_ble_eq_true rfl) (gz_ws (lw_meth q739) hts) (hts _ q72) hI hK rfl (by rw [cx.2.2.1]; exact hl.1) (lv_room (m := m) (pc := 0) (ls := ls) (rest := []) (gz_cs (st := [.int (0 : Int32), va_rf x1]) (Nat.le_of_ble_eq_true rfl))) (fun H locs cells slots hI => ?_)
    refine lv_i2l hx hb dX0_start_6 rfl ?_
    obtain ⟨S2, e2, h⟩ := g_bind h
    refine gr_last cx hI e2 dX0_start_7 (fun H locs hI => ?_)
    refine lv_goto (tgt := 17) hx hb dX0_start_8 rfl ?_
    refine lv_iconst hx hb dX0_start_17 gz_ic_0 ?_
    cases h
    exact gr_iret cx hI dX0_start_18
  · by_cases hc : gs_t S1 a1 = 18
    · have h := gz_t h hc
      refine gr_callC (t := 18) cx (gb_rawV (As := []) cx (Or.inl (hts _ q736)) (hts _ q737) (hts _ q738) (gl_C.code (hts _ q739)) hy_X1_start (gr_recv hK hI.1 y1 rfl) rfl (by rw [z1]; rfl) dX0_start_3) (M_X1_start (x0 := some a1_) cx.2.2.2.2.2.2.2.2 (by omega) (by rw [← z1]; exact w1)) (d := d0 - 1) (by omega) (Nat.le_of_ble_eq_true rfl) (gz_ws (lw_meth q739) hts) (hts _ q72) hI rfl (by rw [cx.2.2.1]; exact hl.1) (lv_room (m := m) (pc := 0) (ls := ls) (rest := []) (gz_cs (st := [.int (0 : Int32), va_rf x1]) (Nat.le_of_ble_eq_true rfl))) hc (by decide) [] ⟨0, 8, 11, 18⟩ [⟨0, 8, 14, 20⟩] hex rfl (by decide) (hts _ q734) q742 gz_nilE (fun H locs cells slots hI => ?_)
      refine gz_astore_n hx hb dX0_start_11 rfl hl (by decide) [] rfl gz_nil (fun ls hl => ?_)
      refine lv_iconst hx hb dX0_start_12 gz_ic_1 ?_
      cases h
      exact gr_iret cx hI dX0_start_13
    have h := gz_f h hc
    by_cases hc : gs_t S1 a1 = 19
    · have h := gz_t h hc
      refine gr_callC (t := 19) cx (gb_rawV (As := []) cx (Or.inl (hts _ q736)) (hts _ q737) (hts _ q738) (gl_C.code (hts _ q739)) hy_X1_start (gr_recv hK hI.1 y1 rfl) rfl (by rw [z1]; rfl) dX0_start_3) (M_X1_start (x0 := some a1_) cx.2.2.2.2.2.2.2.2 (by omega) (by rw [← z1]; exact w1)) (d := d0 - 1) (by omega) (Nat.le_of_ble_eq_true rfl) (gz_ws (lw_meth q739) hts) (hts _ q72) hI rfl (by rw [cx.2.2.1]; exact hl.1) (lv_room (m := m) (pc := 0) (ls := ls) (rest := []) (gz_cs (st := [.int (0 : Int32), va_rf x1]) (Nat.le_of_ble_eq_true rfl))) hc (by decide) [⟨0, 8, 11, 18⟩] ⟨0, 8, 14, 20⟩ [] hex rfl (by decide) (hts _ q735) q934 (gz_conE ⟨rfl, by decide, _, hts _ q734, hK.2.2.2.2.2.2.2.2.2.2.1⟩ gz_nilE) (fun H locs cells slots hI => ?_)
      refine gz_astore_n hx hb dX0_start_14 rfl hl (by decide) [] rfl gz_nil (fun ls hl => ?_)
      refine lv_iconst hx hb dX0_start_15 gz_ic_2 ?_
      cases h
      exact gr_iret cx hI dX0_start_16
    have h := gz_f h hc
    cases h
theorem M_X0_start {l : Launch} {G : gG} {fu d0 : Nat} (hfl : l.flags = flags0) (hD : 26 ≤ d0) {x0 : Option Nat} {x1 : Option Nat} {S : gm_S} {o : Outcome} {S2 : gm_S} (h : F_X0_start fu x0 x1 S = some (o, S2)) : gx_Met l yX0_start (wsW_ yX0_start cX0_start 3 (Option.some Jvm.ClassFile.FieldType.int) [((0 : Nat), (8 : Nat), (11 : Nat), (18 : Nat)), ((0 : Nat), (8 : Nat), (14 : Nat), (20 : Nat))]) d0 G S [va_rf x0, va_rf x1] o S2 := by
  refine gx_ofH hfl (by decide) (fun p e s m below meth c cx hnm hex hI => ?_)
  rw [lg_entry_eq]
  cases x0 <;> cases x1 <;> exact T_X0_start (r := (o, S2)) hD h p e s m _ below meth c _ _ _ _ _ cx hnm hex hI (lv_entry _ (Nat.le_of_ble_eq_true rfl))
abbrev B_X3_tick (l : Launch) (d0 : Nat) (G : gG) (S0 : gm_S) : Nat → List (Nat × Value) → List Value → gm_S → Outcome → gm_S → Prop := gz_B l RX3 "tick" cX3_tick 5 (Option.none : Option Jvm.ClassFile.FieldType) [] d0 G S0
theorem T_X3_tick_22 {l : Launch} {G : gG} {S0 : gm_S} {d0 fu : Nat} {r : Outcome × gm_S} (hD : 25 ≤ d0) : ∀ (n : Nat) (x0 : Option Nat) (x1 : Int32) (x2 : Int32) (x3 : Int32) (S : gm_S), F_X3_tick_22 fu n x0 x1 x2 x3 S = some r → B_X3_tick l d0 G S0 22 [(0, va_rf x0), (1, .int x1), (2, .int x2), (3, .int x3)] [] S r.1 r.2 := by
  intro n
  induction n with
  | zero => intro x0 x1 x2 x3 S h; exact nomatch (show (none : gR) = some r from h)
  | succ n ih =>
    intro x0 x1 x2 x3 S h
    rw [F_X3_tick_22] at h
    intro p e s m args below meth c H locs cells slots ls cx hnm hex hI hl
    have hx := cx.1
    have hb := cx.2.1
    have hown := cx.2.2.2.1
    have hts := cx.2.2.2.2.1
    have hK := cx.2.2.2.2.2.1
    refine lv_iload_n hx hb dX3_tick_22 rfl (lv_at hl 3 rfl) ?_
    refine lv_iload_n hx hb dX3_tick_23 rfl (lv_at hl 1 rfl) ?_
    refine lv_icmp_ge (tgt := 82) hx hb dX3_tick_24 rfl (fun hc => ?_) (fun hc => ?_)
    · have h := gz_t h hc
      cases h
      exact gr_vret cx hI dX3_tick_82
    · have h := gz_f h hc
      refine gr_aload_n hx hb x0 dX3_tick_27 rfl (lv_at hl 0 rfl) ?_
      obtain ⟨v1, e1, h⟩ := g_bind h
      refine gr_getR cx hI e1 rfl (fun _ => rfl) rfl (Or.inl (hts _ q190)) dX3_tick_28 ?_
      refine lv_iload_n hx hb dX3_tick_31 rfl (lv_at hl 2 rfl) ?_
      obtain ⟨v2, e2, h⟩ := g_bind h
      refine gr_lgetr cx (gz_nh hex) hI (Or.inl (hts _ q760)) hl.1 (gz_cs (Nat.le_of_ble_eq_true rfl)) (by omega) dX3_tick_32 e2 (fun H locs cells slots hI => ?_)
      obtain ⟨a3, e3, h⟩ := gz_q_s h
      refine gr_ck1 cx hI e3 rfl (hts _ q843) dX3_tick_35 ?_
      refine gz_astore hx hb dX3_tick_38 hl (by decide) [0, 1, 2, 3] rfl (gz_con ⟨gz_ne rfl, Or.inl (gz_ne rfl)⟩ (gz_con ⟨gz_ne rfl, Or.inl (gz_ne rfl)⟩ (gz_con ⟨gz_ne rfl, Or.inl (gz_ne rfl)⟩ (gz_con ⟨gz_ne rfl, Or.inr rfl⟩ gz_nil)))) (fun ls hl => ?_)
      refine gr_aload hx hb (some v2) dX3_tick_40 (lv_at hl 0 rfl) ?_
      obtain ⟨v4, e4, h⟩ := g_bind h
      refine gr_getI cx hI e4 rfl (fun _ => rfl) rfl (Or.inr ⟨_, gk_w hK q852 rfl⟩) dX3_tick_42 ?_
      refine gr_aload_n hx hb x0 dX3_tick_45 rfl (lv_at hl 1 rfl) ?_
      obtain ⟨v5, e5, h⟩ := g_bind h
      refine gr_getI cx hI e5 rfl (fun _ => rfl) rfl (Or.inl (hts _ q192)) dX3_tick_46 ?_
      refine lv_icmp_le (tgt := 58) hx hb dX3_tick_49 rfl (fun hc => ?_) (fun hc => ?_)
      · have h := gz_t h hc
        refine gr_aload_n hx hb x0 dX3_tick_58 rfl (lv_at hl 1 rfl) ?_
        obtain ⟨v6, e6, h⟩ := g_bind h
        refine gr_getR cx hI e6 rfl (fun _ => rfl) rfl (Or.inl (hts _ q190)) dX3_tick_59 ?_
        refine lv_iload_n hx hb dX3_tick_62 rfl (lv_at hl 3 rfl) ?_
        obtain ⟨q7, e7, h⟩ := g_bind h
        refine gr_lremove cx (gz_nh hex) hI (Or.inl (hts _ q918)) hl.1 (gz_cs (Nat.le_of_ble_eq_true rfl)) (by omega) dX3_tick_63 e7 (fun H locs cells slots hI => ?_)
        refine lv_pop hx hb dX3_tick_66 (gl_cat (some q7.1)) ?_
        refine gr_aload_n hx hb x0 dX3_tick_67 rfl (lv_at hl 1 rfl) ?_
        refine gr_aload hx hb (some v2) dX3_tick_68 (lv_at hl 0 rfl) ?_
        obtain ⟨v8, e8, h⟩ := g_bind h
        refine gr_getI cx hI e8 rfl (fun _ => rfl) rfl (Or.inr ⟨_, gk_w hK q850 rfl⟩) dX3_tick_70 ?_
        obtain ⟨a9, t9, h⟩ := gz_q_s h
        refine C_X3_come cx (gz_nh hex) hI (Or.inl (hts _ q985)) hl.1 (gz_cs (Nat.le_of_ble_eq_true rfl)) (by omega) dX3_tick_73 t9 h (fun S9 h H locs cells slots hI => ?_)
        refine gz_iinc (k := 4) (v := (x3 + (1 : Int32))) hx hb dX3_tick_76 hl rfl (congrArg (fun z => x3 + z) gz_ic_1) (by decide) [1, 2, 3] rfl (gz_con ⟨gz_ne rfl, Or.inl (gz_ne rfl)⟩ (gz_con ⟨gz_ne rfl, Or.inl (gz_ne rfl)⟩ (gz_con ⟨gz_ne rfl, Or.inr rfl⟩ gz_nil))) (fun ls hl => ?_)
        refine lv_goto (tgt := 22) hx hb dX3_tick_79 rfl ?_
        exact ih _ _ _ _ _ h p e s m args below meth c H locs cells slots ls cx hnm hex hI (lv_sub hl [1, 2, 3, 0] rfl)
      · have h := gz_f h hc
        refine gz_iinc (k := 3) (v := (x2 + (1 : Int32))) hx hb dX3_tick_52 hl rfl (congrArg (fun z => x2 + z) gz_ic_1) (by decide) [1, 2, 4] rfl (gz_con ⟨gz_ne rfl, Or.inl (gz_ne rfl)⟩ (gz_con ⟨gz_ne rfl, Or.inr rfl⟩ (gz_con ⟨gz_ne rfl, Or.inl (gz_ne rfl)⟩ gz_nil))) (fun ls hl => ?_)
        refine lv_goto (tgt := 76) hx hb dX3_tick_55 rfl ?_
        refine gz_iinc (k := 3) (v := (x3 + (1 : Int32))) hx hb dX3_tick_76 hl rfl (congrArg (fun z => x3 + z) gz_ic_1) (by decide) [0, 1, 2] rfl (gz_con ⟨gz_ne rfl, Or.inr rfl⟩ (gz_con ⟨gz_ne rfl, Or.inl (gz_ne rfl)⟩ (gz_con ⟨gz_ne rfl, Or.inl (gz_ne rfl)⟩ gz_nil))) (fun ls hl => ?_)
        refine lv_goto (tgt := 22) hx hb dX3_tick_79 rfl ?_
        exact ih _ _ _ _ _ h p e s m args below meth c H locs cells slots ls cx hnm hex hI (lv_sub hl [2, 3, 1, 0] rfl)
theorem T_X3_tick {l : Launch} {G : gG} {S0 : gm_S} {d0 fu : Nat} {r : Outcome × gm_S} (hD : 25 ≤ d0) {x0 : Option Nat} {S : gm_S} (h : F_X3_tick fu x0 S = some r) : B_X3_tick l d0 G S0 0 [(0, va_rf x0)] [] S r.1 r.2 := by
  unfold F_X3_tick at h
  intro p e s m args below meth c H locs cells slots ls cx hnm hex hI hl
  have hx := cx.1
  have hb := cx.2.1
  have hown := cx.2.2.2.1
  have hts := cx.2.2.2.2.1
  have hK := cx.2.2.2.2.2.1
  refine gr_aload_n hx hb x0 dX3_tick_0 rfl (lv_at hl 0 rfl) ?_
  refine lv_dup hx hb dX3_tick_1 (gl_cat x0) ?_
  obtain ⟨v1, e1, h⟩ := g_bind h
  refine gr_getI cx hI e1 rfl (fun _ => rfl) rfl (Or.inl (hts _ q192)) dX3_tick_2 ?_
  refine lv_iconst hx hb dX3_tick_5 gz_ic_1 ?_
  refine lv_iadd hx hb dX3_tick_6 ?_
  obtain ⟨S2, e2, h⟩ := g_bind h
  refine gr_putI cx hI e2 rfl rfl rfl (Or.inl (hts _ q192)) (Or.inl rfl) dX3_tick_7 (fun H locs hI => ?_)
  refine gr_aload_n hx hb x0 dX3_tick_10 rfl (lv_at hl 0 rfl) ?_
  obtain ⟨v3, e3, h⟩ := g_bind h
  refine gr_getR cx hI e3 rfl (fun _ => rfl) rfl (Or.inl (hts _ q190)) dX3_tick_11 ?_
  obtain ⟨v4, e4, h⟩ := g_bind h
  refine gr_lsize cx (gz_nh hex) hI (Or.inl (hts _ q759)) hl.1 (gz_cs (Nat.le_of_ble_eq_true rfl)) (by omega) dX3_tick_14 e4 (fun H locs cells slots hI => ?_)
  refine gz_istore_n hx hb dX3_tick_17 rfl hl (by decide) [0] rfl (gz_con ⟨gz_ne rfl, Or.inr (gl_cat x0)⟩ gz_nil) (fun ls hl => ?_)
  refine lv_iconst hx hb dX3_tick_18 gz_ic_0 ?_
  refine gz_istore_n hx hb dX3_tick_19 rfl hl (by decide) [0, 1] rfl (gz_con ⟨gz_ne rfl, Or.inr rfl⟩ (gz_con ⟨gz_ne rfl, Or.inl (gz_ne rfl)⟩ gz_nil)) (fun ls hl => ?_)
  refine lv_iconst hx hb dX3_tick_20 gz_ic_0 ?_
  refine gz_istore_n hx hb dX3_tick_21 rfl hl (by decide) [0, 1, 2] rfl (gz_con ⟨gz_ne rfl, Or.inr rfl⟩ (gz_con ⟨gz_ne rfl, Or.inl (gz_ne rfl)⟩ (gz_con ⟨gz_ne rfl, Or.inl (gz_ne rfl)⟩ gz_nil))) (fun ls hl => ?_)
  exact T_X3_tick_22 hD fu _ _ _ _ _ h p e s m args below meth c H locs cells slots ls cx hnm hex hI (lv_sub hl [3, 2, 1, 0] rfl)
theorem M_X3_tick {l : Launch} {G : gG} {fu d0 : Nat} (hfl : l.flags = flags0) (hD : 25 ≤ d0) {x0 : Option Nat} {S : gm_S} {o : Outcome} {S2 : gm_S} (h : F_X3_tick fu x0 S = some (o, S2)) : gx_Met l yX3_tick (ws_ yX3_tick cX3_tick 5 (Option.none : Option Jvm.ClassFile.FieldType)) d0 G S [va_rf x0] o S2 := by
  refine gx_of hfl (by decide) (fun p e s m below meth c cx hnm hex hI => ?_)
  rw [lg_entry_eq]
  cases x0 <;> exact T_X3_tick (r := (o, S2)) hD h p e s m _ below meth c _ _ _ _ _ cx hnm (gz_nh0 hex) hI (lv_entry _ (Nat.le_of_ble_eq_true rfl))
theorem C_X3_tick {p : Program} {l : Launch} {e : Env} {s : State} {m : MethodId} {args : Array Value} {below : List Frame} {meth : Method} {c : Code} {H : Heap} {locs : List Loc} {cells slots : Nat} {cc : ByteArray} {pc nL : Nat} {ls : Array Slot} {rest : List Value} {G : gG} {S0 S : gm_S} {own : String} {ret : Option FieldType} {d0 index fu : Nat} {x0 : Option Nat} {k : gm_S → gR} {r : Outcome × gm_S} (cx : gx_cx p l s m args meth c G own cc nL ret) (hex : ∀ x ∈ c.exceptionTable.toList, covers x pc = false) (hI : gw_I G S0 S H locs cells slots) (hl : gl_M own index yX3_tick args s) (hlv : ls.size = nL) (hrest : (rest.map fun v => v.category).sum ≤ 8) (hD : 26 ≤ d0) (hdg : decode cc pc = .ok (.invokevirtual index, 3)) {b : Nat} (hat : g_at S x0 3 = some b) (h : gz_cV (F_X3_tick fu x0 S) k = some r)
    (kk : ∀ (z : gm_S), k z = some r → ∀ (H : Heap) (locs : List Loc) (cells slots : Nat), gw_I G S0 z H locs cells slots → W p l e (gx_rm d0 S0) s m args below meth c H locs cells slots (gx_MQ below G S0 r.2 r.1 s) (F0 m (pc + 3) ls rest)) : W p l e (gx_rm d0 S0) s m args below meth c H locs cells slots (gx_MQ below G S0 r.2 r.1 s) (F0 m pc ls (va_rf x0 :: rest)) := by
  obtain ⟨rfl, ht⟩ := g_at_s hat
  have hts := cx.2.2.2.2.1
  have hK := cx.2.2.2.2.2.1
  exact gz_goV (d := d0 - 1) (fun S => S) cx hex hI hlv hrest (by omega) (Nat.le_of_ble_eq_true rfl) (gz_ws (lw_meth q984) hts) (hts _ q74) (gb_rawV (As := []) cx hl (hts _ q982) (hts _ q983) (gl_C.code (hts _ q984)) hy_X3_tick (gr_recv hK hI.1 ht rfl) rfl rfl hdg) (fun o S2 e => M_X3_tick (x0 := some b) cx.2.2.2.2.2.2.2.2 (by omega) e) h kk
