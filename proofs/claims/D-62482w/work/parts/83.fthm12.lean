/-! LAYER 1 (printed): contracts -/
set_option maxRecDepth 100000
abbrev B_X4_note (l : Launch) (d0 : Nat) (G : gG) (S0 : gm_S) : Nat → List (Nat × Value) → List Value → gm_S → Outcome → gm_S → Prop := gz_B l RX4 "note" cX4_note 2 (Option.none : Option Jvm.ClassFile.FieldType) [] d0 G S0
theorem T_X4_note {l : Launch} {G : gG} {S0 S : gm_S} {d0 fu : Nat} {r : Outcome × gM} (hf : gg_f G = true) (hD : 2 ≤ d0) {x1 : Int32} {M : gM} (h : F_X4_note fu x1 M = some r) : B_X4_note l d0 G S0 0 [(0, va_rf (some (gg_o G))), (1, .int x1)] [] (gm_w S M) r.1 (gm_w S r.2) := by
  unfold F_X4_note at h
  intro p e s m args below meth c H locs cells slots ls cx hnm hex hI hl
  have hx := cx.1
  have hb := cx.2.1
  have hown := cx.2.2.2.1
  have hts := cx.2.2.2.2.1
  have hK := cx.2.2.2.2.2.1
  refine gr_aload_n hx hb (some (gg_o G)) dX4_note_0 rfl (lv_at hl 0 rfl) ?_
  refine nr_gI cx hf hI 53 rfl (fun _ => rfl) rfl (Or.inl (hts _ q1045)) dX4_note_1 ?_
  refine lv_bipush hx hb dX4_note_4 gz_bp_100 ?_
  refine lv_icmp_ne (tgt := 10) hx hb dX4_note_6 rfl (fun hc => ?_) (fun hc => ?_)
  · have h := gz_f h hc
    refine gr_aload_n hx hb (some (gg_o G)) dX4_note_10 rfl (lv_at hl 0 rfl) ?_
    refine gr_mgA cx hf hI 54 rfl rfl (Or.inl (hts _ q1046)) dX4_note_11 ?_
    refine gr_aload_n hx hb (some (gg_o G)) dX4_note_14 rfl (lv_at hl 0 rfl) ?_
    refine nr_gI cx hf hI 53 rfl (fun _ => rfl) rfl (Or.inl (hts _ q1045)) dX4_note_15 ?_
    refine lv_iload_n hx hb dX4_note_18 rfl (lv_at hl 1 rfl) ?_
    obtain ⟨M4, e4, h⟩ := g_bind h
    refine gr_miast cx hf hI 54 rfl rfl rfl (nr_sI e4) dX4_note_19 (fun H locs hI => ?_)
    refine gr_aload_n hx hb (some (gg_o G)) dX4_note_20 rfl (lv_at hl 0 rfl) ?_
    refine lv_dup hx hb dX4_note_21 (gl_cat (some (gg_o G))) ?_
    refine nr_gI cx hf hI 53 rfl (fun _ => rfl) rfl (Or.inl (hts _ q1045)) dX4_note_22 ?_
    refine lv_iconst hx hb dX4_note_25 gz_ic_1 ?_
    refine lv_iadd hx hb dX4_note_26 ?_
    obtain ⟨M6, e6, h⟩ := g_bind h
    refine nr_pI cx hf hI 53 rfl rfl rfl (Or.inl (hts _ q1045)) e6 dX4_note_27 (fun H locs hI => ?_)
    cases h
    exact gr_vret cx hI dX4_note_30
  · have h := gz_t h hc
    cases h
    exact gr_vret cx hI dX4_note_9
theorem M_X4_note {l : Launch} {G : gG} {fu d0 : Nat} (hf : gg_f G = true) (hfl : l.flags = flags0) (hD : 2 ≤ d0) {x1 : Int32} {S : gm_S} {M : gM} {o : Outcome} {M2 : gM} (h : F_X4_note fu x1 M = some (o, M2)) : gx_Met l yX4_note (ws_ yX4_note cX4_note 2 (Option.none : Option Jvm.ClassFile.FieldType)) d0 G (gm_w S M) [va_rf (some (gg_o G)), .int x1] o (gm_w S M2) := by
  refine gx_of hfl (by decide) (fun p e s m below meth c cx hnm hex hI => ?_)
  rw [lg_entry_eq]
  exact T_X4_note (r := (o, M2)) hf hD h p e s m _ below meth c _ _ _ _ _ cx hnm (gz_nh0 hex) hI (lv_entry _ (Nat.le_of_ble_eq_true rfl))
theorem C_X4_note {p : Program} {l : Launch} {e : Env} {s : State} {m : MethodId} {args : Array Value} {below : List Frame} {meth : Method} {c : Code} {H : Heap} {locs : List Loc} {cells slots : Nat} {cc : ByteArray} {pc nL : Nat} {ls : Array Slot} {rest : List Value} {G : gG} {S0 S : gm_S} {own : String} {ret : Option FieldType} {d0 index fu : Nat} {M : gM} {x1 : Int32} {k : gM → gQ} {r : Outcome × gM} (hf : gg_f G = true) (cx : gx_cx p l s m args meth c G own cc nL ret) (hex : ∀ x ∈ c.exceptionTable.toList, covers x pc = false) (hI : gw_I G S0 (gm_w S M) H locs cells slots) (hl : gl_M own index yX4_note args s) (hlv : ls.size = nL) (hrest : (rest.map fun v => v.category).sum ≤ 8) (hD : 3 ≤ d0) (hdg : decode cc pc = .ok (.invokevirtual index, 3)) (h : gz_cV (F_X4_note fu x1 M) k = some r)
    (kk : ∀ (z : gM), k z = some r → ∀ (H : Heap) (locs : List Loc) (cells slots : Nat), gw_I G S0 (gm_w S z) H locs cells slots → W p l e (gx_rm d0 S0) s m args below meth c H locs cells slots (gx_MQ below G S0 (gm_w S r.2) r.1 s) (F0 m (pc + 3) ls rest)) : W p l e (gx_rm d0 S0) s m args below meth c H locs cells slots (gx_MQ below G S0 (gm_w S r.2) r.1 s) (F0 m pc ls (.int x1 :: va_rf (some (gg_o G)) :: rest)) := by
  have hts := cx.2.2.2.2.1
  have hK := cx.2.2.2.2.2.1
  exact gz_goV (d := d0 - 1) (gm_w S) cx hex hI hlv hrest (by omega) (Nat.le_of_ble_eq_true rfl) (gz_ws (lw_meth q1304) hts) (hts _ q78) (gb_rawV (As := [.int x1]) cx hl (hts _ q1303) (hts _ qs53) (gl_C.code (hts _ q1304)) hy_X4_note (gr_recvM hK hI.1 hf) rfl rfl hdg) (fun o S2 e => M_X4_note hf cx.2.2.2.2.2.2.2.2 (by omega) e) h kk
abbrev B_X4_enter (l : Launch) (d0 : Nat) (G : gG) (S0 : gm_S) : Nat → List (Nat × Value) → List Value → gm_S → Outcome → gm_S → Prop := gz_B l RX4 "enter" cX4_enter 3 (Option.none : Option Jvm.ClassFile.FieldType) [] d0 G S0
theorem T_X4_enter_2 {l : Launch} {G : gG} {S0 S : gm_S} {d0 fu : Nat} {r : Outcome × gM} (hf : gg_f G = true) (hD : 4 ≤ d0) : ∀ (n : Nat) (x1 : Int32) (x2 : Int32) (M : gM), F_X4_enter_2 fu n x1 x2 M = some r → B_X4_enter l d0 G S0 2 [(0, va_rf (some (gg_o G))), (1, .int x1), (2, .int x2)] [] (gm_w S M) r.1 (gm_w S r.2) := by
  intro n
  induction n with
  | zero => intro x1 x2 M h; exact nomatch (show (none : gQ) = some r from h)
  | succ n ih =>
    intro x1 x2 M h
    rw [F_X4_enter_2] at h
    intro p e s m args below meth c H locs cells slots ls cx hnm hex hI hl
    have hx := cx.1
    have hb := cx.2.1
    have hown := cx.2.2.2.1
    have hts := cx.2.2.2.2.1
    have hK := cx.2.2.2.2.2.1
    refine lv_iload_n hx hb dX4_enter_2 rfl (lv_at hl 2 rfl) ?_
    refine gr_aload_n hx hb (some (gg_o G)) dX4_enter_3 rfl (lv_at hl 0 rfl) ?_
    refine gr_mgA cx hf hI 9 rfl rfl (Or.inl (hts _ q1001)) dX4_enter_4 ?_
    refine gr_aload_n hx hb (some (gg_o G)) dX4_enter_7 rfl (lv_at hl 0 rfl) ?_
    refine nr_gI cx hf hI 7 rfl (fun _ => rfl) rfl (Or.inl (hts _ q999)) dX4_enter_8 ?_
    obtain ⟨v3, e3, h⟩ := g_bind h
    refine gr_miald cx hf hI 9 rfl rfl rfl (nr_aI e3) dX4_enter_11 ?_
    refine lv_icmp_ge (tgt := 60) hx hb dX4_enter_12 rfl (fun hc => ?_) (fun hc => ?_)
    · have h := gz_t h hc
      cases h
      exact gr_vret cx hI dX4_enter_60
    · have h := gz_f h hc
      refine gr_aload_n hx hb (some (gg_o G)) dX4_enter_15 rfl (lv_at hl 0 rfl) ?_
      refine lv_iload_n hx hb dX4_enter_16 rfl (lv_at hl 1 rfl) ?_
      refine lv_iload_n hx hb dX4_enter_17 rfl (lv_at hl 2 rfl) ?_
      refine C_X4_isIn hf cx (gz_nh hex) hI (Or.inl (hts _ q1297)) hl.1 (gz_cs (Nat.le_of_ble_eq_true rfl)) (by omega) dX4_enter_18 h (fun v4 M4 h H locs cells slots hI => ?_)
      refine lv_if_ne (tgt := 27) hx hb dX4_enter_21 rfl (fun hc => ?_) (fun hc => ?_)
      · have h := gz_f h hc
        refine gr_aload_n hx hb (some (gg_o G)) dX4_enter_27 rfl (lv_at hl 0 rfl) ?_
        refine lv_dup hx hb dX4_enter_28 (gl_cat (some (gg_o G))) ?_
        refine nr_gI cx hf hI 41 rfl (fun _ => rfl) rfl (Or.inl (hts _ q1033)) dX4_enter_29 ?_
        refine lv_iconst hx hb dX4_enter_32 gz_ic_1 ?_
        refine lv_iload_n hx hb dX4_enter_33 rfl (lv_at hl 2 rfl) ?_
        refine lv_ishl hx hb dX4_enter_34 ?_
        refine lv_ior hx hb dX4_enter_35 ?_
        obtain ⟨M6, e6, h⟩ := g_bind h
        refine nr_pI cx hf hI 41 rfl rfl rfl (Or.inl (hts _ q1033)) e6 dX4_enter_36 (fun H locs hI => ?_)
        refine gr_aload_n hx hb (some (gg_o G)) dX4_enter_39 rfl (lv_at hl 0 rfl) ?_
        refine lv_iconst hx hb dX4_enter_40 gz_ic_1 ?_
        refine lv_iload_n hx hb dX4_enter_41 rfl (lv_at hl 2 rfl) ?_
        refine lv_iadd hx hb dX4_enter_42 ?_
        refine C_X4_note hf cx (gz_nh hex) hI (Or.inl (hts _ q1301)) hl.1 (gz_cs (Nat.le_of_ble_eq_true rfl)) (by omega) dX4_enter_43 h (fun M7 h H locs cells slots hI => ?_)
        refine gr_aload_n hx hb (some (gg_o G)) dX4_enter_46 rfl (lv_at hl 0 rfl) ?_
        refine lv_bipush hx hb dX4_enter_47 gz_bp_100 ?_
        refine lv_iload_n hx hb dX4_enter_49 rfl (lv_at hl 2 rfl) ?_
        refine lv_iadd hx hb dX4_enter_50 ?_
        refine C_X4_act hf cx (gz_nh hex) hI (Or.inl (hts _ q1305)) hl.1 (gz_cs (Nat.le_of_ble_eq_true rfl)) (by omega) dX4_enter_51 h (fun M8 h H locs cells slots hI => ?_)
        refine gz_iinc (k := 2) (v := (x2 + (1 : Int32))) hx hb dX4_enter_54 hl rfl (congrArg (fun z => x2 + z) gz_ic_1) (by decide) [0, 1] rfl (gz_con ⟨gz_ne rfl, Or.inl (gz_ne rfl)⟩ (gz_con ⟨gz_ne rfl, Or.inr rfl⟩ gz_nil)) (fun ls hl => ?_)
        refine lv_goto (tgt := 2) hx hb dX4_enter_57 rfl ?_
        exact ih _ _ _ h p e s m args below meth c H locs cells slots ls cx hnm hex hI (lv_sub hl [1, 2, 0] rfl)
      · have h := gz_t h hc
        refine lv_goto (tgt := 54) hx hb dX4_enter_24 rfl ?_
        refine gz_iinc (k := 2) (v := (x2 + (1 : Int32))) hx hb dX4_enter_54 hl rfl (congrArg (fun z => x2 + z) gz_ic_1) (by decide) [0, 1] rfl (gz_con ⟨gz_ne rfl, Or.inl (gz_ne rfl)⟩ (gz_con ⟨gz_ne rfl, Or.inr rfl⟩ gz_nil)) (fun ls hl => ?_)
        refine lv_goto (tgt := 2) hx hb dX4_enter_57 rfl ?_
        exact ih _ _ _ h p e s m args below meth c H locs cells slots ls cx hnm hex hI (lv_sub hl [1, 2, 0] rfl)
theorem T_X4_enter {l : Launch} {G : gG} {S0 S : gm_S} {d0 fu : Nat} {r : Outcome × gM} (hf : gg_f G = true) (hD : 4 ≤ d0) {x1 : Int32} {M : gM} (h : F_X4_enter fu x1 M = some r) : B_X4_enter l d0 G S0 0 [(0, va_rf (some (gg_o G))), (1, .int x1)] [] (gm_w S M) r.1 (gm_w S r.2) := by
  unfold F_X4_enter at h
  intro p e s m args below meth c H locs cells slots ls cx hnm hex hI hl
  have hx := cx.1
  have hb := cx.2.1
  have hown := cx.2.2.2.1
  have hts := cx.2.2.2.2.1
  have hK := cx.2.2.2.2.2.1
  refine lv_iconst hx hb dX4_enter_0 gz_ic_0 ?_
  refine gz_istore_n hx hb dX4_enter_1 rfl hl (by decide) [0, 1] rfl (gz_con ⟨gz_ne rfl, Or.inl (gz_ne rfl)⟩ (gz_con ⟨gz_ne rfl, Or.inr rfl⟩ gz_nil)) (fun ls hl => ?_)
  exact T_X4_enter_2 hf hD fu _ _ _ h p e s m args below meth c H locs cells slots ls cx hnm hex hI (lv_sub hl [1, 2, 0] rfl)
theorem M_X4_enter {l : Launch} {G : gG} {fu d0 : Nat} (hf : gg_f G = true) (hfl : l.flags = flags0) (hD : 4 ≤ d0) {x1 : Int32} {S : gm_S} {M : gM} {o : Outcome} {M2 : gM} (h : F_X4_enter fu x1 M = some (o, M2)) : gx_Met l yX4_enter (ws_ yX4_enter cX4_enter 3 (Option.none : Option Jvm.ClassFile.FieldType)) d0 G (gm_w S M) [va_rf (some (gg_o G)), .int x1] o (gm_w S M2) := by
  refine gx_of hfl (by decide) (fun p e s m below meth c cx hnm hex hI => ?_)
  rw [lg_entry_eq]
  exact T_X4_enter (r := (o, M2)) hf hD h p e s m _ below meth c _ _ _ _ _ cx hnm (gz_nh0 hex) hI (lv_entry _ (Nat.le_of_ble_eq_true rfl))
theorem C_X4_enter {p : Program} {l : Launch} {e : Env} {s : State} {m : MethodId} {args : Array Value} {below : List Frame} {meth : Method} {c : Code} {H : Heap} {locs : List Loc} {cells slots : Nat} {cc : ByteArray} {pc nL : Nat} {ls : Array Slot} {rest : List Value} {G : gG} {S0 S : gm_S} {own : String} {ret : Option FieldType} {d0 index fu : Nat} {M : gM} {x1 : Int32} {k : gM → gQ} {r : Outcome × gM} (hf : gg_f G = true) (cx : gx_cx p l s m args meth c G own cc nL ret) (hex : ∀ x ∈ c.exceptionTable.toList, covers x pc = false) (hI : gw_I G S0 (gm_w S M) H locs cells slots) (hl : gl_M own index yX4_enter args s) (hlv : ls.size = nL) (hrest : (rest.map fun v => v.category).sum ≤ 8) (hD : 5 ≤ d0) (hdg : decode cc pc = .ok (.invokevirtual index, 3)) (h : gz_cV (F_X4_enter fu x1 M) k = some r)
    (kk : ∀ (z : gM), k z = some r → ∀ (H : Heap) (locs : List Loc) (cells slots : Nat), gw_I G S0 (gm_w S z) H locs cells slots → W p l e (gx_rm d0 S0) s m args below meth c H locs cells slots (gx_MQ below G S0 (gm_w S r.2) r.1 s) (F0 m (pc + 3) ls rest)) : W p l e (gx_rm d0 S0) s m args below meth c H locs cells slots (gx_MQ below G S0 (gm_w S r.2) r.1 s) (F0 m pc ls (.int x1 :: va_rf (some (gg_o G)) :: rest)) := by
  have hts := cx.2.2.2.2.1
  have hK := cx.2.2.2.2.2.1
  exact gz_goV (d := d0 - 1) (gm_w S) cx hex hI hlv hrest (by omega) (Nat.le_of_ble_eq_true rfl) (gz_ws (lw_meth q1296) hts) (hts _ q78) (gb_rawV (As := [.int x1]) cx hl (hts _ q1295) (hts _ qs51) (gl_C.code (hts _ q1296)) hy_X4_enter (gr_recvM hK hI.1 hf) rfl rfl hdg) (fun o S2 e => M_X4_enter hf cx.2.2.2.2.2.2.2.2 (by omega) e) h kk
abbrev B_X4_leave (l : Launch) (d0 : Nat) (G : gG) (S0 : gm_S) : Nat → List (Nat × Value) → List Value → gm_S → Outcome → gm_S → Prop := gz_B l RX4 "leave" cX4_leave 4 (Option.none : Option Jvm.ClassFile.FieldType) [] d0 G S0
theorem T_X4_leave_152 {l : Launch} {G : gG} {S0 S : gm_S} {d0 fu : Nat} {r : Outcome × gM} (hf : gg_f G = true) (hD : 4 ≤ d0) : ∀ (n : Nat) (x1 : Int32) (x2 : Int32) (M : gM), F_X4_leave_152 fu n x1 x2 M = some r → B_X4_leave l d0 G S0 152 [(0, va_rf (some (gg_o G))), (1, .int x1), (2, .int x2)] [] (gm_w S M) r.1 (gm_w S r.2) := by
  intro n
  induction n with
  | zero => intro x1 x2 M h; exact nomatch (show (none : gQ) = some r from h)
  | succ n ih =>
    intro x1 x2 M h
    rw [F_X4_leave_152] at h
    intro p e s m args below meth c H locs cells slots ls cx hnm hex hI hl
    have hx := cx.1
    have hb := cx.2.1
    have hown := cx.2.2.2.1
    have hts := cx.2.2.2.2.1
    have hK := cx.2.2.2.2.2.1
    refine lv_iload_n hx hb dX4_leave_152 rfl (lv_at hl 2 rfl) ?_
    refine lv_if_lt (tgt := 204) hx hb dX4_leave_153 rfl (fun hc => ?_) (fun hc => ?_)
    · have h := gz_t h hc
      cases h
      exact gr_vret cx hI dX4_leave_204
    · have h := gz_f h hc
      refine gr_aload_n hx hb (some (gg_o G)) dX4_leave_156 rfl (lv_at hl 0 rfl) ?_
      refine lv_iload_n hx hb dX4_leave_157 rfl (lv_at hl 1 rfl) ?_
      refine lv_iload_n hx hb dX4_leave_158 rfl (lv_at hl 2 rfl) ?_
      refine C_X4_isIn hf cx (gz_nh hex) hI (Or.inl (hts _ q1297)) hl.1 (gz_cs (Nat.le_of_ble_eq_true rfl)) (by omega) dX4_leave_159 h (fun v1 M1 h H locs cells slots hI => ?_)
      refine lv_if_ne (tgt := 168) hx hb dX4_leave_162 rfl (fun hc => ?_) (fun hc => ?_)
      · have h := gz_f h hc
        refine gr_aload_n hx hb (some (gg_o G)) dX4_leave_168 rfl (lv_at hl 0 rfl) ?_
        refine lv_sipush hx hb dX4_leave_169 gz_sp_200 ?_
        refine lv_iload_n hx hb dX4_leave_172 rfl (lv_at hl 2 rfl) ?_
        refine lv_iadd hx hb dX4_leave_173 ?_
        refine C_X4_act hf cx (gz_nh hex) hI (Or.inl (hts _ q1305)) hl.1 (gz_cs (Nat.le_of_ble_eq_true rfl)) (by omega) dX4_leave_174 h (fun M2 h H locs cells slots hI => ?_)
        refine gr_aload_n hx hb (some (gg_o G)) dX4_leave_177 rfl (lv_at hl 0 rfl) ?_
        refine lv_dup hx hb dX4_leave_178 (gl_cat (some (gg_o G))) ?_
        refine nr_gI cx hf hI 41 rfl (fun _ => rfl) rfl (Or.inl (hts _ q1033)) dX4_leave_179 ?_
        refine lv_iconst hx hb dX4_leave_182 gz_ic_1 ?_
        refine lv_iload_n hx hb dX4_leave_183 rfl (lv_at hl 2 rfl) ?_
        refine lv_ishl hx hb dX4_leave_184 ?_
        refine lv_iconst hx hb dX4_leave_185 gz_ic_m1 ?_
        refine lv_ixor hx hb dX4_leave_186 ?_
        refine lv_iand hx hb dX4_leave_187 ?_
        obtain ⟨M4, e4, h⟩ := g_bind h
        refine nr_pI cx hf hI 41 rfl rfl rfl (Or.inl (hts _ q1033)) e4 dX4_leave_188 (fun H locs hI => ?_)
        refine gr_aload_n hx hb (some (gg_o G)) dX4_leave_191 rfl (lv_at hl 0 rfl) ?_
        refine lv_iconst hx hb dX4_leave_192 gz_ic_m1 ?_
        refine lv_iload_n hx hb dX4_leave_193 rfl (lv_at hl 2 rfl) ?_
        refine lv_isub hx hb dX4_leave_194 ?_
        refine C_X4_note hf cx (gz_nh hex) hI (Or.inl (hts _ q1301)) hl.1 (gz_cs (Nat.le_of_ble_eq_true rfl)) (by omega) dX4_leave_195 h (fun M5 h H locs cells slots hI => ?_)
        refine gz_iinc (k := 2) (v := (x2 + (-1 : Int32))) hx hb dX4_leave_198 hl rfl (congrArg (fun z => x2 + z) gz_ic_m1) (by decide) [0, 1] rfl (gz_con ⟨gz_ne rfl, Or.inl (gz_ne rfl)⟩ (gz_con ⟨gz_ne rfl, Or.inr rfl⟩ gz_nil)) (fun ls hl => ?_)
        refine lv_goto (tgt := 152) hx hb dX4_leave_201 rfl ?_
        exact ih _ _ _ h p e s m args below meth c H locs cells slots ls cx hnm hex hI (lv_sub hl [1, 2, 0] rfl)
      · have h := gz_t h hc
        refine lv_goto (tgt := 198) hx hb dX4_leave_165 rfl ?_
        refine gz_iinc (k := 2) (v := (x2 + (-1 : Int32))) hx hb dX4_leave_198 hl rfl (congrArg (fun z => x2 + z) gz_ic_m1) (by decide) [0, 1] rfl (gz_con ⟨gz_ne rfl, Or.inl (gz_ne rfl)⟩ (gz_con ⟨gz_ne rfl, Or.inr rfl⟩ gz_nil)) (fun ls hl => ?_)
        refine lv_goto (tgt := 152) hx hb dX4_leave_201 rfl ?_
        exact ih _ _ _ h p e s m args below meth c H locs cells slots ls cx hnm hex hI (lv_sub hl [1, 2, 0] rfl)
theorem T_X4_leave_108 {l : Launch} {G : gG} {S0 S : gm_S} {d0 fu : Nat} {k2 : Int32 → Int32 → gM → gQ} {k53 : Int32 → Int32 → Int32 → gM → gQ} {r : Outcome × gM} (hf : gg_f G = true) (hD : 4 ≤ d0)
    (hk2 : ∀ (x1 : Int32) (x2 : Int32) (M : gM), k2 x1 x2 M = some r → B_X4_leave l d0 G S0 2 [(0, va_rf (some (gg_o G))), (1, .int x1), (2, .int x2)] [] (gm_w S M) r.1 (gm_w S r.2))
    (hk53 : ∀ (x1 : Int32) (x2 : Int32) (x3 : Int32) (M : gM), k53 x1 x2 x3 M = some r → B_X4_leave l d0 G S0 53 [(0, va_rf (some (gg_o G))), (1, .int x1), (2, .int x2), (3, .int x3)] [] (gm_w S M) r.1 (gm_w S r.2)) {x1 : Int32} {x2 : Int32} {x3 : Int32} {M : gM} (h : F_X4_leave_108 fu k2 k53 x1 x2 x3 M = some r) : B_X4_leave l d0 G S0 108 [(0, va_rf (some (gg_o G))), (1, .int x1), (2, .int x2), (3, .int x3)] [] (gm_w S M) r.1 (gm_w S r.2) := by
  unfold F_X4_leave_108 at h
  intro p e s m args below meth c H locs cells slots ls cx hnm hex hI hl
  have hx := cx.1
  have hb := cx.2.1
  have hown := cx.2.2.2.1
  have hts := cx.2.2.2.2.1
  have hK := cx.2.2.2.2.2.1
  refine gr_aload_n hx hb (some (gg_o G)) dX4_leave_108 rfl (lv_at hl 0 rfl) ?_
  refine lv_iload_n hx hb dX4_leave_109 rfl (lv_at hl 3 rfl) ?_
  refine C_X4_kindOf hf cx (gz_nh hex) hI (Or.inl (hts _ q1281)) hl.1 (gz_cs (Nat.le_of_ble_eq_true rfl)) (by omega) dX4_leave_110 h (fun v1 M1 h H locs cells slots hI => ?_)
  refine lv_if_ne (tgt := 128) hx hb dX4_leave_113 rfl (fun hc => ?_) (fun hc => ?_)
  · have h := gz_f h hc
    refine gz_iinc (k := 3) (v := (x3 + (1 : Int32))) hx hb dX4_leave_128 hl rfl (congrArg (fun z => x3 + z) gz_ic_1) (by decide) [0, 1, 2] rfl (gz_con ⟨gz_ne rfl, Or.inl (gz_ne rfl)⟩ (gz_con ⟨gz_ne rfl, Or.inl (gz_ne rfl)⟩ (gz_con ⟨gz_ne rfl, Or.inr rfl⟩ gz_nil))) (fun ls hl => ?_)
    refine lv_goto (tgt := 53) hx hb dX4_leave_131 rfl ?_
    exact hk53 _ _ _ _ h p e s m args below meth c H locs cells slots ls cx hnm hex hI (lv_sub hl [1, 2, 3, 0] rfl)
  · have h := gz_t h hc
    refine gr_aload_n hx hb (some (gg_o G)) dX4_leave_116 rfl (lv_at hl 0 rfl) ?_
    refine gr_mgA cx hf hI 44 rfl rfl (Or.inl (hts _ q1036)) dX4_leave_117 ?_
    refine lv_iload_n hx hb dX4_leave_120 rfl (lv_at hl 2 rfl) ?_
    refine lv_dup2_11 hx hb dX4_leave_121 rfl (gl_cat (some (gg_m G 44))) ?_
    obtain ⟨v3, e3, h⟩ := g_bind h
    refine gr_miald cx hf hI 44 rfl rfl rfl (nr_aI e3) dX4_leave_122 ?_
    refine lv_iconst hx hb dX4_leave_123 gz_ic_1 ?_
    refine lv_iload_n hx hb dX4_leave_124 rfl (lv_at hl 3 rfl) ?_
    refine lv_ishl hx hb dX4_leave_125 ?_
    refine lv_ior hx hb dX4_leave_126 ?_
    obtain ⟨M4, e4, h⟩ := g_bind h
    refine gr_miast cx hf hI 44 rfl rfl rfl (nr_sI e4) dX4_leave_127 (fun H locs hI => ?_)
    refine gz_iinc (k := 3) (v := (x3 + (1 : Int32))) hx hb dX4_leave_128 hl rfl (congrArg (fun z => x3 + z) gz_ic_1) (by decide) [0, 1, 2] rfl (gz_con ⟨gz_ne rfl, Or.inl (gz_ne rfl)⟩ (gz_con ⟨gz_ne rfl, Or.inl (gz_ne rfl)⟩ (gz_con ⟨gz_ne rfl, Or.inr rfl⟩ gz_nil))) (fun ls hl => ?_)
    refine lv_goto (tgt := 53) hx hb dX4_leave_131 rfl ?_
    exact hk53 _ _ _ _ h p e s m args below meth c H locs cells slots ls cx hnm hex hI (lv_sub hl [1, 2, 3, 0] rfl)
theorem T_X4_leave_53 {l : Launch} {G : gG} {S0 S : gm_S} {d0 fu : Nat} {k2 : Int32 → Int32 → gM → gQ} {r : Outcome × gM} (hf : gg_f G = true) (hD : 4 ≤ d0)
    (hk2 : ∀ (x1 : Int32) (x2 : Int32) (M : gM), k2 x1 x2 M = some r → B_X4_leave l d0 G S0 2 [(0, va_rf (some (gg_o G))), (1, .int x1), (2, .int x2)] [] (gm_w S M) r.1 (gm_w S r.2)) : ∀ (n : Nat) (x1 : Int32) (x2 : Int32) (x3 : Int32) (M : gM), F_X4_leave_53 fu k2 n x1 x2 x3 M = some r → B_X4_leave l d0 G S0 53 [(0, va_rf (some (gg_o G))), (1, .int x1), (2, .int x2), (3, .int x3)] [] (gm_w S M) r.1 (gm_w S r.2) := by
  intro n
  induction n with
  | zero => intro x1 x2 x3 M h; exact nomatch (show (none : gQ) = some r from h)
  | succ n ih =>
    intro x1 x2 x3 M h
    rw [F_X4_leave_53] at h
    intro p e s m args below meth c H locs cells slots ls cx hnm hex hI hl
    have hx := cx.1
    have hb := cx.2.1
    have hown := cx.2.2.2.1
    have hts := cx.2.2.2.2.1
    have hK := cx.2.2.2.2.2.1
    refine lv_iload_n hx hb dX4_leave_53 rfl (lv_at hl 3 rfl) ?_
    refine gr_aload_n hx hb (some (gg_o G)) dX4_leave_54 rfl (lv_at hl 0 rfl) ?_
    refine gr_mgA cx hf hI 9 rfl rfl (Or.inl (hts _ q1001)) dX4_leave_55 ?_
    refine gr_aload_n hx hb (some (gg_o G)) dX4_leave_58 rfl (lv_at hl 0 rfl) ?_
    refine nr_gI cx hf hI 7 rfl (fun _ => rfl) rfl (Or.inl (hts _ q999)) dX4_leave_59 ?_
    obtain ⟨v3, e3, h⟩ := g_bind h
    refine gr_miald cx hf hI 9 rfl rfl rfl (nr_aI e3) dX4_leave_62 ?_
    refine lv_icmp_ge (tgt := 134) hx hb dX4_leave_63 rfl (fun hc => ?_) (fun hc => ?_)
    · have h := gz_t h hc
      refine gz_iinc (k := 2) (v := (x2 + (1 : Int32))) hx hb dX4_leave_134 hl rfl (congrArg (fun z => x2 + z) gz_ic_1) (by decide) [0, 1] rfl (gz_con ⟨gz_ne rfl, Or.inl (gz_ne rfl)⟩ (gz_con ⟨gz_ne rfl, Or.inr rfl⟩ gz_nil)) (fun ls hl => ?_)
      refine lv_goto (tgt := 2) hx hb dX4_leave_137 rfl ?_
      exact hk2 _ _ _ h p e s m args below meth c H locs cells slots ls cx hnm hex hI (lv_sub hl [1, 2, 0] rfl)
    · have h := gz_f h hc
      refine gr_aload_n hx hb (some (gg_o G)) dX4_leave_66 rfl (lv_at hl 0 rfl) ?_
      refine gr_aload_n hx hb (some (gg_o G)) dX4_leave_67 rfl (lv_at hl 0 rfl) ?_
      refine nr_gI cx hf hI 41 rfl (fun _ => rfl) rfl (Or.inl (hts _ q1033)) dX4_leave_68 ?_
      refine gr_aload_n hx hb (some (gg_o G)) dX4_leave_71 rfl (lv_at hl 0 rfl) ?_
      refine lv_iload_n hx hb dX4_leave_72 rfl (lv_at hl 2 rfl) ?_
      refine C_X4_belowOf hf cx (gz_nh hex) hI (Or.inl (hts _ q1285)) hl.1 (gz_cs (Nat.le_of_ble_eq_true rfl)) (by omega) dX4_leave_73 h (fun v5 M5 h H locs cells slots hI => ?_)
      refine lv_iand hx hb dX4_leave_76 ?_
      refine lv_iload_n hx hb dX4_leave_77 rfl (lv_at hl 3 rfl) ?_
      refine C_X4_isIn hf cx (gz_nh hex) hI (Or.inl (hts _ q1297)) hl.1 (gz_cs (Nat.le_of_ble_eq_true rfl)) (by omega) dX4_leave_78 h (fun v6 M6 h H locs cells slots hI => ?_)
      refine lv_if_ne (tgt := 87) hx hb dX4_leave_81 rfl (fun hc => ?_) (fun hc => ?_)
      · have h := gz_f h hc
        refine gr_aload_n hx hb (some (gg_o G)) dX4_leave_87 rfl (lv_at hl 0 rfl) ?_
        refine lv_iload_n hx hb dX4_leave_88 rfl (lv_at hl 3 rfl) ?_
        refine C_X4_outerOf hf cx (gz_nh hex) hI (Or.inl (hts _ q1289)) hl.1 (gz_cs (Nat.le_of_ble_eq_true rfl)) (by omega) dX4_leave_89 h (fun v7 M7 h H locs cells slots hI => ?_)
        refine lv_iload_n hx hb dX4_leave_92 rfl (lv_at hl 2 rfl) ?_
        refine lv_icmp_ne (tgt := 108) hx hb dX4_leave_93 rfl (fun hc => ?_) (fun hc => ?_)
        · have h := gz_f h hc
          exact T_X4_leave_108 hf hD hk2 ih h p e s m args below meth c H locs cells slots ls cx hnm hex hI hl
        · have h := gz_t h hc
          refine gr_aload_n hx hb (some (gg_o G)) dX4_leave_96 rfl (lv_at hl 0 rfl) ?_
          refine gr_mgA cx hf hI 43 rfl rfl (Or.inl (hts _ q1035)) dX4_leave_97 ?_
          refine lv_iload_n hx hb dX4_leave_100 rfl (lv_at hl 2 rfl) ?_
          refine lv_dup2_11 hx hb dX4_leave_101 rfl (gl_cat (some (gg_m G 43))) ?_
          obtain ⟨v9, e9, h⟩ := g_bind h
          refine gr_miald cx hf hI 43 rfl rfl rfl (nr_aI e9) dX4_leave_102 ?_
          refine lv_iconst hx hb dX4_leave_103 gz_ic_1 ?_
          refine lv_iload_n hx hb dX4_leave_104 rfl (lv_at hl 3 rfl) ?_
          refine lv_ishl hx hb dX4_leave_105 ?_
          refine lv_ior hx hb dX4_leave_106 ?_
          obtain ⟨M10, e10, h⟩ := g_bind h
          refine gr_miast cx hf hI 43 rfl rfl rfl (nr_sI e10) dX4_leave_107 (fun H locs hI => ?_)
          exact T_X4_leave_108 hf hD hk2 ih h p e s m args below meth c H locs cells slots ls cx hnm hex hI hl
      · have h := gz_t h hc
        refine lv_goto (tgt := 128) hx hb dX4_leave_84 rfl ?_
        refine gz_iinc (k := 3) (v := (x3 + (1 : Int32))) hx hb dX4_leave_128 hl rfl (congrArg (fun z => x3 + z) gz_ic_1) (by decide) [0, 1, 2] rfl (gz_con ⟨gz_ne rfl, Or.inl (gz_ne rfl)⟩ (gz_con ⟨gz_ne rfl, Or.inl (gz_ne rfl)⟩ (gz_con ⟨gz_ne rfl, Or.inr rfl⟩ gz_nil))) (fun ls hl => ?_)
        refine lv_goto (tgt := 53) hx hb dX4_leave_131 rfl ?_
        exact ih _ _ _ _ h p e s m args below meth c H locs cells slots ls cx hnm hex hI (lv_sub hl [1, 2, 3, 0] rfl)
theorem T_X4_leave_2 {l : Launch} {G : gG} {S0 S : gm_S} {d0 fu : Nat} {r : Outcome × gM} (hf : gg_f G = true) (hD : 4 ≤ d0) : ∀ (n : Nat) (x1 : Int32) (x2 : Int32) (M : gM), F_X4_leave_2 fu n x1 x2 M = some r → B_X4_leave l d0 G S0 2 [(0, va_rf (some (gg_o G))), (1, .int x1), (2, .int x2)] [] (gm_w S M) r.1 (gm_w S r.2) := by
  intro n
  induction n with
  | zero => intro x1 x2 M h; exact nomatch (show (none : gQ) = some r from h)
  | succ n ih =>
    intro x1 x2 M h
    rw [F_X4_leave_2] at h
    intro p e s m args below meth c H locs cells slots ls cx hnm hex hI hl
    have hx := cx.1
    have hb := cx.2.1
    have hown := cx.2.2.2.1
    have hts := cx.2.2.2.2.1
    have hK := cx.2.2.2.2.2.1
    refine lv_iload_n hx hb dX4_leave_2 rfl (lv_at hl 2 rfl) ?_
    refine gr_aload_n hx hb (some (gg_o G)) dX4_leave_3 rfl (lv_at hl 0 rfl) ?_
    refine gr_mgA cx hf hI 9 rfl rfl (Or.inl (hts _ q1001)) dX4_leave_4 ?_
    refine gr_aload_n hx hb (some (gg_o G)) dX4_leave_7 rfl (lv_at hl 0 rfl) ?_
    refine nr_gI cx hf hI 7 rfl (fun _ => rfl) rfl (Or.inl (hts _ q999)) dX4_leave_8 ?_
    obtain ⟨v3, e3, h⟩ := g_bind h
    refine gr_miald cx hf hI 9 rfl rfl rfl (nr_aI e3) dX4_leave_11 ?_
    refine lv_icmp_ge (tgt := 140) hx hb dX4_leave_12 rfl (fun hc => ?_) (fun hc => ?_)
    · have h := gz_t h hc
      refine gr_aload_n hx hb (some (gg_o G)) dX4_leave_140 rfl (lv_at hl 0 rfl) ?_
      refine gr_mgA cx hf hI 9 rfl rfl (Or.inl (hts _ q1001)) dX4_leave_141 ?_
      refine gr_aload_n hx hb (some (gg_o G)) dX4_leave_144 rfl (lv_at hl 0 rfl) ?_
      refine nr_gI cx hf hI 7 rfl (fun _ => rfl) rfl (Or.inl (hts _ q999)) dX4_leave_145 ?_
      obtain ⟨v6, e6, h⟩ := g_bind h
      refine gr_miald cx hf hI 9 rfl rfl rfl (nr_aI e6) dX4_leave_148 ?_
      refine lv_iconst hx hb dX4_leave_149 gz_ic_1 ?_
      refine lv_isub hx hb dX4_leave_150 ?_
      refine gz_istore_n hx hb dX4_leave_151 rfl hl (by decide) [0, 1] rfl (gz_con ⟨gz_ne rfl, Or.inl (gz_ne rfl)⟩ (gz_con ⟨gz_ne rfl, Or.inr rfl⟩ gz_nil)) (fun ls hl => ?_)
      exact T_X4_leave_152 hf hD fu _ _ _ h p e s m args below meth c H locs cells slots ls cx hnm hex hI (lv_sub hl [1, 2, 0] rfl)
    · have h := gz_f h hc
      refine gr_aload_n hx hb (some (gg_o G)) dX4_leave_15 rfl (lv_at hl 0 rfl) ?_
      refine lv_iload_n hx hb dX4_leave_16 rfl (lv_at hl 1 rfl) ?_
      refine lv_iload_n hx hb dX4_leave_17 rfl (lv_at hl 2 rfl) ?_
      refine C_X4_isIn hf cx (gz_nh hex) hI (Or.inl (hts _ q1297)) hl.1 (gz_cs (Nat.le_of_ble_eq_true rfl)) (by omega) dX4_leave_18 h (fun v7 M7 h H locs cells slots hI => ?_)
      refine lv_if_eq (tgt := 134) hx hb dX4_leave_21 rfl (fun hc => ?_) (fun hc => ?_)
      · have h := gz_t h hc
        refine gz_iinc (k := 2) (v := (x2 + (1 : Int32))) hx hb dX4_leave_134 hl rfl (congrArg (fun z => x2 + z) gz_ic_1) (by decide) [0, 1] rfl (gz_con ⟨gz_ne rfl, Or.inl (gz_ne rfl)⟩ (gz_con ⟨gz_ne rfl, Or.inr rfl⟩ gz_nil)) (fun ls hl => ?_)
        refine lv_goto (tgt := 2) hx hb dX4_leave_137 rfl ?_
        exact ih _ _ _ h p e s m args below meth c H locs cells slots ls cx hnm hex hI (lv_sub hl [1, 2, 0] rfl)
      · have h := gz_f h hc
        refine gr_aload_n hx hb (some (gg_o G)) dX4_leave_24 rfl (lv_at hl 0 rfl) ?_
        refine lv_iload_n hx hb dX4_leave_25 rfl (lv_at hl 2 rfl) ?_
        refine C_X4_kindOf hf cx (gz_nh hex) hI (Or.inl (hts _ q1281)) hl.1 (gz_cs (Nat.le_of_ble_eq_true rfl)) (by omega) dX4_leave_26 h (fun v8 M8 h H locs cells slots hI => ?_)
        refine lv_if_ne (tgt := 35) hx hb dX4_leave_29 rfl (fun hc => ?_) (fun hc => ?_)
        · have h := gz_f h hc
          refine gr_aload_n hx hb (some (gg_o G)) dX4_leave_35 rfl (lv_at hl 0 rfl) ?_
          refine gr_mgA cx hf hI 43 rfl rfl (Or.inl (hts _ q1035)) dX4_leave_36 ?_
          refine lv_iload_n hx hb dX4_leave_39 rfl (lv_at hl 2 rfl) ?_
          refine lv_iconst hx hb dX4_leave_40 gz_ic_0 ?_
          obtain ⟨M10, e10, h⟩ := g_bind h
          refine gr_miast cx hf hI 43 rfl rfl rfl (nr_sI e10) dX4_leave_41 (fun H locs hI => ?_)
          refine gr_aload_n hx hb (some (gg_o G)) dX4_leave_42 rfl (lv_at hl 0 rfl) ?_
          refine gr_mgA cx hf hI 44 rfl rfl (Or.inl (hts _ q1036)) dX4_leave_43 ?_
          refine lv_iload_n hx hb dX4_leave_46 rfl (lv_at hl 2 rfl) ?_
          refine lv_iconst hx hb dX4_leave_47 gz_ic_0 ?_
          obtain ⟨M12, e12, h⟩ := g_bind h
          refine gr_miast cx hf hI 44 rfl rfl rfl (nr_sI e12) dX4_leave_48 (fun H locs hI => ?_)
          refine lv_iload_n hx hb dX4_leave_49 rfl (lv_at hl 2 rfl) ?_
          refine lv_iconst hx hb dX4_leave_50 gz_ic_1 ?_
          refine lv_iadd hx hb dX4_leave_51 ?_
          refine gz_istore_n hx hb dX4_leave_52 rfl hl (by decide) [0, 1, 2] rfl (gz_con ⟨gz_ne rfl, Or.inl (gz_ne rfl)⟩ (gz_con ⟨gz_ne rfl, Or.inl (gz_ne rfl)⟩ (gz_con ⟨gz_ne rfl, Or.inr rfl⟩ gz_nil))) (fun ls hl => ?_)
          exact T_X4_leave_53 hf hD ih fu _ _ _ _ h p e s m args below meth c H locs cells slots ls cx hnm hex hI (lv_sub hl [1, 2, 3, 0] rfl)
        · have h := gz_t h hc
          refine lv_goto (tgt := 134) hx hb dX4_leave_32 rfl ?_
          refine gz_iinc (k := 2) (v := (x2 + (1 : Int32))) hx hb dX4_leave_134 hl rfl (congrArg (fun z => x2 + z) gz_ic_1) (by decide) [0, 1] rfl (gz_con ⟨gz_ne rfl, Or.inl (gz_ne rfl)⟩ (gz_con ⟨gz_ne rfl, Or.inr rfl⟩ gz_nil)) (fun ls hl => ?_)
          refine lv_goto (tgt := 2) hx hb dX4_leave_137 rfl ?_
          exact ih _ _ _ h p e s m args below meth c H locs cells slots ls cx hnm hex hI (lv_sub hl [1, 2, 0] rfl)
theorem T_X4_leave {l : Launch} {G : gG} {S0 S : gm_S} {d0 fu : Nat} {r : Outcome × gM} (hf : gg_f G = true) (hD : 4 ≤ d0) {x1 : Int32} {M : gM} (h : F_X4_leave fu x1 M = some r) : B_X4_leave l d0 G S0 0 [(0, va_rf (some (gg_o G))), (1, .int x1)] [] (gm_w S M) r.1 (gm_w S r.2) := by
  unfold F_X4_leave at h
  intro p e s m args below meth c H locs cells slots ls cx hnm hex hI hl
  have hx := cx.1
  have hb := cx.2.1
  have hown := cx.2.2.2.1
  have hts := cx.2.2.2.2.1
  have hK := cx.2.2.2.2.2.1
  refine lv_iconst hx hb dX4_leave_0 gz_ic_0 ?_
  refine gz_istore_n hx hb dX4_leave_1 rfl hl (by decide) [0, 1] rfl (gz_con ⟨gz_ne rfl, Or.inl (gz_ne rfl)⟩ (gz_con ⟨gz_ne rfl, Or.inr rfl⟩ gz_nil)) (fun ls hl => ?_)
  exact T_X4_leave_2 hf hD fu _ _ _ h p e s m args below meth c H locs cells slots ls cx hnm hex hI (lv_sub hl [1, 2, 0] rfl)
theorem M_X4_leave {l : Launch} {G : gG} {fu d0 : Nat} (hf : gg_f G = true) (hfl : l.flags = flags0) (hD : 4 ≤ d0) {x1 : Int32} {S : gm_S} {M : gM} {o : Outcome} {M2 : gM} (h : F_X4_leave fu x1 M = some (o, M2)) : gx_Met l yX4_leave (ws_ yX4_leave cX4_leave 4 (Option.none : Option Jvm.ClassFile.FieldType)) d0 G (gm_w S M) [va_rf (some (gg_o G)), .int x1] o (gm_w S M2) := by
  refine gx_of hfl (by decide) (fun p e s m below meth c cx hnm hex hI => ?_)
  rw [lg_entry_eq]
  exact T_X4_leave (r := (o, M2)) hf hD h p e s m _ below meth c _ _ _ _ _ cx hnm (gz_nh0 hex) hI (lv_entry _ (Nat.le_of_ble_eq_true rfl))
theorem C_X4_leave {p : Program} {l : Launch} {e : Env} {s : State} {m : MethodId} {args : Array Value} {below : List Frame} {meth : Method} {c : Code} {H : Heap} {locs : List Loc} {cells slots : Nat} {cc : ByteArray} {pc nL : Nat} {ls : Array Slot} {rest : List Value} {G : gG} {S0 S : gm_S} {own : String} {ret : Option FieldType} {d0 index fu : Nat} {M : gM} {x1 : Int32} {k : gM → gQ} {r : Outcome × gM} (hf : gg_f G = true) (cx : gx_cx p l s m args meth c G own cc nL ret) (hex : ∀ x ∈ c.exceptionTable.toList, covers x pc = false) (hI : gw_I G S0 (gm_w S M) H locs cells slots) (hl : gl_M own index yX4_leave args s) (hlv : ls.size = nL) (hrest : (rest.map fun v => v.category).sum ≤ 8) (hD : 5 ≤ d0) (hdg : decode cc pc = .ok (.invokevirtual index, 3)) (h : gz_cV (F_X4_leave fu x1 M) k = some r)
    (kk : ∀ (z : gM), k z = some r → ∀ (H : Heap) (locs : List Loc) (cells slots : Nat), gw_I G S0 (gm_w S z) H locs cells slots → W p l e (gx_rm d0 S0) s m args below meth c H locs cells slots (gx_MQ below G S0 (gm_w S r.2) r.1 s) (F0 m (pc + 3) ls rest)) : W p l e (gx_rm d0 S0) s m args below meth c H locs cells slots (gx_MQ below G S0 (gm_w S r.2) r.1 s) (F0 m pc ls (.int x1 :: va_rf (some (gg_o G)) :: rest)) := by
  have hts := cx.2.2.2.2.1
  have hK := cx.2.2.2.2.2.1
  exact gz_goV (d := d0 - 1) (gm_w S) cx hex hI hlv hrest (by omega) (Nat.le_of_ble_eq_true rfl) (gz_ws (lw_meth q1354) hts) (hts _ q78) (gb_rawV (As := [.int x1]) cx hl (hts _ q1353) (hts _ qs65) (gl_C.code (hts _ q1354)) hy_X4_leave (gr_recvM hK hI.1 hf) rfl rfl hdg) (fun o S2 e => M_X4_leave hf cx.2.2.2.2.2.2.2.2 (by omega) e) h kk
abbrev B_X4_up (l : Launch) (d0 : Nat) (G : gG) (S0 : gm_S) : Nat → List (Nat × Value) → List Value → gm_S → Outcome → gm_S → Prop := gz_B l RX4 "up" cX4_up 5 (Option.none : Option Jvm.ClassFile.FieldType) [] d0 G S0
theorem T_X4_up_99 {l : Launch} {G : gG} {S0 S : gm_S} {d0 fu : Nat} {k6 : Int32 → Int32 → gM → gQ} {r : Outcome × gM} (hf : gg_f G = true) (hD : 4 ≤ d0)
    (hk6 : ∀ (x2 : Int32) (x3 : Int32) (M : gM), k6 x2 x3 M = some r → B_X4_up l d0 G S0 6 [(0, va_rf (some (gg_o G))), (2, .int x2), (3, .int x3)] [] (gm_w S M) r.1 (gm_w S r.2)) {x2 : Int32} {x3 : Int32} {M : gM} (h : F_X4_up_99 fu k6 x2 x3 M = some r) : B_X4_up l d0 G S0 99 [(0, va_rf (some (gg_o G))), (2, .int x2), (3, .int x3)] [] (gm_w S M) r.1 (gm_w S r.2) := by
  unfold F_X4_up_99 at h
  intro p e s m args below meth c H locs cells slots ls cx hnm hex hI hl
  have hx := cx.1
  have hb := cx.2.1
  have hown := cx.2.2.2.1
  have hts := cx.2.2.2.2.1
  have hK := cx.2.2.2.2.2.1
  refine gr_aload_n hx hb (some (gg_o G)) dX4_up_99 rfl (lv_at hl 0 rfl) ?_
  refine lv_iload_n hx hb dX4_up_100 rfl (lv_at hl 2 rfl) ?_
  refine C_X4_outerOf hf cx (gz_nh hex) hI (Or.inl (hts _ q1289)) hl.1 (gz_cs (Nat.le_of_ble_eq_true rfl)) (by omega) dX4_up_101 h (fun v1 M1 h H locs cells slots hI => ?_)
  refine gz_istore_n hx hb dX4_up_104 rfl hl (by decide) [0, 1] rfl (gz_con ⟨gz_ne rfl, Or.inl (gz_ne rfl)⟩ (gz_con ⟨gz_ne rfl, Or.inr rfl⟩ gz_nil)) (fun ls hl => ?_)
  refine lv_goto (tgt := 6) hx hb dX4_up_105 rfl ?_
  exact hk6 _ _ _ h p e s m args below meth c H locs cells slots ls cx hnm hex hI (lv_sub hl [1, 2, 0] rfl)
theorem T_X4_up_44 {l : Launch} {G : gG} {S0 S : gm_S} {d0 fu : Nat} {k6 : Int32 → Int32 → gM → gQ} {r : Outcome × gM} (hf : gg_f G = true) (hD : 4 ≤ d0)
    (hk6 : ∀ (x2 : Int32) (x3 : Int32) (M : gM), k6 x2 x3 M = some r → B_X4_up l d0 G S0 6 [(0, va_rf (some (gg_o G))), (2, .int x2), (3, .int x3)] [] (gm_w S M) r.1 (gm_w S r.2)) : ∀ (n : Nat) (x2 : Int32) (x3 : Int32) (x4 : Int32) (M : gM), F_X4_up_44 fu k6 n x2 x3 x4 M = some r → B_X4_up l d0 G S0 44 [(0, va_rf (some (gg_o G))), (2, .int x2), (3, .int x3), (4, .int x4)] [] (gm_w S M) r.1 (gm_w S r.2) := by
  intro n
  induction n with
  | zero => intro x2 x3 x4 M h; exact nomatch (show (none : gQ) = some r from h)
  | succ n ih =>
    intro x2 x3 x4 M h
    rw [F_X4_up_44] at h
    intro p e s m args below meth c H locs cells slots ls cx hnm hex hI hl
    have hx := cx.1
    have hb := cx.2.1
    have hown := cx.2.2.2.1
    have hts := cx.2.2.2.2.1
    have hK := cx.2.2.2.2.2.1
    refine lv_iload hx hb dX4_up_44 (lv_at hl 3 rfl) ?_
    refine gr_aload_n hx hb (some (gg_o G)) dX4_up_46 rfl (lv_at hl 0 rfl) ?_
    refine gr_mgA cx hf hI 9 rfl rfl (Or.inl (hts _ q1001)) dX4_up_47 ?_
    refine gr_aload_n hx hb (some (gg_o G)) dX4_up_50 rfl (lv_at hl 0 rfl) ?_
    refine nr_gI cx hf hI 7 rfl (fun _ => rfl) rfl (Or.inl (hts _ q999)) dX4_up_51 ?_
    obtain ⟨v3, e3, h⟩ := g_bind h
    refine gr_miald cx hf hI 9 rfl rfl rfl (nr_aI e3) dX4_up_54 ?_
    refine lv_icmp_ge (tgt := 99) hx hb dX4_up_55 rfl (fun hc => ?_) (fun hc => ?_)
    · have h := gz_t h hc
      exact T_X4_up_99 hf hD hk6 h p e s m args below meth c H locs cells slots ls cx hnm hex hI (lv_sub hl [0, 1, 2] rfl)
    · have h := gz_f h hc
      refine gr_aload_n hx hb (some (gg_o G)) dX4_up_58 rfl (lv_at hl 0 rfl) ?_
      refine lv_iload hx hb dX4_up_59 (lv_at hl 3 rfl) ?_
      refine C_X4_outerOf hf cx (gz_nh hex) hI (Or.inl (hts _ q1289)) hl.1 (gz_cs (Nat.le_of_ble_eq_true rfl)) (by omega) dX4_up_61 h (fun v4 M4 h H locs cells slots hI => ?_)
      refine lv_iload_n hx hb dX4_up_64 rfl (lv_at hl 2 rfl) ?_
      refine lv_icmp_ne (tgt := 93) hx hb dX4_up_65 rfl (fun hc => ?_) (fun hc => ?_)
      · have h := gz_f h hc
        refine gz_iinc (k := 3) (v := (x4 + (1 : Int32))) hx hb dX4_up_93 hl rfl (congrArg (fun z => x4 + z) gz_ic_1) (by decide) [0, 1, 2] rfl (gz_con ⟨gz_ne rfl, Or.inl (gz_ne rfl)⟩ (gz_con ⟨gz_ne rfl, Or.inl (gz_ne rfl)⟩ (gz_con ⟨gz_ne rfl, Or.inr rfl⟩ gz_nil))) (fun ls hl => ?_)
        refine lv_goto (tgt := 44) hx hb dX4_up_96 rfl ?_
        exact ih _ _ _ _ h p e s m args below meth c H locs cells slots ls cx hnm hex hI (lv_sub hl [1, 2, 3, 0] rfl)
      · have h := gz_t h hc
        refine gr_aload_n hx hb (some (gg_o G)) dX4_up_68 rfl (lv_at hl 0 rfl) ?_
        refine nr_gI cx hf hI 60 rfl (fun _ => rfl) rfl (Or.inl (hts _ q1052)) dX4_up_69 ?_
        refine gr_aload_n hx hb (some (gg_o G)) dX4_up_72 rfl (lv_at hl 0 rfl) ?_
        refine lv_iload hx hb dX4_up_73 (lv_at hl 3 rfl) ?_
        refine C_X4_belowOf hf cx (gz_nh hex) hI (Or.inl (hts _ q1285)) hl.1 (gz_cs (Nat.le_of_ble_eq_true rfl)) (by omega) dX4_up_75 h (fun v6 M6 h H locs cells slots hI => ?_)
        refine lv_iconst hx hb dX4_up_78 gz_ic_1 ?_
        refine lv_iload hx hb dX4_up_79 (lv_at hl 3 rfl) ?_
        refine lv_ishl hx hb dX4_up_81 ?_
        refine lv_ior hx hb dX4_up_82 ?_
        refine lv_iand hx hb dX4_up_83 ?_
        refine lv_if_ne (tgt := 93) hx hb dX4_up_84 rfl (fun hc => ?_) (fun hc => ?_)
        · have h := gz_f h hc
          refine gz_iinc (k := 3) (v := (x4 + (1 : Int32))) hx hb dX4_up_93 hl rfl (congrArg (fun z => x4 + z) gz_ic_1) (by decide) [0, 1, 2] rfl (gz_con ⟨gz_ne rfl, Or.inl (gz_ne rfl)⟩ (gz_con ⟨gz_ne rfl, Or.inl (gz_ne rfl)⟩ (gz_con ⟨gz_ne rfl, Or.inr rfl⟩ gz_nil))) (fun ls hl => ?_)
          refine lv_goto (tgt := 44) hx hb dX4_up_96 rfl ?_
          exact ih _ _ _ _ h p e s m args below meth c H locs cells slots ls cx hnm hex hI (lv_sub hl [1, 2, 3, 0] rfl)
        · have h := gz_t h hc
          refine gr_aload_n hx hb (some (gg_o G)) dX4_up_87 rfl (lv_at hl 0 rfl) ?_
          refine lv_iload hx hb dX4_up_88 (lv_at hl 3 rfl) ?_
          refine C_X4_down hf cx (gz_nh hex) hI (Or.inl (hts _ q1277)) hl.1 (gz_cs (Nat.le_of_ble_eq_true rfl)) (by omega) dX4_up_90 h (fun M7 h H locs cells slots hI => ?_)
          refine gz_iinc (k := 3) (v := (x4 + (1 : Int32))) hx hb dX4_up_93 hl rfl (congrArg (fun z => x4 + z) gz_ic_1) (by decide) [0, 1, 2] rfl (gz_con ⟨gz_ne rfl, Or.inl (gz_ne rfl)⟩ (gz_con ⟨gz_ne rfl, Or.inl (gz_ne rfl)⟩ (gz_con ⟨gz_ne rfl, Or.inr rfl⟩ gz_nil))) (fun ls hl => ?_)
          refine lv_goto (tgt := 44) hx hb dX4_up_96 rfl ?_
          exact ih _ _ _ _ h p e s m args below meth c H locs cells slots ls cx hnm hex hI (lv_sub hl [1, 2, 3, 0] rfl)
theorem T_X4_up_6 {l : Launch} {G : gG} {S0 S : gm_S} {d0 fu : Nat} {r : Outcome × gM} (hf : gg_f G = true) (hD : 4 ≤ d0) : ∀ (n : Nat) (x2 : Int32) (x3 : Int32) (M : gM), F_X4_up_6 fu n x2 x3 M = some r → B_X4_up l d0 G S0 6 [(0, va_rf (some (gg_o G))), (2, .int x2), (3, .int x3)] [] (gm_w S M) r.1 (gm_w S r.2) := by
  intro n
  induction n with
  | zero => intro x2 x3 M h; exact nomatch (show (none : gQ) = some r from h)
  | succ n ih =>
    intro x2 x3 M h
    rw [F_X4_up_6] at h
    intro p e s m args below meth c H locs cells slots ls cx hnm hex hI hl
    have hx := cx.1
    have hb := cx.2.1
    have hown := cx.2.2.2.1
    have hts := cx.2.2.2.2.1
    have hK := cx.2.2.2.2.2.1
    refine lv_iload_n hx hb dX4_up_6 rfl (lv_at hl 2 rfl) ?_
    refine lv_if_lt (tgt := 108) hx hb dX4_up_7 rfl (fun hc => ?_) (fun hc => ?_)
    · have h := gz_t h hc
      cases h
      exact gr_vret cx hI dX4_up_108
    · have h := gz_f h hc
      refine lv_iload_n hx hb dX4_up_10 rfl (lv_at hl 2 rfl) ?_
      refine lv_iload_n hx hb dX4_up_11 rfl (lv_at hl 1 rfl) ?_
      refine lv_icmp_eq (tgt := 108) hx hb dX4_up_12 rfl (fun hc => ?_) (fun hc => ?_)
      · have h := gz_t h hc
        cases h
        exact gr_vret cx hI dX4_up_108
      · have h := gz_f h hc
        refine gr_aload_n hx hb (some (gg_o G)) dX4_up_15 rfl (lv_at hl 0 rfl) ?_
        refine lv_dup hx hb dX4_up_16 (gl_cat (some (gg_o G))) ?_
        refine nr_gI cx hf hI 60 rfl (fun _ => rfl) rfl (Or.inl (hts _ q1052)) dX4_up_17 ?_
        refine lv_iconst hx hb dX4_up_20 gz_ic_1 ?_
        refine lv_iload_n hx hb dX4_up_21 rfl (lv_at hl 2 rfl) ?_
        refine lv_ishl hx hb dX4_up_22 ?_
        refine lv_ior hx hb dX4_up_23 ?_
        obtain ⟨M2, e2, h⟩ := g_bind h
        refine nr_pI cx hf hI 60 rfl rfl rfl (Or.inl (hts _ q1052)) e2 dX4_up_24 (fun H locs hI => ?_)
        refine gr_aload_n hx hb (some (gg_o G)) dX4_up_27 rfl (lv_at hl 0 rfl) ?_
        refine lv_iload_n hx hb dX4_up_28 rfl (lv_at hl 2 rfl) ?_
        refine C_X4_kindOf hf cx (gz_nh hex) hI (Or.inl (hts _ q1281)) hl.1 (gz_cs (Nat.le_of_ble_eq_true rfl)) (by omega) dX4_up_29 h (fun v3 M3 h H locs cells slots hI => ?_)
        refine lv_iconst hx hb dX4_up_32 gz_ic_2 ?_
        refine lv_icmp_eq (tgt := 39) hx hb dX4_up_33 rfl (fun hc => ?_) (fun hc => ?_)
        · have h := gz_t h hc
          refine lv_iload_n hx hb dX4_up_39 rfl (lv_at hl 2 rfl) ?_
          refine lv_iconst hx hb dX4_up_40 gz_ic_1 ?_
          refine lv_iadd hx hb dX4_up_41 ?_
          refine gz_istore hx hb dX4_up_42 hl (by decide) [0, 1, 2] rfl (gz_con ⟨gz_ne rfl, Or.inl (gz_ne rfl)⟩ (gz_con ⟨gz_ne rfl, Or.inl (gz_ne rfl)⟩ (gz_con ⟨gz_ne rfl, Or.inr rfl⟩ gz_nil))) (fun ls hl => ?_)
          exact T_X4_up_44 hf hD ih fu _ _ _ _ h p e s m args below meth c H locs cells slots ls cx hnm hex hI (lv_sub hl [1, 2, 3, 0] rfl)
        · have h := gz_f h hc
          refine lv_goto (tgt := 99) hx hb dX4_up_36 rfl ?_
          exact T_X4_up_99 hf hD ih h p e s m args below meth c H locs cells slots ls cx hnm hex hI hl
theorem T_X4_up {l : Launch} {G : gG} {S0 S : gm_S} {d0 fu : Nat} {r : Outcome × gM} (hf : gg_f G = true) (hD : 4 ≤ d0) {x1 : Int32} {x2 : Int32} {M : gM} (h : F_X4_up fu x1 x2 M = some r) : B_X4_up l d0 G S0 0 [(0, va_rf (some (gg_o G))), (1, .int x1), (2, .int x2)] [] (gm_w S M) r.1 (gm_w S r.2) := by
  unfold F_X4_up at h
  intro p e s m args below meth c H locs cells slots ls cx hnm hex hI hl
  have hx := cx.1
  have hb := cx.2.1
  have hown := cx.2.2.2.1
  have hts := cx.2.2.2.2.1
  have hK := cx.2.2.2.2.2.1
  refine gr_aload_n hx hb (some (gg_o G)) dX4_up_0 rfl (lv_at hl 0 rfl) ?_
  refine lv_iload_n hx hb dX4_up_1 rfl (lv_at hl 1 rfl) ?_
  refine C_X4_outerOf hf cx (gz_nh hex) hI (Or.inl (hts _ q1289)) hl.1 (gz_cs (Nat.le_of_ble_eq_true rfl)) (by omega) dX4_up_2 h (fun v1 M1 h H locs cells slots hI => ?_)
  refine gz_istore_n hx hb dX4_up_5 rfl hl (by decide) [0, 2] rfl (gz_con ⟨gz_ne rfl, Or.inl (gz_ne rfl)⟩ (gz_con ⟨gz_ne rfl, Or.inr rfl⟩ gz_nil)) (fun ls hl => ?_)
  exact T_X4_up_6 hf hD fu _ _ _ h p e s m args below meth c H locs cells slots ls cx hnm hex hI (lv_sub hl [1, 2, 0] rfl)
theorem M_X4_up {l : Launch} {G : gG} {fu d0 : Nat} (hf : gg_f G = true) (hfl : l.flags = flags0) (hD : 4 ≤ d0) {x1 : Int32} {x2 : Int32} {S : gm_S} {M : gM} {o : Outcome} {M2 : gM} (h : F_X4_up fu x1 x2 M = some (o, M2)) : gx_Met l yX4_up (ws_ yX4_up cX4_up 5 (Option.none : Option Jvm.ClassFile.FieldType)) d0 G (gm_w S M) [va_rf (some (gg_o G)), .int x1, .int x2] o (gm_w S M2) := by
  refine gx_of hfl (by decide) (fun p e s m below meth c cx hnm hex hI => ?_)
  rw [lg_entry_eq]
  exact T_X4_up (r := (o, M2)) hf hD h p e s m _ below meth c _ _ _ _ _ cx hnm (gz_nh0 hex) hI (lv_entry _ (Nat.le_of_ble_eq_true rfl))
theorem C_X4_up {p : Program} {l : Launch} {e : Env} {s : State} {m : MethodId} {args : Array Value} {below : List Frame} {meth : Method} {c : Code} {H : Heap} {locs : List Loc} {cells slots : Nat} {cc : ByteArray} {pc nL : Nat} {ls : Array Slot} {rest : List Value} {G : gG} {S0 S : gm_S} {own : String} {ret : Option FieldType} {d0 index fu : Nat} {M : gM} {x1 : Int32} {x2 : Int32} {k : gM → gQ} {r : Outcome × gM} (hf : gg_f G = true) (cx : gx_cx p l s m args meth c G own cc nL ret) (hex : ∀ x ∈ c.exceptionTable.toList, covers x pc = false) (hI : gw_I G S0 (gm_w S M) H locs cells slots) (hl : gl_M own index yX4_up args s) (hlv : ls.size = nL) (hrest : (rest.map fun v => v.category).sum ≤ 8) (hD : 5 ≤ d0) (hdg : decode cc pc = .ok (.invokevirtual index, 3)) (h : gz_cV (F_X4_up fu x1 x2 M) k = some r)
    (kk : ∀ (z : gM), k z = some r → ∀ (H : Heap) (locs : List Loc) (cells slots : Nat), gw_I G S0 (gm_w S z) H locs cells slots → W p l e (gx_rm d0 S0) s m args below meth c H locs cells slots (gx_MQ below G S0 (gm_w S r.2) r.1 s) (F0 m (pc + 3) ls rest)) : W p l e (gx_rm d0 S0) s m args below meth c H locs cells slots (gx_MQ below G S0 (gm_w S r.2) r.1 s) (F0 m pc ls (.int x2 :: .int x1 :: va_rf (some (gg_o G)) :: rest)) := by
  have hts := cx.2.2.2.2.1
  have hK := cx.2.2.2.2.2.1
  exact gz_goV (d := d0 - 1) (gm_w S) cx hex hI hlv hrest (by omega) (Nat.le_of_ble_eq_true rfl) (gz_ws (lw_meth q1358) hts) (hts _ q78) (gb_rawV (As := [.int x1, .int x2]) cx hl (hts _ q1357) (hts _ qs66) (gl_C.code (hts _ q1358)) hy_X4_up (gr_recvM hK hI.1 hf) rfl rfl hdg) (fun o S2 e => M_X4_up hf cx.2.2.2.2.2.2.2.2 (by omega) e) h kk
abbrev B_X4_step (l : Launch) (d0 : Nat) (G : gG) (S0 : gm_S) : Nat → List (Nat × Value) → List Value → gm_S → Outcome → gm_S → Prop := gz_B l RX4 "step" cX4_step 4 (Option.none : Option Jvm.ClassFile.FieldType) [] d0 G S0
theorem T_X4_step_133 {l : Launch} {G : gG} {S0 S : gm_S} {d0 fu : Nat} {k108 : Int32 → gM → gQ} {r : Outcome × gM} (hf : gg_f G = true) (hD : 5 ≤ d0)
    (hk108 : ∀ (x2 : Int32) (M : gM), k108 x2 M = some r → B_X4_step l d0 G S0 108 [(0, va_rf (some (gg_o G))), (2, .int x2)] [] (gm_w S M) r.1 (gm_w S r.2)) : ∀ (n : Nat) (x2 : Int32) (x3 : Int32) (M : gM), F_X4_step_133 fu k108 n x2 x3 M = some r → B_X4_step l d0 G S0 133 [(0, va_rf (some (gg_o G))), (2, .int x2), (3, .int x3)] [] (gm_w S M) r.1 (gm_w S r.2) := by
  intro n
  induction n with
  | zero => intro x2 x3 M h; exact nomatch (show (none : gQ) = some r from h)
  | succ n ih =>
    intro x2 x3 M h
    rw [F_X4_step_133] at h
    intro p e s m args below meth c H locs cells slots ls cx hnm hex hI hl
    have hx := cx.1
    have hb := cx.2.1
    have hown := cx.2.2.2.1
    have hts := cx.2.2.2.2.1
    have hK := cx.2.2.2.2.2.1
    refine lv_iload_n hx hb dX4_step_133 rfl (lv_at hl 2 rfl) ?_
    refine gr_aload_n hx hb (some (gg_o G)) dX4_step_134 rfl (lv_at hl 0 rfl) ?_
    refine gr_mgA cx hf hI 9 rfl rfl (Or.inl (hts _ q1001)) dX4_step_135 ?_
    refine gr_aload_n hx hb (some (gg_o G)) dX4_step_138 rfl (lv_at hl 0 rfl) ?_
    refine nr_gI cx hf hI 7 rfl (fun _ => rfl) rfl (Or.inl (hts _ q999)) dX4_step_139 ?_
    obtain ⟨v3, e3, h⟩ := g_bind h
    refine gr_miald cx hf hI 9 rfl rfl rfl (nr_aI e3) dX4_step_142 ?_
    refine lv_icmp_ge (tgt := 185) hx hb dX4_step_143 rfl (fun hc => ?_) (fun hc => ?_)
    · have h := gz_t h hc
      refine gz_iinc (k := 1) (v := (x2 + (1 : Int32))) hx hb dX4_step_185 hl rfl (congrArg (fun z => x2 + z) gz_ic_1) (by decide) [0] rfl (gz_con ⟨gz_ne rfl, Or.inl (gz_ne rfl)⟩ gz_nil) (fun ls hl => ?_)
      refine lv_goto (tgt := 108) hx hb dX4_step_188 rfl ?_
      exact hk108 _ _ h p e s m args below meth c H locs cells slots ls cx hnm hex hI (lv_sub hl [1, 0] rfl)
    · have h := gz_f h hc
      refine gr_aload_n hx hb (some (gg_o G)) dX4_step_146 rfl (lv_at hl 0 rfl) ?_
      refine gr_aload_n hx hb (some (gg_o G)) dX4_step_147 rfl (lv_at hl 0 rfl) ?_
      refine gr_mgA cx hf hI 57 rfl rfl (Or.inl (hts _ q1049)) dX4_step_148 ?_
      refine lv_iload_n hx hb dX4_step_151 rfl (lv_at hl 1 rfl) ?_
      obtain ⟨v5, e5, h⟩ := g_bind h
      refine gr_miald cx hf hI 57 rfl rfl rfl (nr_aI e5) dX4_step_152 ?_
      refine lv_iload_n hx hb dX4_step_153 rfl (lv_at hl 2 rfl) ?_
      refine C_X4_isIn hf cx (gz_nh hex) hI (Or.inl (hts _ q1297)) hl.1 (gz_cs (Nat.le_of_ble_eq_true rfl)) (by omega) dX4_step_154 h (fun v6 M6 h H locs cells slots hI => ?_)
      refine lv_if_ne (tgt := 163) hx hb dX4_step_157 rfl (fun hc => ?_) (fun hc => ?_)
      · have h := gz_f h hc
        refine gr_aload_n hx hb (some (gg_o G)) dX4_step_163 rfl (lv_at hl 0 rfl) ?_
        refine lv_iload_n hx hb dX4_step_164 rfl (lv_at hl 2 rfl) ?_
        refine C_X4_down hf cx (gz_nh hex) hI (Or.inl (hts _ q1277)) hl.1 (gz_cs (Nat.le_of_ble_eq_true rfl)) (by omega) dX4_step_165 h (fun M7 h H locs cells slots hI => ?_)
        refine gr_aload_n hx hb (some (gg_o G)) dX4_step_168 rfl (lv_at hl 0 rfl) ?_
        refine lv_iload_n hx hb dX4_step_169 rfl (lv_at hl 2 rfl) ?_
        refine gr_aload_n hx hb (some (gg_o G)) dX4_step_170 rfl (lv_at hl 0 rfl) ?_
        refine gr_mgA cx hf hI 58 rfl rfl (Or.inl (hts _ q1050)) dX4_step_171 ?_
        refine lv_iload_n hx hb dX4_step_174 rfl (lv_at hl 1 rfl) ?_
        obtain ⟨v9, e9, h⟩ := g_bind h
        refine gr_miald cx hf hI 58 rfl rfl rfl (nr_aI e9) dX4_step_175 ?_
        refine C_X4_up hf cx (gz_nh hex) hI (Or.inl (hts _ q1355)) hl.1 (gz_cs (Nat.le_of_ble_eq_true rfl)) (by omega) dX4_step_176 h (fun M10 h H locs cells slots hI => ?_)
        refine gz_iinc (k := 2) (v := (x3 + (1 : Int32))) hx hb dX4_step_179 hl rfl (congrArg (fun z => x3 + z) gz_ic_1) (by decide) [0, 1] rfl (gz_con ⟨gz_ne rfl, Or.inl (gz_ne rfl)⟩ (gz_con ⟨gz_ne rfl, Or.inr rfl⟩ gz_nil)) (fun ls hl => ?_)
        refine lv_goto (tgt := 133) hx hb dX4_step_182 rfl ?_
        exact ih _ _ _ h p e s m args below meth c H locs cells slots ls cx hnm hex hI (lv_sub hl [1, 2, 0] rfl)
      · have h := gz_t h hc
        refine lv_goto (tgt := 179) hx hb dX4_step_160 rfl ?_
        refine gz_iinc (k := 2) (v := (x3 + (1 : Int32))) hx hb dX4_step_179 hl rfl (congrArg (fun z => x3 + z) gz_ic_1) (by decide) [0, 1] rfl (gz_con ⟨gz_ne rfl, Or.inl (gz_ne rfl)⟩ (gz_con ⟨gz_ne rfl, Or.inr rfl⟩ gz_nil)) (fun ls hl => ?_)
        refine lv_goto (tgt := 133) hx hb dX4_step_182 rfl ?_
        exact ih _ _ _ h p e s m args below meth c H locs cells slots ls cx hnm hex hI (lv_sub hl [1, 2, 0] rfl)
theorem T_X4_step_108 {l : Launch} {G : gG} {S0 S : gm_S} {d0 fu : Nat} {r : Outcome × gM} (hf : gg_f G = true) (hD : 5 ≤ d0) : ∀ (n : Nat) (x2 : Int32) (M : gM), F_X4_step_108 fu n x2 M = some r → B_X4_step l d0 G S0 108 [(0, va_rf (some (gg_o G))), (2, .int x2)] [] (gm_w S M) r.1 (gm_w S r.2) := by
  intro n
  induction n with
  | zero => intro x2 M h; exact nomatch (show (none : gQ) = some r from h)
  | succ n ih =>
    intro x2 M h
    rw [F_X4_step_108] at h
    intro p e s m args below meth c H locs cells slots ls cx hnm hex hI hl
    have hx := cx.1
    have hb := cx.2.1
    have hown := cx.2.2.2.1
    have hts := cx.2.2.2.2.1
    have hK := cx.2.2.2.2.2.1
    refine lv_iload_n hx hb dX4_step_108 rfl (lv_at hl 1 rfl) ?_
    refine gr_aload_n hx hb (some (gg_o G)) dX4_step_109 rfl (lv_at hl 0 rfl) ?_
    refine nr_gI cx hf hI 55 rfl (fun _ => rfl) rfl (Or.inl (hts _ q1047)) dX4_step_110 ?_
    refine lv_icmp_ge (tgt := 191) hx hb dX4_step_113 rfl (fun hc => ?_) (fun hc => ?_)
    · have h := gz_t h hc
      refine gr_aload_n hx hb (some (gg_o G)) dX4_step_191 rfl (lv_at hl 0 rfl) ?_
      refine gr_aload_n hx hb (some (gg_o G)) dX4_step_192 rfl (lv_at hl 0 rfl) ?_
      refine nr_gI cx hf hI 60 rfl (fun _ => rfl) rfl (Or.inl (hts _ q1052)) dX4_step_193 ?_
      refine C_X4_enter hf cx (gz_nh hex) hI (Or.inl (hts _ q1293)) hl.1 (gz_cs (Nat.le_of_ble_eq_true rfl)) (by omega) dX4_step_196 h (fun M3 h H locs cells slots hI => ?_)
      cases h
      exact gr_vret cx hI dX4_step_199
    · have h := gz_f h hc
      refine gr_aload_n hx hb (some (gg_o G)) dX4_step_116 rfl (lv_at hl 0 rfl) ?_
      refine lv_dup hx hb dX4_step_117 (gl_cat (some (gg_o G))) ?_
      refine nr_gI cx hf hI 60 rfl (fun _ => rfl) rfl (Or.inl (hts _ q1052)) dX4_step_118 ?_
      refine gr_aload_n hx hb (some (gg_o G)) dX4_step_121 rfl (lv_at hl 0 rfl) ?_
      refine gr_mgA cx hf hI 57 rfl rfl (Or.inl (hts _ q1049)) dX4_step_122 ?_
      refine lv_iload_n hx hb dX4_step_125 rfl (lv_at hl 1 rfl) ?_
      obtain ⟨v6, e6, h⟩ := g_bind h
      refine gr_miald cx hf hI 57 rfl rfl rfl (nr_aI e6) dX4_step_126 ?_
      refine lv_ior hx hb dX4_step_127 ?_
      obtain ⟨M7, e7, h⟩ := g_bind h
      refine nr_pI cx hf hI 60 rfl rfl rfl (Or.inl (hts _ q1052)) e7 dX4_step_128 (fun H locs hI => ?_)
      refine lv_iconst hx hb dX4_step_131 gz_ic_0 ?_
      refine gz_istore_n hx hb dX4_step_132 rfl hl (by decide) [0, 1] rfl (gz_con ⟨gz_ne rfl, Or.inl (gz_ne rfl)⟩ (gz_con ⟨gz_ne rfl, Or.inr rfl⟩ gz_nil)) (fun ls hl => ?_)
      exact T_X4_step_133 hf hD ih fu _ _ _ h p e s m args below meth c H locs cells slots ls cx hnm hex hI (lv_sub hl [1, 2, 0] rfl)
theorem T_X4_step_69 {l : Launch} {G : gG} {S0 S : gm_S} {d0 fu : Nat} {r : Outcome × gM} (hf : gg_f G = true) (hD : 5 ≤ d0) : ∀ (n : Nat) (x2 : Int32) (M : gM), F_X4_step_69 fu n x2 M = some r → B_X4_step l d0 G S0 69 [(0, va_rf (some (gg_o G))), (2, .int x2)] [] (gm_w S M) r.1 (gm_w S r.2) := by
  intro n
  induction n with
  | zero => intro x2 M h; exact nomatch (show (none : gQ) = some r from h)
  | succ n ih =>
    intro x2 M h
    rw [F_X4_step_69] at h
    intro p e s m args below meth c H locs cells slots ls cx hnm hex hI hl
    have hx := cx.1
    have hb := cx.2.1
    have hown := cx.2.2.2.1
    have hts := cx.2.2.2.2.1
    have hK := cx.2.2.2.2.2.1
    refine lv_iload_n hx hb dX4_step_69 rfl (lv_at hl 1 rfl) ?_
    refine gr_aload_n hx hb (some (gg_o G)) dX4_step_70 rfl (lv_at hl 0 rfl) ?_
    refine nr_gI cx hf hI 55 rfl (fun _ => rfl) rfl (Or.inl (hts _ q1047)) dX4_step_71 ?_
    refine lv_icmp_ge (tgt := 101) hx hb dX4_step_74 rfl (fun hc => ?_) (fun hc => ?_)
    · have h := gz_t h hc
      refine gr_aload_n hx hb (some (gg_o G)) dX4_step_101 rfl (lv_at hl 0 rfl) ?_
      refine lv_iconst hx hb dX4_step_102 gz_ic_0 ?_
      obtain ⟨M2, e2, h⟩ := g_bind h
      refine nr_pI cx hf hI 60 rfl rfl rfl (Or.inl (hts _ q1052)) e2 dX4_step_103 (fun H locs hI => ?_)
      refine lv_iconst hx hb dX4_step_106 gz_ic_0 ?_
      refine gz_istore_n hx hb dX4_step_107 rfl hl (by decide) [0] rfl (gz_con ⟨gz_ne rfl, Or.inl (gz_ne rfl)⟩ gz_nil) (fun ls hl => ?_)
      exact T_X4_step_108 hf hD fu _ _ h p e s m args below meth c H locs cells slots ls cx hnm hex hI (lv_sub hl [1, 0] rfl)
    · have h := gz_f h hc
      refine gr_aload_n hx hb (some (gg_o G)) dX4_step_77 rfl (lv_at hl 0 rfl) ?_
      refine gr_aload_n hx hb (some (gg_o G)) dX4_step_78 rfl (lv_at hl 0 rfl) ?_
      refine gr_mgA cx hf hI 56 rfl rfl (Or.inl (hts _ q1048)) dX4_step_79 ?_
      refine lv_iload_n hx hb dX4_step_82 rfl (lv_at hl 1 rfl) ?_
      obtain ⟨v4, e4, h⟩ := g_bind h
      refine gr_miald cx hf hI 56 rfl rfl rfl (nr_aI e4) dX4_step_83 ?_
      refine lv_bipush hx hb dX4_step_84 gz_bp_24 ?_
      refine gr_aload_n hx hb (some (gg_o G)) dX4_step_86 rfl (lv_at hl 0 rfl) ?_
      refine nr_gI cx hf hI 7 rfl (fun _ => rfl) rfl (Or.inl (hts _ q999)) dX4_step_87 ?_
      refine lv_imul hx hb dX4_step_90 ?_
      refine lv_isub hx hb dX4_step_91 ?_
      refine C_X4_act hf cx (gz_nh hex) hI (Or.inl (hts _ q1305)) hl.1 (gz_cs (Nat.le_of_ble_eq_true rfl)) (by omega) dX4_step_92 h (fun M6 h H locs cells slots hI => ?_)
      refine gz_iinc (k := 1) (v := (x2 + (1 : Int32))) hx hb dX4_step_95 hl rfl (congrArg (fun z => x2 + z) gz_ic_1) (by decide) [0] rfl (gz_con ⟨gz_ne rfl, Or.inl (gz_ne rfl)⟩ gz_nil) (fun ls hl => ?_)
      refine lv_goto (tgt := 69) hx hb dX4_step_98 rfl ?_
      exact ih _ _ h p e s m args below meth c H locs cells slots ls cx hnm hex hI (lv_sub hl [1, 0] rfl)
theorem T_X4_step_39 {l : Launch} {G : gG} {S0 S : gm_S} {d0 fu : Nat} {r : Outcome × gM} (hf : gg_f G = true) (hD : 5 ≤ d0) : ∀ (n : Nat) (x1 : Int32) (x2 : Int32) (M : gM), F_X4_step_39 fu n x1 x2 M = some r → B_X4_step l d0 G S0 39 [(0, va_rf (some (gg_o G))), (1, .int x1), (2, .int x2)] [] (gm_w S M) r.1 (gm_w S r.2) := by
  intro n
  induction n with
  | zero => intro x1 x2 M h; exact nomatch (show (none : gQ) = some r from h)
  | succ n ih =>
    intro x1 x2 M h
    rw [F_X4_step_39] at h
    intro p e s m args below meth c H locs cells slots ls cx hnm hex hI hl
    have hx := cx.1
    have hb := cx.2.1
    have hown := cx.2.2.2.1
    have hts := cx.2.2.2.2.1
    have hK := cx.2.2.2.2.2.1
    refine lv_iload_n hx hb dX4_step_39 rfl (lv_at hl 2 rfl) ?_
    refine gr_aload_n hx hb (some (gg_o G)) dX4_step_40 rfl (lv_at hl 0 rfl) ?_
    refine nr_gI cx hf hI 55 rfl (fun _ => rfl) rfl (Or.inl (hts _ q1047)) dX4_step_41 ?_
    refine lv_icmp_ge (tgt := 62) hx hb dX4_step_44 rfl (fun hc => ?_) (fun hc => ?_)
    · have h := gz_t h hc
      refine gr_aload_n hx hb (some (gg_o G)) dX4_step_62 rfl (lv_at hl 0 rfl) ?_
      refine lv_iload_n hx hb dX4_step_63 rfl (lv_at hl 1 rfl) ?_
      refine C_X4_leave hf cx (gz_nh hex) hI (Or.inl (hts _ q1351)) hl.1 (gz_cs (Nat.le_of_ble_eq_true rfl)) (by omega) dX4_step_64 h (fun M2 h H locs cells slots hI => ?_)
      refine lv_iconst hx hb dX4_step_67 gz_ic_0 ?_
      refine gz_istore_n hx hb dX4_step_68 rfl hl (by decide) [0] rfl (gz_con ⟨gz_ne rfl, Or.inl (gz_ne rfl)⟩ gz_nil) (fun ls hl => ?_)
      exact T_X4_step_69 hf hD fu _ _ h p e s m args below meth c H locs cells slots ls cx hnm hex hI (lv_sub hl [1, 0] rfl)
    · have h := gz_f h hc
      refine lv_iload_n hx hb dX4_step_47 rfl (lv_at hl 1 rfl) ?_
      refine gr_aload_n hx hb (some (gg_o G)) dX4_step_48 rfl (lv_at hl 0 rfl) ?_
      refine gr_mgA cx hf hI 59 rfl rfl (Or.inl (hts _ q1051)) dX4_step_49 ?_
      refine lv_iload_n hx hb dX4_step_52 rfl (lv_at hl 2 rfl) ?_
      obtain ⟨v4, e4, h⟩ := g_bind h
      refine gr_miald cx hf hI 59 rfl rfl rfl (nr_aI e4) dX4_step_53 ?_
      refine lv_ior hx hb dX4_step_54 ?_
      refine gz_istore_n hx hb dX4_step_55 rfl hl (by decide) [0, 2] rfl (gz_con ⟨gz_ne rfl, Or.inr (gl_cat (some (gg_o G)))⟩ (gz_con ⟨gz_ne rfl, Or.inl (gz_ne rfl)⟩ gz_nil)) (fun ls hl => ?_)
      refine gz_iinc (k := 2) (v := (x2 + (1 : Int32))) hx hb dX4_step_56 hl rfl (congrArg (fun z => x2 + z) gz_ic_1) (by decide) [0, 1] rfl (gz_con ⟨gz_ne rfl, Or.inr rfl⟩ (gz_con ⟨gz_ne rfl, Or.inl (gz_ne rfl)⟩ gz_nil)) (fun ls hl => ?_)
      refine lv_goto (tgt := 39) hx hb dX4_step_59 rfl ?_
      exact ih _ _ _ h p e s m args below meth c H locs cells slots ls cx hnm hex hI (lv_sub hl [2, 1, 0] rfl)
theorem T_X4_step {l : Launch} {G : gG} {S0 S : gm_S} {d0 fu : Nat} {r : Outcome × gM} (hf : gg_f G = true) (hD : 5 ≤ d0)  {M : gM} (h : F_X4_step fu  M = some r) : B_X4_step l d0 G S0 0 [(0, va_rf (some (gg_o G)))] [] (gm_w S M) r.1 (gm_w S r.2) := by
  unfold F_X4_step at h
  intro p e s m args below meth c H locs cells slots ls cx hnm hex hI hl
  have hx := cx.1
  have hb := cx.2.1
  have hown := cx.2.2.2.1
  have hts := cx.2.2.2.2.1
  have hK := cx.2.2.2.2.2.1
  refine gr_aload_n hx hb (some (gg_o G)) dX4_step_0 rfl (lv_at hl 0 rfl) ?_
  refine nr_gI cx hf hI 51 rfl (fun _ => rfl) rfl (Or.inl (hts _ q1043)) dX4_step_1 ?_
  refine lv_bipush hx hb dX4_step_4 gz_bp_30 ?_
  refine lv_icmp_ne (tgt := 25) hx hb dX4_step_6 rfl (fun hc => ?_) (fun hc => ?_)
  · have h := gz_f h hc
    refine gr_aload_n hx hb (some (gg_o G)) dX4_step_25 rfl (lv_at hl 0 rfl) ?_
    refine lv_dup hx hb dX4_step_26 (gl_cat (some (gg_o G))) ?_
    refine nr_gI cx hf hI 51 rfl (fun _ => rfl) rfl (Or.inl (hts _ q1043)) dX4_step_27 ?_
    refine lv_iconst hx hb dX4_step_30 gz_ic_1 ?_
    refine lv_iadd hx hb dX4_step_31 ?_
    obtain ⟨M3, e3, h⟩ := g_bind h
    refine nr_pI cx hf hI 51 rfl rfl rfl (Or.inl (hts _ q1043)) e3 dX4_step_32 (fun H locs hI => ?_)
    refine lv_iconst hx hb dX4_step_35 gz_ic_0 ?_
    refine gz_istore_n hx hb dX4_step_36 rfl hl (by decide) [0] rfl (gz_con ⟨gz_ne rfl, Or.inr (gl_cat (some (gg_o G)))⟩ gz_nil) (fun ls hl => ?_)
    refine lv_iconst hx hb dX4_step_37 gz_ic_0 ?_
    refine gz_istore_n hx hb dX4_step_38 rfl hl (by decide) [0, 1] rfl (gz_con ⟨gz_ne rfl, Or.inr rfl⟩ (gz_con ⟨gz_ne rfl, Or.inl (gz_ne rfl)⟩ gz_nil)) (fun ls hl => ?_)
    exact T_X4_step_39 hf hD fu _ _ _ h p e s m args below meth c H locs cells slots ls cx hnm hex hI (lv_sub hl [2, 1, 0] rfl)
  · have h := gz_t h hc
    refine gr_aload_n hx hb (some (gg_o G)) dX4_step_9 rfl (lv_at hl 0 rfl) ?_
    refine lv_iconst hx hb dX4_step_10 gz_ic_1 ?_
    obtain ⟨M4, e4, h⟩ := g_bind h
    refine nr_pZ cx hf hI 52 rfl rfl rfl (Or.inl (hts _ q1044)) e4 dX4_step_11 (fun H locs hI => ?_)
    refine gr_aload_n hx hb (some (gg_o G)) dX4_step_14 rfl (lv_at hl 0 rfl) ?_
    refine lv_iconst hx hb dX4_step_15 gz_ic_0 ?_
    obtain ⟨M5, e5, h⟩ := g_bind h
    refine nr_pZ cx hf hI 40 rfl rfl rfl (Or.inl (hts _ q1032)) e5 dX4_step_16 (fun H locs hI => ?_)
    refine gr_aload_n hx hb (some (gg_o G)) dX4_step_19 rfl (lv_at hl 0 rfl) ?_
    refine lv_iconst hx hb dX4_step_20 gz_ic_0 ?_
    obtain ⟨M6, e6, h⟩ := g_bind h
    refine nr_pI cx hf hI 41 rfl rfl rfl (Or.inl (hts _ q1033)) e6 dX4_step_21 (fun H locs hI => ?_)
    cases h
    exact gr_vret cx hI dX4_step_24
theorem M_X4_step {l : Launch} {G : gG} {fu d0 : Nat} (hf : gg_f G = true) (hfl : l.flags = flags0) (hD : 5 ≤ d0)  {S : gm_S} {M : gM} {o : Outcome} {M2 : gM} (h : F_X4_step fu  M = some (o, M2)) : gx_Met l yX4_step (ws_ yX4_step cX4_step 4 (Option.none : Option Jvm.ClassFile.FieldType)) d0 G (gm_w S M) [va_rf (some (gg_o G))] o (gm_w S M2) := by
  refine gx_of hfl (by decide) (fun p e s m below meth c cx hnm hex hI => ?_)
  rw [lg_entry_eq]
  exact T_X4_step (r := (o, M2)) hf hD h p e s m _ below meth c _ _ _ _ _ cx hnm (gz_nh0 hex) hI (lv_entry _ (Nat.le_of_ble_eq_true rfl))
theorem C_X4_step {p : Program} {l : Launch} {e : Env} {s : State} {m : MethodId} {args : Array Value} {below : List Frame} {meth : Method} {c : Code} {H : Heap} {locs : List Loc} {cells slots : Nat} {cc : ByteArray} {pc nL : Nat} {ls : Array Slot} {rest : List Value} {G : gG} {S0 S : gm_S} {own : String} {ret : Option FieldType} {d0 index fu : Nat} {M : gM}  {k : gM → gQ} {r : Outcome × gM} (hf : gg_f G = true) (cx : gx_cx p l s m args meth c G own cc nL ret) (hex : ∀ x ∈ c.exceptionTable.toList, covers x pc = false) (hI : gw_I G S0 (gm_w S M) H locs cells slots) (hl : gl_M own index yX4_step args s) (hlv : ls.size = nL) (hrest : (rest.map fun v => v.category).sum ≤ 8) (hD : 6 ≤ d0) (hdg : decode cc pc = .ok (.invokevirtual index, 3)) (h : gz_cV (F_X4_step fu  M) k = some r)
    (kk : ∀ (z : gM), k z = some r → ∀ (H : Heap) (locs : List Loc) (cells slots : Nat), gw_I G S0 (gm_w S z) H locs cells slots → W p l e (gx_rm d0 S0) s m args below meth c H locs cells slots (gx_MQ below G S0 (gm_w S r.2) r.1 s) (F0 m (pc + 3) ls rest)) : W p l e (gx_rm d0 S0) s m args below meth c H locs cells slots (gx_MQ below G S0 (gm_w S r.2) r.1 s) (F0 m pc ls (va_rf (some (gg_o G)) :: rest)) := by
  have hts := cx.2.2.2.2.1
  have hK := cx.2.2.2.2.2.1
  exact gz_goV (d := d0 - 1) (gm_w S) cx hex hI hlv hrest (by omega) (Nat.le_of_ble_eq_true rfl) (gz_ws (lw_meth q1350) hts) (hts _ q78) (gb_rawV (As := []) cx hl (hts _ q1349) (hts _ qs64) (gl_C.code (hts _ q1350)) hy_X4_step (gr_recvM hK hI.1 hf) rfl rfl hdg) (fun o S2 e => M_X4_step hf cx.2.2.2.2.2.2.2.2 (by omega) e) h kk
abbrev B_X4_runOn (l : Launch) (d0 : Nat) (G : gG) (S0 : gm_S) : Nat → List (Nat × Value) → List Value → gm_S → Outcome → gm_S → Prop := gz_B l RX4 "runOn" cX4_runOn 4 (Option.none : Option Jvm.ClassFile.FieldType) [] d0 G S0
theorem T_X4_runOn_113 {l : Launch} {G : gG} {S0 S : gm_S} {d0 fu : Nat} {k13 : Int32 → gM → gQ} {r : Outcome × gM} (hf : gg_f G = true) (hD : 7 ≤ d0)
    (hk13 : ∀ (x1 : Int32) (M : gM), k13 x1 M = some r → B_X4_runOn l d0 G S0 13 [(0, va_rf (some (gg_o G))), (1, .int x1)] [] (gm_w S M) r.1 (gm_w S r.2)) {x1 : Int32} {M : gM} (h : F_X4_runOn_113 fu k13 x1 M = some r) : B_X4_runOn l d0 G S0 113 [(0, va_rf (some (gg_o G))), (1, .int x1)] [] (gm_w S M) r.1 (gm_w S r.2) := by
  unfold F_X4_runOn_113 at h
  intro p e s m args below meth c H locs cells slots ls cx hnm hex hI hl
  have hx := cx.1
  have hb := cx.2.1
  have hown := cx.2.2.2.1
  have hts := cx.2.2.2.2.1
  have hK := cx.2.2.2.2.2.1
  refine lv_iload_n hx hb dX4_runOn_113 rfl (lv_at hl 1 rfl) ?_
  refine lv_if_eq (tgt := 128) hx hb dX4_runOn_114 rfl (fun hc => ?_) (fun hc => ?_)
  · have h := gz_t h hc
    refine lv_iconst hx hb dX4_runOn_128 gz_ic_0 ?_
    refine gz_istore_n hx hb dX4_runOn_129 rfl hl (by decide) [0] rfl (gz_con ⟨gz_ne rfl, Or.inr (gl_cat (some (gg_o G)))⟩ gz_nil) (fun ls hl => ?_)
    refine lv_goto (tgt := 13) hx hb dX4_runOn_130 rfl ?_
    exact hk13 _ _ h p e s m args below meth c H locs cells slots ls cx hnm hex hI (lv_sub hl [1, 0] rfl)
  · have h := gz_f h hc
    refine gr_aload_n hx hb (some (gg_o G)) dX4_runOn_117 rfl (lv_at hl 0 rfl) ?_
    refine nr_gI cx hf hI 52 rfl (fun _ => rfl) rfl (Or.inl (hts _ q1044)) dX4_runOn_118 ?_
    refine lv_if_ne (tgt := 128) hx hb dX4_runOn_121 rfl (fun hc => ?_) (fun hc => ?_)
    · have h := gz_f h hc
      refine lv_iconst hx hb dX4_runOn_128 gz_ic_0 ?_
      refine gz_istore_n hx hb dX4_runOn_129 rfl hl (by decide) [0] rfl (gz_con ⟨gz_ne rfl, Or.inr (gl_cat (some (gg_o G)))⟩ gz_nil) (fun ls hl => ?_)
      refine lv_goto (tgt := 13) hx hb dX4_runOn_130 rfl ?_
      exact hk13 _ _ h p e s m args below meth c H locs cells slots ls cx hnm hex hI (lv_sub hl [1, 0] rfl)
    · have h := gz_t h hc
      refine lv_iconst hx hb dX4_runOn_124 gz_ic_1 ?_
      refine lv_goto (tgt := 129) hx hb dX4_runOn_125 rfl ?_
      refine gz_istore_n hx hb dX4_runOn_129 rfl hl (by decide) [0] rfl (gz_con ⟨gz_ne rfl, Or.inr (gl_cat (some (gg_o G)))⟩ gz_nil) (fun ls hl => ?_)
      refine lv_goto (tgt := 13) hx hb dX4_runOn_130 rfl ?_
      exact hk13 _ _ h p e s m args below meth c H locs cells slots ls cx hnm hex hI (lv_sub hl [1, 0] rfl)
theorem T_X4_runOn_104 {l : Launch} {G : gG} {S0 S : gm_S} {d0 fu : Nat} {k13 : Int32 → gM → gQ} {r : Outcome × gM} (hf : gg_f G = true) (hD : 7 ≤ d0)
    (hk13 : ∀ (x1 : Int32) (M : gM), k13 x1 M = some r → B_X4_runOn l d0 G S0 13 [(0, va_rf (some (gg_o G))), (1, .int x1)] [] (gm_w S M) r.1 (gm_w S r.2)) {s0 : Int32} {M : gM} (h : F_X4_runOn_104 fu k13 s0 M = some r) : B_X4_runOn l d0 G S0 104 [(0, va_rf (some (gg_o G)))] [.int s0] (gm_w S M) r.1 (gm_w S r.2) := by
  unfold F_X4_runOn_104 at h
  intro p e s m args below meth c H locs cells slots ls cx hnm hex hI hl
  have hx := cx.1
  have hb := cx.2.1
  have hown := cx.2.2.2.1
  have hts := cx.2.2.2.2.1
  have hK := cx.2.2.2.2.2.1
  refine gz_istore_n hx hb dX4_runOn_104 rfl hl (by decide) [0] rfl (gz_con ⟨gz_ne rfl, Or.inr (gl_cat (some (gg_o G)))⟩ gz_nil) (fun ls hl => ?_)
  refine lv_iload_n hx hb dX4_runOn_105 rfl (lv_at hl 0 rfl) ?_
  refine lv_if_eq (tgt := 113) hx hb dX4_runOn_106 rfl (fun hc => ?_) (fun hc => ?_)
  · have h := gz_t h hc
    exact T_X4_runOn_113 hf hD hk13 h p e s m args below meth c H locs cells slots ls cx hnm hex hI (lv_sub hl [1, 0] rfl)
  · have h := gz_f h hc
    refine gr_aload_n hx hb (some (gg_o G)) dX4_runOn_109 rfl (lv_at hl 1 rfl) ?_
    refine C_X4_step hf cx (gz_nh hex) hI (Or.inl (hts _ q1347)) hl.1 (gz_cs (Nat.le_of_ble_eq_true rfl)) (by omega) dX4_runOn_110 h (fun M1 h H locs cells slots hI => ?_)
    exact T_X4_runOn_113 hf hD hk13 h p e s m args below meth c H locs cells slots ls cx hnm hex hI (lv_sub hl [1, 0] rfl)
theorem T_X4_runOn_92 {l : Launch} {G : gG} {S0 S : gm_S} {d0 fu : Nat} {k13 : Int32 → gM → gQ} {r : Outcome × gM} (hf : gg_f G = true) (hD : 7 ≤ d0)
    (hk13 : ∀ (x1 : Int32) (M : gM), k13 x1 M = some r → B_X4_runOn l d0 G S0 13 [(0, va_rf (some (gg_o G))), (1, .int x1)] [] (gm_w S M) r.1 (gm_w S r.2))  {M : gM} (h : F_X4_runOn_92 fu k13  M = some r) : B_X4_runOn l d0 G S0 92 [(0, va_rf (some (gg_o G)))] [] (gm_w S M) r.1 (gm_w S r.2) := by
  unfold F_X4_runOn_92 at h
  intro p e s m args below meth c H locs cells slots ls cx hnm hex hI hl
  have hx := cx.1
  have hb := cx.2.1
  have hown := cx.2.2.2.1
  have hts := cx.2.2.2.2.1
  have hK := cx.2.2.2.2.2.1
  refine gr_aload_n hx hb (some (gg_o G)) dX4_runOn_92 rfl (lv_at hl 0 rfl) ?_
  refine nr_gI cx hf hI 55 rfl (fun _ => rfl) rfl (Or.inl (hts _ q1047)) dX4_runOn_93 ?_
  refine lv_if_le (tgt := 103) hx hb dX4_runOn_96 rfl (fun hc => ?_) (fun hc => ?_)
  · have h := gz_t h hc
    refine lv_iconst hx hb dX4_runOn_103 gz_ic_0 ?_
    exact T_X4_runOn_104 hf hD hk13 h p e s m args below meth c H locs cells slots ls cx hnm hex hI hl
  · have h := gz_f h hc
    refine lv_iconst hx hb dX4_runOn_99 gz_ic_1 ?_
    refine lv_goto (tgt := 104) hx hb dX4_runOn_100 rfl ?_
    exact T_X4_runOn_104 hf hD hk13 h p e s m args below meth c H locs cells slots ls cx hnm hex hI hl
theorem T_X4_runOn_56 {l : Launch} {G : gG} {S0 S : gm_S} {d0 fu : Nat} {k13 : Int32 → gM → gQ} {k23 : gM → gQ} {r : Outcome × gM} (hf : gg_f G = true) (hD : 7 ≤ d0)
    (hk13 : ∀ (x1 : Int32) (M : gM), k13 x1 M = some r → B_X4_runOn l d0 G S0 13 [(0, va_rf (some (gg_o G))), (1, .int x1)] [] (gm_w S M) r.1 (gm_w S r.2))
    (hk23 : ∀  (M : gM), k23  M = some r → B_X4_runOn l d0 G S0 23 [(0, va_rf (some (gg_o G)))] [] (gm_w S M) r.1 (gm_w S r.2)) : ∀ (n : Nat) (x2 : Int32) (x3 : Int32) (M : gM), F_X4_runOn_56 fu k13 k23 n x2 x3 M = some r → B_X4_runOn l d0 G S0 56 [(0, va_rf (some (gg_o G))), (2, .int x2), (3, .int x3)] [] (gm_w S M) r.1 (gm_w S r.2) := by
  intro n
  induction n with
  | zero => intro x2 x3 M h; exact nomatch (show (none : gQ) = some r from h)
  | succ n ih =>
    intro x2 x3 M h
    rw [F_X4_runOn_56] at h
    intro p e s m args below meth c H locs cells slots ls cx hnm hex hI hl
    have hx := cx.1
    have hb := cx.2.1
    have hown := cx.2.2.2.1
    have hts := cx.2.2.2.2.1
    have hK := cx.2.2.2.2.2.1
    refine lv_iload_n hx hb dX4_runOn_56 rfl (lv_at hl 2 rfl) ?_
    refine gr_aload_n hx hb (some (gg_o G)) dX4_runOn_57 rfl (lv_at hl 0 rfl) ?_
    refine nr_gI cx hf hI 45 rfl (fun _ => rfl) rfl (Or.inl (hts _ q1037)) dX4_runOn_58 ?_
    refine lv_icmp_ge (tgt := 84) hx hb dX4_runOn_61 rfl (fun hc => ?_) (fun hc => ?_)
    · have h := gz_t h hc
      refine gr_aload_n hx hb (some (gg_o G)) dX4_runOn_84 rfl (lv_at hl 0 rfl) ?_
      refine lv_iload_n hx hb dX4_runOn_85 rfl (lv_at hl 1 rfl) ?_
      refine C_X4_choose hf cx (gz_nh hex) hI (Or.inl (hts _ q1319)) hl.1 (gz_cs (Nat.le_of_ble_eq_true rfl)) (by omega) dX4_runOn_86 h (fun M2 h H locs cells slots hI => ?_)
      refine lv_goto (tgt := 23) hx hb dX4_runOn_89 rfl ?_
      exact hk23  _ h p e s m args below meth c H locs cells slots ls cx hnm hex hI (lv_sub hl [0] rfl)
    · have h := gz_f h hc
      refine gr_aload_n hx hb (some (gg_o G)) dX4_runOn_64 rfl (lv_at hl 0 rfl) ?_
      refine gr_mgA cx hf hI 46 rfl rfl (Or.inl (hts _ q1038)) dX4_runOn_65 ?_
      refine lv_iload_n hx hb dX4_runOn_68 rfl (lv_at hl 2 rfl) ?_
      refine gr_aload_n hx hb (some (gg_o G)) dX4_runOn_69 rfl (lv_at hl 0 rfl) ?_
      refine gr_mgA cx hf hI 46 rfl rfl (Or.inl (hts _ q1038)) dX4_runOn_70 ?_
      refine lv_iload_n hx hb dX4_runOn_73 rfl (lv_at hl 2 rfl) ?_
      refine lv_iconst hx hb dX4_runOn_74 gz_ic_1 ?_
      refine lv_iadd hx hb dX4_runOn_75 ?_
      obtain ⟨v5, e5, h⟩ := g_bind h
      refine gr_miald cx hf hI 46 rfl rfl rfl (nr_aI e5) dX4_runOn_76 ?_
      obtain ⟨M6, e6, h⟩ := g_bind h
      refine gr_miast cx hf hI 46 rfl rfl rfl (nr_sI e6) dX4_runOn_77 (fun H locs hI => ?_)
      refine gz_iinc (k := 2) (v := (x3 + (1 : Int32))) hx hb dX4_runOn_78 hl rfl (congrArg (fun z => x3 + z) gz_ic_1) (by decide) [0, 1] rfl (gz_con ⟨gz_ne rfl, Or.inl (gz_ne rfl)⟩ (gz_con ⟨gz_ne rfl, Or.inr rfl⟩ gz_nil)) (fun ls hl => ?_)
      refine lv_goto (tgt := 56) hx hb dX4_runOn_81 rfl ?_
      exact ih _ _ _ h p e s m args below meth c H locs cells slots ls cx hnm hex hI (lv_sub hl [1, 2, 0] rfl)
theorem T_X4_runOn_23 {l : Launch} {G : gG} {S0 S : gm_S} {d0 fu : Nat} {k13 : Int32 → gM → gQ} {r : Outcome × gM} (hf : gg_f G = true) (hD : 7 ≤ d0)
    (hk13 : ∀ (x1 : Int32) (M : gM), k13 x1 M = some r → B_X4_runOn l d0 G S0 13 [(0, va_rf (some (gg_o G))), (1, .int x1)] [] (gm_w S M) r.1 (gm_w S r.2)) : ∀ (n : Nat)  (M : gM), F_X4_runOn_23 fu k13 n  M = some r → B_X4_runOn l d0 G S0 23 [(0, va_rf (some (gg_o G)))] [] (gm_w S M) r.1 (gm_w S r.2) := by
  intro n
  induction n with
  | zero => intro  M h; exact nomatch (show (none : gQ) = some r from h)
  | succ n ih =>
    intro  M h
    rw [F_X4_runOn_23] at h
    intro p e s m args below meth c H locs cells slots ls cx hnm hex hI hl
    have hx := cx.1
    have hb := cx.2.1
    have hown := cx.2.2.2.1
    have hts := cx.2.2.2.2.1
    have hK := cx.2.2.2.2.2.1
    refine gr_aload_n hx hb (some (gg_o G)) dX4_runOn_23 rfl (lv_at hl 0 rfl) ?_
    refine nr_gI cx hf hI 55 rfl (fun _ => rfl) rfl (Or.inl (hts _ q1047)) dX4_runOn_24 ?_
    refine lv_if_ne (tgt := 92) hx hb dX4_runOn_27 rfl (fun hc => ?_) (fun hc => ?_)
    · have h := gz_f h hc
      exact T_X4_runOn_92 hf hD hk13 h p e s m args below meth c H locs cells slots ls cx hnm hex hI hl
    · have h := gz_t h hc
      refine gr_aload_n hx hb (some (gg_o G)) dX4_runOn_30 rfl (lv_at hl 0 rfl) ?_
      refine nr_gI cx hf hI 45 rfl (fun _ => rfl) rfl (Or.inl (hts _ q1037)) dX4_runOn_31 ?_
      refine lv_if_le (tgt := 92) hx hb dX4_runOn_34 rfl (fun hc => ?_) (fun hc => ?_)
      · have h := gz_t h hc
        exact T_X4_runOn_92 hf hD hk13 h p e s m args below meth c H locs cells slots ls cx hnm hex hI hl
      · have h := gz_f h hc
        refine gr_aload_n hx hb (some (gg_o G)) dX4_runOn_37 rfl (lv_at hl 0 rfl) ?_
        refine gr_mgA cx hf hI 46 rfl rfl (Or.inl (hts _ q1038)) dX4_runOn_38 ?_
        refine lv_iconst hx hb dX4_runOn_41 gz_ic_0 ?_
        obtain ⟨v4, e4, h⟩ := g_bind h
        refine gr_miald cx hf hI 46 rfl rfl rfl (nr_aI e4) dX4_runOn_42 ?_
        refine gz_istore_n hx hb dX4_runOn_43 rfl hl (by decide) [0] rfl (gz_con ⟨gz_ne rfl, Or.inl (gz_ne rfl)⟩ gz_nil) (fun ls hl => ?_)
        refine gr_aload_n hx hb (some (gg_o G)) dX4_runOn_44 rfl (lv_at hl 1 rfl) ?_
        refine lv_dup hx hb dX4_runOn_45 (gl_cat (some (gg_o G))) ?_
        refine nr_gI cx hf hI 45 rfl (fun _ => rfl) rfl (Or.inl (hts _ q1037)) dX4_runOn_46 ?_
        refine lv_iconst hx hb dX4_runOn_49 gz_ic_1 ?_
        refine lv_isub hx hb dX4_runOn_50 ?_
        obtain ⟨M6, e6, h⟩ := g_bind h
        refine nr_pI cx hf hI 45 rfl rfl rfl (Or.inl (hts _ q1037)) e6 dX4_runOn_51 (fun H locs hI => ?_)
        refine lv_iconst hx hb dX4_runOn_54 gz_ic_0 ?_
        refine gz_istore_n hx hb dX4_runOn_55 rfl hl (by decide) [0, 1] rfl (gz_con ⟨gz_ne rfl, Or.inr rfl⟩ (gz_con ⟨gz_ne rfl, Or.inl (gz_ne rfl)⟩ gz_nil)) (fun ls hl => ?_)
        exact T_X4_runOn_56 hf hD hk13 ih fu _ _ _ h p e s m args below meth c H locs cells slots ls cx hnm hex hI (lv_sub hl [2, 1, 0] rfl)
theorem T_X4_runOn_13 {l : Launch} {G : gG} {S0 S : gm_S} {d0 fu : Nat} {r : Outcome × gM} (hf : gg_f G = true) (hD : 7 ≤ d0) : ∀ (n : Nat) (x1 : Int32) (M : gM), F_X4_runOn_13 fu n x1 M = some r → B_X4_runOn l d0 G S0 13 [(0, va_rf (some (gg_o G))), (1, .int x1)] [] (gm_w S M) r.1 (gm_w S r.2) := by
  intro n
  induction n with
  | zero => intro x1 M h; exact nomatch (show (none : gQ) = some r from h)
  | succ n ih =>
    intro x1 M h
    rw [F_X4_runOn_13] at h
    intro p e s m args below meth c H locs cells slots ls cx hnm hex hI hl
    have hx := cx.1
    have hb := cx.2.1
    have hown := cx.2.2.2.1
    have hts := cx.2.2.2.2.1
    have hK := cx.2.2.2.2.2.1
    refine lv_iload_n hx hb dX4_runOn_13 rfl (lv_at hl 1 rfl) ?_
    refine lv_if_eq (tgt := 133) hx hb dX4_runOn_14 rfl (fun hc => ?_) (fun hc => ?_)
    · have h := gz_t h hc
      cases h
      exact gr_vret cx hI dX4_runOn_133
    · have h := gz_f h hc
      refine gr_aload_n hx hb (some (gg_o G)) dX4_runOn_17 rfl (lv_at hl 0 rfl) ?_
      refine lv_bipush hx hb dX4_runOn_18 gz_bp_46 ?_
      refine C_X4_choose hf cx (gz_nh hex) hI (Or.inl (hts _ q1319)) hl.1 (gz_cs (Nat.le_of_ble_eq_true rfl)) (by omega) dX4_runOn_20 h (fun M1 h H locs cells slots hI => ?_)
      exact T_X4_runOn_23 hf hD ih fu  _ h p e s m args below meth c H locs cells slots ls cx hnm hex hI (lv_sub hl [0] rfl)
theorem T_X4_runOn {l : Launch} {G : gG} {S0 S : gm_S} {d0 fu : Nat} {r : Outcome × gM} (hf : gg_f G = true) (hD : 7 ≤ d0)  {M : gM} (h : F_X4_runOn fu  M = some r) : B_X4_runOn l d0 G S0 0 [(0, va_rf (some (gg_o G)))] [] (gm_w S M) r.1 (gm_w S r.2) := by
  unfold F_X4_runOn at h
  intro p e s m args below meth c H locs cells slots ls cx hnm hex hI hl
  have hx := cx.1
  have hb := cx.2.1
  have hown := cx.2.2.2.1
  have hts := cx.2.2.2.2.1
  have hK := cx.2.2.2.2.2.1
  refine gr_aload_n hx hb (some (gg_o G)) dX4_runOn_0 rfl (lv_at hl 0 rfl) ?_
  refine nr_gI cx hf hI 52 rfl (fun _ => rfl) rfl (Or.inl (hts _ q1044)) dX4_runOn_1 ?_
  refine lv_if_ne (tgt := 11) hx hb dX4_runOn_4 rfl (fun hc => ?_) (fun hc => ?_)
  · have h := gz_f h hc
    refine lv_iconst hx hb dX4_runOn_11 gz_ic_0 ?_
    refine gz_istore_n hx hb dX4_runOn_12 rfl hl (by decide) [0] rfl (gz_con ⟨gz_ne rfl, Or.inr (gl_cat (some (gg_o G)))⟩ gz_nil) (fun ls hl => ?_)
    exact T_X4_runOn_13 hf hD fu _ _ h p e s m args below meth c H locs cells slots ls cx hnm hex hI (lv_sub hl [1, 0] rfl)
  · have h := gz_t h hc
    refine lv_iconst hx hb dX4_runOn_7 gz_ic_1 ?_
    refine lv_goto (tgt := 12) hx hb dX4_runOn_8 rfl ?_
    refine gz_istore_n hx hb dX4_runOn_12 rfl hl (by decide) [0] rfl (gz_con ⟨gz_ne rfl, Or.inr (gl_cat (some (gg_o G)))⟩ gz_nil) (fun ls hl => ?_)
    exact T_X4_runOn_13 hf hD fu _ _ h p e s m args below meth c H locs cells slots ls cx hnm hex hI (lv_sub hl [1, 0] rfl)
theorem M_X4_runOn {l : Launch} {G : gG} {fu d0 : Nat} (hf : gg_f G = true) (hfl : l.flags = flags0) (hD : 7 ≤ d0)  {S : gm_S} {M : gM} {o : Outcome} {M2 : gM} (h : F_X4_runOn fu  M = some (o, M2)) : gx_Met l yX4_runOn (ws_ yX4_runOn cX4_runOn 4 (Option.none : Option Jvm.ClassFile.FieldType)) d0 G (gm_w S M) [va_rf (some (gg_o G))] o (gm_w S M2) := by
  refine gx_of hfl (by decide) (fun p e s m below meth c cx hnm hex hI => ?_)
  rw [lg_entry_eq]
  exact T_X4_runOn (r := (o, M2)) hf hD h p e s m _ below meth c _ _ _ _ _ cx hnm (gz_nh0 hex) hI (lv_entry _ (Nat.le_of_ble_eq_true rfl))
theorem C_X4_runOn {p : Program} {l : Launch} {e : Env} {s : State} {m : MethodId} {args : Array Value} {below : List Frame} {meth : Method} {c : Code} {H : Heap} {locs : List Loc} {cells slots : Nat} {cc : ByteArray} {pc nL : Nat} {ls : Array Slot} {rest : List Value} {G : gG} {S0 S : gm_S} {own : String} {ret : Option FieldType} {d0 index fu : Nat} {M : gM}  {k : gM → gQ} {r : Outcome × gM} (hf : gg_f G = true) (cx : gx_cx p l s m args meth c G own cc nL ret) (hex : ∀ x ∈ c.exceptionTable.toList, covers x pc = false) (hI : gw_I G S0 (gm_w S M) H locs cells slots) (hl : gl_M own index yX4_runOn args s) (hlv : ls.size = nL) (hrest : (rest.map fun v => v.category).sum ≤ 8) (hD : 8 ≤ d0) (hdg : decode cc pc = .ok (.invokevirtual index, 3)) (h : gz_cV (F_X4_runOn fu  M) k = some r)
    (kk : ∀ (z : gM), k z = some r → ∀ (H : Heap) (locs : List Loc) (cells slots : Nat), gw_I G S0 (gm_w S z) H locs cells slots → W p l e (gx_rm d0 S0) s m args below meth c H locs cells slots (gx_MQ below G S0 (gm_w S r.2) r.1 s) (F0 m (pc + 3) ls rest)) : W p l e (gx_rm d0 S0) s m args below meth c H locs cells slots (gx_MQ below G S0 (gm_w S r.2) r.1 s) (F0 m pc ls (va_rf (some (gg_o G)) :: rest)) := by
  have hts := cx.2.2.2.2.1
  have hK := cx.2.2.2.2.2.1
  exact gz_goV (d := d0 - 1) (gm_w S) cx hex hI hlv hrest (by omega) (Nat.le_of_ble_eq_true rfl) (gz_ws (lw_meth q1318) hts) (hts _ q78) (gb_rawV (As := []) cx hl (hts _ q1317) (hts _ qs56) (gl_C.code (hts _ q1318)) hy_X4_runOn (gr_recvM hK hI.1 hf) rfl rfl hdg) (fun o S2 e => M_X4_runOn hf cx.2.2.2.2.2.2.2.2 (by omega) e) h kk
