/-! LAYER 1: the JDK's lists: contracts (printed by wip/gen/gen5.py) -/
set_option maxRecDepth 100000
theorem hj_J11_checkIndex : (yJ11_checkIndex.cls ≠ "java/lang/invoke/MethodHandle" ∧ yJ11_checkIndex.cls ≠ "java/lang/invoke/VarHandle") ∧ (parseMethodDescriptor yJ11_checkIndex.desc).map (fun d => d.parameters.length) = some 3 := by decide +kernel
theorem hj_J10_checkIndex : (yJ10_checkIndex.cls ≠ "java/lang/invoke/MethodHandle" ∧ yJ10_checkIndex.cls ≠ "java/lang/invoke/VarHandle") ∧ (parseMethodDescriptor yJ10_checkIndex.desc).map (fun d => d.parameters.length) = some 2 := by decide +kernel
theorem hj_J7_newLength : (yJ7_newLength.cls ≠ "java/lang/invoke/MethodHandle" ∧ yJ7_newLength.cls ≠ "java/lang/invoke/VarHandle") ∧ (parseMethodDescriptor yJ7_newLength.desc).map (fun d => d.parameters.length) = some 3 := by decide +kernel
theorem hj_J2_elementData : (yJ2_elementData.cls ≠ "java/lang/invoke/MethodHandle" ∧ yJ2_elementData.cls ≠ "java/lang/invoke/VarHandle") ∧ (parseMethodDescriptor yJ2_elementData.desc).map (fun d => d.parameters.length) = some 1 := by decide +kernel
theorem hj_J2_get : (yJ2_get.cls ≠ "java/lang/invoke/MethodHandle" ∧ yJ2_get.cls ≠ "java/lang/invoke/VarHandle") ∧ (parseMethodDescriptor yJ2_get.desc).map (fun d => d.parameters.length) = some 1 := by decide +kernel
theorem hj_J2_size : (yJ2_size.cls ≠ "java/lang/invoke/MethodHandle" ∧ yJ2_size.cls ≠ "java/lang/invoke/VarHandle") ∧ (parseMethodDescriptor yJ2_size.desc).map (fun d => d.parameters.length) = some 0 := by decide +kernel
theorem hj_J2_isEmpty : (yJ2_isEmpty.cls ≠ "java/lang/invoke/MethodHandle" ∧ yJ2_isEmpty.cls ≠ "java/lang/invoke/VarHandle") ∧ (parseMethodDescriptor yJ2_isEmpty.desc).map (fun d => d.parameters.length) = some 0 := by decide +kernel
theorem hj_J0_init : (yJ0_init.cls ≠ "java/lang/invoke/MethodHandle" ∧ yJ0_init.cls ≠ "java/lang/invoke/VarHandle") ∧ (parseMethodDescriptor yJ0_init.desc).map (fun d => d.parameters.length) = some 0 := by decide +kernel
theorem hj_J1_init : (yJ1_init.cls ≠ "java/lang/invoke/MethodHandle" ∧ yJ1_init.cls ≠ "java/lang/invoke/VarHandle") ∧ (parseMethodDescriptor yJ1_init.desc).map (fun d => d.parameters.length) = some 0 := by decide +kernel
theorem hj_J2_init : (yJ2_init.cls ≠ "java/lang/invoke/MethodHandle" ∧ yJ2_init.cls ≠ "java/lang/invoke/VarHandle") ∧ (parseMethodDescriptor yJ2_init.desc).map (fun d => d.parameters.length) = some 0 := by decide +kernel
theorem hj_J9_copyOf : (yJ9_copyOf.cls ≠ "java/lang/invoke/MethodHandle" ∧ yJ9_copyOf.cls ≠ "java/lang/invoke/VarHandle") ∧ (parseMethodDescriptor yJ9_copyOf.desc).map (fun d => d.parameters.length) = some 2 := by decide +kernel
theorem hj_J9_copyOf_2 : (yJ9_copyOf_2.cls ≠ "java/lang/invoke/MethodHandle" ∧ yJ9_copyOf_2.cls ≠ "java/lang/invoke/VarHandle") ∧ (parseMethodDescriptor yJ9_copyOf_2.desc).map (fun d => d.parameters.length) = some 3 := by decide +kernel
theorem hj_J2_grow : (yJ2_grow.cls ≠ "java/lang/invoke/MethodHandle" ∧ yJ2_grow.cls ≠ "java/lang/invoke/VarHandle") ∧ (parseMethodDescriptor yJ2_grow.desc).map (fun d => d.parameters.length) = some 0 := by decide +kernel
theorem hj_J2_grow_2 : (yJ2_grow_2.cls ≠ "java/lang/invoke/MethodHandle" ∧ yJ2_grow_2.cls ≠ "java/lang/invoke/VarHandle") ∧ (parseMethodDescriptor yJ2_grow_2.desc).map (fun d => d.parameters.length) = some 1 := by decide +kernel
theorem hj_J2_add : (yJ2_add.cls ≠ "java/lang/invoke/MethodHandle" ∧ yJ2_add.cls ≠ "java/lang/invoke/VarHandle") ∧ (parseMethodDescriptor yJ2_add.desc).map (fun d => d.parameters.length) = some 1 := by decide +kernel
theorem hj_J2_add_2 : (yJ2_add_2.cls ≠ "java/lang/invoke/MethodHandle" ∧ yJ2_add_2.cls ≠ "java/lang/invoke/VarHandle") ∧ (parseMethodDescriptor yJ2_add_2.desc).map (fun d => d.parameters.length) = some 3 := by decide +kernel
theorem hj_J2_clear : (yJ2_clear.cls ≠ "java/lang/invoke/MethodHandle" ∧ yJ2_clear.cls ≠ "java/lang/invoke/VarHandle") ∧ (parseMethodDescriptor yJ2_clear.desc).map (fun d => d.parameters.length) = some 0 := by decide +kernel
theorem hj_J2_remove : (yJ2_remove.cls ≠ "java/lang/invoke/MethodHandle" ∧ yJ2_remove.cls ≠ "java/lang/invoke/VarHandle") ∧ (parseMethodDescriptor yJ2_remove.desc).map (fun d => d.parameters.length) = some 1 := by decide +kernel
theorem hj_J2_fastRemove : (yJ2_fastRemove.cls ≠ "java/lang/invoke/MethodHandle" ∧ yJ2_fastRemove.cls ≠ "java/lang/invoke/VarHandle") ∧ (parseMethodDescriptor yJ2_fastRemove.desc).map (fun d => d.parameters.length) = some 2 := by decide +kernel
theorem gl_rc {G : gG} {S0 S : gm_S} {H : Heap} {locs : List Loc} {cells slots d : Nat} (hI : gw_I G S0 S H locs cells slots) : cells ≤ (gx_rm d S0).cells ∧ slots ≤ (gx_rm d S0).slots := by
  obtain ⟨⟨-, -, h1, h2, -⟩, -, h3, h4⟩ := hI
  constructor
  · show cells ≤ 600096 - gs_c S0; omega
  · show slots ≤ 7301386 - gs_k S0; omega
theorem mJ11_checkIndex {l : Launch} {G : gG} {S : gm_S} {d : Nat} (hfl : l.flags = flags0) (hd : 0 ≤ d) {i n : Int32} (h0 : ¬ i < 0) (h1 : i < n) : gx_Met l yJ11_checkIndex (ws_ yJ11_checkIndex cJ11_checkIndex 3 (Option.some FieldType.int)) d G S [.int i, .int n, .null] (.returned (some (.int i))) S := by
  refine gx_of hfl (by decide) (fun p e s m below meth c cx hnm hex hI => ?_)
  rw [lg_entry_eq]
  have hx := cx.1
  have hb := cx.2.1
  have hown := cx.2.2.2.1
  have hts := cx.2.2.2.2.1
  have hK := cx.2.2.2.2.2.1
  have key : ∀ ls, lv_has ls 3 [(0, .int i), (1, .int n), (2, .null)] → W p l e (gx_rm d S) s m ([.int i, .int n, .null] : List Value).toArray below meth c s.heap [] 0 0 (gx_MQ below G S S (.returned (some (.int i))) s) (F0 m 0 ls []) := by
    intro ls hl
    refine lv_iload_n hx hb dJ11_checkIndex_0 rfl (lv_at hl 0 rfl) ?_
    refine lv_if_lt (tgt := 9) hx hb dJ11_checkIndex_1 rfl (fun hc => absurd hc h0) (fun _ => ?_)
    refine lv_iload_n hx hb dJ11_checkIndex_4 rfl (lv_at hl 0 rfl) ?_
    refine lv_iload_n hx hb dJ11_checkIndex_5 rfl (lv_at hl 1 rfl) ?_
    refine lv_icmp_lt (tgt := 16) hx hb dJ11_checkIndex_6 rfl (fun _ => ?_) (fun hc => absurd h1 hc)
    refine lv_iload_n hx hb dJ11_checkIndex_16 rfl (lv_at hl 0 rfl) ?_
    exact gr_iret cx hI dJ11_checkIndex_17
  exact key _ (lv_entry _ (Nat.le_of_ble_eq_true rfl))
theorem mJ10_checkIndex {l : Launch} {G : gG} {S : gm_S} {d : Nat} (hfl : l.flags = flags0) (hd : 1 ≤ d) {i n : Int32} (h0 : ¬ i < 0) (h1 : i < n) : gx_Met l yJ10_checkIndex (ws_ yJ10_checkIndex cJ10_checkIndex 2 (Option.some FieldType.int)) d G S [.int i, .int n] (.returned (some (.int i))) S := by
  refine gx_of hfl (by decide) (fun p e s m below meth c cx hnm hex hI => ?_)
  rw [lg_entry_eq]
  have hx := cx.1
  have hb := cx.2.1
  have hown := cx.2.2.2.1
  have hts := cx.2.2.2.2.1
  have hK := cx.2.2.2.2.2.1
  have key : ∀ ls, lv_has ls 2 [(0, .int i), (1, .int n)] → W p l e (gx_rm d S) s m ([.int i, .int n] : List Value).toArray below meth c s.heap [] 0 0 (gx_MQ below G S S (.returned (some (.int i))) s) (F0 m 0 ls []) := by
    intro ls hl
    refine lv_iload_n hx hb dJ10_checkIndex_0 rfl (lv_at hl 0 rfl) ?_
    refine lv_iload_n hx hb dJ10_checkIndex_1 rfl (lv_at hl 1 rfl) ?_
    refine gz_null hx hb dJ10_checkIndex_2 ?_
    refine gr_callR (gb_rawS (As := [.int i, .int n, .null]) cx (Or.inl (hts _ q278)) (hts _ q279) (hts _ q89) (gl_C.code (hts _ q280)) hj_J11_checkIndex rfl rfl dJ10_checkIndex_3) (mJ11_checkIndex hfl (by omega) h0 h1) (d := d - 1) (by omega) (Nat.le_of_ble_eq_true rfl) (gz_ws (lw_meth q280) hts) (hts _ q89) hI hK rfl (by rw [cx.2.2.1]; exact hl.1) (lv_room (m := m) (pc := 0) (ls := ls) (rest := []) (gz_cs (st := []) (Nat.le_of_ble_eq_true rfl))) (fun H locs cells slots hI => ?_)
    exact gr_iret cx hI dJ10_checkIndex_6
  exact key _ (lv_entry _ (Nat.le_of_ble_eq_true rfl))
theorem gl_mx {n : Nat} (h2 : 2 ≤ n) (hn : n ≤ 1000) : (if (1 : Int32) < nI (n / 2) then nI (n / 2) else 1) = nI (n / 2) := by
  show (if nI 1 < nI (n / 2) then nI (n / 2) else nI 1) = _
  by_cases c : 1 < n / 2
  · rw [if_pos (show nI 1 < nI (n / 2) from nI_lt c (by omega))]
  · rw [if_neg (show ¬ nI 1 < nI (n / 2) from nI_nlt (by omega) (by decide))]
    have : n / 2 = 1 := by omega
    rw [this]
theorem mJ7_newLength {l : Launch} {G : gG} {S : gm_S} {d : Nat} (hfl : l.flags = flags0) (hd : 1 ≤ d) {n : Nat} (h2 : 2 ≤ n) (hn : n ≤ 1000) : gx_Met l yJ7_newLength (ws_ yJ7_newLength cJ7_newLength 4 (Option.some FieldType.int)) d G S [.int (nI n), .int 1, .int (nI (n / 2))] (.returned (some (.int (nI (n + n / 2))))) S := by
  refine gx_of hfl (by decide) (fun p e s m below meth c cx hnm hex hI => ?_)
  rw [lg_entry_eq]
  have hx := cx.1
  have hb := cx.2.1
  have hown := cx.2.2.2.1
  have hts := cx.2.2.2.2.1
  have hK := cx.2.2.2.2.2.1
  have key : ∀ ls, lv_has ls 4 [(0, .int (nI n)), (1, .int 1), (2, .int (nI (n / 2)))] → W p l e (gx_rm d S) s m ([.int (nI n), .int 1, .int (nI (n / 2))] : List Value).toArray below meth c s.heap [] 0 0 (gx_MQ below G S S (.returned (some (.int (nI (n + n / 2))))) s) (F0 m 0 ls []) := by
    intro ls hl
    refine lv_iload_n hx hb dJ7_newLength_0 rfl (lv_at hl 0 rfl) ?_
    refine lv_iload_n hx hb dJ7_newLength_1 rfl (lv_at hl 1 rfl) ?_
    refine lv_iload_n hx hb dJ7_newLength_2 rfl (lv_at hl 2 rfl) ?_
    refine va_mmax hx hb (by rw [cx.2.2.1]; exact hl.1.symm) hown (hts _ q482) (hts _ q483) (hts _ q85) (hts _ q484) (by show 1 ≤ d; omega) (Nat.le_trans (Nat.add_le_add_right (gz_cs (Nat.le_of_ble_eq_true rfl)) 13) (by show 8 + 13 ≤ 60 * d; omega)) (gl_rc (by assumption)).1 (gl_rc (by assumption)).2 dJ7_newLength_3 ?_
    rw [gl_mx h2 hn]
    refine lv_iadd hx hb dJ7_newLength_6 ?_
    rw [nI_add]
    refine gz_istore_n hx hb dJ7_newLength_7 rfl hl (by decide) [0, 1, 2] rfl (gz_con ⟨gz_ne rfl, Or.inl (gz_ne rfl)⟩ (gz_con ⟨gz_ne rfl, Or.inl (gz_ne rfl)⟩ (gz_con ⟨gz_ne rfl, Or.inr rfl⟩ gz_nil))) (fun ls hl => ?_)
    refine lv_iconst hx hb dJ7_newLength_8 (show Int32.ofInt (0) = (0 : Int32) by decide) ?_
    refine lv_iload_n hx hb dJ7_newLength_9 rfl (lv_at hl 0 rfl) ?_
    refine lv_icmp_ge (tgt := 21) hx hb dJ7_newLength_10 rfl (fun hc => absurd hc (nI_nle (by omega) (by omega))) (fun _ => ?_)
    refine lv_iload_n hx hb dJ7_newLength_13 rfl (lv_at hl 0 rfl) ?_
    refine lv_ldc hx hb hown (hts _ q485) dJ7_newLength_14 ?_
    refine lv_icmp_gt (tgt := 21) hx hb dJ7_newLength_16 rfl (fun hc => absurd hc (show ¬ nI 2147483639 < nI (n + n / 2) from nI_nlt (by omega) (by decide))) (fun _ => ?_)
    refine lv_iload_n hx hb dJ7_newLength_19 rfl (lv_at hl 0 rfl) ?_
    exact gr_iret cx hI dJ7_newLength_20
  exact key _ (lv_entry _ (Nat.le_of_ble_eq_true rfl))
theorem mJ2_elementData {l : Launch} {G : gG} {S : gm_S} {d : Nat} (hfl : l.flags = flags0) (hd : 0 ≤ d) {a i x : Nat} (ht : gs_t S a = 16) (hi : (S.2.1 a)[i]? = some x) : gx_Met l yJ2_elementData (ws_ yJ2_elementData cJ2_elementData 2 (Option.some (FieldType.object "java/lang/Object"))) d G S [.ref a, .int (nI i)] (.returned (some (.ref x))) S := by
  refine gx_of hfl (by decide) (fun p e s m below meth c cx hnm hex hI => ?_)
  rw [lg_entry_eq]
  have hx := cx.1
  have hb := cx.2.1
  have hown := cx.2.2.2.1
  have hts := cx.2.2.2.2.1
  have hK := cx.2.2.2.2.2.1
  have key : ∀ ls, lv_has ls 2 [(0, .ref a), (1, .int (nI i))] → W p l e (gx_rm d S) s m ([.ref a, .int (nI i)] : List Value).toArray below meth c s.heap [] 0 0 (gx_MQ below G S S (.returned (some (.ref x))) s) (F0 m 0 ls []) := by
    intro ls hl
    refine gr_aload_n hx hb (some a) dJ2_elementData_0 rfl (lv_at hl 0 rfl) ?_
    refine gl_gE cx hI.1 ht dJ2_elementData_1 ?_
    refine lv_iload_n hx hb dJ2_elementData_4 rfl (lv_at hl 1 rfl) ?_
    refine gl_aald cx hI.1 ht hi dJ2_elementData_5 ?_
    exact gr_aret (r := some x) cx (Or.inl ⟨_, rfl⟩) hI dJ2_elementData_6
  exact key _ (lv_entry _ (Nat.le_of_ble_eq_true rfl))
theorem mJ2_get {l : Launch} {G : gG} {S : gm_S} {d : Nat} (hfl : l.flags = flags0) (hd : 3 ≤ d) {a i x : Nat} (ht : gs_t S a = 16) (hi : (S.2.1 a)[i]? = some x) : gx_Met l yJ2_get (ws_ yJ2_get cJ2_get 2 (Option.some (FieldType.object "java/lang/Object"))) d G S [.ref a, .int (nI i)] (.returned (some (.ref x))) S := by
  refine gx_of hfl (by decide) (fun p e s m below meth c cx hnm hex hI => ?_)
  rw [lg_entry_eq]
  have hx := cx.1
  have hb := cx.2.1
  have hown := cx.2.2.2.1
  have hts := cx.2.2.2.2.1
  have hK := cx.2.2.2.2.2.1
  have key : ∀ ls, lv_has ls 2 [(0, .ref a), (1, .int (nI i))] → W p l e (gx_rm d S) s m ([.ref a, .int (nI i)] : List Value).toArray below meth c s.heap [] 0 0 (gx_MQ below G S S (.returned (some (.ref x))) s) (F0 m 0 ls []) := by
    intro ls hl
    have hil : i < (S.2.1 a).length := (List.getElem?_eq_some_iff.mp hi).1
    have hlm := gl_len hI.1 ht
    refine lv_iload_n hx hb dJ2_get_0 rfl (lv_at hl 1 rfl) ?_
    refine gr_aload_n hx hb (some a) dJ2_get_1 rfl (lv_at hl 0 rfl) ?_
    refine gl_gZ cx hI.1 ht dJ2_get_2 ?_
    refine gr_callR (gb_rawS (As := [.int (nI i), .int (nI (S.2.1 a).length)]) cx (Or.inl (hts _ q275)) (hts _ q276) (hts _ q88) (gl_C.code (hts _ q277)) hj_J10_checkIndex rfl rfl dJ2_get_5) (mJ10_checkIndex hfl (by omega) (nI_pos (by omega)) (nI_lt hil (by omega))) (d := d - 1) (by omega) (Nat.le_of_ble_eq_true rfl) (gz_ws (lw_meth q277) hts) (hts _ q88) hI hK rfl (by rw [cx.2.2.1]; exact hl.1) (lv_room (m := m) (pc := 0) (ls := ls) (rest := []) (gz_cs (st := []) (Nat.le_of_ble_eq_true rfl))) (fun H locs cells slots hI => ?_)
    refine lv_pop hx hb dJ2_get_8 rfl ?_
    refine gr_aload_n hx hb (some a) dJ2_get_9 rfl (lv_at hl 0 rfl) ?_
    refine lv_iload_n hx hb dJ2_get_10 rfl (lv_at hl 1 rfl) ?_
    refine gr_callR (gb_rawV (As := [.int (nI i)]) cx (Or.inl (hts _ q281)) (hts _ q282) (hts _ q283) (gl_C.code (hts _ q284)) hj_J2_elementData (gr_recvL hK hI.1 ht) rfl rfl dJ2_get_11) (mJ2_elementData hfl (by omega) ht hi) (d := d - 1) (by omega) (Nat.le_of_ble_eq_true rfl) (gz_ws (lw_meth q284) hts) (hts _ q77) hI hK rfl (by rw [cx.2.2.1]; exact hl.1) (lv_room (m := m) (pc := 0) (ls := ls) (rest := []) (gz_cs (st := []) (Nat.le_of_ble_eq_true rfl))) (fun H locs cells slots hI => ?_)
    exact gr_aret (r := some x) cx (Or.inl ⟨_, rfl⟩) hI dJ2_get_14
  exact key _ (lv_entry _ (Nat.le_of_ble_eq_true rfl))
theorem mJ2_size {l : Launch} {G : gG} {S : gm_S} {d : Nat} (hfl : l.flags = flags0) (hd : 0 ≤ d) {a : Nat} (ht : gs_t S a = 16) : gx_Met l yJ2_size (ws_ yJ2_size cJ2_size 1 (Option.some FieldType.int)) d G S [.ref a] (.returned (some (.int (nI (S.2.1 a).length)))) S := by
  refine gx_of hfl (by decide) (fun p e s m below meth c cx hnm hex hI => ?_)
  rw [lg_entry_eq]
  have hx := cx.1
  have hb := cx.2.1
  have hown := cx.2.2.2.1
  have hts := cx.2.2.2.2.1
  have hK := cx.2.2.2.2.2.1
  have key : ∀ ls, lv_has ls 1 [(0, .ref a)] → W p l e (gx_rm d S) s m ([.ref a] : List Value).toArray below meth c s.heap [] 0 0 (gx_MQ below G S S (.returned (some (.int (nI (S.2.1 a).length)))) s) (F0 m 0 ls []) := by
    intro ls hl
    refine gr_aload_n hx hb (some a) dJ2_size_0 rfl (lv_at hl 0 rfl) ?_
    refine gl_gZ cx hI.1 ht dJ2_size_1 ?_
    exact gr_iret cx hI dJ2_size_4
  exact key _ (lv_entry _ (Nat.le_of_ble_eq_true rfl))
theorem mJ2_isEmpty {l : Launch} {G : gG} {S : gm_S} {d : Nat} (hfl : l.flags = flags0) (hd : 0 ≤ d) {a : Nat} (ht : gs_t S a = 16) : gx_Met l yJ2_isEmpty (ws_ yJ2_isEmpty cJ2_isEmpty 1 (Option.some FieldType.boolean)) d G S [.ref a] (.returned (some (.int (if S.2.1 a = [] then 1 else 0)))) S := by
  refine gx_of hfl (by decide) (fun p e s m below meth c cx hnm hex hI => ?_)
  rw [lg_entry_eq]
  have hx := cx.1
  have hb := cx.2.1
  have hown := cx.2.2.2.1
  have hts := cx.2.2.2.2.1
  have hK := cx.2.2.2.2.2.1
  have key : ∀ ls, lv_has ls 1 [(0, .ref a)] → W p l e (gx_rm d S) s m ([.ref a] : List Value).toArray below meth c s.heap [] 0 0 (gx_MQ below G S S (.returned (some (.int (if S.2.1 a = [] then 1 else 0)))) s) (F0 m 0 ls []) := by
    intro ls hl
    have hlm := gl_len hI.1 ht
    refine gr_aload_n hx hb (some a) dJ2_isEmpty_0 rfl (lv_at hl 0 rfl) ?_
    refine gl_gZ cx hI.1 ht dJ2_isEmpty_1 ?_
    refine lv_if_ne (tgt := 11) hx hb dJ2_isEmpty_4 rfl (fun hc => ?_) (fun hc => ?_)
    · have : ¬ S.2.1 a = [] := fun z => hc (by rw [z]; rfl)
      rw [if_neg this]
      refine lv_iconst hx hb dJ2_isEmpty_11 (show Int32.ofInt (0) = (0 : Int32) by decide) ?_
      exact gr_zret cx (by decide) hI dJ2_isEmpty_12
    · have : S.2.1 a = [] := by
        cases hh : S.2.1 a with
        | nil => rfl
        | cons x y => exact absurd hc (nI_ne0 (by rw [hh]; exact Nat.succ_pos _) (by omega))
      rw [if_pos this]
      refine lv_iconst hx hb dJ2_isEmpty_7 (show Int32.ofInt (1) = (1 : Int32) by decide) ?_
      refine lv_goto (tgt := 12) hx hb dJ2_isEmpty_8 rfl ?_
      exact gr_zret cx (by decide) hI dJ2_isEmpty_12
  exact key _ (lv_entry _ (Nat.le_of_ble_eq_true rfl))
theorem mJ0_init {l : Launch} {G : gG} {S : gm_S} {d : Nat} (hfl : l.flags = flags0) (hd : 2 ≤ d) {a : Nat} (ht : gs_t S a = 32) : gx_Met l yJ0_init (ws_ yJ0_init cJ0_init 1 (Option.none : Option FieldType)) d G S [.ref a] (.returned (none)) S := by
  refine gx_of hfl (by decide) (fun p e s m below meth c cx hnm hex hI => ?_)
  rw [lg_entry_eq]
  have hx := cx.1
  have hb := cx.2.1
  have hown := cx.2.2.2.1
  have hts := cx.2.2.2.2.1
  have hK := cx.2.2.2.2.2.1
  have key : ∀ ls, lv_has ls 1 [(0, .ref a)] → W p l e (gx_rm d S) s m ([.ref a] : List Value).toArray below meth c s.heap [] 0 0 (gx_MQ below G S S (.returned (none)) s) (F0 m 0 ls []) := by
    intro ls hl
    refine gr_aload_n hx hb (some a) dJ0_init_0 rfl (lv_at hl 0 rfl) ?_
    refine gz_objI cx hl.1 (hts _ q165) (gz_cs (st := []) (Nat.le_of_ble_eq_true rfl)) hd (t := 32) (a := a) (th := some a) (if_pos ht) dJ0_init_1 ?_
    exact gr_vret cx hI dJ0_init_4
  exact key _ (lv_entry _ (Nat.le_of_ble_eq_true rfl))
/-- a raw list stays as it is -/
theorem gl_raw {G : gG} {S0 S : gm_S} {H H1 : Heap} {locs : List Loc} {cells slots a i : Nat} (hI : gw_I G S0 S H locs cells slots) (ht : gs_t S a = 32) (hz : H1.size = H.size) (hq : ∀ q, q ≠ a → H1[q]? = H[q]?) (hob : t_OB a (gg_C G 16) 3 (gg_I G 16) H1 (vp_V [.int 0, .null, .int 0])) : gw_I G S0 S H1 (locs ++ [⟨a, i⟩]) cells slots := by
  obtain ⟨hw, hloc, hc1, hk1⟩ := hI
  have hza := hw.2.2.2.2.2.2.1 a (by rw [ht]; decide)
  have hcap := ((hw.2.2.2.2.2.2.2.2.1 a).2.2.2.1 ht).2
  refine ⟨hw.one (a := a) rfl (fun _ _ => rfl) (fun _ _ _ _ => rfl) (Or.inl rfl) (by rw [ht]; decide) (by rw [ht]; decide) (by rw [ht]; decide) hz hq (fun cell hc => ?_) ?_, gi_mem hloc hza.1, hc1, hk1⟩
  · obtain ⟨cell', r1, r2, r3, -⟩ := hob
    rw [r1] at hc; cases hc; exact r3
  · refine ⟨fun t e o => ?_, fun t e o => ?_, fun e => ?_, fun e => ?_, fun t e o1 o2 => ?_⟩
    · rw [ht] at e; rw [← e] at o; exact absurd o (by decide)
    · rw [ht] at e; omega
    · rw [ht] at e; omega
    · exact ⟨hob, hcap⟩
    · rw [ht] at e; omega
/-- a raw list becomes a list -/
theorem gl_born {G : gG} {S0 S : gm_S} {H H1 : Heap} {locs : List Loc} {cells slots a i : Nat} (hI : gw_I G S0 S H locs cells slots) (ht : gs_t S a = 32) (hz : H1.size = H.size) (hq : ∀ q, q ≠ a → H1[q]? = H[q]?) (hob : t_OB a (gg_C G 16) 3 (gg_I G 16) H1 (vp_V [.int 0, .ref (gg_e G), .int 0])) : gw_I G S0 (gs_L (gs_put S 0 a 0 (.ref 16)) a []) H1 (locs ++ [⟨a, i⟩]) cells slots := by
  obtain ⟨hw, hloc, hc1, hk1⟩ := hI
  have hza := hw.2.2.2.2.2.2.1 a (by rw [ht]; decide)
  have hcap := ((hw.2.2.2.2.2.2.2.2.1 a).2.2.2.1 ht).2
  have ht' : gs_t (gs_L (gs_put S 0 a 0 (.ref 16)) a []) a = 16 := by
    show gm_N (gm_st S.1 0 a 0 (.ref 16) 0 a 0) = 16
    rw [gm_st_e]; rfl
  have hc' : g_cap (gs_L (gs_put S 0 a 0 (.ref 16)) a []) a = 0 := by
    show gm_N (gm_st S.1 0 a 0 (.ref 16) 3 a 0) = 0
    rw [gm_st_F (by omega)]; exact hcap
  have hl' : (gs_L (gs_put S 0 a 0 (.ref 16)) a []).2.1 a = [] := if_pos rfl
  refine ⟨hw.one (a := a) rfl (fun b hb => if_neg hb) (fun F b i hb => gm_st_a hb) (Or.inr ⟨ht, ht'⟩) (by rw [ht]; decide) (by rw [ht]; decide) (by rw [ht]; decide) hz hq (fun cell hc => ?_) ?_, gi_mem hloc hza.1, hc1, hk1⟩
  · obtain ⟨cell', r1, r2, r3, -⟩ := hob
    rw [r1] at hc; cases hc; exact r3
  · refine ⟨fun t e o => ?_, fun t e o => ?_, fun e => ?_, fun e => ?_, fun t e o1 o2 => ?_⟩
    · rw [ht'] at e; rw [← e] at o; exact absurd o (by decide)
    · rw [ht'] at e; omega
    · exact ⟨0, Or.inl ⟨hc', hl', hob⟩⟩
    · rw [ht'] at e; omega
    · rw [ht'] at e; omega
theorem mJ1_init {l : Launch} {G : gG} {S : gm_S} {d : Nat} (hfl : l.flags = flags0) (hd : 3 ≤ d) {a : Nat} (ht : gs_t S a = 32) : gx_Met l yJ1_init (ws_ yJ1_init cJ1_init 1 (Option.none : Option FieldType)) d G S [.ref a] (.returned (none)) S := by
  refine gx_of hfl (by decide) (fun p e s m below meth c cx hnm hex hI => ?_)
  rw [lg_entry_eq]
  have hx := cx.1
  have hb := cx.2.1
  have hown := cx.2.2.2.1
  have hts := cx.2.2.2.2.1
  have hK := cx.2.2.2.2.2.1
  have key : ∀ ls, lv_has ls 1 [(0, .ref a)] → W p l e (gx_rm d S) s m ([.ref a] : List Value).toArray below meth c s.heap [] 0 0 (gx_MQ below G S S (.returned (none)) s) (F0 m 0 ls []) := by
    intro ls hl
    refine gr_aload_n hx hb (some a) dJ1_init_0 rfl (lv_at hl 0 rfl) ?_
    refine gr_callR (gb_rawI (As := []) cx (Or.inl (hts _ q162)) (hts _ q163) (hts _ q164) hj_J0_init rfl rfl rfl dJ1_init_1) (mJ0_init hfl (by omega) ht) (d := d - 1) (by omega) (Nat.le_of_ble_eq_true rfl) (gz_ws (lw_meth q164) hts) (hts _ q75) hI hK rfl (by rw [cx.2.2.1]; exact hl.1) (lv_room (m := m) (pc := 0) (ls := ls) (rest := []) (gz_cs (st := []) (Nat.le_of_ble_eq_true rfl))) (fun H locs cells slots hI => ?_)
    refine gr_aload_n hx hb (some a) dJ1_init_4 rfl (lv_at hl 0 rfl) ?_
    refine lv_iconst hx hb dJ1_init_5 (show Int32.ofInt (0) = (0 : Int32) by decide) ?_
    obtain ⟨hob, hcap⟩ := (hI.1.2.2.2.2.2.2.2.2.1 a).2.2.2.1 ht
    refine gl_putf cx hob 0 (by omega) (hT := rfl) (hts _ q170) (fun _ h => h) rfl rfl dJ1_init_6 (fun H' i hz hq hob' => ?_)
    refine gr_vret cx (S2 := S) (gl_raw hI ht hz hq (hob'.to (fun k hk => ?_))) dJ1_init_9
    have : k = 0 ∨ k = 1 ∨ k = 2 := by omega
    rcases this with rfl | rfl | rfl <;> rfl
  exact key _ (lv_entry _ (Nat.le_of_ble_eq_true rfl))
theorem mJ2_init {l : Launch} {G : gG} {S : gm_S} {d : Nat} (hfl : l.flags = flags0) (hd : 4 ≤ d) {a : Nat} (ht : gs_t S a = 32) : gx_Met l yJ2_init (ws_ yJ2_init cJ2_init 1 (Option.none : Option FieldType)) d G S [.ref a] (.returned (none)) (gs_L (gs_put S 0 a 0 (.ref 16)) a []) := by
  refine gx_of hfl (by decide) (fun p e s m below meth c cx hnm hex hI => ?_)
  rw [lg_entry_eq]
  have hx := cx.1
  have hb := cx.2.1
  have hown := cx.2.2.2.1
  have hts := cx.2.2.2.2.1
  have hK := cx.2.2.2.2.2.1
  have key : ∀ ls, lv_has ls 1 [(0, .ref a)] → W p l e (gx_rm d S) s m ([.ref a] : List Value).toArray below meth c s.heap [] 0 0 (gx_MQ below G S (gs_L (gs_put S 0 a 0 (.ref 16)) a []) (.returned (none)) s) (F0 m 0 ls []) := by
    intro ls hl
    refine gr_aload_n hx hb (some a) dJ2_init_0 rfl (lv_at hl 0 rfl) ?_
    refine gr_callR (gb_rawI (As := []) cx (Or.inl (hts _ q159)) (hts _ q160) (hts _ q161) hj_J1_init rfl rfl rfl dJ2_init_1) (mJ1_init hfl (by omega) ht) (d := d - 1) (by omega) (Nat.le_of_ble_eq_true rfl) (gz_ws (lw_meth q161) hts) (hts _ q76) hI hK rfl (by rw [cx.2.2.1]; exact hl.1) (lv_room (m := m) (pc := 0) (ls := ls) (rest := []) (gz_cs (st := []) (Nat.le_of_ble_eq_true rfl))) (fun H locs cells slots hI => ?_)
    refine gr_aload_n hx hb (some a) dJ2_init_4 rfl (lv_at hl 0 rfl) ?_
    refine gl_gets cx hI.1 dJ2_init_5 ?_
    obtain ⟨hob, hcap⟩ := (hI.1.2.2.2.2.2.2.2.2.1 a).2.2.2.1 ht
    refine gl_putf cx hob 1 (by omega) (hT := rfl) (hts _ q168) (fun _ h => h) rfl rfl dJ2_init_8 (fun H' i hz hq hob' => ?_)
    refine gr_vret cx (gl_born hI ht hz hq (hob'.to (fun k hk => ?_))) dJ2_init_11
    have : k = 0 ∨ k = 1 ∨ k = 2 := by omega
    rcases this with rfl | rfl | rfl <;> rfl
  exact key _ (lv_entry _ (Nat.le_of_ble_eq_true rfl))
