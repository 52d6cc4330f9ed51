set_option maxRecDepth 100000
/-! the JDK's text members at the thirteen texts; the checks of an index -/
theorem cd_J4_length : yJ4_length.cls = "java/lang/String" ∧ yJ4_length.cls ≠ "java/lang/invoke/MethodHandle" ∧ yJ4_length.cls ≠ "java/lang/invoke/VarHandle" ∧ (parseMethodDescriptor yJ4_length.desc).map (fun d => d.parameters.length) = some 0 := by decide +kernel
theorem cd_J4_coder : yJ4_coder.cls = "java/lang/String" ∧ yJ4_coder.cls ≠ "java/lang/invoke/MethodHandle" ∧ yJ4_coder.cls ≠ "java/lang/invoke/VarHandle" ∧ (parseMethodDescriptor yJ4_coder.desc).map (fun d => d.parameters.length) = some 0 := by decide +kernel
theorem cd_J4_isLatin1 : yJ4_isLatin1.cls = "java/lang/String" ∧ yJ4_isLatin1.cls ≠ "java/lang/invoke/MethodHandle" ∧ yJ4_isLatin1.cls ≠ "java/lang/invoke/VarHandle" ∧ (parseMethodDescriptor yJ4_isLatin1.desc).map (fun d => d.parameters.length) = some 0 := by decide +kernel
theorem cd_J4_charAt : yJ4_charAt.cls = "java/lang/String" ∧ yJ4_charAt.cls ≠ "java/lang/invoke/MethodHandle" ∧ yJ4_charAt.cls ≠ "java/lang/invoke/VarHandle" ∧ (parseMethodDescriptor yJ4_charAt.desc).map (fun d => d.parameters.length) = some 1 := by decide +kernel
theorem cd_J4_checkIndex : yJ4_checkIndex.cls ≠ "java/lang/invoke/MethodHandle" ∧ yJ4_checkIndex.cls ≠ "java/lang/invoke/VarHandle" ∧ (parseMethodDescriptor yJ4_checkIndex.desc).map (fun d => d.parameters.length) = some 2 := by decide +kernel
theorem cd_J5_charAt : yJ5_charAt.cls ≠ "java/lang/invoke/MethodHandle" ∧ yJ5_charAt.cls ≠ "java/lang/invoke/VarHandle" ∧ (parseMethodDescriptor yJ5_charAt.desc).map (fun d => d.parameters.length) = some 2 := by decide +kernel
theorem cd_J6_checkIndex : yJ6_checkIndex.cls ≠ "java/lang/invoke/MethodHandle" ∧ yJ6_checkIndex.cls ≠ "java/lang/invoke/VarHandle" ∧ (parseMethodDescriptor yJ6_checkIndex.desc).map (fun d => d.parameters.length) = some 3 := by decide +kernel
theorem cd_J14_checkIndex : yJ14_checkIndex.cls ≠ "java/lang/invoke/MethodHandle" ∧ yJ14_checkIndex.cls ≠ "java/lang/invoke/VarHandle" ∧ (parseMethodDescriptor yJ14_checkIndex.desc).map (fun d => d.parameters.length) = some 2 := by decide +kernel
set_option maxHeartbeats 1000000 in
/-- Preconditions.checkIndex(i, n, f) at 0 ≤ i < n -/
theorem met_J6_checkIndex (l : Launch) (i n : Int32) (f : Value) (hfv : f = .null ∨ ∃ a, f = .ref a) (h0 : ¬ i < 0) (h1 : i < n) : Met l yJ6_checkIndex (ws_ yJ6_checkIndex cJ6_checkIndex 3 (some .int)) ({ frames := 0, cells := 0, slots := 0, locals := 0 } : Room) (ps_Pc [.int i, .int n, f]) (ps_Qc (some (.int i))) 0 0 (fun _ => False) := by
  have hc : f.category = 1 := by rcases hfv with rfl | ⟨a, rfl⟩ <;> rfl
  refine ps_of (RX := RJ6) (lo := [some (.int i), some (.int n), some f]) (by decide) rfl ?_ ?_ (fun E C hr hlk hq => ?_)
  · rcases hfv with rfl | ⟨a, rfl⟩ <;> exact Nat.le_of_ble_eq_true rfl
  · rcases hfv with rfl | ⟨a, rfl⟩ <;> rfl
  refine ga_iload_n 1 C.c 0 rfl rfl dJ6_checkIndex_0 rfl ?_
  refine ga_if_lt 9 4 C.c dJ6_checkIndex_1 (by decide) rfl (fun c => absurd c h0) (fun c => ?_)
  refine ga_iload_n 5 C.c 0 rfl rfl dJ6_checkIndex_4 rfl ?_
  refine ga_iload_n 6 C.c 1 rfl rfl dJ6_checkIndex_5 rfl ?_
  refine ga_icmp_lt 16 9 C.c dJ6_checkIndex_6 (by decide) rfl (fun c => ?_) (fun c => absurd h1 c)
  refine ga_iload_n 17 C.c 0 rfl rfl dJ6_checkIndex_16 rfl ?_
  exact ps_iret C hr hlk hq rfl rfl dJ6_checkIndex_17
set_option maxHeartbeats 1000000 in
theorem met_J14_checkIndex (l : Launch) (i n : Int32) (h0 : ¬ i < 0) (h1 : i < n) : Met l yJ14_checkIndex (ws_ yJ14_checkIndex cJ14_checkIndex 2 (some .int)) ({ frames := 1, cells := 0, slots := 0, locals := 22 } : Room) (ps_Pc [.int i, .int n]) (ps_Qc (some (.int i))) 0 0 (fun _ => False) := by
  refine ps_of (RX := RJ14) (lo := [some (.int i), some (.int n)]) (by decide) rfl (Nat.le_of_ble_eq_true rfl) rfl (fun E C hr hlk hq => ?_)
  refine ga_iload_n 1 C.c 0 rfl rfl dJ14_checkIndex_0 rfl ?_
  refine ga_iload_n 2 C.c 1 rfl rfl dJ14_checkIndex_1 rfl ?_
  refine ga_null 3 C.c dJ14_checkIndex_2 rfl ?_
  refine ps_callS 6 C (as := [.int i, .int n, .null]) (met_J6_checkIndex (eL E) i n .null (Or.inl rfl) h0 h1) (lw_S q1036 q706 q107 q707) cd_J6_checkIndex rfl (Nat.le_of_ble_eq_true rfl) (Nat.le_of_ble_eq_true rfl) (Nat.le_of_ble_eq_true rfl) dJ14_checkIndex_3 rfl ?_
  exact ps_iret C hr hlk hq rfl rfl dJ14_checkIndex_6
set_option maxHeartbeats 1000000 in
theorem met_J4_coder (l : Launch) (tg : tx_G) (A : Nat → Prop) (w : Nat) (hw : w < 13) : Met l yJ4_coder (ws_ yJ4_coder cJ4_coder 1 (some .byte)) ({ frames := 0, cells := 0, slots := 0, locals := 0 } : Room) (va_Pc [.ref (tg.1 w)] (fun U => tx_S tg A U U.heap)) (ps_Qc (some (.int 0))) 0 0 (fun _ => False) := by
  refine rd_of (RX := RJ4) (lo := [some (.ref (tg.1 w))]) (by decide) rfl (Nat.le_of_ble_eq_true rfl) rfl (fun E C hP hr hlk hq => ?_)
  refine ga_gets 3 C.c (A := A) (own := RJ4) (fun H locs h => ps_I.S h) hP.2.2.1 C.ow (C.ts _ q687) (fun _ h => h) dJ4_coder_0 rfl ?_
  refine ga_if_eq 13 6 C.c dJ4_coder_3 (by decide) rfl (fun c => absurd c (by decide)) (fun c => ?_)
  refine ga_aload_n 7 C.c 0 rfl rfl dJ4_coder_6 rfl ?_
  refine ga_getOF 10 C.c (A := A) (own := RJ4) (fun H locs h => ps_I.S h) (hP.1.1 w hw).2.1 C.ow (C.ts _ q2347) (fun _ h => h) dJ4_coder_7 rfl ?_
  refine ga_goto 14 C.c dJ4_coder_10 (by decide) ?_
  exact ps_iret C hr hlk hq rfl rfl dJ4_coder_14
set_option maxHeartbeats 1000000 in
theorem met_J4_isLatin1 (l : Launch) (tg : tx_G) (A : Nat → Prop) (w : Nat) (hw : w < 13) : Met l yJ4_isLatin1 (ws_ yJ4_isLatin1 cJ4_isLatin1 1 (some .boolean)) ({ frames := 0, cells := 0, slots := 0, locals := 0 } : Room) (va_Pc [.ref (tg.1 w)] (fun U => tx_S tg A U U.heap)) (ps_Qc (some (.int 1))) 0 0 (fun _ => False) := by
  refine rd_of (RX := RJ4) (lo := [some (.ref (tg.1 w))]) (by decide) rfl (Nat.le_of_ble_eq_true rfl) rfl (fun E C hP hr hlk hq => ?_)
  refine ga_gets 3 C.c (A := A) (own := RJ4) (fun H locs h => ps_I.S h) hP.2.2.1 C.ow (C.ts _ q687) (fun _ h => h) dJ4_isLatin1_0 rfl ?_
  refine ga_if_eq 17 6 C.c dJ4_isLatin1_3 (by decide) rfl (fun c => absurd c (by decide)) (fun c => ?_)
  refine ga_aload_n 7 C.c 0 rfl rfl dJ4_isLatin1_6 rfl ?_
  refine ga_getOF 10 C.c (A := A) (own := RJ4) (fun H locs h => ps_I.S h) (hP.1.1 w hw).2.1 C.ow (C.ts _ q2347) (fun _ h => h) dJ4_isLatin1_7 rfl ?_
  refine ga_if_ne 17 13 C.c dJ4_isLatin1_10 (by decide) rfl (fun c => absurd rfl c) (fun c => ?_)
  refine ga_iconst 14 C.c (v := 1) (by decide) dJ4_isLatin1_13 rfl ?_
  refine ga_goto 18 C.c dJ4_isLatin1_14 (by decide) ?_
  exact ps_iret C hr hlk hq rfl rfl dJ4_isLatin1_18
/-- the cell of a text -/
theorem tx_recv {E : gE} {tg : tx_G} {A : Nat → Prop} {w : Nat} (hP : tx_S tg A (eS E) (eS E).heap) (hw : w < 13) : ∀ H locs, ps_I E H locs → ∃ cell : Cell, H[tg.1 w]? = some cell ∧ cell.vm.isStatics = false ∧ (eS E).vm.findClass "java/lang/String" = some cell.cls := fun _ _ hI => vk_recv hP.1 hw (ps_I.S hI)
theorem tx_pre {E : gE} {tg : tx_G} {A : Nat → Prop} (hP : tx_S tg A (eS E) (eS E).heap) : ∀ H locs, ps_I E H locs → ∀ U : State, U.heap = H → (eS E).WarmedH U.vm → tx_S tg A U U.heap := fun H locs hI U hU hW => by
  rw [hU, hI.1]
  exact hP.moved hW
set_option maxHeartbeats 1000000 in
theorem met_J4_length (l : Launch) (tg : tx_G) (A : Nat → Prop) (w : Nat) (hw : w < 13) : Met l yJ4_length (ws_ yJ4_length cJ4_length 1 (some .int)) ({ frames := 1, cells := 0, slots := 0, locals := 40 } : Room) (va_Pc [.ref (tg.1 w)] (fun U => tx_S tg A U U.heap)) (ps_Qc (some (.int (tx_l w)))) 0 0 (fun _ => False) := by
  refine rd_of (RX := RJ4) (lo := [some (.ref (tg.1 w))]) (by decide) rfl (Nat.le_of_ble_eq_true rfl) rfl (fun E C hP hr hlk hq => ?_)
  refine ga_aload_n 1 C.c 0 rfl rfl dJ4_length_0 rfl ?_
  refine ga_getOF 4 C.c (A := A) (own := RJ4) (fun H locs h => ps_I.S h) (hP.1.1 w hw).2.2.1 C.ow (C.ts _ q2346) (fun _ h => h) dJ4_length_1 rfl ?_
  refine ga_tlen 5 C.c (A := A) (fun H locs h => ps_I.S h) (hP.1.1 w hw).2.2.2 dJ4_length_4 rfl ?_
  refine ga_aload_n 6 C.c 0 rfl rfl dJ4_length_5 rfl ?_
  refine ga_callVP 9 (as := []) (own := RJ4) C.c C.ml C.ow C.ts (met_J4_coder (eL E) tg A w hw) (fun U g mk a h => tx_S.calling h) (tx_pre hP) (tx_recv hP hw) (lw_V q683 q684 q685 q105 q686) cd_J4_coder rfl (by rw [C.rm]; exact Nat.le_of_ble_eq_true rfl) (by rw [C.rm]; exact Nat.le_of_ble_eq_true rfl) (by rw [C.rm]; exact Nat.le_refl _) (by rw [C.rm]; exact Nat.le_refl _) (Nat.le_of_ble_eq_true rfl) dJ4_length_6 rfl ?_
  refine ga_ishr 10 C.c dJ4_length_9 rfl ?_
  exact ps_iret C hr hlk hq rfl (congrArg Value.int (sb_shr0 _)) dJ4_length_10
set_option maxHeartbeats 1000000 in
theorem met_J4_checkIndex (l : Launch) (tg : tx_G) (A : Nat → Prop) (i n : Int32) (h0 : ¬ i < 0) (h1 : i < n) : Met l yJ4_checkIndex (ws_ yJ4_checkIndex cJ4_checkIndex 2 none) ({ frames := 1, cells := 0, slots := 0, locals := 22 } : Room) (va_Pc [.int i, .int n] (fun U => tx_S tg A U U.heap)) (ps_Qc none) 0 0 (fun _ => False) := by
  refine rd_of (RX := RJ4) (lo := [some (.int i), some (.int n)]) (by decide) rfl (Nat.le_of_ble_eq_true rfl) rfl (fun E C hP hr hlk hq => ?_)
  refine ga_iload_n 1 C.c 0 rfl rfl dJ4_checkIndex_0 rfl ?_
  refine ga_iload_n 2 C.c 1 rfl rfl dJ4_checkIndex_1 rfl ?_
  have K : ∀ f : Value, (f = .null ∨ ∃ a, f = .ref a) → va_Z "jdk/internal/util/Preconditions" "SIOOBE_FORMATTER" "Ljava/util/function/BiFunction;" f A (eS E) (eS E).heap → ga_W E 2 (ps_I E) 0 0 2 [some (.int i), some (.int n)] [.int n, .int i] := by
    intro f hfv hZ
    have hc : f.category = 1 := by rcases hfv with rfl | ⟨a, rfl⟩ <;> rfl
    refine ga_gets 5 C.c (A := A) (own := RJ4) (fun H locs h => ps_I.S h) hZ C.ow (C.ts _ q703) (fun _ h => h) dJ4_checkIndex_2 rfl ?_
    refine ps_callS 8 C (as := [.int i, .int n, f]) (met_J6_checkIndex (eL E) i n f hfv h0 h1) (lw_S q705 q706 q107 q707) cd_J6_checkIndex rfl (Nat.le_of_ble_eq_true rfl) (Nat.le_of_ble_eq_true rfl) (Nat.le_of_ble_eq_true rfl) dJ4_checkIndex_5 rfl ?_
    refine ga_pop 9 C.c rfl dJ4_checkIndex_8 rfl ?_
    exact ps_vret C hr hlk hq dJ4_checkIndex_9
  rcases hP.2.2.2 with h | ⟨t, h⟩
  · exact K _ (Or.inl rfl) h
  · exact K _ (Or.inr ⟨t, rfl⟩) h
theorem tx_byt_ok : ∀ w, w < 13 → (tx_byt.getD w []).all (fun b => decide (b &&& 255 = b) && decide (((b &&& 255).toUInt32 % 65536).toInt32 = b) && decide (vp_nar .char b = b)) = true := by decide +kernel
theorem tx_byt_len : ∀ w, w < 13 → (tx_byt.getD w []).length = tx_len.getD w 0 := by decide +kernel
theorem tx_len_lt : ∀ w, w < 13 → tx_len.getD w 0 < 2 ^ 31 := by decide +kernel
theorem tx_getD_mem {l : List Int32} {k : Nat} (hk : k < l.length) : l.getD k 0 ∈ l := by
  rw [List.getD_eq_getElem?_getD, List.getElem?_eq_getElem hk]
  exact List.getElem_mem hk
theorem tx_c_mem {w : Nat} {i : Int32} (hk : i.toNatClampNeg < (tx_byt.getD w []).length) : tx_c w i ∈ tx_byt.getD w [] := tx_getD_mem hk
theorem vp_in_cmp {i : Int32} {n : Nat} (h : vp_in i n) (hn : n < 2 ^ 31) : ¬ i < 0 ∧ i < Int32.ofNat n := by
  obtain ⟨j, hj, rfl⟩ := vp_in_of h hn
  exact ⟨nI_pos (by omega), nI_lt hj hn⟩
set_option maxHeartbeats 1000000 in
theorem met_J5_charAt (l : Launch) (tg : tx_G) (A : Nat → Prop) (w : Nat) (i : Int32) (hw : w < 13) (hi : vp_in i (tx_len.getD w 0)) : Met l yJ5_charAt (ws_ yJ5_charAt cJ5_charAt 2 (some .char)) ({ frames := 2, cells := 0, slots := 0, locals := 60 } : Room) (va_Pc [.ref (tg.2 w), .int i] (fun U => tx_S tg A U U.heap)) (ps_Qc (some (.int (tx_c w i)))) 0 0 (fun _ => False) := by
  have hk : i.toNatClampNeg < (tx_byt.getD w []).length := by
    rw [tx_byt_len w hw]
    obtain ⟨j, hj, rfl⟩ := vp_in_of hi (tx_len_lt w hw)
    rw [nI_clamp (by have := tx_len_lt w hw; omega)]
    exact hj
  have hb := List.all_eq_true.mp (tx_byt_ok w hw) (tx_c w i) (tx_c_mem hk)
  simp only [Bool.and_eq_true, decide_eq_true_eq] at hb
  obtain ⟨⟨hb1, hb2⟩, hb3⟩ := hb
  refine rd_of (RX := RJ5) (lo := [some (.ref (tg.2 w)), some (.int i)]) (by decide) rfl (Nat.le_of_ble_eq_true rfl) rfl (fun E C hP hr hlk hq => ?_)
  refine ga_iload_n 1 C.c 1 rfl rfl dJ5_charAt_0 rfl ?_
  refine ga_aload_n 2 C.c 0 rfl rfl dJ5_charAt_1 rfl ?_
  refine ga_tlen 3 C.c (A := A) (fun H locs h => ps_I.S h) (hP.1.1 w hw).2.2.2 dJ5_charAt_2 rfl ?_
  have hci := vp_in_cmp hi (tx_len_lt w hw)
  refine ga_callSP 6 (own := RJ5) (as := [.int i, .int (Int32.ofNat (tx_len.getD w 0))]) C.c C.ml C.ow C.ts (met_J4_checkIndex (eL E) tg A i _ hci.1 hci.2) (fun U g mk a h => tx_S.calling h) (tx_pre hP) (lw_S q700 q701 q105 q702) cd_J4_checkIndex rfl (by rw [C.rm]; exact Nat.le_of_ble_eq_true rfl) (by rw [C.rm]; exact Nat.le_of_ble_eq_true rfl) (by rw [C.rm]; exact Nat.le_refl _) (by rw [C.rm]; exact Nat.le_refl _) (Nat.le_of_ble_eq_true rfl) dJ5_charAt_3 rfl ?_
  refine ga_aload_n 7 C.c 0 rfl rfl dJ5_charAt_6 rfl ?_
  refine ga_iload_n 8 C.c 1 rfl rfl dJ5_charAt_7 rfl ?_
  refine ga_tb 9 C.c (A := A) (fun H locs h => ps_I.S h) (hP.1.1 w hw).2.2.2 hi rfl dJ5_charAt_8 rfl ?_
  refine ga_sipush 12 C.c (v := 255) (by decide) dJ5_charAt_9 rfl ?_
  refine ga_iand 13 C.c dJ5_charAt_12 rfl ?_
  refine ga_i2c 14 C.c (v := tx_c w i) hb2 dJ5_charAt_13 rfl ?_
  exact ps_iret C hr hlk hq (w := vp_nar .char (tx_c w i)) rfl (congrArg Value.int hb3) dJ5_charAt_14
set_option maxHeartbeats 1000000 in
theorem met_J4_charAt (l : Launch) (tg : tx_G) (A : Nat → Prop) (w : Nat) (i : Int32) (hw : w < 13) (hi : vp_in i (tx_len.getD w 0)) : Met l yJ4_charAt (ws_ yJ4_charAt cJ4_charAt 2 (some .char)) ({ frames := 3, cells := 0, slots := 0, locals := 140 } : Room) (va_Pc [.ref (tg.1 w), .int i] (fun U => tx_S tg A U U.heap)) (ps_Qc (some (.int (tx_c w i)))) 0 0 (fun _ => False) := by
  have hk : i.toNatClampNeg < (tx_byt.getD w []).length := by
    rw [tx_byt_len w hw]
    obtain ⟨j, hj, rfl⟩ := vp_in_of hi (tx_len_lt w hw)
    rw [nI_clamp (by have := tx_len_lt w hw; omega)]
    exact hj
  have hb := List.all_eq_true.mp (tx_byt_ok w hw) (tx_c w i) (tx_c_mem hk)
  simp only [Bool.and_eq_true, decide_eq_true_eq] at hb
  obtain ⟨⟨hb1, hb2⟩, hb3⟩ := hb
  refine rd_of (RX := RJ4) (lo := [some (.ref (tg.1 w)), some (.int i)]) (by decide) rfl (Nat.le_of_ble_eq_true rfl) rfl (fun E C hP hr hlk hq => ?_)
  refine ga_aload_n 1 C.c 0 rfl rfl dJ4_charAt_0 rfl ?_
  refine ga_callVP 4 (as := []) (own := RJ4) C.c C.ml C.ow C.ts (met_J4_isLatin1 (eL E) tg A w hw) (fun U g mk a h => tx_S.calling h) (tx_pre hP) (tx_recv hP hw) (lw_V q693 q694 q695 q105 q696) cd_J4_isLatin1 rfl (by rw [C.rm]; exact Nat.le_of_ble_eq_true rfl) (by rw [C.rm]; exact Nat.le_of_ble_eq_true rfl) (by rw [C.rm]; exact Nat.le_refl _) (by rw [C.rm]; exact Nat.le_refl _) (Nat.le_of_ble_eq_true rfl) dJ4_charAt_1 rfl ?_
  refine ga_if_eq 16 7 C.c dJ4_charAt_4 (by decide) rfl (fun c => absurd c (by decide)) (fun c => ?_)
  refine ga_aload_n 8 C.c 0 rfl rfl dJ4_charAt_7 rfl ?_
  refine ga_getOF 11 C.c (A := A) (own := RJ4) (fun H locs h => ps_I.S h) (hP.1.1 w hw).2.2.1 C.ow (C.ts _ q2346) (fun _ h => h) dJ4_charAt_8 rfl ?_
  refine ga_iload_n 12 C.c 1 rfl rfl dJ4_charAt_11 rfl ?_
  refine ga_callSP 15 (own := RJ4) (as := [.ref (tg.2 w), .int i]) C.c C.ml C.ow C.ts (met_J5_charAt (eL E) tg A w i hw hi) (fun U g mk a h => tx_S.calling h) (tx_pre hP) (lw_S q697 q698 q106 q699) cd_J5_charAt rfl (by rw [C.rm]; exact Nat.le_of_ble_eq_true rfl) (by rw [C.rm]; exact Nat.le_of_ble_eq_true rfl) (by rw [C.rm]; exact Nat.le_refl _) (by rw [C.rm]; exact Nat.le_refl _) (Nat.le_of_ble_eq_true rfl) dJ4_charAt_12 rfl ?_
  exact ps_iret C hr hlk hq (w := vp_nar .char (tx_c w i)) rfl (congrArg Value.int hb3) dJ4_charAt_15
