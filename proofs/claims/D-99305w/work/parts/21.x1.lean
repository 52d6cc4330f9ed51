set_option maxRecDepth 100000
set_option maxHeartbeats 4000000 in
theorem met_J15_bitCount (l : Launch) (a1 : Int32) : Met l yJ15_bitCount (ws_ yJ15_bitCount cJ15_bitCount 1 (some .int)) ({ frames := 0, cells := 0, slots := 0, locals := 0 } : Room) (ps_Pc [.int a1]) (ps_Qc (some (.int (fJ15_bitCount a1)))) 0 0 (fun _ => False) := by
  obtain ⟨r, hf⟩ : ∃ r, fJ15_bitCount a1 = r := ⟨_, rfl⟩
  rw [hf]
  refine ps_of (RX := RJ15) (lo := [some (.int a1)]) (by decide) rfl (Nat.le_of_ble_eq_true rfl) rfl (fun E C hr hlk hq => ?_)
  unfold fJ15_bitCount at hf
  refine ga_iload_n 1 C.c 0 rfl rfl dJ15_bitCount_0 rfl ?_
  refine ga_iload_n 2 C.c 0 rfl rfl dJ15_bitCount_1 rfl ?_
  refine ga_iconst 3 C.c (v := 1) (by decide) dJ15_bitCount_2 rfl ?_
  refine ga_iushr 4 C.c dJ15_bitCount_3 rfl ?_
  refine ga_ldc_w 7 C.c C.ow (C.ts _ q1142) dJ15_bitCount_4 rfl ?_
  refine ga_iand 8 C.c dJ15_bitCount_7 rfl ?_
  refine ga_isub 9 C.c dJ15_bitCount_8 rfl ?_
  refine ga_istore_n 10 C.c 0 rfl (by decide) rfl dJ15_bitCount_9 rfl ?_
  obtain ⟨_, rfl, hf⟩ := pu_l1_w hf
  refine ga_iload_n 11 C.c 0 rfl rfl dJ15_bitCount_10 rfl ?_
  refine ga_ldc_w 14 C.c C.ow (C.ts _ q1143) dJ15_bitCount_11 rfl ?_
  refine ga_iand 15 C.c dJ15_bitCount_14 rfl ?_
  refine ga_iload_n 16 C.c 0 rfl rfl dJ15_bitCount_15 rfl ?_
  refine ga_iconst 17 C.c (v := 2) (by decide) dJ15_bitCount_16 rfl ?_
  refine ga_iushr 18 C.c dJ15_bitCount_17 rfl ?_
  refine ga_ldc_w 21 C.c C.ow (C.ts _ q1143) dJ15_bitCount_18 rfl ?_
  refine ga_iand 22 C.c dJ15_bitCount_21 rfl ?_
  refine ga_iadd 23 C.c dJ15_bitCount_22 rfl ?_
  refine ga_istore_n 24 C.c 0 rfl (by decide) rfl dJ15_bitCount_23 rfl ?_
  obtain ⟨_, rfl, hf⟩ := pu_l1_w hf
  refine ga_iload_n 25 C.c 0 rfl rfl dJ15_bitCount_24 rfl ?_
  refine ga_iload_n 26 C.c 0 rfl rfl dJ15_bitCount_25 rfl ?_
  refine ga_iconst 27 C.c (v := 4) (by decide) dJ15_bitCount_26 rfl ?_
  refine ga_iushr 28 C.c dJ15_bitCount_27 rfl ?_
  refine ga_iadd 29 C.c dJ15_bitCount_28 rfl ?_
  refine ga_ldc_w 32 C.c C.ow (C.ts _ q1144) dJ15_bitCount_29 rfl ?_
  refine ga_iand 33 C.c dJ15_bitCount_32 rfl ?_
  refine ga_istore_n 34 C.c 0 rfl (by decide) rfl dJ15_bitCount_33 rfl ?_
  obtain ⟨_, rfl, hf⟩ := pu_l1_w hf
  refine ga_iload_n 35 C.c 0 rfl rfl dJ15_bitCount_34 rfl ?_
  refine ga_iload_n 36 C.c 0 rfl rfl dJ15_bitCount_35 rfl ?_
  refine ga_bipush 38 C.c (v := 8) (by decide) dJ15_bitCount_36 rfl ?_
  refine ga_iushr 39 C.c dJ15_bitCount_38 rfl ?_
  refine ga_iadd 40 C.c dJ15_bitCount_39 rfl ?_
  refine ga_istore_n 41 C.c 0 rfl (by decide) rfl dJ15_bitCount_40 rfl ?_
  obtain ⟨_, rfl, hf⟩ := pu_l1_w hf
  refine ga_iload_n 42 C.c 0 rfl rfl dJ15_bitCount_41 rfl ?_
  refine ga_iload_n 43 C.c 0 rfl rfl dJ15_bitCount_42 rfl ?_
  refine ga_bipush 45 C.c (v := 16) (by decide) dJ15_bitCount_43 rfl ?_
  refine ga_iushr 46 C.c dJ15_bitCount_45 rfl ?_
  refine ga_iadd 47 C.c dJ15_bitCount_46 rfl ?_
  refine ga_istore_n 48 C.c 0 rfl (by decide) rfl dJ15_bitCount_47 rfl ?_
  obtain ⟨_, rfl, hf⟩ := pu_l1_w hf
  refine ga_iload_n 49 C.c 0 rfl rfl dJ15_bitCount_48 rfl ?_
  refine ga_bipush 51 C.c (v := 63) (by decide) dJ15_bitCount_49 rfl ?_
  refine ga_iand 52 C.c dJ15_bitCount_51 rfl ?_
  cases hf
  exact ps_iret C hr hlk hq rfl rfl dJ15_bitCount_52
set_option maxHeartbeats 4000000 in
theorem met_X0_in (l : Launch) (a1 : Int64) (a2 : Int64) (a3 : Int64) : Met l yX0_in (ws_ yX0_in cX0_in 6 (some .boolean)) ({ frames := 0, cells := 0, slots := 0, locals := 0 } : Room) (ps_Pc [.long a1, .long a2, .long a3]) (ps_Qc (some (.int (fX0_in a1 a2 a3)))) 0 0 (fun _ => False) := by
  obtain ⟨r, hf⟩ : ∃ r, fX0_in a1 a2 a3 = r := ⟨_, rfl⟩
  rw [hf]
  refine ps_of (RX := RX0) (lo := [some (.long a1), none, some (.long a2), none, some (.long a3), none]) (by decide) rfl (Nat.le_of_ble_eq_true rfl) rfl (fun E C hr hlk hq => ?_)
  unfold fX0_in at hf
  refine ga_lload_n 1 C.c 0 rfl rfl dX0_in_0 rfl ?_
  refine ga_lload_n 2 C.c 2 rfl rfl dX0_in_1 rfl ?_
  refine ga_lcmp 3 C.c dX0_in_2 rfl ?_
  refine ga_if_lt 17 6 C.c dX0_in_3 (by decide) rfl (fun c => ?_) (fun c => ?_)
  · have hf := pu_pos c hf
    refine ga_iconst 18 C.c (v := 0) (by decide) dX0_in_17 rfl ?_
    cases hf
    exact ps_iret C hr hlk hq rfl rfl dX0_in_18
  · have hf := pu_neg c hf
    refine ga_lload_n 7 C.c 0 rfl rfl dX0_in_6 rfl ?_
    refine ga_lload 9 C.c rfl dX0_in_7 rfl ?_
    refine ga_lcmp 10 C.c dX0_in_9 rfl ?_
    refine ga_if_gt 17 13 C.c dX0_in_10 (by decide) rfl (fun c => ?_) (fun c => ?_)
    · have hf := pu_pos c hf
      refine ga_iconst 18 C.c (v := 0) (by decide) dX0_in_17 rfl ?_
      cases hf
      exact ps_iret C hr hlk hq rfl rfl dX0_in_18
    · have hf := pu_neg c hf
      refine ga_iconst 14 C.c (v := 1) (by decide) dX0_in_13 rfl ?_
      refine ga_goto 18 C.c dX0_in_14 (by decide) ?_
      cases hf
      exact ps_iret C hr hlk hq rfl rfl dX0_in_18
set_option maxHeartbeats 4000000 in
theorem met_X0_isSlot (l : Launch) (a1 : Int32) : Met l yX0_isSlot (ws_ yX0_isSlot cX0_isSlot 1 (some .boolean)) ({ frames := 1, cells := 0, slots := 0, locals := 25 } : Room) (ps_Pc [.int a1]) (ps_Qc (some (.int (fX0_isSlot a1)))) 0 0 (fun _ => False) := by
  obtain ⟨r, hf⟩ : ∃ r, fX0_isSlot a1 = r := ⟨_, rfl⟩
  rw [hf]
  refine ps_of (RX := RX0) (lo := [some (.int a1)]) (by decide) rfl (Nat.le_of_ble_eq_true rfl) rfl (fun E C hr hlk hq => ?_)
  unfold fX0_isSlot at hf
  refine ga_iload_n 1 C.c 0 rfl rfl dX0_isSlot_0 rfl ?_
  refine ga_i2l 2 C.c dX0_isSlot_1 rfl ?_
  refine ga_lconst 3 C.c (v := 0) (by decide) dX0_isSlot_2 rfl ?_
  refine ga_ldc2 6 C.c C.ow (C.ts _ q135) dX0_isSlot_3 rfl ?_
  refine ps_callS 9 C (as := [.long a1.toInt64, .long 0, .long 3]) (met_X0_in (eL E) _ _ _) (lw_S q136 q137 q93 q138) cd_X0_in rfl (Nat.le_of_ble_eq_true rfl) (Nat.le_of_ble_eq_true rfl) (Nat.le_of_ble_eq_true rfl) dX0_isSlot_6 rfl ?_
  cases hf
  exact ps_iret C hr hlk hq rfl rfl dX0_isSlot_9
set_option maxHeartbeats 4000000 in
theorem met_X0_end (l : Launch) (X : XX) (z : MS) (a1 : Int32) (r : Int32) (z9 : MS) (hf : fX0_end (xp X) z a1 = (r, z9)) : Met l yX0_end (ws_ yX0_end cX0_end 2 (some .int)) ({ frames := 1, cells := 0, slots := 0, locals := 25 } : Room) (xw_Pc X z [.ref (xg X 0), .int a1]) (xw_Qc X z9 (some (.int r))) 0 0 (xw_A (xg X)) := by
  refine xw_of (RX := RX0) (lo := [some (.ref (xg X 0)), some (.int a1)]) (by decide) rfl (Nat.le_of_ble_eq_true rfl) rfl (fun E C hr hlk hq => ?_)
  unfold fX0_end at hf
  refine ga_iload_n 1 C.c 1 rfl rfl dX0_end_0 rfl ?_
  refine ga_i2l 2 C.c dX0_end_1 rfl ?_
  refine ga_lconst 3 C.c (v := 0) (by decide) dX0_end_2 rfl ?_
  refine ga_aload_n 4 C.c 0 rfl rfl dX0_end_3 rfl ?_
  refine xa_get 7 0 4 C rfl (T := TX0) rfl in_X0 (by decide) q557 rfl rfl dX0_end_4 rfl ?_
  refine ga_i2l 8 C.c dX0_end_7 rfl ?_
  refine xa_callS 11 C (as := [.long a1.toInt64, .long 0, .long ((mi z 0 : Int32).toInt64)]) (met_X0_in (eL E) _ _ _) (lw_S q136 q137 q93 q138) cd_X0_in rfl (Nat.le_of_ble_eq_true rfl) (Nat.le_of_ble_eq_true rfl) (Nat.le_of_ble_eq_true rfl) dX0_end_8 rfl ?_
  refine ga_if_ne 16 14 C.c dX0_end_11 (by decide) rfl (fun c => ?_) (fun c => ?_)
  · have hf := pu_neg c hf
    refine ga_aload_n 17 C.c 0 rfl rfl dX0_end_16 rfl ?_
    refine ga_iload_n 18 C.c 1 rfl rfl dX0_end_17 rfl ?_
    refine xa_put 21 0 4 C (ty := tyX0) tyX0_ok nmX0 rfl (xa_set0 _) rfl in_X0 (by decide) q557 rfl rfl rfl (Nat.le_of_ble_eq_true rfl) dX0_end_18 rfl ?_
    refine ga_iload_n 22 C.c 1 rfl rfl dX0_end_21 rfl ?_
    cases hf
    exact xw_iret C hr hlk hq rfl rfl rfl dX0_end_22
  · have hf := pu_pos c hf
    refine ga_iconst 15 C.c (v := (-1)) (by decide) dX0_end_14 rfl ?_
    cases hf
    exact xw_iret C hr hlk hq rfl rfl rfl dX0_end_15
set_option maxHeartbeats 4000000 in
theorem met_X0_fault (l : Launch) (X : XX) (z : MS) (a1 : Int32) : Met l yX0_fault (ws_ yX0_fault cX0_fault 2 (some .int)) ({ frames := 0, cells := 0, slots := 0, locals := 0 } : Room) (xw_Pc X z [.ref (xg X 0), .int a1]) (xw_Qc X z (some (.int (fX0_fault (xp X) z a1)))) 0 0 (xw_A (xg X)) := by
  obtain ⟨r, hf⟩ : ∃ r, fX0_fault (xp X) z a1 = r := ⟨_, rfl⟩
  rw [hf]
  refine xw_of (RX := RX0) (lo := [some (.ref (xg X 0)), some (.int a1)]) (by decide) rfl (Nat.le_of_ble_eq_true rfl) rfl (fun E C hr hlk hq => ?_)
  unfold fX0_fault at hf
  refine ga_iload_n 1 C.c 1 rfl rfl dX0_fault_0 rfl ?_
  refine ga_if_ne 11 4 C.c dX0_fault_1 (by decide) rfl (fun c => ?_) (fun c => ?_)
  · have hf := pu_neg c hf
    refine ga_iload_n 12 C.c 1 rfl rfl dX0_fault_11 rfl ?_
    refine ga_iconst 13 C.c (v := 1) (by decide) dX0_fault_12 rfl ?_
    refine ga_icmp_ne 23 16 C.c dX0_fault_13 (by decide) rfl (fun c => ?_) (fun c => ?_)
    · have hf := pu_neg c hf
      refine ga_iconst 24 C.c (v := (-1)) (by decide) dX0_fault_23 rfl ?_
      cases hf
      exact xw_iret C hr hlk hq rfl rfl rfl dX0_fault_24
    · have hf := pu_pos c hf
      refine ga_aload_n 17 C.c 0 rfl rfl dX0_fault_16 rfl ?_
      refine xa_get 20 0 6 C rfl (T := TX0) rfl in_X0 (by decide) q559 rfl rfl dX0_fault_17 rfl ?_
      refine ga_goto 24 C.c dX0_fault_20 (by decide) ?_
      cases hf
      exact xw_iret C hr hlk hq rfl rfl rfl dX0_fault_24
  · have hf := pu_pos c hf
    refine ga_aload_n 5 C.c 0 rfl rfl dX0_fault_4 rfl ?_
    refine xa_get 8 0 5 C rfl (T := TX0) rfl in_X0 (by decide) q558 rfl rfl dX0_fault_5 rfl ?_
    refine ga_goto 24 C.c dX0_fault_8 (by decide) ?_
    cases hf
    exact xw_iret C hr hlk hq rfl rfl rfl dX0_fault_24
set_option maxHeartbeats 4000000 in
theorem met_X0_reaches (l : Launch) (X : XX) (z : MS) : Met l yX0_reaches (ws_ yX0_reaches cX0_reaches 1 (some .int)) ({ frames := 3, cells := 0, slots := 0, locals := 81 } : Room) (xw_Pc X z [.ref (xg X 0)]) (xw_Qc X z (some (.int (fX0_reaches (xp X) z)))) 0 0 (xw_A (xg X)) := by
  obtain ⟨r, hf⟩ : ∃ r, fX0_reaches (xp X) z = r := ⟨_, rfl⟩
  rw [hf]
  refine xw_of (RX := RX0) (lo := [some (.ref (xg X 0))]) (by decide) rfl (Nat.le_of_ble_eq_true rfl) rfl (fun E C hr hlk hq => ?_)
  unfold fX0_reaches at hf
  refine ga_aload_n 1 C.c 0 rfl rfl dX0_reaches_0 rfl ?_
  refine xa_get 4 0 1 C rfl (T := TX0) rfl in_X0 (by decide) q554 rfl rfl dX0_reaches_1 rfl ?_
  refine xd_getN 7 0 C C.rv (T := TX2) (N := 8) rfl in_X2 (by decide) q390 rfl rfl dX0_reaches_4 rfl ?_
  refine xa_size 12 0 C (by decide) q1018 (Nat.le_of_ble_eq_true rfl) (Nat.le_of_ble_eq_true rfl) (Nat.le_of_ble_eq_true rfl) dX0_reaches_7 rfl ?_
  cases hf
  exact xw_iret C hr hlk hq rfl rfl rfl dX0_reaches_12
set_option maxHeartbeats 4000000 in
theorem met_X0_isReach (l : Launch) (X : XX) (z : MS) (a1 : Int64) : Met l yX0_isReach (ws_ yX0_isReach cX0_isReach 3 (some .boolean)) ({ frames := 4, cells := 0, slots := 0, locals := 101 } : Room) (xw_Pc X z [.ref (xg X 0), .long a1]) (xw_Qc X z (some (.int (fX0_isReach (xp X) z a1)))) 0 0 (xw_A (xg X)) := by
  obtain ⟨r, hf⟩ : ∃ r, fX0_isReach (xp X) z a1 = r := ⟨_, rfl⟩
  rw [hf]
  refine xw_of (RX := RX0) (lo := [some (.ref (xg X 0)), some (.long a1), none]) (by decide) rfl (Nat.le_of_ble_eq_true rfl) rfl (fun E C hr hlk hq => ?_)
  unfold fX0_isReach at hf
  refine ga_lload_n 1 C.c 1 rfl rfl dX0_isReach_0 rfl ?_
  refine ga_lconst 2 C.c (v := 0) (by decide) dX0_isReach_1 rfl ?_
  refine ga_aload_n 3 C.c 0 rfl rfl dX0_isReach_2 rfl ?_
  refine xa_callV 6 0 C (as := []) (met_X0_reaches (eL E) X _) rfl (T := TX0) rfl (lw_V q1013 q1015 qs23 q93 q1016) cd_X0_reaches rfl (Nat.le_of_ble_eq_true rfl) (Nat.le_of_ble_eq_true rfl) (Nat.le_of_ble_eq_true rfl) dX0_isReach_3 rfl ?_
  refine ga_iconst 7 C.c (v := 1) (by decide) dX0_isReach_6 rfl ?_
  refine ga_isub 8 C.c dX0_isReach_7 rfl ?_
  refine ga_i2l 9 C.c dX0_isReach_8 rfl ?_
  refine xa_callS 12 C (as := [.long a1, .long 0, .long (((fX0_reaches (xp X) z) - 1 : Int32).toInt64)]) (met_X0_in (eL E) _ _ _) (lw_S q136 q137 q93 q138) cd_X0_in rfl (Nat.le_of_ble_eq_true rfl) (Nat.le_of_ble_eq_true rfl) (Nat.le_of_ble_eq_true rfl) dX0_isReach_9 rfl ?_
  cases hf
  exact xw_iret C hr hlk hq rfl rfl rfl dX0_isReach_12
set_option maxHeartbeats 4000000 in
theorem met_X0_one (l : Launch) (X : XX) (z : MS) (a1 : Int32) (hf : fX0_one (xp X) z a1 = some ()) : Met l yX0_one (ws_ yX0_one cX0_one 2 (some (.object "QuotedRiver$Reach"))) ({ frames := 3, cells := 0, slots := 0, locals := 81 } : Room) (xw_Pc X z [.ref (xg X 0), .int a1]) (xw_Qc X z (some (.ref ((xG X).1 0 a1.toNatClampNeg)))) 0 0 (xw_A (xg X)) := by
  refine xw_of (RX := RX0) (lo := [some (.ref (xg X 0)), some (.int a1)]) (by decide) rfl (Nat.le_of_ble_eq_true rfl) rfl (fun E C hr hlk hq => ?_)
  unfold fX0_one at hf
  refine ga_aload_n 1 C.c 0 rfl rfl dX0_one_0 rfl ?_
  refine xa_get 4 0 1 C rfl (T := TX0) rfl in_X0 (by decide) q554 rfl rfl dX0_one_1 rfl ?_
  refine xd_getN 7 0 C C.rv (T := TX2) (N := 8) rfl in_X2 (by decide) q390 rfl rfl dX0_one_4 rfl ?_
  refine ga_iload_n 8 C.c 1 rfl rfl dX0_one_7 rfl ?_
  obtain ⟨h1, hf⟩ := pu_g_w hf
  refine xa_lget 13 0 C (by decide) h1 q1025 (Nat.le_of_ble_eq_true rfl) (Nat.le_of_ble_eq_true rfl) (Nat.le_of_ble_eq_true rfl) dX0_one_8 rfl ?_
  refine xd_cast 16 C (C.d0 (vp_in_lt h1)) (T := TX9) rfl q1041 dX0_one_13 rfl ?_
  have hf := Option.some.inj hf
  cases hf
  exact xw_aret C hr hlk hq rfl rfl dX0_one_16
theorem xone_lt {p : PS} {z : MS} {r : Int32} (h : fX0_one p z r = some ()) : r.toNatClampNeg < pq p 0 := by
  unfold fX0_one at h
  exact vp_in_lt (pu_g_w h).1
set_option maxHeartbeats 4000000 in
theorem met_X0_reach (l : Launch) (X : XX) (z : MS) (a1 : Int32) (a2 : Int32) (r : Int32) (hf : fX0_reach (xp X) z a1 a2 = some r) : Met l yX0_reach (ws_ yX0_reach cX0_reach 3 (some .int)) ({ frames := 5, cells := 0, slots := 0, locals := 123 } : Room) (xw_Pc X z [.ref (xg X 0), .int a1, .int a2]) (xw_Qc X z (some (.int r))) 0 0 (xw_A (xg X)) := by
  refine xw_of (RX := RX0) (lo := [some (.ref (xg X 0)), some (.int a1), some (.int a2)]) (by decide) rfl (Nat.le_of_ble_eq_true rfl) rfl (fun E C hr hlk hq => ?_)
  unfold fX0_reach at hf
  refine ga_aload_n 1 C.c 0 rfl rfl dX0_reach_0 rfl ?_
  refine ga_iload_n 2 C.c 1 rfl rfl dX0_reach_1 rfl ?_
  refine ga_i2l 3 C.c dX0_reach_2 rfl ?_
  refine xa_callV 6 0 C (as := [.long a1.toInt64]) (met_X0_isReach (eL E) X _ _) rfl (T := TX0) rfl (lw_V q1009 q1011 qs22 q93 q1012) cd_X0_isReach rfl (Nat.le_of_ble_eq_true rfl) (Nat.le_of_ble_eq_true rfl) (Nat.le_of_ble_eq_true rfl) dX0_reach_3 rfl ?_
  refine ga_if_eq 63 9 C.c dX0_reach_6 (by decide) rfl (fun c => ?_) (fun c => ?_)
  · have hf := pu_pos c hf
    refine ga_bipush 65 C.c (v := (-2)) (by decide) dX0_reach_63 rfl ?_
    have hf := Option.some.inj hf
    cases hf
    exact xw_iret C hr hlk hq rfl rfl rfl dX0_reach_65
  · have hf := pu_neg c hf
    refine ga_iload_n 10 C.c 2 rfl rfl dX0_reach_9 rfl ?_
    refine ga_i2l 11 C.c dX0_reach_10 rfl ?_
    refine ga_lconst 12 C.c (v := 0) (by decide) dX0_reach_11 rfl ?_
    refine ga_ldc2 15 C.c C.ow (C.ts _ q1019) dX0_reach_12 rfl ?_
    refine xa_callS 18 C (as := [.long a2.toInt64, .long 0, .long 2]) (met_X0_in (eL E) _ _ _) (lw_S q136 q137 q93 q138) cd_X0_in rfl (Nat.le_of_ble_eq_true rfl) (Nat.le_of_ble_eq_true rfl) (Nat.le_of_ble_eq_true rfl) dX0_reach_15 rfl ?_
    refine ga_if_eq 63 21 C.c dX0_reach_18 (by decide) rfl (fun c => ?_) (fun c => ?_)
    · have hf := pu_pos c hf
      refine ga_bipush 65 C.c (v := (-2)) (by decide) dX0_reach_63 rfl ?_
      have hf := Option.some.inj hf
      cases hf
      exact xw_iret C hr hlk hq rfl rfl rfl dX0_reach_65
    · have hf := pu_neg c hf
      refine ga_iload_n 22 C.c 2 rfl rfl dX0_reach_21 rfl ?_
      refine ga_if_ne 36 25 C.c dX0_reach_22 (by decide) rfl (fun c => ?_) (fun c => ?_)
      · have hf := pu_neg c hf
        refine ga_iload_n 37 C.c 2 rfl rfl dX0_reach_36 rfl ?_
        refine ga_iconst 38 C.c (v := 1) (by decide) dX0_reach_37 rfl ?_
        refine ga_icmp_ne 52 41 C.c dX0_reach_38 (by decide) rfl (fun c => ?_) (fun c => ?_)
        · have hf := pu_neg c hf
          refine ga_aload_n 53 C.c 0 rfl rfl dX0_reach_52 rfl ?_
          refine ga_iload_n 54 C.c 1 rfl rfl dX0_reach_53 rfl ?_
          obtain ⟨hc1, hf⟩ := pu_b0_w hf
          refine xa_callV 57 0 C (as := [.int a1]) (met_X0_one (eL E) X _ _ hc1) rfl (T := TX0) rfl (lw_V q1020 q1022 qs24 q93 q1023) cd_X0_one rfl (Nat.le_of_ble_eq_true rfl) (Nat.le_of_ble_eq_true rfl) (Nat.le_of_ble_eq_true rfl) dX0_reach_54 rfl ?_
          refine xd_getN 60 2 C (C.d0 (xone_lt hc1)) (T := TX9) (N := 3) rfl in_X9 (by decide) q813 rfl rfl dX0_reach_57 rfl ?_
          refine ga_goto 65 C.c dX0_reach_60 (by decide) ?_
          have hf := Option.some.inj hf
          cases hf
          exact xw_iret C hr hlk hq rfl rfl rfl dX0_reach_65
        · have hf := pu_pos c hf
          refine ga_aload_n 42 C.c 0 rfl rfl dX0_reach_41 rfl ?_
          refine ga_iload_n 43 C.c 1 rfl rfl dX0_reach_42 rfl ?_
          obtain ⟨hc2, hf⟩ := pu_b0_w hf
          refine xa_callV 46 0 C (as := [.int a1]) (met_X0_one (eL E) X _ _ hc2) rfl (T := TX0) rfl (lw_V q1020 q1022 qs24 q93 q1023) cd_X0_one rfl (Nat.le_of_ble_eq_true rfl) (Nat.le_of_ble_eq_true rfl) (Nat.le_of_ble_eq_true rfl) dX0_reach_43 rfl ?_
          refine xd_getN 49 1 C (C.d0 (xone_lt hc2)) (T := TX9) (N := 3) rfl in_X9 (by decide) q809 rfl rfl dX0_reach_46 rfl ?_
          refine ga_goto 65 C.c dX0_reach_49 (by decide) ?_
          have hf := Option.some.inj hf
          cases hf
          exact xw_iret C hr hlk hq rfl rfl rfl dX0_reach_65
      · have hf := pu_pos c hf
        refine ga_aload_n 26 C.c 0 rfl rfl dX0_reach_25 rfl ?_
        refine ga_iload_n 27 C.c 1 rfl rfl dX0_reach_26 rfl ?_
        obtain ⟨hc3, hf⟩ := pu_b0_w hf
        refine xa_callV 30 0 C (as := [.int a1]) (met_X0_one (eL E) X _ _ hc3) rfl (T := TX0) rfl (lw_V q1020 q1022 qs24 q93 q1023) cd_X0_one rfl (Nat.le_of_ble_eq_true rfl) (Nat.le_of_ble_eq_true rfl) (Nat.le_of_ble_eq_true rfl) dX0_reach_27 rfl ?_
        refine xd_getN 33 0 C (C.d0 (xone_lt hc3)) (T := TX9) (N := 3) rfl in_X9 (by decide) q805 rfl rfl dX0_reach_30 rfl ?_
        refine ga_goto 65 C.c dX0_reach_33 (by decide) ?_
        have hf := Option.some.inj hf
        cases hf
        exact xw_iret C hr hlk hq rfl rfl rfl dX0_reach_65
set_option maxHeartbeats 4000000 in
theorem met_X0_isJoin (l : Launch) (X : XX) (z : MS) (a1 : Int32) : Met l yX0_isJoin (ws_ yX0_isJoin cX0_isJoin 2 (some .boolean)) ({ frames := 3, cells := 0, slots := 0, locals := 81 } : Room) (xw_Pc X z [.ref (xg X 0), .int a1]) (xw_Qc X z (some (.int (fX0_isJoin (xp X) z a1)))) 0 0 (xw_A (xg X)) := by
  obtain ⟨r, hf⟩ : ∃ r, fX0_isJoin (xp X) z a1 = r := ⟨_, rfl⟩
  rw [hf]
  refine xw_of (RX := RX0) (lo := [some (.ref (xg X 0)), some (.int a1)]) (by decide) rfl (Nat.le_of_ble_eq_true rfl) rfl (fun E C hr hlk hq => ?_)
  unfold fX0_isJoin at hf
  refine ga_iload_n 1 C.c 1 rfl rfl dX0_isJoin_0 rfl ?_
  refine ga_i2l 2 C.c dX0_isJoin_1 rfl ?_
  refine ga_lconst 3 C.c (v := 0) (by decide) dX0_isJoin_2 rfl ?_
  refine ga_aload_n 4 C.c 0 rfl rfl dX0_isJoin_3 rfl ?_
  refine xa_get 7 0 1 C rfl (T := TX0) rfl in_X0 (by decide) q554 rfl rfl dX0_isJoin_4 rfl ?_
  refine xd_getN 10 1 C C.rv (T := TX2) (N := 8) rfl in_X2 (by decide) q394 rfl rfl dX0_isJoin_7 rfl ?_
  refine xa_size 15 1 C (by decide) q1018 (Nat.le_of_ble_eq_true rfl) (Nat.le_of_ble_eq_true rfl) (Nat.le_of_ble_eq_true rfl) dX0_isJoin_10 rfl ?_
  refine ga_iconst 16 C.c (v := 1) (by decide) dX0_isJoin_15 rfl ?_
  refine ga_isub 17 C.c dX0_isJoin_16 rfl ?_
  refine ga_i2l 18 C.c dX0_isJoin_17 rfl ?_
  refine xa_callS 21 C (as := [.long a1.toInt64, .long 0, .long (((pw (xp X) 4) - 1 : Int32).toInt64)]) (met_X0_in (eL E) _ _ _) (lw_S q136 q137 q93 q138) cd_X0_in rfl (Nat.le_of_ble_eq_true rfl) (Nat.le_of_ble_eq_true rfl) (Nat.le_of_ble_eq_true rfl) dX0_isJoin_18 rfl ?_
  cases hf
  exact xw_iret C hr hlk hq rfl rfl rfl dX0_isJoin_21
set_option maxHeartbeats 4000000 in
theorem met_X0_joinOf (l : Launch) (X : XX) (z : MS) (a1 : Int32) (hf : fX0_joinOf (xp X) z a1 = some ()) : Met l yX0_joinOf (ws_ yX0_joinOf cX0_joinOf 2 (some (.object "QuotedRiver$Join"))) ({ frames := 3, cells := 0, slots := 0, locals := 81 } : Room) (xw_Pc X z [.ref (xg X 0), .int a1]) (xw_Qc X z (some (.ref ((xG X).1 1 a1.toNatClampNeg)))) 0 0 (xw_A (xg X)) := by
  refine xw_of (RX := RX0) (lo := [some (.ref (xg X 0)), some (.int a1)]) (by decide) rfl (Nat.le_of_ble_eq_true rfl) rfl (fun E C hr hlk hq => ?_)
  unfold fX0_joinOf at hf
  refine ga_aload_n 1 C.c 0 rfl rfl dX0_joinOf_0 rfl ?_
  refine xa_get 4 0 1 C rfl (T := TX0) rfl in_X0 (by decide) q554 rfl rfl dX0_joinOf_1 rfl ?_
  refine xd_getN 7 1 C C.rv (T := TX2) (N := 8) rfl in_X2 (by decide) q394 rfl rfl dX0_joinOf_4 rfl ?_
  refine ga_iload_n 8 C.c 1 rfl rfl dX0_joinOf_7 rfl ?_
  obtain ⟨h1, hf⟩ := pu_g_w hf
  refine xa_lget 13 1 C (by decide) h1 q1025 (Nat.le_of_ble_eq_true rfl) (Nat.le_of_ble_eq_true rfl) (Nat.le_of_ble_eq_true rfl) dX0_joinOf_8 rfl ?_
  refine xd_cast 16 C (C.d1 (vp_in_lt h1)) (T := TX10) rfl q1054 dX0_joinOf_13 rfl ?_
  have hf := Option.some.inj hf
  cases hf
  exact xw_aret C hr hlk hq rfl rfl dX0_joinOf_16
theorem xjoin_lt {p : PS} {z : MS} {r : Int32} (h : fX0_joinOf p z r = some ()) : r.toNatClampNeg < pq p 1 := by
  unfold fX0_joinOf at h
  exact vp_in_lt (pu_g_w h).1
set_option maxHeartbeats 4000000 in
theorem met_X0_join (l : Launch) (X : XX) (z : MS) (a1 : Int32) (a2 : Int32) (r : Int32) (hf : fX0_join (xp X) z a1 a2 = some r) : Met l yX0_join (ws_ yX0_join cX0_join 4 (some .int)) ({ frames := 4, cells := 0, slots := 0, locals := 102 } : Room) (xw_Pc X z [.ref (xg X 0), .int a1, .int a2]) (xw_Qc X z (some (.int r))) 0 0 (xw_A (xg X)) := by
  refine xw_of (RX := RX0) (lo := [some (.ref (xg X 0)), some (.int a1), some (.int a2), none]) (by decide) rfl (Nat.le_of_ble_eq_true rfl) rfl (fun E C hr hlk hq => ?_)
  unfold fX0_join at hf
  refine ga_aload_n 1 C.c 0 rfl rfl dX0_join_0 rfl ?_
  refine ga_iload_n 2 C.c 1 rfl rfl dX0_join_1 rfl ?_
  refine xa_callV 5 0 C (as := [.int a1]) (met_X0_isJoin (eL E) X _ _) rfl (T := TX0) rfl (lw_V q1046 q1048 qs25 q93 q1049) cd_X0_isJoin rfl (Nat.le_of_ble_eq_true rfl) (Nat.le_of_ble_eq_true rfl) (Nat.le_of_ble_eq_true rfl) dX0_join_2 rfl ?_
  refine ga_if_eq 20 8 C.c dX0_join_5 (by decide) rfl (fun c => ?_) (fun c => ?_)
  · have hf := pu_pos c hf
    refine ga_bipush 22 C.c (v := (-2)) (by decide) dX0_join_20 rfl ?_
    have hf := Option.some.inj hf
    cases hf
    exact xw_iret C hr hlk hq rfl rfl rfl dX0_join_22
  · have hf := pu_neg c hf
    refine ga_iload_n 9 C.c 2 rfl rfl dX0_join_8 rfl ?_
    refine ga_i2l 10 C.c dX0_join_9 rfl ?_
    refine ga_lconst 11 C.c (v := 0) (by decide) dX0_join_10 rfl ?_
    refine ga_ldc2 14 C.c C.ow (C.ts _ q135) dX0_join_11 rfl ?_
    refine xa_callS 17 C (as := [.long a2.toInt64, .long 0, .long 3]) (met_X0_in (eL E) _ _ _) (lw_S q136 q137 q93 q138) cd_X0_in rfl (Nat.le_of_ble_eq_true rfl) (Nat.le_of_ble_eq_true rfl) (Nat.le_of_ble_eq_true rfl) dX0_join_14 rfl ?_
    refine ga_if_ne 23 20 C.c dX0_join_17 (by decide) rfl (fun c => ?_) (fun c => ?_)
    · have hf := pu_neg c hf
      refine ga_aload_n 24 C.c 0 rfl rfl dX0_join_23 rfl ?_
      refine ga_iload_n 25 C.c 1 rfl rfl dX0_join_24 rfl ?_
      obtain ⟨hc1, hf⟩ := pu_b0_w hf
      refine xa_callV 28 0 C (as := [.int a1]) (met_X0_joinOf (eL E) X _ _ hc1) rfl (T := TX0) rfl (lw_V q1050 q1052 qs26 q93 q1053) cd_X0_joinOf rfl (Nat.le_of_ble_eq_true rfl) (Nat.le_of_ble_eq_true rfl) (Nat.le_of_ble_eq_true rfl) dX0_join_25 rfl ?_
      refine ga_astore_n 29 C.c 3 rfl (by decide) rfl dX0_join_28 rfl ?_
      refine ga_iload_n 30 C.c 2 rfl rfl dX0_join_29 rfl ?_
      refine ga_if_ne 40 33 C.c dX0_join_30 (by decide) rfl (fun c => ?_) (fun c => ?_)
      · have hf := pu_neg c hf
        refine ga_iload_n 41 C.c 2 rfl rfl dX0_join_40 rfl ?_
        refine ga_iconst 42 C.c (v := 1) (by decide) dX0_join_41 rfl ?_
        refine ga_icmp_ne 52 45 C.c dX0_join_42 (by decide) rfl (fun c => ?_) (fun c => ?_)
        · have hf := pu_neg c hf
          refine ga_iload_n 53 C.c 2 rfl rfl dX0_join_52 rfl ?_
          refine ga_iconst 54 C.c (v := 2) (by decide) dX0_join_53 rfl ?_
          refine ga_icmp_ne 64 57 C.c dX0_join_54 (by decide) rfl (fun c => ?_) (fun c => ?_)
          · have hf := pu_neg c hf
            refine ga_aload_n 65 C.c 3 rfl rfl dX0_join_64 rfl ?_
            refine xd_getN 68 3 C (C.d1 (xjoin_lt hc1)) (T := TX10) (N := 4) rfl in_X10 (by decide) q912 rfl rfl dX0_join_65 rfl ?_
            have hf := Option.some.inj hf
            cases hf
            exact xw_iret C hr hlk hq rfl rfl rfl dX0_join_68
          · have hf := pu_pos c hf
            refine ga_aload_n 58 C.c 3 rfl rfl dX0_join_57 rfl ?_
            refine xd_getN 61 2 C (C.d1 (xjoin_lt hc1)) (T := TX10) (N := 4) rfl in_X10 (by decide) q909 rfl rfl dX0_join_58 rfl ?_
            refine ga_goto 68 C.c dX0_join_61 (by decide) ?_
            have hf := Option.some.inj hf
            cases hf
            exact xw_iret C hr hlk hq rfl rfl rfl dX0_join_68
        · have hf := pu_pos c hf
          refine ga_aload_n 46 C.c 3 rfl rfl dX0_join_45 rfl ?_
          refine xd_getN 49 1 C (C.d1 (xjoin_lt hc1)) (T := TX10) (N := 4) rfl in_X10 (by decide) q906 rfl rfl dX0_join_46 rfl ?_
          refine ga_goto 68 C.c dX0_join_49 (by decide) ?_
          have hf := Option.some.inj hf
          cases hf
          exact xw_iret C hr hlk hq rfl rfl rfl dX0_join_68
      · have hf := pu_pos c hf
        refine ga_aload_n 34 C.c 3 rfl rfl dX0_join_33 rfl ?_
        refine xd_getN 37 0 C (C.d1 (xjoin_lt hc1)) (T := TX10) (N := 4) rfl in_X10 (by decide) q903 rfl rfl dX0_join_34 rfl ?_
        refine ga_goto 68 C.c dX0_join_37 (by decide) ?_
        have hf := Option.some.inj hf
        cases hf
        exact xw_iret C hr hlk hq rfl rfl rfl dX0_join_68
    · have hf := pu_pos c hf
      refine ga_bipush 22 C.c (v := (-2)) (by decide) dX0_join_20 rfl ?_
      have hf := Option.some.inj hf
      cases hf
      exact xw_iret C hr hlk hq rfl rfl rfl dX0_join_22
set_option maxHeartbeats 4000000 in
theorem met_X3_flows (l : Launch) (X : XX) (z : MS) (z9 : MS) (hf : fX3_flows (xp X) z = some z9) : Met l yX3_flows (ws_ yX3_flows cX3_flows 2 (some (.object "QuotedRiver$Water"))) ({ frames := 1, cells := 0, slots := 0, locals := 21 } : Room) (xw_Pc X z [.ref (xg X 2)]) (xw_Qc X z9 (some (.ref (xg X 2)))) 0 0 (xw_A (xg X)) := by
  refine xw_of (RX := RX3) (lo := [some (.ref (xg X 2)), none]) (by decide) rfl (Nat.le_of_ble_eq_true rfl) rfl (fun E C hr hlk hq => ?_)
  unfold fX3_flows at hf
  refine ga_iconst 1 C.c (v := 0) (by decide) dX3_flows_0 rfl ?_
  refine ga_istore_n 2 C.c 1 rfl (by decide) rfl dX3_flows_1 rfl ?_
  obtain ⟨z16, hi8, hf⟩ := pu_b1_w hf
  refine ga_cut 58 (I2 := xw_I E X z16) (k2 := 0) (n2 := 0) (lo2 := [some (.ref (xg X 2)), none]) (st2 := []) ?_ (fun hj7 => ?_)
  · refine ga_aload_n 59 C.c 0 rfl rfl dX3_flows_58 rfl ?_
    have hf := Option.some.inj hf
    cases hf
    exact xw_aret C hr hlk hq rfl rfl dX3_flows_59
  · refine ga_W.sub (pu_it_w (Wd := fun (q : Int32 × MS) => ga_W E 2 (xw_I E X q.2) 0 0 2 [some (.ref (xg X 2)), some (.int q.1)] []) (Wx := fun e => e = (z16)) (fun q x hf kc3 kx4 => ?_) hi8 rfl) (And.intro rfl (And.intro rfl trivial))
    obtain ⟨v1, z2⟩ := q
    try dsimp only
    unfold fX3_flows_L2 at hf
    refine ga_iload_n 3 C.c 1 rfl rfl dX3_flows_2 rfl ?_
    refine ga_bipush 5 C.c (v := 60) (by decide) dX3_flows_3 rfl ?_
    refine ga_icmp_gt 58 8 C.c dX3_flows_5 (by decide) rfl (fun c => ?_) (fun c => ?_)
    · have hf := pu_pos c hf
      cases (kx4 _ (Option.some.inj hf).symm)
      exact ga_W.sub hj7 (And.intro rfl trivial)
    · have hf := pu_neg c hf
      refine ga_aload_n 9 C.c 0 rfl rfl dX3_flows_8 rfl ?_
      refine xa_get 12 2 0 C rfl (T := TX3) rfl in_X3 (by decide) q441 rfl rfl dX3_flows_9 rfl ?_
      refine ga_iload_n 13 C.c 1 rfl rfl dX3_flows_12 rfl ?_
      refine ga_iload_n 14 C.c 1 rfl rfl dX3_flows_13 rfl ?_
      obtain ⟨v9, hg10, hf⟩ := pu_b1_w hf
      refine ga_cut 44 (I2 := xw_I E X z2) (k2 := 0) (n2 := 0) (lo2 := [some (.ref (xg X 2)), some (.int v1)]) (st2 := [.int v9, .int v1, .ref (xg X 3)]) ?_ (fun hj11 => ?_)
      · refine ga_aload_n 45 C.c 0 rfl rfl dX3_flows_44 rfl ?_
        refine xa_get 48 2 1 C rfl (T := TX3) rfl in_X3 (by decide) q443 rfl rfl dX3_flows_45 rfl ?_
        refine ga_iload_n 49 C.c 1 rfl rfl dX3_flows_48 rfl ?_
        obtain ⟨h12, hf⟩ := pu_g_w hf
        refine xa_iald 50 2 4 61 C rfl h12 dX3_flows_49 rfl ?_
        refine ga_iadd 51 C.c dX3_flows_50 rfl ?_
        obtain ⟨h13, hf⟩ := pu_g_w hf
        refine xa_iast 52 1 3 61 C rfl (xa_seta3 _ _) h13 dX3_flows_51 rfl ?_
        refine ga_iinc 55 C.c (v := v1 + 1) rfl rfl (by decide) rfl dX3_flows_52 rfl ?_
        refine ga_goto 2 C.c dX3_flows_55 (by decide) ?_
        exact ga_W.sub (kc3 _ (Option.some.inj hf).symm) (And.intro rfl (And.intro rfl trivial))
      · have hf := hg10
        refine ga_if_ne 30 17 C.c dX3_flows_14 (by decide) rfl (fun c => ?_) (fun c => ?_)
        · have hf := pu_neg c hf
          refine ga_iconst 31 C.c (v := 0) (by decide) dX3_flows_30 rfl ?_
          refine ga_aload_n 32 C.c 0 rfl rfl dX3_flows_31 rfl ?_
          refine xa_get 35 2 0 C rfl (T := TX3) rfl in_X3 (by decide) q441 rfl rfl dX3_flows_32 rfl ?_
          refine ga_iload_n 36 C.c 1 rfl rfl dX3_flows_35 rfl ?_
          refine ga_iconst 37 C.c (v := 1) (by decide) dX3_flows_36 rfl ?_
          refine ga_isub 38 C.c dX3_flows_37 rfl ?_
          obtain ⟨h15, hf⟩ := pu_g_w hf
          refine xa_iald 39 1 3 61 C rfl h15 dX3_flows_38 rfl ?_
          refine ga_iconst 40 C.c (v := 1) (by decide) dX3_flows_39 rfl ?_
          refine ga_isub 41 C.c dX3_flows_40 rfl ?_
          refine ga_mmax 44 C.c C.ml C.ow (C.ts _ q1080) (C.ts _ q850) (C.ts _ q104) (C.ts _ q851) (by rw [C.rm]; exact (Nat.le_of_ble_eq_true rfl)) (by rw [C.rm]; exact (Nat.le_of_ble_eq_true rfl)) (by rw [C.rm]; exact (Nat.le_of_ble_eq_true rfl)) (by rw [C.rm]; exact (Nat.le_of_ble_eq_true rfl)) dX3_flows_41 rfl ?_
          cases hf
          exact ga_W.sub hj11 (And.intro rfl (And.intro rfl trivial))
        · have hf := pu_pos c hf
          refine ga_aload_n 18 C.c 0 rfl rfl dX3_flows_17 rfl ?_
          refine xa_get 21 2 8 C rfl (T := TX3) rfl in_X3 (by decide) q458 rfl rfl dX3_flows_18 rfl ?_
          refine xa_getN 24 0 1 C rfl (T := TX0) rfl in_X0 (by decide) q553 rfl rfl dX3_flows_21 rfl ?_
          refine xd_getN 27 4 C C.rv (T := TX2) (N := 8) rfl in_X2 (by decide) q403 rfl rfl dX3_flows_24 rfl ?_
          refine ga_goto 44 C.c dX3_flows_27 (by decide) ?_
          cases hf
          exact ga_W.sub hj11 (And.intro rfl (And.intro rfl trivial))
set_option maxHeartbeats 4000000 in
theorem met_X3_pours_a (l : Launch) (X : XX) (z : MS) (a1 : Nat) (ha1 : a1 < pq (xp X) 3) (hca1 : 100 ≤ pw (xp X) (68 + a1)) (z9 : MS) (hf : fX3_pours_a (xp X) z a1 = some z9) : Met l yX3_pours (ws_ yX3_pours cX3_pours 2 none) ({ frames := 0, cells := 0, slots := 0, locals := 0 } : Room) (xw_Pc X z [.ref (xg X 2), .ref ((xG X).1 4 a1)]) (xw_Qc X z9 (none)) 0 0 (xw_A (xg X)) := by
  refine xw_of (RX := RX3) (lo := [some (.ref (xg X 2)), some (.ref ((xG X).1 4 a1))]) (by decide) rfl (Nat.le_of_ble_eq_true rfl) rfl (fun E C hr hlk hq => ?_)
  unfold fX3_pours_a at hf
  refine ga_aload_n 1 C.c 0 rfl rfl dX3_pours_0 rfl ?_
  refine xa_get 4 2 1 C rfl (T := TX3) rfl in_X3 (by decide) q443 rfl rfl dX3_pours_1 rfl ?_
  refine ga_aload_n 5 C.c 1 rfl rfl dX3_pours_4 rfl ?_
  refine xd_getN 8 1 C (C.d4 ha1 hca1) (T := TX11) (N := 2) rfl in_X11 (by decide) q939 rfl rfl dX3_pours_5 rfl ?_
  refine ga_dup2 9 C.c rfl rfl dX3_pours_8 rfl ?_
  obtain ⟨h1, hf⟩ := pu_g_w hf
  refine xa_iald 10 2 4 61 C rfl h1 dX3_pours_9 rfl ?_
  refine ga_aload_n 11 C.c 1 rfl rfl dX3_pours_10 rfl ?_
  refine xd_getN 14 0 C (C.d4 ha1 hca1) (T := TX11) (N := 2) rfl in_X11 (by decide) q936 rfl rfl dX3_pours_11 rfl ?_
  refine ga_iadd 15 C.c dX3_pours_14 rfl ?_
  obtain ⟨h2, hf⟩ := pu_g_w hf
  refine xa_iast 16 2 4 61 C rfl (xa_seta4 _ _) h2 dX3_pours_15 rfl ?_
  have hf := Option.some.inj hf
  cases hf
  exact xw_vret C hr hlk hq rfl dX3_pours_16
set_option maxHeartbeats 4000000 in
theorem met_X3_pours_r (l : Launch) (X : XX) (z : MS) (a1 : Nat) (ha1 : a1 < pq (xp X) 2) (z9 : MS) (hf : fX3_pours_r (xp X) z a1 = some z9) : Met l yX3_pours (ws_ yX3_pours cX3_pours 2 none) ({ frames := 0, cells := 0, slots := 0, locals := 0 } : Room) (xw_Pc X z [.ref (xg X 2), .ref ((xG X).1 2 a1)]) (xw_Qc X z9 (none)) 0 0 (xw_A (xg X)) := by
  refine xw_of (RX := RX3) (lo := [some (.ref (xg X 2)), some (.ref ((xG X).1 2 a1))]) (by decide) rfl (Nat.le_of_ble_eq_true rfl) rfl (fun E C hr hlk hq => ?_)
  unfold fX3_pours_r at hf
  refine ga_aload_n 1 C.c 0 rfl rfl dX3_pours_0 rfl ?_
  refine xa_get 4 2 1 C rfl (T := TX3) rfl in_X3 (by decide) q443 rfl rfl dX3_pours_1 rfl ?_
  refine ga_aload_n 5 C.c 1 rfl rfl dX3_pours_4 rfl ?_
  refine xd_getN 8 1 C (C.d2 ha1) (T := TX11) (N := 2) rfl in_X11 (by decide) q939 rfl rfl dX3_pours_5 rfl ?_
  refine ga_dup2 9 C.c rfl rfl dX3_pours_8 rfl ?_
  obtain ⟨h1, hf⟩ := pu_g_w hf
  refine xa_iald 10 2 4 61 C rfl h1 dX3_pours_9 rfl ?_
  refine ga_aload_n 11 C.c 1 rfl rfl dX3_pours_10 rfl ?_
  refine xd_getN 14 0 C (C.d2 ha1) (T := TX11) (N := 2) rfl in_X11 (by decide) q936 rfl rfl dX3_pours_11 rfl ?_
  refine ga_iadd 15 C.c dX3_pours_14 rfl ?_
  obtain ⟨h2, hf⟩ := pu_g_w hf
  refine xa_iast 16 2 4 61 C rfl (xa_seta4 _ _) h2 dX3_pours_15 rfl ?_
  have hf := Option.some.inj hf
  cases hf
  exact xw_vret C hr hlk hq rfl dX3_pours_16
set_option maxHeartbeats 4000000 in
theorem met_X3_is (l : Launch) (X : XX) (z : MS) (z9 : MS) (hf : fX3_is (xp X) z = some z9) : Met l yX3_is (ws_ yX3_is cX3_is 3 (some (.object "QuotedRiver$Water"))) ({ frames := 3, cells := 0, slots := 0, locals := 81 } : Room) (xw_Pc X z [.ref (xg X 2)]) (xw_Qc X z9 (some (.ref (xg X 2)))) 0 0 (xw_A (xg X)) := by
  refine xw_of (RX := RX3) (lo := [some (.ref (xg X 2)), none, none]) (by decide) rfl (Nat.le_of_ble_eq_true rfl) rfl (fun E C hr hlk hq => ?_)
  unfold fX3_is at hf
  refine ga_aload_n 1 C.c 0 rfl rfl dX3_is_0 rfl ?_
  refine xa_get 4 2 1 C rfl (T := TX3) rfl in_X3 (by decide) q443 rfl rfl dX3_is_1 rfl ?_
  refine ga_iconst 5 C.c (v := 0) (by decide) dX3_is_4 rfl ?_
  refine xa_fill 8 2 4 61 C (by decide) rfl rfl q1063 (Nat.le_of_ble_eq_true rfl) (Nat.le_of_ble_eq_true rfl) (Nat.le_of_ble_eq_true rfl) dX3_is_5 rfl ?_
  refine ga_aload_n 9 C.c 0 rfl rfl dX3_is_8 rfl ?_
  refine ga_iconst 10 C.c (v := 0) (by decide) dX3_is_9 rfl ?_
  refine xa_put 13 2 2 C (ty := tyX3) tyX3_ok nmX3 rfl (xa_set5 _) rfl in_X3 (by decide) q445 rfl rfl rfl (Nat.le_of_ble_eq_true rfl) dX3_is_10 rfl ?_
  refine ga_aload_n 14 C.c 0 rfl rfl dX3_is_13 rfl ?_
  refine ga_iconst 15 C.c (v := 0) (by decide) dX3_is_14 rfl ?_
  refine xa_put 18 2 3 C (ty := tyX3) tyX3_ok nmX3 rfl (xa_set6 _) rfl in_X3 (by decide) q447 rfl rfl rfl (Nat.le_of_ble_eq_true rfl) dX3_is_15 rfl ?_
  refine ga_aload_n 19 C.c 0 rfl rfl dX3_is_18 rfl ?_
  refine ga_iconst 20 C.c (v := (-1)) (by decide) dX3_is_19 rfl ?_
  refine xa_put 23 2 4 C (ty := tyX3) tyX3_ok nmX3 rfl (xa_set7 _) rfl in_X3 (by decide) q450 rfl rfl rfl (Nat.le_of_ble_eq_true rfl) dX3_is_20 rfl ?_
  refine ga_aload_n 24 C.c 0 rfl rfl dX3_is_23 rfl ?_
  refine ga_iconst 25 C.c (v := 0) (by decide) dX3_is_24 rfl ?_
  refine xa_put 28 2 7 C (ty := tyX3) tyX3_ok nmX3 rfl (xa_set10 _) rfl in_X3 (by decide) q456 rfl rfl rfl (Nat.le_of_ble_eq_true rfl) dX3_is_25 rfl ?_
  refine ga_iconst 29 C.c (v := 0) (by decide) dX3_is_28 rfl ?_
  refine ga_istore_n 30 C.c 1 rfl (by decide) rfl dX3_is_29 rfl ?_
  obtain ⟨z17, hi13, hf⟩ := pu_b1_w hf
  refine ga_cut 78 (I2 := xw_I E X z17) (k2 := 0) (n2 := 0) (lo2 := [some (.ref (xg X 2)), none, none]) (st2 := []) ?_ (fun hj12 => ?_)
  · refine ga_iconst 79 C.c (v := 0) (by decide) dX3_is_78 rfl ?_
    refine ga_istore_n 80 C.c 1 rfl (by decide) rfl dX3_is_79 rfl ?_
    obtain ⟨z33, hi25, hf⟩ := pu_b1_w hf
    refine ga_cut 182 (I2 := xw_I E X z33) (k2 := 0) (n2 := 0) (lo2 := [some (.ref (xg X 2)), none, none]) (st2 := []) ?_ (fun hj24 => ?_)
    · refine ga_aload_n 183 C.c 0 rfl rfl dX3_is_182 rfl ?_
      obtain ⟨z34, hc35, hf⟩ := pu_b1_w hf
      refine xa_callV 186 2 C (as := []) (met_X3_flows (eL E) X _ _ hc35) rfl (T := TX3) rfl (lw_V q1076 q1077 q1078 q99 q1079) cd_X3_flows rfl (Nat.le_of_ble_eq_true rfl) (Nat.le_of_ble_eq_true rfl) (Nat.le_of_ble_eq_true rfl) dX3_is_183 rfl ?_
      have hf := Option.some.inj hf
      cases hf
      exact xw_aret C hr hlk hq rfl rfl dX3_is_186
    · refine ga_W.sub (pu_it_w (Wd := fun (q : Int32 × MS) => ga_W E 3 (xw_I E X q.2) 0 0 80 [some (.ref (xg X 2)), some (.int q.1), none] []) (Wx := fun e => e = (z33)) (fun q x hf kc20 kx21 => ?_) hi25 rfl) (And.intro rfl (And.intro rfl trivial))
      obtain ⟨v18, z19⟩ := q
      try dsimp only
      unfold fX3_is_L80 at hf
      refine ga_iload_n 81 C.c 1 rfl rfl dX3_is_80 rfl ?_
      refine ga_aload_n 82 C.c 0 rfl rfl dX3_is_81 rfl ?_
      refine xa_get 85 2 8 C rfl (T := TX3) rfl in_X3 (by decide) q458 rfl rfl dX3_is_82 rfl ?_
      refine xa_getN 88 0 1 C rfl (T := TX0) rfl in_X0 (by decide) q553 rfl rfl dX3_is_85 rfl ?_
      refine xd_getN 91 3 C C.rv (T := TX2) (N := 8) rfl in_X2 (by decide) q400 rfl rfl dX3_is_88 rfl ?_
      refine xa_size 96 3 C (by decide) q1067 (Nat.le_of_ble_eq_true rfl) (Nat.le_of_ble_eq_true rfl) (Nat.le_of_ble_eq_true rfl) dX3_is_91 rfl ?_
      refine ga_icmp_ge 182 99 C.c dX3_is_96 (by decide) rfl (fun c => ?_) (fun c => ?_)
      · have hf := pu_pos c hf
        cases (kx21 _ (Option.some.inj hf).symm)
        exact ga_W.sub hj24 (And.intro rfl trivial)
      · have hf := pu_neg c hf
        refine ga_aload_n 100 C.c 0 rfl rfl dX3_is_99 rfl ?_
        refine xa_get 103 2 8 C rfl (T := TX3) rfl in_X3 (by decide) q458 rfl rfl dX3_is_100 rfl ?_
        refine xa_getN 106 0 1 C rfl (T := TX0) rfl in_X0 (by decide) q553 rfl rfl dX3_is_103 rfl ?_
        refine xd_getN 109 3 C C.rv (T := TX2) (N := 8) rfl in_X2 (by decide) q400 rfl rfl dX3_is_106 rfl ?_
        refine ga_iload_n 110 C.c 1 rfl rfl dX3_is_109 rfl ?_
        obtain ⟨h26, hf⟩ := pu_g_w hf
        refine xa_lget 115 3 C (by decide) h26 q1069 (Nat.le_of_ble_eq_true rfl) (Nat.le_of_ble_eq_true rfl) (Nat.le_of_ble_eq_true rfl) dX3_is_110 rfl ?_
        refine xd_castA 118 C (vp_in_lt h26) q1075 dX3_is_115 rfl ?_
        refine ga_astore_n 119 C.c 2 rfl (by decide) rfl dX3_is_118 rfl ?_
        refine ga_aload_n 120 C.c 2 rfl rfl dX3_is_119 rfl ?_
        refine xa_actnull 137 126 C (vp_in_lt h26) q1482 dX3_is_120 rfl dX3_is_123 (by decide) rfl (fun c => ?_) (fun c => ?_)
        · have hf := pu_neg c hf
          have hc27 := c
          refine ga_aload_n 138 C.c 0 rfl rfl dX3_is_137 rfl ?_
          refine ga_aload_n 139 C.c 2 rfl rfl dX3_is_138 rfl ?_
          refine xd_getN 142 1 C ((C.d3 (vp_in_lt h26)).2 hc27) (T := TX12) (N := 3) rfl in_X12 (by decide) q1480 rfl rfl dX3_is_139 rfl ?_
          refine ga_iconst 143 C.c (v := 1) (by decide) dX3_is_142 rfl ?_
          refine ga_icmp_ne 160 146 C.c dX3_is_143 (by decide) rfl (fun c => ?_) (fun c => ?_)
          · have hf := pu_neg c hf
            refine ga_aload_n 161 C.c 0 rfl rfl dX3_is_160 rfl ?_
            refine xa_get 164 2 2 C rfl (T := TX3) rfl in_X3 (by decide) q445 rfl rfl dX3_is_161 rfl ?_
            refine ga_iconst 165 C.c (v := 1) (by decide) dX3_is_164 rfl ?_
            refine ga_aload_n 166 C.c 2 rfl rfl dX3_is_165 rfl ?_
            refine xd_getN 169 0 C ((C.d3 (vp_in_lt h26)).2 hc27) (T := TX12) (N := 3) rfl in_X12 (by decide) q1478 rfl rfl dX3_is_166 rfl ?_
            refine ga_ishl 170 C.c dX3_is_169 rfl ?_
            refine ga_iconst 171 C.c (v := (-1)) (by decide) dX3_is_170 rfl ?_
            refine ga_ixor 172 C.c dX3_is_171 rfl ?_
            refine ga_iand 173 C.c dX3_is_172 rfl ?_
            refine xa_put 176 2 2 C (ty := tyX3) tyX3_ok nmX3 rfl (xa_set5 _) rfl in_X3 (by decide) q445 rfl rfl rfl (Nat.le_of_ble_eq_true rfl) dX3_is_173 rfl ?_
            refine ga_iinc 179 C.c (v := v18 + 1) rfl rfl (by decide) rfl dX3_is_176 rfl ?_
            refine ga_goto 80 C.c dX3_is_179 (by decide) ?_
            exact ga_W.sub (kc20 _ (Option.some.inj hf).symm) (And.intro rfl (And.intro rfl trivial))
          · have hf := pu_pos c hf
            refine ga_aload_n 147 C.c 0 rfl rfl dX3_is_146 rfl ?_
            refine xa_get 150 2 2 C rfl (T := TX3) rfl in_X3 (by decide) q445 rfl rfl dX3_is_147 rfl ?_
            refine ga_iconst 151 C.c (v := 1) (by decide) dX3_is_150 rfl ?_
            refine ga_aload_n 152 C.c 2 rfl rfl dX3_is_151 rfl ?_
            refine xd_getN 155 0 C ((C.d3 (vp_in_lt h26)).2 hc27) (T := TX12) (N := 3) rfl in_X12 (by decide) q1478 rfl rfl dX3_is_152 rfl ?_
            refine ga_ishl 156 C.c dX3_is_155 rfl ?_
            refine ga_ior 157 C.c dX3_is_156 rfl ?_
            refine ga_goto 173 C.c dX3_is_157 (by decide) ?_
            refine xa_put 176 2 2 C (ty := tyX3) tyX3_ok nmX3 rfl (xa_set5 _) rfl in_X3 (by decide) q445 rfl rfl rfl (Nat.le_of_ble_eq_true rfl) dX3_is_173 rfl ?_
            refine ga_iinc 179 C.c (v := v18 + 1) rfl rfl (by decide) rfl dX3_is_176 rfl ?_
            refine ga_goto 80 C.c dX3_is_179 (by decide) ?_
            exact ga_W.sub (kc20 _ (Option.some.inj hf).symm) (And.intro rfl (And.intro rfl trivial))
        · have hf := pu_pos c hf
          have hc28 := c
          refine ga_aload_n 127 C.c 0 rfl rfl dX3_is_126 rfl ?_
          refine ga_aload_n 128 C.c 2 rfl rfl dX3_is_127 rfl ?_
          refine xd_getN 131 2 C ((C.d3 (vp_in_lt h26)).1 hc28).1 (T := TX12) (N := 3) rfl in_X12 (by decide) q1482 rfl rfl dX3_is_128 rfl ?_
          obtain ⟨z31, hc32, hf⟩ := pu_b1_w hf
          refine xa_callV 134 2 C (as := [.ref ((xG X).1 4 v18.toNatClampNeg)]) (met_X3_pours_a (eL E) X _ _ (vp_in_lt h26) hc28 _ hc32) rfl (T := TX3) rfl (lw_V q1071 q1073 qs27 q99 q1074) cd_X3_pours_a rfl (Nat.le_of_ble_eq_true rfl) (Nat.le_of_ble_eq_true rfl) (Nat.le_of_ble_eq_true rfl) dX3_is_131 rfl ?_
          refine ga_goto 176 C.c dX3_is_134 (by decide) ?_
          refine ga_iinc 179 C.c (v := v18 + 1) rfl rfl (by decide) rfl dX3_is_176 rfl ?_
          refine ga_goto 80 C.c dX3_is_179 (by decide) ?_
          exact ga_W.sub (kc20 _ (Option.some.inj hf).symm) (And.intro rfl (And.intro rfl trivial))
  · refine ga_W.sub (pu_it_w (Wd := fun (q : Int32 × MS) => ga_W E 3 (xw_I E X q.2) 0 0 30 [some (.ref (xg X 2)), some (.int q.1), none] []) (Wx := fun e => e = (z17)) (fun q x hf kc8 kx9 => ?_) hi13 rfl) (And.intro rfl (And.intro rfl trivial))
    obtain ⟨v6, z7⟩ := q
    try dsimp only
    unfold fX3_is_L30 at hf
    refine ga_iload_n 31 C.c 1 rfl rfl dX3_is_30 rfl ?_
    refine ga_aload_n 32 C.c 0 rfl rfl dX3_is_31 rfl ?_
    refine xa_get 35 2 8 C rfl (T := TX3) rfl in_X3 (by decide) q458 rfl rfl dX3_is_32 rfl ?_
    refine xa_getN 38 0 1 C rfl (T := TX0) rfl in_X0 (by decide) q553 rfl rfl dX3_is_35 rfl ?_
    refine xd_getN 41 2 C C.rv (T := TX2) (N := 8) rfl in_X2 (by decide) q396 rfl rfl dX3_is_38 rfl ?_
    refine xa_size 46 2 C (by decide) q1067 (Nat.le_of_ble_eq_true rfl) (Nat.le_of_ble_eq_true rfl) (Nat.le_of_ble_eq_true rfl) dX3_is_41 rfl ?_
    refine ga_icmp_ge 78 49 C.c dX3_is_46 (by decide) rfl (fun c => ?_) (fun c => ?_)
    · have hf := pu_pos c hf
      cases (kx9 _ (Option.some.inj hf).symm)
      exact ga_W.sub hj12 (And.intro rfl trivial)
    · have hf := pu_neg c hf
      refine ga_aload_n 50 C.c 0 rfl rfl dX3_is_49 rfl ?_
      refine ga_aload_n 51 C.c 0 rfl rfl dX3_is_50 rfl ?_
      refine xa_get 54 2 8 C rfl (T := TX3) rfl in_X3 (by decide) q458 rfl rfl dX3_is_51 rfl ?_
      refine xa_getN 57 0 1 C rfl (T := TX0) rfl in_X0 (by decide) q553 rfl rfl dX3_is_54 rfl ?_
      refine xd_getN 60 2 C C.rv (T := TX2) (N := 8) rfl in_X2 (by decide) q396 rfl rfl dX3_is_57 rfl ?_
      refine ga_iload_n 61 C.c 1 rfl rfl dX3_is_60 rfl ?_
      obtain ⟨h14, hf⟩ := pu_g_w hf
      refine xa_lget 66 2 C (by decide) h14 q1069 (Nat.le_of_ble_eq_true rfl) (Nat.le_of_ble_eq_true rfl) (Nat.le_of_ble_eq_true rfl) dX3_is_61 rfl ?_
      refine xd_cast 69 C (C.d2 (vp_in_lt h14)) (T := TX11) rfl q1070 dX3_is_66 rfl ?_
      obtain ⟨z15, hc16, hf⟩ := pu_b1_w hf
      refine xa_callV 72 2 C (as := [.ref ((xG X).1 2 v6.toNatClampNeg)]) (met_X3_pours_r (eL E) X _ _ (vp_in_lt h14) _ hc16) rfl (T := TX3) rfl (lw_V q1071 q1073 qs27 q99 q1074) cd_X3_pours_r rfl (Nat.le_of_ble_eq_true rfl) (Nat.le_of_ble_eq_true rfl) (Nat.le_of_ble_eq_true rfl) dX3_is_69 rfl ?_
      refine ga_iinc 75 C.c (v := v6 + 1) rfl rfl (by decide) rfl dX3_is_72 rfl ?_
      refine ga_goto 30 C.c dX3_is_75 (by decide) ?_
      exact ga_W.sub (kc8 _ (Option.some.inj hf).symm) (And.intro rfl (And.intro rfl trivial))
set_option maxHeartbeats 4000000 in
theorem met_X3_isStanding (l : Launch) (X : XX) (z : MS) (a1 : Int32) (a2 : Int32) (r : Int32) (hf : fX3_isStanding (xp X) z a1 a2 = some r) : Met l yX3_isStanding (ws_ yX3_isStanding cX3_isStanding 3 (some .boolean)) ({ frames := 4, cells := 0, slots := 0, locals := 102 } : Room) (xw_Pc X z [.ref (xg X 2), .int a1, .int a2]) (xw_Qc X z (some (.int r))) 0 0 (xw_A (xg X)) := by
  refine xw_of (RX := RX3) (lo := [some (.ref (xg X 2)), some (.int a1), some (.int a2)]) (by decide) rfl (Nat.le_of_ble_eq_true rfl) rfl (fun E C hr hlk hq => ?_)
  unfold fX3_isStanding at hf
  refine ga_aload_n 1 C.c 0 rfl rfl dX3_isStanding_0 rfl ?_
  refine xa_get 4 2 0 C rfl (T := TX3) rfl in_X3 (by decide) q441 rfl rfl dX3_isStanding_1 rfl ?_
  refine ga_iload_n 5 C.c 2 rfl rfl dX3_isStanding_4 rfl ?_
  obtain ⟨h1, hf⟩ := pu_g_w hf
  refine xa_iald 6 1 3 61 C rfl h1 dX3_isStanding_5 rfl ?_
  refine ga_aload_n 7 C.c 0 rfl rfl dX3_isStanding_6 rfl ?_
  refine xa_get 10 2 8 C rfl (T := TX3) rfl in_X3 (by decide) q458 rfl rfl dX3_isStanding_7 rfl ?_
  refine ga_iload_n 11 C.c 1 rfl rfl dX3_isStanding_10 rfl ?_
  obtain ⟨hc2, hf⟩ := pu_b0_w hf
  refine xa_callVN 14 0 C (as := [.int a1]) (met_X0_one (eL E) X _ _ hc2) rfl (T := TX0) rfl q1085 q1022 qs24 q93 q1023 cd_X0_one rfl (Nat.le_of_ble_eq_true rfl) (Nat.le_of_ble_eq_true rfl) (Nat.le_of_ble_eq_true rfl) dX3_isStanding_11 rfl ?_
  refine xd_getN 17 2 C (C.d0 (xone_lt hc2)) (T := TX9) (N := 3) rfl in_X9 (by decide) q811 rfl rfl dX3_isStanding_14 rfl ?_
  refine ga_icmp_ge 24 20 C.c dX3_isStanding_17 (by decide) rfl (fun c => ?_) (fun c => ?_)
  · have hf := pu_pos c hf
    refine ga_iconst 25 C.c (v := 0) (by decide) dX3_isStanding_24 rfl ?_
    have hf := Option.some.inj hf
    cases hf
    exact xw_iret C hr hlk hq rfl rfl rfl dX3_isStanding_25
  · have hf := pu_neg c hf
    refine ga_iconst 21 C.c (v := 1) (by decide) dX3_isStanding_20 rfl ?_
    refine ga_goto 25 C.c dX3_isStanding_21 (by decide) ?_
    have hf := Option.some.inj hf
    cases hf
    exact xw_iret C hr hlk hq rfl rfl rfl dX3_isStanding_25
set_option maxHeartbeats 4000000 in
theorem met_X0_idle (l : Launch) (X : XX) (z : MS) (a1 : Int32) (r : Int32) (z9 : MS) (hf : fX0_idle (xp X) z a1 = some (r, z9)) : Met l yX0_idle (ws_ yX0_idle cX0_idle 4 (some .int)) ({ frames := 5, cells := 0, slots := 0, locals := 124 } : Room) (xw_Pc X z [.ref (xg X 0), .int a1]) (xw_Qc X z9 (some (.int r))) 0 0 (xw_A (xg X)) := by
  refine xw_of (RX := RX0) (lo := [some (.ref (xg X 0)), some (.int a1), none, none]) (by decide) rfl (Nat.le_of_ble_eq_true rfl) rfl (fun E C hr hlk hq => ?_)
  unfold fX0_idle at hf
  refine ga_aload_n 1 C.c 0 rfl rfl dX0_idle_0 rfl ?_
  refine ga_iload_n 2 C.c 1 rfl rfl dX0_idle_1 rfl ?_
  refine ga_i2l 3 C.c dX0_idle_2 rfl ?_
  refine xa_callV 6 0 C (as := [.long a1.toInt64]) (met_X0_isReach (eL E) X _ _) rfl (T := TX0) rfl (lw_V q1009 q1011 qs22 q93 q1012) cd_X0_isReach rfl (Nat.le_of_ble_eq_true rfl) (Nat.le_of_ble_eq_true rfl) (Nat.le_of_ble_eq_true rfl) dX0_idle_3 rfl ?_
  refine ga_if_ne 12 9 C.c dX0_idle_6 (by decide) rfl (fun c => ?_) (fun c => ?_)
  · have hf := pu_neg c hf
    refine ga_aload_n 13 C.c 0 rfl rfl dX0_idle_12 rfl ?_
    refine xa_get 16 0 7 C rfl (T := TX0) rfl in_X0 (by decide) q562 rfl rfl dX0_idle_13 rfl ?_
    obtain ⟨z1, hc2, hf⟩ := pu_b1_w hf
    refine xa_callV 19 2 C (as := []) (met_X3_is (eL E) X _ _ hc2) rfl (T := TX3) rfl (lw_V q1059 q1060 q1061 q99 q1062) cd_X3_is rfl (Nat.le_of_ble_eq_true rfl) (Nat.le_of_ble_eq_true rfl) (Nat.le_of_ble_eq_true rfl) dX0_idle_16 rfl ?_
    refine ga_pop 20 C.c rfl dX0_idle_19 rfl ?_
    refine ga_iconst 21 C.c (v := 0) (by decide) dX0_idle_20 rfl ?_
    refine ga_istore_n 22 C.c 2 rfl (by decide) rfl dX0_idle_21 rfl ?_
    refine ga_iconst 23 C.c (v := 0) (by decide) dX0_idle_22 rfl ?_
    refine ga_istore_n 24 C.c 3 rfl (by decide) rfl dX0_idle_23 rfl ?_
    obtain ⟨v17, hi12, hf⟩ := pu_b1_w hf
    refine ga_cut 56 (I2 := xw_I E X z1) (k2 := 0) (n2 := 0) (lo2 := [none, none, some (.int v17), none]) (st2 := []) ?_ (fun hj11 => ?_)
    · refine ga_iload_n 57 C.c 2 rfl rfl dX0_idle_56 rfl ?_
      have hf := Option.some.inj hf
      cases hf
      exact xw_iret C hr hlk hq rfl rfl rfl dX0_idle_57
    · refine ga_W.sub (pu_it_w (Wd := fun (q : Int32 × Int32) => ga_W E 4 (xw_I E X z1) 0 0 24 [some (.ref (xg X 0)), some (.int a1), some (.int q.1), some (.int q.2)] []) (Wx := fun e => e = (v17)) (fun q x hf kc7 kx8 => ?_) hi12 rfl) (And.intro rfl (And.intro rfl (And.intro rfl (And.intro rfl trivial))))
      obtain ⟨v5, v6⟩ := q
      try dsimp only
      unfold fX0_idle_L24 at hf
      refine ga_iload_n 25 C.c 3 rfl rfl dX0_idle_24 rfl ?_
      refine ga_bipush 27 C.c (v := 60) (by decide) dX0_idle_25 rfl ?_
      refine ga_icmp_gt 56 30 C.c dX0_idle_27 (by decide) rfl (fun c => ?_) (fun c => ?_)
      · have hf := pu_pos c hf
        cases (kx8 _ (Option.some.inj hf).symm)
        exact ga_W.sub hj11 (And.intro rfl trivial)
      · have hf := pu_neg c hf
        refine ga_iload_n 31 C.c 2 rfl rfl dX0_idle_30 rfl ?_
        refine ga_aload_n 32 C.c 0 rfl rfl dX0_idle_31 rfl ?_
        refine xa_get 35 0 7 C rfl (T := TX0) rfl in_X0 (by decide) q562 rfl rfl dX0_idle_32 rfl ?_
        refine ga_iload_n 36 C.c 1 rfl rfl dX0_idle_35 rfl ?_
        refine ga_iload_n 37 C.c 3 rfl rfl dX0_idle_36 rfl ?_
        obtain ⟨v13, hc14, hf⟩ := pu_b1_w hf
        refine xa_callV 40 2 C (as := [.int a1, .int v6]) (met_X3_isStanding (eL E) X _ _ _ _ hc14) rfl (T := TX3) rfl (lw_V q1081 q1082 q1083 q99 q1084) cd_X3_isStanding rfl (Nat.le_of_ble_eq_true rfl) (Nat.le_of_ble_eq_true rfl) (Nat.le_of_ble_eq_true rfl) dX0_idle_37 rfl ?_
        refine ga_if_eq 47 43 C.c dX0_idle_40 (by decide) rfl (fun c => ?_) (fun c => ?_)
        · have hf := pu_pos c hf
          refine ga_iconst 48 C.c (v := 0) (by decide) dX0_idle_47 rfl ?_
          refine ga_iadd 49 C.c dX0_idle_48 rfl ?_
          refine ga_istore_n 50 C.c 2 rfl (by decide) rfl dX0_idle_49 rfl ?_
          obtain ⟨_, rfl, hf⟩ := pu_l1_w hf
          refine ga_iinc 53 C.c (v := v6 + 1) rfl rfl (by decide) rfl dX0_idle_50 rfl ?_
          refine ga_goto 24 C.c dX0_idle_53 (by decide) ?_
          exact ga_W.sub (kc7 _ (Option.some.inj hf).symm) (And.intro rfl (And.intro rfl (And.intro rfl (And.intro rfl trivial))))
        · have hf := pu_neg c hf
          refine ga_iconst 44 C.c (v := 1) (by decide) dX0_idle_43 rfl ?_
          refine ga_goto 48 C.c dX0_idle_44 (by decide) ?_
          refine ga_iadd 49 C.c dX0_idle_48 rfl ?_
          refine ga_istore_n 50 C.c 2 rfl (by decide) rfl dX0_idle_49 rfl ?_
          obtain ⟨_, rfl, hf⟩ := pu_l1_w hf
          refine ga_iinc 53 C.c (v := v6 + 1) rfl rfl (by decide) rfl dX0_idle_50 rfl ?_
          refine ga_goto 24 C.c dX0_idle_53 (by decide) ?_
          exact ga_W.sub (kc7 _ (Option.some.inj hf).symm) (And.intro rfl (And.intro rfl (And.intro rfl (And.intro rfl trivial))))
  · have hf := pu_pos c hf
    refine ga_bipush 11 C.c (v := (-2)) (by decide) dX0_idle_9 rfl ?_
    have hf := Option.some.inj hf
    cases hf
    exact xw_iret C hr hlk hq rfl rfl rfl dX0_idle_11
set_option maxHeartbeats 4000000 in
theorem met_X0_areReaches (l : Launch) (X : XX) (z : MS) (a1 : Int32) (a2 : Int32) : Met l yX0_areReaches (ws_ yX0_areReaches cX0_areReaches 3 (some .boolean)) ({ frames := 5, cells := 0, slots := 0, locals := 123 } : Room) (xw_Pc X z [.ref (xg X 0), .int a1, .int a2]) (xw_Qc X z (some (.int (fX0_areReaches (xp X) z a1 a2)))) 0 0 (xw_A (xg X)) := by
  obtain ⟨r, hf⟩ : ∃ r, fX0_areReaches (xp X) z a1 a2 = r := ⟨_, rfl⟩
  rw [hf]
  refine xw_of (RX := RX0) (lo := [some (.ref (xg X 0)), some (.int a1), some (.int a2)]) (by decide) rfl (Nat.le_of_ble_eq_true rfl) rfl (fun E C hr hlk hq => ?_)
  unfold fX0_areReaches at hf
  refine ga_aload_n 1 C.c 0 rfl rfl dX0_areReaches_0 rfl ?_
  refine ga_iload_n 2 C.c 1 rfl rfl dX0_areReaches_1 rfl ?_
  refine ga_i2l 3 C.c dX0_areReaches_2 rfl ?_
  refine xa_callV 6 0 C (as := [.long a1.toInt64]) (met_X0_isReach (eL E) X _ _) rfl (T := TX0) rfl (lw_V q1009 q1011 qs22 q93 q1012) cd_X0_isReach rfl (Nat.le_of_ble_eq_true rfl) (Nat.le_of_ble_eq_true rfl) (Nat.le_of_ble_eq_true rfl) dX0_areReaches_3 rfl ?_
  refine ga_if_eq 22 9 C.c dX0_areReaches_6 (by decide) rfl (fun c => ?_) (fun c => ?_)
  · have hf := pu_pos c hf
    refine ga_iconst 23 C.c (v := 0) (by decide) dX0_areReaches_22 rfl ?_
    cases hf
    exact xw_iret C hr hlk hq rfl rfl rfl dX0_areReaches_23
  · have hf := pu_neg c hf
    refine ga_aload_n 10 C.c 0 rfl rfl dX0_areReaches_9 rfl ?_
    refine ga_iload_n 11 C.c 2 rfl rfl dX0_areReaches_10 rfl ?_
    refine ga_i2l 12 C.c dX0_areReaches_11 rfl ?_
    refine xa_callV 15 0 C (as := [.long a2.toInt64]) (met_X0_isReach (eL E) X _ _) rfl (T := TX0) rfl (lw_V q1009 q1011 qs22 q93 q1012) cd_X0_isReach rfl (Nat.le_of_ble_eq_true rfl) (Nat.le_of_ble_eq_true rfl) (Nat.le_of_ble_eq_true rfl) dX0_areReaches_12 rfl ?_
    refine ga_if_eq 22 18 C.c dX0_areReaches_15 (by decide) rfl (fun c => ?_) (fun c => ?_)
    · have hf := pu_pos c hf
      refine ga_iconst 23 C.c (v := 0) (by decide) dX0_areReaches_22 rfl ?_
      cases hf
      exact xw_iret C hr hlk hq rfl rfl rfl dX0_areReaches_23
    · have hf := pu_neg c hf
      refine ga_iconst 19 C.c (v := 1) (by decide) dX0_areReaches_18 rfl ?_
      refine ga_goto 23 C.c dX0_areReaches_19 (by decide) ?_
      cases hf
      exact xw_iret C hr hlk hq rfl rfl rfl dX0_areReaches_23
set_option maxHeartbeats 4000000 in
theorem met_X0_isOn (l : Launch) (a1 : Int32) (a2 : Int32) : Met l yX0_isOn (ws_ yX0_isOn cX0_isOn 2 (some .boolean)) ({ frames := 0, cells := 0, slots := 0, locals := 0 } : Room) (ps_Pc [.int a1, .int a2]) (ps_Qc (some (.int (fX0_isOn a1 a2)))) 0 0 (fun _ => False) := by
  obtain ⟨r, hf⟩ : ∃ r, fX0_isOn a1 a2 = r := ⟨_, rfl⟩
  rw [hf]
  refine ps_of (RX := RX0) (lo := [some (.int a1), some (.int a2)]) (by decide) rfl (Nat.le_of_ble_eq_true rfl) rfl (fun E C hr hlk hq => ?_)
  unfold fX0_isOn at hf
  refine ga_iload_n 1 C.c 0 rfl rfl dX0_isOn_0 rfl ?_
  refine ga_iload_n 2 C.c 1 rfl rfl dX0_isOn_1 rfl ?_
  refine ga_ishr 3 C.c dX0_isOn_2 rfl ?_
  refine ga_iconst 4 C.c (v := 1) (by decide) dX0_isOn_3 rfl ?_
  refine ga_iand 5 C.c dX0_isOn_4 rfl ?_
  refine ga_iconst 6 C.c (v := 1) (by decide) dX0_isOn_5 rfl ?_
  refine ga_icmp_ne 13 9 C.c dX0_isOn_6 (by decide) rfl (fun c => ?_) (fun c => ?_)
  · have hf := pu_neg c hf
    refine ga_iconst 14 C.c (v := 0) (by decide) dX0_isOn_13 rfl ?_
    cases hf
    exact ps_iret C hr hlk hq rfl rfl dX0_isOn_14
  · have hf := pu_pos c hf
    refine ga_iconst 10 C.c (v := 1) (by decide) dX0_isOn_9 rfl ?_
    refine ga_goto 14 C.c dX0_isOn_10 (by decide) ?_
    cases hf
    exact ps_iret C hr hlk hq rfl rfl dX0_isOn_14
set_option maxHeartbeats 4000000 in
theorem met_X3_joinFrom (l : Launch) (X : XX) (z : MS) (a1 : Int32) (a2 : Int32) (r : Int32) (hf : fX3_joinFrom (xp X) z a1 a2 = some r) : Met l yX3_joinFrom (ws_ yX3_joinFrom cX3_joinFrom 5 (some .int)) ({ frames := 4, cells := 0, slots := 0, locals := 102 } : Room) (xw_Pc X z [.ref (xg X 2), .int a1, .int a2]) (xw_Qc X z (some (.int r))) 0 0 (xw_A (xg X)) := by
  refine xw_of (RX := RX3) (lo := [some (.ref (xg X 2)), some (.int a1), some (.int a2), none, none]) (by decide) rfl (Nat.le_of_ble_eq_true rfl) rfl (fun E C hr hlk hq => ?_)
  unfold fX3_joinFrom at hf
  refine ga_iconst 1 C.c (v := 0) (by decide) dX3_joinFrom_0 rfl ?_
  refine ga_istore_n 2 C.c 3 rfl (by decide) rfl dX3_joinFrom_1 rfl ?_
  obtain ⟨y21, hi10, hr7, hs8⟩ := pu_s_w hf
  refine ga_cutP (P := y21 = .inl () → ga_W E 5 (xw_I E X z) 0 0 119 [none, none, none, none, none] []) (fun hy => ?_) (fun hj9 => ?_)
  · have hf := hr7 _ hy
    refine ga_iconst 120 C.c (v := (-1)) (by decide) dX3_joinFrom_119 rfl ?_
    have hf := Option.some.inj hf
    cases hf
    exact xw_iret C hr hlk hq rfl rfl rfl dX3_joinFrom_120
  · refine ga_W.sub (pu_it_w (Wd := fun (q : Int32) => ga_W E 5 (xw_I E X z) 0 0 2 [some (.ref (xg X 2)), some (.int a1), some (.int a2), some (.int q), none] []) (Wx := fun e => e = y21) (fun v4 x hf kc5 kx6 => ?_) hi10 rfl) (And.intro rfl (And.intro rfl (And.intro rfl (And.intro rfl trivial))))
    try dsimp only
    unfold fX3_joinFrom_L2 at hf
    refine ga_iload_n 3 C.c 3 rfl rfl dX3_joinFrom_2 rfl ?_
    refine ga_aload_n 4 C.c 0 rfl rfl dX3_joinFrom_3 rfl ?_
    refine xa_get 7 2 8 C rfl (T := TX3) rfl in_X3 (by decide) q458 rfl rfl dX3_joinFrom_4 rfl ?_
    refine xa_getN 10 0 1 C rfl (T := TX0) rfl in_X0 (by decide) q553 rfl rfl dX3_joinFrom_7 rfl ?_
    refine xd_getN 13 1 C C.rv (T := TX2) (N := 8) rfl in_X2 (by decide) q392 rfl rfl dX3_joinFrom_10 rfl ?_
    refine xa_size 18 1 C (by decide) q1067 (Nat.le_of_ble_eq_true rfl) (Nat.le_of_ble_eq_true rfl) (Nat.le_of_ble_eq_true rfl) dX3_joinFrom_13 rfl ?_
    refine ga_icmp_ge 119 21 C.c dX3_joinFrom_18 (by decide) rfl (fun c => ?_) (fun c => ?_)
    · have hf := pu_pos c hf
      exact ga_W.sub (hj9 (kx6 _ (Option.some.inj hf).symm).symm) trivial
    · have hf := pu_neg c hf
      refine ga_aload_n 22 C.c 0 rfl rfl dX3_joinFrom_21 rfl ?_
      refine xa_get 25 2 2 C rfl (T := TX3) rfl in_X3 (by decide) q445 rfl rfl dX3_joinFrom_22 rfl ?_
      refine ga_iload_n 26 C.c 3 rfl rfl dX3_joinFrom_25 rfl ?_
      refine xa_callSN 29 C (as := [.int (mi z 5), .int v4]) (met_X0_isOn (eL E) _ _) q1116 q1104 q93 q1105 cd_X0_isOn rfl (Nat.le_of_ble_eq_true rfl) (Nat.le_of_ble_eq_true rfl) (Nat.le_of_ble_eq_true rfl) dX3_joinFrom_26 rfl ?_
      refine ga_if_ne 113 32 C.c dX3_joinFrom_29 (by decide) rfl (fun c => ?_) (fun c => ?_)
      · have hf := pu_neg c hf
        refine ga_iinc 116 C.c (v := v4 + 1) rfl rfl (by decide) rfl dX3_joinFrom_113 rfl ?_
        refine ga_goto 2 C.c dX3_joinFrom_116 (by decide) ?_
        exact ga_W.sub (kc5 _ (Option.some.inj hf).symm) (And.intro rfl (And.intro rfl (And.intro rfl (And.intro rfl trivial))))
      · have hf := pu_pos c hf
        refine ga_aload_n 33 C.c 0 rfl rfl dX3_joinFrom_32 rfl ?_
        refine xa_get 36 2 8 C rfl (T := TX3) rfl in_X3 (by decide) q458 rfl rfl dX3_joinFrom_33 rfl ?_
        refine ga_iload_n 37 C.c 3 rfl rfl dX3_joinFrom_36 rfl ?_
        obtain ⟨hc11, hf⟩ := pu_b0_w hf
        refine xa_callVN 40 0 C (as := [.int v4]) (met_X0_joinOf (eL E) X _ _ hc11) rfl (T := TX0) rfl q1117 q1052 qs26 q93 q1053 cd_X0_joinOf rfl (Nat.le_of_ble_eq_true rfl) (Nat.le_of_ble_eq_true rfl) (Nat.le_of_ble_eq_true rfl) dX3_joinFrom_37 rfl ?_
        refine xd_getN 43 0 C (C.d1 (xjoin_lt hc11)) (T := TX10) (N := 4) rfl in_X10 (by decide) q901 rfl rfl dX3_joinFrom_40 rfl ?_
        refine ga_iload_n 44 C.c 1 rfl rfl dX3_joinFrom_43 rfl ?_
        refine ga_icmp_eq 50 47 C.c dX3_joinFrom_44 (by decide) rfl (fun c => ?_) (fun c => ?_)
        · have hf := pu_pos c hf
          refine ga_iload_n 51 C.c 3 rfl rfl dX3_joinFrom_50 rfl ?_
          refine ga_aload_n 52 C.c 0 rfl rfl dX3_joinFrom_51 rfl ?_
          refine xa_get 55 2 4 C rfl (T := TX3) rfl in_X3 (by decide) q450 rfl rfl dX3_joinFrom_52 rfl ?_
          obtain ⟨v12, hg13, hf⟩ := pu_b1_w hf
          refine ga_cut 76 (I2 := xw_I E X z) (k2 := 0) (n2 := 0) (lo2 := [some (.ref (xg X 2)), some (.int a1), some (.int a2), some (.int v4), none]) (st2 := [.int v12]) ?_ (fun hj14 => ?_)
          · refine ga_istore 78 C.c 4 (by decide) rfl dX3_joinFrom_76 rfl ?_
            refine ga_iload_n 79 C.c 2 rfl rfl dX3_joinFrom_78 rfl ?_
            refine ga_iload 81 C.c rfl dX3_joinFrom_79 rfl ?_
            obtain ⟨h15, hf⟩ := pu_z_w hf
            refine ga_irem 82 C.c h15 dX3_joinFrom_81 rfl ?_
            refine ga_iload_n 83 C.c 3 rfl rfl dX3_joinFrom_82 rfl ?_
            refine ga_aload_n 84 C.c 0 rfl rfl dX3_joinFrom_83 rfl ?_
            refine xa_get 87 2 4 C rfl (T := TX3) rfl in_X3 (by decide) q450 rfl rfl dX3_joinFrom_84 rfl ?_
            obtain ⟨v16, hg17, hf⟩ := pu_b1_w hf
            refine ga_cut 108 (I2 := xw_I E X z) (k2 := 0) (n2 := 0) (lo2 := [some (.ref (xg X 2)), some (.int a1), some (.int a2), some (.int v4), none]) (st2 := [.int v16, .int (a2 - a2 / v12 * v12)]) ?_ (fun hj18 => ?_)
            · refine ga_icmp_ne 113 111 C.c dX3_joinFrom_108 (by decide) rfl (fun c => ?_) (fun c => ?_)
              · have hf := pu_neg c hf
                refine ga_iinc 116 C.c (v := v4 + 1) rfl rfl (by decide) rfl dX3_joinFrom_113 rfl ?_
                refine ga_goto 2 C.c dX3_joinFrom_116 (by decide) ?_
                exact ga_W.sub (kc5 _ (Option.some.inj hf).symm) (And.intro rfl (And.intro rfl (And.intro rfl (And.intro rfl trivial))))
              · have hf := pu_pos c hf
                refine ga_iload_n 112 C.c 3 rfl rfl dX3_joinFrom_111 rfl ?_
                have hf := Option.some.inj hf
                have hf := hs8 _ (kx6 _ hf.symm).symm
                cases hf
                exact xw_iret C hr hlk hq rfl rfl rfl dX3_joinFrom_112
            · have hf := hg17
              refine ga_icmp_ne 97 90 C.c dX3_joinFrom_87 (by decide) rfl (fun c => ?_) (fun c => ?_)
              · have hf := pu_neg c hf
                refine ga_aload_n 98 C.c 0 rfl rfl dX3_joinFrom_97 rfl ?_
                refine xa_get 101 2 8 C rfl (T := TX3) rfl in_X3 (by decide) q458 rfl rfl dX3_joinFrom_98 rfl ?_
                refine ga_iload_n 102 C.c 3 rfl rfl dX3_joinFrom_101 rfl ?_
                obtain ⟨hc19, hf⟩ := pu_b0_w hf
                refine xa_callVN 105 0 C (as := [.int v4]) (met_X0_joinOf (eL E) X _ _ hc19) rfl (T := TX0) rfl q1117 q1052 qs26 q93 q1053 cd_X0_joinOf rfl (Nat.le_of_ble_eq_true rfl) (Nat.le_of_ble_eq_true rfl) (Nat.le_of_ble_eq_true rfl) dX3_joinFrom_102 rfl ?_
                refine xd_getN 108 3 C (C.d1 (xjoin_lt hc19)) (T := TX10) (N := 4) rfl in_X10 (by decide) q910 rfl rfl dX3_joinFrom_105 rfl ?_
                cases hf
                exact ga_W.sub hj18 (And.intro rfl (And.intro rfl (And.intro rfl (And.intro rfl trivial))))
              · have hf := pu_pos c hf
                refine ga_aload_n 91 C.c 0 rfl rfl dX3_joinFrom_90 rfl ?_
                refine xa_get 94 2 6 C rfl (T := TX3) rfl in_X3 (by decide) q454 rfl rfl dX3_joinFrom_91 rfl ?_
                refine ga_goto 108 C.c dX3_joinFrom_94 (by decide) ?_
                cases hf
                exact ga_W.sub hj18 (And.intro rfl (And.intro rfl (And.intro rfl (And.intro rfl trivial))))
          · have hf := hg13
            refine ga_icmp_ne 65 58 C.c dX3_joinFrom_55 (by decide) rfl (fun c => ?_) (fun c => ?_)
            · have hf := pu_neg c hf
              refine ga_aload_n 66 C.c 0 rfl rfl dX3_joinFrom_65 rfl ?_
              refine xa_get 69 2 8 C rfl (T := TX3) rfl in_X3 (by decide) q458 rfl rfl dX3_joinFrom_66 rfl ?_
              refine ga_iload_n 70 C.c 3 rfl rfl dX3_joinFrom_69 rfl ?_
              obtain ⟨hc20, hf⟩ := pu_b0_w hf
              refine xa_callVN 73 0 C (as := [.int v4]) (met_X0_joinOf (eL E) X _ _ hc20) rfl (T := TX0) rfl q1117 q1052 qs26 q93 q1053 cd_X0_joinOf rfl (Nat.le_of_ble_eq_true rfl) (Nat.le_of_ble_eq_true rfl) (Nat.le_of_ble_eq_true rfl) dX3_joinFrom_70 rfl ?_
              refine xd_getN 76 2 C (C.d1 (xjoin_lt hc20)) (T := TX10) (N := 4) rfl in_X10 (by decide) q907 rfl rfl dX3_joinFrom_73 rfl ?_
              cases hf
              exact ga_W.sub hj14 (And.intro rfl (And.intro rfl (And.intro rfl (And.intro rfl trivial))))
            · have hf := pu_pos c hf
              refine ga_aload_n 59 C.c 0 rfl rfl dX3_joinFrom_58 rfl ?_
              refine xa_get 62 2 5 C rfl (T := TX3) rfl in_X3 (by decide) q452 rfl rfl dX3_joinFrom_59 rfl ?_
              refine ga_goto 76 C.c dX3_joinFrom_62 (by decide) ?_
              cases hf
              exact ga_W.sub hj14 (And.intro rfl (And.intro rfl (And.intro rfl (And.intro rfl trivial))))
        · have hf := pu_neg c hf
          refine ga_goto 113 C.c dX3_joinFrom_47 (by decide) ?_
          refine ga_iinc 116 C.c (v := v4 + 1) rfl rfl (by decide) rfl dX3_joinFrom_113 rfl ?_
          refine ga_goto 2 C.c dX3_joinFrom_116 (by decide) ?_
          exact ga_W.sub (kc5 _ (Option.some.inj hf).symm) (And.intro rfl (And.intro rfl (And.intro rfl (And.intro rfl trivial))))
set_option maxHeartbeats 4000000 in
theorem met_X4_isNew_o (l : Launch) (X : XX) (z : MS) (a1 : Int32) : Met l yX4_isNew (ws_ yX4_isNew cX4_isNew 2 (some .boolean)) ({ frames := 0, cells := 0, slots := 0, locals := 0 } : Room) (xw_Pc X z [.ref (xg X 7), .int a1]) (xw_Qc X z (some (.int (fX4_isNew_o (xp X) z a1)))) 0 0 (xw_A (xg X)) := by
  obtain ⟨r, hf⟩ : ∃ r, fX4_isNew_o (xp X) z a1 = r := ⟨_, rfl⟩
  rw [hf]
  refine xw_of (RX := RX4) (lo := [some (.ref (xg X 7)), some (.int a1)]) (by decide) rfl (Nat.le_of_ble_eq_true rfl) rfl (fun E C hr hlk hq => ?_)
  unfold fX4_isNew_o at hf
  refine ga_iload_n 1 C.c 1 rfl rfl dX4_isNew_0 rfl ?_
  refine ga_aload_n 2 C.c 0 rfl rfl dX4_isNew_1 rfl ?_
  refine xa_get 5 7 7 C rfl (T := TX4) rfl in_X4 (by decide) q498 rfl rfl dX4_isNew_2 rfl ?_
  refine ga_icmp_ne 12 8 C.c dX4_isNew_5 (by decide) rfl (fun c => ?_) (fun c => ?_)
  · have hf := pu_neg c hf
    refine ga_iconst 13 C.c (v := 0) (by decide) dX4_isNew_12 rfl ?_
    cases hf
    exact xw_iret C hr hlk hq rfl rfl rfl dX4_isNew_13
  · have hf := pu_pos c hf
    refine ga_iconst 9 C.c (v := 1) (by decide) dX4_isNew_8 rfl ?_
    refine ga_goto 13 C.c dX4_isNew_9 (by decide) ?_
    cases hf
    exact xw_iret C hr hlk hq rfl rfl rfl dX4_isNew_13
set_option maxHeartbeats 4000000 in
theorem met_X4_goes_o (l : Launch) (X : XX) (z : MS) (a1 : Int32) (a2 : Int32) (z9 : MS) (hf : fX4_goes_o (xp X) z a1 a2 = some z9) : Met l yX4_goes (ws_ yX4_goes cX4_goes 9 (some (.object "QuotedRiver$Stick"))) ({ frames := 5, cells := 0, slots := 0, locals := 126 } : Room) (xw_Pc X z [.ref (xg X 7), .int a1, .int a2]) (xw_Qc X z9 (some (.ref (xg X 7)))) 0 0 (xw_A (xg X)) := by
  refine xw_of (RX := RX4) (lo := [some (.ref (xg X 7)), some (.int a1), some (.int a2), none, none, none, none, none, none]) (by decide) rfl (Nat.le_of_ble_eq_true rfl) rfl (fun E C hr hlk hq => ?_)
  unfold fX4_goes_o at hf
  refine ga_aload_n 1 C.c 0 rfl rfl dX4_goes_0 rfl ?_
  refine ga_iload_n 2 C.c 2 rfl rfl dX4_goes_1 rfl ?_
  refine xa_put 5 7 1 C (ty := tyX4) tyX4_ok nmX4 rfl (xa_set21 _) rfl in_X4 (by decide) q487 rfl rfl rfl (Nat.le_of_ble_eq_true rfl) dX4_goes_2 rfl ?_
  refine ga_aload_n 6 C.c 0 rfl rfl dX4_goes_5 rfl ?_
  refine ga_iconst 7 C.c (v := 0) (by decide) dX4_goes_6 rfl ?_
  refine xa_put 10 7 2 C (ty := tyX4) tyX4_ok nmX4 rfl (xa_set22 _) rfl in_X4 (by decide) q488 rfl rfl rfl (Nat.le_of_ble_eq_true rfl) dX4_goes_7 rfl ?_
  refine ga_aload_n 11 C.c 0 rfl rfl dX4_goes_10 rfl ?_
  refine ga_iconst 12 C.c (v := 0) (by decide) dX4_goes_11 rfl ?_
  refine xa_put 15 7 3 C (ty := tyX4) tyX4_ok nmX4 rfl (xa_set23 _) rfl in_X4 (by decide) q490 rfl rfl rfl (Nat.le_of_ble_eq_true rfl) dX4_goes_12 rfl ?_
  refine ga_aload_n 16 C.c 0 rfl rfl dX4_goes_15 rfl ?_
  refine ga_iconst 17 C.c (v := 0) (by decide) dX4_goes_16 rfl ?_
  refine xa_put 20 7 4 C (ty := tyX4) tyX4_ok nmX4 rfl (xa_set24 _) rfl in_X4 (by decide) q492 rfl rfl rfl (Nat.le_of_ble_eq_true rfl) dX4_goes_17 rfl ?_
  refine ga_aload_n 21 C.c 0 rfl rfl dX4_goes_20 rfl ?_
  refine ga_iconst 22 C.c (v := 0) (by decide) dX4_goes_21 rfl ?_
  refine xa_put 25 7 5 C (ty := tyX4) tyX4_ok nmX4 rfl (xa_set25 _) rfl in_X4 (by decide) q494 rfl rfl rfl (Nat.le_of_ble_eq_true rfl) dX4_goes_22 rfl ?_
  refine ga_aload_n 26 C.c 0 rfl rfl dX4_goes_25 rfl ?_
  refine ga_iconst 27 C.c (v := (-1)) (by decide) dX4_goes_26 rfl ?_
  refine xa_put 30 7 6 C (ty := tyX4) tyX4_ok nmX4 rfl (xa_set26 _) rfl in_X4 (by decide) q496 rfl rfl rfl (Nat.le_of_ble_eq_true rfl) dX4_goes_27 rfl ?_
  refine ga_iconst 31 C.c (v := 0) (by decide) dX4_goes_30 rfl ?_
  refine ga_istore_n 32 C.c 3 rfl (by decide) rfl dX4_goes_31 rfl ?_
  refine ga_aload_n 33 C.c 0 rfl rfl dX4_goes_32 rfl ?_
  refine xa_get 36 7 0 C rfl (T := TX4) rfl in_X4 (by decide) q484 rfl rfl dX4_goes_33 rfl ?_
  refine ga_bipush 38 C.c (v := 12) (by decide) dX4_goes_36 rfl ?_
  refine xa_fill 41 13 8 61 C (by decide) rfl rfl q1102 (Nat.le_of_ble_eq_true rfl) (Nat.le_of_ble_eq_true rfl) (Nat.le_of_ble_eq_true rfl) dX4_goes_38 rfl ?_
  refine ga_aload_n 42 C.c 0 rfl rfl dX4_goes_41 rfl ?_
  refine xa_get 45 7 8 C rfl (T := TX4) rfl in_X4 (by decide) q499 rfl rfl dX4_goes_42 rfl ?_
  refine xa_getN 48 0 7 C rfl (T := TX0) rfl in_X0 (by decide) q561 rfl rfl dX4_goes_45 rfl ?_
  refine xa_getN 51 2 3 C rfl (T := TX3) rfl in_X3 (by decide) q448 rfl rfl dX4_goes_48 rfl ?_
  refine ga_iload_n 52 C.c 1 rfl rfl dX4_goes_51 rfl ?_
  refine xa_callSN 55 C (as := [.int (mi (msf (msi (msi (msi (msi (msi (msi z 21 a2) 22 0) 23 0) 24 0) 25 0) 26 (-1)) 13 61 12) 6), .int a1]) (met_X0_isOn (eL E) _ _) q1103 q1104 q93 q1105 cd_X0_isOn rfl (Nat.le_of_ble_eq_true rfl) (Nat.le_of_ble_eq_true rfl) (Nat.le_of_ble_eq_true rfl) dX4_goes_52 rfl ?_
  obtain ⟨v8, hg9, hf⟩ := pu_l1_w hf
  refine ga_cut 64 (I2 := xw_I E X (msf (msi (msi (msi (msi (msi (msi z 21 a2) 22 0) 23 0) 24 0) 25 0) 26 (-1)) 13 61 12)) (k2 := 0) (n2 := 0) (lo2 := [some (.ref (xg X 7)), none, some (.int a2), some (.int 0), none, none, none, none, none]) (st2 := [.int v8]) ?_ (fun hj10 => ?_)
  · refine ga_istore 66 C.c 4 (by decide) rfl dX4_goes_64 rfl ?_
    refine ga_iconst 67 C.c (v := 0) (by decide) dX4_goes_66 rfl ?_
    refine ga_istore 69 C.c 5 (by decide) rfl dX4_goes_67 rfl ?_
    refine ga_aload_n 70 C.c 0 rfl rfl dX4_goes_69 rfl ?_
    refine ga_iload_n 71 C.c 2 rfl rfl dX4_goes_70 rfl ?_
    refine xa_put 74 7 7 C (ty := tyX4) tyX4_ok nmX4 rfl (xa_set27 _) rfl in_X4 (by decide) q498 rfl rfl rfl (Nat.le_of_ble_eq_true rfl) dX4_goes_71 rfl ?_
    refine ga_iload_n 75 C.c 2 rfl rfl dX4_goes_74 rfl ?_
    refine ga_istore 77 C.c 6 (by decide) rfl dX4_goes_75 rfl ?_
    obtain ⟨z51, hi22, hf⟩ := pu_b1_w hf
    refine ga_cut 354 (I2 := xw_I E X z51) (k2 := 0) (n2 := 0) (lo2 := [some (.ref (xg X 7)), none, none, none, none, none, none, none, none]) (st2 := []) ?_ (fun hj21 => ?_)
    · refine ga_aload_n 355 C.c 0 rfl rfl dX4_goes_354 rfl ?_
      have hf := Option.some.inj hf
      cases hf
      exact xw_aret C hr hlk hq rfl rfl dX4_goes_355
    · refine ga_W.sub (pu_it_w (Wd := fun (q : Int32 × Int32 × Int32 × Int32 × MS) => ga_W E 9 (xw_I E X q.2.2.2.2) 0 0 77 [some (.ref (xg X 7)), none, none, some (.int q.1), some (.int q.2.1), some (.int q.2.2.1), some (.int q.2.2.2.1), none, none] []) (Wx := fun e => e = (z51)) (fun q x hf kc17 kx18 => ?_) hi22 rfl) (And.intro rfl (And.intro rfl (And.intro rfl (And.intro rfl (And.intro rfl trivial)))))
      obtain ⟨v12, v13, v14, v15, z16⟩ := q
      try dsimp only
      unfold fX4_goes_o_L77 at hf
      refine ga_iload 79 C.c rfl dX4_goes_77 rfl ?_
      refine ga_bipush 81 C.c (v := 60) (by decide) dX4_goes_79 rfl ?_
      refine ga_icmp_gt 354 84 C.c dX4_goes_81 (by decide) rfl (fun c => ?_) (fun c => ?_)
      · have hf := pu_pos c hf
        cases (kx18 _ (Option.some.inj hf).symm)
        exact ga_W.sub hj21 (And.intro rfl trivial)
      · have hf := pu_neg c hf
        refine ga_aload_n 85 C.c 0 rfl rfl dX4_goes_84 rfl ?_
        refine xa_get 88 7 0 C rfl (T := TX4) rfl in_X4 (by decide) q484 rfl rfl dX4_goes_85 rfl ?_
        refine ga_iload 90 C.c rfl dX4_goes_88 rfl ?_
        refine ga_iload 92 C.c rfl dX4_goes_90 rfl ?_
        obtain ⟨h23, hf⟩ := pu_g_w hf
        refine xa_iast 93 13 8 61 C rfl (xa_seta8 _ _) h23 dX4_goes_92 rfl ?_
        refine ga_iload 95 C.c rfl dX4_goes_93 rfl ?_
        refine ga_bipush 97 C.c (v := 10) (by decide) dX4_goes_95 rfl ?_
        refine ga_icmp_lt 103 100 C.c dX4_goes_97 (by decide) rfl (fun c => ?_) (fun c => ?_)
        · have hf := pu_pos c hf
          refine ga_aload_n 104 C.c 0 rfl rfl dX4_goes_103 rfl ?_
          refine ga_iload 106 C.c rfl dX4_goes_104 rfl ?_
          refine xa_callV 109 7 C (as := [.int v15]) (met_X4_isNew_o (eL E) X _ _) rfl (T := TX4) rfl (lw_V q1106 q1108 qs30 q100 q1109) cd_X4_isNew_o rfl (Nat.le_of_ble_eq_true rfl) (Nat.le_of_ble_eq_true rfl) (Nat.le_of_ble_eq_true rfl) dX4_goes_106 rfl ?_
          obtain ⟨z25, hg26, hf⟩ := pu_l1_w hf
          refine ga_cut 135 (I2 := xw_I E X z25) (k2 := 0) (n2 := 0) (lo2 := [some (.ref (xg X 7)), none, none, some (.int v12), some (.int v13), some (.int v14), some (.int v15), none, none]) (st2 := []) ?_ (fun hj27 => ?_)
          · refine ga_iload_n 136 C.c 3 rfl rfl dX4_goes_135 rfl ?_
            refine ga_iconst 137 C.c (v := 1) (by decide) dX4_goes_136 rfl ?_
            refine ga_iload 139 C.c rfl dX4_goes_137 rfl ?_
            refine ga_ishl 140 C.c dX4_goes_139 rfl ?_
            refine ga_ior 141 C.c dX4_goes_140 rfl ?_
            refine ga_istore_n 142 C.c 3 rfl (by decide) rfl dX4_goes_141 rfl ?_
            obtain ⟨_, rfl, hf⟩ := pu_l1_w hf
            refine ga_aload_n 143 C.c 0 rfl rfl dX4_goes_142 rfl ?_
            refine xa_get 146 7 8 C rfl (T := TX4) rfl in_X4 (by decide) q499 rfl rfl dX4_goes_143 rfl ?_
            refine xa_getN 149 0 7 C rfl (T := TX0) rfl in_X0 (by decide) q561 rfl rfl dX4_goes_146 rfl ?_
            refine ga_iload 151 C.c rfl dX4_goes_149 rfl ?_
            refine ga_iload 153 C.c rfl dX4_goes_151 rfl ?_
            obtain ⟨v29, hc30, hf⟩ := pu_b1_w hf
            refine xa_callV 156 2 C (as := [.int v13, .int v15]) (met_X3_isStanding (eL E) X _ _ _ _ hc30) rfl (T := TX3) rfl (lw_V q1110 q1082 q1083 q99 q1084) cd_X3_isStanding rfl (Nat.le_of_ble_eq_true rfl) (Nat.le_of_ble_eq_true rfl) (Nat.le_of_ble_eq_true rfl) dX4_goes_153 rfl ?_
            refine ga_if_eq 172 159 C.c dX4_goes_156 (by decide) rfl (fun c => ?_) (fun c => ?_)
            · have hf := pu_pos c hf
              refine ga_iinc 175 C.c (v := v14 + 1) rfl rfl (by decide) rfl dX4_goes_172 rfl ?_
              refine ga_iload 177 C.c rfl dX4_goes_175 rfl ?_
              refine ga_aload_n 178 C.c 0 rfl rfl dX4_goes_177 rfl ?_
              refine xa_get 181 7 8 C rfl (T := TX4) rfl in_X4 (by decide) q499 rfl rfl dX4_goes_178 rfl ?_
              refine ga_iload 183 C.c rfl dX4_goes_181 rfl ?_
              obtain ⟨hc31, hf⟩ := pu_b0_w hf
              refine xa_callVN 186 0 C (as := [.int v13]) (met_X0_one (eL E) X _ _ hc31) rfl (T := TX0) rfl q1111 q1022 qs24 q93 q1023 cd_X0_one rfl (Nat.le_of_ble_eq_true rfl) (Nat.le_of_ble_eq_true rfl) (Nat.le_of_ble_eq_true rfl) dX4_goes_183 rfl ?_
              refine xd_getN 189 1 C (C.d0 (xone_lt hc31)) (T := TX9) (N := 3) rfl in_X9 (by decide) q807 rfl rfl dX4_goes_186 rfl ?_
              refine ga_icmp_ge 195 192 C.c dX4_goes_189 (by decide) rfl (fun c => ?_) (fun c => ?_)
              · have hf := pu_pos c hf
                refine ga_aload_n 196 C.c 0 rfl rfl dX4_goes_195 rfl ?_
                refine xa_get 199 7 8 C rfl (T := TX4) rfl in_X4 (by decide) q499 rfl rfl dX4_goes_196 rfl ?_
                refine xa_getN 202 0 7 C rfl (T := TX0) rfl in_X0 (by decide) q561 rfl rfl dX4_goes_199 rfl ?_
                refine ga_iload 204 C.c rfl dX4_goes_202 rfl ?_
                refine ga_iload 206 C.c rfl dX4_goes_204 rfl ?_
                obtain ⟨v32, hc33, hf⟩ := pu_b1_w hf
                refine xa_callV 209 2 C (as := [.int v13, .int v15]) (met_X3_joinFrom (eL E) X _ _ _ _ hc33) rfl (T := TX3) rfl (lw_V q1112 q1113 q1114 q99 q1115) cd_X3_joinFrom rfl (Nat.le_of_ble_eq_true rfl) (Nat.le_of_ble_eq_true rfl) (Nat.le_of_ble_eq_true rfl) dX4_goes_206 rfl ?_
                refine ga_istore 211 C.c 7 (by decide) rfl dX4_goes_209 rfl ?_
                refine ga_iload 213 C.c rfl dX4_goes_211 rfl ?_
                refine ga_iconst 214 C.c (v := (-1)) (by decide) dX4_goes_213 rfl ?_
                obtain ⟨v34, hg35, hf⟩ := pu_b1_w hf
                refine ga_cut 244 (I2 := xw_I E X z25) (k2 := 0) (n2 := 0) (lo2 := [some (.ref (xg X 7)), none, none, some (.int (v12 ||| ((1 : Int32) <<< (v13 &&& 31)))), none, none, some (.int v15), some (.int v32), none]) (st2 := [.int v34]) ?_ (fun hj36 => ?_)
                · refine ga_istore 246 C.c 8 (by decide) rfl dX4_goes_244 rfl ?_
                  refine ga_aload_n 247 C.c 0 rfl rfl dX4_goes_246 rfl ?_
                  refine ga_dup 248 C.c rfl dX4_goes_247 rfl ?_
                  refine xa_get 251 7 2 C rfl (T := TX4) rfl in_X4 (by decide) q488 rfl rfl dX4_goes_248 rfl ?_
                  refine ga_iconst 252 C.c (v := 1) (by decide) dX4_goes_251 rfl ?_
                  refine ga_iadd 253 C.c dX4_goes_252 rfl ?_
                  refine xa_put 256 7 2 C (ty := tyX4) tyX4_ok nmX4 rfl (xa_set22 _) rfl in_X4 (by decide) q488 rfl rfl rfl (Nat.le_of_ble_eq_true rfl) dX4_goes_253 rfl ?_
                  refine ga_aload_n 257 C.c 0 rfl rfl dX4_goes_256 rfl ?_
                  refine ga_dup 258 C.c rfl dX4_goes_257 rfl ?_
                  refine xa_get 261 7 3 C rfl (T := TX4) rfl in_X4 (by decide) q490 rfl rfl dX4_goes_258 rfl ?_
                  refine ga_iload 263 C.c rfl dX4_goes_261 rfl ?_
                  refine ga_iconst 264 C.c (v := (-1)) (by decide) dX4_goes_263 rfl ?_
                  obtain ⟨v38, hg39, hf⟩ := pu_l1_w hf
                  refine ga_cut 272 (I2 := xw_I E X (msi z25 22 ((mi z25 22) + 1))) (k2 := 0) (n2 := 0) (lo2 := [some (.ref (xg X 7)), none, none, some (.int (v12 ||| ((1 : Int32) <<< (v13 &&& 31)))), none, none, some (.int v15), some (.int v32), some (.int v34)]) (st2 := [.int v38, .int (mi (msi z25 22 ((mi z25 22) + 1)) 23), .ref (xg X 7)]) ?_ (fun hj40 => ?_)
                  · refine ga_iadd 273 C.c dX4_goes_272 rfl ?_
                    refine xa_put 276 7 3 C (ty := tyX4) tyX4_ok nmX4 rfl (xa_set23 _) rfl in_X4 (by decide) q490 rfl rfl rfl (Nat.le_of_ble_eq_true rfl) dX4_goes_273 rfl ?_
                    refine ga_aload_n 277 C.c 0 rfl rfl dX4_goes_276 rfl ?_
                    refine ga_dup 278 C.c rfl dX4_goes_277 rfl ?_
                    refine xa_get 281 7 5 C rfl (T := TX4) rfl in_X4 (by decide) q494 rfl rfl dX4_goes_278 rfl ?_
                    refine ga_iload 283 C.c rfl dX4_goes_281 rfl ?_
                    refine ga_iconst 284 C.c (v := (-1)) (by decide) dX4_goes_283 rfl ?_
                    obtain ⟨v42, hg43, hf⟩ := pu_l1_w hf
                    refine ga_cut 295 (I2 := xw_I E X (msi (msi z25 22 ((mi z25 22) + 1)) 23 ((mi (msi z25 22 ((mi z25 22) + 1)) 23) + v38))) (k2 := 0) (n2 := 0) (lo2 := [some (.ref (xg X 7)), none, none, some (.int (v12 ||| ((1 : Int32) <<< (v13 &&& 31)))), none, none, some (.int v15), none, some (.int v34)]) (st2 := [.int v42, .int (mi (msi (msi z25 22 ((mi z25 22) + 1)) 23 ((mi (msi z25 22 ((mi z25 22) + 1)) 23) + v38)) 25), .ref (xg X 7)]) ?_ (fun hj44 => ?_)
                    · refine ga_ior 296 C.c dX4_goes_295 rfl ?_
                      refine xa_put 299 7 5 C (ty := tyX4) tyX4_ok nmX4 rfl (xa_set25 _) rfl in_X4 (by decide) q494 rfl rfl rfl (Nat.le_of_ble_eq_true rfl) dX4_goes_296 rfl ?_
                      refine ga_aload_n 300 C.c 0 rfl rfl dX4_goes_299 rfl ?_
                      refine ga_iload 302 C.c rfl dX4_goes_300 rfl ?_
                      refine ga_iconst 303 C.c (v := 1) (by decide) dX4_goes_302 rfl ?_
                      refine ga_iadd 304 C.c dX4_goes_303 rfl ?_
                      refine xa_put 307 7 7 C (ty := tyX4) tyX4_ok nmX4 rfl (xa_set27 _) rfl in_X4 (by decide) q498 rfl rfl rfl (Nat.le_of_ble_eq_true rfl) dX4_goes_304 rfl ?_
                      refine ga_iload 309 C.c rfl dX4_goes_307 rfl ?_
                      refine ga_iconst 310 C.c (v := (-1)) (by decide) dX4_goes_309 rfl ?_
                      refine ga_icmp_ne 318 313 C.c dX4_goes_310 (by decide) rfl (fun c => ?_) (fun c => ?_)
                      · have hf := pu_neg c hf
                        refine ga_aload_n 319 C.c 0 rfl rfl dX4_goes_318 rfl ?_
                        refine xa_get 322 7 8 C rfl (T := TX4) rfl in_X4 (by decide) q499 rfl rfl dX4_goes_319 rfl ?_
                        refine xa_getN 325 0 7 C rfl (T := TX0) rfl in_X0 (by decide) q561 rfl rfl dX4_goes_322 rfl ?_
                        refine xa_getN 328 2 3 C rfl (T := TX3) rfl in_X3 (by decide) q448 rfl rfl dX4_goes_325 rfl ?_
                        refine ga_iload 330 C.c rfl dX4_goes_328 rfl ?_
                        refine xa_callSN 333 C (as := [.int (mi (msi (msi (msi (msi z25 22 ((mi z25 22) + 1)) 23 ((mi (msi z25 22 ((mi z25 22) + 1)) 23) + v38)) 25 ((mi (msi (msi z25 22 ((mi z25 22) + 1)) 23 ((mi (msi z25 22 ((mi z25 22) + 1)) 23) + v38)) 25) ||| v42)) 27 (v15 + 1)) 6), .int v34]) (met_X0_isOn (eL E) _ _) q1103 q1104 q93 q1105 cd_X0_isOn rfl (Nat.le_of_ble_eq_true rfl) (Nat.le_of_ble_eq_true rfl) (Nat.le_of_ble_eq_true rfl) dX4_goes_330 rfl ?_
                        refine ga_if_eq 341 336 C.c dX4_goes_333 (by decide) rfl (fun c => ?_) (fun c => ?_)
                        · have hf := pu_pos c hf
                          refine ga_iload 343 C.c rfl dX4_goes_341 rfl ?_
                          refine ga_istore 345 C.c 4 (by decide) rfl dX4_goes_343 rfl ?_
                          refine ga_iconst 346 C.c (v := 0) (by decide) dX4_goes_345 rfl ?_
                          refine ga_istore 348 C.c 5 (by decide) rfl dX4_goes_346 rfl ?_
                          refine ga_iinc 351 C.c (v := v15 + 1) rfl rfl (by decide) rfl dX4_goes_348 rfl ?_
                          refine ga_goto 77 C.c dX4_goes_351 (by decide) ?_
                          exact ga_W.sub (kc17 _ (Option.some.inj hf).symm) (And.intro rfl (And.intro rfl (And.intro rfl (And.intro rfl (And.intro rfl trivial)))))
                        · have hf := pu_neg c hf
                          refine ga_bipush 338 C.c (v := 11) (by decide) dX4_goes_336 rfl ?_
                          refine ga_goto 343 C.c dX4_goes_338 (by decide) ?_
                          refine ga_istore 345 C.c 4 (by decide) rfl dX4_goes_343 rfl ?_
                          refine ga_iconst 346 C.c (v := 0) (by decide) dX4_goes_345 rfl ?_
                          refine ga_istore 348 C.c 5 (by decide) rfl dX4_goes_346 rfl ?_
                          refine ga_iinc 351 C.c (v := v15 + 1) rfl rfl (by decide) rfl dX4_goes_348 rfl ?_
                          refine ga_goto 77 C.c dX4_goes_351 (by decide) ?_
                          exact ga_W.sub (kc17 _ (Option.some.inj hf).symm) (And.intro rfl (And.intro rfl (And.intro rfl (And.intro rfl (And.intro rfl trivial)))))
                      · have hf := pu_pos c hf
                        refine ga_bipush 315 C.c (v := 10) (by decide) dX4_goes_313 rfl ?_
                        refine ga_goto 343 C.c dX4_goes_315 (by decide) ?_
                        refine ga_istore 345 C.c 4 (by decide) rfl dX4_goes_343 rfl ?_
                        refine ga_iconst 346 C.c (v := 0) (by decide) dX4_goes_345 rfl ?_
                        refine ga_istore 348 C.c 5 (by decide) rfl dX4_goes_346 rfl ?_
                        refine ga_iinc 351 C.c (v := v15 + 1) rfl rfl (by decide) rfl dX4_goes_348 rfl ?_
                        refine ga_goto 77 C.c dX4_goes_351 (by decide) ?_
                        exact ga_W.sub (kc17 _ (Option.some.inj hf).symm) (And.intro rfl (And.intro rfl (And.intro rfl (And.intro rfl (And.intro rfl trivial)))))
                    · have hf := hg43
                      refine ga_icmp_ne 291 287 C.c dX4_goes_284 (by decide) rfl (fun c => ?_) (fun c => ?_)
                      · have hf := pu_neg c hf
                        refine ga_iconst 292 C.c (v := 1) (by decide) dX4_goes_291 rfl ?_
                        refine ga_iload 294 C.c rfl dX4_goes_292 rfl ?_
                        refine ga_ishl 295 C.c dX4_goes_294 rfl ?_
                        cases hf
                        exact ga_W.sub hj44 (And.intro rfl (And.intro rfl (And.intro rfl (And.intro rfl trivial))))
                      · have hf := pu_pos c hf
                        refine ga_iconst 288 C.c (v := 0) (by decide) dX4_goes_287 rfl ?_
                        refine ga_goto 295 C.c dX4_goes_288 (by decide) ?_
                        cases hf
                        exact ga_W.sub hj44 (And.intro rfl (And.intro rfl (And.intro rfl (And.intro rfl trivial))))
                  · have hf := hg39
                    refine ga_icmp_ne 271 267 C.c dX4_goes_264 (by decide) rfl (fun c => ?_) (fun c => ?_)
                    · have hf := pu_neg c hf
                      refine ga_iconst 272 C.c (v := 1) (by decide) dX4_goes_271 rfl ?_
                      cases hf
                      exact ga_W.sub hj40 (And.intro rfl (And.intro rfl (And.intro rfl (And.intro rfl (And.intro rfl trivial)))))
                    · have hf := pu_pos c hf
                      refine ga_iconst 268 C.c (v := 0) (by decide) dX4_goes_267 rfl ?_
                      refine ga_goto 272 C.c dX4_goes_268 (by decide) ?_
                      cases hf
                      exact ga_W.sub hj40 (And.intro rfl (And.intro rfl (And.intro rfl (And.intro rfl (And.intro rfl trivial)))))
                · have hf := hg35
                  refine ga_icmp_ne 232 217 C.c dX4_goes_214 (by decide) rfl (fun c => ?_) (fun c => ?_)
                  · have hf := pu_neg c hf
                    refine ga_aload_n 233 C.c 0 rfl rfl dX4_goes_232 rfl ?_
                    refine xa_get 236 7 8 C rfl (T := TX4) rfl in_X4 (by decide) q499 rfl rfl dX4_goes_233 rfl ?_
                    refine ga_iload 238 C.c rfl dX4_goes_236 rfl ?_
                    obtain ⟨hc47, hf⟩ := pu_b0_w hf
                    refine xa_callVN 241 0 C (as := [.int v32]) (met_X0_joinOf (eL E) X _ _ hc47) rfl (T := TX0) rfl q1118 q1052 qs26 q93 q1053 cd_X0_joinOf rfl (Nat.le_of_ble_eq_true rfl) (Nat.le_of_ble_eq_true rfl) (Nat.le_of_ble_eq_true rfl) dX4_goes_238 rfl ?_
                    refine xd_getN 244 1 C (C.d1 (xjoin_lt hc47)) (T := TX10) (N := 4) rfl in_X10 (by decide) q904 rfl rfl dX4_goes_241 rfl ?_
                    cases hf
                    exact ga_W.sub hj36 (And.intro rfl (And.intro rfl (And.intro rfl (And.intro rfl trivial))))
                  · have hf := pu_pos c hf
                    refine ga_aload_n 218 C.c 0 rfl rfl dX4_goes_217 rfl ?_
                    refine xa_get 221 7 8 C rfl (T := TX4) rfl in_X4 (by decide) q499 rfl rfl dX4_goes_218 rfl ?_
                    refine ga_iload 223 C.c rfl dX4_goes_221 rfl ?_
                    obtain ⟨hc48, hf⟩ := pu_b0_w hf
                    refine xa_callVN 226 0 C (as := [.int v13]) (met_X0_one (eL E) X _ _ hc48) rfl (T := TX0) rfl q1111 q1022 qs24 q93 q1023 cd_X0_one rfl (Nat.le_of_ble_eq_true rfl) (Nat.le_of_ble_eq_true rfl) (Nat.le_of_ble_eq_true rfl) dX4_goes_223 rfl ?_
                    refine xd_getN 229 0 C (C.d0 (xone_lt hc48)) (T := TX9) (N := 3) rfl in_X9 (by decide) q803 rfl rfl dX4_goes_226 rfl ?_
                    refine ga_goto 244 C.c dX4_goes_229 (by decide) ?_
                    cases hf
                    exact ga_W.sub hj36 (And.intro rfl (And.intro rfl (And.intro rfl (And.intro rfl trivial))))
              · have hf := pu_neg c hf
                refine ga_goto 348 C.c dX4_goes_192 (by decide) ?_
                refine ga_iinc 351 C.c (v := v15 + 1) rfl rfl (by decide) rfl dX4_goes_348 rfl ?_
                refine ga_goto 77 C.c dX4_goes_351 (by decide) ?_
                exact ga_W.sub (kc17 _ (Option.some.inj hf).symm) (And.intro rfl (And.intro rfl (And.intro rfl (And.intro rfl (And.intro rfl trivial)))))
            · have hf := pu_neg c hf
              refine ga_aload_n 160 C.c 0 rfl rfl dX4_goes_159 rfl ?_
              refine ga_dup 161 C.c rfl dX4_goes_160 rfl ?_
              refine xa_get 164 7 4 C rfl (T := TX4) rfl in_X4 (by decide) q492 rfl rfl dX4_goes_161 rfl ?_
              refine ga_iconst 165 C.c (v := 1) (by decide) dX4_goes_164 rfl ?_
              refine ga_iadd 166 C.c dX4_goes_165 rfl ?_
              refine xa_put 169 7 4 C (ty := tyX4) tyX4_ok nmX4 rfl (xa_set24 _) rfl in_X4 (by decide) q492 rfl rfl rfl (Nat.le_of_ble_eq_true rfl) dX4_goes_166 rfl ?_
              refine ga_goto 348 C.c dX4_goes_169 (by decide) ?_
              refine ga_iinc 351 C.c (v := v15 + 1) rfl rfl (by decide) rfl dX4_goes_348 rfl ?_
              refine ga_goto 77 C.c dX4_goes_351 (by decide) ?_
              exact ga_W.sub (kc17 _ (Option.some.inj hf).symm) (And.intro rfl (And.intro rfl (And.intro rfl (And.intro rfl (And.intro rfl trivial)))))
          · have hf := hg26
            refine ga_if_eq 135 112 C.c dX4_goes_109 (by decide) rfl (fun c => ?_) (fun c => ?_)
            · have hf := pu_pos c hf
              cases hf
              exact ga_W.sub hj27 (And.intro rfl (And.intro rfl (And.intro rfl (And.intro rfl (And.intro rfl trivial)))))
            · have hf := pu_neg c hf
              refine ga_iload_n 113 C.c 3 rfl rfl dX4_goes_112 rfl ?_
              refine ga_iload 115 C.c rfl dX4_goes_113 rfl ?_
              refine xa_callSN 118 C (as := [.int v12, .int v13]) (met_X0_isOn (eL E) _ _) q1103 q1104 q93 q1105 cd_X0_isOn rfl (Nat.le_of_ble_eq_true rfl) (Nat.le_of_ble_eq_true rfl) (Nat.le_of_ble_eq_true rfl) dX4_goes_115 rfl ?_
              refine ga_if_eq 135 121 C.c dX4_goes_118 (by decide) rfl (fun c => ?_) (fun c => ?_)
              · have hf := pu_pos c hf
                cases hf
                exact ga_W.sub hj27 (And.intro rfl (And.intro rfl (And.intro rfl (And.intro rfl (And.intro rfl trivial)))))
              · have hf := pu_neg c hf
                refine ga_aload_n 122 C.c 0 rfl rfl dX4_goes_121 rfl ?_
                refine xa_get 125 7 6 C rfl (T := TX4) rfl in_X4 (by decide) q496 rfl rfl dX4_goes_122 rfl ?_
                refine ga_iconst 126 C.c (v := (-1)) (by decide) dX4_goes_125 rfl ?_
                refine ga_icmp_ne 135 129 C.c dX4_goes_126 (by decide) rfl (fun c => ?_) (fun c => ?_)
                · have hf := pu_neg c hf
                  cases hf
                  exact ga_W.sub hj27 (And.intro rfl (And.intro rfl (And.intro rfl (And.intro rfl (And.intro rfl trivial)))))
                · have hf := pu_pos c hf
                  refine ga_aload_n 130 C.c 0 rfl rfl dX4_goes_129 rfl ?_
                  refine ga_iload 132 C.c rfl dX4_goes_130 rfl ?_
                  refine xa_put 135 7 6 C (ty := tyX4) tyX4_ok nmX4 rfl (xa_set26 _) rfl in_X4 (by decide) q496 rfl rfl rfl (Nat.le_of_ble_eq_true rfl) dX4_goes_132 rfl ?_
                  cases hf
                  exact ga_W.sub hj27 (And.intro rfl (And.intro rfl (And.intro rfl (And.intro rfl (And.intro rfl trivial)))))
        · have hf := pu_neg c hf
          refine ga_goto 348 C.c dX4_goes_100 (by decide) ?_
          refine ga_iinc 351 C.c (v := v15 + 1) rfl rfl (by decide) rfl dX4_goes_348 rfl ?_
          refine ga_goto 77 C.c dX4_goes_351 (by decide) ?_
          exact ga_W.sub (kc17 _ (Option.some.inj hf).symm) (And.intro rfl (And.intro rfl (And.intro rfl (And.intro rfl (And.intro rfl trivial)))))
  · have hf := hg9
    refine ga_if_eq 63 58 C.c dX4_goes_55 (by decide) rfl (fun c => ?_) (fun c => ?_)
    · have hf := pu_pos c hf
      refine ga_iload_n 64 C.c 1 rfl rfl dX4_goes_63 rfl ?_
      cases hf
      exact ga_W.sub hj10 (And.intro rfl (And.intro rfl (And.intro rfl trivial)))
    · have hf := pu_neg c hf
      refine ga_bipush 60 C.c (v := 11) (by decide) dX4_goes_58 rfl ?_
      refine ga_goto 64 C.c dX4_goes_60 (by decide) ?_
      cases hf
      exact ga_W.sub hj10 (And.intro rfl (And.intro rfl (And.intro rfl trivial)))
set_option maxHeartbeats 4000000 in
theorem met_X4_isNew_s (l : Launch) (X : XX) (z : MS) (a1 : Int32) : Met l yX4_isNew (ws_ yX4_isNew cX4_isNew 2 (some .boolean)) ({ frames := 0, cells := 0, slots := 0, locals := 0 } : Room) (xw_Pc X z [.ref (xg X 5), .int a1]) (xw_Qc X z (some (.int (fX4_isNew_s (xp X) z a1)))) 0 0 (xw_A (xg X)) := by
  obtain ⟨r, hf⟩ : ∃ r, fX4_isNew_s (xp X) z a1 = r := ⟨_, rfl⟩
  rw [hf]
  refine xw_of (RX := RX4) (lo := [some (.ref (xg X 5)), some (.int a1)]) (by decide) rfl (Nat.le_of_ble_eq_true rfl) rfl (fun E C hr hlk hq => ?_)
  unfold fX4_isNew_s at hf
  refine ga_iload_n 1 C.c 1 rfl rfl dX4_isNew_0 rfl ?_
  refine ga_aload_n 2 C.c 0 rfl rfl dX4_isNew_1 rfl ?_
  refine xa_get 5 5 7 C rfl (T := TX4) rfl in_X4 (by decide) q498 rfl rfl dX4_isNew_2 rfl ?_
  refine ga_icmp_ne 12 8 C.c dX4_isNew_5 (by decide) rfl (fun c => ?_) (fun c => ?_)
  · have hf := pu_neg c hf
    refine ga_iconst 13 C.c (v := 0) (by decide) dX4_isNew_12 rfl ?_
    cases hf
    exact xw_iret C hr hlk hq rfl rfl rfl dX4_isNew_13
  · have hf := pu_pos c hf
    refine ga_iconst 9 C.c (v := 1) (by decide) dX4_isNew_8 rfl ?_
    refine ga_goto 13 C.c dX4_isNew_9 (by decide) ?_
    cases hf
    exact xw_iret C hr hlk hq rfl rfl rfl dX4_isNew_13
set_option maxHeartbeats 4000000 in
theorem met_X4_goes_s (l : Launch) (X : XX) (z : MS) (a1 : Int32) (a2 : Int32) (z9 : MS) (hf : fX4_goes_s (xp X) z a1 a2 = some z9) : Met l yX4_goes (ws_ yX4_goes cX4_goes 9 (some (.object "QuotedRiver$Stick"))) ({ frames := 5, cells := 0, slots := 0, locals := 126 } : Room) (xw_Pc X z [.ref (xg X 5), .int a1, .int a2]) (xw_Qc X z9 (some (.ref (xg X 5)))) 0 0 (xw_A (xg X)) := by
  refine xw_of (RX := RX4) (lo := [some (.ref (xg X 5)), some (.int a1), some (.int a2), none, none, none, none, none, none]) (by decide) rfl (Nat.le_of_ble_eq_true rfl) rfl (fun E C hr hlk hq => ?_)
  unfold fX4_goes_s at hf
  refine ga_aload_n 1 C.c 0 rfl rfl dX4_goes_0 rfl ?_
  refine ga_iload_n 2 C.c 2 rfl rfl dX4_goes_1 rfl ?_
  refine xa_put 5 5 1 C (ty := tyX4) tyX4_ok nmX4 rfl (xa_set11 _) rfl in_X4 (by decide) q487 rfl rfl rfl (Nat.le_of_ble_eq_true rfl) dX4_goes_2 rfl ?_
  refine ga_aload_n 6 C.c 0 rfl rfl dX4_goes_5 rfl ?_
  refine ga_iconst 7 C.c (v := 0) (by decide) dX4_goes_6 rfl ?_
  refine xa_put 10 5 2 C (ty := tyX4) tyX4_ok nmX4 rfl (xa_set12 _) rfl in_X4 (by decide) q488 rfl rfl rfl (Nat.le_of_ble_eq_true rfl) dX4_goes_7 rfl ?_
  refine ga_aload_n 11 C.c 0 rfl rfl dX4_goes_10 rfl ?_
  refine ga_iconst 12 C.c (v := 0) (by decide) dX4_goes_11 rfl ?_
  refine xa_put 15 5 3 C (ty := tyX4) tyX4_ok nmX4 rfl (xa_set13 _) rfl in_X4 (by decide) q490 rfl rfl rfl (Nat.le_of_ble_eq_true rfl) dX4_goes_12 rfl ?_
  refine ga_aload_n 16 C.c 0 rfl rfl dX4_goes_15 rfl ?_
  refine ga_iconst 17 C.c (v := 0) (by decide) dX4_goes_16 rfl ?_
  refine xa_put 20 5 4 C (ty := tyX4) tyX4_ok nmX4 rfl (xa_set14 _) rfl in_X4 (by decide) q492 rfl rfl rfl (Nat.le_of_ble_eq_true rfl) dX4_goes_17 rfl ?_
  refine ga_aload_n 21 C.c 0 rfl rfl dX4_goes_20 rfl ?_
  refine ga_iconst 22 C.c (v := 0) (by decide) dX4_goes_21 rfl ?_
  refine xa_put 25 5 5 C (ty := tyX4) tyX4_ok nmX4 rfl (xa_set15 _) rfl in_X4 (by decide) q494 rfl rfl rfl (Nat.le_of_ble_eq_true rfl) dX4_goes_22 rfl ?_
  refine ga_aload_n 26 C.c 0 rfl rfl dX4_goes_25 rfl ?_
  refine ga_iconst 27 C.c (v := (-1)) (by decide) dX4_goes_26 rfl ?_
  refine xa_put 30 5 6 C (ty := tyX4) tyX4_ok nmX4 rfl (xa_set16 _) rfl in_X4 (by decide) q496 rfl rfl rfl (Nat.le_of_ble_eq_true rfl) dX4_goes_27 rfl ?_
  refine ga_iconst 31 C.c (v := 0) (by decide) dX4_goes_30 rfl ?_
  refine ga_istore_n 32 C.c 3 rfl (by decide) rfl dX4_goes_31 rfl ?_
  refine ga_aload_n 33 C.c 0 rfl rfl dX4_goes_32 rfl ?_
  refine xa_get 36 5 0 C rfl (T := TX4) rfl in_X4 (by decide) q484 rfl rfl dX4_goes_33 rfl ?_
  refine ga_bipush 38 C.c (v := 12) (by decide) dX4_goes_36 rfl ?_
  refine xa_fill 41 3 6 61 C (by decide) rfl rfl q1102 (Nat.le_of_ble_eq_true rfl) (Nat.le_of_ble_eq_true rfl) (Nat.le_of_ble_eq_true rfl) dX4_goes_38 rfl ?_
  refine ga_aload_n 42 C.c 0 rfl rfl dX4_goes_41 rfl ?_
  refine xa_get 45 5 8 C rfl (T := TX4) rfl in_X4 (by decide) q499 rfl rfl dX4_goes_42 rfl ?_
  refine xa_getN 48 0 7 C rfl (T := TX0) rfl in_X0 (by decide) q561 rfl rfl dX4_goes_45 rfl ?_
  refine xa_getN 51 2 3 C rfl (T := TX3) rfl in_X3 (by decide) q448 rfl rfl dX4_goes_48 rfl ?_
  refine ga_iload_n 52 C.c 1 rfl rfl dX4_goes_51 rfl ?_
  refine xa_callSN 55 C (as := [.int (mi (msf (msi (msi (msi (msi (msi (msi z 11 a2) 12 0) 13 0) 14 0) 15 0) 16 (-1)) 3 61 12) 6), .int a1]) (met_X0_isOn (eL E) _ _) q1103 q1104 q93 q1105 cd_X0_isOn rfl (Nat.le_of_ble_eq_true rfl) (Nat.le_of_ble_eq_true rfl) (Nat.le_of_ble_eq_true rfl) dX4_goes_52 rfl ?_
  obtain ⟨v8, hg9, hf⟩ := pu_l1_w hf
  refine ga_cut 64 (I2 := xw_I E X (msf (msi (msi (msi (msi (msi (msi z 11 a2) 12 0) 13 0) 14 0) 15 0) 16 (-1)) 3 61 12)) (k2 := 0) (n2 := 0) (lo2 := [some (.ref (xg X 5)), none, some (.int a2), some (.int 0), none, none, none, none, none]) (st2 := [.int v8]) ?_ (fun hj10 => ?_)
  · refine ga_istore 66 C.c 4 (by decide) rfl dX4_goes_64 rfl ?_
    refine ga_iconst 67 C.c (v := 0) (by decide) dX4_goes_66 rfl ?_
    refine ga_istore 69 C.c 5 (by decide) rfl dX4_goes_67 rfl ?_
    refine ga_aload_n 70 C.c 0 rfl rfl dX4_goes_69 rfl ?_
    refine ga_iload_n 71 C.c 2 rfl rfl dX4_goes_70 rfl ?_
    refine xa_put 74 5 7 C (ty := tyX4) tyX4_ok nmX4 rfl (xa_set17 _) rfl in_X4 (by decide) q498 rfl rfl rfl (Nat.le_of_ble_eq_true rfl) dX4_goes_71 rfl ?_
    refine ga_iload_n 75 C.c 2 rfl rfl dX4_goes_74 rfl ?_
    refine ga_istore 77 C.c 6 (by decide) rfl dX4_goes_75 rfl ?_
    obtain ⟨z51, hi22, hf⟩ := pu_b1_w hf
    refine ga_cut 354 (I2 := xw_I E X z51) (k2 := 0) (n2 := 0) (lo2 := [some (.ref (xg X 5)), none, none, none, none, none, none, none, none]) (st2 := []) ?_ (fun hj21 => ?_)
    · refine ga_aload_n 355 C.c 0 rfl rfl dX4_goes_354 rfl ?_
      have hf := Option.some.inj hf
      cases hf
      exact xw_aret C hr hlk hq rfl rfl dX4_goes_355
    · refine ga_W.sub (pu_it_w (Wd := fun (q : Int32 × Int32 × Int32 × Int32 × MS) => ga_W E 9 (xw_I E X q.2.2.2.2) 0 0 77 [some (.ref (xg X 5)), none, none, some (.int q.1), some (.int q.2.1), some (.int q.2.2.1), some (.int q.2.2.2.1), none, none] []) (Wx := fun e => e = (z51)) (fun q x hf kc17 kx18 => ?_) hi22 rfl) (And.intro rfl (And.intro rfl (And.intro rfl (And.intro rfl (And.intro rfl trivial)))))
      obtain ⟨v12, v13, v14, v15, z16⟩ := q
      try dsimp only
      unfold fX4_goes_s_L77 at hf
      refine ga_iload 79 C.c rfl dX4_goes_77 rfl ?_
      refine ga_bipush 81 C.c (v := 60) (by decide) dX4_goes_79 rfl ?_
      refine ga_icmp_gt 354 84 C.c dX4_goes_81 (by decide) rfl (fun c => ?_) (fun c => ?_)
      · have hf := pu_pos c hf
        cases (kx18 _ (Option.some.inj hf).symm)
        exact ga_W.sub hj21 (And.intro rfl trivial)
      · have hf := pu_neg c hf
        refine ga_aload_n 85 C.c 0 rfl rfl dX4_goes_84 rfl ?_
        refine xa_get 88 5 0 C rfl (T := TX4) rfl in_X4 (by decide) q484 rfl rfl dX4_goes_85 rfl ?_
        refine ga_iload 90 C.c rfl dX4_goes_88 rfl ?_
        refine ga_iload 92 C.c rfl dX4_goes_90 rfl ?_
        obtain ⟨h23, hf⟩ := pu_g_w hf
        refine xa_iast 93 3 6 61 C rfl (xa_seta6 _ _) h23 dX4_goes_92 rfl ?_
        refine ga_iload 95 C.c rfl dX4_goes_93 rfl ?_
        refine ga_bipush 97 C.c (v := 10) (by decide) dX4_goes_95 rfl ?_
        refine ga_icmp_lt 103 100 C.c dX4_goes_97 (by decide) rfl (fun c => ?_) (fun c => ?_)
        · have hf := pu_pos c hf
          refine ga_aload_n 104 C.c 0 rfl rfl dX4_goes_103 rfl ?_
          refine ga_iload 106 C.c rfl dX4_goes_104 rfl ?_
          refine xa_callV 109 5 C (as := [.int v15]) (met_X4_isNew_s (eL E) X _ _) rfl (T := TX4) rfl (lw_V q1106 q1108 qs30 q100 q1109) cd_X4_isNew_s rfl (Nat.le_of_ble_eq_true rfl) (Nat.le_of_ble_eq_true rfl) (Nat.le_of_ble_eq_true rfl) dX4_goes_106 rfl ?_
          obtain ⟨z25, hg26, hf⟩ := pu_l1_w hf
          refine ga_cut 135 (I2 := xw_I E X z25) (k2 := 0) (n2 := 0) (lo2 := [some (.ref (xg X 5)), none, none, some (.int v12), some (.int v13), some (.int v14), some (.int v15), none, none]) (st2 := []) ?_ (fun hj27 => ?_)
          · refine ga_iload_n 136 C.c 3 rfl rfl dX4_goes_135 rfl ?_
            refine ga_iconst 137 C.c (v := 1) (by decide) dX4_goes_136 rfl ?_
            refine ga_iload 139 C.c rfl dX4_goes_137 rfl ?_
            refine ga_ishl 140 C.c dX4_goes_139 rfl ?_
            refine ga_ior 141 C.c dX4_goes_140 rfl ?_
            refine ga_istore_n 142 C.c 3 rfl (by decide) rfl dX4_goes_141 rfl ?_
            obtain ⟨_, rfl, hf⟩ := pu_l1_w hf
            refine ga_aload_n 143 C.c 0 rfl rfl dX4_goes_142 rfl ?_
            refine xa_get 146 5 8 C rfl (T := TX4) rfl in_X4 (by decide) q499 rfl rfl dX4_goes_143 rfl ?_
            refine xa_getN 149 0 7 C rfl (T := TX0) rfl in_X0 (by decide) q561 rfl rfl dX4_goes_146 rfl ?_
            refine ga_iload 151 C.c rfl dX4_goes_149 rfl ?_
            refine ga_iload 153 C.c rfl dX4_goes_151 rfl ?_
            obtain ⟨v29, hc30, hf⟩ := pu_b1_w hf
            refine xa_callV 156 2 C (as := [.int v13, .int v15]) (met_X3_isStanding (eL E) X _ _ _ _ hc30) rfl (T := TX3) rfl (lw_V q1110 q1082 q1083 q99 q1084) cd_X3_isStanding rfl (Nat.le_of_ble_eq_true rfl) (Nat.le_of_ble_eq_true rfl) (Nat.le_of_ble_eq_true rfl) dX4_goes_153 rfl ?_
            refine ga_if_eq 172 159 C.c dX4_goes_156 (by decide) rfl (fun c => ?_) (fun c => ?_)
            · have hf := pu_pos c hf
              refine ga_iinc 175 C.c (v := v14 + 1) rfl rfl (by decide) rfl dX4_goes_172 rfl ?_
              refine ga_iload 177 C.c rfl dX4_goes_175 rfl ?_
              refine ga_aload_n 178 C.c 0 rfl rfl dX4_goes_177 rfl ?_
              refine xa_get 181 5 8 C rfl (T := TX4) rfl in_X4 (by decide) q499 rfl rfl dX4_goes_178 rfl ?_
              refine ga_iload 183 C.c rfl dX4_goes_181 rfl ?_
              obtain ⟨hc31, hf⟩ := pu_b0_w hf
              refine xa_callVN 186 0 C (as := [.int v13]) (met_X0_one (eL E) X _ _ hc31) rfl (T := TX0) rfl q1111 q1022 qs24 q93 q1023 cd_X0_one rfl (Nat.le_of_ble_eq_true rfl) (Nat.le_of_ble_eq_true rfl) (Nat.le_of_ble_eq_true rfl) dX4_goes_183 rfl ?_
              refine xd_getN 189 1 C (C.d0 (xone_lt hc31)) (T := TX9) (N := 3) rfl in_X9 (by decide) q807 rfl rfl dX4_goes_186 rfl ?_
              refine ga_icmp_ge 195 192 C.c dX4_goes_189 (by decide) rfl (fun c => ?_) (fun c => ?_)
              · have hf := pu_pos c hf
                refine ga_aload_n 196 C.c 0 rfl rfl dX4_goes_195 rfl ?_
                refine xa_get 199 5 8 C rfl (T := TX4) rfl in_X4 (by decide) q499 rfl rfl dX4_goes_196 rfl ?_
                refine xa_getN 202 0 7 C rfl (T := TX0) rfl in_X0 (by decide) q561 rfl rfl dX4_goes_199 rfl ?_
                refine ga_iload 204 C.c rfl dX4_goes_202 rfl ?_
                refine ga_iload 206 C.c rfl dX4_goes_204 rfl ?_
                obtain ⟨v32, hc33, hf⟩ := pu_b1_w hf
                refine xa_callV 209 2 C (as := [.int v13, .int v15]) (met_X3_joinFrom (eL E) X _ _ _ _ hc33) rfl (T := TX3) rfl (lw_V q1112 q1113 q1114 q99 q1115) cd_X3_joinFrom rfl (Nat.le_of_ble_eq_true rfl) (Nat.le_of_ble_eq_true rfl) (Nat.le_of_ble_eq_true rfl) dX4_goes_206 rfl ?_
                refine ga_istore 211 C.c 7 (by decide) rfl dX4_goes_209 rfl ?_
                refine ga_iload 213 C.c rfl dX4_goes_211 rfl ?_
                refine ga_iconst 214 C.c (v := (-1)) (by decide) dX4_goes_213 rfl ?_
                obtain ⟨v34, hg35, hf⟩ := pu_b1_w hf
                refine ga_cut 244 (I2 := xw_I E X z25) (k2 := 0) (n2 := 0) (lo2 := [some (.ref (xg X 5)), none, none, some (.int (v12 ||| ((1 : Int32) <<< (v13 &&& 31)))), none, none, some (.int v15), some (.int v32), none]) (st2 := [.int v34]) ?_ (fun hj36 => ?_)
                · refine ga_istore 246 C.c 8 (by decide) rfl dX4_goes_244 rfl ?_
                  refine ga_aload_n 247 C.c 0 rfl rfl dX4_goes_246 rfl ?_
                  refine ga_dup 248 C.c rfl dX4_goes_247 rfl ?_
                  refine xa_get 251 5 2 C rfl (T := TX4) rfl in_X4 (by decide) q488 rfl rfl dX4_goes_248 rfl ?_
                  refine ga_iconst 252 C.c (v := 1) (by decide) dX4_goes_251 rfl ?_
                  refine ga_iadd 253 C.c dX4_goes_252 rfl ?_
                  refine xa_put 256 5 2 C (ty := tyX4) tyX4_ok nmX4 rfl (xa_set12 _) rfl in_X4 (by decide) q488 rfl rfl rfl (Nat.le_of_ble_eq_true rfl) dX4_goes_253 rfl ?_
                  refine ga_aload_n 257 C.c 0 rfl rfl dX4_goes_256 rfl ?_
                  refine ga_dup 258 C.c rfl dX4_goes_257 rfl ?_
                  refine xa_get 261 5 3 C rfl (T := TX4) rfl in_X4 (by decide) q490 rfl rfl dX4_goes_258 rfl ?_
                  refine ga_iload 263 C.c rfl dX4_goes_261 rfl ?_
                  refine ga_iconst 264 C.c (v := (-1)) (by decide) dX4_goes_263 rfl ?_
                  obtain ⟨v38, hg39, hf⟩ := pu_l1_w hf
                  refine ga_cut 272 (I2 := xw_I E X (msi z25 12 ((mi z25 12) + 1))) (k2 := 0) (n2 := 0) (lo2 := [some (.ref (xg X 5)), none, none, some (.int (v12 ||| ((1 : Int32) <<< (v13 &&& 31)))), none, none, some (.int v15), some (.int v32), some (.int v34)]) (st2 := [.int v38, .int (mi (msi z25 12 ((mi z25 12) + 1)) 13), .ref (xg X 5)]) ?_ (fun hj40 => ?_)
                  · refine ga_iadd 273 C.c dX4_goes_272 rfl ?_
                    refine xa_put 276 5 3 C (ty := tyX4) tyX4_ok nmX4 rfl (xa_set13 _) rfl in_X4 (by decide) q490 rfl rfl rfl (Nat.le_of_ble_eq_true rfl) dX4_goes_273 rfl ?_
                    refine ga_aload_n 277 C.c 0 rfl rfl dX4_goes_276 rfl ?_
                    refine ga_dup 278 C.c rfl dX4_goes_277 rfl ?_
                    refine xa_get 281 5 5 C rfl (T := TX4) rfl in_X4 (by decide) q494 rfl rfl dX4_goes_278 rfl ?_
                    refine ga_iload 283 C.c rfl dX4_goes_281 rfl ?_
                    refine ga_iconst 284 C.c (v := (-1)) (by decide) dX4_goes_283 rfl ?_
                    obtain ⟨v42, hg43, hf⟩ := pu_l1_w hf
                    refine ga_cut 295 (I2 := xw_I E X (msi (msi z25 12 ((mi z25 12) + 1)) 13 ((mi (msi z25 12 ((mi z25 12) + 1)) 13) + v38))) (k2 := 0) (n2 := 0) (lo2 := [some (.ref (xg X 5)), none, none, some (.int (v12 ||| ((1 : Int32) <<< (v13 &&& 31)))), none, none, some (.int v15), none, some (.int v34)]) (st2 := [.int v42, .int (mi (msi (msi z25 12 ((mi z25 12) + 1)) 13 ((mi (msi z25 12 ((mi z25 12) + 1)) 13) + v38)) 15), .ref (xg X 5)]) ?_ (fun hj44 => ?_)
                    · refine ga_ior 296 C.c dX4_goes_295 rfl ?_
                      refine xa_put 299 5 5 C (ty := tyX4) tyX4_ok nmX4 rfl (xa_set15 _) rfl in_X4 (by decide) q494 rfl rfl rfl (Nat.le_of_ble_eq_true rfl) dX4_goes_296 rfl ?_
                      refine ga_aload_n 300 C.c 0 rfl rfl dX4_goes_299 rfl ?_
                      refine ga_iload 302 C.c rfl dX4_goes_300 rfl ?_
                      refine ga_iconst 303 C.c (v := 1) (by decide) dX4_goes_302 rfl ?_
                      refine ga_iadd 304 C.c dX4_goes_303 rfl ?_
                      refine xa_put 307 5 7 C (ty := tyX4) tyX4_ok nmX4 rfl (xa_set17 _) rfl in_X4 (by decide) q498 rfl rfl rfl (Nat.le_of_ble_eq_true rfl) dX4_goes_304 rfl ?_
                      refine ga_iload 309 C.c rfl dX4_goes_307 rfl ?_
                      refine ga_iconst 310 C.c (v := (-1)) (by decide) dX4_goes_309 rfl ?_
                      refine ga_icmp_ne 318 313 C.c dX4_goes_310 (by decide) rfl (fun c => ?_) (fun c => ?_)
                      · have hf := pu_neg c hf
                        refine ga_aload_n 319 C.c 0 rfl rfl dX4_goes_318 rfl ?_
                        refine xa_get 322 5 8 C rfl (T := TX4) rfl in_X4 (by decide) q499 rfl rfl dX4_goes_319 rfl ?_
                        refine xa_getN 325 0 7 C rfl (T := TX0) rfl in_X0 (by decide) q561 rfl rfl dX4_goes_322 rfl ?_
                        refine xa_getN 328 2 3 C rfl (T := TX3) rfl in_X3 (by decide) q448 rfl rfl dX4_goes_325 rfl ?_
                        refine ga_iload 330 C.c rfl dX4_goes_328 rfl ?_
                        refine xa_callSN 333 C (as := [.int (mi (msi (msi (msi (msi z25 12 ((mi z25 12) + 1)) 13 ((mi (msi z25 12 ((mi z25 12) + 1)) 13) + v38)) 15 ((mi (msi (msi z25 12 ((mi z25 12) + 1)) 13 ((mi (msi z25 12 ((mi z25 12) + 1)) 13) + v38)) 15) ||| v42)) 17 (v15 + 1)) 6), .int v34]) (met_X0_isOn (eL E) _ _) q1103 q1104 q93 q1105 cd_X0_isOn rfl (Nat.le_of_ble_eq_true rfl) (Nat.le_of_ble_eq_true rfl) (Nat.le_of_ble_eq_true rfl) dX4_goes_330 rfl ?_
                        refine ga_if_eq 341 336 C.c dX4_goes_333 (by decide) rfl (fun c => ?_) (fun c => ?_)
                        · have hf := pu_pos c hf
                          refine ga_iload 343 C.c rfl dX4_goes_341 rfl ?_
                          refine ga_istore 345 C.c 4 (by decide) rfl dX4_goes_343 rfl ?_
                          refine ga_iconst 346 C.c (v := 0) (by decide) dX4_goes_345 rfl ?_
                          refine ga_istore 348 C.c 5 (by decide) rfl dX4_goes_346 rfl ?_
                          refine ga_iinc 351 C.c (v := v15 + 1) rfl rfl (by decide) rfl dX4_goes_348 rfl ?_
                          refine ga_goto 77 C.c dX4_goes_351 (by decide) ?_
                          exact ga_W.sub (kc17 _ (Option.some.inj hf).symm) (And.intro rfl (And.intro rfl (And.intro rfl (And.intro rfl (And.intro rfl trivial)))))
                        · have hf := pu_neg c hf
                          refine ga_bipush 338 C.c (v := 11) (by decide) dX4_goes_336 rfl ?_
                          refine ga_goto 343 C.c dX4_goes_338 (by decide) ?_
                          refine ga_istore 345 C.c 4 (by decide) rfl dX4_goes_343 rfl ?_
                          refine ga_iconst 346 C.c (v := 0) (by decide) dX4_goes_345 rfl ?_
                          refine ga_istore 348 C.c 5 (by decide) rfl dX4_goes_346 rfl ?_
                          refine ga_iinc 351 C.c (v := v15 + 1) rfl rfl (by decide) rfl dX4_goes_348 rfl ?_
                          refine ga_goto 77 C.c dX4_goes_351 (by decide) ?_
                          exact ga_W.sub (kc17 _ (Option.some.inj hf).symm) (And.intro rfl (And.intro rfl (And.intro rfl (And.intro rfl (And.intro rfl trivial)))))
                      · have hf := pu_pos c hf
                        refine ga_bipush 315 C.c (v := 10) (by decide) dX4_goes_313 rfl ?_
                        refine ga_goto 343 C.c dX4_goes_315 (by decide) ?_
                        refine ga_istore 345 C.c 4 (by decide) rfl dX4_goes_343 rfl ?_
                        refine ga_iconst 346 C.c (v := 0) (by decide) dX4_goes_345 rfl ?_
                        refine ga_istore 348 C.c 5 (by decide) rfl dX4_goes_346 rfl ?_
                        refine ga_iinc 351 C.c (v := v15 + 1) rfl rfl (by decide) rfl dX4_goes_348 rfl ?_
                        refine ga_goto 77 C.c dX4_goes_351 (by decide) ?_
                        exact ga_W.sub (kc17 _ (Option.some.inj hf).symm) (And.intro rfl (And.intro rfl (And.intro rfl (And.intro rfl (And.intro rfl trivial)))))
                    · have hf := hg43
                      refine ga_icmp_ne 291 287 C.c dX4_goes_284 (by decide) rfl (fun c => ?_) (fun c => ?_)
                      · have hf := pu_neg c hf
                        refine ga_iconst 292 C.c (v := 1) (by decide) dX4_goes_291 rfl ?_
                        refine ga_iload 294 C.c rfl dX4_goes_292 rfl ?_
                        refine ga_ishl 295 C.c dX4_goes_294 rfl ?_
                        cases hf
                        exact ga_W.sub hj44 (And.intro rfl (And.intro rfl (And.intro rfl (And.intro rfl trivial))))
                      · have hf := pu_pos c hf
                        refine ga_iconst 288 C.c (v := 0) (by decide) dX4_goes_287 rfl ?_
                        refine ga_goto 295 C.c dX4_goes_288 (by decide) ?_
                        cases hf
                        exact ga_W.sub hj44 (And.intro rfl (And.intro rfl (And.intro rfl (And.intro rfl trivial))))
                  · have hf := hg39
                    refine ga_icmp_ne 271 267 C.c dX4_goes_264 (by decide) rfl (fun c => ?_) (fun c => ?_)
                    · have hf := pu_neg c hf
                      refine ga_iconst 272 C.c (v := 1) (by decide) dX4_goes_271 rfl ?_
                      cases hf
                      exact ga_W.sub hj40 (And.intro rfl (And.intro rfl (And.intro rfl (And.intro rfl (And.intro rfl trivial)))))
                    · have hf := pu_pos c hf
                      refine ga_iconst 268 C.c (v := 0) (by decide) dX4_goes_267 rfl ?_
                      refine ga_goto 272 C.c dX4_goes_268 (by decide) ?_
                      cases hf
                      exact ga_W.sub hj40 (And.intro rfl (And.intro rfl (And.intro rfl (And.intro rfl (And.intro rfl trivial)))))
                · have hf := hg35
                  refine ga_icmp_ne 232 217 C.c dX4_goes_214 (by decide) rfl (fun c => ?_) (fun c => ?_)
                  · have hf := pu_neg c hf
                    refine ga_aload_n 233 C.c 0 rfl rfl dX4_goes_232 rfl ?_
                    refine xa_get 236 5 8 C rfl (T := TX4) rfl in_X4 (by decide) q499 rfl rfl dX4_goes_233 rfl ?_
                    refine ga_iload 238 C.c rfl dX4_goes_236 rfl ?_
                    obtain ⟨hc47, hf⟩ := pu_b0_w hf
                    refine xa_callVN 241 0 C (as := [.int v32]) (met_X0_joinOf (eL E) X _ _ hc47) rfl (T := TX0) rfl q1118 q1052 qs26 q93 q1053 cd_X0_joinOf rfl (Nat.le_of_ble_eq_true rfl) (Nat.le_of_ble_eq_true rfl) (Nat.le_of_ble_eq_true rfl) dX4_goes_238 rfl ?_
                    refine xd_getN 244 1 C (C.d1 (xjoin_lt hc47)) (T := TX10) (N := 4) rfl in_X10 (by decide) q904 rfl rfl dX4_goes_241 rfl ?_
                    cases hf
                    exact ga_W.sub hj36 (And.intro rfl (And.intro rfl (And.intro rfl (And.intro rfl trivial))))
                  · have hf := pu_pos c hf
                    refine ga_aload_n 218 C.c 0 rfl rfl dX4_goes_217 rfl ?_
                    refine xa_get 221 5 8 C rfl (T := TX4) rfl in_X4 (by decide) q499 rfl rfl dX4_goes_218 rfl ?_
                    refine ga_iload 223 C.c rfl dX4_goes_221 rfl ?_
                    obtain ⟨hc48, hf⟩ := pu_b0_w hf
                    refine xa_callVN 226 0 C (as := [.int v13]) (met_X0_one (eL E) X _ _ hc48) rfl (T := TX0) rfl q1111 q1022 qs24 q93 q1023 cd_X0_one rfl (Nat.le_of_ble_eq_true rfl) (Nat.le_of_ble_eq_true rfl) (Nat.le_of_ble_eq_true rfl) dX4_goes_223 rfl ?_
                    refine xd_getN 229 0 C (C.d0 (xone_lt hc48)) (T := TX9) (N := 3) rfl in_X9 (by decide) q803 rfl rfl dX4_goes_226 rfl ?_
                    refine ga_goto 244 C.c dX4_goes_229 (by decide) ?_
                    cases hf
                    exact ga_W.sub hj36 (And.intro rfl (And.intro rfl (And.intro rfl (And.intro rfl trivial))))
              · have hf := pu_neg c hf
                refine ga_goto 348 C.c dX4_goes_192 (by decide) ?_
                refine ga_iinc 351 C.c (v := v15 + 1) rfl rfl (by decide) rfl dX4_goes_348 rfl ?_
                refine ga_goto 77 C.c dX4_goes_351 (by decide) ?_
                exact ga_W.sub (kc17 _ (Option.some.inj hf).symm) (And.intro rfl (And.intro rfl (And.intro rfl (And.intro rfl (And.intro rfl trivial)))))
            · have hf := pu_neg c hf
              refine ga_aload_n 160 C.c 0 rfl rfl dX4_goes_159 rfl ?_
              refine ga_dup 161 C.c rfl dX4_goes_160 rfl ?_
              refine xa_get 164 5 4 C rfl (T := TX4) rfl in_X4 (by decide) q492 rfl rfl dX4_goes_161 rfl ?_
              refine ga_iconst 165 C.c (v := 1) (by decide) dX4_goes_164 rfl ?_
              refine ga_iadd 166 C.c dX4_goes_165 rfl ?_
              refine xa_put 169 5 4 C (ty := tyX4) tyX4_ok nmX4 rfl (xa_set14 _) rfl in_X4 (by decide) q492 rfl rfl rfl (Nat.le_of_ble_eq_true rfl) dX4_goes_166 rfl ?_
              refine ga_goto 348 C.c dX4_goes_169 (by decide) ?_
              refine ga_iinc 351 C.c (v := v15 + 1) rfl rfl (by decide) rfl dX4_goes_348 rfl ?_
              refine ga_goto 77 C.c dX4_goes_351 (by decide) ?_
              exact ga_W.sub (kc17 _ (Option.some.inj hf).symm) (And.intro rfl (And.intro rfl (And.intro rfl (And.intro rfl (And.intro rfl trivial)))))
          · have hf := hg26
            refine ga_if_eq 135 112 C.c dX4_goes_109 (by decide) rfl (fun c => ?_) (fun c => ?_)
            · have hf := pu_pos c hf
              cases hf
              exact ga_W.sub hj27 (And.intro rfl (And.intro rfl (And.intro rfl (And.intro rfl (And.intro rfl trivial)))))
            · have hf := pu_neg c hf
              refine ga_iload_n 113 C.c 3 rfl rfl dX4_goes_112 rfl ?_
              refine ga_iload 115 C.c rfl dX4_goes_113 rfl ?_
              refine xa_callSN 118 C (as := [.int v12, .int v13]) (met_X0_isOn (eL E) _ _) q1103 q1104 q93 q1105 cd_X0_isOn rfl (Nat.le_of_ble_eq_true rfl) (Nat.le_of_ble_eq_true rfl) (Nat.le_of_ble_eq_true rfl) dX4_goes_115 rfl ?_
              refine ga_if_eq 135 121 C.c dX4_goes_118 (by decide) rfl (fun c => ?_) (fun c => ?_)
              · have hf := pu_pos c hf
                cases hf
                exact ga_W.sub hj27 (And.intro rfl (And.intro rfl (And.intro rfl (And.intro rfl (And.intro rfl trivial)))))
              · have hf := pu_neg c hf
                refine ga_aload_n 122 C.c 0 rfl rfl dX4_goes_121 rfl ?_
                refine xa_get 125 5 6 C rfl (T := TX4) rfl in_X4 (by decide) q496 rfl rfl dX4_goes_122 rfl ?_
                refine ga_iconst 126 C.c (v := (-1)) (by decide) dX4_goes_125 rfl ?_
                refine ga_icmp_ne 135 129 C.c dX4_goes_126 (by decide) rfl (fun c => ?_) (fun c => ?_)
                · have hf := pu_neg c hf
                  cases hf
                  exact ga_W.sub hj27 (And.intro rfl (And.intro rfl (And.intro rfl (And.intro rfl (And.intro rfl trivial)))))
                · have hf := pu_pos c hf
                  refine ga_aload_n 130 C.c 0 rfl rfl dX4_goes_129 rfl ?_
                  refine ga_iload 132 C.c rfl dX4_goes_130 rfl ?_
                  refine xa_put 135 5 6 C (ty := tyX4) tyX4_ok nmX4 rfl (xa_set16 _) rfl in_X4 (by decide) q496 rfl rfl rfl (Nat.le_of_ble_eq_true rfl) dX4_goes_132 rfl ?_
                  cases hf
                  exact ga_W.sub hj27 (And.intro rfl (And.intro rfl (And.intro rfl (And.intro rfl (And.intro rfl trivial)))))
        · have hf := pu_neg c hf
          refine ga_goto 348 C.c dX4_goes_100 (by decide) ?_
          refine ga_iinc 351 C.c (v := v15 + 1) rfl rfl (by decide) rfl dX4_goes_348 rfl ?_
          refine ga_goto 77 C.c dX4_goes_351 (by decide) ?_
          exact ga_W.sub (kc17 _ (Option.some.inj hf).symm) (And.intro rfl (And.intro rfl (And.intro rfl (And.intro rfl (And.intro rfl trivial)))))
  · have hf := hg9
    refine ga_if_eq 63 58 C.c dX4_goes_55 (by decide) rfl (fun c => ?_) (fun c => ?_)
    · have hf := pu_pos c hf
      refine ga_iload_n 64 C.c 1 rfl rfl dX4_goes_63 rfl ?_
      cases hf
      exact ga_W.sub hj10 (And.intro rfl (And.intro rfl (And.intro rfl trivial)))
    · have hf := pu_neg c hf
      refine ga_bipush 60 C.c (v := 11) (by decide) dX4_goes_58 rfl ?_
      refine ga_goto 64 C.c dX4_goes_60 (by decide) ?_
      cases hf
      exact ga_W.sub hj10 (And.intro rfl (And.intro rfl (And.intro rfl trivial)))
