set_option maxRecDepth 100000
set_option maxHeartbeats 4000000 in
theorem met_X0_put (l : Launch) (X : XX) (z : MS) (a1 : Int32) (a2 : Int32) (z9 : MS) (hf : fX0_put (xp X) z a1 a2 = some z9) : Met l yX0_put (ws_ yX0_put cX0_put 3 (some (.object "QuotedRiver$Stick"))) ({ frames := 6, cells := 0, slots := 0, locals := 154 } : Room) (xw_Pc X z [.ref (xg X 0), .int a1, .int a2]) (xw_Qc X z9 (some (.ref (xg X 5)))) 0 0 (xw_A (xg X)) := by
  refine xw_of (RX := RX0) (lo := [some (.ref (xg X 0)), some (.int a1), some (.int a2)]) (by decide) rfl (Nat.le_of_ble_eq_true rfl) rfl (fun E C hr hlk hq => ?_)
  unfold fX0_put at hf
  refine ga_aload_n 1 C.c 0 rfl rfl dX0_put_0 rfl ?_
  refine xa_get 4 0 7 C rfl (T := TX0) rfl in_X0 (by decide) q562 rfl rfl dX0_put_1 rfl ?_
  obtain ⟨z1, hc2, hf⟩ := pu_b1_w hf
  refine xa_callV 7 2 C (as := []) (met_X3_is (eL E) X _ _ hc2) rfl (T := TX3) rfl (lw_V q1059 q1060 q1061 q99 q1062) cd_X3_is rfl (Nat.le_of_ble_eq_true rfl) (Nat.le_of_ble_eq_true rfl) (Nat.le_of_ble_eq_true rfl) dX0_put_4 rfl ?_
  refine ga_pop 8 C.c rfl dX0_put_7 rfl ?_
  refine ga_aload_n 9 C.c 0 rfl rfl dX0_put_8 rfl ?_
  refine xa_get 12 0 8 C rfl (T := TX0) rfl in_X0 (by decide) q564 rfl rfl dX0_put_9 rfl ?_
  refine ga_iload_n 13 C.c 1 rfl rfl dX0_put_12 rfl ?_
  refine ga_iload_n 14 C.c 2 rfl rfl dX0_put_13 rfl ?_
  obtain ⟨z3, hc4, hf⟩ := pu_b1_w hf
  refine xa_callV 17 5 C (as := [.int a1, .int a2]) (met_X4_goes_s (eL E) X _ _ _ _ hc4) rfl (T := TX4) rfl (lw_V q1098 q1099 q1100 q100 q1101) cd_X4_goes_s rfl (Nat.le_of_ble_eq_true rfl) (Nat.le_of_ble_eq_true rfl) (Nat.le_of_ble_eq_true rfl) dX0_put_14 rfl ?_
  have hf := Option.some.inj hf
  cases hf
  exact xw_aret C hr hlk hq rfl rfl dX0_put_17
set_option maxHeartbeats 4000000 in
theorem met_X0_alike (l : Launch) (X : XX) (z : MS) (a1 : Int32) (a2 : Int32) (r : Int32) (z9 : MS) (hf : fX0_alike (xp X) z a1 a2 = some (r, z9)) : Met l yX0_alike (ws_ yX0_alike cX0_alike 5 (some .int)) ({ frames := 7, cells := 0, slots := 0, locals := 176 } : Room) (xw_Pc X z [.ref (xg X 0), .int a1, .int a2]) (xw_Qc X z9 (some (.int r))) 0 0 (xw_A (xg X)) := by
  refine xw_of (RX := RX0) (lo := [some (.ref (xg X 0)), some (.int a1), some (.int a2), none, none]) (by decide) rfl (Nat.le_of_ble_eq_true rfl) rfl (fun E C hr hlk hq => ?_)
  unfold fX0_alike at hf
  refine ga_aload_n 1 C.c 0 rfl rfl dX0_alike_0 rfl ?_
  refine ga_iload_n 2 C.c 1 rfl rfl dX0_alike_1 rfl ?_
  refine ga_iload_n 3 C.c 2 rfl rfl dX0_alike_2 rfl ?_
  refine xa_callV 6 0 C (as := [.int a1, .int a2]) (met_X0_areReaches (eL E) X _ _ _) rfl (T := TX0) rfl (lw_V q1090 q1092 qs28 q93 q1093) cd_X0_areReaches rfl (Nat.le_of_ble_eq_true rfl) (Nat.le_of_ble_eq_true rfl) (Nat.le_of_ble_eq_true rfl) dX0_alike_3 rfl ?_
  refine ga_if_ne 12 9 C.c dX0_alike_6 (by decide) rfl (fun c => ?_) (fun c => ?_)
  · have hf := pu_neg c hf
    refine ga_aload_n 13 C.c 0 rfl rfl dX0_alike_12 rfl ?_
    refine ga_iload_n 14 C.c 1 rfl rfl dX0_alike_13 rfl ?_
    refine ga_iconst 15 C.c (v := 0) (by decide) dX0_alike_14 rfl ?_
    obtain ⟨z1, hc2, hf⟩ := pu_b1_w hf
    refine xa_callV 18 0 C (as := [.int a1, .int 0]) (met_X0_put (eL E) X _ _ _ _ hc2) rfl (T := TX0) rfl (lw_V q1094 q1096 qs29 q93 q1097) cd_X0_put rfl (Nat.le_of_ble_eq_true rfl) (Nat.le_of_ble_eq_true rfl) (Nat.le_of_ble_eq_true rfl) dX0_alike_15 rfl ?_
    refine ga_pop 19 C.c rfl dX0_alike_18 rfl ?_
    refine ga_aload_n 20 C.c 0 rfl rfl dX0_alike_19 rfl ?_
    refine xa_get 23 0 9 C rfl (T := TX0) rfl in_X0 (by decide) q565 rfl rfl dX0_alike_20 rfl ?_
    refine ga_iload_n 24 C.c 2 rfl rfl dX0_alike_23 rfl ?_
    refine ga_iconst 25 C.c (v := 0) (by decide) dX0_alike_24 rfl ?_
    obtain ⟨z3, hc4, hf⟩ := pu_b1_w hf
    refine xa_callV 28 7 C (as := [.int a2, .int 0]) (met_X4_goes_o (eL E) X _ _ _ _ hc4) rfl (T := TX4) rfl (lw_V q1098 q1099 q1100 q100 q1101) cd_X4_goes_o rfl (Nat.le_of_ble_eq_true rfl) (Nat.le_of_ble_eq_true rfl) (Nat.le_of_ble_eq_true rfl) dX0_alike_25 rfl ?_
    refine ga_pop 29 C.c rfl dX0_alike_28 rfl ?_
    refine ga_iconst 30 C.c (v := 0) (by decide) dX0_alike_29 rfl ?_
    refine ga_istore_n 31 C.c 3 rfl (by decide) rfl dX0_alike_30 rfl ?_
    refine ga_iconst 32 C.c (v := 0) (by decide) dX0_alike_31 rfl ?_
    refine ga_istore 34 C.c 4 (by decide) rfl dX0_alike_32 rfl ?_
    obtain ⟨v20, hi13, hf⟩ := pu_b1_w hf
    refine ga_cut 93 (I2 := xw_I E X z3) (k2 := 0) (n2 := 0) (lo2 := [none, none, none, some (.int v20), none]) (st2 := []) ?_ (fun hj12 => ?_)
    · refine ga_iload_n 94 C.c 3 rfl rfl dX0_alike_93 rfl ?_
      have hf := Option.some.inj hf
      cases hf
      exact xw_iret C hr hlk hq rfl rfl rfl dX0_alike_94
    · refine ga_W.sub (pu_it_w (Wd := fun (q : Int32 × Int32) => ga_W E 5 (xw_I E X z3) 0 0 34 [some (.ref (xg X 0)), none, none, some (.int q.1), some (.int q.2)] []) (Wx := fun e => e = (v20)) (fun q x hf kc8 kx9 => ?_) hi13 rfl) (And.intro rfl (And.intro rfl (And.intro rfl trivial)))
      obtain ⟨v6, v7⟩ := q
      try dsimp only
      unfold fX0_alike_L34 at hf
      refine ga_iload 36 C.c rfl dX0_alike_34 rfl ?_
      refine ga_bipush 38 C.c (v := 60) (by decide) dX0_alike_36 rfl ?_
      refine ga_icmp_gt 93 41 C.c dX0_alike_38 (by decide) rfl (fun c => ?_) (fun c => ?_)
      · have hf := pu_pos c hf
        cases (kx9 _ (Option.some.inj hf).symm)
        exact ga_W.sub hj12 (And.intro rfl trivial)
      · have hf := pu_neg c hf
        refine ga_iload_n 42 C.c 3 rfl rfl dX0_alike_41 rfl ?_
        refine ga_aload_n 43 C.c 0 rfl rfl dX0_alike_42 rfl ?_
        refine xa_get 46 0 8 C rfl (T := TX0) rfl in_X0 (by decide) q564 rfl rfl dX0_alike_43 rfl ?_
        refine xa_getN 49 5 0 C rfl (T := TX4) rfl in_X4 (by decide) q486 rfl rfl dX0_alike_46 rfl ?_
        refine ga_iload 51 C.c rfl dX0_alike_49 rfl ?_
        obtain ⟨h14, hf⟩ := pu_g_w hf
        refine xa_iald 52 3 6 61 C rfl h14 dX0_alike_51 rfl ?_
        refine ga_bipush 54 C.c (v := 10) (by decide) dX0_alike_52 rfl ?_
        refine ga_icmp_ge 84 57 C.c dX0_alike_54 (by decide) rfl (fun c => ?_) (fun c => ?_)
        · have hf := pu_pos c hf
          refine ga_iconst 85 C.c (v := 0) (by decide) dX0_alike_84 rfl ?_
          refine ga_iadd 86 C.c dX0_alike_85 rfl ?_
          refine ga_istore_n 87 C.c 3 rfl (by decide) rfl dX0_alike_86 rfl ?_
          obtain ⟨_, rfl, hf⟩ := pu_l1_w hf
          refine ga_iinc 90 C.c (v := v7 + 1) rfl rfl (by decide) rfl dX0_alike_87 rfl ?_
          refine ga_goto 34 C.c dX0_alike_90 (by decide) ?_
          exact ga_W.sub (kc8 _ (Option.some.inj hf).symm) (And.intro rfl (And.intro rfl (And.intro rfl trivial)))
        · have hf := pu_neg c hf
          refine ga_aload_n 58 C.c 0 rfl rfl dX0_alike_57 rfl ?_
          refine xa_get 61 0 8 C rfl (T := TX0) rfl in_X0 (by decide) q564 rfl rfl dX0_alike_58 rfl ?_
          refine xa_getN 64 5 0 C rfl (T := TX4) rfl in_X4 (by decide) q486 rfl rfl dX0_alike_61 rfl ?_
          refine ga_iload 66 C.c rfl dX0_alike_64 rfl ?_
          obtain ⟨h16, hf⟩ := pu_g_w hf
          refine xa_iald 67 3 6 61 C rfl h16 dX0_alike_66 rfl ?_
          refine ga_aload_n 68 C.c 0 rfl rfl dX0_alike_67 rfl ?_
          refine xa_get 71 0 9 C rfl (T := TX0) rfl in_X0 (by decide) q565 rfl rfl dX0_alike_68 rfl ?_
          refine xa_getN 74 7 0 C rfl (T := TX4) rfl in_X4 (by decide) q486 rfl rfl dX0_alike_71 rfl ?_
          refine ga_iload 76 C.c rfl dX0_alike_74 rfl ?_
          obtain ⟨h17, hf⟩ := pu_g_w hf
          refine xa_iald 77 13 8 61 C rfl h17 dX0_alike_76 rfl ?_
          refine ga_icmp_ne 84 80 C.c dX0_alike_77 (by decide) rfl (fun c => ?_) (fun c => ?_)
          · have hf := pu_neg c hf
            refine ga_iconst 85 C.c (v := 0) (by decide) dX0_alike_84 rfl ?_
            refine ga_iadd 86 C.c dX0_alike_85 rfl ?_
            refine ga_istore_n 87 C.c 3 rfl (by decide) rfl dX0_alike_86 rfl ?_
            obtain ⟨_, rfl, hf⟩ := pu_l1_w hf
            refine ga_iinc 90 C.c (v := v7 + 1) rfl rfl (by decide) rfl dX0_alike_87 rfl ?_
            refine ga_goto 34 C.c dX0_alike_90 (by decide) ?_
            exact ga_W.sub (kc8 _ (Option.some.inj hf).symm) (And.intro rfl (And.intro rfl (And.intro rfl trivial)))
          · have hf := pu_pos c hf
            refine ga_iconst 81 C.c (v := 1) (by decide) dX0_alike_80 rfl ?_
            refine ga_goto 85 C.c dX0_alike_81 (by decide) ?_
            refine ga_iadd 86 C.c dX0_alike_85 rfl ?_
            refine ga_istore_n 87 C.c 3 rfl (by decide) rfl dX0_alike_86 rfl ?_
            obtain ⟨_, rfl, hf⟩ := pu_l1_w hf
            refine ga_iinc 90 C.c (v := v7 + 1) rfl rfl (by decide) rfl dX0_alike_87 rfl ?_
            refine ga_goto 34 C.c dX0_alike_90 (by decide) ?_
            exact ga_W.sub (kc8 _ (Option.some.inj hf).symm) (And.intro rfl (And.intro rfl (And.intro rfl trivial)))
  · have hf := pu_pos c hf
    refine ga_bipush 11 C.c (v := (-2)) (by decide) dX0_alike_9 rfl ?_
    have hf := Option.some.inj hf
    cases hf
    exact xw_iret C hr hlk hq rfl rfl rfl dX0_alike_11
set_option maxHeartbeats 4000000 in
theorem met_X0_isStep (l : Launch) (X : XX) (z : MS) (a1 : Int64) : Met l yX0_isStep (ws_ yX0_isStep cX0_isStep 3 (some .boolean)) ({ frames := 2, cells := 0, slots := 0, locals := 60 } : Room) (xw_Pc X z [.ref (xg X 0), .long a1]) (xw_Qc X z (some (.int (fX0_isStep (xp X) z a1)))) 0 0 (xw_A (xg X)) := by
  obtain ⟨r, hf⟩ : ∃ r, fX0_isStep (xp X) z a1 = r := ⟨_, rfl⟩
  rw [hf]
  refine xw_of (RX := RX0) (lo := [some (.ref (xg X 0)), some (.long a1), none]) (by decide) rfl (Nat.le_of_ble_eq_true rfl) rfl (fun E C hr hlk hq => ?_)
  unfold fX0_isStep at hf
  refine ga_aload_n 1 C.c 0 rfl rfl dX0_isStep_0 rfl ?_
  refine xa_get 4 0 1 C rfl (T := TX0) rfl in_X0 (by decide) q554 rfl rfl dX0_isStep_1 rfl ?_
  refine xa_ris 7 C q997 (Nat.le_of_ble_eq_true rfl) (Nat.le_of_ble_eq_true rfl) (Nat.le_of_ble_eq_true rfl) dX0_isStep_4 rfl ?_
  refine ga_if_eq 25 10 C.c dX0_isStep_7 (by decide) rfl (fun c => ?_) (fun c => ?_)
  · have hf := pu_pos c hf
    refine ga_iconst 26 C.c (v := 0) (by decide) dX0_isStep_25 rfl ?_
    cases hf
    exact xw_iret C hr hlk hq rfl rfl rfl dX0_isStep_26
  · have hf := pu_neg c hf
    refine ga_lload_n 11 C.c 1 rfl rfl dX0_isStep_10 rfl ?_
    refine ga_lconst 12 C.c (v := 0) (by decide) dX0_isStep_11 rfl ?_
    refine ga_ldc2 15 C.c C.ow (C.ts _ q1127) dX0_isStep_12 rfl ?_
    refine xa_callS 18 C (as := [.long a1, .long 0, .long 60]) (met_X0_in (eL E) _ _ _) (lw_S q136 q137 q93 q138) cd_X0_in rfl (Nat.le_of_ble_eq_true rfl) (Nat.le_of_ble_eq_true rfl) (Nat.le_of_ble_eq_true rfl) dX0_isStep_15 rfl ?_
    refine ga_if_eq 25 21 C.c dX0_isStep_18 (by decide) rfl (fun c => ?_) (fun c => ?_)
    · have hf := pu_pos c hf
      refine ga_iconst 26 C.c (v := 0) (by decide) dX0_isStep_25 rfl ?_
      cases hf
      exact xw_iret C hr hlk hq rfl rfl rfl dX0_isStep_26
    · have hf := pu_neg c hf
      refine ga_iconst 22 C.c (v := 1) (by decide) dX0_isStep_21 rfl ?_
      refine ga_goto 26 C.c dX0_isStep_22 (by decide) ?_
      cases hf
      exact xw_iret C hr hlk hq rfl rfl rfl dX0_isStep_26
set_option maxHeartbeats 4000000 in
theorem met_X0_isStick (l : Launch) (X : XX) (z : MS) (a1 : Int32) (a2 : Int32) : Met l yX0_isStick (ws_ yX0_isStick cX0_isStick 3 (some .boolean)) ({ frames := 5, cells := 0, slots := 0, locals := 123 } : Room) (xw_Pc X z [.ref (xg X 0), .int a1, .int a2]) (xw_Qc X z (some (.int (fX0_isStick (xp X) z a1 a2)))) 0 0 (xw_A (xg X)) := by
  obtain ⟨r, hf⟩ : ∃ r, fX0_isStick (xp X) z a1 a2 = r := ⟨_, rfl⟩
  rw [hf]
  refine xw_of (RX := RX0) (lo := [some (.ref (xg X 0)), some (.int a1), some (.int a2)]) (by decide) rfl (Nat.le_of_ble_eq_true rfl) rfl (fun E C hr hlk hq => ?_)
  unfold fX0_isStick at hf
  refine ga_aload_n 1 C.c 0 rfl rfl dX0_isStick_0 rfl ?_
  refine ga_iload_n 2 C.c 1 rfl rfl dX0_isStick_1 rfl ?_
  refine ga_i2l 3 C.c dX0_isStick_2 rfl ?_
  refine xa_callV 6 0 C (as := [.long a1.toInt64]) (met_X0_isReach (eL E) X _ _) rfl (T := TX0) rfl (lw_V q1009 q1011 qs22 q93 q1012) cd_X0_isReach rfl (Nat.le_of_ble_eq_true rfl) (Nat.le_of_ble_eq_true rfl) (Nat.le_of_ble_eq_true rfl) dX0_isStick_3 rfl ?_
  refine ga_if_eq 22 9 C.c dX0_isStick_6 (by decide) rfl (fun c => ?_) (fun c => ?_)
  · have hf := pu_pos c hf
    refine ga_iconst 23 C.c (v := 0) (by decide) dX0_isStick_22 rfl ?_
    cases hf
    exact xw_iret C hr hlk hq rfl rfl rfl dX0_isStick_23
  · have hf := pu_neg c hf
    refine ga_aload_n 10 C.c 0 rfl rfl dX0_isStick_9 rfl ?_
    refine ga_iload_n 11 C.c 2 rfl rfl dX0_isStick_10 rfl ?_
    refine ga_i2l 12 C.c dX0_isStick_11 rfl ?_
    refine xa_callV 15 0 C (as := [.long a2.toInt64]) (met_X0_isStep (eL E) X _ _) rfl (T := TX0) rfl (lw_V q1123 q1125 qs31 q93 q1126) cd_X0_isStep rfl (Nat.le_of_ble_eq_true rfl) (Nat.le_of_ble_eq_true rfl) (Nat.le_of_ble_eq_true rfl) dX0_isStick_12 rfl ?_
    refine ga_if_eq 22 18 C.c dX0_isStick_15 (by decide) rfl (fun c => ?_) (fun c => ?_)
    · have hf := pu_pos c hf
      refine ga_iconst 23 C.c (v := 0) (by decide) dX0_isStick_22 rfl ?_
      cases hf
      exact xw_iret C hr hlk hq rfl rfl rfl dX0_isStick_23
    · have hf := pu_neg c hf
      refine ga_iconst 19 C.c (v := 1) (by decide) dX0_isStick_18 rfl ?_
      refine ga_goto 23 C.c dX0_isStick_19 (by decide) ?_
      cases hf
      exact xw_iret C hr hlk hq rfl rfl rfl dX0_isStick_23
set_option maxHeartbeats 4000000 in
theorem met_X0_from (l : Launch) (X : XX) (z : MS) (a1 : Int32) (a2 : Int32) (r : Int32) (z9 : MS) (hf : fX0_from (xp X) z a1 a2 = some (r, z9)) : Met l yX0_from (ws_ yX0_from cX0_from 5 (some .int)) ({ frames := 7, cells := 0, slots := 0, locals := 176 } : Room) (xw_Pc X z [.ref (xg X 0), .int a1, .int a2]) (xw_Qc X z9 (some (.int r))) 0 0 (xw_A (xg X)) := by
  refine xw_of (RX := RX0) (lo := [some (.ref (xg X 0)), some (.int a1), some (.int a2), none, none]) (by decide) rfl (Nat.le_of_ble_eq_true rfl) rfl (fun E C hr hlk hq => ?_)
  unfold fX0_from at hf
  refine ga_aload_n 1 C.c 0 rfl rfl dX0_from_0 rfl ?_
  refine ga_iload_n 2 C.c 1 rfl rfl dX0_from_1 rfl ?_
  refine ga_iload_n 3 C.c 2 rfl rfl dX0_from_2 rfl ?_
  refine xa_callV 6 0 C (as := [.int a1, .int a2]) (met_X0_isStick (eL E) X _ _ _) rfl (T := TX0) rfl (lw_V q1132 q1134 qs32 q93 q1135) cd_X0_isStick rfl (Nat.le_of_ble_eq_true rfl) (Nat.le_of_ble_eq_true rfl) (Nat.le_of_ble_eq_true rfl) dX0_from_3 rfl ?_
  refine ga_if_ne 12 9 C.c dX0_from_6 (by decide) rfl (fun c => ?_) (fun c => ?_)
  · have hf := pu_neg c hf
    refine ga_iconst 13 C.c (v := 0) (by decide) dX0_from_12 rfl ?_
    refine ga_istore_n 14 C.c 3 rfl (by decide) rfl dX0_from_13 rfl ?_
    refine ga_iconst 15 C.c (v := 0) (by decide) dX0_from_14 rfl ?_
    refine ga_istore 17 C.c 4 (by decide) rfl dX0_from_15 rfl ?_
    obtain ⟨v17, z18, hi11, hf⟩ := pu_b2_w hf
    refine ga_cut 59 (I2 := xw_I E X z18) (k2 := 0) (n2 := 0) (lo2 := [none, none, none, some (.int v17), none]) (st2 := []) ?_ (fun hj10 => ?_)
    · refine ga_iload_n 60 C.c 3 rfl rfl dX0_from_59 rfl ?_
      have hf := Option.some.inj hf
      cases hf
      exact xw_iret C hr hlk hq rfl rfl rfl dX0_from_60
    · refine ga_W.sub (pu_it_w (Wd := fun (q : Int32 × Int32 × MS) => ga_W E 5 (xw_I E X q.2.2) 0 0 17 [some (.ref (xg X 0)), some (.int a1), some (.int a2), some (.int q.1), some (.int q.2.1)] []) (Wx := fun e => e = (v17, z18)) (fun q x hf kc6 kx7 => ?_) hi11 rfl) (And.intro rfl (And.intro rfl (And.intro rfl (And.intro rfl (And.intro rfl trivial)))))
      obtain ⟨v3, v4, z5⟩ := q
      try dsimp only
      unfold fX0_from_L17 at hf
      refine ga_iload 19 C.c rfl dX0_from_17 rfl ?_
      refine ga_aload_n 20 C.c 0 rfl rfl dX0_from_19 rfl ?_
      refine xa_callV 23 0 C (as := []) (met_X0_reaches (eL E) X _) rfl (T := TX0) rfl (lw_V q1013 q1015 qs23 q93 q1016) cd_X0_reaches rfl (Nat.le_of_ble_eq_true rfl) (Nat.le_of_ble_eq_true rfl) (Nat.le_of_ble_eq_true rfl) dX0_from_20 rfl ?_
      refine ga_icmp_ge 59 26 C.c dX0_from_23 (by decide) rfl (fun c => ?_) (fun c => ?_)
      · have hf := pu_pos c hf
        cases (kx7 _ (Option.some.inj hf).symm)
        exact ga_W.sub hj10 (And.intro rfl trivial)
      · have hf := pu_neg c hf
        refine ga_iload_n 27 C.c 3 rfl rfl dX0_from_26 rfl ?_
        refine ga_aload_n 28 C.c 0 rfl rfl dX0_from_27 rfl ?_
        refine ga_iload 30 C.c rfl dX0_from_28 rfl ?_
        refine ga_iconst 31 C.c (v := 0) (by decide) dX0_from_30 rfl ?_
        obtain ⟨z12, hc13, hf⟩ := pu_b1_w hf
        refine xa_callV 34 0 C (as := [.int v4, .int 0]) (met_X0_put (eL E) X _ _ _ _ hc13) rfl (T := TX0) rfl (lw_V q1094 q1096 qs29 q93 q1097) cd_X0_put rfl (Nat.le_of_ble_eq_true rfl) (Nat.le_of_ble_eq_true rfl) (Nat.le_of_ble_eq_true rfl) dX0_from_31 rfl ?_
        refine xa_getN 37 5 0 C rfl (T := TX4) rfl in_X4 (by decide) q486 rfl rfl dX0_from_34 rfl ?_
        refine ga_iload_n 38 C.c 2 rfl rfl dX0_from_37 rfl ?_
        obtain ⟨h14, hf⟩ := pu_g_w hf
        refine xa_iald 39 3 6 61 C rfl h14 dX0_from_38 rfl ?_
        refine ga_iload_n 40 C.c 1 rfl rfl dX0_from_39 rfl ?_
        refine ga_icmp_ne 50 43 C.c dX0_from_40 (by decide) rfl (fun c => ?_) (fun c => ?_)
        · have hf := pu_neg c hf
          refine ga_iconst 51 C.c (v := 0) (by decide) dX0_from_50 rfl ?_
          refine ga_ior 52 C.c dX0_from_51 rfl ?_
          refine ga_istore_n 53 C.c 3 rfl (by decide) rfl dX0_from_52 rfl ?_
          obtain ⟨_, rfl, hf⟩ := pu_l1_w hf
          refine ga_iinc 56 C.c (v := v4 + 1) rfl rfl (by decide) rfl dX0_from_53 rfl ?_
          refine ga_goto 17 C.c dX0_from_56 (by decide) ?_
          exact ga_W.sub (kc6 _ (Option.some.inj hf).symm) (And.intro rfl (And.intro rfl (And.intro rfl (And.intro rfl (And.intro rfl trivial)))))
        · have hf := pu_pos c hf
          refine ga_iconst 44 C.c (v := 1) (by decide) dX0_from_43 rfl ?_
          refine ga_iload 46 C.c rfl dX0_from_44 rfl ?_
          refine ga_ishl 47 C.c dX0_from_46 rfl ?_
          refine ga_goto 51 C.c dX0_from_47 (by decide) ?_
          refine ga_ior 52 C.c dX0_from_51 rfl ?_
          refine ga_istore_n 53 C.c 3 rfl (by decide) rfl dX0_from_52 rfl ?_
          obtain ⟨_, rfl, hf⟩ := pu_l1_w hf
          refine ga_iinc 56 C.c (v := v4 + 1) rfl rfl (by decide) rfl dX0_from_53 rfl ?_
          refine ga_goto 17 C.c dX0_from_56 (by decide) ?_
          exact ga_W.sub (kc6 _ (Option.some.inj hf).symm) (And.intro rfl (And.intro rfl (And.intro rfl (And.intro rfl (And.intro rfl trivial)))))
  · have hf := pu_pos c hf
    refine ga_bipush 11 C.c (v := (-2)) (by decide) dX0_from_9 rfl ?_
    have hf := Option.some.inj hf
    cases hf
    exact xw_iret C hr hlk hq rfl rfl rfl dX0_from_11
set_option maxHeartbeats 4000000 in
theorem met_X0_size (l : Launch) (a1 : Int32) : Met l yX0_size (ws_ yX0_size cX0_size 1 (some .int)) ({ frames := 1, cells := 0, slots := 0, locals := 20 } : Room) (ps_Pc [.int a1]) (ps_Qc (some (.int (fX0_size a1)))) 0 0 (fun _ => False) := by
  obtain ⟨r, hf⟩ : ∃ r, fX0_size a1 = r := ⟨_, rfl⟩
  rw [hf]
  refine ps_of (RX := RX0) (lo := [some (.int a1)]) (by decide) rfl (Nat.le_of_ble_eq_true rfl) rfl (fun E C hr hlk hq => ?_)
  unfold fX0_size at hf
  refine ga_iload_n 1 C.c 0 rfl rfl dX0_size_0 rfl ?_
  refine ps_callS 4 C (as := [.int a1]) (met_J15_bitCount (eL E) _) (lw_S q1139 q1140 q121 q1141) cd_J15_bitCount rfl (Nat.le_of_ble_eq_true rfl) (Nat.le_of_ble_eq_true rfl) (Nat.le_of_ble_eq_true rfl) dX0_size_1 rfl ?_
  cases hf
  exact ps_iret C hr hlk hq rfl rfl dX0_size_4
set_option maxHeartbeats 4000000 in
theorem met_X0_busy (l : Launch) (X : XX) (z : MS) (a1 : Int32) (r : Int32) (z9 : MS) (hf : fX0_busy (xp X) z a1 = some (r, z9)) : Met l yX0_busy (ws_ yX0_busy cX0_busy 6 (some .int)) ({ frames := 8, cells := 0, slots := 0, locals := 200 } : Room) (xw_Pc X z [.ref (xg X 0), .int a1]) (xw_Qc X z9 (some (.int r))) 0 0 (xw_A (xg X)) := by
  refine xw_of (RX := RX0) (lo := [some (.ref (xg X 0)), some (.int a1), none, none, none, none]) (by decide) rfl (Nat.le_of_ble_eq_true rfl) rfl (fun E C hr hlk hq => ?_)
  unfold fX0_busy at hf
  refine ga_aload_n 1 C.c 0 rfl rfl dX0_busy_0 rfl ?_
  refine ga_iload_n 2 C.c 1 rfl rfl dX0_busy_1 rfl ?_
  refine ga_i2l 3 C.c dX0_busy_2 rfl ?_
  refine xa_callV 6 0 C (as := [.long a1.toInt64]) (met_X0_isStep (eL E) X _ _) rfl (T := TX0) rfl (lw_V q1123 q1125 qs31 q93 q1126) cd_X0_isStep rfl (Nat.le_of_ble_eq_true rfl) (Nat.le_of_ble_eq_true rfl) (Nat.le_of_ble_eq_true rfl) dX0_busy_3 rfl ?_
  refine ga_if_ne 12 9 C.c dX0_busy_6 (by decide) rfl (fun c => ?_) (fun c => ?_)
  · have hf := pu_neg c hf
    refine ga_iconst 13 C.c (v := (-1)) (by decide) dX0_busy_12 rfl ?_
    refine ga_istore_n 14 C.c 2 rfl (by decide) rfl dX0_busy_13 rfl ?_
    refine ga_iconst 15 C.c (v := 0) (by decide) dX0_busy_14 rfl ?_
    refine ga_istore_n 16 C.c 3 rfl (by decide) rfl dX0_busy_15 rfl ?_
    refine ga_iconst 17 C.c (v := 0) (by decide) dX0_busy_16 rfl ?_
    refine ga_istore 19 C.c 4 (by decide) rfl dX0_busy_17 rfl ?_
    obtain ⟨v16, z17, hi11, hf⟩ := pu_b2_w hf
    refine ga_cut 61 (I2 := xw_I E X z17) (k2 := 0) (n2 := 0) (lo2 := [none, none, some (.int v16), none, none, none]) (st2 := []) ?_ (fun hj10 => ?_)
    · refine ga_iload_n 62 C.c 2 rfl rfl dX0_busy_61 rfl ?_
      have hf := Option.some.inj hf
      cases hf
      exact xw_iret C hr hlk hq rfl rfl rfl dX0_busy_62
    · refine ga_W.sub (pu_it_w (Wd := fun (q : Int32 × Int32 × Int32 × MS) => ga_W E 6 (xw_I E X q.2.2.2) 0 0 19 [some (.ref (xg X 0)), some (.int a1), some (.int q.1), some (.int q.2.1), some (.int q.2.2.1), none] []) (Wx := fun e => e = (v16, z17)) (fun q x hf kc6 kx7 => ?_) hi11 rfl) (And.intro rfl (And.intro rfl (And.intro rfl (And.intro rfl (And.intro rfl trivial)))))
      obtain ⟨v2, v3, v4, z5⟩ := q
      try dsimp only
      unfold fX0_busy_L19 at hf
      refine ga_iload 21 C.c rfl dX0_busy_19 rfl ?_
      refine ga_aload_n 22 C.c 0 rfl rfl dX0_busy_21 rfl ?_
      refine xa_callV 25 0 C (as := []) (met_X0_reaches (eL E) X _) rfl (T := TX0) rfl (lw_V q1013 q1015 qs23 q93 q1016) cd_X0_reaches rfl (Nat.le_of_ble_eq_true rfl) (Nat.le_of_ble_eq_true rfl) (Nat.le_of_ble_eq_true rfl) dX0_busy_22 rfl ?_
      refine ga_icmp_ge 61 28 C.c dX0_busy_25 (by decide) rfl (fun c => ?_) (fun c => ?_)
      · have hf := pu_pos c hf
        cases (kx7 _ (Option.some.inj hf).symm)
        exact ga_W.sub hj10 (And.intro rfl trivial)
      · have hf := pu_neg c hf
        refine ga_aload_n 29 C.c 0 rfl rfl dX0_busy_28 rfl ?_
        refine ga_iload 31 C.c rfl dX0_busy_29 rfl ?_
        refine ga_iload_n 32 C.c 1 rfl rfl dX0_busy_31 rfl ?_
        obtain ⟨v12, z13, hc14, hf⟩ := pu_b2_w hf
        refine xa_callV 35 0 C (as := [.int v4, .int a1]) (met_X0_from (eL E) X _ _ _ _ _ hc14) rfl (T := TX0) rfl (lw_V q1128 q1129 q1130 q93 q1131) cd_X0_from rfl (Nat.le_of_ble_eq_true rfl) (Nat.le_of_ble_eq_true rfl) (Nat.le_of_ble_eq_true rfl) dX0_busy_32 rfl ?_
        refine xa_callS 38 C (as := [.int v12]) (met_X0_size (eL E) _) (lw_S q1136 q1137 q93 q1138) cd_X0_size rfl (Nat.le_of_ble_eq_true rfl) (Nat.le_of_ble_eq_true rfl) (Nat.le_of_ble_eq_true rfl) dX0_busy_35 rfl ?_
        refine ga_istore 40 C.c 5 (by decide) rfl dX0_busy_38 rfl ?_
        obtain ⟨_, rfl, hf⟩ := pu_l1_w hf
        refine ga_iload 42 C.c rfl dX0_busy_40 rfl ?_
        refine ga_iload_n 43 C.c 3 rfl rfl dX0_busy_42 rfl ?_
        refine ga_icmp_gt 49 46 C.c dX0_busy_43 (by decide) rfl (fun c => ?_) (fun c => ?_)
        · have hf := pu_pos c hf
          refine ga_iload 51 C.c rfl dX0_busy_49 rfl ?_
          refine ga_istore_n 52 C.c 2 rfl (by decide) rfl dX0_busy_51 rfl ?_
          refine ga_iload 54 C.c rfl dX0_busy_52 rfl ?_
          refine ga_istore_n 55 C.c 3 rfl (by decide) rfl dX0_busy_54 rfl ?_
          refine ga_iinc 58 C.c (v := v4 + 1) rfl rfl (by decide) rfl dX0_busy_55 rfl ?_
          refine ga_goto 19 C.c dX0_busy_58 (by decide) ?_
          exact ga_W.sub (kc6 _ (Option.some.inj hf).symm) (And.intro rfl (And.intro rfl (And.intro rfl (And.intro rfl (And.intro rfl trivial)))))
        · have hf := pu_neg c hf
          refine ga_goto 55 C.c dX0_busy_46 (by decide) ?_
          refine ga_iinc 58 C.c (v := v4 + 1) rfl rfl (by decide) rfl dX0_busy_55 rfl ?_
          refine ga_goto 19 C.c dX0_busy_58 (by decide) ?_
          exact ga_W.sub (kc6 _ (Option.some.inj hf).symm) (And.intro rfl (And.intro rfl (And.intro rfl (And.intro rfl (And.intro rfl trivial)))))
  · have hf := pu_pos c hf
    refine ga_bipush 11 C.c (v := (-2)) (by decide) dX0_busy_9 rfl ?_
    have hf := Option.some.inj hf
    cases hf
    exact xw_iret C hr hlk hq rfl rfl rfl dX0_busy_11
set_option maxHeartbeats 4000000 in
theorem met_X0_stands (l : Launch) (X : XX) (z : MS) (a1 : Int32) (r : Int32) (z9 : MS) (hf : fX0_stands (xp X) z a1 = some (r, z9)) : Met l yX0_stands (ws_ yX0_stands cX0_stands 4 (some .int)) ({ frames := 5, cells := 0, slots := 0, locals := 124 } : Room) (xw_Pc X z [.ref (xg X 0), .int a1]) (xw_Qc X z9 (some (.int r))) 0 0 (xw_A (xg X)) := by
  refine xw_of (RX := RX0) (lo := [some (.ref (xg X 0)), some (.int a1), none, none]) (by decide) rfl (Nat.le_of_ble_eq_true rfl) rfl (fun E C hr hlk hq => ?_)
  unfold fX0_stands at hf
  refine ga_aload_n 1 C.c 0 rfl rfl dX0_stands_0 rfl ?_
  refine ga_iload_n 2 C.c 1 rfl rfl dX0_stands_1 rfl ?_
  refine ga_i2l 3 C.c dX0_stands_2 rfl ?_
  refine xa_callV 6 0 C (as := [.long a1.toInt64]) (met_X0_isStep (eL E) X _ _) rfl (T := TX0) rfl (lw_V q1123 q1125 qs31 q93 q1126) cd_X0_isStep rfl (Nat.le_of_ble_eq_true rfl) (Nat.le_of_ble_eq_true rfl) (Nat.le_of_ble_eq_true rfl) dX0_stands_3 rfl ?_
  refine ga_if_ne 12 9 C.c dX0_stands_6 (by decide) rfl (fun c => ?_) (fun c => ?_)
  · have hf := pu_neg c hf
    refine ga_aload_n 13 C.c 0 rfl rfl dX0_stands_12 rfl ?_
    refine xa_get 16 0 7 C rfl (T := TX0) rfl in_X0 (by decide) q562 rfl rfl dX0_stands_13 rfl ?_
    obtain ⟨z1, hc2, hf⟩ := pu_b1_w hf
    refine xa_callV 19 2 C (as := []) (met_X3_is (eL E) X _ _ hc2) rfl (T := TX3) rfl (lw_V q1059 q1060 q1061 q99 q1062) cd_X3_is rfl (Nat.le_of_ble_eq_true rfl) (Nat.le_of_ble_eq_true rfl) (Nat.le_of_ble_eq_true rfl) dX0_stands_16 rfl ?_
    refine ga_pop 20 C.c rfl dX0_stands_19 rfl ?_
    refine ga_iconst 21 C.c (v := 0) (by decide) dX0_stands_20 rfl ?_
    refine ga_istore_n 22 C.c 2 rfl (by decide) rfl dX0_stands_21 rfl ?_
    refine ga_iconst 23 C.c (v := 0) (by decide) dX0_stands_22 rfl ?_
    refine ga_istore_n 24 C.c 3 rfl (by decide) rfl dX0_stands_23 rfl ?_
    obtain ⟨v17, hi12, hf⟩ := pu_b1_w hf
    refine ga_cut 60 (I2 := xw_I E X z1) (k2 := 0) (n2 := 0) (lo2 := [none, none, some (.int v17), none]) (st2 := []) ?_ (fun hj11 => ?_)
    · refine ga_iload_n 61 C.c 2 rfl rfl dX0_stands_60 rfl ?_
      have hf := Option.some.inj hf
      cases hf
      exact xw_iret C hr hlk hq rfl rfl rfl dX0_stands_61
    · refine ga_W.sub (pu_it_w (Wd := fun (q : Int32 × Int32) => ga_W E 4 (xw_I E X z1) 0 0 24 [some (.ref (xg X 0)), some (.int a1), some (.int q.1), some (.int q.2)] []) (Wx := fun e => e = (v17)) (fun q x hf kc7 kx8 => ?_) hi12 rfl) (And.intro rfl (And.intro rfl (And.intro rfl (And.intro rfl trivial))))
      obtain ⟨v5, v6⟩ := q
      try dsimp only
      unfold fX0_stands_L24 at hf
      refine ga_iload_n 25 C.c 3 rfl rfl dX0_stands_24 rfl ?_
      refine ga_aload_n 26 C.c 0 rfl rfl dX0_stands_25 rfl ?_
      refine xa_callV 29 0 C (as := []) (met_X0_reaches (eL E) X _) rfl (T := TX0) rfl (lw_V q1013 q1015 qs23 q93 q1016) cd_X0_reaches rfl (Nat.le_of_ble_eq_true rfl) (Nat.le_of_ble_eq_true rfl) (Nat.le_of_ble_eq_true rfl) dX0_stands_26 rfl ?_
      refine ga_icmp_ge 60 32 C.c dX0_stands_29 (by decide) rfl (fun c => ?_) (fun c => ?_)
      · have hf := pu_pos c hf
        cases (kx8 _ (Option.some.inj hf).symm)
        exact ga_W.sub hj11 (And.intro rfl trivial)
      · have hf := pu_neg c hf
        refine ga_iload_n 33 C.c 2 rfl rfl dX0_stands_32 rfl ?_
        refine ga_aload_n 34 C.c 0 rfl rfl dX0_stands_33 rfl ?_
        refine xa_get 37 0 7 C rfl (T := TX0) rfl in_X0 (by decide) q562 rfl rfl dX0_stands_34 rfl ?_
        refine ga_iload_n 38 C.c 3 rfl rfl dX0_stands_37 rfl ?_
        refine ga_iload_n 39 C.c 1 rfl rfl dX0_stands_38 rfl ?_
        obtain ⟨v13, hc14, hf⟩ := pu_b1_w hf
        refine xa_callV 42 2 C (as := [.int v6, .int a1]) (met_X3_isStanding (eL E) X _ _ _ _ hc14) rfl (T := TX3) rfl (lw_V q1081 q1082 q1083 q99 q1084) cd_X3_isStanding rfl (Nat.le_of_ble_eq_true rfl) (Nat.le_of_ble_eq_true rfl) (Nat.le_of_ble_eq_true rfl) dX0_stands_39 rfl ?_
        refine ga_if_eq 51 45 C.c dX0_stands_42 (by decide) rfl (fun c => ?_) (fun c => ?_)
        · have hf := pu_pos c hf
          refine ga_iconst 52 C.c (v := 0) (by decide) dX0_stands_51 rfl ?_
          refine ga_ior 53 C.c dX0_stands_52 rfl ?_
          refine ga_istore_n 54 C.c 2 rfl (by decide) rfl dX0_stands_53 rfl ?_
          obtain ⟨_, rfl, hf⟩ := pu_l1_w hf
          refine ga_iinc 57 C.c (v := v6 + 1) rfl rfl (by decide) rfl dX0_stands_54 rfl ?_
          refine ga_goto 24 C.c dX0_stands_57 (by decide) ?_
          exact ga_W.sub (kc7 _ (Option.some.inj hf).symm) (And.intro rfl (And.intro rfl (And.intro rfl (And.intro rfl trivial))))
        · have hf := pu_neg c hf
          refine ga_iconst 46 C.c (v := 1) (by decide) dX0_stands_45 rfl ?_
          refine ga_iload_n 47 C.c 3 rfl rfl dX0_stands_46 rfl ?_
          refine ga_ishl 48 C.c dX0_stands_47 rfl ?_
          refine ga_goto 52 C.c dX0_stands_48 (by decide) ?_
          refine ga_ior 53 C.c dX0_stands_52 rfl ?_
          refine ga_istore_n 54 C.c 2 rfl (by decide) rfl dX0_stands_53 rfl ?_
          obtain ⟨_, rfl, hf⟩ := pu_l1_w hf
          refine ga_iinc 57 C.c (v := v6 + 1) rfl rfl (by decide) rfl dX0_stands_54 rfl ?_
          refine ga_goto 24 C.c dX0_stands_57 (by decide) ?_
          exact ga_W.sub (kc7 _ (Option.some.inj hf).symm) (And.intro rfl (And.intro rfl (And.intro rfl (And.intro rfl trivial))))
  · have hf := pu_pos c hf
    refine ga_bipush 11 C.c (v := (-2)) (by decide) dX0_stands_9 rfl ?_
    have hf := Option.some.inj hf
    cases hf
    exact xw_iret C hr hlk hq rfl rfl rfl dX0_stands_11
set_option maxHeartbeats 4000000 in
theorem met_X0_flows (l : Launch) (X : XX) (z : MS) (a1 : Int32) (r : Int32) (z9 : MS) (hf : fX0_flows (xp X) z a1 = some (r, z9)) : Met l yX0_flows (ws_ yX0_flows cX0_flows 3 (some .int)) ({ frames := 6, cells := 0, slots := 0, locals := 147 } : Room) (xw_Pc X z [.ref (xg X 0), .int a1]) (xw_Qc X z9 (some (.int r))) 0 0 (xw_A (xg X)) := by
  refine xw_of (RX := RX0) (lo := [some (.ref (xg X 0)), some (.int a1), none]) (by decide) rfl (Nat.le_of_ble_eq_true rfl) rfl (fun E C hr hlk hq => ?_)
  unfold fX0_flows at hf
  refine ga_aload_n 1 C.c 0 rfl rfl dX0_flows_0 rfl ?_
  refine ga_iload_n 2 C.c 1 rfl rfl dX0_flows_1 rfl ?_
  obtain ⟨v1, z2, hc3, hf⟩ := pu_b2_w hf
  refine xa_callV 5 0 C (as := [.int a1]) (met_X0_stands (eL E) X _ _ _ _ hc3) rfl (T := TX0) rfl (lw_V q1149 q1150 q1151 q93 q1152) cd_X0_stands rfl (Nat.le_of_ble_eq_true rfl) (Nat.le_of_ble_eq_true rfl) (Nat.le_of_ble_eq_true rfl) dX0_flows_2 rfl ?_
  refine ga_istore_n 6 C.c 2 rfl (by decide) rfl dX0_flows_5 rfl ?_
  refine ga_iload_n 7 C.c 2 rfl rfl dX0_flows_6 rfl ?_
  refine ga_bipush 9 C.c (v := (-2)) (by decide) dX0_flows_7 rfl ?_
  refine ga_icmp_ne 17 12 C.c dX0_flows_9 (by decide) rfl (fun c => ?_) (fun c => ?_)
  · have hf := pu_neg c hf
    refine ga_iconst 18 C.c (v := 1) (by decide) dX0_flows_17 rfl ?_
    refine ga_aload_n 19 C.c 0 rfl rfl dX0_flows_18 rfl ?_
    refine xa_callV 22 0 C (as := []) (met_X0_reaches (eL E) X _) rfl (T := TX0) rfl (lw_V q1013 q1015 qs23 q93 q1016) cd_X0_reaches rfl (Nat.le_of_ble_eq_true rfl) (Nat.le_of_ble_eq_true rfl) (Nat.le_of_ble_eq_true rfl) dX0_flows_19 rfl ?_
    refine ga_ishl 23 C.c dX0_flows_22 rfl ?_
    refine ga_iconst 24 C.c (v := 1) (by decide) dX0_flows_23 rfl ?_
    refine ga_isub 25 C.c dX0_flows_24 rfl ?_
    refine ga_iload_n 26 C.c 2 rfl rfl dX0_flows_25 rfl ?_
    refine ga_iconst 27 C.c (v := (-1)) (by decide) dX0_flows_26 rfl ?_
    refine ga_ixor 28 C.c dX0_flows_27 rfl ?_
    refine ga_iand 29 C.c dX0_flows_28 rfl ?_
    have hf := Option.some.inj hf
    cases hf
    exact xw_iret C hr hlk hq rfl rfl rfl dX0_flows_29
  · have hf := pu_pos c hf
    refine ga_bipush 14 C.c (v := (-2)) (by decide) dX0_flows_12 rfl ?_
    refine ga_goto 29 C.c dX0_flows_14 (by decide) ?_
    have hf := Option.some.inj hf
    cases hf
    exact xw_iret C hr hlk hq rfl rfl rfl dX0_flows_29
set_option maxHeartbeats 4000000 in
theorem met_X0_mouths (l : Launch) (X : XX) (z : MS) (r : Int32) (hf : fX0_mouths (xp X) z = some r) : Met l yX0_mouths (ws_ yX0_mouths cX0_mouths 3 (some .int)) ({ frames := 4, cells := 0, slots := 0, locals := 102 } : Room) (xw_Pc X z [.ref (xg X 0)]) (xw_Qc X z (some (.int r))) 0 0 (xw_A (xg X)) := by
  refine xw_of (RX := RX0) (lo := [some (.ref (xg X 0)), none, none]) (by decide) rfl (Nat.le_of_ble_eq_true rfl) rfl (fun E C hr hlk hq => ?_)
  unfold fX0_mouths at hf
  refine ga_aload_n 1 C.c 0 rfl rfl dX0_mouths_0 rfl ?_
  refine xa_get 4 0 1 C rfl (T := TX0) rfl in_X0 (by decide) q554 rfl rfl dX0_mouths_1 rfl ?_
  refine xa_ris 7 C q997 (Nat.le_of_ble_eq_true rfl) (Nat.le_of_ble_eq_true rfl) (Nat.le_of_ble_eq_true rfl) dX0_mouths_4 rfl ?_
  refine ga_if_ne 13 10 C.c dX0_mouths_7 (by decide) rfl (fun c => ?_) (fun c => ?_)
  · have hf := pu_neg c hf
    refine ga_iconst 14 C.c (v := 0) (by decide) dX0_mouths_13 rfl ?_
    refine ga_istore_n 15 C.c 1 rfl (by decide) rfl dX0_mouths_14 rfl ?_
    refine ga_iconst 16 C.c (v := 0) (by decide) dX0_mouths_15 rfl ?_
    refine ga_istore_n 17 C.c 2 rfl (by decide) rfl dX0_mouths_16 rfl ?_
    obtain ⟨v13, hi9, hf⟩ := pu_b1_w hf
    refine ga_cut 53 (I2 := xw_I E X z) (k2 := 0) (n2 := 0) (lo2 := [none, some (.int v13), none]) (st2 := []) ?_ (fun hj8 => ?_)
    · refine ga_iload_n 54 C.c 1 rfl rfl dX0_mouths_53 rfl ?_
      have hf := Option.some.inj hf
      cases hf
      exact xw_iret C hr hlk hq rfl rfl rfl dX0_mouths_54
    · refine ga_W.sub (pu_it_w (Wd := fun (q : Int32 × Int32) => ga_W E 3 (xw_I E X z) 0 0 17 [some (.ref (xg X 0)), some (.int q.1), some (.int q.2)] []) (Wx := fun e => e = (v13)) (fun q x hf kc4 kx5 => ?_) hi9 rfl) (And.intro rfl (And.intro rfl (And.intro rfl trivial)))
      obtain ⟨v2, v3⟩ := q
      try dsimp only
      unfold fX0_mouths_L17 at hf
      refine ga_iload_n 18 C.c 2 rfl rfl dX0_mouths_17 rfl ?_
      refine ga_aload_n 19 C.c 0 rfl rfl dX0_mouths_18 rfl ?_
      refine xa_callV 22 0 C (as := []) (met_X0_reaches (eL E) X _) rfl (T := TX0) rfl (lw_V q1013 q1015 qs23 q93 q1016) cd_X0_reaches rfl (Nat.le_of_ble_eq_true rfl) (Nat.le_of_ble_eq_true rfl) (Nat.le_of_ble_eq_true rfl) dX0_mouths_19 rfl ?_
      refine ga_icmp_ge 53 25 C.c dX0_mouths_22 (by decide) rfl (fun c => ?_) (fun c => ?_)
      · have hf := pu_pos c hf
        cases (kx5 _ (Option.some.inj hf).symm)
        exact ga_W.sub hj8 (And.intro rfl trivial)
      · have hf := pu_neg c hf
        refine ga_iload_n 26 C.c 1 rfl rfl dX0_mouths_25 rfl ?_
        refine ga_aload_n 27 C.c 0 rfl rfl dX0_mouths_26 rfl ?_
        refine ga_iload_n 28 C.c 2 rfl rfl dX0_mouths_27 rfl ?_
        obtain ⟨hc10, hf⟩ := pu_b0_w hf
        refine xa_callV 31 0 C (as := [.int v3]) (met_X0_one (eL E) X _ _ hc10) rfl (T := TX0) rfl (lw_V q1020 q1022 qs24 q93 q1023) cd_X0_one rfl (Nat.le_of_ble_eq_true rfl) (Nat.le_of_ble_eq_true rfl) (Nat.le_of_ble_eq_true rfl) dX0_mouths_28 rfl ?_
        refine xd_getN 34 0 C (C.d0 (xone_lt hc10)) (T := TX9) (N := 3) rfl in_X9 (by decide) q805 rfl rfl dX0_mouths_31 rfl ?_
        refine ga_iconst 35 C.c (v := (-1)) (by decide) dX0_mouths_34 rfl ?_
        refine ga_icmp_ne 44 38 C.c dX0_mouths_35 (by decide) rfl (fun c => ?_) (fun c => ?_)
        · have hf := pu_neg c hf
          refine ga_iconst 45 C.c (v := 0) (by decide) dX0_mouths_44 rfl ?_
          refine ga_ior 46 C.c dX0_mouths_45 rfl ?_
          refine ga_istore_n 47 C.c 1 rfl (by decide) rfl dX0_mouths_46 rfl ?_
          obtain ⟨_, rfl, hf⟩ := pu_l1_w hf
          refine ga_iinc 50 C.c (v := v3 + 1) rfl rfl (by decide) rfl dX0_mouths_47 rfl ?_
          refine ga_goto 17 C.c dX0_mouths_50 (by decide) ?_
          exact ga_W.sub (kc4 _ (Option.some.inj hf).symm) (And.intro rfl (And.intro rfl (And.intro rfl trivial)))
        · have hf := pu_pos c hf
          refine ga_iconst 39 C.c (v := 1) (by decide) dX0_mouths_38 rfl ?_
          refine ga_iload_n 40 C.c 2 rfl rfl dX0_mouths_39 rfl ?_
          refine ga_ishl 41 C.c dX0_mouths_40 rfl ?_
          refine ga_goto 45 C.c dX0_mouths_41 (by decide) ?_
          refine ga_ior 46 C.c dX0_mouths_45 rfl ?_
          refine ga_istore_n 47 C.c 1 rfl (by decide) rfl dX0_mouths_46 rfl ?_
          obtain ⟨_, rfl, hf⟩ := pu_l1_w hf
          refine ga_iinc 50 C.c (v := v3 + 1) rfl rfl (by decide) rfl dX0_mouths_47 rfl ?_
          refine ga_goto 17 C.c dX0_mouths_50 (by decide) ?_
          exact ga_W.sub (kc4 _ (Option.some.inj hf).symm) (And.intro rfl (And.intro rfl (And.intro rfl trivial)))
  · have hf := pu_pos c hf
    refine ga_bipush 12 C.c (v := (-2)) (by decide) dX0_mouths_10 rfl ?_
    have hf := Option.some.inj hf
    cases hf
    exact xw_iret C hr hlk hq rfl rfl rfl dX0_mouths_12
set_option maxHeartbeats 4000000 in
theorem met_X0_springs (l : Launch) (X : XX) (z : MS) (r : Int32) (hf : fX0_springs (xp X) z = some r) : Met l yX0_springs (ws_ yX0_springs cX0_springs 3 (some .int)) ({ frames := 4, cells := 0, slots := 0, locals := 102 } : Room) (xw_Pc X z [.ref (xg X 0)]) (xw_Qc X z (some (.int r))) 0 0 (xw_A (xg X)) := by
  refine xw_of (RX := RX0) (lo := [some (.ref (xg X 0)), none, none]) (by decide) rfl (Nat.le_of_ble_eq_true rfl) rfl (fun E C hr hlk hq => ?_)
  unfold fX0_springs at hf
  refine ga_aload_n 1 C.c 0 rfl rfl dX0_springs_0 rfl ?_
  refine xa_get 4 0 1 C rfl (T := TX0) rfl in_X0 (by decide) q554 rfl rfl dX0_springs_1 rfl ?_
  refine xa_ris 7 C q997 (Nat.le_of_ble_eq_true rfl) (Nat.le_of_ble_eq_true rfl) (Nat.le_of_ble_eq_true rfl) dX0_springs_4 rfl ?_
  refine ga_if_ne 13 10 C.c dX0_springs_7 (by decide) rfl (fun c => ?_) (fun c => ?_)
  · have hf := pu_neg c hf
    refine ga_iconst 14 C.c (v := 1) (by decide) dX0_springs_13 rfl ?_
    refine ga_aload_n 15 C.c 0 rfl rfl dX0_springs_14 rfl ?_
    refine xa_callV 18 0 C (as := []) (met_X0_reaches (eL E) X _) rfl (T := TX0) rfl (lw_V q1013 q1015 qs23 q93 q1016) cd_X0_reaches rfl (Nat.le_of_ble_eq_true rfl) (Nat.le_of_ble_eq_true rfl) (Nat.le_of_ble_eq_true rfl) dX0_springs_15 rfl ?_
    refine ga_ishl 19 C.c dX0_springs_18 rfl ?_
    refine ga_iconst 20 C.c (v := 1) (by decide) dX0_springs_19 rfl ?_
    refine ga_isub 21 C.c dX0_springs_20 rfl ?_
    refine ga_istore_n 22 C.c 1 rfl (by decide) rfl dX0_springs_21 rfl ?_
    obtain ⟨_, rfl, hf⟩ := pu_l1_w hf
    refine ga_iconst 23 C.c (v := 0) (by decide) dX0_springs_22 rfl ?_
    refine ga_istore_n 24 C.c 2 rfl (by decide) rfl dX0_springs_23 rfl ?_
    obtain ⟨v15, hi10, hf⟩ := pu_b1_w hf
    refine ga_cut 69 (I2 := xw_I E X z) (k2 := 0) (n2 := 0) (lo2 := [some (.ref (xg X 0)), some (.int v15), none]) (st2 := []) ?_ (fun hj9 => ?_)
    · refine ga_iconst 70 C.c (v := 0) (by decide) dX0_springs_69 rfl ?_
      refine ga_istore_n 71 C.c 2 rfl (by decide) rfl dX0_springs_70 rfl ?_
      obtain ⟨v27, hi24, hf⟩ := pu_b1_w hf
      refine ga_cut 108 (I2 := xw_I E X z) (k2 := 0) (n2 := 0) (lo2 := [none, some (.int v27), none]) (st2 := []) ?_ (fun hj23 => ?_)
      · refine ga_iload_n 109 C.c 1 rfl rfl dX0_springs_108 rfl ?_
        have hf := Option.some.inj hf
        cases hf
        exact xw_iret C hr hlk hq rfl rfl rfl dX0_springs_109
      · refine ga_W.sub (pu_it_w (Wd := fun (q : Int32 × Int32) => ga_W E 3 (xw_I E X z) 0 0 71 [some (.ref (xg X 0)), some (.int q.1), some (.int q.2)] []) (Wx := fun e => e = (v27)) (fun q x hf kc19 kx20 => ?_) hi24 rfl) (And.intro rfl (And.intro rfl (And.intro rfl trivial)))
        obtain ⟨v17, v18⟩ := q
        try dsimp only
        unfold fX0_springs_L71 at hf
        refine ga_iload_n 72 C.c 2 rfl rfl dX0_springs_71 rfl ?_
        refine ga_aload_n 73 C.c 0 rfl rfl dX0_springs_72 rfl ?_
        refine xa_get 76 0 1 C rfl (T := TX0) rfl in_X0 (by decide) q554 rfl rfl dX0_springs_73 rfl ?_
        refine xd_getN 79 1 C C.rv (T := TX2) (N := 8) rfl in_X2 (by decide) q394 rfl rfl dX0_springs_76 rfl ?_
        refine xa_size 84 1 C (by decide) q1018 (Nat.le_of_ble_eq_true rfl) (Nat.le_of_ble_eq_true rfl) (Nat.le_of_ble_eq_true rfl) dX0_springs_79 rfl ?_
        refine ga_icmp_ge 108 87 C.c dX0_springs_84 (by decide) rfl (fun c => ?_) (fun c => ?_)
        · have hf := pu_pos c hf
          cases (kx20 _ (Option.some.inj hf).symm)
          exact ga_W.sub hj23 (And.intro rfl trivial)
        · have hf := pu_neg c hf
          refine ga_iload_n 88 C.c 1 rfl rfl dX0_springs_87 rfl ?_
          refine ga_iconst 89 C.c (v := 1) (by decide) dX0_springs_88 rfl ?_
          refine ga_aload_n 90 C.c 0 rfl rfl dX0_springs_89 rfl ?_
          refine ga_iload_n 91 C.c 2 rfl rfl dX0_springs_90 rfl ?_
          obtain ⟨hc25, hf⟩ := pu_b0_w hf
          refine xa_callV 94 0 C (as := [.int v18]) (met_X0_joinOf (eL E) X _ _ hc25) rfl (T := TX0) rfl (lw_V q1050 q1052 qs26 q93 q1053) cd_X0_joinOf rfl (Nat.le_of_ble_eq_true rfl) (Nat.le_of_ble_eq_true rfl) (Nat.le_of_ble_eq_true rfl) dX0_springs_91 rfl ?_
          refine xd_getN 97 1 C (C.d1 (xjoin_lt hc25)) (T := TX10) (N := 4) rfl in_X10 (by decide) q906 rfl rfl dX0_springs_94 rfl ?_
          refine ga_ishl 98 C.c dX0_springs_97 rfl ?_
          refine ga_iconst 99 C.c (v := (-1)) (by decide) dX0_springs_98 rfl ?_
          refine ga_ixor 100 C.c dX0_springs_99 rfl ?_
          refine ga_iand 101 C.c dX0_springs_100 rfl ?_
          refine ga_istore_n 102 C.c 1 rfl (by decide) rfl dX0_springs_101 rfl ?_
          obtain ⟨_, rfl, hf⟩ := pu_l1_w hf
          refine ga_iinc 105 C.c (v := v18 + 1) rfl rfl (by decide) rfl dX0_springs_102 rfl ?_
          refine ga_goto 71 C.c dX0_springs_105 (by decide) ?_
          exact ga_W.sub (kc19 _ (Option.some.inj hf).symm) (And.intro rfl (And.intro rfl (And.intro rfl trivial)))
    · refine ga_W.sub (pu_it_w (Wd := fun (q : Int32 × Int32) => ga_W E 3 (xw_I E X z) 0 0 24 [some (.ref (xg X 0)), some (.int q.1), some (.int q.2)] []) (Wx := fun e => e = (v15)) (fun q x hf kc5 kx6 => ?_) hi10 rfl) (And.intro rfl (And.intro rfl (And.intro rfl trivial)))
      obtain ⟨v3, v4⟩ := q
      try dsimp only
      unfold fX0_springs_L24 at hf
      refine ga_iload_n 25 C.c 2 rfl rfl dX0_springs_24 rfl ?_
      refine ga_aload_n 26 C.c 0 rfl rfl dX0_springs_25 rfl ?_
      refine xa_callV 29 0 C (as := []) (met_X0_reaches (eL E) X _) rfl (T := TX0) rfl (lw_V q1013 q1015 qs23 q93 q1016) cd_X0_reaches rfl (Nat.le_of_ble_eq_true rfl) (Nat.le_of_ble_eq_true rfl) (Nat.le_of_ble_eq_true rfl) dX0_springs_26 rfl ?_
      refine ga_icmp_ge 69 32 C.c dX0_springs_29 (by decide) rfl (fun c => ?_) (fun c => ?_)
      · have hf := pu_pos c hf
        cases (kx6 _ (Option.some.inj hf).symm)
        exact ga_W.sub hj9 (And.intro rfl (And.intro rfl trivial))
      · have hf := pu_neg c hf
        refine ga_iload_n 33 C.c 1 rfl rfl dX0_springs_32 rfl ?_
        refine ga_aload_n 34 C.c 0 rfl rfl dX0_springs_33 rfl ?_
        refine ga_iload_n 35 C.c 2 rfl rfl dX0_springs_34 rfl ?_
        obtain ⟨hc11, hf⟩ := pu_b0_w hf
        refine xa_callV 38 0 C (as := [.int v4]) (met_X0_one (eL E) X _ _ hc11) rfl (T := TX0) rfl (lw_V q1020 q1022 qs24 q93 q1023) cd_X0_one rfl (Nat.le_of_ble_eq_true rfl) (Nat.le_of_ble_eq_true rfl) (Nat.le_of_ble_eq_true rfl) dX0_springs_35 rfl ?_
        refine xd_getN 41 0 C (C.d0 (xone_lt hc11)) (T := TX9) (N := 3) rfl in_X9 (by decide) q805 rfl rfl dX0_springs_38 rfl ?_
        refine ga_iconst 42 C.c (v := (-1)) (by decide) dX0_springs_41 rfl ?_
        refine ga_icmp_ne 49 45 C.c dX0_springs_42 (by decide) rfl (fun c => ?_) (fun c => ?_)
        · have hf := pu_neg c hf
          refine ga_iconst 50 C.c (v := 1) (by decide) dX0_springs_49 rfl ?_
          refine ga_aload_n 51 C.c 0 rfl rfl dX0_springs_50 rfl ?_
          refine ga_iload_n 52 C.c 2 rfl rfl dX0_springs_51 rfl ?_
          obtain ⟨hc12, hf⟩ := pu_b0_w hf
          refine xa_callV 55 0 C (as := [.int v4]) (met_X0_one (eL E) X _ _ hc12) rfl (T := TX0) rfl (lw_V q1020 q1022 qs24 q93 q1023) cd_X0_one rfl (Nat.le_of_ble_eq_true rfl) (Nat.le_of_ble_eq_true rfl) (Nat.le_of_ble_eq_true rfl) dX0_springs_52 rfl ?_
          refine xd_getN 58 0 C (C.d0 (xone_lt hc12)) (T := TX9) (N := 3) rfl in_X9 (by decide) q805 rfl rfl dX0_springs_55 rfl ?_
          refine ga_ishl 59 C.c dX0_springs_58 rfl ?_
          refine ga_iconst 60 C.c (v := (-1)) (by decide) dX0_springs_59 rfl ?_
          refine ga_ixor 61 C.c dX0_springs_60 rfl ?_
          refine ga_iand 62 C.c dX0_springs_61 rfl ?_
          refine ga_istore_n 63 C.c 1 rfl (by decide) rfl dX0_springs_62 rfl ?_
          obtain ⟨_, rfl, hf⟩ := pu_l1_w hf
          refine ga_iinc 66 C.c (v := v4 + 1) rfl rfl (by decide) rfl dX0_springs_63 rfl ?_
          refine ga_goto 24 C.c dX0_springs_66 (by decide) ?_
          exact ga_W.sub (kc5 _ (Option.some.inj hf).symm) (And.intro rfl (And.intro rfl (And.intro rfl trivial)))
        · have hf := pu_pos c hf
          refine ga_iload_n 46 C.c 1 rfl rfl dX0_springs_45 rfl ?_
          refine ga_goto 61 C.c dX0_springs_46 (by decide) ?_
          refine ga_iand 62 C.c dX0_springs_61 rfl ?_
          refine ga_istore_n 63 C.c 1 rfl (by decide) rfl dX0_springs_62 rfl ?_
          obtain ⟨_, rfl, hf⟩ := pu_l1_w hf
          refine ga_iinc 66 C.c (v := v4 + 1) rfl rfl (by decide) rfl dX0_springs_63 rfl ?_
          refine ga_goto 24 C.c dX0_springs_66 (by decide) ?_
          exact ga_W.sub (kc5 _ (Option.some.inj hf).symm) (And.intro rfl (And.intro rfl (And.intro rfl trivial)))
  · have hf := pu_pos c hf
    refine ga_bipush 12 C.c (v := (-2)) (by decide) dX0_springs_10 rfl ?_
    have hf := Option.some.inj hf
    cases hf
    exact xw_iret C hr hlk hq rfl rfl rfl dX0_springs_12
set_option maxHeartbeats 4000000 in
theorem met_X0_depthOf (l : Launch) (X : XX) (z : MS) (a1 : Int32) (r : Int32) (hf : fX0_depthOf (xp X) z a1 = some r) : Met l yX0_depthOf (ws_ yX0_depthOf cX0_depthOf 4 (some .int)) ({ frames := 4, cells := 0, slots := 0, locals := 102 } : Room) (xw_Pc X z [.ref (xg X 0), .int a1]) (xw_Qc X z (some (.int r))) 0 0 (xw_A (xg X)) := by
  refine xw_of (RX := RX0) (lo := [some (.ref (xg X 0)), some (.int a1), none, none]) (by decide) rfl (Nat.le_of_ble_eq_true rfl) rfl (fun E C hr hlk hq => ?_)
  unfold fX0_depthOf at hf
  refine ga_iconst 1 C.c (v := 0) (by decide) dX0_depthOf_0 rfl ?_
  refine ga_istore_n 2 C.c 2 rfl (by decide) rfl dX0_depthOf_1 rfl ?_
  refine ga_iload_n 3 C.c 1 rfl rfl dX0_depthOf_2 rfl ?_
  refine ga_istore_n 4 C.c 3 rfl (by decide) rfl dX0_depthOf_3 rfl ?_
  obtain ⟨v12, v13, hi9, hf⟩ := pu_b2_w hf
  refine ga_cut 30 (I2 := xw_I E X z) (k2 := 0) (n2 := 0) (lo2 := [none, none, some (.int v12), some (.int v13)]) (st2 := []) ?_ (fun hj8 => ?_)
  · refine ga_iload_n 31 C.c 3 rfl rfl dX0_depthOf_30 rfl ?_
    refine ga_iconst 32 C.c (v := (-1)) (by decide) dX0_depthOf_31 rfl ?_
    refine ga_icmp_ne 39 35 C.c dX0_depthOf_32 (by decide) rfl (fun c => ?_) (fun c => ?_)
    · have hf := pu_neg c hf
      refine ga_iconst 40 C.c (v := (-1)) (by decide) dX0_depthOf_39 rfl ?_
      have hf := Option.some.inj hf
      cases hf
      exact xw_iret C hr hlk hq rfl rfl rfl dX0_depthOf_40
    · have hf := pu_pos c hf
      refine ga_iload_n 36 C.c 2 rfl rfl dX0_depthOf_35 rfl ?_
      refine ga_goto 40 C.c dX0_depthOf_36 (by decide) ?_
      have hf := Option.some.inj hf
      cases hf
      exact xw_iret C hr hlk hq rfl rfl rfl dX0_depthOf_40
  · refine ga_W.sub (pu_it_w (Wd := fun (q : Int32 × Int32) => ga_W E 4 (xw_I E X z) 0 0 4 [some (.ref (xg X 0)), none, some (.int q.1), some (.int q.2)] []) (Wx := fun e => e = (v12, v13)) (fun q x hf kc4 kx5 => ?_) hi9 rfl) (And.intro rfl (And.intro rfl (And.intro rfl trivial)))
    obtain ⟨v2, v3⟩ := q
    try dsimp only
    unfold fX0_depthOf_L4 at hf
    refine ga_iload_n 5 C.c 3 rfl rfl dX0_depthOf_4 rfl ?_
    refine ga_iconst 6 C.c (v := (-1)) (by decide) dX0_depthOf_5 rfl ?_
    refine ga_icmp_eq 30 9 C.c dX0_depthOf_6 (by decide) rfl (fun c => ?_) (fun c => ?_)
    · have hf := pu_pos c hf
      cases (kx5 _ (Option.some.inj hf).symm)
      exact ga_W.sub hj8 (And.intro rfl (And.intro rfl trivial))
    · have hf := pu_neg c hf
      refine ga_iload_n 10 C.c 2 rfl rfl dX0_depthOf_9 rfl ?_
      refine ga_bipush 12 C.c (v := 10) (by decide) dX0_depthOf_10 rfl ?_
      refine ga_icmp_gt 30 15 C.c dX0_depthOf_12 (by decide) rfl (fun c => ?_) (fun c => ?_)
      · have hf := pu_pos c hf
        cases (kx5 _ (Option.some.inj hf).symm)
        exact ga_W.sub hj8 (And.intro rfl (And.intro rfl trivial))
      · have hf := pu_neg c hf
        refine ga_aload_n 16 C.c 0 rfl rfl dX0_depthOf_15 rfl ?_
        refine ga_iload_n 17 C.c 3 rfl rfl dX0_depthOf_16 rfl ?_
        obtain ⟨hc10, hf⟩ := pu_b0_w hf
        refine xa_callV 20 0 C (as := [.int v3]) (met_X0_one (eL E) X _ _ hc10) rfl (T := TX0) rfl (lw_V q1020 q1022 qs24 q93 q1023) cd_X0_one rfl (Nat.le_of_ble_eq_true rfl) (Nat.le_of_ble_eq_true rfl) (Nat.le_of_ble_eq_true rfl) dX0_depthOf_17 rfl ?_
        refine xd_getN 23 0 C (C.d0 (xone_lt hc10)) (T := TX9) (N := 3) rfl in_X9 (by decide) q805 rfl rfl dX0_depthOf_20 rfl ?_
        refine ga_istore_n 24 C.c 3 rfl (by decide) rfl dX0_depthOf_23 rfl ?_
        obtain ⟨_, rfl, hf⟩ := pu_l1_w hf
        refine ga_iinc 27 C.c (v := v2 + 1) rfl rfl (by decide) rfl dX0_depthOf_24 rfl ?_
        refine ga_goto 4 C.c dX0_depthOf_27 (by decide) ?_
        exact ga_W.sub (kc4 _ (Option.some.inj hf).symm) (And.intro rfl (And.intro rfl (And.intro rfl trivial)))
set_option maxHeartbeats 4000000 in
theorem met_X0_depth (l : Launch) (X : XX) (z : MS) (a1 : Int32) (r : Int32) (hf : fX0_depth (xp X) z a1 = some r) : Met l yX0_depth (ws_ yX0_depth cX0_depth 2 (some .int)) ({ frames := 5, cells := 0, slots := 0, locals := 125 } : Room) (xw_Pc X z [.ref (xg X 0), .int a1]) (xw_Qc X z (some (.int r))) 0 0 (xw_A (xg X)) := by
  refine xw_of (RX := RX0) (lo := [some (.ref (xg X 0)), some (.int a1)]) (by decide) rfl (Nat.le_of_ble_eq_true rfl) rfl (fun E C hr hlk hq => ?_)
  unfold fX0_depth at hf
  refine ga_aload_n 1 C.c 0 rfl rfl dX0_depth_0 rfl ?_
  refine ga_iload_n 2 C.c 1 rfl rfl dX0_depth_1 rfl ?_
  refine ga_i2l 3 C.c dX0_depth_2 rfl ?_
  refine xa_callV 6 0 C (as := [.long a1.toInt64]) (met_X0_isReach (eL E) X _ _) rfl (T := TX0) rfl (lw_V q1009 q1011 qs22 q93 q1012) cd_X0_isReach rfl (Nat.le_of_ble_eq_true rfl) (Nat.le_of_ble_eq_true rfl) (Nat.le_of_ble_eq_true rfl) dX0_depth_3 rfl ?_
  refine ga_if_eq 17 9 C.c dX0_depth_6 (by decide) rfl (fun c => ?_) (fun c => ?_)
  · have hf := pu_pos c hf
    refine ga_bipush 19 C.c (v := (-2)) (by decide) dX0_depth_17 rfl ?_
    have hf := Option.some.inj hf
    cases hf
    exact xw_iret C hr hlk hq rfl rfl rfl dX0_depth_19
  · have hf := pu_neg c hf
    refine ga_aload_n 10 C.c 0 rfl rfl dX0_depth_9 rfl ?_
    refine ga_iload_n 11 C.c 1 rfl rfl dX0_depth_10 rfl ?_
    obtain ⟨v1, hc2, hf⟩ := pu_b1_w hf
    refine xa_callV 14 0 C (as := [.int a1]) (met_X0_depthOf (eL E) X _ _ _ hc2) rfl (T := TX0) rfl (lw_V q1165 q1167 qs33 q93 q1168) cd_X0_depthOf rfl (Nat.le_of_ble_eq_true rfl) (Nat.le_of_ble_eq_true rfl) (Nat.le_of_ble_eq_true rfl) dX0_depth_11 rfl ?_
    refine ga_goto 19 C.c dX0_depth_14 (by decide) ?_
    have hf := Option.some.inj hf
    cases hf
    exact xw_iret C hr hlk hq rfl rfl rfl dX0_depth_19
set_option maxHeartbeats 4000000 in
theorem met_X0_rings (l : Launch) (X : XX) (z : MS) (r : Int32) (hf : fX0_rings (xp X) z = some r) : Met l yX0_rings (ws_ yX0_rings cX0_rings 5 (some .int)) ({ frames := 4, cells := 0, slots := 0, locals := 102 } : Room) (xw_Pc X z [.ref (xg X 0)]) (xw_Qc X z (some (.int r))) 0 0 (xw_A (xg X)) := by
  refine xw_of (RX := RX0) (lo := [some (.ref (xg X 0)), none, none, none, none]) (by decide) rfl (Nat.le_of_ble_eq_true rfl) rfl (fun E C hr hlk hq => ?_)
  unfold fX0_rings at hf
  refine ga_aload_n 1 C.c 0 rfl rfl dX0_rings_0 rfl ?_
  refine xa_get 4 0 1 C rfl (T := TX0) rfl in_X0 (by decide) q554 rfl rfl dX0_rings_1 rfl ?_
  refine xa_ris 7 C q997 (Nat.le_of_ble_eq_true rfl) (Nat.le_of_ble_eq_true rfl) (Nat.le_of_ble_eq_true rfl) dX0_rings_4 rfl ?_
  refine ga_if_ne 13 10 C.c dX0_rings_7 (by decide) rfl (fun c => ?_) (fun c => ?_)
  · have hf := pu_neg c hf
    refine ga_iconst 14 C.c (v := 0) (by decide) dX0_rings_13 rfl ?_
    refine ga_istore_n 15 C.c 1 rfl (by decide) rfl dX0_rings_14 rfl ?_
    refine ga_iconst 16 C.c (v := 0) (by decide) dX0_rings_15 rfl ?_
    refine ga_istore_n 17 C.c 2 rfl (by decide) rfl dX0_rings_16 rfl ?_
    obtain ⟨v28, hi9, hf⟩ := pu_b1_w hf
    refine ga_cut 90 (I2 := xw_I E X z) (k2 := 0) (n2 := 0) (lo2 := [none, some (.int v28), none, none, none]) (st2 := []) ?_ (fun hj8 => ?_)
    · refine ga_iload_n 91 C.c 1 rfl rfl dX0_rings_90 rfl ?_
      have hf := Option.some.inj hf
      cases hf
      exact xw_iret C hr hlk hq rfl rfl rfl dX0_rings_91
    · refine ga_W.sub (pu_it_w (Wd := fun (q : Int32 × Int32) => ga_W E 5 (xw_I E X z) 0 0 17 [some (.ref (xg X 0)), some (.int q.1), some (.int q.2), none, none] []) (Wx := fun e => e = (v28)) (fun q x hf kc4 kx5 => ?_) hi9 rfl) (And.intro rfl (And.intro rfl (And.intro rfl trivial)))
      obtain ⟨v2, v3⟩ := q
      try dsimp only
      unfold fX0_rings_L17 at hf
      refine ga_iload_n 18 C.c 2 rfl rfl dX0_rings_17 rfl ?_
      refine ga_aload_n 19 C.c 0 rfl rfl dX0_rings_18 rfl ?_
      refine xa_callV 22 0 C (as := []) (met_X0_reaches (eL E) X _) rfl (T := TX0) rfl (lw_V q1013 q1015 qs23 q93 q1016) cd_X0_reaches rfl (Nat.le_of_ble_eq_true rfl) (Nat.le_of_ble_eq_true rfl) (Nat.le_of_ble_eq_true rfl) dX0_rings_19 rfl ?_
      refine ga_icmp_ge 90 25 C.c dX0_rings_22 (by decide) rfl (fun c => ?_) (fun c => ?_)
      · have hf := pu_pos c hf
        cases (kx5 _ (Option.some.inj hf).symm)
        exact ga_W.sub hj8 (And.intro rfl trivial)
      · have hf := pu_neg c hf
        refine ga_aload_n 26 C.c 0 rfl rfl dX0_rings_25 rfl ?_
        refine ga_iload_n 27 C.c 2 rfl rfl dX0_rings_26 rfl ?_
        obtain ⟨hc10, hf⟩ := pu_b0_w hf
        refine xa_callV 30 0 C (as := [.int v3]) (met_X0_one (eL E) X _ _ hc10) rfl (T := TX0) rfl (lw_V q1020 q1022 qs24 q93 q1023) cd_X0_one rfl (Nat.le_of_ble_eq_true rfl) (Nat.le_of_ble_eq_true rfl) (Nat.le_of_ble_eq_true rfl) dX0_rings_27 rfl ?_
        refine xd_getN 33 0 C (C.d0 (xone_lt hc10)) (T := TX9) (N := 3) rfl in_X9 (by decide) q805 rfl rfl dX0_rings_30 rfl ?_
        refine ga_istore_n 34 C.c 3 rfl (by decide) rfl dX0_rings_33 rfl ?_
        obtain ⟨_, rfl, hf⟩ := pu_l1_w hf
        refine ga_iconst 35 C.c (v := 0) (by decide) dX0_rings_34 rfl ?_
        refine ga_istore 37 C.c 4 (by decide) rfl dX0_rings_35 rfl ?_
        obtain ⟨v25, hi22, hf⟩ := pu_b1_w hf
        refine ga_cut 69 (I2 := xw_I E X z) (k2 := 0) (n2 := 0) (lo2 := [some (.ref (xg X 0)), some (.int v2), some (.int v3), some (.int v25), none]) (st2 := []) ?_ (fun hj21 => ?_)
        · refine ga_iload_n 70 C.c 1 rfl rfl dX0_rings_69 rfl ?_
          refine ga_iload_n 71 C.c 3 rfl rfl dX0_rings_70 rfl ?_
          refine ga_iload_n 72 C.c 2 rfl rfl dX0_rings_71 rfl ?_
          refine ga_icmp_ne 81 75 C.c dX0_rings_72 (by decide) rfl (fun c => ?_) (fun c => ?_)
          · have hf := pu_neg c hf
            refine ga_iconst 82 C.c (v := 0) (by decide) dX0_rings_81 rfl ?_
            refine ga_ior 83 C.c dX0_rings_82 rfl ?_
            refine ga_istore_n 84 C.c 1 rfl (by decide) rfl dX0_rings_83 rfl ?_
            obtain ⟨_, rfl, hf⟩ := pu_l1_w hf
            refine ga_iinc 87 C.c (v := v3 + 1) rfl rfl (by decide) rfl dX0_rings_84 rfl ?_
            refine ga_goto 17 C.c dX0_rings_87 (by decide) ?_
            exact ga_W.sub (kc4 _ (Option.some.inj hf).symm) (And.intro rfl (And.intro rfl (And.intro rfl trivial)))
          · have hf := pu_pos c hf
            refine ga_iconst 76 C.c (v := 1) (by decide) dX0_rings_75 rfl ?_
            refine ga_iload_n 77 C.c 2 rfl rfl dX0_rings_76 rfl ?_
            refine ga_ishl 78 C.c dX0_rings_77 rfl ?_
            refine ga_goto 82 C.c dX0_rings_78 (by decide) ?_
            refine ga_ior 83 C.c dX0_rings_82 rfl ?_
            refine ga_istore_n 84 C.c 1 rfl (by decide) rfl dX0_rings_83 rfl ?_
            obtain ⟨_, rfl, hf⟩ := pu_l1_w hf
            refine ga_iinc 87 C.c (v := v3 + 1) rfl rfl (by decide) rfl dX0_rings_84 rfl ?_
            refine ga_goto 17 C.c dX0_rings_87 (by decide) ?_
            exact ga_W.sub (kc4 _ (Option.some.inj hf).symm) (And.intro rfl (And.intro rfl (And.intro rfl trivial)))
        · refine ga_W.sub (pu_it_w (Wd := fun (q : Int32 × Int32) => ga_W E 5 (xw_I E X z) 0 0 37 [some (.ref (xg X 0)), some (.int v2), some (.int v3), some (.int q.1), some (.int q.2)] []) (Wx := fun e => e = (v25)) (fun q x hf kc17 kx18 => ?_) hi22 rfl) (And.intro rfl (And.intro rfl (And.intro rfl (And.intro rfl (And.intro rfl trivial)))))
          obtain ⟨v15, v16⟩ := q
          try dsimp only
          unfold fX0_rings_L37 at hf
          refine ga_iload 39 C.c rfl dX0_rings_37 rfl ?_
          refine ga_bipush 41 C.c (v := 10) (by decide) dX0_rings_39 rfl ?_
          refine ga_icmp_ge 69 44 C.c dX0_rings_41 (by decide) rfl (fun c => ?_) (fun c => ?_)
          · have hf := pu_pos c hf
            cases (kx18 _ (Option.some.inj hf).symm)
            exact ga_W.sub hj21 (And.intro rfl (And.intro rfl (And.intro rfl (And.intro rfl trivial))))
          · have hf := pu_neg c hf
            refine ga_iload_n 45 C.c 3 rfl rfl dX0_rings_44 rfl ?_
            refine ga_iconst 46 C.c (v := (-1)) (by decide) dX0_rings_45 rfl ?_
            refine ga_icmp_eq 69 49 C.c dX0_rings_46 (by decide) rfl (fun c => ?_) (fun c => ?_)
            · have hf := pu_pos c hf
              cases (kx18 _ (Option.some.inj hf).symm)
              exact ga_W.sub hj21 (And.intro rfl (And.intro rfl (And.intro rfl (And.intro rfl trivial))))
            · have hf := pu_neg c hf
              refine ga_iload_n 50 C.c 3 rfl rfl dX0_rings_49 rfl ?_
              refine ga_iload_n 51 C.c 2 rfl rfl dX0_rings_50 rfl ?_
              refine ga_icmp_eq 69 54 C.c dX0_rings_51 (by decide) rfl (fun c => ?_) (fun c => ?_)
              · have hf := pu_pos c hf
                cases (kx18 _ (Option.some.inj hf).symm)
                exact ga_W.sub hj21 (And.intro rfl (And.intro rfl (And.intro rfl (And.intro rfl trivial))))
              · have hf := pu_neg c hf
                refine ga_aload_n 55 C.c 0 rfl rfl dX0_rings_54 rfl ?_
                refine ga_iload_n 56 C.c 3 rfl rfl dX0_rings_55 rfl ?_
                obtain ⟨hc23, hf⟩ := pu_b0_w hf
                refine xa_callV 59 0 C (as := [.int v15]) (met_X0_one (eL E) X _ _ hc23) rfl (T := TX0) rfl (lw_V q1020 q1022 qs24 q93 q1023) cd_X0_one rfl (Nat.le_of_ble_eq_true rfl) (Nat.le_of_ble_eq_true rfl) (Nat.le_of_ble_eq_true rfl) dX0_rings_56 rfl ?_
                refine xd_getN 62 0 C (C.d0 (xone_lt hc23)) (T := TX9) (N := 3) rfl in_X9 (by decide) q805 rfl rfl dX0_rings_59 rfl ?_
                refine ga_istore_n 63 C.c 3 rfl (by decide) rfl dX0_rings_62 rfl ?_
                obtain ⟨_, rfl, hf⟩ := pu_l1_w hf
                refine ga_iinc 66 C.c (v := v16 + 1) rfl rfl (by decide) rfl dX0_rings_63 rfl ?_
                refine ga_goto 37 C.c dX0_rings_66 (by decide) ?_
                exact ga_W.sub (kc17 _ (Option.some.inj hf).symm) (And.intro rfl (And.intro rfl (And.intro rfl (And.intro rfl (And.intro rfl trivial)))))
  · have hf := pu_pos c hf
    refine ga_bipush 12 C.c (v := (-2)) (by decide) dX0_rings_10 rfl ?_
    have hf := Option.some.inj hf
    cases hf
    exact xw_iret C hr hlk hq rfl rfl rfl dX0_rings_12
set_option maxHeartbeats 4000000 in
theorem met_X0_rained (l : Launch) (X : XX) (z : MS) (a1 : Int32) (r : Int32) (z9 : MS) (hf : fX0_rained (xp X) z a1 = some (r, z9)) : Met l yX0_rained (ws_ yX0_rained cX0_rained 4 (some .int)) ({ frames := 4, cells := 0, slots := 0, locals := 103 } : Room) (xw_Pc X z [.ref (xg X 0), .int a1]) (xw_Qc X z9 (some (.int r))) 0 0 (xw_A (xg X)) := by
  refine xw_of (RX := RX0) (lo := [some (.ref (xg X 0)), some (.int a1), none, none]) (by decide) rfl (Nat.le_of_ble_eq_true rfl) rfl (fun E C hr hlk hq => ?_)
  unfold fX0_rained at hf
  refine ga_aload_n 1 C.c 0 rfl rfl dX0_rained_0 rfl ?_
  refine ga_iload_n 2 C.c 1 rfl rfl dX0_rained_1 rfl ?_
  refine ga_i2l 3 C.c dX0_rained_2 rfl ?_
  refine xa_callV 6 0 C (as := [.long a1.toInt64]) (met_X0_isStep (eL E) X _ _) rfl (T := TX0) rfl (lw_V q1123 q1125 qs31 q93 q1126) cd_X0_isStep rfl (Nat.le_of_ble_eq_true rfl) (Nat.le_of_ble_eq_true rfl) (Nat.le_of_ble_eq_true rfl) dX0_rained_3 rfl ?_
  refine ga_if_ne 12 9 C.c dX0_rained_6 (by decide) rfl (fun c => ?_) (fun c => ?_)
  · have hf := pu_neg c hf
    refine ga_aload_n 13 C.c 0 rfl rfl dX0_rained_12 rfl ?_
    refine xa_get 16 0 7 C rfl (T := TX0) rfl in_X0 (by decide) q562 rfl rfl dX0_rained_13 rfl ?_
    obtain ⟨z1, hc2, hf⟩ := pu_b1_w hf
    refine xa_callV 19 2 C (as := []) (met_X3_is (eL E) X _ _ hc2) rfl (T := TX3) rfl (lw_V q1059 q1060 q1061 q99 q1062) cd_X3_is rfl (Nat.le_of_ble_eq_true rfl) (Nat.le_of_ble_eq_true rfl) (Nat.le_of_ble_eq_true rfl) dX0_rained_16 rfl ?_
    refine ga_pop 20 C.c rfl dX0_rained_19 rfl ?_
    refine ga_iconst 21 C.c (v := 0) (by decide) dX0_rained_20 rfl ?_
    refine ga_istore_n 22 C.c 2 rfl (by decide) rfl dX0_rained_21 rfl ?_
    refine ga_iconst 23 C.c (v := 0) (by decide) dX0_rained_22 rfl ?_
    refine ga_istore_n 24 C.c 3 rfl (by decide) rfl dX0_rained_23 rfl ?_
    obtain ⟨v15, hi12, hf⟩ := pu_b1_w hf
    refine ga_cut 47 (I2 := xw_I E X z1) (k2 := 0) (n2 := 0) (lo2 := [none, none, some (.int v15), none]) (st2 := []) ?_ (fun hj11 => ?_)
    · refine ga_iload_n 48 C.c 2 rfl rfl dX0_rained_47 rfl ?_
      have hf := Option.some.inj hf
      cases hf
      exact xw_iret C hr hlk hq rfl rfl rfl dX0_rained_48
    · refine ga_W.sub (pu_it_w (Wd := fun (q : Int32 × Int32) => ga_W E 4 (xw_I E X z1) 0 0 24 [some (.ref (xg X 0)), some (.int a1), some (.int q.1), some (.int q.2)] []) (Wx := fun e => e = (v15)) (fun q x hf kc7 kx8 => ?_) hi12 rfl) (And.intro rfl (And.intro rfl (And.intro rfl (And.intro rfl trivial))))
      obtain ⟨v5, v6⟩ := q
      try dsimp only
      unfold fX0_rained_L24 at hf
      refine ga_iload_n 25 C.c 3 rfl rfl dX0_rained_24 rfl ?_
      refine ga_iload_n 26 C.c 1 rfl rfl dX0_rained_25 rfl ?_
      refine ga_icmp_gt 47 29 C.c dX0_rained_26 (by decide) rfl (fun c => ?_) (fun c => ?_)
      · have hf := pu_pos c hf
        cases (kx8 _ (Option.some.inj hf).symm)
        exact ga_W.sub hj11 (And.intro rfl trivial)
      · have hf := pu_neg c hf
        refine ga_iload_n 30 C.c 2 rfl rfl dX0_rained_29 rfl ?_
        refine ga_aload_n 31 C.c 0 rfl rfl dX0_rained_30 rfl ?_
        refine xa_get 34 0 7 C rfl (T := TX0) rfl in_X0 (by decide) q562 rfl rfl dX0_rained_31 rfl ?_
        refine xa_getN 37 2 1 C rfl (T := TX3) rfl in_X3 (by decide) q444 rfl rfl dX0_rained_34 rfl ?_
        refine ga_iload_n 38 C.c 3 rfl rfl dX0_rained_37 rfl ?_
        obtain ⟨h13, hf⟩ := pu_g_w hf
        refine xa_iald 39 2 4 61 C rfl h13 dX0_rained_38 rfl ?_
        refine ga_iadd 40 C.c dX0_rained_39 rfl ?_
        refine ga_istore_n 41 C.c 2 rfl (by decide) rfl dX0_rained_40 rfl ?_
        obtain ⟨_, rfl, hf⟩ := pu_l1_w hf
        refine ga_iinc 44 C.c (v := v6 + 1) rfl rfl (by decide) rfl dX0_rained_41 rfl ?_
        refine ga_goto 24 C.c dX0_rained_44 (by decide) ?_
        exact ga_W.sub (kc7 _ (Option.some.inj hf).symm) (And.intro rfl (And.intro rfl (And.intro rfl (And.intro rfl trivial))))
  · have hf := pu_pos c hf
    refine ga_bipush 11 C.c (v := (-2)) (by decide) dX0_rained_9 rfl ?_
    have hf := Option.some.inj hf
    cases hf
    exact xw_iret C hr hlk hq rfl rfl rfl dX0_rained_11
set_option maxHeartbeats 4000000 in
theorem met_X0_lowest (l : Launch) (X : XX) (z : MS) (r : Int32) (z9 : MS) (hf : fX0_lowest (xp X) z = some (r, z9)) : Met l yX0_lowest (ws_ yX0_lowest cX0_lowest 3 (some .int)) ({ frames := 4, cells := 0, slots := 0, locals := 103 } : Room) (xw_Pc X z [.ref (xg X 0)]) (xw_Qc X z9 (some (.int r))) 0 0 (xw_A (xg X)) := by
  refine xw_of (RX := RX0) (lo := [some (.ref (xg X 0)), none, none]) (by decide) rfl (Nat.le_of_ble_eq_true rfl) rfl (fun E C hr hlk hq => ?_)
  unfold fX0_lowest at hf
  refine ga_aload_n 1 C.c 0 rfl rfl dX0_lowest_0 rfl ?_
  refine xa_get 4 0 1 C rfl (T := TX0) rfl in_X0 (by decide) q554 rfl rfl dX0_lowest_1 rfl ?_
  refine xa_ris 7 C q997 (Nat.le_of_ble_eq_true rfl) (Nat.le_of_ble_eq_true rfl) (Nat.le_of_ble_eq_true rfl) dX0_lowest_4 rfl ?_
  refine ga_if_ne 13 10 C.c dX0_lowest_7 (by decide) rfl (fun c => ?_) (fun c => ?_)
  · have hf := pu_neg c hf
    refine ga_aload_n 14 C.c 0 rfl rfl dX0_lowest_13 rfl ?_
    refine xa_get 17 0 7 C rfl (T := TX0) rfl in_X0 (by decide) q562 rfl rfl dX0_lowest_14 rfl ?_
    obtain ⟨z1, hc2, hf⟩ := pu_b1_w hf
    refine xa_callV 20 2 C (as := []) (met_X3_is (eL E) X _ _ hc2) rfl (T := TX3) rfl (lw_V q1059 q1060 q1061 q99 q1062) cd_X3_is rfl (Nat.le_of_ble_eq_true rfl) (Nat.le_of_ble_eq_true rfl) (Nat.le_of_ble_eq_true rfl) dX0_lowest_17 rfl ?_
    refine ga_pop 21 C.c rfl dX0_lowest_20 rfl ?_
    refine ga_iconst 22 C.c (v := 0) (by decide) dX0_lowest_21 rfl ?_
    refine ga_istore_n 23 C.c 1 rfl (by decide) rfl dX0_lowest_22 rfl ?_
    refine ga_iconst 24 C.c (v := 1) (by decide) dX0_lowest_23 rfl ?_
    refine ga_istore_n 25 C.c 2 rfl (by decide) rfl dX0_lowest_24 rfl ?_
    obtain ⟨v14, hi11, hf⟩ := pu_b1_w hf
    refine ga_cut 60 (I2 := xw_I E X z1) (k2 := 0) (n2 := 0) (lo2 := [none, some (.int v14), none]) (st2 := []) ?_ (fun hj10 => ?_)
    · refine ga_iload_n 61 C.c 1 rfl rfl dX0_lowest_60 rfl ?_
      have hf := Option.some.inj hf
      cases hf
      exact xw_iret C hr hlk hq rfl rfl rfl dX0_lowest_61
    · refine ga_W.sub (pu_it_w (Wd := fun (q : Int32 × Int32) => ga_W E 3 (xw_I E X z1) 0 0 25 [some (.ref (xg X 0)), some (.int q.1), some (.int q.2)] []) (Wx := fun e => e = (v14)) (fun q x hf kc6 kx7 => ?_) hi11 rfl) (And.intro rfl (And.intro rfl (And.intro rfl trivial)))
      obtain ⟨v4, v5⟩ := q
      try dsimp only
      unfold fX0_lowest_L25 at hf
      refine ga_iload_n 26 C.c 2 rfl rfl dX0_lowest_25 rfl ?_
      refine ga_bipush 28 C.c (v := 60) (by decide) dX0_lowest_26 rfl ?_
      refine ga_icmp_gt 60 31 C.c dX0_lowest_28 (by decide) rfl (fun c => ?_) (fun c => ?_)
      · have hf := pu_pos c hf
        cases (kx7 _ (Option.some.inj hf).symm)
        exact ga_W.sub hj10 (And.intro rfl trivial)
      · have hf := pu_neg c hf
        refine ga_aload_n 32 C.c 0 rfl rfl dX0_lowest_31 rfl ?_
        refine xa_get 35 0 7 C rfl (T := TX0) rfl in_X0 (by decide) q562 rfl rfl dX0_lowest_32 rfl ?_
        refine xa_getN 38 2 0 C rfl (T := TX3) rfl in_X3 (by decide) q442 rfl rfl dX0_lowest_35 rfl ?_
        refine ga_iload_n 39 C.c 2 rfl rfl dX0_lowest_38 rfl ?_
        obtain ⟨h12, hf⟩ := pu_g_w hf
        refine xa_iald 40 1 3 61 C rfl h12 dX0_lowest_39 rfl ?_
        refine ga_aload_n 41 C.c 0 rfl rfl dX0_lowest_40 rfl ?_
        refine xa_get 44 0 7 C rfl (T := TX0) rfl in_X0 (by decide) q562 rfl rfl dX0_lowest_41 rfl ?_
        refine xa_getN 47 2 0 C rfl (T := TX3) rfl in_X3 (by decide) q442 rfl rfl dX0_lowest_44 rfl ?_
        refine ga_iload_n 48 C.c 1 rfl rfl dX0_lowest_47 rfl ?_
        obtain ⟨h13, hf⟩ := pu_g_w hf
        refine xa_iald 49 1 3 61 C rfl h13 dX0_lowest_48 rfl ?_
        refine ga_icmp_ge 54 52 C.c dX0_lowest_49 (by decide) rfl (fun c => ?_) (fun c => ?_)
        · have hf := pu_pos c hf
          refine ga_iinc 57 C.c (v := v5 + 1) rfl rfl (by decide) rfl dX0_lowest_54 rfl ?_
          refine ga_goto 25 C.c dX0_lowest_57 (by decide) ?_
          exact ga_W.sub (kc6 _ (Option.some.inj hf).symm) (And.intro rfl (And.intro rfl (And.intro rfl trivial)))
        · have hf := pu_neg c hf
          refine ga_iload_n 53 C.c 2 rfl rfl dX0_lowest_52 rfl ?_
          refine ga_istore_n 54 C.c 1 rfl (by decide) rfl dX0_lowest_53 rfl ?_
          refine ga_iinc 57 C.c (v := v5 + 1) rfl rfl (by decide) rfl dX0_lowest_54 rfl ?_
          refine ga_goto 25 C.c dX0_lowest_57 (by decide) ?_
          exact ga_W.sub (kc6 _ (Option.some.inj hf).symm) (And.intro rfl (And.intro rfl (And.intro rfl trivial)))
  · have hf := pu_pos c hf
    refine ga_bipush 12 C.c (v := (-2)) (by decide) dX0_lowest_10 rfl ?_
    have hf := Option.some.inj hf
    cases hf
    exact xw_iret C hr hlk hq rfl rfl rfl dX0_lowest_12
set_option maxHeartbeats 4000000 in
theorem met_X0_deeper (l : Launch) (X : XX) (z : MS) (r : Int32) (z9 : MS) (hf : fX0_deeper (xp X) z = some (r, z9)) : Met l yX0_deeper (ws_ yX0_deeper cX0_deeper 2 (some .int)) ({ frames := 5, cells := 0, slots := 0, locals := 125 } : Room) (xw_Pc X z [.ref (xg X 0)]) (xw_Qc X z9 (some (.int r))) 0 0 (xw_A (xg X)) := by
  refine xw_of (RX := RX0) (lo := [some (.ref (xg X 0)), none]) (by decide) rfl (Nat.le_of_ble_eq_true rfl) rfl (fun E C hr hlk hq => ?_)
  unfold fX0_deeper at hf
  refine ga_aload_n 1 C.c 0 rfl rfl dX0_deeper_0 rfl ?_
  refine xa_get 4 0 1 C rfl (T := TX0) rfl in_X0 (by decide) q554 rfl rfl dX0_deeper_1 rfl ?_
  refine xa_ris 7 C q997 (Nat.le_of_ble_eq_true rfl) (Nat.le_of_ble_eq_true rfl) (Nat.le_of_ble_eq_true rfl) dX0_deeper_4 rfl ?_
  refine ga_if_ne 13 10 C.c dX0_deeper_7 (by decide) rfl (fun c => ?_) (fun c => ?_)
  · have hf := pu_neg c hf
    refine ga_aload_n 14 C.c 0 rfl rfl dX0_deeper_13 rfl ?_
    obtain ⟨v1, z2, hc3, hf⟩ := pu_b2_w hf
    refine xa_callV 17 0 C (as := []) (met_X0_lowest (eL E) X _ _ _ hc3) rfl (T := TX0) rfl (lw_V q1185 q1178 q1179 q93 q1180) cd_X0_lowest rfl (Nat.le_of_ble_eq_true rfl) (Nat.le_of_ble_eq_true rfl) (Nat.le_of_ble_eq_true rfl) dX0_deeper_14 rfl ?_
    refine ga_istore_n 18 C.c 1 rfl (by decide) rfl dX0_deeper_17 rfl ?_
    refine ga_bipush 20 C.c (v := 20) (by decide) dX0_deeper_18 rfl ?_
    refine ga_aload_n 21 C.c 0 rfl rfl dX0_deeper_20 rfl ?_
    refine xa_get 24 0 7 C rfl (T := TX0) rfl in_X0 (by decide) q562 rfl rfl dX0_deeper_21 rfl ?_
    refine xa_getN 27 2 0 C rfl (T := TX3) rfl in_X3 (by decide) q442 rfl rfl dX0_deeper_24 rfl ?_
    refine ga_iload_n 28 C.c 1 rfl rfl dX0_deeper_27 rfl ?_
    obtain ⟨h4, hf⟩ := pu_g_w hf
    refine xa_iald 29 1 3 61 C rfl h4 dX0_deeper_28 rfl ?_
    refine ga_mmin 32 C.c C.ml C.ow (C.ts _ q1186) (C.ts _ q634) (C.ts _ q104) (C.ts _ q635) (by rw [C.rm]; exact (Nat.le_of_ble_eq_true rfl)) (by rw [C.rm]; exact (Nat.le_of_ble_eq_true rfl)) (by rw [C.rm]; exact (Nat.le_of_ble_eq_true rfl)) (by rw [C.rm]; exact (Nat.le_of_ble_eq_true rfl)) dX0_deeper_29 rfl ?_
    have hf := Option.some.inj hf
    cases hf
    exact xw_iret C hr hlk hq rfl rfl rfl dX0_deeper_32
  · have hf := pu_pos c hf
    refine ga_bipush 12 C.c (v := (-2)) (by decide) dX0_deeper_10 rfl ?_
    have hf := Option.some.inj hf
    cases hf
    exact xw_iret C hr hlk hq rfl rfl rfl dX0_deeper_12
set_option maxHeartbeats 4000000 in
theorem met_X0_goes (l : Launch) (X : XX) (z : MS) (a1 : Int32) (a2 : Int32) (r : Int32) (z9 : MS) (hf : fX0_goes (xp X) z a1 a2 = some (r, z9)) : Met l yX0_goes (ws_ yX0_goes cX0_goes 3 (some .int)) ({ frames := 4, cells := 0, slots := 0, locals := 103 } : Room) (xw_Pc X z [.ref (xg X 0), .int a1, .int a2]) (xw_Qc X z9 (some (.int r))) 0 0 (xw_A (xg X)) := by
  refine xw_of (RX := RX0) (lo := [some (.ref (xg X 0)), some (.int a1), some (.int a2)]) (by decide) rfl (Nat.le_of_ble_eq_true rfl) rfl (fun E C hr hlk hq => ?_)
  unfold fX0_goes at hf
  refine ga_aload_n 1 C.c 0 rfl rfl dX0_goes_0 rfl ?_
  refine ga_iload_n 2 C.c 1 rfl rfl dX0_goes_1 rfl ?_
  refine xa_callV 5 0 C (as := [.int a1]) (met_X0_isJoin (eL E) X _ _) rfl (T := TX0) rfl (lw_V q1046 q1048 qs25 q93 q1049) cd_X0_isJoin rfl (Nat.le_of_ble_eq_true rfl) (Nat.le_of_ble_eq_true rfl) (Nat.le_of_ble_eq_true rfl) dX0_goes_2 rfl ?_
  refine ga_if_eq 17 8 C.c dX0_goes_5 (by decide) rfl (fun c => ?_) (fun c => ?_)
  · have hf := pu_pos c hf
    refine ga_bipush 19 C.c (v := (-2)) (by decide) dX0_goes_17 rfl ?_
    have hf := Option.some.inj hf
    cases hf
    exact xw_iret C hr hlk hq rfl rfl rfl dX0_goes_19
  · have hf := pu_neg c hf
    refine ga_aload_n 9 C.c 0 rfl rfl dX0_goes_8 rfl ?_
    refine ga_iload_n 10 C.c 2 rfl rfl dX0_goes_9 rfl ?_
    refine ga_i2l 11 C.c dX0_goes_10 rfl ?_
    refine xa_callV 14 0 C (as := [.long a2.toInt64]) (met_X0_isStep (eL E) X _ _) rfl (T := TX0) rfl (lw_V q1123 q1125 qs31 q93 q1126) cd_X0_isStep rfl (Nat.le_of_ble_eq_true rfl) (Nat.le_of_ble_eq_true rfl) (Nat.le_of_ble_eq_true rfl) dX0_goes_11 rfl ?_
    refine ga_if_ne 20 17 C.c dX0_goes_14 (by decide) rfl (fun c => ?_) (fun c => ?_)
    · have hf := pu_neg c hf
      refine ga_aload_n 21 C.c 0 rfl rfl dX0_goes_20 rfl ?_
      refine xa_get 24 0 7 C rfl (T := TX0) rfl in_X0 (by decide) q562 rfl rfl dX0_goes_21 rfl ?_
      obtain ⟨z1, hc2, hf⟩ := pu_b1_w hf
      refine xa_callV 27 2 C (as := []) (met_X3_is (eL E) X _ _ hc2) rfl (T := TX3) rfl (lw_V q1059 q1060 q1061 q99 q1062) cd_X3_is rfl (Nat.le_of_ble_eq_true rfl) (Nat.le_of_ble_eq_true rfl) (Nat.le_of_ble_eq_true rfl) dX0_goes_24 rfl ?_
      refine xa_getN 30 2 2 C rfl (T := TX3) rfl in_X3 (by decide) q446 rfl rfl dX0_goes_27 rfl ?_
      refine ga_iload_n 31 C.c 1 rfl rfl dX0_goes_30 rfl ?_
      refine xa_callS 34 C (as := [.int (mi z1 5), .int a1]) (met_X0_isOn (eL E) _ _) (lw_S q1191 q1104 q93 q1105) cd_X0_isOn rfl (Nat.le_of_ble_eq_true rfl) (Nat.le_of_ble_eq_true rfl) (Nat.le_of_ble_eq_true rfl) dX0_goes_31 rfl ?_
      refine ga_if_ne 62 37 C.c dX0_goes_34 (by decide) rfl (fun c => ?_) (fun c => ?_)
      · have hf := pu_neg c hf
        refine ga_iconst 63 C.c (v := 0) (by decide) dX0_goes_62 rfl ?_
        have hf := Option.some.inj hf
        cases hf
        exact xw_iret C hr hlk hq rfl rfl rfl dX0_goes_63
      · have hf := pu_pos c hf
        refine ga_iload_n 38 C.c 2 rfl rfl dX0_goes_37 rfl ?_
        refine ga_aload_n 39 C.c 0 rfl rfl dX0_goes_38 rfl ?_
        refine ga_iload_n 40 C.c 1 rfl rfl dX0_goes_39 rfl ?_
        obtain ⟨hc3, hf⟩ := pu_b0_w hf
        refine xa_callV 43 0 C (as := [.int a1]) (met_X0_joinOf (eL E) X _ _ hc3) rfl (T := TX0) rfl (lw_V q1050 q1052 qs26 q93 q1053) cd_X0_joinOf rfl (Nat.le_of_ble_eq_true rfl) (Nat.le_of_ble_eq_true rfl) (Nat.le_of_ble_eq_true rfl) dX0_goes_40 rfl ?_
        refine xd_getN 46 2 C (C.d1 (xjoin_lt hc3)) (T := TX10) (N := 4) rfl in_X10 (by decide) q909 rfl rfl dX0_goes_43 rfl ?_
        obtain ⟨h4, hf⟩ := pu_z_w hf
        refine ga_irem 47 C.c h4 dX0_goes_46 rfl ?_
        refine ga_aload_n 48 C.c 0 rfl rfl dX0_goes_47 rfl ?_
        refine ga_iload_n 49 C.c 1 rfl rfl dX0_goes_48 rfl ?_
        obtain ⟨hc5, hf⟩ := pu_b0_w hf
        refine xa_callV 52 0 C (as := [.int a1]) (met_X0_joinOf (eL E) X _ _ hc5) rfl (T := TX0) rfl (lw_V q1050 q1052 qs26 q93 q1053) cd_X0_joinOf rfl (Nat.le_of_ble_eq_true rfl) (Nat.le_of_ble_eq_true rfl) (Nat.le_of_ble_eq_true rfl) dX0_goes_49 rfl ?_
        refine xd_getN 55 3 C (C.d1 (xjoin_lt hc5)) (T := TX10) (N := 4) rfl in_X10 (by decide) q912 rfl rfl dX0_goes_52 rfl ?_
        refine ga_icmp_ne 62 58 C.c dX0_goes_55 (by decide) rfl (fun c => ?_) (fun c => ?_)
        · have hf := pu_neg c hf
          refine ga_iconst 63 C.c (v := 0) (by decide) dX0_goes_62 rfl ?_
          have hf := Option.some.inj hf
          cases hf
          exact xw_iret C hr hlk hq rfl rfl rfl dX0_goes_63
        · have hf := pu_pos c hf
          refine ga_iconst 59 C.c (v := 1) (by decide) dX0_goes_58 rfl ?_
          refine ga_goto 63 C.c dX0_goes_59 (by decide) ?_
          have hf := Option.some.inj hf
          cases hf
          exact xw_iret C hr hlk hq rfl rfl rfl dX0_goes_63
    · have hf := pu_pos c hf
      refine ga_bipush 19 C.c (v := (-2)) (by decide) dX0_goes_17 rfl ?_
      have hf := Option.some.inj hf
      cases hf
      exact xw_iret C hr hlk hq rfl rfl rfl dX0_goes_19
set_option maxHeartbeats 4000000 in
theorem met_X0_used (l : Launch) (X : XX) (z : MS) (a1 : Int32) (a2 : Int32) (r : Int32) (z9 : MS) (hf : fX0_used (xp X) z a1 a2 = some (r, z9)) : Met l yX0_used (ws_ yX0_used cX0_used 3 (some .int)) ({ frames := 7, cells := 0, slots := 0, locals := 176 } : Room) (xw_Pc X z [.ref (xg X 0), .int a1, .int a2]) (xw_Qc X z9 (some (.int r))) 0 0 (xw_A (xg X)) := by
  refine xw_of (RX := RX0) (lo := [some (.ref (xg X 0)), some (.int a1), some (.int a2)]) (by decide) rfl (Nat.le_of_ble_eq_true rfl) rfl (fun E C hr hlk hq => ?_)
  unfold fX0_used at hf
  refine ga_aload_n 1 C.c 0 rfl rfl dX0_used_0 rfl ?_
  refine ga_iload_n 2 C.c 1 rfl rfl dX0_used_1 rfl ?_
  refine ga_iload_n 3 C.c 2 rfl rfl dX0_used_2 rfl ?_
  refine xa_callV 6 0 C (as := [.int a1, .int a2]) (met_X0_isStick (eL E) X _ _ _) rfl (T := TX0) rfl (lw_V q1132 q1134 qs32 q93 q1135) cd_X0_isStick rfl (Nat.le_of_ble_eq_true rfl) (Nat.le_of_ble_eq_true rfl) (Nat.le_of_ble_eq_true rfl) dX0_used_3 rfl ?_
  refine ga_if_ne 12 9 C.c dX0_used_6 (by decide) rfl (fun c => ?_) (fun c => ?_)
  · have hf := pu_neg c hf
    refine ga_aload_n 13 C.c 0 rfl rfl dX0_used_12 rfl ?_
    refine ga_iload_n 14 C.c 1 rfl rfl dX0_used_13 rfl ?_
    refine ga_iload_n 15 C.c 2 rfl rfl dX0_used_14 rfl ?_
    obtain ⟨z1, hc2, hf⟩ := pu_b1_w hf
    refine xa_callV 18 0 C (as := [.int a1, .int a2]) (met_X0_put (eL E) X _ _ _ _ hc2) rfl (T := TX0) rfl (lw_V q1094 q1096 qs29 q93 q1097) cd_X0_put rfl (Nat.le_of_ble_eq_true rfl) (Nat.le_of_ble_eq_true rfl) (Nat.le_of_ble_eq_true rfl) dX0_used_15 rfl ?_
    refine ga_pop 19 C.c rfl dX0_used_18 rfl ?_
    refine ga_aload_n 20 C.c 0 rfl rfl dX0_used_19 rfl ?_
    refine xa_get 23 0 8 C rfl (T := TX0) rfl in_X0 (by decide) q564 rfl rfl dX0_used_20 rfl ?_
    refine xa_getN 26 5 5 C rfl (T := TX4) rfl in_X4 (by decide) q495 rfl rfl dX0_used_23 rfl ?_
    have hf := Option.some.inj hf
    cases hf
    exact xw_iret C hr hlk hq rfl rfl rfl dX0_used_26
  · have hf := pu_pos c hf
    refine ga_bipush 11 C.c (v := (-2)) (by decide) dX0_used_9 rfl ?_
    have hf := Option.some.inj hf
    cases hf
    exact xw_iret C hr hlk hq rfl rfl rfl dX0_used_11
set_option maxHeartbeats 4000000 in
theorem met_X0_together (l : Launch) (X : XX) (z : MS) (a1 : Int32) (a2 : Int32) (r : Int32) (z9 : MS) (hf : fX0_together (xp X) z a1 a2 = some (r, z9)) : Met l yX0_together (ws_ yX0_together cX0_together 5 (some .int)) ({ frames := 7, cells := 0, slots := 0, locals := 176 } : Room) (xw_Pc X z [.ref (xg X 0), .int a1, .int a2]) (xw_Qc X z9 (some (.int r))) 0 0 (xw_A (xg X)) := by
  refine xw_of (RX := RX0) (lo := [some (.ref (xg X 0)), some (.int a1), some (.int a2), none, none]) (by decide) rfl (Nat.le_of_ble_eq_true rfl) rfl (fun E C hr hlk hq => ?_)
  unfold fX0_together at hf
  refine ga_aload_n 1 C.c 0 rfl rfl dX0_together_0 rfl ?_
  refine ga_iload_n 2 C.c 1 rfl rfl dX0_together_1 rfl ?_
  refine ga_iload_n 3 C.c 2 rfl rfl dX0_together_2 rfl ?_
  refine xa_callV 6 0 C (as := [.int a1, .int a2]) (met_X0_isStick (eL E) X _ _ _) rfl (T := TX0) rfl (lw_V q1132 q1134 qs32 q93 q1135) cd_X0_isStick rfl (Nat.le_of_ble_eq_true rfl) (Nat.le_of_ble_eq_true rfl) (Nat.le_of_ble_eq_true rfl) dX0_together_3 rfl ?_
  refine ga_if_ne 12 9 C.c dX0_together_6 (by decide) rfl (fun c => ?_) (fun c => ?_)
  · have hf := pu_neg c hf
    refine ga_aload_n 13 C.c 0 rfl rfl dX0_together_12 rfl ?_
    refine ga_iload_n 14 C.c 1 rfl rfl dX0_together_13 rfl ?_
    refine ga_iload_n 15 C.c 2 rfl rfl dX0_together_14 rfl ?_
    obtain ⟨z1, hc2, hf⟩ := pu_b1_w hf
    refine xa_callV 18 0 C (as := [.int a1, .int a2]) (met_X0_put (eL E) X _ _ _ _ hc2) rfl (T := TX0) rfl (lw_V q1094 q1096 qs29 q93 q1097) cd_X0_put rfl (Nat.le_of_ble_eq_true rfl) (Nat.le_of_ble_eq_true rfl) (Nat.le_of_ble_eq_true rfl) dX0_together_15 rfl ?_
    refine ga_pop 19 C.c rfl dX0_together_18 rfl ?_
    refine ga_iconst 20 C.c (v := 0) (by decide) dX0_together_19 rfl ?_
    refine ga_istore_n 21 C.c 3 rfl (by decide) rfl dX0_together_20 rfl ?_
    refine ga_iconst 22 C.c (v := 0) (by decide) dX0_together_21 rfl ?_
    refine ga_istore 24 C.c 4 (by decide) rfl dX0_together_22 rfl ?_
    obtain ⟨v17, z18, hi12, hf⟩ := pu_b2_w hf
    refine ga_cut 79 (I2 := xw_I E X z18) (k2 := 0) (n2 := 0) (lo2 := [none, none, none, some (.int v17), none]) (st2 := []) ?_ (fun hj11 => ?_)
    · refine ga_iload_n 80 C.c 3 rfl rfl dX0_together_79 rfl ?_
      have hf := Option.some.inj hf
      cases hf
      exact xw_iret C hr hlk hq rfl rfl rfl dX0_together_80
    · refine ga_W.sub (pu_it_w (Wd := fun (q : Int32 × Int32 × MS) => ga_W E 5 (xw_I E X q.2.2) 0 0 24 [some (.ref (xg X 0)), none, some (.int a2), some (.int q.1), some (.int q.2.1)] []) (Wx := fun e => e = (v17, z18)) (fun q x hf kc7 kx8 => ?_) hi12 rfl) (And.intro rfl (And.intro rfl (And.intro rfl (And.intro rfl trivial))))
      obtain ⟨v4, v5, z6⟩ := q
      try dsimp only
      unfold fX0_together_L24 at hf
      refine ga_iload 26 C.c rfl dX0_together_24 rfl ?_
      refine ga_aload_n 27 C.c 0 rfl rfl dX0_together_26 rfl ?_
      refine xa_callV 30 0 C (as := []) (met_X0_reaches (eL E) X _) rfl (T := TX0) rfl (lw_V q1013 q1015 qs23 q93 q1016) cd_X0_reaches rfl (Nat.le_of_ble_eq_true rfl) (Nat.le_of_ble_eq_true rfl) (Nat.le_of_ble_eq_true rfl) dX0_together_27 rfl ?_
      refine ga_icmp_ge 79 33 C.c dX0_together_30 (by decide) rfl (fun c => ?_) (fun c => ?_)
      · have hf := pu_pos c hf
        cases (kx8 _ (Option.some.inj hf).symm)
        exact ga_W.sub hj11 (And.intro rfl trivial)
      · have hf := pu_neg c hf
        refine ga_iload_n 34 C.c 3 rfl rfl dX0_together_33 rfl ?_
        refine ga_aload_n 35 C.c 0 rfl rfl dX0_together_34 rfl ?_
        refine xa_get 38 0 9 C rfl (T := TX0) rfl in_X0 (by decide) q565 rfl rfl dX0_together_35 rfl ?_
        refine ga_iload 40 C.c rfl dX0_together_38 rfl ?_
        refine ga_iload_n 41 C.c 2 rfl rfl dX0_together_40 rfl ?_
        obtain ⟨z13, hc14, hf⟩ := pu_b1_w hf
        refine xa_callV 44 7 C (as := [.int v5, .int a2]) (met_X4_goes_o (eL E) X _ _ _ _ hc14) rfl (T := TX4) rfl (lw_V q1098 q1099 q1100 q100 q1101) cd_X4_goes_o rfl (Nat.le_of_ble_eq_true rfl) (Nat.le_of_ble_eq_true rfl) (Nat.le_of_ble_eq_true rfl) dX0_together_41 rfl ?_
        refine xa_getN 47 7 0 C rfl (T := TX4) rfl in_X4 (by decide) q486 rfl rfl dX0_together_44 rfl ?_
        refine ga_bipush 49 C.c (v := 60) (by decide) dX0_together_47 rfl ?_
        refine xa_iald 50 13 8 61 C rfl (vp_in_iff.mpr (by decide)) dX0_together_49 rfl ?_
        refine ga_aload_n 51 C.c 0 rfl rfl dX0_together_50 rfl ?_
        refine xa_get 54 0 8 C rfl (T := TX0) rfl in_X0 (by decide) q564 rfl rfl dX0_together_51 rfl ?_
        refine xa_getN 57 5 0 C rfl (T := TX4) rfl in_X4 (by decide) q486 rfl rfl dX0_together_54 rfl ?_
        refine ga_bipush 59 C.c (v := 60) (by decide) dX0_together_57 rfl ?_
        refine xa_iald 60 3 6 61 C rfl (vp_in_iff.mpr (by decide)) dX0_together_59 rfl ?_
        refine ga_icmp_ne 70 63 C.c dX0_together_60 (by decide) rfl (fun c => ?_) (fun c => ?_)
        · have hf := pu_neg c hf
          refine ga_iconst 71 C.c (v := 0) (by decide) dX0_together_70 rfl ?_
          refine ga_ior 72 C.c dX0_together_71 rfl ?_
          refine ga_istore_n 73 C.c 3 rfl (by decide) rfl dX0_together_72 rfl ?_
          obtain ⟨_, rfl, hf⟩ := pu_l1_w hf
          refine ga_iinc 76 C.c (v := v5 + 1) rfl rfl (by decide) rfl dX0_together_73 rfl ?_
          refine ga_goto 24 C.c dX0_together_76 (by decide) ?_
          exact ga_W.sub (kc7 _ (Option.some.inj hf).symm) (And.intro rfl (And.intro rfl (And.intro rfl (And.intro rfl trivial))))
        · have hf := pu_pos c hf
          refine ga_iconst 64 C.c (v := 1) (by decide) dX0_together_63 rfl ?_
          refine ga_iload 66 C.c rfl dX0_together_64 rfl ?_
          refine ga_ishl 67 C.c dX0_together_66 rfl ?_
          refine ga_goto 71 C.c dX0_together_67 (by decide) ?_
          refine ga_ior 72 C.c dX0_together_71 rfl ?_
          refine ga_istore_n 73 C.c 3 rfl (by decide) rfl dX0_together_72 rfl ?_
          obtain ⟨_, rfl, hf⟩ := pu_l1_w hf
          refine ga_iinc 76 C.c (v := v5 + 1) rfl rfl (by decide) rfl dX0_together_73 rfl ?_
          refine ga_goto 24 C.c dX0_together_76 (by decide) ?_
          exact ga_W.sub (kc7 _ (Option.some.inj hf).symm) (And.intro rfl (And.intro rfl (And.intro rfl (And.intro rfl trivial))))
  · have hf := pu_pos c hf
    refine ga_bipush 11 C.c (v := (-2)) (by decide) dX0_together_9 rfl ?_
    have hf := Option.some.inj hf
    cases hf
    exact xw_iret C hr hlk hq rfl rfl rfl dX0_together_11
set_option maxHeartbeats 4000000 in
theorem met_X0_again (l : Launch) (X : XX) (z : MS) (a1 : Int32) (a2 : Int32) (r : Int32) (z9 : MS) (hf : fX0_again (xp X) z a1 a2 = some (r, z9)) : Met l yX0_again (ws_ yX0_again cX0_again 3 (some .int)) ({ frames := 7, cells := 0, slots := 0, locals := 176 } : Room) (xw_Pc X z [.ref (xg X 0), .int a1, .int a2]) (xw_Qc X z9 (some (.int r))) 0 0 (xw_A (xg X)) := by
  refine xw_of (RX := RX0) (lo := [some (.ref (xg X 0)), some (.int a1), some (.int a2)]) (by decide) rfl (Nat.le_of_ble_eq_true rfl) rfl (fun E C hr hlk hq => ?_)
  unfold fX0_again at hf
  refine ga_aload_n 1 C.c 0 rfl rfl dX0_again_0 rfl ?_
  refine ga_iload_n 2 C.c 1 rfl rfl dX0_again_1 rfl ?_
  refine ga_iload_n 3 C.c 2 rfl rfl dX0_again_2 rfl ?_
  refine xa_callV 6 0 C (as := [.int a1, .int a2]) (met_X0_isStick (eL E) X _ _ _) rfl (T := TX0) rfl (lw_V q1132 q1134 qs32 q93 q1135) cd_X0_isStick rfl (Nat.le_of_ble_eq_true rfl) (Nat.le_of_ble_eq_true rfl) (Nat.le_of_ble_eq_true rfl) dX0_again_3 rfl ?_
  refine ga_if_ne 12 9 C.c dX0_again_6 (by decide) rfl (fun c => ?_) (fun c => ?_)
  · have hf := pu_neg c hf
    refine ga_aload_n 13 C.c 0 rfl rfl dX0_again_12 rfl ?_
    refine ga_iload_n 14 C.c 1 rfl rfl dX0_again_13 rfl ?_
    refine ga_iload_n 15 C.c 2 rfl rfl dX0_again_14 rfl ?_
    obtain ⟨z1, hc2, hf⟩ := pu_b1_w hf
    refine xa_callV 18 0 C (as := [.int a1, .int a2]) (met_X0_put (eL E) X _ _ _ _ hc2) rfl (T := TX0) rfl (lw_V q1094 q1096 qs29 q93 q1097) cd_X0_put rfl (Nat.le_of_ble_eq_true rfl) (Nat.le_of_ble_eq_true rfl) (Nat.le_of_ble_eq_true rfl) dX0_again_15 rfl ?_
    refine ga_pop 19 C.c rfl dX0_again_18 rfl ?_
    refine ga_aload_n 20 C.c 0 rfl rfl dX0_again_19 rfl ?_
    refine xa_get 23 0 8 C rfl (T := TX0) rfl in_X0 (by decide) q564 rfl rfl dX0_again_20 rfl ?_
    refine xa_getN 26 5 6 C rfl (T := TX4) rfl in_X4 (by decide) q497 rfl rfl dX0_again_23 rfl ?_
    have hf := Option.some.inj hf
    cases hf
    exact xw_iret C hr hlk hq rfl rfl rfl dX0_again_26
  · have hf := pu_pos c hf
    refine ga_bipush 11 C.c (v := (-2)) (by decide) dX0_again_9 rfl ?_
    have hf := Option.some.inj hf
    cases hf
    exact xw_iret C hr hlk hq rfl rfl rfl dX0_again_11
set_option maxHeartbeats 4000000 in
theorem met_X4_way_o (l : Launch) (X : XX) (z : MS) (r : Int32) (hf : fX4_way_o (xp X) z = some r) : Met l yX4_way (ws_ yX4_way cX4_way 3 (some .int)) ({ frames := 0, cells := 0, slots := 0, locals := 0 } : Room) (xw_Pc X z [.ref (xg X 7)]) (xw_Qc X z (some (.int r))) 0 0 (xw_A (xg X)) := by
  refine xw_of (RX := RX4) (lo := [some (.ref (xg X 7)), none, none]) (by decide) rfl (Nat.le_of_ble_eq_true rfl) rfl (fun E C hr hlk hq => ?_)
  unfold fX4_way_o at hf
  refine ga_iconst 1 C.c (v := 0) (by decide) dX4_way_0 rfl ?_
  refine ga_istore_n 2 C.c 1 rfl (by decide) rfl dX4_way_1 rfl ?_
  refine ga_aload_n 3 C.c 0 rfl rfl dX4_way_2 rfl ?_
  refine xa_get 6 7 1 C rfl (T := TX4) rfl in_X4 (by decide) q487 rfl rfl dX4_way_3 rfl ?_
  refine ga_istore_n 7 C.c 2 rfl (by decide) rfl dX4_way_6 rfl ?_
  obtain ⟨_, rfl, hf⟩ := pu_l1_w hf
  obtain ⟨v15, hi10, hf⟩ := pu_b1_w hf
  refine ga_cut 45 (I2 := xw_I E X z) (k2 := 0) (n2 := 0) (lo2 := [none, some (.int v15), none]) (st2 := []) ?_ (fun hj9 => ?_)
  · refine ga_iload_n 46 C.c 1 rfl rfl dX4_way_45 rfl ?_
    have hf := Option.some.inj hf
    cases hf
    exact xw_iret C hr hlk hq rfl rfl rfl dX4_way_46
  · refine ga_W.sub (pu_it_w (Wd := fun (q : Int32 × Int32) => ga_W E 3 (xw_I E X z) 0 0 7 [some (.ref (xg X 7)), some (.int q.1), some (.int q.2)] []) (Wx := fun e => e = (v15)) (fun q x hf kc5 kx6 => ?_) hi10 rfl) (And.intro rfl (And.intro rfl (And.intro rfl trivial)))
    obtain ⟨v3, v4⟩ := q
    try dsimp only
    unfold fX4_way_o_L7 at hf
    refine ga_iload_n 8 C.c 2 rfl rfl dX4_way_7 rfl ?_
    refine ga_bipush 10 C.c (v := 60) (by decide) dX4_way_8 rfl ?_
    refine ga_icmp_gt 45 13 C.c dX4_way_10 (by decide) rfl (fun c => ?_) (fun c => ?_)
    · have hf := pu_pos c hf
      cases (kx6 _ (Option.some.inj hf).symm)
      exact ga_W.sub hj9 (And.intro rfl trivial)
    · have hf := pu_neg c hf
      refine ga_iload_n 14 C.c 1 rfl rfl dX4_way_13 rfl ?_
      refine ga_aload_n 15 C.c 0 rfl rfl dX4_way_14 rfl ?_
      refine xa_get 18 7 0 C rfl (T := TX4) rfl in_X4 (by decide) q484 rfl rfl dX4_way_15 rfl ?_
      refine ga_iload_n 19 C.c 2 rfl rfl dX4_way_18 rfl ?_
      obtain ⟨h11, hf⟩ := pu_g_w hf
      refine xa_iald 20 13 8 61 C rfl h11 dX4_way_19 rfl ?_
      refine ga_bipush 22 C.c (v := 10) (by decide) dX4_way_20 rfl ?_
      refine ga_icmp_ge 36 25 C.c dX4_way_22 (by decide) rfl (fun c => ?_) (fun c => ?_)
      · have hf := pu_pos c hf
        refine ga_iconst 37 C.c (v := 0) (by decide) dX4_way_36 rfl ?_
        refine ga_ior 38 C.c dX4_way_37 rfl ?_
        refine ga_istore_n 39 C.c 1 rfl (by decide) rfl dX4_way_38 rfl ?_
        obtain ⟨_, rfl, hf⟩ := pu_l1_w hf
        refine ga_iinc 42 C.c (v := v4 + 1) rfl rfl (by decide) rfl dX4_way_39 rfl ?_
        refine ga_goto 7 C.c dX4_way_42 (by decide) ?_
        exact ga_W.sub (kc5 _ (Option.some.inj hf).symm) (And.intro rfl (And.intro rfl (And.intro rfl trivial)))
      · have hf := pu_neg c hf
        refine ga_iconst 26 C.c (v := 1) (by decide) dX4_way_25 rfl ?_
        refine ga_aload_n 27 C.c 0 rfl rfl dX4_way_26 rfl ?_
        refine xa_get 30 7 0 C rfl (T := TX4) rfl in_X4 (by decide) q484 rfl rfl dX4_way_27 rfl ?_
        refine ga_iload_n 31 C.c 2 rfl rfl dX4_way_30 rfl ?_
        obtain ⟨h13, hf⟩ := pu_g_w hf
        refine xa_iald 32 13 8 61 C rfl h13 dX4_way_31 rfl ?_
        refine ga_ishl 33 C.c dX4_way_32 rfl ?_
        refine ga_goto 37 C.c dX4_way_33 (by decide) ?_
        refine ga_ior 38 C.c dX4_way_37 rfl ?_
        refine ga_istore_n 39 C.c 1 rfl (by decide) rfl dX4_way_38 rfl ?_
        obtain ⟨_, rfl, hf⟩ := pu_l1_w hf
        refine ga_iinc 42 C.c (v := v4 + 1) rfl rfl (by decide) rfl dX4_way_39 rfl ?_
        refine ga_goto 7 C.c dX4_way_42 (by decide) ?_
        exact ga_W.sub (kc5 _ (Option.some.inj hf).symm) (And.intro rfl (And.intro rfl (And.intro rfl trivial)))
set_option maxHeartbeats 4000000 in
theorem met_X4_way_s (l : Launch) (X : XX) (z : MS) (r : Int32) (hf : fX4_way_s (xp X) z = some r) : Met l yX4_way (ws_ yX4_way cX4_way 3 (some .int)) ({ frames := 0, cells := 0, slots := 0, locals := 0 } : Room) (xw_Pc X z [.ref (xg X 5)]) (xw_Qc X z (some (.int r))) 0 0 (xw_A (xg X)) := by
  refine xw_of (RX := RX4) (lo := [some (.ref (xg X 5)), none, none]) (by decide) rfl (Nat.le_of_ble_eq_true rfl) rfl (fun E C hr hlk hq => ?_)
  unfold fX4_way_s at hf
  refine ga_iconst 1 C.c (v := 0) (by decide) dX4_way_0 rfl ?_
  refine ga_istore_n 2 C.c 1 rfl (by decide) rfl dX4_way_1 rfl ?_
  refine ga_aload_n 3 C.c 0 rfl rfl dX4_way_2 rfl ?_
  refine xa_get 6 5 1 C rfl (T := TX4) rfl in_X4 (by decide) q487 rfl rfl dX4_way_3 rfl ?_
  refine ga_istore_n 7 C.c 2 rfl (by decide) rfl dX4_way_6 rfl ?_
  obtain ⟨_, rfl, hf⟩ := pu_l1_w hf
  obtain ⟨v15, hi10, hf⟩ := pu_b1_w hf
  refine ga_cut 45 (I2 := xw_I E X z) (k2 := 0) (n2 := 0) (lo2 := [none, some (.int v15), none]) (st2 := []) ?_ (fun hj9 => ?_)
  · refine ga_iload_n 46 C.c 1 rfl rfl dX4_way_45 rfl ?_
    have hf := Option.some.inj hf
    cases hf
    exact xw_iret C hr hlk hq rfl rfl rfl dX4_way_46
  · refine ga_W.sub (pu_it_w (Wd := fun (q : Int32 × Int32) => ga_W E 3 (xw_I E X z) 0 0 7 [some (.ref (xg X 5)), some (.int q.1), some (.int q.2)] []) (Wx := fun e => e = (v15)) (fun q x hf kc5 kx6 => ?_) hi10 rfl) (And.intro rfl (And.intro rfl (And.intro rfl trivial)))
    obtain ⟨v3, v4⟩ := q
    try dsimp only
    unfold fX4_way_s_L7 at hf
    refine ga_iload_n 8 C.c 2 rfl rfl dX4_way_7 rfl ?_
    refine ga_bipush 10 C.c (v := 60) (by decide) dX4_way_8 rfl ?_
    refine ga_icmp_gt 45 13 C.c dX4_way_10 (by decide) rfl (fun c => ?_) (fun c => ?_)
    · have hf := pu_pos c hf
      cases (kx6 _ (Option.some.inj hf).symm)
      exact ga_W.sub hj9 (And.intro rfl trivial)
    · have hf := pu_neg c hf
      refine ga_iload_n 14 C.c 1 rfl rfl dX4_way_13 rfl ?_
      refine ga_aload_n 15 C.c 0 rfl rfl dX4_way_14 rfl ?_
      refine xa_get 18 5 0 C rfl (T := TX4) rfl in_X4 (by decide) q484 rfl rfl dX4_way_15 rfl ?_
      refine ga_iload_n 19 C.c 2 rfl rfl dX4_way_18 rfl ?_
      obtain ⟨h11, hf⟩ := pu_g_w hf
      refine xa_iald 20 3 6 61 C rfl h11 dX4_way_19 rfl ?_
      refine ga_bipush 22 C.c (v := 10) (by decide) dX4_way_20 rfl ?_
      refine ga_icmp_ge 36 25 C.c dX4_way_22 (by decide) rfl (fun c => ?_) (fun c => ?_)
      · have hf := pu_pos c hf
        refine ga_iconst 37 C.c (v := 0) (by decide) dX4_way_36 rfl ?_
        refine ga_ior 38 C.c dX4_way_37 rfl ?_
        refine ga_istore_n 39 C.c 1 rfl (by decide) rfl dX4_way_38 rfl ?_
        obtain ⟨_, rfl, hf⟩ := pu_l1_w hf
        refine ga_iinc 42 C.c (v := v4 + 1) rfl rfl (by decide) rfl dX4_way_39 rfl ?_
        refine ga_goto 7 C.c dX4_way_42 (by decide) ?_
        exact ga_W.sub (kc5 _ (Option.some.inj hf).symm) (And.intro rfl (And.intro rfl (And.intro rfl trivial)))
      · have hf := pu_neg c hf
        refine ga_iconst 26 C.c (v := 1) (by decide) dX4_way_25 rfl ?_
        refine ga_aload_n 27 C.c 0 rfl rfl dX4_way_26 rfl ?_
        refine xa_get 30 5 0 C rfl (T := TX4) rfl in_X4 (by decide) q484 rfl rfl dX4_way_27 rfl ?_
        refine ga_iload_n 31 C.c 2 rfl rfl dX4_way_30 rfl ?_
        obtain ⟨h13, hf⟩ := pu_g_w hf
        refine xa_iald 32 3 6 61 C rfl h13 dX4_way_31 rfl ?_
        refine ga_ishl 33 C.c dX4_way_32 rfl ?_
        refine ga_goto 37 C.c dX4_way_33 (by decide) ?_
        refine ga_ior 38 C.c dX4_way_37 rfl ?_
        refine ga_istore_n 39 C.c 1 rfl (by decide) rfl dX4_way_38 rfl ?_
        obtain ⟨_, rfl, hf⟩ := pu_l1_w hf
        refine ga_iinc 42 C.c (v := v4 + 1) rfl rfl (by decide) rfl dX4_way_39 rfl ?_
        refine ga_goto 7 C.c dX4_way_42 (by decide) ?_
        exact ga_W.sub (kc5 _ (Option.some.inj hf).symm) (And.intro rfl (And.intro rfl (And.intro rfl trivial)))
set_option maxHeartbeats 4000000 in
theorem met_X0_can (l : Launch) (X : XX) (z : MS) (a1 : Int32) (r : Int32) (z9 : MS) (hf : fX0_can (xp X) z a1 = some (r, z9)) : Met l yX0_can (ws_ yX0_can cX0_can 4 (some .int)) ({ frames := 7, cells := 0, slots := 0, locals := 176 } : Room) (xw_Pc X z [.ref (xg X 0), .int a1]) (xw_Qc X z9 (some (.int r))) 0 0 (xw_A (xg X)) := by
  refine xw_of (RX := RX0) (lo := [some (.ref (xg X 0)), some (.int a1), none, none]) (by decide) rfl (Nat.le_of_ble_eq_true rfl) rfl (fun E C hr hlk hq => ?_)
  unfold fX0_can at hf
  refine ga_aload_n 1 C.c 0 rfl rfl dX0_can_0 rfl ?_
  refine ga_iload_n 2 C.c 1 rfl rfl dX0_can_1 rfl ?_
  refine ga_i2l 3 C.c dX0_can_2 rfl ?_
  refine xa_callV 6 0 C (as := [.long a1.toInt64]) (met_X0_isReach (eL E) X _ _) rfl (T := TX0) rfl (lw_V q1009 q1011 qs22 q93 q1012) cd_X0_isReach rfl (Nat.le_of_ble_eq_true rfl) (Nat.le_of_ble_eq_true rfl) (Nat.le_of_ble_eq_true rfl) dX0_can_3 rfl ?_
  refine ga_if_ne 12 9 C.c dX0_can_6 (by decide) rfl (fun c => ?_) (fun c => ?_)
  · have hf := pu_neg c hf
    refine ga_iconst 13 C.c (v := 0) (by decide) dX0_can_12 rfl ?_
    refine ga_istore_n 14 C.c 2 rfl (by decide) rfl dX0_can_13 rfl ?_
    refine ga_iconst 15 C.c (v := 0) (by decide) dX0_can_14 rfl ?_
    refine ga_istore_n 16 C.c 3 rfl (by decide) rfl dX0_can_15 rfl ?_
    obtain ⟨v16, z17, hi10, hf⟩ := pu_b2_w hf
    refine ga_cut 40 (I2 := xw_I E X z17) (k2 := 0) (n2 := 0) (lo2 := [none, none, some (.int v16), none]) (st2 := []) ?_ (fun hj9 => ?_)
    · refine ga_iload_n 41 C.c 2 rfl rfl dX0_can_40 rfl ?_
      have hf := Option.some.inj hf
      cases hf
      exact xw_iret C hr hlk hq rfl rfl rfl dX0_can_41
    · refine ga_W.sub (pu_it_w (Wd := fun (q : Int32 × Int32 × MS) => ga_W E 4 (xw_I E X q.2.2) 0 0 16 [some (.ref (xg X 0)), some (.int a1), some (.int q.1), some (.int q.2.1)] []) (Wx := fun e => e = (v16, z17)) (fun q x hf kc5 kx6 => ?_) hi10 rfl) (And.intro rfl (And.intro rfl (And.intro rfl (And.intro rfl trivial))))
      obtain ⟨v2, v3, z4⟩ := q
      try dsimp only
      unfold fX0_can_L16 at hf
      refine ga_iload_n 17 C.c 3 rfl rfl dX0_can_16 rfl ?_
      refine ga_bipush 19 C.c (v := 60) (by decide) dX0_can_17 rfl ?_
      refine ga_icmp_gt 40 22 C.c dX0_can_19 (by decide) rfl (fun c => ?_) (fun c => ?_)
      · have hf := pu_pos c hf
        cases (kx6 _ (Option.some.inj hf).symm)
        exact ga_W.sub hj9 (And.intro rfl trivial)
      · have hf := pu_neg c hf
        refine ga_iload_n 23 C.c 2 rfl rfl dX0_can_22 rfl ?_
        refine ga_aload_n 24 C.c 0 rfl rfl dX0_can_23 rfl ?_
        refine ga_iload_n 25 C.c 1 rfl rfl dX0_can_24 rfl ?_
        refine ga_iload_n 26 C.c 3 rfl rfl dX0_can_25 rfl ?_
        obtain ⟨z11, hc12, hf⟩ := pu_b1_w hf
        refine xa_callV 29 0 C (as := [.int a1, .int v3]) (met_X0_put (eL E) X _ _ _ _ hc12) rfl (T := TX0) rfl (lw_V q1094 q1096 qs29 q93 q1097) cd_X0_put rfl (Nat.le_of_ble_eq_true rfl) (Nat.le_of_ble_eq_true rfl) (Nat.le_of_ble_eq_true rfl) dX0_can_26 rfl ?_
        obtain ⟨v13, hc14, hf⟩ := pu_b1_w hf
        refine xa_callV 32 5 C (as := []) (met_X4_way_s (eL E) X _ _ hc14) rfl (T := TX4) rfl (lw_V q1208 q1209 q1210 q100 q1211) cd_X4_way_s rfl (Nat.le_of_ble_eq_true rfl) (Nat.le_of_ble_eq_true rfl) (Nat.le_of_ble_eq_true rfl) dX0_can_29 rfl ?_
        refine ga_ior 33 C.c dX0_can_32 rfl ?_
        refine ga_istore_n 34 C.c 2 rfl (by decide) rfl dX0_can_33 rfl ?_
        obtain ⟨_, rfl, hf⟩ := pu_l1_w hf
        refine ga_iinc 37 C.c (v := v3 + 1) rfl rfl (by decide) rfl dX0_can_34 rfl ?_
        refine ga_goto 16 C.c dX0_can_37 (by decide) ?_
        exact ga_W.sub (kc5 _ (Option.some.inj hf).symm) (And.intro rfl (And.intro rfl (And.intro rfl (And.intro rfl trivial))))
  · have hf := pu_pos c hf
    refine ga_bipush 11 C.c (v := (-2)) (by decide) dX0_can_9 rfl ?_
    have hf := Option.some.inj hf
    cases hf
    exact xw_iret C hr hlk hq rfl rfl rfl dX0_can_11
set_option maxHeartbeats 4000000 in
theorem met_X4_first_o (l : Launch) (X : XX) (z : MS) (a1 : Int32) (r : Int32) (hf : fX4_first_o (xp X) z a1 = some r) : Met l yX4_first (ws_ yX4_first cX4_first 3 (some .int)) ({ frames := 0, cells := 0, slots := 0, locals := 0 } : Room) (xw_Pc X z [.ref (xg X 7), .int a1]) (xw_Qc X z (some (.int r))) 0 0 (xw_A (xg X)) := by
  refine xw_of (RX := RX4) (lo := [some (.ref (xg X 7)), some (.int a1), none]) (by decide) rfl (Nat.le_of_ble_eq_true rfl) rfl (fun E C hr hlk hq => ?_)
  unfold fX4_first_o at hf
  refine ga_aload_n 1 C.c 0 rfl rfl dX4_first_0 rfl ?_
  refine xa_get 4 7 1 C rfl (T := TX4) rfl in_X4 (by decide) q487 rfl rfl dX4_first_1 rfl ?_
  refine ga_istore_n 5 C.c 2 rfl (by decide) rfl dX4_first_4 rfl ?_
  obtain ⟨_, rfl, hf⟩ := pu_l1_w hf
  obtain ⟨y12, hi10, hr7, hs8⟩ := pu_s_w hf
  refine ga_cutP (P := y12 = .inl () → ga_W E 3 (xw_I E X z) 0 0 29 [none, none, none] []) (fun hy => ?_) (fun hj9 => ?_)
  · have hf := hr7 _ hy
    refine ga_iconst 30 C.c (v := (-1)) (by decide) dX4_first_29 rfl ?_
    have hf := Option.some.inj hf
    cases hf
    exact xw_iret C hr hlk hq rfl rfl rfl dX4_first_30
  · refine ga_W.sub (pu_it_w (Wd := fun (q : Int32) => ga_W E 3 (xw_I E X z) 0 0 5 [some (.ref (xg X 7)), some (.int a1), some (.int q)] []) (Wx := fun e => e = y12) (fun v4 x hf kc5 kx6 => ?_) hi10 rfl) (And.intro rfl (And.intro rfl (And.intro rfl trivial)))
    try dsimp only
    unfold fX4_first_o_L5 at hf
    refine ga_iload_n 6 C.c 2 rfl rfl dX4_first_5 rfl ?_
    refine ga_bipush 8 C.c (v := 60) (by decide) dX4_first_6 rfl ?_
    refine ga_icmp_gt 29 11 C.c dX4_first_8 (by decide) rfl (fun c => ?_) (fun c => ?_)
    · have hf := pu_pos c hf
      exact ga_W.sub (hj9 (kx6 _ (Option.some.inj hf).symm).symm) trivial
    · have hf := pu_neg c hf
      refine ga_aload_n 12 C.c 0 rfl rfl dX4_first_11 rfl ?_
      refine xa_get 15 7 0 C rfl (T := TX4) rfl in_X4 (by decide) q484 rfl rfl dX4_first_12 rfl ?_
      refine ga_iload_n 16 C.c 2 rfl rfl dX4_first_15 rfl ?_
      obtain ⟨h11, hf⟩ := pu_g_w hf
      refine xa_iald 17 13 8 61 C rfl h11 dX4_first_16 rfl ?_
      refine ga_iload_n 18 C.c 1 rfl rfl dX4_first_17 rfl ?_
      refine ga_icmp_ne 23 21 C.c dX4_first_18 (by decide) rfl (fun c => ?_) (fun c => ?_)
      · have hf := pu_neg c hf
        refine ga_iinc 26 C.c (v := v4 + 1) rfl rfl (by decide) rfl dX4_first_23 rfl ?_
        refine ga_goto 5 C.c dX4_first_26 (by decide) ?_
        exact ga_W.sub (kc5 _ (Option.some.inj hf).symm) (And.intro rfl (And.intro rfl (And.intro rfl trivial)))
      · have hf := pu_pos c hf
        refine ga_iload_n 22 C.c 2 rfl rfl dX4_first_21 rfl ?_
        have hf := Option.some.inj hf
        have hf := hs8 _ (kx6 _ hf.symm).symm
        cases hf
        exact xw_iret C hr hlk hq rfl rfl rfl dX4_first_22
set_option maxHeartbeats 4000000 in
theorem met_X4_first_s (l : Launch) (X : XX) (z : MS) (a1 : Int32) (r : Int32) (hf : fX4_first_s (xp X) z a1 = some r) : Met l yX4_first (ws_ yX4_first cX4_first 3 (some .int)) ({ frames := 0, cells := 0, slots := 0, locals := 0 } : Room) (xw_Pc X z [.ref (xg X 5), .int a1]) (xw_Qc X z (some (.int r))) 0 0 (xw_A (xg X)) := by
  refine xw_of (RX := RX4) (lo := [some (.ref (xg X 5)), some (.int a1), none]) (by decide) rfl (Nat.le_of_ble_eq_true rfl) rfl (fun E C hr hlk hq => ?_)
  unfold fX4_first_s at hf
  refine ga_aload_n 1 C.c 0 rfl rfl dX4_first_0 rfl ?_
  refine xa_get 4 5 1 C rfl (T := TX4) rfl in_X4 (by decide) q487 rfl rfl dX4_first_1 rfl ?_
  refine ga_istore_n 5 C.c 2 rfl (by decide) rfl dX4_first_4 rfl ?_
  obtain ⟨_, rfl, hf⟩ := pu_l1_w hf
  obtain ⟨y12, hi10, hr7, hs8⟩ := pu_s_w hf
  refine ga_cutP (P := y12 = .inl () → ga_W E 3 (xw_I E X z) 0 0 29 [none, none, none] []) (fun hy => ?_) (fun hj9 => ?_)
  · have hf := hr7 _ hy
    refine ga_iconst 30 C.c (v := (-1)) (by decide) dX4_first_29 rfl ?_
    have hf := Option.some.inj hf
    cases hf
    exact xw_iret C hr hlk hq rfl rfl rfl dX4_first_30
  · refine ga_W.sub (pu_it_w (Wd := fun (q : Int32) => ga_W E 3 (xw_I E X z) 0 0 5 [some (.ref (xg X 5)), some (.int a1), some (.int q)] []) (Wx := fun e => e = y12) (fun v4 x hf kc5 kx6 => ?_) hi10 rfl) (And.intro rfl (And.intro rfl (And.intro rfl trivial)))
    try dsimp only
    unfold fX4_first_s_L5 at hf
    refine ga_iload_n 6 C.c 2 rfl rfl dX4_first_5 rfl ?_
    refine ga_bipush 8 C.c (v := 60) (by decide) dX4_first_6 rfl ?_
    refine ga_icmp_gt 29 11 C.c dX4_first_8 (by decide) rfl (fun c => ?_) (fun c => ?_)
    · have hf := pu_pos c hf
      exact ga_W.sub (hj9 (kx6 _ (Option.some.inj hf).symm).symm) trivial
    · have hf := pu_neg c hf
      refine ga_aload_n 12 C.c 0 rfl rfl dX4_first_11 rfl ?_
      refine xa_get 15 5 0 C rfl (T := TX4) rfl in_X4 (by decide) q484 rfl rfl dX4_first_12 rfl ?_
      refine ga_iload_n 16 C.c 2 rfl rfl dX4_first_15 rfl ?_
      obtain ⟨h11, hf⟩ := pu_g_w hf
      refine xa_iald 17 3 6 61 C rfl h11 dX4_first_16 rfl ?_
      refine ga_iload_n 18 C.c 1 rfl rfl dX4_first_17 rfl ?_
      refine ga_icmp_ne 23 21 C.c dX4_first_18 (by decide) rfl (fun c => ?_) (fun c => ?_)
      · have hf := pu_neg c hf
        refine ga_iinc 26 C.c (v := v4 + 1) rfl rfl (by decide) rfl dX4_first_23 rfl ?_
        refine ga_goto 5 C.c dX4_first_26 (by decide) ?_
        exact ga_W.sub (kc5 _ (Option.some.inj hf).symm) (And.intro rfl (And.intro rfl (And.intro rfl trivial)))
      · have hf := pu_pos c hf
        refine ga_iload_n 22 C.c 2 rfl rfl dX4_first_21 rfl ?_
        have hf := Option.some.inj hf
        have hf := hs8 _ (kx6 _ hf.symm).symm
        cases hf
        exact xw_iret C hr hlk hq rfl rfl rfl dX4_first_22
