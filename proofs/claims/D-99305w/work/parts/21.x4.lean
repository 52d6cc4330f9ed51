set_option maxRecDepth 100000
set_option maxHeartbeats 4000000 in
theorem met_X0_isStopped (l : Launch) (X : XX) (z : MS) (a1 : Int32) (a2 : Int32) (a3 : Int32) (r : Int32) (z9 : MS) (hf : fX0_isStopped (xp X) z a1 a2 a3 = some (r, z9)) : Met l yX0_isStopped (ws_ yX0_isStopped cX0_isStopped 5 (some .boolean)) ({ frames := 6, cells := 0, slots := 0, locals := 154 } : Room) (xw_Pc X z [.ref (xg X 0), .int a1, .int a2, .int a3]) (xw_Qc X z9 (some (.int r))) 0 0 (xw_A (xg X)) := by
  refine xw_of (RX := RX0) (lo := [some (.ref (xg X 0)), some (.int a1), some (.int a2), some (.int a3), none]) (by decide) rfl (Nat.le_of_ble_eq_true rfl) rfl (fun E C hr hlk hq => ?_)
  unfold fX0_isStopped at hf
  refine ga_aload_n 1 C.c 0 rfl rfl dX0_isStopped_0 rfl ?_
  refine xa_get 4 0 7 C rfl (T := TX0) rfl in_X0 (by decide) q562 rfl rfl dX0_isStopped_1 rfl ?_
  obtain ⟨z1, hc2, hf⟩ := pu_b1_w hf
  refine xa_callV 7 2 C (as := []) (met_X3_is (eL E) X _ _ hc2) rfl (T := TX3) rfl (lw_V q1059 q1060 q1061 q99 q1062) cd_X3_is rfl (Nat.le_of_ble_eq_true rfl) (Nat.le_of_ble_eq_true rfl) (Nat.le_of_ble_eq_true rfl) dX0_isStopped_4 rfl ?_
  refine ga_pop 8 C.c rfl dX0_isStopped_7 rfl ?_
  refine ga_aload_n 9 C.c 0 rfl rfl dX0_isStopped_8 rfl ?_
  refine xa_get 12 0 7 C rfl (T := TX0) rfl in_X0 (by decide) q562 rfl rfl dX0_isStopped_9 rfl ?_
  refine ga_iload_n 13 C.c 1 rfl rfl dX0_isStopped_12 rfl ?_
  refine xa_putN 16 2 3 C (ty := tyX3) tyX3_ok nmX3 rfl (xa_set6 _) rfl in_X3 (by decide) q449 rfl rfl rfl (Nat.le_of_ble_eq_true rfl) dX0_isStopped_13 rfl ?_
  refine ga_iconst 17 C.c (v := 0) (by decide) dX0_isStopped_16 rfl ?_
  refine ga_istore 19 C.c 4 (by decide) rfl dX0_isStopped_17 rfl ?_
  obtain ⟨y19, hi13, hr10, hs11⟩ := pu_s_w hf
  refine ga_cutP (P := ∀ (z18 : MS), y19 = .inl (z18) → ga_W E 5 (xw_I E X z18) 0 0 52 [none, none, none, none, none] []) (fun z18 hy => ?_) (fun hj12 => ?_)
  · have hf := hr10 _ hy
    refine ga_iconst 53 C.c (v := 1) (by decide) dX0_isStopped_52 rfl ?_
    have hf := Option.some.inj hf
    cases hf
    exact xw_iret C hr hlk hq rfl rfl rfl dX0_isStopped_53
  · refine ga_W.sub (pu_it_w (Wd := fun (q : Int32 × MS) => ga_W E 5 (xw_I E X q.2) 0 0 19 [some (.ref (xg X 0)), none, some (.int a2), some (.int a3), some (.int q.1)] []) (Wx := fun e => e = y19) (fun q x hf kc8 kx9 => ?_) hi13 rfl) (And.intro rfl (And.intro rfl (And.intro rfl (And.intro rfl trivial))))
    obtain ⟨v6, z7⟩ := q
    try dsimp only
    unfold fX0_isStopped_L19 at hf
    refine ga_iload 21 C.c rfl dX0_isStopped_19 rfl ?_
    refine ga_bipush 23 C.c (v := 60) (by decide) dX0_isStopped_21 rfl ?_
    refine ga_icmp_gt 52 26 C.c dX0_isStopped_23 (by decide) rfl (fun c => ?_) (fun c => ?_)
    · have hf := pu_pos c hf
      exact ga_W.sub (hj12 _ (kx9 _ (Option.some.inj hf).symm).symm) trivial
    · have hf := pu_neg c hf
      refine ga_aload_n 27 C.c 0 rfl rfl dX0_isStopped_26 rfl ?_
      refine xa_get 30 0 8 C rfl (T := TX0) rfl in_X0 (by decide) q564 rfl rfl dX0_isStopped_27 rfl ?_
      refine ga_iload_n 31 C.c 2 rfl rfl dX0_isStopped_30 rfl ?_
      refine ga_iload 33 C.c rfl dX0_isStopped_31 rfl ?_
      obtain ⟨z14, hc15, hf⟩ := pu_b1_w hf
      refine xa_callV 36 5 C (as := [.int a2, .int v6]) (met_X4_goes_s (eL E) X _ _ _ _ hc15) rfl (T := TX4) rfl (lw_V q1098 q1099 q1100 q100 q1101) cd_X4_goes_s rfl (Nat.le_of_ble_eq_true rfl) (Nat.le_of_ble_eq_true rfl) (Nat.le_of_ble_eq_true rfl) dX0_isStopped_33 rfl ?_
      refine ga_iload_n 37 C.c 3 rfl rfl dX0_isStopped_36 rfl ?_
      obtain ⟨v16, hc17, hf⟩ := pu_b1_w hf
      refine xa_callV 40 5 C (as := [.int a3]) (met_X4_first_s (eL E) X _ _ _ hc17) rfl (T := TX4) rfl (lw_V q1216 q1217 q1218 q100 q1219) cd_X4_first_s rfl (Nat.le_of_ble_eq_true rfl) (Nat.le_of_ble_eq_true rfl) (Nat.le_of_ble_eq_true rfl) dX0_isStopped_37 rfl ?_
      refine ga_iconst 41 C.c (v := (-1)) (by decide) dX0_isStopped_40 rfl ?_
      refine ga_icmp_eq 46 44 C.c dX0_isStopped_41 (by decide) rfl (fun c => ?_) (fun c => ?_)
      · have hf := pu_pos c hf
        refine ga_iinc 49 C.c (v := v6 + 1) rfl rfl (by decide) rfl dX0_isStopped_46 rfl ?_
        refine ga_goto 19 C.c dX0_isStopped_49 (by decide) ?_
        exact ga_W.sub (kc8 _ (Option.some.inj hf).symm) (And.intro rfl (And.intro rfl (And.intro rfl (And.intro rfl trivial))))
      · have hf := pu_neg c hf
        refine ga_iconst 45 C.c (v := 0) (by decide) dX0_isStopped_44 rfl ?_
        have hf := Option.some.inj hf
        have hf := hs11 _ (kx9 _ hf.symm).symm
        cases hf
        exact xw_iret C hr hlk hq rfl rfl rfl dX0_isStopped_45
set_option maxHeartbeats 4000000 in
theorem met_X0_stopsOf (l : Launch) (X : XX) (z : MS) (a1 : Int32) (a2 : Int32) (r : Int32) (z9 : MS) (hf : fX0_stopsOf (xp X) z a1 a2 = some (r, z9)) : Met l yX0_stopsOf (ws_ yX0_stopsOf cX0_stopsOf 5 (some .int)) ({ frames := 7, cells := 0, slots := 0, locals := 178 } : Room) (xw_Pc X z [.ref (xg X 0), .int a1, .int a2]) (xw_Qc X z9 (some (.int r))) 0 0 (xw_A (xg X)) := by
  refine xw_of (RX := RX0) (lo := [some (.ref (xg X 0)), some (.int a1), some (.int a2), none, none]) (by decide) rfl (Nat.le_of_ble_eq_true rfl) rfl (fun E C hr hlk hq => ?_)
  unfold fX0_stopsOf at hf
  refine ga_iconst 1 C.c (v := (-1)) (by decide) dX0_stopsOf_0 rfl ?_
  refine ga_istore_n 2 C.c 3 rfl (by decide) rfl dX0_stopsOf_1 rfl ?_
  refine ga_iconst 3 C.c (v := 0) (by decide) dX0_stopsOf_2 rfl ?_
  refine ga_istore 5 C.c 4 (by decide) rfl dX0_stopsOf_3 rfl ?_
  obtain ⟨v18, z19, hi11, hf⟩ := pu_b2_w hf
  refine ga_cut 74 (I2 := xw_I E X z19) (k2 := 0) (n2 := 0) (lo2 := [none, none, none, some (.int v18), none]) (st2 := []) ?_ (fun hj10 => ?_)
  · refine ga_iload_n 75 C.c 3 rfl rfl dX0_stopsOf_74 rfl ?_
    have hf := Option.some.inj hf
    cases hf
    exact xw_iret C hr hlk hq rfl rfl rfl dX0_stopsOf_75
  · refine ga_W.sub (pu_it_w (Wd := fun (q : Int32 × Int32 × MS) => ga_W E 5 (xw_I E X q.2.2) 0 0 5 [some (.ref (xg X 0)), some (.int a1), some (.int a2), some (.int q.1), some (.int q.2.1)] []) (Wx := fun e => e = (v18, z19)) (fun q x hf kc6 kx7 => ?_) hi11 rfl) (And.intro rfl (And.intro rfl (And.intro rfl (And.intro rfl (And.intro rfl trivial)))))
    obtain ⟨v3, v4, z5⟩ := q
    try dsimp only
    unfold fX0_stopsOf_L5 at hf
    refine ga_iload 7 C.c rfl dX0_stopsOf_5 rfl ?_
    refine ga_iconst 8 C.c (v := 1) (by decide) dX0_stopsOf_7 rfl ?_
    refine ga_aload_n 9 C.c 0 rfl rfl dX0_stopsOf_8 rfl ?_
    refine xa_callV 12 0 C (as := []) (met_X0_reaches (eL E) X _) rfl (T := TX0) rfl (lw_V q1013 q1015 qs23 q93 q1016) cd_X0_reaches rfl (Nat.le_of_ble_eq_true rfl) (Nat.le_of_ble_eq_true rfl) (Nat.le_of_ble_eq_true rfl) dX0_stopsOf_9 rfl ?_
    refine ga_ishl 13 C.c dX0_stopsOf_12 rfl ?_
    refine ga_icmp_ge 74 16 C.c dX0_stopsOf_13 (by decide) rfl (fun c => ?_) (fun c => ?_)
    · have hf := pu_pos c hf
      cases (kx7 _ (Option.some.inj hf).symm)
      exact ga_W.sub hj10 (And.intro rfl trivial)
    · have hf := pu_neg c hf
      refine ga_iload 18 C.c rfl dX0_stopsOf_16 rfl ?_
      refine ga_iload_n 19 C.c 1 rfl rfl dX0_stopsOf_18 rfl ?_
      refine xa_callS 22 C (as := [.int v4, .int a1]) (met_X0_isOn (eL E) _ _) (lw_S q1191 q1104 q93 q1105) cd_X0_isOn rfl (Nat.le_of_ble_eq_true rfl) (Nat.le_of_ble_eq_true rfl) (Nat.le_of_ble_eq_true rfl) dX0_stopsOf_19 rfl ?_
      refine ga_if_ne 68 25 C.c dX0_stopsOf_22 (by decide) rfl (fun c => ?_) (fun c => ?_)
      · have hf := pu_neg c hf
        refine ga_iinc 71 C.c (v := v4 + 1) rfl rfl (by decide) rfl dX0_stopsOf_68 rfl ?_
        refine ga_goto 5 C.c dX0_stopsOf_71 (by decide) ?_
        exact ga_W.sub (kc6 _ (Option.some.inj hf).symm) (And.intro rfl (And.intro rfl (And.intro rfl (And.intro rfl (And.intro rfl trivial)))))
      · have hf := pu_pos c hf
        refine ga_iload 27 C.c rfl dX0_stopsOf_25 rfl ?_
        refine ga_iload_n 28 C.c 2 rfl rfl dX0_stopsOf_27 rfl ?_
        refine xa_callS 31 C (as := [.int v4, .int a2]) (met_X0_isOn (eL E) _ _) (lw_S q1191 q1104 q93 q1105) cd_X0_isOn rfl (Nat.le_of_ble_eq_true rfl) (Nat.le_of_ble_eq_true rfl) (Nat.le_of_ble_eq_true rfl) dX0_stopsOf_28 rfl ?_
        refine ga_if_ne 68 34 C.c dX0_stopsOf_31 (by decide) rfl (fun c => ?_) (fun c => ?_)
        · have hf := pu_neg c hf
          refine ga_iinc 71 C.c (v := v4 + 1) rfl rfl (by decide) rfl dX0_stopsOf_68 rfl ?_
          refine ga_goto 5 C.c dX0_stopsOf_71 (by decide) ?_
          exact ga_W.sub (kc6 _ (Option.some.inj hf).symm) (And.intro rfl (And.intro rfl (And.intro rfl (And.intro rfl (And.intro rfl trivial)))))
        · have hf := pu_pos c hf
          refine ga_iload_n 35 C.c 3 rfl rfl dX0_stopsOf_34 rfl ?_
          refine ga_iconst 36 C.c (v := (-1)) (by decide) dX0_stopsOf_35 rfl ?_
          refine ga_icmp_eq 54 39 C.c dX0_stopsOf_36 (by decide) rfl (fun c => ?_) (fun c => ?_)
          · have hf := pu_pos c hf
            refine ga_aload_n 55 C.c 0 rfl rfl dX0_stopsOf_54 rfl ?_
            refine ga_iload 57 C.c rfl dX0_stopsOf_55 rfl ?_
            refine ga_iload_n 58 C.c 1 rfl rfl dX0_stopsOf_57 rfl ?_
            refine ga_iload_n 59 C.c 2 rfl rfl dX0_stopsOf_58 rfl ?_
            obtain ⟨v12, z13, hc14, hf⟩ := pu_b2_w hf
            refine xa_callV 62 0 C (as := [.int v4, .int a1, .int a2]) (met_X0_isStopped (eL E) X _ _ _ _ _ _ hc14) rfl (T := TX0) rfl (lw_V q1344 q1346 qs37 q93 q1347) cd_X0_isStopped rfl (Nat.le_of_ble_eq_true rfl) (Nat.le_of_ble_eq_true rfl) (Nat.le_of_ble_eq_true rfl) dX0_stopsOf_59 rfl ?_
            refine ga_if_eq 68 65 C.c dX0_stopsOf_62 (by decide) rfl (fun c => ?_) (fun c => ?_)
            · have hf := pu_pos c hf
              refine ga_iinc 71 C.c (v := v4 + 1) rfl rfl (by decide) rfl dX0_stopsOf_68 rfl ?_
              refine ga_goto 5 C.c dX0_stopsOf_71 (by decide) ?_
              exact ga_W.sub (kc6 _ (Option.some.inj hf).symm) (And.intro rfl (And.intro rfl (And.intro rfl (And.intro rfl (And.intro rfl trivial)))))
            · have hf := pu_neg c hf
              refine ga_iload 67 C.c rfl dX0_stopsOf_65 rfl ?_
              refine ga_istore_n 68 C.c 3 rfl (by decide) rfl dX0_stopsOf_67 rfl ?_
              refine ga_iinc 71 C.c (v := v4 + 1) rfl rfl (by decide) rfl dX0_stopsOf_68 rfl ?_
              refine ga_goto 5 C.c dX0_stopsOf_71 (by decide) ?_
              exact ga_W.sub (kc6 _ (Option.some.inj hf).symm) (And.intro rfl (And.intro rfl (And.intro rfl (And.intro rfl (And.intro rfl trivial)))))
          · have hf := pu_neg c hf
            refine ga_iload 41 C.c rfl dX0_stopsOf_39 rfl ?_
            refine xa_callS 44 C (as := [.int v4]) (met_X0_size (eL E) _) (lw_S q1136 q1137 q93 q1138) cd_X0_size rfl (Nat.le_of_ble_eq_true rfl) (Nat.le_of_ble_eq_true rfl) (Nat.le_of_ble_eq_true rfl) dX0_stopsOf_41 rfl ?_
            refine ga_iload_n 45 C.c 3 rfl rfl dX0_stopsOf_44 rfl ?_
            refine xa_callS 48 C (as := [.int v3]) (met_X0_size (eL E) _) (lw_S q1136 q1137 q93 q1138) cd_X0_size rfl (Nat.le_of_ble_eq_true rfl) (Nat.le_of_ble_eq_true rfl) (Nat.le_of_ble_eq_true rfl) dX0_stopsOf_45 rfl ?_
            refine ga_icmp_lt 54 51 C.c dX0_stopsOf_48 (by decide) rfl (fun c => ?_) (fun c => ?_)
            · have hf := pu_pos c hf
              refine ga_aload_n 55 C.c 0 rfl rfl dX0_stopsOf_54 rfl ?_
              refine ga_iload 57 C.c rfl dX0_stopsOf_55 rfl ?_
              refine ga_iload_n 58 C.c 1 rfl rfl dX0_stopsOf_57 rfl ?_
              refine ga_iload_n 59 C.c 2 rfl rfl dX0_stopsOf_58 rfl ?_
              obtain ⟨v15, z16, hc17, hf⟩ := pu_b2_w hf
              refine xa_callV 62 0 C (as := [.int v4, .int a1, .int a2]) (met_X0_isStopped (eL E) X _ _ _ _ _ _ hc17) rfl (T := TX0) rfl (lw_V q1344 q1346 qs37 q93 q1347) cd_X0_isStopped rfl (Nat.le_of_ble_eq_true rfl) (Nat.le_of_ble_eq_true rfl) (Nat.le_of_ble_eq_true rfl) dX0_stopsOf_59 rfl ?_
              refine ga_if_eq 68 65 C.c dX0_stopsOf_62 (by decide) rfl (fun c => ?_) (fun c => ?_)
              · have hf := pu_pos c hf
                refine ga_iinc 71 C.c (v := v4 + 1) rfl rfl (by decide) rfl dX0_stopsOf_68 rfl ?_
                refine ga_goto 5 C.c dX0_stopsOf_71 (by decide) ?_
                exact ga_W.sub (kc6 _ (Option.some.inj hf).symm) (And.intro rfl (And.intro rfl (And.intro rfl (And.intro rfl (And.intro rfl trivial)))))
              · have hf := pu_neg c hf
                refine ga_iload 67 C.c rfl dX0_stopsOf_65 rfl ?_
                refine ga_istore_n 68 C.c 3 rfl (by decide) rfl dX0_stopsOf_67 rfl ?_
                refine ga_iinc 71 C.c (v := v4 + 1) rfl rfl (by decide) rfl dX0_stopsOf_68 rfl ?_
                refine ga_goto 5 C.c dX0_stopsOf_71 (by decide) ?_
                exact ga_W.sub (kc6 _ (Option.some.inj hf).symm) (And.intro rfl (And.intro rfl (And.intro rfl (And.intro rfl (And.intro rfl trivial)))))
            · have hf := pu_neg c hf
              refine ga_goto 68 C.c dX0_stopsOf_51 (by decide) ?_
              refine ga_iinc 71 C.c (v := v4 + 1) rfl rfl (by decide) rfl dX0_stopsOf_68 rfl ?_
              refine ga_goto 5 C.c dX0_stopsOf_71 (by decide) ?_
              exact ga_W.sub (kc6 _ (Option.some.inj hf).symm) (And.intro rfl (And.intro rfl (And.intro rfl (And.intro rfl (And.intro rfl trivial)))))
set_option maxHeartbeats 4000000 in
theorem met_X0_stop (l : Launch) (X : XX) (z : MS) (a1 : Int32) (a2 : Int32) (r : Int32) (z9 : MS) (hf : fX0_stop (xp X) z a1 a2 = some (r, z9)) : Met l yX0_stop (ws_ yX0_stop cX0_stop 4 (some .int)) ({ frames := 8, cells := 0, slots := 0, locals := 202 } : Room) (xw_Pc X z [.ref (xg X 0), .int a1, .int a2]) (xw_Qc X z9 (some (.int r))) 0 0 (xw_A (xg X)) := by
  refine xw_of (RX := RX0) (lo := [some (.ref (xg X 0)), some (.int a1), some (.int a2), none]) (by decide) rfl (Nat.le_of_ble_eq_true rfl) rfl (fun E C hr hlk hq => ?_)
  unfold fX0_stop at hf
  refine ga_aload_n 1 C.c 0 rfl rfl dX0_stop_0 rfl ?_
  refine ga_iload_n 2 C.c 1 rfl rfl dX0_stop_1 rfl ?_
  refine ga_iload_n 3 C.c 2 rfl rfl dX0_stop_2 rfl ?_
  refine xa_callV 6 0 C (as := [.int a1, .int a2]) (met_X0_areReaches (eL E) X _ _ _) rfl (T := TX0) rfl (lw_V q1090 q1092 qs28 q93 q1093) cd_X0_areReaches rfl (Nat.le_of_ble_eq_true rfl) (Nat.le_of_ble_eq_true rfl) (Nat.le_of_ble_eq_true rfl) dX0_stop_3 rfl ?_
  refine ga_if_ne 12 9 C.c dX0_stop_6 (by decide) rfl (fun c => ?_) (fun c => ?_)
  · have hf := pu_neg c hf
    refine ga_aload_n 13 C.c 0 rfl rfl dX0_stop_12 rfl ?_
    refine ga_iload_n 14 C.c 1 rfl rfl dX0_stop_13 rfl ?_
    refine ga_iload_n 15 C.c 2 rfl rfl dX0_stop_14 rfl ?_
    obtain ⟨v1, z2, hc3, hf⟩ := pu_b2_w hf
    refine xa_callV 18 0 C (as := [.int a1, .int a2]) (met_X0_stopsOf (eL E) X _ _ _ _ _ hc3) rfl (T := TX0) rfl (lw_V q1340 q1342 qs36 q93 q1343) cd_X0_stopsOf rfl (Nat.le_of_ble_eq_true rfl) (Nat.le_of_ble_eq_true rfl) (Nat.le_of_ble_eq_true rfl) dX0_stop_15 rfl ?_
    refine ga_istore_n 19 C.c 3 rfl (by decide) rfl dX0_stop_18 rfl ?_
    refine ga_iload_n 20 C.c 3 rfl rfl dX0_stop_19 rfl ?_
    refine ga_iconst 21 C.c (v := (-1)) (by decide) dX0_stop_20 rfl ?_
    refine ga_icmp_ne 28 24 C.c dX0_stop_21 (by decide) rfl (fun c => ?_) (fun c => ?_)
    · have hf := pu_neg c hf
      refine ga_iload_n 29 C.c 3 rfl rfl dX0_stop_28 rfl ?_
      refine xa_callS 32 C (as := [.int v1]) (met_X0_size (eL E) _) (lw_S q1136 q1137 q93 q1138) cd_X0_size rfl (Nat.le_of_ble_eq_true rfl) (Nat.le_of_ble_eq_true rfl) (Nat.le_of_ble_eq_true rfl) dX0_stop_29 rfl ?_
      have hf := Option.some.inj hf
      cases hf
      exact xw_iret C hr hlk hq rfl rfl rfl dX0_stop_32
    · have hf := pu_pos c hf
      refine ga_iconst 25 C.c (v := (-1)) (by decide) dX0_stop_24 rfl ?_
      refine ga_goto 32 C.c dX0_stop_25 (by decide) ?_
      have hf := Option.some.inj hf
      cases hf
      exact xw_iret C hr hlk hq rfl rfl rfl dX0_stop_32
  · have hf := pu_pos c hf
    refine ga_bipush 11 C.c (v := (-2)) (by decide) dX0_stop_9 rfl ?_
    have hf := Option.some.inj hf
    cases hf
    exact xw_iret C hr hlk hq rfl rfl rfl dX0_stop_11
set_option maxHeartbeats 4000000 in
theorem met_X0_stops (l : Launch) (X : XX) (z : MS) (a1 : Int32) (a2 : Int32) (r : Int32) (z9 : MS) (hf : fX0_stops (xp X) z a1 a2 = some (r, z9)) : Met l yX0_stops (ws_ yX0_stops cX0_stops 3 (some .int)) ({ frames := 8, cells := 0, slots := 0, locals := 202 } : Room) (xw_Pc X z [.ref (xg X 0), .int a1, .int a2]) (xw_Qc X z9 (some (.int r))) 0 0 (xw_A (xg X)) := by
  refine xw_of (RX := RX0) (lo := [some (.ref (xg X 0)), some (.int a1), some (.int a2)]) (by decide) rfl (Nat.le_of_ble_eq_true rfl) rfl (fun E C hr hlk hq => ?_)
  unfold fX0_stops at hf
  refine ga_aload_n 1 C.c 0 rfl rfl dX0_stops_0 rfl ?_
  refine ga_iload_n 2 C.c 1 rfl rfl dX0_stops_1 rfl ?_
  refine ga_iload_n 3 C.c 2 rfl rfl dX0_stops_2 rfl ?_
  refine xa_callV 6 0 C (as := [.int a1, .int a2]) (met_X0_areReaches (eL E) X _ _ _) rfl (T := TX0) rfl (lw_V q1090 q1092 qs28 q93 q1093) cd_X0_areReaches rfl (Nat.le_of_ble_eq_true rfl) (Nat.le_of_ble_eq_true rfl) (Nat.le_of_ble_eq_true rfl) dX0_stops_3 rfl ?_
  refine ga_if_eq 18 9 C.c dX0_stops_6 (by decide) rfl (fun c => ?_) (fun c => ?_)
  · have hf := pu_pos c hf
    refine ga_bipush 20 C.c (v := (-2)) (by decide) dX0_stops_18 rfl ?_
    have hf := Option.some.inj hf
    cases hf
    exact xw_iret C hr hlk hq rfl rfl rfl dX0_stops_20
  · have hf := pu_neg c hf
    refine ga_aload_n 10 C.c 0 rfl rfl dX0_stops_9 rfl ?_
    refine ga_iload_n 11 C.c 1 rfl rfl dX0_stops_10 rfl ?_
    refine ga_iload_n 12 C.c 2 rfl rfl dX0_stops_11 rfl ?_
    obtain ⟨v1, z2, hc3, hf⟩ := pu_b2_w hf
    refine xa_callV 15 0 C (as := [.int a1, .int a2]) (met_X0_stopsOf (eL E) X _ _ _ _ _ hc3) rfl (T := TX0) rfl (lw_V q1340 q1342 qs36 q93 q1343) cd_X0_stopsOf rfl (Nat.le_of_ble_eq_true rfl) (Nat.le_of_ble_eq_true rfl) (Nat.le_of_ble_eq_true rfl) dX0_stops_12 rfl ?_
    refine ga_goto 20 C.c dX0_stops_15 (by decide) ?_
    have hf := Option.some.inj hf
    cases hf
    exact xw_iret C hr hlk hq rfl rfl rfl dX0_stops_20
set_option maxHeartbeats 4000000 in
theorem met_X0_orFar (l : Launch) (a1 : Int32) : Met l yX0_orFar (ws_ yX0_orFar cX0_orFar 1 (some .int)) ({ frames := 0, cells := 0, slots := 0, locals := 0 } : Room) (ps_Pc [.int a1]) (ps_Qc (some (.int (fX0_orFar a1)))) 0 0 (fun _ => False) := by
  obtain ⟨r, hf⟩ : ∃ r, fX0_orFar a1 = r := ⟨_, rfl⟩
  rw [hf]
  refine ps_of (RX := RX0) (lo := [some (.int a1)]) (by decide) rfl (Nat.le_of_ble_eq_true rfl) rfl (fun E C hr hlk hq => ?_)
  unfold fX0_orFar at hf
  refine ga_iload_n 1 C.c 0 rfl rfl dX0_orFar_0 rfl ?_
  refine ga_iconst 2 C.c (v := (-1)) (by decide) dX0_orFar_1 rfl ?_
  refine ga_icmp_ne 11 5 C.c dX0_orFar_2 (by decide) rfl (fun c => ?_) (fun c => ?_)
  · have hf := pu_neg c hf
    refine ga_iload_n 12 C.c 0 rfl rfl dX0_orFar_11 rfl ?_
    cases hf
    exact ps_iret C hr hlk hq rfl rfl dX0_orFar_12
  · have hf := pu_pos c hf
    refine ga_sipush 8 C.c (v := 1000) (by decide) dX0_orFar_5 rfl ?_
    refine ga_goto 12 C.c dX0_orFar_8 (by decide) ?_
    cases hf
    exact ps_iret C hr hlk hq rfl rfl dX0_orFar_12
set_option maxHeartbeats 4000000 in
theorem met_X0_shut (l : Launch) (X : XX) (z : MS) (a1 : Int32) (a2 : Int32) (r : Int32) (z9 : MS) (hf : fX0_shut (xp X) z a1 a2 = some (r, z9)) : Met l yX0_shut (ws_ yX0_shut cX0_shut 8 (some .int)) ({ frames := 7, cells := 0, slots := 0, locals := 176 } : Room) (xw_Pc X z [.ref (xg X 0), .int a1, .int a2]) (xw_Qc X z9 (some (.int r))) 0 0 (xw_A (xg X)) := by
  refine xw_of (RX := RX0) (lo := [some (.ref (xg X 0)), some (.int a1), some (.int a2), none, none, none, none, none]) (by decide) rfl (Nat.le_of_ble_eq_true rfl) rfl (fun E C hr hlk hq => ?_)
  unfold fX0_shut at hf
  refine ga_aload_n 1 C.c 0 rfl rfl dX0_shut_0 rfl ?_
  refine ga_iload_n 2 C.c 1 rfl rfl dX0_shut_1 rfl ?_
  refine ga_iload_n 3 C.c 2 rfl rfl dX0_shut_2 rfl ?_
  refine xa_callV 6 0 C (as := [.int a1, .int a2]) (met_X0_isStick (eL E) X _ _ _) rfl (T := TX0) rfl (lw_V q1132 q1134 qs32 q93 q1135) cd_X0_isStick rfl (Nat.le_of_ble_eq_true rfl) (Nat.le_of_ble_eq_true rfl) (Nat.le_of_ble_eq_true rfl) dX0_shut_3 rfl ?_
  refine ga_if_ne 12 9 C.c dX0_shut_6 (by decide) rfl (fun c => ?_) (fun c => ?_)
  · have hf := pu_neg c hf
    refine ga_iconst 13 C.c (v := (-1)) (by decide) dX0_shut_12 rfl ?_
    refine ga_istore_n 14 C.c 3 rfl (by decide) rfl dX0_shut_13 rfl ?_
    refine ga_aload_n 15 C.c 0 rfl rfl dX0_shut_14 rfl ?_
    refine ga_iload_n 16 C.c 1 rfl rfl dX0_shut_15 rfl ?_
    refine ga_iload_n 17 C.c 2 rfl rfl dX0_shut_16 rfl ?_
    obtain ⟨z1, hc2, hf⟩ := pu_b1_w hf
    refine xa_callV 20 0 C (as := [.int a1, .int a2]) (met_X0_put (eL E) X _ _ _ _ hc2) rfl (T := TX0) rfl (lw_V q1094 q1096 qs29 q93 q1097) cd_X0_put rfl (Nat.le_of_ble_eq_true rfl) (Nat.le_of_ble_eq_true rfl) (Nat.le_of_ble_eq_true rfl) dX0_shut_17 rfl ?_
    refine ga_bipush 22 C.c (v := 10) (by decide) dX0_shut_20 rfl ?_
    obtain ⟨v3, hc4, hf⟩ := pu_b1_w hf
    refine xa_callV 25 5 C (as := [.int 10]) (met_X4_first_s (eL E) X _ _ _ hc4) rfl (T := TX4) rfl (lw_V q1216 q1217 q1218 q100 q1219) cd_X4_first_s rfl (Nat.le_of_ble_eq_true rfl) (Nat.le_of_ble_eq_true rfl) (Nat.le_of_ble_eq_true rfl) dX0_shut_22 rfl ?_
    refine xa_callS 28 C (as := [.int v3]) (met_X0_orFar (eL E) _) (lw_S q1356 q1357 q93 q1358) cd_X0_orFar rfl (Nat.le_of_ble_eq_true rfl) (Nat.le_of_ble_eq_true rfl) (Nat.le_of_ble_eq_true rfl) dX0_shut_25 rfl ?_
    refine ga_istore 30 C.c 4 (by decide) rfl dX0_shut_28 rfl ?_
    obtain ⟨_, rfl, hf⟩ := pu_l1_w hf
    refine ga_aload_n 31 C.c 0 rfl rfl dX0_shut_30 rfl ?_
    refine xa_get 34 0 7 C rfl (T := TX0) rfl in_X0 (by decide) q562 rfl rfl dX0_shut_31 rfl ?_
    refine xa_getN 37 2 2 C rfl (T := TX3) rfl in_X3 (by decide) q446 rfl rfl dX0_shut_34 rfl ?_
    refine ga_istore 39 C.c 5 (by decide) rfl dX0_shut_37 rfl ?_
    obtain ⟨_, rfl, hf⟩ := pu_l1_w hf
    refine ga_iconst 40 C.c (v := 0) (by decide) dX0_shut_39 rfl ?_
    refine ga_istore 42 C.c 6 (by decide) rfl dX0_shut_40 rfl ?_
    obtain ⟨v26, z27, hi19, hf⟩ := pu_b2_w hf
    refine ga_cut 115 (I2 := xw_I E X z27) (k2 := 0) (n2 := 0) (lo2 := [none, none, none, some (.int v26), none, none, none, none]) (st2 := []) ?_ (fun hj18 => ?_)
    · refine ga_iload_n 116 C.c 3 rfl rfl dX0_shut_115 rfl ?_
      have hf := Option.some.inj hf
      cases hf
      exact xw_iret C hr hlk hq rfl rfl rfl dX0_shut_116
    · refine ga_W.sub (pu_it_w (Wd := fun (q : Int32 × Int32 × Int32 × MS) => ga_W E 8 (xw_I E X q.2.2.2) 0 0 42 [some (.ref (xg X 0)), some (.int a1), some (.int a2), some (.int q.1), some (.int q.2.1), some (.int (mi z1 5)), some (.int q.2.2.1), none] []) (Wx := fun e => e = (v26, z27)) (fun q x hf kc14 kx15 => ?_) hi19 rfl) (And.intro rfl (And.intro rfl (And.intro rfl (And.intro rfl (And.intro rfl (And.intro rfl (And.intro rfl trivial)))))))
      obtain ⟨v10, v11, v12, z13⟩ := q
      try dsimp only
      unfold fX0_shut_L42 at hf
      refine ga_iload 44 C.c rfl dX0_shut_42 rfl ?_
      refine ga_aload_n 45 C.c 0 rfl rfl dX0_shut_44 rfl ?_
      refine xa_get 48 0 1 C rfl (T := TX0) rfl in_X0 (by decide) q554 rfl rfl dX0_shut_45 rfl ?_
      refine xd_getN 51 1 C C.rv (T := TX2) (N := 8) rfl in_X2 (by decide) q394 rfl rfl dX0_shut_48 rfl ?_
      refine xa_size 56 1 C (by decide) q1018 (Nat.le_of_ble_eq_true rfl) (Nat.le_of_ble_eq_true rfl) (Nat.le_of_ble_eq_true rfl) dX0_shut_51 rfl ?_
      refine ga_icmp_ge 115 59 C.c dX0_shut_56 (by decide) rfl (fun c => ?_) (fun c => ?_)
      · have hf := pu_pos c hf
        cases (kx15 _ (Option.some.inj hf).symm)
        exact ga_W.sub hj18 (And.intro rfl trivial)
      · have hf := pu_neg c hf
        refine ga_aload_n 60 C.c 0 rfl rfl dX0_shut_59 rfl ?_
        refine xa_get 63 0 7 C rfl (T := TX0) rfl in_X0 (by decide) q562 rfl rfl dX0_shut_60 rfl ?_
        refine ga_iload 65 C.c rfl dX0_shut_63 rfl ?_
        refine ga_iconst 66 C.c (v := 1) (by decide) dX0_shut_65 rfl ?_
        refine ga_iload 68 C.c rfl dX0_shut_66 rfl ?_
        refine ga_ishl 69 C.c dX0_shut_68 rfl ?_
        refine ga_ior 70 C.c dX0_shut_69 rfl ?_
        refine xa_putN 73 2 2 C (ty := tyX3) tyX3_ok nmX3 rfl (xa_set5 _) rfl in_X3 (by decide) q446 rfl rfl rfl (Nat.le_of_ble_eq_true rfl) dX0_shut_70 rfl ?_
        refine ga_aload_n 74 C.c 0 rfl rfl dX0_shut_73 rfl ?_
        refine xa_get 77 0 8 C rfl (T := TX0) rfl in_X0 (by decide) q564 rfl rfl dX0_shut_74 rfl ?_
        refine ga_iload_n 78 C.c 1 rfl rfl dX0_shut_77 rfl ?_
        refine ga_iload_n 79 C.c 2 rfl rfl dX0_shut_78 rfl ?_
        obtain ⟨z21, hc22, hf⟩ := pu_b1_w hf
        refine xa_callV 82 5 C (as := [.int a1, .int a2]) (met_X4_goes_s (eL E) X _ _ _ _ hc22) rfl (T := TX4) rfl (lw_V q1098 q1099 q1100 q100 q1101) cd_X4_goes_s rfl (Nat.le_of_ble_eq_true rfl) (Nat.le_of_ble_eq_true rfl) (Nat.le_of_ble_eq_true rfl) dX0_shut_79 rfl ?_
        refine ga_bipush 84 C.c (v := 10) (by decide) dX0_shut_82 rfl ?_
        obtain ⟨v23, hc24, hf⟩ := pu_b1_w hf
        refine xa_callV 87 5 C (as := [.int 10]) (met_X4_first_s (eL E) X _ _ _ hc24) rfl (T := TX4) rfl (lw_V q1216 q1217 q1218 q100 q1219) cd_X4_first_s rfl (Nat.le_of_ble_eq_true rfl) (Nat.le_of_ble_eq_true rfl) (Nat.le_of_ble_eq_true rfl) dX0_shut_84 rfl ?_
        refine xa_callS 90 C (as := [.int v23]) (met_X0_orFar (eL E) _) (lw_S q1356 q1357 q93 q1358) cd_X0_orFar rfl (Nat.le_of_ble_eq_true rfl) (Nat.le_of_ble_eq_true rfl) (Nat.le_of_ble_eq_true rfl) dX0_shut_87 rfl ?_
        refine ga_istore 92 C.c 7 (by decide) rfl dX0_shut_90 rfl ?_
        obtain ⟨_, rfl, hf⟩ := pu_l1_w hf
        refine ga_iload 94 C.c rfl dX0_shut_92 rfl ?_
        refine ga_iload 96 C.c rfl dX0_shut_94 rfl ?_
        refine ga_icmp_lt 102 99 C.c dX0_shut_96 (by decide) rfl (fun c => ?_) (fun c => ?_)
        · have hf := pu_pos c hf
          refine ga_iload 104 C.c rfl dX0_shut_102 rfl ?_
          refine ga_istore_n 105 C.c 3 rfl (by decide) rfl dX0_shut_104 rfl ?_
          refine ga_iload 107 C.c rfl dX0_shut_105 rfl ?_
          refine ga_istore 109 C.c 4 (by decide) rfl dX0_shut_107 rfl ?_
          refine ga_iinc 112 C.c (v := v12 + 1) rfl rfl (by decide) rfl dX0_shut_109 rfl ?_
          refine ga_goto 42 C.c dX0_shut_112 (by decide) ?_
          exact ga_W.sub (kc14 _ (Option.some.inj hf).symm) (And.intro rfl (And.intro rfl (And.intro rfl (And.intro rfl (And.intro rfl (And.intro rfl (And.intro rfl trivial)))))))
        · have hf := pu_neg c hf
          refine ga_goto 109 C.c dX0_shut_99 (by decide) ?_
          refine ga_iinc 112 C.c (v := v12 + 1) rfl rfl (by decide) rfl dX0_shut_109 rfl ?_
          refine ga_goto 42 C.c dX0_shut_112 (by decide) ?_
          exact ga_W.sub (kc14 _ (Option.some.inj hf).symm) (And.intro rfl (And.intro rfl (And.intro rfl (And.intro rfl (And.intro rfl (And.intro rfl (And.intro rfl trivial)))))))
  · have hf := pu_pos c hf
    refine ga_bipush 11 C.c (v := (-2)) (by decide) dX0_shut_9 rfl ?_
    have hf := Option.some.inj hf
    cases hf
    exact xw_iret C hr hlk hq rfl rfl rfl dX0_shut_11
set_option maxHeartbeats 4000000 in
theorem met_X0_pour (l : Launch) (X : XX) (z : MS) (a1 : Int32) (a2 : Int32) (a3 : Int32) (r : Int32) (z9 : MS) (hf : fX0_pour (xp X) z a1 a2 a3 = some (r, z9)) : Met l yX0_pour (ws_ yX0_pour cX0_pour 5 (some .int)) ({ frames := 6, cells := 0, slots := 0, locals := 154 } : Room) (xw_Pc X z [.ref (xg X 0), .int a1, .int a2, .int a3]) (xw_Qc X z9 (some (.int r))) 0 0 (xw_A (xg X)) := by
  refine xw_of (RX := RX0) (lo := [some (.ref (xg X 0)), some (.int a1), some (.int a2), some (.int a3), none]) (by decide) rfl (Nat.le_of_ble_eq_true rfl) rfl (fun E C hr hlk hq => ?_)
  unfold fX0_pour at hf
  refine ga_aload_n 1 C.c 0 rfl rfl dX0_pour_0 rfl ?_
  refine ga_iload_n 2 C.c 1 rfl rfl dX0_pour_1 rfl ?_
  refine ga_iload_n 3 C.c 2 rfl rfl dX0_pour_2 rfl ?_
  refine xa_callV 6 0 C (as := [.int a1, .int a2]) (met_X0_isStick (eL E) X _ _ _) rfl (T := TX0) rfl (lw_V q1132 q1134 qs32 q93 q1135) cd_X0_isStick rfl (Nat.le_of_ble_eq_true rfl) (Nat.le_of_ble_eq_true rfl) (Nat.le_of_ble_eq_true rfl) dX0_pour_3 rfl ?_
  refine ga_if_eq 18 9 C.c dX0_pour_6 (by decide) rfl (fun c => ?_) (fun c => ?_)
  · have hf := pu_pos c hf
    refine ga_bipush 20 C.c (v := (-2)) (by decide) dX0_pour_18 rfl ?_
    have hf := Option.some.inj hf
    cases hf
    exact xw_iret C hr hlk hq rfl rfl rfl dX0_pour_20
  · have hf := pu_neg c hf
    refine ga_aload_n 10 C.c 0 rfl rfl dX0_pour_9 rfl ?_
    refine ga_iload_n 11 C.c 3 rfl rfl dX0_pour_10 rfl ?_
    refine ga_i2l 12 C.c dX0_pour_11 rfl ?_
    refine xa_callV 15 0 C (as := [.long a3.toInt64]) (met_X0_isStep (eL E) X _ _) rfl (T := TX0) rfl (lw_V q1123 q1125 qs31 q93 q1126) cd_X0_isStep rfl (Nat.le_of_ble_eq_true rfl) (Nat.le_of_ble_eq_true rfl) (Nat.le_of_ble_eq_true rfl) dX0_pour_12 rfl ?_
    refine ga_if_ne 21 18 C.c dX0_pour_15 (by decide) rfl (fun c => ?_) (fun c => ?_)
    · have hf := pu_neg c hf
      refine ga_aload_n 22 C.c 0 rfl rfl dX0_pour_21 rfl ?_
      refine xa_get 25 0 7 C rfl (T := TX0) rfl in_X0 (by decide) q562 rfl rfl dX0_pour_22 rfl ?_
      obtain ⟨z1, hc2, hf⟩ := pu_b1_w hf
      refine xa_callV 28 2 C (as := []) (met_X3_is (eL E) X _ _ hc2) rfl (T := TX3) rfl (lw_V q1059 q1060 q1061 q99 q1062) cd_X3_is rfl (Nat.le_of_ble_eq_true rfl) (Nat.le_of_ble_eq_true rfl) (Nat.le_of_ble_eq_true rfl) dX0_pour_25 rfl ?_
      refine ga_pop 29 C.c rfl dX0_pour_28 rfl ?_
      refine ga_iconst 30 C.c (v := 0) (by decide) dX0_pour_29 rfl ?_
      refine ga_istore 32 C.c 4 (by decide) rfl dX0_pour_30 rfl ?_
      obtain ⟨y24, hi13, hr10, hs11⟩ := pu_s_w hf
      refine ga_cutP (P := ∀ (z23 : MS), y24 = .inl (z23) → ga_W E 5 (xw_I E X z23) 0 0 87 [none, none, none, none, none] []) (fun z23 hy => ?_) (fun hj12 => ?_)
      · have hf := hr10 _ hy
        refine ga_iconst 88 C.c (v := (-1)) (by decide) dX0_pour_87 rfl ?_
        have hf := Option.some.inj hf
        cases hf
        exact xw_iret C hr hlk hq rfl rfl rfl dX0_pour_88
      · refine ga_W.sub (pu_it_w (Wd := fun (q : Int32 × MS) => ga_W E 5 (xw_I E X q.2) 0 0 32 [some (.ref (xg X 0)), some (.int a1), some (.int a2), some (.int a3), some (.int q.1)] []) (Wx := fun e => e = y24) (fun q x hf kc8 kx9 => ?_) hi13 rfl) (And.intro rfl (And.intro rfl (And.intro rfl (And.intro rfl (And.intro rfl trivial)))))
        obtain ⟨v6, z7⟩ := q
        try dsimp only
        unfold fX0_pour_L32 at hf
        refine ga_iload 34 C.c rfl dX0_pour_32 rfl ?_
        refine ga_bipush 36 C.c (v := 60) (by decide) dX0_pour_34 rfl ?_
        refine ga_icmp_gt 87 39 C.c dX0_pour_36 (by decide) rfl (fun c => ?_) (fun c => ?_)
        · have hf := pu_pos c hf
          exact ga_W.sub (hj12 _ (kx9 _ (Option.some.inj hf).symm).symm) trivial
        · have hf := pu_neg c hf
          refine ga_aload_n 40 C.c 0 rfl rfl dX0_pour_39 rfl ?_
          refine xa_get 43 0 8 C rfl (T := TX0) rfl in_X0 (by decide) q564 rfl rfl dX0_pour_40 rfl ?_
          refine ga_iload_n 44 C.c 1 rfl rfl dX0_pour_43 rfl ?_
          refine ga_iload_n 45 C.c 2 rfl rfl dX0_pour_44 rfl ?_
          obtain ⟨z14, hc15, hf⟩ := pu_b1_w hf
          refine xa_callV 48 5 C (as := [.int a1, .int a2]) (met_X4_goes_s (eL E) X _ _ _ _ hc15) rfl (T := TX4) rfl (lw_V q1098 q1099 q1100 q100 q1101) cd_X4_goes_s rfl (Nat.le_of_ble_eq_true rfl) (Nat.le_of_ble_eq_true rfl) (Nat.le_of_ble_eq_true rfl) dX0_pour_45 rfl ?_
          refine ga_bipush 50 C.c (v := 10) (by decide) dX0_pour_48 rfl ?_
          obtain ⟨v16, hc17, hf⟩ := pu_b1_w hf
          refine xa_callV 53 5 C (as := [.int 10]) (met_X4_first_s (eL E) X _ _ _ hc17) rfl (T := TX4) rfl (lw_V q1216 q1217 q1218 q100 q1219) cd_X4_first_s rfl (Nat.le_of_ble_eq_true rfl) (Nat.le_of_ble_eq_true rfl) (Nat.le_of_ble_eq_true rfl) dX0_pour_50 rfl ?_
          refine ga_iconst 54 C.c (v := (-1)) (by decide) dX0_pour_53 rfl ?_
          refine ga_icmp_eq 60 57 C.c dX0_pour_54 (by decide) rfl (fun c => ?_) (fun c => ?_)
          · have hf := pu_pos c hf
            refine ga_aload_n 61 C.c 0 rfl rfl dX0_pour_60 rfl ?_
            refine xa_get 64 0 7 C rfl (T := TX0) rfl in_X0 (by decide) q562 rfl rfl dX0_pour_61 rfl ?_
            refine xa_getN 67 2 1 C rfl (T := TX3) rfl in_X3 (by decide) q444 rfl rfl dX0_pour_64 rfl ?_
            refine ga_iload_n 68 C.c 3 rfl rfl dX0_pour_67 rfl ?_
            refine ga_dup2 69 C.c rfl rfl dX0_pour_68 rfl ?_
            obtain ⟨h18, hf⟩ := pu_g_w hf
            refine xa_iald 70 2 4 61 C rfl h18 dX0_pour_69 rfl ?_
            refine ga_iconst 71 C.c (v := 1) (by decide) dX0_pour_70 rfl ?_
            refine ga_iadd 72 C.c dX0_pour_71 rfl ?_
            obtain ⟨h19, hf⟩ := pu_g_w hf
            refine xa_iast 73 2 4 61 C rfl (xa_seta4 _ _) h19 dX0_pour_72 rfl ?_
            refine ga_aload_n 74 C.c 0 rfl rfl dX0_pour_73 rfl ?_
            refine xa_get 77 0 7 C rfl (T := TX0) rfl in_X0 (by decide) q562 rfl rfl dX0_pour_74 rfl ?_
            obtain ⟨z21, hc22, hf⟩ := pu_b1_w hf
            refine xa_callV 80 2 C (as := []) (met_X3_flows (eL E) X _ _ hc22) rfl (T := TX3) rfl (lw_V q1363 q1077 q1078 q99 q1079) cd_X3_flows rfl (Nat.le_of_ble_eq_true rfl) (Nat.le_of_ble_eq_true rfl) (Nat.le_of_ble_eq_true rfl) dX0_pour_77 rfl ?_
            refine ga_pop 81 C.c rfl dX0_pour_80 rfl ?_
            refine ga_iinc 84 C.c (v := v6 + 1) rfl rfl (by decide) rfl dX0_pour_81 rfl ?_
            refine ga_goto 32 C.c dX0_pour_84 (by decide) ?_
            exact ga_W.sub (kc8 _ (Option.some.inj hf).symm) (And.intro rfl (And.intro rfl (And.intro rfl (And.intro rfl (And.intro rfl trivial)))))
          · have hf := pu_neg c hf
            refine ga_iload 59 C.c rfl dX0_pour_57 rfl ?_
            have hf := Option.some.inj hf
            have hf := hs11 _ (kx9 _ hf.symm).symm
            cases hf
            exact xw_iret C hr hlk hq rfl rfl rfl dX0_pour_59
    · have hf := pu_pos c hf
      refine ga_bipush 20 C.c (v := (-2)) (by decide) dX0_pour_18 rfl ?_
      have hf := Option.some.inj hf
      cases hf
      exact xw_iret C hr hlk hq rfl rfl rfl dX0_pour_20
set_option maxHeartbeats 4000000 in
theorem met_X0_whyNot (l : Launch) (X : XX) (z : MS) (a1 : Int32) (r : Int32) (hf : fX0_whyNot (xp X) z a1 = some r) : Met l yX0_whyNot (ws_ yX0_whyNot cX0_whyNot 4 (some .int)) ({ frames := 5, cells := 0, slots := 0, locals := 123 } : Room) (xw_Pc X z [.ref (xg X 0), .int a1]) (xw_Qc X z (some (.int r))) 0 0 (xw_A (xg X)) := by
  refine xw_of (RX := RX0) (lo := [some (.ref (xg X 0)), some (.int a1), none, none]) (by decide) rfl (Nat.le_of_ble_eq_true rfl) rfl (fun E C hr hlk hq => ?_)
  unfold fX0_whyNot at hf
  refine ga_iload_n 1 C.c 1 rfl rfl dX0_whyNot_0 rfl ?_
  refine xa_callS 4 C (as := [.int a1]) (met_X0_isSlot (eL E) _) (lw_S q132 q133 q93 q134) cd_X0_isSlot rfl (Nat.le_of_ble_eq_true rfl) (Nat.le_of_ble_eq_true rfl) (Nat.le_of_ble_eq_true rfl) dX0_whyNot_1 rfl ?_
  refine ga_if_eq 17 7 C.c dX0_whyNot_4 (by decide) rfl (fun c => ?_) (fun c => ?_)
  · have hf := pu_pos c hf
    refine ga_bipush 19 C.c (v := (-2)) (by decide) dX0_whyNot_17 rfl ?_
    have hf := Option.some.inj hf
    cases hf
    exact xw_iret C hr hlk hq rfl rfl rfl dX0_whyNot_19
  · have hf := pu_neg c hf
    refine ga_aload_n 8 C.c 0 rfl rfl dX0_whyNot_7 rfl ?_
    refine xa_get 11 0 1 C rfl (T := TX0) rfl in_X0 (by decide) q554 rfl rfl dX0_whyNot_8 rfl ?_
    refine xa_ris 14 C q997 (Nat.le_of_ble_eq_true rfl) (Nat.le_of_ble_eq_true rfl) (Nat.le_of_ble_eq_true rfl) dX0_whyNot_11 rfl ?_
    refine ga_if_ne 20 17 C.c dX0_whyNot_14 (by decide) rfl (fun c => ?_) (fun c => ?_)
    · have hf := pu_neg c hf
      refine ga_aload_n 21 C.c 0 rfl rfl dX0_whyNot_20 rfl ?_
      refine xa_get 24 0 0 C rfl (T := TX0) rfl in_X0 (by decide) q552 rfl rfl dX0_whyNot_21 rfl ?_
      refine ga_iload_n 25 C.c 1 rfl rfl dX0_whyNot_24 rfl ?_
      obtain ⟨h1, hf⟩ := pu_g_w hf
      refine xa_slot 26 C h1 dX0_whyNot_25 rfl ?_
      refine ga_astore_n 27 C.c 2 rfl (by decide) rfl dX0_whyNot_26 rfl ?_
      refine ga_aload_n 28 C.c 2 rfl rfl dX0_whyNot_27 rfl ?_
      refine xa_heldnn 37 34 C (vp_in_lt h1) q342 dX0_whyNot_28 rfl dX0_whyNot_31 (by decide) rfl (fun c => ?_) (fun c => ?_)
      · have hf := pu_neg c hf
        refine ga_aload_n 38 C.c 2 rfl rfl dX0_whyNot_37 rfl ?_
        obtain ⟨h2, hf⟩ := pu_h_w hf
        refine xa_smany 41 C (vp_in_lt h1) h2 q1372 (Nat.le_of_ble_eq_true rfl) (Nat.le_of_ble_eq_true rfl) (Nat.le_of_ble_eq_true rfl) dX0_whyNot_38 rfl ?_
        refine ga_iconst 42 C.c (v := 2) (by decide) dX0_whyNot_41 rfl ?_
        refine ga_irem 43 C.c (by decide) dX0_whyNot_42 rfl ?_
        refine ga_if_eq 49 46 C.c dX0_whyNot_43 (by decide) rfl (fun c => ?_) (fun c => ?_)
        · have hf := pu_pos c hf
          refine ga_iconst 50 C.c (v := 0) (by decide) dX0_whyNot_49 rfl ?_
          refine ga_istore_n 51 C.c 3 rfl (by decide) rfl dX0_whyNot_50 rfl ?_
          obtain ⟨y17, hi11, hr8, hs9⟩ := pu_s_w hf
          refine ga_cutP (P := y17 = .inl () → ga_W E 4 (xw_I E X z) 0 0 97 [none, none, none, none] []) (fun hy => ?_) (fun hj10 => ?_)
          · have hf := hr8 _ hy
            refine ga_iconst 98 C.c (v := 0) (by decide) dX0_whyNot_97 rfl ?_
            have hf := Option.some.inj hf
            cases hf
            exact xw_iret C hr hlk hq rfl rfl rfl dX0_whyNot_98
          · refine ga_W.sub (pu_it_w (Wd := fun (q : Int32) => ga_W E 4 (xw_I E X z) 0 0 51 [some (.ref (xg X 0)), none, some (.ref ((xS X).1 a1.toNatClampNeg)), some (.int q)] []) (Wx := fun e => e = y17) (fun v5 x hf kc6 kx7 => ?_) hi11 rfl) (And.intro rfl (And.intro rfl (And.intro rfl trivial)))
            try dsimp only
            unfold fX0_whyNot_L51 at hf
            refine ga_iload_n 52 C.c 3 rfl rfl dX0_whyNot_51 rfl ?_
            refine ga_aload_n 53 C.c 2 rfl rfl dX0_whyNot_52 rfl ?_
            obtain ⟨h12, hf⟩ := pu_h_w hf
            refine xa_smany 56 C (vp_in_lt h1) h12 q1372 (Nat.le_of_ble_eq_true rfl) (Nat.le_of_ble_eq_true rfl) (Nat.le_of_ble_eq_true rfl) dX0_whyNot_53 rfl ?_
            refine ga_icmp_ge 97 59 C.c dX0_whyNot_56 (by decide) rfl (fun c => ?_) (fun c => ?_)
            · have hf := pu_pos c hf
              exact ga_W.sub (hj10 (kx7 _ (Option.some.inj hf).symm).symm) trivial
            · have hf := pu_neg c hf
              refine ga_aload_n 60 C.c 2 rfl rfl dX0_whyNot_59 rfl ?_
              refine ga_iload_n 61 C.c 3 rfl rfl dX0_whyNot_60 rfl ?_
              obtain ⟨h13, hf⟩ := pu_h_w hf
              obtain ⟨h14, hf⟩ := pu_g_w hf
              refine xa_snum 64 C (vp_in_lt h1) h13 h14 q1376 (Nat.le_of_ble_eq_true rfl) (Nat.le_of_ble_eq_true rfl) (Nat.le_of_ble_eq_true rfl) dX0_whyNot_61 rfl ?_
              refine ga_lconst 65 C.c (v := 0) (by decide) dX0_whyNot_64 rfl ?_
              refine ga_ldc2 68 C.c C.ow (C.ts _ q1127) dX0_whyNot_65 rfl ?_
              refine xa_callS 71 C (as := [.long (pn (xp X) (60 * a1.toNatClampNeg + v5.toNatClampNeg)), .long 0, .long 60]) (met_X0_in (eL E) _ _ _) (lw_S q136 q137 q93 q138) cd_X0_in rfl (Nat.le_of_ble_eq_true rfl) (Nat.le_of_ble_eq_true rfl) (Nat.le_of_ble_eq_true rfl) dX0_whyNot_68 rfl ?_
              refine ga_if_eq 88 74 C.c dX0_whyNot_71 (by decide) rfl (fun c => ?_) (fun c => ?_)
              · have hf := pu_pos c hf
                refine ga_bipush 90 C.c (v := (-2)) (by decide) dX0_whyNot_88 rfl ?_
                have hf := Option.some.inj hf
                have hf := hs9 _ (kx7 _ hf.symm).symm
                cases hf
                exact xw_iret C hr hlk hq rfl rfl rfl dX0_whyNot_90
              · have hf := pu_neg c hf
                refine ga_aload_n 75 C.c 0 rfl rfl dX0_whyNot_74 rfl ?_
                refine ga_aload_n 76 C.c 2 rfl rfl dX0_whyNot_75 rfl ?_
                refine ga_iload_n 77 C.c 3 rfl rfl dX0_whyNot_76 rfl ?_
                refine ga_iconst 78 C.c (v := 1) (by decide) dX0_whyNot_77 rfl ?_
                refine ga_iadd 79 C.c dX0_whyNot_78 rfl ?_
                obtain ⟨h15, hf⟩ := pu_h_w hf
                obtain ⟨h16, hf⟩ := pu_g_w hf
                refine xa_snum 82 C (vp_in_lt h1) h15 h16 q1376 (Nat.le_of_ble_eq_true rfl) (Nat.le_of_ble_eq_true rfl) (Nat.le_of_ble_eq_true rfl) dX0_whyNot_79 rfl ?_
                refine xa_callV 85 0 C (as := [.long (pn (xp X) (60 * a1.toNatClampNeg + (v5 + 1 : Int32).toNatClampNeg))]) (met_X0_isReach (eL E) X _ _) rfl (T := TX0) rfl (lw_V q1009 q1011 qs22 q93 q1012) cd_X0_isReach rfl (Nat.le_of_ble_eq_true rfl) (Nat.le_of_ble_eq_true rfl) (Nat.le_of_ble_eq_true rfl) dX0_whyNot_82 rfl ?_
                refine ga_if_ne 91 88 C.c dX0_whyNot_85 (by decide) rfl (fun c => ?_) (fun c => ?_)
                · have hf := pu_neg c hf
                  refine ga_iinc 94 C.c (v := v5 + 2) rfl rfl (by decide) rfl dX0_whyNot_91 rfl ?_
                  refine ga_goto 51 C.c dX0_whyNot_94 (by decide) ?_
                  exact ga_W.sub (kc6 _ (Option.some.inj hf).symm) (And.intro rfl (And.intro rfl (And.intro rfl trivial)))
                · have hf := pu_pos c hf
                  refine ga_bipush 90 C.c (v := (-2)) (by decide) dX0_whyNot_88 rfl ?_
                  have hf := Option.some.inj hf
                  have hf := hs9 _ (kx7 _ hf.symm).symm
                  cases hf
                  exact xw_iret C hr hlk hq rfl rfl rfl dX0_whyNot_90
        · have hf := pu_neg c hf
          refine ga_bipush 48 C.c (v := (-2)) (by decide) dX0_whyNot_46 rfl ?_
          have hf := Option.some.inj hf
          cases hf
          exact xw_iret C hr hlk hq rfl rfl rfl dX0_whyNot_48
      · have hf := pu_pos c hf
        refine ga_bipush 36 C.c (v := (-6)) (by decide) dX0_whyNot_34 rfl ?_
        have hf := Option.some.inj hf
        cases hf
        exact xw_iret C hr hlk hq rfl rfl rfl dX0_whyNot_36
    · have hf := pu_pos c hf
      refine ga_bipush 19 C.c (v := (-2)) (by decide) dX0_whyNot_17 rfl ?_
      have hf := Option.some.inj hf
      cases hf
      exact xw_iret C hr hlk hq rfl rfl rfl dX0_whyNot_19
set_option maxHeartbeats 4000000 in
theorem met_X0_isSeen (l : Launch) (X : XX) (z : MS) (a1 : Nat) (ha1 : a1 < 4) (r : Int32) (hf : fX0_isSeen (xp X) z a1 = some r) : Met l yX0_isSeen (ws_ yX0_isSeen cX0_isSeen 3 (some .boolean)) ({ frames := 2, cells := 0, slots := 0, locals := 60 } : Room) (xw_Pc X z [.ref (xg X 0), .ref ((xS X).1 a1)]) (xw_Qc X z (some (.int r))) 0 0 (xw_A (xg X)) := by
  refine xw_of (RX := RX0) (lo := [some (.ref (xg X 0)), some (.ref ((xS X).1 a1)), none]) (by decide) rfl (Nat.le_of_ble_eq_true rfl) rfl (fun E C hr hlk hq => ?_)
  unfold fX0_isSeen at hf
  refine ga_iconst 1 C.c (v := 0) (by decide) dX0_isSeen_0 rfl ?_
  refine ga_istore_n 2 C.c 2 rfl (by decide) rfl dX0_isSeen_1 rfl ?_
  obtain ⟨y16, hi9, hr6, hs7⟩ := pu_s_w hf
  refine ga_cutP (P := y16 = .inl () → ga_W E 3 (xw_I E X z) 0 0 44 [none, none, none] []) (fun hy => ?_) (fun hj8 => ?_)
  · have hf := hr6 _ hy
    refine ga_iconst 45 C.c (v := 1) (by decide) dX0_isSeen_44 rfl ?_
    have hf := Option.some.inj hf
    cases hf
    exact xw_iret C hr hlk hq rfl rfl rfl dX0_isSeen_45
  · refine ga_W.sub (pu_it_w (Wd := fun (q : Int32) => ga_W E 3 (xw_I E X z) 0 0 2 [some (.ref (xg X 0)), some (.ref ((xS X).1 a1)), some (.int q)] []) (Wx := fun e => e = y16) (fun v3 x hf kc4 kx5 => ?_) hi9 rfl) (And.intro rfl (And.intro rfl (And.intro rfl trivial)))
    try dsimp only
    unfold fX0_isSeen_L2 at hf
    refine ga_iload_n 3 C.c 2 rfl rfl dX0_isSeen_2 rfl ?_
    refine ga_aload_n 4 C.c 1 rfl rfl dX0_isSeen_3 rfl ?_
    obtain ⟨h10, hf⟩ := pu_h_w hf
    refine xa_smany 7 C ha1 h10 q1372 (Nat.le_of_ble_eq_true rfl) (Nat.le_of_ble_eq_true rfl) (Nat.le_of_ble_eq_true rfl) dX0_isSeen_4 rfl ?_
    refine ga_icmp_ge 44 10 C.c dX0_isSeen_7 (by decide) rfl (fun c => ?_) (fun c => ?_)
    · have hf := pu_pos c hf
      exact ga_W.sub (hj8 (kx5 _ (Option.some.inj hf).symm).symm) trivial
    · have hf := pu_neg c hf
      refine ga_aload_n 11 C.c 0 rfl rfl dX0_isSeen_10 rfl ?_
      refine xa_get 14 0 8 C rfl (T := TX0) rfl in_X0 (by decide) q564 rfl rfl dX0_isSeen_11 rfl ?_
      refine xa_getN 17 5 0 C rfl (T := TX4) rfl in_X4 (by decide) q486 rfl rfl dX0_isSeen_14 rfl ?_
      refine ga_aload_n 18 C.c 1 rfl rfl dX0_isSeen_17 rfl ?_
      refine ga_iload_n 19 C.c 2 rfl rfl dX0_isSeen_18 rfl ?_
      obtain ⟨h11, hf⟩ := pu_h_w hf
      obtain ⟨h12, hf⟩ := pu_g_w hf
      refine xa_snum 22 C ha1 h11 h12 q1376 (Nat.le_of_ble_eq_true rfl) (Nat.le_of_ble_eq_true rfl) (Nat.le_of_ble_eq_true rfl) dX0_isSeen_19 rfl ?_
      refine ga_l2i 23 C.c dX0_isSeen_22 rfl ?_
      obtain ⟨h13, hf⟩ := pu_g_w hf
      refine xa_iald 24 3 6 61 C rfl h13 dX0_isSeen_23 rfl ?_
      refine ga_i2l 25 C.c dX0_isSeen_24 rfl ?_
      refine ga_aload_n 26 C.c 1 rfl rfl dX0_isSeen_25 rfl ?_
      refine ga_iload_n 27 C.c 2 rfl rfl dX0_isSeen_26 rfl ?_
      refine ga_iconst 28 C.c (v := 1) (by decide) dX0_isSeen_27 rfl ?_
      refine ga_iadd 29 C.c dX0_isSeen_28 rfl ?_
      obtain ⟨h14, hf⟩ := pu_h_w hf
      obtain ⟨h15, hf⟩ := pu_g_w hf
      refine xa_snum 32 C ha1 h14 h15 q1376 (Nat.le_of_ble_eq_true rfl) (Nat.le_of_ble_eq_true rfl) (Nat.le_of_ble_eq_true rfl) dX0_isSeen_29 rfl ?_
      refine ga_lcmp 33 C.c dX0_isSeen_32 rfl ?_
      refine ga_if_eq 38 36 C.c dX0_isSeen_33 (by decide) rfl (fun c => ?_) (fun c => ?_)
      · have hf := pu_pos c hf
        refine ga_iinc 41 C.c (v := v3 + 2) rfl rfl (by decide) rfl dX0_isSeen_38 rfl ?_
        refine ga_goto 2 C.c dX0_isSeen_41 (by decide) ?_
        exact ga_W.sub (kc4 _ (Option.some.inj hf).symm) (And.intro rfl (And.intro rfl (And.intro rfl trivial)))
      · have hf := pu_neg c hf
        refine ga_iconst 37 C.c (v := 0) (by decide) dX0_isSeen_36 rfl ?_
        have hf := Option.some.inj hf
        have hf := hs7 _ (kx5 _ hf.symm).symm
        cases hf
        exact xw_iret C hr hlk hq rfl rfl rfl dX0_isSeen_37
set_option maxHeartbeats 4000000 in
theorem met_X5_adds (l : Launch) (X : XX) (z : MS) (a1 : Int32) (a2 : Int32) (z9 : MS) (hf : fX5_adds (xp X) z a1 a2 = some z9) : Met l yX5_adds (ws_ yX5_adds cX5_adds 4 none) ({ frames := 0, cells := 0, slots := 0, locals := 0 } : Room) (xw_Pc X z [.ref (xg X 9), .int a1, .int a2]) (xw_Qc X z9 (none)) 0 0 (xw_A (xg X)) := by
  refine xw_of (RX := RX5) (lo := [some (.ref (xg X 9)), some (.int a1), some (.int a2), none]) (by decide) rfl (Nat.le_of_ble_eq_true rfl) rfl (fun E C hr hlk hq => ?_)
  unfold fX5_adds at hf
  refine ga_aload_n 1 C.c 0 rfl rfl dX5_adds_0 rfl ?_
  refine ga_aload_n 2 C.c 0 rfl rfl dX5_adds_1 rfl ?_
  refine xa_get 5 9 1 C rfl (T := TX5) rfl in_X5 (by decide) q526 rfl rfl dX5_adds_2 rfl ?_
  obtain ⟨v1, hg2, hf⟩ := pu_l1_w hf
  refine ga_cut 21 (I2 := xw_I E X z) (k2 := 0) (n2 := 0) (lo2 := [some (.ref (xg X 9)), some (.int a1), none, none]) (st2 := [.int v1, .ref (xg X 9)]) ?_ (fun hj3 => ?_)
  · refine xa_put 24 9 3 C (ty := tyX5) tyX5_ok nmX5 rfl (xa_set33 _) rfl in_X5 (by decide) q530 rfl rfl rfl (Nat.le_of_ble_eq_true rfl) dX5_adds_21 rfl ?_
    refine ga_aload_n 25 C.c 0 rfl rfl dX5_adds_24 rfl ?_
    refine ga_dup 26 C.c rfl dX5_adds_25 rfl ?_
    refine xa_get 29 9 1 C rfl (T := TX5) rfl in_X5 (by decide) q526 rfl rfl dX5_adds_26 rfl ?_
    refine ga_iconst 30 C.c (v := 1) (by decide) dX5_adds_29 rfl ?_
    refine ga_iadd 31 C.c dX5_adds_30 rfl ?_
    refine xa_put 34 9 1 C (ty := tyX5) tyX5_ok nmX5 rfl (xa_set31 _) rfl in_X5 (by decide) q526 rfl rfl rfl (Nat.le_of_ble_eq_true rfl) dX5_adds_31 rfl ?_
    refine ga_aload_n 35 C.c 0 rfl rfl dX5_adds_34 rfl ?_
    refine ga_dup 36 C.c rfl dX5_adds_35 rfl ?_
    refine xa_get 39 9 2 C rfl (T := TX5) rfl in_X5 (by decide) q528 rfl rfl dX5_adds_36 rfl ?_
    refine ga_iconst 40 C.c (v := 1) (by decide) dX5_adds_39 rfl ?_
    refine ga_iload_n 41 C.c 1 rfl rfl dX5_adds_40 rfl ?_
    refine ga_ishl 42 C.c dX5_adds_41 rfl ?_
    refine ga_ior 43 C.c dX5_adds_42 rfl ?_
    refine xa_put 46 9 2 C (ty := tyX5) tyX5_ok nmX5 rfl (xa_set32 _) rfl in_X5 (by decide) q528 rfl rfl rfl (Nat.le_of_ble_eq_true rfl) dX5_adds_43 rfl ?_
    refine ga_iconst 47 C.c (v := 0) (by decide) dX5_adds_46 rfl ?_
    refine ga_istore_n 48 C.c 3 rfl (by decide) rfl dX5_adds_47 rfl ?_
    obtain ⟨z19, hi14, hf⟩ := pu_b1_w hf
    refine ga_cut 86 (I2 := xw_I E X z19) (k2 := 0) (n2 := 0) (lo2 := [none, none, none, none]) (st2 := []) ?_ (fun hj13 => ?_)
    · have hf := Option.some.inj hf
      cases hf
      exact xw_vret C hr hlk hq rfl dX5_adds_86
    · refine ga_W.sub (pu_it_w (Wd := fun (q : Int32 × MS) => ga_W E 4 (xw_I E X q.2) 0 0 48 [some (.ref (xg X 9)), none, none, some (.int q.1)] []) (Wx := fun e => e = (z19)) (fun q x hf kc9 kx10 => ?_) hi14 rfl) (And.intro rfl (And.intro rfl trivial))
      obtain ⟨v7, z8⟩ := q
      try dsimp only
      unfold fX5_adds_L48 at hf
      refine ga_iload_n 49 C.c 3 rfl rfl dX5_adds_48 rfl ?_
      refine ga_bipush 51 C.c (v := 60) (by decide) dX5_adds_49 rfl ?_
      refine ga_icmp_gt 86 54 C.c dX5_adds_51 (by decide) rfl (fun c => ?_) (fun c => ?_)
      · have hf := pu_pos c hf
        cases (kx10 _ (Option.some.inj hf).symm)
        exact ga_W.sub hj13 trivial
      · have hf := pu_neg c hf
        refine ga_aload_n 55 C.c 0 rfl rfl dX5_adds_54 rfl ?_
        refine xa_get 58 9 0 C rfl (T := TX5) rfl in_X5 (by decide) q525 rfl rfl dX5_adds_55 rfl ?_
        refine ga_bipush 60 C.c (v := 13) (by decide) dX5_adds_58 rfl ?_
        refine ga_iload_n 61 C.c 3 rfl rfl dX5_adds_60 rfl ?_
        refine ga_imul 62 C.c dX5_adds_61 rfl ?_
        refine ga_aload_n 63 C.c 0 rfl rfl dX5_adds_62 rfl ?_
        refine xa_get 66 9 6 C rfl (T := TX5) rfl in_X5 (by decide) q536 rfl rfl dX5_adds_63 rfl ?_
        refine xa_getN 69 0 8 C rfl (T := TX0) rfl in_X0 (by decide) q563 rfl rfl dX5_adds_66 rfl ?_
        refine xa_getN 72 5 0 C rfl (T := TX4) rfl in_X4 (by decide) q485 rfl rfl dX5_adds_69 rfl ?_
        refine ga_iload_n 73 C.c 3 rfl rfl dX5_adds_72 rfl ?_
        obtain ⟨h15, hf⟩ := pu_g_w hf
        refine xa_iald 74 3 6 61 C rfl h15 dX5_adds_73 rfl ?_
        refine ga_iadd 75 C.c dX5_adds_74 rfl ?_
        refine ga_dup2 76 C.c rfl rfl dX5_adds_75 rfl ?_
        obtain ⟨h16, hf⟩ := pu_g_w hf
        refine xa_iald 77 5 10 793 C rfl h16 dX5_adds_76 rfl ?_
        refine ga_iconst 78 C.c (v := 1) (by decide) dX5_adds_77 rfl ?_
        refine ga_iadd 79 C.c dX5_adds_78 rfl ?_
        obtain ⟨h17, hf⟩ := pu_g_w hf
        refine xa_iast 80 5 10 793 C rfl (xa_seta10 _ _) h17 dX5_adds_79 rfl ?_
        refine ga_iinc 83 C.c (v := v7 + 1) rfl rfl (by decide) rfl dX5_adds_80 rfl ?_
        refine ga_goto 48 C.c dX5_adds_83 (by decide) ?_
        exact ga_W.sub (kc9 _ (Option.some.inj hf).symm) (And.intro rfl (And.intro rfl trivial))
  · have hf := hg2
    refine ga_if_ne 17 8 C.c dX5_adds_5 (by decide) rfl (fun c => ?_) (fun c => ?_)
    · have hf := pu_neg c hf
      refine ga_aload_n 18 C.c 0 rfl rfl dX5_adds_17 rfl ?_
      refine xa_get 21 9 3 C rfl (T := TX5) rfl in_X5 (by decide) q530 rfl rfl dX5_adds_18 rfl ?_
      cases hf
      exact ga_W.sub hj3 (And.intro rfl (And.intro rfl trivial))
    · have hf := pu_pos c hf
      refine ga_bipush 10 C.c (v := 100) (by decide) dX5_adds_8 rfl ?_
      refine ga_iload_n 11 C.c 1 rfl rfl dX5_adds_10 rfl ?_
      refine ga_imul 12 C.c dX5_adds_11 rfl ?_
      refine ga_iload_n 13 C.c 2 rfl rfl dX5_adds_12 rfl ?_
      refine ga_iadd 14 C.c dX5_adds_13 rfl ?_
      refine ga_goto 21 C.c dX5_adds_14 (by decide) ?_
      cases hf
      exact ga_W.sub hj3 (And.intro rfl (And.intro rfl trivial))
set_option maxHeartbeats 4000000 in
theorem met_X5_asks (l : Launch) (X : XX) (z : MS) (z9 : MS) (hf : fX5_asks (xp X) z = some z9) : Met l yX5_asks (ws_ yX5_asks cX5_asks 4 none) ({ frames := 1, cells := 0, slots := 0, locals := 21 } : Room) (xw_Pc X z [.ref (xg X 9)]) (xw_Qc X z9 (none)) 0 0 (xw_A (xg X)) := by
  refine xw_of (RX := RX5) (lo := [some (.ref (xg X 9)), none, none, none]) (by decide) rfl (Nat.le_of_ble_eq_true rfl) rfl (fun E C hr hlk hq => ?_)
  unfold fX5_asks at hf
  refine ga_aload_n 1 C.c 0 rfl rfl dX5_asks_0 rfl ?_
  refine ga_iconst 2 C.c (v := (-1)) (by decide) dX5_asks_1 rfl ?_
  refine xa_put 5 9 4 C (ty := tyX5) tyX5_ok nmX5 rfl (xa_set34 _) rfl in_X5 (by decide) q532 rfl rfl rfl (Nat.le_of_ble_eq_true rfl) dX5_asks_2 rfl ?_
  refine ga_aload_n 6 C.c 0 rfl rfl dX5_asks_5 rfl ?_
  refine ga_aload_n 7 C.c 0 rfl rfl dX5_asks_6 rfl ?_
  refine xa_get 10 9 1 C rfl (T := TX5) rfl in_X5 (by decide) q526 rfl rfl dX5_asks_7 rfl ?_
  refine xa_put 13 9 5 C (ty := tyX5) tyX5_ok nmX5 rfl (xa_set35 _) rfl in_X5 (by decide) q534 rfl rfl rfl (Nat.le_of_ble_eq_true rfl) dX5_asks_10 rfl ?_
  refine ga_iconst 14 C.c (v := 0) (by decide) dX5_asks_13 rfl ?_
  refine ga_istore_n 15 C.c 1 rfl (by decide) rfl dX5_asks_14 rfl ?_
  obtain ⟨z26, hi10, hf⟩ := pu_b1_w hf
  refine ga_cut 80 (I2 := xw_I E X z26) (k2 := 0) (n2 := 0) (lo2 := [none, none, none, none]) (st2 := []) ?_ (fun hj9 => ?_)
  · have hf := Option.some.inj hf
    cases hf
    exact xw_vret C hr hlk hq rfl dX5_asks_80
  · refine ga_W.sub (pu_it_w (Wd := fun (q : Int32 × MS) => ga_W E 4 (xw_I E X q.2) 0 0 15 [some (.ref (xg X 9)), some (.int q.1), none, none] []) (Wx := fun e => e = (z26)) (fun q x hf kc5 kx6 => ?_) hi10 rfl) (And.intro rfl (And.intro rfl trivial))
    obtain ⟨v3, z4⟩ := q
    try dsimp only
    unfold fX5_asks_L15 at hf
    refine ga_iload_n 16 C.c 1 rfl rfl dX5_asks_15 rfl ?_
    refine ga_bipush 18 C.c (v := 60) (by decide) dX5_asks_16 rfl ?_
    refine ga_icmp_gt 80 21 C.c dX5_asks_18 (by decide) rfl (fun c => ?_) (fun c => ?_)
    · have hf := pu_pos c hf
      cases (kx6 _ (Option.some.inj hf).symm)
      exact ga_W.sub hj9 trivial
    · have hf := pu_neg c hf
      refine ga_iconst 22 C.c (v := 0) (by decide) dX5_asks_21 rfl ?_
      refine ga_istore_n 23 C.c 2 rfl (by decide) rfl dX5_asks_22 rfl ?_
      refine ga_iconst 24 C.c (v := 0) (by decide) dX5_asks_23 rfl ?_
      refine ga_istore_n 25 C.c 3 rfl (by decide) rfl dX5_asks_24 rfl ?_
      obtain ⟨v23, hi20, hf⟩ := pu_b1_w hf
      refine ga_cut 53 (I2 := xw_I E X z4) (k2 := 0) (n2 := 0) (lo2 := [some (.ref (xg X 9)), some (.int v3), some (.int v23), none]) (st2 := []) ?_ (fun hj19 => ?_)
      · refine ga_iload_n 54 C.c 2 rfl rfl dX5_asks_53 rfl ?_
        refine ga_aload_n 55 C.c 0 rfl rfl dX5_asks_54 rfl ?_
        refine xa_get 58 9 5 C rfl (T := TX5) rfl in_X5 (by decide) q534 rfl rfl dX5_asks_55 rfl ?_
        refine ga_icmp_lt 64 61 C.c dX5_asks_58 (by decide) rfl (fun c => ?_) (fun c => ?_)
        · have hf := pu_pos c hf
          refine ga_aload_n 65 C.c 0 rfl rfl dX5_asks_64 rfl ?_
          refine ga_iload_n 66 C.c 1 rfl rfl dX5_asks_65 rfl ?_
          refine xa_put 69 9 4 C (ty := tyX5) tyX5_ok nmX5 rfl (xa_set34 _) rfl in_X5 (by decide) q532 rfl rfl rfl (Nat.le_of_ble_eq_true rfl) dX5_asks_66 rfl ?_
          refine ga_aload_n 70 C.c 0 rfl rfl dX5_asks_69 rfl ?_
          refine ga_iload_n 71 C.c 2 rfl rfl dX5_asks_70 rfl ?_
          refine xa_put 74 9 5 C (ty := tyX5) tyX5_ok nmX5 rfl (xa_set35 _) rfl in_X5 (by decide) q534 rfl rfl rfl (Nat.le_of_ble_eq_true rfl) dX5_asks_71 rfl ?_
          refine ga_iinc 77 C.c (v := v3 + 1) rfl rfl (by decide) rfl dX5_asks_74 rfl ?_
          refine ga_goto 15 C.c dX5_asks_77 (by decide) ?_
          exact ga_W.sub (kc5 _ (Option.some.inj hf).symm) (And.intro rfl (And.intro rfl trivial))
        · have hf := pu_neg c hf
          refine ga_goto 74 C.c dX5_asks_61 (by decide) ?_
          refine ga_iinc 77 C.c (v := v3 + 1) rfl rfl (by decide) rfl dX5_asks_74 rfl ?_
          refine ga_goto 15 C.c dX5_asks_77 (by decide) ?_
          exact ga_W.sub (kc5 _ (Option.some.inj hf).symm) (And.intro rfl (And.intro rfl trivial))
      · refine ga_W.sub (pu_it_w (Wd := fun (q : Int32 × Int32) => ga_W E 4 (xw_I E X z4) 0 0 25 [some (.ref (xg X 9)), some (.int v3), some (.int q.1), some (.int q.2)] []) (Wx := fun e => e = (v23)) (fun q x hf kc15 kx16 => ?_) hi20 rfl) (And.intro rfl (And.intro rfl (And.intro rfl (And.intro rfl trivial))))
        obtain ⟨v13, v14⟩ := q
        try dsimp only
        unfold fX5_asks_L25 at hf
        refine ga_iload_n 26 C.c 3 rfl rfl dX5_asks_25 rfl ?_
        refine ga_bipush 28 C.c (v := 13) (by decide) dX5_asks_26 rfl ?_
        refine ga_icmp_ge 53 31 C.c dX5_asks_28 (by decide) rfl (fun c => ?_) (fun c => ?_)
        · have hf := pu_pos c hf
          cases (kx16 _ (Option.some.inj hf).symm)
          exact ga_W.sub hj19 (And.intro rfl (And.intro rfl (And.intro rfl trivial)))
        · have hf := pu_neg c hf
          refine ga_iload_n 32 C.c 2 rfl rfl dX5_asks_31 rfl ?_
          refine ga_aload_n 33 C.c 0 rfl rfl dX5_asks_32 rfl ?_
          refine xa_get 36 9 0 C rfl (T := TX5) rfl in_X5 (by decide) q525 rfl rfl dX5_asks_33 rfl ?_
          refine ga_bipush 38 C.c (v := 13) (by decide) dX5_asks_36 rfl ?_
          refine ga_iload_n 39 C.c 1 rfl rfl dX5_asks_38 rfl ?_
          refine ga_imul 40 C.c dX5_asks_39 rfl ?_
          refine ga_iload_n 41 C.c 3 rfl rfl dX5_asks_40 rfl ?_
          refine ga_iadd 42 C.c dX5_asks_41 rfl ?_
          obtain ⟨h21, hf⟩ := pu_g_w hf
          refine xa_iald 43 5 10 793 C rfl h21 dX5_asks_42 rfl ?_
          refine ga_mmax 46 C.c C.ml C.ow (C.ts _ q1400) (C.ts _ q850) (C.ts _ q104) (C.ts _ q851) (by rw [C.rm]; exact (Nat.le_of_ble_eq_true rfl)) (by rw [C.rm]; exact (Nat.le_of_ble_eq_true rfl)) (by rw [C.rm]; exact (Nat.le_of_ble_eq_true rfl)) (by rw [C.rm]; exact (Nat.le_of_ble_eq_true rfl)) dX5_asks_43 rfl ?_
          refine ga_istore_n 47 C.c 2 rfl (by decide) rfl dX5_asks_46 rfl ?_
          obtain ⟨_, rfl, hf⟩ := pu_l1_w hf
          refine ga_iinc 50 C.c (v := v14 + 1) rfl rfl (by decide) rfl dX5_asks_47 rfl ?_
          refine ga_goto 25 C.c dX5_asks_50 (by decide) ?_
          exact ga_W.sub (kc15 _ (Option.some.inj hf).symm) (And.intro rfl (And.intro rfl (And.intro rfl (And.intro rfl trivial))))
set_option maxHeartbeats 4000000 in
theorem met_X5_of (l : Launch) (X : XX) (z : MS) (a1 : Nat) (ha1 : a1 < 4) (z9 : MS) (hf : fX5_of (xp X) z a1 = some z9) : Met l yX5_of (ws_ yX5_of cX5_of 4 (some (.object "QuotedRiver$Seen"))) ({ frames := 6, cells := 0, slots := 0, locals := 154 } : Room) (xw_Pc X z [.ref (xg X 9), .ref ((xS X).1 a1)]) (xw_Qc X z9 (some (.ref (xg X 9)))) 0 0 (xw_A (xg X)) := by
  refine xw_of (RX := RX5) (lo := [some (.ref (xg X 9)), some (.ref ((xS X).1 a1)), none, none]) (by decide) rfl (Nat.le_of_ble_eq_true rfl) rfl (fun E C hr hlk hq => ?_)
  unfold fX5_of at hf
  refine ga_aload_n 1 C.c 0 rfl rfl dX5_of_0 rfl ?_
  refine xa_get 4 9 6 C rfl (T := TX5) rfl in_X5 (by decide) q536 rfl rfl dX5_of_1 rfl ?_
  refine xa_getN 7 0 7 C rfl (T := TX0) rfl in_X0 (by decide) q560 rfl rfl dX5_of_4 rfl ?_
  obtain ⟨z1, hc2, hf⟩ := pu_b1_w hf
  refine xa_callV 10 2 C (as := []) (met_X3_is (eL E) X _ _ hc2) rfl (T := TX3) rfl (lw_V q1384 q1060 q1061 q99 q1062) cd_X3_is rfl (Nat.le_of_ble_eq_true rfl) (Nat.le_of_ble_eq_true rfl) (Nat.le_of_ble_eq_true rfl) dX5_of_7 rfl ?_
  refine ga_pop 11 C.c rfl dX5_of_10 rfl ?_
  refine ga_aload_n 12 C.c 0 rfl rfl dX5_of_11 rfl ?_
  refine ga_iconst 13 C.c (v := 0) (by decide) dX5_of_12 rfl ?_
  refine xa_put 16 9 1 C (ty := tyX5) tyX5_ok nmX5 rfl (xa_set31 _) rfl in_X5 (by decide) q526 rfl rfl rfl (Nat.le_of_ble_eq_true rfl) dX5_of_13 rfl ?_
  refine ga_aload_n 17 C.c 0 rfl rfl dX5_of_16 rfl ?_
  refine ga_iconst 18 C.c (v := 0) (by decide) dX5_of_17 rfl ?_
  refine xa_put 21 9 2 C (ty := tyX5) tyX5_ok nmX5 rfl (xa_set32 _) rfl in_X5 (by decide) q528 rfl rfl rfl (Nat.le_of_ble_eq_true rfl) dX5_of_18 rfl ?_
  refine ga_aload_n 22 C.c 0 rfl rfl dX5_of_21 rfl ?_
  refine ga_iconst 23 C.c (v := (-1)) (by decide) dX5_of_22 rfl ?_
  refine xa_put 26 9 3 C (ty := tyX5) tyX5_ok nmX5 rfl (xa_set33 _) rfl in_X5 (by decide) q530 rfl rfl rfl (Nat.le_of_ble_eq_true rfl) dX5_of_23 rfl ?_
  refine ga_aload_n 27 C.c 0 rfl rfl dX5_of_26 rfl ?_
  refine xa_get 30 9 0 C rfl (T := TX5) rfl in_X5 (by decide) q525 rfl rfl dX5_of_27 rfl ?_
  refine ga_iconst 31 C.c (v := 0) (by decide) dX5_of_30 rfl ?_
  refine xa_fill 34 5 10 793 C (by decide) rfl rfl q1385 (Nat.le_of_ble_eq_true rfl) (Nat.le_of_ble_eq_true rfl) (Nat.le_of_ble_eq_true rfl) dX5_of_31 rfl ?_
  refine ga_iconst 35 C.c (v := 0) (by decide) dX5_of_34 rfl ?_
  refine ga_istore_n 36 C.c 2 rfl (by decide) rfl dX5_of_35 rfl ?_
  obtain ⟨z33, hi15, hf⟩ := pu_b1_w hf
  refine ga_cut 99 (I2 := xw_I E X z33) (k2 := 0) (n2 := 0) (lo2 := [some (.ref (xg X 9)), none, none, none]) (st2 := []) ?_ (fun hj14 => ?_)
  · refine ga_aload_n 100 C.c 0 rfl rfl dX5_of_99 rfl ?_
    obtain ⟨z34, hc35, hf⟩ := pu_b1_w hf
    refine xa_callV 103 9 C (as := []) (met_X5_asks (eL E) X _ _ hc35) rfl (T := TX5) rfl (lw_V q1396 q1398 qs41 q101 q1399) cd_X5_asks rfl (Nat.le_of_ble_eq_true rfl) (Nat.le_of_ble_eq_true rfl) (Nat.le_of_ble_eq_true rfl) dX5_of_100 rfl ?_
    refine ga_aload_n 104 C.c 0 rfl rfl dX5_of_103 rfl ?_
    have hf := Option.some.inj hf
    cases hf
    exact xw_aret C hr hlk hq rfl rfl dX5_of_104
  · refine ga_W.sub (pu_it_w (Wd := fun (q : Int32 × MS) => ga_W E 4 (xw_I E X q.2) 0 0 36 [some (.ref (xg X 9)), some (.ref ((xS X).1 a1)), some (.int q.1), none] []) (Wx := fun e => e = (z33)) (fun q x hf kc10 kx11 => ?_) hi15 rfl) (And.intro rfl (And.intro rfl (And.intro rfl trivial)))
    obtain ⟨v8, z9⟩ := q
    try dsimp only
    unfold fX5_of_L36 at hf
    refine ga_iload_n 37 C.c 2 rfl rfl dX5_of_36 rfl ?_
    refine ga_aload_n 38 C.c 0 rfl rfl dX5_of_37 rfl ?_
    refine xa_get 41 9 6 C rfl (T := TX5) rfl in_X5 (by decide) q536 rfl rfl dX5_of_38 rfl ?_
    refine xa_callVN 44 0 C (as := []) (met_X0_reaches (eL E) X _) rfl (T := TX0) rfl q1386 q1015 qs23 q93 q1016 cd_X0_reaches rfl (Nat.le_of_ble_eq_true rfl) (Nat.le_of_ble_eq_true rfl) (Nat.le_of_ble_eq_true rfl) dX5_of_41 rfl ?_
    refine ga_icmp_ge 99 47 C.c dX5_of_44 (by decide) rfl (fun c => ?_) (fun c => ?_)
    · have hf := pu_pos c hf
      cases (kx11 _ (Option.some.inj hf).symm)
      exact ga_W.sub hj14 (And.intro rfl trivial)
    · have hf := pu_neg c hf
      refine ga_iconst 48 C.c (v := 0) (by decide) dX5_of_47 rfl ?_
      refine ga_istore_n 49 C.c 3 rfl (by decide) rfl dX5_of_48 rfl ?_
      obtain ⟨z32, hi25, hf⟩ := pu_b1_w hf
      refine ga_cut 93 (I2 := xw_I E X z32) (k2 := 0) (n2 := 0) (lo2 := [some (.ref (xg X 9)), some (.ref ((xS X).1 a1)), some (.int v8), none]) (st2 := []) ?_ (fun hj24 => ?_)
      · refine ga_iinc 96 C.c (v := v8 + 1) rfl rfl (by decide) rfl dX5_of_93 rfl ?_
        refine ga_goto 36 C.c dX5_of_96 (by decide) ?_
        exact ga_W.sub (kc10 _ (Option.some.inj hf).symm) (And.intro rfl (And.intro rfl (And.intro rfl trivial)))
      · refine ga_W.sub (pu_it_w (Wd := fun (q : Int32 × MS) => ga_W E 4 (xw_I E X q.2) 0 0 49 [some (.ref (xg X 9)), some (.ref ((xS X).1 a1)), some (.int v8), some (.int q.1)] []) (Wx := fun e => e = (z32)) (fun q x hf kc20 kx21 => ?_) hi25 rfl) (And.intro rfl (And.intro rfl (And.intro rfl (And.intro rfl trivial))))
        obtain ⟨v18, z19⟩ := q
        try dsimp only
        unfold fX5_of_L49 at hf
        refine ga_iload_n 50 C.c 3 rfl rfl dX5_of_49 rfl ?_
        refine ga_bipush 52 C.c (v := 60) (by decide) dX5_of_50 rfl ?_
        refine ga_icmp_gt 93 55 C.c dX5_of_52 (by decide) rfl (fun c => ?_) (fun c => ?_)
        · have hf := pu_pos c hf
          cases (kx21 _ (Option.some.inj hf).symm)
          exact ga_W.sub hj24 (And.intro rfl (And.intro rfl (And.intro rfl trivial)))
        · have hf := pu_neg c hf
          refine ga_aload_n 56 C.c 0 rfl rfl dX5_of_55 rfl ?_
          refine xa_get 59 9 6 C rfl (T := TX5) rfl in_X5 (by decide) q536 rfl rfl dX5_of_56 rfl ?_
          refine xa_getN 62 0 8 C rfl (T := TX0) rfl in_X0 (by decide) q563 rfl rfl dX5_of_59 rfl ?_
          refine ga_iload_n 63 C.c 2 rfl rfl dX5_of_62 rfl ?_
          refine ga_iload_n 64 C.c 3 rfl rfl dX5_of_63 rfl ?_
          obtain ⟨z26, hc27, hf⟩ := pu_b1_w hf
          refine xa_callV 67 5 C (as := [.int v8, .int v18]) (met_X4_goes_s (eL E) X _ _ _ _ hc27) rfl (T := TX4) rfl (lw_V q1387 q1099 q1100 q100 q1101) cd_X4_goes_s rfl (Nat.le_of_ble_eq_true rfl) (Nat.le_of_ble_eq_true rfl) (Nat.le_of_ble_eq_true rfl) dX5_of_64 rfl ?_
          refine ga_ifnull 70 C.c dX5_of_67 rfl ?_
          refine ga_aload_n 71 C.c 0 rfl rfl dX5_of_70 rfl ?_
          refine xa_get 74 9 6 C rfl (T := TX5) rfl in_X5 (by decide) q536 rfl rfl dX5_of_71 rfl ?_
          refine ga_aload_n 75 C.c 1 rfl rfl dX5_of_74 rfl ?_
          obtain ⟨v28, hc29, hf⟩ := pu_b1_w hf
          refine xa_callVN 78 0 C (as := [.ref ((xS X).1 a1)]) (met_X0_isSeen (eL E) X _ _ ha1 _ hc29) rfl (T := TX0) rfl q1388 q1390 qs39 q93 q1391 cd_X0_isSeen rfl (Nat.le_of_ble_eq_true rfl) (Nat.le_of_ble_eq_true rfl) (Nat.le_of_ble_eq_true rfl) dX5_of_75 rfl ?_
          refine ga_if_eq 87 81 C.c dX5_of_78 (by decide) rfl (fun c => ?_) (fun c => ?_)
          · have hf := pu_pos c hf
            refine ga_iinc 90 C.c (v := v18 + 1) rfl rfl (by decide) rfl dX5_of_87 rfl ?_
            refine ga_goto 49 C.c dX5_of_90 (by decide) ?_
            exact ga_W.sub (kc20 _ (Option.some.inj hf).symm) (And.intro rfl (And.intro rfl (And.intro rfl (And.intro rfl trivial))))
          · have hf := pu_neg c hf
            refine ga_aload_n 82 C.c 0 rfl rfl dX5_of_81 rfl ?_
            refine ga_iload_n 83 C.c 2 rfl rfl dX5_of_82 rfl ?_
            refine ga_iload_n 84 C.c 3 rfl rfl dX5_of_83 rfl ?_
            obtain ⟨z30, hc31, hf⟩ := pu_b1_w hf
            refine xa_callV 87 9 C (as := [.int v8, .int v18]) (met_X5_adds (eL E) X _ _ _ _ hc31) rfl (T := TX5) rfl (lw_V q1392 q1394 qs40 q101 q1395) cd_X5_adds rfl (Nat.le_of_ble_eq_true rfl) (Nat.le_of_ble_eq_true rfl) (Nat.le_of_ble_eq_true rfl) dX5_of_84 rfl ?_
            refine ga_iinc 90 C.c (v := v18 + 1) rfl rfl (by decide) rfl dX5_of_87 rfl ?_
            refine ga_goto 49 C.c dX5_of_90 (by decide) ?_
            exact ga_W.sub (kc20 _ (Option.some.inj hf).symm) (And.intro rfl (And.intro rfl (And.intro rfl (And.intro rfl trivial))))
set_option maxHeartbeats 4000000 in
theorem met_X0_fits (l : Launch) (X : XX) (z : MS) (a1 : Int32) (r : Int32) (z9 : MS) (hf : fX0_fits (xp X) z a1 = some (r, z9)) : Met l yX0_fits (ws_ yX0_fits cX0_fits 3 (some .int)) ({ frames := 7, cells := 0, slots := 0, locals := 177 } : Room) (xw_Pc X z [.ref (xg X 0), .int a1]) (xw_Qc X z9 (some (.int r))) 0 0 (xw_A (xg X)) := by
  refine xw_of (RX := RX0) (lo := [some (.ref (xg X 0)), some (.int a1), none]) (by decide) rfl (Nat.le_of_ble_eq_true rfl) rfl (fun E C hr hlk hq => ?_)
  unfold fX0_fits at hf
  refine ga_aload_n 1 C.c 0 rfl rfl dX0_fits_0 rfl ?_
  refine ga_iload_n 2 C.c 1 rfl rfl dX0_fits_1 rfl ?_
  obtain ⟨v1, hc2, hf⟩ := pu_b1_w hf
  refine xa_callV 5 0 C (as := [.int a1]) (met_X0_whyNot (eL E) X _ _ _ hc2) rfl (T := TX0) rfl (lw_V q1368 q1370 qs38 q93 q1371) cd_X0_whyNot rfl (Nat.le_of_ble_eq_true rfl) (Nat.le_of_ble_eq_true rfl) (Nat.le_of_ble_eq_true rfl) dX0_fits_2 rfl ?_
  refine ga_istore_n 6 C.c 2 rfl (by decide) rfl dX0_fits_5 rfl ?_
  refine ga_iload_n 7 C.c 2 rfl rfl dX0_fits_6 rfl ?_
  refine ga_if_eq 14 10 C.c dX0_fits_7 (by decide) rfl (fun c => ?_) (fun c => ?_)
  · have hf := pu_pos c hf
    refine ga_aload_n 15 C.c 0 rfl rfl dX0_fits_14 rfl ?_
    refine xa_get 18 0 11 C rfl (T := TX0) rfl in_X0 (by decide) q567 rfl rfl dX0_fits_15 rfl ?_
    refine ga_aload_n 19 C.c 0 rfl rfl dX0_fits_18 rfl ?_
    refine xa_get 22 0 0 C rfl (T := TX0) rfl in_X0 (by decide) q552 rfl rfl dX0_fits_19 rfl ?_
    refine ga_iload_n 23 C.c 1 rfl rfl dX0_fits_22 rfl ?_
    obtain ⟨h3, hf⟩ := pu_g_w hf
    refine xa_slot 24 C h3 dX0_fits_23 rfl ?_
    obtain ⟨z4, hc5, hf⟩ := pu_b1_w hf
    refine xa_callV 27 9 C (as := [.ref ((xS X).1 a1.toNatClampNeg)]) (met_X5_of (eL E) X _ _ (vp_in_lt h3) _ hc5) rfl (T := TX5) rfl (lw_V q1380 q1381 q1382 q101 q1383) cd_X5_of rfl (Nat.le_of_ble_eq_true rfl) (Nat.le_of_ble_eq_true rfl) (Nat.le_of_ble_eq_true rfl) dX0_fits_24 rfl ?_
    refine xa_getN 30 9 1 C rfl (T := TX5) rfl in_X5 (by decide) q527 rfl rfl dX0_fits_27 rfl ?_
    have hf := Option.some.inj hf
    cases hf
    exact xw_iret C hr hlk hq rfl rfl rfl dX0_fits_30
  · have hf := pu_neg c hf
    refine ga_iload_n 11 C.c 2 rfl rfl dX0_fits_10 rfl ?_
    refine ga_goto 30 C.c dX0_fits_11 (by decide) ?_
    have hf := Option.some.inj hf
    cases hf
    exact xw_iret C hr hlk hq rfl rfl rfl dX0_fits_30
set_option maxHeartbeats 4000000 in
theorem met_X0_sources (l : Launch) (X : XX) (z : MS) (a1 : Int32) (r : Int32) (z9 : MS) (hf : fX0_sources (xp X) z a1 = some (r, z9)) : Met l yX0_sources (ws_ yX0_sources cX0_sources 3 (some .int)) ({ frames := 7, cells := 0, slots := 0, locals := 177 } : Room) (xw_Pc X z [.ref (xg X 0), .int a1]) (xw_Qc X z9 (some (.int r))) 0 0 (xw_A (xg X)) := by
  refine xw_of (RX := RX0) (lo := [some (.ref (xg X 0)), some (.int a1), none]) (by decide) rfl (Nat.le_of_ble_eq_true rfl) rfl (fun E C hr hlk hq => ?_)
  unfold fX0_sources at hf
  refine ga_aload_n 1 C.c 0 rfl rfl dX0_sources_0 rfl ?_
  refine ga_iload_n 2 C.c 1 rfl rfl dX0_sources_1 rfl ?_
  obtain ⟨v1, hc2, hf⟩ := pu_b1_w hf
  refine xa_callV 5 0 C (as := [.int a1]) (met_X0_whyNot (eL E) X _ _ _ hc2) rfl (T := TX0) rfl (lw_V q1368 q1370 qs38 q93 q1371) cd_X0_whyNot rfl (Nat.le_of_ble_eq_true rfl) (Nat.le_of_ble_eq_true rfl) (Nat.le_of_ble_eq_true rfl) dX0_sources_2 rfl ?_
  refine ga_istore_n 6 C.c 2 rfl (by decide) rfl dX0_sources_5 rfl ?_
  refine ga_iload_n 7 C.c 2 rfl rfl dX0_sources_6 rfl ?_
  refine ga_if_eq 14 10 C.c dX0_sources_7 (by decide) rfl (fun c => ?_) (fun c => ?_)
  · have hf := pu_pos c hf
    refine ga_aload_n 15 C.c 0 rfl rfl dX0_sources_14 rfl ?_
    refine xa_get 18 0 11 C rfl (T := TX0) rfl in_X0 (by decide) q567 rfl rfl dX0_sources_15 rfl ?_
    refine ga_aload_n 19 C.c 0 rfl rfl dX0_sources_18 rfl ?_
    refine xa_get 22 0 0 C rfl (T := TX0) rfl in_X0 (by decide) q552 rfl rfl dX0_sources_19 rfl ?_
    refine ga_iload_n 23 C.c 1 rfl rfl dX0_sources_22 rfl ?_
    obtain ⟨h3, hf⟩ := pu_g_w hf
    refine xa_slot 24 C h3 dX0_sources_23 rfl ?_
    obtain ⟨z4, hc5, hf⟩ := pu_b1_w hf
    refine xa_callV 27 9 C (as := [.ref ((xS X).1 a1.toNatClampNeg)]) (met_X5_of (eL E) X _ _ (vp_in_lt h3) _ hc5) rfl (T := TX5) rfl (lw_V q1380 q1381 q1382 q101 q1383) cd_X5_of rfl (Nat.le_of_ble_eq_true rfl) (Nat.le_of_ble_eq_true rfl) (Nat.le_of_ble_eq_true rfl) dX0_sources_24 rfl ?_
    refine xa_getN 30 9 2 C rfl (T := TX5) rfl in_X5 (by decide) q529 rfl rfl dX0_sources_27 rfl ?_
    have hf := Option.some.inj hf
    cases hf
    exact xw_iret C hr hlk hq rfl rfl rfl dX0_sources_30
  · have hf := pu_neg c hf
    refine ga_iload_n 11 C.c 2 rfl rfl dX0_sources_10 rfl ?_
    refine ga_goto 30 C.c dX0_sources_11 (by decide) ?_
    have hf := Option.some.inj hf
    cases hf
    exact xw_iret C hr hlk hq rfl rfl rfl dX0_sources_30
set_option maxHeartbeats 4000000 in
theorem met_X0_source (l : Launch) (X : XX) (z : MS) (a1 : Int32) (r : Int32) (z9 : MS) (hf : fX0_source (xp X) z a1 = some (r, z9)) : Met l yX0_source (ws_ yX0_source cX0_source 3 (some .int)) ({ frames := 7, cells := 0, slots := 0, locals := 177 } : Room) (xw_Pc X z [.ref (xg X 0), .int a1]) (xw_Qc X z9 (some (.int r))) 0 0 (xw_A (xg X)) := by
  refine xw_of (RX := RX0) (lo := [some (.ref (xg X 0)), some (.int a1), none]) (by decide) rfl (Nat.le_of_ble_eq_true rfl) rfl (fun E C hr hlk hq => ?_)
  unfold fX0_source at hf
  refine ga_aload_n 1 C.c 0 rfl rfl dX0_source_0 rfl ?_
  refine ga_iload_n 2 C.c 1 rfl rfl dX0_source_1 rfl ?_
  obtain ⟨v1, hc2, hf⟩ := pu_b1_w hf
  refine xa_callV 5 0 C (as := [.int a1]) (met_X0_whyNot (eL E) X _ _ _ hc2) rfl (T := TX0) rfl (lw_V q1368 q1370 qs38 q93 q1371) cd_X0_whyNot rfl (Nat.le_of_ble_eq_true rfl) (Nat.le_of_ble_eq_true rfl) (Nat.le_of_ble_eq_true rfl) dX0_source_2 rfl ?_
  refine ga_istore_n 6 C.c 2 rfl (by decide) rfl dX0_source_5 rfl ?_
  refine ga_iload_n 7 C.c 2 rfl rfl dX0_source_6 rfl ?_
  refine ga_if_eq 14 10 C.c dX0_source_7 (by decide) rfl (fun c => ?_) (fun c => ?_)
  · have hf := pu_pos c hf
    refine ga_aload_n 15 C.c 0 rfl rfl dX0_source_14 rfl ?_
    refine xa_get 18 0 11 C rfl (T := TX0) rfl in_X0 (by decide) q567 rfl rfl dX0_source_15 rfl ?_
    refine ga_aload_n 19 C.c 0 rfl rfl dX0_source_18 rfl ?_
    refine xa_get 22 0 0 C rfl (T := TX0) rfl in_X0 (by decide) q552 rfl rfl dX0_source_19 rfl ?_
    refine ga_iload_n 23 C.c 1 rfl rfl dX0_source_22 rfl ?_
    obtain ⟨h3, hf⟩ := pu_g_w hf
    refine xa_slot 24 C h3 dX0_source_23 rfl ?_
    obtain ⟨z4, hc5, hf⟩ := pu_b1_w hf
    refine xa_callV 27 9 C (as := [.ref ((xS X).1 a1.toNatClampNeg)]) (met_X5_of (eL E) X _ _ (vp_in_lt h3) _ hc5) rfl (T := TX5) rfl (lw_V q1380 q1381 q1382 q101 q1383) cd_X5_of rfl (Nat.le_of_ble_eq_true rfl) (Nat.le_of_ble_eq_true rfl) (Nat.le_of_ble_eq_true rfl) dX0_source_24 rfl ?_
    refine xa_getN 30 9 3 C rfl (T := TX5) rfl in_X5 (by decide) q531 rfl rfl dX0_source_27 rfl ?_
    have hf := Option.some.inj hf
    cases hf
    exact xw_iret C hr hlk hq rfl rfl rfl dX0_source_30
  · have hf := pu_neg c hf
    refine ga_iload_n 11 C.c 2 rfl rfl dX0_source_10 rfl ?_
    refine ga_goto 30 C.c dX0_source_11 (by decide) ?_
    have hf := Option.some.inj hf
    cases hf
    exact xw_iret C hr hlk hq rfl rfl rfl dX0_source_30
set_option maxHeartbeats 4000000 in
theorem met_X0_ask (l : Launch) (X : XX) (z : MS) (a1 : Int32) (r : Int32) (z9 : MS) (hf : fX0_ask (xp X) z a1 = some (r, z9)) : Met l yX0_ask (ws_ yX0_ask cX0_ask 3 (some .int)) ({ frames := 7, cells := 0, slots := 0, locals := 177 } : Room) (xw_Pc X z [.ref (xg X 0), .int a1]) (xw_Qc X z9 (some (.int r))) 0 0 (xw_A (xg X)) := by
  refine xw_of (RX := RX0) (lo := [some (.ref (xg X 0)), some (.int a1), none]) (by decide) rfl (Nat.le_of_ble_eq_true rfl) rfl (fun E C hr hlk hq => ?_)
  unfold fX0_ask at hf
  refine ga_aload_n 1 C.c 0 rfl rfl dX0_ask_0 rfl ?_
  refine ga_iload_n 2 C.c 1 rfl rfl dX0_ask_1 rfl ?_
  obtain ⟨v1, hc2, hf⟩ := pu_b1_w hf
  refine xa_callV 5 0 C (as := [.int a1]) (met_X0_whyNot (eL E) X _ _ _ hc2) rfl (T := TX0) rfl (lw_V q1368 q1370 qs38 q93 q1371) cd_X0_whyNot rfl (Nat.le_of_ble_eq_true rfl) (Nat.le_of_ble_eq_true rfl) (Nat.le_of_ble_eq_true rfl) dX0_ask_2 rfl ?_
  refine ga_istore_n 6 C.c 2 rfl (by decide) rfl dX0_ask_5 rfl ?_
  refine ga_iload_n 7 C.c 2 rfl rfl dX0_ask_6 rfl ?_
  refine ga_if_eq 14 10 C.c dX0_ask_7 (by decide) rfl (fun c => ?_) (fun c => ?_)
  · have hf := pu_pos c hf
    refine ga_aload_n 15 C.c 0 rfl rfl dX0_ask_14 rfl ?_
    refine xa_get 18 0 11 C rfl (T := TX0) rfl in_X0 (by decide) q567 rfl rfl dX0_ask_15 rfl ?_
    refine ga_aload_n 19 C.c 0 rfl rfl dX0_ask_18 rfl ?_
    refine xa_get 22 0 0 C rfl (T := TX0) rfl in_X0 (by decide) q552 rfl rfl dX0_ask_19 rfl ?_
    refine ga_iload_n 23 C.c 1 rfl rfl dX0_ask_22 rfl ?_
    obtain ⟨h3, hf⟩ := pu_g_w hf
    refine xa_slot 24 C h3 dX0_ask_23 rfl ?_
    obtain ⟨z4, hc5, hf⟩ := pu_b1_w hf
    refine xa_callV 27 9 C (as := [.ref ((xS X).1 a1.toNatClampNeg)]) (met_X5_of (eL E) X _ _ (vp_in_lt h3) _ hc5) rfl (T := TX5) rfl (lw_V q1380 q1381 q1382 q101 q1383) cd_X5_of rfl (Nat.le_of_ble_eq_true rfl) (Nat.le_of_ble_eq_true rfl) (Nat.le_of_ble_eq_true rfl) dX0_ask_24 rfl ?_
    refine xa_getN 30 9 4 C rfl (T := TX5) rfl in_X5 (by decide) q533 rfl rfl dX0_ask_27 rfl ?_
    have hf := Option.some.inj hf
    cases hf
    exact xw_iret C hr hlk hq rfl rfl rfl dX0_ask_30
  · have hf := pu_neg c hf
    refine ga_iload_n 11 C.c 2 rfl rfl dX0_ask_10 rfl ?_
    refine ga_goto 30 C.c dX0_ask_11 (by decide) ?_
    have hf := Option.some.inj hf
    cases hf
    exact xw_iret C hr hlk hq rfl rfl rfl dX0_ask_30
set_option maxHeartbeats 4000000 in
theorem met_X0_doubts (l : Launch) (X : XX) (z : MS) (a1 : Int32) (r : Int32) (z9 : MS) (hf : fX0_doubts (xp X) z a1 = some (r, z9)) : Met l yX0_doubts (ws_ yX0_doubts cX0_doubts 3 (some .int)) ({ frames := 7, cells := 0, slots := 0, locals := 177 } : Room) (xw_Pc X z [.ref (xg X 0), .int a1]) (xw_Qc X z9 (some (.int r))) 0 0 (xw_A (xg X)) := by
  refine xw_of (RX := RX0) (lo := [some (.ref (xg X 0)), some (.int a1), none]) (by decide) rfl (Nat.le_of_ble_eq_true rfl) rfl (fun E C hr hlk hq => ?_)
  unfold fX0_doubts at hf
  refine ga_aload_n 1 C.c 0 rfl rfl dX0_doubts_0 rfl ?_
  refine ga_iload_n 2 C.c 1 rfl rfl dX0_doubts_1 rfl ?_
  obtain ⟨v1, hc2, hf⟩ := pu_b1_w hf
  refine xa_callV 5 0 C (as := [.int a1]) (met_X0_whyNot (eL E) X _ _ _ hc2) rfl (T := TX0) rfl (lw_V q1368 q1370 qs38 q93 q1371) cd_X0_whyNot rfl (Nat.le_of_ble_eq_true rfl) (Nat.le_of_ble_eq_true rfl) (Nat.le_of_ble_eq_true rfl) dX0_doubts_2 rfl ?_
  refine ga_istore_n 6 C.c 2 rfl (by decide) rfl dX0_doubts_5 rfl ?_
  refine ga_iload_n 7 C.c 2 rfl rfl dX0_doubts_6 rfl ?_
  refine ga_if_eq 14 10 C.c dX0_doubts_7 (by decide) rfl (fun c => ?_) (fun c => ?_)
  · have hf := pu_pos c hf
    refine ga_aload_n 15 C.c 0 rfl rfl dX0_doubts_14 rfl ?_
    refine xa_get 18 0 11 C rfl (T := TX0) rfl in_X0 (by decide) q567 rfl rfl dX0_doubts_15 rfl ?_
    refine ga_aload_n 19 C.c 0 rfl rfl dX0_doubts_18 rfl ?_
    refine xa_get 22 0 0 C rfl (T := TX0) rfl in_X0 (by decide) q552 rfl rfl dX0_doubts_19 rfl ?_
    refine ga_iload_n 23 C.c 1 rfl rfl dX0_doubts_22 rfl ?_
    obtain ⟨h3, hf⟩ := pu_g_w hf
    refine xa_slot 24 C h3 dX0_doubts_23 rfl ?_
    obtain ⟨z4, hc5, hf⟩ := pu_b1_w hf
    refine xa_callV 27 9 C (as := [.ref ((xS X).1 a1.toNatClampNeg)]) (met_X5_of (eL E) X _ _ (vp_in_lt h3) _ hc5) rfl (T := TX5) rfl (lw_V q1380 q1381 q1382 q101 q1383) cd_X5_of rfl (Nat.le_of_ble_eq_true rfl) (Nat.le_of_ble_eq_true rfl) (Nat.le_of_ble_eq_true rfl) dX0_doubts_24 rfl ?_
    refine xa_getN 30 9 5 C rfl (T := TX5) rfl in_X5 (by decide) q535 rfl rfl dX0_doubts_27 rfl ?_
    have hf := Option.some.inj hf
    cases hf
    exact xw_iret C hr hlk hq rfl rfl rfl dX0_doubts_30
  · have hf := pu_neg c hf
    refine ga_iload_n 11 C.c 2 rfl rfl dX0_doubts_10 rfl ?_
    refine ga_goto 30 C.c dX0_doubts_11 (by decide) ?_
    have hf := Option.some.inj hf
    cases hf
    exact xw_iret C hr hlk hq rfl rfl rfl dX0_doubts_30
set_option maxHeartbeats 4000000 in
theorem met_X0_turnsOf (l : Launch) (X : XX) (z : MS) (a1 : Nat) (a2 : Int32) (a3 : Int32) (ha1 : a1 < 4) (r : Int32) (z9 : MS) (hf : fX0_turnsOf (xp X) z a1 a2 a3 = some (r, z9)) : Met l yX0_turnsOf (ws_ yX0_turnsOf cX0_turnsOf 5 (some .int)) ({ frames := 6, cells := 0, slots := 0, locals := 154 } : Room) (xw_Pc X z [.ref (xg X 0), .ref ((xS X).1 a1), .int a2, .int a3]) (xw_Qc X z9 (some (.int r))) 0 0 (xw_A (xg X)) := by
  refine xw_of (RX := RX0) (lo := [some (.ref (xg X 0)), some (.ref ((xS X).1 a1)), some (.int a2), some (.int a3), none]) (by decide) rfl (Nat.le_of_ble_eq_true rfl) rfl (fun E C hr hlk hq => ?_)
  unfold fX0_turnsOf at hf
  refine ga_aload_n 1 C.c 0 rfl rfl dX0_turnsOf_0 rfl ?_
  refine xa_get 4 0 7 C rfl (T := TX0) rfl in_X0 (by decide) q562 rfl rfl dX0_turnsOf_1 rfl ?_
  obtain ⟨z1, hc2, hf⟩ := pu_b1_w hf
  refine xa_callV 7 2 C (as := []) (met_X3_is (eL E) X _ _ hc2) rfl (T := TX3) rfl (lw_V q1059 q1060 q1061 q99 q1062) cd_X3_is rfl (Nat.le_of_ble_eq_true rfl) (Nat.le_of_ble_eq_true rfl) (Nat.le_of_ble_eq_true rfl) dX0_turnsOf_4 rfl ?_
  refine ga_pop 8 C.c rfl dX0_turnsOf_7 rfl ?_
  refine ga_aload_n 9 C.c 0 rfl rfl dX0_turnsOf_8 rfl ?_
  refine xa_get 12 0 7 C rfl (T := TX0) rfl in_X0 (by decide) q562 rfl rfl dX0_turnsOf_9 rfl ?_
  refine ga_iload_n 13 C.c 2 rfl rfl dX0_turnsOf_12 rfl ?_
  refine xa_putN 16 2 4 C (ty := tyX3) tyX3_ok nmX3 rfl (xa_set7 _) rfl in_X3 (by decide) q451 rfl rfl rfl (Nat.le_of_ble_eq_true rfl) dX0_turnsOf_13 rfl ?_
  refine ga_iconst 17 C.c (v := 0) (by decide) dX0_turnsOf_16 rfl ?_
  refine ga_istore 19 C.c 4 (by decide) rfl dX0_turnsOf_17 rfl ?_
  refine ga_aload_n 20 C.c 0 rfl rfl dX0_turnsOf_19 rfl ?_
  refine ga_iconst 21 C.c (v := (-1)) (by decide) dX0_turnsOf_20 rfl ?_
  refine xa_put 24 0 12 C (ty := tyX0) tyX0_ok nmX0 rfl (xa_set4 _) rfl in_X0 (by decide) q568 rfl rfl rfl (Nat.le_of_ble_eq_true rfl) dX0_turnsOf_21 rfl ?_
  refine ga_aload_n 25 C.c 0 rfl rfl dX0_turnsOf_24 rfl ?_
  refine xa_get 28 0 7 C rfl (T := TX0) rfl in_X0 (by decide) q562 rfl rfl dX0_turnsOf_25 rfl ?_
  refine ga_iconst 29 C.c (v := 1) (by decide) dX0_turnsOf_28 rfl ?_
  refine xa_putN 32 2 5 C (ty := tyX3) tyX3_ok nmX3 rfl (xa_set8 _) rfl in_X3 (by decide) q453 rfl rfl rfl (Nat.le_of_ble_eq_true rfl) dX0_turnsOf_29 rfl ?_
  obtain ⟨v41, z42, hi15, hf⟩ := pu_b2_w hf
  refine ga_cut 159 (I2 := xw_I E X z42) (k2 := 0) (n2 := 0) (lo2 := [none, none, none, none, some (.int v41)]) (st2 := []) ?_ (fun hj14 => ?_)
  · refine ga_iload 161 C.c rfl dX0_turnsOf_159 rfl ?_
    have hf := Option.some.inj hf
    cases hf
    exact xw_iret C hr hlk hq rfl rfl rfl dX0_turnsOf_161
  · refine ga_W.sub (pu_it_w (Wd := fun (q : Int32 × MS) => ga_W E 5 (xw_I E X q.2) 0 0 32 [some (.ref (xg X 0)), some (.ref ((xS X).1 a1)), none, some (.int a3), some (.int q.1)] []) (Wx := fun e => e = (v41, z42)) (fun q x hf kc10 kx11 => ?_) hi15 rfl) (And.intro rfl (And.intro rfl (And.intro rfl (And.intro rfl trivial))))
    obtain ⟨v8, z9⟩ := q
    try dsimp only
    unfold fX0_turnsOf_L32 at hf
    refine ga_aload_n 33 C.c 0 rfl rfl dX0_turnsOf_32 rfl ?_
    refine xa_get 36 0 7 C rfl (T := TX0) rfl in_X0 (by decide) q562 rfl rfl dX0_turnsOf_33 rfl ?_
    refine xa_getN 39 2 5 C rfl (T := TX3) rfl in_X3 (by decide) q453 rfl rfl dX0_turnsOf_36 rfl ?_
    refine ga_bipush 41 C.c (v := 9) (by decide) dX0_turnsOf_39 rfl ?_
    refine ga_icmp_gt 159 44 C.c dX0_turnsOf_41 (by decide) rfl (fun c => ?_) (fun c => ?_)
    · have hf := pu_pos c hf
      cases (kx11 _ (Option.some.inj hf).symm)
      exact ga_W.sub hj14 (And.intro rfl trivial)
    · have hf := pu_neg c hf
      refine ga_aload_n 45 C.c 0 rfl rfl dX0_turnsOf_44 rfl ?_
      refine xa_get 48 0 7 C rfl (T := TX0) rfl in_X0 (by decide) q562 rfl rfl dX0_turnsOf_45 rfl ?_
      refine ga_iconst 49 C.c (v := 0) (by decide) dX0_turnsOf_48 rfl ?_
      refine xa_putN 52 2 6 C (ty := tyX3) tyX3_ok nmX3 rfl (xa_set9 _) rfl in_X3 (by decide) q455 rfl rfl rfl (Nat.le_of_ble_eq_true rfl) dX0_turnsOf_49 rfl ?_
      obtain ⟨v38, z39, hi26, hf⟩ := pu_b2_w hf
      refine ga_cut 143 (I2 := xw_I E X z39) (k2 := 0) (n2 := 0) (lo2 := [some (.ref (xg X 0)), some (.ref ((xS X).1 a1)), none, some (.int a3), some (.int v38)]) (st2 := []) ?_ (fun hj25 => ?_)
      · refine ga_aload_n 144 C.c 0 rfl rfl dX0_turnsOf_143 rfl ?_
        refine xa_get 147 0 7 C rfl (T := TX0) rfl in_X0 (by decide) q562 rfl rfl dX0_turnsOf_144 rfl ?_
        refine ga_dup 148 C.c rfl dX0_turnsOf_147 rfl ?_
        refine xa_getN 151 2 5 C rfl (T := TX3) rfl in_X3 (by decide) q453 rfl rfl dX0_turnsOf_148 rfl ?_
        refine ga_iconst 152 C.c (v := 1) (by decide) dX0_turnsOf_151 rfl ?_
        refine ga_iadd 153 C.c dX0_turnsOf_152 rfl ?_
        refine xa_putN 156 2 5 C (ty := tyX3) tyX3_ok nmX3 rfl (xa_set8 _) rfl in_X3 (by decide) q453 rfl rfl rfl (Nat.le_of_ble_eq_true rfl) dX0_turnsOf_153 rfl ?_
        refine ga_goto 32 C.c dX0_turnsOf_156 (by decide) ?_
        exact ga_W.sub (kc10 _ (Option.some.inj hf).symm) (And.intro rfl (And.intro rfl (And.intro rfl (And.intro rfl trivial))))
      · refine ga_W.sub (pu_it_w (Wd := fun (q : Int32 × MS) => ga_W E 5 (xw_I E X q.2) 0 0 52 [some (.ref (xg X 0)), some (.ref ((xS X).1 a1)), none, some (.int a3), some (.int q.1)] []) (Wx := fun e => e = (v38, z39)) (fun q x hf kc21 kx22 => ?_) hi26 rfl) (And.intro rfl (And.intro rfl (And.intro rfl (And.intro rfl trivial))))
        obtain ⟨v19, z20⟩ := q
        try dsimp only
        unfold fX0_turnsOf_L52 at hf
        refine ga_aload_n 53 C.c 0 rfl rfl dX0_turnsOf_52 rfl ?_
        refine xa_get 56 0 7 C rfl (T := TX0) rfl in_X0 (by decide) q562 rfl rfl dX0_turnsOf_53 rfl ?_
        refine xa_getN 59 2 6 C rfl (T := TX3) rfl in_X3 (by decide) q455 rfl rfl dX0_turnsOf_56 rfl ?_
        refine ga_aload_n 60 C.c 0 rfl rfl dX0_turnsOf_59 rfl ?_
        refine xa_get 63 0 7 C rfl (T := TX0) rfl in_X0 (by decide) q562 rfl rfl dX0_turnsOf_60 rfl ?_
        refine xa_getN 66 2 5 C rfl (T := TX3) rfl in_X3 (by decide) q453 rfl rfl dX0_turnsOf_63 rfl ?_
        refine ga_icmp_ge 143 69 C.c dX0_turnsOf_66 (by decide) rfl (fun c => ?_) (fun c => ?_)
        · have hf := pu_pos c hf
          cases (kx22 _ (Option.some.inj hf).symm)
          exact ga_W.sub hj25 (And.intro rfl (And.intro rfl (And.intro rfl (And.intro rfl trivial))))
        · have hf := pu_neg c hf
          refine ga_aload_n 70 C.c 0 rfl rfl dX0_turnsOf_69 rfl ?_
          refine xa_get 73 0 8 C rfl (T := TX0) rfl in_X0 (by decide) q564 rfl rfl dX0_turnsOf_70 rfl ?_
          refine ga_iload_n 74 C.c 3 rfl rfl dX0_turnsOf_73 rfl ?_
          refine ga_iconst 75 C.c (v := 0) (by decide) dX0_turnsOf_74 rfl ?_
          obtain ⟨z27, hc28, hf⟩ := pu_b1_w hf
          refine xa_callV 78 5 C (as := [.int a3, .int 0]) (met_X4_goes_s (eL E) X _ _ _ _ hc28) rfl (T := TX4) rfl (lw_V q1098 q1099 q1100 q100 q1101) cd_X4_goes_s rfl (Nat.le_of_ble_eq_true rfl) (Nat.le_of_ble_eq_true rfl) (Nat.le_of_ble_eq_true rfl) dX0_turnsOf_75 rfl ?_
          refine ga_pop 79 C.c rfl dX0_turnsOf_78 rfl ?_
          refine ga_aload_n 80 C.c 0 rfl rfl dX0_turnsOf_79 rfl ?_
          refine ga_aload_n 81 C.c 1 rfl rfl dX0_turnsOf_80 rfl ?_
          obtain ⟨v29, hc30, hf⟩ := pu_b1_w hf
          refine xa_callV 84 0 C (as := [.ref ((xS X).1 a1)]) (met_X0_isSeen (eL E) X _ _ ha1 _ hc30) rfl (T := TX0) rfl (lw_V q1429 q1390 qs39 q93 q1391) cd_X0_isSeen rfl (Nat.le_of_ble_eq_true rfl) (Nat.le_of_ble_eq_true rfl) (Nat.le_of_ble_eq_true rfl) dX0_turnsOf_81 rfl ?_
          obtain ⟨v31, z32, hg33, hf⟩ := pu_l2_w hf
          refine ga_cut 127 (I2 := xw_I E X z32) (k2 := 0) (n2 := 0) (lo2 := [some (.ref (xg X 0)), some (.ref ((xS X).1 a1)), none, some (.int a3), some (.int v31)]) (st2 := []) ?_ (fun hj34 => ?_)
          · refine ga_aload_n 128 C.c 0 rfl rfl dX0_turnsOf_127 rfl ?_
            refine xa_get 131 0 7 C rfl (T := TX0) rfl in_X0 (by decide) q562 rfl rfl dX0_turnsOf_128 rfl ?_
            refine ga_dup 132 C.c rfl dX0_turnsOf_131 rfl ?_
            refine xa_getN 135 2 6 C rfl (T := TX3) rfl in_X3 (by decide) q455 rfl rfl dX0_turnsOf_132 rfl ?_
            refine ga_iconst 136 C.c (v := 1) (by decide) dX0_turnsOf_135 rfl ?_
            refine ga_iadd 137 C.c dX0_turnsOf_136 rfl ?_
            refine xa_putN 140 2 6 C (ty := tyX3) tyX3_ok nmX3 rfl (xa_set9 _) rfl in_X3 (by decide) q455 rfl rfl rfl (Nat.le_of_ble_eq_true rfl) dX0_turnsOf_137 rfl ?_
            refine ga_goto 52 C.c dX0_turnsOf_140 (by decide) ?_
            exact ga_W.sub (kc21 _ (Option.some.inj hf).symm) (And.intro rfl (And.intro rfl (And.intro rfl (And.intro rfl trivial))))
          · have hf := hg33
            refine ga_if_ne 90 87 C.c dX0_turnsOf_84 (by decide) rfl (fun c => ?_) (fun c => ?_)
            · have hf := pu_neg c hf
              refine ga_aload_n 91 C.c 0 rfl rfl dX0_turnsOf_90 rfl ?_
              refine ga_iload 93 C.c rfl dX0_turnsOf_91 rfl ?_
              refine ga_if_ne 117 96 C.c dX0_turnsOf_93 (by decide) rfl (fun c => ?_) (fun c => ?_)
              · have hf := pu_neg c hf
                refine ga_aload_n 118 C.c 0 rfl rfl dX0_turnsOf_117 rfl ?_
                refine xa_get 121 0 12 C rfl (T := TX0) rfl in_X0 (by decide) q568 rfl rfl dX0_turnsOf_118 rfl ?_
                refine xa_put 124 0 12 C (ty := tyX0) tyX0_ok nmX0 rfl (xa_set4 _) rfl in_X0 (by decide) q568 rfl rfl rfl (Nat.le_of_ble_eq_true rfl) dX0_turnsOf_121 rfl ?_
                refine ga_iinc 127 C.c (v := v19 + 1) rfl rfl (by decide) rfl dX0_turnsOf_124 rfl ?_
                cases hf
                exact ga_W.sub hj34 (And.intro rfl (And.intro rfl (And.intro rfl (And.intro rfl trivial))))
              · have hf := pu_pos c hf
                refine ga_bipush 98 C.c (v := 10) (by decide) dX0_turnsOf_96 rfl ?_
                refine ga_aload_n 99 C.c 0 rfl rfl dX0_turnsOf_98 rfl ?_
                refine xa_get 102 0 7 C rfl (T := TX0) rfl in_X0 (by decide) q562 rfl rfl dX0_turnsOf_99 rfl ?_
                refine xa_getN 105 2 5 C rfl (T := TX3) rfl in_X3 (by decide) q453 rfl rfl dX0_turnsOf_102 rfl ?_
                refine ga_imul 106 C.c dX0_turnsOf_105 rfl ?_
                refine ga_aload_n 107 C.c 0 rfl rfl dX0_turnsOf_106 rfl ?_
                refine xa_get 110 0 7 C rfl (T := TX0) rfl in_X0 (by decide) q562 rfl rfl dX0_turnsOf_107 rfl ?_
                refine xa_getN 113 2 6 C rfl (T := TX3) rfl in_X3 (by decide) q455 rfl rfl dX0_turnsOf_110 rfl ?_
                refine ga_iadd 114 C.c dX0_turnsOf_113 rfl ?_
                refine ga_goto 121 C.c dX0_turnsOf_114 (by decide) ?_
                refine xa_put 124 0 12 C (ty := tyX0) tyX0_ok nmX0 rfl (xa_set4 _) rfl in_X0 (by decide) q568 rfl rfl rfl (Nat.le_of_ble_eq_true rfl) dX0_turnsOf_121 rfl ?_
                refine ga_iinc 127 C.c (v := v19 + 1) rfl rfl (by decide) rfl dX0_turnsOf_124 rfl ?_
                cases hf
                exact ga_W.sub hj34 (And.intro rfl (And.intro rfl (And.intro rfl (And.intro rfl trivial))))
            · have hf := pu_pos c hf
              refine ga_goto 127 C.c dX0_turnsOf_87 (by decide) ?_
              cases hf
              exact ga_W.sub hj34 (And.intro rfl (And.intro rfl (And.intro rfl (And.intro rfl trivial))))
set_option maxHeartbeats 4000000 in
theorem met_X0_whyNotTurn (l : Launch) (X : XX) (z : MS) (a1 : Int32) (a2 : Int32) (a3 : Int32) (r : Int32) (hf : fX0_whyNotTurn (xp X) z a1 a2 a3 = some r) : Met l yX0_whyNotTurn (ws_ yX0_whyNotTurn cX0_whyNotTurn 4 (some .int)) ({ frames := 6, cells := 0, slots := 0, locals := 146 } : Room) (xw_Pc X z [.ref (xg X 0), .int a1, .int a2, .int a3]) (xw_Qc X z (some (.int r))) 0 0 (xw_A (xg X)) := by
  refine xw_of (RX := RX0) (lo := [some (.ref (xg X 0)), some (.int a1), some (.int a2), some (.int a3)]) (by decide) rfl (Nat.le_of_ble_eq_true rfl) rfl (fun E C hr hlk hq => ?_)
  unfold fX0_whyNotTurn at hf
  refine ga_aload_n 1 C.c 0 rfl rfl dX0_whyNotTurn_0 rfl ?_
  refine ga_iload_n 2 C.c 2 rfl rfl dX0_whyNotTurn_1 rfl ?_
  refine xa_callV 5 0 C (as := [.int a2]) (met_X0_isJoin (eL E) X _ _) rfl (T := TX0) rfl (lw_V q1046 q1048 qs25 q93 q1049) cd_X0_isJoin rfl (Nat.le_of_ble_eq_true rfl) (Nat.le_of_ble_eq_true rfl) (Nat.le_of_ble_eq_true rfl) dX0_whyNotTurn_2 rfl ?_
  refine ga_if_eq 25 8 C.c dX0_whyNotTurn_5 (by decide) rfl (fun c => ?_) (fun c => ?_)
  · have hf := pu_pos c hf
    refine ga_bipush 27 C.c (v := (-2)) (by decide) dX0_whyNotTurn_25 rfl ?_
    have hf := Option.some.inj hf
    cases hf
    exact xw_iret C hr hlk hq rfl rfl rfl dX0_whyNotTurn_27
  · have hf := pu_neg c hf
    refine ga_aload_n 9 C.c 0 rfl rfl dX0_whyNotTurn_8 rfl ?_
    refine ga_iload_n 10 C.c 3 rfl rfl dX0_whyNotTurn_9 rfl ?_
    refine ga_i2l 11 C.c dX0_whyNotTurn_10 rfl ?_
    refine xa_callV 14 0 C (as := [.long a3.toInt64]) (met_X0_isReach (eL E) X _ _) rfl (T := TX0) rfl (lw_V q1009 q1011 qs22 q93 q1012) cd_X0_isReach rfl (Nat.le_of_ble_eq_true rfl) (Nat.le_of_ble_eq_true rfl) (Nat.le_of_ble_eq_true rfl) dX0_whyNotTurn_11 rfl ?_
    refine ga_if_eq 25 17 C.c dX0_whyNotTurn_14 (by decide) rfl (fun c => ?_) (fun c => ?_)
    · have hf := pu_pos c hf
      refine ga_bipush 27 C.c (v := (-2)) (by decide) dX0_whyNotTurn_25 rfl ?_
      have hf := Option.some.inj hf
      cases hf
      exact xw_iret C hr hlk hq rfl rfl rfl dX0_whyNotTurn_27
    · have hf := pu_neg c hf
      refine ga_aload_n 18 C.c 0 rfl rfl dX0_whyNotTurn_17 rfl ?_
      refine ga_iload_n 19 C.c 1 rfl rfl dX0_whyNotTurn_18 rfl ?_
      obtain ⟨v1, hc2, hf⟩ := pu_b1_w hf
      refine xa_callV 22 0 C (as := [.int a1]) (met_X0_whyNot (eL E) X _ _ _ hc2) rfl (T := TX0) rfl (lw_V q1368 q1370 qs38 q93 q1371) cd_X0_whyNot rfl (Nat.le_of_ble_eq_true rfl) (Nat.le_of_ble_eq_true rfl) (Nat.le_of_ble_eq_true rfl) dX0_whyNotTurn_19 rfl ?_
      refine ga_goto 27 C.c dX0_whyNotTurn_22 (by decide) ?_
      have hf := Option.some.inj hf
      cases hf
      exact xw_iret C hr hlk hq rfl rfl rfl dX0_whyNotTurn_27
set_option maxHeartbeats 4000000 in
theorem met_X0_turn (l : Launch) (X : XX) (z : MS) (a1 : Int32) (a2 : Int32) (a3 : Int32) (r : Int32) (z9 : MS) (hf : fX0_turn (xp X) z a1 a2 a3 = some (r, z9)) : Met l yX0_turn (ws_ yX0_turn cX0_turn 5 (some .int)) ({ frames := 7, cells := 0, slots := 0, locals := 178 } : Room) (xw_Pc X z [.ref (xg X 0), .int a1, .int a2, .int a3]) (xw_Qc X z9 (some (.int r))) 0 0 (xw_A (xg X)) := by
  refine xw_of (RX := RX0) (lo := [some (.ref (xg X 0)), some (.int a1), some (.int a2), some (.int a3), none]) (by decide) rfl (Nat.le_of_ble_eq_true rfl) rfl (fun E C hr hlk hq => ?_)
  unfold fX0_turn at hf
  refine ga_aload_n 1 C.c 0 rfl rfl dX0_turn_0 rfl ?_
  refine ga_iload_n 2 C.c 1 rfl rfl dX0_turn_1 rfl ?_
  refine ga_iload_n 3 C.c 2 rfl rfl dX0_turn_2 rfl ?_
  refine ga_iload_n 4 C.c 3 rfl rfl dX0_turn_3 rfl ?_
  obtain ⟨v1, hc2, hf⟩ := pu_b1_w hf
  refine xa_callV 7 0 C (as := [.int a1, .int a2, .int a3]) (met_X0_whyNotTurn (eL E) X _ _ _ _ _ hc2) rfl (T := TX0) rfl (lw_V q1421 q1423 qs42 q93 q1424) cd_X0_whyNotTurn rfl (Nat.le_of_ble_eq_true rfl) (Nat.le_of_ble_eq_true rfl) (Nat.le_of_ble_eq_true rfl) dX0_turn_4 rfl ?_
  refine ga_istore 9 C.c 4 (by decide) rfl dX0_turn_7 rfl ?_
  refine ga_iload 11 C.c rfl dX0_turn_9 rfl ?_
  refine ga_if_eq 19 14 C.c dX0_turn_11 (by decide) rfl (fun c => ?_) (fun c => ?_)
  · have hf := pu_pos c hf
    refine ga_aload_n 20 C.c 0 rfl rfl dX0_turn_19 rfl ?_
    refine ga_aload_n 21 C.c 0 rfl rfl dX0_turn_20 rfl ?_
    refine xa_get 24 0 0 C rfl (T := TX0) rfl in_X0 (by decide) q552 rfl rfl dX0_turn_21 rfl ?_
    refine ga_iload_n 25 C.c 1 rfl rfl dX0_turn_24 rfl ?_
    obtain ⟨h3, hf⟩ := pu_g_w hf
    refine xa_slot 26 C h3 dX0_turn_25 rfl ?_
    refine ga_iload_n 27 C.c 2 rfl rfl dX0_turn_26 rfl ?_
    refine ga_iload_n 28 C.c 3 rfl rfl dX0_turn_27 rfl ?_
    obtain ⟨v4, z5, hc6, hf⟩ := pu_b2_w hf
    refine xa_callV 31 0 C (as := [.ref ((xS X).1 a1.toNatClampNeg), .int a2, .int a3]) (met_X0_turnsOf (eL E) X _ _ _ _ (vp_in_lt h3) _ _ hc6) rfl (T := TX0) rfl (lw_V q1425 q1427 qs43 q93 q1428) cd_X0_turnsOf rfl (Nat.le_of_ble_eq_true rfl) (Nat.le_of_ble_eq_true rfl) (Nat.le_of_ble_eq_true rfl) dX0_turn_28 rfl ?_
    have hf := Option.some.inj hf
    cases hf
    exact xw_iret C hr hlk hq rfl rfl rfl dX0_turn_31
  · have hf := pu_neg c hf
    refine ga_iload 16 C.c rfl dX0_turn_14 rfl ?_
    refine ga_goto 31 C.c dX0_turn_16 (by decide) ?_
    have hf := Option.some.inj hf
    cases hf
    exact xw_iret C hr hlk hq rfl rfl rfl dX0_turn_31
set_option maxHeartbeats 4000000 in
theorem met_X0_turned (l : Launch) (X : XX) (z : MS) (a1 : Int32) (a2 : Int32) (a3 : Int32) (r : Int32) (z9 : MS) (hf : fX0_turned (xp X) z a1 a2 a3 = some (r, z9)) : Met l yX0_turned (ws_ yX0_turned cX0_turned 5 (some .int)) ({ frames := 7, cells := 0, slots := 0, locals := 178 } : Room) (xw_Pc X z [.ref (xg X 0), .int a1, .int a2, .int a3]) (xw_Qc X z9 (some (.int r))) 0 0 (xw_A (xg X)) := by
  refine xw_of (RX := RX0) (lo := [some (.ref (xg X 0)), some (.int a1), some (.int a2), some (.int a3), none]) (by decide) rfl (Nat.le_of_ble_eq_true rfl) rfl (fun E C hr hlk hq => ?_)
  unfold fX0_turned at hf
  refine ga_aload_n 1 C.c 0 rfl rfl dX0_turned_0 rfl ?_
  refine ga_iload_n 2 C.c 1 rfl rfl dX0_turned_1 rfl ?_
  refine ga_iload_n 3 C.c 2 rfl rfl dX0_turned_2 rfl ?_
  refine ga_iload_n 4 C.c 3 rfl rfl dX0_turned_3 rfl ?_
  obtain ⟨v1, hc2, hf⟩ := pu_b1_w hf
  refine xa_callV 7 0 C (as := [.int a1, .int a2, .int a3]) (met_X0_whyNotTurn (eL E) X _ _ _ _ _ hc2) rfl (T := TX0) rfl (lw_V q1421 q1423 qs42 q93 q1424) cd_X0_whyNotTurn rfl (Nat.le_of_ble_eq_true rfl) (Nat.le_of_ble_eq_true rfl) (Nat.le_of_ble_eq_true rfl) dX0_turned_4 rfl ?_
  refine ga_istore 9 C.c 4 (by decide) rfl dX0_turned_7 rfl ?_
  refine ga_iload 11 C.c rfl dX0_turned_9 rfl ?_
  refine ga_if_eq 17 14 C.c dX0_turned_11 (by decide) rfl (fun c => ?_) (fun c => ?_)
  · have hf := pu_pos c hf
    refine ga_aload_n 18 C.c 0 rfl rfl dX0_turned_17 rfl ?_
    refine ga_aload_n 19 C.c 0 rfl rfl dX0_turned_18 rfl ?_
    refine xa_get 22 0 0 C rfl (T := TX0) rfl in_X0 (by decide) q552 rfl rfl dX0_turned_19 rfl ?_
    refine ga_iload_n 23 C.c 1 rfl rfl dX0_turned_22 rfl ?_
    obtain ⟨h3, hf⟩ := pu_g_w hf
    refine xa_slot 24 C h3 dX0_turned_23 rfl ?_
    refine ga_iload_n 25 C.c 2 rfl rfl dX0_turned_24 rfl ?_
    refine ga_iload_n 26 C.c 3 rfl rfl dX0_turned_25 rfl ?_
    obtain ⟨v4, z5, hc6, hf⟩ := pu_b2_w hf
    refine xa_callV 29 0 C (as := [.ref ((xS X).1 a1.toNatClampNeg), .int a2, .int a3]) (met_X0_turnsOf (eL E) X _ _ _ _ (vp_in_lt h3) _ _ hc6) rfl (T := TX0) rfl (lw_V q1425 q1427 qs43 q93 q1428) cd_X0_turnsOf rfl (Nat.le_of_ble_eq_true rfl) (Nat.le_of_ble_eq_true rfl) (Nat.le_of_ble_eq_true rfl) dX0_turned_26 rfl ?_
    refine ga_pop 30 C.c rfl dX0_turned_29 rfl ?_
    refine ga_aload_n 31 C.c 0 rfl rfl dX0_turned_30 rfl ?_
    refine xa_get 34 0 12 C rfl (T := TX0) rfl in_X0 (by decide) q568 rfl rfl dX0_turned_31 rfl ?_
    have hf := Option.some.inj hf
    cases hf
    exact xw_iret C hr hlk hq rfl rfl rfl dX0_turned_34
  · have hf := pu_neg c hf
    refine ga_iload 16 C.c rfl dX0_turned_14 rfl ?_
    have hf := Option.some.inj hf
    cases hf
    exact xw_iret C hr hlk hq rfl rfl rfl dX0_turned_16
set_option maxHeartbeats 4000000 in
theorem met_X0_isRest (l : Launch) (a1 : Int32) (a2 : Int32) (r : Int32) (hf : fX0_isRest a1 a2 = some r) : Met l yX0_isRest (ws_ yX0_isRest cX0_isRest 3 (some .boolean)) ({ frames := 1, cells := 0, slots := 0, locals := 21 } : Room) (ps_Pc [.int a1, .int a2]) (ps_Qc (some (.int r))) 0 0 (fun _ => False) := by
  refine ps_of (RX := RX0) (lo := [some (.int a1), some (.int a2), none]) (by decide) rfl (Nat.le_of_ble_eq_true rfl) rfl (fun E C hr hlk hq => ?_)
  unfold fX0_isRest at hf
  refine ga_iconst 1 C.c (v := 0) (by decide) dX0_isRest_0 rfl ?_
  refine ga_istore_n 2 C.c 2 rfl (by decide) rfl dX0_isRest_1 rfl ?_
  obtain ⟨y10, hi9, hr6, hs7⟩ := pu_s_w hf
  refine ga_cutP (P := y10 = .inl () → ga_W E 3 (ps_I E) 0 0 41 [none, none, none] []) (fun hy => ?_) (fun hj8 => ?_)
  · have hf := hr6 _ hy
    refine ga_iconst 42 C.c (v := 1) (by decide) dX0_isRest_41 rfl ?_
    have hf := Option.some.inj hf
    cases hf
    exact ps_iret C hr hlk hq rfl rfl dX0_isRest_42
  · refine ga_W.sub (pu_it_w (Wd := fun (q : Int32) => ga_W E 3 (ps_I E) 0 0 2 [some (.int a1), some (.int a2), some (.int q)] []) (Wx := fun e => e = y10) (fun v3 x hf kc4 kx5 => ?_) hi9 rfl) (And.intro rfl (And.intro rfl (And.intro rfl trivial)))
    try dsimp only
    unfold fX0_isRest_L2 at hf
    refine ga_iload_n 3 C.c 2 rfl rfl dX0_isRest_2 rfl ?_
    refine ga_iconst 4 C.c (v := 4) (by decide) dX0_isRest_3 rfl ?_
    refine ga_icmp_gt 41 7 C.c dX0_isRest_4 (by decide) rfl (fun c => ?_) (fun c => ?_)
    · have hf := pu_pos c hf
      exact ga_W.sub (hj8 (kx5 _ (Option.some.inj hf).symm).symm) trivial
    · have hf := pu_neg c hf
      refine ga_iload_n 8 C.c 2 rfl rfl dX0_isRest_7 rfl ?_
      refine ga_iload_n 9 C.c 1 rfl rfl dX0_isRest_8 rfl ?_
      refine ps_callS 12 C (as := [.int v3, .int a2]) (met_X0_hasOf (eL E) _ _) (lw_S q1250 q1251 q93 q1252) cd_X0_hasOf rfl (Nat.le_of_ble_eq_true rfl) (Nat.le_of_ble_eq_true rfl) (Nat.le_of_ble_eq_true rfl) dX0_isRest_9 rfl ?_
      refine ga_iload_n 13 C.c 0 rfl rfl dX0_isRest_12 rfl ?_
      refine ga_iload_n 14 C.c 1 rfl rfl dX0_isRest_13 rfl ?_
      refine ps_callS 17 C (as := [.int a1, .int a2]) (met_X0_hasOf (eL E) _ _) (lw_S q1250 q1251 q93 q1252) cd_X0_hasOf rfl (Nat.le_of_ble_eq_true rfl) (Nat.le_of_ble_eq_true rfl) (Nat.le_of_ble_eq_true rfl) dX0_isRest_14 rfl ?_
      refine ga_icmp_gt 33 20 C.c dX0_isRest_17 (by decide) rfl (fun c => ?_) (fun c => ?_)
      · have hf := pu_pos c hf
        refine ga_iconst 34 C.c (v := 0) (by decide) dX0_isRest_33 rfl ?_
        have hf := Option.some.inj hf
        have hf := hs7 _ (kx5 _ hf.symm).symm
        cases hf
        exact ps_iret C hr hlk hq rfl rfl dX0_isRest_34
      · have hf := pu_neg c hf
        refine ga_iload_n 21 C.c 2 rfl rfl dX0_isRest_20 rfl ?_
        refine ga_iload_n 22 C.c 0 rfl rfl dX0_isRest_21 rfl ?_
        refine ps_callS 25 C (as := [.int v3, .int a1]) (met_X0_hasOf (eL E) _ _) (lw_S q1250 q1251 q93 q1252) cd_X0_hasOf rfl (Nat.le_of_ble_eq_true rfl) (Nat.le_of_ble_eq_true rfl) (Nat.le_of_ble_eq_true rfl) dX0_isRest_22 rfl ?_
        refine ga_iload_n 26 C.c 1 rfl rfl dX0_isRest_25 rfl ?_
        refine ga_iload_n 27 C.c 0 rfl rfl dX0_isRest_26 rfl ?_
        refine ps_callS 30 C (as := [.int a2, .int a1]) (met_X0_hasOf (eL E) _ _) (lw_S q1250 q1251 q93 q1252) cd_X0_hasOf rfl (Nat.le_of_ble_eq_true rfl) (Nat.le_of_ble_eq_true rfl) (Nat.le_of_ble_eq_true rfl) dX0_isRest_27 rfl ?_
        refine ga_icmp_le 35 33 C.c dX0_isRest_30 (by decide) rfl (fun c => ?_) (fun c => ?_)
        · have hf := pu_pos c hf
          refine ga_iinc 38 C.c (v := v3 + 1) rfl rfl (by decide) rfl dX0_isRest_35 rfl ?_
          refine ga_goto 2 C.c dX0_isRest_38 (by decide) ?_
          exact ga_W.sub (kc4 _ (Option.some.inj hf).symm) (And.intro rfl (And.intro rfl (And.intro rfl trivial)))
        · have hf := pu_neg c hf
          refine ga_iconst 34 C.c (v := 0) (by decide) dX0_isRest_33 rfl ?_
          have hf := Option.some.inj hf
          have hf := hs7 _ (kx5 _ hf.symm).symm
          cases hf
          exact ps_iret C hr hlk hq rfl rfl dX0_isRest_34
set_option maxHeartbeats 4000000 in
theorem met_X0_rests (l : Launch) (X : XX) (z : MS) (r : Int32) (hf : fX0_rests (xp X) z = some r) : Met l yX0_rests (ws_ yX0_rests cX0_rests 4 (some .int)) ({ frames := 2, cells := 0, slots := 0, locals := 43 } : Room) (xw_Pc X z [.ref (xg X 0)]) (xw_Qc X z (some (.int r))) 0 0 (xw_A (xg X)) := by
  refine xw_of (RX := RX0) (lo := [some (.ref (xg X 0)), none, none, none]) (by decide) rfl (Nat.le_of_ble_eq_true rfl) rfl (fun E C hr hlk hq => ?_)
  unfold fX0_rests at hf
  refine ga_iconst 1 C.c (v := 0) (by decide) dX0_rests_0 rfl ?_
  refine ga_istore_n 2 C.c 1 rfl (by decide) rfl dX0_rests_1 rfl ?_
  refine ga_iconst 3 C.c (v := 0) (by decide) dX0_rests_2 rfl ?_
  refine ga_istore_n 4 C.c 2 rfl (by decide) rfl dX0_rests_3 rfl ?_
  obtain ⟨v25, hi9, hf⟩ := pu_b1_w hf
  refine ga_cut 44 (I2 := xw_I E X z) (k2 := 0) (n2 := 0) (lo2 := [none, some (.int v25), none, none]) (st2 := []) ?_ (fun hj8 => ?_)
  · refine ga_iload_n 45 C.c 1 rfl rfl dX0_rests_44 rfl ?_
    have hf := Option.some.inj hf
    cases hf
    exact xw_iret C hr hlk hq rfl rfl rfl dX0_rests_45
  · refine ga_W.sub (pu_it_w (Wd := fun (q : Int32 × Int32) => ga_W E 4 (xw_I E X z) 0 0 4 [none, some (.int q.1), some (.int q.2), none] []) (Wx := fun e => e = (v25)) (fun q x hf kc4 kx5 => ?_) hi9 rfl) (And.intro rfl (And.intro rfl trivial))
    obtain ⟨v2, v3⟩ := q
    try dsimp only
    unfold fX0_rests_L4 at hf
    refine ga_iload_n 5 C.c 2 rfl rfl dX0_rests_4 rfl ?_
    refine ga_iconst 6 C.c (v := 4) (by decide) dX0_rests_5 rfl ?_
    refine ga_icmp_gt 44 9 C.c dX0_rests_6 (by decide) rfl (fun c => ?_) (fun c => ?_)
    · have hf := pu_pos c hf
      cases (kx5 _ (Option.some.inj hf).symm)
      exact ga_W.sub hj8 (And.intro rfl trivial)
    · have hf := pu_neg c hf
      refine ga_iconst 10 C.c (v := 0) (by decide) dX0_rests_9 rfl ?_
      refine ga_istore_n 11 C.c 3 rfl (by decide) rfl dX0_rests_10 rfl ?_
      obtain ⟨v24, hi19, hf⟩ := pu_b1_w hf
      refine ga_cut 38 (I2 := xw_I E X z) (k2 := 0) (n2 := 0) (lo2 := [none, some (.int v24), some (.int v3), none]) (st2 := []) ?_ (fun hj18 => ?_)
      · refine ga_iinc 41 C.c (v := v3 + 1) rfl rfl (by decide) rfl dX0_rests_38 rfl ?_
        refine ga_goto 4 C.c dX0_rests_41 (by decide) ?_
        exact ga_W.sub (kc4 _ (Option.some.inj hf).symm) (And.intro rfl (And.intro rfl trivial))
      · refine ga_W.sub (pu_it_w (Wd := fun (q : Int32 × Int32) => ga_W E 4 (xw_I E X z) 0 0 11 [none, some (.int q.1), some (.int v3), some (.int q.2)] []) (Wx := fun e => e = (v24)) (fun q x hf kc14 kx15 => ?_) hi19 rfl) (And.intro rfl (And.intro rfl (And.intro rfl trivial)))
        obtain ⟨v12, v13⟩ := q
        try dsimp only
        unfold fX0_rests_L11 at hf
        refine ga_iload_n 12 C.c 3 rfl rfl dX0_rests_11 rfl ?_
        refine ga_iconst 13 C.c (v := 4) (by decide) dX0_rests_12 rfl ?_
        refine ga_icmp_gt 38 16 C.c dX0_rests_13 (by decide) rfl (fun c => ?_) (fun c => ?_)
        · have hf := pu_pos c hf
          cases (kx15 _ (Option.some.inj hf).symm)
          exact ga_W.sub hj18 (And.intro rfl (And.intro rfl trivial))
        · have hf := pu_neg c hf
          refine ga_iload_n 17 C.c 1 rfl rfl dX0_rests_16 rfl ?_
          refine ga_iload_n 18 C.c 2 rfl rfl dX0_rests_17 rfl ?_
          refine ga_iload_n 19 C.c 3 rfl rfl dX0_rests_18 rfl ?_
          obtain ⟨v20, hc21, hf⟩ := pu_b1_w hf
          refine xa_callS 22 C (as := [.int v3, .int v13]) (met_X0_isRest (eL E) _ _ _ hc21) (lw_S q1438 q1439 q93 q1440) cd_X0_isRest rfl (Nat.le_of_ble_eq_true rfl) (Nat.le_of_ble_eq_true rfl) (Nat.le_of_ble_eq_true rfl) dX0_rests_19 rfl ?_
          refine ga_if_eq 29 25 C.c dX0_rests_22 (by decide) rfl (fun c => ?_) (fun c => ?_)
          · have hf := pu_pos c hf
            refine ga_iconst 30 C.c (v := 0) (by decide) dX0_rests_29 rfl ?_
            refine ga_iadd 31 C.c dX0_rests_30 rfl ?_
            refine ga_istore_n 32 C.c 1 rfl (by decide) rfl dX0_rests_31 rfl ?_
            obtain ⟨_, rfl, hf⟩ := pu_l1_w hf
            refine ga_iinc 35 C.c (v := v13 + 1) rfl rfl (by decide) rfl dX0_rests_32 rfl ?_
            refine ga_goto 11 C.c dX0_rests_35 (by decide) ?_
            exact ga_W.sub (kc14 _ (Option.some.inj hf).symm) (And.intro rfl (And.intro rfl (And.intro rfl trivial)))
          · have hf := pu_neg c hf
            refine ga_iconst 26 C.c (v := 1) (by decide) dX0_rests_25 rfl ?_
            refine ga_goto 30 C.c dX0_rests_26 (by decide) ?_
            refine ga_iadd 31 C.c dX0_rests_30 rfl ?_
            refine ga_istore_n 32 C.c 1 rfl (by decide) rfl dX0_rests_31 rfl ?_
            obtain ⟨_, rfl, hf⟩ := pu_l1_w hf
            refine ga_iinc 35 C.c (v := v13 + 1) rfl rfl (by decide) rfl dX0_rests_32 rfl ?_
            refine ga_goto 11 C.c dX0_rests_35 (by decide) ?_
            exact ga_W.sub (kc14 _ (Option.some.inj hf).symm) (And.intro rfl (And.intro rfl (And.intro rfl trivial)))
set_option maxHeartbeats 4000000 in
theorem met_X0_rest (l : Launch) (X : XX) (z : MS) (r : Int32) (hf : fX0_rest (xp X) z = some r) : Met l yX0_rest (ws_ yX0_rest cX0_rest 3 (some .int)) ({ frames := 2, cells := 0, slots := 0, locals := 43 } : Room) (xw_Pc X z [.ref (xg X 0)]) (xw_Qc X z (some (.int r))) 0 0 (xw_A (xg X)) := by
  refine xw_of (RX := RX0) (lo := [some (.ref (xg X 0)), none, none]) (by decide) rfl (Nat.le_of_ble_eq_true rfl) rfl (fun E C hr hlk hq => ?_)
  unfold fX0_rest at hf
  refine ga_iconst 1 C.c (v := 0) (by decide) dX0_rest_0 rfl ?_
  refine ga_istore_n 2 C.c 1 rfl (by decide) rfl dX0_rest_1 rfl ?_
  obtain ⟨y21, hi8, hr5, hs6⟩ := pu_s_w hf
  refine ga_cutP (P := y21 = .inl () → ga_W E 3 (xw_I E X z) 0 0 41 [none, none, none] []) (fun hy => ?_) (fun hj7 => ?_)
  · have hf := hr5 _ hy
    refine ga_iconst 42 C.c (v := (-1)) (by decide) dX0_rest_41 rfl ?_
    have hf := Option.some.inj hf
    cases hf
    exact xw_iret C hr hlk hq rfl rfl rfl dX0_rest_42
  · refine ga_W.sub (pu_it_w (Wd := fun (q : Int32) => ga_W E 3 (xw_I E X z) 0 0 2 [none, some (.int q), none] []) (Wx := fun e => e = y21) (fun v2 x hf kc3 kx4 => ?_) hi8 rfl) (And.intro rfl trivial)
    try dsimp only
    unfold fX0_rest_L2 at hf
    refine ga_iload_n 3 C.c 1 rfl rfl dX0_rest_2 rfl ?_
    refine ga_iconst 4 C.c (v := 4) (by decide) dX0_rest_3 rfl ?_
    refine ga_icmp_gt 41 7 C.c dX0_rest_4 (by decide) rfl (fun c => ?_) (fun c => ?_)
    · have hf := pu_pos c hf
      exact ga_W.sub (hj7 (kx4 _ (Option.some.inj hf).symm).symm) trivial
    · have hf := pu_neg c hf
      refine ga_iconst 8 C.c (v := 0) (by decide) dX0_rest_7 rfl ?_
      refine ga_istore_n 9 C.c 2 rfl (by decide) rfl dX0_rest_8 rfl ?_
      obtain ⟨y20, hi17, hr14, hs15⟩ := pu_s_w hf
      refine ga_cutP (P := y20 = .inl () → ga_W E 3 (xw_I E X z) 0 0 35 [none, some (.int v2), none] []) (fun hy => ?_) (fun hj16 => ?_)
      · have hf := hr14 _ hy
        refine ga_iinc 38 C.c (v := v2 + 1) rfl rfl (by decide) rfl dX0_rest_35 rfl ?_
        refine ga_goto 2 C.c dX0_rest_38 (by decide) ?_
        exact ga_W.sub (kc3 _ (Option.some.inj hf).symm) (And.intro rfl trivial)
      · refine ga_W.sub (pu_it_w (Wd := fun (q : Int32) => ga_W E 3 (xw_I E X z) 0 0 9 [none, some (.int v2), some (.int q)] []) (Wx := fun e => e = y20) (fun v11 x hf kc12 kx13 => ?_) hi17 rfl) (And.intro rfl (And.intro rfl trivial))
        try dsimp only
        unfold fX0_rest_L9 at hf
        refine ga_iload_n 10 C.c 2 rfl rfl dX0_rest_9 rfl ?_
        refine ga_iconst 11 C.c (v := 4) (by decide) dX0_rest_10 rfl ?_
        refine ga_icmp_gt 35 14 C.c dX0_rest_11 (by decide) rfl (fun c => ?_) (fun c => ?_)
        · have hf := pu_pos c hf
          exact ga_W.sub (hj16 (kx13 _ (Option.some.inj hf).symm).symm) (And.intro rfl trivial)
        · have hf := pu_neg c hf
          refine ga_iload_n 15 C.c 1 rfl rfl dX0_rest_14 rfl ?_
          refine ga_iload_n 16 C.c 2 rfl rfl dX0_rest_15 rfl ?_
          obtain ⟨v18, hc19, hf⟩ := pu_b1_w hf
          refine xa_callS 19 C (as := [.int v2, .int v11]) (met_X0_isRest (eL E) _ _ _ hc19) (lw_S q1438 q1439 q93 q1440) cd_X0_isRest rfl (Nat.le_of_ble_eq_true rfl) (Nat.le_of_ble_eq_true rfl) (Nat.le_of_ble_eq_true rfl) dX0_rest_16 rfl ?_
          refine ga_if_eq 29 22 C.c dX0_rest_19 (by decide) rfl (fun c => ?_) (fun c => ?_)
          · have hf := pu_pos c hf
            refine ga_iinc 32 C.c (v := v11 + 1) rfl rfl (by decide) rfl dX0_rest_29 rfl ?_
            refine ga_goto 9 C.c dX0_rest_32 (by decide) ?_
            exact ga_W.sub (kc12 _ (Option.some.inj hf).symm) (And.intro rfl (And.intro rfl trivial))
          · have hf := pu_neg c hf
            refine ga_bipush 24 C.c (v := 10) (by decide) dX0_rest_22 rfl ?_
            refine ga_iload_n 25 C.c 1 rfl rfl dX0_rest_24 rfl ?_
            refine ga_imul 26 C.c dX0_rest_25 rfl ?_
            refine ga_iload_n 27 C.c 2 rfl rfl dX0_rest_26 rfl ?_
            refine ga_iadd 28 C.c dX0_rest_27 rfl ?_
            have hf := Option.some.inj hf
            have hf := hs15 _ (kx13 _ hf.symm).symm
            have hf := hs6 _ (kx4 _ hf.symm).symm
            cases hf
            exact xw_iret C hr hlk hq rfl rfl rfl dX0_rest_28
