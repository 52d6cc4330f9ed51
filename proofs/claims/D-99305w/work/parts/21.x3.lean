set_option maxRecDepth 100000
set_option maxHeartbeats 4000000 in
theorem met_X0_slowly (l : Launch) (X : XX) (z : MS) (a1 : Int32) (a2 : Int32) (r : Int32) (z9 : MS) (hf : fX0_slowly (xp X) z a1 a2 = some (r, z9)) : Met l yX0_slowly (ws_ yX0_slowly cX0_slowly 6 (some .int)) ({ frames := 7, cells := 0, slots := 0, locals := 176 } : Room) (xw_Pc X z [.ref (xg X 0), .int a1, .int a2]) (xw_Qc X z9 (some (.int r))) 0 0 (xw_A (xg X)) := by
  refine xw_of (RX := RX0) (lo := [some (.ref (xg X 0)), some (.int a1), some (.int a2), none, none, none]) (by decide) rfl (Nat.le_of_ble_eq_true rfl) rfl (fun E C hr hlk hq => ?_)
  unfold fX0_slowly at hf
  refine ga_aload_n 1 C.c 0 rfl rfl dX0_slowly_0 rfl ?_
  refine ga_iload_n 2 C.c 1 rfl rfl dX0_slowly_1 rfl ?_
  refine ga_iload_n 3 C.c 2 rfl rfl dX0_slowly_2 rfl ?_
  refine xa_callV 6 0 C (as := [.int a1, .int a2]) (met_X0_areReaches (eL E) X _ _ _) rfl (T := TX0) rfl (lw_V q1090 q1092 qs28 q93 q1093) cd_X0_areReaches rfl (Nat.le_of_ble_eq_true rfl) (Nat.le_of_ble_eq_true rfl) (Nat.le_of_ble_eq_true rfl) dX0_slowly_3 rfl ?_
  refine ga_if_ne 12 9 C.c dX0_slowly_6 (by decide) rfl (fun c => ?_) (fun c => ?_)
  · have hf := pu_neg c hf
    refine ga_iconst 13 C.c (v := (-1)) (by decide) dX0_slowly_12 rfl ?_
    refine ga_istore_n 14 C.c 3 rfl (by decide) rfl dX0_slowly_13 rfl ?_
    refine ga_iconst 15 C.c (v := 0) (by decide) dX0_slowly_14 rfl ?_
    refine ga_istore 17 C.c 4 (by decide) rfl dX0_slowly_15 rfl ?_
    obtain ⟨v17, z18, hi11, hf⟩ := pu_b2_w hf
    refine ga_cut 63 (I2 := xw_I E X z18) (k2 := 0) (n2 := 0) (lo2 := [none, none, none, some (.int v17), none, none]) (st2 := []) ?_ (fun hj10 => ?_)
    · refine ga_iload_n 64 C.c 3 rfl rfl dX0_slowly_63 rfl ?_
      have hf := Option.some.inj hf
      cases hf
      exact xw_iret C hr hlk hq rfl rfl rfl dX0_slowly_64
    · refine ga_W.sub (pu_it_w (Wd := fun (q : Int32 × Int32 × MS) => ga_W E 6 (xw_I E X q.2.2) 0 0 17 [some (.ref (xg X 0)), some (.int a1), some (.int a2), some (.int q.1), some (.int q.2.1), none] []) (Wx := fun e => e = (v17, z18)) (fun q x hf kc6 kx7 => ?_) hi11 rfl) (And.intro rfl (And.intro rfl (And.intro rfl (And.intro rfl (And.intro rfl trivial)))))
      obtain ⟨v3, v4, z5⟩ := q
      try dsimp only
      unfold fX0_slowly_L17 at hf
      refine ga_iload 19 C.c rfl dX0_slowly_17 rfl ?_
      refine ga_bipush 21 C.c (v := 60) (by decide) dX0_slowly_19 rfl ?_
      refine ga_icmp_gt 63 24 C.c dX0_slowly_21 (by decide) rfl (fun c => ?_) (fun c => ?_)
      · have hf := pu_pos c hf
        cases (kx7 _ (Option.some.inj hf).symm)
        exact ga_W.sub hj10 (And.intro rfl trivial)
      · have hf := pu_neg c hf
        refine ga_aload_n 25 C.c 0 rfl rfl dX0_slowly_24 rfl ?_
        refine ga_iload_n 26 C.c 1 rfl rfl dX0_slowly_25 rfl ?_
        refine ga_iload 28 C.c rfl dX0_slowly_26 rfl ?_
        obtain ⟨z12, hc13, hf⟩ := pu_b1_w hf
        refine xa_callV 31 0 C (as := [.int a1, .int v4]) (met_X0_put (eL E) X _ _ _ _ hc13) rfl (T := TX0) rfl (lw_V q1094 q1096 qs29 q93 q1097) cd_X0_put rfl (Nat.le_of_ble_eq_true rfl) (Nat.le_of_ble_eq_true rfl) (Nat.le_of_ble_eq_true rfl) dX0_slowly_28 rfl ?_
        refine ga_iload_n 32 C.c 2 rfl rfl dX0_slowly_31 rfl ?_
        obtain ⟨v14, hc15, hf⟩ := pu_b1_w hf
        refine xa_callV 35 5 C (as := [.int a2]) (met_X4_first_s (eL E) X _ _ _ hc15) rfl (T := TX4) rfl (lw_V q1216 q1217 q1218 q100 q1219) cd_X4_first_s rfl (Nat.le_of_ble_eq_true rfl) (Nat.le_of_ble_eq_true rfl) (Nat.le_of_ble_eq_true rfl) dX0_slowly_32 rfl ?_
        refine ga_istore 37 C.c 5 (by decide) rfl dX0_slowly_35 rfl ?_
        refine ga_iload 39 C.c rfl dX0_slowly_37 rfl ?_
        refine ga_iconst 40 C.c (v := (-1)) (by decide) dX0_slowly_39 rfl ?_
        refine ga_icmp_ne 47 43 C.c dX0_slowly_40 (by decide) rfl (fun c => ?_) (fun c => ?_)
        · have hf := pu_neg c hf
          refine ga_iload_n 48 C.c 3 rfl rfl dX0_slowly_47 rfl ?_
          refine ga_iload 50 C.c rfl dX0_slowly_48 rfl ?_
          refine ga_iload 52 C.c rfl dX0_slowly_50 rfl ?_
          refine ga_isub 53 C.c dX0_slowly_52 rfl ?_
          refine ga_mmax 56 C.c C.ml C.ow (C.ts _ q1220) (C.ts _ q850) (C.ts _ q104) (C.ts _ q851) (by rw [C.rm]; exact (Nat.le_of_ble_eq_true rfl)) (by rw [C.rm]; exact (Nat.le_of_ble_eq_true rfl)) (by rw [C.rm]; exact (Nat.le_of_ble_eq_true rfl)) (by rw [C.rm]; exact (Nat.le_of_ble_eq_true rfl)) dX0_slowly_53 rfl ?_
          refine ga_istore_n 57 C.c 3 rfl (by decide) rfl dX0_slowly_56 rfl ?_
          obtain ⟨_, rfl, hf⟩ := pu_l1_w hf
          refine ga_iinc 60 C.c (v := v4 + 1) rfl rfl (by decide) rfl dX0_slowly_57 rfl ?_
          refine ga_goto 17 C.c dX0_slowly_60 (by decide) ?_
          exact ga_W.sub (kc6 _ (Option.some.inj hf).symm) (And.intro rfl (And.intro rfl (And.intro rfl (And.intro rfl (And.intro rfl trivial)))))
        · have hf := pu_pos c hf
          refine ga_iload_n 44 C.c 3 rfl rfl dX0_slowly_43 rfl ?_
          refine ga_goto 56 C.c dX0_slowly_44 (by decide) ?_
          refine ga_istore_n 57 C.c 3 rfl (by decide) rfl dX0_slowly_56 rfl ?_
          refine ga_iinc 60 C.c (v := v4 + 1) rfl rfl (by decide) rfl dX0_slowly_57 rfl ?_
          refine ga_goto 17 C.c dX0_slowly_60 (by decide) ?_
          exact ga_W.sub (kc6 _ (Option.some.inj hf).symm) (And.intro rfl (And.intro rfl (And.intro rfl (And.intro rfl (And.intro rfl trivial)))))
  · have hf := pu_pos c hf
    refine ga_bipush 11 C.c (v := (-2)) (by decide) dX0_slowly_9 rfl ?_
    have hf := Option.some.inj hf
    cases hf
    exact xw_iret C hr hlk hq rfl rfl rfl dX0_slowly_11
set_option maxHeartbeats 4000000 in
theorem met_X0_isBit (l : Launch) (a1 : Int32) : Met l yX0_isBit (ws_ yX0_isBit cX0_isBit 1 (some .boolean)) ({ frames := 1, cells := 0, slots := 0, locals := 25 } : Room) (ps_Pc [.int a1]) (ps_Qc (some (.int (fX0_isBit a1)))) 0 0 (fun _ => False) := by
  obtain ⟨r, hf⟩ : ∃ r, fX0_isBit a1 = r := ⟨_, rfl⟩
  rw [hf]
  refine ps_of (RX := RX0) (lo := [some (.int a1)]) (by decide) rfl (Nat.le_of_ble_eq_true rfl) rfl (fun E C hr hlk hq => ?_)
  unfold fX0_isBit at hf
  refine ga_iload_n 1 C.c 0 rfl rfl dX0_isBit_0 rfl ?_
  refine ga_i2l 2 C.c dX0_isBit_1 rfl ?_
  refine ga_lconst 3 C.c (v := 0) (by decide) dX0_isBit_2 rfl ?_
  refine ga_lconst 4 C.c (v := 1) (by decide) dX0_isBit_3 rfl ?_
  refine ps_callS 7 C (as := [.long a1.toInt64, .long 0, .long 1]) (met_X0_in (eL E) _ _ _) (lw_S q136 q137 q93 q138) cd_X0_in rfl (Nat.le_of_ble_eq_true rfl) (Nat.le_of_ble_eq_true rfl) (Nat.le_of_ble_eq_true rfl) dX0_isBit_4 rfl ?_
  cases hf
  exact ps_iret C hr hlk hq rfl rfl dX0_isBit_7
set_option maxHeartbeats 4000000 in
theorem met_X0_laysLikely (l : Launch) (X : XX) (z : MS) (a1 : Int32) (z9 : MS) (hf : fX0_laysLikely (xp X) z a1 = some z9) : Met l yX0_laysLikely (ws_ yX0_laysLikely cX0_laysLikely 5 none) ({ frames := 4, cells := 0, slots := 0, locals := 103 } : Room) (xw_Pc X z [.ref (xg X 0), .int a1]) (xw_Qc X z9 (none)) 0 0 (xw_A (xg X)) := by
  refine xw_of (RX := RX0) (lo := [some (.ref (xg X 0)), some (.int a1), none, none, none]) (by decide) rfl (Nat.le_of_ble_eq_true rfl) rfl (fun E C hr hlk hq => ?_)
  unfold fX0_laysLikely at hf
  refine ga_aload_n 1 C.c 0 rfl rfl dX0_laysLikely_0 rfl ?_
  refine xa_get 4 0 7 C rfl (T := TX0) rfl in_X0 (by decide) q562 rfl rfl dX0_laysLikely_1 rfl ?_
  obtain ⟨z1, hc2, hf⟩ := pu_b1_w hf
  refine xa_callV 7 2 C (as := []) (met_X3_is (eL E) X _ _ hc2) rfl (T := TX3) rfl (lw_V q1059 q1060 q1061 q99 q1062) cd_X3_is rfl (Nat.le_of_ble_eq_true rfl) (Nat.le_of_ble_eq_true rfl) (Nat.le_of_ble_eq_true rfl) dX0_laysLikely_4 rfl ?_
  refine ga_pop 8 C.c rfl dX0_laysLikely_7 rfl ?_
  refine ga_aload_n 9 C.c 0 rfl rfl dX0_laysLikely_8 rfl ?_
  refine xa_get 12 0 13 C rfl (T := TX0) rfl in_X0 (by decide) q569 rfl rfl dX0_laysLikely_9 rfl ?_
  refine ga_lconst 13 C.c (v := 0) (by decide) dX0_laysLikely_12 rfl ?_
  refine xa_fillJ 16 0 11 2000 C (by decide) rfl rfl q1234 (Nat.le_of_ble_eq_true rfl) (Nat.le_of_ble_eq_true rfl) (Nat.le_of_ble_eq_true rfl) dX0_laysLikely_13 rfl ?_
  refine ga_aload_n 17 C.c 0 rfl rfl dX0_laysLikely_16 rfl ?_
  refine xa_get 20 0 13 C rfl (T := TX0) rfl in_X0 (by decide) q569 rfl rfl dX0_laysLikely_17 rfl ?_
  refine ga_aload_n 21 C.c 0 rfl rfl dX0_laysLikely_20 rfl ?_
  refine xa_get 24 0 7 C rfl (T := TX0) rfl in_X0 (by decide) q562 rfl rfl dX0_laysLikely_21 rfl ?_
  refine xa_getN 27 2 0 C rfl (T := TX3) rfl in_X3 (by decide) q442 rfl rfl dX0_laysLikely_24 rfl ?_
  refine ga_iconst 28 C.c (v := 0) (by decide) dX0_laysLikely_27 rfl ?_
  refine xa_iald 29 1 3 61 C rfl (vp_in_iff.mpr (by decide)) dX0_laysLikely_28 rfl ?_
  refine ga_lconst 30 C.c (v := 1) (by decide) dX0_laysLikely_29 rfl ?_
  obtain ⟨h4, hf⟩ := pu_g_w hf
  refine xa_last 31 0 11 2000 C rfl (xa_seta11 _ _) h4 dX0_laysLikely_30 rfl ?_
  refine ga_iconst 32 C.c (v := 1) (by decide) dX0_laysLikely_31 rfl ?_
  refine ga_istore_n 33 C.c 2 rfl (by decide) rfl dX0_laysLikely_32 rfl ?_
  obtain ⟨z39, hi14, hf⟩ := pu_b1_w hf
  refine ga_cut 177 (I2 := xw_I E X z39) (k2 := 0) (n2 := 0) (lo2 := [none, none, none, none, none]) (st2 := []) ?_ (fun hj13 => ?_)
  · have hf := Option.some.inj hf
    cases hf
    exact xw_vret C hr hlk hq rfl dX0_laysLikely_177
  · refine ga_W.sub (pu_it_w (Wd := fun (q : Int32 × MS) => ga_W E 5 (xw_I E X q.2) 0 0 33 [some (.ref (xg X 0)), some (.int a1), some (.int q.1), none, none] []) (Wx := fun e => e = (z39)) (fun q x hf kc9 kx10 => ?_) hi14 rfl) (And.intro rfl (And.intro rfl (And.intro rfl trivial)))
    obtain ⟨v7, z8⟩ := q
    try dsimp only
    unfold fX0_laysLikely_L33 at hf
    refine ga_iload_n 34 C.c 2 rfl rfl dX0_laysLikely_33 rfl ?_
    refine ga_iload_n 35 C.c 1 rfl rfl dX0_laysLikely_34 rfl ?_
    refine ga_icmp_gt 177 38 C.c dX0_laysLikely_35 (by decide) rfl (fun c => ?_) (fun c => ?_)
    · have hf := pu_pos c hf
      cases (kx10 _ (Option.some.inj hf).symm)
      exact ga_W.sub hj13 trivial
    · have hf := pu_neg c hf
      refine ga_aload_n 39 C.c 0 rfl rfl dX0_laysLikely_38 rfl ?_
      refine xa_get 42 0 14 C rfl (T := TX0) rfl in_X0 (by decide) q570 rfl rfl dX0_laysLikely_39 rfl ?_
      refine ga_lconst 43 C.c (v := 0) (by decide) dX0_laysLikely_42 rfl ?_
      refine xa_fillJ 46 1 12 2000 C (by decide) rfl rfl q1234 (Nat.le_of_ble_eq_true rfl) (Nat.le_of_ble_eq_true rfl) (Nat.le_of_ble_eq_true rfl) dX0_laysLikely_43 rfl ?_
      refine ga_iconst 47 C.c (v := 0) (by decide) dX0_laysLikely_46 rfl ?_
      refine ga_istore_n 48 C.c 3 rfl (by decide) rfl dX0_laysLikely_47 rfl ?_
      obtain ⟨z37, hi25, hf⟩ := pu_b1_w hf
      refine ga_cut 155 (I2 := xw_I E X z37) (k2 := 0) (n2 := 0) (lo2 := [some (.ref (xg X 0)), some (.int a1), some (.int v7), none, none]) (st2 := []) ?_ (fun hj24 => ?_)
      · refine ga_aload_n 156 C.c 0 rfl rfl dX0_laysLikely_155 rfl ?_
        refine xa_get 159 0 14 C rfl (T := TX0) rfl in_X0 (by decide) q570 rfl rfl dX0_laysLikely_156 rfl ?_
        refine ga_iconst 160 C.c (v := 0) (by decide) dX0_laysLikely_159 rfl ?_
        refine ga_aload_n 161 C.c 0 rfl rfl dX0_laysLikely_160 rfl ?_
        refine xa_get 164 0 13 C rfl (T := TX0) rfl in_X0 (by decide) q569 rfl rfl dX0_laysLikely_161 rfl ?_
        refine ga_iconst 165 C.c (v := 0) (by decide) dX0_laysLikely_164 rfl ?_
        refine ga_sipush 168 C.c (v := 2000) (by decide) dX0_laysLikely_165 rfl ?_
        refine xa_copy 171 C q1237 (Nat.le_of_ble_eq_true rfl) (Nat.le_of_ble_eq_true rfl) (Nat.le_of_ble_eq_true rfl) dX0_laysLikely_168 rfl ?_
        refine ga_iinc 174 C.c (v := v7 + 1) rfl rfl (by decide) rfl dX0_laysLikely_171 rfl ?_
        refine ga_goto 33 C.c dX0_laysLikely_174 (by decide) ?_
        exact ga_W.sub (kc9 _ (Option.some.inj hf).symm) (And.intro rfl (And.intro rfl (And.intro rfl trivial)))
      · refine ga_W.sub (pu_it_w (Wd := fun (q : Int32 × MS) => ga_W E 5 (xw_I E X q.2) 0 0 48 [some (.ref (xg X 0)), some (.int a1), some (.int v7), some (.int q.1), none] []) (Wx := fun e => e = (z37)) (fun q x hf kc20 kx21 => ?_) hi25 rfl) (And.intro rfl (And.intro rfl (And.intro rfl (And.intro rfl trivial))))
        obtain ⟨v18, z19⟩ := q
        try dsimp only
        unfold fX0_laysLikely_L48 at hf
        refine ga_iload_n 49 C.c 3 rfl rfl dX0_laysLikely_48 rfl ?_
        refine ga_sipush 52 C.c (v := 2000) (by decide) dX0_laysLikely_49 rfl ?_
        refine ga_icmp_ge 155 55 C.c dX0_laysLikely_52 (by decide) rfl (fun c => ?_) (fun c => ?_)
        · have hf := pu_pos c hf
          cases (kx21 _ (Option.some.inj hf).symm)
          exact ga_W.sub hj24 (And.intro rfl (And.intro rfl (And.intro rfl trivial)))
        · have hf := pu_neg c hf
          refine ga_aload_n 56 C.c 0 rfl rfl dX0_laysLikely_55 rfl ?_
          refine xa_get 59 0 13 C rfl (T := TX0) rfl in_X0 (by decide) q569 rfl rfl dX0_laysLikely_56 rfl ?_
          refine ga_iload_n 60 C.c 3 rfl rfl dX0_laysLikely_59 rfl ?_
          obtain ⟨h26, hf⟩ := pu_g_w hf
          refine xa_lald 61 0 11 2000 C rfl h26 dX0_laysLikely_60 rfl ?_
          refine ga_lconst 62 C.c (v := 0) (by decide) dX0_laysLikely_61 rfl ?_
          refine ga_lcmp 63 C.c dX0_laysLikely_62 rfl ?_
          refine ga_if_ne 69 66 C.c dX0_laysLikely_63 (by decide) rfl (fun c => ?_) (fun c => ?_)
          · have hf := pu_neg c hf
            refine ga_iconst 70 C.c (v := 0) (by decide) dX0_laysLikely_69 rfl ?_
            refine ga_iload_n 71 C.c 3 rfl rfl dX0_laysLikely_70 rfl ?_
            refine ga_iconst 72 C.c (v := 1) (by decide) dX0_laysLikely_71 rfl ?_
            refine ga_isub 73 C.c dX0_laysLikely_72 rfl ?_
            refine ga_mmax 76 C.c C.ml C.ow (C.ts _ q1220) (C.ts _ q850) (C.ts _ q104) (C.ts _ q851) (by rw [C.rm]; exact (Nat.le_of_ble_eq_true rfl)) (by rw [C.rm]; exact (Nat.le_of_ble_eq_true rfl)) (by rw [C.rm]; exact (Nat.le_of_ble_eq_true rfl)) (by rw [C.rm]; exact (Nat.le_of_ble_eq_true rfl)) dX0_laysLikely_73 rfl ?_
            refine ga_aload_n 77 C.c 0 rfl rfl dX0_laysLikely_76 rfl ?_
            refine xa_get 80 0 7 C rfl (T := TX0) rfl in_X0 (by decide) q562 rfl rfl dX0_laysLikely_77 rfl ?_
            refine xa_getN 83 2 1 C rfl (T := TX3) rfl in_X3 (by decide) q444 rfl rfl dX0_laysLikely_80 rfl ?_
            refine ga_iload_n 84 C.c 2 rfl rfl dX0_laysLikely_83 rfl ?_
            obtain ⟨h27, hf⟩ := pu_g_w hf
            refine xa_iald 85 2 4 61 C rfl h27 dX0_laysLikely_84 rfl ?_
            refine ga_iadd 86 C.c dX0_laysLikely_85 rfl ?_
            refine ga_istore 88 C.c 4 (by decide) rfl dX0_laysLikely_86 rfl ?_
            obtain ⟨_, rfl, hf⟩ := pu_l1_w hf
            refine ga_aload_n 89 C.c 0 rfl rfl dX0_laysLikely_88 rfl ?_
            refine xa_get 92 0 14 C rfl (T := TX0) rfl in_X0 (by decide) q570 rfl rfl dX0_laysLikely_89 rfl ?_
            refine ga_iload 94 C.c rfl dX0_laysLikely_92 rfl ?_
            refine ga_dup2 95 C.c rfl rfl dX0_laysLikely_94 rfl ?_
            obtain ⟨h29, hf⟩ := pu_g_w hf
            refine xa_lald 96 1 12 2000 C rfl h29 dX0_laysLikely_95 rfl ?_
            refine ga_aload_n 97 C.c 0 rfl rfl dX0_laysLikely_96 rfl ?_
            refine xa_get 100 0 13 C rfl (T := TX0) rfl in_X0 (by decide) q569 rfl rfl dX0_laysLikely_97 rfl ?_
            refine ga_iload_n 101 C.c 3 rfl rfl dX0_laysLikely_100 rfl ?_
            obtain ⟨h30, hf⟩ := pu_g_w hf
            refine xa_lald 102 0 11 2000 C rfl h30 dX0_laysLikely_101 rfl ?_
            refine ga_bipush 104 C.c (v := 10) (by decide) dX0_laysLikely_102 rfl ?_
            refine ga_aload_n 105 C.c 0 rfl rfl dX0_laysLikely_104 rfl ?_
            refine xa_get 108 0 1 C rfl (T := TX0) rfl in_X0 (by decide) q554 rfl rfl dX0_laysLikely_105 rfl ?_
            refine xd_getN 111 5 C C.rv (T := TX2) (N := 8) rfl in_X2 (by decide) q409 rfl rfl dX0_laysLikely_108 rfl ?_
            refine ga_isub 112 C.c dX0_laysLikely_111 rfl ?_
            refine ga_i2l 113 C.c dX0_laysLikely_112 rfl ?_
            refine ga_lmul 114 C.c dX0_laysLikely_113 rfl ?_
            refine ga_ladd 115 C.c dX0_laysLikely_114 rfl ?_
            obtain ⟨h31, hf⟩ := pu_g_w hf
            refine xa_last 116 1 12 2000 C rfl (xa_seta12 _ _) h31 dX0_laysLikely_115 rfl ?_
            refine ga_aload_n 117 C.c 0 rfl rfl dX0_laysLikely_116 rfl ?_
            refine xa_get 120 0 14 C rfl (T := TX0) rfl in_X0 (by decide) q570 rfl rfl dX0_laysLikely_117 rfl ?_
            refine ga_iload 122 C.c rfl dX0_laysLikely_120 rfl ?_
            refine ga_aload_n 123 C.c 0 rfl rfl dX0_laysLikely_122 rfl ?_
            refine xa_get 126 0 1 C rfl (T := TX0) rfl in_X0 (by decide) q554 rfl rfl dX0_laysLikely_123 rfl ?_
            refine xd_getN 129 6 C C.rv (T := TX2) (N := 8) rfl in_X2 (by decide) q413 rfl rfl dX0_laysLikely_126 rfl ?_
            refine ga_iadd 130 C.c dX0_laysLikely_129 rfl ?_
            refine ga_dup2 131 C.c rfl rfl dX0_laysLikely_130 rfl ?_
            obtain ⟨h33, hf⟩ := pu_g_w hf
            refine xa_lald 132 1 12 2000 C rfl h33 dX0_laysLikely_131 rfl ?_
            refine ga_aload_n 133 C.c 0 rfl rfl dX0_laysLikely_132 rfl ?_
            refine xa_get 136 0 13 C rfl (T := TX0) rfl in_X0 (by decide) q569 rfl rfl dX0_laysLikely_133 rfl ?_
            refine ga_iload_n 137 C.c 3 rfl rfl dX0_laysLikely_136 rfl ?_
            obtain ⟨h34, hf⟩ := pu_g_w hf
            refine xa_lald 138 0 11 2000 C rfl h34 dX0_laysLikely_137 rfl ?_
            refine ga_aload_n 139 C.c 0 rfl rfl dX0_laysLikely_138 rfl ?_
            refine xa_get 142 0 1 C rfl (T := TX0) rfl in_X0 (by decide) q554 rfl rfl dX0_laysLikely_139 rfl ?_
            refine xd_getN 145 5 C C.rv (T := TX2) (N := 8) rfl in_X2 (by decide) q409 rfl rfl dX0_laysLikely_142 rfl ?_
            refine ga_i2l 146 C.c dX0_laysLikely_145 rfl ?_
            refine ga_lmul 147 C.c dX0_laysLikely_146 rfl ?_
            refine ga_ladd 148 C.c dX0_laysLikely_147 rfl ?_
            obtain ⟨h35, hf⟩ := pu_g_w hf
            refine xa_last 149 1 12 2000 C rfl (xa_seta12 _ _) h35 dX0_laysLikely_148 rfl ?_
            refine ga_iinc 152 C.c (v := v18 + 1) rfl rfl (by decide) rfl dX0_laysLikely_149 rfl ?_
            refine ga_goto 48 C.c dX0_laysLikely_152 (by decide) ?_
            exact ga_W.sub (kc20 _ (Option.some.inj hf).symm) (And.intro rfl (And.intro rfl (And.intro rfl (And.intro rfl trivial))))
          · have hf := pu_pos c hf
            refine ga_goto 149 C.c dX0_laysLikely_66 (by decide) ?_
            refine ga_iinc 152 C.c (v := v18 + 1) rfl rfl (by decide) rfl dX0_laysLikely_149 rfl ?_
            refine ga_goto 48 C.c dX0_laysLikely_152 (by decide) ?_
            exact ga_W.sub (kc20 _ (Option.some.inj hf).symm) (And.intro rfl (And.intro rfl (And.intro rfl (And.intro rfl trivial))))
set_option maxHeartbeats 4000000 in
theorem met_X0_mean (l : Launch) (X : XX) (z : MS) (a1 : Int32) (a2 : Int32) (r : Int64) (z9 : MS) (hf : fX0_mean (xp X) z a1 a2 = some (r, z9)) : Met l yX0_mean (ws_ yX0_mean cX0_mean 7 (some .long)) ({ frames := 131, cells := 0, slots := 0, locals := 5223 } : Room) (xw_Pc X z [.ref (xg X 0), .int a1, .int a2]) (xw_Qc X z9 (some (.long r))) 0 0 (xw_A (xg X)) := by
  refine xw_of (RX := RX0) (lo := [some (.ref (xg X 0)), some (.int a1), some (.int a2), none, none, none, none]) (by decide) rfl (Nat.le_of_ble_eq_true rfl) rfl (fun E C hr hlk hq => ?_)
  unfold fX0_mean at hf
  refine ga_aload_n 1 C.c 0 rfl rfl dX0_mean_0 rfl ?_
  refine xa_get 4 0 1 C rfl (T := TX0) rfl in_X0 (by decide) q554 rfl rfl dX0_mean_1 rfl ?_
  refine xa_ris 7 C q997 (Nat.le_of_ble_eq_true rfl) (Nat.le_of_ble_eq_true rfl) (Nat.le_of_ble_eq_true rfl) dX0_mean_4 rfl ?_
  refine ga_if_eq 29 10 C.c dX0_mean_7 (by decide) rfl (fun c => ?_) (fun c => ?_)
  · have hf := pu_pos c hf
    refine ga_ldc2 32 C.c C.ow (C.ts _ q1229) dX0_mean_29 rfl ?_
    have hf := Option.some.inj hf
    cases hf
    exact xw_lret C hr hlk hq rfl rfl dX0_mean_32
  · have hf := pu_neg c hf
    refine ga_iload_n 11 C.c 1 rfl rfl dX0_mean_10 rfl ?_
    refine ga_i2l 12 C.c dX0_mean_11 rfl ?_
    refine ga_lconst 13 C.c (v := 0) (by decide) dX0_mean_12 rfl ?_
    refine ga_ldc2 16 C.c C.ow (C.ts _ q1225) dX0_mean_13 rfl ?_
    refine xa_callS 19 C (as := [.long a1.toInt64, .long 0, .long 14]) (met_X0_in (eL E) _ _ _) (lw_S q136 q137 q93 q138) cd_X0_in rfl (Nat.le_of_ble_eq_true rfl) (Nat.le_of_ble_eq_true rfl) (Nat.le_of_ble_eq_true rfl) dX0_mean_16 rfl ?_
    refine ga_if_eq 29 22 C.c dX0_mean_19 (by decide) rfl (fun c => ?_) (fun c => ?_)
    · have hf := pu_pos c hf
      refine ga_ldc2 32 C.c C.ow (C.ts _ q1229) dX0_mean_29 rfl ?_
      have hf := Option.some.inj hf
      cases hf
      exact xw_lret C hr hlk hq rfl rfl dX0_mean_32
    · have hf := pu_neg c hf
      refine ga_iload_n 23 C.c 2 rfl rfl dX0_mean_22 rfl ?_
      refine xa_callS 26 C (as := [.int a2]) (met_X0_isBit (eL E) _) (lw_S q1226 q1227 q93 q1228) cd_X0_isBit rfl (Nat.le_of_ble_eq_true rfl) (Nat.le_of_ble_eq_true rfl) (Nat.le_of_ble_eq_true rfl) dX0_mean_23 rfl ?_
      refine ga_if_ne 33 29 C.c dX0_mean_26 (by decide) rfl (fun c => ?_) (fun c => ?_)
      · have hf := pu_neg c hf
        refine ga_aload_n 34 C.c 0 rfl rfl dX0_mean_33 rfl ?_
        refine ga_iload_n 35 C.c 1 rfl rfl dX0_mean_34 rfl ?_
        obtain ⟨z1, hc2, hf⟩ := pu_b1_w hf
        refine xa_callV 38 0 C (as := [.int a1]) (met_X0_laysLikely (eL E) X _ _ _ hc2) rfl (T := TX0) rfl (lw_V q1230 q1232 qs34 q93 q1233) cd_X0_laysLikely rfl (Nat.le_of_ble_eq_true rfl) (Nat.le_of_ble_eq_true rfl) (Nat.le_of_ble_eq_true rfl) dX0_mean_35 rfl ?_
        refine ga_lconst 39 C.c (v := 0) (by decide) dX0_mean_38 rfl ?_
        refine ga_lstore_n 40 C.c 3 rfl (by decide) rfl dX0_mean_39 rfl ?_
        refine ga_iconst 41 C.c (v := 0) (by decide) dX0_mean_40 rfl ?_
        refine ga_istore 43 C.c 5 (by decide) rfl dX0_mean_41 rfl ?_
        obtain ⟨v16, hi13, hf⟩ := pu_b1_w hf
        refine ga_cut 71 (I2 := xw_I E X z1) (k2 := 0) (n2 := 0) (lo2 := [none, some (.int a1), some (.int a2), some (.long v16), none, none, none]) (st2 := []) ?_ (fun hj12 => ?_)
        · refine ga_ldc2 74 C.c C.ow (C.ts _ q1238) dX0_mean_71 rfl ?_
          refine ga_iload_n 75 C.c 1 rfl rfl dX0_mean_74 rfl ?_
          obtain ⟨v17, hc18, hf⟩ := pu_b1_w hf
          refine xa_callS 78 C (as := [.long 10, .int a1]) (met_X0_power (eL E) _ _ _ hc18) (lw_S q1239 q1240 q93 q1241) cd_X0_power rfl (Nat.le_of_ble_eq_true rfl) (Nat.le_of_ble_eq_true rfl) (Nat.le_of_ble_eq_true rfl) dX0_mean_75 rfl ?_
          refine ga_lstore 80 C.c 5 (by decide) rfl dX0_mean_78 rfl ?_
          refine ga_iload_n 81 C.c 2 rfl rfl dX0_mean_80 rfl ?_
          refine ga_if_ne 88 84 C.c dX0_mean_81 (by decide) rfl (fun c => ?_) (fun c => ?_)
          · have hf := pu_neg c hf
            refine ga_lload 90 C.c rfl dX0_mean_88 rfl ?_
            refine ga_lload_n 91 C.c 3 rfl rfl dX0_mean_90 rfl ?_
            refine ga_lload 93 C.c rfl dX0_mean_91 rfl ?_
            obtain ⟨v19, hc20, hf⟩ := pu_b1_w hf
            refine xa_callS 96 C (as := [.long v16, .long v17]) (met_X0_common (eL E) _ _ _ hc20) (lw_S q1242 q1243 q93 q1244) cd_X0_common rfl (Nat.le_of_ble_eq_true rfl) (Nat.le_of_ble_eq_true rfl) (Nat.le_of_ble_eq_true rfl) dX0_mean_93 rfl ?_
            obtain ⟨h21, hf⟩ := pu_zl_w hf
            refine ga_ldiv 97 C.c h21 dX0_mean_96 rfl ?_
            have hf := Option.some.inj hf
            cases hf
            exact xw_lret C hr hlk hq rfl rfl dX0_mean_97
          · have hf := pu_pos c hf
            refine ga_lload_n 85 C.c 3 rfl rfl dX0_mean_84 rfl ?_
            refine ga_goto 90 C.c dX0_mean_85 (by decide) ?_
            refine ga_lload_n 91 C.c 3 rfl rfl dX0_mean_90 rfl ?_
            refine ga_lload 93 C.c rfl dX0_mean_91 rfl ?_
            obtain ⟨v22, hc23, hf⟩ := pu_b1_w hf
            refine xa_callS 96 C (as := [.long v16, .long v17]) (met_X0_common (eL E) _ _ _ hc23) (lw_S q1242 q1243 q93 q1244) cd_X0_common rfl (Nat.le_of_ble_eq_true rfl) (Nat.le_of_ble_eq_true rfl) (Nat.le_of_ble_eq_true rfl) dX0_mean_93 rfl ?_
            obtain ⟨h24, hf⟩ := pu_zl_w hf
            refine ga_ldiv 97 C.c h24 dX0_mean_96 rfl ?_
            have hf := Option.some.inj hf
            cases hf
            exact xw_lret C hr hlk hq rfl rfl dX0_mean_97
        · refine ga_W.sub (pu_it_w (Wd := fun (q : Int64 × Int32) => ga_W E 7 (xw_I E X z1) 0 0 43 [some (.ref (xg X 0)), some (.int a1), some (.int a2), some (.long q.1), none, some (.int q.2), none] []) (Wx := fun e => e = (v16)) (fun q x hf kc8 kx9 => ?_) hi13 rfl) (And.intro rfl (And.intro rfl (And.intro rfl (And.intro rfl (And.intro rfl trivial)))))
          obtain ⟨v6, v7⟩ := q
          try dsimp only
          unfold fX0_mean_L43 at hf
          refine ga_iload 45 C.c rfl dX0_mean_43 rfl ?_
          refine ga_sipush 48 C.c (v := 2000) (by decide) dX0_mean_45 rfl ?_
          refine ga_icmp_ge 71 51 C.c dX0_mean_48 (by decide) rfl (fun c => ?_) (fun c => ?_)
          · have hf := pu_pos c hf
            cases (kx9 _ (Option.some.inj hf).symm)
            exact ga_W.sub hj12 (And.intro rfl (And.intro rfl (And.intro rfl trivial)))
          · have hf := pu_neg c hf
            refine ga_lload_n 52 C.c 3 rfl rfl dX0_mean_51 rfl ?_
            refine ga_iload 54 C.c rfl dX0_mean_52 rfl ?_
            refine ga_i2l 55 C.c dX0_mean_54 rfl ?_
            refine ga_aload_n 56 C.c 0 rfl rfl dX0_mean_55 rfl ?_
            refine xa_get 59 0 13 C rfl (T := TX0) rfl in_X0 (by decide) q569 rfl rfl dX0_mean_56 rfl ?_
            refine ga_iload 61 C.c rfl dX0_mean_59 rfl ?_
            obtain ⟨h14, hf⟩ := pu_g_w hf
            refine xa_lald 62 0 11 2000 C rfl h14 dX0_mean_61 rfl ?_
            refine ga_lmul 63 C.c dX0_mean_62 rfl ?_
            refine ga_ladd 64 C.c dX0_mean_63 rfl ?_
            refine ga_lstore_n 65 C.c 3 rfl (by decide) rfl dX0_mean_64 rfl ?_
            obtain ⟨_, rfl, hf⟩ := pu_l1_w hf
            refine ga_iinc 68 C.c (v := v7 + 1) rfl rfl (by decide) rfl dX0_mean_65 rfl ?_
            refine ga_goto 43 C.c dX0_mean_68 (by decide) ?_
            exact ga_W.sub (kc8 _ (Option.some.inj hf).symm) (And.intro rfl (And.intro rfl (And.intro rfl (And.intro rfl (And.intro rfl trivial)))))
      · have hf := pu_pos c hf
        refine ga_ldc2 32 C.c C.ow (C.ts _ q1229) dX0_mean_29 rfl ?_
        have hf := Option.some.inj hf
        cases hf
        exact xw_lret C hr hlk hq rfl rfl dX0_mean_32
set_option maxHeartbeats 4000000 in
theorem met_X0_hasOf (l : Launch) (a1 : Int32) (a2 : Int32) : Met l yX0_hasOf (ws_ yX0_hasOf cX0_hasOf 2 (some .int)) ({ frames := 0, cells := 0, slots := 0, locals := 0 } : Room) (ps_Pc [.int a1, .int a2]) (ps_Qc (some (.int (fX0_hasOf a1 a2)))) 0 0 (fun _ => False) := by
  obtain ⟨r, hf⟩ : ∃ r, fX0_hasOf a1 a2 = r := ⟨_, rfl⟩
  rw [hf]
  refine ps_of (RX := RX0) (lo := [some (.int a1), some (.int a2)]) (by decide) rfl (Nat.le_of_ble_eq_true rfl) rfl (fun E C hr hlk hq => ?_)
  unfold fX0_hasOf at hf
  refine ga_bipush 2 C.c (v := 6) (by decide) dX0_hasOf_0 rfl ?_
  refine ga_iload_n 3 C.c 0 rfl rfl dX0_hasOf_2 rfl ?_
  refine ga_imul 4 C.c dX0_hasOf_3 rfl ?_
  refine ga_iload_n 5 C.c 0 rfl rfl dX0_hasOf_4 rfl ?_
  refine ga_iload_n 6 C.c 0 rfl rfl dX0_hasOf_5 rfl ?_
  refine ga_iload_n 7 C.c 1 rfl rfl dX0_hasOf_6 rfl ?_
  refine ga_iadd 8 C.c dX0_hasOf_7 rfl ?_
  refine ga_imul 9 C.c dX0_hasOf_8 rfl ?_
  refine ga_isub 10 C.c dX0_hasOf_9 rfl ?_
  cases hf
  exact ps_iret C hr hlk hq rfl rfl dX0_hasOf_10
set_option maxHeartbeats 4000000 in
theorem met_X0_answer (l : Launch) (X : XX) (z : MS) (a1 : Int32) (r : Int32) (hf : fX0_answer (xp X) z a1 = some r) : Met l yX0_answer (ws_ yX0_answer cX0_answer 4 (some .int)) ({ frames := 1, cells := 0, slots := 0, locals := 25 } : Room) (xw_Pc X z [.ref (xg X 0), .int a1]) (xw_Qc X z (some (.int r))) 0 0 (xw_A (xg X)) := by
  refine xw_of (RX := RX0) (lo := [some (.ref (xg X 0)), some (.int a1), none, none]) (by decide) rfl (Nat.le_of_ble_eq_true rfl) rfl (fun E C hr hlk hq => ?_)
  unfold fX0_answer at hf
  refine ga_iload_n 1 C.c 1 rfl rfl dX0_answer_0 rfl ?_
  refine ga_i2l 2 C.c dX0_answer_1 rfl ?_
  refine ga_lconst 3 C.c (v := 0) (by decide) dX0_answer_2 rfl ?_
  refine ga_ldc2 6 C.c C.ow (C.ts _ q1249) dX0_answer_3 rfl ?_
  refine xa_callS 9 C (as := [.long a1.toInt64, .long 0, .long 4]) (met_X0_in (eL E) _ _ _) (lw_S q136 q137 q93 q138) cd_X0_in rfl (Nat.le_of_ble_eq_true rfl) (Nat.le_of_ble_eq_true rfl) (Nat.le_of_ble_eq_true rfl) dX0_answer_6 rfl ?_
  refine ga_if_ne 15 12 C.c dX0_answer_9 (by decide) rfl (fun c => ?_) (fun c => ?_)
  · have hf := pu_neg c hf
    refine ga_iconst 16 C.c (v := 0) (by decide) dX0_answer_15 rfl ?_
    refine ga_istore_n 17 C.c 2 rfl (by decide) rfl dX0_answer_16 rfl ?_
    refine ga_iconst 18 C.c (v := 1) (by decide) dX0_answer_17 rfl ?_
    refine ga_istore_n 19 C.c 3 rfl (by decide) rfl dX0_answer_18 rfl ?_
    obtain ⟨v11, hi10, hf⟩ := pu_b1_w hf
    refine ga_cut 45 (I2 := xw_I E X z) (k2 := 0) (n2 := 0) (lo2 := [none, none, some (.int v11), none]) (st2 := []) ?_ (fun hj9 => ?_)
    · refine ga_iload_n 46 C.c 2 rfl rfl dX0_answer_45 rfl ?_
      have hf := Option.some.inj hf
      cases hf
      exact xw_iret C hr hlk hq rfl rfl rfl dX0_answer_46
    · refine ga_W.sub (pu_it_w (Wd := fun (q : Int32 × Int32) => ga_W E 4 (xw_I E X z) 0 0 19 [none, some (.int a1), some (.int q.1), some (.int q.2)] []) (Wx := fun e => e = (v11)) (fun q x hf kc5 kx6 => ?_) hi10 rfl) (And.intro rfl (And.intro rfl (And.intro rfl trivial)))
      obtain ⟨v3, v4⟩ := q
      try dsimp only
      unfold fX0_answer_L19 at hf
      refine ga_iload_n 20 C.c 3 rfl rfl dX0_answer_19 rfl ?_
      refine ga_iconst 21 C.c (v := 4) (by decide) dX0_answer_20 rfl ?_
      refine ga_icmp_gt 45 24 C.c dX0_answer_21 (by decide) rfl (fun c => ?_) (fun c => ?_)
      · have hf := pu_pos c hf
        cases (kx6 _ (Option.some.inj hf).symm)
        exact ga_W.sub hj9 (And.intro rfl trivial)
      · have hf := pu_neg c hf
        refine ga_iload_n 25 C.c 3 rfl rfl dX0_answer_24 rfl ?_
        refine ga_iload_n 26 C.c 1 rfl rfl dX0_answer_25 rfl ?_
        refine xa_callS 29 C (as := [.int v4, .int a1]) (met_X0_hasOf (eL E) _ _) (lw_S q1250 q1251 q93 q1252) cd_X0_hasOf rfl (Nat.le_of_ble_eq_true rfl) (Nat.le_of_ble_eq_true rfl) (Nat.le_of_ble_eq_true rfl) dX0_answer_26 rfl ?_
        refine ga_iload_n 30 C.c 2 rfl rfl dX0_answer_29 rfl ?_
        refine ga_iload_n 31 C.c 1 rfl rfl dX0_answer_30 rfl ?_
        refine xa_callS 34 C (as := [.int v3, .int a1]) (met_X0_hasOf (eL E) _ _) (lw_S q1250 q1251 q93 q1252) cd_X0_hasOf rfl (Nat.le_of_ble_eq_true rfl) (Nat.le_of_ble_eq_true rfl) (Nat.le_of_ble_eq_true rfl) dX0_answer_31 rfl ?_
        refine ga_icmp_le 39 37 C.c dX0_answer_34 (by decide) rfl (fun c => ?_) (fun c => ?_)
        · have hf := pu_pos c hf
          refine ga_iinc 42 C.c (v := v4 + 1) rfl rfl (by decide) rfl dX0_answer_39 rfl ?_
          refine ga_goto 19 C.c dX0_answer_42 (by decide) ?_
          exact ga_W.sub (kc5 _ (Option.some.inj hf).symm) (And.intro rfl (And.intro rfl (And.intro rfl trivial)))
        · have hf := pu_neg c hf
          refine ga_iload_n 38 C.c 3 rfl rfl dX0_answer_37 rfl ?_
          refine ga_istore_n 39 C.c 2 rfl (by decide) rfl dX0_answer_38 rfl ?_
          refine ga_iinc 42 C.c (v := v4 + 1) rfl rfl (by decide) rfl dX0_answer_39 rfl ?_
          refine ga_goto 19 C.c dX0_answer_42 (by decide) ?_
          exact ga_W.sub (kc5 _ (Option.some.inj hf).symm) (And.intro rfl (And.intro rfl (And.intro rfl trivial)))
  · have hf := pu_pos c hf
    refine ga_bipush 14 C.c (v := (-2)) (by decide) dX0_answer_12 rfl ?_
    have hf := Option.some.inj hf
    cases hf
    exact xw_iret C hr hlk hq rfl rfl rfl dX0_answer_14
set_option maxHeartbeats 4000000 in
theorem met_X0_rain (l : Launch) (X : XX) (z : MS) (a1 : Int32) (a2 : Int32) (r : Int32) (hf : fX0_rain (xp X) z a1 a2 = some r) : Met l yX0_rain (ws_ yX0_rain cX0_rain 4 (some .int)) ({ frames := 3, cells := 0, slots := 0, locals := 81 } : Room) (xw_Pc X z [.ref (xg X 0), .int a1, .int a2]) (xw_Qc X z (some (.int r))) 0 0 (xw_A (xg X)) := by
  refine xw_of (RX := RX0) (lo := [some (.ref (xg X 0)), some (.int a1), some (.int a2), none]) (by decide) rfl (Nat.le_of_ble_eq_true rfl) rfl (fun E C hr hlk hq => ?_)
  unfold fX0_rain at hf
  refine ga_iload_n 1 C.c 1 rfl rfl dX0_rain_0 rfl ?_
  refine ga_i2l 2 C.c dX0_rain_1 rfl ?_
  refine ga_lconst 3 C.c (v := 0) (by decide) dX0_rain_2 rfl ?_
  refine ga_aload_n 4 C.c 0 rfl rfl dX0_rain_3 rfl ?_
  refine xa_get 7 0 1 C rfl (T := TX0) rfl in_X0 (by decide) q554 rfl rfl dX0_rain_4 rfl ?_
  refine xd_getN 10 2 C C.rv (T := TX2) (N := 8) rfl in_X2 (by decide) q398 rfl rfl dX0_rain_7 rfl ?_
  refine xa_size 15 2 C (by decide) q1018 (Nat.le_of_ble_eq_true rfl) (Nat.le_of_ble_eq_true rfl) (Nat.le_of_ble_eq_true rfl) dX0_rain_10 rfl ?_
  refine ga_iconst 16 C.c (v := 1) (by decide) dX0_rain_15 rfl ?_
  refine ga_isub 17 C.c dX0_rain_16 rfl ?_
  refine ga_i2l 18 C.c dX0_rain_17 rfl ?_
  refine xa_callS 21 C (as := [.long a1.toInt64, .long 0, .long (((pw (xp X) 5) - 1 : Int32).toInt64)]) (met_X0_in (eL E) _ _ _) (lw_S q136 q137 q93 q138) cd_X0_in rfl (Nat.le_of_ble_eq_true rfl) (Nat.le_of_ble_eq_true rfl) (Nat.le_of_ble_eq_true rfl) dX0_rain_18 rfl ?_
  refine ga_if_eq 31 24 C.c dX0_rain_21 (by decide) rfl (fun c => ?_) (fun c => ?_)
  · have hf := pu_pos c hf
    refine ga_bipush 33 C.c (v := (-2)) (by decide) dX0_rain_31 rfl ?_
    have hf := Option.some.inj hf
    cases hf
    exact xw_iret C hr hlk hq rfl rfl rfl dX0_rain_33
  · have hf := pu_neg c hf
    refine ga_iload_n 25 C.c 2 rfl rfl dX0_rain_24 rfl ?_
    refine xa_callS 28 C (as := [.int a2]) (met_X0_isBit (eL E) _) (lw_S q1226 q1227 q93 q1228) cd_X0_isBit rfl (Nat.le_of_ble_eq_true rfl) (Nat.le_of_ble_eq_true rfl) (Nat.le_of_ble_eq_true rfl) dX0_rain_25 rfl ?_
    refine ga_if_ne 34 31 C.c dX0_rain_28 (by decide) rfl (fun c => ?_) (fun c => ?_)
    · have hf := pu_neg c hf
      refine ga_aload_n 35 C.c 0 rfl rfl dX0_rain_34 rfl ?_
      refine xa_get 38 0 1 C rfl (T := TX0) rfl in_X0 (by decide) q554 rfl rfl dX0_rain_35 rfl ?_
      refine xd_getN 41 2 C C.rv (T := TX2) (N := 8) rfl in_X2 (by decide) q398 rfl rfl dX0_rain_38 rfl ?_
      refine ga_iload_n 42 C.c 1 rfl rfl dX0_rain_41 rfl ?_
      obtain ⟨h1, hf⟩ := pu_g_w hf
      refine xa_lget 47 2 C (by decide) h1 q1025 (Nat.le_of_ble_eq_true rfl) (Nat.le_of_ble_eq_true rfl) (Nat.le_of_ble_eq_true rfl) dX0_rain_42 rfl ?_
      refine xd_cast 50 C (C.d2 (vp_in_lt h1)) (T := TX11) rfl q1257 dX0_rain_47 rfl ?_
      refine ga_astore_n 51 C.c 3 rfl (by decide) rfl dX0_rain_50 rfl ?_
      refine ga_iload_n 52 C.c 2 rfl rfl dX0_rain_51 rfl ?_
      refine ga_if_ne 62 55 C.c dX0_rain_52 (by decide) rfl (fun c => ?_) (fun c => ?_)
      · have hf := pu_neg c hf
        refine ga_aload_n 63 C.c 3 rfl rfl dX0_rain_62 rfl ?_
        refine xd_getN 66 1 C (C.d2 (vp_in_lt h1)) (T := TX11) (N := 2) rfl in_X11 (by decide) q940 rfl rfl dX0_rain_63 rfl ?_
        have hf := Option.some.inj hf
        cases hf
        exact xw_iret C hr hlk hq rfl rfl rfl dX0_rain_66
      · have hf := pu_pos c hf
        refine ga_aload_n 56 C.c 3 rfl rfl dX0_rain_55 rfl ?_
        refine xd_getN 59 0 C (C.d2 (vp_in_lt h1)) (T := TX11) (N := 2) rfl in_X11 (by decide) q937 rfl rfl dX0_rain_56 rfl ?_
        refine ga_goto 66 C.c dX0_rain_59 (by decide) ?_
        have hf := Option.some.inj hf
        cases hf
        exact xw_iret C hr hlk hq rfl rfl rfl dX0_rain_66
    · have hf := pu_pos c hf
      refine ga_bipush 33 C.c (v := (-2)) (by decide) dX0_rain_31 rfl ?_
      have hf := Option.some.inj hf
      cases hf
      exact xw_iret C hr hlk hq rfl rfl rfl dX0_rain_33
set_option maxHeartbeats 4000000 in
theorem met_X0_level (l : Launch) (X : XX) (z : MS) (a1 : Int32) (r : Int32) (z9 : MS) (hf : fX0_level (xp X) z a1 = some (r, z9)) : Met l yX0_level (ws_ yX0_level cX0_level 2 (some .int)) ({ frames := 4, cells := 0, slots := 0, locals := 103 } : Room) (xw_Pc X z [.ref (xg X 0), .int a1]) (xw_Qc X z9 (some (.int r))) 0 0 (xw_A (xg X)) := by
  refine xw_of (RX := RX0) (lo := [some (.ref (xg X 0)), some (.int a1)]) (by decide) rfl (Nat.le_of_ble_eq_true rfl) rfl (fun E C hr hlk hq => ?_)
  unfold fX0_level at hf
  refine ga_aload_n 1 C.c 0 rfl rfl dX0_level_0 rfl ?_
  refine ga_iload_n 2 C.c 1 rfl rfl dX0_level_1 rfl ?_
  refine ga_i2l 3 C.c dX0_level_2 rfl ?_
  refine xa_callV 6 0 C (as := [.long a1.toInt64]) (met_X0_isStep (eL E) X _ _) rfl (T := TX0) rfl (lw_V q1123 q1125 qs31 q93 q1126) cd_X0_isStep rfl (Nat.le_of_ble_eq_true rfl) (Nat.le_of_ble_eq_true rfl) (Nat.le_of_ble_eq_true rfl) dX0_level_3 rfl ?_
  refine ga_if_eq 24 9 C.c dX0_level_6 (by decide) rfl (fun c => ?_) (fun c => ?_)
  · have hf := pu_pos c hf
    refine ga_bipush 26 C.c (v := (-2)) (by decide) dX0_level_24 rfl ?_
    have hf := Option.some.inj hf
    cases hf
    exact xw_iret C hr hlk hq rfl rfl rfl dX0_level_26
  · have hf := pu_neg c hf
    refine ga_aload_n 10 C.c 0 rfl rfl dX0_level_9 rfl ?_
    refine xa_get 13 0 7 C rfl (T := TX0) rfl in_X0 (by decide) q562 rfl rfl dX0_level_10 rfl ?_
    obtain ⟨z1, hc2, hf⟩ := pu_b1_w hf
    refine xa_callV 16 2 C (as := []) (met_X3_is (eL E) X _ _ hc2) rfl (T := TX3) rfl (lw_V q1059 q1060 q1061 q99 q1062) cd_X3_is rfl (Nat.le_of_ble_eq_true rfl) (Nat.le_of_ble_eq_true rfl) (Nat.le_of_ble_eq_true rfl) dX0_level_13 rfl ?_
    refine xa_getN 19 2 0 C rfl (T := TX3) rfl in_X3 (by decide) q442 rfl rfl dX0_level_16 rfl ?_
    refine ga_iload_n 20 C.c 1 rfl rfl dX0_level_19 rfl ?_
    obtain ⟨h3, hf⟩ := pu_g_w hf
    refine xa_iald 21 1 3 61 C rfl h3 dX0_level_20 rfl ?_
    refine ga_goto 26 C.c dX0_level_21 (by decide) ?_
    have hf := Option.some.inj hf
    cases hf
    exact xw_iret C hr hlk hq rfl rfl rfl dX0_level_26
set_option maxHeartbeats 4000000 in
theorem met_X0_dry (l : Launch) (X : XX) (z : MS) (a1 : Int32) (r : Int32) (z9 : MS) (hf : fX0_dry (xp X) z a1 = some (r, z9)) : Met l yX0_dry (ws_ yX0_dry cX0_dry 3 (some .int)) ({ frames := 5, cells := 0, slots := 0, locals := 124 } : Room) (xw_Pc X z [.ref (xg X 0), .int a1]) (xw_Qc X z9 (some (.int r))) 0 0 (xw_A (xg X)) := by
  refine xw_of (RX := RX0) (lo := [some (.ref (xg X 0)), some (.int a1), none]) (by decide) rfl (Nat.le_of_ble_eq_true rfl) rfl (fun E C hr hlk hq => ?_)
  unfold fX0_dry at hf
  refine ga_aload_n 1 C.c 0 rfl rfl dX0_dry_0 rfl ?_
  refine ga_iload_n 2 C.c 1 rfl rfl dX0_dry_1 rfl ?_
  refine ga_i2l 3 C.c dX0_dry_2 rfl ?_
  refine xa_callV 6 0 C (as := [.long a1.toInt64]) (met_X0_isReach (eL E) X _ _) rfl (T := TX0) rfl (lw_V q1009 q1011 qs22 q93 q1012) cd_X0_isReach rfl (Nat.le_of_ble_eq_true rfl) (Nat.le_of_ble_eq_true rfl) (Nat.le_of_ble_eq_true rfl) dX0_dry_3 rfl ?_
  refine ga_if_ne 12 9 C.c dX0_dry_6 (by decide) rfl (fun c => ?_) (fun c => ?_)
  · have hf := pu_neg c hf
    refine ga_aload_n 13 C.c 0 rfl rfl dX0_dry_12 rfl ?_
    refine xa_get 16 0 7 C rfl (T := TX0) rfl in_X0 (by decide) q562 rfl rfl dX0_dry_13 rfl ?_
    obtain ⟨z1, hc2, hf⟩ := pu_b1_w hf
    refine xa_callV 19 2 C (as := []) (met_X3_is (eL E) X _ _ hc2) rfl (T := TX3) rfl (lw_V q1059 q1060 q1061 q99 q1062) cd_X3_is rfl (Nat.le_of_ble_eq_true rfl) (Nat.le_of_ble_eq_true rfl) (Nat.le_of_ble_eq_true rfl) dX0_dry_16 rfl ?_
    refine ga_pop 20 C.c rfl dX0_dry_19 rfl ?_
    refine ga_iconst 21 C.c (v := 0) (by decide) dX0_dry_20 rfl ?_
    refine ga_istore_n 22 C.c 2 rfl (by decide) rfl dX0_dry_21 rfl ?_
    obtain ⟨y14, hi11, hr8, hs9⟩ := pu_s_w hf
    refine ga_cutP (P := y14 = .inl () → ga_W E 3 (xw_I E X z1) 0 0 48 [none, none, none] []) (fun hy => ?_) (fun hj10 => ?_)
    · have hf := hr8 _ hy
      refine ga_iconst 49 C.c (v := (-1)) (by decide) dX0_dry_48 rfl ?_
      have hf := Option.some.inj hf
      cases hf
      exact xw_iret C hr hlk hq rfl rfl rfl dX0_dry_49
    · refine ga_W.sub (pu_it_w (Wd := fun (q : Int32) => ga_W E 3 (xw_I E X z1) 0 0 22 [some (.ref (xg X 0)), some (.int a1), some (.int q)] []) (Wx := fun e => e = y14) (fun v5 x hf kc6 kx7 => ?_) hi11 rfl) (And.intro rfl (And.intro rfl (And.intro rfl trivial)))
      try dsimp only
      unfold fX0_dry_L22 at hf
      refine ga_iload_n 23 C.c 2 rfl rfl dX0_dry_22 rfl ?_
      refine ga_bipush 25 C.c (v := 60) (by decide) dX0_dry_23 rfl ?_
      refine ga_icmp_gt 48 28 C.c dX0_dry_25 (by decide) rfl (fun c => ?_) (fun c => ?_)
      · have hf := pu_pos c hf
        exact ga_W.sub (hj10 (kx7 _ (Option.some.inj hf).symm).symm) trivial
      · have hf := pu_neg c hf
        refine ga_aload_n 29 C.c 0 rfl rfl dX0_dry_28 rfl ?_
        refine xa_get 32 0 7 C rfl (T := TX0) rfl in_X0 (by decide) q562 rfl rfl dX0_dry_29 rfl ?_
        refine ga_iload_n 33 C.c 1 rfl rfl dX0_dry_32 rfl ?_
        refine ga_iload_n 34 C.c 2 rfl rfl dX0_dry_33 rfl ?_
        obtain ⟨v12, hc13, hf⟩ := pu_b1_w hf
        refine xa_callV 37 2 C (as := [.int a1, .int v5]) (met_X3_isStanding (eL E) X _ _ _ _ hc13) rfl (T := TX3) rfl (lw_V q1081 q1082 q1083 q99 q1084) cd_X3_isStanding rfl (Nat.le_of_ble_eq_true rfl) (Nat.le_of_ble_eq_true rfl) (Nat.le_of_ble_eq_true rfl) dX0_dry_34 rfl ?_
        refine ga_if_eq 42 40 C.c dX0_dry_37 (by decide) rfl (fun c => ?_) (fun c => ?_)
        · have hf := pu_pos c hf
          refine ga_iinc 45 C.c (v := v5 + 1) rfl rfl (by decide) rfl dX0_dry_42 rfl ?_
          refine ga_goto 22 C.c dX0_dry_45 (by decide) ?_
          exact ga_W.sub (kc6 _ (Option.some.inj hf).symm) (And.intro rfl (And.intro rfl (And.intro rfl trivial)))
        · have hf := pu_neg c hf
          refine ga_iload_n 41 C.c 2 rfl rfl dX0_dry_40 rfl ?_
          have hf := Option.some.inj hf
          have hf := hs9 _ (kx7 _ hf.symm).symm
          cases hf
          exact xw_iret C hr hlk hq rfl rfl rfl dX0_dry_41
  · have hf := pu_pos c hf
    refine ga_bipush 11 C.c (v := (-2)) (by decide) dX0_dry_9 rfl ?_
    have hf := Option.some.inj hf
    cases hf
    exact xw_iret C hr hlk hq rfl rfl rfl dX0_dry_11
set_option maxHeartbeats 4000000 in
theorem met_X0_drought (l : Launch) (X : XX) (z : MS) (a1 : Int32) (r : Int32) (z9 : MS) (hf : fX0_drought (xp X) z a1 = some (r, z9)) : Met l yX0_drought (ws_ yX0_drought cX0_drought 5 (some .int)) ({ frames := 5, cells := 0, slots := 0, locals := 124 } : Room) (xw_Pc X z [.ref (xg X 0), .int a1]) (xw_Qc X z9 (some (.int r))) 0 0 (xw_A (xg X)) := by
  refine xw_of (RX := RX0) (lo := [some (.ref (xg X 0)), some (.int a1), none, none, none]) (by decide) rfl (Nat.le_of_ble_eq_true rfl) rfl (fun E C hr hlk hq => ?_)
  unfold fX0_drought at hf
  refine ga_aload_n 1 C.c 0 rfl rfl dX0_drought_0 rfl ?_
  refine ga_iload_n 2 C.c 1 rfl rfl dX0_drought_1 rfl ?_
  refine ga_i2l 3 C.c dX0_drought_2 rfl ?_
  refine xa_callV 6 0 C (as := [.long a1.toInt64]) (met_X0_isReach (eL E) X _ _) rfl (T := TX0) rfl (lw_V q1009 q1011 qs22 q93 q1012) cd_X0_isReach rfl (Nat.le_of_ble_eq_true rfl) (Nat.le_of_ble_eq_true rfl) (Nat.le_of_ble_eq_true rfl) dX0_drought_3 rfl ?_
  refine ga_if_ne 12 9 C.c dX0_drought_6 (by decide) rfl (fun c => ?_) (fun c => ?_)
  · have hf := pu_neg c hf
    refine ga_aload_n 13 C.c 0 rfl rfl dX0_drought_12 rfl ?_
    refine xa_get 16 0 7 C rfl (T := TX0) rfl in_X0 (by decide) q562 rfl rfl dX0_drought_13 rfl ?_
    obtain ⟨z1, hc2, hf⟩ := pu_b1_w hf
    refine xa_callV 19 2 C (as := []) (met_X3_is (eL E) X _ _ hc2) rfl (T := TX3) rfl (lw_V q1059 q1060 q1061 q99 q1062) cd_X3_is rfl (Nat.le_of_ble_eq_true rfl) (Nat.le_of_ble_eq_true rfl) (Nat.le_of_ble_eq_true rfl) dX0_drought_16 rfl ?_
    refine ga_pop 20 C.c rfl dX0_drought_19 rfl ?_
    refine ga_iconst 21 C.c (v := 0) (by decide) dX0_drought_20 rfl ?_
    refine ga_istore_n 22 C.c 2 rfl (by decide) rfl dX0_drought_21 rfl ?_
    refine ga_iconst 23 C.c (v := 0) (by decide) dX0_drought_22 rfl ?_
    refine ga_istore_n 24 C.c 3 rfl (by decide) rfl dX0_drought_23 rfl ?_
    refine ga_iconst 25 C.c (v := 0) (by decide) dX0_drought_24 rfl ?_
    refine ga_istore 27 C.c 4 (by decide) rfl dX0_drought_25 rfl ?_
    obtain ⟨v20, hi13, hf⟩ := pu_b1_w hf
    refine ga_cut 67 (I2 := xw_I E X z1) (k2 := 0) (n2 := 0) (lo2 := [none, none, some (.int v20), none, none]) (st2 := []) ?_ (fun hj12 => ?_)
    · refine ga_iload_n 68 C.c 2 rfl rfl dX0_drought_67 rfl ?_
      have hf := Option.some.inj hf
      cases hf
      exact xw_iret C hr hlk hq rfl rfl rfl dX0_drought_68
    · refine ga_W.sub (pu_it_w (Wd := fun (q : Int32 × Int32 × Int32) => ga_W E 5 (xw_I E X z1) 0 0 27 [some (.ref (xg X 0)), some (.int a1), some (.int q.1), some (.int q.2.1), some (.int q.2.2)] []) (Wx := fun e => e = (v20)) (fun q x hf kc8 kx9 => ?_) hi13 rfl) (And.intro rfl (And.intro rfl (And.intro rfl (And.intro rfl (And.intro rfl trivial)))))
      obtain ⟨v5, v6, v7⟩ := q
      try dsimp only
      unfold fX0_drought_L27 at hf
      refine ga_iload 29 C.c rfl dX0_drought_27 rfl ?_
      refine ga_bipush 31 C.c (v := 60) (by decide) dX0_drought_29 rfl ?_
      refine ga_icmp_gt 67 34 C.c dX0_drought_31 (by decide) rfl (fun c => ?_) (fun c => ?_)
      · have hf := pu_pos c hf
        cases (kx9 _ (Option.some.inj hf).symm)
        exact ga_W.sub hj12 (And.intro rfl trivial)
      · have hf := pu_neg c hf
        refine ga_aload_n 35 C.c 0 rfl rfl dX0_drought_34 rfl ?_
        refine xa_get 38 0 7 C rfl (T := TX0) rfl in_X0 (by decide) q562 rfl rfl dX0_drought_35 rfl ?_
        refine ga_iload_n 39 C.c 1 rfl rfl dX0_drought_38 rfl ?_
        refine ga_iload 41 C.c rfl dX0_drought_39 rfl ?_
        obtain ⟨v14, hc15, hf⟩ := pu_b1_w hf
        refine xa_callV 44 2 C (as := [.int a1, .int v7]) (met_X3_isStanding (eL E) X _ _ _ _ hc15) rfl (T := TX3) rfl (lw_V q1081 q1082 q1083 q99 q1084) cd_X3_isStanding rfl (Nat.le_of_ble_eq_true rfl) (Nat.le_of_ble_eq_true rfl) (Nat.le_of_ble_eq_true rfl) dX0_drought_41 rfl ?_
        obtain ⟨v16, hg17, hf⟩ := pu_l1_w hf
        refine ga_cut 54 (I2 := xw_I E X z1) (k2 := 0) (n2 := 0) (lo2 := [some (.ref (xg X 0)), some (.int a1), some (.int v5), none, some (.int v7)]) (st2 := [.int v16]) ?_ (fun hj18 => ?_)
        · refine ga_istore_n 55 C.c 3 rfl (by decide) rfl dX0_drought_54 rfl ?_
          refine ga_iload_n 56 C.c 2 rfl rfl dX0_drought_55 rfl ?_
          refine ga_iload_n 57 C.c 3 rfl rfl dX0_drought_56 rfl ?_
          refine ga_mmax 60 C.c C.ml C.ow (C.ts _ q1220) (C.ts _ q850) (C.ts _ q104) (C.ts _ q851) (by rw [C.rm]; exact (Nat.le_of_ble_eq_true rfl)) (by rw [C.rm]; exact (Nat.le_of_ble_eq_true rfl)) (by rw [C.rm]; exact (Nat.le_of_ble_eq_true rfl)) (by rw [C.rm]; exact (Nat.le_of_ble_eq_true rfl)) dX0_drought_57 rfl ?_
          refine ga_istore_n 61 C.c 2 rfl (by decide) rfl dX0_drought_60 rfl ?_
          obtain ⟨_, rfl, hf⟩ := pu_l1_w hf
          refine ga_iinc 64 C.c (v := v7 + 1) rfl rfl (by decide) rfl dX0_drought_61 rfl ?_
          refine ga_goto 27 C.c dX0_drought_64 (by decide) ?_
          exact ga_W.sub (kc8 _ (Option.some.inj hf).symm) (And.intro rfl (And.intro rfl (And.intro rfl (And.intro rfl (And.intro rfl trivial)))))
        · have hf := hg17
          refine ga_if_eq 53 47 C.c dX0_drought_44 (by decide) rfl (fun c => ?_) (fun c => ?_)
          · have hf := pu_pos c hf
            refine ga_iconst 54 C.c (v := 0) (by decide) dX0_drought_53 rfl ?_
            cases hf
            exact ga_W.sub hj18 (And.intro rfl (And.intro rfl (And.intro rfl (And.intro rfl trivial))))
          · have hf := pu_neg c hf
            refine ga_iload_n 48 C.c 3 rfl rfl dX0_drought_47 rfl ?_
            refine ga_iconst 49 C.c (v := 1) (by decide) dX0_drought_48 rfl ?_
            refine ga_iadd 50 C.c dX0_drought_49 rfl ?_
            refine ga_goto 54 C.c dX0_drought_50 (by decide) ?_
            cases hf
            exact ga_W.sub hj18 (And.intro rfl (And.intro rfl (And.intro rfl (And.intro rfl trivial))))
  · have hf := pu_pos c hf
    refine ga_bipush 11 C.c (v := (-2)) (by decide) dX0_drought_9 rfl ?_
    have hf := Option.some.inj hf
    cases hf
    exact xw_iret C hr hlk hq rfl rfl rfl dX0_drought_11
set_option maxHeartbeats 4000000 in
theorem met_X0_where (l : Launch) (X : XX) (z : MS) (a1 : Int32) (a2 : Int32) (a3 : Int32) (r : Int32) (z9 : MS) (hf : fX0_where (xp X) z a1 a2 a3 = some (r, z9)) : Met l yX0_where (ws_ yX0_where cX0_where 5 (some .int)) ({ frames := 7, cells := 0, slots := 0, locals := 176 } : Room) (xw_Pc X z [.ref (xg X 0), .int a1, .int a2, .int a3]) (xw_Qc X z9 (some (.int r))) 0 0 (xw_A (xg X)) := by
  refine xw_of (RX := RX0) (lo := [some (.ref (xg X 0)), some (.int a1), some (.int a2), some (.int a3), none]) (by decide) rfl (Nat.le_of_ble_eq_true rfl) rfl (fun E C hr hlk hq => ?_)
  unfold fX0_where at hf
  refine ga_aload_n 1 C.c 0 rfl rfl dX0_where_0 rfl ?_
  refine ga_iload_n 2 C.c 1 rfl rfl dX0_where_1 rfl ?_
  refine ga_iload_n 3 C.c 2 rfl rfl dX0_where_2 rfl ?_
  refine xa_callV 6 0 C (as := [.int a1, .int a2]) (met_X0_isStick (eL E) X _ _ _) rfl (T := TX0) rfl (lw_V q1132 q1134 qs32 q93 q1135) cd_X0_isStick rfl (Nat.le_of_ble_eq_true rfl) (Nat.le_of_ble_eq_true rfl) (Nat.le_of_ble_eq_true rfl) dX0_where_3 rfl ?_
  refine ga_if_eq 22 9 C.c dX0_where_6 (by decide) rfl (fun c => ?_) (fun c => ?_)
  · have hf := pu_pos c hf
    refine ga_bipush 24 C.c (v := (-2)) (by decide) dX0_where_22 rfl ?_
    have hf := Option.some.inj hf
    cases hf
    exact xw_iret C hr hlk hq rfl rfl rfl dX0_where_24
  · have hf := pu_neg c hf
    refine ga_iload_n 10 C.c 3 rfl rfl dX0_where_9 rfl ?_
    refine ga_i2l 11 C.c dX0_where_10 rfl ?_
    refine ga_iload_n 12 C.c 2 rfl rfl dX0_where_11 rfl ?_
    refine ga_i2l 13 C.c dX0_where_12 rfl ?_
    refine ga_ldc2 16 C.c C.ow (C.ts _ q1127) dX0_where_13 rfl ?_
    refine xa_callS 19 C (as := [.long a3.toInt64, .long a2.toInt64, .long 60]) (met_X0_in (eL E) _ _ _) (lw_S q136 q137 q93 q138) cd_X0_in rfl (Nat.le_of_ble_eq_true rfl) (Nat.le_of_ble_eq_true rfl) (Nat.le_of_ble_eq_true rfl) dX0_where_16 rfl ?_
    refine ga_if_ne 25 22 C.c dX0_where_19 (by decide) rfl (fun c => ?_) (fun c => ?_)
    · have hf := pu_neg c hf
      refine ga_aload_n 26 C.c 0 rfl rfl dX0_where_25 rfl ?_
      refine ga_iload_n 27 C.c 1 rfl rfl dX0_where_26 rfl ?_
      refine ga_iload_n 28 C.c 2 rfl rfl dX0_where_27 rfl ?_
      obtain ⟨z1, hc2, hf⟩ := pu_b1_w hf
      refine xa_callV 31 0 C (as := [.int a1, .int a2]) (met_X0_put (eL E) X _ _ _ _ hc2) rfl (T := TX0) rfl (lw_V q1094 q1096 qs29 q93 q1097) cd_X0_put rfl (Nat.le_of_ble_eq_true rfl) (Nat.le_of_ble_eq_true rfl) (Nat.le_of_ble_eq_true rfl) dX0_where_28 rfl ?_
      refine xa_getN 34 5 0 C rfl (T := TX4) rfl in_X4 (by decide) q486 rfl rfl dX0_where_31 rfl ?_
      refine ga_iload_n 35 C.c 3 rfl rfl dX0_where_34 rfl ?_
      obtain ⟨h3, hf⟩ := pu_g_w hf
      refine xa_iald 36 3 6 61 C rfl h3 dX0_where_35 rfl ?_
      refine ga_istore 38 C.c 4 (by decide) rfl dX0_where_36 rfl ?_
      obtain ⟨_, rfl, hf⟩ := pu_l1_w hf
      refine ga_iload 40 C.c rfl dX0_where_38 rfl ?_
      refine ga_bipush 42 C.c (v := 10) (by decide) dX0_where_40 rfl ?_
      refine ga_icmp_ge 50 45 C.c dX0_where_42 (by decide) rfl (fun c => ?_) (fun c => ?_)
      · have hf := pu_pos c hf
        refine ga_iconst 51 C.c (v := (-1)) (by decide) dX0_where_50 rfl ?_
        have hf := Option.some.inj hf
        cases hf
        exact xw_iret C hr hlk hq rfl rfl rfl dX0_where_51
      · have hf := pu_neg c hf
        refine ga_iload 47 C.c rfl dX0_where_45 rfl ?_
        refine ga_goto 51 C.c dX0_where_47 (by decide) ?_
        have hf := Option.some.inj hf
        cases hf
        exact xw_iret C hr hlk hq rfl rfl rfl dX0_where_51
    · have hf := pu_pos c hf
      refine ga_bipush 24 C.c (v := (-2)) (by decide) dX0_where_22 rfl ?_
      have hf := Option.some.inj hf
      cases hf
      exact xw_iret C hr hlk hq rfl rfl rfl dX0_where_24
set_option maxHeartbeats 4000000 in
theorem met_X0_sea (l : Launch) (X : XX) (z : MS) (a1 : Int32) (a2 : Int32) (r : Int32) (z9 : MS) (hf : fX0_sea (xp X) z a1 a2 = some (r, z9)) : Met l yX0_sea (ws_ yX0_sea cX0_sea 3 (some .int)) ({ frames := 7, cells := 0, slots := 0, locals := 176 } : Room) (xw_Pc X z [.ref (xg X 0), .int a1, .int a2]) (xw_Qc X z9 (some (.int r))) 0 0 (xw_A (xg X)) := by
  refine xw_of (RX := RX0) (lo := [some (.ref (xg X 0)), some (.int a1), some (.int a2)]) (by decide) rfl (Nat.le_of_ble_eq_true rfl) rfl (fun E C hr hlk hq => ?_)
  unfold fX0_sea at hf
  refine ga_aload_n 1 C.c 0 rfl rfl dX0_sea_0 rfl ?_
  refine ga_iload_n 2 C.c 1 rfl rfl dX0_sea_1 rfl ?_
  refine ga_iload_n 3 C.c 2 rfl rfl dX0_sea_2 rfl ?_
  refine xa_callV 6 0 C (as := [.int a1, .int a2]) (met_X0_isStick (eL E) X _ _ _) rfl (T := TX0) rfl (lw_V q1132 q1134 qs32 q93 q1135) cd_X0_isStick rfl (Nat.le_of_ble_eq_true rfl) (Nat.le_of_ble_eq_true rfl) (Nat.le_of_ble_eq_true rfl) dX0_sea_3 rfl ?_
  refine ga_if_eq 23 9 C.c dX0_sea_6 (by decide) rfl (fun c => ?_) (fun c => ?_)
  · have hf := pu_pos c hf
    refine ga_bipush 25 C.c (v := (-2)) (by decide) dX0_sea_23 rfl ?_
    have hf := Option.some.inj hf
    cases hf
    exact xw_iret C hr hlk hq rfl rfl rfl dX0_sea_25
  · have hf := pu_neg c hf
    refine ga_aload_n 10 C.c 0 rfl rfl dX0_sea_9 rfl ?_
    refine ga_iload_n 11 C.c 1 rfl rfl dX0_sea_10 rfl ?_
    refine ga_iload_n 12 C.c 2 rfl rfl dX0_sea_11 rfl ?_
    obtain ⟨z1, hc2, hf⟩ := pu_b1_w hf
    refine xa_callV 15 0 C (as := [.int a1, .int a2]) (met_X0_put (eL E) X _ _ _ _ hc2) rfl (T := TX0) rfl (lw_V q1094 q1096 qs29 q93 q1097) cd_X0_put rfl (Nat.le_of_ble_eq_true rfl) (Nat.le_of_ble_eq_true rfl) (Nat.le_of_ble_eq_true rfl) dX0_sea_12 rfl ?_
    refine ga_bipush 17 C.c (v := 10) (by decide) dX0_sea_15 rfl ?_
    obtain ⟨v3, hc4, hf⟩ := pu_b1_w hf
    refine xa_callV 20 5 C (as := [.int 10]) (met_X4_first_s (eL E) X _ _ _ hc4) rfl (T := TX4) rfl (lw_V q1216 q1217 q1218 q100 q1219) cd_X4_first_s rfl (Nat.le_of_ble_eq_true rfl) (Nat.le_of_ble_eq_true rfl) (Nat.le_of_ble_eq_true rfl) dX0_sea_17 rfl ?_
    refine ga_goto 25 C.c dX0_sea_20 (by decide) ?_
    have hf := Option.some.inj hf
    cases hf
    exact xw_iret C hr hlk hq rfl rfl rfl dX0_sea_25
set_option maxHeartbeats 4000000 in
theorem met_X0_comes (l : Launch) (X : XX) (z : MS) (a1 : Int32) (a2 : Int32) (a3 : Int32) (r : Int32) (z9 : MS) (hf : fX0_comes (xp X) z a1 a2 a3 = some (r, z9)) : Met l yX0_comes (ws_ yX0_comes cX0_comes 4 (some .int)) ({ frames := 7, cells := 0, slots := 0, locals := 176 } : Room) (xw_Pc X z [.ref (xg X 0), .int a1, .int a2, .int a3]) (xw_Qc X z9 (some (.int r))) 0 0 (xw_A (xg X)) := by
  refine xw_of (RX := RX0) (lo := [some (.ref (xg X 0)), some (.int a1), some (.int a2), some (.int a3)]) (by decide) rfl (Nat.le_of_ble_eq_true rfl) rfl (fun E C hr hlk hq => ?_)
  unfold fX0_comes at hf
  refine ga_aload_n 1 C.c 0 rfl rfl dX0_comes_0 rfl ?_
  refine ga_iload_n 2 C.c 1 rfl rfl dX0_comes_1 rfl ?_
  refine ga_iload_n 3 C.c 2 rfl rfl dX0_comes_2 rfl ?_
  refine xa_callV 6 0 C (as := [.int a1, .int a2]) (met_X0_isStick (eL E) X _ _ _) rfl (T := TX0) rfl (lw_V q1132 q1134 qs32 q93 q1135) cd_X0_isStick rfl (Nat.le_of_ble_eq_true rfl) (Nat.le_of_ble_eq_true rfl) (Nat.le_of_ble_eq_true rfl) dX0_comes_3 rfl ?_
  refine ga_if_eq 31 9 C.c dX0_comes_6 (by decide) rfl (fun c => ?_) (fun c => ?_)
  · have hf := pu_pos c hf
    refine ga_bipush 33 C.c (v := (-2)) (by decide) dX0_comes_31 rfl ?_
    have hf := Option.some.inj hf
    cases hf
    exact xw_iret C hr hlk hq rfl rfl rfl dX0_comes_33
  · have hf := pu_neg c hf
    refine ga_aload_n 10 C.c 0 rfl rfl dX0_comes_9 rfl ?_
    refine ga_iload_n 11 C.c 3 rfl rfl dX0_comes_10 rfl ?_
    refine ga_i2l 12 C.c dX0_comes_11 rfl ?_
    refine xa_callV 15 0 C (as := [.long a3.toInt64]) (met_X0_isReach (eL E) X _ _) rfl (T := TX0) rfl (lw_V q1009 q1011 qs22 q93 q1012) cd_X0_isReach rfl (Nat.le_of_ble_eq_true rfl) (Nat.le_of_ble_eq_true rfl) (Nat.le_of_ble_eq_true rfl) dX0_comes_12 rfl ?_
    refine ga_if_eq 31 18 C.c dX0_comes_15 (by decide) rfl (fun c => ?_) (fun c => ?_)
    · have hf := pu_pos c hf
      refine ga_bipush 33 C.c (v := (-2)) (by decide) dX0_comes_31 rfl ?_
      have hf := Option.some.inj hf
      cases hf
      exact xw_iret C hr hlk hq rfl rfl rfl dX0_comes_33
    · have hf := pu_neg c hf
      refine ga_aload_n 19 C.c 0 rfl rfl dX0_comes_18 rfl ?_
      refine ga_iload_n 20 C.c 1 rfl rfl dX0_comes_19 rfl ?_
      refine ga_iload_n 21 C.c 2 rfl rfl dX0_comes_20 rfl ?_
      obtain ⟨z1, hc2, hf⟩ := pu_b1_w hf
      refine xa_callV 24 0 C (as := [.int a1, .int a2]) (met_X0_put (eL E) X _ _ _ _ hc2) rfl (T := TX0) rfl (lw_V q1094 q1096 qs29 q93 q1097) cd_X0_put rfl (Nat.le_of_ble_eq_true rfl) (Nat.le_of_ble_eq_true rfl) (Nat.le_of_ble_eq_true rfl) dX0_comes_21 rfl ?_
      refine ga_iload_n 25 C.c 3 rfl rfl dX0_comes_24 rfl ?_
      obtain ⟨v3, hc4, hf⟩ := pu_b1_w hf
      refine xa_callV 28 5 C (as := [.int a3]) (met_X4_first_s (eL E) X _ _ _ hc4) rfl (T := TX4) rfl (lw_V q1216 q1217 q1218 q100 q1219) cd_X4_first_s rfl (Nat.le_of_ble_eq_true rfl) (Nat.le_of_ble_eq_true rfl) (Nat.le_of_ble_eq_true rfl) dX0_comes_25 rfl ?_
      refine ga_goto 33 C.c dX0_comes_28 (by decide) ?_
      have hf := Option.some.inj hf
      cases hf
      exact xw_iret C hr hlk hq rfl rfl rfl dX0_comes_33
set_option maxHeartbeats 4000000 in
theorem met_X0_way (l : Launch) (X : XX) (z : MS) (a1 : Int32) (a2 : Int32) (r : Int32) (z9 : MS) (hf : fX0_way (xp X) z a1 a2 = some (r, z9)) : Met l yX0_way (ws_ yX0_way cX0_way 3 (some .int)) ({ frames := 7, cells := 0, slots := 0, locals := 176 } : Room) (xw_Pc X z [.ref (xg X 0), .int a1, .int a2]) (xw_Qc X z9 (some (.int r))) 0 0 (xw_A (xg X)) := by
  refine xw_of (RX := RX0) (lo := [some (.ref (xg X 0)), some (.int a1), some (.int a2)]) (by decide) rfl (Nat.le_of_ble_eq_true rfl) rfl (fun E C hr hlk hq => ?_)
  unfold fX0_way at hf
  refine ga_aload_n 1 C.c 0 rfl rfl dX0_way_0 rfl ?_
  refine ga_iload_n 2 C.c 1 rfl rfl dX0_way_1 rfl ?_
  refine ga_iload_n 3 C.c 2 rfl rfl dX0_way_2 rfl ?_
  refine xa_callV 6 0 C (as := [.int a1, .int a2]) (met_X0_isStick (eL E) X _ _ _) rfl (T := TX0) rfl (lw_V q1132 q1134 qs32 q93 q1135) cd_X0_isStick rfl (Nat.le_of_ble_eq_true rfl) (Nat.le_of_ble_eq_true rfl) (Nat.le_of_ble_eq_true rfl) dX0_way_3 rfl ?_
  refine ga_if_eq 21 9 C.c dX0_way_6 (by decide) rfl (fun c => ?_) (fun c => ?_)
  · have hf := pu_pos c hf
    refine ga_bipush 23 C.c (v := (-2)) (by decide) dX0_way_21 rfl ?_
    have hf := Option.some.inj hf
    cases hf
    exact xw_iret C hr hlk hq rfl rfl rfl dX0_way_23
  · have hf := pu_neg c hf
    refine ga_aload_n 10 C.c 0 rfl rfl dX0_way_9 rfl ?_
    refine ga_iload_n 11 C.c 1 rfl rfl dX0_way_10 rfl ?_
    refine ga_iload_n 12 C.c 2 rfl rfl dX0_way_11 rfl ?_
    obtain ⟨z1, hc2, hf⟩ := pu_b1_w hf
    refine xa_callV 15 0 C (as := [.int a1, .int a2]) (met_X0_put (eL E) X _ _ _ _ hc2) rfl (T := TX0) rfl (lw_V q1094 q1096 qs29 q93 q1097) cd_X0_put rfl (Nat.le_of_ble_eq_true rfl) (Nat.le_of_ble_eq_true rfl) (Nat.le_of_ble_eq_true rfl) dX0_way_12 rfl ?_
    obtain ⟨v3, hc4, hf⟩ := pu_b1_w hf
    refine xa_callV 18 5 C (as := []) (met_X4_way_s (eL E) X _ _ hc4) rfl (T := TX4) rfl (lw_V q1208 q1209 q1210 q100 q1211) cd_X4_way_s rfl (Nat.le_of_ble_eq_true rfl) (Nat.le_of_ble_eq_true rfl) (Nat.le_of_ble_eq_true rfl) dX0_way_15 rfl ?_
    refine ga_goto 23 C.c dX0_way_18 (by decide) ?_
    have hf := Option.some.inj hf
    cases hf
    exact xw_iret C hr hlk hq rfl rfl rfl dX0_way_23
set_option maxHeartbeats 4000000 in
theorem met_X0_leaves (l : Launch) (X : XX) (z : MS) (a1 : Int32) (a2 : Int32) (r : Int32) (z9 : MS) (hf : fX0_leaves (xp X) z a1 a2 = some (r, z9)) : Met l yX0_leaves (ws_ yX0_leaves cX0_leaves 3 (some .int)) ({ frames := 7, cells := 0, slots := 0, locals := 176 } : Room) (xw_Pc X z [.ref (xg X 0), .int a1, .int a2]) (xw_Qc X z9 (some (.int r))) 0 0 (xw_A (xg X)) := by
  refine xw_of (RX := RX0) (lo := [some (.ref (xg X 0)), some (.int a1), some (.int a2)]) (by decide) rfl (Nat.le_of_ble_eq_true rfl) rfl (fun E C hr hlk hq => ?_)
  unfold fX0_leaves at hf
  refine ga_aload_n 1 C.c 0 rfl rfl dX0_leaves_0 rfl ?_
  refine ga_iload_n 2 C.c 1 rfl rfl dX0_leaves_1 rfl ?_
  refine ga_iload_n 3 C.c 2 rfl rfl dX0_leaves_2 rfl ?_
  refine xa_callV 6 0 C (as := [.int a1, .int a2]) (met_X0_isStick (eL E) X _ _ _) rfl (T := TX0) rfl (lw_V q1132 q1134 qs32 q93 q1135) cd_X0_isStick rfl (Nat.le_of_ble_eq_true rfl) (Nat.le_of_ble_eq_true rfl) (Nat.le_of_ble_eq_true rfl) dX0_leaves_3 rfl ?_
  refine ga_if_eq 21 9 C.c dX0_leaves_6 (by decide) rfl (fun c => ?_) (fun c => ?_)
  · have hf := pu_pos c hf
    refine ga_bipush 23 C.c (v := (-2)) (by decide) dX0_leaves_21 rfl ?_
    have hf := Option.some.inj hf
    cases hf
    exact xw_iret C hr hlk hq rfl rfl rfl dX0_leaves_23
  · have hf := pu_neg c hf
    refine ga_aload_n 10 C.c 0 rfl rfl dX0_leaves_9 rfl ?_
    refine ga_iload_n 11 C.c 1 rfl rfl dX0_leaves_10 rfl ?_
    refine ga_iload_n 12 C.c 2 rfl rfl dX0_leaves_11 rfl ?_
    obtain ⟨z1, hc2, hf⟩ := pu_b1_w hf
    refine xa_callV 15 0 C (as := [.int a1, .int a2]) (met_X0_put (eL E) X _ _ _ _ hc2) rfl (T := TX0) rfl (lw_V q1094 q1096 qs29 q93 q1097) cd_X0_put rfl (Nat.le_of_ble_eq_true rfl) (Nat.le_of_ble_eq_true rfl) (Nat.le_of_ble_eq_true rfl) dX0_leaves_12 rfl ?_
    refine xa_getN 18 5 2 C rfl (T := TX4) rfl in_X4 (by decide) q489 rfl rfl dX0_leaves_15 rfl ?_
    refine ga_goto 23 C.c dX0_leaves_18 (by decide) ?_
    have hf := Option.some.inj hf
    cases hf
    exact xw_iret C hr hlk hq rfl rfl rfl dX0_leaves_23
set_option maxHeartbeats 4000000 in
theorem met_X0_waits (l : Launch) (X : XX) (z : MS) (a1 : Int32) (a2 : Int32) (r : Int32) (z9 : MS) (hf : fX0_waits (xp X) z a1 a2 = some (r, z9)) : Met l yX0_waits (ws_ yX0_waits cX0_waits 3 (some .int)) ({ frames := 7, cells := 0, slots := 0, locals := 176 } : Room) (xw_Pc X z [.ref (xg X 0), .int a1, .int a2]) (xw_Qc X z9 (some (.int r))) 0 0 (xw_A (xg X)) := by
  refine xw_of (RX := RX0) (lo := [some (.ref (xg X 0)), some (.int a1), some (.int a2)]) (by decide) rfl (Nat.le_of_ble_eq_true rfl) rfl (fun E C hr hlk hq => ?_)
  unfold fX0_waits at hf
  refine ga_aload_n 1 C.c 0 rfl rfl dX0_waits_0 rfl ?_
  refine ga_iload_n 2 C.c 1 rfl rfl dX0_waits_1 rfl ?_
  refine ga_iload_n 3 C.c 2 rfl rfl dX0_waits_2 rfl ?_
  refine xa_callV 6 0 C (as := [.int a1, .int a2]) (met_X0_isStick (eL E) X _ _ _) rfl (T := TX0) rfl (lw_V q1132 q1134 qs32 q93 q1135) cd_X0_isStick rfl (Nat.le_of_ble_eq_true rfl) (Nat.le_of_ble_eq_true rfl) (Nat.le_of_ble_eq_true rfl) dX0_waits_3 rfl ?_
  refine ga_if_eq 21 9 C.c dX0_waits_6 (by decide) rfl (fun c => ?_) (fun c => ?_)
  · have hf := pu_pos c hf
    refine ga_bipush 23 C.c (v := (-2)) (by decide) dX0_waits_21 rfl ?_
    have hf := Option.some.inj hf
    cases hf
    exact xw_iret C hr hlk hq rfl rfl rfl dX0_waits_23
  · have hf := pu_neg c hf
    refine ga_aload_n 10 C.c 0 rfl rfl dX0_waits_9 rfl ?_
    refine ga_iload_n 11 C.c 1 rfl rfl dX0_waits_10 rfl ?_
    refine ga_iload_n 12 C.c 2 rfl rfl dX0_waits_11 rfl ?_
    obtain ⟨z1, hc2, hf⟩ := pu_b1_w hf
    refine xa_callV 15 0 C (as := [.int a1, .int a2]) (met_X0_put (eL E) X _ _ _ _ hc2) rfl (T := TX0) rfl (lw_V q1094 q1096 qs29 q93 q1097) cd_X0_put rfl (Nat.le_of_ble_eq_true rfl) (Nat.le_of_ble_eq_true rfl) (Nat.le_of_ble_eq_true rfl) dX0_waits_12 rfl ?_
    refine xa_getN 18 5 4 C rfl (T := TX4) rfl in_X4 (by decide) q493 rfl rfl dX0_waits_15 rfl ?_
    refine ga_goto 23 C.c dX0_waits_18 (by decide) ?_
    have hf := Option.some.inj hf
    cases hf
    exact xw_iret C hr hlk hq rfl rfl rfl dX0_waits_23
set_option maxHeartbeats 4000000 in
theorem met_X0_jumps (l : Launch) (X : XX) (z : MS) (a1 : Int32) (a2 : Int32) (r : Int32) (z9 : MS) (hf : fX0_jumps (xp X) z a1 a2 = some (r, z9)) : Met l yX0_jumps (ws_ yX0_jumps cX0_jumps 3 (some .int)) ({ frames := 7, cells := 0, slots := 0, locals := 176 } : Room) (xw_Pc X z [.ref (xg X 0), .int a1, .int a2]) (xw_Qc X z9 (some (.int r))) 0 0 (xw_A (xg X)) := by
  refine xw_of (RX := RX0) (lo := [some (.ref (xg X 0)), some (.int a1), some (.int a2)]) (by decide) rfl (Nat.le_of_ble_eq_true rfl) rfl (fun E C hr hlk hq => ?_)
  unfold fX0_jumps at hf
  refine ga_aload_n 1 C.c 0 rfl rfl dX0_jumps_0 rfl ?_
  refine ga_iload_n 2 C.c 1 rfl rfl dX0_jumps_1 rfl ?_
  refine ga_iload_n 3 C.c 2 rfl rfl dX0_jumps_2 rfl ?_
  refine xa_callV 6 0 C (as := [.int a1, .int a2]) (met_X0_isStick (eL E) X _ _ _) rfl (T := TX0) rfl (lw_V q1132 q1134 qs32 q93 q1135) cd_X0_isStick rfl (Nat.le_of_ble_eq_true rfl) (Nat.le_of_ble_eq_true rfl) (Nat.le_of_ble_eq_true rfl) dX0_jumps_3 rfl ?_
  refine ga_if_eq 21 9 C.c dX0_jumps_6 (by decide) rfl (fun c => ?_) (fun c => ?_)
  · have hf := pu_pos c hf
    refine ga_bipush 23 C.c (v := (-2)) (by decide) dX0_jumps_21 rfl ?_
    have hf := Option.some.inj hf
    cases hf
    exact xw_iret C hr hlk hq rfl rfl rfl dX0_jumps_23
  · have hf := pu_neg c hf
    refine ga_aload_n 10 C.c 0 rfl rfl dX0_jumps_9 rfl ?_
    refine ga_iload_n 11 C.c 1 rfl rfl dX0_jumps_10 rfl ?_
    refine ga_iload_n 12 C.c 2 rfl rfl dX0_jumps_11 rfl ?_
    obtain ⟨z1, hc2, hf⟩ := pu_b1_w hf
    refine xa_callV 15 0 C (as := [.int a1, .int a2]) (met_X0_put (eL E) X _ _ _ _ hc2) rfl (T := TX0) rfl (lw_V q1094 q1096 qs29 q93 q1097) cd_X0_put rfl (Nat.le_of_ble_eq_true rfl) (Nat.le_of_ble_eq_true rfl) (Nat.le_of_ble_eq_true rfl) dX0_jumps_12 rfl ?_
    refine xa_getN 18 5 3 C rfl (T := TX4) rfl in_X4 (by decide) q491 rfl rfl dX0_jumps_15 rfl ?_
    refine ga_goto 23 C.c dX0_jumps_18 (by decide) ?_
    have hf := Option.some.inj hf
    cases hf
    exact xw_iret C hr hlk hq rfl rfl rfl dX0_jumps_23
set_option maxHeartbeats 4000000 in
theorem met_X0_finds (l : Launch) (X : XX) (z : MS) (a1 : Int32) (a2 : Int32) (r : Int32) (z9 : MS) (hf : fX0_finds (xp X) z a1 a2 = some (r, z9)) : Met l yX0_finds (ws_ yX0_finds cX0_finds 5 (some .int)) ({ frames := 7, cells := 0, slots := 0, locals := 176 } : Room) (xw_Pc X z [.ref (xg X 0), .int a1, .int a2]) (xw_Qc X z9 (some (.int r))) 0 0 (xw_A (xg X)) := by
  refine xw_of (RX := RX0) (lo := [some (.ref (xg X 0)), some (.int a1), some (.int a2), none, none]) (by decide) rfl (Nat.le_of_ble_eq_true rfl) rfl (fun E C hr hlk hq => ?_)
  unfold fX0_finds at hf
  refine ga_aload_n 1 C.c 0 rfl rfl dX0_finds_0 rfl ?_
  refine ga_iload_n 2 C.c 1 rfl rfl dX0_finds_1 rfl ?_
  refine ga_iload_n 3 C.c 2 rfl rfl dX0_finds_2 rfl ?_
  refine xa_callV 6 0 C (as := [.int a1, .int a2]) (met_X0_isStick (eL E) X _ _ _) rfl (T := TX0) rfl (lw_V q1132 q1134 qs32 q93 q1135) cd_X0_isStick rfl (Nat.le_of_ble_eq_true rfl) (Nat.le_of_ble_eq_true rfl) (Nat.le_of_ble_eq_true rfl) dX0_finds_3 rfl ?_
  refine ga_if_ne 12 9 C.c dX0_finds_6 (by decide) rfl (fun c => ?_) (fun c => ?_)
  · have hf := pu_neg c hf
    refine ga_aload_n 13 C.c 0 rfl rfl dX0_finds_12 rfl ?_
    refine ga_iload_n 14 C.c 1 rfl rfl dX0_finds_13 rfl ?_
    refine ga_iload_n 15 C.c 2 rfl rfl dX0_finds_14 rfl ?_
    obtain ⟨z1, hc2, hf⟩ := pu_b1_w hf
    refine xa_callV 18 0 C (as := [.int a1, .int a2]) (met_X0_put (eL E) X _ _ _ _ hc2) rfl (T := TX0) rfl (lw_V q1094 q1096 qs29 q93 q1097) cd_X0_put rfl (Nat.le_of_ble_eq_true rfl) (Nat.le_of_ble_eq_true rfl) (Nat.le_of_ble_eq_true rfl) dX0_finds_15 rfl ?_
    refine ga_pop 19 C.c rfl dX0_finds_18 rfl ?_
    refine ga_iload_n 20 C.c 1 rfl rfl dX0_finds_19 rfl ?_
    refine ga_istore_n 21 C.c 3 rfl (by decide) rfl dX0_finds_20 rfl ?_
    refine ga_iconst 22 C.c (v := 0) (by decide) dX0_finds_21 rfl ?_
    refine ga_istore 24 C.c 4 (by decide) rfl dX0_finds_22 rfl ?_
    obtain ⟨v16, hi11, hf⟩ := pu_b1_w hf
    refine ga_cut 62 (I2 := xw_I E X z1) (k2 := 0) (n2 := 0) (lo2 := [none, none, none, some (.int v16), none]) (st2 := []) ?_ (fun hj10 => ?_)
    · refine ga_iload_n 63 C.c 3 rfl rfl dX0_finds_62 rfl ?_
      have hf := Option.some.inj hf
      cases hf
      exact xw_iret C hr hlk hq rfl rfl rfl dX0_finds_63
    · refine ga_W.sub (pu_it_w (Wd := fun (q : Int32 × Int32) => ga_W E 5 (xw_I E X z1) 0 0 24 [some (.ref (xg X 0)), none, none, some (.int q.1), some (.int q.2)] []) (Wx := fun e => e = (v16)) (fun q x hf kc6 kx7 => ?_) hi11 rfl) (And.intro rfl (And.intro rfl (And.intro rfl trivial)))
      obtain ⟨v4, v5⟩ := q
      try dsimp only
      unfold fX0_finds_L24 at hf
      refine ga_iload 26 C.c rfl dX0_finds_24 rfl ?_
      refine ga_aload_n 27 C.c 0 rfl rfl dX0_finds_26 rfl ?_
      refine xa_callV 30 0 C (as := []) (met_X0_reaches (eL E) X _) rfl (T := TX0) rfl (lw_V q1013 q1015 qs23 q93 q1016) cd_X0_reaches rfl (Nat.le_of_ble_eq_true rfl) (Nat.le_of_ble_eq_true rfl) (Nat.le_of_ble_eq_true rfl) dX0_finds_27 rfl ?_
      refine ga_icmp_ge 62 33 C.c dX0_finds_30 (by decide) rfl (fun c => ?_) (fun c => ?_)
      · have hf := pu_pos c hf
        cases (kx7 _ (Option.some.inj hf).symm)
        exact ga_W.sub hj10 (And.intro rfl trivial)
      · have hf := pu_neg c hf
        refine ga_aload_n 34 C.c 0 rfl rfl dX0_finds_33 rfl ?_
        refine xa_get 37 0 8 C rfl (T := TX0) rfl in_X0 (by decide) q564 rfl rfl dX0_finds_34 rfl ?_
        refine ga_iload 39 C.c rfl dX0_finds_37 rfl ?_
        obtain ⟨v12, hc13, hf⟩ := pu_b1_w hf
        refine xa_callV 42 5 C (as := [.int v5]) (met_X4_first_s (eL E) X _ _ _ hc13) rfl (T := TX4) rfl (lw_V q1216 q1217 q1218 q100 q1219) cd_X4_first_s rfl (Nat.le_of_ble_eq_true rfl) (Nat.le_of_ble_eq_true rfl) (Nat.le_of_ble_eq_true rfl) dX0_finds_39 rfl ?_
        refine ga_aload_n 43 C.c 0 rfl rfl dX0_finds_42 rfl ?_
        refine xa_get 46 0 8 C rfl (T := TX0) rfl in_X0 (by decide) q564 rfl rfl dX0_finds_43 rfl ?_
        refine ga_iload_n 47 C.c 3 rfl rfl dX0_finds_46 rfl ?_
        obtain ⟨v14, hc15, hf⟩ := pu_b1_w hf
        refine xa_callV 50 5 C (as := [.int v4]) (met_X4_first_s (eL E) X _ _ _ hc15) rfl (T := TX4) rfl (lw_V q1216 q1217 q1218 q100 q1219) cd_X4_first_s rfl (Nat.le_of_ble_eq_true rfl) (Nat.le_of_ble_eq_true rfl) (Nat.le_of_ble_eq_true rfl) dX0_finds_47 rfl ?_
        refine ga_icmp_le 56 53 C.c dX0_finds_50 (by decide) rfl (fun c => ?_) (fun c => ?_)
        · have hf := pu_pos c hf
          refine ga_iinc 59 C.c (v := v5 + 1) rfl rfl (by decide) rfl dX0_finds_56 rfl ?_
          refine ga_goto 24 C.c dX0_finds_59 (by decide) ?_
          exact ga_W.sub (kc6 _ (Option.some.inj hf).symm) (And.intro rfl (And.intro rfl (And.intro rfl trivial)))
        · have hf := pu_neg c hf
          refine ga_iload 55 C.c rfl dX0_finds_53 rfl ?_
          refine ga_istore_n 56 C.c 3 rfl (by decide) rfl dX0_finds_55 rfl ?_
          refine ga_iinc 59 C.c (v := v5 + 1) rfl rfl (by decide) rfl dX0_finds_56 rfl ?_
          refine ga_goto 24 C.c dX0_finds_59 (by decide) ?_
          exact ga_W.sub (kc6 _ (Option.some.inj hf).symm) (And.intro rfl (And.intro rfl (And.intro rfl trivial)))
  · have hf := pu_pos c hf
    refine ga_bipush 11 C.c (v := (-2)) (by decide) dX0_finds_9 rfl ?_
    have hf := Option.some.inj hf
    cases hf
    exact xw_iret C hr hlk hq rfl rfl rfl dX0_finds_11
set_option maxHeartbeats 4000000 in
theorem met_X0_ends (l : Launch) (X : XX) (z : MS) (a1 : Int32) (r : Int32) (z9 : MS) (hf : fX0_ends (xp X) z a1 = some (r, z9)) : Met l yX0_ends (ws_ yX0_ends cX0_ends 4 (some .int)) ({ frames := 7, cells := 0, slots := 0, locals := 176 } : Room) (xw_Pc X z [.ref (xg X 0), .int a1]) (xw_Qc X z9 (some (.int r))) 0 0 (xw_A (xg X)) := by
  refine xw_of (RX := RX0) (lo := [some (.ref (xg X 0)), some (.int a1), none, none]) (by decide) rfl (Nat.le_of_ble_eq_true rfl) rfl (fun E C hr hlk hq => ?_)
  unfold fX0_ends at hf
  refine ga_aload_n 1 C.c 0 rfl rfl dX0_ends_0 rfl ?_
  refine ga_iload_n 2 C.c 1 rfl rfl dX0_ends_1 rfl ?_
  refine ga_i2l 3 C.c dX0_ends_2 rfl ?_
  refine xa_callV 6 0 C (as := [.long a1.toInt64]) (met_X0_isStep (eL E) X _ _) rfl (T := TX0) rfl (lw_V q1123 q1125 qs31 q93 q1126) cd_X0_isStep rfl (Nat.le_of_ble_eq_true rfl) (Nat.le_of_ble_eq_true rfl) (Nat.le_of_ble_eq_true rfl) dX0_ends_3 rfl ?_
  refine ga_if_ne 12 9 C.c dX0_ends_6 (by decide) rfl (fun c => ?_) (fun c => ?_)
  · have hf := pu_neg c hf
    refine ga_iconst 13 C.c (v := 0) (by decide) dX0_ends_12 rfl ?_
    refine ga_istore_n 14 C.c 2 rfl (by decide) rfl dX0_ends_13 rfl ?_
    refine ga_iconst 15 C.c (v := 0) (by decide) dX0_ends_14 rfl ?_
    refine ga_istore_n 16 C.c 3 rfl (by decide) rfl dX0_ends_15 rfl ?_
    obtain ⟨v17, z18, hi10, hf⟩ := pu_b2_w hf
    refine ga_cut 55 (I2 := xw_I E X z18) (k2 := 0) (n2 := 0) (lo2 := [none, none, some (.int v17), none]) (st2 := []) ?_ (fun hj9 => ?_)
    · refine ga_iload_n 56 C.c 2 rfl rfl dX0_ends_55 rfl ?_
      have hf := Option.some.inj hf
      cases hf
      exact xw_iret C hr hlk hq rfl rfl rfl dX0_ends_56
    · refine ga_W.sub (pu_it_w (Wd := fun (q : Int32 × Int32 × MS) => ga_W E 4 (xw_I E X q.2.2) 0 0 16 [some (.ref (xg X 0)), some (.int a1), some (.int q.1), some (.int q.2.1)] []) (Wx := fun e => e = (v17, z18)) (fun q x hf kc5 kx6 => ?_) hi10 rfl) (And.intro rfl (And.intro rfl (And.intro rfl (And.intro rfl trivial))))
      obtain ⟨v2, v3, z4⟩ := q
      try dsimp only
      unfold fX0_ends_L16 at hf
      refine ga_iload_n 17 C.c 3 rfl rfl dX0_ends_16 rfl ?_
      refine ga_aload_n 18 C.c 0 rfl rfl dX0_ends_17 rfl ?_
      refine xa_callV 21 0 C (as := []) (met_X0_reaches (eL E) X _) rfl (T := TX0) rfl (lw_V q1013 q1015 qs23 q93 q1016) cd_X0_reaches rfl (Nat.le_of_ble_eq_true rfl) (Nat.le_of_ble_eq_true rfl) (Nat.le_of_ble_eq_true rfl) dX0_ends_18 rfl ?_
      refine ga_icmp_ge 55 24 C.c dX0_ends_21 (by decide) rfl (fun c => ?_) (fun c => ?_)
      · have hf := pu_pos c hf
        cases (kx6 _ (Option.some.inj hf).symm)
        exact ga_W.sub hj9 (And.intro rfl trivial)
      · have hf := pu_neg c hf
        refine ga_iload_n 25 C.c 2 rfl rfl dX0_ends_24 rfl ?_
        refine ga_aload_n 26 C.c 0 rfl rfl dX0_ends_25 rfl ?_
        refine ga_iload_n 27 C.c 3 rfl rfl dX0_ends_26 rfl ?_
        refine ga_iload_n 28 C.c 1 rfl rfl dX0_ends_27 rfl ?_
        obtain ⟨z11, hc12, hf⟩ := pu_b1_w hf
        refine xa_callV 31 0 C (as := [.int v3, .int a1]) (met_X0_put (eL E) X _ _ _ _ hc12) rfl (T := TX0) rfl (lw_V q1094 q1096 qs29 q93 q1097) cd_X0_put rfl (Nat.le_of_ble_eq_true rfl) (Nat.le_of_ble_eq_true rfl) (Nat.le_of_ble_eq_true rfl) dX0_ends_28 rfl ?_
        refine ga_bipush 33 C.c (v := 10) (by decide) dX0_ends_31 rfl ?_
        obtain ⟨v13, hc14, hf⟩ := pu_b1_w hf
        refine xa_callV 36 5 C (as := [.int 10]) (met_X4_first_s (eL E) X _ _ _ hc14) rfl (T := TX4) rfl (lw_V q1216 q1217 q1218 q100 q1219) cd_X4_first_s rfl (Nat.le_of_ble_eq_true rfl) (Nat.le_of_ble_eq_true rfl) (Nat.le_of_ble_eq_true rfl) dX0_ends_33 rfl ?_
        refine ga_iconst 37 C.c (v := (-1)) (by decide) dX0_ends_36 rfl ?_
        refine ga_icmp_eq 46 40 C.c dX0_ends_37 (by decide) rfl (fun c => ?_) (fun c => ?_)
        · have hf := pu_pos c hf
          refine ga_iconst 47 C.c (v := 0) (by decide) dX0_ends_46 rfl ?_
          refine ga_ior 48 C.c dX0_ends_47 rfl ?_
          refine ga_istore_n 49 C.c 2 rfl (by decide) rfl dX0_ends_48 rfl ?_
          obtain ⟨_, rfl, hf⟩ := pu_l1_w hf
          refine ga_iinc 52 C.c (v := v3 + 1) rfl rfl (by decide) rfl dX0_ends_49 rfl ?_
          refine ga_goto 16 C.c dX0_ends_52 (by decide) ?_
          exact ga_W.sub (kc5 _ (Option.some.inj hf).symm) (And.intro rfl (And.intro rfl (And.intro rfl (And.intro rfl trivial))))
        · have hf := pu_neg c hf
          refine ga_iconst 41 C.c (v := 1) (by decide) dX0_ends_40 rfl ?_
          refine ga_iload_n 42 C.c 3 rfl rfl dX0_ends_41 rfl ?_
          refine ga_ishl 43 C.c dX0_ends_42 rfl ?_
          refine ga_goto 47 C.c dX0_ends_43 (by decide) ?_
          refine ga_ior 48 C.c dX0_ends_47 rfl ?_
          refine ga_istore_n 49 C.c 2 rfl (by decide) rfl dX0_ends_48 rfl ?_
          obtain ⟨_, rfl, hf⟩ := pu_l1_w hf
          refine ga_iinc 52 C.c (v := v3 + 1) rfl rfl (by decide) rfl dX0_ends_49 rfl ?_
          refine ga_goto 16 C.c dX0_ends_52 (by decide) ?_
          exact ga_W.sub (kc5 _ (Option.some.inj hf).symm) (And.intro rfl (And.intro rfl (And.intro rfl (And.intro rfl trivial))))
  · have hf := pu_pos c hf
    refine ga_bipush 11 C.c (v := (-2)) (by decide) dX0_ends_9 rfl ?_
    have hf := Option.some.inj hf
    cases hf
    exact xw_iret C hr hlk hq rfl rfl rfl dX0_ends_11
set_option maxHeartbeats 4000000 in
theorem met_X0_meet (l : Launch) (X : XX) (z : MS) (a1 : Int32) (a2 : Int32) (r : Int32) (z9 : MS) (hf : fX0_meet (xp X) z a1 a2 = some (r, z9)) : Met l yX0_meet (ws_ yX0_meet cX0_meet 4 (some .int)) ({ frames := 7, cells := 0, slots := 0, locals := 176 } : Room) (xw_Pc X z [.ref (xg X 0), .int a1, .int a2]) (xw_Qc X z9 (some (.int r))) 0 0 (xw_A (xg X)) := by
  refine xw_of (RX := RX0) (lo := [some (.ref (xg X 0)), some (.int a1), some (.int a2), none]) (by decide) rfl (Nat.le_of_ble_eq_true rfl) rfl (fun E C hr hlk hq => ?_)
  unfold fX0_meet at hf
  refine ga_aload_n 1 C.c 0 rfl rfl dX0_meet_0 rfl ?_
  refine ga_iload_n 2 C.c 1 rfl rfl dX0_meet_1 rfl ?_
  refine ga_iload_n 3 C.c 2 rfl rfl dX0_meet_2 rfl ?_
  refine xa_callV 6 0 C (as := [.int a1, .int a2]) (met_X0_areReaches (eL E) X _ _ _) rfl (T := TX0) rfl (lw_V q1090 q1092 qs28 q93 q1093) cd_X0_areReaches rfl (Nat.le_of_ble_eq_true rfl) (Nat.le_of_ble_eq_true rfl) (Nat.le_of_ble_eq_true rfl) dX0_meet_3 rfl ?_
  refine ga_if_ne 12 9 C.c dX0_meet_6 (by decide) rfl (fun c => ?_) (fun c => ?_)
  · have hf := pu_neg c hf
    refine ga_aload_n 13 C.c 0 rfl rfl dX0_meet_12 rfl ?_
    refine ga_iload_n 14 C.c 1 rfl rfl dX0_meet_13 rfl ?_
    refine ga_iconst 15 C.c (v := 0) (by decide) dX0_meet_14 rfl ?_
    obtain ⟨z1, hc2, hf⟩ := pu_b1_w hf
    refine xa_callV 18 0 C (as := [.int a1, .int 0]) (met_X0_put (eL E) X _ _ _ _ hc2) rfl (T := TX0) rfl (lw_V q1094 q1096 qs29 q93 q1097) cd_X0_put rfl (Nat.le_of_ble_eq_true rfl) (Nat.le_of_ble_eq_true rfl) (Nat.le_of_ble_eq_true rfl) dX0_meet_15 rfl ?_
    refine ga_pop 19 C.c rfl dX0_meet_18 rfl ?_
    refine ga_aload_n 20 C.c 0 rfl rfl dX0_meet_19 rfl ?_
    refine xa_get 23 0 9 C rfl (T := TX0) rfl in_X0 (by decide) q565 rfl rfl dX0_meet_20 rfl ?_
    refine ga_iload_n 24 C.c 2 rfl rfl dX0_meet_23 rfl ?_
    refine ga_iconst 25 C.c (v := 0) (by decide) dX0_meet_24 rfl ?_
    obtain ⟨z3, hc4, hf⟩ := pu_b1_w hf
    refine xa_callV 28 7 C (as := [.int a2, .int 0]) (met_X4_goes_o (eL E) X _ _ _ _ hc4) rfl (T := TX4) rfl (lw_V q1098 q1099 q1100 q100 q1101) cd_X4_goes_o rfl (Nat.le_of_ble_eq_true rfl) (Nat.le_of_ble_eq_true rfl) (Nat.le_of_ble_eq_true rfl) dX0_meet_25 rfl ?_
    refine ga_pop 29 C.c rfl dX0_meet_28 rfl ?_
    refine ga_iconst 30 C.c (v := 0) (by decide) dX0_meet_29 rfl ?_
    refine ga_istore_n 31 C.c 3 rfl (by decide) rfl dX0_meet_30 rfl ?_
    obtain ⟨y16, hi12, hr9, hs10⟩ := pu_s_w hf
    refine ga_cutP (P := y16 = .inl () → ga_W E 4 (xw_I E X z3) 0 0 80 [none, none, none, none] []) (fun hy => ?_) (fun hj11 => ?_)
    · have hf := hr9 _ hy
      refine ga_iconst 81 C.c (v := (-1)) (by decide) dX0_meet_80 rfl ?_
      have hf := Option.some.inj hf
      cases hf
      exact xw_iret C hr hlk hq rfl rfl rfl dX0_meet_81
    · refine ga_W.sub (pu_it_w (Wd := fun (q : Int32) => ga_W E 4 (xw_I E X z3) 0 0 31 [some (.ref (xg X 0)), none, none, some (.int q)] []) (Wx := fun e => e = y16) (fun v6 x hf kc7 kx8 => ?_) hi12 rfl) (And.intro rfl (And.intro rfl trivial))
      try dsimp only
      unfold fX0_meet_L31 at hf
      refine ga_iload_n 32 C.c 3 rfl rfl dX0_meet_31 rfl ?_
      refine ga_bipush 34 C.c (v := 60) (by decide) dX0_meet_32 rfl ?_
      refine ga_icmp_gt 80 37 C.c dX0_meet_34 (by decide) rfl (fun c => ?_) (fun c => ?_)
      · have hf := pu_pos c hf
        exact ga_W.sub (hj11 (kx8 _ (Option.some.inj hf).symm).symm) trivial
      · have hf := pu_neg c hf
        refine ga_aload_n 38 C.c 0 rfl rfl dX0_meet_37 rfl ?_
        refine xa_get 41 0 8 C rfl (T := TX0) rfl in_X0 (by decide) q564 rfl rfl dX0_meet_38 rfl ?_
        refine xa_getN 44 5 0 C rfl (T := TX4) rfl in_X4 (by decide) q486 rfl rfl dX0_meet_41 rfl ?_
        refine ga_iload_n 45 C.c 3 rfl rfl dX0_meet_44 rfl ?_
        obtain ⟨h13, hf⟩ := pu_g_w hf
        refine xa_iald 46 3 6 61 C rfl h13 dX0_meet_45 rfl ?_
        refine ga_bipush 48 C.c (v := 10) (by decide) dX0_meet_46 rfl ?_
        refine ga_icmp_ge 74 51 C.c dX0_meet_48 (by decide) rfl (fun c => ?_) (fun c => ?_)
        · have hf := pu_pos c hf
          refine ga_iinc 77 C.c (v := v6 + 1) rfl rfl (by decide) rfl dX0_meet_74 rfl ?_
          refine ga_goto 31 C.c dX0_meet_77 (by decide) ?_
          exact ga_W.sub (kc7 _ (Option.some.inj hf).symm) (And.intro rfl (And.intro rfl trivial))
        · have hf := pu_neg c hf
          refine ga_aload_n 52 C.c 0 rfl rfl dX0_meet_51 rfl ?_
          refine xa_get 55 0 8 C rfl (T := TX0) rfl in_X0 (by decide) q564 rfl rfl dX0_meet_52 rfl ?_
          refine xa_getN 58 5 0 C rfl (T := TX4) rfl in_X4 (by decide) q486 rfl rfl dX0_meet_55 rfl ?_
          refine ga_iload_n 59 C.c 3 rfl rfl dX0_meet_58 rfl ?_
          obtain ⟨h14, hf⟩ := pu_g_w hf
          refine xa_iald 60 3 6 61 C rfl h14 dX0_meet_59 rfl ?_
          refine ga_aload_n 61 C.c 0 rfl rfl dX0_meet_60 rfl ?_
          refine xa_get 64 0 9 C rfl (T := TX0) rfl in_X0 (by decide) q565 rfl rfl dX0_meet_61 rfl ?_
          refine xa_getN 67 7 0 C rfl (T := TX4) rfl in_X4 (by decide) q486 rfl rfl dX0_meet_64 rfl ?_
          refine ga_iload_n 68 C.c 3 rfl rfl dX0_meet_67 rfl ?_
          obtain ⟨h15, hf⟩ := pu_g_w hf
          refine xa_iald 69 13 8 61 C rfl h15 dX0_meet_68 rfl ?_
          refine ga_icmp_ne 74 72 C.c dX0_meet_69 (by decide) rfl (fun c => ?_) (fun c => ?_)
          · have hf := pu_neg c hf
            refine ga_iinc 77 C.c (v := v6 + 1) rfl rfl (by decide) rfl dX0_meet_74 rfl ?_
            refine ga_goto 31 C.c dX0_meet_77 (by decide) ?_
            exact ga_W.sub (kc7 _ (Option.some.inj hf).symm) (And.intro rfl (And.intro rfl trivial))
          · have hf := pu_pos c hf
            refine ga_iload_n 73 C.c 3 rfl rfl dX0_meet_72 rfl ?_
            have hf := Option.some.inj hf
            have hf := hs10 _ (kx8 _ hf.symm).symm
            cases hf
            exact xw_iret C hr hlk hq rfl rfl rfl dX0_meet_73
  · have hf := pu_pos c hf
    refine ga_bipush 11 C.c (v := (-2)) (by decide) dX0_meet_9 rfl ?_
    have hf := Option.some.inj hf
    cases hf
    exact xw_iret C hr hlk hq rfl rfl rfl dX0_meet_11
set_option maxHeartbeats 4000000 in
theorem met_X0_soon (l : Launch) (X : XX) (z : MS) (a1 : Int32) (a2 : Int32) (r : Int32) (z9 : MS) (hf : fX0_soon (xp X) z a1 a2 = some (r, z9)) : Met l yX0_soon (ws_ yX0_soon cX0_soon 7 (some .int)) ({ frames := 7, cells := 0, slots := 0, locals := 176 } : Room) (xw_Pc X z [.ref (xg X 0), .int a1, .int a2]) (xw_Qc X z9 (some (.int r))) 0 0 (xw_A (xg X)) := by
  refine xw_of (RX := RX0) (lo := [some (.ref (xg X 0)), some (.int a1), some (.int a2), none, none, none, none]) (by decide) rfl (Nat.le_of_ble_eq_true rfl) rfl (fun E C hr hlk hq => ?_)
  unfold fX0_soon at hf
  refine ga_aload_n 1 C.c 0 rfl rfl dX0_soon_0 rfl ?_
  refine ga_iload_n 2 C.c 1 rfl rfl dX0_soon_1 rfl ?_
  refine ga_iload_n 3 C.c 2 rfl rfl dX0_soon_2 rfl ?_
  refine xa_callV 6 0 C (as := [.int a1, .int a2]) (met_X0_areReaches (eL E) X _ _ _) rfl (T := TX0) rfl (lw_V q1090 q1092 qs28 q93 q1093) cd_X0_areReaches rfl (Nat.le_of_ble_eq_true rfl) (Nat.le_of_ble_eq_true rfl) (Nat.le_of_ble_eq_true rfl) dX0_soon_3 rfl ?_
  refine ga_if_ne 12 9 C.c dX0_soon_6 (by decide) rfl (fun c => ?_) (fun c => ?_)
  · have hf := pu_neg c hf
    refine ga_iconst 13 C.c (v := (-1)) (by decide) dX0_soon_12 rfl ?_
    refine ga_istore_n 14 C.c 3 rfl (by decide) rfl dX0_soon_13 rfl ?_
    refine ga_sipush 17 C.c (v := 1000) (by decide) dX0_soon_14 rfl ?_
    refine ga_istore 19 C.c 4 (by decide) rfl dX0_soon_17 rfl ?_
    refine ga_iconst 20 C.c (v := 0) (by decide) dX0_soon_19 rfl ?_
    refine ga_istore 22 C.c 5 (by decide) rfl dX0_soon_20 rfl ?_
    obtain ⟨v17, z18, hi12, hf⟩ := pu_b2_w hf
    refine ga_cut 71 (I2 := xw_I E X z18) (k2 := 0) (n2 := 0) (lo2 := [none, none, none, some (.int v17), none, none, none]) (st2 := []) ?_ (fun hj11 => ?_)
    · refine ga_iload_n 72 C.c 3 rfl rfl dX0_soon_71 rfl ?_
      have hf := Option.some.inj hf
      cases hf
      exact xw_iret C hr hlk hq rfl rfl rfl dX0_soon_72
    · refine ga_W.sub (pu_it_w (Wd := fun (q : Int32 × Int32 × Int32 × MS) => ga_W E 7 (xw_I E X q.2.2.2) 0 0 22 [some (.ref (xg X 0)), some (.int a1), some (.int a2), some (.int q.1), some (.int q.2.1), some (.int q.2.2.1), none] []) (Wx := fun e => e = (v17, z18)) (fun q x hf kc7 kx8 => ?_) hi12 rfl) (And.intro rfl (And.intro rfl (And.intro rfl (And.intro rfl (And.intro rfl (And.intro rfl trivial))))))
      obtain ⟨v3, v4, v5, z6⟩ := q
      try dsimp only
      unfold fX0_soon_L22 at hf
      refine ga_iload 24 C.c rfl dX0_soon_22 rfl ?_
      refine ga_bipush 26 C.c (v := 60) (by decide) dX0_soon_24 rfl ?_
      refine ga_icmp_gt 71 29 C.c dX0_soon_26 (by decide) rfl (fun c => ?_) (fun c => ?_)
      · have hf := pu_pos c hf
        cases (kx8 _ (Option.some.inj hf).symm)
        exact ga_W.sub hj11 (And.intro rfl trivial)
      · have hf := pu_neg c hf
        refine ga_aload_n 30 C.c 0 rfl rfl dX0_soon_29 rfl ?_
        refine ga_iload_n 31 C.c 1 rfl rfl dX0_soon_30 rfl ?_
        refine ga_iload 33 C.c rfl dX0_soon_31 rfl ?_
        obtain ⟨z13, hc14, hf⟩ := pu_b1_w hf
        refine xa_callV 36 0 C (as := [.int a1, .int v5]) (met_X0_put (eL E) X _ _ _ _ hc14) rfl (T := TX0) rfl (lw_V q1094 q1096 qs29 q93 q1097) cd_X0_put rfl (Nat.le_of_ble_eq_true rfl) (Nat.le_of_ble_eq_true rfl) (Nat.le_of_ble_eq_true rfl) dX0_soon_33 rfl ?_
        refine ga_iload_n 37 C.c 2 rfl rfl dX0_soon_36 rfl ?_
        obtain ⟨v15, hc16, hf⟩ := pu_b1_w hf
        refine xa_callV 40 5 C (as := [.int a2]) (met_X4_first_s (eL E) X _ _ _ hc16) rfl (T := TX4) rfl (lw_V q1216 q1217 q1218 q100 q1219) cd_X4_first_s rfl (Nat.le_of_ble_eq_true rfl) (Nat.le_of_ble_eq_true rfl) (Nat.le_of_ble_eq_true rfl) dX0_soon_37 rfl ?_
        refine ga_istore 42 C.c 6 (by decide) rfl dX0_soon_40 rfl ?_
        refine ga_iload 44 C.c rfl dX0_soon_42 rfl ?_
        refine ga_iconst 45 C.c (v := (-1)) (by decide) dX0_soon_44 rfl ?_
        refine ga_icmp_eq 65 48 C.c dX0_soon_45 (by decide) rfl (fun c => ?_) (fun c => ?_)
        · have hf := pu_pos c hf
          refine ga_iinc 68 C.c (v := v5 + 1) rfl rfl (by decide) rfl dX0_soon_65 rfl ?_
          refine ga_goto 22 C.c dX0_soon_68 (by decide) ?_
          exact ga_W.sub (kc7 _ (Option.some.inj hf).symm) (And.intro rfl (And.intro rfl (And.intro rfl (And.intro rfl (And.intro rfl (And.intro rfl trivial))))))
        · have hf := pu_neg c hf
          refine ga_iload 50 C.c rfl dX0_soon_48 rfl ?_
          refine ga_iload 52 C.c rfl dX0_soon_50 rfl ?_
          refine ga_icmp_le 58 55 C.c dX0_soon_52 (by decide) rfl (fun c => ?_) (fun c => ?_)
          · have hf := pu_pos c hf
            refine ga_iload 60 C.c rfl dX0_soon_58 rfl ?_
            refine ga_istore_n 61 C.c 3 rfl (by decide) rfl dX0_soon_60 rfl ?_
            refine ga_iload 63 C.c rfl dX0_soon_61 rfl ?_
            refine ga_istore 65 C.c 4 (by decide) rfl dX0_soon_63 rfl ?_
            refine ga_iinc 68 C.c (v := v5 + 1) rfl rfl (by decide) rfl dX0_soon_65 rfl ?_
            refine ga_goto 22 C.c dX0_soon_68 (by decide) ?_
            exact ga_W.sub (kc7 _ (Option.some.inj hf).symm) (And.intro rfl (And.intro rfl (And.intro rfl (And.intro rfl (And.intro rfl (And.intro rfl trivial))))))
          · have hf := pu_neg c hf
            refine ga_goto 65 C.c dX0_soon_55 (by decide) ?_
            refine ga_iinc 68 C.c (v := v5 + 1) rfl rfl (by decide) rfl dX0_soon_65 rfl ?_
            refine ga_goto 22 C.c dX0_soon_68 (by decide) ?_
            exact ga_W.sub (kc7 _ (Option.some.inj hf).symm) (And.intro rfl (And.intro rfl (And.intro rfl (And.intro rfl (And.intro rfl (And.intro rfl trivial))))))
  · have hf := pu_pos c hf
    refine ga_bipush 11 C.c (v := (-2)) (by decide) dX0_soon_9 rfl ?_
    have hf := Option.some.inj hf
    cases hf
    exact xw_iret C hr hlk hq rfl rfl rfl dX0_soon_11
set_option maxHeartbeats 4000000 in
theorem met_X0_quickOf (l : Launch) (X : XX) (z : MS) (a1 : Int32) (a2 : Int32) (r : Int32) (z9 : MS) (hf : fX0_quickOf (xp X) z a1 a2 = some (r, z9)) : Met l yX0_quickOf (ws_ yX0_quickOf cX0_quickOf 6 (some .int)) ({ frames := 7, cells := 0, slots := 0, locals := 176 } : Room) (xw_Pc X z [.ref (xg X 0), .int a1, .int a2]) (xw_Qc X z9 (some (.int r))) 0 0 (xw_A (xg X)) := by
  refine xw_of (RX := RX0) (lo := [some (.ref (xg X 0)), some (.int a1), some (.int a2), none, none, none]) (by decide) rfl (Nat.le_of_ble_eq_true rfl) rfl (fun E C hr hlk hq => ?_)
  unfold fX0_quickOf at hf
  refine ga_aload_n 1 C.c 0 rfl rfl dX0_quickOf_0 rfl ?_
  refine ga_iconst 2 C.c (v := (-1)) (by decide) dX0_quickOf_1 rfl ?_
  refine xa_put 5 0 10 C (ty := tyX0) tyX0_ok nmX0 rfl (xa_set3 _) rfl in_X0 (by decide) q566 rfl rfl rfl (Nat.le_of_ble_eq_true rfl) dX0_quickOf_2 rfl ?_
  refine ga_sipush 8 C.c (v := 1000) (by decide) dX0_quickOf_5 rfl ?_
  refine ga_istore_n 9 C.c 3 rfl (by decide) rfl dX0_quickOf_8 rfl ?_
  refine ga_iconst 10 C.c (v := 0) (by decide) dX0_quickOf_9 rfl ?_
  refine ga_istore 12 C.c 4 (by decide) rfl dX0_quickOf_10 rfl ?_
  obtain ⟨v19, z20, hi12, hf⟩ := pu_b2_w hf
  refine ga_cut 68 (I2 := xw_I E X z20) (k2 := 0) (n2 := 0) (lo2 := [some (.ref (xg X 0)), none, none, some (.int v19), none, none]) (st2 := []) ?_ (fun hj11 => ?_)
  · refine ga_aload_n 69 C.c 0 rfl rfl dX0_quickOf_68 rfl ?_
    refine xa_get 72 0 10 C rfl (T := TX0) rfl in_X0 (by decide) q566 rfl rfl dX0_quickOf_69 rfl ?_
    refine ga_iconst 73 C.c (v := (-1)) (by decide) dX0_quickOf_72 rfl ?_
    refine ga_icmp_ne 80 76 C.c dX0_quickOf_73 (by decide) rfl (fun c => ?_) (fun c => ?_)
    · have hf := pu_neg c hf
      refine ga_iload_n 81 C.c 3 rfl rfl dX0_quickOf_80 rfl ?_
      have hf := Option.some.inj hf
      cases hf
      exact xw_iret C hr hlk hq rfl rfl rfl dX0_quickOf_81
    · have hf := pu_pos c hf
      refine ga_iconst 77 C.c (v := (-1)) (by decide) dX0_quickOf_76 rfl ?_
      refine ga_goto 81 C.c dX0_quickOf_77 (by decide) ?_
      have hf := Option.some.inj hf
      cases hf
      exact xw_iret C hr hlk hq rfl rfl rfl dX0_quickOf_81
  · refine ga_W.sub (pu_it_w (Wd := fun (q : Int32 × Int32 × MS) => ga_W E 6 (xw_I E X q.2.2) 0 0 12 [some (.ref (xg X 0)), some (.int a1), some (.int a2), some (.int q.1), some (.int q.2.1), none] []) (Wx := fun e => e = (v19, z20)) (fun q x hf kc7 kx8 => ?_) hi12 rfl) (And.intro rfl (And.intro rfl (And.intro rfl (And.intro rfl (And.intro rfl trivial)))))
    obtain ⟨v4, v5, z6⟩ := q
    try dsimp only
    unfold fX0_quickOf_L12 at hf
    refine ga_iload 14 C.c rfl dX0_quickOf_12 rfl ?_
    refine ga_bipush 16 C.c (v := 60) (by decide) dX0_quickOf_14 rfl ?_
    refine ga_icmp_gt 68 19 C.c dX0_quickOf_16 (by decide) rfl (fun c => ?_) (fun c => ?_)
    · have hf := pu_pos c hf
      cases (kx8 _ (Option.some.inj hf).symm)
      exact ga_W.sub hj11 (And.intro rfl (And.intro rfl trivial))
    · have hf := pu_neg c hf
      refine ga_aload_n 20 C.c 0 rfl rfl dX0_quickOf_19 rfl ?_
      refine ga_iload_n 21 C.c 1 rfl rfl dX0_quickOf_20 rfl ?_
      refine ga_iload 23 C.c rfl dX0_quickOf_21 rfl ?_
      obtain ⟨z13, hc14, hf⟩ := pu_b1_w hf
      refine xa_callV 26 0 C (as := [.int a1, .int v5]) (met_X0_put (eL E) X _ _ _ _ hc14) rfl (T := TX0) rfl (lw_V q1094 q1096 qs29 q93 q1097) cd_X0_put rfl (Nat.le_of_ble_eq_true rfl) (Nat.le_of_ble_eq_true rfl) (Nat.le_of_ble_eq_true rfl) dX0_quickOf_23 rfl ?_
      refine ga_iload_n 27 C.c 2 rfl rfl dX0_quickOf_26 rfl ?_
      obtain ⟨v15, hc16, hf⟩ := pu_b1_w hf
      refine xa_callV 30 5 C (as := [.int a2]) (met_X4_first_s (eL E) X _ _ _ hc16) rfl (T := TX4) rfl (lw_V q1216 q1217 q1218 q100 q1219) cd_X4_first_s rfl (Nat.le_of_ble_eq_true rfl) (Nat.le_of_ble_eq_true rfl) (Nat.le_of_ble_eq_true rfl) dX0_quickOf_27 rfl ?_
      refine ga_istore 32 C.c 5 (by decide) rfl dX0_quickOf_30 rfl ?_
      refine ga_iload 34 C.c rfl dX0_quickOf_32 rfl ?_
      refine ga_iconst 35 C.c (v := (-1)) (by decide) dX0_quickOf_34 rfl ?_
      refine ga_icmp_eq 62 38 C.c dX0_quickOf_35 (by decide) rfl (fun c => ?_) (fun c => ?_)
      · have hf := pu_pos c hf
        refine ga_iinc 65 C.c (v := v5 + 1) rfl rfl (by decide) rfl dX0_quickOf_62 rfl ?_
        refine ga_goto 12 C.c dX0_quickOf_65 (by decide) ?_
        exact ga_W.sub (kc7 _ (Option.some.inj hf).symm) (And.intro rfl (And.intro rfl (And.intro rfl (And.intro rfl (And.intro rfl trivial)))))
      · have hf := pu_neg c hf
        refine ga_iload 40 C.c rfl dX0_quickOf_38 rfl ?_
        refine ga_iload 42 C.c rfl dX0_quickOf_40 rfl ?_
        refine ga_isub 43 C.c dX0_quickOf_42 rfl ?_
        refine ga_iload_n 44 C.c 3 rfl rfl dX0_quickOf_43 rfl ?_
        refine ga_icmp_lt 50 47 C.c dX0_quickOf_44 (by decide) rfl (fun c => ?_) (fun c => ?_)
        · have hf := pu_pos c hf
          refine ga_aload_n 51 C.c 0 rfl rfl dX0_quickOf_50 rfl ?_
          refine ga_iload 53 C.c rfl dX0_quickOf_51 rfl ?_
          refine xa_put 56 0 10 C (ty := tyX0) tyX0_ok nmX0 rfl (xa_set3 _) rfl in_X0 (by decide) q566 rfl rfl rfl (Nat.le_of_ble_eq_true rfl) dX0_quickOf_53 rfl ?_
          refine ga_iload 58 C.c rfl dX0_quickOf_56 rfl ?_
          refine ga_iload 60 C.c rfl dX0_quickOf_58 rfl ?_
          refine ga_isub 61 C.c dX0_quickOf_60 rfl ?_
          refine ga_istore_n 62 C.c 3 rfl (by decide) rfl dX0_quickOf_61 rfl ?_
          obtain ⟨_, rfl, hf⟩ := pu_l1_w hf
          refine ga_iinc 65 C.c (v := v5 + 1) rfl rfl (by decide) rfl dX0_quickOf_62 rfl ?_
          refine ga_goto 12 C.c dX0_quickOf_65 (by decide) ?_
          exact ga_W.sub (kc7 _ (Option.some.inj hf).symm) (And.intro rfl (And.intro rfl (And.intro rfl (And.intro rfl (And.intro rfl trivial)))))
        · have hf := pu_neg c hf
          refine ga_goto 62 C.c dX0_quickOf_47 (by decide) ?_
          refine ga_iinc 65 C.c (v := v5 + 1) rfl rfl (by decide) rfl dX0_quickOf_62 rfl ?_
          refine ga_goto 12 C.c dX0_quickOf_65 (by decide) ?_
          exact ga_W.sub (kc7 _ (Option.some.inj hf).symm) (And.intro rfl (And.intro rfl (And.intro rfl (And.intro rfl (And.intro rfl trivial)))))
set_option maxHeartbeats 4000000 in
theorem met_X0_quick (l : Launch) (X : XX) (z : MS) (a1 : Int32) (a2 : Int32) (r : Int32) (z9 : MS) (hf : fX0_quick (xp X) z a1 a2 = some (r, z9)) : Met l yX0_quick (ws_ yX0_quick cX0_quick 3 (some .int)) ({ frames := 8, cells := 0, slots := 0, locals := 201 } : Room) (xw_Pc X z [.ref (xg X 0), .int a1, .int a2]) (xw_Qc X z9 (some (.int r))) 0 0 (xw_A (xg X)) := by
  refine xw_of (RX := RX0) (lo := [some (.ref (xg X 0)), some (.int a1), some (.int a2)]) (by decide) rfl (Nat.le_of_ble_eq_true rfl) rfl (fun E C hr hlk hq => ?_)
  unfold fX0_quick at hf
  refine ga_aload_n 1 C.c 0 rfl rfl dX0_quick_0 rfl ?_
  refine ga_iload_n 2 C.c 1 rfl rfl dX0_quick_1 rfl ?_
  refine ga_iload_n 3 C.c 2 rfl rfl dX0_quick_2 rfl ?_
  refine xa_callV 6 0 C (as := [.int a1, .int a2]) (met_X0_areReaches (eL E) X _ _ _) rfl (T := TX0) rfl (lw_V q1090 q1092 qs28 q93 q1093) cd_X0_areReaches rfl (Nat.le_of_ble_eq_true rfl) (Nat.le_of_ble_eq_true rfl) (Nat.le_of_ble_eq_true rfl) dX0_quick_3 rfl ?_
  refine ga_if_eq 18 9 C.c dX0_quick_6 (by decide) rfl (fun c => ?_) (fun c => ?_)
  · have hf := pu_pos c hf
    refine ga_bipush 20 C.c (v := (-2)) (by decide) dX0_quick_18 rfl ?_
    have hf := Option.some.inj hf
    cases hf
    exact xw_iret C hr hlk hq rfl rfl rfl dX0_quick_20
  · have hf := pu_neg c hf
    refine ga_aload_n 10 C.c 0 rfl rfl dX0_quick_9 rfl ?_
    refine ga_iload_n 11 C.c 1 rfl rfl dX0_quick_10 rfl ?_
    refine ga_iload_n 12 C.c 2 rfl rfl dX0_quick_11 rfl ?_
    obtain ⟨v1, z2, hc3, hf⟩ := pu_b2_w hf
    refine xa_callV 15 0 C (as := [.int a1, .int a2]) (met_X0_quickOf (eL E) X _ _ _ _ _ hc3) rfl (T := TX0) rfl (lw_V q1320 q1322 qs35 q93 q1323) cd_X0_quickOf rfl (Nat.le_of_ble_eq_true rfl) (Nat.le_of_ble_eq_true rfl) (Nat.le_of_ble_eq_true rfl) dX0_quick_12 rfl ?_
    refine ga_goto 20 C.c dX0_quick_15 (by decide) ?_
    have hf := Option.some.inj hf
    cases hf
    exact xw_iret C hr hlk hq rfl rfl rfl dX0_quick_20
set_option maxHeartbeats 4000000 in
theorem met_X0_quickly (l : Launch) (X : XX) (z : MS) (a1 : Int32) (a2 : Int32) (r : Int32) (z9 : MS) (hf : fX0_quickly (xp X) z a1 a2 = some (r, z9)) : Met l yX0_quickly (ws_ yX0_quickly cX0_quickly 3 (some .int)) ({ frames := 8, cells := 0, slots := 0, locals := 201 } : Room) (xw_Pc X z [.ref (xg X 0), .int a1, .int a2]) (xw_Qc X z9 (some (.int r))) 0 0 (xw_A (xg X)) := by
  refine xw_of (RX := RX0) (lo := [some (.ref (xg X 0)), some (.int a1), some (.int a2)]) (by decide) rfl (Nat.le_of_ble_eq_true rfl) rfl (fun E C hr hlk hq => ?_)
  unfold fX0_quickly at hf
  refine ga_aload_n 1 C.c 0 rfl rfl dX0_quickly_0 rfl ?_
  refine ga_iload_n 2 C.c 1 rfl rfl dX0_quickly_1 rfl ?_
  refine ga_iload_n 3 C.c 2 rfl rfl dX0_quickly_2 rfl ?_
  refine xa_callV 6 0 C (as := [.int a1, .int a2]) (met_X0_areReaches (eL E) X _ _ _) rfl (T := TX0) rfl (lw_V q1090 q1092 qs28 q93 q1093) cd_X0_areReaches rfl (Nat.le_of_ble_eq_true rfl) (Nat.le_of_ble_eq_true rfl) (Nat.le_of_ble_eq_true rfl) dX0_quickly_3 rfl ?_
  refine ga_if_ne 12 9 C.c dX0_quickly_6 (by decide) rfl (fun c => ?_) (fun c => ?_)
  · have hf := pu_neg c hf
    refine ga_aload_n 13 C.c 0 rfl rfl dX0_quickly_12 rfl ?_
    refine ga_iload_n 14 C.c 1 rfl rfl dX0_quickly_13 rfl ?_
    refine ga_iload_n 15 C.c 2 rfl rfl dX0_quickly_14 rfl ?_
    obtain ⟨v1, z2, hc3, hf⟩ := pu_b2_w hf
    refine xa_callV 18 0 C (as := [.int a1, .int a2]) (met_X0_quickOf (eL E) X _ _ _ _ _ hc3) rfl (T := TX0) rfl (lw_V q1320 q1322 qs35 q93 q1323) cd_X0_quickOf rfl (Nat.le_of_ble_eq_true rfl) (Nat.le_of_ble_eq_true rfl) (Nat.le_of_ble_eq_true rfl) dX0_quickly_15 rfl ?_
    refine ga_pop 19 C.c rfl dX0_quickly_18 rfl ?_
    refine ga_aload_n 20 C.c 0 rfl rfl dX0_quickly_19 rfl ?_
    refine xa_get 23 0 10 C rfl (T := TX0) rfl in_X0 (by decide) q566 rfl rfl dX0_quickly_20 rfl ?_
    have hf := Option.some.inj hf
    cases hf
    exact xw_iret C hr hlk hq rfl rfl rfl dX0_quickly_23
  · have hf := pu_pos c hf
    refine ga_bipush 11 C.c (v := (-2)) (by decide) dX0_quickly_9 rfl ?_
    have hf := Option.some.inj hf
    cases hf
    exact xw_iret C hr hlk hq rfl rfl rfl dX0_quickly_11
set_option maxHeartbeats 4000000 in
theorem met_X0_late (l : Launch) (X : XX) (z : MS) (a1 : Int32) (a2 : Int32) (a3 : Int32) (r : Int32) (z9 : MS) (hf : fX0_late (xp X) z a1 a2 a3 = some (r, z9)) : Met l yX0_late (ws_ yX0_late cX0_late 5 (some .int)) ({ frames := 7, cells := 0, slots := 0, locals := 176 } : Room) (xw_Pc X z [.ref (xg X 0), .int a1, .int a2, .int a3]) (xw_Qc X z9 (some (.int r))) 0 0 (xw_A (xg X)) := by
  refine xw_of (RX := RX0) (lo := [some (.ref (xg X 0)), some (.int a1), some (.int a2), some (.int a3), none]) (by decide) rfl (Nat.le_of_ble_eq_true rfl) rfl (fun E C hr hlk hq => ?_)
  unfold fX0_late at hf
  refine ga_aload_n 1 C.c 0 rfl rfl dX0_late_0 rfl ?_
  refine ga_iload_n 2 C.c 1 rfl rfl dX0_late_1 rfl ?_
  refine ga_iload_n 3 C.c 2 rfl rfl dX0_late_2 rfl ?_
  refine xa_callV 6 0 C (as := [.int a1, .int a2]) (met_X0_areReaches (eL E) X _ _ _) rfl (T := TX0) rfl (lw_V q1090 q1092 qs28 q93 q1093) cd_X0_areReaches rfl (Nat.le_of_ble_eq_true rfl) (Nat.le_of_ble_eq_true rfl) (Nat.le_of_ble_eq_true rfl) dX0_late_3 rfl ?_
  refine ga_if_eq 18 9 C.c dX0_late_6 (by decide) rfl (fun c => ?_) (fun c => ?_)
  · have hf := pu_pos c hf
    refine ga_bipush 20 C.c (v := (-2)) (by decide) dX0_late_18 rfl ?_
    have hf := Option.some.inj hf
    cases hf
    exact xw_iret C hr hlk hq rfl rfl rfl dX0_late_20
  · have hf := pu_neg c hf
    refine ga_aload_n 10 C.c 0 rfl rfl dX0_late_9 rfl ?_
    refine ga_iload_n 11 C.c 3 rfl rfl dX0_late_10 rfl ?_
    refine ga_i2l 12 C.c dX0_late_11 rfl ?_
    refine xa_callV 15 0 C (as := [.long a3.toInt64]) (met_X0_isStep (eL E) X _ _) rfl (T := TX0) rfl (lw_V q1123 q1125 qs31 q93 q1126) cd_X0_isStep rfl (Nat.le_of_ble_eq_true rfl) (Nat.le_of_ble_eq_true rfl) (Nat.le_of_ble_eq_true rfl) dX0_late_12 rfl ?_
    refine ga_if_ne 21 18 C.c dX0_late_15 (by decide) rfl (fun c => ?_) (fun c => ?_)
    · have hf := pu_neg c hf
      refine ga_iload_n 22 C.c 3 rfl rfl dX0_late_21 rfl ?_
      refine ga_istore 24 C.c 4 (by decide) rfl dX0_late_22 rfl ?_
      obtain ⟨y16, hi11, hr8, hs9⟩ := pu_s_w hf
      refine ga_cutP (P := ∀ (z15 : MS), y16 = .inl (z15) → ga_W E 5 (xw_I E X z15) 0 0 54 [none, none, none, none, none] []) (fun z15 hy => ?_) (fun hj10 => ?_)
      · have hf := hr8 _ hy
        refine ga_iconst 55 C.c (v := (-1)) (by decide) dX0_late_54 rfl ?_
        have hf := Option.some.inj hf
        cases hf
        exact xw_iret C hr hlk hq rfl rfl rfl dX0_late_55
      · refine ga_W.sub (pu_it_w (Wd := fun (q : Int32 × MS) => ga_W E 5 (xw_I E X q.2) 0 0 24 [some (.ref (xg X 0)), some (.int a1), some (.int a2), some (.int a3), some (.int q.1)] []) (Wx := fun e => e = y16) (fun q x hf kc6 kx7 => ?_) hi11 rfl) (And.intro rfl (And.intro rfl (And.intro rfl (And.intro rfl (And.intro rfl trivial)))))
        obtain ⟨v4, z5⟩ := q
        try dsimp only
        unfold fX0_late_L24 at hf
        refine ga_iload 26 C.c rfl dX0_late_24 rfl ?_
        refine ga_if_lt 54 29 C.c dX0_late_26 (by decide) rfl (fun c => ?_) (fun c => ?_)
        · have hf := pu_pos c hf
          exact ga_W.sub (hj10 _ (kx7 _ (Option.some.inj hf).symm).symm) trivial
        · have hf := pu_neg c hf
          refine ga_aload_n 30 C.c 0 rfl rfl dX0_late_29 rfl ?_
          refine ga_iload_n 31 C.c 1 rfl rfl dX0_late_30 rfl ?_
          refine ga_iload 33 C.c rfl dX0_late_31 rfl ?_
          obtain ⟨z12, hc13, hf⟩ := pu_b1_w hf
          refine xa_callV 36 0 C (as := [.int a1, .int v4]) (met_X0_put (eL E) X _ _ _ _ hc13) rfl (T := TX0) rfl (lw_V q1094 q1096 qs29 q93 q1097) cd_X0_put rfl (Nat.le_of_ble_eq_true rfl) (Nat.le_of_ble_eq_true rfl) (Nat.le_of_ble_eq_true rfl) dX0_late_33 rfl ?_
          refine xa_getN 39 5 0 C rfl (T := TX4) rfl in_X4 (by decide) q486 rfl rfl dX0_late_36 rfl ?_
          refine ga_iload_n 40 C.c 3 rfl rfl dX0_late_39 rfl ?_
          obtain ⟨h14, hf⟩ := pu_g_w hf
          refine xa_iald 41 3 6 61 C rfl h14 dX0_late_40 rfl ?_
          refine ga_iload_n 42 C.c 2 rfl rfl dX0_late_41 rfl ?_
          refine ga_icmp_ne 48 45 C.c dX0_late_42 (by decide) rfl (fun c => ?_) (fun c => ?_)
          · have hf := pu_neg c hf
            refine ga_iinc 51 C.c (v := v4 + (-1)) rfl (congrArg (fun y => v4 + y) (by decide)) (by decide) rfl dX0_late_48 rfl ?_
            refine ga_goto 24 C.c dX0_late_51 (by decide) ?_
            exact ga_W.sub (kc6 _ (Option.some.inj hf).symm) (And.intro rfl (And.intro rfl (And.intro rfl (And.intro rfl (And.intro rfl trivial)))))
          · have hf := pu_pos c hf
            refine ga_iload 47 C.c rfl dX0_late_45 rfl ?_
            have hf := Option.some.inj hf
            have hf := hs9 _ (kx7 _ hf.symm).symm
            cases hf
            exact xw_iret C hr hlk hq rfl rfl rfl dX0_late_47
    · have hf := pu_pos c hf
      refine ga_bipush 20 C.c (v := (-2)) (by decide) dX0_late_18 rfl ?_
      have hf := Option.some.inj hf
      cases hf
      exact xw_iret C hr hlk hq rfl rfl rfl dX0_late_20
set_option maxHeartbeats 4000000 in
theorem met_X0_often (l : Launch) (X : XX) (z : MS) (a1 : Int32) (a2 : Int32) (r : Int32) (z9 : MS) (hf : fX0_often (xp X) z a1 a2 = some (r, z9)) : Met l yX0_often (ws_ yX0_often cX0_often 5 (some .int)) ({ frames := 7, cells := 0, slots := 0, locals := 176 } : Room) (xw_Pc X z [.ref (xg X 0), .int a1, .int a2]) (xw_Qc X z9 (some (.int r))) 0 0 (xw_A (xg X)) := by
  refine xw_of (RX := RX0) (lo := [some (.ref (xg X 0)), some (.int a1), some (.int a2), none, none]) (by decide) rfl (Nat.le_of_ble_eq_true rfl) rfl (fun E C hr hlk hq => ?_)
  unfold fX0_often at hf
  refine ga_aload_n 1 C.c 0 rfl rfl dX0_often_0 rfl ?_
  refine ga_iload_n 2 C.c 1 rfl rfl dX0_often_1 rfl ?_
  refine ga_iload_n 3 C.c 2 rfl rfl dX0_often_2 rfl ?_
  refine xa_callV 6 0 C (as := [.int a1, .int a2]) (met_X0_areReaches (eL E) X _ _ _) rfl (T := TX0) rfl (lw_V q1090 q1092 qs28 q93 q1093) cd_X0_areReaches rfl (Nat.le_of_ble_eq_true rfl) (Nat.le_of_ble_eq_true rfl) (Nat.le_of_ble_eq_true rfl) dX0_often_3 rfl ?_
  refine ga_if_ne 12 9 C.c dX0_often_6 (by decide) rfl (fun c => ?_) (fun c => ?_)
  · have hf := pu_neg c hf
    refine ga_iconst 13 C.c (v := 0) (by decide) dX0_often_12 rfl ?_
    refine ga_istore_n 14 C.c 3 rfl (by decide) rfl dX0_often_13 rfl ?_
    refine ga_iconst 15 C.c (v := 0) (by decide) dX0_often_14 rfl ?_
    refine ga_istore 17 C.c 4 (by decide) rfl dX0_often_15 rfl ?_
    obtain ⟨v18, z19, hi11, hf⟩ := pu_b2_w hf
    refine ga_cut 53 (I2 := xw_I E X z19) (k2 := 0) (n2 := 0) (lo2 := [none, none, none, some (.int v18), none]) (st2 := []) ?_ (fun hj10 => ?_)
    · refine ga_iload_n 54 C.c 3 rfl rfl dX0_often_53 rfl ?_
      have hf := Option.some.inj hf
      cases hf
      exact xw_iret C hr hlk hq rfl rfl rfl dX0_often_54
    · refine ga_W.sub (pu_it_w (Wd := fun (q : Int32 × Int32 × MS) => ga_W E 5 (xw_I E X q.2.2) 0 0 17 [some (.ref (xg X 0)), some (.int a1), some (.int a2), some (.int q.1), some (.int q.2.1)] []) (Wx := fun e => e = (v18, z19)) (fun q x hf kc6 kx7 => ?_) hi11 rfl) (And.intro rfl (And.intro rfl (And.intro rfl (And.intro rfl (And.intro rfl trivial)))))
      obtain ⟨v3, v4, z5⟩ := q
      try dsimp only
      unfold fX0_often_L17 at hf
      refine ga_iload 19 C.c rfl dX0_often_17 rfl ?_
      refine ga_bipush 21 C.c (v := 60) (by decide) dX0_often_19 rfl ?_
      refine ga_icmp_gt 53 24 C.c dX0_often_21 (by decide) rfl (fun c => ?_) (fun c => ?_)
      · have hf := pu_pos c hf
        cases (kx7 _ (Option.some.inj hf).symm)
        exact ga_W.sub hj10 (And.intro rfl trivial)
      · have hf := pu_neg c hf
        refine ga_iload_n 25 C.c 3 rfl rfl dX0_often_24 rfl ?_
        refine ga_aload_n 26 C.c 0 rfl rfl dX0_often_25 rfl ?_
        refine ga_iload_n 27 C.c 1 rfl rfl dX0_often_26 rfl ?_
        refine ga_iload 29 C.c rfl dX0_often_27 rfl ?_
        obtain ⟨z12, hc13, hf⟩ := pu_b1_w hf
        refine xa_callV 32 0 C (as := [.int a1, .int v4]) (met_X0_put (eL E) X _ _ _ _ hc13) rfl (T := TX0) rfl (lw_V q1094 q1096 qs29 q93 q1097) cd_X0_put rfl (Nat.le_of_ble_eq_true rfl) (Nat.le_of_ble_eq_true rfl) (Nat.le_of_ble_eq_true rfl) dX0_often_29 rfl ?_
        refine ga_iload_n 33 C.c 2 rfl rfl dX0_often_32 rfl ?_
        obtain ⟨v14, hc15, hf⟩ := pu_b1_w hf
        refine xa_callV 36 5 C (as := [.int a2]) (met_X4_first_s (eL E) X _ _ _ hc15) rfl (T := TX4) rfl (lw_V q1216 q1217 q1218 q100 q1219) cd_X4_first_s rfl (Nat.le_of_ble_eq_true rfl) (Nat.le_of_ble_eq_true rfl) (Nat.le_of_ble_eq_true rfl) dX0_often_33 rfl ?_
        refine ga_iconst 37 C.c (v := (-1)) (by decide) dX0_often_36 rfl ?_
        refine ga_icmp_ne 44 40 C.c dX0_often_37 (by decide) rfl (fun c => ?_) (fun c => ?_)
        · have hf := pu_neg c hf
          refine ga_iconst 45 C.c (v := 1) (by decide) dX0_often_44 rfl ?_
          refine ga_iadd 46 C.c dX0_often_45 rfl ?_
          refine ga_istore_n 47 C.c 3 rfl (by decide) rfl dX0_often_46 rfl ?_
          obtain ⟨_, rfl, hf⟩ := pu_l1_w hf
          refine ga_iinc 50 C.c (v := v4 + 1) rfl rfl (by decide) rfl dX0_often_47 rfl ?_
          refine ga_goto 17 C.c dX0_often_50 (by decide) ?_
          exact ga_W.sub (kc6 _ (Option.some.inj hf).symm) (And.intro rfl (And.intro rfl (And.intro rfl (And.intro rfl (And.intro rfl trivial)))))
        · have hf := pu_pos c hf
          refine ga_iconst 41 C.c (v := 0) (by decide) dX0_often_40 rfl ?_
          refine ga_goto 45 C.c dX0_often_41 (by decide) ?_
          refine ga_iadd 46 C.c dX0_often_45 rfl ?_
          refine ga_istore_n 47 C.c 3 rfl (by decide) rfl dX0_often_46 rfl ?_
          obtain ⟨_, rfl, hf⟩ := pu_l1_w hf
          refine ga_iinc 50 C.c (v := v4 + 1) rfl rfl (by decide) rfl dX0_often_47 rfl ?_
          refine ga_goto 17 C.c dX0_often_50 (by decide) ?_
          exact ga_W.sub (kc6 _ (Option.some.inj hf).symm) (And.intro rfl (And.intro rfl (And.intro rfl (And.intro rfl (And.intro rfl trivial)))))
  · have hf := pu_pos c hf
    refine ga_bipush 11 C.c (v := (-2)) (by decide) dX0_often_9 rfl ?_
    have hf := Option.some.inj hf
    cases hf
    exact xw_iret C hr hlk hq rfl rfl rfl dX0_often_11
