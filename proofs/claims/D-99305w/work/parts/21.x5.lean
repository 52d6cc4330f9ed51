set_option maxRecDepth 100000
set_option maxHeartbeats 4000000 in
theorem met_X0_has (l : Launch) (X : XX) (z : MS) (a1 : Int32) (a2 : Int32) : Met l yX0_has (ws_ yX0_has cX0_has 3 (some .int)) ({ frames := 1, cells := 0, slots := 0, locals := 25 } : Room) (xw_Pc X z [.ref (xg X 0), .int a1, .int a2]) (xw_Qc X z (some (.int (fX0_has (xp X) z a1 a2)))) 0 0 (xw_A (xg X)) := by
  obtain ⟨r, hf⟩ : ∃ r, fX0_has (xp X) z a1 a2 = r := ⟨_, rfl⟩
  rw [hf]
  refine xw_of (RX := RX0) (lo := [some (.ref (xg X 0)), some (.int a1), some (.int a2)]) (by decide) rfl (Nat.le_of_ble_eq_true rfl) rfl (fun E C hr hlk hq => ?_)
  unfold fX0_has at hf
  refine ga_iload_n 1 C.c 1 rfl rfl dX0_has_0 rfl ?_
  refine ga_i2l 2 C.c dX0_has_1 rfl ?_
  refine ga_lconst 3 C.c (v := 0) (by decide) dX0_has_2 rfl ?_
  refine ga_ldc2 6 C.c C.ow (C.ts _ q1249) dX0_has_3 rfl ?_
  refine xa_callS 9 C (as := [.long a1.toInt64, .long 0, .long 4]) (met_X0_in (eL E) _ _ _) (lw_S q136 q137 q93 q138) cd_X0_in rfl (Nat.le_of_ble_eq_true rfl) (Nat.le_of_ble_eq_true rfl) (Nat.le_of_ble_eq_true rfl) dX0_has_6 rfl ?_
  refine ga_if_eq 32 12 C.c dX0_has_9 (by decide) rfl (fun c => ?_) (fun c => ?_)
  · have hf := pu_pos c hf
    refine ga_sipush 35 C.c (v := (-1000)) (by decide) dX0_has_32 rfl ?_
    cases hf
    exact xw_iret C hr hlk hq rfl rfl rfl dX0_has_35
  · have hf := pu_neg c hf
    refine ga_iload_n 13 C.c 2 rfl rfl dX0_has_12 rfl ?_
    refine ga_i2l 14 C.c dX0_has_13 rfl ?_
    refine ga_lconst 15 C.c (v := 0) (by decide) dX0_has_14 rfl ?_
    refine ga_ldc2 18 C.c C.ow (C.ts _ q1249) dX0_has_15 rfl ?_
    refine xa_callS 21 C (as := [.long a2.toInt64, .long 0, .long 4]) (met_X0_in (eL E) _ _ _) (lw_S q136 q137 q93 q138) cd_X0_in rfl (Nat.le_of_ble_eq_true rfl) (Nat.le_of_ble_eq_true rfl) (Nat.le_of_ble_eq_true rfl) dX0_has_18 rfl ?_
    refine ga_if_eq 32 24 C.c dX0_has_21 (by decide) rfl (fun c => ?_) (fun c => ?_)
    · have hf := pu_pos c hf
      refine ga_sipush 35 C.c (v := (-1000)) (by decide) dX0_has_32 rfl ?_
      cases hf
      exact xw_iret C hr hlk hq rfl rfl rfl dX0_has_35
    · have hf := pu_neg c hf
      refine ga_iload_n 25 C.c 1 rfl rfl dX0_has_24 rfl ?_
      refine ga_iload_n 26 C.c 2 rfl rfl dX0_has_25 rfl ?_
      refine xa_callS 29 C (as := [.int a1, .int a2]) (met_X0_hasOf (eL E) _ _) (lw_S q1250 q1251 q93 q1252) cd_X0_hasOf rfl (Nat.le_of_ble_eq_true rfl) (Nat.le_of_ble_eq_true rfl) (Nat.le_of_ble_eq_true rfl) dX0_has_26 rfl ?_
      refine ga_goto 35 C.c dX0_has_29 (by decide) ?_
      cases hf
      exact xw_iret C hr hlk hq rfl rfl rfl dX0_has_35
set_option maxHeartbeats 4000000 in
theorem met_X0_treaty (l : Launch) (X : XX) (z : MS) (r : Int32) (hf : fX0_treaty (xp X) z = some r) : Met l yX0_treaty (ws_ yX0_treaty cX0_treaty 4 (some .int)) ({ frames := 1, cells := 0, slots := 0, locals := 21 } : Room) (xw_Pc X z [.ref (xg X 0)]) (xw_Qc X z (some (.int r))) 0 0 (xw_A (xg X)) := by
  refine xw_of (RX := RX0) (lo := [some (.ref (xg X 0)), none, none, none]) (by decide) rfl (Nat.le_of_ble_eq_true rfl) rfl (fun E C hr hlk hq => ?_)
  unfold fX0_treaty at hf
  refine ga_sipush 3 C.c (v := (-1000)) (by decide) dX0_treaty_0 rfl ?_
  refine ga_istore_n 4 C.c 1 rfl (by decide) rfl dX0_treaty_3 rfl ?_
  refine ga_iconst 5 C.c (v := 0) (by decide) dX0_treaty_4 rfl ?_
  refine ga_istore_n 6 C.c 2 rfl (by decide) rfl dX0_treaty_5 rfl ?_
  obtain ⟨v22, hi9, hf⟩ := pu_b1_w hf
  refine ga_cut 46 (I2 := xw_I E X z) (k2 := 0) (n2 := 0) (lo2 := [none, some (.int v22), none, none]) (st2 := []) ?_ (fun hj8 => ?_)
  · refine ga_iload_n 47 C.c 1 rfl rfl dX0_treaty_46 rfl ?_
    have hf := Option.some.inj hf
    cases hf
    exact xw_iret C hr hlk hq rfl rfl rfl dX0_treaty_47
  · refine ga_W.sub (pu_it_w (Wd := fun (q : Int32 × Int32) => ga_W E 4 (xw_I E X z) 0 0 6 [none, some (.int q.1), some (.int q.2), none] []) (Wx := fun e => e = (v22)) (fun q x hf kc4 kx5 => ?_) hi9 rfl) (And.intro rfl (And.intro rfl trivial))
    obtain ⟨v2, v3⟩ := q
    try dsimp only
    unfold fX0_treaty_L6 at hf
    refine ga_iload_n 7 C.c 2 rfl rfl dX0_treaty_6 rfl ?_
    refine ga_iconst 8 C.c (v := 4) (by decide) dX0_treaty_7 rfl ?_
    refine ga_icmp_gt 46 11 C.c dX0_treaty_8 (by decide) rfl (fun c => ?_) (fun c => ?_)
    · have hf := pu_pos c hf
      cases (kx5 _ (Option.some.inj hf).symm)
      exact ga_W.sub hj8 (And.intro rfl trivial)
    · have hf := pu_neg c hf
      refine ga_iconst 12 C.c (v := 0) (by decide) dX0_treaty_11 rfl ?_
      refine ga_istore_n 13 C.c 3 rfl (by decide) rfl dX0_treaty_12 rfl ?_
      obtain ⟨v21, hi19, hf⟩ := pu_b1_w hf
      refine ga_cut 40 (I2 := xw_I E X z) (k2 := 0) (n2 := 0) (lo2 := [none, some (.int v21), some (.int v3), none]) (st2 := []) ?_ (fun hj18 => ?_)
      · refine ga_iinc 43 C.c (v := v3 + 1) rfl rfl (by decide) rfl dX0_treaty_40 rfl ?_
        refine ga_goto 6 C.c dX0_treaty_43 (by decide) ?_
        exact ga_W.sub (kc4 _ (Option.some.inj hf).symm) (And.intro rfl (And.intro rfl trivial))
      · refine ga_W.sub (pu_it_w (Wd := fun (q : Int32 × Int32) => ga_W E 4 (xw_I E X z) 0 0 13 [none, some (.int q.1), some (.int v3), some (.int q.2)] []) (Wx := fun e => e = (v21)) (fun q x hf kc14 kx15 => ?_) hi19 rfl) (And.intro rfl (And.intro rfl (And.intro rfl trivial)))
        obtain ⟨v12, v13⟩ := q
        try dsimp only
        unfold fX0_treaty_L13 at hf
        refine ga_iload_n 14 C.c 3 rfl rfl dX0_treaty_13 rfl ?_
        refine ga_iconst 15 C.c (v := 4) (by decide) dX0_treaty_14 rfl ?_
        refine ga_icmp_gt 40 18 C.c dX0_treaty_15 (by decide) rfl (fun c => ?_) (fun c => ?_)
        · have hf := pu_pos c hf
          cases (kx15 _ (Option.some.inj hf).symm)
          exact ga_W.sub hj18 (And.intro rfl (And.intro rfl trivial))
        · have hf := pu_neg c hf
          refine ga_iload_n 19 C.c 1 rfl rfl dX0_treaty_18 rfl ?_
          refine ga_iload_n 20 C.c 2 rfl rfl dX0_treaty_19 rfl ?_
          refine ga_iload_n 21 C.c 3 rfl rfl dX0_treaty_20 rfl ?_
          refine xa_callS 24 C (as := [.int v3, .int v13]) (met_X0_hasOf (eL E) _ _) (lw_S q1250 q1251 q93 q1252) cd_X0_hasOf rfl (Nat.le_of_ble_eq_true rfl) (Nat.le_of_ble_eq_true rfl) (Nat.le_of_ble_eq_true rfl) dX0_treaty_21 rfl ?_
          refine ga_iload_n 25 C.c 3 rfl rfl dX0_treaty_24 rfl ?_
          refine ga_iload_n 26 C.c 2 rfl rfl dX0_treaty_25 rfl ?_
          refine xa_callS 29 C (as := [.int v13, .int v3]) (met_X0_hasOf (eL E) _ _) (lw_S q1250 q1251 q93 q1252) cd_X0_hasOf rfl (Nat.le_of_ble_eq_true rfl) (Nat.le_of_ble_eq_true rfl) (Nat.le_of_ble_eq_true rfl) dX0_treaty_26 rfl ?_
          refine ga_iadd 30 C.c dX0_treaty_29 rfl ?_
          refine ga_mmax 33 C.c C.ml C.ow (C.ts _ q1220) (C.ts _ q850) (C.ts _ q104) (C.ts _ q851) (by rw [C.rm]; exact (Nat.le_of_ble_eq_true rfl)) (by rw [C.rm]; exact (Nat.le_of_ble_eq_true rfl)) (by rw [C.rm]; exact (Nat.le_of_ble_eq_true rfl)) (by rw [C.rm]; exact (Nat.le_of_ble_eq_true rfl)) dX0_treaty_30 rfl ?_
          refine ga_istore_n 34 C.c 1 rfl (by decide) rfl dX0_treaty_33 rfl ?_
          obtain ⟨_, rfl, hf⟩ := pu_l1_w hf
          refine ga_iinc 37 C.c (v := v13 + 1) rfl rfl (by decide) rfl dX0_treaty_34 rfl ?_
          refine ga_goto 13 C.c dX0_treaty_37 (by decide) ?_
          exact ga_W.sub (kc14 _ (Option.some.inj hf).symm) (And.intro rfl (And.intro rfl (And.intro rfl trivial)))
set_option maxHeartbeats 4000000 in
theorem met_X0_weightFrom (l : Launch) (X : XX) (z : MS) (a1 : Int32) (r : Int64) (hf : fX0_weightFrom (xp X) z a1 = some r) : Met l yX0_weightFrom (ws_ yX0_weightFrom cX0_weightFrom 5 (some .long)) ({ frames := 0, cells := 0, slots := 0, locals := 0 } : Room) (xw_Pc X z [.ref (xg X 0), .int a1]) (xw_Qc X z (some (.long r))) 0 0 (xw_A (xg X)) := by
  refine xw_of (RX := RX0) (lo := [some (.ref (xg X 0)), some (.int a1), none, none, none]) (by decide) rfl (Nat.le_of_ble_eq_true rfl) rfl (fun E C hr hlk hq => ?_)
  unfold fX0_weightFrom at hf
  refine ga_lconst 1 C.c (v := 0) (by decide) dX0_weightFrom_0 rfl ?_
  refine ga_lstore_n 2 C.c 2 rfl (by decide) rfl dX0_weightFrom_1 rfl ?_
  refine ga_iload_n 3 C.c 1 rfl rfl dX0_weightFrom_2 rfl ?_
  refine ga_istore 5 C.c 4 (by decide) rfl dX0_weightFrom_3 rfl ?_
  obtain ⟨v12, hi9, hf⟩ := pu_b1_w hf
  refine ga_cut 29 (I2 := xw_I E X z) (k2 := 0) (n2 := 0) (lo2 := [none, none, some (.long v12), none, none]) (st2 := []) ?_ (fun hj8 => ?_)
  · refine ga_lload_n 30 C.c 2 rfl rfl dX0_weightFrom_29 rfl ?_
    have hf := Option.some.inj hf
    cases hf
    exact xw_lret C hr hlk hq rfl rfl dX0_weightFrom_30
  · refine ga_W.sub (pu_it_w (Wd := fun (q : Int64 × Int32) => ga_W E 5 (xw_I E X z) 0 0 5 [some (.ref (xg X 0)), none, some (.long q.1), none, some (.int q.2)] []) (Wx := fun e => e = (v12)) (fun q x hf kc4 kx5 => ?_) hi9 rfl) (And.intro rfl (And.intro rfl (And.intro rfl trivial)))
    obtain ⟨v2, v3⟩ := q
    try dsimp only
    unfold fX0_weightFrom_L5 at hf
    refine ga_iload 7 C.c rfl dX0_weightFrom_5 rfl ?_
    refine ga_sipush 10 C.c (v := 2000) (by decide) dX0_weightFrom_7 rfl ?_
    refine ga_icmp_ge 29 13 C.c dX0_weightFrom_10 (by decide) rfl (fun c => ?_) (fun c => ?_)
    · have hf := pu_pos c hf
      cases (kx5 _ (Option.some.inj hf).symm)
      exact ga_W.sub hj8 (And.intro rfl trivial)
    · have hf := pu_neg c hf
      refine ga_lload_n 14 C.c 2 rfl rfl dX0_weightFrom_13 rfl ?_
      refine ga_aload_n 15 C.c 0 rfl rfl dX0_weightFrom_14 rfl ?_
      refine xa_get 18 0 13 C rfl (T := TX0) rfl in_X0 (by decide) q569 rfl rfl dX0_weightFrom_15 rfl ?_
      refine ga_iload 20 C.c rfl dX0_weightFrom_18 rfl ?_
      obtain ⟨h10, hf⟩ := pu_g_w hf
      refine xa_lald 21 0 11 2000 C rfl h10 dX0_weightFrom_20 rfl ?_
      refine ga_ladd 22 C.c dX0_weightFrom_21 rfl ?_
      refine ga_lstore_n 23 C.c 2 rfl (by decide) rfl dX0_weightFrom_22 rfl ?_
      obtain ⟨_, rfl, hf⟩ := pu_l1_w hf
      refine ga_iinc 26 C.c (v := v3 + 1) rfl rfl (by decide) rfl dX0_weightFrom_23 rfl ?_
      refine ga_goto 5 C.c dX0_weightFrom_26 (by decide) ?_
      exact ga_W.sub (kc4 _ (Option.some.inj hf).symm) (And.intro rfl (And.intro rfl (And.intro rfl trivial)))
set_option maxHeartbeats 4000000 in
theorem met_X0_chance (l : Launch) (X : XX) (z : MS) (a1 : Int32) (a2 : Int32) (a3 : Int32) (r : Int64) (z9 : MS) (hf : fX0_chance (xp X) z a1 a2 a3 = some (r, z9)) : Met l yX0_chance (ws_ yX0_chance cX0_chance 8 (some .long)) ({ frames := 131, cells := 0, slots := 0, locals := 5223 } : Room) (xw_Pc X z [.ref (xg X 0), .int a1, .int a2, .int a3]) (xw_Qc X z9 (some (.long r))) 0 0 (xw_A (xg X)) := by
  refine xw_of (RX := RX0) (lo := [some (.ref (xg X 0)), some (.int a1), some (.int a2), some (.int a3), none, none, none, none]) (by decide) rfl (Nat.le_of_ble_eq_true rfl) rfl (fun E C hr hlk hq => ?_)
  unfold fX0_chance at hf
  refine ga_aload_n 1 C.c 0 rfl rfl dX0_chance_0 rfl ?_
  refine xa_get 4 0 1 C rfl (T := TX0) rfl in_X0 (by decide) q554 rfl rfl dX0_chance_1 rfl ?_
  refine xa_ris 7 C q997 (Nat.le_of_ble_eq_true rfl) (Nat.le_of_ble_eq_true rfl) (Nat.le_of_ble_eq_true rfl) dX0_chance_4 rfl ?_
  refine ga_if_eq 41 10 C.c dX0_chance_7 (by decide) rfl (fun c => ?_) (fun c => ?_)
  · have hf := pu_pos c hf
    refine ga_ldc2 44 C.c C.ow (C.ts _ q1229) dX0_chance_41 rfl ?_
    have hf := Option.some.inj hf
    cases hf
    exact xw_lret C hr hlk hq rfl rfl dX0_chance_44
  · have hf := pu_neg c hf
    refine ga_iload_n 11 C.c 1 rfl rfl dX0_chance_10 rfl ?_
    refine ga_i2l 12 C.c dX0_chance_11 rfl ?_
    refine ga_lconst 13 C.c (v := 0) (by decide) dX0_chance_12 rfl ?_
    refine ga_ldc2 16 C.c C.ow (C.ts _ q1225) dX0_chance_13 rfl ?_
    refine xa_callS 19 C (as := [.long a1.toInt64, .long 0, .long 14]) (met_X0_in (eL E) _ _ _) (lw_S q136 q137 q93 q138) cd_X0_in rfl (Nat.le_of_ble_eq_true rfl) (Nat.le_of_ble_eq_true rfl) (Nat.le_of_ble_eq_true rfl) dX0_chance_16 rfl ?_
    refine ga_if_eq 41 22 C.c dX0_chance_19 (by decide) rfl (fun c => ?_) (fun c => ?_)
    · have hf := pu_pos c hf
      refine ga_ldc2 44 C.c C.ow (C.ts _ q1229) dX0_chance_41 rfl ?_
      have hf := Option.some.inj hf
      cases hf
      exact xw_lret C hr hlk hq rfl rfl dX0_chance_44
    · have hf := pu_neg c hf
      refine ga_iload_n 23 C.c 2 rfl rfl dX0_chance_22 rfl ?_
      refine ga_i2l 24 C.c dX0_chance_23 rfl ?_
      refine ga_lconst 25 C.c (v := 0) (by decide) dX0_chance_24 rfl ?_
      refine ga_ldc2 28 C.c C.ow (C.ts _ q1457) dX0_chance_25 rfl ?_
      refine xa_callS 31 C (as := [.long a2.toInt64, .long 0, .long 99]) (met_X0_in (eL E) _ _ _) (lw_S q136 q137 q93 q138) cd_X0_in rfl (Nat.le_of_ble_eq_true rfl) (Nat.le_of_ble_eq_true rfl) (Nat.le_of_ble_eq_true rfl) dX0_chance_28 rfl ?_
      refine ga_if_eq 41 34 C.c dX0_chance_31 (by decide) rfl (fun c => ?_) (fun c => ?_)
      · have hf := pu_pos c hf
        refine ga_ldc2 44 C.c C.ow (C.ts _ q1229) dX0_chance_41 rfl ?_
        have hf := Option.some.inj hf
        cases hf
        exact xw_lret C hr hlk hq rfl rfl dX0_chance_44
      · have hf := pu_neg c hf
        refine ga_iload_n 35 C.c 3 rfl rfl dX0_chance_34 rfl ?_
        refine xa_callS 38 C (as := [.int a3]) (met_X0_isBit (eL E) _) (lw_S q1226 q1227 q93 q1228) cd_X0_isBit rfl (Nat.le_of_ble_eq_true rfl) (Nat.le_of_ble_eq_true rfl) (Nat.le_of_ble_eq_true rfl) dX0_chance_35 rfl ?_
        refine ga_if_ne 45 41 C.c dX0_chance_38 (by decide) rfl (fun c => ?_) (fun c => ?_)
        · have hf := pu_neg c hf
          refine ga_aload_n 46 C.c 0 rfl rfl dX0_chance_45 rfl ?_
          refine ga_iload_n 47 C.c 1 rfl rfl dX0_chance_46 rfl ?_
          obtain ⟨z1, hc2, hf⟩ := pu_b1_w hf
          refine xa_callV 50 0 C (as := [.int a1]) (met_X0_laysLikely (eL E) X _ _ _ hc2) rfl (T := TX0) rfl (lw_V q1230 q1232 qs34 q93 q1233) cd_X0_laysLikely rfl (Nat.le_of_ble_eq_true rfl) (Nat.le_of_ble_eq_true rfl) (Nat.le_of_ble_eq_true rfl) dX0_chance_47 rfl ?_
          refine ga_aload_n 51 C.c 0 rfl rfl dX0_chance_50 rfl ?_
          refine ga_iload_n 52 C.c 2 rfl rfl dX0_chance_51 rfl ?_
          obtain ⟨v3, hc4, hf⟩ := pu_b1_w hf
          refine xa_callV 55 0 C (as := [.int a2]) (met_X0_weightFrom (eL E) X _ _ _ hc4) rfl (T := TX0) rfl (lw_V q1458 q1460 qs44 q93 q1461) cd_X0_weightFrom rfl (Nat.le_of_ble_eq_true rfl) (Nat.le_of_ble_eq_true rfl) (Nat.le_of_ble_eq_true rfl) dX0_chance_52 rfl ?_
          refine ga_lstore 57 C.c 4 (by decide) rfl dX0_chance_55 rfl ?_
          refine ga_ldc2 60 C.c C.ow (C.ts _ q1238) dX0_chance_57 rfl ?_
          refine ga_iload_n 61 C.c 1 rfl rfl dX0_chance_60 rfl ?_
          obtain ⟨v5, hc6, hf⟩ := pu_b1_w hf
          refine xa_callS 64 C (as := [.long 10, .int a1]) (met_X0_power (eL E) _ _ _ hc6) (lw_S q1239 q1240 q93 q1241) cd_X0_power rfl (Nat.le_of_ble_eq_true rfl) (Nat.le_of_ble_eq_true rfl) (Nat.le_of_ble_eq_true rfl) dX0_chance_61 rfl ?_
          refine ga_lstore 66 C.c 6 (by decide) rfl dX0_chance_64 rfl ?_
          refine ga_iload_n 67 C.c 3 rfl rfl dX0_chance_66 rfl ?_
          refine ga_if_ne 75 70 C.c dX0_chance_67 (by decide) rfl (fun c => ?_) (fun c => ?_)
          · have hf := pu_neg c hf
            refine ga_lload 77 C.c rfl dX0_chance_75 rfl ?_
            refine ga_lload 79 C.c rfl dX0_chance_77 rfl ?_
            refine ga_lload 81 C.c rfl dX0_chance_79 rfl ?_
            obtain ⟨v7, hc8, hf⟩ := pu_b1_w hf
            refine xa_callS 84 C (as := [.long v3, .long v5]) (met_X0_common (eL E) _ _ _ hc8) (lw_S q1242 q1243 q93 q1244) cd_X0_common rfl (Nat.le_of_ble_eq_true rfl) (Nat.le_of_ble_eq_true rfl) (Nat.le_of_ble_eq_true rfl) dX0_chance_81 rfl ?_
            obtain ⟨h9, hf⟩ := pu_zl_w hf
            refine ga_ldiv 85 C.c h9 dX0_chance_84 rfl ?_
            have hf := Option.some.inj hf
            cases hf
            exact xw_lret C hr hlk hq rfl rfl dX0_chance_85
          · have hf := pu_pos c hf
            refine ga_lload 72 C.c rfl dX0_chance_70 rfl ?_
            refine ga_goto 77 C.c dX0_chance_72 (by decide) ?_
            refine ga_lload 79 C.c rfl dX0_chance_77 rfl ?_
            refine ga_lload 81 C.c rfl dX0_chance_79 rfl ?_
            obtain ⟨v10, hc11, hf⟩ := pu_b1_w hf
            refine xa_callS 84 C (as := [.long v3, .long v5]) (met_X0_common (eL E) _ _ _ hc11) (lw_S q1242 q1243 q93 q1244) cd_X0_common rfl (Nat.le_of_ble_eq_true rfl) (Nat.le_of_ble_eq_true rfl) (Nat.le_of_ble_eq_true rfl) dX0_chance_81 rfl ?_
            obtain ⟨h12, hf⟩ := pu_zl_w hf
            refine ga_ldiv 85 C.c h12 dX0_chance_84 rfl ?_
            have hf := Option.some.inj hf
            cases hf
            exact xw_lret C hr hlk hq rfl rfl dX0_chance_85
        · have hf := pu_pos c hf
          refine ga_ldc2 44 C.c C.ow (C.ts _ q1229) dX0_chance_41 rfl ?_
          have hf := Option.some.inj hf
          cases hf
          exact xw_lret C hr hlk hq rfl rfl dX0_chance_44
set_option maxHeartbeats 4000000 in
theorem met_X0_risk (l : Launch) (X : XX) (z : MS) (a1 : Int32) (a2 : Int32) (r : Int32) (z9 : MS) (hf : fX0_risk (xp X) z a1 a2 = some (r, z9)) : Met l yX0_risk (ws_ yX0_risk cX0_risk 6 (some .int)) ({ frames := 21, cells := 0, slots := 0, locals := 822 } : Room) (xw_Pc X z [.ref (xg X 0), .int a1, .int a2]) (xw_Qc X z9 (some (.int r))) 0 0 (xw_A (xg X)) := by
  refine xw_of (RX := RX0) (lo := [some (.ref (xg X 0)), some (.int a1), some (.int a2), none, none, none]) (by decide) rfl (Nat.le_of_ble_eq_true rfl) rfl (fun E C hr hlk hq => ?_)
  unfold fX0_risk at hf
  refine ga_aload_n 1 C.c 0 rfl rfl dX0_risk_0 rfl ?_
  refine ga_iload_n 2 C.c 1 rfl rfl dX0_risk_1 rfl ?_
  refine ga_i2l 3 C.c dX0_risk_2 rfl ?_
  refine xa_callV 6 0 C (as := [.long a1.toInt64]) (met_X0_isReach (eL E) X _ _) rfl (T := TX0) rfl (lw_V q1009 q1011 qs22 q93 q1012) cd_X0_isReach rfl (Nat.le_of_ble_eq_true rfl) (Nat.le_of_ble_eq_true rfl) (Nat.le_of_ble_eq_true rfl) dX0_risk_3 rfl ?_
  refine ga_if_eq 21 9 C.c dX0_risk_6 (by decide) rfl (fun c => ?_) (fun c => ?_)
  · have hf := pu_pos c hf
    refine ga_bipush 23 C.c (v := (-2)) (by decide) dX0_risk_21 rfl ?_
    have hf := Option.some.inj hf
    cases hf
    exact xw_iret C hr hlk hq rfl rfl rfl dX0_risk_23
  · have hf := pu_neg c hf
    refine ga_iload_n 10 C.c 2 rfl rfl dX0_risk_9 rfl ?_
    refine ga_i2l 11 C.c dX0_risk_10 rfl ?_
    refine ga_lconst 12 C.c (v := 0) (by decide) dX0_risk_11 rfl ?_
    refine ga_ldc2 15 C.c C.ow (C.ts _ q1466) dX0_risk_12 rfl ?_
    refine xa_callS 18 C (as := [.long a2.toInt64, .long 0, .long 100]) (met_X0_in (eL E) _ _ _) (lw_S q136 q137 q93 q138) cd_X0_in rfl (Nat.le_of_ble_eq_true rfl) (Nat.le_of_ble_eq_true rfl) (Nat.le_of_ble_eq_true rfl) dX0_risk_15 rfl ?_
    refine ga_if_ne 24 21 C.c dX0_risk_18 (by decide) rfl (fun c => ?_) (fun c => ?_)
    · have hf := pu_neg c hf
      refine ga_iconst 25 C.c (v := 0) (by decide) dX0_risk_24 rfl ?_
      refine ga_istore_n 26 C.c 3 rfl (by decide) rfl dX0_risk_25 rfl ?_
      obtain ⟨y19, hi10, hr7, hs8⟩ := pu_s_w hf
      refine ga_cutP (P := ∀ (z18 : MS), y19 = .inl (z18) → ga_W E 6 (xw_I E X z18) 0 0 82 [none, none, none, none, none, none] []) (fun z18 hy => ?_) (fun hj9 => ?_)
      · have hf := hr7 _ hy
        refine ga_iconst 83 C.c (v := (-1)) (by decide) dX0_risk_82 rfl ?_
        have hf := Option.some.inj hf
        cases hf
        exact xw_iret C hr hlk hq rfl rfl rfl dX0_risk_83
      · refine ga_W.sub (pu_it_w (Wd := fun (q : Int32 × MS) => ga_W E 6 (xw_I E X q.2) 0 0 26 [some (.ref (xg X 0)), some (.int a1), some (.int a2), some (.int q.1), none, none] []) (Wx := fun e => e = y19) (fun q x hf kc5 kx6 => ?_) hi10 rfl) (And.intro rfl (And.intro rfl (And.intro rfl (And.intro rfl trivial))))
        obtain ⟨v3, z4⟩ := q
        try dsimp only
        unfold fX0_risk_L26 at hf
        refine ga_iload_n 27 C.c 3 rfl rfl dX0_risk_26 rfl ?_
        refine ga_bipush 29 C.c (v := 14) (by decide) dX0_risk_27 rfl ?_
        refine ga_icmp_gt 82 32 C.c dX0_risk_29 (by decide) rfl (fun c => ?_) (fun c => ?_)
        · have hf := pu_pos c hf
          exact ga_W.sub (hj9 _ (kx6 _ (Option.some.inj hf).symm).symm) trivial
        · have hf := pu_neg c hf
          refine ga_aload_n 33 C.c 0 rfl rfl dX0_risk_32 rfl ?_
          refine ga_iload_n 34 C.c 3 rfl rfl dX0_risk_33 rfl ?_
          obtain ⟨z11, hc12, hf⟩ := pu_b1_w hf
          refine xa_callV 37 0 C (as := [.int v3]) (met_X0_laysLikely (eL E) X _ _ _ hc12) rfl (T := TX0) rfl (lw_V q1230 q1232 qs34 q93 q1233) cd_X0_laysLikely rfl (Nat.le_of_ble_eq_true rfl) (Nat.le_of_ble_eq_true rfl) (Nat.le_of_ble_eq_true rfl) dX0_risk_34 rfl ?_
          refine ga_ldc2 40 C.c C.ow (C.ts _ q1238) dX0_risk_37 rfl ?_
          refine ga_iload_n 41 C.c 3 rfl rfl dX0_risk_40 rfl ?_
          obtain ⟨v13, hc14, hf⟩ := pu_b1_w hf
          refine xa_callS 44 C (as := [.long 10, .int v3]) (met_X0_power (eL E) _ _ _ hc14) (lw_S q1239 q1240 q93 q1241) cd_X0_power rfl (Nat.le_of_ble_eq_true rfl) (Nat.le_of_ble_eq_true rfl) (Nat.le_of_ble_eq_true rfl) dX0_risk_41 rfl ?_
          refine ga_lstore 46 C.c 4 (by decide) rfl dX0_risk_44 rfl ?_
          refine ga_ldc2 49 C.c C.ow (C.ts _ q1466) dX0_risk_46 rfl ?_
          refine ga_lload 51 C.c rfl dX0_risk_49 rfl ?_
          refine ga_aload_n 52 C.c 0 rfl rfl dX0_risk_51 rfl ?_
          refine ga_aload_n 53 C.c 0 rfl rfl dX0_risk_52 rfl ?_
          refine ga_iload_n 54 C.c 1 rfl rfl dX0_risk_53 rfl ?_
          obtain ⟨hc15, hf⟩ := pu_b0_w hf
          refine xa_callV 57 0 C (as := [.int a1]) (met_X0_one (eL E) X _ _ hc15) rfl (T := TX0) rfl (lw_V q1020 q1022 qs24 q93 q1023) cd_X0_one rfl (Nat.le_of_ble_eq_true rfl) (Nat.le_of_ble_eq_true rfl) (Nat.le_of_ble_eq_true rfl) dX0_risk_54 rfl ?_
          refine xd_getN 60 2 C (C.d0 (xone_lt hc15)) (T := TX9) (N := 3) rfl in_X9 (by decide) q813 rfl rfl dX0_risk_57 rfl ?_
          obtain ⟨v16, hc17, hf⟩ := pu_b1_w hf
          refine xa_callV 63 0 C (as := [.int (pw (xp X) (10 + 3 * a1.toNatClampNeg))]) (met_X0_weightFrom (eL E) X _ _ _ hc17) rfl (T := TX0) rfl (lw_V q1458 q1460 qs44 q93 q1461) cd_X0_weightFrom rfl (Nat.le_of_ble_eq_true rfl) (Nat.le_of_ble_eq_true rfl) (Nat.le_of_ble_eq_true rfl) dX0_risk_60 rfl ?_
          refine ga_lsub 64 C.c dX0_risk_63 rfl ?_
          refine ga_lmul 65 C.c dX0_risk_64 rfl ?_
          refine ga_iload_n 66 C.c 2 rfl rfl dX0_risk_65 rfl ?_
          refine ga_i2l 67 C.c dX0_risk_66 rfl ?_
          refine ga_lload 69 C.c rfl dX0_risk_67 rfl ?_
          refine ga_lmul 70 C.c dX0_risk_69 rfl ?_
          refine ga_lcmp 71 C.c dX0_risk_70 rfl ?_
          refine ga_if_lt 76 74 C.c dX0_risk_71 (by decide) rfl (fun c => ?_) (fun c => ?_)
          · have hf := pu_pos c hf
            refine ga_iinc 79 C.c (v := v3 + 1) rfl rfl (by decide) rfl dX0_risk_76 rfl ?_
            refine ga_goto 26 C.c dX0_risk_79 (by decide) ?_
            exact ga_W.sub (kc5 _ (Option.some.inj hf).symm) (And.intro rfl (And.intro rfl (And.intro rfl (And.intro rfl trivial))))
          · have hf := pu_neg c hf
            refine ga_iload_n 75 C.c 3 rfl rfl dX0_risk_74 rfl ?_
            have hf := Option.some.inj hf
            have hf := hs8 _ (kx6 _ hf.symm).symm
            cases hf
            exact xw_iret C hr hlk hq rfl rfl rfl dX0_risk_75
    · have hf := pu_pos c hf
      refine ga_bipush 23 C.c (v := (-2)) (by decide) dX0_risk_21 rfl ?_
      have hf := Option.some.inj hf
      cases hf
      exact xw_iret C hr hlk hq rfl rfl rfl dX0_risk_23
set_option maxHeartbeats 4000000 in
theorem met_X0_isSeed (l : Launch) (a1 : Int32) : Met l yX0_isSeed (ws_ yX0_isSeed cX0_isSeed 1 (some .boolean)) ({ frames := 1, cells := 0, slots := 0, locals := 25 } : Room) (ps_Pc [.int a1]) (ps_Qc (some (.int (fX0_isSeed a1)))) 0 0 (fun _ => False) := by
  obtain ⟨r, hf⟩ : ∃ r, fX0_isSeed a1 = r := ⟨_, rfl⟩
  rw [hf]
  refine ps_of (RX := RX0) (lo := [some (.int a1)]) (by decide) rfl (Nat.le_of_ble_eq_true rfl) rfl (fun E C hr hlk hq => ?_)
  unfold fX0_isSeed at hf
  refine ga_iload_n 1 C.c 0 rfl rfl dX0_isSeed_0 rfl ?_
  refine ga_i2l 2 C.c dX0_isSeed_1 rfl ?_
  refine ga_lconst 3 C.c (v := 0) (by decide) dX0_isSeed_2 rfl ?_
  refine ga_ldc2 6 C.c C.ow (C.ts _ q1549) dX0_isSeed_3 rfl ?_
  refine ps_callS 9 C (as := [.long a1.toInt64, .long 0, .long 2000000000]) (met_X0_in (eL E) _ _ _) (lw_S q136 q137 q93 q138) cd_X0_in rfl (Nat.le_of_ble_eq_true rfl) (Nat.le_of_ble_eq_true rfl) (Nat.le_of_ble_eq_true rfl) dX0_isSeed_6 rfl ?_
  cases hf
  exact ps_iret C hr hlk hq rfl rfl dX0_isSeed_9
set_option maxHeartbeats 4000000 in
theorem met_X3_draws (l : Launch) (X : XX) (z : MS) (a1 : Int64) (z9 : MS) (hf : fX3_draws (xp X) z a1 = some z9) : Met l yX3_draws (ws_ yX3_draws cX3_draws 6 (some (.object "QuotedRiver$Water"))) ({ frames := 4, cells := 0, slots := 0, locals := 103 } : Room) (xw_Pc X z [.ref (xg X 2), .long a1]) (xw_Qc X z9 (some (.ref (xg X 2)))) 0 0 (xw_A (xg X)) := by
  refine xw_of (RX := RX3) (lo := [some (.ref (xg X 2)), some (.long a1), none, none, none, none]) (by decide) rfl (Nat.le_of_ble_eq_true rfl) rfl (fun E C hr hlk hq => ?_)
  unfold fX3_draws at hf
  refine ga_aload_n 1 C.c 0 rfl rfl dX3_draws_0 rfl ?_
  obtain ⟨z1, hc2, hf⟩ := pu_b1_w hf
  refine xa_callV 4 2 C (as := []) (met_X3_is (eL E) X _ _ hc2) rfl (T := TX3) rfl (lw_V q1554 q1060 q1061 q99 q1062) cd_X3_is rfl (Nat.le_of_ble_eq_true rfl) (Nat.le_of_ble_eq_true rfl) (Nat.le_of_ble_eq_true rfl) dX3_draws_1 rfl ?_
  refine ga_pop 5 C.c rfl dX3_draws_4 rfl ?_
  refine ga_lload_n 6 C.c 1 rfl rfl dX3_draws_5 rfl ?_
  refine ga_lstore_n 7 C.c 3 rfl (by decide) rfl dX3_draws_6 rfl ?_
  refine ga_iconst 8 C.c (v := 1) (by decide) dX3_draws_7 rfl ?_
  refine ga_istore 10 C.c 5 (by decide) rfl dX3_draws_8 rfl ?_
  obtain ⟨z17, hi11, hf⟩ := pu_b1_w hf
  refine ga_cut 94 (I2 := xw_I E X z17) (k2 := 0) (n2 := 0) (lo2 := [some (.ref (xg X 2)), none, none, none, none, none]) (st2 := []) ?_ (fun hj10 => ?_)
  · refine ga_aload_n 95 C.c 0 rfl rfl dX3_draws_94 rfl ?_
    obtain ⟨z18, hc19, hf⟩ := pu_b1_w hf
    refine xa_callV 98 2 C (as := []) (met_X3_flows (eL E) X _ _ hc19) rfl (T := TX3) rfl (lw_V q1076 q1077 q1078 q99 q1079) cd_X3_flows rfl (Nat.le_of_ble_eq_true rfl) (Nat.le_of_ble_eq_true rfl) (Nat.le_of_ble_eq_true rfl) dX3_draws_95 rfl ?_
    have hf := Option.some.inj hf
    cases hf
    exact xw_aret C hr hlk hq rfl rfl dX3_draws_98
  · refine ga_W.sub (pu_it_w (Wd := fun (q : Int64 × Int32 × MS) => ga_W E 6 (xw_I E X q.2.2) 0 0 10 [some (.ref (xg X 2)), none, none, some (.long q.1), none, some (.int q.2.1)] []) (Wx := fun e => e = (z17)) (fun q x hf kc6 kx7 => ?_) hi11 rfl) (And.intro rfl (And.intro rfl (And.intro rfl trivial)))
    obtain ⟨v3, v4, z5⟩ := q
    try dsimp only
    unfold fX3_draws_L10 at hf
    refine ga_iload 12 C.c rfl dX3_draws_10 rfl ?_
    refine ga_bipush 14 C.c (v := 60) (by decide) dX3_draws_12 rfl ?_
    refine ga_icmp_gt 94 17 C.c dX3_draws_14 (by decide) rfl (fun c => ?_) (fun c => ?_)
    · have hf := pu_pos c hf
      cases (kx7 _ (Option.some.inj hf).symm)
      exact ga_W.sub hj10 (And.intro rfl trivial)
    · have hf := pu_neg c hf
      refine ga_ldc2 20 C.c C.ow (C.ts _ q1555) dX3_draws_17 rfl ?_
      refine ga_lload_n 21 C.c 3 rfl rfl dX3_draws_20 rfl ?_
      refine ga_lmul 22 C.c dX3_draws_21 rfl ?_
      refine ga_ldc2 25 C.c C.ow (C.ts _ q1556) dX3_draws_22 rfl ?_
      refine ga_ladd 26 C.c dX3_draws_25 rfl ?_
      refine ga_ldc2 29 C.c C.ow (C.ts _ q1557) dX3_draws_26 rfl ?_
      refine ga_lrem 30 C.c (by decide) dX3_draws_29 rfl ?_
      refine ga_lstore_n 31 C.c 3 rfl (by decide) rfl dX3_draws_30 rfl ?_
      obtain ⟨_, rfl, hf⟩ := pu_l1_w hf
      refine ga_lload_n 32 C.c 3 rfl rfl dX3_draws_31 rfl ?_
      refine ga_ldc2 35 C.c C.ow (C.ts _ q1558) dX3_draws_32 rfl ?_
      refine ga_ldiv 36 C.c (by decide) dX3_draws_35 rfl ?_
      refine ga_ldc2 39 C.c C.ow (C.ts _ q1559) dX3_draws_36 rfl ?_
      refine ga_lrem 40 C.c (by decide) dX3_draws_39 rfl ?_
      refine ga_aload_n 41 C.c 0 rfl rfl dX3_draws_40 rfl ?_
      refine xa_get 44 2 8 C rfl (T := TX3) rfl in_X3 (by decide) q458 rfl rfl dX3_draws_41 rfl ?_
      refine xa_getN 47 0 1 C rfl (T := TX0) rfl in_X0 (by decide) q553 rfl rfl dX3_draws_44 rfl ?_
      refine xd_getN 50 5 C C.rv (T := TX2) (N := 8) rfl in_X2 (by decide) q407 rfl rfl dX3_draws_47 rfl ?_
      refine ga_i2l 51 C.c dX3_draws_50 rfl ?_
      refine ga_lcmp 52 C.c dX3_draws_51 rfl ?_
      refine ga_if_lt 58 55 C.c dX3_draws_52 (by decide) rfl (fun c => ?_) (fun c => ?_)
      · have hf := pu_pos c hf
        refine ga_aload_n 59 C.c 0 rfl rfl dX3_draws_58 rfl ?_
        refine xa_get 62 2 1 C rfl (T := TX3) rfl in_X3 (by decide) q443 rfl rfl dX3_draws_59 rfl ?_
        refine ga_iload 64 C.c rfl dX3_draws_62 rfl ?_
        refine ga_dup2 65 C.c rfl rfl dX3_draws_64 rfl ?_
        obtain ⟨h13, hf⟩ := pu_g_w hf
        refine xa_iald 66 2 4 61 C rfl h13 dX3_draws_65 rfl ?_
        refine ga_aload_n 67 C.c 0 rfl rfl dX3_draws_66 rfl ?_
        refine xa_get 70 2 8 C rfl (T := TX3) rfl in_X3 (by decide) q458 rfl rfl dX3_draws_67 rfl ?_
        refine xa_getN 73 0 1 C rfl (T := TX0) rfl in_X0 (by decide) q553 rfl rfl dX3_draws_70 rfl ?_
        refine xd_getN 76 6 C C.rv (T := TX2) (N := 8) rfl in_X2 (by decide) q411 rfl rfl dX3_draws_73 rfl ?_
        refine ga_iadd 77 C.c dX3_draws_76 rfl ?_
        obtain ⟨h14, hf⟩ := pu_g_w hf
        refine xa_iast 78 2 4 61 C rfl (xa_seta4 _ _) h14 dX3_draws_77 rfl ?_
        refine ga_aload_n 79 C.c 0 rfl rfl dX3_draws_78 rfl ?_
        refine ga_dup 80 C.c rfl dX3_draws_79 rfl ?_
        refine xa_get 83 2 7 C rfl (T := TX3) rfl in_X3 (by decide) q456 rfl rfl dX3_draws_80 rfl ?_
        refine ga_iconst 84 C.c (v := 1) (by decide) dX3_draws_83 rfl ?_
        refine ga_iadd 85 C.c dX3_draws_84 rfl ?_
        refine xa_put 88 2 7 C (ty := tyX3) tyX3_ok nmX3 rfl (xa_set10 _) rfl in_X3 (by decide) q456 rfl rfl rfl (Nat.le_of_ble_eq_true rfl) dX3_draws_85 rfl ?_
        refine ga_iinc 91 C.c (v := v4 + 1) rfl rfl (by decide) rfl dX3_draws_88 rfl ?_
        refine ga_goto 10 C.c dX3_draws_91 (by decide) ?_
        exact ga_W.sub (kc6 _ (Option.some.inj hf).symm) (And.intro rfl (And.intro rfl (And.intro rfl trivial)))
      · have hf := pu_neg c hf
        refine ga_goto 88 C.c dX3_draws_55 (by decide) ?_
        refine ga_iinc 91 C.c (v := v4 + 1) rfl rfl (by decide) rfl dX3_draws_88 rfl ?_
        refine ga_goto 10 C.c dX3_draws_91 (by decide) ?_
        exact ga_W.sub (kc6 _ (Option.some.inj hf).symm) (And.intro rfl (And.intro rfl (And.intro rfl trivial)))
set_option maxHeartbeats 4000000 in
theorem met_X0_drawn (l : Launch) (X : XX) (z : MS) (a1 : Int32) (a2 : Int32) (r : Int32) (z9 : MS) (hf : fX0_drawn (xp X) z a1 a2 = some (r, z9)) : Met l yX0_drawn (ws_ yX0_drawn cX0_drawn 3 (some .int)) ({ frames := 5, cells := 0, slots := 0, locals := 128 } : Room) (xw_Pc X z [.ref (xg X 0), .int a1, .int a2]) (xw_Qc X z9 (some (.int r))) 0 0 (xw_A (xg X)) := by
  refine xw_of (RX := RX0) (lo := [some (.ref (xg X 0)), some (.int a1), some (.int a2)]) (by decide) rfl (Nat.le_of_ble_eq_true rfl) rfl (fun E C hr hlk hq => ?_)
  unfold fX0_drawn at hf
  refine ga_aload_n 1 C.c 0 rfl rfl dX0_drawn_0 rfl ?_
  refine xa_get 4 0 1 C rfl (T := TX0) rfl in_X0 (by decide) q554 rfl rfl dX0_drawn_1 rfl ?_
  refine xa_ris 7 C q997 (Nat.le_of_ble_eq_true rfl) (Nat.le_of_ble_eq_true rfl) (Nat.le_of_ble_eq_true rfl) dX0_drawn_4 rfl ?_
  refine ga_if_eq 24 10 C.c dX0_drawn_7 (by decide) rfl (fun c => ?_) (fun c => ?_)
  · have hf := pu_pos c hf
    refine ga_bipush 26 C.c (v := (-2)) (by decide) dX0_drawn_24 rfl ?_
    have hf := Option.some.inj hf
    cases hf
    exact xw_iret C hr hlk hq rfl rfl rfl dX0_drawn_26
  · have hf := pu_neg c hf
    refine ga_iload_n 11 C.c 1 rfl rfl dX0_drawn_10 rfl ?_
    refine xa_callS 14 C (as := [.int a1]) (met_X0_isSeed (eL E) _) (lw_S q1546 q1547 q93 q1548) cd_X0_isSeed rfl (Nat.le_of_ble_eq_true rfl) (Nat.le_of_ble_eq_true rfl) (Nat.le_of_ble_eq_true rfl) dX0_drawn_11 rfl ?_
    refine ga_if_eq 24 17 C.c dX0_drawn_14 (by decide) rfl (fun c => ?_) (fun c => ?_)
    · have hf := pu_pos c hf
      refine ga_bipush 26 C.c (v := (-2)) (by decide) dX0_drawn_24 rfl ?_
      have hf := Option.some.inj hf
      cases hf
      exact xw_iret C hr hlk hq rfl rfl rfl dX0_drawn_26
    · have hf := pu_neg c hf
      refine ga_iload_n 18 C.c 2 rfl rfl dX0_drawn_17 rfl ?_
      refine xa_callS 21 C (as := [.int a2]) (met_X0_isBit (eL E) _) (lw_S q1226 q1227 q93 q1228) cd_X0_isBit rfl (Nat.le_of_ble_eq_true rfl) (Nat.le_of_ble_eq_true rfl) (Nat.le_of_ble_eq_true rfl) dX0_drawn_18 rfl ?_
      refine ga_if_ne 27 24 C.c dX0_drawn_21 (by decide) rfl (fun c => ?_) (fun c => ?_)
      · have hf := pu_neg c hf
        refine ga_aload_n 28 C.c 0 rfl rfl dX0_drawn_27 rfl ?_
        refine xa_get 31 0 7 C rfl (T := TX0) rfl in_X0 (by decide) q562 rfl rfl dX0_drawn_28 rfl ?_
        refine ga_iload_n 32 C.c 1 rfl rfl dX0_drawn_31 rfl ?_
        refine ga_i2l 33 C.c dX0_drawn_32 rfl ?_
        obtain ⟨z1, hc2, hf⟩ := pu_b1_w hf
        refine xa_callV 36 2 C (as := [.long a1.toInt64]) (met_X3_draws (eL E) X _ _ _ hc2) rfl (T := TX3) rfl (lw_V q1550 q1551 q1552 q99 q1553) cd_X3_draws rfl (Nat.le_of_ble_eq_true rfl) (Nat.le_of_ble_eq_true rfl) (Nat.le_of_ble_eq_true rfl) dX0_drawn_33 rfl ?_
        refine ga_pop 37 C.c rfl dX0_drawn_36 rfl ?_
        refine ga_iload_n 38 C.c 2 rfl rfl dX0_drawn_37 rfl ?_
        refine ga_if_ne 54 41 C.c dX0_drawn_38 (by decide) rfl (fun c => ?_) (fun c => ?_)
        · have hf := pu_neg c hf
          refine ga_aload_n 55 C.c 0 rfl rfl dX0_drawn_54 rfl ?_
          refine xa_get 58 0 7 C rfl (T := TX0) rfl in_X0 (by decide) q562 rfl rfl dX0_drawn_55 rfl ?_
          refine xa_getN 61 2 7 C rfl (T := TX3) rfl in_X3 (by decide) q457 rfl rfl dX0_drawn_58 rfl ?_
          have hf := Option.some.inj hf
          cases hf
          exact xw_iret C hr hlk hq rfl rfl rfl dX0_drawn_61
        · have hf := pu_pos c hf
          refine ga_aload_n 42 C.c 0 rfl rfl dX0_drawn_41 rfl ?_
          refine xa_get 45 0 7 C rfl (T := TX0) rfl in_X0 (by decide) q562 rfl rfl dX0_drawn_42 rfl ?_
          refine xa_getN 48 2 0 C rfl (T := TX3) rfl in_X3 (by decide) q442 rfl rfl dX0_drawn_45 rfl ?_
          refine ga_bipush 50 C.c (v := 60) (by decide) dX0_drawn_48 rfl ?_
          refine xa_iald 51 1 3 61 C rfl (vp_in_iff.mpr (by decide)) dX0_drawn_50 rfl ?_
          refine ga_goto 61 C.c dX0_drawn_51 (by decide) ?_
          have hf := Option.some.inj hf
          cases hf
          exact xw_iret C hr hlk hq rfl rfl rfl dX0_drawn_61
      · have hf := pu_pos c hf
        refine ga_bipush 26 C.c (v := (-2)) (by decide) dX0_drawn_24 rfl ?_
        have hf := Option.some.inj hf
        cases hf
        exact xw_iret C hr hlk hq rfl rfl rfl dX0_drawn_26
set_option maxHeartbeats 4000000 in
theorem met_X0_luck (l : Launch) (X : XX) (z : MS) (a1 : Int32) (a2 : Int32) (a3 : Int32) (r : Int32) (z9 : MS) (hf : fX0_luck (xp X) z a1 a2 a3 = some (r, z9)) : Met l yX0_luck (ws_ yX0_luck cX0_luck 6 (some .int)) ({ frames := 6, cells := 0, slots := 0, locals := 154 } : Room) (xw_Pc X z [.ref (xg X 0), .int a1, .int a2, .int a3]) (xw_Qc X z9 (some (.int r))) 0 0 (xw_A (xg X)) := by
  refine xw_of (RX := RX0) (lo := [some (.ref (xg X 0)), some (.int a1), some (.int a2), some (.int a3), none, none]) (by decide) rfl (Nat.le_of_ble_eq_true rfl) rfl (fun E C hr hlk hq => ?_)
  unfold fX0_luck at hf
  refine ga_iload_n 1 C.c 1 rfl rfl dX0_luck_0 rfl ?_
  refine xa_callS 4 C (as := [.int a1]) (met_X0_isSeed (eL E) _) (lw_S q1546 q1547 q93 q1548) cd_X0_isSeed rfl (Nat.le_of_ble_eq_true rfl) (Nat.le_of_ble_eq_true rfl) (Nat.le_of_ble_eq_true rfl) dX0_luck_1 rfl ?_
  refine ga_if_eq 28 7 C.c dX0_luck_4 (by decide) rfl (fun c => ?_) (fun c => ?_)
  · have hf := pu_pos c hf
    refine ga_bipush 30 C.c (v := (-2)) (by decide) dX0_luck_28 rfl ?_
    have hf := Option.some.inj hf
    cases hf
    exact xw_iret C hr hlk hq rfl rfl rfl dX0_luck_30
  · have hf := pu_neg c hf
    refine ga_iload_n 8 C.c 2 rfl rfl dX0_luck_7 rfl ?_
    refine ga_i2l 9 C.c dX0_luck_8 rfl ?_
    refine ga_lconst 10 C.c (v := 1) (by decide) dX0_luck_9 rfl ?_
    refine ga_ldc2 13 C.c C.ow (C.ts _ q1564) dX0_luck_10 rfl ?_
    refine xa_callS 16 C (as := [.long a2.toInt64, .long 1, .long 20]) (met_X0_in (eL E) _ _ _) (lw_S q136 q137 q93 q138) cd_X0_in rfl (Nat.le_of_ble_eq_true rfl) (Nat.le_of_ble_eq_true rfl) (Nat.le_of_ble_eq_true rfl) dX0_luck_13 rfl ?_
    refine ga_if_eq 28 19 C.c dX0_luck_16 (by decide) rfl (fun c => ?_) (fun c => ?_)
    · have hf := pu_pos c hf
      refine ga_bipush 30 C.c (v := (-2)) (by decide) dX0_luck_28 rfl ?_
      have hf := Option.some.inj hf
      cases hf
      exact xw_iret C hr hlk hq rfl rfl rfl dX0_luck_30
    · have hf := pu_neg c hf
      refine ga_aload_n 20 C.c 0 rfl rfl dX0_luck_19 rfl ?_
      refine ga_iload_n 21 C.c 3 rfl rfl dX0_luck_20 rfl ?_
      refine ga_i2l 22 C.c dX0_luck_21 rfl ?_
      refine xa_callV 25 0 C (as := [.long a3.toInt64]) (met_X0_isReach (eL E) X _ _) rfl (T := TX0) rfl (lw_V q1009 q1011 qs22 q93 q1012) cd_X0_isReach rfl (Nat.le_of_ble_eq_true rfl) (Nat.le_of_ble_eq_true rfl) (Nat.le_of_ble_eq_true rfl) dX0_luck_22 rfl ?_
      refine ga_if_ne 31 28 C.c dX0_luck_25 (by decide) rfl (fun c => ?_) (fun c => ?_)
      · have hf := pu_neg c hf
        refine ga_iconst 32 C.c (v := 0) (by decide) dX0_luck_31 rfl ?_
        refine ga_istore 34 C.c 4 (by decide) rfl dX0_luck_32 rfl ?_
        refine ga_iconst 35 C.c (v := 0) (by decide) dX0_luck_34 rfl ?_
        refine ga_istore 37 C.c 5 (by decide) rfl dX0_luck_35 rfl ?_
        obtain ⟨v21, z22, hi12, hf⟩ := pu_b2_w hf
        refine ga_cut 91 (I2 := xw_I E X z22) (k2 := 0) (n2 := 0) (lo2 := [none, none, none, none, some (.int v21), none]) (st2 := []) ?_ (fun hj11 => ?_)
        · refine ga_iload 93 C.c rfl dX0_luck_91 rfl ?_
          have hf := Option.some.inj hf
          cases hf
          exact xw_iret C hr hlk hq rfl rfl rfl dX0_luck_93
        · refine ga_W.sub (pu_it_w (Wd := fun (q : Int32 × Int32 × MS) => ga_W E 6 (xw_I E X q.2.2) 0 0 37 [some (.ref (xg X 0)), some (.int a1), some (.int a2), some (.int a3), some (.int q.1), some (.int q.2.1)] []) (Wx := fun e => e = (v21, z22)) (fun q x hf kc7 kx8 => ?_) hi12 rfl) (And.intro rfl (And.intro rfl (And.intro rfl (And.intro rfl (And.intro rfl (And.intro rfl trivial))))))
          obtain ⟨v4, v5, z6⟩ := q
          try dsimp only
          unfold fX0_luck_L37 at hf
          refine ga_iload 39 C.c rfl dX0_luck_37 rfl ?_
          refine ga_iload_n 40 C.c 2 rfl rfl dX0_luck_39 rfl ?_
          refine ga_icmp_ge 91 43 C.c dX0_luck_40 (by decide) rfl (fun c => ?_) (fun c => ?_)
          · have hf := pu_pos c hf
            cases (kx8 _ (Option.some.inj hf).symm)
            exact ga_W.sub hj11 (And.intro rfl trivial)
          · have hf := pu_neg c hf
            refine ga_aload_n 44 C.c 0 rfl rfl dX0_luck_43 rfl ?_
            refine xa_get 47 0 7 C rfl (T := TX0) rfl in_X0 (by decide) q562 rfl rfl dX0_luck_44 rfl ?_
            refine ga_iload_n 48 C.c 1 rfl rfl dX0_luck_47 rfl ?_
            refine ga_i2l 49 C.c dX0_luck_48 rfl ?_
            refine ga_iload 51 C.c rfl dX0_luck_49 rfl ?_
            refine ga_i2l 52 C.c dX0_luck_51 rfl ?_
            refine ga_ladd 53 C.c dX0_luck_52 rfl ?_
            obtain ⟨z13, hc14, hf⟩ := pu_b1_w hf
            refine xa_callV 56 2 C (as := [.long (a1.toInt64 + v5.toInt64)]) (met_X3_draws (eL E) X _ _ _ hc14) rfl (T := TX3) rfl (lw_V q1550 q1551 q1552 q99 q1553) cd_X3_draws rfl (Nat.le_of_ble_eq_true rfl) (Nat.le_of_ble_eq_true rfl) (Nat.le_of_ble_eq_true rfl) dX0_luck_53 rfl ?_
            refine ga_pop 57 C.c rfl dX0_luck_56 rfl ?_
            refine ga_iload 59 C.c rfl dX0_luck_57 rfl ?_
            refine ga_aload_n 60 C.c 0 rfl rfl dX0_luck_59 rfl ?_
            refine xa_get 63 0 8 C rfl (T := TX0) rfl in_X0 (by decide) q564 rfl rfl dX0_luck_60 rfl ?_
            refine ga_iload_n 64 C.c 3 rfl rfl dX0_luck_63 rfl ?_
            refine ga_iconst 65 C.c (v := 0) (by decide) dX0_luck_64 rfl ?_
            obtain ⟨z15, hc16, hf⟩ := pu_b1_w hf
            refine xa_callV 68 5 C (as := [.int a3, .int 0]) (met_X4_goes_s (eL E) X _ _ _ _ hc16) rfl (T := TX4) rfl (lw_V q1098 q1099 q1100 q100 q1101) cd_X4_goes_s rfl (Nat.le_of_ble_eq_true rfl) (Nat.le_of_ble_eq_true rfl) (Nat.le_of_ble_eq_true rfl) dX0_luck_65 rfl ?_
            refine ga_bipush 70 C.c (v := 10) (by decide) dX0_luck_68 rfl ?_
            obtain ⟨v17, hc18, hf⟩ := pu_b1_w hf
            refine xa_callV 73 5 C (as := [.int 10]) (met_X4_first_s (eL E) X _ _ _ hc18) rfl (T := TX4) rfl (lw_V q1216 q1217 q1218 q100 q1219) cd_X4_first_s rfl (Nat.le_of_ble_eq_true rfl) (Nat.le_of_ble_eq_true rfl) (Nat.le_of_ble_eq_true rfl) dX0_luck_70 rfl ?_
            refine ga_iconst 74 C.c (v := (-1)) (by decide) dX0_luck_73 rfl ?_
            refine ga_icmp_ne 81 77 C.c dX0_luck_74 (by decide) rfl (fun c => ?_) (fun c => ?_)
            · have hf := pu_neg c hf
              refine ga_iconst 82 C.c (v := 1) (by decide) dX0_luck_81 rfl ?_
              refine ga_iadd 83 C.c dX0_luck_82 rfl ?_
              refine ga_istore 85 C.c 4 (by decide) rfl dX0_luck_83 rfl ?_
              obtain ⟨_, rfl, hf⟩ := pu_l1_w hf
              refine ga_iinc 88 C.c (v := v5 + 1) rfl rfl (by decide) rfl dX0_luck_85 rfl ?_
              refine ga_goto 37 C.c dX0_luck_88 (by decide) ?_
              exact ga_W.sub (kc7 _ (Option.some.inj hf).symm) (And.intro rfl (And.intro rfl (And.intro rfl (And.intro rfl (And.intro rfl (And.intro rfl trivial))))))
            · have hf := pu_pos c hf
              refine ga_iconst 78 C.c (v := 0) (by decide) dX0_luck_77 rfl ?_
              refine ga_goto 82 C.c dX0_luck_78 (by decide) ?_
              refine ga_iadd 83 C.c dX0_luck_82 rfl ?_
              refine ga_istore 85 C.c 4 (by decide) rfl dX0_luck_83 rfl ?_
              obtain ⟨_, rfl, hf⟩ := pu_l1_w hf
              refine ga_iinc 88 C.c (v := v5 + 1) rfl rfl (by decide) rfl dX0_luck_85 rfl ?_
              refine ga_goto 37 C.c dX0_luck_88 (by decide) ?_
              exact ga_W.sub (kc7 _ (Option.some.inj hf).symm) (And.intro rfl (And.intro rfl (And.intro rfl (And.intro rfl (And.intro rfl (And.intro rfl trivial))))))
      · have hf := pu_pos c hf
        refine ga_bipush 30 C.c (v := (-2)) (by decide) dX0_luck_28 rfl ?_
        have hf := Option.some.inj hf
        cases hf
        exact xw_iret C hr hlk hq rfl rfl rfl dX0_luck_30
set_option maxHeartbeats 4000000 in
theorem met_X0_count (l : Launch) (X : XX) (z : MS) (a1 : Int32) (r : Int32) (hf : fX0_count (xp X) z a1 = some r) : Met l yX0_count (ws_ yX0_count cX0_count 7 (some .int)) ({ frames := 4, cells := 0, slots := 0, locals := 101 } : Room) (xw_Pc X z [.ref (xg X 0), .int a1]) (xw_Qc X z (some (.int r))) 0 0 (xw_A (xg X)) := by
  refine xw_of (RX := RX0) (lo := [some (.ref (xg X 0)), some (.int a1), none, none, none, none, none]) (by decide) rfl (Nat.le_of_ble_eq_true rfl) rfl (fun E C hr hlk hq => ?_)
  unfold fX0_count at hf
  refine ga_iload_n 1 C.c 1 rfl rfl dX0_count_0 rfl ?_
  by_cases c1 : a1 = 0
  · have hf := pu_pos c1 hf
    refine ga_tsw 56 C.c dX0_count_1 c1 (k := 0) (by decide) (by decide) (by decide) rfl (by decide) ?_
    refine ga_aload_n 57 C.c 0 rfl rfl dX0_count_56 rfl ?_
    refine xa_get 60 0 1 C rfl (T := TX0) rfl in_X0 (by decide) q554 rfl rfl dX0_count_57 rfl ?_
    refine xd_getN 63 4 C C.rv (T := TX2) (N := 8) rfl in_X2 (by decide) q405 rfl rfl dX0_count_60 rfl ?_
    have hf := Option.some.inj hf
    cases hf
    exact xw_iret C hr hlk hq rfl rfl rfl dX0_count_63
  · have hf := pu_neg c1 hf
    by_cases c2 : a1 = 1
    · have hf := pu_pos c2 hf
      refine ga_tsw 64 C.c dX0_count_1 c2 (k := 1) (by decide) (by decide) (by decide) rfl (by decide) ?_
      refine ga_aload_n 65 C.c 0 rfl rfl dX0_count_64 rfl ?_
      refine xa_get 68 0 1 C rfl (T := TX0) rfl in_X0 (by decide) q554 rfl rfl dX0_count_65 rfl ?_
      refine xd_getN 71 5 C C.rv (T := TX2) (N := 8) rfl in_X2 (by decide) q409 rfl rfl dX0_count_68 rfl ?_
      have hf := Option.some.inj hf
      cases hf
      exact xw_iret C hr hlk hq rfl rfl rfl dX0_count_71
    · have hf := pu_neg c2 hf
      by_cases c3 : a1 = 2
      · have hf := pu_pos c3 hf
        refine ga_tsw 72 C.c dX0_count_1 c3 (k := 2) (by decide) (by decide) (by decide) rfl (by decide) ?_
        refine ga_aload_n 73 C.c 0 rfl rfl dX0_count_72 rfl ?_
        refine xa_get 76 0 1 C rfl (T := TX0) rfl in_X0 (by decide) q554 rfl rfl dX0_count_73 rfl ?_
        refine xd_getN 79 6 C C.rv (T := TX2) (N := 8) rfl in_X2 (by decide) q413 rfl rfl dX0_count_76 rfl ?_
        have hf := Option.some.inj hf
        cases hf
        exact xw_iret C hr hlk hq rfl rfl rfl dX0_count_79
      · have hf := pu_neg c3 hf
        by_cases c4 : a1 = 3
        · have hf := pu_pos c4 hf
          refine ga_tsw 80 C.c dX0_count_1 c4 (k := 3) (by decide) (by decide) (by decide) rfl (by decide) ?_
          refine ga_aload_n 81 C.c 0 rfl rfl dX0_count_80 rfl ?_
          refine xa_callV 84 0 C (as := []) (met_X0_reaches (eL E) X _) rfl (T := TX0) rfl (lw_V q1013 q1015 qs23 q93 q1016) cd_X0_reaches rfl (Nat.le_of_ble_eq_true rfl) (Nat.le_of_ble_eq_true rfl) (Nat.le_of_ble_eq_true rfl) dX0_count_81 rfl ?_
          have hf := Option.some.inj hf
          cases hf
          exact xw_iret C hr hlk hq rfl rfl rfl dX0_count_84
        · have hf := pu_neg c4 hf
          by_cases c5 : a1 = 4
          · have hf := pu_pos c5 hf
            refine ga_tsw 85 C.c dX0_count_1 c5 (k := 4) (by decide) (by decide) (by decide) rfl (by decide) ?_
            refine ga_aload_n 86 C.c 0 rfl rfl dX0_count_85 rfl ?_
            refine xa_get 89 0 1 C rfl (T := TX0) rfl in_X0 (by decide) q554 rfl rfl dX0_count_86 rfl ?_
            refine xd_getN 92 1 C C.rv (T := TX2) (N := 8) rfl in_X2 (by decide) q394 rfl rfl dX0_count_89 rfl ?_
            refine xa_size 97 1 C (by decide) q1018 (Nat.le_of_ble_eq_true rfl) (Nat.le_of_ble_eq_true rfl) (Nat.le_of_ble_eq_true rfl) dX0_count_92 rfl ?_
            have hf := Option.some.inj hf
            cases hf
            exact xw_iret C hr hlk hq rfl rfl rfl dX0_count_97
          · have hf := pu_neg c5 hf
            by_cases c6 : a1 = 5
            · have hf := pu_pos c6 hf
              refine ga_tsw 98 C.c dX0_count_1 c6 (k := 5) (by decide) (by decide) (by decide) rfl (by decide) ?_
              refine ga_aload_n 99 C.c 0 rfl rfl dX0_count_98 rfl ?_
              refine xa_get 102 0 1 C rfl (T := TX0) rfl in_X0 (by decide) q554 rfl rfl dX0_count_99 rfl ?_
              refine xd_getN 105 2 C C.rv (T := TX2) (N := 8) rfl in_X2 (by decide) q398 rfl rfl dX0_count_102 rfl ?_
              refine xa_size 110 2 C (by decide) q1018 (Nat.le_of_ble_eq_true rfl) (Nat.le_of_ble_eq_true rfl) (Nat.le_of_ble_eq_true rfl) dX0_count_105 rfl ?_
              have hf := Option.some.inj hf
              cases hf
              exact xw_iret C hr hlk hq rfl rfl rfl dX0_count_110
            · have hf := pu_neg c6 hf
              by_cases c7 : a1 = 6
              · have hf := pu_pos c7 hf
                refine ga_tsw 111 C.c dX0_count_1 c7 (k := 6) (by decide) (by decide) (by decide) rfl (by decide) ?_
                refine ga_aload_n 112 C.c 0 rfl rfl dX0_count_111 rfl ?_
                refine xa_get 115 0 1 C rfl (T := TX0) rfl in_X0 (by decide) q554 rfl rfl dX0_count_112 rfl ?_
                refine xd_getN 118 3 C C.rv (T := TX2) (N := 8) rfl in_X2 (by decide) q401 rfl rfl dX0_count_115 rfl ?_
                refine xa_size 123 3 C (by decide) q1018 (Nat.le_of_ble_eq_true rfl) (Nat.le_of_ble_eq_true rfl) (Nat.le_of_ble_eq_true rfl) dX0_count_118 rfl ?_
                have hf := Option.some.inj hf
                cases hf
                exact xw_iret C hr hlk hq rfl rfl rfl dX0_count_123
              · have hf := pu_neg c7 hf
                by_cases c8 : a1 = 7
                · have hf := pu_pos c8 hf
                  refine ga_tsw 124 C.c dX0_count_1 c8 (k := 7) (by decide) (by decide) (by decide) rfl (by decide) ?_
                  refine ga_aload_n 125 C.c 0 rfl rfl dX0_count_124 rfl ?_
                  refine xa_get 128 0 1 C rfl (T := TX0) rfl in_X0 (by decide) q554 rfl rfl dX0_count_125 rfl ?_
                  refine xd_getN 131 7 C C.rv (T := TX2) (N := 8) rfl in_X2 (by decide) q415 rfl rfl dX0_count_128 rfl ?_
                  have hf := Option.some.inj hf
                  cases hf
                  exact xw_iret C hr hlk hq rfl rfl rfl dX0_count_131
                · have hf := pu_neg c8 hf
                  by_cases c9 : a1 = 8
                  · have hf := pu_pos c9 hf
                    refine ga_tsw 132 C.c dX0_count_1 c9 (k := 8) (by decide) (by decide) (by decide) rfl (by decide) ?_
                    refine ga_aload_n 133 C.c 0 rfl rfl dX0_count_132 rfl ?_
                    refine xa_get 136 0 4 C rfl (T := TX0) rfl in_X0 (by decide) q557 rfl rfl dX0_count_133 rfl ?_
                    have hf := Option.some.inj hf
                    cases hf
                    exact xw_iret C hr hlk hq rfl rfl rfl dX0_count_136
                  · have hf := pu_neg c9 hf
                    by_cases c10 : a1 = 9
                    · have hf := pu_pos c10 hf
                      refine ga_tsw 137 C.c dX0_count_1 c10 (k := 9) (by decide) (by decide) (by decide) rfl (by decide) ?_
                      refine ga_iconst 138 C.c (v := 0) (by decide) dX0_count_137 rfl ?_
                      refine ga_istore_n 139 C.c 2 rfl (by decide) rfl dX0_count_138 rfl ?_
                      refine ga_aload_n 140 C.c 0 rfl rfl dX0_count_139 rfl ?_
                      refine xa_get 143 0 0 C rfl (T := TX0) rfl in_X0 (by decide) q552 rfl rfl dX0_count_140 rfl ?_
                      refine ga_astore_n 144 C.c 3 rfl (by decide) rfl dX0_count_143 rfl ?_
                      refine ga_aload_n 145 C.c 3 rfl rfl dX0_count_144 rfl ?_
                      refine xa_slotlen 146 C dX0_count_145 rfl ?_
                      refine ga_istore 148 C.c 4 (by decide) rfl dX0_count_146 rfl ?_
                      refine ga_iconst 149 C.c (v := 0) (by decide) dX0_count_148 rfl ?_
                      refine ga_istore 151 C.c 5 (by decide) rfl dX0_count_149 rfl ?_
                      obtain ⟨v23, hi19, hf⟩ := pu_b1_w hf
                      refine ga_cut 186 (I2 := xw_I E X z) (k2 := 0) (n2 := 0) (lo2 := [none, none, some (.int v23), none, none, none, none]) (st2 := []) ?_ (fun hj18 => ?_)
                      · refine ga_iload_n 187 C.c 2 rfl rfl dX0_count_186 rfl ?_
                        have hf := Option.some.inj hf
                        cases hf
                        exact xw_iret C hr hlk hq rfl rfl rfl dX0_count_187
                      · refine ga_W.sub (pu_it_w (Wd := fun (q : Int32 × Int32) => ga_W E 7 (xw_I E X z) 0 0 151 [none, none, some (.int q.1), some (.ref (xg X 13)), some (.int 4), some (.int q.2), none] []) (Wx := fun e => e = (v23)) (fun q x hf kc14 kx15 => ?_) hi19 rfl) (And.intro rfl (And.intro rfl (And.intro rfl (And.intro rfl trivial))))
                        obtain ⟨v12, v13⟩ := q
                        try dsimp only
                        unfold fX0_count_L151 at hf
                        refine ga_iload 153 C.c rfl dX0_count_151 rfl ?_
                        refine ga_iload 155 C.c rfl dX0_count_153 rfl ?_
                        refine ga_icmp_ge 186 158 C.c dX0_count_155 (by decide) rfl (fun c => ?_) (fun c => ?_)
                        · have hf := pu_pos c hf
                          cases (kx15 _ (Option.some.inj hf).symm)
                          exact ga_W.sub hj18 (And.intro rfl trivial)
                        · have hf := pu_neg c hf
                          refine ga_aload_n 159 C.c 3 rfl rfl dX0_count_158 rfl ?_
                          refine ga_iload 161 C.c rfl dX0_count_159 rfl ?_
                          obtain ⟨h20, hf⟩ := pu_g_w hf
                          refine xa_slot 162 C h20 dX0_count_161 rfl ?_
                          refine ga_astore 164 C.c 6 (by decide) rfl dX0_count_162 rfl ?_
                          refine ga_iload_n 165 C.c 2 rfl rfl dX0_count_164 rfl ?_
                          refine ga_aload 167 C.c rfl dX0_count_165 rfl ?_
                          refine xa_heldnn 177 173 C (vp_in_lt h20) q342 dX0_count_167 rfl dX0_count_170 (by decide) rfl (fun c => ?_) (fun c => ?_)
                          · have hf := pu_neg c hf
                            refine ga_iconst 178 C.c (v := 1) (by decide) dX0_count_177 rfl ?_
                            refine ga_iadd 179 C.c dX0_count_178 rfl ?_
                            refine ga_istore_n 180 C.c 2 rfl (by decide) rfl dX0_count_179 rfl ?_
                            obtain ⟨_, rfl, hf⟩ := pu_l1_w hf
                            refine ga_iinc 183 C.c (v := v13 + 1) rfl rfl (by decide) rfl dX0_count_180 rfl ?_
                            refine ga_goto 151 C.c dX0_count_183 (by decide) ?_
                            exact ga_W.sub (kc14 _ (Option.some.inj hf).symm) (And.intro rfl (And.intro rfl (And.intro rfl (And.intro rfl trivial))))
                          · have hf := pu_pos c hf
                            refine ga_iconst 174 C.c (v := 0) (by decide) dX0_count_173 rfl ?_
                            refine ga_goto 178 C.c dX0_count_174 (by decide) ?_
                            refine ga_iadd 179 C.c dX0_count_178 rfl ?_
                            refine ga_istore_n 180 C.c 2 rfl (by decide) rfl dX0_count_179 rfl ?_
                            obtain ⟨_, rfl, hf⟩ := pu_l1_w hf
                            refine ga_iinc 183 C.c (v := v13 + 1) rfl rfl (by decide) rfl dX0_count_180 rfl ?_
                            refine ga_goto 151 C.c dX0_count_183 (by decide) ?_
                            exact ga_W.sub (kc14 _ (Option.some.inj hf).symm) (And.intro rfl (And.intro rfl (And.intro rfl (And.intro rfl trivial))))
                    · have hf := pu_neg c10 hf
                      have c1 := lv_neT c1 (show (0 : Int32).toInt = 0 by decide)
                      have c2 := lv_neT c2 (show (1 : Int32).toInt = 1 by decide)
                      have c3 := lv_neT c3 (show (2 : Int32).toInt = 2 by decide)
                      have c4 := lv_neT c4 (show (3 : Int32).toInt = 3 by decide)
                      have c5 := lv_neT c5 (show (4 : Int32).toInt = 4 by decide)
                      have c6 := lv_neT c6 (show (5 : Int32).toInt = 5 by decide)
                      have c7 := lv_neT c7 (show (6 : Int32).toInt = 6 by decide)
                      have c8 := lv_neT c8 (show (7 : Int32).toInt = 7 by decide)
                      have c9 := lv_neT c9 (show (8 : Int32).toInt = 8 by decide)
                      have c10 := lv_neT c10 (show (9 : Int32).toInt = 9 by decide)
                      refine ga_tswD 188 C.c dX0_count_1 (by omega) (by decide) ?_
                      refine ga_iconst 189 C.c (v := (-1)) (by decide) dX0_count_188 rfl ?_
                      have hf := Option.some.inj hf
                      cases hf
                      exact xw_iret C hr hlk hq rfl rfl rfl dX0_count_189
