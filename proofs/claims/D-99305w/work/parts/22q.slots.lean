set_option maxRecDepth 100000
theorem cd_X1_begins : yX1_begins.cls = RX1 ∧ yX1_begins.cls ≠ "java/lang/invoke/MethodHandle" ∧ yX1_begins.cls ≠ "java/lang/invoke/VarHandle" ∧ (parseMethodDescriptor yX1_begins.desc).map (fun d => d.parameters.length) = some 2 := by decide +kernel
set_option maxHeartbeats 4000000 in
theorem met_X1_begins (l : Launch) (D : va_G) (kk : Nat → Nat) (dE : Nat → Nat) (A : Nat → Prop) (hl0 : l.stackTraces = false) (h : hG) (a : Nat) (v0 : Value) (d n : Int32) (hd : d = 0 ∨ d = 1 ∨ d = 2 ∨ d = 3) (hn60 : ¬ n < 0 → n.toNatClampNeg ≤ 60) (g_a : h a = some (.inr (2, [v0]))) : vx_Met l yX1_begins (wsW_ yX1_begins cX1_begins 4 (some .boolean) [(0, 65, 68, 15)]) ({ frames := 9, cells := 4, slots := 70, locals := 10300 } : Room) (hw_Pc D kk dE A h [.ref a, .int d, .int n]) (hw_Qc D A (fun v h2 => (n < 0 → v = some (.int 0) ∧ h2 = h) ∧ (¬ n < 0 → v = some (.int 1) ∧ ∃ x e, h x = none ∧ xs_arr kk n.toNatClampNeg d (fun _ => 0) e ∧ h2 x = some e ∧ h2 a = some (.inr (2, [.ref x])) ∧ hfr h h2 [a]))) (hv_X D A (fun _ _ => False)) (4) (70) A := by
  refine hv_ofH (RX := RX1) (lo := [some (.ref a), some (.int d), some (.int n), none]) (hh := [(0, 65, 68, 15)]) hl0 (by decide) rfl (Nat.le_of_ble_eq_true rfl) rfl (fun E C hE0 hT hr hlk hq => ?_)
  rcases hd with rfl | rfl | rfl | rfl
  · refine ga_iload_n 1 C.c 1 rfl rfl dX1_begins_0 rfl ?_
    refine ga_tsw 28 C.c dX1_begins_1 rfl (k := 0) (by decide) (by decide) (by decide) rfl (by decide) ?_
    refine ga_aload_n 29 C.c 0 rfl rfl dX1_begins_28 rfl ?_
    refine ga_iload_n 30 C.c 2 rfl rfl dX1_begins_29 rfl ?_
    by_cases c34001 : n < 0
    · refine hv_newarrayZ C c34001 (Nat.le_of_ble_eq_true rfl) dX1_begins_30 (hv_nas C hE0 c34001 (Nat.le_of_ble_eq_true rfl) (Nat.le_of_ble_eq_true rfl) (by omega) (by omega) hlk (hv_catch C hT [] ⟨0, 65, 68, 15⟩ [] rfl (fun z hz => nomatch hz) (by decide) (by decide) q143 (by simp [hc_l]) (fun q => ?_)))
      refine ga_astore_n 69 C.c 3 rfl (Nat.le_of_ble_eq_true rfl) rfl dX1_begins_68 rfl ?_
      refine ga_iconst 70 C.c (v := 0) (by decide) dX1_begins_69 rfl ?_
      exact hv_iret C hr hlk hq rfl (by omega) (by omega) ⟨fun _ => ⟨rfl, rfl⟩, fun q9 => absurd c34001 q9⟩ dX1_begins_70
    · have h60 := hn60 c34001
      refine hh_newa 32 2 C (atype := .byte) (a0 := (n.toNatClampNeg, .inl (fun _ => 0))) q226 rfl rfl (fun _ => rfl) c34001 rfl (show n.toNatClampNeg * 1 ≤ 536870912 by omega) (by omega) (by omega) dX1_begins_30 rfl (fun o34002 h34003 n34005 a34006 e34004 => ?_)
      have k34007 := hu_fr0 e34004 n34005
      have g34008 := hu_at e34004
      clear e34004
      have ne34009 : a ≠ o34002 := hn_ne g_a n34005
      have g34010 := k34007 _ _ List.not_mem_nil g_a
      refine hh_put 35 0 C (ref := "QuotedRiver$Slot") (fs2 := [.ref o34002]) tyX1_ok nmX1 in_X1 g34010 rfl (by decide) q341 (fun _ h9 => h9) rfl (tyX1_ok 0 (by decide)) rfl rfl (Nat.le_of_ble_eq_true rfl) rfl dX1_begins_32 rfl (fun h34011 e34012 => ?_)
      have k34013 := hu_fr e34012
      have g34014 := hu_at e34012
      clear e34012
      have g34015 := k34013 _ _ (nm1 (Ne.symm ne34009)) g34008
      refine ga_goto 65 C.c dX1_begins_35 (by decide) ?_
      refine ga_goto 71 C.c dX1_begins_65 (by decide) ?_
      refine ga_iconst 72 C.c (v := 1) (by decide) dX1_begins_71 rfl ?_
      have nd34016 : h o34002 = none := by
        cases c9 : h o34002 with
        | none => rfl
        | some e9 =>
          rw [n34005] at c9
          cases c9
      have kF34017 : hfr h h34011 [a] := by
        intro b e nb hb
        have m_o34002 : b ≠ o34002 := hn_ne hb n34005
        have b34018 := k34007 b e List.not_mem_nil hb
        have b34019 := k34013 b e (nm1 (nx nb (by simp))) b34018
        exact b34019
      exact hv_iret C hr hlk hq rfl (by omega) (by omega) ⟨fun q9 => absurd q9 c34001, fun _ => ⟨rfl, o34002, _, nd34016, Or.inl ⟨rfl, _, rfl, fun _ _ => rfl⟩, g34015, g34014, kF34017⟩⟩ dX1_begins_72
  · refine ga_iload_n 1 C.c 1 rfl rfl dX1_begins_0 rfl ?_
    refine ga_tsw 38 C.c dX1_begins_1 rfl (k := 1) (by decide) (by decide) (by decide) rfl (by decide) ?_
    refine ga_aload_n 39 C.c 0 rfl rfl dX1_begins_38 rfl ?_
    refine ga_iload_n 40 C.c 2 rfl rfl dX1_begins_39 rfl ?_
    by_cases c34020 : n < 0
    · refine hv_newarrayZ C c34020 (Nat.le_of_ble_eq_true rfl) dX1_begins_40 (hv_nas C hE0 c34020 (Nat.le_of_ble_eq_true rfl) (Nat.le_of_ble_eq_true rfl) (by omega) (by omega) hlk (hv_catch C hT [] ⟨0, 65, 68, 15⟩ [] rfl (fun z hz => nomatch hz) (by decide) (by decide) q143 (by simp [hc_l]) (fun q => ?_)))
      refine ga_astore_n 69 C.c 3 rfl (Nat.le_of_ble_eq_true rfl) rfl dX1_begins_68 rfl ?_
      refine ga_iconst 70 C.c (v := 0) (by decide) dX1_begins_69 rfl ?_
      exact hv_iret C hr hlk hq rfl (by omega) (by omega) ⟨fun _ => ⟨rfl, rfl⟩, fun q9 => absurd c34020 q9⟩ dX1_begins_70
    · have h60 := hn60 c34020
      refine hh_newa 42 3 C (atype := .short) (a0 := (n.toNatClampNeg, .inl (fun _ => 0))) q231 rfl rfl (fun _ => rfl) c34020 rfl (show n.toNatClampNeg * 2 ≤ 536870912 by omega) (by omega) (by omega) dX1_begins_40 rfl (fun o34021 h34022 n34024 a34025 e34023 => ?_)
      have k34026 := hu_fr0 e34023 n34024
      have g34027 := hu_at e34023
      clear e34023
      have ne34028 : a ≠ o34021 := hn_ne g_a n34024
      have g34029 := k34026 _ _ List.not_mem_nil g_a
      refine hh_put 45 0 C (ref := "QuotedRiver$Slot") (fs2 := [.ref o34021]) tyX1_ok nmX1 in_X1 g34029 rfl (by decide) q341 (fun _ h9 => h9) rfl (tyX1_ok 0 (by decide)) rfl rfl (Nat.le_of_ble_eq_true rfl) rfl dX1_begins_42 rfl (fun h34030 e34031 => ?_)
      have k34032 := hu_fr e34031
      have g34033 := hu_at e34031
      clear e34031
      have g34034 := k34032 _ _ (nm1 (Ne.symm ne34028)) g34027
      refine ga_goto 65 C.c dX1_begins_45 (by decide) ?_
      refine ga_goto 71 C.c dX1_begins_65 (by decide) ?_
      refine ga_iconst 72 C.c (v := 1) (by decide) dX1_begins_71 rfl ?_
      have nd34035 : h o34021 = none := by
        cases c9 : h o34021 with
        | none => rfl
        | some e9 =>
          rw [n34024] at c9
          cases c9
      have kF34036 : hfr h h34030 [a] := by
        intro b e nb hb
        have m_o34021 : b ≠ o34021 := hn_ne hb n34024
        have b34037 := k34026 b e List.not_mem_nil hb
        have b34038 := k34032 b e (nm1 (nx nb (by simp))) b34037
        exact b34038
      exact hv_iret C hr hlk hq rfl (by omega) (by omega) ⟨fun q9 => absurd q9 c34020, fun _ => ⟨rfl, o34021, _, nd34035, Or.inr (Or.inl ⟨rfl, _, rfl, fun _ _ => rfl⟩), g34034, g34033, kF34036⟩⟩ dX1_begins_72
  · refine ga_iload_n 1 C.c 1 rfl rfl dX1_begins_0 rfl ?_
    refine ga_tsw 48 C.c dX1_begins_1 rfl (k := 2) (by decide) (by decide) (by decide) rfl (by decide) ?_
    refine ga_aload_n 49 C.c 0 rfl rfl dX1_begins_48 rfl ?_
    refine ga_iload_n 50 C.c 2 rfl rfl dX1_begins_49 rfl ?_
    by_cases c34039 : n < 0
    · refine hv_newarrayZ C c34039 (Nat.le_of_ble_eq_true rfl) dX1_begins_50 (hv_nas C hE0 c34039 (Nat.le_of_ble_eq_true rfl) (Nat.le_of_ble_eq_true rfl) (by omega) (by omega) hlk (hv_catch C hT [] ⟨0, 65, 68, 15⟩ [] rfl (fun z hz => nomatch hz) (by decide) (by decide) q143 (by simp [hc_l]) (fun q => ?_)))
      refine ga_astore_n 69 C.c 3 rfl (Nat.le_of_ble_eq_true rfl) rfl dX1_begins_68 rfl ?_
      refine ga_iconst 70 C.c (v := 0) (by decide) dX1_begins_69 rfl ?_
      exact hv_iret C hr hlk hq rfl (by omega) (by omega) ⟨fun _ => ⟨rfl, rfl⟩, fun q9 => absurd c34039 q9⟩ dX1_begins_70
    · have h60 := hn60 c34039
      refine hh_newa 52 0 C (atype := .int) (a0 := (n.toNatClampNeg, .inl (fun _ => 0))) q232 rfl rfl (fun _ => rfl) c34039 rfl (show n.toNatClampNeg * 4 ≤ 536870912 by omega) (by omega) (by omega) dX1_begins_50 rfl (fun o34040 h34041 n34043 a34044 e34042 => ?_)
      have k34045 := hu_fr0 e34042 n34043
      have g34046 := hu_at e34042
      clear e34042
      have ne34047 : a ≠ o34040 := hn_ne g_a n34043
      have g34048 := k34045 _ _ List.not_mem_nil g_a
      refine hh_put 55 0 C (ref := "QuotedRiver$Slot") (fs2 := [.ref o34040]) tyX1_ok nmX1 in_X1 g34048 rfl (by decide) q341 (fun _ h9 => h9) rfl (tyX1_ok 0 (by decide)) rfl rfl (Nat.le_of_ble_eq_true rfl) rfl dX1_begins_52 rfl (fun h34049 e34050 => ?_)
      have k34051 := hu_fr e34050
      have g34052 := hu_at e34050
      clear e34050
      have g34053 := k34051 _ _ (nm1 (Ne.symm ne34047)) g34046
      refine ga_goto 65 C.c dX1_begins_55 (by decide) ?_
      refine ga_goto 71 C.c dX1_begins_65 (by decide) ?_
      refine ga_iconst 72 C.c (v := 1) (by decide) dX1_begins_71 rfl ?_
      have nd34054 : h o34040 = none := by
        cases c9 : h o34040 with
        | none => rfl
        | some e9 =>
          rw [n34043] at c9
          cases c9
      have kF34055 : hfr h h34049 [a] := by
        intro b e nb hb
        have m_o34040 : b ≠ o34040 := hn_ne hb n34043
        have b34056 := k34045 b e List.not_mem_nil hb
        have b34057 := k34051 b e (nm1 (nx nb (by simp))) b34056
        exact b34057
      exact hv_iret C hr hlk hq rfl (by omega) (by omega) ⟨fun q9 => absurd q9 c34039, fun _ => ⟨rfl, o34040, _, nd34054, Or.inr (Or.inr (Or.inl ⟨rfl, _, rfl, fun _ _ => rfl⟩)), g34053, g34052, kF34055⟩⟩ dX1_begins_72
  · refine ga_iload_n 1 C.c 1 rfl rfl dX1_begins_0 rfl ?_
    refine ga_tswD 58 C.c dX1_begins_1 (by decide) (by decide) ?_
    refine ga_aload_n 59 C.c 0 rfl rfl dX1_begins_58 rfl ?_
    refine ga_iload_n 60 C.c 2 rfl rfl dX1_begins_59 rfl ?_
    by_cases c34058 : n < 0
    · refine hv_newarrayZ C c34058 (Nat.le_of_ble_eq_true rfl) dX1_begins_60 (hv_nas C hE0 c34058 (Nat.le_of_ble_eq_true rfl) (Nat.le_of_ble_eq_true rfl) (by omega) (by omega) hlk (hv_catch C hT [] ⟨0, 65, 68, 15⟩ [] rfl (fun z hz => nomatch hz) (by decide) (by decide) q143 (by simp [hc_l]) (fun q => ?_)))
      refine ga_astore_n 69 C.c 3 rfl (Nat.le_of_ble_eq_true rfl) rfl dX1_begins_68 rfl ?_
      refine ga_iconst 70 C.c (v := 0) (by decide) dX1_begins_69 rfl ?_
      exact hv_iret C hr hlk hq rfl (by omega) (by omega) ⟨fun _ => ⟨rfl, rfl⟩, fun q9 => absurd c34058 q9⟩ dX1_begins_70
    · have h60 := hn60 c34058
      refine hh_newa 62 1 C (atype := .long) (a0 := (n.toNatClampNeg, .inr (.inl (fun _ => 0)))) q233 rfl rfl (fun _ => rfl) c34058 rfl (show n.toNatClampNeg * 8 ≤ 536870912 by omega) (by omega) (by omega) dX1_begins_60 rfl (fun o34059 h34060 n34062 a34063 e34061 => ?_)
      have k34064 := hu_fr0 e34061 n34062
      have g34065 := hu_at e34061
      clear e34061
      have ne34066 : a ≠ o34059 := hn_ne g_a n34062
      have g34067 := k34064 _ _ List.not_mem_nil g_a
      refine hh_put 65 0 C (ref := "QuotedRiver$Slot") (fs2 := [.ref o34059]) tyX1_ok nmX1 in_X1 g34067 rfl (by decide) q341 (fun _ h9 => h9) rfl (tyX1_ok 0 (by decide)) rfl rfl (Nat.le_of_ble_eq_true rfl) rfl dX1_begins_62 rfl (fun h34068 e34069 => ?_)
      have k34070 := hu_fr e34069
      have g34071 := hu_at e34069
      clear e34069
      have g34072 := k34070 _ _ (nm1 (Ne.symm ne34066)) g34065
      refine ga_goto 71 C.c dX1_begins_65 (by decide) ?_
      refine ga_iconst 72 C.c (v := 1) (by decide) dX1_begins_71 rfl ?_
      have nd34073 : h o34059 = none := by
        cases c9 : h o34059 with
        | none => rfl
        | some e9 =>
          rw [n34062] at c9
          cases c9
      have kF34074 : hfr h h34068 [a] := by
        intro b e nb hb
        have m_o34059 : b ≠ o34059 := hn_ne hb n34062
        have b34075 := k34064 b e List.not_mem_nil hb
        have b34076 := k34070 b e (nm1 (nx nb (by simp))) b34075
        exact b34076
      exact hv_iret C hr hlk hq rfl (by omega) (by omega) ⟨fun q9 => absurd q9 c34058, fun _ => ⟨rfl, o34059, _, nd34073, Or.inr (Or.inr (Or.inr ⟨rfl, _, rfl, fun _ _ => rfl⟩)), g34072, g34071, kF34074⟩⟩ dX1_begins_72
theorem cd_X1_putWider : yX1_putWider.cls = RX1 ∧ yX1_putWider.cls ≠ "java/lang/invoke/MethodHandle" ∧ yX1_putWider.cls ≠ "java/lang/invoke/VarHandle" ∧ (parseMethodDescriptor yX1_putWider.desc).map (fun d => d.parameters.length) = some 2 := by decide +kernel
set_option maxHeartbeats 4000000 in
theorem met_X1_putWider_i (l : Launch) (D : va_G) (kk : Nat → Nat) (dE : Nat → Nat) (A : Nat → Prop) (hl0 : l.stackTraces = false) (h : hG) (a x n : Nat) (i : Int32) (v : Int64) (f : Nat → Int32) (hn31 : n < 2 ^ 31) (g_a : h a = some (.inr (2, [.ref x]))) (g_x : h x = some (.inl (kk 0, n, .inl f))) : vx_Met l yX1_putWider (wsW_ yX1_putWider cX1_putWider 6 none [(0, 15, 18, 36)]) ({ frames := 8, cells := 6, slots := 450, locals := 10300 } : Room) (hw_Pc D kk dE A h [.ref a, .int i, .long v]) (hw_Qc D A (fun v9 h2 => v9 = none ∧ vp_in i n ∧ h2 x = some (.inl (kk 0, n, .inl (upd f i.toNatClampNeg v.toInt32))) ∧ hfr h h2 [x])) (hv_X D A (fun cn h2 => cn = "java/lang/ArrayIndexOutOfBoundsException" ∧ ¬ vp_in i n ∧ h2 = h)) (6) (450) A := by
  refine hv_ofH (RX := RX1) (lo := [some (.ref a), some (.int i), some (.long v), none, none, none]) (hh := [(0, 15, 18, 36)]) hl0 (by decide) rfl (Nat.le_of_ble_eq_true rfl) rfl (fun E C hE0 hT hr hlk hq => ?_)
  have ne34077 : a ≠ x := hne g_a g_x (by simp)
  have hc := xk_cls C.k
  refine ga_aload_n 1 C.c 0 rfl rfl dX1_putWider_0 rfl ?_
  refine ga_get1 4 0 C.c C.ts (own := RX1) (ref := "QuotedRiver$Slot") C.ow C.k (hw_one g_a) in_X1 rfl (by decide) q341 (fun _ h9 => h9) rfl dX1_putWider_1 rfl ?_
  refine ga_castA 7 C.c (own := RX1) C.ow (C.ts _ q311) (hw_one g_x) hc.1 dX1_putWider_4 rfl ?_
  refine ga_astore 9 C.c 4 (Nat.le_of_ble_eq_true rfl) rfl dX1_putWider_7 rfl ?_
  refine ga_aload 11 C.c rfl dX1_putWider_9 rfl ?_
  refine ga_iload_n 12 C.c 1 rfl rfl dX1_putWider_11 rfl ?_
  refine ga_lload_n 13 C.c 2 rfl rfl dX1_putWider_12 rfl ?_
  refine ga_l2i 14 C.c dX1_putWider_13 rfl ?_
  by_cases c34078 : vp_in i n
  · refine hh_iast 15 0 C g_x rfl c34078 dX1_putWider_14 rfl (fun h34079 e34080 => ?_)
    have k34081 := hu_fr e34080
    have g34082 := hu_at e34080
    clear e34080
    have g34083 := k34081 _ _ (nm1 ne34077) g_a
    refine ga_goto 34 C.c dX1_putWider_15 (by decide) ?_
    have kF34084 : hfr h h34079 [x] := by
      intro b e nb hb
      have b34085 := k34081 b e (nm1 (nx nb (by simp))) hb
      exact b34085
    exact hv_vret C hr hlk hq (Nat.le_of_ble_eq_true rfl) (Nat.le_of_ble_eq_true rfl) ⟨rfl, c34078, g34082, kF34084⟩ dX1_putWider_34
  · exact hv_iastZ 0 C g_x rfl c34078 (Nat.le_of_ble_eq_true rfl) dX1_putWider_14 (hv_aio C hE0 hn31 (Nat.le_of_ble_eq_true rfl) (Nat.le_of_ble_eq_true rfl) (Nat.le_of_ble_eq_true rfl) (Nat.le_of_ble_eq_true rfl) hlk (hv_out C hlk hq (fun z hz => by rw [hT] at hz; obtain rfl : z = ⟨0, 15, 18, 36⟩ := (by simpa [tableOf] using hz); exact Or.inr ⟨by decide, _, q297, by simp [hn_l]⟩) (Nat.le_of_ble_eq_true rfl) (Nat.le_of_ble_eq_true rfl) ⟨rfl, c34078, rfl⟩))
set_option maxHeartbeats 4000000 in
theorem met_X1_putWider_l (l : Launch) (D : va_G) (kk : Nat → Nat) (dE : Nat → Nat) (A : Nat → Prop) (hl0 : l.stackTraces = false) (h : hG) (a x n : Nat) (i : Int32) (v : Int64) (f : Nat → Int64) (hn31 : n < 2 ^ 31) (g_a : h a = some (.inr (2, [.ref x]))) (g_x : h x = some (.inl (kk 1, n, .inr (.inl f)))) : vx_Met l yX1_putWider (wsW_ yX1_putWider cX1_putWider 6 none [(0, 15, 18, 36)]) ({ frames := 8, cells := 6, slots := 450, locals := 10300 } : Room) (hw_Pc D kk dE A h [.ref a, .int i, .long v]) (hw_Qc D A (fun v9 h2 => v9 = none ∧ vp_in i n ∧ h2 x = some (.inl (kk 1, n, .inr (.inl (vp_updL f i.toNatClampNeg v)))) ∧ hfr h h2 [x])) (hv_X D A (fun cn h2 => cn = "java/lang/ArrayIndexOutOfBoundsException" ∧ ¬ vp_in i n ∧ h2 = h)) (6) (450) A := by
  refine hv_ofH (RX := RX1) (lo := [some (.ref a), some (.int i), some (.long v), none, none, none]) (hh := [(0, 15, 18, 36)]) hl0 (by decide) rfl (Nat.le_of_ble_eq_true rfl) rfl (fun E C hE0 hT hr hlk hq => ?_)
  have ne34086 : a ≠ x := hne g_a g_x (by simp)
  have hc := xk_cls C.k
  refine ga_aload_n 1 C.c 0 rfl rfl dX1_putWider_0 rfl ?_
  refine ga_get1 4 0 C.c C.ts (own := RX1) (ref := "QuotedRiver$Slot") C.ow C.k (hw_one g_a) in_X1 rfl (by decide) q341 (fun _ h9 => h9) rfl dX1_putWider_1 rfl ?_
  refine hv_castX C g_x q311 (Nat.le_of_ble_eq_true rfl) dX1_putWider_4 (fun tx t1 t2 => hv_vm C hE0 (names := ["java/lang/RuntimeException", "java/lang/Exception"]) (nb := 200) (by decide +kernel) (by decide +kernel) (by decide +kernel) (by decide +kernel) (vm_cce_at C.ts C.s C.nc.2) vm_cce_good t1 t2 (by decide) (by decide) (Nat.le_of_ble_eq_true rfl) (by decide) (Nat.le_of_ble_eq_true rfl) (Nat.le_of_ble_eq_true rfl) hlk (hv_catch C hT [] ⟨0, 15, 18, 36⟩ [] rfl (fun z hz => nomatch hz) (by decide) (by decide) q297 (by simp [hc_l]) (fun q => ?_)))
  refine ga_astore 20 C.c 4 (Nat.le_of_ble_eq_true rfl) rfl dX1_putWider_18 rfl ?_
  refine ga_aload_n 21 C.c 0 rfl rfl dX1_putWider_20 rfl ?_
  refine ga_get1 24 0 C.c C.ts (own := RX1) (ref := "QuotedRiver$Slot") C.ow C.k (hw_one g_a) in_X1 rfl (by decide) q341 (fun _ h9 => h9) rfl dX1_putWider_21 rfl ?_
  refine ga_castA 27 C.c (own := RX1) C.ow (C.ts _ q312) (hw_one g_x) hc.2.1 dX1_putWider_24 rfl ?_
  refine ga_astore 29 C.c 5 (Nat.le_of_ble_eq_true rfl) rfl dX1_putWider_27 rfl ?_
  refine ga_aload 31 C.c rfl dX1_putWider_29 rfl ?_
  refine ga_iload_n 32 C.c 1 rfl rfl dX1_putWider_31 rfl ?_
  refine ga_lload_n 33 C.c 2 rfl rfl dX1_putWider_32 rfl ?_
  by_cases c34087 : vp_in i n
  · refine hh_last 34 1 C g_x rfl c34087 dX1_putWider_33 rfl (fun h34088 e34089 => ?_)
    have k34090 := hu_fr e34089
    have g34091 := hu_at e34089
    clear e34089
    have g34092 := k34090 _ _ (nm1 ne34086) g_a
    have kF34093 : hfr h h34088 [x] := by
      intro b e nb hb
      have b34094 := k34090 b e (nm1 (nx nb (by simp))) hb
      exact b34094
    exact hv_vret C hr hlk hq (Nat.le_of_ble_eq_true rfl) (Nat.le_of_ble_eq_true rfl) ⟨rfl, c34087, g34091, kF34093⟩ dX1_putWider_34
  · exact hv_lastZ 1 C g_x rfl c34087 (Nat.le_of_ble_eq_true rfl) dX1_putWider_33 (hv_aio C hE0 hn31 (Nat.le_of_ble_eq_true rfl) (Nat.le_of_ble_eq_true rfl) (Nat.le_of_ble_eq_true rfl) (Nat.le_of_ble_eq_true rfl) hlk (hv_out C hlk hq (fun z hz => by rw [hT] at hz; obtain rfl : z = ⟨0, 15, 18, 36⟩ := (by simpa [tableOf] using hz); exact Or.inl (by decide)) (Nat.le_of_ble_eq_true rfl) (Nat.le_of_ble_eq_true rfl) ⟨rfl, c34087, rfl⟩))
set_option maxHeartbeats 4000000 in
theorem met_X1_putWider_n (l : Launch) (D : va_G) (kk : Nat → Nat) (dE : Nat → Nat) (A : Nat → Prop) (hl0 : l.stackTraces = false) (h : hG) (a : Nat) (i : Int32) (v : Int64) (g_a : h a = some (.inr (2, [.null]))) : vx_Met l yX1_putWider (wsW_ yX1_putWider cX1_putWider 6 none [(0, 15, 18, 36)]) ({ frames := 8, cells := 6, slots := 450, locals := 10300 } : Room) (hw_Pc D kk dE A h [.ref a, .int i, .long v]) (hw_Qc D A (fun v9 h2 => False)) (hv_X D A (fun cn h2 => cn = "java/lang/NullPointerException" ∧ h2 = h)) (6) (450) A := by
  refine hv_ofH (RX := RX1) (lo := [some (.ref a), some (.int i), some (.long v), none, none, none]) (hh := [(0, 15, 18, 36)]) hl0 (by decide) rfl (Nat.le_of_ble_eq_true rfl) rfl (fun E C hE0 hT hr hlk hq => ?_)
  refine ga_aload_n 1 C.c 0 rfl rfl dX1_putWider_0 rfl ?_
  refine ga_get1 4 0 C.c C.ts (own := RX1) (ref := "QuotedRiver$Slot") C.ow C.k (hw_one g_a) in_X1 rfl (by decide) q341 (fun _ h9 => h9) rfl dX1_putWider_1 rfl ?_
  refine ga_castN 7 C.c dX1_putWider_4 rfl ?_
  refine ga_astoreN 9 C.c 4 (Nat.le_of_ble_eq_true rfl) rfl dX1_putWider_7 rfl ?_
  refine ga_aloadN 11 C.c rfl dX1_putWider_9 rfl ?_
  refine ga_iload_n 12 C.c 1 rfl rfl dX1_putWider_11 rfl ?_
  refine ga_lload_n 13 C.c 2 rfl rfl dX1_putWider_12 rfl ?_
  refine ga_l2i 14 C.c dX1_putWider_13 rfl ?_
  exact hv_iastN C (Nat.le_of_ble_eq_true rfl) dX1_putWider_14 (hv_npe C hE0 (Nat.le_of_ble_eq_true rfl) (Nat.le_of_ble_eq_true rfl) (Nat.le_of_ble_eq_true rfl) (Nat.le_of_ble_eq_true rfl) hlk (hv_out C hlk hq (fun z hz => by rw [hT] at hz; obtain rfl : z = ⟨0, 15, 18, 36⟩ := (by simpa [tableOf] using hz); exact Or.inr ⟨by decide, _, q297, by simp [hn_l]⟩) (Nat.le_of_ble_eq_true rfl) (Nat.le_of_ble_eq_true rfl) ⟨rfl, rfl⟩))
theorem cd_X1_put : yX1_put.cls = RX1 ∧ yX1_put.cls ≠ "java/lang/invoke/MethodHandle" ∧ yX1_put.cls ≠ "java/lang/invoke/VarHandle" ∧ (parseMethodDescriptor yX1_put.desc).map (fun d => d.parameters.length) = some 2 := by decide +kernel
set_option maxHeartbeats 4000000 in
theorem met_X1_put_a (l : Launch) (D : va_G) (kk : Nat → Nat) (dE : Nat → Nat) (A : Nat → Prop) (hl0 : l.stackTraces = false) (h : hG) (a x n : Nat) (i : Int32) (v : Int64) (d : Int32) (num : Nat → Int64) (e : va_E) (he : xs_arr kk n d num e) (hn31 : n < 2 ^ 31) (g_x : h x = some e) (g_a : h a = some (.inr (2, [.ref x]))) : vx_Met l yX1_put (ws_ yX1_put cX1_put 5 none) ({ frames := 9, cells := 9, slots := 700, locals := 10400 } : Room) (hw_Pc D kk dE A h [.ref a, .int i, .long v]) (hw_Qc D A (fun v9 h2 => v9 = none ∧ vp_in i n ∧ ∃ e2, xs_arr kk n d (vp_updL num i.toNatClampNeg (xs_cut d v)) e2 ∧ h2 x = some e2 ∧ hfr h h2 [x])) (hv_X D A (fun cn h2 => cn = "java/lang/ArrayIndexOutOfBoundsException" ∧ ¬ vp_in i n ∧ h2 = h)) (9) (700) A := by
  refine hv_of (RX := RX1) (lo := [some (.ref a), some (.int i), some (.long v), none, none]) hl0 (by decide) rfl (Nat.le_of_ble_eq_true rfl) rfl (fun E C hE0 hnx hr hlk hq => ?_)
  have hc := xk_cls C.k
  have hN : xc (eS E) := C.j.2.2.2.2.1
  rcases he with ⟨rfl, f, rfl, hf⟩ | ⟨rfl, f, rfl, hf⟩ | ⟨rfl, f, rfl, hf⟩ | ⟨rfl, f, rfl, hf⟩
  · have ne34095 : a ≠ x := hne g_a g_x (by simp)
    refine ga_aload_n 1 C.c 0 rfl rfl dX1_put_0 rfl ?_
    refine ga_get1 4 0 C.c C.ts (own := RX1) (ref := "QuotedRiver$Slot") C.ow C.k (hw_one g_a) in_X1 rfl (by decide) q341 (fun _ h9 => h9) rfl dX1_put_1 rfl ?_
    refine ga_instE 7 C.c (own := RX1) C.ow (C.ts _ q291) (hw_one g_x) hc.2.2.1 dX1_put_4 rfl ?_
    refine ga_if_eq 29 10 C.c dX1_put_7 (by decide) rfl (fun c34096 => absurd c34096 (by decide)) (fun c34096 => ?_)
    refine ga_aload_n 11 C.c 0 rfl rfl dX1_put_10 rfl ?_
    refine ga_get1 14 0 C.c C.ts (own := RX1) (ref := "QuotedRiver$Slot") C.ow C.k (hw_one g_a) in_X1 rfl (by decide) q341 (fun _ h9 => h9) rfl dX1_put_11 rfl ?_
    refine ga_castA 17 C.c (own := RX1) C.ow (C.ts _ q291) (hw_one g_x) hc.2.2.1 dX1_put_14 rfl ?_
    refine ga_astore 19 C.c 4 (Nat.le_of_ble_eq_true rfl) rfl dX1_put_17 rfl ?_
    refine ga_aload 21 C.c rfl dX1_put_19 rfl ?_
    refine ga_iload_n 22 C.c 1 rfl rfl dX1_put_21 rfl ?_
    refine ga_lload_n 23 C.c 2 rfl rfl dX1_put_22 rfl ?_
    refine ga_l2i 24 C.c dX1_put_23 rfl ?_
    refine ga_i2b 25 C.c dX1_put_24 rfl ?_
    by_cases c34097 : vp_in i n
    · refine hh_bast 26 2 C g_x rfl c34097 dX1_put_25 rfl (fun h34098 e34099 => ?_)
      have k34100 := hu_fr e34099
      have g34101 := hu_at e34099
      clear e34099
      have g34102 := k34100 _ _ (nm1 ne34095) g_a
      refine ga_goto 64 C.c dX1_put_26 (by decide) ?_
      have kF34103 : hfr h h34098 [x] := by
        intro b e nb hb
        have b34104 := k34100 b e (nm1 (nx nb (by simp))) hb
        exact b34104
      exact hv_vret C hr hlk hq (Nat.le_of_ble_eq_true rfl) (Nat.le_of_ble_eq_true rfl) ⟨rfl, c34097, _, Or.inl ⟨rfl, _, rfl, by rw [xs_cut0]; exact xs_upd hf⟩, g34101, kF34103⟩ dX1_put_64
    · exact hv_bastZ 2 C g_x rfl c34097 (Nat.le_of_ble_eq_true rfl) dX1_put_25 (hv_aio C hE0 hn31 (Nat.le_of_ble_eq_true rfl) (Nat.le_of_ble_eq_true rfl) (Nat.le_of_ble_eq_true rfl) (Nat.le_of_ble_eq_true rfl) hlk (hv_out C hlk hq (fun z hz => (hnx z hz).elim) (Nat.le_of_ble_eq_true rfl) (Nat.le_of_ble_eq_true rfl) ⟨rfl, c34097, rfl⟩))
  · have ne34105 : a ≠ x := hne g_a g_x (by simp)
    refine ga_aload_n 1 C.c 0 rfl rfl dX1_put_0 rfl ?_
    refine ga_get1 4 0 C.c C.ts (own := RX1) (ref := "QuotedRiver$Slot") C.ow C.k (hw_one g_a) in_X1 rfl (by decide) q341 (fun _ h9 => h9) rfl dX1_put_1 rfl ?_
    refine ga_instNo 7 C.c (own := RX1) C.ow (C.ts _ q291) (hw_one g_x) hc.2.2.2 hN.1 dX1_put_4 rfl ?_
    refine ga_if_eq 29 10 C.c dX1_put_7 (by decide) rfl (fun c34106 => ?_) (fun c34106 => absurd rfl c34106)
    refine ga_aload_n 30 C.c 0 rfl rfl dX1_put_29 rfl ?_
    refine ga_get1 33 0 C.c C.ts (own := RX1) (ref := "QuotedRiver$Slot") C.ow C.k (hw_one g_a) in_X1 rfl (by decide) q341 (fun _ h9 => h9) rfl dX1_put_30 rfl ?_
    refine ga_instE 36 C.c (own := RX1) C.ow (C.ts _ q292) (hw_one g_x) hc.2.2.2 dX1_put_33 rfl ?_
    refine ga_if_eq 58 39 C.c dX1_put_36 (by decide) rfl (fun c34107 => absurd c34107 (by decide)) (fun c34107 => ?_)
    refine ga_aload_n 40 C.c 0 rfl rfl dX1_put_39 rfl ?_
    refine ga_get1 43 0 C.c C.ts (own := RX1) (ref := "QuotedRiver$Slot") C.ow C.k (hw_one g_a) in_X1 rfl (by decide) q341 (fun _ h9 => h9) rfl dX1_put_40 rfl ?_
    refine ga_castA 46 C.c (own := RX1) C.ow (C.ts _ q292) (hw_one g_x) hc.2.2.2 dX1_put_43 rfl ?_
    refine ga_astore 48 C.c 4 (Nat.le_of_ble_eq_true rfl) rfl dX1_put_46 rfl ?_
    refine ga_aload 50 C.c rfl dX1_put_48 rfl ?_
    refine ga_iload_n 51 C.c 1 rfl rfl dX1_put_50 rfl ?_
    refine ga_lload_n 52 C.c 2 rfl rfl dX1_put_51 rfl ?_
    refine ga_l2i 53 C.c dX1_put_52 rfl ?_
    refine ga_i2s 54 C.c dX1_put_53 rfl ?_
    by_cases c34108 : vp_in i n
    · refine hh_sast 55 3 C g_x rfl c34108 dX1_put_54 rfl (fun h34109 e34110 => ?_)
      have k34111 := hu_fr e34110
      have g34112 := hu_at e34110
      clear e34110
      have g34113 := k34111 _ _ (nm1 ne34105) g_a
      refine ga_goto 64 C.c dX1_put_55 (by decide) ?_
      have kF34114 : hfr h h34109 [x] := by
        intro b e nb hb
        have b34115 := k34111 b e (nm1 (nx nb (by simp))) hb
        exact b34115
      exact hv_vret C hr hlk hq (Nat.le_of_ble_eq_true rfl) (Nat.le_of_ble_eq_true rfl) ⟨rfl, c34108, _, Or.inr (Or.inl ⟨rfl, _, rfl, by rw [xs_cut1]; exact xs_upd hf⟩), g34112, kF34114⟩ dX1_put_64
    · exact hv_sastZ 3 C g_x rfl c34108 (Nat.le_of_ble_eq_true rfl) dX1_put_54 (hv_aio C hE0 hn31 (Nat.le_of_ble_eq_true rfl) (Nat.le_of_ble_eq_true rfl) (Nat.le_of_ble_eq_true rfl) (Nat.le_of_ble_eq_true rfl) hlk (hv_out C hlk hq (fun z hz => (hnx z hz).elim) (Nat.le_of_ble_eq_true rfl) (Nat.le_of_ble_eq_true rfl) ⟨rfl, c34108, rfl⟩))
  · have ne34116 : a ≠ x := hne g_a g_x (by simp)
    refine ga_aload_n 1 C.c 0 rfl rfl dX1_put_0 rfl ?_
    refine ga_get1 4 0 C.c C.ts (own := RX1) (ref := "QuotedRiver$Slot") C.ow C.k (hw_one g_a) in_X1 rfl (by decide) q341 (fun _ h9 => h9) rfl dX1_put_1 rfl ?_
    refine ga_instNo 7 C.c (own := RX1) C.ow (C.ts _ q291) (hw_one g_x) hc.1 hN.2.1 dX1_put_4 rfl ?_
    refine ga_if_eq 29 10 C.c dX1_put_7 (by decide) rfl (fun c34117 => ?_) (fun c34117 => absurd rfl c34117)
    refine ga_aload_n 30 C.c 0 rfl rfl dX1_put_29 rfl ?_
    refine ga_get1 33 0 C.c C.ts (own := RX1) (ref := "QuotedRiver$Slot") C.ow C.k (hw_one g_a) in_X1 rfl (by decide) q341 (fun _ h9 => h9) rfl dX1_put_30 rfl ?_
    refine ga_instNo 36 C.c (own := RX1) C.ow (C.ts _ q292) (hw_one g_x) hc.1 hN.2.2.2.1 dX1_put_33 rfl ?_
    refine ga_if_eq 58 39 C.c dX1_put_36 (by decide) rfl (fun c34118 => ?_) (fun c34118 => absurd rfl c34118)
    refine ga_aload_n 59 C.c 0 rfl rfl dX1_put_58 rfl ?_
    refine ga_iload_n 60 C.c 1 rfl rfl dX1_put_59 rfl ?_
    refine ga_lload_n 61 C.c 2 rfl rfl dX1_put_60 rfl ?_
    refine hv_callVH 64 C (as := [.int i, .long v]) (met_X1_putWider_i (eL E) D kk dE A hE0 _ a x n i v f hn31 g_a g_x) g_a (T := TX1) rfl (lw_VW q293 q295 qs3 q94 q296) cd_X1_putWider rfl (Nat.le_of_ble_eq_true rfl) (Nat.le_of_ble_eq_true rfl) (Nat.le_of_ble_eq_true rfl) (Nat.le_of_ble_eq_true rfl) (Nat.le_of_ble_eq_true rfl) dX1_put_61 rfl (fun v34120 h34119 p34121 => ?_) (fun cn h2 hp9 => hv_out C hlk hq (fun z hz => (hnx z hz).elim) (Nat.le_of_ble_eq_true rfl) (Nat.le_of_ble_eq_true rfl) hp9)
    obtain ⟨rfl, hin, gx2, k2⟩ := p34121
    have g34122 := k2 _ _ (nm1 ne34116) g_a
    exact hv_vret C hr hlk hq (Nat.le_of_ble_eq_true rfl) (Nat.le_of_ble_eq_true rfl) ⟨rfl, hin, _, Or.inr (Or.inr (Or.inl ⟨rfl, _, rfl, by rw [xs_cut2]; exact xs_upd hf⟩)), gx2, k2⟩ dX1_put_64
  · have ne34123 : a ≠ x := hne g_a g_x (by simp)
    refine ga_aload_n 1 C.c 0 rfl rfl dX1_put_0 rfl ?_
    refine ga_get1 4 0 C.c C.ts (own := RX1) (ref := "QuotedRiver$Slot") C.ow C.k (hw_one g_a) in_X1 rfl (by decide) q341 (fun _ h9 => h9) rfl dX1_put_1 rfl ?_
    refine ga_instNo 7 C.c (own := RX1) C.ow (C.ts _ q291) (hw_one g_x) hc.2.1 hN.2.2.1 dX1_put_4 rfl ?_
    refine ga_if_eq 29 10 C.c dX1_put_7 (by decide) rfl (fun c34124 => ?_) (fun c34124 => absurd rfl c34124)
    refine ga_aload_n 30 C.c 0 rfl rfl dX1_put_29 rfl ?_
    refine ga_get1 33 0 C.c C.ts (own := RX1) (ref := "QuotedRiver$Slot") C.ow C.k (hw_one g_a) in_X1 rfl (by decide) q341 (fun _ h9 => h9) rfl dX1_put_30 rfl ?_
    refine ga_instNo 36 C.c (own := RX1) C.ow (C.ts _ q292) (hw_one g_x) hc.2.1 hN.2.2.2.2.1 dX1_put_33 rfl ?_
    refine ga_if_eq 58 39 C.c dX1_put_36 (by decide) rfl (fun c34125 => ?_) (fun c34125 => absurd rfl c34125)
    refine ga_aload_n 59 C.c 0 rfl rfl dX1_put_58 rfl ?_
    refine ga_iload_n 60 C.c 1 rfl rfl dX1_put_59 rfl ?_
    refine ga_lload_n 61 C.c 2 rfl rfl dX1_put_60 rfl ?_
    refine hv_callVH 64 C (as := [.int i, .long v]) (met_X1_putWider_l (eL E) D kk dE A hE0 _ a x n i v f hn31 g_a g_x) g_a (T := TX1) rfl (lw_VW q293 q295 qs3 q94 q296) cd_X1_putWider rfl (Nat.le_of_ble_eq_true rfl) (Nat.le_of_ble_eq_true rfl) (Nat.le_of_ble_eq_true rfl) (Nat.le_of_ble_eq_true rfl) (Nat.le_of_ble_eq_true rfl) dX1_put_61 rfl (fun v34127 h34126 p34128 => ?_) (fun cn h2 hp9 => hv_out C hlk hq (fun z hz => (hnx z hz).elim) (Nat.le_of_ble_eq_true rfl) (Nat.le_of_ble_eq_true rfl) hp9)
    obtain ⟨rfl, hin, gx2, k2⟩ := p34128
    have g34129 := k2 _ _ (nm1 ne34123) g_a
    exact hv_vret C hr hlk hq (Nat.le_of_ble_eq_true rfl) (Nat.le_of_ble_eq_true rfl) ⟨rfl, hin, _, Or.inr (Or.inr (Or.inr ⟨rfl, _, rfl, by rw [xs_cut3]; exact xs_updL hf⟩)), gx2, k2⟩ dX1_put_64
set_option maxHeartbeats 4000000 in
theorem met_X1_put_n (l : Launch) (D : va_G) (kk : Nat → Nat) (dE : Nat → Nat) (A : Nat → Prop) (hl0 : l.stackTraces = false) (h : hG) (a : Nat) (i : Int32) (v : Int64) (g_a : h a = some (.inr (2, [.null]))) : vx_Met l yX1_put (ws_ yX1_put cX1_put 5 none) ({ frames := 9, cells := 9, slots := 700, locals := 10400 } : Room) (hw_Pc D kk dE A h [.ref a, .int i, .long v]) (hw_Qc D A (fun v9 h2 => False)) (hv_X D A (fun cn h2 => cn = "java/lang/NullPointerException" ∧ h2 = h)) (9) (700) A := by
  refine hv_of (RX := RX1) (lo := [some (.ref a), some (.int i), some (.long v), none, none]) hl0 (by decide) rfl (Nat.le_of_ble_eq_true rfl) rfl (fun E C hE0 hnx hr hlk hq => ?_)
  refine ga_aload_n 1 C.c 0 rfl rfl dX1_put_0 rfl ?_
  refine ga_get1 4 0 C.c C.ts (own := RX1) (ref := "QuotedRiver$Slot") C.ow C.k (hw_one g_a) in_X1 rfl (by decide) q341 (fun _ h9 => h9) rfl dX1_put_1 rfl ?_
  refine ga_instN 7 C.c dX1_put_4 rfl ?_
  refine ga_if_eq 29 10 C.c dX1_put_7 (by decide) rfl (fun c34130 => ?_) (fun c34130 => absurd rfl c34130)
  refine ga_aload_n 30 C.c 0 rfl rfl dX1_put_29 rfl ?_
  refine ga_get1 33 0 C.c C.ts (own := RX1) (ref := "QuotedRiver$Slot") C.ow C.k (hw_one g_a) in_X1 rfl (by decide) q341 (fun _ h9 => h9) rfl dX1_put_30 rfl ?_
  refine ga_instN 36 C.c dX1_put_33 rfl ?_
  refine ga_if_eq 58 39 C.c dX1_put_36 (by decide) rfl (fun c34131 => ?_) (fun c34131 => absurd rfl c34131)
  refine ga_aload_n 59 C.c 0 rfl rfl dX1_put_58 rfl ?_
  refine ga_iload_n 60 C.c 1 rfl rfl dX1_put_59 rfl ?_
  refine ga_lload_n 61 C.c 2 rfl rfl dX1_put_60 rfl ?_
  refine hv_callVH 64 C (as := [.int i, .long v]) (met_X1_putWider_n (eL E) D kk dE A hE0 _ a i v g_a) g_a (T := TX1) rfl (lw_VW q293 q295 qs3 q94 q296) cd_X1_putWider rfl (Nat.le_of_ble_eq_true rfl) (Nat.le_of_ble_eq_true rfl) (Nat.le_of_ble_eq_true rfl) (Nat.le_of_ble_eq_true rfl) (Nat.le_of_ble_eq_true rfl) dX1_put_61 rfl (fun v34133 h34132 p34134 => ?_) (fun cn h2 hp9 => hv_out C hlk hq (fun z hz => (hnx z hz).elim) (Nat.le_of_ble_eq_true rfl) (Nat.le_of_ble_eq_true rfl) hp9)
  exact p34134.elim
theorem cd_X1_puts : yX1_puts.cls = RX1 ∧ yX1_puts.cls ≠ "java/lang/invoke/MethodHandle" ∧ yX1_puts.cls ≠ "java/lang/invoke/VarHandle" ∧ (parseMethodDescriptor yX1_puts.desc).map (fun d => d.parameters.length) = some 2 := by decide +kernel
set_option maxHeartbeats 4000000 in
theorem met_X1_puts_a (l : Launch) (D : va_G) (kk : Nat → Nat) (dE : Nat → Nat) (A : Nat → Prop) (hl0 : l.stackTraces = false) (h : hG) (a x n : Nat) (i : Int32) (v : Int64) (d : Int32) (num : Nat → Int64) (e : va_E) (he : xs_arr kk n d num e) (hn31 : n < 2 ^ 31) (g_x : h x = some e) (g_a : h a = some (.inr (2, [.ref x]))) : vx_Met l yX1_puts (wsW_ yX1_puts cX1_puts 5 (some .int) [(0, 6, 9, 29), (0, 6, 14, 31)]) ({ frames := 10, cells := 9, slots := 700, locals := 10500 } : Room) (hw_Pc D kk dE A h [.ref a, .int i, .long v]) (hw_Qc D A (fun v9 h2 => (vp_in i n → v9 = some (.int 0) ∧ ∃ e2, xs_arr kk n d (vp_updL num i.toNatClampNeg (xs_cut d v)) e2 ∧ h2 x = some e2 ∧ hfr h h2 [x]) ∧ (¬ vp_in i n → v9 = some (.int (-7)) ∧ h2 = h))) (hv_X D A (fun _ _ => False)) (9) (700) A := by
  refine hv_ofH (RX := RX1) (lo := [some (.ref a), some (.int i), some (.long v), none, none]) (hh := [(0, 6, 9, 29), (0, 6, 14, 31)]) hl0 (by decide) rfl (Nat.le_of_ble_eq_true rfl) rfl (fun E C hE0 hT hr hlk hq => ?_)
  refine ga_aload_n 1 C.c 0 rfl rfl dX1_puts_0 rfl ?_
  refine ga_iload_n 2 C.c 1 rfl rfl dX1_puts_1 rfl ?_
  refine ga_lload_n 3 C.c 2 rfl rfl dX1_puts_2 rfl ?_
  refine hv_callV 6 C (as := [.int i, .long v]) (met_X1_put_a (eL E) D kk dE A hE0 _ a x n i v d num e he hn31 g_x g_a) g_a (T := TX1) rfl (lw_V q286 q288 qs2 q94 q290) cd_X1_put rfl (Nat.le_of_ble_eq_true rfl) (Nat.le_of_ble_eq_true rfl) (Nat.le_of_ble_eq_true rfl) (Nat.le_of_ble_eq_true rfl) (Nat.le_of_ble_eq_true rfl) dX1_puts_3 rfl (fun v34136 h34135 p34137 => ?_) (fun cn h9 hp9 => ?_)
  · obtain ⟨rfl, hin, e2, he2, gx2, k2⟩ := p34137
    refine ga_goto 19 C.c dX1_puts_6 (by decide) ?_
    refine ga_iconst 20 C.c (v := 0) (by decide) dX1_puts_19 rfl ?_
    exact hv_iret C hr hlk hq rfl (Nat.le_of_ble_eq_true rfl) (Nat.le_of_ble_eq_true rfl) ⟨fun _ => ⟨rfl, e2, he2, gx2, k2⟩, fun q9 => absurd hin q9⟩ dX1_puts_20
  · obtain ⟨rfl, hout, rfl⟩ := hp9
    refine hv_catch C hT [⟨0, 6, 9, 29⟩] ⟨0, 6, 14, 31⟩ [] rfl (fun z hz => by obtain rfl : z = ⟨0, 6, 9, 29⟩ := (by simpa using hz); exact Or.inr ⟨by decide, _, q242, by simp [hn_l]⟩) (by decide) (by decide) q267 (by simp [hc_l]) (fun q => ?_)
    refine ga_astore 16 C.c 4 (Nat.le_of_ble_eq_true rfl) rfl dX1_puts_14 rfl ?_
    refine ga_bipush 18 C.c (v := (-7)) (by decide) dX1_puts_16 rfl ?_
    exact hv_iret C hr hlk hq rfl (Nat.le_of_ble_eq_true rfl) (Nat.le_of_ble_eq_true rfl) ⟨fun q9 => absurd q9 hout, fun _ => ⟨rfl, rfl⟩⟩ dX1_puts_18
set_option maxHeartbeats 4000000 in
theorem met_X1_puts_n (l : Launch) (D : va_G) (kk : Nat → Nat) (dE : Nat → Nat) (A : Nat → Prop) (hl0 : l.stackTraces = false) (h : hG) (a : Nat) (i : Int32) (v : Int64) (g_a : h a = some (.inr (2, [.null]))) : vx_Met l yX1_puts (wsW_ yX1_puts cX1_puts 5 (some .int) [(0, 6, 9, 29), (0, 6, 14, 31)]) ({ frames := 10, cells := 9, slots := 700, locals := 10500 } : Room) (hw_Pc D kk dE A h [.ref a, .int i, .long v]) (hw_Qc D A (fun v9 h2 => v9 = some (.int (-6)) ∧ h2 = h)) (hv_X D A (fun _ _ => False)) (9) (700) A := by
  refine hv_ofH (RX := RX1) (lo := [some (.ref a), some (.int i), some (.long v), none, none]) (hh := [(0, 6, 9, 29), (0, 6, 14, 31)]) hl0 (by decide) rfl (Nat.le_of_ble_eq_true rfl) rfl (fun E C hE0 hT hr hlk hq => ?_)
  refine ga_aload_n 1 C.c 0 rfl rfl dX1_puts_0 rfl ?_
  refine ga_iload_n 2 C.c 1 rfl rfl dX1_puts_1 rfl ?_
  refine ga_lload_n 3 C.c 2 rfl rfl dX1_puts_2 rfl ?_
  refine hv_callV 6 C (as := [.int i, .long v]) (met_X1_put_n (eL E) D kk dE A hE0 _ a i v g_a) g_a (T := TX1) rfl (lw_V q286 q288 qs2 q94 q290) cd_X1_put rfl (Nat.le_of_ble_eq_true rfl) (Nat.le_of_ble_eq_true rfl) (Nat.le_of_ble_eq_true rfl) (Nat.le_of_ble_eq_true rfl) (Nat.le_of_ble_eq_true rfl) dX1_puts_3 rfl (fun v34139 h34138 p34140 => ?_) (fun cn h9 hp9 => ?_)
  · exact p34140.elim
  · obtain ⟨rfl, rfl⟩ := hp9
    refine hv_catch C hT [] ⟨0, 6, 9, 29⟩ [⟨0, 6, 14, 31⟩] rfl (fun z hz => nomatch hz) (by decide) (by decide) q242 (by simp [hc_l]) (fun q => ?_)
    refine ga_astore 11 C.c 4 (Nat.le_of_ble_eq_true rfl) rfl dX1_puts_9 rfl ?_
    refine ga_bipush 13 C.c (v := (-6)) (by decide) dX1_puts_11 rfl ?_
    exact hv_iret C hr hlk hq rfl (Nat.le_of_ble_eq_true rfl) (Nat.le_of_ble_eq_true rfl) ⟨rfl, rfl⟩ dX1_puts_13
