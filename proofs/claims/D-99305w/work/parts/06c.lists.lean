set_option maxRecDepth 100000
theorem cd_X1_init : yX1_init.cls ≠ "java/lang/invoke/MethodHandle" ∧ yX1_init.cls ≠ "java/lang/invoke/VarHandle" ∧ (parseMethodDescriptor yX1_init.desc).map (fun d => d.parameters.length) = some 0 := by decide +kernel
set_option maxHeartbeats 4000000 in
theorem met_X1_init (l : Launch) (D : va_G) (kk : Nat → Nat) (dE : Nat → Nat) (A : Nat → Prop) (h : hG) (a : Nat) : Met l yX1_init (ws_ yX1_init cX1_init 1 none) ({ frames := 1, cells := 0, slots := 0, locals := 20 } : Room) (hw_Pc D kk dE A h [.ref a]) (hw_Qc D A (fun v h2 => v = none ∧ h2 = h)) (0) (0) A := by
  refine hw_of (RX := RX1) (lo := [some (.ref a)]) (by decide) rfl (Nat.le_of_ble_eq_true rfl) rfl (fun E C hin hr hlk hq => ?_)
  refine ga_aload_n 1 C.c 0 rfl rfl dX1_init_0 rfl ?_
  refine hh_obj 4 C q340 q157 q158 (Nat.le_of_ble_eq_true rfl) (Nat.le_of_ble_eq_true rfl) (Nat.le_of_ble_eq_true rfl) dX1_init_1 rfl ?_
  exact hw_vret C hr hlk hq (Nat.le_of_ble_eq_true rfl) (Nat.le_of_ble_eq_true rfl) ⟨rfl, rfl⟩ dX1_init_4
theorem cd_X9_init : yX9_init.cls ≠ "java/lang/invoke/MethodHandle" ∧ yX9_init.cls ≠ "java/lang/invoke/VarHandle" ∧ (parseMethodDescriptor yX9_init.desc).map (fun d => d.parameters.length) = some 0 := by decide +kernel
set_option maxHeartbeats 4000000 in
theorem met_X9_init (l : Launch) (D : va_G) (kk : Nat → Nat) (dE : Nat → Nat) (A : Nat → Prop) (h : hG) (a : Nat) : Met l yX9_init (ws_ yX9_init cX9_init 1 none) ({ frames := 1, cells := 0, slots := 0, locals := 20 } : Room) (hw_Pc D kk dE A h [.ref a]) (hw_Qc D A (fun v h2 => v = none ∧ h2 = h)) (0) (0) A := by
  refine hw_of (RX := RX9) (lo := [some (.ref a)]) (by decide) rfl (Nat.le_of_ble_eq_true rfl) rfl (fun E C hin hr hlk hq => ?_)
  refine ga_aload_n 1 C.c 0 rfl rfl dX9_init_0 rfl ?_
  refine hh_obj 4 C q801 q157 q158 (Nat.le_of_ble_eq_true rfl) (Nat.le_of_ble_eq_true rfl) (Nat.le_of_ble_eq_true rfl) dX9_init_1 rfl ?_
  exact hw_vret C hr hlk hq (Nat.le_of_ble_eq_true rfl) (Nat.le_of_ble_eq_true rfl) ⟨rfl, rfl⟩ dX9_init_4
theorem cd_X10_init : yX10_init.cls ≠ "java/lang/invoke/MethodHandle" ∧ yX10_init.cls ≠ "java/lang/invoke/VarHandle" ∧ (parseMethodDescriptor yX10_init.desc).map (fun d => d.parameters.length) = some 0 := by decide +kernel
set_option maxHeartbeats 4000000 in
theorem met_X10_init (l : Launch) (D : va_G) (kk : Nat → Nat) (dE : Nat → Nat) (A : Nat → Prop) (h : hG) (a : Nat) : Met l yX10_init (ws_ yX10_init cX10_init 1 none) ({ frames := 1, cells := 0, slots := 0, locals := 20 } : Room) (hw_Pc D kk dE A h [.ref a]) (hw_Qc D A (fun v h2 => v = none ∧ h2 = h)) (0) (0) A := by
  refine hw_of (RX := RX10) (lo := [some (.ref a)]) (by decide) rfl (Nat.le_of_ble_eq_true rfl) rfl (fun E C hin hr hlk hq => ?_)
  refine ga_aload_n 1 C.c 0 rfl rfl dX10_init_0 rfl ?_
  refine hh_obj 4 C q900 q157 q158 (Nat.le_of_ble_eq_true rfl) (Nat.le_of_ble_eq_true rfl) (Nat.le_of_ble_eq_true rfl) dX10_init_1 rfl ?_
  exact hw_vret C hr hlk hq (Nat.le_of_ble_eq_true rfl) (Nat.le_of_ble_eq_true rfl) ⟨rfl, rfl⟩ dX10_init_4
theorem cd_J0_init : yJ0_init.cls ≠ "java/lang/invoke/MethodHandle" ∧ yJ0_init.cls ≠ "java/lang/invoke/VarHandle" ∧ (parseMethodDescriptor yJ0_init.desc).map (fun d => d.parameters.length) = some 0 := by decide +kernel
set_option maxHeartbeats 4000000 in
theorem met_J0_init (l : Launch) (D : va_G) (kk : Nat → Nat) (dE : Nat → Nat) (A : Nat → Prop) (h : hG) (a : Nat) : Met l yJ0_init (ws_ yJ0_init cJ0_init 1 none) ({ frames := 1, cells := 0, slots := 0, locals := 20 } : Room) (hw_Pc D kk dE A h [.ref a]) (hw_Qc D A (fun v h2 => v = none ∧ h2 = h)) (0) (0) A := by
  refine hw_of (RX := RJ0) (lo := [some (.ref a)]) (by decide) rfl (Nat.le_of_ble_eq_true rfl) rfl (fun E C hin hr hlk hq => ?_)
  refine ga_aload_n 1 C.c 0 rfl rfl dJ0_init_0 rfl ?_
  refine hh_obj 4 C q363 q157 q158 (Nat.le_of_ble_eq_true rfl) (Nat.le_of_ble_eq_true rfl) (Nat.le_of_ble_eq_true rfl) dJ0_init_1 rfl ?_
  exact hw_vret C hr hlk hq (Nat.le_of_ble_eq_true rfl) (Nat.le_of_ble_eq_true rfl) ⟨rfl, rfl⟩ dJ0_init_4
theorem cd_J1_init : yJ1_init.cls ≠ "java/lang/invoke/MethodHandle" ∧ yJ1_init.cls ≠ "java/lang/invoke/VarHandle" ∧ (parseMethodDescriptor yJ1_init.desc).map (fun d => d.parameters.length) = some 0 := by decide +kernel
set_option maxHeartbeats 4000000 in
theorem met_J1_init (l : Launch) (D : va_G) (kk : Nat → Nat) (dE : Nat → Nat) (A : Nat → Prop) (h : hG) (a : Nat) (m0 : Int32) (v1 v2 : Value) (g_a : h a = some (.inr (13, [.int m0, v1, v2]))) : Met l yJ1_init (ws_ yJ1_init cJ1_init 1 none) ({ frames := 2, cells := 0, slots := 0, locals := 60 } : Room) (hw_Pc D kk dE A h [.ref a]) (hw_Qc D A (fun v h2 => v = none ∧ h2 a = some (.inr (13, [.int 0, v1, v2])) ∧ hfr h h2 [a])) (0) (0) A := by
  refine hw_of (RX := RJ1) (lo := [some (.ref a)]) (by decide) rfl (Nat.le_of_ble_eq_true rfl) rfl (fun E C hin hr hlk hq => ?_)
  refine ga_aload_n 1 C.c 0 rfl rfl dJ1_init_0 rfl ?_
  refine hh_callI 4 C (as := []) (met_J0_init (eL E) D kk dE A _ a) q360 q361 q96 q362 rfl cd_J0_init rfl (Nat.le_of_ble_eq_true rfl) (Nat.le_of_ble_eq_true rfl) (Nat.le_of_ble_eq_true rfl) (Nat.le_of_ble_eq_true rfl) (Nat.le_of_ble_eq_true rfl) dJ1_init_1 rfl (fun v2 h1 p3 => ?_)
  obtain ⟨rfl, e4⟩ := p3
  have e4 := e4.symm
  subst e4
  refine ga_aload_n 5 C.c 0 rfl rfl dJ1_init_4 rfl ?_
  refine ga_iconst 6 C.c (v := 0) (by decide) dJ1_init_5 rfl ?_
  refine hh_put 9 0 C (ref := "java/util/AbstractList") (fs2 := [.int 0, v1, v2]) tyJ2_ok nmJ2 in_J2 g_a rfl (by decide) q372 (fun _ h9 => h9) rfl (tyJ2_ok 0 (by decide)) rfl rfl (Nat.le_of_ble_eq_true rfl) rfl dJ1_init_6 rfl (fun h5 e6 => ?_)
  have k7 := hu_fr e6
  have g8 := hu_at e6
  clear e6
  have kF9 : hfr h h5 [a] := by
    intro b e nb hb
    have b10 := k7 b e (nm1 (nx nb (by simp))) hb
    exact b10
  exact hw_vret C hr hlk hq (Nat.le_of_ble_eq_true rfl) (Nat.le_of_ble_eq_true rfl) ⟨rfl, g8, kF9⟩ dJ1_init_9
theorem cd_J2_init : yJ2_init.cls ≠ "java/lang/invoke/MethodHandle" ∧ yJ2_init.cls ≠ "java/lang/invoke/VarHandle" ∧ (parseMethodDescriptor yJ2_init.desc).map (fun d => d.parameters.length) = some 1 := by decide +kernel
set_option maxHeartbeats 4000000 in
theorem met_J2_init (l : Launch) (D : va_G) (kk : Nat → Nat) (dE : Nat → Nat) (A : Nat → Prop) (h : hG) (a : Nat) (n : Int32) (N : Nat) (hn1 : ¬ n ≤ 0) (hn2 : ¬ n < 0) (hN : n.toNatClampNeg = N) (hb : N * 4 ≤ 536870912) (g_a : h a = some (.inr (13, [.int 0, .null, .int 0]))) : Met l yJ2_init (ws_ yJ2_init cJ2_init 2 none) ({ frames := 3, cells := 1, slots := N, locals := 100 } : Room) (hw_Pc D kk dE A h [.ref a, .int n]) (hw_Qc D A (fun v h2 => v = none ∧ ∃ d, h d = none ∧ h2 a = some (.inr (13, [.int 0, .ref d, .int 0])) ∧ h2 d = some (.inl (kk 5, N, .inr (.inr (.inr (.inr (fun _ => none)))))) ∧ hfr h h2 [a])) (1) (N) A := by
  refine hw_of (RX := RJ2) (lo := [some (.ref a), some (.int n)]) (by decide) rfl (Nat.le_of_ble_eq_true rfl) rfl (fun E C hin hr hlk hq => ?_)
  refine ga_aload_n 1 C.c 0 rfl rfl dJ2_init_0 rfl ?_
  refine hh_callI 4 C (as := []) (met_J1_init (eL E) D kk dE A _ a 0 .null (.int 0) g_a) q357 q358 q97 q359 rfl cd_J1_init rfl (Nat.le_of_ble_eq_true rfl) (Nat.le_of_ble_eq_true rfl) (by omega) (by omega) (Nat.le_of_ble_eq_true rfl) dJ2_init_1 rfl (fun v12 h11 p13 => ?_)
  obtain ⟨rfl, gah11, kah11⟩ := p13
  refine ga_iload_n 5 C.c 1 rfl rfl dJ2_init_4 rfl ?_
  refine ga_if_le 19 8 C.c dJ2_init_5 (by decide) rfl (fun c14 => absurd c14 hn1) (fun c14 => ?_)
  refine ga_aload_n 9 C.c 0 rfl rfl dJ2_init_8 rfl ?_
  refine ga_iload_n 10 C.c 1 rfl rfl dJ2_init_9 rfl ?_
  refine hh_newq 13 5 C (N' := N) q364 C.o.1 rfl hn2 hN hb (by omega) (by omega) dJ2_init_10 rfl (fun o15 h16 n18 a19 e17 => ?_)
  have k20 := hu_fr0 e17 n18
  have g21 := hu_at e17
  clear e17
  have ne22 : a ≠ o15 := hn_ne gah11 n18
  have g23 := k20 _ _ List.not_mem_nil gah11
  refine hh_put 16 1 C (ref := "java/util/ArrayList") (fs2 := [.int 0, .ref o15, .int 0]) tyJ2_ok nmJ2 in_J2 g23 rfl (by decide) q368 (fun _ h9 => h9) rfl (tyJ2_ok 1 (by decide)) rfl rfl (Nat.le_of_ble_eq_true rfl) rfl dJ2_init_13 rfl (fun h24 e25 => ?_)
  have k26 := hu_fr e25
  have g27 := hu_at e25
  clear e25
  have g28 := k26 _ _ (nm1 (Ne.symm ne22)) g21
  refine ga_goto 60 C.c dJ2_init_16 (by decide) ?_
  have nd29 : h o15 = none := by
    cases c9 : h o15 with
    | none => rfl
    | some e9 =>
      have b30 := kah11 o15 e9 (nm1 (Ne.symm ne22)) c9
      rw [n18] at b30
      cases b30
  have kF31 : hfr h h24 [a] := by
    intro b e nb hb
    have b32 := kah11 b e (nm1 (nx nb (by simp))) hb
    have m_o15 : b ≠ o15 := hn_ne b32 n18
    have b33 := k20 b e List.not_mem_nil b32
    have b34 := k26 b e (nm1 (nx nb (by simp))) b33
    exact b34
  exact hw_vret C hr hlk hq (by omega) (by omega) ⟨rfl, o15, nd29, g27, g28, kF31⟩ dJ2_init_60
theorem cd_J2_init_2 : yJ2_init_2.cls ≠ "java/lang/invoke/MethodHandle" ∧ yJ2_init_2.cls ≠ "java/lang/invoke/VarHandle" ∧ (parseMethodDescriptor yJ2_init_2.desc).map (fun d => d.parameters.length) = some 0 := by decide +kernel
set_option maxHeartbeats 4000000 in
theorem met_J2_init_2 (l : Launch) (D : va_G) (kk : Nat → Nat) (dE : Nat → Nat) (A : Nat → Prop) (h : hG) (a : Nat) (g_a : h a = some (.inr (13, [.int 0, .null, .int 0]))) : Met l yJ2_init_2 (ws_ yJ2_init_2 cJ2_init_2 1 none) ({ frames := 3, cells := 0, slots := 0, locals := 100 } : Room) (hw_Pc D kk dE A h [.ref a]) (hw_Qc D A (fun v h2 => v = none ∧ h2 a = some (.inr (13, [.int 0, .ref (dE 0), .int 0])) ∧ hfr h h2 [a])) (0) (0) A := by
  refine hw_of (RX := RJ2) (lo := [some (.ref a)]) (by decide) rfl (Nat.le_of_ble_eq_true rfl) rfl (fun E C hin hr hlk hq => ?_)
  refine ga_aload_n 1 C.c 0 rfl rfl dJ2_init_2_0 rfl ?_
  refine hh_callI 4 C (as := []) (met_J1_init (eL E) D kk dE A _ a 0 .null (.int 0) g_a) q357 q358 q97 q359 rfl cd_J1_init rfl (Nat.le_of_ble_eq_true rfl) (Nat.le_of_ble_eq_true rfl) (Nat.le_of_ble_eq_true rfl) (Nat.le_of_ble_eq_true rfl) (Nat.le_of_ble_eq_true rfl) dJ2_init_2_1 rfl (fun v36 h35 p37 => ?_)
  obtain ⟨rfl, gah35, kah35⟩ := p37
  refine ga_aload_n 5 C.c 0 rfl rfl dJ2_init_2_4 rfl ?_
  refine ga_gets 8 C.c hw_S C.z C.ow (C.ts _ q386) (fun _ h9 => h9) dJ2_init_2_5 rfl ?_
  refine hh_put 11 1 C (ref := "java/util/ArrayList") (fs2 := [.int 0, .ref (dE 0), .int 0]) tyJ2_ok nmJ2 in_J2 gah35 rfl (by decide) q368 (fun _ h9 => h9) rfl (tyJ2_ok 1 (by decide)) rfl rfl (Nat.le_of_ble_eq_true rfl) rfl dJ2_init_2_8 rfl (fun h38 e39 => ?_)
  have k40 := hu_fr e39
  have g41 := hu_at e39
  clear e39
  have kF42 : hfr h h38 [a] := by
    intro b e nb hb
    have b43 := kah35 b e (nm1 (nx nb (by simp))) hb
    have b44 := k40 b e (nm1 (nx nb (by simp))) b43
    exact b44
  exact hw_vret C hr hlk hq (Nat.le_of_ble_eq_true rfl) (Nat.le_of_ble_eq_true rfl) ⟨rfl, g41, kF42⟩ dJ2_init_2_11
theorem cd_J13_init : yJ13_init.cls ≠ "java/lang/invoke/MethodHandle" ∧ yJ13_init.cls ≠ "java/lang/invoke/VarHandle" ∧ (parseMethodDescriptor yJ13_init.desc).map (fun d => d.parameters.length) = some 1 := by decide +kernel
set_option maxHeartbeats 4000000 in
theorem met_J13_init (l : Launch) (D : va_G) (kk : Nat → Nat) (dE : Nat → Nat) (A : Nat → Prop) (h : hG) (q a d : Nat) (m n : Int32) (g_q : h q = some (.inr (14, [.int 0, .int 0, .int 0, .null]))) (g_a : h a = some (.inr (13, [.int m, .ref d, .int n]))) : Met l yJ13_init (ws_ yJ13_init cJ13_init 2 none) ({ frames := 1, cells := 0, slots := 0, locals := 20 } : Room) (hw_Pc D kk dE A h [.ref q, .ref a]) (hw_Qc D A (fun v h2 => v = none ∧ h2 q = some (.inr (14, [.int 0, .int (-1), .int m, .ref a])) ∧ hfr h h2 [q])) (0) (0) A := by
  refine hw_of (RX := RJ13) (lo := [some (.ref q), some (.ref a)]) (by decide) rfl (Nat.le_of_ble_eq_true rfl) rfl (fun E C hin hr hlk hq => ?_)
  have ne45 : q ≠ a := hne g_q g_a (by simp)
  refine ga_aload_n 1 C.c 0 rfl rfl dJ13_init_0 rfl ?_
  refine ga_aload_n 2 C.c 1 rfl rfl dJ13_init_1 rfl ?_
  refine hh_putF 5 3 C hin (ref := "java/util/ArrayList$Itr") (fs2 := [.int 0, .int 0, .int 0, .ref a]) tyJ13_ok nmJ13 in_J13 g_q rfl (by decide) q964 (fun _ h9 => h9) rfl rfl (tyJ13_ok 3 (by decide)) rfl rfl (Nat.le_of_ble_eq_true rfl) rfl dJ13_init_2 rfl (fun h46 e47 => ?_)
  have k48 := hu_fr e47
  have g49 := hu_at e47
  clear e47
  have g50 := k48 _ _ (nm1 (Ne.symm ne45)) g_a
  refine ga_aload_n 6 C.c 0 rfl rfl dJ13_init_5 rfl ?_
  refine hh_obj 9 C q960 q157 q158 (Nat.le_of_ble_eq_true rfl) (Nat.le_of_ble_eq_true rfl) (Nat.le_of_ble_eq_true rfl) dJ13_init_6 rfl ?_
  refine ga_aload_n 10 C.c 0 rfl rfl dJ13_init_9 rfl ?_
  refine ga_iconst 11 C.c (v := (-1)) (by decide) dJ13_init_10 rfl ?_
  refine hh_put 14 1 C (ref := "java/util/ArrayList$Itr") (fs2 := [.int 0, .int (-1), .int 0, .ref a]) tyJ13_ok nmJ13 in_J13 g49 rfl (by decide) q962 (fun _ h9 => h9) rfl (tyJ13_ok 1 (by decide)) rfl rfl (Nat.le_of_ble_eq_true rfl) rfl dJ13_init_11 rfl (fun h51 e52 => ?_)
  have k53 := hu_fr e52
  have g54 := hu_at e52
  clear e52
  have g55 := k53 _ _ (nm1 (Ne.symm ne45)) g50
  refine ga_aload_n 15 C.c 0 rfl rfl dJ13_init_14 rfl ?_
  refine ga_aload_n 16 C.c 0 rfl rfl dJ13_init_15 rfl ?_
  refine ga_get1 19 3 C.c C.ts (own := RJ13) (ref := "java/util/ArrayList$Itr") C.ow C.k (hw_one g54) in_J13 rfl (by decide) q964 (fun _ h9 => h9) rfl dJ13_init_16 rfl ?_
  refine ga_get1 22 0 C.c C.ts (own := RJ13) (ref := "java/util/ArrayList") C.ow C.k (hw_one g55) in_J2 rfl (by decide) q373 (fun x9 h9 => u_same (C.ts _ q374) x9 h9) rfl dJ13_init_19 rfl ?_
  refine hh_put 25 2 C (ref := "java/util/ArrayList$Itr") (fs2 := [.int 0, .int (-1), .int m, .ref a]) tyJ13_ok nmJ13 in_J13 g54 rfl (by decide) q963 (fun _ h9 => h9) rfl (tyJ13_ok 2 (by decide)) rfl rfl (Nat.le_of_ble_eq_true rfl) rfl dJ13_init_22 rfl (fun h56 e57 => ?_)
  have k58 := hu_fr e57
  have g59 := hu_at e57
  clear e57
  have g60 := k58 _ _ (nm1 (Ne.symm ne45)) g55
  have kF61 : hfr h h56 [q] := by
    intro b e nb hb
    have b62 := k48 b e (nm1 (nx nb (by simp))) hb
    have b63 := k53 b e (nm1 (nx nb (by simp))) b62
    have b64 := k58 b e (nm1 (nx nb (by simp))) b63
    exact b64
  exact hw_vret C hr hlk hq (Nat.le_of_ble_eq_true rfl) (Nat.le_of_ble_eq_true rfl) ⟨rfl, g59, kF61⟩ dJ13_init_25
theorem cd_J2_iterator : yJ2_iterator.cls = RJ2 ∧ yJ2_iterator.cls ≠ "java/lang/invoke/MethodHandle" ∧ yJ2_iterator.cls ≠ "java/lang/invoke/VarHandle" ∧ (parseMethodDescriptor yJ2_iterator.desc).map (fun d => d.parameters.length) = some 0 := by decide +kernel
set_option maxHeartbeats 4000000 in
theorem met_J2_iterator (l : Launch) (D : va_G) (kk : Nat → Nat) (dE : Nat → Nat) (A : Nat → Prop) (h : hG) (a d : Nat) (m n : Int32) (g_a : h a = some (.inr (13, [.int m, .ref d, .int n]))) : Met l yJ2_iterator (ws_ yJ2_iterator cJ2_iterator 1 (some (.object "java/util/Iterator"))) ({ frames := 2, cells := 1, slots := 4, locals := 60 } : Room) (hw_Pc D kk dE A h [.ref a]) (hw_Qc D A (fun v h2 => ∃ q, h q = none ∧ v = some (.ref q) ∧ h2 q = some (.inr (14, [.int 0, .int (-1), .int m, .ref a])) ∧ hfr h h2 [])) (1) (4) A := by
  refine hw_of (RX := RJ2) (lo := [some (.ref a)]) (by decide) rfl (Nat.le_of_ble_eq_true rfl) rfl (fun E C hin hr hlk hq => ?_)
  refine hh_new 3 C (ci := 14) (fs := [.int 0, .int 0, .int 0, .null]) tyJ13 tyJ13_ok in_J13 q955 q956 q119 rfl (fun j hj => by rcases (show j = 0 ∨ j = 1 ∨ j = 2 ∨ j = 3 by omega) with rfl | rfl | rfl | rfl <;> rfl) (Nat.le_of_ble_eq_true rfl) (Nat.le_of_ble_eq_true rfl) dJ2_iterator_0 rfl (fun o65 h66 n68 a69 e67 => ?_)
  have k70 := hu_fr0 e67 n68
  have g71 := hu_at e67
  clear e67
  have ne72 : a ≠ o65 := hn_ne g_a n68
  have g73 := k70 _ _ List.not_mem_nil g_a
  refine ga_dup 4 C.c rfl dJ2_iterator_3 rfl ?_
  refine ga_aload_n 5 C.c 0 rfl rfl dJ2_iterator_4 rfl ?_
  refine hh_callI 8 C (as := [.ref a]) (met_J13_init (eL E) D kk dE A _ o65 a d m n g71 g73) q957 q958 q119 q959 rfl cd_J13_init rfl (Nat.le_of_ble_eq_true rfl) (Nat.le_of_ble_eq_true rfl) (Nat.le_of_ble_eq_true rfl) (Nat.le_of_ble_eq_true rfl) (Nat.le_of_ble_eq_true rfl) dJ2_iterator_5 rfl (fun v75 h74 p76 => ?_)
  obtain ⟨rfl, gah74, kah74⟩ := p76
  have g77 := kah74 _ _ (nm1 ne72) g73
  have nd78 : h o65 = none := by
    cases c9 : h o65 with
    | none => rfl
    | some e9 =>
      rw [n68] at c9
      cases c9
  have kF79 : hfr h h74 [] := by
    intro b e nb hb
    have m_o65 : b ≠ o65 := hn_ne hb n68
    have b80 := k70 b e List.not_mem_nil hb
    have b81 := kah74 b e (nm1 m_o65) b80
    exact b81
  exact hw_aret C hr (Or.inl ⟨_, rfl⟩) (Or.inr ⟨_, rfl⟩) hlk hq (Nat.le_of_ble_eq_true rfl) (Nat.le_of_ble_eq_true rfl) ⟨o65, nd78, rfl, gah74, kF79⟩ dJ2_iterator_8
theorem cd_J13_hasNext : yJ13_hasNext.cls = RJ13 ∧ yJ13_hasNext.cls ≠ "java/lang/invoke/MethodHandle" ∧ yJ13_hasNext.cls ≠ "java/lang/invoke/VarHandle" ∧ (parseMethodDescriptor yJ13_hasNext.desc).map (fun d => d.parameters.length) = some 0 := by decide +kernel
set_option maxHeartbeats 4000000 in
theorem met_J13_hasNext (l : Launch) (D : va_G) (kk : Nat → Nat) (dE : Nat → Nat) (A : Nat → Prop) (h : hG) (q a d : Nat) (i lr em m n : Int32) (g_q : h q = some (.inr (14, [.int i, .int lr, .int em, .ref a]))) (g_a : h a = some (.inr (13, [.int m, .ref d, .int n]))) : Met l yJ13_hasNext (ws_ yJ13_hasNext cJ13_hasNext 1 (some .boolean)) ({ frames := 0, cells := 0, slots := 0, locals := 0 } : Room) (hw_Pc D kk dE A h [.ref q]) (hw_Qc D A (fun v h2 => v = some (.int (if i = n then 0 else 1)) ∧ h2 = h)) (0) (0) A := by
  refine hw_of (RX := RJ13) (lo := [some (.ref q)]) (by decide) rfl (Nat.le_of_ble_eq_true rfl) rfl (fun E C hin hr hlk hq => ?_)
  have ne82 : q ≠ a := hne g_q g_a (by simp)
  refine ga_aload_n 1 C.c 0 rfl rfl dJ13_hasNext_0 rfl ?_
  refine ga_get1 4 0 C.c C.ts (own := RJ13) (ref := "java/util/ArrayList$Itr") C.ow C.k (hw_one g_q) in_J13 rfl (by decide) q961 (fun _ h9 => h9) rfl dJ13_hasNext_1 rfl ?_
  refine ga_aload_n 5 C.c 0 rfl rfl dJ13_hasNext_4 rfl ?_
  refine ga_get1 8 3 C.c C.ts (own := RJ13) (ref := "java/util/ArrayList$Itr") C.ow C.k (hw_one g_q) in_J13 rfl (by decide) q964 (fun _ h9 => h9) rfl dJ13_hasNext_5 rfl ?_
  refine ga_get1N 11 2 C.c C.ts (own := RJ13) (ref := "java/util/ArrayList") C.ow C.k (hw_one g_a) in_J2 rfl (by decide) (C.n.use q370 rfl) (fun _ h9 => h9) rfl dJ13_hasNext_8 rfl ?_
  refine ga_icmp_eq 18 14 C.c dJ13_hasNext_11 (by decide) rfl (fun c83 => ?_) (fun c83 => ?_)
  · refine ga_iconst 19 C.c (v := 0) (by decide) dJ13_hasNext_18 rfl ?_
    exact hw_iret C hr hlk hq rfl (Nat.le_of_ble_eq_true rfl) (Nat.le_of_ble_eq_true rfl) ⟨by rw [if_pos c83]; rfl, rfl⟩ dJ13_hasNext_19
  · refine ga_iconst 15 C.c (v := 1) (by decide) dJ13_hasNext_14 rfl ?_
    refine ga_goto 19 C.c dJ13_hasNext_15 (by decide) ?_
    exact hw_iret C hr hlk hq rfl (Nat.le_of_ble_eq_true rfl) (Nat.le_of_ble_eq_true rfl) ⟨by rw [if_neg c83]; rfl, rfl⟩ dJ13_hasNext_19
theorem cd_J13_checkForComodification : yJ13_checkForComodification.cls = RJ13 ∧ yJ13_checkForComodification.cls ≠ "java/lang/invoke/MethodHandle" ∧ yJ13_checkForComodification.cls ≠ "java/lang/invoke/VarHandle" ∧ (parseMethodDescriptor yJ13_checkForComodification.desc).map (fun d => d.parameters.length) = some 0 := by decide +kernel
set_option maxHeartbeats 4000000 in
theorem met_J13_checkForComodification (l : Launch) (D : va_G) (kk : Nat → Nat) (dE : Nat → Nat) (A : Nat → Prop) (h : hG) (q a d : Nat) (i lr m n : Int32) (g_q : h q = some (.inr (14, [.int i, .int lr, .int m, .ref a]))) (g_a : h a = some (.inr (13, [.int m, .ref d, .int n]))) : Met l yJ13_checkForComodification (ws_ yJ13_checkForComodification cJ13_checkForComodification 1 none) ({ frames := 0, cells := 0, slots := 0, locals := 0 } : Room) (hw_Pc D kk dE A h [.ref q]) (hw_Qc D A (fun v h2 => v = none ∧ h2 = h)) (0) (0) A := by
  refine hw_of (RX := RJ13) (lo := [some (.ref q)]) (by decide) rfl (Nat.le_of_ble_eq_true rfl) rfl (fun E C hin hr hlk hq => ?_)
  have ne84 : q ≠ a := hne g_q g_a (by simp)
  refine ga_aload_n 1 C.c 0 rfl rfl dJ13_checkForComodification_0 rfl ?_
  refine ga_get1 4 3 C.c C.ts (own := RJ13) (ref := "java/util/ArrayList$Itr") C.ow C.k (hw_one g_q) in_J13 rfl (by decide) q964 (fun _ h9 => h9) rfl dJ13_checkForComodification_1 rfl ?_
  refine ga_get1 7 0 C.c C.ts (own := RJ13) (ref := "java/util/ArrayList") C.ow C.k (hw_one g_a) in_J2 rfl (by decide) q373 (fun x9 h9 => u_same (C.ts _ q374) x9 h9) rfl dJ13_checkForComodification_4 rfl ?_
  refine ga_aload_n 8 C.c 0 rfl rfl dJ13_checkForComodification_7 rfl ?_
  refine ga_get1 11 2 C.c C.ts (own := RJ13) (ref := "java/util/ArrayList$Itr") C.ow C.k (hw_one g_q) in_J13 rfl (by decide) q963 (fun _ h9 => h9) rfl dJ13_checkForComodification_8 rfl ?_
  refine ga_icmp_eq 22 14 C.c dJ13_checkForComodification_11 (by decide) rfl (fun c85 => ?_) (fun c85 => absurd rfl c85)
  exact hw_vret C hr hlk hq (Nat.le_of_ble_eq_true rfl) (Nat.le_of_ble_eq_true rfl) ⟨rfl, rfl⟩ dJ13_checkForComodification_22
theorem cd_J13_next : yJ13_next.cls = RJ13 ∧ yJ13_next.cls ≠ "java/lang/invoke/MethodHandle" ∧ yJ13_next.cls ≠ "java/lang/invoke/VarHandle" ∧ (parseMethodDescriptor yJ13_next.desc).map (fun d => d.parameters.length) = some 0 := by decide +kernel
set_option maxHeartbeats 4000000 in
theorem met_J13_next (l : Launch) (D : va_G) (kk : Nat → Nat) (dE : Nat → Nat) (A : Nat → Prop) (h : hG) (q a d cap y : Nat) (f : Nat → Option Nat) (i lr m n : Int32) (hi : i < n) (hcap : i < Int32.ofNat cap) (hv : vp_in i cap) (hy : va_rf (f i.toNatClampNeg) = .ref y) (g_q : h q = some (.inr (14, [.int i, .int lr, .int m, .ref a]))) (g_a : h a = some (.inr (13, [.int m, .ref d, .int n]))) (g_d : h d = some (.inl (kk 5, cap, .inr (.inr (.inr (.inr f)))))) : Met l yJ13_next (ws_ yJ13_next cJ13_next 3 (some (.object "java/lang/Object"))) ({ frames := 1, cells := 0, slots := 0, locals := 40 } : Room) (hw_Pc D kk dE A h [.ref q]) (hw_Qc D A (fun v h2 => v = some (.ref y) ∧ h2 q = some (.inr (14, [.int (i + 1), .int i, .int m, .ref a])) ∧ hfr h h2 [q])) (0) (0) A := by
  refine hw_of (RX := RJ13) (lo := [some (.ref q), none, none]) (by decide) rfl (Nat.le_of_ble_eq_true rfl) rfl (fun E C hin hr hlk hq => ?_)
  have ne86 : q ≠ a := hne g_q g_a (by simp)
  have ne87 : q ≠ d := hne g_q g_d (by simp)
  have ne88 : a ≠ d := hne g_a g_d (by simp)
  refine ga_aload_n 1 C.c 0 rfl rfl dJ13_next_0 rfl ?_
  refine hh_callV 4 C (as := []) (met_J13_checkForComodification (eL E) D kk dE A _ q a d i lr m n g_q g_a) g_q (T := TJ13) rfl (lw_V q993 q994 q995 q119 q996) cd_J13_checkForComodification rfl (Nat.le_of_ble_eq_true rfl) (Nat.le_of_ble_eq_true rfl) (Nat.le_of_ble_eq_true rfl) (Nat.le_of_ble_eq_true rfl) (Nat.le_of_ble_eq_true rfl) dJ13_next_1 rfl (fun v90 h89 p91 => ?_)
  obtain ⟨rfl, e92⟩ := p91
  have e92 := e92.symm
  subst e92
  refine ga_aload_n 5 C.c 0 rfl rfl dJ13_next_4 rfl ?_
  refine ga_get1 8 0 C.c C.ts (own := RJ13) (ref := "java/util/ArrayList$Itr") C.ow C.k (hw_one g_q) in_J13 rfl (by decide) q961 (fun _ h9 => h9) rfl dJ13_next_5 rfl ?_
  refine ga_istore_n 9 C.c 1 rfl (Nat.le_of_ble_eq_true rfl) rfl dJ13_next_8 rfl ?_
  refine ga_iload_n 10 C.c 1 rfl rfl dJ13_next_9 rfl ?_
  refine ga_aload_n 11 C.c 0 rfl rfl dJ13_next_10 rfl ?_
  refine ga_get1 14 3 C.c C.ts (own := RJ13) (ref := "java/util/ArrayList$Itr") C.ow C.k (hw_one g_q) in_J13 rfl (by decide) q964 (fun _ h9 => h9) rfl dJ13_next_11 rfl ?_
  refine ga_get1N 17 2 C.c C.ts (own := RJ13) (ref := "java/util/ArrayList") C.ow C.k (hw_one g_a) in_J2 rfl (by decide) (C.n.use q370 rfl) (fun _ h9 => h9) rfl dJ13_next_14 rfl ?_
  refine ga_icmp_lt 28 20 C.c dJ13_next_17 (by decide) rfl (fun c93 => ?_) (fun c93 => absurd hi c93)
  refine ga_aload_n 29 C.c 0 rfl rfl dJ13_next_28 rfl ?_
  refine ga_get1 32 3 C.c C.ts (own := RJ13) (ref := "java/util/ArrayList$Itr") C.ow C.k (hw_one g_q) in_J13 rfl (by decide) q964 (fun _ h9 => h9) rfl dJ13_next_29 rfl ?_
  refine ga_get1 35 1 C.c C.ts (own := RJ13) (ref := "java/util/ArrayList") C.ow C.k (hw_one g_a) in_J2 rfl (by decide) q369 (fun _ h9 => h9) rfl dJ13_next_32 rfl ?_
  refine ga_astore_n 36 C.c 2 rfl (Nat.le_of_ble_eq_true rfl) rfl dJ13_next_35 rfl ?_
  refine ga_iload_n 37 C.c 1 rfl rfl dJ13_next_36 rfl ?_
  refine ga_aload_n 38 C.c 2 rfl rfl dJ13_next_37 rfl ?_
  refine ga_alen1 39 5 C.c C.k (hw_one g_d) rfl dJ13_next_38 rfl ?_
  refine ga_icmp_lt 50 42 C.c dJ13_next_39 (by decide) rfl (fun c94 => ?_) (fun c94 => absurd hcap c94)
  refine ga_aload_n 51 C.c 0 rfl rfl dJ13_next_50 rfl ?_
  refine ga_iload_n 52 C.c 1 rfl rfl dJ13_next_51 rfl ?_
  refine ga_iconst 53 C.c (v := 1) (by decide) dJ13_next_52 rfl ?_
  refine ga_iadd 54 C.c dJ13_next_53 rfl ?_
  refine hh_put 57 0 C (ref := "java/util/ArrayList$Itr") (fs2 := [.int (i + 1), .int lr, .int m, .ref a]) tyJ13_ok nmJ13 in_J13 g_q rfl (by decide) q961 (fun _ h9 => h9) rfl (tyJ13_ok 0 (by decide)) rfl rfl (Nat.le_of_ble_eq_true rfl) rfl dJ13_next_54 rfl (fun h95 e96 => ?_)
  have k97 := hu_fr e96
  have g98 := hu_at e96
  clear e96
  have g99 := k97 _ _ (nm1 (Ne.symm ne86)) g_a
  have g100 := k97 _ _ (nm1 (Ne.symm ne87)) g_d
  refine ga_aload_n 58 C.c 2 rfl rfl dJ13_next_57 rfl ?_
  refine ga_aload_n 59 C.c 0 rfl rfl dJ13_next_58 rfl ?_
  refine ga_iload_n 60 C.c 1 rfl rfl dJ13_next_59 rfl ?_
  refine ga_dup_x1 61 C.c rfl rfl dJ13_next_60 rfl ?_
  refine hh_put 64 1 C (ref := "java/util/ArrayList$Itr") (fs2 := [.int (i + 1), .int i, .int m, .ref a]) tyJ13_ok nmJ13 in_J13 g98 rfl (by decide) q962 (fun _ h9 => h9) rfl (tyJ13_ok 1 (by decide)) rfl rfl (Nat.le_of_ble_eq_true rfl) rfl dJ13_next_61 rfl (fun h101 e102 => ?_)
  have k103 := hu_fr e102
  have g104 := hu_at e102
  clear e102
  have g105 := k103 _ _ (nm1 (Ne.symm ne86)) g99
  have g106 := k103 _ _ (nm1 (Ne.symm ne87)) g100
  refine ga_aldq1 65 5 C.c C.k (hw_one g106) rfl hv hy dJ13_next_64 rfl ?_
  have kF107 : hfr h h101 [q] := by
    intro b e nb hb
    have b108 := k97 b e (nm1 (nx nb (by simp))) hb
    have b109 := k103 b e (nm1 (nx nb (by simp))) b108
    exact b109
  exact hw_aret C hr (Or.inl ⟨_, rfl⟩) (Or.inr ⟨_, rfl⟩) hlk hq (Nat.le_of_ble_eq_true rfl) (Nat.le_of_ble_eq_true rfl) ⟨rfl, g104, kF107⟩ dJ13_next_65
theorem cd_J11_newLength : yJ11_newLength.cls ≠ "java/lang/invoke/MethodHandle" ∧ yJ11_newLength.cls ≠ "java/lang/invoke/VarHandle" ∧ (parseMethodDescriptor yJ11_newLength.desc).map (fun d => d.parameters.length) = some 3 := by decide +kernel
set_option maxHeartbeats 4000000 in
theorem met_J11_newLength (l : Launch) (D : va_G) (kk : Nat → Nat) (dE : Nat → Nat) (A : Nat → Prop) (h : hG) (ol mg pg : Int32) (hp1 : ¬ ol + pu_max mg pg ≤ 0) (hp2 : ¬ 2147483639 < ol + pu_max mg pg) : Met l yJ11_newLength (ws_ yJ11_newLength cJ11_newLength 4 (some .int)) ({ frames := 1, cells := 0, slots := 0, locals := 40 } : Room) (hw_Pc D kk dE A h [.int ol, .int mg, .int pg]) (hw_Qc D A (fun v h2 => v = some (.int (ol + pu_max mg pg)) ∧ h2 = h)) (0) (0) A := by
  refine hw_of (RX := RJ11) (lo := [some (.int ol), some (.int mg), some (.int pg), none]) (by decide) rfl (Nat.le_of_ble_eq_true rfl) rfl (fun E C hin hr hlk hq => ?_)
  refine ga_iload_n 1 C.c 0 rfl rfl dJ11_newLength_0 rfl ?_
  refine ga_iload_n 2 C.c 1 rfl rfl dJ11_newLength_1 rfl ?_
  refine ga_iload_n 3 C.c 2 rfl rfl dJ11_newLength_2 rfl ?_
  refine ga_mmax 6 C.c C.ml C.ow (C.ts _ q849) (C.ts _ q850) (C.ts _ q104) (C.ts _ q851) (by rw [C.rm]; exact (Nat.le_of_ble_eq_true rfl)) (by rw [C.rm]; exact (Nat.le_of_ble_eq_true rfl)) (by rw [C.rm]; exact (Nat.le_of_ble_eq_true rfl)) (by rw [C.rm]; exact (Nat.le_of_ble_eq_true rfl)) dJ11_newLength_3 rfl ?_
  refine ga_iadd 7 C.c dJ11_newLength_6 rfl ?_
  refine ga_istore_n 8 C.c 3 rfl (Nat.le_of_ble_eq_true rfl) rfl dJ11_newLength_7 rfl ?_
  refine ga_iconst 9 C.c (v := 0) (by decide) dJ11_newLength_8 rfl ?_
  refine ga_iload_n 10 C.c 3 rfl rfl dJ11_newLength_9 rfl ?_
  refine ga_icmp_ge 21 13 C.c dJ11_newLength_10 (by decide) rfl (fun c110 => absurd c110 hp1) (fun c110 => ?_)
  refine ga_iload_n 14 C.c 3 rfl rfl dJ11_newLength_13 rfl ?_
  refine ga_ldc 16 C.c C.ow (C.ts _ q852) dJ11_newLength_14 rfl ?_
  refine ga_icmp_gt 21 19 C.c dJ11_newLength_16 (by decide) rfl (fun c111 => absurd c111 hp2) (fun c111 => ?_)
  refine ga_iload_n 20 C.c 3 rfl rfl dJ11_newLength_19 rfl ?_
  exact hw_iret C hr hlk hq rfl (Nat.le_of_ble_eq_true rfl) (Nat.le_of_ble_eq_true rfl) ⟨rfl, rfl⟩ dJ11_newLength_20
theorem cd_J12_copyOf_2 : yJ12_copyOf_2.cls ≠ "java/lang/invoke/MethodHandle" ∧ yJ12_copyOf_2.cls ≠ "java/lang/invoke/VarHandle" ∧ (parseMethodDescriptor yJ12_copyOf_2.desc).map (fun d => d.parameters.length) = some 3 := by decide +kernel
set_option maxHeartbeats 4000000 in
theorem met_J12_copyOf_2 (l : Launch) (D : va_G) (kk : Nat → Nat) (dE : Nat → Nat) (A : Nat → Prop) (h : hG) (a cap N K : Nat) (f : Nat → Option Nat) (n : Int32) (hn2 : ¬ n < 0) (hN : n.toNatClampNeg = N) (hb : N * 4 ≤ 536870912) (hk0 : ¬ pu_min (Int32.ofNat cap) n < 0) (hk : (pu_min (Int32.ofNat cap) n).toNatClampNeg = K) (hk1 : K ≤ cap) (hk2 : K ≤ N) (hel0 : ∀ i : Nat, i < K → ∀ y : Nat, f i = some y → hel h y) (g_a : h a = some (.inl (kk 5, cap, .inr (.inr (.inr (.inr f)))))) : Met l yJ12_copyOf_2 (ws_ yJ12_copyOf_2 cJ12_copyOf_2 4 (some (.array (.object "java/lang/Object")))) ({ frames := 1, cells := 1, slots := N, locals := 80 } : Room) (hw_Pc D kk dE A h [.ref a, .int n, .ref (dE 1)]) (hw_Qc D A (fun v h2 => ∃ d, h d = none ∧ v = some (.ref d) ∧ h2 d = some (.inl (kk 5, N, .inr (.inr (.inr (.inr (va_cpy f (fun _ => none) 0 0 K)))))) ∧ hfr h h2 [])) (1) (N) A := by
  refine hw_of (RX := RJ12) (lo := [some (.ref a), some (.int n), some (.ref (dE 1)), none]) (by decide) rfl (Nat.le_of_ble_eq_true rfl) rfl (fun E C hin hr hlk hq => ?_)
  refine ga_aload_n 1 C.c 2 rfl rfl dJ12_copyOf_2_0 rfl ?_
  refine hh_ldcM 3 C q885 dJ12_copyOf_2_1 rfl ?_
  refine ga_acmp_neT 6 C.c dJ12_copyOf_2_3 rfl 13 (by decide) ?_
  refine ga_iload_n 7 C.c 1 rfl rfl dJ12_copyOf_2_6 rfl ?_
  refine hh_newq 10 5 C (N' := N) q886 C.o.1 rfl hn2 hN hb (by omega) (by omega) dJ12_copyOf_2_7 rfl (fun o112 h113 n115 a116 e114 => ?_)
  have k117 := hu_fr0 e114 n115
  have g118 := hu_at e114
  clear e114
  have ne119 : a ≠ o112 := hn_ne g_a n115
  have g120 := k117 _ _ List.not_mem_nil g_a
  refine ga_goto 24 C.c dJ12_copyOf_2_10 (by decide) ?_
  refine ga_astore_n 25 C.c 3 rfl (Nat.le_of_ble_eq_true rfl) rfl dJ12_copyOf_2_24 rfl ?_
  refine ga_aload_n 26 C.c 0 rfl rfl dJ12_copyOf_2_25 rfl ?_
  refine ga_iconst 27 C.c (v := 0) (by decide) dJ12_copyOf_2_26 rfl ?_
  refine ga_aload_n 28 C.c 3 rfl rfl dJ12_copyOf_2_27 rfl ?_
  refine ga_iconst 29 C.c (v := 0) (by decide) dJ12_copyOf_2_28 rfl ?_
  refine ga_aload_n 30 C.c 0 rfl rfl dJ12_copyOf_2_29 rfl ?_
  refine ga_alen1 31 5 C.c C.k (hw_one g120) rfl dJ12_copyOf_2_30 rfl ?_
  refine ga_iload_n 32 C.c 1 rfl rfl dJ12_copyOf_2_31 rfl ?_
  refine ga_mmin 35 C.c C.ml C.ow (C.ts _ q887) (C.ts _ q634) (C.ts _ q104) (C.ts _ q635) (by rw [C.rm]; exact (Nat.le_of_ble_eq_true rfl)) (by rw [C.rm]; exact (Nat.le_of_ble_eq_true rfl)) (by rw [C.rm]; exact (by show 0 + 1 ≤ 1; omega)) (by rw [C.rm]; exact (by show 0 + N ≤ N; omega)) dJ12_copyOf_2_32 rfl ?_
  have hkk : ∀ i : Nat, i < (pu_min (Int32.ofNat cap) n).toNatClampNeg → ∀ y : Nat, f ((0 : Int32).toNatClampNeg + i) = some y → hel h113 y := fun i hi y hy => (hel0 i (by rw [hk] at hi; exact hi) y (by rw [show (0 : Int32).toNatClampNeg = 0 by decide, Nat.zero_add] at hy; exact hy)).kept k117
  refine hh_copyq 38 C q888 g120 g118 (by decide) (by decide) hk0 (by rw [hk]; show 0 + K ≤ cap; omega) (by rw [hk]; show 0 + K ≤ N; omega) hkk (Nat.le_of_ble_eq_true rfl) (Nat.le_of_ble_eq_true rfl) (Nat.le_of_ble_eq_true rfl) dJ12_copyOf_2_35 rfl (fun h121 e122 => ?_)
  have k123 := hu_fr e122
  have g124 := hu_at e122
  clear e122
  have g125 := k123 _ _ (nm1 ne119) g120
  rw [hk] at g124
  refine ga_aload_n 39 C.c 3 rfl rfl dJ12_copyOf_2_38 rfl ?_
  have nd126 : h o112 = none := by
    cases c9 : h o112 with
    | none => rfl
    | some e9 =>
      rw [n115] at c9
      cases c9
  have kF127 : hfr h h121 [] := by
    intro b e nb hb
    have m_o112 : b ≠ o112 := hn_ne hb n115
    have b128 := k117 b e List.not_mem_nil hb
    have b129 := k123 b e (nm1 m_o112) b128
    exact b129
  exact hw_aret C hr (Or.inr ⟨_, rfl⟩) (Or.inr ⟨_, rfl⟩) hlk hq (by omega) (by omega) ⟨o112, nd126, rfl, g124, kF127⟩ dJ12_copyOf_2_39
theorem cd_J12_copyOf : yJ12_copyOf.cls ≠ "java/lang/invoke/MethodHandle" ∧ yJ12_copyOf.cls ≠ "java/lang/invoke/VarHandle" ∧ (parseMethodDescriptor yJ12_copyOf.desc).map (fun d => d.parameters.length) = some 2 := by decide +kernel
set_option maxHeartbeats 4000000 in
theorem met_J12_copyOf (l : Launch) (D : va_G) (kk : Nat → Nat) (dE : Nat → Nat) (A : Nat → Prop) (h : hG) (a cap N K : Nat) (f : Nat → Option Nat) (n : Int32) (hn2 : ¬ n < 0) (hN : n.toNatClampNeg = N) (hb : N * 4 ≤ 536870912) (hk0 : ¬ pu_min (Int32.ofNat cap) n < 0) (hk : (pu_min (Int32.ofNat cap) n).toNatClampNeg = K) (hk1 : K ≤ cap) (hk2 : K ≤ N) (hel0 : ∀ i : Nat, i < K → ∀ y : Nat, f i = some y → hel h y) (g_a : h a = some (.inl (kk 5, cap, .inr (.inr (.inr (.inr f)))))) : Met l yJ12_copyOf (ws_ yJ12_copyOf cJ12_copyOf 2 (some (.array (.object "java/lang/Object")))) ({ frames := 2, cells := 1, slots := N, locals := 140 } : Room) (hw_Pc D kk dE A h [.ref a, .int n]) (hw_Qc D A (fun v h2 => ∃ d, h d = none ∧ v = some (.ref d) ∧ h2 d = some (.inl (kk 5, N, .inr (.inr (.inr (.inr (va_cpy f (fun _ => none) 0 0 K)))))) ∧ hfr h h2 [])) (1) (N) A := by
  refine hw_of (RX := RJ12) (lo := [some (.ref a), some (.int n)]) (by decide) rfl (Nat.le_of_ble_eq_true rfl) rfl (fun E C hin hr hlk hq => ?_)
  refine ga_aload_n 1 C.c 0 rfl rfl dJ12_copyOf_0 rfl ?_
  refine ga_iload_n 2 C.c 1 rfl rfl dJ12_copyOf_1 rfl ?_
  refine ga_aload_n 3 C.c 0 rfl rfl dJ12_copyOf_2 rfl ?_
  refine hh_getC 6 C g_a q859 (Nat.le_of_ble_eq_true rfl) (Nat.le_of_ble_eq_true rfl) (Nat.le_of_ble_eq_true rfl) dJ12_copyOf_3 rfl ?_
  refine hh_callS 9 C (as := [.ref a, .int n, .ref (dE 1)]) (met_J12_copyOf_2 (eL E) D kk dE A _ a cap N K f n hn2 hN hb hk0 hk hk1 hk2 hel0 g_a) (lw_S q882 q883 q115 q884) cd_J12_copyOf_2 rfl (Nat.le_of_ble_eq_true rfl) (Nat.le_of_ble_eq_true rfl) (by omega) (by omega) (Nat.le_of_ble_eq_true rfl) dJ12_copyOf_6 rfl (fun v131 h130 p132 => ?_)
  obtain ⟨d, nd, rfl, gd, kd⟩ := p132
  have ne133 : a ≠ d := hn_ne g_a nd
  have g134 := kd _ _ List.not_mem_nil g_a
  exact hw_aret C hr (Or.inr ⟨_, rfl⟩) (Or.inr ⟨_, rfl⟩) hlk hq (by omega) (by omega) ⟨d, nd, rfl, gd, kd⟩ dJ12_copyOf_9
theorem cd_J2_toArray : yJ2_toArray.cls = RJ2 ∧ yJ2_toArray.cls ≠ "java/lang/invoke/MethodHandle" ∧ yJ2_toArray.cls ≠ "java/lang/invoke/VarHandle" ∧ (parseMethodDescriptor yJ2_toArray.desc).map (fun d => d.parameters.length) = some 0 := by decide +kernel
set_option maxHeartbeats 4000000 in
theorem met_J2_toArray (l : Launch) (D : va_G) (kk : Nat → Nat) (dE : Nat → Nat) (A : Nat → Prop) (h : hG) (a d cap N K : Nat) (f : Nat → Option Nat) (m n : Int32) (hn2 : ¬ n < 0) (hN : n.toNatClampNeg = N) (hb : N * 4 ≤ 536870912) (hk0 : ¬ pu_min (Int32.ofNat cap) n < 0) (hk : (pu_min (Int32.ofNat cap) n).toNatClampNeg = K) (hk1 : K ≤ cap) (hk2 : K ≤ N) (hel0 : ∀ i : Nat, i < K → ∀ y : Nat, f i = some y → hel h y) (g_a : h a = some (.inr (13, [.int m, .ref d, .int n]))) (g_d : h d = some (.inl (kk 5, cap, .inr (.inr (.inr (.inr f)))))) : Met l yJ2_toArray (ws_ yJ2_toArray cJ2_toArray 1 (some (.array (.object "java/lang/Object")))) ({ frames := 3, cells := 1, slots := N, locals := 200 } : Room) (hw_Pc D kk dE A h [.ref a]) (hw_Qc D A (fun v h2 => ∃ x, h x = none ∧ v = some (.ref x) ∧ h2 x = some (.inl (kk 5, N, .inr (.inr (.inr (.inr (va_cpy f (fun _ => none) 0 0 K)))))) ∧ hfr h h2 [])) (1) (N) A := by
  refine hw_of (RX := RJ2) (lo := [some (.ref a)]) (by decide) rfl (Nat.le_of_ble_eq_true rfl) rfl (fun E C hin hr hlk hq => ?_)
  have ne135 : a ≠ d := hne g_a g_d (by simp)
  refine ga_aload_n 1 C.c 0 rfl rfl dJ2_toArray_0 rfl ?_
  refine ga_get1 4 1 C.c C.ts (own := RJ2) (ref := "java/util/ArrayList") C.ow C.k (hw_one g_a) in_J2 rfl (by decide) q368 (fun _ h9 => h9) rfl dJ2_toArray_1 rfl ?_
  refine ga_aload_n 5 C.c 0 rfl rfl dJ2_toArray_4 rfl ?_
  refine ga_get1 8 2 C.c C.ts (own := RJ2) (ref := "java/util/ArrayList") C.ow C.k (hw_one g_a) in_J2 rfl (by decide) q371 (fun _ h9 => h9) rfl dJ2_toArray_5 rfl ?_
  refine hh_callS 11 C (as := [.ref d, .int n]) (met_J12_copyOf (eL E) D kk dE A _ d cap N K f n hn2 hN hb hk0 hk hk1 hk2 hel0 g_d) (lw_S q856 q857 q115 q858) cd_J12_copyOf rfl (Nat.le_of_ble_eq_true rfl) (Nat.le_of_ble_eq_true rfl) (by omega) (by omega) (Nat.le_of_ble_eq_true rfl) dJ2_toArray_8 rfl (fun v137 h136 p138 => ?_)
  obtain ⟨x, nd, rfl, gd, kd⟩ := p138
  have ne139 : a ≠ x := hn_ne g_a nd
  have ne140 : d ≠ x := hn_ne g_d nd
  have g141 := kd _ _ List.not_mem_nil g_a
  have g142 := kd _ _ List.not_mem_nil g_d
  exact hw_aret C hr (Or.inr ⟨_, rfl⟩) (Or.inr ⟨_, rfl⟩) hlk hq (by omega) (by omega) ⟨x, nd, rfl, gd, kd⟩ dJ2_toArray_11
theorem cd_J2_grow_2 : yJ2_grow_2.cls = RJ2 ∧ yJ2_grow_2.cls ≠ "java/lang/invoke/MethodHandle" ∧ yJ2_grow_2.cls ≠ "java/lang/invoke/VarHandle" ∧ (parseMethodDescriptor yJ2_grow_2.desc).map (fun d => d.parameters.length) = some 1 := by decide +kernel
set_option maxHeartbeats 4000000 in
theorem met_J2_grow_2_e (l : Launch) (D : va_G) (kk : Nat → Nat) (dE : Nat → Nat) (A : Nat → Prop) (h : hG) (a : Nat) (m n mc0 : Int32) (f : Nat → Option Nat) (N : Nat) (hn2 : ¬ pu_max 10 mc0 < 0) (hN : (pu_max 10 mc0).toNatClampNeg = N) (hb : N * 4 ≤ 536870912) (g_a : h a = some (.inr (13, [.int m, .ref (dE 0), .int n]))) (g__dE_0_ : h (dE 0) = some (.inl (kk 5, 0, .inr (.inr (.inr (.inr f)))))) : Met l yJ2_grow_2 (ws_ yJ2_grow_2 cJ2_grow_2 4 (some (.array (.object "java/lang/Object")))) ({ frames := 3, cells := 1, slots := N, locals := 200 } : Room) (hw_Pc D kk dE A h [.ref a, .int mc0]) (hw_Qc D A (fun v h2 => ∃ d, h d = none ∧ v = some (.ref d) ∧ h2 a = some (.inr (13, [.int m, .ref d, .int n])) ∧ h2 d = some (.inl (kk 5, N, .inr (.inr (.inr (.inr (fun _ => none)))))) ∧ hfr h h2 [a])) (1) (N) A := by
  refine hw_of (RX := RJ2) (lo := [some (.ref a), some (.int mc0), none, none]) (by decide) rfl (Nat.le_of_ble_eq_true rfl) rfl (fun E C hin hr hlk hq => ?_)
  have ne143 : a ≠ (dE 0) := hne g_a g__dE_0_ (by simp)
  refine ga_aload_n 1 C.c 0 rfl rfl dJ2_grow_2_0 rfl ?_
  refine ga_get1 4 1 C.c C.ts (own := RJ2) (ref := "java/util/ArrayList") C.ow C.k (hw_one g_a) in_J2 rfl (by decide) q368 (fun _ h9 => h9) rfl dJ2_grow_2_1 rfl ?_
  refine ga_alen1 5 5 C.c C.k (hw_one g__dE_0_) rfl dJ2_grow_2_4 rfl ?_
  refine ga_istore_n 6 C.c 2 rfl (Nat.le_of_ble_eq_true rfl) rfl dJ2_grow_2_5 rfl ?_
  refine ga_iload_n 7 C.c 2 rfl rfl dJ2_grow_2_6 rfl ?_
  refine ga_if_gt 20 10 C.c dJ2_grow_2_7 (by decide) rfl (fun c144 => absurd c144 (show ¬ (0 : Int32) < Int32.ofNat 0 by decide)) (fun c144 => ?_)
  refine ga_aload_n 11 C.c 0 rfl rfl dJ2_grow_2_10 rfl ?_
  refine ga_get1 14 1 C.c C.ts (own := RJ2) (ref := "java/util/ArrayList") C.ow C.k (hw_one g_a) in_J2 rfl (by decide) q368 (fun _ h9 => h9) rfl dJ2_grow_2_11 rfl ?_
  refine ga_gets 17 C.c hw_S C.z C.ow (C.ts _ q386) (fun _ h9 => h9) dJ2_grow_2_14 rfl ?_
  refine ga_acmp_eqT 45 C.c dJ2_grow_2_17 (by decide) ?_
  refine ga_aload_n 46 C.c 0 rfl rfl dJ2_grow_2_45 rfl ?_
  refine ga_bipush 48 C.c (v := 10) (by decide) dJ2_grow_2_46 rfl ?_
  refine ga_iload_n 49 C.c 1 rfl rfl dJ2_grow_2_48 rfl ?_
  refine ga_mmax 52 C.c C.ml C.ow (C.ts _ q889) (C.ts _ q850) (C.ts _ q104) (C.ts _ q851) (by rw [C.rm]; exact (Nat.le_of_ble_eq_true rfl)) (by rw [C.rm]; exact (Nat.le_of_ble_eq_true rfl)) (by rw [C.rm]; exact Nat.zero_le _) (by rw [C.rm]; exact Nat.zero_le _) dJ2_grow_2_49 rfl ?_
  refine hh_newq 55 5 C (N' := N) q364 C.o.1 rfl hn2 hN hb (by omega) (by omega) dJ2_grow_2_52 rfl (fun o145 h146 n148 a149 e147 => ?_)
  have k150 := hu_fr0 e147 n148
  have g151 := hu_at e147
  clear e147
  have ne152 : a ≠ o145 := hn_ne g_a n148
  have ne153 : (dE 0) ≠ o145 := hn_ne g__dE_0_ n148
  have g154 := k150 _ _ List.not_mem_nil g_a
  have g155 := k150 _ _ List.not_mem_nil g__dE_0_
  refine ga_dup_x1 56 C.c rfl rfl dJ2_grow_2_55 rfl ?_
  refine hh_put 59 1 C (ref := "java/util/ArrayList") (fs2 := [.int m, .ref o145, .int n]) tyJ2_ok nmJ2 in_J2 g154 rfl (by decide) q368 (fun _ h9 => h9) rfl (tyJ2_ok 1 (by decide)) rfl rfl (Nat.le_of_ble_eq_true rfl) rfl dJ2_grow_2_56 rfl (fun h156 e157 => ?_)
  have k158 := hu_fr e157
  have g159 := hu_at e157
  clear e157
  have g160 := k158 _ _ (nm1 (Ne.symm ne143)) g155
  have g161 := k158 _ _ (nm1 (Ne.symm ne152)) g151
  have nd162 : h o145 = none := by
    cases c9 : h o145 with
    | none => rfl
    | some e9 =>
      rw [n148] at c9
      cases c9
  have kF163 : hfr h h156 [a] := by
    intro b e nb hb
    have m_o145 : b ≠ o145 := hn_ne hb n148
    have b164 := k150 b e List.not_mem_nil hb
    have b165 := k158 b e (nm1 (nx nb (by simp))) b164
    exact b165
  exact hw_aret C hr (Or.inr ⟨_, rfl⟩) (Or.inr ⟨_, rfl⟩) hlk hq (by omega) (by omega) ⟨o145, nd162, rfl, g159, g161, kF163⟩ dJ2_grow_2_59
set_option maxHeartbeats 4000000 in
theorem met_J2_grow_2_f (l : Launch) (D : va_G) (kk : Nat → Nat) (dE : Nat → Nat) (A : Nat → Prop) (h : hG) (a d cap N : Nat) (f : Nat → Option Nat) (m n mc0 nl : Int32) (hg0 : 0 < Int32.ofNat cap) (hnl : Int32.ofNat cap + pu_max (mc0 - Int32.ofNat cap) (Int32.ofNat cap >>> ((1 : Int32) &&& 31)) = nl) (hp1 : ¬ Int32.ofNat cap + pu_max (mc0 - Int32.ofNat cap) (Int32.ofNat cap >>> ((1 : Int32) &&& 31)) ≤ 0) (hp2 : ¬ 2147483639 < Int32.ofNat cap + pu_max (mc0 - Int32.ofNat cap) (Int32.ofNat cap >>> ((1 : Int32) &&& 31))) (hn2 : ¬ nl < 0) (hN : nl.toNatClampNeg = N) (hb : N * 4 ≤ 536870912) (hk0 : ¬ pu_min (Int32.ofNat cap) nl < 0) (hk : (pu_min (Int32.ofNat cap) nl).toNatClampNeg = cap) (hk2 : cap ≤ N) (hel0 : ∀ i : Nat, i < cap → ∀ y : Nat, f i = some y → hel h y) (g_a : h a = some (.inr (13, [.int m, .ref d, .int n]))) (g_d : h d = some (.inl (kk 5, cap, .inr (.inr (.inr (.inr f)))))) : Met l yJ2_grow_2 (ws_ yJ2_grow_2 cJ2_grow_2 4 (some (.array (.object "java/lang/Object")))) ({ frames := 3, cells := 1, slots := N, locals := 220 } : Room) (hw_Pc D kk dE A h [.ref a, .int mc0]) (hw_Qc D A (fun v h2 => ∃ x, h x = none ∧ v = some (.ref x) ∧ h2 a = some (.inr (13, [.int m, .ref x, .int n])) ∧ h2 x = some (.inl (kk 5, N, .inr (.inr (.inr (.inr (va_cpy f (fun _ => none) 0 0 cap)))))) ∧ hfr h h2 [a])) (1) (N) A := by
  refine hw_of (RX := RJ2) (lo := [some (.ref a), some (.int mc0), none, none]) (by decide) rfl (Nat.le_of_ble_eq_true rfl) rfl (fun E C hin hr hlk hq => ?_)
  have ne166 : a ≠ d := hne g_a g_d (by simp)
  refine ga_aload_n 1 C.c 0 rfl rfl dJ2_grow_2_0 rfl ?_
  refine ga_get1 4 1 C.c C.ts (own := RJ2) (ref := "java/util/ArrayList") C.ow C.k (hw_one g_a) in_J2 rfl (by decide) q368 (fun _ h9 => h9) rfl dJ2_grow_2_1 rfl ?_
  refine ga_alen1 5 5 C.c C.k (hw_one g_d) rfl dJ2_grow_2_4 rfl ?_
  refine ga_istore_n 6 C.c 2 rfl (Nat.le_of_ble_eq_true rfl) rfl dJ2_grow_2_5 rfl ?_
  refine ga_iload_n 7 C.c 2 rfl rfl dJ2_grow_2_6 rfl ?_
  refine ga_if_gt 20 10 C.c dJ2_grow_2_7 (by decide) rfl (fun c167 => ?_) (fun c167 => absurd hg0 c167)
  refine ga_iload_n 21 C.c 2 rfl rfl dJ2_grow_2_20 rfl ?_
  refine ga_iload_n 22 C.c 1 rfl rfl dJ2_grow_2_21 rfl ?_
  refine ga_iload_n 23 C.c 2 rfl rfl dJ2_grow_2_22 rfl ?_
  refine ga_isub 24 C.c dJ2_grow_2_23 rfl ?_
  refine ga_iload_n 25 C.c 2 rfl rfl dJ2_grow_2_24 rfl ?_
  refine ga_iconst 26 C.c (v := 1) (by decide) dJ2_grow_2_25 rfl ?_
  refine ga_ishr 27 C.c dJ2_grow_2_26 rfl ?_
  refine hh_callS 30 C (as := [.int (Int32.ofNat cap), .int (mc0 - (Int32.ofNat cap)), .int ((Int32.ofNat cap) >>> (1 &&& 31))]) (met_J11_newLength (eL E) D kk dE A _ _ _ _ hp1 hp2) (lw_S q846 q847 q114 q848) cd_J11_newLength rfl (Nat.le_of_ble_eq_true rfl) (Nat.le_of_ble_eq_true rfl) (by omega) (by omega) (Nat.le_of_ble_eq_true rfl) dJ2_grow_2_27 rfl (fun v169 h168 p170 => ?_)
  obtain ⟨rfl, e171⟩ := p170
  have e171 := e171.symm
  subst e171
  rw [hnl]
  refine ga_istore_n 31 C.c 3 rfl (Nat.le_of_ble_eq_true rfl) rfl dJ2_grow_2_30 rfl ?_
  refine ga_aload_n 32 C.c 0 rfl rfl dJ2_grow_2_31 rfl ?_
  refine ga_aload_n 33 C.c 0 rfl rfl dJ2_grow_2_32 rfl ?_
  refine ga_get1 36 1 C.c C.ts (own := RJ2) (ref := "java/util/ArrayList") C.ow C.k (hw_one g_a) in_J2 rfl (by decide) q368 (fun _ h9 => h9) rfl dJ2_grow_2_33 rfl ?_
  refine ga_iload_n 37 C.c 3 rfl rfl dJ2_grow_2_36 rfl ?_
  refine hh_callS 40 C (as := [.ref d, .int nl]) (met_J12_copyOf (eL E) D kk dE A _ d cap N cap f nl hn2 hN hb hk0 hk (Nat.le_refl _) hk2 hel0 g_d) (lw_S q856 q857 q115 q858) cd_J12_copyOf rfl (Nat.le_of_ble_eq_true rfl) (Nat.le_of_ble_eq_true rfl) (by omega) (by omega) (Nat.le_of_ble_eq_true rfl) dJ2_grow_2_37 rfl (fun v173 h172 p174 => ?_)
  obtain ⟨x, nd, rfl, gd, kd⟩ := p174
  have ne175 : a ≠ x := hn_ne g_a nd
  have ne176 : d ≠ x := hn_ne g_d nd
  have g177 := kd _ _ List.not_mem_nil g_a
  have g178 := kd _ _ List.not_mem_nil g_d
  refine ga_dup_x1 41 C.c rfl rfl dJ2_grow_2_40 rfl ?_
  refine hh_put 44 1 C (ref := "java/util/ArrayList") (fs2 := [.int m, .ref x, .int n]) tyJ2_ok nmJ2 in_J2 g177 rfl (by decide) q368 (fun _ h9 => h9) rfl (tyJ2_ok 1 (by decide)) rfl rfl (Nat.le_of_ble_eq_true rfl) rfl dJ2_grow_2_41 rfl (fun h179 e180 => ?_)
  have k181 := hu_fr e180
  have g182 := hu_at e180
  clear e180
  have g183 := k181 _ _ (nm1 (Ne.symm ne166)) g178
  have g184 := k181 _ _ (nm1 (Ne.symm ne175)) gd
  have nd185 : h x = none := by
    cases c9 : h x with
    | none => rfl
    | some e9 =>
      rw [nd] at c9
      cases c9
  have kF186 : hfr h h179 [a] := by
    intro b e nb hb
    have m_x : b ≠ x := hn_ne hb nd
    have b187 := kd b e List.not_mem_nil hb
    have b188 := k181 b e (nm1 (nx nb (by simp))) b187
    exact b188
  exact hw_aret C hr (Or.inr ⟨_, rfl⟩) (Or.inr ⟨_, rfl⟩) hlk hq (by omega) (by omega) ⟨x, nd185, rfl, g182, g184, kF186⟩ dJ2_grow_2_44
theorem cd_J2_grow : yJ2_grow.cls = RJ2 ∧ yJ2_grow.cls ≠ "java/lang/invoke/MethodHandle" ∧ yJ2_grow.cls ≠ "java/lang/invoke/VarHandle" ∧ (parseMethodDescriptor yJ2_grow.desc).map (fun d => d.parameters.length) = some 0 := by decide +kernel
set_option maxHeartbeats 4000000 in
theorem met_J2_grow_e (l : Launch) (D : va_G) (kk : Nat → Nat) (dE : Nat → Nat) (A : Nat → Prop) (h : hG) (a : Nat) (m n : Int32) (f : Nat → Option Nat) (N : Nat) (hn2 : ¬ pu_max 10 (n + 1) < 0) (hN : (pu_max 10 (n + 1)).toNatClampNeg = N) (hb : N * 4 ≤ 536870912) (g_a : h a = some (.inr (13, [.int m, .ref (dE 0), .int n]))) (g__dE_0_ : h (dE 0) = some (.inl (kk 5, 0, .inr (.inr (.inr (.inr f)))))) : Met l yJ2_grow (ws_ yJ2_grow cJ2_grow 1 (some (.array (.object "java/lang/Object")))) ({ frames := 4, cells := 1, slots := N, locals := 280 } : Room) (hw_Pc D kk dE A h [.ref a]) (hw_Qc D A (fun v h2 => ∃ x, h x = none ∧ v = some (.ref x) ∧ h2 a = some (.inr (13, [.int m, .ref x, .int n])) ∧ h2 x = some (.inl (kk 5, N, .inr (.inr (.inr (.inr (fun _ => none)))))) ∧ hfr h h2 [a])) (1) (N) A := by
  refine hw_of (RX := RJ2) (lo := [some (.ref a)]) (by decide) rfl (Nat.le_of_ble_eq_true rfl) rfl (fun E C hin hr hlk hq => ?_)
  have ne189 : a ≠ (dE 0) := hne g_a g__dE_0_ (by simp)
  refine ga_aload_n 1 C.c 0 rfl rfl dJ2_grow_0 rfl ?_
  refine ga_aload_n 2 C.c 0 rfl rfl dJ2_grow_1 rfl ?_
  refine ga_get1 5 2 C.c C.ts (own := RJ2) (ref := "java/util/ArrayList") C.ow C.k (hw_one g_a) in_J2 rfl (by decide) q371 (fun _ h9 => h9) rfl dJ2_grow_2 rfl ?_
  refine ga_iconst 6 C.c (v := 1) (by decide) dJ2_grow_5 rfl ?_
  refine ga_iadd 7 C.c dJ2_grow_6 rfl ?_
  refine hh_callV 10 C (as := [.int (n + 1)]) (met_J2_grow_2_e (eL E) D kk dE A _ a m n (n + 1) f N hn2 hN hb g_a g__dE_0_) g_a (T := TJ2) rfl (lw_V q842 q844 qs19 q98 q845) cd_J2_grow_2 rfl (Nat.le_of_ble_eq_true rfl) (Nat.le_of_ble_eq_true rfl) (by omega) (by omega) (Nat.le_of_ble_eq_true rfl) dJ2_grow_7 rfl (fun v191 h190 p192 => ?_)
  obtain ⟨x, nd, rfl, ga, gd, kd⟩ := p192
  have ne193 : a ≠ x := hn_ne g_a nd
  have ne194 : (dE 0) ≠ x := hn_ne g__dE_0_ nd
  have g195 := kd _ _ (nm1 (Ne.symm ne189)) g__dE_0_
  exact hw_aret C hr (Or.inr ⟨_, rfl⟩) (Or.inr ⟨_, rfl⟩) hlk hq (by omega) (by omega) ⟨x, nd, rfl, ga, gd, kd⟩ dJ2_grow_10
set_option maxHeartbeats 4000000 in
theorem met_J2_grow_f (l : Launch) (D : va_G) (kk : Nat → Nat) (dE : Nat → Nat) (A : Nat → Prop) (h : hG) (a d cap N : Nat) (f : Nat → Option Nat) (m n nl : Int32) (hg0 : 0 < Int32.ofNat cap) (hnl : Int32.ofNat cap + pu_max ((n + 1) - Int32.ofNat cap) (Int32.ofNat cap >>> ((1 : Int32) &&& 31)) = nl) (hp1 : ¬ Int32.ofNat cap + pu_max ((n + 1) - Int32.ofNat cap) (Int32.ofNat cap >>> ((1 : Int32) &&& 31)) ≤ 0) (hp2 : ¬ 2147483639 < Int32.ofNat cap + pu_max ((n + 1) - Int32.ofNat cap) (Int32.ofNat cap >>> ((1 : Int32) &&& 31))) (hn2 : ¬ nl < 0) (hN : nl.toNatClampNeg = N) (hb : N * 4 ≤ 536870912) (hk0 : ¬ pu_min (Int32.ofNat cap) nl < 0) (hk : (pu_min (Int32.ofNat cap) nl).toNatClampNeg = cap) (hk2 : cap ≤ N) (hel0 : ∀ i : Nat, i < cap → ∀ y : Nat, f i = some y → hel h y) (g_a : h a = some (.inr (13, [.int m, .ref d, .int n]))) (g_d : h d = some (.inl (kk 5, cap, .inr (.inr (.inr (.inr f)))))) : Met l yJ2_grow (ws_ yJ2_grow cJ2_grow 1 (some (.array (.object "java/lang/Object")))) ({ frames := 4, cells := 1, slots := N, locals := 280 } : Room) (hw_Pc D kk dE A h [.ref a]) (hw_Qc D A (fun v h2 => ∃ x, h x = none ∧ v = some (.ref x) ∧ h2 a = some (.inr (13, [.int m, .ref x, .int n])) ∧ h2 x = some (.inl (kk 5, N, .inr (.inr (.inr (.inr (va_cpy f (fun _ => none) 0 0 cap)))))) ∧ hfr h h2 [a])) (1) (N) A := by
  refine hw_of (RX := RJ2) (lo := [some (.ref a)]) (by decide) rfl (Nat.le_of_ble_eq_true rfl) rfl (fun E C hin hr hlk hq => ?_)
  have ne196 : a ≠ d := hne g_a g_d (by simp)
  refine ga_aload_n 1 C.c 0 rfl rfl dJ2_grow_0 rfl ?_
  refine ga_aload_n 2 C.c 0 rfl rfl dJ2_grow_1 rfl ?_
  refine ga_get1 5 2 C.c C.ts (own := RJ2) (ref := "java/util/ArrayList") C.ow C.k (hw_one g_a) in_J2 rfl (by decide) q371 (fun _ h9 => h9) rfl dJ2_grow_2 rfl ?_
  refine ga_iconst 6 C.c (v := 1) (by decide) dJ2_grow_5 rfl ?_
  refine ga_iadd 7 C.c dJ2_grow_6 rfl ?_
  refine hh_callV 10 C (as := [.int (n + 1)]) (met_J2_grow_2_f (eL E) D kk dE A _ a d cap N f m n (n + 1) nl hg0 hnl hp1 hp2 hn2 hN hb hk0 hk hk2 hel0 g_a g_d) g_a (T := TJ2) rfl (lw_V q842 q844 qs19 q98 q845) cd_J2_grow_2 rfl (Nat.le_of_ble_eq_true rfl) (Nat.le_of_ble_eq_true rfl) (by omega) (by omega) (Nat.le_of_ble_eq_true rfl) dJ2_grow_7 rfl (fun v198 h197 p199 => ?_)
  obtain ⟨x, nd, rfl, ga, gd, kd⟩ := p199
  have ne200 : a ≠ x := hn_ne g_a nd
  have ne201 : d ≠ x := hn_ne g_d nd
  have g202 := kd _ _ (nm1 (Ne.symm ne196)) g_d
  exact hw_aret C hr (Or.inr ⟨_, rfl⟩) (Or.inr ⟨_, rfl⟩) hlk hq (by omega) (by omega) ⟨x, nd, rfl, ga, gd, kd⟩ dJ2_grow_10
theorem cd_J2_add_2 : yJ2_add_2.cls = RJ2 ∧ yJ2_add_2.cls ≠ "java/lang/invoke/MethodHandle" ∧ yJ2_add_2.cls ≠ "java/lang/invoke/VarHandle" ∧ (parseMethodDescriptor yJ2_add_2.desc).map (fun d => d.parameters.length) = some 3 := by decide +kernel
set_option maxHeartbeats 4000000 in
theorem met_J2_add_2_r (l : Launch) (D : va_G) (kk : Nat → Nat) (dE : Nat → Nat) (A : Nat → Prop) (h : hG) (a d cap j y : Nat) (f : Nat → Option Nat) (m : Int32) (hj : j < cap) (hc : cap < 2 ^ 31) (hy : hel h y) (g_a : h a = some (.inr (13, [.int m, .ref d, .int (nI j)]))) (g_d : h d = some (.inl (kk 5, cap, .inr (.inr (.inr (.inr f)))))) : Met l yJ2_add_2 (ws_ yJ2_add_2 cJ2_add_2 4 none) ({ frames := 0, cells := 0, slots := 0, locals := 0 } : Room) (hw_Pc D kk dE A h [.ref a, .ref y, .ref d, .int (nI j)]) (hw_Qc D A (fun v h2 => v = none ∧ h2 a = some (.inr (13, [.int m, .ref d, .int (nI (j + 1))])) ∧ h2 d = some (.inl (kk 5, cap, .inr (.inr (.inr (.inr (va_up f j (some y))))))) ∧ hfr h h2 [a, d])) (0) (0) A := by
  refine hw_of (RX := RJ2) (lo := [some (.ref a), some (.ref y), some (.ref d), some (.int (nI j))]) (by decide) rfl (Nat.le_of_ble_eq_true rfl) rfl (fun E C hin hr hlk hq => ?_)
  have ne203 : a ≠ d := hne g_a g_d (by simp)
  refine ga_iload_n 1 C.c 3 rfl rfl dJ2_add_2_0 rfl ?_
  refine ga_aload_n 2 C.c 2 rfl rfl dJ2_add_2_1 rfl ?_
  refine ga_alen1 3 5 C.c C.k (hw_one g_d) rfl dJ2_add_2_2 rfl ?_
  refine ga_icmp_ne 11 6 C.c dJ2_add_2_3 (by decide) rfl (fun c204 => ?_) (fun c204 => absurd c204 (ls_ne hj hc))
  refine ga_aload_n 12 C.c 2 rfl rfl dJ2_add_2_11 rfl ?_
  refine ga_iload_n 13 C.c 3 rfl rfl dJ2_add_2_12 rfl ?_
  refine ga_aload_n 14 C.c 1 rfl rfl dJ2_add_2_13 rfl ?_
  refine hh_astqE 15 C g_d hy (vp_in_nI (by omega) (by omega)) dJ2_add_2_14 rfl (fun h205 e206 => ?_)
  have k207 := hu_fr e206
  have g208 := hu_at e206
  clear e206
  have g209 := k207 _ _ (nm1 ne203) g_a
  refine ga_aload_n 16 C.c 0 rfl rfl dJ2_add_2_15 rfl ?_
  refine ga_iload_n 17 C.c 3 rfl rfl dJ2_add_2_16 rfl ?_
  refine ga_iconst 18 C.c (v := 1) (by decide) dJ2_add_2_17 rfl ?_
  refine ga_iadd 19 C.c dJ2_add_2_18 rfl ?_
  refine hh_put 22 2 C (ref := "java/util/ArrayList") (fs2 := [.int m, .ref d, .int ((nI j) + 1)]) tyJ2_ok nmJ2 in_J2 g209 rfl (by decide) q371 (fun _ h9 => h9) rfl (tyJ2_ok 2 (by decide)) rfl rfl (Nat.le_of_ble_eq_true rfl) rfl dJ2_add_2_19 rfl (fun h210 e211 => ?_)
  have k212 := hu_fr e211
  have g213 := hu_at e211
  clear e211
  have g214 := k212 _ _ (nm1 (Ne.symm ne203)) g208
  rw [nI_clamp (show j < 2 ^ 31 by omega)] at g214
  rw [nI_1] at g213
  have kF215 : hfr h h210 [a, d] := by
    intro b e nb hb
    have b216 := k207 b e (nm1 (nx nb (by simp))) hb
    have b217 := k212 b e (nm1 (nx nb (by simp))) b216
    exact b217
  exact hw_vret C hr hlk hq (Nat.le_of_ble_eq_true rfl) (Nat.le_of_ble_eq_true rfl) ⟨rfl, g213, g214, kF215⟩ dJ2_add_2_22
set_option maxHeartbeats 4000000 in
theorem met_J2_add_2_e (l : Launch) (D : va_G) (kk : Nat → Nat) (dE : Nat → Nat) (A : Nat → Prop) (h : hG) (a y : Nat) (f : Nat → Option Nat) (m : Int32) (hy : hel h y) (hya : y ∉ [a]) (g_a : h a = some (.inr (13, [.int m, .ref (dE 0), .int (nI 0)]))) (g__dE_0_ : h (dE 0) = some (.inl (kk 5, 0, .inr (.inr (.inr (.inr f)))))) : Met l yJ2_add_2 (ws_ yJ2_add_2 cJ2_add_2 4 none) ({ frames := 5, cells := 1, slots := 10, locals := 340 } : Room) (hw_Pc D kk dE A h [.ref a, .ref y, .ref (dE 0), .int (nI 0)]) (hw_Qc D A (fun v h2 => v = none ∧ ∃ x, h x = none ∧ h2 a = some (.inr (13, [.int m, .ref x, .int (nI 1)])) ∧ h2 x = some (.inl (kk 5, 10, .inr (.inr (.inr (.inr (va_up (fun _ => none) 0 (some y))))))) ∧ hfr h h2 [a])) (1) (10) A := by
  refine hw_of (RX := RJ2) (lo := [some (.ref a), some (.ref y), some (.ref (dE 0)), some (.int (nI 0))]) (by decide) rfl (Nat.le_of_ble_eq_true rfl) rfl (fun E C hin hr hlk hq => ?_)
  have ne218 : a ≠ (dE 0) := hne g_a g__dE_0_ (by simp)
  refine ga_iload_n 1 C.c 3 rfl rfl dJ2_add_2_0 rfl ?_
  refine ga_aload_n 2 C.c 2 rfl rfl dJ2_add_2_1 rfl ?_
  refine ga_alen1 3 5 C.c C.k (hw_one g__dE_0_) rfl dJ2_add_2_2 rfl ?_
  refine ga_icmp_ne 11 6 C.c dJ2_add_2_3 (by decide) rfl (fun c219 => absurd (show nI 0 = Int32.ofNat 0 by rfl) c219) (fun c219 => ?_)
  refine ga_aload_n 7 C.c 0 rfl rfl dJ2_add_2_6 rfl ?_
  refine hh_callV 10 C (as := []) (met_J2_grow_e (eL E) D kk dE A _ a m (nI 0) f 10 (by decide) (by decide) (by decide) g_a g__dE_0_) g_a (T := TJ2) rfl (lw_V q838 q840 qs18 q98 q841) cd_J2_grow rfl (Nat.le_of_ble_eq_true rfl) (Nat.le_of_ble_eq_true rfl) (Nat.le_of_ble_eq_true rfl) (Nat.le_of_ble_eq_true rfl) (Nat.le_of_ble_eq_true rfl) dJ2_add_2_7 rfl (fun v221 h220 p222 => ?_)
  obtain ⟨x, nd, rfl, ga, gd, kd⟩ := p222
  have ne223 : a ≠ x := hn_ne g_a nd
  have ne224 : (dE 0) ≠ x := hn_ne g__dE_0_ nd
  have g225 := kd _ _ (nm1 (Ne.symm ne218)) g__dE_0_
  have hy := hy.kept kd hya
  have hj : 0 < 10 := by decide
  refine ga_astore_n 11 C.c 2 rfl (Nat.le_of_ble_eq_true rfl) rfl dJ2_add_2_10 rfl ?_
  refine ga_aload_n 12 C.c 2 rfl rfl dJ2_add_2_11 rfl ?_
  refine ga_iload_n 13 C.c 3 rfl rfl dJ2_add_2_12 rfl ?_
  refine ga_aload_n 14 C.c 1 rfl rfl dJ2_add_2_13 rfl ?_
  refine hh_astqE 15 C gd hy (vp_in_nI (by omega) (by omega)) dJ2_add_2_14 rfl (fun h226 e227 => ?_)
  have k228 := hu_fr e227
  have g229 := hu_at e227
  clear e227
  have g230 := k228 _ _ (nm1 ne223) ga
  have g231 := k228 _ _ (nm1 ne224) g225
  refine ga_aload_n 16 C.c 0 rfl rfl dJ2_add_2_15 rfl ?_
  refine ga_iload_n 17 C.c 3 rfl rfl dJ2_add_2_16 rfl ?_
  refine ga_iconst 18 C.c (v := 1) (by decide) dJ2_add_2_17 rfl ?_
  refine ga_iadd 19 C.c dJ2_add_2_18 rfl ?_
  refine hh_put 22 2 C (ref := "java/util/ArrayList") (fs2 := [.int m, .ref x, .int ((nI 0) + 1)]) tyJ2_ok nmJ2 in_J2 g230 rfl (by decide) q371 (fun _ h9 => h9) rfl (tyJ2_ok 2 (by decide)) rfl rfl (Nat.le_of_ble_eq_true rfl) rfl dJ2_add_2_19 rfl (fun h232 e233 => ?_)
  have k234 := hu_fr e233
  have g235 := hu_at e233
  clear e233
  have g236 := k234 _ _ (nm1 (Ne.symm ne218)) g231
  have g237 := k234 _ _ (nm1 (Ne.symm ne223)) g229
  rw [nI_clamp (show 0 < 2 ^ 31 by omega)] at g237
  rw [nI_1] at g235
  have kF238 : hfr h h232 [a] := by
    intro b e nb hb
    have m_x : b ≠ x := hn_ne hb nd
    have b239 := kd b e (nm1 (nx nb (by simp))) hb
    have b240 := k228 b e (nm1 m_x) b239
    have b241 := k234 b e (nm1 (nx nb (by simp))) b240
    exact b241
  exact hw_vret C hr hlk hq (Nat.le_of_ble_eq_true rfl) (Nat.le_of_ble_eq_true rfl) ⟨rfl, x, nd, g235, g237, kF238⟩ dJ2_add_2_22
set_option maxHeartbeats 4000000 in
theorem met_J2_add_2_f (l : Launch) (D : va_G) (kk : Nat → Nat) (dE : Nat → Nat) (A : Nat → Prop) (h : hG) (a d cap N y : Nat) (f : Nat → Option Nat) (m : Int32) (hN : N < 1000) (hcN : cap < N) (G : ls_G cap N) (hel0 : ∀ i : Nat, i < cap → ∀ y : Nat, f i = some y → hel h y) (hy : hel h y) (hya : y ∉ [a]) (g_a : h a = some (.inr (13, [.int m, .ref d, .int (nI cap)]))) (g_d : h d = some (.inl (kk 5, cap, .inr (.inr (.inr (.inr f)))))) : Met l yJ2_add_2 (ws_ yJ2_add_2 cJ2_add_2 4 none) ({ frames := 5, cells := 1, slots := N, locals := 340 } : Room) (hw_Pc D kk dE A h [.ref a, .ref y, .ref d, .int (nI cap)]) (hw_Qc D A (fun v h2 => v = none ∧ ∃ x, h x = none ∧ h2 a = some (.inr (13, [.int m, .ref x, .int (nI (cap + 1))])) ∧ h2 x = some (.inl (kk 5, N, .inr (.inr (.inr (.inr (va_up (va_cpy f (fun _ => none) 0 0 cap) cap (some y))))))) ∧ hfr h h2 [a])) (1) (N) A := by
  refine hw_of (RX := RJ2) (lo := [some (.ref a), some (.ref y), some (.ref d), some (.int (nI cap))]) (by decide) rfl (Nat.le_of_ble_eq_true rfl) rfl (fun E C hin hr hlk hq => ?_)
  have ne242 : a ≠ d := hne g_a g_d (by simp)
  refine ga_iload_n 1 C.c 3 rfl rfl dJ2_add_2_0 rfl ?_
  refine ga_aload_n 2 C.c 2 rfl rfl dJ2_add_2_1 rfl ?_
  refine ga_alen1 3 5 C.c C.k (hw_one g_d) rfl dJ2_add_2_2 rfl ?_
  refine ga_icmp_ne 11 6 C.c dJ2_add_2_3 (by decide) rfl (fun c243 => absurd (show nI cap = Int32.ofNat cap by rfl) c243) (fun c243 => ?_)
  refine ga_aload_n 7 C.c 0 rfl rfl dJ2_add_2_6 rfl ?_
  refine hh_callV 10 C (as := []) (met_J2_grow_f (eL E) D kk dE A _ a d cap N f m (nI cap) (nI N) G.1 G.2.1 G.2.2.1 G.2.2.2.1 G.2.2.2.2.1 G.2.2.2.2.2.1 G.2.2.2.2.2.2.1 G.2.2.2.2.2.2.2.1 G.2.2.2.2.2.2.2.2.1 G.2.2.2.2.2.2.2.2.2 hel0 g_a g_d) g_a (T := TJ2) rfl (lw_V q838 q840 qs18 q98 q841) cd_J2_grow rfl (Nat.le_of_ble_eq_true rfl) (Nat.le_of_ble_eq_true rfl) (by omega) (by omega) (Nat.le_of_ble_eq_true rfl) dJ2_add_2_7 rfl (fun v245 h244 p246 => ?_)
  obtain ⟨x, nd, rfl, ga, gd, kd⟩ := p246
  have ne247 : a ≠ x := hn_ne g_a nd
  have ne248 : d ≠ x := hn_ne g_d nd
  have g249 := kd _ _ (nm1 (Ne.symm ne242)) g_d
  have hy := hy.kept kd hya
  refine ga_astore_n 11 C.c 2 rfl (Nat.le_of_ble_eq_true rfl) rfl dJ2_add_2_10 rfl ?_
  refine ga_aload_n 12 C.c 2 rfl rfl dJ2_add_2_11 rfl ?_
  refine ga_iload_n 13 C.c 3 rfl rfl dJ2_add_2_12 rfl ?_
  refine ga_aload_n 14 C.c 1 rfl rfl dJ2_add_2_13 rfl ?_
  refine hh_astqE 15 C gd hy (vp_in_nI hcN (by omega)) dJ2_add_2_14 rfl (fun h250 e251 => ?_)
  have k252 := hu_fr e251
  have g253 := hu_at e251
  clear e251
  have g254 := k252 _ _ (nm1 ne247) ga
  have g255 := k252 _ _ (nm1 ne248) g249
  refine ga_aload_n 16 C.c 0 rfl rfl dJ2_add_2_15 rfl ?_
  refine ga_iload_n 17 C.c 3 rfl rfl dJ2_add_2_16 rfl ?_
  refine ga_iconst 18 C.c (v := 1) (by decide) dJ2_add_2_17 rfl ?_
  refine ga_iadd 19 C.c dJ2_add_2_18 rfl ?_
  refine hh_put 22 2 C (ref := "java/util/ArrayList") (fs2 := [.int m, .ref x, .int ((nI cap) + 1)]) tyJ2_ok nmJ2 in_J2 g254 rfl (by decide) q371 (fun _ h9 => h9) rfl (tyJ2_ok 2 (by decide)) rfl rfl (Nat.le_of_ble_eq_true rfl) rfl dJ2_add_2_19 rfl (fun h256 e257 => ?_)
  have k258 := hu_fr e257
  have g259 := hu_at e257
  clear e257
  have g260 := k258 _ _ (nm1 (Ne.symm ne242)) g255
  have g261 := k258 _ _ (nm1 (Ne.symm ne247)) g253
  rw [nI_clamp (show cap < 2 ^ 31 by omega)] at g261
  rw [nI_1] at g259
  have kF262 : hfr h h256 [a] := by
    intro b e nb hb
    have m_x : b ≠ x := hn_ne hb nd
    have b263 := kd b e (nm1 (nx nb (by simp))) hb
    have b264 := k252 b e (nm1 m_x) b263
    have b265 := k258 b e (nm1 (nx nb (by simp))) b264
    exact b265
  exact hw_vret C hr hlk hq (by omega) (by omega) ⟨rfl, x, nd, g259, g261, kF262⟩ dJ2_add_2_22
theorem cd_J2_add : yJ2_add.cls = RJ2 ∧ yJ2_add.cls ≠ "java/lang/invoke/MethodHandle" ∧ yJ2_add.cls ≠ "java/lang/invoke/VarHandle" ∧ (parseMethodDescriptor yJ2_add.desc).map (fun d => d.parameters.length) = some 1 := by decide +kernel
set_option maxHeartbeats 4000000 in
theorem met_J2_add_r (l : Launch) (D : va_G) (kk : Nat → Nat) (dE : Nat → Nat) (A : Nat → Prop) (h : hG) (a d cap j y : Nat) (f : Nat → Option Nat) (m : Int32) (hj : j < cap) (hc : cap < 2 ^ 31) (hy : hel h y) (hya : y ∉ [a]) (g_a : h a = some (.inr (13, [.int m, .ref d, .int (nI j)]))) (g_d : h d = some (.inl (kk 5, cap, .inr (.inr (.inr (.inr f)))))) : Met l yJ2_add (ws_ yJ2_add cJ2_add 2 (some .boolean)) ({ frames := 1, cells := 0, slots := 0, locals := 40 } : Room) (hw_Pc D kk dE A h [.ref a, .ref y]) (hw_Qc D A (fun v h2 => v = some (.int 1) ∧ h2 a = some (.inr (13, [.int (m + 1), .ref d, .int (nI (j + 1))])) ∧ h2 d = some (.inl (kk 5, cap, .inr (.inr (.inr (.inr (va_up f j (some y))))))) ∧ hfr h h2 [a, d])) (0) (0) A := by
  refine hw_of (RX := RJ2) (lo := [some (.ref a), some (.ref y)]) (by decide) rfl (Nat.le_of_ble_eq_true rfl) rfl (fun E C hin hr hlk hq => ?_)
  have ne266 : a ≠ d := hne g_a g_d (by simp)
  refine ga_aload_n 1 C.c 0 rfl rfl dJ2_add_0 rfl ?_
  refine ga_dup 2 C.c rfl dJ2_add_1 rfl ?_
  refine ga_get1 5 0 C.c C.ts (own := RJ2) (ref := "java/util/ArrayList") C.ow C.k (hw_one g_a) in_J2 rfl (by decide) q375 (fun x9 h9 => u_same (C.ts _ q374) x9 h9) rfl dJ2_add_2 rfl ?_
  refine ga_iconst 6 C.c (v := 1) (by decide) dJ2_add_5 rfl ?_
  refine ga_iadd 7 C.c dJ2_add_6 rfl ?_
  refine hh_put 10 0 C (ref := "java/util/ArrayList") (fs2 := [.int (m + 1), .ref d, .int (nI j)]) tyJ2_ok nmJ2 in_J2 g_a rfl (by decide) q375 (fun x9 h9 => u_same (C.ts _ q374) x9 h9) rfl (tyJ2_ok 0 (by decide)) rfl rfl (Nat.le_of_ble_eq_true rfl) rfl dJ2_add_7 rfl (fun h267 e268 => ?_)
  have k269 := hu_fr e268
  have g270 := hu_at e268
  clear e268
  have g271 := k269 _ _ (nm1 (Ne.symm ne266)) g_d
  refine ga_aload_n 11 C.c 0 rfl rfl dJ2_add_10 rfl ?_
  refine ga_aload_n 12 C.c 1 rfl rfl dJ2_add_11 rfl ?_
  refine ga_aload_n 13 C.c 0 rfl rfl dJ2_add_12 rfl ?_
  refine ga_get1 16 1 C.c C.ts (own := RJ2) (ref := "java/util/ArrayList") C.ow C.k (hw_one g270) in_J2 rfl (by decide) q368 (fun _ h9 => h9) rfl dJ2_add_13 rfl ?_
  refine ga_aload_n 17 C.c 0 rfl rfl dJ2_add_16 rfl ?_
  refine ga_get1 20 2 C.c C.ts (own := RJ2) (ref := "java/util/ArrayList") C.ow C.k (hw_one g270) in_J2 rfl (by decide) q371 (fun _ h9 => h9) rfl dJ2_add_17 rfl ?_
  refine hh_callV 23 C (as := [.ref y, .ref d, .int (nI j)]) (met_J2_add_2_r (eL E) D kk dE A _ a d cap j y f (m + 1) hj hc (hy.kept k269 hya) g270 g271) g270 (T := TJ2) rfl (lw_V q834 q836 qs17 q98 q837) cd_J2_add_2 rfl (Nat.le_of_ble_eq_true rfl) (Nat.le_of_ble_eq_true rfl) (Nat.le_of_ble_eq_true rfl) (Nat.le_of_ble_eq_true rfl) (Nat.le_of_ble_eq_true rfl) dJ2_add_20 rfl (fun v273 h272 p274 => ?_)
  obtain ⟨rfl, ga, gd, kd⟩ := p274
  refine ga_iconst 24 C.c (v := 1) (by decide) dJ2_add_23 rfl ?_
  have kF275 : hfr h h272 [a, d] := by
    intro b e nb hb
    have b276 := k269 b e (nm1 (nx nb (by simp))) hb
    have b277 := kd b e (nm2 (nx nb (by simp)) (nx nb (by simp))) b276
    exact b277
  exact hw_iret C hr hlk hq rfl (Nat.le_of_ble_eq_true rfl) (Nat.le_of_ble_eq_true rfl) ⟨rfl, ga, gd, kF275⟩ dJ2_add_24
set_option maxHeartbeats 4000000 in
theorem met_J2_add_e (l : Launch) (D : va_G) (kk : Nat → Nat) (dE : Nat → Nat) (A : Nat → Prop) (h : hG) (a y : Nat) (f : Nat → Option Nat) (m : Int32) (hy : hel h y) (hya : y ∉ [a]) (g_a : h a = some (.inr (13, [.int m, .ref (dE 0), .int (nI 0)]))) (g__dE_0_ : h (dE 0) = some (.inl (kk 5, 0, .inr (.inr (.inr (.inr f)))))) : Met l yJ2_add (ws_ yJ2_add cJ2_add 2 (some .boolean)) ({ frames := 6, cells := 1, slots := 10, locals := 400 } : Room) (hw_Pc D kk dE A h [.ref a, .ref y]) (hw_Qc D A (fun v h2 => v = some (.int 1) ∧ ∃ x, h x = none ∧ h2 a = some (.inr (13, [.int (m + 1), .ref x, .int (nI 1)])) ∧ h2 x = some (.inl (kk 5, 10, .inr (.inr (.inr (.inr (va_up (fun _ => none) 0 (some y))))))) ∧ hfr h h2 [a])) (1) (10) A := by
  refine hw_of (RX := RJ2) (lo := [some (.ref a), some (.ref y)]) (by decide) rfl (Nat.le_of_ble_eq_true rfl) rfl (fun E C hin hr hlk hq => ?_)
  have ne278 : a ≠ (dE 0) := hne g_a g__dE_0_ (by simp)
  refine ga_aload_n 1 C.c 0 rfl rfl dJ2_add_0 rfl ?_
  refine ga_dup 2 C.c rfl dJ2_add_1 rfl ?_
  refine ga_get1 5 0 C.c C.ts (own := RJ2) (ref := "java/util/ArrayList") C.ow C.k (hw_one g_a) in_J2 rfl (by decide) q375 (fun x9 h9 => u_same (C.ts _ q374) x9 h9) rfl dJ2_add_2 rfl ?_
  refine ga_iconst 6 C.c (v := 1) (by decide) dJ2_add_5 rfl ?_
  refine ga_iadd 7 C.c dJ2_add_6 rfl ?_
  refine hh_put 10 0 C (ref := "java/util/ArrayList") (fs2 := [.int (m + 1), .ref (dE 0), .int (nI 0)]) tyJ2_ok nmJ2 in_J2 g_a rfl (by decide) q375 (fun x9 h9 => u_same (C.ts _ q374) x9 h9) rfl (tyJ2_ok 0 (by decide)) rfl rfl (Nat.le_of_ble_eq_true rfl) rfl dJ2_add_7 rfl (fun h279 e280 => ?_)
  have k281 := hu_fr e280
  have g282 := hu_at e280
  clear e280
  have g283 := k281 _ _ (nm1 (Ne.symm ne278)) g__dE_0_
  refine ga_aload_n 11 C.c 0 rfl rfl dJ2_add_10 rfl ?_
  refine ga_aload_n 12 C.c 1 rfl rfl dJ2_add_11 rfl ?_
  refine ga_aload_n 13 C.c 0 rfl rfl dJ2_add_12 rfl ?_
  refine ga_get1 16 1 C.c C.ts (own := RJ2) (ref := "java/util/ArrayList") C.ow C.k (hw_one g282) in_J2 rfl (by decide) q368 (fun _ h9 => h9) rfl dJ2_add_13 rfl ?_
  refine ga_aload_n 17 C.c 0 rfl rfl dJ2_add_16 rfl ?_
  refine ga_get1 20 2 C.c C.ts (own := RJ2) (ref := "java/util/ArrayList") C.ow C.k (hw_one g282) in_J2 rfl (by decide) q371 (fun _ h9 => h9) rfl dJ2_add_17 rfl ?_
  refine hh_callV 23 C (as := [.ref y, .ref (dE 0), .int (nI 0)]) (met_J2_add_2_e (eL E) D kk dE A _ a y f (m + 1) (hy.kept k281 hya) hya g282 g283) g282 (T := TJ2) rfl (lw_V q834 q836 qs17 q98 q837) cd_J2_add_2 rfl (Nat.le_of_ble_eq_true rfl) (Nat.le_of_ble_eq_true rfl) (Nat.le_of_ble_eq_true rfl) (Nat.le_of_ble_eq_true rfl) (Nat.le_of_ble_eq_true rfl) dJ2_add_20 rfl (fun v285 h284 p286 => ?_)
  obtain ⟨rfl, x, nd, ga, gd, kd⟩ := p286
  have ne287 : a ≠ x := hn_ne g282 nd
  have ne288 : (dE 0) ≠ x := hn_ne g283 nd
  have g289 := kd _ _ (nm1 (Ne.symm ne278)) g283
  refine ga_iconst 24 C.c (v := 1) (by decide) dJ2_add_23 rfl ?_
  have nd290 : h x = none := by
    cases c9 : h x with
    | none => rfl
    | some e9 =>
      have b291 := k281 x e9 (nm1 (Ne.symm ne287)) c9
      rw [nd] at b291
      cases b291
  have kF292 : hfr h h284 [a] := by
    intro b e nb hb
    have b293 := k281 b e (nm1 (nx nb (by simp))) hb
    have m_x : b ≠ x := hn_ne b293 nd
    have b294 := kd b e (nm1 (nx nb (by simp))) b293
    exact b294
  exact hw_iret C hr hlk hq rfl (Nat.le_of_ble_eq_true rfl) (Nat.le_of_ble_eq_true rfl) ⟨rfl, x, nd290, ga, gd, kF292⟩ dJ2_add_24
set_option maxHeartbeats 4000000 in
theorem met_J2_add_f (l : Launch) (D : va_G) (kk : Nat → Nat) (dE : Nat → Nat) (A : Nat → Prop) (h : hG) (a d cap N y : Nat) (f : Nat → Option Nat) (m : Int32) (hN : N < 1000) (hcN : cap < N) (G : ls_G cap N) (hel0 : ∀ i : Nat, i < cap → ∀ y : Nat, f i = some y → hel h y) (hela : ∀ i : Nat, i < cap → ∀ y : Nat, f i = some y → y ∉ [a]) (hy : hel h y) (hya : y ∉ [a]) (g_a : h a = some (.inr (13, [.int m, .ref d, .int (nI cap)]))) (g_d : h d = some (.inl (kk 5, cap, .inr (.inr (.inr (.inr f)))))) : Met l yJ2_add (ws_ yJ2_add cJ2_add 2 (some .boolean)) ({ frames := 6, cells := 1, slots := N, locals := 400 } : Room) (hw_Pc D kk dE A h [.ref a, .ref y]) (hw_Qc D A (fun v h2 => v = some (.int 1) ∧ ∃ x, h x = none ∧ h2 a = some (.inr (13, [.int (m + 1), .ref x, .int (nI (cap + 1))])) ∧ h2 x = some (.inl (kk 5, N, .inr (.inr (.inr (.inr (va_up (va_cpy f (fun _ => none) 0 0 cap) cap (some y))))))) ∧ hfr h h2 [a])) (1) (N) A := by
  refine hw_of (RX := RJ2) (lo := [some (.ref a), some (.ref y)]) (by decide) rfl (Nat.le_of_ble_eq_true rfl) rfl (fun E C hin hr hlk hq => ?_)
  have ne295 : a ≠ d := hne g_a g_d (by simp)
  refine ga_aload_n 1 C.c 0 rfl rfl dJ2_add_0 rfl ?_
  refine ga_dup 2 C.c rfl dJ2_add_1 rfl ?_
  refine ga_get1 5 0 C.c C.ts (own := RJ2) (ref := "java/util/ArrayList") C.ow C.k (hw_one g_a) in_J2 rfl (by decide) q375 (fun x9 h9 => u_same (C.ts _ q374) x9 h9) rfl dJ2_add_2 rfl ?_
  refine ga_iconst 6 C.c (v := 1) (by decide) dJ2_add_5 rfl ?_
  refine ga_iadd 7 C.c dJ2_add_6 rfl ?_
  refine hh_put 10 0 C (ref := "java/util/ArrayList") (fs2 := [.int (m + 1), .ref d, .int (nI cap)]) tyJ2_ok nmJ2 in_J2 g_a rfl (by decide) q375 (fun x9 h9 => u_same (C.ts _ q374) x9 h9) rfl (tyJ2_ok 0 (by decide)) rfl rfl (Nat.le_of_ble_eq_true rfl) rfl dJ2_add_7 rfl (fun h296 e297 => ?_)
  have k298 := hu_fr e297
  have g299 := hu_at e297
  clear e297
  have g300 := k298 _ _ (nm1 (Ne.symm ne295)) g_d
  refine ga_aload_n 11 C.c 0 rfl rfl dJ2_add_10 rfl ?_
  refine ga_aload_n 12 C.c 1 rfl rfl dJ2_add_11 rfl ?_
  refine ga_aload_n 13 C.c 0 rfl rfl dJ2_add_12 rfl ?_
  refine ga_get1 16 1 C.c C.ts (own := RJ2) (ref := "java/util/ArrayList") C.ow C.k (hw_one g299) in_J2 rfl (by decide) q368 (fun _ h9 => h9) rfl dJ2_add_13 rfl ?_
  refine ga_aload_n 17 C.c 0 rfl rfl dJ2_add_16 rfl ?_
  refine ga_get1 20 2 C.c C.ts (own := RJ2) (ref := "java/util/ArrayList") C.ow C.k (hw_one g299) in_J2 rfl (by decide) q371 (fun _ h9 => h9) rfl dJ2_add_17 rfl ?_
  refine hh_callV 23 C (as := [.ref y, .ref d, .int (nI cap)]) (met_J2_add_2_f (eL E) D kk dE A _ a d cap N y f (m + 1) hN hcN G (fun i hi z hz => (hel0 i hi z hz).kept k298 (hela i hi z hz)) (hy.kept k298 hya) hya g299 g300) g299 (T := TJ2) rfl (lw_V q834 q836 qs17 q98 q837) cd_J2_add_2 rfl (Nat.le_of_ble_eq_true rfl) (Nat.le_of_ble_eq_true rfl) (by omega) (by omega) (Nat.le_of_ble_eq_true rfl) dJ2_add_20 rfl (fun v302 h301 p303 => ?_)
  obtain ⟨rfl, x, nd, ga, gd, kd⟩ := p303
  have ne304 : a ≠ x := hn_ne g299 nd
  have ne305 : d ≠ x := hn_ne g300 nd
  have g306 := kd _ _ (nm1 (Ne.symm ne295)) g300
  refine ga_iconst 24 C.c (v := 1) (by decide) dJ2_add_23 rfl ?_
  have nd307 : h x = none := by
    cases c9 : h x with
    | none => rfl
    | some e9 =>
      have b308 := k298 x e9 (nm1 (Ne.symm ne304)) c9
      rw [nd] at b308
      cases b308
  have kF309 : hfr h h301 [a] := by
    intro b e nb hb
    have b310 := k298 b e (nm1 (nx nb (by simp))) hb
    have m_x : b ≠ x := hn_ne b310 nd
    have b311 := kd b e (nm1 (nx nb (by simp))) b310
    exact b311
  exact hw_iret C hr hlk hq rfl (by omega) (by omega) ⟨rfl, x, nd307, ga, gd, kF309⟩ dJ2_add_24
