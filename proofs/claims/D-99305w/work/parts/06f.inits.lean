set_option maxRecDepth 100000
theorem cd_X11_init : yX11_init.cls ≠ "java/lang/invoke/MethodHandle" ∧ yX11_init.cls ≠ "java/lang/invoke/VarHandle" ∧ (parseMethodDescriptor yX11_init.desc).map (fun d => d.parameters.length) = some 2 := by decide +kernel
set_option maxHeartbeats 4000000 in
theorem met_X11_init (l : Launch) (D : va_G) (kk : Nat → Nat) (dE : Nat → Nat) (A : Nat → Prop) (h : hG) (a : Nat) (n s : Int32) (g_a : h a = some (.inr (11, [.int 0, .int 0]))) : Met l yX11_init (ws_ yX11_init cX11_init 3 none) ({ frames := 1, cells := 0, slots := 0, locals := 20 } : Room) (hw_Pc D kk dE A h [.ref a, .int n, .int s]) (hw_Qc D A (fun v h2 => v = none ∧ h2 a = some (.inr (11, [.int n, .int s])) ∧ hfr h h2 [a])) (0) (0) A := by
  refine hw_of (RX := RX11) (lo := [some (.ref a), some (.int n), some (.int s)]) (by decide) rfl (Nat.le_of_ble_eq_true rfl) rfl (fun E C hin hr hlk hq => ?_)
  refine ga_aload_n 1 C.c 0 rfl rfl dX11_init_0 rfl ?_
  refine hh_obj 4 C q934 q157 q158 (Nat.le_of_ble_eq_true rfl) (Nat.le_of_ble_eq_true rfl) (Nat.le_of_ble_eq_true rfl) dX11_init_1 rfl ?_
  refine ga_aload_n 5 C.c 0 rfl rfl dX11_init_4 rfl ?_
  refine ga_iload_n 6 C.c 1 rfl rfl dX11_init_5 rfl ?_
  refine hh_putF 9 0 C hin (ref := "QuotedRiver$Rain") (fs2 := [.int n, .int 0]) tyX11_ok nmX11 in_X11 g_a rfl (by decide) q935 (fun _ h9 => h9) rfl rfl (tyX11_ok 0 (by decide)) rfl rfl (Nat.le_of_ble_eq_true rfl) rfl dX11_init_6 rfl (fun h483 e484 => ?_)
  have k485 := hu_fr e484
  have g486 := hu_at e484
  clear e484
  refine ga_aload_n 10 C.c 0 rfl rfl dX11_init_9 rfl ?_
  refine ga_iload_n 11 C.c 2 rfl rfl dX11_init_10 rfl ?_
  refine hh_putF 14 1 C hin (ref := "QuotedRiver$Rain") (fs2 := [.int n, .int s]) tyX11_ok nmX11 in_X11 g486 rfl (by decide) q938 (fun _ h9 => h9) rfl rfl (tyX11_ok 1 (by decide)) rfl rfl (Nat.le_of_ble_eq_true rfl) rfl dX11_init_11 rfl (fun h487 e488 => ?_)
  have k489 := hu_fr e488
  have g490 := hu_at e488
  clear e488
  have kF491 : hfr h h487 [a] := by
    intro b e nb hb
    have b492 := k485 b e (nm1 (nx nb (by simp))) hb
    have b493 := k489 b e (nm1 (nx nb (by simp))) b492
    exact b493
  exact hw_vret C hr hlk hq (Nat.le_of_ble_eq_true rfl) (Nat.le_of_ble_eq_true rfl) ⟨rfl, g490, kF491⟩ dX11_init_14
theorem cd_X12_init : yX12_init.cls ≠ "java/lang/invoke/MethodHandle" ∧ yX12_init.cls ≠ "java/lang/invoke/VarHandle" ∧ (parseMethodDescriptor yX12_init.desc).map (fun d => d.parameters.length) = some 3 := by decide +kernel
set_option maxHeartbeats 4000000 in
theorem met_X12_init_n (l : Launch) (D : va_G) (kk : Nat → Nat) (dE : Nat → Nat) (A : Nat → Prop) (h : hG) (a : Nat) (j o : Int32) (g_a : h a = some (.inr (12, [.int 0, .int 0, .null]))) : Met l yX12_init (ws_ yX12_init cX12_init 4 none) ({ frames := 1, cells := 0, slots := 0, locals := 20 } : Room) (hw_Pc D kk dE A h [.ref a, .int j, .int o, .null]) (hw_Qc D A (fun v h2 => v = none ∧ h2 a = some (.inr (12, [.int j, .int o, .null])) ∧ hfr h h2 [a])) (0) (0) A := by
  refine hw_of (RX := RX12) (lo := [some (.ref a), some (.int j), some (.int o), some (.null)]) (by decide) rfl (Nat.le_of_ble_eq_true rfl) rfl (fun E C hin hr hlk hq => ?_)
  refine ga_aload_n 1 C.c 0 rfl rfl dX12_init_0 rfl ?_
  refine hh_obj 4 C q1476 q157 q158 (Nat.le_of_ble_eq_true rfl) (Nat.le_of_ble_eq_true rfl) (Nat.le_of_ble_eq_true rfl) dX12_init_1 rfl ?_
  refine ga_aload_n 5 C.c 0 rfl rfl dX12_init_4 rfl ?_
  refine ga_iload_n 6 C.c 1 rfl rfl dX12_init_5 rfl ?_
  refine hh_putF 9 0 C hin (ref := "QuotedRiver$Act") (fs2 := [.int j, .int 0, .null]) tyX12_ok nmX12 in_X12 g_a rfl (by decide) q1477 (fun _ h9 => h9) rfl rfl (tyX12_ok 0 (by decide)) rfl rfl (Nat.le_of_ble_eq_true rfl) rfl dX12_init_6 rfl (fun h494 e495 => ?_)
  have k496 := hu_fr e495
  have g497 := hu_at e495
  clear e495
  refine ga_aload_n 10 C.c 0 rfl rfl dX12_init_9 rfl ?_
  refine ga_iload_n 11 C.c 2 rfl rfl dX12_init_10 rfl ?_
  refine hh_putF 14 1 C hin (ref := "QuotedRiver$Act") (fs2 := [.int j, .int o, .null]) tyX12_ok nmX12 in_X12 g497 rfl (by decide) q1479 (fun _ h9 => h9) rfl rfl (tyX12_ok 1 (by decide)) rfl rfl (Nat.le_of_ble_eq_true rfl) rfl dX12_init_11 rfl (fun h498 e499 => ?_)
  have k500 := hu_fr e499
  have g501 := hu_at e499
  clear e499
  refine ga_aload_n 15 C.c 0 rfl rfl dX12_init_14 rfl ?_
  refine ga_aload_nN 16 C.c 3 rfl rfl dX12_init_15 rfl ?_
  refine hh_putF 19 2 C hin (ref := "QuotedRiver$Act") (fs2 := [.int j, .int o, .null]) tyX12_ok nmX12 in_X12 g501 rfl (by decide) q1481 (fun _ h9 => h9) rfl rfl (tyX12_ok 2 (by decide)) rfl rfl (Nat.le_of_ble_eq_true rfl) rfl dX12_init_16 rfl (fun h502 e503 => ?_)
  have k504 := hu_fr e503
  have g505 := hu_at e503
  clear e503
  have kF506 : hfr h h502 [a] := by
    intro b e nb hb
    have b507 := k496 b e (nm1 (nx nb (by simp))) hb
    have b508 := k500 b e (nm1 (nx nb (by simp))) b507
    have b509 := k504 b e (nm1 (nx nb (by simp))) b508
    exact b509
  exact hw_vret C hr hlk hq (Nat.le_of_ble_eq_true rfl) (Nat.le_of_ble_eq_true rfl) ⟨rfl, g505, kF506⟩ dX12_init_19
set_option maxHeartbeats 4000000 in
theorem met_X12_init_r (l : Launch) (D : va_G) (kk : Nat → Nat) (dE : Nat → Nat) (A : Nat → Prop) (h : hG) (a r : Nat) (j o : Int32) (g_a : h a = some (.inr (12, [.int 0, .int 0, .null]))) : Met l yX12_init (ws_ yX12_init cX12_init 4 none) ({ frames := 1, cells := 0, slots := 0, locals := 20 } : Room) (hw_Pc D kk dE A h [.ref a, .int j, .int o, .ref r]) (hw_Qc D A (fun v h2 => v = none ∧ h2 a = some (.inr (12, [.int j, .int o, .ref r])) ∧ hfr h h2 [a])) (0) (0) A := by
  refine hw_of (RX := RX12) (lo := [some (.ref a), some (.int j), some (.int o), some (.ref r)]) (by decide) rfl (Nat.le_of_ble_eq_true rfl) rfl (fun E C hin hr hlk hq => ?_)
  refine ga_aload_n 1 C.c 0 rfl rfl dX12_init_0 rfl ?_
  refine hh_obj 4 C q1476 q157 q158 (Nat.le_of_ble_eq_true rfl) (Nat.le_of_ble_eq_true rfl) (Nat.le_of_ble_eq_true rfl) dX12_init_1 rfl ?_
  refine ga_aload_n 5 C.c 0 rfl rfl dX12_init_4 rfl ?_
  refine ga_iload_n 6 C.c 1 rfl rfl dX12_init_5 rfl ?_
  refine hh_putF 9 0 C hin (ref := "QuotedRiver$Act") (fs2 := [.int j, .int 0, .null]) tyX12_ok nmX12 in_X12 g_a rfl (by decide) q1477 (fun _ h9 => h9) rfl rfl (tyX12_ok 0 (by decide)) rfl rfl (Nat.le_of_ble_eq_true rfl) rfl dX12_init_6 rfl (fun h510 e511 => ?_)
  have k512 := hu_fr e511
  have g513 := hu_at e511
  clear e511
  refine ga_aload_n 10 C.c 0 rfl rfl dX12_init_9 rfl ?_
  refine ga_iload_n 11 C.c 2 rfl rfl dX12_init_10 rfl ?_
  refine hh_putF 14 1 C hin (ref := "QuotedRiver$Act") (fs2 := [.int j, .int o, .null]) tyX12_ok nmX12 in_X12 g513 rfl (by decide) q1479 (fun _ h9 => h9) rfl rfl (tyX12_ok 1 (by decide)) rfl rfl (Nat.le_of_ble_eq_true rfl) rfl dX12_init_11 rfl (fun h514 e515 => ?_)
  have k516 := hu_fr e515
  have g517 := hu_at e515
  clear e515
  refine ga_aload_n 15 C.c 0 rfl rfl dX12_init_14 rfl ?_
  refine ga_aload_n 16 C.c 3 rfl rfl dX12_init_15 rfl ?_
  refine hh_putF 19 2 C hin (ref := "QuotedRiver$Act") (fs2 := [.int j, .int o, .ref r]) tyX12_ok nmX12 in_X12 g517 rfl (by decide) q1481 (fun _ h9 => h9) rfl rfl (tyX12_ok 2 (by decide)) rfl rfl (Nat.le_of_ble_eq_true rfl) rfl dX12_init_16 rfl (fun h518 e519 => ?_)
  have k520 := hu_fr e519
  have g521 := hu_at e519
  clear e519
  have kF522 : hfr h h518 [a] := by
    intro b e nb hb
    have b523 := k512 b e (nm1 (nx nb (by simp))) hb
    have b524 := k516 b e (nm1 (nx nb (by simp))) b523
    have b525 := k520 b e (nm1 (nx nb (by simp))) b524
    exact b525
  exact hw_vret C hr hlk hq (Nat.le_of_ble_eq_true rfl) (Nat.le_of_ble_eq_true rfl) ⟨rfl, g521, kF522⟩ dX12_init_19
theorem cd_X3_init : yX3_init.cls ≠ "java/lang/invoke/MethodHandle" ∧ yX3_init.cls ≠ "java/lang/invoke/VarHandle" ∧ (parseMethodDescriptor yX3_init.desc).map (fun d => d.parameters.length) = some 1 := by decide +kernel
set_option maxHeartbeats 4000000 in
theorem met_X3_init (l : Launch) (D : va_G) (kk : Nat → Nat) (dE : Nat → Nat) (A : Nat → Prop) (h : hG) (a t : Nat) (g_a : h a = some (.inr (4, [.null, .null, .int 0, .int 0, .int 0, .int 0, .int 0, .int 0, .null]))) : Met l yX3_init (ws_ yX3_init cX3_init 2 none) ({ frames := 1, cells := 2, slots := 122, locals := 20 } : Room) (hw_Pc D kk dE A h [.ref a, .ref t]) (hw_Qc D A (fun v h2 => v = none ∧ ∃ x y, h x = none ∧ h y = none ∧ x ≠ y ∧ h2 a = some (.inr (4, [.ref x, .ref y, .int 0, .int 0, .int 0, .int 0, .int 0, .int 0, .ref t])) ∧ h2 x = some (.inl (kk 0, 61, .inl (fun _ => 0))) ∧ h2 y = some (.inl (kk 0, 61, .inl (fun _ => 0))) ∧ hfr h h2 [a])) (2) (122) A := by
  refine hw_of (RX := RX3) (lo := [some (.ref a), some (.ref t)]) (by decide) rfl (Nat.le_of_ble_eq_true rfl) rfl (fun E C hin hr hlk hq => ?_)
  refine ga_aload_n 1 C.c 0 rfl rfl dX3_init_0 rfl ?_
  refine ga_aload_n 2 C.c 1 rfl rfl dX3_init_1 rfl ?_
  refine hh_putF 5 8 C hin (ref := "QuotedRiver$Water") (fs2 := [.null, .null, .int 0, .int 0, .int 0, .int 0, .int 0, .int 0, .ref t]) tyX3_ok nmX3 in_X3 g_a rfl (by decide) q458 (fun _ h9 => h9) rfl rfl (tyX3_ok 8 (by decide)) rfl rfl (Nat.le_of_ble_eq_true rfl) rfl dX3_init_2 rfl (fun h526 e527 => ?_)
  have k528 := hu_fr e527
  have g529 := hu_at e527
  clear e527
  refine ga_aload_n 6 C.c 0 rfl rfl dX3_init_5 rfl ?_
  refine hh_obj 9 C q440 q157 q158 (Nat.le_of_ble_eq_true rfl) (Nat.le_of_ble_eq_true rfl) (Nat.le_of_ble_eq_true rfl) dX3_init_6 rfl ?_
  refine ga_aload_n 10 C.c 0 rfl rfl dX3_init_9 rfl ?_
  refine ga_bipush 12 C.c (v := 61) (by decide) dX3_init_10 rfl ?_
  refine hh_newa 14 0 C (atype := .int) (a0 := (61, .inl (fun _ => 0))) q232 rfl rfl (fun _ => rfl) (by decide) (by decide) (by decide) (Nat.le_of_ble_eq_true rfl) (Nat.le_of_ble_eq_true rfl) dX3_init_12 rfl (fun o530 h531 n533 a534 e532 => ?_)
  have k535 := hu_fr0 e532 n533
  have g536 := hu_at e532
  clear e532
  have ne537 : a ≠ o530 := hn_ne g529 n533
  have g538 := k535 _ _ List.not_mem_nil g529
  refine hh_putF 17 0 C hin (ref := "QuotedRiver$Water") (fs2 := [.ref o530, .null, .int 0, .int 0, .int 0, .int 0, .int 0, .int 0, .ref t]) tyX3_ok nmX3 in_X3 g538 rfl (by decide) q441 (fun _ h9 => h9) rfl rfl (tyX3_ok 0 (by decide)) rfl rfl (Nat.le_of_ble_eq_true rfl) rfl dX3_init_14 rfl (fun h539 e540 => ?_)
  have k541 := hu_fr e540
  have g542 := hu_at e540
  clear e540
  have g543 := k541 _ _ (nm1 (Ne.symm ne537)) g536
  refine ga_aload_n 18 C.c 0 rfl rfl dX3_init_17 rfl ?_
  refine ga_bipush 20 C.c (v := 61) (by decide) dX3_init_18 rfl ?_
  refine hh_newa 22 0 C (atype := .int) (a0 := (61, .inl (fun _ => 0))) q232 rfl rfl (fun _ => rfl) (by decide) (by decide) (by decide) (Nat.le_of_ble_eq_true rfl) (Nat.le_of_ble_eq_true rfl) dX3_init_20 rfl (fun o544 h545 n547 a548 e546 => ?_)
  have k549 := hu_fr0 e546 n547
  have g550 := hu_at e546
  clear e546
  have ne551 : a ≠ o544 := hn_ne g542 n547
  have ne552 : o530 ≠ o544 := hn_ne g543 n547
  have g553 := k549 _ _ List.not_mem_nil g542
  have g554 := k549 _ _ List.not_mem_nil g543
  refine hh_putF 25 1 C hin (ref := "QuotedRiver$Water") (fs2 := [.ref o530, .ref o544, .int 0, .int 0, .int 0, .int 0, .int 0, .int 0, .ref t]) tyX3_ok nmX3 in_X3 g553 rfl (by decide) q443 (fun _ h9 => h9) rfl rfl (tyX3_ok 1 (by decide)) rfl rfl (Nat.le_of_ble_eq_true rfl) rfl dX3_init_22 rfl (fun h555 e556 => ?_)
  have k557 := hu_fr e556
  have g558 := hu_at e556
  clear e556
  have g559 := k557 _ _ (nm1 (Ne.symm ne537)) g554
  have g560 := k557 _ _ (nm1 (Ne.symm ne551)) g550
  have nd561 : h o530 = none := by
    cases c9 : h o530 with
    | none => rfl
    | some e9 =>
      have b562 := k528 o530 e9 (nm1 (Ne.symm ne537)) c9
      rw [n533] at b562
      cases b562
  have nd563 : h o544 = none := by
    cases c9 : h o544 with
    | none => rfl
    | some e9 =>
      have b564 := k528 o544 e9 (nm1 (Ne.symm ne551)) c9
      have b565 := k535 o544 e9 List.not_mem_nil b564
      have b566 := k541 o544 e9 (nm1 (Ne.symm ne551)) b565
      rw [n547] at b566
      cases b566
  have kF567 : hfr h h555 [a] := by
    intro b e nb hb
    have b568 := k528 b e (nm1 (nx nb (by simp))) hb
    have m_o530 : b ≠ o530 := hn_ne b568 n533
    have b569 := k535 b e List.not_mem_nil b568
    have b570 := k541 b e (nm1 (nx nb (by simp))) b569
    have m_o544 : b ≠ o544 := hn_ne b570 n547
    have b571 := k549 b e List.not_mem_nil b570
    have b572 := k557 b e (nm1 (nx nb (by simp))) b571
    exact b572
  exact hw_vret C hr hlk hq (Nat.le_of_ble_eq_true rfl) (Nat.le_of_ble_eq_true rfl) ⟨rfl, o530, o544, nd561, nd563, ne552, g558, g559, g560, kF567⟩ dX3_init_25
theorem cd_X4_init : yX4_init.cls ≠ "java/lang/invoke/MethodHandle" ∧ yX4_init.cls ≠ "java/lang/invoke/VarHandle" ∧ (parseMethodDescriptor yX4_init.desc).map (fun d => d.parameters.length) = some 1 := by decide +kernel
set_option maxHeartbeats 4000000 in
theorem met_X4_init (l : Launch) (D : va_G) (kk : Nat → Nat) (dE : Nat → Nat) (A : Nat → Prop) (h : hG) (a t : Nat) (g_a : h a = some (.inr (5, [.null, .int 0, .int 0, .int 0, .int 0, .int 0, .int 0, .int 0, .null]))) : Met l yX4_init (ws_ yX4_init cX4_init 2 none) ({ frames := 1, cells := 1, slots := 61, locals := 20 } : Room) (hw_Pc D kk dE A h [.ref a, .ref t]) (hw_Qc D A (fun v h2 => v = none ∧ ∃ x, h x = none ∧ h2 a = some (.inr (5, [.ref x, .int 0, .int 0, .int 0, .int 0, .int 0, .int 0, .int 0, .ref t])) ∧ h2 x = some (.inl (kk 0, 61, .inl (fun _ => 0))) ∧ hfr h h2 [a])) (1) (61) A := by
  refine hw_of (RX := RX4) (lo := [some (.ref a), some (.ref t)]) (by decide) rfl (Nat.le_of_ble_eq_true rfl) rfl (fun E C hin hr hlk hq => ?_)
  refine ga_aload_n 1 C.c 0 rfl rfl dX4_init_0 rfl ?_
  refine ga_aload_n 2 C.c 1 rfl rfl dX4_init_1 rfl ?_
  refine hh_putF 5 8 C hin (ref := "QuotedRiver$Stick") (fs2 := [.null, .int 0, .int 0, .int 0, .int 0, .int 0, .int 0, .int 0, .ref t]) tyX4_ok nmX4 in_X4 g_a rfl (by decide) q499 (fun _ h9 => h9) rfl rfl (tyX4_ok 8 (by decide)) rfl rfl (Nat.le_of_ble_eq_true rfl) rfl dX4_init_2 rfl (fun h573 e574 => ?_)
  have k575 := hu_fr e574
  have g576 := hu_at e574
  clear e574
  refine ga_aload_n 6 C.c 0 rfl rfl dX4_init_5 rfl ?_
  refine hh_obj 9 C q483 q157 q158 (Nat.le_of_ble_eq_true rfl) (Nat.le_of_ble_eq_true rfl) (Nat.le_of_ble_eq_true rfl) dX4_init_6 rfl ?_
  refine ga_aload_n 10 C.c 0 rfl rfl dX4_init_9 rfl ?_
  refine ga_bipush 12 C.c (v := 61) (by decide) dX4_init_10 rfl ?_
  refine hh_newa 14 0 C (atype := .int) (a0 := (61, .inl (fun _ => 0))) q232 rfl rfl (fun _ => rfl) (by decide) (by decide) (by decide) (Nat.le_of_ble_eq_true rfl) (Nat.le_of_ble_eq_true rfl) dX4_init_12 rfl (fun o577 h578 n580 a581 e579 => ?_)
  have k582 := hu_fr0 e579 n580
  have g583 := hu_at e579
  clear e579
  have ne584 : a ≠ o577 := hn_ne g576 n580
  have g585 := k582 _ _ List.not_mem_nil g576
  refine hh_putF 17 0 C hin (ref := "QuotedRiver$Stick") (fs2 := [.ref o577, .int 0, .int 0, .int 0, .int 0, .int 0, .int 0, .int 0, .ref t]) tyX4_ok nmX4 in_X4 g585 rfl (by decide) q484 (fun _ h9 => h9) rfl rfl (tyX4_ok 0 (by decide)) rfl rfl (Nat.le_of_ble_eq_true rfl) rfl dX4_init_14 rfl (fun h586 e587 => ?_)
  have k588 := hu_fr e587
  have g589 := hu_at e587
  clear e587
  have g590 := k588 _ _ (nm1 (Ne.symm ne584)) g583
  have nd591 : h o577 = none := by
    cases c9 : h o577 with
    | none => rfl
    | some e9 =>
      have b592 := k575 o577 e9 (nm1 (Ne.symm ne584)) c9
      rw [n580] at b592
      cases b592
  have kF593 : hfr h h586 [a] := by
    intro b e nb hb
    have b594 := k575 b e (nm1 (nx nb (by simp))) hb
    have m_o577 : b ≠ o577 := hn_ne b594 n580
    have b595 := k582 b e List.not_mem_nil b594
    have b596 := k588 b e (nm1 (nx nb (by simp))) b595
    exact b596
  exact hw_vret C hr hlk hq (Nat.le_of_ble_eq_true rfl) (Nat.le_of_ble_eq_true rfl) ⟨rfl, o577, nd591, g589, g590, kF593⟩ dX4_init_17
theorem cd_X5_init : yX5_init.cls ≠ "java/lang/invoke/MethodHandle" ∧ yX5_init.cls ≠ "java/lang/invoke/VarHandle" ∧ (parseMethodDescriptor yX5_init.desc).map (fun d => d.parameters.length) = some 1 := by decide +kernel
set_option maxHeartbeats 4000000 in
theorem met_X5_init (l : Launch) (D : va_G) (kk : Nat → Nat) (dE : Nat → Nat) (A : Nat → Prop) (h : hG) (a t : Nat) (g_a : h a = some (.inr (6, [.null, .int 0, .int 0, .int 0, .int 0, .int 0, .null]))) : Met l yX5_init (ws_ yX5_init cX5_init 2 none) ({ frames := 1, cells := 1, slots := 793, locals := 20 } : Room) (hw_Pc D kk dE A h [.ref a, .ref t]) (hw_Qc D A (fun v h2 => v = none ∧ ∃ x, h x = none ∧ h2 a = some (.inr (6, [.ref x, .int 0, .int 0, .int 0, .int 0, .int 0, .ref t])) ∧ h2 x = some (.inl (kk 0, 793, .inl (fun _ => 0))) ∧ hfr h h2 [a])) (1) (793) A := by
  refine hw_of (RX := RX5) (lo := [some (.ref a), some (.ref t)]) (by decide) rfl (Nat.le_of_ble_eq_true rfl) rfl (fun E C hin hr hlk hq => ?_)
  refine ga_aload_n 1 C.c 0 rfl rfl dX5_init_0 rfl ?_
  refine ga_aload_n 2 C.c 1 rfl rfl dX5_init_1 rfl ?_
  refine hh_putF 5 6 C hin (ref := "QuotedRiver$Seen") (fs2 := [.null, .int 0, .int 0, .int 0, .int 0, .int 0, .ref t]) tyX5_ok nmX5 in_X5 g_a rfl (by decide) q536 (fun _ h9 => h9) rfl rfl (tyX5_ok 6 (by decide)) rfl rfl (Nat.le_of_ble_eq_true rfl) rfl dX5_init_2 rfl (fun h597 e598 => ?_)
  have k599 := hu_fr e598
  have g600 := hu_at e598
  clear e598
  refine ga_aload_n 6 C.c 0 rfl rfl dX5_init_5 rfl ?_
  refine hh_obj 9 C q524 q157 q158 (Nat.le_of_ble_eq_true rfl) (Nat.le_of_ble_eq_true rfl) (Nat.le_of_ble_eq_true rfl) dX5_init_6 rfl ?_
  refine ga_aload_n 10 C.c 0 rfl rfl dX5_init_9 rfl ?_
  refine ga_sipush 13 C.c (v := 793) (by decide) dX5_init_10 rfl ?_
  refine hh_newa 15 0 C (atype := .int) (a0 := (793, .inl (fun _ => 0))) q232 rfl rfl (fun _ => rfl) (by decide) (by decide) (by decide) (Nat.le_of_ble_eq_true rfl) (Nat.le_of_ble_eq_true rfl) dX5_init_13 rfl (fun o601 h602 n604 a605 e603 => ?_)
  have k606 := hu_fr0 e603 n604
  have g607 := hu_at e603
  clear e603
  have ne608 : a ≠ o601 := hn_ne g600 n604
  have g609 := k606 _ _ List.not_mem_nil g600
  refine hh_putF 18 0 C hin (ref := "QuotedRiver$Seen") (fs2 := [.ref o601, .int 0, .int 0, .int 0, .int 0, .int 0, .ref t]) tyX5_ok nmX5 in_X5 g609 rfl (by decide) q525 (fun _ h9 => h9) rfl rfl (tyX5_ok 0 (by decide)) rfl rfl (Nat.le_of_ble_eq_true rfl) rfl dX5_init_15 rfl (fun h610 e611 => ?_)
  have k612 := hu_fr e611
  have g613 := hu_at e611
  clear e611
  have g614 := k612 _ _ (nm1 (Ne.symm ne608)) g607
  have nd615 : h o601 = none := by
    cases c9 : h o601 with
    | none => rfl
    | some e9 =>
      have b616 := k599 o601 e9 (nm1 (Ne.symm ne608)) c9
      rw [n604] at b616
      cases b616
  have kF617 : hfr h h610 [a] := by
    intro b e nb hb
    have b618 := k599 b e (nm1 (nx nb (by simp))) hb
    have m_o601 : b ≠ o601 := hn_ne b618 n604
    have b619 := k606 b e List.not_mem_nil b618
    have b620 := k612 b e (nm1 (nx nb (by simp))) b619
    exact b620
  exact hw_vret C hr hlk hq (Nat.le_of_ble_eq_true rfl) (Nat.le_of_ble_eq_true rfl) ⟨rfl, o601, nd615, g613, g614, kF617⟩ dX5_init_18
theorem cd_X9_same : yX9_same.cls = RX9 ∧ yX9_same.cls ≠ "java/lang/invoke/MethodHandle" ∧ yX9_same.cls ≠ "java/lang/invoke/VarHandle" ∧ (parseMethodDescriptor yX9_same.desc).map (fun d => d.parameters.length) = some 0 := by decide +kernel
set_option maxHeartbeats 4000000 in
theorem met_X9_same (l : Launch) (D : va_G) (kk : Nat → Nat) (dE : Nat → Nat) (A : Nat → Prop) (h : hG) (a : Nat) (x y z : Int32) (g_a : h a = some (.inr (9, [.int x, .int y, .int z]))) : Met l yX9_same (ws_ yX9_same cX9_same 2 (some (.object "QuotedRiver$Reach"))) ({ frames := 2, cells := 1, slots := 3, locals := 60 } : Room) (hw_Pc D kk dE A h [.ref a]) (hw_Qc D A (fun v h2 => ∃ q, h q = none ∧ v = some (.ref q) ∧ h2 q = some (.inr (9, [.int x, .int y, .int z])) ∧ hfr h h2 [])) (1) (3) A := by
  refine hw_of (RX := RX9) (lo := [some (.ref a), none]) (by decide) rfl (Nat.le_of_ble_eq_true rfl) rfl (fun E C hin hr hlk hq => ?_)
  refine hh_new 3 C (ci := 9) (fs := [.int 0, .int 0, .int 0]) tyX9 tyX9_ok in_X9 q1594 q797 q113 rfl (fun j hj => by rcases (show j = 0 ∨ j = 1 ∨ j = 2 by omega) with rfl | rfl | rfl <;> rfl) (Nat.le_of_ble_eq_true rfl) (Nat.le_of_ble_eq_true rfl) dX9_same_0 rfl (fun o621 h622 n624 a625 e623 => ?_)
  have k626 := hu_fr0 e623 n624
  have g627 := hu_at e623
  clear e623
  have ne628 : a ≠ o621 := hn_ne g_a n624
  have g629 := k626 _ _ List.not_mem_nil g_a
  refine ga_dup 4 C.c rfl dX9_same_3 rfl ?_
  refine hh_callI 7 C (as := []) (met_X9_init (eL E) D kk dE A _ o621) q1595 q799 q113 q800 rfl cd_X9_init rfl (Nat.le_of_ble_eq_true rfl) (Nat.le_of_ble_eq_true rfl) (Nat.le_of_ble_eq_true rfl) (Nat.le_of_ble_eq_true rfl) (Nat.le_of_ble_eq_true rfl) dX9_same_4 rfl (fun v631 h630 p632 => ?_)
  obtain ⟨rfl, e633⟩ := p632
  have e633 := e633.symm
  subst e633
  refine ga_astore_n 8 C.c 1 rfl (Nat.le_of_ble_eq_true rfl) rfl dX9_same_7 rfl ?_
  refine ga_aload_n 9 C.c 1 rfl rfl dX9_same_8 rfl ?_
  refine ga_aload_n 10 C.c 0 rfl rfl dX9_same_9 rfl ?_
  refine ga_get1 13 0 C.c C.ts (own := RX9) (ref := "QuotedRiver$Reach") C.ow C.k (hw_one g629) in_X9 rfl (by decide) q802 (fun _ h9 => h9) rfl dX9_same_10 rfl ?_
  refine hh_put 16 0 C (ref := "QuotedRiver$Reach") (fs2 := [.int x, .int 0, .int 0]) tyX9_ok nmX9 in_X9 g627 rfl (by decide) q802 (fun _ h9 => h9) rfl (tyX9_ok 0 (by decide)) rfl rfl (Nat.le_of_ble_eq_true rfl) rfl dX9_same_13 rfl (fun h634 e635 => ?_)
  have k636 := hu_fr e635
  have g637 := hu_at e635
  clear e635
  have g638 := k636 _ _ (nm1 ne628) g629
  refine ga_aload_n 17 C.c 1 rfl rfl dX9_same_16 rfl ?_
  refine ga_aload_n 18 C.c 0 rfl rfl dX9_same_17 rfl ?_
  refine ga_get1 21 1 C.c C.ts (own := RX9) (ref := "QuotedRiver$Reach") C.ow C.k (hw_one g638) in_X9 rfl (by decide) q806 (fun _ h9 => h9) rfl dX9_same_18 rfl ?_
  refine hh_put 24 1 C (ref := "QuotedRiver$Reach") (fs2 := [.int x, .int y, .int 0]) tyX9_ok nmX9 in_X9 g637 rfl (by decide) q806 (fun _ h9 => h9) rfl (tyX9_ok 1 (by decide)) rfl rfl (Nat.le_of_ble_eq_true rfl) rfl dX9_same_21 rfl (fun h639 e640 => ?_)
  have k641 := hu_fr e640
  have g642 := hu_at e640
  clear e640
  have g643 := k641 _ _ (nm1 ne628) g638
  refine ga_aload_n 25 C.c 1 rfl rfl dX9_same_24 rfl ?_
  refine ga_aload_n 26 C.c 0 rfl rfl dX9_same_25 rfl ?_
  refine ga_get1 29 2 C.c C.ts (own := RX9) (ref := "QuotedRiver$Reach") C.ow C.k (hw_one g643) in_X9 rfl (by decide) q810 (fun _ h9 => h9) rfl dX9_same_26 rfl ?_
  refine hh_put 32 2 C (ref := "QuotedRiver$Reach") (fs2 := [.int x, .int y, .int z]) tyX9_ok nmX9 in_X9 g642 rfl (by decide) q810 (fun _ h9 => h9) rfl (tyX9_ok 2 (by decide)) rfl rfl (Nat.le_of_ble_eq_true rfl) rfl dX9_same_29 rfl (fun h644 e645 => ?_)
  have k646 := hu_fr e645
  have g647 := hu_at e645
  clear e645
  have g648 := k646 _ _ (nm1 ne628) g643
  refine ga_aload_n 33 C.c 1 rfl rfl dX9_same_32 rfl ?_
  have nd649 : h o621 = none := by
    cases c9 : h o621 with
    | none => rfl
    | some e9 =>
      rw [n624] at c9
      cases c9
  have kF650 : hfr h h644 [] := by
    intro b e nb hb
    have m_o621 : b ≠ o621 := hn_ne hb n624
    have b651 := k626 b e List.not_mem_nil hb
    have b652 := k636 b e (nm1 m_o621) b651
    have b653 := k641 b e (nm1 m_o621) b652
    have b654 := k646 b e (nm1 m_o621) b653
    exact b654
  exact hw_aret C hr (Or.inl ⟨_, rfl⟩) (Or.inr ⟨_, rfl⟩) hlk hq (Nat.le_of_ble_eq_true rfl) (Nat.le_of_ble_eq_true rfl) ⟨o621, nd649, rfl, g647, kF650⟩ dX9_same_33
theorem cd_X2_init : yX2_init.cls ≠ "java/lang/invoke/MethodHandle" ∧ yX2_init.cls ≠ "java/lang/invoke/VarHandle" ∧ (parseMethodDescriptor yX2_init.desc).map (fun d => d.parameters.length) = some 0 := by decide +kernel
set_option maxHeartbeats 4000000 in
theorem met_X2_init (l : Launch) (D : va_G) (kk : Nat → Nat) (dE : Nat → Nat) (A : Nat → Prop) (h : hG) (a : Nat) (g_a : h a = some (.inr (3, [.null, .null, .null, .null, .int 0, .int 0, .int 0, .int 0]))) : Met l yX2_init (ws_ yX2_init cX2_init 1 none) ({ frames := 4, cells := 7, slots := 32, locals := 160 } : Room) (hw_Pc D kk dE A h [.ref a]) (hw_Qc D A (fun v h2 => v = none ∧ ∃ l0 l1 l2 l3 d0 d1 d2, h l0 = none ∧ h l1 = none ∧ h l2 = none ∧ h l3 = none ∧ h d0 = none ∧ h d1 = none ∧ h d2 = none ∧ l0 ≠ l1 ∧ l0 ≠ l2 ∧ l0 ≠ l3 ∧ l1 ≠ l2 ∧ l1 ≠ l3 ∧ l2 ≠ l3 ∧ d0 ≠ d1 ∧ d0 ≠ d2 ∧ d1 ≠ d2 ∧ h2 a = some (.inr (3, [.ref l0, .ref l1, .ref l2, .ref l3, .int 0, .int 0, .int 0, .int 0])) ∧ h2 l0 = some (.inr (13, [.int 0, .ref d0, .int 0])) ∧ h2 l1 = some (.inr (13, [.int 0, .ref d1, .int 0])) ∧ h2 l2 = some (.inr (13, [.int 0, .ref d2, .int 0])) ∧ h2 l3 = some (.inr (13, [.int 0, .ref (dE 0), .int 0])) ∧ h2 d0 = some (.inl (kk 5, 10, .inr (.inr (.inr (.inr (fun _ => none)))))) ∧ h2 d1 = some (.inl (kk 5, 5, .inr (.inr (.inr (.inr (fun _ => none)))))) ∧ h2 d2 = some (.inl (kk 5, 5, .inr (.inr (.inr (.inr (fun _ => none)))))) ∧ hfr h h2 [a])) (7) (32) A := by
  refine hw_of (RX := RX2) (lo := [some (.ref a)]) (by decide) rfl (Nat.le_of_ble_eq_true rfl) rfl (fun E C hin hr hlk hq => ?_)
  refine ga_aload_n 1 C.c 0 rfl rfl dX2_init_0 rfl ?_
  refine hh_obj 4 C q351 q157 q158 (Nat.le_of_ble_eq_true rfl) (Nat.le_of_ble_eq_true rfl) (Nat.le_of_ble_eq_true rfl) dX2_init_1 rfl ?_
  refine ga_aload_n 5 C.c 0 rfl rfl dX2_init_4 rfl ?_
  refine hh_new 8 C (ci := 13) (fs := [.int 0, .null, .int 0]) tyJ2 tyJ2_ok in_J2 q352 q353 q98 rfl (fun j hj => by rcases (show j = 0 ∨ j = 1 ∨ j = 2 by omega) with rfl | rfl | rfl <;> rfl) (Nat.le_of_ble_eq_true rfl) (Nat.le_of_ble_eq_true rfl) dX2_init_5 rfl (fun o655 h656 n658 a659 e657 => ?_)
  have k660 := hu_fr0 e657 n658
  have g661 := hu_at e657
  clear e657
  have ne662 : a ≠ o655 := hn_ne g_a n658
  have g663 := k660 _ _ List.not_mem_nil g_a
  refine ga_dup 9 C.c rfl dX2_init_8 rfl ?_
  refine ga_bipush 11 C.c (v := 10) (by decide) dX2_init_9 rfl ?_
  refine hh_callI 14 C (as := [.int 10]) (met_J2_init (eL E) D kk dE A _ o655 10 10 (by decide) (by decide) (by decide) (by decide) g661) q354 q355 q98 q356 rfl cd_J2_init rfl (Nat.le_of_ble_eq_true rfl) (Nat.le_of_ble_eq_true rfl) (Nat.le_of_ble_eq_true rfl) (Nat.le_of_ble_eq_true rfl) (Nat.le_of_ble_eq_true rfl) dX2_init_11 rfl (fun v665 h664 p666 => ?_)
  obtain ⟨rfl, dh664, ndh664, gah664, gdh664, kah664⟩ := p666
  have ne667 : a ≠ dh664 := hn_ne g663 ndh664
  have ne668 : o655 ≠ dh664 := hn_ne g661 ndh664
  have g669 := kah664 _ _ (nm1 ne662) g663
  refine hh_putF 17 0 C hin (ref := "QuotedRiver$Rivers") (fs2 := [.ref o655, .null, .null, .null, .int 0, .int 0, .int 0, .int 0]) tyX2_ok nmX2 in_X2 g669 rfl (by decide) q388 (fun _ h9 => h9) rfl rfl (tyX2_ok 0 (by decide)) rfl rfl (Nat.le_of_ble_eq_true rfl) rfl dX2_init_14 rfl (fun h670 e671 => ?_)
  have k672 := hu_fr e671
  have g673 := hu_at e671
  clear e671
  have g674 := k672 _ _ (nm1 (Ne.symm ne662)) gah664
  have g675 := k672 _ _ (nm1 (Ne.symm ne667)) gdh664
  refine ga_aload_n 18 C.c 0 rfl rfl dX2_init_17 rfl ?_
  refine hh_new 21 C (ci := 13) (fs := [.int 0, .null, .int 0]) tyJ2 tyJ2_ok in_J2 q352 q353 q98 rfl (fun j hj => by rcases (show j = 0 ∨ j = 1 ∨ j = 2 by omega) with rfl | rfl | rfl <;> rfl) (Nat.le_of_ble_eq_true rfl) (Nat.le_of_ble_eq_true rfl) dX2_init_18 rfl (fun o676 h677 n679 a680 e678 => ?_)
  have k681 := hu_fr0 e678 n679
  have g682 := hu_at e678
  clear e678
  have ne683 : a ≠ o676 := hn_ne g673 n679
  have ne684 : o655 ≠ o676 := hn_ne g674 n679
  have ne685 : dh664 ≠ o676 := hn_ne g675 n679
  have g686 := k681 _ _ List.not_mem_nil g673
  have g687 := k681 _ _ List.not_mem_nil g674
  have g688 := k681 _ _ List.not_mem_nil g675
  refine ga_dup 22 C.c rfl dX2_init_21 rfl ?_
  refine ga_iconst 23 C.c (v := 5) (by decide) dX2_init_22 rfl ?_
  refine hh_callI 26 C (as := [.int 5]) (met_J2_init (eL E) D kk dE A _ o676 5 5 (by decide) (by decide) (by decide) (by decide) g682) q354 q355 q98 q356 rfl cd_J2_init rfl (Nat.le_of_ble_eq_true rfl) (Nat.le_of_ble_eq_true rfl) (Nat.le_of_ble_eq_true rfl) (Nat.le_of_ble_eq_true rfl) (Nat.le_of_ble_eq_true rfl) dX2_init_23 rfl (fun v690 h689 p691 => ?_)
  obtain ⟨rfl, dh689, ndh689, gah689, gdh689, kah689⟩ := p691
  have ne692 : a ≠ dh689 := hn_ne g686 ndh689
  have ne693 : o655 ≠ dh689 := hn_ne g687 ndh689
  have ne694 : dh664 ≠ dh689 := hn_ne g688 ndh689
  have ne695 : o676 ≠ dh689 := hn_ne g682 ndh689
  have g696 := kah689 _ _ (nm1 ne683) g686
  have g697 := kah689 _ _ (nm1 ne684) g687
  have g698 := kah689 _ _ (nm1 ne685) g688
  refine hh_putF 29 1 C hin (ref := "QuotedRiver$Rivers") (fs2 := [.ref o655, .ref o676, .null, .null, .int 0, .int 0, .int 0, .int 0]) tyX2_ok nmX2 in_X2 g696 rfl (by decide) q391 (fun _ h9 => h9) rfl rfl (tyX2_ok 1 (by decide)) rfl rfl (Nat.le_of_ble_eq_true rfl) rfl dX2_init_26 rfl (fun h699 e700 => ?_)
  have k701 := hu_fr e700
  have g702 := hu_at e700
  clear e700
  have g703 := k701 _ _ (nm1 (Ne.symm ne662)) g697
  have g704 := k701 _ _ (nm1 (Ne.symm ne667)) g698
  have g705 := k701 _ _ (nm1 (Ne.symm ne683)) gah689
  have g706 := k701 _ _ (nm1 (Ne.symm ne692)) gdh689
  refine ga_aload_n 30 C.c 0 rfl rfl dX2_init_29 rfl ?_
  refine hh_new 33 C (ci := 13) (fs := [.int 0, .null, .int 0]) tyJ2 tyJ2_ok in_J2 q352 q353 q98 rfl (fun j hj => by rcases (show j = 0 ∨ j = 1 ∨ j = 2 by omega) with rfl | rfl | rfl <;> rfl) (Nat.le_of_ble_eq_true rfl) (Nat.le_of_ble_eq_true rfl) dX2_init_30 rfl (fun o707 h708 n710 a711 e709 => ?_)
  have k712 := hu_fr0 e709 n710
  have g713 := hu_at e709
  clear e709
  have ne714 : a ≠ o707 := hn_ne g702 n710
  have ne715 : o655 ≠ o707 := hn_ne g703 n710
  have ne716 : dh664 ≠ o707 := hn_ne g704 n710
  have ne717 : o676 ≠ o707 := hn_ne g705 n710
  have ne718 : dh689 ≠ o707 := hn_ne g706 n710
  have g719 := k712 _ _ List.not_mem_nil g702
  have g720 := k712 _ _ List.not_mem_nil g703
  have g721 := k712 _ _ List.not_mem_nil g704
  have g722 := k712 _ _ List.not_mem_nil g705
  have g723 := k712 _ _ List.not_mem_nil g706
  refine ga_dup 34 C.c rfl dX2_init_33 rfl ?_
  refine ga_iconst 35 C.c (v := 5) (by decide) dX2_init_34 rfl ?_
  refine hh_callI 38 C (as := [.int 5]) (met_J2_init (eL E) D kk dE A _ o707 5 5 (by decide) (by decide) (by decide) (by decide) g713) q354 q355 q98 q356 rfl cd_J2_init rfl (Nat.le_of_ble_eq_true rfl) (Nat.le_of_ble_eq_true rfl) (Nat.le_of_ble_eq_true rfl) (Nat.le_of_ble_eq_true rfl) (Nat.le_of_ble_eq_true rfl) dX2_init_35 rfl (fun v725 h724 p726 => ?_)
  obtain ⟨rfl, dh724, ndh724, gah724, gdh724, kah724⟩ := p726
  have ne727 : a ≠ dh724 := hn_ne g719 ndh724
  have ne728 : o655 ≠ dh724 := hn_ne g720 ndh724
  have ne729 : dh664 ≠ dh724 := hn_ne g721 ndh724
  have ne730 : o676 ≠ dh724 := hn_ne g722 ndh724
  have ne731 : dh689 ≠ dh724 := hn_ne g723 ndh724
  have ne732 : o707 ≠ dh724 := hn_ne g713 ndh724
  have g733 := kah724 _ _ (nm1 ne714) g719
  have g734 := kah724 _ _ (nm1 ne715) g720
  have g735 := kah724 _ _ (nm1 ne716) g721
  have g736 := kah724 _ _ (nm1 ne717) g722
  have g737 := kah724 _ _ (nm1 ne718) g723
  refine hh_putF 41 2 C hin (ref := "QuotedRiver$Rivers") (fs2 := [.ref o655, .ref o676, .ref o707, .null, .int 0, .int 0, .int 0, .int 0]) tyX2_ok nmX2 in_X2 g733 rfl (by decide) q395 (fun _ h9 => h9) rfl rfl (tyX2_ok 2 (by decide)) rfl rfl (Nat.le_of_ble_eq_true rfl) rfl dX2_init_38 rfl (fun h738 e739 => ?_)
  have k740 := hu_fr e739
  have g741 := hu_at e739
  clear e739
  have g742 := k740 _ _ (nm1 (Ne.symm ne662)) g734
  have g743 := k740 _ _ (nm1 (Ne.symm ne667)) g735
  have g744 := k740 _ _ (nm1 (Ne.symm ne683)) g736
  have g745 := k740 _ _ (nm1 (Ne.symm ne692)) g737
  have g746 := k740 _ _ (nm1 (Ne.symm ne714)) gah724
  have g747 := k740 _ _ (nm1 (Ne.symm ne727)) gdh724
  refine ga_aload_n 42 C.c 0 rfl rfl dX2_init_41 rfl ?_
  refine hh_new 45 C (ci := 13) (fs := [.int 0, .null, .int 0]) tyJ2 tyJ2_ok in_J2 q352 q353 q98 rfl (fun j hj => by rcases (show j = 0 ∨ j = 1 ∨ j = 2 by omega) with rfl | rfl | rfl <;> rfl) (Nat.le_of_ble_eq_true rfl) (Nat.le_of_ble_eq_true rfl) dX2_init_42 rfl (fun o748 h749 n751 a752 e750 => ?_)
  have k753 := hu_fr0 e750 n751
  have g754 := hu_at e750
  clear e750
  have ne755 : a ≠ o748 := hn_ne g741 n751
  have ne756 : o655 ≠ o748 := hn_ne g742 n751
  have ne757 : dh664 ≠ o748 := hn_ne g743 n751
  have ne758 : o676 ≠ o748 := hn_ne g744 n751
  have ne759 : dh689 ≠ o748 := hn_ne g745 n751
  have ne760 : o707 ≠ o748 := hn_ne g746 n751
  have ne761 : dh724 ≠ o748 := hn_ne g747 n751
  have g762 := k753 _ _ List.not_mem_nil g741
  have g763 := k753 _ _ List.not_mem_nil g742
  have g764 := k753 _ _ List.not_mem_nil g743
  have g765 := k753 _ _ List.not_mem_nil g744
  have g766 := k753 _ _ List.not_mem_nil g745
  have g767 := k753 _ _ List.not_mem_nil g746
  have g768 := k753 _ _ List.not_mem_nil g747
  refine ga_dup 46 C.c rfl dX2_init_45 rfl ?_
  refine hh_callI 49 C (as := []) (met_J2_init_2 (eL E) D kk dE A _ o748 g754) q383 q384 q98 q385 rfl cd_J2_init_2 rfl (Nat.le_of_ble_eq_true rfl) (Nat.le_of_ble_eq_true rfl) (Nat.le_of_ble_eq_true rfl) (Nat.le_of_ble_eq_true rfl) (Nat.le_of_ble_eq_true rfl) dX2_init_46 rfl (fun v770 h769 p771 => ?_)
  obtain ⟨rfl, gah769, kah769⟩ := p771
  have g772 := kah769 _ _ (nm1 ne755) g762
  have g773 := kah769 _ _ (nm1 ne756) g763
  have g774 := kah769 _ _ (nm1 ne757) g764
  have g775 := kah769 _ _ (nm1 ne758) g765
  have g776 := kah769 _ _ (nm1 ne759) g766
  have g777 := kah769 _ _ (nm1 ne760) g767
  have g778 := kah769 _ _ (nm1 ne761) g768
  refine hh_putF 52 3 C hin (ref := "QuotedRiver$Rivers") (fs2 := [.ref o655, .ref o676, .ref o707, .ref o748, .int 0, .int 0, .int 0, .int 0]) tyX2_ok nmX2 in_X2 g772 rfl (by decide) q399 (fun _ h9 => h9) rfl rfl (tyX2_ok 3 (by decide)) rfl rfl (Nat.le_of_ble_eq_true rfl) rfl dX2_init_49 rfl (fun h779 e780 => ?_)
  have k781 := hu_fr e780
  have g782 := hu_at e780
  clear e780
  have g783 := k781 _ _ (nm1 (Ne.symm ne662)) g773
  have g784 := k781 _ _ (nm1 (Ne.symm ne667)) g774
  have g785 := k781 _ _ (nm1 (Ne.symm ne683)) g775
  have g786 := k781 _ _ (nm1 (Ne.symm ne692)) g776
  have g787 := k781 _ _ (nm1 (Ne.symm ne714)) g777
  have g788 := k781 _ _ (nm1 (Ne.symm ne727)) g778
  have g789 := k781 _ _ (nm1 (Ne.symm ne755)) gah769
  have nd790 : h o655 = none := by
    cases c9 : h o655 with
    | none => rfl
    | some e9 =>
      rw [n658] at c9
      cases c9
  have nd791 : h o676 = none := by
    cases c9 : h o676 with
    | none => rfl
    | some e9 =>
      have b792 := k660 o676 e9 List.not_mem_nil c9
      have b793 := kah664 o676 e9 (nm1 (Ne.symm ne684)) b792
      have b794 := k672 o676 e9 (nm1 (Ne.symm ne683)) b793
      rw [n679] at b794
      cases b794
  have nd795 : h o707 = none := by
    cases c9 : h o707 with
    | none => rfl
    | some e9 =>
      have b796 := k660 o707 e9 List.not_mem_nil c9
      have b797 := kah664 o707 e9 (nm1 (Ne.symm ne715)) b796
      have b798 := k672 o707 e9 (nm1 (Ne.symm ne714)) b797
      have b799 := k681 o707 e9 List.not_mem_nil b798
      have b800 := kah689 o707 e9 (nm1 (Ne.symm ne717)) b799
      have b801 := k701 o707 e9 (nm1 (Ne.symm ne714)) b800
      rw [n710] at b801
      cases b801
  have nd802 : h o748 = none := by
    cases c9 : h o748 with
    | none => rfl
    | some e9 =>
      have b803 := k660 o748 e9 List.not_mem_nil c9
      have b804 := kah664 o748 e9 (nm1 (Ne.symm ne756)) b803
      have b805 := k672 o748 e9 (nm1 (Ne.symm ne755)) b804
      have b806 := k681 o748 e9 List.not_mem_nil b805
      have b807 := kah689 o748 e9 (nm1 (Ne.symm ne758)) b806
      have b808 := k701 o748 e9 (nm1 (Ne.symm ne755)) b807
      have b809 := k712 o748 e9 List.not_mem_nil b808
      have b810 := kah724 o748 e9 (nm1 (Ne.symm ne760)) b809
      have b811 := k740 o748 e9 (nm1 (Ne.symm ne755)) b810
      rw [n751] at b811
      cases b811
  have nd812 : h dh664 = none := by
    cases c9 : h dh664 with
    | none => rfl
    | some e9 =>
      have b813 := k660 dh664 e9 List.not_mem_nil c9
      rw [ndh664] at b813
      cases b813
  have nd814 : h dh689 = none := by
    cases c9 : h dh689 with
    | none => rfl
    | some e9 =>
      have b815 := k660 dh689 e9 List.not_mem_nil c9
      have b816 := kah664 dh689 e9 (nm1 (Ne.symm ne693)) b815
      have b817 := k672 dh689 e9 (nm1 (Ne.symm ne692)) b816
      have b818 := k681 dh689 e9 List.not_mem_nil b817
      rw [ndh689] at b818
      cases b818
  have nd819 : h dh724 = none := by
    cases c9 : h dh724 with
    | none => rfl
    | some e9 =>
      have b820 := k660 dh724 e9 List.not_mem_nil c9
      have b821 := kah664 dh724 e9 (nm1 (Ne.symm ne728)) b820
      have b822 := k672 dh724 e9 (nm1 (Ne.symm ne727)) b821
      have b823 := k681 dh724 e9 List.not_mem_nil b822
      have b824 := kah689 dh724 e9 (nm1 (Ne.symm ne730)) b823
      have b825 := k701 dh724 e9 (nm1 (Ne.symm ne727)) b824
      have b826 := k712 dh724 e9 List.not_mem_nil b825
      rw [ndh724] at b826
      cases b826
  have kF827 : hfr h h779 [a] := by
    intro b e nb hb
    have m_o655 : b ≠ o655 := hn_ne hb n658
    have b828 := k660 b e List.not_mem_nil hb
    have m_dh664 : b ≠ dh664 := hn_ne b828 ndh664
    have b829 := kah664 b e (nm1 m_o655) b828
    have b830 := k672 b e (nm1 (nx nb (by simp))) b829
    have m_o676 : b ≠ o676 := hn_ne b830 n679
    have b831 := k681 b e List.not_mem_nil b830
    have m_dh689 : b ≠ dh689 := hn_ne b831 ndh689
    have b832 := kah689 b e (nm1 m_o676) b831
    have b833 := k701 b e (nm1 (nx nb (by simp))) b832
    have m_o707 : b ≠ o707 := hn_ne b833 n710
    have b834 := k712 b e List.not_mem_nil b833
    have m_dh724 : b ≠ dh724 := hn_ne b834 ndh724
    have b835 := kah724 b e (nm1 m_o707) b834
    have b836 := k740 b e (nm1 (nx nb (by simp))) b835
    have m_o748 : b ≠ o748 := hn_ne b836 n751
    have b837 := k753 b e List.not_mem_nil b836
    have b838 := kah769 b e (nm1 m_o748) b837
    have b839 := k781 b e (nm1 (nx nb (by simp))) b838
    exact b839
  exact hw_vret C hr hlk hq (Nat.le_of_ble_eq_true rfl) (Nat.le_of_ble_eq_true rfl) ⟨rfl, o655, o676, o707, o748, dh664, dh689, dh724, nd790, nd791, nd795, nd802, nd812, nd814, nd819, ne684, ne715, ne756, ne717, ne758, ne760, ne694, ne729, ne731, g782, g783, g785, g787, g789, g784, g786, g788, kF827⟩ dX2_init_52
