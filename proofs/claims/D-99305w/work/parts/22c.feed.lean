set_option maxRecDepth 100000
theorem cd_X0_feed : yX0_feed.cls = RX0 ∧ yX0_feed.cls ≠ "java/lang/invoke/MethodHandle" ∧ yX0_feed.cls ≠ "java/lang/invoke/VarHandle" ∧ (parseMethodDescriptor yX0_feed.desc).map (fun d => d.parameters.length) = some 5 := by decide +kernel
set_option maxHeartbeats 4000000 in
theorem met_X0_feed (l : Launch) (D : va_G) (kk : Nat → Nat) (dE : Nat → Nat) (A : Nat → Prop) (h : hG) (g : Nat → Nat) (z : MS) (G : XG) (S : XL) (p : PS) (M : XI) (X : XF kk dE h g z G S p M) (a1 a2 a3 a4 a5 : Int32) (t : Nat) (ht : mi z 0 = nI t) (ht2 : t ≤ 700) (hroom : mi z 0 + 20 ≤ 700 → t + 20 ≤ 700) : Met l yX0_feed (ws_ yX0_feed cX0_feed 8 (some .int)) ({ frames := 2, cells := 1, slots := 5, locals := 60 } : Room) (hw_Pc D kk dE A h [.ref (g 0), .int a1, .int a2, .int a3, .int a4, .int a5]) (hw_Qc D A (fun v h2 => (¬ mi z 0 + 20 ≤ 700 → v = some (.int (-1)) ∧ h2 = h) ∧ (mi z 0 + 20 ≤ 700 → v = some (.int (mi z 0 + 20)) ∧ XF kk dE h2 g (msi (fd_s (fd_f a1 a2 a3 a4 a5) z 20) 0 (mi z 0 + 20)) G S p M))) (1) (5) A := by
  refine hw_of (RX := RX0) (lo := [some (.ref (g 0)), some (.int a1), some (.int a2), some (.int a3), some (.int a4), some (.int a5), none, none]) (by decide) rfl (Nat.le_of_ble_eq_true rfl) rfl (fun E C hin hr hlk hq => ?_)
  have g1497 : h (g 0) = some (.inr (0, [.ref (g 13), .ref (g 15), .ref (g 14), .ref (g 1), .int (mi z 0), .int (mi z 1), .int (mi z 2), .ref (g 2), .ref (g 5), .ref (g 7), .int (mi z 3), .ref (g 9), .int (mi z 4), .ref (g 11), .ref (g 12)])) := X.f 0 _ rfl
  refine ga_aload_n 1 C.c 0 rfl rfl dX0_feed_0 rfl ?_
  refine ga_get1 4 4 C.c C.ts (own := RX0) (ref := "QuotedRiver") C.ow C.k (hw_one g1497) in_X0 rfl (by decide) q557 (fun _ h9 => h9) rfl dX0_feed_1 rfl ?_
  refine ga_bipush 6 C.c (v := 20) (by decide) dX0_feed_4 rfl ?_
  refine ga_iadd 7 C.c dX0_feed_6 rfl ?_
  refine ga_sipush 10 C.c (v := 700) (by decide) dX0_feed_7 rfl ?_
  refine ga_icmp_le 15 13 C.c dX0_feed_10 (by decide) rfl (fun c1498 => ?_) (fun c1498 => ?_)
  · have ht3 : t + 20 ≤ 700 := hroom c1498
    refine ga_iconst 16 C.c (v := 5) (by decide) dX0_feed_15 rfl ?_
    refine hh_newa 18 0 C (atype := .int) (a0 := (5, .inl (fun _ => 0))) q232 rfl rfl (fun _ => rfl) (by decide) (by decide) (by decide) (Nat.le_of_ble_eq_true rfl) (Nat.le_of_ble_eq_true rfl) dX0_feed_16 rfl (fun o1499 h1500 n1502 a1503 e1501 => ?_)
    have k1504 := hu_fr0 e1501 n1502
    have g1505 := hu_at e1501
    clear e1501
    have ne1506 : (g 0) ≠ o1499 := hn_ne g1497 n1502
    have g1507 := k1504 _ _ List.not_mem_nil g1497
    refine ga_dup 19 C.c rfl dX0_feed_18 rfl ?_
    refine ga_iconst 20 C.c (v := 0) (by decide) dX0_feed_19 rfl ?_
    refine ga_iload_n 21 C.c 1 rfl rfl dX0_feed_20 rfl ?_
    refine hh_iast 22 0 C g1505 rfl (vp_in_iff.mpr (by decide)) dX0_feed_21 rfl (fun h1508 e1509 => ?_)
    have k1510 := hu_fr e1509
    have g1511 := hu_at e1509
    clear e1509
    have g1512 := k1510 _ _ (nm1 ne1506) g1507
    refine ga_dup 23 C.c rfl dX0_feed_22 rfl ?_
    refine ga_iconst 24 C.c (v := 1) (by decide) dX0_feed_23 rfl ?_
    refine ga_iload_n 25 C.c 2 rfl rfl dX0_feed_24 rfl ?_
    refine hh_iast 26 0 C g1511 rfl (vp_in_iff.mpr (by decide)) dX0_feed_25 rfl (fun h1513 e1514 => ?_)
    have k1515 := hu_fr e1514
    have g1516 := hu_at e1514
    clear e1514
    have g1517 := k1515 _ _ (nm1 ne1506) g1512
    refine ga_dup 27 C.c rfl dX0_feed_26 rfl ?_
    refine ga_iconst 28 C.c (v := 2) (by decide) dX0_feed_27 rfl ?_
    refine ga_iload_n 29 C.c 3 rfl rfl dX0_feed_28 rfl ?_
    refine hh_iast 30 0 C g1516 rfl (vp_in_iff.mpr (by decide)) dX0_feed_29 rfl (fun h1518 e1519 => ?_)
    have k1520 := hu_fr e1519
    have g1521 := hu_at e1519
    clear e1519
    have g1522 := k1520 _ _ (nm1 ne1506) g1517
    refine ga_dup 31 C.c rfl dX0_feed_30 rfl ?_
    refine ga_iconst 32 C.c (v := 3) (by decide) dX0_feed_31 rfl ?_
    refine ga_iload 34 C.c rfl dX0_feed_32 rfl ?_
    refine hh_iast 35 0 C g1521 rfl (vp_in_iff.mpr (by decide)) dX0_feed_34 rfl (fun h1523 e1524 => ?_)
    have k1525 := hu_fr e1524
    have g1526 := hu_at e1524
    clear e1524
    have g1527 := k1525 _ _ (nm1 ne1506) g1522
    refine ga_dup 36 C.c rfl dX0_feed_35 rfl ?_
    refine ga_iconst 37 C.c (v := 4) (by decide) dX0_feed_36 rfl ?_
    refine ga_iload 39 C.c rfl dX0_feed_37 rfl ?_
    refine hh_iast 40 0 C g1526 rfl (vp_in_iff.mpr (by decide)) dX0_feed_39 rfl (fun h1528 e1529 => ?_)
    have k1530 := hu_fr e1529
    have g1531 := hu_at e1529
    clear e1529
    have g1532 := k1530 _ _ (nm1 ne1506) g1527
    refine ga_astore 42 C.c 6 (Nat.le_of_ble_eq_true rfl) rfl dX0_feed_40 rfl ?_
    refine ga_iconst 43 C.c (v := 0) (by decide) dX0_feed_42 rfl ?_
    refine ga_istore 45 C.c 7 (Nat.le_of_ble_eq_true rfl) rfl dX0_feed_43 rfl ?_
    have kF1533 : hfr h h1528 [] := by
      intro b e nb hb
      have m_o1499 : b ≠ o1499 := hn_ne hb n1502
      have b1534 := k1504 b e List.not_mem_nil hb
      have b1535 := k1510 b e (nm1 m_o1499) b1534
      have b1536 := k1515 b e (nm1 m_o1499) b1535
      have b1537 := k1520 b e (nm1 m_o1499) b1536
      have b1538 := k1525 b e (nm1 m_o1499) b1537
      have b1539 := k1530 b e (nm1 m_o1499) b1538
      exact b1539
    have loop : ∀ (k i : Nat) (hx : hG), i + k = 20 → XF kk dE hx g (fd_s (fd_f a1 a2 a3 a4 a5) z i) G S p M → hx o1499 = some (.inl (kk 0, 5, .inl (fd_f a1 a2 a3 a4 a5))) → ga_W E 8 (hw_I E D A hx) (0 + 1) (0 + 5) 45 [some (.ref (g 0)), some (.int a1), some (.int a2), some (.int a3), some (.int a4), some (.int a5), some (.ref o1499), some (.int (nI i))] [] := by
      intro k
      induction k with
      | zero =>
        intro i hx hi XX gx
        have g0 : hx (g 0) = some (.inr (0, [.ref (g 13), .ref (g 15), .ref (g 14), .ref (g 1), .int (mi (fd_s (fd_f a1 a2 a3 a4 a5) z i) 0), .int (mi (fd_s (fd_f a1 a2 a3 a4 a5) z i) 1), .int (mi (fd_s (fd_f a1 a2 a3 a4 a5) z i) 2), .ref (g 2), .ref (g 5), .ref (g 7), .int (mi (fd_s (fd_f a1 a2 a3 a4 a5) z i) 3), .ref (g 9), .int (mi (fd_s (fd_f a1 a2 a3 a4 a5) z i) 4), .ref (g 11), .ref (g 12)])) := XX.f 0 _ rfl
        have g1 : hx (g 1) = some (.inl (kk 2, 700, .inl (ma (fd_s (fd_f a1 a2 a3 a4 a5) z i) 0))) := XX.f 1 _ rfl
        obtain rfl : i = 20 := by omega
        refine ga_iload 47 C.c rfl dX0_feed_45 rfl ?_
        refine ga_bipush 49 C.c (v := 20) (by decide) dX0_feed_47 rfl ?_
        refine ga_icmp_ge 89 52 C.c dX0_feed_49 (by decide) rfl (fun c1540 => ?_) (fun c1540 => absurd (by decide) c1540)
        refine ga_aload_n 90 C.c 0 rfl rfl dX0_feed_89 rfl ?_
        refine ga_dup 91 C.c rfl dX0_feed_90 rfl ?_
        refine ga_get1 94 4 C.c C.ts (own := RX0) (ref := "QuotedRiver") C.ow C.k (hw_one g0) in_X0 rfl (by decide) q557 (fun _ h9 => h9) rfl dX0_feed_91 rfl ?_
        refine ga_bipush 96 C.c (v := 20) (by decide) dX0_feed_94 rfl ?_
        refine ga_iadd 97 C.c dX0_feed_96 rfl ?_
        refine hh_put 100 4 C (ref := "QuotedRiver") (fs2 := [.ref (g 13), .ref (g 15), .ref (g 14), .ref (g 1), .int ((mi (fd_s (fd_f a1 a2 a3 a4 a5) z 20) 0) + 20), .int (mi (fd_s (fd_f a1 a2 a3 a4 a5) z 20) 1), .int (mi (fd_s (fd_f a1 a2 a3 a4 a5) z 20) 2), .ref (g 2), .ref (g 5), .ref (g 7), .int (mi (fd_s (fd_f a1 a2 a3 a4 a5) z 20) 3), .ref (g 9), .int (mi (fd_s (fd_f a1 a2 a3 a4 a5) z 20) 4), .ref (g 11), .ref (g 12)]) tyX0_ok nmX0 in_X0 g0 rfl (by decide) q557 (fun _ h9 => h9) rfl (tyX0_ok 4 (by decide)) rfl rfl (Nat.le_of_ble_eq_true rfl) rfl dX0_feed_97 rfl (fun h1541 e1542 => ?_)
        have k1543 := hu_fr e1542
        have g1544 := hu_at e1542
        clear e1542
        refine ga_aload_n 101 C.c 0 rfl rfl dX0_feed_100 rfl ?_
        refine ga_get1 104 4 C.c C.ts (own := RX0) (ref := "QuotedRiver") C.ow C.k (hw_one g1544) in_X0 rfl (by decide) q557 (fun _ h9 => h9) rfl dX0_feed_101 rfl ?_
        have X9 := XX.set (q := 0) (z2 := msi (fd_s (fd_f a1 a2 a3 a4 a5) z 20) 0 (mi (fd_s (fd_f a1 a2 a3 a4 a5) z 20) 0 + 20)) (by decide) k1543 g1544 rfl
        rw [fd_i] at X9
        exact hw_iret C hr hlk hq rfl (Nat.le_of_ble_eq_true rfl) (Nat.le_of_ble_eq_true rfl) ⟨fun q => absurd c1498 q, fun _ => ⟨by rw [fd_i], X9⟩⟩ dX0_feed_104
      | succ k ih =>
        intro i hx hi XX gx
        have g0 : hx (g 0) = some (.inr (0, [.ref (g 13), .ref (g 15), .ref (g 14), .ref (g 1), .int (mi (fd_s (fd_f a1 a2 a3 a4 a5) z i) 0), .int (mi (fd_s (fd_f a1 a2 a3 a4 a5) z i) 1), .int (mi (fd_s (fd_f a1 a2 a3 a4 a5) z i) 2), .ref (g 2), .ref (g 5), .ref (g 7), .int (mi (fd_s (fd_f a1 a2 a3 a4 a5) z i) 3), .ref (g 9), .int (mi (fd_s (fd_f a1 a2 a3 a4 a5) z i) 4), .ref (g 11), .ref (g 12)])) := XX.f 0 _ rfl
        have g1 : hx (g 1) = some (.inl (kk 2, 700, .inl (ma (fd_s (fd_f a1 a2 a3 a4 a5) z i) 0))) := XX.f 1 _ rfl
        refine ga_iload 47 C.c rfl dX0_feed_45 rfl ?_
        refine ga_bipush 49 C.c (v := 20) (by decide) dX0_feed_47 rfl ?_
        refine ga_icmp_ge 89 52 C.c dX0_feed_49 (by decide) rfl (fun c1545 => absurd c1545 (nI_ge (a := i) (b := 20) (by omega) (by decide))) (fun c1545 => ?_)
        refine ga_aload_n 53 C.c 0 rfl rfl dX0_feed_52 rfl ?_
        refine ga_get1 56 3 C.c C.ts (own := RX0) (ref := "QuotedRiver") C.ow C.k (hw_one g0) in_X0 rfl (by decide) q556 (fun _ h9 => h9) rfl dX0_feed_53 rfl ?_
        refine ga_aload_n 57 C.c 0 rfl rfl dX0_feed_56 rfl ?_
        refine ga_get1 60 4 C.c C.ts (own := RX0) (ref := "QuotedRiver") C.ow C.k (hw_one g0) in_X0 rfl (by decide) q557 (fun _ h9 => h9) rfl dX0_feed_57 rfl ?_
        refine ga_iload 62 C.c rfl dX0_feed_60 rfl ?_
        refine ga_iadd 63 C.c dX0_feed_62 rfl ?_
        refine ga_aload 65 C.c rfl dX0_feed_63 rfl ?_
        refine ga_iload 67 C.c rfl dX0_feed_65 rfl ?_
        refine ga_iconst 68 C.c (v := 4) (by decide) dX0_feed_67 rfl ?_
        refine ga_idiv 69 C.c (by decide) dX0_feed_68 rfl ?_
        refine ga_a1ldi 70 0 C.c C.k (hw_one gx) rfl (fd_in ⟨i, by omega⟩) dX0_feed_69 rfl ?_
        refine ga_bipush 72 C.c (v := 24) (by decide) dX0_feed_70 rfl ?_
        refine ga_bipush 74 C.c (v := 8) (by decide) dX0_feed_72 rfl ?_
        refine ga_iload 76 C.c rfl dX0_feed_74 rfl ?_
        refine ga_iconst 77 C.c (v := 4) (by decide) dX0_feed_76 rfl ?_
        refine ga_irem 78 C.c (by decide) dX0_feed_77 rfl ?_
        refine ga_imul 79 C.c dX0_feed_78 rfl ?_
        refine ga_isub 80 C.c dX0_feed_79 rfl ?_
        refine ga_ishr 81 C.c dX0_feed_80 rfl ?_
        refine ga_i2b 82 C.c dX0_feed_81 rfl ?_
        rw [fd_i, ht, nI_add]
        refine hh_bast 83 2 C g1 rfl (vp_in_nI (by omega) (by decide)) dX0_feed_82 rfl (fun h1546 e1547 => ?_)
        have kb := hu_fr e1547
        have gb := hu_at e1547
        rw [← nI_add, ← ht] at gb
        have X2 := XX.set (q := 1) (z2 := fd_s (fd_f a1 a2 a3 a4 a5) z (i + 1)) (by decide) kb gb rfl
        have gx2 := kb _ _ (nm1 (hne gx g1 (by simp))) gx
        refine ga_iinc 86 C.c rfl (v := (nI i) + 1) rfl (Nat.le_of_ble_eq_true rfl) rfl dX0_feed_83 rfl ?_
        refine ga_goto 45 C.c dX0_feed_86 (by decide) ?_
        rw [nI_1]
        exact ga_W.sub (ih (i + 1) _ (by omega) X2 gx2) (And.intro rfl (And.intro rfl (And.intro rfl (And.intro rfl (And.intro rfl (And.intro rfl (And.intro rfl (And.intro rfl trivial))))))))
    exact ga_W.sub (loop 20 0 _ (by omega) (X.fr kF1533) g1531) (And.intro rfl (And.intro rfl (And.intro rfl (And.intro rfl (And.intro rfl (And.intro rfl (And.intro rfl (And.intro rfl trivial))))))))
  · refine ga_iconst 14 C.c (v := (-1)) (by decide) dX0_feed_13 rfl ?_
    exact hw_iret C hr hlk hq rfl (Nat.le_of_ble_eq_true rfl) (Nat.le_of_ble_eq_true rfl) ⟨fun _ => ⟨rfl, rfl⟩, fun q => absurd q c1498⟩ dX0_feed_14
