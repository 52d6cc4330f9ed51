set_option maxRecDepth 100000
theorem cd_J2_fastRemove : yJ2_fastRemove.cls = RJ2 ∧ yJ2_fastRemove.cls ≠ "java/lang/invoke/MethodHandle" ∧ yJ2_fastRemove.cls ≠ "java/lang/invoke/VarHandle" ∧ (parseMethodDescriptor yJ2_fastRemove.desc).map (fun d => d.parameters.length) = some 2 := by decide +kernel
set_option maxHeartbeats 4000000 in
theorem met_J2_fastRemove (l : Launch) (D : va_G) (kk : Nat → Nat) (dE : Nat → Nat) (A : Nat → Prop) (h : hG) (a d cap j : Nat) (f : Nat → Option Nat) (m : Int32) (hj : j < cap) (hc : cap < 2 ^ 31) (g_a : h a = some (.inr (13, [.int m, .ref d, .int (nI (j + 1))]))) (g_d : h d = some (.inl (kk 5, cap, .inr (.inr (.inr (.inr f)))))) : Met l yJ2_fastRemove (ws_ yJ2_fastRemove cJ2_fastRemove 4 none) ({ frames := 0, cells := 0, slots := 0, locals := 0 } : Room) (hw_Pc D kk dE A h [.ref a, .ref d, .int (nI j)]) (hw_Qc D A (fun v h2 => v = none ∧ h2 a = some (.inr (13, [.int (m + 1), .ref d, .int (nI j)])) ∧ h2 d = some (.inl (kk 5, cap, .inr (.inr (.inr (.inr (va_up f j none)))))) ∧ hfr h h2 [a, d])) (0) (0) A := by
  refine hw_of (RX := RJ2) (lo := [some (.ref a), some (.ref d), some (.int (nI j)), none]) (by decide) rfl (Nat.le_of_ble_eq_true rfl) rfl (fun E C hin hr hlk hq => ?_)
  have ne312 : a ≠ d := hne g_a g_d (by simp)
  refine ga_aload_n 1 C.c 0 rfl rfl dJ2_fastRemove_0 rfl ?_
  refine ga_dup 2 C.c rfl dJ2_fastRemove_1 rfl ?_
  refine ga_get1 5 0 C.c C.ts (own := RJ2) (ref := "java/util/ArrayList") C.ow C.k (hw_one g_a) in_J2 rfl (by decide) q375 (fun x9 h9 => u_same (C.ts _ q374) x9 h9) rfl dJ2_fastRemove_2 rfl ?_
  refine ga_iconst 6 C.c (v := 1) (by decide) dJ2_fastRemove_5 rfl ?_
  refine ga_iadd 7 C.c dJ2_fastRemove_6 rfl ?_
  refine hh_put 10 0 C (ref := "java/util/ArrayList") (fs2 := [.int (m + 1), .ref d, .int (nI (j + 1))]) tyJ2_ok nmJ2 in_J2 g_a rfl (by decide) q375 (fun x9 h9 => u_same (C.ts _ q374) x9 h9) rfl (tyJ2_ok 0 (by decide)) rfl rfl (Nat.le_of_ble_eq_true rfl) rfl dJ2_fastRemove_7 rfl (fun h313 e314 => ?_)
  have k315 := hu_fr e314
  have g316 := hu_at e314
  clear e314
  have g317 := k315 _ _ (nm1 (Ne.symm ne312)) g_d
  refine ga_aload_n 11 C.c 0 rfl rfl dJ2_fastRemove_10 rfl ?_
  refine ga_get1 14 2 C.c C.ts (own := RJ2) (ref := "java/util/ArrayList") C.ow C.k (hw_one g316) in_J2 rfl (by decide) q371 (fun _ h9 => h9) rfl dJ2_fastRemove_11 rfl ?_
  refine ga_iconst 15 C.c (v := 1) (by decide) dJ2_fastRemove_14 rfl ?_
  refine ga_isub 16 C.c dJ2_fastRemove_15 rfl ?_
  refine ga_dup 17 C.c rfl dJ2_fastRemove_16 rfl ?_
  refine ga_istore_n 18 C.c 3 rfl (Nat.le_of_ble_eq_true rfl) rfl dJ2_fastRemove_17 rfl ?_
  refine ga_iload_n 19 C.c 2 rfl rfl dJ2_fastRemove_18 rfl ?_
  refine ga_icmp_le 34 22 C.c dJ2_fastRemove_19 (by decide) rfl (fun c318 => ?_) (fun c318 => absurd (show nI (j + 1) - 1 ≤ nI j by rw [nI_pred]; exact nI_le (Nat.le_refl _) (by omega)) c318)
  rw [nI_pred]
  refine ga_aload_n 35 C.c 1 rfl rfl dJ2_fastRemove_34 rfl ?_
  refine ga_aload_n 36 C.c 0 rfl rfl dJ2_fastRemove_35 rfl ?_
  refine ga_iload_n 37 C.c 3 rfl rfl dJ2_fastRemove_36 rfl ?_
  refine ga_dup_x1 38 C.c rfl rfl dJ2_fastRemove_37 rfl ?_
  refine hh_put 41 2 C (ref := "java/util/ArrayList") (fs2 := [.int (m + 1), .ref d, .int (nI j)]) tyJ2_ok nmJ2 in_J2 g316 rfl (by decide) q371 (fun _ h9 => h9) rfl (tyJ2_ok 2 (by decide)) rfl rfl (Nat.le_of_ble_eq_true rfl) rfl dJ2_fastRemove_38 rfl (fun h319 e320 => ?_)
  have k321 := hu_fr e320
  have g322 := hu_at e320
  clear e320
  have g323 := k321 _ _ (nm1 (Ne.symm ne312)) g317
  refine ga_null 42 C.c dJ2_fastRemove_41 rfl ?_
  refine hh_astqN 43 5 C g323 rfl (vp_in_nI hj hc) dJ2_fastRemove_42 rfl (fun h324 e325 => ?_)
  have k326 := hu_fr e325
  have g327 := hu_at e325
  clear e325
  have g328 := k326 _ _ (nm1 ne312) g322
  rw [nI_clamp (show j < 2 ^ 31 by omega)] at g327
  have kF329 : hfr h h324 [a, d] := by
    intro b e nb hb
    have b330 := k315 b e (nm1 (nx nb (by simp))) hb
    have b331 := k321 b e (nm1 (nx nb (by simp))) b330
    have b332 := k326 b e (nm1 (nx nb (by simp))) b331
    exact b332
  exact hw_vret C hr hlk hq (Nat.le_of_ble_eq_true rfl) (Nat.le_of_ble_eq_true rfl) ⟨rfl, g328, g327, kF329⟩ dJ2_fastRemove_43
theorem cd_J2_remove : yJ2_remove.cls = RJ2 ∧ yJ2_remove.cls ≠ "java/lang/invoke/MethodHandle" ∧ yJ2_remove.cls ≠ "java/lang/invoke/VarHandle" ∧ (parseMethodDescriptor yJ2_remove.desc).map (fun d => d.parameters.length) = some 1 := by decide +kernel
set_option maxHeartbeats 4000000 in
theorem met_J2_remove (l : Launch) (D : va_G) (kk : Nat → Nat) (dE : Nat → Nat) (A : Nat → Prop) (h : hG) (a d cap j y : Nat) (f : Nat → Option Nat) (m : Int32) (hj : j < cap) (hc : cap < 2 ^ 31) (hj2 : j + 1 < 2 ^ 31) (hy : f j = some y) (g_a : h a = some (.inr (13, [.int m, .ref d, .int (nI (j + 1))]))) (g_d : h d = some (.inl (kk 5, cap, .inr (.inr (.inr (.inr f)))))) : Met l yJ2_remove (ws_ yJ2_remove cJ2_remove 4 (some (.object "java/lang/Object"))) ({ frames := 3, cells := 0, slots := 0, locals := 120 } : Room) (hw_Pc D kk dE A h [.ref a, .int (nI j)]) (hw_Qc D A (fun v h2 => v = some (.ref y) ∧ h2 a = some (.inr (13, [.int (m + 1), .ref d, .int (nI j)])) ∧ h2 d = some (.inl (kk 5, cap, .inr (.inr (.inr (.inr (va_up f j none)))))) ∧ hfr h h2 [a, d])) (0) (0) A := by
  refine hw_of (RX := RJ2) (lo := [some (.ref a), some (.int (nI j)), none, none]) (by decide) rfl (Nat.le_of_ble_eq_true rfl) rfl (fun E C hin hr hlk hq => ?_)
  have ne333 : a ≠ d := hne g_a g_d (by simp)
  refine ga_iload_n 1 C.c 1 rfl rfl dJ2_remove_0 rfl ?_
  refine ga_aload_n 2 C.c 0 rfl rfl dJ2_remove_1 rfl ?_
  refine ga_get1 5 2 C.c C.ts (own := RJ2) (ref := "java/util/ArrayList") C.ow C.k (hw_one g_a) in_J2 rfl (by decide) q371 (fun _ h9 => h9) rfl dJ2_remove_2 rfl ?_
  have hci := vp_in_cmp (vp_in_nI (Nat.lt_succ_self j) (by omega)) (show j + 1 < 2 ^ 31 by omega)
  refine ga_callS 8 (RX := RJ2) C.c C.ml C.ow C.ts (as := [.int (nI j), .int (nI (j + 1))]) (met_J14_checkIndex (eL E) (nI j) _ hci.1 hci.2) (lw_S q1033 q1034 q120 q1035) cd_J14_checkIndex rfl (by rw [C.rm]; exact (Nat.le_of_ble_eq_true rfl)) (by rw [C.rm]; exact (Nat.le_of_ble_eq_true rfl)) (by rw [C.rm]; exact (Nat.le_of_ble_eq_true rfl)) (by rw [C.rm]; exact (Nat.le_of_ble_eq_true rfl)) (Nat.le_of_ble_eq_true rfl) dJ2_remove_5 rfl ?_
  refine ga_pop 9 C.c rfl dJ2_remove_8 rfl ?_
  refine ga_aload_n 10 C.c 0 rfl rfl dJ2_remove_9 rfl ?_
  refine ga_get1 13 1 C.c C.ts (own := RJ2) (ref := "java/util/ArrayList") C.ow C.k (hw_one g_a) in_J2 rfl (by decide) q368 (fun _ h9 => h9) rfl dJ2_remove_10 rfl ?_
  refine ga_astore_n 14 C.c 2 rfl (Nat.le_of_ble_eq_true rfl) rfl dJ2_remove_13 rfl ?_
  refine ga_aload_n 15 C.c 2 rfl rfl dJ2_remove_14 rfl ?_
  refine ga_iload_n 16 C.c 1 rfl rfl dJ2_remove_15 rfl ?_
  refine ga_aldq1 17 5 C.c C.k (hw_one g_d) rfl (vp_in_nI hj hc) (by rw [nI_clamp (show j < 2 ^ 31 by omega), hy]) dJ2_remove_16 rfl ?_
  refine ga_astore_n 18 C.c 3 rfl (Nat.le_of_ble_eq_true rfl) rfl dJ2_remove_17 rfl ?_
  refine ga_aload_n 19 C.c 0 rfl rfl dJ2_remove_18 rfl ?_
  refine ga_aload_n 20 C.c 2 rfl rfl dJ2_remove_19 rfl ?_
  refine ga_iload_n 21 C.c 1 rfl rfl dJ2_remove_20 rfl ?_
  refine hh_callV 24 C (as := [.ref d, .int (nI j)]) (met_J2_fastRemove (eL E) D kk dE A _ a d cap j f m hj hc g_a g_d) g_a (T := TJ2) rfl (lw_V q1524 q1526 qs46 q98 q1527) cd_J2_fastRemove rfl (Nat.le_of_ble_eq_true rfl) (Nat.le_of_ble_eq_true rfl) (Nat.le_of_ble_eq_true rfl) (Nat.le_of_ble_eq_true rfl) (Nat.le_of_ble_eq_true rfl) dJ2_remove_21 rfl (fun v335 h334 p336 => ?_)
  obtain ⟨rfl, ga, gd, kd⟩ := p336
  refine ga_aload_n 25 C.c 3 rfl rfl dJ2_remove_24 rfl ?_
  exact hw_aret C hr (Or.inl ⟨_, rfl⟩) (Or.inr ⟨_, rfl⟩) hlk hq (Nat.le_of_ble_eq_true rfl) (Nat.le_of_ble_eq_true rfl) ⟨rfl, ga, gd, kd⟩ dJ2_remove_25
theorem cd_J2_clear : yJ2_clear.cls = RJ2 ∧ yJ2_clear.cls ≠ "java/lang/invoke/MethodHandle" ∧ yJ2_clear.cls ≠ "java/lang/invoke/VarHandle" ∧ (parseMethodDescriptor yJ2_clear.desc).map (fun d => d.parameters.length) = some 0 := by decide +kernel
set_option maxHeartbeats 4000000 in
theorem met_J2_clear (l : Launch) (D : va_G) (kk : Nat → Nat) (dE : Nat → Nat) (A : Nat → Prop) (h : hG) (a d cap N : Nat) (f : Nat → Option Nat) (m : Int32) (hj : N ≤ cap) (hc : cap < 2 ^ 31) (g_a : h a = some (.inr (13, [.int m, .ref d, .int (nI N)]))) (g_d : h d = some (.inl (kk 5, cap, .inr (.inr (.inr (.inr f)))))) : Met l yJ2_clear (ws_ yJ2_clear cJ2_clear 4 none) ({ frames := 0, cells := 0, slots := 0, locals := 0 } : Room) (hw_Pc D kk dE A h [.ref a]) (hw_Qc D A (fun v h2 => v = none ∧ h2 a = some (.inr (13, [.int (m + 1), .ref d, .int 0])) ∧ h2 d = some (.inl (kk 5, cap, .inr (.inr (.inr (.inr (cl_f f N)))))) ∧ hfr h h2 [a, d])) (0) (0) A := by
  refine hw_of (RX := RJ2) (lo := [some (.ref a), none, none, none]) (by decide) rfl (Nat.le_of_ble_eq_true rfl) rfl (fun E C hin hr hlk hq => ?_)
  have ne337 : a ≠ d := hne g_a g_d (by simp)
  refine ga_aload_n 1 C.c 0 rfl rfl dJ2_clear_0 rfl ?_
  refine ga_dup 2 C.c rfl dJ2_clear_1 rfl ?_
  refine ga_get1 5 0 C.c C.ts (own := RJ2) (ref := "java/util/ArrayList") C.ow C.k (hw_one g_a) in_J2 rfl (by decide) q375 (fun x9 h9 => u_same (C.ts _ q374) x9 h9) rfl dJ2_clear_2 rfl ?_
  refine ga_iconst 6 C.c (v := 1) (by decide) dJ2_clear_5 rfl ?_
  refine ga_iadd 7 C.c dJ2_clear_6 rfl ?_
  refine hh_put 10 0 C (ref := "java/util/ArrayList") (fs2 := [.int (m + 1), .ref d, .int (nI N)]) tyJ2_ok nmJ2 in_J2 g_a rfl (by decide) q375 (fun x9 h9 => u_same (C.ts _ q374) x9 h9) rfl (tyJ2_ok 0 (by decide)) rfl rfl (Nat.le_of_ble_eq_true rfl) rfl dJ2_clear_7 rfl (fun h338 e339 => ?_)
  have k340 := hu_fr e339
  have g341 := hu_at e339
  clear e339
  have g342 := k340 _ _ (nm1 (Ne.symm ne337)) g_d
  refine ga_aload_n 11 C.c 0 rfl rfl dJ2_clear_10 rfl ?_
  refine ga_get1 14 1 C.c C.ts (own := RJ2) (ref := "java/util/ArrayList") C.ow C.k (hw_one g341) in_J2 rfl (by decide) q368 (fun _ h9 => h9) rfl dJ2_clear_11 rfl ?_
  refine ga_astore_n 15 C.c 1 rfl (Nat.le_of_ble_eq_true rfl) rfl dJ2_clear_14 rfl ?_
  refine ga_aload_n 16 C.c 0 rfl rfl dJ2_clear_15 rfl ?_
  refine ga_get1 19 2 C.c C.ts (own := RJ2) (ref := "java/util/ArrayList") C.ow C.k (hw_one g341) in_J2 rfl (by decide) q371 (fun _ h9 => h9) rfl dJ2_clear_16 rfl ?_
  refine ga_istore_n 20 C.c 2 rfl (Nat.le_of_ble_eq_true rfl) rfl dJ2_clear_19 rfl ?_
  refine ga_aload_n 21 C.c 0 rfl rfl dJ2_clear_20 rfl ?_
  refine ga_iconst 22 C.c (v := 0) (by decide) dJ2_clear_21 rfl ?_
  refine ga_dup_x1 23 C.c rfl rfl dJ2_clear_22 rfl ?_
  refine hh_put 26 2 C (ref := "java/util/ArrayList") (fs2 := [.int (m + 1), .ref d, .int 0]) tyJ2_ok nmJ2 in_J2 g341 rfl (by decide) q371 (fun _ h9 => h9) rfl (tyJ2_ok 2 (by decide)) rfl rfl (Nat.le_of_ble_eq_true rfl) rfl dJ2_clear_23 rfl (fun h343 e344 => ?_)
  have k345 := hu_fr e344
  have g346 := hu_at e344
  clear e344
  have g347 := k345 _ _ (nm1 (Ne.symm ne337)) g342
  refine ga_istore_n 27 C.c 3 rfl (Nat.le_of_ble_eq_true rfl) rfl dJ2_clear_26 rfl ?_
  have kF348 : hfr h h343 [a, d] := by
    intro b e nb hb
    have b349 := k340 b e (nm1 (nx nb (by simp))) hb
    have b350 := k345 b e (nm1 (nx nb (by simp))) b349
    exact b350
  have loop : ∀ (k i : Nat) (hx : hG), i + k = N → hx a = some (.inr (13, [.int (m + 1), .ref d, .int 0])) → hx d = some (.inl (kk 5, cap, .inr (.inr (.inr (.inr (cl_f f i)))))) → hfr h hx [a, d] → ga_W E 4 (hw_I E D A hx) 0 0 27 [some (.ref a), some (.ref d), some (.int (nI N)), some (.int (nI i))] [] := by
    intro k
    induction k with
    | zero =>
      intro i hx hi ga gd kx
      refine ga_iload_n 28 C.c 3 rfl rfl dJ2_clear_27 rfl ?_
      refine ga_iload_n 29 C.c 2 rfl rfl dJ2_clear_28 rfl ?_
      refine ga_icmp_ge 42 32 C.c dJ2_clear_29 (by decide) rfl (fun c351 => ?_) (fun c351 => absurd (nI_le (by omega) (by omega)) c351)
      obtain rfl : i = N := by omega
      have kF352 : hfr h hx [a, d] := by
        intro b e nb hb
        have b353 := kx b e (nm2 (nx nb (by simp)) (nx nb (by simp))) hb
        exact b353
      exact hw_vret C hr hlk hq (Nat.le_of_ble_eq_true rfl) (Nat.le_of_ble_eq_true rfl) ⟨rfl, ga, gd, kF352⟩ dJ2_clear_42
    | succ k ih =>
      intro i hx hi ga gd kx
      refine ga_iload_n 28 C.c 3 rfl rfl dJ2_clear_27 rfl ?_
      refine ga_iload_n 29 C.c 2 rfl rfl dJ2_clear_28 rfl ?_
      refine ga_icmp_ge 42 32 C.c dJ2_clear_29 (by decide) rfl (fun c354 => absurd c354 (nI_ge (by omega) (by omega))) (fun c354 => ?_)
      refine ga_aload_n 33 C.c 1 rfl rfl dJ2_clear_32 rfl ?_
      refine ga_iload_n 34 C.c 3 rfl rfl dJ2_clear_33 rfl ?_
      refine ga_null 35 C.c dJ2_clear_34 rfl ?_
      refine hh_astqN 36 5 C gd rfl (vp_in_nI (by omega) (by omega)) dJ2_clear_35 rfl (fun h355 e356 => ?_)
      have k357 := hu_fr e356
      have g358 := hu_at e356
      clear e356
      have g359 := k357 _ _ (nm1 ne337) ga
      rw [nI_clamp (show i < 2 ^ 31 by omega), cl_fs] at g358
      refine ga_iinc 39 C.c rfl (v := (nI i) + 1) rfl (Nat.le_of_ble_eq_true rfl) rfl dJ2_clear_36 rfl ?_
      refine ga_goto 27 C.c dJ2_clear_39 (by decide) ?_
      rw [nI_1]
      exact ga_W.sub (ih (i + 1) _ (by omega) g359 g358 (kx.tr k357 (fun x hx => hx) (fun x hx => Or.inl (by simp at hx; simp [hx])))) (And.intro rfl (And.intro rfl (And.intro rfl (And.intro rfl trivial))))
  exact ga_W.sub (loop N 0 _ (by omega) g346 (by rw [cl_f0]; exact g347) kF348) (And.intro rfl (And.intro rfl (And.intro rfl (And.intro rfl trivial))))
theorem cd_J2_addAll : yJ2_addAll.cls = RJ2 ∧ yJ2_addAll.cls ≠ "java/lang/invoke/MethodHandle" ∧ yJ2_addAll.cls ≠ "java/lang/invoke/VarHandle" ∧ (parseMethodDescriptor yJ2_addAll.desc).map (fun d => d.parameters.length) = some 1 := by decide +kernel
set_option maxHeartbeats 4000000 in
theorem met_J2_addAll (l : Launch) (D : va_G) (kk : Nat → Nat) (dE : Nat → Nat) (A : Nat → Prop) (h : hG) (a d cap : Nat) (f : Nat → Option Nat) (m : Int32) (hc : cap < 2 ^ 31) (b db capb nb : Nat) (fb : Nat → Option Nat) (mb : Int32) (hnb : nb ≤ capb) (hcb : capb < 1000) (helb : ∀ i : Nat, i < nb → ∀ y : Nat, fb i = some y → hel h y) (hela : ∀ i : Nat, i < nb → ∀ y : Nat, fb i = some y → y ≠ a) (hnc : nb ≤ cap) (hab : a ≠ b) (hdd : d ≠ db) (g_a : h a = some (.inr (13, [.int m, .ref d, .int (nI 0)]))) (g_d : h d = some (.inl (kk 5, cap, .inr (.inr (.inr (.inr f)))))) (g_b : h b = some (.inr (13, [.int mb, .ref db, .int (nI nb)]))) (g_db : h db = some (.inl (kk 5, capb, .inr (.inr (.inr (.inr fb)))))) : Met l yJ2_addAll (ws_ yJ2_addAll cJ2_addAll 6 (some .boolean)) ({ frames := 4, cells := 1, slots := nb, locals := 280 } : Room) (hw_Pc D kk dE A h [.ref a, .ref b]) (hw_Qc D A (fun v h2 => ∃ (x : Int32) (f2 : Nat → Option Nat), v = some (.int x) ∧ h2 a = some (.inr (13, [.int (m + 1), .ref d, .int (nI nb)])) ∧ h2 d = some (.inl (kk 5, cap, .inr (.inr (.inr (.inr f2))))) ∧ (∀ i, i < nb → f2 i = fb i) ∧ hfr h h2 [a, d])) (1) (nb) A := by
  refine hw_of (RX := RJ2) (lo := [some (.ref a), some (.ref b), none, none, none, none]) (by decide) rfl (Nat.le_of_ble_eq_true rfl) rfl (fun E C hin hr hlk hq => ?_)
  have ne360 : a ≠ d := hne g_a g_d (by simp)
  have ne361 : a ≠ db := hne g_a g_db (by simp)
  have ne362 : d ≠ b := hne g_d g_b (by simp)
  have ne363 : b ≠ db := hne g_b g_db (by simp)
  refine ga_aload_n 1 C.c 1 rfl rfl dJ2_addAll_0 rfl ?_
  have hmn := ls_min hnb (show capb < 2 ^ 31 by omega)
  refine hh_callF 6 C (as := []) (met_J2_toArray (eL E) D kk dE A _ b db capb nb nb fb mb (nI nb) (nI_pos (by omega)) (nI_clamp (by omega)) (by omega) (by rw [hmn]; exact nI_pos (by omega)) (by rw [hmn]; exact nI_clamp (by omega)) hnb (Nat.le_refl _) helb g_b g_db) g_b (T := TJ2) rfl (C.f _ (List.mem_of_getElem? (i := 5) rfl)) (lw_F q1608 q1612 q1614 q98 q1616) cdL_toArray rfl (Nat.le_of_ble_eq_true rfl) (Nat.le_of_ble_eq_true rfl) (by omega) (by omega) (Nat.le_of_ble_eq_true rfl) dJ2_addAll_1 rfl (fun v365 h364 p366 => ?_)
  obtain ⟨t, nt, rfl, gt, kt⟩ := p366
  have ne367 : a ≠ t := hn_ne g_a nt
  have ne368 : d ≠ t := hn_ne g_d nt
  have ne369 : b ≠ t := hn_ne g_b nt
  have ne370 : db ≠ t := hn_ne g_db nt
  have g371 := kt _ _ List.not_mem_nil g_a
  have g372 := kt _ _ List.not_mem_nil g_d
  have g373 := kt _ _ List.not_mem_nil g_b
  have g374 := kt _ _ List.not_mem_nil g_db
  refine ga_astore_n 7 C.c 2 rfl (Nat.le_of_ble_eq_true rfl) rfl dJ2_addAll_6 rfl ?_
  refine ga_aload_n 8 C.c 0 rfl rfl dJ2_addAll_7 rfl ?_
  refine ga_dup 9 C.c rfl dJ2_addAll_8 rfl ?_
  refine ga_get1 12 0 C.c C.ts (own := RJ2) (ref := "java/util/ArrayList") C.ow C.k (hw_one g371) in_J2 rfl (by decide) q375 (fun x9 h9 => u_same (C.ts _ q374) x9 h9) rfl dJ2_addAll_9 rfl ?_
  refine ga_iconst 13 C.c (v := 1) (by decide) dJ2_addAll_12 rfl ?_
  refine ga_iadd 14 C.c dJ2_addAll_13 rfl ?_
  refine hh_put 17 0 C (ref := "java/util/ArrayList") (fs2 := [.int (m + 1), .ref d, .int (nI 0)]) tyJ2_ok nmJ2 in_J2 g371 rfl (by decide) q375 (fun x9 h9 => u_same (C.ts _ q374) x9 h9) rfl (tyJ2_ok 0 (by decide)) rfl rfl (Nat.le_of_ble_eq_true rfl) rfl dJ2_addAll_14 rfl (fun h375 e376 => ?_)
  have k377 := hu_fr e376
  have g378 := hu_at e376
  clear e376
  have g379 := k377 _ _ (nm1 (Ne.symm ne360)) g372
  have g380 := k377 _ _ (nm1 (Ne.symm hab)) g373
  have g381 := k377 _ _ (nm1 (Ne.symm ne361)) g374
  have g382 := k377 _ _ (nm1 (Ne.symm ne367)) gt
  refine ga_aload_n 18 C.c 2 rfl rfl dJ2_addAll_17 rfl ?_
  refine ga_alen1 19 5 C.c C.k (hw_one g382) rfl dJ2_addAll_18 rfl ?_
  refine ga_istore_n 20 C.c 3 rfl (Nat.le_of_ble_eq_true rfl) rfl dJ2_addAll_19 rfl ?_
  refine ga_iload_n 21 C.c 3 rfl rfl dJ2_addAll_20 rfl ?_
  have hnn : (Int32.ofNat nb).toNatClampNeg = nb := nI_clamp (by omega)
  refine ga_if_ne 26 24 C.c dJ2_addAll_21 (by decide) rfl (fun c383 => ?_) (fun c383 => ?_)
  · have hn0 : 0 < nb := by
      rcases Nat.eq_zero_or_pos nb with q | q
      · exact absurd (by rw [q]; rfl) c383
      · exact q
    refine ga_iload_n 27 C.c 3 rfl rfl dJ2_addAll_26 rfl ?_
    refine ga_aload_n 28 C.c 0 rfl rfl dJ2_addAll_27 rfl ?_
    refine ga_get1 31 1 C.c C.ts (own := RJ2) (ref := "java/util/ArrayList") C.ow C.k (hw_one g378) in_J2 rfl (by decide) q368 (fun _ h9 => h9) rfl dJ2_addAll_28 rfl ?_
    refine ga_dup 32 C.c rfl dJ2_addAll_31 rfl ?_
    refine ga_astore 34 C.c 4 (Nat.le_of_ble_eq_true rfl) rfl dJ2_addAll_32 rfl ?_
    refine ga_alen1 35 5 C.c C.k (hw_one g379) rfl dJ2_addAll_34 rfl ?_
    refine ga_aload_n 36 C.c 0 rfl rfl dJ2_addAll_35 rfl ?_
    refine ga_get1 39 2 C.c C.ts (own := RJ2) (ref := "java/util/ArrayList") C.ow C.k (hw_one g378) in_J2 rfl (by decide) q371 (fun _ h9 => h9) rfl dJ2_addAll_36 rfl ?_
    refine ga_dup 40 C.c rfl dJ2_addAll_39 rfl ?_
    refine ga_istore 42 C.c 5 (Nat.le_of_ble_eq_true rfl) rfl dJ2_addAll_40 rfl ?_
    refine ga_isub 43 C.c dJ2_addAll_42 rfl ?_
    refine ga_icmp_le 56 46 C.c dJ2_addAll_43 (by decide) rfl (fun c384 => ?_) (fun c384 => absurd (ls_room hnc hc) c384)
    refine ga_aload_n 57 C.c 2 rfl rfl dJ2_addAll_56 rfl ?_
    refine ga_iconst 58 C.c (v := 0) (by decide) dJ2_addAll_57 rfl ?_
    refine ga_aload 60 C.c rfl dJ2_addAll_58 rfl ?_
    refine ga_iload 62 C.c rfl dJ2_addAll_60 rfl ?_
    refine ga_iload_n 63 C.c 3 rfl rfl dJ2_addAll_62 rfl ?_
    have hmn2 := hnc
    have hkk : ∀ i : Nat, i < (Int32.ofNat nb).toNatClampNeg → ∀ y : Nat, va_cpy fb (fun _ => none) 0 0 nb ((0 : Int32).toNatClampNeg + i) = some y → hel h375 y := fun i hi y hy => by
      rw [hnn] at hi
      rw [show (0 : Int32).toNatClampNeg = 0 by decide, Nat.zero_add] at hy
      have kF385 : hfr h h375 [a] := by
        intro b e nb hb
        have m_t : b ≠ t := hn_ne hb nt
        have b386 := kt b e List.not_mem_nil hb
        have b387 := k377 b e (nm1 (nx nb (by simp))) b386
        exact b387
      exact (helb i hi y (ls_cpy hi hy)).kept kF385 (by simp [hela i hi y (ls_cpy hi hy)])
    refine hh_copyq 66 C q1528 g382 g379 (by decide) (by decide) (nI_pos (by omega)) (by rw [hnn]; show 0 + nb ≤ nb; omega) (by rw [hnn]; show 0 + nb ≤ cap; omega) hkk (Nat.le_of_ble_eq_true rfl) (Nat.le_of_ble_eq_true rfl) (Nat.le_of_ble_eq_true rfl) dJ2_addAll_63 rfl (fun h388 e389 => ?_)
    have k390 := hu_fr e389
    have g391 := hu_at e389
    clear e389
    have g392 := k390 _ _ (nm1 ne360) g378
    have g393 := k390 _ _ (nm1 (Ne.symm ne362)) g380
    have g394 := k390 _ _ (nm1 (Ne.symm hdd)) g381
    have g395 := k390 _ _ (nm1 (Ne.symm ne368)) g382
    rw [hnn] at g391
    refine ga_aload_n 67 C.c 0 rfl rfl dJ2_addAll_66 rfl ?_
    refine ga_iload 69 C.c rfl dJ2_addAll_67 rfl ?_
    refine ga_iload_n 70 C.c 3 rfl rfl dJ2_addAll_69 rfl ?_
    refine ga_iadd 71 C.c dJ2_addAll_70 rfl ?_
    refine hh_put 74 2 C (ref := "java/util/ArrayList") (fs2 := [.int (m + 1), .ref d, .int ((nI 0) + (Int32.ofNat nb))]) tyJ2_ok nmJ2 in_J2 g392 rfl (by decide) q371 (fun _ h9 => h9) rfl (tyJ2_ok 2 (by decide)) rfl rfl (Nat.le_of_ble_eq_true rfl) rfl dJ2_addAll_71 rfl (fun h396 e397 => ?_)
    have k398 := hu_fr e397
    have g399 := hu_at e397
    clear e397
    have g400 := k398 _ _ (nm1 (Ne.symm ne360)) g391
    have g401 := k398 _ _ (nm1 (Ne.symm hab)) g393
    have g402 := k398 _ _ (nm1 (Ne.symm ne361)) g394
    have g403 := k398 _ _ (nm1 (Ne.symm ne367)) g395
    refine ga_iconst 75 C.c (v := 1) (by decide) dJ2_addAll_74 rfl ?_
    rw [show nI 0 + Int32.ofNat nb = nI nb by rw [nI_0, Int32.zero_add]; rfl] at g399
    have kF404 : hfr h h396 [a, d] := by
      intro b e nb hb
      have m_t : b ≠ t := hn_ne hb nt
      have b405 := kt b e List.not_mem_nil hb
      have b406 := k377 b e (nm1 (nx nb (by simp))) b405
      have b407 := k390 b e (nm1 (nx nb (by simp))) b406
      have b408 := k398 b e (nm1 (nx nb (by simp))) b407
      exact b408
    exact hw_iret C hr hlk hq rfl (by omega) (by omega) ⟨1, _, rfl, g399, g400, (fun i hi => (ls_cp (g := f) hi).trans (ls_cp hi)), kF404⟩ dJ2_addAll_75
  · have hz1 : nb = 0 := ls_z (by omega) c383
    refine ga_iconst 25 C.c (v := 0) (by decide) dJ2_addAll_24 rfl ?_
    subst hz1
    have kF409 : hfr h h375 [a, d] := by
      intro b e nb hb
      have m_t : b ≠ t := hn_ne hb nt
      have b410 := kt b e List.not_mem_nil hb
      have b411 := k377 b e (nm1 (nx nb (by simp))) b410
      exact b411
    exact hw_iret C hr hlk hq rfl (by omega) (by omega) ⟨0, f, rfl, g378, g379, (fun i hi => absurd hi (by omega)), kF409⟩ dJ2_addAll_25
set_option maxHeartbeats 4000000 in
theorem met_J2_addAll_g (l : Launch) (D : va_G) (kk : Nat → Nat) (dE : Nat → Nat) (A : Nat → Prop) (h : hG) (a : Nat) (f : Nat → Option Nat) (m : Int32) (b db capb nb : Nat) (fb : Nat → Option Nat) (mb : Int32) (hnb : nb ≤ capb) (hcb : capb < 1000) (helb : ∀ i : Nat, i < nb → ∀ y : Nat, fb i = some y → hel h y) (hela : ∀ i : Nat, i < nb → ∀ y : Nat, fb i = some y → y ≠ a) (hab : a ≠ b) (hdd : dE 0 = db ∨ dE 0 ≠ db) (g_a : h a = some (.inr (13, [.int m, .ref (dE 0), .int (nI 0)]))) (g__dE_0_ : h (dE 0) = some (.inl (kk 5, 0, .inr (.inr (.inr (.inr f)))))) (g_b : h b = some (.inr (13, [.int mb, .ref db, .int (nI nb)]))) (g_db : h db = some (.inl (kk 5, capb, .inr (.inr (.inr (.inr fb)))))) : Met l yJ2_addAll (ws_ yJ2_addAll cJ2_addAll 6 (some .boolean)) ({ frames := 4, cells := 2, slots := nb + ls_mx nb, locals := 280 } : Room) (hw_Pc D kk dE A h [.ref a, .ref b]) (hw_Qc D A (fun v h2 => ∃ (x : Int32) (y : Nat) (f2 : Nat → Option Nat) (cap2 : Nat), v = some (.int x) ∧ h2 a = some (.inr (13, [.int (m + 1), .ref y, .int (nI nb)])) ∧ h2 y = some (.inl (kk 5, cap2, .inr (.inr (.inr (.inr f2))))) ∧ (∀ i, i < nb → f2 i = fb i) ∧ ((y = dE 0 ∧ cap2 = 0 ∧ nb = 0) ∨ (h y = none ∧ cap2 = ls_mx nb)) ∧ hfr h h2 [a])) (2) (nb + ls_mx nb) A := by
  refine hw_of (RX := RJ2) (lo := [some (.ref a), some (.ref b), none, none, none, none]) (by decide) rfl (Nat.le_of_ble_eq_true rfl) rfl (fun E C hin hr hlk hq => ?_)
  have ne412 : a ≠ (dE 0) := hne g_a g__dE_0_ (by simp)
  have ne413 : a ≠ db := hne g_a g_db (by simp)
  have ne414 : (dE 0) ≠ b := hne g__dE_0_ g_b (by simp)
  have ne415 : b ≠ db := hne g_b g_db (by simp)
  refine ga_aload_n 1 C.c 1 rfl rfl dJ2_addAll_0 rfl ?_
  have hmn := ls_min hnb (show capb < 2 ^ 31 by omega)
  refine hh_callF 6 C (as := []) (met_J2_toArray (eL E) D kk dE A _ b db capb nb nb fb mb (nI nb) (nI_pos (by omega)) (nI_clamp (by omega)) (by omega) (by rw [hmn]; exact nI_pos (by omega)) (by rw [hmn]; exact nI_clamp (by omega)) hnb (Nat.le_refl _) helb g_b g_db) g_b (T := TJ2) rfl (C.f _ (List.mem_of_getElem? (i := 5) rfl)) (lw_F q1608 q1612 q1614 q98 q1616) cdL_toArray rfl (Nat.le_of_ble_eq_true rfl) (Nat.le_of_ble_eq_true rfl) (by omega) (by omega) (Nat.le_of_ble_eq_true rfl) dJ2_addAll_1 rfl (fun v417 h416 p418 => ?_)
  obtain ⟨t, nt, rfl, gt, kt⟩ := p418
  have ne419 : a ≠ t := hn_ne g_a nt
  have ne420 : (dE 0) ≠ t := hn_ne g__dE_0_ nt
  have ne421 : b ≠ t := hn_ne g_b nt
  have ne422 : db ≠ t := hn_ne g_db nt
  have g423 := kt _ _ List.not_mem_nil g_a
  have g424 := kt _ _ List.not_mem_nil g__dE_0_
  have g425 := kt _ _ List.not_mem_nil g_b
  have g426 := kt _ _ List.not_mem_nil g_db
  refine ga_astore_n 7 C.c 2 rfl (Nat.le_of_ble_eq_true rfl) rfl dJ2_addAll_6 rfl ?_
  refine ga_aload_n 8 C.c 0 rfl rfl dJ2_addAll_7 rfl ?_
  refine ga_dup 9 C.c rfl dJ2_addAll_8 rfl ?_
  refine ga_get1 12 0 C.c C.ts (own := RJ2) (ref := "java/util/ArrayList") C.ow C.k (hw_one g423) in_J2 rfl (by decide) q375 (fun x9 h9 => u_same (C.ts _ q374) x9 h9) rfl dJ2_addAll_9 rfl ?_
  refine ga_iconst 13 C.c (v := 1) (by decide) dJ2_addAll_12 rfl ?_
  refine ga_iadd 14 C.c dJ2_addAll_13 rfl ?_
  refine hh_put 17 0 C (ref := "java/util/ArrayList") (fs2 := [.int (m + 1), .ref (dE 0), .int (nI 0)]) tyJ2_ok nmJ2 in_J2 g423 rfl (by decide) q375 (fun x9 h9 => u_same (C.ts _ q374) x9 h9) rfl (tyJ2_ok 0 (by decide)) rfl rfl (Nat.le_of_ble_eq_true rfl) rfl dJ2_addAll_14 rfl (fun h427 e428 => ?_)
  have k429 := hu_fr e428
  have g430 := hu_at e428
  clear e428
  have g431 := k429 _ _ (nm1 (Ne.symm ne412)) g424
  have g432 := k429 _ _ (nm1 (Ne.symm hab)) g425
  have g433 := k429 _ _ (nm1 (Ne.symm ne413)) g426
  have g434 := k429 _ _ (nm1 (Ne.symm ne419)) gt
  refine ga_aload_n 18 C.c 2 rfl rfl dJ2_addAll_17 rfl ?_
  refine ga_alen1 19 5 C.c C.k (hw_one g434) rfl dJ2_addAll_18 rfl ?_
  refine ga_istore_n 20 C.c 3 rfl (Nat.le_of_ble_eq_true rfl) rfl dJ2_addAll_19 rfl ?_
  refine ga_iload_n 21 C.c 3 rfl rfl dJ2_addAll_20 rfl ?_
  have hnn : (Int32.ofNat nb).toNatClampNeg = nb := nI_clamp (by omega)
  refine ga_if_ne 26 24 C.c dJ2_addAll_21 (by decide) rfl (fun c435 => ?_) (fun c435 => ?_)
  · have hn0 : 0 < nb := by
      rcases Nat.eq_zero_or_pos nb with q | q
      · exact absurd (by rw [q]; rfl) c435
      · exact q
    refine ga_iload_n 27 C.c 3 rfl rfl dJ2_addAll_26 rfl ?_
    refine ga_aload_n 28 C.c 0 rfl rfl dJ2_addAll_27 rfl ?_
    refine ga_get1 31 1 C.c C.ts (own := RJ2) (ref := "java/util/ArrayList") C.ow C.k (hw_one g430) in_J2 rfl (by decide) q368 (fun _ h9 => h9) rfl dJ2_addAll_28 rfl ?_
    refine ga_dup 32 C.c rfl dJ2_addAll_31 rfl ?_
    refine ga_astore 34 C.c 4 (Nat.le_of_ble_eq_true rfl) rfl dJ2_addAll_32 rfl ?_
    refine ga_alen1 35 5 C.c C.k (hw_one g431) rfl dJ2_addAll_34 rfl ?_
    refine ga_aload_n 36 C.c 0 rfl rfl dJ2_addAll_35 rfl ?_
    refine ga_get1 39 2 C.c C.ts (own := RJ2) (ref := "java/util/ArrayList") C.ow C.k (hw_one g430) in_J2 rfl (by decide) q371 (fun _ h9 => h9) rfl dJ2_addAll_36 rfl ?_
    refine ga_dup 40 C.c rfl dJ2_addAll_39 rfl ?_
    refine ga_istore 42 C.c 5 (Nat.le_of_ble_eq_true rfl) rfl dJ2_addAll_40 rfl ?_
    refine ga_isub 43 C.c dJ2_addAll_42 rfl ?_
    refine ga_icmp_le 56 46 C.c dJ2_addAll_43 (by decide) rfl (fun c436 => absurd c436 (ls_norm hn0 (by omega))) (fun c436 => ?_)
    refine ga_aload_n 47 C.c 0 rfl rfl dJ2_addAll_46 rfl ?_
    refine ga_iload 49 C.c rfl dJ2_addAll_47 rfl ?_
    refine ga_iload_n 50 C.c 3 rfl rfl dJ2_addAll_49 rfl ?_
    refine ga_iadd 51 C.c dJ2_addAll_50 rfl ?_
    have hmx := ls_max (n := nb) (by omega)
    refine hh_callV 54 C (as := [.int ((nI 0) + (Int32.ofNat nb))]) (met_J2_grow_2_e (eL E) D kk dE A _ a (m + 1) (nI 0) _ f (ls_mx nb) (by rw [hmx]; exact nI_pos (by unfold ls_mx; split <;> omega)) (by rw [hmx]; exact nI_clamp (by unfold ls_mx; split <;> omega)) (by unfold ls_mx; split <;> omega) g430 g431) g430 (T := TJ2) rfl (lw_V q842 q844 qs19 q98 q845) cd_J2_grow_2 rfl (Nat.le_of_ble_eq_true rfl) (Nat.le_of_ble_eq_true rfl) (by omega) (by omega) (Nat.le_of_ble_eq_true rfl) dJ2_addAll_51 rfl (fun v438 h437 p439 => ?_)
    obtain ⟨x, nd, rfl, ga, gd, kd⟩ := p439
    have ne440 : a ≠ x := hn_ne g430 nd
    have ne441 : (dE 0) ≠ x := hn_ne g431 nd
    have ne442 : b ≠ x := hn_ne g432 nd
    have ne443 : db ≠ x := hn_ne g433 nd
    have ne444 : t ≠ x := hn_ne g434 nd
    have g445 := kd _ _ (nm1 (Ne.symm ne412)) g431
    have g446 := kd _ _ (nm1 (Ne.symm hab)) g432
    have g447 := kd _ _ (nm1 (Ne.symm ne413)) g433
    have g448 := kd _ _ (nm1 (Ne.symm ne419)) g434
    have hmn2 : nb ≤ ls_mx nb := by unfold ls_mx; split <;> omega
    refine ga_astore 56 C.c 4 (Nat.le_of_ble_eq_true rfl) rfl dJ2_addAll_54 rfl ?_
    refine ga_aload_n 57 C.c 2 rfl rfl dJ2_addAll_56 rfl ?_
    refine ga_iconst 58 C.c (v := 0) (by decide) dJ2_addAll_57 rfl ?_
    refine ga_aload 60 C.c rfl dJ2_addAll_58 rfl ?_
    refine ga_iload 62 C.c rfl dJ2_addAll_60 rfl ?_
    refine ga_iload_n 63 C.c 3 rfl rfl dJ2_addAll_62 rfl ?_
    have hkk : ∀ i : Nat, i < (Int32.ofNat nb).toNatClampNeg → ∀ y : Nat, va_cpy fb (fun _ => none) 0 0 nb ((0 : Int32).toNatClampNeg + i) = some y → hel h437 y := fun i hi y hy => by
      rw [hnn] at hi
      rw [show (0 : Int32).toNatClampNeg = 0 by decide, Nat.zero_add] at hy
      have kF449 : hfr h h437 [a] := by
        intro b e nb hb
        have m_t : b ≠ t := hn_ne hb nt
        have b450 := kt b e List.not_mem_nil hb
        have b451 := k429 b e (nm1 (nx nb (by simp))) b450
        have m_x : b ≠ x := hn_ne b451 nd
        have b452 := kd b e (nm1 (nx nb (by simp))) b451
        exact b452
      exact (helb i hi y (ls_cpy hi hy)).kept kF449 (by simp [hela i hi y (ls_cpy hi hy)])
    refine hh_copyq 66 C q1528 g448 gd (by decide) (by decide) (nI_pos (by omega)) (by rw [hnn]; show 0 + nb ≤ nb; omega) (by rw [hnn]; show 0 + nb ≤ (ls_mx nb); omega) hkk (Nat.le_of_ble_eq_true rfl) (Nat.le_of_ble_eq_true rfl) (Nat.le_of_ble_eq_true rfl) dJ2_addAll_63 rfl (fun h453 e454 => ?_)
    have k455 := hu_fr e454
    have g456 := hu_at e454
    clear e454
    have g457 := k455 _ _ (nm1 ne440) ga
    have g458 := k455 _ _ (nm1 ne441) g445
    have g459 := k455 _ _ (nm1 ne442) g446
    have g460 := k455 _ _ (nm1 ne443) g447
    have g461 := k455 _ _ (nm1 ne444) g448
    rw [hnn] at g456
    refine ga_aload_n 67 C.c 0 rfl rfl dJ2_addAll_66 rfl ?_
    refine ga_iload 69 C.c rfl dJ2_addAll_67 rfl ?_
    refine ga_iload_n 70 C.c 3 rfl rfl dJ2_addAll_69 rfl ?_
    refine ga_iadd 71 C.c dJ2_addAll_70 rfl ?_
    refine hh_put 74 2 C (ref := "java/util/ArrayList") (fs2 := [.int (m + 1), .ref x, .int ((nI 0) + (Int32.ofNat nb))]) tyJ2_ok nmJ2 in_J2 g457 rfl (by decide) q371 (fun _ h9 => h9) rfl (tyJ2_ok 2 (by decide)) rfl rfl (Nat.le_of_ble_eq_true rfl) rfl dJ2_addAll_71 rfl (fun h462 e463 => ?_)
    have k464 := hu_fr e463
    have g465 := hu_at e463
    clear e463
    have g466 := k464 _ _ (nm1 (Ne.symm ne412)) g458
    have g467 := k464 _ _ (nm1 (Ne.symm hab)) g459
    have g468 := k464 _ _ (nm1 (Ne.symm ne413)) g460
    have g469 := k464 _ _ (nm1 (Ne.symm ne419)) g461
    have g470 := k464 _ _ (nm1 (Ne.symm ne440)) g456
    refine ga_iconst 75 C.c (v := 1) (by decide) dJ2_addAll_74 rfl ?_
    rw [show nI 0 + Int32.ofNat nb = nI nb by rw [nI_0, Int32.zero_add]; rfl] at g465
    have nd471 : h x = none := by
      cases c9 : h x with
      | none => rfl
      | some e9 =>
        have b472 := kt x e9 List.not_mem_nil c9
        have b473 := k429 x e9 (nm1 (Ne.symm ne440)) b472
        rw [nd] at b473
        cases b473
    have kF474 : hfr h h462 [a] := by
      intro b e nb hb
      have m_t : b ≠ t := hn_ne hb nt
      have b475 := kt b e List.not_mem_nil hb
      have b476 := k429 b e (nm1 (nx nb (by simp))) b475
      have m_x : b ≠ x := hn_ne b476 nd
      have b477 := kd b e (nm1 (nx nb (by simp))) b476
      have b478 := k455 b e (nm1 m_x) b477
      have b479 := k464 b e (nm1 (nx nb (by simp))) b478
      exact b479
    exact hw_iret C hr hlk hq rfl (by omega) (by omega) ⟨1, x, _, ls_mx nb, rfl, g465, g470, (fun i hi => (ls_cp (g := (fun _ => none)) hi).trans (ls_cp hi)), Or.inr ⟨nd471, rfl⟩, kF474⟩ dJ2_addAll_75
  · have hz1 : nb = 0 := ls_z (by omega) c435
    refine ga_iconst 25 C.c (v := 0) (by decide) dJ2_addAll_24 rfl ?_
    subst hz1
    have kF480 : hfr h h427 [a] := by
      intro b e nb hb
      have m_t : b ≠ t := hn_ne hb nt
      have b481 := kt b e List.not_mem_nil hb
      have b482 := k429 b e (nm1 (nx nb (by simp))) b481
      exact b482
    exact hw_iret C hr hlk hq rfl (by omega) (by omega) ⟨0, dE 0, f, 0, rfl, g430, g431, (fun i hi => absurd hi (by omega)), Or.inl ⟨rfl, rfl, rfl⟩, kF480⟩ dJ2_addAll_25
