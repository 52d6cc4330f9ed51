set_option maxRecDepth 100000
theorem cd_X0_undo : yX0_undo.cls = RX0 ∧ yX0_undo.cls ≠ "java/lang/invoke/MethodHandle" ∧ yX0_undo.cls ≠ "java/lang/invoke/VarHandle" ∧ (parseMethodDescriptor yX0_undo.desc).map (fun d => d.parameters.length) = some 0 := by decide +kernel
set_option maxHeartbeats 4000000 in
theorem met_X0_undo (l : Launch) (D : va_G) (kk : Nat → Nat) (dE : Nat → Nat) (A : Nat → Prop) (h : hG) (g : Nat → Nat) (z : MS) (G : XG) (S : XL) (p : PS) (M : XI) (X : XF kk dE h g z G S p M) : Met l yX0_undo (ws_ yX0_undo cX0_undo 1 (some .int)) ({ frames := 14, cells := 0, slots := 0, locals := 800 } : Room) (hw_Pc D kk dE A h [.ref (g 0)]) (hw_Qc D A (fun v h2 => v = some (.int (cx_undo p).1) ∧ ∃ G2, XF kk dE h2 g z G2 S (cx_undo p).2 M)) (0) (0) A := by
  refine hw_of (RX := RX0) (lo := [some (.ref (g 0))]) (by decide) rfl (Nat.le_of_ble_eq_true rfl) rfl (fun E C hin hr hlk hq => ?_)
  have g1325 : h (g 0) = some (.inr (0, [.ref (g 13), .ref (g 15), .ref (g 14), .ref (g 1), .int (mi z 0), .int (mi z 1), .int (mi z 2), .ref (g 2), .ref (g 5), .ref (g 7), .int (mi z 3), .ref (g 9), .int (mi z 4), .ref (g 11), .ref (g 12)])) := X.f 0 _ rfl
  have hRa := X.n
  have hn0 := hRa.1.n 0 (by decide)
  have hn1 := hRa.1.n 1 (by decide)
  have hn2 := hRa.1.n 2 (by decide)
  have hn3 := hRa.1.n 3 (by decide)
  obtain ⟨n0, en0⟩ : ∃ n, n = xr_n (p.1 0) 0 := ⟨_, rfl⟩
  rw [← en0] at hn0
  obtain ⟨n1, en1⟩ : ∃ n, n = xr_n (p.1 0) 1 := ⟨_, rfl⟩
  rw [← en1] at hn1
  obtain ⟨n2, en2⟩ : ∃ n, n = xr_n (p.1 0) 2 := ⟨_, rfl⟩
  rw [← en2] at hn2
  obtain ⟨n3, en3⟩ : ∃ n, n = xr_n (p.1 0) 3 := ⟨_, rfl⟩
  rw [← en3] at hn3
  have g_o := hRa.1.o
  have g_l0 : h (G.1 7 0) = some (.inr (13, [.int (G.2.2.1 0), .ref (G.1 8 0), .int (nI n0)])) := by
    rw [hRa.1.l 0 (by decide), hn0.1]
    rfl
  have g_d0 := hRa.1.d 0 (by decide)
  have g_l1 : h (G.1 7 1) = some (.inr (13, [.int (G.2.2.1 1), .ref (G.1 8 1), .int (nI n1)])) := by
    rw [hRa.1.l 1 (by decide), hn1.1]
    rfl
  have g_d1 := hRa.1.d 1 (by decide)
  have g_l2 : h (G.1 7 2) = some (.inr (13, [.int (G.2.2.1 2), .ref (G.1 8 2), .int (nI n2)])) := by
    rw [hRa.1.l 2 (by decide), hn2.1]
    rfl
  have g_d2 := hRa.1.d 2 (by decide)
  have g_l3 : h (G.1 7 3) = some (.inr (13, [.int (G.2.2.1 3), .ref (G.1 8 3), .int (nI n3)])) := by
    rw [hRa.1.l 3 (by decide), hn3.1]
    rfl
  have g_d3 := hRa.1.d 3 (by decide)
  have hX3 := X.n3
  rw [← en3] at hX3
  refine ga_aload_n 1 C.c 0 rfl rfl dX0_undo_0 rfl ?_
  refine ga_get1 4 1 C.c C.ts (own := RX0) (ref := "QuotedRiver") C.ow C.k (hw_one g1325) in_X0 rfl (by decide) q554 (fun _ h9 => h9) rfl dX0_undo_1 rfl ?_
  refine hh_is 7 C g_o q997 (Nat.le_of_ble_eq_true rfl) (Nat.le_of_ble_eq_true rfl) (Nat.le_of_ble_eq_true rfl) (Nat.le_of_ble_eq_true rfl) (Nat.le_of_ble_eq_true rfl) dX0_undo_4 rfl ?_
  by_cases c1326 : p.1 0 7 ≤ 0
  · rw [if_pos c1326]
    refine ga_if_ne 13 10 C.c dX0_undo_7 (by decide) rfl (fun c1327 => absurd rfl c1327) (fun c1327 => ?_)
    refine ga_bipush 12 C.c (v := (-2)) (by decide) dX0_undo_10 rfl ?_
    exact hw_iret C hr hlk hq rfl (Nat.le_of_ble_eq_true rfl) (Nat.le_of_ble_eq_true rfl) ⟨by unfold cx_undo; rw [if_pos (show pw p 7 ≤ 0 from c1326)], G, by unfold cx_undo; rw [if_pos (show pw p 7 ≤ 0 from c1326)]; exact X⟩ dX0_undo_12
  · rw [if_neg c1326]
    refine ga_if_ne 13 10 C.c dX0_undo_7 (by decide) rfl (fun c1328 => ?_) (fun c1328 => absurd c1328 (by decide))
    refine ga_aload_n 14 C.c 0 rfl rfl dX0_undo_13 rfl ?_
    refine ga_get1 17 1 C.c C.ts (own := RX0) (ref := "QuotedRiver") C.ow C.k (hw_one g1325) in_X0 rfl (by decide) q554 (fun _ h9 => h9) rfl dX0_undo_14 rfl ?_
    refine ga_get1N 20 3 C.c C.ts (own := RX0) (ref := "QuotedRiver$Rivers") C.ow C.k (hw_one g_o) in_X2 rfl (by decide) (C.n.use q401 rfl) (fun _ h9 => h9) rfl dX0_undo_17 rfl ?_
    refine hh_isEmpty 25 C g_l3 q1507 (Nat.le_of_ble_eq_true rfl) (Nat.le_of_ble_eq_true rfl) (Nat.le_of_ble_eq_true rfl) (Nat.le_of_ble_eq_true rfl) (Nat.le_of_ble_eq_true rfl) dX0_undo_20 rfl ?_
    have e6 : pw p 6 = nI n3 := hX3.1
    by_cases c1329 : nI n3 = 0
    · rw [if_pos c1329]
      refine ga_if_eq 31 28 C.c dX0_undo_25 (by decide) rfl (fun c1330 => absurd c1330 (by decide)) (fun c1330 => ?_)
      refine ga_bipush 30 C.c (v := (-5)) (by decide) dX0_undo_28 rfl ?_
      exact hw_iret C hr hlk hq rfl (Nat.le_of_ble_eq_true rfl) (Nat.le_of_ble_eq_true rfl) ⟨by unfold cx_undo; rw [if_neg (show ¬ pw p 7 ≤ 0 from c1326), if_pos (e6.trans c1329)], G, by unfold cx_undo; rw [if_neg (show ¬ pw p 7 ≤ 0 from c1326), if_pos (e6.trans c1329)]; exact X⟩ dX0_undo_30
    · rw [if_neg c1329]
      refine ga_if_eq 31 28 C.c dX0_undo_25 (by decide) rfl (fun c1331 => ?_) (fun c1331 => absurd rfl c1331)
      obtain ⟨j, hj⟩ : ∃ j, n3 = j + 1 := by
        cases n3 with
        | zero => exact absurd rfl c1329
        | succ j => exact ⟨j, rfl⟩
      subst hj
      refine ga_aload_n 32 C.c 0 rfl rfl dX0_undo_31 rfl ?_
      refine ga_get1 35 1 C.c C.ts (own := RX0) (ref := "QuotedRiver") C.ow C.k (hw_one g1325) in_X0 rfl (by decide) q554 (fun _ h9 => h9) rfl dX0_undo_32 rfl ?_
      refine ga_get1N 38 3 C.c C.ts (own := RX0) (ref := "QuotedRiver$Rivers") C.ow C.k (hw_one g_o) in_X2 rfl (by decide) (C.n.use q401 rfl) (fun _ h9 => h9) rfl dX0_undo_35 rfl ?_
      refine ga_aload_n 39 C.c 0 rfl rfl dX0_undo_38 rfl ?_
      refine ga_get1 42 1 C.c C.ts (own := RX0) (ref := "QuotedRiver") C.ow C.k (hw_one g1325) in_X0 rfl (by decide) q554 (fun _ h9 => h9) rfl dX0_undo_39 rfl ?_
      refine ga_get1N 45 3 C.c C.ts (own := RX0) (ref := "QuotedRiver$Rivers") C.ow C.k (hw_one g_o) in_X2 rfl (by decide) (C.n.use q401 rfl) (fun _ h9 => h9) rfl dX0_undo_42 rfl ?_
      refine hh_size 50 C g_l3 q1018 (Nat.le_of_ble_eq_true rfl) (Nat.le_of_ble_eq_true rfl) (Nat.le_of_ble_eq_true rfl) (Nat.le_of_ble_eq_true rfl) (Nat.le_of_ble_eq_true rfl) dX0_undo_45 rfl ?_
      refine ga_iconst 51 C.c (v := 1) (by decide) dX0_undo_50 rfl ?_
      refine ga_isub 52 C.c dX0_undo_51 rfl ?_
      rw [nI_pred]
      have hcp3 : G.2.1 3 ≤ 50 := by rcases X.n.2.1.c3 with q | q <;> omega
      have hyj := hn3.2.2.2 j (by omega)
      refine hh_callF 57 C (as := [.int (nI j)]) (met_J2_remove (eL E) D kk dE A _ (G.1 7 3) (G.1 8 3) (G.2.1 3) j (G.1 3 j) (G.2.2.2 3) (G.2.2.1 3) (by omega) (by omega) (by omega) hyj g_l3 g_d3) g_l3 (T := TJ2) rfl (C.f _ (List.mem_of_getElem? (i := 2) rfl)) (lw_F q1516 q1519 q1521 q98 q1523) cdL_remove rfl (Nat.le_of_ble_eq_true rfl) (Nat.le_of_ble_eq_true rfl) (Nat.le_of_ble_eq_true rfl) (Nat.le_of_ble_eq_true rfl) (Nat.le_of_ble_eq_true rfl) dX0_undo_52 rfl (fun v1333 h1332 p1334 => ?_)
      obtain ⟨rfl, gl2, gd2, k2⟩ := p1334
      obtain ⟨G2, X2⟩ := X.cutact (n2 := j) (hka_2 (by omega) k2) (by omega) gl2 gd2 (fun i hi => va_up_ne _ _ (by omega))
      have y1 : h1332 (g 0) = some (.inr (0, [.ref (g 13), .ref (g 15), .ref (g 14), .ref (g 1), .int (mi z 0), .int (mi z 1), .int (mi z 2), .ref (g 2), .ref (g 5), .ref (g 7), .int (mi z 3), .ref (g 9), .int (mi z 4), .ref (g 11), .ref (g 12)])) := X2.f 0 _ rfl
      have y2 := k2 _ _ (nm2 (hne g_o g_l3 (by simp)) (hne g_o g_d3 (by simp))) g_o
      refine ga_pop 58 C.c rfl dX0_undo_57 rfl ?_
      refine ga_aload_n 59 C.c 0 rfl rfl dX0_undo_58 rfl ?_
      refine ga_get1 62 1 C.c C.ts (own := RX0) (ref := "QuotedRiver") C.ow C.k (hw_one y1) in_X0 rfl (by decide) q554 (fun _ h9 => h9) rfl dX0_undo_59 rfl ?_
      refine ga_get1N 65 3 C.c C.ts (own := RX0) (ref := "QuotedRiver$Rivers") C.ow C.k (hw_one y2) in_X2 rfl (by decide) (C.n.use q401 rfl) (fun _ h9 => h9) rfl dX0_undo_62 rfl ?_
      refine hh_size 70 C gl2 q1018 (Nat.le_of_ble_eq_true rfl) (Nat.le_of_ble_eq_true rfl) (Nat.le_of_ble_eq_true rfl) (Nat.le_of_ble_eq_true rfl) (Nat.le_of_ble_eq_true rfl) dX0_undo_65 rfl ?_
      have e7 : pw p 6 - 1 = nI j := by rw [e6, nI_pred]
      exact hw_iret C hr hlk hq rfl (Nat.le_of_ble_eq_true rfl) (Nat.le_of_ble_eq_true rfl) ⟨by unfold cx_undo; rw [if_neg (show ¬ pw p 7 ≤ 0 from c1326), if_neg (fun q => c1329 (e6.symm.trans q)), e7], G2, by unfold cx_undo; rw [if_neg (show ¬ pw p 7 ≤ 0 from c1326), if_neg (fun q => c1329 (e6.symm.trans q)), e7]; exact X2⟩ dX0_undo_70
theorem cd_X0_anew : yX0_anew.cls = RX0 ∧ yX0_anew.cls ≠ "java/lang/invoke/MethodHandle" ∧ yX0_anew.cls ≠ "java/lang/invoke/VarHandle" ∧ (parseMethodDescriptor yX0_anew.desc).map (fun d => d.parameters.length) = some 0 := by decide +kernel
set_option maxHeartbeats 4000000 in
theorem met_X0_anew (l : Launch) (D : va_G) (kk : Nat → Nat) (dE : Nat → Nat) (A : Nat → Prop) (h : hG) (g : Nat → Nat) (z : MS) (G : XG) (S : XL) (p : PS) (M : XI) (X : XF kk dE h g z G S p M) : Met l yX0_anew (ws_ yX0_anew cX0_anew 2 (some .int)) ({ frames := 14, cells := 0, slots := 0, locals := 800 } : Room) (hw_Pc D kk dE A h [.ref (g 0)]) (hw_Qc D A (fun v h2 => v = some (.int (cx_anew p).1) ∧ ∃ G2, XF kk dE h2 g z G2 S (cx_anew p).2 M)) (0) (0) A := by
  refine hw_of (RX := RX0) (lo := [some (.ref (g 0)), none]) (by decide) rfl (Nat.le_of_ble_eq_true rfl) rfl (fun E C hin hr hlk hq => ?_)
  have g1335 : h (g 0) = some (.inr (0, [.ref (g 13), .ref (g 15), .ref (g 14), .ref (g 1), .int (mi z 0), .int (mi z 1), .int (mi z 2), .ref (g 2), .ref (g 5), .ref (g 7), .int (mi z 3), .ref (g 9), .int (mi z 4), .ref (g 11), .ref (g 12)])) := X.f 0 _ rfl
  have hRa := X.n
  have hn0 := hRa.1.n 0 (by decide)
  have hn1 := hRa.1.n 1 (by decide)
  have hn2 := hRa.1.n 2 (by decide)
  have hn3 := hRa.1.n 3 (by decide)
  obtain ⟨n0, en0⟩ : ∃ n, n = xr_n (p.1 0) 0 := ⟨_, rfl⟩
  rw [← en0] at hn0
  obtain ⟨n1, en1⟩ : ∃ n, n = xr_n (p.1 0) 1 := ⟨_, rfl⟩
  rw [← en1] at hn1
  obtain ⟨n2, en2⟩ : ∃ n, n = xr_n (p.1 0) 2 := ⟨_, rfl⟩
  rw [← en2] at hn2
  obtain ⟨n3, en3⟩ : ∃ n, n = xr_n (p.1 0) 3 := ⟨_, rfl⟩
  rw [← en3] at hn3
  have g_o := hRa.1.o
  have g_l0 : h (G.1 7 0) = some (.inr (13, [.int (G.2.2.1 0), .ref (G.1 8 0), .int (nI n0)])) := by
    rw [hRa.1.l 0 (by decide), hn0.1]
    rfl
  have g_d0 := hRa.1.d 0 (by decide)
  have g_l1 : h (G.1 7 1) = some (.inr (13, [.int (G.2.2.1 1), .ref (G.1 8 1), .int (nI n1)])) := by
    rw [hRa.1.l 1 (by decide), hn1.1]
    rfl
  have g_d1 := hRa.1.d 1 (by decide)
  have g_l2 : h (G.1 7 2) = some (.inr (13, [.int (G.2.2.1 2), .ref (G.1 8 2), .int (nI n2)])) := by
    rw [hRa.1.l 2 (by decide), hn2.1]
    rfl
  have g_d2 := hRa.1.d 2 (by decide)
  have g_l3 : h (G.1 7 3) = some (.inr (13, [.int (G.2.2.1 3), .ref (G.1 8 3), .int (nI n3)])) := by
    rw [hRa.1.l 3 (by decide), hn3.1]
    rfl
  have g_d3 := hRa.1.d 3 (by decide)
  have hX3 := X.n3
  rw [← en3] at hX3
  refine ga_aload_n 1 C.c 0 rfl rfl dX0_anew_0 rfl ?_
  refine ga_get1 4 1 C.c C.ts (own := RX0) (ref := "QuotedRiver") C.ow C.k (hw_one g1335) in_X0 rfl (by decide) q554 (fun _ h9 => h9) rfl dX0_anew_1 rfl ?_
  refine hh_is 7 C g_o q997 (Nat.le_of_ble_eq_true rfl) (Nat.le_of_ble_eq_true rfl) (Nat.le_of_ble_eq_true rfl) (Nat.le_of_ble_eq_true rfl) (Nat.le_of_ble_eq_true rfl) dX0_anew_4 rfl ?_
  by_cases c1336 : p.1 0 7 ≤ 0
  · rw [if_pos c1336]
    refine ga_if_ne 13 10 C.c dX0_anew_7 (by decide) rfl (fun c1337 => absurd rfl c1337) (fun c1337 => ?_)
    refine ga_bipush 12 C.c (v := (-2)) (by decide) dX0_anew_10 rfl ?_
    exact hw_iret C hr hlk hq rfl (Nat.le_of_ble_eq_true rfl) (Nat.le_of_ble_eq_true rfl) ⟨by unfold cx_anew; rw [if_pos (show pw p 7 ≤ 0 from c1336)], G, by unfold cx_anew; rw [if_pos (show pw p 7 ≤ 0 from c1336)]; exact X⟩ dX0_anew_12
  · rw [if_neg c1336]
    refine ga_if_ne 13 10 C.c dX0_anew_7 (by decide) rfl (fun c1338 => ?_) (fun c1338 => absurd c1338 (by decide))
    refine ga_aload_n 14 C.c 0 rfl rfl dX0_anew_13 rfl ?_
    refine ga_get1 17 1 C.c C.ts (own := RX0) (ref := "QuotedRiver") C.ow C.k (hw_one g1335) in_X0 rfl (by decide) q554 (fun _ h9 => h9) rfl dX0_anew_14 rfl ?_
    refine ga_get1N 20 3 C.c C.ts (own := RX0) (ref := "QuotedRiver$Rivers") C.ow C.k (hw_one g_o) in_X2 rfl (by decide) (C.n.use q401 rfl) (fun _ h9 => h9) rfl dX0_anew_17 rfl ?_
    refine hh_size 25 C g_l3 q1018 (Nat.le_of_ble_eq_true rfl) (Nat.le_of_ble_eq_true rfl) (Nat.le_of_ble_eq_true rfl) (Nat.le_of_ble_eq_true rfl) (Nat.le_of_ble_eq_true rfl) dX0_anew_20 rfl ?_
    refine ga_istore_n 26 C.c 1 rfl (Nat.le_of_ble_eq_true rfl) rfl dX0_anew_25 rfl ?_
    refine ga_aload_n 27 C.c 0 rfl rfl dX0_anew_26 rfl ?_
    refine ga_get1 30 1 C.c C.ts (own := RX0) (ref := "QuotedRiver") C.ow C.k (hw_one g1335) in_X0 rfl (by decide) q554 (fun _ h9 => h9) rfl dX0_anew_27 rfl ?_
    refine ga_get1N 33 3 C.c C.ts (own := RX0) (ref := "QuotedRiver$Rivers") C.ow C.k (hw_one g_o) in_X2 rfl (by decide) (C.n.use q401 rfl) (fun _ h9 => h9) rfl dX0_anew_30 rfl ?_
    have e6 : pw p 6 = nI n3 := hX3.1
    have hcp3 : G.2.1 3 ≤ 50 := by rcases X.n.2.1.c3 with q | q <;> omega
    refine hh_callF 38 C (as := []) (met_J2_clear (eL E) D kk dE A _ (G.1 7 3) (G.1 8 3) (G.2.1 3) n3 (G.2.2.2 3) (G.2.2.1 3) hX3.2.2 (by omega) g_l3 g_d3) g_l3 (T := TJ2) rfl (C.f _ (List.mem_of_getElem? (i := 3) rfl)) (lw_F q1534 q1537 q1539 q98 q1541) cdL_clear rfl (Nat.le_of_ble_eq_true rfl) (Nat.le_of_ble_eq_true rfl) (Nat.le_of_ble_eq_true rfl) (Nat.le_of_ble_eq_true rfl) (Nat.le_of_ble_eq_true rfl) dX0_anew_33 rfl (fun v1340 h1339 p1341 => ?_)
    obtain ⟨rfl, gl2, gd2, k2⟩ := p1341
    have hk : hka h h1339 G := by
      rcases Nat.eq_zero_or_pos (G.2.1 3) with q | q
      · have q0 : n3 = 0 := by omega
        rw [q0, cl_f0] at gd2
        exact hka_3 g_d3 gd2 k2
      · exact hka_2 q k2
    obtain ⟨G2, X2⟩ := X.cutact (n2 := 0) hk (Nat.zero_le _) gl2 gd2 (fun i hi => absurd hi (by omega))
    refine ga_iload_n 39 C.c 1 rfl rfl dX0_anew_38 rfl ?_
    exact hw_iret C hr hlk hq rfl (Nat.le_of_ble_eq_true rfl) (Nat.le_of_ble_eq_true rfl) ⟨by unfold cx_anew; rw [if_neg (show ¬ pw p 7 ≤ 0 from c1336), e6], G2, by unfold cx_anew; rw [if_neg (show ¬ pw p 7 ≤ 0 from c1336)]; exact X2⟩ dX0_anew_39
theorem cd_X0_acts : yX0_acts.cls = RX0 ∧ yX0_acts.cls ≠ "java/lang/invoke/MethodHandle" ∧ yX0_acts.cls ≠ "java/lang/invoke/VarHandle" ∧ (parseMethodDescriptor yX0_acts.desc).map (fun d => d.parameters.length) = some 2 := by decide +kernel
set_option maxHeartbeats 4000000 in
theorem met_X0_acts (l : Launch) (D : va_G) (kk : Nat → Nat) (dE : Nat → Nat) (A : Nat → Prop) (h : hG) (g : Nat → Nat) (z : MS) (G : XG) (S : XL) (p : PS) (M : XI) (X : XF kk dE h g z G S p M) (y r : Nat) (c was : Int32) (hy : hao h y r c) : Met l yX0_acts (ws_ yX0_acts cX0_acts 3 (some .int)) ({ frames := 9, cells := 1, slots := 50, locals := 500 } : Room) (hw_Pc D kk dE A h [.ref (g 0), .ref y, .int was]) (hw_Qc D A (fun v h2 => (pw p 6 = 30 → v = some (.int (-5)) ∧ h2 = h) ∧ (¬ pw p 6 = 30 → v = some (.int was) ∧ ∃ G2, XF kk dE h2 g z G2 S (cx_add p (pw p 6).toNatClampNeg c) M))) (1) (50) A := by
  refine hw_of (RX := RX0) (lo := [some (.ref (g 0)), some (.ref y), some (.int was)]) (by decide) rfl (Nat.le_of_ble_eq_true rfl) rfl (fun E C hin hr hlk hq => ?_)
  have g1342 : h (g 0) = some (.inr (0, [.ref (g 13), .ref (g 15), .ref (g 14), .ref (g 1), .int (mi z 0), .int (mi z 1), .int (mi z 2), .ref (g 2), .ref (g 5), .ref (g 7), .int (mi z 3), .ref (g 9), .int (mi z 4), .ref (g 11), .ref (g 12)])) := X.f 0 _ rfl
  have hRa := X.n
  have hn0 := hRa.1.n 0 (by decide)
  have hn1 := hRa.1.n 1 (by decide)
  have hn2 := hRa.1.n 2 (by decide)
  have hn3 := hRa.1.n 3 (by decide)
  obtain ⟨n0, en0⟩ : ∃ n, n = xr_n (p.1 0) 0 := ⟨_, rfl⟩
  rw [← en0] at hn0
  obtain ⟨n1, en1⟩ : ∃ n, n = xr_n (p.1 0) 1 := ⟨_, rfl⟩
  rw [← en1] at hn1
  obtain ⟨n2, en2⟩ : ∃ n, n = xr_n (p.1 0) 2 := ⟨_, rfl⟩
  rw [← en2] at hn2
  obtain ⟨n3, en3⟩ : ∃ n, n = xr_n (p.1 0) 3 := ⟨_, rfl⟩
  rw [← en3] at hn3
  have g_o := hRa.1.o
  have g_l0 : h (G.1 7 0) = some (.inr (13, [.int (G.2.2.1 0), .ref (G.1 8 0), .int (nI n0)])) := by
    rw [hRa.1.l 0 (by decide), hn0.1]
    rfl
  have g_d0 := hRa.1.d 0 (by decide)
  have g_l1 : h (G.1 7 1) = some (.inr (13, [.int (G.2.2.1 1), .ref (G.1 8 1), .int (nI n1)])) := by
    rw [hRa.1.l 1 (by decide), hn1.1]
    rfl
  have g_d1 := hRa.1.d 1 (by decide)
  have g_l2 : h (G.1 7 2) = some (.inr (13, [.int (G.2.2.1 2), .ref (G.1 8 2), .int (nI n2)])) := by
    rw [hRa.1.l 2 (by decide), hn2.1]
    rfl
  have g_d2 := hRa.1.d 2 (by decide)
  have g_l3 : h (G.1 7 3) = some (.inr (13, [.int (G.2.2.1 3), .ref (G.1 8 3), .int (nI n3)])) := by
    rw [hRa.1.l 3 (by decide), hn3.1]
    rfl
  have g_d3 := hRa.1.d 3 (by decide)
  have hX3 := X.n3
  rw [← en3] at hX3
  have e6 : pw p 6 = nI n3 := hX3.1
  have etn : (pw p 6).toNatClampNeg = n3 := by rw [e6]; exact nI_clamp (by omega)
  obtain ⟨fE, hE⟩ := X.e
  have hyl := hy.ne g_l3 (by simp)
  have hs := X.n.2.2
  refine ga_aload_n 1 C.c 0 rfl rfl dX0_acts_0 rfl ?_
  refine ga_get1 4 1 C.c C.ts (own := RX0) (ref := "QuotedRiver") C.ow C.k (hw_one g1342) in_X0 rfl (by decide) q554 (fun _ h9 => h9) rfl dX0_acts_1 rfl ?_
  refine ga_get1N 7 3 C.c C.ts (own := RX0) (ref := "QuotedRiver$Rivers") C.ow C.k (hw_one g_o) in_X2 rfl (by decide) (C.n.use q401 rfl) (fun _ h9 => h9) rfl dX0_acts_4 rfl ?_
  refine hh_size 12 C g_l3 q1018 (Nat.le_of_ble_eq_true rfl) (Nat.le_of_ble_eq_true rfl) (by omega) (by omega) (Nat.le_of_ble_eq_true rfl) dX0_acts_7 rfl ?_
  refine ga_bipush 14 C.c (v := 30) (by decide) dX0_acts_12 rfl ?_
  refine ga_icmp_ne 20 17 C.c dX0_acts_14 (by decide) rfl (fun c1343 => ?_) (fun c1343 => ?_)
  · have hn30 : n3 < 30 := by
      rcases Nat.lt_or_ge n3 30 with q | q
      · exact q
      · exact absurd (show nI n3 = 30 by rw [show n3 = 30 by omega]; rfl) c1343
    refine ga_aload_n 21 C.c 0 rfl rfl dX0_acts_20 rfl ?_
    refine ga_get1 24 1 C.c C.ts (own := RX0) (ref := "QuotedRiver") C.ow C.k (hw_one g1342) in_X0 rfl (by decide) q554 (fun _ h9 => h9) rfl dX0_acts_21 rfl ?_
    refine ga_get1N 27 3 C.c C.ts (own := RX0) (ref := "QuotedRiver$Rivers") C.ow C.k (hw_one g_o) in_X2 rfl (by decide) (C.n.use q401 rfl) (fun _ h9 => h9) rfl dX0_acts_24 rfl ?_
    refine ga_aload_n 28 C.c 1 rfl rfl dX0_acts_27 rfl ?_
    by_cases c1344 : G.2.1 3 = 0
    · have hz0 : n3 = 0 := by omega
      have hz1 : G.1 8 3 = dE 0 := by rcases X.n.2.1.c3 with q | q; exact q.1; omega
      have gl0 : h (G.1 7 3) = some (.inr (13, [.int (G.2.2.1 3), .ref (dE 0), .int (nI 0)])) := by rw [g_l3, hz1, hz0]
      refine hh_callF 33 C (as := [.ref y]) (met_J2_add_e (eL E) D kk dE A _ (G.1 7 3) y fE (G.2.2.1 3) hy.el (nm1 hyl) gl0 hE) g_l3 (T := TJ2) rfl (C.f _ (List.mem_of_getElem? (i := 0) rfl)) (lw_F q1495 q829 q831 q98 q833) cdL_add rfl (Nat.le_of_ble_eq_true rfl) (Nat.le_of_ble_eq_true rfl) (by omega) (by omega) (Nat.le_of_ble_eq_true rfl) dX0_acts_28 rfl (fun v1346 h1345 p1347 => ?_)
      obtain ⟨rfl, x, nx, gl2, gx, k2⟩ := p1347
      have hz := X.addact (hka_1 k2) (n := n3) en3 hy (by rw [hz0]; exact gl2) gx (fun j hj => absurd hj (by omega)) (by rw [hz0, va_up_self]) (by omega) hn30 ⟨by omega, by omega⟩ ⟨(hn_ne g_d0 nx).symm, (hn_ne g_d1 nx).symm, (hn_ne g_d2 nx).symm⟩ (Or.inr nx)
      refine ga_pop 34 C.c rfl dX0_acts_33 rfl ?_
      refine ga_iload_n 35 C.c 2 rfl rfl dX0_acts_34 rfl ?_
      exact hw_iret C hr hlk hq rfl (by omega) (by omega) ⟨fun q => absurd (e6.symm.trans q) c1343, fun _ => ⟨rfl, by rw [etn]; exact hz⟩⟩ dX0_acts_35
    · have hcp : 10 ≤ G.2.1 3 ∧ G.2.1 3 ≤ 50 := by rcases X.n.2.1.c3 with q | q; omega; exact q
      by_cases c1348 : n3 < G.2.1 3
      · refine hh_callF 33 C (as := [.ref y]) (met_J2_add_r (eL E) D kk dE A _ (G.1 7 3) (G.1 8 3) (G.2.1 3) n3 y (G.2.2.2 3) (G.2.2.1 3) c1348 (by omega) hy.el (nm1 hyl) g_l3 g_d3) g_l3 (T := TJ2) rfl (C.f _ (List.mem_of_getElem? (i := 0) rfl)) (lw_F q1495 q829 q831 q98 q833) cdL_add rfl (Nat.le_of_ble_eq_true rfl) (Nat.le_of_ble_eq_true rfl) (by omega) (by omega) (Nat.le_of_ble_eq_true rfl) dX0_acts_28 rfl (fun v1350 h1349 p1351 => ?_)
        obtain ⟨rfl, gl2, gx, k2⟩ := p1351
        have hz := X.addact (hka_2 (by omega) k2) (n := n3) en3 hy gl2 gx (fun j hj => va_up_ne _ _ (by omega)) (va_up_self _ _ _) (by omega) hn30 hcp ⟨hs.d 3 0 (by decide) (by decide) (by decide) (by omega), hs.d 3 1 (by decide) (by decide) (by decide) (by omega), hs.d 3 2 (by decide) (by decide) (by decide) (by omega)⟩ (Or.inl ⟨rfl, by omega⟩)
        refine ga_pop 34 C.c rfl dX0_acts_33 rfl ?_
        refine ga_iload_n 35 C.c 2 rfl rfl dX0_acts_34 rfl ?_
        exact hw_iret C hr hlk hq rfl (by omega) (by omega) ⟨fun q => absurd (e6.symm.trans q) c1343, fun _ => ⟨rfl, by rw [etn]; exact hz⟩⟩ dX0_acts_35
      · have ec : G.2.1 3 = n3 := by omega
        have g_d3b := g_d3
        rw [ec] at g_d3b
        refine hh_callF 33 C (as := [.ref y]) (met_J2_add_f (eL E) D kk dE A _ (G.1 7 3) (G.1 8 3) n3 (n3 + n3 / 2) y (G.2.2.2 3) (G.2.2.1 3) (by omega) (by omega) (ls_Gx (by omega) hn30) (fun i hi w hw => (X.n.el3 (by rw [← en3]; exact hi) hw).1) (fun i hi w hw => nm1 ((X.n.el3 (by rw [← en3]; exact hi) hw).2 _ _ g_l3 (by simp))) hy.el (nm1 hyl) g_l3 g_d3b) g_l3 (T := TJ2) rfl (C.f _ (List.mem_of_getElem? (i := 0) rfl)) (lw_F q1495 q829 q831 q98 q833) cdL_add rfl (Nat.le_of_ble_eq_true rfl) (Nat.le_of_ble_eq_true rfl) (by omega) (by omega) (Nat.le_of_ble_eq_true rfl) dX0_acts_28 rfl (fun v1353 h1352 p1354 => ?_)
        obtain ⟨rfl, x, nx, gl2, gx, k2⟩ := p1354
        have hz := X.addact (hka_1 k2) (n := n3) en3 hy gl2 gx (fun j hj => (va_up_ne _ _ (by omega)).trans (ls_cp hj)) (va_up_self _ _ _) (by omega) hn30 ⟨by omega, by omega⟩ ⟨(hn_ne g_d0 nx).symm, (hn_ne g_d1 nx).symm, (hn_ne g_d2 nx).symm⟩ (Or.inr nx)
        refine ga_pop 34 C.c rfl dX0_acts_33 rfl ?_
        refine ga_iload_n 35 C.c 2 rfl rfl dX0_acts_34 rfl ?_
        exact hw_iret C hr hlk hq rfl (by omega) (by omega) ⟨fun q => absurd (e6.symm.trans q) c1343, fun _ => ⟨rfl, by rw [etn]; exact hz⟩⟩ dX0_acts_35
  · refine ga_bipush 19 C.c (v := (-5)) (by decide) dX0_acts_17 rfl ?_
    exact hw_iret C hr hlk hq rfl (by omega) (by omega) ⟨fun _ => ⟨rfl, rfl⟩, fun q => absurd (e6.trans c1343) q⟩ dX0_acts_19
theorem cd_X0_close : yX0_close.cls = RX0 ∧ yX0_close.cls ≠ "java/lang/invoke/MethodHandle" ∧ yX0_close.cls ≠ "java/lang/invoke/VarHandle" ∧ (parseMethodDescriptor yX0_close.desc).map (fun d => d.parameters.length) = some 2 := by decide +kernel
set_option maxHeartbeats 4000000 in
theorem met_X0_close (l : Launch) (D : va_G) (kk : Nat → Nat) (dE : Nat → Nat) (A : Nat → Prop) (h : hG) (g : Nat → Nat) (z : MS) (G : XG) (S : XL) (p : PS) (M : XI) (X : XF kk dE h g z G S p M) (a1 a2 : Int32) (z2 : MS) (hz : fX3_is p z = some z2) (hcode : ¬ (fX0_isJoin p z a1 = 0 ∨ fX0_isBit a2 = 0) → (2 * a1 + a2) / 2 = a1 ∧ (2 * a1 + a2) - a1 * 2 = a2 ∧ ¬ 100 ≤ 2 * a1 + a2) : Met l yX0_close (ws_ yX0_close cX0_close 3 (some .int)) ({ frames := 14, cells := 2, slots := 60, locals := 900 } : Room) (hw_Pc D kk dE A h [.ref (g 0), .int a1, .int a2]) (hw_Qc D A (fun v h2 => (fX0_isJoin p z a1 = 0 ∨ fX0_isBit a2 = 0 → v = some (.int (-2)) ∧ h2 = h) ∧ (¬ (fX0_isJoin p z a1 = 0 ∨ fX0_isBit a2 = 0) → (pw p 6 = 30 → v = some (.int (-5)) ∧ XF kk dE h2 g z2 G S p M) ∧ (¬ pw p 6 = 30 → v = some (.int ((mi z2 5 >>> (a1 &&& 31)) &&& 1)) ∧ ∃ G2, XF kk dE h2 g z2 G2 S (cx_add p (pw p 6).toNatClampNeg (2 * a1 + a2)) M)))) (2) (60) A := by
  refine hw_of (RX := RX0) (lo := [some (.ref (g 0)), some (.int a1), some (.int a2)]) (by decide) rfl (Nat.le_of_ble_eq_true rfl) rfl (fun E C hin hr hlk hq => ?_)
  have g1355 : h (g 0) = some (.inr (0, [.ref (g 13), .ref (g 15), .ref (g 14), .ref (g 1), .int (mi z 0), .int (mi z 1), .int (mi z 2), .ref (g 2), .ref (g 5), .ref (g 7), .int (mi z 3), .ref (g 9), .int (mi z 4), .ref (g 11), .ref (g 12)])) := X.f 0 _ rfl
  have g1356 : h (g 2) = some (.inr (4, [.ref (g 3), .ref (g 4), .int (mi z 5), .int (mi z 6), .int (mi z 7), .int (mi z 8), .int (mi z 9), .int (mi z 10), .ref (g 0)])) := X.f 2 _ rfl
  refine ga_aload_n 1 C.c 0 rfl rfl dX0_close_0 rfl ?_
  refine ga_iload_n 2 C.c 1 rfl rfl dX0_close_1 rfl ?_
  refine hh_callQ 5 C X (as := [.int a1]) (met_X0_isJoin (eL E) (D, g, kk, G, S, p) z a1) g1355 (T := TX0) rfl (lw_V q1046 q1048 qs25 q93 q1049) cd_X0_isJoin rfl (Nat.le_of_ble_eq_true rfl) (Nat.le_of_ble_eq_true rfl) (Nat.le_of_ble_eq_true rfl) (Nat.le_of_ble_eq_true rfl) (Nat.le_of_ble_eq_true rfl) dX0_close_2 rfl (fun h1357 X1358 k1359 e1360 => ?_)
  have e1360 := (e1360 rfl).symm
  subst e1360
  refine ga_if_eq 46 8 C.c dX0_close_5 (by decide) rfl (fun c1361 => ?_) (fun c1361 => ?_)
  · refine ga_bipush 48 C.c (v := (-2)) (by decide) dX0_close_46 rfl ?_
    exact hw_iret C hr hlk hq rfl (Nat.le_of_ble_eq_true rfl) (Nat.le_of_ble_eq_true rfl) ⟨fun _ => ⟨rfl, rfl⟩, fun q => absurd (Or.inl c1361) q⟩ dX0_close_48
  · refine ga_iload_n 9 C.c 2 rfl rfl dX0_close_8 rfl ?_
    refine ga_callS 12 (RX := RX0) C.c C.ml C.ow C.ts (as := [.int a2]) (met_X0_isBit (eL E) a2) (lw_S q1226 q1227 q93 q1228) cd_X0_isBit rfl (by rw [C.rm]; exact (Nat.le_of_ble_eq_true rfl)) (by rw [C.rm]; exact (Nat.le_of_ble_eq_true rfl)) (by rw [C.rm]; exact (Nat.le_of_ble_eq_true rfl)) (by rw [C.rm]; exact (Nat.le_of_ble_eq_true rfl)) (Nat.le_of_ble_eq_true rfl) dX0_close_9 rfl ?_
    refine ga_if_eq 46 15 C.c dX0_close_12 (by decide) rfl (fun c1362 => ?_) (fun c1362 => ?_)
    · refine ga_bipush 48 C.c (v := (-2)) (by decide) dX0_close_46 rfl ?_
      exact hw_iret C hr hlk hq rfl (Nat.le_of_ble_eq_true rfl) (Nat.le_of_ble_eq_true rfl) ⟨fun _ => ⟨rfl, rfl⟩, fun q => absurd (Or.inr c1362) q⟩ dX0_close_48
    · have hno : ¬ (fX0_isJoin p z a1 = 0 ∨ fX0_isBit a2 = 0) := fun q => q.elim c1361 c1362
      obtain ⟨hc1, hc2, hc3⟩ := hcode hno
      refine ga_aload_n 16 C.c 0 rfl rfl dX0_close_15 rfl ?_
      refine hh_new 19 C (ci := 12) (fs := [.int 0, .int 0, .null]) tyX12 tyX12_ok in_X12 q1471 q1472 q122 rfl (fun j hj => by rcases (show j = 0 ∨ j = 1 ∨ j = 2 by omega) with rfl | rfl | rfl <;> rfl) (Nat.le_of_ble_eq_true rfl) (Nat.le_of_ble_eq_true rfl) dX0_close_16 rfl (fun o1363 h1364 n1366 a1367 e1365 => ?_)
      have k1368 := hu_fr0 e1365 n1366
      have g1369 := hu_at e1365
      clear e1365
      have ne1370 : (g 0) ≠ o1363 := hn_ne g1355 n1366
      have ne1371 : (g 2) ≠ o1363 := hn_ne g1356 n1366
      have g1372 := k1368 _ _ List.not_mem_nil g1355
      have g1373 := k1368 _ _ List.not_mem_nil g1356
      refine ga_dup 20 C.c rfl dX0_close_19 rfl ?_
      refine ga_iload_n 21 C.c 1 rfl rfl dX0_close_20 rfl ?_
      refine ga_iload_n 22 C.c 2 rfl rfl dX0_close_21 rfl ?_
      refine ga_null 23 C.c dX0_close_22 rfl ?_
      refine hh_callI 26 C (as := [.int a1, .int a2, .null]) (met_X12_init_n (eL E) D kk dE A _ o1363 a1 a2 g1369) q1473 q1474 q122 q1475 rfl cd_X12_init rfl (Nat.le_of_ble_eq_true rfl) (Nat.le_of_ble_eq_true rfl) (Nat.le_of_ble_eq_true rfl) (Nat.le_of_ble_eq_true rfl) (Nat.le_of_ble_eq_true rfl) dX0_close_23 rfl (fun v1375 h1374 p1376 => ?_)
      obtain ⟨rfl, ga, ka⟩ := p1376
      have g1377 := ka _ _ (nm1 ne1370) g1372
      have g1378 := ka _ _ (nm1 ne1371) g1373
      refine ga_aload_n 27 C.c 0 rfl rfl dX0_close_26 rfl ?_
      refine ga_get1 30 7 C.c C.ts (own := RX0) (ref := "QuotedRiver") C.ow C.k (hw_one g1377) in_X0 rfl (by decide) q562 (fun _ h9 => h9) rfl dX0_close_27 rfl ?_
      have kF1379 : hfr h h1374 [] := by
        intro b e nb hb
        have m_o1363 : b ≠ o1363 := hn_ne hb n1366
        have b1380 := k1368 b e List.not_mem_nil hb
        have b1381 := ka b e (nm1 m_o1363) b1380
        exact b1381
      have X1 := X.fr kF1379
      refine hh_callQ 33 C X1 (as := []) (met_X3_is (eL E) (D, g, kk, G, S, p) z z2 hz) g1378 (T := TX3) rfl (lw_V q1059 q1060 q1061 q99 q1062) cd_X3_is rfl (Nat.le_of_ble_eq_true rfl) (Nat.le_of_ble_eq_true rfl) (Nat.le_of_ble_eq_true rfl) (Nat.le_of_ble_eq_true rfl) (Nat.le_of_ble_eq_true rfl) dX0_close_30 rfl (fun h1382 X1383 k1384 e1385 => ?_)
      have g1386 := k1384.o ga (by decide)
      have g1387 : h1382 (g 0) = some (.inr (0, [.ref (g 13), .ref (g 15), .ref (g 14), .ref (g 1), .int (mi z2 0), .int (mi z2 1), .int (mi z2 2), .ref (g 2), .ref (g 5), .ref (g 7), .int (mi z2 3), .ref (g 9), .int (mi z2 4), .ref (g 11), .ref (g 12)])) := X1383.f 0 _ rfl
      have g1388 : h1382 (g 2) = some (.inr (4, [.ref (g 3), .ref (g 4), .int (mi z2 5), .int (mi z2 6), .int (mi z2 7), .int (mi z2 8), .int (mi z2 9), .int (mi z2 10), .ref (g 0)])) := X1383.f 2 _ rfl
      refine ga_get1N 36 2 C.c C.ts (own := RX0) (ref := "QuotedRiver$Water") C.ow C.k (hw_one g1388) in_X3 rfl (by decide) (C.n.use q446 rfl) (fun _ h9 => h9) rfl dX0_close_33 rfl ?_
      refine ga_iload_n 37 C.c 1 rfl rfl dX0_close_36 rfl ?_
      refine ga_ishr 38 C.c dX0_close_37 rfl ?_
      refine ga_iconst 39 C.c (v := 1) (by decide) dX0_close_38 rfl ?_
      refine ga_iand 40 C.c dX0_close_39 rfl ?_
      have hY : hao h1382 o1363 0 (2 * a1 + a2) := ⟨fun q => absurd q hc3, fun _ => by rw [hc1, hc2]; exact g1386⟩
      refine hh_callV 43 C (as := [.ref o1363, .int (((mi z2 5) >>> (a1 &&& 31)) &&& 1)]) (met_X0_acts (eL E) D kk dE A _ g z2 G S p M X1383 o1363 0 (2 * a1 + a2) (((mi z2 5) >>> (a1 &&& 31)) &&& 1) hY) g1387 (T := TX0) rfl (lw_V q1490 q1492 qs45 q93 q1493) cd_X0_acts rfl (Nat.le_of_ble_eq_true rfl) (Nat.le_of_ble_eq_true rfl) (Nat.le_of_ble_eq_true rfl) (Nat.le_of_ble_eq_true rfl) (Nat.le_of_ble_eq_true rfl) dX0_close_40 rfl (fun v1390 h1389 p1391 => ?_)
      obtain ⟨pa, pb⟩ := p1391
      by_cases c1392 : pw p 6 = 30
      · obtain ⟨rfl, e9⟩ := pa c1392
        have e9 := e9.symm
        subst e9
        refine ga_goto 48 C.c dX0_close_43 (by decide) ?_
        exact hw_iret C hr hlk hq rfl (Nat.le_of_ble_eq_true rfl) (Nat.le_of_ble_eq_true rfl) ⟨fun q => absurd q hno, fun _ => ⟨fun _ => ⟨rfl, X1383⟩, fun q => absurd c1392 q⟩⟩ dX0_close_48
      · obtain ⟨rfl, G2, X9⟩ := pb c1392
        refine ga_goto 48 C.c dX0_close_43 (by decide) ?_
        exact hw_iret C hr hlk hq rfl (Nat.le_of_ble_eq_true rfl) (Nat.le_of_ble_eq_true rfl) ⟨fun q => absurd q hno, fun _ => ⟨fun q => absurd q c1392, fun _ => ⟨rfl, G2, X9⟩⟩⟩ dX0_close_48
theorem cd_X0_pours : yX0_pours.cls = RX0 ∧ yX0_pours.cls ≠ "java/lang/invoke/MethodHandle" ∧ yX0_pours.cls ≠ "java/lang/invoke/VarHandle" ∧ (parseMethodDescriptor yX0_pours.desc).map (fun d => d.parameters.length) = some 2 := by decide +kernel
set_option maxHeartbeats 4000000 in
theorem met_X0_pours (l : Launch) (D : va_G) (kk : Nat → Nat) (dE : Nat → Nat) (A : Nat → Prop) (h : hG) (g : Nat → Nat) (z : MS) (G : XG) (S : XL) (p : PS) (M : XI) (X : XF kk dE h g z G S p M) (a1 a2 : Int32) (z2 : MS) (hz : fX3_is p z = some z2) (hcode : ¬ (fX0_isStep p z a1.toInt64 = 0 ∨ fX0_in a2.toInt64 1 30 = 0) → (100 * (a1 + 1) + a2) / 100 - 1 = a1 ∧ (100 * (a1 + 1) + a2) - (100 * (a1 + 1) + a2) / 100 * 100 = a2 ∧ 100 ≤ 100 * (a1 + 1) + a2 ∧ vp_in a1 61) : Met l yX0_pours (ws_ yX0_pours cX0_pours 3 (some .int)) ({ frames := 14, cells := 3, slots := 70, locals := 900 } : Room) (hw_Pc D kk dE A h [.ref (g 0), .int a1, .int a2]) (hw_Qc D A (fun v h2 => (fX0_isStep p z a1.toInt64 = 0 ∨ fX0_in a2.toInt64 1 30 = 0 → v = some (.int (-2)) ∧ h2 = h) ∧ (¬ (fX0_isStep p z a1.toInt64 = 0 ∨ fX0_in a2.toInt64 1 30 = 0) → (pw p 6 = 30 → v = some (.int (-5)) ∧ XF kk dE h2 g z2 G S p M) ∧ (¬ pw p 6 = 30 → v = some (.int (ma z2 1 a1.toNatClampNeg + a2)) ∧ ∃ G2, XF kk dE h2 g z2 G2 S (cx_add p (pw p 6).toNatClampNeg (100 * (a1 + 1) + a2)) M)))) (3) (70) A := by
  refine hw_of (RX := RX0) (lo := [some (.ref (g 0)), some (.int a1), some (.int a2)]) (by decide) rfl (Nat.le_of_ble_eq_true rfl) rfl (fun E C hin hr hlk hq => ?_)
  have g1393 : h (g 0) = some (.inr (0, [.ref (g 13), .ref (g 15), .ref (g 14), .ref (g 1), .int (mi z 0), .int (mi z 1), .int (mi z 2), .ref (g 2), .ref (g 5), .ref (g 7), .int (mi z 3), .ref (g 9), .int (mi z 4), .ref (g 11), .ref (g 12)])) := X.f 0 _ rfl
  have g1394 : h (g 2) = some (.inr (4, [.ref (g 3), .ref (g 4), .int (mi z 5), .int (mi z 6), .int (mi z 7), .int (mi z 8), .int (mi z 9), .int (mi z 10), .ref (g 0)])) := X.f 2 _ rfl
  refine ga_aload_n 1 C.c 0 rfl rfl dX0_pours_0 rfl ?_
  refine ga_iload_n 2 C.c 1 rfl rfl dX0_pours_1 rfl ?_
  refine ga_i2l 3 C.c dX0_pours_2 rfl ?_
  refine hh_callQ 6 C X (as := [.long a1.toInt64]) (met_X0_isStep (eL E) (D, g, kk, G, S, p) z a1.toInt64) g1393 (T := TX0) rfl (lw_V q1123 q1125 qs31 q93 q1126) cd_X0_isStep rfl (Nat.le_of_ble_eq_true rfl) (Nat.le_of_ble_eq_true rfl) (Nat.le_of_ble_eq_true rfl) (Nat.le_of_ble_eq_true rfl) (Nat.le_of_ble_eq_true rfl) dX0_pours_3 rfl (fun h1395 X1396 k1397 e1398 => ?_)
  have e1398 := (e1398 rfl).symm
  subst e1398
  refine ga_if_eq 60 9 C.c dX0_pours_6 (by decide) rfl (fun c1399 => ?_) (fun c1399 => ?_)
  · refine ga_bipush 62 C.c (v := (-2)) (by decide) dX0_pours_60 rfl ?_
    exact hw_iret C hr hlk hq rfl (Nat.le_of_ble_eq_true rfl) (Nat.le_of_ble_eq_true rfl) ⟨fun _ => ⟨rfl, rfl⟩, fun q => absurd (Or.inl c1399) q⟩ dX0_pours_62
  · refine ga_iload_n 10 C.c 2 rfl rfl dX0_pours_9 rfl ?_
    refine ga_i2l 11 C.c dX0_pours_10 rfl ?_
    refine ga_lconst 12 C.c (v := 1) (by decide) dX0_pours_11 rfl ?_
    refine ga_ldc2 15 C.c C.ow (C.ts _ q1500) dX0_pours_12 rfl ?_
    refine ga_callS 18 (RX := RX0) C.c C.ml C.ow C.ts (as := [.long a2.toInt64, .long 1, .long 30]) (met_X0_in (eL E) a2.toInt64 1 30) (lw_S q136 q137 q93 q138) cd_X0_in rfl (by rw [C.rm]; exact (Nat.le_of_ble_eq_true rfl)) (by rw [C.rm]; exact (Nat.le_of_ble_eq_true rfl)) (by rw [C.rm]; exact (Nat.le_of_ble_eq_true rfl)) (by rw [C.rm]; exact (Nat.le_of_ble_eq_true rfl)) (Nat.le_of_ble_eq_true rfl) dX0_pours_15 rfl ?_
    refine ga_if_eq 60 21 C.c dX0_pours_18 (by decide) rfl (fun c1400 => ?_) (fun c1400 => ?_)
    · refine ga_bipush 62 C.c (v := (-2)) (by decide) dX0_pours_60 rfl ?_
      exact hw_iret C hr hlk hq rfl (Nat.le_of_ble_eq_true rfl) (Nat.le_of_ble_eq_true rfl) ⟨fun _ => ⟨rfl, rfl⟩, fun q => absurd (Or.inr c1400) q⟩ dX0_pours_62
    · have hno : ¬ (fX0_isStep p z a1.toInt64 = 0 ∨ fX0_in a2.toInt64 1 30 = 0) := fun q => q.elim c1399 c1400
      obtain ⟨hc1, hc2, hc3, hin61⟩ := hcode hno
      refine ga_aload_n 22 C.c 0 rfl rfl dX0_pours_21 rfl ?_
      refine hh_new 25 C (ci := 12) (fs := [.int 0, .int 0, .null]) tyX12 tyX12_ok in_X12 q1471 q1472 q122 rfl (fun j hj => by rcases (show j = 0 ∨ j = 1 ∨ j = 2 by omega) with rfl | rfl | rfl <;> rfl) (Nat.le_of_ble_eq_true rfl) (Nat.le_of_ble_eq_true rfl) dX0_pours_22 rfl (fun o1401 h1402 n1404 a1405 e1403 => ?_)
      have k1406 := hu_fr0 e1403 n1404
      have g1407 := hu_at e1403
      clear e1403
      have ne1408 : (g 0) ≠ o1401 := hn_ne g1393 n1404
      have ne1409 : (g 2) ≠ o1401 := hn_ne g1394 n1404
      have g1410 := k1406 _ _ List.not_mem_nil g1393
      have g1411 := k1406 _ _ List.not_mem_nil g1394
      refine ga_dup 26 C.c rfl dX0_pours_25 rfl ?_
      refine ga_iconst 27 C.c (v := (-1)) (by decide) dX0_pours_26 rfl ?_
      refine ga_iconst 28 C.c (v := (-1)) (by decide) dX0_pours_27 rfl ?_
      refine hh_new 31 C (ci := 11) (fs := [.int 0, .int 0]) tyX11 tyX11_ok in_X11 q1257 q930 q118 rfl (fun j hj => by rcases (show j = 0 ∨ j = 1 by omega) with rfl | rfl <;> rfl) (Nat.le_of_ble_eq_true rfl) (Nat.le_of_ble_eq_true rfl) dX0_pours_28 rfl (fun o1412 h1413 n1415 a1416 e1414 => ?_)
      have k1417 := hu_fr0 e1414 n1415
      have g1418 := hu_at e1414
      clear e1414
      have ne1419 : (g 0) ≠ o1412 := hn_ne g1410 n1415
      have ne1420 : (g 2) ≠ o1412 := hn_ne g1411 n1415
      have ne1421 : o1401 ≠ o1412 := hn_ne g1407 n1415
      have g1422 := k1417 _ _ List.not_mem_nil g1410
      have g1423 := k1417 _ _ List.not_mem_nil g1411
      have g1424 := k1417 _ _ List.not_mem_nil g1407
      refine ga_dup 32 C.c rfl dX0_pours_31 rfl ?_
      refine ga_iload_n 33 C.c 2 rfl rfl dX0_pours_32 rfl ?_
      refine ga_iload_n 34 C.c 1 rfl rfl dX0_pours_33 rfl ?_
      refine hh_callI 37 C (as := [.int a2, .int a1]) (met_X11_init (eL E) D kk dE A _ o1412 a2 a1 g1418) q1501 q932 q118 q933 rfl cd_X11_init rfl (Nat.le_of_ble_eq_true rfl) (Nat.le_of_ble_eq_true rfl) (Nat.le_of_ble_eq_true rfl) (Nat.le_of_ble_eq_true rfl) (Nat.le_of_ble_eq_true rfl) dX0_pours_34 rfl (fun v1426 h1425 p1427 => ?_)
      obtain ⟨rfl, gb, kb⟩ := p1427
      have g1428 := kb _ _ (nm1 ne1419) g1422
      have g1429 := kb _ _ (nm1 ne1420) g1423
      have g1430 := kb _ _ (nm1 ne1421) g1424
      refine hh_callI 40 C (as := [.int (-1), .int (-1), .ref o1412]) (met_X12_init_r (eL E) D kk dE A _ o1401 o1412 (-1) (-1) g1430) q1473 q1474 q122 q1475 rfl cd_X12_init rfl (Nat.le_of_ble_eq_true rfl) (Nat.le_of_ble_eq_true rfl) (Nat.le_of_ble_eq_true rfl) (Nat.le_of_ble_eq_true rfl) (Nat.le_of_ble_eq_true rfl) dX0_pours_37 rfl (fun v1432 h1431 p1433 => ?_)
      obtain ⟨rfl, ga, ka⟩ := p1433
      have g1434 := ka _ _ (nm1 ne1408) g1428
      have g1435 := ka _ _ (nm1 ne1409) g1429
      have g1436 := ka _ _ (nm1 (Ne.symm ne1421)) gb
      refine ga_aload_n 41 C.c 0 rfl rfl dX0_pours_40 rfl ?_
      refine ga_get1 44 7 C.c C.ts (own := RX0) (ref := "QuotedRiver") C.ow C.k (hw_one g1434) in_X0 rfl (by decide) q562 (fun _ h9 => h9) rfl dX0_pours_41 rfl ?_
      have kF1437 : hfr h h1431 [] := by
        intro b e nb hb
        have m_o1401 : b ≠ o1401 := hn_ne hb n1404
        have b1438 := k1406 b e List.not_mem_nil hb
        have m_o1412 : b ≠ o1412 := hn_ne b1438 n1415
        have b1439 := k1417 b e List.not_mem_nil b1438
        have b1440 := kb b e (nm1 m_o1412) b1439
        have b1441 := ka b e (nm1 m_o1401) b1440
        exact b1441
      have X1 := X.fr kF1437
      refine hh_callQ 47 C X1 (as := []) (met_X3_is (eL E) (D, g, kk, G, S, p) z z2 hz) g1435 (T := TX3) rfl (lw_V q1059 q1060 q1061 q99 q1062) cd_X3_is rfl (Nat.le_of_ble_eq_true rfl) (Nat.le_of_ble_eq_true rfl) (Nat.le_of_ble_eq_true rfl) (Nat.le_of_ble_eq_true rfl) (Nat.le_of_ble_eq_true rfl) dX0_pours_44 rfl (fun h1442 X1443 k1444 e1445 => ?_)
      have g1446 := k1444.o ga (by decide)
      have g1447 := k1444.o g1436 (by decide)
      have g1448 : h1442 (g 0) = some (.inr (0, [.ref (g 13), .ref (g 15), .ref (g 14), .ref (g 1), .int (mi z2 0), .int (mi z2 1), .int (mi z2 2), .ref (g 2), .ref (g 5), .ref (g 7), .int (mi z2 3), .ref (g 9), .int (mi z2 4), .ref (g 11), .ref (g 12)])) := X1443.f 0 _ rfl
      have g1449 : h1442 (g 2) = some (.inr (4, [.ref (g 3), .ref (g 4), .int (mi z2 5), .int (mi z2 6), .int (mi z2 7), .int (mi z2 8), .int (mi z2 9), .int (mi z2 10), .ref (g 0)])) := X1443.f 2 _ rfl
      have g1450 : h1442 (g 3) = some (.inl (kk 0, 61, .inl (ma z2 1))) := X1443.f 3 _ rfl
      refine ga_get1N 50 0 C.c C.ts (own := RX0) (ref := "QuotedRiver$Water") C.ow C.k (hw_one g1449) in_X3 rfl (by decide) (C.n.use q442 rfl) (fun _ h9 => h9) rfl dX0_pours_47 rfl ?_
      refine ga_iload_n 51 C.c 1 rfl rfl dX0_pours_50 rfl ?_
      refine ga_a1ldi 52 0 C.c C.k (hw_one g1450) rfl hin61 dX0_pours_51 rfl ?_
      refine ga_iload_n 53 C.c 2 rfl rfl dX0_pours_52 rfl ?_
      refine ga_iadd 54 C.c dX0_pours_53 rfl ?_
      have hY : hao h1442 o1401 o1412 (100 * (a1 + 1) + a2) := ⟨fun _ => ⟨g1446, by rw [hc1, hc2]; exact g1447⟩, fun q => absurd hc3 q⟩
      refine hh_callV 57 C (as := [.ref o1401, .int ((ma z2 1 a1.toNatClampNeg) + a2)]) (met_X0_acts (eL E) D kk dE A _ g z2 G S p M X1443 o1401 o1412 (100 * (a1 + 1) + a2) ((ma z2 1 a1.toNatClampNeg) + a2) hY) g1448 (T := TX0) rfl (lw_V q1490 q1492 qs45 q93 q1493) cd_X0_acts rfl (Nat.le_of_ble_eq_true rfl) (Nat.le_of_ble_eq_true rfl) (Nat.le_of_ble_eq_true rfl) (Nat.le_of_ble_eq_true rfl) (Nat.le_of_ble_eq_true rfl) dX0_pours_54 rfl (fun v1452 h1451 p1453 => ?_)
      obtain ⟨pa, pb⟩ := p1453
      by_cases c1454 : pw p 6 = 30
      · obtain ⟨rfl, e9⟩ := pa c1454
        have e9 := e9.symm
        subst e9
        refine ga_goto 62 C.c dX0_pours_57 (by decide) ?_
        exact hw_iret C hr hlk hq rfl (Nat.le_of_ble_eq_true rfl) (Nat.le_of_ble_eq_true rfl) ⟨fun q => absurd q hno, fun _ => ⟨fun _ => ⟨rfl, X1443⟩, fun q => absurd c1454 q⟩⟩ dX0_pours_62
      · obtain ⟨rfl, G2, X9⟩ := pb c1454
        refine ga_goto 62 C.c dX0_pours_57 (by decide) ?_
        exact hw_iret C hr hlk hq rfl (Nat.le_of_ble_eq_true rfl) (Nat.le_of_ble_eq_true rfl) ⟨fun q => absurd q hno, fun _ => ⟨fun q => absurd q c1454, fun _ => ⟨rfl, G2, X9⟩⟩⟩ dX0_pours_62
theorem cd_X0_deepen : yX0_deepen.cls = RX0 ∧ yX0_deepen.cls ≠ "java/lang/invoke/MethodHandle" ∧ yX0_deepen.cls ≠ "java/lang/invoke/VarHandle" ∧ (parseMethodDescriptor yX0_deepen.desc).map (fun d => d.parameters.length) = some 2 := by decide +kernel
set_option maxHeartbeats 4000000 in
theorem met_X0_deepen (l : Launch) (D : va_G) (kk : Nat → Nat) (dE : Nat → Nat) (A : Nat → Prop) (h : hG) (g : Nat → Nat) (z : MS) (G : XG) (S : XL) (p : PS) (M : XI) (X : XF kk dE h g z G S p M) (a1 a2 : Int32) (hone : ¬ (fX0_isReach p z a1.toInt64 = 0 ∨ fX0_in a2.toInt64 0 20 = 0) → fX0_one p z a1 = some ()) : Met l yX0_deepen (ws_ yX0_deepen cX0_deepen 4 (some .int)) ({ frames := 14, cells := 0, slots := 0, locals := 900 } : Room) (hw_Pc D kk dE A h [.ref (g 0), .int a1, .int a2]) (hw_Qc D A (fun v h2 => (fX0_isReach p z a1.toInt64 = 0 ∨ fX0_in a2.toInt64 0 20 = 0 → v = some (.int (-2)) ∧ h2 = h) ∧ (¬ (fX0_isReach p z a1.toInt64 = 0 ∨ fX0_in a2.toInt64 0 20 = 0) → (¬ pw p 6 = 0 → v = some (.int (-5)) ∧ h2 = h) ∧ (pw p 6 = 0 → v = some (.int (pw p (10 + 3 * a1.toNatClampNeg))) ∧ XF kk dE h2 g z G S (pset p (upd (p.1 0) (10 + 3 * a1.toNatClampNeg) a2)) M)))) (0) (0) A := by
  refine hw_of (RX := RX0) (lo := [some (.ref (g 0)), some (.int a1), some (.int a2), none]) (by decide) rfl (Nat.le_of_ble_eq_true rfl) rfl (fun E C hin hr hlk hq => ?_)
  have g1455 : h (g 0) = some (.inr (0, [.ref (g 13), .ref (g 15), .ref (g 14), .ref (g 1), .int (mi z 0), .int (mi z 1), .int (mi z 2), .ref (g 2), .ref (g 5), .ref (g 7), .int (mi z 3), .ref (g 9), .int (mi z 4), .ref (g 11), .ref (g 12)])) := X.f 0 _ rfl
  have hRa := X.n
  have hn0 := hRa.1.n 0 (by decide)
  have hn1 := hRa.1.n 1 (by decide)
  have hn2 := hRa.1.n 2 (by decide)
  have hn3 := hRa.1.n 3 (by decide)
  obtain ⟨n0, en0⟩ : ∃ n, n = xr_n (p.1 0) 0 := ⟨_, rfl⟩
  rw [← en0] at hn0
  obtain ⟨n1, en1⟩ : ∃ n, n = xr_n (p.1 0) 1 := ⟨_, rfl⟩
  rw [← en1] at hn1
  obtain ⟨n2, en2⟩ : ∃ n, n = xr_n (p.1 0) 2 := ⟨_, rfl⟩
  rw [← en2] at hn2
  obtain ⟨n3, en3⟩ : ∃ n, n = xr_n (p.1 0) 3 := ⟨_, rfl⟩
  rw [← en3] at hn3
  have g_o := hRa.1.o
  have g_l0 : h (G.1 7 0) = some (.inr (13, [.int (G.2.2.1 0), .ref (G.1 8 0), .int (nI n0)])) := by
    rw [hRa.1.l 0 (by decide), hn0.1]
    rfl
  have g_d0 := hRa.1.d 0 (by decide)
  have g_l1 : h (G.1 7 1) = some (.inr (13, [.int (G.2.2.1 1), .ref (G.1 8 1), .int (nI n1)])) := by
    rw [hRa.1.l 1 (by decide), hn1.1]
    rfl
  have g_d1 := hRa.1.d 1 (by decide)
  have g_l2 : h (G.1 7 2) = some (.inr (13, [.int (G.2.2.1 2), .ref (G.1 8 2), .int (nI n2)])) := by
    rw [hRa.1.l 2 (by decide), hn2.1]
    rfl
  have g_d2 := hRa.1.d 2 (by decide)
  have g_l3 : h (G.1 7 3) = some (.inr (13, [.int (G.2.2.1 3), .ref (G.1 8 3), .int (nI n3)])) := by
    rw [hRa.1.l 3 (by decide), hn3.1]
    rfl
  have g_d3 := hRa.1.d 3 (by decide)
  have hX3 := X.n3
  rw [← en3] at hX3
  have e6 : pw p 6 = nI n3 := hX3.1
  refine ga_aload_n 1 C.c 0 rfl rfl dX0_deepen_0 rfl ?_
  refine ga_iload_n 2 C.c 1 rfl rfl dX0_deepen_1 rfl ?_
  refine ga_i2l 3 C.c dX0_deepen_2 rfl ?_
  refine hh_callQ 6 C X (as := [.long a1.toInt64]) (met_X0_isReach (eL E) (D, g, kk, G, S, p) z a1.toInt64) g1455 (T := TX0) rfl (lw_V q1009 q1011 qs22 q93 q1012) cd_X0_isReach rfl (Nat.le_of_ble_eq_true rfl) (Nat.le_of_ble_eq_true rfl) (Nat.le_of_ble_eq_true rfl) (Nat.le_of_ble_eq_true rfl) (Nat.le_of_ble_eq_true rfl) dX0_deepen_3 rfl (fun h1456 X1457 k1458 e1459 => ?_)
  have e1459 := (e1459 rfl).symm
  subst e1459
  refine ga_if_eq 21 9 C.c dX0_deepen_6 (by decide) rfl (fun c1460 => ?_) (fun c1460 => ?_)
  · refine ga_bipush 23 C.c (v := (-2)) (by decide) dX0_deepen_21 rfl ?_
    exact hw_iret C hr hlk hq rfl (Nat.le_of_ble_eq_true rfl) (Nat.le_of_ble_eq_true rfl) ⟨fun _ => ⟨rfl, rfl⟩, fun q => absurd (Or.inl c1460) q⟩ dX0_deepen_23
  · refine ga_iload_n 10 C.c 2 rfl rfl dX0_deepen_9 rfl ?_
    refine ga_i2l 11 C.c dX0_deepen_10 rfl ?_
    refine ga_lconst 12 C.c (v := 0) (by decide) dX0_deepen_11 rfl ?_
    refine ga_ldc2 15 C.c C.ow (C.ts _ q1564) dX0_deepen_12 rfl ?_
    refine ga_callS 18 (RX := RX0) C.c C.ml C.ow C.ts (as := [.long a2.toInt64, .long 0, .long 20]) (met_X0_in (eL E) a2.toInt64 0 20) (lw_S q136 q137 q93 q138) cd_X0_in rfl (by rw [C.rm]; exact (Nat.le_of_ble_eq_true rfl)) (by rw [C.rm]; exact (Nat.le_of_ble_eq_true rfl)) (by rw [C.rm]; exact (Nat.le_of_ble_eq_true rfl)) (by rw [C.rm]; exact (Nat.le_of_ble_eq_true rfl)) (Nat.le_of_ble_eq_true rfl) dX0_deepen_15 rfl ?_
    refine ga_if_ne 24 21 C.c dX0_deepen_18 (by decide) rfl (fun c1461 => ?_) (fun c1461 => ?_)
    · have hno : ¬ (fX0_isReach p z a1.toInt64 = 0 ∨ fX0_in a2.toInt64 0 20 = 0) := fun q => q.elim c1460 c1461
      have ho := hone hno
      refine ga_aload_n 25 C.c 0 rfl rfl dX0_deepen_24 rfl ?_
      refine ga_get1 28 1 C.c C.ts (own := RX0) (ref := "QuotedRiver") C.ow C.k (hw_one g1455) in_X0 rfl (by decide) q554 (fun _ h9 => h9) rfl dX0_deepen_25 rfl ?_
      refine ga_get1N 31 3 C.c C.ts (own := RX0) (ref := "QuotedRiver$Rivers") C.ow C.k (hw_one g_o) in_X2 rfl (by decide) (C.n.use q401 rfl) (fun _ h9 => h9) rfl dX0_deepen_28 rfl ?_
      refine hh_isEmpty 36 C g_l3 q1507 (Nat.le_of_ble_eq_true rfl) (Nat.le_of_ble_eq_true rfl) (Nat.le_of_ble_eq_true rfl) (Nat.le_of_ble_eq_true rfl) (Nat.le_of_ble_eq_true rfl) dX0_deepen_31 rfl ?_
      by_cases c1462 : nI n3 = 0
      · rw [if_pos c1462]
        refine ga_if_ne 42 39 C.c dX0_deepen_36 (by decide) rfl (fun c1463 => ?_) (fun c1463 => absurd c1463 (by decide))
        refine ga_aload_n 43 C.c 0 rfl rfl dX0_deepen_42 rfl ?_
        refine ga_iload_n 44 C.c 1 rfl rfl dX0_deepen_43 rfl ?_
        obtain ⟨r, er⟩ : ∃ r, r = a1.toNatClampNeg := ⟨_, rfl⟩
        have hr0 : r < xr_n (p.1 0) 0 := by rw [er]; exact xone_lt ho
        have gr : h (G.1 0 r) = some (.inr (9, [.int (p.1 0 (8 + 3 * r)), .int (p.1 0 (9 + 3 * r)), .int (p.1 0 (10 + 3 * r))])) := X.n.1.r r hr0
        refine hh_callQ 47 C X (as := [.int a1]) (met_X0_one (eL E) (D, g, kk, G, S, p) z a1 ho) g1455 (T := TX0) rfl (lw_V q1020 q1022 qs24 q93 q1023) cd_X0_one rfl (Nat.le_of_ble_eq_true rfl) (Nat.le_of_ble_eq_true rfl) (Nat.le_of_ble_eq_true rfl) (Nat.le_of_ble_eq_true rfl) (Nat.le_of_ble_eq_true rfl) dX0_deepen_44 rfl (fun h1464 X1465 k1466 e1467 => ?_)
        have e1467 := (e1467 rfl).symm
        subst e1467
        show ga_W E _ (hw_I E D A h) _ _ _ _ (.ref (G.1 0 a1.toNatClampNeg) :: _)
        rw [← er]
        refine ga_get1N 50 2 C.c C.ts (own := RX0) (ref := "QuotedRiver$Reach") C.ow C.k (hw_one gr) in_X9 rfl (by decide) (C.n.use q813 rfl) (fun _ h9 => h9) rfl dX0_deepen_47 rfl ?_
        refine ga_istore_n 51 C.c 3 rfl (Nat.le_of_ble_eq_true rfl) rfl dX0_deepen_50 rfl ?_
        refine ga_aload_n 52 C.c 0 rfl rfl dX0_deepen_51 rfl ?_
        refine ga_iload_n 53 C.c 1 rfl rfl dX0_deepen_52 rfl ?_
        refine hh_callQ 56 C X (as := [.int a1]) (met_X0_one (eL E) (D, g, kk, G, S, p) z a1 ho) g1455 (T := TX0) rfl (lw_V q1020 q1022 qs24 q93 q1023) cd_X0_one rfl (Nat.le_of_ble_eq_true rfl) (Nat.le_of_ble_eq_true rfl) (Nat.le_of_ble_eq_true rfl) (Nat.le_of_ble_eq_true rfl) (Nat.le_of_ble_eq_true rfl) dX0_deepen_53 rfl (fun h1468 X1469 k1470 e1471 => ?_)
        have e1471 := (e1471 rfl).symm
        subst e1471
        show ga_W E _ (hw_I E D A h) _ _ _ _ (.ref (G.1 0 a1.toNatClampNeg) :: _)
        rw [← er]
        refine ga_iload_n 57 C.c 2 rfl rfl dX0_deepen_56 rfl ?_
        refine hh_putN 60 2 C (ref := "QuotedRiver$Reach") (fs2 := [.int (p.1 0 (8 + 3 * r)), .int (p.1 0 (9 + 3 * r)), .int a2]) tyX9_ok nmX9 in_X9 gr rfl (by decide) q813 (fun _ h9 => h9) rfl (tyX9_ok 2 (by decide)) rfl rfl (Nat.le_of_ble_eq_true rfl) rfl dX0_deepen_57 rfl (fun h1472 e1473 => ?_)
        have k1474 := hu_fr e1473
        have g1475 := hu_at e1473
        clear e1473
        refine ga_iload_n 61 C.c 3 rfl rfl dX0_deepen_60 rfl ?_
        exact hw_iret C hr hlk hq rfl (Nat.le_of_ble_eq_true rfl) (Nat.le_of_ble_eq_true rfl) ⟨fun q => absurd q hno, fun _ => ⟨fun q => absurd (e6.trans c1462) q, fun _ => ⟨by rw [← er]; rfl, by rw [← er]; exact X.low hr0 k1474 g1475⟩⟩⟩ dX0_deepen_61
      · rw [if_neg c1462]
        refine ga_if_ne 42 39 C.c dX0_deepen_36 (by decide) rfl (fun c1476 => absurd rfl c1476) (fun c1476 => ?_)
        refine ga_bipush 41 C.c (v := (-5)) (by decide) dX0_deepen_39 rfl ?_
        exact hw_iret C hr hlk hq rfl (Nat.le_of_ble_eq_true rfl) (Nat.le_of_ble_eq_true rfl) ⟨fun q => absurd q hno, fun _ => ⟨fun _ => ⟨rfl, rfl⟩, fun q => absurd (e6.symm.trans q) c1462⟩⟩ dX0_deepen_41
    · refine ga_bipush 23 C.c (v := (-2)) (by decide) dX0_deepen_21 rfl ?_
      exact hw_iret C hr hlk hq rfl (Nat.le_of_ble_eq_true rfl) (Nat.le_of_ble_eq_true rfl) ⟨fun _ => ⟨rfl, rfl⟩, fun q => absurd (Or.inr c1461) q⟩ dX0_deepen_23
theorem cd_X0_image : yX0_image.cls = RX0 ∧ yX0_image.cls ≠ "java/lang/invoke/MethodHandle" ∧ yX0_image.cls ≠ "java/lang/invoke/VarHandle" ∧ (parseMethodDescriptor yX0_image.desc).map (fun d => d.parameters.length) = some 1 := by decide +kernel
set_option maxHeartbeats 4000000 in
theorem met_X0_image (l : Launch) (D : va_G) (kk : Nat → Nat) (dE : Nat → Nat) (A : Nat → Prop) (h : hG) (g : Nat → Nat) (z : MS) (G : XG) (S : XL) (p : PS) (M : XI) (X : XF kk dE h g z G S p M) (a1 : Int32) (hin3 : ¬ fX0_in a1.toInt64 0 2 = 0 → vp_in a1 3) : Met l yX0_image (ws_ yX0_image cX0_image 2 (some .int)) ({ frames := 14, cells := 30, slots := 200, locals := 900 } : Room) (hw_Pc D kk dE A h [.ref (g 0), .int a1]) (hw_Qc D A (fun v h2 => (fX0_in a1.toInt64 0 2 = 0 → v = some (.int (-2)) ∧ h2 = h) ∧ (¬ fX0_in a1.toInt64 0 2 = 0 → v = some (.int 0) ∧ ∃ b G2, XF kk dE h2 g z G S p (va_up M.1 a1.toNatClampNeg (some b), va_up M.2.1 a1.toNatClampNeg G2, va_up M.2.2 a1.toNatClampNeg (p.1 0))))) (30) (200) A := by
  refine hw_of (RX := RX0) (lo := [some (.ref (g 0)), some (.int a1)]) (by decide) rfl (Nat.le_of_ble_eq_true rfl) rfl (fun E C hin hr hlk hq => ?_)
  have g1477 : h (g 0) = some (.inr (0, [.ref (g 13), .ref (g 15), .ref (g 14), .ref (g 1), .int (mi z 0), .int (mi z 1), .int (mi z 2), .ref (g 2), .ref (g 5), .ref (g 7), .int (mi z 3), .ref (g 9), .int (mi z 4), .ref (g 11), .ref (g 12)])) := X.f 0 _ rfl
  have hRa := X.n
  have hn0 := hRa.1.n 0 (by decide)
  have hn1 := hRa.1.n 1 (by decide)
  have hn2 := hRa.1.n 2 (by decide)
  have hn3 := hRa.1.n 3 (by decide)
  obtain ⟨n0, en0⟩ : ∃ n, n = xr_n (p.1 0) 0 := ⟨_, rfl⟩
  rw [← en0] at hn0
  obtain ⟨n1, en1⟩ : ∃ n, n = xr_n (p.1 0) 1 := ⟨_, rfl⟩
  rw [← en1] at hn1
  obtain ⟨n2, en2⟩ : ∃ n, n = xr_n (p.1 0) 2 := ⟨_, rfl⟩
  rw [← en2] at hn2
  obtain ⟨n3, en3⟩ : ∃ n, n = xr_n (p.1 0) 3 := ⟨_, rfl⟩
  rw [← en3] at hn3
  have g_o := hRa.1.o
  have g_l0 : h (G.1 7 0) = some (.inr (13, [.int (G.2.2.1 0), .ref (G.1 8 0), .int (nI n0)])) := by
    rw [hRa.1.l 0 (by decide), hn0.1]
    rfl
  have g_d0 := hRa.1.d 0 (by decide)
  have g_l1 : h (G.1 7 1) = some (.inr (13, [.int (G.2.2.1 1), .ref (G.1 8 1), .int (nI n1)])) := by
    rw [hRa.1.l 1 (by decide), hn1.1]
    rfl
  have g_d1 := hRa.1.d 1 (by decide)
  have g_l2 : h (G.1 7 2) = some (.inr (13, [.int (G.2.2.1 2), .ref (G.1 8 2), .int (nI n2)])) := by
    rw [hRa.1.l 2 (by decide), hn2.1]
    rfl
  have g_d2 := hRa.1.d 2 (by decide)
  have g_l3 : h (G.1 7 3) = some (.inr (13, [.int (G.2.2.1 3), .ref (G.1 8 3), .int (nI n3)])) := by
    rw [hRa.1.l 3 (by decide), hn3.1]
    rfl
  have g_d3 := hRa.1.d 3 (by decide)
  have hX3 := X.n3
  rw [← en3] at hX3
  have g1478 := X.im
  obtain ⟨fE, hE⟩ := X.e
  refine ga_iload_n 1 C.c 1 rfl rfl dX0_image_0 rfl ?_
  refine ga_i2l 2 C.c dX0_image_1 rfl ?_
  refine ga_lconst 3 C.c (v := 0) (by decide) dX0_image_2 rfl ?_
  refine ga_ldc2 6 C.c C.ow (C.ts _ q1019) dX0_image_3 rfl ?_
  refine ga_callS 9 (RX := RX0) C.c C.ml C.ow C.ts (as := [.long a1.toInt64, .long 0, .long 2]) (met_X0_in (eL E) a1.toInt64 0 2) (lw_S q136 q137 q93 q138) cd_X0_in rfl (by rw [C.rm]; exact (Nat.le_of_ble_eq_true rfl)) (by rw [C.rm]; exact (Nat.le_of_ble_eq_true rfl)) (by rw [C.rm]; exact (Nat.le_of_ble_eq_true rfl)) (by rw [C.rm]; exact (Nat.le_of_ble_eq_true rfl)) (Nat.le_of_ble_eq_true rfl) dX0_image_6 rfl ?_
  refine ga_if_ne 15 12 C.c dX0_image_9 (by decide) rfl (fun c1479 => ?_) (fun c1479 => ?_)
  · have hi3 := hin3 c1479
    refine ga_aload_n 16 C.c 0 rfl rfl dX0_image_15 rfl ?_
    refine ga_get1 19 2 C.c C.ts (own := RX0) (ref := "QuotedRiver") C.ow C.k (hw_one g1477) in_X0 rfl (by decide) q555 (fun _ h9 => h9) rfl dX0_image_16 rfl ?_
    refine ga_iload_n 20 C.c 1 rfl rfl dX0_image_19 rfl ?_
    refine ga_aload_n 21 C.c 0 rfl rfl dX0_image_20 rfl ?_
    refine ga_get1 24 1 C.c C.ts (own := RX0) (ref := "QuotedRiver") C.ow C.k (hw_one g1477) in_X0 rfl (by decide) q554 (fun _ h9 => h9) rfl dX0_image_21 rfl ?_
    refine hh_callV 27 C (as := []) (met_X2_same (eL E) D kk dE A _ (g 15) G (p.1 0) fE X.n hE) g_o (T := TX2) rfl (lw_V q1577 q1578 q1579 q95 q1580) cd_X2_same rfl (Nat.le_of_ble_eq_true rfl) (Nat.le_of_ble_eq_true rfl) (Nat.le_of_ble_eq_true rfl) (Nat.le_of_ble_eq_true rfl) (Nat.le_of_ble_eq_true rfl) dX0_image_24 rfl (fun v1481 h1480 p1482 => ?_)
    obtain ⟨b, G2, rfl, H2, N2, k2⟩ := p1482
    have g1483 := k2 _ _ List.not_mem_nil g1478
    refine hh_astq 28 6 C (ci := 3) g1483 rfl H2.1.o rfl hi3 dX0_image_27 rfl (fun h1484 e1485 => ?_)
    have kk2 := hu_fr e1485
    have gg2 := hu_at e1485
    refine ga_iconst 29 C.c (v := 0) (by decide) dX0_image_28 rfl ?_
    exact hw_iret C hr hlk hq rfl (Nat.le_of_ble_eq_true rfl) (Nat.le_of_ble_eq_true rfl) ⟨fun q => absurd q c1479, fun _ => ⟨rfl, b, G2, X.image k2 (vp_in_lt hi3) H2 N2 kk2 gg2⟩⟩ dX0_image_29
  · refine ga_bipush 14 C.c (v := (-2)) (by decide) dX0_image_12 rfl ?_
    exact hw_iret C hr hlk hq rfl (Nat.le_of_ble_eq_true rfl) (Nat.le_of_ble_eq_true rfl) ⟨fun _ => ⟨rfl, rfl⟩, fun q => absurd c1479 q⟩ dX0_image_14
theorem cd_X0_back : yX0_back.cls = RX0 ∧ yX0_back.cls ≠ "java/lang/invoke/MethodHandle" ∧ yX0_back.cls ≠ "java/lang/invoke/VarHandle" ∧ (parseMethodDescriptor yX0_back.desc).map (fun d => d.parameters.length) = some 1 := by decide +kernel
set_option maxHeartbeats 4000000 in
theorem met_X0_back (l : Launch) (D : va_G) (kk : Nat → Nat) (dE : Nat → Nat) (A : Nat → Prop) (h : hG) (g : Nat → Nat) (z : MS) (G : XG) (S : XL) (p : PS) (M : XI) (X : XF kk dE h g z G S p M) (a1 : Int32) (hin3 : ¬ fX0_in a1.toInt64 0 2 = 0 → vp_in a1 3) : Met l yX0_back (ws_ yX0_back cX0_back 2 (some .int)) ({ frames := 14, cells := 30, slots := 200, locals := 900 } : Room) (hw_Pc D kk dE A h [.ref (g 0), .int a1]) (hw_Qc D A (fun v h2 => (fX0_in a1.toInt64 0 2 = 0 → v = some (.int (-2)) ∧ h2 = h) ∧ (¬ fX0_in a1.toInt64 0 2 = 0 → (M.1 a1.toNatClampNeg = none → v = some (.int (-6)) ∧ h2 = h) ∧ (∀ a, M.1 a1.toNatClampNeg = some a → v = some (.int 0) ∧ ∃ b G2, XF kk dE h2 (va_up g 15 b) z G2 S (pset p (M.2.2 a1.toNatClampNeg)) M)))) (30) (200) A := by
  refine hw_of (RX := RX0) (lo := [some (.ref (g 0)), some (.int a1)]) (by decide) rfl (Nat.le_of_ble_eq_true rfl) rfl (fun E C hin hr hlk hq => ?_)
  have g1486 : h (g 0) = some (.inr (0, [.ref (g 13), .ref (g 15), .ref (g 14), .ref (g 1), .int (mi z 0), .int (mi z 1), .int (mi z 2), .ref (g 2), .ref (g 5), .ref (g 7), .int (mi z 3), .ref (g 9), .int (mi z 4), .ref (g 11), .ref (g 12)])) := X.f 0 _ rfl
  have g1487 := X.im
  obtain ⟨fE, hE⟩ := X.e
  refine ga_iload_n 1 C.c 1 rfl rfl dX0_back_0 rfl ?_
  refine ga_i2l 2 C.c dX0_back_1 rfl ?_
  refine ga_lconst 3 C.c (v := 0) (by decide) dX0_back_2 rfl ?_
  refine ga_ldc2 6 C.c C.ow (C.ts _ q1019) dX0_back_3 rfl ?_
  refine ga_callS 9 (RX := RX0) C.c C.ml C.ow C.ts (as := [.long a1.toInt64, .long 0, .long 2]) (met_X0_in (eL E) a1.toInt64 0 2) (lw_S q136 q137 q93 q138) cd_X0_in rfl (by rw [C.rm]; exact (Nat.le_of_ble_eq_true rfl)) (by rw [C.rm]; exact (Nat.le_of_ble_eq_true rfl)) (by rw [C.rm]; exact (Nat.le_of_ble_eq_true rfl)) (by rw [C.rm]; exact (Nat.le_of_ble_eq_true rfl)) (Nat.le_of_ble_eq_true rfl) dX0_back_6 rfl ?_
  refine ga_if_ne 15 12 C.c dX0_back_9 (by decide) rfl (fun c1488 => ?_) (fun c1488 => ?_)
  · have hi3 := hin3 c1488
    refine ga_aload_n 16 C.c 0 rfl rfl dX0_back_15 rfl ?_
    refine ga_get1 19 2 C.c C.ts (own := RX0) (ref := "QuotedRiver") C.ow C.k (hw_one g1486) in_X0 rfl (by decide) q555 (fun _ h9 => h9) rfl dX0_back_16 rfl ?_
    refine ga_iload_n 20 C.c 1 rfl rfl dX0_back_19 rfl ?_
    cases hM : M.1 a1.toNatClampNeg with
    | none =>
      refine ga_aldq1 21 6 C.c C.k (hw_one g1487) rfl hi3 (by rw [hM]) dX0_back_20 rfl ?_
      refine ga_ifnonnullN 24 C.c dX0_back_21 rfl ?_
      refine ga_bipush 26 C.c (v := (-6)) (by decide) dX0_back_24 rfl ?_
      exact hw_iret C hr hlk hq rfl (Nat.le_of_ble_eq_true rfl) (Nat.le_of_ble_eq_true rfl) ⟨fun q => absurd q c1488, fun _ => ⟨fun _ => ⟨rfl, rfl⟩, fun a q => by rw [hM] at q; cases q⟩⟩ dX0_back_26
    | some a =>
      obtain ⟨HA, hdA⟩ := X.ii _ a (vp_in_lt hi3) hM
      refine ga_aldq1 21 6 C.c C.k (hw_one g1487) rfl hi3 (by rw [hM]) dX0_back_20 rfl ?_
      refine ga_ifnonnull 27 C.c dX0_back_21 (by decide) ?_
      refine ga_aload_n 28 C.c 0 rfl rfl dX0_back_27 rfl ?_
      refine ga_aload_n 29 C.c 0 rfl rfl dX0_back_28 rfl ?_
      refine ga_get1 32 2 C.c C.ts (own := RX0) (ref := "QuotedRiver") C.ow C.k (hw_one g1486) in_X0 rfl (by decide) q555 (fun _ h9 => h9) rfl dX0_back_29 rfl ?_
      refine ga_iload_n 33 C.c 1 rfl rfl dX0_back_32 rfl ?_
      refine ga_aldq1 34 6 C.c C.k (hw_one g1487) rfl hi3 (by rw [hM]) dX0_back_33 rfl ?_
      refine hh_callV 37 C (as := []) (met_X2_same (eL E) D kk dE A _ a (M.2.1 a1.toNatClampNeg) (M.2.2 a1.toNatClampNeg) fE HA hE) HA.1.o (T := TX2) rfl (lw_V q1577 q1578 q1579 q95 q1580) cd_X2_same rfl (Nat.le_of_ble_eq_true rfl) (Nat.le_of_ble_eq_true rfl) (Nat.le_of_ble_eq_true rfl) (Nat.le_of_ble_eq_true rfl) (Nat.le_of_ble_eq_true rfl) dX0_back_34 rfl (fun v1490 h1489 p1491 => ?_)
      obtain ⟨b, G2, rfl, H2, N2, k2⟩ := p1491
      have g1492 := k2 _ _ List.not_mem_nil g1486
      refine hh_put 40 1 C (ref := "QuotedRiver") (fs2 := [.ref (g 13), .ref b, .ref (g 14), .ref (g 1), .int (mi z 0), .int (mi z 1), .int (mi z 2), .ref (g 2), .ref (g 5), .ref (g 7), .int (mi z 3), .ref (g 9), .int (mi z 4), .ref (g 11), .ref (g 12)]) tyX0_ok nmX0 in_X0 g1492 rfl (by decide) q554 (fun _ h9 => h9) rfl (tyX0_ok 1 (by decide)) rfl rfl (Nat.le_of_ble_eq_true rfl) rfl dX0_back_37 rfl (fun h1493 e1494 => ?_)
      have k1495 := hu_fr e1494
      have g1496 := hu_at e1494
      clear e1494
      refine ga_iconst 41 C.c (v := 0) (by decide) dX0_back_40 rfl ?_
      obtain ⟨kp, hf9⟩ := xf_now (X.fr k2).f X.gi k1495 g1496
      exact hw_iret C hr hlk hq rfl (Nat.le_of_ble_eq_true rfl) (Nat.le_of_ble_eq_true rfl) ⟨fun q => absurd q c1488, fun _ => ⟨fun q => (by rw [hM] at q; cases q), fun a2 q => ⟨rfl, b, G2, X.now k2 H2 N2 kp hf9⟩⟩⟩ dX0_back_41
  · refine ga_bipush 14 C.c (v := (-2)) (by decide) dX0_back_12 rfl ?_
    exact hw_iret C hr hlk hq rfl (Nat.le_of_ble_eq_true rfl) (Nat.le_of_ble_eq_true rfl) ⟨fun _ => ⟨rfl, rfl⟩, fun q => absurd c1488 q⟩ dX0_back_14
