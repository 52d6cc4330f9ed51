set_option maxRecDepth 100000
theorem cd_J8_init_3 : yJ8_init_3.cls ≠ "java/lang/invoke/MethodHandle" ∧ yJ8_init_3.cls ≠ "java/lang/invoke/VarHandle" ∧ (parseMethodDescriptor yJ8_init_3.desc).map (fun d => d.parameters.length) = some 4 := by decide +kernel
set_option maxHeartbeats 4000000 in
theorem met_J8_init_3 (l : Launch) (D : va_G) (kk : Nat → Nat) (dE : Nat → Nat) (A : Nat → Prop) (h : hG) (q : Nat) (g_q : h q = some (.inr (8, [.null, .null, .null, .null, .null, .int 0, .int 0, .int 0]))) : Met l yJ8_init_3 (ws_ yJ8_init_3 cJ8_init_3 5 none) ({ frames := 1, cells := 0, slots := 0, locals := 20 } : Room) (hw_Pc D kk dE A h [.ref q, .null, .null, .int 0, .int 0]) (hw_Qc D A (fun v h2 => v = none ∧ h2 q = some (.inr (8, [.null, .null, .null, .null, .null, .int 0, .int 0, .int 0])) ∧ hfr h h2 [q])) (0) (0) A := by
  refine hw_of (RX := RJ8) (lo := [some (.ref q), some (.null), some (.null), some (.int 0), some (.int 0)]) (by decide) rfl (Nat.le_of_ble_eq_true rfl) rfl (fun E C hin hr hlk hq => ?_)
  obtain ⟨vu, hvu, zvu⟩ := zq_val C.u.1
  have nvu : narrow (tyX8 1) vu = vu := by rcases hvu with rfl | ⟨t, rfl⟩ <;> rfl
  have fvu : fits (tyX8 1) vu = true := by rcases hvu with rfl | ⟨t, rfl⟩ <;> rfl
  obtain ⟨vv, hvv, zvv⟩ := zq_val C.v.1
  have nvv : narrow (tyX8 2) vv = vv := by rcases hvv with rfl | ⟨t, rfl⟩ <;> rfl
  have fvv : fits (tyX8 2) vv = true := by rcases hvv with rfl | ⟨t, rfl⟩ <;> rfl
  refine ga_aload_n 1 C.c 0 rfl rfl dJ8_init_3_0 rfl ?_
  refine hh_obj 4 C q156 q157 q158 (Nat.le_of_ble_eq_true rfl) (Nat.le_of_ble_eq_true rfl) (Nat.le_of_ble_eq_true rfl) dJ8_init_3_1 rfl ?_
  refine ga_aload_n 5 C.c 0 rfl rfl dJ8_init_3_4 rfl ?_
  refine ga_aload_n 6 C.c 0 rfl rfl dJ8_init_3_5 rfl ?_
  refine hh_put 9 0 C (ref := "java/lang/Throwable") (fs2 := [.ref q, .null, .null, .null, .null, .int 0, .int 0, .int 0]) tyX8_ok nmX8 in_X8 g_q rfl (by decide) q192 (fun _ h9 => h9) rfl (tyX8_ok 0 (by decide)) rfl rfl (Nat.le_of_ble_eq_true rfl) rfl dJ8_init_3_6 rfl (fun h20001 e20002 => ?_)
  have k20003 := hu_fr e20002
  have g20004 := hu_at e20002
  clear e20002
  refine ga_aload_n 10 C.c 0 rfl rfl dJ8_init_3_9 rfl ?_
  refine ga_gets 13 C.c hw_S zvu C.ow (C.ts _ q159) (fun _ h9 => h9) dJ8_init_3_10 rfl ?_
  refine hh_put 16 1 C (ref := "java/lang/Throwable") (fs2 := [.ref q, vu, .null, .null, .null, .int 0, .int 0, .int 0]) tyX8_ok nmX8 in_X8 g20004 rfl (by decide) q193 (fun _ h9 => h9) rfl (tyX8_ok 1 (by decide)) nvu fvu (Nat.le_of_ble_eq_true rfl) rfl dJ8_init_3_13 rfl (fun h20005 e20006 => ?_)
  have k20007 := hu_fr e20006
  have g20008 := hu_at e20006
  clear e20006
  refine ga_aload_n 17 C.c 0 rfl rfl dJ8_init_3_16 rfl ?_
  refine ga_gets 20 C.c hw_S zvv C.ow (C.ts _ q161) (fun _ h9 => h9) dJ8_init_3_17 rfl ?_
  refine hh_put 23 2 C (ref := "java/lang/Throwable") (fs2 := [.ref q, vu, vv, .null, .null, .int 0, .int 0, .int 0]) tyX8_ok nmX8 in_X8 g20008 rfl (by decide) q194 (fun _ h9 => h9) rfl (tyX8_ok 2 (by decide)) nvv fvv (Nat.le_of_ble_eq_true rfl) rfl dJ8_init_3_20 rfl (fun h20009 e20010 => ?_)
  have k20011 := hu_fr e20010
  have g20012 := hu_at e20010
  clear e20010
  refine ga_iload 25 C.c rfl dJ8_init_3_23 rfl ?_
  refine ga_if_eq 36 28 C.c dJ8_init_3_25 (by decide) rfl (fun c20013 => ?_) (fun c20013 => absurd rfl c20013)
  refine ga_aload_n 37 C.c 0 rfl rfl dJ8_init_3_36 rfl ?_
  refine ga_null 38 C.c dJ8_init_3_37 rfl ?_
  refine hh_put 41 1 C (ref := "java/lang/Throwable") (fs2 := [.ref q, .null, vv, .null, .null, .int 0, .int 0, .int 0]) tyX8_ok nmX8 in_X8 g20012 rfl (by decide) q193 (fun _ h9 => h9) rfl (tyX8_ok 1 (by decide)) rfl rfl (Nat.le_of_ble_eq_true rfl) rfl dJ8_init_3_38 rfl (fun h20014 e20015 => ?_)
  have k20016 := hu_fr e20015
  have g20017 := hu_at e20015
  clear e20015
  refine ga_aload_n 42 C.c 0 rfl rfl dJ8_init_3_41 rfl ?_
  refine ga_aload_nN 43 C.c 1 rfl rfl dJ8_init_3_42 rfl ?_
  refine hh_put 46 3 C (ref := "java/lang/Throwable") (fs2 := [.ref q, .null, vv, .null, .null, .int 0, .int 0, .int 0]) tyX8_ok nmX8 in_X8 g20017 rfl (by decide) q191 (fun _ h9 => h9) rfl (tyX8_ok 3 (by decide)) rfl rfl (Nat.le_of_ble_eq_true rfl) rfl dJ8_init_3_43 rfl (fun h20018 e20019 => ?_)
  have k20020 := hu_fr e20019
  have g20021 := hu_at e20019
  clear e20019
  refine ga_aload_n 47 C.c 0 rfl rfl dJ8_init_3_46 rfl ?_
  refine ga_aload_nN 48 C.c 2 rfl rfl dJ8_init_3_47 rfl ?_
  refine hh_put 51 0 C (ref := "java/lang/Throwable") (fs2 := [.null, .null, vv, .null, .null, .int 0, .int 0, .int 0]) tyX8_ok nmX8 in_X8 g20021 rfl (by decide) q192 (fun _ h9 => h9) rfl (tyX8_ok 0 (by decide)) rfl rfl (Nat.le_of_ble_eq_true rfl) rfl dJ8_init_3_48 rfl (fun h20022 e20023 => ?_)
  have k20024 := hu_fr e20023
  have g20025 := hu_at e20023
  clear e20023
  refine ga_iload_n 52 C.c 3 rfl rfl dJ8_init_3_51 rfl ?_
  refine ga_if_ne 60 55 C.c dJ8_init_3_52 (by decide) rfl (fun c20026 => absurd rfl c20026) (fun c20026 => ?_)
  refine ga_aload_n 56 C.c 0 rfl rfl dJ8_init_3_55 rfl ?_
  refine ga_null 57 C.c dJ8_init_3_56 rfl ?_
  refine hh_put 60 2 C (ref := "java/lang/Throwable") (fs2 := [.null, .null, .null, .null, .null, .int 0, .int 0, .int 0]) tyX8_ok nmX8 in_X8 g20025 rfl (by decide) q194 (fun _ h9 => h9) rfl (tyX8_ok 2 (by decide)) rfl rfl (Nat.le_of_ble_eq_true rfl) rfl dJ8_init_3_57 rfl (fun h20027 e20028 => ?_)
  have k20029 := hu_fr e20028
  have g20030 := hu_at e20028
  clear e20028
  have kF20031 : hfr h h20027 [q] := by
    intro b e nb hb
    have b20032 := k20003 b e (nm1 (nx nb (by simp))) hb
    have b20033 := k20007 b e (nm1 (nx nb (by simp))) b20032
    have b20034 := k20011 b e (nm1 (nx nb (by simp))) b20033
    have b20035 := k20016 b e (nm1 (nx nb (by simp))) b20034
    have b20036 := k20020 b e (nm1 (nx nb (by simp))) b20035
    have b20037 := k20024 b e (nm1 (nx nb (by simp))) b20036
    have b20038 := k20029 b e (nm1 (nx nb (by simp))) b20037
    exact b20038
  exact hw_vret C hr hlk hq (Nat.le_of_ble_eq_true rfl) (Nat.le_of_ble_eq_true rfl) ⟨rfl, g20030, kF20031⟩ dJ8_init_3_60
theorem cd_J9_init_3 : yJ9_init_3.cls ≠ "java/lang/invoke/MethodHandle" ∧ yJ9_init_3.cls ≠ "java/lang/invoke/VarHandle" ∧ (parseMethodDescriptor yJ9_init_3.desc).map (fun d => d.parameters.length) = some 4 := by decide +kernel
set_option maxHeartbeats 4000000 in
theorem met_J9_init_3 (l : Launch) (D : va_G) (kk : Nat → Nat) (dE : Nat → Nat) (A : Nat → Prop) (h : hG) (q : Nat) (g_q : h q = some (.inr (8, [.null, .null, .null, .null, .null, .int 0, .int 0, .int 0]))) : Met l yJ9_init_3 (ws_ yJ9_init_3 cJ9_init_3 5 none) ({ frames := 2, cells := 0, slots := 0, locals := 60 } : Room) (hw_Pc D kk dE A h [.ref q, .null, .null, .int 0, .int 0]) (hw_Qc D A (fun v h2 => v = none ∧ h2 q = some (.inr (8, [.null, .null, .null, .null, .null, .int 0, .int 0, .int 0])) ∧ hfr h h2 [q])) (0) (0) A := by
  refine hw_of (RX := RJ9) (lo := [some (.ref q), some (.null), some (.null), some (.int 0), some (.int 0)]) (by decide) rfl (Nat.le_of_ble_eq_true rfl) rfl (fun E C hin hr hlk hq => ?_)
  refine ga_aload_n 1 C.c 0 rfl rfl dJ9_init_3_0 rfl ?_
  refine ga_aload_nN 2 C.c 1 rfl rfl dJ9_init_3_1 rfl ?_
  refine ga_aload_nN 3 C.c 2 rfl rfl dJ9_init_3_2 rfl ?_
  refine ga_iload_n 4 C.c 3 rfl rfl dJ9_init_3_3 rfl ?_
  refine ga_iload 6 C.c rfl dJ9_init_3_4 rfl ?_
  refine hh_callI 9 C (as := [.null, .null, .int 0, .int 0]) (met_J8_init_3 (eL E) D kk dE A _ q g_q) q749 q750 q109 q751 rfl cd_J8_init_3 rfl (Nat.le_of_ble_eq_true rfl) (Nat.le_of_ble_eq_true rfl) (Nat.le_of_ble_eq_true rfl) (Nat.le_of_ble_eq_true rfl) (Nat.le_of_ble_eq_true rfl) dJ9_init_3_6 rfl (fun v20040 h20039 p20041 => ?_)
  obtain ⟨rfl, gq, kq⟩ := p20041
  exact hw_vret C hr hlk hq (Nat.le_of_ble_eq_true rfl) (Nat.le_of_ble_eq_true rfl) ⟨rfl, gq, kq⟩ dJ9_init_3_9
theorem cd_J10_init_3 : yJ10_init_3.cls ≠ "java/lang/invoke/MethodHandle" ∧ yJ10_init_3.cls ≠ "java/lang/invoke/VarHandle" ∧ (parseMethodDescriptor yJ10_init_3.desc).map (fun d => d.parameters.length) = some 4 := by decide +kernel
set_option maxHeartbeats 4000000 in
theorem met_J10_init_3 (l : Launch) (D : va_G) (kk : Nat → Nat) (dE : Nat → Nat) (A : Nat → Prop) (h : hG) (q : Nat) (g_q : h q = some (.inr (8, [.null, .null, .null, .null, .null, .int 0, .int 0, .int 0]))) : Met l yJ10_init_3 (ws_ yJ10_init_3 cJ10_init_3 5 none) ({ frames := 3, cells := 0, slots := 0, locals := 100 } : Room) (hw_Pc D kk dE A h [.ref q, .null, .null, .int 0, .int 0]) (hw_Qc D A (fun v h2 => v = none ∧ h2 q = some (.inr (8, [.null, .null, .null, .null, .null, .int 0, .int 0, .int 0])) ∧ hfr h h2 [q])) (0) (0) A := by
  refine hw_of (RX := RJ10) (lo := [some (.ref q), some (.null), some (.null), some (.int 0), some (.int 0)]) (by decide) rfl (Nat.le_of_ble_eq_true rfl) rfl (fun E C hin hr hlk hq => ?_)
  refine ga_aload_n 1 C.c 0 rfl rfl dJ10_init_3_0 rfl ?_
  refine ga_aload_nN 2 C.c 1 rfl rfl dJ10_init_3_1 rfl ?_
  refine ga_aload_nN 3 C.c 2 rfl rfl dJ10_init_3_2 rfl ?_
  refine ga_iload_n 4 C.c 3 rfl rfl dJ10_init_3_3 rfl ?_
  refine ga_iload 6 C.c rfl dJ10_init_3_4 rfl ?_
  refine hh_callI 9 C (as := [.null, .null, .int 0, .int 0]) (met_J9_init_3 (eL E) D kk dE A _ q g_q) q746 q747 q110 q748 rfl cd_J9_init_3 rfl (Nat.le_of_ble_eq_true rfl) (Nat.le_of_ble_eq_true rfl) (Nat.le_of_ble_eq_true rfl) (Nat.le_of_ble_eq_true rfl) (Nat.le_of_ble_eq_true rfl) dJ10_init_3_6 rfl (fun v20043 h20042 p20044 => ?_)
  obtain ⟨rfl, gq, kq⟩ := p20044
  exact hw_vret C hr hlk hq (Nat.le_of_ble_eq_true rfl) (Nat.le_of_ble_eq_true rfl) ⟨rfl, gq, kq⟩ dJ10_init_3_9
theorem cd_X8_init : yX8_init.cls ≠ "java/lang/invoke/MethodHandle" ∧ yX8_init.cls ≠ "java/lang/invoke/VarHandle" ∧ (parseMethodDescriptor yX8_init.desc).map (fun d => d.parameters.length) = some 2 := by decide +kernel
set_option maxHeartbeats 4000000 in
theorem met_X8_init (l : Launch) (D : va_G) (kk : Nat → Nat) (dE : Nat → Nat) (A : Nat → Prop) (h : hG) (q : Nat) (k p : Int32) (g_q : h q = some (.inr (8, [.null, .null, .null, .null, .null, .int 0, .int 0, .int 0]))) : Met l yX8_init (ws_ yX8_init cX8_init 3 none) ({ frames := 4, cells := 0, slots := 0, locals := 140 } : Room) (hw_Pc D kk dE A h [.ref q, .int k, .int p]) (hw_Qc D A (fun v h2 => v = none ∧ h2 q = some (.inr (8, [.null, .null, .null, .null, .null, .int 0, .int k, .int p])) ∧ hfr h h2 [q])) (0) (0) A := by
  refine hw_of (RX := RX8) (lo := [some (.ref q), some (.int k), some (.int p)]) (by decide) rfl (Nat.le_of_ble_eq_true rfl) rfl (fun E C hin hr hlk hq => ?_)
  refine ga_aload_n 1 C.c 0 rfl rfl dX8_init_0 rfl ?_
  refine ga_null 2 C.c dX8_init_1 rfl ?_
  refine ga_null 3 C.c dX8_init_2 rfl ?_
  refine ga_iconst 4 C.c (v := 0) (by decide) dX8_init_3 rfl ?_
  refine ga_iconst 5 C.c (v := 0) (by decide) dX8_init_4 rfl ?_
  refine hh_callI 8 C (as := [.null, .null, .int 0, .int 0]) (met_J10_init_3 (eL E) D kk dE A _ q g_q) q743 q744 q111 q745 rfl cd_J10_init_3 rfl (Nat.le_of_ble_eq_true rfl) (Nat.le_of_ble_eq_true rfl) (Nat.le_of_ble_eq_true rfl) (Nat.le_of_ble_eq_true rfl) (Nat.le_of_ble_eq_true rfl) dX8_init_5 rfl (fun v20046 h20045 p20047 => ?_)
  obtain ⟨rfl, gq, kq⟩ := p20047
  refine ga_aload_n 9 C.c 0 rfl rfl dX8_init_8 rfl ?_
  refine ga_iload_n 10 C.c 1 rfl rfl dX8_init_9 rfl ?_
  refine hh_putF 13 6 C hin (ref := "QuotedRiver$Fault") (fs2 := [.null, .null, .null, .null, .null, .int 0, .int k, .int 0]) tyX8_ok nmX8 in_X8 gq rfl (by decide) q752 (fun _ h9 => h9) rfl rfl (tyX8_ok 6 (by decide)) rfl rfl (Nat.le_of_ble_eq_true rfl) rfl dX8_init_10 rfl (fun h20048 e20049 => ?_)
  have k20050 := hu_fr e20049
  have g20051 := hu_at e20049
  clear e20049
  refine ga_aload_n 14 C.c 0 rfl rfl dX8_init_13 rfl ?_
  refine ga_iload_n 15 C.c 2 rfl rfl dX8_init_14 rfl ?_
  refine hh_putF 18 7 C hin (ref := "QuotedRiver$Fault") (fs2 := [.null, .null, .null, .null, .null, .int 0, .int k, .int p]) tyX8_ok nmX8 in_X8 g20051 rfl (by decide) q754 (fun _ h9 => h9) rfl rfl (tyX8_ok 7 (by decide)) rfl rfl (Nat.le_of_ble_eq_true rfl) rfl dX8_init_15 rfl (fun h20052 e20053 => ?_)
  have k20054 := hu_fr e20053
  have g20055 := hu_at e20053
  clear e20053
  have kF20056 : hfr h h20052 [q] := by
    intro b e nb hb
    have b20057 := kq b e (nm1 (nx nb (by simp))) hb
    have b20058 := k20050 b e (nm1 (nx nb (by simp))) b20057
    have b20059 := k20054 b e (nm1 (nx nb (by simp))) b20058
    exact b20059
  exact hw_vret C hr hlk hq (Nat.le_of_ble_eq_true rfl) (Nat.le_of_ble_eq_true rfl) ⟨rfl, g20055, kF20056⟩ dX8_init_18
theorem cd_X7_fault : yX7_fault.cls = RX7 ∧ yX7_fault.cls ≠ "java/lang/invoke/MethodHandle" ∧ yX7_fault.cls ≠ "java/lang/invoke/VarHandle" ∧ (parseMethodDescriptor yX7_fault.desc).map (fun d => d.parameters.length) = some 1 := by decide +kernel
set_option maxHeartbeats 4000000 in
theorem met_X7_fault (l : Launch) (D : va_G) (kk : Nat → Nat) (dE : Nat → Nat) (A : Nat → Prop) (h : hG) (rd tp rv n : Nat) (T : Nat → Int32) (s : sT) (hs : s.1 ≤ n ∧ s.2.1 ≤ s.1) (hn : n ≤ 700) (k : Int32) (g_rd : h rd = some (.inr (7, [.ref tp, .int (nI n), .ref rv, .int (nI s.1), .int (nI s.2.1), .int s.2.2.1, .int s.2.2.2]))) (g_tp : h tp = some (.inl (kk 2, 700, .inl T))) : Met l yX7_fault (ws_ yX7_fault cX7_fault 2 (some (.object "QuotedRiver$Fault"))) ({ frames := 5, cells := 1, slots := 8, locals := 200 } : Room) (hw_Pc D kk dE A h [.ref rd, .int k]) (hw_Qc D A (fun v h2 => ∃ q, h q = none ∧ v = some (.ref q) ∧ FT h2 q (k, s.2.1) ∧ hfr h h2 [])) (1) (8) A := by
  refine hw_of (RX := RX7) (lo := [some (.ref rd), some (.int k)]) (by decide) rfl (Nat.le_of_ble_eq_true rfl) rfl (fun E C hin hr hlk hq => ?_)
  have ne20060 : rd ≠ tp := hne g_rd g_tp (by simp)
  refine hh_new 3 C (ci := 8) (fs := [.null, .null, .null, .null, .null, .int 0, .int 0, .int 0]) tyX8 tyX8_ok in_X8 q731 q732 q112 rfl (fun j hj => by rcases (show j = 0 ∨ j = 1 ∨ j = 2 ∨ j = 3 ∨ j = 4 ∨ j = 5 ∨ j = 6 ∨ j = 7 by omega) with rfl | rfl | rfl | rfl | rfl | rfl | rfl | rfl <;> rfl) (Nat.le_of_ble_eq_true rfl) (Nat.le_of_ble_eq_true rfl) dX7_fault_0 rfl (fun o20061 h20062 n20064 a20065 e20063 => ?_)
  have k20066 := hu_fr0 e20063 n20064
  have g20067 := hu_at e20063
  clear e20063
  have ne20068 : rd ≠ o20061 := hn_ne g_rd n20064
  have ne20069 : tp ≠ o20061 := hn_ne g_tp n20064
  have g20070 := k20066 _ _ List.not_mem_nil g_rd
  have g20071 := k20066 _ _ List.not_mem_nil g_tp
  refine ga_dup 4 C.c rfl dX7_fault_3 rfl ?_
  refine ga_iload_n 5 C.c 1 rfl rfl dX7_fault_4 rfl ?_
  refine ga_aload_n 6 C.c 0 rfl rfl dX7_fault_5 rfl ?_
  refine ga_get1 9 4 C.c C.ts (own := RX7) (ref := "QuotedRiver$Reader") C.ow C.k (hw_one g20070) in_X7 rfl (by decide) q640 (fun _ h9 => h9) rfl dX7_fault_6 rfl ?_
  refine hh_callI 12 C (as := [.int k, .int (nI s.2.1)]) (met_X8_init (eL E) D kk dE A _ o20061 k (nI s.2.1) g20067) q740 q741 q112 q742 rfl cd_X8_init rfl (Nat.le_of_ble_eq_true rfl) (Nat.le_of_ble_eq_true rfl) (Nat.le_of_ble_eq_true rfl) (Nat.le_of_ble_eq_true rfl) (Nat.le_of_ble_eq_true rfl) dX7_fault_9 rfl (fun v20073 h20072 p20074 => ?_)
  obtain ⟨rfl, gq, kq⟩ := p20074
  have g20075 := kq _ _ (nm1 ne20068) g20070
  have g20076 := kq _ _ (nm1 ne20069) g20071
  have nd20077 : h o20061 = none := by
    cases c9 : h o20061 with
    | none => rfl
    | some e9 =>
      rw [n20064] at c9
      cases c9
  have kF20078 : hfr h h20072 [] := by
    intro b e nb hb
    have m_o20061 : b ≠ o20061 := hn_ne hb n20064
    have b20079 := k20066 b e List.not_mem_nil hb
    have b20080 := kq b e (nm1 m_o20061) b20079
    exact b20080
  exact hw_aret C hr (Or.inl ⟨_, rfl⟩) (Or.inr ⟨_, rfl⟩) hlk hq (Nat.le_of_ble_eq_true rfl) (Nat.le_of_ble_eq_true rfl) ⟨o20061, nd20077, rfl, gq, kF20078⟩ dX7_fault_12
theorem cd_X7_isAt : yX7_isAt.cls = RX7 ∧ yX7_isAt.cls ≠ "java/lang/invoke/MethodHandle" ∧ yX7_isAt.cls ≠ "java/lang/invoke/VarHandle" ∧ (parseMethodDescriptor yX7_isAt.desc).map (fun d => d.parameters.length) = some 2 := by decide +kernel
set_option maxHeartbeats 4000000 in
theorem met_X7_isAt (l : Launch) (D : va_G) (kk : Nat → Nat) (dE : Nat → Nat) (A : Nat → Prop) (h : hG) (rd tp rv n : Nat) (T : Nat → Int32) (s : sT) (hs : s.1 ≤ n ∧ s.2.1 ≤ s.1) (hn : n ≤ 700) (lo hi : Int32) (g_rd : h rd = some (.inr (7, [.ref tp, .int (nI n), .ref rv, .int (nI s.1), .int (nI s.2.1), .int s.2.2.1, .int s.2.2.2]))) (g_tp : h tp = some (.inl (kk 2, 700, .inl T))) : Met l yX7_isAt (ws_ yX7_isAt cX7_isAt 3 (some .boolean)) ({ frames := 1, cells := 0, slots := 0, locals := 60 } : Room) (hw_Pc D kk dE A h [.ref rd, .int lo, .int hi]) (hw_Qc D A (fun v h2 => v = some (.int (if isB T n s.1 lo hi = true then 1 else 0)) ∧ h2 = h)) (0) (0) A := by
  refine hw_of (RX := RX7) (lo := [some (.ref rd), some (.int lo), some (.int hi)]) (by decide) rfl (Nat.le_of_ble_eq_true rfl) rfl (fun E C hin hr hlk hq => ?_)
  have ne20081 : rd ≠ tp := hne g_rd g_tp (by simp)
  refine ga_aload_n 1 C.c 0 rfl rfl dX7_isAt_0 rfl ?_
  refine ga_get1 4 3 C.c C.ts (own := RX7) (ref := "QuotedRiver$Reader") C.ow C.k (hw_one g_rd) in_X7 rfl (by decide) q639 (fun _ h9 => h9) rfl dX7_isAt_1 rfl ?_
  refine ga_aload_n 5 C.c 0 rfl rfl dX7_isAt_4 rfl ?_
  refine ga_get1 8 1 C.c C.ts (own := RX7) (ref := "QuotedRiver$Reader") C.ow C.k (hw_one g_rd) in_X7 rfl (by decide) q637 (fun _ h9 => h9) rfl dX7_isAt_5 rfl ?_
  refine ga_icmp_ge 35 11 C.c dX7_isAt_8 (by decide) rfl (fun c20082 => ?_) (fun c20082 => ?_)
  · have hge : n ≤ s.1 := (nI_leI (by omega) (by omega)).mp c20082
    refine ga_iconst 36 C.c (v := 0) (by decide) dX7_isAt_35 rfl ?_
    exact hw_iret C hr hlk hq rfl (Nat.le_of_ble_eq_true rfl) (Nat.le_of_ble_eq_true rfl) ⟨by rw [if_neg (fun q => absurd (isB_lt q) (by omega))]; rfl, rfl⟩ dX7_isAt_36
  · have hlt : s.1 < n := by
      rcases Nat.lt_or_ge s.1 n with q | q
      · exact q
      · exact absurd (nI_le q (by omega)) c20082
    refine ga_aload_n 12 C.c 0 rfl rfl dX7_isAt_11 rfl ?_
    refine ga_get1 15 0 C.c C.ts (own := RX7) (ref := "QuotedRiver$Reader") C.ow C.k (hw_one g_rd) in_X7 rfl (by decide) q636 (fun _ h9 => h9) rfl dX7_isAt_12 rfl ?_
    refine ga_aload_n 16 C.c 0 rfl rfl dX7_isAt_15 rfl ?_
    refine ga_get1 19 3 C.c C.ts (own := RX7) (ref := "QuotedRiver$Reader") C.ow C.k (hw_one g_rd) in_X7 rfl (by decide) q639 (fun _ h9 => h9) rfl dX7_isAt_16 rfl ?_
    refine ga_a1ldb 20 2 C.c C.k (hw_one g_tp) rfl (vp_in_nI (by omega) (by decide)) dX7_isAt_19 rfl ?_
    rw [nI_clamp (show s.1 < 2 ^ 31 by omega)]
    refine ga_i2l 21 C.c dX7_isAt_20 rfl ?_
    refine ga_iload_n 22 C.c 1 rfl rfl dX7_isAt_21 rfl ?_
    refine ga_i2l 23 C.c dX7_isAt_22 rfl ?_
    refine ga_iload_n 24 C.c 2 rfl rfl dX7_isAt_23 rfl ?_
    refine ga_i2l 25 C.c dX7_isAt_24 rfl ?_
    refine ga_callSN 28 (RX := RX7) C.c C.ml C.ow C.ts C.n (as := [.long (T s.1).toInt64, .long lo.toInt64, .long hi.toInt64]) (met_X0_in (eL E) _ _ _) q631 q137 q93 q138 cd_X0_in rfl (by rw [C.rm]; exact (Nat.le_of_ble_eq_true rfl)) (by rw [C.rm]; exact (Nat.le_of_ble_eq_true rfl)) (by rw [C.rm]; exact (Nat.le_of_ble_eq_true rfl)) (by rw [C.rm]; exact (Nat.le_of_ble_eq_true rfl)) (Nat.le_of_ble_eq_true rfl) dX7_isAt_25 rfl ?_
    refine ga_if_eq 35 31 C.c dX7_isAt_28 (by decide) rfl (fun c20083 => ?_) (fun c20083 => ?_)
    · refine ga_iconst 36 C.c (v := 0) (by decide) dX7_isAt_35 rfl ?_
      exact hw_iret C hr hlk hq rfl (Nat.le_of_ble_eq_true rfl) (Nat.le_of_ble_eq_true rfl) ⟨by rw [if_neg (fun q => (isB_iff.mp q).2 c20083)]; rfl, rfl⟩ dX7_isAt_36
    · refine ga_iconst 32 C.c (v := 1) (by decide) dX7_isAt_31 rfl ?_
      refine ga_goto 36 C.c dX7_isAt_32 (by decide) ?_
      exact hw_iret C hr hlk hq rfl (Nat.le_of_ble_eq_true rfl) (Nat.le_of_ble_eq_true rfl) ⟨by rw [if_pos (isB_iff.mpr ⟨hlt, c20083⟩)]; rfl, rfl⟩ dX7_isAt_36
theorem cd_X7_next : yX7_next.cls = RX7 ∧ yX7_next.cls ≠ "java/lang/invoke/MethodHandle" ∧ yX7_next.cls ≠ "java/lang/invoke/VarHandle" ∧ (parseMethodDescriptor yX7_next.desc).map (fun d => d.parameters.length) = some 0 := by decide +kernel
set_option maxHeartbeats 4000000 in
theorem met_X7_next (l : Launch) (D : va_G) (kk : Nat → Nat) (dE : Nat → Nat) (A : Nat → Prop) (h : hG) (rd tp rv n : Nat) (T : Nat → Int32) (s : sT) (hs : s.1 ≤ n ∧ s.2.1 ≤ s.1) (hn : n ≤ 700) (g_rd : h rd = some (.inr (7, [.ref tp, .int (nI n), .ref rv, .int (nI s.1), .int (nI s.2.1), .int s.2.2.1, .int s.2.2.2]))) (g_tp : h tp = some (.inl (kk 2, 700, .inl T))) : Met l yX7_next (ws_ yX7_next cX7_next 1 none) ({ frames := 2, cells := 0, slots := 0, locals := 100 } : Room) (hw_Pc D kk dE A h [.ref rd]) (hw_Qc D A (fun v h2 => v = none ∧ h2 rd = some (rdc tp n rv (tk T n s.1)) ∧ hfr h h2 [rd])) (0) (0) A := by
  refine hw_of (RX := RX7) (lo := [some (.ref rd)]) (by decide) rfl (Nat.le_of_ble_eq_true rfl) rfl (fun E C hin hr hlk hq => ?_)
  have ne20084 : rd ≠ tp := hne g_rd g_tp (by simp)
  obtain ⟨B, eB⟩ : ∃ B, B = tkB T n s.1 := ⟨_, rfl⟩
  have hB : s.1 ≤ B ∧ B ≤ n := by rw [eB]; exact tkS_le (by omega)
  have rest : ∀ hx : hG, hx rd = some (.inr (7, [.ref tp, .int (nI n), .ref rv, .int (nI B), .int (nI s.2.1), .int s.2.2.1, .int s.2.2.2])) → hx tp = some (.inl (kk 2, 700, .inl T)) → hfr h hx [rd] → ga_W E 1 (hw_I E D A hx) 0 0 35 [some (.ref rd)] [] := by
    intro hx gr gt kx
    refine ga_aload_n 36 C.c 0 rfl rfl dX7_next_35 rfl ?_
    refine ga_aload_n 37 C.c 0 rfl rfl dX7_next_36 rfl ?_
    refine ga_get1 40 3 C.c C.ts (own := RX7) (ref := "QuotedRiver$Reader") C.ow C.k (hw_one gr) in_X7 rfl (by decide) q639 (fun _ h9 => h9) rfl dX7_next_37 rfl ?_
    refine hh_put 43 4 C (ref := "QuotedRiver$Reader") (fs2 := [.ref tp, .int (nI n), .ref rv, .int (nI B), .int (nI B), .int s.2.2.1, .int s.2.2.2]) tyX7_ok nmX7 in_X7 gr rfl (by decide) q640 (fun _ h9 => h9) rfl (tyX7_ok 4 (by decide)) rfl rfl (Nat.le_of_ble_eq_true rfl) rfl dX7_next_40 rfl (fun h20085 e20086 => ?_)
    have k20087 := hu_fr e20086
    have g20088 := hu_at e20086
    clear e20086
    have g20089 := k20087 _ _ (nm1 (Ne.symm ne20084)) gt
    refine ga_aload_n 44 C.c 0 rfl rfl dX7_next_43 rfl ?_
    refine ga_iconst 45 C.c (v := 0) (by decide) dX7_next_44 rfl ?_
    refine hh_put 48 6 C (ref := "QuotedRiver$Reader") (fs2 := [.ref tp, .int (nI n), .ref rv, .int (nI B), .int (nI B), .int s.2.2.1, .int 0]) tyX7_ok nmX7 in_X7 g20088 rfl (by decide) q642 (fun _ h9 => h9) rfl (tyX7_ok 6 (by decide)) rfl rfl (Nat.le_of_ble_eq_true rfl) rfl dX7_next_45 rfl (fun h20090 e20091 => ?_)
    have k20092 := hu_fr e20091
    have g20093 := hu_at e20091
    clear e20091
    have g20094 := k20092 _ _ (nm1 (Ne.symm ne20084)) g20089
    refine ga_aload_n 49 C.c 0 rfl rfl dX7_next_48 rfl ?_
    refine ga_get1 52 3 C.c C.ts (own := RX7) (ref := "QuotedRiver$Reader") C.ow C.k (hw_one g20093) in_X7 rfl (by decide) q639 (fun _ h9 => h9) rfl dX7_next_49 rfl ?_
    refine ga_aload_n 53 C.c 0 rfl rfl dX7_next_52 rfl ?_
    refine ga_get1 56 1 C.c C.ts (own := RX7) (ref := "QuotedRiver$Reader") C.ow C.k (hw_one g20093) in_X7 rfl (by decide) q637 (fun _ h9 => h9) rfl dX7_next_53 rfl ?_
    refine ga_icmp_ne 67 59 C.c dX7_next_56 (by decide) rfl (fun c20095 => ?_) (fun c20095 => ?_)
    · have hBn : B ≠ n := fun q => c20095 (by rw [q])
      refine ga_aload_n 68 C.c 0 rfl rfl dX7_next_67 rfl ?_
      refine ga_bipush 70 C.c (v := 97) (by decide) dX7_next_68 rfl ?_
      refine ga_bipush 72 C.c (v := 122) (by decide) dX7_next_70 rfl ?_
      refine hh_callV 75 C (as := [.int 97, .int 122]) (met_X7_isAt (eL E) D kk dE A _ rd tp rv n T (B, B, s.2.2.1, 0) ⟨show B ≤ n by omega, show B ≤ B by omega⟩ hn 97 122 g20093 g20094) g20093 (T := TX7) rfl (lw_V q627 q629 qs6 q103 q630) cd_X7_isAt rfl (Nat.le_of_ble_eq_true rfl) (Nat.le_of_ble_eq_true rfl) (Nat.le_of_ble_eq_true rfl) (Nat.le_of_ble_eq_true rfl) (Nat.le_of_ble_eq_true rfl) dX7_next_72 rfl (fun v20097 h20096 p20098 => ?_)
      obtain ⟨rfl, e20099⟩ := p20098
      have e20099 := e20099.symm
      subst e20099
      by_cases c20100 : isB T n B 97 122 = true
      · rw [if_pos c20100]
        refine ga_if_eq 107 78 C.c dX7_next_75 (by decide) rfl (fun c20101 => absurd c20101 (by decide)) (fun c20101 => ?_)
        refine ga_aload_n 79 C.c 0 rfl rfl dX7_next_78 rfl ?_
        refine ga_iconst 80 C.c (v := 1) (by decide) dX7_next_79 rfl ?_
        refine hh_put 83 5 C (ref := "QuotedRiver$Reader") (fs2 := [.ref tp, .int (nI n), .ref rv, .int (nI B), .int (nI B), .int 1, .int 0]) tyX7_ok nmX7 in_X7 g20093 rfl (by decide) q641 (fun _ h9 => h9) rfl (tyX7_ok 5 (by decide)) rfl rfl (Nat.le_of_ble_eq_true rfl) rfl dX7_next_80 rfl (fun h20102 e20103 => ?_)
        have k20104 := hu_fr e20103
        have g20105 := hu_at e20103
        clear e20103
        have g20106 := k20104 _ _ (nm1 (Ne.symm ne20084)) g20094
        have kF20107 : hfr h h20102 [rd] := by
          intro b e nb hb
          have b20108 := kx b e (nm1 (nx nb (by simp))) hb
          have b20109 := k20087 b e (nm1 (nx nb (by simp))) b20108
          have b20110 := k20092 b e (nm1 (nx nb (by simp))) b20109
          have b20111 := k20104 b e (nm1 (nx nb (by simp))) b20110
          exact b20111
        have hk : hfr h h20102 [rd] := kF20107
        obtain ⟨Wn, eW⟩ : ∃ Wn, Wn = tkW T n 97 122 (n - B) B := ⟨_, rfl⟩
        have loop : ∀ (k a : Nat) (hx : hG), a + k = n → B ≤ a → tkW T n 97 122 k a = Wn → hx rd = some (.inr (7, [.ref tp, .int (nI n), .ref rv, .int (nI a), .int (nI B), .int 1, .int 0])) → hx tp = some (.inl (kk 2, 700, .inl T)) → hfr h hx [rd] → ga_W E 1 (hw_I E D A hx) 0 0 83 [some (.ref rd)] [] := by
          intro k
          induction k with
          | zero =>
            intro a hx ha hBa hW gr gt kx
            refine ga_aload_n 84 C.c 0 rfl rfl dX7_next_83 rfl ?_
            refine ga_bipush 86 C.c (v := 97) (by decide) dX7_next_84 rfl ?_
            refine ga_bipush 88 C.c (v := 122) (by decide) dX7_next_86 rfl ?_
            refine hh_callV 91 C (as := [.int 97, .int 122]) (met_X7_isAt (eL E) D kk dE A _ rd tp rv n T (a, B, 1, 0) ⟨show a ≤ n by omega, show B ≤ a by omega⟩ hn 97 122 gr gt) gr (T := TX7) rfl (lw_V q627 q629 qs6 q103 q630) cd_X7_isAt rfl (Nat.le_of_ble_eq_true rfl) (Nat.le_of_ble_eq_true rfl) (Nat.le_of_ble_eq_true rfl) (Nat.le_of_ble_eq_true rfl) (Nat.le_of_ble_eq_true rfl) dX7_next_88 rfl (fun v20113 h20112 p20114 => ?_)
            obtain ⟨rfl, e20115⟩ := p20114
            have e20115 := e20115.symm
            subst e20115
            have hna : ¬ isB T n a 97 122 = true := fun q => absurd (isB_lt q) (by omega)
            rw [if_neg hna]
            refine ga_if_eq 206 94 C.c dX7_next_91 (by decide) rfl (fun c20116 => ?_) (fun c20116 => absurd rfl c20116)
            have hWa : Wn = a := hW.symm
            have e9 : tk T n s.1 = (a, B, 1, 0) := by unfold tk; rw [← eB, if_neg hBn, if_pos c20100, ← eW, hWa]
            have kF20117 : hfr h hx [rd] := by
              intro b e nb hb
              have b20118 := kx b e (nm1 (nx nb (by simp))) hb
              exact b20118
            exact hw_vret C hr hlk hq (Nat.le_of_ble_eq_true rfl) (Nat.le_of_ble_eq_true rfl) ⟨rfl, by rw [e9]; exact gr, kF20117⟩ dX7_next_206
          | succ k ih =>
            intro a hx ha hBa hW gr gt kx
            refine ga_aload_n 84 C.c 0 rfl rfl dX7_next_83 rfl ?_
            refine ga_bipush 86 C.c (v := 97) (by decide) dX7_next_84 rfl ?_
            refine ga_bipush 88 C.c (v := 122) (by decide) dX7_next_86 rfl ?_
            refine hh_callV 91 C (as := [.int 97, .int 122]) (met_X7_isAt (eL E) D kk dE A _ rd tp rv n T (a, B, 1, 0) ⟨show a ≤ n by omega, show B ≤ a by omega⟩ hn 97 122 gr gt) gr (T := TX7) rfl (lw_V q627 q629 qs6 q103 q630) cd_X7_isAt rfl (Nat.le_of_ble_eq_true rfl) (Nat.le_of_ble_eq_true rfl) (Nat.le_of_ble_eq_true rfl) (Nat.le_of_ble_eq_true rfl) (Nat.le_of_ble_eq_true rfl) dX7_next_88 rfl (fun v20120 h20119 p20121 => ?_)
            obtain ⟨rfl, e20122⟩ := p20121
            have e20122 := e20122.symm
            subst e20122
            by_cases c20123 : isB T n a 97 122 = true
            · rw [if_pos c20123]
              refine ga_if_eq 206 94 C.c dX7_next_91 (by decide) rfl (fun c20124 => absurd c20124 (by decide)) (fun c20124 => ?_)
              refine ga_aload_n 95 C.c 0 rfl rfl dX7_next_94 rfl ?_
              refine ga_dup 96 C.c rfl dX7_next_95 rfl ?_
              refine ga_get1 99 3 C.c C.ts (own := RX7) (ref := "QuotedRiver$Reader") C.ow C.k (hw_one gr) in_X7 rfl (by decide) q639 (fun _ h9 => h9) rfl dX7_next_96 rfl ?_
              refine ga_iconst 100 C.c (v := 1) (by decide) dX7_next_99 rfl ?_
              refine ga_iadd 101 C.c dX7_next_100 rfl ?_
              refine hh_put 104 3 C (ref := "QuotedRiver$Reader") (fs2 := [.ref tp, .int (nI n), .ref rv, .int ((nI a) + 1), .int (nI B), .int 1, .int 0]) tyX7_ok nmX7 in_X7 gr rfl (by decide) q639 (fun _ h9 => h9) rfl (tyX7_ok 3 (by decide)) rfl rfl (Nat.le_of_ble_eq_true rfl) rfl dX7_next_101 rfl (fun h20125 e20126 => ?_)
              have k20127 := hu_fr e20126
              have g20128 := hu_at e20126
              clear e20126
              have g20129 := k20127 _ _ (nm1 (Ne.symm ne20084)) gt
              refine ga_goto 83 C.c dX7_next_104 (by decide) ?_
              rw [nI_1] at g20128
              have kF20130 : hfr h h20125 [rd] := by
                intro b e nb hb
                have b20131 := kx b e (nm1 (nx nb (by simp))) hb
                have b20132 := k20127 b e (nm1 (nx nb (by simp))) b20131
                exact b20132
              exact ih (a + 1) _ (by omega) (by omega) (by rw [← hW]; exact (show tkW T n 97 122 (k + 1) a = tkW T n 97 122 k (a + 1) by rw [tkW, if_pos c20123]).symm) g20128 g20129 kF20130
            · rw [if_neg c20123]
              refine ga_if_eq 206 94 C.c dX7_next_91 (by decide) rfl (fun c20133 => ?_) (fun c20133 => absurd rfl c20133)
              have hWa : Wn = a := by rw [← hW, tkW, if_neg c20123]
              have e9 : tk T n s.1 = (a, B, 1, 0) := by unfold tk; rw [← eB, if_neg hBn, if_pos c20100, ← eW, hWa]
              have kF20134 : hfr h hx [rd] := by
                intro b e nb hb
                have b20135 := kx b e (nm1 (nx nb (by simp))) hb
                exact b20135
              exact hw_vret C hr hlk hq (Nat.le_of_ble_eq_true rfl) (Nat.le_of_ble_eq_true rfl) ⟨rfl, by rw [e9]; exact gr, kF20134⟩ dX7_next_206
        exact loop (n - B) B _ (by omega) (Nat.le_refl _) eW.symm g20105 g20106 hk
      · rw [if_neg c20100]
        refine ga_if_eq 107 78 C.c dX7_next_75 (by decide) rfl (fun c20136 => ?_) (fun c20136 => absurd rfl c20136)
        refine ga_aload_n 108 C.c 0 rfl rfl dX7_next_107 rfl ?_
        refine ga_bipush 110 C.c (v := 48) (by decide) dX7_next_108 rfl ?_
        refine ga_bipush 112 C.c (v := 57) (by decide) dX7_next_110 rfl ?_
        refine hh_callV 115 C (as := [.int 48, .int 57]) (met_X7_isAt (eL E) D kk dE A _ rd tp rv n T (B, B, s.2.2.1, 0) ⟨show B ≤ n by omega, show B ≤ B by omega⟩ hn 48 57 g20093 g20094) g20093 (T := TX7) rfl (lw_V q627 q629 qs6 q103 q630) cd_X7_isAt rfl (Nat.le_of_ble_eq_true rfl) (Nat.le_of_ble_eq_true rfl) (Nat.le_of_ble_eq_true rfl) (Nat.le_of_ble_eq_true rfl) (Nat.le_of_ble_eq_true rfl) dX7_next_112 rfl (fun v20138 h20137 p20139 => ?_)
        obtain ⟨rfl, e20140⟩ := p20139
        have e20140 := e20140.symm
        subst e20140
        by_cases c20141 : isB T n B 48 57 = true
        · rw [if_pos c20141]
          refine ga_if_eq 176 118 C.c dX7_next_115 (by decide) rfl (fun c20142 => absurd c20142 (by decide)) (fun c20142 => ?_)
          refine ga_aload_n 119 C.c 0 rfl rfl dX7_next_118 rfl ?_
          refine ga_iconst 120 C.c (v := 2) (by decide) dX7_next_119 rfl ?_
          refine hh_put 123 5 C (ref := "QuotedRiver$Reader") (fs2 := [.ref tp, .int (nI n), .ref rv, .int (nI B), .int (nI B), .int 2, .int 0]) tyX7_ok nmX7 in_X7 g20093 rfl (by decide) q641 (fun _ h9 => h9) rfl (tyX7_ok 5 (by decide)) rfl rfl (Nat.le_of_ble_eq_true rfl) rfl dX7_next_120 rfl (fun h20143 e20144 => ?_)
          have k20145 := hu_fr e20144
          have g20146 := hu_at e20144
          clear e20144
          have g20147 := k20145 _ _ (nm1 (Ne.symm ne20084)) g20094
          have kF20148 : hfr h h20143 [rd] := by
            intro b e nb hb
            have b20149 := kx b e (nm1 (nx nb (by simp))) hb
            have b20150 := k20087 b e (nm1 (nx nb (by simp))) b20149
            have b20151 := k20092 b e (nm1 (nx nb (by simp))) b20150
            have b20152 := k20145 b e (nm1 (nx nb (by simp))) b20151
            exact b20152
          have hk : hfr h h20143 [rd] := kF20148
          obtain ⟨Wn, eW⟩ : ∃ Wn, Wn = tkW T n 48 57 (n - B) B := ⟨_, rfl⟩
          obtain ⟨V, eV⟩ : ∃ V, V = tkV T n (n - B) B 0 := ⟨_, rfl⟩
          have loop : ∀ (k a : Nat) (v : Int32) (hx : hG), a + k = n → B ≤ a → tkW T n 48 57 k a = Wn → tkV T n k a v = V → hx rd = some (.inr (7, [.ref tp, .int (nI n), .ref rv, .int (nI a), .int (nI B), .int 2, .int v])) → hx tp = some (.inl (kk 2, 700, .inl T)) → hfr h hx [rd] → ga_W E 1 (hw_I E D A hx) 0 0 123 [some (.ref rd)] [] := by
            intro k
            induction k with
            | zero =>
              intro a v hx ha hBa hW hV gr gt kx
              refine ga_aload_n 124 C.c 0 rfl rfl dX7_next_123 rfl ?_
              refine ga_bipush 126 C.c (v := 48) (by decide) dX7_next_124 rfl ?_
              refine ga_bipush 128 C.c (v := 57) (by decide) dX7_next_126 rfl ?_
              refine hh_callV 131 C (as := [.int 48, .int 57]) (met_X7_isAt (eL E) D kk dE A _ rd tp rv n T (a, B, 2, v) ⟨show a ≤ n by omega, show B ≤ a by omega⟩ hn 48 57 gr gt) gr (T := TX7) rfl (lw_V q627 q629 qs6 q103 q630) cd_X7_isAt rfl (Nat.le_of_ble_eq_true rfl) (Nat.le_of_ble_eq_true rfl) (Nat.le_of_ble_eq_true rfl) (Nat.le_of_ble_eq_true rfl) (Nat.le_of_ble_eq_true rfl) dX7_next_128 rfl (fun v20154 h20153 p20155 => ?_)
              obtain ⟨rfl, e20156⟩ := p20155
              have e20156 := e20156.symm
              subst e20156
              have hna : ¬ isB T n a 48 57 = true := fun q => absurd (isB_lt q) (by omega)
              rw [if_neg hna]
              refine ga_if_eq 206 134 C.c dX7_next_131 (by decide) rfl (fun c20157 => ?_) (fun c20157 => absurd rfl c20157)
              have hWa : Wn = a := hW.symm
              have hVv : V = v := hV.symm
              have e9 : tk T n s.1 = (a, B, 2, v) := by unfold tk; rw [← eB, if_neg hBn, if_neg c20100, if_pos c20141, ← eW, hWa, ← eV, hVv]
              have kF20158 : hfr h hx [rd] := by
                intro b e nb hb
                have b20159 := kx b e (nm1 (nx nb (by simp))) hb
                exact b20159
              exact hw_vret C hr hlk hq (Nat.le_of_ble_eq_true rfl) (Nat.le_of_ble_eq_true rfl) ⟨rfl, by rw [e9]; exact gr, kF20158⟩ dX7_next_206
            | succ k ih =>
              intro a v hx ha hBa hW hV gr gt kx
              refine ga_aload_n 124 C.c 0 rfl rfl dX7_next_123 rfl ?_
              refine ga_bipush 126 C.c (v := 48) (by decide) dX7_next_124 rfl ?_
              refine ga_bipush 128 C.c (v := 57) (by decide) dX7_next_126 rfl ?_
              refine hh_callV 131 C (as := [.int 48, .int 57]) (met_X7_isAt (eL E) D kk dE A _ rd tp rv n T (a, B, 2, v) ⟨show a ≤ n by omega, show B ≤ a by omega⟩ hn 48 57 gr gt) gr (T := TX7) rfl (lw_V q627 q629 qs6 q103 q630) cd_X7_isAt rfl (Nat.le_of_ble_eq_true rfl) (Nat.le_of_ble_eq_true rfl) (Nat.le_of_ble_eq_true rfl) (Nat.le_of_ble_eq_true rfl) (Nat.le_of_ble_eq_true rfl) dX7_next_128 rfl (fun v20161 h20160 p20162 => ?_)
              obtain ⟨rfl, e20163⟩ := p20162
              have e20163 := e20163.symm
              subst e20163
              by_cases c20164 : isB T n a 48 57 = true
              · have haln := isB_lt c20164
                rw [if_pos c20164]
                refine ga_if_eq 206 134 C.c dX7_next_131 (by decide) rfl (fun c20165 => absurd c20165 (by decide)) (fun c20165 => ?_)
                refine ga_aload_n 135 C.c 0 rfl rfl dX7_next_134 rfl ?_
                refine ga_ldc 137 C.c C.ow (C.ts _ q632) dX7_next_135 rfl ?_
                refine ga_bipush 139 C.c (v := 10) (by decide) dX7_next_137 rfl ?_
                refine ga_aload_n 140 C.c 0 rfl rfl dX7_next_139 rfl ?_
                refine ga_get1 143 6 C.c C.ts (own := RX7) (ref := "QuotedRiver$Reader") C.ow C.k (hw_one gr) in_X7 rfl (by decide) q642 (fun _ h9 => h9) rfl dX7_next_140 rfl ?_
                refine ga_imul 144 C.c dX7_next_143 rfl ?_
                refine ga_aload_n 145 C.c 0 rfl rfl dX7_next_144 rfl ?_
                refine ga_get1 148 0 C.c C.ts (own := RX7) (ref := "QuotedRiver$Reader") C.ow C.k (hw_one gr) in_X7 rfl (by decide) q636 (fun _ h9 => h9) rfl dX7_next_145 rfl ?_
                refine ga_aload_n 149 C.c 0 rfl rfl dX7_next_148 rfl ?_
                refine ga_get1 152 3 C.c C.ts (own := RX7) (ref := "QuotedRiver$Reader") C.ow C.k (hw_one gr) in_X7 rfl (by decide) q639 (fun _ h9 => h9) rfl dX7_next_149 rfl ?_
                refine ga_a1ldb 153 2 C.c C.k (hw_one gt) rfl (vp_in_nI (by omega) (by decide)) dX7_next_152 rfl ?_
                rw [nI_clamp (show a < 2 ^ 31 by omega)]
                refine ga_iadd 154 C.c dX7_next_153 rfl ?_
                refine ga_bipush 156 C.c (v := 48) (by decide) dX7_next_154 rfl ?_
                refine ga_isub 157 C.c dX7_next_156 rfl ?_
                refine ga_mmin 160 C.c C.ml C.ow (C.ts _ q633) (C.ts _ q634) (C.ts _ q104) (C.ts _ q635) (by rw [C.rm]; exact (Nat.le_of_ble_eq_true rfl)) (by rw [C.rm]; exact (Nat.le_of_ble_eq_true rfl)) (by rw [C.rm]; exact (Nat.le_of_ble_eq_true rfl)) (by rw [C.rm]; exact (Nat.le_of_ble_eq_true rfl)) dX7_next_157 rfl ?_
                refine hh_put 163 6 C (ref := "QuotedRiver$Reader") (fs2 := [.ref tp, .int (nI n), .ref rv, .int (nI a), .int (nI B), .int 2, .int (pu_min 99999 (10 * v + T a - 48))]) tyX7_ok nmX7 in_X7 gr rfl (by decide) q642 (fun _ h9 => h9) rfl (tyX7_ok 6 (by decide)) rfl rfl (Nat.le_of_ble_eq_true rfl) rfl dX7_next_160 rfl (fun h20166 e20167 => ?_)
                have k20168 := hu_fr e20167
                have g20169 := hu_at e20167
                clear e20167
                have g20170 := k20168 _ _ (nm1 (Ne.symm ne20084)) gt
                refine ga_aload_n 164 C.c 0 rfl rfl dX7_next_163 rfl ?_
                refine ga_dup 165 C.c rfl dX7_next_164 rfl ?_
                refine ga_get1 168 3 C.c C.ts (own := RX7) (ref := "QuotedRiver$Reader") C.ow C.k (hw_one g20169) in_X7 rfl (by decide) q639 (fun _ h9 => h9) rfl dX7_next_165 rfl ?_
                refine ga_iconst 169 C.c (v := 1) (by decide) dX7_next_168 rfl ?_
                refine ga_iadd 170 C.c dX7_next_169 rfl ?_
                refine hh_put 173 3 C (ref := "QuotedRiver$Reader") (fs2 := [.ref tp, .int (nI n), .ref rv, .int ((nI a) + 1), .int (nI B), .int 2, .int (pu_min 99999 (10 * v + T a - 48))]) tyX7_ok nmX7 in_X7 g20169 rfl (by decide) q639 (fun _ h9 => h9) rfl (tyX7_ok 3 (by decide)) rfl rfl (Nat.le_of_ble_eq_true rfl) rfl dX7_next_170 rfl (fun h20171 e20172 => ?_)
                have k20173 := hu_fr e20172
                have g20174 := hu_at e20172
                clear e20172
                have g20175 := k20173 _ _ (nm1 (Ne.symm ne20084)) g20170
                refine ga_goto 123 C.c dX7_next_173 (by decide) ?_
                rw [nI_1] at g20174
                have kF20176 : hfr h h20171 [rd] := by
                  intro b e nb hb
                  have b20177 := kx b e (nm1 (nx nb (by simp))) hb
                  have b20178 := k20168 b e (nm1 (nx nb (by simp))) b20177
                  have b20179 := k20173 b e (nm1 (nx nb (by simp))) b20178
                  exact b20179
                exact ih (a + 1) _ _ (by omega) (by omega) (by rw [← hW]; exact (show tkW T n 48 57 (k + 1) a = tkW T n 48 57 k (a + 1) by rw [tkW, if_pos c20164]).symm) (by rw [← hV]; exact (show tkV T n (k + 1) a v = tkV T n k (a + 1) (pu_min 99999 (10 * v + T a - 48)) by rw [tkV, if_pos c20164]).symm) g20174 g20175 kF20176
              · rw [if_neg c20164]
                refine ga_if_eq 206 134 C.c dX7_next_131 (by decide) rfl (fun c20180 => ?_) (fun c20180 => absurd rfl c20180)
                have hWa : Wn = a := by rw [← hW, tkW, if_neg c20164]
                have hVv : V = v := by rw [← hV, tkV, if_neg c20164]
                have e9 : tk T n s.1 = (a, B, 2, v) := by unfold tk; rw [← eB, if_neg hBn, if_neg c20100, if_pos c20141, ← eW, hWa, ← eV, hVv]
                have kF20181 : hfr h hx [rd] := by
                  intro b e nb hb
                  have b20182 := kx b e (nm1 (nx nb (by simp))) hb
                  exact b20182
                exact hw_vret C hr hlk hq (Nat.le_of_ble_eq_true rfl) (Nat.le_of_ble_eq_true rfl) ⟨rfl, by rw [e9]; exact gr, kF20181⟩ dX7_next_206
          exact loop (n - B) B 0 _ (by omega) (Nat.le_refl _) eW.symm eV.symm g20146 g20147 hk
        · rw [if_neg c20141]
          refine ga_if_eq 176 118 C.c dX7_next_115 (by decide) rfl (fun c20183 => ?_) (fun c20183 => absurd rfl c20183)
          refine ga_aload_n 177 C.c 0 rfl rfl dX7_next_176 rfl ?_
          refine ga_aload_n 178 C.c 0 rfl rfl dX7_next_177 rfl ?_
          refine ga_bipush 180 C.c (v := 59) (by decide) dX7_next_178 rfl ?_
          refine ga_bipush 182 C.c (v := 59) (by decide) dX7_next_180 rfl ?_
          refine hh_callV 185 C (as := [.int 59, .int 59]) (met_X7_isAt (eL E) D kk dE A _ rd tp rv n T (B, B, s.2.2.1, 0) ⟨show B ≤ n by omega, show B ≤ B by omega⟩ hn 59 59 g20093 g20094) g20093 (T := TX7) rfl (lw_V q627 q629 qs6 q103 q630) cd_X7_isAt rfl (Nat.le_of_ble_eq_true rfl) (Nat.le_of_ble_eq_true rfl) (Nat.le_of_ble_eq_true rfl) (Nat.le_of_ble_eq_true rfl) (Nat.le_of_ble_eq_true rfl) dX7_next_182 rfl (fun v20185 h20184 p20186 => ?_)
          obtain ⟨rfl, e20187⟩ := p20186
          have e20187 := e20187.symm
          subst e20187
          by_cases c20188 : isB T n B 59 59 = true
          · rw [if_pos c20188]
            refine ga_if_eq 192 188 C.c dX7_next_185 (by decide) rfl (fun c20189 => absurd c20189 (by decide)) (fun c20189 => ?_)
            refine ga_iconst 189 C.c (v := 3) (by decide) dX7_next_188 rfl ?_
            refine ga_goto 193 C.c dX7_next_189 (by decide) ?_
            refine hh_put 196 5 C (ref := "QuotedRiver$Reader") (fs2 := [.ref tp, .int (nI n), .ref rv, .int (nI B), .int (nI B), .int 3, .int 0]) tyX7_ok nmX7 in_X7 g20093 rfl (by decide) q641 (fun _ h9 => h9) rfl (tyX7_ok 5 (by decide)) rfl rfl (Nat.le_of_ble_eq_true rfl) rfl dX7_next_193 rfl (fun h20190 e20191 => ?_)
            have k20192 := hu_fr e20191
            have g20193 := hu_at e20191
            clear e20191
            have g20194 := k20192 _ _ (nm1 (Ne.symm ne20084)) g20094
            refine ga_aload_n 197 C.c 0 rfl rfl dX7_next_196 rfl ?_
            refine ga_dup 198 C.c rfl dX7_next_197 rfl ?_
            refine ga_get1 201 3 C.c C.ts (own := RX7) (ref := "QuotedRiver$Reader") C.ow C.k (hw_one g20193) in_X7 rfl (by decide) q639 (fun _ h9 => h9) rfl dX7_next_198 rfl ?_
            refine ga_iconst 202 C.c (v := 1) (by decide) dX7_next_201 rfl ?_
            refine ga_iadd 203 C.c dX7_next_202 rfl ?_
            refine hh_put 206 3 C (ref := "QuotedRiver$Reader") (fs2 := [.ref tp, .int (nI n), .ref rv, .int ((nI B) + 1), .int (nI B), .int 3, .int 0]) tyX7_ok nmX7 in_X7 g20193 rfl (by decide) q639 (fun _ h9 => h9) rfl (tyX7_ok 3 (by decide)) rfl rfl (Nat.le_of_ble_eq_true rfl) rfl dX7_next_203 rfl (fun h20195 e20196 => ?_)
            have k20197 := hu_fr e20196
            have g20198 := hu_at e20196
            clear e20196
            have g20199 := k20197 _ _ (nm1 (Ne.symm ne20084)) g20194
            rw [nI_1] at g20198
            have e9 : tk T n s.1 = (B + 1, B, 3, 0) := by unfold tk; rw [← eB, if_neg hBn, if_neg c20100, if_neg c20141, if_pos c20188]
            have kF20200 : hfr h h20195 [rd] := by
              intro b e nb hb
              have b20201 := kx b e (nm1 (nx nb (by simp))) hb
              have b20202 := k20087 b e (nm1 (nx nb (by simp))) b20201
              have b20203 := k20092 b e (nm1 (nx nb (by simp))) b20202
              have b20204 := k20192 b e (nm1 (nx nb (by simp))) b20203
              have b20205 := k20197 b e (nm1 (nx nb (by simp))) b20204
              exact b20205
            exact hw_vret C hr hlk hq (Nat.le_of_ble_eq_true rfl) (Nat.le_of_ble_eq_true rfl) ⟨rfl, by rw [e9]; exact g20198, kF20200⟩ dX7_next_206
          · rw [if_neg c20188]
            refine ga_if_eq 192 188 C.c dX7_next_185 (by decide) rfl (fun c20206 => ?_) (fun c20206 => absurd rfl c20206)
            refine ga_iconst 193 C.c (v := 4) (by decide) dX7_next_192 rfl ?_
            refine hh_put 196 5 C (ref := "QuotedRiver$Reader") (fs2 := [.ref tp, .int (nI n), .ref rv, .int (nI B), .int (nI B), .int 4, .int 0]) tyX7_ok nmX7 in_X7 g20093 rfl (by decide) q641 (fun _ h9 => h9) rfl (tyX7_ok 5 (by decide)) rfl rfl (Nat.le_of_ble_eq_true rfl) rfl dX7_next_193 rfl (fun h20207 e20208 => ?_)
            have k20209 := hu_fr e20208
            have g20210 := hu_at e20208
            clear e20208
            have g20211 := k20209 _ _ (nm1 (Ne.symm ne20084)) g20094
            refine ga_aload_n 197 C.c 0 rfl rfl dX7_next_196 rfl ?_
            refine ga_dup 198 C.c rfl dX7_next_197 rfl ?_
            refine ga_get1 201 3 C.c C.ts (own := RX7) (ref := "QuotedRiver$Reader") C.ow C.k (hw_one g20210) in_X7 rfl (by decide) q639 (fun _ h9 => h9) rfl dX7_next_198 rfl ?_
            refine ga_iconst 202 C.c (v := 1) (by decide) dX7_next_201 rfl ?_
            refine ga_iadd 203 C.c dX7_next_202 rfl ?_
            refine hh_put 206 3 C (ref := "QuotedRiver$Reader") (fs2 := [.ref tp, .int (nI n), .ref rv, .int ((nI B) + 1), .int (nI B), .int 4, .int 0]) tyX7_ok nmX7 in_X7 g20210 rfl (by decide) q639 (fun _ h9 => h9) rfl (tyX7_ok 3 (by decide)) rfl rfl (Nat.le_of_ble_eq_true rfl) rfl dX7_next_203 rfl (fun h20212 e20213 => ?_)
            have k20214 := hu_fr e20213
            have g20215 := hu_at e20213
            clear e20213
            have g20216 := k20214 _ _ (nm1 (Ne.symm ne20084)) g20211
            rw [nI_1] at g20215
            have e9 : tk T n s.1 = (B + 1, B, 4, 0) := by unfold tk; rw [← eB, if_neg hBn, if_neg c20100, if_neg c20141, if_neg c20188]
            have kF20217 : hfr h h20212 [rd] := by
              intro b e nb hb
              have b20218 := kx b e (nm1 (nx nb (by simp))) hb
              have b20219 := k20087 b e (nm1 (nx nb (by simp))) b20218
              have b20220 := k20092 b e (nm1 (nx nb (by simp))) b20219
              have b20221 := k20209 b e (nm1 (nx nb (by simp))) b20220
              have b20222 := k20214 b e (nm1 (nx nb (by simp))) b20221
              exact b20222
            exact hw_vret C hr hlk hq (Nat.le_of_ble_eq_true rfl) (Nat.le_of_ble_eq_true rfl) ⟨rfl, by rw [e9]; exact g20215, kF20217⟩ dX7_next_206
    · have hBn : B = n := (nI_eq (by omega) (by omega)).mp c20095
      refine ga_aload_n 60 C.c 0 rfl rfl dX7_next_59 rfl ?_
      refine ga_iconst 61 C.c (v := 0) (by decide) dX7_next_60 rfl ?_
      refine hh_put 64 5 C (ref := "QuotedRiver$Reader") (fs2 := [.ref tp, .int (nI n), .ref rv, .int (nI B), .int (nI B), .int 0, .int 0]) tyX7_ok nmX7 in_X7 g20093 rfl (by decide) q641 (fun _ h9 => h9) rfl (tyX7_ok 5 (by decide)) rfl rfl (Nat.le_of_ble_eq_true rfl) rfl dX7_next_61 rfl (fun h20223 e20224 => ?_)
      have k20225 := hu_fr e20224
      have g20226 := hu_at e20224
      clear e20224
      have g20227 := k20225 _ _ (nm1 (Ne.symm ne20084)) g20094
      refine ga_goto 206 C.c dX7_next_64 (by decide) ?_
      have e9 : tk T n s.1 = (B, B, 0, 0) := by unfold tk; rw [if_pos (by rw [← eB]; exact hBn), hBn]
      have kF20228 : hfr h h20223 [rd] := by
        intro b e nb hb
        have b20229 := kx b e (nm1 (nx nb (by simp))) hb
        have b20230 := k20087 b e (nm1 (nx nb (by simp))) b20229
        have b20231 := k20092 b e (nm1 (nx nb (by simp))) b20230
        have b20232 := k20225 b e (nm1 (nx nb (by simp))) b20231
        exact b20232
      exact hw_vret C hr hlk hq (Nat.le_of_ble_eq_true rfl) (Nat.le_of_ble_eq_true rfl) ⟨rfl, by rw [e9]; exact g20226, kF20228⟩ dX7_next_206
  have loop : ∀ (k a : Nat) (hx : hG), a + k = n → s.1 ≤ a → tkS T n k a = B → hx rd = some (.inr (7, [.ref tp, .int (nI n), .ref rv, .int (nI a), .int (nI s.2.1), .int s.2.2.1, .int s.2.2.2])) → hx tp = some (.inl (kk 2, 700, .inl T)) → hfr h hx [rd] → ga_W E 1 (hw_I E D A hx) 0 0 0 [some (.ref rd)] [] := by
    intro k
    induction k with
    | zero =>
      intro a hx ha hsa hB2 gr gt kx
      refine ga_aload_n 1 C.c 0 rfl rfl dX7_next_0 rfl ?_
      refine ga_bipush 3 C.c (v := 32) (by decide) dX7_next_1 rfl ?_
      refine ga_bipush 5 C.c (v := 32) (by decide) dX7_next_3 rfl ?_
      refine hh_callV 8 C (as := [.int 32, .int 32]) (met_X7_isAt (eL E) D kk dE A _ rd tp rv n T (a, s.2.1, s.2.2.1, s.2.2.2) ⟨show a ≤ n by omega, show s.2.1 ≤ a by omega⟩ hn 32 32 gr gt) gr (T := TX7) rfl (lw_V q627 q629 qs6 q103 q630) cd_X7_isAt rfl (Nat.le_of_ble_eq_true rfl) (Nat.le_of_ble_eq_true rfl) (Nat.le_of_ble_eq_true rfl) (Nat.le_of_ble_eq_true rfl) (Nat.le_of_ble_eq_true rfl) dX7_next_5 rfl (fun v20234 h20233 p20235 => ?_)
      obtain ⟨rfl, e20236⟩ := p20235
      have e20236 := e20236.symm
      subst e20236
      have h1 : ¬ isB T n a 32 32 = true := fun q => absurd (isB_lt q) (by omega)
      have h2 : ¬ isB T n a 10 10 = true := fun q => absurd (isB_lt q) (by omega)
      rw [if_neg h1]
      refine ga_if_ne 22 11 C.c dX7_next_8 (by decide) rfl (fun c20237 => absurd rfl c20237) (fun c20237 => ?_)
      refine ga_aload_n 12 C.c 0 rfl rfl dX7_next_11 rfl ?_
      refine ga_bipush 14 C.c (v := 10) (by decide) dX7_next_12 rfl ?_
      refine ga_bipush 16 C.c (v := 10) (by decide) dX7_next_14 rfl ?_
      refine hh_callV 19 C (as := [.int 10, .int 10]) (met_X7_isAt (eL E) D kk dE A _ rd tp rv n T (a, s.2.1, s.2.2.1, s.2.2.2) ⟨show a ≤ n by omega, show s.2.1 ≤ a by omega⟩ hn 10 10 gr gt) gr (T := TX7) rfl (lw_V q627 q629 qs6 q103 q630) cd_X7_isAt rfl (Nat.le_of_ble_eq_true rfl) (Nat.le_of_ble_eq_true rfl) (Nat.le_of_ble_eq_true rfl) (Nat.le_of_ble_eq_true rfl) (Nat.le_of_ble_eq_true rfl) dX7_next_16 rfl (fun v20239 h20238 p20240 => ?_)
      obtain ⟨rfl, e20241⟩ := p20240
      have e20241 := e20241.symm
      subst e20241
      rw [if_neg h2]
      refine ga_if_eq 35 22 C.c dX7_next_19 (by decide) rfl (fun c20242 => ?_) (fun c20242 => absurd rfl c20242)
      have hBa : B = a := hB2.symm
      subst hBa
      exact rest hx gr gt kx
    | succ k ih =>
      intro a hx ha hsa hB2 gr gt kx
      refine ga_aload_n 1 C.c 0 rfl rfl dX7_next_0 rfl ?_
      refine ga_bipush 3 C.c (v := 32) (by decide) dX7_next_1 rfl ?_
      refine ga_bipush 5 C.c (v := 32) (by decide) dX7_next_3 rfl ?_
      refine hh_callV 8 C (as := [.int 32, .int 32]) (met_X7_isAt (eL E) D kk dE A _ rd tp rv n T (a, s.2.1, s.2.2.1, s.2.2.2) ⟨show a ≤ n by omega, show s.2.1 ≤ a by omega⟩ hn 32 32 gr gt) gr (T := TX7) rfl (lw_V q627 q629 qs6 q103 q630) cd_X7_isAt rfl (Nat.le_of_ble_eq_true rfl) (Nat.le_of_ble_eq_true rfl) (Nat.le_of_ble_eq_true rfl) (Nat.le_of_ble_eq_true rfl) (Nat.le_of_ble_eq_true rfl) dX7_next_5 rfl (fun v20244 h20243 p20245 => ?_)
      obtain ⟨rfl, e20246⟩ := p20245
      have e20246 := e20246.symm
      subst e20246
      by_cases c20247 : isB T n a 32 32 = true
      · rw [if_pos c20247]
        refine ga_if_ne 22 11 C.c dX7_next_8 (by decide) rfl (fun c20248 => ?_) (fun c20248 => absurd c20248 (by decide))
        refine ga_aload_n 23 C.c 0 rfl rfl dX7_next_22 rfl ?_
        refine ga_dup 24 C.c rfl dX7_next_23 rfl ?_
        refine ga_get1 27 3 C.c C.ts (own := RX7) (ref := "QuotedRiver$Reader") C.ow C.k (hw_one gr) in_X7 rfl (by decide) q639 (fun _ h9 => h9) rfl dX7_next_24 rfl ?_
        refine ga_iconst 28 C.c (v := 1) (by decide) dX7_next_27 rfl ?_
        refine ga_iadd 29 C.c dX7_next_28 rfl ?_
        refine hh_put 32 3 C (ref := "QuotedRiver$Reader") (fs2 := [.ref tp, .int (nI n), .ref rv, .int ((nI a) + 1), .int (nI s.2.1), .int s.2.2.1, .int s.2.2.2]) tyX7_ok nmX7 in_X7 gr rfl (by decide) q639 (fun _ h9 => h9) rfl (tyX7_ok 3 (by decide)) rfl rfl (Nat.le_of_ble_eq_true rfl) rfl dX7_next_29 rfl (fun h20249 e20250 => ?_)
        have k20251 := hu_fr e20250
        have g20252 := hu_at e20250
        clear e20250
        have g20253 := k20251 _ _ (nm1 (Ne.symm ne20084)) gt
        refine ga_goto 0 C.c dX7_next_32 (by decide) ?_
        rw [nI_1] at g20252
        have kF20254 : hfr h h20249 [rd] := by
          intro b e nb hb
          have b20255 := kx b e (nm1 (nx nb (by simp))) hb
          have b20256 := k20251 b e (nm1 (nx nb (by simp))) b20255
          exact b20256
        exact ih (a + 1) _ (by omega) (by omega) (by rw [← hB2]; exact (show tkS T n (k + 1) a = tkS T n k (a + 1) by rw [tkS, if_pos (show isS T n a = true by unfold isS; rw [c20247]; rfl)]).symm) g20252 g20253 kF20254
      · rw [if_neg c20247]
        refine ga_if_ne 22 11 C.c dX7_next_8 (by decide) rfl (fun c20257 => absurd rfl c20257) (fun c20257 => ?_)
        refine ga_aload_n 12 C.c 0 rfl rfl dX7_next_11 rfl ?_
        refine ga_bipush 14 C.c (v := 10) (by decide) dX7_next_12 rfl ?_
        refine ga_bipush 16 C.c (v := 10) (by decide) dX7_next_14 rfl ?_
        refine hh_callV 19 C (as := [.int 10, .int 10]) (met_X7_isAt (eL E) D kk dE A _ rd tp rv n T (a, s.2.1, s.2.2.1, s.2.2.2) ⟨show a ≤ n by omega, show s.2.1 ≤ a by omega⟩ hn 10 10 gr gt) gr (T := TX7) rfl (lw_V q627 q629 qs6 q103 q630) cd_X7_isAt rfl (Nat.le_of_ble_eq_true rfl) (Nat.le_of_ble_eq_true rfl) (Nat.le_of_ble_eq_true rfl) (Nat.le_of_ble_eq_true rfl) (Nat.le_of_ble_eq_true rfl) dX7_next_16 rfl (fun v20259 h20258 p20260 => ?_)
        obtain ⟨rfl, e20261⟩ := p20260
        have e20261 := e20261.symm
        subst e20261
        by_cases c20262 : isB T n a 10 10 = true
        · rw [if_pos c20262]
          refine ga_if_eq 35 22 C.c dX7_next_19 (by decide) rfl (fun c20263 => absurd c20263 (by decide)) (fun c20263 => ?_)
          refine ga_aload_n 23 C.c 0 rfl rfl dX7_next_22 rfl ?_
          refine ga_dup 24 C.c rfl dX7_next_23 rfl ?_
          refine ga_get1 27 3 C.c C.ts (own := RX7) (ref := "QuotedRiver$Reader") C.ow C.k (hw_one gr) in_X7 rfl (by decide) q639 (fun _ h9 => h9) rfl dX7_next_24 rfl ?_
          refine ga_iconst 28 C.c (v := 1) (by decide) dX7_next_27 rfl ?_
          refine ga_iadd 29 C.c dX7_next_28 rfl ?_
          refine hh_put 32 3 C (ref := "QuotedRiver$Reader") (fs2 := [.ref tp, .int (nI n), .ref rv, .int ((nI a) + 1), .int (nI s.2.1), .int s.2.2.1, .int s.2.2.2]) tyX7_ok nmX7 in_X7 gr rfl (by decide) q639 (fun _ h9 => h9) rfl (tyX7_ok 3 (by decide)) rfl rfl (Nat.le_of_ble_eq_true rfl) rfl dX7_next_29 rfl (fun h20264 e20265 => ?_)
          have k20266 := hu_fr e20265
          have g20267 := hu_at e20265
          clear e20265
          have g20268 := k20266 _ _ (nm1 (Ne.symm ne20084)) gt
          refine ga_goto 0 C.c dX7_next_32 (by decide) ?_
          rw [nI_1] at g20267
          have kF20269 : hfr h h20264 [rd] := by
            intro b e nb hb
            have b20270 := kx b e (nm1 (nx nb (by simp))) hb
            have b20271 := k20266 b e (nm1 (nx nb (by simp))) b20270
            exact b20271
          exact ih (a + 1) _ (by omega) (by omega) (by rw [← hB2]; exact (show tkS T n (k + 1) a = tkS T n k (a + 1) by rw [tkS, if_pos (show isS T n a = true by unfold isS; rw [c20262, Bool.or_true])]).symm) g20267 g20268 kF20269
        · rw [if_neg c20262]
          refine ga_if_eq 35 22 C.c dX7_next_19 (by decide) rfl (fun c20272 => ?_) (fun c20272 => absurd rfl c20272)
          have hBa : B = a := (by rw [← hB2, tkS, if_neg (fun q => by unfold isS at q; rw [Bool.or_eq_true] at q; exact q.elim c20247 c20262)])
          subst hBa
          exact rest hx gr gt kx
  exact ga_W.sub (loop (n - s.1) s.1 h (by omega) (Nat.le_refl _) eB.symm g_rd g_tp hfr.rf) (And.intro rfl trivial)
