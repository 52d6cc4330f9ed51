set_option maxRecDepth 100000
theorem cd_X7_told : yX7_told.cls = RX7 ∧ yX7_told.cls ≠ "java/lang/invoke/MethodHandle" ∧ yX7_told.cls ≠ "java/lang/invoke/VarHandle" ∧ (parseMethodDescriptor yX7_told.desc).map (fun d => d.parameters.length) = some 0 := by decide +kernel
set_option maxHeartbeats 4000000 in
theorem met_X7_told (l : Launch) (D : va_G) (kk : Nat → Nat) (dE : Nat → Nat) (A : Nat → Prop) (h : hG) (rd tp rv n : Nat) (T : Nat → Int32) (s : sT) (hs : s.1 ≤ n ∧ s.2.1 ≤ s.1) (hn : n ≤ 700) (l0 l1 l2 l3 : Nat) (lv od sw li : Int32) (d0 d1 d2 n0 n1 n2 : Nat) (f0 f1 f2 : Nat → Option Nat) (m0 m1 m2 : Int32) (hn0 : n0 ≤ 10) (hn1 : n1 ≤ 5) (hn2 : n2 ≤ 5) (ntd0 : tp ≠ d0) (ntd1 : tp ≠ d1) (ntd2 : tp ≠ d2) (p01 : l0 ≠ l1) (p02 : l0 ≠ l2) (p12 : l1 ≠ l2) (r01 : d0 ≠ d1) (r02 : d0 ≠ d2) (r12 : d1 ≠ d2) (g_rd : h rd = some (.inr (7, [.ref tp, .int (nI n), .ref rv, .int (nI s.1), .int (nI s.2.1), .int s.2.2.1, .int s.2.2.2]))) (g_tp : h tp = some (.inl (kk 2, 700, .inl T))) (g_rv : h rv = some (.inr (3, [.ref l0, .ref l1, .ref l2, .ref l3, .int lv, .int od, .int sw, .int li]))) (g_l0 : h l0 = some (.inr (13, [.int m0, .ref d0, .int (nI n0)]))) (g_l1 : h l1 = some (.inr (13, [.int m1, .ref d1, .int (nI n1)]))) (g_l2 : h l2 = some (.inr (13, [.int m2, .ref d2, .int (nI n2)]))) (g_d0 : h d0 = some (.inl (kk 5, 10, .inr (.inr (.inr (.inr f0)))))) (g_d1 : h d1 = some (.inl (kk 5, 5, .inr (.inr (.inr (.inr f1)))))) (g_d2 : h d2 = some (.inl (kk 5, 5, .inr (.inr (.inr (.inr f2)))))) : vx_Met l yX7_told (ws_ yX7_told cX7_told 2 none) ({ frames := 11, cells := 18, slots := 120, locals := 480 } : Room) (hw_Pc D kk dE A h [.ref rd]) (hw_Qc D A (fun v h2 => v = none ∧ ∃ (i : Nat) (t : sQ) (x : Nat) (s2 : sT), sp_told T n s (nI n0) (nI n1) (nI n2) = .inr (i, t, s2) ∧ i < 3 ∧ (s2.1 ≤ n ∧ s2.2.1 ≤ s2.1) ∧ h x = none ∧ h2 x = some (elc i t) ∧ h2 rd = some (rdc tp n rv s2) ∧ h2 (f4 l0 l1 l2 l0 i) = some (.inr (13, [.int (f4 m0 m1 m2 m0 i + 1), .ref (f4 d0 d1 d2 d0 i), .int (nI (f4 n0 n1 n2 n0 i + 1))])) ∧ h2 (f4 d0 d1 d2 d0 i) = some (.inl (kk 5, f4 10 5 5 0 i, .inr (.inr (.inr (.inr (va_up (f4 f0 f1 f2 f0 i) (f4 n0 n1 n2 n0 i) (some x))))))) ∧ f4 n0 n1 n2 n0 i < f4 10 5 5 0 i ∧ hfr h h2 [rd, f4 l0 l1 l2 l0 i, f4 d0 d1 d2 d0 i])) (hx_X D A (fun q h2 => ∃ f, sp_told T n s (nI n0) (nI n1) (nI n2) = .inl f ∧ FT h2 q f ∧ hfr h h2 [rd, l0, d0, l1, d1, l2, d2])) (18) (120) A := by
  refine hx_of (RX := RX7) (lo := [some (.ref rd), none]) (by decide) rfl (Nat.le_of_ble_eq_true rfl) rfl (fun E C hnx hr hlk hq => ?_)
  have ne28001 : rd ≠ tp := hne g_rd g_tp (by simp)
  have ne28002 : rd ≠ rv := hne g_rd g_rv (by simp)
  have ne28003 : rd ≠ l0 := hne g_rd g_l0 (by simp)
  have ne28004 : rd ≠ l1 := hne g_rd g_l1 (by simp)
  have ne28005 : rd ≠ l2 := hne g_rd g_l2 (by simp)
  have ne28006 : rd ≠ d0 := hne g_rd g_d0 (by simp)
  have ne28007 : rd ≠ d1 := hne g_rd g_d1 (by simp)
  have ne28008 : rd ≠ d2 := hne g_rd g_d2 (by simp)
  have ne28009 : tp ≠ rv := hne g_tp g_rv (by simp)
  have ne28010 : tp ≠ l0 := hne g_tp g_l0 (by simp)
  have ne28011 : tp ≠ l1 := hne g_tp g_l1 (by simp)
  have ne28012 : tp ≠ l2 := hne g_tp g_l2 (by simp)
  have ne28013 : rv ≠ l0 := hne g_rv g_l0 (by simp)
  have ne28014 : rv ≠ l1 := hne g_rv g_l1 (by simp)
  have ne28015 : rv ≠ l2 := hne g_rv g_l2 (by simp)
  have ne28016 : rv ≠ d0 := hne g_rv g_d0 (by simp)
  have ne28017 : rv ≠ d1 := hne g_rv g_d1 (by simp)
  have ne28018 : rv ≠ d2 := hne g_rv g_d2 (by simp)
  have ne28019 : l0 ≠ d0 := hne g_l0 g_d0 (by simp)
  have ne28020 : l0 ≠ d1 := hne g_l0 g_d1 (by simp)
  have ne28021 : l0 ≠ d2 := hne g_l0 g_d2 (by simp)
  have ne28022 : l1 ≠ d0 := hne g_l1 g_d0 (by simp)
  have ne28023 : l1 ≠ d1 := hne g_l1 g_d1 (by simp)
  have ne28024 : l1 ≠ d2 := hne g_l1 g_d2 (by simp)
  have ne28025 : l2 ≠ d0 := hne g_l2 g_d0 (by simp)
  have ne28026 : l2 ≠ d1 := hne g_l2 g_d1 (by simp)
  have ne28027 : l2 ≠ d2 := hne g_l2 g_d2 (by simp)
  refine ga_aload_n 1 C.c 0 rfl rfl dX7_told_0 rfl ?_
  refine hh_ldcS 3 C (tx := "reach") (i := 4) (by decide +kernel) dX7_told_1 rfl ?_
  refine ga_aload_n 4 C.c 0 rfl rfl dX7_told_3 rfl ?_
  refine ga_get1 7 2 C.c C.ts (own := RX7) (ref := "QuotedRiver$Reader") C.ow C.k (hw_one g_rd) in_X7 rfl (by decide) q638 (fun _ h9 => h9) rfl dX7_told_4 rfl ?_
  refine ga_get1N 10 0 C.c C.ts (own := RX7) (ref := "QuotedRiver$Rivers") C.ow C.k (hw_one g_rv) in_X2 rfl (by decide) (C.n.use q389 rfl) (fun _ h9 => h9) rfl dX7_told_7 rfl ?_
  refine ga_bipush 12 C.c (v := 10) (by decide) dX7_told_10 rfl ?_
  refine hx_callV 15 C hnx hlk hq (as := [.ref ((tgE dE).1 4), .ref l0, .int 10]) (met_X7_line (eL E) D kk dE A _ rd tp rv n T s hs hn 4 (by decide) l0 d0 m0 (nI n0) 10 g_rd g_tp g_l0) (fun q hq9 hp9 => by obtain ⟨f, e1, e2, e3⟩ := hp9; exact ⟨f, by unfold sp_told; exact sp_b_l e1, e2, e3.tr hfr.rf (fun x hx => (by simp at hx ⊢; omega)) (fun x hx => Or.inl hx)⟩) g_rd (T := TX7) rfl (lw_V q778 q780 qs15 q103 q781) cd_X7_line rfl (Nat.le_of_ble_eq_true rfl) (Nat.le_of_ble_eq_true rfl) (Nat.le_of_ble_eq_true rfl) (Nat.le_of_ble_eq_true rfl) (Nat.le_of_ble_eq_true rfl) dX7_told_12 rfl (fun v28029 h28028 p28030 => ?_)
  obtain ⟨xa, sa, ea, rfl, hsa, ga, ka⟩ := p28030
  have g28031 := ka _ _ (nm1 (Ne.symm ne28001)) g_tp
  have g28032 := ka _ _ (nm1 (Ne.symm ne28002)) g_rv
  have g28033 := ka _ _ (nm1 (Ne.symm ne28003)) g_l0
  have g28034 := ka _ _ (nm1 (Ne.symm ne28004)) g_l1
  have g28035 := ka _ _ (nm1 (Ne.symm ne28005)) g_l2
  have g28036 := ka _ _ (nm1 (Ne.symm ne28006)) g_d0
  have g28037 := ka _ _ (nm1 (Ne.symm ne28007)) g_d1
  have g28038 := ka _ _ (nm1 (Ne.symm ne28008)) g_d2
  refine ga_if_eq 25 18 C.c dX7_told_15 (by decide) rfl (fun c28039 => ?_) (fun c28039 => ?_)
  · refine ga_aload_n 26 C.c 0 rfl rfl dX7_told_25 rfl ?_
    refine hh_ldcS 28 C (tx := "join") (i := 5) (by decide +kernel) dX7_told_26 rfl ?_
    refine ga_aload_n 29 C.c 0 rfl rfl dX7_told_28 rfl ?_
    refine ga_get1 32 2 C.c C.ts (own := RX7) (ref := "QuotedRiver$Reader") C.ow C.k (hw_one ga) in_X7 rfl (by decide) q638 (fun _ h9 => h9) rfl dX7_told_29 rfl ?_
    refine ga_get1N 35 1 C.c C.ts (own := RX7) (ref := "QuotedRiver$Rivers") C.ow C.k (hw_one g28032) in_X2 rfl (by decide) (C.n.use q393 rfl) (fun _ h9 => h9) rfl dX7_told_32 rfl ?_
    refine ga_iconst 36 C.c (v := 5) (by decide) dX7_told_35 rfl ?_
    have kF28040 : hfr h h28028 [rd, l0, d0, l1, d1, l2, d2] := by
      intro b e nb hb
      have b28041 := ka b e (nm1 (nx nb (by simp))) hb
      exact b28041
    refine hx_callV 39 C hnx hlk hq (as := [.ref ((tgE dE).1 5), .ref l1, .int 5]) (met_X7_line (eL E) D kk dE A _ rd tp rv n T sa hsa hn 5 (by decide) l1 d1 m1 (nI n1) 5 ga g28031 g28034) (fun q hq9 hp9 => by obtain ⟨f, e1, e2, e3⟩ := hp9; exact ⟨f, by unfold sp_told; rw [sp_b_r ea, if_neg (fun q => q c28039)]; exact sp_b_l e1, e2, kF28040.tr e3 (fun x hx => hx) (fun x hx => Or.inl (by simp at hx ⊢; omega))⟩) ga (T := TX7) rfl (lw_V q778 q780 qs15 q103 q781) cd_X7_line rfl (Nat.le_of_ble_eq_true rfl) (Nat.le_of_ble_eq_true rfl) (Nat.le_of_ble_eq_true rfl) (Nat.le_of_ble_eq_true rfl) (Nat.le_of_ble_eq_true rfl) dX7_told_36 rfl (fun v28043 h28042 p28044 => ?_)
    obtain ⟨xb, sb, eb, rfl, hsb, gb, kb⟩ := p28044
    have g28045 := kb _ _ (nm1 (Ne.symm ne28001)) g28031
    have g28046 := kb _ _ (nm1 (Ne.symm ne28002)) g28032
    have g28047 := kb _ _ (nm1 (Ne.symm ne28003)) g28033
    have g28048 := kb _ _ (nm1 (Ne.symm ne28004)) g28034
    have g28049 := kb _ _ (nm1 (Ne.symm ne28005)) g28035
    have g28050 := kb _ _ (nm1 (Ne.symm ne28006)) g28036
    have g28051 := kb _ _ (nm1 (Ne.symm ne28007)) g28037
    have g28052 := kb _ _ (nm1 (Ne.symm ne28008)) g28038
    refine ga_if_eq 49 42 C.c dX7_told_39 (by decide) rfl (fun c28053 => ?_) (fun c28053 => ?_)
    · refine ga_aload_n 50 C.c 0 rfl rfl dX7_told_49 rfl ?_
      refine hh_ldcS 52 C (tx := "rain") (i := 6) (by decide +kernel) dX7_told_50 rfl ?_
      refine ga_aload_n 53 C.c 0 rfl rfl dX7_told_52 rfl ?_
      refine ga_get1 56 2 C.c C.ts (own := RX7) (ref := "QuotedRiver$Reader") C.ow C.k (hw_one gb) in_X7 rfl (by decide) q638 (fun _ h9 => h9) rfl dX7_told_53 rfl ?_
      refine ga_get1N 59 2 C.c C.ts (own := RX7) (ref := "QuotedRiver$Rivers") C.ow C.k (hw_one g28046) in_X2 rfl (by decide) (C.n.use q397 rfl) (fun _ h9 => h9) rfl dX7_told_56 rfl ?_
      refine ga_iconst 60 C.c (v := 5) (by decide) dX7_told_59 rfl ?_
      have kF28054 : hfr h h28042 [rd, l0, d0, l1, d1, l2, d2] := by
        intro b e nb hb
        have b28055 := ka b e (nm1 (nx nb (by simp))) hb
        have b28056 := kb b e (nm1 (nx nb (by simp))) b28055
        exact b28056
      refine hx_callV 63 C hnx hlk hq (as := [.ref ((tgE dE).1 6), .ref l2, .int 5]) (met_X7_line (eL E) D kk dE A _ rd tp rv n T sb hsb hn 6 (by decide) l2 d2 m2 (nI n2) 5 gb g28045 g28049) (fun q hq9 hp9 => by obtain ⟨f, e1, e2, e3⟩ := hp9; exact ⟨f, by unfold sp_told; rw [sp_b_r ea, if_neg (fun q => q c28039), sp_b_r eb, if_neg (fun q => q c28053)]; exact sp_b_l e1, e2, kF28054.tr e3 (fun x hx => hx) (fun x hx => Or.inl (by simp at hx ⊢; omega))⟩) gb (T := TX7) rfl (lw_V q778 q780 qs15 q103 q781) cd_X7_line rfl (Nat.le_of_ble_eq_true rfl) (Nat.le_of_ble_eq_true rfl) (Nat.le_of_ble_eq_true rfl) (Nat.le_of_ble_eq_true rfl) (Nat.le_of_ble_eq_true rfl) dX7_told_60 rfl (fun v28058 h28057 p28059 => ?_)
      obtain ⟨xc, sc, ec, rfl, hsc, gc, kc⟩ := p28059
      have g28060 := kc _ _ (nm1 (Ne.symm ne28001)) g28045
      have g28061 := kc _ _ (nm1 (Ne.symm ne28002)) g28046
      have g28062 := kc _ _ (nm1 (Ne.symm ne28003)) g28047
      have g28063 := kc _ _ (nm1 (Ne.symm ne28004)) g28048
      have g28064 := kc _ _ (nm1 (Ne.symm ne28005)) g28049
      have g28065 := kc _ _ (nm1 (Ne.symm ne28006)) g28050
      have g28066 := kc _ _ (nm1 (Ne.symm ne28007)) g28051
      have g28067 := kc _ _ (nm1 (Ne.symm ne28008)) g28052
      refine ga_if_ne 72 66 C.c dX7_told_63 (by decide) rfl (fun c28068 => ?_) (fun c28068 => ?_)
      · have hlt2 : n2 < 5 := sp_line_lt (b := 5) ec c28068 hn2
        refine ga_aload_n 73 C.c 0 rfl rfl dX7_told_72 rfl ?_
        refine ga_iconst 74 C.c (v := 1) (by decide) dX7_told_73 rfl ?_
        refine ga_bipush 76 C.c (v := 30) (by decide) dX7_told_74 rfl ?_
        have kF28069 : hfr h h28057 [rd, l0, d0, l1, d1, l2, d2] := by
          intro b e nb hb
          have b28070 := ka b e (nm1 (nx nb (by simp))) hb
          have b28071 := kb b e (nm1 (nx nb (by simp))) b28070
          have b28072 := kc b e (nm1 (nx nb (by simp))) b28071
          exact b28072
        refine hx_callV 79 C hnx hlk hq (as := [.int 1, .int 30]) (met_X7_number_2 (eL E) D kk dE A _ rd tp rv n T sc hsc hn 1 30 gc g28060) (fun q hq9 hp9 => by obtain ⟨f, e1, e2, e3⟩ := hp9; exact ⟨f, by unfold sp_told; rw [sp_b_r ea, if_neg (fun q => q c28039), sp_b_r eb, if_neg (fun q => q c28053), sp_b_r ec, if_neg c28068]; refine sp_b_l ?_; unfold sp_rain; exact sp_b_l e1, e2, kF28069.tr e3 (fun x hx => hx) (fun x hx => Or.inl (by simp at hx ⊢; omega))⟩) gc (T := TX7) rfl (lw_V q767 q769 qs13 q103 q770) cd_X7_number_2 rfl (Nat.le_of_ble_eq_true rfl) (Nat.le_of_ble_eq_true rfl) (Nat.le_of_ble_eq_true rfl) (Nat.le_of_ble_eq_true rfl) (Nat.le_of_ble_eq_true rfl) dX7_told_76 rfl (fun v28074 h28073 p28075 => ?_)
        obtain ⟨xd, sd, ed, rfl, hsd, gd9, kd9⟩ := p28075
        have g28076 := kd9 _ _ (nm1 (Ne.symm ne28001)) g28060
        have g28077 := kd9 _ _ (nm1 (Ne.symm ne28002)) g28061
        have g28078 := kd9 _ _ (nm1 (Ne.symm ne28003)) g28062
        have g28079 := kd9 _ _ (nm1 (Ne.symm ne28004)) g28063
        have g28080 := kd9 _ _ (nm1 (Ne.symm ne28005)) g28064
        have g28081 := kd9 _ _ (nm1 (Ne.symm ne28006)) g28065
        have g28082 := kd9 _ _ (nm1 (Ne.symm ne28007)) g28066
        have g28083 := kd9 _ _ (nm1 (Ne.symm ne28008)) g28067
        refine ga_istore_n 80 C.c 1 rfl (Nat.le_of_ble_eq_true rfl) rfl dX7_told_79 rfl ?_
        refine ga_aload_n 81 C.c 0 rfl rfl dX7_told_80 rfl ?_
        refine ga_get1 84 2 C.c C.ts (own := RX7) (ref := "QuotedRiver$Reader") C.ow C.k (hw_one gd9) in_X7 rfl (by decide) q638 (fun _ h9 => h9) rfl dX7_told_81 rfl ?_
        refine ga_get1N 87 2 C.c C.ts (own := RX7) (ref := "QuotedRiver$Rivers") C.ow C.k (hw_one g28077) in_X2 rfl (by decide) (C.n.use q397 rfl) (fun _ h9 => h9) rfl dX7_told_84 rfl ?_
        refine hh_new 90 C (ci := 11) (fs := [.int 0, .int 0]) tyX11 tyX11_ok in_X11 q929 q930 q118 rfl (fun j hj => by rcases (show j = 0 ∨ j = 1 by omega) with rfl | rfl <;> rfl) (Nat.le_of_ble_eq_true rfl) (Nat.le_of_ble_eq_true rfl) dX7_told_87 rfl (fun o28084 h28085 n28087 a28088 e28086 => ?_)
        have k28089 := hu_fr0 e28086 n28087
        have g28090 := hu_at e28086
        clear e28086
        have ne28091 : rd ≠ o28084 := hn_ne gd9 n28087
        have ne28092 : tp ≠ o28084 := hn_ne g28076 n28087
        have ne28093 : rv ≠ o28084 := hn_ne g28077 n28087
        have ne28094 : l0 ≠ o28084 := hn_ne g28078 n28087
        have ne28095 : l1 ≠ o28084 := hn_ne g28079 n28087
        have ne28096 : l2 ≠ o28084 := hn_ne g28080 n28087
        have ne28097 : d0 ≠ o28084 := hn_ne g28081 n28087
        have ne28098 : d1 ≠ o28084 := hn_ne g28082 n28087
        have ne28099 : d2 ≠ o28084 := hn_ne g28083 n28087
        have g28100 := k28089 _ _ List.not_mem_nil gd9
        have g28101 := k28089 _ _ List.not_mem_nil g28076
        have g28102 := k28089 _ _ List.not_mem_nil g28077
        have g28103 := k28089 _ _ List.not_mem_nil g28078
        have g28104 := k28089 _ _ List.not_mem_nil g28079
        have g28105 := k28089 _ _ List.not_mem_nil g28080
        have g28106 := k28089 _ _ List.not_mem_nil g28081
        have g28107 := k28089 _ _ List.not_mem_nil g28082
        have g28108 := k28089 _ _ List.not_mem_nil g28083
        refine ga_dup 91 C.c rfl dX7_told_90 rfl ?_
        refine ga_iload_n 92 C.c 1 rfl rfl dX7_told_91 rfl ?_
        refine ga_aload_n 93 C.c 0 rfl rfl dX7_told_92 rfl ?_
        refine hh_ldcS 95 C (tx := "at") (i := 12) (by decide +kernel) dX7_told_93 rfl ?_
        refine ga_iconst 96 C.c (v := 0) (by decide) dX7_told_95 rfl ?_
        refine ga_bipush 98 C.c (v := 60) (by decide) dX7_told_96 rfl ?_
        have kF28109 : hfr h h28085 [rd, l0, d0, l1, d1, l2, d2] := by
          intro b e nb hb
          have b28110 := ka b e (nm1 (nx nb (by simp))) hb
          have b28111 := kb b e (nm1 (nx nb (by simp))) b28110
          have b28112 := kc b e (nm1 (nx nb (by simp))) b28111
          have b28113 := kd9 b e (nm1 (nx nb (by simp))) b28112
          have m_o28084 : b ≠ o28084 := hn_ne b28113 n28087
          have b28114 := k28089 b e List.not_mem_nil b28113
          exact b28114
        refine hx_callV 101 C hnx hlk hq (as := [.ref ((tgE dE).1 12), .int 0, .int 60]) (met_X7_number (eL E) D kk dE A _ rd tp rv n T sd hsd hn 12 (by decide) 0 60 g28100 g28101) (fun q hq9 hp9 => by obtain ⟨f, e1, e2, e3⟩ := hp9; exact ⟨f, by unfold sp_told; rw [sp_b_r ea, if_neg (fun q => q c28039), sp_b_r eb, if_neg (fun q => q c28053), sp_b_r ec, if_neg c28068]; refine sp_b_l ?_; unfold sp_rain; rw [sp_b_r ed]; exact sp_b_l e1, e2, kF28109.tr e3 (fun x hx => hx) (fun x hx => Or.inl (by simp at hx ⊢; omega))⟩) g28100 (T := TX7) rfl (lw_V q763 q765 qs12 q103 q766) cd_X7_number rfl (Nat.le_of_ble_eq_true rfl) (Nat.le_of_ble_eq_true rfl) (Nat.le_of_ble_eq_true rfl) (Nat.le_of_ble_eq_true rfl) (Nat.le_of_ble_eq_true rfl) dX7_told_98 rfl (fun v28116 h28115 p28117 => ?_)
        obtain ⟨xf, s2, ef, rfl, hs2, g2, k2⟩ := p28117
        have g28118 := k2 _ _ (nm1 (Ne.symm ne28001)) g28101
        have g28119 := k2 _ _ (nm1 (Ne.symm ne28002)) g28102
        have g28120 := k2 _ _ (nm1 (Ne.symm ne28003)) g28103
        have g28121 := k2 _ _ (nm1 (Ne.symm ne28004)) g28104
        have g28122 := k2 _ _ (nm1 (Ne.symm ne28005)) g28105
        have g28123 := k2 _ _ (nm1 (Ne.symm ne28006)) g28106
        have g28124 := k2 _ _ (nm1 (Ne.symm ne28007)) g28107
        have g28125 := k2 _ _ (nm1 (Ne.symm ne28008)) g28108
        have g28126 := k2 _ _ (nm1 (Ne.symm ne28091)) g28090
        refine hh_callI 104 C (as := [.int xd, .int xf]) (met_X11_init (eL E) D kk dE A _ o28084 xd xf g28126) q931 q932 q118 q933 rfl cd_X11_init rfl (Nat.le_of_ble_eq_true rfl) (Nat.le_of_ble_eq_true rfl) (Nat.le_of_ble_eq_true rfl) (Nat.le_of_ble_eq_true rfl) (Nat.le_of_ble_eq_true rfl) dX7_told_101 rfl (fun v28128 h28127 p28129 => ?_)
        obtain ⟨rfl, gx, kx⟩ := p28129
        have g28130 := kx _ _ (nm1 ne28091) g2
        have g28131 := kx _ _ (nm1 ne28092) g28118
        have g28132 := kx _ _ (nm1 ne28093) g28119
        have g28133 := kx _ _ (nm1 ne28094) g28120
        have g28134 := kx _ _ (nm1 ne28095) g28121
        have g28135 := kx _ _ (nm1 ne28096) g28122
        have g28136 := kx _ _ (nm1 ne28097) g28123
        have g28137 := kx _ _ (nm1 ne28098) g28124
        have g28138 := kx _ _ (nm1 ne28099) g28125
        refine hh_callF 109 C (as := [.ref o28084]) (met_J2_add_r (eL E) D kk dE A _ l2 d2 5 n2 o28084 f2 m2 hlt2 (by decide) ⟨11, _, gx, by omega, by omega⟩ (nm1 (Ne.symm ne28096)) g28135 g28138) g28135 (T := TJ2) rfl (C.f _ (List.mem_of_getElem? (i := 0) rfl)) (lw_F q826 q829 q831 q98 q833) cdL_add rfl (Nat.le_of_ble_eq_true rfl) (Nat.le_of_ble_eq_true rfl) (Nat.le_of_ble_eq_true rfl) (Nat.le_of_ble_eq_true rfl) (Nat.le_of_ble_eq_true rfl) dX7_told_104 rfl (fun v28140 h28139 p28141 => ?_)
        obtain ⟨rfl, gl, gd, ka9⟩ := p28141
        have g28142 := ka9 _ _ (nm2 ne28005 ne28008) g28130
        have g28143 := ka9 _ _ (nm2 ne28012 ntd2) g28131
        have g28144 := ka9 _ _ (nm2 ne28015 ne28018) g28132
        have g28145 := ka9 _ _ (nm2 p02 ne28021) g28133
        have g28146 := ka9 _ _ (nm2 p12 ne28024) g28134
        have g28147 := ka9 _ _ (nm2 (Ne.symm ne28025) r02) g28136
        have g28148 := ka9 _ _ (nm2 (Ne.symm ne28026) r12) g28137
        have g28149 := ka9 _ _ (nm2 (Ne.symm ne28096) (Ne.symm ne28099)) gx
        refine ga_pop 110 C.c rfl dX7_told_109 rfl ?_
        have nd28150 : h o28084 = none := by
          cases c9 : h o28084 with
          | none => rfl
          | some e9 =>
            have b28151 := ka o28084 e9 (nm1 (Ne.symm ne28091)) c9
            have b28152 := kb o28084 e9 (nm1 (Ne.symm ne28091)) b28151
            have b28153 := kc o28084 e9 (nm1 (Ne.symm ne28091)) b28152
            have b28154 := kd9 o28084 e9 (nm1 (Ne.symm ne28091)) b28153
            rw [n28087] at b28154
            cases b28154
        have kF28155 : hfr h h28139 [rd, l2, d2] := by
          intro b e nb hb
          have b28156 := ka b e (nm1 (nx nb (by simp))) hb
          have b28157 := kb b e (nm1 (nx nb (by simp))) b28156
          have b28158 := kc b e (nm1 (nx nb (by simp))) b28157
          have b28159 := kd9 b e (nm1 (nx nb (by simp))) b28158
          have m_o28084 : b ≠ o28084 := hn_ne b28159 n28087
          have b28160 := k28089 b e List.not_mem_nil b28159
          have b28161 := k2 b e (nm1 (nx nb (by simp))) b28160
          have b28162 := kx b e (nm1 m_o28084) b28161
          have b28163 := ka9 b e (nm2 (nx nb (by simp)) (nx nb (by simp))) b28162
          exact b28163
        exact hx_vret C hr hlk hq (Nat.le_of_ble_eq_true rfl) (Nat.le_of_ble_eq_true rfl) ⟨rfl, 2, (xd, xf, 0, 0), o28084, s2, by unfold sp_told; rw [sp_b_r ea, if_neg (fun q => q c28039), sp_b_r eb, if_neg (fun q => q c28053), sp_b_r ec, if_neg c28068, sp_b_r (show sp_rain T n sc = .inr (xd, xf, s2) from by unfold sp_rain; rw [sp_b_r ed, sp_b_r ef] <;> rfl)] <;> rfl, by decide, hs2, nd28150, g28149, g28142, gl, gd, hlt2, kF28155⟩ dX7_told_110
      · refine ga_aload_n 67 C.c 0 rfl rfl dX7_told_66 rfl ?_
        refine ga_iconst 68 C.c (v := 1) (by decide) dX7_told_67 rfl ?_
        refine hh_callV 71 C (as := [.int 1]) (met_X7_fault (eL E) D kk dE A _ rd tp rv n T sc hsc hn 1 gc g28060) gc (T := TX7) rfl (lw_V q727 q729 qs11 q103 q730) cd_X7_fault rfl (Nat.le_of_ble_eq_true rfl) (Nat.le_of_ble_eq_true rfl) (Nat.le_of_ble_eq_true rfl) (Nat.le_of_ble_eq_true rfl) (Nat.le_of_ble_eq_true rfl) dX7_told_68 rfl (fun v28165 h28164 p28166 => ?_)
        obtain ⟨fq, nq, rfl, gf, kf⟩ := p28166
        have ne28167 : rd ≠ fq := hn_ne gc nq
        have ne28168 : tp ≠ fq := hn_ne g28060 nq
        have ne28169 : rv ≠ fq := hn_ne g28061 nq
        have ne28170 : l0 ≠ fq := hn_ne g28062 nq
        have ne28171 : l1 ≠ fq := hn_ne g28063 nq
        have ne28172 : l2 ≠ fq := hn_ne g28064 nq
        have ne28173 : d0 ≠ fq := hn_ne g28065 nq
        have ne28174 : d1 ≠ fq := hn_ne g28066 nq
        have ne28175 : d2 ≠ fq := hn_ne g28067 nq
        have g28176 := kf _ _ List.not_mem_nil gc
        have g28177 := kf _ _ List.not_mem_nil g28060
        have g28178 := kf _ _ List.not_mem_nil g28061
        have g28179 := kf _ _ List.not_mem_nil g28062
        have g28180 := kf _ _ List.not_mem_nil g28063
        have g28181 := kf _ _ List.not_mem_nil g28064
        have g28182 := kf _ _ List.not_mem_nil g28065
        have g28183 := kf _ _ List.not_mem_nil g28066
        have g28184 := kf _ _ List.not_mem_nil g28067
        have kF28185 : hfr h h28164 [rd, l0, d0, l1, d1, l2, d2] := by
          intro b e nb hb
          have b28186 := ka b e (nm1 (nx nb (by simp))) hb
          have b28187 := kb b e (nm1 (nx nb (by simp))) b28186
          have b28188 := kc b e (nm1 (nx nb (by simp))) b28187
          have m_fq : b ≠ fq := hn_ne b28188 nq
          have b28189 := kf b e List.not_mem_nil b28188
          exact b28189
        exact hx_throw C hnx hlk hq gf (Nat.le_of_ble_eq_true rfl) (Nat.le_of_ble_eq_true rfl) ⟨_, by unfold sp_told; rw [sp_b_r ea, if_neg (fun q => q c28039), sp_b_r eb, if_neg (fun q => q c28053), sp_b_r ec, if_pos c28068], gf, kF28185⟩ dX7_told_71
    · have hlt1 : n1 < 5 := sp_line_lt (b := 5) eb c28053 hn1
      refine ga_aload_n 43 C.c 0 rfl rfl dX7_told_42 rfl ?_
      have kF28190 : hfr h h28042 [rd, l0, d0, l1, d1, l2, d2] := by
        intro b e nb hb
        have b28191 := ka b e (nm1 (nx nb (by simp))) hb
        have b28192 := kb b e (nm1 (nx nb (by simp))) b28191
        exact b28192
      refine hx_callV 46 C hnx hlk hq (as := []) (met_X7_joinLine (eL E) D kk dE A _ rd tp rv n T sb hsb hn l0 l1 l2 l3 lv od sw li d0 d1 n0 n1 f1 m0 m1 hlt1 ntd1 p01 gb g28045 g28046 g28047 g28048 g28051) (fun q hq9 hp9 => by obtain ⟨f, e1, e2, e3⟩ := hp9; exact ⟨f, by unfold sp_told; rw [sp_b_r ea, if_neg (fun q => q c28039), sp_b_r eb, if_pos c28053]; exact sp_b_l e1, e2, kF28190.tr e3 (fun x hx => hx) (fun x hx => Or.inl (by simp at hx ⊢; omega))⟩) gb (T := TX7) rfl (lw_V q891 q893 qs20 q103 q894) cd_X7_joinLine rfl (Nat.le_of_ble_eq_true rfl) (Nat.le_of_ble_eq_true rfl) (Nat.le_of_ble_eq_true rfl) (Nat.le_of_ble_eq_true rfl) (Nat.le_of_ble_eq_true rfl) dX7_told_43 rfl (fun v28194 h28193 p28195 => ?_)
      obtain ⟨rfl, ya, yb, yc, yd, x, s2, e2, hs2, zx, gx, g2, gl, gd, k2⟩ := p28195
      have ne28196 : rd ≠ x := hn_ne gb zx
      have ne28197 : tp ≠ x := hn_ne g28045 zx
      have ne28198 : rv ≠ x := hn_ne g28046 zx
      have ne28199 : l0 ≠ x := hn_ne g28047 zx
      have ne28200 : l1 ≠ x := hn_ne g28048 zx
      have ne28201 : l2 ≠ x := hn_ne g28049 zx
      have ne28202 : d0 ≠ x := hn_ne g28050 zx
      have ne28203 : d1 ≠ x := hn_ne g28051 zx
      have ne28204 : d2 ≠ x := hn_ne g28052 zx
      have g28205 := k2 _ _ (nm3 (Ne.symm ne28001) ne28011 ntd1) g28045
      have g28206 := k2 _ _ (nm3 (Ne.symm ne28002) ne28014 ne28017) g28046
      have g28207 := k2 _ _ (nm3 (Ne.symm ne28003) p01 ne28020) g28047
      have g28208 := k2 _ _ (nm3 (Ne.symm ne28005) (Ne.symm p12) ne28026) g28049
      have g28209 := k2 _ _ (nm3 (Ne.symm ne28006) (Ne.symm ne28022) r01) g28050
      have g28210 := k2 _ _ (nm3 (Ne.symm ne28008) (Ne.symm ne28024) (Ne.symm r12)) g28052
      refine ga_goto 110 C.c dX7_told_46 (by decide) ?_
      have nd28211 : h x = none := by
        cases c9 : h x with
        | none => rfl
        | some e9 =>
          have b28212 := ka x e9 (nm1 (Ne.symm ne28196)) c9
          have b28213 := kb x e9 (nm1 (Ne.symm ne28196)) b28212
          rw [zx] at b28213
          cases b28213
      have kF28214 : hfr h h28193 [rd, l1, d1] := by
        intro b e nb hb
        have b28215 := ka b e (nm1 (nx nb (by simp))) hb
        have b28216 := kb b e (nm1 (nx nb (by simp))) b28215
        have m_x : b ≠ x := hn_ne b28216 zx
        have b28217 := k2 b e (nm3 (nx nb (by simp)) (nx nb (by simp)) (nx nb (by simp))) b28216
        exact b28217
      exact hx_vret C hr hlk hq (Nat.le_of_ble_eq_true rfl) (Nat.le_of_ble_eq_true rfl) ⟨rfl, 1, (ya, yb, yc, yd), x, s2, by unfold sp_told; rw [sp_b_r ea, if_neg (fun q => q c28039), sp_b_r eb, if_pos c28053, sp_b_r e2] <;> rfl, by decide, hs2, nd28211, gx, g2, gl, gd, hlt1, kF28214⟩ dX7_told_110
  · have hlt0 : n0 < 10 := sp_line_lt (b := 10) ea c28039 hn0
    refine ga_aload_n 19 C.c 0 rfl rfl dX7_told_18 rfl ?_
    have kF28218 : hfr h h28028 [rd, l0, d0, l1, d1, l2, d2] := by
      intro b e nb hb
      have b28219 := ka b e (nm1 (nx nb (by simp))) hb
      exact b28219
    refine hx_callV 22 C hnx hlk hq (as := []) (met_X7_reachLine (eL E) D kk dE A _ rd tp rv n T sa hsa hn l0 l1 l2 l3 lv od sw li d0 n0 f0 m0 hlt0 ntd0 ga g28031 g28032 g28033 g28036) (fun q hq9 hp9 => by obtain ⟨f, e1, e2, e3⟩ := hp9; exact ⟨f, by unfold sp_told; rw [sp_b_r ea, if_pos c28039]; exact sp_b_l e1, e2, kF28218.tr e3 (fun x hx => hx) (fun x hx => Or.inl (by simp at hx ⊢; omega))⟩) ga (T := TX7) rfl (lw_V q792 q794 qs16 q103 q795) cd_X7_reachLine rfl (Nat.le_of_ble_eq_true rfl) (Nat.le_of_ble_eq_true rfl) (Nat.le_of_ble_eq_true rfl) (Nat.le_of_ble_eq_true rfl) (Nat.le_of_ble_eq_true rfl) dX7_told_19 rfl (fun v28221 h28220 p28222 => ?_)
    obtain ⟨rfl, ya, yb, yc, x, s2, e2, hs2, zx, gx, g2, gl, gd, k2⟩ := p28222
    have ne28223 : rd ≠ x := hn_ne ga zx
    have ne28224 : tp ≠ x := hn_ne g28031 zx
    have ne28225 : rv ≠ x := hn_ne g28032 zx
    have ne28226 : l0 ≠ x := hn_ne g28033 zx
    have ne28227 : l1 ≠ x := hn_ne g28034 zx
    have ne28228 : l2 ≠ x := hn_ne g28035 zx
    have ne28229 : d0 ≠ x := hn_ne g28036 zx
    have ne28230 : d1 ≠ x := hn_ne g28037 zx
    have ne28231 : d2 ≠ x := hn_ne g28038 zx
    have g28232 := k2 _ _ (nm3 (Ne.symm ne28001) ne28010 ntd0) g28031
    have g28233 := k2 _ _ (nm3 (Ne.symm ne28002) ne28013 ne28016) g28032
    have g28234 := k2 _ _ (nm3 (Ne.symm ne28004) (Ne.symm p01) ne28022) g28034
    have g28235 := k2 _ _ (nm3 (Ne.symm ne28005) (Ne.symm p02) ne28025) g28035
    have g28236 := k2 _ _ (nm3 (Ne.symm ne28007) (Ne.symm ne28020) (Ne.symm r01)) g28037
    have g28237 := k2 _ _ (nm3 (Ne.symm ne28008) (Ne.symm ne28021) (Ne.symm r02)) g28038
    refine ga_goto 110 C.c dX7_told_22 (by decide) ?_
    have nd28238 : h x = none := by
      cases c9 : h x with
      | none => rfl
      | some e9 =>
        have b28239 := ka x e9 (nm1 (Ne.symm ne28223)) c9
        rw [zx] at b28239
        cases b28239
    have kF28240 : hfr h h28220 [rd, l0, d0] := by
      intro b e nb hb
      have b28241 := ka b e (nm1 (nx nb (by simp))) hb
      have m_x : b ≠ x := hn_ne b28241 zx
      have b28242 := k2 b e (nm3 (nx nb (by simp)) (nx nb (by simp)) (nx nb (by simp))) b28241
      exact b28242
    exact hx_vret C hr hlk hq (Nat.le_of_ble_eq_true rfl) (Nat.le_of_ble_eq_true rfl) ⟨rfl, 0, (ya, yb, yc, 0), x, s2, by unfold sp_told; rw [sp_b_r ea, if_pos c28039, sp_b_r e2] <;> rfl, by decide, hs2, nd28238, gx, g2, gl, gd, hlt0, kF28240⟩ dX7_told_110
